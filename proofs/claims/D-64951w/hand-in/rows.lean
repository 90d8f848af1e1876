section
-- ===== PART A: goes FIRST, ahead of the names: the tables' words, and 'selects' of the private methods out of them =====
/-- a private method of a class that the tables say can be made, by its rows of tables_1 -/
def lw_okq (q : MethodName × Nat) : Prop := (q.1.cls ≠ "java/lang/invoke/MethodHandle" ∧ q.1.cls ≠ "java/lang/invoke/VarHandle") ∧ Cond.instantiable q.1.cls q.2 ∈ tables_1 ∧ Cond.privateMethod q.1 ∈ tables_1 ∧ Cond.instanceMethod q.1 ∈ tables_1
set_option maxRecDepth 100000
theorem lw_t1 {w : Cond} (h : w ∈ tables_1_1) : w ∈ tables_1 := List.mem_append_left _ h
theorem lw_t2 {w : Cond} (h : w ∈ tables_1_2) : w ∈ tables_1 := List.mem_append_right _ h
theorem lw_p0 : lw_okq (⟨"KnapsackFamily", "put", "(IIII)V"⟩, 11) := ⟨⟨by decide +kernel, by decide +kernel⟩, lw_t1 (List.mem_of_getElem? (i := 4) rfl), lw_t1 (List.mem_of_getElem? (i := 51) rfl), lw_t1 (List.mem_of_getElem? (i := 52) rfl)⟩
theorem lw_p1 : lw_okq (⟨"KnapsackFamily", "isGood", "(I)Z"⟩, 11) := ⟨⟨by decide +kernel, by decide +kernel⟩, lw_t1 (List.mem_of_getElem? (i := 4) rfl), lw_t1 (List.mem_of_getElem? (i := 63) rfl), lw_t1 (List.mem_of_getElem? (i := 64) rfl)⟩
theorem lw_p2 : lw_okq (⟨"KnapsackFamily", "load", "(I)Z"⟩, 11) := ⟨⟨by decide +kernel, by decide +kernel⟩, lw_t1 (List.mem_of_getElem? (i := 4) rfl), lw_t1 (List.mem_of_getElem? (i := 79) rfl), lw_t1 (List.mem_of_getElem? (i := 80) rfl)⟩
theorem lw_p3 : lw_okq (⟨"KnapsackFamily", "fill", "(I)V"⟩, 11) := ⟨⟨by decide +kernel, by decide +kernel⟩, lw_t1 (List.mem_of_getElem? (i := 4) rfl), lw_t1 (List.mem_of_getElem? (i := 91) rfl), lw_t1 (List.mem_of_getElem? (i := 92) rfl)⟩
theorem lw_p4 : lw_okq (⟨"KnapsackFamily", "fillEntry", "(III)V"⟩, 11) := ⟨⟨by decide +kernel, by decide +kernel⟩, lw_t1 (List.mem_of_getElem? (i := 4) rfl), lw_t1 (List.mem_of_getElem? (i := 96) rfl), lw_t1 (List.mem_of_getElem? (i := 97) rfl)⟩
theorem lw_p5 : lw_okq (⟨"KnapsackFamily", "bestWeight", "()I"⟩, 11) := ⟨⟨by decide +kernel, by decide +kernel⟩, lw_t1 (List.mem_of_getElem? (i := 4) rfl), lw_t1 (List.mem_of_getElem? (i := 100) rfl), lw_t1 (List.mem_of_getElem? (i := 101) rfl)⟩
theorem lw_p6 : lw_okq (⟨"KnapsackFamily", "keeps", "(IIII)Z"⟩, 11) := ⟨⟨by decide +kernel, by decide +kernel⟩, lw_t1 (List.mem_of_getElem? (i := 4) rfl), lw_t1 (List.mem_of_getElem? (i := 108) rfl), lw_t1 (List.mem_of_getElem? (i := 109) rfl)⟩
theorem lw_p7 : lw_okq (⟨"KnapsackFamily", "openAll", "()V"⟩, 11) := ⟨⟨by decide +kernel, by decide +kernel⟩, lw_t1 (List.mem_of_getElem? (i := 4) rfl), lw_t1 (List.mem_of_getElem? (i := 116) rfl), lw_t1 (List.mem_of_getElem? (i := 117) rfl)⟩
theorem lw_p8 : lw_okq (⟨"KnapsackFamily", "fillStrict", "()V"⟩, 11) := ⟨⟨by decide +kernel, by decide +kernel⟩, lw_t1 (List.mem_of_getElem? (i := 4) rfl), lw_t1 (List.mem_of_getElem? (i := 120) rfl), lw_t1 (List.mem_of_getElem? (i := 121) rfl)⟩
theorem lw_p9 : lw_okq (⟨"KnapsackFamily", "strictEntry", "(II)I"⟩, 11) := ⟨⟨by decide +kernel, by decide +kernel⟩, lw_t1 (List.mem_of_getElem? (i := 4) rfl), lw_t1 (List.mem_of_getElem? (i := 124) rfl), lw_t1 (List.mem_of_getElem? (i := 125) rfl)⟩
theorem lw_p10 : lw_okq (⟨"KnapsackFamily", "withGood", "(III)I"⟩, 11) := ⟨⟨by decide +kernel, by decide +kernel⟩, lw_t1 (List.mem_of_getElem? (i := 4) rfl), lw_t1 (List.mem_of_getElem? (i := 128) rfl), lw_t1 (List.mem_of_getElem? (i := 129) rfl)⟩
theorem lw_p11 : lw_okq (⟨"KnapsackFamily", "strictWeight", "()I"⟩, 11) := ⟨⟨by decide +kernel, by decide +kernel⟩, lw_t1 (List.mem_of_getElem? (i := 4) rfl), lw_t1 (List.mem_of_getElem? (i := 132) rfl), lw_t1 (List.mem_of_getElem? (i := 133) rfl)⟩
theorem lw_p12 : lw_okq (⟨"KnapsackFamily", "placePiece", "(II)V"⟩, 11) := ⟨⟨by decide +kernel, by decide +kernel⟩, lw_t1 (List.mem_of_getElem? (i := 4) rfl), lw_t1 (List.mem_of_getElem? (i := 160) rfl), lw_t1 (List.mem_of_getElem? (i := 161) rfl)⟩
theorem lw_p13 : lw_okq (⟨"KnapsackFamilyModel", "put", "(IIII)I"⟩, 9) := ⟨⟨by decide +kernel, by decide +kernel⟩, lw_t1 (List.mem_of_getElem? (i := 172) rfl), lw_t1 (List.mem_of_getElem? (i := 210) rfl), lw_t1 (List.mem_of_getElem? (i := 211) rfl)⟩
theorem lw_p14 : lw_okq (⟨"KnapsackFamilyModel", "bad", "(I)Z"⟩, 9) := ⟨⟨by decide +kernel, by decide +kernel⟩, lw_t1 (List.mem_of_getElem? (i := 172) rfl), lw_t1 (List.mem_of_getElem? (i := 222) rfl), lw_t1 (List.mem_of_getElem? (i := 223) rfl)⟩
theorem lw_p15 : lw_okq (⟨"KnapsackFamilyModel", "choice", "(I)Z"⟩, 9) := ⟨⟨by decide +kernel, by decide +kernel⟩, lw_t1 (List.mem_of_getElem? (i := 172) rfl), lw_t1 (List.mem_of_getElem? (i := 238) rfl), lw_t1 (List.mem_of_getElem? (i := 239) rfl)⟩
def lw_privs_1 : List (MethodName × Nat) := [(⟨"KnapsackFamily", "put", "(IIII)V"⟩, 11), (⟨"KnapsackFamily", "isGood", "(I)Z"⟩, 11), (⟨"KnapsackFamily", "load", "(I)Z"⟩, 11), (⟨"KnapsackFamily", "fill", "(I)V"⟩, 11), (⟨"KnapsackFamily", "fillEntry", "(III)V"⟩, 11), (⟨"KnapsackFamily", "bestWeight", "()I"⟩, 11), (⟨"KnapsackFamily", "keeps", "(IIII)Z"⟩, 11), (⟨"KnapsackFamily", "openAll", "()V"⟩, 11), (⟨"KnapsackFamily", "fillStrict", "()V"⟩, 11), (⟨"KnapsackFamily", "strictEntry", "(II)I"⟩, 11), (⟨"KnapsackFamily", "withGood", "(III)I"⟩, 11), (⟨"KnapsackFamily", "strictWeight", "()I"⟩, 11), (⟨"KnapsackFamily", "placePiece", "(II)V"⟩, 11), (⟨"KnapsackFamilyModel", "put", "(IIII)I"⟩, 9), (⟨"KnapsackFamilyModel", "bad", "(I)Z"⟩, 9), (⟨"KnapsackFamilyModel", "choice", "(I)Z"⟩, 9)]
theorem lw_r1 : ∀ q ∈ lw_privs_1, lw_okq q := List.forall_mem_cons.mpr ⟨lw_p0, List.forall_mem_cons.mpr ⟨lw_p1, List.forall_mem_cons.mpr ⟨lw_p2, List.forall_mem_cons.mpr ⟨lw_p3, List.forall_mem_cons.mpr ⟨lw_p4, List.forall_mem_cons.mpr ⟨lw_p5, List.forall_mem_cons.mpr ⟨lw_p6, List.forall_mem_cons.mpr ⟨lw_p7, List.forall_mem_cons.mpr ⟨lw_p8, List.forall_mem_cons.mpr ⟨lw_p9, List.forall_mem_cons.mpr ⟨lw_p10, List.forall_mem_cons.mpr ⟨lw_p11, List.forall_mem_cons.mpr ⟨lw_p12, List.forall_mem_cons.mpr ⟨lw_p13, List.forall_mem_cons.mpr ⟨lw_p14, List.forall_mem_cons.mpr ⟨lw_p15, fun _ h => absurd h List.not_mem_nil⟩⟩⟩⟩⟩⟩⟩⟩⟩⟩⟩⟩⟩⟩⟩⟩
theorem lw_p16 : lw_okq (⟨"KnapsackFamilyModel", "search", "(ZI)I"⟩, 9) := ⟨⟨by decide +kernel, by decide +kernel⟩, lw_t1 (List.mem_of_getElem? (i := 172) rfl), lw_t2 (List.mem_of_getElem? (i := 10) rfl), lw_t2 (List.mem_of_getElem? (i := 11) rfl)⟩
theorem lw_p17 : lw_okq (⟨"KnapsackFamilyModel", "end", "()I"⟩, 9) := ⟨⟨by decide +kernel, by decide +kernel⟩, lw_t1 (List.mem_of_getElem? (i := 172) rfl), lw_t2 (List.mem_of_getElem? (i := 14) rfl), lw_t2 (List.mem_of_getElem? (i := 15) rfl)⟩
theorem lw_p18 : lw_okq (⟨"KnapsackFamilyModel", "strict", "()Z"⟩, 9) := ⟨⟨by decide +kernel, by decide +kernel⟩, lw_t1 (List.mem_of_getElem? (i := 172) rfl), lw_t2 (List.mem_of_getElem? (i := 18) rfl), lw_t2 (List.mem_of_getElem? (i := 19) rfl)⟩
theorem lw_p19 : lw_okq (⟨"KnapsackFamilyModel", "valueAt", "(I)I"⟩, 9) := ⟨⟨by decide +kernel, by decide +kernel⟩, lw_t1 (List.mem_of_getElem? (i := 172) rfl), lw_t2 (List.mem_of_getElem? (i := 22) rfl), lw_t2 (List.mem_of_getElem? (i := 23) rfl)⟩
theorem lw_p20 : lw_okq (⟨"KnapsackFamilyModel", "having", "(I)I"⟩, 9) := ⟨⟨by decide +kernel, by decide +kernel⟩, lw_t1 (List.mem_of_getElem? (i := 172) rfl), lw_t2 (List.mem_of_getElem? (i := 46) rfl), lw_t2 (List.mem_of_getElem? (i := 47) rfl)⟩
theorem lw_p21 : lw_okq (⟨"KnapsackFamilyModel", "both", "(II)I"⟩, 9) := ⟨⟨by decide +kernel, by decide +kernel⟩, lw_t1 (List.mem_of_getElem? (i := 172) rfl), lw_t2 (List.mem_of_getElem? (i := 62) rfl), lw_t2 (List.mem_of_getElem? (i := 63) rfl)⟩
def lw_privs_2 : List (MethodName × Nat) := [(⟨"KnapsackFamilyModel", "search", "(ZI)I"⟩, 9), (⟨"KnapsackFamilyModel", "end", "()I"⟩, 9), (⟨"KnapsackFamilyModel", "strict", "()Z"⟩, 9), (⟨"KnapsackFamilyModel", "valueAt", "(I)I"⟩, 9), (⟨"KnapsackFamilyModel", "having", "(I)I"⟩, 9), (⟨"KnapsackFamilyModel", "both", "(II)I"⟩, 9)]
theorem lw_r2 : ∀ q ∈ lw_privs_2, lw_okq q := List.forall_mem_cons.mpr ⟨lw_p16, List.forall_mem_cons.mpr ⟨lw_p17, List.forall_mem_cons.mpr ⟨lw_p18, List.forall_mem_cons.mpr ⟨lw_p19, List.forall_mem_cons.mpr ⟨lw_p20, List.forall_mem_cons.mpr ⟨lw_p21, fun _ h => absurd h List.not_mem_nil⟩⟩⟩⟩⟩⟩
def lw_privs : List (MethodName × Nat) := lw_privs_1 ++ (lw_privs_2)
def lw_tbl : List Cond := k2_sels lw_privs ++ tables_1
theorem lw_privs_ok : ∀ q ∈ lw_privs, lw_okq q := by
  show ∀ q ∈ lw_privs_1 ++ (lw_privs_2), lw_okq q
  exact List.forall_mem_append.mpr ⟨lw_r1, lw_r2⟩
-- ===== ONE list of words for every method: the tables' words that hold all through a run =====
def lw_all : List Cond := lw_tbl.filter goodWord
/-- a word of the tables by its place: claim/WORDS.tsv -/
theorem lw_w {w : Cond} (i : Nat) (h : lw_tbl[i]? = some w) (g : goodWord w = true) : w ∈ lw_all := List.mem_filter.mpr ⟨List.mem_of_getElem? h, g⟩
theorem lw_all_tbl {w : Cond} (h : w ∈ lw_all) : w ∈ lw_tbl := (List.mem_filter.mp h).1
theorem lw_self : GoodIn lw_all lw_all := fun w h => ⟨h, good_of_word (List.mem_filter.mp h).2⟩
/-- a class's field words, by their places -/
theorem lw_in (ws : List Cond) (ps : List Nat) (hp : ws = ps.filterMap (fun i => lw_tbl[i]?)) (hg : ws.all goodWord = true) : ∀ w ∈ ws, w ∈ lw_all := by
  intro w h
  have h1 := List.all_eq_true.mp hg w h
  rw [hp] at h
  obtain ⟨i, -, hi⟩ := List.mem_filterMap.mp h
  exact lw_w i hi h1
/-- the words of a contract for the method y with code b, L locals, answer r -/
abbrev ws_ (y : MethodName) (b : ByteArray) (L : Nat) (r : Option FieldType) : List Cond := Cond.code y b L r :: lw_all
theorem lw_meth {y : MethodName} {b : ByteArray} {L : Nat} {r : Option FieldType} (h : Cond.code y b L r ∈ lw_all) : GoodIn lw_all (ws_ y b L r) := by
  intro w hw
  rcases List.mem_cons.mp hw with e | e
  · rw [e]
    exact lw_self _ h
  · exact lw_self _ e
theorem lw_app {a c : List Cond} (ha : ∀ w ∈ a, w ∈ lw_all) (hc : GoodIn lw_all c) : GoodIn lw_all (a ++ c) := by
  intro w hw
  rcases List.mem_append.mp hw with e | e
  · exact lw_self w (ha w e)
  · exact hc w e
/-- what a call through an object asks: cwV n hts (lw_V ..) -/
theorem lw_V {own : String} {idx : Nat} {C : String} {y : MethodName} {b : ByteArray} {L : Nat} {r : Option FieldType} (h1 : Cond.methodLink own idx y ∈ lw_all) (h2 : Cond.instanceMethod y ∈ lw_all) (h3 : Cond.selects C y y ∈ lw_all) (h4 : Cond.initialized C ∈ lw_all) (h5 : Cond.code y b L r ∈ lw_all) : GoodIn lw_all (wsV own idx C y (ws_ y b L r)) := by
  refine lw_app ?_ (lw_meth h5)
  intro w hw
  simp only [List.mem_cons, List.not_mem_nil, or_false] at hw
  rcases hw with e | e | e | e
  · rw [e]; exact h1
  · rw [e]; exact h2
  · rw [e]; exact h3
  · rw [e]; exact h4
/-- what a static call asks: va_cwS n hts (lw_S ..) -/
theorem lw_S {own : String} {idx : Nat} {y : MethodName} {b : ByteArray} {L : Nat} {r : Option FieldType} (h1 : Cond.methodLink own idx y ∈ lw_all) (h2 : Cond.static y ∈ lw_all) (h3 : Cond.initialized y.cls ∈ lw_all) (h4 : Cond.code y b L r ∈ lw_all) : GoodIn lw_all (va_wsS own idx y (ws_ y b L r)) := by
  refine lw_app ?_ (lw_meth h4)
  intro w hw
  simp only [List.mem_cons, List.not_mem_nil, or_false] at hw
  rcases hw with e | e | e
  · rw [e]; exact h1
  · rw [e]; exact h2
  · rw [e]; exact h3
/-- the words of a contract for a method WITH HANDLERS (hh: its table) -/
abbrev wsW_ (y : MethodName) (b : ByteArray) (L : Nat) (r : Option FieldType) (hh : List (Nat × Nat × Nat × Nat)) : List Cond := Cond.codeWith y b L r hh :: lw_all
theorem lw_methW {y : MethodName} {b : ByteArray} {L : Nat} {r : Option FieldType} {hh : List (Nat × Nat × Nat × Nat)} (h : Cond.codeWith y b L r hh ∈ lw_all) : GoodIn lw_all (wsW_ y b L r hh) := by
  intro w hw
  rcases List.mem_cons.mp hw with e | e
  · rw [e]
    exact lw_self _ h
  · exact lw_self _ e
/-- any list of words by their places (lw_in), good -/
theorem lw_good {ws : List Cond} (h : ∀ w ∈ ws, w ∈ lw_all) : GoodIn lw_all ws := fun w hw => lw_self w (h w hw)
/-- what a call of a method with handlers asks: vx_cwVW n hts (lw_VW ..), vx_cwSW n hts (lw_SW ..) -/
theorem lw_VW {own : String} {idx : Nat} {C : String} {y : MethodName} {b : ByteArray} {L : Nat} {r : Option FieldType} {hh : List (Nat × Nat × Nat × Nat)} (h1 : Cond.methodLink own idx y ∈ lw_all) (h2 : Cond.instanceMethod y ∈ lw_all) (h3 : Cond.selects C y y ∈ lw_all) (h4 : Cond.initialized C ∈ lw_all) (h5 : Cond.codeWith y b L r hh ∈ lw_all) : GoodIn lw_all (wsV own idx C y (wsW_ y b L r hh)) := by
  refine lw_app ?_ (lw_methW h5)
  intro w hw
  simp only [List.mem_cons, List.not_mem_nil, or_false] at hw
  rcases hw with e | e | e | e
  · rw [e]; exact h1
  · rw [e]; exact h2
  · rw [e]; exact h3
  · rw [e]; exact h4
theorem lw_SW {own : String} {idx : Nat} {y : MethodName} {b : ByteArray} {L : Nat} {r : Option FieldType} {hh : List (Nat × Nat × Nat × Nat)} (h1 : Cond.methodLink own idx y ∈ lw_all) (h2 : Cond.static y ∈ lw_all) (h3 : Cond.initialized y.cls ∈ lw_all) (h4 : Cond.codeWith y b L r hh ∈ lw_all) : GoodIn lw_all (va_wsS own idx y (wsW_ y b L r hh)) := by
  refine lw_app ?_ (lw_methW h4)
  intro w hw
  simp only [List.mem_cons, List.not_mem_nil, or_false] at hw
  rcases hw with e | e | e
  · rw [e]; exact h1
  · rw [e]; exact h2
  · rw [e]; exact h3
/-- a word by its place in its run of the tables -/
theorem lw_at {r : List Cond} (hr : ∀ w ∈ r, w ∈ lw_tbl) {w : Cond} (i : Nat) (h : r[i]? = some w) : w ∈ lw_tbl := hr w (List.mem_of_getElem? h)
theorem lw_g {w : Cond} (h : w ∈ lw_tbl) (g : goodWord w = true) : w ∈ lw_all := List.mem_filter.mpr ⟨h, g⟩
theorem lw_ms : ∀ w ∈ k2_sels lw_privs, w ∈ lw_tbl := fun w h => show w ∈ k2_sels lw_privs ++ tables_1 from List.mem_append_left _ h
theorem lw_m1 : ∀ w ∈ tables_1_1, w ∈ lw_tbl := fun w h => show w ∈ k2_sels lw_privs ++ tables_1 from List.mem_append_right (k2_sels lw_privs) (show w ∈ tables_1 from List.mem_append_left _ h)
theorem lw_m2 : ∀ w ∈ tables_1_2, w ∈ lw_tbl := fun w h => show w ∈ k2_sels lw_privs ++ tables_1 from List.mem_append_right (k2_sels lw_privs) (show w ∈ tables_1 from List.mem_append_right _ h)
theorem qs0 : (Cond.selects "KnapsackFamily" ⟨"KnapsackFamily", "put", "(IIII)V"⟩ ⟨"KnapsackFamily", "put", "(IIII)V"⟩) ∈ lw_all := lw_g (lw_at lw_ms 0 rfl) rfl
theorem qs1 : (Cond.selects "KnapsackFamily" ⟨"KnapsackFamily", "isGood", "(I)Z"⟩ ⟨"KnapsackFamily", "isGood", "(I)Z"⟩) ∈ lw_all := lw_g (lw_at lw_ms 1 rfl) rfl
theorem qs2 : (Cond.selects "KnapsackFamily" ⟨"KnapsackFamily", "load", "(I)Z"⟩ ⟨"KnapsackFamily", "load", "(I)Z"⟩) ∈ lw_all := lw_g (lw_at lw_ms 2 rfl) rfl
theorem qs3 : (Cond.selects "KnapsackFamily" ⟨"KnapsackFamily", "fill", "(I)V"⟩ ⟨"KnapsackFamily", "fill", "(I)V"⟩) ∈ lw_all := lw_g (lw_at lw_ms 3 rfl) rfl
theorem qs4 : (Cond.selects "KnapsackFamily" ⟨"KnapsackFamily", "fillEntry", "(III)V"⟩ ⟨"KnapsackFamily", "fillEntry", "(III)V"⟩) ∈ lw_all := lw_g (lw_at lw_ms 4 rfl) rfl
theorem qs5 : (Cond.selects "KnapsackFamily" ⟨"KnapsackFamily", "bestWeight", "()I"⟩ ⟨"KnapsackFamily", "bestWeight", "()I"⟩) ∈ lw_all := lw_g (lw_at lw_ms 5 rfl) rfl
theorem qs6 : (Cond.selects "KnapsackFamily" ⟨"KnapsackFamily", "keeps", "(IIII)Z"⟩ ⟨"KnapsackFamily", "keeps", "(IIII)Z"⟩) ∈ lw_all := lw_g (lw_at lw_ms 6 rfl) rfl
theorem qs7 : (Cond.selects "KnapsackFamily" ⟨"KnapsackFamily", "openAll", "()V"⟩ ⟨"KnapsackFamily", "openAll", "()V"⟩) ∈ lw_all := lw_g (lw_at lw_ms 7 rfl) rfl
theorem qs8 : (Cond.selects "KnapsackFamily" ⟨"KnapsackFamily", "fillStrict", "()V"⟩ ⟨"KnapsackFamily", "fillStrict", "()V"⟩) ∈ lw_all := lw_g (lw_at lw_ms 8 rfl) rfl
theorem qs9 : (Cond.selects "KnapsackFamily" ⟨"KnapsackFamily", "strictEntry", "(II)I"⟩ ⟨"KnapsackFamily", "strictEntry", "(II)I"⟩) ∈ lw_all := lw_g (lw_at lw_ms 9 rfl) rfl
theorem qs10 : (Cond.selects "KnapsackFamily" ⟨"KnapsackFamily", "withGood", "(III)I"⟩ ⟨"KnapsackFamily", "withGood", "(III)I"⟩) ∈ lw_all := lw_g (lw_at lw_ms 10 rfl) rfl
theorem qs11 : (Cond.selects "KnapsackFamily" ⟨"KnapsackFamily", "strictWeight", "()I"⟩ ⟨"KnapsackFamily", "strictWeight", "()I"⟩) ∈ lw_all := lw_g (lw_at lw_ms 11 rfl) rfl
theorem qs12 : (Cond.selects "KnapsackFamily" ⟨"KnapsackFamily", "placePiece", "(II)V"⟩ ⟨"KnapsackFamily", "placePiece", "(II)V"⟩) ∈ lw_all := lw_g (lw_at lw_ms 12 rfl) rfl
theorem qs13 : (Cond.selects "KnapsackFamilyModel" ⟨"KnapsackFamilyModel", "put", "(IIII)I"⟩ ⟨"KnapsackFamilyModel", "put", "(IIII)I"⟩) ∈ lw_all := lw_g (lw_at lw_ms 13 rfl) rfl
theorem qs14 : (Cond.selects "KnapsackFamilyModel" ⟨"KnapsackFamilyModel", "bad", "(I)Z"⟩ ⟨"KnapsackFamilyModel", "bad", "(I)Z"⟩) ∈ lw_all := lw_g (lw_at lw_ms 14 rfl) rfl
theorem qs15 : (Cond.selects "KnapsackFamilyModel" ⟨"KnapsackFamilyModel", "choice", "(I)Z"⟩ ⟨"KnapsackFamilyModel", "choice", "(I)Z"⟩) ∈ lw_all := lw_g (lw_at lw_ms 15 rfl) rfl
theorem qs16 : (Cond.selects "KnapsackFamilyModel" ⟨"KnapsackFamilyModel", "search", "(ZI)I"⟩ ⟨"KnapsackFamilyModel", "search", "(ZI)I"⟩) ∈ lw_all := lw_g (lw_at lw_ms 16 rfl) rfl
theorem qs17 : (Cond.selects "KnapsackFamilyModel" ⟨"KnapsackFamilyModel", "end", "()I"⟩ ⟨"KnapsackFamilyModel", "end", "()I"⟩) ∈ lw_all := lw_g (lw_at lw_ms 17 rfl) rfl
theorem qs18 : (Cond.selects "KnapsackFamilyModel" ⟨"KnapsackFamilyModel", "strict", "()Z"⟩ ⟨"KnapsackFamilyModel", "strict", "()Z"⟩) ∈ lw_all := lw_g (lw_at lw_ms 18 rfl) rfl
theorem qs19 : (Cond.selects "KnapsackFamilyModel" ⟨"KnapsackFamilyModel", "valueAt", "(I)I"⟩ ⟨"KnapsackFamilyModel", "valueAt", "(I)I"⟩) ∈ lw_all := lw_g (lw_at lw_ms 19 rfl) rfl
theorem qs20 : (Cond.selects "KnapsackFamilyModel" ⟨"KnapsackFamilyModel", "having", "(I)I"⟩ ⟨"KnapsackFamilyModel", "having", "(I)I"⟩) ∈ lw_all := lw_g (lw_at lw_ms 20 rfl) rfl
theorem qs21 : (Cond.selects "KnapsackFamilyModel" ⟨"KnapsackFamilyModel", "both", "(II)I"⟩ ⟨"KnapsackFamilyModel", "both", "(II)I"⟩) ∈ lw_all := lw_g (lw_at lw_ms 21 rfl) rfl
end
section
set_option maxRecDepth 100000
def RX0 : String := "KnapsackFamily"
def TX0 : u_T := fun k => match k with
  | 0 => ("KnapsackFamily", "weights", "[I", true)
  | 1 => ("KnapsackFamily", "values", "[I", true)
  | 2 => ("KnapsackFamily", "supplies", "[I", true)
  | 3 => ("KnapsackFamily", "families", "[I", true)
  | 4 => ("KnapsackFamily", "table", "[I", true)
  | 5 => ("KnapsackFamily", "ways", "[I", true)
  | 6 => ("KnapsackFamily", "strict", "[I", true)
  | 7 => ("KnapsackFamily", "fixed", "[I", true)
  | 8 => ("KnapsackFamily", "pair", "[I", true)
  | 9 => ("KnapsackFamily", "count", "I", false)
  | _ => ("KnapsackFamily", "limit", "I", false)
def tyX0 : Nat → FieldType := fun k => match k with
  | 0 => .array .int
  | 1 => .array .int
  | 2 => .array .int
  | 3 => .array .int
  | 4 => .array .int
  | 5 => .array .int
  | 6 => .array .int
  | 7 => .array .int
  | 8 => .array .int
  | 9 => .int
  | _ => .int
abbrev wsX00 : List Cond := u_ws RX0 TX0 11
theorem nmX0 : ∀ a, a < 11 → ∀ b, b < 11 → a ≠ b → (TX0 a).2.1 ≠ (TX0 b).2.1 := by decide +kernel
theorem tyX0_ok : ∀ k, k < 11 → parseFieldDescriptor (TX0 k).2.2.1 = some (tyX0 k) := by decide +kernel
abbrev cX0_init : ByteArray := prog_1_method_1_code
def yX0_init : MethodName := ⟨RX0, "<init>", "()V"⟩
theorem dX0_init_0 : decode cX0_init 0 = .ok (.aload_n 0, 1) := by decide +kernel
theorem dX0_init_1 : decode cX0_init 1 = .ok (.invokespecial 1, 3) := by decide +kernel
theorem dX0_init_4 : decode cX0_init 4 = .ok (.aload_n 0, 1) := by decide +kernel
theorem dX0_init_5 : decode cX0_init 5 = .ok (.bipush 7, 2) := by decide +kernel
theorem dX0_init_7 : decode cX0_init 7 = .ok (.newarray .int, 2) := by decide +kernel
theorem dX0_init_9 : decode cX0_init 9 = .ok (.putfield 7, 3) := by decide +kernel
theorem dX0_init_12 : decode cX0_init 12 = .ok (.aload_n 0, 1) := by decide +kernel
theorem dX0_init_13 : decode cX0_init 13 = .ok (.bipush 7, 2) := by decide +kernel
theorem dX0_init_15 : decode cX0_init 15 = .ok (.newarray .int, 2) := by decide +kernel
theorem dX0_init_17 : decode cX0_init 17 = .ok (.putfield 13, 3) := by decide +kernel
theorem dX0_init_20 : decode cX0_init 20 = .ok (.aload_n 0, 1) := by decide +kernel
theorem dX0_init_21 : decode cX0_init 21 = .ok (.bipush 7, 2) := by decide +kernel
theorem dX0_init_23 : decode cX0_init 23 = .ok (.newarray .int, 2) := by decide +kernel
theorem dX0_init_25 : decode cX0_init 25 = .ok (.putfield 16, 3) := by decide +kernel
theorem dX0_init_28 : decode cX0_init 28 = .ok (.aload_n 0, 1) := by decide +kernel
theorem dX0_init_29 : decode cX0_init 29 = .ok (.bipush 7, 2) := by decide +kernel
theorem dX0_init_31 : decode cX0_init 31 = .ok (.newarray .int, 2) := by decide +kernel
theorem dX0_init_33 : decode cX0_init 33 = .ok (.putfield 19, 3) := by decide +kernel
theorem dX0_init_36 : decode cX0_init 36 = .ok (.aload_n 0, 1) := by decide +kernel
theorem dX0_init_37 : decode cX0_init 37 = .ok (.sipush 2248, 3) := by decide +kernel
theorem dX0_init_40 : decode cX0_init 40 = .ok (.newarray .int, 2) := by decide +kernel
theorem dX0_init_42 : decode cX0_init 42 = .ok (.putfield 22, 3) := by decide +kernel
theorem dX0_init_45 : decode cX0_init 45 = .ok (.aload_n 0, 1) := by decide +kernel
theorem dX0_init_46 : decode cX0_init 46 = .ok (.sipush 2248, 3) := by decide +kernel
theorem dX0_init_49 : decode cX0_init 49 = .ok (.newarray .int, 2) := by decide +kernel
theorem dX0_init_51 : decode cX0_init 51 = .ok (.putfield 25, 3) := by decide +kernel
theorem dX0_init_54 : decode cX0_init 54 = .ok (.aload_n 0, 1) := by decide +kernel
theorem dX0_init_55 : decode cX0_init 55 = .ok (.sipush 1405, 3) := by decide +kernel
theorem dX0_init_58 : decode cX0_init 58 = .ok (.newarray .int, 2) := by decide +kernel
theorem dX0_init_60 : decode cX0_init 60 = .ok (.putfield 28, 3) := by decide +kernel
theorem dX0_init_63 : decode cX0_init 63 = .ok (.aload_n 0, 1) := by decide +kernel
theorem dX0_init_64 : decode cX0_init 64 = .ok (.bipush 7, 2) := by decide +kernel
theorem dX0_init_66 : decode cX0_init 66 = .ok (.newarray .int, 2) := by decide +kernel
theorem dX0_init_68 : decode cX0_init 68 = .ok (.putfield 31, 3) := by decide +kernel
theorem dX0_init_71 : decode cX0_init 71 = .ok (.aload_n 0, 1) := by decide +kernel
theorem dX0_init_72 : decode cX0_init 72 = .ok (.sipush 3721, 3) := by decide +kernel
theorem dX0_init_75 : decode cX0_init 75 = .ok (.newarray .int, 2) := by decide +kernel
theorem dX0_init_77 : decode cX0_init 77 = .ok (.putfield 34, 3) := by decide +kernel
theorem dX0_init_80 : decode cX0_init 80 = .ok (.aload_n 0, 1) := by decide +kernel
theorem dX0_init_81 : decode cX0_init 81 = .ok (.bipush 20, 2) := by decide +kernel
theorem dX0_init_83 : decode cX0_init 83 = .ok (.putfield 37, 3) := by decide +kernel
theorem dX0_init_86 : decode cX0_init 86 = .ok (.return_, 1) := by decide +kernel
abbrev cX0_add : ByteArray := prog_1_method_2_code
def yX0_add : MethodName := ⟨RX0, "add", "(III)I"⟩
theorem dX0_add_0 : decode cX0_add 0 = .ok (.iload_n 1, 1) := by decide +kernel
theorem dX0_add_1 : decode cX0_add 1 = .ok (.iconst 1, 1) := by decide +kernel
theorem dX0_add_2 : decode cX0_add 2 = .ok (.if_icmp .lt 9, 3) := by decide +kernel
theorem dX0_add_5 : decode cX0_add 5 = .ok (.iload_n 1, 1) := by decide +kernel
theorem dX0_add_6 : decode cX0_add 6 = .ok (.bipush 20, 2) := by decide +kernel
theorem dX0_add_8 : decode cX0_add 8 = .ok (.if_icmp .le 5, 3) := by decide +kernel
theorem dX0_add_11 : decode cX0_add 11 = .ok (.iconst (-1), 1) := by decide +kernel
theorem dX0_add_12 : decode cX0_add 12 = .ok (.ireturn, 1) := by decide +kernel
theorem dX0_add_13 : decode cX0_add 13 = .ok (.iload_n 2, 1) := by decide +kernel
theorem dX0_add_14 : decode cX0_add 14 = .ok (.ifCond .lt 9, 3) := by decide +kernel
theorem dX0_add_17 : decode cX0_add 17 = .ok (.iload_n 2, 1) := by decide +kernel
theorem dX0_add_18 : decode cX0_add 18 = .ok (.bipush 50, 2) := by decide +kernel
theorem dX0_add_20 : decode cX0_add 20 = .ok (.if_icmp .le 6, 3) := by decide +kernel
theorem dX0_add_23 : decode cX0_add 23 = .ok (.bipush (-2), 2) := by decide +kernel
theorem dX0_add_25 : decode cX0_add 25 = .ok (.ireturn, 1) := by decide +kernel
theorem dX0_add_26 : decode cX0_add 26 = .ok (.iload_n 3, 1) := by decide +kernel
theorem dX0_add_27 : decode cX0_add 27 = .ok (.iconst 4, 1) := by decide +kernel
theorem dX0_add_28 : decode cX0_add 28 = .ok (.if_icmp .lt 9, 3) := by decide +kernel
theorem dX0_add_31 : decode cX0_add 31 = .ok (.iload_n 3, 1) := by decide +kernel
theorem dX0_add_32 : decode cX0_add 32 = .ok (.bipush 11, 2) := by decide +kernel
theorem dX0_add_34 : decode cX0_add 34 = .ok (.if_icmp .le 6, 3) := by decide +kernel
theorem dX0_add_37 : decode cX0_add 37 = .ok (.bipush (-3), 2) := by decide +kernel
theorem dX0_add_39 : decode cX0_add 39 = .ok (.ireturn, 1) := by decide +kernel
theorem dX0_add_40 : decode cX0_add 40 = .ok (.aload_n 0, 1) := by decide +kernel
theorem dX0_add_41 : decode cX0_add 41 = .ok (.getfield 41, 3) := by decide +kernel
theorem dX0_add_44 : decode cX0_add 44 = .ok (.bipush 7, 2) := by decide +kernel
theorem dX0_add_46 : decode cX0_add 46 = .ok (.if_icmp .ne 6, 3) := by decide +kernel
theorem dX0_add_49 : decode cX0_add 49 = .ok (.bipush (-4), 2) := by decide +kernel
theorem dX0_add_51 : decode cX0_add 51 = .ok (.ireturn, 1) := by decide +kernel
theorem dX0_add_52 : decode cX0_add 52 = .ok (.aload_n 0, 1) := by decide +kernel
theorem dX0_add_53 : decode cX0_add 53 = .ok (.iload_n 1, 1) := by decide +kernel
theorem dX0_add_54 : decode cX0_add 54 = .ok (.iload_n 2, 1) := by decide +kernel
theorem dX0_add_55 : decode cX0_add 55 = .ok (.iload_n 3, 1) := by decide +kernel
theorem dX0_add_56 : decode cX0_add 56 = .ok (.iconst 2, 1) := by decide +kernel
theorem dX0_add_57 : decode cX0_add 57 = .ok (.ishr, 1) := by decide +kernel
theorem dX0_add_58 : decode cX0_add 58 = .ok (.iload_n 3, 1) := by decide +kernel
theorem dX0_add_59 : decode cX0_add 59 = .ok (.iconst 3, 1) := by decide +kernel
theorem dX0_add_60 : decode cX0_add 60 = .ok (.iand, 1) := by decide +kernel
theorem dX0_add_61 : decode cX0_add 61 = .ok (.invokevirtual 44, 3) := by decide +kernel
theorem dX0_add_64 : decode cX0_add 64 = .ok (.aload_n 0, 1) := by decide +kernel
theorem dX0_add_65 : decode cX0_add 65 = .ok (.getfield 41, 3) := by decide +kernel
theorem dX0_add_68 : decode cX0_add 68 = .ok (.iconst 1, 1) := by decide +kernel
theorem dX0_add_69 : decode cX0_add 69 = .ok (.isub, 1) := by decide +kernel
theorem dX0_add_70 : decode cX0_add 70 = .ok (.ireturn, 1) := by decide +kernel
abbrev cX0_put : ByteArray := prog_1_method_21_code
def yX0_put : MethodName := ⟨RX0, "put", "(IIII)V"⟩
theorem dX0_put_0 : decode cX0_put 0 = .ok (.aload_n 0, 1) := by decide +kernel
theorem dX0_put_1 : decode cX0_put 1 = .ok (.getfield 7, 3) := by decide +kernel
theorem dX0_put_4 : decode cX0_put 4 = .ok (.aload_n 0, 1) := by decide +kernel
theorem dX0_put_5 : decode cX0_put 5 = .ok (.getfield 41, 3) := by decide +kernel
theorem dX0_put_8 : decode cX0_put 8 = .ok (.iload_n 1, 1) := by decide +kernel
theorem dX0_put_9 : decode cX0_put 9 = .ok (.iastore, 1) := by decide +kernel
theorem dX0_put_10 : decode cX0_put 10 = .ok (.aload_n 0, 1) := by decide +kernel
theorem dX0_put_11 : decode cX0_put 11 = .ok (.getfield 13, 3) := by decide +kernel
theorem dX0_put_14 : decode cX0_put 14 = .ok (.aload_n 0, 1) := by decide +kernel
theorem dX0_put_15 : decode cX0_put 15 = .ok (.getfield 41, 3) := by decide +kernel
theorem dX0_put_18 : decode cX0_put 18 = .ok (.iload_n 2, 1) := by decide +kernel
theorem dX0_put_19 : decode cX0_put 19 = .ok (.iastore, 1) := by decide +kernel
theorem dX0_put_20 : decode cX0_put 20 = .ok (.aload_n 0, 1) := by decide +kernel
theorem dX0_put_21 : decode cX0_put 21 = .ok (.getfield 16, 3) := by decide +kernel
theorem dX0_put_24 : decode cX0_put 24 = .ok (.aload_n 0, 1) := by decide +kernel
theorem dX0_put_25 : decode cX0_put 25 = .ok (.getfield 41, 3) := by decide +kernel
theorem dX0_put_28 : decode cX0_put 28 = .ok (.iload_n 3, 1) := by decide +kernel
theorem dX0_put_29 : decode cX0_put 29 = .ok (.iastore, 1) := by decide +kernel
theorem dX0_put_30 : decode cX0_put 30 = .ok (.aload_n 0, 1) := by decide +kernel
theorem dX0_put_31 : decode cX0_put 31 = .ok (.getfield 19, 3) := by decide +kernel
theorem dX0_put_34 : decode cX0_put 34 = .ok (.aload_n 0, 1) := by decide +kernel
theorem dX0_put_35 : decode cX0_put 35 = .ok (.getfield 41, 3) := by decide +kernel
theorem dX0_put_38 : decode cX0_put 38 = .ok (.iload 4, 2) := by decide +kernel
theorem dX0_put_40 : decode cX0_put 40 = .ok (.iastore, 1) := by decide +kernel
theorem dX0_put_41 : decode cX0_put 41 = .ok (.aload_n 0, 1) := by decide +kernel
theorem dX0_put_42 : decode cX0_put 42 = .ok (.dup, 1) := by decide +kernel
theorem dX0_put_43 : decode cX0_put 43 = .ok (.getfield 41, 3) := by decide +kernel
theorem dX0_put_46 : decode cX0_put 46 = .ok (.iconst 1, 1) := by decide +kernel
theorem dX0_put_47 : decode cX0_put 47 = .ok (.iadd, 1) := by decide +kernel
theorem dX0_put_48 : decode cX0_put 48 = .ok (.putfield 41, 3) := by decide +kernel
theorem dX0_put_51 : decode cX0_put 51 = .ok (.return_, 1) := by decide +kernel
abbrev cX0_sow : ByteArray := prog_1_method_3_code
def yX0_sow : MethodName := ⟨RX0, "sow", "(II)I"⟩
theorem dX0_sow_0 : decode cX0_sow 0 = .ok (.iload_n 1, 1) := by decide +kernel
theorem dX0_sow_1 : decode cX0_sow 1 = .ok (.ifCond .lt 9, 3) := by decide +kernel
theorem dX0_sow_4 : decode cX0_sow 4 = .ok (.iload_n 1, 1) := by decide +kernel
theorem dX0_sow_5 : decode cX0_sow 5 = .ok (.bipush 100, 2) := by decide +kernel
theorem dX0_sow_7 : decode cX0_sow 7 = .ok (.if_icmp .le 5, 3) := by decide +kernel
theorem dX0_sow_10 : decode cX0_sow 10 = .ok (.iconst (-1), 1) := by decide +kernel
theorem dX0_sow_11 : decode cX0_sow 11 = .ok (.ireturn, 1) := by decide +kernel
theorem dX0_sow_12 : decode cX0_sow 12 = .ok (.iload_n 2, 1) := by decide +kernel
theorem dX0_sow_13 : decode cX0_sow 13 = .ok (.iconst 1, 1) := by decide +kernel
theorem dX0_sow_14 : decode cX0_sow 14 = .ok (.if_icmp .lt 9, 3) := by decide +kernel
theorem dX0_sow_17 : decode cX0_sow 17 = .ok (.iload_n 2, 1) := by decide +kernel
theorem dX0_sow_18 : decode cX0_sow 18 = .ok (.bipush 7, 2) := by decide +kernel
theorem dX0_sow_20 : decode cX0_sow 20 = .ok (.if_icmp .le 6, 3) := by decide +kernel
theorem dX0_sow_23 : decode cX0_sow 23 = .ok (.bipush (-2), 2) := by decide +kernel
theorem dX0_sow_25 : decode cX0_sow 25 = .ok (.ireturn, 1) := by decide +kernel
theorem dX0_sow_26 : decode cX0_sow 26 = .ok (.iconst 0, 1) := by decide +kernel
theorem dX0_sow_27 : decode cX0_sow 27 = .ok (.istore_n 3, 1) := by decide +kernel
theorem dX0_sow_28 : decode cX0_sow 28 = .ok (.iload_n 3, 1) := by decide +kernel
theorem dX0_sow_29 : decode cX0_sow 29 = .ok (.iload_n 2, 1) := by decide +kernel
theorem dX0_sow_30 : decode cX0_sow 30 = .ok (.if_icmp .ge 67, 3) := by decide +kernel
theorem dX0_sow_33 : decode cX0_sow 33 = .ok (.aload_n 0, 1) := by decide +kernel
theorem dX0_sow_34 : decode cX0_sow 34 = .ok (.getfield 41, 3) := by decide +kernel
theorem dX0_sow_37 : decode cX0_sow 37 = .ok (.bipush 7, 2) := by decide +kernel
theorem dX0_sow_39 : decode cX0_sow 39 = .ok (.if_icmp .ge 58, 3) := by decide +kernel
theorem dX0_sow_42 : decode cX0_sow 42 = .ok (.iconst 1, 1) := by decide +kernel
theorem dX0_sow_43 : decode cX0_sow 43 = .ok (.iload_n 1, 1) := by decide +kernel
theorem dX0_sow_44 : decode cX0_sow 44 = .ok (.iconst 5, 1) := by decide +kernel
theorem dX0_sow_45 : decode cX0_sow 45 = .ok (.iload_n 3, 1) := by decide +kernel
theorem dX0_sow_46 : decode cX0_sow 46 = .ok (.imul, 1) := by decide +kernel
theorem dX0_sow_47 : decode cX0_sow 47 = .ok (.iadd, 1) := by decide +kernel
theorem dX0_sow_48 : decode cX0_sow 48 = .ok (.bipush 20, 2) := by decide +kernel
theorem dX0_sow_50 : decode cX0_sow 50 = .ok (.irem, 1) := by decide +kernel
theorem dX0_sow_51 : decode cX0_sow 51 = .ok (.iadd, 1) := by decide +kernel
theorem dX0_sow_52 : decode cX0_sow 52 = .ok (.istore 4, 2) := by decide +kernel
theorem dX0_sow_54 : decode cX0_sow 54 = .ok (.iload_n 1, 1) := by decide +kernel
theorem dX0_sow_55 : decode cX0_sow 55 = .ok (.iconst 3, 1) := by decide +kernel
theorem dX0_sow_56 : decode cX0_sow 56 = .ok (.imul, 1) := by decide +kernel
theorem dX0_sow_57 : decode cX0_sow 57 = .ok (.bipush 7, 2) := by decide +kernel
theorem dX0_sow_59 : decode cX0_sow 59 = .ok (.iload_n 3, 1) := by decide +kernel
theorem dX0_sow_60 : decode cX0_sow 60 = .ok (.imul, 1) := by decide +kernel
theorem dX0_sow_61 : decode cX0_sow 61 = .ok (.iload_n 3, 1) := by decide +kernel
theorem dX0_sow_62 : decode cX0_sow 62 = .ok (.imul, 1) := by decide +kernel
theorem dX0_sow_63 : decode cX0_sow 63 = .ok (.iadd, 1) := by decide +kernel
theorem dX0_sow_64 : decode cX0_sow 64 = .ok (.bipush 51, 2) := by decide +kernel
theorem dX0_sow_66 : decode cX0_sow 66 = .ok (.irem, 1) := by decide +kernel
theorem dX0_sow_67 : decode cX0_sow 67 = .ok (.istore 5, 2) := by decide +kernel
theorem dX0_sow_69 : decode cX0_sow 69 = .ok (.aload_n 0, 1) := by decide +kernel
theorem dX0_sow_70 : decode cX0_sow 70 = .ok (.iload 4, 2) := by decide +kernel
theorem dX0_sow_72 : decode cX0_sow 72 = .ok (.iload 5, 2) := by decide +kernel
theorem dX0_sow_74 : decode cX0_sow 74 = .ok (.iconst 1, 1) := by decide +kernel
theorem dX0_sow_75 : decode cX0_sow 75 = .ok (.iload_n 1, 1) := by decide +kernel
theorem dX0_sow_76 : decode cX0_sow 76 = .ok (.iload_n 3, 1) := by decide +kernel
theorem dX0_sow_77 : decode cX0_sow 77 = .ok (.iadd, 1) := by decide +kernel
theorem dX0_sow_78 : decode cX0_sow 78 = .ok (.iconst 2, 1) := by decide +kernel
theorem dX0_sow_79 : decode cX0_sow 79 = .ok (.irem, 1) := by decide +kernel
theorem dX0_sow_80 : decode cX0_sow 80 = .ok (.iadd, 1) := by decide +kernel
theorem dX0_sow_81 : decode cX0_sow 81 = .ok (.iload_n 1, 1) := by decide +kernel
theorem dX0_sow_82 : decode cX0_sow 82 = .ok (.iload_n 3, 1) := by decide +kernel
theorem dX0_sow_83 : decode cX0_sow 83 = .ok (.iload_n 3, 1) := by decide +kernel
theorem dX0_sow_84 : decode cX0_sow 84 = .ok (.imul, 1) := by decide +kernel
theorem dX0_sow_85 : decode cX0_sow 85 = .ok (.iadd, 1) := by decide +kernel
theorem dX0_sow_86 : decode cX0_sow 86 = .ok (.iconst 4, 1) := by decide +kernel
theorem dX0_sow_87 : decode cX0_sow 87 = .ok (.irem, 1) := by decide +kernel
theorem dX0_sow_88 : decode cX0_sow 88 = .ok (.invokevirtual 44, 3) := by decide +kernel
theorem dX0_sow_91 : decode cX0_sow 91 = .ok (.iinc 3 1, 3) := by decide +kernel
theorem dX0_sow_94 : decode cX0_sow 94 = .ok (.goto (-66), 3) := by decide +kernel
theorem dX0_sow_97 : decode cX0_sow 97 = .ok (.aload_n 0, 1) := by decide +kernel
theorem dX0_sow_98 : decode cX0_sow 98 = .ok (.getfield 41, 3) := by decide +kernel
theorem dX0_sow_101 : decode cX0_sow 101 = .ok (.ireturn, 1) := by decide +kernel
abbrev cX0_drop : ByteArray := prog_1_method_4_code
def yX0_drop : MethodName := ⟨RX0, "drop", "(I)I"⟩
theorem dX0_drop_0 : decode cX0_drop 0 = .ok (.aload_n 0, 1) := by decide +kernel
theorem dX0_drop_1 : decode cX0_drop 1 = .ok (.iload_n 1, 1) := by decide +kernel
theorem dX0_drop_2 : decode cX0_drop 2 = .ok (.invokevirtual 48, 3) := by decide +kernel
theorem dX0_drop_5 : decode cX0_drop 5 = .ok (.ifCond .ne 5, 3) := by decide +kernel
theorem dX0_drop_8 : decode cX0_drop 8 = .ok (.iconst (-1), 1) := by decide +kernel
theorem dX0_drop_9 : decode cX0_drop 9 = .ok (.ireturn, 1) := by decide +kernel
theorem dX0_drop_10 : decode cX0_drop 10 = .ok (.iload_n 1, 1) := by decide +kernel
theorem dX0_drop_11 : decode cX0_drop 11 = .ok (.iconst 1, 1) := by decide +kernel
theorem dX0_drop_12 : decode cX0_drop 12 = .ok (.iadd, 1) := by decide +kernel
theorem dX0_drop_13 : decode cX0_drop 13 = .ok (.istore_n 2, 1) := by decide +kernel
theorem dX0_drop_14 : decode cX0_drop 14 = .ok (.iload_n 2, 1) := by decide +kernel
theorem dX0_drop_15 : decode cX0_drop 15 = .ok (.aload_n 0, 1) := by decide +kernel
theorem dX0_drop_16 : decode cX0_drop 16 = .ok (.getfield 41, 3) := by decide +kernel
theorem dX0_drop_19 : decode cX0_drop 19 = .ok (.if_icmp .ge 65, 3) := by decide +kernel
theorem dX0_drop_22 : decode cX0_drop 22 = .ok (.aload_n 0, 1) := by decide +kernel
theorem dX0_drop_23 : decode cX0_drop 23 = .ok (.getfield 7, 3) := by decide +kernel
theorem dX0_drop_26 : decode cX0_drop 26 = .ok (.iload_n 2, 1) := by decide +kernel
theorem dX0_drop_27 : decode cX0_drop 27 = .ok (.iconst 1, 1) := by decide +kernel
theorem dX0_drop_28 : decode cX0_drop 28 = .ok (.isub, 1) := by decide +kernel
theorem dX0_drop_29 : decode cX0_drop 29 = .ok (.aload_n 0, 1) := by decide +kernel
theorem dX0_drop_30 : decode cX0_drop 30 = .ok (.getfield 7, 3) := by decide +kernel
theorem dX0_drop_33 : decode cX0_drop 33 = .ok (.iload_n 2, 1) := by decide +kernel
theorem dX0_drop_34 : decode cX0_drop 34 = .ok (.iaload, 1) := by decide +kernel
theorem dX0_drop_35 : decode cX0_drop 35 = .ok (.iastore, 1) := by decide +kernel
theorem dX0_drop_36 : decode cX0_drop 36 = .ok (.aload_n 0, 1) := by decide +kernel
theorem dX0_drop_37 : decode cX0_drop 37 = .ok (.getfield 13, 3) := by decide +kernel
theorem dX0_drop_40 : decode cX0_drop 40 = .ok (.iload_n 2, 1) := by decide +kernel
theorem dX0_drop_41 : decode cX0_drop 41 = .ok (.iconst 1, 1) := by decide +kernel
theorem dX0_drop_42 : decode cX0_drop 42 = .ok (.isub, 1) := by decide +kernel
theorem dX0_drop_43 : decode cX0_drop 43 = .ok (.aload_n 0, 1) := by decide +kernel
theorem dX0_drop_44 : decode cX0_drop 44 = .ok (.getfield 13, 3) := by decide +kernel
theorem dX0_drop_47 : decode cX0_drop 47 = .ok (.iload_n 2, 1) := by decide +kernel
theorem dX0_drop_48 : decode cX0_drop 48 = .ok (.iaload, 1) := by decide +kernel
theorem dX0_drop_49 : decode cX0_drop 49 = .ok (.iastore, 1) := by decide +kernel
theorem dX0_drop_50 : decode cX0_drop 50 = .ok (.aload_n 0, 1) := by decide +kernel
theorem dX0_drop_51 : decode cX0_drop 51 = .ok (.getfield 16, 3) := by decide +kernel
theorem dX0_drop_54 : decode cX0_drop 54 = .ok (.iload_n 2, 1) := by decide +kernel
theorem dX0_drop_55 : decode cX0_drop 55 = .ok (.iconst 1, 1) := by decide +kernel
theorem dX0_drop_56 : decode cX0_drop 56 = .ok (.isub, 1) := by decide +kernel
theorem dX0_drop_57 : decode cX0_drop 57 = .ok (.aload_n 0, 1) := by decide +kernel
theorem dX0_drop_58 : decode cX0_drop 58 = .ok (.getfield 16, 3) := by decide +kernel
theorem dX0_drop_61 : decode cX0_drop 61 = .ok (.iload_n 2, 1) := by decide +kernel
theorem dX0_drop_62 : decode cX0_drop 62 = .ok (.iaload, 1) := by decide +kernel
theorem dX0_drop_63 : decode cX0_drop 63 = .ok (.iastore, 1) := by decide +kernel
theorem dX0_drop_64 : decode cX0_drop 64 = .ok (.aload_n 0, 1) := by decide +kernel
theorem dX0_drop_65 : decode cX0_drop 65 = .ok (.getfield 19, 3) := by decide +kernel
theorem dX0_drop_68 : decode cX0_drop 68 = .ok (.iload_n 2, 1) := by decide +kernel
theorem dX0_drop_69 : decode cX0_drop 69 = .ok (.iconst 1, 1) := by decide +kernel
theorem dX0_drop_70 : decode cX0_drop 70 = .ok (.isub, 1) := by decide +kernel
theorem dX0_drop_71 : decode cX0_drop 71 = .ok (.aload_n 0, 1) := by decide +kernel
theorem dX0_drop_72 : decode cX0_drop 72 = .ok (.getfield 19, 3) := by decide +kernel
theorem dX0_drop_75 : decode cX0_drop 75 = .ok (.iload_n 2, 1) := by decide +kernel
theorem dX0_drop_76 : decode cX0_drop 76 = .ok (.iaload, 1) := by decide +kernel
theorem dX0_drop_77 : decode cX0_drop 77 = .ok (.iastore, 1) := by decide +kernel
theorem dX0_drop_78 : decode cX0_drop 78 = .ok (.iinc 2 1, 3) := by decide +kernel
theorem dX0_drop_81 : decode cX0_drop 81 = .ok (.goto (-67), 3) := by decide +kernel
theorem dX0_drop_84 : decode cX0_drop 84 = .ok (.aload_n 0, 1) := by decide +kernel
theorem dX0_drop_85 : decode cX0_drop 85 = .ok (.dup, 1) := by decide +kernel
theorem dX0_drop_86 : decode cX0_drop 86 = .ok (.getfield 41, 3) := by decide +kernel
theorem dX0_drop_89 : decode cX0_drop 89 = .ok (.iconst 1, 1) := by decide +kernel
theorem dX0_drop_90 : decode cX0_drop 90 = .ok (.isub, 1) := by decide +kernel
theorem dX0_drop_91 : decode cX0_drop 91 = .ok (.putfield 41, 3) := by decide +kernel
theorem dX0_drop_94 : decode cX0_drop 94 = .ok (.aload_n 0, 1) := by decide +kernel
theorem dX0_drop_95 : decode cX0_drop 95 = .ok (.getfield 41, 3) := by decide +kernel
theorem dX0_drop_98 : decode cX0_drop 98 = .ok (.ireturn, 1) := by decide +kernel
abbrev cX0_isGood : ByteArray := prog_1_method_20_code
def yX0_isGood : MethodName := ⟨RX0, "isGood", "(I)Z"⟩
theorem dX0_isGood_0 : decode cX0_isGood 0 = .ok (.iload_n 1, 1) := by decide +kernel
theorem dX0_isGood_1 : decode cX0_isGood 1 = .ok (.ifCond .lt 15, 3) := by decide +kernel
theorem dX0_isGood_4 : decode cX0_isGood 4 = .ok (.iload_n 1, 1) := by decide +kernel
theorem dX0_isGood_5 : decode cX0_isGood 5 = .ok (.aload_n 0, 1) := by decide +kernel
theorem dX0_isGood_6 : decode cX0_isGood 6 = .ok (.getfield 41, 3) := by decide +kernel
theorem dX0_isGood_9 : decode cX0_isGood 9 = .ok (.if_icmp .ge 7, 3) := by decide +kernel
theorem dX0_isGood_12 : decode cX0_isGood 12 = .ok (.iconst 1, 1) := by decide +kernel
theorem dX0_isGood_13 : decode cX0_isGood 13 = .ok (.goto 4, 3) := by decide +kernel
theorem dX0_isGood_16 : decode cX0_isGood 16 = .ok (.iconst 0, 1) := by decide +kernel
theorem dX0_isGood_17 : decode cX0_isGood 17 = .ok (.ireturn, 1) := by decide +kernel
end
section
set_option maxRecDepth 100000
abbrev cX0_limit : ByteArray := prog_1_method_5_code
def yX0_limit : MethodName := ⟨RX0, "limit", "(I)I"⟩
theorem dX0_limit_0 : decode cX0_limit 0 = .ok (.iload_n 1, 1) := by decide +kernel
theorem dX0_limit_1 : decode cX0_limit 1 = .ok (.ifCond .lt 9, 3) := by decide +kernel
theorem dX0_limit_4 : decode cX0_limit 4 = .ok (.iload_n 1, 1) := by decide +kernel
theorem dX0_limit_5 : decode cX0_limit 5 = .ok (.bipush 60, 2) := by decide +kernel
theorem dX0_limit_7 : decode cX0_limit 7 = .ok (.if_icmp .le 5, 3) := by decide +kernel
theorem dX0_limit_10 : decode cX0_limit 10 = .ok (.iconst (-1), 1) := by decide +kernel
theorem dX0_limit_11 : decode cX0_limit 11 = .ok (.ireturn, 1) := by decide +kernel
theorem dX0_limit_12 : decode cX0_limit 12 = .ok (.aload_n 0, 1) := by decide +kernel
theorem dX0_limit_13 : decode cX0_limit 13 = .ok (.getfield 37, 3) := by decide +kernel
theorem dX0_limit_16 : decode cX0_limit 16 = .ok (.istore_n 2, 1) := by decide +kernel
theorem dX0_limit_17 : decode cX0_limit 17 = .ok (.aload_n 0, 1) := by decide +kernel
theorem dX0_limit_18 : decode cX0_limit 18 = .ok (.iload_n 1, 1) := by decide +kernel
theorem dX0_limit_19 : decode cX0_limit 19 = .ok (.putfield 37, 3) := by decide +kernel
theorem dX0_limit_22 : decode cX0_limit 22 = .ok (.iload_n 2, 1) := by decide +kernel
theorem dX0_limit_23 : decode cX0_limit 23 = .ok (.ireturn, 1) := by decide +kernel
abbrev cX0_goods : ByteArray := prog_1_method_6_code
def yX0_goods : MethodName := ⟨RX0, "goods", "()I"⟩
theorem dX0_goods_0 : decode cX0_goods 0 = .ok (.aload_n 0, 1) := by decide +kernel
theorem dX0_goods_1 : decode cX0_goods 1 = .ok (.getfield 41, 3) := by decide +kernel
theorem dX0_goods_4 : decode cX0_goods 4 = .ok (.ireturn, 1) := by decide +kernel
abbrev cX0_weightOf : ByteArray := prog_1_method_7_code
def yX0_weightOf : MethodName := ⟨RX0, "weightOf", "(I)I"⟩
theorem dX0_weightOf_0 : decode cX0_weightOf 0 = .ok (.aload_n 0, 1) := by decide +kernel
theorem dX0_weightOf_1 : decode cX0_weightOf 1 = .ok (.iload_n 1, 1) := by decide +kernel
theorem dX0_weightOf_2 : decode cX0_weightOf 2 = .ok (.invokevirtual 52, 3) := by decide +kernel
theorem dX0_weightOf_5 : decode cX0_weightOf 5 = .ok (.ifCond .ne 5, 3) := by decide +kernel
theorem dX0_weightOf_8 : decode cX0_weightOf 8 = .ok (.iconst (-1), 1) := by decide +kernel
theorem dX0_weightOf_9 : decode cX0_weightOf 9 = .ok (.ireturn, 1) := by decide +kernel
theorem dX0_weightOf_10 : decode cX0_weightOf 10 = .ok (.iconst 0, 1) := by decide +kernel
theorem dX0_weightOf_11 : decode cX0_weightOf 11 = .ok (.istore_n 2, 1) := by decide +kernel
theorem dX0_weightOf_12 : decode cX0_weightOf 12 = .ok (.iconst 0, 1) := by decide +kernel
theorem dX0_weightOf_13 : decode cX0_weightOf 13 = .ok (.istore_n 3, 1) := by decide +kernel
theorem dX0_weightOf_14 : decode cX0_weightOf 14 = .ok (.iload_n 3, 1) := by decide +kernel
theorem dX0_weightOf_15 : decode cX0_weightOf 15 = .ok (.aload_n 0, 1) := by decide +kernel
theorem dX0_weightOf_16 : decode cX0_weightOf 16 = .ok (.getfield 41, 3) := by decide +kernel
theorem dX0_weightOf_19 : decode cX0_weightOf 19 = .ok (.if_icmp .ge 25, 3) := by decide +kernel
theorem dX0_weightOf_22 : decode cX0_weightOf 22 = .ok (.iload_n 2, 1) := by decide +kernel
theorem dX0_weightOf_23 : decode cX0_weightOf 23 = .ok (.aload_n 0, 1) := by decide +kernel
theorem dX0_weightOf_24 : decode cX0_weightOf 24 = .ok (.getfield 31, 3) := by decide +kernel
theorem dX0_weightOf_27 : decode cX0_weightOf 27 = .ok (.iload_n 3, 1) := by decide +kernel
theorem dX0_weightOf_28 : decode cX0_weightOf 28 = .ok (.iaload, 1) := by decide +kernel
theorem dX0_weightOf_29 : decode cX0_weightOf 29 = .ok (.aload_n 0, 1) := by decide +kernel
theorem dX0_weightOf_30 : decode cX0_weightOf 30 = .ok (.getfield 7, 3) := by decide +kernel
theorem dX0_weightOf_33 : decode cX0_weightOf 33 = .ok (.iload_n 3, 1) := by decide +kernel
theorem dX0_weightOf_34 : decode cX0_weightOf 34 = .ok (.iaload, 1) := by decide +kernel
theorem dX0_weightOf_35 : decode cX0_weightOf 35 = .ok (.imul, 1) := by decide +kernel
theorem dX0_weightOf_36 : decode cX0_weightOf 36 = .ok (.iadd, 1) := by decide +kernel
theorem dX0_weightOf_37 : decode cX0_weightOf 37 = .ok (.istore_n 2, 1) := by decide +kernel
theorem dX0_weightOf_38 : decode cX0_weightOf 38 = .ok (.iinc 3 1, 3) := by decide +kernel
theorem dX0_weightOf_41 : decode cX0_weightOf 41 = .ok (.goto (-27), 3) := by decide +kernel
theorem dX0_weightOf_44 : decode cX0_weightOf 44 = .ok (.iload_n 2, 1) := by decide +kernel
theorem dX0_weightOf_45 : decode cX0_weightOf 45 = .ok (.ireturn, 1) := by decide +kernel
abbrev cX0_load : ByteArray := prog_1_method_32_code
def yX0_load : MethodName := ⟨RX0, "load", "(I)Z"⟩
theorem dX0_load_0 : decode cX0_load 0 = .ok (.iload_n 1, 1) := by decide +kernel
theorem dX0_load_1 : decode cX0_load 1 = .ok (.ifCond .ge 5, 3) := by decide +kernel
theorem dX0_load_4 : decode cX0_load 4 = .ok (.iconst 0, 1) := by decide +kernel
theorem dX0_load_5 : decode cX0_load 5 = .ok (.ireturn, 1) := by decide +kernel
theorem dX0_load_6 : decode cX0_load 6 = .ok (.iload_n 1, 1) := by decide +kernel
theorem dX0_load_7 : decode cX0_load 7 = .ok (.istore_n 2, 1) := by decide +kernel
theorem dX0_load_8 : decode cX0_load 8 = .ok (.aload_n 0, 1) := by decide +kernel
theorem dX0_load_9 : decode cX0_load 9 = .ok (.getfield 41, 3) := by decide +kernel
theorem dX0_load_12 : decode cX0_load 12 = .ok (.iconst 1, 1) := by decide +kernel
theorem dX0_load_13 : decode cX0_load 13 = .ok (.isub, 1) := by decide +kernel
theorem dX0_load_14 : decode cX0_load 14 = .ok (.istore_n 3, 1) := by decide +kernel
theorem dX0_load_15 : decode cX0_load 15 = .ok (.iload_n 3, 1) := by decide +kernel
theorem dX0_load_16 : decode cX0_load 16 = .ok (.ifCond .lt 39, 3) := by decide +kernel
theorem dX0_load_19 : decode cX0_load 19 = .ok (.aload_n 0, 1) := by decide +kernel
theorem dX0_load_20 : decode cX0_load 20 = .ok (.getfield 31, 3) := by decide +kernel
theorem dX0_load_23 : decode cX0_load 23 = .ok (.iload_n 3, 1) := by decide +kernel
theorem dX0_load_24 : decode cX0_load 24 = .ok (.iload_n 2, 1) := by decide +kernel
theorem dX0_load_25 : decode cX0_load 25 = .ok (.iconst 3, 1) := by decide +kernel
theorem dX0_load_26 : decode cX0_load 26 = .ok (.irem, 1) := by decide +kernel
theorem dX0_load_27 : decode cX0_load 27 = .ok (.iastore, 1) := by decide +kernel
theorem dX0_load_28 : decode cX0_load 28 = .ok (.iload_n 2, 1) := by decide +kernel
theorem dX0_load_29 : decode cX0_load 29 = .ok (.iconst 3, 1) := by decide +kernel
theorem dX0_load_30 : decode cX0_load 30 = .ok (.idiv, 1) := by decide +kernel
theorem dX0_load_31 : decode cX0_load 31 = .ok (.istore_n 2, 1) := by decide +kernel
theorem dX0_load_32 : decode cX0_load 32 = .ok (.aload_n 0, 1) := by decide +kernel
theorem dX0_load_33 : decode cX0_load 33 = .ok (.getfield 31, 3) := by decide +kernel
theorem dX0_load_36 : decode cX0_load 36 = .ok (.iload_n 3, 1) := by decide +kernel
theorem dX0_load_37 : decode cX0_load 37 = .ok (.iaload, 1) := by decide +kernel
theorem dX0_load_38 : decode cX0_load 38 = .ok (.aload_n 0, 1) := by decide +kernel
theorem dX0_load_39 : decode cX0_load 39 = .ok (.getfield 16, 3) := by decide +kernel
theorem dX0_load_42 : decode cX0_load 42 = .ok (.iload_n 3, 1) := by decide +kernel
theorem dX0_load_43 : decode cX0_load 43 = .ok (.iaload, 1) := by decide +kernel
theorem dX0_load_44 : decode cX0_load 44 = .ok (.if_icmp .le 5, 3) := by decide +kernel
theorem dX0_load_47 : decode cX0_load 47 = .ok (.iconst 0, 1) := by decide +kernel
theorem dX0_load_48 : decode cX0_load 48 = .ok (.ireturn, 1) := by decide +kernel
theorem dX0_load_49 : decode cX0_load 49 = .ok (.iinc 3 (-1), 3) := by decide +kernel
theorem dX0_load_52 : decode cX0_load 52 = .ok (.goto (-37), 3) := by decide +kernel
theorem dX0_load_55 : decode cX0_load 55 = .ok (.iload_n 2, 1) := by decide +kernel
theorem dX0_load_56 : decode cX0_load 56 = .ok (.ifCond .ne 7, 3) := by decide +kernel
theorem dX0_load_59 : decode cX0_load 59 = .ok (.iconst 1, 1) := by decide +kernel
theorem dX0_load_60 : decode cX0_load 60 = .ok (.goto 4, 3) := by decide +kernel
theorem dX0_load_63 : decode cX0_load 63 = .ok (.iconst 0, 1) := by decide +kernel
theorem dX0_load_64 : decode cX0_load 64 = .ok (.ireturn, 1) := by decide +kernel
abbrev cX0_valueOf : ByteArray := prog_1_method_8_code
def yX0_valueOf : MethodName := ⟨RX0, "valueOf", "(I)I"⟩
theorem dX0_valueOf_0 : decode cX0_valueOf 0 = .ok (.aload_n 0, 1) := by decide +kernel
theorem dX0_valueOf_1 : decode cX0_valueOf 1 = .ok (.iload_n 1, 1) := by decide +kernel
theorem dX0_valueOf_2 : decode cX0_valueOf 2 = .ok (.invokevirtual 52, 3) := by decide +kernel
theorem dX0_valueOf_5 : decode cX0_valueOf 5 = .ok (.ifCond .ne 5, 3) := by decide +kernel
theorem dX0_valueOf_8 : decode cX0_valueOf 8 = .ok (.iconst (-1), 1) := by decide +kernel
theorem dX0_valueOf_9 : decode cX0_valueOf 9 = .ok (.ireturn, 1) := by decide +kernel
theorem dX0_valueOf_10 : decode cX0_valueOf 10 = .ok (.iconst 0, 1) := by decide +kernel
theorem dX0_valueOf_11 : decode cX0_valueOf 11 = .ok (.istore_n 2, 1) := by decide +kernel
theorem dX0_valueOf_12 : decode cX0_valueOf 12 = .ok (.iconst 0, 1) := by decide +kernel
theorem dX0_valueOf_13 : decode cX0_valueOf 13 = .ok (.istore_n 3, 1) := by decide +kernel
theorem dX0_valueOf_14 : decode cX0_valueOf 14 = .ok (.iload_n 3, 1) := by decide +kernel
theorem dX0_valueOf_15 : decode cX0_valueOf 15 = .ok (.aload_n 0, 1) := by decide +kernel
theorem dX0_valueOf_16 : decode cX0_valueOf 16 = .ok (.getfield 41, 3) := by decide +kernel
theorem dX0_valueOf_19 : decode cX0_valueOf 19 = .ok (.if_icmp .ge 25, 3) := by decide +kernel
theorem dX0_valueOf_22 : decode cX0_valueOf 22 = .ok (.iload_n 2, 1) := by decide +kernel
theorem dX0_valueOf_23 : decode cX0_valueOf 23 = .ok (.aload_n 0, 1) := by decide +kernel
theorem dX0_valueOf_24 : decode cX0_valueOf 24 = .ok (.getfield 31, 3) := by decide +kernel
theorem dX0_valueOf_27 : decode cX0_valueOf 27 = .ok (.iload_n 3, 1) := by decide +kernel
theorem dX0_valueOf_28 : decode cX0_valueOf 28 = .ok (.iaload, 1) := by decide +kernel
theorem dX0_valueOf_29 : decode cX0_valueOf 29 = .ok (.aload_n 0, 1) := by decide +kernel
theorem dX0_valueOf_30 : decode cX0_valueOf 30 = .ok (.getfield 13, 3) := by decide +kernel
theorem dX0_valueOf_33 : decode cX0_valueOf 33 = .ok (.iload_n 3, 1) := by decide +kernel
theorem dX0_valueOf_34 : decode cX0_valueOf 34 = .ok (.iaload, 1) := by decide +kernel
theorem dX0_valueOf_35 : decode cX0_valueOf 35 = .ok (.imul, 1) := by decide +kernel
theorem dX0_valueOf_36 : decode cX0_valueOf 36 = .ok (.iadd, 1) := by decide +kernel
theorem dX0_valueOf_37 : decode cX0_valueOf 37 = .ok (.istore_n 2, 1) := by decide +kernel
theorem dX0_valueOf_38 : decode cX0_valueOf 38 = .ok (.iinc 3 1, 3) := by decide +kernel
theorem dX0_valueOf_41 : decode cX0_valueOf 41 = .ok (.goto (-27), 3) := by decide +kernel
theorem dX0_valueOf_44 : decode cX0_valueOf 44 = .ok (.iload_n 2, 1) := by decide +kernel
theorem dX0_valueOf_45 : decode cX0_valueOf 45 = .ok (.ireturn, 1) := by decide +kernel
abbrev cX0_best : ByteArray := prog_1_method_9_code
def yX0_best : MethodName := ⟨RX0, "best", "()I"⟩
theorem dX0_best_0 : decode cX0_best 0 = .ok (.aload_n 0, 1) := by decide +kernel
theorem dX0_best_1 : decode cX0_best 1 = .ok (.iconst (-1), 1) := by decide +kernel
theorem dX0_best_2 : decode cX0_best 2 = .ok (.invokevirtual 55, 3) := by decide +kernel
theorem dX0_best_5 : decode cX0_best 5 = .ok (.aload_n 0, 1) := by decide +kernel
theorem dX0_best_6 : decode cX0_best 6 = .ok (.getfield 22, 3) := by decide +kernel
theorem dX0_best_9 : decode cX0_best 9 = .ok (.aload_n 0, 1) := by decide +kernel
theorem dX0_best_10 : decode cX0_best 10 = .ok (.invokevirtual 59, 3) := by decide +kernel
theorem dX0_best_13 : decode cX0_best 13 = .ok (.iaload, 1) := by decide +kernel
theorem dX0_best_14 : decode cX0_best 14 = .ok (.ireturn, 1) := by decide +kernel
abbrev cX0_fill : ByteArray := prog_1_method_22_code
def yX0_fill : MethodName := ⟨RX0, "fill", "(I)V"⟩
theorem dX0_fill_0 : decode cX0_fill 0 = .ok (.sipush 281, 3) := by decide +kernel
theorem dX0_fill_3 : decode cX0_fill 3 = .ok (.aload_n 0, 1) := by decide +kernel
theorem dX0_fill_4 : decode cX0_fill 4 = .ok (.getfield 41, 3) := by decide +kernel
theorem dX0_fill_7 : decode cX0_fill 7 = .ok (.imul, 1) := by decide +kernel
theorem dX0_fill_8 : decode cX0_fill 8 = .ok (.istore_n 2, 1) := by decide +kernel
theorem dX0_fill_9 : decode cX0_fill 9 = .ok (.iconst 0, 1) := by decide +kernel
theorem dX0_fill_10 : decode cX0_fill 10 = .ok (.istore_n 3, 1) := by decide +kernel
theorem dX0_fill_11 : decode cX0_fill 11 = .ok (.iload_n 3, 1) := by decide +kernel
theorem dX0_fill_12 : decode cX0_fill 12 = .ok (.sipush 280, 3) := by decide +kernel
theorem dX0_fill_15 : decode cX0_fill 15 = .ok (.if_icmp .gt 44, 3) := by decide +kernel
theorem dX0_fill_18 : decode cX0_fill 18 = .ok (.aload_n 0, 1) := by decide +kernel
theorem dX0_fill_19 : decode cX0_fill 19 = .ok (.getfield 22, 3) := by decide +kernel
theorem dX0_fill_22 : decode cX0_fill 22 = .ok (.iload_n 2, 1) := by decide +kernel
theorem dX0_fill_23 : decode cX0_fill 23 = .ok (.iload_n 3, 1) := by decide +kernel
theorem dX0_fill_24 : decode cX0_fill 24 = .ok (.iadd, 1) := by decide +kernel
theorem dX0_fill_25 : decode cX0_fill 25 = .ok (.iload_n 3, 1) := by decide +kernel
theorem dX0_fill_26 : decode cX0_fill 26 = .ok (.ifCond .ne 7, 3) := by decide +kernel
theorem dX0_fill_29 : decode cX0_fill 29 = .ok (.iconst 0, 1) := by decide +kernel
theorem dX0_fill_30 : decode cX0_fill 30 = .ok (.goto 5, 3) := by decide +kernel
theorem dX0_fill_33 : decode cX0_fill 33 = .ok (.ldc 80, 2) := by decide +kernel
theorem dX0_fill_35 : decode cX0_fill 35 = .ok (.iastore, 1) := by decide +kernel
theorem dX0_fill_36 : decode cX0_fill 36 = .ok (.aload_n 0, 1) := by decide +kernel
theorem dX0_fill_37 : decode cX0_fill 37 = .ok (.getfield 25, 3) := by decide +kernel
theorem dX0_fill_40 : decode cX0_fill 40 = .ok (.iload_n 2, 1) := by decide +kernel
theorem dX0_fill_41 : decode cX0_fill 41 = .ok (.iload_n 3, 1) := by decide +kernel
theorem dX0_fill_42 : decode cX0_fill 42 = .ok (.iadd, 1) := by decide +kernel
theorem dX0_fill_43 : decode cX0_fill 43 = .ok (.iload_n 3, 1) := by decide +kernel
theorem dX0_fill_44 : decode cX0_fill 44 = .ok (.ifCond .ne 7, 3) := by decide +kernel
theorem dX0_fill_47 : decode cX0_fill 47 = .ok (.iconst 1, 1) := by decide +kernel
theorem dX0_fill_48 : decode cX0_fill 48 = .ok (.goto 4, 3) := by decide +kernel
theorem dX0_fill_51 : decode cX0_fill 51 = .ok (.iconst 0, 1) := by decide +kernel
theorem dX0_fill_52 : decode cX0_fill 52 = .ok (.iastore, 1) := by decide +kernel
theorem dX0_fill_53 : decode cX0_fill 53 = .ok (.iinc 3 1, 3) := by decide +kernel
theorem dX0_fill_56 : decode cX0_fill 56 = .ok (.goto (-45), 3) := by decide +kernel
theorem dX0_fill_59 : decode cX0_fill 59 = .ok (.aload_n 0, 1) := by decide +kernel
theorem dX0_fill_60 : decode cX0_fill 60 = .ok (.getfield 41, 3) := by decide +kernel
theorem dX0_fill_63 : decode cX0_fill 63 = .ok (.iconst 1, 1) := by decide +kernel
theorem dX0_fill_64 : decode cX0_fill 64 = .ok (.isub, 1) := by decide +kernel
theorem dX0_fill_65 : decode cX0_fill 65 = .ok (.istore_n 3, 1) := by decide +kernel
theorem dX0_fill_66 : decode cX0_fill 66 = .ok (.iload_n 3, 1) := by decide +kernel
theorem dX0_fill_67 : decode cX0_fill 67 = .ok (.ifCond .lt 52, 3) := by decide +kernel
theorem dX0_fill_70 : decode cX0_fill 70 = .ok (.iload_n 3, 1) := by decide +kernel
theorem dX0_fill_71 : decode cX0_fill 71 = .ok (.iload_n 1, 1) := by decide +kernel
theorem dX0_fill_72 : decode cX0_fill 72 = .ok (.if_icmp .ne 7, 3) := by decide +kernel
theorem dX0_fill_75 : decode cX0_fill 75 = .ok (.iconst 0, 1) := by decide +kernel
theorem dX0_fill_76 : decode cX0_fill 76 = .ok (.goto 9, 3) := by decide +kernel
theorem dX0_fill_79 : decode cX0_fill 79 = .ok (.aload_n 0, 1) := by decide +kernel
theorem dX0_fill_80 : decode cX0_fill 80 = .ok (.getfield 16, 3) := by decide +kernel
theorem dX0_fill_83 : decode cX0_fill 83 = .ok (.iload_n 3, 1) := by decide +kernel
theorem dX0_fill_84 : decode cX0_fill 84 = .ok (.iaload, 1) := by decide +kernel
theorem dX0_fill_85 : decode cX0_fill 85 = .ok (.istore 4, 2) := by decide +kernel
theorem dX0_fill_87 : decode cX0_fill 87 = .ok (.iconst 0, 1) := by decide +kernel
theorem dX0_fill_88 : decode cX0_fill 88 = .ok (.istore 5, 2) := by decide +kernel
theorem dX0_fill_90 : decode cX0_fill 90 = .ok (.iload 5, 2) := by decide +kernel
theorem dX0_fill_92 : decode cX0_fill 92 = .ok (.sipush 280, 3) := by decide +kernel
theorem dX0_fill_95 : decode cX0_fill 95 = .ok (.if_icmp .gt 18, 3) := by decide +kernel
theorem dX0_fill_98 : decode cX0_fill 98 = .ok (.aload_n 0, 1) := by decide +kernel
theorem dX0_fill_99 : decode cX0_fill 99 = .ok (.iload_n 3, 1) := by decide +kernel
theorem dX0_fill_100 : decode cX0_fill 100 = .ok (.iload 5, 2) := by decide +kernel
theorem dX0_fill_102 : decode cX0_fill 102 = .ok (.iload 4, 2) := by decide +kernel
theorem dX0_fill_104 : decode cX0_fill 104 = .ok (.invokevirtual 81, 3) := by decide +kernel
theorem dX0_fill_107 : decode cX0_fill 107 = .ok (.iinc 5 1, 3) := by decide +kernel
theorem dX0_fill_110 : decode cX0_fill 110 = .ok (.goto (-20), 3) := by decide +kernel
theorem dX0_fill_113 : decode cX0_fill 113 = .ok (.iinc 3 (-1), 3) := by decide +kernel
theorem dX0_fill_116 : decode cX0_fill 116 = .ok (.goto (-50), 3) := by decide +kernel
theorem dX0_fill_119 : decode cX0_fill 119 = .ok (.return_, 1) := by decide +kernel
abbrev cX0_fillEntry : ByteArray := prog_1_method_23_code
def yX0_fillEntry : MethodName := ⟨RX0, "fillEntry", "(III)V"⟩
theorem dX0_fillEntry_0 : decode cX0_fillEntry 0 = .ok (.ldc 80, 2) := by decide +kernel
theorem dX0_fillEntry_2 : decode cX0_fillEntry 2 = .ok (.istore 4, 2) := by decide +kernel
theorem dX0_fillEntry_4 : decode cX0_fillEntry 4 = .ok (.iconst 0, 1) := by decide +kernel
theorem dX0_fillEntry_5 : decode cX0_fillEntry 5 = .ok (.istore 5, 2) := by decide +kernel
theorem dX0_fillEntry_7 : decode cX0_fillEntry 7 = .ok (.iconst 0, 1) := by decide +kernel
theorem dX0_fillEntry_8 : decode cX0_fillEntry 8 = .ok (.istore 6, 2) := by decide +kernel
theorem dX0_fillEntry_10 : decode cX0_fillEntry 10 = .ok (.iload 6, 2) := by decide +kernel
theorem dX0_fillEntry_12 : decode cX0_fillEntry 12 = .ok (.iload_n 3, 1) := by decide +kernel
theorem dX0_fillEntry_13 : decode cX0_fillEntry 13 = .ok (.if_icmp .gt 100, 3) := by decide +kernel
theorem dX0_fillEntry_16 : decode cX0_fillEntry 16 = .ok (.iload 6, 2) := by decide +kernel
theorem dX0_fillEntry_18 : decode cX0_fillEntry 18 = .ok (.aload_n 0, 1) := by decide +kernel
theorem dX0_fillEntry_19 : decode cX0_fillEntry 19 = .ok (.getfield 7, 3) := by decide +kernel
theorem dX0_fillEntry_22 : decode cX0_fillEntry 22 = .ok (.iload_n 1, 1) := by decide +kernel
theorem dX0_fillEntry_23 : decode cX0_fillEntry 23 = .ok (.iaload, 1) := by decide +kernel
theorem dX0_fillEntry_24 : decode cX0_fillEntry 24 = .ok (.imul, 1) := by decide +kernel
theorem dX0_fillEntry_25 : decode cX0_fillEntry 25 = .ok (.iload_n 2, 1) := by decide +kernel
theorem dX0_fillEntry_26 : decode cX0_fillEntry 26 = .ok (.if_icmp .gt 87, 3) := by decide +kernel
theorem dX0_fillEntry_29 : decode cX0_fillEntry 29 = .ok (.sipush 281, 3) := by decide +kernel
theorem dX0_fillEntry_32 : decode cX0_fillEntry 32 = .ok (.iload_n 1, 1) := by decide +kernel
theorem dX0_fillEntry_33 : decode cX0_fillEntry 33 = .ok (.iconst 1, 1) := by decide +kernel
theorem dX0_fillEntry_34 : decode cX0_fillEntry 34 = .ok (.iadd, 1) := by decide +kernel
theorem dX0_fillEntry_35 : decode cX0_fillEntry 35 = .ok (.imul, 1) := by decide +kernel
theorem dX0_fillEntry_36 : decode cX0_fillEntry 36 = .ok (.iload_n 2, 1) := by decide +kernel
theorem dX0_fillEntry_37 : decode cX0_fillEntry 37 = .ok (.iadd, 1) := by decide +kernel
theorem dX0_fillEntry_38 : decode cX0_fillEntry 38 = .ok (.iload 6, 2) := by decide +kernel
theorem dX0_fillEntry_40 : decode cX0_fillEntry 40 = .ok (.aload_n 0, 1) := by decide +kernel
theorem dX0_fillEntry_41 : decode cX0_fillEntry 41 = .ok (.getfield 7, 3) := by decide +kernel
theorem dX0_fillEntry_44 : decode cX0_fillEntry 44 = .ok (.iload_n 1, 1) := by decide +kernel
theorem dX0_fillEntry_45 : decode cX0_fillEntry 45 = .ok (.iaload, 1) := by decide +kernel
theorem dX0_fillEntry_46 : decode cX0_fillEntry 46 = .ok (.imul, 1) := by decide +kernel
theorem dX0_fillEntry_47 : decode cX0_fillEntry 47 = .ok (.isub, 1) := by decide +kernel
theorem dX0_fillEntry_48 : decode cX0_fillEntry 48 = .ok (.istore 7, 2) := by decide +kernel
theorem dX0_fillEntry_50 : decode cX0_fillEntry 50 = .ok (.aload_n 0, 1) := by decide +kernel
theorem dX0_fillEntry_51 : decode cX0_fillEntry 51 = .ok (.getfield 22, 3) := by decide +kernel
theorem dX0_fillEntry_54 : decode cX0_fillEntry 54 = .ok (.iload 7, 2) := by decide +kernel
theorem dX0_fillEntry_56 : decode cX0_fillEntry 56 = .ok (.iaload, 1) := by decide +kernel
theorem dX0_fillEntry_57 : decode cX0_fillEntry 57 = .ok (.iload 6, 2) := by decide +kernel
theorem dX0_fillEntry_59 : decode cX0_fillEntry 59 = .ok (.aload_n 0, 1) := by decide +kernel
theorem dX0_fillEntry_60 : decode cX0_fillEntry 60 = .ok (.getfield 13, 3) := by decide +kernel
theorem dX0_fillEntry_63 : decode cX0_fillEntry 63 = .ok (.iload_n 1, 1) := by decide +kernel
theorem dX0_fillEntry_64 : decode cX0_fillEntry 64 = .ok (.iaload, 1) := by decide +kernel
theorem dX0_fillEntry_65 : decode cX0_fillEntry 65 = .ok (.imul, 1) := by decide +kernel
theorem dX0_fillEntry_66 : decode cX0_fillEntry 66 = .ok (.iadd, 1) := by decide +kernel
theorem dX0_fillEntry_67 : decode cX0_fillEntry 67 = .ok (.istore 8, 2) := by decide +kernel
theorem dX0_fillEntry_69 : decode cX0_fillEntry 69 = .ok (.aload_n 0, 1) := by decide +kernel
theorem dX0_fillEntry_70 : decode cX0_fillEntry 70 = .ok (.getfield 22, 3) := by decide +kernel
theorem dX0_fillEntry_73 : decode cX0_fillEntry 73 = .ok (.iload 7, 2) := by decide +kernel
theorem dX0_fillEntry_75 : decode cX0_fillEntry 75 = .ok (.iaload, 1) := by decide +kernel
theorem dX0_fillEntry_76 : decode cX0_fillEntry 76 = .ok (.ifCond .lt 15, 3) := by decide +kernel
theorem dX0_fillEntry_79 : decode cX0_fillEntry 79 = .ok (.iload 8, 2) := by decide +kernel
theorem dX0_fillEntry_81 : decode cX0_fillEntry 81 = .ok (.iload 4, 2) := by decide +kernel
theorem dX0_fillEntry_83 : decode cX0_fillEntry 83 = .ok (.if_icmp .le 8, 3) := by decide +kernel
theorem dX0_fillEntry_86 : decode cX0_fillEntry 86 = .ok (.iload 8, 2) := by decide +kernel
theorem dX0_fillEntry_88 : decode cX0_fillEntry 88 = .ok (.goto 5, 3) := by decide +kernel
theorem dX0_fillEntry_91 : decode cX0_fillEntry 91 = .ok (.iload 4, 2) := by decide +kernel
theorem dX0_fillEntry_93 : decode cX0_fillEntry 93 = .ok (.istore 4, 2) := by decide +kernel
theorem dX0_fillEntry_95 : decode cX0_fillEntry 95 = .ok (.iload 5, 2) := by decide +kernel
theorem dX0_fillEntry_97 : decode cX0_fillEntry 97 = .ok (.aload_n 0, 1) := by decide +kernel
theorem dX0_fillEntry_98 : decode cX0_fillEntry 98 = .ok (.getfield 25, 3) := by decide +kernel
theorem dX0_fillEntry_101 : decode cX0_fillEntry 101 = .ok (.iload 7, 2) := by decide +kernel
theorem dX0_fillEntry_103 : decode cX0_fillEntry 103 = .ok (.iaload, 1) := by decide +kernel
theorem dX0_fillEntry_104 : decode cX0_fillEntry 104 = .ok (.iadd, 1) := by decide +kernel
theorem dX0_fillEntry_105 : decode cX0_fillEntry 105 = .ok (.istore 5, 2) := by decide +kernel
theorem dX0_fillEntry_107 : decode cX0_fillEntry 107 = .ok (.iinc 6 1, 3) := by decide +kernel
theorem dX0_fillEntry_110 : decode cX0_fillEntry 110 = .ok (.goto (-100), 3) := by decide +kernel
theorem dX0_fillEntry_113 : decode cX0_fillEntry 113 = .ok (.aload_n 0, 1) := by decide +kernel
theorem dX0_fillEntry_114 : decode cX0_fillEntry 114 = .ok (.getfield 22, 3) := by decide +kernel
theorem dX0_fillEntry_117 : decode cX0_fillEntry 117 = .ok (.sipush 281, 3) := by decide +kernel
theorem dX0_fillEntry_120 : decode cX0_fillEntry 120 = .ok (.iload_n 1, 1) := by decide +kernel
theorem dX0_fillEntry_121 : decode cX0_fillEntry 121 = .ok (.imul, 1) := by decide +kernel
theorem dX0_fillEntry_122 : decode cX0_fillEntry 122 = .ok (.iload_n 2, 1) := by decide +kernel
theorem dX0_fillEntry_123 : decode cX0_fillEntry 123 = .ok (.iadd, 1) := by decide +kernel
theorem dX0_fillEntry_124 : decode cX0_fillEntry 124 = .ok (.iload 4, 2) := by decide +kernel
theorem dX0_fillEntry_126 : decode cX0_fillEntry 126 = .ok (.iastore, 1) := by decide +kernel
theorem dX0_fillEntry_127 : decode cX0_fillEntry 127 = .ok (.aload_n 0, 1) := by decide +kernel
theorem dX0_fillEntry_128 : decode cX0_fillEntry 128 = .ok (.getfield 25, 3) := by decide +kernel
theorem dX0_fillEntry_131 : decode cX0_fillEntry 131 = .ok (.sipush 281, 3) := by decide +kernel
theorem dX0_fillEntry_134 : decode cX0_fillEntry 134 = .ok (.iload_n 1, 1) := by decide +kernel
theorem dX0_fillEntry_135 : decode cX0_fillEntry 135 = .ok (.imul, 1) := by decide +kernel
theorem dX0_fillEntry_136 : decode cX0_fillEntry 136 = .ok (.iload_n 2, 1) := by decide +kernel
theorem dX0_fillEntry_137 : decode cX0_fillEntry 137 = .ok (.iadd, 1) := by decide +kernel
theorem dX0_fillEntry_138 : decode cX0_fillEntry 138 = .ok (.iload 5, 2) := by decide +kernel
theorem dX0_fillEntry_140 : decode cX0_fillEntry 140 = .ok (.iastore, 1) := by decide +kernel
theorem dX0_fillEntry_141 : decode cX0_fillEntry 141 = .ok (.return_, 1) := by decide +kernel
end
section
set_option maxRecDepth 100000
abbrev cX0_bestWeight : ByteArray := prog_1_method_24_code
def yX0_bestWeight : MethodName := ⟨RX0, "bestWeight", "()I"⟩
theorem dX0_bestWeight_0 : decode cX0_bestWeight 0 = .ok (.iconst 0, 1) := by decide +kernel
theorem dX0_bestWeight_1 : decode cX0_bestWeight 1 = .ok (.istore_n 1, 1) := by decide +kernel
theorem dX0_bestWeight_2 : decode cX0_bestWeight 2 = .ok (.iconst 1, 1) := by decide +kernel
theorem dX0_bestWeight_3 : decode cX0_bestWeight 3 = .ok (.istore_n 2, 1) := by decide +kernel
theorem dX0_bestWeight_4 : decode cX0_bestWeight 4 = .ok (.iload_n 2, 1) := by decide +kernel
theorem dX0_bestWeight_5 : decode cX0_bestWeight 5 = .ok (.aload_n 0, 1) := by decide +kernel
theorem dX0_bestWeight_6 : decode cX0_bestWeight 6 = .ok (.getfield 37, 3) := by decide +kernel
theorem dX0_bestWeight_9 : decode cX0_bestWeight 9 = .ok (.if_icmp .gt 30, 3) := by decide +kernel
theorem dX0_bestWeight_12 : decode cX0_bestWeight 12 = .ok (.aload_n 0, 1) := by decide +kernel
theorem dX0_bestWeight_13 : decode cX0_bestWeight 13 = .ok (.getfield 22, 3) := by decide +kernel
theorem dX0_bestWeight_16 : decode cX0_bestWeight 16 = .ok (.iload_n 2, 1) := by decide +kernel
theorem dX0_bestWeight_17 : decode cX0_bestWeight 17 = .ok (.iaload, 1) := by decide +kernel
theorem dX0_bestWeight_18 : decode cX0_bestWeight 18 = .ok (.aload_n 0, 1) := by decide +kernel
theorem dX0_bestWeight_19 : decode cX0_bestWeight 19 = .ok (.getfield 22, 3) := by decide +kernel
theorem dX0_bestWeight_22 : decode cX0_bestWeight 22 = .ok (.iload_n 1, 1) := by decide +kernel
theorem dX0_bestWeight_23 : decode cX0_bestWeight 23 = .ok (.iaload, 1) := by decide +kernel
theorem dX0_bestWeight_24 : decode cX0_bestWeight 24 = .ok (.if_icmp .le 7, 3) := by decide +kernel
theorem dX0_bestWeight_27 : decode cX0_bestWeight 27 = .ok (.iload_n 2, 1) := by decide +kernel
theorem dX0_bestWeight_28 : decode cX0_bestWeight 28 = .ok (.goto 4, 3) := by decide +kernel
theorem dX0_bestWeight_31 : decode cX0_bestWeight 31 = .ok (.iload_n 1, 1) := by decide +kernel
theorem dX0_bestWeight_32 : decode cX0_bestWeight 32 = .ok (.istore_n 1, 1) := by decide +kernel
theorem dX0_bestWeight_33 : decode cX0_bestWeight 33 = .ok (.iinc 2 1, 3) := by decide +kernel
theorem dX0_bestWeight_36 : decode cX0_bestWeight 36 = .ok (.goto (-32), 3) := by decide +kernel
theorem dX0_bestWeight_39 : decode cX0_bestWeight 39 = .ok (.iload_n 1, 1) := by decide +kernel
theorem dX0_bestWeight_40 : decode cX0_bestWeight 40 = .ok (.ireturn, 1) := by decide +kernel
abbrev cX0_bestCode : ByteArray := prog_1_method_10_code
def yX0_bestCode : MethodName := ⟨RX0, "bestCode", "()I"⟩
theorem dX0_bestCode_0 : decode cX0_bestCode 0 = .ok (.aload_n 0, 1) := by decide +kernel
theorem dX0_bestCode_1 : decode cX0_bestCode 1 = .ok (.iconst (-1), 1) := by decide +kernel
theorem dX0_bestCode_2 : decode cX0_bestCode 2 = .ok (.invokevirtual 55, 3) := by decide +kernel
theorem dX0_bestCode_5 : decode cX0_bestCode 5 = .ok (.aload_n 0, 1) := by decide +kernel
theorem dX0_bestCode_6 : decode cX0_bestCode 6 = .ok (.invokevirtual 59, 3) := by decide +kernel
theorem dX0_bestCode_9 : decode cX0_bestCode 9 = .ok (.istore_n 1, 1) := by decide +kernel
theorem dX0_bestCode_10 : decode cX0_bestCode 10 = .ok (.aload_n 0, 1) := by decide +kernel
theorem dX0_bestCode_11 : decode cX0_bestCode 11 = .ok (.getfield 22, 3) := by decide +kernel
theorem dX0_bestCode_14 : decode cX0_bestCode 14 = .ok (.iload_n 1, 1) := by decide +kernel
theorem dX0_bestCode_15 : decode cX0_bestCode 15 = .ok (.iaload, 1) := by decide +kernel
theorem dX0_bestCode_16 : decode cX0_bestCode 16 = .ok (.istore_n 2, 1) := by decide +kernel
theorem dX0_bestCode_17 : decode cX0_bestCode 17 = .ok (.iconst 0, 1) := by decide +kernel
theorem dX0_bestCode_18 : decode cX0_bestCode 18 = .ok (.istore_n 3, 1) := by decide +kernel
theorem dX0_bestCode_19 : decode cX0_bestCode 19 = .ok (.iconst 0, 1) := by decide +kernel
theorem dX0_bestCode_20 : decode cX0_bestCode 20 = .ok (.istore 4, 2) := by decide +kernel
theorem dX0_bestCode_22 : decode cX0_bestCode 22 = .ok (.iload 4, 2) := by decide +kernel
theorem dX0_bestCode_24 : decode cX0_bestCode 24 = .ok (.aload_n 0, 1) := by decide +kernel
theorem dX0_bestCode_25 : decode cX0_bestCode 25 = .ok (.getfield 41, 3) := by decide +kernel
theorem dX0_bestCode_28 : decode cX0_bestCode 28 = .ok (.if_icmp .ge 76, 3) := by decide +kernel
theorem dX0_bestCode_31 : decode cX0_bestCode 31 = .ok (.iconst 0, 1) := by decide +kernel
theorem dX0_bestCode_32 : decode cX0_bestCode 32 = .ok (.istore 5, 2) := by decide +kernel
theorem dX0_bestCode_34 : decode cX0_bestCode 34 = .ok (.iload 5, 2) := by decide +kernel
theorem dX0_bestCode_36 : decode cX0_bestCode 36 = .ok (.aload_n 0, 1) := by decide +kernel
theorem dX0_bestCode_37 : decode cX0_bestCode 37 = .ok (.getfield 16, 3) := by decide +kernel
theorem dX0_bestCode_40 : decode cX0_bestCode 40 = .ok (.iload 4, 2) := by decide +kernel
theorem dX0_bestCode_42 : decode cX0_bestCode 42 = .ok (.iaload, 1) := by decide +kernel
theorem dX0_bestCode_43 : decode cX0_bestCode 43 = .ok (.if_icmp .ge 22, 3) := by decide +kernel
theorem dX0_bestCode_46 : decode cX0_bestCode 46 = .ok (.aload_n 0, 1) := by decide +kernel
theorem dX0_bestCode_47 : decode cX0_bestCode 47 = .ok (.iload 4, 2) := by decide +kernel
theorem dX0_bestCode_49 : decode cX0_bestCode 49 = .ok (.iload 5, 2) := by decide +kernel
theorem dX0_bestCode_51 : decode cX0_bestCode 51 = .ok (.iload_n 1, 1) := by decide +kernel
theorem dX0_bestCode_52 : decode cX0_bestCode 52 = .ok (.iload_n 2, 1) := by decide +kernel
theorem dX0_bestCode_53 : decode cX0_bestCode 53 = .ok (.invokevirtual 63, 3) := by decide +kernel
theorem dX0_bestCode_56 : decode cX0_bestCode 56 = .ok (.ifCond .ne 9, 3) := by decide +kernel
theorem dX0_bestCode_59 : decode cX0_bestCode 59 = .ok (.iinc 5 1, 3) := by decide +kernel
theorem dX0_bestCode_62 : decode cX0_bestCode 62 = .ok (.goto (-28), 3) := by decide +kernel
theorem dX0_bestCode_65 : decode cX0_bestCode 65 = .ok (.iconst 3, 1) := by decide +kernel
theorem dX0_bestCode_66 : decode cX0_bestCode 66 = .ok (.iload_n 3, 1) := by decide +kernel
theorem dX0_bestCode_67 : decode cX0_bestCode 67 = .ok (.imul, 1) := by decide +kernel
theorem dX0_bestCode_68 : decode cX0_bestCode 68 = .ok (.iload 5, 2) := by decide +kernel
theorem dX0_bestCode_70 : decode cX0_bestCode 70 = .ok (.iadd, 1) := by decide +kernel
theorem dX0_bestCode_71 : decode cX0_bestCode 71 = .ok (.istore_n 3, 1) := by decide +kernel
theorem dX0_bestCode_72 : decode cX0_bestCode 72 = .ok (.iload_n 1, 1) := by decide +kernel
theorem dX0_bestCode_73 : decode cX0_bestCode 73 = .ok (.iload 5, 2) := by decide +kernel
theorem dX0_bestCode_75 : decode cX0_bestCode 75 = .ok (.aload_n 0, 1) := by decide +kernel
theorem dX0_bestCode_76 : decode cX0_bestCode 76 = .ok (.getfield 7, 3) := by decide +kernel
theorem dX0_bestCode_79 : decode cX0_bestCode 79 = .ok (.iload 4, 2) := by decide +kernel
theorem dX0_bestCode_81 : decode cX0_bestCode 81 = .ok (.iaload, 1) := by decide +kernel
theorem dX0_bestCode_82 : decode cX0_bestCode 82 = .ok (.imul, 1) := by decide +kernel
theorem dX0_bestCode_83 : decode cX0_bestCode 83 = .ok (.isub, 1) := by decide +kernel
theorem dX0_bestCode_84 : decode cX0_bestCode 84 = .ok (.istore_n 1, 1) := by decide +kernel
theorem dX0_bestCode_85 : decode cX0_bestCode 85 = .ok (.iload_n 2, 1) := by decide +kernel
theorem dX0_bestCode_86 : decode cX0_bestCode 86 = .ok (.iload 5, 2) := by decide +kernel
theorem dX0_bestCode_88 : decode cX0_bestCode 88 = .ok (.aload_n 0, 1) := by decide +kernel
theorem dX0_bestCode_89 : decode cX0_bestCode 89 = .ok (.getfield 13, 3) := by decide +kernel
theorem dX0_bestCode_92 : decode cX0_bestCode 92 = .ok (.iload 4, 2) := by decide +kernel
theorem dX0_bestCode_94 : decode cX0_bestCode 94 = .ok (.iaload, 1) := by decide +kernel
theorem dX0_bestCode_95 : decode cX0_bestCode 95 = .ok (.imul, 1) := by decide +kernel
theorem dX0_bestCode_96 : decode cX0_bestCode 96 = .ok (.isub, 1) := by decide +kernel
theorem dX0_bestCode_97 : decode cX0_bestCode 97 = .ok (.istore_n 2, 1) := by decide +kernel
theorem dX0_bestCode_98 : decode cX0_bestCode 98 = .ok (.iinc 4 1, 3) := by decide +kernel
theorem dX0_bestCode_101 : decode cX0_bestCode 101 = .ok (.goto (-79), 3) := by decide +kernel
theorem dX0_bestCode_104 : decode cX0_bestCode 104 = .ok (.iload_n 3, 1) := by decide +kernel
theorem dX0_bestCode_105 : decode cX0_bestCode 105 = .ok (.ireturn, 1) := by decide +kernel
abbrev cX0_keeps : ByteArray := prog_1_method_25_code
def yX0_keeps : MethodName := ⟨RX0, "keeps", "(IIII)Z"⟩
theorem dX0_keeps_0 : decode cX0_keeps 0 = .ok (.iload_n 3, 1) := by decide +kernel
theorem dX0_keeps_1 : decode cX0_keeps 1 = .ok (.iload_n 2, 1) := by decide +kernel
theorem dX0_keeps_2 : decode cX0_keeps 2 = .ok (.aload_n 0, 1) := by decide +kernel
theorem dX0_keeps_3 : decode cX0_keeps 3 = .ok (.getfield 7, 3) := by decide +kernel
theorem dX0_keeps_6 : decode cX0_keeps 6 = .ok (.iload_n 1, 1) := by decide +kernel
theorem dX0_keeps_7 : decode cX0_keeps 7 = .ok (.iaload, 1) := by decide +kernel
theorem dX0_keeps_8 : decode cX0_keeps 8 = .ok (.imul, 1) := by decide +kernel
theorem dX0_keeps_9 : decode cX0_keeps 9 = .ok (.isub, 1) := by decide +kernel
theorem dX0_keeps_10 : decode cX0_keeps 10 = .ok (.istore 5, 2) := by decide +kernel
theorem dX0_keeps_12 : decode cX0_keeps 12 = .ok (.iload 5, 2) := by decide +kernel
theorem dX0_keeps_14 : decode cX0_keeps 14 = .ok (.ifCond .lt 36, 3) := by decide +kernel
theorem dX0_keeps_17 : decode cX0_keeps 17 = .ok (.aload_n 0, 1) := by decide +kernel
theorem dX0_keeps_18 : decode cX0_keeps 18 = .ok (.getfield 22, 3) := by decide +kernel
theorem dX0_keeps_21 : decode cX0_keeps 21 = .ok (.sipush 281, 3) := by decide +kernel
theorem dX0_keeps_24 : decode cX0_keeps 24 = .ok (.iload_n 1, 1) := by decide +kernel
theorem dX0_keeps_25 : decode cX0_keeps 25 = .ok (.iconst 1, 1) := by decide +kernel
theorem dX0_keeps_26 : decode cX0_keeps 26 = .ok (.iadd, 1) := by decide +kernel
theorem dX0_keeps_27 : decode cX0_keeps 27 = .ok (.imul, 1) := by decide +kernel
theorem dX0_keeps_28 : decode cX0_keeps 28 = .ok (.iload 5, 2) := by decide +kernel
theorem dX0_keeps_30 : decode cX0_keeps 30 = .ok (.iadd, 1) := by decide +kernel
theorem dX0_keeps_31 : decode cX0_keeps 31 = .ok (.iaload, 1) := by decide +kernel
theorem dX0_keeps_32 : decode cX0_keeps 32 = .ok (.iload 4, 2) := by decide +kernel
theorem dX0_keeps_34 : decode cX0_keeps 34 = .ok (.iload_n 2, 1) := by decide +kernel
theorem dX0_keeps_35 : decode cX0_keeps 35 = .ok (.aload_n 0, 1) := by decide +kernel
theorem dX0_keeps_36 : decode cX0_keeps 36 = .ok (.getfield 13, 3) := by decide +kernel
theorem dX0_keeps_39 : decode cX0_keeps 39 = .ok (.iload_n 1, 1) := by decide +kernel
theorem dX0_keeps_40 : decode cX0_keeps 40 = .ok (.iaload, 1) := by decide +kernel
theorem dX0_keeps_41 : decode cX0_keeps 41 = .ok (.imul, 1) := by decide +kernel
theorem dX0_keeps_42 : decode cX0_keeps 42 = .ok (.isub, 1) := by decide +kernel
theorem dX0_keeps_43 : decode cX0_keeps 43 = .ok (.if_icmp .ne 7, 3) := by decide +kernel
theorem dX0_keeps_46 : decode cX0_keeps 46 = .ok (.iconst 1, 1) := by decide +kernel
theorem dX0_keeps_47 : decode cX0_keeps 47 = .ok (.goto 4, 3) := by decide +kernel
theorem dX0_keeps_50 : decode cX0_keeps 50 = .ok (.iconst 0, 1) := by decide +kernel
theorem dX0_keeps_51 : decode cX0_keeps 51 = .ok (.ireturn, 1) := by decide +kernel
abbrev cX0_bestStrict : ByteArray := prog_1_method_11_code
def yX0_bestStrict : MethodName := ⟨RX0, "bestStrict", "()I"⟩
theorem dX0_bestStrict_0 : decode cX0_bestStrict 0 = .ok (.aload_n 0, 1) := by decide +kernel
theorem dX0_bestStrict_1 : decode cX0_bestStrict 1 = .ok (.invokevirtual 67, 3) := by decide +kernel
theorem dX0_bestStrict_4 : decode cX0_bestStrict 4 = .ok (.aload_n 0, 1) := by decide +kernel
theorem dX0_bestStrict_5 : decode cX0_bestStrict 5 = .ok (.invokevirtual 70, 3) := by decide +kernel
theorem dX0_bestStrict_8 : decode cX0_bestStrict 8 = .ok (.aload_n 0, 1) := by decide +kernel
theorem dX0_bestStrict_9 : decode cX0_bestStrict 9 = .ok (.getfield 28, 3) := by decide +kernel
theorem dX0_bestStrict_12 : decode cX0_bestStrict 12 = .ok (.aload_n 0, 1) := by decide +kernel
theorem dX0_bestStrict_13 : decode cX0_bestStrict 13 = .ok (.invokevirtual 73, 3) := by decide +kernel
theorem dX0_bestStrict_16 : decode cX0_bestStrict 16 = .ok (.iaload, 1) := by decide +kernel
theorem dX0_bestStrict_17 : decode cX0_bestStrict 17 = .ok (.ireturn, 1) := by decide +kernel
abbrev cX0_openAll : ByteArray := prog_1_method_26_code
def yX0_openAll : MethodName := ⟨RX0, "openAll", "()V"⟩
theorem dX0_openAll_0 : decode cX0_openAll 0 = .ok (.iconst 0, 1) := by decide +kernel
theorem dX0_openAll_1 : decode cX0_openAll 1 = .ok (.istore_n 1, 1) := by decide +kernel
theorem dX0_openAll_2 : decode cX0_openAll 2 = .ok (.iload_n 1, 1) := by decide +kernel
theorem dX0_openAll_3 : decode cX0_openAll 3 = .ok (.bipush 7, 2) := by decide +kernel
theorem dX0_openAll_5 : decode cX0_openAll 5 = .ok (.if_icmp .ge 16, 3) := by decide +kernel
theorem dX0_openAll_8 : decode cX0_openAll 8 = .ok (.aload_n 0, 1) := by decide +kernel
theorem dX0_openAll_9 : decode cX0_openAll 9 = .ok (.getfield 31, 3) := by decide +kernel
theorem dX0_openAll_12 : decode cX0_openAll 12 = .ok (.iload_n 1, 1) := by decide +kernel
theorem dX0_openAll_13 : decode cX0_openAll 13 = .ok (.iconst (-1), 1) := by decide +kernel
theorem dX0_openAll_14 : decode cX0_openAll 14 = .ok (.iastore, 1) := by decide +kernel
theorem dX0_openAll_15 : decode cX0_openAll 15 = .ok (.iinc 1 1, 3) := by decide +kernel
theorem dX0_openAll_18 : decode cX0_openAll 18 = .ok (.goto (-16), 3) := by decide +kernel
theorem dX0_openAll_21 : decode cX0_openAll 21 = .ok (.return_, 1) := by decide +kernel
abbrev cX0_fillStrict : ByteArray := prog_1_method_27_code
def yX0_fillStrict : MethodName := ⟨RX0, "fillStrict", "()V"⟩
theorem dX0_fillStrict_0 : decode cX0_fillStrict 0 = .ok (.iconst 0, 1) := by decide +kernel
theorem dX0_fillStrict_1 : decode cX0_fillStrict 1 = .ok (.istore_n 1, 1) := by decide +kernel
theorem dX0_fillStrict_2 : decode cX0_fillStrict 2 = .ok (.iload_n 1, 1) := by decide +kernel
theorem dX0_fillStrict_3 : decode cX0_fillStrict 3 = .ok (.sipush 280, 3) := by decide +kernel
theorem dX0_fillStrict_6 : decode cX0_fillStrict 6 = .ok (.if_icmp .gt 29, 3) := by decide +kernel
theorem dX0_fillStrict_9 : decode cX0_fillStrict 9 = .ok (.aload_n 0, 1) := by decide +kernel
theorem dX0_fillStrict_10 : decode cX0_fillStrict 10 = .ok (.getfield 28, 3) := by decide +kernel
theorem dX0_fillStrict_13 : decode cX0_fillStrict 13 = .ok (.sipush 1124, 3) := by decide +kernel
theorem dX0_fillStrict_16 : decode cX0_fillStrict 16 = .ok (.iload_n 1, 1) := by decide +kernel
theorem dX0_fillStrict_17 : decode cX0_fillStrict 17 = .ok (.iadd, 1) := by decide +kernel
theorem dX0_fillStrict_18 : decode cX0_fillStrict 18 = .ok (.iload_n 1, 1) := by decide +kernel
theorem dX0_fillStrict_19 : decode cX0_fillStrict 19 = .ok (.ifCond .ne 7, 3) := by decide +kernel
theorem dX0_fillStrict_22 : decode cX0_fillStrict 22 = .ok (.iconst 0, 1) := by decide +kernel
theorem dX0_fillStrict_23 : decode cX0_fillStrict 23 = .ok (.goto 5, 3) := by decide +kernel
theorem dX0_fillStrict_26 : decode cX0_fillStrict 26 = .ok (.ldc 80, 2) := by decide +kernel
theorem dX0_fillStrict_28 : decode cX0_fillStrict 28 = .ok (.iastore, 1) := by decide +kernel
theorem dX0_fillStrict_29 : decode cX0_fillStrict 29 = .ok (.iinc 1 1, 3) := by decide +kernel
theorem dX0_fillStrict_32 : decode cX0_fillStrict 32 = .ok (.goto (-30), 3) := by decide +kernel
theorem dX0_fillStrict_35 : decode cX0_fillStrict 35 = .ok (.iconst 3, 1) := by decide +kernel
theorem dX0_fillStrict_36 : decode cX0_fillStrict 36 = .ok (.istore_n 1, 1) := by decide +kernel
theorem dX0_fillStrict_37 : decode cX0_fillStrict 37 = .ok (.iload_n 1, 1) := by decide +kernel
theorem dX0_fillStrict_38 : decode cX0_fillStrict 38 = .ok (.ifCond .lt 42, 3) := by decide +kernel
theorem dX0_fillStrict_41 : decode cX0_fillStrict 41 = .ok (.iconst 0, 1) := by decide +kernel
theorem dX0_fillStrict_42 : decode cX0_fillStrict 42 = .ok (.istore_n 2, 1) := by decide +kernel
theorem dX0_fillStrict_43 : decode cX0_fillStrict 43 = .ok (.iload_n 2, 1) := by decide +kernel
theorem dX0_fillStrict_44 : decode cX0_fillStrict 44 = .ok (.sipush 280, 3) := by decide +kernel
theorem dX0_fillStrict_47 : decode cX0_fillStrict 47 = .ok (.if_icmp .gt 27, 3) := by decide +kernel
theorem dX0_fillStrict_50 : decode cX0_fillStrict 50 = .ok (.aload_n 0, 1) := by decide +kernel
theorem dX0_fillStrict_51 : decode cX0_fillStrict 51 = .ok (.getfield 28, 3) := by decide +kernel
theorem dX0_fillStrict_54 : decode cX0_fillStrict 54 = .ok (.sipush 281, 3) := by decide +kernel
theorem dX0_fillStrict_57 : decode cX0_fillStrict 57 = .ok (.iload_n 1, 1) := by decide +kernel
theorem dX0_fillStrict_58 : decode cX0_fillStrict 58 = .ok (.imul, 1) := by decide +kernel
theorem dX0_fillStrict_59 : decode cX0_fillStrict 59 = .ok (.iload_n 2, 1) := by decide +kernel
theorem dX0_fillStrict_60 : decode cX0_fillStrict 60 = .ok (.iadd, 1) := by decide +kernel
theorem dX0_fillStrict_61 : decode cX0_fillStrict 61 = .ok (.aload_n 0, 1) := by decide +kernel
theorem dX0_fillStrict_62 : decode cX0_fillStrict 62 = .ok (.iload_n 1, 1) := by decide +kernel
theorem dX0_fillStrict_63 : decode cX0_fillStrict 63 = .ok (.iload_n 2, 1) := by decide +kernel
theorem dX0_fillStrict_64 : decode cX0_fillStrict 64 = .ok (.invokevirtual 85, 3) := by decide +kernel
theorem dX0_fillStrict_67 : decode cX0_fillStrict 67 = .ok (.iastore, 1) := by decide +kernel
theorem dX0_fillStrict_68 : decode cX0_fillStrict 68 = .ok (.iinc 2 1, 3) := by decide +kernel
theorem dX0_fillStrict_71 : decode cX0_fillStrict 71 = .ok (.goto (-28), 3) := by decide +kernel
theorem dX0_fillStrict_74 : decode cX0_fillStrict 74 = .ok (.iinc 1 (-1), 3) := by decide +kernel
theorem dX0_fillStrict_77 : decode cX0_fillStrict 77 = .ok (.goto (-40), 3) := by decide +kernel
theorem dX0_fillStrict_80 : decode cX0_fillStrict 80 = .ok (.return_, 1) := by decide +kernel
abbrev cX0_strictEntry : ByteArray := prog_1_method_28_code
def yX0_strictEntry : MethodName := ⟨RX0, "strictEntry", "(II)I"⟩
theorem dX0_strictEntry_0 : decode cX0_strictEntry 0 = .ok (.iconst 0, 1) := by decide +kernel
theorem dX0_strictEntry_1 : decode cX0_strictEntry 1 = .ok (.istore_n 3, 1) := by decide +kernel
theorem dX0_strictEntry_2 : decode cX0_strictEntry 2 = .ok (.iconst (-1), 1) := by decide +kernel
theorem dX0_strictEntry_3 : decode cX0_strictEntry 3 = .ok (.istore 4, 2) := by decide +kernel
theorem dX0_strictEntry_5 : decode cX0_strictEntry 5 = .ok (.iconst 0, 1) := by decide +kernel
theorem dX0_strictEntry_6 : decode cX0_strictEntry 6 = .ok (.istore 5, 2) := by decide +kernel
theorem dX0_strictEntry_8 : decode cX0_strictEntry 8 = .ok (.iload 5, 2) := by decide +kernel
theorem dX0_strictEntry_10 : decode cX0_strictEntry 10 = .ok (.aload_n 0, 1) := by decide +kernel
theorem dX0_strictEntry_11 : decode cX0_strictEntry 11 = .ok (.getfield 41, 3) := by decide +kernel
theorem dX0_strictEntry_14 : decode cX0_strictEntry 14 = .ok (.if_icmp .ge 37, 3) := by decide +kernel
theorem dX0_strictEntry_17 : decode cX0_strictEntry 17 = .ok (.aload_n 0, 1) := by decide +kernel
theorem dX0_strictEntry_18 : decode cX0_strictEntry 18 = .ok (.getfield 19, 3) := by decide +kernel
theorem dX0_strictEntry_21 : decode cX0_strictEntry 21 = .ok (.iload 5, 2) := by decide +kernel
theorem dX0_strictEntry_23 : decode cX0_strictEntry 23 = .ok (.iaload, 1) := by decide +kernel
theorem dX0_strictEntry_24 : decode cX0_strictEntry 24 = .ok (.iload_n 1, 1) := by decide +kernel
theorem dX0_strictEntry_25 : decode cX0_strictEntry 25 = .ok (.if_icmp .ne 20, 3) := by decide +kernel
theorem dX0_strictEntry_28 : decode cX0_strictEntry 28 = .ok (.aload_n 0, 1) := by decide +kernel
theorem dX0_strictEntry_29 : decode cX0_strictEntry 29 = .ok (.getfield 31, 3) := by decide +kernel
theorem dX0_strictEntry_32 : decode cX0_strictEntry 32 = .ok (.iload 5, 2) := by decide +kernel
theorem dX0_strictEntry_34 : decode cX0_strictEntry 34 = .ok (.iaload, 1) := by decide +kernel
theorem dX0_strictEntry_35 : decode cX0_strictEntry 35 = .ok (.ifCond .le 10, 3) := by decide +kernel
theorem dX0_strictEntry_38 : decode cX0_strictEntry 38 = .ok (.iinc 3 1, 3) := by decide +kernel
theorem dX0_strictEntry_41 : decode cX0_strictEntry 41 = .ok (.iload 5, 2) := by decide +kernel
theorem dX0_strictEntry_43 : decode cX0_strictEntry 43 = .ok (.istore 4, 2) := by decide +kernel
theorem dX0_strictEntry_45 : decode cX0_strictEntry 45 = .ok (.iinc 5 1, 3) := by decide +kernel
theorem dX0_strictEntry_48 : decode cX0_strictEntry 48 = .ok (.goto (-40), 3) := by decide +kernel
theorem dX0_strictEntry_51 : decode cX0_strictEntry 51 = .ok (.iload_n 3, 1) := by decide +kernel
theorem dX0_strictEntry_52 : decode cX0_strictEntry 52 = .ok (.iconst 1, 1) := by decide +kernel
theorem dX0_strictEntry_53 : decode cX0_strictEntry 53 = .ok (.if_icmp .le 6, 3) := by decide +kernel
theorem dX0_strictEntry_56 : decode cX0_strictEntry 56 = .ok (.ldc 80, 2) := by decide +kernel
theorem dX0_strictEntry_58 : decode cX0_strictEntry 58 = .ok (.ireturn, 1) := by decide +kernel
theorem dX0_strictEntry_59 : decode cX0_strictEntry 59 = .ok (.iload_n 3, 1) := by decide +kernel
theorem dX0_strictEntry_60 : decode cX0_strictEntry 60 = .ok (.ifCond .ne 20, 3) := by decide +kernel
theorem dX0_strictEntry_63 : decode cX0_strictEntry 63 = .ok (.aload_n 0, 1) := by decide +kernel
theorem dX0_strictEntry_64 : decode cX0_strictEntry 64 = .ok (.getfield 28, 3) := by decide +kernel
theorem dX0_strictEntry_67 : decode cX0_strictEntry 67 = .ok (.sipush 281, 3) := by decide +kernel
theorem dX0_strictEntry_70 : decode cX0_strictEntry 70 = .ok (.iload_n 1, 1) := by decide +kernel
theorem dX0_strictEntry_71 : decode cX0_strictEntry 71 = .ok (.iconst 1, 1) := by decide +kernel
theorem dX0_strictEntry_72 : decode cX0_strictEntry 72 = .ok (.iadd, 1) := by decide +kernel
theorem dX0_strictEntry_73 : decode cX0_strictEntry 73 = .ok (.imul, 1) := by decide +kernel
theorem dX0_strictEntry_74 : decode cX0_strictEntry 74 = .ok (.iload_n 2, 1) := by decide +kernel
theorem dX0_strictEntry_75 : decode cX0_strictEntry 75 = .ok (.iadd, 1) := by decide +kernel
theorem dX0_strictEntry_76 : decode cX0_strictEntry 76 = .ok (.iaload, 1) := by decide +kernel
theorem dX0_strictEntry_77 : decode cX0_strictEntry 77 = .ok (.goto 5, 3) := by decide +kernel
theorem dX0_strictEntry_80 : decode cX0_strictEntry 80 = .ok (.ldc 80, 2) := by decide +kernel
theorem dX0_strictEntry_82 : decode cX0_strictEntry 82 = .ok (.istore 5, 2) := by decide +kernel
theorem dX0_strictEntry_84 : decode cX0_strictEntry 84 = .ok (.iconst 0, 1) := by decide +kernel
theorem dX0_strictEntry_85 : decode cX0_strictEntry 85 = .ok (.istore 6, 2) := by decide +kernel
theorem dX0_strictEntry_87 : decode cX0_strictEntry 87 = .ok (.iload 6, 2) := by decide +kernel
theorem dX0_strictEntry_89 : decode cX0_strictEntry 89 = .ok (.aload_n 0, 1) := by decide +kernel
theorem dX0_strictEntry_90 : decode cX0_strictEntry 90 = .ok (.getfield 41, 3) := by decide +kernel
theorem dX0_strictEntry_93 : decode cX0_strictEntry 93 = .ok (.if_icmp .ge 57, 3) := by decide +kernel
theorem dX0_strictEntry_96 : decode cX0_strictEntry 96 = .ok (.aload_n 0, 1) := by decide +kernel
theorem dX0_strictEntry_97 : decode cX0_strictEntry 97 = .ok (.getfield 19, 3) := by decide +kernel
theorem dX0_strictEntry_100 : decode cX0_strictEntry 100 = .ok (.iload 6, 2) := by decide +kernel
theorem dX0_strictEntry_102 : decode cX0_strictEntry 102 = .ok (.iaload, 1) := by decide +kernel
theorem dX0_strictEntry_103 : decode cX0_strictEntry 103 = .ok (.iload_n 1, 1) := by decide +kernel
theorem dX0_strictEntry_104 : decode cX0_strictEntry 104 = .ok (.if_icmp .ne 40, 3) := by decide +kernel
theorem dX0_strictEntry_107 : decode cX0_strictEntry 107 = .ok (.iload_n 3, 1) := by decide +kernel
theorem dX0_strictEntry_108 : decode cX0_strictEntry 108 = .ok (.ifCond .eq 10, 3) := by decide +kernel
theorem dX0_strictEntry_111 : decode cX0_strictEntry 111 = .ok (.iload 6, 2) := by decide +kernel
theorem dX0_strictEntry_113 : decode cX0_strictEntry 113 = .ok (.iload 4, 2) := by decide +kernel
theorem dX0_strictEntry_115 : decode cX0_strictEntry 115 = .ok (.if_icmp .ne 29, 3) := by decide +kernel
theorem dX0_strictEntry_118 : decode cX0_strictEntry 118 = .ok (.aload_n 0, 1) := by decide +kernel
theorem dX0_strictEntry_119 : decode cX0_strictEntry 119 = .ok (.iload_n 1, 1) := by decide +kernel
theorem dX0_strictEntry_120 : decode cX0_strictEntry 120 = .ok (.iload 6, 2) := by decide +kernel
theorem dX0_strictEntry_122 : decode cX0_strictEntry 122 = .ok (.iload_n 2, 1) := by decide +kernel
theorem dX0_strictEntry_123 : decode cX0_strictEntry 123 = .ok (.invokevirtual 89, 3) := by decide +kernel
theorem dX0_strictEntry_126 : decode cX0_strictEntry 126 = .ok (.istore 7, 2) := by decide +kernel
theorem dX0_strictEntry_128 : decode cX0_strictEntry 128 = .ok (.iload 7, 2) := by decide +kernel
theorem dX0_strictEntry_130 : decode cX0_strictEntry 130 = .ok (.iload 5, 2) := by decide +kernel
theorem dX0_strictEntry_132 : decode cX0_strictEntry 132 = .ok (.if_icmp .le 8, 3) := by decide +kernel
theorem dX0_strictEntry_135 : decode cX0_strictEntry 135 = .ok (.iload 7, 2) := by decide +kernel
theorem dX0_strictEntry_137 : decode cX0_strictEntry 137 = .ok (.goto 5, 3) := by decide +kernel
theorem dX0_strictEntry_140 : decode cX0_strictEntry 140 = .ok (.iload 5, 2) := by decide +kernel
theorem dX0_strictEntry_142 : decode cX0_strictEntry 142 = .ok (.istore 5, 2) := by decide +kernel
theorem dX0_strictEntry_144 : decode cX0_strictEntry 144 = .ok (.iinc 6 1, 3) := by decide +kernel
theorem dX0_strictEntry_147 : decode cX0_strictEntry 147 = .ok (.goto (-60), 3) := by decide +kernel
theorem dX0_strictEntry_150 : decode cX0_strictEntry 150 = .ok (.iload 5, 2) := by decide +kernel
theorem dX0_strictEntry_152 : decode cX0_strictEntry 152 = .ok (.ireturn, 1) := by decide +kernel
end
section
set_option maxRecDepth 100000
abbrev cX0_withGood : ByteArray := prog_1_method_29_code
def yX0_withGood : MethodName := ⟨RX0, "withGood", "(III)I"⟩
theorem dX0_withGood_0 : decode cX0_withGood 0 = .ok (.ldc 80, 2) := by decide +kernel
theorem dX0_withGood_2 : decode cX0_withGood 2 = .ok (.istore 4, 2) := by decide +kernel
theorem dX0_withGood_4 : decode cX0_withGood 4 = .ok (.iconst 1, 1) := by decide +kernel
theorem dX0_withGood_5 : decode cX0_withGood 5 = .ok (.istore 5, 2) := by decide +kernel
theorem dX0_withGood_7 : decode cX0_withGood 7 = .ok (.iload 5, 2) := by decide +kernel
theorem dX0_withGood_9 : decode cX0_withGood 9 = .ok (.aload_n 0, 1) := by decide +kernel
theorem dX0_withGood_10 : decode cX0_withGood 10 = .ok (.getfield 16, 3) := by decide +kernel
theorem dX0_withGood_13 : decode cX0_withGood 13 = .ok (.iload_n 2, 1) := by decide +kernel
theorem dX0_withGood_14 : decode cX0_withGood 14 = .ok (.iaload, 1) := by decide +kernel
theorem dX0_withGood_15 : decode cX0_withGood 15 = .ok (.if_icmp .gt 120, 3) := by decide +kernel
theorem dX0_withGood_18 : decode cX0_withGood 18 = .ok (.aload_n 0, 1) := by decide +kernel
theorem dX0_withGood_19 : decode cX0_withGood 19 = .ok (.getfield 31, 3) := by decide +kernel
theorem dX0_withGood_22 : decode cX0_withGood 22 = .ok (.iload_n 2, 1) := by decide +kernel
theorem dX0_withGood_23 : decode cX0_withGood 23 = .ok (.iaload, 1) := by decide +kernel
theorem dX0_withGood_24 : decode cX0_withGood 24 = .ok (.ifCond .lt 14, 3) := by decide +kernel
theorem dX0_withGood_27 : decode cX0_withGood 27 = .ok (.aload_n 0, 1) := by decide +kernel
theorem dX0_withGood_28 : decode cX0_withGood 28 = .ok (.getfield 31, 3) := by decide +kernel
theorem dX0_withGood_31 : decode cX0_withGood 31 = .ok (.iload_n 2, 1) := by decide +kernel
theorem dX0_withGood_32 : decode cX0_withGood 32 = .ok (.iaload, 1) := by decide +kernel
theorem dX0_withGood_33 : decode cX0_withGood 33 = .ok (.iload 5, 2) := by decide +kernel
theorem dX0_withGood_35 : decode cX0_withGood 35 = .ok (.if_icmp .ne 7, 3) := by decide +kernel
theorem dX0_withGood_38 : decode cX0_withGood 38 = .ok (.iconst 1, 1) := by decide +kernel
theorem dX0_withGood_39 : decode cX0_withGood 39 = .ok (.goto 4, 3) := by decide +kernel
theorem dX0_withGood_42 : decode cX0_withGood 42 = .ok (.iconst 0, 1) := by decide +kernel
theorem dX0_withGood_43 : decode cX0_withGood 43 = .ok (.istore 6, 2) := by decide +kernel
theorem dX0_withGood_45 : decode cX0_withGood 45 = .ok (.iload_n 3, 1) := by decide +kernel
theorem dX0_withGood_46 : decode cX0_withGood 46 = .ok (.iload 5, 2) := by decide +kernel
theorem dX0_withGood_48 : decode cX0_withGood 48 = .ok (.aload_n 0, 1) := by decide +kernel
theorem dX0_withGood_49 : decode cX0_withGood 49 = .ok (.getfield 7, 3) := by decide +kernel
theorem dX0_withGood_52 : decode cX0_withGood 52 = .ok (.iload_n 2, 1) := by decide +kernel
theorem dX0_withGood_53 : decode cX0_withGood 53 = .ok (.iaload, 1) := by decide +kernel
theorem dX0_withGood_54 : decode cX0_withGood 54 = .ok (.imul, 1) := by decide +kernel
theorem dX0_withGood_55 : decode cX0_withGood 55 = .ok (.isub, 1) := by decide +kernel
theorem dX0_withGood_56 : decode cX0_withGood 56 = .ok (.istore 7, 2) := by decide +kernel
theorem dX0_withGood_58 : decode cX0_withGood 58 = .ok (.iload 6, 2) := by decide +kernel
theorem dX0_withGood_60 : decode cX0_withGood 60 = .ok (.ifCond .eq 69, 3) := by decide +kernel
theorem dX0_withGood_63 : decode cX0_withGood 63 = .ok (.iload 7, 2) := by decide +kernel
theorem dX0_withGood_65 : decode cX0_withGood 65 = .ok (.ifCond .lt 64, 3) := by decide +kernel
theorem dX0_withGood_68 : decode cX0_withGood 68 = .ok (.aload_n 0, 1) := by decide +kernel
theorem dX0_withGood_69 : decode cX0_withGood 69 = .ok (.getfield 28, 3) := by decide +kernel
theorem dX0_withGood_72 : decode cX0_withGood 72 = .ok (.sipush 281, 3) := by decide +kernel
theorem dX0_withGood_75 : decode cX0_withGood 75 = .ok (.iload_n 1, 1) := by decide +kernel
theorem dX0_withGood_76 : decode cX0_withGood 76 = .ok (.iconst 1, 1) := by decide +kernel
theorem dX0_withGood_77 : decode cX0_withGood 77 = .ok (.iadd, 1) := by decide +kernel
theorem dX0_withGood_78 : decode cX0_withGood 78 = .ok (.imul, 1) := by decide +kernel
theorem dX0_withGood_79 : decode cX0_withGood 79 = .ok (.iload 7, 2) := by decide +kernel
theorem dX0_withGood_81 : decode cX0_withGood 81 = .ok (.iadd, 1) := by decide +kernel
theorem dX0_withGood_82 : decode cX0_withGood 82 = .ok (.iaload, 1) := by decide +kernel
theorem dX0_withGood_83 : decode cX0_withGood 83 = .ok (.ifCond .lt 46, 3) := by decide +kernel
theorem dX0_withGood_86 : decode cX0_withGood 86 = .ok (.aload_n 0, 1) := by decide +kernel
theorem dX0_withGood_87 : decode cX0_withGood 87 = .ok (.getfield 28, 3) := by decide +kernel
theorem dX0_withGood_90 : decode cX0_withGood 90 = .ok (.sipush 281, 3) := by decide +kernel
theorem dX0_withGood_93 : decode cX0_withGood 93 = .ok (.iload_n 1, 1) := by decide +kernel
theorem dX0_withGood_94 : decode cX0_withGood 94 = .ok (.iconst 1, 1) := by decide +kernel
theorem dX0_withGood_95 : decode cX0_withGood 95 = .ok (.iadd, 1) := by decide +kernel
theorem dX0_withGood_96 : decode cX0_withGood 96 = .ok (.imul, 1) := by decide +kernel
theorem dX0_withGood_97 : decode cX0_withGood 97 = .ok (.iload 7, 2) := by decide +kernel
theorem dX0_withGood_99 : decode cX0_withGood 99 = .ok (.iadd, 1) := by decide +kernel
theorem dX0_withGood_100 : decode cX0_withGood 100 = .ok (.iaload, 1) := by decide +kernel
theorem dX0_withGood_101 : decode cX0_withGood 101 = .ok (.iload 5, 2) := by decide +kernel
theorem dX0_withGood_103 : decode cX0_withGood 103 = .ok (.aload_n 0, 1) := by decide +kernel
theorem dX0_withGood_104 : decode cX0_withGood 104 = .ok (.getfield 13, 3) := by decide +kernel
theorem dX0_withGood_107 : decode cX0_withGood 107 = .ok (.iload_n 2, 1) := by decide +kernel
theorem dX0_withGood_108 : decode cX0_withGood 108 = .ok (.iaload, 1) := by decide +kernel
theorem dX0_withGood_109 : decode cX0_withGood 109 = .ok (.imul, 1) := by decide +kernel
theorem dX0_withGood_110 : decode cX0_withGood 110 = .ok (.iadd, 1) := by decide +kernel
theorem dX0_withGood_111 : decode cX0_withGood 111 = .ok (.istore 8, 2) := by decide +kernel
theorem dX0_withGood_113 : decode cX0_withGood 113 = .ok (.iload 8, 2) := by decide +kernel
theorem dX0_withGood_115 : decode cX0_withGood 115 = .ok (.iload 4, 2) := by decide +kernel
theorem dX0_withGood_117 : decode cX0_withGood 117 = .ok (.if_icmp .le 8, 3) := by decide +kernel
theorem dX0_withGood_120 : decode cX0_withGood 120 = .ok (.iload 8, 2) := by decide +kernel
theorem dX0_withGood_122 : decode cX0_withGood 122 = .ok (.goto 5, 3) := by decide +kernel
theorem dX0_withGood_125 : decode cX0_withGood 125 = .ok (.iload 4, 2) := by decide +kernel
theorem dX0_withGood_127 : decode cX0_withGood 127 = .ok (.istore 4, 2) := by decide +kernel
theorem dX0_withGood_129 : decode cX0_withGood 129 = .ok (.iinc 5 1, 3) := by decide +kernel
theorem dX0_withGood_132 : decode cX0_withGood 132 = .ok (.goto (-125), 3) := by decide +kernel
theorem dX0_withGood_135 : decode cX0_withGood 135 = .ok (.iload 4, 2) := by decide +kernel
theorem dX0_withGood_137 : decode cX0_withGood 137 = .ok (.ireturn, 1) := by decide +kernel
abbrev cX0_strictWeight : ByteArray := prog_1_method_30_code
def yX0_strictWeight : MethodName := ⟨RX0, "strictWeight", "()I"⟩
theorem dX0_strictWeight_0 : decode cX0_strictWeight 0 = .ok (.iconst 0, 1) := by decide +kernel
theorem dX0_strictWeight_1 : decode cX0_strictWeight 1 = .ok (.istore_n 1, 1) := by decide +kernel
theorem dX0_strictWeight_2 : decode cX0_strictWeight 2 = .ok (.iconst 1, 1) := by decide +kernel
theorem dX0_strictWeight_3 : decode cX0_strictWeight 3 = .ok (.istore_n 2, 1) := by decide +kernel
theorem dX0_strictWeight_4 : decode cX0_strictWeight 4 = .ok (.iload_n 2, 1) := by decide +kernel
theorem dX0_strictWeight_5 : decode cX0_strictWeight 5 = .ok (.aload_n 0, 1) := by decide +kernel
theorem dX0_strictWeight_6 : decode cX0_strictWeight 6 = .ok (.getfield 37, 3) := by decide +kernel
theorem dX0_strictWeight_9 : decode cX0_strictWeight 9 = .ok (.if_icmp .gt 30, 3) := by decide +kernel
theorem dX0_strictWeight_12 : decode cX0_strictWeight 12 = .ok (.aload_n 0, 1) := by decide +kernel
theorem dX0_strictWeight_13 : decode cX0_strictWeight 13 = .ok (.getfield 28, 3) := by decide +kernel
theorem dX0_strictWeight_16 : decode cX0_strictWeight 16 = .ok (.iload_n 2, 1) := by decide +kernel
theorem dX0_strictWeight_17 : decode cX0_strictWeight 17 = .ok (.iaload, 1) := by decide +kernel
theorem dX0_strictWeight_18 : decode cX0_strictWeight 18 = .ok (.aload_n 0, 1) := by decide +kernel
theorem dX0_strictWeight_19 : decode cX0_strictWeight 19 = .ok (.getfield 28, 3) := by decide +kernel
theorem dX0_strictWeight_22 : decode cX0_strictWeight 22 = .ok (.iload_n 1, 1) := by decide +kernel
theorem dX0_strictWeight_23 : decode cX0_strictWeight 23 = .ok (.iaload, 1) := by decide +kernel
theorem dX0_strictWeight_24 : decode cX0_strictWeight 24 = .ok (.if_icmp .le 7, 3) := by decide +kernel
theorem dX0_strictWeight_27 : decode cX0_strictWeight 27 = .ok (.iload_n 2, 1) := by decide +kernel
theorem dX0_strictWeight_28 : decode cX0_strictWeight 28 = .ok (.goto 4, 3) := by decide +kernel
theorem dX0_strictWeight_31 : decode cX0_strictWeight 31 = .ok (.iload_n 1, 1) := by decide +kernel
theorem dX0_strictWeight_32 : decode cX0_strictWeight 32 = .ok (.istore_n 1, 1) := by decide +kernel
theorem dX0_strictWeight_33 : decode cX0_strictWeight 33 = .ok (.iinc 2 1, 3) := by decide +kernel
theorem dX0_strictWeight_36 : decode cX0_strictWeight 36 = .ok (.goto (-32), 3) := by decide +kernel
theorem dX0_strictWeight_39 : decode cX0_strictWeight 39 = .ok (.iload_n 1, 1) := by decide +kernel
theorem dX0_strictWeight_40 : decode cX0_strictWeight 40 = .ok (.ireturn, 1) := by decide +kernel
abbrev cX0_bestStrictCode : ByteArray := prog_1_method_12_code
def yX0_bestStrictCode : MethodName := ⟨RX0, "bestStrictCode", "()I"⟩
theorem dX0_bestStrictCode_0 : decode cX0_bestStrictCode 0 = .ok (.aload_n 0, 1) := by decide +kernel
theorem dX0_bestStrictCode_1 : decode cX0_bestStrictCode 1 = .ok (.invokevirtual 67, 3) := by decide +kernel
theorem dX0_bestStrictCode_4 : decode cX0_bestStrictCode 4 = .ok (.aload_n 0, 1) := by decide +kernel
theorem dX0_bestStrictCode_5 : decode cX0_bestStrictCode 5 = .ok (.invokevirtual 70, 3) := by decide +kernel
theorem dX0_bestStrictCode_8 : decode cX0_bestStrictCode 8 = .ok (.aload_n 0, 1) := by decide +kernel
theorem dX0_bestStrictCode_9 : decode cX0_bestStrictCode 9 = .ok (.invokevirtual 73, 3) := by decide +kernel
theorem dX0_bestStrictCode_12 : decode cX0_bestStrictCode 12 = .ok (.istore_n 1, 1) := by decide +kernel
theorem dX0_bestStrictCode_13 : decode cX0_bestStrictCode 13 = .ok (.aload_n 0, 1) := by decide +kernel
theorem dX0_bestStrictCode_14 : decode cX0_bestStrictCode 14 = .ok (.getfield 28, 3) := by decide +kernel
theorem dX0_bestStrictCode_17 : decode cX0_bestStrictCode 17 = .ok (.iload_n 1, 1) := by decide +kernel
theorem dX0_bestStrictCode_18 : decode cX0_bestStrictCode 18 = .ok (.iaload, 1) := by decide +kernel
theorem dX0_bestStrictCode_19 : decode cX0_bestStrictCode 19 = .ok (.istore_n 2, 1) := by decide +kernel
theorem dX0_bestStrictCode_20 : decode cX0_bestStrictCode 20 = .ok (.iconst 0, 1) := by decide +kernel
theorem dX0_bestStrictCode_21 : decode cX0_bestStrictCode 21 = .ok (.istore_n 3, 1) := by decide +kernel
theorem dX0_bestStrictCode_22 : decode cX0_bestStrictCode 22 = .ok (.iconst 0, 1) := by decide +kernel
theorem dX0_bestStrictCode_23 : decode cX0_bestStrictCode 23 = .ok (.istore 4, 2) := by decide +kernel
theorem dX0_bestStrictCode_25 : decode cX0_bestStrictCode 25 = .ok (.iload 4, 2) := by decide +kernel
theorem dX0_bestStrictCode_27 : decode cX0_bestStrictCode 27 = .ok (.aload_n 0, 1) := by decide +kernel
theorem dX0_bestStrictCode_28 : decode cX0_bestStrictCode 28 = .ok (.getfield 41, 3) := by decide +kernel
theorem dX0_bestStrictCode_31 : decode cX0_bestStrictCode 31 = .ok (.if_icmp .ge 72, 3) := by decide +kernel
theorem dX0_bestStrictCode_34 : decode cX0_bestStrictCode 34 = .ok (.iconst 0, 1) := by decide +kernel
theorem dX0_bestStrictCode_35 : decode cX0_bestStrictCode 35 = .ok (.istore 5, 2) := by decide +kernel
theorem dX0_bestStrictCode_37 : decode cX0_bestStrictCode 37 = .ok (.iload 5, 2) := by decide +kernel
theorem dX0_bestStrictCode_39 : decode cX0_bestStrictCode 39 = .ok (.aload_n 0, 1) := by decide +kernel
theorem dX0_bestStrictCode_40 : decode cX0_bestStrictCode 40 = .ok (.getfield 16, 3) := by decide +kernel
theorem dX0_bestStrictCode_43 : decode cX0_bestStrictCode 43 = .ok (.iload 4, 2) := by decide +kernel
theorem dX0_bestStrictCode_45 : decode cX0_bestStrictCode 45 = .ok (.iaload, 1) := by decide +kernel
theorem dX0_bestStrictCode_46 : decode cX0_bestStrictCode 46 = .ok (.if_icmp .ge 35, 3) := by decide +kernel
theorem dX0_bestStrictCode_49 : decode cX0_bestStrictCode 49 = .ok (.aload_n 0, 1) := by decide +kernel
theorem dX0_bestStrictCode_50 : decode cX0_bestStrictCode 50 = .ok (.getfield 31, 3) := by decide +kernel
theorem dX0_bestStrictCode_53 : decode cX0_bestStrictCode 53 = .ok (.iload 4, 2) := by decide +kernel
theorem dX0_bestStrictCode_55 : decode cX0_bestStrictCode 55 = .ok (.iload 5, 2) := by decide +kernel
theorem dX0_bestStrictCode_57 : decode cX0_bestStrictCode 57 = .ok (.iastore, 1) := by decide +kernel
theorem dX0_bestStrictCode_58 : decode cX0_bestStrictCode 58 = .ok (.aload_n 0, 1) := by decide +kernel
theorem dX0_bestStrictCode_59 : decode cX0_bestStrictCode 59 = .ok (.invokevirtual 70, 3) := by decide +kernel
theorem dX0_bestStrictCode_62 : decode cX0_bestStrictCode 62 = .ok (.aload_n 0, 1) := by decide +kernel
theorem dX0_bestStrictCode_63 : decode cX0_bestStrictCode 63 = .ok (.getfield 28, 3) := by decide +kernel
theorem dX0_bestStrictCode_66 : decode cX0_bestStrictCode 66 = .ok (.iload_n 1, 1) := by decide +kernel
theorem dX0_bestStrictCode_67 : decode cX0_bestStrictCode 67 = .ok (.iaload, 1) := by decide +kernel
theorem dX0_bestStrictCode_68 : decode cX0_bestStrictCode 68 = .ok (.iload_n 2, 1) := by decide +kernel
theorem dX0_bestStrictCode_69 : decode cX0_bestStrictCode 69 = .ok (.if_icmp .ne 6, 3) := by decide +kernel
theorem dX0_bestStrictCode_72 : decode cX0_bestStrictCode 72 = .ok (.goto 9, 3) := by decide +kernel
theorem dX0_bestStrictCode_75 : decode cX0_bestStrictCode 75 = .ok (.iinc 5 1, 3) := by decide +kernel
theorem dX0_bestStrictCode_78 : decode cX0_bestStrictCode 78 = .ok (.goto (-41), 3) := by decide +kernel
theorem dX0_bestStrictCode_81 : decode cX0_bestStrictCode 81 = .ok (.aload_n 0, 1) := by decide +kernel
theorem dX0_bestStrictCode_82 : decode cX0_bestStrictCode 82 = .ok (.getfield 31, 3) := by decide +kernel
theorem dX0_bestStrictCode_85 : decode cX0_bestStrictCode 85 = .ok (.iload 4, 2) := by decide +kernel
theorem dX0_bestStrictCode_87 : decode cX0_bestStrictCode 87 = .ok (.iload 5, 2) := by decide +kernel
theorem dX0_bestStrictCode_89 : decode cX0_bestStrictCode 89 = .ok (.iastore, 1) := by decide +kernel
theorem dX0_bestStrictCode_90 : decode cX0_bestStrictCode 90 = .ok (.iconst 3, 1) := by decide +kernel
theorem dX0_bestStrictCode_91 : decode cX0_bestStrictCode 91 = .ok (.iload_n 3, 1) := by decide +kernel
theorem dX0_bestStrictCode_92 : decode cX0_bestStrictCode 92 = .ok (.imul, 1) := by decide +kernel
theorem dX0_bestStrictCode_93 : decode cX0_bestStrictCode 93 = .ok (.iload 5, 2) := by decide +kernel
theorem dX0_bestStrictCode_95 : decode cX0_bestStrictCode 95 = .ok (.iadd, 1) := by decide +kernel
theorem dX0_bestStrictCode_96 : decode cX0_bestStrictCode 96 = .ok (.istore_n 3, 1) := by decide +kernel
theorem dX0_bestStrictCode_97 : decode cX0_bestStrictCode 97 = .ok (.iinc 4 1, 3) := by decide +kernel
theorem dX0_bestStrictCode_100 : decode cX0_bestStrictCode 100 = .ok (.goto (-75), 3) := by decide +kernel
theorem dX0_bestStrictCode_103 : decode cX0_bestStrictCode 103 = .ok (.iload_n 3, 1) := by decide +kernel
theorem dX0_bestStrictCode_104 : decode cX0_bestStrictCode 104 = .ok (.ireturn, 1) := by decide +kernel
abbrev cX0_fitting : ByteArray := prog_1_method_13_code
def yX0_fitting : MethodName := ⟨RX0, "fitting", "()I"⟩
theorem dX0_fitting_0 : decode cX0_fitting 0 = .ok (.aload_n 0, 1) := by decide +kernel
theorem dX0_fitting_1 : decode cX0_fitting 1 = .ok (.iconst (-1), 1) := by decide +kernel
theorem dX0_fitting_2 : decode cX0_fitting 2 = .ok (.invokevirtual 55, 3) := by decide +kernel
theorem dX0_fitting_5 : decode cX0_fitting 5 = .ok (.iconst 0, 1) := by decide +kernel
theorem dX0_fitting_6 : decode cX0_fitting 6 = .ok (.istore_n 1, 1) := by decide +kernel
theorem dX0_fitting_7 : decode cX0_fitting 7 = .ok (.iconst 0, 1) := by decide +kernel
theorem dX0_fitting_8 : decode cX0_fitting 8 = .ok (.istore_n 2, 1) := by decide +kernel
theorem dX0_fitting_9 : decode cX0_fitting 9 = .ok (.iload_n 2, 1) := by decide +kernel
theorem dX0_fitting_10 : decode cX0_fitting 10 = .ok (.aload_n 0, 1) := by decide +kernel
theorem dX0_fitting_11 : decode cX0_fitting 11 = .ok (.getfield 37, 3) := by decide +kernel
theorem dX0_fitting_14 : decode cX0_fitting 14 = .ok (.if_icmp .gt 18, 3) := by decide +kernel
theorem dX0_fitting_17 : decode cX0_fitting 17 = .ok (.iload_n 1, 1) := by decide +kernel
theorem dX0_fitting_18 : decode cX0_fitting 18 = .ok (.aload_n 0, 1) := by decide +kernel
theorem dX0_fitting_19 : decode cX0_fitting 19 = .ok (.getfield 25, 3) := by decide +kernel
theorem dX0_fitting_22 : decode cX0_fitting 22 = .ok (.iload_n 2, 1) := by decide +kernel
theorem dX0_fitting_23 : decode cX0_fitting 23 = .ok (.iaload, 1) := by decide +kernel
theorem dX0_fitting_24 : decode cX0_fitting 24 = .ok (.iadd, 1) := by decide +kernel
theorem dX0_fitting_25 : decode cX0_fitting 25 = .ok (.istore_n 1, 1) := by decide +kernel
theorem dX0_fitting_26 : decode cX0_fitting 26 = .ok (.iinc 2 1, 3) := by decide +kernel
theorem dX0_fitting_29 : decode cX0_fitting 29 = .ok (.goto (-20), 3) := by decide +kernel
theorem dX0_fitting_32 : decode cX0_fitting 32 = .ok (.iload_n 1, 1) := by decide +kernel
theorem dX0_fitting_33 : decode cX0_fitting 33 = .ok (.ireturn, 1) := by decide +kernel
abbrev cX0_weighing : ByteArray := prog_1_method_14_code
def yX0_weighing : MethodName := ⟨RX0, "weighing", "(I)I"⟩
theorem dX0_weighing_0 : decode cX0_weighing 0 = .ok (.iload_n 1, 1) := by decide +kernel
theorem dX0_weighing_1 : decode cX0_weighing 1 = .ok (.ifCond .lt 10, 3) := by decide +kernel
theorem dX0_weighing_4 : decode cX0_weighing 4 = .ok (.iload_n 1, 1) := by decide +kernel
theorem dX0_weighing_5 : decode cX0_weighing 5 = .ok (.sipush 300, 3) := by decide +kernel
theorem dX0_weighing_8 : decode cX0_weighing 8 = .ok (.if_icmp .le 5, 3) := by decide +kernel
theorem dX0_weighing_11 : decode cX0_weighing 11 = .ok (.iconst (-1), 1) := by decide +kernel
theorem dX0_weighing_12 : decode cX0_weighing 12 = .ok (.ireturn, 1) := by decide +kernel
theorem dX0_weighing_13 : decode cX0_weighing 13 = .ok (.aload_n 0, 1) := by decide +kernel
theorem dX0_weighing_14 : decode cX0_weighing 14 = .ok (.iconst (-1), 1) := by decide +kernel
theorem dX0_weighing_15 : decode cX0_weighing 15 = .ok (.invokevirtual 55, 3) := by decide +kernel
theorem dX0_weighing_18 : decode cX0_weighing 18 = .ok (.iload_n 1, 1) := by decide +kernel
theorem dX0_weighing_19 : decode cX0_weighing 19 = .ok (.sipush 280, 3) := by decide +kernel
theorem dX0_weighing_22 : decode cX0_weighing 22 = .ok (.if_icmp .gt 12, 3) := by decide +kernel
theorem dX0_weighing_25 : decode cX0_weighing 25 = .ok (.aload_n 0, 1) := by decide +kernel
theorem dX0_weighing_26 : decode cX0_weighing 26 = .ok (.getfield 25, 3) := by decide +kernel
theorem dX0_weighing_29 : decode cX0_weighing 29 = .ok (.iload_n 1, 1) := by decide +kernel
theorem dX0_weighing_30 : decode cX0_weighing 30 = .ok (.iaload, 1) := by decide +kernel
theorem dX0_weighing_31 : decode cX0_weighing 31 = .ok (.goto 4, 3) := by decide +kernel
theorem dX0_weighing_34 : decode cX0_weighing 34 = .ok (.iconst 0, 1) := by decide +kernel
theorem dX0_weighing_35 : decode cX0_weighing 35 = .ok (.ireturn, 1) := by decide +kernel
abbrev cX0_fullest : ByteArray := prog_1_method_15_code
def yX0_fullest : MethodName := ⟨RX0, "fullest", "()I"⟩
theorem dX0_fullest_0 : decode cX0_fullest 0 = .ok (.aload_n 0, 1) := by decide +kernel
theorem dX0_fullest_1 : decode cX0_fullest 1 = .ok (.iconst (-1), 1) := by decide +kernel
theorem dX0_fullest_2 : decode cX0_fullest 2 = .ok (.invokevirtual 55, 3) := by decide +kernel
theorem dX0_fullest_5 : decode cX0_fullest 5 = .ok (.aload_n 0, 1) := by decide +kernel
theorem dX0_fullest_6 : decode cX0_fullest 6 = .ok (.getfield 37, 3) := by decide +kernel
theorem dX0_fullest_9 : decode cX0_fullest 9 = .ok (.istore_n 1, 1) := by decide +kernel
theorem dX0_fullest_10 : decode cX0_fullest 10 = .ok (.iload_n 1, 1) := by decide +kernel
theorem dX0_fullest_11 : decode cX0_fullest 11 = .ok (.ifCond .le 18, 3) := by decide +kernel
theorem dX0_fullest_14 : decode cX0_fullest 14 = .ok (.aload_n 0, 1) := by decide +kernel
theorem dX0_fullest_15 : decode cX0_fullest 15 = .ok (.getfield 25, 3) := by decide +kernel
theorem dX0_fullest_18 : decode cX0_fullest 18 = .ok (.iload_n 1, 1) := by decide +kernel
theorem dX0_fullest_19 : decode cX0_fullest 19 = .ok (.iaload, 1) := by decide +kernel
theorem dX0_fullest_20 : decode cX0_fullest 20 = .ok (.ifCond .ne 9, 3) := by decide +kernel
theorem dX0_fullest_23 : decode cX0_fullest 23 = .ok (.iinc 1 (-1), 3) := by decide +kernel
theorem dX0_fullest_26 : decode cX0_fullest 26 = .ok (.goto (-16), 3) := by decide +kernel
theorem dX0_fullest_29 : decode cX0_fullest 29 = .ok (.iload_n 1, 1) := by decide +kernel
theorem dX0_fullest_30 : decode cX0_fullest 30 = .ok (.ireturn, 1) := by decide +kernel
abbrev cX0_lightest : ByteArray := prog_1_method_16_code
def yX0_lightest : MethodName := ⟨RX0, "lightest", "(I)I"⟩
theorem dX0_lightest_0 : decode cX0_lightest 0 = .ok (.aload_n 0, 1) := by decide +kernel
theorem dX0_lightest_1 : decode cX0_lightest 1 = .ok (.iconst (-1), 1) := by decide +kernel
theorem dX0_lightest_2 : decode cX0_lightest 2 = .ok (.invokevirtual 55, 3) := by decide +kernel
theorem dX0_lightest_5 : decode cX0_lightest 5 = .ok (.iconst 0, 1) := by decide +kernel
theorem dX0_lightest_6 : decode cX0_lightest 6 = .ok (.istore_n 2, 1) := by decide +kernel
theorem dX0_lightest_7 : decode cX0_lightest 7 = .ok (.iload_n 2, 1) := by decide +kernel
theorem dX0_lightest_8 : decode cX0_lightest 8 = .ok (.sipush 280, 3) := by decide +kernel
theorem dX0_lightest_11 : decode cX0_lightest 11 = .ok (.if_icmp .gt 30, 3) := by decide +kernel
theorem dX0_lightest_14 : decode cX0_lightest 14 = .ok (.aload_n 0, 1) := by decide +kernel
theorem dX0_lightest_15 : decode cX0_lightest 15 = .ok (.getfield 22, 3) := by decide +kernel
theorem dX0_lightest_18 : decode cX0_lightest 18 = .ok (.iload_n 2, 1) := by decide +kernel
theorem dX0_lightest_19 : decode cX0_lightest 19 = .ok (.iaload, 1) := by decide +kernel
theorem dX0_lightest_20 : decode cX0_lightest 20 = .ok (.ifCond .lt 15, 3) := by decide +kernel
theorem dX0_lightest_23 : decode cX0_lightest 23 = .ok (.aload_n 0, 1) := by decide +kernel
theorem dX0_lightest_24 : decode cX0_lightest 24 = .ok (.getfield 22, 3) := by decide +kernel
theorem dX0_lightest_27 : decode cX0_lightest 27 = .ok (.iload_n 2, 1) := by decide +kernel
theorem dX0_lightest_28 : decode cX0_lightest 28 = .ok (.iaload, 1) := by decide +kernel
theorem dX0_lightest_29 : decode cX0_lightest 29 = .ok (.iload_n 1, 1) := by decide +kernel
theorem dX0_lightest_30 : decode cX0_lightest 30 = .ok (.if_icmp .lt 5, 3) := by decide +kernel
theorem dX0_lightest_33 : decode cX0_lightest 33 = .ok (.iload_n 2, 1) := by decide +kernel
theorem dX0_lightest_34 : decode cX0_lightest 34 = .ok (.ireturn, 1) := by decide +kernel
theorem dX0_lightest_35 : decode cX0_lightest 35 = .ok (.iinc 2 1, 3) := by decide +kernel
theorem dX0_lightest_38 : decode cX0_lightest 38 = .ok (.goto (-31), 3) := by decide +kernel
theorem dX0_lightest_41 : decode cX0_lightest 41 = .ok (.iconst (-1), 1) := by decide +kernel
theorem dX0_lightest_42 : decode cX0_lightest 42 = .ok (.ireturn, 1) := by decide +kernel
abbrev cX0_two : ByteArray := prog_1_method_17_code
def yX0_two : MethodName := ⟨RX0, "two", "(I)I"⟩
theorem dX0_two_0 : decode cX0_two 0 = .ok (.iload_n 1, 1) := by decide +kernel
theorem dX0_two_1 : decode cX0_two 1 = .ok (.ifCond .lt 9, 3) := by decide +kernel
theorem dX0_two_4 : decode cX0_two 4 = .ok (.iload_n 1, 1) := by decide +kernel
theorem dX0_two_5 : decode cX0_two 5 = .ok (.bipush 60, 2) := by decide +kernel
theorem dX0_two_7 : decode cX0_two 7 = .ok (.if_icmp .le 5, 3) := by decide +kernel
theorem dX0_two_10 : decode cX0_two 10 = .ok (.iconst (-1), 1) := by decide +kernel
theorem dX0_two_11 : decode cX0_two 11 = .ok (.ireturn, 1) := by decide +kernel
theorem dX0_two_12 : decode cX0_two 12 = .ok (.iconst 0, 1) := by decide +kernel
theorem dX0_two_13 : decode cX0_two 13 = .ok (.istore_n 2, 1) := by decide +kernel
theorem dX0_two_14 : decode cX0_two 14 = .ok (.iload_n 2, 1) := by decide +kernel
theorem dX0_two_15 : decode cX0_two 15 = .ok (.sipush 3721, 3) := by decide +kernel
theorem dX0_two_18 : decode cX0_two 18 = .ok (.if_icmp .ge 16, 3) := by decide +kernel
theorem dX0_two_21 : decode cX0_two 21 = .ok (.aload_n 0, 1) := by decide +kernel
theorem dX0_two_22 : decode cX0_two 22 = .ok (.getfield 34, 3) := by decide +kernel
theorem dX0_two_25 : decode cX0_two 25 = .ok (.iload_n 2, 1) := by decide +kernel
theorem dX0_two_26 : decode cX0_two 26 = .ok (.iconst 0, 1) := by decide +kernel
theorem dX0_two_27 : decode cX0_two 27 = .ok (.iastore, 1) := by decide +kernel
theorem dX0_two_28 : decode cX0_two 28 = .ok (.iinc 2 1, 3) := by decide +kernel
theorem dX0_two_31 : decode cX0_two 31 = .ok (.goto (-17), 3) := by decide +kernel
theorem dX0_two_34 : decode cX0_two 34 = .ok (.iconst 0, 1) := by decide +kernel
theorem dX0_two_35 : decode cX0_two 35 = .ok (.istore_n 2, 1) := by decide +kernel
theorem dX0_two_36 : decode cX0_two 36 = .ok (.iload_n 2, 1) := by decide +kernel
theorem dX0_two_37 : decode cX0_two 37 = .ok (.aload_n 0, 1) := by decide +kernel
theorem dX0_two_38 : decode cX0_two 38 = .ok (.getfield 41, 3) := by decide +kernel
theorem dX0_two_41 : decode cX0_two 41 = .ok (.if_icmp .ge 43, 3) := by decide +kernel
theorem dX0_two_44 : decode cX0_two 44 = .ok (.iconst 0, 1) := by decide +kernel
theorem dX0_two_45 : decode cX0_two 45 = .ok (.istore_n 3, 1) := by decide +kernel
theorem dX0_two_46 : decode cX0_two 46 = .ok (.iload_n 3, 1) := by decide +kernel
theorem dX0_two_47 : decode cX0_two 47 = .ok (.aload_n 0, 1) := by decide +kernel
theorem dX0_two_48 : decode cX0_two 48 = .ok (.getfield 16, 3) := by decide +kernel
theorem dX0_two_51 : decode cX0_two 51 = .ok (.iload_n 2, 1) := by decide +kernel
theorem dX0_two_52 : decode cX0_two 52 = .ok (.iaload, 1) := by decide +kernel
theorem dX0_two_53 : decode cX0_two 53 = .ok (.if_icmp .ge 25, 3) := by decide +kernel
theorem dX0_two_56 : decode cX0_two 56 = .ok (.aload_n 0, 1) := by decide +kernel
theorem dX0_two_57 : decode cX0_two 57 = .ok (.aload_n 0, 1) := by decide +kernel
theorem dX0_two_58 : decode cX0_two 58 = .ok (.getfield 7, 3) := by decide +kernel
theorem dX0_two_61 : decode cX0_two 61 = .ok (.iload_n 2, 1) := by decide +kernel
theorem dX0_two_62 : decode cX0_two 62 = .ok (.iaload, 1) := by decide +kernel
theorem dX0_two_63 : decode cX0_two 63 = .ok (.aload_n 0, 1) := by decide +kernel
theorem dX0_two_64 : decode cX0_two 64 = .ok (.getfield 13, 3) := by decide +kernel
theorem dX0_two_67 : decode cX0_two 67 = .ok (.iload_n 2, 1) := by decide +kernel
theorem dX0_two_68 : decode cX0_two 68 = .ok (.iaload, 1) := by decide +kernel
theorem dX0_two_69 : decode cX0_two 69 = .ok (.invokevirtual 76, 3) := by decide +kernel
theorem dX0_two_72 : decode cX0_two 72 = .ok (.iinc 3 1, 3) := by decide +kernel
theorem dX0_two_75 : decode cX0_two 75 = .ok (.goto (-29), 3) := by decide +kernel
theorem dX0_two_78 : decode cX0_two 78 = .ok (.iinc 2 1, 3) := by decide +kernel
theorem dX0_two_81 : decode cX0_two 81 = .ok (.goto (-45), 3) := by decide +kernel
theorem dX0_two_84 : decode cX0_two 84 = .ok (.aload_n 0, 1) := by decide +kernel
theorem dX0_two_85 : decode cX0_two 85 = .ok (.getfield 34, 3) := by decide +kernel
theorem dX0_two_88 : decode cX0_two 88 = .ok (.bipush 61, 2) := by decide +kernel
theorem dX0_two_90 : decode cX0_two 90 = .ok (.aload_n 0, 1) := by decide +kernel
theorem dX0_two_91 : decode cX0_two 91 = .ok (.getfield 37, 3) := by decide +kernel
theorem dX0_two_94 : decode cX0_two 94 = .ok (.imul, 1) := by decide +kernel
theorem dX0_two_95 : decode cX0_two 95 = .ok (.iload_n 1, 1) := by decide +kernel
theorem dX0_two_96 : decode cX0_two 96 = .ok (.iadd, 1) := by decide +kernel
theorem dX0_two_97 : decode cX0_two 97 = .ok (.iaload, 1) := by decide +kernel
theorem dX0_two_98 : decode cX0_two 98 = .ok (.ireturn, 1) := by decide +kernel
end
section
set_option maxRecDepth 100000
abbrev cX0_placePiece : ByteArray := prog_1_method_31_code
def yX0_placePiece : MethodName := ⟨RX0, "placePiece", "(II)V"⟩
theorem dX0_placePiece_0 : decode cX0_placePiece 0 = .ok (.bipush 60, 2) := by decide +kernel
theorem dX0_placePiece_2 : decode cX0_placePiece 2 = .ok (.istore_n 3, 1) := by decide +kernel
theorem dX0_placePiece_3 : decode cX0_placePiece 3 = .ok (.iload_n 3, 1) := by decide +kernel
theorem dX0_placePiece_4 : decode cX0_placePiece 4 = .ok (.ifCond .lt 141, 3) := by decide +kernel
theorem dX0_placePiece_7 : decode cX0_placePiece 7 = .ok (.bipush 60, 2) := by decide +kernel
theorem dX0_placePiece_9 : decode cX0_placePiece 9 = .ok (.istore 4, 2) := by decide +kernel
theorem dX0_placePiece_11 : decode cX0_placePiece 11 = .ok (.iload 4, 2) := by decide +kernel
theorem dX0_placePiece_13 : decode cX0_placePiece 13 = .ok (.ifCond .lt 126, 3) := by decide +kernel
theorem dX0_placePiece_16 : decode cX0_placePiece 16 = .ok (.aload_n 0, 1) := by decide +kernel
theorem dX0_placePiece_17 : decode cX0_placePiece 17 = .ok (.getfield 34, 3) := by decide +kernel
theorem dX0_placePiece_20 : decode cX0_placePiece 20 = .ok (.bipush 61, 2) := by decide +kernel
theorem dX0_placePiece_22 : decode cX0_placePiece 22 = .ok (.iload_n 3, 1) := by decide +kernel
theorem dX0_placePiece_23 : decode cX0_placePiece 23 = .ok (.imul, 1) := by decide +kernel
theorem dX0_placePiece_24 : decode cX0_placePiece 24 = .ok (.iload 4, 2) := by decide +kernel
theorem dX0_placePiece_26 : decode cX0_placePiece 26 = .ok (.iadd, 1) := by decide +kernel
theorem dX0_placePiece_27 : decode cX0_placePiece 27 = .ok (.iaload, 1) := by decide +kernel
theorem dX0_placePiece_28 : decode cX0_placePiece 28 = .ok (.istore 5, 2) := by decide +kernel
theorem dX0_placePiece_30 : decode cX0_placePiece 30 = .ok (.iload_n 3, 1) := by decide +kernel
theorem dX0_placePiece_31 : decode cX0_placePiece 31 = .ok (.iload_n 1, 1) := by decide +kernel
theorem dX0_placePiece_32 : decode cX0_placePiece 32 = .ok (.if_icmp .lt 42, 3) := by decide +kernel
theorem dX0_placePiece_35 : decode cX0_placePiece 35 = .ok (.aload_n 0, 1) := by decide +kernel
theorem dX0_placePiece_36 : decode cX0_placePiece 36 = .ok (.getfield 34, 3) := by decide +kernel
theorem dX0_placePiece_39 : decode cX0_placePiece 39 = .ok (.bipush 61, 2) := by decide +kernel
theorem dX0_placePiece_41 : decode cX0_placePiece 41 = .ok (.iload_n 3, 1) := by decide +kernel
theorem dX0_placePiece_42 : decode cX0_placePiece 42 = .ok (.iload_n 1, 1) := by decide +kernel
theorem dX0_placePiece_43 : decode cX0_placePiece 43 = .ok (.isub, 1) := by decide +kernel
theorem dX0_placePiece_44 : decode cX0_placePiece 44 = .ok (.imul, 1) := by decide +kernel
theorem dX0_placePiece_45 : decode cX0_placePiece 45 = .ok (.iload 4, 2) := by decide +kernel
theorem dX0_placePiece_47 : decode cX0_placePiece 47 = .ok (.iadd, 1) := by decide +kernel
theorem dX0_placePiece_48 : decode cX0_placePiece 48 = .ok (.iaload, 1) := by decide +kernel
theorem dX0_placePiece_49 : decode cX0_placePiece 49 = .ok (.iload_n 2, 1) := by decide +kernel
theorem dX0_placePiece_50 : decode cX0_placePiece 50 = .ok (.iadd, 1) := by decide +kernel
theorem dX0_placePiece_51 : decode cX0_placePiece 51 = .ok (.iload 5, 2) := by decide +kernel
theorem dX0_placePiece_53 : decode cX0_placePiece 53 = .ok (.if_icmp .le 21, 3) := by decide +kernel
theorem dX0_placePiece_56 : decode cX0_placePiece 56 = .ok (.aload_n 0, 1) := by decide +kernel
theorem dX0_placePiece_57 : decode cX0_placePiece 57 = .ok (.getfield 34, 3) := by decide +kernel
theorem dX0_placePiece_60 : decode cX0_placePiece 60 = .ok (.bipush 61, 2) := by decide +kernel
theorem dX0_placePiece_62 : decode cX0_placePiece 62 = .ok (.iload_n 3, 1) := by decide +kernel
theorem dX0_placePiece_63 : decode cX0_placePiece 63 = .ok (.iload_n 1, 1) := by decide +kernel
theorem dX0_placePiece_64 : decode cX0_placePiece 64 = .ok (.isub, 1) := by decide +kernel
theorem dX0_placePiece_65 : decode cX0_placePiece 65 = .ok (.imul, 1) := by decide +kernel
theorem dX0_placePiece_66 : decode cX0_placePiece 66 = .ok (.iload 4, 2) := by decide +kernel
theorem dX0_placePiece_68 : decode cX0_placePiece 68 = .ok (.iadd, 1) := by decide +kernel
theorem dX0_placePiece_69 : decode cX0_placePiece 69 = .ok (.iaload, 1) := by decide +kernel
theorem dX0_placePiece_70 : decode cX0_placePiece 70 = .ok (.iload_n 2, 1) := by decide +kernel
theorem dX0_placePiece_71 : decode cX0_placePiece 71 = .ok (.iadd, 1) := by decide +kernel
theorem dX0_placePiece_72 : decode cX0_placePiece 72 = .ok (.istore 5, 2) := by decide +kernel
theorem dX0_placePiece_74 : decode cX0_placePiece 74 = .ok (.iload 4, 2) := by decide +kernel
theorem dX0_placePiece_76 : decode cX0_placePiece 76 = .ok (.iload_n 1, 1) := by decide +kernel
theorem dX0_placePiece_77 : decode cX0_placePiece 77 = .ok (.if_icmp .lt 42, 3) := by decide +kernel
theorem dX0_placePiece_80 : decode cX0_placePiece 80 = .ok (.aload_n 0, 1) := by decide +kernel
theorem dX0_placePiece_81 : decode cX0_placePiece 81 = .ok (.getfield 34, 3) := by decide +kernel
theorem dX0_placePiece_84 : decode cX0_placePiece 84 = .ok (.bipush 61, 2) := by decide +kernel
theorem dX0_placePiece_86 : decode cX0_placePiece 86 = .ok (.iload_n 3, 1) := by decide +kernel
theorem dX0_placePiece_87 : decode cX0_placePiece 87 = .ok (.imul, 1) := by decide +kernel
theorem dX0_placePiece_88 : decode cX0_placePiece 88 = .ok (.iload 4, 2) := by decide +kernel
theorem dX0_placePiece_90 : decode cX0_placePiece 90 = .ok (.iadd, 1) := by decide +kernel
theorem dX0_placePiece_91 : decode cX0_placePiece 91 = .ok (.iload_n 1, 1) := by decide +kernel
theorem dX0_placePiece_92 : decode cX0_placePiece 92 = .ok (.isub, 1) := by decide +kernel
theorem dX0_placePiece_93 : decode cX0_placePiece 93 = .ok (.iaload, 1) := by decide +kernel
theorem dX0_placePiece_94 : decode cX0_placePiece 94 = .ok (.iload_n 2, 1) := by decide +kernel
theorem dX0_placePiece_95 : decode cX0_placePiece 95 = .ok (.iadd, 1) := by decide +kernel
theorem dX0_placePiece_96 : decode cX0_placePiece 96 = .ok (.iload 5, 2) := by decide +kernel
theorem dX0_placePiece_98 : decode cX0_placePiece 98 = .ok (.if_icmp .le 21, 3) := by decide +kernel
theorem dX0_placePiece_101 : decode cX0_placePiece 101 = .ok (.aload_n 0, 1) := by decide +kernel
theorem dX0_placePiece_102 : decode cX0_placePiece 102 = .ok (.getfield 34, 3) := by decide +kernel
theorem dX0_placePiece_105 : decode cX0_placePiece 105 = .ok (.bipush 61, 2) := by decide +kernel
theorem dX0_placePiece_107 : decode cX0_placePiece 107 = .ok (.iload_n 3, 1) := by decide +kernel
theorem dX0_placePiece_108 : decode cX0_placePiece 108 = .ok (.imul, 1) := by decide +kernel
theorem dX0_placePiece_109 : decode cX0_placePiece 109 = .ok (.iload 4, 2) := by decide +kernel
theorem dX0_placePiece_111 : decode cX0_placePiece 111 = .ok (.iadd, 1) := by decide +kernel
theorem dX0_placePiece_112 : decode cX0_placePiece 112 = .ok (.iload_n 1, 1) := by decide +kernel
theorem dX0_placePiece_113 : decode cX0_placePiece 113 = .ok (.isub, 1) := by decide +kernel
theorem dX0_placePiece_114 : decode cX0_placePiece 114 = .ok (.iaload, 1) := by decide +kernel
theorem dX0_placePiece_115 : decode cX0_placePiece 115 = .ok (.iload_n 2, 1) := by decide +kernel
theorem dX0_placePiece_116 : decode cX0_placePiece 116 = .ok (.iadd, 1) := by decide +kernel
theorem dX0_placePiece_117 : decode cX0_placePiece 117 = .ok (.istore 5, 2) := by decide +kernel
theorem dX0_placePiece_119 : decode cX0_placePiece 119 = .ok (.aload_n 0, 1) := by decide +kernel
theorem dX0_placePiece_120 : decode cX0_placePiece 120 = .ok (.getfield 34, 3) := by decide +kernel
theorem dX0_placePiece_123 : decode cX0_placePiece 123 = .ok (.bipush 61, 2) := by decide +kernel
theorem dX0_placePiece_125 : decode cX0_placePiece 125 = .ok (.iload_n 3, 1) := by decide +kernel
theorem dX0_placePiece_126 : decode cX0_placePiece 126 = .ok (.imul, 1) := by decide +kernel
theorem dX0_placePiece_127 : decode cX0_placePiece 127 = .ok (.iload 4, 2) := by decide +kernel
theorem dX0_placePiece_129 : decode cX0_placePiece 129 = .ok (.iadd, 1) := by decide +kernel
theorem dX0_placePiece_130 : decode cX0_placePiece 130 = .ok (.iload 5, 2) := by decide +kernel
theorem dX0_placePiece_132 : decode cX0_placePiece 132 = .ok (.iastore, 1) := by decide +kernel
theorem dX0_placePiece_133 : decode cX0_placePiece 133 = .ok (.iinc 4 (-1), 3) := by decide +kernel
theorem dX0_placePiece_136 : decode cX0_placePiece 136 = .ok (.goto (-125), 3) := by decide +kernel
theorem dX0_placePiece_139 : decode cX0_placePiece 139 = .ok (.iinc 3 (-1), 3) := by decide +kernel
theorem dX0_placePiece_142 : decode cX0_placePiece 142 = .ok (.goto (-139), 3) := by decide +kernel
theorem dX0_placePiece_145 : decode cX0_placePiece 145 = .ok (.return_, 1) := by decide +kernel
abbrev cX0_without : ByteArray := prog_1_method_18_code
def yX0_without : MethodName := ⟨RX0, "without", "(I)I"⟩
theorem dX0_without_0 : decode cX0_without 0 = .ok (.aload_n 0, 1) := by decide +kernel
theorem dX0_without_1 : decode cX0_without 1 = .ok (.iload_n 1, 1) := by decide +kernel
theorem dX0_without_2 : decode cX0_without 2 = .ok (.invokevirtual 48, 3) := by decide +kernel
theorem dX0_without_5 : decode cX0_without 5 = .ok (.ifCond .ne 5, 3) := by decide +kernel
theorem dX0_without_8 : decode cX0_without 8 = .ok (.iconst (-1), 1) := by decide +kernel
theorem dX0_without_9 : decode cX0_without 9 = .ok (.ireturn, 1) := by decide +kernel
theorem dX0_without_10 : decode cX0_without 10 = .ok (.aload_n 0, 1) := by decide +kernel
theorem dX0_without_11 : decode cX0_without 11 = .ok (.iload_n 1, 1) := by decide +kernel
theorem dX0_without_12 : decode cX0_without 12 = .ok (.invokevirtual 55, 3) := by decide +kernel
theorem dX0_without_15 : decode cX0_without 15 = .ok (.aload_n 0, 1) := by decide +kernel
theorem dX0_without_16 : decode cX0_without 16 = .ok (.getfield 22, 3) := by decide +kernel
theorem dX0_without_19 : decode cX0_without 19 = .ok (.aload_n 0, 1) := by decide +kernel
theorem dX0_without_20 : decode cX0_without 20 = .ok (.invokevirtual 59, 3) := by decide +kernel
theorem dX0_without_23 : decode cX0_without 23 = .ok (.iaload, 1) := by decide +kernel
theorem dX0_without_24 : decode cX0_without 24 = .ok (.ireturn, 1) := by decide +kernel
abbrev cX0_halves : ByteArray := prog_1_method_19_code
def yX0_halves : MethodName := ⟨RX0, "halves", "()I"⟩
theorem dX0_halves_0 : decode cX0_halves 0 = .ok (.iconst 0, 1) := by decide +kernel
theorem dX0_halves_1 : decode cX0_halves 1 = .ok (.istore_n 1, 1) := by decide +kernel
theorem dX0_halves_2 : decode cX0_halves 2 = .ok (.iconst 0, 1) := by decide +kernel
theorem dX0_halves_3 : decode cX0_halves 3 = .ok (.istore_n 2, 1) := by decide +kernel
theorem dX0_halves_4 : decode cX0_halves 4 = .ok (.iload_n 2, 1) := by decide +kernel
theorem dX0_halves_5 : decode cX0_halves 5 = .ok (.aload_n 0, 1) := by decide +kernel
theorem dX0_halves_6 : decode cX0_halves 6 = .ok (.getfield 41, 3) := by decide +kernel
theorem dX0_halves_9 : decode cX0_halves 9 = .ok (.if_icmp .ge 25, 3) := by decide +kernel
theorem dX0_halves_12 : decode cX0_halves 12 = .ok (.iload_n 1, 1) := by decide +kernel
theorem dX0_halves_13 : decode cX0_halves 13 = .ok (.aload_n 0, 1) := by decide +kernel
theorem dX0_halves_14 : decode cX0_halves 14 = .ok (.getfield 16, 3) := by decide +kernel
theorem dX0_halves_17 : decode cX0_halves 17 = .ok (.iload_n 2, 1) := by decide +kernel
theorem dX0_halves_18 : decode cX0_halves 18 = .ok (.iaload, 1) := by decide +kernel
theorem dX0_halves_19 : decode cX0_halves 19 = .ok (.aload_n 0, 1) := by decide +kernel
theorem dX0_halves_20 : decode cX0_halves 20 = .ok (.getfield 7, 3) := by decide +kernel
theorem dX0_halves_23 : decode cX0_halves 23 = .ok (.iload_n 2, 1) := by decide +kernel
theorem dX0_halves_24 : decode cX0_halves 24 = .ok (.iaload, 1) := by decide +kernel
theorem dX0_halves_25 : decode cX0_halves 25 = .ok (.imul, 1) := by decide +kernel
theorem dX0_halves_26 : decode cX0_halves 26 = .ok (.iadd, 1) := by decide +kernel
theorem dX0_halves_27 : decode cX0_halves 27 = .ok (.istore_n 1, 1) := by decide +kernel
theorem dX0_halves_28 : decode cX0_halves 28 = .ok (.iinc 2 1, 3) := by decide +kernel
theorem dX0_halves_31 : decode cX0_halves 31 = .ok (.goto (-27), 3) := by decide +kernel
theorem dX0_halves_34 : decode cX0_halves 34 = .ok (.aload_n 0, 1) := by decide +kernel
theorem dX0_halves_35 : decode cX0_halves 35 = .ok (.iconst (-1), 1) := by decide +kernel
theorem dX0_halves_36 : decode cX0_halves 36 = .ok (.invokevirtual 55, 3) := by decide +kernel
theorem dX0_halves_39 : decode cX0_halves 39 = .ok (.iload_n 1, 1) := by decide +kernel
theorem dX0_halves_40 : decode cX0_halves 40 = .ok (.iconst 1, 1) := by decide +kernel
theorem dX0_halves_41 : decode cX0_halves 41 = .ok (.iand, 1) := by decide +kernel
theorem dX0_halves_42 : decode cX0_halves 42 = .ok (.ifCond .ne 18, 3) := by decide +kernel
theorem dX0_halves_45 : decode cX0_halves 45 = .ok (.aload_n 0, 1) := by decide +kernel
theorem dX0_halves_46 : decode cX0_halves 46 = .ok (.getfield 25, 3) := by decide +kernel
theorem dX0_halves_49 : decode cX0_halves 49 = .ok (.iload_n 1, 1) := by decide +kernel
theorem dX0_halves_50 : decode cX0_halves 50 = .ok (.iconst 1, 1) := by decide +kernel
theorem dX0_halves_51 : decode cX0_halves 51 = .ok (.ishr, 1) := by decide +kernel
theorem dX0_halves_52 : decode cX0_halves 52 = .ok (.iaload, 1) := by decide +kernel
theorem dX0_halves_53 : decode cX0_halves 53 = .ok (.ifCond .le 7, 3) := by decide +kernel
theorem dX0_halves_56 : decode cX0_halves 56 = .ok (.iconst 1, 1) := by decide +kernel
theorem dX0_halves_57 : decode cX0_halves 57 = .ok (.goto 4, 3) := by decide +kernel
theorem dX0_halves_60 : decode cX0_halves 60 = .ok (.iconst 0, 1) := by decide +kernel
theorem dX0_halves_61 : decode cX0_halves 61 = .ok (.ireturn, 1) := by decide +kernel
end
section
set_option maxRecDepth 100000
def RX1 : String := "KnapsackFamilyModel"
def TX1 : u_T := fun k => match k with
  | 0 => ("KnapsackFamilyModel", "count", "I", false)
  | 1 => ("KnapsackFamilyModel", "weights", "[I", false)
  | 2 => ("KnapsackFamilyModel", "values", "[I", false)
  | 3 => ("KnapsackFamilyModel", "supply", "[I", false)
  | 4 => ("KnapsackFamilyModel", "family", "[I", false)
  | 5 => ("KnapsackFamilyModel", "bound", "I", false)
  | 6 => ("KnapsackFamilyModel", "take", "[I", false)
  | 7 => ("KnapsackFamilyModel", "heavy", "I", false)
  | _ => ("KnapsackFamilyModel", "worth", "I", false)
def tyX1 : Nat → FieldType := fun k => match k with
  | 0 => .int
  | 1 => .array .int
  | 2 => .array .int
  | 3 => .array .int
  | 4 => .array .int
  | 5 => .int
  | 6 => .array .int
  | 7 => .int
  | _ => .int
abbrev wsX10 : List Cond := u_ws RX1 TX1 9
theorem nmX1 : ∀ a, a < 9 → ∀ b, b < 9 → a ≠ b → (TX1 a).2.1 ≠ (TX1 b).2.1 := by decide +kernel
theorem tyX1_ok : ∀ k, k < 9 → parseFieldDescriptor (TX1 k).2.2.1 = some (tyX1 k) := by decide +kernel
abbrev cX1_init : ByteArray := prog_3_method_1_code
def yX1_init : MethodName := ⟨RX1, "<init>", "()V"⟩
theorem dX1_init_0 : decode cX1_init 0 = .ok (.aload_n 0, 1) := by decide +kernel
theorem dX1_init_1 : decode cX1_init 1 = .ok (.invokespecial 1, 3) := by decide +kernel
theorem dX1_init_4 : decode cX1_init 4 = .ok (.aload_n 0, 1) := by decide +kernel
theorem dX1_init_5 : decode cX1_init 5 = .ok (.bipush 7, 2) := by decide +kernel
theorem dX1_init_7 : decode cX1_init 7 = .ok (.newarray .int, 2) := by decide +kernel
theorem dX1_init_9 : decode cX1_init 9 = .ok (.putfield 7, 3) := by decide +kernel
theorem dX1_init_12 : decode cX1_init 12 = .ok (.aload_n 0, 1) := by decide +kernel
theorem dX1_init_13 : decode cX1_init 13 = .ok (.bipush 7, 2) := by decide +kernel
theorem dX1_init_15 : decode cX1_init 15 = .ok (.newarray .int, 2) := by decide +kernel
theorem dX1_init_17 : decode cX1_init 17 = .ok (.putfield 13, 3) := by decide +kernel
theorem dX1_init_20 : decode cX1_init 20 = .ok (.aload_n 0, 1) := by decide +kernel
theorem dX1_init_21 : decode cX1_init 21 = .ok (.bipush 7, 2) := by decide +kernel
theorem dX1_init_23 : decode cX1_init 23 = .ok (.newarray .int, 2) := by decide +kernel
theorem dX1_init_25 : decode cX1_init 25 = .ok (.putfield 16, 3) := by decide +kernel
theorem dX1_init_28 : decode cX1_init 28 = .ok (.aload_n 0, 1) := by decide +kernel
theorem dX1_init_29 : decode cX1_init 29 = .ok (.bipush 7, 2) := by decide +kernel
theorem dX1_init_31 : decode cX1_init 31 = .ok (.newarray .int, 2) := by decide +kernel
theorem dX1_init_33 : decode cX1_init 33 = .ok (.putfield 19, 3) := by decide +kernel
theorem dX1_init_36 : decode cX1_init 36 = .ok (.aload_n 0, 1) := by decide +kernel
theorem dX1_init_37 : decode cX1_init 37 = .ok (.bipush 20, 2) := by decide +kernel
theorem dX1_init_39 : decode cX1_init 39 = .ok (.putfield 22, 3) := by decide +kernel
theorem dX1_init_42 : decode cX1_init 42 = .ok (.aload_n 0, 1) := by decide +kernel
theorem dX1_init_43 : decode cX1_init 43 = .ok (.bipush 7, 2) := by decide +kernel
theorem dX1_init_45 : decode cX1_init 45 = .ok (.newarray .int, 2) := by decide +kernel
theorem dX1_init_47 : decode cX1_init 47 = .ok (.putfield 26, 3) := by decide +kernel
theorem dX1_init_50 : decode cX1_init 50 = .ok (.return_, 1) := by decide +kernel
abbrev cX1_add : ByteArray := prog_3_method_3_code
def yX1_add : MethodName := ⟨RX1, "add", "(III)I"⟩
theorem dX1_add_0 : decode cX1_add 0 = .ok (.iload_n 1, 1) := by decide +kernel
theorem dX1_add_1 : decode cX1_add 1 = .ok (.iconst 1, 1) := by decide +kernel
theorem dX1_add_2 : decode cX1_add 2 = .ok (.if_icmp .lt 9, 3) := by decide +kernel
theorem dX1_add_5 : decode cX1_add 5 = .ok (.iload_n 1, 1) := by decide +kernel
theorem dX1_add_6 : decode cX1_add 6 = .ok (.bipush 20, 2) := by decide +kernel
theorem dX1_add_8 : decode cX1_add 8 = .ok (.if_icmp .le 5, 3) := by decide +kernel
theorem dX1_add_11 : decode cX1_add 11 = .ok (.iconst (-1), 1) := by decide +kernel
theorem dX1_add_12 : decode cX1_add 12 = .ok (.ireturn, 1) := by decide +kernel
theorem dX1_add_13 : decode cX1_add 13 = .ok (.iload_n 2, 1) := by decide +kernel
theorem dX1_add_14 : decode cX1_add 14 = .ok (.ifCond .lt 9, 3) := by decide +kernel
theorem dX1_add_17 : decode cX1_add 17 = .ok (.iload_n 2, 1) := by decide +kernel
theorem dX1_add_18 : decode cX1_add 18 = .ok (.bipush 50, 2) := by decide +kernel
theorem dX1_add_20 : decode cX1_add 20 = .ok (.if_icmp .le 6, 3) := by decide +kernel
theorem dX1_add_23 : decode cX1_add 23 = .ok (.bipush (-2), 2) := by decide +kernel
theorem dX1_add_25 : decode cX1_add 25 = .ok (.ireturn, 1) := by decide +kernel
theorem dX1_add_26 : decode cX1_add 26 = .ok (.iload_n 3, 1) := by decide +kernel
theorem dX1_add_27 : decode cX1_add 27 = .ok (.iconst 4, 1) := by decide +kernel
theorem dX1_add_28 : decode cX1_add 28 = .ok (.if_icmp .lt 9, 3) := by decide +kernel
theorem dX1_add_31 : decode cX1_add 31 = .ok (.iload_n 3, 1) := by decide +kernel
theorem dX1_add_32 : decode cX1_add 32 = .ok (.bipush 11, 2) := by decide +kernel
theorem dX1_add_34 : decode cX1_add 34 = .ok (.if_icmp .le 6, 3) := by decide +kernel
theorem dX1_add_37 : decode cX1_add 37 = .ok (.bipush (-3), 2) := by decide +kernel
theorem dX1_add_39 : decode cX1_add 39 = .ok (.ireturn, 1) := by decide +kernel
theorem dX1_add_40 : decode cX1_add 40 = .ok (.aload_n 0, 1) := by decide +kernel
theorem dX1_add_41 : decode cX1_add 41 = .ok (.iload_n 1, 1) := by decide +kernel
theorem dX1_add_42 : decode cX1_add 42 = .ok (.iload_n 2, 1) := by decide +kernel
theorem dX1_add_43 : decode cX1_add 43 = .ok (.iload_n 3, 1) := by decide +kernel
theorem dX1_add_44 : decode cX1_add 44 = .ok (.iconst 4, 1) := by decide +kernel
theorem dX1_add_45 : decode cX1_add 45 = .ok (.idiv, 1) := by decide +kernel
theorem dX1_add_46 : decode cX1_add 46 = .ok (.iload_n 3, 1) := by decide +kernel
theorem dX1_add_47 : decode cX1_add 47 = .ok (.iconst 4, 1) := by decide +kernel
theorem dX1_add_48 : decode cX1_add 48 = .ok (.irem, 1) := by decide +kernel
theorem dX1_add_49 : decode cX1_add 49 = .ok (.invokevirtual 32, 3) := by decide +kernel
theorem dX1_add_52 : decode cX1_add 52 = .ok (.ireturn, 1) := by decide +kernel
abbrev cX1_put : ByteArray := prog_3_method_2_code
def yX1_put : MethodName := ⟨RX1, "put", "(IIII)I"⟩
theorem dX1_put_0 : decode cX1_put 0 = .ok (.aload_n 0, 1) := by decide +kernel
theorem dX1_put_1 : decode cX1_put 1 = .ok (.getfield 29, 3) := by decide +kernel
theorem dX1_put_4 : decode cX1_put 4 = .ok (.istore 5, 2) := by decide +kernel
theorem dX1_put_6 : decode cX1_put 6 = .ok (.iload 5, 2) := by decide +kernel
theorem dX1_put_8 : decode cX1_put 8 = .ok (.bipush 6, 2) := by decide +kernel
theorem dX1_put_10 : decode cX1_put 10 = .ok (.if_icmp .le 6, 3) := by decide +kernel
theorem dX1_put_13 : decode cX1_put 13 = .ok (.bipush (-4), 2) := by decide +kernel
theorem dX1_put_15 : decode cX1_put 15 = .ok (.ireturn, 1) := by decide +kernel
theorem dX1_put_16 : decode cX1_put 16 = .ok (.aload_n 0, 1) := by decide +kernel
theorem dX1_put_17 : decode cX1_put 17 = .ok (.getfield 7, 3) := by decide +kernel
theorem dX1_put_20 : decode cX1_put 20 = .ok (.iload 5, 2) := by decide +kernel
theorem dX1_put_22 : decode cX1_put 22 = .ok (.iload_n 1, 1) := by decide +kernel
theorem dX1_put_23 : decode cX1_put 23 = .ok (.iastore, 1) := by decide +kernel
theorem dX1_put_24 : decode cX1_put 24 = .ok (.aload_n 0, 1) := by decide +kernel
theorem dX1_put_25 : decode cX1_put 25 = .ok (.getfield 13, 3) := by decide +kernel
theorem dX1_put_28 : decode cX1_put 28 = .ok (.iload 5, 2) := by decide +kernel
theorem dX1_put_30 : decode cX1_put 30 = .ok (.iload_n 2, 1) := by decide +kernel
theorem dX1_put_31 : decode cX1_put 31 = .ok (.iastore, 1) := by decide +kernel
theorem dX1_put_32 : decode cX1_put 32 = .ok (.aload_n 0, 1) := by decide +kernel
theorem dX1_put_33 : decode cX1_put 33 = .ok (.getfield 16, 3) := by decide +kernel
theorem dX1_put_36 : decode cX1_put 36 = .ok (.iload 5, 2) := by decide +kernel
theorem dX1_put_38 : decode cX1_put 38 = .ok (.iload_n 3, 1) := by decide +kernel
theorem dX1_put_39 : decode cX1_put 39 = .ok (.iastore, 1) := by decide +kernel
theorem dX1_put_40 : decode cX1_put 40 = .ok (.aload_n 0, 1) := by decide +kernel
theorem dX1_put_41 : decode cX1_put 41 = .ok (.getfield 19, 3) := by decide +kernel
theorem dX1_put_44 : decode cX1_put 44 = .ok (.iload 5, 2) := by decide +kernel
theorem dX1_put_46 : decode cX1_put 46 = .ok (.iload 4, 2) := by decide +kernel
theorem dX1_put_48 : decode cX1_put 48 = .ok (.iastore, 1) := by decide +kernel
theorem dX1_put_49 : decode cX1_put 49 = .ok (.aload_n 0, 1) := by decide +kernel
theorem dX1_put_50 : decode cX1_put 50 = .ok (.iload 5, 2) := by decide +kernel
theorem dX1_put_52 : decode cX1_put 52 = .ok (.iconst 1, 1) := by decide +kernel
theorem dX1_put_53 : decode cX1_put 53 = .ok (.iadd, 1) := by decide +kernel
theorem dX1_put_54 : decode cX1_put 54 = .ok (.putfield 29, 3) := by decide +kernel
theorem dX1_put_57 : decode cX1_put 57 = .ok (.iload 5, 2) := by decide +kernel
theorem dX1_put_59 : decode cX1_put 59 = .ok (.ireturn, 1) := by decide +kernel
abbrev cX1_sow : ByteArray := prog_3_method_4_code
def yX1_sow : MethodName := ⟨RX1, "sow", "(II)I"⟩
theorem dX1_sow_0 : decode cX1_sow 0 = .ok (.iload_n 1, 1) := by decide +kernel
theorem dX1_sow_1 : decode cX1_sow 1 = .ok (.ifCond .lt 9, 3) := by decide +kernel
theorem dX1_sow_4 : decode cX1_sow 4 = .ok (.iload_n 1, 1) := by decide +kernel
theorem dX1_sow_5 : decode cX1_sow 5 = .ok (.bipush 100, 2) := by decide +kernel
theorem dX1_sow_7 : decode cX1_sow 7 = .ok (.if_icmp .le 5, 3) := by decide +kernel
theorem dX1_sow_10 : decode cX1_sow 10 = .ok (.iconst (-1), 1) := by decide +kernel
theorem dX1_sow_11 : decode cX1_sow 11 = .ok (.ireturn, 1) := by decide +kernel
theorem dX1_sow_12 : decode cX1_sow 12 = .ok (.iload_n 2, 1) := by decide +kernel
theorem dX1_sow_13 : decode cX1_sow 13 = .ok (.iconst 1, 1) := by decide +kernel
theorem dX1_sow_14 : decode cX1_sow 14 = .ok (.if_icmp .lt 9, 3) := by decide +kernel
theorem dX1_sow_17 : decode cX1_sow 17 = .ok (.iload_n 2, 1) := by decide +kernel
theorem dX1_sow_18 : decode cX1_sow 18 = .ok (.bipush 7, 2) := by decide +kernel
theorem dX1_sow_20 : decode cX1_sow 20 = .ok (.if_icmp .le 6, 3) := by decide +kernel
theorem dX1_sow_23 : decode cX1_sow 23 = .ok (.bipush (-2), 2) := by decide +kernel
theorem dX1_sow_25 : decode cX1_sow 25 = .ok (.ireturn, 1) := by decide +kernel
theorem dX1_sow_26 : decode cX1_sow 26 = .ok (.iconst 0, 1) := by decide +kernel
theorem dX1_sow_27 : decode cX1_sow 27 = .ok (.istore_n 3, 1) := by decide +kernel
theorem dX1_sow_28 : decode cX1_sow 28 = .ok (.iload_n 3, 1) := by decide +kernel
theorem dX1_sow_29 : decode cX1_sow 29 = .ok (.iload_n 2, 1) := by decide +kernel
theorem dX1_sow_30 : decode cX1_sow 30 = .ok (.if_icmp .ge 51, 3) := by decide +kernel
theorem dX1_sow_33 : decode cX1_sow 33 = .ok (.aload_n 0, 1) := by decide +kernel
theorem dX1_sow_34 : decode cX1_sow 34 = .ok (.iconst 1, 1) := by decide +kernel
theorem dX1_sow_35 : decode cX1_sow 35 = .ok (.iload_n 1, 1) := by decide +kernel
theorem dX1_sow_36 : decode cX1_sow 36 = .ok (.iconst 5, 1) := by decide +kernel
theorem dX1_sow_37 : decode cX1_sow 37 = .ok (.iload_n 3, 1) := by decide +kernel
theorem dX1_sow_38 : decode cX1_sow 38 = .ok (.imul, 1) := by decide +kernel
theorem dX1_sow_39 : decode cX1_sow 39 = .ok (.iadd, 1) := by decide +kernel
theorem dX1_sow_40 : decode cX1_sow 40 = .ok (.bipush 20, 2) := by decide +kernel
theorem dX1_sow_42 : decode cX1_sow 42 = .ok (.irem, 1) := by decide +kernel
theorem dX1_sow_43 : decode cX1_sow 43 = .ok (.iadd, 1) := by decide +kernel
theorem dX1_sow_44 : decode cX1_sow 44 = .ok (.iload_n 1, 1) := by decide +kernel
theorem dX1_sow_45 : decode cX1_sow 45 = .ok (.iconst 3, 1) := by decide +kernel
theorem dX1_sow_46 : decode cX1_sow 46 = .ok (.imul, 1) := by decide +kernel
theorem dX1_sow_47 : decode cX1_sow 47 = .ok (.bipush 7, 2) := by decide +kernel
theorem dX1_sow_49 : decode cX1_sow 49 = .ok (.iload_n 3, 1) := by decide +kernel
theorem dX1_sow_50 : decode cX1_sow 50 = .ok (.imul, 1) := by decide +kernel
theorem dX1_sow_51 : decode cX1_sow 51 = .ok (.iload_n 3, 1) := by decide +kernel
theorem dX1_sow_52 : decode cX1_sow 52 = .ok (.imul, 1) := by decide +kernel
theorem dX1_sow_53 : decode cX1_sow 53 = .ok (.iadd, 1) := by decide +kernel
theorem dX1_sow_54 : decode cX1_sow 54 = .ok (.bipush 51, 2) := by decide +kernel
theorem dX1_sow_56 : decode cX1_sow 56 = .ok (.irem, 1) := by decide +kernel
theorem dX1_sow_57 : decode cX1_sow 57 = .ok (.iconst 1, 1) := by decide +kernel
theorem dX1_sow_58 : decode cX1_sow 58 = .ok (.iload_n 1, 1) := by decide +kernel
theorem dX1_sow_59 : decode cX1_sow 59 = .ok (.iload_n 3, 1) := by decide +kernel
theorem dX1_sow_60 : decode cX1_sow 60 = .ok (.iadd, 1) := by decide +kernel
theorem dX1_sow_61 : decode cX1_sow 61 = .ok (.iconst 2, 1) := by decide +kernel
theorem dX1_sow_62 : decode cX1_sow 62 = .ok (.irem, 1) := by decide +kernel
theorem dX1_sow_63 : decode cX1_sow 63 = .ok (.iadd, 1) := by decide +kernel
theorem dX1_sow_64 : decode cX1_sow 64 = .ok (.iload_n 1, 1) := by decide +kernel
theorem dX1_sow_65 : decode cX1_sow 65 = .ok (.iload_n 3, 1) := by decide +kernel
theorem dX1_sow_66 : decode cX1_sow 66 = .ok (.iload_n 3, 1) := by decide +kernel
theorem dX1_sow_67 : decode cX1_sow 67 = .ok (.imul, 1) := by decide +kernel
theorem dX1_sow_68 : decode cX1_sow 68 = .ok (.iadd, 1) := by decide +kernel
theorem dX1_sow_69 : decode cX1_sow 69 = .ok (.iconst 4, 1) := by decide +kernel
theorem dX1_sow_70 : decode cX1_sow 70 = .ok (.irem, 1) := by decide +kernel
theorem dX1_sow_71 : decode cX1_sow 71 = .ok (.invokevirtual 32, 3) := by decide +kernel
theorem dX1_sow_74 : decode cX1_sow 74 = .ok (.pop, 1) := by decide +kernel
theorem dX1_sow_75 : decode cX1_sow 75 = .ok (.iinc 3 1, 3) := by decide +kernel
theorem dX1_sow_78 : decode cX1_sow 78 = .ok (.goto (-50), 3) := by decide +kernel
theorem dX1_sow_81 : decode cX1_sow 81 = .ok (.aload_n 0, 1) := by decide +kernel
theorem dX1_sow_82 : decode cX1_sow 82 = .ok (.getfield 29, 3) := by decide +kernel
theorem dX1_sow_85 : decode cX1_sow 85 = .ok (.ireturn, 1) := by decide +kernel
abbrev cX1_drop : ByteArray := prog_3_method_6_code
def yX1_drop : MethodName := ⟨RX1, "drop", "(I)I"⟩
theorem dX1_drop_0 : decode cX1_drop 0 = .ok (.aload_n 0, 1) := by decide +kernel
theorem dX1_drop_1 : decode cX1_drop 1 = .ok (.iload_n 1, 1) := by decide +kernel
theorem dX1_drop_2 : decode cX1_drop 2 = .ok (.invokevirtual 36, 3) := by decide +kernel
theorem dX1_drop_5 : decode cX1_drop 5 = .ok (.ifCond .eq 5, 3) := by decide +kernel
theorem dX1_drop_8 : decode cX1_drop 8 = .ok (.iconst (-1), 1) := by decide +kernel
theorem dX1_drop_9 : decode cX1_drop 9 = .ok (.ireturn, 1) := by decide +kernel
theorem dX1_drop_10 : decode cX1_drop 10 = .ok (.iload_n 1, 1) := by decide +kernel
theorem dX1_drop_11 : decode cX1_drop 11 = .ok (.istore_n 2, 1) := by decide +kernel
theorem dX1_drop_12 : decode cX1_drop 12 = .ok (.iload_n 2, 1) := by decide +kernel
theorem dX1_drop_13 : decode cX1_drop 13 = .ok (.aload_n 0, 1) := by decide +kernel
theorem dX1_drop_14 : decode cX1_drop 14 = .ok (.getfield 29, 3) := by decide +kernel
theorem dX1_drop_17 : decode cX1_drop 17 = .ok (.iconst 1, 1) := by decide +kernel
theorem dX1_drop_18 : decode cX1_drop 18 = .ok (.isub, 1) := by decide +kernel
theorem dX1_drop_19 : decode cX1_drop 19 = .ok (.if_icmp .ge 71, 3) := by decide +kernel
theorem dX1_drop_22 : decode cX1_drop 22 = .ok (.iload_n 2, 1) := by decide +kernel
theorem dX1_drop_23 : decode cX1_drop 23 = .ok (.bipush 6, 2) := by decide +kernel
theorem dX1_drop_25 : decode cX1_drop 25 = .ok (.if_icmp .ge 65, 3) := by decide +kernel
theorem dX1_drop_28 : decode cX1_drop 28 = .ok (.aload_n 0, 1) := by decide +kernel
theorem dX1_drop_29 : decode cX1_drop 29 = .ok (.getfield 7, 3) := by decide +kernel
theorem dX1_drop_32 : decode cX1_drop 32 = .ok (.iload_n 2, 1) := by decide +kernel
theorem dX1_drop_33 : decode cX1_drop 33 = .ok (.aload_n 0, 1) := by decide +kernel
theorem dX1_drop_34 : decode cX1_drop 34 = .ok (.getfield 7, 3) := by decide +kernel
theorem dX1_drop_37 : decode cX1_drop 37 = .ok (.iload_n 2, 1) := by decide +kernel
theorem dX1_drop_38 : decode cX1_drop 38 = .ok (.iconst 1, 1) := by decide +kernel
theorem dX1_drop_39 : decode cX1_drop 39 = .ok (.iadd, 1) := by decide +kernel
theorem dX1_drop_40 : decode cX1_drop 40 = .ok (.iaload, 1) := by decide +kernel
theorem dX1_drop_41 : decode cX1_drop 41 = .ok (.iastore, 1) := by decide +kernel
theorem dX1_drop_42 : decode cX1_drop 42 = .ok (.aload_n 0, 1) := by decide +kernel
theorem dX1_drop_43 : decode cX1_drop 43 = .ok (.getfield 13, 3) := by decide +kernel
theorem dX1_drop_46 : decode cX1_drop 46 = .ok (.iload_n 2, 1) := by decide +kernel
theorem dX1_drop_47 : decode cX1_drop 47 = .ok (.aload_n 0, 1) := by decide +kernel
theorem dX1_drop_48 : decode cX1_drop 48 = .ok (.getfield 13, 3) := by decide +kernel
theorem dX1_drop_51 : decode cX1_drop 51 = .ok (.iload_n 2, 1) := by decide +kernel
theorem dX1_drop_52 : decode cX1_drop 52 = .ok (.iconst 1, 1) := by decide +kernel
theorem dX1_drop_53 : decode cX1_drop 53 = .ok (.iadd, 1) := by decide +kernel
theorem dX1_drop_54 : decode cX1_drop 54 = .ok (.iaload, 1) := by decide +kernel
theorem dX1_drop_55 : decode cX1_drop 55 = .ok (.iastore, 1) := by decide +kernel
theorem dX1_drop_56 : decode cX1_drop 56 = .ok (.aload_n 0, 1) := by decide +kernel
theorem dX1_drop_57 : decode cX1_drop 57 = .ok (.getfield 16, 3) := by decide +kernel
theorem dX1_drop_60 : decode cX1_drop 60 = .ok (.iload_n 2, 1) := by decide +kernel
theorem dX1_drop_61 : decode cX1_drop 61 = .ok (.aload_n 0, 1) := by decide +kernel
theorem dX1_drop_62 : decode cX1_drop 62 = .ok (.getfield 16, 3) := by decide +kernel
theorem dX1_drop_65 : decode cX1_drop 65 = .ok (.iload_n 2, 1) := by decide +kernel
theorem dX1_drop_66 : decode cX1_drop 66 = .ok (.iconst 1, 1) := by decide +kernel
theorem dX1_drop_67 : decode cX1_drop 67 = .ok (.iadd, 1) := by decide +kernel
theorem dX1_drop_68 : decode cX1_drop 68 = .ok (.iaload, 1) := by decide +kernel
theorem dX1_drop_69 : decode cX1_drop 69 = .ok (.iastore, 1) := by decide +kernel
theorem dX1_drop_70 : decode cX1_drop 70 = .ok (.aload_n 0, 1) := by decide +kernel
theorem dX1_drop_71 : decode cX1_drop 71 = .ok (.getfield 19, 3) := by decide +kernel
theorem dX1_drop_74 : decode cX1_drop 74 = .ok (.iload_n 2, 1) := by decide +kernel
theorem dX1_drop_75 : decode cX1_drop 75 = .ok (.aload_n 0, 1) := by decide +kernel
theorem dX1_drop_76 : decode cX1_drop 76 = .ok (.getfield 19, 3) := by decide +kernel
theorem dX1_drop_79 : decode cX1_drop 79 = .ok (.iload_n 2, 1) := by decide +kernel
theorem dX1_drop_80 : decode cX1_drop 80 = .ok (.iconst 1, 1) := by decide +kernel
theorem dX1_drop_81 : decode cX1_drop 81 = .ok (.iadd, 1) := by decide +kernel
theorem dX1_drop_82 : decode cX1_drop 82 = .ok (.iaload, 1) := by decide +kernel
theorem dX1_drop_83 : decode cX1_drop 83 = .ok (.iastore, 1) := by decide +kernel
theorem dX1_drop_84 : decode cX1_drop 84 = .ok (.iinc 2 1, 3) := by decide +kernel
theorem dX1_drop_87 : decode cX1_drop 87 = .ok (.goto (-75), 3) := by decide +kernel
theorem dX1_drop_90 : decode cX1_drop 90 = .ok (.aload_n 0, 1) := by decide +kernel
theorem dX1_drop_91 : decode cX1_drop 91 = .ok (.dup, 1) := by decide +kernel
theorem dX1_drop_92 : decode cX1_drop 92 = .ok (.getfield 29, 3) := by decide +kernel
theorem dX1_drop_95 : decode cX1_drop 95 = .ok (.iconst 1, 1) := by decide +kernel
theorem dX1_drop_96 : decode cX1_drop 96 = .ok (.isub, 1) := by decide +kernel
theorem dX1_drop_97 : decode cX1_drop 97 = .ok (.putfield 29, 3) := by decide +kernel
theorem dX1_drop_100 : decode cX1_drop 100 = .ok (.aload_n 0, 1) := by decide +kernel
theorem dX1_drop_101 : decode cX1_drop 101 = .ok (.getfield 29, 3) := by decide +kernel
theorem dX1_drop_104 : decode cX1_drop 104 = .ok (.ireturn, 1) := by decide +kernel
abbrev cX1_bad : ByteArray := prog_3_method_5_code
def yX1_bad : MethodName := ⟨RX1, "bad", "(I)Z"⟩
theorem dX1_bad_0 : decode cX1_bad 0 = .ok (.iload_n 1, 1) := by decide +kernel
theorem dX1_bad_1 : decode cX1_bad 1 = .ok (.ifCond .lt 17, 3) := by decide +kernel
theorem dX1_bad_4 : decode cX1_bad 4 = .ok (.iload_n 1, 1) := by decide +kernel
theorem dX1_bad_5 : decode cX1_bad 5 = .ok (.aload_n 0, 1) := by decide +kernel
theorem dX1_bad_6 : decode cX1_bad 6 = .ok (.getfield 29, 3) := by decide +kernel
theorem dX1_bad_9 : decode cX1_bad 9 = .ok (.if_icmp .ge 9, 3) := by decide +kernel
theorem dX1_bad_12 : decode cX1_bad 12 = .ok (.iload_n 1, 1) := by decide +kernel
theorem dX1_bad_13 : decode cX1_bad 13 = .ok (.bipush 6, 2) := by decide +kernel
theorem dX1_bad_15 : decode cX1_bad 15 = .ok (.if_icmp .le 7, 3) := by decide +kernel
theorem dX1_bad_18 : decode cX1_bad 18 = .ok (.iconst 1, 1) := by decide +kernel
theorem dX1_bad_19 : decode cX1_bad 19 = .ok (.goto 4, 3) := by decide +kernel
theorem dX1_bad_22 : decode cX1_bad 22 = .ok (.iconst 0, 1) := by decide +kernel
theorem dX1_bad_23 : decode cX1_bad 23 = .ok (.ireturn, 1) := by decide +kernel
abbrev cX1_limit : ByteArray := prog_3_method_7_code
def yX1_limit : MethodName := ⟨RX1, "limit", "(I)I"⟩
theorem dX1_limit_0 : decode cX1_limit 0 = .ok (.iload_n 1, 1) := by decide +kernel
theorem dX1_limit_1 : decode cX1_limit 1 = .ok (.ifCond .lt 9, 3) := by decide +kernel
theorem dX1_limit_4 : decode cX1_limit 4 = .ok (.iload_n 1, 1) := by decide +kernel
theorem dX1_limit_5 : decode cX1_limit 5 = .ok (.bipush 60, 2) := by decide +kernel
theorem dX1_limit_7 : decode cX1_limit 7 = .ok (.if_icmp .le 5, 3) := by decide +kernel
theorem dX1_limit_10 : decode cX1_limit 10 = .ok (.iconst (-1), 1) := by decide +kernel
theorem dX1_limit_11 : decode cX1_limit 11 = .ok (.ireturn, 1) := by decide +kernel
theorem dX1_limit_12 : decode cX1_limit 12 = .ok (.aload_n 0, 1) := by decide +kernel
theorem dX1_limit_13 : decode cX1_limit 13 = .ok (.getfield 22, 3) := by decide +kernel
theorem dX1_limit_16 : decode cX1_limit 16 = .ok (.istore_n 2, 1) := by decide +kernel
theorem dX1_limit_17 : decode cX1_limit 17 = .ok (.aload_n 0, 1) := by decide +kernel
theorem dX1_limit_18 : decode cX1_limit 18 = .ok (.iload_n 1, 1) := by decide +kernel
theorem dX1_limit_19 : decode cX1_limit 19 = .ok (.putfield 22, 3) := by decide +kernel
theorem dX1_limit_22 : decode cX1_limit 22 = .ok (.iload_n 2, 1) := by decide +kernel
theorem dX1_limit_23 : decode cX1_limit 23 = .ok (.ireturn, 1) := by decide +kernel
abbrev cX1_goods : ByteArray := prog_3_method_8_code
def yX1_goods : MethodName := ⟨RX1, "goods", "()I"⟩
theorem dX1_goods_0 : decode cX1_goods 0 = .ok (.aload_n 0, 1) := by decide +kernel
theorem dX1_goods_1 : decode cX1_goods 1 = .ok (.getfield 29, 3) := by decide +kernel
theorem dX1_goods_4 : decode cX1_goods 4 = .ok (.ireturn, 1) := by decide +kernel
abbrev cX1_weightOf : ByteArray := prog_3_method_11_code
def yX1_weightOf : MethodName := ⟨RX1, "weightOf", "(I)I"⟩
theorem dX1_weightOf_0 : decode cX1_weightOf 0 = .ok (.aload_n 0, 1) := by decide +kernel
theorem dX1_weightOf_1 : decode cX1_weightOf 1 = .ok (.iload_n 1, 1) := by decide +kernel
theorem dX1_weightOf_2 : decode cX1_weightOf 2 = .ok (.invokevirtual 46, 3) := by decide +kernel
theorem dX1_weightOf_5 : decode cX1_weightOf 5 = .ok (.ifCond .eq 10, 3) := by decide +kernel
theorem dX1_weightOf_8 : decode cX1_weightOf 8 = .ok (.aload_n 0, 1) := by decide +kernel
theorem dX1_weightOf_9 : decode cX1_weightOf 9 = .ok (.getfield 40, 3) := by decide +kernel
theorem dX1_weightOf_12 : decode cX1_weightOf 12 = .ok (.goto 4, 3) := by decide +kernel
theorem dX1_weightOf_15 : decode cX1_weightOf 15 = .ok (.iconst (-1), 1) := by decide +kernel
theorem dX1_weightOf_16 : decode cX1_weightOf 16 = .ok (.ireturn, 1) := by decide +kernel
end
section
set_option maxRecDepth 100000
abbrev cX1_choice : ByteArray := prog_3_method_9_code
def yX1_choice : MethodName := ⟨RX1, "choice", "(I)Z"⟩
theorem dX1_choice_0 : decode cX1_choice 0 = .ok (.iload_n 1, 1) := by decide +kernel
theorem dX1_choice_1 : decode cX1_choice 1 = .ok (.istore_n 2, 1) := by decide +kernel
theorem dX1_choice_2 : decode cX1_choice 2 = .ok (.aload_n 0, 1) := by decide +kernel
theorem dX1_choice_3 : decode cX1_choice 3 = .ok (.iconst 0, 1) := by decide +kernel
theorem dX1_choice_4 : decode cX1_choice 4 = .ok (.putfield 40, 3) := by decide +kernel
theorem dX1_choice_7 : decode cX1_choice 7 = .ok (.aload_n 0, 1) := by decide +kernel
theorem dX1_choice_8 : decode cX1_choice 8 = .ok (.iconst 0, 1) := by decide +kernel
theorem dX1_choice_9 : decode cX1_choice 9 = .ok (.putfield 43, 3) := by decide +kernel
theorem dX1_choice_12 : decode cX1_choice 12 = .ok (.iload_n 1, 1) := by decide +kernel
theorem dX1_choice_13 : decode cX1_choice 13 = .ok (.ifCond .ge 5, 3) := by decide +kernel
theorem dX1_choice_16 : decode cX1_choice 16 = .ok (.iconst 0, 1) := by decide +kernel
theorem dX1_choice_17 : decode cX1_choice 17 = .ok (.ireturn, 1) := by decide +kernel
theorem dX1_choice_18 : decode cX1_choice 18 = .ok (.aload_n 0, 1) := by decide +kernel
theorem dX1_choice_19 : decode cX1_choice 19 = .ok (.getfield 29, 3) := by decide +kernel
theorem dX1_choice_22 : decode cX1_choice 22 = .ok (.iconst 1, 1) := by decide +kernel
theorem dX1_choice_23 : decode cX1_choice 23 = .ok (.isub, 1) := by decide +kernel
theorem dX1_choice_24 : decode cX1_choice 24 = .ok (.istore_n 3, 1) := by decide +kernel
theorem dX1_choice_25 : decode cX1_choice 25 = .ok (.iload_n 3, 1) := by decide +kernel
theorem dX1_choice_26 : decode cX1_choice 26 = .ok (.ifCond .lt 81, 3) := by decide +kernel
theorem dX1_choice_29 : decode cX1_choice 29 = .ok (.iload_n 3, 1) := by decide +kernel
theorem dX1_choice_30 : decode cX1_choice 30 = .ok (.bipush 7, 2) := by decide +kernel
theorem dX1_choice_32 : decode cX1_choice 32 = .ok (.if_icmp .ge 75, 3) := by decide +kernel
theorem dX1_choice_35 : decode cX1_choice 35 = .ok (.iload_n 2, 1) := by decide +kernel
theorem dX1_choice_36 : decode cX1_choice 36 = .ok (.iconst 3, 1) := by decide +kernel
theorem dX1_choice_37 : decode cX1_choice 37 = .ok (.irem, 1) := by decide +kernel
theorem dX1_choice_38 : decode cX1_choice 38 = .ok (.istore 4, 2) := by decide +kernel
theorem dX1_choice_40 : decode cX1_choice 40 = .ok (.iload 4, 2) := by decide +kernel
theorem dX1_choice_42 : decode cX1_choice 42 = .ok (.aload_n 0, 1) := by decide +kernel
theorem dX1_choice_43 : decode cX1_choice 43 = .ok (.getfield 16, 3) := by decide +kernel
theorem dX1_choice_46 : decode cX1_choice 46 = .ok (.iload_n 3, 1) := by decide +kernel
theorem dX1_choice_47 : decode cX1_choice 47 = .ok (.iaload, 1) := by decide +kernel
theorem dX1_choice_48 : decode cX1_choice 48 = .ok (.if_icmp .le 5, 3) := by decide +kernel
theorem dX1_choice_51 : decode cX1_choice 51 = .ok (.iconst 0, 1) := by decide +kernel
theorem dX1_choice_52 : decode cX1_choice 52 = .ok (.ireturn, 1) := by decide +kernel
theorem dX1_choice_53 : decode cX1_choice 53 = .ok (.aload_n 0, 1) := by decide +kernel
theorem dX1_choice_54 : decode cX1_choice 54 = .ok (.getfield 26, 3) := by decide +kernel
theorem dX1_choice_57 : decode cX1_choice 57 = .ok (.iload_n 3, 1) := by decide +kernel
theorem dX1_choice_58 : decode cX1_choice 58 = .ok (.iload 4, 2) := by decide +kernel
theorem dX1_choice_60 : decode cX1_choice 60 = .ok (.iastore, 1) := by decide +kernel
theorem dX1_choice_61 : decode cX1_choice 61 = .ok (.aload_n 0, 1) := by decide +kernel
theorem dX1_choice_62 : decode cX1_choice 62 = .ok (.dup, 1) := by decide +kernel
theorem dX1_choice_63 : decode cX1_choice 63 = .ok (.getfield 40, 3) := by decide +kernel
theorem dX1_choice_66 : decode cX1_choice 66 = .ok (.iload 4, 2) := by decide +kernel
theorem dX1_choice_68 : decode cX1_choice 68 = .ok (.aload_n 0, 1) := by decide +kernel
theorem dX1_choice_69 : decode cX1_choice 69 = .ok (.getfield 7, 3) := by decide +kernel
theorem dX1_choice_72 : decode cX1_choice 72 = .ok (.iload_n 3, 1) := by decide +kernel
theorem dX1_choice_73 : decode cX1_choice 73 = .ok (.iaload, 1) := by decide +kernel
theorem dX1_choice_74 : decode cX1_choice 74 = .ok (.imul, 1) := by decide +kernel
theorem dX1_choice_75 : decode cX1_choice 75 = .ok (.iadd, 1) := by decide +kernel
theorem dX1_choice_76 : decode cX1_choice 76 = .ok (.putfield 40, 3) := by decide +kernel
theorem dX1_choice_79 : decode cX1_choice 79 = .ok (.aload_n 0, 1) := by decide +kernel
theorem dX1_choice_80 : decode cX1_choice 80 = .ok (.dup, 1) := by decide +kernel
theorem dX1_choice_81 : decode cX1_choice 81 = .ok (.getfield 43, 3) := by decide +kernel
theorem dX1_choice_84 : decode cX1_choice 84 = .ok (.iload 4, 2) := by decide +kernel
theorem dX1_choice_86 : decode cX1_choice 86 = .ok (.aload_n 0, 1) := by decide +kernel
theorem dX1_choice_87 : decode cX1_choice 87 = .ok (.getfield 13, 3) := by decide +kernel
theorem dX1_choice_90 : decode cX1_choice 90 = .ok (.iload_n 3, 1) := by decide +kernel
theorem dX1_choice_91 : decode cX1_choice 91 = .ok (.iaload, 1) := by decide +kernel
theorem dX1_choice_92 : decode cX1_choice 92 = .ok (.imul, 1) := by decide +kernel
theorem dX1_choice_93 : decode cX1_choice 93 = .ok (.iadd, 1) := by decide +kernel
theorem dX1_choice_94 : decode cX1_choice 94 = .ok (.putfield 43, 3) := by decide +kernel
theorem dX1_choice_97 : decode cX1_choice 97 = .ok (.iload_n 2, 1) := by decide +kernel
theorem dX1_choice_98 : decode cX1_choice 98 = .ok (.iconst 3, 1) := by decide +kernel
theorem dX1_choice_99 : decode cX1_choice 99 = .ok (.idiv, 1) := by decide +kernel
theorem dX1_choice_100 : decode cX1_choice 100 = .ok (.istore_n 2, 1) := by decide +kernel
theorem dX1_choice_101 : decode cX1_choice 101 = .ok (.iinc 3 (-1), 3) := by decide +kernel
theorem dX1_choice_104 : decode cX1_choice 104 = .ok (.goto (-79), 3) := by decide +kernel
theorem dX1_choice_107 : decode cX1_choice 107 = .ok (.iload_n 2, 1) := by decide +kernel
theorem dX1_choice_108 : decode cX1_choice 108 = .ok (.ifCond .ne 7, 3) := by decide +kernel
theorem dX1_choice_111 : decode cX1_choice 111 = .ok (.iconst 1, 1) := by decide +kernel
theorem dX1_choice_112 : decode cX1_choice 112 = .ok (.goto 4, 3) := by decide +kernel
theorem dX1_choice_115 : decode cX1_choice 115 = .ok (.iconst 0, 1) := by decide +kernel
theorem dX1_choice_116 : decode cX1_choice 116 = .ok (.ireturn, 1) := by decide +kernel
abbrev cX1_valueOf : ByteArray := prog_3_method_12_code
def yX1_valueOf : MethodName := ⟨RX1, "valueOf", "(I)I"⟩
theorem dX1_valueOf_0 : decode cX1_valueOf 0 = .ok (.aload_n 0, 1) := by decide +kernel
theorem dX1_valueOf_1 : decode cX1_valueOf 1 = .ok (.iload_n 1, 1) := by decide +kernel
theorem dX1_valueOf_2 : decode cX1_valueOf 2 = .ok (.invokevirtual 46, 3) := by decide +kernel
theorem dX1_valueOf_5 : decode cX1_valueOf 5 = .ok (.ifCond .eq 10, 3) := by decide +kernel
theorem dX1_valueOf_8 : decode cX1_valueOf 8 = .ok (.aload_n 0, 1) := by decide +kernel
theorem dX1_valueOf_9 : decode cX1_valueOf 9 = .ok (.getfield 43, 3) := by decide +kernel
theorem dX1_valueOf_12 : decode cX1_valueOf 12 = .ok (.goto 4, 3) := by decide +kernel
theorem dX1_valueOf_15 : decode cX1_valueOf 15 = .ok (.iconst (-1), 1) := by decide +kernel
theorem dX1_valueOf_16 : decode cX1_valueOf 16 = .ok (.ireturn, 1) := by decide +kernel
abbrev cX1_best : ByteArray := prog_3_method_16_code
def yX1_best : MethodName := ⟨RX1, "best", "()I"⟩
theorem dX1_best_0 : decode cX1_best 0 = .ok (.aload_n 0, 1) := by decide +kernel
theorem dX1_best_1 : decode cX1_best 1 = .ok (.iconst 0, 1) := by decide +kernel
theorem dX1_best_2 : decode cX1_best 2 = .ok (.iconst (-1), 1) := by decide +kernel
theorem dX1_best_3 : decode cX1_best 3 = .ok (.invokevirtual 57, 3) := by decide +kernel
theorem dX1_best_6 : decode cX1_best 6 = .ok (.istore_n 1, 1) := by decide +kernel
theorem dX1_best_7 : decode cX1_best 7 = .ok (.aload_n 0, 1) := by decide +kernel
theorem dX1_best_8 : decode cX1_best 8 = .ok (.iload_n 1, 1) := by decide +kernel
theorem dX1_best_9 : decode cX1_best 9 = .ok (.invokevirtual 61, 3) := by decide +kernel
theorem dX1_best_12 : decode cX1_best 12 = .ok (.ireturn, 1) := by decide +kernel
abbrev cX1_search : ByteArray := prog_3_method_14_code
def yX1_search : MethodName := ⟨RX1, "search", "(ZI)I"⟩
theorem dX1_search_0 : decode cX1_search 0 = .ok (.aload_n 0, 1) := by decide +kernel
theorem dX1_search_1 : decode cX1_search 1 = .ok (.invokevirtual 49, 3) := by decide +kernel
theorem dX1_search_4 : decode cX1_search 4 = .ok (.istore_n 3, 1) := by decide +kernel
theorem dX1_search_5 : decode cX1_search 5 = .ok (.iconst 0, 1) := by decide +kernel
theorem dX1_search_6 : decode cX1_search 6 = .ok (.istore 4, 2) := by decide +kernel
theorem dX1_search_8 : decode cX1_search 8 = .ok (.iconst 0, 1) := by decide +kernel
theorem dX1_search_9 : decode cX1_search 9 = .ok (.istore 5, 2) := by decide +kernel
theorem dX1_search_11 : decode cX1_search 11 = .ok (.iconst 0, 1) := by decide +kernel
theorem dX1_search_12 : decode cX1_search 12 = .ok (.istore 6, 2) := by decide +kernel
theorem dX1_search_14 : decode cX1_search 14 = .ok (.iconst 0, 1) := by decide +kernel
theorem dX1_search_15 : decode cX1_search 15 = .ok (.istore 7, 2) := by decide +kernel
theorem dX1_search_17 : decode cX1_search 17 = .ok (.iload 7, 2) := by decide +kernel
theorem dX1_search_19 : decode cX1_search 19 = .ok (.iload_n 3, 1) := by decide +kernel
theorem dX1_search_20 : decode cX1_search 20 = .ok (.if_icmp .ge 108, 3) := by decide +kernel
theorem dX1_search_23 : decode cX1_search 23 = .ok (.aload_n 0, 1) := by decide +kernel
theorem dX1_search_24 : decode cX1_search 24 = .ok (.iload 7, 2) := by decide +kernel
theorem dX1_search_26 : decode cX1_search 26 = .ok (.invokevirtual 46, 3) := by decide +kernel
theorem dX1_search_29 : decode cX1_search 29 = .ok (.ifCond .eq 29, 3) := by decide +kernel
theorem dX1_search_32 : decode cX1_search 32 = .ok (.aload_n 0, 1) := by decide +kernel
theorem dX1_search_33 : decode cX1_search 33 = .ok (.getfield 40, 3) := by decide +kernel
theorem dX1_search_36 : decode cX1_search 36 = .ok (.aload_n 0, 1) := by decide +kernel
theorem dX1_search_37 : decode cX1_search 37 = .ok (.getfield 22, 3) := by decide +kernel
theorem dX1_search_40 : decode cX1_search 40 = .ok (.if_icmp .gt 18, 3) := by decide +kernel
theorem dX1_search_43 : decode cX1_search 43 = .ok (.iload_n 1, 1) := by decide +kernel
theorem dX1_search_44 : decode cX1_search 44 = .ok (.ifCond .eq 10, 3) := by decide +kernel
theorem dX1_search_47 : decode cX1_search 47 = .ok (.aload_n 0, 1) := by decide +kernel
theorem dX1_search_48 : decode cX1_search 48 = .ok (.invokevirtual 53, 3) := by decide +kernel
theorem dX1_search_51 : decode cX1_search 51 = .ok (.ifCond .eq 7, 3) := by decide +kernel
theorem dX1_search_54 : decode cX1_search 54 = .ok (.iconst 1, 1) := by decide +kernel
theorem dX1_search_55 : decode cX1_search 55 = .ok (.goto 4, 3) := by decide +kernel
theorem dX1_search_58 : decode cX1_search 58 = .ok (.iconst 0, 1) := by decide +kernel
theorem dX1_search_59 : decode cX1_search 59 = .ok (.istore 8, 2) := by decide +kernel
theorem dX1_search_61 : decode cX1_search 61 = .ok (.iload 8, 2) := by decide +kernel
theorem dX1_search_63 : decode cX1_search 63 = .ok (.ifCond .eq 59, 3) := by decide +kernel
theorem dX1_search_66 : decode cX1_search 66 = .ok (.iload_n 2, 1) := by decide +kernel
theorem dX1_search_67 : decode cX1_search 67 = .ok (.ifCond .lt 12, 3) := by decide +kernel
theorem dX1_search_70 : decode cX1_search 70 = .ok (.aload_n 0, 1) := by decide +kernel
theorem dX1_search_71 : decode cX1_search 71 = .ok (.getfield 26, 3) := by decide +kernel
theorem dX1_search_74 : decode cX1_search 74 = .ok (.iload_n 2, 1) := by decide +kernel
theorem dX1_search_75 : decode cX1_search 75 = .ok (.iaload, 1) := by decide +kernel
theorem dX1_search_76 : decode cX1_search 76 = .ok (.ifCond .ne 46, 3) := by decide +kernel
theorem dX1_search_79 : decode cX1_search 79 = .ok (.aload_n 0, 1) := by decide +kernel
theorem dX1_search_80 : decode cX1_search 80 = .ok (.getfield 43, 3) := by decide +kernel
theorem dX1_search_83 : decode cX1_search 83 = .ok (.iload 5, 2) := by decide +kernel
theorem dX1_search_85 : decode cX1_search 85 = .ok (.if_icmp .gt 21, 3) := by decide +kernel
theorem dX1_search_88 : decode cX1_search 88 = .ok (.aload_n 0, 1) := by decide +kernel
theorem dX1_search_89 : decode cX1_search 89 = .ok (.getfield 43, 3) := by decide +kernel
theorem dX1_search_92 : decode cX1_search 92 = .ok (.iload 5, 2) := by decide +kernel
theorem dX1_search_94 : decode cX1_search 94 = .ok (.if_icmp .ne 28, 3) := by decide +kernel
theorem dX1_search_97 : decode cX1_search 97 = .ok (.aload_n 0, 1) := by decide +kernel
theorem dX1_search_98 : decode cX1_search 98 = .ok (.getfield 40, 3) := by decide +kernel
theorem dX1_search_101 : decode cX1_search 101 = .ok (.iload 6, 2) := by decide +kernel
theorem dX1_search_103 : decode cX1_search 103 = .ok (.if_icmp .ge 19, 3) := by decide +kernel
theorem dX1_search_106 : decode cX1_search 106 = .ok (.iload 7, 2) := by decide +kernel
theorem dX1_search_108 : decode cX1_search 108 = .ok (.istore 4, 2) := by decide +kernel
theorem dX1_search_110 : decode cX1_search 110 = .ok (.aload_n 0, 1) := by decide +kernel
theorem dX1_search_111 : decode cX1_search 111 = .ok (.getfield 43, 3) := by decide +kernel
theorem dX1_search_114 : decode cX1_search 114 = .ok (.istore 5, 2) := by decide +kernel
theorem dX1_search_116 : decode cX1_search 116 = .ok (.aload_n 0, 1) := by decide +kernel
theorem dX1_search_117 : decode cX1_search 117 = .ok (.getfield 40, 3) := by decide +kernel
theorem dX1_search_120 : decode cX1_search 120 = .ok (.istore 6, 2) := by decide +kernel
theorem dX1_search_122 : decode cX1_search 122 = .ok (.iinc 7 1, 3) := by decide +kernel
theorem dX1_search_125 : decode cX1_search 125 = .ok (.goto (-108), 3) := by decide +kernel
theorem dX1_search_128 : decode cX1_search 128 = .ok (.iload 4, 2) := by decide +kernel
theorem dX1_search_130 : decode cX1_search 130 = .ok (.ireturn, 1) := by decide +kernel
abbrev cX1_end : ByteArray := prog_3_method_10_code
def yX1_end : MethodName := ⟨RX1, "end", "()I"⟩
theorem dX1_end_0 : decode cX1_end 0 = .ok (.iconst 1, 1) := by decide +kernel
theorem dX1_end_1 : decode cX1_end 1 = .ok (.istore_n 1, 1) := by decide +kernel
theorem dX1_end_2 : decode cX1_end 2 = .ok (.iconst 0, 1) := by decide +kernel
theorem dX1_end_3 : decode cX1_end 3 = .ok (.istore_n 2, 1) := by decide +kernel
theorem dX1_end_4 : decode cX1_end 4 = .ok (.iload_n 2, 1) := by decide +kernel
theorem dX1_end_5 : decode cX1_end 5 = .ok (.aload_n 0, 1) := by decide +kernel
theorem dX1_end_6 : decode cX1_end 6 = .ok (.getfield 29, 3) := by decide +kernel
theorem dX1_end_9 : decode cX1_end 9 = .ok (.if_icmp .ge 13, 3) := by decide +kernel
theorem dX1_end_12 : decode cX1_end 12 = .ok (.iconst 3, 1) := by decide +kernel
theorem dX1_end_13 : decode cX1_end 13 = .ok (.iload_n 1, 1) := by decide +kernel
theorem dX1_end_14 : decode cX1_end 14 = .ok (.imul, 1) := by decide +kernel
theorem dX1_end_15 : decode cX1_end 15 = .ok (.istore_n 1, 1) := by decide +kernel
theorem dX1_end_16 : decode cX1_end 16 = .ok (.iinc 2 1, 3) := by decide +kernel
theorem dX1_end_19 : decode cX1_end 19 = .ok (.goto (-15), 3) := by decide +kernel
theorem dX1_end_22 : decode cX1_end 22 = .ok (.iload_n 1, 1) := by decide +kernel
theorem dX1_end_23 : decode cX1_end 23 = .ok (.ireturn, 1) := by decide +kernel
abbrev cX1_strict : ByteArray := prog_3_method_13_code
def yX1_strict : MethodName := ⟨RX1, "strict", "()Z"⟩
theorem dX1_strict_0 : decode cX1_strict 0 = .ok (.iconst 0, 1) := by decide +kernel
theorem dX1_strict_1 : decode cX1_strict 1 = .ok (.istore_n 1, 1) := by decide +kernel
theorem dX1_strict_2 : decode cX1_strict 2 = .ok (.iload_n 1, 1) := by decide +kernel
theorem dX1_strict_3 : decode cX1_strict 3 = .ok (.aload_n 0, 1) := by decide +kernel
theorem dX1_strict_4 : decode cX1_strict 4 = .ok (.getfield 29, 3) := by decide +kernel
theorem dX1_strict_7 : decode cX1_strict 7 = .ok (.if_icmp .ge 63, 3) := by decide +kernel
theorem dX1_strict_10 : decode cX1_strict 10 = .ok (.iload_n 1, 1) := by decide +kernel
theorem dX1_strict_11 : decode cX1_strict 11 = .ok (.bipush 7, 2) := by decide +kernel
theorem dX1_strict_13 : decode cX1_strict 13 = .ok (.if_icmp .ge 57, 3) := by decide +kernel
theorem dX1_strict_16 : decode cX1_strict 16 = .ok (.iconst 0, 1) := by decide +kernel
theorem dX1_strict_17 : decode cX1_strict 17 = .ok (.istore_n 2, 1) := by decide +kernel
theorem dX1_strict_18 : decode cX1_strict 18 = .ok (.iload_n 2, 1) := by decide +kernel
theorem dX1_strict_19 : decode cX1_strict 19 = .ok (.iload_n 1, 1) := by decide +kernel
theorem dX1_strict_20 : decode cX1_strict 20 = .ok (.if_icmp .ge 44, 3) := by decide +kernel
theorem dX1_strict_23 : decode cX1_strict 23 = .ok (.aload_n 0, 1) := by decide +kernel
theorem dX1_strict_24 : decode cX1_strict 24 = .ok (.getfield 26, 3) := by decide +kernel
theorem dX1_strict_27 : decode cX1_strict 27 = .ok (.iload_n 1, 1) := by decide +kernel
theorem dX1_strict_28 : decode cX1_strict 28 = .ok (.iaload, 1) := by decide +kernel
theorem dX1_strict_29 : decode cX1_strict 29 = .ok (.ifCond .le 29, 3) := by decide +kernel
theorem dX1_strict_32 : decode cX1_strict 32 = .ok (.aload_n 0, 1) := by decide +kernel
theorem dX1_strict_33 : decode cX1_strict 33 = .ok (.getfield 26, 3) := by decide +kernel
theorem dX1_strict_36 : decode cX1_strict 36 = .ok (.iload_n 2, 1) := by decide +kernel
theorem dX1_strict_37 : decode cX1_strict 37 = .ok (.iaload, 1) := by decide +kernel
theorem dX1_strict_38 : decode cX1_strict 38 = .ok (.ifCond .le 20, 3) := by decide +kernel
theorem dX1_strict_41 : decode cX1_strict 41 = .ok (.aload_n 0, 1) := by decide +kernel
theorem dX1_strict_42 : decode cX1_strict 42 = .ok (.getfield 19, 3) := by decide +kernel
theorem dX1_strict_45 : decode cX1_strict 45 = .ok (.iload_n 1, 1) := by decide +kernel
theorem dX1_strict_46 : decode cX1_strict 46 = .ok (.iaload, 1) := by decide +kernel
theorem dX1_strict_47 : decode cX1_strict 47 = .ok (.aload_n 0, 1) := by decide +kernel
theorem dX1_strict_48 : decode cX1_strict 48 = .ok (.getfield 19, 3) := by decide +kernel
theorem dX1_strict_51 : decode cX1_strict 51 = .ok (.iload_n 2, 1) := by decide +kernel
theorem dX1_strict_52 : decode cX1_strict 52 = .ok (.iaload, 1) := by decide +kernel
theorem dX1_strict_53 : decode cX1_strict 53 = .ok (.if_icmp .ne 5, 3) := by decide +kernel
theorem dX1_strict_56 : decode cX1_strict 56 = .ok (.iconst 0, 1) := by decide +kernel
theorem dX1_strict_57 : decode cX1_strict 57 = .ok (.ireturn, 1) := by decide +kernel
theorem dX1_strict_58 : decode cX1_strict 58 = .ok (.iinc 2 1, 3) := by decide +kernel
theorem dX1_strict_61 : decode cX1_strict 61 = .ok (.goto (-43), 3) := by decide +kernel
theorem dX1_strict_64 : decode cX1_strict 64 = .ok (.iinc 1 1, 3) := by decide +kernel
theorem dX1_strict_67 : decode cX1_strict 67 = .ok (.goto (-65), 3) := by decide +kernel
theorem dX1_strict_70 : decode cX1_strict 70 = .ok (.iconst 1, 1) := by decide +kernel
theorem dX1_strict_71 : decode cX1_strict 71 = .ok (.ireturn, 1) := by decide +kernel
abbrev cX1_valueAt : ByteArray := prog_3_method_15_code
def yX1_valueAt : MethodName := ⟨RX1, "valueAt", "(I)I"⟩
theorem dX1_valueAt_0 : decode cX1_valueAt 0 = .ok (.aload_n 0, 1) := by decide +kernel
theorem dX1_valueAt_1 : decode cX1_valueAt 1 = .ok (.iload_n 1, 1) := by decide +kernel
theorem dX1_valueAt_2 : decode cX1_valueAt 2 = .ok (.invokevirtual 46, 3) := by decide +kernel
theorem dX1_valueAt_5 : decode cX1_valueAt 5 = .ok (.ifCond .eq 10, 3) := by decide +kernel
theorem dX1_valueAt_8 : decode cX1_valueAt 8 = .ok (.aload_n 0, 1) := by decide +kernel
theorem dX1_valueAt_9 : decode cX1_valueAt 9 = .ok (.getfield 43, 3) := by decide +kernel
theorem dX1_valueAt_12 : decode cX1_valueAt 12 = .ok (.goto 4, 3) := by decide +kernel
theorem dX1_valueAt_15 : decode cX1_valueAt 15 = .ok (.iconst (-1), 1) := by decide +kernel
theorem dX1_valueAt_16 : decode cX1_valueAt 16 = .ok (.ireturn, 1) := by decide +kernel
abbrev cX1_bestCode : ByteArray := prog_3_method_17_code
def yX1_bestCode : MethodName := ⟨RX1, "bestCode", "()I"⟩
theorem dX1_bestCode_0 : decode cX1_bestCode 0 = .ok (.aload_n 0, 1) := by decide +kernel
theorem dX1_bestCode_1 : decode cX1_bestCode 1 = .ok (.iconst 0, 1) := by decide +kernel
theorem dX1_bestCode_2 : decode cX1_bestCode 2 = .ok (.iconst (-1), 1) := by decide +kernel
theorem dX1_bestCode_3 : decode cX1_bestCode 3 = .ok (.invokevirtual 57, 3) := by decide +kernel
theorem dX1_bestCode_6 : decode cX1_bestCode 6 = .ok (.ireturn, 1) := by decide +kernel
abbrev cX1_bestStrict : ByteArray := prog_3_method_18_code
def yX1_bestStrict : MethodName := ⟨RX1, "bestStrict", "()I"⟩
theorem dX1_bestStrict_0 : decode cX1_bestStrict 0 = .ok (.aload_n 0, 1) := by decide +kernel
theorem dX1_bestStrict_1 : decode cX1_bestStrict 1 = .ok (.iconst 1, 1) := by decide +kernel
theorem dX1_bestStrict_2 : decode cX1_bestStrict 2 = .ok (.iconst (-1), 1) := by decide +kernel
theorem dX1_bestStrict_3 : decode cX1_bestStrict 3 = .ok (.invokevirtual 57, 3) := by decide +kernel
theorem dX1_bestStrict_6 : decode cX1_bestStrict 6 = .ok (.istore_n 1, 1) := by decide +kernel
theorem dX1_bestStrict_7 : decode cX1_bestStrict 7 = .ok (.aload_n 0, 1) := by decide +kernel
theorem dX1_bestStrict_8 : decode cX1_bestStrict 8 = .ok (.iload_n 1, 1) := by decide +kernel
theorem dX1_bestStrict_9 : decode cX1_bestStrict 9 = .ok (.invokevirtual 61, 3) := by decide +kernel
theorem dX1_bestStrict_12 : decode cX1_bestStrict 12 = .ok (.ireturn, 1) := by decide +kernel
abbrev cX1_bestStrictCode : ByteArray := prog_3_method_19_code
def yX1_bestStrictCode : MethodName := ⟨RX1, "bestStrictCode", "()I"⟩
theorem dX1_bestStrictCode_0 : decode cX1_bestStrictCode 0 = .ok (.aload_n 0, 1) := by decide +kernel
theorem dX1_bestStrictCode_1 : decode cX1_bestStrictCode 1 = .ok (.iconst 1, 1) := by decide +kernel
theorem dX1_bestStrictCode_2 : decode cX1_bestStrictCode 2 = .ok (.iconst (-1), 1) := by decide +kernel
theorem dX1_bestStrictCode_3 : decode cX1_bestStrictCode 3 = .ok (.invokevirtual 57, 3) := by decide +kernel
theorem dX1_bestStrictCode_6 : decode cX1_bestStrictCode 6 = .ok (.ireturn, 1) := by decide +kernel
abbrev cX1_fitting : ByteArray := prog_3_method_20_code
def yX1_fitting : MethodName := ⟨RX1, "fitting", "()I"⟩
theorem dX1_fitting_0 : decode cX1_fitting 0 = .ok (.aload_n 0, 1) := by decide +kernel
theorem dX1_fitting_1 : decode cX1_fitting 1 = .ok (.invokevirtual 49, 3) := by decide +kernel
theorem dX1_fitting_4 : decode cX1_fitting 4 = .ok (.istore_n 1, 1) := by decide +kernel
theorem dX1_fitting_5 : decode cX1_fitting 5 = .ok (.iconst 0, 1) := by decide +kernel
theorem dX1_fitting_6 : decode cX1_fitting 6 = .ok (.istore_n 2, 1) := by decide +kernel
theorem dX1_fitting_7 : decode cX1_fitting 7 = .ok (.iconst 0, 1) := by decide +kernel
theorem dX1_fitting_8 : decode cX1_fitting 8 = .ok (.istore_n 3, 1) := by decide +kernel
theorem dX1_fitting_9 : decode cX1_fitting 9 = .ok (.iload_n 3, 1) := by decide +kernel
theorem dX1_fitting_10 : decode cX1_fitting 10 = .ok (.iload_n 1, 1) := by decide +kernel
theorem dX1_fitting_11 : decode cX1_fitting 11 = .ok (.if_icmp .ge 31, 3) := by decide +kernel
theorem dX1_fitting_14 : decode cX1_fitting 14 = .ok (.aload_n 0, 1) := by decide +kernel
theorem dX1_fitting_15 : decode cX1_fitting 15 = .ok (.iload_n 3, 1) := by decide +kernel
theorem dX1_fitting_16 : decode cX1_fitting 16 = .ok (.invokevirtual 46, 3) := by decide +kernel
theorem dX1_fitting_19 : decode cX1_fitting 19 = .ok (.ifCond .eq 17, 3) := by decide +kernel
theorem dX1_fitting_22 : decode cX1_fitting 22 = .ok (.aload_n 0, 1) := by decide +kernel
theorem dX1_fitting_23 : decode cX1_fitting 23 = .ok (.getfield 40, 3) := by decide +kernel
theorem dX1_fitting_26 : decode cX1_fitting 26 = .ok (.aload_n 0, 1) := by decide +kernel
theorem dX1_fitting_27 : decode cX1_fitting 27 = .ok (.getfield 22, 3) := by decide +kernel
theorem dX1_fitting_30 : decode cX1_fitting 30 = .ok (.if_icmp .gt 6, 3) := by decide +kernel
theorem dX1_fitting_33 : decode cX1_fitting 33 = .ok (.iinc 2 1, 3) := by decide +kernel
theorem dX1_fitting_36 : decode cX1_fitting 36 = .ok (.iinc 3 1, 3) := by decide +kernel
theorem dX1_fitting_39 : decode cX1_fitting 39 = .ok (.goto (-30), 3) := by decide +kernel
theorem dX1_fitting_42 : decode cX1_fitting 42 = .ok (.iload_n 2, 1) := by decide +kernel
theorem dX1_fitting_43 : decode cX1_fitting 43 = .ok (.ireturn, 1) := by decide +kernel
end
section
set_option maxRecDepth 100000
abbrev cX1_weighing : ByteArray := prog_3_method_22_code
def yX1_weighing : MethodName := ⟨RX1, "weighing", "(I)I"⟩
theorem dX1_weighing_0 : decode cX1_weighing 0 = .ok (.iload_n 1, 1) := by decide +kernel
theorem dX1_weighing_1 : decode cX1_weighing 1 = .ok (.ifCond .lt 10, 3) := by decide +kernel
theorem dX1_weighing_4 : decode cX1_weighing 4 = .ok (.iload_n 1, 1) := by decide +kernel
theorem dX1_weighing_5 : decode cX1_weighing 5 = .ok (.sipush 300, 3) := by decide +kernel
theorem dX1_weighing_8 : decode cX1_weighing 8 = .ok (.if_icmp .le 7, 3) := by decide +kernel
theorem dX1_weighing_11 : decode cX1_weighing 11 = .ok (.iconst (-1), 1) := by decide +kernel
theorem dX1_weighing_12 : decode cX1_weighing 12 = .ok (.goto 8, 3) := by decide +kernel
theorem dX1_weighing_15 : decode cX1_weighing 15 = .ok (.aload_n 0, 1) := by decide +kernel
theorem dX1_weighing_16 : decode cX1_weighing 16 = .ok (.iload_n 1, 1) := by decide +kernel
theorem dX1_weighing_17 : decode cX1_weighing 17 = .ok (.invokevirtual 65, 3) := by decide +kernel
theorem dX1_weighing_20 : decode cX1_weighing 20 = .ok (.ireturn, 1) := by decide +kernel
abbrev cX1_having : ByteArray := prog_3_method_21_code
def yX1_having : MethodName := ⟨RX1, "having", "(I)I"⟩
theorem dX1_having_0 : decode cX1_having 0 = .ok (.aload_n 0, 1) := by decide +kernel
theorem dX1_having_1 : decode cX1_having 1 = .ok (.invokevirtual 49, 3) := by decide +kernel
theorem dX1_having_4 : decode cX1_having 4 = .ok (.istore_n 2, 1) := by decide +kernel
theorem dX1_having_5 : decode cX1_having 5 = .ok (.iconst 0, 1) := by decide +kernel
theorem dX1_having_6 : decode cX1_having 6 = .ok (.istore_n 3, 1) := by decide +kernel
theorem dX1_having_7 : decode cX1_having 7 = .ok (.iconst 0, 1) := by decide +kernel
theorem dX1_having_8 : decode cX1_having 8 = .ok (.istore 4, 2) := by decide +kernel
theorem dX1_having_10 : decode cX1_having 10 = .ok (.iload 4, 2) := by decide +kernel
theorem dX1_having_12 : decode cX1_having 12 = .ok (.iload_n 2, 1) := by decide +kernel
theorem dX1_having_13 : decode cX1_having 13 = .ok (.if_icmp .ge 29, 3) := by decide +kernel
theorem dX1_having_16 : decode cX1_having 16 = .ok (.aload_n 0, 1) := by decide +kernel
theorem dX1_having_17 : decode cX1_having 17 = .ok (.iload 4, 2) := by decide +kernel
theorem dX1_having_19 : decode cX1_having 19 = .ok (.invokevirtual 46, 3) := by decide +kernel
theorem dX1_having_22 : decode cX1_having 22 = .ok (.ifCond .eq 14, 3) := by decide +kernel
theorem dX1_having_25 : decode cX1_having 25 = .ok (.aload_n 0, 1) := by decide +kernel
theorem dX1_having_26 : decode cX1_having 26 = .ok (.getfield 40, 3) := by decide +kernel
theorem dX1_having_29 : decode cX1_having 29 = .ok (.iload_n 1, 1) := by decide +kernel
theorem dX1_having_30 : decode cX1_having 30 = .ok (.if_icmp .ne 6, 3) := by decide +kernel
theorem dX1_having_33 : decode cX1_having 33 = .ok (.iinc 3 1, 3) := by decide +kernel
theorem dX1_having_36 : decode cX1_having 36 = .ok (.iinc 4 1, 3) := by decide +kernel
theorem dX1_having_39 : decode cX1_having 39 = .ok (.goto (-29), 3) := by decide +kernel
theorem dX1_having_42 : decode cX1_having 42 = .ok (.iload_n 3, 1) := by decide +kernel
theorem dX1_having_43 : decode cX1_having 43 = .ok (.ireturn, 1) := by decide +kernel
abbrev cX1_fullest : ByteArray := prog_3_method_23_code
def yX1_fullest : MethodName := ⟨RX1, "fullest", "()I"⟩
theorem dX1_fullest_0 : decode cX1_fullest 0 = .ok (.aload_n 0, 1) := by decide +kernel
theorem dX1_fullest_1 : decode cX1_fullest 1 = .ok (.invokevirtual 49, 3) := by decide +kernel
theorem dX1_fullest_4 : decode cX1_fullest 4 = .ok (.istore_n 1, 1) := by decide +kernel
theorem dX1_fullest_5 : decode cX1_fullest 5 = .ok (.iconst 0, 1) := by decide +kernel
theorem dX1_fullest_6 : decode cX1_fullest 6 = .ok (.istore_n 2, 1) := by decide +kernel
theorem dX1_fullest_7 : decode cX1_fullest 7 = .ok (.iconst 0, 1) := by decide +kernel
theorem dX1_fullest_8 : decode cX1_fullest 8 = .ok (.istore_n 3, 1) := by decide +kernel
theorem dX1_fullest_9 : decode cX1_fullest 9 = .ok (.iload_n 3, 1) := by decide +kernel
theorem dX1_fullest_10 : decode cX1_fullest 10 = .ok (.iload_n 1, 1) := by decide +kernel
theorem dX1_fullest_11 : decode cX1_fullest 11 = .ok (.if_icmp .ge 41, 3) := by decide +kernel
theorem dX1_fullest_14 : decode cX1_fullest 14 = .ok (.aload_n 0, 1) := by decide +kernel
theorem dX1_fullest_15 : decode cX1_fullest 15 = .ok (.iload_n 3, 1) := by decide +kernel
theorem dX1_fullest_16 : decode cX1_fullest 16 = .ok (.invokevirtual 46, 3) := by decide +kernel
theorem dX1_fullest_19 : decode cX1_fullest 19 = .ok (.ifCond .eq 27, 3) := by decide +kernel
theorem dX1_fullest_22 : decode cX1_fullest 22 = .ok (.aload_n 0, 1) := by decide +kernel
theorem dX1_fullest_23 : decode cX1_fullest 23 = .ok (.getfield 40, 3) := by decide +kernel
theorem dX1_fullest_26 : decode cX1_fullest 26 = .ok (.aload_n 0, 1) := by decide +kernel
theorem dX1_fullest_27 : decode cX1_fullest 27 = .ok (.getfield 22, 3) := by decide +kernel
theorem dX1_fullest_30 : decode cX1_fullest 30 = .ok (.if_icmp .gt 16, 3) := by decide +kernel
theorem dX1_fullest_33 : decode cX1_fullest 33 = .ok (.aload_n 0, 1) := by decide +kernel
theorem dX1_fullest_34 : decode cX1_fullest 34 = .ok (.getfield 40, 3) := by decide +kernel
theorem dX1_fullest_37 : decode cX1_fullest 37 = .ok (.iload_n 2, 1) := by decide +kernel
theorem dX1_fullest_38 : decode cX1_fullest 38 = .ok (.if_icmp .le 8, 3) := by decide +kernel
theorem dX1_fullest_41 : decode cX1_fullest 41 = .ok (.aload_n 0, 1) := by decide +kernel
theorem dX1_fullest_42 : decode cX1_fullest 42 = .ok (.getfield 40, 3) := by decide +kernel
theorem dX1_fullest_45 : decode cX1_fullest 45 = .ok (.istore_n 2, 1) := by decide +kernel
theorem dX1_fullest_46 : decode cX1_fullest 46 = .ok (.iinc 3 1, 3) := by decide +kernel
theorem dX1_fullest_49 : decode cX1_fullest 49 = .ok (.goto (-40), 3) := by decide +kernel
theorem dX1_fullest_52 : decode cX1_fullest 52 = .ok (.iload_n 2, 1) := by decide +kernel
theorem dX1_fullest_53 : decode cX1_fullest 53 = .ok (.ireturn, 1) := by decide +kernel
abbrev cX1_lightest : ByteArray := prog_3_method_24_code
def yX1_lightest : MethodName := ⟨RX1, "lightest", "(I)I"⟩
theorem dX1_lightest_0 : decode cX1_lightest 0 = .ok (.aload_n 0, 1) := by decide +kernel
theorem dX1_lightest_1 : decode cX1_lightest 1 = .ok (.invokevirtual 49, 3) := by decide +kernel
theorem dX1_lightest_4 : decode cX1_lightest 4 = .ok (.istore_n 2, 1) := by decide +kernel
theorem dX1_lightest_5 : decode cX1_lightest 5 = .ok (.iconst (-1), 1) := by decide +kernel
theorem dX1_lightest_6 : decode cX1_lightest 6 = .ok (.istore_n 3, 1) := by decide +kernel
theorem dX1_lightest_7 : decode cX1_lightest 7 = .ok (.iconst 0, 1) := by decide +kernel
theorem dX1_lightest_8 : decode cX1_lightest 8 = .ok (.istore 4, 2) := by decide +kernel
theorem dX1_lightest_10 : decode cX1_lightest 10 = .ok (.iload 4, 2) := by decide +kernel
theorem dX1_lightest_12 : decode cX1_lightest 12 = .ok (.iload_n 2, 1) := by decide +kernel
theorem dX1_lightest_13 : decode cX1_lightest 13 = .ok (.if_icmp .ge 43, 3) := by decide +kernel
theorem dX1_lightest_16 : decode cX1_lightest 16 = .ok (.aload_n 0, 1) := by decide +kernel
theorem dX1_lightest_17 : decode cX1_lightest 17 = .ok (.iload 4, 2) := by decide +kernel
theorem dX1_lightest_19 : decode cX1_lightest 19 = .ok (.invokevirtual 46, 3) := by decide +kernel
theorem dX1_lightest_22 : decode cX1_lightest 22 = .ok (.ifCond .eq 28, 3) := by decide +kernel
theorem dX1_lightest_25 : decode cX1_lightest 25 = .ok (.aload_n 0, 1) := by decide +kernel
theorem dX1_lightest_26 : decode cX1_lightest 26 = .ok (.getfield 43, 3) := by decide +kernel
theorem dX1_lightest_29 : decode cX1_lightest 29 = .ok (.iload_n 1, 1) := by decide +kernel
theorem dX1_lightest_30 : decode cX1_lightest 30 = .ok (.if_icmp .lt 20, 3) := by decide +kernel
theorem dX1_lightest_33 : decode cX1_lightest 33 = .ok (.iload_n 3, 1) := by decide +kernel
theorem dX1_lightest_34 : decode cX1_lightest 34 = .ok (.ifCond .lt 11, 3) := by decide +kernel
theorem dX1_lightest_37 : decode cX1_lightest 37 = .ok (.aload_n 0, 1) := by decide +kernel
theorem dX1_lightest_38 : decode cX1_lightest 38 = .ok (.getfield 40, 3) := by decide +kernel
theorem dX1_lightest_41 : decode cX1_lightest 41 = .ok (.iload_n 3, 1) := by decide +kernel
theorem dX1_lightest_42 : decode cX1_lightest 42 = .ok (.if_icmp .ge 8, 3) := by decide +kernel
theorem dX1_lightest_45 : decode cX1_lightest 45 = .ok (.aload_n 0, 1) := by decide +kernel
theorem dX1_lightest_46 : decode cX1_lightest 46 = .ok (.getfield 40, 3) := by decide +kernel
theorem dX1_lightest_49 : decode cX1_lightest 49 = .ok (.istore_n 3, 1) := by decide +kernel
theorem dX1_lightest_50 : decode cX1_lightest 50 = .ok (.iinc 4 1, 3) := by decide +kernel
theorem dX1_lightest_53 : decode cX1_lightest 53 = .ok (.goto (-43), 3) := by decide +kernel
theorem dX1_lightest_56 : decode cX1_lightest 56 = .ok (.iload_n 3, 1) := by decide +kernel
theorem dX1_lightest_57 : decode cX1_lightest 57 = .ok (.ireturn, 1) := by decide +kernel
abbrev cX1_two : ByteArray := prog_3_method_26_code
def yX1_two : MethodName := ⟨RX1, "two", "(I)I"⟩
theorem dX1_two_0 : decode cX1_two 0 = .ok (.iload_n 1, 1) := by decide +kernel
theorem dX1_two_1 : decode cX1_two 1 = .ok (.ifCond .lt 9, 3) := by decide +kernel
theorem dX1_two_4 : decode cX1_two 4 = .ok (.iload_n 1, 1) := by decide +kernel
theorem dX1_two_5 : decode cX1_two 5 = .ok (.bipush 60, 2) := by decide +kernel
theorem dX1_two_7 : decode cX1_two 7 = .ok (.if_icmp .le 5, 3) := by decide +kernel
theorem dX1_two_10 : decode cX1_two 10 = .ok (.iconst (-1), 1) := by decide +kernel
theorem dX1_two_11 : decode cX1_two 11 = .ok (.ireturn, 1) := by decide +kernel
theorem dX1_two_12 : decode cX1_two 12 = .ok (.iconst 1, 1) := by decide +kernel
theorem dX1_two_13 : decode cX1_two 13 = .ok (.istore_n 2, 1) := by decide +kernel
theorem dX1_two_14 : decode cX1_two 14 = .ok (.iconst 0, 1) := by decide +kernel
theorem dX1_two_15 : decode cX1_two 15 = .ok (.istore_n 3, 1) := by decide +kernel
theorem dX1_two_16 : decode cX1_two 16 = .ok (.iload_n 3, 1) := by decide +kernel
theorem dX1_two_17 : decode cX1_two 17 = .ok (.aload_n 0, 1) := by decide +kernel
theorem dX1_two_18 : decode cX1_two 18 = .ok (.getfield 29, 3) := by decide +kernel
theorem dX1_two_21 : decode cX1_two 21 = .ok (.if_icmp .ge 14, 3) := by decide +kernel
theorem dX1_two_24 : decode cX1_two 24 = .ok (.bipush 6, 2) := by decide +kernel
theorem dX1_two_26 : decode cX1_two 26 = .ok (.iload_n 2, 1) := by decide +kernel
theorem dX1_two_27 : decode cX1_two 27 = .ok (.imul, 1) := by decide +kernel
theorem dX1_two_28 : decode cX1_two 28 = .ok (.istore_n 2, 1) := by decide +kernel
theorem dX1_two_29 : decode cX1_two 29 = .ok (.iinc 3 1, 3) := by decide +kernel
theorem dX1_two_32 : decode cX1_two 32 = .ok (.goto (-16), 3) := by decide +kernel
theorem dX1_two_35 : decode cX1_two 35 = .ok (.iconst 0, 1) := by decide +kernel
theorem dX1_two_36 : decode cX1_two 36 = .ok (.istore_n 3, 1) := by decide +kernel
theorem dX1_two_37 : decode cX1_two 37 = .ok (.iconst 0, 1) := by decide +kernel
theorem dX1_two_38 : decode cX1_two 38 = .ok (.istore 4, 2) := by decide +kernel
theorem dX1_two_40 : decode cX1_two 40 = .ok (.iload 4, 2) := by decide +kernel
theorem dX1_two_42 : decode cX1_two 42 = .ok (.iload_n 2, 1) := by decide +kernel
theorem dX1_two_43 : decode cX1_two 43 = .ok (.if_icmp .ge 27, 3) := by decide +kernel
theorem dX1_two_46 : decode cX1_two 46 = .ok (.aload_n 0, 1) := by decide +kernel
theorem dX1_two_47 : decode cX1_two 47 = .ok (.iload 4, 2) := by decide +kernel
theorem dX1_two_49 : decode cX1_two 49 = .ok (.iload_n 1, 1) := by decide +kernel
theorem dX1_two_50 : decode cX1_two 50 = .ok (.invokevirtual 68, 3) := by decide +kernel
theorem dX1_two_53 : decode cX1_two 53 = .ok (.istore 5, 2) := by decide +kernel
theorem dX1_two_55 : decode cX1_two 55 = .ok (.iload 5, 2) := by decide +kernel
theorem dX1_two_57 : decode cX1_two 57 = .ok (.iload_n 3, 1) := by decide +kernel
theorem dX1_two_58 : decode cX1_two 58 = .ok (.if_icmp .le 6, 3) := by decide +kernel
theorem dX1_two_61 : decode cX1_two 61 = .ok (.iload 5, 2) := by decide +kernel
theorem dX1_two_63 : decode cX1_two 63 = .ok (.istore_n 3, 1) := by decide +kernel
theorem dX1_two_64 : decode cX1_two 64 = .ok (.iinc 4 1, 3) := by decide +kernel
theorem dX1_two_67 : decode cX1_two 67 = .ok (.goto (-27), 3) := by decide +kernel
theorem dX1_two_70 : decode cX1_two 70 = .ok (.iload_n 3, 1) := by decide +kernel
theorem dX1_two_71 : decode cX1_two 71 = .ok (.ireturn, 1) := by decide +kernel
abbrev cX1_both : ByteArray := prog_3_method_25_code
def yX1_both : MethodName := ⟨RX1, "both", "(II)I"⟩
theorem dX1_both_0 : decode cX1_both 0 = .ok (.iload_n 1, 1) := by decide +kernel
theorem dX1_both_1 : decode cX1_both 1 = .ok (.istore_n 3, 1) := by decide +kernel
theorem dX1_both_2 : decode cX1_both 2 = .ok (.iconst 0, 1) := by decide +kernel
theorem dX1_both_3 : decode cX1_both 3 = .ok (.istore 4, 2) := by decide +kernel
theorem dX1_both_5 : decode cX1_both 5 = .ok (.iconst 0, 1) := by decide +kernel
theorem dX1_both_6 : decode cX1_both 6 = .ok (.istore 5, 2) := by decide +kernel
theorem dX1_both_8 : decode cX1_both 8 = .ok (.iconst 0, 1) := by decide +kernel
theorem dX1_both_9 : decode cX1_both 9 = .ok (.istore 6, 2) := by decide +kernel
theorem dX1_both_11 : decode cX1_both 11 = .ok (.iconst 0, 1) := by decide +kernel
theorem dX1_both_12 : decode cX1_both 12 = .ok (.istore 7, 2) := by decide +kernel
theorem dX1_both_14 : decode cX1_both 14 = .ok (.iload 7, 2) := by decide +kernel
theorem dX1_both_16 : decode cX1_both 16 = .ok (.aload_n 0, 1) := by decide +kernel
theorem dX1_both_17 : decode cX1_both 17 = .ok (.getfield 29, 3) := by decide +kernel
theorem dX1_both_20 : decode cX1_both 20 = .ok (.if_icmp .ge 142, 3) := by decide +kernel
theorem dX1_both_23 : decode cX1_both 23 = .ok (.iload 7, 2) := by decide +kernel
theorem dX1_both_25 : decode cX1_both 25 = .ok (.bipush 7, 2) := by decide +kernel
theorem dX1_both_27 : decode cX1_both 27 = .ok (.if_icmp .ge 135, 3) := by decide +kernel
theorem dX1_both_30 : decode cX1_both 30 = .ok (.iload_n 3, 1) := by decide +kernel
theorem dX1_both_31 : decode cX1_both 31 = .ok (.bipush 6, 2) := by decide +kernel
theorem dX1_both_33 : decode cX1_both 33 = .ok (.irem, 1) := by decide +kernel
theorem dX1_both_34 : decode cX1_both 34 = .ok (.istore 8, 2) := by decide +kernel
theorem dX1_both_36 : decode cX1_both 36 = .ok (.iload 8, 2) := by decide +kernel
theorem dX1_both_38 : decode cX1_both 38 = .ok (.iconst 3, 1) := by decide +kernel
theorem dX1_both_39 : decode cX1_both 39 = .ok (.if_icmp .ge 7, 3) := by decide +kernel
theorem dX1_both_42 : decode cX1_both 42 = .ok (.iconst 0, 1) := by decide +kernel
theorem dX1_both_43 : decode cX1_both 43 = .ok (.goto 14, 3) := by decide +kernel
theorem dX1_both_46 : decode cX1_both 46 = .ok (.iload 8, 2) := by decide +kernel
theorem dX1_both_48 : decode cX1_both 48 = .ok (.iconst 5, 1) := by decide +kernel
theorem dX1_both_49 : decode cX1_both 49 = .ok (.if_icmp .ge 7, 3) := by decide +kernel
theorem dX1_both_52 : decode cX1_both 52 = .ok (.iconst 1, 1) := by decide +kernel
theorem dX1_both_53 : decode cX1_both 53 = .ok (.goto 4, 3) := by decide +kernel
theorem dX1_both_56 : decode cX1_both 56 = .ok (.iconst 2, 1) := by decide +kernel
theorem dX1_both_57 : decode cX1_both 57 = .ok (.istore 9, 2) := by decide +kernel
theorem dX1_both_59 : decode cX1_both 59 = .ok (.iload 8, 2) := by decide +kernel
theorem dX1_both_61 : decode cX1_both 61 = .ok (.iconst 3, 1) := by decide +kernel
theorem dX1_both_62 : decode cX1_both 62 = .ok (.if_icmp .ge 8, 3) := by decide +kernel
theorem dX1_both_65 : decode cX1_both 65 = .ok (.iload 8, 2) := by decide +kernel
theorem dX1_both_67 : decode cX1_both 67 = .ok (.goto 17, 3) := by decide +kernel
theorem dX1_both_70 : decode cX1_both 70 = .ok (.iload 8, 2) := by decide +kernel
theorem dX1_both_72 : decode cX1_both 72 = .ok (.iconst 5, 1) := by decide +kernel
theorem dX1_both_73 : decode cX1_both 73 = .ok (.if_icmp .ge 10, 3) := by decide +kernel
theorem dX1_both_76 : decode cX1_both 76 = .ok (.iload 8, 2) := by decide +kernel
theorem dX1_both_78 : decode cX1_both 78 = .ok (.iconst 3, 1) := by decide +kernel
theorem dX1_both_79 : decode cX1_both 79 = .ok (.isub, 1) := by decide +kernel
theorem dX1_both_80 : decode cX1_both 80 = .ok (.goto 4, 3) := by decide +kernel
theorem dX1_both_83 : decode cX1_both 83 = .ok (.iconst 0, 1) := by decide +kernel
theorem dX1_both_84 : decode cX1_both 84 = .ok (.istore 10, 2) := by decide +kernel
theorem dX1_both_86 : decode cX1_both 86 = .ok (.iload 9, 2) := by decide +kernel
theorem dX1_both_88 : decode cX1_both 88 = .ok (.iload 10, 2) := by decide +kernel
theorem dX1_both_90 : decode cX1_both 90 = .ok (.iadd, 1) := by decide +kernel
theorem dX1_both_91 : decode cX1_both 91 = .ok (.aload_n 0, 1) := by decide +kernel
theorem dX1_both_92 : decode cX1_both 92 = .ok (.getfield 16, 3) := by decide +kernel
theorem dX1_both_95 : decode cX1_both 95 = .ok (.iload 7, 2) := by decide +kernel
theorem dX1_both_97 : decode cX1_both 97 = .ok (.iaload, 1) := by decide +kernel
theorem dX1_both_98 : decode cX1_both 98 = .ok (.if_icmp .le 5, 3) := by decide +kernel
theorem dX1_both_101 : decode cX1_both 101 = .ok (.iconst (-1), 1) := by decide +kernel
theorem dX1_both_102 : decode cX1_both 102 = .ok (.ireturn, 1) := by decide +kernel
theorem dX1_both_103 : decode cX1_both 103 = .ok (.iload 4, 2) := by decide +kernel
theorem dX1_both_105 : decode cX1_both 105 = .ok (.iload 9, 2) := by decide +kernel
theorem dX1_both_107 : decode cX1_both 107 = .ok (.aload_n 0, 1) := by decide +kernel
theorem dX1_both_108 : decode cX1_both 108 = .ok (.getfield 7, 3) := by decide +kernel
theorem dX1_both_111 : decode cX1_both 111 = .ok (.iload 7, 2) := by decide +kernel
theorem dX1_both_113 : decode cX1_both 113 = .ok (.iaload, 1) := by decide +kernel
theorem dX1_both_114 : decode cX1_both 114 = .ok (.imul, 1) := by decide +kernel
theorem dX1_both_115 : decode cX1_both 115 = .ok (.iadd, 1) := by decide +kernel
theorem dX1_both_116 : decode cX1_both 116 = .ok (.istore 4, 2) := by decide +kernel
theorem dX1_both_118 : decode cX1_both 118 = .ok (.iload 5, 2) := by decide +kernel
theorem dX1_both_120 : decode cX1_both 120 = .ok (.iload 10, 2) := by decide +kernel
theorem dX1_both_122 : decode cX1_both 122 = .ok (.aload_n 0, 1) := by decide +kernel
theorem dX1_both_123 : decode cX1_both 123 = .ok (.getfield 7, 3) := by decide +kernel
theorem dX1_both_126 : decode cX1_both 126 = .ok (.iload 7, 2) := by decide +kernel
theorem dX1_both_128 : decode cX1_both 128 = .ok (.iaload, 1) := by decide +kernel
theorem dX1_both_129 : decode cX1_both 129 = .ok (.imul, 1) := by decide +kernel
theorem dX1_both_130 : decode cX1_both 130 = .ok (.iadd, 1) := by decide +kernel
theorem dX1_both_131 : decode cX1_both 131 = .ok (.istore 5, 2) := by decide +kernel
theorem dX1_both_133 : decode cX1_both 133 = .ok (.iload 6, 2) := by decide +kernel
theorem dX1_both_135 : decode cX1_both 135 = .ok (.iload 9, 2) := by decide +kernel
theorem dX1_both_137 : decode cX1_both 137 = .ok (.iload 10, 2) := by decide +kernel
theorem dX1_both_139 : decode cX1_both 139 = .ok (.iadd, 1) := by decide +kernel
theorem dX1_both_140 : decode cX1_both 140 = .ok (.aload_n 0, 1) := by decide +kernel
theorem dX1_both_141 : decode cX1_both 141 = .ok (.getfield 13, 3) := by decide +kernel
theorem dX1_both_144 : decode cX1_both 144 = .ok (.iload 7, 2) := by decide +kernel
theorem dX1_both_146 : decode cX1_both 146 = .ok (.iaload, 1) := by decide +kernel
theorem dX1_both_147 : decode cX1_both 147 = .ok (.imul, 1) := by decide +kernel
theorem dX1_both_148 : decode cX1_both 148 = .ok (.iadd, 1) := by decide +kernel
theorem dX1_both_149 : decode cX1_both 149 = .ok (.istore 6, 2) := by decide +kernel
theorem dX1_both_151 : decode cX1_both 151 = .ok (.iload_n 3, 1) := by decide +kernel
theorem dX1_both_152 : decode cX1_both 152 = .ok (.bipush 6, 2) := by decide +kernel
theorem dX1_both_154 : decode cX1_both 154 = .ok (.idiv, 1) := by decide +kernel
theorem dX1_both_155 : decode cX1_both 155 = .ok (.istore_n 3, 1) := by decide +kernel
theorem dX1_both_156 : decode cX1_both 156 = .ok (.iinc 7 1, 3) := by decide +kernel
theorem dX1_both_159 : decode cX1_both 159 = .ok (.goto (-145), 3) := by decide +kernel
theorem dX1_both_162 : decode cX1_both 162 = .ok (.iload 4, 2) := by decide +kernel
theorem dX1_both_164 : decode cX1_both 164 = .ok (.aload_n 0, 1) := by decide +kernel
theorem dX1_both_165 : decode cX1_both 165 = .ok (.getfield 22, 3) := by decide +kernel
theorem dX1_both_168 : decode cX1_both 168 = .ok (.if_icmp .gt 14, 3) := by decide +kernel
theorem dX1_both_171 : decode cX1_both 171 = .ok (.iload 5, 2) := by decide +kernel
theorem dX1_both_173 : decode cX1_both 173 = .ok (.iload_n 2, 1) := by decide +kernel
theorem dX1_both_174 : decode cX1_both 174 = .ok (.if_icmp .gt 8, 3) := by decide +kernel
theorem dX1_both_177 : decode cX1_both 177 = .ok (.iload 6, 2) := by decide +kernel
theorem dX1_both_179 : decode cX1_both 179 = .ok (.goto 4, 3) := by decide +kernel
theorem dX1_both_182 : decode cX1_both 182 = .ok (.iconst (-1), 1) := by decide +kernel
theorem dX1_both_183 : decode cX1_both 183 = .ok (.ireturn, 1) := by decide +kernel
abbrev cX1_without : ByteArray := prog_3_method_27_code
def yX1_without : MethodName := ⟨RX1, "without", "(I)I"⟩
theorem dX1_without_0 : decode cX1_without 0 = .ok (.aload_n 0, 1) := by decide +kernel
theorem dX1_without_1 : decode cX1_without 1 = .ok (.iload_n 1, 1) := by decide +kernel
theorem dX1_without_2 : decode cX1_without 2 = .ok (.invokevirtual 36, 3) := by decide +kernel
theorem dX1_without_5 : decode cX1_without 5 = .ok (.ifCond .eq 5, 3) := by decide +kernel
theorem dX1_without_8 : decode cX1_without 8 = .ok (.iconst (-1), 1) := by decide +kernel
theorem dX1_without_9 : decode cX1_without 9 = .ok (.ireturn, 1) := by decide +kernel
theorem dX1_without_10 : decode cX1_without 10 = .ok (.aload_n 0, 1) := by decide +kernel
theorem dX1_without_11 : decode cX1_without 11 = .ok (.iconst 0, 1) := by decide +kernel
theorem dX1_without_12 : decode cX1_without 12 = .ok (.iload_n 1, 1) := by decide +kernel
theorem dX1_without_13 : decode cX1_without 13 = .ok (.invokevirtual 57, 3) := by decide +kernel
theorem dX1_without_16 : decode cX1_without 16 = .ok (.istore_n 2, 1) := by decide +kernel
theorem dX1_without_17 : decode cX1_without 17 = .ok (.aload_n 0, 1) := by decide +kernel
theorem dX1_without_18 : decode cX1_without 18 = .ok (.iload_n 2, 1) := by decide +kernel
theorem dX1_without_19 : decode cX1_without 19 = .ok (.invokevirtual 61, 3) := by decide +kernel
theorem dX1_without_22 : decode cX1_without 22 = .ok (.ireturn, 1) := by decide +kernel
abbrev cX1_halves : ByteArray := prog_3_method_28_code
def yX1_halves : MethodName := ⟨RX1, "halves", "()I"⟩
theorem dX1_halves_0 : decode cX1_halves 0 = .ok (.iconst 0, 1) := by decide +kernel
theorem dX1_halves_1 : decode cX1_halves 1 = .ok (.istore_n 1, 1) := by decide +kernel
theorem dX1_halves_2 : decode cX1_halves 2 = .ok (.iconst 0, 1) := by decide +kernel
theorem dX1_halves_3 : decode cX1_halves 3 = .ok (.istore_n 2, 1) := by decide +kernel
theorem dX1_halves_4 : decode cX1_halves 4 = .ok (.iload_n 2, 1) := by decide +kernel
theorem dX1_halves_5 : decode cX1_halves 5 = .ok (.aload_n 0, 1) := by decide +kernel
theorem dX1_halves_6 : decode cX1_halves 6 = .ok (.getfield 29, 3) := by decide +kernel
theorem dX1_halves_9 : decode cX1_halves 9 = .ok (.if_icmp .ge 31, 3) := by decide +kernel
theorem dX1_halves_12 : decode cX1_halves 12 = .ok (.iload_n 2, 1) := by decide +kernel
theorem dX1_halves_13 : decode cX1_halves 13 = .ok (.bipush 7, 2) := by decide +kernel
theorem dX1_halves_15 : decode cX1_halves 15 = .ok (.if_icmp .ge 25, 3) := by decide +kernel
theorem dX1_halves_18 : decode cX1_halves 18 = .ok (.iload_n 1, 1) := by decide +kernel
theorem dX1_halves_19 : decode cX1_halves 19 = .ok (.aload_n 0, 1) := by decide +kernel
theorem dX1_halves_20 : decode cX1_halves 20 = .ok (.getfield 16, 3) := by decide +kernel
theorem dX1_halves_23 : decode cX1_halves 23 = .ok (.iload_n 2, 1) := by decide +kernel
theorem dX1_halves_24 : decode cX1_halves 24 = .ok (.iaload, 1) := by decide +kernel
theorem dX1_halves_25 : decode cX1_halves 25 = .ok (.aload_n 0, 1) := by decide +kernel
theorem dX1_halves_26 : decode cX1_halves 26 = .ok (.getfield 7, 3) := by decide +kernel
theorem dX1_halves_29 : decode cX1_halves 29 = .ok (.iload_n 2, 1) := by decide +kernel
theorem dX1_halves_30 : decode cX1_halves 30 = .ok (.iaload, 1) := by decide +kernel
theorem dX1_halves_31 : decode cX1_halves 31 = .ok (.imul, 1) := by decide +kernel
theorem dX1_halves_32 : decode cX1_halves 32 = .ok (.iadd, 1) := by decide +kernel
theorem dX1_halves_33 : decode cX1_halves 33 = .ok (.istore_n 1, 1) := by decide +kernel
theorem dX1_halves_34 : decode cX1_halves 34 = .ok (.iinc 2 1, 3) := by decide +kernel
theorem dX1_halves_37 : decode cX1_halves 37 = .ok (.goto (-33), 3) := by decide +kernel
theorem dX1_halves_40 : decode cX1_halves 40 = .ok (.iload_n 1, 1) := by decide +kernel
theorem dX1_halves_41 : decode cX1_halves 41 = .ok (.iconst 2, 1) := by decide +kernel
theorem dX1_halves_42 : decode cX1_halves 42 = .ok (.irem, 1) := by decide +kernel
theorem dX1_halves_43 : decode cX1_halves 43 = .ok (.ifCond .ne 17, 3) := by decide +kernel
theorem dX1_halves_46 : decode cX1_halves 46 = .ok (.aload_n 0, 1) := by decide +kernel
theorem dX1_halves_47 : decode cX1_halves 47 = .ok (.iload_n 1, 1) := by decide +kernel
theorem dX1_halves_48 : decode cX1_halves 48 = .ok (.iconst 2, 1) := by decide +kernel
theorem dX1_halves_49 : decode cX1_halves 49 = .ok (.idiv, 1) := by decide +kernel
theorem dX1_halves_50 : decode cX1_halves 50 = .ok (.invokevirtual 65, 3) := by decide +kernel
theorem dX1_halves_53 : decode cX1_halves 53 = .ok (.ifCond .le 7, 3) := by decide +kernel
theorem dX1_halves_56 : decode cX1_halves 56 = .ok (.iconst 1, 1) := by decide +kernel
theorem dX1_halves_57 : decode cX1_halves 57 = .ok (.goto 4, 3) := by decide +kernel
theorem dX1_halves_60 : decode cX1_halves 60 = .ok (.iconst 0, 1) := by decide +kernel
theorem dX1_halves_61 : decode cX1_halves 61 = .ok (.ireturn, 1) := by decide +kernel
end
section
/-! the law's own entry -/
set_option maxRecDepth 100000
abbrev cL_law : ByteArray := code
theorem dL_law_0 : decode cL_law 0 = .ok (.new 7, 3) := by decide +kernel
theorem dL_law_3 : decode cL_law 3 = .ok (.dup, 1) := by decide +kernel
theorem dL_law_4 : decode cL_law 4 = .ok (.invokespecial 9, 3) := by decide +kernel
theorem dL_law_7 : decode cL_law 7 = .ok (.astore_n 1, 1) := by decide +kernel
theorem dL_law_8 : decode cL_law 8 = .ok (.new 10, 3) := by decide +kernel
theorem dL_law_11 : decode cL_law 11 = .ok (.dup, 1) := by decide +kernel
theorem dL_law_12 : decode cL_law 12 = .ok (.invokespecial 12, 3) := by decide +kernel
theorem dL_law_15 : decode cL_law 15 = .ok (.astore_n 2, 1) := by decide +kernel
theorem dL_law_16 : decode cL_law 16 = .ok (.iconst 0, 1) := by decide +kernel
theorem dL_law_17 : decode cL_law 17 = .ok (.istore_n 3, 1) := by decide +kernel
theorem dL_law_18 : decode cL_law 18 = .ok (.iload_n 3, 1) := by decide +kernel
theorem dL_law_19 : decode cL_law 19 = .ok (.aload_n 0, 1) := by decide +kernel
theorem dL_law_20 : decode cL_law 20 = .ok (.arraylength, 1) := by decide +kernel
theorem dL_law_21 : decode cL_law 21 = .ok (.iconst 4, 1) := by decide +kernel
theorem dL_law_22 : decode cL_law 22 = .ok (.isub, 1) := by decide +kernel
theorem dL_law_23 : decode cL_law 23 = .ok (.if_icmp .gt 467, 3) := by decide +kernel
theorem dL_law_26 : decode cL_law 26 = .ok (.aload_n 0, 1) := by decide +kernel
theorem dL_law_27 : decode cL_law 27 = .ok (.iload_n 3, 1) := by decide +kernel
theorem dL_law_28 : decode cL_law 28 = .ok (.iaload, 1) := by decide +kernel
theorem dL_law_29 : decode cL_law 29 = .ok (.bipush 31, 2) := by decide +kernel
theorem dL_law_31 : decode cL_law 31 = .ok (.iand, 1) := by decide +kernel
theorem dL_law_32 : decode cL_law 32 = .ok (.tableswitch 452 0 17 #[88, 131, 164, 187, 210, 223, 246, 269, 282, 295, 308, 321, 334, 357, 370, 393, 416, 439], 88) := by decide +kernel
theorem dL_law_120 : decode cL_law 120 = .ok (.aload_n 1, 1) := by decide +kernel
theorem dL_law_121 : decode cL_law 121 = .ok (.aload_n 0, 1) := by decide +kernel
theorem dL_law_122 : decode cL_law 122 = .ok (.iload_n 3, 1) := by decide +kernel
theorem dL_law_123 : decode cL_law 123 = .ok (.iconst 1, 1) := by decide +kernel
theorem dL_law_124 : decode cL_law 124 = .ok (.iadd, 1) := by decide +kernel
theorem dL_law_125 : decode cL_law 125 = .ok (.iaload, 1) := by decide +kernel
theorem dL_law_126 : decode cL_law 126 = .ok (.aload_n 0, 1) := by decide +kernel
theorem dL_law_127 : decode cL_law 127 = .ok (.iload_n 3, 1) := by decide +kernel
theorem dL_law_128 : decode cL_law 128 = .ok (.iconst 2, 1) := by decide +kernel
theorem dL_law_129 : decode cL_law 129 = .ok (.iadd, 1) := by decide +kernel
theorem dL_law_130 : decode cL_law 130 = .ok (.iaload, 1) := by decide +kernel
theorem dL_law_131 : decode cL_law 131 = .ok (.aload_n 0, 1) := by decide +kernel
theorem dL_law_132 : decode cL_law 132 = .ok (.iload_n 3, 1) := by decide +kernel
theorem dL_law_133 : decode cL_law 133 = .ok (.iconst 3, 1) := by decide +kernel
theorem dL_law_134 : decode cL_law 134 = .ok (.iadd, 1) := by decide +kernel
theorem dL_law_135 : decode cL_law 135 = .ok (.iaload, 1) := by decide +kernel
theorem dL_law_136 : decode cL_law 136 = .ok (.invokevirtual 13, 3) := by decide +kernel
theorem dL_law_139 : decode cL_law 139 = .ok (.aload_n 2, 1) := by decide +kernel
theorem dL_law_140 : decode cL_law 140 = .ok (.aload_n 0, 1) := by decide +kernel
theorem dL_law_141 : decode cL_law 141 = .ok (.iload_n 3, 1) := by decide +kernel
theorem dL_law_142 : decode cL_law 142 = .ok (.iconst 1, 1) := by decide +kernel
theorem dL_law_143 : decode cL_law 143 = .ok (.iadd, 1) := by decide +kernel
theorem dL_law_144 : decode cL_law 144 = .ok (.iaload, 1) := by decide +kernel
theorem dL_law_145 : decode cL_law 145 = .ok (.aload_n 0, 1) := by decide +kernel
theorem dL_law_146 : decode cL_law 146 = .ok (.iload_n 3, 1) := by decide +kernel
theorem dL_law_147 : decode cL_law 147 = .ok (.iconst 2, 1) := by decide +kernel
theorem dL_law_148 : decode cL_law 148 = .ok (.iadd, 1) := by decide +kernel
theorem dL_law_149 : decode cL_law 149 = .ok (.iaload, 1) := by decide +kernel
theorem dL_law_150 : decode cL_law 150 = .ok (.aload_n 0, 1) := by decide +kernel
theorem dL_law_151 : decode cL_law 151 = .ok (.iload_n 3, 1) := by decide +kernel
theorem dL_law_152 : decode cL_law 152 = .ok (.iconst 3, 1) := by decide +kernel
theorem dL_law_153 : decode cL_law 153 = .ok (.iadd, 1) := by decide +kernel
theorem dL_law_154 : decode cL_law 154 = .ok (.iaload, 1) := by decide +kernel
theorem dL_law_155 : decode cL_law 155 = .ok (.invokevirtual 17, 3) := by decide +kernel
theorem dL_law_158 : decode cL_law 158 = .ok (.if_icmp .eq 326, 3) := by decide +kernel
theorem dL_law_161 : decode cL_law 161 = .ok (.iconst 0, 1) := by decide +kernel
theorem dL_law_162 : decode cL_law 162 = .ok (.ireturn, 1) := by decide +kernel
theorem dL_law_163 : decode cL_law 163 = .ok (.aload_n 1, 1) := by decide +kernel
theorem dL_law_164 : decode cL_law 164 = .ok (.aload_n 0, 1) := by decide +kernel
theorem dL_law_165 : decode cL_law 165 = .ok (.iload_n 3, 1) := by decide +kernel
theorem dL_law_166 : decode cL_law 166 = .ok (.iconst 1, 1) := by decide +kernel
theorem dL_law_167 : decode cL_law 167 = .ok (.iadd, 1) := by decide +kernel
theorem dL_law_168 : decode cL_law 168 = .ok (.iaload, 1) := by decide +kernel
theorem dL_law_169 : decode cL_law 169 = .ok (.aload_n 0, 1) := by decide +kernel
theorem dL_law_170 : decode cL_law 170 = .ok (.iload_n 3, 1) := by decide +kernel
theorem dL_law_171 : decode cL_law 171 = .ok (.iconst 2, 1) := by decide +kernel
theorem dL_law_172 : decode cL_law 172 = .ok (.iadd, 1) := by decide +kernel
theorem dL_law_173 : decode cL_law 173 = .ok (.iaload, 1) := by decide +kernel
theorem dL_law_174 : decode cL_law 174 = .ok (.invokevirtual 18, 3) := by decide +kernel
theorem dL_law_177 : decode cL_law 177 = .ok (.aload_n 2, 1) := by decide +kernel
theorem dL_law_178 : decode cL_law 178 = .ok (.aload_n 0, 1) := by decide +kernel
theorem dL_law_179 : decode cL_law 179 = .ok (.iload_n 3, 1) := by decide +kernel
theorem dL_law_180 : decode cL_law 180 = .ok (.iconst 1, 1) := by decide +kernel
theorem dL_law_181 : decode cL_law 181 = .ok (.iadd, 1) := by decide +kernel
theorem dL_law_182 : decode cL_law 182 = .ok (.iaload, 1) := by decide +kernel
theorem dL_law_183 : decode cL_law 183 = .ok (.aload_n 0, 1) := by decide +kernel
theorem dL_law_184 : decode cL_law 184 = .ok (.iload_n 3, 1) := by decide +kernel
theorem dL_law_185 : decode cL_law 185 = .ok (.iconst 2, 1) := by decide +kernel
theorem dL_law_186 : decode cL_law 186 = .ok (.iadd, 1) := by decide +kernel
theorem dL_law_187 : decode cL_law 187 = .ok (.iaload, 1) := by decide +kernel
theorem dL_law_188 : decode cL_law 188 = .ok (.invokevirtual 22, 3) := by decide +kernel
theorem dL_law_191 : decode cL_law 191 = .ok (.if_icmp .eq 293, 3) := by decide +kernel
theorem dL_law_194 : decode cL_law 194 = .ok (.iconst 0, 1) := by decide +kernel
theorem dL_law_195 : decode cL_law 195 = .ok (.ireturn, 1) := by decide +kernel
theorem dL_law_196 : decode cL_law 196 = .ok (.aload_n 1, 1) := by decide +kernel
theorem dL_law_197 : decode cL_law 197 = .ok (.aload_n 0, 1) := by decide +kernel
theorem dL_law_198 : decode cL_law 198 = .ok (.iload_n 3, 1) := by decide +kernel
theorem dL_law_199 : decode cL_law 199 = .ok (.iconst 1, 1) := by decide +kernel
theorem dL_law_200 : decode cL_law 200 = .ok (.iadd, 1) := by decide +kernel
theorem dL_law_201 : decode cL_law 201 = .ok (.iaload, 1) := by decide +kernel
theorem dL_law_202 : decode cL_law 202 = .ok (.invokevirtual 23, 3) := by decide +kernel
theorem dL_law_205 : decode cL_law 205 = .ok (.aload_n 2, 1) := by decide +kernel
theorem dL_law_206 : decode cL_law 206 = .ok (.aload_n 0, 1) := by decide +kernel
theorem dL_law_207 : decode cL_law 207 = .ok (.iload_n 3, 1) := by decide +kernel
theorem dL_law_208 : decode cL_law 208 = .ok (.iconst 1, 1) := by decide +kernel
theorem dL_law_209 : decode cL_law 209 = .ok (.iadd, 1) := by decide +kernel
theorem dL_law_210 : decode cL_law 210 = .ok (.iaload, 1) := by decide +kernel
theorem dL_law_211 : decode cL_law 211 = .ok (.invokevirtual 27, 3) := by decide +kernel
theorem dL_law_214 : decode cL_law 214 = .ok (.if_icmp .eq 270, 3) := by decide +kernel
theorem dL_law_217 : decode cL_law 217 = .ok (.iconst 0, 1) := by decide +kernel
theorem dL_law_218 : decode cL_law 218 = .ok (.ireturn, 1) := by decide +kernel
theorem dL_law_219 : decode cL_law 219 = .ok (.aload_n 1, 1) := by decide +kernel
theorem dL_law_220 : decode cL_law 220 = .ok (.aload_n 0, 1) := by decide +kernel
theorem dL_law_221 : decode cL_law 221 = .ok (.iload_n 3, 1) := by decide +kernel
theorem dL_law_222 : decode cL_law 222 = .ok (.iconst 1, 1) := by decide +kernel
theorem dL_law_223 : decode cL_law 223 = .ok (.iadd, 1) := by decide +kernel
theorem dL_law_224 : decode cL_law 224 = .ok (.iaload, 1) := by decide +kernel
theorem dL_law_225 : decode cL_law 225 = .ok (.invokevirtual 28, 3) := by decide +kernel
theorem dL_law_228 : decode cL_law 228 = .ok (.aload_n 2, 1) := by decide +kernel
theorem dL_law_229 : decode cL_law 229 = .ok (.aload_n 0, 1) := by decide +kernel
theorem dL_law_230 : decode cL_law 230 = .ok (.iload_n 3, 1) := by decide +kernel
theorem dL_law_231 : decode cL_law 231 = .ok (.iconst 1, 1) := by decide +kernel
theorem dL_law_232 : decode cL_law 232 = .ok (.iadd, 1) := by decide +kernel
theorem dL_law_233 : decode cL_law 233 = .ok (.iaload, 1) := by decide +kernel
theorem dL_law_234 : decode cL_law 234 = .ok (.invokevirtual 31, 3) := by decide +kernel
theorem dL_law_237 : decode cL_law 237 = .ok (.if_icmp .eq 247, 3) := by decide +kernel
theorem dL_law_240 : decode cL_law 240 = .ok (.iconst 0, 1) := by decide +kernel
theorem dL_law_241 : decode cL_law 241 = .ok (.ireturn, 1) := by decide +kernel
theorem dL_law_242 : decode cL_law 242 = .ok (.aload_n 1, 1) := by decide +kernel
theorem dL_law_243 : decode cL_law 243 = .ok (.invokevirtual 32, 3) := by decide +kernel
theorem dL_law_246 : decode cL_law 246 = .ok (.aload_n 2, 1) := by decide +kernel
theorem dL_law_247 : decode cL_law 247 = .ok (.invokevirtual 36, 3) := by decide +kernel
theorem dL_law_250 : decode cL_law 250 = .ok (.if_icmp .eq 234, 3) := by decide +kernel
theorem dL_law_253 : decode cL_law 253 = .ok (.iconst 0, 1) := by decide +kernel
theorem dL_law_254 : decode cL_law 254 = .ok (.ireturn, 1) := by decide +kernel
theorem dL_law_255 : decode cL_law 255 = .ok (.aload_n 1, 1) := by decide +kernel
theorem dL_law_256 : decode cL_law 256 = .ok (.aload_n 0, 1) := by decide +kernel
theorem dL_law_257 : decode cL_law 257 = .ok (.iload_n 3, 1) := by decide +kernel
theorem dL_law_258 : decode cL_law 258 = .ok (.iconst 1, 1) := by decide +kernel
theorem dL_law_259 : decode cL_law 259 = .ok (.iadd, 1) := by decide +kernel
theorem dL_law_260 : decode cL_law 260 = .ok (.iaload, 1) := by decide +kernel
theorem dL_law_261 : decode cL_law 261 = .ok (.invokevirtual 37, 3) := by decide +kernel
theorem dL_law_264 : decode cL_law 264 = .ok (.aload_n 2, 1) := by decide +kernel
theorem dL_law_265 : decode cL_law 265 = .ok (.aload_n 0, 1) := by decide +kernel
theorem dL_law_266 : decode cL_law 266 = .ok (.iload_n 3, 1) := by decide +kernel
theorem dL_law_267 : decode cL_law 267 = .ok (.iconst 1, 1) := by decide +kernel
theorem dL_law_268 : decode cL_law 268 = .ok (.iadd, 1) := by decide +kernel
theorem dL_law_269 : decode cL_law 269 = .ok (.iaload, 1) := by decide +kernel
theorem dL_law_270 : decode cL_law 270 = .ok (.invokevirtual 40, 3) := by decide +kernel
theorem dL_law_273 : decode cL_law 273 = .ok (.if_icmp .eq 211, 3) := by decide +kernel
theorem dL_law_276 : decode cL_law 276 = .ok (.iconst 0, 1) := by decide +kernel
theorem dL_law_277 : decode cL_law 277 = .ok (.ireturn, 1) := by decide +kernel
theorem dL_law_278 : decode cL_law 278 = .ok (.aload_n 1, 1) := by decide +kernel
theorem dL_law_279 : decode cL_law 279 = .ok (.aload_n 0, 1) := by decide +kernel
theorem dL_law_280 : decode cL_law 280 = .ok (.iload_n 3, 1) := by decide +kernel
theorem dL_law_281 : decode cL_law 281 = .ok (.iconst 1, 1) := by decide +kernel
theorem dL_law_282 : decode cL_law 282 = .ok (.iadd, 1) := by decide +kernel
theorem dL_law_283 : decode cL_law 283 = .ok (.iaload, 1) := by decide +kernel
theorem dL_law_284 : decode cL_law 284 = .ok (.invokevirtual 41, 3) := by decide +kernel
theorem dL_law_287 : decode cL_law 287 = .ok (.aload_n 2, 1) := by decide +kernel
theorem dL_law_288 : decode cL_law 288 = .ok (.aload_n 0, 1) := by decide +kernel
theorem dL_law_289 : decode cL_law 289 = .ok (.iload_n 3, 1) := by decide +kernel
theorem dL_law_290 : decode cL_law 290 = .ok (.iconst 1, 1) := by decide +kernel
theorem dL_law_291 : decode cL_law 291 = .ok (.iadd, 1) := by decide +kernel
theorem dL_law_292 : decode cL_law 292 = .ok (.iaload, 1) := by decide +kernel
theorem dL_law_293 : decode cL_law 293 = .ok (.invokevirtual 44, 3) := by decide +kernel
theorem dL_law_296 : decode cL_law 296 = .ok (.if_icmp .eq 188, 3) := by decide +kernel
theorem dL_law_299 : decode cL_law 299 = .ok (.iconst 0, 1) := by decide +kernel
theorem dL_law_300 : decode cL_law 300 = .ok (.ireturn, 1) := by decide +kernel
theorem dL_law_301 : decode cL_law 301 = .ok (.aload_n 1, 1) := by decide +kernel
theorem dL_law_302 : decode cL_law 302 = .ok (.invokevirtual 45, 3) := by decide +kernel
theorem dL_law_305 : decode cL_law 305 = .ok (.aload_n 2, 1) := by decide +kernel
theorem dL_law_306 : decode cL_law 306 = .ok (.invokevirtual 48, 3) := by decide +kernel
theorem dL_law_309 : decode cL_law 309 = .ok (.if_icmp .eq 175, 3) := by decide +kernel
theorem dL_law_312 : decode cL_law 312 = .ok (.iconst 0, 1) := by decide +kernel
theorem dL_law_313 : decode cL_law 313 = .ok (.ireturn, 1) := by decide +kernel
theorem dL_law_314 : decode cL_law 314 = .ok (.aload_n 1, 1) := by decide +kernel
theorem dL_law_315 : decode cL_law 315 = .ok (.invokevirtual 49, 3) := by decide +kernel
theorem dL_law_318 : decode cL_law 318 = .ok (.aload_n 2, 1) := by decide +kernel
theorem dL_law_319 : decode cL_law 319 = .ok (.invokevirtual 52, 3) := by decide +kernel
theorem dL_law_322 : decode cL_law 322 = .ok (.if_icmp .eq 162, 3) := by decide +kernel
theorem dL_law_325 : decode cL_law 325 = .ok (.iconst 0, 1) := by decide +kernel
theorem dL_law_326 : decode cL_law 326 = .ok (.ireturn, 1) := by decide +kernel
theorem dL_law_327 : decode cL_law 327 = .ok (.aload_n 1, 1) := by decide +kernel
theorem dL_law_328 : decode cL_law 328 = .ok (.invokevirtual 53, 3) := by decide +kernel
theorem dL_law_331 : decode cL_law 331 = .ok (.aload_n 2, 1) := by decide +kernel
theorem dL_law_332 : decode cL_law 332 = .ok (.invokevirtual 56, 3) := by decide +kernel
theorem dL_law_335 : decode cL_law 335 = .ok (.if_icmp .eq 149, 3) := by decide +kernel
theorem dL_law_338 : decode cL_law 338 = .ok (.iconst 0, 1) := by decide +kernel
theorem dL_law_339 : decode cL_law 339 = .ok (.ireturn, 1) := by decide +kernel
theorem dL_law_340 : decode cL_law 340 = .ok (.aload_n 1, 1) := by decide +kernel
theorem dL_law_341 : decode cL_law 341 = .ok (.invokevirtual 57, 3) := by decide +kernel
theorem dL_law_344 : decode cL_law 344 = .ok (.aload_n 2, 1) := by decide +kernel
theorem dL_law_345 : decode cL_law 345 = .ok (.invokevirtual 60, 3) := by decide +kernel
theorem dL_law_348 : decode cL_law 348 = .ok (.if_icmp .eq 136, 3) := by decide +kernel
theorem dL_law_351 : decode cL_law 351 = .ok (.iconst 0, 1) := by decide +kernel
theorem dL_law_352 : decode cL_law 352 = .ok (.ireturn, 1) := by decide +kernel
theorem dL_law_353 : decode cL_law 353 = .ok (.aload_n 1, 1) := by decide +kernel
theorem dL_law_354 : decode cL_law 354 = .ok (.invokevirtual 61, 3) := by decide +kernel
theorem dL_law_357 : decode cL_law 357 = .ok (.aload_n 2, 1) := by decide +kernel
theorem dL_law_358 : decode cL_law 358 = .ok (.invokevirtual 64, 3) := by decide +kernel
theorem dL_law_361 : decode cL_law 361 = .ok (.if_icmp .eq 123, 3) := by decide +kernel
theorem dL_law_364 : decode cL_law 364 = .ok (.iconst 0, 1) := by decide +kernel
theorem dL_law_365 : decode cL_law 365 = .ok (.ireturn, 1) := by decide +kernel
theorem dL_law_366 : decode cL_law 366 = .ok (.aload_n 1, 1) := by decide +kernel
theorem dL_law_367 : decode cL_law 367 = .ok (.aload_n 0, 1) := by decide +kernel
theorem dL_law_368 : decode cL_law 368 = .ok (.iload_n 3, 1) := by decide +kernel
theorem dL_law_369 : decode cL_law 369 = .ok (.iconst 1, 1) := by decide +kernel
theorem dL_law_370 : decode cL_law 370 = .ok (.iadd, 1) := by decide +kernel
theorem dL_law_371 : decode cL_law 371 = .ok (.iaload, 1) := by decide +kernel
theorem dL_law_372 : decode cL_law 372 = .ok (.invokevirtual 65, 3) := by decide +kernel
theorem dL_law_375 : decode cL_law 375 = .ok (.aload_n 2, 1) := by decide +kernel
theorem dL_law_376 : decode cL_law 376 = .ok (.aload_n 0, 1) := by decide +kernel
theorem dL_law_377 : decode cL_law 377 = .ok (.iload_n 3, 1) := by decide +kernel
theorem dL_law_378 : decode cL_law 378 = .ok (.iconst 1, 1) := by decide +kernel
theorem dL_law_379 : decode cL_law 379 = .ok (.iadd, 1) := by decide +kernel
theorem dL_law_380 : decode cL_law 380 = .ok (.iaload, 1) := by decide +kernel
theorem dL_law_381 : decode cL_law 381 = .ok (.invokevirtual 68, 3) := by decide +kernel
theorem dL_law_384 : decode cL_law 384 = .ok (.if_icmp .eq 100, 3) := by decide +kernel
theorem dL_law_387 : decode cL_law 387 = .ok (.iconst 0, 1) := by decide +kernel
theorem dL_law_388 : decode cL_law 388 = .ok (.ireturn, 1) := by decide +kernel
theorem dL_law_389 : decode cL_law 389 = .ok (.aload_n 1, 1) := by decide +kernel
theorem dL_law_390 : decode cL_law 390 = .ok (.invokevirtual 69, 3) := by decide +kernel
theorem dL_law_393 : decode cL_law 393 = .ok (.aload_n 2, 1) := by decide +kernel
theorem dL_law_394 : decode cL_law 394 = .ok (.invokevirtual 72, 3) := by decide +kernel
theorem dL_law_397 : decode cL_law 397 = .ok (.if_icmp .eq 87, 3) := by decide +kernel
theorem dL_law_400 : decode cL_law 400 = .ok (.iconst 0, 1) := by decide +kernel
theorem dL_law_401 : decode cL_law 401 = .ok (.ireturn, 1) := by decide +kernel
theorem dL_law_402 : decode cL_law 402 = .ok (.aload_n 1, 1) := by decide +kernel
theorem dL_law_403 : decode cL_law 403 = .ok (.aload_n 0, 1) := by decide +kernel
theorem dL_law_404 : decode cL_law 404 = .ok (.iload_n 3, 1) := by decide +kernel
theorem dL_law_405 : decode cL_law 405 = .ok (.iconst 1, 1) := by decide +kernel
theorem dL_law_406 : decode cL_law 406 = .ok (.iadd, 1) := by decide +kernel
theorem dL_law_407 : decode cL_law 407 = .ok (.iaload, 1) := by decide +kernel
theorem dL_law_408 : decode cL_law 408 = .ok (.invokevirtual 73, 3) := by decide +kernel
theorem dL_law_411 : decode cL_law 411 = .ok (.aload_n 2, 1) := by decide +kernel
theorem dL_law_412 : decode cL_law 412 = .ok (.aload_n 0, 1) := by decide +kernel
theorem dL_law_413 : decode cL_law 413 = .ok (.iload_n 3, 1) := by decide +kernel
theorem dL_law_414 : decode cL_law 414 = .ok (.iconst 1, 1) := by decide +kernel
theorem dL_law_415 : decode cL_law 415 = .ok (.iadd, 1) := by decide +kernel
theorem dL_law_416 : decode cL_law 416 = .ok (.iaload, 1) := by decide +kernel
theorem dL_law_417 : decode cL_law 417 = .ok (.invokevirtual 76, 3) := by decide +kernel
theorem dL_law_420 : decode cL_law 420 = .ok (.if_icmp .eq 64, 3) := by decide +kernel
theorem dL_law_423 : decode cL_law 423 = .ok (.iconst 0, 1) := by decide +kernel
theorem dL_law_424 : decode cL_law 424 = .ok (.ireturn, 1) := by decide +kernel
theorem dL_law_425 : decode cL_law 425 = .ok (.aload_n 1, 1) := by decide +kernel
theorem dL_law_426 : decode cL_law 426 = .ok (.aload_n 0, 1) := by decide +kernel
theorem dL_law_427 : decode cL_law 427 = .ok (.iload_n 3, 1) := by decide +kernel
theorem dL_law_428 : decode cL_law 428 = .ok (.iconst 1, 1) := by decide +kernel
theorem dL_law_429 : decode cL_law 429 = .ok (.iadd, 1) := by decide +kernel
theorem dL_law_430 : decode cL_law 430 = .ok (.iaload, 1) := by decide +kernel
theorem dL_law_431 : decode cL_law 431 = .ok (.invokevirtual 77, 3) := by decide +kernel
theorem dL_law_434 : decode cL_law 434 = .ok (.aload_n 2, 1) := by decide +kernel
theorem dL_law_435 : decode cL_law 435 = .ok (.aload_n 0, 1) := by decide +kernel
theorem dL_law_436 : decode cL_law 436 = .ok (.iload_n 3, 1) := by decide +kernel
theorem dL_law_437 : decode cL_law 437 = .ok (.iconst 1, 1) := by decide +kernel
theorem dL_law_438 : decode cL_law 438 = .ok (.iadd, 1) := by decide +kernel
theorem dL_law_439 : decode cL_law 439 = .ok (.iaload, 1) := by decide +kernel
theorem dL_law_440 : decode cL_law 440 = .ok (.invokevirtual 80, 3) := by decide +kernel
theorem dL_law_443 : decode cL_law 443 = .ok (.if_icmp .eq 41, 3) := by decide +kernel
theorem dL_law_446 : decode cL_law 446 = .ok (.iconst 0, 1) := by decide +kernel
theorem dL_law_447 : decode cL_law 447 = .ok (.ireturn, 1) := by decide +kernel
theorem dL_law_448 : decode cL_law 448 = .ok (.aload_n 1, 1) := by decide +kernel
theorem dL_law_449 : decode cL_law 449 = .ok (.aload_n 0, 1) := by decide +kernel
theorem dL_law_450 : decode cL_law 450 = .ok (.iload_n 3, 1) := by decide +kernel
theorem dL_law_451 : decode cL_law 451 = .ok (.iconst 1, 1) := by decide +kernel
theorem dL_law_452 : decode cL_law 452 = .ok (.iadd, 1) := by decide +kernel
theorem dL_law_453 : decode cL_law 453 = .ok (.iaload, 1) := by decide +kernel
theorem dL_law_454 : decode cL_law 454 = .ok (.invokevirtual 81, 3) := by decide +kernel
theorem dL_law_457 : decode cL_law 457 = .ok (.aload_n 2, 1) := by decide +kernel
theorem dL_law_458 : decode cL_law 458 = .ok (.aload_n 0, 1) := by decide +kernel
theorem dL_law_459 : decode cL_law 459 = .ok (.iload_n 3, 1) := by decide +kernel
theorem dL_law_460 : decode cL_law 460 = .ok (.iconst 1, 1) := by decide +kernel
theorem dL_law_461 : decode cL_law 461 = .ok (.iadd, 1) := by decide +kernel
theorem dL_law_462 : decode cL_law 462 = .ok (.iaload, 1) := by decide +kernel
theorem dL_law_463 : decode cL_law 463 = .ok (.invokevirtual 84, 3) := by decide +kernel
theorem dL_law_466 : decode cL_law 466 = .ok (.if_icmp .eq 18, 3) := by decide +kernel
theorem dL_law_469 : decode cL_law 469 = .ok (.iconst 0, 1) := by decide +kernel
theorem dL_law_470 : decode cL_law 470 = .ok (.ireturn, 1) := by decide +kernel
theorem dL_law_471 : decode cL_law 471 = .ok (.aload_n 1, 1) := by decide +kernel
theorem dL_law_472 : decode cL_law 472 = .ok (.invokevirtual 85, 3) := by decide +kernel
theorem dL_law_475 : decode cL_law 475 = .ok (.aload_n 2, 1) := by decide +kernel
theorem dL_law_476 : decode cL_law 476 = .ok (.invokevirtual 88, 3) := by decide +kernel
theorem dL_law_479 : decode cL_law 479 = .ok (.if_icmp .eq 5, 3) := by decide +kernel
theorem dL_law_482 : decode cL_law 482 = .ok (.iconst 0, 1) := by decide +kernel
theorem dL_law_483 : decode cL_law 483 = .ok (.ireturn, 1) := by decide +kernel
theorem dL_law_484 : decode cL_law 484 = .ok (.iinc 3 4, 3) := by decide +kernel
theorem dL_law_487 : decode cL_law 487 = .ok (.goto (-469), 3) := by decide +kernel
theorem dL_law_490 : decode cL_law 490 = .ok (.iconst 1, 1) := by decide +kernel
theorem dL_law_491 : decode cL_law 491 = .ok (.ireturn, 1) := by decide +kernel
end
section
set_option maxRecDepth 100000
theorem q23 : (Jvm.Cond.initialized "KnapsackFamily") ∈ lw_all := lw_g (lw_at lw_m1 1 rfl) rfl
theorem q26 : (Jvm.Cond.instantiable "KnapsackFamily" (11 : Nat)) ∈ lw_all := lw_g (lw_at lw_m1 4 rfl) rfl
theorem q28 : (Jvm.Cond.instanceMethod ({ cls := "KnapsackFamily", name := "<init>", desc := "()V" } : Jvm.MethodName)) ∈ lw_all := lw_g (lw_at lw_m1 6 rfl) rfl
theorem q29 : (Jvm.Cond.code ({ cls := "KnapsackFamily", name := "<init>", desc := "()V" } : Jvm.MethodName) prog_1_method_1_code (1 : Nat) (Option.none : Option Jvm.ClassFile.FieldType)) ∈ lw_all := lw_g (lw_at lw_m1 7 rfl) rfl
theorem q30 : (Jvm.Cond.methodLink "KnapsackFamily" (1 : Nat) ({ cls := "java/lang/Object", name := "<init>", desc := "()V" } : Jvm.MethodName)) ∈ lw_all := lw_g (lw_at lw_m1 8 rfl) rfl
theorem q33 : (Jvm.Cond.fieldLink "KnapsackFamily" (7 : Nat) "KnapsackFamily" "weights" "[I") ∈ lw_all := lw_g (lw_at lw_m1 11 rfl) rfl
theorem q34 : (Jvm.Cond.fieldLink "KnapsackFamily" (13 : Nat) "KnapsackFamily" "values" "[I") ∈ lw_all := lw_g (lw_at lw_m1 12 rfl) rfl
theorem q35 : (Jvm.Cond.fieldLink "KnapsackFamily" (16 : Nat) "KnapsackFamily" "supplies" "[I") ∈ lw_all := lw_g (lw_at lw_m1 13 rfl) rfl
theorem q36 : (Jvm.Cond.fieldLink "KnapsackFamily" (19 : Nat) "KnapsackFamily" "families" "[I") ∈ lw_all := lw_g (lw_at lw_m1 14 rfl) rfl
theorem q37 : (Jvm.Cond.fieldLink "KnapsackFamily" (22 : Nat) "KnapsackFamily" "table" "[I") ∈ lw_all := lw_g (lw_at lw_m1 15 rfl) rfl
theorem q38 : (Jvm.Cond.fieldLink "KnapsackFamily" (25 : Nat) "KnapsackFamily" "ways" "[I") ∈ lw_all := lw_g (lw_at lw_m1 16 rfl) rfl
theorem q39 : (Jvm.Cond.fieldLink "KnapsackFamily" (28 : Nat) "KnapsackFamily" "strict" "[I") ∈ lw_all := lw_g (lw_at lw_m1 17 rfl) rfl
theorem q40 : (Jvm.Cond.fieldLink "KnapsackFamily" (31 : Nat) "KnapsackFamily" "fixed" "[I") ∈ lw_all := lw_g (lw_at lw_m1 18 rfl) rfl
theorem q41 : (Jvm.Cond.fieldLink "KnapsackFamily" (34 : Nat) "KnapsackFamily" "pair" "[I") ∈ lw_all := lw_g (lw_at lw_m1 19 rfl) rfl
theorem q42 : (Jvm.Cond.fieldLink "KnapsackFamily" (41 : Nat) "KnapsackFamily" "count" "I") ∈ lw_all := lw_g (lw_at lw_m1 20 rfl) rfl
theorem q43 : (Jvm.Cond.fieldLink "KnapsackFamily" (37 : Nat) "KnapsackFamily" "limit" "I") ∈ lw_all := lw_g (lw_at lw_m1 21 rfl) rfl
theorem q44 : (Jvm.Cond.laysFinal "KnapsackFamily" "KnapsackFamily" "weights" "[I") ∈ lw_all := lw_g (lw_at lw_m1 22 rfl) rfl
theorem q45 : (Jvm.Cond.soleField "KnapsackFamily" "weights") ∈ lw_all := lw_g (lw_at lw_m1 23 rfl) rfl
theorem q46 : (Jvm.Cond.laysFinal "KnapsackFamily" "KnapsackFamily" "values" "[I") ∈ lw_all := lw_g (lw_at lw_m1 24 rfl) rfl
theorem q47 : (Jvm.Cond.soleField "KnapsackFamily" "values") ∈ lw_all := lw_g (lw_at lw_m1 25 rfl) rfl
theorem q48 : (Jvm.Cond.laysFinal "KnapsackFamily" "KnapsackFamily" "supplies" "[I") ∈ lw_all := lw_g (lw_at lw_m1 26 rfl) rfl
theorem q49 : (Jvm.Cond.soleField "KnapsackFamily" "supplies") ∈ lw_all := lw_g (lw_at lw_m1 27 rfl) rfl
theorem q50 : (Jvm.Cond.laysFinal "KnapsackFamily" "KnapsackFamily" "families" "[I") ∈ lw_all := lw_g (lw_at lw_m1 28 rfl) rfl
theorem q51 : (Jvm.Cond.soleField "KnapsackFamily" "families") ∈ lw_all := lw_g (lw_at lw_m1 29 rfl) rfl
theorem q52 : (Jvm.Cond.laysFinal "KnapsackFamily" "KnapsackFamily" "table" "[I") ∈ lw_all := lw_g (lw_at lw_m1 30 rfl) rfl
theorem q53 : (Jvm.Cond.soleField "KnapsackFamily" "table") ∈ lw_all := lw_g (lw_at lw_m1 31 rfl) rfl
theorem q54 : (Jvm.Cond.laysFinal "KnapsackFamily" "KnapsackFamily" "ways" "[I") ∈ lw_all := lw_g (lw_at lw_m1 32 rfl) rfl
theorem q55 : (Jvm.Cond.soleField "KnapsackFamily" "ways") ∈ lw_all := lw_g (lw_at lw_m1 33 rfl) rfl
theorem q56 : (Jvm.Cond.laysFinal "KnapsackFamily" "KnapsackFamily" "strict" "[I") ∈ lw_all := lw_g (lw_at lw_m1 34 rfl) rfl
theorem q57 : (Jvm.Cond.soleField "KnapsackFamily" "strict") ∈ lw_all := lw_g (lw_at lw_m1 35 rfl) rfl
theorem q58 : (Jvm.Cond.laysFinal "KnapsackFamily" "KnapsackFamily" "fixed" "[I") ∈ lw_all := lw_g (lw_at lw_m1 36 rfl) rfl
theorem q59 : (Jvm.Cond.soleField "KnapsackFamily" "fixed") ∈ lw_all := lw_g (lw_at lw_m1 37 rfl) rfl
theorem q60 : (Jvm.Cond.laysFinal "KnapsackFamily" "KnapsackFamily" "pair" "[I") ∈ lw_all := lw_g (lw_at lw_m1 38 rfl) rfl
theorem q61 : (Jvm.Cond.soleField "KnapsackFamily" "pair") ∈ lw_all := lw_g (lw_at lw_m1 39 rfl) rfl
theorem q62 : (Jvm.Cond.lays "KnapsackFamily" "KnapsackFamily" "count" "I") ∈ lw_all := lw_g (lw_at lw_m1 40 rfl) rfl
theorem q63 : (Jvm.Cond.soleField "KnapsackFamily" "count") ∈ lw_all := lw_g (lw_at lw_m1 41 rfl) rfl
theorem q64 : (Jvm.Cond.lays "KnapsackFamily" "KnapsackFamily" "limit" "I") ∈ lw_all := lw_g (lw_at lw_m1 42 rfl) rfl
theorem q65 : (Jvm.Cond.soleField "KnapsackFamily" "limit") ∈ lw_all := lw_g (lw_at lw_m1 43 rfl) rfl
theorem q66 : (Jvm.Cond.superclass "KnapsackFamily" "java/lang/Object") ∈ lw_all := lw_g (lw_at lw_m1 44 rfl) rfl
theorem q69 : (Jvm.Cond.instanceMethod ({ cls := "KnapsackFamily", name := "add", desc := "(III)I" } : Jvm.MethodName)) ∈ lw_all := lw_g (lw_at lw_m1 47 rfl) rfl
theorem q70 : (Jvm.Cond.selects "KnapsackFamily" ({ cls := "KnapsackFamily", name := "add", desc := "(III)I" } : Jvm.MethodName) ({ cls := "KnapsackFamily", name := "add", desc := "(III)I" } : Jvm.MethodName)) ∈ lw_all := lw_g (lw_at lw_m1 48 rfl) rfl
theorem q71 : (Jvm.Cond.code ({ cls := "KnapsackFamily", name := "add", desc := "(III)I" } : Jvm.MethodName) prog_1_method_2_code (4 : Nat) (Option.some Jvm.ClassFile.FieldType.int)) ∈ lw_all := lw_g (lw_at lw_m1 49 rfl) rfl
theorem q72 : (Jvm.Cond.methodLink "KnapsackFamily" (44 : Nat) ({ cls := "KnapsackFamily", name := "put", desc := "(IIII)V" } : Jvm.MethodName)) ∈ lw_all := lw_g (lw_at lw_m1 50 rfl) rfl
theorem q73 : (Jvm.Cond.privateMethod ({ cls := "KnapsackFamily", name := "put", desc := "(IIII)V" } : Jvm.MethodName)) ∈ lw_tbl := lw_at lw_m1 51 rfl
theorem q74 : (Jvm.Cond.instanceMethod ({ cls := "KnapsackFamily", name := "put", desc := "(IIII)V" } : Jvm.MethodName)) ∈ lw_all := lw_g (lw_at lw_m1 52 rfl) rfl
theorem q75 : (Jvm.Cond.code ({ cls := "KnapsackFamily", name := "put", desc := "(IIII)V" } : Jvm.MethodName) prog_1_method_21_code (5 : Nat) (Option.none : Option Jvm.ClassFile.FieldType)) ∈ lw_all := lw_g (lw_at lw_m1 53 rfl) rfl
theorem q77 : (Jvm.Cond.instanceMethod ({ cls := "KnapsackFamily", name := "sow", desc := "(II)I" } : Jvm.MethodName)) ∈ lw_all := lw_g (lw_at lw_m1 55 rfl) rfl
theorem q78 : (Jvm.Cond.selects "KnapsackFamily" ({ cls := "KnapsackFamily", name := "sow", desc := "(II)I" } : Jvm.MethodName) ({ cls := "KnapsackFamily", name := "sow", desc := "(II)I" } : Jvm.MethodName)) ∈ lw_all := lw_g (lw_at lw_m1 56 rfl) rfl
theorem q79 : (Jvm.Cond.code ({ cls := "KnapsackFamily", name := "sow", desc := "(II)I" } : Jvm.MethodName) prog_1_method_3_code (6 : Nat) (Option.some Jvm.ClassFile.FieldType.int)) ∈ lw_all := lw_g (lw_at lw_m1 57 rfl) rfl
theorem q81 : (Jvm.Cond.instanceMethod ({ cls := "KnapsackFamily", name := "drop", desc := "(I)I" } : Jvm.MethodName)) ∈ lw_all := lw_g (lw_at lw_m1 59 rfl) rfl
theorem q82 : (Jvm.Cond.selects "KnapsackFamily" ({ cls := "KnapsackFamily", name := "drop", desc := "(I)I" } : Jvm.MethodName) ({ cls := "KnapsackFamily", name := "drop", desc := "(I)I" } : Jvm.MethodName)) ∈ lw_all := lw_g (lw_at lw_m1 60 rfl) rfl
theorem q83 : (Jvm.Cond.code ({ cls := "KnapsackFamily", name := "drop", desc := "(I)I" } : Jvm.MethodName) prog_1_method_4_code (3 : Nat) (Option.some Jvm.ClassFile.FieldType.int)) ∈ lw_all := lw_g (lw_at lw_m1 61 rfl) rfl
theorem q84 : (Jvm.Cond.methodLink "KnapsackFamily" (48 : Nat) ({ cls := "KnapsackFamily", name := "isGood", desc := "(I)Z" } : Jvm.MethodName)) ∈ lw_all := lw_g (lw_at lw_m1 62 rfl) rfl
theorem q85 : (Jvm.Cond.privateMethod ({ cls := "KnapsackFamily", name := "isGood", desc := "(I)Z" } : Jvm.MethodName)) ∈ lw_tbl := lw_at lw_m1 63 rfl
theorem q86 : (Jvm.Cond.instanceMethod ({ cls := "KnapsackFamily", name := "isGood", desc := "(I)Z" } : Jvm.MethodName)) ∈ lw_all := lw_g (lw_at lw_m1 64 rfl) rfl
theorem q87 : (Jvm.Cond.code ({ cls := "KnapsackFamily", name := "isGood", desc := "(I)Z" } : Jvm.MethodName) prog_1_method_20_code (2 : Nat) (Option.some Jvm.ClassFile.FieldType.boolean)) ∈ lw_all := lw_g (lw_at lw_m1 65 rfl) rfl
theorem q89 : (Jvm.Cond.instanceMethod ({ cls := "KnapsackFamily", name := "limit", desc := "(I)I" } : Jvm.MethodName)) ∈ lw_all := lw_g (lw_at lw_m1 67 rfl) rfl
theorem q90 : (Jvm.Cond.selects "KnapsackFamily" ({ cls := "KnapsackFamily", name := "limit", desc := "(I)I" } : Jvm.MethodName) ({ cls := "KnapsackFamily", name := "limit", desc := "(I)I" } : Jvm.MethodName)) ∈ lw_all := lw_g (lw_at lw_m1 68 rfl) rfl
theorem q91 : (Jvm.Cond.code ({ cls := "KnapsackFamily", name := "limit", desc := "(I)I" } : Jvm.MethodName) prog_1_method_5_code (3 : Nat) (Option.some Jvm.ClassFile.FieldType.int)) ∈ lw_all := lw_g (lw_at lw_m1 69 rfl) rfl
theorem q93 : (Jvm.Cond.instanceMethod ({ cls := "KnapsackFamily", name := "goods", desc := "()I" } : Jvm.MethodName)) ∈ lw_all := lw_g (lw_at lw_m1 71 rfl) rfl
theorem q94 : (Jvm.Cond.selects "KnapsackFamily" ({ cls := "KnapsackFamily", name := "goods", desc := "()I" } : Jvm.MethodName) ({ cls := "KnapsackFamily", name := "goods", desc := "()I" } : Jvm.MethodName)) ∈ lw_all := lw_g (lw_at lw_m1 72 rfl) rfl
theorem q95 : (Jvm.Cond.code ({ cls := "KnapsackFamily", name := "goods", desc := "()I" } : Jvm.MethodName) prog_1_method_6_code (1 : Nat) (Option.some Jvm.ClassFile.FieldType.int)) ∈ lw_all := lw_g (lw_at lw_m1 73 rfl) rfl
theorem q97 : (Jvm.Cond.instanceMethod ({ cls := "KnapsackFamily", name := "weightOf", desc := "(I)I" } : Jvm.MethodName)) ∈ lw_all := lw_g (lw_at lw_m1 75 rfl) rfl
theorem q98 : (Jvm.Cond.selects "KnapsackFamily" ({ cls := "KnapsackFamily", name := "weightOf", desc := "(I)I" } : Jvm.MethodName) ({ cls := "KnapsackFamily", name := "weightOf", desc := "(I)I" } : Jvm.MethodName)) ∈ lw_all := lw_g (lw_at lw_m1 76 rfl) rfl
theorem q99 : (Jvm.Cond.code ({ cls := "KnapsackFamily", name := "weightOf", desc := "(I)I" } : Jvm.MethodName) prog_1_method_7_code (4 : Nat) (Option.some Jvm.ClassFile.FieldType.int)) ∈ lw_all := lw_g (lw_at lw_m1 77 rfl) rfl
theorem q100 : (Jvm.Cond.methodLink "KnapsackFamily" (52 : Nat) ({ cls := "KnapsackFamily", name := "load", desc := "(I)Z" } : Jvm.MethodName)) ∈ lw_all := lw_g (lw_at lw_m1 78 rfl) rfl
theorem q101 : (Jvm.Cond.privateMethod ({ cls := "KnapsackFamily", name := "load", desc := "(I)Z" } : Jvm.MethodName)) ∈ lw_tbl := lw_at lw_m1 79 rfl
theorem q102 : (Jvm.Cond.instanceMethod ({ cls := "KnapsackFamily", name := "load", desc := "(I)Z" } : Jvm.MethodName)) ∈ lw_all := lw_g (lw_at lw_m1 80 rfl) rfl
theorem q103 : (Jvm.Cond.code ({ cls := "KnapsackFamily", name := "load", desc := "(I)Z" } : Jvm.MethodName) prog_1_method_32_code (4 : Nat) (Option.some Jvm.ClassFile.FieldType.boolean)) ∈ lw_all := lw_g (lw_at lw_m1 81 rfl) rfl
theorem q105 : (Jvm.Cond.instanceMethod ({ cls := "KnapsackFamily", name := "valueOf", desc := "(I)I" } : Jvm.MethodName)) ∈ lw_all := lw_g (lw_at lw_m1 83 rfl) rfl
theorem q106 : (Jvm.Cond.selects "KnapsackFamily" ({ cls := "KnapsackFamily", name := "valueOf", desc := "(I)I" } : Jvm.MethodName) ({ cls := "KnapsackFamily", name := "valueOf", desc := "(I)I" } : Jvm.MethodName)) ∈ lw_all := lw_g (lw_at lw_m1 84 rfl) rfl
theorem q107 : (Jvm.Cond.code ({ cls := "KnapsackFamily", name := "valueOf", desc := "(I)I" } : Jvm.MethodName) prog_1_method_8_code (4 : Nat) (Option.some Jvm.ClassFile.FieldType.int)) ∈ lw_all := lw_g (lw_at lw_m1 85 rfl) rfl
theorem q109 : (Jvm.Cond.instanceMethod ({ cls := "KnapsackFamily", name := "best", desc := "()I" } : Jvm.MethodName)) ∈ lw_all := lw_g (lw_at lw_m1 87 rfl) rfl
theorem q110 : (Jvm.Cond.selects "KnapsackFamily" ({ cls := "KnapsackFamily", name := "best", desc := "()I" } : Jvm.MethodName) ({ cls := "KnapsackFamily", name := "best", desc := "()I" } : Jvm.MethodName)) ∈ lw_all := lw_g (lw_at lw_m1 88 rfl) rfl
theorem q111 : (Jvm.Cond.code ({ cls := "KnapsackFamily", name := "best", desc := "()I" } : Jvm.MethodName) prog_1_method_9_code (1 : Nat) (Option.some Jvm.ClassFile.FieldType.int)) ∈ lw_all := lw_g (lw_at lw_m1 89 rfl) rfl
theorem q112 : (Jvm.Cond.methodLink "KnapsackFamily" (55 : Nat) ({ cls := "KnapsackFamily", name := "fill", desc := "(I)V" } : Jvm.MethodName)) ∈ lw_all := lw_g (lw_at lw_m1 90 rfl) rfl
theorem q113 : (Jvm.Cond.privateMethod ({ cls := "KnapsackFamily", name := "fill", desc := "(I)V" } : Jvm.MethodName)) ∈ lw_tbl := lw_at lw_m1 91 rfl
theorem q114 : (Jvm.Cond.instanceMethod ({ cls := "KnapsackFamily", name := "fill", desc := "(I)V" } : Jvm.MethodName)) ∈ lw_all := lw_g (lw_at lw_m1 92 rfl) rfl
theorem q115 : (Jvm.Cond.code ({ cls := "KnapsackFamily", name := "fill", desc := "(I)V" } : Jvm.MethodName) prog_1_method_22_code (6 : Nat) (Option.none : Option Jvm.ClassFile.FieldType)) ∈ lw_all := lw_g (lw_at lw_m1 93 rfl) rfl
theorem q116 : (Jvm.Cond.constant "KnapsackFamily" (80 : Nat) (-100000 : Int32)) ∈ lw_all := lw_g (lw_at lw_m1 94 rfl) rfl
theorem q117 : (Jvm.Cond.methodLink "KnapsackFamily" (81 : Nat) ({ cls := "KnapsackFamily", name := "fillEntry", desc := "(III)V" } : Jvm.MethodName)) ∈ lw_all := lw_g (lw_at lw_m1 95 rfl) rfl
theorem q118 : (Jvm.Cond.privateMethod ({ cls := "KnapsackFamily", name := "fillEntry", desc := "(III)V" } : Jvm.MethodName)) ∈ lw_tbl := lw_at lw_m1 96 rfl
theorem q119 : (Jvm.Cond.instanceMethod ({ cls := "KnapsackFamily", name := "fillEntry", desc := "(III)V" } : Jvm.MethodName)) ∈ lw_all := lw_g (lw_at lw_m1 97 rfl) rfl
theorem q120 : (Jvm.Cond.code ({ cls := "KnapsackFamily", name := "fillEntry", desc := "(III)V" } : Jvm.MethodName) prog_1_method_23_code (9 : Nat) (Option.none : Option Jvm.ClassFile.FieldType)) ∈ lw_all := lw_g (lw_at lw_m1 98 rfl) rfl
theorem q121 : (Jvm.Cond.methodLink "KnapsackFamily" (59 : Nat) ({ cls := "KnapsackFamily", name := "bestWeight", desc := "()I" } : Jvm.MethodName)) ∈ lw_all := lw_g (lw_at lw_m1 99 rfl) rfl
theorem q122 : (Jvm.Cond.privateMethod ({ cls := "KnapsackFamily", name := "bestWeight", desc := "()I" } : Jvm.MethodName)) ∈ lw_tbl := lw_at lw_m1 100 rfl
theorem q123 : (Jvm.Cond.instanceMethod ({ cls := "KnapsackFamily", name := "bestWeight", desc := "()I" } : Jvm.MethodName)) ∈ lw_all := lw_g (lw_at lw_m1 101 rfl) rfl
theorem q124 : (Jvm.Cond.code ({ cls := "KnapsackFamily", name := "bestWeight", desc := "()I" } : Jvm.MethodName) prog_1_method_24_code (3 : Nat) (Option.some Jvm.ClassFile.FieldType.int)) ∈ lw_all := lw_g (lw_at lw_m1 102 rfl) rfl
theorem q126 : (Jvm.Cond.instanceMethod ({ cls := "KnapsackFamily", name := "bestCode", desc := "()I" } : Jvm.MethodName)) ∈ lw_all := lw_g (lw_at lw_m1 104 rfl) rfl
theorem q127 : (Jvm.Cond.selects "KnapsackFamily" ({ cls := "KnapsackFamily", name := "bestCode", desc := "()I" } : Jvm.MethodName) ({ cls := "KnapsackFamily", name := "bestCode", desc := "()I" } : Jvm.MethodName)) ∈ lw_all := lw_g (lw_at lw_m1 105 rfl) rfl
theorem q128 : (Jvm.Cond.code ({ cls := "KnapsackFamily", name := "bestCode", desc := "()I" } : Jvm.MethodName) prog_1_method_10_code (6 : Nat) (Option.some Jvm.ClassFile.FieldType.int)) ∈ lw_all := lw_g (lw_at lw_m1 106 rfl) rfl
theorem q129 : (Jvm.Cond.methodLink "KnapsackFamily" (63 : Nat) ({ cls := "KnapsackFamily", name := "keeps", desc := "(IIII)Z" } : Jvm.MethodName)) ∈ lw_all := lw_g (lw_at lw_m1 107 rfl) rfl
theorem q130 : (Jvm.Cond.privateMethod ({ cls := "KnapsackFamily", name := "keeps", desc := "(IIII)Z" } : Jvm.MethodName)) ∈ lw_tbl := lw_at lw_m1 108 rfl
theorem q131 : (Jvm.Cond.instanceMethod ({ cls := "KnapsackFamily", name := "keeps", desc := "(IIII)Z" } : Jvm.MethodName)) ∈ lw_all := lw_g (lw_at lw_m1 109 rfl) rfl
theorem q132 : (Jvm.Cond.code ({ cls := "KnapsackFamily", name := "keeps", desc := "(IIII)Z" } : Jvm.MethodName) prog_1_method_25_code (6 : Nat) (Option.some Jvm.ClassFile.FieldType.boolean)) ∈ lw_all := lw_g (lw_at lw_m1 110 rfl) rfl
theorem q134 : (Jvm.Cond.instanceMethod ({ cls := "KnapsackFamily", name := "bestStrict", desc := "()I" } : Jvm.MethodName)) ∈ lw_all := lw_g (lw_at lw_m1 112 rfl) rfl
theorem q135 : (Jvm.Cond.selects "KnapsackFamily" ({ cls := "KnapsackFamily", name := "bestStrict", desc := "()I" } : Jvm.MethodName) ({ cls := "KnapsackFamily", name := "bestStrict", desc := "()I" } : Jvm.MethodName)) ∈ lw_all := lw_g (lw_at lw_m1 113 rfl) rfl
theorem q136 : (Jvm.Cond.code ({ cls := "KnapsackFamily", name := "bestStrict", desc := "()I" } : Jvm.MethodName) prog_1_method_11_code (1 : Nat) (Option.some Jvm.ClassFile.FieldType.int)) ∈ lw_all := lw_g (lw_at lw_m1 114 rfl) rfl
theorem q137 : (Jvm.Cond.methodLink "KnapsackFamily" (67 : Nat) ({ cls := "KnapsackFamily", name := "openAll", desc := "()V" } : Jvm.MethodName)) ∈ lw_all := lw_g (lw_at lw_m1 115 rfl) rfl
theorem q138 : (Jvm.Cond.privateMethod ({ cls := "KnapsackFamily", name := "openAll", desc := "()V" } : Jvm.MethodName)) ∈ lw_tbl := lw_at lw_m1 116 rfl
theorem q139 : (Jvm.Cond.instanceMethod ({ cls := "KnapsackFamily", name := "openAll", desc := "()V" } : Jvm.MethodName)) ∈ lw_all := lw_g (lw_at lw_m1 117 rfl) rfl
theorem q140 : (Jvm.Cond.code ({ cls := "KnapsackFamily", name := "openAll", desc := "()V" } : Jvm.MethodName) prog_1_method_26_code (2 : Nat) (Option.none : Option Jvm.ClassFile.FieldType)) ∈ lw_all := lw_g (lw_at lw_m1 118 rfl) rfl
theorem q141 : (Jvm.Cond.methodLink "KnapsackFamily" (70 : Nat) ({ cls := "KnapsackFamily", name := "fillStrict", desc := "()V" } : Jvm.MethodName)) ∈ lw_all := lw_g (lw_at lw_m1 119 rfl) rfl
theorem q142 : (Jvm.Cond.privateMethod ({ cls := "KnapsackFamily", name := "fillStrict", desc := "()V" } : Jvm.MethodName)) ∈ lw_tbl := lw_at lw_m1 120 rfl
theorem q143 : (Jvm.Cond.instanceMethod ({ cls := "KnapsackFamily", name := "fillStrict", desc := "()V" } : Jvm.MethodName)) ∈ lw_all := lw_g (lw_at lw_m1 121 rfl) rfl
theorem q144 : (Jvm.Cond.code ({ cls := "KnapsackFamily", name := "fillStrict", desc := "()V" } : Jvm.MethodName) prog_1_method_27_code (3 : Nat) (Option.none : Option Jvm.ClassFile.FieldType)) ∈ lw_all := lw_g (lw_at lw_m1 122 rfl) rfl
theorem q145 : (Jvm.Cond.methodLink "KnapsackFamily" (85 : Nat) ({ cls := "KnapsackFamily", name := "strictEntry", desc := "(II)I" } : Jvm.MethodName)) ∈ lw_all := lw_g (lw_at lw_m1 123 rfl) rfl
theorem q146 : (Jvm.Cond.privateMethod ({ cls := "KnapsackFamily", name := "strictEntry", desc := "(II)I" } : Jvm.MethodName)) ∈ lw_tbl := lw_at lw_m1 124 rfl
theorem q147 : (Jvm.Cond.instanceMethod ({ cls := "KnapsackFamily", name := "strictEntry", desc := "(II)I" } : Jvm.MethodName)) ∈ lw_all := lw_g (lw_at lw_m1 125 rfl) rfl
theorem q148 : (Jvm.Cond.code ({ cls := "KnapsackFamily", name := "strictEntry", desc := "(II)I" } : Jvm.MethodName) prog_1_method_28_code (8 : Nat) (Option.some Jvm.ClassFile.FieldType.int)) ∈ lw_all := lw_g (lw_at lw_m1 126 rfl) rfl
theorem q149 : (Jvm.Cond.methodLink "KnapsackFamily" (89 : Nat) ({ cls := "KnapsackFamily", name := "withGood", desc := "(III)I" } : Jvm.MethodName)) ∈ lw_all := lw_g (lw_at lw_m1 127 rfl) rfl
theorem q150 : (Jvm.Cond.privateMethod ({ cls := "KnapsackFamily", name := "withGood", desc := "(III)I" } : Jvm.MethodName)) ∈ lw_tbl := lw_at lw_m1 128 rfl
theorem q151 : (Jvm.Cond.instanceMethod ({ cls := "KnapsackFamily", name := "withGood", desc := "(III)I" } : Jvm.MethodName)) ∈ lw_all := lw_g (lw_at lw_m1 129 rfl) rfl
theorem q152 : (Jvm.Cond.code ({ cls := "KnapsackFamily", name := "withGood", desc := "(III)I" } : Jvm.MethodName) prog_1_method_29_code (9 : Nat) (Option.some Jvm.ClassFile.FieldType.int)) ∈ lw_all := lw_g (lw_at lw_m1 130 rfl) rfl
theorem q153 : (Jvm.Cond.methodLink "KnapsackFamily" (73 : Nat) ({ cls := "KnapsackFamily", name := "strictWeight", desc := "()I" } : Jvm.MethodName)) ∈ lw_all := lw_g (lw_at lw_m1 131 rfl) rfl
theorem q154 : (Jvm.Cond.privateMethod ({ cls := "KnapsackFamily", name := "strictWeight", desc := "()I" } : Jvm.MethodName)) ∈ lw_tbl := lw_at lw_m1 132 rfl
theorem q155 : (Jvm.Cond.instanceMethod ({ cls := "KnapsackFamily", name := "strictWeight", desc := "()I" } : Jvm.MethodName)) ∈ lw_all := lw_g (lw_at lw_m1 133 rfl) rfl
theorem q156 : (Jvm.Cond.code ({ cls := "KnapsackFamily", name := "strictWeight", desc := "()I" } : Jvm.MethodName) prog_1_method_30_code (3 : Nat) (Option.some Jvm.ClassFile.FieldType.int)) ∈ lw_all := lw_g (lw_at lw_m1 134 rfl) rfl
theorem q158 : (Jvm.Cond.instanceMethod ({ cls := "KnapsackFamily", name := "bestStrictCode", desc := "()I" } : Jvm.MethodName)) ∈ lw_all := lw_g (lw_at lw_m1 136 rfl) rfl
theorem q159 : (Jvm.Cond.selects "KnapsackFamily" ({ cls := "KnapsackFamily", name := "bestStrictCode", desc := "()I" } : Jvm.MethodName) ({ cls := "KnapsackFamily", name := "bestStrictCode", desc := "()I" } : Jvm.MethodName)) ∈ lw_all := lw_g (lw_at lw_m1 137 rfl) rfl
theorem q160 : (Jvm.Cond.code ({ cls := "KnapsackFamily", name := "bestStrictCode", desc := "()I" } : Jvm.MethodName) prog_1_method_12_code (6 : Nat) (Option.some Jvm.ClassFile.FieldType.int)) ∈ lw_all := lw_g (lw_at lw_m1 138 rfl) rfl
theorem q162 : (Jvm.Cond.instanceMethod ({ cls := "KnapsackFamily", name := "fitting", desc := "()I" } : Jvm.MethodName)) ∈ lw_all := lw_g (lw_at lw_m1 140 rfl) rfl
theorem q163 : (Jvm.Cond.selects "KnapsackFamily" ({ cls := "KnapsackFamily", name := "fitting", desc := "()I" } : Jvm.MethodName) ({ cls := "KnapsackFamily", name := "fitting", desc := "()I" } : Jvm.MethodName)) ∈ lw_all := lw_g (lw_at lw_m1 141 rfl) rfl
theorem q164 : (Jvm.Cond.code ({ cls := "KnapsackFamily", name := "fitting", desc := "()I" } : Jvm.MethodName) prog_1_method_13_code (3 : Nat) (Option.some Jvm.ClassFile.FieldType.int)) ∈ lw_all := lw_g (lw_at lw_m1 142 rfl) rfl
theorem q166 : (Jvm.Cond.instanceMethod ({ cls := "KnapsackFamily", name := "weighing", desc := "(I)I" } : Jvm.MethodName)) ∈ lw_all := lw_g (lw_at lw_m1 144 rfl) rfl
theorem q167 : (Jvm.Cond.selects "KnapsackFamily" ({ cls := "KnapsackFamily", name := "weighing", desc := "(I)I" } : Jvm.MethodName) ({ cls := "KnapsackFamily", name := "weighing", desc := "(I)I" } : Jvm.MethodName)) ∈ lw_all := lw_g (lw_at lw_m1 145 rfl) rfl
theorem q168 : (Jvm.Cond.code ({ cls := "KnapsackFamily", name := "weighing", desc := "(I)I" } : Jvm.MethodName) prog_1_method_14_code (2 : Nat) (Option.some Jvm.ClassFile.FieldType.int)) ∈ lw_all := lw_g (lw_at lw_m1 146 rfl) rfl
theorem q170 : (Jvm.Cond.instanceMethod ({ cls := "KnapsackFamily", name := "fullest", desc := "()I" } : Jvm.MethodName)) ∈ lw_all := lw_g (lw_at lw_m1 148 rfl) rfl
theorem q171 : (Jvm.Cond.selects "KnapsackFamily" ({ cls := "KnapsackFamily", name := "fullest", desc := "()I" } : Jvm.MethodName) ({ cls := "KnapsackFamily", name := "fullest", desc := "()I" } : Jvm.MethodName)) ∈ lw_all := lw_g (lw_at lw_m1 149 rfl) rfl
theorem q172 : (Jvm.Cond.code ({ cls := "KnapsackFamily", name := "fullest", desc := "()I" } : Jvm.MethodName) prog_1_method_15_code (2 : Nat) (Option.some Jvm.ClassFile.FieldType.int)) ∈ lw_all := lw_g (lw_at lw_m1 150 rfl) rfl
theorem q174 : (Jvm.Cond.instanceMethod ({ cls := "KnapsackFamily", name := "lightest", desc := "(I)I" } : Jvm.MethodName)) ∈ lw_all := lw_g (lw_at lw_m1 152 rfl) rfl
theorem q175 : (Jvm.Cond.selects "KnapsackFamily" ({ cls := "KnapsackFamily", name := "lightest", desc := "(I)I" } : Jvm.MethodName) ({ cls := "KnapsackFamily", name := "lightest", desc := "(I)I" } : Jvm.MethodName)) ∈ lw_all := lw_g (lw_at lw_m1 153 rfl) rfl
theorem q176 : (Jvm.Cond.code ({ cls := "KnapsackFamily", name := "lightest", desc := "(I)I" } : Jvm.MethodName) prog_1_method_16_code (3 : Nat) (Option.some Jvm.ClassFile.FieldType.int)) ∈ lw_all := lw_g (lw_at lw_m1 154 rfl) rfl
theorem q178 : (Jvm.Cond.instanceMethod ({ cls := "KnapsackFamily", name := "two", desc := "(I)I" } : Jvm.MethodName)) ∈ lw_all := lw_g (lw_at lw_m1 156 rfl) rfl
theorem q179 : (Jvm.Cond.selects "KnapsackFamily" ({ cls := "KnapsackFamily", name := "two", desc := "(I)I" } : Jvm.MethodName) ({ cls := "KnapsackFamily", name := "two", desc := "(I)I" } : Jvm.MethodName)) ∈ lw_all := lw_g (lw_at lw_m1 157 rfl) rfl
theorem q180 : (Jvm.Cond.code ({ cls := "KnapsackFamily", name := "two", desc := "(I)I" } : Jvm.MethodName) prog_1_method_17_code (4 : Nat) (Option.some Jvm.ClassFile.FieldType.int)) ∈ lw_all := lw_g (lw_at lw_m1 158 rfl) rfl
theorem q181 : (Jvm.Cond.methodLink "KnapsackFamily" (76 : Nat) ({ cls := "KnapsackFamily", name := "placePiece", desc := "(II)V" } : Jvm.MethodName)) ∈ lw_all := lw_g (lw_at lw_m1 159 rfl) rfl
theorem q182 : (Jvm.Cond.privateMethod ({ cls := "KnapsackFamily", name := "placePiece", desc := "(II)V" } : Jvm.MethodName)) ∈ lw_tbl := lw_at lw_m1 160 rfl
theorem q183 : (Jvm.Cond.instanceMethod ({ cls := "KnapsackFamily", name := "placePiece", desc := "(II)V" } : Jvm.MethodName)) ∈ lw_all := lw_g (lw_at lw_m1 161 rfl) rfl
theorem q184 : (Jvm.Cond.code ({ cls := "KnapsackFamily", name := "placePiece", desc := "(II)V" } : Jvm.MethodName) prog_1_method_31_code (6 : Nat) (Option.none : Option Jvm.ClassFile.FieldType)) ∈ lw_all := lw_g (lw_at lw_m1 162 rfl) rfl
theorem q186 : (Jvm.Cond.instanceMethod ({ cls := "KnapsackFamily", name := "without", desc := "(I)I" } : Jvm.MethodName)) ∈ lw_all := lw_g (lw_at lw_m1 164 rfl) rfl
theorem q187 : (Jvm.Cond.selects "KnapsackFamily" ({ cls := "KnapsackFamily", name := "without", desc := "(I)I" } : Jvm.MethodName) ({ cls := "KnapsackFamily", name := "without", desc := "(I)I" } : Jvm.MethodName)) ∈ lw_all := lw_g (lw_at lw_m1 165 rfl) rfl
theorem q188 : (Jvm.Cond.code ({ cls := "KnapsackFamily", name := "without", desc := "(I)I" } : Jvm.MethodName) prog_1_method_18_code (2 : Nat) (Option.some Jvm.ClassFile.FieldType.int)) ∈ lw_all := lw_g (lw_at lw_m1 166 rfl) rfl
theorem q190 : (Jvm.Cond.instanceMethod ({ cls := "KnapsackFamily", name := "halves", desc := "()I" } : Jvm.MethodName)) ∈ lw_all := lw_g (lw_at lw_m1 168 rfl) rfl
theorem q191 : (Jvm.Cond.selects "KnapsackFamily" ({ cls := "KnapsackFamily", name := "halves", desc := "()I" } : Jvm.MethodName) ({ cls := "KnapsackFamily", name := "halves", desc := "()I" } : Jvm.MethodName)) ∈ lw_all := lw_g (lw_at lw_m1 169 rfl) rfl
theorem q192 : (Jvm.Cond.code ({ cls := "KnapsackFamily", name := "halves", desc := "()I" } : Jvm.MethodName) prog_1_method_19_code (3 : Nat) (Option.some Jvm.ClassFile.FieldType.int)) ∈ lw_all := lw_g (lw_at lw_m1 170 rfl) rfl
theorem in_X0 : ∀ w ∈ wsX00, w ∈ lw_all := lw_in wsX00 [44, 46, 48, 50, 52, 54, 56, 58, 60, 62, 64] (by decide +kernel) (by decide +kernel)
theorem q24 : (Jvm.Cond.initialized "KnapsackFamilyModel") ∈ lw_all := lw_g (lw_at lw_m1 2 rfl) rfl
theorem q194 : (Jvm.Cond.instantiable "KnapsackFamilyModel" (9 : Nat)) ∈ lw_all := lw_g (lw_at lw_m1 172 rfl) rfl
theorem q196 : (Jvm.Cond.instanceMethod ({ cls := "KnapsackFamilyModel", name := "<init>", desc := "()V" } : Jvm.MethodName)) ∈ lw_all := lw_g (lw_at lw_m1 174 rfl) rfl
theorem q197 : (Jvm.Cond.code ({ cls := "KnapsackFamilyModel", name := "<init>", desc := "()V" } : Jvm.MethodName) prog_3_method_1_code (1 : Nat) (Option.none : Option Jvm.ClassFile.FieldType)) ∈ lw_all := lw_g (lw_at lw_m1 175 rfl) rfl
theorem q198 : (Jvm.Cond.methodLink "KnapsackFamilyModel" (1 : Nat) ({ cls := "java/lang/Object", name := "<init>", desc := "()V" } : Jvm.MethodName)) ∈ lw_all := lw_g (lw_at lw_m1 176 rfl) rfl
theorem q199 : (Jvm.Cond.fieldLink "KnapsackFamilyModel" (29 : Nat) "KnapsackFamilyModel" "count" "I") ∈ lw_all := lw_g (lw_at lw_m1 177 rfl) rfl
theorem q200 : (Jvm.Cond.fieldLink "KnapsackFamilyModel" (7 : Nat) "KnapsackFamilyModel" "weights" "[I") ∈ lw_all := lw_g (lw_at lw_m1 178 rfl) rfl
theorem q201 : (Jvm.Cond.fieldLink "KnapsackFamilyModel" (13 : Nat) "KnapsackFamilyModel" "values" "[I") ∈ lw_all := lw_g (lw_at lw_m1 179 rfl) rfl
theorem q202 : (Jvm.Cond.fieldLink "KnapsackFamilyModel" (16 : Nat) "KnapsackFamilyModel" "supply" "[I") ∈ lw_all := lw_g (lw_at lw_m1 180 rfl) rfl
theorem q203 : (Jvm.Cond.fieldLink "KnapsackFamilyModel" (19 : Nat) "KnapsackFamilyModel" "family" "[I") ∈ lw_all := lw_g (lw_at lw_m1 181 rfl) rfl
theorem q204 : (Jvm.Cond.fieldLink "KnapsackFamilyModel" (22 : Nat) "KnapsackFamilyModel" "bound" "I") ∈ lw_all := lw_g (lw_at lw_m1 182 rfl) rfl
theorem q205 : (Jvm.Cond.fieldLink "KnapsackFamilyModel" (26 : Nat) "KnapsackFamilyModel" "take" "[I") ∈ lw_all := lw_g (lw_at lw_m1 183 rfl) rfl
theorem q206 : (Jvm.Cond.fieldLink "KnapsackFamilyModel" (40 : Nat) "KnapsackFamilyModel" "heavy" "I") ∈ lw_all := lw_g (lw_at lw_m1 184 rfl) rfl
theorem q207 : (Jvm.Cond.fieldLink "KnapsackFamilyModel" (43 : Nat) "KnapsackFamilyModel" "worth" "I") ∈ lw_all := lw_g (lw_at lw_m1 185 rfl) rfl
theorem q208 : (Jvm.Cond.lays "KnapsackFamilyModel" "KnapsackFamilyModel" "count" "I") ∈ lw_all := lw_g (lw_at lw_m1 186 rfl) rfl
theorem q209 : (Jvm.Cond.soleField "KnapsackFamilyModel" "count") ∈ lw_all := lw_g (lw_at lw_m1 187 rfl) rfl
theorem q210 : (Jvm.Cond.lays "KnapsackFamilyModel" "KnapsackFamilyModel" "weights" "[I") ∈ lw_all := lw_g (lw_at lw_m1 188 rfl) rfl
theorem q211 : (Jvm.Cond.soleField "KnapsackFamilyModel" "weights") ∈ lw_all := lw_g (lw_at lw_m1 189 rfl) rfl
theorem q212 : (Jvm.Cond.lays "KnapsackFamilyModel" "KnapsackFamilyModel" "values" "[I") ∈ lw_all := lw_g (lw_at lw_m1 190 rfl) rfl
theorem q213 : (Jvm.Cond.soleField "KnapsackFamilyModel" "values") ∈ lw_all := lw_g (lw_at lw_m1 191 rfl) rfl
theorem q214 : (Jvm.Cond.lays "KnapsackFamilyModel" "KnapsackFamilyModel" "supply" "[I") ∈ lw_all := lw_g (lw_at lw_m1 192 rfl) rfl
theorem q215 : (Jvm.Cond.soleField "KnapsackFamilyModel" "supply") ∈ lw_all := lw_g (lw_at lw_m1 193 rfl) rfl
theorem q216 : (Jvm.Cond.lays "KnapsackFamilyModel" "KnapsackFamilyModel" "family" "[I") ∈ lw_all := lw_g (lw_at lw_m1 194 rfl) rfl
theorem q217 : (Jvm.Cond.soleField "KnapsackFamilyModel" "family") ∈ lw_all := lw_g (lw_at lw_m1 195 rfl) rfl
theorem q218 : (Jvm.Cond.lays "KnapsackFamilyModel" "KnapsackFamilyModel" "bound" "I") ∈ lw_all := lw_g (lw_at lw_m1 196 rfl) rfl
theorem q219 : (Jvm.Cond.soleField "KnapsackFamilyModel" "bound") ∈ lw_all := lw_g (lw_at lw_m1 197 rfl) rfl
theorem q220 : (Jvm.Cond.lays "KnapsackFamilyModel" "KnapsackFamilyModel" "take" "[I") ∈ lw_all := lw_g (lw_at lw_m1 198 rfl) rfl
theorem q221 : (Jvm.Cond.soleField "KnapsackFamilyModel" "take") ∈ lw_all := lw_g (lw_at lw_m1 199 rfl) rfl
theorem q222 : (Jvm.Cond.lays "KnapsackFamilyModel" "KnapsackFamilyModel" "heavy" "I") ∈ lw_all := lw_g (lw_at lw_m1 200 rfl) rfl
theorem q223 : (Jvm.Cond.soleField "KnapsackFamilyModel" "heavy") ∈ lw_all := lw_g (lw_at lw_m1 201 rfl) rfl
theorem q224 : (Jvm.Cond.lays "KnapsackFamilyModel" "KnapsackFamilyModel" "worth" "I") ∈ lw_all := lw_g (lw_at lw_m1 202 rfl) rfl
theorem q225 : (Jvm.Cond.soleField "KnapsackFamilyModel" "worth") ∈ lw_all := lw_g (lw_at lw_m1 203 rfl) rfl
theorem q226 : (Jvm.Cond.superclass "KnapsackFamilyModel" "java/lang/Object") ∈ lw_all := lw_g (lw_at lw_m1 204 rfl) rfl
theorem q228 : (Jvm.Cond.instanceMethod ({ cls := "KnapsackFamilyModel", name := "add", desc := "(III)I" } : Jvm.MethodName)) ∈ lw_all := lw_g (lw_at lw_m1 206 rfl) rfl
theorem q229 : (Jvm.Cond.selects "KnapsackFamilyModel" ({ cls := "KnapsackFamilyModel", name := "add", desc := "(III)I" } : Jvm.MethodName) ({ cls := "KnapsackFamilyModel", name := "add", desc := "(III)I" } : Jvm.MethodName)) ∈ lw_all := lw_g (lw_at lw_m1 207 rfl) rfl
theorem q230 : (Jvm.Cond.code ({ cls := "KnapsackFamilyModel", name := "add", desc := "(III)I" } : Jvm.MethodName) prog_3_method_3_code (4 : Nat) (Option.some Jvm.ClassFile.FieldType.int)) ∈ lw_all := lw_g (lw_at lw_m1 208 rfl) rfl
theorem q231 : (Jvm.Cond.methodLink "KnapsackFamilyModel" (32 : Nat) ({ cls := "KnapsackFamilyModel", name := "put", desc := "(IIII)I" } : Jvm.MethodName)) ∈ lw_all := lw_g (lw_at lw_m1 209 rfl) rfl
theorem q232 : (Jvm.Cond.privateMethod ({ cls := "KnapsackFamilyModel", name := "put", desc := "(IIII)I" } : Jvm.MethodName)) ∈ lw_tbl := lw_at lw_m1 210 rfl
theorem q233 : (Jvm.Cond.instanceMethod ({ cls := "KnapsackFamilyModel", name := "put", desc := "(IIII)I" } : Jvm.MethodName)) ∈ lw_all := lw_g (lw_at lw_m1 211 rfl) rfl
theorem q234 : (Jvm.Cond.code ({ cls := "KnapsackFamilyModel", name := "put", desc := "(IIII)I" } : Jvm.MethodName) prog_3_method_2_code (6 : Nat) (Option.some Jvm.ClassFile.FieldType.int)) ∈ lw_all := lw_g (lw_at lw_m1 212 rfl) rfl
theorem q236 : (Jvm.Cond.instanceMethod ({ cls := "KnapsackFamilyModel", name := "sow", desc := "(II)I" } : Jvm.MethodName)) ∈ lw_all := lw_g (lw_at lw_m1 214 rfl) rfl
theorem q237 : (Jvm.Cond.selects "KnapsackFamilyModel" ({ cls := "KnapsackFamilyModel", name := "sow", desc := "(II)I" } : Jvm.MethodName) ({ cls := "KnapsackFamilyModel", name := "sow", desc := "(II)I" } : Jvm.MethodName)) ∈ lw_all := lw_g (lw_at lw_m1 215 rfl) rfl
theorem q238 : (Jvm.Cond.code ({ cls := "KnapsackFamilyModel", name := "sow", desc := "(II)I" } : Jvm.MethodName) prog_3_method_4_code (4 : Nat) (Option.some Jvm.ClassFile.FieldType.int)) ∈ lw_all := lw_g (lw_at lw_m1 216 rfl) rfl
theorem q240 : (Jvm.Cond.instanceMethod ({ cls := "KnapsackFamilyModel", name := "drop", desc := "(I)I" } : Jvm.MethodName)) ∈ lw_all := lw_g (lw_at lw_m1 218 rfl) rfl
theorem q241 : (Jvm.Cond.selects "KnapsackFamilyModel" ({ cls := "KnapsackFamilyModel", name := "drop", desc := "(I)I" } : Jvm.MethodName) ({ cls := "KnapsackFamilyModel", name := "drop", desc := "(I)I" } : Jvm.MethodName)) ∈ lw_all := lw_g (lw_at lw_m1 219 rfl) rfl
theorem q242 : (Jvm.Cond.code ({ cls := "KnapsackFamilyModel", name := "drop", desc := "(I)I" } : Jvm.MethodName) prog_3_method_6_code (3 : Nat) (Option.some Jvm.ClassFile.FieldType.int)) ∈ lw_all := lw_g (lw_at lw_m1 220 rfl) rfl
theorem q243 : (Jvm.Cond.methodLink "KnapsackFamilyModel" (36 : Nat) ({ cls := "KnapsackFamilyModel", name := "bad", desc := "(I)Z" } : Jvm.MethodName)) ∈ lw_all := lw_g (lw_at lw_m1 221 rfl) rfl
theorem q244 : (Jvm.Cond.privateMethod ({ cls := "KnapsackFamilyModel", name := "bad", desc := "(I)Z" } : Jvm.MethodName)) ∈ lw_tbl := lw_at lw_m1 222 rfl
theorem q245 : (Jvm.Cond.instanceMethod ({ cls := "KnapsackFamilyModel", name := "bad", desc := "(I)Z" } : Jvm.MethodName)) ∈ lw_all := lw_g (lw_at lw_m1 223 rfl) rfl
theorem q246 : (Jvm.Cond.code ({ cls := "KnapsackFamilyModel", name := "bad", desc := "(I)Z" } : Jvm.MethodName) prog_3_method_5_code (2 : Nat) (Option.some Jvm.ClassFile.FieldType.boolean)) ∈ lw_all := lw_g (lw_at lw_m1 224 rfl) rfl
theorem q248 : (Jvm.Cond.instanceMethod ({ cls := "KnapsackFamilyModel", name := "limit", desc := "(I)I" } : Jvm.MethodName)) ∈ lw_all := lw_g (lw_at lw_m1 226 rfl) rfl
theorem q249 : (Jvm.Cond.selects "KnapsackFamilyModel" ({ cls := "KnapsackFamilyModel", name := "limit", desc := "(I)I" } : Jvm.MethodName) ({ cls := "KnapsackFamilyModel", name := "limit", desc := "(I)I" } : Jvm.MethodName)) ∈ lw_all := lw_g (lw_at lw_m1 227 rfl) rfl
theorem q250 : (Jvm.Cond.code ({ cls := "KnapsackFamilyModel", name := "limit", desc := "(I)I" } : Jvm.MethodName) prog_3_method_7_code (3 : Nat) (Option.some Jvm.ClassFile.FieldType.int)) ∈ lw_all := lw_g (lw_at lw_m1 228 rfl) rfl
theorem q252 : (Jvm.Cond.instanceMethod ({ cls := "KnapsackFamilyModel", name := "goods", desc := "()I" } : Jvm.MethodName)) ∈ lw_all := lw_g (lw_at lw_m1 230 rfl) rfl
theorem q253 : (Jvm.Cond.selects "KnapsackFamilyModel" ({ cls := "KnapsackFamilyModel", name := "goods", desc := "()I" } : Jvm.MethodName) ({ cls := "KnapsackFamilyModel", name := "goods", desc := "()I" } : Jvm.MethodName)) ∈ lw_all := lw_g (lw_at lw_m1 231 rfl) rfl
theorem q254 : (Jvm.Cond.code ({ cls := "KnapsackFamilyModel", name := "goods", desc := "()I" } : Jvm.MethodName) prog_3_method_8_code (1 : Nat) (Option.some Jvm.ClassFile.FieldType.int)) ∈ lw_all := lw_g (lw_at lw_m1 232 rfl) rfl
theorem q256 : (Jvm.Cond.instanceMethod ({ cls := "KnapsackFamilyModel", name := "weightOf", desc := "(I)I" } : Jvm.MethodName)) ∈ lw_all := lw_g (lw_at lw_m1 234 rfl) rfl
theorem q257 : (Jvm.Cond.selects "KnapsackFamilyModel" ({ cls := "KnapsackFamilyModel", name := "weightOf", desc := "(I)I" } : Jvm.MethodName) ({ cls := "KnapsackFamilyModel", name := "weightOf", desc := "(I)I" } : Jvm.MethodName)) ∈ lw_all := lw_g (lw_at lw_m1 235 rfl) rfl
theorem q258 : (Jvm.Cond.code ({ cls := "KnapsackFamilyModel", name := "weightOf", desc := "(I)I" } : Jvm.MethodName) prog_3_method_11_code (2 : Nat) (Option.some Jvm.ClassFile.FieldType.int)) ∈ lw_all := lw_g (lw_at lw_m1 236 rfl) rfl
theorem q259 : (Jvm.Cond.methodLink "KnapsackFamilyModel" (46 : Nat) ({ cls := "KnapsackFamilyModel", name := "choice", desc := "(I)Z" } : Jvm.MethodName)) ∈ lw_all := lw_g (lw_at lw_m1 237 rfl) rfl
theorem q260 : (Jvm.Cond.privateMethod ({ cls := "KnapsackFamilyModel", name := "choice", desc := "(I)Z" } : Jvm.MethodName)) ∈ lw_tbl := lw_at lw_m1 238 rfl
theorem q261 : (Jvm.Cond.instanceMethod ({ cls := "KnapsackFamilyModel", name := "choice", desc := "(I)Z" } : Jvm.MethodName)) ∈ lw_all := lw_g (lw_at lw_m1 239 rfl) rfl
theorem q262 : (Jvm.Cond.code ({ cls := "KnapsackFamilyModel", name := "choice", desc := "(I)Z" } : Jvm.MethodName) prog_3_method_9_code (5 : Nat) (Option.some Jvm.ClassFile.FieldType.boolean)) ∈ lw_all := lw_g (lw_at lw_m2 0 rfl) rfl
theorem q264 : (Jvm.Cond.instanceMethod ({ cls := "KnapsackFamilyModel", name := "valueOf", desc := "(I)I" } : Jvm.MethodName)) ∈ lw_all := lw_g (lw_at lw_m2 2 rfl) rfl
theorem q265 : (Jvm.Cond.selects "KnapsackFamilyModel" ({ cls := "KnapsackFamilyModel", name := "valueOf", desc := "(I)I" } : Jvm.MethodName) ({ cls := "KnapsackFamilyModel", name := "valueOf", desc := "(I)I" } : Jvm.MethodName)) ∈ lw_all := lw_g (lw_at lw_m2 3 rfl) rfl
theorem q266 : (Jvm.Cond.code ({ cls := "KnapsackFamilyModel", name := "valueOf", desc := "(I)I" } : Jvm.MethodName) prog_3_method_12_code (2 : Nat) (Option.some Jvm.ClassFile.FieldType.int)) ∈ lw_all := lw_g (lw_at lw_m2 4 rfl) rfl
theorem q268 : (Jvm.Cond.instanceMethod ({ cls := "KnapsackFamilyModel", name := "best", desc := "()I" } : Jvm.MethodName)) ∈ lw_all := lw_g (lw_at lw_m2 6 rfl) rfl
theorem q269 : (Jvm.Cond.selects "KnapsackFamilyModel" ({ cls := "KnapsackFamilyModel", name := "best", desc := "()I" } : Jvm.MethodName) ({ cls := "KnapsackFamilyModel", name := "best", desc := "()I" } : Jvm.MethodName)) ∈ lw_all := lw_g (lw_at lw_m2 7 rfl) rfl
theorem q270 : (Jvm.Cond.code ({ cls := "KnapsackFamilyModel", name := "best", desc := "()I" } : Jvm.MethodName) prog_3_method_16_code (2 : Nat) (Option.some Jvm.ClassFile.FieldType.int)) ∈ lw_all := lw_g (lw_at lw_m2 8 rfl) rfl
theorem q271 : (Jvm.Cond.methodLink "KnapsackFamilyModel" (57 : Nat) ({ cls := "KnapsackFamilyModel", name := "search", desc := "(ZI)I" } : Jvm.MethodName)) ∈ lw_all := lw_g (lw_at lw_m2 9 rfl) rfl
theorem q272 : (Jvm.Cond.privateMethod ({ cls := "KnapsackFamilyModel", name := "search", desc := "(ZI)I" } : Jvm.MethodName)) ∈ lw_tbl := lw_at lw_m2 10 rfl
theorem q273 : (Jvm.Cond.instanceMethod ({ cls := "KnapsackFamilyModel", name := "search", desc := "(ZI)I" } : Jvm.MethodName)) ∈ lw_all := lw_g (lw_at lw_m2 11 rfl) rfl
theorem q274 : (Jvm.Cond.code ({ cls := "KnapsackFamilyModel", name := "search", desc := "(ZI)I" } : Jvm.MethodName) prog_3_method_14_code (9 : Nat) (Option.some Jvm.ClassFile.FieldType.int)) ∈ lw_all := lw_g (lw_at lw_m2 12 rfl) rfl
theorem q275 : (Jvm.Cond.methodLink "KnapsackFamilyModel" (49 : Nat) ({ cls := "KnapsackFamilyModel", name := "end", desc := "()I" } : Jvm.MethodName)) ∈ lw_all := lw_g (lw_at lw_m2 13 rfl) rfl
theorem q276 : (Jvm.Cond.privateMethod ({ cls := "KnapsackFamilyModel", name := "end", desc := "()I" } : Jvm.MethodName)) ∈ lw_tbl := lw_at lw_m2 14 rfl
theorem q277 : (Jvm.Cond.instanceMethod ({ cls := "KnapsackFamilyModel", name := "end", desc := "()I" } : Jvm.MethodName)) ∈ lw_all := lw_g (lw_at lw_m2 15 rfl) rfl
theorem q278 : (Jvm.Cond.code ({ cls := "KnapsackFamilyModel", name := "end", desc := "()I" } : Jvm.MethodName) prog_3_method_10_code (3 : Nat) (Option.some Jvm.ClassFile.FieldType.int)) ∈ lw_all := lw_g (lw_at lw_m2 16 rfl) rfl
theorem q279 : (Jvm.Cond.methodLink "KnapsackFamilyModel" (53 : Nat) ({ cls := "KnapsackFamilyModel", name := "strict", desc := "()Z" } : Jvm.MethodName)) ∈ lw_all := lw_g (lw_at lw_m2 17 rfl) rfl
theorem q280 : (Jvm.Cond.privateMethod ({ cls := "KnapsackFamilyModel", name := "strict", desc := "()Z" } : Jvm.MethodName)) ∈ lw_tbl := lw_at lw_m2 18 rfl
theorem q281 : (Jvm.Cond.instanceMethod ({ cls := "KnapsackFamilyModel", name := "strict", desc := "()Z" } : Jvm.MethodName)) ∈ lw_all := lw_g (lw_at lw_m2 19 rfl) rfl
theorem q282 : (Jvm.Cond.code ({ cls := "KnapsackFamilyModel", name := "strict", desc := "()Z" } : Jvm.MethodName) prog_3_method_13_code (3 : Nat) (Option.some Jvm.ClassFile.FieldType.boolean)) ∈ lw_all := lw_g (lw_at lw_m2 20 rfl) rfl
theorem q283 : (Jvm.Cond.methodLink "KnapsackFamilyModel" (61 : Nat) ({ cls := "KnapsackFamilyModel", name := "valueAt", desc := "(I)I" } : Jvm.MethodName)) ∈ lw_all := lw_g (lw_at lw_m2 21 rfl) rfl
theorem q284 : (Jvm.Cond.privateMethod ({ cls := "KnapsackFamilyModel", name := "valueAt", desc := "(I)I" } : Jvm.MethodName)) ∈ lw_tbl := lw_at lw_m2 22 rfl
theorem q285 : (Jvm.Cond.instanceMethod ({ cls := "KnapsackFamilyModel", name := "valueAt", desc := "(I)I" } : Jvm.MethodName)) ∈ lw_all := lw_g (lw_at lw_m2 23 rfl) rfl
theorem q286 : (Jvm.Cond.code ({ cls := "KnapsackFamilyModel", name := "valueAt", desc := "(I)I" } : Jvm.MethodName) prog_3_method_15_code (2 : Nat) (Option.some Jvm.ClassFile.FieldType.int)) ∈ lw_all := lw_g (lw_at lw_m2 24 rfl) rfl
theorem q288 : (Jvm.Cond.instanceMethod ({ cls := "KnapsackFamilyModel", name := "bestCode", desc := "()I" } : Jvm.MethodName)) ∈ lw_all := lw_g (lw_at lw_m2 26 rfl) rfl
theorem q289 : (Jvm.Cond.selects "KnapsackFamilyModel" ({ cls := "KnapsackFamilyModel", name := "bestCode", desc := "()I" } : Jvm.MethodName) ({ cls := "KnapsackFamilyModel", name := "bestCode", desc := "()I" } : Jvm.MethodName)) ∈ lw_all := lw_g (lw_at lw_m2 27 rfl) rfl
theorem q290 : (Jvm.Cond.code ({ cls := "KnapsackFamilyModel", name := "bestCode", desc := "()I" } : Jvm.MethodName) prog_3_method_17_code (1 : Nat) (Option.some Jvm.ClassFile.FieldType.int)) ∈ lw_all := lw_g (lw_at lw_m2 28 rfl) rfl
theorem q292 : (Jvm.Cond.instanceMethod ({ cls := "KnapsackFamilyModel", name := "bestStrict", desc := "()I" } : Jvm.MethodName)) ∈ lw_all := lw_g (lw_at lw_m2 30 rfl) rfl
theorem q293 : (Jvm.Cond.selects "KnapsackFamilyModel" ({ cls := "KnapsackFamilyModel", name := "bestStrict", desc := "()I" } : Jvm.MethodName) ({ cls := "KnapsackFamilyModel", name := "bestStrict", desc := "()I" } : Jvm.MethodName)) ∈ lw_all := lw_g (lw_at lw_m2 31 rfl) rfl
theorem q294 : (Jvm.Cond.code ({ cls := "KnapsackFamilyModel", name := "bestStrict", desc := "()I" } : Jvm.MethodName) prog_3_method_18_code (2 : Nat) (Option.some Jvm.ClassFile.FieldType.int)) ∈ lw_all := lw_g (lw_at lw_m2 32 rfl) rfl
theorem q296 : (Jvm.Cond.instanceMethod ({ cls := "KnapsackFamilyModel", name := "bestStrictCode", desc := "()I" } : Jvm.MethodName)) ∈ lw_all := lw_g (lw_at lw_m2 34 rfl) rfl
theorem q297 : (Jvm.Cond.selects "KnapsackFamilyModel" ({ cls := "KnapsackFamilyModel", name := "bestStrictCode", desc := "()I" } : Jvm.MethodName) ({ cls := "KnapsackFamilyModel", name := "bestStrictCode", desc := "()I" } : Jvm.MethodName)) ∈ lw_all := lw_g (lw_at lw_m2 35 rfl) rfl
theorem q298 : (Jvm.Cond.code ({ cls := "KnapsackFamilyModel", name := "bestStrictCode", desc := "()I" } : Jvm.MethodName) prog_3_method_19_code (1 : Nat) (Option.some Jvm.ClassFile.FieldType.int)) ∈ lw_all := lw_g (lw_at lw_m2 36 rfl) rfl
theorem q300 : (Jvm.Cond.instanceMethod ({ cls := "KnapsackFamilyModel", name := "fitting", desc := "()I" } : Jvm.MethodName)) ∈ lw_all := lw_g (lw_at lw_m2 38 rfl) rfl
theorem q301 : (Jvm.Cond.selects "KnapsackFamilyModel" ({ cls := "KnapsackFamilyModel", name := "fitting", desc := "()I" } : Jvm.MethodName) ({ cls := "KnapsackFamilyModel", name := "fitting", desc := "()I" } : Jvm.MethodName)) ∈ lw_all := lw_g (lw_at lw_m2 39 rfl) rfl
theorem q302 : (Jvm.Cond.code ({ cls := "KnapsackFamilyModel", name := "fitting", desc := "()I" } : Jvm.MethodName) prog_3_method_20_code (4 : Nat) (Option.some Jvm.ClassFile.FieldType.int)) ∈ lw_all := lw_g (lw_at lw_m2 40 rfl) rfl
theorem q304 : (Jvm.Cond.instanceMethod ({ cls := "KnapsackFamilyModel", name := "weighing", desc := "(I)I" } : Jvm.MethodName)) ∈ lw_all := lw_g (lw_at lw_m2 42 rfl) rfl
theorem q305 : (Jvm.Cond.selects "KnapsackFamilyModel" ({ cls := "KnapsackFamilyModel", name := "weighing", desc := "(I)I" } : Jvm.MethodName) ({ cls := "KnapsackFamilyModel", name := "weighing", desc := "(I)I" } : Jvm.MethodName)) ∈ lw_all := lw_g (lw_at lw_m2 43 rfl) rfl
theorem q306 : (Jvm.Cond.code ({ cls := "KnapsackFamilyModel", name := "weighing", desc := "(I)I" } : Jvm.MethodName) prog_3_method_22_code (2 : Nat) (Option.some Jvm.ClassFile.FieldType.int)) ∈ lw_all := lw_g (lw_at lw_m2 44 rfl) rfl
theorem q307 : (Jvm.Cond.methodLink "KnapsackFamilyModel" (65 : Nat) ({ cls := "KnapsackFamilyModel", name := "having", desc := "(I)I" } : Jvm.MethodName)) ∈ lw_all := lw_g (lw_at lw_m2 45 rfl) rfl
theorem q308 : (Jvm.Cond.privateMethod ({ cls := "KnapsackFamilyModel", name := "having", desc := "(I)I" } : Jvm.MethodName)) ∈ lw_tbl := lw_at lw_m2 46 rfl
theorem q309 : (Jvm.Cond.instanceMethod ({ cls := "KnapsackFamilyModel", name := "having", desc := "(I)I" } : Jvm.MethodName)) ∈ lw_all := lw_g (lw_at lw_m2 47 rfl) rfl
theorem q310 : (Jvm.Cond.code ({ cls := "KnapsackFamilyModel", name := "having", desc := "(I)I" } : Jvm.MethodName) prog_3_method_21_code (5 : Nat) (Option.some Jvm.ClassFile.FieldType.int)) ∈ lw_all := lw_g (lw_at lw_m2 48 rfl) rfl
theorem q312 : (Jvm.Cond.instanceMethod ({ cls := "KnapsackFamilyModel", name := "fullest", desc := "()I" } : Jvm.MethodName)) ∈ lw_all := lw_g (lw_at lw_m2 50 rfl) rfl
theorem q313 : (Jvm.Cond.selects "KnapsackFamilyModel" ({ cls := "KnapsackFamilyModel", name := "fullest", desc := "()I" } : Jvm.MethodName) ({ cls := "KnapsackFamilyModel", name := "fullest", desc := "()I" } : Jvm.MethodName)) ∈ lw_all := lw_g (lw_at lw_m2 51 rfl) rfl
theorem q314 : (Jvm.Cond.code ({ cls := "KnapsackFamilyModel", name := "fullest", desc := "()I" } : Jvm.MethodName) prog_3_method_23_code (4 : Nat) (Option.some Jvm.ClassFile.FieldType.int)) ∈ lw_all := lw_g (lw_at lw_m2 52 rfl) rfl
theorem q316 : (Jvm.Cond.instanceMethod ({ cls := "KnapsackFamilyModel", name := "lightest", desc := "(I)I" } : Jvm.MethodName)) ∈ lw_all := lw_g (lw_at lw_m2 54 rfl) rfl
theorem q317 : (Jvm.Cond.selects "KnapsackFamilyModel" ({ cls := "KnapsackFamilyModel", name := "lightest", desc := "(I)I" } : Jvm.MethodName) ({ cls := "KnapsackFamilyModel", name := "lightest", desc := "(I)I" } : Jvm.MethodName)) ∈ lw_all := lw_g (lw_at lw_m2 55 rfl) rfl
theorem q318 : (Jvm.Cond.code ({ cls := "KnapsackFamilyModel", name := "lightest", desc := "(I)I" } : Jvm.MethodName) prog_3_method_24_code (5 : Nat) (Option.some Jvm.ClassFile.FieldType.int)) ∈ lw_all := lw_g (lw_at lw_m2 56 rfl) rfl
theorem q320 : (Jvm.Cond.instanceMethod ({ cls := "KnapsackFamilyModel", name := "two", desc := "(I)I" } : Jvm.MethodName)) ∈ lw_all := lw_g (lw_at lw_m2 58 rfl) rfl
theorem q321 : (Jvm.Cond.selects "KnapsackFamilyModel" ({ cls := "KnapsackFamilyModel", name := "two", desc := "(I)I" } : Jvm.MethodName) ({ cls := "KnapsackFamilyModel", name := "two", desc := "(I)I" } : Jvm.MethodName)) ∈ lw_all := lw_g (lw_at lw_m2 59 rfl) rfl
theorem q322 : (Jvm.Cond.code ({ cls := "KnapsackFamilyModel", name := "two", desc := "(I)I" } : Jvm.MethodName) prog_3_method_26_code (6 : Nat) (Option.some Jvm.ClassFile.FieldType.int)) ∈ lw_all := lw_g (lw_at lw_m2 60 rfl) rfl
theorem q323 : (Jvm.Cond.methodLink "KnapsackFamilyModel" (68 : Nat) ({ cls := "KnapsackFamilyModel", name := "both", desc := "(II)I" } : Jvm.MethodName)) ∈ lw_all := lw_g (lw_at lw_m2 61 rfl) rfl
theorem q324 : (Jvm.Cond.privateMethod ({ cls := "KnapsackFamilyModel", name := "both", desc := "(II)I" } : Jvm.MethodName)) ∈ lw_tbl := lw_at lw_m2 62 rfl
theorem q325 : (Jvm.Cond.instanceMethod ({ cls := "KnapsackFamilyModel", name := "both", desc := "(II)I" } : Jvm.MethodName)) ∈ lw_all := lw_g (lw_at lw_m2 63 rfl) rfl
theorem q326 : (Jvm.Cond.code ({ cls := "KnapsackFamilyModel", name := "both", desc := "(II)I" } : Jvm.MethodName) prog_3_method_25_code (11 : Nat) (Option.some Jvm.ClassFile.FieldType.int)) ∈ lw_all := lw_g (lw_at lw_m2 64 rfl) rfl
theorem q328 : (Jvm.Cond.instanceMethod ({ cls := "KnapsackFamilyModel", name := "without", desc := "(I)I" } : Jvm.MethodName)) ∈ lw_all := lw_g (lw_at lw_m2 66 rfl) rfl
theorem q329 : (Jvm.Cond.selects "KnapsackFamilyModel" ({ cls := "KnapsackFamilyModel", name := "without", desc := "(I)I" } : Jvm.MethodName) ({ cls := "KnapsackFamilyModel", name := "without", desc := "(I)I" } : Jvm.MethodName)) ∈ lw_all := lw_g (lw_at lw_m2 67 rfl) rfl
theorem q330 : (Jvm.Cond.code ({ cls := "KnapsackFamilyModel", name := "without", desc := "(I)I" } : Jvm.MethodName) prog_3_method_27_code (3 : Nat) (Option.some Jvm.ClassFile.FieldType.int)) ∈ lw_all := lw_g (lw_at lw_m2 68 rfl) rfl
theorem q332 : (Jvm.Cond.instanceMethod ({ cls := "KnapsackFamilyModel", name := "halves", desc := "()I" } : Jvm.MethodName)) ∈ lw_all := lw_g (lw_at lw_m2 70 rfl) rfl
theorem q333 : (Jvm.Cond.selects "KnapsackFamilyModel" ({ cls := "KnapsackFamilyModel", name := "halves", desc := "()I" } : Jvm.MethodName) ({ cls := "KnapsackFamilyModel", name := "halves", desc := "()I" } : Jvm.MethodName)) ∈ lw_all := lw_g (lw_at lw_m2 71 rfl) rfl
theorem q334 : (Jvm.Cond.code ({ cls := "KnapsackFamilyModel", name := "halves", desc := "()I" } : Jvm.MethodName) prog_3_method_28_code (3 : Nat) (Option.some Jvm.ClassFile.FieldType.int)) ∈ lw_all := lw_g (lw_at lw_m2 72 rfl) rfl
theorem in_X1 : ∀ w ∈ wsX10, w ∈ lw_all := lw_in wsX10 [208, 210, 212, 214, 216, 218, 220, 222, 224] (by decide +kernel) (by decide +kernel)
def RJ0 : String := "java/lang/Object"
abbrev cJ0_init : ByteArray := object_method_1_code
def yJ0_init : MethodName := ⟨RJ0, "<init>", "()V"⟩
theorem dJ0_init_0 : decode cJ0_init 0 = .ok (.return_, 1) := by decide +kernel
theorem q31 : (Jvm.Cond.instanceMethod ({ cls := "java/lang/Object", name := "<init>", desc := "()V" } : Jvm.MethodName)) ∈ lw_all := lw_g (lw_at lw_m1 9 rfl) rfl
theorem q32 : (Jvm.Cond.code ({ cls := "java/lang/Object", name := "<init>", desc := "()V" } : Jvm.MethodName) object_method_1_code (1 : Nat) (Option.none : Option Jvm.ClassFile.FieldType)) ∈ lw_all := lw_g (lw_at lw_m1 10 rfl) rfl
theorem q67 : (Jvm.Cond.arrayClass Jvm.ClassFile.FieldType.int) ∈ lw_all := lw_g (lw_at lw_m1 45 rfl) rfl
theorem q22 : (Jvm.Cond.initialized "KnapsackFamilyLaw") ∈ lw_all := lw_g (lw_at lw_m1 0 rfl) rfl
theorem q25 : (Jvm.Cond.classLink "KnapsackFamilyLaw" (7 : Nat) "KnapsackFamily") ∈ lw_all := lw_g (lw_at lw_m1 3 rfl) rfl
theorem q27 : (Jvm.Cond.methodLink "KnapsackFamilyLaw" (9 : Nat) ({ cls := "KnapsackFamily", name := "<init>", desc := "()V" } : Jvm.MethodName)) ∈ lw_all := lw_g (lw_at lw_m1 5 rfl) rfl
theorem q68 : (Jvm.Cond.methodLink "KnapsackFamilyLaw" (13 : Nat) ({ cls := "KnapsackFamily", name := "add", desc := "(III)I" } : Jvm.MethodName)) ∈ lw_all := lw_g (lw_at lw_m1 46 rfl) rfl
theorem q76 : (Jvm.Cond.methodLink "KnapsackFamilyLaw" (18 : Nat) ({ cls := "KnapsackFamily", name := "sow", desc := "(II)I" } : Jvm.MethodName)) ∈ lw_all := lw_g (lw_at lw_m1 54 rfl) rfl
theorem q80 : (Jvm.Cond.methodLink "KnapsackFamilyLaw" (23 : Nat) ({ cls := "KnapsackFamily", name := "drop", desc := "(I)I" } : Jvm.MethodName)) ∈ lw_all := lw_g (lw_at lw_m1 58 rfl) rfl
theorem q88 : (Jvm.Cond.methodLink "KnapsackFamilyLaw" (28 : Nat) ({ cls := "KnapsackFamily", name := "limit", desc := "(I)I" } : Jvm.MethodName)) ∈ lw_all := lw_g (lw_at lw_m1 66 rfl) rfl
theorem q92 : (Jvm.Cond.methodLink "KnapsackFamilyLaw" (32 : Nat) ({ cls := "KnapsackFamily", name := "goods", desc := "()I" } : Jvm.MethodName)) ∈ lw_all := lw_g (lw_at lw_m1 70 rfl) rfl
theorem q96 : (Jvm.Cond.methodLink "KnapsackFamilyLaw" (37 : Nat) ({ cls := "KnapsackFamily", name := "weightOf", desc := "(I)I" } : Jvm.MethodName)) ∈ lw_all := lw_g (lw_at lw_m1 74 rfl) rfl
theorem q104 : (Jvm.Cond.methodLink "KnapsackFamilyLaw" (41 : Nat) ({ cls := "KnapsackFamily", name := "valueOf", desc := "(I)I" } : Jvm.MethodName)) ∈ lw_all := lw_g (lw_at lw_m1 82 rfl) rfl
theorem q108 : (Jvm.Cond.methodLink "KnapsackFamilyLaw" (45 : Nat) ({ cls := "KnapsackFamily", name := "best", desc := "()I" } : Jvm.MethodName)) ∈ lw_all := lw_g (lw_at lw_m1 86 rfl) rfl
theorem q125 : (Jvm.Cond.methodLink "KnapsackFamilyLaw" (49 : Nat) ({ cls := "KnapsackFamily", name := "bestCode", desc := "()I" } : Jvm.MethodName)) ∈ lw_all := lw_g (lw_at lw_m1 103 rfl) rfl
theorem q133 : (Jvm.Cond.methodLink "KnapsackFamilyLaw" (53 : Nat) ({ cls := "KnapsackFamily", name := "bestStrict", desc := "()I" } : Jvm.MethodName)) ∈ lw_all := lw_g (lw_at lw_m1 111 rfl) rfl
theorem q157 : (Jvm.Cond.methodLink "KnapsackFamilyLaw" (57 : Nat) ({ cls := "KnapsackFamily", name := "bestStrictCode", desc := "()I" } : Jvm.MethodName)) ∈ lw_all := lw_g (lw_at lw_m1 135 rfl) rfl
theorem q161 : (Jvm.Cond.methodLink "KnapsackFamilyLaw" (61 : Nat) ({ cls := "KnapsackFamily", name := "fitting", desc := "()I" } : Jvm.MethodName)) ∈ lw_all := lw_g (lw_at lw_m1 139 rfl) rfl
theorem q165 : (Jvm.Cond.methodLink "KnapsackFamilyLaw" (65 : Nat) ({ cls := "KnapsackFamily", name := "weighing", desc := "(I)I" } : Jvm.MethodName)) ∈ lw_all := lw_g (lw_at lw_m1 143 rfl) rfl
theorem q169 : (Jvm.Cond.methodLink "KnapsackFamilyLaw" (69 : Nat) ({ cls := "KnapsackFamily", name := "fullest", desc := "()I" } : Jvm.MethodName)) ∈ lw_all := lw_g (lw_at lw_m1 147 rfl) rfl
theorem q173 : (Jvm.Cond.methodLink "KnapsackFamilyLaw" (73 : Nat) ({ cls := "KnapsackFamily", name := "lightest", desc := "(I)I" } : Jvm.MethodName)) ∈ lw_all := lw_g (lw_at lw_m1 151 rfl) rfl
theorem q177 : (Jvm.Cond.methodLink "KnapsackFamilyLaw" (77 : Nat) ({ cls := "KnapsackFamily", name := "two", desc := "(I)I" } : Jvm.MethodName)) ∈ lw_all := lw_g (lw_at lw_m1 155 rfl) rfl
theorem q185 : (Jvm.Cond.methodLink "KnapsackFamilyLaw" (81 : Nat) ({ cls := "KnapsackFamily", name := "without", desc := "(I)I" } : Jvm.MethodName)) ∈ lw_all := lw_g (lw_at lw_m1 163 rfl) rfl
theorem q189 : (Jvm.Cond.methodLink "KnapsackFamilyLaw" (85 : Nat) ({ cls := "KnapsackFamily", name := "halves", desc := "()I" } : Jvm.MethodName)) ∈ lw_all := lw_g (lw_at lw_m1 167 rfl) rfl
theorem q193 : (Jvm.Cond.classLink "KnapsackFamilyLaw" (10 : Nat) "KnapsackFamilyModel") ∈ lw_all := lw_g (lw_at lw_m1 171 rfl) rfl
theorem q195 : (Jvm.Cond.methodLink "KnapsackFamilyLaw" (12 : Nat) ({ cls := "KnapsackFamilyModel", name := "<init>", desc := "()V" } : Jvm.MethodName)) ∈ lw_all := lw_g (lw_at lw_m1 173 rfl) rfl
theorem q227 : (Jvm.Cond.methodLink "KnapsackFamilyLaw" (17 : Nat) ({ cls := "KnapsackFamilyModel", name := "add", desc := "(III)I" } : Jvm.MethodName)) ∈ lw_all := lw_g (lw_at lw_m1 205 rfl) rfl
theorem q235 : (Jvm.Cond.methodLink "KnapsackFamilyLaw" (22 : Nat) ({ cls := "KnapsackFamilyModel", name := "sow", desc := "(II)I" } : Jvm.MethodName)) ∈ lw_all := lw_g (lw_at lw_m1 213 rfl) rfl
theorem q239 : (Jvm.Cond.methodLink "KnapsackFamilyLaw" (27 : Nat) ({ cls := "KnapsackFamilyModel", name := "drop", desc := "(I)I" } : Jvm.MethodName)) ∈ lw_all := lw_g (lw_at lw_m1 217 rfl) rfl
theorem q247 : (Jvm.Cond.methodLink "KnapsackFamilyLaw" (31 : Nat) ({ cls := "KnapsackFamilyModel", name := "limit", desc := "(I)I" } : Jvm.MethodName)) ∈ lw_all := lw_g (lw_at lw_m1 225 rfl) rfl
theorem q251 : (Jvm.Cond.methodLink "KnapsackFamilyLaw" (36 : Nat) ({ cls := "KnapsackFamilyModel", name := "goods", desc := "()I" } : Jvm.MethodName)) ∈ lw_all := lw_g (lw_at lw_m1 229 rfl) rfl
theorem q255 : (Jvm.Cond.methodLink "KnapsackFamilyLaw" (40 : Nat) ({ cls := "KnapsackFamilyModel", name := "weightOf", desc := "(I)I" } : Jvm.MethodName)) ∈ lw_all := lw_g (lw_at lw_m1 233 rfl) rfl
theorem q263 : (Jvm.Cond.methodLink "KnapsackFamilyLaw" (44 : Nat) ({ cls := "KnapsackFamilyModel", name := "valueOf", desc := "(I)I" } : Jvm.MethodName)) ∈ lw_all := lw_g (lw_at lw_m2 1 rfl) rfl
theorem q267 : (Jvm.Cond.methodLink "KnapsackFamilyLaw" (48 : Nat) ({ cls := "KnapsackFamilyModel", name := "best", desc := "()I" } : Jvm.MethodName)) ∈ lw_all := lw_g (lw_at lw_m2 5 rfl) rfl
theorem q287 : (Jvm.Cond.methodLink "KnapsackFamilyLaw" (52 : Nat) ({ cls := "KnapsackFamilyModel", name := "bestCode", desc := "()I" } : Jvm.MethodName)) ∈ lw_all := lw_g (lw_at lw_m2 25 rfl) rfl
theorem q291 : (Jvm.Cond.methodLink "KnapsackFamilyLaw" (56 : Nat) ({ cls := "KnapsackFamilyModel", name := "bestStrict", desc := "()I" } : Jvm.MethodName)) ∈ lw_all := lw_g (lw_at lw_m2 29 rfl) rfl
theorem q295 : (Jvm.Cond.methodLink "KnapsackFamilyLaw" (60 : Nat) ({ cls := "KnapsackFamilyModel", name := "bestStrictCode", desc := "()I" } : Jvm.MethodName)) ∈ lw_all := lw_g (lw_at lw_m2 33 rfl) rfl
theorem q299 : (Jvm.Cond.methodLink "KnapsackFamilyLaw" (64 : Nat) ({ cls := "KnapsackFamilyModel", name := "fitting", desc := "()I" } : Jvm.MethodName)) ∈ lw_all := lw_g (lw_at lw_m2 37 rfl) rfl
theorem q303 : (Jvm.Cond.methodLink "KnapsackFamilyLaw" (68 : Nat) ({ cls := "KnapsackFamilyModel", name := "weighing", desc := "(I)I" } : Jvm.MethodName)) ∈ lw_all := lw_g (lw_at lw_m2 41 rfl) rfl
theorem q311 : (Jvm.Cond.methodLink "KnapsackFamilyLaw" (72 : Nat) ({ cls := "KnapsackFamilyModel", name := "fullest", desc := "()I" } : Jvm.MethodName)) ∈ lw_all := lw_g (lw_at lw_m2 49 rfl) rfl
theorem q315 : (Jvm.Cond.methodLink "KnapsackFamilyLaw" (76 : Nat) ({ cls := "KnapsackFamilyModel", name := "lightest", desc := "(I)I" } : Jvm.MethodName)) ∈ lw_all := lw_g (lw_at lw_m2 53 rfl) rfl
theorem q319 : (Jvm.Cond.methodLink "KnapsackFamilyLaw" (80 : Nat) ({ cls := "KnapsackFamilyModel", name := "two", desc := "(I)I" } : Jvm.MethodName)) ∈ lw_all := lw_g (lw_at lw_m2 57 rfl) rfl
theorem q327 : (Jvm.Cond.methodLink "KnapsackFamilyLaw" (84 : Nat) ({ cls := "KnapsackFamilyModel", name := "without", desc := "(I)I" } : Jvm.MethodName)) ∈ lw_all := lw_g (lw_at lw_m2 65 rfl) rfl
theorem q331 : (Jvm.Cond.methodLink "KnapsackFamilyLaw" (88 : Nat) ({ cls := "KnapsackFamilyModel", name := "halves", desc := "()I" } : Jvm.MethodName)) ∈ lw_all := lw_g (lw_at lw_m2 69 rfl) rfl
end
section
/-! THE WALK'S FRAME: ints are iI z (z : Int), an object's state is one function σ (field, index), a method's context is one tuple; one row an instruction -/
set_option maxRecDepth 100000
abbrev vwCl : List vw_C := [(RX0, TX0, 11), (RX1, TX1, 9)]
abbrev gS : Type := Nat → Int → Int
def iI (z : Int) : Int32 := Int32.ofInt z
abbrev gR (z : Int) : Prop := -2147483648 ≤ z ∧ z ≤ 2147483647
def sU (σ : gS) (j : Nat) (z v : Int) : gS := fun j' z' => if j' = j ∧ z' = z then v else σ j' z'
theorem sU_eq (σ : gS) (j : Nat) (z v : Int) : sU σ j z v j z = v := by simp [sU]
theorem sU_ne {σ : gS} {j j' : Nat} {z v z' : Int} (h : z' ≠ z) : sU σ j z v j' z' = σ j' z' := by simp [sU, h]
theorem sU_nf {σ : gS} {j j' : Nat} {z v z' : Int} (h : j' ≠ j) : sU σ j z v j' z' = σ j' z' := by simp [sU, h]
theorem iI_toInt {z : Int} (h : gR z) : (iI z).toInt = z := Int32.toInt_ofInt_of_le (by omega) (by omega)
theorem iI_of (x : Int32) : iI x.toInt = x := Int32.ofInt_toInt x
theorem gR_of (x : Int32) : gR x.toInt := by
  have h1 := x.toInt_lt
  have h2 := x.le_toInt
  constructor <;> omega
theorem iI_lt {a b : Int} (ha : gR a) (hb : gR b) : iI a < iI b ↔ a < b := by rw [Int32.lt_iff_toInt_lt, iI_toInt ha, iI_toInt hb]
theorem iI_le {a b : Int} (ha : gR a) (hb : gR b) : iI a ≤ iI b ↔ a ≤ b := by rw [Int32.le_iff_toInt_le, iI_toInt ha, iI_toInt hb]
theorem iI_eq {a b : Int} (ha : gR a) (hb : gR b) : iI a = iI b ↔ a = b := by rw [← Int32.toInt_inj, iI_toInt ha, iI_toInt hb]
theorem iI_0 : iI 0 = 0 := by decide
theorem iI_add (a b : Int) : iI a + iI b = iI (a + b) := (Int32.ofInt_add a b).symm
theorem iI_sub (a b : Int) : iI a - iI b = iI (a - b) := (Int32.ofInt_sub a b).symm
theorem iI_mul (a b : Int) : iI a * iI b = iI (a * b) := (Int32.ofInt_mul a b).symm
theorem iI_n (n : Nat) : iI (n : Int) = nI n := Int32.ofInt_eq_ofNat
theorem iI_in {z : Int} {n : Nat} (h : 0 ≤ z ∧ z < n) (hn : n < 2147483648) : vp_in (iI z) n := vp_in_iff.mpr (by rw [iI_toInt ⟨by omega, by omega⟩]; exact h)
theorem iI_clamp {z : Int} (h0 : 0 ≤ z) (h1 : z ≤ 2147483647) : (iI z).toNatClampNeg = z.toNat := by
  obtain ⟨n, rfl⟩ := Int.eq_ofNat_of_zero_le h0
  rw [iI_n, nI_clamp (by omega)]
  rfl
theorem iI_div {a b : Int} (ha : 0 ≤ a ∧ a ≤ 2147483647) (hb : 0 < b ∧ b ≤ 2147483647) : iI a / iI b = iI (a / b) := by
  obtain ⟨n, rfl⟩ := Int.eq_ofNat_of_zero_le ha.1
  obtain ⟨m, rfl⟩ := Int.eq_ofNat_of_zero_le (Int.le_of_lt hb.1)
  rw [← Int.natCast_ediv, iI_n, iI_n, iI_n, pk_div (by omega) (by omega) (by omega)]
theorem iI_rem {a b : Int} (ha : 0 ≤ a ∧ a ≤ 2147483647) (hb : 0 < b ∧ b ≤ 2147483647) : iI a - iI a / iI b * iI b = iI (a % b) := by
  obtain ⟨n, rfl⟩ := Int.eq_ofNat_of_zero_le ha.1
  obtain ⟨m, rfl⟩ := Int.eq_ofNat_of_zero_le (Int.le_of_lt hb.1)
  rw [← Int.natCast_emod, iI_n, iI_n, iI_n, pk_rem (by omega) (by omega) (by omega)]
theorem iI_and {a : Int} (k : Nat) {m : Int} (hm : (iI m).toBitVec.toNat = 2 ^ k - 1) (ha : 0 ≤ a ∧ a ≤ 2147483647) : iI a &&& iI m = iI (a % ((2 ^ k : Nat) : Int)) := by
  obtain ⟨n, rfl⟩ := Int.eq_ofNat_of_zero_le ha.1
  rw [← Int.natCast_emod, iI_n, iI_n, pk_andN (by omega) k hm]
theorem iI_shr {a : Int} (k : Nat) {m : Int} (hm : ((iI m &&& 31).toBitVec.smod 32).toNat = k) (ha : 0 ≤ a ∧ a ≤ 2147483647) : iI a >>> (iI m &&& 31) = iI (a / ((2 ^ k : Nat) : Int)) := by
  obtain ⟨n, rfl⟩ := Int.eq_ofNat_of_zero_le ha.1
  rw [← Int.natCast_ediv, iI_n, iI_n, pk_shrN (by omega) _ k hm]
/-! ===== contexts ===== -/
/-- what a call keeps: the launch, the classes' numbers, the int arrays' class, the object's cell, its arrays' cells -/
abbrev gG : Type := Launch × va_G × ClassId × Nat × (Nat → Nat)
def g_l (G : gG) : Launch := G.1
def g_D (G : gG) : va_G := G.2.1
def g_d (G : gG) : ClassId := G.2.2.1
def g_h (G : gG) : Nat := G.2.2.2.1
def g_ad (G : gG) : Nat → Nat := G.2.2.2.2
/-- a method's own frame -/
abbrev gX : Type := Program × Env × Room × State × MethodId × Array Value × List Frame × Method × Code × (Nat → Prop) × (State → Prop)
def gAt (G : gG) (X : gX) (Wd : gS → va_W) (nL pc : Nat) (ls : List (Nat × Value)) (st : List Value) (σ : gS) : Prop :=
  match X with
  | (p, e, R, s, m, args, below, meth, c, A, Q) => ∀ (H : Heap) (locs : List Loc) (la : Array Slot), va_P (g_D G) vwCl (Wd σ) H → va_D A (Wd σ) → va_S A s.heap H locs → lv_has la nL ls → W p (g_l G) e R s m args below meth c H locs 0 0 Q (F0 m pc la st)
def gC (G : gG) (X : gX) (cc : ByteArray) (nL : Nat) (own : String) (k : Nat) : Prop :=
  match X with
  | (p, _, R, s, m, args, _, _, c, A, _) => p.tables.exec = Jvm.exec ∧ c.code = cc ∧ c.maxLocals = nL ∧ s.vm.findClass own = some m.cls ∧ (∀ w ∈ lw_all, w.before args s = true) ∧ va_K (g_D G) vwCl [(g_d G, .int)] s ∧ (∀ q, s.heap.size ≤ q → A q) ∧ R.frames = k ∧ R.locals = 30 * k
section GR
variable {G : gG} {X : gX} {Wd : gS → va_W} {nL pc k : Nat} {ls : List (Nat × Value)} {st : List Value} {σ : gS} {cc : ByteArray} {own : String}
theorem x_pick {ls' : List (Nat × Value)} (ks : List Nat) (hl : lv_pick ls ks = ls') (kk : gAt G X Wd nL pc ls' st σ) : gAt G X Wd nL pc ls st σ := by
  obtain ⟨p, e, R, s, m, args, below, meth, c, A, Q⟩ := X
  intro H locs la hP hD hS hl2
  exact kk H locs la hP hD hS (lv_sub hl2 ks hl)
theorem x_iconst (C : gC G X cc nL own k) {n : Int} (hd : decode cc pc = .ok (.iconst n, 1)) (kk : gAt G X Wd nL (pc + 1) ls (.int (iI n) :: st) σ) : gAt G X Wd nL pc ls st σ := by
  obtain ⟨p, e, R, s, m, args, below, meth, c, A, Q⟩ := X
  obtain ⟨hx, hb, -⟩ := C
  intro H locs la hP hD hS hl
  exact lv_iconst hx hb hd rfl (kk H locs la hP hD hS hl)
theorem x_bipush (C : gC G X cc nL own k) {n : Int} (hd : decode cc pc = .ok (.bipush n, 2)) (hv : (Int8.ofInt n).toInt32 = iI n) (kk : gAt G X Wd nL (pc + 2) ls (.int (iI n) :: st) σ) : gAt G X Wd nL pc ls st σ := by
  obtain ⟨p, e, R, s, m, args, below, meth, c, A, Q⟩ := X
  obtain ⟨hx, hb, -⟩ := C
  intro H locs la hP hD hS hl
  exact lv_bipush hx hb hd hv (kk H locs la hP hD hS hl)
theorem x_sipush (C : gC G X cc nL own k) {n : Int} (hd : decode cc pc = .ok (.sipush n, 3)) (hv : (Int16.ofInt n).toInt32 = iI n) (kk : gAt G X Wd nL (pc + 3) ls (.int (iI n) :: st) σ) : gAt G X Wd nL pc ls st σ := by
  obtain ⟨p, e, R, s, m, args, below, meth, c, A, Q⟩ := X
  obtain ⟨hx, hb, -⟩ := C
  intro H locs la hP hD hS hl
  exact lv_sipush hx hb hd hv (kk H locs la hP hD hS hl)
theorem x_ldc (C : gC G X cc nL own k) {index : Nat} {v : Int32} (n : Int) (hd : decode cc pc = .ok (.ldc index, 2)) (hw : Cond.constant own index v ∈ lw_all) (hv : v = iI n) (kk : gAt G X Wd nL (pc + 2) ls (.int (iI n) :: st) σ) : gAt G X Wd nL pc ls st σ := by
  obtain ⟨p, e, R, s, m, args, below, meth, c, A, Q⟩ := X
  obtain ⟨hx, hb, -, ho, hts, -⟩ := C
  subst hv
  intro H locs la hP hD hS hl
  exact lv_ldc hx hb ho (hts _ hw) hd (kk H locs la hP hD hS hl)
theorem x_iload_n (C : gC G X cc nL own k) {j : Fin 4} {i : Nat} {z : Int} (hd : decode cc pc = .ok (.iload_n j, 1)) (hi : (j : Nat) = i) (q : Nat) (hq : ls[q]? = some (i, .int (iI z))) (kk : gAt G X Wd nL (pc + 1) ls (.int (iI z) :: st) σ) : gAt G X Wd nL pc ls st σ := by
  obtain ⟨p, e, R, s, m, args, below, meth, c, A, Q⟩ := X
  obtain ⟨hx, hb, -⟩ := C
  intro H locs la hP hD hS hl
  exact lv_iload_n hx hb hd hi (lv_at hl q hq) (kk H locs la hP hD hS hl)
theorem x_iload (C : gC G X cc nL own k) {i : Nat} {z : Int} (hd : decode cc pc = .ok (.iload i, 2)) (q : Nat) (hq : ls[q]? = some (i, .int (iI z))) (kk : gAt G X Wd nL (pc + 2) ls (.int (iI z) :: st) σ) : gAt G X Wd nL pc ls st σ := by
  obtain ⟨p, e, R, s, m, args, below, meth, c, A, Q⟩ := X
  obtain ⟨hx, hb, -⟩ := C
  intro H locs la hP hD hS hl
  exact lv_iload hx hb hd (lv_at hl q hq) (kk H locs la hP hD hS hl)
theorem x_aload_n (C : gC G X cc nL own k) {j : Fin 4} {i a : Nat} (hd : decode cc pc = .ok (.aload_n j, 1)) (hi : (j : Nat) = i) (q : Nat) (hq : ls[q]? = some (i, .ref a)) (kk : gAt G X Wd nL (pc + 1) ls (.ref a :: st) σ) : gAt G X Wd nL pc ls st σ := by
  obtain ⟨p, e, R, s, m, args, below, meth, c, A, Q⟩ := X
  obtain ⟨hx, hb, -⟩ := C
  intro H locs la hP hD hS hl
  exact lv_aload_n hx hb hd hi (lv_at hl q hq) (kk H locs la hP hD hS hl)
theorem x_istore_n (C : gC G X cc nL own k) {j : Fin 4} {i : Nat} {z : Int} {ls' : List (Nat × Value)} (hd : decode cc pc = .ok (.istore_n j, 1)) (hi : (j : Nat) = i) (hn : i < nL) (hl : (i, Value.int (iI z)) :: ls.filter (fun q => !(q.1 == i) && !(q.1 + 1 == i && q.2.category == 2)) = ls') (kk : gAt G X Wd nL (pc + 1) ls' st σ) : gAt G X Wd nL pc ls (.int (iI z) :: st) σ := by
  obtain ⟨p, e, R, s, m, args, below, meth, c, A, Q⟩ := X
  obtain ⟨hx, hb, -⟩ := C
  intro H locs la hP hD hS hl2
  exact lv_istore_n hx hb hd hi hl2 hn hl (fun la' hl' => kk H locs la' hP hD hS hl')
theorem x_istore (C : gC G X cc nL own k) {i : Nat} {z : Int} {ls' : List (Nat × Value)} (hd : decode cc pc = .ok (.istore i, 2)) (hn : i < nL) (hl : (i, Value.int (iI z)) :: ls.filter (fun q => !(q.1 == i) && !(q.1 + 1 == i && q.2.category == 2)) = ls') (kk : gAt G X Wd nL (pc + 2) ls' st σ) : gAt G X Wd nL pc ls (.int (iI z) :: st) σ := by
  obtain ⟨p, e, R, s, m, args, below, meth, c, A, Q⟩ := X
  obtain ⟨hx, hb, -⟩ := C
  intro H locs la hP hD hS hl2
  exact lv_istore hx hb hd hl2 hn hl (fun la' hl' => kk H locs la' hP hD hS hl')
theorem x_iinc (C : gC G X cc nL own k) {i : Nat} {n z : Int} {ls' : List (Nat × Value)} (hd : decode cc pc = .ok (.iinc i n, 3)) (q : Nat) (hq : ls[q]? = some (i, .int (iI z))) (hn : i < nL) (hl : (i, Value.int (iI (z + n))) :: ls.filter (fun q => !(q.1 == i) && !(q.1 + 1 == i && q.2.category == 2)) = ls') (kk : gAt G X Wd nL (pc + 3) ls' st σ) : gAt G X Wd nL pc ls st σ := by
  obtain ⟨p, e, R, s, m, args, below, meth, c, A, Q⟩ := X
  obtain ⟨hx, hb, -⟩ := C
  intro H locs la hP hD hS hl2
  exact lv_iinc hx hb hd hl2 (k := q) hq (iI_add z n) hn hl (fun la' hl' => kk H locs la' hP hD hS hl')
theorem x_pop (C : gC G X cc nL own k) {v : Int} (hd : decode cc pc = .ok (.pop, 1)) (kk : gAt G X Wd nL (pc + 1) ls st σ) : gAt G X Wd nL pc ls (.int (iI v) :: st) σ := by
  obtain ⟨p, e, R, s, m, args, below, meth, c, A, Q⟩ := X
  obtain ⟨hx, hb, -⟩ := C
  intro H locs la hP hD hS hl
  exact lv_pop hx hb hd rfl (kk H locs la hP hD hS hl)
theorem x_dup (C : gC G X cc nL own k) {v : Value} (hd : decode cc pc = .ok (.dup, 1)) (hv : v.category = 1) (kk : gAt G X Wd nL (pc + 1) ls (v :: v :: st) σ) : gAt G X Wd nL pc ls (v :: st) σ := by
  obtain ⟨p, e, R, s, m, args, below, meth, c, A, Q⟩ := X
  obtain ⟨hx, hb, -⟩ := C
  intro H locs la hP hD hS hl
  exact lv_dup hx hb hd hv (kk H locs la hP hD hS hl)
theorem x_iadd (C : gC G X cc nL own k) {a b : Int} (hd : decode cc pc = .ok (.iadd, 1)) (kk : gAt G X Wd nL (pc + 1) ls (.int (iI (a + b)) :: st) σ) : gAt G X Wd nL pc ls (.int (iI b) :: .int (iI a) :: st) σ := by
  obtain ⟨p, e, R, s, m, args, below, meth, c, A, Q⟩ := X
  obtain ⟨hx, hb, -⟩ := C
  intro H locs la hP hD hS hl
  exact lv_iadd hx hb hd (by rw [iI_add]; exact kk H locs la hP hD hS hl)
theorem x_isub (C : gC G X cc nL own k) {a b : Int} (hd : decode cc pc = .ok (.isub, 1)) (kk : gAt G X Wd nL (pc + 1) ls (.int (iI (a - b)) :: st) σ) : gAt G X Wd nL pc ls (.int (iI b) :: .int (iI a) :: st) σ := by
  obtain ⟨p, e, R, s, m, args, below, meth, c, A, Q⟩ := X
  obtain ⟨hx, hb, -⟩ := C
  intro H locs la hP hD hS hl
  exact lv_isub hx hb hd (by rw [iI_sub]; exact kk H locs la hP hD hS hl)
theorem x_imul (C : gC G X cc nL own k) {a b : Int} (hd : decode cc pc = .ok (.imul, 1)) (kk : gAt G X Wd nL (pc + 1) ls (.int (iI (a * b)) :: st) σ) : gAt G X Wd nL pc ls (.int (iI b) :: .int (iI a) :: st) σ := by
  obtain ⟨p, e, R, s, m, args, below, meth, c, A, Q⟩ := X
  obtain ⟨hx, hb, -⟩ := C
  intro H locs la hP hD hS hl
  exact lv_imul hx hb hd (by rw [iI_mul]; exact kk H locs la hP hD hS hl)
theorem x_idiv (C : gC G X cc nL own k) {a b : Int} (hd : decode cc pc = .ok (.idiv, 1)) (hb0 : 0 < b ∧ b ≤ 2147483647) (ha : 0 ≤ a ∧ a ≤ 2147483647) (kk : gAt G X Wd nL (pc + 1) ls (.int (iI (a / b)) :: st) σ) : gAt G X Wd nL pc ls (.int (iI b) :: .int (iI a) :: st) σ := by
  obtain ⟨p, e, R, s, m, args, below, meth, c, A, Q⟩ := X
  obtain ⟨hx, hb, -⟩ := C
  intro H locs la hP hD hS hl
  exact lv_idiv hx hb hd (fun h => by have := (iI_eq (a := b) (b := 0) ⟨by omega, by omega⟩ (by decide)).mp (h.trans iI_0.symm); omega) (by rw [iI_div ha hb0]; exact kk H locs la hP hD hS hl)
theorem x_irem (C : gC G X cc nL own k) {a b : Int} (hd : decode cc pc = .ok (.irem, 1)) (hb0 : 0 < b ∧ b ≤ 2147483647) (ha : 0 ≤ a ∧ a ≤ 2147483647) (kk : gAt G X Wd nL (pc + 1) ls (.int (iI (a % b)) :: st) σ) : gAt G X Wd nL pc ls (.int (iI b) :: .int (iI a) :: st) σ := by
  obtain ⟨p, e, R, s, m, args, below, meth, c, A, Q⟩ := X
  obtain ⟨hx, hb, -⟩ := C
  intro H locs la hP hD hS hl
  exact lv_irem hx hb hd (fun h => by have := (iI_eq (a := b) (b := 0) ⟨by omega, by omega⟩ (by decide)).mp (h.trans iI_0.symm); omega) (by rw [iI_rem ha hb0]; exact kk H locs la hP hD hS hl)
theorem x_iand (C : gC G X cc nL own k) {a b : Int} (j : Nat) (r : Int) (hd : decode cc pc = .ok (.iand, 1)) (hm : (iI b).toBitVec.toNat = 2 ^ j - 1) (hr : ((2 ^ j : Nat) : Int) = r) (ha : 0 ≤ a ∧ a ≤ 2147483647) (kk : gAt G X Wd nL (pc + 1) ls (.int (iI (a % r)) :: st) σ) : gAt G X Wd nL pc ls (.int (iI b) :: .int (iI a) :: st) σ := by
  obtain ⟨p, e, R, s, m, args, below, meth, c, A, Q⟩ := X
  obtain ⟨hx, hb, -⟩ := C
  subst hr
  intro H locs la hP hD hS hl
  exact lv_iand hx hb hd (by rw [iI_and j hm ha]; exact kk H locs la hP hD hS hl)
theorem x_ishr (C : gC G X cc nL own k) {a b : Int} (j : Nat) (r : Int) (hd : decode cc pc = .ok (.ishr, 1)) (hm : ((iI b &&& 31).toBitVec.smod 32).toNat = j) (hr : ((2 ^ j : Nat) : Int) = r) (ha : 0 ≤ a ∧ a ≤ 2147483647) (kk : gAt G X Wd nL (pc + 1) ls (.int (iI (a / r)) :: st) σ) : gAt G X Wd nL pc ls (.int (iI b) :: .int (iI a) :: st) σ := by
  obtain ⟨p, e, R, s, m, args, below, meth, c, A, Q⟩ := X
  obtain ⟨hx, hb, -⟩ := C
  subst hr
  intro H locs la hP hD hS hl
  exact lv_ishr hx hb hd (by rw [iI_shr j hm ha]; exact kk H locs la hP hD hS hl)
theorem x_goto (C : gC G X cc nL own k) {off : Int} (tgt : Nat) (hd : decode cc pc = .ok (.goto off, 3)) (ht : (pc : Int) + off = (tgt : Int)) (kk : gAt G X Wd nL tgt ls st σ) : gAt G X Wd nL pc ls st σ := by
  obtain ⟨p, e, R, s, m, args, below, meth, c, A, Q⟩ := X
  obtain ⟨hx, hb, -⟩ := C
  intro H locs la hP hD hS hl
  exact lv_goto hx hb hd ht (kk H locs la hP hD hS hl)
theorem x_icmp_eq (C : gC G X cc nL own k) {a b : Int} {off : Int} (tgt : Nat) (hd : decode cc pc = .ok (.if_icmp .eq off, 3)) (ht : (pc : Int) + off = (tgt : Int)) (ha : gR a) (hb2 : gR b) (kt : a = b → gAt G X Wd nL tgt ls st σ) (kf : ¬ a = b → gAt G X Wd nL (pc + 3) ls st σ) : gAt G X Wd nL pc ls (.int (iI b) :: .int (iI a) :: st) σ := by
  obtain ⟨p, e, R, s, m, args, below, meth, c, A, Q⟩ := X
  obtain ⟨hx, hb, -⟩ := C
  have hi := iI_eq ha hb2
  intro H locs la hP hD hS hl
  exact lv_icmp_eq hx hb hd ht (fun hc => kt (hi.mp hc) H locs la hP hD hS hl) (fun hc => kf (fun h9 => hc (hi.mpr h9)) H locs la hP hD hS hl)
theorem x_if_eq (C : gC G X cc nL own k) {a : Int} {off : Int} (tgt : Nat) (hd : decode cc pc = .ok (.ifCond .eq off, 3)) (ht : (pc : Int) + off = (tgt : Int)) (ha : gR a) (kt : a = 0 → gAt G X Wd nL tgt ls st σ) (kf : ¬ a = 0 → gAt G X Wd nL (pc + 3) ls st σ) : gAt G X Wd nL pc ls (.int (iI a) :: st) σ := by
  obtain ⟨p, e, R, s, m, args, below, meth, c, A, Q⟩ := X
  obtain ⟨hx, hb, -⟩ := C
  have hi := iI_eq (b := 0) ha (by decide)
  rw [iI_0] at hi
  intro H locs la hP hD hS hl
  exact lv_if_eq hx hb hd ht (fun hc => kt (hi.mp hc) H locs la hP hD hS hl) (fun hc => kf (fun h9 => hc (hi.mpr h9)) H locs la hP hD hS hl)
theorem x_icmp_ne (C : gC G X cc nL own k) {a b : Int} {off : Int} (tgt : Nat) (hd : decode cc pc = .ok (.if_icmp .ne off, 3)) (ht : (pc : Int) + off = (tgt : Int)) (ha : gR a) (hb2 : gR b) (kt : ¬ a = b → gAt G X Wd nL tgt ls st σ) (kf : a = b → gAt G X Wd nL (pc + 3) ls st σ) : gAt G X Wd nL pc ls (.int (iI b) :: .int (iI a) :: st) σ := by
  obtain ⟨p, e, R, s, m, args, below, meth, c, A, Q⟩ := X
  obtain ⟨hx, hb, -⟩ := C
  have hi := iI_eq ha hb2
  intro H locs la hP hD hS hl
  exact lv_icmp_ne hx hb hd ht (fun hc => kt (fun h9 => hc (hi.mpr h9)) H locs la hP hD hS hl) (fun hc => kf (hi.mp hc) H locs la hP hD hS hl)
theorem x_if_ne (C : gC G X cc nL own k) {a : Int} {off : Int} (tgt : Nat) (hd : decode cc pc = .ok (.ifCond .ne off, 3)) (ht : (pc : Int) + off = (tgt : Int)) (ha : gR a) (kt : ¬ a = 0 → gAt G X Wd nL tgt ls st σ) (kf : a = 0 → gAt G X Wd nL (pc + 3) ls st σ) : gAt G X Wd nL pc ls (.int (iI a) :: st) σ := by
  obtain ⟨p, e, R, s, m, args, below, meth, c, A, Q⟩ := X
  obtain ⟨hx, hb, -⟩ := C
  have hi := iI_eq (b := 0) ha (by decide)
  rw [iI_0] at hi
  intro H locs la hP hD hS hl
  exact lv_if_ne hx hb hd ht (fun hc => kt (fun h9 => hc (hi.mpr h9)) H locs la hP hD hS hl) (fun hc => kf (hi.mp hc) H locs la hP hD hS hl)
theorem x_icmp_lt (C : gC G X cc nL own k) {a b : Int} {off : Int} (tgt : Nat) (hd : decode cc pc = .ok (.if_icmp .lt off, 3)) (ht : (pc : Int) + off = (tgt : Int)) (ha : gR a) (hb2 : gR b) (kt : a < b → gAt G X Wd nL tgt ls st σ) (kf : b ≤ a → gAt G X Wd nL (pc + 3) ls st σ) : gAt G X Wd nL pc ls (.int (iI b) :: .int (iI a) :: st) σ := by
  obtain ⟨p, e, R, s, m, args, below, meth, c, A, Q⟩ := X
  obtain ⟨hx, hb, -⟩ := C
  have hi := iI_lt ha hb2
  intro H locs la hP hD hS hl
  exact lv_icmp_lt hx hb hd ht (fun hc => kt (hi.mp hc) H locs la hP hD hS hl) (fun hc => kf (Int.not_lt.mp (fun q => hc (hi.mpr q))) H locs la hP hD hS hl)
theorem x_if_lt (C : gC G X cc nL own k) {a : Int} {off : Int} (tgt : Nat) (hd : decode cc pc = .ok (.ifCond .lt off, 3)) (ht : (pc : Int) + off = (tgt : Int)) (ha : gR a) (kt : a < 0 → gAt G X Wd nL tgt ls st σ) (kf : 0 ≤ a → gAt G X Wd nL (pc + 3) ls st σ) : gAt G X Wd nL pc ls (.int (iI a) :: st) σ := by
  obtain ⟨p, e, R, s, m, args, below, meth, c, A, Q⟩ := X
  obtain ⟨hx, hb, -⟩ := C
  have hi := iI_lt (b := 0) ha (by decide)
  rw [iI_0] at hi
  intro H locs la hP hD hS hl
  exact lv_if_lt hx hb hd ht (fun hc => kt (hi.mp hc) H locs la hP hD hS hl) (fun hc => kf (Int.not_lt.mp (fun q => hc (hi.mpr q))) H locs la hP hD hS hl)
theorem x_icmp_ge (C : gC G X cc nL own k) {a b : Int} {off : Int} (tgt : Nat) (hd : decode cc pc = .ok (.if_icmp .ge off, 3)) (ht : (pc : Int) + off = (tgt : Int)) (ha : gR a) (hb2 : gR b) (kt : b ≤ a → gAt G X Wd nL tgt ls st σ) (kf : a < b → gAt G X Wd nL (pc + 3) ls st σ) : gAt G X Wd nL pc ls (.int (iI b) :: .int (iI a) :: st) σ := by
  obtain ⟨p, e, R, s, m, args, below, meth, c, A, Q⟩ := X
  obtain ⟨hx, hb, -⟩ := C
  have hi := iI_le hb2 ha
  intro H locs la hP hD hS hl
  exact lv_icmp_ge hx hb hd ht (fun hc => kt (hi.mp hc) H locs la hP hD hS hl) (fun hc => kf (Int.not_le.mp (fun q => hc (hi.mpr q))) H locs la hP hD hS hl)
theorem x_if_ge (C : gC G X cc nL own k) {a : Int} {off : Int} (tgt : Nat) (hd : decode cc pc = .ok (.ifCond .ge off, 3)) (ht : (pc : Int) + off = (tgt : Int)) (ha : gR a) (kt : 0 ≤ a → gAt G X Wd nL tgt ls st σ) (kf : a < 0 → gAt G X Wd nL (pc + 3) ls st σ) : gAt G X Wd nL pc ls (.int (iI a) :: st) σ := by
  obtain ⟨p, e, R, s, m, args, below, meth, c, A, Q⟩ := X
  obtain ⟨hx, hb, -⟩ := C
  have hi := iI_le (a := 0) (by decide) ha
  rw [iI_0] at hi
  intro H locs la hP hD hS hl
  exact lv_if_ge hx hb hd ht (fun hc => kt (hi.mp hc) H locs la hP hD hS hl) (fun hc => kf (Int.not_le.mp (fun q => hc (hi.mpr q))) H locs la hP hD hS hl)
theorem x_icmp_gt (C : gC G X cc nL own k) {a b : Int} {off : Int} (tgt : Nat) (hd : decode cc pc = .ok (.if_icmp .gt off, 3)) (ht : (pc : Int) + off = (tgt : Int)) (ha : gR a) (hb2 : gR b) (kt : b < a → gAt G X Wd nL tgt ls st σ) (kf : a ≤ b → gAt G X Wd nL (pc + 3) ls st σ) : gAt G X Wd nL pc ls (.int (iI b) :: .int (iI a) :: st) σ := by
  obtain ⟨p, e, R, s, m, args, below, meth, c, A, Q⟩ := X
  obtain ⟨hx, hb, -⟩ := C
  have hi := iI_lt hb2 ha
  intro H locs la hP hD hS hl
  exact lv_icmp_gt hx hb hd ht (fun hc => kt (hi.mp hc) H locs la hP hD hS hl) (fun hc => kf (Int.not_lt.mp (fun q => hc (hi.mpr q))) H locs la hP hD hS hl)
theorem x_if_gt (C : gC G X cc nL own k) {a : Int} {off : Int} (tgt : Nat) (hd : decode cc pc = .ok (.ifCond .gt off, 3)) (ht : (pc : Int) + off = (tgt : Int)) (ha : gR a) (kt : 0 < a → gAt G X Wd nL tgt ls st σ) (kf : a ≤ 0 → gAt G X Wd nL (pc + 3) ls st σ) : gAt G X Wd nL pc ls (.int (iI a) :: st) σ := by
  obtain ⟨p, e, R, s, m, args, below, meth, c, A, Q⟩ := X
  obtain ⟨hx, hb, -⟩ := C
  have hi := iI_lt (a := 0) (by decide) ha
  rw [iI_0] at hi
  intro H locs la hP hD hS hl
  exact lv_if_gt hx hb hd ht (fun hc => kt (hi.mp hc) H locs la hP hD hS hl) (fun hc => kf (Int.not_lt.mp (fun q => hc (hi.mpr q))) H locs la hP hD hS hl)
theorem x_icmp_le (C : gC G X cc nL own k) {a b : Int} {off : Int} (tgt : Nat) (hd : decode cc pc = .ok (.if_icmp .le off, 3)) (ht : (pc : Int) + off = (tgt : Int)) (ha : gR a) (hb2 : gR b) (kt : a ≤ b → gAt G X Wd nL tgt ls st σ) (kf : b < a → gAt G X Wd nL (pc + 3) ls st σ) : gAt G X Wd nL pc ls (.int (iI b) :: .int (iI a) :: st) σ := by
  obtain ⟨p, e, R, s, m, args, below, meth, c, A, Q⟩ := X
  obtain ⟨hx, hb, -⟩ := C
  have hi := iI_le ha hb2
  intro H locs la hP hD hS hl
  exact lv_icmp_le hx hb hd ht (fun hc => kt (hi.mp hc) H locs la hP hD hS hl) (fun hc => kf (Int.not_le.mp (fun q => hc (hi.mpr q))) H locs la hP hD hS hl)
theorem x_if_le (C : gC G X cc nL own k) {a : Int} {off : Int} (tgt : Nat) (hd : decode cc pc = .ok (.ifCond .le off, 3)) (ht : (pc : Int) + off = (tgt : Int)) (ha : gR a) (kt : a ≤ 0 → gAt G X Wd nL tgt ls st σ) (kf : 0 < a → gAt G X Wd nL (pc + 3) ls st σ) : gAt G X Wd nL pc ls (.int (iI a) :: st) σ := by
  obtain ⟨p, e, R, s, m, args, below, meth, c, A, Q⟩ := X
  obtain ⟨hx, hb, -⟩ := C
  have hi := iI_le (b := 0) ha (by decide)
  rw [iI_0] at hi
  intro H locs la hP hD hS hl
  exact lv_if_le hx hb hd ht (fun hc => kt (hi.mp hc) H locs la hP hD hS hl) (fun hc => kf (Int.not_le.mp (fun q => hc (hi.mpr q))) H locs la hP hD hS hl)
/-! heap rows -/
theorem x_get (C : gC G X cc nL own k) {C' : String} {T : u_T} {N ci index : Nat} (hin : ∀ w ∈ u_ws C' T N, w ∈ lw_all) {fs : List Value} (he : (Wd σ)[0]? = some (g_h G, .inr (ci, fs))) (hc : vwCl[ci]? = some (C', T, N)) (j : Nat) (hj : j < N) (h1 : (T j).1 = C') (hlink : Cond.fieldLink own index C' (T j).2.1 (T j).2.2.1 ∈ lw_all) {v : Value} (hv : fs[j]? = some v) (hd : decode cc pc = .ok (.getfield index, 3)) (kk : gAt G X Wd nL (pc + 3) ls (v :: st) σ) : gAt G X Wd nL pc ls (.ref (g_h G) :: st) σ := by
  obtain ⟨p, e, R, s, m, args, below, meth, c, A, Q⟩ := X
  obtain ⟨hx, hb, -, ho, hts, hK, -⟩ := C
  intro H locs la hP hD hS hl
  exact va_get hx hb hts hin ho hK hP 0 he hc j hj (hts _ hlink) (fun x h9 => by rw [h1] at h9; exact h9) hv hd (kk H locs la hP hD hS hl)
theorem x_put (C : gC G X cc nL own k) {C' : String} {T : u_T} {N ci index : Nat} (hin : ∀ w ∈ u_ws C' T N, w ∈ lw_all) (ty0 : Nat → FieldType) (hty : ∀ k, k < N → parseFieldDescriptor (T k).2.2.1 = some (ty0 k)) (hnm : ∀ a, a < N → ∀ b, b < N → a ≠ b → (T a).2.1 ≠ (T b).2.1) {fs : List Value} (he : (Wd σ)[0]? = some (g_h G, .inr (ci, fs))) (hc : vwCl[ci]? = some (C', T, N)) (j : Nat) (hj : j < N) (h1 : (T j).1 = C') (hlink : Cond.fieldLink own index C' (T j).2.1 (T j).2.2.1 ∈ lw_all) (hfin : (T j).2.2.2 = false) {v : Int} (hp : parseFieldDescriptor (T j).2.2.1 = some .int) (hl9 : j < fs.length) (hw : (Wd σ).set 0 (g_h G, .inr (ci, fs.set j (.int (iI v)))) = Wd (sU σ j 0 v)) (hd : decode cc pc = .ok (.putfield index, 3)) (kk : gAt G X Wd nL (pc + 3) ls st (sU σ j 0 v)) : gAt G X Wd nL pc ls (.int (iI v) :: .ref (g_h G) :: st) σ := by
  obtain ⟨p, e, R, s, m, args, below, meth, c, A, Q⟩ := X
  obtain ⟨hx, hb, -, ho, hts, hK, -⟩ := C
  intro H locs la hP hD hS hl
  refine va_put (v := .int (iI v)) (ty := .int) hx hb hts hin ty0 hty hnm ho hK hP hD hS 0 he hc j hj (hts _ hlink) (fun x h9 => by rw [h1] at h9; exact h9) hfin hp rfl rfl hl9 hd (fun H1 locs1 hP1 hD1 hS1 => ?_)
  rw [hw] at hP1 hD1
  exact kk H1 locs1 la hP1 hD1 hS1 hl
theorem x_iald (C : gC G X cc nL own k) (q0 j n : Nat) {a : Nat} {i : Int} (he : (Wd σ)[q0]? = some (a, .inl (g_d G, n, .inl (fun t : Nat => iI (σ j (t : Int)))))) (hn : n < 2147483648) (hd : decode cc pc = .ok (.iaload, 1)) (hi : 0 ≤ i ∧ i < (n : Int)) (kk : gAt G X Wd nL (pc + 1) ls (.int (iI (σ j i)) :: st) σ) : gAt G X Wd nL pc ls (.int (iI i) :: .ref a :: st) σ := by
  obtain ⟨p, e, R, s, m, args, below, meth, c, A, Q⟩ := X
  obtain ⟨hx, hb, -, ho, hts, hK, -⟩ := C
  intro H locs la hP hD hS hl
  refine va_iald hx hb hK hP q0 0 he rfl (iI_in hi hn) hd ?_
  rw [iI_clamp hi.1 (by omega), Int.toNat_of_nonneg hi.1]
  exact kk H locs la hP hD hS hl
theorem x_iast (C : gC G X cc nL own k) (q0 j n : Nat) {a : Nat} {i v : Int} (he : (Wd σ)[q0]? = some (a, .inl (g_d G, n, .inl (fun t : Nat => iI (σ j (t : Int)))))) (hn : n < 2147483648) (hw : (Wd σ).set q0 (a, .inl (g_d G, n, .inl (fun t : Nat => iI (sU σ j i v j (t : Int))))) = Wd (sU σ j i v)) (hd : decode cc pc = .ok (.iastore, 1)) (hi : 0 ≤ i ∧ i < (n : Int)) (kk : gAt G X Wd nL (pc + 1) ls st (sU σ j i v)) : gAt G X Wd nL pc ls (.int (iI v) :: .int (iI i) :: .ref a :: st) σ := by
  obtain ⟨p, e, R, s, m, args, below, meth, c, A, Q⟩ := X
  obtain ⟨hx, hb, -, ho, hts, hK, -⟩ := C
  intro H locs la hP hD hS hl
  have hu : upd (fun t : Nat => iI (σ j (t : Int))) (iI i).toNatClampNeg (iI v) = fun t : Nat => iI (sU σ j i v j (t : Int)) := by
    rw [iI_clamp hi.1 (by omega)]
    funext t
    by_cases ht : t = i.toNat
    · subst ht
      rw [pk_us, Int.toNat_of_nonneg hi.1, sU_eq]
    · rw [pk_un ht, sU_ne (by omega)]
  refine va_iast hx hb hK hP hD hS q0 0 he rfl (iI_in hi hn) hd (fun H1 locs1 hP1 hD1 hS1 => ?_)
  rw [hu, hw] at hP1 hD1
  exact kk H1 locs1 la hP1 hD1 hS1 hl
end GR
/-! ===== contracts ===== -/
abbrev gRm (k : Nat) : Room := { frames := k, cells := 0, slots := 0, locals := 30 * k }
def gPre (G : gG) (Wd : gS → va_W) (sz : Nat) (σ : gS) (U : State) : Prop := U.heap.size = sz ∧ va_P (g_D G) vwCl (Wd σ) U.heap ∧ va_K (g_D G) vwCl [(g_d G, .int)] U ∧ va_D (fun _ => True) (Wd σ)
def gB (G : gG) (Wd : gS → va_W) (A : Nat → Prop) (u : gS) (t : State) : Prop := va_P (g_D G) vwCl (Wd u) t.heap ∧ va_K (g_D G) vwCl [(g_d G, .int)] t ∧ va_D A (Wd u)
def gQi (G : gG) (Wd : gS → va_W) (σ : gS) (sz : Nat) (post : Int → gS → Prop) : Array Value → State → Outcome → State → Prop := va_Qi (fun (r : Int32) (u : gS) => ∃ z : Int, r = iI z ∧ post z u) (gB G Wd (va_A (Wd σ) sz)) (va_A (Wd σ) sz)
def gQv (G : gG) (Wd : gS → va_W) (σ : gS) (sz : Nat) (post : gS → Prop) : Array Value → State → Outcome → State → Prop := va_Qv (fun (u : gS) => post u) (gB G Wd (va_A (Wd σ) sz)) (va_A (Wd σ) sz)
/-- the contract of a method that answers an int (or a boolean); k: how deep it calls -/
def gMetI (G : gG) (y : MethodName) (ws : List Cond) (k : Nat) (Wd : gS → va_W) (As : List Value) (σ : gS) (post : Int → gS → Prop) : Prop := ∀ sz : Nat, Met (g_l G) y ws (gRm k) (va_Pc (.ref (g_h G) :: As) (gPre G Wd sz σ)) (gQi G Wd σ sz post) 0 0 (va_A (Wd σ) sz)
def gMetV (G : gG) (y : MethodName) (ws : List Cond) (k : Nat) (Wd : gS → va_W) (As : List Value) (σ : gS) (post : gS → Prop) : Prop := ∀ sz : Nat, Met (g_l G) y ws (gRm k) (va_Pc (.ref (g_h G) :: As) (gPre G Wd sz σ)) (gQv G Wd σ sz post) 0 0 (va_A (Wd σ) sz)
theorem gPre_blind {G : gG} {Wd : gS → va_W} {sz : Nat} {σ : gS} {vs : List Value} : FrameBlind (va_Pc vs (gPre G Wd sz σ)) := by
  intro a U g mk q
  obtain ⟨q0, q1, qP, qK, qD⟩ := q
  exact ⟨q0, q1, qP, va_K.moved (u := U) (U := U.calling g mk a) (Vm.Alike.refl U.vm) qK, qD⟩
theorem gFree {A : Nat → Prop} {ws : va_W} {H0 H : Heap} {locs : List Loc} (hD : va_D A ws) (hS : va_S A H0 H locs) (hA : ∀ q, H0.size ≤ q → A q) : ∀ q, va_A ws H.size q → A q := by
  intro q h
  rcases h with ⟨k, e, h⟩ | h
  · exact hD.2 k _ h
  · exact hA q (Nat.le_trans hS.1 h)
theorem gNarrow {z : Int} (h : z = 0 ∨ z = 1) : narrow .boolean (.int (iI z)) = .int (iI z) := by
  rcases h with rfl | rfl <;> decide +kernel
section GM
variable {G : gG} {Wd : gS → va_W} {nL k : Nat} {σ : gS} {cc : ByteArray} {own : String} {y : MethodName} {As : List Value}
set_option maxHeartbeats 4000000 in
theorem gMetI.ofW {post : Int → gS → Prop} {ty : FieldType} (hy : plainName y.cls = true) (hyo : y.cls = own) (hlen : (lg_sl (.ref (g_h G) :: As)).length ≤ nL) {ls0 : List (Nat × Value)} (hls : lv_args 0 (.ref (g_h G) :: As) = ls0) (hnar : Int → Prop) (hnar2 : ∀ z, hnar z → narrow ty (.int (iI z)) = .int (iI z))
    (walk : ∀ X : gX, gC G X cc nL own k → (∀ (z : Int) (u : gS) (pc : Nat) (ls : List (Nat × Value)), decode cc pc = .ok (.ireturn, 1) → hnar z → post z u → gAt G X Wd nL pc ls [.int (iI z)] u) → gAt G X Wd nL 0 ls0 [] σ) : gMetI G y (ws_ y cc nL (some ty)) k Wd As σ post := by
  intro sz
  refine Met.ofW (cc := cc) (maxL := nL) (ret := some ty) hy rfl ?_
  intro p e s m args below meth c s₁ B hml hv
  obtain ⟨rfl, hsz, hP, hK, hD0⟩ := hv
  have hx := B.exec
  have hb := B.bytes
  have hr := B.returns
  have hlk := B.notSynchronized
  have hts := atoms_spec (ws := ws_ y cc nL (some ty)) B.pre
  have hts : ∀ w ∈ lw_all, w.before _ s = true := fun w h => hts w (List.mem_cons_of_mem _ h)
  have hown : s.vm.findClass own = some m.cls := by rw [← hyo]; exact findClass_of_methodNamed B.named
  subst hsz
  have hD := hD0.self (sz := s.heap.size)
  have hl := lv_entry (.ref (g_h G) :: As) (n := nL) hlen
  rw [hls] at hl
  rw [lg_entry_eq]
  refine walk (p, e, _, s, m, _, below, meth, c, va_A (Wd σ) s.heap.size, _) ⟨hx, hb, hml, hown, hts, hK, fun q h => Or.inr h, rfl, rfl⟩ ?_ s.heap [] _ hP hD va_S.rf hl
  intro z u pc ls hd hz hp H locs la hP1 hD1 hS1 hl1
  exact W.zret (v := iI z) hx hb hr (hnar2 z hz) (fun t ht hW => ⟨⟨iI z, u, rfl, ⟨z, rfl, hp⟩, by rw [ht]; exact hP1, va_K.moved hW.alike hK, hD1⟩, hS1.F ht⟩) hS1.2.2 hd hlk
set_option maxHeartbeats 4000000 in
theorem gMetV.ofW {post : gS → Prop} (hy : plainName y.cls = true) (hyo : y.cls = own) (hlen : (lg_sl (.ref (g_h G) :: As)).length ≤ nL) {ls0 : List (Nat × Value)} (hls : lv_args 0 (.ref (g_h G) :: As) = ls0)
    (walk : ∀ X : gX, gC G X cc nL own k → (∀ (u : gS) (pc : Nat) (ls : List (Nat × Value)), decode cc pc = .ok (.return_, 1) → post u → gAt G X Wd nL pc ls [] u) → gAt G X Wd nL 0 ls0 [] σ) : gMetV G y (ws_ y cc nL none) k Wd As σ post := by
  intro sz
  refine Met.ofW (cc := cc) (maxL := nL) (ret := none) hy rfl ?_
  intro p e s m args below meth c s₁ B hml hv
  obtain ⟨rfl, hsz, hP, hK, hD0⟩ := hv
  have hx := B.exec
  have hb := B.bytes
  have hr := B.returns
  have hlk := B.notSynchronized
  have hts := atoms_spec (ws := ws_ y cc nL none) B.pre
  have hts : ∀ w ∈ lw_all, w.before _ s = true := fun w h => hts w (List.mem_cons_of_mem _ h)
  have hown : s.vm.findClass own = some m.cls := by rw [← hyo]; exact findClass_of_methodNamed B.named
  subst hsz
  have hD := hD0.self (sz := s.heap.size)
  have hl := lv_entry (.ref (g_h G) :: As) (n := nL) hlen
  rw [hls] at hl
  rw [lg_entry_eq]
  refine walk (p, e, _, s, m, _, below, meth, c, va_A (Wd σ) s.heap.size, _) ⟨hx, hb, hml, hown, hts, hK, fun q h => Or.inr h, rfl, rfl⟩ ?_ s.heap [] _ hP hD va_S.rf hl
  intro u pc ls hd hp H locs la hP1 hD1 hS1 hl1
  exact W.vret hx hb hr (fun t ht hW => ⟨⟨u, rfl, hp, by rw [ht]; exact hP1, va_K.moved hW.alike hK, hD1⟩, hS1.F ht⟩) hS1.2.2 hd hlk
variable {X : gX} {pc : Nat} {ls : List (Nat × Value)} {st st0 : List Value}
set_option maxHeartbeats 4000000 in
theorem x_calli (C : gC G X cc nL own k) {bytes : ByteArray} {maxL : Nat} {ret : Option FieldType} {k' ci index n : Nat} {C' : String} {T : u_T} {N : Nat} {fs : List Value}
    {P : Int → gS → Prop} (hM : gMetI G y (ws_ y bytes maxL ret) k' Wd As σ P)
    (hV : GoodIn lw_all (wsV own index C' y (ws_ y bytes maxL ret))) (hd0 : y.cls = C' ∧ y.cls ≠ "java/lang/invoke/MethodHandle" ∧ y.cls ≠ "java/lang/invoke/VarHandle" ∧ (parseMethodDescriptor y.desc).map (fun d => d.parameters.length) = some n) (hk : k' + 1 ≤ k ∧ 8 + (maxL + 11) + 30 * k' ≤ 30 * k)
    (he : (Wd σ)[0]? = some (g_h G, .inr (ci, fs))) (hc : vwCl[ci]? = some (C', T, N)) (hn : As.length = n) (hst : st0 = As.reverse ++ .ref (g_h G) :: st) (hr : (st.map fun v => v.category).sum ≤ 8) (hd : decode cc pc = .ok (.invokevirtual index, 3)) (kk : ∀ (z : Int) (u : gS), P z u → gAt G X Wd nL (pc + 3) ls (.int (iI z) :: st) u) : gAt G X Wd nL pc ls st0 σ := by
  obtain ⟨p, e, R, s, m, args, below, meth, c, A, Q⟩ := X
  obtain ⟨hx, hb, hml, ho, hts, hK, hA, hRf, hRl⟩ := C
  intro H locs la hP hD hS hl
  have hFc := gFree hD hS hA
  subst hst
  refine va_calli (va_runV (As := As) (rest := st) ⟨hx, hb, hml, ho, hts⟩ (hM H.size) (cwV n hts hV rfl rfl rfl hd0 ⟨by rw [hRf]; exact hk.1, by rw [hRl]; exact hk.2⟩) ⟨gPre_blind, va_recv hK hP hc he, fun U hU hW => ⟨rfl, by rw [hU], by rw [hU]; exact hP, va_K.moved hW.alike hK, hD.weaken (fun _ _ _ _ => trivial)⟩⟩ rfl hn hl.1 rfl (lv_room hr) hd ⟨Nat.zero_le _, Nat.zero_le _⟩) hS (fun q _ h => hFc q h) hFc (fun r u t H1 locs1 ht hvm hw hB hz1 hk1 hS1 => ?_)
  obtain ⟨z, rfl, hz⟩ := hw
  obtain ⟨hP1, hK1, hD1⟩ := hB
  rw [ht] at hP1
  exact kk z u hz H1 locs1 la hP1 (hD1.weaken (fun k q _ h => hFc q.1 h)) hS1 hl
set_option maxHeartbeats 4000000 in
theorem x_callv (C : gC G X cc nL own k) {bytes : ByteArray} {maxL : Nat} {ret : Option FieldType} {k' ci index n : Nat} {C' : String} {T : u_T} {N : Nat} {fs : List Value}
    {P : gS → Prop} (hM : gMetV G y (ws_ y bytes maxL ret) k' Wd As σ P)
    (hV : GoodIn lw_all (wsV own index C' y (ws_ y bytes maxL ret))) (hd0 : y.cls = C' ∧ y.cls ≠ "java/lang/invoke/MethodHandle" ∧ y.cls ≠ "java/lang/invoke/VarHandle" ∧ (parseMethodDescriptor y.desc).map (fun d => d.parameters.length) = some n) (hk : k' + 1 ≤ k ∧ 8 + (maxL + 11) + 30 * k' ≤ 30 * k)
    (he : (Wd σ)[0]? = some (g_h G, .inr (ci, fs))) (hc : vwCl[ci]? = some (C', T, N)) (hn : As.length = n) (hst : st0 = As.reverse ++ .ref (g_h G) :: st) (hr : (st.map fun v => v.category).sum ≤ 8) (hd : decode cc pc = .ok (.invokevirtual index, 3)) (kk : ∀ u : gS, P u → gAt G X Wd nL (pc + 3) ls st u) : gAt G X Wd nL pc ls st0 σ := by
  obtain ⟨p, e, R, s, m, args, below, meth, c, A, Q⟩ := X
  obtain ⟨hx, hb, hml, ho, hts, hK, hA, hRf, hRl⟩ := C
  intro H locs la hP hD hS hl
  have hFc := gFree hD hS hA
  subst hst
  refine va_callv (va_runV (As := As) (rest := st) ⟨hx, hb, hml, ho, hts⟩ (hM H.size) (cwV n hts hV rfl rfl rfl hd0 ⟨by rw [hRf]; exact hk.1, by rw [hRl]; exact hk.2⟩) ⟨gPre_blind, va_recv hK hP hc he, fun U hU hW => ⟨rfl, by rw [hU], by rw [hU]; exact hP, va_K.moved hW.alike hK, hD.weaken (fun _ _ _ _ => trivial)⟩⟩ rfl hn hl.1 rfl (lv_room hr) hd ⟨Nat.zero_le _, Nat.zero_le _⟩) hS (fun q _ h => hFc q h) hFc (fun u t H1 locs1 ht hvm hw hB hz1 hk1 hS1 => ?_)
  obtain ⟨hP1, hK1, hD1⟩ := hB
  rw [ht] at hP1
  exact kk u hw H1 locs1 la hP1 (hD1.weaken (fun k q _ h => hFc q.1 h)) hS1 hl
end GM
end
section
/-! the two objects and their heap rows -/
set_option maxRecDepth 100000
def XW (G : gG) (σ : gS) : va_W := [(g_h G, .inr (0, [.ref (g_ad G 0), .ref (g_ad G 1), .ref (g_ad G 2), .ref (g_ad G 3), .ref (g_ad G 4), .ref (g_ad G 5), .ref (g_ad G 6), .ref (g_ad G 7), .ref (g_ad G 8), .int (iI (σ 9 0)), .int (iI (σ 10 0))])), (g_ad G 0, .inl (g_d G, 7, .inl (fun t : Nat => iI (σ 0 (t : Int))))), (g_ad G 1, .inl (g_d G, 7, .inl (fun t : Nat => iI (σ 1 (t : Int))))), (g_ad G 2, .inl (g_d G, 7, .inl (fun t : Nat => iI (σ 2 (t : Int))))), (g_ad G 3, .inl (g_d G, 7, .inl (fun t : Nat => iI (σ 3 (t : Int))))), (g_ad G 4, .inl (g_d G, 2248, .inl (fun t : Nat => iI (σ 4 (t : Int))))), (g_ad G 5, .inl (g_d G, 2248, .inl (fun t : Nat => iI (σ 5 (t : Int))))), (g_ad G 6, .inl (g_d G, 1405, .inl (fun t : Nat => iI (σ 6 (t : Int))))), (g_ad G 7, .inl (g_d G, 7, .inl (fun t : Nat => iI (σ 7 (t : Int))))), (g_ad G 8, .inl (g_d G, 3721, .inl (fun t : Nat => iI (σ 8 (t : Int)))))]
section
variable {G : gG} {X : gX} {nL pc k : Nat} {ls : List (Nat × Value)} {st : List Value} {σ : gS} {cc : ByteArray}
theorem xg_0 (C : gC G X cc nL RX0 k) (hd : decode cc pc = .ok (.getfield 7, 3)) (kk : gAt G X (XW G) nL (pc + 3) ls (.ref (g_ad G 0) :: st) σ) : gAt G X (XW G) nL pc ls (.ref (g_h G) :: st) σ := x_get C in_X0 rfl rfl 0 (by decide) rfl q33 rfl hd kk
theorem xW_0 {i v : Int} : (XW G σ).set 1 (g_ad G 0, .inl (g_d G, 7, .inl (fun t : Nat => iI (sU σ 0 i v 0 (t : Int))))) = XW G (sU σ 0 i v) := by
  have e1 : ∀ t : Int, sU σ 0 i v 1 t = σ 1 t := fun t => sU_nf (by decide)
  have e2 : ∀ t : Int, sU σ 0 i v 2 t = σ 2 t := fun t => sU_nf (by decide)
  have e3 : ∀ t : Int, sU σ 0 i v 3 t = σ 3 t := fun t => sU_nf (by decide)
  have e4 : ∀ t : Int, sU σ 0 i v 4 t = σ 4 t := fun t => sU_nf (by decide)
  have e5 : ∀ t : Int, sU σ 0 i v 5 t = σ 5 t := fun t => sU_nf (by decide)
  have e6 : ∀ t : Int, sU σ 0 i v 6 t = σ 6 t := fun t => sU_nf (by decide)
  have e7 : ∀ t : Int, sU σ 0 i v 7 t = σ 7 t := fun t => sU_nf (by decide)
  have e8 : ∀ t : Int, sU σ 0 i v 8 t = σ 8 t := fun t => sU_nf (by decide)
  have e9 : ∀ t : Int, sU σ 0 i v 9 t = σ 9 t := fun t => sU_nf (by decide)
  have e10 : ∀ t : Int, sU σ 0 i v 10 t = σ 10 t := fun t => sU_nf (by decide)
  unfold XW
  simp only [e1, e2, e3, e4, e5, e6, e7, e8, e9, e10]
  first | done | rfl
theorem xl_0 {i : Int} (C : gC G X cc nL RX0 k) (hd : decode cc pc = .ok (.iaload, 1)) (hi : 0 ≤ i ∧ i < 7) (kk : gAt G X (XW G) nL (pc + 1) ls (.int (iI (σ 0 i)) :: st) σ) : gAt G X (XW G) nL pc ls (.int (iI i) :: .ref (g_ad G 0) :: st) σ := x_iald C 1 0 7 rfl (by decide) hd ⟨hi.1, by have := hi.2; omega⟩ kk
theorem xs_0 {i v : Int} (C : gC G X cc nL RX0 k) (hd : decode cc pc = .ok (.iastore, 1)) (hi : 0 ≤ i ∧ i < 7) (kk : gAt G X (XW G) nL (pc + 1) ls st (sU σ 0 i v)) : gAt G X (XW G) nL pc ls (.int (iI v) :: .int (iI i) :: .ref (g_ad G 0) :: st) σ := x_iast C 1 0 7 rfl (by decide) xW_0 hd ⟨hi.1, by have := hi.2; omega⟩ kk
theorem xg_1 (C : gC G X cc nL RX0 k) (hd : decode cc pc = .ok (.getfield 13, 3)) (kk : gAt G X (XW G) nL (pc + 3) ls (.ref (g_ad G 1) :: st) σ) : gAt G X (XW G) nL pc ls (.ref (g_h G) :: st) σ := x_get C in_X0 rfl rfl 1 (by decide) rfl q34 rfl hd kk
theorem xW_1 {i v : Int} : (XW G σ).set 2 (g_ad G 1, .inl (g_d G, 7, .inl (fun t : Nat => iI (sU σ 1 i v 1 (t : Int))))) = XW G (sU σ 1 i v) := by
  have e0 : ∀ t : Int, sU σ 1 i v 0 t = σ 0 t := fun t => sU_nf (by decide)
  have e2 : ∀ t : Int, sU σ 1 i v 2 t = σ 2 t := fun t => sU_nf (by decide)
  have e3 : ∀ t : Int, sU σ 1 i v 3 t = σ 3 t := fun t => sU_nf (by decide)
  have e4 : ∀ t : Int, sU σ 1 i v 4 t = σ 4 t := fun t => sU_nf (by decide)
  have e5 : ∀ t : Int, sU σ 1 i v 5 t = σ 5 t := fun t => sU_nf (by decide)
  have e6 : ∀ t : Int, sU σ 1 i v 6 t = σ 6 t := fun t => sU_nf (by decide)
  have e7 : ∀ t : Int, sU σ 1 i v 7 t = σ 7 t := fun t => sU_nf (by decide)
  have e8 : ∀ t : Int, sU σ 1 i v 8 t = σ 8 t := fun t => sU_nf (by decide)
  have e9 : ∀ t : Int, sU σ 1 i v 9 t = σ 9 t := fun t => sU_nf (by decide)
  have e10 : ∀ t : Int, sU σ 1 i v 10 t = σ 10 t := fun t => sU_nf (by decide)
  unfold XW
  simp only [e0, e2, e3, e4, e5, e6, e7, e8, e9, e10]
  first | done | rfl
theorem xl_1 {i : Int} (C : gC G X cc nL RX0 k) (hd : decode cc pc = .ok (.iaload, 1)) (hi : 0 ≤ i ∧ i < 7) (kk : gAt G X (XW G) nL (pc + 1) ls (.int (iI (σ 1 i)) :: st) σ) : gAt G X (XW G) nL pc ls (.int (iI i) :: .ref (g_ad G 1) :: st) σ := x_iald C 2 1 7 rfl (by decide) hd ⟨hi.1, by have := hi.2; omega⟩ kk
theorem xs_1 {i v : Int} (C : gC G X cc nL RX0 k) (hd : decode cc pc = .ok (.iastore, 1)) (hi : 0 ≤ i ∧ i < 7) (kk : gAt G X (XW G) nL (pc + 1) ls st (sU σ 1 i v)) : gAt G X (XW G) nL pc ls (.int (iI v) :: .int (iI i) :: .ref (g_ad G 1) :: st) σ := x_iast C 2 1 7 rfl (by decide) xW_1 hd ⟨hi.1, by have := hi.2; omega⟩ kk
theorem xg_2 (C : gC G X cc nL RX0 k) (hd : decode cc pc = .ok (.getfield 16, 3)) (kk : gAt G X (XW G) nL (pc + 3) ls (.ref (g_ad G 2) :: st) σ) : gAt G X (XW G) nL pc ls (.ref (g_h G) :: st) σ := x_get C in_X0 rfl rfl 2 (by decide) rfl q35 rfl hd kk
theorem xW_2 {i v : Int} : (XW G σ).set 3 (g_ad G 2, .inl (g_d G, 7, .inl (fun t : Nat => iI (sU σ 2 i v 2 (t : Int))))) = XW G (sU σ 2 i v) := by
  have e0 : ∀ t : Int, sU σ 2 i v 0 t = σ 0 t := fun t => sU_nf (by decide)
  have e1 : ∀ t : Int, sU σ 2 i v 1 t = σ 1 t := fun t => sU_nf (by decide)
  have e3 : ∀ t : Int, sU σ 2 i v 3 t = σ 3 t := fun t => sU_nf (by decide)
  have e4 : ∀ t : Int, sU σ 2 i v 4 t = σ 4 t := fun t => sU_nf (by decide)
  have e5 : ∀ t : Int, sU σ 2 i v 5 t = σ 5 t := fun t => sU_nf (by decide)
  have e6 : ∀ t : Int, sU σ 2 i v 6 t = σ 6 t := fun t => sU_nf (by decide)
  have e7 : ∀ t : Int, sU σ 2 i v 7 t = σ 7 t := fun t => sU_nf (by decide)
  have e8 : ∀ t : Int, sU σ 2 i v 8 t = σ 8 t := fun t => sU_nf (by decide)
  have e9 : ∀ t : Int, sU σ 2 i v 9 t = σ 9 t := fun t => sU_nf (by decide)
  have e10 : ∀ t : Int, sU σ 2 i v 10 t = σ 10 t := fun t => sU_nf (by decide)
  unfold XW
  simp only [e0, e1, e3, e4, e5, e6, e7, e8, e9, e10]
  first | done | rfl
theorem xl_2 {i : Int} (C : gC G X cc nL RX0 k) (hd : decode cc pc = .ok (.iaload, 1)) (hi : 0 ≤ i ∧ i < 7) (kk : gAt G X (XW G) nL (pc + 1) ls (.int (iI (σ 2 i)) :: st) σ) : gAt G X (XW G) nL pc ls (.int (iI i) :: .ref (g_ad G 2) :: st) σ := x_iald C 3 2 7 rfl (by decide) hd ⟨hi.1, by have := hi.2; omega⟩ kk
theorem xs_2 {i v : Int} (C : gC G X cc nL RX0 k) (hd : decode cc pc = .ok (.iastore, 1)) (hi : 0 ≤ i ∧ i < 7) (kk : gAt G X (XW G) nL (pc + 1) ls st (sU σ 2 i v)) : gAt G X (XW G) nL pc ls (.int (iI v) :: .int (iI i) :: .ref (g_ad G 2) :: st) σ := x_iast C 3 2 7 rfl (by decide) xW_2 hd ⟨hi.1, by have := hi.2; omega⟩ kk
theorem xg_3 (C : gC G X cc nL RX0 k) (hd : decode cc pc = .ok (.getfield 19, 3)) (kk : gAt G X (XW G) nL (pc + 3) ls (.ref (g_ad G 3) :: st) σ) : gAt G X (XW G) nL pc ls (.ref (g_h G) :: st) σ := x_get C in_X0 rfl rfl 3 (by decide) rfl q36 rfl hd kk
theorem xW_3 {i v : Int} : (XW G σ).set 4 (g_ad G 3, .inl (g_d G, 7, .inl (fun t : Nat => iI (sU σ 3 i v 3 (t : Int))))) = XW G (sU σ 3 i v) := by
  have e0 : ∀ t : Int, sU σ 3 i v 0 t = σ 0 t := fun t => sU_nf (by decide)
  have e1 : ∀ t : Int, sU σ 3 i v 1 t = σ 1 t := fun t => sU_nf (by decide)
  have e2 : ∀ t : Int, sU σ 3 i v 2 t = σ 2 t := fun t => sU_nf (by decide)
  have e4 : ∀ t : Int, sU σ 3 i v 4 t = σ 4 t := fun t => sU_nf (by decide)
  have e5 : ∀ t : Int, sU σ 3 i v 5 t = σ 5 t := fun t => sU_nf (by decide)
  have e6 : ∀ t : Int, sU σ 3 i v 6 t = σ 6 t := fun t => sU_nf (by decide)
  have e7 : ∀ t : Int, sU σ 3 i v 7 t = σ 7 t := fun t => sU_nf (by decide)
  have e8 : ∀ t : Int, sU σ 3 i v 8 t = σ 8 t := fun t => sU_nf (by decide)
  have e9 : ∀ t : Int, sU σ 3 i v 9 t = σ 9 t := fun t => sU_nf (by decide)
  have e10 : ∀ t : Int, sU σ 3 i v 10 t = σ 10 t := fun t => sU_nf (by decide)
  unfold XW
  simp only [e0, e1, e2, e4, e5, e6, e7, e8, e9, e10]
  first | done | rfl
theorem xl_3 {i : Int} (C : gC G X cc nL RX0 k) (hd : decode cc pc = .ok (.iaload, 1)) (hi : 0 ≤ i ∧ i < 7) (kk : gAt G X (XW G) nL (pc + 1) ls (.int (iI (σ 3 i)) :: st) σ) : gAt G X (XW G) nL pc ls (.int (iI i) :: .ref (g_ad G 3) :: st) σ := x_iald C 4 3 7 rfl (by decide) hd ⟨hi.1, by have := hi.2; omega⟩ kk
theorem xs_3 {i v : Int} (C : gC G X cc nL RX0 k) (hd : decode cc pc = .ok (.iastore, 1)) (hi : 0 ≤ i ∧ i < 7) (kk : gAt G X (XW G) nL (pc + 1) ls st (sU σ 3 i v)) : gAt G X (XW G) nL pc ls (.int (iI v) :: .int (iI i) :: .ref (g_ad G 3) :: st) σ := x_iast C 4 3 7 rfl (by decide) xW_3 hd ⟨hi.1, by have := hi.2; omega⟩ kk
theorem xg_4 (C : gC G X cc nL RX0 k) (hd : decode cc pc = .ok (.getfield 22, 3)) (kk : gAt G X (XW G) nL (pc + 3) ls (.ref (g_ad G 4) :: st) σ) : gAt G X (XW G) nL pc ls (.ref (g_h G) :: st) σ := x_get C in_X0 rfl rfl 4 (by decide) rfl q37 rfl hd kk
theorem xW_4 {i v : Int} : (XW G σ).set 5 (g_ad G 4, .inl (g_d G, 2248, .inl (fun t : Nat => iI (sU σ 4 i v 4 (t : Int))))) = XW G (sU σ 4 i v) := by
  have e0 : ∀ t : Int, sU σ 4 i v 0 t = σ 0 t := fun t => sU_nf (by decide)
  have e1 : ∀ t : Int, sU σ 4 i v 1 t = σ 1 t := fun t => sU_nf (by decide)
  have e2 : ∀ t : Int, sU σ 4 i v 2 t = σ 2 t := fun t => sU_nf (by decide)
  have e3 : ∀ t : Int, sU σ 4 i v 3 t = σ 3 t := fun t => sU_nf (by decide)
  have e5 : ∀ t : Int, sU σ 4 i v 5 t = σ 5 t := fun t => sU_nf (by decide)
  have e6 : ∀ t : Int, sU σ 4 i v 6 t = σ 6 t := fun t => sU_nf (by decide)
  have e7 : ∀ t : Int, sU σ 4 i v 7 t = σ 7 t := fun t => sU_nf (by decide)
  have e8 : ∀ t : Int, sU σ 4 i v 8 t = σ 8 t := fun t => sU_nf (by decide)
  have e9 : ∀ t : Int, sU σ 4 i v 9 t = σ 9 t := fun t => sU_nf (by decide)
  have e10 : ∀ t : Int, sU σ 4 i v 10 t = σ 10 t := fun t => sU_nf (by decide)
  unfold XW
  simp only [e0, e1, e2, e3, e5, e6, e7, e8, e9, e10]
  first | done | rfl
theorem xl_4 {i : Int} (C : gC G X cc nL RX0 k) (hd : decode cc pc = .ok (.iaload, 1)) (hi : 0 ≤ i ∧ i < 2248) (kk : gAt G X (XW G) nL (pc + 1) ls (.int (iI (σ 4 i)) :: st) σ) : gAt G X (XW G) nL pc ls (.int (iI i) :: .ref (g_ad G 4) :: st) σ := x_iald C 5 4 2248 rfl (by decide) hd ⟨hi.1, by have := hi.2; omega⟩ kk
theorem xs_4 {i v : Int} (C : gC G X cc nL RX0 k) (hd : decode cc pc = .ok (.iastore, 1)) (hi : 0 ≤ i ∧ i < 2248) (kk : gAt G X (XW G) nL (pc + 1) ls st (sU σ 4 i v)) : gAt G X (XW G) nL pc ls (.int (iI v) :: .int (iI i) :: .ref (g_ad G 4) :: st) σ := x_iast C 5 4 2248 rfl (by decide) xW_4 hd ⟨hi.1, by have := hi.2; omega⟩ kk
theorem xg_5 (C : gC G X cc nL RX0 k) (hd : decode cc pc = .ok (.getfield 25, 3)) (kk : gAt G X (XW G) nL (pc + 3) ls (.ref (g_ad G 5) :: st) σ) : gAt G X (XW G) nL pc ls (.ref (g_h G) :: st) σ := x_get C in_X0 rfl rfl 5 (by decide) rfl q38 rfl hd kk
theorem xW_5 {i v : Int} : (XW G σ).set 6 (g_ad G 5, .inl (g_d G, 2248, .inl (fun t : Nat => iI (sU σ 5 i v 5 (t : Int))))) = XW G (sU σ 5 i v) := by
  have e0 : ∀ t : Int, sU σ 5 i v 0 t = σ 0 t := fun t => sU_nf (by decide)
  have e1 : ∀ t : Int, sU σ 5 i v 1 t = σ 1 t := fun t => sU_nf (by decide)
  have e2 : ∀ t : Int, sU σ 5 i v 2 t = σ 2 t := fun t => sU_nf (by decide)
  have e3 : ∀ t : Int, sU σ 5 i v 3 t = σ 3 t := fun t => sU_nf (by decide)
  have e4 : ∀ t : Int, sU σ 5 i v 4 t = σ 4 t := fun t => sU_nf (by decide)
  have e6 : ∀ t : Int, sU σ 5 i v 6 t = σ 6 t := fun t => sU_nf (by decide)
  have e7 : ∀ t : Int, sU σ 5 i v 7 t = σ 7 t := fun t => sU_nf (by decide)
  have e8 : ∀ t : Int, sU σ 5 i v 8 t = σ 8 t := fun t => sU_nf (by decide)
  have e9 : ∀ t : Int, sU σ 5 i v 9 t = σ 9 t := fun t => sU_nf (by decide)
  have e10 : ∀ t : Int, sU σ 5 i v 10 t = σ 10 t := fun t => sU_nf (by decide)
  unfold XW
  simp only [e0, e1, e2, e3, e4, e6, e7, e8, e9, e10]
  first | done | rfl
theorem xl_5 {i : Int} (C : gC G X cc nL RX0 k) (hd : decode cc pc = .ok (.iaload, 1)) (hi : 0 ≤ i ∧ i < 2248) (kk : gAt G X (XW G) nL (pc + 1) ls (.int (iI (σ 5 i)) :: st) σ) : gAt G X (XW G) nL pc ls (.int (iI i) :: .ref (g_ad G 5) :: st) σ := x_iald C 6 5 2248 rfl (by decide) hd ⟨hi.1, by have := hi.2; omega⟩ kk
theorem xs_5 {i v : Int} (C : gC G X cc nL RX0 k) (hd : decode cc pc = .ok (.iastore, 1)) (hi : 0 ≤ i ∧ i < 2248) (kk : gAt G X (XW G) nL (pc + 1) ls st (sU σ 5 i v)) : gAt G X (XW G) nL pc ls (.int (iI v) :: .int (iI i) :: .ref (g_ad G 5) :: st) σ := x_iast C 6 5 2248 rfl (by decide) xW_5 hd ⟨hi.1, by have := hi.2; omega⟩ kk
theorem xg_6 (C : gC G X cc nL RX0 k) (hd : decode cc pc = .ok (.getfield 28, 3)) (kk : gAt G X (XW G) nL (pc + 3) ls (.ref (g_ad G 6) :: st) σ) : gAt G X (XW G) nL pc ls (.ref (g_h G) :: st) σ := x_get C in_X0 rfl rfl 6 (by decide) rfl q39 rfl hd kk
theorem xW_6 {i v : Int} : (XW G σ).set 7 (g_ad G 6, .inl (g_d G, 1405, .inl (fun t : Nat => iI (sU σ 6 i v 6 (t : Int))))) = XW G (sU σ 6 i v) := by
  have e0 : ∀ t : Int, sU σ 6 i v 0 t = σ 0 t := fun t => sU_nf (by decide)
  have e1 : ∀ t : Int, sU σ 6 i v 1 t = σ 1 t := fun t => sU_nf (by decide)
  have e2 : ∀ t : Int, sU σ 6 i v 2 t = σ 2 t := fun t => sU_nf (by decide)
  have e3 : ∀ t : Int, sU σ 6 i v 3 t = σ 3 t := fun t => sU_nf (by decide)
  have e4 : ∀ t : Int, sU σ 6 i v 4 t = σ 4 t := fun t => sU_nf (by decide)
  have e5 : ∀ t : Int, sU σ 6 i v 5 t = σ 5 t := fun t => sU_nf (by decide)
  have e7 : ∀ t : Int, sU σ 6 i v 7 t = σ 7 t := fun t => sU_nf (by decide)
  have e8 : ∀ t : Int, sU σ 6 i v 8 t = σ 8 t := fun t => sU_nf (by decide)
  have e9 : ∀ t : Int, sU σ 6 i v 9 t = σ 9 t := fun t => sU_nf (by decide)
  have e10 : ∀ t : Int, sU σ 6 i v 10 t = σ 10 t := fun t => sU_nf (by decide)
  unfold XW
  simp only [e0, e1, e2, e3, e4, e5, e7, e8, e9, e10]
  first | done | rfl
theorem xl_6 {i : Int} (C : gC G X cc nL RX0 k) (hd : decode cc pc = .ok (.iaload, 1)) (hi : 0 ≤ i ∧ i < 1405) (kk : gAt G X (XW G) nL (pc + 1) ls (.int (iI (σ 6 i)) :: st) σ) : gAt G X (XW G) nL pc ls (.int (iI i) :: .ref (g_ad G 6) :: st) σ := x_iald C 7 6 1405 rfl (by decide) hd ⟨hi.1, by have := hi.2; omega⟩ kk
theorem xs_6 {i v : Int} (C : gC G X cc nL RX0 k) (hd : decode cc pc = .ok (.iastore, 1)) (hi : 0 ≤ i ∧ i < 1405) (kk : gAt G X (XW G) nL (pc + 1) ls st (sU σ 6 i v)) : gAt G X (XW G) nL pc ls (.int (iI v) :: .int (iI i) :: .ref (g_ad G 6) :: st) σ := x_iast C 7 6 1405 rfl (by decide) xW_6 hd ⟨hi.1, by have := hi.2; omega⟩ kk
theorem xg_7 (C : gC G X cc nL RX0 k) (hd : decode cc pc = .ok (.getfield 31, 3)) (kk : gAt G X (XW G) nL (pc + 3) ls (.ref (g_ad G 7) :: st) σ) : gAt G X (XW G) nL pc ls (.ref (g_h G) :: st) σ := x_get C in_X0 rfl rfl 7 (by decide) rfl q40 rfl hd kk
theorem xW_7 {i v : Int} : (XW G σ).set 8 (g_ad G 7, .inl (g_d G, 7, .inl (fun t : Nat => iI (sU σ 7 i v 7 (t : Int))))) = XW G (sU σ 7 i v) := by
  have e0 : ∀ t : Int, sU σ 7 i v 0 t = σ 0 t := fun t => sU_nf (by decide)
  have e1 : ∀ t : Int, sU σ 7 i v 1 t = σ 1 t := fun t => sU_nf (by decide)
  have e2 : ∀ t : Int, sU σ 7 i v 2 t = σ 2 t := fun t => sU_nf (by decide)
  have e3 : ∀ t : Int, sU σ 7 i v 3 t = σ 3 t := fun t => sU_nf (by decide)
  have e4 : ∀ t : Int, sU σ 7 i v 4 t = σ 4 t := fun t => sU_nf (by decide)
  have e5 : ∀ t : Int, sU σ 7 i v 5 t = σ 5 t := fun t => sU_nf (by decide)
  have e6 : ∀ t : Int, sU σ 7 i v 6 t = σ 6 t := fun t => sU_nf (by decide)
  have e8 : ∀ t : Int, sU σ 7 i v 8 t = σ 8 t := fun t => sU_nf (by decide)
  have e9 : ∀ t : Int, sU σ 7 i v 9 t = σ 9 t := fun t => sU_nf (by decide)
  have e10 : ∀ t : Int, sU σ 7 i v 10 t = σ 10 t := fun t => sU_nf (by decide)
  unfold XW
  simp only [e0, e1, e2, e3, e4, e5, e6, e8, e9, e10]
  first | done | rfl
theorem xl_7 {i : Int} (C : gC G X cc nL RX0 k) (hd : decode cc pc = .ok (.iaload, 1)) (hi : 0 ≤ i ∧ i < 7) (kk : gAt G X (XW G) nL (pc + 1) ls (.int (iI (σ 7 i)) :: st) σ) : gAt G X (XW G) nL pc ls (.int (iI i) :: .ref (g_ad G 7) :: st) σ := x_iald C 8 7 7 rfl (by decide) hd ⟨hi.1, by have := hi.2; omega⟩ kk
theorem xs_7 {i v : Int} (C : gC G X cc nL RX0 k) (hd : decode cc pc = .ok (.iastore, 1)) (hi : 0 ≤ i ∧ i < 7) (kk : gAt G X (XW G) nL (pc + 1) ls st (sU σ 7 i v)) : gAt G X (XW G) nL pc ls (.int (iI v) :: .int (iI i) :: .ref (g_ad G 7) :: st) σ := x_iast C 8 7 7 rfl (by decide) xW_7 hd ⟨hi.1, by have := hi.2; omega⟩ kk
theorem xg_8 (C : gC G X cc nL RX0 k) (hd : decode cc pc = .ok (.getfield 34, 3)) (kk : gAt G X (XW G) nL (pc + 3) ls (.ref (g_ad G 8) :: st) σ) : gAt G X (XW G) nL pc ls (.ref (g_h G) :: st) σ := x_get C in_X0 rfl rfl 8 (by decide) rfl q41 rfl hd kk
theorem xW_8 {i v : Int} : (XW G σ).set 9 (g_ad G 8, .inl (g_d G, 3721, .inl (fun t : Nat => iI (sU σ 8 i v 8 (t : Int))))) = XW G (sU σ 8 i v) := by
  have e0 : ∀ t : Int, sU σ 8 i v 0 t = σ 0 t := fun t => sU_nf (by decide)
  have e1 : ∀ t : Int, sU σ 8 i v 1 t = σ 1 t := fun t => sU_nf (by decide)
  have e2 : ∀ t : Int, sU σ 8 i v 2 t = σ 2 t := fun t => sU_nf (by decide)
  have e3 : ∀ t : Int, sU σ 8 i v 3 t = σ 3 t := fun t => sU_nf (by decide)
  have e4 : ∀ t : Int, sU σ 8 i v 4 t = σ 4 t := fun t => sU_nf (by decide)
  have e5 : ∀ t : Int, sU σ 8 i v 5 t = σ 5 t := fun t => sU_nf (by decide)
  have e6 : ∀ t : Int, sU σ 8 i v 6 t = σ 6 t := fun t => sU_nf (by decide)
  have e7 : ∀ t : Int, sU σ 8 i v 7 t = σ 7 t := fun t => sU_nf (by decide)
  have e9 : ∀ t : Int, sU σ 8 i v 9 t = σ 9 t := fun t => sU_nf (by decide)
  have e10 : ∀ t : Int, sU σ 8 i v 10 t = σ 10 t := fun t => sU_nf (by decide)
  unfold XW
  simp only [e0, e1, e2, e3, e4, e5, e6, e7, e9, e10]
  first | done | rfl
theorem xl_8 {i : Int} (C : gC G X cc nL RX0 k) (hd : decode cc pc = .ok (.iaload, 1)) (hi : 0 ≤ i ∧ i < 3721) (kk : gAt G X (XW G) nL (pc + 1) ls (.int (iI (σ 8 i)) :: st) σ) : gAt G X (XW G) nL pc ls (.int (iI i) :: .ref (g_ad G 8) :: st) σ := x_iald C 9 8 3721 rfl (by decide) hd ⟨hi.1, by have := hi.2; omega⟩ kk
theorem xs_8 {i v : Int} (C : gC G X cc nL RX0 k) (hd : decode cc pc = .ok (.iastore, 1)) (hi : 0 ≤ i ∧ i < 3721) (kk : gAt G X (XW G) nL (pc + 1) ls st (sU σ 8 i v)) : gAt G X (XW G) nL pc ls (.int (iI v) :: .int (iI i) :: .ref (g_ad G 8) :: st) σ := x_iast C 9 8 3721 rfl (by decide) xW_8 hd ⟨hi.1, by have := hi.2; omega⟩ kk
theorem xg_9 (C : gC G X cc nL RX0 k) (hd : decode cc pc = .ok (.getfield 41, 3)) (kk : gAt G X (XW G) nL (pc + 3) ls (.int (iI (σ 9 0)) :: st) σ) : gAt G X (XW G) nL pc ls (.ref (g_h G) :: st) σ := x_get C in_X0 rfl rfl 9 (by decide) rfl q42 rfl hd kk
theorem xW_9 {v : Int} : (XW G σ).set 0 (g_h G, .inr (0, ([.ref (g_ad G 0), .ref (g_ad G 1), .ref (g_ad G 2), .ref (g_ad G 3), .ref (g_ad G 4), .ref (g_ad G 5), .ref (g_ad G 6), .ref (g_ad G 7), .ref (g_ad G 8), .int (iI (σ 9 0)), .int (iI (σ 10 0))] : List Value).set 9 (.int (iI v)))) = XW G (sU σ 9 0 v) := by
  have e0 : ∀ t : Int, sU σ 9 0 v 0 t = σ 0 t := fun t => sU_nf (by decide)
  have e1 : ∀ t : Int, sU σ 9 0 v 1 t = σ 1 t := fun t => sU_nf (by decide)
  have e2 : ∀ t : Int, sU σ 9 0 v 2 t = σ 2 t := fun t => sU_nf (by decide)
  have e3 : ∀ t : Int, sU σ 9 0 v 3 t = σ 3 t := fun t => sU_nf (by decide)
  have e4 : ∀ t : Int, sU σ 9 0 v 4 t = σ 4 t := fun t => sU_nf (by decide)
  have e5 : ∀ t : Int, sU σ 9 0 v 5 t = σ 5 t := fun t => sU_nf (by decide)
  have e6 : ∀ t : Int, sU σ 9 0 v 6 t = σ 6 t := fun t => sU_nf (by decide)
  have e7 : ∀ t : Int, sU σ 9 0 v 7 t = σ 7 t := fun t => sU_nf (by decide)
  have e8 : ∀ t : Int, sU σ 9 0 v 8 t = σ 8 t := fun t => sU_nf (by decide)
  have e10 : ∀ t : Int, sU σ 9 0 v 10 t = σ 10 t := fun t => sU_nf (by decide)
  unfold XW
  simp only [e0, e1, e2, e3, e4, e5, e6, e7, e8, e10, sU_eq]
  first | done | rfl
theorem xp_9 {v : Int} (C : gC G X cc nL RX0 k) (hd : decode cc pc = .ok (.putfield 41, 3)) (kk : gAt G X (XW G) nL (pc + 3) ls st (sU σ 9 0 v)) : gAt G X (XW G) nL pc ls (.int (iI v) :: .ref (g_h G) :: st) σ := x_put C in_X0 tyX0 tyX0_ok nmX0 rfl rfl 9 (by decide) rfl q42 rfl (by decide +kernel) (Nat.le_of_ble_eq_true rfl) xW_9 hd kk
theorem xg_10 (C : gC G X cc nL RX0 k) (hd : decode cc pc = .ok (.getfield 37, 3)) (kk : gAt G X (XW G) nL (pc + 3) ls (.int (iI (σ 10 0)) :: st) σ) : gAt G X (XW G) nL pc ls (.ref (g_h G) :: st) σ := x_get C in_X0 rfl rfl 10 (by decide) rfl q43 rfl hd kk
theorem xW_10 {v : Int} : (XW G σ).set 0 (g_h G, .inr (0, ([.ref (g_ad G 0), .ref (g_ad G 1), .ref (g_ad G 2), .ref (g_ad G 3), .ref (g_ad G 4), .ref (g_ad G 5), .ref (g_ad G 6), .ref (g_ad G 7), .ref (g_ad G 8), .int (iI (σ 9 0)), .int (iI (σ 10 0))] : List Value).set 10 (.int (iI v)))) = XW G (sU σ 10 0 v) := by
  have e0 : ∀ t : Int, sU σ 10 0 v 0 t = σ 0 t := fun t => sU_nf (by decide)
  have e1 : ∀ t : Int, sU σ 10 0 v 1 t = σ 1 t := fun t => sU_nf (by decide)
  have e2 : ∀ t : Int, sU σ 10 0 v 2 t = σ 2 t := fun t => sU_nf (by decide)
  have e3 : ∀ t : Int, sU σ 10 0 v 3 t = σ 3 t := fun t => sU_nf (by decide)
  have e4 : ∀ t : Int, sU σ 10 0 v 4 t = σ 4 t := fun t => sU_nf (by decide)
  have e5 : ∀ t : Int, sU σ 10 0 v 5 t = σ 5 t := fun t => sU_nf (by decide)
  have e6 : ∀ t : Int, sU σ 10 0 v 6 t = σ 6 t := fun t => sU_nf (by decide)
  have e7 : ∀ t : Int, sU σ 10 0 v 7 t = σ 7 t := fun t => sU_nf (by decide)
  have e8 : ∀ t : Int, sU σ 10 0 v 8 t = σ 8 t := fun t => sU_nf (by decide)
  have e9 : ∀ t : Int, sU σ 10 0 v 9 t = σ 9 t := fun t => sU_nf (by decide)
  unfold XW
  simp only [e0, e1, e2, e3, e4, e5, e6, e7, e8, e9, sU_eq]
  first | done | rfl
theorem xp_10 {v : Int} (C : gC G X cc nL RX0 k) (hd : decode cc pc = .ok (.putfield 37, 3)) (kk : gAt G X (XW G) nL (pc + 3) ls st (sU σ 10 0 v)) : gAt G X (XW G) nL pc ls (.int (iI v) :: .ref (g_h G) :: st) σ := x_put C in_X0 tyX0 tyX0_ok nmX0 rfl rfl 10 (by decide) rfl q43 rfl (by decide +kernel) (Nat.le_of_ble_eq_true rfl) xW_10 hd kk
end
def MW (G : gG) (σ : gS) : va_W := [(g_h G, .inr (1, [.int (iI (σ 0 0)), .ref (g_ad G 1), .ref (g_ad G 2), .ref (g_ad G 3), .ref (g_ad G 4), .int (iI (σ 5 0)), .ref (g_ad G 6), .int (iI (σ 7 0)), .int (iI (σ 8 0))])), (g_ad G 1, .inl (g_d G, 7, .inl (fun t : Nat => iI (σ 1 (t : Int))))), (g_ad G 2, .inl (g_d G, 7, .inl (fun t : Nat => iI (σ 2 (t : Int))))), (g_ad G 3, .inl (g_d G, 7, .inl (fun t : Nat => iI (σ 3 (t : Int))))), (g_ad G 4, .inl (g_d G, 7, .inl (fun t : Nat => iI (σ 4 (t : Int))))), (g_ad G 6, .inl (g_d G, 7, .inl (fun t : Nat => iI (σ 6 (t : Int)))))]
section
variable {G : gG} {X : gX} {nL pc k : Nat} {ls : List (Nat × Value)} {st : List Value} {σ : gS} {cc : ByteArray}
theorem mg_0 (C : gC G X cc nL RX1 k) (hd : decode cc pc = .ok (.getfield 29, 3)) (kk : gAt G X (MW G) nL (pc + 3) ls (.int (iI (σ 0 0)) :: st) σ) : gAt G X (MW G) nL pc ls (.ref (g_h G) :: st) σ := x_get C in_X1 rfl rfl 0 (by decide) rfl q199 rfl hd kk
theorem mW_0 {v : Int} : (MW G σ).set 0 (g_h G, .inr (1, ([.int (iI (σ 0 0)), .ref (g_ad G 1), .ref (g_ad G 2), .ref (g_ad G 3), .ref (g_ad G 4), .int (iI (σ 5 0)), .ref (g_ad G 6), .int (iI (σ 7 0)), .int (iI (σ 8 0))] : List Value).set 0 (.int (iI v)))) = MW G (sU σ 0 0 v) := by
  have e1 : ∀ t : Int, sU σ 0 0 v 1 t = σ 1 t := fun t => sU_nf (by decide)
  have e2 : ∀ t : Int, sU σ 0 0 v 2 t = σ 2 t := fun t => sU_nf (by decide)
  have e3 : ∀ t : Int, sU σ 0 0 v 3 t = σ 3 t := fun t => sU_nf (by decide)
  have e4 : ∀ t : Int, sU σ 0 0 v 4 t = σ 4 t := fun t => sU_nf (by decide)
  have e5 : ∀ t : Int, sU σ 0 0 v 5 t = σ 5 t := fun t => sU_nf (by decide)
  have e6 : ∀ t : Int, sU σ 0 0 v 6 t = σ 6 t := fun t => sU_nf (by decide)
  have e7 : ∀ t : Int, sU σ 0 0 v 7 t = σ 7 t := fun t => sU_nf (by decide)
  have e8 : ∀ t : Int, sU σ 0 0 v 8 t = σ 8 t := fun t => sU_nf (by decide)
  unfold MW
  simp only [e1, e2, e3, e4, e5, e6, e7, e8, sU_eq]
  first | done | rfl
theorem mp_0 {v : Int} (C : gC G X cc nL RX1 k) (hd : decode cc pc = .ok (.putfield 29, 3)) (kk : gAt G X (MW G) nL (pc + 3) ls st (sU σ 0 0 v)) : gAt G X (MW G) nL pc ls (.int (iI v) :: .ref (g_h G) :: st) σ := x_put C in_X1 tyX1 tyX1_ok nmX1 rfl rfl 0 (by decide) rfl q199 rfl (by decide +kernel) (Nat.le_of_ble_eq_true rfl) mW_0 hd kk
theorem mg_1 (C : gC G X cc nL RX1 k) (hd : decode cc pc = .ok (.getfield 7, 3)) (kk : gAt G X (MW G) nL (pc + 3) ls (.ref (g_ad G 1) :: st) σ) : gAt G X (MW G) nL pc ls (.ref (g_h G) :: st) σ := x_get C in_X1 rfl rfl 1 (by decide) rfl q200 rfl hd kk
theorem mW_1 {i v : Int} : (MW G σ).set 1 (g_ad G 1, .inl (g_d G, 7, .inl (fun t : Nat => iI (sU σ 1 i v 1 (t : Int))))) = MW G (sU σ 1 i v) := by
  have e0 : ∀ t : Int, sU σ 1 i v 0 t = σ 0 t := fun t => sU_nf (by decide)
  have e2 : ∀ t : Int, sU σ 1 i v 2 t = σ 2 t := fun t => sU_nf (by decide)
  have e3 : ∀ t : Int, sU σ 1 i v 3 t = σ 3 t := fun t => sU_nf (by decide)
  have e4 : ∀ t : Int, sU σ 1 i v 4 t = σ 4 t := fun t => sU_nf (by decide)
  have e5 : ∀ t : Int, sU σ 1 i v 5 t = σ 5 t := fun t => sU_nf (by decide)
  have e6 : ∀ t : Int, sU σ 1 i v 6 t = σ 6 t := fun t => sU_nf (by decide)
  have e7 : ∀ t : Int, sU σ 1 i v 7 t = σ 7 t := fun t => sU_nf (by decide)
  have e8 : ∀ t : Int, sU σ 1 i v 8 t = σ 8 t := fun t => sU_nf (by decide)
  unfold MW
  simp only [e0, e2, e3, e4, e5, e6, e7, e8]
  first | done | rfl
theorem ml_1 {i : Int} (C : gC G X cc nL RX1 k) (hd : decode cc pc = .ok (.iaload, 1)) (hi : 0 ≤ i ∧ i < 7) (kk : gAt G X (MW G) nL (pc + 1) ls (.int (iI (σ 1 i)) :: st) σ) : gAt G X (MW G) nL pc ls (.int (iI i) :: .ref (g_ad G 1) :: st) σ := x_iald C 1 1 7 rfl (by decide) hd ⟨hi.1, by have := hi.2; omega⟩ kk
theorem ms_1 {i v : Int} (C : gC G X cc nL RX1 k) (hd : decode cc pc = .ok (.iastore, 1)) (hi : 0 ≤ i ∧ i < 7) (kk : gAt G X (MW G) nL (pc + 1) ls st (sU σ 1 i v)) : gAt G X (MW G) nL pc ls (.int (iI v) :: .int (iI i) :: .ref (g_ad G 1) :: st) σ := x_iast C 1 1 7 rfl (by decide) mW_1 hd ⟨hi.1, by have := hi.2; omega⟩ kk
theorem mg_2 (C : gC G X cc nL RX1 k) (hd : decode cc pc = .ok (.getfield 13, 3)) (kk : gAt G X (MW G) nL (pc + 3) ls (.ref (g_ad G 2) :: st) σ) : gAt G X (MW G) nL pc ls (.ref (g_h G) :: st) σ := x_get C in_X1 rfl rfl 2 (by decide) rfl q201 rfl hd kk
theorem mW_2 {i v : Int} : (MW G σ).set 2 (g_ad G 2, .inl (g_d G, 7, .inl (fun t : Nat => iI (sU σ 2 i v 2 (t : Int))))) = MW G (sU σ 2 i v) := by
  have e0 : ∀ t : Int, sU σ 2 i v 0 t = σ 0 t := fun t => sU_nf (by decide)
  have e1 : ∀ t : Int, sU σ 2 i v 1 t = σ 1 t := fun t => sU_nf (by decide)
  have e3 : ∀ t : Int, sU σ 2 i v 3 t = σ 3 t := fun t => sU_nf (by decide)
  have e4 : ∀ t : Int, sU σ 2 i v 4 t = σ 4 t := fun t => sU_nf (by decide)
  have e5 : ∀ t : Int, sU σ 2 i v 5 t = σ 5 t := fun t => sU_nf (by decide)
  have e6 : ∀ t : Int, sU σ 2 i v 6 t = σ 6 t := fun t => sU_nf (by decide)
  have e7 : ∀ t : Int, sU σ 2 i v 7 t = σ 7 t := fun t => sU_nf (by decide)
  have e8 : ∀ t : Int, sU σ 2 i v 8 t = σ 8 t := fun t => sU_nf (by decide)
  unfold MW
  simp only [e0, e1, e3, e4, e5, e6, e7, e8]
  first | done | rfl
theorem ml_2 {i : Int} (C : gC G X cc nL RX1 k) (hd : decode cc pc = .ok (.iaload, 1)) (hi : 0 ≤ i ∧ i < 7) (kk : gAt G X (MW G) nL (pc + 1) ls (.int (iI (σ 2 i)) :: st) σ) : gAt G X (MW G) nL pc ls (.int (iI i) :: .ref (g_ad G 2) :: st) σ := x_iald C 2 2 7 rfl (by decide) hd ⟨hi.1, by have := hi.2; omega⟩ kk
theorem ms_2 {i v : Int} (C : gC G X cc nL RX1 k) (hd : decode cc pc = .ok (.iastore, 1)) (hi : 0 ≤ i ∧ i < 7) (kk : gAt G X (MW G) nL (pc + 1) ls st (sU σ 2 i v)) : gAt G X (MW G) nL pc ls (.int (iI v) :: .int (iI i) :: .ref (g_ad G 2) :: st) σ := x_iast C 2 2 7 rfl (by decide) mW_2 hd ⟨hi.1, by have := hi.2; omega⟩ kk
theorem mg_3 (C : gC G X cc nL RX1 k) (hd : decode cc pc = .ok (.getfield 16, 3)) (kk : gAt G X (MW G) nL (pc + 3) ls (.ref (g_ad G 3) :: st) σ) : gAt G X (MW G) nL pc ls (.ref (g_h G) :: st) σ := x_get C in_X1 rfl rfl 3 (by decide) rfl q202 rfl hd kk
theorem mW_3 {i v : Int} : (MW G σ).set 3 (g_ad G 3, .inl (g_d G, 7, .inl (fun t : Nat => iI (sU σ 3 i v 3 (t : Int))))) = MW G (sU σ 3 i v) := by
  have e0 : ∀ t : Int, sU σ 3 i v 0 t = σ 0 t := fun t => sU_nf (by decide)
  have e1 : ∀ t : Int, sU σ 3 i v 1 t = σ 1 t := fun t => sU_nf (by decide)
  have e2 : ∀ t : Int, sU σ 3 i v 2 t = σ 2 t := fun t => sU_nf (by decide)
  have e4 : ∀ t : Int, sU σ 3 i v 4 t = σ 4 t := fun t => sU_nf (by decide)
  have e5 : ∀ t : Int, sU σ 3 i v 5 t = σ 5 t := fun t => sU_nf (by decide)
  have e6 : ∀ t : Int, sU σ 3 i v 6 t = σ 6 t := fun t => sU_nf (by decide)
  have e7 : ∀ t : Int, sU σ 3 i v 7 t = σ 7 t := fun t => sU_nf (by decide)
  have e8 : ∀ t : Int, sU σ 3 i v 8 t = σ 8 t := fun t => sU_nf (by decide)
  unfold MW
  simp only [e0, e1, e2, e4, e5, e6, e7, e8]
  first | done | rfl
theorem ml_3 {i : Int} (C : gC G X cc nL RX1 k) (hd : decode cc pc = .ok (.iaload, 1)) (hi : 0 ≤ i ∧ i < 7) (kk : gAt G X (MW G) nL (pc + 1) ls (.int (iI (σ 3 i)) :: st) σ) : gAt G X (MW G) nL pc ls (.int (iI i) :: .ref (g_ad G 3) :: st) σ := x_iald C 3 3 7 rfl (by decide) hd ⟨hi.1, by have := hi.2; omega⟩ kk
theorem ms_3 {i v : Int} (C : gC G X cc nL RX1 k) (hd : decode cc pc = .ok (.iastore, 1)) (hi : 0 ≤ i ∧ i < 7) (kk : gAt G X (MW G) nL (pc + 1) ls st (sU σ 3 i v)) : gAt G X (MW G) nL pc ls (.int (iI v) :: .int (iI i) :: .ref (g_ad G 3) :: st) σ := x_iast C 3 3 7 rfl (by decide) mW_3 hd ⟨hi.1, by have := hi.2; omega⟩ kk
theorem mg_4 (C : gC G X cc nL RX1 k) (hd : decode cc pc = .ok (.getfield 19, 3)) (kk : gAt G X (MW G) nL (pc + 3) ls (.ref (g_ad G 4) :: st) σ) : gAt G X (MW G) nL pc ls (.ref (g_h G) :: st) σ := x_get C in_X1 rfl rfl 4 (by decide) rfl q203 rfl hd kk
theorem mW_4 {i v : Int} : (MW G σ).set 4 (g_ad G 4, .inl (g_d G, 7, .inl (fun t : Nat => iI (sU σ 4 i v 4 (t : Int))))) = MW G (sU σ 4 i v) := by
  have e0 : ∀ t : Int, sU σ 4 i v 0 t = σ 0 t := fun t => sU_nf (by decide)
  have e1 : ∀ t : Int, sU σ 4 i v 1 t = σ 1 t := fun t => sU_nf (by decide)
  have e2 : ∀ t : Int, sU σ 4 i v 2 t = σ 2 t := fun t => sU_nf (by decide)
  have e3 : ∀ t : Int, sU σ 4 i v 3 t = σ 3 t := fun t => sU_nf (by decide)
  have e5 : ∀ t : Int, sU σ 4 i v 5 t = σ 5 t := fun t => sU_nf (by decide)
  have e6 : ∀ t : Int, sU σ 4 i v 6 t = σ 6 t := fun t => sU_nf (by decide)
  have e7 : ∀ t : Int, sU σ 4 i v 7 t = σ 7 t := fun t => sU_nf (by decide)
  have e8 : ∀ t : Int, sU σ 4 i v 8 t = σ 8 t := fun t => sU_nf (by decide)
  unfold MW
  simp only [e0, e1, e2, e3, e5, e6, e7, e8]
  first | done | rfl
theorem ml_4 {i : Int} (C : gC G X cc nL RX1 k) (hd : decode cc pc = .ok (.iaload, 1)) (hi : 0 ≤ i ∧ i < 7) (kk : gAt G X (MW G) nL (pc + 1) ls (.int (iI (σ 4 i)) :: st) σ) : gAt G X (MW G) nL pc ls (.int (iI i) :: .ref (g_ad G 4) :: st) σ := x_iald C 4 4 7 rfl (by decide) hd ⟨hi.1, by have := hi.2; omega⟩ kk
theorem ms_4 {i v : Int} (C : gC G X cc nL RX1 k) (hd : decode cc pc = .ok (.iastore, 1)) (hi : 0 ≤ i ∧ i < 7) (kk : gAt G X (MW G) nL (pc + 1) ls st (sU σ 4 i v)) : gAt G X (MW G) nL pc ls (.int (iI v) :: .int (iI i) :: .ref (g_ad G 4) :: st) σ := x_iast C 4 4 7 rfl (by decide) mW_4 hd ⟨hi.1, by have := hi.2; omega⟩ kk
theorem mg_5 (C : gC G X cc nL RX1 k) (hd : decode cc pc = .ok (.getfield 22, 3)) (kk : gAt G X (MW G) nL (pc + 3) ls (.int (iI (σ 5 0)) :: st) σ) : gAt G X (MW G) nL pc ls (.ref (g_h G) :: st) σ := x_get C in_X1 rfl rfl 5 (by decide) rfl q204 rfl hd kk
theorem mW_5 {v : Int} : (MW G σ).set 0 (g_h G, .inr (1, ([.int (iI (σ 0 0)), .ref (g_ad G 1), .ref (g_ad G 2), .ref (g_ad G 3), .ref (g_ad G 4), .int (iI (σ 5 0)), .ref (g_ad G 6), .int (iI (σ 7 0)), .int (iI (σ 8 0))] : List Value).set 5 (.int (iI v)))) = MW G (sU σ 5 0 v) := by
  have e0 : ∀ t : Int, sU σ 5 0 v 0 t = σ 0 t := fun t => sU_nf (by decide)
  have e1 : ∀ t : Int, sU σ 5 0 v 1 t = σ 1 t := fun t => sU_nf (by decide)
  have e2 : ∀ t : Int, sU σ 5 0 v 2 t = σ 2 t := fun t => sU_nf (by decide)
  have e3 : ∀ t : Int, sU σ 5 0 v 3 t = σ 3 t := fun t => sU_nf (by decide)
  have e4 : ∀ t : Int, sU σ 5 0 v 4 t = σ 4 t := fun t => sU_nf (by decide)
  have e6 : ∀ t : Int, sU σ 5 0 v 6 t = σ 6 t := fun t => sU_nf (by decide)
  have e7 : ∀ t : Int, sU σ 5 0 v 7 t = σ 7 t := fun t => sU_nf (by decide)
  have e8 : ∀ t : Int, sU σ 5 0 v 8 t = σ 8 t := fun t => sU_nf (by decide)
  unfold MW
  simp only [e0, e1, e2, e3, e4, e6, e7, e8, sU_eq]
  first | done | rfl
theorem mp_5 {v : Int} (C : gC G X cc nL RX1 k) (hd : decode cc pc = .ok (.putfield 22, 3)) (kk : gAt G X (MW G) nL (pc + 3) ls st (sU σ 5 0 v)) : gAt G X (MW G) nL pc ls (.int (iI v) :: .ref (g_h G) :: st) σ := x_put C in_X1 tyX1 tyX1_ok nmX1 rfl rfl 5 (by decide) rfl q204 rfl (by decide +kernel) (Nat.le_of_ble_eq_true rfl) mW_5 hd kk
theorem mg_6 (C : gC G X cc nL RX1 k) (hd : decode cc pc = .ok (.getfield 26, 3)) (kk : gAt G X (MW G) nL (pc + 3) ls (.ref (g_ad G 6) :: st) σ) : gAt G X (MW G) nL pc ls (.ref (g_h G) :: st) σ := x_get C in_X1 rfl rfl 6 (by decide) rfl q205 rfl hd kk
theorem mW_6 {i v : Int} : (MW G σ).set 5 (g_ad G 6, .inl (g_d G, 7, .inl (fun t : Nat => iI (sU σ 6 i v 6 (t : Int))))) = MW G (sU σ 6 i v) := by
  have e0 : ∀ t : Int, sU σ 6 i v 0 t = σ 0 t := fun t => sU_nf (by decide)
  have e1 : ∀ t : Int, sU σ 6 i v 1 t = σ 1 t := fun t => sU_nf (by decide)
  have e2 : ∀ t : Int, sU σ 6 i v 2 t = σ 2 t := fun t => sU_nf (by decide)
  have e3 : ∀ t : Int, sU σ 6 i v 3 t = σ 3 t := fun t => sU_nf (by decide)
  have e4 : ∀ t : Int, sU σ 6 i v 4 t = σ 4 t := fun t => sU_nf (by decide)
  have e5 : ∀ t : Int, sU σ 6 i v 5 t = σ 5 t := fun t => sU_nf (by decide)
  have e7 : ∀ t : Int, sU σ 6 i v 7 t = σ 7 t := fun t => sU_nf (by decide)
  have e8 : ∀ t : Int, sU σ 6 i v 8 t = σ 8 t := fun t => sU_nf (by decide)
  unfold MW
  simp only [e0, e1, e2, e3, e4, e5, e7, e8]
  first | done | rfl
theorem ml_6 {i : Int} (C : gC G X cc nL RX1 k) (hd : decode cc pc = .ok (.iaload, 1)) (hi : 0 ≤ i ∧ i < 7) (kk : gAt G X (MW G) nL (pc + 1) ls (.int (iI (σ 6 i)) :: st) σ) : gAt G X (MW G) nL pc ls (.int (iI i) :: .ref (g_ad G 6) :: st) σ := x_iald C 5 6 7 rfl (by decide) hd ⟨hi.1, by have := hi.2; omega⟩ kk
theorem ms_6 {i v : Int} (C : gC G X cc nL RX1 k) (hd : decode cc pc = .ok (.iastore, 1)) (hi : 0 ≤ i ∧ i < 7) (kk : gAt G X (MW G) nL (pc + 1) ls st (sU σ 6 i v)) : gAt G X (MW G) nL pc ls (.int (iI v) :: .int (iI i) :: .ref (g_ad G 6) :: st) σ := x_iast C 5 6 7 rfl (by decide) mW_6 hd ⟨hi.1, by have := hi.2; omega⟩ kk
theorem mg_7 (C : gC G X cc nL RX1 k) (hd : decode cc pc = .ok (.getfield 40, 3)) (kk : gAt G X (MW G) nL (pc + 3) ls (.int (iI (σ 7 0)) :: st) σ) : gAt G X (MW G) nL pc ls (.ref (g_h G) :: st) σ := x_get C in_X1 rfl rfl 7 (by decide) rfl q206 rfl hd kk
theorem mW_7 {v : Int} : (MW G σ).set 0 (g_h G, .inr (1, ([.int (iI (σ 0 0)), .ref (g_ad G 1), .ref (g_ad G 2), .ref (g_ad G 3), .ref (g_ad G 4), .int (iI (σ 5 0)), .ref (g_ad G 6), .int (iI (σ 7 0)), .int (iI (σ 8 0))] : List Value).set 7 (.int (iI v)))) = MW G (sU σ 7 0 v) := by
  have e0 : ∀ t : Int, sU σ 7 0 v 0 t = σ 0 t := fun t => sU_nf (by decide)
  have e1 : ∀ t : Int, sU σ 7 0 v 1 t = σ 1 t := fun t => sU_nf (by decide)
  have e2 : ∀ t : Int, sU σ 7 0 v 2 t = σ 2 t := fun t => sU_nf (by decide)
  have e3 : ∀ t : Int, sU σ 7 0 v 3 t = σ 3 t := fun t => sU_nf (by decide)
  have e4 : ∀ t : Int, sU σ 7 0 v 4 t = σ 4 t := fun t => sU_nf (by decide)
  have e5 : ∀ t : Int, sU σ 7 0 v 5 t = σ 5 t := fun t => sU_nf (by decide)
  have e6 : ∀ t : Int, sU σ 7 0 v 6 t = σ 6 t := fun t => sU_nf (by decide)
  have e8 : ∀ t : Int, sU σ 7 0 v 8 t = σ 8 t := fun t => sU_nf (by decide)
  unfold MW
  simp only [e0, e1, e2, e3, e4, e5, e6, e8, sU_eq]
  first | done | rfl
theorem mp_7 {v : Int} (C : gC G X cc nL RX1 k) (hd : decode cc pc = .ok (.putfield 40, 3)) (kk : gAt G X (MW G) nL (pc + 3) ls st (sU σ 7 0 v)) : gAt G X (MW G) nL pc ls (.int (iI v) :: .ref (g_h G) :: st) σ := x_put C in_X1 tyX1 tyX1_ok nmX1 rfl rfl 7 (by decide) rfl q206 rfl (by decide +kernel) (Nat.le_of_ble_eq_true rfl) mW_7 hd kk
theorem mg_8 (C : gC G X cc nL RX1 k) (hd : decode cc pc = .ok (.getfield 43, 3)) (kk : gAt G X (MW G) nL (pc + 3) ls (.int (iI (σ 8 0)) :: st) σ) : gAt G X (MW G) nL pc ls (.ref (g_h G) :: st) σ := x_get C in_X1 rfl rfl 8 (by decide) rfl q207 rfl hd kk
theorem mW_8 {v : Int} : (MW G σ).set 0 (g_h G, .inr (1, ([.int (iI (σ 0 0)), .ref (g_ad G 1), .ref (g_ad G 2), .ref (g_ad G 3), .ref (g_ad G 4), .int (iI (σ 5 0)), .ref (g_ad G 6), .int (iI (σ 7 0)), .int (iI (σ 8 0))] : List Value).set 8 (.int (iI v)))) = MW G (sU σ 8 0 v) := by
  have e0 : ∀ t : Int, sU σ 8 0 v 0 t = σ 0 t := fun t => sU_nf (by decide)
  have e1 : ∀ t : Int, sU σ 8 0 v 1 t = σ 1 t := fun t => sU_nf (by decide)
  have e2 : ∀ t : Int, sU σ 8 0 v 2 t = σ 2 t := fun t => sU_nf (by decide)
  have e3 : ∀ t : Int, sU σ 8 0 v 3 t = σ 3 t := fun t => sU_nf (by decide)
  have e4 : ∀ t : Int, sU σ 8 0 v 4 t = σ 4 t := fun t => sU_nf (by decide)
  have e5 : ∀ t : Int, sU σ 8 0 v 5 t = σ 5 t := fun t => sU_nf (by decide)
  have e6 : ∀ t : Int, sU σ 8 0 v 6 t = σ 6 t := fun t => sU_nf (by decide)
  have e7 : ∀ t : Int, sU σ 8 0 v 7 t = σ 7 t := fun t => sU_nf (by decide)
  unfold MW
  simp only [e0, e1, e2, e3, e4, e5, e6, e7, sU_eq]
  first | done | rfl
theorem mp_8 {v : Int} (C : gC G X cc nL RX1 k) (hd : decode cc pc = .ok (.putfield 43, 3)) (kk : gAt G X (MW G) nL (pc + 3) ls st (sU σ 8 0 v)) : gAt G X (MW G) nL pc ls (.int (iI v) :: .ref (g_h G) :: st) σ := x_put C in_X1 tyX1 tyX1_ok nmX1 rfl rfl 8 (by decide) rfl q207 rfl (by decide +kernel) (Nat.le_of_ble_eq_true rfl) mW_8 hd kk
end
end
section
/-! what each method needs so that it ends in post: by its blocks; printed by gen.py out of the bytecode -/
set_option maxRecDepth 100000
def Ok_X0_put (a1 a2 a3 a4 : Int) (σ : gS) (post : gS → Prop) : Prop :=
  (0 ≤ (σ 9 0) ∧ (σ 9 0) < 7) ∧ (0 ≤ ((sU σ 0 (σ 9 0) a1) 9 0) ∧ ((sU σ 0 (σ 9 0) a1) 9 0) < 7) ∧ (0 ≤ ((sU (sU σ 0 (σ 9 0) a1) 1 ((sU σ 0 (σ 9 0) a1) 9 0) a2) 9 0) ∧ ((sU (sU σ 0 (σ 9 0) a1) 1 ((sU σ 0 (σ 9 0) a1) 9 0) a2) 9 0) < 7) ∧ (0 ≤ ((sU (sU (sU σ 0 (σ 9 0) a1) 1 ((sU σ 0 (σ 9 0) a1) 9 0) a2) 2 ((sU (sU σ 0 (σ 9 0) a1) 1 ((sU σ 0 (σ 9 0) a1) 9 0) a2) 9 0) a3) 9 0) ∧ ((sU (sU (sU σ 0 (σ 9 0) a1) 1 ((sU σ 0 (σ 9 0) a1) 9 0) a2) 2 ((sU (sU σ 0 (σ 9 0) a1) 1 ((sU σ 0 (σ 9 0) a1) 9 0) a2) 9 0) a3) 9 0) < 7) ∧ post (sU (sU (sU (sU (sU σ 0 (σ 9 0) a1) 1 ((sU σ 0 (σ 9 0) a1) 9 0) a2) 2 ((sU (sU σ 0 (σ 9 0) a1) 1 ((sU σ 0 (σ 9 0) a1) 9 0) a2) 9 0) a3) 3 ((sU (sU (sU σ 0 (σ 9 0) a1) 1 ((sU σ 0 (σ 9 0) a1) 9 0) a2) 2 ((sU (sU σ 0 (σ 9 0) a1) 1 ((sU σ 0 (σ 9 0) a1) 9 0) a2) 9 0) a3) 9 0) a4) 9 0 (((sU (sU (sU (sU σ 0 (σ 9 0) a1) 1 ((sU σ 0 (σ 9 0) a1) 9 0) a2) 2 ((sU (sU σ 0 (σ 9 0) a1) 1 ((sU σ 0 (σ 9 0) a1) 9 0) a2) 9 0) a3) 3 ((sU (sU (sU σ 0 (σ 9 0) a1) 1 ((sU σ 0 (σ 9 0) a1) 9 0) a2) 2 ((sU (sU σ 0 (σ 9 0) a1) 1 ((sU σ 0 (σ 9 0) a1) 9 0) a2) 9 0) a3) 9 0) a4) 9 0) + 1))
def Ok_X0_add (a1 a2 a3 : Int) (σ : gS) (post : Int → gS → Prop) : Prop :=
  (gR a1) ∧ ((a1 < 1 → post (-1) σ) ∧ (1 ≤ a1 → ((a1 ≤ 20 → (gR a2) ∧ ((a2 < 0 → post (-2) σ) ∧ (0 ≤ a2 → ((a2 ≤ 50 → (gR a3) ∧ ((a3 < 4 → post (-3) σ) ∧ (4 ≤ a3 → ((a3 ≤ 11 → (gR (σ 9 0)) ∧ ((¬ (σ 9 0) = 7 → (0 ≤ a3 ∧ a3 ≤ 2147483647) ∧ Ok_X0_put a1 a2 (a3 / 4) (a3 % 4) σ (fun s61 : gS => post ((s61 9 0) - 1) s61)) ∧ ((σ 9 0) = 7 → post (-4) σ))) ∧ (11 < a3 → post (-3) σ))))) ∧ (50 < a2 → post (-2) σ))))) ∧ (20 < a1 → post (-1) σ))))
def Ok_X0_sow (a1 a2 : Int) (σ : gS) (post : Int → gS → Prop) : Prop :=
  ∀ (Z28 : Int → gS → Prop),
  (∀ (x3 : Int) (σ : gS), (gR x3) ∧ (gR a2) ∧ ((a2 ≤ x3 → post (σ 9 0) σ) ∧ (x3 < a2 → (gR (σ 9 0)) ∧ ((7 ≤ (σ 9 0) → post (σ 9 0) σ) ∧ ((σ 9 0) < 7 → (0 ≤ (a1 + (5 * x3)) ∧ (a1 + (5 * x3)) ≤ 2147483647) ∧ (∀ v52 : Int, v52 = (1 + ((a1 + (5 * x3)) % 20)) → (0 ≤ ((a1 * 3) + ((7 * x3) * x3)) ∧ ((a1 * 3) + ((7 * x3) * x3)) ≤ 2147483647) ∧ (∀ v67 : Int, v67 = (((a1 * 3) + ((7 * x3) * x3)) % 51) → (0 ≤ (a1 + x3) ∧ (a1 + x3) ≤ 2147483647) ∧ (0 ≤ (a1 + (x3 * x3)) ∧ (a1 + (x3 * x3)) ≤ 2147483647) ∧ Ok_X0_put v52 v67 (1 + ((a1 + x3) % 2)) ((a1 + (x3 * x3)) % 4) σ (fun s88 : gS => Z28 (x3 + 1) s88))))))) → Z28 x3 σ) →
  (gR a1) ∧ ((a1 < 0 → post (-1) σ) ∧ (0 ≤ a1 → ((a1 ≤ 100 → (gR a2) ∧ ((a2 < 1 → post (-2) σ) ∧ (1 ≤ a2 → ((a2 ≤ 7 → Z28 0 σ) ∧ (7 < a2 → post (-2) σ))))) ∧ (100 < a1 → post (-1) σ))))
def Ok_X0_isGood (a1 : Int) (σ : gS) (post : Int → gS → Prop) : Prop :=
  (gR a1) ∧ ((a1 < 0 → post 0 σ) ∧ (0 ≤ a1 → (gR (σ 9 0)) ∧ (((σ 9 0) ≤ a1 → post 0 σ) ∧ (a1 < (σ 9 0) → post 1 σ))))
def Ok_X0_drop (a1 : Int) (σ : gS) (post : Int → gS → Prop) : Prop :=
  ∀ (Z14 : Int → gS → Prop),
  (∀ (x2 : Int) (σ : gS), (gR x2) ∧ (gR (σ 9 0)) ∧ (((σ 9 0) ≤ x2 → post ((sU σ 9 0 ((σ 9 0) - 1)) 9 0) (sU σ 9 0 ((σ 9 0) - 1))) ∧ (x2 < (σ 9 0) → (0 ≤ x2 ∧ x2 < 7) ∧ (0 ≤ (x2 - 1) ∧ (x2 - 1) < 7) ∧ Z14 (x2 + 1) (sU (sU (sU (sU σ 0 (x2 - 1) (σ 0 x2)) 1 (x2 - 1) ((sU σ 0 (x2 - 1) (σ 0 x2)) 1 x2)) 2 (x2 - 1) ((sU (sU σ 0 (x2 - 1) (σ 0 x2)) 1 (x2 - 1) ((sU σ 0 (x2 - 1) (σ 0 x2)) 1 x2)) 2 x2)) 3 (x2 - 1) ((sU (sU (sU σ 0 (x2 - 1) (σ 0 x2)) 1 (x2 - 1) ((sU σ 0 (x2 - 1) (σ 0 x2)) 1 x2)) 2 (x2 - 1) ((sU (sU σ 0 (x2 - 1) (σ 0 x2)) 1 (x2 - 1) ((sU σ 0 (x2 - 1) (σ 0 x2)) 1 x2)) 2 x2)) 3 x2)))) → Z14 x2 σ) →
  Ok_X0_isGood a1 σ (fun (r2 : Int) (s2 : gS) => (gR r2) ∧ ((¬ r2 = 0 → (∀ v13 : Int, v13 = (a1 + 1) → Z14 v13 s2)) ∧ (r2 = 0 → post (-1) s2)))
def Ok_X0_limit (a1 : Int) (σ : gS) (post : Int → gS → Prop) : Prop :=
  (gR a1) ∧ ((a1 < 0 → post (-1) σ) ∧ (0 ≤ a1 → ((a1 ≤ 60 → (∀ v16 : Int, v16 = (σ 10 0) → post v16 (sU σ 10 0 a1))) ∧ (60 < a1 → post (-1) σ))))
def Ok_X0_goods (σ : gS) (post : Int → gS → Prop) : Prop :=
  post (σ 9 0) σ
def Ok_X0_load (a1 : Int) (σ : gS) (post : Int → gS → Prop) : Prop :=
  ∀ (Z15 : Int → Int → gS → Prop),
  (∀ (x2 x3 : Int) (σ : gS), (gR x3) ∧ ((x3 < 0 → (gR x2) ∧ ((¬ x2 = 0 → post 0 σ) ∧ (x2 = 0 → post 1 σ))) ∧ (0 ≤ x3 → (0 ≤ x2 ∧ x2 ≤ 2147483647) ∧ (0 ≤ x3 ∧ x3 < 7) ∧ (∀ v31 : Int, v31 = (x2 / 3) → (gR ((sU σ 7 x3 (x2 % 3)) 7 x3)) ∧ (gR ((sU σ 7 x3 (x2 % 3)) 2 x3)) ∧ ((((sU σ 7 x3 (x2 % 3)) 7 x3) ≤ ((sU σ 7 x3 (x2 % 3)) 2 x3) → Z15 v31 (x3 + (-1)) (sU σ 7 x3 (x2 % 3))) ∧ (((sU σ 7 x3 (x2 % 3)) 2 x3) < ((sU σ 7 x3 (x2 % 3)) 7 x3) → post 0 (sU σ 7 x3 (x2 % 3))))))) → Z15 x2 x3 σ) →
  (gR a1) ∧ ((0 ≤ a1 → (∀ v14 : Int, v14 = ((σ 9 0) - 1) → Z15 a1 v14 σ)) ∧ (a1 < 0 → post 0 σ))
def Ok_X0_weightOf (a1 : Int) (σ : gS) (post : Int → gS → Prop) : Prop :=
  ∀ (Z14 : Int → Int → gS → Prop),
  (∀ (x2 x3 : Int) (σ : gS), (gR x3) ∧ (gR (σ 9 0)) ∧ (((σ 9 0) ≤ x3 → post x2 σ) ∧ (x3 < (σ 9 0) → (0 ≤ x3 ∧ x3 < 7) ∧ (∀ v37 : Int, v37 = (x2 + ((σ 7 x3) * (σ 0 x3))) → Z14 v37 (x3 + 1) σ))) → Z14 x2 x3 σ) →
  Ok_X0_load a1 σ (fun (r2 : Int) (s2 : gS) => (gR r2) ∧ ((¬ r2 = 0 → Z14 0 0 s2) ∧ (r2 = 0 → post (-1) s2)))
def Ok_X0_valueOf (a1 : Int) (σ : gS) (post : Int → gS → Prop) : Prop :=
  ∀ (Z14 : Int → Int → gS → Prop),
  (∀ (x2 x3 : Int) (σ : gS), (gR x3) ∧ (gR (σ 9 0)) ∧ (((σ 9 0) ≤ x3 → post x2 σ) ∧ (x3 < (σ 9 0) → (0 ≤ x3 ∧ x3 < 7) ∧ (∀ v37 : Int, v37 = (x2 + ((σ 7 x3) * (σ 1 x3))) → Z14 v37 (x3 + 1) σ))) → Z14 x2 x3 σ) →
  Ok_X0_load a1 σ (fun (r2 : Int) (s2 : gS) => (gR r2) ∧ ((¬ r2 = 0 → Z14 0 0 s2) ∧ (r2 = 0 → post (-1) s2)))
def Ok_X0_bestWeight (σ : gS) (post : Int → gS → Prop) : Prop :=
  ∀ (Z4 : Int → Int → gS → Prop),
  (∀ (x1 x2 : Int) (σ : gS), (gR x2) ∧ (gR (σ 10 0)) ∧ (((σ 10 0) < x2 → post x1 σ) ∧ (x2 ≤ (σ 10 0) → (0 ≤ x2 ∧ x2 < 2248) ∧ (0 ≤ x1 ∧ x1 < 2248) ∧ (gR (σ 4 x2)) ∧ (gR (σ 4 x1)) ∧ (((σ 4 x2) ≤ (σ 4 x1) → Z4 x1 (x2 + 1) σ) ∧ ((σ 4 x1) < (σ 4 x2) → Z4 x2 (x2 + 1) σ)))) → Z4 x1 x2 σ) →
  Z4 0 1 σ
def Ok_X0_fillEntry (a1 a2 a3 : Int) (σ : gS) (post : gS → Prop) : Prop :=
  ∀ (Z10 : Int → Int → Int → gS → Prop),
  ∀ (Z113 : Int → Int → gS → Prop),
  (∀ (x4 x5 x6 : Int) (σ : gS), (gR x6) ∧ (gR a3) ∧ ((a3 < x6 → Z113 x4 x5 σ) ∧ (x6 ≤ a3 → (0 ≤ a1 ∧ a1 < 7) ∧ (gR (x6 * (σ 0 a1))) ∧ (gR a2) ∧ ((a2 < (x6 * (σ 0 a1)) → Z113 x4 x5 σ) ∧ ((x6 * (σ 0 a1)) ≤ a2 → (∀ v48 : Int, v48 = (((281 * (a1 + 1)) + a2) - (x6 * (σ 0 a1))) → (0 ≤ v48 ∧ v48 < 2248) ∧ (∀ v67 : Int, v67 = ((σ 4 v48) + (x6 * (σ 1 a1))) → (gR (σ 4 v48)) ∧ (((σ 4 v48) < 0 → (∀ v105 : Int, v105 = (x5 + (σ 5 v48)) → Z10 x4 v105 (x6 + 1) σ)) ∧ (0 ≤ (σ 4 v48) → (gR v67) ∧ (gR x4) ∧ ((v67 ≤ x4 → (∀ v105 : Int, v105 = (x5 + (σ 5 v48)) → Z10 x4 v105 (x6 + 1) σ)) ∧ (x4 < v67 → (∀ v105 : Int, v105 = (x5 + (σ 5 v48)) → Z10 v67 v105 (x6 + 1) σ))))))))))) → Z10 x4 x5 x6 σ) →
  (∀ (x4 x5 : Int) (σ : gS), (0 ≤ ((281 * a1) + a2) ∧ ((281 * a1) + a2) < 2248) ∧ post (sU (sU σ 4 ((281 * a1) + a2) x4) 5 ((281 * a1) + a2) x5) → Z113 x4 x5 σ) →
  Z10 (-100000) 0 0 σ
def Ok_X0_fill (a1 : Int) (σ : gS) (post : gS → Prop) : Prop :=
  ∀ (Z11 : Int → Int → gS → Prop),
  ∀ (Z35 : Int → Int → Int → Int → gS → Prop),
  ∀ (Z66 : Int → gS → Prop),
  ∀ (Z90 : Int → Int → Int → gS → Prop),
  (∀ (x2 x3 : Int) (σ : gS), (gR x3) ∧ ((280 < x3 → (∀ v65 : Int, v65 = ((σ 9 0) - 1) → Z66 v65 σ)) ∧ (x3 ≤ 280 → ((¬ x3 = 0 → Z35 x2 x3 (x2 + x3) (-100000) σ) ∧ (x3 = 0 → Z35 x2 x3 (x2 + x3) 0 σ)))) → Z11 x2 x3 σ) →
  (∀ (x2 x3 t1 t2 : Int) (σ : gS), (0 ≤ t1 ∧ t1 < 2248) ∧ (gR x3) ∧ ((¬ x3 = 0 → (0 ≤ (x2 + x3) ∧ (x2 + x3) < 2248) ∧ Z11 x2 (x3 + 1) (sU (sU σ 4 t1 t2) 5 (x2 + x3) 0)) ∧ (x3 = 0 → (0 ≤ (x2 + x3) ∧ (x2 + x3) < 2248) ∧ Z11 x2 (x3 + 1) (sU (sU σ 4 t1 t2) 5 (x2 + x3) 1))) → Z35 x2 x3 t1 t2 σ) →
  (∀ (x3 : Int) (σ : gS), (gR x3) ∧ ((x3 < 0 → post σ) ∧ (0 ≤ x3 → (gR a1) ∧ ((¬ x3 = a1 → (0 ≤ x3 ∧ x3 < 7) ∧ (∀ v85 : Int, v85 = (σ 2 x3) → Z90 x3 v85 0 σ)) ∧ (x3 = a1 → Z90 x3 0 0 σ)))) → Z66 x3 σ) →
  (∀ (x3 x4 x5 : Int) (σ : gS), (gR x5) ∧ ((280 < x5 → Z66 (x3 + (-1)) σ) ∧ (x5 ≤ 280 → Ok_X0_fillEntry x3 x5 x4 σ (fun s104 : gS => Z90 x3 x4 (x5 + 1) s104))) → Z90 x3 x4 x5 σ) →
  (∀ v8 : Int, v8 = (281 * (σ 9 0)) → Z11 v8 0 σ)
def Ok_X0_best (σ : gS) (post : Int → gS → Prop) : Prop :=
  Ok_X0_fill (-1) σ (fun s2 : gS => Ok_X0_bestWeight s2 (fun (r10 : Int) (s10 : gS) => (0 ≤ r10 ∧ r10 < 2248) ∧ post (s10 4 r10) s10))
def Ok_X0_keeps (a1 a2 a3 a4 : Int) (σ : gS) (post : Int → gS → Prop) : Prop :=
  (0 ≤ a1 ∧ a1 < 7) ∧ (∀ v10 : Int, v10 = (a3 - (a2 * (σ 0 a1))) → (gR v10) ∧ ((v10 < 0 → post 0 σ) ∧ (0 ≤ v10 → (0 ≤ ((281 * (a1 + 1)) + v10) ∧ ((281 * (a1 + 1)) + v10) < 2248) ∧ (gR (σ 4 ((281 * (a1 + 1)) + v10))) ∧ (gR (a4 - (a2 * (σ 1 a1)))) ∧ ((¬ (σ 4 ((281 * (a1 + 1)) + v10)) = (a4 - (a2 * (σ 1 a1))) → post 0 σ) ∧ ((σ 4 ((281 * (a1 + 1)) + v10)) = (a4 - (a2 * (σ 1 a1))) → post 1 σ)))))
def Ok_X0_bestCode (σ : gS) (post : Int → gS → Prop) : Prop :=
  ∀ (Z22 : Int → Int → Int → Int → gS → Prop),
  ∀ (Z34 : Int → Int → Int → Int → Int → gS → Prop),
  ∀ (Z65 : Int → Int → Int → Int → Int → gS → Prop),
  (∀ (x1 x2 x3 x4 : Int) (σ : gS), (gR x4) ∧ (gR (σ 9 0)) ∧ (((σ 9 0) ≤ x4 → post x3 σ) ∧ (x4 < (σ 9 0) → Z34 x1 x2 x3 x4 0 σ)) → Z22 x1 x2 x3 x4 σ) →
  (∀ (x1 x2 x3 x4 x5 : Int) (σ : gS), (0 ≤ x4 ∧ x4 < 7) ∧ (gR x5) ∧ (gR (σ 2 x4)) ∧ (((σ 2 x4) ≤ x5 → Z65 x1 x2 x3 x4 x5 σ) ∧ (x5 < (σ 2 x4) → Ok_X0_keeps x4 x5 x1 x2 σ (fun (r53 : Int) (s53 : gS) => (gR r53) ∧ ((¬ r53 = 0 → Z65 x1 x2 x3 x4 x5 s53) ∧ (r53 = 0 → Z34 x1 x2 x3 x4 (x5 + 1) s53))))) → Z34 x1 x2 x3 x4 x5 σ) →
  (∀ (x1 x2 x3 x4 x5 : Int) (σ : gS), (∀ v71 : Int, v71 = ((3 * x3) + x5) → (0 ≤ x4 ∧ x4 < 7) ∧ (∀ v84 : Int, v84 = (x1 - (x5 * (σ 0 x4))) → (∀ v97 : Int, v97 = (x2 - (x5 * (σ 1 x4))) → Z22 v84 v97 v71 (x4 + 1) σ))) → Z65 x1 x2 x3 x4 x5 σ) →
  Ok_X0_fill (-1) σ (fun s2 : gS => Ok_X0_bestWeight s2 (fun (r6 : Int) (s6 : gS) => (0 ≤ r6 ∧ r6 < 2248) ∧ (∀ v16 : Int, v16 = (s6 4 r6) → Z22 r6 v16 0 0 s6)))
def Ok_X0_withGood (a1 a2 a3 : Int) (σ : gS) (post : Int → gS → Prop) : Prop :=
  ∀ (Z7 : Int → Int → gS → Prop),
  ∀ (Z43 : Int → Int → Int → gS → Prop),
  (∀ (x4 x5 : Int) (σ : gS), (0 ≤ a2 ∧ a2 < 7) ∧ (gR x5) ∧ (gR (σ 2 a2)) ∧ (((σ 2 a2) < x5 → post x4 σ) ∧ (x5 ≤ (σ 2 a2) → (gR (σ 7 a2)) ∧ (((σ 7 a2) < 0 → Z43 x4 x5 1 σ) ∧ (0 ≤ (σ 7 a2) → ((¬ (σ 7 a2) = x5 → Z43 x4 x5 0 σ) ∧ ((σ 7 a2) = x5 → Z43 x4 x5 1 σ)))))) → Z7 x4 x5 σ) →
  (∀ (x4 x5 t0 : Int) (σ : gS), (0 ≤ a2 ∧ a2 < 7) ∧ (∀ v56 : Int, v56 = (a3 - (x5 * (σ 0 a2))) → (gR t0) ∧ ((t0 = 0 → Z7 x4 (x5 + 1) σ) ∧ (¬ t0 = 0 → (gR v56) ∧ ((v56 < 0 → Z7 x4 (x5 + 1) σ) ∧ (0 ≤ v56 → (0 ≤ ((281 * (a1 + 1)) + v56) ∧ ((281 * (a1 + 1)) + v56) < 1405) ∧ (gR (σ 6 ((281 * (a1 + 1)) + v56))) ∧ (((σ 6 ((281 * (a1 + 1)) + v56)) < 0 → Z7 x4 (x5 + 1) σ) ∧ (0 ≤ (σ 6 ((281 * (a1 + 1)) + v56)) → (∀ v111 : Int, v111 = ((σ 6 ((281 * (a1 + 1)) + v56)) + (x5 * (σ 1 a2))) → (gR v111) ∧ (gR x4) ∧ ((v111 ≤ x4 → Z7 x4 (x5 + 1) σ) ∧ (x4 < v111 → Z7 v111 (x5 + 1) σ)))))))))) → Z43 x4 x5 t0 σ) →
  Z7 (-100000) 1 σ
def Ok_X0_strictEntry (a1 a2 : Int) (σ : gS) (post : Int → gS → Prop) : Prop :=
  ∀ (Z8 : Int → Int → Int → gS → Prop),
  ∀ (Z87 : Int → Int → Int → Int → gS → Prop),
  ∀ (Z118 : Int → Int → Int → Int → gS → Prop),
  (∀ (x3 x4 x5 : Int) (σ : gS), (gR x5) ∧ (gR (σ 9 0)) ∧ (((σ 9 0) ≤ x5 → (gR x3) ∧ ((x3 ≤ 1 → ((¬ x3 = 0 → Z87 x3 x4 (-100000) 0 σ) ∧ (x3 = 0 → (0 ≤ ((281 * (a1 + 1)) + a2) ∧ ((281 * (a1 + 1)) + a2) < 1405) ∧ (∀ v82 : Int, v82 = (σ 6 ((281 * (a1 + 1)) + a2)) → Z87 x3 x4 v82 0 σ)))) ∧ (1 < x3 → post (-100000) σ))) ∧ (x5 < (σ 9 0) → (0 ≤ x5 ∧ x5 < 7) ∧ (gR (σ 3 x5)) ∧ (gR a1) ∧ ((¬ (σ 3 x5) = a1 → Z8 x3 x4 (x5 + 1) σ) ∧ ((σ 3 x5) = a1 → (gR (σ 7 x5)) ∧ (((σ 7 x5) ≤ 0 → Z8 x3 x4 (x5 + 1) σ) ∧ (0 < (σ 7 x5) → Z8 (x3 + 1) x5 (x5 + 1) σ)))))) → Z8 x3 x4 x5 σ) →
  (∀ (x3 x4 x5 x6 : Int) (σ : gS), (gR x6) ∧ (gR (σ 9 0)) ∧ (((σ 9 0) ≤ x6 → post x5 σ) ∧ (x6 < (σ 9 0) → (0 ≤ x6 ∧ x6 < 7) ∧ (gR (σ 3 x6)) ∧ (gR a1) ∧ ((¬ (σ 3 x6) = a1 → Z87 x3 x4 x5 (x6 + 1) σ) ∧ ((σ 3 x6) = a1 → (gR x3) ∧ ((x3 = 0 → Z118 x3 x4 x5 x6 σ) ∧ (¬ x3 = 0 → (gR x4) ∧ ((¬ x6 = x4 → Z87 x3 x4 x5 (x6 + 1) σ) ∧ (x6 = x4 → Z118 x3 x4 x5 x6 σ)))))))) → Z87 x3 x4 x5 x6 σ) →
  (∀ (x3 x4 x5 x6 : Int) (σ : gS), Ok_X0_withGood a1 x6 a2 σ (fun (r123 : Int) (s123 : gS) => (gR r123) ∧ (gR x5) ∧ ((r123 ≤ x5 → Z87 x3 x4 x5 (x6 + 1) s123) ∧ (x5 < r123 → Z87 x3 x4 r123 (x6 + 1) s123))) → Z118 x3 x4 x5 x6 σ) →
  Z8 0 (-1) 0 σ
def Ok_X0_fillStrict (σ : gS) (post : gS → Prop) : Prop :=
  ∀ (Z2 : Int → gS → Prop),
  ∀ (Z37 : Int → gS → Prop),
  ∀ (Z43 : Int → Int → gS → Prop),
  (∀ (x1 : Int) (σ : gS), (gR x1) ∧ ((280 < x1 → Z37 3 σ) ∧ (x1 ≤ 280 → ((¬ x1 = 0 → (0 ≤ (1124 + x1) ∧ (1124 + x1) < 1405) ∧ Z2 (x1 + 1) (sU σ 6 (1124 + x1) (-100000))) ∧ (x1 = 0 → (0 ≤ (1124 + x1) ∧ (1124 + x1) < 1405) ∧ Z2 (x1 + 1) (sU σ 6 (1124 + x1) 0))))) → Z2 x1 σ) →
  (∀ (x1 : Int) (σ : gS), (gR x1) ∧ ((x1 < 0 → post σ) ∧ (0 ≤ x1 → Z43 x1 0 σ)) → Z37 x1 σ) →
  (∀ (x1 x2 : Int) (σ : gS), (gR x2) ∧ ((280 < x2 → Z37 (x1 + (-1)) σ) ∧ (x2 ≤ 280 → Ok_X0_strictEntry x1 x2 σ (fun (r64 : Int) (s64 : gS) => (0 ≤ ((281 * x1) + x2) ∧ ((281 * x1) + x2) < 1405) ∧ Z43 x1 (x2 + 1) (sU s64 6 ((281 * x1) + x2) r64)))) → Z43 x1 x2 σ) →
  Z2 0 σ
def Ok_X0_openAll (σ : gS) (post : gS → Prop) : Prop :=
  ∀ (Z2 : Int → gS → Prop),
  (∀ (x1 : Int) (σ : gS), (gR x1) ∧ ((7 ≤ x1 → post σ) ∧ (x1 < 7 → (0 ≤ x1 ∧ x1 < 7) ∧ Z2 (x1 + 1) (sU σ 7 x1 (-1)))) → Z2 x1 σ) →
  Z2 0 σ
def Ok_X0_strictWeight (σ : gS) (post : Int → gS → Prop) : Prop :=
  ∀ (Z4 : Int → Int → gS → Prop),
  (∀ (x1 x2 : Int) (σ : gS), (gR x2) ∧ (gR (σ 10 0)) ∧ (((σ 10 0) < x2 → post x1 σ) ∧ (x2 ≤ (σ 10 0) → (0 ≤ x2 ∧ x2 < 1405) ∧ (0 ≤ x1 ∧ x1 < 1405) ∧ (gR (σ 6 x2)) ∧ (gR (σ 6 x1)) ∧ (((σ 6 x2) ≤ (σ 6 x1) → Z4 x1 (x2 + 1) σ) ∧ ((σ 6 x1) < (σ 6 x2) → Z4 x2 (x2 + 1) σ)))) → Z4 x1 x2 σ) →
  Z4 0 1 σ
def Ok_X0_bestStrict (σ : gS) (post : Int → gS → Prop) : Prop :=
  Ok_X0_openAll σ (fun s1 : gS => Ok_X0_fillStrict s1 (fun s5 : gS => Ok_X0_strictWeight s5 (fun (r13 : Int) (s13 : gS) => (0 ≤ r13 ∧ r13 < 1405) ∧ post (s13 6 r13) s13)))
def Ok_X0_bestStrictCode (σ : gS) (post : Int → gS → Prop) : Prop :=
  ∀ (Z25 : Int → Int → Int → Int → gS → Prop),
  ∀ (Z37 : Int → Int → Int → Int → Int → gS → Prop),
  (∀ (x1 x2 x3 x4 : Int) (σ : gS), (gR x4) ∧ (gR (σ 9 0)) ∧ (((σ 9 0) ≤ x4 → post x3 σ) ∧ (x4 < (σ 9 0) → Z37 x1 x2 x3 x4 0 σ)) → Z25 x1 x2 x3 x4 σ) →
  (∀ (x1 x2 x3 x4 x5 : Int) (σ : gS), (0 ≤ x4 ∧ x4 < 7) ∧ (gR x5) ∧ (gR (σ 2 x4)) ∧ (((σ 2 x4) ≤ x5 → (∀ v96 : Int, v96 = ((3 * x3) + x5) → Z25 x1 x2 v96 (x4 + 1) (sU σ 7 x4 x5))) ∧ (x5 < (σ 2 x4) → Ok_X0_fillStrict (sU σ 7 x4 x5) (fun s59 : gS => (0 ≤ x1 ∧ x1 < 1405) ∧ (gR (s59 6 x1)) ∧ (gR x2) ∧ ((¬ (s59 6 x1) = x2 → Z37 x1 x2 x3 x4 (x5 + 1) s59) ∧ ((s59 6 x1) = x2 → (∀ v96 : Int, v96 = ((3 * x3) + x5) → Z25 x1 x2 v96 (x4 + 1) (sU s59 7 x4 x5))))))) → Z37 x1 x2 x3 x4 x5 σ) →
  Ok_X0_openAll σ (fun s1 : gS => Ok_X0_fillStrict s1 (fun s5 : gS => Ok_X0_strictWeight s5 (fun (r9 : Int) (s9 : gS) => (0 ≤ r9 ∧ r9 < 1405) ∧ (∀ v19 : Int, v19 = (s9 6 r9) → Z25 r9 v19 0 0 s9))))
def Ok_X0_fitting (σ : gS) (post : Int → gS → Prop) : Prop :=
  ∀ (Z9 : Int → Int → gS → Prop),
  (∀ (x1 x2 : Int) (σ : gS), (gR x2) ∧ (gR (σ 10 0)) ∧ (((σ 10 0) < x2 → post x1 σ) ∧ (x2 ≤ (σ 10 0) → (0 ≤ x2 ∧ x2 < 2248) ∧ (∀ v25 : Int, v25 = (x1 + (σ 5 x2)) → Z9 v25 (x2 + 1) σ))) → Z9 x1 x2 σ) →
  Ok_X0_fill (-1) σ (fun s2 : gS => Z9 0 0 s2)
def Ok_X0_weighing (a1 : Int) (σ : gS) (post : Int → gS → Prop) : Prop :=
  (gR a1) ∧ ((a1 < 0 → post (-1) σ) ∧ (0 ≤ a1 → ((a1 ≤ 300 → Ok_X0_fill (-1) σ (fun s15 : gS => ((280 < a1 → post 0 s15) ∧ (a1 ≤ 280 → (0 ≤ a1 ∧ a1 < 2248) ∧ post (s15 5 a1) s15)))) ∧ (300 < a1 → post (-1) σ))))
def Ok_X0_fullest (σ : gS) (post : Int → gS → Prop) : Prop :=
  ∀ (Z10 : Int → gS → Prop),
  (∀ (x1 : Int) (σ : gS), (gR x1) ∧ ((x1 ≤ 0 → post x1 σ) ∧ (0 < x1 → (0 ≤ x1 ∧ x1 < 2248) ∧ (gR (σ 5 x1)) ∧ ((¬ (σ 5 x1) = 0 → post x1 σ) ∧ ((σ 5 x1) = 0 → Z10 (x1 + (-1)) σ)))) → Z10 x1 σ) →
  Ok_X0_fill (-1) σ (fun s2 : gS => (∀ v9 : Int, v9 = (s2 10 0) → Z10 v9 s2))
def Ok_X0_lightest (a1 : Int) (σ : gS) (post : Int → gS → Prop) : Prop :=
  ∀ (Z7 : Int → gS → Prop),
  (∀ (x2 : Int) (σ : gS), (gR x2) ∧ ((280 < x2 → post (-1) σ) ∧ (x2 ≤ 280 → (0 ≤ x2 ∧ x2 < 2248) ∧ (gR (σ 4 x2)) ∧ (((σ 4 x2) < 0 → Z7 (x2 + 1) σ) ∧ (0 ≤ (σ 4 x2) → (gR a1) ∧ (((σ 4 x2) < a1 → Z7 (x2 + 1) σ) ∧ (a1 ≤ (σ 4 x2) → post x2 σ)))))) → Z7 x2 σ) →
  Ok_X0_fill (-1) σ (fun s2 : gS => Z7 0 s2)
def Ok_X0_placePiece (a1 a2 : Int) (σ : gS) (post : gS → Prop) : Prop :=
  ∀ (Z3 : Int → gS → Prop),
  ∀ (Z11 : Int → Int → gS → Prop),
  ∀ (Z74 : Int → Int → Int → gS → Prop),
  (∀ (x3 : Int) (σ : gS), (gR x3) ∧ ((x3 < 0 → post σ) ∧ (0 ≤ x3 → Z11 x3 60 σ)) → Z3 x3 σ) →
  (∀ (x3 x4 : Int) (σ : gS), (gR x4) ∧ ((x4 < 0 → Z3 (x3 + (-1)) σ) ∧ (0 ≤ x4 → (0 ≤ ((61 * x3) + x4) ∧ ((61 * x3) + x4) < 3721) ∧ (∀ v28 : Int, v28 = (σ 8 ((61 * x3) + x4)) → (gR x3) ∧ (gR a1) ∧ ((x3 < a1 → Z74 x3 x4 v28 σ) ∧ (a1 ≤ x3 → (0 ≤ ((61 * (x3 - a1)) + x4) ∧ ((61 * (x3 - a1)) + x4) < 3721) ∧ (gR ((σ 8 ((61 * (x3 - a1)) + x4)) + a2)) ∧ (gR v28) ∧ ((((σ 8 ((61 * (x3 - a1)) + x4)) + a2) ≤ v28 → Z74 x3 x4 v28 σ) ∧ (v28 < ((σ 8 ((61 * (x3 - a1)) + x4)) + a2) → (∀ v72 : Int, v72 = ((σ 8 ((61 * (x3 - a1)) + x4)) + a2) → Z74 x3 x4 v72 σ)))))))) → Z11 x3 x4 σ) →
  (∀ (x3 x4 x5 : Int) (σ : gS), (gR x4) ∧ (gR a1) ∧ ((x4 < a1 → (0 ≤ ((61 * x3) + x4) ∧ ((61 * x3) + x4) < 3721) ∧ Z11 x3 (x4 + (-1)) (sU σ 8 ((61 * x3) + x4) x5)) ∧ (a1 ≤ x4 → (0 ≤ (((61 * x3) + x4) - a1) ∧ (((61 * x3) + x4) - a1) < 3721) ∧ (gR ((σ 8 (((61 * x3) + x4) - a1)) + a2)) ∧ (gR x5) ∧ ((((σ 8 (((61 * x3) + x4) - a1)) + a2) ≤ x5 → (0 ≤ ((61 * x3) + x4) ∧ ((61 * x3) + x4) < 3721) ∧ Z11 x3 (x4 + (-1)) (sU σ 8 ((61 * x3) + x4) x5)) ∧ (x5 < ((σ 8 (((61 * x3) + x4) - a1)) + a2) → (∀ v117 : Int, v117 = ((σ 8 (((61 * x3) + x4) - a1)) + a2) → (0 ≤ ((61 * x3) + x4) ∧ ((61 * x3) + x4) < 3721) ∧ Z11 x3 (x4 + (-1)) (sU σ 8 ((61 * x3) + x4) v117)))))) → Z74 x3 x4 x5 σ) →
  Z3 60 σ
def Ok_X0_two (a1 : Int) (σ : gS) (post : Int → gS → Prop) : Prop :=
  ∀ (Z14 : Int → gS → Prop),
  ∀ (Z36 : Int → gS → Prop),
  ∀ (Z46 : Int → Int → gS → Prop),
  (∀ (x2 : Int) (σ : gS), (gR x2) ∧ ((3721 ≤ x2 → Z36 0 σ) ∧ (x2 < 3721 → (0 ≤ x2 ∧ x2 < 3721) ∧ Z14 (x2 + 1) (sU σ 8 x2 0))) → Z14 x2 σ) →
  (∀ (x2 : Int) (σ : gS), (gR x2) ∧ (gR (σ 9 0)) ∧ (((σ 9 0) ≤ x2 → (0 ≤ ((61 * (σ 10 0)) + a1) ∧ ((61 * (σ 10 0)) + a1) < 3721) ∧ post (σ 8 ((61 * (σ 10 0)) + a1)) σ) ∧ (x2 < (σ 9 0) → Z46 x2 0 σ)) → Z36 x2 σ) →
  (∀ (x2 x3 : Int) (σ : gS), (0 ≤ x2 ∧ x2 < 7) ∧ (gR x3) ∧ (gR (σ 2 x2)) ∧ (((σ 2 x2) ≤ x3 → Z36 (x2 + 1) σ) ∧ (x3 < (σ 2 x2) → Ok_X0_placePiece (σ 0 x2) (σ 1 x2) σ (fun s69 : gS => Z46 x2 (x3 + 1) s69))) → Z46 x2 x3 σ) →
  (gR a1) ∧ ((a1 < 0 → post (-1) σ) ∧ (0 ≤ a1 → ((a1 ≤ 60 → Z14 0 σ) ∧ (60 < a1 → post (-1) σ))))
def Ok_X0_without (a1 : Int) (σ : gS) (post : Int → gS → Prop) : Prop :=
  Ok_X0_isGood a1 σ (fun (r2 : Int) (s2 : gS) => (gR r2) ∧ ((¬ r2 = 0 → Ok_X0_fill a1 s2 (fun s12 : gS => Ok_X0_bestWeight s12 (fun (r20 : Int) (s20 : gS) => (0 ≤ r20 ∧ r20 < 2248) ∧ post (s20 4 r20) s20))) ∧ (r2 = 0 → post (-1) s2)))
def Ok_X0_halves (σ : gS) (post : Int → gS → Prop) : Prop :=
  ∀ (Z4 : Int → Int → gS → Prop),
  (∀ (x1 x2 : Int) (σ : gS), (gR x2) ∧ (gR (σ 9 0)) ∧ (((σ 9 0) ≤ x2 → Ok_X0_fill (-1) σ (fun s36 : gS => (0 ≤ x1 ∧ x1 ≤ 2147483647) ∧ (gR (x1 % 2)) ∧ ((¬ (x1 % 2) = 0 → post 0 s36) ∧ ((x1 % 2) = 0 → (0 ≤ (x1 / 2) ∧ (x1 / 2) < 2248) ∧ (gR (s36 5 (x1 / 2))) ∧ (((s36 5 (x1 / 2)) ≤ 0 → post 0 s36) ∧ (0 < (s36 5 (x1 / 2)) → post 1 s36)))))) ∧ (x2 < (σ 9 0) → (0 ≤ x2 ∧ x2 < 7) ∧ (∀ v27 : Int, v27 = (x1 + ((σ 2 x2) * (σ 0 x2))) → Z4 v27 (x2 + 1) σ))) → Z4 x1 x2 σ) →
  Z4 0 0 σ
def Ok_X1_put (a1 a2 a3 a4 : Int) (σ : gS) (post : Int → gS → Prop) : Prop :=
  (∀ v4 : Int, v4 = (σ 0 0) → (gR v4) ∧ ((v4 ≤ 6 → (0 ≤ v4 ∧ v4 < 7) ∧ post v4 (sU (sU (sU (sU (sU σ 1 v4 a1) 2 v4 a2) 3 v4 a3) 4 v4 a4) 0 0 (v4 + 1))) ∧ (6 < v4 → post (-4) σ)))
def Ok_X1_add (a1 a2 a3 : Int) (σ : gS) (post : Int → gS → Prop) : Prop :=
  (gR a1) ∧ ((a1 < 1 → post (-1) σ) ∧ (1 ≤ a1 → ((a1 ≤ 20 → (gR a2) ∧ ((a2 < 0 → post (-2) σ) ∧ (0 ≤ a2 → ((a2 ≤ 50 → (gR a3) ∧ ((a3 < 4 → post (-3) σ) ∧ (4 ≤ a3 → ((a3 ≤ 11 → (0 ≤ a3 ∧ a3 ≤ 2147483647) ∧ Ok_X1_put a1 a2 (a3 / 4) (a3 % 4) σ (fun (r49 : Int) (s49 : gS) => post r49 s49)) ∧ (11 < a3 → post (-3) σ))))) ∧ (50 < a2 → post (-2) σ))))) ∧ (20 < a1 → post (-1) σ))))
def Ok_X1_sow (a1 a2 : Int) (σ : gS) (post : Int → gS → Prop) : Prop :=
  ∀ (Z28 : Int → gS → Prop),
  (∀ (x3 : Int) (σ : gS), (gR x3) ∧ (gR a2) ∧ ((a2 ≤ x3 → post (σ 0 0) σ) ∧ (x3 < a2 → (0 ≤ (a1 + (5 * x3)) ∧ (a1 + (5 * x3)) ≤ 2147483647) ∧ (0 ≤ ((a1 * 3) + ((7 * x3) * x3)) ∧ ((a1 * 3) + ((7 * x3) * x3)) ≤ 2147483647) ∧ (0 ≤ (a1 + x3) ∧ (a1 + x3) ≤ 2147483647) ∧ (0 ≤ (a1 + (x3 * x3)) ∧ (a1 + (x3 * x3)) ≤ 2147483647) ∧ Ok_X1_put (1 + ((a1 + (5 * x3)) % 20)) (((a1 * 3) + ((7 * x3) * x3)) % 51) (1 + ((a1 + x3) % 2)) ((a1 + (x3 * x3)) % 4) σ (fun (r71 : Int) (s71 : gS) => Z28 (x3 + 1) s71))) → Z28 x3 σ) →
  (gR a1) ∧ ((a1 < 0 → post (-1) σ) ∧ (0 ≤ a1 → ((a1 ≤ 100 → (gR a2) ∧ ((a2 < 1 → post (-2) σ) ∧ (1 ≤ a2 → ((a2 ≤ 7 → Z28 0 σ) ∧ (7 < a2 → post (-2) σ))))) ∧ (100 < a1 → post (-1) σ))))
def Ok_X1_bad (a1 : Int) (σ : gS) (post : Int → gS → Prop) : Prop :=
  (gR a1) ∧ ((a1 < 0 → post 1 σ) ∧ (0 ≤ a1 → (gR (σ 0 0)) ∧ (((σ 0 0) ≤ a1 → post 1 σ) ∧ (a1 < (σ 0 0) → ((a1 ≤ 6 → post 0 σ) ∧ (6 < a1 → post 1 σ))))))
def Ok_X1_drop (a1 : Int) (σ : gS) (post : Int → gS → Prop) : Prop :=
  ∀ (Z12 : Int → gS → Prop),
  (∀ (x2 : Int) (σ : gS), (gR x2) ∧ (gR ((σ 0 0) - 1)) ∧ ((((σ 0 0) - 1) ≤ x2 → post ((sU σ 0 0 ((σ 0 0) - 1)) 0 0) (sU σ 0 0 ((σ 0 0) - 1))) ∧ (x2 < ((σ 0 0) - 1) → ((6 ≤ x2 → post ((sU σ 0 0 ((σ 0 0) - 1)) 0 0) (sU σ 0 0 ((σ 0 0) - 1))) ∧ (x2 < 6 → (0 ≤ (x2 + 1) ∧ (x2 + 1) < 7) ∧ (0 ≤ x2 ∧ x2 < 7) ∧ Z12 (x2 + 1) (sU (sU (sU (sU σ 1 x2 (σ 1 (x2 + 1))) 2 x2 ((sU σ 1 x2 (σ 1 (x2 + 1))) 2 (x2 + 1))) 3 x2 ((sU (sU σ 1 x2 (σ 1 (x2 + 1))) 2 x2 ((sU σ 1 x2 (σ 1 (x2 + 1))) 2 (x2 + 1))) 3 (x2 + 1))) 4 x2 ((sU (sU (sU σ 1 x2 (σ 1 (x2 + 1))) 2 x2 ((sU σ 1 x2 (σ 1 (x2 + 1))) 2 (x2 + 1))) 3 x2 ((sU (sU σ 1 x2 (σ 1 (x2 + 1))) 2 x2 ((sU σ 1 x2 (σ 1 (x2 + 1))) 2 (x2 + 1))) 3 (x2 + 1))) 4 (x2 + 1))))))) → Z12 x2 σ) →
  Ok_X1_bad a1 σ (fun (r2 : Int) (s2 : gS) => (gR r2) ∧ ((r2 = 0 → Z12 a1 s2) ∧ (¬ r2 = 0 → post (-1) s2)))
def Ok_X1_limit (a1 : Int) (σ : gS) (post : Int → gS → Prop) : Prop :=
  (gR a1) ∧ ((a1 < 0 → post (-1) σ) ∧ (0 ≤ a1 → ((a1 ≤ 60 → (∀ v16 : Int, v16 = (σ 5 0) → post v16 (sU σ 5 0 a1))) ∧ (60 < a1 → post (-1) σ))))
def Ok_X1_goods (σ : gS) (post : Int → gS → Prop) : Prop :=
  post (σ 0 0) σ
def Ok_X1_choice (a1 : Int) (σ : gS) (post : Int → gS → Prop) : Prop :=
  ∀ (Z25 : Int → Int → gS → Prop),
  ∀ (Z107 : Int → gS → Prop),
  (∀ (x2 x3 : Int) (σ : gS), (gR x3) ∧ ((x3 < 0 → Z107 x2 σ) ∧ (0 ≤ x3 → ((7 ≤ x3 → Z107 x2 σ) ∧ (x3 < 7 → (0 ≤ x2 ∧ x2 ≤ 2147483647) ∧ (∀ v38 : Int, v38 = (x2 % 3) → (0 ≤ x3 ∧ x3 < 7) ∧ (gR v38) ∧ (gR (σ 3 x3)) ∧ ((v38 ≤ (σ 3 x3) → (∀ v100 : Int, v100 = (x2 / 3) → Z25 v100 (x3 + (-1)) (sU (sU (sU σ 6 x3 v38) 7 0 (((sU σ 6 x3 v38) 7 0) + (v38 * ((sU σ 6 x3 v38) 1 x3)))) 8 0 (((sU (sU σ 6 x3 v38) 7 0 (((sU σ 6 x3 v38) 7 0) + (v38 * ((sU σ 6 x3 v38) 1 x3)))) 8 0) + (v38 * ((sU (sU σ 6 x3 v38) 7 0 (((sU σ 6 x3 v38) 7 0) + (v38 * ((sU σ 6 x3 v38) 1 x3)))) 2 x3)))))) ∧ ((σ 3 x3) < v38 → post 0 σ))))))) → Z25 x2 x3 σ) →
  (∀ (x2 : Int) (σ : gS), (gR x2) ∧ ((¬ x2 = 0 → post 0 σ) ∧ (x2 = 0 → post 1 σ)) → Z107 x2 σ) →
  (gR a1) ∧ ((0 ≤ a1 → (∀ v24 : Int, v24 = (((sU (sU σ 7 0 0) 8 0 0) 0 0) - 1) → Z25 a1 v24 (sU (sU σ 7 0 0) 8 0 0))) ∧ (a1 < 0 → post 0 (sU (sU σ 7 0 0) 8 0 0)))
def Ok_X1_weightOf (a1 : Int) (σ : gS) (post : Int → gS → Prop) : Prop :=
  Ok_X1_choice a1 σ (fun (r2 : Int) (s2 : gS) => (gR r2) ∧ ((r2 = 0 → post (-1) s2) ∧ (¬ r2 = 0 → post (s2 7 0) s2)))
def Ok_X1_valueOf (a1 : Int) (σ : gS) (post : Int → gS → Prop) : Prop :=
  Ok_X1_choice a1 σ (fun (r2 : Int) (s2 : gS) => (gR r2) ∧ ((r2 = 0 → post (-1) s2) ∧ (¬ r2 = 0 → post (s2 8 0) s2)))
def Ok_X1_end (σ : gS) (post : Int → gS → Prop) : Prop :=
  ∀ (Z4 : Int → Int → gS → Prop),
  (∀ (x1 x2 : Int) (σ : gS), (gR x2) ∧ (gR (σ 0 0)) ∧ (((σ 0 0) ≤ x2 → post x1 σ) ∧ (x2 < (σ 0 0) → (∀ v15 : Int, v15 = (3 * x1) → Z4 v15 (x2 + 1) σ))) → Z4 x1 x2 σ) →
  Z4 1 0 σ
def Ok_X1_strict (σ : gS) (post : Int → gS → Prop) : Prop :=
  ∀ (Z2 : Int → gS → Prop),
  ∀ (Z18 : Int → Int → gS → Prop),
  (∀ (x1 : Int) (σ : gS), (gR x1) ∧ (gR (σ 0 0)) ∧ (((σ 0 0) ≤ x1 → post 1 σ) ∧ (x1 < (σ 0 0) → ((7 ≤ x1 → post 1 σ) ∧ (x1 < 7 → Z18 x1 0 σ)))) → Z2 x1 σ) →
  (∀ (x1 x2 : Int) (σ : gS), (gR x2) ∧ (gR x1) ∧ ((x1 ≤ x2 → Z2 (x1 + 1) σ) ∧ (x2 < x1 → (0 ≤ x1 ∧ x1 < 7) ∧ (gR (σ 6 x1)) ∧ (((σ 6 x1) ≤ 0 → Z18 x1 (x2 + 1) σ) ∧ (0 < (σ 6 x1) → (0 ≤ x2 ∧ x2 < 7) ∧ (gR (σ 6 x2)) ∧ (((σ 6 x2) ≤ 0 → Z18 x1 (x2 + 1) σ) ∧ (0 < (σ 6 x2) → (gR (σ 4 x1)) ∧ (gR (σ 4 x2)) ∧ ((¬ (σ 4 x1) = (σ 4 x2) → Z18 x1 (x2 + 1) σ) ∧ ((σ 4 x1) = (σ 4 x2) → post 0 σ)))))))) → Z18 x1 x2 σ) →
  Z2 0 σ
def Ok_X1_search (a1 a2 : Int) (σ : gS) (post : Int → gS → Prop) : Prop :=
  ∀ (Z17 : Int → Int → Int → Int → Int → gS → Prop),
  ∀ (Z59 : Int → Int → Int → Int → Int → Int → gS → Prop),
  ∀ (Z79 : Int → Int → Int → Int → Int → gS → Prop),
  (∀ (x3 x4 x5 x6 x7 : Int) (σ : gS), (gR x7) ∧ (gR x3) ∧ ((x3 ≤ x7 → post x4 σ) ∧ (x7 < x3 → Ok_X1_choice x7 σ (fun (r26 : Int) (s26 : gS) => (gR r26) ∧ ((r26 = 0 → Z59 x3 x4 x5 x6 x7 0 s26) ∧ (¬ r26 = 0 → (gR (s26 7 0)) ∧ (gR (s26 5 0)) ∧ (((s26 5 0) < (s26 7 0) → Z59 x3 x4 x5 x6 x7 0 s26) ∧ ((s26 7 0) ≤ (s26 5 0) → (gR a1) ∧ ((a1 = 0 → Z59 x3 x4 x5 x6 x7 1 s26) ∧ (¬ a1 = 0 → Ok_X1_strict s26 (fun (r48 : Int) (s48 : gS) => (gR r48) ∧ ((r48 = 0 → Z59 x3 x4 x5 x6 x7 0 s48) ∧ (¬ r48 = 0 → Z59 x3 x4 x5 x6 x7 1 s48)))))))))))) → Z17 x3 x4 x5 x6 x7 σ) →
  (∀ (x3 x4 x5 x6 x7 t0 : Int) (σ : gS), (gR t0) ∧ ((t0 = 0 → Z17 x3 x4 x5 x6 (x7 + 1) σ) ∧ (¬ t0 = 0 → (gR a2) ∧ ((a2 < 0 → Z79 x3 x4 x5 x6 x7 σ) ∧ (0 ≤ a2 → (0 ≤ a2 ∧ a2 < 7) ∧ (gR (σ 6 a2)) ∧ ((¬ (σ 6 a2) = 0 → Z17 x3 x4 x5 x6 (x7 + 1) σ) ∧ ((σ 6 a2) = 0 → Z79 x3 x4 x5 x6 x7 σ)))))) → Z59 x3 x4 x5 x6 x7 t0 σ) →
  (∀ (x3 x4 x5 x6 x7 : Int) (σ : gS), (gR (σ 8 0)) ∧ (gR x5) ∧ ((x5 < (σ 8 0) → (∀ v114 : Int, v114 = (σ 8 0) → (∀ v120 : Int, v120 = (σ 7 0) → Z17 x3 x7 v114 v120 (x7 + 1) σ))) ∧ ((σ 8 0) ≤ x5 → ((¬ (σ 8 0) = x5 → Z17 x3 x4 x5 x6 (x7 + 1) σ) ∧ ((σ 8 0) = x5 → (gR (σ 7 0)) ∧ (gR x6) ∧ ((x6 ≤ (σ 7 0) → Z17 x3 x4 x5 x6 (x7 + 1) σ) ∧ ((σ 7 0) < x6 → (∀ v114 : Int, v114 = (σ 8 0) → (∀ v120 : Int, v120 = (σ 7 0) → Z17 x3 x7 v114 v120 (x7 + 1) σ)))))))) → Z79 x3 x4 x5 x6 x7 σ) →
  Ok_X1_end σ (fun (r1 : Int) (s1 : gS) => Z17 r1 0 0 0 0 s1)
def Ok_X1_valueAt (a1 : Int) (σ : gS) (post : Int → gS → Prop) : Prop :=
  Ok_X1_choice a1 σ (fun (r2 : Int) (s2 : gS) => (gR r2) ∧ ((r2 = 0 → post (-1) s2) ∧ (¬ r2 = 0 → post (s2 8 0) s2)))
def Ok_X1_best (σ : gS) (post : Int → gS → Prop) : Prop :=
  Ok_X1_search 0 (-1) σ (fun (r3 : Int) (s3 : gS) => Ok_X1_valueAt r3 s3 (fun (r9 : Int) (s9 : gS) => post r9 s9))
def Ok_X1_bestCode (σ : gS) (post : Int → gS → Prop) : Prop :=
  Ok_X1_search 0 (-1) σ (fun (r3 : Int) (s3 : gS) => post r3 s3)
def Ok_X1_bestStrict (σ : gS) (post : Int → gS → Prop) : Prop :=
  Ok_X1_search 1 (-1) σ (fun (r3 : Int) (s3 : gS) => Ok_X1_valueAt r3 s3 (fun (r9 : Int) (s9 : gS) => post r9 s9))
def Ok_X1_bestStrictCode (σ : gS) (post : Int → gS → Prop) : Prop :=
  Ok_X1_search 1 (-1) σ (fun (r3 : Int) (s3 : gS) => post r3 s3)
def Ok_X1_fitting (σ : gS) (post : Int → gS → Prop) : Prop :=
  ∀ (Z9 : Int → Int → Int → gS → Prop),
  (∀ (x1 x2 x3 : Int) (σ : gS), (gR x3) ∧ (gR x1) ∧ ((x1 ≤ x3 → post x2 σ) ∧ (x3 < x1 → Ok_X1_choice x3 σ (fun (r16 : Int) (s16 : gS) => (gR r16) ∧ ((r16 = 0 → Z9 x1 x2 (x3 + 1) s16) ∧ (¬ r16 = 0 → (gR (s16 7 0)) ∧ (gR (s16 5 0)) ∧ (((s16 5 0) < (s16 7 0) → Z9 x1 x2 (x3 + 1) s16) ∧ ((s16 7 0) ≤ (s16 5 0) → Z9 x1 (x2 + 1) (x3 + 1) s16))))))) → Z9 x1 x2 x3 σ) →
  Ok_X1_end σ (fun (r1 : Int) (s1 : gS) => Z9 r1 0 0 s1)
def Ok_X1_having (a1 : Int) (σ : gS) (post : Int → gS → Prop) : Prop :=
  ∀ (Z10 : Int → Int → Int → gS → Prop),
  (∀ (x2 x3 x4 : Int) (σ : gS), (gR x4) ∧ (gR x2) ∧ ((x2 ≤ x4 → post x3 σ) ∧ (x4 < x2 → Ok_X1_choice x4 σ (fun (r19 : Int) (s19 : gS) => (gR r19) ∧ ((r19 = 0 → Z10 x2 x3 (x4 + 1) s19) ∧ (¬ r19 = 0 → (gR (s19 7 0)) ∧ (gR a1) ∧ ((¬ (s19 7 0) = a1 → Z10 x2 x3 (x4 + 1) s19) ∧ ((s19 7 0) = a1 → Z10 x2 (x3 + 1) (x4 + 1) s19))))))) → Z10 x2 x3 x4 σ) →
  Ok_X1_end σ (fun (r1 : Int) (s1 : gS) => Z10 r1 0 0 s1)
def Ok_X1_weighing (a1 : Int) (σ : gS) (post : Int → gS → Prop) : Prop :=
  (gR a1) ∧ ((a1 < 0 → post (-1) σ) ∧ (0 ≤ a1 → ((a1 ≤ 300 → Ok_X1_having a1 σ (fun (r17 : Int) (s17 : gS) => post r17 s17)) ∧ (300 < a1 → post (-1) σ))))
def Ok_X1_fullest (σ : gS) (post : Int → gS → Prop) : Prop :=
  ∀ (Z9 : Int → Int → Int → gS → Prop),
  (∀ (x1 x2 x3 : Int) (σ : gS), (gR x3) ∧ (gR x1) ∧ ((x1 ≤ x3 → post x2 σ) ∧ (x3 < x1 → Ok_X1_choice x3 σ (fun (r16 : Int) (s16 : gS) => (gR r16) ∧ ((r16 = 0 → Z9 x1 x2 (x3 + 1) s16) ∧ (¬ r16 = 0 → (gR (s16 7 0)) ∧ (gR (s16 5 0)) ∧ (((s16 5 0) < (s16 7 0) → Z9 x1 x2 (x3 + 1) s16) ∧ ((s16 7 0) ≤ (s16 5 0) → (gR x2) ∧ (((s16 7 0) ≤ x2 → Z9 x1 x2 (x3 + 1) s16) ∧ (x2 < (s16 7 0) → (∀ v45 : Int, v45 = (s16 7 0) → Z9 x1 v45 (x3 + 1) s16)))))))))) → Z9 x1 x2 x3 σ) →
  Ok_X1_end σ (fun (r1 : Int) (s1 : gS) => Z9 r1 0 0 s1)
def Ok_X1_lightest (a1 : Int) (σ : gS) (post : Int → gS → Prop) : Prop :=
  ∀ (Z10 : Int → Int → Int → gS → Prop),
  (∀ (x2 x3 x4 : Int) (σ : gS), (gR x4) ∧ (gR x2) ∧ ((x2 ≤ x4 → post x3 σ) ∧ (x4 < x2 → Ok_X1_choice x4 σ (fun (r19 : Int) (s19 : gS) => (gR r19) ∧ ((r19 = 0 → Z10 x2 x3 (x4 + 1) s19) ∧ (¬ r19 = 0 → (gR (s19 8 0)) ∧ (gR a1) ∧ (((s19 8 0) < a1 → Z10 x2 x3 (x4 + 1) s19) ∧ (a1 ≤ (s19 8 0) → (gR x3) ∧ ((x3 < 0 → (∀ v49 : Int, v49 = (s19 7 0) → Z10 x2 v49 (x4 + 1) s19)) ∧ (0 ≤ x3 → (gR (s19 7 0)) ∧ ((x3 ≤ (s19 7 0) → Z10 x2 x3 (x4 + 1) s19) ∧ ((s19 7 0) < x3 → (∀ v49 : Int, v49 = (s19 7 0) → Z10 x2 v49 (x4 + 1) s19)))))))))))) → Z10 x2 x3 x4 σ) →
  Ok_X1_end σ (fun (r1 : Int) (s1 : gS) => Z10 r1 (-1) 0 s1)
def Ok_X1_both (a1 a2 : Int) (σ : gS) (post : Int → gS → Prop) : Prop :=
  ∀ (Z14 : Int → Int → Int → Int → Int → gS → Prop),
  ∀ (Z57 : Int → Int → Int → Int → Int → Int → Int → gS → Prop),
  ∀ (Z84 : Int → Int → Int → Int → Int → Int → Int → gS → Prop),
  ∀ (Z162 : Int → Int → Int → gS → Prop),
  (∀ (x3 x4 x5 x6 x7 : Int) (σ : gS), (gR x7) ∧ (gR (σ 0 0)) ∧ (((σ 0 0) ≤ x7 → Z162 x4 x5 x6 σ) ∧ (x7 < (σ 0 0) → ((7 ≤ x7 → Z162 x4 x5 x6 σ) ∧ (x7 < 7 → (0 ≤ x3 ∧ x3 ≤ 2147483647) ∧ (∀ v34 : Int, v34 = (x3 % 6) → (gR v34) ∧ ((3 ≤ v34 → ((5 ≤ v34 → Z57 x3 x4 x5 x6 x7 v34 2 σ) ∧ (v34 < 5 → Z57 x3 x4 x5 x6 x7 v34 1 σ))) ∧ (v34 < 3 → Z57 x3 x4 x5 x6 x7 v34 0 σ))))))) → Z14 x3 x4 x5 x6 x7 σ) →
  (∀ (x3 x4 x5 x6 x7 x8 t0 : Int) (σ : gS), (gR x8) ∧ ((3 ≤ x8 → ((5 ≤ x8 → Z84 x3 x4 x5 x6 x7 t0 0 σ) ∧ (x8 < 5 → Z84 x3 x4 x5 x6 x7 t0 (x8 - 3) σ))) ∧ (x8 < 3 → Z84 x3 x4 x5 x6 x7 t0 x8 σ)) → Z57 x3 x4 x5 x6 x7 x8 t0 σ) →
  (∀ (x3 x4 x5 x6 x7 x9 t0 : Int) (σ : gS), (0 ≤ x7 ∧ x7 < 7) ∧ (gR (x9 + t0)) ∧ (gR (σ 3 x7)) ∧ (((x9 + t0) ≤ (σ 3 x7) → (∀ v116 : Int, v116 = (x4 + (x9 * (σ 1 x7))) → (∀ v131 : Int, v131 = (x5 + (t0 * (σ 1 x7))) → (∀ v149 : Int, v149 = (x6 + ((x9 + t0) * (σ 2 x7))) → (0 ≤ x3 ∧ x3 ≤ 2147483647) ∧ (∀ v155 : Int, v155 = (x3 / 6) → Z14 v155 v116 v131 v149 (x7 + 1) σ))))) ∧ ((σ 3 x7) < (x9 + t0) → post (-1) σ)) → Z84 x3 x4 x5 x6 x7 x9 t0 σ) →
  (∀ (x4 x5 x6 : Int) (σ : gS), (gR x4) ∧ (gR (σ 5 0)) ∧ (((σ 5 0) < x4 → post (-1) σ) ∧ (x4 ≤ (σ 5 0) → (gR x5) ∧ (gR a2) ∧ ((a2 < x5 → post (-1) σ) ∧ (x5 ≤ a2 → post x6 σ)))) → Z162 x4 x5 x6 σ) →
  Z14 a1 0 0 0 0 σ
def Ok_X1_two (a1 : Int) (σ : gS) (post : Int → gS → Prop) : Prop :=
  ∀ (Z16 : Int → Int → gS → Prop),
  ∀ (Z40 : Int → Int → Int → gS → Prop),
  (∀ (x2 x3 : Int) (σ : gS), (gR x3) ∧ (gR (σ 0 0)) ∧ (((σ 0 0) ≤ x3 → Z40 x2 0 0 σ) ∧ (x3 < (σ 0 0) → (∀ v28 : Int, v28 = (6 * x2) → Z16 v28 (x3 + 1) σ))) → Z16 x2 x3 σ) →
  (∀ (x2 x3 x4 : Int) (σ : gS), (gR x4) ∧ (gR x2) ∧ ((x2 ≤ x4 → post x3 σ) ∧ (x4 < x2 → Ok_X1_both x4 a1 σ (fun (r50 : Int) (s50 : gS) => (gR r50) ∧ (gR x3) ∧ ((r50 ≤ x3 → Z40 x2 x3 (x4 + 1) s50) ∧ (x3 < r50 → Z40 x2 r50 (x4 + 1) s50))))) → Z40 x2 x3 x4 σ) →
  (gR a1) ∧ ((a1 < 0 → post (-1) σ) ∧ (0 ≤ a1 → ((a1 ≤ 60 → Z16 1 0 σ) ∧ (60 < a1 → post (-1) σ))))
def Ok_X1_without (a1 : Int) (σ : gS) (post : Int → gS → Prop) : Prop :=
  Ok_X1_bad a1 σ (fun (r2 : Int) (s2 : gS) => (gR r2) ∧ ((r2 = 0 → Ok_X1_search 0 a1 s2 (fun (r13 : Int) (s13 : gS) => Ok_X1_valueAt r13 s13 (fun (r19 : Int) (s19 : gS) => post r19 s19))) ∧ (¬ r2 = 0 → post (-1) s2)))
def Ok_X1_halves (σ : gS) (post : Int → gS → Prop) : Prop :=
  ∀ (Z4 : Int → Int → gS → Prop),
  ∀ (Z40 : Int → gS → Prop),
  (∀ (x1 x2 : Int) (σ : gS), (gR x2) ∧ (gR (σ 0 0)) ∧ (((σ 0 0) ≤ x2 → Z40 x1 σ) ∧ (x2 < (σ 0 0) → ((7 ≤ x2 → Z40 x1 σ) ∧ (x2 < 7 → (0 ≤ x2 ∧ x2 < 7) ∧ (∀ v33 : Int, v33 = (x1 + ((σ 3 x2) * (σ 1 x2))) → Z4 v33 (x2 + 1) σ))))) → Z4 x1 x2 σ) →
  (∀ (x1 : Int) (σ : gS), (0 ≤ x1 ∧ x1 ≤ 2147483647) ∧ (gR (x1 % 2)) ∧ ((¬ (x1 % 2) = 0 → post 0 σ) ∧ ((x1 % 2) = 0 → Ok_X1_having (x1 / 2) σ (fun (r50 : Int) (s50 : gS) => (gR r50) ∧ ((r50 ≤ 0 → post 0 s50) ∧ (0 < r50 → post 1 s50))))) → Z40 x1 σ) →
  Z4 0 0 σ
end
section
set_option maxRecDepth 100000
set_option maxHeartbeats 4000000 in
theorem wk_X0_put (G : gG) (X : gX) (C : gC G X cX0_put 5 RX0 0) (a1 a2 a3 a4 : Int) (σ : gS) (post : gS → Prop) (hret : ∀ (u : gS) (pc : Nat) (ls : List (Nat × Value)), decode cX0_put pc = .ok (.return_, 1) → post u → gAt G X (XW G) 5 pc ls [] u) (h : Ok_X0_put a1 a2 a3 a4 σ post) : gAt G X (XW G) 5 0 [(0, .ref (g_h G)), (1, .int (iI a1)), (2, .int (iI a2)), (3, .int (iI a3)), (4, .int (iI a4))] [] σ := by
  unfold Ok_X0_put at h
  refine x_aload_n (pc := 0) (i := 0) C dX0_put_0 rfl 0 rfl ?_
  refine xg_0 (pc := 1) C dX0_put_1 ?_
  refine x_aload_n (pc := 4) (i := 0) C dX0_put_4 rfl 0 rfl ?_
  refine xg_9 (pc := 5) C dX0_put_5 ?_
  refine x_iload_n (pc := 8) (i := 1) C dX0_put_8 rfl 1 rfl ?_
  obtain ⟨o1, h⟩ := h
  refine xs_0 (pc := 9) C dX0_put_9 o1 ?_
  refine x_aload_n (pc := 10) (i := 0) C dX0_put_10 rfl 0 rfl ?_
  refine xg_1 (pc := 11) C dX0_put_11 ?_
  refine x_aload_n (pc := 14) (i := 0) C dX0_put_14 rfl 0 rfl ?_
  refine xg_9 (pc := 15) C dX0_put_15 ?_
  refine x_iload_n (pc := 18) (i := 2) C dX0_put_18 rfl 2 rfl ?_
  obtain ⟨o2, h⟩ := h
  refine xs_1 (pc := 19) C dX0_put_19 o2 ?_
  refine x_aload_n (pc := 20) (i := 0) C dX0_put_20 rfl 0 rfl ?_
  refine xg_2 (pc := 21) C dX0_put_21 ?_
  refine x_aload_n (pc := 24) (i := 0) C dX0_put_24 rfl 0 rfl ?_
  refine xg_9 (pc := 25) C dX0_put_25 ?_
  refine x_iload_n (pc := 28) (i := 3) C dX0_put_28 rfl 3 rfl ?_
  obtain ⟨o3, h⟩ := h
  refine xs_2 (pc := 29) C dX0_put_29 o3 ?_
  refine x_aload_n (pc := 30) (i := 0) C dX0_put_30 rfl 0 rfl ?_
  refine xg_3 (pc := 31) C dX0_put_31 ?_
  refine x_aload_n (pc := 34) (i := 0) C dX0_put_34 rfl 0 rfl ?_
  refine xg_9 (pc := 35) C dX0_put_35 ?_
  refine x_iload (pc := 38) C dX0_put_38 4 rfl ?_
  obtain ⟨o4, h⟩ := h
  refine xs_3 (pc := 40) C dX0_put_40 o4 ?_
  refine x_aload_n (pc := 41) (i := 0) C dX0_put_41 rfl 0 rfl ?_
  refine x_dup (pc := 42) C dX0_put_42 rfl ?_
  refine xg_9 (pc := 43) C dX0_put_43 ?_
  refine x_iconst (pc := 46) C dX0_put_46 ?_
  refine x_iadd (pc := 47) C dX0_put_47 ?_
  refine xp_9 (pc := 48) C dX0_put_48 ?_
  exact hret _ _ _ dX0_put_51 h
theorem mt_X0_put (G : gG) (a1 a2 a3 a4 : Int) (σ : gS) (post : gS → Prop) (h : Ok_X0_put a1 a2 a3 a4 σ post) : gMetV G yX0_put (ws_ yX0_put cX0_put 5 none) 0 (XW G) [.int (iI a1), .int (iI a2), .int (iI a3), .int (iI a4)] σ post :=
  gMetV.ofW (own := RX0) (by decide +kernel) rfl (Nat.le_of_ble_eq_true rfl) rfl (fun X C hret => wk_X0_put G X C a1 a2 a3 a4 σ post hret h)
set_option maxHeartbeats 4000000 in
theorem wk_X0_add (G : gG) (X : gX) (C : gC G X cX0_add 4 RX0 1) (a1 a2 a3 : Int) (σ : gS) (post : Int → gS → Prop) (hret : ∀ (z : Int) (u : gS) (pc : Nat) (ls : List (Nat × Value)), decode cX0_add pc = .ok (.ireturn, 1) → (True) → post z u → gAt G X (XW G) 4 pc ls [.int (iI z)] u) (h : Ok_X0_add a1 a2 a3 σ post) : gAt G X (XW G) 4 0 [(0, .ref (g_h G)), (1, .int (iI a1)), (2, .int (iI a2)), (3, .int (iI a3))] [] σ := by
  unfold Ok_X0_add at h
  refine x_iload_n (pc := 0) (i := 1) C dX0_add_0 rfl 1 rfl ?_
  refine x_iconst (pc := 1) C dX0_add_1 ?_
  obtain ⟨o1, h⟩ := h
  refine x_icmp_lt (pc := 2) C 11 dX0_add_2 (by decide) o1 (by decide) (fun hc => ?_) (fun hc => ?_)
  · have h := h.1 hc
    refine x_iconst (pc := 11) C dX0_add_11 ?_
    exact hret _ _ _ _ dX0_add_12 trivial h
  · have h := h.2 hc
    refine x_iload_n (pc := 5) (i := 1) C dX0_add_5 rfl 1 rfl ?_
    refine x_bipush (pc := 6) C dX0_add_6 (by decide) ?_
    refine x_icmp_le (pc := 8) C 13 dX0_add_8 (by decide) o1 (by decide) (fun hc => ?_) (fun hc => ?_)
    · have h := h.1 hc
      refine x_iload_n (pc := 13) (i := 2) C dX0_add_13 rfl 2 rfl ?_
      obtain ⟨o2, h⟩ := h
      refine x_if_lt (pc := 14) C 23 dX0_add_14 (by decide) o2 (fun hc => ?_) (fun hc => ?_)
      · have h := h.1 hc
        refine x_bipush (pc := 23) C dX0_add_23 (by decide) ?_
        exact hret _ _ _ _ dX0_add_25 trivial h
      · have h := h.2 hc
        refine x_iload_n (pc := 17) (i := 2) C dX0_add_17 rfl 2 rfl ?_
        refine x_bipush (pc := 18) C dX0_add_18 (by decide) ?_
        refine x_icmp_le (pc := 20) C 26 dX0_add_20 (by decide) o2 (by decide) (fun hc => ?_) (fun hc => ?_)
        · have h := h.1 hc
          refine x_iload_n (pc := 26) (i := 3) C dX0_add_26 rfl 3 rfl ?_
          refine x_iconst (pc := 27) C dX0_add_27 ?_
          obtain ⟨o3, h⟩ := h
          refine x_icmp_lt (pc := 28) C 37 dX0_add_28 (by decide) o3 (by decide) (fun hc => ?_) (fun hc => ?_)
          · have h := h.1 hc
            refine x_bipush (pc := 37) C dX0_add_37 (by decide) ?_
            exact hret _ _ _ _ dX0_add_39 trivial h
          · have h := h.2 hc
            refine x_iload_n (pc := 31) (i := 3) C dX0_add_31 rfl 3 rfl ?_
            refine x_bipush (pc := 32) C dX0_add_32 (by decide) ?_
            refine x_icmp_le (pc := 34) C 40 dX0_add_34 (by decide) o3 (by decide) (fun hc => ?_) (fun hc => ?_)
            · have h := h.1 hc
              refine x_aload_n (pc := 40) (i := 0) C dX0_add_40 rfl 0 rfl ?_
              refine xg_9 (pc := 41) C dX0_add_41 ?_
              refine x_bipush (pc := 44) C dX0_add_44 (by decide) ?_
              obtain ⟨o4, h⟩ := h
              refine x_icmp_ne (pc := 46) C 52 dX0_add_46 (by decide) o4 (by decide) (fun hc => ?_) (fun hc => ?_)
              · have h := h.1 hc
                refine x_aload_n (pc := 52) (i := 0) C dX0_add_52 rfl 0 rfl ?_
                refine x_iload_n (pc := 53) (i := 1) C dX0_add_53 rfl 1 rfl ?_
                refine x_iload_n (pc := 54) (i := 2) C dX0_add_54 rfl 2 rfl ?_
                refine x_iload_n (pc := 55) (i := 3) C dX0_add_55 rfl 3 rfl ?_
                refine x_iconst (pc := 56) C dX0_add_56 ?_
                obtain ⟨o5, h⟩ := h
                refine x_ishr (pc := 57) C 2 4 dX0_add_57 (by decide) (by decide) o5 ?_
                refine x_iload_n (pc := 58) (i := 3) C dX0_add_58 rfl 3 rfl ?_
                refine x_iconst (pc := 59) C dX0_add_59 ?_
                refine x_iand (pc := 60) C 2 4 dX0_add_60 (by decide) (by decide) o5 ?_
                refine x_callv (pc := 61) (n := 4) (As := [.int (iI a1), .int (iI a2), .int (iI (a3 / 4)), .int (iI (a3 % 4))]) (st := []) C (mt_X0_put G a1 a2 (a3 / 4) (a3 % 4) σ _ h) (lw_V q72 q74 qs0 q23 q75) (by decide +kernel) ⟨by decide, by decide⟩ rfl rfl rfl rfl (Nat.le_of_ble_eq_true rfl) dX0_add_61 (fun s61 h => ?_)
                refine x_aload_n (pc := 64) (i := 0) C dX0_add_64 rfl 0 rfl ?_
                refine xg_9 (pc := 65) C dX0_add_65 ?_
                refine x_iconst (pc := 68) C dX0_add_68 ?_
                refine x_isub (pc := 69) C dX0_add_69 ?_
                exact hret _ _ _ _ dX0_add_70 trivial h
              · have h := h.2 hc
                refine x_bipush (pc := 49) C dX0_add_49 (by decide) ?_
                exact hret _ _ _ _ dX0_add_51 trivial h
            · have h := h.2 hc
              refine x_bipush (pc := 37) C dX0_add_37 (by decide) ?_
              exact hret _ _ _ _ dX0_add_39 trivial h
        · have h := h.2 hc
          refine x_bipush (pc := 23) C dX0_add_23 (by decide) ?_
          exact hret _ _ _ _ dX0_add_25 trivial h
    · have h := h.2 hc
      refine x_iconst (pc := 11) C dX0_add_11 ?_
      exact hret _ _ _ _ dX0_add_12 trivial h
theorem mt_X0_add (G : gG) (a1 a2 a3 : Int) (σ : gS) (post : Int → gS → Prop) (h : Ok_X0_add a1 a2 a3 σ post) : gMetI G yX0_add (ws_ yX0_add cX0_add 4 (some .int)) 1 (XW G) [.int (iI a1), .int (iI a2), .int (iI a3)] σ post :=
  gMetI.ofW (own := RX0) (by decide +kernel) rfl (Nat.le_of_ble_eq_true rfl) rfl (fun _ => True) (fun z _ => vp_nar_int (iI z)) (fun X C hret => wk_X0_add G X C a1 a2 a3 σ post hret h)
set_option maxHeartbeats 4000000 in
theorem wk_X0_sow (G : gG) (X : gX) (C : gC G X cX0_sow 6 RX0 1) (a1 a2 : Int) (σ : gS) (post : Int → gS → Prop) (hret : ∀ (z : Int) (u : gS) (pc : Nat) (ls : List (Nat × Value)), decode cX0_sow pc = .ok (.ireturn, 1) → (True) → post z u → gAt G X (XW G) 6 pc ls [.int (iI z)] u) (h : Ok_X0_sow a1 a2 σ post) : gAt G X (XW G) 6 0 [(0, .ref (g_h G)), (1, .int (iI a1)), (2, .int (iI a2))] [] σ := by
  have h := h (fun (x3 : Int) (σ : gS) => gAt G X (XW G) 6 28 [(0, .ref (g_h G)), (1, .int (iI a1)), (2, .int (iI a2)), (3, .int (iI x3))] [] σ)
  have h := h (by
    intro x3 σ h
    refine x_iload_n (pc := 28) (i := 3) C dX0_sow_28 rfl 3 rfl ?_
    refine x_iload_n (pc := 29) (i := 2) C dX0_sow_29 rfl 2 rfl ?_
    obtain ⟨o1, o2, h⟩ := h
    refine x_icmp_ge (pc := 30) C 97 dX0_sow_30 (by decide) o1 o2 (fun hc => ?_) (fun hc => ?_)
    · have h := h.1 hc
      refine x_aload_n (pc := 97) (i := 0) C dX0_sow_97 rfl 0 rfl ?_
      refine xg_9 (pc := 98) C dX0_sow_98 ?_
      exact hret _ _ _ _ dX0_sow_101 trivial h
    · have h := h.2 hc
      refine x_aload_n (pc := 33) (i := 0) C dX0_sow_33 rfl 0 rfl ?_
      refine xg_9 (pc := 34) C dX0_sow_34 ?_
      refine x_bipush (pc := 37) C dX0_sow_37 (by decide) ?_
      obtain ⟨o3, h⟩ := h
      refine x_icmp_ge (pc := 39) C 97 dX0_sow_39 (by decide) o3 (by decide) (fun hc => ?_) (fun hc => ?_)
      · have h := h.1 hc
        refine x_aload_n (pc := 97) (i := 0) C dX0_sow_97 rfl 0 rfl ?_
        refine xg_9 (pc := 98) C dX0_sow_98 ?_
        exact hret _ _ _ _ dX0_sow_101 trivial h
      · have h := h.2 hc
        refine x_iconst (pc := 42) C dX0_sow_42 ?_
        refine x_iload_n (pc := 43) (i := 1) C dX0_sow_43 rfl 1 rfl ?_
        refine x_iconst (pc := 44) C dX0_sow_44 ?_
        refine x_iload_n (pc := 45) (i := 3) C dX0_sow_45 rfl 3 rfl ?_
        refine x_imul (pc := 46) C dX0_sow_46 ?_
        refine x_iadd (pc := 47) C dX0_sow_47 ?_
        refine x_bipush (pc := 48) C dX0_sow_48 (by decide) ?_
        obtain ⟨o4, h⟩ := h
        refine x_irem (pc := 50) C dX0_sow_50 (by decide) o4 ?_
        refine x_iadd (pc := 51) C dX0_sow_51 ?_
        have h := h _ rfl
        refine x_istore (pc := 52) (ls' := [(4, .int (iI (1 + ((a1 + (5 * x3)) % 20)))), (0, .ref (g_h G)), (1, .int (iI a1)), (2, .int (iI a2)), (3, .int (iI x3))]) C dX0_sow_52 (by decide) rfl ?_
        refine x_iload_n (pc := 54) (i := 1) C dX0_sow_54 rfl 2 rfl ?_
        refine x_iconst (pc := 55) C dX0_sow_55 ?_
        refine x_imul (pc := 56) C dX0_sow_56 ?_
        refine x_bipush (pc := 57) C dX0_sow_57 (by decide) ?_
        refine x_iload_n (pc := 59) (i := 3) C dX0_sow_59 rfl 4 rfl ?_
        refine x_imul (pc := 60) C dX0_sow_60 ?_
        refine x_iload_n (pc := 61) (i := 3) C dX0_sow_61 rfl 4 rfl ?_
        refine x_imul (pc := 62) C dX0_sow_62 ?_
        refine x_iadd (pc := 63) C dX0_sow_63 ?_
        refine x_bipush (pc := 64) C dX0_sow_64 (by decide) ?_
        obtain ⟨o5, h⟩ := h
        refine x_irem (pc := 66) C dX0_sow_66 (by decide) o5 ?_
        have h := h _ rfl
        refine x_istore (pc := 67) (ls' := [(5, .int (iI (((a1 * 3) + ((7 * x3) * x3)) % 51))), (4, .int (iI (1 + ((a1 + (5 * x3)) % 20)))), (0, .ref (g_h G)), (1, .int (iI a1)), (2, .int (iI a2)), (3, .int (iI x3))]) C dX0_sow_67 (by decide) rfl ?_
        refine x_aload_n (pc := 69) (i := 0) C dX0_sow_69 rfl 2 rfl ?_
        refine x_iload (pc := 70) C dX0_sow_70 1 rfl ?_
        refine x_iload (pc := 72) C dX0_sow_72 0 rfl ?_
        refine x_iconst (pc := 74) C dX0_sow_74 ?_
        refine x_iload_n (pc := 75) (i := 1) C dX0_sow_75 rfl 3 rfl ?_
        refine x_iload_n (pc := 76) (i := 3) C dX0_sow_76 rfl 5 rfl ?_
        refine x_iadd (pc := 77) C dX0_sow_77 ?_
        refine x_iconst (pc := 78) C dX0_sow_78 ?_
        obtain ⟨o6, h⟩ := h
        refine x_irem (pc := 79) C dX0_sow_79 (by decide) o6 ?_
        refine x_iadd (pc := 80) C dX0_sow_80 ?_
        refine x_iload_n (pc := 81) (i := 1) C dX0_sow_81 rfl 3 rfl ?_
        refine x_iload_n (pc := 82) (i := 3) C dX0_sow_82 rfl 5 rfl ?_
        refine x_iload_n (pc := 83) (i := 3) C dX0_sow_83 rfl 5 rfl ?_
        refine x_imul (pc := 84) C dX0_sow_84 ?_
        refine x_iadd (pc := 85) C dX0_sow_85 ?_
        refine x_iconst (pc := 86) C dX0_sow_86 ?_
        obtain ⟨o7, h⟩ := h
        refine x_irem (pc := 87) C dX0_sow_87 (by decide) o7 ?_
        refine x_callv (pc := 88) (n := 4) (As := [.int (iI (1 + ((a1 + (5 * x3)) % 20))), .int (iI (((a1 * 3) + ((7 * x3) * x3)) % 51)), .int (iI (1 + ((a1 + x3) % 2))), .int (iI ((a1 + (x3 * x3)) % 4))]) (st := []) C (mt_X0_put G (1 + ((a1 + (5 * x3)) % 20)) (((a1 * 3) + ((7 * x3) * x3)) % 51) (1 + ((a1 + x3) % 2)) ((a1 + (x3 * x3)) % 4) σ _ h) (lw_V q72 q74 qs0 q23 q75) (by decide +kernel) ⟨by decide, by decide⟩ rfl rfl rfl rfl (Nat.le_of_ble_eq_true rfl) dX0_sow_88 (fun s88 h => ?_)
        refine x_iinc (pc := 91) (ls' := [(3, .int (iI (x3 + 1))), (5, .int (iI (((a1 * 3) + ((7 * x3) * x3)) % 51))), (4, .int (iI (1 + ((a1 + (5 * x3)) % 20)))), (0, .ref (g_h G)), (1, .int (iI a1)), (2, .int (iI a2))]) C dX0_sow_91 5 rfl (by decide) rfl ?_
        refine x_goto (pc := 94) C 28 dX0_sow_94 (by decide) ?_
        exact x_pick [3, 4, 5, 0] rfl h)
  refine x_iload_n (pc := 0) (i := 1) C dX0_sow_0 rfl 1 rfl ?_
  obtain ⟨o1, h⟩ := h
  refine x_if_lt (pc := 1) C 10 dX0_sow_1 (by decide) o1 (fun hc => ?_) (fun hc => ?_)
  · have h := h.1 hc
    refine x_iconst (pc := 10) C dX0_sow_10 ?_
    exact hret _ _ _ _ dX0_sow_11 trivial h
  · have h := h.2 hc
    refine x_iload_n (pc := 4) (i := 1) C dX0_sow_4 rfl 1 rfl ?_
    refine x_bipush (pc := 5) C dX0_sow_5 (by decide) ?_
    refine x_icmp_le (pc := 7) C 12 dX0_sow_7 (by decide) o1 (by decide) (fun hc => ?_) (fun hc => ?_)
    · have h := h.1 hc
      refine x_iload_n (pc := 12) (i := 2) C dX0_sow_12 rfl 2 rfl ?_
      refine x_iconst (pc := 13) C dX0_sow_13 ?_
      obtain ⟨o2, h⟩ := h
      refine x_icmp_lt (pc := 14) C 23 dX0_sow_14 (by decide) o2 (by decide) (fun hc => ?_) (fun hc => ?_)
      · have h := h.1 hc
        refine x_bipush (pc := 23) C dX0_sow_23 (by decide) ?_
        exact hret _ _ _ _ dX0_sow_25 trivial h
      · have h := h.2 hc
        refine x_iload_n (pc := 17) (i := 2) C dX0_sow_17 rfl 2 rfl ?_
        refine x_bipush (pc := 18) C dX0_sow_18 (by decide) ?_
        refine x_icmp_le (pc := 20) C 26 dX0_sow_20 (by decide) o2 (by decide) (fun hc => ?_) (fun hc => ?_)
        · have h := h.1 hc
          refine x_iconst (pc := 26) C dX0_sow_26 ?_
          refine x_istore_n (pc := 27) (i := 3) (ls' := [(3, .int (iI 0)), (0, .ref (g_h G)), (1, .int (iI a1)), (2, .int (iI a2))]) C dX0_sow_27 rfl (by decide) rfl ?_
          exact x_pick [1, 2, 3, 0] rfl h
        · have h := h.2 hc
          refine x_bipush (pc := 23) C dX0_sow_23 (by decide) ?_
          exact hret _ _ _ _ dX0_sow_25 trivial h
    · have h := h.2 hc
      refine x_iconst (pc := 10) C dX0_sow_10 ?_
      exact hret _ _ _ _ dX0_sow_11 trivial h
theorem mt_X0_sow (G : gG) (a1 a2 : Int) (σ : gS) (post : Int → gS → Prop) (h : Ok_X0_sow a1 a2 σ post) : gMetI G yX0_sow (ws_ yX0_sow cX0_sow 6 (some .int)) 1 (XW G) [.int (iI a1), .int (iI a2)] σ post :=
  gMetI.ofW (own := RX0) (by decide +kernel) rfl (Nat.le_of_ble_eq_true rfl) rfl (fun _ => True) (fun z _ => vp_nar_int (iI z)) (fun X C hret => wk_X0_sow G X C a1 a2 σ post hret h)
set_option maxHeartbeats 4000000 in
theorem wk_X0_isGood (G : gG) (X : gX) (C : gC G X cX0_isGood 2 RX0 0) (a1 : Int) (σ : gS) (post : Int → gS → Prop) (hret : ∀ (z : Int) (u : gS) (pc : Nat) (ls : List (Nat × Value)), decode cX0_isGood pc = .ok (.ireturn, 1) → (z = 0 ∨ z = 1) → post z u → gAt G X (XW G) 2 pc ls [.int (iI z)] u) (h : Ok_X0_isGood a1 σ post) : gAt G X (XW G) 2 0 [(0, .ref (g_h G)), (1, .int (iI a1))] [] σ := by
  unfold Ok_X0_isGood at h
  refine x_iload_n (pc := 0) (i := 1) C dX0_isGood_0 rfl 1 rfl ?_
  obtain ⟨o1, h⟩ := h
  refine x_if_lt (pc := 1) C 16 dX0_isGood_1 (by decide) o1 (fun hc => ?_) (fun hc => ?_)
  · have h := h.1 hc
    refine x_iconst (pc := 16) C dX0_isGood_16 ?_
    exact hret _ _ _ _ dX0_isGood_17 (Or.inl rfl) h
  · have h := h.2 hc
    refine x_iload_n (pc := 4) (i := 1) C dX0_isGood_4 rfl 1 rfl ?_
    refine x_aload_n (pc := 5) (i := 0) C dX0_isGood_5 rfl 0 rfl ?_
    refine xg_9 (pc := 6) C dX0_isGood_6 ?_
    obtain ⟨o2, h⟩ := h
    refine x_icmp_ge (pc := 9) C 16 dX0_isGood_9 (by decide) o1 o2 (fun hc => ?_) (fun hc => ?_)
    · have h := h.1 hc
      refine x_iconst (pc := 16) C dX0_isGood_16 ?_
      exact hret _ _ _ _ dX0_isGood_17 (Or.inl rfl) h
    · have h := h.2 hc
      refine x_iconst (pc := 12) C dX0_isGood_12 ?_
      refine x_goto (pc := 13) C 17 dX0_isGood_13 (by decide) ?_
      exact hret _ _ _ _ dX0_isGood_17 (Or.inr rfl) h
theorem mt_X0_isGood (G : gG) (a1 : Int) (σ : gS) (post : Int → gS → Prop) (h : Ok_X0_isGood a1 σ post) : gMetI G yX0_isGood (ws_ yX0_isGood cX0_isGood 2 (some .boolean)) 0 (XW G) [.int (iI a1)] σ post :=
  gMetI.ofW (own := RX0) (by decide +kernel) rfl (Nat.le_of_ble_eq_true rfl) rfl (fun z => z = 0 ∨ z = 1) (fun z hz => gNarrow hz) (fun X C hret => wk_X0_isGood G X C a1 σ post hret h)
set_option maxHeartbeats 4000000 in
theorem wk_X0_drop (G : gG) (X : gX) (C : gC G X cX0_drop 3 RX0 1) (a1 : Int) (σ : gS) (post : Int → gS → Prop) (hret : ∀ (z : Int) (u : gS) (pc : Nat) (ls : List (Nat × Value)), decode cX0_drop pc = .ok (.ireturn, 1) → (True) → post z u → gAt G X (XW G) 3 pc ls [.int (iI z)] u) (h : Ok_X0_drop a1 σ post) : gAt G X (XW G) 3 0 [(0, .ref (g_h G)), (1, .int (iI a1))] [] σ := by
  have h := h (fun (x2 : Int) (σ : gS) => gAt G X (XW G) 3 14 [(0, .ref (g_h G)), (1, .int (iI a1)), (2, .int (iI x2))] [] σ)
  have h := h (by
    intro x2 σ h
    refine x_iload_n (pc := 14) (i := 2) C dX0_drop_14 rfl 2 rfl ?_
    refine x_aload_n (pc := 15) (i := 0) C dX0_drop_15 rfl 0 rfl ?_
    refine xg_9 (pc := 16) C dX0_drop_16 ?_
    obtain ⟨o1, o2, h⟩ := h
    refine x_icmp_ge (pc := 19) C 84 dX0_drop_19 (by decide) o1 o2 (fun hc => ?_) (fun hc => ?_)
    · have h := h.1 hc
      refine x_aload_n (pc := 84) (i := 0) C dX0_drop_84 rfl 0 rfl ?_
      refine x_dup (pc := 85) C dX0_drop_85 rfl ?_
      refine xg_9 (pc := 86) C dX0_drop_86 ?_
      refine x_iconst (pc := 89) C dX0_drop_89 ?_
      refine x_isub (pc := 90) C dX0_drop_90 ?_
      refine xp_9 (pc := 91) C dX0_drop_91 ?_
      refine x_aload_n (pc := 94) (i := 0) C dX0_drop_94 rfl 0 rfl ?_
      refine xg_9 (pc := 95) C dX0_drop_95 ?_
      exact hret _ _ _ _ dX0_drop_98 trivial h
    · have h := h.2 hc
      refine x_aload_n (pc := 22) (i := 0) C dX0_drop_22 rfl 0 rfl ?_
      refine xg_0 (pc := 23) C dX0_drop_23 ?_
      refine x_iload_n (pc := 26) (i := 2) C dX0_drop_26 rfl 2 rfl ?_
      refine x_iconst (pc := 27) C dX0_drop_27 ?_
      refine x_isub (pc := 28) C dX0_drop_28 ?_
      refine x_aload_n (pc := 29) (i := 0) C dX0_drop_29 rfl 0 rfl ?_
      refine xg_0 (pc := 30) C dX0_drop_30 ?_
      refine x_iload_n (pc := 33) (i := 2) C dX0_drop_33 rfl 2 rfl ?_
      obtain ⟨o3, h⟩ := h
      refine xl_0 (pc := 34) C dX0_drop_34 o3 ?_
      obtain ⟨o4, h⟩ := h
      refine xs_0 (pc := 35) C dX0_drop_35 o4 ?_
      refine x_aload_n (pc := 36) (i := 0) C dX0_drop_36 rfl 0 rfl ?_
      refine xg_1 (pc := 37) C dX0_drop_37 ?_
      refine x_iload_n (pc := 40) (i := 2) C dX0_drop_40 rfl 2 rfl ?_
      refine x_iconst (pc := 41) C dX0_drop_41 ?_
      refine x_isub (pc := 42) C dX0_drop_42 ?_
      refine x_aload_n (pc := 43) (i := 0) C dX0_drop_43 rfl 0 rfl ?_
      refine xg_1 (pc := 44) C dX0_drop_44 ?_
      refine x_iload_n (pc := 47) (i := 2) C dX0_drop_47 rfl 2 rfl ?_
      refine xl_1 (pc := 48) C dX0_drop_48 o3 ?_
      refine xs_1 (pc := 49) C dX0_drop_49 o4 ?_
      refine x_aload_n (pc := 50) (i := 0) C dX0_drop_50 rfl 0 rfl ?_
      refine xg_2 (pc := 51) C dX0_drop_51 ?_
      refine x_iload_n (pc := 54) (i := 2) C dX0_drop_54 rfl 2 rfl ?_
      refine x_iconst (pc := 55) C dX0_drop_55 ?_
      refine x_isub (pc := 56) C dX0_drop_56 ?_
      refine x_aload_n (pc := 57) (i := 0) C dX0_drop_57 rfl 0 rfl ?_
      refine xg_2 (pc := 58) C dX0_drop_58 ?_
      refine x_iload_n (pc := 61) (i := 2) C dX0_drop_61 rfl 2 rfl ?_
      refine xl_2 (pc := 62) C dX0_drop_62 o3 ?_
      refine xs_2 (pc := 63) C dX0_drop_63 o4 ?_
      refine x_aload_n (pc := 64) (i := 0) C dX0_drop_64 rfl 0 rfl ?_
      refine xg_3 (pc := 65) C dX0_drop_65 ?_
      refine x_iload_n (pc := 68) (i := 2) C dX0_drop_68 rfl 2 rfl ?_
      refine x_iconst (pc := 69) C dX0_drop_69 ?_
      refine x_isub (pc := 70) C dX0_drop_70 ?_
      refine x_aload_n (pc := 71) (i := 0) C dX0_drop_71 rfl 0 rfl ?_
      refine xg_3 (pc := 72) C dX0_drop_72 ?_
      refine x_iload_n (pc := 75) (i := 2) C dX0_drop_75 rfl 2 rfl ?_
      refine xl_3 (pc := 76) C dX0_drop_76 o3 ?_
      refine xs_3 (pc := 77) C dX0_drop_77 o4 ?_
      refine x_iinc (pc := 78) (ls' := [(2, .int (iI (x2 + 1))), (0, .ref (g_h G)), (1, .int (iI a1))]) C dX0_drop_78 2 rfl (by decide) rfl ?_
      refine x_goto (pc := 81) C 14 dX0_drop_81 (by decide) ?_
      exact x_pick [1, 2, 0] rfl h)
  refine x_aload_n (pc := 0) (i := 0) C dX0_drop_0 rfl 0 rfl ?_
  refine x_iload_n (pc := 1) (i := 1) C dX0_drop_1 rfl 1 rfl ?_
  refine x_calli (pc := 2) (n := 1) (As := [.int (iI a1)]) (st := []) C (mt_X0_isGood G a1 σ _ h) (lw_V q84 q86 qs1 q23 q87) (by decide +kernel) ⟨by decide, by decide⟩ rfl rfl rfl rfl (Nat.le_of_ble_eq_true rfl) dX0_drop_2 (fun r2 s2 h => ?_)
  obtain ⟨o1, h⟩ := h
  refine x_if_ne (pc := 5) C 10 dX0_drop_5 (by decide) o1 (fun hc => ?_) (fun hc => ?_)
  · have h := h.1 hc
    refine x_iload_n (pc := 10) (i := 1) C dX0_drop_10 rfl 1 rfl ?_
    refine x_iconst (pc := 11) C dX0_drop_11 ?_
    refine x_iadd (pc := 12) C dX0_drop_12 ?_
    have h := h _ rfl
    refine x_istore_n (pc := 13) (i := 2) (ls' := [(2, .int (iI (a1 + 1))), (0, .ref (g_h G)), (1, .int (iI a1))]) C dX0_drop_13 rfl (by decide) rfl ?_
    exact x_pick [1, 2, 0] rfl h
  · have h := h.2 hc
    refine x_iconst (pc := 8) C dX0_drop_8 ?_
    exact hret _ _ _ _ dX0_drop_9 trivial h
theorem mt_X0_drop (G : gG) (a1 : Int) (σ : gS) (post : Int → gS → Prop) (h : Ok_X0_drop a1 σ post) : gMetI G yX0_drop (ws_ yX0_drop cX0_drop 3 (some .int)) 1 (XW G) [.int (iI a1)] σ post :=
  gMetI.ofW (own := RX0) (by decide +kernel) rfl (Nat.le_of_ble_eq_true rfl) rfl (fun _ => True) (fun z _ => vp_nar_int (iI z)) (fun X C hret => wk_X0_drop G X C a1 σ post hret h)
set_option maxHeartbeats 4000000 in
theorem wk_X0_limit (G : gG) (X : gX) (C : gC G X cX0_limit 3 RX0 0) (a1 : Int) (σ : gS) (post : Int → gS → Prop) (hret : ∀ (z : Int) (u : gS) (pc : Nat) (ls : List (Nat × Value)), decode cX0_limit pc = .ok (.ireturn, 1) → (True) → post z u → gAt G X (XW G) 3 pc ls [.int (iI z)] u) (h : Ok_X0_limit a1 σ post) : gAt G X (XW G) 3 0 [(0, .ref (g_h G)), (1, .int (iI a1))] [] σ := by
  unfold Ok_X0_limit at h
  refine x_iload_n (pc := 0) (i := 1) C dX0_limit_0 rfl 1 rfl ?_
  obtain ⟨o1, h⟩ := h
  refine x_if_lt (pc := 1) C 10 dX0_limit_1 (by decide) o1 (fun hc => ?_) (fun hc => ?_)
  · have h := h.1 hc
    refine x_iconst (pc := 10) C dX0_limit_10 ?_
    exact hret _ _ _ _ dX0_limit_11 trivial h
  · have h := h.2 hc
    refine x_iload_n (pc := 4) (i := 1) C dX0_limit_4 rfl 1 rfl ?_
    refine x_bipush (pc := 5) C dX0_limit_5 (by decide) ?_
    refine x_icmp_le (pc := 7) C 12 dX0_limit_7 (by decide) o1 (by decide) (fun hc => ?_) (fun hc => ?_)
    · have h := h.1 hc
      refine x_aload_n (pc := 12) (i := 0) C dX0_limit_12 rfl 0 rfl ?_
      refine xg_10 (pc := 13) C dX0_limit_13 ?_
      have h := h _ rfl
      refine x_istore_n (pc := 16) (i := 2) (ls' := [(2, .int (iI (σ 10 0))), (0, .ref (g_h G)), (1, .int (iI a1))]) C dX0_limit_16 rfl (by decide) rfl ?_
      refine x_aload_n (pc := 17) (i := 0) C dX0_limit_17 rfl 1 rfl ?_
      refine x_iload_n (pc := 18) (i := 1) C dX0_limit_18 rfl 2 rfl ?_
      refine xp_10 (pc := 19) C dX0_limit_19 ?_
      refine x_iload_n (pc := 22) (i := 2) C dX0_limit_22 rfl 0 rfl ?_
      exact hret _ _ _ _ dX0_limit_23 trivial h
    · have h := h.2 hc
      refine x_iconst (pc := 10) C dX0_limit_10 ?_
      exact hret _ _ _ _ dX0_limit_11 trivial h
theorem mt_X0_limit (G : gG) (a1 : Int) (σ : gS) (post : Int → gS → Prop) (h : Ok_X0_limit a1 σ post) : gMetI G yX0_limit (ws_ yX0_limit cX0_limit 3 (some .int)) 0 (XW G) [.int (iI a1)] σ post :=
  gMetI.ofW (own := RX0) (by decide +kernel) rfl (Nat.le_of_ble_eq_true rfl) rfl (fun _ => True) (fun z _ => vp_nar_int (iI z)) (fun X C hret => wk_X0_limit G X C a1 σ post hret h)
set_option maxHeartbeats 4000000 in
theorem wk_X0_goods (G : gG) (X : gX) (C : gC G X cX0_goods 1 RX0 0) (σ : gS) (post : Int → gS → Prop) (hret : ∀ (z : Int) (u : gS) (pc : Nat) (ls : List (Nat × Value)), decode cX0_goods pc = .ok (.ireturn, 1) → (True) → post z u → gAt G X (XW G) 1 pc ls [.int (iI z)] u) (h : Ok_X0_goods  σ post) : gAt G X (XW G) 1 0 [(0, .ref (g_h G))] [] σ := by
  unfold Ok_X0_goods at h
  refine x_aload_n (pc := 0) (i := 0) C dX0_goods_0 rfl 0 rfl ?_
  refine xg_9 (pc := 1) C dX0_goods_1 ?_
  exact hret _ _ _ _ dX0_goods_4 trivial h
theorem mt_X0_goods (G : gG) (σ : gS) (post : Int → gS → Prop) (h : Ok_X0_goods  σ post) : gMetI G yX0_goods (ws_ yX0_goods cX0_goods 1 (some .int)) 0 (XW G) [] σ post :=
  gMetI.ofW (own := RX0) (by decide +kernel) rfl (Nat.le_of_ble_eq_true rfl) rfl (fun _ => True) (fun z _ => vp_nar_int (iI z)) (fun X C hret => wk_X0_goods G X C  σ post hret h)
set_option maxHeartbeats 4000000 in
theorem wk_X0_load (G : gG) (X : gX) (C : gC G X cX0_load 4 RX0 0) (a1 : Int) (σ : gS) (post : Int → gS → Prop) (hret : ∀ (z : Int) (u : gS) (pc : Nat) (ls : List (Nat × Value)), decode cX0_load pc = .ok (.ireturn, 1) → (z = 0 ∨ z = 1) → post z u → gAt G X (XW G) 4 pc ls [.int (iI z)] u) (h : Ok_X0_load a1 σ post) : gAt G X (XW G) 4 0 [(0, .ref (g_h G)), (1, .int (iI a1))] [] σ := by
  have h := h (fun (x2 x3 : Int) (σ : gS) => gAt G X (XW G) 4 15 [(0, .ref (g_h G)), (1, .int (iI a1)), (2, .int (iI x2)), (3, .int (iI x3))] [] σ)
  have h := h (by
    intro x2 x3 σ h
    refine x_iload_n (pc := 15) (i := 3) C dX0_load_15 rfl 3 rfl ?_
    obtain ⟨o1, h⟩ := h
    refine x_if_lt (pc := 16) C 55 dX0_load_16 (by decide) o1 (fun hc => ?_) (fun hc => ?_)
    · have h := h.1 hc
      refine x_iload_n (pc := 55) (i := 2) C dX0_load_55 rfl 2 rfl ?_
      obtain ⟨o2, h⟩ := h
      refine x_if_ne (pc := 56) C 63 dX0_load_56 (by decide) o2 (fun hc => ?_) (fun hc => ?_)
      · have h := h.1 hc
        refine x_iconst (pc := 63) C dX0_load_63 ?_
        exact hret _ _ _ _ dX0_load_64 (Or.inl rfl) h
      · have h := h.2 hc
        refine x_iconst (pc := 59) C dX0_load_59 ?_
        refine x_goto (pc := 60) C 64 dX0_load_60 (by decide) ?_
        exact hret _ _ _ _ dX0_load_64 (Or.inr rfl) h
    · have h := h.2 hc
      refine x_aload_n (pc := 19) (i := 0) C dX0_load_19 rfl 0 rfl ?_
      refine xg_7 (pc := 20) C dX0_load_20 ?_
      refine x_iload_n (pc := 23) (i := 3) C dX0_load_23 rfl 3 rfl ?_
      refine x_iload_n (pc := 24) (i := 2) C dX0_load_24 rfl 2 rfl ?_
      refine x_iconst (pc := 25) C dX0_load_25 ?_
      obtain ⟨o3, h⟩ := h
      refine x_irem (pc := 26) C dX0_load_26 (by decide) o3 ?_
      obtain ⟨o4, h⟩ := h
      refine xs_7 (pc := 27) C dX0_load_27 o4 ?_
      refine x_iload_n (pc := 28) (i := 2) C dX0_load_28 rfl 2 rfl ?_
      refine x_iconst (pc := 29) C dX0_load_29 ?_
      refine x_idiv (pc := 30) C dX0_load_30 (by decide) o3 ?_
      have h := h _ rfl
      refine x_istore_n (pc := 31) (i := 2) (ls' := [(2, .int (iI (x2 / 3))), (0, .ref (g_h G)), (1, .int (iI a1)), (3, .int (iI x3))]) C dX0_load_31 rfl (by decide) rfl ?_
      refine x_aload_n (pc := 32) (i := 0) C dX0_load_32 rfl 1 rfl ?_
      refine xg_7 (pc := 33) C dX0_load_33 ?_
      refine x_iload_n (pc := 36) (i := 3) C dX0_load_36 rfl 3 rfl ?_
      refine xl_7 (pc := 37) C dX0_load_37 o4 ?_
      refine x_aload_n (pc := 38) (i := 0) C dX0_load_38 rfl 1 rfl ?_
      refine xg_2 (pc := 39) C dX0_load_39 ?_
      refine x_iload_n (pc := 42) (i := 3) C dX0_load_42 rfl 3 rfl ?_
      refine xl_2 (pc := 43) C dX0_load_43 o4 ?_
      obtain ⟨o5, o6, h⟩ := h
      refine x_icmp_le (pc := 44) C 49 dX0_load_44 (by decide) o5 o6 (fun hc => ?_) (fun hc => ?_)
      · have h := h.1 hc
        refine x_iinc (pc := 49) (ls' := [(3, .int (iI (x3 + (-1)))), (2, .int (iI (x2 / 3))), (0, .ref (g_h G)), (1, .int (iI a1))]) C dX0_load_49 3 rfl (by decide) rfl ?_
        refine x_goto (pc := 52) C 15 dX0_load_52 (by decide) ?_
        exact x_pick [2, 3, 1, 0] rfl h
      · have h := h.2 hc
        refine x_iconst (pc := 47) C dX0_load_47 ?_
        exact hret _ _ _ _ dX0_load_48 (Or.inl rfl) h)
  refine x_iload_n (pc := 0) (i := 1) C dX0_load_0 rfl 1 rfl ?_
  obtain ⟨o1, h⟩ := h
  refine x_if_ge (pc := 1) C 6 dX0_load_1 (by decide) o1 (fun hc => ?_) (fun hc => ?_)
  · have h := h.1 hc
    refine x_iload_n (pc := 6) (i := 1) C dX0_load_6 rfl 1 rfl ?_
    refine x_istore_n (pc := 7) (i := 2) (ls' := [(2, .int (iI a1)), (0, .ref (g_h G)), (1, .int (iI a1))]) C dX0_load_7 rfl (by decide) rfl ?_
    refine x_aload_n (pc := 8) (i := 0) C dX0_load_8 rfl 1 rfl ?_
    refine xg_9 (pc := 9) C dX0_load_9 ?_
    refine x_iconst (pc := 12) C dX0_load_12 ?_
    refine x_isub (pc := 13) C dX0_load_13 ?_
    have h := h _ rfl
    refine x_istore_n (pc := 14) (i := 3) (ls' := [(3, .int (iI ((σ 9 0) - 1))), (2, .int (iI a1)), (0, .ref (g_h G)), (1, .int (iI a1))]) C dX0_load_14 rfl (by decide) rfl ?_
    exact x_pick [2, 3, 1, 0] rfl h
  · have h := h.2 hc
    refine x_iconst (pc := 4) C dX0_load_4 ?_
    exact hret _ _ _ _ dX0_load_5 (Or.inl rfl) h
theorem mt_X0_load (G : gG) (a1 : Int) (σ : gS) (post : Int → gS → Prop) (h : Ok_X0_load a1 σ post) : gMetI G yX0_load (ws_ yX0_load cX0_load 4 (some .boolean)) 0 (XW G) [.int (iI a1)] σ post :=
  gMetI.ofW (own := RX0) (by decide +kernel) rfl (Nat.le_of_ble_eq_true rfl) rfl (fun z => z = 0 ∨ z = 1) (fun z hz => gNarrow hz) (fun X C hret => wk_X0_load G X C a1 σ post hret h)
set_option maxHeartbeats 4000000 in
theorem wk_X0_weightOf (G : gG) (X : gX) (C : gC G X cX0_weightOf 4 RX0 1) (a1 : Int) (σ : gS) (post : Int → gS → Prop) (hret : ∀ (z : Int) (u : gS) (pc : Nat) (ls : List (Nat × Value)), decode cX0_weightOf pc = .ok (.ireturn, 1) → (True) → post z u → gAt G X (XW G) 4 pc ls [.int (iI z)] u) (h : Ok_X0_weightOf a1 σ post) : gAt G X (XW G) 4 0 [(0, .ref (g_h G)), (1, .int (iI a1))] [] σ := by
  have h := h (fun (x2 x3 : Int) (σ : gS) => gAt G X (XW G) 4 14 [(0, .ref (g_h G)), (1, .int (iI a1)), (2, .int (iI x2)), (3, .int (iI x3))] [] σ)
  have h := h (by
    intro x2 x3 σ h
    refine x_iload_n (pc := 14) (i := 3) C dX0_weightOf_14 rfl 3 rfl ?_
    refine x_aload_n (pc := 15) (i := 0) C dX0_weightOf_15 rfl 0 rfl ?_
    refine xg_9 (pc := 16) C dX0_weightOf_16 ?_
    obtain ⟨o1, o2, h⟩ := h
    refine x_icmp_ge (pc := 19) C 44 dX0_weightOf_19 (by decide) o1 o2 (fun hc => ?_) (fun hc => ?_)
    · have h := h.1 hc
      refine x_iload_n (pc := 44) (i := 2) C dX0_weightOf_44 rfl 2 rfl ?_
      exact hret _ _ _ _ dX0_weightOf_45 trivial h
    · have h := h.2 hc
      refine x_iload_n (pc := 22) (i := 2) C dX0_weightOf_22 rfl 2 rfl ?_
      refine x_aload_n (pc := 23) (i := 0) C dX0_weightOf_23 rfl 0 rfl ?_
      refine xg_7 (pc := 24) C dX0_weightOf_24 ?_
      refine x_iload_n (pc := 27) (i := 3) C dX0_weightOf_27 rfl 3 rfl ?_
      obtain ⟨o3, h⟩ := h
      refine xl_7 (pc := 28) C dX0_weightOf_28 o3 ?_
      refine x_aload_n (pc := 29) (i := 0) C dX0_weightOf_29 rfl 0 rfl ?_
      refine xg_0 (pc := 30) C dX0_weightOf_30 ?_
      refine x_iload_n (pc := 33) (i := 3) C dX0_weightOf_33 rfl 3 rfl ?_
      refine xl_0 (pc := 34) C dX0_weightOf_34 o3 ?_
      refine x_imul (pc := 35) C dX0_weightOf_35 ?_
      refine x_iadd (pc := 36) C dX0_weightOf_36 ?_
      have h := h _ rfl
      refine x_istore_n (pc := 37) (i := 2) (ls' := [(2, .int (iI (x2 + ((σ 7 x3) * (σ 0 x3))))), (0, .ref (g_h G)), (1, .int (iI a1)), (3, .int (iI x3))]) C dX0_weightOf_37 rfl (by decide) rfl ?_
      refine x_iinc (pc := 38) (ls' := [(3, .int (iI (x3 + 1))), (2, .int (iI (x2 + ((σ 7 x3) * (σ 0 x3))))), (0, .ref (g_h G)), (1, .int (iI a1))]) C dX0_weightOf_38 3 rfl (by decide) rfl ?_
      refine x_goto (pc := 41) C 14 dX0_weightOf_41 (by decide) ?_
      exact x_pick [2, 3, 1, 0] rfl h)
  refine x_aload_n (pc := 0) (i := 0) C dX0_weightOf_0 rfl 0 rfl ?_
  refine x_iload_n (pc := 1) (i := 1) C dX0_weightOf_1 rfl 1 rfl ?_
  refine x_calli (pc := 2) (n := 1) (As := [.int (iI a1)]) (st := []) C (mt_X0_load G a1 σ _ h) (lw_V q100 q102 qs2 q23 q103) (by decide +kernel) ⟨by decide, by decide⟩ rfl rfl rfl rfl (Nat.le_of_ble_eq_true rfl) dX0_weightOf_2 (fun r2 s2 h => ?_)
  obtain ⟨o1, h⟩ := h
  refine x_if_ne (pc := 5) C 10 dX0_weightOf_5 (by decide) o1 (fun hc => ?_) (fun hc => ?_)
  · have h := h.1 hc
    refine x_iconst (pc := 10) C dX0_weightOf_10 ?_
    refine x_istore_n (pc := 11) (i := 2) (ls' := [(2, .int (iI 0)), (0, .ref (g_h G)), (1, .int (iI a1))]) C dX0_weightOf_11 rfl (by decide) rfl ?_
    refine x_iconst (pc := 12) C dX0_weightOf_12 ?_
    refine x_istore_n (pc := 13) (i := 3) (ls' := [(3, .int (iI 0)), (2, .int (iI 0)), (0, .ref (g_h G)), (1, .int (iI a1))]) C dX0_weightOf_13 rfl (by decide) rfl ?_
    exact x_pick [2, 3, 1, 0] rfl h
  · have h := h.2 hc
    refine x_iconst (pc := 8) C dX0_weightOf_8 ?_
    exact hret _ _ _ _ dX0_weightOf_9 trivial h
theorem mt_X0_weightOf (G : gG) (a1 : Int) (σ : gS) (post : Int → gS → Prop) (h : Ok_X0_weightOf a1 σ post) : gMetI G yX0_weightOf (ws_ yX0_weightOf cX0_weightOf 4 (some .int)) 1 (XW G) [.int (iI a1)] σ post :=
  gMetI.ofW (own := RX0) (by decide +kernel) rfl (Nat.le_of_ble_eq_true rfl) rfl (fun _ => True) (fun z _ => vp_nar_int (iI z)) (fun X C hret => wk_X0_weightOf G X C a1 σ post hret h)
set_option maxHeartbeats 4000000 in
theorem wk_X0_valueOf (G : gG) (X : gX) (C : gC G X cX0_valueOf 4 RX0 1) (a1 : Int) (σ : gS) (post : Int → gS → Prop) (hret : ∀ (z : Int) (u : gS) (pc : Nat) (ls : List (Nat × Value)), decode cX0_valueOf pc = .ok (.ireturn, 1) → (True) → post z u → gAt G X (XW G) 4 pc ls [.int (iI z)] u) (h : Ok_X0_valueOf a1 σ post) : gAt G X (XW G) 4 0 [(0, .ref (g_h G)), (1, .int (iI a1))] [] σ := by
  have h := h (fun (x2 x3 : Int) (σ : gS) => gAt G X (XW G) 4 14 [(0, .ref (g_h G)), (1, .int (iI a1)), (2, .int (iI x2)), (3, .int (iI x3))] [] σ)
  have h := h (by
    intro x2 x3 σ h
    refine x_iload_n (pc := 14) (i := 3) C dX0_valueOf_14 rfl 3 rfl ?_
    refine x_aload_n (pc := 15) (i := 0) C dX0_valueOf_15 rfl 0 rfl ?_
    refine xg_9 (pc := 16) C dX0_valueOf_16 ?_
    obtain ⟨o1, o2, h⟩ := h
    refine x_icmp_ge (pc := 19) C 44 dX0_valueOf_19 (by decide) o1 o2 (fun hc => ?_) (fun hc => ?_)
    · have h := h.1 hc
      refine x_iload_n (pc := 44) (i := 2) C dX0_valueOf_44 rfl 2 rfl ?_
      exact hret _ _ _ _ dX0_valueOf_45 trivial h
    · have h := h.2 hc
      refine x_iload_n (pc := 22) (i := 2) C dX0_valueOf_22 rfl 2 rfl ?_
      refine x_aload_n (pc := 23) (i := 0) C dX0_valueOf_23 rfl 0 rfl ?_
      refine xg_7 (pc := 24) C dX0_valueOf_24 ?_
      refine x_iload_n (pc := 27) (i := 3) C dX0_valueOf_27 rfl 3 rfl ?_
      obtain ⟨o3, h⟩ := h
      refine xl_7 (pc := 28) C dX0_valueOf_28 o3 ?_
      refine x_aload_n (pc := 29) (i := 0) C dX0_valueOf_29 rfl 0 rfl ?_
      refine xg_1 (pc := 30) C dX0_valueOf_30 ?_
      refine x_iload_n (pc := 33) (i := 3) C dX0_valueOf_33 rfl 3 rfl ?_
      refine xl_1 (pc := 34) C dX0_valueOf_34 o3 ?_
      refine x_imul (pc := 35) C dX0_valueOf_35 ?_
      refine x_iadd (pc := 36) C dX0_valueOf_36 ?_
      have h := h _ rfl
      refine x_istore_n (pc := 37) (i := 2) (ls' := [(2, .int (iI (x2 + ((σ 7 x3) * (σ 1 x3))))), (0, .ref (g_h G)), (1, .int (iI a1)), (3, .int (iI x3))]) C dX0_valueOf_37 rfl (by decide) rfl ?_
      refine x_iinc (pc := 38) (ls' := [(3, .int (iI (x3 + 1))), (2, .int (iI (x2 + ((σ 7 x3) * (σ 1 x3))))), (0, .ref (g_h G)), (1, .int (iI a1))]) C dX0_valueOf_38 3 rfl (by decide) rfl ?_
      refine x_goto (pc := 41) C 14 dX0_valueOf_41 (by decide) ?_
      exact x_pick [2, 3, 1, 0] rfl h)
  refine x_aload_n (pc := 0) (i := 0) C dX0_valueOf_0 rfl 0 rfl ?_
  refine x_iload_n (pc := 1) (i := 1) C dX0_valueOf_1 rfl 1 rfl ?_
  refine x_calli (pc := 2) (n := 1) (As := [.int (iI a1)]) (st := []) C (mt_X0_load G a1 σ _ h) (lw_V q100 q102 qs2 q23 q103) (by decide +kernel) ⟨by decide, by decide⟩ rfl rfl rfl rfl (Nat.le_of_ble_eq_true rfl) dX0_valueOf_2 (fun r2 s2 h => ?_)
  obtain ⟨o1, h⟩ := h
  refine x_if_ne (pc := 5) C 10 dX0_valueOf_5 (by decide) o1 (fun hc => ?_) (fun hc => ?_)
  · have h := h.1 hc
    refine x_iconst (pc := 10) C dX0_valueOf_10 ?_
    refine x_istore_n (pc := 11) (i := 2) (ls' := [(2, .int (iI 0)), (0, .ref (g_h G)), (1, .int (iI a1))]) C dX0_valueOf_11 rfl (by decide) rfl ?_
    refine x_iconst (pc := 12) C dX0_valueOf_12 ?_
    refine x_istore_n (pc := 13) (i := 3) (ls' := [(3, .int (iI 0)), (2, .int (iI 0)), (0, .ref (g_h G)), (1, .int (iI a1))]) C dX0_valueOf_13 rfl (by decide) rfl ?_
    exact x_pick [2, 3, 1, 0] rfl h
  · have h := h.2 hc
    refine x_iconst (pc := 8) C dX0_valueOf_8 ?_
    exact hret _ _ _ _ dX0_valueOf_9 trivial h
theorem mt_X0_valueOf (G : gG) (a1 : Int) (σ : gS) (post : Int → gS → Prop) (h : Ok_X0_valueOf a1 σ post) : gMetI G yX0_valueOf (ws_ yX0_valueOf cX0_valueOf 4 (some .int)) 1 (XW G) [.int (iI a1)] σ post :=
  gMetI.ofW (own := RX0) (by decide +kernel) rfl (Nat.le_of_ble_eq_true rfl) rfl (fun _ => True) (fun z _ => vp_nar_int (iI z)) (fun X C hret => wk_X0_valueOf G X C a1 σ post hret h)
set_option maxHeartbeats 4000000 in
theorem wk_X0_bestWeight (G : gG) (X : gX) (C : gC G X cX0_bestWeight 3 RX0 0) (σ : gS) (post : Int → gS → Prop) (hret : ∀ (z : Int) (u : gS) (pc : Nat) (ls : List (Nat × Value)), decode cX0_bestWeight pc = .ok (.ireturn, 1) → (True) → post z u → gAt G X (XW G) 3 pc ls [.int (iI z)] u) (h : Ok_X0_bestWeight  σ post) : gAt G X (XW G) 3 0 [(0, .ref (g_h G))] [] σ := by
  have h := h (fun (x1 x2 : Int) (σ : gS) => gAt G X (XW G) 3 4 [(0, .ref (g_h G)), (1, .int (iI x1)), (2, .int (iI x2))] [] σ)
  have h := h (by
    intro x1 x2 σ h
    refine x_iload_n (pc := 4) (i := 2) C dX0_bestWeight_4 rfl 2 rfl ?_
    refine x_aload_n (pc := 5) (i := 0) C dX0_bestWeight_5 rfl 0 rfl ?_
    refine xg_10 (pc := 6) C dX0_bestWeight_6 ?_
    obtain ⟨o1, o2, h⟩ := h
    refine x_icmp_gt (pc := 9) C 39 dX0_bestWeight_9 (by decide) o1 o2 (fun hc => ?_) (fun hc => ?_)
    · have h := h.1 hc
      refine x_iload_n (pc := 39) (i := 1) C dX0_bestWeight_39 rfl 1 rfl ?_
      exact hret _ _ _ _ dX0_bestWeight_40 trivial h
    · have h := h.2 hc
      refine x_aload_n (pc := 12) (i := 0) C dX0_bestWeight_12 rfl 0 rfl ?_
      refine xg_4 (pc := 13) C dX0_bestWeight_13 ?_
      refine x_iload_n (pc := 16) (i := 2) C dX0_bestWeight_16 rfl 2 rfl ?_
      obtain ⟨o3, h⟩ := h
      refine xl_4 (pc := 17) C dX0_bestWeight_17 o3 ?_
      refine x_aload_n (pc := 18) (i := 0) C dX0_bestWeight_18 rfl 0 rfl ?_
      refine xg_4 (pc := 19) C dX0_bestWeight_19 ?_
      refine x_iload_n (pc := 22) (i := 1) C dX0_bestWeight_22 rfl 1 rfl ?_
      obtain ⟨o4, h⟩ := h
      refine xl_4 (pc := 23) C dX0_bestWeight_23 o4 ?_
      obtain ⟨o5, o6, h⟩ := h
      refine x_icmp_le (pc := 24) C 31 dX0_bestWeight_24 (by decide) o5 o6 (fun hc => ?_) (fun hc => ?_)
      · have h := h.1 hc
        refine x_iload_n (pc := 31) (i := 1) C dX0_bestWeight_31 rfl 1 rfl ?_
        refine x_istore_n (pc := 32) (i := 1) (ls' := [(1, .int (iI x1)), (0, .ref (g_h G)), (2, .int (iI x2))]) C dX0_bestWeight_32 rfl (by decide) rfl ?_
        refine x_iinc (pc := 33) (ls' := [(2, .int (iI (x2 + 1))), (1, .int (iI x1)), (0, .ref (g_h G))]) C dX0_bestWeight_33 2 rfl (by decide) rfl ?_
        refine x_goto (pc := 36) C 4 dX0_bestWeight_36 (by decide) ?_
        exact x_pick [2, 1, 0] rfl h
      · have h := h.2 hc
        refine x_iload_n (pc := 27) (i := 2) C dX0_bestWeight_27 rfl 2 rfl ?_
        refine x_goto (pc := 28) C 32 dX0_bestWeight_28 (by decide) ?_
        refine x_istore_n (pc := 32) (i := 1) (ls' := [(1, .int (iI x2)), (0, .ref (g_h G)), (2, .int (iI x2))]) C dX0_bestWeight_32 rfl (by decide) rfl ?_
        refine x_iinc (pc := 33) (ls' := [(2, .int (iI (x2 + 1))), (1, .int (iI x2)), (0, .ref (g_h G))]) C dX0_bestWeight_33 2 rfl (by decide) rfl ?_
        refine x_goto (pc := 36) C 4 dX0_bestWeight_36 (by decide) ?_
        exact x_pick [2, 1, 0] rfl h)
  refine x_iconst (pc := 0) C dX0_bestWeight_0 ?_
  refine x_istore_n (pc := 1) (i := 1) (ls' := [(1, .int (iI 0)), (0, .ref (g_h G))]) C dX0_bestWeight_1 rfl (by decide) rfl ?_
  refine x_iconst (pc := 2) C dX0_bestWeight_2 ?_
  refine x_istore_n (pc := 3) (i := 2) (ls' := [(2, .int (iI 1)), (1, .int (iI 0)), (0, .ref (g_h G))]) C dX0_bestWeight_3 rfl (by decide) rfl ?_
  exact x_pick [2, 1, 0] rfl h
theorem mt_X0_bestWeight (G : gG) (σ : gS) (post : Int → gS → Prop) (h : Ok_X0_bestWeight  σ post) : gMetI G yX0_bestWeight (ws_ yX0_bestWeight cX0_bestWeight 3 (some .int)) 0 (XW G) [] σ post :=
  gMetI.ofW (own := RX0) (by decide +kernel) rfl (Nat.le_of_ble_eq_true rfl) rfl (fun _ => True) (fun z _ => vp_nar_int (iI z)) (fun X C hret => wk_X0_bestWeight G X C  σ post hret h)
set_option maxHeartbeats 4000000 in
theorem wk_X0_fillEntry (G : gG) (X : gX) (C : gC G X cX0_fillEntry 9 RX0 0) (a1 a2 a3 : Int) (σ : gS) (post : gS → Prop) (hret : ∀ (u : gS) (pc : Nat) (ls : List (Nat × Value)), decode cX0_fillEntry pc = .ok (.return_, 1) → post u → gAt G X (XW G) 9 pc ls [] u) (h : Ok_X0_fillEntry a1 a2 a3 σ post) : gAt G X (XW G) 9 0 [(0, .ref (g_h G)), (1, .int (iI a1)), (2, .int (iI a2)), (3, .int (iI a3))] [] σ := by
  have h := h (fun (x4 x5 x6 : Int) (σ : gS) => gAt G X (XW G) 9 10 [(0, .ref (g_h G)), (1, .int (iI a1)), (2, .int (iI a2)), (3, .int (iI a3)), (4, .int (iI x4)), (5, .int (iI x5)), (6, .int (iI x6))] [] σ) (fun (x4 x5 : Int) (σ : gS) => gAt G X (XW G) 9 113 [(0, .ref (g_h G)), (1, .int (iI a1)), (2, .int (iI a2)), (3, .int (iI a3)), (4, .int (iI x4)), (5, .int (iI x5))] [] σ)
  have h := h (by
    intro x4 x5 x6 σ h
    refine x_iload (pc := 10) C dX0_fillEntry_10 6 rfl ?_
    refine x_iload_n (pc := 12) (i := 3) C dX0_fillEntry_12 rfl 3 rfl ?_
    obtain ⟨o1, o2, h⟩ := h
    refine x_icmp_gt (pc := 13) C 113 dX0_fillEntry_13 (by decide) o1 o2 (fun hc => ?_) (fun hc => ?_)
    · have h := h.1 hc
      exact x_pick [0, 1, 2, 3, 4, 5] rfl h
    · have h := h.2 hc
      refine x_iload (pc := 16) C dX0_fillEntry_16 6 rfl ?_
      refine x_aload_n (pc := 18) (i := 0) C dX0_fillEntry_18 rfl 0 rfl ?_
      refine xg_0 (pc := 19) C dX0_fillEntry_19 ?_
      refine x_iload_n (pc := 22) (i := 1) C dX0_fillEntry_22 rfl 1 rfl ?_
      obtain ⟨o3, h⟩ := h
      refine xl_0 (pc := 23) C dX0_fillEntry_23 o3 ?_
      refine x_imul (pc := 24) C dX0_fillEntry_24 ?_
      refine x_iload_n (pc := 25) (i := 2) C dX0_fillEntry_25 rfl 2 rfl ?_
      obtain ⟨o4, o5, h⟩ := h
      refine x_icmp_gt (pc := 26) C 113 dX0_fillEntry_26 (by decide) o4 o5 (fun hc => ?_) (fun hc => ?_)
      · have h := h.1 hc
        exact x_pick [0, 1, 2, 3, 4, 5] rfl h
      · have h := h.2 hc
        refine x_sipush (pc := 29) C dX0_fillEntry_29 (by decide) ?_
        refine x_iload_n (pc := 32) (i := 1) C dX0_fillEntry_32 rfl 1 rfl ?_
        refine x_iconst (pc := 33) C dX0_fillEntry_33 ?_
        refine x_iadd (pc := 34) C dX0_fillEntry_34 ?_
        refine x_imul (pc := 35) C dX0_fillEntry_35 ?_
        refine x_iload_n (pc := 36) (i := 2) C dX0_fillEntry_36 rfl 2 rfl ?_
        refine x_iadd (pc := 37) C dX0_fillEntry_37 ?_
        refine x_iload (pc := 38) C dX0_fillEntry_38 6 rfl ?_
        refine x_aload_n (pc := 40) (i := 0) C dX0_fillEntry_40 rfl 0 rfl ?_
        refine xg_0 (pc := 41) C dX0_fillEntry_41 ?_
        refine x_iload_n (pc := 44) (i := 1) C dX0_fillEntry_44 rfl 1 rfl ?_
        refine xl_0 (pc := 45) C dX0_fillEntry_45 o3 ?_
        refine x_imul (pc := 46) C dX0_fillEntry_46 ?_
        refine x_isub (pc := 47) C dX0_fillEntry_47 ?_
        have h := h _ rfl
        refine x_istore (pc := 48) (ls' := [(7, .int (iI (((281 * (a1 + 1)) + a2) - (x6 * (σ 0 a1))))), (0, .ref (g_h G)), (1, .int (iI a1)), (2, .int (iI a2)), (3, .int (iI a3)), (4, .int (iI x4)), (5, .int (iI x5)), (6, .int (iI x6))]) C dX0_fillEntry_48 (by decide) rfl ?_
        refine x_aload_n (pc := 50) (i := 0) C dX0_fillEntry_50 rfl 1 rfl ?_
        refine xg_4 (pc := 51) C dX0_fillEntry_51 ?_
        refine x_iload (pc := 54) C dX0_fillEntry_54 0 rfl ?_
        obtain ⟨o6, h⟩ := h
        refine xl_4 (pc := 56) C dX0_fillEntry_56 o6 ?_
        refine x_iload (pc := 57) C dX0_fillEntry_57 7 rfl ?_
        refine x_aload_n (pc := 59) (i := 0) C dX0_fillEntry_59 rfl 1 rfl ?_
        refine xg_1 (pc := 60) C dX0_fillEntry_60 ?_
        refine x_iload_n (pc := 63) (i := 1) C dX0_fillEntry_63 rfl 2 rfl ?_
        refine xl_1 (pc := 64) C dX0_fillEntry_64 o3 ?_
        refine x_imul (pc := 65) C dX0_fillEntry_65 ?_
        refine x_iadd (pc := 66) C dX0_fillEntry_66 ?_
        have h := h _ rfl
        refine x_istore (pc := 67) (ls' := [(8, .int (iI ((σ 4 (((281 * (a1 + 1)) + a2) - (x6 * (σ 0 a1)))) + (x6 * (σ 1 a1))))), (7, .int (iI (((281 * (a1 + 1)) + a2) - (x6 * (σ 0 a1))))), (0, .ref (g_h G)), (1, .int (iI a1)), (2, .int (iI a2)), (3, .int (iI a3)), (4, .int (iI x4)), (5, .int (iI x5)), (6, .int (iI x6))]) C dX0_fillEntry_67 (by decide) rfl ?_
        refine x_aload_n (pc := 69) (i := 0) C dX0_fillEntry_69 rfl 2 rfl ?_
        refine xg_4 (pc := 70) C dX0_fillEntry_70 ?_
        refine x_iload (pc := 73) C dX0_fillEntry_73 1 rfl ?_
        refine xl_4 (pc := 75) C dX0_fillEntry_75 o6 ?_
        obtain ⟨o7, h⟩ := h
        refine x_if_lt (pc := 76) C 91 dX0_fillEntry_76 (by decide) o7 (fun hc => ?_) (fun hc => ?_)
        · have h := h.1 hc
          refine x_iload (pc := 91) C dX0_fillEntry_91 6 rfl ?_
          refine x_istore (pc := 93) (ls' := [(4, .int (iI x4)), (8, .int (iI ((σ 4 (((281 * (a1 + 1)) + a2) - (x6 * (σ 0 a1)))) + (x6 * (σ 1 a1))))), (7, .int (iI (((281 * (a1 + 1)) + a2) - (x6 * (σ 0 a1))))), (0, .ref (g_h G)), (1, .int (iI a1)), (2, .int (iI a2)), (3, .int (iI a3)), (5, .int (iI x5)), (6, .int (iI x6))]) C dX0_fillEntry_93 (by decide) rfl ?_
          refine x_iload (pc := 95) C dX0_fillEntry_95 7 rfl ?_
          refine x_aload_n (pc := 97) (i := 0) C dX0_fillEntry_97 rfl 3 rfl ?_
          refine xg_5 (pc := 98) C dX0_fillEntry_98 ?_
          refine x_iload (pc := 101) C dX0_fillEntry_101 2 rfl ?_
          refine xl_5 (pc := 103) C dX0_fillEntry_103 o6 ?_
          refine x_iadd (pc := 104) C dX0_fillEntry_104 ?_
          have h := h _ rfl
          refine x_istore (pc := 105) (ls' := [(5, .int (iI (x5 + (σ 5 (((281 * (a1 + 1)) + a2) - (x6 * (σ 0 a1))))))), (4, .int (iI x4)), (8, .int (iI ((σ 4 (((281 * (a1 + 1)) + a2) - (x6 * (σ 0 a1)))) + (x6 * (σ 1 a1))))), (7, .int (iI (((281 * (a1 + 1)) + a2) - (x6 * (σ 0 a1))))), (0, .ref (g_h G)), (1, .int (iI a1)), (2, .int (iI a2)), (3, .int (iI a3)), (6, .int (iI x6))]) C dX0_fillEntry_105 (by decide) rfl ?_
          refine x_iinc (pc := 107) (ls' := [(6, .int (iI (x6 + 1))), (5, .int (iI (x5 + (σ 5 (((281 * (a1 + 1)) + a2) - (x6 * (σ 0 a1))))))), (4, .int (iI x4)), (8, .int (iI ((σ 4 (((281 * (a1 + 1)) + a2) - (x6 * (σ 0 a1)))) + (x6 * (σ 1 a1))))), (7, .int (iI (((281 * (a1 + 1)) + a2) - (x6 * (σ 0 a1))))), (0, .ref (g_h G)), (1, .int (iI a1)), (2, .int (iI a2)), (3, .int (iI a3))]) C dX0_fillEntry_107 8 rfl (by decide) rfl ?_
          refine x_goto (pc := 110) C 10 dX0_fillEntry_110 (by decide) ?_
          exact x_pick [5, 6, 7, 8, 2, 1, 0] rfl h
        · have h := h.2 hc
          refine x_iload (pc := 79) C dX0_fillEntry_79 0 rfl ?_
          refine x_iload (pc := 81) C dX0_fillEntry_81 6 rfl ?_
          obtain ⟨o8, o9, h⟩ := h
          refine x_icmp_le (pc := 83) C 91 dX0_fillEntry_83 (by decide) o8 o9 (fun hc => ?_) (fun hc => ?_)
          · have h := h.1 hc
            refine x_iload (pc := 91) C dX0_fillEntry_91 6 rfl ?_
            refine x_istore (pc := 93) (ls' := [(4, .int (iI x4)), (8, .int (iI ((σ 4 (((281 * (a1 + 1)) + a2) - (x6 * (σ 0 a1)))) + (x6 * (σ 1 a1))))), (7, .int (iI (((281 * (a1 + 1)) + a2) - (x6 * (σ 0 a1))))), (0, .ref (g_h G)), (1, .int (iI a1)), (2, .int (iI a2)), (3, .int (iI a3)), (5, .int (iI x5)), (6, .int (iI x6))]) C dX0_fillEntry_93 (by decide) rfl ?_
            refine x_iload (pc := 95) C dX0_fillEntry_95 7 rfl ?_
            refine x_aload_n (pc := 97) (i := 0) C dX0_fillEntry_97 rfl 3 rfl ?_
            refine xg_5 (pc := 98) C dX0_fillEntry_98 ?_
            refine x_iload (pc := 101) C dX0_fillEntry_101 2 rfl ?_
            refine xl_5 (pc := 103) C dX0_fillEntry_103 o6 ?_
            refine x_iadd (pc := 104) C dX0_fillEntry_104 ?_
            have h := h _ rfl
            refine x_istore (pc := 105) (ls' := [(5, .int (iI (x5 + (σ 5 (((281 * (a1 + 1)) + a2) - (x6 * (σ 0 a1))))))), (4, .int (iI x4)), (8, .int (iI ((σ 4 (((281 * (a1 + 1)) + a2) - (x6 * (σ 0 a1)))) + (x6 * (σ 1 a1))))), (7, .int (iI (((281 * (a1 + 1)) + a2) - (x6 * (σ 0 a1))))), (0, .ref (g_h G)), (1, .int (iI a1)), (2, .int (iI a2)), (3, .int (iI a3)), (6, .int (iI x6))]) C dX0_fillEntry_105 (by decide) rfl ?_
            refine x_iinc (pc := 107) (ls' := [(6, .int (iI (x6 + 1))), (5, .int (iI (x5 + (σ 5 (((281 * (a1 + 1)) + a2) - (x6 * (σ 0 a1))))))), (4, .int (iI x4)), (8, .int (iI ((σ 4 (((281 * (a1 + 1)) + a2) - (x6 * (σ 0 a1)))) + (x6 * (σ 1 a1))))), (7, .int (iI (((281 * (a1 + 1)) + a2) - (x6 * (σ 0 a1))))), (0, .ref (g_h G)), (1, .int (iI a1)), (2, .int (iI a2)), (3, .int (iI a3))]) C dX0_fillEntry_107 8 rfl (by decide) rfl ?_
            refine x_goto (pc := 110) C 10 dX0_fillEntry_110 (by decide) ?_
            exact x_pick [5, 6, 7, 8, 2, 1, 0] rfl h
          · have h := h.2 hc
            refine x_iload (pc := 86) C dX0_fillEntry_86 0 rfl ?_
            refine x_goto (pc := 88) C 93 dX0_fillEntry_88 (by decide) ?_
            refine x_istore (pc := 93) (ls' := [(4, .int (iI ((σ 4 (((281 * (a1 + 1)) + a2) - (x6 * (σ 0 a1)))) + (x6 * (σ 1 a1))))), (8, .int (iI ((σ 4 (((281 * (a1 + 1)) + a2) - (x6 * (σ 0 a1)))) + (x6 * (σ 1 a1))))), (7, .int (iI (((281 * (a1 + 1)) + a2) - (x6 * (σ 0 a1))))), (0, .ref (g_h G)), (1, .int (iI a1)), (2, .int (iI a2)), (3, .int (iI a3)), (5, .int (iI x5)), (6, .int (iI x6))]) C dX0_fillEntry_93 (by decide) rfl ?_
            refine x_iload (pc := 95) C dX0_fillEntry_95 7 rfl ?_
            refine x_aload_n (pc := 97) (i := 0) C dX0_fillEntry_97 rfl 3 rfl ?_
            refine xg_5 (pc := 98) C dX0_fillEntry_98 ?_
            refine x_iload (pc := 101) C dX0_fillEntry_101 2 rfl ?_
            refine xl_5 (pc := 103) C dX0_fillEntry_103 o6 ?_
            refine x_iadd (pc := 104) C dX0_fillEntry_104 ?_
            have h := h _ rfl
            refine x_istore (pc := 105) (ls' := [(5, .int (iI (x5 + (σ 5 (((281 * (a1 + 1)) + a2) - (x6 * (σ 0 a1))))))), (4, .int (iI ((σ 4 (((281 * (a1 + 1)) + a2) - (x6 * (σ 0 a1)))) + (x6 * (σ 1 a1))))), (8, .int (iI ((σ 4 (((281 * (a1 + 1)) + a2) - (x6 * (σ 0 a1)))) + (x6 * (σ 1 a1))))), (7, .int (iI (((281 * (a1 + 1)) + a2) - (x6 * (σ 0 a1))))), (0, .ref (g_h G)), (1, .int (iI a1)), (2, .int (iI a2)), (3, .int (iI a3)), (6, .int (iI x6))]) C dX0_fillEntry_105 (by decide) rfl ?_
            refine x_iinc (pc := 107) (ls' := [(6, .int (iI (x6 + 1))), (5, .int (iI (x5 + (σ 5 (((281 * (a1 + 1)) + a2) - (x6 * (σ 0 a1))))))), (4, .int (iI ((σ 4 (((281 * (a1 + 1)) + a2) - (x6 * (σ 0 a1)))) + (x6 * (σ 1 a1))))), (8, .int (iI ((σ 4 (((281 * (a1 + 1)) + a2) - (x6 * (σ 0 a1)))) + (x6 * (σ 1 a1))))), (7, .int (iI (((281 * (a1 + 1)) + a2) - (x6 * (σ 0 a1))))), (0, .ref (g_h G)), (1, .int (iI a1)), (2, .int (iI a2)), (3, .int (iI a3))]) C dX0_fillEntry_107 8 rfl (by decide) rfl ?_
            refine x_goto (pc := 110) C 10 dX0_fillEntry_110 (by decide) ?_
            exact x_pick [5, 6, 7, 8, 2, 1, 0] rfl h)
  have h := h (by
    intro x4 x5 σ h
    refine x_aload_n (pc := 113) (i := 0) C dX0_fillEntry_113 rfl 0 rfl ?_
    refine xg_4 (pc := 114) C dX0_fillEntry_114 ?_
    refine x_sipush (pc := 117) C dX0_fillEntry_117 (by decide) ?_
    refine x_iload_n (pc := 120) (i := 1) C dX0_fillEntry_120 rfl 1 rfl ?_
    refine x_imul (pc := 121) C dX0_fillEntry_121 ?_
    refine x_iload_n (pc := 122) (i := 2) C dX0_fillEntry_122 rfl 2 rfl ?_
    refine x_iadd (pc := 123) C dX0_fillEntry_123 ?_
    refine x_iload (pc := 124) C dX0_fillEntry_124 4 rfl ?_
    obtain ⟨o1, h⟩ := h
    refine xs_4 (pc := 126) C dX0_fillEntry_126 o1 ?_
    refine x_aload_n (pc := 127) (i := 0) C dX0_fillEntry_127 rfl 0 rfl ?_
    refine xg_5 (pc := 128) C dX0_fillEntry_128 ?_
    refine x_sipush (pc := 131) C dX0_fillEntry_131 (by decide) ?_
    refine x_iload_n (pc := 134) (i := 1) C dX0_fillEntry_134 rfl 1 rfl ?_
    refine x_imul (pc := 135) C dX0_fillEntry_135 ?_
    refine x_iload_n (pc := 136) (i := 2) C dX0_fillEntry_136 rfl 2 rfl ?_
    refine x_iadd (pc := 137) C dX0_fillEntry_137 ?_
    refine x_iload (pc := 138) C dX0_fillEntry_138 5 rfl ?_
    refine xs_5 (pc := 140) C dX0_fillEntry_140 o1 ?_
    exact hret _ _ _ dX0_fillEntry_141 h)
  refine x_ldc (pc := 0) C (-100000) dX0_fillEntry_0 q116 (by decide) ?_
  refine x_istore (pc := 2) (ls' := [(4, .int (iI (-100000))), (0, .ref (g_h G)), (1, .int (iI a1)), (2, .int (iI a2)), (3, .int (iI a3))]) C dX0_fillEntry_2 (by decide) rfl ?_
  refine x_iconst (pc := 4) C dX0_fillEntry_4 ?_
  refine x_istore (pc := 5) (ls' := [(5, .int (iI 0)), (4, .int (iI (-100000))), (0, .ref (g_h G)), (1, .int (iI a1)), (2, .int (iI a2)), (3, .int (iI a3))]) C dX0_fillEntry_5 (by decide) rfl ?_
  refine x_iconst (pc := 7) C dX0_fillEntry_7 ?_
  refine x_istore (pc := 8) (ls' := [(6, .int (iI 0)), (5, .int (iI 0)), (4, .int (iI (-100000))), (0, .ref (g_h G)), (1, .int (iI a1)), (2, .int (iI a2)), (3, .int (iI a3))]) C dX0_fillEntry_8 (by decide) rfl ?_
  exact x_pick [3, 4, 5, 6, 2, 1, 0] rfl h
theorem mt_X0_fillEntry (G : gG) (a1 a2 a3 : Int) (σ : gS) (post : gS → Prop) (h : Ok_X0_fillEntry a1 a2 a3 σ post) : gMetV G yX0_fillEntry (ws_ yX0_fillEntry cX0_fillEntry 9 none) 0 (XW G) [.int (iI a1), .int (iI a2), .int (iI a3)] σ post :=
  gMetV.ofW (own := RX0) (by decide +kernel) rfl (Nat.le_of_ble_eq_true rfl) rfl (fun X C hret => wk_X0_fillEntry G X C a1 a2 a3 σ post hret h)
end
section
set_option maxRecDepth 100000
set_option maxHeartbeats 4000000 in
theorem wk_X0_fill (G : gG) (X : gX) (C : gC G X cX0_fill 6 RX0 1) (a1 : Int) (σ : gS) (post : gS → Prop) (hret : ∀ (u : gS) (pc : Nat) (ls : List (Nat × Value)), decode cX0_fill pc = .ok (.return_, 1) → post u → gAt G X (XW G) 6 pc ls [] u) (h : Ok_X0_fill a1 σ post) : gAt G X (XW G) 6 0 [(0, .ref (g_h G)), (1, .int (iI a1))] [] σ := by
  have h := h (fun (x2 x3 : Int) (σ : gS) => gAt G X (XW G) 6 11 [(0, .ref (g_h G)), (1, .int (iI a1)), (2, .int (iI x2)), (3, .int (iI x3))] [] σ) (fun (x2 x3 t1 t2 : Int) (σ : gS) => gAt G X (XW G) 6 35 [(0, .ref (g_h G)), (1, .int (iI a1)), (2, .int (iI x2)), (3, .int (iI x3))] [.int (iI t2), .int (iI t1), .ref (g_ad G 4)] σ) (fun (x3 : Int) (σ : gS) => gAt G X (XW G) 6 66 [(0, .ref (g_h G)), (1, .int (iI a1)), (3, .int (iI x3))] [] σ) (fun (x3 x4 x5 : Int) (σ : gS) => gAt G X (XW G) 6 90 [(0, .ref (g_h G)), (1, .int (iI a1)), (3, .int (iI x3)), (4, .int (iI x4)), (5, .int (iI x5))] [] σ)
  have h := h (by
    intro x2 x3 σ h
    refine x_iload_n (pc := 11) (i := 3) C dX0_fill_11 rfl 3 rfl ?_
    refine x_sipush (pc := 12) C dX0_fill_12 (by decide) ?_
    obtain ⟨o1, h⟩ := h
    refine x_icmp_gt (pc := 15) C 59 dX0_fill_15 (by decide) o1 (by decide) (fun hc => ?_) (fun hc => ?_)
    · have h := h.1 hc
      refine x_aload_n (pc := 59) (i := 0) C dX0_fill_59 rfl 0 rfl ?_
      refine xg_9 (pc := 60) C dX0_fill_60 ?_
      refine x_iconst (pc := 63) C dX0_fill_63 ?_
      refine x_isub (pc := 64) C dX0_fill_64 ?_
      have h := h _ rfl
      refine x_istore_n (pc := 65) (i := 3) (ls' := [(3, .int (iI ((σ 9 0) - 1))), (0, .ref (g_h G)), (1, .int (iI a1)), (2, .int (iI x2))]) C dX0_fill_65 rfl (by decide) rfl ?_
      exact x_pick [1, 2, 0] rfl h
    · have h := h.2 hc
      refine x_aload_n (pc := 18) (i := 0) C dX0_fill_18 rfl 0 rfl ?_
      refine xg_4 (pc := 19) C dX0_fill_19 ?_
      refine x_iload_n (pc := 22) (i := 2) C dX0_fill_22 rfl 2 rfl ?_
      refine x_iload_n (pc := 23) (i := 3) C dX0_fill_23 rfl 3 rfl ?_
      refine x_iadd (pc := 24) C dX0_fill_24 ?_
      refine x_iload_n (pc := 25) (i := 3) C dX0_fill_25 rfl 3 rfl ?_
      refine x_if_ne (pc := 26) C 33 dX0_fill_26 (by decide) o1 (fun hc => ?_) (fun hc => ?_)
      · have h := h.1 hc
        refine x_ldc (pc := 33) C (-100000) dX0_fill_33 q116 (by decide) ?_
        exact x_pick [0, 1, 2, 3] rfl h
      · have h := h.2 hc
        refine x_iconst (pc := 29) C dX0_fill_29 ?_
        refine x_goto (pc := 30) C 35 dX0_fill_30 (by decide) ?_
        exact x_pick [0, 1, 2, 3] rfl h)
  have h := h (by
    intro x2 x3 t1 t2 σ h
    obtain ⟨o1, h⟩ := h
    refine xs_4 (pc := 35) C dX0_fill_35 o1 ?_
    refine x_aload_n (pc := 36) (i := 0) C dX0_fill_36 rfl 0 rfl ?_
    refine xg_5 (pc := 37) C dX0_fill_37 ?_
    refine x_iload_n (pc := 40) (i := 2) C dX0_fill_40 rfl 2 rfl ?_
    refine x_iload_n (pc := 41) (i := 3) C dX0_fill_41 rfl 3 rfl ?_
    refine x_iadd (pc := 42) C dX0_fill_42 ?_
    refine x_iload_n (pc := 43) (i := 3) C dX0_fill_43 rfl 3 rfl ?_
    obtain ⟨o2, h⟩ := h
    refine x_if_ne (pc := 44) C 51 dX0_fill_44 (by decide) o2 (fun hc => ?_) (fun hc => ?_)
    · have h := h.1 hc
      refine x_iconst (pc := 51) C dX0_fill_51 ?_
      obtain ⟨o3, h⟩ := h
      refine xs_5 (pc := 52) C dX0_fill_52 o3 ?_
      refine x_iinc (pc := 53) (ls' := [(3, .int (iI (x3 + 1))), (0, .ref (g_h G)), (1, .int (iI a1)), (2, .int (iI x2))]) C dX0_fill_53 3 rfl (by decide) rfl ?_
      refine x_goto (pc := 56) C 11 dX0_fill_56 (by decide) ?_
      exact x_pick [1, 2, 3, 0] rfl h
    · have h := h.2 hc
      refine x_iconst (pc := 47) C dX0_fill_47 ?_
      refine x_goto (pc := 48) C 52 dX0_fill_48 (by decide) ?_
      obtain ⟨o4, h⟩ := h
      refine xs_5 (pc := 52) C dX0_fill_52 o4 ?_
      refine x_iinc (pc := 53) (ls' := [(3, .int (iI (x3 + 1))), (0, .ref (g_h G)), (1, .int (iI a1)), (2, .int (iI x2))]) C dX0_fill_53 3 rfl (by decide) rfl ?_
      refine x_goto (pc := 56) C 11 dX0_fill_56 (by decide) ?_
      exact x_pick [1, 2, 3, 0] rfl h)
  have h := h (by
    intro x3 σ h
    refine x_iload_n (pc := 66) (i := 3) C dX0_fill_66 rfl 2 rfl ?_
    obtain ⟨o1, h⟩ := h
    refine x_if_lt (pc := 67) C 119 dX0_fill_67 (by decide) o1 (fun hc => ?_) (fun hc => ?_)
    · have h := h.1 hc
      exact hret _ _ _ dX0_fill_119 h
    · have h := h.2 hc
      refine x_iload_n (pc := 70) (i := 3) C dX0_fill_70 rfl 2 rfl ?_
      refine x_iload_n (pc := 71) (i := 1) C dX0_fill_71 rfl 1 rfl ?_
      obtain ⟨o2, h⟩ := h
      refine x_icmp_ne (pc := 72) C 79 dX0_fill_72 (by decide) o1 o2 (fun hc => ?_) (fun hc => ?_)
      · have h := h.1 hc
        refine x_aload_n (pc := 79) (i := 0) C dX0_fill_79 rfl 0 rfl ?_
        refine xg_2 (pc := 80) C dX0_fill_80 ?_
        refine x_iload_n (pc := 83) (i := 3) C dX0_fill_83 rfl 2 rfl ?_
        obtain ⟨o3, h⟩ := h
        refine xl_2 (pc := 84) C dX0_fill_84 o3 ?_
        have h := h _ rfl
        refine x_istore (pc := 85) (ls' := [(4, .int (iI (σ 2 x3))), (0, .ref (g_h G)), (1, .int (iI a1)), (3, .int (iI x3))]) C dX0_fill_85 (by decide) rfl ?_
        refine x_iconst (pc := 87) C dX0_fill_87 ?_
        refine x_istore (pc := 88) (ls' := [(5, .int (iI 0)), (4, .int (iI (σ 2 x3))), (0, .ref (g_h G)), (1, .int (iI a1)), (3, .int (iI x3))]) C dX0_fill_88 (by decide) rfl ?_
        exact x_pick [2, 3, 4, 1, 0] rfl h
      · have h := h.2 hc
        refine x_iconst (pc := 75) C dX0_fill_75 ?_
        refine x_goto (pc := 76) C 85 dX0_fill_76 (by decide) ?_
        refine x_istore (pc := 85) (ls' := [(4, .int (iI 0)), (0, .ref (g_h G)), (1, .int (iI a1)), (3, .int (iI x3))]) C dX0_fill_85 (by decide) rfl ?_
        refine x_iconst (pc := 87) C dX0_fill_87 ?_
        refine x_istore (pc := 88) (ls' := [(5, .int (iI 0)), (4, .int (iI 0)), (0, .ref (g_h G)), (1, .int (iI a1)), (3, .int (iI x3))]) C dX0_fill_88 (by decide) rfl ?_
        exact x_pick [2, 3, 4, 1, 0] rfl h)
  have h := h (by
    intro x3 x4 x5 σ h
    refine x_iload (pc := 90) C dX0_fill_90 4 rfl ?_
    refine x_sipush (pc := 92) C dX0_fill_92 (by decide) ?_
    obtain ⟨o1, h⟩ := h
    refine x_icmp_gt (pc := 95) C 113 dX0_fill_95 (by decide) o1 (by decide) (fun hc => ?_) (fun hc => ?_)
    · have h := h.1 hc
      refine x_iinc (pc := 113) (ls' := [(3, .int (iI (x3 + (-1)))), (0, .ref (g_h G)), (1, .int (iI a1)), (4, .int (iI x4)), (5, .int (iI x5))]) C dX0_fill_113 2 rfl (by decide) rfl ?_
      refine x_goto (pc := 116) C 66 dX0_fill_116 (by decide) ?_
      exact x_pick [1, 2, 0] rfl h
    · have h := h.2 hc
      refine x_aload_n (pc := 98) (i := 0) C dX0_fill_98 rfl 0 rfl ?_
      refine x_iload_n (pc := 99) (i := 3) C dX0_fill_99 rfl 2 rfl ?_
      refine x_iload (pc := 100) C dX0_fill_100 4 rfl ?_
      refine x_iload (pc := 102) C dX0_fill_102 3 rfl ?_
      refine x_callv (pc := 104) (n := 3) (As := [.int (iI x3), .int (iI x5), .int (iI x4)]) (st := []) C (mt_X0_fillEntry G x3 x5 x4 σ _ h) (lw_V q117 q119 qs4 q23 q120) (by decide +kernel) ⟨by decide, by decide⟩ rfl rfl rfl rfl (Nat.le_of_ble_eq_true rfl) dX0_fill_104 (fun s104 h => ?_)
      refine x_iinc (pc := 107) (ls' := [(5, .int (iI (x5 + 1))), (0, .ref (g_h G)), (1, .int (iI a1)), (3, .int (iI x3)), (4, .int (iI x4))]) C dX0_fill_107 4 rfl (by decide) rfl ?_
      refine x_goto (pc := 110) C 90 dX0_fill_110 (by decide) ?_
      exact x_pick [1, 2, 3, 4, 0] rfl h)
  refine x_sipush (pc := 0) C dX0_fill_0 (by decide) ?_
  refine x_aload_n (pc := 3) (i := 0) C dX0_fill_3 rfl 0 rfl ?_
  refine xg_9 (pc := 4) C dX0_fill_4 ?_
  refine x_imul (pc := 7) C dX0_fill_7 ?_
  have h := h _ rfl
  refine x_istore_n (pc := 8) (i := 2) (ls' := [(2, .int (iI (281 * (σ 9 0)))), (0, .ref (g_h G)), (1, .int (iI a1))]) C dX0_fill_8 rfl (by decide) rfl ?_
  refine x_iconst (pc := 9) C dX0_fill_9 ?_
  refine x_istore_n (pc := 10) (i := 3) (ls' := [(3, .int (iI 0)), (2, .int (iI (281 * (σ 9 0)))), (0, .ref (g_h G)), (1, .int (iI a1))]) C dX0_fill_10 rfl (by decide) rfl ?_
  exact x_pick [2, 3, 1, 0] rfl h
theorem mt_X0_fill (G : gG) (a1 : Int) (σ : gS) (post : gS → Prop) (h : Ok_X0_fill a1 σ post) : gMetV G yX0_fill (ws_ yX0_fill cX0_fill 6 none) 1 (XW G) [.int (iI a1)] σ post :=
  gMetV.ofW (own := RX0) (by decide +kernel) rfl (Nat.le_of_ble_eq_true rfl) rfl (fun X C hret => wk_X0_fill G X C a1 σ post hret h)
set_option maxHeartbeats 4000000 in
theorem wk_X0_best (G : gG) (X : gX) (C : gC G X cX0_best 1 RX0 2) (σ : gS) (post : Int → gS → Prop) (hret : ∀ (z : Int) (u : gS) (pc : Nat) (ls : List (Nat × Value)), decode cX0_best pc = .ok (.ireturn, 1) → (True) → post z u → gAt G X (XW G) 1 pc ls [.int (iI z)] u) (h : Ok_X0_best  σ post) : gAt G X (XW G) 1 0 [(0, .ref (g_h G))] [] σ := by
  unfold Ok_X0_best at h
  refine x_aload_n (pc := 0) (i := 0) C dX0_best_0 rfl 0 rfl ?_
  refine x_iconst (pc := 1) C dX0_best_1 ?_
  refine x_callv (pc := 2) (n := 1) (As := [.int (iI (-1))]) (st := []) C (mt_X0_fill G (-1) σ _ h) (lw_V q112 q114 qs3 q23 q115) (by decide +kernel) ⟨by decide, by decide⟩ rfl rfl rfl rfl (Nat.le_of_ble_eq_true rfl) dX0_best_2 (fun s2 h => ?_)
  refine x_aload_n (pc := 5) (i := 0) C dX0_best_5 rfl 0 rfl ?_
  refine xg_4 (pc := 6) C dX0_best_6 ?_
  refine x_aload_n (pc := 9) (i := 0) C dX0_best_9 rfl 0 rfl ?_
  refine x_calli (pc := 10) (n := 0) (As := []) (st := [.ref (g_ad G 4)]) C (mt_X0_bestWeight G  s2 _ h) (lw_V q121 q123 qs5 q23 q124) (by decide +kernel) ⟨by decide, by decide⟩ rfl rfl rfl rfl (Nat.le_of_ble_eq_true rfl) dX0_best_10 (fun r10 s10 h => ?_)
  obtain ⟨o1, h⟩ := h
  refine xl_4 (pc := 13) C dX0_best_13 o1 ?_
  exact hret _ _ _ _ dX0_best_14 trivial h
theorem mt_X0_best (G : gG) (σ : gS) (post : Int → gS → Prop) (h : Ok_X0_best  σ post) : gMetI G yX0_best (ws_ yX0_best cX0_best 1 (some .int)) 2 (XW G) [] σ post :=
  gMetI.ofW (own := RX0) (by decide +kernel) rfl (Nat.le_of_ble_eq_true rfl) rfl (fun _ => True) (fun z _ => vp_nar_int (iI z)) (fun X C hret => wk_X0_best G X C  σ post hret h)
set_option maxHeartbeats 4000000 in
theorem wk_X0_keeps (G : gG) (X : gX) (C : gC G X cX0_keeps 6 RX0 0) (a1 a2 a3 a4 : Int) (σ : gS) (post : Int → gS → Prop) (hret : ∀ (z : Int) (u : gS) (pc : Nat) (ls : List (Nat × Value)), decode cX0_keeps pc = .ok (.ireturn, 1) → (z = 0 ∨ z = 1) → post z u → gAt G X (XW G) 6 pc ls [.int (iI z)] u) (h : Ok_X0_keeps a1 a2 a3 a4 σ post) : gAt G X (XW G) 6 0 [(0, .ref (g_h G)), (1, .int (iI a1)), (2, .int (iI a2)), (3, .int (iI a3)), (4, .int (iI a4))] [] σ := by
  unfold Ok_X0_keeps at h
  refine x_iload_n (pc := 0) (i := 3) C dX0_keeps_0 rfl 3 rfl ?_
  refine x_iload_n (pc := 1) (i := 2) C dX0_keeps_1 rfl 2 rfl ?_
  refine x_aload_n (pc := 2) (i := 0) C dX0_keeps_2 rfl 0 rfl ?_
  refine xg_0 (pc := 3) C dX0_keeps_3 ?_
  refine x_iload_n (pc := 6) (i := 1) C dX0_keeps_6 rfl 1 rfl ?_
  obtain ⟨o1, h⟩ := h
  refine xl_0 (pc := 7) C dX0_keeps_7 o1 ?_
  refine x_imul (pc := 8) C dX0_keeps_8 ?_
  refine x_isub (pc := 9) C dX0_keeps_9 ?_
  have h := h _ rfl
  refine x_istore (pc := 10) (ls' := [(5, .int (iI (a3 - (a2 * (σ 0 a1))))), (0, .ref (g_h G)), (1, .int (iI a1)), (2, .int (iI a2)), (3, .int (iI a3)), (4, .int (iI a4))]) C dX0_keeps_10 (by decide) rfl ?_
  refine x_iload (pc := 12) C dX0_keeps_12 0 rfl ?_
  obtain ⟨o2, h⟩ := h
  refine x_if_lt (pc := 14) C 50 dX0_keeps_14 (by decide) o2 (fun hc => ?_) (fun hc => ?_)
  · have h := h.1 hc
    refine x_iconst (pc := 50) C dX0_keeps_50 ?_
    exact hret _ _ _ _ dX0_keeps_51 (Or.inl rfl) h
  · have h := h.2 hc
    refine x_aload_n (pc := 17) (i := 0) C dX0_keeps_17 rfl 1 rfl ?_
    refine xg_4 (pc := 18) C dX0_keeps_18 ?_
    refine x_sipush (pc := 21) C dX0_keeps_21 (by decide) ?_
    refine x_iload_n (pc := 24) (i := 1) C dX0_keeps_24 rfl 2 rfl ?_
    refine x_iconst (pc := 25) C dX0_keeps_25 ?_
    refine x_iadd (pc := 26) C dX0_keeps_26 ?_
    refine x_imul (pc := 27) C dX0_keeps_27 ?_
    refine x_iload (pc := 28) C dX0_keeps_28 0 rfl ?_
    refine x_iadd (pc := 30) C dX0_keeps_30 ?_
    obtain ⟨o3, h⟩ := h
    refine xl_4 (pc := 31) C dX0_keeps_31 o3 ?_
    refine x_iload (pc := 32) C dX0_keeps_32 5 rfl ?_
    refine x_iload_n (pc := 34) (i := 2) C dX0_keeps_34 rfl 3 rfl ?_
    refine x_aload_n (pc := 35) (i := 0) C dX0_keeps_35 rfl 1 rfl ?_
    refine xg_1 (pc := 36) C dX0_keeps_36 ?_
    refine x_iload_n (pc := 39) (i := 1) C dX0_keeps_39 rfl 2 rfl ?_
    refine xl_1 (pc := 40) C dX0_keeps_40 o1 ?_
    refine x_imul (pc := 41) C dX0_keeps_41 ?_
    refine x_isub (pc := 42) C dX0_keeps_42 ?_
    obtain ⟨o4, o5, h⟩ := h
    refine x_icmp_ne (pc := 43) C 50 dX0_keeps_43 (by decide) o4 o5 (fun hc => ?_) (fun hc => ?_)
    · have h := h.1 hc
      refine x_iconst (pc := 50) C dX0_keeps_50 ?_
      exact hret _ _ _ _ dX0_keeps_51 (Or.inl rfl) h
    · have h := h.2 hc
      refine x_iconst (pc := 46) C dX0_keeps_46 ?_
      refine x_goto (pc := 47) C 51 dX0_keeps_47 (by decide) ?_
      exact hret _ _ _ _ dX0_keeps_51 (Or.inr rfl) h
theorem mt_X0_keeps (G : gG) (a1 a2 a3 a4 : Int) (σ : gS) (post : Int → gS → Prop) (h : Ok_X0_keeps a1 a2 a3 a4 σ post) : gMetI G yX0_keeps (ws_ yX0_keeps cX0_keeps 6 (some .boolean)) 0 (XW G) [.int (iI a1), .int (iI a2), .int (iI a3), .int (iI a4)] σ post :=
  gMetI.ofW (own := RX0) (by decide +kernel) rfl (Nat.le_of_ble_eq_true rfl) rfl (fun z => z = 0 ∨ z = 1) (fun z hz => gNarrow hz) (fun X C hret => wk_X0_keeps G X C a1 a2 a3 a4 σ post hret h)
set_option maxHeartbeats 4000000 in
theorem wk_X0_bestCode (G : gG) (X : gX) (C : gC G X cX0_bestCode 6 RX0 2) (σ : gS) (post : Int → gS → Prop) (hret : ∀ (z : Int) (u : gS) (pc : Nat) (ls : List (Nat × Value)), decode cX0_bestCode pc = .ok (.ireturn, 1) → (True) → post z u → gAt G X (XW G) 6 pc ls [.int (iI z)] u) (h : Ok_X0_bestCode  σ post) : gAt G X (XW G) 6 0 [(0, .ref (g_h G))] [] σ := by
  have h := h (fun (x1 x2 x3 x4 : Int) (σ : gS) => gAt G X (XW G) 6 22 [(0, .ref (g_h G)), (1, .int (iI x1)), (2, .int (iI x2)), (3, .int (iI x3)), (4, .int (iI x4))] [] σ) (fun (x1 x2 x3 x4 x5 : Int) (σ : gS) => gAt G X (XW G) 6 34 [(0, .ref (g_h G)), (1, .int (iI x1)), (2, .int (iI x2)), (3, .int (iI x3)), (4, .int (iI x4)), (5, .int (iI x5))] [] σ) (fun (x1 x2 x3 x4 x5 : Int) (σ : gS) => gAt G X (XW G) 6 65 [(0, .ref (g_h G)), (1, .int (iI x1)), (2, .int (iI x2)), (3, .int (iI x3)), (4, .int (iI x4)), (5, .int (iI x5))] [] σ)
  have h := h (by
    intro x1 x2 x3 x4 σ h
    refine x_iload (pc := 22) C dX0_bestCode_22 4 rfl ?_
    refine x_aload_n (pc := 24) (i := 0) C dX0_bestCode_24 rfl 0 rfl ?_
    refine xg_9 (pc := 25) C dX0_bestCode_25 ?_
    obtain ⟨o1, o2, h⟩ := h
    refine x_icmp_ge (pc := 28) C 104 dX0_bestCode_28 (by decide) o1 o2 (fun hc => ?_) (fun hc => ?_)
    · have h := h.1 hc
      refine x_iload_n (pc := 104) (i := 3) C dX0_bestCode_104 rfl 3 rfl ?_
      exact hret _ _ _ _ dX0_bestCode_105 trivial h
    · have h := h.2 hc
      refine x_iconst (pc := 31) C dX0_bestCode_31 ?_
      refine x_istore (pc := 32) (ls' := [(5, .int (iI 0)), (0, .ref (g_h G)), (1, .int (iI x1)), (2, .int (iI x2)), (3, .int (iI x3)), (4, .int (iI x4))]) C dX0_bestCode_32 (by decide) rfl ?_
      exact x_pick [1, 2, 3, 4, 5, 0] rfl h)
  have h := h (by
    intro x1 x2 x3 x4 x5 σ h
    refine x_iload (pc := 34) C dX0_bestCode_34 5 rfl ?_
    refine x_aload_n (pc := 36) (i := 0) C dX0_bestCode_36 rfl 0 rfl ?_
    refine xg_2 (pc := 37) C dX0_bestCode_37 ?_
    refine x_iload (pc := 40) C dX0_bestCode_40 4 rfl ?_
    obtain ⟨o1, h⟩ := h
    refine xl_2 (pc := 42) C dX0_bestCode_42 o1 ?_
    obtain ⟨o2, o3, h⟩ := h
    refine x_icmp_ge (pc := 43) C 65 dX0_bestCode_43 (by decide) o2 o3 (fun hc => ?_) (fun hc => ?_)
    · have h := h.1 hc
      exact x_pick [0, 1, 2, 3, 4, 5] rfl h
    · have h := h.2 hc
      refine x_aload_n (pc := 46) (i := 0) C dX0_bestCode_46 rfl 0 rfl ?_
      refine x_iload (pc := 47) C dX0_bestCode_47 4 rfl ?_
      refine x_iload (pc := 49) C dX0_bestCode_49 5 rfl ?_
      refine x_iload_n (pc := 51) (i := 1) C dX0_bestCode_51 rfl 1 rfl ?_
      refine x_iload_n (pc := 52) (i := 2) C dX0_bestCode_52 rfl 2 rfl ?_
      refine x_calli (pc := 53) (n := 4) (As := [.int (iI x4), .int (iI x5), .int (iI x1), .int (iI x2)]) (st := []) C (mt_X0_keeps G x4 x5 x1 x2 σ _ h) (lw_V q129 q131 qs6 q23 q132) (by decide +kernel) ⟨by decide, by decide⟩ rfl rfl rfl rfl (Nat.le_of_ble_eq_true rfl) dX0_bestCode_53 (fun r53 s53 h => ?_)
      obtain ⟨o4, h⟩ := h
      refine x_if_ne (pc := 56) C 65 dX0_bestCode_56 (by decide) o4 (fun hc => ?_) (fun hc => ?_)
      · have h := h.1 hc
        exact x_pick [0, 1, 2, 3, 4, 5] rfl h
      · have h := h.2 hc
        refine x_iinc (pc := 59) (ls' := [(5, .int (iI (x5 + 1))), (0, .ref (g_h G)), (1, .int (iI x1)), (2, .int (iI x2)), (3, .int (iI x3)), (4, .int (iI x4))]) C dX0_bestCode_59 5 rfl (by decide) rfl ?_
        refine x_goto (pc := 62) C 34 dX0_bestCode_62 (by decide) ?_
        exact x_pick [1, 2, 3, 4, 5, 0] rfl h)
  have h := h (by
    intro x1 x2 x3 x4 x5 σ h
    refine x_iconst (pc := 65) C dX0_bestCode_65 ?_
    refine x_iload_n (pc := 66) (i := 3) C dX0_bestCode_66 rfl 3 rfl ?_
    refine x_imul (pc := 67) C dX0_bestCode_67 ?_
    refine x_iload (pc := 68) C dX0_bestCode_68 5 rfl ?_
    refine x_iadd (pc := 70) C dX0_bestCode_70 ?_
    have h := h _ rfl
    refine x_istore_n (pc := 71) (i := 3) (ls' := [(3, .int (iI ((3 * x3) + x5))), (0, .ref (g_h G)), (1, .int (iI x1)), (2, .int (iI x2)), (4, .int (iI x4)), (5, .int (iI x5))]) C dX0_bestCode_71 rfl (by decide) rfl ?_
    refine x_iload_n (pc := 72) (i := 1) C dX0_bestCode_72 rfl 2 rfl ?_
    refine x_iload (pc := 73) C dX0_bestCode_73 5 rfl ?_
    refine x_aload_n (pc := 75) (i := 0) C dX0_bestCode_75 rfl 1 rfl ?_
    refine xg_0 (pc := 76) C dX0_bestCode_76 ?_
    refine x_iload (pc := 79) C dX0_bestCode_79 4 rfl ?_
    obtain ⟨o1, h⟩ := h
    refine xl_0 (pc := 81) C dX0_bestCode_81 o1 ?_
    refine x_imul (pc := 82) C dX0_bestCode_82 ?_
    refine x_isub (pc := 83) C dX0_bestCode_83 ?_
    have h := h _ rfl
    refine x_istore_n (pc := 84) (i := 1) (ls' := [(1, .int (iI (x1 - (x5 * (σ 0 x4))))), (3, .int (iI ((3 * x3) + x5))), (0, .ref (g_h G)), (2, .int (iI x2)), (4, .int (iI x4)), (5, .int (iI x5))]) C dX0_bestCode_84 rfl (by decide) rfl ?_
    refine x_iload_n (pc := 85) (i := 2) C dX0_bestCode_85 rfl 3 rfl ?_
    refine x_iload (pc := 86) C dX0_bestCode_86 5 rfl ?_
    refine x_aload_n (pc := 88) (i := 0) C dX0_bestCode_88 rfl 2 rfl ?_
    refine xg_1 (pc := 89) C dX0_bestCode_89 ?_
    refine x_iload (pc := 92) C dX0_bestCode_92 4 rfl ?_
    refine xl_1 (pc := 94) C dX0_bestCode_94 o1 ?_
    refine x_imul (pc := 95) C dX0_bestCode_95 ?_
    refine x_isub (pc := 96) C dX0_bestCode_96 ?_
    have h := h _ rfl
    refine x_istore_n (pc := 97) (i := 2) (ls' := [(2, .int (iI (x2 - (x5 * (σ 1 x4))))), (1, .int (iI (x1 - (x5 * (σ 0 x4))))), (3, .int (iI ((3 * x3) + x5))), (0, .ref (g_h G)), (4, .int (iI x4)), (5, .int (iI x5))]) C dX0_bestCode_97 rfl (by decide) rfl ?_
    refine x_iinc (pc := 98) (ls' := [(4, .int (iI (x4 + 1))), (2, .int (iI (x2 - (x5 * (σ 1 x4))))), (1, .int (iI (x1 - (x5 * (σ 0 x4))))), (3, .int (iI ((3 * x3) + x5))), (0, .ref (g_h G)), (5, .int (iI x5))]) C dX0_bestCode_98 4 rfl (by decide) rfl ?_
    refine x_goto (pc := 101) C 22 dX0_bestCode_101 (by decide) ?_
    exact x_pick [4, 2, 1, 3, 0] rfl h)
  refine x_aload_n (pc := 0) (i := 0) C dX0_bestCode_0 rfl 0 rfl ?_
  refine x_iconst (pc := 1) C dX0_bestCode_1 ?_
  refine x_callv (pc := 2) (n := 1) (As := [.int (iI (-1))]) (st := []) C (mt_X0_fill G (-1) σ _ h) (lw_V q112 q114 qs3 q23 q115) (by decide +kernel) ⟨by decide, by decide⟩ rfl rfl rfl rfl (Nat.le_of_ble_eq_true rfl) dX0_bestCode_2 (fun s2 h => ?_)
  refine x_aload_n (pc := 5) (i := 0) C dX0_bestCode_5 rfl 0 rfl ?_
  refine x_calli (pc := 6) (n := 0) (As := []) (st := []) C (mt_X0_bestWeight G  s2 _ h) (lw_V q121 q123 qs5 q23 q124) (by decide +kernel) ⟨by decide, by decide⟩ rfl rfl rfl rfl (Nat.le_of_ble_eq_true rfl) dX0_bestCode_6 (fun r6 s6 h => ?_)
  refine x_istore_n (pc := 9) (i := 1) (ls' := [(1, .int (iI r6)), (0, .ref (g_h G))]) C dX0_bestCode_9 rfl (by decide) rfl ?_
  refine x_aload_n (pc := 10) (i := 0) C dX0_bestCode_10 rfl 1 rfl ?_
  refine xg_4 (pc := 11) C dX0_bestCode_11 ?_
  refine x_iload_n (pc := 14) (i := 1) C dX0_bestCode_14 rfl 0 rfl ?_
  obtain ⟨o1, h⟩ := h
  refine xl_4 (pc := 15) C dX0_bestCode_15 o1 ?_
  have h := h _ rfl
  refine x_istore_n (pc := 16) (i := 2) (ls' := [(2, .int (iI (s6 4 r6))), (1, .int (iI r6)), (0, .ref (g_h G))]) C dX0_bestCode_16 rfl (by decide) rfl ?_
  refine x_iconst (pc := 17) C dX0_bestCode_17 ?_
  refine x_istore_n (pc := 18) (i := 3) (ls' := [(3, .int (iI 0)), (2, .int (iI (s6 4 r6))), (1, .int (iI r6)), (0, .ref (g_h G))]) C dX0_bestCode_18 rfl (by decide) rfl ?_
  refine x_iconst (pc := 19) C dX0_bestCode_19 ?_
  refine x_istore (pc := 20) (ls' := [(4, .int (iI 0)), (3, .int (iI 0)), (2, .int (iI (s6 4 r6))), (1, .int (iI r6)), (0, .ref (g_h G))]) C dX0_bestCode_20 (by decide) rfl ?_
  exact x_pick [4, 3, 2, 1, 0] rfl h
theorem mt_X0_bestCode (G : gG) (σ : gS) (post : Int → gS → Prop) (h : Ok_X0_bestCode  σ post) : gMetI G yX0_bestCode (ws_ yX0_bestCode cX0_bestCode 6 (some .int)) 2 (XW G) [] σ post :=
  gMetI.ofW (own := RX0) (by decide +kernel) rfl (Nat.le_of_ble_eq_true rfl) rfl (fun _ => True) (fun z _ => vp_nar_int (iI z)) (fun X C hret => wk_X0_bestCode G X C  σ post hret h)
set_option maxHeartbeats 4000000 in
theorem wk_X0_withGood (G : gG) (X : gX) (C : gC G X cX0_withGood 9 RX0 0) (a1 a2 a3 : Int) (σ : gS) (post : Int → gS → Prop) (hret : ∀ (z : Int) (u : gS) (pc : Nat) (ls : List (Nat × Value)), decode cX0_withGood pc = .ok (.ireturn, 1) → (True) → post z u → gAt G X (XW G) 9 pc ls [.int (iI z)] u) (h : Ok_X0_withGood a1 a2 a3 σ post) : gAt G X (XW G) 9 0 [(0, .ref (g_h G)), (1, .int (iI a1)), (2, .int (iI a2)), (3, .int (iI a3))] [] σ := by
  have h := h (fun (x4 x5 : Int) (σ : gS) => gAt G X (XW G) 9 7 [(0, .ref (g_h G)), (1, .int (iI a1)), (2, .int (iI a2)), (3, .int (iI a3)), (4, .int (iI x4)), (5, .int (iI x5))] [] σ) (fun (x4 x5 t0 : Int) (σ : gS) => gAt G X (XW G) 9 43 [(0, .ref (g_h G)), (1, .int (iI a1)), (2, .int (iI a2)), (3, .int (iI a3)), (4, .int (iI x4)), (5, .int (iI x5))] [.int (iI t0)] σ)
  have h := h (by
    intro x4 x5 σ h
    refine x_iload (pc := 7) C dX0_withGood_7 5 rfl ?_
    refine x_aload_n (pc := 9) (i := 0) C dX0_withGood_9 rfl 0 rfl ?_
    refine xg_2 (pc := 10) C dX0_withGood_10 ?_
    refine x_iload_n (pc := 13) (i := 2) C dX0_withGood_13 rfl 2 rfl ?_
    obtain ⟨o1, h⟩ := h
    refine xl_2 (pc := 14) C dX0_withGood_14 o1 ?_
    obtain ⟨o2, o3, h⟩ := h
    refine x_icmp_gt (pc := 15) C 135 dX0_withGood_15 (by decide) o2 o3 (fun hc => ?_) (fun hc => ?_)
    · have h := h.1 hc
      refine x_iload (pc := 135) C dX0_withGood_135 4 rfl ?_
      exact hret _ _ _ _ dX0_withGood_137 trivial h
    · have h := h.2 hc
      refine x_aload_n (pc := 18) (i := 0) C dX0_withGood_18 rfl 0 rfl ?_
      refine xg_7 (pc := 19) C dX0_withGood_19 ?_
      refine x_iload_n (pc := 22) (i := 2) C dX0_withGood_22 rfl 2 rfl ?_
      refine xl_7 (pc := 23) C dX0_withGood_23 o1 ?_
      obtain ⟨o4, h⟩ := h
      refine x_if_lt (pc := 24) C 38 dX0_withGood_24 (by decide) o4 (fun hc => ?_) (fun hc => ?_)
      · have h := h.1 hc
        refine x_iconst (pc := 38) C dX0_withGood_38 ?_
        refine x_goto (pc := 39) C 43 dX0_withGood_39 (by decide) ?_
        exact x_pick [0, 1, 2, 3, 4, 5] rfl h
      · have h := h.2 hc
        refine x_aload_n (pc := 27) (i := 0) C dX0_withGood_27 rfl 0 rfl ?_
        refine xg_7 (pc := 28) C dX0_withGood_28 ?_
        refine x_iload_n (pc := 31) (i := 2) C dX0_withGood_31 rfl 2 rfl ?_
        refine xl_7 (pc := 32) C dX0_withGood_32 o1 ?_
        refine x_iload (pc := 33) C dX0_withGood_33 5 rfl ?_
        refine x_icmp_ne (pc := 35) C 42 dX0_withGood_35 (by decide) o4 o2 (fun hc => ?_) (fun hc => ?_)
        · have h := h.1 hc
          refine x_iconst (pc := 42) C dX0_withGood_42 ?_
          exact x_pick [0, 1, 2, 3, 4, 5] rfl h
        · have h := h.2 hc
          refine x_iconst (pc := 38) C dX0_withGood_38 ?_
          refine x_goto (pc := 39) C 43 dX0_withGood_39 (by decide) ?_
          exact x_pick [0, 1, 2, 3, 4, 5] rfl h)
  have h := h (by
    intro x4 x5 t0 σ h
    refine x_istore (pc := 43) (ls' := [(6, .int (iI t0)), (0, .ref (g_h G)), (1, .int (iI a1)), (2, .int (iI a2)), (3, .int (iI a3)), (4, .int (iI x4)), (5, .int (iI x5))]) C dX0_withGood_43 (by decide) rfl ?_
    refine x_iload_n (pc := 45) (i := 3) C dX0_withGood_45 rfl 4 rfl ?_
    refine x_iload (pc := 46) C dX0_withGood_46 6 rfl ?_
    refine x_aload_n (pc := 48) (i := 0) C dX0_withGood_48 rfl 1 rfl ?_
    refine xg_0 (pc := 49) C dX0_withGood_49 ?_
    refine x_iload_n (pc := 52) (i := 2) C dX0_withGood_52 rfl 3 rfl ?_
    obtain ⟨o1, h⟩ := h
    refine xl_0 (pc := 53) C dX0_withGood_53 o1 ?_
    refine x_imul (pc := 54) C dX0_withGood_54 ?_
    refine x_isub (pc := 55) C dX0_withGood_55 ?_
    have h := h _ rfl
    refine x_istore (pc := 56) (ls' := [(7, .int (iI (a3 - (x5 * (σ 0 a2))))), (6, .int (iI t0)), (0, .ref (g_h G)), (1, .int (iI a1)), (2, .int (iI a2)), (3, .int (iI a3)), (4, .int (iI x4)), (5, .int (iI x5))]) C dX0_withGood_56 (by decide) rfl ?_
    refine x_iload (pc := 58) C dX0_withGood_58 1 rfl ?_
    obtain ⟨o2, h⟩ := h
    refine x_if_eq (pc := 60) C 129 dX0_withGood_60 (by decide) o2 (fun hc => ?_) (fun hc => ?_)
    · have h := h.1 hc
      refine x_iinc (pc := 129) (ls' := [(5, .int (iI (x5 + 1))), (7, .int (iI (a3 - (x5 * (σ 0 a2))))), (6, .int (iI t0)), (0, .ref (g_h G)), (1, .int (iI a1)), (2, .int (iI a2)), (3, .int (iI a3)), (4, .int (iI x4))]) C dX0_withGood_129 7 rfl (by decide) rfl ?_
      refine x_goto (pc := 132) C 7 dX0_withGood_132 (by decide) ?_
      exact x_pick [3, 4, 5, 6, 7, 0] rfl h
    · have h := h.2 hc
      refine x_iload (pc := 63) C dX0_withGood_63 0 rfl ?_
      obtain ⟨o3, h⟩ := h
      refine x_if_lt (pc := 65) C 129 dX0_withGood_65 (by decide) o3 (fun hc => ?_) (fun hc => ?_)
      · have h := h.1 hc
        refine x_iinc (pc := 129) (ls' := [(5, .int (iI (x5 + 1))), (7, .int (iI (a3 - (x5 * (σ 0 a2))))), (6, .int (iI t0)), (0, .ref (g_h G)), (1, .int (iI a1)), (2, .int (iI a2)), (3, .int (iI a3)), (4, .int (iI x4))]) C dX0_withGood_129 7 rfl (by decide) rfl ?_
        refine x_goto (pc := 132) C 7 dX0_withGood_132 (by decide) ?_
        exact x_pick [3, 4, 5, 6, 7, 0] rfl h
      · have h := h.2 hc
        refine x_aload_n (pc := 68) (i := 0) C dX0_withGood_68 rfl 2 rfl ?_
        refine xg_6 (pc := 69) C dX0_withGood_69 ?_
        refine x_sipush (pc := 72) C dX0_withGood_72 (by decide) ?_
        refine x_iload_n (pc := 75) (i := 1) C dX0_withGood_75 rfl 3 rfl ?_
        refine x_iconst (pc := 76) C dX0_withGood_76 ?_
        refine x_iadd (pc := 77) C dX0_withGood_77 ?_
        refine x_imul (pc := 78) C dX0_withGood_78 ?_
        refine x_iload (pc := 79) C dX0_withGood_79 0 rfl ?_
        refine x_iadd (pc := 81) C dX0_withGood_81 ?_
        obtain ⟨o4, h⟩ := h
        refine xl_6 (pc := 82) C dX0_withGood_82 o4 ?_
        obtain ⟨o5, h⟩ := h
        refine x_if_lt (pc := 83) C 129 dX0_withGood_83 (by decide) o5 (fun hc => ?_) (fun hc => ?_)
        · have h := h.1 hc
          refine x_iinc (pc := 129) (ls' := [(5, .int (iI (x5 + 1))), (7, .int (iI (a3 - (x5 * (σ 0 a2))))), (6, .int (iI t0)), (0, .ref (g_h G)), (1, .int (iI a1)), (2, .int (iI a2)), (3, .int (iI a3)), (4, .int (iI x4))]) C dX0_withGood_129 7 rfl (by decide) rfl ?_
          refine x_goto (pc := 132) C 7 dX0_withGood_132 (by decide) ?_
          exact x_pick [3, 4, 5, 6, 7, 0] rfl h
        · have h := h.2 hc
          refine x_aload_n (pc := 86) (i := 0) C dX0_withGood_86 rfl 2 rfl ?_
          refine xg_6 (pc := 87) C dX0_withGood_87 ?_
          refine x_sipush (pc := 90) C dX0_withGood_90 (by decide) ?_
          refine x_iload_n (pc := 93) (i := 1) C dX0_withGood_93 rfl 3 rfl ?_
          refine x_iconst (pc := 94) C dX0_withGood_94 ?_
          refine x_iadd (pc := 95) C dX0_withGood_95 ?_
          refine x_imul (pc := 96) C dX0_withGood_96 ?_
          refine x_iload (pc := 97) C dX0_withGood_97 0 rfl ?_
          refine x_iadd (pc := 99) C dX0_withGood_99 ?_
          refine xl_6 (pc := 100) C dX0_withGood_100 o4 ?_
          refine x_iload (pc := 101) C dX0_withGood_101 7 rfl ?_
          refine x_aload_n (pc := 103) (i := 0) C dX0_withGood_103 rfl 2 rfl ?_
          refine xg_1 (pc := 104) C dX0_withGood_104 ?_
          refine x_iload_n (pc := 107) (i := 2) C dX0_withGood_107 rfl 4 rfl ?_
          refine xl_1 (pc := 108) C dX0_withGood_108 o1 ?_
          refine x_imul (pc := 109) C dX0_withGood_109 ?_
          refine x_iadd (pc := 110) C dX0_withGood_110 ?_
          have h := h _ rfl
          refine x_istore (pc := 111) (ls' := [(8, .int (iI ((σ 6 ((281 * (a1 + 1)) + (a3 - (x5 * (σ 0 a2))))) + (x5 * (σ 1 a2))))), (7, .int (iI (a3 - (x5 * (σ 0 a2))))), (6, .int (iI t0)), (0, .ref (g_h G)), (1, .int (iI a1)), (2, .int (iI a2)), (3, .int (iI a3)), (4, .int (iI x4)), (5, .int (iI x5))]) C dX0_withGood_111 (by decide) rfl ?_
          refine x_iload (pc := 113) C dX0_withGood_113 0 rfl ?_
          refine x_iload (pc := 115) C dX0_withGood_115 7 rfl ?_
          obtain ⟨o6, o7, h⟩ := h
          refine x_icmp_le (pc := 117) C 125 dX0_withGood_117 (by decide) o6 o7 (fun hc => ?_) (fun hc => ?_)
          · have h := h.1 hc
            refine x_iload (pc := 125) C dX0_withGood_125 7 rfl ?_
            refine x_istore (pc := 127) (ls' := [(4, .int (iI x4)), (8, .int (iI ((σ 6 ((281 * (a1 + 1)) + (a3 - (x5 * (σ 0 a2))))) + (x5 * (σ 1 a2))))), (7, .int (iI (a3 - (x5 * (σ 0 a2))))), (6, .int (iI t0)), (0, .ref (g_h G)), (1, .int (iI a1)), (2, .int (iI a2)), (3, .int (iI a3)), (5, .int (iI x5))]) C dX0_withGood_127 (by decide) rfl ?_
            refine x_iinc (pc := 129) (ls' := [(5, .int (iI (x5 + 1))), (4, .int (iI x4)), (8, .int (iI ((σ 6 ((281 * (a1 + 1)) + (a3 - (x5 * (σ 0 a2))))) + (x5 * (σ 1 a2))))), (7, .int (iI (a3 - (x5 * (σ 0 a2))))), (6, .int (iI t0)), (0, .ref (g_h G)), (1, .int (iI a1)), (2, .int (iI a2)), (3, .int (iI a3))]) C dX0_withGood_129 8 rfl (by decide) rfl ?_
            refine x_goto (pc := 132) C 7 dX0_withGood_132 (by decide) ?_
            exact x_pick [5, 6, 7, 8, 1, 0] rfl h
          · have h := h.2 hc
            refine x_iload (pc := 120) C dX0_withGood_120 0 rfl ?_
            refine x_goto (pc := 122) C 127 dX0_withGood_122 (by decide) ?_
            refine x_istore (pc := 127) (ls' := [(4, .int (iI ((σ 6 ((281 * (a1 + 1)) + (a3 - (x5 * (σ 0 a2))))) + (x5 * (σ 1 a2))))), (8, .int (iI ((σ 6 ((281 * (a1 + 1)) + (a3 - (x5 * (σ 0 a2))))) + (x5 * (σ 1 a2))))), (7, .int (iI (a3 - (x5 * (σ 0 a2))))), (6, .int (iI t0)), (0, .ref (g_h G)), (1, .int (iI a1)), (2, .int (iI a2)), (3, .int (iI a3)), (5, .int (iI x5))]) C dX0_withGood_127 (by decide) rfl ?_
            refine x_iinc (pc := 129) (ls' := [(5, .int (iI (x5 + 1))), (4, .int (iI ((σ 6 ((281 * (a1 + 1)) + (a3 - (x5 * (σ 0 a2))))) + (x5 * (σ 1 a2))))), (8, .int (iI ((σ 6 ((281 * (a1 + 1)) + (a3 - (x5 * (σ 0 a2))))) + (x5 * (σ 1 a2))))), (7, .int (iI (a3 - (x5 * (σ 0 a2))))), (6, .int (iI t0)), (0, .ref (g_h G)), (1, .int (iI a1)), (2, .int (iI a2)), (3, .int (iI a3))]) C dX0_withGood_129 8 rfl (by decide) rfl ?_
            refine x_goto (pc := 132) C 7 dX0_withGood_132 (by decide) ?_
            exact x_pick [5, 6, 7, 8, 1, 0] rfl h)
  refine x_ldc (pc := 0) C (-100000) dX0_withGood_0 q116 (by decide) ?_
  refine x_istore (pc := 2) (ls' := [(4, .int (iI (-100000))), (0, .ref (g_h G)), (1, .int (iI a1)), (2, .int (iI a2)), (3, .int (iI a3))]) C dX0_withGood_2 (by decide) rfl ?_
  refine x_iconst (pc := 4) C dX0_withGood_4 ?_
  refine x_istore (pc := 5) (ls' := [(5, .int (iI 1)), (4, .int (iI (-100000))), (0, .ref (g_h G)), (1, .int (iI a1)), (2, .int (iI a2)), (3, .int (iI a3))]) C dX0_withGood_5 (by decide) rfl ?_
  exact x_pick [2, 3, 4, 5, 1, 0] rfl h
theorem mt_X0_withGood (G : gG) (a1 a2 a3 : Int) (σ : gS) (post : Int → gS → Prop) (h : Ok_X0_withGood a1 a2 a3 σ post) : gMetI G yX0_withGood (ws_ yX0_withGood cX0_withGood 9 (some .int)) 0 (XW G) [.int (iI a1), .int (iI a2), .int (iI a3)] σ post :=
  gMetI.ofW (own := RX0) (by decide +kernel) rfl (Nat.le_of_ble_eq_true rfl) rfl (fun _ => True) (fun z _ => vp_nar_int (iI z)) (fun X C hret => wk_X0_withGood G X C a1 a2 a3 σ post hret h)
set_option maxHeartbeats 4000000 in
theorem wk_X0_strictEntry (G : gG) (X : gX) (C : gC G X cX0_strictEntry 8 RX0 1) (a1 a2 : Int) (σ : gS) (post : Int → gS → Prop) (hret : ∀ (z : Int) (u : gS) (pc : Nat) (ls : List (Nat × Value)), decode cX0_strictEntry pc = .ok (.ireturn, 1) → (True) → post z u → gAt G X (XW G) 8 pc ls [.int (iI z)] u) (h : Ok_X0_strictEntry a1 a2 σ post) : gAt G X (XW G) 8 0 [(0, .ref (g_h G)), (1, .int (iI a1)), (2, .int (iI a2))] [] σ := by
  have h := h (fun (x3 x4 x5 : Int) (σ : gS) => gAt G X (XW G) 8 8 [(0, .ref (g_h G)), (1, .int (iI a1)), (2, .int (iI a2)), (3, .int (iI x3)), (4, .int (iI x4)), (5, .int (iI x5))] [] σ) (fun (x3 x4 x5 x6 : Int) (σ : gS) => gAt G X (XW G) 8 87 [(0, .ref (g_h G)), (1, .int (iI a1)), (2, .int (iI a2)), (3, .int (iI x3)), (4, .int (iI x4)), (5, .int (iI x5)), (6, .int (iI x6))] [] σ) (fun (x3 x4 x5 x6 : Int) (σ : gS) => gAt G X (XW G) 8 118 [(0, .ref (g_h G)), (1, .int (iI a1)), (2, .int (iI a2)), (3, .int (iI x3)), (4, .int (iI x4)), (5, .int (iI x5)), (6, .int (iI x6))] [] σ)
  have h := h (by
    intro x3 x4 x5 σ h
    refine x_iload (pc := 8) C dX0_strictEntry_8 5 rfl ?_
    refine x_aload_n (pc := 10) (i := 0) C dX0_strictEntry_10 rfl 0 rfl ?_
    refine xg_9 (pc := 11) C dX0_strictEntry_11 ?_
    obtain ⟨o1, o2, h⟩ := h
    refine x_icmp_ge (pc := 14) C 51 dX0_strictEntry_14 (by decide) o1 o2 (fun hc => ?_) (fun hc => ?_)
    · have h := h.1 hc
      refine x_iload_n (pc := 51) (i := 3) C dX0_strictEntry_51 rfl 3 rfl ?_
      refine x_iconst (pc := 52) C dX0_strictEntry_52 ?_
      obtain ⟨o3, h⟩ := h
      refine x_icmp_le (pc := 53) C 59 dX0_strictEntry_53 (by decide) o3 (by decide) (fun hc => ?_) (fun hc => ?_)
      · have h := h.1 hc
        refine x_iload_n (pc := 59) (i := 3) C dX0_strictEntry_59 rfl 3 rfl ?_
        refine x_if_ne (pc := 60) C 80 dX0_strictEntry_60 (by decide) o3 (fun hc => ?_) (fun hc => ?_)
        · have h := h.1 hc
          refine x_ldc (pc := 80) C (-100000) dX0_strictEntry_80 q116 (by decide) ?_
          refine x_istore (pc := 82) (ls' := [(5, .int (iI (-100000))), (0, .ref (g_h G)), (1, .int (iI a1)), (2, .int (iI a2)), (3, .int (iI x3)), (4, .int (iI x4))]) C dX0_strictEntry_82 (by decide) rfl ?_
          refine x_iconst (pc := 84) C dX0_strictEntry_84 ?_
          refine x_istore (pc := 85) (ls' := [(6, .int (iI 0)), (5, .int (iI (-100000))), (0, .ref (g_h G)), (1, .int (iI a1)), (2, .int (iI a2)), (3, .int (iI x3)), (4, .int (iI x4))]) C dX0_strictEntry_85 (by decide) rfl ?_
          exact x_pick [2, 3, 4, 5, 6, 1, 0] rfl h
        · have h := h.2 hc
          refine x_aload_n (pc := 63) (i := 0) C dX0_strictEntry_63 rfl 0 rfl ?_
          refine xg_6 (pc := 64) C dX0_strictEntry_64 ?_
          refine x_sipush (pc := 67) C dX0_strictEntry_67 (by decide) ?_
          refine x_iload_n (pc := 70) (i := 1) C dX0_strictEntry_70 rfl 1 rfl ?_
          refine x_iconst (pc := 71) C dX0_strictEntry_71 ?_
          refine x_iadd (pc := 72) C dX0_strictEntry_72 ?_
          refine x_imul (pc := 73) C dX0_strictEntry_73 ?_
          refine x_iload_n (pc := 74) (i := 2) C dX0_strictEntry_74 rfl 2 rfl ?_
          refine x_iadd (pc := 75) C dX0_strictEntry_75 ?_
          obtain ⟨o4, h⟩ := h
          refine xl_6 (pc := 76) C dX0_strictEntry_76 o4 ?_
          refine x_goto (pc := 77) C 82 dX0_strictEntry_77 (by decide) ?_
          have h := h _ rfl
          refine x_istore (pc := 82) (ls' := [(5, .int (iI (σ 6 ((281 * (a1 + 1)) + a2)))), (0, .ref (g_h G)), (1, .int (iI a1)), (2, .int (iI a2)), (3, .int (iI x3)), (4, .int (iI x4))]) C dX0_strictEntry_82 (by decide) rfl ?_
          refine x_iconst (pc := 84) C dX0_strictEntry_84 ?_
          refine x_istore (pc := 85) (ls' := [(6, .int (iI 0)), (5, .int (iI (σ 6 ((281 * (a1 + 1)) + a2)))), (0, .ref (g_h G)), (1, .int (iI a1)), (2, .int (iI a2)), (3, .int (iI x3)), (4, .int (iI x4))]) C dX0_strictEntry_85 (by decide) rfl ?_
          exact x_pick [2, 3, 4, 5, 6, 1, 0] rfl h
      · have h := h.2 hc
        refine x_ldc (pc := 56) C (-100000) dX0_strictEntry_56 q116 (by decide) ?_
        exact hret _ _ _ _ dX0_strictEntry_58 trivial h
    · have h := h.2 hc
      refine x_aload_n (pc := 17) (i := 0) C dX0_strictEntry_17 rfl 0 rfl ?_
      refine xg_3 (pc := 18) C dX0_strictEntry_18 ?_
      refine x_iload (pc := 21) C dX0_strictEntry_21 5 rfl ?_
      obtain ⟨o5, h⟩ := h
      refine xl_3 (pc := 23) C dX0_strictEntry_23 o5 ?_
      refine x_iload_n (pc := 24) (i := 1) C dX0_strictEntry_24 rfl 1 rfl ?_
      obtain ⟨o6, o7, h⟩ := h
      refine x_icmp_ne (pc := 25) C 45 dX0_strictEntry_25 (by decide) o6 o7 (fun hc => ?_) (fun hc => ?_)
      · have h := h.1 hc
        refine x_iinc (pc := 45) (ls' := [(5, .int (iI (x5 + 1))), (0, .ref (g_h G)), (1, .int (iI a1)), (2, .int (iI a2)), (3, .int (iI x3)), (4, .int (iI x4))]) C dX0_strictEntry_45 5 rfl (by decide) rfl ?_
        refine x_goto (pc := 48) C 8 dX0_strictEntry_48 (by decide) ?_
        exact x_pick [1, 2, 3, 4, 5, 0] rfl h
      · have h := h.2 hc
        refine x_aload_n (pc := 28) (i := 0) C dX0_strictEntry_28 rfl 0 rfl ?_
        refine xg_7 (pc := 29) C dX0_strictEntry_29 ?_
        refine x_iload (pc := 32) C dX0_strictEntry_32 5 rfl ?_
        refine xl_7 (pc := 34) C dX0_strictEntry_34 o5 ?_
        obtain ⟨o8, h⟩ := h
        refine x_if_le (pc := 35) C 45 dX0_strictEntry_35 (by decide) o8 (fun hc => ?_) (fun hc => ?_)
        · have h := h.1 hc
          refine x_iinc (pc := 45) (ls' := [(5, .int (iI (x5 + 1))), (0, .ref (g_h G)), (1, .int (iI a1)), (2, .int (iI a2)), (3, .int (iI x3)), (4, .int (iI x4))]) C dX0_strictEntry_45 5 rfl (by decide) rfl ?_
          refine x_goto (pc := 48) C 8 dX0_strictEntry_48 (by decide) ?_
          exact x_pick [1, 2, 3, 4, 5, 0] rfl h
        · have h := h.2 hc
          refine x_iinc (pc := 38) (ls' := [(3, .int (iI (x3 + 1))), (0, .ref (g_h G)), (1, .int (iI a1)), (2, .int (iI a2)), (4, .int (iI x4)), (5, .int (iI x5))]) C dX0_strictEntry_38 3 rfl (by decide) rfl ?_
          refine x_iload (pc := 41) C dX0_strictEntry_41 5 rfl ?_
          refine x_istore (pc := 43) (ls' := [(4, .int (iI x5)), (3, .int (iI (x3 + 1))), (0, .ref (g_h G)), (1, .int (iI a1)), (2, .int (iI a2)), (5, .int (iI x5))]) C dX0_strictEntry_43 (by decide) rfl ?_
          refine x_iinc (pc := 45) (ls' := [(5, .int (iI (x5 + 1))), (4, .int (iI x5)), (3, .int (iI (x3 + 1))), (0, .ref (g_h G)), (1, .int (iI a1)), (2, .int (iI a2))]) C dX0_strictEntry_45 5 rfl (by decide) rfl ?_
          refine x_goto (pc := 48) C 8 dX0_strictEntry_48 (by decide) ?_
          exact x_pick [3, 4, 5, 2, 1, 0] rfl h)
  have h := h (by
    intro x3 x4 x5 x6 σ h
    refine x_iload (pc := 87) C dX0_strictEntry_87 6 rfl ?_
    refine x_aload_n (pc := 89) (i := 0) C dX0_strictEntry_89 rfl 0 rfl ?_
    refine xg_9 (pc := 90) C dX0_strictEntry_90 ?_
    obtain ⟨o1, o2, h⟩ := h
    refine x_icmp_ge (pc := 93) C 150 dX0_strictEntry_93 (by decide) o1 o2 (fun hc => ?_) (fun hc => ?_)
    · have h := h.1 hc
      refine x_iload (pc := 150) C dX0_strictEntry_150 5 rfl ?_
      exact hret _ _ _ _ dX0_strictEntry_152 trivial h
    · have h := h.2 hc
      refine x_aload_n (pc := 96) (i := 0) C dX0_strictEntry_96 rfl 0 rfl ?_
      refine xg_3 (pc := 97) C dX0_strictEntry_97 ?_
      refine x_iload (pc := 100) C dX0_strictEntry_100 6 rfl ?_
      obtain ⟨o3, h⟩ := h
      refine xl_3 (pc := 102) C dX0_strictEntry_102 o3 ?_
      refine x_iload_n (pc := 103) (i := 1) C dX0_strictEntry_103 rfl 1 rfl ?_
      obtain ⟨o4, o5, h⟩ := h
      refine x_icmp_ne (pc := 104) C 144 dX0_strictEntry_104 (by decide) o4 o5 (fun hc => ?_) (fun hc => ?_)
      · have h := h.1 hc
        refine x_iinc (pc := 144) (ls' := [(6, .int (iI (x6 + 1))), (0, .ref (g_h G)), (1, .int (iI a1)), (2, .int (iI a2)), (3, .int (iI x3)), (4, .int (iI x4)), (5, .int (iI x5))]) C dX0_strictEntry_144 6 rfl (by decide) rfl ?_
        refine x_goto (pc := 147) C 87 dX0_strictEntry_147 (by decide) ?_
        exact x_pick [1, 2, 3, 4, 5, 6, 0] rfl h
      · have h := h.2 hc
        refine x_iload_n (pc := 107) (i := 3) C dX0_strictEntry_107 rfl 3 rfl ?_
        obtain ⟨o6, h⟩ := h
        refine x_if_eq (pc := 108) C 118 dX0_strictEntry_108 (by decide) o6 (fun hc => ?_) (fun hc => ?_)
        · have h := h.1 hc
          exact x_pick [0, 1, 2, 3, 4, 5, 6] rfl h
        · have h := h.2 hc
          refine x_iload (pc := 111) C dX0_strictEntry_111 6 rfl ?_
          refine x_iload (pc := 113) C dX0_strictEntry_113 4 rfl ?_
          obtain ⟨o7, h⟩ := h
          refine x_icmp_ne (pc := 115) C 144 dX0_strictEntry_115 (by decide) o1 o7 (fun hc => ?_) (fun hc => ?_)
          · have h := h.1 hc
            refine x_iinc (pc := 144) (ls' := [(6, .int (iI (x6 + 1))), (0, .ref (g_h G)), (1, .int (iI a1)), (2, .int (iI a2)), (3, .int (iI x3)), (4, .int (iI x4)), (5, .int (iI x5))]) C dX0_strictEntry_144 6 rfl (by decide) rfl ?_
            refine x_goto (pc := 147) C 87 dX0_strictEntry_147 (by decide) ?_
            exact x_pick [1, 2, 3, 4, 5, 6, 0] rfl h
          · have h := h.2 hc
            exact x_pick [0, 1, 2, 3, 4, 5, 6] rfl h)
  have h := h (by
    intro x3 x4 x5 x6 σ h
    refine x_aload_n (pc := 118) (i := 0) C dX0_strictEntry_118 rfl 0 rfl ?_
    refine x_iload_n (pc := 119) (i := 1) C dX0_strictEntry_119 rfl 1 rfl ?_
    refine x_iload (pc := 120) C dX0_strictEntry_120 6 rfl ?_
    refine x_iload_n (pc := 122) (i := 2) C dX0_strictEntry_122 rfl 2 rfl ?_
    refine x_calli (pc := 123) (n := 3) (As := [.int (iI a1), .int (iI x6), .int (iI a2)]) (st := []) C (mt_X0_withGood G a1 x6 a2 σ _ h) (lw_V q149 q151 qs10 q23 q152) (by decide +kernel) ⟨by decide, by decide⟩ rfl rfl rfl rfl (Nat.le_of_ble_eq_true rfl) dX0_strictEntry_123 (fun r123 s123 h => ?_)
    refine x_istore (pc := 126) (ls' := [(7, .int (iI r123)), (0, .ref (g_h G)), (1, .int (iI a1)), (2, .int (iI a2)), (3, .int (iI x3)), (4, .int (iI x4)), (5, .int (iI x5)), (6, .int (iI x6))]) C dX0_strictEntry_126 (by decide) rfl ?_
    refine x_iload (pc := 128) C dX0_strictEntry_128 0 rfl ?_
    refine x_iload (pc := 130) C dX0_strictEntry_130 6 rfl ?_
    obtain ⟨o1, o2, h⟩ := h
    refine x_icmp_le (pc := 132) C 140 dX0_strictEntry_132 (by decide) o1 o2 (fun hc => ?_) (fun hc => ?_)
    · have h := h.1 hc
      refine x_iload (pc := 140) C dX0_strictEntry_140 6 rfl ?_
      refine x_istore (pc := 142) (ls' := [(5, .int (iI x5)), (7, .int (iI r123)), (0, .ref (g_h G)), (1, .int (iI a1)), (2, .int (iI a2)), (3, .int (iI x3)), (4, .int (iI x4)), (6, .int (iI x6))]) C dX0_strictEntry_142 (by decide) rfl ?_
      refine x_iinc (pc := 144) (ls' := [(6, .int (iI (x6 + 1))), (5, .int (iI x5)), (7, .int (iI r123)), (0, .ref (g_h G)), (1, .int (iI a1)), (2, .int (iI a2)), (3, .int (iI x3)), (4, .int (iI x4))]) C dX0_strictEntry_144 7 rfl (by decide) rfl ?_
      refine x_goto (pc := 147) C 87 dX0_strictEntry_147 (by decide) ?_
      exact x_pick [3, 4, 5, 6, 7, 1, 0] rfl h
    · have h := h.2 hc
      refine x_iload (pc := 135) C dX0_strictEntry_135 0 rfl ?_
      refine x_goto (pc := 137) C 142 dX0_strictEntry_137 (by decide) ?_
      refine x_istore (pc := 142) (ls' := [(5, .int (iI r123)), (7, .int (iI r123)), (0, .ref (g_h G)), (1, .int (iI a1)), (2, .int (iI a2)), (3, .int (iI x3)), (4, .int (iI x4)), (6, .int (iI x6))]) C dX0_strictEntry_142 (by decide) rfl ?_
      refine x_iinc (pc := 144) (ls' := [(6, .int (iI (x6 + 1))), (5, .int (iI r123)), (7, .int (iI r123)), (0, .ref (g_h G)), (1, .int (iI a1)), (2, .int (iI a2)), (3, .int (iI x3)), (4, .int (iI x4))]) C dX0_strictEntry_144 7 rfl (by decide) rfl ?_
      refine x_goto (pc := 147) C 87 dX0_strictEntry_147 (by decide) ?_
      exact x_pick [3, 4, 5, 6, 7, 1, 0] rfl h)
  refine x_iconst (pc := 0) C dX0_strictEntry_0 ?_
  refine x_istore_n (pc := 1) (i := 3) (ls' := [(3, .int (iI 0)), (0, .ref (g_h G)), (1, .int (iI a1)), (2, .int (iI a2))]) C dX0_strictEntry_1 rfl (by decide) rfl ?_
  refine x_iconst (pc := 2) C dX0_strictEntry_2 ?_
  refine x_istore (pc := 3) (ls' := [(4, .int (iI (-1))), (3, .int (iI 0)), (0, .ref (g_h G)), (1, .int (iI a1)), (2, .int (iI a2))]) C dX0_strictEntry_3 (by decide) rfl ?_
  refine x_iconst (pc := 5) C dX0_strictEntry_5 ?_
  refine x_istore (pc := 6) (ls' := [(5, .int (iI 0)), (4, .int (iI (-1))), (3, .int (iI 0)), (0, .ref (g_h G)), (1, .int (iI a1)), (2, .int (iI a2))]) C dX0_strictEntry_6 (by decide) rfl ?_
  exact x_pick [3, 4, 5, 2, 1, 0] rfl h
theorem mt_X0_strictEntry (G : gG) (a1 a2 : Int) (σ : gS) (post : Int → gS → Prop) (h : Ok_X0_strictEntry a1 a2 σ post) : gMetI G yX0_strictEntry (ws_ yX0_strictEntry cX0_strictEntry 8 (some .int)) 1 (XW G) [.int (iI a1), .int (iI a2)] σ post :=
  gMetI.ofW (own := RX0) (by decide +kernel) rfl (Nat.le_of_ble_eq_true rfl) rfl (fun _ => True) (fun z _ => vp_nar_int (iI z)) (fun X C hret => wk_X0_strictEntry G X C a1 a2 σ post hret h)
set_option maxHeartbeats 4000000 in
theorem wk_X0_fillStrict (G : gG) (X : gX) (C : gC G X cX0_fillStrict 3 RX0 2) (σ : gS) (post : gS → Prop) (hret : ∀ (u : gS) (pc : Nat) (ls : List (Nat × Value)), decode cX0_fillStrict pc = .ok (.return_, 1) → post u → gAt G X (XW G) 3 pc ls [] u) (h : Ok_X0_fillStrict  σ post) : gAt G X (XW G) 3 0 [(0, .ref (g_h G))] [] σ := by
  have h := h (fun (x1 : Int) (σ : gS) => gAt G X (XW G) 3 2 [(0, .ref (g_h G)), (1, .int (iI x1))] [] σ) (fun (x1 : Int) (σ : gS) => gAt G X (XW G) 3 37 [(0, .ref (g_h G)), (1, .int (iI x1))] [] σ) (fun (x1 x2 : Int) (σ : gS) => gAt G X (XW G) 3 43 [(0, .ref (g_h G)), (1, .int (iI x1)), (2, .int (iI x2))] [] σ)
  have h := h (by
    intro x1 σ h
    refine x_iload_n (pc := 2) (i := 1) C dX0_fillStrict_2 rfl 1 rfl ?_
    refine x_sipush (pc := 3) C dX0_fillStrict_3 (by decide) ?_
    obtain ⟨o1, h⟩ := h
    refine x_icmp_gt (pc := 6) C 35 dX0_fillStrict_6 (by decide) o1 (by decide) (fun hc => ?_) (fun hc => ?_)
    · have h := h.1 hc
      refine x_iconst (pc := 35) C dX0_fillStrict_35 ?_
      refine x_istore_n (pc := 36) (i := 1) (ls' := [(1, .int (iI 3)), (0, .ref (g_h G))]) C dX0_fillStrict_36 rfl (by decide) rfl ?_
      exact x_pick [1, 0] rfl h
    · have h := h.2 hc
      refine x_aload_n (pc := 9) (i := 0) C dX0_fillStrict_9 rfl 0 rfl ?_
      refine xg_6 (pc := 10) C dX0_fillStrict_10 ?_
      refine x_sipush (pc := 13) C dX0_fillStrict_13 (by decide) ?_
      refine x_iload_n (pc := 16) (i := 1) C dX0_fillStrict_16 rfl 1 rfl ?_
      refine x_iadd (pc := 17) C dX0_fillStrict_17 ?_
      refine x_iload_n (pc := 18) (i := 1) C dX0_fillStrict_18 rfl 1 rfl ?_
      refine x_if_ne (pc := 19) C 26 dX0_fillStrict_19 (by decide) o1 (fun hc => ?_) (fun hc => ?_)
      · have h := h.1 hc
        refine x_ldc (pc := 26) C (-100000) dX0_fillStrict_26 q116 (by decide) ?_
        obtain ⟨o2, h⟩ := h
        refine xs_6 (pc := 28) C dX0_fillStrict_28 o2 ?_
        refine x_iinc (pc := 29) (ls' := [(1, .int (iI (x1 + 1))), (0, .ref (g_h G))]) C dX0_fillStrict_29 1 rfl (by decide) rfl ?_
        refine x_goto (pc := 32) C 2 dX0_fillStrict_32 (by decide) ?_
        exact x_pick [1, 0] rfl h
      · have h := h.2 hc
        refine x_iconst (pc := 22) C dX0_fillStrict_22 ?_
        refine x_goto (pc := 23) C 28 dX0_fillStrict_23 (by decide) ?_
        obtain ⟨o3, h⟩ := h
        refine xs_6 (pc := 28) C dX0_fillStrict_28 o3 ?_
        refine x_iinc (pc := 29) (ls' := [(1, .int (iI (x1 + 1))), (0, .ref (g_h G))]) C dX0_fillStrict_29 1 rfl (by decide) rfl ?_
        refine x_goto (pc := 32) C 2 dX0_fillStrict_32 (by decide) ?_
        exact x_pick [1, 0] rfl h)
  have h := h (by
    intro x1 σ h
    refine x_iload_n (pc := 37) (i := 1) C dX0_fillStrict_37 rfl 1 rfl ?_
    obtain ⟨o1, h⟩ := h
    refine x_if_lt (pc := 38) C 80 dX0_fillStrict_38 (by decide) o1 (fun hc => ?_) (fun hc => ?_)
    · have h := h.1 hc
      exact hret _ _ _ dX0_fillStrict_80 h
    · have h := h.2 hc
      refine x_iconst (pc := 41) C dX0_fillStrict_41 ?_
      refine x_istore_n (pc := 42) (i := 2) (ls' := [(2, .int (iI 0)), (0, .ref (g_h G)), (1, .int (iI x1))]) C dX0_fillStrict_42 rfl (by decide) rfl ?_
      exact x_pick [1, 2, 0] rfl h)
  have h := h (by
    intro x1 x2 σ h
    refine x_iload_n (pc := 43) (i := 2) C dX0_fillStrict_43 rfl 2 rfl ?_
    refine x_sipush (pc := 44) C dX0_fillStrict_44 (by decide) ?_
    obtain ⟨o1, h⟩ := h
    refine x_icmp_gt (pc := 47) C 74 dX0_fillStrict_47 (by decide) o1 (by decide) (fun hc => ?_) (fun hc => ?_)
    · have h := h.1 hc
      refine x_iinc (pc := 74) (ls' := [(1, .int (iI (x1 + (-1)))), (0, .ref (g_h G)), (2, .int (iI x2))]) C dX0_fillStrict_74 1 rfl (by decide) rfl ?_
      refine x_goto (pc := 77) C 37 dX0_fillStrict_77 (by decide) ?_
      exact x_pick [1, 0] rfl h
    · have h := h.2 hc
      refine x_aload_n (pc := 50) (i := 0) C dX0_fillStrict_50 rfl 0 rfl ?_
      refine xg_6 (pc := 51) C dX0_fillStrict_51 ?_
      refine x_sipush (pc := 54) C dX0_fillStrict_54 (by decide) ?_
      refine x_iload_n (pc := 57) (i := 1) C dX0_fillStrict_57 rfl 1 rfl ?_
      refine x_imul (pc := 58) C dX0_fillStrict_58 ?_
      refine x_iload_n (pc := 59) (i := 2) C dX0_fillStrict_59 rfl 2 rfl ?_
      refine x_iadd (pc := 60) C dX0_fillStrict_60 ?_
      refine x_aload_n (pc := 61) (i := 0) C dX0_fillStrict_61 rfl 0 rfl ?_
      refine x_iload_n (pc := 62) (i := 1) C dX0_fillStrict_62 rfl 1 rfl ?_
      refine x_iload_n (pc := 63) (i := 2) C dX0_fillStrict_63 rfl 2 rfl ?_
      refine x_calli (pc := 64) (n := 2) (As := [.int (iI x1), .int (iI x2)]) (st := [.int (iI ((281 * x1) + x2)), .ref (g_ad G 6)]) C (mt_X0_strictEntry G x1 x2 σ _ h) (lw_V q145 q147 qs9 q23 q148) (by decide +kernel) ⟨by decide, by decide⟩ rfl rfl rfl rfl (Nat.le_of_ble_eq_true rfl) dX0_fillStrict_64 (fun r64 s64 h => ?_)
      obtain ⟨o2, h⟩ := h
      refine xs_6 (pc := 67) C dX0_fillStrict_67 o2 ?_
      refine x_iinc (pc := 68) (ls' := [(2, .int (iI (x2 + 1))), (0, .ref (g_h G)), (1, .int (iI x1))]) C dX0_fillStrict_68 2 rfl (by decide) rfl ?_
      refine x_goto (pc := 71) C 43 dX0_fillStrict_71 (by decide) ?_
      exact x_pick [1, 2, 0] rfl h)
  refine x_iconst (pc := 0) C dX0_fillStrict_0 ?_
  refine x_istore_n (pc := 1) (i := 1) (ls' := [(1, .int (iI 0)), (0, .ref (g_h G))]) C dX0_fillStrict_1 rfl (by decide) rfl ?_
  exact x_pick [1, 0] rfl h
theorem mt_X0_fillStrict (G : gG) (σ : gS) (post : gS → Prop) (h : Ok_X0_fillStrict  σ post) : gMetV G yX0_fillStrict (ws_ yX0_fillStrict cX0_fillStrict 3 none) 2 (XW G) [] σ post :=
  gMetV.ofW (own := RX0) (by decide +kernel) rfl (Nat.le_of_ble_eq_true rfl) rfl (fun X C hret => wk_X0_fillStrict G X C  σ post hret h)
end
section
set_option maxRecDepth 100000
set_option maxHeartbeats 4000000 in
theorem wk_X0_openAll (G : gG) (X : gX) (C : gC G X cX0_openAll 2 RX0 0) (σ : gS) (post : gS → Prop) (hret : ∀ (u : gS) (pc : Nat) (ls : List (Nat × Value)), decode cX0_openAll pc = .ok (.return_, 1) → post u → gAt G X (XW G) 2 pc ls [] u) (h : Ok_X0_openAll  σ post) : gAt G X (XW G) 2 0 [(0, .ref (g_h G))] [] σ := by
  have h := h (fun (x1 : Int) (σ : gS) => gAt G X (XW G) 2 2 [(0, .ref (g_h G)), (1, .int (iI x1))] [] σ)
  have h := h (by
    intro x1 σ h
    refine x_iload_n (pc := 2) (i := 1) C dX0_openAll_2 rfl 1 rfl ?_
    refine x_bipush (pc := 3) C dX0_openAll_3 (by decide) ?_
    obtain ⟨o1, h⟩ := h
    refine x_icmp_ge (pc := 5) C 21 dX0_openAll_5 (by decide) o1 (by decide) (fun hc => ?_) (fun hc => ?_)
    · have h := h.1 hc
      exact hret _ _ _ dX0_openAll_21 h
    · have h := h.2 hc
      refine x_aload_n (pc := 8) (i := 0) C dX0_openAll_8 rfl 0 rfl ?_
      refine xg_7 (pc := 9) C dX0_openAll_9 ?_
      refine x_iload_n (pc := 12) (i := 1) C dX0_openAll_12 rfl 1 rfl ?_
      refine x_iconst (pc := 13) C dX0_openAll_13 ?_
      obtain ⟨o2, h⟩ := h
      refine xs_7 (pc := 14) C dX0_openAll_14 o2 ?_
      refine x_iinc (pc := 15) (ls' := [(1, .int (iI (x1 + 1))), (0, .ref (g_h G))]) C dX0_openAll_15 1 rfl (by decide) rfl ?_
      refine x_goto (pc := 18) C 2 dX0_openAll_18 (by decide) ?_
      exact x_pick [1, 0] rfl h)
  refine x_iconst (pc := 0) C dX0_openAll_0 ?_
  refine x_istore_n (pc := 1) (i := 1) (ls' := [(1, .int (iI 0)), (0, .ref (g_h G))]) C dX0_openAll_1 rfl (by decide) rfl ?_
  exact x_pick [1, 0] rfl h
theorem mt_X0_openAll (G : gG) (σ : gS) (post : gS → Prop) (h : Ok_X0_openAll  σ post) : gMetV G yX0_openAll (ws_ yX0_openAll cX0_openAll 2 none) 0 (XW G) [] σ post :=
  gMetV.ofW (own := RX0) (by decide +kernel) rfl (Nat.le_of_ble_eq_true rfl) rfl (fun X C hret => wk_X0_openAll G X C  σ post hret h)
set_option maxHeartbeats 4000000 in
theorem wk_X0_strictWeight (G : gG) (X : gX) (C : gC G X cX0_strictWeight 3 RX0 0) (σ : gS) (post : Int → gS → Prop) (hret : ∀ (z : Int) (u : gS) (pc : Nat) (ls : List (Nat × Value)), decode cX0_strictWeight pc = .ok (.ireturn, 1) → (True) → post z u → gAt G X (XW G) 3 pc ls [.int (iI z)] u) (h : Ok_X0_strictWeight  σ post) : gAt G X (XW G) 3 0 [(0, .ref (g_h G))] [] σ := by
  have h := h (fun (x1 x2 : Int) (σ : gS) => gAt G X (XW G) 3 4 [(0, .ref (g_h G)), (1, .int (iI x1)), (2, .int (iI x2))] [] σ)
  have h := h (by
    intro x1 x2 σ h
    refine x_iload_n (pc := 4) (i := 2) C dX0_strictWeight_4 rfl 2 rfl ?_
    refine x_aload_n (pc := 5) (i := 0) C dX0_strictWeight_5 rfl 0 rfl ?_
    refine xg_10 (pc := 6) C dX0_strictWeight_6 ?_
    obtain ⟨o1, o2, h⟩ := h
    refine x_icmp_gt (pc := 9) C 39 dX0_strictWeight_9 (by decide) o1 o2 (fun hc => ?_) (fun hc => ?_)
    · have h := h.1 hc
      refine x_iload_n (pc := 39) (i := 1) C dX0_strictWeight_39 rfl 1 rfl ?_
      exact hret _ _ _ _ dX0_strictWeight_40 trivial h
    · have h := h.2 hc
      refine x_aload_n (pc := 12) (i := 0) C dX0_strictWeight_12 rfl 0 rfl ?_
      refine xg_6 (pc := 13) C dX0_strictWeight_13 ?_
      refine x_iload_n (pc := 16) (i := 2) C dX0_strictWeight_16 rfl 2 rfl ?_
      obtain ⟨o3, h⟩ := h
      refine xl_6 (pc := 17) C dX0_strictWeight_17 o3 ?_
      refine x_aload_n (pc := 18) (i := 0) C dX0_strictWeight_18 rfl 0 rfl ?_
      refine xg_6 (pc := 19) C dX0_strictWeight_19 ?_
      refine x_iload_n (pc := 22) (i := 1) C dX0_strictWeight_22 rfl 1 rfl ?_
      obtain ⟨o4, h⟩ := h
      refine xl_6 (pc := 23) C dX0_strictWeight_23 o4 ?_
      obtain ⟨o5, o6, h⟩ := h
      refine x_icmp_le (pc := 24) C 31 dX0_strictWeight_24 (by decide) o5 o6 (fun hc => ?_) (fun hc => ?_)
      · have h := h.1 hc
        refine x_iload_n (pc := 31) (i := 1) C dX0_strictWeight_31 rfl 1 rfl ?_
        refine x_istore_n (pc := 32) (i := 1) (ls' := [(1, .int (iI x1)), (0, .ref (g_h G)), (2, .int (iI x2))]) C dX0_strictWeight_32 rfl (by decide) rfl ?_
        refine x_iinc (pc := 33) (ls' := [(2, .int (iI (x2 + 1))), (1, .int (iI x1)), (0, .ref (g_h G))]) C dX0_strictWeight_33 2 rfl (by decide) rfl ?_
        refine x_goto (pc := 36) C 4 dX0_strictWeight_36 (by decide) ?_
        exact x_pick [2, 1, 0] rfl h
      · have h := h.2 hc
        refine x_iload_n (pc := 27) (i := 2) C dX0_strictWeight_27 rfl 2 rfl ?_
        refine x_goto (pc := 28) C 32 dX0_strictWeight_28 (by decide) ?_
        refine x_istore_n (pc := 32) (i := 1) (ls' := [(1, .int (iI x2)), (0, .ref (g_h G)), (2, .int (iI x2))]) C dX0_strictWeight_32 rfl (by decide) rfl ?_
        refine x_iinc (pc := 33) (ls' := [(2, .int (iI (x2 + 1))), (1, .int (iI x2)), (0, .ref (g_h G))]) C dX0_strictWeight_33 2 rfl (by decide) rfl ?_
        refine x_goto (pc := 36) C 4 dX0_strictWeight_36 (by decide) ?_
        exact x_pick [2, 1, 0] rfl h)
  refine x_iconst (pc := 0) C dX0_strictWeight_0 ?_
  refine x_istore_n (pc := 1) (i := 1) (ls' := [(1, .int (iI 0)), (0, .ref (g_h G))]) C dX0_strictWeight_1 rfl (by decide) rfl ?_
  refine x_iconst (pc := 2) C dX0_strictWeight_2 ?_
  refine x_istore_n (pc := 3) (i := 2) (ls' := [(2, .int (iI 1)), (1, .int (iI 0)), (0, .ref (g_h G))]) C dX0_strictWeight_3 rfl (by decide) rfl ?_
  exact x_pick [2, 1, 0] rfl h
theorem mt_X0_strictWeight (G : gG) (σ : gS) (post : Int → gS → Prop) (h : Ok_X0_strictWeight  σ post) : gMetI G yX0_strictWeight (ws_ yX0_strictWeight cX0_strictWeight 3 (some .int)) 0 (XW G) [] σ post :=
  gMetI.ofW (own := RX0) (by decide +kernel) rfl (Nat.le_of_ble_eq_true rfl) rfl (fun _ => True) (fun z _ => vp_nar_int (iI z)) (fun X C hret => wk_X0_strictWeight G X C  σ post hret h)
set_option maxHeartbeats 4000000 in
theorem wk_X0_bestStrict (G : gG) (X : gX) (C : gC G X cX0_bestStrict 1 RX0 3) (σ : gS) (post : Int → gS → Prop) (hret : ∀ (z : Int) (u : gS) (pc : Nat) (ls : List (Nat × Value)), decode cX0_bestStrict pc = .ok (.ireturn, 1) → (True) → post z u → gAt G X (XW G) 1 pc ls [.int (iI z)] u) (h : Ok_X0_bestStrict  σ post) : gAt G X (XW G) 1 0 [(0, .ref (g_h G))] [] σ := by
  unfold Ok_X0_bestStrict at h
  refine x_aload_n (pc := 0) (i := 0) C dX0_bestStrict_0 rfl 0 rfl ?_
  refine x_callv (pc := 1) (n := 0) (As := []) (st := []) C (mt_X0_openAll G  σ _ h) (lw_V q137 q139 qs7 q23 q140) (by decide +kernel) ⟨by decide, by decide⟩ rfl rfl rfl rfl (Nat.le_of_ble_eq_true rfl) dX0_bestStrict_1 (fun s1 h => ?_)
  refine x_aload_n (pc := 4) (i := 0) C dX0_bestStrict_4 rfl 0 rfl ?_
  refine x_callv (pc := 5) (n := 0) (As := []) (st := []) C (mt_X0_fillStrict G  s1 _ h) (lw_V q141 q143 qs8 q23 q144) (by decide +kernel) ⟨by decide, by decide⟩ rfl rfl rfl rfl (Nat.le_of_ble_eq_true rfl) dX0_bestStrict_5 (fun s5 h => ?_)
  refine x_aload_n (pc := 8) (i := 0) C dX0_bestStrict_8 rfl 0 rfl ?_
  refine xg_6 (pc := 9) C dX0_bestStrict_9 ?_
  refine x_aload_n (pc := 12) (i := 0) C dX0_bestStrict_12 rfl 0 rfl ?_
  refine x_calli (pc := 13) (n := 0) (As := []) (st := [.ref (g_ad G 6)]) C (mt_X0_strictWeight G  s5 _ h) (lw_V q153 q155 qs11 q23 q156) (by decide +kernel) ⟨by decide, by decide⟩ rfl rfl rfl rfl (Nat.le_of_ble_eq_true rfl) dX0_bestStrict_13 (fun r13 s13 h => ?_)
  obtain ⟨o1, h⟩ := h
  refine xl_6 (pc := 16) C dX0_bestStrict_16 o1 ?_
  exact hret _ _ _ _ dX0_bestStrict_17 trivial h
theorem mt_X0_bestStrict (G : gG) (σ : gS) (post : Int → gS → Prop) (h : Ok_X0_bestStrict  σ post) : gMetI G yX0_bestStrict (ws_ yX0_bestStrict cX0_bestStrict 1 (some .int)) 3 (XW G) [] σ post :=
  gMetI.ofW (own := RX0) (by decide +kernel) rfl (Nat.le_of_ble_eq_true rfl) rfl (fun _ => True) (fun z _ => vp_nar_int (iI z)) (fun X C hret => wk_X0_bestStrict G X C  σ post hret h)
set_option maxHeartbeats 4000000 in
theorem wk_X0_bestStrictCode (G : gG) (X : gX) (C : gC G X cX0_bestStrictCode 6 RX0 3) (σ : gS) (post : Int → gS → Prop) (hret : ∀ (z : Int) (u : gS) (pc : Nat) (ls : List (Nat × Value)), decode cX0_bestStrictCode pc = .ok (.ireturn, 1) → (True) → post z u → gAt G X (XW G) 6 pc ls [.int (iI z)] u) (h : Ok_X0_bestStrictCode  σ post) : gAt G X (XW G) 6 0 [(0, .ref (g_h G))] [] σ := by
  have h := h (fun (x1 x2 x3 x4 : Int) (σ : gS) => gAt G X (XW G) 6 25 [(0, .ref (g_h G)), (1, .int (iI x1)), (2, .int (iI x2)), (3, .int (iI x3)), (4, .int (iI x4))] [] σ) (fun (x1 x2 x3 x4 x5 : Int) (σ : gS) => gAt G X (XW G) 6 37 [(0, .ref (g_h G)), (1, .int (iI x1)), (2, .int (iI x2)), (3, .int (iI x3)), (4, .int (iI x4)), (5, .int (iI x5))] [] σ)
  have h := h (by
    intro x1 x2 x3 x4 σ h
    refine x_iload (pc := 25) C dX0_bestStrictCode_25 4 rfl ?_
    refine x_aload_n (pc := 27) (i := 0) C dX0_bestStrictCode_27 rfl 0 rfl ?_
    refine xg_9 (pc := 28) C dX0_bestStrictCode_28 ?_
    obtain ⟨o1, o2, h⟩ := h
    refine x_icmp_ge (pc := 31) C 103 dX0_bestStrictCode_31 (by decide) o1 o2 (fun hc => ?_) (fun hc => ?_)
    · have h := h.1 hc
      refine x_iload_n (pc := 103) (i := 3) C dX0_bestStrictCode_103 rfl 3 rfl ?_
      exact hret _ _ _ _ dX0_bestStrictCode_104 trivial h
    · have h := h.2 hc
      refine x_iconst (pc := 34) C dX0_bestStrictCode_34 ?_
      refine x_istore (pc := 35) (ls' := [(5, .int (iI 0)), (0, .ref (g_h G)), (1, .int (iI x1)), (2, .int (iI x2)), (3, .int (iI x3)), (4, .int (iI x4))]) C dX0_bestStrictCode_35 (by decide) rfl ?_
      exact x_pick [1, 2, 3, 4, 5, 0] rfl h)
  have h := h (by
    intro x1 x2 x3 x4 x5 σ h
    refine x_iload (pc := 37) C dX0_bestStrictCode_37 5 rfl ?_
    refine x_aload_n (pc := 39) (i := 0) C dX0_bestStrictCode_39 rfl 0 rfl ?_
    refine xg_2 (pc := 40) C dX0_bestStrictCode_40 ?_
    refine x_iload (pc := 43) C dX0_bestStrictCode_43 4 rfl ?_
    obtain ⟨o1, h⟩ := h
    refine xl_2 (pc := 45) C dX0_bestStrictCode_45 o1 ?_
    obtain ⟨o2, o3, h⟩ := h
    refine x_icmp_ge (pc := 46) C 81 dX0_bestStrictCode_46 (by decide) o2 o3 (fun hc => ?_) (fun hc => ?_)
    · have h := h.1 hc
      refine x_aload_n (pc := 81) (i := 0) C dX0_bestStrictCode_81 rfl 0 rfl ?_
      refine xg_7 (pc := 82) C dX0_bestStrictCode_82 ?_
      refine x_iload (pc := 85) C dX0_bestStrictCode_85 4 rfl ?_
      refine x_iload (pc := 87) C dX0_bestStrictCode_87 5 rfl ?_
      refine xs_7 (pc := 89) C dX0_bestStrictCode_89 o1 ?_
      refine x_iconst (pc := 90) C dX0_bestStrictCode_90 ?_
      refine x_iload_n (pc := 91) (i := 3) C dX0_bestStrictCode_91 rfl 3 rfl ?_
      refine x_imul (pc := 92) C dX0_bestStrictCode_92 ?_
      refine x_iload (pc := 93) C dX0_bestStrictCode_93 5 rfl ?_
      refine x_iadd (pc := 95) C dX0_bestStrictCode_95 ?_
      have h := h _ rfl
      refine x_istore_n (pc := 96) (i := 3) (ls' := [(3, .int (iI ((3 * x3) + x5))), (0, .ref (g_h G)), (1, .int (iI x1)), (2, .int (iI x2)), (4, .int (iI x4)), (5, .int (iI x5))]) C dX0_bestStrictCode_96 rfl (by decide) rfl ?_
      refine x_iinc (pc := 97) (ls' := [(4, .int (iI (x4 + 1))), (3, .int (iI ((3 * x3) + x5))), (0, .ref (g_h G)), (1, .int (iI x1)), (2, .int (iI x2)), (5, .int (iI x5))]) C dX0_bestStrictCode_97 4 rfl (by decide) rfl ?_
      refine x_goto (pc := 100) C 25 dX0_bestStrictCode_100 (by decide) ?_
      exact x_pick [2, 3, 4, 1, 0] rfl h
    · have h := h.2 hc
      refine x_aload_n (pc := 49) (i := 0) C dX0_bestStrictCode_49 rfl 0 rfl ?_
      refine xg_7 (pc := 50) C dX0_bestStrictCode_50 ?_
      refine x_iload (pc := 53) C dX0_bestStrictCode_53 4 rfl ?_
      refine x_iload (pc := 55) C dX0_bestStrictCode_55 5 rfl ?_
      refine xs_7 (pc := 57) C dX0_bestStrictCode_57 o1 ?_
      refine x_aload_n (pc := 58) (i := 0) C dX0_bestStrictCode_58 rfl 0 rfl ?_
      refine x_callv (pc := 59) (n := 0) (As := []) (st := []) C (mt_X0_fillStrict G  (sU σ 7 x4 x5) _ h) (lw_V q141 q143 qs8 q23 q144) (by decide +kernel) ⟨by decide, by decide⟩ rfl rfl rfl rfl (Nat.le_of_ble_eq_true rfl) dX0_bestStrictCode_59 (fun s59 h => ?_)
      refine x_aload_n (pc := 62) (i := 0) C dX0_bestStrictCode_62 rfl 0 rfl ?_
      refine xg_6 (pc := 63) C dX0_bestStrictCode_63 ?_
      refine x_iload_n (pc := 66) (i := 1) C dX0_bestStrictCode_66 rfl 1 rfl ?_
      obtain ⟨o4, h⟩ := h
      refine xl_6 (pc := 67) C dX0_bestStrictCode_67 o4 ?_
      refine x_iload_n (pc := 68) (i := 2) C dX0_bestStrictCode_68 rfl 2 rfl ?_
      obtain ⟨o5, o6, h⟩ := h
      refine x_icmp_ne (pc := 69) C 75 dX0_bestStrictCode_69 (by decide) o5 o6 (fun hc => ?_) (fun hc => ?_)
      · have h := h.1 hc
        refine x_iinc (pc := 75) (ls' := [(5, .int (iI (x5 + 1))), (0, .ref (g_h G)), (1, .int (iI x1)), (2, .int (iI x2)), (3, .int (iI x3)), (4, .int (iI x4))]) C dX0_bestStrictCode_75 5 rfl (by decide) rfl ?_
        refine x_goto (pc := 78) C 37 dX0_bestStrictCode_78 (by decide) ?_
        exact x_pick [1, 2, 3, 4, 5, 0] rfl h
      · have h := h.2 hc
        refine x_goto (pc := 72) C 81 dX0_bestStrictCode_72 (by decide) ?_
        refine x_aload_n (pc := 81) (i := 0) C dX0_bestStrictCode_81 rfl 0 rfl ?_
        refine xg_7 (pc := 82) C dX0_bestStrictCode_82 ?_
        refine x_iload (pc := 85) C dX0_bestStrictCode_85 4 rfl ?_
        refine x_iload (pc := 87) C dX0_bestStrictCode_87 5 rfl ?_
        refine xs_7 (pc := 89) C dX0_bestStrictCode_89 o1 ?_
        refine x_iconst (pc := 90) C dX0_bestStrictCode_90 ?_
        refine x_iload_n (pc := 91) (i := 3) C dX0_bestStrictCode_91 rfl 3 rfl ?_
        refine x_imul (pc := 92) C dX0_bestStrictCode_92 ?_
        refine x_iload (pc := 93) C dX0_bestStrictCode_93 5 rfl ?_
        refine x_iadd (pc := 95) C dX0_bestStrictCode_95 ?_
        have h := h _ rfl
        refine x_istore_n (pc := 96) (i := 3) (ls' := [(3, .int (iI ((3 * x3) + x5))), (0, .ref (g_h G)), (1, .int (iI x1)), (2, .int (iI x2)), (4, .int (iI x4)), (5, .int (iI x5))]) C dX0_bestStrictCode_96 rfl (by decide) rfl ?_
        refine x_iinc (pc := 97) (ls' := [(4, .int (iI (x4 + 1))), (3, .int (iI ((3 * x3) + x5))), (0, .ref (g_h G)), (1, .int (iI x1)), (2, .int (iI x2)), (5, .int (iI x5))]) C dX0_bestStrictCode_97 4 rfl (by decide) rfl ?_
        refine x_goto (pc := 100) C 25 dX0_bestStrictCode_100 (by decide) ?_
        exact x_pick [2, 3, 4, 1, 0] rfl h)
  refine x_aload_n (pc := 0) (i := 0) C dX0_bestStrictCode_0 rfl 0 rfl ?_
  refine x_callv (pc := 1) (n := 0) (As := []) (st := []) C (mt_X0_openAll G  σ _ h) (lw_V q137 q139 qs7 q23 q140) (by decide +kernel) ⟨by decide, by decide⟩ rfl rfl rfl rfl (Nat.le_of_ble_eq_true rfl) dX0_bestStrictCode_1 (fun s1 h => ?_)
  refine x_aload_n (pc := 4) (i := 0) C dX0_bestStrictCode_4 rfl 0 rfl ?_
  refine x_callv (pc := 5) (n := 0) (As := []) (st := []) C (mt_X0_fillStrict G  s1 _ h) (lw_V q141 q143 qs8 q23 q144) (by decide +kernel) ⟨by decide, by decide⟩ rfl rfl rfl rfl (Nat.le_of_ble_eq_true rfl) dX0_bestStrictCode_5 (fun s5 h => ?_)
  refine x_aload_n (pc := 8) (i := 0) C dX0_bestStrictCode_8 rfl 0 rfl ?_
  refine x_calli (pc := 9) (n := 0) (As := []) (st := []) C (mt_X0_strictWeight G  s5 _ h) (lw_V q153 q155 qs11 q23 q156) (by decide +kernel) ⟨by decide, by decide⟩ rfl rfl rfl rfl (Nat.le_of_ble_eq_true rfl) dX0_bestStrictCode_9 (fun r9 s9 h => ?_)
  refine x_istore_n (pc := 12) (i := 1) (ls' := [(1, .int (iI r9)), (0, .ref (g_h G))]) C dX0_bestStrictCode_12 rfl (by decide) rfl ?_
  refine x_aload_n (pc := 13) (i := 0) C dX0_bestStrictCode_13 rfl 1 rfl ?_
  refine xg_6 (pc := 14) C dX0_bestStrictCode_14 ?_
  refine x_iload_n (pc := 17) (i := 1) C dX0_bestStrictCode_17 rfl 0 rfl ?_
  obtain ⟨o1, h⟩ := h
  refine xl_6 (pc := 18) C dX0_bestStrictCode_18 o1 ?_
  have h := h _ rfl
  refine x_istore_n (pc := 19) (i := 2) (ls' := [(2, .int (iI (s9 6 r9))), (1, .int (iI r9)), (0, .ref (g_h G))]) C dX0_bestStrictCode_19 rfl (by decide) rfl ?_
  refine x_iconst (pc := 20) C dX0_bestStrictCode_20 ?_
  refine x_istore_n (pc := 21) (i := 3) (ls' := [(3, .int (iI 0)), (2, .int (iI (s9 6 r9))), (1, .int (iI r9)), (0, .ref (g_h G))]) C dX0_bestStrictCode_21 rfl (by decide) rfl ?_
  refine x_iconst (pc := 22) C dX0_bestStrictCode_22 ?_
  refine x_istore (pc := 23) (ls' := [(4, .int (iI 0)), (3, .int (iI 0)), (2, .int (iI (s9 6 r9))), (1, .int (iI r9)), (0, .ref (g_h G))]) C dX0_bestStrictCode_23 (by decide) rfl ?_
  exact x_pick [4, 3, 2, 1, 0] rfl h
theorem mt_X0_bestStrictCode (G : gG) (σ : gS) (post : Int → gS → Prop) (h : Ok_X0_bestStrictCode  σ post) : gMetI G yX0_bestStrictCode (ws_ yX0_bestStrictCode cX0_bestStrictCode 6 (some .int)) 3 (XW G) [] σ post :=
  gMetI.ofW (own := RX0) (by decide +kernel) rfl (Nat.le_of_ble_eq_true rfl) rfl (fun _ => True) (fun z _ => vp_nar_int (iI z)) (fun X C hret => wk_X0_bestStrictCode G X C  σ post hret h)
set_option maxHeartbeats 4000000 in
theorem wk_X0_fitting (G : gG) (X : gX) (C : gC G X cX0_fitting 3 RX0 2) (σ : gS) (post : Int → gS → Prop) (hret : ∀ (z : Int) (u : gS) (pc : Nat) (ls : List (Nat × Value)), decode cX0_fitting pc = .ok (.ireturn, 1) → (True) → post z u → gAt G X (XW G) 3 pc ls [.int (iI z)] u) (h : Ok_X0_fitting  σ post) : gAt G X (XW G) 3 0 [(0, .ref (g_h G))] [] σ := by
  have h := h (fun (x1 x2 : Int) (σ : gS) => gAt G X (XW G) 3 9 [(0, .ref (g_h G)), (1, .int (iI x1)), (2, .int (iI x2))] [] σ)
  have h := h (by
    intro x1 x2 σ h
    refine x_iload_n (pc := 9) (i := 2) C dX0_fitting_9 rfl 2 rfl ?_
    refine x_aload_n (pc := 10) (i := 0) C dX0_fitting_10 rfl 0 rfl ?_
    refine xg_10 (pc := 11) C dX0_fitting_11 ?_
    obtain ⟨o1, o2, h⟩ := h
    refine x_icmp_gt (pc := 14) C 32 dX0_fitting_14 (by decide) o1 o2 (fun hc => ?_) (fun hc => ?_)
    · have h := h.1 hc
      refine x_iload_n (pc := 32) (i := 1) C dX0_fitting_32 rfl 1 rfl ?_
      exact hret _ _ _ _ dX0_fitting_33 trivial h
    · have h := h.2 hc
      refine x_iload_n (pc := 17) (i := 1) C dX0_fitting_17 rfl 1 rfl ?_
      refine x_aload_n (pc := 18) (i := 0) C dX0_fitting_18 rfl 0 rfl ?_
      refine xg_5 (pc := 19) C dX0_fitting_19 ?_
      refine x_iload_n (pc := 22) (i := 2) C dX0_fitting_22 rfl 2 rfl ?_
      obtain ⟨o3, h⟩ := h
      refine xl_5 (pc := 23) C dX0_fitting_23 o3 ?_
      refine x_iadd (pc := 24) C dX0_fitting_24 ?_
      have h := h _ rfl
      refine x_istore_n (pc := 25) (i := 1) (ls' := [(1, .int (iI (x1 + (σ 5 x2)))), (0, .ref (g_h G)), (2, .int (iI x2))]) C dX0_fitting_25 rfl (by decide) rfl ?_
      refine x_iinc (pc := 26) (ls' := [(2, .int (iI (x2 + 1))), (1, .int (iI (x1 + (σ 5 x2)))), (0, .ref (g_h G))]) C dX0_fitting_26 2 rfl (by decide) rfl ?_
      refine x_goto (pc := 29) C 9 dX0_fitting_29 (by decide) ?_
      exact x_pick [2, 1, 0] rfl h)
  refine x_aload_n (pc := 0) (i := 0) C dX0_fitting_0 rfl 0 rfl ?_
  refine x_iconst (pc := 1) C dX0_fitting_1 ?_
  refine x_callv (pc := 2) (n := 1) (As := [.int (iI (-1))]) (st := []) C (mt_X0_fill G (-1) σ _ h) (lw_V q112 q114 qs3 q23 q115) (by decide +kernel) ⟨by decide, by decide⟩ rfl rfl rfl rfl (Nat.le_of_ble_eq_true rfl) dX0_fitting_2 (fun s2 h => ?_)
  refine x_iconst (pc := 5) C dX0_fitting_5 ?_
  refine x_istore_n (pc := 6) (i := 1) (ls' := [(1, .int (iI 0)), (0, .ref (g_h G))]) C dX0_fitting_6 rfl (by decide) rfl ?_
  refine x_iconst (pc := 7) C dX0_fitting_7 ?_
  refine x_istore_n (pc := 8) (i := 2) (ls' := [(2, .int (iI 0)), (1, .int (iI 0)), (0, .ref (g_h G))]) C dX0_fitting_8 rfl (by decide) rfl ?_
  exact x_pick [2, 1, 0] rfl h
theorem mt_X0_fitting (G : gG) (σ : gS) (post : Int → gS → Prop) (h : Ok_X0_fitting  σ post) : gMetI G yX0_fitting (ws_ yX0_fitting cX0_fitting 3 (some .int)) 2 (XW G) [] σ post :=
  gMetI.ofW (own := RX0) (by decide +kernel) rfl (Nat.le_of_ble_eq_true rfl) rfl (fun _ => True) (fun z _ => vp_nar_int (iI z)) (fun X C hret => wk_X0_fitting G X C  σ post hret h)
set_option maxHeartbeats 4000000 in
theorem wk_X0_weighing (G : gG) (X : gX) (C : gC G X cX0_weighing 2 RX0 2) (a1 : Int) (σ : gS) (post : Int → gS → Prop) (hret : ∀ (z : Int) (u : gS) (pc : Nat) (ls : List (Nat × Value)), decode cX0_weighing pc = .ok (.ireturn, 1) → (True) → post z u → gAt G X (XW G) 2 pc ls [.int (iI z)] u) (h : Ok_X0_weighing a1 σ post) : gAt G X (XW G) 2 0 [(0, .ref (g_h G)), (1, .int (iI a1))] [] σ := by
  unfold Ok_X0_weighing at h
  refine x_iload_n (pc := 0) (i := 1) C dX0_weighing_0 rfl 1 rfl ?_
  obtain ⟨o1, h⟩ := h
  refine x_if_lt (pc := 1) C 11 dX0_weighing_1 (by decide) o1 (fun hc => ?_) (fun hc => ?_)
  · have h := h.1 hc
    refine x_iconst (pc := 11) C dX0_weighing_11 ?_
    exact hret _ _ _ _ dX0_weighing_12 trivial h
  · have h := h.2 hc
    refine x_iload_n (pc := 4) (i := 1) C dX0_weighing_4 rfl 1 rfl ?_
    refine x_sipush (pc := 5) C dX0_weighing_5 (by decide) ?_
    refine x_icmp_le (pc := 8) C 13 dX0_weighing_8 (by decide) o1 (by decide) (fun hc => ?_) (fun hc => ?_)
    · have h := h.1 hc
      refine x_aload_n (pc := 13) (i := 0) C dX0_weighing_13 rfl 0 rfl ?_
      refine x_iconst (pc := 14) C dX0_weighing_14 ?_
      refine x_callv (pc := 15) (n := 1) (As := [.int (iI (-1))]) (st := []) C (mt_X0_fill G (-1) σ _ h) (lw_V q112 q114 qs3 q23 q115) (by decide +kernel) ⟨by decide, by decide⟩ rfl rfl rfl rfl (Nat.le_of_ble_eq_true rfl) dX0_weighing_15 (fun s15 h => ?_)
      refine x_iload_n (pc := 18) (i := 1) C dX0_weighing_18 rfl 1 rfl ?_
      refine x_sipush (pc := 19) C dX0_weighing_19 (by decide) ?_
      refine x_icmp_gt (pc := 22) C 34 dX0_weighing_22 (by decide) o1 (by decide) (fun hc => ?_) (fun hc => ?_)
      · have h := h.1 hc
        refine x_iconst (pc := 34) C dX0_weighing_34 ?_
        exact hret _ _ _ _ dX0_weighing_35 trivial h
      · have h := h.2 hc
        refine x_aload_n (pc := 25) (i := 0) C dX0_weighing_25 rfl 0 rfl ?_
        refine xg_5 (pc := 26) C dX0_weighing_26 ?_
        refine x_iload_n (pc := 29) (i := 1) C dX0_weighing_29 rfl 1 rfl ?_
        obtain ⟨o2, h⟩ := h
        refine xl_5 (pc := 30) C dX0_weighing_30 o2 ?_
        refine x_goto (pc := 31) C 35 dX0_weighing_31 (by decide) ?_
        exact hret _ _ _ _ dX0_weighing_35 trivial h
    · have h := h.2 hc
      refine x_iconst (pc := 11) C dX0_weighing_11 ?_
      exact hret _ _ _ _ dX0_weighing_12 trivial h
theorem mt_X0_weighing (G : gG) (a1 : Int) (σ : gS) (post : Int → gS → Prop) (h : Ok_X0_weighing a1 σ post) : gMetI G yX0_weighing (ws_ yX0_weighing cX0_weighing 2 (some .int)) 2 (XW G) [.int (iI a1)] σ post :=
  gMetI.ofW (own := RX0) (by decide +kernel) rfl (Nat.le_of_ble_eq_true rfl) rfl (fun _ => True) (fun z _ => vp_nar_int (iI z)) (fun X C hret => wk_X0_weighing G X C a1 σ post hret h)
set_option maxHeartbeats 4000000 in
theorem wk_X0_fullest (G : gG) (X : gX) (C : gC G X cX0_fullest 2 RX0 2) (σ : gS) (post : Int → gS → Prop) (hret : ∀ (z : Int) (u : gS) (pc : Nat) (ls : List (Nat × Value)), decode cX0_fullest pc = .ok (.ireturn, 1) → (True) → post z u → gAt G X (XW G) 2 pc ls [.int (iI z)] u) (h : Ok_X0_fullest  σ post) : gAt G X (XW G) 2 0 [(0, .ref (g_h G))] [] σ := by
  have h := h (fun (x1 : Int) (σ : gS) => gAt G X (XW G) 2 10 [(0, .ref (g_h G)), (1, .int (iI x1))] [] σ)
  have h := h (by
    intro x1 σ h
    refine x_iload_n (pc := 10) (i := 1) C dX0_fullest_10 rfl 1 rfl ?_
    obtain ⟨o1, h⟩ := h
    refine x_if_le (pc := 11) C 29 dX0_fullest_11 (by decide) o1 (fun hc => ?_) (fun hc => ?_)
    · have h := h.1 hc
      refine x_iload_n (pc := 29) (i := 1) C dX0_fullest_29 rfl 1 rfl ?_
      exact hret _ _ _ _ dX0_fullest_30 trivial h
    · have h := h.2 hc
      refine x_aload_n (pc := 14) (i := 0) C dX0_fullest_14 rfl 0 rfl ?_
      refine xg_5 (pc := 15) C dX0_fullest_15 ?_
      refine x_iload_n (pc := 18) (i := 1) C dX0_fullest_18 rfl 1 rfl ?_
      obtain ⟨o2, h⟩ := h
      refine xl_5 (pc := 19) C dX0_fullest_19 o2 ?_
      obtain ⟨o3, h⟩ := h
      refine x_if_ne (pc := 20) C 29 dX0_fullest_20 (by decide) o3 (fun hc => ?_) (fun hc => ?_)
      · have h := h.1 hc
        refine x_iload_n (pc := 29) (i := 1) C dX0_fullest_29 rfl 1 rfl ?_
        exact hret _ _ _ _ dX0_fullest_30 trivial h
      · have h := h.2 hc
        refine x_iinc (pc := 23) (ls' := [(1, .int (iI (x1 + (-1)))), (0, .ref (g_h G))]) C dX0_fullest_23 1 rfl (by decide) rfl ?_
        refine x_goto (pc := 26) C 10 dX0_fullest_26 (by decide) ?_
        exact x_pick [1, 0] rfl h)
  refine x_aload_n (pc := 0) (i := 0) C dX0_fullest_0 rfl 0 rfl ?_
  refine x_iconst (pc := 1) C dX0_fullest_1 ?_
  refine x_callv (pc := 2) (n := 1) (As := [.int (iI (-1))]) (st := []) C (mt_X0_fill G (-1) σ _ h) (lw_V q112 q114 qs3 q23 q115) (by decide +kernel) ⟨by decide, by decide⟩ rfl rfl rfl rfl (Nat.le_of_ble_eq_true rfl) dX0_fullest_2 (fun s2 h => ?_)
  refine x_aload_n (pc := 5) (i := 0) C dX0_fullest_5 rfl 0 rfl ?_
  refine xg_10 (pc := 6) C dX0_fullest_6 ?_
  have h := h _ rfl
  refine x_istore_n (pc := 9) (i := 1) (ls' := [(1, .int (iI (s2 10 0))), (0, .ref (g_h G))]) C dX0_fullest_9 rfl (by decide) rfl ?_
  exact x_pick [1, 0] rfl h
theorem mt_X0_fullest (G : gG) (σ : gS) (post : Int → gS → Prop) (h : Ok_X0_fullest  σ post) : gMetI G yX0_fullest (ws_ yX0_fullest cX0_fullest 2 (some .int)) 2 (XW G) [] σ post :=
  gMetI.ofW (own := RX0) (by decide +kernel) rfl (Nat.le_of_ble_eq_true rfl) rfl (fun _ => True) (fun z _ => vp_nar_int (iI z)) (fun X C hret => wk_X0_fullest G X C  σ post hret h)
set_option maxHeartbeats 4000000 in
theorem wk_X0_lightest (G : gG) (X : gX) (C : gC G X cX0_lightest 3 RX0 2) (a1 : Int) (σ : gS) (post : Int → gS → Prop) (hret : ∀ (z : Int) (u : gS) (pc : Nat) (ls : List (Nat × Value)), decode cX0_lightest pc = .ok (.ireturn, 1) → (True) → post z u → gAt G X (XW G) 3 pc ls [.int (iI z)] u) (h : Ok_X0_lightest a1 σ post) : gAt G X (XW G) 3 0 [(0, .ref (g_h G)), (1, .int (iI a1))] [] σ := by
  have h := h (fun (x2 : Int) (σ : gS) => gAt G X (XW G) 3 7 [(0, .ref (g_h G)), (1, .int (iI a1)), (2, .int (iI x2))] [] σ)
  have h := h (by
    intro x2 σ h
    refine x_iload_n (pc := 7) (i := 2) C dX0_lightest_7 rfl 2 rfl ?_
    refine x_sipush (pc := 8) C dX0_lightest_8 (by decide) ?_
    obtain ⟨o1, h⟩ := h
    refine x_icmp_gt (pc := 11) C 41 dX0_lightest_11 (by decide) o1 (by decide) (fun hc => ?_) (fun hc => ?_)
    · have h := h.1 hc
      refine x_iconst (pc := 41) C dX0_lightest_41 ?_
      exact hret _ _ _ _ dX0_lightest_42 trivial h
    · have h := h.2 hc
      refine x_aload_n (pc := 14) (i := 0) C dX0_lightest_14 rfl 0 rfl ?_
      refine xg_4 (pc := 15) C dX0_lightest_15 ?_
      refine x_iload_n (pc := 18) (i := 2) C dX0_lightest_18 rfl 2 rfl ?_
      obtain ⟨o2, h⟩ := h
      refine xl_4 (pc := 19) C dX0_lightest_19 o2 ?_
      obtain ⟨o3, h⟩ := h
      refine x_if_lt (pc := 20) C 35 dX0_lightest_20 (by decide) o3 (fun hc => ?_) (fun hc => ?_)
      · have h := h.1 hc
        refine x_iinc (pc := 35) (ls' := [(2, .int (iI (x2 + 1))), (0, .ref (g_h G)), (1, .int (iI a1))]) C dX0_lightest_35 2 rfl (by decide) rfl ?_
        refine x_goto (pc := 38) C 7 dX0_lightest_38 (by decide) ?_
        exact x_pick [1, 2, 0] rfl h
      · have h := h.2 hc
        refine x_aload_n (pc := 23) (i := 0) C dX0_lightest_23 rfl 0 rfl ?_
        refine xg_4 (pc := 24) C dX0_lightest_24 ?_
        refine x_iload_n (pc := 27) (i := 2) C dX0_lightest_27 rfl 2 rfl ?_
        refine xl_4 (pc := 28) C dX0_lightest_28 o2 ?_
        refine x_iload_n (pc := 29) (i := 1) C dX0_lightest_29 rfl 1 rfl ?_
        obtain ⟨o4, h⟩ := h
        refine x_icmp_lt (pc := 30) C 35 dX0_lightest_30 (by decide) o3 o4 (fun hc => ?_) (fun hc => ?_)
        · have h := h.1 hc
          refine x_iinc (pc := 35) (ls' := [(2, .int (iI (x2 + 1))), (0, .ref (g_h G)), (1, .int (iI a1))]) C dX0_lightest_35 2 rfl (by decide) rfl ?_
          refine x_goto (pc := 38) C 7 dX0_lightest_38 (by decide) ?_
          exact x_pick [1, 2, 0] rfl h
        · have h := h.2 hc
          refine x_iload_n (pc := 33) (i := 2) C dX0_lightest_33 rfl 2 rfl ?_
          exact hret _ _ _ _ dX0_lightest_34 trivial h)
  refine x_aload_n (pc := 0) (i := 0) C dX0_lightest_0 rfl 0 rfl ?_
  refine x_iconst (pc := 1) C dX0_lightest_1 ?_
  refine x_callv (pc := 2) (n := 1) (As := [.int (iI (-1))]) (st := []) C (mt_X0_fill G (-1) σ _ h) (lw_V q112 q114 qs3 q23 q115) (by decide +kernel) ⟨by decide, by decide⟩ rfl rfl rfl rfl (Nat.le_of_ble_eq_true rfl) dX0_lightest_2 (fun s2 h => ?_)
  refine x_iconst (pc := 5) C dX0_lightest_5 ?_
  refine x_istore_n (pc := 6) (i := 2) (ls' := [(2, .int (iI 0)), (0, .ref (g_h G)), (1, .int (iI a1))]) C dX0_lightest_6 rfl (by decide) rfl ?_
  exact x_pick [1, 2, 0] rfl h
theorem mt_X0_lightest (G : gG) (a1 : Int) (σ : gS) (post : Int → gS → Prop) (h : Ok_X0_lightest a1 σ post) : gMetI G yX0_lightest (ws_ yX0_lightest cX0_lightest 3 (some .int)) 2 (XW G) [.int (iI a1)] σ post :=
  gMetI.ofW (own := RX0) (by decide +kernel) rfl (Nat.le_of_ble_eq_true rfl) rfl (fun _ => True) (fun z _ => vp_nar_int (iI z)) (fun X C hret => wk_X0_lightest G X C a1 σ post hret h)
set_option maxHeartbeats 4000000 in
theorem wk_X0_placePiece (G : gG) (X : gX) (C : gC G X cX0_placePiece 6 RX0 0) (a1 a2 : Int) (σ : gS) (post : gS → Prop) (hret : ∀ (u : gS) (pc : Nat) (ls : List (Nat × Value)), decode cX0_placePiece pc = .ok (.return_, 1) → post u → gAt G X (XW G) 6 pc ls [] u) (h : Ok_X0_placePiece a1 a2 σ post) : gAt G X (XW G) 6 0 [(0, .ref (g_h G)), (1, .int (iI a1)), (2, .int (iI a2))] [] σ := by
  have h := h (fun (x3 : Int) (σ : gS) => gAt G X (XW G) 6 3 [(0, .ref (g_h G)), (1, .int (iI a1)), (2, .int (iI a2)), (3, .int (iI x3))] [] σ) (fun (x3 x4 : Int) (σ : gS) => gAt G X (XW G) 6 11 [(0, .ref (g_h G)), (1, .int (iI a1)), (2, .int (iI a2)), (3, .int (iI x3)), (4, .int (iI x4))] [] σ) (fun (x3 x4 x5 : Int) (σ : gS) => gAt G X (XW G) 6 74 [(0, .ref (g_h G)), (1, .int (iI a1)), (2, .int (iI a2)), (3, .int (iI x3)), (4, .int (iI x4)), (5, .int (iI x5))] [] σ)
  have h := h (by
    intro x3 σ h
    refine x_iload_n (pc := 3) (i := 3) C dX0_placePiece_3 rfl 3 rfl ?_
    obtain ⟨o1, h⟩ := h
    refine x_if_lt (pc := 4) C 145 dX0_placePiece_4 (by decide) o1 (fun hc => ?_) (fun hc => ?_)
    · have h := h.1 hc
      exact hret _ _ _ dX0_placePiece_145 h
    · have h := h.2 hc
      refine x_bipush (pc := 7) C dX0_placePiece_7 (by decide) ?_
      refine x_istore (pc := 9) (ls' := [(4, .int (iI 60)), (0, .ref (g_h G)), (1, .int (iI a1)), (2, .int (iI a2)), (3, .int (iI x3))]) C dX0_placePiece_9 (by decide) rfl ?_
      exact x_pick [1, 2, 3, 4, 0] rfl h)
  have h := h (by
    intro x3 x4 σ h
    refine x_iload (pc := 11) C dX0_placePiece_11 4 rfl ?_
    obtain ⟨o1, h⟩ := h
    refine x_if_lt (pc := 13) C 139 dX0_placePiece_13 (by decide) o1 (fun hc => ?_) (fun hc => ?_)
    · have h := h.1 hc
      refine x_iinc (pc := 139) (ls' := [(3, .int (iI (x3 + (-1)))), (0, .ref (g_h G)), (1, .int (iI a1)), (2, .int (iI a2)), (4, .int (iI x4))]) C dX0_placePiece_139 3 rfl (by decide) rfl ?_
      refine x_goto (pc := 142) C 3 dX0_placePiece_142 (by decide) ?_
      exact x_pick [1, 2, 3, 0] rfl h
    · have h := h.2 hc
      refine x_aload_n (pc := 16) (i := 0) C dX0_placePiece_16 rfl 0 rfl ?_
      refine xg_8 (pc := 17) C dX0_placePiece_17 ?_
      refine x_bipush (pc := 20) C dX0_placePiece_20 (by decide) ?_
      refine x_iload_n (pc := 22) (i := 3) C dX0_placePiece_22 rfl 3 rfl ?_
      refine x_imul (pc := 23) C dX0_placePiece_23 ?_
      refine x_iload (pc := 24) C dX0_placePiece_24 4 rfl ?_
      refine x_iadd (pc := 26) C dX0_placePiece_26 ?_
      obtain ⟨o2, h⟩ := h
      refine xl_8 (pc := 27) C dX0_placePiece_27 o2 ?_
      have h := h _ rfl
      refine x_istore (pc := 28) (ls' := [(5, .int (iI (σ 8 ((61 * x3) + x4)))), (0, .ref (g_h G)), (1, .int (iI a1)), (2, .int (iI a2)), (3, .int (iI x3)), (4, .int (iI x4))]) C dX0_placePiece_28 (by decide) rfl ?_
      refine x_iload_n (pc := 30) (i := 3) C dX0_placePiece_30 rfl 4 rfl ?_
      refine x_iload_n (pc := 31) (i := 1) C dX0_placePiece_31 rfl 2 rfl ?_
      obtain ⟨o3, o4, h⟩ := h
      refine x_icmp_lt (pc := 32) C 74 dX0_placePiece_32 (by decide) o3 o4 (fun hc => ?_) (fun hc => ?_)
      · have h := h.1 hc
        exact x_pick [1, 2, 3, 4, 5, 0] rfl h
      · have h := h.2 hc
        refine x_aload_n (pc := 35) (i := 0) C dX0_placePiece_35 rfl 1 rfl ?_
        refine xg_8 (pc := 36) C dX0_placePiece_36 ?_
        refine x_bipush (pc := 39) C dX0_placePiece_39 (by decide) ?_
        refine x_iload_n (pc := 41) (i := 3) C dX0_placePiece_41 rfl 4 rfl ?_
        refine x_iload_n (pc := 42) (i := 1) C dX0_placePiece_42 rfl 2 rfl ?_
        refine x_isub (pc := 43) C dX0_placePiece_43 ?_
        refine x_imul (pc := 44) C dX0_placePiece_44 ?_
        refine x_iload (pc := 45) C dX0_placePiece_45 5 rfl ?_
        refine x_iadd (pc := 47) C dX0_placePiece_47 ?_
        obtain ⟨o5, h⟩ := h
        refine xl_8 (pc := 48) C dX0_placePiece_48 o5 ?_
        refine x_iload_n (pc := 49) (i := 2) C dX0_placePiece_49 rfl 3 rfl ?_
        refine x_iadd (pc := 50) C dX0_placePiece_50 ?_
        refine x_iload (pc := 51) C dX0_placePiece_51 0 rfl ?_
        obtain ⟨o6, o7, h⟩ := h
        refine x_icmp_le (pc := 53) C 74 dX0_placePiece_53 (by decide) o6 o7 (fun hc => ?_) (fun hc => ?_)
        · have h := h.1 hc
          exact x_pick [1, 2, 3, 4, 5, 0] rfl h
        · have h := h.2 hc
          refine x_aload_n (pc := 56) (i := 0) C dX0_placePiece_56 rfl 1 rfl ?_
          refine xg_8 (pc := 57) C dX0_placePiece_57 ?_
          refine x_bipush (pc := 60) C dX0_placePiece_60 (by decide) ?_
          refine x_iload_n (pc := 62) (i := 3) C dX0_placePiece_62 rfl 4 rfl ?_
          refine x_iload_n (pc := 63) (i := 1) C dX0_placePiece_63 rfl 2 rfl ?_
          refine x_isub (pc := 64) C dX0_placePiece_64 ?_
          refine x_imul (pc := 65) C dX0_placePiece_65 ?_
          refine x_iload (pc := 66) C dX0_placePiece_66 5 rfl ?_
          refine x_iadd (pc := 68) C dX0_placePiece_68 ?_
          refine xl_8 (pc := 69) C dX0_placePiece_69 o5 ?_
          refine x_iload_n (pc := 70) (i := 2) C dX0_placePiece_70 rfl 3 rfl ?_
          refine x_iadd (pc := 71) C dX0_placePiece_71 ?_
          have h := h _ rfl
          refine x_istore (pc := 72) (ls' := [(5, .int (iI ((σ 8 ((61 * (x3 - a1)) + x4)) + a2))), (0, .ref (g_h G)), (1, .int (iI a1)), (2, .int (iI a2)), (3, .int (iI x3)), (4, .int (iI x4))]) C dX0_placePiece_72 (by decide) rfl ?_
          exact x_pick [1, 2, 3, 4, 5, 0] rfl h)
  have h := h (by
    intro x3 x4 x5 σ h
    refine x_iload (pc := 74) C dX0_placePiece_74 4 rfl ?_
    refine x_iload_n (pc := 76) (i := 1) C dX0_placePiece_76 rfl 1 rfl ?_
    obtain ⟨o1, o2, h⟩ := h
    refine x_icmp_lt (pc := 77) C 119 dX0_placePiece_77 (by decide) o1 o2 (fun hc => ?_) (fun hc => ?_)
    · have h := h.1 hc
      refine x_aload_n (pc := 119) (i := 0) C dX0_placePiece_119 rfl 0 rfl ?_
      refine xg_8 (pc := 120) C dX0_placePiece_120 ?_
      refine x_bipush (pc := 123) C dX0_placePiece_123 (by decide) ?_
      refine x_iload_n (pc := 125) (i := 3) C dX0_placePiece_125 rfl 3 rfl ?_
      refine x_imul (pc := 126) C dX0_placePiece_126 ?_
      refine x_iload (pc := 127) C dX0_placePiece_127 4 rfl ?_
      refine x_iadd (pc := 129) C dX0_placePiece_129 ?_
      refine x_iload (pc := 130) C dX0_placePiece_130 5 rfl ?_
      obtain ⟨o3, h⟩ := h
      refine xs_8 (pc := 132) C dX0_placePiece_132 o3 ?_
      refine x_iinc (pc := 133) (ls' := [(4, .int (iI (x4 + (-1)))), (0, .ref (g_h G)), (1, .int (iI a1)), (2, .int (iI a2)), (3, .int (iI x3)), (5, .int (iI x5))]) C dX0_placePiece_133 4 rfl (by decide) rfl ?_
      refine x_goto (pc := 136) C 11 dX0_placePiece_136 (by decide) ?_
      exact x_pick [1, 2, 3, 4, 0] rfl h
    · have h := h.2 hc
      refine x_aload_n (pc := 80) (i := 0) C dX0_placePiece_80 rfl 0 rfl ?_
      refine xg_8 (pc := 81) C dX0_placePiece_81 ?_
      refine x_bipush (pc := 84) C dX0_placePiece_84 (by decide) ?_
      refine x_iload_n (pc := 86) (i := 3) C dX0_placePiece_86 rfl 3 rfl ?_
      refine x_imul (pc := 87) C dX0_placePiece_87 ?_
      refine x_iload (pc := 88) C dX0_placePiece_88 4 rfl ?_
      refine x_iadd (pc := 90) C dX0_placePiece_90 ?_
      refine x_iload_n (pc := 91) (i := 1) C dX0_placePiece_91 rfl 1 rfl ?_
      refine x_isub (pc := 92) C dX0_placePiece_92 ?_
      obtain ⟨o4, h⟩ := h
      refine xl_8 (pc := 93) C dX0_placePiece_93 o4 ?_
      refine x_iload_n (pc := 94) (i := 2) C dX0_placePiece_94 rfl 2 rfl ?_
      refine x_iadd (pc := 95) C dX0_placePiece_95 ?_
      refine x_iload (pc := 96) C dX0_placePiece_96 5 rfl ?_
      obtain ⟨o5, o6, h⟩ := h
      refine x_icmp_le (pc := 98) C 119 dX0_placePiece_98 (by decide) o5 o6 (fun hc => ?_) (fun hc => ?_)
      · have h := h.1 hc
        refine x_aload_n (pc := 119) (i := 0) C dX0_placePiece_119 rfl 0 rfl ?_
        refine xg_8 (pc := 120) C dX0_placePiece_120 ?_
        refine x_bipush (pc := 123) C dX0_placePiece_123 (by decide) ?_
        refine x_iload_n (pc := 125) (i := 3) C dX0_placePiece_125 rfl 3 rfl ?_
        refine x_imul (pc := 126) C dX0_placePiece_126 ?_
        refine x_iload (pc := 127) C dX0_placePiece_127 4 rfl ?_
        refine x_iadd (pc := 129) C dX0_placePiece_129 ?_
        refine x_iload (pc := 130) C dX0_placePiece_130 5 rfl ?_
        obtain ⟨o7, h⟩ := h
        refine xs_8 (pc := 132) C dX0_placePiece_132 o7 ?_
        refine x_iinc (pc := 133) (ls' := [(4, .int (iI (x4 + (-1)))), (0, .ref (g_h G)), (1, .int (iI a1)), (2, .int (iI a2)), (3, .int (iI x3)), (5, .int (iI x5))]) C dX0_placePiece_133 4 rfl (by decide) rfl ?_
        refine x_goto (pc := 136) C 11 dX0_placePiece_136 (by decide) ?_
        exact x_pick [1, 2, 3, 4, 0] rfl h
      · have h := h.2 hc
        refine x_aload_n (pc := 101) (i := 0) C dX0_placePiece_101 rfl 0 rfl ?_
        refine xg_8 (pc := 102) C dX0_placePiece_102 ?_
        refine x_bipush (pc := 105) C dX0_placePiece_105 (by decide) ?_
        refine x_iload_n (pc := 107) (i := 3) C dX0_placePiece_107 rfl 3 rfl ?_
        refine x_imul (pc := 108) C dX0_placePiece_108 ?_
        refine x_iload (pc := 109) C dX0_placePiece_109 4 rfl ?_
        refine x_iadd (pc := 111) C dX0_placePiece_111 ?_
        refine x_iload_n (pc := 112) (i := 1) C dX0_placePiece_112 rfl 1 rfl ?_
        refine x_isub (pc := 113) C dX0_placePiece_113 ?_
        refine xl_8 (pc := 114) C dX0_placePiece_114 o4 ?_
        refine x_iload_n (pc := 115) (i := 2) C dX0_placePiece_115 rfl 2 rfl ?_
        refine x_iadd (pc := 116) C dX0_placePiece_116 ?_
        have h := h _ rfl
        refine x_istore (pc := 117) (ls' := [(5, .int (iI ((σ 8 (((61 * x3) + x4) - a1)) + a2))), (0, .ref (g_h G)), (1, .int (iI a1)), (2, .int (iI a2)), (3, .int (iI x3)), (4, .int (iI x4))]) C dX0_placePiece_117 (by decide) rfl ?_
        refine x_aload_n (pc := 119) (i := 0) C dX0_placePiece_119 rfl 1 rfl ?_
        refine xg_8 (pc := 120) C dX0_placePiece_120 ?_
        refine x_bipush (pc := 123) C dX0_placePiece_123 (by decide) ?_
        refine x_iload_n (pc := 125) (i := 3) C dX0_placePiece_125 rfl 4 rfl ?_
        refine x_imul (pc := 126) C dX0_placePiece_126 ?_
        refine x_iload (pc := 127) C dX0_placePiece_127 5 rfl ?_
        refine x_iadd (pc := 129) C dX0_placePiece_129 ?_
        refine x_iload (pc := 130) C dX0_placePiece_130 0 rfl ?_
        obtain ⟨o8, h⟩ := h
        refine xs_8 (pc := 132) C dX0_placePiece_132 o8 ?_
        refine x_iinc (pc := 133) (ls' := [(4, .int (iI (x4 + (-1)))), (5, .int (iI ((σ 8 (((61 * x3) + x4) - a1)) + a2))), (0, .ref (g_h G)), (1, .int (iI a1)), (2, .int (iI a2)), (3, .int (iI x3))]) C dX0_placePiece_133 5 rfl (by decide) rfl ?_
        refine x_goto (pc := 136) C 11 dX0_placePiece_136 (by decide) ?_
        exact x_pick [2, 3, 4, 5, 0] rfl h)
  refine x_bipush (pc := 0) C dX0_placePiece_0 (by decide) ?_
  refine x_istore_n (pc := 2) (i := 3) (ls' := [(3, .int (iI 60)), (0, .ref (g_h G)), (1, .int (iI a1)), (2, .int (iI a2))]) C dX0_placePiece_2 rfl (by decide) rfl ?_
  exact x_pick [1, 2, 3, 0] rfl h
theorem mt_X0_placePiece (G : gG) (a1 a2 : Int) (σ : gS) (post : gS → Prop) (h : Ok_X0_placePiece a1 a2 σ post) : gMetV G yX0_placePiece (ws_ yX0_placePiece cX0_placePiece 6 none) 0 (XW G) [.int (iI a1), .int (iI a2)] σ post :=
  gMetV.ofW (own := RX0) (by decide +kernel) rfl (Nat.le_of_ble_eq_true rfl) rfl (fun X C hret => wk_X0_placePiece G X C a1 a2 σ post hret h)
set_option maxHeartbeats 4000000 in
theorem wk_X0_two (G : gG) (X : gX) (C : gC G X cX0_two 4 RX0 1) (a1 : Int) (σ : gS) (post : Int → gS → Prop) (hret : ∀ (z : Int) (u : gS) (pc : Nat) (ls : List (Nat × Value)), decode cX0_two pc = .ok (.ireturn, 1) → (True) → post z u → gAt G X (XW G) 4 pc ls [.int (iI z)] u) (h : Ok_X0_two a1 σ post) : gAt G X (XW G) 4 0 [(0, .ref (g_h G)), (1, .int (iI a1))] [] σ := by
  have h := h (fun (x2 : Int) (σ : gS) => gAt G X (XW G) 4 14 [(0, .ref (g_h G)), (1, .int (iI a1)), (2, .int (iI x2))] [] σ) (fun (x2 : Int) (σ : gS) => gAt G X (XW G) 4 36 [(0, .ref (g_h G)), (1, .int (iI a1)), (2, .int (iI x2))] [] σ) (fun (x2 x3 : Int) (σ : gS) => gAt G X (XW G) 4 46 [(0, .ref (g_h G)), (1, .int (iI a1)), (2, .int (iI x2)), (3, .int (iI x3))] [] σ)
  have h := h (by
    intro x2 σ h
    refine x_iload_n (pc := 14) (i := 2) C dX0_two_14 rfl 2 rfl ?_
    refine x_sipush (pc := 15) C dX0_two_15 (by decide) ?_
    obtain ⟨o1, h⟩ := h
    refine x_icmp_ge (pc := 18) C 34 dX0_two_18 (by decide) o1 (by decide) (fun hc => ?_) (fun hc => ?_)
    · have h := h.1 hc
      refine x_iconst (pc := 34) C dX0_two_34 ?_
      refine x_istore_n (pc := 35) (i := 2) (ls' := [(2, .int (iI 0)), (0, .ref (g_h G)), (1, .int (iI a1))]) C dX0_two_35 rfl (by decide) rfl ?_
      exact x_pick [1, 2, 0] rfl h
    · have h := h.2 hc
      refine x_aload_n (pc := 21) (i := 0) C dX0_two_21 rfl 0 rfl ?_
      refine xg_8 (pc := 22) C dX0_two_22 ?_
      refine x_iload_n (pc := 25) (i := 2) C dX0_two_25 rfl 2 rfl ?_
      refine x_iconst (pc := 26) C dX0_two_26 ?_
      obtain ⟨o2, h⟩ := h
      refine xs_8 (pc := 27) C dX0_two_27 o2 ?_
      refine x_iinc (pc := 28) (ls' := [(2, .int (iI (x2 + 1))), (0, .ref (g_h G)), (1, .int (iI a1))]) C dX0_two_28 2 rfl (by decide) rfl ?_
      refine x_goto (pc := 31) C 14 dX0_two_31 (by decide) ?_
      exact x_pick [1, 2, 0] rfl h)
  have h := h (by
    intro x2 σ h
    refine x_iload_n (pc := 36) (i := 2) C dX0_two_36 rfl 2 rfl ?_
    refine x_aload_n (pc := 37) (i := 0) C dX0_two_37 rfl 0 rfl ?_
    refine xg_9 (pc := 38) C dX0_two_38 ?_
    obtain ⟨o1, o2, h⟩ := h
    refine x_icmp_ge (pc := 41) C 84 dX0_two_41 (by decide) o1 o2 (fun hc => ?_) (fun hc => ?_)
    · have h := h.1 hc
      refine x_aload_n (pc := 84) (i := 0) C dX0_two_84 rfl 0 rfl ?_
      refine xg_8 (pc := 85) C dX0_two_85 ?_
      refine x_bipush (pc := 88) C dX0_two_88 (by decide) ?_
      refine x_aload_n (pc := 90) (i := 0) C dX0_two_90 rfl 0 rfl ?_
      refine xg_10 (pc := 91) C dX0_two_91 ?_
      refine x_imul (pc := 94) C dX0_two_94 ?_
      refine x_iload_n (pc := 95) (i := 1) C dX0_two_95 rfl 1 rfl ?_
      refine x_iadd (pc := 96) C dX0_two_96 ?_
      obtain ⟨o3, h⟩ := h
      refine xl_8 (pc := 97) C dX0_two_97 o3 ?_
      exact hret _ _ _ _ dX0_two_98 trivial h
    · have h := h.2 hc
      refine x_iconst (pc := 44) C dX0_two_44 ?_
      refine x_istore_n (pc := 45) (i := 3) (ls' := [(3, .int (iI 0)), (0, .ref (g_h G)), (1, .int (iI a1)), (2, .int (iI x2))]) C dX0_two_45 rfl (by decide) rfl ?_
      exact x_pick [1, 2, 3, 0] rfl h)
  have h := h (by
    intro x2 x3 σ h
    refine x_iload_n (pc := 46) (i := 3) C dX0_two_46 rfl 3 rfl ?_
    refine x_aload_n (pc := 47) (i := 0) C dX0_two_47 rfl 0 rfl ?_
    refine xg_2 (pc := 48) C dX0_two_48 ?_
    refine x_iload_n (pc := 51) (i := 2) C dX0_two_51 rfl 2 rfl ?_
    obtain ⟨o1, h⟩ := h
    refine xl_2 (pc := 52) C dX0_two_52 o1 ?_
    obtain ⟨o2, o3, h⟩ := h
    refine x_icmp_ge (pc := 53) C 78 dX0_two_53 (by decide) o2 o3 (fun hc => ?_) (fun hc => ?_)
    · have h := h.1 hc
      refine x_iinc (pc := 78) (ls' := [(2, .int (iI (x2 + 1))), (0, .ref (g_h G)), (1, .int (iI a1)), (3, .int (iI x3))]) C dX0_two_78 2 rfl (by decide) rfl ?_
      refine x_goto (pc := 81) C 36 dX0_two_81 (by decide) ?_
      exact x_pick [1, 2, 0] rfl h
    · have h := h.2 hc
      refine x_aload_n (pc := 56) (i := 0) C dX0_two_56 rfl 0 rfl ?_
      refine x_aload_n (pc := 57) (i := 0) C dX0_two_57 rfl 0 rfl ?_
      refine xg_0 (pc := 58) C dX0_two_58 ?_
      refine x_iload_n (pc := 61) (i := 2) C dX0_two_61 rfl 2 rfl ?_
      refine xl_0 (pc := 62) C dX0_two_62 o1 ?_
      refine x_aload_n (pc := 63) (i := 0) C dX0_two_63 rfl 0 rfl ?_
      refine xg_1 (pc := 64) C dX0_two_64 ?_
      refine x_iload_n (pc := 67) (i := 2) C dX0_two_67 rfl 2 rfl ?_
      refine xl_1 (pc := 68) C dX0_two_68 o1 ?_
      refine x_callv (pc := 69) (n := 2) (As := [.int (iI (σ 0 x2)), .int (iI (σ 1 x2))]) (st := []) C (mt_X0_placePiece G (σ 0 x2) (σ 1 x2) σ _ h) (lw_V q181 q183 qs12 q23 q184) (by decide +kernel) ⟨by decide, by decide⟩ rfl rfl rfl rfl (Nat.le_of_ble_eq_true rfl) dX0_two_69 (fun s69 h => ?_)
      refine x_iinc (pc := 72) (ls' := [(3, .int (iI (x3 + 1))), (0, .ref (g_h G)), (1, .int (iI a1)), (2, .int (iI x2))]) C dX0_two_72 3 rfl (by decide) rfl ?_
      refine x_goto (pc := 75) C 46 dX0_two_75 (by decide) ?_
      exact x_pick [1, 2, 3, 0] rfl h)
  refine x_iload_n (pc := 0) (i := 1) C dX0_two_0 rfl 1 rfl ?_
  obtain ⟨o1, h⟩ := h
  refine x_if_lt (pc := 1) C 10 dX0_two_1 (by decide) o1 (fun hc => ?_) (fun hc => ?_)
  · have h := h.1 hc
    refine x_iconst (pc := 10) C dX0_two_10 ?_
    exact hret _ _ _ _ dX0_two_11 trivial h
  · have h := h.2 hc
    refine x_iload_n (pc := 4) (i := 1) C dX0_two_4 rfl 1 rfl ?_
    refine x_bipush (pc := 5) C dX0_two_5 (by decide) ?_
    refine x_icmp_le (pc := 7) C 12 dX0_two_7 (by decide) o1 (by decide) (fun hc => ?_) (fun hc => ?_)
    · have h := h.1 hc
      refine x_iconst (pc := 12) C dX0_two_12 ?_
      refine x_istore_n (pc := 13) (i := 2) (ls' := [(2, .int (iI 0)), (0, .ref (g_h G)), (1, .int (iI a1))]) C dX0_two_13 rfl (by decide) rfl ?_
      exact x_pick [1, 2, 0] rfl h
    · have h := h.2 hc
      refine x_iconst (pc := 10) C dX0_two_10 ?_
      exact hret _ _ _ _ dX0_two_11 trivial h
theorem mt_X0_two (G : gG) (a1 : Int) (σ : gS) (post : Int → gS → Prop) (h : Ok_X0_two a1 σ post) : gMetI G yX0_two (ws_ yX0_two cX0_two 4 (some .int)) 1 (XW G) [.int (iI a1)] σ post :=
  gMetI.ofW (own := RX0) (by decide +kernel) rfl (Nat.le_of_ble_eq_true rfl) rfl (fun _ => True) (fun z _ => vp_nar_int (iI z)) (fun X C hret => wk_X0_two G X C a1 σ post hret h)
set_option maxHeartbeats 4000000 in
theorem wk_X0_without (G : gG) (X : gX) (C : gC G X cX0_without 2 RX0 2) (a1 : Int) (σ : gS) (post : Int → gS → Prop) (hret : ∀ (z : Int) (u : gS) (pc : Nat) (ls : List (Nat × Value)), decode cX0_without pc = .ok (.ireturn, 1) → (True) → post z u → gAt G X (XW G) 2 pc ls [.int (iI z)] u) (h : Ok_X0_without a1 σ post) : gAt G X (XW G) 2 0 [(0, .ref (g_h G)), (1, .int (iI a1))] [] σ := by
  unfold Ok_X0_without at h
  refine x_aload_n (pc := 0) (i := 0) C dX0_without_0 rfl 0 rfl ?_
  refine x_iload_n (pc := 1) (i := 1) C dX0_without_1 rfl 1 rfl ?_
  refine x_calli (pc := 2) (n := 1) (As := [.int (iI a1)]) (st := []) C (mt_X0_isGood G a1 σ _ h) (lw_V q84 q86 qs1 q23 q87) (by decide +kernel) ⟨by decide, by decide⟩ rfl rfl rfl rfl (Nat.le_of_ble_eq_true rfl) dX0_without_2 (fun r2 s2 h => ?_)
  obtain ⟨o1, h⟩ := h
  refine x_if_ne (pc := 5) C 10 dX0_without_5 (by decide) o1 (fun hc => ?_) (fun hc => ?_)
  · have h := h.1 hc
    refine x_aload_n (pc := 10) (i := 0) C dX0_without_10 rfl 0 rfl ?_
    refine x_iload_n (pc := 11) (i := 1) C dX0_without_11 rfl 1 rfl ?_
    refine x_callv (pc := 12) (n := 1) (As := [.int (iI a1)]) (st := []) C (mt_X0_fill G a1 s2 _ h) (lw_V q112 q114 qs3 q23 q115) (by decide +kernel) ⟨by decide, by decide⟩ rfl rfl rfl rfl (Nat.le_of_ble_eq_true rfl) dX0_without_12 (fun s12 h => ?_)
    refine x_aload_n (pc := 15) (i := 0) C dX0_without_15 rfl 0 rfl ?_
    refine xg_4 (pc := 16) C dX0_without_16 ?_
    refine x_aload_n (pc := 19) (i := 0) C dX0_without_19 rfl 0 rfl ?_
    refine x_calli (pc := 20) (n := 0) (As := []) (st := [.ref (g_ad G 4)]) C (mt_X0_bestWeight G  s12 _ h) (lw_V q121 q123 qs5 q23 q124) (by decide +kernel) ⟨by decide, by decide⟩ rfl rfl rfl rfl (Nat.le_of_ble_eq_true rfl) dX0_without_20 (fun r20 s20 h => ?_)
    obtain ⟨o2, h⟩ := h
    refine xl_4 (pc := 23) C dX0_without_23 o2 ?_
    exact hret _ _ _ _ dX0_without_24 trivial h
  · have h := h.2 hc
    refine x_iconst (pc := 8) C dX0_without_8 ?_
    exact hret _ _ _ _ dX0_without_9 trivial h
theorem mt_X0_without (G : gG) (a1 : Int) (σ : gS) (post : Int → gS → Prop) (h : Ok_X0_without a1 σ post) : gMetI G yX0_without (ws_ yX0_without cX0_without 2 (some .int)) 2 (XW G) [.int (iI a1)] σ post :=
  gMetI.ofW (own := RX0) (by decide +kernel) rfl (Nat.le_of_ble_eq_true rfl) rfl (fun _ => True) (fun z _ => vp_nar_int (iI z)) (fun X C hret => wk_X0_without G X C a1 σ post hret h)
set_option maxHeartbeats 4000000 in
theorem wk_X0_halves (G : gG) (X : gX) (C : gC G X cX0_halves 3 RX0 2) (σ : gS) (post : Int → gS → Prop) (hret : ∀ (z : Int) (u : gS) (pc : Nat) (ls : List (Nat × Value)), decode cX0_halves pc = .ok (.ireturn, 1) → (True) → post z u → gAt G X (XW G) 3 pc ls [.int (iI z)] u) (h : Ok_X0_halves  σ post) : gAt G X (XW G) 3 0 [(0, .ref (g_h G))] [] σ := by
  have h := h (fun (x1 x2 : Int) (σ : gS) => gAt G X (XW G) 3 4 [(0, .ref (g_h G)), (1, .int (iI x1)), (2, .int (iI x2))] [] σ)
  have h := h (by
    intro x1 x2 σ h
    refine x_iload_n (pc := 4) (i := 2) C dX0_halves_4 rfl 2 rfl ?_
    refine x_aload_n (pc := 5) (i := 0) C dX0_halves_5 rfl 0 rfl ?_
    refine xg_9 (pc := 6) C dX0_halves_6 ?_
    obtain ⟨o1, o2, h⟩ := h
    refine x_icmp_ge (pc := 9) C 34 dX0_halves_9 (by decide) o1 o2 (fun hc => ?_) (fun hc => ?_)
    · have h := h.1 hc
      refine x_aload_n (pc := 34) (i := 0) C dX0_halves_34 rfl 0 rfl ?_
      refine x_iconst (pc := 35) C dX0_halves_35 ?_
      refine x_callv (pc := 36) (n := 1) (As := [.int (iI (-1))]) (st := []) C (mt_X0_fill G (-1) σ _ h) (lw_V q112 q114 qs3 q23 q115) (by decide +kernel) ⟨by decide, by decide⟩ rfl rfl rfl rfl (Nat.le_of_ble_eq_true rfl) dX0_halves_36 (fun s36 h => ?_)
      refine x_iload_n (pc := 39) (i := 1) C dX0_halves_39 rfl 1 rfl ?_
      refine x_iconst (pc := 40) C dX0_halves_40 ?_
      obtain ⟨o3, h⟩ := h
      refine x_iand (pc := 41) C 1 2 dX0_halves_41 (by decide) (by decide) o3 ?_
      obtain ⟨o4, h⟩ := h
      refine x_if_ne (pc := 42) C 60 dX0_halves_42 (by decide) o4 (fun hc => ?_) (fun hc => ?_)
      · have h := h.1 hc
        refine x_iconst (pc := 60) C dX0_halves_60 ?_
        exact hret _ _ _ _ dX0_halves_61 trivial h
      · have h := h.2 hc
        refine x_aload_n (pc := 45) (i := 0) C dX0_halves_45 rfl 0 rfl ?_
        refine xg_5 (pc := 46) C dX0_halves_46 ?_
        refine x_iload_n (pc := 49) (i := 1) C dX0_halves_49 rfl 1 rfl ?_
        refine x_iconst (pc := 50) C dX0_halves_50 ?_
        refine x_ishr (pc := 51) C 1 2 dX0_halves_51 (by decide) (by decide) o3 ?_
        obtain ⟨o5, h⟩ := h
        refine xl_5 (pc := 52) C dX0_halves_52 o5 ?_
        obtain ⟨o6, h⟩ := h
        refine x_if_le (pc := 53) C 60 dX0_halves_53 (by decide) o6 (fun hc => ?_) (fun hc => ?_)
        · have h := h.1 hc
          refine x_iconst (pc := 60) C dX0_halves_60 ?_
          exact hret _ _ _ _ dX0_halves_61 trivial h
        · have h := h.2 hc
          refine x_iconst (pc := 56) C dX0_halves_56 ?_
          refine x_goto (pc := 57) C 61 dX0_halves_57 (by decide) ?_
          exact hret _ _ _ _ dX0_halves_61 trivial h
    · have h := h.2 hc
      refine x_iload_n (pc := 12) (i := 1) C dX0_halves_12 rfl 1 rfl ?_
      refine x_aload_n (pc := 13) (i := 0) C dX0_halves_13 rfl 0 rfl ?_
      refine xg_2 (pc := 14) C dX0_halves_14 ?_
      refine x_iload_n (pc := 17) (i := 2) C dX0_halves_17 rfl 2 rfl ?_
      obtain ⟨o7, h⟩ := h
      refine xl_2 (pc := 18) C dX0_halves_18 o7 ?_
      refine x_aload_n (pc := 19) (i := 0) C dX0_halves_19 rfl 0 rfl ?_
      refine xg_0 (pc := 20) C dX0_halves_20 ?_
      refine x_iload_n (pc := 23) (i := 2) C dX0_halves_23 rfl 2 rfl ?_
      refine xl_0 (pc := 24) C dX0_halves_24 o7 ?_
      refine x_imul (pc := 25) C dX0_halves_25 ?_
      refine x_iadd (pc := 26) C dX0_halves_26 ?_
      have h := h _ rfl
      refine x_istore_n (pc := 27) (i := 1) (ls' := [(1, .int (iI (x1 + ((σ 2 x2) * (σ 0 x2))))), (0, .ref (g_h G)), (2, .int (iI x2))]) C dX0_halves_27 rfl (by decide) rfl ?_
      refine x_iinc (pc := 28) (ls' := [(2, .int (iI (x2 + 1))), (1, .int (iI (x1 + ((σ 2 x2) * (σ 0 x2))))), (0, .ref (g_h G))]) C dX0_halves_28 2 rfl (by decide) rfl ?_
      refine x_goto (pc := 31) C 4 dX0_halves_31 (by decide) ?_
      exact x_pick [2, 1, 0] rfl h)
  refine x_iconst (pc := 0) C dX0_halves_0 ?_
  refine x_istore_n (pc := 1) (i := 1) (ls' := [(1, .int (iI 0)), (0, .ref (g_h G))]) C dX0_halves_1 rfl (by decide) rfl ?_
  refine x_iconst (pc := 2) C dX0_halves_2 ?_
  refine x_istore_n (pc := 3) (i := 2) (ls' := [(2, .int (iI 0)), (1, .int (iI 0)), (0, .ref (g_h G))]) C dX0_halves_3 rfl (by decide) rfl ?_
  exact x_pick [2, 1, 0] rfl h
theorem mt_X0_halves (G : gG) (σ : gS) (post : Int → gS → Prop) (h : Ok_X0_halves  σ post) : gMetI G yX0_halves (ws_ yX0_halves cX0_halves 3 (some .int)) 2 (XW G) [] σ post :=
  gMetI.ofW (own := RX0) (by decide +kernel) rfl (Nat.le_of_ble_eq_true rfl) rfl (fun _ => True) (fun z _ => vp_nar_int (iI z)) (fun X C hret => wk_X0_halves G X C  σ post hret h)
end
section
set_option maxRecDepth 100000
set_option maxHeartbeats 4000000 in
theorem wk_X1_put (G : gG) (X : gX) (C : gC G X cX1_put 6 RX1 0) (a1 a2 a3 a4 : Int) (σ : gS) (post : Int → gS → Prop) (hret : ∀ (z : Int) (u : gS) (pc : Nat) (ls : List (Nat × Value)), decode cX1_put pc = .ok (.ireturn, 1) → (True) → post z u → gAt G X (MW G) 6 pc ls [.int (iI z)] u) (h : Ok_X1_put a1 a2 a3 a4 σ post) : gAt G X (MW G) 6 0 [(0, .ref (g_h G)), (1, .int (iI a1)), (2, .int (iI a2)), (3, .int (iI a3)), (4, .int (iI a4))] [] σ := by
  unfold Ok_X1_put at h
  refine x_aload_n (pc := 0) (i := 0) C dX1_put_0 rfl 0 rfl ?_
  refine mg_0 (pc := 1) C dX1_put_1 ?_
  have h := h _ rfl
  refine x_istore (pc := 4) (ls' := [(5, .int (iI (σ 0 0))), (0, .ref (g_h G)), (1, .int (iI a1)), (2, .int (iI a2)), (3, .int (iI a3)), (4, .int (iI a4))]) C dX1_put_4 (by decide) rfl ?_
  refine x_iload (pc := 6) C dX1_put_6 0 rfl ?_
  refine x_bipush (pc := 8) C dX1_put_8 (by decide) ?_
  obtain ⟨o1, h⟩ := h
  refine x_icmp_le (pc := 10) C 16 dX1_put_10 (by decide) o1 (by decide) (fun hc => ?_) (fun hc => ?_)
  · have h := h.1 hc
    refine x_aload_n (pc := 16) (i := 0) C dX1_put_16 rfl 1 rfl ?_
    refine mg_1 (pc := 17) C dX1_put_17 ?_
    refine x_iload (pc := 20) C dX1_put_20 0 rfl ?_
    refine x_iload_n (pc := 22) (i := 1) C dX1_put_22 rfl 2 rfl ?_
    obtain ⟨o2, h⟩ := h
    refine ms_1 (pc := 23) C dX1_put_23 o2 ?_
    refine x_aload_n (pc := 24) (i := 0) C dX1_put_24 rfl 1 rfl ?_
    refine mg_2 (pc := 25) C dX1_put_25 ?_
    refine x_iload (pc := 28) C dX1_put_28 0 rfl ?_
    refine x_iload_n (pc := 30) (i := 2) C dX1_put_30 rfl 3 rfl ?_
    refine ms_2 (pc := 31) C dX1_put_31 o2 ?_
    refine x_aload_n (pc := 32) (i := 0) C dX1_put_32 rfl 1 rfl ?_
    refine mg_3 (pc := 33) C dX1_put_33 ?_
    refine x_iload (pc := 36) C dX1_put_36 0 rfl ?_
    refine x_iload_n (pc := 38) (i := 3) C dX1_put_38 rfl 4 rfl ?_
    refine ms_3 (pc := 39) C dX1_put_39 o2 ?_
    refine x_aload_n (pc := 40) (i := 0) C dX1_put_40 rfl 1 rfl ?_
    refine mg_4 (pc := 41) C dX1_put_41 ?_
    refine x_iload (pc := 44) C dX1_put_44 0 rfl ?_
    refine x_iload (pc := 46) C dX1_put_46 5 rfl ?_
    refine ms_4 (pc := 48) C dX1_put_48 o2 ?_
    refine x_aload_n (pc := 49) (i := 0) C dX1_put_49 rfl 1 rfl ?_
    refine x_iload (pc := 50) C dX1_put_50 0 rfl ?_
    refine x_iconst (pc := 52) C dX1_put_52 ?_
    refine x_iadd (pc := 53) C dX1_put_53 ?_
    refine mp_0 (pc := 54) C dX1_put_54 ?_
    refine x_iload (pc := 57) C dX1_put_57 0 rfl ?_
    exact hret _ _ _ _ dX1_put_59 trivial h
  · have h := h.2 hc
    refine x_bipush (pc := 13) C dX1_put_13 (by decide) ?_
    exact hret _ _ _ _ dX1_put_15 trivial h
theorem mt_X1_put (G : gG) (a1 a2 a3 a4 : Int) (σ : gS) (post : Int → gS → Prop) (h : Ok_X1_put a1 a2 a3 a4 σ post) : gMetI G yX1_put (ws_ yX1_put cX1_put 6 (some .int)) 0 (MW G) [.int (iI a1), .int (iI a2), .int (iI a3), .int (iI a4)] σ post :=
  gMetI.ofW (own := RX1) (by decide +kernel) rfl (Nat.le_of_ble_eq_true rfl) rfl (fun _ => True) (fun z _ => vp_nar_int (iI z)) (fun X C hret => wk_X1_put G X C a1 a2 a3 a4 σ post hret h)
set_option maxHeartbeats 4000000 in
theorem wk_X1_add (G : gG) (X : gX) (C : gC G X cX1_add 4 RX1 1) (a1 a2 a3 : Int) (σ : gS) (post : Int → gS → Prop) (hret : ∀ (z : Int) (u : gS) (pc : Nat) (ls : List (Nat × Value)), decode cX1_add pc = .ok (.ireturn, 1) → (True) → post z u → gAt G X (MW G) 4 pc ls [.int (iI z)] u) (h : Ok_X1_add a1 a2 a3 σ post) : gAt G X (MW G) 4 0 [(0, .ref (g_h G)), (1, .int (iI a1)), (2, .int (iI a2)), (3, .int (iI a3))] [] σ := by
  unfold Ok_X1_add at h
  refine x_iload_n (pc := 0) (i := 1) C dX1_add_0 rfl 1 rfl ?_
  refine x_iconst (pc := 1) C dX1_add_1 ?_
  obtain ⟨o1, h⟩ := h
  refine x_icmp_lt (pc := 2) C 11 dX1_add_2 (by decide) o1 (by decide) (fun hc => ?_) (fun hc => ?_)
  · have h := h.1 hc
    refine x_iconst (pc := 11) C dX1_add_11 ?_
    exact hret _ _ _ _ dX1_add_12 trivial h
  · have h := h.2 hc
    refine x_iload_n (pc := 5) (i := 1) C dX1_add_5 rfl 1 rfl ?_
    refine x_bipush (pc := 6) C dX1_add_6 (by decide) ?_
    refine x_icmp_le (pc := 8) C 13 dX1_add_8 (by decide) o1 (by decide) (fun hc => ?_) (fun hc => ?_)
    · have h := h.1 hc
      refine x_iload_n (pc := 13) (i := 2) C dX1_add_13 rfl 2 rfl ?_
      obtain ⟨o2, h⟩ := h
      refine x_if_lt (pc := 14) C 23 dX1_add_14 (by decide) o2 (fun hc => ?_) (fun hc => ?_)
      · have h := h.1 hc
        refine x_bipush (pc := 23) C dX1_add_23 (by decide) ?_
        exact hret _ _ _ _ dX1_add_25 trivial h
      · have h := h.2 hc
        refine x_iload_n (pc := 17) (i := 2) C dX1_add_17 rfl 2 rfl ?_
        refine x_bipush (pc := 18) C dX1_add_18 (by decide) ?_
        refine x_icmp_le (pc := 20) C 26 dX1_add_20 (by decide) o2 (by decide) (fun hc => ?_) (fun hc => ?_)
        · have h := h.1 hc
          refine x_iload_n (pc := 26) (i := 3) C dX1_add_26 rfl 3 rfl ?_
          refine x_iconst (pc := 27) C dX1_add_27 ?_
          obtain ⟨o3, h⟩ := h
          refine x_icmp_lt (pc := 28) C 37 dX1_add_28 (by decide) o3 (by decide) (fun hc => ?_) (fun hc => ?_)
          · have h := h.1 hc
            refine x_bipush (pc := 37) C dX1_add_37 (by decide) ?_
            exact hret _ _ _ _ dX1_add_39 trivial h
          · have h := h.2 hc
            refine x_iload_n (pc := 31) (i := 3) C dX1_add_31 rfl 3 rfl ?_
            refine x_bipush (pc := 32) C dX1_add_32 (by decide) ?_
            refine x_icmp_le (pc := 34) C 40 dX1_add_34 (by decide) o3 (by decide) (fun hc => ?_) (fun hc => ?_)
            · have h := h.1 hc
              refine x_aload_n (pc := 40) (i := 0) C dX1_add_40 rfl 0 rfl ?_
              refine x_iload_n (pc := 41) (i := 1) C dX1_add_41 rfl 1 rfl ?_
              refine x_iload_n (pc := 42) (i := 2) C dX1_add_42 rfl 2 rfl ?_
              refine x_iload_n (pc := 43) (i := 3) C dX1_add_43 rfl 3 rfl ?_
              refine x_iconst (pc := 44) C dX1_add_44 ?_
              obtain ⟨o4, h⟩ := h
              refine x_idiv (pc := 45) C dX1_add_45 (by decide) o4 ?_
              refine x_iload_n (pc := 46) (i := 3) C dX1_add_46 rfl 3 rfl ?_
              refine x_iconst (pc := 47) C dX1_add_47 ?_
              refine x_irem (pc := 48) C dX1_add_48 (by decide) o4 ?_
              refine x_calli (pc := 49) (n := 4) (As := [.int (iI a1), .int (iI a2), .int (iI (a3 / 4)), .int (iI (a3 % 4))]) (st := []) C (mt_X1_put G a1 a2 (a3 / 4) (a3 % 4) σ _ h) (lw_V q231 q233 qs13 q24 q234) (by decide +kernel) ⟨by decide, by decide⟩ rfl rfl rfl rfl (Nat.le_of_ble_eq_true rfl) dX1_add_49 (fun r49 s49 h => ?_)
              exact hret _ _ _ _ dX1_add_52 trivial h
            · have h := h.2 hc
              refine x_bipush (pc := 37) C dX1_add_37 (by decide) ?_
              exact hret _ _ _ _ dX1_add_39 trivial h
        · have h := h.2 hc
          refine x_bipush (pc := 23) C dX1_add_23 (by decide) ?_
          exact hret _ _ _ _ dX1_add_25 trivial h
    · have h := h.2 hc
      refine x_iconst (pc := 11) C dX1_add_11 ?_
      exact hret _ _ _ _ dX1_add_12 trivial h
theorem mt_X1_add (G : gG) (a1 a2 a3 : Int) (σ : gS) (post : Int → gS → Prop) (h : Ok_X1_add a1 a2 a3 σ post) : gMetI G yX1_add (ws_ yX1_add cX1_add 4 (some .int)) 1 (MW G) [.int (iI a1), .int (iI a2), .int (iI a3)] σ post :=
  gMetI.ofW (own := RX1) (by decide +kernel) rfl (Nat.le_of_ble_eq_true rfl) rfl (fun _ => True) (fun z _ => vp_nar_int (iI z)) (fun X C hret => wk_X1_add G X C a1 a2 a3 σ post hret h)
set_option maxHeartbeats 4000000 in
theorem wk_X1_sow (G : gG) (X : gX) (C : gC G X cX1_sow 4 RX1 1) (a1 a2 : Int) (σ : gS) (post : Int → gS → Prop) (hret : ∀ (z : Int) (u : gS) (pc : Nat) (ls : List (Nat × Value)), decode cX1_sow pc = .ok (.ireturn, 1) → (True) → post z u → gAt G X (MW G) 4 pc ls [.int (iI z)] u) (h : Ok_X1_sow a1 a2 σ post) : gAt G X (MW G) 4 0 [(0, .ref (g_h G)), (1, .int (iI a1)), (2, .int (iI a2))] [] σ := by
  have h := h (fun (x3 : Int) (σ : gS) => gAt G X (MW G) 4 28 [(0, .ref (g_h G)), (1, .int (iI a1)), (2, .int (iI a2)), (3, .int (iI x3))] [] σ)
  have h := h (by
    intro x3 σ h
    refine x_iload_n (pc := 28) (i := 3) C dX1_sow_28 rfl 3 rfl ?_
    refine x_iload_n (pc := 29) (i := 2) C dX1_sow_29 rfl 2 rfl ?_
    obtain ⟨o1, o2, h⟩ := h
    refine x_icmp_ge (pc := 30) C 81 dX1_sow_30 (by decide) o1 o2 (fun hc => ?_) (fun hc => ?_)
    · have h := h.1 hc
      refine x_aload_n (pc := 81) (i := 0) C dX1_sow_81 rfl 0 rfl ?_
      refine mg_0 (pc := 82) C dX1_sow_82 ?_
      exact hret _ _ _ _ dX1_sow_85 trivial h
    · have h := h.2 hc
      refine x_aload_n (pc := 33) (i := 0) C dX1_sow_33 rfl 0 rfl ?_
      refine x_iconst (pc := 34) C dX1_sow_34 ?_
      refine x_iload_n (pc := 35) (i := 1) C dX1_sow_35 rfl 1 rfl ?_
      refine x_iconst (pc := 36) C dX1_sow_36 ?_
      refine x_iload_n (pc := 37) (i := 3) C dX1_sow_37 rfl 3 rfl ?_
      refine x_imul (pc := 38) C dX1_sow_38 ?_
      refine x_iadd (pc := 39) C dX1_sow_39 ?_
      refine x_bipush (pc := 40) C dX1_sow_40 (by decide) ?_
      obtain ⟨o3, h⟩ := h
      refine x_irem (pc := 42) C dX1_sow_42 (by decide) o3 ?_
      refine x_iadd (pc := 43) C dX1_sow_43 ?_
      refine x_iload_n (pc := 44) (i := 1) C dX1_sow_44 rfl 1 rfl ?_
      refine x_iconst (pc := 45) C dX1_sow_45 ?_
      refine x_imul (pc := 46) C dX1_sow_46 ?_
      refine x_bipush (pc := 47) C dX1_sow_47 (by decide) ?_
      refine x_iload_n (pc := 49) (i := 3) C dX1_sow_49 rfl 3 rfl ?_
      refine x_imul (pc := 50) C dX1_sow_50 ?_
      refine x_iload_n (pc := 51) (i := 3) C dX1_sow_51 rfl 3 rfl ?_
      refine x_imul (pc := 52) C dX1_sow_52 ?_
      refine x_iadd (pc := 53) C dX1_sow_53 ?_
      refine x_bipush (pc := 54) C dX1_sow_54 (by decide) ?_
      obtain ⟨o4, h⟩ := h
      refine x_irem (pc := 56) C dX1_sow_56 (by decide) o4 ?_
      refine x_iconst (pc := 57) C dX1_sow_57 ?_
      refine x_iload_n (pc := 58) (i := 1) C dX1_sow_58 rfl 1 rfl ?_
      refine x_iload_n (pc := 59) (i := 3) C dX1_sow_59 rfl 3 rfl ?_
      refine x_iadd (pc := 60) C dX1_sow_60 ?_
      refine x_iconst (pc := 61) C dX1_sow_61 ?_
      obtain ⟨o5, h⟩ := h
      refine x_irem (pc := 62) C dX1_sow_62 (by decide) o5 ?_
      refine x_iadd (pc := 63) C dX1_sow_63 ?_
      refine x_iload_n (pc := 64) (i := 1) C dX1_sow_64 rfl 1 rfl ?_
      refine x_iload_n (pc := 65) (i := 3) C dX1_sow_65 rfl 3 rfl ?_
      refine x_iload_n (pc := 66) (i := 3) C dX1_sow_66 rfl 3 rfl ?_
      refine x_imul (pc := 67) C dX1_sow_67 ?_
      refine x_iadd (pc := 68) C dX1_sow_68 ?_
      refine x_iconst (pc := 69) C dX1_sow_69 ?_
      obtain ⟨o6, h⟩ := h
      refine x_irem (pc := 70) C dX1_sow_70 (by decide) o6 ?_
      refine x_calli (pc := 71) (n := 4) (As := [.int (iI (1 + ((a1 + (5 * x3)) % 20))), .int (iI (((a1 * 3) + ((7 * x3) * x3)) % 51)), .int (iI (1 + ((a1 + x3) % 2))), .int (iI ((a1 + (x3 * x3)) % 4))]) (st := []) C (mt_X1_put G (1 + ((a1 + (5 * x3)) % 20)) (((a1 * 3) + ((7 * x3) * x3)) % 51) (1 + ((a1 + x3) % 2)) ((a1 + (x3 * x3)) % 4) σ _ h) (lw_V q231 q233 qs13 q24 q234) (by decide +kernel) ⟨by decide, by decide⟩ rfl rfl rfl rfl (Nat.le_of_ble_eq_true rfl) dX1_sow_71 (fun r71 s71 h => ?_)
      refine x_pop (pc := 74) C dX1_sow_74 ?_
      refine x_iinc (pc := 75) (ls' := [(3, .int (iI (x3 + 1))), (0, .ref (g_h G)), (1, .int (iI a1)), (2, .int (iI a2))]) C dX1_sow_75 3 rfl (by decide) rfl ?_
      refine x_goto (pc := 78) C 28 dX1_sow_78 (by decide) ?_
      exact x_pick [1, 2, 3, 0] rfl h)
  refine x_iload_n (pc := 0) (i := 1) C dX1_sow_0 rfl 1 rfl ?_
  obtain ⟨o1, h⟩ := h
  refine x_if_lt (pc := 1) C 10 dX1_sow_1 (by decide) o1 (fun hc => ?_) (fun hc => ?_)
  · have h := h.1 hc
    refine x_iconst (pc := 10) C dX1_sow_10 ?_
    exact hret _ _ _ _ dX1_sow_11 trivial h
  · have h := h.2 hc
    refine x_iload_n (pc := 4) (i := 1) C dX1_sow_4 rfl 1 rfl ?_
    refine x_bipush (pc := 5) C dX1_sow_5 (by decide) ?_
    refine x_icmp_le (pc := 7) C 12 dX1_sow_7 (by decide) o1 (by decide) (fun hc => ?_) (fun hc => ?_)
    · have h := h.1 hc
      refine x_iload_n (pc := 12) (i := 2) C dX1_sow_12 rfl 2 rfl ?_
      refine x_iconst (pc := 13) C dX1_sow_13 ?_
      obtain ⟨o2, h⟩ := h
      refine x_icmp_lt (pc := 14) C 23 dX1_sow_14 (by decide) o2 (by decide) (fun hc => ?_) (fun hc => ?_)
      · have h := h.1 hc
        refine x_bipush (pc := 23) C dX1_sow_23 (by decide) ?_
        exact hret _ _ _ _ dX1_sow_25 trivial h
      · have h := h.2 hc
        refine x_iload_n (pc := 17) (i := 2) C dX1_sow_17 rfl 2 rfl ?_
        refine x_bipush (pc := 18) C dX1_sow_18 (by decide) ?_
        refine x_icmp_le (pc := 20) C 26 dX1_sow_20 (by decide) o2 (by decide) (fun hc => ?_) (fun hc => ?_)
        · have h := h.1 hc
          refine x_iconst (pc := 26) C dX1_sow_26 ?_
          refine x_istore_n (pc := 27) (i := 3) (ls' := [(3, .int (iI 0)), (0, .ref (g_h G)), (1, .int (iI a1)), (2, .int (iI a2))]) C dX1_sow_27 rfl (by decide) rfl ?_
          exact x_pick [1, 2, 3, 0] rfl h
        · have h := h.2 hc
          refine x_bipush (pc := 23) C dX1_sow_23 (by decide) ?_
          exact hret _ _ _ _ dX1_sow_25 trivial h
    · have h := h.2 hc
      refine x_iconst (pc := 10) C dX1_sow_10 ?_
      exact hret _ _ _ _ dX1_sow_11 trivial h
theorem mt_X1_sow (G : gG) (a1 a2 : Int) (σ : gS) (post : Int → gS → Prop) (h : Ok_X1_sow a1 a2 σ post) : gMetI G yX1_sow (ws_ yX1_sow cX1_sow 4 (some .int)) 1 (MW G) [.int (iI a1), .int (iI a2)] σ post :=
  gMetI.ofW (own := RX1) (by decide +kernel) rfl (Nat.le_of_ble_eq_true rfl) rfl (fun _ => True) (fun z _ => vp_nar_int (iI z)) (fun X C hret => wk_X1_sow G X C a1 a2 σ post hret h)
set_option maxHeartbeats 4000000 in
theorem wk_X1_bad (G : gG) (X : gX) (C : gC G X cX1_bad 2 RX1 0) (a1 : Int) (σ : gS) (post : Int → gS → Prop) (hret : ∀ (z : Int) (u : gS) (pc : Nat) (ls : List (Nat × Value)), decode cX1_bad pc = .ok (.ireturn, 1) → (z = 0 ∨ z = 1) → post z u → gAt G X (MW G) 2 pc ls [.int (iI z)] u) (h : Ok_X1_bad a1 σ post) : gAt G X (MW G) 2 0 [(0, .ref (g_h G)), (1, .int (iI a1))] [] σ := by
  unfold Ok_X1_bad at h
  refine x_iload_n (pc := 0) (i := 1) C dX1_bad_0 rfl 1 rfl ?_
  obtain ⟨o1, h⟩ := h
  refine x_if_lt (pc := 1) C 18 dX1_bad_1 (by decide) o1 (fun hc => ?_) (fun hc => ?_)
  · have h := h.1 hc
    refine x_iconst (pc := 18) C dX1_bad_18 ?_
    refine x_goto (pc := 19) C 23 dX1_bad_19 (by decide) ?_
    exact hret _ _ _ _ dX1_bad_23 (Or.inr rfl) h
  · have h := h.2 hc
    refine x_iload_n (pc := 4) (i := 1) C dX1_bad_4 rfl 1 rfl ?_
    refine x_aload_n (pc := 5) (i := 0) C dX1_bad_5 rfl 0 rfl ?_
    refine mg_0 (pc := 6) C dX1_bad_6 ?_
    obtain ⟨o2, h⟩ := h
    refine x_icmp_ge (pc := 9) C 18 dX1_bad_9 (by decide) o1 o2 (fun hc => ?_) (fun hc => ?_)
    · have h := h.1 hc
      refine x_iconst (pc := 18) C dX1_bad_18 ?_
      refine x_goto (pc := 19) C 23 dX1_bad_19 (by decide) ?_
      exact hret _ _ _ _ dX1_bad_23 (Or.inr rfl) h
    · have h := h.2 hc
      refine x_iload_n (pc := 12) (i := 1) C dX1_bad_12 rfl 1 rfl ?_
      refine x_bipush (pc := 13) C dX1_bad_13 (by decide) ?_
      refine x_icmp_le (pc := 15) C 22 dX1_bad_15 (by decide) o1 (by decide) (fun hc => ?_) (fun hc => ?_)
      · have h := h.1 hc
        refine x_iconst (pc := 22) C dX1_bad_22 ?_
        exact hret _ _ _ _ dX1_bad_23 (Or.inl rfl) h
      · have h := h.2 hc
        refine x_iconst (pc := 18) C dX1_bad_18 ?_
        refine x_goto (pc := 19) C 23 dX1_bad_19 (by decide) ?_
        exact hret _ _ _ _ dX1_bad_23 (Or.inr rfl) h
theorem mt_X1_bad (G : gG) (a1 : Int) (σ : gS) (post : Int → gS → Prop) (h : Ok_X1_bad a1 σ post) : gMetI G yX1_bad (ws_ yX1_bad cX1_bad 2 (some .boolean)) 0 (MW G) [.int (iI a1)] σ post :=
  gMetI.ofW (own := RX1) (by decide +kernel) rfl (Nat.le_of_ble_eq_true rfl) rfl (fun z => z = 0 ∨ z = 1) (fun z hz => gNarrow hz) (fun X C hret => wk_X1_bad G X C a1 σ post hret h)
set_option maxHeartbeats 4000000 in
theorem wk_X1_drop (G : gG) (X : gX) (C : gC G X cX1_drop 3 RX1 1) (a1 : Int) (σ : gS) (post : Int → gS → Prop) (hret : ∀ (z : Int) (u : gS) (pc : Nat) (ls : List (Nat × Value)), decode cX1_drop pc = .ok (.ireturn, 1) → (True) → post z u → gAt G X (MW G) 3 pc ls [.int (iI z)] u) (h : Ok_X1_drop a1 σ post) : gAt G X (MW G) 3 0 [(0, .ref (g_h G)), (1, .int (iI a1))] [] σ := by
  have h := h (fun (x2 : Int) (σ : gS) => gAt G X (MW G) 3 12 [(0, .ref (g_h G)), (1, .int (iI a1)), (2, .int (iI x2))] [] σ)
  have h := h (by
    intro x2 σ h
    refine x_iload_n (pc := 12) (i := 2) C dX1_drop_12 rfl 2 rfl ?_
    refine x_aload_n (pc := 13) (i := 0) C dX1_drop_13 rfl 0 rfl ?_
    refine mg_0 (pc := 14) C dX1_drop_14 ?_
    refine x_iconst (pc := 17) C dX1_drop_17 ?_
    refine x_isub (pc := 18) C dX1_drop_18 ?_
    obtain ⟨o1, o2, h⟩ := h
    refine x_icmp_ge (pc := 19) C 90 dX1_drop_19 (by decide) o1 o2 (fun hc => ?_) (fun hc => ?_)
    · have h := h.1 hc
      refine x_aload_n (pc := 90) (i := 0) C dX1_drop_90 rfl 0 rfl ?_
      refine x_dup (pc := 91) C dX1_drop_91 rfl ?_
      refine mg_0 (pc := 92) C dX1_drop_92 ?_
      refine x_iconst (pc := 95) C dX1_drop_95 ?_
      refine x_isub (pc := 96) C dX1_drop_96 ?_
      refine mp_0 (pc := 97) C dX1_drop_97 ?_
      refine x_aload_n (pc := 100) (i := 0) C dX1_drop_100 rfl 0 rfl ?_
      refine mg_0 (pc := 101) C dX1_drop_101 ?_
      exact hret _ _ _ _ dX1_drop_104 trivial h
    · have h := h.2 hc
      refine x_iload_n (pc := 22) (i := 2) C dX1_drop_22 rfl 2 rfl ?_
      refine x_bipush (pc := 23) C dX1_drop_23 (by decide) ?_
      refine x_icmp_ge (pc := 25) C 90 dX1_drop_25 (by decide) o1 (by decide) (fun hc => ?_) (fun hc => ?_)
      · have h := h.1 hc
        refine x_aload_n (pc := 90) (i := 0) C dX1_drop_90 rfl 0 rfl ?_
        refine x_dup (pc := 91) C dX1_drop_91 rfl ?_
        refine mg_0 (pc := 92) C dX1_drop_92 ?_
        refine x_iconst (pc := 95) C dX1_drop_95 ?_
        refine x_isub (pc := 96) C dX1_drop_96 ?_
        refine mp_0 (pc := 97) C dX1_drop_97 ?_
        refine x_aload_n (pc := 100) (i := 0) C dX1_drop_100 rfl 0 rfl ?_
        refine mg_0 (pc := 101) C dX1_drop_101 ?_
        exact hret _ _ _ _ dX1_drop_104 trivial h
      · have h := h.2 hc
        refine x_aload_n (pc := 28) (i := 0) C dX1_drop_28 rfl 0 rfl ?_
        refine mg_1 (pc := 29) C dX1_drop_29 ?_
        refine x_iload_n (pc := 32) (i := 2) C dX1_drop_32 rfl 2 rfl ?_
        refine x_aload_n (pc := 33) (i := 0) C dX1_drop_33 rfl 0 rfl ?_
        refine mg_1 (pc := 34) C dX1_drop_34 ?_
        refine x_iload_n (pc := 37) (i := 2) C dX1_drop_37 rfl 2 rfl ?_
        refine x_iconst (pc := 38) C dX1_drop_38 ?_
        refine x_iadd (pc := 39) C dX1_drop_39 ?_
        obtain ⟨o3, h⟩ := h
        refine ml_1 (pc := 40) C dX1_drop_40 o3 ?_
        obtain ⟨o4, h⟩ := h
        refine ms_1 (pc := 41) C dX1_drop_41 o4 ?_
        refine x_aload_n (pc := 42) (i := 0) C dX1_drop_42 rfl 0 rfl ?_
        refine mg_2 (pc := 43) C dX1_drop_43 ?_
        refine x_iload_n (pc := 46) (i := 2) C dX1_drop_46 rfl 2 rfl ?_
        refine x_aload_n (pc := 47) (i := 0) C dX1_drop_47 rfl 0 rfl ?_
        refine mg_2 (pc := 48) C dX1_drop_48 ?_
        refine x_iload_n (pc := 51) (i := 2) C dX1_drop_51 rfl 2 rfl ?_
        refine x_iconst (pc := 52) C dX1_drop_52 ?_
        refine x_iadd (pc := 53) C dX1_drop_53 ?_
        refine ml_2 (pc := 54) C dX1_drop_54 o3 ?_
        refine ms_2 (pc := 55) C dX1_drop_55 o4 ?_
        refine x_aload_n (pc := 56) (i := 0) C dX1_drop_56 rfl 0 rfl ?_
        refine mg_3 (pc := 57) C dX1_drop_57 ?_
        refine x_iload_n (pc := 60) (i := 2) C dX1_drop_60 rfl 2 rfl ?_
        refine x_aload_n (pc := 61) (i := 0) C dX1_drop_61 rfl 0 rfl ?_
        refine mg_3 (pc := 62) C dX1_drop_62 ?_
        refine x_iload_n (pc := 65) (i := 2) C dX1_drop_65 rfl 2 rfl ?_
        refine x_iconst (pc := 66) C dX1_drop_66 ?_
        refine x_iadd (pc := 67) C dX1_drop_67 ?_
        refine ml_3 (pc := 68) C dX1_drop_68 o3 ?_
        refine ms_3 (pc := 69) C dX1_drop_69 o4 ?_
        refine x_aload_n (pc := 70) (i := 0) C dX1_drop_70 rfl 0 rfl ?_
        refine mg_4 (pc := 71) C dX1_drop_71 ?_
        refine x_iload_n (pc := 74) (i := 2) C dX1_drop_74 rfl 2 rfl ?_
        refine x_aload_n (pc := 75) (i := 0) C dX1_drop_75 rfl 0 rfl ?_
        refine mg_4 (pc := 76) C dX1_drop_76 ?_
        refine x_iload_n (pc := 79) (i := 2) C dX1_drop_79 rfl 2 rfl ?_
        refine x_iconst (pc := 80) C dX1_drop_80 ?_
        refine x_iadd (pc := 81) C dX1_drop_81 ?_
        refine ml_4 (pc := 82) C dX1_drop_82 o3 ?_
        refine ms_4 (pc := 83) C dX1_drop_83 o4 ?_
        refine x_iinc (pc := 84) (ls' := [(2, .int (iI (x2 + 1))), (0, .ref (g_h G)), (1, .int (iI a1))]) C dX1_drop_84 2 rfl (by decide) rfl ?_
        refine x_goto (pc := 87) C 12 dX1_drop_87 (by decide) ?_
        exact x_pick [1, 2, 0] rfl h)
  refine x_aload_n (pc := 0) (i := 0) C dX1_drop_0 rfl 0 rfl ?_
  refine x_iload_n (pc := 1) (i := 1) C dX1_drop_1 rfl 1 rfl ?_
  refine x_calli (pc := 2) (n := 1) (As := [.int (iI a1)]) (st := []) C (mt_X1_bad G a1 σ _ h) (lw_V q243 q245 qs14 q24 q246) (by decide +kernel) ⟨by decide, by decide⟩ rfl rfl rfl rfl (Nat.le_of_ble_eq_true rfl) dX1_drop_2 (fun r2 s2 h => ?_)
  obtain ⟨o1, h⟩ := h
  refine x_if_eq (pc := 5) C 10 dX1_drop_5 (by decide) o1 (fun hc => ?_) (fun hc => ?_)
  · have h := h.1 hc
    refine x_iload_n (pc := 10) (i := 1) C dX1_drop_10 rfl 1 rfl ?_
    refine x_istore_n (pc := 11) (i := 2) (ls' := [(2, .int (iI a1)), (0, .ref (g_h G)), (1, .int (iI a1))]) C dX1_drop_11 rfl (by decide) rfl ?_
    exact x_pick [1, 2, 0] rfl h
  · have h := h.2 hc
    refine x_iconst (pc := 8) C dX1_drop_8 ?_
    exact hret _ _ _ _ dX1_drop_9 trivial h
theorem mt_X1_drop (G : gG) (a1 : Int) (σ : gS) (post : Int → gS → Prop) (h : Ok_X1_drop a1 σ post) : gMetI G yX1_drop (ws_ yX1_drop cX1_drop 3 (some .int)) 1 (MW G) [.int (iI a1)] σ post :=
  gMetI.ofW (own := RX1) (by decide +kernel) rfl (Nat.le_of_ble_eq_true rfl) rfl (fun _ => True) (fun z _ => vp_nar_int (iI z)) (fun X C hret => wk_X1_drop G X C a1 σ post hret h)
set_option maxHeartbeats 4000000 in
theorem wk_X1_limit (G : gG) (X : gX) (C : gC G X cX1_limit 3 RX1 0) (a1 : Int) (σ : gS) (post : Int → gS → Prop) (hret : ∀ (z : Int) (u : gS) (pc : Nat) (ls : List (Nat × Value)), decode cX1_limit pc = .ok (.ireturn, 1) → (True) → post z u → gAt G X (MW G) 3 pc ls [.int (iI z)] u) (h : Ok_X1_limit a1 σ post) : gAt G X (MW G) 3 0 [(0, .ref (g_h G)), (1, .int (iI a1))] [] σ := by
  unfold Ok_X1_limit at h
  refine x_iload_n (pc := 0) (i := 1) C dX1_limit_0 rfl 1 rfl ?_
  obtain ⟨o1, h⟩ := h
  refine x_if_lt (pc := 1) C 10 dX1_limit_1 (by decide) o1 (fun hc => ?_) (fun hc => ?_)
  · have h := h.1 hc
    refine x_iconst (pc := 10) C dX1_limit_10 ?_
    exact hret _ _ _ _ dX1_limit_11 trivial h
  · have h := h.2 hc
    refine x_iload_n (pc := 4) (i := 1) C dX1_limit_4 rfl 1 rfl ?_
    refine x_bipush (pc := 5) C dX1_limit_5 (by decide) ?_
    refine x_icmp_le (pc := 7) C 12 dX1_limit_7 (by decide) o1 (by decide) (fun hc => ?_) (fun hc => ?_)
    · have h := h.1 hc
      refine x_aload_n (pc := 12) (i := 0) C dX1_limit_12 rfl 0 rfl ?_
      refine mg_5 (pc := 13) C dX1_limit_13 ?_
      have h := h _ rfl
      refine x_istore_n (pc := 16) (i := 2) (ls' := [(2, .int (iI (σ 5 0))), (0, .ref (g_h G)), (1, .int (iI a1))]) C dX1_limit_16 rfl (by decide) rfl ?_
      refine x_aload_n (pc := 17) (i := 0) C dX1_limit_17 rfl 1 rfl ?_
      refine x_iload_n (pc := 18) (i := 1) C dX1_limit_18 rfl 2 rfl ?_
      refine mp_5 (pc := 19) C dX1_limit_19 ?_
      refine x_iload_n (pc := 22) (i := 2) C dX1_limit_22 rfl 0 rfl ?_
      exact hret _ _ _ _ dX1_limit_23 trivial h
    · have h := h.2 hc
      refine x_iconst (pc := 10) C dX1_limit_10 ?_
      exact hret _ _ _ _ dX1_limit_11 trivial h
theorem mt_X1_limit (G : gG) (a1 : Int) (σ : gS) (post : Int → gS → Prop) (h : Ok_X1_limit a1 σ post) : gMetI G yX1_limit (ws_ yX1_limit cX1_limit 3 (some .int)) 0 (MW G) [.int (iI a1)] σ post :=
  gMetI.ofW (own := RX1) (by decide +kernel) rfl (Nat.le_of_ble_eq_true rfl) rfl (fun _ => True) (fun z _ => vp_nar_int (iI z)) (fun X C hret => wk_X1_limit G X C a1 σ post hret h)
set_option maxHeartbeats 4000000 in
theorem wk_X1_goods (G : gG) (X : gX) (C : gC G X cX1_goods 1 RX1 0) (σ : gS) (post : Int → gS → Prop) (hret : ∀ (z : Int) (u : gS) (pc : Nat) (ls : List (Nat × Value)), decode cX1_goods pc = .ok (.ireturn, 1) → (True) → post z u → gAt G X (MW G) 1 pc ls [.int (iI z)] u) (h : Ok_X1_goods  σ post) : gAt G X (MW G) 1 0 [(0, .ref (g_h G))] [] σ := by
  unfold Ok_X1_goods at h
  refine x_aload_n (pc := 0) (i := 0) C dX1_goods_0 rfl 0 rfl ?_
  refine mg_0 (pc := 1) C dX1_goods_1 ?_
  exact hret _ _ _ _ dX1_goods_4 trivial h
theorem mt_X1_goods (G : gG) (σ : gS) (post : Int → gS → Prop) (h : Ok_X1_goods  σ post) : gMetI G yX1_goods (ws_ yX1_goods cX1_goods 1 (some .int)) 0 (MW G) [] σ post :=
  gMetI.ofW (own := RX1) (by decide +kernel) rfl (Nat.le_of_ble_eq_true rfl) rfl (fun _ => True) (fun z _ => vp_nar_int (iI z)) (fun X C hret => wk_X1_goods G X C  σ post hret h)
set_option maxHeartbeats 4000000 in
theorem wk_X1_choice (G : gG) (X : gX) (C : gC G X cX1_choice 5 RX1 0) (a1 : Int) (σ : gS) (post : Int → gS → Prop) (hret : ∀ (z : Int) (u : gS) (pc : Nat) (ls : List (Nat × Value)), decode cX1_choice pc = .ok (.ireturn, 1) → (z = 0 ∨ z = 1) → post z u → gAt G X (MW G) 5 pc ls [.int (iI z)] u) (h : Ok_X1_choice a1 σ post) : gAt G X (MW G) 5 0 [(0, .ref (g_h G)), (1, .int (iI a1))] [] σ := by
  have h := h (fun (x2 x3 : Int) (σ : gS) => gAt G X (MW G) 5 25 [(0, .ref (g_h G)), (1, .int (iI a1)), (2, .int (iI x2)), (3, .int (iI x3))] [] σ) (fun (x2 : Int) (σ : gS) => gAt G X (MW G) 5 107 [(0, .ref (g_h G)), (1, .int (iI a1)), (2, .int (iI x2))] [] σ)
  have h := h (by
    intro x2 x3 σ h
    refine x_iload_n (pc := 25) (i := 3) C dX1_choice_25 rfl 3 rfl ?_
    obtain ⟨o1, h⟩ := h
    refine x_if_lt (pc := 26) C 107 dX1_choice_26 (by decide) o1 (fun hc => ?_) (fun hc => ?_)
    · have h := h.1 hc
      exact x_pick [0, 1, 2] rfl h
    · have h := h.2 hc
      refine x_iload_n (pc := 29) (i := 3) C dX1_choice_29 rfl 3 rfl ?_
      refine x_bipush (pc := 30) C dX1_choice_30 (by decide) ?_
      refine x_icmp_ge (pc := 32) C 107 dX1_choice_32 (by decide) o1 (by decide) (fun hc => ?_) (fun hc => ?_)
      · have h := h.1 hc
        exact x_pick [0, 1, 2] rfl h
      · have h := h.2 hc
        refine x_iload_n (pc := 35) (i := 2) C dX1_choice_35 rfl 2 rfl ?_
        refine x_iconst (pc := 36) C dX1_choice_36 ?_
        obtain ⟨o2, h⟩ := h
        refine x_irem (pc := 37) C dX1_choice_37 (by decide) o2 ?_
        have h := h _ rfl
        refine x_istore (pc := 38) (ls' := [(4, .int (iI (x2 % 3))), (0, .ref (g_h G)), (1, .int (iI a1)), (2, .int (iI x2)), (3, .int (iI x3))]) C dX1_choice_38 (by decide) rfl ?_
        refine x_iload (pc := 40) C dX1_choice_40 0 rfl ?_
        refine x_aload_n (pc := 42) (i := 0) C dX1_choice_42 rfl 1 rfl ?_
        refine mg_3 (pc := 43) C dX1_choice_43 ?_
        refine x_iload_n (pc := 46) (i := 3) C dX1_choice_46 rfl 4 rfl ?_
        obtain ⟨o3, h⟩ := h
        refine ml_3 (pc := 47) C dX1_choice_47 o3 ?_
        obtain ⟨o4, o5, h⟩ := h
        refine x_icmp_le (pc := 48) C 53 dX1_choice_48 (by decide) o4 o5 (fun hc => ?_) (fun hc => ?_)
        · have h := h.1 hc
          refine x_aload_n (pc := 53) (i := 0) C dX1_choice_53 rfl 1 rfl ?_
          refine mg_6 (pc := 54) C dX1_choice_54 ?_
          refine x_iload_n (pc := 57) (i := 3) C dX1_choice_57 rfl 4 rfl ?_
          refine x_iload (pc := 58) C dX1_choice_58 0 rfl ?_
          refine ms_6 (pc := 60) C dX1_choice_60 o3 ?_
          refine x_aload_n (pc := 61) (i := 0) C dX1_choice_61 rfl 1 rfl ?_
          refine x_dup (pc := 62) C dX1_choice_62 rfl ?_
          refine mg_7 (pc := 63) C dX1_choice_63 ?_
          refine x_iload (pc := 66) C dX1_choice_66 0 rfl ?_
          refine x_aload_n (pc := 68) (i := 0) C dX1_choice_68 rfl 1 rfl ?_
          refine mg_1 (pc := 69) C dX1_choice_69 ?_
          refine x_iload_n (pc := 72) (i := 3) C dX1_choice_72 rfl 4 rfl ?_
          refine ml_1 (pc := 73) C dX1_choice_73 o3 ?_
          refine x_imul (pc := 74) C dX1_choice_74 ?_
          refine x_iadd (pc := 75) C dX1_choice_75 ?_
          refine mp_7 (pc := 76) C dX1_choice_76 ?_
          refine x_aload_n (pc := 79) (i := 0) C dX1_choice_79 rfl 1 rfl ?_
          refine x_dup (pc := 80) C dX1_choice_80 rfl ?_
          refine mg_8 (pc := 81) C dX1_choice_81 ?_
          refine x_iload (pc := 84) C dX1_choice_84 0 rfl ?_
          refine x_aload_n (pc := 86) (i := 0) C dX1_choice_86 rfl 1 rfl ?_
          refine mg_2 (pc := 87) C dX1_choice_87 ?_
          refine x_iload_n (pc := 90) (i := 3) C dX1_choice_90 rfl 4 rfl ?_
          refine ml_2 (pc := 91) C dX1_choice_91 o3 ?_
          refine x_imul (pc := 92) C dX1_choice_92 ?_
          refine x_iadd (pc := 93) C dX1_choice_93 ?_
          refine mp_8 (pc := 94) C dX1_choice_94 ?_
          refine x_iload_n (pc := 97) (i := 2) C dX1_choice_97 rfl 3 rfl ?_
          refine x_iconst (pc := 98) C dX1_choice_98 ?_
          refine x_idiv (pc := 99) C dX1_choice_99 (by decide) o2 ?_
          have h := h _ rfl
          refine x_istore_n (pc := 100) (i := 2) (ls' := [(2, .int (iI (x2 / 3))), (4, .int (iI (x2 % 3))), (0, .ref (g_h G)), (1, .int (iI a1)), (3, .int (iI x3))]) C dX1_choice_100 rfl (by decide) rfl ?_
          refine x_iinc (pc := 101) (ls' := [(3, .int (iI (x3 + (-1)))), (2, .int (iI (x2 / 3))), (4, .int (iI (x2 % 3))), (0, .ref (g_h G)), (1, .int (iI a1))]) C dX1_choice_101 4 rfl (by decide) rfl ?_
          refine x_goto (pc := 104) C 25 dX1_choice_104 (by decide) ?_
          exact x_pick [3, 4, 1, 0] rfl h
        · have h := h.2 hc
          refine x_iconst (pc := 51) C dX1_choice_51 ?_
          exact hret _ _ _ _ dX1_choice_52 (Or.inl rfl) h)
  have h := h (by
    intro x2 σ h
    refine x_iload_n (pc := 107) (i := 2) C dX1_choice_107 rfl 2 rfl ?_
    obtain ⟨o1, h⟩ := h
    refine x_if_ne (pc := 108) C 115 dX1_choice_108 (by decide) o1 (fun hc => ?_) (fun hc => ?_)
    · have h := h.1 hc
      refine x_iconst (pc := 115) C dX1_choice_115 ?_
      exact hret _ _ _ _ dX1_choice_116 (Or.inl rfl) h
    · have h := h.2 hc
      refine x_iconst (pc := 111) C dX1_choice_111 ?_
      refine x_goto (pc := 112) C 116 dX1_choice_112 (by decide) ?_
      exact hret _ _ _ _ dX1_choice_116 (Or.inr rfl) h)
  refine x_iload_n (pc := 0) (i := 1) C dX1_choice_0 rfl 1 rfl ?_
  refine x_istore_n (pc := 1) (i := 2) (ls' := [(2, .int (iI a1)), (0, .ref (g_h G)), (1, .int (iI a1))]) C dX1_choice_1 rfl (by decide) rfl ?_
  refine x_aload_n (pc := 2) (i := 0) C dX1_choice_2 rfl 1 rfl ?_
  refine x_iconst (pc := 3) C dX1_choice_3 ?_
  refine mp_7 (pc := 4) C dX1_choice_4 ?_
  refine x_aload_n (pc := 7) (i := 0) C dX1_choice_7 rfl 1 rfl ?_
  refine x_iconst (pc := 8) C dX1_choice_8 ?_
  refine mp_8 (pc := 9) C dX1_choice_9 ?_
  refine x_iload_n (pc := 12) (i := 1) C dX1_choice_12 rfl 2 rfl ?_
  obtain ⟨o1, h⟩ := h
  refine x_if_ge (pc := 13) C 18 dX1_choice_13 (by decide) o1 (fun hc => ?_) (fun hc => ?_)
  · have h := h.1 hc
    refine x_aload_n (pc := 18) (i := 0) C dX1_choice_18 rfl 1 rfl ?_
    refine mg_0 (pc := 19) C dX1_choice_19 ?_
    refine x_iconst (pc := 22) C dX1_choice_22 ?_
    refine x_isub (pc := 23) C dX1_choice_23 ?_
    have h := h _ rfl
    refine x_istore_n (pc := 24) (i := 3) (ls' := [(3, .int (iI (((sU (sU σ 7 0 0) 8 0 0) 0 0) - 1))), (2, .int (iI a1)), (0, .ref (g_h G)), (1, .int (iI a1))]) C dX1_choice_24 rfl (by decide) rfl ?_
    exact x_pick [2, 3, 1, 0] rfl h
  · have h := h.2 hc
    refine x_iconst (pc := 16) C dX1_choice_16 ?_
    exact hret _ _ _ _ dX1_choice_17 (Or.inl rfl) h
theorem mt_X1_choice (G : gG) (a1 : Int) (σ : gS) (post : Int → gS → Prop) (h : Ok_X1_choice a1 σ post) : gMetI G yX1_choice (ws_ yX1_choice cX1_choice 5 (some .boolean)) 0 (MW G) [.int (iI a1)] σ post :=
  gMetI.ofW (own := RX1) (by decide +kernel) rfl (Nat.le_of_ble_eq_true rfl) rfl (fun z => z = 0 ∨ z = 1) (fun z hz => gNarrow hz) (fun X C hret => wk_X1_choice G X C a1 σ post hret h)
set_option maxHeartbeats 4000000 in
theorem wk_X1_weightOf (G : gG) (X : gX) (C : gC G X cX1_weightOf 2 RX1 1) (a1 : Int) (σ : gS) (post : Int → gS → Prop) (hret : ∀ (z : Int) (u : gS) (pc : Nat) (ls : List (Nat × Value)), decode cX1_weightOf pc = .ok (.ireturn, 1) → (True) → post z u → gAt G X (MW G) 2 pc ls [.int (iI z)] u) (h : Ok_X1_weightOf a1 σ post) : gAt G X (MW G) 2 0 [(0, .ref (g_h G)), (1, .int (iI a1))] [] σ := by
  unfold Ok_X1_weightOf at h
  refine x_aload_n (pc := 0) (i := 0) C dX1_weightOf_0 rfl 0 rfl ?_
  refine x_iload_n (pc := 1) (i := 1) C dX1_weightOf_1 rfl 1 rfl ?_
  refine x_calli (pc := 2) (n := 1) (As := [.int (iI a1)]) (st := []) C (mt_X1_choice G a1 σ _ h) (lw_V q259 q261 qs15 q24 q262) (by decide +kernel) ⟨by decide, by decide⟩ rfl rfl rfl rfl (Nat.le_of_ble_eq_true rfl) dX1_weightOf_2 (fun r2 s2 h => ?_)
  obtain ⟨o1, h⟩ := h
  refine x_if_eq (pc := 5) C 15 dX1_weightOf_5 (by decide) o1 (fun hc => ?_) (fun hc => ?_)
  · have h := h.1 hc
    refine x_iconst (pc := 15) C dX1_weightOf_15 ?_
    exact hret _ _ _ _ dX1_weightOf_16 trivial h
  · have h := h.2 hc
    refine x_aload_n (pc := 8) (i := 0) C dX1_weightOf_8 rfl 0 rfl ?_
    refine mg_7 (pc := 9) C dX1_weightOf_9 ?_
    refine x_goto (pc := 12) C 16 dX1_weightOf_12 (by decide) ?_
    exact hret _ _ _ _ dX1_weightOf_16 trivial h
theorem mt_X1_weightOf (G : gG) (a1 : Int) (σ : gS) (post : Int → gS → Prop) (h : Ok_X1_weightOf a1 σ post) : gMetI G yX1_weightOf (ws_ yX1_weightOf cX1_weightOf 2 (some .int)) 1 (MW G) [.int (iI a1)] σ post :=
  gMetI.ofW (own := RX1) (by decide +kernel) rfl (Nat.le_of_ble_eq_true rfl) rfl (fun _ => True) (fun z _ => vp_nar_int (iI z)) (fun X C hret => wk_X1_weightOf G X C a1 σ post hret h)
set_option maxHeartbeats 4000000 in
theorem wk_X1_valueOf (G : gG) (X : gX) (C : gC G X cX1_valueOf 2 RX1 1) (a1 : Int) (σ : gS) (post : Int → gS → Prop) (hret : ∀ (z : Int) (u : gS) (pc : Nat) (ls : List (Nat × Value)), decode cX1_valueOf pc = .ok (.ireturn, 1) → (True) → post z u → gAt G X (MW G) 2 pc ls [.int (iI z)] u) (h : Ok_X1_valueOf a1 σ post) : gAt G X (MW G) 2 0 [(0, .ref (g_h G)), (1, .int (iI a1))] [] σ := by
  unfold Ok_X1_valueOf at h
  refine x_aload_n (pc := 0) (i := 0) C dX1_valueOf_0 rfl 0 rfl ?_
  refine x_iload_n (pc := 1) (i := 1) C dX1_valueOf_1 rfl 1 rfl ?_
  refine x_calli (pc := 2) (n := 1) (As := [.int (iI a1)]) (st := []) C (mt_X1_choice G a1 σ _ h) (lw_V q259 q261 qs15 q24 q262) (by decide +kernel) ⟨by decide, by decide⟩ rfl rfl rfl rfl (Nat.le_of_ble_eq_true rfl) dX1_valueOf_2 (fun r2 s2 h => ?_)
  obtain ⟨o1, h⟩ := h
  refine x_if_eq (pc := 5) C 15 dX1_valueOf_5 (by decide) o1 (fun hc => ?_) (fun hc => ?_)
  · have h := h.1 hc
    refine x_iconst (pc := 15) C dX1_valueOf_15 ?_
    exact hret _ _ _ _ dX1_valueOf_16 trivial h
  · have h := h.2 hc
    refine x_aload_n (pc := 8) (i := 0) C dX1_valueOf_8 rfl 0 rfl ?_
    refine mg_8 (pc := 9) C dX1_valueOf_9 ?_
    refine x_goto (pc := 12) C 16 dX1_valueOf_12 (by decide) ?_
    exact hret _ _ _ _ dX1_valueOf_16 trivial h
theorem mt_X1_valueOf (G : gG) (a1 : Int) (σ : gS) (post : Int → gS → Prop) (h : Ok_X1_valueOf a1 σ post) : gMetI G yX1_valueOf (ws_ yX1_valueOf cX1_valueOf 2 (some .int)) 1 (MW G) [.int (iI a1)] σ post :=
  gMetI.ofW (own := RX1) (by decide +kernel) rfl (Nat.le_of_ble_eq_true rfl) rfl (fun _ => True) (fun z _ => vp_nar_int (iI z)) (fun X C hret => wk_X1_valueOf G X C a1 σ post hret h)
set_option maxHeartbeats 4000000 in
theorem wk_X1_end (G : gG) (X : gX) (C : gC G X cX1_end 3 RX1 0) (σ : gS) (post : Int → gS → Prop) (hret : ∀ (z : Int) (u : gS) (pc : Nat) (ls : List (Nat × Value)), decode cX1_end pc = .ok (.ireturn, 1) → (True) → post z u → gAt G X (MW G) 3 pc ls [.int (iI z)] u) (h : Ok_X1_end  σ post) : gAt G X (MW G) 3 0 [(0, .ref (g_h G))] [] σ := by
  have h := h (fun (x1 x2 : Int) (σ : gS) => gAt G X (MW G) 3 4 [(0, .ref (g_h G)), (1, .int (iI x1)), (2, .int (iI x2))] [] σ)
  have h := h (by
    intro x1 x2 σ h
    refine x_iload_n (pc := 4) (i := 2) C dX1_end_4 rfl 2 rfl ?_
    refine x_aload_n (pc := 5) (i := 0) C dX1_end_5 rfl 0 rfl ?_
    refine mg_0 (pc := 6) C dX1_end_6 ?_
    obtain ⟨o1, o2, h⟩ := h
    refine x_icmp_ge (pc := 9) C 22 dX1_end_9 (by decide) o1 o2 (fun hc => ?_) (fun hc => ?_)
    · have h := h.1 hc
      refine x_iload_n (pc := 22) (i := 1) C dX1_end_22 rfl 1 rfl ?_
      exact hret _ _ _ _ dX1_end_23 trivial h
    · have h := h.2 hc
      refine x_iconst (pc := 12) C dX1_end_12 ?_
      refine x_iload_n (pc := 13) (i := 1) C dX1_end_13 rfl 1 rfl ?_
      refine x_imul (pc := 14) C dX1_end_14 ?_
      have h := h _ rfl
      refine x_istore_n (pc := 15) (i := 1) (ls' := [(1, .int (iI (3 * x1))), (0, .ref (g_h G)), (2, .int (iI x2))]) C dX1_end_15 rfl (by decide) rfl ?_
      refine x_iinc (pc := 16) (ls' := [(2, .int (iI (x2 + 1))), (1, .int (iI (3 * x1))), (0, .ref (g_h G))]) C dX1_end_16 2 rfl (by decide) rfl ?_
      refine x_goto (pc := 19) C 4 dX1_end_19 (by decide) ?_
      exact x_pick [2, 1, 0] rfl h)
  refine x_iconst (pc := 0) C dX1_end_0 ?_
  refine x_istore_n (pc := 1) (i := 1) (ls' := [(1, .int (iI 1)), (0, .ref (g_h G))]) C dX1_end_1 rfl (by decide) rfl ?_
  refine x_iconst (pc := 2) C dX1_end_2 ?_
  refine x_istore_n (pc := 3) (i := 2) (ls' := [(2, .int (iI 0)), (1, .int (iI 1)), (0, .ref (g_h G))]) C dX1_end_3 rfl (by decide) rfl ?_
  exact x_pick [2, 1, 0] rfl h
theorem mt_X1_end (G : gG) (σ : gS) (post : Int → gS → Prop) (h : Ok_X1_end  σ post) : gMetI G yX1_end (ws_ yX1_end cX1_end 3 (some .int)) 0 (MW G) [] σ post :=
  gMetI.ofW (own := RX1) (by decide +kernel) rfl (Nat.le_of_ble_eq_true rfl) rfl (fun _ => True) (fun z _ => vp_nar_int (iI z)) (fun X C hret => wk_X1_end G X C  σ post hret h)
set_option maxHeartbeats 4000000 in
theorem wk_X1_strict (G : gG) (X : gX) (C : gC G X cX1_strict 3 RX1 0) (σ : gS) (post : Int → gS → Prop) (hret : ∀ (z : Int) (u : gS) (pc : Nat) (ls : List (Nat × Value)), decode cX1_strict pc = .ok (.ireturn, 1) → (z = 0 ∨ z = 1) → post z u → gAt G X (MW G) 3 pc ls [.int (iI z)] u) (h : Ok_X1_strict  σ post) : gAt G X (MW G) 3 0 [(0, .ref (g_h G))] [] σ := by
  have h := h (fun (x1 : Int) (σ : gS) => gAt G X (MW G) 3 2 [(0, .ref (g_h G)), (1, .int (iI x1))] [] σ) (fun (x1 x2 : Int) (σ : gS) => gAt G X (MW G) 3 18 [(0, .ref (g_h G)), (1, .int (iI x1)), (2, .int (iI x2))] [] σ)
  have h := h (by
    intro x1 σ h
    refine x_iload_n (pc := 2) (i := 1) C dX1_strict_2 rfl 1 rfl ?_
    refine x_aload_n (pc := 3) (i := 0) C dX1_strict_3 rfl 0 rfl ?_
    refine mg_0 (pc := 4) C dX1_strict_4 ?_
    obtain ⟨o1, o2, h⟩ := h
    refine x_icmp_ge (pc := 7) C 70 dX1_strict_7 (by decide) o1 o2 (fun hc => ?_) (fun hc => ?_)
    · have h := h.1 hc
      refine x_iconst (pc := 70) C dX1_strict_70 ?_
      exact hret _ _ _ _ dX1_strict_71 (Or.inr rfl) h
    · have h := h.2 hc
      refine x_iload_n (pc := 10) (i := 1) C dX1_strict_10 rfl 1 rfl ?_
      refine x_bipush (pc := 11) C dX1_strict_11 (by decide) ?_
      refine x_icmp_ge (pc := 13) C 70 dX1_strict_13 (by decide) o1 (by decide) (fun hc => ?_) (fun hc => ?_)
      · have h := h.1 hc
        refine x_iconst (pc := 70) C dX1_strict_70 ?_
        exact hret _ _ _ _ dX1_strict_71 (Or.inr rfl) h
      · have h := h.2 hc
        refine x_iconst (pc := 16) C dX1_strict_16 ?_
        refine x_istore_n (pc := 17) (i := 2) (ls' := [(2, .int (iI 0)), (0, .ref (g_h G)), (1, .int (iI x1))]) C dX1_strict_17 rfl (by decide) rfl ?_
        exact x_pick [1, 2, 0] rfl h)
  have h := h (by
    intro x1 x2 σ h
    refine x_iload_n (pc := 18) (i := 2) C dX1_strict_18 rfl 2 rfl ?_
    refine x_iload_n (pc := 19) (i := 1) C dX1_strict_19 rfl 1 rfl ?_
    obtain ⟨o1, o2, h⟩ := h
    refine x_icmp_ge (pc := 20) C 64 dX1_strict_20 (by decide) o1 o2 (fun hc => ?_) (fun hc => ?_)
    · have h := h.1 hc
      refine x_iinc (pc := 64) (ls' := [(1, .int (iI (x1 + 1))), (0, .ref (g_h G)), (2, .int (iI x2))]) C dX1_strict_64 1 rfl (by decide) rfl ?_
      refine x_goto (pc := 67) C 2 dX1_strict_67 (by decide) ?_
      exact x_pick [1, 0] rfl h
    · have h := h.2 hc
      refine x_aload_n (pc := 23) (i := 0) C dX1_strict_23 rfl 0 rfl ?_
      refine mg_6 (pc := 24) C dX1_strict_24 ?_
      refine x_iload_n (pc := 27) (i := 1) C dX1_strict_27 rfl 1 rfl ?_
      obtain ⟨o3, h⟩ := h
      refine ml_6 (pc := 28) C dX1_strict_28 o3 ?_
      obtain ⟨o4, h⟩ := h
      refine x_if_le (pc := 29) C 58 dX1_strict_29 (by decide) o4 (fun hc => ?_) (fun hc => ?_)
      · have h := h.1 hc
        refine x_iinc (pc := 58) (ls' := [(2, .int (iI (x2 + 1))), (0, .ref (g_h G)), (1, .int (iI x1))]) C dX1_strict_58 2 rfl (by decide) rfl ?_
        refine x_goto (pc := 61) C 18 dX1_strict_61 (by decide) ?_
        exact x_pick [1, 2, 0] rfl h
      · have h := h.2 hc
        refine x_aload_n (pc := 32) (i := 0) C dX1_strict_32 rfl 0 rfl ?_
        refine mg_6 (pc := 33) C dX1_strict_33 ?_
        refine x_iload_n (pc := 36) (i := 2) C dX1_strict_36 rfl 2 rfl ?_
        obtain ⟨o5, h⟩ := h
        refine ml_6 (pc := 37) C dX1_strict_37 o5 ?_
        obtain ⟨o6, h⟩ := h
        refine x_if_le (pc := 38) C 58 dX1_strict_38 (by decide) o6 (fun hc => ?_) (fun hc => ?_)
        · have h := h.1 hc
          refine x_iinc (pc := 58) (ls' := [(2, .int (iI (x2 + 1))), (0, .ref (g_h G)), (1, .int (iI x1))]) C dX1_strict_58 2 rfl (by decide) rfl ?_
          refine x_goto (pc := 61) C 18 dX1_strict_61 (by decide) ?_
          exact x_pick [1, 2, 0] rfl h
        · have h := h.2 hc
          refine x_aload_n (pc := 41) (i := 0) C dX1_strict_41 rfl 0 rfl ?_
          refine mg_4 (pc := 42) C dX1_strict_42 ?_
          refine x_iload_n (pc := 45) (i := 1) C dX1_strict_45 rfl 1 rfl ?_
          refine ml_4 (pc := 46) C dX1_strict_46 o3 ?_
          refine x_aload_n (pc := 47) (i := 0) C dX1_strict_47 rfl 0 rfl ?_
          refine mg_4 (pc := 48) C dX1_strict_48 ?_
          refine x_iload_n (pc := 51) (i := 2) C dX1_strict_51 rfl 2 rfl ?_
          refine ml_4 (pc := 52) C dX1_strict_52 o5 ?_
          obtain ⟨o7, o8, h⟩ := h
          refine x_icmp_ne (pc := 53) C 58 dX1_strict_53 (by decide) o7 o8 (fun hc => ?_) (fun hc => ?_)
          · have h := h.1 hc
            refine x_iinc (pc := 58) (ls' := [(2, .int (iI (x2 + 1))), (0, .ref (g_h G)), (1, .int (iI x1))]) C dX1_strict_58 2 rfl (by decide) rfl ?_
            refine x_goto (pc := 61) C 18 dX1_strict_61 (by decide) ?_
            exact x_pick [1, 2, 0] rfl h
          · have h := h.2 hc
            refine x_iconst (pc := 56) C dX1_strict_56 ?_
            exact hret _ _ _ _ dX1_strict_57 (Or.inl rfl) h)
  refine x_iconst (pc := 0) C dX1_strict_0 ?_
  refine x_istore_n (pc := 1) (i := 1) (ls' := [(1, .int (iI 0)), (0, .ref (g_h G))]) C dX1_strict_1 rfl (by decide) rfl ?_
  exact x_pick [1, 0] rfl h
theorem mt_X1_strict (G : gG) (σ : gS) (post : Int → gS → Prop) (h : Ok_X1_strict  σ post) : gMetI G yX1_strict (ws_ yX1_strict cX1_strict 3 (some .boolean)) 0 (MW G) [] σ post :=
  gMetI.ofW (own := RX1) (by decide +kernel) rfl (Nat.le_of_ble_eq_true rfl) rfl (fun z => z = 0 ∨ z = 1) (fun z hz => gNarrow hz) (fun X C hret => wk_X1_strict G X C  σ post hret h)
set_option maxHeartbeats 4000000 in
theorem wk_X1_search (G : gG) (X : gX) (C : gC G X cX1_search 9 RX1 1) (a1 a2 : Int) (σ : gS) (post : Int → gS → Prop) (hret : ∀ (z : Int) (u : gS) (pc : Nat) (ls : List (Nat × Value)), decode cX1_search pc = .ok (.ireturn, 1) → (True) → post z u → gAt G X (MW G) 9 pc ls [.int (iI z)] u) (h : Ok_X1_search a1 a2 σ post) : gAt G X (MW G) 9 0 [(0, .ref (g_h G)), (1, .int (iI a1)), (2, .int (iI a2))] [] σ := by
  have h := h (fun (x3 x4 x5 x6 x7 : Int) (σ : gS) => gAt G X (MW G) 9 17 [(0, .ref (g_h G)), (1, .int (iI a1)), (2, .int (iI a2)), (3, .int (iI x3)), (4, .int (iI x4)), (5, .int (iI x5)), (6, .int (iI x6)), (7, .int (iI x7))] [] σ) (fun (x3 x4 x5 x6 x7 t0 : Int) (σ : gS) => gAt G X (MW G) 9 59 [(0, .ref (g_h G)), (1, .int (iI a1)), (2, .int (iI a2)), (3, .int (iI x3)), (4, .int (iI x4)), (5, .int (iI x5)), (6, .int (iI x6)), (7, .int (iI x7))] [.int (iI t0)] σ) (fun (x3 x4 x5 x6 x7 : Int) (σ : gS) => gAt G X (MW G) 9 79 [(0, .ref (g_h G)), (1, .int (iI a1)), (2, .int (iI a2)), (3, .int (iI x3)), (4, .int (iI x4)), (5, .int (iI x5)), (6, .int (iI x6)), (7, .int (iI x7))] [] σ)
  have h := h (by
    intro x3 x4 x5 x6 x7 σ h
    refine x_iload (pc := 17) C dX1_search_17 7 rfl ?_
    refine x_iload_n (pc := 19) (i := 3) C dX1_search_19 rfl 3 rfl ?_
    obtain ⟨o1, o2, h⟩ := h
    refine x_icmp_ge (pc := 20) C 128 dX1_search_20 (by decide) o1 o2 (fun hc => ?_) (fun hc => ?_)
    · have h := h.1 hc
      refine x_iload (pc := 128) C dX1_search_128 4 rfl ?_
      exact hret _ _ _ _ dX1_search_130 trivial h
    · have h := h.2 hc
      refine x_aload_n (pc := 23) (i := 0) C dX1_search_23 rfl 0 rfl ?_
      refine x_iload (pc := 24) C dX1_search_24 7 rfl ?_
      refine x_calli (pc := 26) (n := 1) (As := [.int (iI x7)]) (st := []) C (mt_X1_choice G x7 σ _ h) (lw_V q259 q261 qs15 q24 q262) (by decide +kernel) ⟨by decide, by decide⟩ rfl rfl rfl rfl (Nat.le_of_ble_eq_true rfl) dX1_search_26 (fun r26 s26 h => ?_)
      obtain ⟨o3, h⟩ := h
      refine x_if_eq (pc := 29) C 58 dX1_search_29 (by decide) o3 (fun hc => ?_) (fun hc => ?_)
      · have h := h.1 hc
        refine x_iconst (pc := 58) C dX1_search_58 ?_
        exact x_pick [0, 1, 2, 3, 4, 5, 6, 7] rfl h
      · have h := h.2 hc
        refine x_aload_n (pc := 32) (i := 0) C dX1_search_32 rfl 0 rfl ?_
        refine mg_7 (pc := 33) C dX1_search_33 ?_
        refine x_aload_n (pc := 36) (i := 0) C dX1_search_36 rfl 0 rfl ?_
        refine mg_5 (pc := 37) C dX1_search_37 ?_
        obtain ⟨o4, o5, h⟩ := h
        refine x_icmp_gt (pc := 40) C 58 dX1_search_40 (by decide) o4 o5 (fun hc => ?_) (fun hc => ?_)
        · have h := h.1 hc
          refine x_iconst (pc := 58) C dX1_search_58 ?_
          exact x_pick [0, 1, 2, 3, 4, 5, 6, 7] rfl h
        · have h := h.2 hc
          refine x_iload_n (pc := 43) (i := 1) C dX1_search_43 rfl 1 rfl ?_
          obtain ⟨o6, h⟩ := h
          refine x_if_eq (pc := 44) C 54 dX1_search_44 (by decide) o6 (fun hc => ?_) (fun hc => ?_)
          · have h := h.1 hc
            refine x_iconst (pc := 54) C dX1_search_54 ?_
            refine x_goto (pc := 55) C 59 dX1_search_55 (by decide) ?_
            exact x_pick [0, 1, 2, 3, 4, 5, 6, 7] rfl h
          · have h := h.2 hc
            refine x_aload_n (pc := 47) (i := 0) C dX1_search_47 rfl 0 rfl ?_
            refine x_calli (pc := 48) (n := 0) (As := []) (st := []) C (mt_X1_strict G  s26 _ h) (lw_V q279 q281 qs18 q24 q282) (by decide +kernel) ⟨by decide, by decide⟩ rfl rfl rfl rfl (Nat.le_of_ble_eq_true rfl) dX1_search_48 (fun r48 s48 h => ?_)
            obtain ⟨o7, h⟩ := h
            refine x_if_eq (pc := 51) C 58 dX1_search_51 (by decide) o7 (fun hc => ?_) (fun hc => ?_)
            · have h := h.1 hc
              refine x_iconst (pc := 58) C dX1_search_58 ?_
              exact x_pick [0, 1, 2, 3, 4, 5, 6, 7] rfl h
            · have h := h.2 hc
              refine x_iconst (pc := 54) C dX1_search_54 ?_
              refine x_goto (pc := 55) C 59 dX1_search_55 (by decide) ?_
              exact x_pick [0, 1, 2, 3, 4, 5, 6, 7] rfl h)
  have h := h (by
    intro x3 x4 x5 x6 x7 t0 σ h
    refine x_istore (pc := 59) (ls' := [(8, .int (iI t0)), (0, .ref (g_h G)), (1, .int (iI a1)), (2, .int (iI a2)), (3, .int (iI x3)), (4, .int (iI x4)), (5, .int (iI x5)), (6, .int (iI x6)), (7, .int (iI x7))]) C dX1_search_59 (by decide) rfl ?_
    refine x_iload (pc := 61) C dX1_search_61 0 rfl ?_
    obtain ⟨o1, h⟩ := h
    refine x_if_eq (pc := 63) C 122 dX1_search_63 (by decide) o1 (fun hc => ?_) (fun hc => ?_)
    · have h := h.1 hc
      refine x_iinc (pc := 122) (ls' := [(7, .int (iI (x7 + 1))), (8, .int (iI t0)), (0, .ref (g_h G)), (1, .int (iI a1)), (2, .int (iI a2)), (3, .int (iI x3)), (4, .int (iI x4)), (5, .int (iI x5)), (6, .int (iI x6))]) C dX1_search_122 8 rfl (by decide) rfl ?_
      refine x_goto (pc := 125) C 17 dX1_search_125 (by decide) ?_
      exact x_pick [2, 3, 4, 5, 6, 7, 8, 0] rfl h
    · have h := h.2 hc
      refine x_iload_n (pc := 66) (i := 2) C dX1_search_66 rfl 3 rfl ?_
      obtain ⟨o2, h⟩ := h
      refine x_if_lt (pc := 67) C 79 dX1_search_67 (by decide) o2 (fun hc => ?_) (fun hc => ?_)
      · have h := h.1 hc
        exact x_pick [1, 2, 3, 4, 5, 6, 7, 8] rfl h
      · have h := h.2 hc
        refine x_aload_n (pc := 70) (i := 0) C dX1_search_70 rfl 1 rfl ?_
        refine mg_6 (pc := 71) C dX1_search_71 ?_
        refine x_iload_n (pc := 74) (i := 2) C dX1_search_74 rfl 3 rfl ?_
        obtain ⟨o3, h⟩ := h
        refine ml_6 (pc := 75) C dX1_search_75 o3 ?_
        obtain ⟨o4, h⟩ := h
        refine x_if_ne (pc := 76) C 122 dX1_search_76 (by decide) o4 (fun hc => ?_) (fun hc => ?_)
        · have h := h.1 hc
          refine x_iinc (pc := 122) (ls' := [(7, .int (iI (x7 + 1))), (8, .int (iI t0)), (0, .ref (g_h G)), (1, .int (iI a1)), (2, .int (iI a2)), (3, .int (iI x3)), (4, .int (iI x4)), (5, .int (iI x5)), (6, .int (iI x6))]) C dX1_search_122 8 rfl (by decide) rfl ?_
          refine x_goto (pc := 125) C 17 dX1_search_125 (by decide) ?_
          exact x_pick [2, 3, 4, 5, 6, 7, 8, 0] rfl h
        · have h := h.2 hc
          exact x_pick [1, 2, 3, 4, 5, 6, 7, 8] rfl h)
  have h := h (by
    intro x3 x4 x5 x6 x7 σ h
    refine x_aload_n (pc := 79) (i := 0) C dX1_search_79 rfl 0 rfl ?_
    refine mg_8 (pc := 80) C dX1_search_80 ?_
    refine x_iload (pc := 83) C dX1_search_83 5 rfl ?_
    obtain ⟨o1, o2, h⟩ := h
    refine x_icmp_gt (pc := 85) C 106 dX1_search_85 (by decide) o1 o2 (fun hc => ?_) (fun hc => ?_)
    · have h := h.1 hc
      refine x_iload (pc := 106) C dX1_search_106 7 rfl ?_
      refine x_istore (pc := 108) (ls' := [(4, .int (iI x7)), (0, .ref (g_h G)), (1, .int (iI a1)), (2, .int (iI a2)), (3, .int (iI x3)), (5, .int (iI x5)), (6, .int (iI x6)), (7, .int (iI x7))]) C dX1_search_108 (by decide) rfl ?_
      refine x_aload_n (pc := 110) (i := 0) C dX1_search_110 rfl 1 rfl ?_
      refine mg_8 (pc := 111) C dX1_search_111 ?_
      have h := h _ rfl
      refine x_istore (pc := 114) (ls' := [(5, .int (iI (σ 8 0))), (4, .int (iI x7)), (0, .ref (g_h G)), (1, .int (iI a1)), (2, .int (iI a2)), (3, .int (iI x3)), (6, .int (iI x6)), (7, .int (iI x7))]) C dX1_search_114 (by decide) rfl ?_
      refine x_aload_n (pc := 116) (i := 0) C dX1_search_116 rfl 2 rfl ?_
      refine mg_7 (pc := 117) C dX1_search_117 ?_
      have h := h _ rfl
      refine x_istore (pc := 120) (ls' := [(6, .int (iI (σ 7 0))), (5, .int (iI (σ 8 0))), (4, .int (iI x7)), (0, .ref (g_h G)), (1, .int (iI a1)), (2, .int (iI a2)), (3, .int (iI x3)), (7, .int (iI x7))]) C dX1_search_120 (by decide) rfl ?_
      refine x_iinc (pc := 122) (ls' := [(7, .int (iI (x7 + 1))), (6, .int (iI (σ 7 0))), (5, .int (iI (σ 8 0))), (4, .int (iI x7)), (0, .ref (g_h G)), (1, .int (iI a1)), (2, .int (iI a2)), (3, .int (iI x3))]) C dX1_search_122 7 rfl (by decide) rfl ?_
      refine x_goto (pc := 125) C 17 dX1_search_125 (by decide) ?_
      exact x_pick [4, 5, 6, 7, 3, 2, 1, 0] rfl h
    · have h := h.2 hc
      refine x_aload_n (pc := 88) (i := 0) C dX1_search_88 rfl 0 rfl ?_
      refine mg_8 (pc := 89) C dX1_search_89 ?_
      refine x_iload (pc := 92) C dX1_search_92 5 rfl ?_
      refine x_icmp_ne (pc := 94) C 122 dX1_search_94 (by decide) o1 o2 (fun hc => ?_) (fun hc => ?_)
      · have h := h.1 hc
        refine x_iinc (pc := 122) (ls' := [(7, .int (iI (x7 + 1))), (0, .ref (g_h G)), (1, .int (iI a1)), (2, .int (iI a2)), (3, .int (iI x3)), (4, .int (iI x4)), (5, .int (iI x5)), (6, .int (iI x6))]) C dX1_search_122 7 rfl (by decide) rfl ?_
        refine x_goto (pc := 125) C 17 dX1_search_125 (by decide) ?_
        exact x_pick [1, 2, 3, 4, 5, 6, 7, 0] rfl h
      · have h := h.2 hc
        refine x_aload_n (pc := 97) (i := 0) C dX1_search_97 rfl 0 rfl ?_
        refine mg_7 (pc := 98) C dX1_search_98 ?_
        refine x_iload (pc := 101) C dX1_search_101 6 rfl ?_
        obtain ⟨o3, o4, h⟩ := h
        refine x_icmp_ge (pc := 103) C 122 dX1_search_103 (by decide) o3 o4 (fun hc => ?_) (fun hc => ?_)
        · have h := h.1 hc
          refine x_iinc (pc := 122) (ls' := [(7, .int (iI (x7 + 1))), (0, .ref (g_h G)), (1, .int (iI a1)), (2, .int (iI a2)), (3, .int (iI x3)), (4, .int (iI x4)), (5, .int (iI x5)), (6, .int (iI x6))]) C dX1_search_122 7 rfl (by decide) rfl ?_
          refine x_goto (pc := 125) C 17 dX1_search_125 (by decide) ?_
          exact x_pick [1, 2, 3, 4, 5, 6, 7, 0] rfl h
        · have h := h.2 hc
          refine x_iload (pc := 106) C dX1_search_106 7 rfl ?_
          refine x_istore (pc := 108) (ls' := [(4, .int (iI x7)), (0, .ref (g_h G)), (1, .int (iI a1)), (2, .int (iI a2)), (3, .int (iI x3)), (5, .int (iI x5)), (6, .int (iI x6)), (7, .int (iI x7))]) C dX1_search_108 (by decide) rfl ?_
          refine x_aload_n (pc := 110) (i := 0) C dX1_search_110 rfl 1 rfl ?_
          refine mg_8 (pc := 111) C dX1_search_111 ?_
          have h := h _ rfl
          refine x_istore (pc := 114) (ls' := [(5, .int (iI (σ 8 0))), (4, .int (iI x7)), (0, .ref (g_h G)), (1, .int (iI a1)), (2, .int (iI a2)), (3, .int (iI x3)), (6, .int (iI x6)), (7, .int (iI x7))]) C dX1_search_114 (by decide) rfl ?_
          refine x_aload_n (pc := 116) (i := 0) C dX1_search_116 rfl 2 rfl ?_
          refine mg_7 (pc := 117) C dX1_search_117 ?_
          have h := h _ rfl
          refine x_istore (pc := 120) (ls' := [(6, .int (iI (σ 7 0))), (5, .int (iI (σ 8 0))), (4, .int (iI x7)), (0, .ref (g_h G)), (1, .int (iI a1)), (2, .int (iI a2)), (3, .int (iI x3)), (7, .int (iI x7))]) C dX1_search_120 (by decide) rfl ?_
          refine x_iinc (pc := 122) (ls' := [(7, .int (iI (x7 + 1))), (6, .int (iI (σ 7 0))), (5, .int (iI (σ 8 0))), (4, .int (iI x7)), (0, .ref (g_h G)), (1, .int (iI a1)), (2, .int (iI a2)), (3, .int (iI x3))]) C dX1_search_122 7 rfl (by decide) rfl ?_
          refine x_goto (pc := 125) C 17 dX1_search_125 (by decide) ?_
          exact x_pick [4, 5, 6, 7, 3, 2, 1, 0] rfl h)
  refine x_aload_n (pc := 0) (i := 0) C dX1_search_0 rfl 0 rfl ?_
  refine x_calli (pc := 1) (n := 0) (As := []) (st := []) C (mt_X1_end G  σ _ h) (lw_V q275 q277 qs17 q24 q278) (by decide +kernel) ⟨by decide, by decide⟩ rfl rfl rfl rfl (Nat.le_of_ble_eq_true rfl) dX1_search_1 (fun r1 s1 h => ?_)
  refine x_istore_n (pc := 4) (i := 3) (ls' := [(3, .int (iI r1)), (0, .ref (g_h G)), (1, .int (iI a1)), (2, .int (iI a2))]) C dX1_search_4 rfl (by decide) rfl ?_
  refine x_iconst (pc := 5) C dX1_search_5 ?_
  refine x_istore (pc := 6) (ls' := [(4, .int (iI 0)), (3, .int (iI r1)), (0, .ref (g_h G)), (1, .int (iI a1)), (2, .int (iI a2))]) C dX1_search_6 (by decide) rfl ?_
  refine x_iconst (pc := 8) C dX1_search_8 ?_
  refine x_istore (pc := 9) (ls' := [(5, .int (iI 0)), (4, .int (iI 0)), (3, .int (iI r1)), (0, .ref (g_h G)), (1, .int (iI a1)), (2, .int (iI a2))]) C dX1_search_9 (by decide) rfl ?_
  refine x_iconst (pc := 11) C dX1_search_11 ?_
  refine x_istore (pc := 12) (ls' := [(6, .int (iI 0)), (5, .int (iI 0)), (4, .int (iI 0)), (3, .int (iI r1)), (0, .ref (g_h G)), (1, .int (iI a1)), (2, .int (iI a2))]) C dX1_search_12 (by decide) rfl ?_
  refine x_iconst (pc := 14) C dX1_search_14 ?_
  refine x_istore (pc := 15) (ls' := [(7, .int (iI 0)), (6, .int (iI 0)), (5, .int (iI 0)), (4, .int (iI 0)), (3, .int (iI r1)), (0, .ref (g_h G)), (1, .int (iI a1)), (2, .int (iI a2))]) C dX1_search_15 (by decide) rfl ?_
  exact x_pick [5, 6, 7, 4, 3, 2, 1, 0] rfl h
theorem mt_X1_search (G : gG) (a1 a2 : Int) (σ : gS) (post : Int → gS → Prop) (h : Ok_X1_search a1 a2 σ post) : gMetI G yX1_search (ws_ yX1_search cX1_search 9 (some .int)) 1 (MW G) [.int (iI a1), .int (iI a2)] σ post :=
  gMetI.ofW (own := RX1) (by decide +kernel) rfl (Nat.le_of_ble_eq_true rfl) rfl (fun _ => True) (fun z _ => vp_nar_int (iI z)) (fun X C hret => wk_X1_search G X C a1 a2 σ post hret h)
end
section
set_option maxRecDepth 100000
set_option maxHeartbeats 4000000 in
theorem wk_X1_valueAt (G : gG) (X : gX) (C : gC G X cX1_valueAt 2 RX1 1) (a1 : Int) (σ : gS) (post : Int → gS → Prop) (hret : ∀ (z : Int) (u : gS) (pc : Nat) (ls : List (Nat × Value)), decode cX1_valueAt pc = .ok (.ireturn, 1) → (True) → post z u → gAt G X (MW G) 2 pc ls [.int (iI z)] u) (h : Ok_X1_valueAt a1 σ post) : gAt G X (MW G) 2 0 [(0, .ref (g_h G)), (1, .int (iI a1))] [] σ := by
  unfold Ok_X1_valueAt at h
  refine x_aload_n (pc := 0) (i := 0) C dX1_valueAt_0 rfl 0 rfl ?_
  refine x_iload_n (pc := 1) (i := 1) C dX1_valueAt_1 rfl 1 rfl ?_
  refine x_calli (pc := 2) (n := 1) (As := [.int (iI a1)]) (st := []) C (mt_X1_choice G a1 σ _ h) (lw_V q259 q261 qs15 q24 q262) (by decide +kernel) ⟨by decide, by decide⟩ rfl rfl rfl rfl (Nat.le_of_ble_eq_true rfl) dX1_valueAt_2 (fun r2 s2 h => ?_)
  obtain ⟨o1, h⟩ := h
  refine x_if_eq (pc := 5) C 15 dX1_valueAt_5 (by decide) o1 (fun hc => ?_) (fun hc => ?_)
  · have h := h.1 hc
    refine x_iconst (pc := 15) C dX1_valueAt_15 ?_
    exact hret _ _ _ _ dX1_valueAt_16 trivial h
  · have h := h.2 hc
    refine x_aload_n (pc := 8) (i := 0) C dX1_valueAt_8 rfl 0 rfl ?_
    refine mg_8 (pc := 9) C dX1_valueAt_9 ?_
    refine x_goto (pc := 12) C 16 dX1_valueAt_12 (by decide) ?_
    exact hret _ _ _ _ dX1_valueAt_16 trivial h
theorem mt_X1_valueAt (G : gG) (a1 : Int) (σ : gS) (post : Int → gS → Prop) (h : Ok_X1_valueAt a1 σ post) : gMetI G yX1_valueAt (ws_ yX1_valueAt cX1_valueAt 2 (some .int)) 1 (MW G) [.int (iI a1)] σ post :=
  gMetI.ofW (own := RX1) (by decide +kernel) rfl (Nat.le_of_ble_eq_true rfl) rfl (fun _ => True) (fun z _ => vp_nar_int (iI z)) (fun X C hret => wk_X1_valueAt G X C a1 σ post hret h)
set_option maxHeartbeats 4000000 in
theorem wk_X1_best (G : gG) (X : gX) (C : gC G X cX1_best 2 RX1 2) (σ : gS) (post : Int → gS → Prop) (hret : ∀ (z : Int) (u : gS) (pc : Nat) (ls : List (Nat × Value)), decode cX1_best pc = .ok (.ireturn, 1) → (True) → post z u → gAt G X (MW G) 2 pc ls [.int (iI z)] u) (h : Ok_X1_best  σ post) : gAt G X (MW G) 2 0 [(0, .ref (g_h G))] [] σ := by
  unfold Ok_X1_best at h
  refine x_aload_n (pc := 0) (i := 0) C dX1_best_0 rfl 0 rfl ?_
  refine x_iconst (pc := 1) C dX1_best_1 ?_
  refine x_iconst (pc := 2) C dX1_best_2 ?_
  refine x_calli (pc := 3) (n := 2) (As := [.int (iI 0), .int (iI (-1))]) (st := []) C (mt_X1_search G 0 (-1) σ _ h) (lw_V q271 q273 qs16 q24 q274) (by decide +kernel) ⟨by decide, by decide⟩ rfl rfl rfl rfl (Nat.le_of_ble_eq_true rfl) dX1_best_3 (fun r3 s3 h => ?_)
  refine x_istore_n (pc := 6) (i := 1) (ls' := [(1, .int (iI r3)), (0, .ref (g_h G))]) C dX1_best_6 rfl (by decide) rfl ?_
  refine x_aload_n (pc := 7) (i := 0) C dX1_best_7 rfl 1 rfl ?_
  refine x_iload_n (pc := 8) (i := 1) C dX1_best_8 rfl 0 rfl ?_
  refine x_calli (pc := 9) (n := 1) (As := [.int (iI r3)]) (st := []) C (mt_X1_valueAt G r3 s3 _ h) (lw_V q283 q285 qs19 q24 q286) (by decide +kernel) ⟨by decide, by decide⟩ rfl rfl rfl rfl (Nat.le_of_ble_eq_true rfl) dX1_best_9 (fun r9 s9 h => ?_)
  exact hret _ _ _ _ dX1_best_12 trivial h
theorem mt_X1_best (G : gG) (σ : gS) (post : Int → gS → Prop) (h : Ok_X1_best  σ post) : gMetI G yX1_best (ws_ yX1_best cX1_best 2 (some .int)) 2 (MW G) [] σ post :=
  gMetI.ofW (own := RX1) (by decide +kernel) rfl (Nat.le_of_ble_eq_true rfl) rfl (fun _ => True) (fun z _ => vp_nar_int (iI z)) (fun X C hret => wk_X1_best G X C  σ post hret h)
set_option maxHeartbeats 4000000 in
theorem wk_X1_bestCode (G : gG) (X : gX) (C : gC G X cX1_bestCode 1 RX1 2) (σ : gS) (post : Int → gS → Prop) (hret : ∀ (z : Int) (u : gS) (pc : Nat) (ls : List (Nat × Value)), decode cX1_bestCode pc = .ok (.ireturn, 1) → (True) → post z u → gAt G X (MW G) 1 pc ls [.int (iI z)] u) (h : Ok_X1_bestCode  σ post) : gAt G X (MW G) 1 0 [(0, .ref (g_h G))] [] σ := by
  unfold Ok_X1_bestCode at h
  refine x_aload_n (pc := 0) (i := 0) C dX1_bestCode_0 rfl 0 rfl ?_
  refine x_iconst (pc := 1) C dX1_bestCode_1 ?_
  refine x_iconst (pc := 2) C dX1_bestCode_2 ?_
  refine x_calli (pc := 3) (n := 2) (As := [.int (iI 0), .int (iI (-1))]) (st := []) C (mt_X1_search G 0 (-1) σ _ h) (lw_V q271 q273 qs16 q24 q274) (by decide +kernel) ⟨by decide, by decide⟩ rfl rfl rfl rfl (Nat.le_of_ble_eq_true rfl) dX1_bestCode_3 (fun r3 s3 h => ?_)
  exact hret _ _ _ _ dX1_bestCode_6 trivial h
theorem mt_X1_bestCode (G : gG) (σ : gS) (post : Int → gS → Prop) (h : Ok_X1_bestCode  σ post) : gMetI G yX1_bestCode (ws_ yX1_bestCode cX1_bestCode 1 (some .int)) 2 (MW G) [] σ post :=
  gMetI.ofW (own := RX1) (by decide +kernel) rfl (Nat.le_of_ble_eq_true rfl) rfl (fun _ => True) (fun z _ => vp_nar_int (iI z)) (fun X C hret => wk_X1_bestCode G X C  σ post hret h)
set_option maxHeartbeats 4000000 in
theorem wk_X1_bestStrict (G : gG) (X : gX) (C : gC G X cX1_bestStrict 2 RX1 2) (σ : gS) (post : Int → gS → Prop) (hret : ∀ (z : Int) (u : gS) (pc : Nat) (ls : List (Nat × Value)), decode cX1_bestStrict pc = .ok (.ireturn, 1) → (True) → post z u → gAt G X (MW G) 2 pc ls [.int (iI z)] u) (h : Ok_X1_bestStrict  σ post) : gAt G X (MW G) 2 0 [(0, .ref (g_h G))] [] σ := by
  unfold Ok_X1_bestStrict at h
  refine x_aload_n (pc := 0) (i := 0) C dX1_bestStrict_0 rfl 0 rfl ?_
  refine x_iconst (pc := 1) C dX1_bestStrict_1 ?_
  refine x_iconst (pc := 2) C dX1_bestStrict_2 ?_
  refine x_calli (pc := 3) (n := 2) (As := [.int (iI 1), .int (iI (-1))]) (st := []) C (mt_X1_search G 1 (-1) σ _ h) (lw_V q271 q273 qs16 q24 q274) (by decide +kernel) ⟨by decide, by decide⟩ rfl rfl rfl rfl (Nat.le_of_ble_eq_true rfl) dX1_bestStrict_3 (fun r3 s3 h => ?_)
  refine x_istore_n (pc := 6) (i := 1) (ls' := [(1, .int (iI r3)), (0, .ref (g_h G))]) C dX1_bestStrict_6 rfl (by decide) rfl ?_
  refine x_aload_n (pc := 7) (i := 0) C dX1_bestStrict_7 rfl 1 rfl ?_
  refine x_iload_n (pc := 8) (i := 1) C dX1_bestStrict_8 rfl 0 rfl ?_
  refine x_calli (pc := 9) (n := 1) (As := [.int (iI r3)]) (st := []) C (mt_X1_valueAt G r3 s3 _ h) (lw_V q283 q285 qs19 q24 q286) (by decide +kernel) ⟨by decide, by decide⟩ rfl rfl rfl rfl (Nat.le_of_ble_eq_true rfl) dX1_bestStrict_9 (fun r9 s9 h => ?_)
  exact hret _ _ _ _ dX1_bestStrict_12 trivial h
theorem mt_X1_bestStrict (G : gG) (σ : gS) (post : Int → gS → Prop) (h : Ok_X1_bestStrict  σ post) : gMetI G yX1_bestStrict (ws_ yX1_bestStrict cX1_bestStrict 2 (some .int)) 2 (MW G) [] σ post :=
  gMetI.ofW (own := RX1) (by decide +kernel) rfl (Nat.le_of_ble_eq_true rfl) rfl (fun _ => True) (fun z _ => vp_nar_int (iI z)) (fun X C hret => wk_X1_bestStrict G X C  σ post hret h)
set_option maxHeartbeats 4000000 in
theorem wk_X1_bestStrictCode (G : gG) (X : gX) (C : gC G X cX1_bestStrictCode 1 RX1 2) (σ : gS) (post : Int → gS → Prop) (hret : ∀ (z : Int) (u : gS) (pc : Nat) (ls : List (Nat × Value)), decode cX1_bestStrictCode pc = .ok (.ireturn, 1) → (True) → post z u → gAt G X (MW G) 1 pc ls [.int (iI z)] u) (h : Ok_X1_bestStrictCode  σ post) : gAt G X (MW G) 1 0 [(0, .ref (g_h G))] [] σ := by
  unfold Ok_X1_bestStrictCode at h
  refine x_aload_n (pc := 0) (i := 0) C dX1_bestStrictCode_0 rfl 0 rfl ?_
  refine x_iconst (pc := 1) C dX1_bestStrictCode_1 ?_
  refine x_iconst (pc := 2) C dX1_bestStrictCode_2 ?_
  refine x_calli (pc := 3) (n := 2) (As := [.int (iI 1), .int (iI (-1))]) (st := []) C (mt_X1_search G 1 (-1) σ _ h) (lw_V q271 q273 qs16 q24 q274) (by decide +kernel) ⟨by decide, by decide⟩ rfl rfl rfl rfl (Nat.le_of_ble_eq_true rfl) dX1_bestStrictCode_3 (fun r3 s3 h => ?_)
  exact hret _ _ _ _ dX1_bestStrictCode_6 trivial h
theorem mt_X1_bestStrictCode (G : gG) (σ : gS) (post : Int → gS → Prop) (h : Ok_X1_bestStrictCode  σ post) : gMetI G yX1_bestStrictCode (ws_ yX1_bestStrictCode cX1_bestStrictCode 1 (some .int)) 2 (MW G) [] σ post :=
  gMetI.ofW (own := RX1) (by decide +kernel) rfl (Nat.le_of_ble_eq_true rfl) rfl (fun _ => True) (fun z _ => vp_nar_int (iI z)) (fun X C hret => wk_X1_bestStrictCode G X C  σ post hret h)
set_option maxHeartbeats 4000000 in
theorem wk_X1_fitting (G : gG) (X : gX) (C : gC G X cX1_fitting 4 RX1 1) (σ : gS) (post : Int → gS → Prop) (hret : ∀ (z : Int) (u : gS) (pc : Nat) (ls : List (Nat × Value)), decode cX1_fitting pc = .ok (.ireturn, 1) → (True) → post z u → gAt G X (MW G) 4 pc ls [.int (iI z)] u) (h : Ok_X1_fitting  σ post) : gAt G X (MW G) 4 0 [(0, .ref (g_h G))] [] σ := by
  have h := h (fun (x1 x2 x3 : Int) (σ : gS) => gAt G X (MW G) 4 9 [(0, .ref (g_h G)), (1, .int (iI x1)), (2, .int (iI x2)), (3, .int (iI x3))] [] σ)
  have h := h (by
    intro x1 x2 x3 σ h
    refine x_iload_n (pc := 9) (i := 3) C dX1_fitting_9 rfl 3 rfl ?_
    refine x_iload_n (pc := 10) (i := 1) C dX1_fitting_10 rfl 1 rfl ?_
    obtain ⟨o1, o2, h⟩ := h
    refine x_icmp_ge (pc := 11) C 42 dX1_fitting_11 (by decide) o1 o2 (fun hc => ?_) (fun hc => ?_)
    · have h := h.1 hc
      refine x_iload_n (pc := 42) (i := 2) C dX1_fitting_42 rfl 2 rfl ?_
      exact hret _ _ _ _ dX1_fitting_43 trivial h
    · have h := h.2 hc
      refine x_aload_n (pc := 14) (i := 0) C dX1_fitting_14 rfl 0 rfl ?_
      refine x_iload_n (pc := 15) (i := 3) C dX1_fitting_15 rfl 3 rfl ?_
      refine x_calli (pc := 16) (n := 1) (As := [.int (iI x3)]) (st := []) C (mt_X1_choice G x3 σ _ h) (lw_V q259 q261 qs15 q24 q262) (by decide +kernel) ⟨by decide, by decide⟩ rfl rfl rfl rfl (Nat.le_of_ble_eq_true rfl) dX1_fitting_16 (fun r16 s16 h => ?_)
      obtain ⟨o3, h⟩ := h
      refine x_if_eq (pc := 19) C 36 dX1_fitting_19 (by decide) o3 (fun hc => ?_) (fun hc => ?_)
      · have h := h.1 hc
        refine x_iinc (pc := 36) (ls' := [(3, .int (iI (x3 + 1))), (0, .ref (g_h G)), (1, .int (iI x1)), (2, .int (iI x2))]) C dX1_fitting_36 3 rfl (by decide) rfl ?_
        refine x_goto (pc := 39) C 9 dX1_fitting_39 (by decide) ?_
        exact x_pick [1, 2, 3, 0] rfl h
      · have h := h.2 hc
        refine x_aload_n (pc := 22) (i := 0) C dX1_fitting_22 rfl 0 rfl ?_
        refine mg_7 (pc := 23) C dX1_fitting_23 ?_
        refine x_aload_n (pc := 26) (i := 0) C dX1_fitting_26 rfl 0 rfl ?_
        refine mg_5 (pc := 27) C dX1_fitting_27 ?_
        obtain ⟨o4, o5, h⟩ := h
        refine x_icmp_gt (pc := 30) C 36 dX1_fitting_30 (by decide) o4 o5 (fun hc => ?_) (fun hc => ?_)
        · have h := h.1 hc
          refine x_iinc (pc := 36) (ls' := [(3, .int (iI (x3 + 1))), (0, .ref (g_h G)), (1, .int (iI x1)), (2, .int (iI x2))]) C dX1_fitting_36 3 rfl (by decide) rfl ?_
          refine x_goto (pc := 39) C 9 dX1_fitting_39 (by decide) ?_
          exact x_pick [1, 2, 3, 0] rfl h
        · have h := h.2 hc
          refine x_iinc (pc := 33) (ls' := [(2, .int (iI (x2 + 1))), (0, .ref (g_h G)), (1, .int (iI x1)), (3, .int (iI x3))]) C dX1_fitting_33 2 rfl (by decide) rfl ?_
          refine x_iinc (pc := 36) (ls' := [(3, .int (iI (x3 + 1))), (2, .int (iI (x2 + 1))), (0, .ref (g_h G)), (1, .int (iI x1))]) C dX1_fitting_36 3 rfl (by decide) rfl ?_
          refine x_goto (pc := 39) C 9 dX1_fitting_39 (by decide) ?_
          exact x_pick [2, 3, 1, 0] rfl h)
  refine x_aload_n (pc := 0) (i := 0) C dX1_fitting_0 rfl 0 rfl ?_
  refine x_calli (pc := 1) (n := 0) (As := []) (st := []) C (mt_X1_end G  σ _ h) (lw_V q275 q277 qs17 q24 q278) (by decide +kernel) ⟨by decide, by decide⟩ rfl rfl rfl rfl (Nat.le_of_ble_eq_true rfl) dX1_fitting_1 (fun r1 s1 h => ?_)
  refine x_istore_n (pc := 4) (i := 1) (ls' := [(1, .int (iI r1)), (0, .ref (g_h G))]) C dX1_fitting_4 rfl (by decide) rfl ?_
  refine x_iconst (pc := 5) C dX1_fitting_5 ?_
  refine x_istore_n (pc := 6) (i := 2) (ls' := [(2, .int (iI 0)), (1, .int (iI r1)), (0, .ref (g_h G))]) C dX1_fitting_6 rfl (by decide) rfl ?_
  refine x_iconst (pc := 7) C dX1_fitting_7 ?_
  refine x_istore_n (pc := 8) (i := 3) (ls' := [(3, .int (iI 0)), (2, .int (iI 0)), (1, .int (iI r1)), (0, .ref (g_h G))]) C dX1_fitting_8 rfl (by decide) rfl ?_
  exact x_pick [3, 2, 1, 0] rfl h
theorem mt_X1_fitting (G : gG) (σ : gS) (post : Int → gS → Prop) (h : Ok_X1_fitting  σ post) : gMetI G yX1_fitting (ws_ yX1_fitting cX1_fitting 4 (some .int)) 1 (MW G) [] σ post :=
  gMetI.ofW (own := RX1) (by decide +kernel) rfl (Nat.le_of_ble_eq_true rfl) rfl (fun _ => True) (fun z _ => vp_nar_int (iI z)) (fun X C hret => wk_X1_fitting G X C  σ post hret h)
set_option maxHeartbeats 4000000 in
theorem wk_X1_having (G : gG) (X : gX) (C : gC G X cX1_having 5 RX1 1) (a1 : Int) (σ : gS) (post : Int → gS → Prop) (hret : ∀ (z : Int) (u : gS) (pc : Nat) (ls : List (Nat × Value)), decode cX1_having pc = .ok (.ireturn, 1) → (True) → post z u → gAt G X (MW G) 5 pc ls [.int (iI z)] u) (h : Ok_X1_having a1 σ post) : gAt G X (MW G) 5 0 [(0, .ref (g_h G)), (1, .int (iI a1))] [] σ := by
  have h := h (fun (x2 x3 x4 : Int) (σ : gS) => gAt G X (MW G) 5 10 [(0, .ref (g_h G)), (1, .int (iI a1)), (2, .int (iI x2)), (3, .int (iI x3)), (4, .int (iI x4))] [] σ)
  have h := h (by
    intro x2 x3 x4 σ h
    refine x_iload (pc := 10) C dX1_having_10 4 rfl ?_
    refine x_iload_n (pc := 12) (i := 2) C dX1_having_12 rfl 2 rfl ?_
    obtain ⟨o1, o2, h⟩ := h
    refine x_icmp_ge (pc := 13) C 42 dX1_having_13 (by decide) o1 o2 (fun hc => ?_) (fun hc => ?_)
    · have h := h.1 hc
      refine x_iload_n (pc := 42) (i := 3) C dX1_having_42 rfl 3 rfl ?_
      exact hret _ _ _ _ dX1_having_43 trivial h
    · have h := h.2 hc
      refine x_aload_n (pc := 16) (i := 0) C dX1_having_16 rfl 0 rfl ?_
      refine x_iload (pc := 17) C dX1_having_17 4 rfl ?_
      refine x_calli (pc := 19) (n := 1) (As := [.int (iI x4)]) (st := []) C (mt_X1_choice G x4 σ _ h) (lw_V q259 q261 qs15 q24 q262) (by decide +kernel) ⟨by decide, by decide⟩ rfl rfl rfl rfl (Nat.le_of_ble_eq_true rfl) dX1_having_19 (fun r19 s19 h => ?_)
      obtain ⟨o3, h⟩ := h
      refine x_if_eq (pc := 22) C 36 dX1_having_22 (by decide) o3 (fun hc => ?_) (fun hc => ?_)
      · have h := h.1 hc
        refine x_iinc (pc := 36) (ls' := [(4, .int (iI (x4 + 1))), (0, .ref (g_h G)), (1, .int (iI a1)), (2, .int (iI x2)), (3, .int (iI x3))]) C dX1_having_36 4 rfl (by decide) rfl ?_
        refine x_goto (pc := 39) C 10 dX1_having_39 (by decide) ?_
        exact x_pick [1, 2, 3, 4, 0] rfl h
      · have h := h.2 hc
        refine x_aload_n (pc := 25) (i := 0) C dX1_having_25 rfl 0 rfl ?_
        refine mg_7 (pc := 26) C dX1_having_26 ?_
        refine x_iload_n (pc := 29) (i := 1) C dX1_having_29 rfl 1 rfl ?_
        obtain ⟨o4, o5, h⟩ := h
        refine x_icmp_ne (pc := 30) C 36 dX1_having_30 (by decide) o4 o5 (fun hc => ?_) (fun hc => ?_)
        · have h := h.1 hc
          refine x_iinc (pc := 36) (ls' := [(4, .int (iI (x4 + 1))), (0, .ref (g_h G)), (1, .int (iI a1)), (2, .int (iI x2)), (3, .int (iI x3))]) C dX1_having_36 4 rfl (by decide) rfl ?_
          refine x_goto (pc := 39) C 10 dX1_having_39 (by decide) ?_
          exact x_pick [1, 2, 3, 4, 0] rfl h
        · have h := h.2 hc
          refine x_iinc (pc := 33) (ls' := [(3, .int (iI (x3 + 1))), (0, .ref (g_h G)), (1, .int (iI a1)), (2, .int (iI x2)), (4, .int (iI x4))]) C dX1_having_33 3 rfl (by decide) rfl ?_
          refine x_iinc (pc := 36) (ls' := [(4, .int (iI (x4 + 1))), (3, .int (iI (x3 + 1))), (0, .ref (g_h G)), (1, .int (iI a1)), (2, .int (iI x2))]) C dX1_having_36 4 rfl (by decide) rfl ?_
          refine x_goto (pc := 39) C 10 dX1_having_39 (by decide) ?_
          exact x_pick [2, 3, 4, 1, 0] rfl h)
  refine x_aload_n (pc := 0) (i := 0) C dX1_having_0 rfl 0 rfl ?_
  refine x_calli (pc := 1) (n := 0) (As := []) (st := []) C (mt_X1_end G  σ _ h) (lw_V q275 q277 qs17 q24 q278) (by decide +kernel) ⟨by decide, by decide⟩ rfl rfl rfl rfl (Nat.le_of_ble_eq_true rfl) dX1_having_1 (fun r1 s1 h => ?_)
  refine x_istore_n (pc := 4) (i := 2) (ls' := [(2, .int (iI r1)), (0, .ref (g_h G)), (1, .int (iI a1))]) C dX1_having_4 rfl (by decide) rfl ?_
  refine x_iconst (pc := 5) C dX1_having_5 ?_
  refine x_istore_n (pc := 6) (i := 3) (ls' := [(3, .int (iI 0)), (2, .int (iI r1)), (0, .ref (g_h G)), (1, .int (iI a1))]) C dX1_having_6 rfl (by decide) rfl ?_
  refine x_iconst (pc := 7) C dX1_having_7 ?_
  refine x_istore (pc := 8) (ls' := [(4, .int (iI 0)), (3, .int (iI 0)), (2, .int (iI r1)), (0, .ref (g_h G)), (1, .int (iI a1))]) C dX1_having_8 (by decide) rfl ?_
  exact x_pick [3, 4, 2, 1, 0] rfl h
theorem mt_X1_having (G : gG) (a1 : Int) (σ : gS) (post : Int → gS → Prop) (h : Ok_X1_having a1 σ post) : gMetI G yX1_having (ws_ yX1_having cX1_having 5 (some .int)) 1 (MW G) [.int (iI a1)] σ post :=
  gMetI.ofW (own := RX1) (by decide +kernel) rfl (Nat.le_of_ble_eq_true rfl) rfl (fun _ => True) (fun z _ => vp_nar_int (iI z)) (fun X C hret => wk_X1_having G X C a1 σ post hret h)
set_option maxHeartbeats 4000000 in
theorem wk_X1_weighing (G : gG) (X : gX) (C : gC G X cX1_weighing 2 RX1 2) (a1 : Int) (σ : gS) (post : Int → gS → Prop) (hret : ∀ (z : Int) (u : gS) (pc : Nat) (ls : List (Nat × Value)), decode cX1_weighing pc = .ok (.ireturn, 1) → (True) → post z u → gAt G X (MW G) 2 pc ls [.int (iI z)] u) (h : Ok_X1_weighing a1 σ post) : gAt G X (MW G) 2 0 [(0, .ref (g_h G)), (1, .int (iI a1))] [] σ := by
  unfold Ok_X1_weighing at h
  refine x_iload_n (pc := 0) (i := 1) C dX1_weighing_0 rfl 1 rfl ?_
  obtain ⟨o1, h⟩ := h
  refine x_if_lt (pc := 1) C 11 dX1_weighing_1 (by decide) o1 (fun hc => ?_) (fun hc => ?_)
  · have h := h.1 hc
    refine x_iconst (pc := 11) C dX1_weighing_11 ?_
    refine x_goto (pc := 12) C 20 dX1_weighing_12 (by decide) ?_
    exact hret _ _ _ _ dX1_weighing_20 trivial h
  · have h := h.2 hc
    refine x_iload_n (pc := 4) (i := 1) C dX1_weighing_4 rfl 1 rfl ?_
    refine x_sipush (pc := 5) C dX1_weighing_5 (by decide) ?_
    refine x_icmp_le (pc := 8) C 15 dX1_weighing_8 (by decide) o1 (by decide) (fun hc => ?_) (fun hc => ?_)
    · have h := h.1 hc
      refine x_aload_n (pc := 15) (i := 0) C dX1_weighing_15 rfl 0 rfl ?_
      refine x_iload_n (pc := 16) (i := 1) C dX1_weighing_16 rfl 1 rfl ?_
      refine x_calli (pc := 17) (n := 1) (As := [.int (iI a1)]) (st := []) C (mt_X1_having G a1 σ _ h) (lw_V q307 q309 qs20 q24 q310) (by decide +kernel) ⟨by decide, by decide⟩ rfl rfl rfl rfl (Nat.le_of_ble_eq_true rfl) dX1_weighing_17 (fun r17 s17 h => ?_)
      exact hret _ _ _ _ dX1_weighing_20 trivial h
    · have h := h.2 hc
      refine x_iconst (pc := 11) C dX1_weighing_11 ?_
      refine x_goto (pc := 12) C 20 dX1_weighing_12 (by decide) ?_
      exact hret _ _ _ _ dX1_weighing_20 trivial h
theorem mt_X1_weighing (G : gG) (a1 : Int) (σ : gS) (post : Int → gS → Prop) (h : Ok_X1_weighing a1 σ post) : gMetI G yX1_weighing (ws_ yX1_weighing cX1_weighing 2 (some .int)) 2 (MW G) [.int (iI a1)] σ post :=
  gMetI.ofW (own := RX1) (by decide +kernel) rfl (Nat.le_of_ble_eq_true rfl) rfl (fun _ => True) (fun z _ => vp_nar_int (iI z)) (fun X C hret => wk_X1_weighing G X C a1 σ post hret h)
set_option maxHeartbeats 4000000 in
theorem wk_X1_fullest (G : gG) (X : gX) (C : gC G X cX1_fullest 4 RX1 1) (σ : gS) (post : Int → gS → Prop) (hret : ∀ (z : Int) (u : gS) (pc : Nat) (ls : List (Nat × Value)), decode cX1_fullest pc = .ok (.ireturn, 1) → (True) → post z u → gAt G X (MW G) 4 pc ls [.int (iI z)] u) (h : Ok_X1_fullest  σ post) : gAt G X (MW G) 4 0 [(0, .ref (g_h G))] [] σ := by
  have h := h (fun (x1 x2 x3 : Int) (σ : gS) => gAt G X (MW G) 4 9 [(0, .ref (g_h G)), (1, .int (iI x1)), (2, .int (iI x2)), (3, .int (iI x3))] [] σ)
  have h := h (by
    intro x1 x2 x3 σ h
    refine x_iload_n (pc := 9) (i := 3) C dX1_fullest_9 rfl 3 rfl ?_
    refine x_iload_n (pc := 10) (i := 1) C dX1_fullest_10 rfl 1 rfl ?_
    obtain ⟨o1, o2, h⟩ := h
    refine x_icmp_ge (pc := 11) C 52 dX1_fullest_11 (by decide) o1 o2 (fun hc => ?_) (fun hc => ?_)
    · have h := h.1 hc
      refine x_iload_n (pc := 52) (i := 2) C dX1_fullest_52 rfl 2 rfl ?_
      exact hret _ _ _ _ dX1_fullest_53 trivial h
    · have h := h.2 hc
      refine x_aload_n (pc := 14) (i := 0) C dX1_fullest_14 rfl 0 rfl ?_
      refine x_iload_n (pc := 15) (i := 3) C dX1_fullest_15 rfl 3 rfl ?_
      refine x_calli (pc := 16) (n := 1) (As := [.int (iI x3)]) (st := []) C (mt_X1_choice G x3 σ _ h) (lw_V q259 q261 qs15 q24 q262) (by decide +kernel) ⟨by decide, by decide⟩ rfl rfl rfl rfl (Nat.le_of_ble_eq_true rfl) dX1_fullest_16 (fun r16 s16 h => ?_)
      obtain ⟨o3, h⟩ := h
      refine x_if_eq (pc := 19) C 46 dX1_fullest_19 (by decide) o3 (fun hc => ?_) (fun hc => ?_)
      · have h := h.1 hc
        refine x_iinc (pc := 46) (ls' := [(3, .int (iI (x3 + 1))), (0, .ref (g_h G)), (1, .int (iI x1)), (2, .int (iI x2))]) C dX1_fullest_46 3 rfl (by decide) rfl ?_
        refine x_goto (pc := 49) C 9 dX1_fullest_49 (by decide) ?_
        exact x_pick [1, 2, 3, 0] rfl h
      · have h := h.2 hc
        refine x_aload_n (pc := 22) (i := 0) C dX1_fullest_22 rfl 0 rfl ?_
        refine mg_7 (pc := 23) C dX1_fullest_23 ?_
        refine x_aload_n (pc := 26) (i := 0) C dX1_fullest_26 rfl 0 rfl ?_
        refine mg_5 (pc := 27) C dX1_fullest_27 ?_
        obtain ⟨o4, o5, h⟩ := h
        refine x_icmp_gt (pc := 30) C 46 dX1_fullest_30 (by decide) o4 o5 (fun hc => ?_) (fun hc => ?_)
        · have h := h.1 hc
          refine x_iinc (pc := 46) (ls' := [(3, .int (iI (x3 + 1))), (0, .ref (g_h G)), (1, .int (iI x1)), (2, .int (iI x2))]) C dX1_fullest_46 3 rfl (by decide) rfl ?_
          refine x_goto (pc := 49) C 9 dX1_fullest_49 (by decide) ?_
          exact x_pick [1, 2, 3, 0] rfl h
        · have h := h.2 hc
          refine x_aload_n (pc := 33) (i := 0) C dX1_fullest_33 rfl 0 rfl ?_
          refine mg_7 (pc := 34) C dX1_fullest_34 ?_
          refine x_iload_n (pc := 37) (i := 2) C dX1_fullest_37 rfl 2 rfl ?_
          obtain ⟨o6, h⟩ := h
          refine x_icmp_le (pc := 38) C 46 dX1_fullest_38 (by decide) o4 o6 (fun hc => ?_) (fun hc => ?_)
          · have h := h.1 hc
            refine x_iinc (pc := 46) (ls' := [(3, .int (iI (x3 + 1))), (0, .ref (g_h G)), (1, .int (iI x1)), (2, .int (iI x2))]) C dX1_fullest_46 3 rfl (by decide) rfl ?_
            refine x_goto (pc := 49) C 9 dX1_fullest_49 (by decide) ?_
            exact x_pick [1, 2, 3, 0] rfl h
          · have h := h.2 hc
            refine x_aload_n (pc := 41) (i := 0) C dX1_fullest_41 rfl 0 rfl ?_
            refine mg_7 (pc := 42) C dX1_fullest_42 ?_
            have h := h _ rfl
            refine x_istore_n (pc := 45) (i := 2) (ls' := [(2, .int (iI (s16 7 0))), (0, .ref (g_h G)), (1, .int (iI x1)), (3, .int (iI x3))]) C dX1_fullest_45 rfl (by decide) rfl ?_
            refine x_iinc (pc := 46) (ls' := [(3, .int (iI (x3 + 1))), (2, .int (iI (s16 7 0))), (0, .ref (g_h G)), (1, .int (iI x1))]) C dX1_fullest_46 3 rfl (by decide) rfl ?_
            refine x_goto (pc := 49) C 9 dX1_fullest_49 (by decide) ?_
            exact x_pick [2, 3, 1, 0] rfl h)
  refine x_aload_n (pc := 0) (i := 0) C dX1_fullest_0 rfl 0 rfl ?_
  refine x_calli (pc := 1) (n := 0) (As := []) (st := []) C (mt_X1_end G  σ _ h) (lw_V q275 q277 qs17 q24 q278) (by decide +kernel) ⟨by decide, by decide⟩ rfl rfl rfl rfl (Nat.le_of_ble_eq_true rfl) dX1_fullest_1 (fun r1 s1 h => ?_)
  refine x_istore_n (pc := 4) (i := 1) (ls' := [(1, .int (iI r1)), (0, .ref (g_h G))]) C dX1_fullest_4 rfl (by decide) rfl ?_
  refine x_iconst (pc := 5) C dX1_fullest_5 ?_
  refine x_istore_n (pc := 6) (i := 2) (ls' := [(2, .int (iI 0)), (1, .int (iI r1)), (0, .ref (g_h G))]) C dX1_fullest_6 rfl (by decide) rfl ?_
  refine x_iconst (pc := 7) C dX1_fullest_7 ?_
  refine x_istore_n (pc := 8) (i := 3) (ls' := [(3, .int (iI 0)), (2, .int (iI 0)), (1, .int (iI r1)), (0, .ref (g_h G))]) C dX1_fullest_8 rfl (by decide) rfl ?_
  exact x_pick [3, 2, 1, 0] rfl h
theorem mt_X1_fullest (G : gG) (σ : gS) (post : Int → gS → Prop) (h : Ok_X1_fullest  σ post) : gMetI G yX1_fullest (ws_ yX1_fullest cX1_fullest 4 (some .int)) 1 (MW G) [] σ post :=
  gMetI.ofW (own := RX1) (by decide +kernel) rfl (Nat.le_of_ble_eq_true rfl) rfl (fun _ => True) (fun z _ => vp_nar_int (iI z)) (fun X C hret => wk_X1_fullest G X C  σ post hret h)
set_option maxHeartbeats 4000000 in
theorem wk_X1_lightest (G : gG) (X : gX) (C : gC G X cX1_lightest 5 RX1 1) (a1 : Int) (σ : gS) (post : Int → gS → Prop) (hret : ∀ (z : Int) (u : gS) (pc : Nat) (ls : List (Nat × Value)), decode cX1_lightest pc = .ok (.ireturn, 1) → (True) → post z u → gAt G X (MW G) 5 pc ls [.int (iI z)] u) (h : Ok_X1_lightest a1 σ post) : gAt G X (MW G) 5 0 [(0, .ref (g_h G)), (1, .int (iI a1))] [] σ := by
  have h := h (fun (x2 x3 x4 : Int) (σ : gS) => gAt G X (MW G) 5 10 [(0, .ref (g_h G)), (1, .int (iI a1)), (2, .int (iI x2)), (3, .int (iI x3)), (4, .int (iI x4))] [] σ)
  have h := h (by
    intro x2 x3 x4 σ h
    refine x_iload (pc := 10) C dX1_lightest_10 4 rfl ?_
    refine x_iload_n (pc := 12) (i := 2) C dX1_lightest_12 rfl 2 rfl ?_
    obtain ⟨o1, o2, h⟩ := h
    refine x_icmp_ge (pc := 13) C 56 dX1_lightest_13 (by decide) o1 o2 (fun hc => ?_) (fun hc => ?_)
    · have h := h.1 hc
      refine x_iload_n (pc := 56) (i := 3) C dX1_lightest_56 rfl 3 rfl ?_
      exact hret _ _ _ _ dX1_lightest_57 trivial h
    · have h := h.2 hc
      refine x_aload_n (pc := 16) (i := 0) C dX1_lightest_16 rfl 0 rfl ?_
      refine x_iload (pc := 17) C dX1_lightest_17 4 rfl ?_
      refine x_calli (pc := 19) (n := 1) (As := [.int (iI x4)]) (st := []) C (mt_X1_choice G x4 σ _ h) (lw_V q259 q261 qs15 q24 q262) (by decide +kernel) ⟨by decide, by decide⟩ rfl rfl rfl rfl (Nat.le_of_ble_eq_true rfl) dX1_lightest_19 (fun r19 s19 h => ?_)
      obtain ⟨o3, h⟩ := h
      refine x_if_eq (pc := 22) C 50 dX1_lightest_22 (by decide) o3 (fun hc => ?_) (fun hc => ?_)
      · have h := h.1 hc
        refine x_iinc (pc := 50) (ls' := [(4, .int (iI (x4 + 1))), (0, .ref (g_h G)), (1, .int (iI a1)), (2, .int (iI x2)), (3, .int (iI x3))]) C dX1_lightest_50 4 rfl (by decide) rfl ?_
        refine x_goto (pc := 53) C 10 dX1_lightest_53 (by decide) ?_
        exact x_pick [1, 2, 3, 4, 0] rfl h
      · have h := h.2 hc
        refine x_aload_n (pc := 25) (i := 0) C dX1_lightest_25 rfl 0 rfl ?_
        refine mg_8 (pc := 26) C dX1_lightest_26 ?_
        refine x_iload_n (pc := 29) (i := 1) C dX1_lightest_29 rfl 1 rfl ?_
        obtain ⟨o4, o5, h⟩ := h
        refine x_icmp_lt (pc := 30) C 50 dX1_lightest_30 (by decide) o4 o5 (fun hc => ?_) (fun hc => ?_)
        · have h := h.1 hc
          refine x_iinc (pc := 50) (ls' := [(4, .int (iI (x4 + 1))), (0, .ref (g_h G)), (1, .int (iI a1)), (2, .int (iI x2)), (3, .int (iI x3))]) C dX1_lightest_50 4 rfl (by decide) rfl ?_
          refine x_goto (pc := 53) C 10 dX1_lightest_53 (by decide) ?_
          exact x_pick [1, 2, 3, 4, 0] rfl h
        · have h := h.2 hc
          refine x_iload_n (pc := 33) (i := 3) C dX1_lightest_33 rfl 3 rfl ?_
          obtain ⟨o6, h⟩ := h
          refine x_if_lt (pc := 34) C 45 dX1_lightest_34 (by decide) o6 (fun hc => ?_) (fun hc => ?_)
          · have h := h.1 hc
            refine x_aload_n (pc := 45) (i := 0) C dX1_lightest_45 rfl 0 rfl ?_
            refine mg_7 (pc := 46) C dX1_lightest_46 ?_
            have h := h _ rfl
            refine x_istore_n (pc := 49) (i := 3) (ls' := [(3, .int (iI (s19 7 0))), (0, .ref (g_h G)), (1, .int (iI a1)), (2, .int (iI x2)), (4, .int (iI x4))]) C dX1_lightest_49 rfl (by decide) rfl ?_
            refine x_iinc (pc := 50) (ls' := [(4, .int (iI (x4 + 1))), (3, .int (iI (s19 7 0))), (0, .ref (g_h G)), (1, .int (iI a1)), (2, .int (iI x2))]) C dX1_lightest_50 4 rfl (by decide) rfl ?_
            refine x_goto (pc := 53) C 10 dX1_lightest_53 (by decide) ?_
            exact x_pick [2, 3, 4, 1, 0] rfl h
          · have h := h.2 hc
            refine x_aload_n (pc := 37) (i := 0) C dX1_lightest_37 rfl 0 rfl ?_
            refine mg_7 (pc := 38) C dX1_lightest_38 ?_
            refine x_iload_n (pc := 41) (i := 3) C dX1_lightest_41 rfl 3 rfl ?_
            obtain ⟨o7, h⟩ := h
            refine x_icmp_ge (pc := 42) C 50 dX1_lightest_42 (by decide) o7 o6 (fun hc => ?_) (fun hc => ?_)
            · have h := h.1 hc
              refine x_iinc (pc := 50) (ls' := [(4, .int (iI (x4 + 1))), (0, .ref (g_h G)), (1, .int (iI a1)), (2, .int (iI x2)), (3, .int (iI x3))]) C dX1_lightest_50 4 rfl (by decide) rfl ?_
              refine x_goto (pc := 53) C 10 dX1_lightest_53 (by decide) ?_
              exact x_pick [1, 2, 3, 4, 0] rfl h
            · have h := h.2 hc
              refine x_aload_n (pc := 45) (i := 0) C dX1_lightest_45 rfl 0 rfl ?_
              refine mg_7 (pc := 46) C dX1_lightest_46 ?_
              have h := h _ rfl
              refine x_istore_n (pc := 49) (i := 3) (ls' := [(3, .int (iI (s19 7 0))), (0, .ref (g_h G)), (1, .int (iI a1)), (2, .int (iI x2)), (4, .int (iI x4))]) C dX1_lightest_49 rfl (by decide) rfl ?_
              refine x_iinc (pc := 50) (ls' := [(4, .int (iI (x4 + 1))), (3, .int (iI (s19 7 0))), (0, .ref (g_h G)), (1, .int (iI a1)), (2, .int (iI x2))]) C dX1_lightest_50 4 rfl (by decide) rfl ?_
              refine x_goto (pc := 53) C 10 dX1_lightest_53 (by decide) ?_
              exact x_pick [2, 3, 4, 1, 0] rfl h)
  refine x_aload_n (pc := 0) (i := 0) C dX1_lightest_0 rfl 0 rfl ?_
  refine x_calli (pc := 1) (n := 0) (As := []) (st := []) C (mt_X1_end G  σ _ h) (lw_V q275 q277 qs17 q24 q278) (by decide +kernel) ⟨by decide, by decide⟩ rfl rfl rfl rfl (Nat.le_of_ble_eq_true rfl) dX1_lightest_1 (fun r1 s1 h => ?_)
  refine x_istore_n (pc := 4) (i := 2) (ls' := [(2, .int (iI r1)), (0, .ref (g_h G)), (1, .int (iI a1))]) C dX1_lightest_4 rfl (by decide) rfl ?_
  refine x_iconst (pc := 5) C dX1_lightest_5 ?_
  refine x_istore_n (pc := 6) (i := 3) (ls' := [(3, .int (iI (-1))), (2, .int (iI r1)), (0, .ref (g_h G)), (1, .int (iI a1))]) C dX1_lightest_6 rfl (by decide) rfl ?_
  refine x_iconst (pc := 7) C dX1_lightest_7 ?_
  refine x_istore (pc := 8) (ls' := [(4, .int (iI 0)), (3, .int (iI (-1))), (2, .int (iI r1)), (0, .ref (g_h G)), (1, .int (iI a1))]) C dX1_lightest_8 (by decide) rfl ?_
  exact x_pick [3, 4, 2, 1, 0] rfl h
theorem mt_X1_lightest (G : gG) (a1 : Int) (σ : gS) (post : Int → gS → Prop) (h : Ok_X1_lightest a1 σ post) : gMetI G yX1_lightest (ws_ yX1_lightest cX1_lightest 5 (some .int)) 1 (MW G) [.int (iI a1)] σ post :=
  gMetI.ofW (own := RX1) (by decide +kernel) rfl (Nat.le_of_ble_eq_true rfl) rfl (fun _ => True) (fun z _ => vp_nar_int (iI z)) (fun X C hret => wk_X1_lightest G X C a1 σ post hret h)
set_option maxHeartbeats 4000000 in
theorem wk_X1_both (G : gG) (X : gX) (C : gC G X cX1_both 11 RX1 0) (a1 a2 : Int) (σ : gS) (post : Int → gS → Prop) (hret : ∀ (z : Int) (u : gS) (pc : Nat) (ls : List (Nat × Value)), decode cX1_both pc = .ok (.ireturn, 1) → (True) → post z u → gAt G X (MW G) 11 pc ls [.int (iI z)] u) (h : Ok_X1_both a1 a2 σ post) : gAt G X (MW G) 11 0 [(0, .ref (g_h G)), (1, .int (iI a1)), (2, .int (iI a2))] [] σ := by
  have h := h (fun (x3 x4 x5 x6 x7 : Int) (σ : gS) => gAt G X (MW G) 11 14 [(0, .ref (g_h G)), (1, .int (iI a1)), (2, .int (iI a2)), (3, .int (iI x3)), (4, .int (iI x4)), (5, .int (iI x5)), (6, .int (iI x6)), (7, .int (iI x7))] [] σ) (fun (x3 x4 x5 x6 x7 x8 t0 : Int) (σ : gS) => gAt G X (MW G) 11 57 [(0, .ref (g_h G)), (1, .int (iI a1)), (2, .int (iI a2)), (3, .int (iI x3)), (4, .int (iI x4)), (5, .int (iI x5)), (6, .int (iI x6)), (7, .int (iI x7)), (8, .int (iI x8))] [.int (iI t0)] σ) (fun (x3 x4 x5 x6 x7 x9 t0 : Int) (σ : gS) => gAt G X (MW G) 11 84 [(0, .ref (g_h G)), (1, .int (iI a1)), (2, .int (iI a2)), (3, .int (iI x3)), (4, .int (iI x4)), (5, .int (iI x5)), (6, .int (iI x6)), (7, .int (iI x7)), (9, .int (iI x9))] [.int (iI t0)] σ) (fun (x4 x5 x6 : Int) (σ : gS) => gAt G X (MW G) 11 162 [(0, .ref (g_h G)), (1, .int (iI a1)), (2, .int (iI a2)), (4, .int (iI x4)), (5, .int (iI x5)), (6, .int (iI x6))] [] σ)
  have h := h (by
    intro x3 x4 x5 x6 x7 σ h
    refine x_iload (pc := 14) C dX1_both_14 7 rfl ?_
    refine x_aload_n (pc := 16) (i := 0) C dX1_both_16 rfl 0 rfl ?_
    refine mg_0 (pc := 17) C dX1_both_17 ?_
    obtain ⟨o1, o2, h⟩ := h
    refine x_icmp_ge (pc := 20) C 162 dX1_both_20 (by decide) o1 o2 (fun hc => ?_) (fun hc => ?_)
    · have h := h.1 hc
      exact x_pick [0, 1, 2, 4, 5, 6] rfl h
    · have h := h.2 hc
      refine x_iload (pc := 23) C dX1_both_23 7 rfl ?_
      refine x_bipush (pc := 25) C dX1_both_25 (by decide) ?_
      refine x_icmp_ge (pc := 27) C 162 dX1_both_27 (by decide) o1 (by decide) (fun hc => ?_) (fun hc => ?_)
      · have h := h.1 hc
        exact x_pick [0, 1, 2, 4, 5, 6] rfl h
      · have h := h.2 hc
        refine x_iload_n (pc := 30) (i := 3) C dX1_both_30 rfl 3 rfl ?_
        refine x_bipush (pc := 31) C dX1_both_31 (by decide) ?_
        obtain ⟨o3, h⟩ := h
        refine x_irem (pc := 33) C dX1_both_33 (by decide) o3 ?_
        have h := h _ rfl
        refine x_istore (pc := 34) (ls' := [(8, .int (iI (x3 % 6))), (0, .ref (g_h G)), (1, .int (iI a1)), (2, .int (iI a2)), (3, .int (iI x3)), (4, .int (iI x4)), (5, .int (iI x5)), (6, .int (iI x6)), (7, .int (iI x7))]) C dX1_both_34 (by decide) rfl ?_
        refine x_iload (pc := 36) C dX1_both_36 0 rfl ?_
        refine x_iconst (pc := 38) C dX1_both_38 ?_
        obtain ⟨o4, h⟩ := h
        refine x_icmp_ge (pc := 39) C 46 dX1_both_39 (by decide) o4 (by decide) (fun hc => ?_) (fun hc => ?_)
        · have h := h.1 hc
          refine x_iload (pc := 46) C dX1_both_46 0 rfl ?_
          refine x_iconst (pc := 48) C dX1_both_48 ?_
          refine x_icmp_ge (pc := 49) C 56 dX1_both_49 (by decide) o4 (by decide) (fun hc => ?_) (fun hc => ?_)
          · have h := h.1 hc
            refine x_iconst (pc := 56) C dX1_both_56 ?_
            exact x_pick [1, 2, 3, 4, 5, 6, 7, 8, 0] rfl h
          · have h := h.2 hc
            refine x_iconst (pc := 52) C dX1_both_52 ?_
            refine x_goto (pc := 53) C 57 dX1_both_53 (by decide) ?_
            exact x_pick [1, 2, 3, 4, 5, 6, 7, 8, 0] rfl h
        · have h := h.2 hc
          refine x_iconst (pc := 42) C dX1_both_42 ?_
          refine x_goto (pc := 43) C 57 dX1_both_43 (by decide) ?_
          exact x_pick [1, 2, 3, 4, 5, 6, 7, 8, 0] rfl h)
  have h := h (by
    intro x3 x4 x5 x6 x7 x8 t0 σ h
    refine x_istore (pc := 57) (ls' := [(9, .int (iI t0)), (0, .ref (g_h G)), (1, .int (iI a1)), (2, .int (iI a2)), (3, .int (iI x3)), (4, .int (iI x4)), (5, .int (iI x5)), (6, .int (iI x6)), (7, .int (iI x7)), (8, .int (iI x8))]) C dX1_both_57 (by decide) rfl ?_
    refine x_iload (pc := 59) C dX1_both_59 9 rfl ?_
    refine x_iconst (pc := 61) C dX1_both_61 ?_
    obtain ⟨o1, h⟩ := h
    refine x_icmp_ge (pc := 62) C 70 dX1_both_62 (by decide) o1 (by decide) (fun hc => ?_) (fun hc => ?_)
    · have h := h.1 hc
      refine x_iload (pc := 70) C dX1_both_70 9 rfl ?_
      refine x_iconst (pc := 72) C dX1_both_72 ?_
      refine x_icmp_ge (pc := 73) C 83 dX1_both_73 (by decide) o1 (by decide) (fun hc => ?_) (fun hc => ?_)
      · have h := h.1 hc
        refine x_iconst (pc := 83) C dX1_both_83 ?_
        exact x_pick [1, 2, 3, 4, 5, 6, 7, 8, 0] rfl h
      · have h := h.2 hc
        refine x_iload (pc := 76) C dX1_both_76 9 rfl ?_
        refine x_iconst (pc := 78) C dX1_both_78 ?_
        refine x_isub (pc := 79) C dX1_both_79 ?_
        refine x_goto (pc := 80) C 84 dX1_both_80 (by decide) ?_
        exact x_pick [1, 2, 3, 4, 5, 6, 7, 8, 0] rfl h
    · have h := h.2 hc
      refine x_iload (pc := 65) C dX1_both_65 9 rfl ?_
      refine x_goto (pc := 67) C 84 dX1_both_67 (by decide) ?_
      exact x_pick [1, 2, 3, 4, 5, 6, 7, 8, 0] rfl h)
  have h := h (by
    intro x3 x4 x5 x6 x7 x9 t0 σ h
    refine x_istore (pc := 84) (ls' := [(10, .int (iI t0)), (0, .ref (g_h G)), (1, .int (iI a1)), (2, .int (iI a2)), (3, .int (iI x3)), (4, .int (iI x4)), (5, .int (iI x5)), (6, .int (iI x6)), (7, .int (iI x7)), (9, .int (iI x9))]) C dX1_both_84 (by decide) rfl ?_
    refine x_iload (pc := 86) C dX1_both_86 9 rfl ?_
    refine x_iload (pc := 88) C dX1_both_88 0 rfl ?_
    refine x_iadd (pc := 90) C dX1_both_90 ?_
    refine x_aload_n (pc := 91) (i := 0) C dX1_both_91 rfl 1 rfl ?_
    refine mg_3 (pc := 92) C dX1_both_92 ?_
    refine x_iload (pc := 95) C dX1_both_95 8 rfl ?_
    obtain ⟨o1, h⟩ := h
    refine ml_3 (pc := 97) C dX1_both_97 o1 ?_
    obtain ⟨o2, o3, h⟩ := h
    refine x_icmp_le (pc := 98) C 103 dX1_both_98 (by decide) o2 o3 (fun hc => ?_) (fun hc => ?_)
    · have h := h.1 hc
      refine x_iload (pc := 103) C dX1_both_103 5 rfl ?_
      refine x_iload (pc := 105) C dX1_both_105 9 rfl ?_
      refine x_aload_n (pc := 107) (i := 0) C dX1_both_107 rfl 1 rfl ?_
      refine mg_1 (pc := 108) C dX1_both_108 ?_
      refine x_iload (pc := 111) C dX1_both_111 8 rfl ?_
      refine ml_1 (pc := 113) C dX1_both_113 o1 ?_
      refine x_imul (pc := 114) C dX1_both_114 ?_
      refine x_iadd (pc := 115) C dX1_both_115 ?_
      have h := h _ rfl
      refine x_istore (pc := 116) (ls' := [(4, .int (iI (x4 + (x9 * (σ 1 x7))))), (10, .int (iI t0)), (0, .ref (g_h G)), (1, .int (iI a1)), (2, .int (iI a2)), (3, .int (iI x3)), (5, .int (iI x5)), (6, .int (iI x6)), (7, .int (iI x7)), (9, .int (iI x9))]) C dX1_both_116 (by decide) rfl ?_
      refine x_iload (pc := 118) C dX1_both_118 6 rfl ?_
      refine x_iload (pc := 120) C dX1_both_120 1 rfl ?_
      refine x_aload_n (pc := 122) (i := 0) C dX1_both_122 rfl 2 rfl ?_
      refine mg_1 (pc := 123) C dX1_both_123 ?_
      refine x_iload (pc := 126) C dX1_both_126 8 rfl ?_
      refine ml_1 (pc := 128) C dX1_both_128 o1 ?_
      refine x_imul (pc := 129) C dX1_both_129 ?_
      refine x_iadd (pc := 130) C dX1_both_130 ?_
      have h := h _ rfl
      refine x_istore (pc := 131) (ls' := [(5, .int (iI (x5 + (t0 * (σ 1 x7))))), (4, .int (iI (x4 + (x9 * (σ 1 x7))))), (10, .int (iI t0)), (0, .ref (g_h G)), (1, .int (iI a1)), (2, .int (iI a2)), (3, .int (iI x3)), (6, .int (iI x6)), (7, .int (iI x7)), (9, .int (iI x9))]) C dX1_both_131 (by decide) rfl ?_
      refine x_iload (pc := 133) C dX1_both_133 7 rfl ?_
      refine x_iload (pc := 135) C dX1_both_135 9 rfl ?_
      refine x_iload (pc := 137) C dX1_both_137 2 rfl ?_
      refine x_iadd (pc := 139) C dX1_both_139 ?_
      refine x_aload_n (pc := 140) (i := 0) C dX1_both_140 rfl 3 rfl ?_
      refine mg_2 (pc := 141) C dX1_both_141 ?_
      refine x_iload (pc := 144) C dX1_both_144 8 rfl ?_
      refine ml_2 (pc := 146) C dX1_both_146 o1 ?_
      refine x_imul (pc := 147) C dX1_both_147 ?_
      refine x_iadd (pc := 148) C dX1_both_148 ?_
      have h := h _ rfl
      refine x_istore (pc := 149) (ls' := [(6, .int (iI (x6 + ((x9 + t0) * (σ 2 x7))))), (5, .int (iI (x5 + (t0 * (σ 1 x7))))), (4, .int (iI (x4 + (x9 * (σ 1 x7))))), (10, .int (iI t0)), (0, .ref (g_h G)), (1, .int (iI a1)), (2, .int (iI a2)), (3, .int (iI x3)), (7, .int (iI x7)), (9, .int (iI x9))]) C dX1_both_149 (by decide) rfl ?_
      refine x_iload_n (pc := 151) (i := 3) C dX1_both_151 rfl 7 rfl ?_
      refine x_bipush (pc := 152) C dX1_both_152 (by decide) ?_
      obtain ⟨o4, h⟩ := h
      refine x_idiv (pc := 154) C dX1_both_154 (by decide) o4 ?_
      have h := h _ rfl
      refine x_istore_n (pc := 155) (i := 3) (ls' := [(3, .int (iI (x3 / 6))), (6, .int (iI (x6 + ((x9 + t0) * (σ 2 x7))))), (5, .int (iI (x5 + (t0 * (σ 1 x7))))), (4, .int (iI (x4 + (x9 * (σ 1 x7))))), (10, .int (iI t0)), (0, .ref (g_h G)), (1, .int (iI a1)), (2, .int (iI a2)), (7, .int (iI x7)), (9, .int (iI x9))]) C dX1_both_155 rfl (by decide) rfl ?_
      refine x_iinc (pc := 156) (ls' := [(7, .int (iI (x7 + 1))), (3, .int (iI (x3 / 6))), (6, .int (iI (x6 + ((x9 + t0) * (σ 2 x7))))), (5, .int (iI (x5 + (t0 * (σ 1 x7))))), (4, .int (iI (x4 + (x9 * (σ 1 x7))))), (10, .int (iI t0)), (0, .ref (g_h G)), (1, .int (iI a1)), (2, .int (iI a2)), (9, .int (iI x9))]) C dX1_both_156 8 rfl (by decide) rfl ?_
      refine x_goto (pc := 159) C 14 dX1_both_159 (by decide) ?_
      exact x_pick [6, 7, 8, 1, 4, 3, 2, 0] rfl h
    · have h := h.2 hc
      refine x_iconst (pc := 101) C dX1_both_101 ?_
      exact hret _ _ _ _ dX1_both_102 trivial h)
  have h := h (by
    intro x4 x5 x6 σ h
    refine x_iload (pc := 162) C dX1_both_162 3 rfl ?_
    refine x_aload_n (pc := 164) (i := 0) C dX1_both_164 rfl 0 rfl ?_
    refine mg_5 (pc := 165) C dX1_both_165 ?_
    obtain ⟨o1, o2, h⟩ := h
    refine x_icmp_gt (pc := 168) C 182 dX1_both_168 (by decide) o1 o2 (fun hc => ?_) (fun hc => ?_)
    · have h := h.1 hc
      refine x_iconst (pc := 182) C dX1_both_182 ?_
      exact hret _ _ _ _ dX1_both_183 trivial h
    · have h := h.2 hc
      refine x_iload (pc := 171) C dX1_both_171 4 rfl ?_
      refine x_iload_n (pc := 173) (i := 2) C dX1_both_173 rfl 2 rfl ?_
      obtain ⟨o3, o4, h⟩ := h
      refine x_icmp_gt (pc := 174) C 182 dX1_both_174 (by decide) o3 o4 (fun hc => ?_) (fun hc => ?_)
      · have h := h.1 hc
        refine x_iconst (pc := 182) C dX1_both_182 ?_
        exact hret _ _ _ _ dX1_both_183 trivial h
      · have h := h.2 hc
        refine x_iload (pc := 177) C dX1_both_177 5 rfl ?_
        refine x_goto (pc := 179) C 183 dX1_both_179 (by decide) ?_
        exact hret _ _ _ _ dX1_both_183 trivial h)
  refine x_iload_n (pc := 0) (i := 1) C dX1_both_0 rfl 1 rfl ?_
  refine x_istore_n (pc := 1) (i := 3) (ls' := [(3, .int (iI a1)), (0, .ref (g_h G)), (1, .int (iI a1)), (2, .int (iI a2))]) C dX1_both_1 rfl (by decide) rfl ?_
  refine x_iconst (pc := 2) C dX1_both_2 ?_
  refine x_istore (pc := 3) (ls' := [(4, .int (iI 0)), (3, .int (iI a1)), (0, .ref (g_h G)), (1, .int (iI a1)), (2, .int (iI a2))]) C dX1_both_3 (by decide) rfl ?_
  refine x_iconst (pc := 5) C dX1_both_5 ?_
  refine x_istore (pc := 6) (ls' := [(5, .int (iI 0)), (4, .int (iI 0)), (3, .int (iI a1)), (0, .ref (g_h G)), (1, .int (iI a1)), (2, .int (iI a2))]) C dX1_both_6 (by decide) rfl ?_
  refine x_iconst (pc := 8) C dX1_both_8 ?_
  refine x_istore (pc := 9) (ls' := [(6, .int (iI 0)), (5, .int (iI 0)), (4, .int (iI 0)), (3, .int (iI a1)), (0, .ref (g_h G)), (1, .int (iI a1)), (2, .int (iI a2))]) C dX1_both_9 (by decide) rfl ?_
  refine x_iconst (pc := 11) C dX1_both_11 ?_
  refine x_istore (pc := 12) (ls' := [(7, .int (iI 0)), (6, .int (iI 0)), (5, .int (iI 0)), (4, .int (iI 0)), (3, .int (iI a1)), (0, .ref (g_h G)), (1, .int (iI a1)), (2, .int (iI a2))]) C dX1_both_12 (by decide) rfl ?_
  exact x_pick [5, 6, 7, 4, 3, 2, 1, 0] rfl h
theorem mt_X1_both (G : gG) (a1 a2 : Int) (σ : gS) (post : Int → gS → Prop) (h : Ok_X1_both a1 a2 σ post) : gMetI G yX1_both (ws_ yX1_both cX1_both 11 (some .int)) 0 (MW G) [.int (iI a1), .int (iI a2)] σ post :=
  gMetI.ofW (own := RX1) (by decide +kernel) rfl (Nat.le_of_ble_eq_true rfl) rfl (fun _ => True) (fun z _ => vp_nar_int (iI z)) (fun X C hret => wk_X1_both G X C a1 a2 σ post hret h)
set_option maxHeartbeats 4000000 in
theorem wk_X1_two (G : gG) (X : gX) (C : gC G X cX1_two 6 RX1 1) (a1 : Int) (σ : gS) (post : Int → gS → Prop) (hret : ∀ (z : Int) (u : gS) (pc : Nat) (ls : List (Nat × Value)), decode cX1_two pc = .ok (.ireturn, 1) → (True) → post z u → gAt G X (MW G) 6 pc ls [.int (iI z)] u) (h : Ok_X1_two a1 σ post) : gAt G X (MW G) 6 0 [(0, .ref (g_h G)), (1, .int (iI a1))] [] σ := by
  have h := h (fun (x2 x3 : Int) (σ : gS) => gAt G X (MW G) 6 16 [(0, .ref (g_h G)), (1, .int (iI a1)), (2, .int (iI x2)), (3, .int (iI x3))] [] σ) (fun (x2 x3 x4 : Int) (σ : gS) => gAt G X (MW G) 6 40 [(0, .ref (g_h G)), (1, .int (iI a1)), (2, .int (iI x2)), (3, .int (iI x3)), (4, .int (iI x4))] [] σ)
  have h := h (by
    intro x2 x3 σ h
    refine x_iload_n (pc := 16) (i := 3) C dX1_two_16 rfl 3 rfl ?_
    refine x_aload_n (pc := 17) (i := 0) C dX1_two_17 rfl 0 rfl ?_
    refine mg_0 (pc := 18) C dX1_two_18 ?_
    obtain ⟨o1, o2, h⟩ := h
    refine x_icmp_ge (pc := 21) C 35 dX1_two_21 (by decide) o1 o2 (fun hc => ?_) (fun hc => ?_)
    · have h := h.1 hc
      refine x_iconst (pc := 35) C dX1_two_35 ?_
      refine x_istore_n (pc := 36) (i := 3) (ls' := [(3, .int (iI 0)), (0, .ref (g_h G)), (1, .int (iI a1)), (2, .int (iI x2))]) C dX1_two_36 rfl (by decide) rfl ?_
      refine x_iconst (pc := 37) C dX1_two_37 ?_
      refine x_istore (pc := 38) (ls' := [(4, .int (iI 0)), (3, .int (iI 0)), (0, .ref (g_h G)), (1, .int (iI a1)), (2, .int (iI x2))]) C dX1_two_38 (by decide) rfl ?_
      exact x_pick [2, 3, 4, 1, 0] rfl h
    · have h := h.2 hc
      refine x_bipush (pc := 24) C dX1_two_24 (by decide) ?_
      refine x_iload_n (pc := 26) (i := 2) C dX1_two_26 rfl 2 rfl ?_
      refine x_imul (pc := 27) C dX1_two_27 ?_
      have h := h _ rfl
      refine x_istore_n (pc := 28) (i := 2) (ls' := [(2, .int (iI (6 * x2))), (0, .ref (g_h G)), (1, .int (iI a1)), (3, .int (iI x3))]) C dX1_two_28 rfl (by decide) rfl ?_
      refine x_iinc (pc := 29) (ls' := [(3, .int (iI (x3 + 1))), (2, .int (iI (6 * x2))), (0, .ref (g_h G)), (1, .int (iI a1))]) C dX1_two_29 3 rfl (by decide) rfl ?_
      refine x_goto (pc := 32) C 16 dX1_two_32 (by decide) ?_
      exact x_pick [2, 3, 1, 0] rfl h)
  have h := h (by
    intro x2 x3 x4 σ h
    refine x_iload (pc := 40) C dX1_two_40 4 rfl ?_
    refine x_iload_n (pc := 42) (i := 2) C dX1_two_42 rfl 2 rfl ?_
    obtain ⟨o1, o2, h⟩ := h
    refine x_icmp_ge (pc := 43) C 70 dX1_two_43 (by decide) o1 o2 (fun hc => ?_) (fun hc => ?_)
    · have h := h.1 hc
      refine x_iload_n (pc := 70) (i := 3) C dX1_two_70 rfl 3 rfl ?_
      exact hret _ _ _ _ dX1_two_71 trivial h
    · have h := h.2 hc
      refine x_aload_n (pc := 46) (i := 0) C dX1_two_46 rfl 0 rfl ?_
      refine x_iload (pc := 47) C dX1_two_47 4 rfl ?_
      refine x_iload_n (pc := 49) (i := 1) C dX1_two_49 rfl 1 rfl ?_
      refine x_calli (pc := 50) (n := 2) (As := [.int (iI x4), .int (iI a1)]) (st := []) C (mt_X1_both G x4 a1 σ _ h) (lw_V q323 q325 qs21 q24 q326) (by decide +kernel) ⟨by decide, by decide⟩ rfl rfl rfl rfl (Nat.le_of_ble_eq_true rfl) dX1_two_50 (fun r50 s50 h => ?_)
      refine x_istore (pc := 53) (ls' := [(5, .int (iI r50)), (0, .ref (g_h G)), (1, .int (iI a1)), (2, .int (iI x2)), (3, .int (iI x3)), (4, .int (iI x4))]) C dX1_two_53 (by decide) rfl ?_
      refine x_iload (pc := 55) C dX1_two_55 0 rfl ?_
      refine x_iload_n (pc := 57) (i := 3) C dX1_two_57 rfl 4 rfl ?_
      obtain ⟨o3, o4, h⟩ := h
      refine x_icmp_le (pc := 58) C 64 dX1_two_58 (by decide) o3 o4 (fun hc => ?_) (fun hc => ?_)
      · have h := h.1 hc
        refine x_iinc (pc := 64) (ls' := [(4, .int (iI (x4 + 1))), (5, .int (iI r50)), (0, .ref (g_h G)), (1, .int (iI a1)), (2, .int (iI x2)), (3, .int (iI x3))]) C dX1_two_64 5 rfl (by decide) rfl ?_
        refine x_goto (pc := 67) C 40 dX1_two_67 (by decide) ?_
        exact x_pick [2, 3, 4, 5, 0] rfl h
      · have h := h.2 hc
        refine x_iload (pc := 61) C dX1_two_61 0 rfl ?_
        refine x_istore_n (pc := 63) (i := 3) (ls' := [(3, .int (iI r50)), (5, .int (iI r50)), (0, .ref (g_h G)), (1, .int (iI a1)), (2, .int (iI x2)), (4, .int (iI x4))]) C dX1_two_63 rfl (by decide) rfl ?_
        refine x_iinc (pc := 64) (ls' := [(4, .int (iI (x4 + 1))), (3, .int (iI r50)), (5, .int (iI r50)), (0, .ref (g_h G)), (1, .int (iI a1)), (2, .int (iI x2))]) C dX1_two_64 5 rfl (by decide) rfl ?_
        refine x_goto (pc := 67) C 40 dX1_two_67 (by decide) ?_
        exact x_pick [3, 4, 5, 1, 0] rfl h)
  refine x_iload_n (pc := 0) (i := 1) C dX1_two_0 rfl 1 rfl ?_
  obtain ⟨o1, h⟩ := h
  refine x_if_lt (pc := 1) C 10 dX1_two_1 (by decide) o1 (fun hc => ?_) (fun hc => ?_)
  · have h := h.1 hc
    refine x_iconst (pc := 10) C dX1_two_10 ?_
    exact hret _ _ _ _ dX1_two_11 trivial h
  · have h := h.2 hc
    refine x_iload_n (pc := 4) (i := 1) C dX1_two_4 rfl 1 rfl ?_
    refine x_bipush (pc := 5) C dX1_two_5 (by decide) ?_
    refine x_icmp_le (pc := 7) C 12 dX1_two_7 (by decide) o1 (by decide) (fun hc => ?_) (fun hc => ?_)
    · have h := h.1 hc
      refine x_iconst (pc := 12) C dX1_two_12 ?_
      refine x_istore_n (pc := 13) (i := 2) (ls' := [(2, .int (iI 1)), (0, .ref (g_h G)), (1, .int (iI a1))]) C dX1_two_13 rfl (by decide) rfl ?_
      refine x_iconst (pc := 14) C dX1_two_14 ?_
      refine x_istore_n (pc := 15) (i := 3) (ls' := [(3, .int (iI 0)), (2, .int (iI 1)), (0, .ref (g_h G)), (1, .int (iI a1))]) C dX1_two_15 rfl (by decide) rfl ?_
      exact x_pick [2, 3, 1, 0] rfl h
    · have h := h.2 hc
      refine x_iconst (pc := 10) C dX1_two_10 ?_
      exact hret _ _ _ _ dX1_two_11 trivial h
theorem mt_X1_two (G : gG) (a1 : Int) (σ : gS) (post : Int → gS → Prop) (h : Ok_X1_two a1 σ post) : gMetI G yX1_two (ws_ yX1_two cX1_two 6 (some .int)) 1 (MW G) [.int (iI a1)] σ post :=
  gMetI.ofW (own := RX1) (by decide +kernel) rfl (Nat.le_of_ble_eq_true rfl) rfl (fun _ => True) (fun z _ => vp_nar_int (iI z)) (fun X C hret => wk_X1_two G X C a1 σ post hret h)
set_option maxHeartbeats 4000000 in
theorem wk_X1_without (G : gG) (X : gX) (C : gC G X cX1_without 3 RX1 2) (a1 : Int) (σ : gS) (post : Int → gS → Prop) (hret : ∀ (z : Int) (u : gS) (pc : Nat) (ls : List (Nat × Value)), decode cX1_without pc = .ok (.ireturn, 1) → (True) → post z u → gAt G X (MW G) 3 pc ls [.int (iI z)] u) (h : Ok_X1_without a1 σ post) : gAt G X (MW G) 3 0 [(0, .ref (g_h G)), (1, .int (iI a1))] [] σ := by
  unfold Ok_X1_without at h
  refine x_aload_n (pc := 0) (i := 0) C dX1_without_0 rfl 0 rfl ?_
  refine x_iload_n (pc := 1) (i := 1) C dX1_without_1 rfl 1 rfl ?_
  refine x_calli (pc := 2) (n := 1) (As := [.int (iI a1)]) (st := []) C (mt_X1_bad G a1 σ _ h) (lw_V q243 q245 qs14 q24 q246) (by decide +kernel) ⟨by decide, by decide⟩ rfl rfl rfl rfl (Nat.le_of_ble_eq_true rfl) dX1_without_2 (fun r2 s2 h => ?_)
  obtain ⟨o1, h⟩ := h
  refine x_if_eq (pc := 5) C 10 dX1_without_5 (by decide) o1 (fun hc => ?_) (fun hc => ?_)
  · have h := h.1 hc
    refine x_aload_n (pc := 10) (i := 0) C dX1_without_10 rfl 0 rfl ?_
    refine x_iconst (pc := 11) C dX1_without_11 ?_
    refine x_iload_n (pc := 12) (i := 1) C dX1_without_12 rfl 1 rfl ?_
    refine x_calli (pc := 13) (n := 2) (As := [.int (iI 0), .int (iI a1)]) (st := []) C (mt_X1_search G 0 a1 s2 _ h) (lw_V q271 q273 qs16 q24 q274) (by decide +kernel) ⟨by decide, by decide⟩ rfl rfl rfl rfl (Nat.le_of_ble_eq_true rfl) dX1_without_13 (fun r13 s13 h => ?_)
    refine x_istore_n (pc := 16) (i := 2) (ls' := [(2, .int (iI r13)), (0, .ref (g_h G)), (1, .int (iI a1))]) C dX1_without_16 rfl (by decide) rfl ?_
    refine x_aload_n (pc := 17) (i := 0) C dX1_without_17 rfl 1 rfl ?_
    refine x_iload_n (pc := 18) (i := 2) C dX1_without_18 rfl 0 rfl ?_
    refine x_calli (pc := 19) (n := 1) (As := [.int (iI r13)]) (st := []) C (mt_X1_valueAt G r13 s13 _ h) (lw_V q283 q285 qs19 q24 q286) (by decide +kernel) ⟨by decide, by decide⟩ rfl rfl rfl rfl (Nat.le_of_ble_eq_true rfl) dX1_without_19 (fun r19 s19 h => ?_)
    exact hret _ _ _ _ dX1_without_22 trivial h
  · have h := h.2 hc
    refine x_iconst (pc := 8) C dX1_without_8 ?_
    exact hret _ _ _ _ dX1_without_9 trivial h
theorem mt_X1_without (G : gG) (a1 : Int) (σ : gS) (post : Int → gS → Prop) (h : Ok_X1_without a1 σ post) : gMetI G yX1_without (ws_ yX1_without cX1_without 3 (some .int)) 2 (MW G) [.int (iI a1)] σ post :=
  gMetI.ofW (own := RX1) (by decide +kernel) rfl (Nat.le_of_ble_eq_true rfl) rfl (fun _ => True) (fun z _ => vp_nar_int (iI z)) (fun X C hret => wk_X1_without G X C a1 σ post hret h)
end
section
set_option maxRecDepth 100000
set_option maxHeartbeats 4000000 in
theorem wk_X1_halves (G : gG) (X : gX) (C : gC G X cX1_halves 3 RX1 2) (σ : gS) (post : Int → gS → Prop) (hret : ∀ (z : Int) (u : gS) (pc : Nat) (ls : List (Nat × Value)), decode cX1_halves pc = .ok (.ireturn, 1) → (True) → post z u → gAt G X (MW G) 3 pc ls [.int (iI z)] u) (h : Ok_X1_halves  σ post) : gAt G X (MW G) 3 0 [(0, .ref (g_h G))] [] σ := by
  have h := h (fun (x1 x2 : Int) (σ : gS) => gAt G X (MW G) 3 4 [(0, .ref (g_h G)), (1, .int (iI x1)), (2, .int (iI x2))] [] σ) (fun (x1 : Int) (σ : gS) => gAt G X (MW G) 3 40 [(0, .ref (g_h G)), (1, .int (iI x1))] [] σ)
  have h := h (by
    intro x1 x2 σ h
    refine x_iload_n (pc := 4) (i := 2) C dX1_halves_4 rfl 2 rfl ?_
    refine x_aload_n (pc := 5) (i := 0) C dX1_halves_5 rfl 0 rfl ?_
    refine mg_0 (pc := 6) C dX1_halves_6 ?_
    obtain ⟨o1, o2, h⟩ := h
    refine x_icmp_ge (pc := 9) C 40 dX1_halves_9 (by decide) o1 o2 (fun hc => ?_) (fun hc => ?_)
    · have h := h.1 hc
      exact x_pick [0, 1] rfl h
    · have h := h.2 hc
      refine x_iload_n (pc := 12) (i := 2) C dX1_halves_12 rfl 2 rfl ?_
      refine x_bipush (pc := 13) C dX1_halves_13 (by decide) ?_
      refine x_icmp_ge (pc := 15) C 40 dX1_halves_15 (by decide) o1 (by decide) (fun hc => ?_) (fun hc => ?_)
      · have h := h.1 hc
        exact x_pick [0, 1] rfl h
      · have h := h.2 hc
        refine x_iload_n (pc := 18) (i := 1) C dX1_halves_18 rfl 1 rfl ?_
        refine x_aload_n (pc := 19) (i := 0) C dX1_halves_19 rfl 0 rfl ?_
        refine mg_3 (pc := 20) C dX1_halves_20 ?_
        refine x_iload_n (pc := 23) (i := 2) C dX1_halves_23 rfl 2 rfl ?_
        obtain ⟨o3, h⟩ := h
        refine ml_3 (pc := 24) C dX1_halves_24 o3 ?_
        refine x_aload_n (pc := 25) (i := 0) C dX1_halves_25 rfl 0 rfl ?_
        refine mg_1 (pc := 26) C dX1_halves_26 ?_
        refine x_iload_n (pc := 29) (i := 2) C dX1_halves_29 rfl 2 rfl ?_
        refine ml_1 (pc := 30) C dX1_halves_30 o3 ?_
        refine x_imul (pc := 31) C dX1_halves_31 ?_
        refine x_iadd (pc := 32) C dX1_halves_32 ?_
        have h := h _ rfl
        refine x_istore_n (pc := 33) (i := 1) (ls' := [(1, .int (iI (x1 + ((σ 3 x2) * (σ 1 x2))))), (0, .ref (g_h G)), (2, .int (iI x2))]) C dX1_halves_33 rfl (by decide) rfl ?_
        refine x_iinc (pc := 34) (ls' := [(2, .int (iI (x2 + 1))), (1, .int (iI (x1 + ((σ 3 x2) * (σ 1 x2))))), (0, .ref (g_h G))]) C dX1_halves_34 2 rfl (by decide) rfl ?_
        refine x_goto (pc := 37) C 4 dX1_halves_37 (by decide) ?_
        exact x_pick [2, 1, 0] rfl h)
  have h := h (by
    intro x1 σ h
    refine x_iload_n (pc := 40) (i := 1) C dX1_halves_40 rfl 1 rfl ?_
    refine x_iconst (pc := 41) C dX1_halves_41 ?_
    obtain ⟨o1, h⟩ := h
    refine x_irem (pc := 42) C dX1_halves_42 (by decide) o1 ?_
    obtain ⟨o2, h⟩ := h
    refine x_if_ne (pc := 43) C 60 dX1_halves_43 (by decide) o2 (fun hc => ?_) (fun hc => ?_)
    · have h := h.1 hc
      refine x_iconst (pc := 60) C dX1_halves_60 ?_
      exact hret _ _ _ _ dX1_halves_61 trivial h
    · have h := h.2 hc
      refine x_aload_n (pc := 46) (i := 0) C dX1_halves_46 rfl 0 rfl ?_
      refine x_iload_n (pc := 47) (i := 1) C dX1_halves_47 rfl 1 rfl ?_
      refine x_iconst (pc := 48) C dX1_halves_48 ?_
      refine x_idiv (pc := 49) C dX1_halves_49 (by decide) o1 ?_
      refine x_calli (pc := 50) (n := 1) (As := [.int (iI (x1 / 2))]) (st := []) C (mt_X1_having G (x1 / 2) σ _ h) (lw_V q307 q309 qs20 q24 q310) (by decide +kernel) ⟨by decide, by decide⟩ rfl rfl rfl rfl (Nat.le_of_ble_eq_true rfl) dX1_halves_50 (fun r50 s50 h => ?_)
      obtain ⟨o3, h⟩ := h
      refine x_if_le (pc := 53) C 60 dX1_halves_53 (by decide) o3 (fun hc => ?_) (fun hc => ?_)
      · have h := h.1 hc
        refine x_iconst (pc := 60) C dX1_halves_60 ?_
        exact hret _ _ _ _ dX1_halves_61 trivial h
      · have h := h.2 hc
        refine x_iconst (pc := 56) C dX1_halves_56 ?_
        refine x_goto (pc := 57) C 61 dX1_halves_57 (by decide) ?_
        exact hret _ _ _ _ dX1_halves_61 trivial h)
  refine x_iconst (pc := 0) C dX1_halves_0 ?_
  refine x_istore_n (pc := 1) (i := 1) (ls' := [(1, .int (iI 0)), (0, .ref (g_h G))]) C dX1_halves_1 rfl (by decide) rfl ?_
  refine x_iconst (pc := 2) C dX1_halves_2 ?_
  refine x_istore_n (pc := 3) (i := 2) (ls' := [(2, .int (iI 0)), (1, .int (iI 0)), (0, .ref (g_h G))]) C dX1_halves_3 rfl (by decide) rfl ?_
  exact x_pick [2, 1, 0] rfl h
theorem mt_X1_halves (G : gG) (σ : gS) (post : Int → gS → Prop) (h : Ok_X1_halves  σ post) : gMetI G yX1_halves (ws_ yX1_halves cX1_halves 3 (some .int)) 2 (MW G) [] σ post :=
  gMetI.ofW (own := RX1) (by decide +kernel) rfl (Nat.le_of_ble_eq_true rfl) rfl (fun _ => True) (fun z _ => vp_nar_int (iI z)) (fun X C hret => wk_X1_halves G X C  σ post hret h)
end
section
/-! PURE, 1: codes to the base 3, their weights, greatest values, counts -/
set_option maxRecDepth 100000
def p3 : Nat → Int
  | 0 => 1
  | m + 1 => 3 * p3 m
theorem p3_s (m : Nat) : p3 (m + 1) = 3 * p3 m := rfl
theorem p3_pos : ∀ m, 0 < p3 m
  | 0 => by decide
  | m + 1 => by
    have h := p3_pos m
    rw [p3_s]
    omega
theorem p3_le {m k : Nat} (h : m ≤ k) : p3 m ≤ p3 k := by
  induction k with
  | zero => rw [show m = 0 by omega]; exact Int.le_refl _
  | succ k ih =>
    by_cases hk : m = k + 1
    · rw [hk]; exact Int.le_refl _
    · have h1 := ih (by omega)
      have h2 := p3_pos k
      rw [p3_s]
      omega
theorem p3_7 {m : Nat} (h : m ≤ 7) : p3 m ≤ 2187 := p3_le (k := 7) h
theorem d_step (c : Int) (m : Nat) : c / p3 m / 3 = c / p3 (m + 1) := by
  rw [Int.ediv_ediv_of_nonneg (Int.le_of_lt (p3_pos m)), p3_s, Int.mul_comm]
/-- c = d * P + r -/
theorem d_mk {c d r : Int} (m : Nat) (h : c = d * p3 m + r) (h0 : 0 ≤ r) (h1 : r < p3 m) : c / p3 m = d ∧ c % p3 m = r := by
  refine (Int.ediv_emod_unique (p3_pos m)).mpr ⟨?_, h0, h1⟩
  rw [h, Int.mul_comm]
  omega
theorem d_eq (c : Int) (m : Nat) : c = c / p3 m * p3 m + c % p3 m := by
  have h := Int.mul_ediv_add_emod c (p3 m)
  rw [Int.mul_comm] at h
  exact h.symm
theorem d_lo (c : Int) (m : Nat) : 0 ≤ c % p3 m ∧ c % p3 m < p3 m := ⟨Int.emod_nonneg _ (by have := p3_pos m; omega), Int.emod_lt_of_pos _ (p3_pos m)⟩
theorem d_mod3 (c : Int) (m : Nat) : c % p3 (m + 1) = c / p3 m % 3 * p3 m + c % p3 m := by
  have hp := p3_pos m
  have h1 := d_eq c m
  have h2 : c / p3 m = 3 * (c / p3 m / 3) + c / p3 m % 3 := by omega
  have h3 := d_lo c m
  have h4 : 0 ≤ c / p3 m % 3 ∧ c / p3 m % 3 < 3 := by omega
  have hu := (Int.ediv_emod_unique (a := c) (b := p3 (m + 1)) (r := c / p3 m % 3 * p3 m + c % p3 m) (q := c / p3 m / 3) (p3_pos (m + 1))).mpr
  generalize c / p3 m % 3 = b at *
  generalize c / p3 m / 3 = a at *
  generalize c % p3 m = r at *
  refine (hu ⟨?_, ?_⟩).2
  · rw [h1, h2, p3_s]
    grind
  · rw [p3_s]
    rcases (show b = 0 ∨ b = 1 ∨ b = 2 by omega) with rfl | rfl | rfl <;> omega
theorem m_dm (c : Int) (m : Nat) : c % p3 (m + 1) / p3 m = c / p3 m % 3 ∧ c % p3 (m + 1) % p3 m = c % p3 m :=
  d_mk m (d_mod3 c m) (d_lo c m).1 (d_lo c m).2
/-- the code of m goods is that of a choice: each digit within the supply; good n - 1 - m is the first -/
def vd (s : Int → Int) (n : Int) : Nat → Int → Prop
  | 0, _ => True
  | m + 1, c => c / p3 m ≤ s (n - 1 - m) ∧ vd s n m (c % p3 m)
/-- its weight (or value) -/
def ew (w : Int → Int) (n : Int) : Nat → Int → Int
  | 0, _ => 0
  | m + 1, c => c / p3 m * w (n - 1 - m) + ew w n m (c % p3 m)
theorem vd_s (s : Int → Int) (n : Int) (m : Nat) (c : Int) : vd s n (m + 1) c ↔ c / p3 m ≤ s (n - 1 - m) ∧ vd s n m (c % p3 m) := Iff.rfl
theorem ew_s (w : Int → Int) (n : Int) (m : Nat) (c : Int) : ew w n (m + 1) c = c / p3 m * w (n - 1 - m) + ew w n m (c % p3 m) := rfl
theorem vd_step (s : Int → Int) (n : Int) (m : Nat) (c : Int) : vd s n (m + 1) (c % p3 (m + 1)) ↔ c / p3 m % 3 ≤ s (n - 1 - m) ∧ vd s n m (c % p3 m) := by
  rw [vd_s, (m_dm c m).1, (m_dm c m).2]
theorem ew_step (w : Int → Int) (n : Int) (m : Nat) (c : Int) : ew w n (m + 1) (c % p3 (m + 1)) = c / p3 m % 3 * w (n - 1 - m) + ew w n m (c % p3 m) := by
  rw [ew_s, (m_dm c m).1, (m_dm c m).2]
theorem vd_mk {s : Int → Int} {n : Int} {m : Nat} {c d r : Int} (h : c = d * p3 m + r) (h0 : 0 ≤ r) (h1 : r < p3 m) : vd s n (m + 1) c ↔ d ≤ s (n - 1 - m) ∧ vd s n m r := by
  rw [vd_s, (d_mk m h h0 h1).1, (d_mk m h h0 h1).2]
theorem ew_mk {w : Int → Int} {n : Int} {m : Nat} {c d r : Int} (h : c = d * p3 m + r) (h0 : 0 ≤ r) (h1 : r < p3 m) : ew w n (m + 1) c = d * w (n - 1 - m) + ew w n m r := by
  rw [ew_s, (d_mk m h h0 h1).1, (d_mk m h h0 h1).2]
theorem vd_down {s : Int → Int} {n : Int} {c : Int} : ∀ {M m : Nat}, m ≤ M → vd s n M (c % p3 M) → vd s n m (c % p3 m) := by
  intro M
  induction M with
  | zero =>
    intro m h1 h2
    rw [show m = 0 by omega]
    exact trivial
  | succ M ih =>
    intro m h1 h2
    by_cases hm : m = M + 1
    · rw [hm]; exact h2
    · exact ih (by omega) ((vd_step s n M c).mp h2).2
/-- the codes of choices of all n goods -/
def isC (s : Int → Int) (n : Nat) (c : Int) : Prop := 0 ≤ c ∧ c < p3 n ∧ vd s n n c
/-- the numbers' bounds -/
def gN (n : Nat) (w v s : Int → Int) : Prop := n ≤ 7 ∧ ∀ k : Int, 0 ≤ k → k < n → (1 ≤ w k ∧ w k ≤ 20) ∧ (0 ≤ v k ∧ v k ≤ 50) ∧ (0 ≤ s k ∧ s k ≤ 2)
theorem dig_lt {c : Int} {m : Nat} (h0 : 0 ≤ c) (h1 : c < p3 (m + 1)) : 0 ≤ c / p3 m ∧ c / p3 m ≤ 2 := by
  have hp := p3_pos m
  have ha := Int.ediv_nonneg h0 (Int.le_of_lt hp)
  have hb : c / p3 m < 3 := Int.ediv_lt_of_lt_mul hp (by rw [← p3_s]; exact h1)
  omega
theorem mul_bd {d w : Int} {B : Int} (h0 : 0 ≤ d) (h2 : d ≤ 2) (hw : 0 ≤ w ∧ w ≤ B) : 0 ≤ d * w ∧ d * w ≤ 2 * B := by
  rcases (show d = 0 ∨ d = 1 ∨ d = 2 by omega) with rfl | rfl | rfl <;> omega
theorem ew_bd {w : Int → Int} {n : Nat} {B : Int} (hw : ∀ k : Int, 0 ≤ k → k < n → 0 ≤ w k ∧ w k ≤ B) : ∀ (m : Nat) (c : Int), m ≤ n → 0 ≤ c → c < p3 m → 0 ≤ ew w n m c ∧ ew w n m c ≤ 2 * B * m := by
  intro m
  induction m with
  | zero => intro c _ _ _; exact ⟨Int.le_refl 0, by show (0 : Int) ≤ _; omega⟩
  | succ m ih =>
    intro c hm h0 h1
    have hd := dig_lt h0 h1
    have h2 := ih (c % p3 m) (by omega) (d_lo c m).1 (d_lo c m).2
    have h3 := mul_bd hd.1 hd.2 (hw ((n : Int) - 1 - m) (by omega) (by omega))
    rw [ew_s]
    have h4 : 2 * B * ((m + 1 : Nat) : Int) = 2 * B * (m : Int) + 2 * B := by
      rw [Int.natCast_add, Int.mul_add]
      simp
    rw [h4]
    omega
theorem gN_w {n : Nat} {w v s : Int → Int} (h : gN n w v s) {m : Nat} (hm : m ≤ n) {c : Int} (h0 : 0 ≤ c) (h1 : c < p3 m) : 0 ≤ ew w n m c ∧ ew w n m c ≤ 280 := by
  have h2 := ew_bd (w := w) (n := n) (B := 20) (fun k a b => by have := (h.2 k a b).1; omega) m c hm h0 h1
  have h3 := h.1
  omega
theorem gN_v {n : Nat} {w v s : Int → Int} (h : gN n w v s) {m : Nat} (hm : m ≤ n) {c : Int} (h0 : 0 ≤ c) (h1 : c < p3 m) : 0 ≤ ew v n m c ∧ ew v n m c ≤ 700 := by
  have h2 := ew_bd (w := v) (n := n) (B := 50) (fun k a b => (h.2 k a b).2.1) m c hm h0 h1
  have h3 := h.1
  omega
/-! greatest values: t is the greatest x with S x (all of them 0 or more), or -100000 if there is none -/
def mx (S : Int → Prop) (t : Int) : Prop := (t = -100000 ∧ ∀ x, ¬ S x) ∨ (0 ≤ t ∧ S t ∧ ∀ x, S x → x ≤ t)
theorem mx_cg {S S' : Int → Prop} {t : Int} (h : mx S t) (e : ∀ x, S x ↔ S' x) : mx S' t := by
  rcases h with ⟨h1, h2⟩ | ⟨h1, h2, h3⟩
  · exact Or.inl ⟨h1, fun x hx => h2 x ((e x).mpr hx)⟩
  · exact Or.inr ⟨h1, (e t).mp h2, fun x hx => h3 x ((e x).mpr hx)⟩
theorem mx_L {S S' : Int → Prop} {a b : Int} (ha : mx S a) (hb : mx S' b) (h : b ≤ a) : mx (fun x => S x ∨ S' x) a := by
  rcases ha with ⟨h1, h2⟩ | ⟨h1, h2, h3⟩
  · rcases hb with ⟨g1, g2⟩ | ⟨g1, g2, g3⟩
    · exact Or.inl ⟨h1, fun x hx => hx.elim (h2 x) (g2 x)⟩
    · omega
  · refine Or.inr ⟨h1, Or.inl h2, fun x hx => hx.elim (h3 x) (fun q => ?_)⟩
    rcases hb with ⟨g1, g2⟩ | ⟨g1, g2, g3⟩
    · exact absurd q (g2 x)
    · have := g3 x q; omega
theorem mx_R {S S' : Int → Prop} {a b : Int} (ha : mx S a) (hb : mx S' b) (h : a < b) : mx (fun x => S x ∨ S' x) b := by
  rcases hb with ⟨g1, g2⟩ | ⟨g1, g2, g3⟩
  · rcases ha with ⟨h1, h2⟩ | ⟨h1, h2, h3⟩ <;> omega
  · refine Or.inr ⟨g1, Or.inr g2, fun x hx => hx.elim (fun q => ?_) (g3 x)⟩
    rcases ha with ⟨h1, h2⟩ | ⟨h1, h2, h3⟩
    · exact absurd q (h2 x)
    · have := h3 x q; omega
theorem mx_no {S S' : Int → Prop} {a : Int} (ha : mx S a) (hb : ∀ x, ¬ S' x) : mx (fun x => S x ∨ S' x) a := mx_cg ha (fun x => ⟨Or.inl, fun h => h.elim id (fun q => absurd q (hb x))⟩)
theorem mx_sh {S : Int → Prop} {a δ : Int} (h : mx S a) (h0 : 0 ≤ a) (hd : 0 ≤ δ) : mx (fun x => S (x - δ)) (a + δ) := by
  rcases h with ⟨h1, h2⟩ | ⟨h1, h2, h3⟩
  · omega
  · refine Or.inr ⟨by omega, ?_, fun x hx => by have := h3 _ hx; omega⟩
    show S (a + δ - δ)
    rw [show a + δ - δ = a by omega]
    exact h2
theorem mx_ng {S : Int → Prop} {a : Int} (h : mx S a) (h0 : a < 0) : ∀ x, ¬ S x := by
  rcases h with ⟨h1, h2⟩ | ⟨h1, h2, h3⟩
  · exact h2
  · omega
theorem mx_ps {S : Int → Prop} {a : Int} (h : mx S a) (h0 : 0 ≤ a) : S a ∧ ∀ x, S x → x ≤ a := by
  rcases h with ⟨h1, h2⟩ | ⟨h1, h2, h3⟩
  · omega
  · exact ⟨h2, h3⟩
theorem mx_le {S : Int → Prop} {a x : Int} (h : mx S a) (hx : S x) : 0 ≤ a ∧ x ≤ a := by
  rcases h with ⟨h1, h2⟩ | ⟨h1, h2, h3⟩
  · exact absurd hx (h2 x)
  · exact ⟨h1, h3 x hx⟩
theorem mx_emp {S : Int → Prop} (h : ∀ x, ¬ S x) : mx S (-100000) := Or.inl ⟨rfl, h⟩
theorem mx_bd {S : Int → Prop} {a B : Int} (h : mx S a) (hB : ∀ x, S x → x ≤ B) : a = -100000 ∨ (0 ≤ a ∧ a ≤ B) := by
  rcases h with ⟨h1, h2⟩ | ⟨h1, h2, h3⟩
  · exact Or.inl h1
  · exact Or.inr ⟨h1, hB a h2⟩
/-! counts -/
noncomputable def cn (P : Int → Prop) : Nat → Int
  | 0 => 0
  | b + 1 => cn P b + @ite Int (P (b : Int)) (Classical.propDecidable _) 1 0
theorem cn_t {P : Int → Prop} {b : Nat} (h : P (b : Int)) : cn P (b + 1) = cn P b + 1 := by
  show cn P b + @ite Int (P (b : Int)) (Classical.propDecidable _) 1 0 = _
  rw [if_pos h]
theorem cn_f {P : Int → Prop} {b : Nat} (h : ¬ P (b : Int)) : cn P (b + 1) = cn P b := by
  show cn P b + @ite Int (P (b : Int)) (Classical.propDecidable _) 1 0 = _
  rw [if_neg h]
  omega
theorem cn_bd (P : Int → Prop) : ∀ b : Nat, 0 ≤ cn P b ∧ cn P b ≤ b := by
  intro b
  induction b with
  | zero => exact ⟨Int.le_refl 0, Int.le_refl 0⟩
  | succ b ih =>
    by_cases h : P (b : Int)
    · rw [cn_t h]; omega
    · rw [cn_f h]; omega
theorem cn_cg {P Q : Int → Prop} : ∀ b : Nat, (∀ c : Int, 0 ≤ c → c < b → (P c ↔ Q c)) → cn P b = cn Q b := by
  intro b
  induction b with
  | zero => intro _; rfl
  | succ b ih =>
    intro h
    have h1 := ih (fun c h0 h1 => h c h0 (by omega))
    have h2 := h (b : Int) (by omega) (by omega)
    by_cases hp : P (b : Int)
    · rw [cn_t hp, cn_t (h2.mp hp), h1]
    · rw [cn_f hp, cn_f (fun q => hp (h2.mpr q)), h1]
theorem cn_0 {P : Int → Prop} (b : Nat) (h : ∀ c : Int, 0 ≤ c → c < b → ¬ P c) : cn P b = 0 := by
  induction b with
  | zero => rfl
  | succ b ih => rw [cn_f (h _ (by omega) (by omega)), ih (fun c h0 h1 => h c h0 (by omega))]
theorem cn_pos {P : Int → Prop} : ∀ b : Nat, 0 < cn P b ↔ ∃ c : Int, 0 ≤ c ∧ c < b ∧ P c := by
  intro b
  constructor
  · intro h
    by_cases he : ∃ c : Int, 0 ≤ c ∧ c < b ∧ P c
    · exact he
    · have := cn_0 (P := P) b (fun c h0 h1 hp => he ⟨c, h0, h1, hp⟩)
      omega
  · rintro ⟨c, h0, h1, hp⟩
    induction b with
    | zero => omega
    | succ b ih =>
      have hb := cn_bd P b
      by_cases hc : c = (b : Int)
      · rw [hc] at hp
        rw [cn_t hp]
        omega
      · have := ih (by omega)
        by_cases hq : P (b : Int)
        · rw [cn_t hq]; omega
        · rw [cn_f hq]; omega
theorem cn_add (P : Int → Prop) (a : Nat) : ∀ b : Nat, cn P (a + b) = cn P a + cn (fun c => P ((a : Int) + c)) b := by
  intro b
  induction b with
  | zero => show cn P a = cn P a + 0; omega
  | succ b ih =>
    have e : ((a + b : Nat) : Int) = (a : Int) + (b : Int) := by omega
    by_cases h : P ((a : Int) + (b : Int))
    · rw [show a + (b + 1) = (a + b) + 1 by omega, cn_t (by rw [e]; exact h), cn_t (P := fun c => P ((a : Int) + c)) h, ih]
      omega
    · rw [show a + (b + 1) = (a + b) + 1 by omega, cn_f (by rw [e]; exact h), cn_f (P := fun c => P ((a : Int) + c)) h, ih]
theorem cn_or {P Q : Int → Prop} : ∀ b : Nat, (∀ c, ¬ (P c ∧ Q c)) → cn (fun c => P c ∨ Q c) b = cn P b + cn Q b := by
  intro b
  induction b with
  | zero => intro _; rfl
  | succ b ih =>
    intro h
    have h1 := ih h
    by_cases hp : P (b : Int)
    · have hq : ¬ Q (b : Int) := fun q => h _ ⟨hp, q⟩
      rw [cn_t (P := fun c => P c ∨ Q c) (Or.inl hp), cn_t hp, cn_f hq, h1]
      omega
    · by_cases hq : Q (b : Int)
      · rw [cn_t (P := fun c => P c ∨ Q c) (Or.inr hq), cn_f hp, cn_t hq, h1]
        omega
      · rw [cn_f (P := fun c => P c ∨ Q c) (fun z => z.elim hp hq), cn_f hp, cn_f hq, h1]
theorem p3_nat (m : Nat) : p3 m = ((3 ^ m : Nat) : Int) := by
  induction m with
  | zero => rfl
  | succ m ih => rw [p3_s, ih, Nat.pow_succ]; omega
/-- how many choices of the last m goods weigh W -/
noncomputable def nw (s w : Int → Int) (n : Int) (m : Nat) (W : Int) : Int := cn (fun c => vd s n m c ∧ ew w n m c = W) (3 ^ m)
theorem nw_bd (s w : Int → Int) (n : Int) {m : Nat} (hm : m ≤ 7) (W : Int) : 0 ≤ nw s w n m W ∧ nw s w n m W ≤ 2187 := by
  have h := cn_bd (fun c => vd s n m c ∧ ew w n m c = W) (3 ^ m)
  have h2 := p3_7 hm
  rw [p3_nat] at h2
  exact ⟨h.1, Int.le_trans h.2 h2⟩
theorem nw_s {s w : Int → Int} {n : Int} {m : Nat} {W : Int} (h0 : 0 ≤ s (n - 1 - m)) : nw s w n (m + 1) W = nw s w n m W + (if 1 ≤ s (n - 1 - m) then nw s w n m (W - w (n - 1 - m)) else 0) + (if 2 ≤ s (n - 1 - m) then nw s w n m (W - 2 * w (n - 1 - m)) else 0) := by
  have part : ∀ d : Int, 0 ≤ d → cn (fun c => vd s n (m + 1) (d * p3 m + c) ∧ ew w n (m + 1) (d * p3 m + c) = W) (3 ^ m) = if d ≤ s (n - 1 - m) then nw s w n m (W - d * w (n - 1 - m)) else 0 := by
    intro d hd
    by_cases h : d ≤ s (n - 1 - m)
    · rw [if_pos h]
      refine cn_cg _ (fun c g0 g1 => ?_)
      rw [← p3_nat] at g1
      rw [vd_mk rfl g0 g1, ew_mk rfl g0 g1]
      constructor
      · rintro ⟨⟨_, q1⟩, q2⟩
        exact ⟨q1, by omega⟩
      · rintro ⟨q1, q2⟩
        exact ⟨⟨h, q1⟩, by omega⟩
    · rw [if_neg h]
      refine cn_0 _ (fun c g0 g1 q => ?_)
      rw [← p3_nat] at g1
      rw [vd_mk rfl g0 g1] at q
      exact h q.1.1
  have e : 3 ^ (m + 1) = 3 ^ m + (3 ^ m + 3 ^ m) := by rw [Nat.pow_succ]; omega
  unfold nw
  rw [e, cn_add, cn_add]
  have a0 := part 0 (by omega)
  have a1 := part 1 (by omega)
  have a2 := part 2 (by omega)
  rw [if_pos h0] at a0
  have b0 : cn (fun c => vd s n (m + 1) c ∧ ew w n (m + 1) c = W) (3 ^ m) = cn (fun c => vd s n (m + 1) (0 * p3 m + c) ∧ ew w n (m + 1) (0 * p3 m + c) = W) (3 ^ m) := by
    refine cn_cg _ (fun c _ _ => ?_)
    rw [show 0 * p3 m + c = c by omega]
  have b1 : cn (fun c => vd s n (m + 1) (((3 ^ m : Nat) : Int) + c) ∧ ew w n (m + 1) (((3 ^ m : Nat) : Int) + c) = W) (3 ^ m) = cn (fun c => vd s n (m + 1) (1 * p3 m + c) ∧ ew w n (m + 1) (1 * p3 m + c) = W) (3 ^ m) := by
    refine cn_cg _ (fun c _ _ => ?_)
    rw [← p3_nat, show 1 * p3 m + c = p3 m + c by omega]
  have b2 : cn (fun c => vd s n (m + 1) (((3 ^ m : Nat) : Int) + (((3 ^ m : Nat) : Int) + c)) ∧ ew w n (m + 1) (((3 ^ m : Nat) : Int) + (((3 ^ m : Nat) : Int) + c)) = W) (3 ^ m) = cn (fun c => vd s n (m + 1) (2 * p3 m + c) ∧ ew w n (m + 1) (2 * p3 m + c) = W) (3 ^ m) := by
    refine cn_cg _ (fun c _ _ => ?_)
    rw [← p3_nat, show 2 * p3 m + c = p3 m + (p3 m + c) by omega]
  rw [b0, b1, b2, a0, a1, a2]
  unfold nw
  rw [show W - 0 * w (n - 1 - m) = W by omega, show W - 1 * w (n - 1 - m) = W - w (n - 1 - m) by omega]
  omega
theorem nw_neg {s w : Int → Int} {n : Nat} {v : Int → Int} (h : gN n w v s) {m : Nat} (hm : m ≤ n) {W : Int} (hW : W < 0) : nw s w n m W = 0 := by
  refine cn_0 _ (fun c g0 g1 q => ?_)
  rw [← p3_nat] at g1
  have := gN_w h hm g0 g1
  omega
end
section
/-! PURE, 2: the two objects' goods; the simple methods -/
set_option maxRecDepth 100000
theorem sU_f {σ : gS} {j j' : Nat} {z v : Int} (h : j' ≠ j) : sU σ j z v j' = σ j' := funext fun z' => sU_nf h
/-- goods: n of them, with weights w, values v, supplies s, families f; the limit L -/
def gD (n : Nat) (w v s f : Int → Int) (L : Int) : Prop := n ≤ 7 ∧ (0 ≤ L ∧ L ≤ 60) ∧ ∀ k : Int, 0 ≤ k → k < n → (1 ≤ w k ∧ w k ≤ 20) ∧ (0 ≤ v k ∧ v k ≤ 50) ∧ (1 ≤ s k ∧ s k ≤ 2) ∧ (0 ≤ f k ∧ f k ≤ 3)
def xI (n : Nat) (w v s f : Int → Int) (L : Int) (σ : gS) : Prop := σ 9 0 = n ∧ σ 10 0 = L ∧ ∀ k : Int, 0 ≤ k → k < n → σ 0 k = w k ∧ σ 1 k = v k ∧ σ 2 k = s k ∧ σ 3 k = f k
def mI (n : Nat) (w v s f : Int → Int) (L : Int) (σ : gS) : Prop := σ 0 0 = n ∧ σ 5 0 = L ∧ ∀ k : Int, 0 ≤ k → k < n → σ 1 k = w k ∧ σ 2 k = v k ∧ σ 3 k = s k ∧ σ 4 k = f k
theorem gD.N {n : Nat} {w v s f : Int → Int} {L : Int} (h : gD n w v s f L) : gN n w v s := ⟨h.1, fun k a b => ⟨(h.2.2 k a b).1, (h.2.2 k a b).2.1, by have := (h.2.2 k a b).2.2.1; omega⟩⟩
/-- only scratch has changed -/
def xK (σ τ : gS) : Prop := τ 0 = σ 0 ∧ τ 1 = σ 1 ∧ τ 2 = σ 2 ∧ τ 3 = σ 3 ∧ τ 9 = σ 9 ∧ τ 10 = σ 10
def mK (σ τ : gS) : Prop := τ 0 = σ 0 ∧ τ 1 = σ 1 ∧ τ 2 = σ 2 ∧ τ 3 = σ 3 ∧ τ 4 = σ 4 ∧ τ 5 = σ 5
theorem xK.rf (σ : gS) : xK σ σ := ⟨rfl, rfl, rfl, rfl, rfl, rfl⟩
theorem mK.rf (σ : gS) : mK σ σ := ⟨rfl, rfl, rfl, rfl, rfl, rfl⟩
theorem xK.tr {a b c : gS} (h : xK a b) (g : xK b c) : xK a c := ⟨g.1.trans h.1, g.2.1.trans h.2.1, g.2.2.1.trans h.2.2.1, g.2.2.2.1.trans h.2.2.2.1, g.2.2.2.2.1.trans h.2.2.2.2.1, g.2.2.2.2.2.trans h.2.2.2.2.2⟩
theorem mK.tr {a b c : gS} (h : mK a b) (g : mK b c) : mK a c := ⟨g.1.trans h.1, g.2.1.trans h.2.1, g.2.2.1.trans h.2.2.1, g.2.2.2.1.trans h.2.2.2.1, g.2.2.2.2.1.trans h.2.2.2.2.1, g.2.2.2.2.2.trans h.2.2.2.2.2⟩
theorem xK.I {n : Nat} {w v s f : Int → Int} {L : Int} {σ τ : gS} (h : xK σ τ) (g : xI n w v s f L σ) : xI n w v s f L τ := by
  obtain ⟨h0, h1, h2, h3, h9, h10⟩ := h
  unfold xI
  rw [h0, h1, h2, h3, h9, h10]
  exact g
theorem mK.I {n : Nat} {w v s f : Int → Int} {L : Int} {σ τ : gS} (h : mK σ τ) (g : mI n w v s f L σ) : mI n w v s f L τ := by
  obtain ⟨h0, h1, h2, h3, h9, h10⟩ := h
  unfold mI
  rw [h0, h1, h2, h3, h9, h10]
  exact g
theorem xK.u {σ : gS} {j : Nat} {z v : Int} (h : j = 4 ∨ j = 5 ∨ j = 6 ∨ j = 7 ∨ j = 8) : xK σ (sU σ j z v) := ⟨sU_f (by omega), sU_f (by omega), sU_f (by omega), sU_f (by omega), sU_f (by omega), sU_f (by omega)⟩
theorem mK.u {σ : gS} {j : Nat} {z v : Int} (h : j = 6 ∨ j = 7 ∨ j = 8) : mK σ (sU σ j z v) := ⟨sU_f (by omega), sU_f (by omega), sU_f (by omega), sU_f (by omega), sU_f (by omega), sU_f (by omega)⟩
section
variable {n : Nat} {w v s f : Int → Int} {L : Int} {σ : gS}
theorem ok_X0_isGood (hD : gD n w v s f L) (hI : xI n w v s f L σ) {i : Int} (hi : gR i) {post : Int → gS → Prop} (h1 : 0 ≤ i ∧ i < n → post 1 σ) (h0 : ¬ (0 ≤ i ∧ i < n) → post 0 σ) : Ok_X0_isGood i σ post := by
  obtain ⟨e9, -⟩ := hI
  have hn := hD.1
  unfold Ok_X0_isGood
  rw [e9]
  exact ⟨hi, fun h => h0 (by omega), fun h => ⟨by omega, fun g => h0 (by omega), fun g => h1 (by omega)⟩⟩
theorem ok_X1_bad (hD : gD n w v s f L) (hI : mI n w v s f L σ) {i : Int} (hi : gR i) {post : Int → gS → Prop} (h1 : 0 ≤ i ∧ i < n → post 0 σ) (h0 : ¬ (0 ≤ i ∧ i < n) → post 1 σ) : Ok_X1_bad i σ post := by
  obtain ⟨e9, -⟩ := hI
  have hn := hD.1
  unfold Ok_X1_bad
  rw [e9]
  exact ⟨hi, fun h => h0 (by omega), fun h => ⟨by omega, fun g => h0 (by omega), fun g => ⟨fun q => h1 (by omega), fun q => h0 (by omega)⟩⟩⟩
/-- the digit of good n - 1 - j -/
def dgm (c : Int) (j : Nat) : Int := c / p3 j % 3
theorem ok_X0_load (hD : gD n w v s f L) (hI : xI n w v s f L σ) {c : Int} (hc : gR c) {post : Int → gS → Prop} (h1 : ∀ τ : gS, xK σ τ → isC s n c → (∀ j : Nat, j < n → τ 7 ((n : Int) - 1 - j) = dgm c j) → post 1 τ) (h0 : ∀ τ : gS, xK σ τ → ¬ isC s n c → post 0 τ) : Ok_X0_load c σ post := by
  have hn := hD.1
  intro Z15 r15
  have loop : ∀ (t m : Nat), m + t = n → 0 ≤ c → ∀ τ : gS, xK σ τ → vd s n m (c % p3 m) → (∀ j : Nat, j < m → τ 7 ((n : Int) - 1 - j) = dgm c j) → Z15 (c / p3 m) ((n : Int) - 1 - m) τ := by
    intro t
    induction t with
    | zero =>
      intro m hm h00 τ hk hv hd
      have hmn : m = n := by omega
      subst hmn
      have hq0 : 0 ≤ c / p3 m := Int.ediv_nonneg h00 (Int.le_of_lt (p3_pos m))
      have hq1 : c / p3 m ≤ c := Int.ediv_le_self _ h00
      refine r15 _ _ _ ⟨by omega, fun _ => ⟨by omega, fun hne => ?_, fun he => ?_⟩, fun hg => absurd hg (by omega)⟩
      · refine h0 τ hk (fun hC => hne (Int.ediv_eq_zero_of_lt h00 hC.2.1))
      · have hlt : c < p3 m := by
          have h2 := d_eq c m
          rw [he] at h2
          have h3 := d_lo c m
          omega
        rw [Int.emod_eq_of_lt h00 hlt] at hv
        exact h1 τ hk ⟨h00, hlt, hv⟩ hd
    | succ t ih =>
      intro m hm h00 τ hk hv hd
      have hq0 : 0 ≤ c / p3 m := Int.ediv_nonneg h00 (Int.le_of_lt (p3_pos m))
      have hq1 : c / p3 m ≤ c := Int.ediv_le_self _ h00
      have hI2 := hk.I hI
      have hs := (hI2.2.2 ((n : Int) - 1 - m) (by omega) (by omega)).2.2.1
      have hsb := (hD.2.2 ((n : Int) - 1 - m) (by omega) (by omega)).2.2.1
      refine r15 _ _ _ ⟨by omega, fun hg => absurd hg (by omega), fun _ => ⟨by omega, by omega, ?_⟩⟩
      intro q hq
      rw [sU_eq, sU_nf (by decide), hs]
      have hkk : xK σ (sU τ 7 ((n : Int) - 1 - m) (c / p3 m % 3)) := hk.tr (xK.u (by omega))
      refine ⟨by omega, by omega, fun hle => ?_, fun hgt => ?_⟩
      · rw [hq, d_step, show (n : Int) - 1 - m + (-1) = (n : Int) - 1 - ((m + 1 : Nat) : Int) by omega]
        refine ih (m + 1) (by omega) h00 _ hkk ((vd_step s n m c).mpr ⟨hle, hv⟩) (fun j hj => ?_)
        by_cases hjm : j = m
        · rw [hjm, sU_eq]; rfl
        · rw [sU_ne (by omega)]
          exact hd j (by omega)
      · refine h0 _ hkk (fun hC => ?_)
        have h5 : vd s n n (c % p3 n) := by rw [Int.emod_eq_of_lt h00 hC.2.1]; exact hC.2.2
        have h6 := vd_down (m := m + 1) (by omega) h5
        have h7 := ((vd_step s n m c).mp h6).1
        omega
  refine ⟨hc, fun h => ?_, fun h => h0 σ (xK.rf σ) (fun hC => by have := hC.1; omega)⟩
  intro q hq
  have := loop n 0 (by omega) h σ (xK.rf σ) trivial (fun j hj => absurd hj (by omega))
  rw [hq, hI.1]
  have e : c / p3 0 = c := Int.ediv_one c
  rw [e] at this
  simpa using this
theorem ok_X1_choice (hD : gD n w v s f L) (hI : mI n w v s f L σ) {c : Int} (hc : gR c) {post : Int → gS → Prop} (h1 : ∀ τ : gS, mK σ τ → isC s n c → τ 7 0 = ew w n n c → τ 8 0 = ew v n n c → (∀ j : Nat, j < n → τ 6 ((n : Int) - 1 - j) = dgm c j) → post 1 τ) (h0 : ∀ τ : gS, mK σ τ → ¬ isC s n c → post 0 τ) : Ok_X1_choice c σ post := by
  have hn := hD.1
  intro Z25 Z107 r25 r107
  have loop : ∀ (t m : Nat), m + t = n → 0 ≤ c → ∀ τ : gS, mK σ τ → vd s n m (c % p3 m) → τ 7 0 = ew w n m (c % p3 m) → τ 8 0 = ew v n m (c % p3 m) → (∀ j : Nat, j < m → τ 6 ((n : Int) - 1 - j) = dgm c j) → Z25 (c / p3 m) ((n : Int) - 1 - m) τ := by
    intro t
    induction t with
    | zero =>
      intro m hm h00 τ hk hv e7 e8 hd
      have hmn : m = n := by omega
      subst hmn
      have hq0 : 0 ≤ c / p3 m := Int.ediv_nonneg h00 (Int.le_of_lt (p3_pos m))
      have hq1 : c / p3 m ≤ c := Int.ediv_le_self _ h00
      refine r25 _ _ _ ⟨by omega, fun _ => ?_, fun hg => absurd hg (by omega)⟩
      refine r107 _ _ ⟨by omega, fun hne => ?_, fun he => ?_⟩
      · refine h0 τ hk (fun hC => hne (Int.ediv_eq_zero_of_lt h00 hC.2.1))
      · have hlt : c < p3 m := by
          have h2 := d_eq c m
          rw [he] at h2
          have h3 := d_lo c m
          omega
        rw [Int.emod_eq_of_lt h00 hlt] at hv e7 e8
        exact h1 τ hk ⟨h00, hlt, hv⟩ e7 e8 hd
    | succ t ih =>
      intro m hm h00 τ hk hv e7 e8 hd
      have hq0 : 0 ≤ c / p3 m := Int.ediv_nonneg h00 (Int.le_of_lt (p3_pos m))
      have hq1 : c / p3 m ≤ c := Int.ediv_le_self _ h00
      have hI2 := hk.I hI
      obtain ⟨hw, hv2, hs, -⟩ := hI2.2.2 ((n : Int) - 1 - m) (by omega) (by omega)
      have hsb := (hD.2.2 ((n : Int) - 1 - m) (by omega) (by omega)).2.2.1
      refine r25 _ _ _ ⟨by omega, fun hg => absurd hg (by omega), fun _ => ⟨fun hg => absurd hg (by omega), fun _ => ⟨by omega, ?_⟩⟩⟩
      intro x hx
      rw [hs]
      refine ⟨by omega, by omega, by omega, fun hle => ?_, fun hgt => ?_⟩
      · intro q hq
        rw [hq, d_step, show (n : Int) - 1 - m + (-1) = (n : Int) - 1 - ((m + 1 : Nat) : Int) by omega]
        have a7 : (sU τ 6 ((n : Int) - 1 - m) x) 7 0 = τ 7 0 := sU_nf (by decide)
        have a1 : (sU τ 6 ((n : Int) - 1 - m) x) 1 ((n : Int) - 1 - m) = τ 1 ((n : Int) - 1 - m) := sU_nf (by decide)
        rw [a7, a1]
        generalize hA : sU τ 6 ((n : Int) - 1 - m) x = A at *
        have a8 : (sU A 7 0 (τ 7 0 + x * τ 1 ((n : Int) - 1 - m))) 8 0 = τ 8 0 := by rw [sU_nf (by decide), ← hA, sU_nf (by decide)]
        have a2 : (sU A 7 0 (τ 7 0 + x * τ 1 ((n : Int) - 1 - m))) 2 ((n : Int) - 1 - m) = τ 2 ((n : Int) - 1 - m) := by rw [sU_nf (by decide), ← hA, sU_nf (by decide)]
        rw [a8, a2, hw, hv2]
        have hKA : mK τ A := by rw [← hA]; exact mK.u (by omega)
        refine ih (m + 1) (by omega) h00 _ (hk.tr (hKA.tr (mK.tr (mK.u (by omega)) (mK.u (by omega))))) ((vd_step s n m c).mpr ⟨by omega, hv⟩) ?_ ?_ (fun j hj => ?_)
        · rw [sU_nf (by decide), sU_eq, ew_step, e7, hx]
          omega
        · rw [sU_eq, ew_step, e8, hx]
          omega
        · rw [sU_nf (by decide), sU_nf (by decide), ← hA]
          by_cases hjm : j = m
          · rw [hjm, sU_eq]; exact hx
          · rw [sU_ne (by omega)]
            exact hd j (by omega)
      · refine h0 _ hk (fun hC => ?_)
        have h5 : vd s n n (c % p3 n) := by rw [Int.emod_eq_of_lt h00 hC.2.1]; exact hC.2.2
        have h6 := vd_down (m := m + 1) (by omega) h5
        have h7 := ((vd_step s n m c).mp h6).1
        omega
  have hk0 : mK σ (sU (sU σ 7 0 0) 8 0 0) := mK.tr (mK.u (by omega)) (mK.u (by omega))
  refine ⟨hc, fun h => ?_, fun h => h0 _ hk0 (fun hC => by have := hC.1; omega)⟩
  intro q hq
  have hh := loop n 0 (by omega) h _ hk0 trivial (by rw [sU_nf (by decide), sU_eq]; rfl) (by rw [sU_eq]; rfl) (fun j hj => absurd hj (by omega))
  rw [hq, show (sU (sU σ 7 0 0) 8 0 0) 0 0 = σ 0 0 from by rw [sU_nf (by decide), sU_nf (by decide)], hI.1]
  have e : c / p3 0 = c := Int.ediv_one c
  rw [e] at hh
  simpa using hh
end
end
section
/-! PURE, 3: the methods that change the goods -/
set_option maxRecDepth 100000
def ins (w : Int → Int) (n : Nat) (a : Int) : Int → Int := fun k => if k = (n : Int) then a else w k
def del (w : Int → Int) (i : Int) : Int → Int := fun k => if k < i then w k else w (k + 1)
theorem gD_ins {n : Nat} {w v s f : Int → Int} {L a1 a2 a3 a4 : Int} (hD : gD n w v s f L) (hn : n < 7) (h1 : 1 ≤ a1 ∧ a1 ≤ 20) (h2 : 0 ≤ a2 ∧ a2 ≤ 50) (h3 : 1 ≤ a3 ∧ a3 ≤ 2) (h4 : 0 ≤ a4 ∧ a4 ≤ 3) : gD (n + 1) (ins w n a1) (ins v n a2) (ins s n a3) (ins f n a4) L := by
  refine ⟨by omega, hD.2.1, fun k g0 g1 => ?_⟩
  by_cases hk : k = (n : Int)
  · simp [ins, hk, h1, h2, h3, h4]
  · simp only [ins, if_neg hk]
    exact hD.2.2 k g0 (by omega)
theorem gD_del {n : Nat} {w v s f : Int → Int} {L i : Int} (hD : gD n w v s f L) (hi : 0 ≤ i ∧ i < n) : gD (n - 1) (del w i) (del v i) (del s i) (del f i) L := by
  refine ⟨by have := hD.1; omega, hD.2.1, fun k g0 g1 => ?_⟩
  by_cases hk : k < i
  · simp only [del, if_pos hk]
    exact hD.2.2 k g0 (by omega)
  · simp only [del, if_neg hk]
    exact hD.2.2 (k + 1) (by omega) (by omega)
section
variable {n : Nat} {w v s f : Int → Int} {L : Int} {σ : gS}
theorem ok_X0_put (hI : xI n w v s f L σ) (hn : n < 7) {a1 a2 a3 a4 : Int} {post : gS → Prop} (h : ∀ τ : gS, xI (n + 1) (ins w n a1) (ins v n a2) (ins s n a3) (ins f n a4) L τ → post τ) : Ok_X0_put a1 a2 a3 a4 σ post := by
  have e0 : ∀ (τ : gS) (z v : Int), sU τ 0 z v 9 = τ 9 := fun _ _ _ => sU_f (by decide)
  have e1 : ∀ (τ : gS) (z v : Int), sU τ 1 z v 9 = τ 9 := fun _ _ _ => sU_f (by decide)
  have e2 : ∀ (τ : gS) (z v : Int), sU τ 2 z v 9 = τ 9 := fun _ _ _ => sU_f (by decide)
  have e3 : ∀ (τ : gS) (z v : Int), sU τ 3 z v 9 = τ 9 := fun _ _ _ => sU_f (by decide)
  unfold Ok_X0_put
  simp only [e0, e1, e2, e3]
  rw [hI.1]
  refine ⟨by omega, by omega, by omega, by omega, h _ ⟨by rw [sU_eq]; omega, ?_, fun k g0 g1 => ?_⟩⟩
  · simp [sU]
    exact hI.2.1
  · by_cases hk : k = (n : Int)
    · simp [sU, ins, hk]
    · simp [sU, ins, hk]
      exact hI.2.2 k g0 (by omega)
theorem ok_X1_put (hI : mI n w v s f L σ) (hn7 : n ≤ 7) {a1 a2 a3 a4 : Int} {post : Int → gS → Prop} (h : n < 7 → ∀ τ : gS, mI (n + 1) (ins w n a1) (ins v n a2) (ins s n a3) (ins f n a4) L τ → post n τ) (h7 : n = 7 → post (-4) σ) : Ok_X1_put a1 a2 a3 a4 σ post := by
  intro q hq
  rw [hI.1] at hq
  subst hq
  refine ⟨by omega, fun g => ⟨by omega, h (by omega) _ ⟨by rw [sU_eq]; omega, ?_, fun k g0 g1 => ?_⟩⟩, fun g => h7 (by omega)⟩
  · simp [sU]
    exact hI.2.1
  · by_cases hk : k = (n : Int)
    · simp [sU, ins, hk]
    · simp [sU, ins, hk]
      exact hI.2.2 k g0 (by omega)
/-- when add takes the good -/
def adOk (n : Nat) (a1 a2 a3 : Int) : Prop := (1 ≤ a1 ∧ a1 ≤ 20) ∧ (0 ≤ a2 ∧ a2 ≤ 50) ∧ (4 ≤ a3 ∧ a3 ≤ 11) ∧ n < 7
/-- what add answers when not -/
def adNo (a1 a2 a3 : Int) : Int := if a1 < 1 ∨ 20 < a1 then -1 else if a2 < 0 ∨ 50 < a2 then -2 else if a3 < 4 ∨ 11 < a3 then -3 else -4
theorem ok_X0_add (hD : gD n w v s f L) (hI : xI n w v s f L σ) {a1 a2 a3 : Int} (g1 : gR a1) (g2 : gR a2) (g3 : gR a3) {post : Int → gS → Prop} (h1 : adOk n a1 a2 a3 → ∀ τ : gS, xI (n + 1) (ins w n a1) (ins v n a2) (ins s n (a3 / 4)) (ins f n (a3 % 4)) L τ → post n τ) (h0 : ¬ adOk n a1 a2 a3 → post (adNo a1 a2 a3) σ) : Ok_X0_add a1 a2 a3 σ post := by
  have hn := hD.1
  have r : ∀ z : Int, adNo a1 a2 a3 = z → ¬ adOk n a1 a2 a3 → post z σ := fun z e h => e ▸ h0 h
  unfold Ok_X0_add
  rw [hI.1]
  refine ⟨g1, fun c => r _ (by unfold adNo; rw [if_pos (by omega)]) (by unfold adOk; omega), fun c1 => ⟨fun c2 => ⟨g2, fun c => r _ (by unfold adNo; rw [if_neg (by omega), if_pos (by omega)]) (by unfold adOk; omega), fun c3 => ⟨fun c4 => ⟨g3, fun c => r _ (by unfold adNo; rw [if_neg (by omega), if_neg (by omega), if_pos (by omega)]) (by unfold adOk; omega), fun c5 => ⟨fun c6 => ⟨by omega, fun c7 => ⟨by omega, ?_⟩, fun c7 => r _ (by unfold adNo; rw [if_neg (by omega), if_neg (by omega), if_neg (by omega)]) (by unfold adOk; omega)⟩, fun c => r _ (by unfold adNo; rw [if_neg (by omega), if_neg (by omega), if_pos (by omega)]) (by unfold adOk; omega)⟩⟩, fun c => r _ (by unfold adNo; rw [if_neg (by omega), if_pos (by omega)]) (by unfold adOk; omega)⟩⟩, fun c => r _ (by unfold adNo; rw [if_pos (by omega)]) (by unfold adOk; omega)⟩⟩
  refine ok_X0_put hI (by omega) (fun τ hτ => ?_)
  rw [hτ.1, show ((n + 1 : Nat) : Int) - 1 = (n : Int) by omega]
  exact h1 (by unfold adOk; omega) τ hτ
theorem ok_X1_add (hD : gD n w v s f L) (hI : mI n w v s f L σ) {a1 a2 a3 : Int} (g1 : gR a1) (g2 : gR a2) (g3 : gR a3) {post : Int → gS → Prop} (h1 : adOk n a1 a2 a3 → ∀ τ : gS, mI (n + 1) (ins w n a1) (ins v n a2) (ins s n (a3 / 4)) (ins f n (a3 % 4)) L τ → post n τ) (h0 : ¬ adOk n a1 a2 a3 → post (adNo a1 a2 a3) σ) : Ok_X1_add a1 a2 a3 σ post := by
  have hn := hD.1
  have r : ∀ z : Int, adNo a1 a2 a3 = z → ¬ adOk n a1 a2 a3 → post z σ := fun z e h => e ▸ h0 h
  unfold Ok_X1_add
  refine ⟨g1, fun c => r _ (by unfold adNo; rw [if_pos (by omega)]) (by unfold adOk; omega), fun c1 => ⟨fun c2 => ⟨g2, fun c => r _ (by unfold adNo; rw [if_neg (by omega), if_pos (by omega)]) (by unfold adOk; omega), fun c3 => ⟨fun c4 => ⟨g3, fun c => r _ (by unfold adNo; rw [if_neg (by omega), if_neg (by omega), if_pos (by omega)]) (by unfold adOk; omega), fun c5 => ⟨fun c6 => ⟨by omega, ?_⟩, fun c => r _ (by unfold adNo; rw [if_neg (by omega), if_neg (by omega), if_pos (by omega)]) (by unfold adOk; omega)⟩⟩, fun c => r _ (by unfold adNo; rw [if_neg (by omega), if_pos (by omega)]) (by unfold adOk; omega)⟩⟩, fun c => r _ (by unfold adNo; rw [if_pos (by omega)]) (by unfold adOk; omega)⟩⟩
  refine ok_X1_put hI hn (fun h7 τ hτ => ?_) (fun h7 => r _ (by unfold adNo; rw [if_neg (by omega), if_neg (by omega), if_neg (by omega)]) (by unfold adOk; omega))
  exact h1 (by unfold adOk; omega) τ hτ
/-! sow -/
def swW (w : Int → Int) (n : Nat) (a : Int) : Int → Int := fun i => if i < (n : Int) then w i else 1 + (a + 5 * (i - n)) % 20
def swV (w : Int → Int) (n : Nat) (a : Int) : Int → Int := fun i => if i < (n : Int) then w i else (a * 3 + 7 * (i - n) * (i - n)) % 51
def swS (w : Int → Int) (n : Nat) (a : Int) : Int → Int := fun i => if i < (n : Int) then w i else 1 + (a + (i - n)) % 2
def swF (w : Int → Int) (n : Nat) (a : Int) : Int → Int := fun i => if i < (n : Int) then w i else (a + (i - n) * (i - n)) % 4
theorem sq_bd {k : Int} (h0 : 0 ≤ k) (h7 : k ≤ 7) : 0 ≤ k * k ∧ k * k ≤ 49 := by
  rcases (show k = 0 ∨ k = 1 ∨ k = 2 ∨ k = 3 ∨ k = 4 ∨ k = 5 ∨ k = 6 ∨ k = 7 by omega) with rfl | rfl | rfl | rfl | rfl | rfl | rfl | rfl <;> decide
theorem gD_sow {a : Int} (hD : gD n w v s f L) {N : Nat} (hN : N ≤ 7) : gD N (swW w n a) (swV v n a) (swS s n a) (swF f n a) L := by
  refine ⟨hN, hD.2.1, fun k g0 g1 => ?_⟩
  by_cases hk : k < (n : Int)
  · simp only [swW, swV, swS, swF, if_pos hk]
    exact hD.2.2 k g0 hk
  · simp only [swW, swV, swS, swF, if_neg hk]
    omega
theorem ins_sow {n k : Nat} {g : Int → Int} {b : Int} (h : g ((n + k : Nat) : Int) = b) : ins g (n + k) b = g := by
  funext i
  unfold ins
  by_cases hi : i = ((n + k : Nat) : Int)
  · rw [if_pos hi, hi, h]
  · rw [if_neg hi]
theorem sow_at {n k : Nat} {a : Int} {w v s f : Int → Int} : swW w n a ((n + k : Nat) : Int) = 1 + (a + 5 * (k : Int)) % 20 ∧ swV v n a ((n + k : Nat) : Int) = (a * 3 + 7 * (k : Int) * (k : Int)) % 51 ∧ swS s n a ((n + k : Nat) : Int) = 1 + (a + (k : Int)) % 2 ∧ swF f n a ((n + k : Nat) : Int) = (a + (k : Int) * (k : Int)) % 4 := by
  have hi : ¬ ((n + k : Nat) : Int) < (n : Int) := by omega
  have e : ((n + k : Nat) : Int) - (n : Int) = (k : Int) := by omega
  simp only [swW, swV, swS, swF, if_neg hi, e, and_self]
/-- when sow runs -/
def soOk (a1 a2 : Int) : Prop := (0 ≤ a1 ∧ a1 ≤ 100) ∧ (1 ≤ a2 ∧ a2 ≤ 7)
def soNo (a1 : Int) : Int := if a1 < 0 ∨ 100 < a1 then -1 else -2
def soN (n : Nat) (a2 : Int) : Nat := if n + a2.toNat ≤ 7 then n + a2.toNat else 7
theorem xI_sow0 (hI : xI n w v s f L σ) {a : Int} : xI n (swW w n a) (swV v n a) (swS s n a) (swF f n a) L σ := ⟨hI.1, hI.2.1, fun k g0 g1 => by simp only [swW, swV, swS, swF, if_pos g1]; exact hI.2.2 k g0 g1⟩
theorem mI_sow0 (hI : mI n w v s f L σ) {a : Int} : mI n (swW w n a) (swV v n a) (swS s n a) (swF f n a) L σ := ⟨hI.1, hI.2.1, fun k g0 g1 => by simp only [swW, swV, swS, swF, if_pos g1]; exact hI.2.2 k g0 g1⟩
theorem ok_X0_sow (hD : gD n w v s f L) (hI : xI n w v s f L σ) {a1 a2 : Int} (g1 : gR a1) (g2 : gR a2) {post : Int → gS → Prop} (h1 : soOk a1 a2 → ∀ τ : gS, xI (soN n a2) (swW w n a1) (swV v n a1) (swS s n a1) (swF f n a1) L τ → post (soN n a2) τ) (h0 : ¬ soOk a1 a2 → post (soNo a1) σ) : Ok_X0_sow a1 a2 σ post := by
  have hn := hD.1
  have r : ∀ z : Int, soNo a1 = z → ¬ soOk a1 a2 → post z σ := fun z e h => e ▸ h0 h
  intro Z28 r28
  have loop : soOk a1 a2 → ∀ (t k : Nat), (k : Int) + t = a2 → n + k ≤ 7 → ∀ τ : gS, xI (n + k) (swW w n a1) (swV v n a1) (swS s n a1) (swF f n a1) L τ → Z28 (k : Int) τ := by
    intro hok t
    have ho := hok
    unfold soOk at ho
    induction t with
    | zero =>
      intro k hk hk7 τ hτ
      refine r28 _ _ ⟨by omega, g2, fun _ => ?_, fun g => absurd g (by omega)⟩
      have e : soN n a2 = n + k := by unfold soN; rw [if_pos (by omega)]; omega
      rw [hτ.1, ← e]
      exact h1 hok τ (by rw [e]; exact hτ)
    | succ t ih =>
      intro k hk hk7 τ hτ
      have hsq := sq_bd (k := (k : Int)) (by omega) (by omega)
      refine r28 _ _ ⟨by omega, g2, fun g => absurd g (by omega), fun _ => ?_⟩
      rw [hτ.1]
      refine ⟨by omega, fun g => ?_, fun g => ⟨by omega, ?_⟩⟩
      · have e : soN n a2 = n + k := by unfold soN; rw [if_neg (by omega)]; omega
        rw [← e]
        exact h1 hok τ (by rw [e]; exact hτ)
      · intro q1 e1
        have e7 : 7 * (k : Int) * (k : Int) = 7 * ((k : Int) * (k : Int)) := Int.mul_assoc _ _ _
        refine ⟨by omega, ?_⟩
        intro q2 e2
        refine ⟨by omega, by omega, ok_X0_put hτ (by omega) (fun τ' hτ' => ?_)⟩
        obtain ⟨b1, b2, b3, b4⟩ := sow_at (n := n) (k := k) (a := a1) (w := w) (v := v) (s := s) (f := f)
        rw [e1, e2, ins_sow b1, ins_sow b2, ins_sow b3, ins_sow b4] at hτ'
        exact ih (k + 1) (by omega) (by omega) τ' hτ'
  refine ⟨g1, fun c => r _ (by unfold soNo; rw [if_pos (by omega)]) (by unfold soOk; omega), fun c1 => ⟨fun c2 => ⟨g2, fun c => r _ (by unfold soNo; rw [if_neg (by omega)]) (by unfold soOk; omega), fun c3 => ⟨fun c4 => ?_, fun c => r _ (by unfold soNo; rw [if_neg (by omega)]) (by unfold soOk; omega)⟩⟩, fun c => r _ (by unfold soNo; rw [if_pos (by omega)]) (by unfold soOk; omega)⟩⟩
  exact loop (by unfold soOk; omega) a2.toNat 0 (by omega) (by omega) σ (xI_sow0 hI)
theorem ok_X1_sow (hD : gD n w v s f L) (hI : mI n w v s f L σ) {a1 a2 : Int} (g1 : gR a1) (g2 : gR a2) {post : Int → gS → Prop} (h1 : soOk a1 a2 → ∀ τ : gS, mI (soN n a2) (swW w n a1) (swV v n a1) (swS s n a1) (swF f n a1) L τ → post (soN n a2) τ) (h0 : ¬ soOk a1 a2 → post (soNo a1) σ) : Ok_X1_sow a1 a2 σ post := by
  have hn := hD.1
  have r : ∀ z : Int, soNo a1 = z → ¬ soOk a1 a2 → post z σ := fun z e h => e ▸ h0 h
  intro Z28 r28
  have loop : soOk a1 a2 → ∀ (t k : Nat), (k : Int) + t = a2 → ∀ τ : gS, mI (if n + k ≤ 7 then n + k else 7) (swW w n a1) (swV v n a1) (swS s n a1) (swF f n a1) L τ → Z28 (k : Int) τ := by
    intro hok t
    have ho := hok
    unfold soOk at ho
    induction t with
    | zero =>
      intro k hk τ hτ
      refine r28 _ _ ⟨by omega, g2, fun _ => ?_, fun g => absurd g (by omega)⟩
      have e : soN n a2 = (if n + k ≤ 7 then n + k else 7) := by unfold soN; rw [show a2.toNat = k by omega]
      rw [hτ.1, ← e]
      exact h1 hok τ (by rw [e]; exact hτ)
    | succ t ih =>
      intro k hk τ hτ
      have hsq := sq_bd (k := (k : Int)) (by omega) (by omega)
      have e7 : 7 * (k : Int) * (k : Int) = 7 * ((k : Int) * (k : Int)) := Int.mul_assoc _ _ _
      refine r28 _ _ ⟨by omega, g2, fun g => absurd g (by omega), fun _ => ⟨by omega, by omega, by omega, by omega, ?_⟩⟩
      refine ok_X1_put hτ (by split <;> omega) (fun h7 τ' hτ' => ?_) (fun h7 => ?_)
      · have hk7 : n + k ≤ 7 := by
          by_cases q : n + k ≤ 7
          · exact q
          · rw [if_neg q] at h7; omega
        rw [if_pos hk7] at hτ' h7
        obtain ⟨b1, b2, b3, b4⟩ := sow_at (n := n) (k := k) (a := a1) (w := w) (v := v) (s := s) (f := f)
        rw [ins_sow b1, ins_sow b2, ins_sow b3, ins_sow b4] at hτ'
        exact ih (k + 1) (by omega) τ' (by rw [if_pos (by omega)]; exact hτ')
      · refine ih (k + 1) (by omega) τ ?_
        rw [h7] at hτ
        rw [show (if n + (k + 1) ≤ 7 then n + (k + 1) else 7) = 7 from by split at h7 <;> split <;> omega]
        exact hτ
  refine ⟨g1, fun c => r _ (by unfold soNo; rw [if_pos (by omega)]) (by unfold soOk; omega), fun c1 => ⟨fun c2 => ⟨g2, fun c => r _ (by unfold soNo; rw [if_neg (by omega)]) (by unfold soOk; omega), fun c3 => ⟨fun c4 => ?_, fun c => r _ (by unfold soNo; rw [if_neg (by omega)]) (by unfold soOk; omega)⟩⟩, fun c => r _ (by unfold soNo; rw [if_pos (by omega)]) (by unfold soOk; omega)⟩⟩
  exact loop (by unfold soOk; omega) a2.toNat 0 (by omega) σ (by rw [if_pos (by omega)]; exact mI_sow0 hI)
/-! drop -/
/-- goods i .. k - 2 have come down by one -/
def dlk (w : Int → Int) (i k : Int) : Int → Int := fun j => if i ≤ j ∧ j < k - 1 then w (j + 1) else w j
theorem ok_X0_drop (hD : gD n w v s f L) (hI : xI n w v s f L σ) {i : Int} (g1 : gR i) {post : Int → gS → Prop} (h1 : (0 ≤ i ∧ i < n) → ∀ τ : gS, xI (n - 1) (del w i) (del v i) (del s i) (del f i) L τ → post ((n - 1 : Nat) : Int) τ) (h0 : ¬ (0 ≤ i ∧ i < n) → post (-1) σ) : Ok_X0_drop i σ post := by
  have hn := hD.1
  intro Z14 r14
  have loop : (0 ≤ i ∧ i < n) → ∀ (t : Nat) (k : Int), k + t = n → i < k → ∀ τ : gS, τ 9 0 = n → τ 10 0 = L → (∀ j : Int, 0 ≤ j → j < n → τ 0 j = dlk w i k j ∧ τ 1 j = dlk v i k j ∧ τ 2 j = dlk s i k j ∧ τ 3 j = dlk f i k j) → Z14 k τ := by
    intro hi t
    induction t with
    | zero =>
      intro k hk hik τ e9 e10 ha
      refine r14 _ _ ⟨by omega, by rw [e9]; omega, fun _ => ?_, fun g => absurd g (by rw [e9]; omega)⟩
      rw [sU_eq, e9, show (n : Int) - 1 = ((n - 1 : Nat) : Int) by omega]
      refine h1 hi _ ⟨sU_eq _ _ _ _, by rw [sU_nf (by decide)]; exact e10, fun j g0 g1 => ?_⟩
      rw [sU_nf (by decide), sU_nf (by decide), sU_nf (by decide), sU_nf (by decide)]
      have hj := ha j g0 (by omega)
      by_cases hji : j < i
      · simp only [dlk, if_neg (show ¬ (i ≤ j ∧ j < k - 1) by omega)] at hj
        simp only [del, if_pos hji]
        exact hj
      · simp only [dlk, if_pos (show (i ≤ j ∧ j < k - 1) by omega)] at hj
        simp only [del, if_neg hji]
        exact hj
    | succ t ih =>
      intro k hk hik τ e9 e10 ha
      refine r14 _ _ ⟨by omega, by rw [e9]; omega, fun g => absurd g (by rw [e9]; omega), fun _ => ⟨by omega, by omega, ?_⟩⟩
      refine ih (k + 1) (by omega) (by omega) _ ?_ ?_ (fun j g0 g1 => ?_)
      · simp [sU]; exact e9
      · simp [sU]; exact e10
      · have hj := ha j g0 g1
        have hk2 := ha k (by omega) (by omega)
        simp only [dlk, if_neg (show ¬ (i ≤ k ∧ k < k - 1) by omega)] at hk2
        by_cases hjk : j = k - 1
        · subst hjk
          simp only [dlk, if_pos (show (i ≤ k - 1 ∧ k - 1 < k + 1 - 1) by omega), show k - 1 + 1 = k by omega]
          simp [sU]
          exact hk2
        · have e : ∀ g : Int → Int, dlk g i (k + 1) j = dlk g i k j := by
            intro g
            unfold dlk
            by_cases hc : i ≤ j ∧ j < k - 1
            · rw [if_pos hc, if_pos (by omega)]
            · rw [if_neg hc, if_neg (by omega)]
          rw [e, e, e, e]
          simp [sU, hjk]
          exact hj
  refine ok_X0_isGood hD hI g1 (fun hi => ⟨by omega, fun _ => ?_, fun g => absurd g (by decide)⟩) (fun hi => ⟨by omega, fun g => absurd rfl g, fun _ => h0 hi⟩)
  intro q hq
  subst hq
  refine loop hi ((n : Int) - 1 - i).toNat (i + 1) (by omega) (by omega) σ hI.1 hI.2.1 (fun j g0 g1 => ?_)
  have hj := hI.2.2 j g0 g1
  simp only [dlk, if_neg (show ¬ (i ≤ j ∧ j < i + 1 - 1) by omega)]
  exact hj
theorem ok_X1_drop (hD : gD n w v s f L) (hI : mI n w v s f L σ) {i : Int} (g1 : gR i) {post : Int → gS → Prop} (h1 : (0 ≤ i ∧ i < n) → ∀ τ : gS, mI (n - 1) (del w i) (del v i) (del s i) (del f i) L τ → post ((n - 1 : Nat) : Int) τ) (h0 : ¬ (0 ≤ i ∧ i < n) → post (-1) σ) : Ok_X1_drop i σ post := by
  have hn := hD.1
  intro Z12 r12
  have loop : (0 ≤ i ∧ i < n) → ∀ (t : Nat) (k : Int), k + t = n → i < k → ∀ τ : gS, τ 0 0 = n → τ 5 0 = L → (∀ j : Int, 0 ≤ j → j < n → τ 1 j = dlk w i k j ∧ τ 2 j = dlk v i k j ∧ τ 3 j = dlk s i k j ∧ τ 4 j = dlk f i k j) → Z12 (k - 1) τ := by
    intro hi t
    induction t with
    | zero =>
      intro k hk hik τ e9 e10 ha
      refine r12 _ _ ⟨by omega, by rw [e9]; omega, fun _ => ?_, fun g => absurd g (by rw [e9]; omega)⟩
      rw [sU_eq, e9, show (n : Int) - 1 = ((n - 1 : Nat) : Int) by omega]
      refine h1 hi _ ⟨sU_eq _ _ _ _, by rw [sU_nf (by decide)]; exact e10, fun j g0 g1 => ?_⟩
      rw [sU_nf (by decide), sU_nf (by decide), sU_nf (by decide), sU_nf (by decide)]
      have hj := ha j g0 (by omega)
      by_cases hji : j < i
      · simp only [dlk, if_neg (show ¬ (i ≤ j ∧ j < k - 1) by omega)] at hj
        simp only [del, if_pos hji]
        exact hj
      · simp only [dlk, if_pos (show (i ≤ j ∧ j < k - 1) by omega)] at hj
        simp only [del, if_neg hji]
        exact hj
    | succ t ih =>
      intro k hk hik τ e9 e10 ha
      refine r12 _ _ ⟨by omega, by rw [e9]; omega, fun g => absurd g (by rw [e9]; omega), fun _ => ⟨fun g => absurd g (by omega), fun _ => ⟨by omega, by omega, ?_⟩⟩⟩
      rw [show k - 1 + 1 = k by omega]
      have hz := ih (k + 1) (by omega) (by omega)
      rw [show k + 1 - 1 = k by omega] at hz
      refine hz _ ?_ ?_ (fun j g0 g1 => ?_)
      · simp [sU]; exact e9
      · simp [sU]; exact e10
      · have hj := ha j g0 g1
        have hk2 := ha k (by omega) (by omega)
        simp only [dlk, if_neg (show ¬ (i ≤ k ∧ k < k - 1) by omega)] at hk2
        by_cases hjk : j = k - 1
        · subst hjk
          simp only [dlk, if_pos (show (i ≤ k - 1 ∧ k - 1 < k + 1 - 1) by omega), show k - 1 + 1 = k by omega]
          simp [sU]
          exact hk2
        · have e : ∀ g : Int → Int, dlk g i (k + 1) j = dlk g i k j := by
            intro g
            unfold dlk
            by_cases hc : i ≤ j ∧ j < k - 1
            · rw [if_pos hc, if_pos (by omega)]
            · rw [if_neg hc, if_neg (by omega)]
          rw [e, e, e, e]
          simp [sU, hjk]
          exact hj
  refine ok_X1_bad hD hI g1 (fun hi => ⟨by omega, fun _ => ?_, fun g => absurd rfl g⟩) (fun hi => ⟨by omega, fun g => absurd g (by decide), fun _ => h0 hi⟩)
  have hz := loop hi ((n : Int) - 1 - i).toNat (i + 1) (by omega) (by omega) σ hI.1 hI.2.1 (fun j g0 g1 => by
    have hj := hI.2.2 j g0 g1
    simp only [dlk, if_neg (show ¬ (i ≤ j ∧ j < i + 1 - 1) by omega)]
    exact hj)
  rw [show i + 1 - 1 = i by omega] at hz
  exact hz
theorem ok_X0_limit (hI : xI n w v s f L σ) {a : Int} (g1 : gR a) {post : Int → gS → Prop} (h1 : (0 ≤ a ∧ a ≤ 60) → ∀ τ : gS, xI n w v s f a τ → post L τ) (h0 : ¬ (0 ≤ a ∧ a ≤ 60) → post (-1) σ) : Ok_X0_limit a σ post := by
  refine ⟨g1, fun c => h0 (by omega), fun c1 => ⟨fun c2 => ?_, fun c => h0 (by omega)⟩⟩
  intro q hq
  rw [hq, hI.2.1]
  refine h1 (by omega) _ ⟨by rw [sU_nf (by decide)]; exact hI.1, sU_eq _ _ _ _, fun k a b => ?_⟩
  rw [sU_nf (by decide), sU_nf (by decide), sU_nf (by decide), sU_nf (by decide)]
  exact hI.2.2 k a b
theorem ok_X1_limit (hI : mI n w v s f L σ) {a : Int} (g1 : gR a) {post : Int → gS → Prop} (h1 : (0 ≤ a ∧ a ≤ 60) → ∀ τ : gS, mI n w v s f a τ → post L τ) (h0 : ¬ (0 ≤ a ∧ a ≤ 60) → post (-1) σ) : Ok_X1_limit a σ post := by
  refine ⟨g1, fun c => h0 (by omega), fun c1 => ⟨fun c2 => ?_, fun c => h0 (by omega)⟩⟩
  intro q hq
  rw [hq, hI.2.1]
  refine h1 (by omega) _ ⟨by rw [sU_nf (by decide)]; exact hI.1, sU_eq _ _ _ _, fun k a b => ?_⟩
  rw [sU_nf (by decide), sU_nf (by decide), sU_nf (by decide), sU_nf (by decide)]
  exact hI.2.2 k a b
end
end
section
/-! PURE, 4: what the reference answers, in words of codes -/
set_option maxRecDepth 100000
theorem vd_0 {s : Int → Int} {n : Nat} (hs : ∀ k : Int, 0 ≤ k → k < n → 0 ≤ s k) : ∀ m : Nat, m ≤ n → vd s n m 0 := by
  intro m
  induction m with
  | zero => intro _; exact trivial
  | succ m ih =>
    intro hm
    refine (vd_mk (d := 0) (r := 0) (by omega) (Int.le_refl 0) (p3_pos m)).mpr ⟨hs _ (by omega) (by omega), ih (by omega)⟩
theorem ew_0 (w : Int → Int) (n : Int) : ∀ m : Nat, ew w n m 0 = 0 := by
  intro m
  induction m with
  | zero => rfl
  | succ m ih =>
    rw [ew_mk (d := 0) (r := 0) (by omega) (Int.le_refl 0) (p3_pos m), ih]
    omega
theorem isC_0 {s : Int → Int} {n : Nat} (hs : ∀ k : Int, 0 ≤ k → k < n → 0 ≤ s k) : isC s n 0 := ⟨Int.le_refl 0, p3_pos n, vd_0 hs n (Nat.le_refl n)⟩
section
variable {n : Nat} {w v s f : Int → Int} {L : Int} {σ : gS}
theorem gD.W (hD : gD n w v s f L) {c : Int} (hc : isC s n c) : 0 ≤ ew w n n c ∧ ew w n n c ≤ 280 := gN_w hD.N (Nat.le_refl n) hc.1 hc.2.1
theorem gD.V (hD : gD n w v s f L) {c : Int} (hc : isC s n c) : 0 ≤ ew v n n c ∧ ew v n n c ≤ 700 := gN_v hD.N (Nat.le_refl n) hc.1 hc.2.1
theorem gD.p (hD : gD n w v s f L) : 0 < p3 n ∧ p3 n ≤ 2187 := ⟨p3_pos n, p3_7 hD.1⟩
theorem gD.s0 (hD : gD n w v s f L) : ∀ k : Int, 0 ≤ k → k < n → 0 ≤ s k := fun k a b => by have := (hD.2.2 k a b).2.2.1; omega
/-! weightOf, valueOf -/
theorem ok_X0_weightOf (hD : gD n w v s f L) (hI : xI n w v s f L σ) {c : Int} (hc : gR c) {post : Int → gS → Prop} (h1 : isC s n c → ∀ τ : gS, xK σ τ → post (ew w n n c) τ) (h0 : ¬ isC s n c → ∀ τ : gS, xK σ τ → post (-1) τ) : Ok_X0_weightOf c σ post := by
  have hn := hD.1
  intro Z14 r14
  refine ok_X0_load hD hI hc (fun τ hk hC hd => ⟨by omega, fun _ => ?_, fun g => absurd g (by decide)⟩) (fun τ hk hC => ⟨by omega, fun g => absurd rfl g, fun _ => h0 hC τ hk⟩)
  have hI2 := hk.I hI
  have loop : ∀ (m k : Nat), k + m = n → ∀ x : Int, x + ew w n m (c % p3 m) = ew w n n c → Z14 x (k : Int) τ := by
    intro m
    induction m with
    | zero =>
      intro k hm x hx
      refine r14 _ _ _ ⟨by omega, by rw [hI2.1]; omega, fun _ => ?_, fun g => absurd g (by rw [hI2.1]; omega)⟩
      have e : ew w n 0 (c % p3 0) = 0 := rfl
      rw [show x = ew w n n c by omega]
      exact h1 hC τ hk
    | succ m ih =>
      intro k hm x hx
      refine r14 _ _ _ ⟨by omega, by rw [hI2.1]; omega, fun g => absurd g (by rw [hI2.1]; omega), fun _ => ⟨by omega, ?_⟩⟩
      intro q hq
      rw [ew_step] at hx
      have e1 : (n : Int) - 1 - m = (k : Int) := by omega
      have e2 := hd m (by omega)
      rw [e1] at e2 hx
      rw [e2, (hI2.2.2 (k : Int) (by omega) (by omega)).1] at hq
      exact ih (k + 1) (by omega) q (by unfold dgm at hq; omega)
  refine loop n 0 (by omega) 0 ?_
  rw [Int.emod_eq_of_lt hC.1 hC.2.1]
  omega
theorem ok_X0_valueOf (hD : gD n w v s f L) (hI : xI n w v s f L σ) {c : Int} (hc : gR c) {post : Int → gS → Prop} (h1 : isC s n c → ∀ τ : gS, xK σ τ → post (ew v n n c) τ) (h0 : ¬ isC s n c → ∀ τ : gS, xK σ τ → post (-1) τ) : Ok_X0_valueOf c σ post := by
  have hn := hD.1
  intro Z14 r14
  refine ok_X0_load hD hI hc (fun τ hk hC hd => ⟨by omega, fun _ => ?_, fun g => absurd g (by decide)⟩) (fun τ hk hC => ⟨by omega, fun g => absurd rfl g, fun _ => h0 hC τ hk⟩)
  have hI2 := hk.I hI
  have loop : ∀ (m k : Nat), k + m = n → ∀ x : Int, x + ew v n m (c % p3 m) = ew v n n c → Z14 x (k : Int) τ := by
    intro m
    induction m with
    | zero =>
      intro k hm x hx
      refine r14 _ _ _ ⟨by omega, by rw [hI2.1]; omega, fun _ => ?_, fun g => absurd g (by rw [hI2.1]; omega)⟩
      have e : ew v n 0 (c % p3 0) = 0 := rfl
      rw [show x = ew v n n c by omega]
      exact h1 hC τ hk
    | succ m ih =>
      intro k hm x hx
      refine r14 _ _ _ ⟨by omega, by rw [hI2.1]; omega, fun g => absurd g (by rw [hI2.1]; omega), fun _ => ⟨by omega, ?_⟩⟩
      intro q hq
      rw [ew_step] at hx
      have e1 : (n : Int) - 1 - m = (k : Int) := by omega
      have e2 := hd m (by omega)
      rw [e1] at e2 hx
      rw [e2, (hI2.2.2 (k : Int) (by omega) (by omega)).2.1] at hq
      exact ih (k + 1) (by omega) q (by unfold dgm at hq; omega)
  refine loop n 0 (by omega) 0 ?_
  rw [Int.emod_eq_of_lt hC.1 hC.2.1]
  omega
theorem ok_X1_weightOf (hD : gD n w v s f L) (hI : mI n w v s f L σ) {c : Int} (hc : gR c) {post : Int → gS → Prop} (h1 : isC s n c → ∀ τ : gS, mK σ τ → post (ew w n n c) τ) (h0 : ¬ isC s n c → ∀ τ : gS, mK σ τ → post (-1) τ) : Ok_X1_weightOf c σ post := by
  refine ok_X1_choice hD hI hc (fun τ hk hC e7 e8 hd => ⟨by omega, fun g => absurd g (by decide), fun _ => ?_⟩) (fun τ hk hC => ⟨by omega, fun _ => h0 hC τ hk, fun g => absurd rfl g⟩)
  rw [e7]
  exact h1 hC τ hk
theorem ok_X1_valueOf (hD : gD n w v s f L) (hI : mI n w v s f L σ) {c : Int} (hc : gR c) {post : Int → gS → Prop} (h1 : isC s n c → ∀ τ : gS, mK σ τ → post (ew v n n c) τ) (h0 : ¬ isC s n c → ∀ τ : gS, mK σ τ → post (-1) τ) : Ok_X1_valueOf c σ post := by
  refine ok_X1_choice hD hI hc (fun τ hk hC e7 e8 hd => ⟨by omega, fun g => absurd g (by decide), fun _ => ?_⟩) (fun τ hk hC => ⟨by omega, fun _ => h0 hC τ hk, fun g => absurd rfl g⟩)
  rw [e8]
  exact h1 hC τ hk
theorem ok_X1_valueAt (hD : gD n w v s f L) (hI : mI n w v s f L σ) {c : Int} (hC : isC s n c) {post : Int → gS → Prop} (h1 : ∀ τ : gS, mK σ τ → post (ew v n n c) τ) : Ok_X1_valueAt c σ post := by
  have hp := hD.p
  have h2 := hC.1
  have h3 := hC.2.1
  refine ok_X1_choice hD hI (by omega) (fun τ hk hC e7 e8 hd => ⟨by omega, fun g => absurd g (by decide), fun _ => ?_⟩) (fun τ hk hC2 => absurd hC hC2)
  rw [e8]
  exact h1 τ hk
/-! loops over all codes -/
theorem ok_X1_end (hD : gD n w v s f L) (hI : mI n w v s f L σ) {post : Int → gS → Prop} (h : post (p3 n) σ) : Ok_X1_end σ post := by
  have hn := hD.1
  intro Z4 r4
  have loop : ∀ (t k : Nat), k + t = n → Z4 (p3 k) (k : Int) σ := by
    intro t
    induction t with
    | zero =>
      intro k hk
      refine r4 _ _ _ ⟨by omega, by rw [hI.1]; omega, fun _ => ?_, fun g => absurd g (by rw [hI.1]; omega)⟩
      rw [show k = n by omega]
      exact h
    | succ t ih =>
      intro k hk
      refine r4 _ _ _ ⟨by omega, by rw [hI.1]; omega, fun g => absurd g (by rw [hI.1]; omega), fun _ => ?_⟩
      intro q hq
      rw [hq]
      exact ih (k + 1) (by omega)
  exact loop n 0 (by omega)
theorem isC_iff {c : Nat} (h : (c : Int) < p3 n) : isC s n (c : Int) ↔ vd s n n (c : Int) := ⟨fun q => q.2.2, fun q => ⟨by omega, h, q⟩⟩
theorem ok_X1_having (hD : gD n w v s f L) (hI : mI n w v s f L σ) {a : Int} (ha : gR a) {post : Int → gS → Prop} (h : ∀ τ : gS, mK σ τ → post (nw s w n n a) τ) : Ok_X1_having a σ post := by
  have hp := hD.p
  intro Z10 r10
  refine ok_X1_end hD hI ?_
  have loop : ∀ (t c : Nat), ((c + t : Nat) : Int) = p3 n → ∀ τ : gS, mK σ τ → Z10 (p3 n) (cn (fun c => vd s n n c ∧ ew w n n c = a) c) (c : Int) τ := by
    intro t
    induction t with
    | zero =>
      intro c hc τ hk
      refine r10 _ _ _ _ ⟨by omega, by omega, fun _ => ?_, fun g => absurd g (by omega)⟩
      have e : c = 3 ^ n := by rw [p3_nat] at hc; omega
      rw [e]
      exact h τ hk
    | succ t ih =>
      intro c hc τ hk
      refine r10 _ _ _ _ ⟨by omega, by omega, fun g => absurd g (by omega), fun _ => ?_⟩
      refine ok_X1_choice hD (hk.I hI) (by omega) (fun τ' hk' hC e7 e8 hd => ⟨by omega, fun g => absurd g (by decide), fun _ => ?_⟩) (fun τ' hk' hC => ⟨by omega, fun _ => ?_, fun g => absurd rfl g⟩)
      · have hW := hD.W hC
        rw [e7]
        refine ⟨by omega, ha, fun g => ?_, fun g => ?_⟩
        · rw [← cn_f (P := fun c => vd s n n c ∧ ew w n n c = a) (b := c) (fun q => g q.2)]
          exact ih (c + 1) (by omega) τ' (hk.tr hk')
        · rw [← cn_t (P := fun c => vd s n n c ∧ ew w n n c = a) (b := c) ⟨hC.2.2, g⟩]
          exact ih (c + 1) (by omega) τ' (hk.tr hk')
      · rw [← cn_f (P := fun c => vd s n n c ∧ ew w n n c = a) (b := c) (fun q => hC ((isC_iff (by omega)).mpr q.1))]
        exact ih (c + 1) (by omega) τ' (hk.tr hk')
  exact loop (p3 n).toNat 0 (by omega) σ (mK.rf σ)
theorem ok_X1_fitting (hD : gD n w v s f L) (hI : mI n w v s f L σ) {post : Int → gS → Prop} (h : ∀ τ : gS, mK σ τ → post (cn (fun c => vd s n n c ∧ ew w n n c ≤ L) (3 ^ n)) τ) : Ok_X1_fitting σ post := by
  have hp := hD.p
  have hL := hD.2.1
  intro Z9 r9
  refine ok_X1_end hD hI ?_
  have loop : ∀ (t c : Nat), ((c + t : Nat) : Int) = p3 n → ∀ τ : gS, mK σ τ → Z9 (p3 n) (cn (fun c => vd s n n c ∧ ew w n n c ≤ L) c) (c : Int) τ := by
    intro t
    induction t with
    | zero =>
      intro c hc τ hk
      refine r9 _ _ _ _ ⟨by omega, by omega, fun _ => ?_, fun g => absurd g (by omega)⟩
      have e : c = 3 ^ n := by rw [p3_nat] at hc; omega
      rw [e]
      exact h τ hk
    | succ t ih =>
      intro c hc τ hk
      refine r9 _ _ _ _ ⟨by omega, by omega, fun g => absurd g (by omega), fun _ => ?_⟩
      refine ok_X1_choice hD (hk.I hI) (by omega) (fun τ' hk' hC e7 e8 hd => ⟨by omega, fun g => absurd g (by decide), fun _ => ?_⟩) (fun τ' hk' hC => ⟨by omega, fun _ => ?_, fun g => absurd rfl g⟩)
      · have hW := hD.W hC
        rw [e7, (hk'.I (hk.I hI)).2.1]
        refine ⟨by omega, by omega, fun g => ?_, fun g => ?_⟩
        · rw [← cn_f (P := fun c => vd s n n c ∧ ew w n n c ≤ L) (b := c) (fun q => by have := q.2; omega)]
          exact ih (c + 1) (by omega) τ' (hk.tr hk')
        · rw [← cn_t (P := fun c => vd s n n c ∧ ew w n n c ≤ L) (b := c) ⟨hC.2.2, g⟩]
          exact ih (c + 1) (by omega) τ' (hk.tr hk')
      · rw [← cn_f (P := fun c => vd s n n c ∧ ew w n n c ≤ L) (b := c) (fun q => hC ((isC_iff (by omega)).mpr q.1))]
        exact ih (c + 1) (by omega) τ' (hk.tr hk')
  exact loop (p3 n).toNat 0 (by omega) σ (mK.rf σ)
/-- the greatest weight up to the limit -/
def fuR (n : Nat) (w s : Int → Int) (L r : Int) : Prop := (∃ c, isC s n c ∧ ew w n n c = r) ∧ r ≤ L ∧ ∀ c, isC s n c → ew w n n c ≤ L → ew w n n c ≤ r
theorem fuR_u {r r' : Int} (h : fuR n w s L r) (h' : fuR n w s L r') : r = r' := by
  obtain ⟨⟨c, hc, e⟩, hl, hm⟩ := h
  obtain ⟨⟨c', hc', e'⟩, hl', hm'⟩ := h'
  have h1 := hm c' hc' (by omega)
  have h2 := hm' c hc (by omega)
  omega
theorem ok_X1_fullest (hD : gD n w v s f L) (hI : mI n w v s f L σ) {post : Int → gS → Prop} (h : ∀ (r : Int) (τ : gS), mK σ τ → fuR n w s L r → post r τ) : Ok_X1_fullest σ post := by
  have hp := hD.p
  have hL := hD.2.1
  intro Z9 r9
  refine ok_X1_end hD hI ?_
  have loop : ∀ (t c : Nat), ((c + t : Nat) : Int) = p3 n → ∀ (r : Int) (τ : gS), mK σ τ → (∃ c, isC s n c ∧ ew w n n c = r) → r ≤ L → (∀ d : Int, d < c → isC s n d → ew w n n d ≤ L → ew w n n d ≤ r) → Z9 (p3 n) r (c : Int) τ := by
    intro t
    induction t with
    | zero =>
      intro c hc r τ hk h1 h2 h3
      refine r9 _ _ _ _ ⟨by omega, by omega, fun _ => ?_, fun g => absurd g (by omega)⟩
      exact h r τ hk ⟨h1, h2, fun d hd => h3 d (by have := hd.2.1; omega) hd⟩
    | succ t ih =>
      intro c hc r τ hk h1 h2 h3
      have hr0 : 0 ≤ r := by
        obtain ⟨d, hd, e⟩ := h1
        have := hD.W hd
        omega
      refine r9 _ _ _ _ ⟨by omega, by omega, fun g => absurd g (by omega), fun _ => ?_⟩
      refine ok_X1_choice hD (hk.I hI) (by omega) (fun τ' hk' hC e7 e8 hd => ⟨by omega, fun g => absurd g (by decide), fun _ => ?_⟩) (fun τ' hk' hC => ⟨by omega, fun _ => ?_, fun g => absurd rfl g⟩)
      · have hW := hD.W hC
        rw [e7, (hk'.I (hk.I hI)).2.1]
        refine ⟨by omega, by omega, fun g => ?_, fun g => ⟨by omega, fun g2 => ?_, fun g2 => ?_⟩⟩
        · refine ih (c + 1) (by omega) r τ' (hk.tr hk') h1 h2 (fun d hd hd2 hd3 => ?_)
          by_cases hdc : d = (c : Int)
          · rw [hdc] at hd3; omega
          · exact h3 d (by omega) hd2 hd3
        · refine ih (c + 1) (by omega) r τ' (hk.tr hk') h1 h2 (fun d hd hd2 hd3 => ?_)
          by_cases hdc : d = (c : Int)
          · rw [hdc]; omega
          · exact h3 d (by omega) hd2 hd3
        · intro q hq
          rw [hq]
          refine ih (c + 1) (by omega) _ τ' (hk.tr hk') ⟨_, hC, rfl⟩ g (fun d hd hd2 hd3 => ?_)
          by_cases hdc : d = (c : Int)
          · rw [hdc]; omega
          · have := h3 d (by omega) hd2 hd3
            omega
      · refine ih (c + 1) (by omega) r τ' (hk.tr hk') h1 h2 (fun d hd hd2 hd3 => ?_)
        by_cases hdc : d = (c : Int)
        · rw [hdc] at hd2; exact absurd hd2 hC
        · exact h3 d (by omega) hd2 hd3
  exact loop (p3 n).toNat 0 (by omega) 0 σ (mK.rf σ) ⟨0, isC_0 hD.s0, ew_0 w n n⟩ (by omega) (fun d hd hd2 => absurd hd2.1 (by omega))
/-- the least weight with at least the value a -/
def liR (n : Nat) (w v s : Int → Int) (a r : Int) : Prop := (r = -1 ∧ ∀ c, isC s n c → ew v n n c < a) ∨ ((∃ c, isC s n c ∧ a ≤ ew v n n c ∧ ew w n n c = r) ∧ ∀ c, isC s n c → a ≤ ew v n n c → r ≤ ew w n n c)
theorem liR_u {a r r' : Int} (h : liR n w v s a r) (h' : liR n w v s a r') : r = r' := by
  rcases h with ⟨h1, h2⟩ | ⟨⟨c, hc, hv, he⟩, h2⟩
  · rcases h' with ⟨g1, g2⟩ | ⟨⟨c', hc', hv', he'⟩, g2⟩
    · omega
    · have := h2 c' hc'; omega
  · rcases h' with ⟨g1, g2⟩ | ⟨⟨c', hc', hv', he'⟩, g2⟩
    · have := g2 c hc; omega
    · have := h2 c' hc' hv'
      have := g2 c hc hv
      omega
theorem ok_X1_lightest (hD : gD n w v s f L) (hI : mI n w v s f L σ) {a : Int} (ha : gR a) {post : Int → gS → Prop} (h : ∀ (r : Int) (τ : gS), mK σ τ → liR n w v s a r → post r τ) : Ok_X1_lightest a σ post := by
  have hp := hD.p
  intro Z10 r10
  refine ok_X1_end hD hI ?_
  have loop : ∀ (t c : Nat), ((c + t : Nat) : Int) = p3 n → ∀ (r : Int) (τ : gS), mK σ τ → ((r = -1 ∧ ∀ d : Int, d < c → isC s n d → ew v n n d < a) ∨ ((∃ d, isC s n d ∧ a ≤ ew v n n d ∧ ew w n n d = r) ∧ ∀ d : Int, d < c → isC s n d → a ≤ ew v n n d → r ≤ ew w n n d)) → Z10 (p3 n) r (c : Int) τ := by
    intro t
    induction t with
    | zero =>
      intro c hc r τ hk h1
      refine r10 _ _ _ _ ⟨by omega, by omega, fun _ => ?_, fun g => absurd g (by omega)⟩
      refine h r τ hk ?_
      rcases h1 with ⟨e, q⟩ | ⟨q1, q2⟩
      · exact Or.inl ⟨e, fun d hd => q d (by have := hd.2.1; omega) hd⟩
      · exact Or.inr ⟨q1, fun d hd => q2 d (by have := hd.2.1; omega) hd⟩
    | succ t ih =>
      intro c hc r τ hk h1
      have hr0 : -1 ≤ r ∧ r ≤ 280 := by
        rcases h1 with ⟨e, q⟩ | ⟨⟨d, hd, hd2, e⟩, q2⟩
        · omega
        · have := hD.W hd
          omega
      refine r10 _ _ _ _ ⟨by omega, by omega, fun g => absurd g (by omega), fun _ => ?_⟩
      refine ok_X1_choice hD (hk.I hI) (by omega) (fun τ' hk' hC e7 e8 hd => ⟨by omega, fun g => absurd g (by decide), fun _ => ?_⟩) (fun τ' hk' hC => ⟨by omega, fun _ => ?_, fun g => absurd rfl g⟩)
      · have hW := hD.W hC
        have hV := hD.V hC
        rw [e7, e8]
        refine ⟨by omega, ha, fun g => ?_, fun g => ⟨by omega, fun g2 => ?_, fun g2 => ⟨by omega, fun g3 => ?_, fun g3 => ?_⟩⟩⟩
        · refine ih (c + 1) (by omega) r τ' (hk.tr hk') ?_
          rcases h1 with ⟨e, q⟩ | ⟨q1, q2⟩
          · refine Or.inl ⟨e, fun d hd hd2 => ?_⟩
            by_cases hdc : d = (c : Int)
            · rw [hdc]; exact g
            · exact q d (by omega) hd2
          · refine Or.inr ⟨q1, fun d hd hd2 hd3 => ?_⟩
            by_cases hdc : d = (c : Int)
            · rw [hdc] at hd3; omega
            · exact q2 d (by omega) hd2 hd3
        · intro q hq
          rw [hq]
          refine ih (c + 1) (by omega) _ τ' (hk.tr hk') (Or.inr ⟨⟨_, hC, g, rfl⟩, fun d hd hd2 hd3 => ?_⟩)
          by_cases hdc : d = (c : Int)
          · rw [hdc]; omega
          · rcases h1 with ⟨e, q⟩ | ⟨⟨d', hd', _, e⟩, q2⟩
            · have := q d (by omega) hd2; omega
            · have := hD.W hd'; omega
        · refine ih (c + 1) (by omega) r τ' (hk.tr hk') ?_
          rcases h1 with ⟨e, q⟩ | ⟨q1, q2⟩
          · omega
          · refine Or.inr ⟨q1, fun d hd hd2 hd3 => ?_⟩
            by_cases hdc : d = (c : Int)
            · rw [hdc]; omega
            · exact q2 d (by omega) hd2 hd3
        · intro q hq
          rw [hq]
          refine ih (c + 1) (by omega) _ τ' (hk.tr hk') (Or.inr ⟨⟨_, hC, g, rfl⟩, fun d hd hd2 hd3 => ?_⟩)
          by_cases hdc : d = (c : Int)
          · rw [hdc]; omega
          · rcases h1 with ⟨e, q⟩ | ⟨q1, q2⟩
            · omega
            · have := q2 d (by omega) hd2 hd3; omega
      · refine ih (c + 1) (by omega) r τ' (hk.tr hk') ?_
        rcases h1 with ⟨e, q⟩ | ⟨q1, q2⟩
        · refine Or.inl ⟨e, fun d hd hd2 => ?_⟩
          by_cases hdc : d = (c : Int)
          · rw [hdc] at hd2; exact absurd hd2 hC
          · exact q d (by omega) hd2
        · refine Or.inr ⟨q1, fun d hd hd2 hd3 => ?_⟩
          by_cases hdc : d = (c : Int)
          · rw [hdc] at hd2; exact absurd hd2 hC
          · exact q2 d (by omega) hd2 hd3
  exact loop (p3 n).toNat 0 (by omega) (-1) σ (mK.rf σ) (Or.inl ⟨rfl, fun d hd hd2 => absurd hd2.1 (by omega)⟩)
/-! strict choices, search -/
/-- the digit of good i -/
def sd (n : Nat) (c i : Int) : Int := dgm c ((n : Int) - 1 - i).toNat
theorem sd_bd (n : Nat) (c i : Int) : 0 ≤ sd n c i ∧ sd n c i ≤ 2 := by unfold sd dgm; omega
theorem sd_of {g : Int → Int} {c : Int} (h : ∀ j : Nat, j < n → g ((n : Int) - 1 - j) = dgm c j) : ∀ i : Int, 0 ≤ i → i < n → g i = sd n c i := by
  intro i h0 h1
  have := h ((n : Int) - 1 - i).toNat (by omega)
  rw [show (n : Int) - 1 - (((n : Int) - 1 - i).toNat : Nat) = i by omega] at this
  exact this
def stp (n : Nat) (f p : Int → Int) : Prop := ∀ i j : Int, 0 ≤ j → j < i → i < n → 0 < p i → 0 < p j → f i ≠ f j
theorem ok_X1_strict (hD : gD n w v s f L) (hI : mI n w v s f L σ) {p : Int → Int} (hp : ∀ i : Int, 0 ≤ i → i < n → σ 6 i = p i ∧ 0 ≤ p i ∧ p i ≤ 2) {post : Int → gS → Prop} (h1 : stp n f p → post 1 σ) (h0 : ¬ stp n f p → post 0 σ) : Ok_X1_strict σ post := by
  have hn := hD.1
  intro Z2 Z18 r2 r18
  have outer : ∀ (t : Nat) (i : Int), 0 ≤ i → i + t = n → (∀ a b : Int, 0 ≤ b → b < a → a < i → 0 < p a → 0 < p b → f a ≠ f b) → Z2 i σ := by
    intro t
    induction t with
    | zero =>
      intro i h0i hi hq
      refine r2 _ _ ⟨by omega, by rw [hI.1]; omega, fun _ => h1 (fun a b g0 g1 g2 => hq a b g0 g1 (by omega)), fun g => absurd g (by rw [hI.1]; omega)⟩
    | succ t ih =>
      intro i h0i hi hq
      refine r2 _ _ ⟨by omega, by rw [hI.1]; omega, fun g => absurd g (by rw [hI.1]; omega), fun _ => ⟨fun g => absurd g (by omega), fun _ => ?_⟩⟩
      have inner : ∀ (u : Nat) (j : Int), 0 ≤ j → j + u = i → (∀ b : Int, 0 ≤ b → b < j → 0 < p i → 0 < p b → f i ≠ f b) → Z18 i j σ := by
        intro u
        induction u with
        | zero =>
          intro j h0j hj hb
          refine r18 _ _ _ ⟨by omega, by omega, fun _ => ?_, fun g => absurd g (by omega)⟩
          refine ih (i + 1) (by omega) (by omega) (fun a b g0 g1 g2 g3 g4 => ?_)
          by_cases ha : a = i
          · subst ha
            exact hb b g0 (by omega) g3 g4
          · exact hq a b g0 g1 (by omega) g3 g4
        | succ u ih2 =>
          intro j h0j hj hb
          obtain ⟨ei, bi0, bi1⟩ := hp i h0i (by omega)
          obtain ⟨ej, bj0, bj1⟩ := hp j h0j (by omega)
          have fi := (hI.2.2 i h0i (by omega)).2.2.2
          have fj := (hI.2.2 j h0j (by omega)).2.2.2
          have bfi := (hD.2.2 i h0i (by omega)).2.2.2
          have bfj := (hD.2.2 j h0j (by omega)).2.2.2
          refine r18 _ _ _ ⟨by omega, by omega, fun g => absurd g (by omega), fun _ => ⟨by omega, ?_⟩⟩
          rw [ei, ej, fi, fj]
          refine ⟨by omega, fun g => ?_, fun g => ⟨by omega, by omega, fun g2 => ?_, fun g2 => ⟨by omega, by omega, fun g3 => ?_, fun g3 => ?_⟩⟩⟩
          · refine ih2 (j + 1) (by omega) (by omega) (fun b g0 g1 g2 g3 => ?_)
            omega
          · refine ih2 (j + 1) (by omega) (by omega) (fun b g0 g1 g3 g4 => ?_)
            by_cases hbj : b = j
            · subst hbj; omega
            · exact hb b g0 (by omega) g3 g4
          · refine ih2 (j + 1) (by omega) (by omega) (fun b g0 g1 g4 g5 => ?_)
            by_cases hbj : b = j
            · subst hbj; exact g3
            · exact hb b g0 (by omega) g4 g5
          · exact h0 (fun hs => hs i j h0j (by omega) (by omega) g g2 g3)
      exact inner i.toNat 0 (by omega) (by omega) (fun b g0 g1 => absurd g1 (by omega))
  exact outer n 0 (by omega) (by omega) (fun a b g0 g1 g2 => absurd g2 (by omega))
/-- code r is no worse than code c: by value, then weight, then itself -/
def bt (n : Nat) (w v : Int → Int) (r c : Int) : Prop := ew v n n c < ew v n n r ∨ (ew v n n c = ew v n n r ∧ ew w n n r < ew w n n c) ∨ (ew v n n c = ew v n n r ∧ ew w n n c = ew w n n r ∧ r ≤ c)
/-- the best code of those with Pr -/
def sOK (n : Nat) (w v : Int → Int) (Pr : Int → Prop) (r : Int) : Prop := Pr r ∧ ∀ c, Pr c → bt n w v r c
theorem sOK_u {Pr : Int → Prop} {r r' : Int} (h : sOK n w v Pr r) (h' : sOK n w v Pr r') : r = r' := by
  have h1 := h.2 r' h'.1
  have h2 := h'.2 r h.1
  unfold bt at h1 h2
  omega
def sPr (n : Nat) (w s f : Int → Int) (L a1 a2 c : Int) : Prop := isC s n c ∧ ew w n n c ≤ L ∧ (a1 ≠ 0 → stp n f (sd n c)) ∧ (0 ≤ a2 → sd n c a2 = 0)
theorem sd_0 (n : Nat) (i : Int) : sd n 0 i = 0 := by unfold sd dgm; rw [Int.zero_ediv]; rfl
theorem sPr_0 (hD : gD n w v s f L) (a1 a2 : Int) : sPr n w s f L a1 a2 0 := ⟨isC_0 hD.s0, by rw [ew_0]; exact hD.2.1.1, fun _ i j _ _ _ h => absurd h (by rw [sd_0]; decide), fun _ => sd_0 n a2⟩
theorem ok_X1_search (hD : gD n w v s f L) (hI : mI n w v s f L σ) {a1 a2 : Int} (ha1 : gR a1) (ha2 : gR a2) (han : a2 < n) {post : Int → gS → Prop} (h : ∀ (r : Int) (τ : gS), mK σ τ → sOK n w v (sPr n w s f L a1 a2) r → post r τ) : Ok_X1_search a1 a2 σ post := by
  have hp := hD.p
  have hn := hD.1
  have hL := hD.2.1
  intro Z17 Z59 Z79 r17 r59 r79
  refine ok_X1_end hD hI ?_
  have loop : ∀ (t c : Nat), ((c + t : Nat) : Int) = p3 n → ∀ (r : Int) (τ : gS), mK σ τ → sPr n w s f L a1 a2 r → (r ≤ c) → (∀ d : Int, d < c → sPr n w s f L a1 a2 d → bt n w v r d) → Z17 (p3 n) r (ew v n n r) (ew w n n r) (c : Int) τ := by
    intro t
    induction t with
    | zero =>
      intro c hc r τ hk h1 h2 h3
      refine r17 _ _ _ _ _ _ ⟨by omega, by omega, fun _ => ?_, fun g => absurd g (by omega)⟩
      exact h r τ hk ⟨h1, fun d hd => h3 d (by have := hd.1.2.1; omega) hd⟩
    | succ t ih =>
      intro c hc r τ hk h1 h2 h3
      have hrW := hD.W h1.1
      have hrV := hD.V h1.1
      have skip : ∀ τ' : gS, mK σ τ' → (sPr n w s f L a1 a2 (c : Int) → bt n w v r c) → Z17 (p3 n) r (ew v n n r) (ew w n n r) ((c : Int) + 1) τ' := by
        intro τ' hk' hb
        refine ih (c + 1) (by omega) r τ' hk' h1 (by omega) (fun d hd hd2 => ?_)
        by_cases hdc : d = (c : Int)
        · rw [hdc] at hd2 ⊢; exact hb hd2
        · exact h3 d (by omega) hd2
      have h79 : ∀ τ' : gS, mK σ τ' → τ' 7 0 = ew w n n c → τ' 8 0 = ew v n n c → sPr n w s f L a1 a2 (c : Int) → Z79 (p3 n) r (ew v n n r) (ew w n n r) (c : Int) τ' := by
        intro τ' hk' e7 e8 hP
        have hcW := hD.W hP.1
        have hcV := hD.V hP.1
        have take : (ew v n n r < ew v n n c ∨ (ew v n n c = ew v n n r ∧ ew w n n c < ew w n n r)) → Z17 (p3 n) (c : Int) (ew v n n c) (ew w n n c) ((c : Int) + 1) τ' := by
          intro hbet
          refine ih (c + 1) (by omega) c τ' hk' hP (by omega) (fun d hd hd2 => ?_)
          by_cases hdc : d = (c : Int)
          · rw [hdc]; exact Or.inr (Or.inr ⟨rfl, rfl, Int.le_refl _⟩)
          · have h5 := h3 d (by omega) hd2
            unfold bt at h5 ⊢
            omega
        refine r79 _ _ _ _ _ _ ?_
        rw [e7, e8]
        refine ⟨by omega, by omega, fun g => ?_, fun g => ⟨fun g2 => ?_, fun g2 => ⟨by omega, by omega, fun g3 => ?_, fun g3 => ?_⟩⟩⟩
        · intro q1 hq1 q2 hq2
          rw [hq1, hq2]
          exact take (Or.inl g)
        · exact skip τ' hk' (fun _ => by unfold bt; omega)
        · exact skip τ' hk' (fun _ => by unfold bt; omega)
        · intro q1 hq1 q2 hq2
          rw [hq1, hq2]
          exact take (Or.inr ⟨g2, g3⟩)
      refine r17 _ _ _ _ _ _ ⟨by omega, by omega, fun g => absurd g (by omega), fun _ => ?_⟩
      have z0 : ∀ τ' : gS, mK σ τ' → ¬ sPr n w s f L a1 a2 (c : Int) → Z59 (p3 n) r (ew v n n r) (ew w n n r) (c : Int) 0 τ' := fun τ' hk' hno => r59 _ _ _ _ _ _ _ ⟨by omega, fun _ => skip τ' hk' (fun q => absurd q hno), fun g => absurd rfl g⟩
      refine ok_X1_choice hD (hk.I hI) (by omega) (fun τ' hk1 hC e7 e8 hd => ⟨by omega, fun g => absurd g (by decide), fun _ => ?_⟩) (fun τ' hk1 hC => ⟨by omega, fun _ => z0 τ' (hk.tr hk1) (fun q => hC q.1), fun g => absurd rfl g⟩)
      have hcW := hD.W hC
      have hcV := hD.V hC
      have hk' := hk.tr hk1
      have hds := sd_of (g := τ' 6) hd
      have z1 : ew w n n c ≤ L → (a1 ≠ 0 → stp n f (sd n c)) → Z59 (p3 n) r (ew v n n r) (ew w n n r) (c : Int) 1 τ' := by
        intro hle hst
        refine r59 _ _ _ _ _ _ _ ⟨by omega, fun g => absurd g (by decide), fun _ => ⟨ha2, fun g => ?_, fun g => ⟨by omega, ?_⟩⟩⟩
        · exact h79 τ' hk' e7 e8 ⟨hC, hle, hst, fun q => absurd q (by omega)⟩
        · have hb := sd_bd n (c : Int) a2
          rw [hds a2 g han]
          refine ⟨by omega, fun g2 => skip τ' hk' (fun q => absurd (q.2.2.2 g) g2), fun g2 => h79 τ' hk' e7 e8 ⟨hC, hle, hst, fun _ => g2⟩⟩
      rw [e7, (hk'.I hI).2.1]
      refine ⟨by omega, by omega, fun g => z0 τ' hk' (fun q => by have := q.2.1; omega), fun g => ⟨ha1, fun g2 => z1 g (fun q => absurd g2 q), fun g2 => ?_⟩⟩
      refine ok_X1_strict hD (hk'.I hI) (p := sd n c) (fun i g0 g1 => ⟨hds i g0 g1, sd_bd n c i⟩) (fun hs => ⟨by omega, fun q => absurd q (by decide), fun _ => z1 g (fun _ => hs)⟩) (fun hs => ⟨by omega, fun _ => z0 τ' hk' (fun q => hs (q.2.2.1 g2)), fun q => absurd rfl q⟩)
  have h9 := loop (p3 n).toNat 0 (by omega) 0 σ (mK.rf σ) (sPr_0 hD a1 a2) (by omega) (fun d hd hd2 => absurd hd2.1.1 (by omega))
  rw [ew_0, ew_0] at h9
  exact h9
theorem ok_X1_best (hD : gD n w v s f L) (hI : mI n w v s f L σ) {post : Int → gS → Prop} (h : ∀ (r : Int) (τ : gS), mK σ τ → sOK n w v (sPr n w s f L 0 (-1)) r → post (ew v n n r) τ) : Ok_X1_best σ post :=
  ok_X1_search hD hI (by decide) (by decide) (by omega) (fun r τ hk hr => ok_X1_valueAt hD (hk.I hI) hr.1.1 (fun τ' hk' => h r τ' (hk.tr hk') hr))
theorem ok_X1_bestStrict (hD : gD n w v s f L) (hI : mI n w v s f L σ) {post : Int → gS → Prop} (h : ∀ (r : Int) (τ : gS), mK σ τ → sOK n w v (sPr n w s f L 1 (-1)) r → post (ew v n n r) τ) : Ok_X1_bestStrict σ post :=
  ok_X1_search hD hI (by decide) (by decide) (by omega) (fun r τ hk hr => ok_X1_valueAt hD (hk.I hI) hr.1.1 (fun τ' hk' => h r τ' (hk.tr hk') hr))
theorem ok_X1_bestCode (hD : gD n w v s f L) (hI : mI n w v s f L σ) {post : Int → gS → Prop} (h : ∀ (r : Int) (τ : gS), mK σ τ → sOK n w v (sPr n w s f L 0 (-1)) r → post r τ) : Ok_X1_bestCode σ post :=
  ok_X1_search hD hI (by decide) (by decide) (by omega) (fun r τ hk hr => h r τ hk hr)
theorem ok_X1_bestStrictCode (hD : gD n w v s f L) (hI : mI n w v s f L σ) {post : Int → gS → Prop} (h : ∀ (r : Int) (τ : gS), mK σ τ → sOK n w v (sPr n w s f L 1 (-1)) r → post r τ) : Ok_X1_bestStrictCode σ post :=
  ok_X1_search hD hI (by decide) (by decide) (by omega) (fun r τ hk hr => h r τ hk hr)
theorem ok_X1_without (hD : gD n w v s f L) (hI : mI n w v s f L σ) {i : Int} (hi : gR i) {post : Int → gS → Prop} (h : (0 ≤ i ∧ i < n) → ∀ (r : Int) (τ : gS), mK σ τ → sOK n w v (sPr n w s f L 0 i) r → post (ew v n n r) τ) (h0 : ¬ (0 ≤ i ∧ i < n) → post (-1) σ) : Ok_X1_without i σ post :=
  ok_X1_bad hD hI hi (fun g => ⟨by omega, fun _ => ok_X1_search hD hI (by decide) hi g.2 (fun r τ hk hr => ok_X1_valueAt hD (hk.I hI) hr.1.1 (fun τ' hk' => h g r τ' (hk.tr hk') hr)), fun q => absurd rfl q⟩) (fun g => ⟨by omega, fun q => absurd q (by decide), fun _ => h0 g⟩)
theorem ok_X1_weighing (hD : gD n w v s f L) (hI : mI n w v s f L σ) {a : Int} (ha : gR a) {post : Int → gS → Prop} (h : (0 ≤ a ∧ a ≤ 300) → ∀ τ : gS, mK σ τ → post (nw s w n n a) τ) (h0 : ¬ (0 ≤ a ∧ a ≤ 300) → post (-1) σ) : Ok_X1_weighing a σ post :=
  ⟨ha, fun g => h0 (by omega), fun g => ⟨fun g2 => ok_X1_having hD hI ha (fun τ hk => h ⟨g, g2⟩ τ hk), fun g2 => h0 (by omega)⟩⟩
/-- the weight of all pieces -/
def al (s w : Int → Int) : Nat → Int
  | 0 => 0
  | k + 1 => al s w k + s k * w k
theorem al_bd (hD : gD n w v s f L) : ∀ k : Nat, k ≤ n → 0 ≤ al s w k ∧ al s w k ≤ 40 * k := by
  intro k
  induction k with
  | zero => intro _; exact ⟨Int.le_refl 0, Int.le_refl 0⟩
  | succ k ih =>
    intro hk
    have h1 := ih (by omega)
    have h2 := hD.2.2 (k : Int) (by omega) (by omega)
    have h3 := mul_bd (d := s k) (w := w k) (B := 20) (by omega) (by omega) (by omega)
    show 0 ≤ al s w k + s k * w k ∧ al s w k + s k * w k ≤ _
    omega
noncomputable def haR (n : Nat) (w s : Int → Int) : Int := @ite Int (al s w n % 2 = 0 ∧ 0 < nw s w n n (al s w n / 2)) (Classical.propDecidable _) 1 0
theorem ok_X1_halves (hD : gD n w v s f L) (hI : mI n w v s f L σ) {post : Int → gS → Prop} (h : ∀ τ : gS, mK σ τ → post (haR n w s) τ) : Ok_X1_halves σ post := by
  have hn := hD.1
  have hb := al_bd hD n (Nat.le_refl n)
  intro Z4 Z40 r4 r40
  have h40 : Z40 (al s w n) σ := by
    refine r40 _ _ ⟨by omega, by omega, fun g => ?_, fun g => ?_⟩
    · have e : haR n w s = 0 := by unfold haR; rw [if_neg (fun q => g q.1)]
      have := h σ (mK.rf σ)
      rw [e] at this
      exact this
    · refine ok_X1_having hD hI (by omega) (fun τ hk => ?_)
      have hc := nw_bd s w n (m := n) hn (al s w n / 2)
      refine ⟨by omega, fun g2 => ?_, fun g2 => ?_⟩
      · have e : haR n w s = 0 := by unfold haR; rw [if_neg (fun q => by have := q.2; omega)]
        have := h τ hk
        rw [e] at this
        exact this
      · have e : haR n w s = 1 := by unfold haR; rw [if_pos ⟨g, g2⟩]
        have := h τ hk
        rw [e] at this
        exact this
  have loop : ∀ (t k : Nat), k + t = n → Z4 (al s w k) (k : Int) σ := by
    intro t
    induction t with
    | zero =>
      intro k hk
      refine r4 _ _ _ ⟨by omega, by rw [hI.1]; omega, fun _ => ?_, fun g => absurd g (by rw [hI.1]; omega)⟩
      rw [show k = n by omega]
      exact h40
    | succ t ih =>
      intro k hk
      refine r4 _ _ _ ⟨by omega, by rw [hI.1]; omega, fun g => absurd g (by rw [hI.1]; omega), fun _ => ⟨fun g => absurd g (by omega), fun _ => ⟨by omega, ?_⟩⟩⟩
      intro q hq
      obtain ⟨e1, e2, e3, e4⟩ := hI.2.2 (k : Int) (by omega) (by omega)
      rw [e3, e1] at hq
      rw [hq]
      exact ih (k + 1) (by omega)
  exact loop n 0 (by omega)
end
end
section
/-! PURE, 5: the class's tables -/
set_option maxRecDepth 100000
/-- the values of the choices of the last m goods that weigh W -/
def Rm (s w v : Int → Int) (n : Int) (m : Nat) (W x : Int) : Prop := ∃ c : Int, 0 ≤ c ∧ c < p3 m ∧ vd s n m c ∧ ew w n m c = W ∧ ew v n m c = x
/-- those with fewer than d pieces of the good before these -/
def Rp (s w v : Int → Int) (n : Int) (m : Nat) (d W x : Int) : Prop := ∃ e c : Int, (0 ≤ e ∧ e < d) ∧ 0 ≤ c ∧ c < p3 m ∧ vd s n m c ∧ e * w (n - 1 - m) + ew w n m c = W ∧ e * v (n - 1 - m) + ew v n m c = x
theorem Rp_0 {s w v : Int → Int} {n : Int} {m : Nat} {W x : Int} : ¬ Rp s w v n m 0 W x := fun ⟨_, _, h, _⟩ => by omega
theorem Rp_s {s w v : Int → Int} {n : Int} {m : Nat} {d W x : Int} (hd : 0 ≤ d) : Rp s w v n m (d + 1) W x ↔ Rp s w v n m d W x ∨ Rm s w v n m (W - d * w (n - 1 - m)) (x - d * v (n - 1 - m)) := by
  constructor
  · rintro ⟨e, c, he, h0, h1, hv, e1, e2⟩
    by_cases hed : e = d
    · subst hed
      exact Or.inr ⟨c, h0, h1, hv, by omega, by omega⟩
    · exact Or.inl ⟨e, c, by omega, h0, h1, hv, e1, e2⟩
  · rintro (⟨e, c, he, h0, h1, hv, e1, e2⟩ | ⟨c, h0, h1, hv, e1, e2⟩)
    · exact ⟨e, c, by omega, h0, h1, hv, e1, e2⟩
    · exact ⟨d, c, by omega, h0, h1, hv, by omega, by omega⟩
section
variable {n : Nat} {w v s f : Int → Int} {L : Int} {σ : gS}
theorem Rp_end (hN : gN n w v s) {m : Nat} (hm : m < n) {d W x : Int} (hd0 : 0 ≤ d) (hd : d ≤ s ((n : Int) - 1 - m) + 1) (hx : s ((n : Int) - 1 - m) < d ∨ W < d * w ((n : Int) - 1 - m)) : Rp s w v n m d W x ↔ Rm s w v n (m + 1) W x := by
  obtain ⟨bw, bv, bs⟩ := hN.2 ((n : Int) - 1 - m) (by omega) (by omega)
  constructor
  · rintro ⟨e, c, he, h0, h1, hv, e1, e2⟩
    refine ⟨e * p3 m + c, ?_, ?_, (vd_mk rfl h0 h1).mpr ⟨by omega, hv⟩, by rw [ew_mk rfl h0 h1]; exact e1, by rw [ew_mk rfl h0 h1]; exact e2⟩
    · rcases (show e = 0 ∨ e = 1 ∨ e = 2 by omega) with rfl | rfl | rfl <;> omega
    · rw [p3_s]
      rcases (show e = 0 ∨ e = 1 ∨ e = 2 by omega) with rfl | rfl | rfl <;> omega
  · rintro ⟨c, h0, h1, hv, e1, e2⟩
    have hg := dig_lt h0 h1
    have hl := d_lo c m
    rw [vd_s] at hv
    rw [ew_s] at e1 e2
    refine ⟨c / p3 m, c % p3 m, ⟨hg.1, ?_⟩, hl.1, hl.2, hv.2, e1, e2⟩
    rcases hx with hx | hx
    · omega
    · have h5 := gN_w hN (m := m) (by omega) hl.1 hl.2
      by_cases hc : c / p3 m < d
      · exact hc
      · have h6 := Int.mul_le_mul_of_nonneg_right (show d ≤ c / p3 m by omega) (show 0 ≤ w ((n : Int) - 1 - m) by omega)
        omega
/-- the counts of the first d numbers of pieces -/
noncomputable def ps (s w : Int → Int) (n : Int) (m : Nat) (W : Int) : Nat → Int
  | 0 => 0
  | d + 1 => ps s w n m W d + nw s w n m (W - d * w (n - 1 - m))
theorem ps_end (hN : gN n w v s) {m : Nat} (hm : m < n) {d : Nat} {W : Int} (hW : 0 ≤ W) (hd : (d : Int) ≤ s ((n : Int) - 1 - m) + 1) (hx : s ((n : Int) - 1 - m) < d ∨ W < d * w ((n : Int) - 1 - m)) : ps s w n m W d = nw s w n (m + 1) W := by
  obtain ⟨bw, bv, bs⟩ := hN.2 ((n : Int) - 1 - m) (by omega) (by omega)
  have z : ∀ e : Int, W < e * w ((n : Int) - 1 - m) → nw s w n m (W - e * w ((n : Int) - 1 - m)) = 0 := fun e h => nw_neg hN (by omega) (by omega)
  rw [nw_s bs.1]
  have e0 : W - 0 * w ((n : Int) - 1 - m) = W := by omega
  have e1 : W - 1 * w ((n : Int) - 1 - m) = W - w ((n : Int) - 1 - m) := by omega
  have p1 : ps s w n m W 1 = nw s w n m W := by
    show (0 : Int) + nw s w n m (W - 0 * w ((n : Int) - 1 - m)) = _
    rw [e0]; omega
  have p2 : ps s w n m W 2 = nw s w n m W + nw s w n m (W - w ((n : Int) - 1 - m)) := by
    show ps s w n m W 1 + nw s w n m (W - 1 * w ((n : Int) - 1 - m)) = _
    rw [p1, e1]
  have p3' : ps s w n m W 3 = nw s w n m W + nw s w n m (W - w ((n : Int) - 1 - m)) + nw s w n m (W - 2 * w ((n : Int) - 1 - m)) := by
    show ps s w n m W 2 + nw s w n m (W - 2 * w ((n : Int) - 1 - m)) = _
    rw [p2]
  have z1 := z 1
  have z2 := z 2
  rw [e1] at z1
  generalize hS : s ((n : Int) - 1 - m) = S at *
  rcases (show d = 0 ∨ d = 1 ∨ d = 2 ∨ d = 3 by omega) with rfl | rfl | rfl | rfl
  · omega
  · rw [p1]
    by_cases h1 : 1 ≤ S
    · rw [if_pos h1, z1 (by omega)]
      by_cases h2 : 2 ≤ S
      · rw [if_pos h2, z2 (by omega)]; omega
      · rw [if_neg h2]; omega
    · rw [if_neg h1, if_neg (by omega)]; omega
  · rw [p2, if_pos (by omega)]
    by_cases h2 : 2 ≤ S
    · rw [if_pos h2, z2 (by omega)]; omega
    · rw [if_neg h2]; omega
  · rw [p3', if_pos (by omega), if_pos (by omega)]
theorem Rm_bd (hN : gN n w v s) {m : Nat} (hm : m ≤ n) {W x : Int} (h : Rm s w v n m W x) : x ≤ 700 := by
  obtain ⟨c, h0, h1, hv, e1, e2⟩ := h
  have := gN_v hN hm h0 h1
  omega
theorem Rp_bd (hN : gN n w v s) {m : Nat} (hm : m < n) {d W x : Int} (hd : d ≤ 3) (h : Rp s w v n m d W x) : x ≤ 800 := by
  obtain ⟨e, c, he, h0, h1, hv, e1, e2⟩ := h
  have h2 := gN_v hN (m := m) (by omega) h0 h1
  obtain ⟨bw, bv, bs⟩ := hN.2 ((n : Int) - 1 - m) (by omega) (by omega)
  have h3 := mul_bd (d := e) (by omega) (by omega) bv
  omega
/-- the row of the last m goods -/
def row (s w v : Int → Int) (n m : Nat) (τ : gS) : Prop := ∀ W : Int, 0 ≤ W → W ≤ 280 → mx (Rm s w v n m W) (τ 4 (281 * ((n : Int) - m) + W)) ∧ τ 5 (281 * ((n : Int) - m) + W) = nw s w n m W
theorem ok_X0_fillEntry (hN : gN n w v s) {m : Nat} (hm : m < n) {k W : Int} (hk : k = (n : Int) - 1 - m) (hW0 : 0 ≤ W) (hW1 : W ≤ 280) (e0 : σ 0 k = w k) (e1 : σ 1 k = v k) (hrow : row s w v n m σ) {post : gS → Prop} (h : ∀ t : Int, mx (Rm s w v n (m + 1) W) t → post (sU (sU σ 4 (281 * k + W) t) 5 (281 * k + W) (nw s w n (m + 1) W))) : Ok_X0_fillEntry k W (s k) σ post := by
  have hn := hN.1
  obtain ⟨bw, bv, bs⟩ := hN.2 k (by omega) (by omega)
  have hkk : (n : Int) - 1 - m = k := hk.symm
  intro Z10 Z113 r10 r113
  have fin : ∀ (d : Nat) (best : Int), (d : Int) ≤ s k + 1 → (s k < d ∨ W < d * w k) → mx (Rp s w v n m d W) best → Z113 best (ps s w n m W d) σ := by
    intro d best hd hx hb
    refine r113 _ _ _ ⟨by omega, ?_⟩
    rw [ps_end hN hm hW0 (by rw [hkk]; exact hd) (by rw [hkk]; exact hx)]
    exact h best (mx_cg hb (fun x => Rp_end hN hm (by omega) (by rw [hkk]; exact hd) (by rw [hkk]; exact hx)))
  have loop : ∀ (t d : Nat), ((d + t : Nat) : Int) = s k + 1 → ∀ best : Int, mx (Rp s w v n m d W) best → Z10 best (ps s w n m W d) (d : Int) σ := by
    intro t
    induction t with
    | zero =>
      intro d hd best hb
      exact r10 _ _ _ _ ⟨by omega, by omega, fun _ => fin d best (by omega) (Or.inl (by omega)) hb, fun g => absurd g (by omega)⟩
    | succ t ih =>
      intro d hd best hb
      have hdw := mul_bd (d := (d : Int)) (w := w k) (B := 20) (by omega) (by omega) (by omega)
      have hdv := mul_bd (d := (d : Int)) (w := v k) (B := 50) (by omega) (by omega) bv
      have hbb := mx_bd hb (fun x hx => Rp_bd hN hm (by omega) hx)
      refine r10 _ _ _ _ ⟨by omega, by omega, fun g => absurd g (by omega), fun _ => ⟨by omega, ?_⟩⟩
      rw [e0, e1]
      refine ⟨by omega, by omega, fun g => fin d best (by omega) (Or.inr g) hb, fun g => ?_⟩
      intro q hq
      refine ⟨by omega, ?_⟩
      intro q2 hq2
      have eq : 281 * ((n : Int) - m) + (W - d * w k) = q := by omega
      have hr := hrow (W - d * w k) (by omega) (by omega)
      rw [eq] at hr
      have hrb := mx_bd hr.1 (fun x hx => Rm_bd hN (by omega) hx)
      have nxt : ∀ b2 : Int, mx (Rp s w v n m ((d + 1 : Nat) : Int) W) b2 → ∀ q5 : Int, q5 = ps s w n m W d + σ 5 q → Z10 b2 q5 ((d : Int) + 1) σ := by
        intro b2 hb2 q5 hq5
        have e5 : q5 = ps s w n m W (d + 1) := by
          rw [hq5, hr.2]
          show _ = ps s w n m W d + nw s w n m (W - d * w ((n : Int) - 1 - m))
          rw [hkk]
        rw [e5]
        exact ih (d + 1) (by omega) b2 hb2
      have iff : ∀ x, (Rp s w v n m d W x ∨ Rm s w v n m (W - d * w k) (x - d * v k)) ↔ Rp s w v n m ((d + 1 : Nat) : Int) W x := by
        intro x
        have := Rp_s (s := s) (w := w) (v := v) (n := n) (m := m) (d := (d : Int)) (W := W) (x := x) (by omega)
        rw [hkk] at this
        rw [show ((d + 1 : Nat) : Int) = (d : Int) + 1 by omega]
        exact this.symm
      refine ⟨by omega, fun g1 => ?_, fun g1 => ⟨by omega, by omega, fun g2 => ?_, fun g2 => ?_⟩⟩
      · exact nxt best (mx_cg (mx_no hb (fun x => mx_ng hr.1 g1 (x - d * v k))) iff)
      · exact nxt best (mx_cg (mx_L hb (mx_sh hr.1 g1 hdv.1) (by omega)) iff)
      · refine nxt q2 (mx_cg (mx_R hb (mx_sh (δ := d * v k) hr.1 g1 hdv.1) (by omega)) iff |> fun z => by rw [hq2]; exact z)
  exact loop (s k + 1).toNat 0 (by omega) (-100000) (mx_emp (fun x => Rp_0))
/-- supplies with one good left out -/
def so (s : Int → Int) (a : Int) : Int → Int := fun k => if k = a then 0 else s k
theorem gN_so (hN : gN n w v s) (a : Int) : gN n w v (so s a) := by
  refine ⟨hN.1, fun k h0 h1 => ?_⟩
  obtain ⟨bw, bv, bs⟩ := hN.2 k h0 h1
  refine ⟨bw, bv, ?_⟩
  unfold so
  by_cases h : k = a
  · rw [if_pos h]; omega
  · rw [if_neg h]; exact bs
theorem Rm_0 {s : Int → Int} {W x : Int} : Rm s w v n 0 W x ↔ W = 0 ∧ x = 0 := by
  constructor
  · rintro ⟨c, h0, h1, hv, e1, e2⟩
    exact ⟨e1.symm, e2.symm⟩
  · rintro ⟨rfl, rfl⟩
    exact ⟨0, Int.le_refl 0, by decide, trivial, rfl, rfl⟩
theorem nw_00 {s : Int → Int} {W : Int} : nw s w n 0 W = if W = 0 then 1 else 0 := by
  unfold nw
  show cn _ (0 + 1) = _
  by_cases h : W = 0
  · rw [if_pos h, cn_t (P := fun c => vd s n 0 c ∧ ew w n 0 c = W) ⟨trivial, h.symm⟩]; rfl
  · rw [if_neg h, cn_f (P := fun c => vd s n 0 c ∧ ew w n 0 c = W) (fun q => h q.2.symm)]; rfl
theorem ok_X0_fill (hD : gD n w v s f L) (hI : xI n w v s f L σ) {a : Int} (ha : gR a) {post : gS → Prop} (h : ∀ τ : gS, (∀ j : Nat, j ≠ 4 → j ≠ 5 → τ j = σ j) → (∀ m : Nat, m ≤ n → row (so s a) w v n m τ) → post τ) : Ok_X0_fill a σ post := by
  have hn := hD.1
  have hN := gN_so hD.N a
  intro Z11 Z35 Z66 Z90 r11 r35 r66 r90
  have fr9 : ∀ τ : gS, (∀ j : Nat, j ≠ 4 → j ≠ 5 → τ j = σ j) → τ 9 0 = n := fun τ ht => by rw [ht 9 (by decide) (by decide)]; exact hI.1
  have outer : ∀ (t m : Nat), m + t = n → ∀ τ : gS, (∀ j : Nat, j ≠ 4 → j ≠ 5 → τ j = σ j) → (∀ m' : Nat, m' ≤ m → row (so s a) w v n m' τ) → Z66 ((n : Int) - 1 - m) τ := by
    intro t
    induction t with
    | zero =>
      intro m hm τ hf hr
      refine r66 _ _ ⟨by omega, fun _ => h τ hf (fun m' hm' => hr m' (by omega)), fun g => absurd g (by omega)⟩
    | succ t ih =>
      intro m hm τ hf hr
      obtain ⟨x0, x1, x2, x3⟩ := hI.2.2 ((n : Int) - 1 - m) (by omega) (by omega)
      have inner : ∀ (u : Nat) (W : Int), 0 ≤ W → W + u = 281 → ∀ τ : gS, (∀ j : Nat, j ≠ 4 → j ≠ 5 → τ j = σ j) → (∀ m' : Nat, m' ≤ m → row (so s a) w v n m' τ) → (∀ W' : Int, 0 ≤ W' → W' < W → mx (Rm (so s a) w v n (m + 1) W') (τ 4 (281 * ((n : Int) - 1 - m) + W')) ∧ τ 5 (281 * ((n : Int) - 1 - m) + W') = nw (so s a) w n (m + 1) W') → Z90 ((n : Int) - 1 - m) (so s a ((n : Int) - 1 - m)) W τ := by
        intro u
        induction u with
        | zero =>
          intro W hW0 hW τ hf hr hp
          refine r90 _ _ _ _ ⟨by omega, fun _ => ?_, fun g => absurd g (by omega)⟩
          rw [show (n : Int) - 1 - m + (-1) = (n : Int) - 1 - ((m + 1 : Nat) : Int) by omega]
          refine ih (m + 1) (by omega) τ hf (fun m' hm' => ?_)
          by_cases hmm : m' = m + 1
          · subst hmm
            intro W' g0 g1
            rw [show (n : Int) - ((m + 1 : Nat) : Int) = (n : Int) - 1 - m by omega]
            exact hp W' g0 (by omega)
          · exact hr m' (by omega)
        | succ u ih2 =>
          intro W hW0 hW τ hf hr hp
          refine r90 _ _ _ _ ⟨by omega, fun g => absurd g (by omega), fun _ => ?_⟩
          refine ok_X0_fillEntry hN (m := m) (by omega) rfl hW0 (by omega) (by rw [hf 0 (by decide) (by decide)]; exact x0) (by rw [hf 1 (by decide) (by decide)]; exact x1) (hr m (Nat.le_refl m)) (fun tt htt => ?_)
          refine ih2 (W + 1) (by omega) (by omega) _ (fun j h4 h5 => by rw [sU_f h5, sU_f h4]; exact hf j h4 h5) (fun m' hm' W' g0 g1 => ?_) (fun W' g0 g1 => ?_)
          · rw [sU_nf (by decide), sU_ne (by omega), sU_ne (by omega), sU_nf (by decide)]
            exact hr m' hm' W' g0 g1
          · by_cases hWW : W' = W
            · subst hWW
              rw [sU_nf (by decide), sU_eq, sU_eq]
              exact ⟨htt, rfl⟩
            · rw [sU_nf (by decide), sU_ne (by omega), sU_ne (by omega), sU_nf (by decide)]
              exact hp W' g0 (by omega)
      refine r66 _ _ ⟨by omega, fun g => absurd g (by omega), fun _ => ⟨ha, fun g => ⟨by omega, ?_⟩, fun g => ?_⟩⟩
      · intro q hq
        rw [hf 2 (by decide) (by decide), x2] at hq
        have e : q = so s a ((n : Int) - 1 - m) := by unfold so; rw [if_neg g]; exact hq
        rw [e]
        exact inner 281 0 (Int.le_refl 0) (by omega) τ hf hr (fun W' g0 g1 => absurd g1 (by omega))
      · have e : (0 : Int) = so s a ((n : Int) - 1 - m) := by unfold so; rw [if_pos g]
        have := inner 281 0 (Int.le_refl 0) (by omega) τ hf hr (fun W' g0 g1 => absurd g1 (by omega))
        rw [← e] at this
        exact this
  have first : ∀ (u : Nat) (W : Int), 0 ≤ W → W + u = 281 → ∀ τ : gS, (∀ j : Nat, j ≠ 4 → j ≠ 5 → τ j = σ j) → (∀ W' : Int, 0 ≤ W' → W' < W → mx (Rm (so s a) w v n 0 W') (τ 4 (281 * (n : Int) + W')) ∧ τ 5 (281 * (n : Int) + W') = nw (so s a) w n 0 W') → Z11 (281 * (n : Int)) W τ := by
    intro u
    induction u with
    | zero =>
      intro W hW0 hW τ hf hp
      refine r11 _ _ _ ⟨by omega, fun _ => ?_, fun g => absurd g (by omega)⟩
      intro q hq
      rw [hq, fr9 τ hf]
      have := outer n 0 (by omega) τ hf (fun m' hm' W' g0 g1 => by
        rw [show m' = 0 by omega, show (n : Int) - ((0 : Nat) : Int) = n by omega]
        exact hp W' g0 (by omega))
      rw [show (n : Int) - 1 - ((0 : Nat) : Int) = (n : Int) - 1 by omega] at this
      exact this
    | succ u ih =>
      intro W hW0 hW τ hf hp
      have step : ∀ t0 n0 : Int, mx (Rm (so s a) w v n 0 W) t0 → n0 = nw (so s a) w n 0 W → Z11 (281 * (n : Int)) (W + 1) (sU (sU τ 4 (281 * (n : Int) + W) t0) 5 (281 * (n : Int) + W) n0) := by
        intro t0 n0 ht hn0
        refine ih (W + 1) (by omega) (by omega) _ (fun j h4 h5 => by rw [sU_f h5, sU_f h4]; exact hf j h4 h5) (fun W' g0 g1 => ?_)
        by_cases hWW : W' = W
        · subst hWW
          rw [sU_nf (by decide), sU_eq, sU_eq]
          exact ⟨ht, hn0⟩
        · rw [sU_nf (by decide), sU_ne (by omega), sU_ne (by omega), sU_nf (by decide)]
          exact hp W' g0 (by omega)
      have h35 : ∀ t0 : Int, mx (Rm (so s a) w v n 0 W) t0 → Z35 (281 * (n : Int)) W (281 * (n : Int) + W) t0 τ := by
        intro t0 ht
        refine r35 _ _ _ _ _ ⟨by omega, by omega, fun g => ⟨by omega, step t0 0 ht ?_⟩, fun g => ⟨by omega, step t0 1 ht ?_⟩⟩
        · rw [nw_00, if_neg g]
        · rw [nw_00, if_pos g]
      refine r11 _ _ _ ⟨by omega, fun g => absurd g (by omega), fun _ => ⟨fun g => h35 _ ?_, fun g => h35 _ ?_⟩⟩
      · exact mx_emp (fun x hx => g (Rm_0.mp hx).1)
      · exact Or.inr ⟨Int.le_refl 0, Rm_0.mpr ⟨g, rfl⟩, fun x hx => by have := (Rm_0.mp hx).2; omega⟩
  intro q hq
  rw [hI.1] at hq
  rw [hq]
  exact first 281 0 (Int.le_refl 0) (by omega) σ (fun j _ _ => rfl) (fun W' g0 g1 => absurd g1 (by omega))
theorem fill_K {τ : gS} (h : ∀ j : Nat, j ≠ 4 → j ≠ 5 → τ j = σ j) : xK σ τ := ⟨h 0 (by decide) (by decide), h 1 (by decide) (by decide), h 2 (by decide) (by decide), h 3 (by decide) (by decide), h 9 (by decide) (by decide), h 10 (by decide) (by decide)⟩
theorem so_m1 {k : Int} (h : 0 ≤ k) : so s (-1) k = s k := by unfold so; rw [if_neg (by omega)]
theorem vd_so {a : Int} : ∀ (m : Nat) (c : Int), m ≤ n → (∀ k : Int, 0 ≤ k → k < n → so s a k = s k) → (vd (so s a) n m c ↔ vd s n m c) := by
  intro m
  induction m with
  | zero => intro c _ _; exact Iff.rfl
  | succ m ih =>
    intro c hm h
    rw [vd_s, vd_s, h _ (by omega) (by omega), ih _ (by omega) h]
theorem isC_m1 {c : Int} : isC (so s (-1)) n c ↔ isC s n c := by
  unfold isC
  rw [vd_so n c (Nat.le_refl n) (fun k h _ => so_m1 h)]
theorem nw_m1 {W : Int} : nw (so s (-1)) w n n W = nw s w n n W := cn_cg _ (fun c _ _ => by rw [vd_so n c (Nat.le_refl n) (fun k h _ => so_m1 h)])
/-- row 0, all goods: the table -/
theorem row_n {s : Int → Int} {τ : gS} (h : row s w v n n τ) {W : Int} (h0 : 0 ≤ W) (h1 : W ≤ 280) : mx (Rm s w v n n W) (τ 4 W) ∧ τ 5 W = nw s w n n W := by
  have := h W h0 h1
  rw [show 281 * ((n : Int) - (n : Int)) + W = W by omega] at this
  exact this
theorem Rm_C {s : Int → Int} {W x : Int} : Rm s w v n n W x ↔ ∃ c, isC s n c ∧ ew w n n c = W ∧ ew v n n c = x := ⟨fun ⟨c, a, b, d, e, g⟩ => ⟨c, ⟨a, b, d⟩, e, g⟩, fun ⟨c, ⟨a, b, d⟩, e, g⟩ => ⟨c, a, b, d, e, g⟩⟩
/-- the least weight with the greatest entry -/
def bw_ (g : Int → Int) (L r : Int) : Prop := (0 ≤ r ∧ r ≤ L) ∧ (∀ W : Int, 0 ≤ W → W ≤ L → g W ≤ g r) ∧ ∀ W : Int, 0 ≤ W → W < r → g W < g r
theorem ok_X0_bestWeight (hL : 0 ≤ L ∧ L ≤ 60) (eL : σ 10 0 = L) (hg : ∀ W : Int, 0 ≤ W → W ≤ 280 → gR (σ 4 W)) {post : Int → gS → Prop} (h : ∀ r : Int, bw_ (σ 4) L r → post r σ) : Ok_X0_bestWeight σ post := by
  intro Z4 r4
  have loop : ∀ (t : Nat) (k r : Int), k + t = L + 1 → (0 ≤ r ∧ r < k) → (∀ W : Int, 0 ≤ W → W < k → σ 4 W ≤ σ 4 r) → (∀ W : Int, 0 ≤ W → W < r → σ 4 W < σ 4 r) → Z4 r k σ := by
    intro t
    induction t with
    | zero =>
      intro k r hk hr h1 h2
      refine r4 _ _ _ ⟨by omega, by rw [eL]; omega, fun _ => h r ⟨by omega, fun W g0 g1 => h1 W g0 (by omega), h2⟩, fun g => absurd g (by rw [eL]; omega)⟩
    | succ t ih =>
      intro k r hk hr h1 h2
      refine r4 _ _ _ ⟨by omega, by rw [eL]; omega, fun g => absurd g (by rw [eL]; omega), fun _ => ⟨by omega, by omega, hg k (by omega) (by omega), hg r (by omega) (by omega), fun g => ?_, fun g => ?_⟩⟩
      · refine ih (k + 1) r (by omega) (by omega) (fun W g0 g1 => ?_) h2
        by_cases hW : W = k
        · subst hW; exact g
        · exact h1 W g0 (by omega)
      · refine ih (k + 1) k (by omega) (by omega) (fun W g0 g1 => ?_) (fun W g0 g1 => ?_)
        · by_cases hW : W = k
          · subst hW; exact Int.le_refl _
          · have := h1 W g0 (by omega); omega
        · have := h1 W g0 g1; omega
  exact loop L.toNat 1 0 (by omega) (by omega) (fun W g0 g1 => by rw [show W = 0 by omega]; exact Int.le_refl _) (fun W g0 g1 => absurd g1 (by omega))
theorem row_R (hN : gN n w v s) {τ : gS} (h : row s w v n n τ) {W : Int} (h0 : 0 ≤ W) (h1 : W ≤ 280) : τ 4 W = -100000 ∨ (0 ≤ τ 4 W ∧ τ 4 W ≤ 700) := mx_bd (row_n h h0 h1).1 (fun x hx => Rm_bd hN (Nat.le_refl n) hx)
/-- the greatest value of those with Pr -/
def bvR (n : Nat) (v : Int → Int) (Pr : Int → Prop) (x : Int) : Prop := (∃ c, Pr c ∧ ew v n n c = x) ∧ ∀ c, Pr c → ew v n n c ≤ x
theorem bvR_u {Pr Pr' : Int → Prop} {x x' : Int} (e : ∀ c, Pr c ↔ Pr' c) (h : bvR n v Pr x) (h' : bvR n v Pr' x') : x = x' := by
  obtain ⟨⟨c, hc, ec⟩, hm⟩ := h
  obtain ⟨⟨c', hc', ec'⟩, hm'⟩ := h'
  have h1 := hm c' ((e c').mpr hc')
  have h2 := hm' c ((e c).mp hc)
  omega
theorem sOK_bv {Pr : Int → Prop} {r : Int} (h : sOK n w v Pr r) : bvR n v Pr (ew v n n r) := ⟨⟨r, h.1, rfl⟩, fun c hc => by have := h.2 c hc; unfold bt at this; omega⟩
/-- what the table's best weight says of codes -/
theorem bw_bv (hN : gN n w v s) (hL : 0 ≤ L ∧ L ≤ 60) {τ : gS} (h : row s w v n n τ) {r : Int} (hr : bw_ (τ 4) L r) : 0 ≤ τ 4 r ∧ bvR n v (fun c => isC s n c ∧ ew w n n c ≤ L) (τ 4 r) ∧ (∃ c, isC s n c ∧ ew w n n c = r ∧ ew v n n c = τ 4 r) ∧ ∀ c, isC s n c → ew w n n c ≤ L → ew v n n c = τ 4 r → r ≤ ew w n n c := by
  obtain ⟨hr0, hr1, hr2⟩ := hr
  have h00 := isC_0 (s := s) (n := n) (fun k a b => (hN.2 k a b).2.2.1)
  have t0 := mx_le (row_n h (Int.le_refl 0) (by omega)).1 (Rm_C.mpr ⟨0, h00, ew_0 w n n, ew_0 v n n⟩)
  have h1 := hr1 0 (Int.le_refl 0) (by omega)
  have hp : 0 ≤ τ 4 r := by omega
  have hs := mx_ps (row_n h hr0.1 (by omega)).1 hp
  obtain ⟨c, hc, ecw, ecv⟩ := Rm_C.mp hs.1
  refine ⟨hp, ⟨⟨c, ⟨hc, by omega⟩, ecv⟩, fun d hd => ?_⟩, ⟨c, hc, ecw, ecv⟩, fun d hd hdL hdv => ?_⟩
  · have hw := gN_w hN (Nat.le_refl n) hd.1.1 hd.1.2.1
    have h2 := mx_le (row_n h hw.1 hw.2).1 (Rm_C.mpr ⟨d, hd.1, rfl, rfl⟩)
    have h3 := hr1 _ hw.1 hd.2
    omega
  · have hw := gN_w hN (Nat.le_refl n) hd.1 hd.2.1
    have h2 := mx_le (row_n h hw.1 hw.2).1 (Rm_C.mpr ⟨d, hd, rfl, rfl⟩)
    by_cases hlt : ew w n n d < r
    · have h3 := hr2 _ hw.1 hlt
      omega
    · omega
theorem ok_X0_best (hD : gD n w v s f L) (hI : xI n w v s f L σ) {post : Int → gS → Prop} (h : ∀ (x : Int) (τ : gS), xK σ τ → bvR n v (fun c => isC s n c ∧ ew w n n c ≤ L) x → post x τ) : Ok_X0_best σ post := by
  have hN := gN_so hD.N (-1)
  have hL := hD.2.1
  refine ok_X0_fill hD hI (by decide) (fun τ hf hr => ?_)
  have hk := fill_K hf
  refine ok_X0_bestWeight hL (hk.I hI).2.1 (fun W g0 g1 => by have := row_R hN (hr n (Nat.le_refl n)) g0 g1; omega) (fun r hb => ⟨by have := hb.1; omega, ?_⟩)
  obtain ⟨-, hbv, -⟩ := bw_bv hN hL (hr n (Nat.le_refl n)) hb
  refine h _ τ hk ⟨?_, fun c hc => hbv.2 c ⟨isC_m1.mpr hc.1, hc.2⟩⟩
  obtain ⟨c, hc, e⟩ := hbv.1
  exact ⟨c, ⟨isC_m1.mp hc.1, hc.2⟩, e⟩
theorem ok_X0_without (hD : gD n w v s f L) (hI : xI n w v s f L σ) {i : Int} (hi : gR i) {post : Int → gS → Prop} (h : (0 ≤ i ∧ i < n) → ∀ (x : Int) (τ : gS), xK σ τ → bvR n v (fun c => isC (so s i) n c ∧ ew w n n c ≤ L) x → post x τ) (h0 : ¬ (0 ≤ i ∧ i < n) → post (-1) σ) : Ok_X0_without i σ post := by
  have hN := gN_so hD.N i
  have hL := hD.2.1
  refine ok_X0_isGood hD hI hi (fun g => ⟨by omega, fun _ => ?_, fun q => absurd q (by decide)⟩) (fun g => ⟨by omega, fun q => absurd rfl q, fun _ => h0 g⟩)
  refine ok_X0_fill hD hI hi (fun τ hf hr => ?_)
  have hk := fill_K hf
  refine ok_X0_bestWeight hL (hk.I hI).2.1 (fun W g0 g1 => by have := row_R hN (hr n (Nat.le_refl n)) g0 g1; omega) (fun r hb => ⟨by have := hb.1; omega, ?_⟩)
  obtain ⟨-, hbv, -⟩ := bw_bv hN hL (hr n (Nat.le_refl n)) hb
  exact h g _ τ hk hbv
/-- a good left out: its digit is 0 -/
theorem vd_out {i : Int} (hs : ∀ k : Int, 0 ≤ k → k < n → 0 ≤ s k) (hi : 0 ≤ i ∧ i < n) (c : Int) : ∀ m : Nat, m ≤ n → (vd (so s i) n m (c % p3 m) ↔ vd s n m (c % p3 m) ∧ ((n : Int) - 1 - i < m → sd n c i = 0)) := by
  intro m
  induction m with
  | zero => intro _; exact ⟨fun _ => ⟨trivial, fun q => absurd q (by omega)⟩, fun _ => trivial⟩
  | succ m ih =>
    intro hm
    rw [vd_step, vd_step, ih (by omega)]
    have h0 := hs ((n : Int) - 1 - m) (by omega) (by omega)
    by_cases hmi : (n : Int) - 1 - m = i
    · have e : so s i ((n : Int) - 1 - m) = 0 := by unfold so; rw [if_pos hmi]
      have e2 : sd n c i = c / p3 m % 3 := by
        unfold sd dgm
        rw [show ((n : Int) - 1 - i).toNat = m by omega]
      rw [e, e2]
      constructor
      · rintro ⟨q1, q2, q3⟩
        exact ⟨⟨by omega, q2⟩, fun _ => by omega⟩
      · rintro ⟨⟨q1, q2⟩, q3⟩
        have := q3 (by omega)
        exact ⟨by omega, q2, fun q => absurd q (by omega)⟩
    · have e : so s i ((n : Int) - 1 - m) = s ((n : Int) - 1 - m) := by unfold so; rw [if_neg hmi]
      rw [e]
      constructor
      · rintro ⟨q1, q2, q3⟩
        exact ⟨⟨q1, q2⟩, fun q => q3 (by omega)⟩
      · rintro ⟨⟨q1, q2⟩, q3⟩
        exact ⟨q1, q2, fun q => q3 (by omega)⟩
theorem isC_out {i : Int} (hs : ∀ k : Int, 0 ≤ k → k < n → 0 ≤ s k) (hi : 0 ≤ i ∧ i < n) (c : Int) : isC (so s i) n c ↔ isC s n c ∧ sd n c i = 0 := by
  have h := vd_out hs hi c n (Nat.le_refl n)
  unfold isC
  constructor
  · rintro ⟨a, b, d⟩
    rw [Int.emod_eq_of_lt a b] at h
    exact ⟨⟨a, b, (h.mp d).1⟩, (h.mp d).2 (by omega)⟩
  · rintro ⟨⟨a, b, d⟩, e⟩
    rw [Int.emod_eq_of_lt a b] at h
    exact ⟨a, b, h.mpr ⟨d, fun _ => e⟩⟩
/-! counting queries -/
theorem ok_X0_weighing (hD : gD n w v s f L) (hI : xI n w v s f L σ) {a : Int} (ha : gR a) {post : Int → gS → Prop} (h : (0 ≤ a ∧ a ≤ 300) → ∀ τ : gS, xK σ τ → post (nw s w n n a) τ) (h0 : ¬ (0 ≤ a ∧ a ≤ 300) → post (-1) σ) : Ok_X0_weighing a σ post := by
  refine ⟨ha, fun g => h0 (by omega), fun g => ⟨fun g2 => ok_X0_fill hD hI (by decide) (fun τ hf hr => ⟨fun g3 => ?_, fun g3 => ⟨by omega, ?_⟩⟩), fun g2 => h0 (by omega)⟩⟩
  · have e : nw s w n n a = 0 := cn_0 _ (fun c q0 q1 q => by
      rw [← p3_nat] at q1
      have := gN_w hD.N (Nat.le_refl n) q0 q1
      omega)
    have := h ⟨g, g2⟩ τ (fill_K hf)
    rw [e] at this
    exact this
  · rw [(row_n (hr n (Nat.le_refl n)) g g3).2, nw_m1]
    exact h ⟨g, g2⟩ τ (fill_K hf)
theorem ok_X0_fitting (hD : gD n w v s f L) (hI : xI n w v s f L σ) {post : Int → gS → Prop} (h : ∀ τ : gS, xK σ τ → post (cn (fun c => vd s n n c ∧ ew w n n c ≤ L) (3 ^ n)) τ) : Ok_X0_fitting σ post := by
  have hL := hD.2.1
  intro Z9 r9
  refine ok_X0_fill hD hI (by decide) (fun τ hf hr => ?_)
  have hk := fill_K hf
  have eL := (hk.I hI).2.1
  have loop : ∀ (t : Nat) (k : Int), 0 ≤ k → k + t = L + 1 → Z9 (cn (fun c => vd s n n c ∧ ew w n n c ≤ k - 1) (3 ^ n)) k τ := by
    intro t
    induction t with
    | zero =>
      intro k h0 hk1
      refine r9 _ _ _ ⟨by omega, by rw [eL]; omega, fun _ => ?_, fun g => absurd g (by rw [eL]; omega)⟩
      rw [show k - 1 = L by omega]
      exact h τ hk
    | succ t ih =>
      intro k h0 hk1
      refine r9 _ _ _ ⟨by omega, by rw [eL]; omega, fun g => absurd g (by rw [eL]; omega), fun _ => ⟨by omega, ?_⟩⟩
      intro q hq
      rw [(row_n (hr n (Nat.le_refl n)) h0 (by omega)).2, nw_m1] at hq
      have e : q = cn (fun c => vd s n n c ∧ ew w n n c ≤ (k + 1) - 1) (3 ^ n) := by
        rw [hq]
        unfold nw
        rw [← cn_or (P := fun c => vd s n n c ∧ ew w n n c ≤ k - 1) (Q := fun c => vd s n n c ∧ ew w n n c = k) (3 ^ n) (fun c z => by have := z.1.2; have := z.2.2; omega)]
        refine cn_cg _ (fun c _ _ => ?_)
        constructor
        · rintro (⟨z1, z2⟩ | ⟨z1, z2⟩)
          · exact ⟨z1, by omega⟩
          · exact ⟨z1, by omega⟩
        · rintro ⟨z1, z2⟩
          by_cases hz : ew w n n c = k
          · exact Or.inr ⟨z1, hz⟩
          · exact Or.inl ⟨z1, by omega⟩
      rw [e]
      exact ih (k + 1) (by omega) (by omega)
  have h9 := loop (L + 1).toNat 0 (Int.le_refl 0) (by omega)
  have e0 : cn (fun c => vd s n n c ∧ ew w n n c ≤ 0 - 1) (3 ^ n) = 0 := cn_0 _ (fun c q0 q1 q => by
    rw [← p3_nat] at q1
    have := gN_w hD.N (Nat.le_refl n) q0 q1
    have := q.2
    omega)
  rw [e0] at h9
  exact h9
theorem nw_pos {s w : Int → Int} {W : Int} : 0 < nw s w n n W ↔ ∃ c, isC s n c ∧ ew w n n c = W := by
  unfold nw
  rw [cn_pos]
  constructor
  · rintro ⟨c, a, b, d, e⟩
    rw [← p3_nat] at b
    exact ⟨c, ⟨a, b, d⟩, e⟩
  · rintro ⟨c, ⟨a, b, d⟩, e⟩
    rw [p3_nat] at b
    exact ⟨c, a, b, d, e⟩
theorem ok_X0_fullest (hD : gD n w v s f L) (hI : xI n w v s f L σ) {post : Int → gS → Prop} (h : ∀ (r : Int) (τ : gS), xK σ τ → fuR n w s L r → post r τ) : Ok_X0_fullest σ post := by
  have hL := hD.2.1
  intro Z10 r10
  refine ok_X0_fill hD hI (by decide) (fun τ hf hr => ?_)
  have hk := fill_K hf
  have eL := (hk.I hI).2.1
  intro q hq
  rw [eL] at hq
  subst hq
  have hc : ∀ W : Int, 0 ≤ W → W ≤ 280 → τ 5 W = nw s w n n W := fun W g0 g1 => by rw [(row_n (hr n (Nat.le_refl n)) g0 g1).2, nw_m1]
  have loop : ∀ (t : Nat), (t : Int) ≤ q → (∀ c, isC s n c → ew w n n c ≤ q → ew w n n c ≤ t) → Z10 (t : Int) τ := by
    intro t
    induction t with
    | zero =>
      intro ht hm
      refine r10 _ _ ⟨by omega, fun _ => ?_, fun g => absurd g (by omega)⟩
      exact h _ τ hk ⟨⟨0, isC_0 hD.s0, ew_0 w n n⟩, ht, hm⟩
    | succ t ih =>
      intro ht hm
      have hb := nw_bd s w n (m := n) hD.1 ((t + 1 : Nat) : Int)
      refine r10 _ _ ⟨by omega, fun g => absurd g (by omega), fun _ => ⟨by omega, ?_⟩⟩
      rw [hc _ (by omega) (by omega)]
      refine ⟨by omega, fun g => ?_, fun g => ?_⟩
      · exact h _ τ hk ⟨nw_pos.mp (by omega), ht, hm⟩
      · rw [show ((t + 1 : Nat) : Int) + (-1) = (t : Int) by omega]
        refine ih (by omega) (fun c hc2 hcL => ?_)
        have h1 := hm c hc2 hcL
        by_cases he : ew w n n c = ((t + 1 : Nat) : Int)
        · have := nw_pos.mpr ⟨c, hc2, he⟩
          omega
        · omega
  have h9 := loop q.toNat (by omega) (fun c _ hcL => by omega)
  rw [show ((q.toNat : Nat) : Int) = q by omega] at h9
  exact h9
theorem ok_X0_lightest (hD : gD n w v s f L) (hI : xI n w v s f L σ) {a : Int} (ha : gR a) {post : Int → gS → Prop} (h : ∀ (r : Int) (τ : gS), xK σ τ → liR n w v s a r → post r τ) : Ok_X0_lightest a σ post := by
  have hN := gN_so hD.N (-1)
  intro Z7 r7
  refine ok_X0_fill hD hI (by decide) (fun τ hf hr => ?_)
  have hk := fill_K hf
  have hrn := hr n (Nat.le_refl n)
  have loop : ∀ (t : Nat) (k : Int), 0 ≤ k → k + t = 281 → (∀ c, isC s n c → a ≤ ew v n n c → k ≤ ew w n n c) → Z7 k τ := by
    intro t
    induction t with
    | zero =>
      intro k h0 hk1 hm
      refine r7 _ _ ⟨by omega, fun _ => ?_, fun g => absurd g (by omega)⟩
      refine h _ τ hk (Or.inl ⟨rfl, fun c hc => ?_⟩)
      have hw := hD.W hc
      by_cases hca : a ≤ ew v n n c
      · have := hm c hc hca; omega
      · omega
    | succ t ih =>
      intro k h0 hk1 hm
      have hb := row_R hN hrn h0 (by omega : k ≤ 280)
      have hx := (row_n hrn h0 (by omega : k ≤ 280)).1
      have skip : (τ 4 k < 0 ∨ τ 4 k < a) → Z7 (k + 1) τ := by
        intro hs
        refine ih (k + 1) (by omega) (by omega) (fun c hc hca => ?_)
        have h1 := hm c hc hca
        by_cases he : ew w n n c = k
        · have := mx_le hx (Rm_C.mpr ⟨c, isC_m1.mpr hc, he, rfl⟩)
          omega
        · omega
      refine r7 _ _ ⟨by omega, fun g => absurd g (by omega), fun _ => ⟨by omega, by omega, fun g => skip (Or.inl g), fun g => ⟨ha, fun g2 => skip (Or.inr g2), fun g2 => ?_⟩⟩⟩
      obtain ⟨c, hc, e1, e2⟩ := Rm_C.mp (mx_ps hx g).1
      exact h _ τ hk (Or.inr ⟨⟨c, isC_m1.mp hc, by omega, e1⟩, hm⟩)
  exact loop 281 0 (Int.le_refl 0) (by omega) (fun c hc _ => (hD.W hc).1)
theorem ok_X0_halves (hD : gD n w v s f L) (hI : xI n w v s f L σ) {post : Int → gS → Prop} (h : ∀ τ : gS, xK σ τ → post (haR n w s) τ) : Ok_X0_halves σ post := by
  have hn := hD.1
  have hb := al_bd hD n (Nat.le_refl n)
  intro Z4 r4
  have loop : ∀ (t k : Nat), k + t = n → Z4 (al s w k) (k : Int) σ := by
    intro t
    induction t with
    | zero =>
      intro k hk
      refine r4 _ _ _ ⟨by omega, by rw [hI.1]; omega, fun _ => ?_, fun g => absurd g (by rw [hI.1]; omega)⟩
      rw [show k = n by omega]
      refine ok_X0_fill hD hI (by decide) (fun τ hf hr => ?_)
      have hkk := fill_K hf
      refine ⟨by omega, by omega, fun g => ?_, fun g => ⟨by omega, ?_⟩⟩
      · have e : haR n w s = 0 := by unfold haR; rw [if_neg (fun q => g q.1)]
        have := h τ hkk
        rw [e] at this
        exact this
      · rw [(row_n (hr n (Nat.le_refl n)) (W := al s w n / 2) (by omega) (by omega)).2, nw_m1]
        have hc := nw_bd s w n (m := n) hn (al s w n / 2)
        refine ⟨by omega, fun g2 => ?_, fun g2 => ?_⟩
        · have e : haR n w s = 0 := by unfold haR; rw [if_neg (fun q => by have := q.2; omega)]
          have := h τ hkk
          rw [e] at this
          exact this
        · have e : haR n w s = 1 := by unfold haR; rw [if_pos ⟨g, g2⟩]
          have := h τ hkk
          rw [e] at this
          exact this
    | succ t ih =>
      intro k hk
      refine r4 _ _ _ ⟨by omega, by rw [hI.1]; omega, fun g => absurd g (by rw [hI.1]; omega), fun _ => ⟨by omega, ?_⟩⟩
      intro q hq
      obtain ⟨e1, e2, e3, e4⟩ := hI.2.2 (k : Int) (by omega) (by omega)
      rw [e3, e1] at hq
      rw [hq]
      exact ih (k + 1) (by omega)
  exact loop n 0 (by omega)
end
end
section
/-! PURE, 6: the first best code, read off the table -/
set_option maxRecDepth 100000
section
variable {n : Nat} {w v s f : Int → Int} {L : Int} {σ : gS}
theorem row_m1 {m : Nat} (hm : m ≤ n) {τ : gS} (h : row (so s (-1)) w v n m τ) : row s w v n m τ := by
  intro W h0 h1
  have hv : ∀ c, vd (so s (-1)) n m c ↔ vd s n m c := fun c => vd_so m c hm (fun k hk _ => so_m1 hk)
  obtain ⟨a, b⟩ := h W h0 h1
  refine ⟨mx_cg a (fun x => ?_), b.trans (cn_cg _ (fun c _ _ => by rw [hv]))⟩
  constructor
  · rintro ⟨c, q0, q1, q2, q3⟩
    exact ⟨c, q0, q1, (hv c).mp q2, q3⟩
  · rintro ⟨c, q0, q1, q2, q3⟩
    exact ⟨c, q0, q1, (hv c).mpr q2, q3⟩
theorem ok_X0_keeps (hN : gN n w v s) {m : Nat} (hm : m < n) {k d x1 x2 : Int} (hk : k = (n : Int) - 1 - m) (hd : 0 ≤ d ∧ d ≤ 2) (hx1 : 0 ≤ x1 ∧ x1 ≤ 280) (hx2 : 0 ≤ x2 ∧ x2 ≤ 700) (e0 : σ 0 k = w k) (e1 : σ 1 k = v k) (hrow : row s w v n m σ) (hmax : ∀ y : Int, Rm s w v n m (x1 - d * w k) y → y ≤ x2 - d * v k) {post : Int → gS → Prop} (h1 : Rm s w v n m (x1 - d * w k) (x2 - d * v k) → post 1 σ) (h0 : ¬ Rm s w v n m (x1 - d * w k) (x2 - d * v k) → post 0 σ) : Ok_X0_keeps k d x1 x2 σ post := by
  have hn := hN.1
  obtain ⟨bw, bv, bs⟩ := hN.2 k (by omega) (by omega)
  have hdw := mul_bd (d := d) (w := w k) (B := 20) hd.1 hd.2 (by omega)
  have hdv := mul_bd (d := d) (w := v k) (B := 50) hd.1 hd.2 bv
  refine ⟨by omega, ?_⟩
  intro q hq
  rw [e0] at hq
  rw [e1]
  refine ⟨by omega, fun g => h0 (fun hr => ?_), fun g => ⟨by omega, ?_⟩⟩
  · obtain ⟨c, a, b, _, e, _⟩ := hr
    have := gN_w hN (m := m) (by omega) a b
    omega
  · have hr := (hrow q g (by omega)).1
    rw [show 281 * ((n : Int) - m) + q = 281 * (k + 1) + q by omega] at hr
    have hb := mx_bd hr (fun x hx => Rm_bd hN (by omega) hx)
    rw [← hq] at hmax h1 h0
    refine ⟨by omega, by omega, fun g2 => h0 (fun hR => ?_), fun g2 => h1 ?_⟩
    · have h3 := mx_le hr hR
      have h4 := hmax _ (mx_ps hr h3.1).1
      omega
    · rw [← g2]
      exact (mx_ps hr (by omega)).1
theorem ok_X0_bestCode (hD : gD n w v s f L) (hI : xI n w v s f L σ) {post : Int → gS → Prop} (h : ∀ (r : Int) (τ : gS), xK σ τ → sOK n w v (sPr n w s f L 0 (-1)) r → post r τ) : Ok_X0_bestCode σ post := by
  have hN := hD.N
  have hN1 := gN_so hD.N (-1)
  have hn := hD.1
  have hL := hD.2.1
  intro Z22 Z34 Z65 r22 r34 r65
  refine ok_X0_fill hD hI (by decide) (fun τ hf hr0 => ?_)
  have hkK := fill_K hf
  have hI2 := hkK.I hI
  have hr : ∀ m : Nat, m ≤ n → row s w v n m τ := fun m hm => row_m1 hm (hr0 m hm)
  refine ok_X0_bestWeight hL hI2.2.1 (fun W g0 g1 => by have := row_R hN1 (hr0 n (Nat.le_refl n)) g0 g1; omega) (fun W0 hb => ⟨by have := hb.1; omega, ?_⟩)
  obtain ⟨hV0, hbv, hex, hleast⟩ := bw_bv hN hL (hr n (Nat.le_refl n)) hb
  have hW0 := hb.1
  intro V0 eV
  rw [← eV] at hV0 hbv hex hleast
  -- what holds before good k = n - m
  have loop : ∀ (m k : Nat), k + m = n → ∀ x1 x2 P : Int, 0 ≤ P →
      (∀ c : Int, 0 ≤ c → c < p3 m → vd s n m c → isC s n (P * p3 m + c) ∧ ew w n n (P * p3 m + c) = W0 - x1 + ew w n m c ∧ ew v n n (P * p3 m + c) = V0 - x2 + ew v n m c) →
      Rm s w v n m x1 x2 → (∀ c : Int, isC s n c → ew w n n c = W0 → ew v n n c = V0 → P ≤ c / p3 m) → Z22 x1 x2 P (k : Int) τ := by
    intro m
    induction m with
    | zero =>
      intro k hk x1 x2 P hP i2 i3 i4
      refine r22 _ _ _ _ _ ⟨by omega, by rw [hI2.1]; omega, fun _ => ?_, fun g => absurd g (by rw [hI2.1]; omega)⟩
      obtain ⟨a1, a2⟩ := Rm_0.mp i3
      have hz := i2 0 (Int.le_refl 0) (by decide) trivial
      have e0 : P * p3 0 + 0 = P := by show P * 1 + 0 = P; omega
      rw [e0] at hz
      obtain ⟨z1, z2, z3⟩ := hz
      have y1 : ew w n n P = W0 := by rw [z2, a1]; show W0 - 0 + 0 = W0; omega
      have y2 : ew v n n P = V0 := by rw [z3, a2]; show V0 - 0 + 0 = V0; omega
      refine h P τ hkK ⟨⟨z1, by omega, fun q => absurd rfl q, fun q => absurd q (by decide)⟩, fun c hc => ?_⟩
      have h1 := hbv.2 c ⟨hc.1, hc.2.1⟩
      unfold bt
      rw [y1, y2]
      by_cases hv : ew v n n c = V0
      · have h2 := hleast c hc.1 hc.2.1 hv
        by_cases hw : ew w n n c = W0
        · have h3 := i4 c hc.1 hw hv
          have e1 : c / p3 0 = c := Int.ediv_one c
          omega
        · omega
      · omega
    | succ m ih =>
      intro k hk x1 x2 P hP i2 i3 i4
      have hkm : (n : Int) - 1 - m = (k : Int) := by omega
      obtain ⟨bw, bv, bs⟩ := hN.2 (k : Int) (by omega) (by omega)
      have bs1 := (hD.2.2 (k : Int) (by omega) (by omega)).2.2.1
      obtain ⟨t0, t1, t2, t3⟩ := hI2.2.2 (k : Int) (by omega) (by omega)
      have hx : (0 ≤ x1 ∧ x1 ≤ 280) ∧ (0 ≤ x2 ∧ x2 ≤ 700) := by
        obtain ⟨c, a, b, _, e1, e2⟩ := i3
        have h1 := gN_w hN (m := m + 1) (by omega) a b
        have h2 := gN_v hN (m := m + 1) (by omega) a b
        omega
      have all : Rp s w v n m (s k + 1) x1 x2 := (Rp_end hN (m := m) (by omega) (by omega) (by rw [hkm]; omega) (Or.inl (by rw [hkm]; omega))).mpr i3
      have low : ∀ d : Int, 0 ≤ d → d ≤ s k → d * p3 m < p3 (m + 1) ∧ ∀ c : Int, 0 ≤ c → c < p3 m → 0 ≤ d * p3 m + c ∧ d * p3 m + c < p3 (m + 1) := by
        intro d h0 h1
        have hp := p3_pos m
        rw [p3_s]
        rcases (show d = 0 ∨ d = 1 ∨ d = 2 by omega) with rfl | rfl | rfl <;> exact ⟨by omega, fun c q0 q1 => by omega⟩
      have ass : ∀ d c : Int, (3 * P + d) * p3 m + c = P * p3 (m + 1) + (d * p3 m + c) := by
        intro d c
        rw [p3_s]
        grind
      have hmax : ∀ d : Int, 0 ≤ d → d ≤ s k → ∀ y : Int, Rm s w v n m (x1 - d * w k) y → y ≤ x2 - d * v k := by
        rintro d h0 h1 y ⟨c, a, b, q, e1, e2⟩
        obtain ⟨z1, z2, z3⟩ := i2 (d * p3 m + c) ((low d h0 h1).2 c a b).1 ((low d h0 h1).2 c a b).2 ((vd_mk rfl a b).mpr ⟨by rw [hkm]; exact h1, q⟩)
        rw [ew_mk rfl a b, hkm] at z2 z3
        have := hbv.2 _ ⟨z1, by omega⟩
        omega
      have h65 : ∀ d : Int, 0 ≤ d → d ≤ s k → ¬ Rp s w v n m d x1 x2 → Rm s w v n m (x1 - d * w k) (x2 - d * v k) → Z65 x1 x2 P (k : Int) d τ := by
        intro d h0 h1 hno hyes
        refine r65 _ _ _ _ _ _ ?_
        intro q1 hq1
        refine ⟨by omega, ?_⟩
        intro q2 hq2 q3 hq3
        rw [t0] at hq2
        rw [t1] at hq3
        rw [hq1, hq2, hq3]
        refine ih (k + 1) (by omega) _ _ (3 * P + d) (by omega) (fun c a b q => ?_) hyes (fun c hc hw hv => ?_)
        · obtain ⟨z1, z2, z3⟩ := i2 (d * p3 m + c) ((low d h0 h1).2 c a b).1 ((low d h0 h1).2 c a b).2 ((vd_mk rfl a b).mpr ⟨by rw [hkm]; exact h1, q⟩)
          rw [ew_mk rfl a b, hkm] at z2 z3
          rw [ass]
          exact ⟨z1, by omega, by omega⟩
        · have hz := d_step c m
          have hq := i4 c hc hw hv
          by_cases he : c / p3 (m + 1) = P
          · have hl := d_lo c (m + 1)
            have hlm := d_lo c m
            have hvd : vd s n (m + 1) (c % p3 (m + 1)) := vd_down (M := n) (by omega) (by rw [Int.emod_eq_of_lt hc.1 hc.2.1]; exact hc.2.2)
            obtain ⟨z1, z2, z3⟩ := i2 (c % p3 (m + 1)) hl.1 hl.2 hvd
            have ec : P * p3 (m + 1) + c % p3 (m + 1) = c := by
              have := d_eq c (m + 1)
              rw [he] at this
              exact this.symm
            rw [ec] at z2 z3
            rw [ew_step, hkm] at z2 z3
            have hv2 := (vd_step s n m c).mp hvd
            by_cases hlt : c / p3 m % 3 < d
            · exact absurd ⟨c / p3 m % 3, c % p3 m, ⟨by omega, hlt⟩, hlm.1, hlm.2, hv2.2, by rw [hkm]; omega, by rw [hkm]; omega⟩ hno
            · omega
          · omega
      have inner : ∀ (t : Nat) (d : Int), 0 ≤ d → d + t = s k → ¬ Rp s w v n m d x1 x2 → Z34 x1 x2 P (k : Int) d τ := by
        intro t
        induction t with
        | zero =>
          intro d h0 h1 hno
          refine r34 _ _ _ _ _ _ ⟨by omega, by omega, by rw [t2]; omega, fun _ => ?_, fun g => absurd g (by rw [t2]; omega)⟩
          refine h65 d h0 (by omega) hno ?_
          rw [show s k + 1 = d + 1 by omega, Rp_s h0, hkm] at all
          exact all.elim (fun q => absurd q hno) id
        | succ t ih2 =>
          intro d h0 h1 hno
          refine r34 _ _ _ _ _ _ ⟨by omega, by omega, by rw [t2]; omega, fun g => absurd g (by rw [t2]; omega), fun _ => ?_⟩
          refine ok_X0_keeps hN (m := m) (by omega) hkm.symm ⟨h0, by omega⟩ hx.1 hx.2 t0 t1 (hr m (by omega)) (hmax d h0 (by omega)) (fun hy => ⟨by omega, fun _ => h65 d h0 (by omega) hno hy, fun g => absurd g (by decide)⟩) (fun hy => ⟨by omega, fun g => absurd rfl g, fun _ => ?_⟩)
          refine ih2 (d + 1) (by omega) (by omega) (fun hR => ?_)
          rw [Rp_s h0, hkm] at hR
          exact hR.elim hno hy
      refine r22 _ _ _ _ _ ⟨by omega, by rw [hI2.1]; omega, fun g => absurd g (by rw [hI2.1]; omega), fun _ => ?_⟩
      exact inner (s k).toNat 0 (Int.le_refl 0) (by omega) Rp_0
  refine loop n 0 (by omega) W0 V0 0 (Int.le_refl 0) (fun c a b q => ?_) (Rm_C.mpr hex) (fun c hc _ _ => Int.ediv_nonneg hc.1 (Int.le_of_lt (p3_pos n)))
  rw [show 0 * p3 n + c = c by omega]
  exact ⟨⟨a, b, q⟩, by omega, by omega⟩
end
end
section
/-! PURE, 7: strict choices: digits, sums, the table over families -/
set_option maxRecDepth 100000
def sm (w p : Int → Int) : Nat → Int
  | 0 => 0
  | k + 1 => sm w p k + p k * w k
def pu (p : Int → Int) (a x : Int) : Int → Int := fun i => if i = a then x else p i
theorem pu_e (p : Int → Int) (a x : Int) : pu p a x a = x := by unfold pu; rw [if_pos rfl]
theorem pu_n {p : Int → Int} {a x i : Int} (h : i ≠ a) : pu p a x i = p i := by unfold pu; rw [if_neg h]
theorem sm_s (w p : Int → Int) (k : Nat) : sm w p (k + 1) = sm w p k + p k * w k := rfl
theorem sm_cg {w p q : Int → Int} : ∀ k : Nat, (∀ i : Int, 0 ≤ i → i < k → p i = q i) → sm w p k = sm w q k := by
  intro k
  induction k with
  | zero => intro _; rfl
  | succ k ih =>
    intro h
    rw [sm_s, sm_s, ih (fun i a b => h i a (by omega)), h (k : Int) (by omega) (by omega)]
theorem sm_up {w p : Int → Int} {a x : Int} (h0 : 0 ≤ a) : ∀ k : Nat, a < k → sm w (pu p a x) k = sm w p k + (x - p a) * w a := by
  intro k
  induction k with
  | zero => intro h; omega
  | succ k ih =>
    intro h
    rw [sm_s, sm_s]
    by_cases hk : a = (k : Int)
    · rw [← hk, pu_e, sm_cg (q := p) k (fun i _ b => pu_n (by omega)), Int.sub_mul]
      omega
    · rw [ih (by omega), pu_n (fun q => hk q.symm)]
      omega
theorem sm_z {w p : Int → Int} : ∀ k : Nat, (∀ i : Int, 0 ≤ i → i < k → p i = 0) → sm w p k = 0 := by
  intro k
  induction k with
  | zero => intro _; rfl
  | succ k ih =>
    intro h
    rw [sm_s, ih (fun i a b => h i a (by omega)), h (k : Int) (by omega) (by omega)]
    omega
theorem sm_bd {w p : Int → Int} {B : Int} : ∀ k : Nat, (∀ i : Int, 0 ≤ i → i < k → (0 ≤ p i ∧ p i ≤ 2) ∧ (0 ≤ w i ∧ w i ≤ B)) → 0 ≤ sm w p k ∧ sm w p k ≤ 2 * B * k := by
  intro k
  induction k with
  | zero => intro _; exact ⟨Int.le_refl 0, by show (0 : Int) ≤ _; omega⟩
  | succ k ih =>
    intro h
    have h1 := ih (fun i a b => h i a (by omega))
    obtain ⟨h2, h3⟩ := h (k : Int) (by omega) (by omega)
    have h4 := mul_bd h2.1 h2.2 h3
    have h5 : 2 * B * ((k + 1 : Nat) : Int) = 2 * B * (k : Int) + 2 * B := by
      rw [Int.natCast_add, Int.mul_add]
      simp
    rw [sm_s, h5]
    omega
section
variable {n : Nat} {w v s f : Int → Int} {L : Int} {σ : gS}
theorem dgm_mod (c : Int) {j : Nat} : ∀ m : Nat, j < m → dgm (c % p3 m) j = dgm c j := by
  intro m
  induction m generalizing c with
  | zero => intro h; omega
  | succ m ih =>
    intro h
    by_cases hj : j = m
    · subst hj
      unfold dgm
      rw [(m_dm c j).1]
      omega
    · rw [← ih (c % p3 (m + 1)) (by omega), (m_dm c m).2, ih c (by omega)]
theorem vd_dg {c : Int} : ∀ m : Nat, vd s n m (c % p3 m) ↔ ∀ j : Nat, j < m → dgm c j ≤ s ((n : Int) - 1 - j) := by
  intro m
  induction m with
  | zero => exact ⟨fun _ j hj => absurd hj (by omega), fun _ => trivial⟩
  | succ m ih =>
    rw [vd_step, ih]
    constructor
    · rintro ⟨a, b⟩ j hj
      by_cases hm : j = m
      · rw [hm]; exact a
      · exact b j (by omega)
    · intro h
      exact ⟨h m (by omega), fun j hj => h j (by omega)⟩
theorem isC_dg {c : Int} (h0 : 0 ≤ c) (h1 : c < p3 n) : isC s n c ↔ ∀ i : Int, 0 ≤ i → i < n → sd n c i ≤ s i := by
  have hv := vd_dg (n := n) (s := s) (c := c) n
  rw [Int.emod_eq_of_lt h0 h1] at hv
  unfold isC
  rw [hv]
  constructor
  · rintro ⟨_, _, h⟩ i a b
    have := h ((n : Int) - 1 - i).toNat (by omega)
    rw [show (n : Int) - 1 - (((n : Int) - 1 - i).toNat : Nat) = i by omega] at this
    exact this
  · intro h
    refine ⟨h0, h1, fun j hj => ?_⟩
    have := h ((n : Int) - 1 - j) (by omega) (by omega)
    unfold sd at this
    rw [show ((n : Int) - 1 - ((n : Int) - 1 - (j : Int))).toNat = j by omega] at this
    exact this
theorem ew_sm {c : Int} (h0 : 0 ≤ c) (h1 : c < p3 n) : ew w n n c = sm w (sd n c) n := by
  have key : ∀ m : Nat, m ≤ n → ew w n m (c % p3 m) + sm w (sd n c) (n - m) = sm w (sd n c) n := by
    intro m
    induction m with
    | zero => intro _; show 0 + sm w (sd n c) (n - 0) = _; rw [Nat.sub_zero]; omega
    | succ m ih =>
      intro hm
      have h2 := ih (by omega)
      rw [show n - m = (n - (m + 1)) + 1 by omega, sm_s] at h2
      rw [ew_step]
      have e1 : ((n - (m + 1) : Nat) : Int) = (n : Int) - 1 - m := by omega
      have e2 : sd n c ((n : Int) - 1 - m) = c / p3 m % 3 := by
        unfold sd dgm
        rw [show ((n : Int) - 1 - ((n : Int) - 1 - (m : Int))).toNat = m by omega]
      rw [e1, e2] at h2
      omega
  have := key n (Nat.le_refl n)
  rw [Int.emod_eq_of_lt h0 h1, Nat.sub_self] at this
  have e : sm w (sd n c) 0 = 0 := rfl
  omega
theorem code_of {p : Int → Int} (hp : ∀ i : Int, 0 ≤ i → i < n → 0 ≤ p i ∧ p i ≤ 2) : ∃ c : Int, 0 ≤ c ∧ c < p3 n ∧ ∀ i : Int, 0 ≤ i → i < n → sd n c i = p i := by
  have key : ∀ m : Nat, m ≤ n → ∃ c : Int, 0 ≤ c ∧ c < p3 m ∧ ∀ j : Nat, j < m → dgm c j = p ((n : Int) - 1 - j) := by
    intro m
    induction m with
    | zero => intro _; exact ⟨0, Int.le_refl 0, by decide, fun j hj => absurd hj (by omega)⟩
    | succ m ih =>
      intro hm
      obtain ⟨c, h0, h1, h2⟩ := ih (by omega)
      obtain ⟨b0, b1⟩ := hp ((n : Int) - 1 - m) (by omega) (by omega)
      generalize p ((n : Int) - 1 - m) = d at b0 b1
      obtain ⟨e1, e2⟩ := d_mk (c := p ((n : Int) - 1 - m) * p3 m + c) m rfl h0 h1
      refine ⟨p ((n : Int) - 1 - m) * p3 m + c, ?_, ?_, fun j hj => ?_⟩
      · obtain ⟨b0, b1⟩ := hp ((n : Int) - 1 - m) (by omega) (by omega)
        have := p3_pos m
        rcases (show p ((n : Int) - 1 - m) = 0 ∨ p ((n : Int) - 1 - m) = 1 ∨ p ((n : Int) - 1 - m) = 2 by omega) with e | e | e <;> rw [e] <;> omega
      · obtain ⟨b0, b1⟩ := hp ((n : Int) - 1 - m) (by omega) (by omega)
        have := p3_pos m
        rw [p3_s]
        rcases (show p ((n : Int) - 1 - m) = 0 ∨ p ((n : Int) - 1 - m) = 1 ∨ p ((n : Int) - 1 - m) = 2 by omega) with e | e | e <;> rw [e] <;> omega
      · by_cases hjm : j = m
        · subst hjm
          unfold dgm
          rw [e1]
          have := hp ((n : Int) - 1 - j) (by omega) (by omega)
          omega
        · rw [← dgm_mod _ m (by omega), e2]
          exact h2 j (by omega)
  obtain ⟨c, h0, h1, h2⟩ := key n (Nat.le_refl n)
  refine ⟨c, h0, h1, fun i a b => ?_⟩
  have := h2 ((n : Int) - 1 - i).toNat (by omega)
  rw [show (n : Int) - 1 - (((n : Int) - 1 - i).toNat : Nat) = i by omega] at this
  exact this
/-- digits of a strict choice of the families from g on, with the fixed pieces F -/
def stA (n : Nat) (s f F : Int → Int) (g : Int) (p : Int → Int) : Prop := (∀ i : Int, 0 ≤ i → i < n → (0 ≤ p i ∧ p i ≤ s i) ∧ (f i < g → p i = 0) ∧ (g ≤ f i → 0 ≤ F i → p i = F i)) ∧ stp n f p
def Sg (n : Nat) (w v s f F : Int → Int) (g W x : Int) : Prop := ∃ p : Int → Int, stA n s f F g p ∧ sm w p n = W ∧ sm v p n = x
/-- one good k of family g with fewer than d pieces, one at least, and the families behind -/
def Wg (n : Nat) (w v s f F : Int → Int) (g k W d x : Int) : Prop := ∃ (e : Int) (p : Int → Int), (1 ≤ e ∧ e < d) ∧ (F k < 0 ∨ F k = e) ∧ stA n s f F (g + 1) p ∧ e * w k + sm w p n = W ∧ e * v k + sm v p n = x
theorem stA_w (hD : gD n w v s f L) {F p : Int → Int} {g : Int} (h : stA n s f F g p) : (0 ≤ sm w p n ∧ sm w p n ≤ 280) ∧ (0 ≤ sm v p n ∧ sm v p n ≤ 700) := by
  have hn := hD.1
  have h1 := sm_bd (w := w) (p := p) (B := 20) n (fun i a b => by
    have := hD.2.2 i a b
    have := (h.1 i a b).1
    omega)
  have h2 := sm_bd (w := v) (p := p) (B := 50) n (fun i a b => by
    have := hD.2.2 i a b
    have := (h.1 i a b).1
    omega)
  omega
theorem Wg_s {F : Int → Int} {g k W d x : Int} (hd : 1 ≤ d) : Wg n w v s f F g k W (d + 1) x ↔ Wg n w v s f F g k W d x ∨ ((F k < 0 ∨ F k = d) ∧ Sg n w v s f F (g + 1) (W - d * w k) (x - d * v k)) := by
  constructor
  · rintro ⟨e, p, he, hF, hp, e1, e2⟩
    by_cases hed : e = d
    · subst hed
      exact Or.inr ⟨hF, p, hp, by omega, by omega⟩
    · exact Or.inl ⟨e, p, by omega, hF, hp, e1, e2⟩
  · rintro (⟨e, p, he, hF, hp, e1, e2⟩ | ⟨hF, p, hp, e1, e2⟩)
    · exact ⟨e, p, by omega, hF, hp, e1, e2⟩
    · exact ⟨d, p, by omega, hF, hp, by omega, by omega⟩
theorem Wg_bd (hD : gD n w v s f L) {F : Int → Int} {g k W d x : Int} (hk : 0 ≤ k ∧ k < n) (hd : d ≤ 3) (h : Wg n w v s f F g k W d x) : x ≤ 800 := by
  obtain ⟨e, p, he, hF, hp, e1, e2⟩ := h
  have h1 := (stA_w hD hp).2
  have h2 := mul_bd (d := e) (by omega) (by omega) (hD.2.2 k hk.1 hk.2).2.1
  omega
theorem Sg_bd (hD : gD n w v s f L) {F : Int → Int} {g W x : Int} (h : Sg n w v s f F g W x) : x ≤ 700 := by
  obtain ⟨p, hp, e1, e2⟩ := h
  have := (stA_w hD hp).2
  omega
/-- the row of the families from g on -/
def tbS (n : Nat) (w v s f F : Int → Int) (g : Int) (τ : gS) : Prop := ∀ W : Int, 0 ≤ W → W ≤ 280 → mx (Sg n w v s f F g W) (τ 6 (281 * g + W))
theorem ok_X0_withGood (hD : gD n w v s f L) (hI : xI n w v s f L σ) {F : Int → Int} (hF : ∀ i : Int, 0 ≤ i → i < n → σ 7 i = F i ∧ -1 ≤ F i ∧ F i ≤ 2) {g k W : Int} (hg : 0 ≤ g ∧ g ≤ 3) (hk : 0 ≤ k ∧ k < n) (hW : 0 ≤ W ∧ W ≤ 280) (hrow : tbS n w v s f F (g + 1) σ) {post : Int → gS → Prop} (h : ∀ t : Int, mx (Wg n w v s f F g k W (s k + 1)) t → post t σ) : Ok_X0_withGood g k W σ post := by
  have hn := hD.1
  obtain ⟨bw, bv, bs, bf⟩ := hD.2.2 k hk.1 hk.2
  obtain ⟨e0, e1, e2, e3⟩ := hI.2.2 k hk.1 hk.2
  obtain ⟨eF, bF⟩ := hF k hk.1 hk.2
  intro Z7 Z43 r7 r43
  have loop : ∀ (t : Nat) (d best : Int), 1 ≤ d → d + t = s k + 1 → mx (Wg n w v s f F g k W d) best → Z7 best d σ := by
    intro t
    induction t with
    | zero =>
      intro d best hd hdt hb
      refine r7 _ _ _ ⟨by omega, by omega, by rw [e2]; omega, fun _ => ?_, fun q => absurd q (by rw [e2]; omega)⟩
      rw [show d = s k + 1 by omega] at hb
      exact h best hb
    | succ t ih =>
      intro d best hd hdt hb
      have hdw := mul_bd (d := d) (w := w k) (B := 20) (by omega) (by omega) (by omega)
      have hdv := mul_bd (d := d) (w := v k) (B := 50) (by omega) (by omega) bv
      have hbb := mx_bd hb (fun x hx => Wg_bd hD hk (by omega) hx)
      have skip : (∀ x, ¬ ((F k < 0 ∨ F k = d) ∧ Sg n w v s f F (g + 1) (W - d * w k) (x - d * v k))) → Z7 best (d + 1) σ := fun hno => ih (d + 1) best (by omega) (by omega) (mx_cg (mx_no hb hno) (fun x => (Wg_s hd).symm))
      have z0 : ¬ (F k < 0 ∨ F k = d) → Z43 best d 0 σ := by
        intro hno
        refine r43 _ _ _ _ ⟨by omega, ?_⟩
        intro q hq
        exact ⟨by omega, fun _ => skip (fun x hx => hno hx.1), fun q => absurd rfl q⟩
      have z1 : (F k < 0 ∨ F k = d) → Z43 best d 1 σ := by
        intro hcan
        refine r43 _ _ _ _ ⟨by omega, ?_⟩
        intro q hq
        rw [e0] at hq
        refine ⟨by omega, fun q => absurd q (by decide), fun _ => ⟨by omega, fun g1 => ?_, fun g1 => ⟨by omega, ?_⟩⟩⟩
        · refine skip (fun x hx => ?_)
          obtain ⟨p, hp, a1, a2⟩ := hx.2
          have := (stA_w hD hp).1
          omega
        · have hr := hrow q g1 (by omega)
          have hrb := mx_bd hr (fun x hx => Sg_bd hD hx)
          refine ⟨by omega, fun g2 => ?_, fun g2 => ?_⟩
          · refine skip (fun x hx => ?_)
            rw [← hq] at hx
            exact mx_ng hr g2 _ hx.2
          · intro q2 hq2
            rw [e1] at hq2
            have hsh := mx_cg (mx_sh (δ := d * v k) hr g2 hdv.1) (S' := fun x => (F k < 0 ∨ F k = d) ∧ Sg n w v s f F (g + 1) (W - d * w k) (x - d * v k)) (fun x => by rw [← hq]; exact ⟨fun z => ⟨hcan, z⟩, fun z => z.2⟩)
            refine ⟨by omega, by omega, fun g3 => ?_, fun g3 => ?_⟩
            · exact ih (d + 1) best (by omega) (by omega) (mx_cg (mx_L hb hsh (by omega)) (fun x => (Wg_s hd).symm))
            · rw [hq2]
              exact ih (d + 1) _ (by omega) (by omega) (mx_cg (mx_R hb hsh (by omega)) (fun x => (Wg_s hd).symm))
      refine r7 _ _ _ ⟨by omega, by omega, by rw [e2]; omega, fun q => absurd q (by rw [e2]; omega), fun _ => ?_⟩
      rw [eF]
      exact ⟨by omega, fun g1 => z1 (Or.inl g1), fun g1 => ⟨fun g2 => z0 (by omega), fun g2 => z1 (Or.inr g2)⟩⟩
  exact loop (s k).toNat 1 (-100000) (by omega) (by omega) (mx_emp (fun x ⟨e, p, he, _⟩ => by omega))
/-- what the walk over the family's goods has tried before good k -/
def Ug (n : Nat) (w v s f F : Int → Int) (g W x3 x4 k x : Int) : Prop := (x3 = 0 ∧ Sg n w v s f F (g + 1) W x) ∨ ∃ j : Int, (0 ≤ j ∧ j < k) ∧ f j = g ∧ (x3 = 0 ∨ j = x4) ∧ Wg n w v s f F g j W (s j + 1) x
theorem Ug_n {F : Int → Int} {g W x3 x4 x : Int} (hx : (x3 = 0 ∧ ∀ j : Int, 0 ≤ j → j < n → f j = g → F j ≤ 0) ∨ (x3 = 1 ∧ (0 ≤ x4 ∧ x4 < n) ∧ f x4 = g ∧ 0 < F x4 ∧ ∀ j : Int, 0 ≤ j → j < n → f j = g → 0 < F j → j = x4)) : Ug n w v s f F g W x3 x4 n x ↔ Sg n w v s f F g W x := by
  constructor
  · rintro (⟨h3, p, hp, e1, e2⟩ | ⟨j, hj, hfj, hor, e, p, he, hF, hp, e1, e2⟩)
    · have hx0 : ∀ j : Int, 0 ≤ j → j < n → f j = g → F j ≤ 0 := by
        rcases hx with hx | hx
        · exact hx.2
        · omega
      refine ⟨p, ⟨fun i a b => ?_, hp.2⟩, e1, e2⟩
      obtain ⟨q1, q2, q3⟩ := hp.1 i a b
      refine ⟨q1, fun q => q2 (by omega), fun q q0 => ?_⟩
      by_cases hg : f i = g
      · have := hx0 i a b hg
        have := q2 (by omega)
        omega
      · exact q3 (by omega) q0
    · have hpj : p j = 0 := (hp.1 j hj.1 hj.2).2.1 (by omega)
      have hoth : ∀ i : Int, 0 ≤ i → i < n → i ≠ j → f i = g → F i ≤ 0 := by
        intro i a b hij hg
        rcases hx with hx | hx
        · exact hx.2 i a b hg
        · by_cases hFi : 0 < F i
          · have := hx.2.2.2.2 i a b hg hFi
            omega
          · omega
      refine ⟨pu p j e, ⟨fun i a b => ?_, ?_⟩, ?_, ?_⟩
      · by_cases hij : i = j
        · subst hij
          rw [pu_e]
          exact ⟨by omega, fun q => absurd q (by omega), fun _ q => by omega⟩
        · rw [pu_n hij]
          obtain ⟨q1, q2, q3⟩ := hp.1 i a b
          refine ⟨q1, fun q => q2 (by omega), fun q q0 => ?_⟩
          by_cases hg : f i = g
          · have := hoth i a b hij hg
            have := q2 (by omega)
            omega
          · exact q3 (by omega) q0
      · intro a b hb hab ha hpa hpb
        by_cases haj : a = j
        · subst haj
          rw [pu_n (by omega)] at hpb
          intro hfe
          have := (hp.1 b hb (by omega)).2.1 (by omega)
          omega
        · rw [pu_n haj] at hpa
          by_cases hbj : b = j
          · subst hbj
            intro hfe
            have := (hp.1 a (by omega) ha).2.1 (by omega)
            omega
          · rw [pu_n hbj] at hpb
            exact hp.2 a b hb hab ha hpa hpb
      · rw [sm_up hj.1 n hj.2, hpj, show e - 0 = e by omega]
        omega
      · rw [sm_up hj.1 n hj.2, hpj, show e - 0 = e by omega]
        omega
  · rintro ⟨p, hp, e1, e2⟩
    by_cases hex : ∃ j : Int, (0 ≤ j ∧ j < n) ∧ f j = g ∧ 0 < p j
    · obtain ⟨j, hj, hfj, hpj⟩ := hex
      have huniq : ∀ i : Int, 0 ≤ i → i < n → f i = g → 0 < p i → i = j := by
        intro i a b hfi hpi
        by_cases h1 : i < j
        · exact absurd (hfj.trans hfi.symm) (hp.2 j i a h1 hj.2 hpj hpi)
        · by_cases h2 : j < i
          · exact absurd (hfi.trans hfj.symm) (hp.2 i j hj.1 h2 b hpi hpj)
          · omega
      have hq := hp.1 j hj.1 hj.2
      refine Or.inr ⟨j, hj, hfj, ?_, p j, pu p j 0, by omega, ?_, ⟨fun i a b => ?_, ?_⟩, ?_, ?_⟩
      · rcases hx with hx | hx
        · exact Or.inl hx.1
        · have h5 := (hp.1 x4 hx.2.1.1 hx.2.1.2).2.2 (by omega) (by omega)
          exact Or.inr (huniq x4 hx.2.1.1 hx.2.1.2 hx.2.2.1 (by omega)).symm
      · by_cases hFj : F j < 0
        · exact Or.inl hFj
        · exact Or.inr (hq.2.2 (by omega) (by omega)).symm
      · by_cases hij : i = j
        · subst hij
          rw [pu_e]
          exact ⟨by omega, fun _ => rfl, fun q => absurd q (by omega)⟩
        · rw [pu_n hij]
          obtain ⟨q1, q2, q3⟩ := hp.1 i a b
          refine ⟨q1, fun q => ?_, fun q q0 => q3 (by omega) q0⟩
          by_cases hg : f i = g
          · by_cases hpi : 0 < p i
            · exact absurd (huniq i a b hg hpi) hij
            · omega
          · exact q2 (by omega)
      · intro a b hb hab ha hpa hpb
        have ha' : 0 < p a := by
          by_cases haj : a = j
          · subst haj; rw [pu_e] at hpa; omega
          · rw [pu_n haj] at hpa; exact hpa
        have hb' : 0 < p b := by
          by_cases hbj : b = j
          · subst hbj; rw [pu_e] at hpb; omega
          · rw [pu_n hbj] at hpb; exact hpb
        exact hp.2 a b hb hab ha ha' hb'
      · rw [sm_up hj.1 n hj.2, Int.sub_mul]
        omega
      · rw [sm_up hj.1 n hj.2, Int.sub_mul]
        omega
    · have hz : ∀ i : Int, 0 ≤ i → i < n → f i = g → p i = 0 := by
        intro i a b hg
        have := (hp.1 i a b).1
        by_cases hpi : 0 < p i
        · exact absurd ⟨i, ⟨a, b⟩, hg, hpi⟩ hex
        · omega
      rcases hx with hx | hx
      · refine Or.inl ⟨hx.1, p, ⟨fun i a b => ?_, hp.2⟩, e1, e2⟩
        obtain ⟨q1, q2, q3⟩ := hp.1 i a b
        refine ⟨q1, fun q => ?_, fun q q0 => q3 (by omega) q0⟩
        by_cases hg : f i = g
        · exact hz i a b hg
        · exact q2 (by omega)
      · have h5 := (hp.1 x4 hx.2.1.1 hx.2.1.2).2.2 (by omega) (by omega)
        have h6 := hz x4 hx.2.1.1 hx.2.1.2 hx.2.2.1
        omega
theorem ok_X0_strictEntry (hD : gD n w v s f L) (hI : xI n w v s f L σ) {F : Int → Int} (hF : ∀ i : Int, 0 ≤ i → i < n → σ 7 i = F i ∧ -1 ≤ F i ∧ F i ≤ 2) {g W : Int} (hg : 0 ≤ g ∧ g ≤ 3) (hW : 0 ≤ W ∧ W ≤ 280) (hrow : tbS n w v s f F (g + 1) σ) {post : Int → gS → Prop} (h : ∀ t : Int, mx (Sg n w v s f F g W) t → post t σ) : Ok_X0_strictEntry g W σ post := by
  have hn := hD.1
  intro Z8 Z87 Z118 r8 r87 r118
  have second : ∀ x3 x4 : Int, (0 ≤ x3 ∧ x3 ≤ 1) → (-1 ≤ x4 ∧ x4 ≤ 7) → ((x3 = 0 ∧ ∀ j : Int, 0 ≤ j → j < n → f j = g → F j ≤ 0) ∨ (x3 = 1 ∧ (0 ≤ x4 ∧ x4 < n) ∧ f x4 = g ∧ 0 < F x4 ∧ ∀ j : Int, 0 ≤ j → j < n → f j = g → 0 < F j → j = x4)) → ∀ (t : Nat) (k best : Int), 0 ≤ k → k + t = n → mx (Ug n w v s f F g W x3 x4 k) best → Z87 x3 x4 best k σ := by
    intro x3 x4 b3 b4 hx t
    induction t with
    | zero =>
      intro k best hk0 hk hb
      refine r87 _ _ _ _ _ ⟨by omega, by rw [hI.1]; omega, fun _ => ?_, fun q => absurd q (by rw [hI.1]; omega)⟩
      rw [show k = (n : Int) by omega] at hb
      exact h best (mx_cg hb (fun x => Ug_n hx))
    | succ t ih =>
      intro k best hk0 hk hb
      obtain ⟨e0, e1, e2, e3⟩ := hI.2.2 k hk0 (by omega)
      obtain ⟨bw, bv, bs, bf⟩ := hD.2.2 k hk0 (by omega)
      have hbb : best = -100000 ∨ (0 ≤ best ∧ best ≤ 800) := mx_bd hb (fun x hx => by
        rcases hx with ⟨_, hx⟩ | ⟨j, hj, _, _, hx⟩
        · have := Sg_bd hD hx; omega
        · have := (hD.2.2 j hj.1 (by omega)).2.2.1
          exact Wg_bd hD ⟨hj.1, by omega⟩ (by omega) hx)
      have nxt : ∀ b2 : Int, mx (fun x => Ug n w v s f F g W x3 x4 k x ∨ (f k = g ∧ (x3 = 0 ∨ k = x4) ∧ Wg n w v s f F g k W (s k + 1) x)) b2 → Z87 x3 x4 b2 (k + 1) σ := by
        intro b2 hb2
        refine ih (k + 1) b2 (by omega) (by omega) (mx_cg hb2 (fun x => ?_))
        constructor
        · rintro ((q | ⟨j, hj, q⟩) | q)
          · exact Or.inl q
          · exact Or.inr ⟨j, by omega, q⟩
          · exact Or.inr ⟨k, by omega, q⟩
        · rintro (q | ⟨j, hj, q⟩)
          · exact Or.inl (Or.inl q)
          · by_cases hjk : j = k
            · subst hjk
              exact Or.inr q
            · exact Or.inl (Or.inr ⟨j, by omega, q⟩)
      have z118 : f k = g → (x3 = 0 ∨ k = x4) → Z118 x3 x4 best k σ := by
        intro hfk hor
        refine r118 _ _ _ _ _ (ok_X0_withGood hD hI hF hg ⟨hk0, by omega⟩ hW hrow (fun t ht => ?_))
        have htb := mx_bd ht (fun x hx => Wg_bd hD ⟨hk0, by omega⟩ (by omega) hx)
        have ht2 : mx (fun x => f k = g ∧ (x3 = 0 ∨ k = x4) ∧ Wg n w v s f F g k W (s k + 1) x) t := mx_cg ht (fun x => ⟨fun q => ⟨hfk, hor, q⟩, fun q => q.2.2⟩)
        exact ⟨by omega, by omega, fun q => nxt _ (mx_L hb ht2 q), fun q => nxt _ (mx_R hb ht2 q)⟩
      refine r87 _ _ _ _ _ ⟨by omega, by rw [hI.1]; omega, fun q => absurd q (by rw [hI.1]; omega), fun _ => ⟨by omega, ?_⟩⟩
      rw [e3]
      refine ⟨by omega, by omega, fun q => nxt _ (mx_no hb (fun x hx => q hx.1)), fun q => ⟨by omega, fun q2 => z118 q (Or.inl q2), fun q2 => ⟨by omega, fun q3 => nxt _ (mx_no hb (fun x hx => ?_)), fun q3 => z118 q (Or.inr q3)⟩⟩⟩
      rcases hx.2.1 with z | z
      · exact q2 z
      · exact q3 z
  have first : ∀ (t : Nat) (k x3 x4 : Int), 0 ≤ k → k + t = n → (0 ≤ x3 ∧ x3 ≤ k) → (-1 ≤ x4 ∧ x4 < 7) → ((x3 = 0 ∧ ∀ j : Int, 0 ≤ j → j < k → f j = g → F j ≤ 0) ∨ (x3 = 1 ∧ (0 ≤ x4 ∧ x4 < k) ∧ f x4 = g ∧ 0 < F x4 ∧ ∀ j : Int, 0 ≤ j → j < k → f j = g → 0 < F j → j = x4) ∨ (2 ≤ x3 ∧ ∃ a b : Int, 0 ≤ b ∧ b < a ∧ a < k ∧ f a = g ∧ f b = g ∧ 0 < F a ∧ 0 < F b)) → Z8 x3 x4 k σ := by
    intro t
    induction t with
    | zero =>
      intro k x3 x4 hk0 hk b3 b4 hx
      have hkn : k = (n : Int) := by omega
      subst hkn
      refine r8 _ _ _ _ ⟨by omega, by rw [hI.1]; omega, fun _ => ⟨by omega, fun q => ⟨fun q1 => ?_, fun q1 => ⟨by omega, ?_⟩⟩, fun q => ?_⟩, fun q => absurd q (by rw [hI.1]; omega)⟩
      · refine second x3 x4 (by omega) (by omega) ?_ n 0 _ (Int.le_refl 0) (by omega) (mx_emp (fun x hx2 => ?_))
        · rcases hx with hx | hx | hx
          · exact Or.inl hx
          · exact Or.inr hx
          · omega
        · rcases hx2 with ⟨z, _⟩ | ⟨j, hj, _⟩
          · exact q1 z
          · omega
      · intro q2 hq2
        refine second x3 x4 (by omega) (by omega) ?_ n 0 _ (Int.le_refl 0) (by omega) ?_
        · rcases hx with hx | hx | hx
          · exact Or.inl hx
          · exact Or.inr hx
          · omega
        · rw [hq2]
          refine mx_cg (hrow W hW.1 hW.2) (fun x => ?_)
          constructor
          · intro z
            exact Or.inl ⟨q1, z⟩
          · rintro (⟨_, z⟩ | ⟨j, hj, _⟩)
            · exact z
            · omega
      · refine h _ (mx_emp (fun x hx2 => ?_))
        obtain ⟨p, hp, _, _⟩ := hx2
        rcases hx with hx | hx | ⟨_, a, b, hb0, hab, han, fa, fb, Fa, Fb⟩
        · omega
        · omega
        · have pa := (hp.1 a (by omega) han).2.2 (by omega) (by omega)
          have pb := (hp.1 b hb0 (by omega)).2.2 (by omega) (by omega)
          exact hp.2 a b hb0 hab han (by omega) (by omega) (fa.trans fb.symm)
    | succ t ih =>
      intro k x3 x4 hk0 hk b3 b4 hx
      obtain ⟨e0, e1, e2, e3⟩ := hI.2.2 k hk0 (by omega)
      obtain ⟨bw, bv, bs, bf⟩ := hD.2.2 k hk0 (by omega)
      obtain ⟨eF, bF⟩ := hF k hk0 (by omega)
      have skip : ¬ (f k = g ∧ 0 < F k) → Z8 x3 x4 (k + 1) σ := by
        intro hno
        refine ih (k + 1) x3 x4 (by omega) (by omega) (by omega) b4 ?_
        rcases hx with ⟨q1, q2⟩ | ⟨q1, q2, q3, q4, q5⟩ | ⟨q1, a, b, q⟩
        · refine Or.inl ⟨q1, fun j j0 j1 hfj => ?_⟩
          by_cases hjk : j = k
          · subst hjk
            by_cases hz : 0 < F j
            · exact absurd ⟨hfj, hz⟩ hno
            · omega
          · exact q2 j j0 (by omega) hfj
        · refine Or.inr (Or.inl ⟨q1, by omega, q3, q4, fun j j0 j1 hfj hFj => ?_⟩)
          by_cases hjk : j = k
          · subst hjk
            exact absurd ⟨hfj, hFj⟩ hno
          · exact q5 j j0 (by omega) hfj hFj
        · exact Or.inr (Or.inr ⟨q1, a, b, q.1, q.2.1, by omega, q.2.2.2⟩)
      refine r8 _ _ _ _ ⟨by omega, by rw [hI.1]; omega, fun q => absurd q (by rw [hI.1]; omega), fun _ => ⟨by omega, ?_⟩⟩
      rw [e3, eF]
      refine ⟨by omega, by omega, fun q => skip (fun z => q z.1), fun q => ⟨by omega, fun q2 => skip (fun z => by have := z.2; omega), fun q2 => ?_⟩⟩
      refine ih (k + 1) (x3 + 1) k (by omega) (by omega) (by omega) (by omega) ?_
      rcases hx with ⟨z1, z2⟩ | ⟨z1, z2, z3, z4, z5⟩ | ⟨z1, a, b, z⟩
      · refine Or.inr (Or.inl ⟨by omega, by omega, q, q2, fun j j0 j1 hfj hFj => ?_⟩)
        by_cases hjk : j = k
        · exact hjk
        · have := z2 j j0 (by omega) hfj
          omega
      · exact Or.inr (Or.inr ⟨by omega, k, x4, z2.1, z2.2, by omega, q, z3, q2, z4⟩)
      · exact Or.inr (Or.inr ⟨by omega, a, b, z.1, z.2.1, by omega, z.2.2.2⟩)
  exact first n 0 0 (-1) (Int.le_refl 0) (by omega) (by omega) (by omega) (Or.inl ⟨rfl, fun j j0 j1 => absurd j1 (by omega)⟩)
theorem ok_X0_fillStrict (hD : gD n w v s f L) (hI : xI n w v s f L σ) {F : Int → Int} (hF : ∀ i : Int, 0 ≤ i → i < n → σ 7 i = F i ∧ -1 ≤ F i ∧ F i ≤ 2) {post : gS → Prop} (h : ∀ τ : gS, (∀ j : Nat, j ≠ 6 → τ j = σ j) → tbS n w v s f F 0 τ → post τ) : Ok_X0_fillStrict σ post := by
  have hn := hD.1
  intro Z2 Z37 Z43 r2 r37 r43
  have kp : ∀ τ : gS, (∀ j : Nat, j ≠ 6 → τ j = σ j) → xK σ τ := fun τ ht => ⟨ht 0 (by decide), ht 1 (by decide), ht 2 (by decide), ht 3 (by decide), ht 9 (by decide), ht 10 (by decide)⟩
  have outer : ∀ (t : Nat), (t : Int) ≤ 4 → ∀ τ : gS, (∀ j : Nat, j ≠ 6 → τ j = σ j) → tbS n w v s f F t τ → Z37 ((t : Int) - 1) τ := by
    intro t
    induction t with
    | zero =>
      intro ht τ hf hr
      exact r37 _ _ ⟨by omega, fun _ => h τ hf hr, fun q => absurd q (by omega)⟩
    | succ t ih =>
      intro ht τ hf hr
      have inner : ∀ (u : Nat) (W : Int), 0 ≤ W → W + u = 281 → ∀ τ : gS, (∀ j : Nat, j ≠ 6 → τ j = σ j) → tbS n w v s f F ((t : Int) + 1) τ → (∀ W' : Int, 0 ≤ W' → W' < W → mx (Sg n w v s f F t W') (τ 6 (281 * (t : Int) + W'))) → Z43 (t : Int) W τ := by
        intro u
        induction u with
        | zero =>
          intro W hW0 hW τ hf hr hp
          refine r43 _ _ _ ⟨by omega, fun _ => ?_, fun q => absurd q (by omega)⟩
          rw [show (t : Int) + (-1) = (t : Int) - 1 by omega]
          exact ih (by omega) τ hf (fun W' a b => hp W' a (by omega))
        | succ u ih2 =>
          intro W hW0 hW τ hf hr hp
          refine r43 _ _ _ ⟨by omega, fun q => absurd q (by omega), fun _ => ?_⟩
          refine ok_X0_strictEntry hD ((kp τ hf).I hI) (F := F) (fun i a b => by rw [hf 7 (by decide)]; exact hF i a b) (by omega) (by omega) hr (fun e he => ⟨by omega, ?_⟩)
          refine ih2 (W + 1) (by omega) (by omega) _ (fun j hj => by rw [sU_f hj]; exact hf j hj) (fun W' a b => ?_) (fun W' a b => ?_)
          · rw [sU_ne (by omega)]
            exact hr W' a b
          · by_cases hWW : W' = W
            · subst hWW
              rw [sU_eq]
              exact he
            · rw [sU_ne (by omega)]
              exact hp W' a (by omega)
      refine r37 _ _ ⟨by omega, fun q => absurd q (by omega), fun _ => ?_⟩
      rw [show ((t + 1 : Nat) : Int) - 1 = (t : Int) by omega]
      rw [show ((t + 1 : Nat) : Int) = (t : Int) + 1 by omega] at hr
      exact inner 281 0 (Int.le_refl 0) (by omega) τ hf hr (fun W' a b => absurd b (by omega))
  have S4 : ∀ W x : Int, Sg n w v s f F 4 W x ↔ W = 0 ∧ x = 0 := by
    intro W x
    constructor
    · rintro ⟨p, hp, e1, e2⟩
      have hz : ∀ i : Int, 0 ≤ i → i < n → p i = 0 := fun i a b => (hp.1 i a b).2.1 (by have := (hD.2.2 i a b).2.2.2; omega)
      rw [sm_z n hz] at e1 e2
      exact ⟨e1.symm, e2.symm⟩
    · rintro ⟨rfl, rfl⟩
      refine ⟨fun _ => 0, ⟨fun i a b => ?_, fun i j _ _ _ q => absurd (show (0 : Int) < 0 from q) (by decide)⟩, sm_z n (fun _ _ _ => rfl), sm_z n (fun _ _ _ => rfl)⟩
      have := hD.2.2 i a b
      exact ⟨(show (0 : Int) ≤ 0 ∧ 0 ≤ s i by omega), fun _ => rfl, fun q => absurd q (by omega)⟩
  have first : ∀ (u : Nat) (W : Int), 0 ≤ W → W + u = 281 → ∀ τ : gS, (∀ j : Nat, j ≠ 6 → τ j = σ j) → (∀ W' : Int, 0 ≤ W' → W' < W → mx (Sg n w v s f F 4 W') (τ 6 (281 * 4 + W'))) → Z2 W τ := by
    intro u
    induction u with
    | zero =>
      intro W hW0 hW τ hf hp
      refine r2 _ _ ⟨by omega, fun _ => ?_, fun q => absurd q (by omega)⟩
      exact outer 4 (by decide) τ hf (fun W' a b => hp W' a (by omega))
    | succ u ih =>
      intro W hW0 hW τ hf hp
      have step : ∀ t0 : Int, mx (Sg n w v s f F 4 W) t0 → Z2 (W + 1) (sU τ 6 (1124 + W) t0) := by
        intro t0 ht0
        refine ih (W + 1) (by omega) (by omega) _ (fun j hj => by rw [sU_f hj]; exact hf j hj) (fun W' a b => ?_)
        by_cases hWW : W' = W
        · subst hWW
          rw [show 281 * 4 + W' = 1124 + W' by omega, sU_eq]
          exact ht0
        · rw [sU_ne (by omega)]
          exact hp W' a (by omega)
      refine r2 _ _ ⟨by omega, fun q => absurd q (by omega), fun _ => ⟨fun q => ⟨by omega, step _ (mx_emp (fun x hx => q ((S4 W x).mp hx).1))⟩, fun q => ⟨by omega, step _ (Or.inr ⟨Int.le_refl 0, (S4 W 0).mpr ⟨q, rfl⟩, fun x hx => by have := ((S4 W x).mp hx).2; omega⟩)⟩⟩⟩
  exact first 281 0 (Int.le_refl 0) (by omega) σ (fun j _ => rfl) (fun W' a b => absurd b (by omega))
theorem ok_X0_openAll {post : gS → Prop} (h : ∀ τ : gS, (∀ j : Nat, j ≠ 7 → τ j = σ j) → (∀ i : Int, 0 ≤ i → i < 7 → τ 7 i = -1) → post τ) : Ok_X0_openAll σ post := by
  intro Z2 r2
  have loop : ∀ (t : Nat) (k : Int), 0 ≤ k → k + t = 7 → ∀ τ : gS, (∀ j : Nat, j ≠ 7 → τ j = σ j) → (∀ i : Int, 0 ≤ i → i < k → τ 7 i = -1) → Z2 k τ := by
    intro t
    induction t with
    | zero =>
      intro k h0 hk τ hf hp
      exact r2 _ _ ⟨by omega, fun _ => h τ hf (fun i a b => hp i a (by omega)), fun q => absurd q (by omega)⟩
    | succ t ih =>
      intro k h0 hk τ hf hp
      refine r2 _ _ ⟨by omega, fun q => absurd q (by omega), fun _ => ⟨by omega, ?_⟩⟩
      refine ih (k + 1) (by omega) (by omega) _ (fun j hj => by rw [sU_f hj]; exact hf j hj) (fun i a b => ?_)
      by_cases hik : i = k
      · subst hik
        exact sU_eq _ _ _ _
      · rw [sU_ne hik]
        exact hp i a (by omega)
  exact loop 7 0 (Int.le_refl 0) (by omega) σ (fun j _ => rfl) (fun i a b => absurd b (by omega))
theorem ok_X0_strictWeight (hL : 0 ≤ L ∧ L ≤ 60) (eL : σ 10 0 = L) (hg : ∀ W : Int, 0 ≤ W → W ≤ 280 → gR (σ 6 W)) {post : Int → gS → Prop} (h : ∀ r : Int, bw_ (σ 6) L r → post r σ) : Ok_X0_strictWeight σ post := by
  intro Z4 r4
  have loop : ∀ (t : Nat) (k r : Int), k + t = L + 1 → (0 ≤ r ∧ r < k) → (∀ W : Int, 0 ≤ W → W < k → σ 6 W ≤ σ 6 r) → (∀ W : Int, 0 ≤ W → W < r → σ 6 W < σ 6 r) → Z4 r k σ := by
    intro t
    induction t with
    | zero =>
      intro k r hk hr h1 h2
      refine r4 _ _ _ ⟨by omega, by rw [eL]; omega, fun _ => h r ⟨by omega, fun W g0 g1 => h1 W g0 (by omega), h2⟩, fun g => absurd g (by rw [eL]; omega)⟩
    | succ t ih =>
      intro k r hk hr h1 h2
      refine r4 _ _ _ ⟨by omega, by rw [eL]; omega, fun g => absurd g (by rw [eL]; omega), fun _ => ⟨by omega, by omega, hg k (by omega) (by omega), hg r (by omega) (by omega), fun g => ?_, fun g => ?_⟩⟩
      · refine ih (k + 1) r (by omega) (by omega) (fun W g0 g1 => ?_) h2
        by_cases hW : W = k
        · subst hW; exact g
        · exact h1 W g0 (by omega)
      · refine ih (k + 1) k (by omega) (by omega) (fun W g0 g1 => ?_) (fun W g0 g1 => ?_)
        · by_cases hW : W = k
          · subst hW; exact Int.le_refl _
          · have := h1 W g0 (by omega); omega
        · have := h1 W g0 g1; omega
  exact loop L.toNat 1 0 (by omega) (by omega) (fun W g0 g1 => by rw [show W = 0 by omega]; exact Int.le_refl _) (fun W g0 g1 => absurd g1 (by omega))
/-- all families: the strict codes with the fixed pieces -/
theorem Sg_C (hD : gD n w v s f L) {F : Int → Int} {W x : Int} : Sg n w v s f F 0 W x ↔ ∃ c, isC s n c ∧ stp n f (sd n c) ∧ (∀ i : Int, 0 ≤ i → i < n → 0 ≤ F i → sd n c i = F i) ∧ ew w n n c = W ∧ ew v n n c = x := by
  constructor
  · rintro ⟨p, hp, e1, e2⟩
    obtain ⟨c, h0, h1, hc⟩ := code_of (n := n) (p := p) (fun i a b => by
      have := (hp.1 i a b).1
      have := hD.2.2 i a b
      omega)
    refine ⟨c, (isC_dg h0 h1).mpr (fun i a b => by rw [hc i a b]; exact (hp.1 i a b).1.2), ?_, fun i a b q => ?_, ?_, ?_⟩
    · intro i j hj hij hi hpi hpj
      rw [hc i (by omega) hi] at hpi
      rw [hc j hj (by omega)] at hpj
      exact hp.2 i j hj hij hi hpi hpj
    · rw [hc i a b]
      exact (hp.1 i a b).2.2 (hD.2.2 i a b).2.2.2.1 q
    · rw [ew_sm h0 h1, sm_cg n hc]; exact e1
    · rw [ew_sm h0 h1, sm_cg n hc]; exact e2
  · rintro ⟨c, hc, hst, hF, e1, e2⟩
    rw [ew_sm hc.1 hc.2.1] at e1 e2
    refine ⟨sd n c, ⟨fun i a b => ?_, hst⟩, e1, e2⟩
    have h1 := (isC_dg hc.1 hc.2.1).mp hc i a b
    have h2 := sd_bd n c i
    have h3 := (hD.2.2 i a b).2.2.2.1
    exact ⟨by omega, fun q => absurd q (by omega), fun _ q => hF i a b q⟩
theorem tbS_0 {F : Int → Int} {τ : gS} (h : tbS n w v s f F 0 τ) {W : Int} (h0 : 0 ≤ W) (h1 : W ≤ 280) : mx (Sg n w v s f F 0 W) (τ 6 W) := by
  have := h W h0 h1
  rw [show 281 * 0 + W = W by omega] at this
  exact this
/-- what the strict table's best weight says of codes -/
theorem sw_bv (hD : gD n w v s f L) {F : Int → Int} (hF : ∀ i : Int, 0 ≤ i → i < n → F i < 0) {τ : gS} (h : tbS n w v s f F 0 τ) {r : Int} (hr : bw_ (τ 6) L r) : 0 ≤ τ 6 r ∧ bvR n v (sPr n w s f L 1 (-1)) (τ 6 r) ∧ (∃ c, sPr n w s f L 1 (-1) c ∧ ew w n n c = r ∧ ew v n n c = τ 6 r) ∧ ∀ c, sPr n w s f L 1 (-1) c → ew v n n c = τ 6 r → r ≤ ew w n n c := by
  obtain ⟨hr0, hr1, hr2⟩ := hr
  have hL := hD.2.1
  have mkS : ∀ c, sPr n w s f L 1 (-1) c → Sg n w v s f F 0 (ew w n n c) (ew v n n c) := fun c hc => (Sg_C hD).mpr ⟨c, hc.1, hc.2.2.1 (by decide), fun i a b q => absurd q (by have := hF i a b; omega), rfl, rfl⟩
  have t0 := mx_le (tbS_0 h (Int.le_refl 0) (by omega)) (by have := mkS 0 (sPr_0 hD 1 (-1)); rw [ew_0, ew_0] at this; exact this)
  have h1 := hr1 0 (Int.le_refl 0) (by omega)
  have hp : 0 ≤ τ 6 r := by omega
  have hs := mx_ps (tbS_0 h hr0.1 (by omega)) hp
  obtain ⟨c, hc, hst, -, ecw, ecv⟩ := (Sg_C hD).mp hs.1
  have hPc : sPr n w s f L 1 (-1) c := ⟨hc, by omega, fun _ => hst, fun q => absurd q (by decide)⟩
  refine ⟨hp, ⟨⟨c, hPc, ecv⟩, fun d hd => ?_⟩, ⟨c, hPc, ecw, ecv⟩, fun d hd hdv => ?_⟩
  · have hw := hD.W hd.1
    have h2 := mx_le (tbS_0 h hw.1 hw.2) (mkS d hd)
    have h3 := hr1 _ hw.1 hd.2.1
    omega
  · have hw := hD.W hd.1
    have h2 := mx_le (tbS_0 h hw.1 hw.2) (mkS d hd)
    by_cases hlt : ew w n n d < r
    · have h3 := hr2 _ hw.1 hlt
      omega
    · omega
theorem k7 {τ : gS} (h : ∀ j : Nat, j ≠ 7 → τ j = σ j) : xK σ τ := ⟨h 0 (by decide), h 1 (by decide), h 2 (by decide), h 3 (by decide), h 9 (by decide), h 10 (by decide)⟩
theorem k6 {τ : gS} (h : ∀ j : Nat, j ≠ 6 → τ j = σ j) : xK σ τ := ⟨h 0 (by decide), h 1 (by decide), h 2 (by decide), h 3 (by decide), h 9 (by decide), h 10 (by decide)⟩
theorem tbS_R (hD : gD n w v s f L) {F : Int → Int} {τ : gS} (h : tbS n w v s f F 0 τ) {W : Int} (h0 : 0 ≤ W) (h1 : W ≤ 280) : τ 6 W = -100000 ∨ (0 ≤ τ 6 W ∧ τ 6 W ≤ 700) := mx_bd (tbS_0 h h0 h1) (fun x hx => Sg_bd hD hx)
theorem ok_X0_bestStrict (hD : gD n w v s f L) (hI : xI n w v s f L σ) {post : Int → gS → Prop} (h : ∀ (x : Int) (τ : gS), xK σ τ → bvR n v (sPr n w s f L 1 (-1)) x → post x τ) : Ok_X0_bestStrict σ post := by
  have hn := hD.1
  have hL := hD.2.1
  refine ok_X0_openAll (fun τ1 hf1 ho => ?_)
  have hk1 := k7 hf1
  refine ok_X0_fillStrict hD (hk1.I hI) (F := fun _ => -1) (fun i a b => ⟨ho i a (by omega), by decide, by decide⟩) (fun τ hf hr => ?_)
  have hk := hk1.tr (k6 hf)
  refine ok_X0_strictWeight hL (hk.I hI).2.1 (fun W g0 g1 => by have := tbS_R hD hr g0 g1; omega) (fun r hb => ⟨by have := hb.1; omega, ?_⟩)
  obtain ⟨-, hbv, -⟩ := sw_bv hD (fun i _ _ => by decide) hr hb
  exact h _ τ hk hbv
theorem sd_k {c : Int} {m : Nat} {k : Int} (h : k = (n : Int) - 1 - m) : sd n c k = c / p3 m % 3 := by
  unfold sd dgm
  rw [show ((n : Int) - 1 - k).toNat = m by omega]
theorem ok_X0_bestStrictCode (hD : gD n w v s f L) (hI : xI n w v s f L σ) {post : Int → gS → Prop} (h : ∀ (r : Int) (τ : gS), xK σ τ → sOK n w v (sPr n w s f L 1 (-1)) r → post r τ) : Ok_X0_bestStrictCode σ post := by
  have hn := hD.1
  have hL := hD.2.1
  intro Z25 Z37 r25 r37
  refine ok_X0_openAll (fun τ1 hf1 ho => ?_)
  have hk1 := k7 hf1
  refine ok_X0_fillStrict hD (hk1.I hI) (F := fun _ => -1) (fun i a b => ⟨ho i a (by omega), by decide, by decide⟩) (fun τ0 hf hr => ?_)
  have hk := hk1.tr (k6 hf)
  refine ok_X0_strictWeight hL (hk.I hI).2.1 (fun W g0 g1 => by have := tbS_R hD hr g0 g1; omega) (fun W0 hb => ⟨by have := hb.1; omega, ?_⟩)
  obtain ⟨hV0, hbv, hex, hleast⟩ := sw_bv hD (fun i _ _ => by decide) hr hb
  have hW0 := hb.1
  have hV7 := tbS_R hD hr hW0.1 (by omega)
  intro V0 eV
  rw [← eV] at hV0 hbv hex hleast hV7
  have loop : ∀ (m k : Nat), k + m = n → ∀ (P : Int) (τ : gS), 0 ≤ P → xK σ τ → (∀ i : Int, 0 ≤ i → i < k → 0 ≤ τ 7 i ∧ τ 7 i ≤ 2) → (∀ i : Int, k ≤ i → i < n → τ 7 i = -1) →
      (∀ c : Int, 0 ≤ c → c < p3 n → (c / p3 m = P ↔ ∀ i : Int, 0 ≤ i → i < k → sd n c i = τ 7 i)) →
      (∃ c, sPr n w s f L 1 (-1) c ∧ ew w n n c = W0 ∧ ew v n n c = V0 ∧ c / p3 m = P) →
      (∀ c, sPr n w s f L 1 (-1) c → ew w n n c = W0 → ew v n n c = V0 → P ≤ c / p3 m) → Z25 W0 V0 P (k : Int) τ := by
    intro m
    induction m with
    | zero =>
      intro k hkm P τ hP hkt i1 i2 j3 j1 j2
      have hI2 := hkt.I hI
      refine r25 _ _ _ _ _ ⟨by omega, by rw [hI2.1]; omega, fun _ => ?_, fun q => absurd q (by rw [hI2.1]; omega)⟩
      obtain ⟨c, hc, ecw, ecv, ecP⟩ := j1
      have e1 : ∀ d : Int, d / p3 0 = d := fun d => Int.ediv_one d
      rw [e1] at ecP
      subst ecP
      refine h c τ hkt ⟨hc, fun d hd => ?_⟩
      have h1 := hbv.2 d hd
      unfold bt
      rw [ecw, ecv]
      by_cases hv : ew v n n d = V0
      · have h2 := hleast d hd hv
        by_cases hw : ew w n n d = W0
        · have h3 := j2 d hd hw hv
          rw [e1] at h3
          omega
        · omega
      · omega
    | succ m ih =>
      intro k hkm P τ hP hkt i1 i2 j3 j1 j2
      have hkm1 : (k : Int) = (n : Int) - 1 - m := by omega
      have hI2 := hkt.I hI
      obtain ⟨t0, t1, t2, t3⟩ := hI2.2.2 (k : Int) (by omega) (by omega)
      obtain ⟨bw, bv, bs, bf⟩ := hD.2.2 (k : Int) (by omega) (by omega)
      -- the code's digit of good k
      have dig : ∀ c d : Int, 0 ≤ d → d ≤ 2 → (c / p3 m = 3 * P + d ↔ c / p3 (m + 1) = P ∧ sd n c k = d) := by
        intro c d h0 h1
        have hz := d_step c m
        rw [sd_k hkm1]
        omega
      have fin : ∀ (d : Int) (τ' : gS), 0 ≤ d → d ≤ s k → xK σ τ' → (∀ i : Int, 0 ≤ i → i < k → τ' 7 i = τ 7 i) → (∀ i : Int, (k : Int) + 1 ≤ i → i < n → τ' 7 i = -1) → (∀ e : Int, 0 ≤ e → e < d → ∀ c, sPr n w s f L 1 (-1) c → ew w n n c = W0 → ew v n n c = V0 → c / p3 m ≠ 3 * P + e) → (∃ c, sPr n w s f L 1 (-1) c ∧ ew w n n c = W0 ∧ ew v n n c = V0 ∧ c / p3 m = 3 * P + d) → Z25 W0 V0 (3 * P + d) ((k : Int) + 1) (sU τ' 7 k d) := by
        intro d τ' h0 h1 hk' a1 a2 hno hyes
        refine ih (k + 1) (by omega) (3 * P + d) _ (by omega) (hk'.tr (xK.u (by omega))) (fun i q0 q1 => ?_) (fun i q0 q1 => ?_) (fun c c0 c1 => ?_) hyes (fun c hc hw hv => ?_)
        · by_cases hik : i = (k : Int)
          · subst hik
            rw [sU_eq]
            omega
          · rw [sU_ne hik, a1 i q0 (by omega)]
            exact i1 i q0 (by omega)
        · rw [sU_ne (by omega)]
          exact a2 i (by omega) q1
        · rw [dig c d h0 (by omega), j3 c c0 c1]
          constructor
          · rintro ⟨z1, z2⟩ i q0 q1
            by_cases hik : i = (k : Int)
            · subst hik
              rw [sU_eq]
              exact z2
            · rw [sU_ne hik, a1 i q0 (by omega)]
              exact z1 i q0 (by omega)
          · intro z
            refine ⟨fun i q0 q1 => ?_, ?_⟩
            · have := z i q0 (by omega)
              rw [sU_ne (by omega), a1 i q0 q1] at this
              exact this
            · have := z k (by omega) (by omega)
              rw [sU_eq] at this
              exact this
        · have h2 := j2 c hc hw hv
          have hz := d_step c m
          by_cases he : c / p3 (m + 1) = P
          · by_cases hlt : c / p3 m % 3 < d
            · exact absurd (show c / p3 m = 3 * P + c / p3 m % 3 by omega) (hno _ (by omega) hlt c hc hw hv)
            · omega
          · omega
      have inner : ∀ (t : Nat) (d : Int) (τ' : gS), 0 ≤ d → d + t = s k → xK σ τ' → (∀ i : Int, 0 ≤ i → i < k → τ' 7 i = τ 7 i) → (∀ i : Int, (k : Int) + 1 ≤ i → i < n → τ' 7 i = -1) → (∀ e : Int, 0 ≤ e → e < d → ∀ c, sPr n w s f L 1 (-1) c → ew w n n c = W0 → ew v n n c = V0 → c / p3 m ≠ 3 * P + e) → Z37 W0 V0 P (k : Int) d τ' := by
        intro t
        induction t with
        | zero =>
          intro d τ' h0 h1 hk' a1 a2 hno
          have e2 := ((hk'.I hI).2.2 (k : Int) (by omega) (by omega)).2.2.1
          refine r37 _ _ _ _ _ _ ⟨by omega, by omega, by rw [e2]; omega, fun _ => ?_, fun q => absurd q (by rw [e2]; omega)⟩
          intro q hq
          rw [hq]
          refine fin d τ' h0 (by omega) hk' a1 a2 hno ?_
          obtain ⟨c, hc, ecw, ecv, ecP⟩ := j1
          have hz := d_step c m
          have hdg := (isC_dg hc.1.1 hc.1.2.1).mp hc.1 (k : Int) (by omega) (by omega)
          rw [sd_k hkm1] at hdg
          refine ⟨c, hc, ecw, ecv, ?_⟩
          by_cases hlt : c / p3 m % 3 < d
          · exact absurd (show c / p3 m = 3 * P + c / p3 m % 3 by omega) (hno _ (by omega) hlt c hc ecw ecv)
          · omega
        | succ t ih2 =>
          intro d τ' h0 h1 hk' a1 a2 hno
          have hI3 := hk'.I hI
          have e2 := (hI3.2.2 (k : Int) (by omega) (by omega)).2.2.1
          refine r37 _ _ _ _ _ _ ⟨by omega, by omega, by rw [e2]; omega, fun q => absurd q (by rw [e2]; omega), fun _ => ?_⟩
          have hk2 : xK σ (sU τ' 7 k d) := hk'.tr (xK.u (by omega))
          refine ok_X0_fillStrict hD (hk2.I hI) (F := (sU τ' 7 k d) 7) (fun i q0 q1 => ⟨rfl, ?_⟩) (fun τ2 hf2 hr2 => ?_)
          · by_cases hik : i = (k : Int)
            · subst hik
              rw [sU_eq]
              omega
            · rw [sU_ne hik]
              by_cases hlt : i < k
              · rw [a1 i q0 hlt]
                have := i1 i q0 hlt
                omega
              · rw [a2 i (by omega) q1]
                decide
          · have hb2 := tbS_R hD hr2 hW0.1 (by omega)
            have hx := tbS_0 hr2 hW0.1 (by omega : W0 ≤ 280)
            have hk3 := hk2.tr (k6 hf2)
            -- the table's entry against the codes
            have hS : ∀ x : Int, Sg n w v s f ((sU τ' 7 k d) 7) 0 W0 x ↔ ∃ c, sPr n w s f L 1 (-1) c ∧ ew w n n c = W0 ∧ ew v n n c = x ∧ c / p3 m = 3 * P + d := by
              intro x
              rw [Sg_C hD]
              constructor
              · rintro ⟨c, hc, hst, hF, e1, e2⟩
                refine ⟨c, ⟨hc, by omega, fun _ => hst, fun q => absurd q (by decide)⟩, e1, e2, (dig c d h0 (by omega)).mpr ⟨(j3 c hc.1 hc.2.1).mpr (fun i q0 q1 => ?_), ?_⟩⟩
                · have h5 := i1 i q0 q1
                  have h6 : (sU τ' 7 k d) 7 i = τ 7 i := by rw [sU_ne (by omega)]; exact a1 i q0 q1
                  have := hF i q0 (by omega) (by rw [h6]; omega)
                  rw [h6] at this
                  exact this
                · have := hF k (by omega) (by omega) (by rw [sU_eq]; exact h0)
                  rw [sU_eq] at this
                  exact this
              · rintro ⟨c, hc, e1, e2, e3⟩
                obtain ⟨z1, z2⟩ := (dig c d h0 (by omega)).mp e3
                refine ⟨c, hc.1, hc.2.2.1 (by decide), fun i q0 q1 hq => ?_, e1, e2⟩
                by_cases hik : i = (k : Int)
                · subst hik
                  rw [sU_eq]
                  exact z2
                · rw [sU_ne hik] at hq ⊢
                  by_cases hlt : i < k
                  · rw [a1 i q0 hlt]
                    exact (j3 c hc.1.1 hc.1.2.1).mp z1 i q0 hlt
                  · rw [a2 i (by omega) q1] at hq
                    exact absurd hq (by decide)
            refine ⟨by omega, by omega, by omega, fun g => ?_, fun g => ?_⟩
            · refine ih2 (d + 1) τ2 (by omega) (by omega) hk3 (fun i q0 q1 => ?_) (fun i q0 q1 => ?_) (fun e q0 q1 => ?_)
              · rw [hf2 7 (by decide), sU_ne (by omega)]
                exact a1 i q0 q1
              · rw [hf2 7 (by decide), sU_ne (by omega)]
                exact a2 i q0 q1
              · by_cases hed : e = d
                · subst hed
                  intro c hc ecw ecv ecP
                  have h5 := mx_le hx ((hS V0).mpr ⟨c, hc, ecw, ecv, ecP⟩)
                  obtain ⟨c', hc', ecw', ecv', -⟩ := (hS _).mp (mx_ps hx h5.1).1
                  have := hbv.2 c' hc'
                  omega
                · exact hno e q0 (by omega)
            · intro q hq
              rw [hq]
              have hyes := (hS (τ2 6 W0)).mp (mx_ps hx (by omega)).1
              rw [g] at hyes
              refine fin d τ2 h0 (by omega) hk3 (fun i q0 q1 => ?_) (fun i q0 q1 => ?_) hno hyes
              · rw [hf2 7 (by decide), sU_ne (by omega)]
                exact a1 i q0 q1
              · rw [hf2 7 (by decide), sU_ne (by omega)]
                exact a2 i q0 q1
      refine r25 _ _ _ _ _ ⟨by omega, by rw [hI2.1]; omega, fun q => absurd q (by rw [hI2.1]; omega), fun _ => ?_⟩
      exact inner (s k).toNat 0 τ (Int.le_refl 0) (by omega) hkt (fun i _ _ => rfl) (fun i q0 q1 => i2 i (by omega) q1) (fun e q0 q1 => absurd q1 (by omega))
  refine loop n 0 (by omega) 0 τ0 (Int.le_refl 0) hk (fun i a b => absurd b (by omega)) (fun i a b => ?_) (fun c c0 c1 => ?_) ?_ (fun c hc _ _ => Int.ediv_nonneg hc.1.1 (Int.le_of_lt (p3_pos n)))
  · rw [hf 7 (by decide)]
    exact ho i (by omega) (by omega)
  · exact ⟨fun _ i a b => absurd b (by omega), fun _ => Int.ediv_eq_zero_of_lt c0 c1⟩
  · obtain ⟨c, hc, e1, e2⟩ := hex
    exact ⟨c, hc, e1, e2, Int.ediv_eq_zero_of_lt hc.1.1 hc.1.2.1⟩
end
end
section
/-! PURE, 8: two choices -/
set_option maxRecDepth 100000
theorem mx_u {S : Int → Prop} {a b : Int} (ha : mx S a) (hb : mx S b) : a = b := by
  rcases ha with ⟨h1, h2⟩ | ⟨h1, h2, h3⟩
  · rcases hb with ⟨g1, g2⟩ | ⟨g1, g2, g3⟩
    · omega
    · exact absurd g2 (h2 b)
  · rcases hb with ⟨g1, g2⟩ | ⟨g1, g2, g3⟩
    · exact absurd h2 (g2 a)
    · have := h3 b g2
      have := g3 a h2
      omega
theorem sm_nn {w p : Int → Int} : ∀ k : Nat, (∀ i : Int, 0 ≤ i → i < k → 0 ≤ p i ∧ 0 ≤ w i) → 0 ≤ sm w p k := by
  intro k
  induction k with
  | zero => intro _; exact Int.le_refl 0
  | succ k ih =>
    intro h
    have h1 := ih (fun i a b => h i a (by omega))
    obtain ⟨h2, h3⟩ := h (k : Int) (by omega) (by omega)
    have h4 := Int.mul_nonneg h2 h3
    rw [sm_s]
    omega
/-- the values of two choices within supplies s', up to the weights a and b -/
def T2 (n : Nat) (w v s' : Int → Int) (a b x : Int) : Prop := ∃ pa pb : Int → Int, (∀ i : Int, 0 ≤ i → i < n → 0 ≤ pa i ∧ 0 ≤ pb i ∧ pa i + pb i ≤ s' i) ∧ sm w pa n ≤ a ∧ sm w pb n ≤ b ∧ sm v pa n + sm v pb n = x
theorem T2_cg {n : Nat} {w v s' s'' : Int → Int} {a b x : Int} (h : ∀ i : Int, 0 ≤ i → i < n → s' i = s'' i) : T2 n w v s' a b x ↔ T2 n w v s'' a b x := by
  constructor
  · rintro ⟨pa, pb, hp, e⟩
    exact ⟨pa, pb, fun i q0 q1 => by rw [← h i q0 q1]; exact hp i q0 q1, e⟩
  · rintro ⟨pa, pb, hp, e⟩
    exact ⟨pa, pb, fun i q0 q1 => by rw [h i q0 q1]; exact hp i q0 q1, e⟩
section
variable {n : Nat} {w v s f : Int → Int} {L : Int} {σ : gS}
theorem T2_bd (hD : gD n w v s f L) {s' : Int → Int} (hs : ∀ i : Int, 0 ≤ i → i < n → 0 ≤ s' i ∧ s' i ≤ 2) {a b x : Int} (h : T2 n w v s' a b x) : 0 ≤ x ∧ x ≤ 1400 := by
  obtain ⟨pa, pb, hp, _, _, e⟩ := h
  have hn := hD.1
  have h1 := sm_bd (w := v) (p := pa) (B := 50) n (fun i q0 q1 => by
    have := hp i q0 q1
    have := hs i q0 q1
    exact ⟨by omega, (hD.2.2 i q0 q1).2.1⟩)
  have h2 := sm_bd (w := v) (p := pb) (B := 50) n (fun i q0 q1 => by
    have := hp i q0 q1
    have := hs i q0 q1
    exact ⟨by omega, (hD.2.2 i q0 q1).2.1⟩)
  omega
theorem T2_z {s' : Int → Int} (hs : ∀ i : Int, 0 ≤ i → i < n → 0 ≤ s' i) {a b : Int} (ha : 0 ≤ a) (hb : 0 ≤ b) : T2 n w v s' a b 0 := by
  have z : ∀ g : Int → Int, sm g (fun _ => 0) n = 0 := fun g => sm_z n (fun _ _ _ => rfl)
  refine ⟨fun _ => 0, fun _ => 0, fun i q0 q1 => ?_, by rw [z]; exact ha, by rw [z]; exact hb, by rw [z]; rfl⟩
  have := hs i q0 q1
  exact ⟨Int.le_refl 0, Int.le_refl 0, by show (0 : Int) + 0 ≤ s' i; omega⟩
theorem T2_step (hD : gD n w v s f L) {s' : Int → Int} {k : Int} (hk : 0 ≤ k ∧ k < n) (hsk : 0 ≤ s' k) {a b x : Int} : T2 n w v (pu s' k (s' k + 1)) a b x ↔ (T2 n w v s' a b x ∨ (w k ≤ a ∧ T2 n w v s' (a - w k) b (x - v k))) ∨ (w k ≤ b ∧ T2 n w v s' a (b - w k) (x - v k)) := by
  have hw : ∀ i : Int, 0 ≤ i → i < n → 0 ≤ w i := fun i q0 q1 => by have := (hD.2.2 i q0 q1).1; omega
  constructor
  · rintro ⟨pa, pb, hp, h1, h2, h3⟩
    have hpk := hp k hk.1 hk.2
    rw [pu_e] at hpk
    have hoth : ∀ i : Int, 0 ≤ i → i < n → i ≠ k → 0 ≤ pa i ∧ 0 ≤ pb i ∧ pa i + pb i ≤ s' i := fun i q0 q1 q => by have := hp i q0 q1; rw [pu_n q] at this; exact this
    by_cases hle : pa k + pb k ≤ s' k
    · refine Or.inl (Or.inl ⟨pa, pb, fun i q0 q1 => ?_, h1, h2, h3⟩)
      by_cases hik : i = k
      · subst hik; omega
      · exact hoth i q0 q1 hik
    · by_cases hpa : 1 ≤ pa k
      · have e1 := sm_up (w := w) (p := pa) (a := k) (x := pa k - 1) hk.1 n hk.2
        have e2 := sm_up (w := v) (p := pa) (a := k) (x := pa k - 1) hk.1 n hk.2
        rw [show pa k - 1 - pa k = -1 by omega] at e1 e2
        have hv : ∀ i : Int, 0 ≤ i → i < n → 0 ≤ pu pa k (pa k - 1) i ∧ 0 ≤ pb i ∧ pu pa k (pa k - 1) i + pb i ≤ s' i := by
          intro i q0 q1
          by_cases hik : i = k
          · subst hik; rw [pu_e]; omega
          · rw [pu_n hik]; exact hoth i q0 q1 hik
        have h4 := sm_nn (w := w) (p := pu pa k (pa k - 1)) n (fun i q0 q1 => ⟨(hv i q0 q1).1, hw i q0 q1⟩)
        exact Or.inl (Or.inr ⟨by omega, pu pa k (pa k - 1), pb, hv, by omega, h2, by omega⟩)
      · have e1 := sm_up (w := w) (p := pb) (a := k) (x := pb k - 1) hk.1 n hk.2
        have e2 := sm_up (w := v) (p := pb) (a := k) (x := pb k - 1) hk.1 n hk.2
        rw [show pb k - 1 - pb k = -1 by omega] at e1 e2
        have hv : ∀ i : Int, 0 ≤ i → i < n → 0 ≤ pa i ∧ 0 ≤ pu pb k (pb k - 1) i ∧ pa i + pu pb k (pb k - 1) i ≤ s' i := by
          intro i q0 q1
          by_cases hik : i = k
          · subst hik; rw [pu_e]; omega
          · rw [pu_n hik]; exact hoth i q0 q1 hik
        have h4 := sm_nn (w := w) (p := pu pb k (pb k - 1)) n (fun i q0 q1 => ⟨(hv i q0 q1).2.1, hw i q0 q1⟩)
        exact Or.inr ⟨by omega, pa, pu pb k (pb k - 1), hv, h1, by omega, by omega⟩
  · rintro ((⟨pa, pb, hp, h1, h2, h3⟩ | ⟨hwa, pa, pb, hp, h1, h2, h3⟩) | ⟨hwb, pa, pb, hp, h1, h2, h3⟩)
    · refine ⟨pa, pb, fun i q0 q1 => ?_, h1, h2, h3⟩
      have := hp i q0 q1
      by_cases hik : i = k
      · subst hik; rw [pu_e]; omega
      · rw [pu_n hik]; exact this
    · have e1 := sm_up (w := w) (p := pa) (a := k) (x := pa k + 1) hk.1 n hk.2
      have e2 := sm_up (w := v) (p := pa) (a := k) (x := pa k + 1) hk.1 n hk.2
      rw [show pa k + 1 - pa k = 1 by omega] at e1 e2
      refine ⟨pu pa k (pa k + 1), pb, fun i q0 q1 => ?_, by omega, h2, by omega⟩
      have := hp i q0 q1
      by_cases hik : i = k
      · subst hik; rw [pu_e, pu_e]; omega
      · rw [pu_n hik, pu_n hik]; exact this
    · have e1 := sm_up (w := w) (p := pb) (a := k) (x := pb k + 1) hk.1 n hk.2
      have e2 := sm_up (w := v) (p := pb) (a := k) (x := pb k + 1) hk.1 n hk.2
      rw [show pb k + 1 - pb k = 1 by omega] at e1 e2
      refine ⟨pa, pu pb k (pb k + 1), fun i q0 q1 => ?_, h1, by omega, by omega⟩
      have := hp i q0 q1
      by_cases hik : i = k
      · subst hik; rw [pu_e, pu_e]; omega
      · rw [pu_n hik, pu_n hik]; exact this
/-- the table over both weights -/
def t2 (n : Nat) (w v s' : Int → Int) (τ : gS) : Prop := ∀ a b : Int, 0 ≤ a → a ≤ 60 → 0 ≤ b → b ≤ 60 → mx (T2 n w v s' a b) (τ 8 (61 * a + b))
theorem ok_X0_placePiece (hD : gD n w v s f L) {s' : Int → Int} (hs : ∀ i : Int, 0 ≤ i → i < n → 0 ≤ s' i ∧ s' i ≤ 2) {k : Int} (hk : 0 ≤ k ∧ k < n) (hrow : t2 n w v s' σ) {post : gS → Prop} (h : ∀ τ : gS, (∀ j : Nat, j ≠ 8 → τ j = σ j) → t2 n w v (pu s' k (s' k + 1)) τ → post τ) : Ok_X0_placePiece (w k) (v k) σ post := by
  obtain ⟨bw, bv, bs, bf⟩ := hD.2.2 k hk.1 hk.2
  have hsk := hs k hk.1 hk.2
  intro Z3 Z11 Z74 r3 r11 r74
  have old0 : ∀ (a b t : Int), 0 ≤ a → 0 ≤ b → mx (T2 n w v s' a b) t → 0 ≤ t ∧ t ≤ 1400 := by
    intro a b t ha hb ht
    have h1 := mx_le ht (T2_z (w := w) (v := v) (fun i q0 q1 => (hs i q0 q1).1) ha hb)
    have h2 := mx_bd ht (fun x hx => (T2_bd hD hs hx).2)
    omega
  have outer : ∀ (u : Nat), (u : Int) ≤ 61 → ∀ τ : gS, (∀ j : Nat, j ≠ 8 → τ j = σ j) → (∀ a b : Int, 0 ≤ a → a ≤ 60 → 0 ≤ b → b ≤ 60 → ((u : Int) ≤ a → mx (T2 n w v (pu s' k (s' k + 1)) a b) (τ 8 (61 * a + b))) ∧ (a < u → mx (T2 n w v s' a b) (τ 8 (61 * a + b)))) → Z3 ((u : Int) - 1) τ := by
    intro u
    induction u with
    | zero =>
      intro _ τ hf hp
      exact r3 _ _ ⟨by omega, fun _ => h τ hf (fun a b a0 a1 b0 b1 => (hp a b a0 a1 b0 b1).1 (by omega)), fun q => absurd q (by omega)⟩
    | succ u ih =>
      intro hu τ hf hp
      have inner : ∀ (t : Nat), (t : Int) ≤ 61 → ∀ τ : gS, (∀ j : Nat, j ≠ 8 → τ j = σ j) → (∀ a b : Int, 0 ≤ a → a ≤ 60 → 0 ≤ b → b ≤ 60 → ((u : Int) < a ∨ (a = u ∧ (t : Int) ≤ b) → mx (T2 n w v (pu s' k (s' k + 1)) a b) (τ 8 (61 * a + b))) ∧ (a < u ∨ (a = u ∧ b < t) → mx (T2 n w v s' a b) (τ 8 (61 * a + b)))) → Z11 (u : Int) ((t : Int) - 1) τ := by
        intro t
        induction t with
        | zero =>
          intro _ τ hf hp
          refine r11 _ _ _ ⟨by omega, fun _ => ?_, fun q => absurd q (by omega)⟩
          rw [show (u : Int) + (-1) = (u : Int) - 1 by omega]
          refine ih (by omega) τ hf (fun a b a0 a1 b0 b1 => ⟨fun q => (hp a b a0 a1 b0 b1).1 (by omega), fun q => (hp a b a0 a1 b0 b1).2 (by omega)⟩)
        | succ t ih2 =>
          intro ht τ hf hp
          have h0 := (hp u t (by omega) (by omega) (by omega) (by omega)).2 (by omega)
          have b0 := old0 _ _ _ (by omega) (by omega) h0
          have store : ∀ x : Int, mx (T2 n w v (pu s' k (s' k + 1)) u t) x → Z11 (u : Int) ((t : Int) + (-1)) (sU τ 8 (61 * (u : Int) + (t : Int)) x) := by
            intro x hx
            rw [show (t : Int) + (-1) = (t : Int) - 1 by omega]
            refine ih2 (by omega) _ (fun j hj => by rw [sU_f hj]; exact hf j hj) (fun a b a0 a1 b0 b1 => ?_)
            by_cases he : a = (u : Int) ∧ b = (t : Int)
            · obtain ⟨rfl, rfl⟩ := he
              rw [sU_eq]
              exact ⟨fun _ => hx, fun q => absurd q (by omega)⟩
            · rw [sU_ne (by omega)]
              exact ⟨fun q => (hp a b a0 a1 b0 b1).1 (by omega), fun q => (hp a b a0 a1 b0 b1).2 (by omega)⟩
          have z74 : ∀ x5 : Int, mx (fun x => T2 n w v s' u t x ∨ (w k ≤ u ∧ T2 n w v s' ((u : Int) - w k) t (x - v k))) x5 → (0 ≤ x5 ∧ x5 ≤ 1500) → Z74 (u : Int) (t : Int) x5 τ := by
            intro x5 h5 b5
            refine r74 _ _ _ _ ⟨by omega, by omega, fun q => ⟨by omega, store x5 ?_⟩, fun q => ⟨by omega, ?_⟩⟩
            · exact mx_cg (mx_no (S' := fun x => w k ≤ (t : Int) ∧ T2 n w v s' u ((t : Int) - w k) (x - v k)) h5 (fun x hx => by have := hx.1; omega)) (fun x => (T2_step hD hk hsk.1).symm)
            · have h2 := (hp u ((t : Int) - w k) (by omega) (by omega) (by omega) (by omega)).2 (by omega)
              rw [show 61 * (u : Int) + ((t : Int) - w k) = 61 * (u : Int) + (t : Int) - w k by omega] at h2
              have b2 := old0 _ _ _ (by omega) (by omega) h2
              have h3 := mx_cg (mx_sh (δ := v k) h2 b2.1 bv.1) (S' := fun x => w k ≤ (t : Int) ∧ T2 n w v s' u ((t : Int) - w k) (x - v k)) (fun x => ⟨fun z => ⟨q, z⟩, fun z => z.2⟩)
              refine ⟨by omega, by omega, fun q2 => ⟨by omega, store x5 (mx_cg (mx_L h5 h3 q2) (fun x => (T2_step hD hk hsk.1).symm))⟩, fun q2 => ?_⟩
              intro y hy
              rw [hy]
              exact ⟨by omega, store _ (mx_cg (mx_R h5 h3 q2) (fun x => (T2_step hD hk hsk.1).symm))⟩
          refine r11 _ _ _ ⟨by omega, fun q => absurd q (by omega), fun _ => ?_⟩
          rw [show ((t + 1 : Nat) : Int) - 1 = (t : Int) by omega]
          refine ⟨by omega, ?_⟩
          intro y hy
          refine ⟨by omega, by omega, fun q => ?_, fun q => ⟨by omega, ?_⟩⟩
          · rw [hy]
            exact z74 _ (mx_no h0 (fun x hx => by have := hx.1; omega)) (by omega)
          · have h2 := (hp ((u : Int) - w k) t (by omega) (by omega) (by omega) (by omega)).2 (by omega)
            have b2 := old0 _ _ _ (by omega) (by omega) h2
            have h3 := mx_cg (mx_sh (δ := v k) h2 b2.1 bv.1) (S' := fun x => w k ≤ (u : Int) ∧ T2 n w v s' ((u : Int) - w k) t (x - v k)) (fun x => ⟨fun z => ⟨q, z⟩, fun z => z.2⟩)
            rw [hy]
            refine ⟨by omega, by omega, fun q2 => z74 _ (mx_L h0 h3 q2) (by omega), fun q2 => ?_⟩
            intro y2 hy2
            rw [hy2]
            exact z74 _ (mx_R h0 h3 q2) (by omega)
      refine r3 _ _ ⟨by omega, fun q => absurd q (by omega), fun _ => ?_⟩
      rw [show ((u + 1 : Nat) : Int) - 1 = (u : Int) by omega]
      have := inner 61 (by decide) τ hf (fun a b a0 a1 b0 b1 => ⟨fun q => (hp a b a0 a1 b0 b1).1 (by omega), fun q => (hp a b a0 a1 b0 b1).2 (by omega)⟩)
      rw [show ((61 : Nat) : Int) - 1 = 60 by omega] at this
      exact this
  have := outer 61 (by decide) σ (fun j _ => rfl) (fun a b a0 a1 b0 b1 => ⟨fun q => absurd q (by omega), fun _ => hrow a b a0 a1 b0 b1⟩)
  rw [show ((61 : Nat) : Int) - 1 = 60 by omega] at this
  exact this
/-- supplies of the goods before k, and j pieces of good k -/
def cap (s : Int → Int) (k j : Int) : Int → Int := fun i => if i < k then s i else if i = k then j else 0
theorem cap_bd (hD : gD n w v s f L) {k j : Int} (hj : 0 ≤ j ∧ j ≤ 2) : ∀ i : Int, 0 ≤ i → i < n → 0 ≤ cap s k j i ∧ cap s k j i ≤ 2 := by
  intro i q0 q1
  have := (hD.2.2 i q0 q1).2.2.1
  unfold cap
  by_cases h1 : i < k
  · rw [if_pos h1]; omega
  · rw [if_neg h1]
    by_cases h2 : i = k
    · rw [if_pos h2]; exact hj
    · rw [if_neg h2]; omega
theorem t2_cg {s' s'' : Int → Int} (h : ∀ i : Int, 0 ≤ i → i < n → s' i = s'' i) {τ : gS} (ht : t2 n w v s' τ) : t2 n w v s'' τ := fun a b a0 a1 b0 b1 => mx_cg (ht a b a0 a1 b0 b1) (fun x => T2_cg h)
theorem k8 {τ : gS} (h : ∀ j : Nat, j ≠ 8 → τ j = σ j) : xK σ τ := ⟨h 0 (by decide), h 1 (by decide), h 2 (by decide), h 3 (by decide), h 9 (by decide), h 10 (by decide)⟩
theorem ok_X0_two (hD : gD n w v s f L) (hI : xI n w v s f L σ) {a : Int} (ha : gR a) {post : Int → gS → Prop} (h : (0 ≤ a ∧ a ≤ 60) → ∀ (r : Int) (τ : gS), xK σ τ → mx (T2 n w v s L a) r → post r τ) (h0 : ¬ (0 ≤ a ∧ a ≤ 60) → post (-1) σ) : Ok_X0_two a σ post := by
  have hn := hD.1
  have hL := hD.2.1
  intro Z14 Z36 Z46 r14 r36 r46
  have main : (0 ≤ a ∧ a ≤ 60) → Z14 0 σ := by
    intro ha2
    have goods : ∀ (t : Nat) (k : Int), 0 ≤ k → k + t = n → ∀ τ : gS, (∀ j : Nat, j ≠ 8 → τ j = σ j) → t2 n w v (cap s k 0) τ → Z36 k τ := by
      intro t
      induction t with
      | zero =>
        intro k hk0 hk τ hf ht
        have hI2 := (k8 hf).I hI
        refine r36 _ _ ⟨by omega, by rw [hI2.1]; omega, fun _ => ?_, fun q => absurd q (by rw [hI2.1]; omega)⟩
        rw [hI2.2.1]
        refine ⟨by omega, h ha2 _ τ (k8 hf) ?_⟩
        refine mx_cg (ht L a hL.1 hL.2 ha2.1 ha2.2) (fun x => T2_cg (fun i q0 q1 => ?_))
        unfold cap
        rw [if_pos (by omega)]
      | succ t ih =>
        intro k hk0 hk τ hf ht
        have hI2 := (k8 hf).I hI
        obtain ⟨bw, bv, bs, bf⟩ := hD.2.2 k hk0 (by omega)
        have pieces : ∀ (u : Nat) (j : Int), 0 ≤ j → j + u = s k → ∀ τ : gS, (∀ j : Nat, j ≠ 8 → τ j = σ j) → t2 n w v (cap s k j) τ → Z46 k j τ := by
          intro u
          induction u with
          | zero =>
            intro j hj0 hj τ hf ht
            have e2 := ((k8 hf).I hI).2.2 k hk0 (by omega)
            refine r46 _ _ _ ⟨by omega, by omega, by rw [e2.2.2.1]; omega, fun _ => ?_, fun q => absurd q (by rw [e2.2.2.1]; omega)⟩
            refine ih (k + 1) (by omega) (by omega) τ hf (t2_cg (fun i q0 q1 => ?_) ht)
            unfold cap
            by_cases h1 : i < k
            · rw [if_pos h1, if_pos (by omega)]
            · rw [if_neg h1]
              by_cases h2 : i = k
              · rw [if_pos h2, if_pos (by omega), h2]; omega
              · rw [if_neg h2, if_neg (by omega)]
                by_cases h3 : i = k + 1
                · rw [if_pos h3]
                · rw [if_neg h3]
          | succ u ih2 =>
            intro j hj0 hj τ hf ht
            have e2 := ((k8 hf).I hI).2.2 k hk0 (by omega)
            refine r46 _ _ _ ⟨by omega, by omega, by rw [e2.2.2.1]; omega, fun q => absurd q (by rw [e2.2.2.1]; omega), fun _ => ?_⟩
            rw [e2.1, e2.2.1]
            refine ok_X0_placePiece hD (cap_bd hD ⟨hj0, by omega⟩) ⟨hk0, by omega⟩ ht (fun τ' hf' ht' => ?_)
            refine ih2 (j + 1) (by omega) (by omega) τ' (fun i hi => (hf' i hi).trans (hf i hi)) (t2_cg (fun i q0 q1 => ?_) ht')
            by_cases hik : i = k
            · subst hik
              rw [pu_e]
              unfold cap
              rw [if_neg (by omega), if_pos rfl, if_neg (by omega), if_pos rfl]
            · rw [pu_n hik]
              unfold cap
              by_cases h1 : i < k
              · rw [if_pos h1, if_pos h1]
              · rw [if_neg h1, if_neg h1, if_neg hik, if_neg hik]
        refine r36 _ _ ⟨by omega, by rw [hI2.1]; omega, fun q => absurd q (by rw [hI2.1]; omega), fun _ => ?_⟩
        exact pieces (s k).toNat 0 (Int.le_refl 0) (by omega) τ hf ht
    have zero : ∀ (t : Nat) (k : Int), 0 ≤ k → k + t = 3721 → ∀ τ : gS, (∀ j : Nat, j ≠ 8 → τ j = σ j) → (∀ i : Int, 0 ≤ i → i < k → τ 8 i = 0) → Z14 k τ := by
      intro t
      induction t with
      | zero =>
        intro k hk0 hk τ hf hz
        refine r14 _ _ ⟨by omega, fun _ => ?_, fun q => absurd q (by omega)⟩
        refine goods n 0 (Int.le_refl 0) (by omega) τ hf (fun a b a0 a1 b0 b1 => ?_)
        rw [hz _ (by omega) (by omega)]
        have hc : ∀ i : Int, 0 ≤ i → i < n → cap s 0 0 i = 0 := fun i q0 q1 => by
          unfold cap
          rw [if_neg (by omega)]
          by_cases h2 : i = 0
          · rw [if_pos h2]
          · rw [if_neg h2]
        refine Or.inr ⟨Int.le_refl 0, T2_z (fun i q0 q1 => by rw [hc i q0 q1]; exact Int.le_refl 0) a0 b0, ?_⟩
        rintro x ⟨pa, pb, hp, _, _, e⟩
        have za := sm_z (w := v) (p := pa) n (fun i q0 q1 => by have := hp i q0 q1; rw [hc i q0 q1] at this; omega)
        have zb := sm_z (w := v) (p := pb) n (fun i q0 q1 => by have := hp i q0 q1; rw [hc i q0 q1] at this; omega)
        omega
      | succ t ih =>
        intro k hk0 hk τ hf hz
        refine r14 _ _ ⟨by omega, fun q => absurd q (by omega), fun _ => ⟨by omega, ?_⟩⟩
        refine ih (k + 1) (by omega) (by omega) _ (fun j hj => by rw [sU_f hj]; exact hf j hj) (fun i q0 q1 => ?_)
        by_cases hik : i = k
        · subst hik; exact sU_eq _ _ _ _
        · rw [sU_ne hik]; exact hz i q0 (by omega)
    exact zero 3721 0 (Int.le_refl 0) (by omega) σ (fun j _ => rfl) (fun i q0 q1 => absurd q1 (by omega))
  exact ⟨ha, fun q => h0 (by omega), fun q => ⟨fun q2 => main ⟨q, q2⟩, fun q2 => h0 (by omega)⟩⟩
/-! the reference: codes to the base 6 -/
def p6 : Nat → Int
  | 0 => 1
  | m + 1 => 6 * p6 m
theorem p6_s (m : Nat) : p6 (m + 1) = 6 * p6 m := rfl
theorem p6_pos : ∀ m, 0 < p6 m
  | 0 => by decide
  | m + 1 => by
    have h := p6_pos m
    rw [p6_s]
    omega
theorem p6_le {m k : Nat} (h : m ≤ k) : p6 m ≤ p6 k := by
  induction k with
  | zero => rw [show m = 0 by omega]; exact Int.le_refl _
  | succ k ih =>
    by_cases hk : m = k + 1
    · rw [hk]; exact Int.le_refl _
    · have h1 := ih (by omega)
      have h2 := p6_pos k
      rw [p6_s]
      omega
theorem p6_7 {m : Nat} (h : m ≤ 7) : p6 m ≤ 279936 := p6_le (k := 7) h
theorem d6_step (c : Int) (m : Nat) : c / p6 m / 6 = c / p6 (m + 1) := by
  rw [Int.ediv_ediv_of_nonneg (Int.le_of_lt (p6_pos m)), p6_s, Int.mul_comm]
theorem d6_mk {c d r : Int} (m : Nat) (h : c = d * p6 m + r) (h0 : 0 ≤ r) (h1 : r < p6 m) : c / p6 m = d ∧ c % p6 m = r := by
  refine (Int.ediv_emod_unique (p6_pos m)).mpr ⟨?_, h0, h1⟩
  rw [h, Int.mul_comm]
  omega
theorem d6_eq (c : Int) (m : Nat) : c = c / p6 m * p6 m + c % p6 m := by
  have h := Int.mul_ediv_add_emod c (p6 m)
  rw [Int.mul_comm] at h
  exact h.symm
theorem d6_lo (c : Int) (m : Nat) : 0 ≤ c % p6 m ∧ c % p6 m < p6 m := ⟨Int.emod_nonneg _ (by have := p6_pos m; omega), Int.emod_lt_of_pos _ (p6_pos m)⟩
theorem d6_mod (c : Int) (m : Nat) : c % p6 (m + 1) = c / p6 m % 6 * p6 m + c % p6 m := by
  have hp := p6_pos m
  have h1 := d6_eq c m
  have h2 : c / p6 m = 6 * (c / p6 m / 6) + c / p6 m % 6 := by omega
  have h3 := d6_lo c m
  have h4 : 0 ≤ c / p6 m % 6 ∧ c / p6 m % 6 < 6 := by omega
  have hu := (Int.ediv_emod_unique (a := c) (b := p6 (m + 1)) (r := c / p6 m % 6 * p6 m + c % p6 m) (q := c / p6 m / 6) (p6_pos (m + 1))).mpr
  generalize c / p6 m % 6 = b at *
  generalize c / p6 m / 6 = a at *
  generalize c % p6 m = r at *
  refine (hu ⟨?_, ?_⟩).2
  · rw [h1, h2, p6_s]
    grind
  · rw [p6_s]
    rcases (show b = 0 ∨ b = 1 ∨ b = 2 ∨ b = 3 ∨ b = 4 ∨ b = 5 by omega) with rfl | rfl | rfl | rfl | rfl | rfl <;> omega
theorem m6_dm (c : Int) (m : Nat) : c % p6 (m + 1) / p6 m = c / p6 m % 6 ∧ c % p6 (m + 1) % p6 m = c % p6 m :=
  d6_mk m (d6_mod c m) (d6_lo c m).1 (d6_lo c m).2
theorem dg6_mod (c : Int) {j : Nat} : ∀ m : Nat, j < m → c % p6 m / p6 j % 6 = c / p6 j % 6 := by
  intro m
  induction m generalizing c with
  | zero => intro h; omega
  | succ m ih =>
    intro h
    by_cases hj : j = m
    · subst hj
      rw [(m6_dm c j).1]
      omega
    · rw [← ih (c % p6 (m + 1)) (by omega), (m6_dm c m).2, ih c (by omega)]
/-- the digit of good i -/
def g6 (c i : Int) : Int := c / p6 i.toNat % 6
def dA (x : Int) : Int := if x < 3 then 0 else if x < 5 then 1 else 2
def dB (x : Int) : Int := if x < 3 then x else if x < 5 then x - 3 else 0
def enc (a b : Int) : Int := if a = 0 then b else if a = 1 then 3 + b else 5
theorem g6_bd (c i : Int) : 0 ≤ g6 c i ∧ g6 c i ≤ 5 := by unfold g6; omega
theorem dAB_bd {x : Int} (h : 0 ≤ x ∧ x ≤ 5) : (0 ≤ dA x ∧ dA x ≤ 2) ∧ (0 ≤ dB x ∧ dB x ≤ 2) := by
  rcases (show x = 0 ∨ x = 1 ∨ x = 2 ∨ x = 3 ∨ x = 4 ∨ x = 5 by omega) with rfl | rfl | rfl | rfl | rfl | rfl <;> decide
theorem enc_AB {a b : Int} (ha : 0 ≤ a) (hb : 0 ≤ b) (h : a + b ≤ 2) : (0 ≤ enc a b ∧ enc a b ≤ 5) ∧ dA (enc a b) = a ∧ dB (enc a b) = b := by
  rcases (show (a = 0 ∧ b = 0) ∨ (a = 0 ∧ b = 1) ∨ (a = 0 ∧ b = 2) ∨ (a = 1 ∧ b = 0) ∨ (a = 1 ∧ b = 1) ∨ (a = 2 ∧ b = 0) by omega) with ⟨rfl, rfl⟩ | ⟨rfl, rfl⟩ | ⟨rfl, rfl⟩ | ⟨rfl, rfl⟩ | ⟨rfl, rfl⟩ | ⟨rfl, rfl⟩ <;> decide
theorem code6_of {e : Int → Int} (he : ∀ i : Int, 0 ≤ i → i < n → 0 ≤ e i ∧ e i ≤ 5) : ∃ c : Int, 0 ≤ c ∧ c < p6 n ∧ ∀ i : Int, 0 ≤ i → i < n → g6 c i = e i := by
  have key : ∀ m : Nat, m ≤ n → ∃ c : Int, 0 ≤ c ∧ c < p6 m ∧ ∀ j : Nat, j < m → c / p6 j % 6 = e j := by
    intro m
    induction m with
    | zero => intro _; exact ⟨0, Int.le_refl 0, by decide, fun j hj => absurd hj (by omega)⟩
    | succ m ih =>
      intro hm
      obtain ⟨c, h0, h1, h2⟩ := ih (by omega)
      have hb := he (m : Int) (by omega) (by omega)
      obtain ⟨e1, e2⟩ := d6_mk (c := e m * p6 m + c) m rfl h0 h1
      have hp := p6_pos m
      refine ⟨e m * p6 m + c, ?_, ?_, fun j hj => ?_⟩
      · rcases (show e m = 0 ∨ e m = 1 ∨ e m = 2 ∨ e m = 3 ∨ e m = 4 ∨ e m = 5 by omega) with q | q | q | q | q | q <;> rw [q] <;> omega
      · rw [p6_s]
        rcases (show e m = 0 ∨ e m = 1 ∨ e m = 2 ∨ e m = 3 ∨ e m = 4 ∨ e m = 5 by omega) with q | q | q | q | q | q <;> rw [q] <;> omega
      · by_cases hjm : j = m
        · subst hjm
          rw [e1]
          omega
        · rw [← dg6_mod _ m (by omega), e2]
          exact h2 j (by omega)
  obtain ⟨c, h0, h1, h2⟩ := key n (Nat.le_refl n)
  refine ⟨c, h0, h1, fun i a b => ?_⟩
  have := h2 i.toNat (by omega)
  rw [show ((i.toNat : Nat) : Int) = i by omega] at this
  exact this
/-- code c says two choices that go -/
def ok6 (n : Nat) (w s : Int → Int) (L a c : Int) : Prop := (∀ i : Int, 0 ≤ i → i < n → dA (g6 c i) + dB (g6 c i) ≤ s i) ∧ sm w (fun i => dA (g6 c i)) n ≤ L ∧ sm w (fun i => dB (g6 c i)) n ≤ a
def val6 (n : Nat) (v : Int → Int) (c : Int) : Int := sm v (fun i => dA (g6 c i)) n + sm v (fun i => dB (g6 c i)) n
theorem T2_6 (hD : gD n w v s f L) {a x : Int} : T2 n w v s L a x ↔ ∃ c : Int, 0 ≤ c ∧ c < p6 n ∧ ok6 n w s L a c ∧ val6 n v c = x := by
  constructor
  · rintro ⟨pa, pb, hp, h1, h2, h3⟩
    have hb : ∀ i : Int, 0 ≤ i → i < n → 0 ≤ pa i ∧ 0 ≤ pb i ∧ pa i + pb i ≤ 2 := fun i q0 q1 => by
      have := hp i q0 q1
      have := (hD.2.2 i q0 q1).2.2.1
      omega
    obtain ⟨c, c0, c1, hc⟩ := code6_of (n := n) (e := fun i => enc (pa i) (pb i)) (fun i q0 q1 => (enc_AB (hb i q0 q1).1 (hb i q0 q1).2.1 (hb i q0 q1).2.2).1)
    have eA : ∀ i : Int, 0 ≤ i → i < n → dA (g6 c i) = pa i := fun i q0 q1 => by rw [hc i q0 q1]; exact (enc_AB (hb i q0 q1).1 (hb i q0 q1).2.1 (hb i q0 q1).2.2).2.1
    have eB : ∀ i : Int, 0 ≤ i → i < n → dB (g6 c i) = pb i := fun i q0 q1 => by rw [hc i q0 q1]; exact (enc_AB (hb i q0 q1).1 (hb i q0 q1).2.1 (hb i q0 q1).2.2).2.2
    refine ⟨c, c0, c1, ⟨fun i q0 q1 => by rw [eA i q0 q1, eB i q0 q1]; exact (hp i q0 q1).2.2, ?_, ?_⟩, ?_⟩
    · rw [sm_cg n eA]; exact h1
    · rw [sm_cg n eB]; exact h2
    · unfold val6
      rw [sm_cg n eA, sm_cg n eB]
      exact h3
  · rintro ⟨c, c0, c1, ⟨h1, h2, h3⟩, h4⟩
    refine ⟨fun i => dA (g6 c i), fun i => dB (g6 c i), fun i q0 q1 => ?_, h2, h3, h4⟩
    have hb := dAB_bd (g6_bd c i)
    exact ⟨hb.1.1, hb.2.1, h1 i q0 q1⟩
theorem ok_X1_both (hD : gD n w v s f L) (hI : mI n w v s f L σ) {c a : Int} (hc : 0 ≤ c ∧ c ≤ 2147483647) (ha : 0 ≤ a ∧ a ≤ 60) {post : Int → gS → Prop} (h1 : ok6 n w s L a c → post (val6 n v c) σ) (h0 : ¬ ok6 n w s L a c → post (-1) σ) : Ok_X1_both c a σ post := by
  have hn := hD.1
  have hL := hD.2.1
  intro Z14 Z57 Z84 Z162 r14 r57 r84 r162
  have bd : ∀ k : Nat, k ≤ n → (0 ≤ sm w (fun i => dA (g6 c i)) k ∧ sm w (fun i => dA (g6 c i)) k ≤ 280) ∧ (0 ≤ sm w (fun i => dB (g6 c i)) k ∧ sm w (fun i => dB (g6 c i)) k ≤ 280) := by
    intro k hk
    have h1 := sm_bd (w := w) (p := fun i => dA (g6 c i)) (B := 20) k (fun i q0 q1 => by
      have := (hD.2.2 i q0 (by omega)).1
      exact ⟨(dAB_bd (g6_bd c i)).1, by omega⟩)
    have h2 := sm_bd (w := w) (p := fun i => dB (g6 c i)) (B := 20) k (fun i q0 q1 => by
      have := (hD.2.2 i q0 (by omega)).1
      exact ⟨(dAB_bd (g6_bd c i)).2, by omega⟩)
    omega
  have loop : ∀ (t k : Nat), k + t = n → (∀ i : Int, 0 ≤ i → i < k → dA (g6 c i) + dB (g6 c i) ≤ s i) → Z14 (c / p6 k) (sm w (fun i => dA (g6 c i)) k) (sm w (fun i => dB (g6 c i)) k) (sm v (fun i => dA (g6 c i)) k + sm v (fun i => dB (g6 c i)) k) (k : Int) σ := by
    intro t
    induction t with
    | zero =>
      intro k hk hv
      have hkn : k = n := by omega
      subst hkn
      have hb := bd k (Nat.le_refl k)
      refine r14 _ _ _ _ _ _ ⟨by omega, by rw [hI.1]; omega, fun _ => ?_, fun q => absurd q (by rw [hI.1]; omega)⟩
      refine r162 _ _ _ _ ?_
      rw [hI.2.1]
      refine ⟨by omega, by omega, fun q => h0 (fun z => by have := z.2.1; omega), fun q => ⟨by omega, by omega, fun q2 => h0 (fun z => by have := z.2.2; omega), fun q2 => ?_⟩⟩
      exact h1 ⟨hv, q, q2⟩
    | succ t ih =>
      intro k hk hv
      have hq0 : 0 ≤ c / p6 k := Int.ediv_nonneg hc.1 (Int.le_of_lt (p6_pos k))
      have hq1 : c / p6 k ≤ c := Int.ediv_le_self _ hc.1
      obtain ⟨e1, e2, e3, e4⟩ := hI.2.2 (k : Int) (by omega) (by omega)
      obtain ⟨bw, bv, bs, bf⟩ := hD.2.2 (k : Int) (by omega) (by omega)
      have hg : g6 c k = c / p6 k % 6 := by unfold g6; rw [show ((k : Int)).toNat = k by omega]
      have hgb := g6_bd c k
      have hab := dAB_bd hgb
      have z84 : Z84 (c / p6 k) (sm w (fun i => dA (g6 c i)) k) (sm w (fun i => dB (g6 c i)) k) (sm v (fun i => dA (g6 c i)) k + sm v (fun i => dB (g6 c i)) k) (k : Int) (dA (g6 c k)) (dB (g6 c k)) σ := by
        refine r84 _ _ _ _ _ _ _ _ ?_
        rw [e1, e2, e3]
        refine ⟨by omega, by omega, by omega, fun q => ?_, fun q => h0 (fun z => by have := z.1 k (by omega) (by omega); omega)⟩
        intro y1 hy1 y2 hy2 y3 hy3
        refine ⟨by omega, ?_⟩
        intro y4 hy4
        rw [hy4, d6_step]
        have hz := ih (k + 1) (by omega) (fun i q0 q1 => by
          by_cases hik : i = (k : Int)
          · rw [hik]; exact q
          · exact hv i q0 (by omega))
        rw [sm_s, sm_s, sm_s, sm_s] at hz
        rw [hy1, hy2, hy3, Int.add_mul]
        rw [show sm v (fun i => dA (g6 c i)) k + sm v (fun i => dB (g6 c i)) k + (dA (g6 c k) * v k + dB (g6 c k) * v k) = sm v (fun i => dA (g6 c i)) k + dA (g6 c k) * v k + (sm v (fun i => dB (g6 c i)) k + dB (g6 c k) * v k) by omega]
        exact hz
      have z57 : Z57 (c / p6 k) (sm w (fun i => dA (g6 c i)) k) (sm w (fun i => dB (g6 c i)) k) (sm v (fun i => dA (g6 c i)) k + sm v (fun i => dB (g6 c i)) k) (k : Int) (g6 c k) (dA (g6 c k)) σ := by
        refine r57 _ _ _ _ _ _ _ _ ⟨by omega, fun q => ⟨fun q2 => ?_, fun q2 => ?_⟩, fun q => ?_⟩
        · have e : dB (g6 c k) = 0 := by unfold dB; rw [if_neg (by omega), if_neg (by omega)]
          rw [e] at z84
          exact z84
        · have e : dB (g6 c k) = g6 c k - 3 := by unfold dB; rw [if_neg (by omega), if_pos (by omega)]
          rw [e] at z84
          exact z84
        · have e : dB (g6 c k) = g6 c k := by unfold dB; rw [if_pos (by omega)]
          rw [e] at z84
          exact z84
      refine r14 _ _ _ _ _ _ ⟨by omega, by rw [hI.1]; omega, fun q => absurd q (by rw [hI.1]; omega), fun _ => ⟨fun q => absurd q (by omega), fun _ => ⟨by omega, ?_⟩⟩⟩
      intro y hy
      rw [← hg] at hy
      subst hy
      refine ⟨by omega, fun q => ⟨fun q2 => ?_, fun q2 => ?_⟩, fun q => ?_⟩
      · have e : dA (g6 c k) = 2 := by unfold dA; rw [if_neg (by omega), if_neg (by omega)]
        rw [e] at z57
        exact z57
      · have e : dA (g6 c k) = 1 := by unfold dA; rw [if_neg (by omega), if_pos (by omega)]
        rw [e] at z57
        exact z57
      · have e : dA (g6 c k) = 0 := by unfold dA; rw [if_pos (by omega)]
        rw [e] at z57
        exact z57
  have h9 := loop n 0 (by omega) (fun i q0 q1 => absurd q1 (by omega))
  have e0 : c / p6 0 = c := Int.ediv_one c
  rw [e0] at h9
  exact h9
theorem ok_X1_two (hD : gD n w v s f L) (hI : mI n w v s f L σ) {a : Int} (ha : gR a) {post : Int → gS → Prop} (h : (0 ≤ a ∧ a ≤ 60) → ∀ r : Int, mx (T2 n w v s L a) r → post r σ) (h0 : ¬ (0 ≤ a ∧ a ≤ 60) → post (-1) σ) : Ok_X1_two a σ post := by
  have hn := hD.1
  have hL := hD.2.1
  have hp6 := p6_7 hn
  have hpp := p6_pos n
  intro Z16 Z40 r16 r40
  have main : (0 ≤ a ∧ a ≤ 60) → Z16 1 0 σ := by
    intro ha2
    have hs2 : ∀ i : Int, 0 ≤ i → i < n → 0 ≤ s i ∧ s i ≤ 2 := fun i q0 q1 => by have := (hD.2.2 i q0 q1).2.2.1; omega
    have vb : ∀ c : Int, 0 ≤ c → c < p6 n → ok6 n w s L a c → 0 ≤ val6 n v c ∧ val6 n v c ≤ 1400 := fun c c0 c1 hc => T2_bd hD hs2 ((T2_6 hD).mpr ⟨c, c0, c1, hc, rfl⟩)
    have codes : ∀ (t c : Nat), ((c + t : Nat) : Int) = p6 n → ∀ r : Int, T2 n w v s L a r → (0 ≤ r ∧ r ≤ 1400) → (∀ d : Int, 0 ≤ d → d < c → ok6 n w s L a d → val6 n v d ≤ r) → Z40 (p6 n) r (c : Int) σ := by
      intro t
      induction t with
      | zero =>
        intro c hc r hr hb hm
        refine r40 _ _ _ _ ⟨by omega, by omega, fun _ => h ha2 r (Or.inr ⟨hb.1, hr, fun x hx => ?_⟩), fun q => absurd q (by omega)⟩
        obtain ⟨d, d0, d1, hd, e⟩ := (T2_6 hD).mp hx
        have := hm d d0 (by omega) hd
        omega
      | succ t ih =>
        intro c hc r hr hb hm
        refine r40 _ _ _ _ ⟨by omega, by omega, fun q => absurd q (by omega), fun _ => ?_⟩
        refine ok_X1_both hD hI ⟨by omega, by omega⟩ ha2 (fun hok => ?_) (fun hno => ⟨by omega, by omega, fun q => ?_, fun q => absurd q (by omega)⟩)
        · have hv := vb c (by omega) (by omega) hok
          refine ⟨by omega, by omega, fun q => ?_, fun q => ?_⟩
          · refine ih (c + 1) (by omega) r hr hb (fun d d0 d1 hd => ?_)
            by_cases hdc : d = (c : Int)
            · rw [hdc]; exact q
            · exact hm d d0 (by omega) hd
          · refine ih (c + 1) (by omega) _ ((T2_6 hD).mpr ⟨c, by omega, by omega, hok, rfl⟩) hv (fun d d0 d1 hd => ?_)
            by_cases hdc : d = (c : Int)
            · rw [hdc]; exact Int.le_refl _
            · have := hm d d0 (by omega) hd
              omega
        · refine ih (c + 1) (by omega) r hr hb (fun d d0 d1 hd => ?_)
          by_cases hdc : d = (c : Int)
          · rw [hdc] at hd; exact absurd hd hno
          · exact hm d d0 (by omega) hd
    have pow : ∀ (t k : Nat), k + t = n → Z16 (p6 k) (k : Int) σ := by
      intro t
      induction t with
      | zero =>
        intro k hk
        refine r16 _ _ _ ⟨by omega, by rw [hI.1]; omega, fun _ => ?_, fun q => absurd q (by rw [hI.1]; omega)⟩
        rw [show k = n by omega]
        exact codes (p6 n).toNat 0 (by omega) 0 (T2_z (fun i q0 q1 => (hs2 i q0 q1).1) hL.1 ha2.1) (by omega) (fun d d0 d1 => absurd d1 (by omega))
      | succ t ih =>
        intro k hk
        refine r16 _ _ _ ⟨by omega, by rw [hI.1]; omega, fun q => absurd q (by rw [hI.1]; omega), fun _ => ?_⟩
        intro q hq
        rw [hq]
        exact ih (k + 1) (by omega)
    exact pow n 0 (by omega)
  exact ⟨ha, fun q => h0 (by omega), fun q => ⟨fun q2 => main ⟨q, q2⟩, fun q2 => h0 (by omega)⟩⟩
end
end
section
/-! PURE, 9: both objects hold the same goods; one call of each answers alike and keeps that -/
set_option maxRecDepth 100000
/-- both objects hold the same goods and the same limit -/
def sy (σ τ : gS) : Prop := ∃ (n : Nat) (w v s f : Int → Int) (L : Int), gD n w v s f L ∧ xI n w v s f L σ ∧ mI n w v s f L τ
theorem sy.mk {n : Nat} {w v s f : Int → Int} {L : Int} {σ τ : gS} (hD : gD n w v s f L) (hx : xI n w v s f L σ) (hm : mI n w v s f L τ) : sy σ τ := ⟨n, w, v, s, f, L, hD, hx, hm⟩
/-- what a pair of calls leaves -/
def syQ (z : Int) (u : gS) (z' : Int) (u' : gS) : Prop := z = z' ∧ sy u u'
section
variable {σ τ : gS}
theorem sy_add (h : sy σ τ) {a1 a2 a3 : Int} (g1 : gR a1) (g2 : gR a2) (g3 : gR a3) : Ok_X0_add a1 a2 a3 σ (fun z u => Ok_X1_add a1 a2 a3 τ (syQ z u)) := by
  obtain ⟨n, w, v, s, f, L, hD, hx, hm⟩ := h
  refine ok_X0_add hD hx g1 g2 g3 (fun hk u hu => ?_) (fun hno => ?_)
  · refine ok_X1_add hD hm g1 g2 g3 (fun _ u' hu' => ⟨rfl, sy.mk (gD_ins hD hk.2.2.2 hk.1 hk.2.1 ?_ ?_) hu hu'⟩) (fun hno => absurd hk hno)
    · have := hk.2.2.1
      omega
    · omega
  · exact ok_X1_add hD hm g1 g2 g3 (fun hk => absurd hk hno) (fun _ => ⟨rfl, sy.mk hD hx hm⟩)
theorem sy_sow (h : sy σ τ) {a1 a2 : Int} (g1 : gR a1) (g2 : gR a2) : Ok_X0_sow a1 a2 σ (fun z u => Ok_X1_sow a1 a2 τ (syQ z u)) := by
  obtain ⟨n, w, v, s, f, L, hD, hx, hm⟩ := h
  have hN : soN n a2 ≤ 7 := by
    unfold soN
    split <;> omega
  refine ok_X0_sow hD hx g1 g2 (fun hk u hu => ?_) (fun hno => ?_)
  · exact ok_X1_sow hD hm g1 g2 (fun _ u' hu' => ⟨rfl, sy.mk (gD_sow hD hN) hu hu'⟩) (fun hno => absurd hk hno)
  · exact ok_X1_sow hD hm g1 g2 (fun hk => absurd hk hno) (fun _ => ⟨rfl, sy.mk hD hx hm⟩)
theorem sy_drop (h : sy σ τ) {a : Int} (g1 : gR a) : Ok_X0_drop a σ (fun z u => Ok_X1_drop a τ (syQ z u)) := by
  obtain ⟨n, w, v, s, f, L, hD, hx, hm⟩ := h
  refine ok_X0_drop hD hx g1 (fun hk u hu => ?_) (fun hno => ?_)
  · exact ok_X1_drop hD hm g1 (fun _ u' hu' => ⟨rfl, sy.mk (gD_del hD hk) hu hu'⟩) (fun hno => absurd hk hno)
  · exact ok_X1_drop hD hm g1 (fun hk => absurd hk hno) (fun _ => ⟨rfl, sy.mk hD hx hm⟩)
theorem sy_limit (h : sy σ τ) {a : Int} (g1 : gR a) : Ok_X0_limit a σ (fun z u => Ok_X1_limit a τ (syQ z u)) := by
  obtain ⟨n, w, v, s, f, L, hD, hx, hm⟩ := h
  refine ok_X0_limit hx g1 (fun hk u hu => ?_) (fun hno => ?_)
  · exact ok_X1_limit hm g1 (fun _ u' hu' => ⟨rfl, sy.mk ⟨hD.1, hk, hD.2.2⟩ hu hu'⟩) (fun hno => absurd hk hno)
  · exact ok_X1_limit hm g1 (fun hk => absurd hk hno) (fun _ => ⟨rfl, sy.mk hD hx hm⟩)
theorem sy_goods (h : sy σ τ) : Ok_X0_goods σ (fun z u => Ok_X1_goods τ (syQ z u)) := by
  obtain ⟨n, w, v, s, f, L, hD, hx, hm⟩ := h
  show syQ (σ 9 0) σ (τ 0 0) τ
  exact ⟨hx.1.trans hm.1.symm, sy.mk hD hx hm⟩
theorem sy_weightOf (h : sy σ τ) {a : Int} (g1 : gR a) : Ok_X0_weightOf a σ (fun z u => Ok_X1_weightOf a τ (syQ z u)) := by
  obtain ⟨n, w, v, s, f, L, hD, hx, hm⟩ := h
  refine ok_X0_weightOf hD hx g1 (fun hk u hu => ?_) (fun hno u hu => ?_)
  · exact ok_X1_weightOf hD hm g1 (fun _ u' hu' => ⟨rfl, sy.mk hD (hu.I hx) (hu'.I hm)⟩) (fun hno => absurd hk hno)
  · exact ok_X1_weightOf hD hm g1 (fun hk => absurd hk hno) (fun _ u' hu' => ⟨rfl, sy.mk hD (hu.I hx) (hu'.I hm)⟩)
theorem sy_valueOf (h : sy σ τ) {a : Int} (g1 : gR a) : Ok_X0_valueOf a σ (fun z u => Ok_X1_valueOf a τ (syQ z u)) := by
  obtain ⟨n, w, v, s, f, L, hD, hx, hm⟩ := h
  refine ok_X0_valueOf hD hx g1 (fun hk u hu => ?_) (fun hno u hu => ?_)
  · exact ok_X1_valueOf hD hm g1 (fun _ u' hu' => ⟨rfl, sy.mk hD (hu.I hx) (hu'.I hm)⟩) (fun hno => absurd hk hno)
  · exact ok_X1_valueOf hD hm g1 (fun hk => absurd hk hno) (fun _ u' hu' => ⟨rfl, sy.mk hD (hu.I hx) (hu'.I hm)⟩)
theorem sPr_free {n : Nat} {w s f : Int → Int} {L : Int} (c : Int) : (isC s n c ∧ ew w n n c ≤ L) ↔ sPr n w s f L 0 (-1) c :=
  ⟨fun h => ⟨h.1, h.2, fun q => absurd rfl q, fun q => absurd q (by omega)⟩, fun h => ⟨h.1, h.2.1⟩⟩
theorem sy_best (h : sy σ τ) : Ok_X0_best σ (fun z u => Ok_X1_best τ (syQ z u)) := by
  obtain ⟨n, w, v, s, f, L, hD, hx, hm⟩ := h
  refine ok_X0_best hD hx (fun x u hu hb => ?_)
  exact ok_X1_best hD hm (fun r u' hu' hr => ⟨bvR_u (fun c => sPr_free c) hb (sOK_bv hr), sy.mk hD (hu.I hx) (hu'.I hm)⟩)
theorem sy_bestCode (h : sy σ τ) : Ok_X0_bestCode σ (fun z u => Ok_X1_bestCode τ (syQ z u)) := by
  obtain ⟨n, w, v, s, f, L, hD, hx, hm⟩ := h
  refine ok_X0_bestCode hD hx (fun x u hu hb => ?_)
  exact ok_X1_bestCode hD hm (fun r u' hu' hr => ⟨sOK_u hb hr, sy.mk hD (hu.I hx) (hu'.I hm)⟩)
theorem sy_bestStrict (h : sy σ τ) : Ok_X0_bestStrict σ (fun z u => Ok_X1_bestStrict τ (syQ z u)) := by
  obtain ⟨n, w, v, s, f, L, hD, hx, hm⟩ := h
  refine ok_X0_bestStrict hD hx (fun x u hu hb => ?_)
  exact ok_X1_bestStrict hD hm (fun r u' hu' hr => ⟨bvR_u (fun c => Iff.rfl) hb (sOK_bv hr), sy.mk hD (hu.I hx) (hu'.I hm)⟩)
theorem sy_bestStrictCode (h : sy σ τ) : Ok_X0_bestStrictCode σ (fun z u => Ok_X1_bestStrictCode τ (syQ z u)) := by
  obtain ⟨n, w, v, s, f, L, hD, hx, hm⟩ := h
  refine ok_X0_bestStrictCode hD hx (fun x u hu hb => ?_)
  exact ok_X1_bestStrictCode hD hm (fun r u' hu' hr => ⟨sOK_u hb hr, sy.mk hD (hu.I hx) (hu'.I hm)⟩)
theorem sy_fitting (h : sy σ τ) : Ok_X0_fitting σ (fun z u => Ok_X1_fitting τ (syQ z u)) := by
  obtain ⟨n, w, v, s, f, L, hD, hx, hm⟩ := h
  refine ok_X0_fitting hD hx (fun u hu => ?_)
  exact ok_X1_fitting hD hm (fun u' hu' => ⟨rfl, sy.mk hD (hu.I hx) (hu'.I hm)⟩)
theorem sy_weighing (h : sy σ τ) {a : Int} (g1 : gR a) : Ok_X0_weighing a σ (fun z u => Ok_X1_weighing a τ (syQ z u)) := by
  obtain ⟨n, w, v, s, f, L, hD, hx, hm⟩ := h
  refine ok_X0_weighing hD hx g1 (fun hk u hu => ?_) (fun hno => ?_)
  · exact ok_X1_weighing hD hm g1 (fun _ u' hu' => ⟨rfl, sy.mk hD (hu.I hx) (hu'.I hm)⟩) (fun hno => absurd hk hno)
  · exact ok_X1_weighing hD hm g1 (fun hk => absurd hk hno) (fun _ => ⟨rfl, sy.mk hD hx hm⟩)
theorem sy_fullest (h : sy σ τ) : Ok_X0_fullest σ (fun z u => Ok_X1_fullest τ (syQ z u)) := by
  obtain ⟨n, w, v, s, f, L, hD, hx, hm⟩ := h
  refine ok_X0_fullest hD hx (fun x u hu hb => ?_)
  exact ok_X1_fullest hD hm (fun r u' hu' hr => ⟨fuR_u hb hr, sy.mk hD (hu.I hx) (hu'.I hm)⟩)
theorem sy_lightest (h : sy σ τ) {a : Int} (g1 : gR a) : Ok_X0_lightest a σ (fun z u => Ok_X1_lightest a τ (syQ z u)) := by
  obtain ⟨n, w, v, s, f, L, hD, hx, hm⟩ := h
  refine ok_X0_lightest hD hx g1 (fun x u hu hb => ?_)
  exact ok_X1_lightest hD hm g1 (fun r u' hu' hr => ⟨liR_u hb hr, sy.mk hD (hu.I hx) (hu'.I hm)⟩)
theorem sy_two (h : sy σ τ) {a : Int} (g1 : gR a) : Ok_X0_two a σ (fun z u => Ok_X1_two a τ (syQ z u)) := by
  obtain ⟨n, w, v, s, f, L, hD, hx, hm⟩ := h
  refine ok_X0_two hD hx g1 (fun hk x u hu hb => ?_) (fun hno => ?_)
  · exact ok_X1_two hD hm g1 (fun _ r hr => ⟨mx_u hb hr, sy.mk hD (hu.I hx) hm⟩) (fun hno => absurd hk hno)
  · exact ok_X1_two hD hm g1 (fun hk => absurd hk hno) (fun _ => ⟨rfl, sy.mk hD hx hm⟩)
theorem sy_without (h : sy σ τ) {a : Int} (g1 : gR a) : Ok_X0_without a σ (fun z u => Ok_X1_without a τ (syQ z u)) := by
  obtain ⟨n, w, v, s, f, L, hD, hx, hm⟩ := h
  refine ok_X0_without hD hx g1 (fun hk x u hu hb => ?_) (fun hno => ?_)
  · refine ok_X1_without hD hm g1 (fun _ r u' hu' hr => ⟨bvR_u (fun c => ?_) hb (sOK_bv hr), sy.mk hD (hu.I hx) (hu'.I hm)⟩) (fun hno => absurd hk hno)
    show (isC (so s a) n c ∧ ew w n n c ≤ L) ↔ sPr n w s f L 0 a c
    rw [isC_out hD.s0 hk c]
    exact ⟨fun q => ⟨q.1.1, q.2, fun z => absurd rfl z, fun _ => q.1.2⟩, fun q => ⟨⟨q.1, q.2.2.2 hk.1⟩, q.2.1⟩⟩
  · exact ok_X1_without hD hm g1 (fun hk => absurd hk hno) (fun _ => ⟨rfl, sy.mk hD hx hm⟩)
theorem sy_halves (h : sy σ τ) : Ok_X0_halves σ (fun z u => Ok_X1_halves τ (syQ z u)) := by
  obtain ⟨n, w, v, s, f, L, hD, hx, hm⟩ := h
  refine ok_X0_halves hD hx (fun u hu => ?_)
  exact ok_X1_halves hD hm (fun u' hu' => ⟨rfl, sy.mk hD (hu.I hx) (hu'.I hm)⟩)
/-- the start: no goods, the limit 20 -/
theorem sy_start (h9 : σ 9 0 = 0) (h10 : σ 10 0 = 20) (k0 : τ 0 0 = 0) (k5 : τ 5 0 = 20) : sy σ τ :=
  ⟨0, fun _ => 0, fun _ => 0, fun _ => 0, fun _ => 0, 20, ⟨by decide, by decide, fun k a b => absurd b (by omega)⟩, ⟨h9, h10, fun k a b => absurd b (by omega)⟩, ⟨k0, k5, fun k a b => absurd b (by omega)⟩⟩
end
end
section
/-! the constructors -/
set_option maxRecDepth 100000
theorem gz_cell (n : Nat) (cA : ClassId) : vp_cell cA (n, .inl (fun _ : Nat => iI 0)) = arrV cA n (fun _ => defaultValue .int) := by
  rw [vp_cell_i, iI_0]
  rfl
/-- int[n], of the class that int arrays have -/
theorem gz_newa {p : Program} {l : Launch} {e : Env} {R : Room} {s : State} {m : MethodId} {args : Array Value} {below : List Frame} {meth : Method} {c : Code} {H H0 : Heap} {locs : List Loc} {cells slots : Nat} {Q : State → Prop} {D : va_G} {cl : List vw_C} {d : ClassId} {ws : va_W} {A : Nat → Prop} {pc : Nat} {ls : Array Slot} {rest : List Value} {cc : ByteArray} (hexec : p.tables.exec = Jvm.exec) (hb : c.code = cc) (harr : (Cond.arrayClass .int).before args s = true) (hK : va_K D cl [(d, .int)] s) (hP : va_P D cl ws H) (hD : va_D A ws) (hS : va_S A H0 H locs) (hA : ∀ q, H0.size ≤ q → A q)
    {n : Int32} {N' : Nat} (hn : ¬ n < 0) (hN : n.toNatClampNeg = N') (hbytes : N' * componentBytes .int ≤ 536870912) (hcells : cells + 1 ≤ R.cells) (hslots : slots + N' ≤ R.slots) (hdg : decode cc pc = .ok (.newarray .int, 2))
    (kk : ∀ (q : Nat) (H1 : Heap), va_P D cl (ws ++ [(q, .inl (d, N', .inl (fun _ : Nat => iI 0)))]) H1 → va_D A (ws ++ [(q, .inl (d, N', .inl (fun _ : Nat => iI 0)))]) → va_S A H0 H1 locs → W p l e R s m args below meth c H1 locs (cells + 1) (slots + N') Q (F0 m (pc + 2) ls (.ref q :: rest))) : W p l e R s m args below meth c H locs cells slots Q (F0 m pc ls (.int n :: rest)) := by
  refine va_newa (atype := .int) (ty := .int) hexec hb harr rfl hK hP hD hS hA (a0 := (N', .inl (fun _ : Nat => iI 0))) (gz_cell N') hn hN hbytes hcells hslots hdg (fun q cA H1 hK1 hP1 hD1 hS1 => ?_)
  have h1 : s.vm.findClass ("[" ++ FieldType.int.toString) = some d := (hK.2 0 _ rfl).2
  have h2 : s.vm.findClass ("[" ++ FieldType.int.toString) = some cA := (hK1.2 1 _ rfl).2
  rw [h1] at h2
  have e : d = cA := Option.some.inj h2
  subst e
  exact kk q H1 hP1 hD1 hS1
def x0S : gS := fun j _ => if j = 10 then 20 else 0
def m0S : gS := fun j _ => if j = 5 then 20 else 0

/-- a new object, all fields as they are at first -/
abbrev XN (h : Nat) : va_W := [(h, .inr (0, [.null, .null, .null, .null, .null, .null, .null, .null, .null, .int (iI 0), .int (iI 0)]))]
set_option maxHeartbeats 4000000 in
theorem mt_X0_init (l : Launch) (D : va_G) (d : ClassId) (h0 sz : Nat) : Met l yX0_init (ws_ yX0_init cX0_init 1 none) { frames := 1, cells := 9, slots := 9657, locals := 12 } (va_Pc [.ref h0] (fun U => U.heap.size = sz ∧ va_P D vwCl (XN h0) U.heap ∧ va_K D vwCl [(d, .int)] U ∧ va_D (fun _ => True) (XN h0))) (va_Qv (fun (_ : Nat → Nat) => True) (fun ad t => va_P D vwCl (XW (l, D, d, h0, ad) x0S) t.heap ∧ va_K D vwCl [(d, .int)] t ∧ va_D (va_A (XN h0) sz) (XW (l, D, d, h0, ad) x0S)) (va_A (XN h0) sz)) 9 9657 (va_A (XN h0) sz) := by
  refine Met.ofW (cc := cX0_init) (maxL := 1) (ret := none) (by decide +kernel) rfl ?_
  intro p e s m args below meth c s₁ B hml hv
  obtain ⟨rfl, hsz, hP, hK, hD0⟩ := hv
  have hx := B.exec
  have hb := B.bytes
  have hr := B.returns
  have hts := atoms_spec (ws := ws_ yX0_init cX0_init 1 none) B.pre
  have hts : ∀ w ∈ lw_all, w.before _ s = true := fun w h => hts w (List.mem_cons_of_mem _ h)
  have hown : s.vm.findClass RX0 = some m.cls := findClass_of_methodNamed B.named
  have hlocks := B.notSynchronized
  have hin : meth.name = "<init>" := (name_of_methodNamed B.named B.method).1
  subst hsz
  have hD := hD0.self (sz := s.heap.size)
  generalize hAe : va_A (XN h0) s.heap.size = A at hD ⊢
  have hA : ∀ q : Nat, s.heap.size ≤ q → A q := fun q h => by rw [← hAe]; exact Or.inr h
  have hS : va_S A s.heap s.heap [] := va_S.rf
  have hl := lv_entry ([.ref h0]) (n := 1) (Nat.le_of_ble_eq_true rfl)
  rw [lg_entry_eq]
  generalize (lg_sl ([.ref h0]) ++ List.replicate (1 - (lg_sl ([.ref h0])).length) Slot.unset).toArray = ls at hl ⊢
  have hl : lv_has ls 1 [(0, .ref h0)] := hl
  refine lv_aload_n hx hb dX0_init_0 rfl (lv_at hl 0 rfl) ?_
  refine W.objInit hx hb hown (hts _ q30) (hts _ q31) (hts _ q32) rfl (by rw [hml]; exact hl.1) rfl dX0_init_1 (Nat.le_of_ble_eq_true rfl) (Nat.le_of_ble_eq_true rfl) ?_
  refine W.eq (g2 := F0 m 4 ls []) rfl ?_
  refine lv_aload_n hx hb dX0_init_4 rfl (lv_at hl 0 rfl) ?_
  refine lv_bipush (v := iI 7) hx hb dX0_init_5 (by decide +kernel) ?_
  refine gz_newa (N' := 7) hx hb (hts _ q67) hK hP hD hS hA (by decide +kernel) (by decide +kernel) (by decide +kernel) (Nat.le_of_ble_eq_true rfl) (Nat.le_of_ble_eq_true rfl) dX0_init_7 (fun q0 H hP hD hS => ?_)
  have hP : va_P D vwCl [(h0, .inr (0, [.null, .null, .null, .null, .null, .null, .null, .null, .null, .int (iI 0), .int (iI 0)])), (q0, .inl (d, 7, .inl (fun _ : Nat => iI 0)))] H := hP
  have hD : va_D A [(h0, .inr (0, [.null, .null, .null, .null, .null, .null, .null, .null, .null, .int (iI 0), .int (iI 0)])), (q0, .inl (d, 7, .inl (fun _ : Nat => iI 0)))] := hD
  refine va_putF (v := .ref q0) (ty := .array .int) hx hb hts in_X0 tyX0 tyX0_ok nmX0 hown hK hP hD hS 0 rfl rfl 0 (by decide) (hts _ q33) (fun x h9 => h9) rfl hin rfl (by decide +kernel) rfl rfl (Nat.le_of_ble_eq_true rfl) dX0_init_9 (fun H locs hP hD hS => ?_)
  have hP : va_P D vwCl [(h0, .inr (0, [.ref q0, .null, .null, .null, .null, .null, .null, .null, .null, .int (iI 0), .int (iI 0)])), (q0, .inl (d, 7, .inl (fun _ : Nat => iI 0)))] H := hP
  have hD : va_D A [(h0, .inr (0, [.ref q0, .null, .null, .null, .null, .null, .null, .null, .null, .int (iI 0), .int (iI 0)])), (q0, .inl (d, 7, .inl (fun _ : Nat => iI 0)))] := hD
  refine lv_aload_n hx hb dX0_init_12 rfl (lv_at hl 0 rfl) ?_
  refine lv_bipush (v := iI 7) hx hb dX0_init_13 (by decide +kernel) ?_
  refine gz_newa (N' := 7) hx hb (hts _ q67) hK hP hD hS hA (by decide +kernel) (by decide +kernel) (by decide +kernel) (Nat.le_of_ble_eq_true rfl) (Nat.le_of_ble_eq_true rfl) dX0_init_15 (fun q1 H hP hD hS => ?_)
  have hP : va_P D vwCl [(h0, .inr (0, [.ref q0, .null, .null, .null, .null, .null, .null, .null, .null, .int (iI 0), .int (iI 0)])), (q0, .inl (d, 7, .inl (fun _ : Nat => iI 0))), (q1, .inl (d, 7, .inl (fun _ : Nat => iI 0)))] H := hP
  have hD : va_D A [(h0, .inr (0, [.ref q0, .null, .null, .null, .null, .null, .null, .null, .null, .int (iI 0), .int (iI 0)])), (q0, .inl (d, 7, .inl (fun _ : Nat => iI 0))), (q1, .inl (d, 7, .inl (fun _ : Nat => iI 0)))] := hD
  refine va_putF (v := .ref q1) (ty := .array .int) hx hb hts in_X0 tyX0 tyX0_ok nmX0 hown hK hP hD hS 0 rfl rfl 1 (by decide) (hts _ q34) (fun x h9 => h9) rfl hin rfl (by decide +kernel) rfl rfl (Nat.le_of_ble_eq_true rfl) dX0_init_17 (fun H locs hP hD hS => ?_)
  have hP : va_P D vwCl [(h0, .inr (0, [.ref q0, .ref q1, .null, .null, .null, .null, .null, .null, .null, .int (iI 0), .int (iI 0)])), (q0, .inl (d, 7, .inl (fun _ : Nat => iI 0))), (q1, .inl (d, 7, .inl (fun _ : Nat => iI 0)))] H := hP
  have hD : va_D A [(h0, .inr (0, [.ref q0, .ref q1, .null, .null, .null, .null, .null, .null, .null, .int (iI 0), .int (iI 0)])), (q0, .inl (d, 7, .inl (fun _ : Nat => iI 0))), (q1, .inl (d, 7, .inl (fun _ : Nat => iI 0)))] := hD
  refine lv_aload_n hx hb dX0_init_20 rfl (lv_at hl 0 rfl) ?_
  refine lv_bipush (v := iI 7) hx hb dX0_init_21 (by decide +kernel) ?_
  refine gz_newa (N' := 7) hx hb (hts _ q67) hK hP hD hS hA (by decide +kernel) (by decide +kernel) (by decide +kernel) (Nat.le_of_ble_eq_true rfl) (Nat.le_of_ble_eq_true rfl) dX0_init_23 (fun q2 H hP hD hS => ?_)
  have hP : va_P D vwCl [(h0, .inr (0, [.ref q0, .ref q1, .null, .null, .null, .null, .null, .null, .null, .int (iI 0), .int (iI 0)])), (q0, .inl (d, 7, .inl (fun _ : Nat => iI 0))), (q1, .inl (d, 7, .inl (fun _ : Nat => iI 0))), (q2, .inl (d, 7, .inl (fun _ : Nat => iI 0)))] H := hP
  have hD : va_D A [(h0, .inr (0, [.ref q0, .ref q1, .null, .null, .null, .null, .null, .null, .null, .int (iI 0), .int (iI 0)])), (q0, .inl (d, 7, .inl (fun _ : Nat => iI 0))), (q1, .inl (d, 7, .inl (fun _ : Nat => iI 0))), (q2, .inl (d, 7, .inl (fun _ : Nat => iI 0)))] := hD
  refine va_putF (v := .ref q2) (ty := .array .int) hx hb hts in_X0 tyX0 tyX0_ok nmX0 hown hK hP hD hS 0 rfl rfl 2 (by decide) (hts _ q35) (fun x h9 => h9) rfl hin rfl (by decide +kernel) rfl rfl (Nat.le_of_ble_eq_true rfl) dX0_init_25 (fun H locs hP hD hS => ?_)
  have hP : va_P D vwCl [(h0, .inr (0, [.ref q0, .ref q1, .ref q2, .null, .null, .null, .null, .null, .null, .int (iI 0), .int (iI 0)])), (q0, .inl (d, 7, .inl (fun _ : Nat => iI 0))), (q1, .inl (d, 7, .inl (fun _ : Nat => iI 0))), (q2, .inl (d, 7, .inl (fun _ : Nat => iI 0)))] H := hP
  have hD : va_D A [(h0, .inr (0, [.ref q0, .ref q1, .ref q2, .null, .null, .null, .null, .null, .null, .int (iI 0), .int (iI 0)])), (q0, .inl (d, 7, .inl (fun _ : Nat => iI 0))), (q1, .inl (d, 7, .inl (fun _ : Nat => iI 0))), (q2, .inl (d, 7, .inl (fun _ : Nat => iI 0)))] := hD
  refine lv_aload_n hx hb dX0_init_28 rfl (lv_at hl 0 rfl) ?_
  refine lv_bipush (v := iI 7) hx hb dX0_init_29 (by decide +kernel) ?_
  refine gz_newa (N' := 7) hx hb (hts _ q67) hK hP hD hS hA (by decide +kernel) (by decide +kernel) (by decide +kernel) (Nat.le_of_ble_eq_true rfl) (Nat.le_of_ble_eq_true rfl) dX0_init_31 (fun q3 H hP hD hS => ?_)
  have hP : va_P D vwCl [(h0, .inr (0, [.ref q0, .ref q1, .ref q2, .null, .null, .null, .null, .null, .null, .int (iI 0), .int (iI 0)])), (q0, .inl (d, 7, .inl (fun _ : Nat => iI 0))), (q1, .inl (d, 7, .inl (fun _ : Nat => iI 0))), (q2, .inl (d, 7, .inl (fun _ : Nat => iI 0))), (q3, .inl (d, 7, .inl (fun _ : Nat => iI 0)))] H := hP
  have hD : va_D A [(h0, .inr (0, [.ref q0, .ref q1, .ref q2, .null, .null, .null, .null, .null, .null, .int (iI 0), .int (iI 0)])), (q0, .inl (d, 7, .inl (fun _ : Nat => iI 0))), (q1, .inl (d, 7, .inl (fun _ : Nat => iI 0))), (q2, .inl (d, 7, .inl (fun _ : Nat => iI 0))), (q3, .inl (d, 7, .inl (fun _ : Nat => iI 0)))] := hD
  refine va_putF (v := .ref q3) (ty := .array .int) hx hb hts in_X0 tyX0 tyX0_ok nmX0 hown hK hP hD hS 0 rfl rfl 3 (by decide) (hts _ q36) (fun x h9 => h9) rfl hin rfl (by decide +kernel) rfl rfl (Nat.le_of_ble_eq_true rfl) dX0_init_33 (fun H locs hP hD hS => ?_)
  have hP : va_P D vwCl [(h0, .inr (0, [.ref q0, .ref q1, .ref q2, .ref q3, .null, .null, .null, .null, .null, .int (iI 0), .int (iI 0)])), (q0, .inl (d, 7, .inl (fun _ : Nat => iI 0))), (q1, .inl (d, 7, .inl (fun _ : Nat => iI 0))), (q2, .inl (d, 7, .inl (fun _ : Nat => iI 0))), (q3, .inl (d, 7, .inl (fun _ : Nat => iI 0)))] H := hP
  have hD : va_D A [(h0, .inr (0, [.ref q0, .ref q1, .ref q2, .ref q3, .null, .null, .null, .null, .null, .int (iI 0), .int (iI 0)])), (q0, .inl (d, 7, .inl (fun _ : Nat => iI 0))), (q1, .inl (d, 7, .inl (fun _ : Nat => iI 0))), (q2, .inl (d, 7, .inl (fun _ : Nat => iI 0))), (q3, .inl (d, 7, .inl (fun _ : Nat => iI 0)))] := hD
  refine lv_aload_n hx hb dX0_init_36 rfl (lv_at hl 0 rfl) ?_
  refine lv_sipush (v := iI 2248) hx hb dX0_init_37 (by decide +kernel) ?_
  refine gz_newa (N' := 2248) hx hb (hts _ q67) hK hP hD hS hA (by decide +kernel) (by decide +kernel) (by decide +kernel) (Nat.le_of_ble_eq_true rfl) (Nat.le_of_ble_eq_true rfl) dX0_init_40 (fun q4 H hP hD hS => ?_)
  have hP : va_P D vwCl [(h0, .inr (0, [.ref q0, .ref q1, .ref q2, .ref q3, .null, .null, .null, .null, .null, .int (iI 0), .int (iI 0)])), (q0, .inl (d, 7, .inl (fun _ : Nat => iI 0))), (q1, .inl (d, 7, .inl (fun _ : Nat => iI 0))), (q2, .inl (d, 7, .inl (fun _ : Nat => iI 0))), (q3, .inl (d, 7, .inl (fun _ : Nat => iI 0))), (q4, .inl (d, 2248, .inl (fun _ : Nat => iI 0)))] H := hP
  have hD : va_D A [(h0, .inr (0, [.ref q0, .ref q1, .ref q2, .ref q3, .null, .null, .null, .null, .null, .int (iI 0), .int (iI 0)])), (q0, .inl (d, 7, .inl (fun _ : Nat => iI 0))), (q1, .inl (d, 7, .inl (fun _ : Nat => iI 0))), (q2, .inl (d, 7, .inl (fun _ : Nat => iI 0))), (q3, .inl (d, 7, .inl (fun _ : Nat => iI 0))), (q4, .inl (d, 2248, .inl (fun _ : Nat => iI 0)))] := hD
  refine va_putF (v := .ref q4) (ty := .array .int) hx hb hts in_X0 tyX0 tyX0_ok nmX0 hown hK hP hD hS 0 rfl rfl 4 (by decide) (hts _ q37) (fun x h9 => h9) rfl hin rfl (by decide +kernel) rfl rfl (Nat.le_of_ble_eq_true rfl) dX0_init_42 (fun H locs hP hD hS => ?_)
  have hP : va_P D vwCl [(h0, .inr (0, [.ref q0, .ref q1, .ref q2, .ref q3, .ref q4, .null, .null, .null, .null, .int (iI 0), .int (iI 0)])), (q0, .inl (d, 7, .inl (fun _ : Nat => iI 0))), (q1, .inl (d, 7, .inl (fun _ : Nat => iI 0))), (q2, .inl (d, 7, .inl (fun _ : Nat => iI 0))), (q3, .inl (d, 7, .inl (fun _ : Nat => iI 0))), (q4, .inl (d, 2248, .inl (fun _ : Nat => iI 0)))] H := hP
  have hD : va_D A [(h0, .inr (0, [.ref q0, .ref q1, .ref q2, .ref q3, .ref q4, .null, .null, .null, .null, .int (iI 0), .int (iI 0)])), (q0, .inl (d, 7, .inl (fun _ : Nat => iI 0))), (q1, .inl (d, 7, .inl (fun _ : Nat => iI 0))), (q2, .inl (d, 7, .inl (fun _ : Nat => iI 0))), (q3, .inl (d, 7, .inl (fun _ : Nat => iI 0))), (q4, .inl (d, 2248, .inl (fun _ : Nat => iI 0)))] := hD
  refine lv_aload_n hx hb dX0_init_45 rfl (lv_at hl 0 rfl) ?_
  refine lv_sipush (v := iI 2248) hx hb dX0_init_46 (by decide +kernel) ?_
  refine gz_newa (N' := 2248) hx hb (hts _ q67) hK hP hD hS hA (by decide +kernel) (by decide +kernel) (by decide +kernel) (Nat.le_of_ble_eq_true rfl) (Nat.le_of_ble_eq_true rfl) dX0_init_49 (fun q5 H hP hD hS => ?_)
  have hP : va_P D vwCl [(h0, .inr (0, [.ref q0, .ref q1, .ref q2, .ref q3, .ref q4, .null, .null, .null, .null, .int (iI 0), .int (iI 0)])), (q0, .inl (d, 7, .inl (fun _ : Nat => iI 0))), (q1, .inl (d, 7, .inl (fun _ : Nat => iI 0))), (q2, .inl (d, 7, .inl (fun _ : Nat => iI 0))), (q3, .inl (d, 7, .inl (fun _ : Nat => iI 0))), (q4, .inl (d, 2248, .inl (fun _ : Nat => iI 0))), (q5, .inl (d, 2248, .inl (fun _ : Nat => iI 0)))] H := hP
  have hD : va_D A [(h0, .inr (0, [.ref q0, .ref q1, .ref q2, .ref q3, .ref q4, .null, .null, .null, .null, .int (iI 0), .int (iI 0)])), (q0, .inl (d, 7, .inl (fun _ : Nat => iI 0))), (q1, .inl (d, 7, .inl (fun _ : Nat => iI 0))), (q2, .inl (d, 7, .inl (fun _ : Nat => iI 0))), (q3, .inl (d, 7, .inl (fun _ : Nat => iI 0))), (q4, .inl (d, 2248, .inl (fun _ : Nat => iI 0))), (q5, .inl (d, 2248, .inl (fun _ : Nat => iI 0)))] := hD
  refine va_putF (v := .ref q5) (ty := .array .int) hx hb hts in_X0 tyX0 tyX0_ok nmX0 hown hK hP hD hS 0 rfl rfl 5 (by decide) (hts _ q38) (fun x h9 => h9) rfl hin rfl (by decide +kernel) rfl rfl (Nat.le_of_ble_eq_true rfl) dX0_init_51 (fun H locs hP hD hS => ?_)
  have hP : va_P D vwCl [(h0, .inr (0, [.ref q0, .ref q1, .ref q2, .ref q3, .ref q4, .ref q5, .null, .null, .null, .int (iI 0), .int (iI 0)])), (q0, .inl (d, 7, .inl (fun _ : Nat => iI 0))), (q1, .inl (d, 7, .inl (fun _ : Nat => iI 0))), (q2, .inl (d, 7, .inl (fun _ : Nat => iI 0))), (q3, .inl (d, 7, .inl (fun _ : Nat => iI 0))), (q4, .inl (d, 2248, .inl (fun _ : Nat => iI 0))), (q5, .inl (d, 2248, .inl (fun _ : Nat => iI 0)))] H := hP
  have hD : va_D A [(h0, .inr (0, [.ref q0, .ref q1, .ref q2, .ref q3, .ref q4, .ref q5, .null, .null, .null, .int (iI 0), .int (iI 0)])), (q0, .inl (d, 7, .inl (fun _ : Nat => iI 0))), (q1, .inl (d, 7, .inl (fun _ : Nat => iI 0))), (q2, .inl (d, 7, .inl (fun _ : Nat => iI 0))), (q3, .inl (d, 7, .inl (fun _ : Nat => iI 0))), (q4, .inl (d, 2248, .inl (fun _ : Nat => iI 0))), (q5, .inl (d, 2248, .inl (fun _ : Nat => iI 0)))] := hD
  refine lv_aload_n hx hb dX0_init_54 rfl (lv_at hl 0 rfl) ?_
  refine lv_sipush (v := iI 1405) hx hb dX0_init_55 (by decide +kernel) ?_
  refine gz_newa (N' := 1405) hx hb (hts _ q67) hK hP hD hS hA (by decide +kernel) (by decide +kernel) (by decide +kernel) (Nat.le_of_ble_eq_true rfl) (Nat.le_of_ble_eq_true rfl) dX0_init_58 (fun q6 H hP hD hS => ?_)
  have hP : va_P D vwCl [(h0, .inr (0, [.ref q0, .ref q1, .ref q2, .ref q3, .ref q4, .ref q5, .null, .null, .null, .int (iI 0), .int (iI 0)])), (q0, .inl (d, 7, .inl (fun _ : Nat => iI 0))), (q1, .inl (d, 7, .inl (fun _ : Nat => iI 0))), (q2, .inl (d, 7, .inl (fun _ : Nat => iI 0))), (q3, .inl (d, 7, .inl (fun _ : Nat => iI 0))), (q4, .inl (d, 2248, .inl (fun _ : Nat => iI 0))), (q5, .inl (d, 2248, .inl (fun _ : Nat => iI 0))), (q6, .inl (d, 1405, .inl (fun _ : Nat => iI 0)))] H := hP
  have hD : va_D A [(h0, .inr (0, [.ref q0, .ref q1, .ref q2, .ref q3, .ref q4, .ref q5, .null, .null, .null, .int (iI 0), .int (iI 0)])), (q0, .inl (d, 7, .inl (fun _ : Nat => iI 0))), (q1, .inl (d, 7, .inl (fun _ : Nat => iI 0))), (q2, .inl (d, 7, .inl (fun _ : Nat => iI 0))), (q3, .inl (d, 7, .inl (fun _ : Nat => iI 0))), (q4, .inl (d, 2248, .inl (fun _ : Nat => iI 0))), (q5, .inl (d, 2248, .inl (fun _ : Nat => iI 0))), (q6, .inl (d, 1405, .inl (fun _ : Nat => iI 0)))] := hD
  refine va_putF (v := .ref q6) (ty := .array .int) hx hb hts in_X0 tyX0 tyX0_ok nmX0 hown hK hP hD hS 0 rfl rfl 6 (by decide) (hts _ q39) (fun x h9 => h9) rfl hin rfl (by decide +kernel) rfl rfl (Nat.le_of_ble_eq_true rfl) dX0_init_60 (fun H locs hP hD hS => ?_)
  have hP : va_P D vwCl [(h0, .inr (0, [.ref q0, .ref q1, .ref q2, .ref q3, .ref q4, .ref q5, .ref q6, .null, .null, .int (iI 0), .int (iI 0)])), (q0, .inl (d, 7, .inl (fun _ : Nat => iI 0))), (q1, .inl (d, 7, .inl (fun _ : Nat => iI 0))), (q2, .inl (d, 7, .inl (fun _ : Nat => iI 0))), (q3, .inl (d, 7, .inl (fun _ : Nat => iI 0))), (q4, .inl (d, 2248, .inl (fun _ : Nat => iI 0))), (q5, .inl (d, 2248, .inl (fun _ : Nat => iI 0))), (q6, .inl (d, 1405, .inl (fun _ : Nat => iI 0)))] H := hP
  have hD : va_D A [(h0, .inr (0, [.ref q0, .ref q1, .ref q2, .ref q3, .ref q4, .ref q5, .ref q6, .null, .null, .int (iI 0), .int (iI 0)])), (q0, .inl (d, 7, .inl (fun _ : Nat => iI 0))), (q1, .inl (d, 7, .inl (fun _ : Nat => iI 0))), (q2, .inl (d, 7, .inl (fun _ : Nat => iI 0))), (q3, .inl (d, 7, .inl (fun _ : Nat => iI 0))), (q4, .inl (d, 2248, .inl (fun _ : Nat => iI 0))), (q5, .inl (d, 2248, .inl (fun _ : Nat => iI 0))), (q6, .inl (d, 1405, .inl (fun _ : Nat => iI 0)))] := hD
  refine lv_aload_n hx hb dX0_init_63 rfl (lv_at hl 0 rfl) ?_
  refine lv_bipush (v := iI 7) hx hb dX0_init_64 (by decide +kernel) ?_
  refine gz_newa (N' := 7) hx hb (hts _ q67) hK hP hD hS hA (by decide +kernel) (by decide +kernel) (by decide +kernel) (Nat.le_of_ble_eq_true rfl) (Nat.le_of_ble_eq_true rfl) dX0_init_66 (fun q7 H hP hD hS => ?_)
  have hP : va_P D vwCl [(h0, .inr (0, [.ref q0, .ref q1, .ref q2, .ref q3, .ref q4, .ref q5, .ref q6, .null, .null, .int (iI 0), .int (iI 0)])), (q0, .inl (d, 7, .inl (fun _ : Nat => iI 0))), (q1, .inl (d, 7, .inl (fun _ : Nat => iI 0))), (q2, .inl (d, 7, .inl (fun _ : Nat => iI 0))), (q3, .inl (d, 7, .inl (fun _ : Nat => iI 0))), (q4, .inl (d, 2248, .inl (fun _ : Nat => iI 0))), (q5, .inl (d, 2248, .inl (fun _ : Nat => iI 0))), (q6, .inl (d, 1405, .inl (fun _ : Nat => iI 0))), (q7, .inl (d, 7, .inl (fun _ : Nat => iI 0)))] H := hP
  have hD : va_D A [(h0, .inr (0, [.ref q0, .ref q1, .ref q2, .ref q3, .ref q4, .ref q5, .ref q6, .null, .null, .int (iI 0), .int (iI 0)])), (q0, .inl (d, 7, .inl (fun _ : Nat => iI 0))), (q1, .inl (d, 7, .inl (fun _ : Nat => iI 0))), (q2, .inl (d, 7, .inl (fun _ : Nat => iI 0))), (q3, .inl (d, 7, .inl (fun _ : Nat => iI 0))), (q4, .inl (d, 2248, .inl (fun _ : Nat => iI 0))), (q5, .inl (d, 2248, .inl (fun _ : Nat => iI 0))), (q6, .inl (d, 1405, .inl (fun _ : Nat => iI 0))), (q7, .inl (d, 7, .inl (fun _ : Nat => iI 0)))] := hD
  refine va_putF (v := .ref q7) (ty := .array .int) hx hb hts in_X0 tyX0 tyX0_ok nmX0 hown hK hP hD hS 0 rfl rfl 7 (by decide) (hts _ q40) (fun x h9 => h9) rfl hin rfl (by decide +kernel) rfl rfl (Nat.le_of_ble_eq_true rfl) dX0_init_68 (fun H locs hP hD hS => ?_)
  have hP : va_P D vwCl [(h0, .inr (0, [.ref q0, .ref q1, .ref q2, .ref q3, .ref q4, .ref q5, .ref q6, .ref q7, .null, .int (iI 0), .int (iI 0)])), (q0, .inl (d, 7, .inl (fun _ : Nat => iI 0))), (q1, .inl (d, 7, .inl (fun _ : Nat => iI 0))), (q2, .inl (d, 7, .inl (fun _ : Nat => iI 0))), (q3, .inl (d, 7, .inl (fun _ : Nat => iI 0))), (q4, .inl (d, 2248, .inl (fun _ : Nat => iI 0))), (q5, .inl (d, 2248, .inl (fun _ : Nat => iI 0))), (q6, .inl (d, 1405, .inl (fun _ : Nat => iI 0))), (q7, .inl (d, 7, .inl (fun _ : Nat => iI 0)))] H := hP
  have hD : va_D A [(h0, .inr (0, [.ref q0, .ref q1, .ref q2, .ref q3, .ref q4, .ref q5, .ref q6, .ref q7, .null, .int (iI 0), .int (iI 0)])), (q0, .inl (d, 7, .inl (fun _ : Nat => iI 0))), (q1, .inl (d, 7, .inl (fun _ : Nat => iI 0))), (q2, .inl (d, 7, .inl (fun _ : Nat => iI 0))), (q3, .inl (d, 7, .inl (fun _ : Nat => iI 0))), (q4, .inl (d, 2248, .inl (fun _ : Nat => iI 0))), (q5, .inl (d, 2248, .inl (fun _ : Nat => iI 0))), (q6, .inl (d, 1405, .inl (fun _ : Nat => iI 0))), (q7, .inl (d, 7, .inl (fun _ : Nat => iI 0)))] := hD
  refine lv_aload_n hx hb dX0_init_71 rfl (lv_at hl 0 rfl) ?_
  refine lv_sipush (v := iI 3721) hx hb dX0_init_72 (by decide +kernel) ?_
  refine gz_newa (N' := 3721) hx hb (hts _ q67) hK hP hD hS hA (by decide +kernel) (by decide +kernel) (by decide +kernel) (Nat.le_of_ble_eq_true rfl) (Nat.le_of_ble_eq_true rfl) dX0_init_75 (fun q8 H hP hD hS => ?_)
  have hP : va_P D vwCl [(h0, .inr (0, [.ref q0, .ref q1, .ref q2, .ref q3, .ref q4, .ref q5, .ref q6, .ref q7, .null, .int (iI 0), .int (iI 0)])), (q0, .inl (d, 7, .inl (fun _ : Nat => iI 0))), (q1, .inl (d, 7, .inl (fun _ : Nat => iI 0))), (q2, .inl (d, 7, .inl (fun _ : Nat => iI 0))), (q3, .inl (d, 7, .inl (fun _ : Nat => iI 0))), (q4, .inl (d, 2248, .inl (fun _ : Nat => iI 0))), (q5, .inl (d, 2248, .inl (fun _ : Nat => iI 0))), (q6, .inl (d, 1405, .inl (fun _ : Nat => iI 0))), (q7, .inl (d, 7, .inl (fun _ : Nat => iI 0))), (q8, .inl (d, 3721, .inl (fun _ : Nat => iI 0)))] H := hP
  have hD : va_D A [(h0, .inr (0, [.ref q0, .ref q1, .ref q2, .ref q3, .ref q4, .ref q5, .ref q6, .ref q7, .null, .int (iI 0), .int (iI 0)])), (q0, .inl (d, 7, .inl (fun _ : Nat => iI 0))), (q1, .inl (d, 7, .inl (fun _ : Nat => iI 0))), (q2, .inl (d, 7, .inl (fun _ : Nat => iI 0))), (q3, .inl (d, 7, .inl (fun _ : Nat => iI 0))), (q4, .inl (d, 2248, .inl (fun _ : Nat => iI 0))), (q5, .inl (d, 2248, .inl (fun _ : Nat => iI 0))), (q6, .inl (d, 1405, .inl (fun _ : Nat => iI 0))), (q7, .inl (d, 7, .inl (fun _ : Nat => iI 0))), (q8, .inl (d, 3721, .inl (fun _ : Nat => iI 0)))] := hD
  refine va_putF (v := .ref q8) (ty := .array .int) hx hb hts in_X0 tyX0 tyX0_ok nmX0 hown hK hP hD hS 0 rfl rfl 8 (by decide) (hts _ q41) (fun x h9 => h9) rfl hin rfl (by decide +kernel) rfl rfl (Nat.le_of_ble_eq_true rfl) dX0_init_77 (fun H locs hP hD hS => ?_)
  have hP : va_P D vwCl [(h0, .inr (0, [.ref q0, .ref q1, .ref q2, .ref q3, .ref q4, .ref q5, .ref q6, .ref q7, .ref q8, .int (iI 0), .int (iI 0)])), (q0, .inl (d, 7, .inl (fun _ : Nat => iI 0))), (q1, .inl (d, 7, .inl (fun _ : Nat => iI 0))), (q2, .inl (d, 7, .inl (fun _ : Nat => iI 0))), (q3, .inl (d, 7, .inl (fun _ : Nat => iI 0))), (q4, .inl (d, 2248, .inl (fun _ : Nat => iI 0))), (q5, .inl (d, 2248, .inl (fun _ : Nat => iI 0))), (q6, .inl (d, 1405, .inl (fun _ : Nat => iI 0))), (q7, .inl (d, 7, .inl (fun _ : Nat => iI 0))), (q8, .inl (d, 3721, .inl (fun _ : Nat => iI 0)))] H := hP
  have hD : va_D A [(h0, .inr (0, [.ref q0, .ref q1, .ref q2, .ref q3, .ref q4, .ref q5, .ref q6, .ref q7, .ref q8, .int (iI 0), .int (iI 0)])), (q0, .inl (d, 7, .inl (fun _ : Nat => iI 0))), (q1, .inl (d, 7, .inl (fun _ : Nat => iI 0))), (q2, .inl (d, 7, .inl (fun _ : Nat => iI 0))), (q3, .inl (d, 7, .inl (fun _ : Nat => iI 0))), (q4, .inl (d, 2248, .inl (fun _ : Nat => iI 0))), (q5, .inl (d, 2248, .inl (fun _ : Nat => iI 0))), (q6, .inl (d, 1405, .inl (fun _ : Nat => iI 0))), (q7, .inl (d, 7, .inl (fun _ : Nat => iI 0))), (q8, .inl (d, 3721, .inl (fun _ : Nat => iI 0)))] := hD
  refine lv_aload_n hx hb dX0_init_80 rfl (lv_at hl 0 rfl) ?_
  refine lv_bipush (v := iI 20) hx hb dX0_init_81 (by decide +kernel) ?_
  refine va_put (v := .int (iI 20)) (ty := .int) hx hb hts in_X0 tyX0 tyX0_ok nmX0 hown hK hP hD hS 0 rfl rfl 10 (by decide) (hts _ q43) (fun x h9 => h9) rfl (by decide +kernel) rfl rfl (Nat.le_of_ble_eq_true rfl) dX0_init_83 (fun H locs hP hD hS => ?_)
  have hP : va_P D vwCl [(h0, .inr (0, [.ref q0, .ref q1, .ref q2, .ref q3, .ref q4, .ref q5, .ref q6, .ref q7, .ref q8, .int (iI 0), .int (iI 20)])), (q0, .inl (d, 7, .inl (fun _ : Nat => iI 0))), (q1, .inl (d, 7, .inl (fun _ : Nat => iI 0))), (q2, .inl (d, 7, .inl (fun _ : Nat => iI 0))), (q3, .inl (d, 7, .inl (fun _ : Nat => iI 0))), (q4, .inl (d, 2248, .inl (fun _ : Nat => iI 0))), (q5, .inl (d, 2248, .inl (fun _ : Nat => iI 0))), (q6, .inl (d, 1405, .inl (fun _ : Nat => iI 0))), (q7, .inl (d, 7, .inl (fun _ : Nat => iI 0))), (q8, .inl (d, 3721, .inl (fun _ : Nat => iI 0)))] H := hP
  have hD : va_D A [(h0, .inr (0, [.ref q0, .ref q1, .ref q2, .ref q3, .ref q4, .ref q5, .ref q6, .ref q7, .ref q8, .int (iI 0), .int (iI 20)])), (q0, .inl (d, 7, .inl (fun _ : Nat => iI 0))), (q1, .inl (d, 7, .inl (fun _ : Nat => iI 0))), (q2, .inl (d, 7, .inl (fun _ : Nat => iI 0))), (q3, .inl (d, 7, .inl (fun _ : Nat => iI 0))), (q4, .inl (d, 2248, .inl (fun _ : Nat => iI 0))), (q5, .inl (d, 2248, .inl (fun _ : Nat => iI 0))), (q6, .inl (d, 1405, .inl (fun _ : Nat => iI 0))), (q7, .inl (d, 7, .inl (fun _ : Nat => iI 0))), (q8, .inl (d, 3721, .inl (fun _ : Nat => iI 0)))] := hD
  refine W.widen (k := 9) (n := 9657) (Nat.le_of_ble_eq_true rfl) (Nat.le_of_ble_eq_true rfl) ?_
  obtain ⟨ad, hde⟩ : ∃ ad : Nat → Nat, ad 0 = q0 ∧ ad 1 = q1 ∧ ad 2 = q2 ∧ ad 3 = q3 ∧ ad 4 = q4 ∧ ad 5 = q5 ∧ ad 6 = q6 ∧ ad 7 = q7 ∧ ad 8 = q8 := ⟨fun k => [q0, q1, q2, q3, q4, q5, q6, q7, q8, 0, 0].getD k 0, rfl, rfl, rfl, rfl, rfl, rfl, rfl, rfl, rfl⟩
  obtain ⟨e0, e1, e2, e3, e4, e5, e6, e7, e8⟩ := hde
  have eW : XW (l, D, d, h0, ad) x0S = ([(h0, .inr (0, [.ref q0, .ref q1, .ref q2, .ref q3, .ref q4, .ref q5, .ref q6, .ref q7, .ref q8, .int (iI 0), .int (iI 20)])), (q0, .inl (d, 7, .inl (fun _ : Nat => iI 0))), (q1, .inl (d, 7, .inl (fun _ : Nat => iI 0))), (q2, .inl (d, 7, .inl (fun _ : Nat => iI 0))), (q3, .inl (d, 7, .inl (fun _ : Nat => iI 0))), (q4, .inl (d, 2248, .inl (fun _ : Nat => iI 0))), (q5, .inl (d, 2248, .inl (fun _ : Nat => iI 0))), (q6, .inl (d, 1405, .inl (fun _ : Nat => iI 0))), (q7, .inl (d, 7, .inl (fun _ : Nat => iI 0))), (q8, .inl (d, 3721, .inl (fun _ : Nat => iI 0)))] : va_W) := by
    unfold XW
    show ([(h0, .inr (0, [.ref (ad 0), .ref (ad 1), .ref (ad 2), .ref (ad 3), .ref (ad 4), .ref (ad 5), .ref (ad 6), .ref (ad 7), .ref (ad 8), .int (iI 0), .int (iI 20)])), (ad 0, .inl (d, 7, .inl (fun _ : Nat => iI 0))), (ad 1, .inl (d, 7, .inl (fun _ : Nat => iI 0))), (ad 2, .inl (d, 7, .inl (fun _ : Nat => iI 0))), (ad 3, .inl (d, 7, .inl (fun _ : Nat => iI 0))), (ad 4, .inl (d, 2248, .inl (fun _ : Nat => iI 0))), (ad 5, .inl (d, 2248, .inl (fun _ : Nat => iI 0))), (ad 6, .inl (d, 1405, .inl (fun _ : Nat => iI 0))), (ad 7, .inl (d, 7, .inl (fun _ : Nat => iI 0))), (ad 8, .inl (d, 3721, .inl (fun _ : Nat => iI 0)))] : va_W) = _
    rw [e0, e1, e2, e3, e4, e5, e6, e7, e8]
  rw [← eW] at hP hD
  exact W.vret hx hb hr (fun t ht hW => ⟨⟨ad, rfl, trivial, by rw [ht]; exact hP, va_K.moved hW.alike hK, hD⟩, hS.F ht⟩) hS.2.2 dX0_init_86 hlocks
/-- a new object, all fields as they are at first -/
abbrev MN (h : Nat) : va_W := [(h, .inr (1, [.int (iI 0), .null, .null, .null, .null, .int (iI 0), .null, .int (iI 0), .int (iI 0)]))]
set_option maxHeartbeats 4000000 in
theorem mt_X1_init (l : Launch) (D : va_G) (d : ClassId) (h0 sz : Nat) : Met l yX1_init (ws_ yX1_init cX1_init 1 none) { frames := 1, cells := 5, slots := 35, locals := 12 } (va_Pc [.ref h0] (fun U => U.heap.size = sz ∧ va_P D vwCl (MN h0) U.heap ∧ va_K D vwCl [(d, .int)] U ∧ va_D (fun _ => True) (MN h0))) (va_Qv (fun (_ : Nat → Nat) => True) (fun ad t => va_P D vwCl (MW (l, D, d, h0, ad) m0S) t.heap ∧ va_K D vwCl [(d, .int)] t ∧ va_D (va_A (MN h0) sz) (MW (l, D, d, h0, ad) m0S)) (va_A (MN h0) sz)) 5 35 (va_A (MN h0) sz) := by
  refine Met.ofW (cc := cX1_init) (maxL := 1) (ret := none) (by decide +kernel) rfl ?_
  intro p e s m args below meth c s₁ B hml hv
  obtain ⟨rfl, hsz, hP, hK, hD0⟩ := hv
  have hx := B.exec
  have hb := B.bytes
  have hr := B.returns
  have hts := atoms_spec (ws := ws_ yX1_init cX1_init 1 none) B.pre
  have hts : ∀ w ∈ lw_all, w.before _ s = true := fun w h => hts w (List.mem_cons_of_mem _ h)
  have hown : s.vm.findClass RX1 = some m.cls := findClass_of_methodNamed B.named
  have hlocks := B.notSynchronized
  have hin : meth.name = "<init>" := (name_of_methodNamed B.named B.method).1
  subst hsz
  have hD := hD0.self (sz := s.heap.size)
  generalize hAe : va_A (MN h0) s.heap.size = A at hD ⊢
  have hA : ∀ q : Nat, s.heap.size ≤ q → A q := fun q h => by rw [← hAe]; exact Or.inr h
  have hS : va_S A s.heap s.heap [] := va_S.rf
  have hl := lv_entry ([.ref h0]) (n := 1) (Nat.le_of_ble_eq_true rfl)
  rw [lg_entry_eq]
  generalize (lg_sl ([.ref h0]) ++ List.replicate (1 - (lg_sl ([.ref h0])).length) Slot.unset).toArray = ls at hl ⊢
  have hl : lv_has ls 1 [(0, .ref h0)] := hl
  refine lv_aload_n hx hb dX1_init_0 rfl (lv_at hl 0 rfl) ?_
  refine W.objInit hx hb hown (hts _ q198) (hts _ q31) (hts _ q32) rfl (by rw [hml]; exact hl.1) rfl dX1_init_1 (Nat.le_of_ble_eq_true rfl) (Nat.le_of_ble_eq_true rfl) ?_
  refine W.eq (g2 := F0 m 4 ls []) rfl ?_
  refine lv_aload_n hx hb dX1_init_4 rfl (lv_at hl 0 rfl) ?_
  refine lv_bipush (v := iI 7) hx hb dX1_init_5 (by decide +kernel) ?_
  refine gz_newa (N' := 7) hx hb (hts _ q67) hK hP hD hS hA (by decide +kernel) (by decide +kernel) (by decide +kernel) (Nat.le_of_ble_eq_true rfl) (Nat.le_of_ble_eq_true rfl) dX1_init_7 (fun q0 H hP hD hS => ?_)
  have hP : va_P D vwCl [(h0, .inr (1, [.int (iI 0), .null, .null, .null, .null, .int (iI 0), .null, .int (iI 0), .int (iI 0)])), (q0, .inl (d, 7, .inl (fun _ : Nat => iI 0)))] H := hP
  have hD : va_D A [(h0, .inr (1, [.int (iI 0), .null, .null, .null, .null, .int (iI 0), .null, .int (iI 0), .int (iI 0)])), (q0, .inl (d, 7, .inl (fun _ : Nat => iI 0)))] := hD
  refine va_put (v := .ref q0) (ty := .array .int) hx hb hts in_X1 tyX1 tyX1_ok nmX1 hown hK hP hD hS 0 rfl rfl 1 (by decide) (hts _ q200) (fun x h9 => h9) rfl (by decide +kernel) rfl rfl (Nat.le_of_ble_eq_true rfl) dX1_init_9 (fun H locs hP hD hS => ?_)
  have hP : va_P D vwCl [(h0, .inr (1, [.int (iI 0), .ref q0, .null, .null, .null, .int (iI 0), .null, .int (iI 0), .int (iI 0)])), (q0, .inl (d, 7, .inl (fun _ : Nat => iI 0)))] H := hP
  have hD : va_D A [(h0, .inr (1, [.int (iI 0), .ref q0, .null, .null, .null, .int (iI 0), .null, .int (iI 0), .int (iI 0)])), (q0, .inl (d, 7, .inl (fun _ : Nat => iI 0)))] := hD
  refine lv_aload_n hx hb dX1_init_12 rfl (lv_at hl 0 rfl) ?_
  refine lv_bipush (v := iI 7) hx hb dX1_init_13 (by decide +kernel) ?_
  refine gz_newa (N' := 7) hx hb (hts _ q67) hK hP hD hS hA (by decide +kernel) (by decide +kernel) (by decide +kernel) (Nat.le_of_ble_eq_true rfl) (Nat.le_of_ble_eq_true rfl) dX1_init_15 (fun q1 H hP hD hS => ?_)
  have hP : va_P D vwCl [(h0, .inr (1, [.int (iI 0), .ref q0, .null, .null, .null, .int (iI 0), .null, .int (iI 0), .int (iI 0)])), (q0, .inl (d, 7, .inl (fun _ : Nat => iI 0))), (q1, .inl (d, 7, .inl (fun _ : Nat => iI 0)))] H := hP
  have hD : va_D A [(h0, .inr (1, [.int (iI 0), .ref q0, .null, .null, .null, .int (iI 0), .null, .int (iI 0), .int (iI 0)])), (q0, .inl (d, 7, .inl (fun _ : Nat => iI 0))), (q1, .inl (d, 7, .inl (fun _ : Nat => iI 0)))] := hD
  refine va_put (v := .ref q1) (ty := .array .int) hx hb hts in_X1 tyX1 tyX1_ok nmX1 hown hK hP hD hS 0 rfl rfl 2 (by decide) (hts _ q201) (fun x h9 => h9) rfl (by decide +kernel) rfl rfl (Nat.le_of_ble_eq_true rfl) dX1_init_17 (fun H locs hP hD hS => ?_)
  have hP : va_P D vwCl [(h0, .inr (1, [.int (iI 0), .ref q0, .ref q1, .null, .null, .int (iI 0), .null, .int (iI 0), .int (iI 0)])), (q0, .inl (d, 7, .inl (fun _ : Nat => iI 0))), (q1, .inl (d, 7, .inl (fun _ : Nat => iI 0)))] H := hP
  have hD : va_D A [(h0, .inr (1, [.int (iI 0), .ref q0, .ref q1, .null, .null, .int (iI 0), .null, .int (iI 0), .int (iI 0)])), (q0, .inl (d, 7, .inl (fun _ : Nat => iI 0))), (q1, .inl (d, 7, .inl (fun _ : Nat => iI 0)))] := hD
  refine lv_aload_n hx hb dX1_init_20 rfl (lv_at hl 0 rfl) ?_
  refine lv_bipush (v := iI 7) hx hb dX1_init_21 (by decide +kernel) ?_
  refine gz_newa (N' := 7) hx hb (hts _ q67) hK hP hD hS hA (by decide +kernel) (by decide +kernel) (by decide +kernel) (Nat.le_of_ble_eq_true rfl) (Nat.le_of_ble_eq_true rfl) dX1_init_23 (fun q2 H hP hD hS => ?_)
  have hP : va_P D vwCl [(h0, .inr (1, [.int (iI 0), .ref q0, .ref q1, .null, .null, .int (iI 0), .null, .int (iI 0), .int (iI 0)])), (q0, .inl (d, 7, .inl (fun _ : Nat => iI 0))), (q1, .inl (d, 7, .inl (fun _ : Nat => iI 0))), (q2, .inl (d, 7, .inl (fun _ : Nat => iI 0)))] H := hP
  have hD : va_D A [(h0, .inr (1, [.int (iI 0), .ref q0, .ref q1, .null, .null, .int (iI 0), .null, .int (iI 0), .int (iI 0)])), (q0, .inl (d, 7, .inl (fun _ : Nat => iI 0))), (q1, .inl (d, 7, .inl (fun _ : Nat => iI 0))), (q2, .inl (d, 7, .inl (fun _ : Nat => iI 0)))] := hD
  refine va_put (v := .ref q2) (ty := .array .int) hx hb hts in_X1 tyX1 tyX1_ok nmX1 hown hK hP hD hS 0 rfl rfl 3 (by decide) (hts _ q202) (fun x h9 => h9) rfl (by decide +kernel) rfl rfl (Nat.le_of_ble_eq_true rfl) dX1_init_25 (fun H locs hP hD hS => ?_)
  have hP : va_P D vwCl [(h0, .inr (1, [.int (iI 0), .ref q0, .ref q1, .ref q2, .null, .int (iI 0), .null, .int (iI 0), .int (iI 0)])), (q0, .inl (d, 7, .inl (fun _ : Nat => iI 0))), (q1, .inl (d, 7, .inl (fun _ : Nat => iI 0))), (q2, .inl (d, 7, .inl (fun _ : Nat => iI 0)))] H := hP
  have hD : va_D A [(h0, .inr (1, [.int (iI 0), .ref q0, .ref q1, .ref q2, .null, .int (iI 0), .null, .int (iI 0), .int (iI 0)])), (q0, .inl (d, 7, .inl (fun _ : Nat => iI 0))), (q1, .inl (d, 7, .inl (fun _ : Nat => iI 0))), (q2, .inl (d, 7, .inl (fun _ : Nat => iI 0)))] := hD
  refine lv_aload_n hx hb dX1_init_28 rfl (lv_at hl 0 rfl) ?_
  refine lv_bipush (v := iI 7) hx hb dX1_init_29 (by decide +kernel) ?_
  refine gz_newa (N' := 7) hx hb (hts _ q67) hK hP hD hS hA (by decide +kernel) (by decide +kernel) (by decide +kernel) (Nat.le_of_ble_eq_true rfl) (Nat.le_of_ble_eq_true rfl) dX1_init_31 (fun q3 H hP hD hS => ?_)
  have hP : va_P D vwCl [(h0, .inr (1, [.int (iI 0), .ref q0, .ref q1, .ref q2, .null, .int (iI 0), .null, .int (iI 0), .int (iI 0)])), (q0, .inl (d, 7, .inl (fun _ : Nat => iI 0))), (q1, .inl (d, 7, .inl (fun _ : Nat => iI 0))), (q2, .inl (d, 7, .inl (fun _ : Nat => iI 0))), (q3, .inl (d, 7, .inl (fun _ : Nat => iI 0)))] H := hP
  have hD : va_D A [(h0, .inr (1, [.int (iI 0), .ref q0, .ref q1, .ref q2, .null, .int (iI 0), .null, .int (iI 0), .int (iI 0)])), (q0, .inl (d, 7, .inl (fun _ : Nat => iI 0))), (q1, .inl (d, 7, .inl (fun _ : Nat => iI 0))), (q2, .inl (d, 7, .inl (fun _ : Nat => iI 0))), (q3, .inl (d, 7, .inl (fun _ : Nat => iI 0)))] := hD
  refine va_put (v := .ref q3) (ty := .array .int) hx hb hts in_X1 tyX1 tyX1_ok nmX1 hown hK hP hD hS 0 rfl rfl 4 (by decide) (hts _ q203) (fun x h9 => h9) rfl (by decide +kernel) rfl rfl (Nat.le_of_ble_eq_true rfl) dX1_init_33 (fun H locs hP hD hS => ?_)
  have hP : va_P D vwCl [(h0, .inr (1, [.int (iI 0), .ref q0, .ref q1, .ref q2, .ref q3, .int (iI 0), .null, .int (iI 0), .int (iI 0)])), (q0, .inl (d, 7, .inl (fun _ : Nat => iI 0))), (q1, .inl (d, 7, .inl (fun _ : Nat => iI 0))), (q2, .inl (d, 7, .inl (fun _ : Nat => iI 0))), (q3, .inl (d, 7, .inl (fun _ : Nat => iI 0)))] H := hP
  have hD : va_D A [(h0, .inr (1, [.int (iI 0), .ref q0, .ref q1, .ref q2, .ref q3, .int (iI 0), .null, .int (iI 0), .int (iI 0)])), (q0, .inl (d, 7, .inl (fun _ : Nat => iI 0))), (q1, .inl (d, 7, .inl (fun _ : Nat => iI 0))), (q2, .inl (d, 7, .inl (fun _ : Nat => iI 0))), (q3, .inl (d, 7, .inl (fun _ : Nat => iI 0)))] := hD
  refine lv_aload_n hx hb dX1_init_36 rfl (lv_at hl 0 rfl) ?_
  refine lv_bipush (v := iI 20) hx hb dX1_init_37 (by decide +kernel) ?_
  refine va_put (v := .int (iI 20)) (ty := .int) hx hb hts in_X1 tyX1 tyX1_ok nmX1 hown hK hP hD hS 0 rfl rfl 5 (by decide) (hts _ q204) (fun x h9 => h9) rfl (by decide +kernel) rfl rfl (Nat.le_of_ble_eq_true rfl) dX1_init_39 (fun H locs hP hD hS => ?_)
  have hP : va_P D vwCl [(h0, .inr (1, [.int (iI 0), .ref q0, .ref q1, .ref q2, .ref q3, .int (iI 20), .null, .int (iI 0), .int (iI 0)])), (q0, .inl (d, 7, .inl (fun _ : Nat => iI 0))), (q1, .inl (d, 7, .inl (fun _ : Nat => iI 0))), (q2, .inl (d, 7, .inl (fun _ : Nat => iI 0))), (q3, .inl (d, 7, .inl (fun _ : Nat => iI 0)))] H := hP
  have hD : va_D A [(h0, .inr (1, [.int (iI 0), .ref q0, .ref q1, .ref q2, .ref q3, .int (iI 20), .null, .int (iI 0), .int (iI 0)])), (q0, .inl (d, 7, .inl (fun _ : Nat => iI 0))), (q1, .inl (d, 7, .inl (fun _ : Nat => iI 0))), (q2, .inl (d, 7, .inl (fun _ : Nat => iI 0))), (q3, .inl (d, 7, .inl (fun _ : Nat => iI 0)))] := hD
  refine lv_aload_n hx hb dX1_init_42 rfl (lv_at hl 0 rfl) ?_
  refine lv_bipush (v := iI 7) hx hb dX1_init_43 (by decide +kernel) ?_
  refine gz_newa (N' := 7) hx hb (hts _ q67) hK hP hD hS hA (by decide +kernel) (by decide +kernel) (by decide +kernel) (Nat.le_of_ble_eq_true rfl) (Nat.le_of_ble_eq_true rfl) dX1_init_45 (fun q4 H hP hD hS => ?_)
  have hP : va_P D vwCl [(h0, .inr (1, [.int (iI 0), .ref q0, .ref q1, .ref q2, .ref q3, .int (iI 20), .null, .int (iI 0), .int (iI 0)])), (q0, .inl (d, 7, .inl (fun _ : Nat => iI 0))), (q1, .inl (d, 7, .inl (fun _ : Nat => iI 0))), (q2, .inl (d, 7, .inl (fun _ : Nat => iI 0))), (q3, .inl (d, 7, .inl (fun _ : Nat => iI 0))), (q4, .inl (d, 7, .inl (fun _ : Nat => iI 0)))] H := hP
  have hD : va_D A [(h0, .inr (1, [.int (iI 0), .ref q0, .ref q1, .ref q2, .ref q3, .int (iI 20), .null, .int (iI 0), .int (iI 0)])), (q0, .inl (d, 7, .inl (fun _ : Nat => iI 0))), (q1, .inl (d, 7, .inl (fun _ : Nat => iI 0))), (q2, .inl (d, 7, .inl (fun _ : Nat => iI 0))), (q3, .inl (d, 7, .inl (fun _ : Nat => iI 0))), (q4, .inl (d, 7, .inl (fun _ : Nat => iI 0)))] := hD
  refine va_put (v := .ref q4) (ty := .array .int) hx hb hts in_X1 tyX1 tyX1_ok nmX1 hown hK hP hD hS 0 rfl rfl 6 (by decide) (hts _ q205) (fun x h9 => h9) rfl (by decide +kernel) rfl rfl (Nat.le_of_ble_eq_true rfl) dX1_init_47 (fun H locs hP hD hS => ?_)
  have hP : va_P D vwCl [(h0, .inr (1, [.int (iI 0), .ref q0, .ref q1, .ref q2, .ref q3, .int (iI 20), .ref q4, .int (iI 0), .int (iI 0)])), (q0, .inl (d, 7, .inl (fun _ : Nat => iI 0))), (q1, .inl (d, 7, .inl (fun _ : Nat => iI 0))), (q2, .inl (d, 7, .inl (fun _ : Nat => iI 0))), (q3, .inl (d, 7, .inl (fun _ : Nat => iI 0))), (q4, .inl (d, 7, .inl (fun _ : Nat => iI 0)))] H := hP
  have hD : va_D A [(h0, .inr (1, [.int (iI 0), .ref q0, .ref q1, .ref q2, .ref q3, .int (iI 20), .ref q4, .int (iI 0), .int (iI 0)])), (q0, .inl (d, 7, .inl (fun _ : Nat => iI 0))), (q1, .inl (d, 7, .inl (fun _ : Nat => iI 0))), (q2, .inl (d, 7, .inl (fun _ : Nat => iI 0))), (q3, .inl (d, 7, .inl (fun _ : Nat => iI 0))), (q4, .inl (d, 7, .inl (fun _ : Nat => iI 0)))] := hD
  refine W.widen (k := 5) (n := 35) (Nat.le_of_ble_eq_true rfl) (Nat.le_of_ble_eq_true rfl) ?_
  obtain ⟨ad, hde⟩ : ∃ ad : Nat → Nat, ad 1 = q0 ∧ ad 2 = q1 ∧ ad 3 = q2 ∧ ad 4 = q3 ∧ ad 6 = q4 := ⟨fun k => [0, q0, q1, q2, q3, 0, q4, 0, 0].getD k 0, rfl, rfl, rfl, rfl, rfl⟩
  obtain ⟨e1, e2, e3, e4, e6⟩ := hde
  have eW : MW (l, D, d, h0, ad) m0S = ([(h0, .inr (1, [.int (iI 0), .ref q0, .ref q1, .ref q2, .ref q3, .int (iI 20), .ref q4, .int (iI 0), .int (iI 0)])), (q0, .inl (d, 7, .inl (fun _ : Nat => iI 0))), (q1, .inl (d, 7, .inl (fun _ : Nat => iI 0))), (q2, .inl (d, 7, .inl (fun _ : Nat => iI 0))), (q3, .inl (d, 7, .inl (fun _ : Nat => iI 0))), (q4, .inl (d, 7, .inl (fun _ : Nat => iI 0)))] : va_W) := by
    unfold MW
    show ([(h0, .inr (1, [.int (iI 0), .ref (ad 1), .ref (ad 2), .ref (ad 3), .ref (ad 4), .int (iI 20), .ref (ad 6), .int (iI 0), .int (iI 0)])), (ad 1, .inl (d, 7, .inl (fun _ : Nat => iI 0))), (ad 2, .inl (d, 7, .inl (fun _ : Nat => iI 0))), (ad 3, .inl (d, 7, .inl (fun _ : Nat => iI 0))), (ad 4, .inl (d, 7, .inl (fun _ : Nat => iI 0))), (ad 6, .inl (d, 7, .inl (fun _ : Nat => iI 0)))] : va_W) = _
    rw [e1, e2, e3, e4, e6]
  rw [← eW] at hP hD
  exact W.vret hx hb hr (fun t ht hW => ⟨⟨ad, rfl, trivial, by rw [ht]; exact hP, va_K.moved hW.alike hK, hD⟩, hS.F ht⟩) hS.2.2 dX1_init_50 hlocks
end
section
set_option maxRecDepth 100000
/-! THE CLAIM OUT OF ONE WALK OF THE LAW'S BODY. Your part is whole_start (and what it stands on); all else here is the same for every law, but numbers. -/
def R_law : String := "KnapsackFamilyLaw"
def lw_P (b : Addr) (xs : List Int32) (args : Array Value) (s : State) : Prop := args = #[.ref b] ∧ s.IntsAt b xs ∧ xs.length ≤ 256 ∧ (Jvm.Cond.and given_1 narrow_1).before args s = true
def lw_Q (_ : Array Value) (s : State) (o : Outcome) (t : State) : Prop := o = .returned (some (.int 1)) ∧ Framed s o t [] 600000 7290000
def lw_Z (below : List Frame) (a : Array Value) (s : State) : State → Prop := fun t => ∃ o, t.status = .running ∧ Ended t below o ∧ lw_Q a s o t
/-- the law's own end, with 1 on the stack, nothing written that was there before, its room as the claim has it -/
theorem lw_ret {p : Program} {l : Launch} {e : Env} {s : State} {m : MethodId} {below : List Frame} {meth : Method} {c : Code} {b : Nat} (hx : p.tables.exec = Jvm.exec) (hb : c.code = code) (hr : meth.sig.returnType = ret) (hlocks : meth.locks = false) {pc : Nat} {H : Heap} {ls : Array Slot} (hdg : decode code pc = .ok (.ireturn, 1)) : W p l e room_1 s m #[Value.ref b] below meth c H [] 600000 7290000 (lw_Z below #[Value.ref b] s) (F0 m pc ls [.int 1]) := by
  intro T hT X
  obtain ⟨fs, hret, hrun, hended, hW, hframe⟩ := X.leave (v := some (.int 1)) (hlocks := hlocks) (fun h => by rw [hr] at h; cases h)
  have hmeth' : T.vm.method? m = some meth := X.method'
  refine ⟨T.setFrames fs, ?_, .returned (some (.int 1)), hrun, hended, rfl, ⟨_, rfl⟩, hW, hframe⟩
  jvm_step X.here [X.here.top, hx, hb, hdg, hmeth', hr, ret, narrow_b1]
  (try refine ⟨rfl, ?_⟩); (try refine ⟨rfl, ?_⟩)
  first | (intro acts; rw [hret _ acts rfl rfl rfl]) | rw [hret _ _ rfl rfl rfl]
  exact Steps.refl _
/-- what holds at the law's entry: the machine, the code, the tables' words (any of lw_tbl by 'hts w (by decide +kernel)'), the script of L ints xs at the cell b, what the Statement gives of the start (any of its parts by flat_of_before) -/
def lw_At (p : Program) (s : State) (m : MethodId) (meth : Method) (c : Code) (b L : Nat) (xs : Nat → Int32) : Prop :=
  p.tables.exec = Jvm.exec ∧ c.code = code ∧ meth.sig.returnType = ret ∧ c.maxLocals = 4 ∧ s.vm.findClass R_law = some m.cls ∧ (∀ w ∈ lw_tbl, w.before #[Value.ref b] s = true) ∧ va_X b L xs s s.heap ∧ b < s.heap.size ∧ meth.locks = false ∧ (Jvm.Cond.and given_1 narrow_1).before #[Value.ref b] s = true
end
section
/-! the law's own frame: both objects' worlds, the script outside of them; a row an instruction -/
set_option maxRecDepth 100000
/-- program, environment, start, method, frames below, the method, its code, the script's cell, length, ints; launch, classes, int arrays' class, both objects' cells and their arrays' cells -/
abbrev lY : Type := (Program × Env × State × MethodId × List Frame × Method × Code) × (Nat × Nat × (Nat → Int32)) × (Launch × va_G × ClassId) × (Nat × (Nat → Nat)) × (Nat × (Nat → Nat))
def yGx (Y : lY) : gG := (Y.2.2.1.1, Y.2.2.1.2.1, Y.2.2.1.2.2, Y.2.2.2.1.1, Y.2.2.2.1.2)
def yGm (Y : lY) : gG := (Y.2.2.1.1, Y.2.2.1.2.1, Y.2.2.1.2.2, Y.2.2.2.2.1, Y.2.2.2.2.2)
def yL (Y : lY) : Nat := Y.2.1.2.1
/-- the k-th int of the script -/
def ysx (Y : lY) (k : Nat) : Int := (Y.2.1.2.2 k).toInt
theorem ysx_R (Y : lY) (k : Nat) : gR (ysx Y k) := gR_of _
def yls (Y : lY) (i : Nat) : List (Nat × Value) := [(0, .ref Y.2.1.1), (1, .ref Y.2.2.2.1.1), (2, .ref Y.2.2.2.2.1), (3, .int (iI (i : Int)))]
def lAt (Y : lY) (pc : Nat) (ls : List (Nat × Value)) (st : List Value) (σ τ : gS) : Prop :=
  match Y with
  | ((p, e, s, m, below, meth, c), (b, _, _), (l, D, d), (hx, adx), (hm, adm)) => ∀ (H : Heap) (locs : List Loc) (la : Array Slot), va_P D vwCl (XW (l, D, d, hx, adx) σ ++ MW (l, D, d, hm, adm) τ) H → va_D (fun q : Nat => s.heap.size ≤ q) (XW (l, D, d, hx, adx) σ ++ MW (l, D, d, hm, adm) τ) → va_S (fun q : Nat => s.heap.size ≤ q) s.heap H locs → lv_has la 4 ls → W p l e room_1 s m #[Value.ref b] below meth c H locs 16 9712 (lw_Z below #[Value.ref b] s) (F0 m pc la st)
def lC (Y : lY) : Prop :=
  match Y with
  | ((p, _, s, m, _, meth, c), (b, L, xs), (_, D, d), _, _) => p.tables.exec = Jvm.exec ∧ c.code = cL_law ∧ c.maxLocals = 4 ∧ s.vm.findClass R_law = some m.cls ∧ (∀ w ∈ lw_all, w.before #[Value.ref b] s = true) ∧ va_K D vwCl [(d, .int)] s ∧ va_X b L xs s s.heap ∧ b < s.heap.size ∧ L ≤ 256 ∧ meth.sig.returnType = ret ∧ meth.locks = false
section LR
variable {Y : lY} {pc i : Nat} {st : List Value} {σ τ : gS}
theorem ly_aload1 (C : lC Y) (hd : decode cL_law pc = .ok (.aload_n 1, 1)) (kk : lAt Y (pc + 1) (yls Y i) (.ref (g_h (yGx Y)) :: st) σ τ) : lAt Y pc (yls Y i) st σ τ := by
  obtain ⟨⟨p, e, s, m, below, meth, c⟩, ⟨b, L, xs⟩, ⟨l, D, d⟩, ⟨hx, adx⟩, ⟨hm, adm⟩⟩ := Y
  obtain ⟨hex, hb, -⟩ := C
  intro H locs la hP hD hS hl
  exact lv_aload_n hex hb hd rfl (lv_at hl 1 rfl) (kk H locs la hP hD hS hl)
theorem ly_aload2 (C : lC Y) (hd : decode cL_law pc = .ok (.aload_n 2, 1)) (kk : lAt Y (pc + 1) (yls Y i) (.ref (g_h (yGm Y)) :: st) σ τ) : lAt Y pc (yls Y i) st σ τ := by
  obtain ⟨⟨p, e, s, m, below, meth, c⟩, ⟨b, L, xs⟩, ⟨l, D, d⟩, ⟨hx, adx⟩, ⟨hm, adm⟩⟩ := Y
  obtain ⟨hex, hb, -⟩ := C
  intro H locs la hP hD hS hl
  exact lv_aload_n hex hb hd rfl (lv_at hl 2 rfl) (kk H locs la hP hD hS hl)
/-- script[i + n] -/
theorem ly_arg (C : lC Y) (n : Nat) (h1 : decode cL_law pc = .ok (.aload_n 0, 1)) (h2 : decode cL_law (pc + 1) = .ok (.iload_n 3, 1)) (h3 : decode cL_law (pc + 1 + 1) = .ok (.iconst (n : Int), 1)) (h4 : decode cL_law (pc + 1 + 1 + 1) = .ok (.iadd, 1)) (h5 : decode cL_law (pc + 1 + 1 + 1 + 1) = .ok (.iaload, 1)) (hi : i + n < yL Y) (kk : lAt Y (pc + 5) (yls Y i) (.int (iI (ysx Y (i + n))) :: st) σ τ) : lAt Y pc (yls Y i) st σ τ := by
  obtain ⟨⟨p, e, s, m, below, meth, c⟩, ⟨b, L, xs⟩, ⟨l, D, d⟩, ⟨hx, adx⟩, ⟨hm, adm⟩⟩ := Y
  obtain ⟨hex, hb, hml, ho, hts, hK, hX, hbl, hL, -⟩ := C
  have hi : i + n < L := hi
  intro H locs la hP hD hS hl
  refine lv_aload_n hex hb h1 rfl (lv_at hl 0 rfl) ?_
  refine lv_iload_n hex hb h2 rfl (lv_at hl 3 rfl) ?_
  refine lv_iconst (v := iI (n : Int)) hex hb h3 rfl ?_
  refine lv_iadd hex hb h4 ?_
  have e1 : iI (i : Int) + iI (n : Int) = iI ((i + n : Nat) : Int) := by rw [iI_add, show ((i + n : Nat) : Int) = (i : Int) + (n : Int) by omega]
  rw [e1]
  refine va_sld hex hb hX hbl (Nat.not_le.mpr hbl) hS (iI_in (n := L) ⟨by omega, by omega⟩ (by omega)) h5 ?_
  rw [iI_clamp (by omega) (by omega)]
  have e2 : iI (xs (i + n)).toInt = xs (i + n) := iI_of _
  have k2 := kk H locs la hP hD hS hl
  show W p l e room_1 s m #[Value.ref b] below meth c H locs 16 9712 (lw_Z below #[Value.ref b] s) (F0 m (pc + 5) la (.int (xs (i + n)) :: st))
  rw [← e2]
  exact k2
theorem ly_eq (C : lC Y) {z z2 off : Int} (hd : decode cL_law pc = .ok (.if_icmp .eq off, 3)) (ht : (pc : Int) + off = ((484 : Nat) : Int)) (hz : z = z2) (kk : lAt Y 484 (yls Y i) st σ τ) : lAt Y pc (yls Y i) (.int (iI z2) :: .int (iI z) :: st) σ τ := by
  obtain ⟨⟨p, e, s, m, below, meth, c⟩, ⟨b, L, xs⟩, ⟨l, D, d⟩, ⟨hx, adx⟩, ⟨hm, adm⟩⟩ := Y
  obtain ⟨hex, hb, -⟩ := C
  intro H locs la hP hD hS hl
  exact lv_icmp_eq hex hb hd ht (fun _ => kk H locs la hP hD hS hl) (fun h => absurd (by rw [hz]) h)
theorem ly_tableOut (C : lC Y) {dflt lo hi : Int} {offs : Array Int} {len tgt : Nat} {x : Int32} {ls : List (Nat × Value)} (hd : decode cL_law pc = .ok (.tableswitch dflt lo hi offs, len)) (h : x.toInt < lo ∨ hi < x.toInt) (ht : (pc : Int) + dflt = (tgt : Int)) (kk : lAt Y tgt ls st σ τ) : lAt Y pc ls (.int x :: st) σ τ := by
  obtain ⟨⟨p, e, s, m, below, meth, c⟩, ⟨b, L, xs⟩, ⟨l, D, d⟩, ⟨hx, adx⟩, ⟨hm, adm⟩⟩ := Y
  obtain ⟨hex, hb, -⟩ := C
  intro H locs la hP hD hS hl
  exact lv_tableOut hex hb hd h ht (kk H locs la hP hD hS hl)
theorem ly_tableIn (C : lC Y) {dflt lo hi : Int} {offs : Array Int} {len tgt : Nat} {x : Int32} {off : Int} {ls : List (Nat × Value)} (hd : decode cL_law pc = .ok (.tableswitch dflt lo hi offs, len)) (h1 : ¬ x.toInt < lo) (h2 : ¬ hi < x.toInt) (ho : offs[(x.toInt - lo).toNat]? = some off) (ht : (pc : Int) + off = (tgt : Int)) (kk : lAt Y tgt ls st σ τ) : lAt Y pc ls (.int x :: st) σ τ := by
  obtain ⟨⟨p, e, s, m, below, meth, c⟩, ⟨b, L, xs⟩, ⟨l, D, d⟩, ⟨hx, adx⟩, ⟨hm, adm⟩⟩ := Y
  obtain ⟨hex, hb, -⟩ := C
  intro H locs la hP hD hS hl
  exact lv_tableIn hex hb hd h1 h2 ho ht (kk H locs la hP hD hS hl)
variable {y : MethodName} {As : List Value} {st0 : List Value} {ls : List (Nat × Value)}
set_option maxHeartbeats 4000000 in
/-- a call of the class -/
theorem ly_callX (C : lC Y) {bytes : ByteArray} {maxL : Nat} {rt : Option FieldType} {k' index n : Nat} {P : Int → gS → Prop} (hM : gMetI (yGx Y) y (ws_ y bytes maxL rt) k' (XW (yGx Y)) As σ P)
    (hV : GoodIn lw_all (wsV R_law index RX0 y (ws_ y bytes maxL rt))) (hd0 : y.cls = RX0 ∧ y.cls ≠ "java/lang/invoke/MethodHandle" ∧ y.cls ≠ "java/lang/invoke/VarHandle" ∧ (parseMethodDescriptor y.desc).map (fun d => d.parameters.length) = some n) (hk : k' + 1 ≤ 6 ∧ 8 + (maxL + 11) + 30 * k' ≤ 204)
    (hn : As.length = n) (hst : st0 = As.reverse ++ .ref (g_h (yGx Y)) :: st) (hr : (st.map fun v => v.category).sum ≤ 8) (hd : decode cL_law pc = .ok (.invokevirtual index, 3)) (kk : ∀ (z : Int) (u : gS), P z u → lAt Y (pc + 3) ls (.int (iI z) :: st) u τ) : lAt Y pc ls st0 σ τ := by
  obtain ⟨⟨p, e, s, m, below, meth, c⟩, ⟨b, L, xs⟩, ⟨l, D, d⟩, ⟨h1, adx⟩, ⟨h2, adm⟩⟩ := Y
  obtain ⟨hx, hb, hml, ho, hts, hK, hX, hbl, hL, -⟩ := C
  intro H locs la hP hD hS hl
  have hA : ∀ q : Nat, s.heap.size ≤ q → (fun q : Nat => s.heap.size ≤ q) q := fun _ h => h
  have hPc : va_P D vwCl (XW (l, D, d, h1, adx) σ) H := hP.sub [0, 1, 2, 3, 4, 5, 6, 7, 8, 9] rfl
  have hDc : va_D (fun q : Nat => s.heap.size ≤ q) (XW (l, D, d, h1, adx) σ) := hD.sub [0, 1, 2, 3, 4, 5, 6, 7, 8, 9] (by decide) rfl
  have hFc := va_free (wc := XW (l, D, d, h1, adx) σ) hD hS hA [0, 1, 2, 3, 4, 5, 6, 7, 8, 9] rfl
  subst hst
  refine va_calli (va_runV (As := As) (rest := st) ⟨hx, hb, hml, ho, hts⟩ (hM H.size) (cwV n hts hV rfl rfl rfl hd0 ⟨hk.1, hk.2⟩) ⟨gPre_blind, va_recv (q0 := 0) (ci := 0) hK hPc rfl rfl, fun U hU hW => ⟨rfl, by rw [hU], by rw [hU]; exact hPc, va_K.moved hW.alike hK, hDc.weaken (fun _ _ _ _ => trivial)⟩⟩ rfl hn hl.1 rfl (lv_room hr) hd ⟨Nat.le_of_ble_eq_true rfl, Nat.le_of_ble_eq_true rfl⟩) hS (fun q _ h => hFc q h) hFc (fun r u t H1 locs1 ht hvm hw hB hz1 hk1 hS1 => ?_)
  obtain ⟨z, rfl, hz⟩ := hw
  obtain ⟨hP1, hK1, hD1⟩ := hB
  rw [ht] at hP1
  obtain ⟨hP2, hD2⟩ := va_join (wc := XW (l, D, d, h1, adx) σ) (wr := MW (l, D, d, h2, adm) τ) (w1 := XW (l, D, d, h1, adx) u) hP hD [0, 1, 2, 3, 4, 5, 6, 7, 8, 9] [10, 11, 12, 13, 14, 15] rfl rfl (by decide) (by decide) hk1 hFc hP1 hD1
  exact kk z u hz H1 locs1 la (hP2.sub [6, 7, 8, 9, 10, 11, 12, 13, 14, 15, 0, 1, 2, 3, 4, 5] rfl) (hD2.sub [6, 7, 8, 9, 10, 11, 12, 13, 14, 15, 0, 1, 2, 3, 4, 5] (by decide) rfl) hS1 hl
set_option maxHeartbeats 4000000 in
/-- a call of the reference -/
theorem ly_callM (C : lC Y) {bytes : ByteArray} {maxL : Nat} {rt : Option FieldType} {k' index n : Nat} {P : Int → gS → Prop} (hM : gMetI (yGm Y) y (ws_ y bytes maxL rt) k' (MW (yGm Y)) As τ P)
    (hV : GoodIn lw_all (wsV R_law index RX1 y (ws_ y bytes maxL rt))) (hd0 : y.cls = RX1 ∧ y.cls ≠ "java/lang/invoke/MethodHandle" ∧ y.cls ≠ "java/lang/invoke/VarHandle" ∧ (parseMethodDescriptor y.desc).map (fun d => d.parameters.length) = some n) (hk : k' + 1 ≤ 6 ∧ 8 + (maxL + 11) + 30 * k' ≤ 204)
    (hn : As.length = n) (hst : st0 = As.reverse ++ .ref (g_h (yGm Y)) :: st) (hr : (st.map fun v => v.category).sum ≤ 8) (hd : decode cL_law pc = .ok (.invokevirtual index, 3)) (kk : ∀ (z : Int) (u : gS), P z u → lAt Y (pc + 3) ls (.int (iI z) :: st) σ u) : lAt Y pc ls st0 σ τ := by
  obtain ⟨⟨p, e, s, m, below, meth, c⟩, ⟨b, L, xs⟩, ⟨l, D, d⟩, ⟨h1, adx⟩, ⟨h2, adm⟩⟩ := Y
  obtain ⟨hx, hb, hml, ho, hts, hK, hX, hbl, hL, -⟩ := C
  intro H locs la hP hD hS hl
  have hA : ∀ q : Nat, s.heap.size ≤ q → (fun q : Nat => s.heap.size ≤ q) q := fun _ h => h
  have hPc : va_P D vwCl (MW (l, D, d, h2, adm) τ) H := hP.sub [10, 11, 12, 13, 14, 15] rfl
  have hDc : va_D (fun q : Nat => s.heap.size ≤ q) (MW (l, D, d, h2, adm) τ) := hD.sub [10, 11, 12, 13, 14, 15] (by decide) rfl
  have hFc := va_free (wc := MW (l, D, d, h2, adm) τ) hD hS hA [10, 11, 12, 13, 14, 15] rfl
  subst hst
  refine va_calli (va_runV (As := As) (rest := st) ⟨hx, hb, hml, ho, hts⟩ (hM H.size) (cwV n hts hV rfl rfl rfl hd0 ⟨hk.1, hk.2⟩) ⟨gPre_blind, va_recv (q0 := 0) (ci := 1) hK hPc rfl rfl, fun U hU hW => ⟨rfl, by rw [hU], by rw [hU]; exact hPc, va_K.moved hW.alike hK, hDc.weaken (fun _ _ _ _ => trivial)⟩⟩ rfl hn hl.1 rfl (lv_room hr) hd ⟨Nat.le_of_ble_eq_true rfl, Nat.le_of_ble_eq_true rfl⟩) hS (fun q _ h => hFc q h) hFc (fun r u t H1 locs1 ht hvm hw hB hz1 hk1 hS1 => ?_)
  obtain ⟨z, rfl, hz⟩ := hw
  obtain ⟨hP1, hK1, hD1⟩ := hB
  rw [ht] at hP1
  obtain ⟨hP2, hD2⟩ := va_join (wc := MW (l, D, d, h2, adm) τ) (wr := XW (l, D, d, h1, adx) σ) (w1 := MW (l, D, d, h2, adm) u) hP hD [10, 11, 12, 13, 14, 15] [0, 1, 2, 3, 4, 5, 6, 7, 8, 9] rfl rfl (by decide) (by decide) hk1 hFc hP1 hD1
  exact kk z u hz H1 locs1 la hP2 hD2 hS1 hl
end LR
end
section
/-! the cases of the switch -/
set_option maxRecDepth 100000
set_option maxHeartbeats 4000000 in
theorem lc_add {Y : lY} (C : lC Y) {i : Nat} (hi : i + 3 < yL Y) {σ τ : gS} (hs : sy σ τ) (kk : ∀ u u2 : gS, sy u u2 → lAt Y 484 (yls Y i) [] u u2) : lAt Y 120 (yls Y i) [] σ τ := by
  refine ly_aload1 C dL_law_120 ?_
  refine ly_arg C 1 dL_law_121 dL_law_122 dL_law_123 dL_law_124 dL_law_125 (by omega) ?_
  refine ly_arg C 2 dL_law_126 dL_law_127 dL_law_128 dL_law_129 dL_law_130 (by omega) ?_
  refine ly_arg C 3 dL_law_131 dL_law_132 dL_law_133 dL_law_134 dL_law_135 (by omega) ?_
  refine ly_callX (n := 3) C (mt_X0_add (yGx Y) (ysx Y (i + 1)) (ysx Y (i + 2)) (ysx Y (i + 3)) σ (fun z u => Ok_X1_add (ysx Y (i + 1)) (ysx Y (i + 2)) (ysx Y (i + 3)) τ (syQ z u)) (sy_add hs (ysx_R Y _) (ysx_R Y _) (ysx_R Y _))) (lw_V q68 q69 q70 q23 q71) ⟨rfl, by decide +kernel, by decide +kernel, by decide +kernel⟩ ⟨(Nat.le_of_ble_eq_true rfl), (Nat.le_of_ble_eq_true rfl)⟩ rfl rfl (Nat.le_of_ble_eq_true rfl) dL_law_136 (fun z u hz => ?_)
  refine ly_aload2 C dL_law_139 ?_
  refine ly_arg C 1 dL_law_140 dL_law_141 dL_law_142 dL_law_143 dL_law_144 (by omega) ?_
  refine ly_arg C 2 dL_law_145 dL_law_146 dL_law_147 dL_law_148 dL_law_149 (by omega) ?_
  refine ly_arg C 3 dL_law_150 dL_law_151 dL_law_152 dL_law_153 dL_law_154 (by omega) ?_
  refine ly_callM (n := 3) C (mt_X1_add (yGm Y) (ysx Y (i + 1)) (ysx Y (i + 2)) (ysx Y (i + 3)) τ _ hz) (lw_V q227 q228 q229 q24 q230) ⟨rfl, by decide +kernel, by decide +kernel, by decide +kernel⟩ ⟨(Nat.le_of_ble_eq_true rfl), (Nat.le_of_ble_eq_true rfl)⟩ rfl rfl (Nat.le_of_ble_eq_true rfl) dL_law_155 (fun z2 u2 hq => ?_)
  exact ly_eq C dL_law_158 (by decide) hq.1 (kk u u2 hq.2)
set_option maxHeartbeats 4000000 in
theorem lc_sow {Y : lY} (C : lC Y) {i : Nat} (hi : i + 3 < yL Y) {σ τ : gS} (hs : sy σ τ) (kk : ∀ u u2 : gS, sy u u2 → lAt Y 484 (yls Y i) [] u u2) : lAt Y 163 (yls Y i) [] σ τ := by
  refine ly_aload1 C dL_law_163 ?_
  refine ly_arg C 1 dL_law_164 dL_law_165 dL_law_166 dL_law_167 dL_law_168 (by omega) ?_
  refine ly_arg C 2 dL_law_169 dL_law_170 dL_law_171 dL_law_172 dL_law_173 (by omega) ?_
  refine ly_callX (n := 2) C (mt_X0_sow (yGx Y) (ysx Y (i + 1)) (ysx Y (i + 2)) σ (fun z u => Ok_X1_sow (ysx Y (i + 1)) (ysx Y (i + 2)) τ (syQ z u)) (sy_sow hs (ysx_R Y _) (ysx_R Y _))) (lw_V q76 q77 q78 q23 q79) ⟨rfl, by decide +kernel, by decide +kernel, by decide +kernel⟩ ⟨(Nat.le_of_ble_eq_true rfl), (Nat.le_of_ble_eq_true rfl)⟩ rfl rfl (Nat.le_of_ble_eq_true rfl) dL_law_174 (fun z u hz => ?_)
  refine ly_aload2 C dL_law_177 ?_
  refine ly_arg C 1 dL_law_178 dL_law_179 dL_law_180 dL_law_181 dL_law_182 (by omega) ?_
  refine ly_arg C 2 dL_law_183 dL_law_184 dL_law_185 dL_law_186 dL_law_187 (by omega) ?_
  refine ly_callM (n := 2) C (mt_X1_sow (yGm Y) (ysx Y (i + 1)) (ysx Y (i + 2)) τ _ hz) (lw_V q235 q236 q237 q24 q238) ⟨rfl, by decide +kernel, by decide +kernel, by decide +kernel⟩ ⟨(Nat.le_of_ble_eq_true rfl), (Nat.le_of_ble_eq_true rfl)⟩ rfl rfl (Nat.le_of_ble_eq_true rfl) dL_law_188 (fun z2 u2 hq => ?_)
  exact ly_eq C dL_law_191 (by decide) hq.1 (kk u u2 hq.2)
set_option maxHeartbeats 4000000 in
theorem lc_drop {Y : lY} (C : lC Y) {i : Nat} (hi : i + 3 < yL Y) {σ τ : gS} (hs : sy σ τ) (kk : ∀ u u2 : gS, sy u u2 → lAt Y 484 (yls Y i) [] u u2) : lAt Y 196 (yls Y i) [] σ τ := by
  refine ly_aload1 C dL_law_196 ?_
  refine ly_arg C 1 dL_law_197 dL_law_198 dL_law_199 dL_law_200 dL_law_201 (by omega) ?_
  refine ly_callX (n := 1) C (mt_X0_drop (yGx Y) (ysx Y (i + 1)) σ (fun z u => Ok_X1_drop (ysx Y (i + 1)) τ (syQ z u)) (sy_drop hs (ysx_R Y _))) (lw_V q80 q81 q82 q23 q83) ⟨rfl, by decide +kernel, by decide +kernel, by decide +kernel⟩ ⟨(Nat.le_of_ble_eq_true rfl), (Nat.le_of_ble_eq_true rfl)⟩ rfl rfl (Nat.le_of_ble_eq_true rfl) dL_law_202 (fun z u hz => ?_)
  refine ly_aload2 C dL_law_205 ?_
  refine ly_arg C 1 dL_law_206 dL_law_207 dL_law_208 dL_law_209 dL_law_210 (by omega) ?_
  refine ly_callM (n := 1) C (mt_X1_drop (yGm Y) (ysx Y (i + 1)) τ _ hz) (lw_V q239 q240 q241 q24 q242) ⟨rfl, by decide +kernel, by decide +kernel, by decide +kernel⟩ ⟨(Nat.le_of_ble_eq_true rfl), (Nat.le_of_ble_eq_true rfl)⟩ rfl rfl (Nat.le_of_ble_eq_true rfl) dL_law_211 (fun z2 u2 hq => ?_)
  exact ly_eq C dL_law_214 (by decide) hq.1 (kk u u2 hq.2)
set_option maxHeartbeats 4000000 in
theorem lc_limit {Y : lY} (C : lC Y) {i : Nat} (hi : i + 3 < yL Y) {σ τ : gS} (hs : sy σ τ) (kk : ∀ u u2 : gS, sy u u2 → lAt Y 484 (yls Y i) [] u u2) : lAt Y 219 (yls Y i) [] σ τ := by
  refine ly_aload1 C dL_law_219 ?_
  refine ly_arg C 1 dL_law_220 dL_law_221 dL_law_222 dL_law_223 dL_law_224 (by omega) ?_
  refine ly_callX (n := 1) C (mt_X0_limit (yGx Y) (ysx Y (i + 1)) σ (fun z u => Ok_X1_limit (ysx Y (i + 1)) τ (syQ z u)) (sy_limit hs (ysx_R Y _))) (lw_V q88 q89 q90 q23 q91) ⟨rfl, by decide +kernel, by decide +kernel, by decide +kernel⟩ ⟨(Nat.le_of_ble_eq_true rfl), (Nat.le_of_ble_eq_true rfl)⟩ rfl rfl (Nat.le_of_ble_eq_true rfl) dL_law_225 (fun z u hz => ?_)
  refine ly_aload2 C dL_law_228 ?_
  refine ly_arg C 1 dL_law_229 dL_law_230 dL_law_231 dL_law_232 dL_law_233 (by omega) ?_
  refine ly_callM (n := 1) C (mt_X1_limit (yGm Y) (ysx Y (i + 1)) τ _ hz) (lw_V q247 q248 q249 q24 q250) ⟨rfl, by decide +kernel, by decide +kernel, by decide +kernel⟩ ⟨(Nat.le_of_ble_eq_true rfl), (Nat.le_of_ble_eq_true rfl)⟩ rfl rfl (Nat.le_of_ble_eq_true rfl) dL_law_234 (fun z2 u2 hq => ?_)
  exact ly_eq C dL_law_237 (by decide) hq.1 (kk u u2 hq.2)
set_option maxHeartbeats 4000000 in
theorem lc_goods {Y : lY} (C : lC Y) {i : Nat} (hi : i + 3 < yL Y) {σ τ : gS} (hs : sy σ τ) (kk : ∀ u u2 : gS, sy u u2 → lAt Y 484 (yls Y i) [] u u2) : lAt Y 242 (yls Y i) [] σ τ := by
  refine ly_aload1 C dL_law_242 ?_
  refine ly_callX (n := 0) C (mt_X0_goods (yGx Y) σ (fun z u => Ok_X1_goods τ (syQ z u)) (sy_goods hs)) (lw_V q92 q93 q94 q23 q95) ⟨rfl, by decide +kernel, by decide +kernel, by decide +kernel⟩ ⟨(Nat.le_of_ble_eq_true rfl), (Nat.le_of_ble_eq_true rfl)⟩ rfl rfl (Nat.le_of_ble_eq_true rfl) dL_law_243 (fun z u hz => ?_)
  refine ly_aload2 C dL_law_246 ?_
  refine ly_callM (n := 0) C (mt_X1_goods (yGm Y) τ _ hz) (lw_V q251 q252 q253 q24 q254) ⟨rfl, by decide +kernel, by decide +kernel, by decide +kernel⟩ ⟨(Nat.le_of_ble_eq_true rfl), (Nat.le_of_ble_eq_true rfl)⟩ rfl rfl (Nat.le_of_ble_eq_true rfl) dL_law_247 (fun z2 u2 hq => ?_)
  exact ly_eq C dL_law_250 (by decide) hq.1 (kk u u2 hq.2)
set_option maxHeartbeats 4000000 in
theorem lc_weightOf {Y : lY} (C : lC Y) {i : Nat} (hi : i + 3 < yL Y) {σ τ : gS} (hs : sy σ τ) (kk : ∀ u u2 : gS, sy u u2 → lAt Y 484 (yls Y i) [] u u2) : lAt Y 255 (yls Y i) [] σ τ := by
  refine ly_aload1 C dL_law_255 ?_
  refine ly_arg C 1 dL_law_256 dL_law_257 dL_law_258 dL_law_259 dL_law_260 (by omega) ?_
  refine ly_callX (n := 1) C (mt_X0_weightOf (yGx Y) (ysx Y (i + 1)) σ (fun z u => Ok_X1_weightOf (ysx Y (i + 1)) τ (syQ z u)) (sy_weightOf hs (ysx_R Y _))) (lw_V q96 q97 q98 q23 q99) ⟨rfl, by decide +kernel, by decide +kernel, by decide +kernel⟩ ⟨(Nat.le_of_ble_eq_true rfl), (Nat.le_of_ble_eq_true rfl)⟩ rfl rfl (Nat.le_of_ble_eq_true rfl) dL_law_261 (fun z u hz => ?_)
  refine ly_aload2 C dL_law_264 ?_
  refine ly_arg C 1 dL_law_265 dL_law_266 dL_law_267 dL_law_268 dL_law_269 (by omega) ?_
  refine ly_callM (n := 1) C (mt_X1_weightOf (yGm Y) (ysx Y (i + 1)) τ _ hz) (lw_V q255 q256 q257 q24 q258) ⟨rfl, by decide +kernel, by decide +kernel, by decide +kernel⟩ ⟨(Nat.le_of_ble_eq_true rfl), (Nat.le_of_ble_eq_true rfl)⟩ rfl rfl (Nat.le_of_ble_eq_true rfl) dL_law_270 (fun z2 u2 hq => ?_)
  exact ly_eq C dL_law_273 (by decide) hq.1 (kk u u2 hq.2)
set_option maxHeartbeats 4000000 in
theorem lc_valueOf {Y : lY} (C : lC Y) {i : Nat} (hi : i + 3 < yL Y) {σ τ : gS} (hs : sy σ τ) (kk : ∀ u u2 : gS, sy u u2 → lAt Y 484 (yls Y i) [] u u2) : lAt Y 278 (yls Y i) [] σ τ := by
  refine ly_aload1 C dL_law_278 ?_
  refine ly_arg C 1 dL_law_279 dL_law_280 dL_law_281 dL_law_282 dL_law_283 (by omega) ?_
  refine ly_callX (n := 1) C (mt_X0_valueOf (yGx Y) (ysx Y (i + 1)) σ (fun z u => Ok_X1_valueOf (ysx Y (i + 1)) τ (syQ z u)) (sy_valueOf hs (ysx_R Y _))) (lw_V q104 q105 q106 q23 q107) ⟨rfl, by decide +kernel, by decide +kernel, by decide +kernel⟩ ⟨(Nat.le_of_ble_eq_true rfl), (Nat.le_of_ble_eq_true rfl)⟩ rfl rfl (Nat.le_of_ble_eq_true rfl) dL_law_284 (fun z u hz => ?_)
  refine ly_aload2 C dL_law_287 ?_
  refine ly_arg C 1 dL_law_288 dL_law_289 dL_law_290 dL_law_291 dL_law_292 (by omega) ?_
  refine ly_callM (n := 1) C (mt_X1_valueOf (yGm Y) (ysx Y (i + 1)) τ _ hz) (lw_V q263 q264 q265 q24 q266) ⟨rfl, by decide +kernel, by decide +kernel, by decide +kernel⟩ ⟨(Nat.le_of_ble_eq_true rfl), (Nat.le_of_ble_eq_true rfl)⟩ rfl rfl (Nat.le_of_ble_eq_true rfl) dL_law_293 (fun z2 u2 hq => ?_)
  exact ly_eq C dL_law_296 (by decide) hq.1 (kk u u2 hq.2)
set_option maxHeartbeats 4000000 in
theorem lc_best {Y : lY} (C : lC Y) {i : Nat} (hi : i + 3 < yL Y) {σ τ : gS} (hs : sy σ τ) (kk : ∀ u u2 : gS, sy u u2 → lAt Y 484 (yls Y i) [] u u2) : lAt Y 301 (yls Y i) [] σ τ := by
  refine ly_aload1 C dL_law_301 ?_
  refine ly_callX (n := 0) C (mt_X0_best (yGx Y) σ (fun z u => Ok_X1_best τ (syQ z u)) (sy_best hs)) (lw_V q108 q109 q110 q23 q111) ⟨rfl, by decide +kernel, by decide +kernel, by decide +kernel⟩ ⟨(Nat.le_of_ble_eq_true rfl), (Nat.le_of_ble_eq_true rfl)⟩ rfl rfl (Nat.le_of_ble_eq_true rfl) dL_law_302 (fun z u hz => ?_)
  refine ly_aload2 C dL_law_305 ?_
  refine ly_callM (n := 0) C (mt_X1_best (yGm Y) τ _ hz) (lw_V q267 q268 q269 q24 q270) ⟨rfl, by decide +kernel, by decide +kernel, by decide +kernel⟩ ⟨(Nat.le_of_ble_eq_true rfl), (Nat.le_of_ble_eq_true rfl)⟩ rfl rfl (Nat.le_of_ble_eq_true rfl) dL_law_306 (fun z2 u2 hq => ?_)
  exact ly_eq C dL_law_309 (by decide) hq.1 (kk u u2 hq.2)
set_option maxHeartbeats 4000000 in
theorem lc_bestCode {Y : lY} (C : lC Y) {i : Nat} (hi : i + 3 < yL Y) {σ τ : gS} (hs : sy σ τ) (kk : ∀ u u2 : gS, sy u u2 → lAt Y 484 (yls Y i) [] u u2) : lAt Y 314 (yls Y i) [] σ τ := by
  refine ly_aload1 C dL_law_314 ?_
  refine ly_callX (n := 0) C (mt_X0_bestCode (yGx Y) σ (fun z u => Ok_X1_bestCode τ (syQ z u)) (sy_bestCode hs)) (lw_V q125 q126 q127 q23 q128) ⟨rfl, by decide +kernel, by decide +kernel, by decide +kernel⟩ ⟨(Nat.le_of_ble_eq_true rfl), (Nat.le_of_ble_eq_true rfl)⟩ rfl rfl (Nat.le_of_ble_eq_true rfl) dL_law_315 (fun z u hz => ?_)
  refine ly_aload2 C dL_law_318 ?_
  refine ly_callM (n := 0) C (mt_X1_bestCode (yGm Y) τ _ hz) (lw_V q287 q288 q289 q24 q290) ⟨rfl, by decide +kernel, by decide +kernel, by decide +kernel⟩ ⟨(Nat.le_of_ble_eq_true rfl), (Nat.le_of_ble_eq_true rfl)⟩ rfl rfl (Nat.le_of_ble_eq_true rfl) dL_law_319 (fun z2 u2 hq => ?_)
  exact ly_eq C dL_law_322 (by decide) hq.1 (kk u u2 hq.2)
set_option maxHeartbeats 4000000 in
theorem lc_bestStrict {Y : lY} (C : lC Y) {i : Nat} (hi : i + 3 < yL Y) {σ τ : gS} (hs : sy σ τ) (kk : ∀ u u2 : gS, sy u u2 → lAt Y 484 (yls Y i) [] u u2) : lAt Y 327 (yls Y i) [] σ τ := by
  refine ly_aload1 C dL_law_327 ?_
  refine ly_callX (n := 0) C (mt_X0_bestStrict (yGx Y) σ (fun z u => Ok_X1_bestStrict τ (syQ z u)) (sy_bestStrict hs)) (lw_V q133 q134 q135 q23 q136) ⟨rfl, by decide +kernel, by decide +kernel, by decide +kernel⟩ ⟨(Nat.le_of_ble_eq_true rfl), (Nat.le_of_ble_eq_true rfl)⟩ rfl rfl (Nat.le_of_ble_eq_true rfl) dL_law_328 (fun z u hz => ?_)
  refine ly_aload2 C dL_law_331 ?_
  refine ly_callM (n := 0) C (mt_X1_bestStrict (yGm Y) τ _ hz) (lw_V q291 q292 q293 q24 q294) ⟨rfl, by decide +kernel, by decide +kernel, by decide +kernel⟩ ⟨(Nat.le_of_ble_eq_true rfl), (Nat.le_of_ble_eq_true rfl)⟩ rfl rfl (Nat.le_of_ble_eq_true rfl) dL_law_332 (fun z2 u2 hq => ?_)
  exact ly_eq C dL_law_335 (by decide) hq.1 (kk u u2 hq.2)
set_option maxHeartbeats 4000000 in
theorem lc_bestStrictCode {Y : lY} (C : lC Y) {i : Nat} (hi : i + 3 < yL Y) {σ τ : gS} (hs : sy σ τ) (kk : ∀ u u2 : gS, sy u u2 → lAt Y 484 (yls Y i) [] u u2) : lAt Y 340 (yls Y i) [] σ τ := by
  refine ly_aload1 C dL_law_340 ?_
  refine ly_callX (n := 0) C (mt_X0_bestStrictCode (yGx Y) σ (fun z u => Ok_X1_bestStrictCode τ (syQ z u)) (sy_bestStrictCode hs)) (lw_V q157 q158 q159 q23 q160) ⟨rfl, by decide +kernel, by decide +kernel, by decide +kernel⟩ ⟨(Nat.le_of_ble_eq_true rfl), (Nat.le_of_ble_eq_true rfl)⟩ rfl rfl (Nat.le_of_ble_eq_true rfl) dL_law_341 (fun z u hz => ?_)
  refine ly_aload2 C dL_law_344 ?_
  refine ly_callM (n := 0) C (mt_X1_bestStrictCode (yGm Y) τ _ hz) (lw_V q295 q296 q297 q24 q298) ⟨rfl, by decide +kernel, by decide +kernel, by decide +kernel⟩ ⟨(Nat.le_of_ble_eq_true rfl), (Nat.le_of_ble_eq_true rfl)⟩ rfl rfl (Nat.le_of_ble_eq_true rfl) dL_law_345 (fun z2 u2 hq => ?_)
  exact ly_eq C dL_law_348 (by decide) hq.1 (kk u u2 hq.2)
set_option maxHeartbeats 4000000 in
theorem lc_fitting {Y : lY} (C : lC Y) {i : Nat} (hi : i + 3 < yL Y) {σ τ : gS} (hs : sy σ τ) (kk : ∀ u u2 : gS, sy u u2 → lAt Y 484 (yls Y i) [] u u2) : lAt Y 353 (yls Y i) [] σ τ := by
  refine ly_aload1 C dL_law_353 ?_
  refine ly_callX (n := 0) C (mt_X0_fitting (yGx Y) σ (fun z u => Ok_X1_fitting τ (syQ z u)) (sy_fitting hs)) (lw_V q161 q162 q163 q23 q164) ⟨rfl, by decide +kernel, by decide +kernel, by decide +kernel⟩ ⟨(Nat.le_of_ble_eq_true rfl), (Nat.le_of_ble_eq_true rfl)⟩ rfl rfl (Nat.le_of_ble_eq_true rfl) dL_law_354 (fun z u hz => ?_)
  refine ly_aload2 C dL_law_357 ?_
  refine ly_callM (n := 0) C (mt_X1_fitting (yGm Y) τ _ hz) (lw_V q299 q300 q301 q24 q302) ⟨rfl, by decide +kernel, by decide +kernel, by decide +kernel⟩ ⟨(Nat.le_of_ble_eq_true rfl), (Nat.le_of_ble_eq_true rfl)⟩ rfl rfl (Nat.le_of_ble_eq_true rfl) dL_law_358 (fun z2 u2 hq => ?_)
  exact ly_eq C dL_law_361 (by decide) hq.1 (kk u u2 hq.2)
set_option maxHeartbeats 4000000 in
theorem lc_weighing {Y : lY} (C : lC Y) {i : Nat} (hi : i + 3 < yL Y) {σ τ : gS} (hs : sy σ τ) (kk : ∀ u u2 : gS, sy u u2 → lAt Y 484 (yls Y i) [] u u2) : lAt Y 366 (yls Y i) [] σ τ := by
  refine ly_aload1 C dL_law_366 ?_
  refine ly_arg C 1 dL_law_367 dL_law_368 dL_law_369 dL_law_370 dL_law_371 (by omega) ?_
  refine ly_callX (n := 1) C (mt_X0_weighing (yGx Y) (ysx Y (i + 1)) σ (fun z u => Ok_X1_weighing (ysx Y (i + 1)) τ (syQ z u)) (sy_weighing hs (ysx_R Y _))) (lw_V q165 q166 q167 q23 q168) ⟨rfl, by decide +kernel, by decide +kernel, by decide +kernel⟩ ⟨(Nat.le_of_ble_eq_true rfl), (Nat.le_of_ble_eq_true rfl)⟩ rfl rfl (Nat.le_of_ble_eq_true rfl) dL_law_372 (fun z u hz => ?_)
  refine ly_aload2 C dL_law_375 ?_
  refine ly_arg C 1 dL_law_376 dL_law_377 dL_law_378 dL_law_379 dL_law_380 (by omega) ?_
  refine ly_callM (n := 1) C (mt_X1_weighing (yGm Y) (ysx Y (i + 1)) τ _ hz) (lw_V q303 q304 q305 q24 q306) ⟨rfl, by decide +kernel, by decide +kernel, by decide +kernel⟩ ⟨(Nat.le_of_ble_eq_true rfl), (Nat.le_of_ble_eq_true rfl)⟩ rfl rfl (Nat.le_of_ble_eq_true rfl) dL_law_381 (fun z2 u2 hq => ?_)
  exact ly_eq C dL_law_384 (by decide) hq.1 (kk u u2 hq.2)
set_option maxHeartbeats 4000000 in
theorem lc_fullest {Y : lY} (C : lC Y) {i : Nat} (hi : i + 3 < yL Y) {σ τ : gS} (hs : sy σ τ) (kk : ∀ u u2 : gS, sy u u2 → lAt Y 484 (yls Y i) [] u u2) : lAt Y 389 (yls Y i) [] σ τ := by
  refine ly_aload1 C dL_law_389 ?_
  refine ly_callX (n := 0) C (mt_X0_fullest (yGx Y) σ (fun z u => Ok_X1_fullest τ (syQ z u)) (sy_fullest hs)) (lw_V q169 q170 q171 q23 q172) ⟨rfl, by decide +kernel, by decide +kernel, by decide +kernel⟩ ⟨(Nat.le_of_ble_eq_true rfl), (Nat.le_of_ble_eq_true rfl)⟩ rfl rfl (Nat.le_of_ble_eq_true rfl) dL_law_390 (fun z u hz => ?_)
  refine ly_aload2 C dL_law_393 ?_
  refine ly_callM (n := 0) C (mt_X1_fullest (yGm Y) τ _ hz) (lw_V q311 q312 q313 q24 q314) ⟨rfl, by decide +kernel, by decide +kernel, by decide +kernel⟩ ⟨(Nat.le_of_ble_eq_true rfl), (Nat.le_of_ble_eq_true rfl)⟩ rfl rfl (Nat.le_of_ble_eq_true rfl) dL_law_394 (fun z2 u2 hq => ?_)
  exact ly_eq C dL_law_397 (by decide) hq.1 (kk u u2 hq.2)
set_option maxHeartbeats 4000000 in
theorem lc_lightest {Y : lY} (C : lC Y) {i : Nat} (hi : i + 3 < yL Y) {σ τ : gS} (hs : sy σ τ) (kk : ∀ u u2 : gS, sy u u2 → lAt Y 484 (yls Y i) [] u u2) : lAt Y 402 (yls Y i) [] σ τ := by
  refine ly_aload1 C dL_law_402 ?_
  refine ly_arg C 1 dL_law_403 dL_law_404 dL_law_405 dL_law_406 dL_law_407 (by omega) ?_
  refine ly_callX (n := 1) C (mt_X0_lightest (yGx Y) (ysx Y (i + 1)) σ (fun z u => Ok_X1_lightest (ysx Y (i + 1)) τ (syQ z u)) (sy_lightest hs (ysx_R Y _))) (lw_V q173 q174 q175 q23 q176) ⟨rfl, by decide +kernel, by decide +kernel, by decide +kernel⟩ ⟨(Nat.le_of_ble_eq_true rfl), (Nat.le_of_ble_eq_true rfl)⟩ rfl rfl (Nat.le_of_ble_eq_true rfl) dL_law_408 (fun z u hz => ?_)
  refine ly_aload2 C dL_law_411 ?_
  refine ly_arg C 1 dL_law_412 dL_law_413 dL_law_414 dL_law_415 dL_law_416 (by omega) ?_
  refine ly_callM (n := 1) C (mt_X1_lightest (yGm Y) (ysx Y (i + 1)) τ _ hz) (lw_V q315 q316 q317 q24 q318) ⟨rfl, by decide +kernel, by decide +kernel, by decide +kernel⟩ ⟨(Nat.le_of_ble_eq_true rfl), (Nat.le_of_ble_eq_true rfl)⟩ rfl rfl (Nat.le_of_ble_eq_true rfl) dL_law_417 (fun z2 u2 hq => ?_)
  exact ly_eq C dL_law_420 (by decide) hq.1 (kk u u2 hq.2)
set_option maxHeartbeats 4000000 in
theorem lc_two {Y : lY} (C : lC Y) {i : Nat} (hi : i + 3 < yL Y) {σ τ : gS} (hs : sy σ τ) (kk : ∀ u u2 : gS, sy u u2 → lAt Y 484 (yls Y i) [] u u2) : lAt Y 425 (yls Y i) [] σ τ := by
  refine ly_aload1 C dL_law_425 ?_
  refine ly_arg C 1 dL_law_426 dL_law_427 dL_law_428 dL_law_429 dL_law_430 (by omega) ?_
  refine ly_callX (n := 1) C (mt_X0_two (yGx Y) (ysx Y (i + 1)) σ (fun z u => Ok_X1_two (ysx Y (i + 1)) τ (syQ z u)) (sy_two hs (ysx_R Y _))) (lw_V q177 q178 q179 q23 q180) ⟨rfl, by decide +kernel, by decide +kernel, by decide +kernel⟩ ⟨(Nat.le_of_ble_eq_true rfl), (Nat.le_of_ble_eq_true rfl)⟩ rfl rfl (Nat.le_of_ble_eq_true rfl) dL_law_431 (fun z u hz => ?_)
  refine ly_aload2 C dL_law_434 ?_
  refine ly_arg C 1 dL_law_435 dL_law_436 dL_law_437 dL_law_438 dL_law_439 (by omega) ?_
  refine ly_callM (n := 1) C (mt_X1_two (yGm Y) (ysx Y (i + 1)) τ _ hz) (lw_V q319 q320 q321 q24 q322) ⟨rfl, by decide +kernel, by decide +kernel, by decide +kernel⟩ ⟨(Nat.le_of_ble_eq_true rfl), (Nat.le_of_ble_eq_true rfl)⟩ rfl rfl (Nat.le_of_ble_eq_true rfl) dL_law_440 (fun z2 u2 hq => ?_)
  exact ly_eq C dL_law_443 (by decide) hq.1 (kk u u2 hq.2)
set_option maxHeartbeats 4000000 in
theorem lc_without {Y : lY} (C : lC Y) {i : Nat} (hi : i + 3 < yL Y) {σ τ : gS} (hs : sy σ τ) (kk : ∀ u u2 : gS, sy u u2 → lAt Y 484 (yls Y i) [] u u2) : lAt Y 448 (yls Y i) [] σ τ := by
  refine ly_aload1 C dL_law_448 ?_
  refine ly_arg C 1 dL_law_449 dL_law_450 dL_law_451 dL_law_452 dL_law_453 (by omega) ?_
  refine ly_callX (n := 1) C (mt_X0_without (yGx Y) (ysx Y (i + 1)) σ (fun z u => Ok_X1_without (ysx Y (i + 1)) τ (syQ z u)) (sy_without hs (ysx_R Y _))) (lw_V q185 q186 q187 q23 q188) ⟨rfl, by decide +kernel, by decide +kernel, by decide +kernel⟩ ⟨(Nat.le_of_ble_eq_true rfl), (Nat.le_of_ble_eq_true rfl)⟩ rfl rfl (Nat.le_of_ble_eq_true rfl) dL_law_454 (fun z u hz => ?_)
  refine ly_aload2 C dL_law_457 ?_
  refine ly_arg C 1 dL_law_458 dL_law_459 dL_law_460 dL_law_461 dL_law_462 (by omega) ?_
  refine ly_callM (n := 1) C (mt_X1_without (yGm Y) (ysx Y (i + 1)) τ _ hz) (lw_V q327 q328 q329 q24 q330) ⟨rfl, by decide +kernel, by decide +kernel, by decide +kernel⟩ ⟨(Nat.le_of_ble_eq_true rfl), (Nat.le_of_ble_eq_true rfl)⟩ rfl rfl (Nat.le_of_ble_eq_true rfl) dL_law_463 (fun z2 u2 hq => ?_)
  exact ly_eq C dL_law_466 (by decide) hq.1 (kk u u2 hq.2)
set_option maxHeartbeats 4000000 in
theorem lc_halves {Y : lY} (C : lC Y) {i : Nat} (hi : i + 3 < yL Y) {σ τ : gS} (hs : sy σ τ) (kk : ∀ u u2 : gS, sy u u2 → lAt Y 484 (yls Y i) [] u u2) : lAt Y 471 (yls Y i) [] σ τ := by
  refine ly_aload1 C dL_law_471 ?_
  refine ly_callX (n := 0) C (mt_X0_halves (yGx Y) σ (fun z u => Ok_X1_halves τ (syQ z u)) (sy_halves hs)) (lw_V q189 q190 q191 q23 q192) ⟨rfl, by decide +kernel, by decide +kernel, by decide +kernel⟩ ⟨(Nat.le_of_ble_eq_true rfl), (Nat.le_of_ble_eq_true rfl)⟩ rfl rfl (Nat.le_of_ble_eq_true rfl) dL_law_472 (fun z u hz => ?_)
  refine ly_aload2 C dL_law_475 ?_
  refine ly_callM (n := 0) C (mt_X1_halves (yGm Y) τ _ hz) (lw_V q331 q332 q333 q24 q334) ⟨rfl, by decide +kernel, by decide +kernel, by decide +kernel⟩ ⟨(Nat.le_of_ble_eq_true rfl), (Nat.le_of_ble_eq_true rfl)⟩ rfl rfl (Nat.le_of_ble_eq_true rfl) dL_law_476 (fun z2 u2 hq => ?_)
  exact ly_eq C dL_law_479 (by decide) hq.1 (kk u u2 hq.2)
set_option maxHeartbeats 4000000 in
theorem lc_switch {Y : lY} (C : lC Y) {i : Nat} (hi : i + 3 < yL Y) {σ τ : gS} (hs : sy σ τ) (x : Int32) (kk : ∀ u u2 : gS, sy u u2 → lAt Y 484 (yls Y i) [] u u2) : lAt Y 32 (yls Y i) [.int x] σ τ := by
  by_cases ho : x.toInt < 0 ∨ 17 < x.toInt
  · exact ly_tableOut C dL_law_32 ho (by decide) (kk σ τ hs)
  · rcases (show x.toInt = 0 ∨ x.toInt = 1 ∨ x.toInt = 2 ∨ x.toInt = 3 ∨ x.toInt = 4 ∨ x.toInt = 5 ∨ x.toInt = 6 ∨ x.toInt = 7 ∨ x.toInt = 8 ∨ x.toInt = 9 ∨ x.toInt = 10 ∨ x.toInt = 11 ∨ x.toInt = 12 ∨ x.toInt = 13 ∨ x.toInt = 14 ∨ x.toInt = 15 ∨ x.toInt = 16 ∨ x.toInt = 17 by omega) with hk | hk | hk | hk | hk | hk | hk | hk | hk | hk | hk | hk | hk | hk | hk | hk | hk | hk
    · exact ly_tableIn C (tgt := 120) dL_law_32 (by omega) (by omega) (off := 88) (by rw [hk]; rfl) (by decide) (lc_add C hi hs kk)
    · exact ly_tableIn C (tgt := 163) dL_law_32 (by omega) (by omega) (off := 131) (by rw [hk]; rfl) (by decide) (lc_sow C hi hs kk)
    · exact ly_tableIn C (tgt := 196) dL_law_32 (by omega) (by omega) (off := 164) (by rw [hk]; rfl) (by decide) (lc_drop C hi hs kk)
    · exact ly_tableIn C (tgt := 219) dL_law_32 (by omega) (by omega) (off := 187) (by rw [hk]; rfl) (by decide) (lc_limit C hi hs kk)
    · exact ly_tableIn C (tgt := 242) dL_law_32 (by omega) (by omega) (off := 210) (by rw [hk]; rfl) (by decide) (lc_goods C hi hs kk)
    · exact ly_tableIn C (tgt := 255) dL_law_32 (by omega) (by omega) (off := 223) (by rw [hk]; rfl) (by decide) (lc_weightOf C hi hs kk)
    · exact ly_tableIn C (tgt := 278) dL_law_32 (by omega) (by omega) (off := 246) (by rw [hk]; rfl) (by decide) (lc_valueOf C hi hs kk)
    · exact ly_tableIn C (tgt := 301) dL_law_32 (by omega) (by omega) (off := 269) (by rw [hk]; rfl) (by decide) (lc_best C hi hs kk)
    · exact ly_tableIn C (tgt := 314) dL_law_32 (by omega) (by omega) (off := 282) (by rw [hk]; rfl) (by decide) (lc_bestCode C hi hs kk)
    · exact ly_tableIn C (tgt := 327) dL_law_32 (by omega) (by omega) (off := 295) (by rw [hk]; rfl) (by decide) (lc_bestStrict C hi hs kk)
    · exact ly_tableIn C (tgt := 340) dL_law_32 (by omega) (by omega) (off := 308) (by rw [hk]; rfl) (by decide) (lc_bestStrictCode C hi hs kk)
    · exact ly_tableIn C (tgt := 353) dL_law_32 (by omega) (by omega) (off := 321) (by rw [hk]; rfl) (by decide) (lc_fitting C hi hs kk)
    · exact ly_tableIn C (tgt := 366) dL_law_32 (by omega) (by omega) (off := 334) (by rw [hk]; rfl) (by decide) (lc_weighing C hi hs kk)
    · exact ly_tableIn C (tgt := 389) dL_law_32 (by omega) (by omega) (off := 357) (by rw [hk]; rfl) (by decide) (lc_fullest C hi hs kk)
    · exact ly_tableIn C (tgt := 402) dL_law_32 (by omega) (by omega) (off := 370) (by rw [hk]; rfl) (by decide) (lc_lightest C hi hs kk)
    · exact ly_tableIn C (tgt := 425) dL_law_32 (by omega) (by omega) (off := 393) (by rw [hk]; rfl) (by decide) (lc_two C hi hs kk)
    · exact ly_tableIn C (tgt := 448) dL_law_32 (by omega) (by omega) (off := 416) (by rw [hk]; rfl) (by decide) (lc_without C hi hs kk)
    · exact ly_tableIn C (tgt := 471) dL_law_32 (by omega) (by omega) (off := 439) (by rw [hk]; rfl) (by decide) (lc_halves C hi hs kk)
end
section
/-! the law's loop, and its start -/
set_option maxRecDepth 100000
set_option maxHeartbeats 4000000 in
theorem law_loop {Y : lY} (C : lC Y) : ∀ (n i : Nat), i ≤ yL Y → yL Y + 4 ≤ i + 4 * n → ∀ σ τ : gS, sy σ τ → lAt Y 18 (yls Y i) [] σ τ := by
  intro n
  induction n with
  | zero => intro i h1 h2; omega
  | succ n ih =>
    intro i hi hn σ τ hs
    -- behind a case: i + 4, and the head again
    have next : i + 3 < yL Y → ∀ u u2 : gS, sy u u2 → lAt Y 484 (yls Y i) [] u u2 := by
      intro h3 u u2 hu
      have k0 := ih (i + 4) (by omega) (by omega) u u2 hu
      obtain ⟨⟨p, e, s, m, below, meth, c⟩, ⟨b, L, xs⟩, ⟨l, D, d⟩, ⟨hx, adx⟩, ⟨hm, adm⟩⟩ := Y
      obtain ⟨hex, hb, hml, ho, hts, hK, hX, hbl, hL, -⟩ := C
      intro H locs la hP hD hS hl
      refine lv_iinc (v := iI ((i + 4 : Nat) : Int)) (lv' := [(3, .int (iI ((i + 4 : Nat) : Int))), (0, .ref b), (1, .ref hx), (2, .ref hm)]) hex hb dL_law_484 hl (k := 3) rfl (by rw [show ((i + 4 : Nat) : Int) = (i : Int) + 4 by omega]; exact iI_add (i : Int) 4) (by decide) rfl (fun ls hl => ?_)
      refine lv_goto (tgt := 18) hex hb dL_law_487 (by decide) ?_
      exact k0 H locs ls hP hD hS (lv_sub hl [1, 2, 3, 0] rfl)
    have sw : i + 3 < yL Y → ∀ x : Int32, lAt Y 32 (yls Y i) [.int x] σ τ := fun h3 x => lc_switch C h3 hs x (next h3)
    clear next ih
    obtain ⟨⟨p, e, s, m, below, meth, c⟩, ⟨b, L, xs⟩, ⟨l, D, d⟩, ⟨hx, adx⟩, ⟨hm, adm⟩⟩ := Y
    obtain ⟨hex, hb, hml, ho, hts, hK, hX, hbl, hL, hret, hlocks⟩ := C
    have hi : i ≤ L := hi
    intro H locs la hP hD hS hl
    refine lv_iload_n hex hb dL_law_18 rfl (lv_at hl 3 rfl) ?_
    refine lv_aload_n hex hb dL_law_19 rfl (lv_at hl 0 rfl) ?_
    refine va_slen hex hb hX hbl (Nat.not_le.mpr hbl) hS dL_law_20 ?_
    refine lv_iconst (v := iI 4) hex hb dL_law_21 rfl ?_
    refine lv_isub hex hb dL_law_22 ?_
    have e1 : Int32.ofNat L - iI 4 = iI ((L : Int) - 4) := by
      have h := iI_sub (L : Int) 4
      rw [iI_n] at h
      exact h
    rw [e1]
    have hlt := iI_lt (a := (L : Int) - 4) (b := (i : Int)) ⟨by omega, by omega⟩ ⟨by omega, by omega⟩
    refine lv_icmp_gt (tgt := 490) hex hb dL_law_23 (by decide) (fun _ => ?_) (fun hc => ?_)
    · refine lv_iconst (v := 1) hex hb dL_law_490 (by decide) ?_
      refine va_forget (fun q hq => hS.2.2 q hq) ?_
      refine W.widen (k := 600000) (n := 7290000) (Nat.le_of_ble_eq_true rfl) (Nat.le_of_ble_eq_true rfl) ?_
      exact lw_ret hex hb hret hlocks dL_law_491
    · have h3 : i + 3 < L := by
        have : ¬ ((L : Int) - 4 < (i : Int)) := fun q => hc (hlt.mpr q)
        omega
      refine lv_aload_n hex hb dL_law_26 rfl (lv_at hl 0 rfl) ?_
      refine lv_iload_n hex hb dL_law_27 rfl (lv_at hl 3 rfl) ?_
      refine va_sld hex hb hX hbl (Nat.not_le.mpr hbl) hS (iI_in (n := L) ⟨by omega, by omega⟩ (by omega)) dL_law_28 ?_
      refine lv_bipush (v := iI 31) hex hb dL_law_29 (by decide +kernel) ?_
      refine lv_iand hex hb dL_law_31 ?_
      exact sw h3 _ H locs la hP hD hS hl
theorem law_intArr {s : State} {args : Array Value} (h : (Cond.arrayClass .int).before args s = true) : ∃ d : ClassId, ArrOfT s d .int ∧ va_RA s d .int := by
  obtain ⟨d, kA, comp, h1, h2, h3⟩ := Cond.arrayClass_spec h
  exact ⟨d, fun n z => ⟨fun k h => (by cases h), kA, h2, comp, h3⟩, h1⟩
set_option maxHeartbeats 4000000 in
theorem whole_start {p : Program} {e : Env} {s : State} {m : MethodId} {below : List Frame} {meth : Method} {c : Code} (l : Launch) {b L : Nat} {xs : Nat → Int32} (hL : L ≤ 256) (C0 : lw_At p s m meth c b L xs) : W p l e room_1 s m #[Value.ref b] below meth c s.heap [] 0 0 (lw_Z below #[Value.ref b] s) (entryFrame m ([Value.ref b] : List Value).toArray 4) := by
  obtain ⟨hx, hb, hr, hml, hown, hts0, hX, hbl, hlocks, hgv⟩ := id C0
  have hts : ∀ w ∈ lw_all, w.before #[Value.ref b] s = true := fun w h => hts0 w (lw_all_tbl h)
  have hA : ∀ q : Nat, s.heap.size ≤ q → (fun q : Nat => s.heap.size ≤ q) q := fun _ h => h
  obtain ⟨c0, iS0, hKn0⟩ := u_known (C := RX0) (T := TX0) (N := 11) (n := 11) hts in_X0 (hts _ q26)
  obtain ⟨c1, iS1, hKn1⟩ := u_known (C := RX1) (T := TX1) (N := 9) (n := 9) hts in_X1 (hts _ q194)
  obtain ⟨D, hKc⟩ : ∃ D : va_G, ∀ (k : Nat) (q : vw_C), vwCl[k]? = some q → u_Kn s q.1 q.2.1 q.2.2 (D.1 k) (D.2 k) := by
    refine ⟨(fun k => if k = 0 then c0 else c1, fun k => if k = 0 then iS0 else iS1), ?_⟩
    intro k q hq
    match k, hq with
    | 0, hq => cases hq; exact hKn0
    | 1, hq => cases hq; exact hKn1
    | k + 2, hq => simp [vwCl] at hq
  obtain ⟨d, hd1, hd2⟩ := law_intArr (hts _ q67)
  have hK : va_K D vwCl [(d, .int)] s := ⟨hKc, fun k q h => by
    match k, h with
    | 0, h => cases h; exact ⟨hd1, hd2⟩
    | k + 1, h => simp at h⟩
  have hS : va_S (fun q : Nat => s.heap.size ≤ q) s.heap s.heap [] := va_S.rf
  have hP : va_P D vwCl [] s.heap := fun k q h => by simp at h
  have hD : va_D (fun q : Nat => s.heap.size ≤ q) [] := ⟨fun i j p q h => by simp at h, fun k q h => by simp at h⟩
  have hl := lv_entry ([.ref b]) (n := 4) (Nat.le_of_ble_eq_true rfl)
  rw [lg_entry_eq]
  generalize (lg_sl ([.ref b]) ++ List.replicate (4 - (lg_sl ([.ref b])).length) Slot.unset).toArray = ls at hl ⊢
  have hl : lv_has ls 4 [(0, .ref b)] := hl
  have hb : c.code = cL_law := hb
  -- the class's object
  refine va_new (ci := 0) (fs := [.null, .null, .null, .null, .null, .null, .null, .null, .null, .int (iI 0), .int (iI 0)]) (C := RX0) (T := TX0) (N := 11) hx hb hts in_X0 tyX0 tyX0_ok hown (hts _ q25) (hts _ q26) (hts _ q23) hK hP hD hS hA rfl (fun j hj => by rcases (show j = 0 ∨ j = 1 ∨ j = 2 ∨ j = 3 ∨ j = 4 ∨ j = 5 ∨ j = 6 ∨ j = 7 ∨ j = 8 ∨ j = 9 ∨ j = 10 by omega) with rfl | rfl | rfl | rfl | rfl | rfl | rfl | rfl | rfl | rfl | rfl <;> first | rfl | exact congrArg Value.int iI_0.symm) (Nat.le_of_ble_eq_true rfl) (Nat.le_of_ble_eq_true rfl) dL_law_0 (fun h1 H hP hD hS => ?_)
  have hP : va_P D vwCl (XN h1) H := hP
  have hD : va_D (fun q : Nat => s.heap.size ≤ q) (XN h1) := hD
  refine lv_dup hx hb dL_law_3 rfl ?_
  have hFc := va_free (wc := XN h1) hD hS hA [0] rfl
  refine va_callv (va_runI (As := []) (rest := [.ref h1]) ⟨hx, hb, hml, hown, hts⟩ (mt_X0_init l D d h1 H.size) (cwI 0 hts (lw_meth q29) rfl rfl rfl (hts _ q23) (hts _ q27) (hts _ q28) rfl (by decide +kernel) ⟨Nat.le_of_ble_eq_true rfl, Nat.le_of_ble_eq_true rfl⟩) ⟨fun a U g mk q => by obtain ⟨q0, q1, qP, qK, qD⟩ := q; exact ⟨q0, q1, qP, va_K.moved (u := U) (U := U.calling g mk a) (Vm.Alike.refl U.vm) qK, qD⟩, fun U hU hW => ⟨rfl, by rw [hU], by rw [hU]; exact hP, va_K.moved hW.alike hK, hD.weaken (fun _ _ _ _ => trivial)⟩⟩ rfl rfl hl.1 rfl (lv_room (Nat.le_of_ble_eq_true rfl)) dL_law_4 ⟨Nat.le_of_ble_eq_true rfl, Nat.le_of_ble_eq_true rfl⟩) hS (fun q _ h => hFc q h) hFc (fun adx t H1 locs1 ht hvm hw hB hz1 hk1 hS => ?_)
  obtain ⟨hP1, hK1, hD1⟩ := hB
  rw [ht] at hP1
  have hP : va_P D vwCl (XW (l, D, d, h1, adx) x0S) H1 := hP1
  have hD : va_D (fun q : Nat => s.heap.size ≤ q) (XW (l, D, d, h1, adx) x0S) := hD1.weaken (fun k q _ h => hFc q.1 h)
  clear hP1 hD1 hK1 hFc hk1 hz1
  refine lv_astore_n (lv' := [(1, .ref h1), (0, .ref b)]) hx hb dL_law_7 rfl hl (by decide) rfl (fun ls hl => ?_)
  -- the reference
  refine va_new (ci := 1) (fs := [.int (iI 0), .null, .null, .null, .null, .int (iI 0), .null, .int (iI 0), .int (iI 0)]) (C := RX1) (T := TX1) (N := 9) hx hb hts in_X1 tyX1 tyX1_ok hown (hts _ q193) (hts _ q194) (hts _ q24) hK hP hD hS hA rfl (fun j hj => by rcases (show j = 0 ∨ j = 1 ∨ j = 2 ∨ j = 3 ∨ j = 4 ∨ j = 5 ∨ j = 6 ∨ j = 7 ∨ j = 8 by omega) with rfl | rfl | rfl | rfl | rfl | rfl | rfl | rfl | rfl <;> first | rfl | exact congrArg Value.int iI_0.symm) (Nat.le_of_ble_eq_true rfl) (Nat.le_of_ble_eq_true rfl) dL_law_8 (fun h2 H2 hP hD hS => ?_)
  refine lv_dup hx hb dL_law_11 rfl ?_
  have hPc : va_P D vwCl (MN h2) H2 := hP.sub [10] rfl
  have hDc : va_D (fun q : Nat => s.heap.size ≤ q) (MN h2) := hD.sub [10] (by decide) rfl
  have hFc := va_free (wc := MN h2) hD hS hA [10] rfl
  refine va_callv (va_runI (As := []) (rest := [.ref h2]) ⟨hx, hb, hml, hown, hts⟩ (mt_X1_init l D d h2 H2.size) (cwI 0 hts (lw_meth q197) rfl rfl rfl (hts _ q24) (hts _ q195) (hts _ q196) rfl (by decide +kernel) ⟨Nat.le_of_ble_eq_true rfl, Nat.le_of_ble_eq_true rfl⟩) ⟨fun a U g mk q => by obtain ⟨q0, q1, qP, qK, qD⟩ := q; exact ⟨q0, q1, qP, va_K.moved (u := U) (U := U.calling g mk a) (Vm.Alike.refl U.vm) qK, qD⟩, fun U hU hW => ⟨rfl, by rw [hU], by rw [hU]; exact hPc, va_K.moved hW.alike hK, hDc.weaken (fun _ _ _ _ => trivial)⟩⟩ rfl rfl hl.1 rfl (lv_room (Nat.le_of_ble_eq_true rfl)) dL_law_12 ⟨Nat.le_of_ble_eq_true rfl, Nat.le_of_ble_eq_true rfl⟩) hS (fun q _ h => hFc q h) hFc (fun adm t H3 locs3 ht hvm hw hB hz1 hk1 hS => ?_)
  obtain ⟨hP1, hK1, hD1⟩ := hB
  rw [ht] at hP1
  obtain ⟨hP, hD⟩ := va_join (wc := MN h2) (wr := XW (l, D, d, h1, adx) x0S) (w1 := MW (l, D, d, h2, adm) m0S) hP hD [10] [0, 1, 2, 3, 4, 5, 6, 7, 8, 9] rfl rfl (by decide) (by decide) hk1 hFc hP1 hD1
  refine lv_astore_n (lv' := [(2, .ref h2), (1, .ref h1), (0, .ref b)]) hx hb dL_law_15 rfl hl (by decide) rfl (fun ls hl => ?_)
  refine lv_iconst (v := iI 0) hx hb dL_law_16 rfl ?_
  refine lv_istore_n (lv' := [(3, .int (iI 0)), (2, .ref h2), (1, .ref h1), (0, .ref b)]) hx hb dL_law_17 rfl hl (by decide) rfl (fun ls hl => ?_)
  refine W.widen (k := 16) (n := 9712) (Nat.le_of_ble_eq_true rfl) (Nat.le_of_ble_eq_true rfl) ?_
  have hloop := law_loop (Y := ((p, e, s, m, below, meth, c), (b, L, xs), (l, D, d), (h1, adx), (h2, adm))) ⟨hx, hb, hml, hown, hts, hK, hX, hbl, hL, hr, hlocks⟩ (L + 1) 0 (Nat.zero_le _) (by show L + 4 ≤ 0 + 4 * (L + 1); omega) x0S m0S (sy_start rfl rfl rfl rfl)
  exact hloop H3 locs3 ls hP hD hS (lv_sub hl [3, 2, 1, 0] rfl)
end
section
set_option maxRecDepth 100000
set_option maxHeartbeats 4000000 in
theorem lw_walk (l : Launch) (b : Addr) (xs : List Int32) : MetFree l x (headSpec (Jvm.Cond.code x code maxLocals ret :: tables_1) room_1) (lw_P b xs) (fun _ _ _ _ _ => True) lw_Q := by
  refine MetFree.of_bodyS (code := code) (maxLocals := maxLocals) (ret := ret) (by decide) ?_ ?_
  · intro args s m h hn
    obtain ⟨meth, c, h1, h2, h3, h4, h5, h6, -, -⟩ := Cond.code_spec hn (atoms_spec (ws := Jvm.Cond.code x code maxLocals ret :: tables_1) h _ List.mem_cons_self)
    exact ⟨meth, c, h1, h2, h3, h4, h5, h6⟩
  · intro p e s m args below meth c s₁ B hml0 hP _
    obtain ⟨rfl, hx, hbd, hgv⟩ := hP
    obtain ⟨scr, harrAt, hlist, hof, hsmall⟩ := hx
    obtain ⟨hcb, hkn, -, -⟩ := State.arrayAt?_spec harrAt
    have hown : s.vm.findClass R_law = some m.cls := findClass_of_methodNamed B.named
    have hts0 : ∀ c ∈ (Jvm.Cond.code x code maxLocals ret :: tables_1), c.before #[Value.ref b] s = true := atoms_spec (ws := Jvm.Cond.code x code maxLocals ret :: tables_1) B.pre
    have hts : ∀ w ∈ lw_tbl, w.before #[Value.ref b] s = true := k2_hts_sels lw_privs (fun w hw => hts0 w (List.mem_cons_of_mem _ hw)) lw_privs_ok
    have hml : c.maxLocals = 4 := B.maxLocals_eq (hts0 _ List.mem_cons_self)
    have X₀ : Stand p l e room_1 s m #[Value.ref b] below meth c s₁ [] 0 0 := Stand.of_body B
    have hh0 : s₁.heap = s.heap := by rw [B.state]; rfl
    have hsz : scr.slots.size = xs.length := by rw [← Array.length_toList, hlist, List.length_map]
    have hval : ∀ j : Nat, j < xs.length → scr.slots[j]? = some (.int (xs.getD j 0)) := fun j hj => by
      rw [← Array.getElem?_toList, hlist]
      simp [hj]
    have hbl : b < s.heap.size := (Array.getElem?_eq_some_iff.mp hcb).1
    have hX : va_X b xs.length (fun j => xs.getD j 0) s s.heap := ⟨scr, hcb, hof, hkn, hsz, hval⟩
    have K : W p l e room_1 s m #[Value.ref b] below meth c s₁.heap [] 0 0 (lw_Z below #[Value.ref b] s) (entryFrame m ([Value.ref b] : List Value).toArray 4) := by
      rw [hh0]
      exact whole_start l hbd ⟨B.exec, B.bytes, B.returns, hml, hown, hts, hX, hbl, B.notSynchronized, hgv⟩
    obtain ⟨t, a1, o, b1, b2, b3⟩ := K s₁ rfl X₀
    exact ⟨t, o, a1, b1, b2, b3⟩
theorem lw_pre_spec {args : Array Value} {s : State} (h : (Jvm.Cond.and given_1 narrow_1).before args s = true) (hr : rest_1_c.before args s = true) : ∃ (b : Addr) (xs : List Int32), lw_P b xs args s := by
  have hs := flat_of_before _ h
  have hq := flat_of_before _ hr
  have hc : (Cond.count 1).before args s = true := hs _ (by decide +kernel)
  have harr : (Cond.arrayOf (.arg 0) .int).before args s = true := hs _ (by decide +kernel)
  have hle : (Cond.le (.length (.arg 0)) (.int 256)).before args s = true := hs _ (by decide +kernel)
  have hlen : (Cond.isInt (.length (.arg 0))).before args s = true := hq _ (by decide +kernel)
  have hall : (Cond.all (.arg 0) (.isInt (.elem (.arg 0) (.index 0)))).before args s = true := hq _ (by decide +kernel)
  obtain ⟨b, xs, hb, hx⟩ := State.ints_of_pre rfl harr hlen hall
  have hsm : xs.length < 2 ^ 31 := hx.choose_spec.2.2.2
  have hev : (Term.length (.arg 0)).eval args s none [] s = some (.int xs.length.toInt32) := hx.length_eval hb
  have hv := Cond.le_ints hev (show (Term.int 256).eval args s none [] s = some (.int 256) from rfl)
  have hd : xs.length.toInt32 ≤ 256 := by
    simpa [Cond.before, Cond.holds, hv] using hle
  have hN : xs.length ≤ 256 := (Int32.ofNat_le_ofNat hsm (by decide)).mp (show Int32.ofNat xs.length ≤ Int32.ofNat 256 from hd)
  exact ⟨b, xs, Cond.one_arg hc (show args[0]? = some (.ref b) from hb), hx, hN, h⟩
theorem lw_comes (l : Launch) : Comes l x (Jvm.Cond.code x code maxLocals ret :: tables_1) room_1 (fun tb e args s => Calls_1 tb e args s ∧ rest_1 tb e args s ∧ Pre_1 tb e args s)
    (fun _ _ args s o t => lw_Q args s o t) := by
  intro p e ha hc hk s m args below hf hfit hheap happ hpre
  obtain ⟨b, xs, hP⟩ := lw_pre_spec hpre.2.2 hpre.2.1
  obtain ⟨k, o, h1, h2, h3, hQ⟩ := lw_walk l b xs p e ha hc hk s m args below hf ((Spec.applies_iff_loose hf).mp happ).1 hP trivial
  exact ⟨k, o, h1, h2, h3, hQ⟩
theorem lw_frame {s t : State} {o : Outcome} {args : Array Value} (h : Framed s o t [] 600000 7290000) :
    Framed s o t (fieldLocs frame_1_writes args s ++ arrayLocs frame_1_arrays args s ++ staticLocs frame_1_statics s) 600000 7290000 := h
theorem lw_limb (L : Cond) (hL : ∀ (args : Array Value) (s t : State), L.after args s (.returned (some (.int 1))) t = true) :
    ArmFor flags0 classFile x code maxLocals ret World_1 tables_1 room_1 Calls_1 rest_1 Pre_1
      (fun tb e a s o t => postC L tb e a s o t ∧ Framed s o t (fieldLocs frame_1_writes a s ++ arrayLocs frame_1_arrays a s ++ staticLocs frame_1_statics s) 600000 7290000) := by
  intro l _ _ _ p e ha hc hk s m args below hf hfit hheap happ hpre
  obtain ⟨k, o, h1, h2, h3, rfl, hF⟩ := lw_comes l p e ha hc hk s m args below hf hfit hheap happ hpre
  exact ⟨k, _, h1, h2, h3, hL args s _, lw_frame hF⟩
theorem i_vc : Claimed_1_1 ∧ Claimed_1_2 := ⟨lw_limb limb_1_1 (fun args s t => by simp [limb_1_1, Cond.after, Cond.holds, Cond.value]), lw_limb limb_1_2 (fun args s t => Cond.after_iff.mpr (by
  first | (rw [show limb_1_2 = Cond.eq .result (.int 1) from rfl, Cond.eq_ints (x := 1) (y := 1) rfl rfl]; simp; done) | (simp [limb_1_2, Cond.value, Term.eval]; done)))⟩
end
