section
section
-- ===== PART A: goes FIRST, ahead of the names: the tables' words, and 'selects' of the private methods out of them =====
/-- a private method of a class that the tables say can be made, by its rows of tables_1 -/
def lw_okq (q : MethodName × Nat) : Prop := (q.1.cls ≠ "java/lang/invoke/MethodHandle" ∧ q.1.cls ≠ "java/lang/invoke/VarHandle") ∧ Cond.instantiable q.1.cls q.2 ∈ tables_1 ∧ Cond.privateMethod q.1 ∈ tables_1 ∧ Cond.instanceMethod q.1 ∈ tables_1
set_option maxRecDepth 100000
theorem lw_t1 {w : Cond} (h : w ∈ tables_1_1) : w ∈ tables_1 := List.mem_append_left _ h
theorem lw_t2 {w : Cond} (h : w ∈ tables_1_2) : w ∈ tables_1 := List.mem_append_right _ h
theorem lw_p0 : lw_okq (⟨"OrderedResolver", "spellOut", "(I)V"⟩, 14) := ⟨⟨by decide +kernel, by decide +kernel⟩, lw_t1 (List.mem_of_getElem? (i := 4) rfl), lw_t1 (List.mem_of_getElem? (i := 12) rfl), lw_t1 (List.mem_of_getElem? (i := 13) rfl)⟩
theorem lw_p1 : lw_okq (⟨"OrderedResolver", "isClause", "(I)Z"⟩, 14) := ⟨⟨by decide +kernel, by decide +kernel⟩, lw_t1 (List.mem_of_getElem? (i := 4) rfl), lw_t1 (List.mem_of_getElem? (i := 67) rfl), lw_t1 (List.mem_of_getElem? (i := 68) rfl)⟩
theorem lw_p2 : lw_okq (⟨"OrderedResolver", "placeOf", "(I)I"⟩, 14) := ⟨⟨by decide +kernel, by decide +kernel⟩, lw_t1 (List.mem_of_getElem? (i := 4) rfl), lw_t1 (List.mem_of_getElem? (i := 71) rfl), lw_t1 (List.mem_of_getElem? (i := 72) rfl)⟩
theorem lw_p3 : lw_okq (⟨"OrderedResolver", "takeIn", "(I)V"⟩, 14) := ⟨⟨by decide +kernel, by decide +kernel⟩, lw_t1 (List.mem_of_getElem? (i := 4) rfl), lw_t1 (List.mem_of_getElem? (i := 75) rfl), lw_t1 (List.mem_of_getElem? (i := 76) rfl)⟩
theorem lw_p4 : lw_okq (⟨"OrderedResolver", "enqueue", "(I)V"⟩, 14) := ⟨⟨by decide +kernel, by decide +kernel⟩, lw_t1 (List.mem_of_getElem? (i := 4) rfl), lw_t1 (List.mem_of_getElem? (i := 79) rfl), lw_t1 (List.mem_of_getElem? (i := 80) rfl)⟩
theorem lw_p5 : lw_okq (⟨"OrderedResolver", "lowestKeptWithin", "(I)I"⟩, 14) := ⟨⟨by decide +kernel, by decide +kernel⟩, lw_t1 (List.mem_of_getElem? (i := 4) rfl), lw_t1 (List.mem_of_getElem? (i := 83) rfl), lw_t1 (List.mem_of_getElem? (i := 84) rfl)⟩
theorem lw_p6 : lw_okq (⟨"OrderedResolver", "within", "(II)Z"⟩, 14) := ⟨⟨by decide +kernel, by decide +kernel⟩, lw_t1 (List.mem_of_getElem? (i := 4) rfl), lw_t1 (List.mem_of_getElem? (i := 87) rfl), lw_t1 (List.mem_of_getElem? (i := 88) rfl)⟩
theorem lw_p7 : lw_okq (⟨"OrderedResolver", "nextWaiting", "()I"⟩, 14) := ⟨⟨by decide +kernel, by decide +kernel⟩, lw_t1 (List.mem_of_getElem? (i := 4) rfl), lw_t1 (List.mem_of_getElem? (i := 91) rfl), lw_t1 (List.mem_of_getElem? (i := 92) rfl)⟩
theorem lw_p8 : lw_okq (⟨"OrderedResolver", "bitsIn", "(I)I"⟩, 14) := ⟨⟨by decide +kernel, by decide +kernel⟩, lw_t1 (List.mem_of_getElem? (i := 4) rfl), lw_t1 (List.mem_of_getElem? (i := 95) rfl), lw_t1 (List.mem_of_getElem? (i := 96) rfl)⟩
theorem lw_p9 : lw_okq (⟨"OrderedResolver", "dropWider", "(I)V"⟩, 14) := ⟨⟨by decide +kernel, by decide +kernel⟩, lw_t1 (List.mem_of_getElem? (i := 4) rfl), lw_t1 (List.mem_of_getElem? (i := 99) rfl), lw_t1 (List.mem_of_getElem? (i := 100) rfl)⟩
theorem lw_p10 : lw_okq (⟨"OrderedResolver", "resolveWithKept", "(I)V"⟩, 14) := ⟨⟨by decide +kernel, by decide +kernel⟩, lw_t1 (List.mem_of_getElem? (i := 4) rfl), lw_t1 (List.mem_of_getElem? (i := 103) rfl), lw_t1 (List.mem_of_getElem? (i := 104) rfl)⟩
theorem lw_p11 : lw_okq (⟨"OrderedResolver", "numberOf", "(II)I"⟩, 14) := ⟨⟨by decide +kernel, by decide +kernel⟩, lw_t1 (List.mem_of_getElem? (i := 4) rfl), lw_t1 (List.mem_of_getElem? (i := 107) rfl), lw_t1 (List.mem_of_getElem? (i := 108) rfl)⟩
theorem lw_p12 : lw_okq (⟨"OrderedResolver", "saturate", "()V"⟩, 14) := ⟨⟨by decide +kernel, by decide +kernel⟩, lw_t1 (List.mem_of_getElem? (i := 4) rfl), lw_t1 (List.mem_of_getElem? (i := 123) rfl), lw_t1 (List.mem_of_getElem? (i := 124) rfl)⟩
theorem lw_p13 : lw_okq (⟨"OrderedResolver", "clearKept", "()V"⟩, 14) := ⟨⟨by decide +kernel, by decide +kernel⟩, lw_t1 (List.mem_of_getElem? (i := 4) rfl), lw_t1 (List.mem_of_getElem? (i := 127) rfl), lw_t1 (List.mem_of_getElem? (i := 128) rfl)⟩
theorem lw_p14 : lw_okq (⟨"OrderedResolver", "breaks", "(II)Z"⟩, 14) := ⟨⟨by decide +kernel, by decide +kernel⟩, lw_t1 (List.mem_of_getElem? (i := 4) rfl), lw_t1 (List.mem_of_getElem? (i := 147) rfl), lw_t1 (List.mem_of_getElem? (i := 148) rfl)⟩
theorem lw_p15 : lw_okq (⟨"OrderedResolverModel", "isClause", "(I)Z"⟩, 6) := ⟨⟨by decide +kernel, by decide +kernel⟩, lw_t1 (List.mem_of_getElem? (i := 162) rfl), lw_t1 (List.mem_of_getElem? (i := 191) rfl), lw_t1 (List.mem_of_getElem? (i := 192) rfl)⟩
def lw_privs_1 : List (MethodName × Nat) := [(⟨"OrderedResolver", "spellOut", "(I)V"⟩, 14), (⟨"OrderedResolver", "isClause", "(I)Z"⟩, 14), (⟨"OrderedResolver", "placeOf", "(I)I"⟩, 14), (⟨"OrderedResolver", "takeIn", "(I)V"⟩, 14), (⟨"OrderedResolver", "enqueue", "(I)V"⟩, 14), (⟨"OrderedResolver", "lowestKeptWithin", "(I)I"⟩, 14), (⟨"OrderedResolver", "within", "(II)Z"⟩, 14), (⟨"OrderedResolver", "nextWaiting", "()I"⟩, 14), (⟨"OrderedResolver", "bitsIn", "(I)I"⟩, 14), (⟨"OrderedResolver", "dropWider", "(I)V"⟩, 14), (⟨"OrderedResolver", "resolveWithKept", "(I)V"⟩, 14), (⟨"OrderedResolver", "numberOf", "(II)I"⟩, 14), (⟨"OrderedResolver", "saturate", "()V"⟩, 14), (⟨"OrderedResolver", "clearKept", "()V"⟩, 14), (⟨"OrderedResolver", "breaks", "(II)Z"⟩, 14), (⟨"OrderedResolverModel", "isClause", "(I)Z"⟩, 6)]
theorem lw_r1 : ∀ q ∈ lw_privs_1, lw_okq q := List.forall_mem_cons.mpr ⟨lw_p0, List.forall_mem_cons.mpr ⟨lw_p1, List.forall_mem_cons.mpr ⟨lw_p2, List.forall_mem_cons.mpr ⟨lw_p3, List.forall_mem_cons.mpr ⟨lw_p4, List.forall_mem_cons.mpr ⟨lw_p5, List.forall_mem_cons.mpr ⟨lw_p6, List.forall_mem_cons.mpr ⟨lw_p7, List.forall_mem_cons.mpr ⟨lw_p8, List.forall_mem_cons.mpr ⟨lw_p9, List.forall_mem_cons.mpr ⟨lw_p10, List.forall_mem_cons.mpr ⟨lw_p11, List.forall_mem_cons.mpr ⟨lw_p12, List.forall_mem_cons.mpr ⟨lw_p13, List.forall_mem_cons.mpr ⟨lw_p14, List.forall_mem_cons.mpr ⟨lw_p15, fun _ h => absurd h List.not_mem_nil⟩⟩⟩⟩⟩⟩⟩⟩⟩⟩⟩⟩⟩⟩⟩⟩
theorem lw_p16 : lw_okq (⟨"OrderedResolverModel", "placeOf", "(I)I"⟩, 6) := ⟨⟨by decide +kernel, by decide +kernel⟩, lw_t1 (List.mem_of_getElem? (i := 162) rfl), lw_t1 (List.mem_of_getElem? (i := 195) rfl), lw_t1 (List.mem_of_getElem? (i := 196) rfl)⟩
theorem lw_p17 : lw_okq (⟨"OrderedResolverModel", "findModels", "(I)V"⟩, 6) := ⟨⟨by decide +kernel, by decide +kernel⟩, lw_t1 (List.mem_of_getElem? (i := 162) rfl), lw_t1 (List.mem_of_getElem? (i := 211) rfl), lw_t1 (List.mem_of_getElem? (i := 212) rfl)⟩
theorem lw_p18 : lw_okq (⟨"OrderedResolverModel", "satisfies", "(II)Z"⟩, 6) := ⟨⟨by decide +kernel, by decide +kernel⟩, lw_t1 (List.mem_of_getElem? (i := 162) rfl), lw_t1 (List.mem_of_getElem? (i := 215) rfl), lw_t1 (List.mem_of_getElem? (i := 216) rfl)⟩
theorem lw_p19 : lw_okq (⟨"OrderedResolverModel", "followsNow", "(I)Z"⟩, 6) := ⟨⟨by decide +kernel, by decide +kernel⟩, lw_t1 (List.mem_of_getElem? (i := 162) rfl), lw_t1 (List.mem_of_getElem? (i := 219) rfl), lw_t1 (List.mem_of_getElem? (i := 220) rfl)⟩
theorem lw_p20 : lw_okq (⟨"OrderedResolverModel", "findFollowing", "()V"⟩, 6) := ⟨⟨by decide +kernel, by decide +kernel⟩, lw_t1 (List.mem_of_getElem? (i := 162) rfl), lw_t1 (List.mem_of_getElem? (i := 227) rfl), lw_t1 (List.mem_of_getElem? (i := 228) rfl)⟩
theorem lw_p21 : lw_okq (⟨"OrderedResolverModel", "isPrime", "(I)Z"⟩, 6) := ⟨⟨by decide +kernel, by decide +kernel⟩, lw_t1 (List.mem_of_getElem? (i := 162) rfl), lw_t1 (List.mem_of_getElem? (i := 231) rfl), lw_t1 (List.mem_of_getElem? (i := 232) rfl)⟩
theorem lw_p22 : lw_okq (⟨"OrderedResolverModel", "within", "(II)Z"⟩, 6) := ⟨⟨by decide +kernel, by decide +kernel⟩, lw_t1 (List.mem_of_getElem? (i := 162) rfl), lw_t1 (List.mem_of_getElem? (i := 235) rfl), lw_t1 (List.mem_of_getElem? (i := 236) rfl)⟩
def lw_privs_2 : List (MethodName × Nat) := [(⟨"OrderedResolverModel", "placeOf", "(I)I"⟩, 6), (⟨"OrderedResolverModel", "findModels", "(I)V"⟩, 6), (⟨"OrderedResolverModel", "satisfies", "(II)Z"⟩, 6), (⟨"OrderedResolverModel", "followsNow", "(I)Z"⟩, 6), (⟨"OrderedResolverModel", "findFollowing", "()V"⟩, 6), (⟨"OrderedResolverModel", "isPrime", "(I)Z"⟩, 6), (⟨"OrderedResolverModel", "within", "(II)Z"⟩, 6)]
theorem lw_r2 : ∀ q ∈ lw_privs_2, lw_okq q := List.forall_mem_cons.mpr ⟨lw_p16, List.forall_mem_cons.mpr ⟨lw_p17, List.forall_mem_cons.mpr ⟨lw_p18, List.forall_mem_cons.mpr ⟨lw_p19, List.forall_mem_cons.mpr ⟨lw_p20, List.forall_mem_cons.mpr ⟨lw_p21, List.forall_mem_cons.mpr ⟨lw_p22, fun _ h => absurd h List.not_mem_nil⟩⟩⟩⟩⟩⟩⟩
def lw_privs : List (MethodName × Nat) := lw_privs_1 ++ (lw_privs_2)
def lw_tbl : List Cond := k2_sels lw_privs ++ tables_1
theorem lw_privs_ok : ∀ q ∈ lw_privs, lw_okq q := by
  show ∀ q ∈ lw_privs_1 ++ (lw_privs_2), lw_okq q
  exact List.forall_mem_append.mpr ⟨lw_r1, lw_r2⟩
-- ===== ONE list of words for every method: the tables' words that hold all through a run =====
def lw_all : List Cond := lw_tbl.filter goodWord
/-- a word of the tables by its place: claim/WORDS.tsv -/
theorem lw_w {w : Cond} (i : Nat) (h : lw_tbl[i]? = some w) (g : goodWord w = true) : w ∈ lw_all := List.mem_filter.mpr ⟨List.mem_of_getElem? h, g⟩
theorem lw_all_tbl {w : Cond} (h : w ∈ lw_all) : w ∈ lw_tbl := (List.mem_filter.mp h).1
theorem lw_self : GoodIn lw_all lw_all := fun w h => ⟨h, good_of_word (List.mem_filter.mp h).2⟩
/-- a class's field words, by their places -/
theorem lw_in (ws : List Cond) (ps : List Nat) (hp : ws = ps.filterMap (fun i => lw_tbl[i]?)) (hg : ws.all goodWord = true) : ∀ w ∈ ws, w ∈ lw_all := by
  intro w h
  have h1 := List.all_eq_true.mp hg w h
  rw [hp] at h
  obtain ⟨i, -, hi⟩ := List.mem_filterMap.mp h
  exact lw_w i hi h1
/-- the words of a contract for the method y with code b, L locals, answer r -/
abbrev ws_ (y : MethodName) (b : ByteArray) (L : Nat) (r : Option FieldType) : List Cond := Cond.code y b L r :: lw_all
theorem lw_meth {y : MethodName} {b : ByteArray} {L : Nat} {r : Option FieldType} (h : Cond.code y b L r ∈ lw_all) : GoodIn lw_all (ws_ y b L r) := by
  intro w hw
  rcases List.mem_cons.mp hw with e | e
  · rw [e]
    exact lw_self _ h
  · exact lw_self _ e
theorem lw_app {a c : List Cond} (ha : ∀ w ∈ a, w ∈ lw_all) (hc : GoodIn lw_all c) : GoodIn lw_all (a ++ c) := by
  intro w hw
  rcases List.mem_append.mp hw with e | e
  · exact lw_self w (ha w e)
  · exact hc w e
/-- what a call through an object asks: cwV n hts (lw_V ..) -/
theorem lw_V {own : String} {idx : Nat} {C : String} {y : MethodName} {b : ByteArray} {L : Nat} {r : Option FieldType} (h1 : Cond.methodLink own idx y ∈ lw_all) (h2 : Cond.instanceMethod y ∈ lw_all) (h3 : Cond.selects C y y ∈ lw_all) (h4 : Cond.initialized C ∈ lw_all) (h5 : Cond.code y b L r ∈ lw_all) : GoodIn lw_all (wsV own idx C y (ws_ y b L r)) := by
  refine lw_app ?_ (lw_meth h5)
  intro w hw
  simp only [List.mem_cons, List.not_mem_nil, or_false] at hw
  rcases hw with e | e | e | e
  · rw [e]; exact h1
  · rw [e]; exact h2
  · rw [e]; exact h3
  · rw [e]; exact h4
/-- what a static call asks: va_cwS n hts (lw_S ..) -/
theorem lw_S {own : String} {idx : Nat} {y : MethodName} {b : ByteArray} {L : Nat} {r : Option FieldType} (h1 : Cond.methodLink own idx y ∈ lw_all) (h2 : Cond.static y ∈ lw_all) (h3 : Cond.initialized y.cls ∈ lw_all) (h4 : Cond.code y b L r ∈ lw_all) : GoodIn lw_all (va_wsS own idx y (ws_ y b L r)) := by
  refine lw_app ?_ (lw_meth h4)
  intro w hw
  simp only [List.mem_cons, List.not_mem_nil, or_false] at hw
  rcases hw with e | e | e
  · rw [e]; exact h1
  · rw [e]; exact h2
  · rw [e]; exact h3
/-- the words of a contract for a method WITH HANDLERS (hh: its table) -/
abbrev wsW_ (y : MethodName) (b : ByteArray) (L : Nat) (r : Option FieldType) (hh : List (Nat × Nat × Nat × Nat)) : List Cond := Cond.codeWith y b L r hh :: lw_all
theorem lw_methW {y : MethodName} {b : ByteArray} {L : Nat} {r : Option FieldType} {hh : List (Nat × Nat × Nat × Nat)} (h : Cond.codeWith y b L r hh ∈ lw_all) : GoodIn lw_all (wsW_ y b L r hh) := by
  intro w hw
  rcases List.mem_cons.mp hw with e | e
  · rw [e]
    exact lw_self _ h
  · exact lw_self _ e
/-- any list of words by their places (lw_in), good -/
theorem lw_good {ws : List Cond} (h : ∀ w ∈ ws, w ∈ lw_all) : GoodIn lw_all ws := fun w hw => lw_self w (h w hw)
/-- what a call of a method with handlers asks: vx_cwVW n hts (lw_VW ..), vx_cwSW n hts (lw_SW ..) -/
theorem lw_VW {own : String} {idx : Nat} {C : String} {y : MethodName} {b : ByteArray} {L : Nat} {r : Option FieldType} {hh : List (Nat × Nat × Nat × Nat)} (h1 : Cond.methodLink own idx y ∈ lw_all) (h2 : Cond.instanceMethod y ∈ lw_all) (h3 : Cond.selects C y y ∈ lw_all) (h4 : Cond.initialized C ∈ lw_all) (h5 : Cond.codeWith y b L r hh ∈ lw_all) : GoodIn lw_all (wsV own idx C y (wsW_ y b L r hh)) := by
  refine lw_app ?_ (lw_methW h5)
  intro w hw
  simp only [List.mem_cons, List.not_mem_nil, or_false] at hw
  rcases hw with e | e | e | e
  · rw [e]; exact h1
  · rw [e]; exact h2
  · rw [e]; exact h3
  · rw [e]; exact h4
theorem lw_SW {own : String} {idx : Nat} {y : MethodName} {b : ByteArray} {L : Nat} {r : Option FieldType} {hh : List (Nat × Nat × Nat × Nat)} (h1 : Cond.methodLink own idx y ∈ lw_all) (h2 : Cond.static y ∈ lw_all) (h3 : Cond.initialized y.cls ∈ lw_all) (h4 : Cond.codeWith y b L r hh ∈ lw_all) : GoodIn lw_all (va_wsS own idx y (wsW_ y b L r hh)) := by
  refine lw_app ?_ (lw_methW h4)
  intro w hw
  simp only [List.mem_cons, List.not_mem_nil, or_false] at hw
  rcases hw with e | e | e
  · rw [e]; exact h1
  · rw [e]; exact h2
  · rw [e]; exact h3
/-- a word by its place in its run of the tables -/
theorem lw_at {r : List Cond} (hr : ∀ w ∈ r, w ∈ lw_tbl) {w : Cond} (i : Nat) (h : r[i]? = some w) : w ∈ lw_tbl := hr w (List.mem_of_getElem? h)
theorem lw_g {w : Cond} (h : w ∈ lw_tbl) (g : goodWord w = true) : w ∈ lw_all := List.mem_filter.mpr ⟨h, g⟩
theorem lw_ms : ∀ w ∈ k2_sels lw_privs, w ∈ lw_tbl := fun w h => show w ∈ k2_sels lw_privs ++ tables_1 from List.mem_append_left _ h
theorem lw_m1 : ∀ w ∈ tables_1_1, w ∈ lw_tbl := fun w h => show w ∈ k2_sels lw_privs ++ tables_1 from List.mem_append_right (k2_sels lw_privs) (show w ∈ tables_1 from List.mem_append_left _ h)
theorem lw_m2 : ∀ w ∈ tables_1_2, w ∈ lw_tbl := fun w h => show w ∈ k2_sels lw_privs ++ tables_1 from List.mem_append_right (k2_sels lw_privs) (show w ∈ tables_1 from List.mem_append_right _ h)
theorem qs0 : (Cond.selects "OrderedResolver" ⟨"OrderedResolver", "spellOut", "(I)V"⟩ ⟨"OrderedResolver", "spellOut", "(I)V"⟩) ∈ lw_all := lw_g (lw_at lw_ms 0 rfl) rfl
theorem qs1 : (Cond.selects "OrderedResolver" ⟨"OrderedResolver", "isClause", "(I)Z"⟩ ⟨"OrderedResolver", "isClause", "(I)Z"⟩) ∈ lw_all := lw_g (lw_at lw_ms 1 rfl) rfl
theorem qs2 : (Cond.selects "OrderedResolver" ⟨"OrderedResolver", "placeOf", "(I)I"⟩ ⟨"OrderedResolver", "placeOf", "(I)I"⟩) ∈ lw_all := lw_g (lw_at lw_ms 2 rfl) rfl
theorem qs3 : (Cond.selects "OrderedResolver" ⟨"OrderedResolver", "takeIn", "(I)V"⟩ ⟨"OrderedResolver", "takeIn", "(I)V"⟩) ∈ lw_all := lw_g (lw_at lw_ms 3 rfl) rfl
theorem qs4 : (Cond.selects "OrderedResolver" ⟨"OrderedResolver", "enqueue", "(I)V"⟩ ⟨"OrderedResolver", "enqueue", "(I)V"⟩) ∈ lw_all := lw_g (lw_at lw_ms 4 rfl) rfl
theorem qs5 : (Cond.selects "OrderedResolver" ⟨"OrderedResolver", "lowestKeptWithin", "(I)I"⟩ ⟨"OrderedResolver", "lowestKeptWithin", "(I)I"⟩) ∈ lw_all := lw_g (lw_at lw_ms 5 rfl) rfl
theorem qs6 : (Cond.selects "OrderedResolver" ⟨"OrderedResolver", "within", "(II)Z"⟩ ⟨"OrderedResolver", "within", "(II)Z"⟩) ∈ lw_all := lw_g (lw_at lw_ms 6 rfl) rfl
theorem qs7 : (Cond.selects "OrderedResolver" ⟨"OrderedResolver", "nextWaiting", "()I"⟩ ⟨"OrderedResolver", "nextWaiting", "()I"⟩) ∈ lw_all := lw_g (lw_at lw_ms 7 rfl) rfl
theorem qs8 : (Cond.selects "OrderedResolver" ⟨"OrderedResolver", "bitsIn", "(I)I"⟩ ⟨"OrderedResolver", "bitsIn", "(I)I"⟩) ∈ lw_all := lw_g (lw_at lw_ms 8 rfl) rfl
theorem qs9 : (Cond.selects "OrderedResolver" ⟨"OrderedResolver", "dropWider", "(I)V"⟩ ⟨"OrderedResolver", "dropWider", "(I)V"⟩) ∈ lw_all := lw_g (lw_at lw_ms 9 rfl) rfl
theorem qs10 : (Cond.selects "OrderedResolver" ⟨"OrderedResolver", "resolveWithKept", "(I)V"⟩ ⟨"OrderedResolver", "resolveWithKept", "(I)V"⟩) ∈ lw_all := lw_g (lw_at lw_ms 10 rfl) rfl
theorem qs11 : (Cond.selects "OrderedResolver" ⟨"OrderedResolver", "numberOf", "(II)I"⟩ ⟨"OrderedResolver", "numberOf", "(II)I"⟩) ∈ lw_all := lw_g (lw_at lw_ms 11 rfl) rfl
theorem qs12 : (Cond.selects "OrderedResolver" ⟨"OrderedResolver", "saturate", "()V"⟩ ⟨"OrderedResolver", "saturate", "()V"⟩) ∈ lw_all := lw_g (lw_at lw_ms 12 rfl) rfl
theorem qs13 : (Cond.selects "OrderedResolver" ⟨"OrderedResolver", "clearKept", "()V"⟩ ⟨"OrderedResolver", "clearKept", "()V"⟩) ∈ lw_all := lw_g (lw_at lw_ms 13 rfl) rfl
theorem qs14 : (Cond.selects "OrderedResolver" ⟨"OrderedResolver", "breaks", "(II)Z"⟩ ⟨"OrderedResolver", "breaks", "(II)Z"⟩) ∈ lw_all := lw_g (lw_at lw_ms 14 rfl) rfl
theorem qs15 : (Cond.selects "OrderedResolverModel" ⟨"OrderedResolverModel", "isClause", "(I)Z"⟩ ⟨"OrderedResolverModel", "isClause", "(I)Z"⟩) ∈ lw_all := lw_g (lw_at lw_ms 15 rfl) rfl
theorem qs16 : (Cond.selects "OrderedResolverModel" ⟨"OrderedResolverModel", "placeOf", "(I)I"⟩ ⟨"OrderedResolverModel", "placeOf", "(I)I"⟩) ∈ lw_all := lw_g (lw_at lw_ms 16 rfl) rfl
theorem qs17 : (Cond.selects "OrderedResolverModel" ⟨"OrderedResolverModel", "findModels", "(I)V"⟩ ⟨"OrderedResolverModel", "findModels", "(I)V"⟩) ∈ lw_all := lw_g (lw_at lw_ms 17 rfl) rfl
theorem qs18 : (Cond.selects "OrderedResolverModel" ⟨"OrderedResolverModel", "satisfies", "(II)Z"⟩ ⟨"OrderedResolverModel", "satisfies", "(II)Z"⟩) ∈ lw_all := lw_g (lw_at lw_ms 18 rfl) rfl
theorem qs19 : (Cond.selects "OrderedResolverModel" ⟨"OrderedResolverModel", "followsNow", "(I)Z"⟩ ⟨"OrderedResolverModel", "followsNow", "(I)Z"⟩) ∈ lw_all := lw_g (lw_at lw_ms 19 rfl) rfl
theorem qs20 : (Cond.selects "OrderedResolverModel" ⟨"OrderedResolverModel", "findFollowing", "()V"⟩ ⟨"OrderedResolverModel", "findFollowing", "()V"⟩) ∈ lw_all := lw_g (lw_at lw_ms 20 rfl) rfl
theorem qs21 : (Cond.selects "OrderedResolverModel" ⟨"OrderedResolverModel", "isPrime", "(I)Z"⟩ ⟨"OrderedResolverModel", "isPrime", "(I)Z"⟩) ∈ lw_all := lw_g (lw_at lw_ms 21 rfl) rfl
theorem qs22 : (Cond.selects "OrderedResolverModel" ⟨"OrderedResolverModel", "within", "(II)Z"⟩ ⟨"OrderedResolverModel", "within", "(II)Z"⟩) ∈ lw_all := lw_g (lw_at lw_ms 22 rfl) rfl
end
end
section
section
set_option maxRecDepth 100000
/-! OrderedResolver -/
def RX1 : String := "OrderedResolver"
def TX1 : u_T := fun k => match k with
  | 0 => ("OrderedResolver", "variableCount", "I", false)
  | 1 => ("OrderedResolver", "clauseCount", "I", false)
  | 2 => ("OrderedResolver", "allVariables", "I", false)
  | 3 => ("OrderedResolver", "wantsTrue", "[B", true)
  | 4 => ("OrderedResolver", "wantsFalse", "[B", true)
  | 5 => ("OrderedResolver", "weight", "[I", true)
  | 6 => ("OrderedResolver", "baseSize", "I", false)
  | 7 => ("OrderedResolver", "base", "[S", true)
  | 8 => ("OrderedResolver", "saturated", "Z", false)
  | 9 => ("OrderedResolver", "kept", "[Z", true)
  | 10 => ("OrderedResolver", "waiting", "[Z", true)
  | 11 => ("OrderedResolver", "waitingCount", "I", false)
  | 12 => ("OrderedResolver", "openValues", "[B", true)
  | _ => ("OrderedResolver", "openCount", "[B", true)
def tyX1 : Nat → FieldType := fun k => match k with
  | 0 => .int
  | 1 => .int
  | 2 => .int
  | 3 => .array .byte
  | 4 => .array .byte
  | 5 => .array .int
  | 6 => .int
  | 7 => .array .short
  | 8 => .boolean
  | 9 => .array .boolean
  | 10 => .array .boolean
  | 11 => .int
  | 12 => .array .byte
  | _ => .array .byte
abbrev wsX10 : List Cond := u_ws RX1 TX1 14
set_option maxRecDepth 100000 in
theorem nmX1 : ∀ a, a < 14 → ∀ b, b < 14 → a ≠ b → (TX1 a).2.1 ≠ (TX1 b).2.1 := by decide +kernel
set_option maxRecDepth 100000 in
theorem tyX1_ok : ∀ k, k < 14 → parseFieldDescriptor (TX1 k).2.2.1 = some (tyX1 k) := by decide +kernel
abbrev cX1_init : ByteArray := prog_1_method_1_code
def yX1_init : MethodName := ⟨RX1, "<init>", "(I)V"⟩
abbrev cX1_spellOut : ByteArray := prog_1_method_2_code
def yX1_spellOut : MethodName := ⟨RX1, "spellOut", "(I)V"⟩
abbrev cX1_add : ByteArray := prog_1_method_3_code
def yX1_add : MethodName := ⟨RX1, "add", "(I)I"⟩
abbrev cX1_isClause : ByteArray := prog_1_method_6_code
def yX1_isClause : MethodName := ⟨RX1, "isClause", "(I)Z"⟩
abbrev cX1_placeOf : ByteArray := prog_1_method_7_code
def yX1_placeOf : MethodName := ⟨RX1, "placeOf", "(I)I"⟩
abbrev cX1_takeIn : ByteArray := prog_1_method_20_code
def yX1_takeIn : MethodName := ⟨RX1, "takeIn", "(I)V"⟩
abbrev cX1_enqueue : ByteArray := prog_1_method_21_code
def yX1_enqueue : MethodName := ⟨RX1, "enqueue", "(I)V"⟩
abbrev cX1_lowestKeptWithin : ByteArray := prog_1_method_16_code
def yX1_lowestKeptWithin : MethodName := ⟨RX1, "lowestKeptWithin", "(I)I"⟩
abbrev cX1_within : ByteArray := prog_1_method_15_code
def yX1_within : MethodName := ⟨RX1, "within", "(II)Z"⟩
abbrev cX1_nextWaiting : ByteArray := prog_1_method_22_code
def yX1_nextWaiting : MethodName := ⟨RX1, "nextWaiting", "()I"⟩
abbrev cX1_bitsIn : ByteArray := prog_1_method_23_code
def yX1_bitsIn : MethodName := ⟨RX1, "bitsIn", "(I)I"⟩
abbrev cX1_dropWider : ByteArray := prog_1_method_24_code
def yX1_dropWider : MethodName := ⟨RX1, "dropWider", "(I)V"⟩
abbrev cX1_resolveWithKept : ByteArray := prog_1_method_25_code
def yX1_resolveWithKept : MethodName := ⟨RX1, "resolveWithKept", "(I)V"⟩
abbrev cX1_numberOf : ByteArray := prog_1_method_26_code
def yX1_numberOf : MethodName := ⟨RX1, "numberOf", "(II)I"⟩
abbrev cX1_retract : ByteArray := prog_1_method_4_code
def yX1_retract : MethodName := ⟨RX1, "retract", "(I)I"⟩
abbrev cX1_size : ByteArray := prog_1_method_5_code
def yX1_size : MethodName := ⟨RX1, "size", "()I"⟩
abbrev cX1_implied : ByteArray := prog_1_method_8_code
def yX1_implied : MethodName := ⟨RX1, "implied", "(I)Z"⟩
abbrev cX1_saturate : ByteArray := prog_1_method_18_code
def yX1_saturate : MethodName := ⟨RX1, "saturate", "()V"⟩
abbrev cX1_clearKept : ByteArray := prog_1_method_19_code
def yX1_clearKept : MethodName := ⟨RX1, "clearKept", "()V"⟩
abbrev cX1_primes : ByteArray := prog_1_method_9_code
def yX1_primes : MethodName := ⟨RX1, "primes", "()I"⟩
abbrev cX1_prime : ByteArray := prog_1_method_10_code
def yX1_prime : MethodName := ⟨RX1, "prime", "(I)I"⟩
abbrev cX1_primeWithin : ByteArray := prog_1_method_11_code
def yX1_primeWithin : MethodName := ⟨RX1, "primeWithin", "(I)I"⟩
abbrev cX1_models : ByteArray := prog_1_method_12_code
def yX1_models : MethodName := ⟨RX1, "models", "()I"⟩
abbrev cX1_breaks : ByteArray := prog_1_method_17_code
def yX1_breaks : MethodName := ⟨RX1, "breaks", "(II)Z"⟩
abbrev cX1_leastModel : ByteArray := prog_1_method_13_code
def yX1_leastModel : MethodName := ⟨RX1, "leastModel", "(II)I"⟩
abbrev cX1_redundant : ByteArray := prog_1_method_14_code
def yX1_redundant : MethodName := ⟨RX1, "redundant", "()I"⟩

/-! OrderedResolverModel -/
def RX2 : String := "OrderedResolverModel"
def TX2 : u_T := fun k => match k with
  | 0 => ("OrderedResolverModel", "n", "I", false)
  | 1 => ("OrderedResolverModel", "clauses", "I", false)
  | 2 => ("OrderedResolverModel", "size", "I", false)
  | 3 => ("OrderedResolverModel", "base", "[I", false)
  | 4 => ("OrderedResolverModel", "model", "[Z", false)
  | _ => ("OrderedResolverModel", "follows", "[Z", false)
def tyX2 : Nat → FieldType := fun k => match k with
  | 0 => .int
  | 1 => .int
  | 2 => .int
  | 3 => .array .int
  | 4 => .array .boolean
  | _ => .array .boolean
abbrev wsX20 : List Cond := u_ws RX2 TX2 6
theorem nmX2 : ∀ a, a < 6 → ∀ b, b < 6 → a ≠ b → (TX2 a).2.1 ≠ (TX2 b).2.1 := by decide +kernel
theorem tyX2_ok : ∀ k, k < 6 → parseFieldDescriptor (TX2 k).2.2.1 = some (tyX2 k) := by decide +kernel
abbrev cX2_init : ByteArray := prog_3_method_1_code
def yX2_init : MethodName := ⟨RX2, "<init>", "(I)V"⟩
abbrev cX2_add : ByteArray := prog_3_method_4_code
def yX2_add : MethodName := ⟨RX2, "add", "(I)I"⟩
abbrev cX2_isClause : ByteArray := prog_3_method_2_code
def yX2_isClause : MethodName := ⟨RX2, "isClause", "(I)Z"⟩
abbrev cX2_placeOf : ByteArray := prog_3_method_3_code
def yX2_placeOf : MethodName := ⟨RX2, "placeOf", "(I)I"⟩
abbrev cX2_retract : ByteArray := prog_3_method_5_code
def yX2_retract : MethodName := ⟨RX2, "retract", "(I)I"⟩
abbrev cX2_size : ByteArray := prog_3_method_6_code
def yX2_size : MethodName := ⟨RX2, "size", "()I"⟩
abbrev cX2_implied : ByteArray := prog_3_method_13_code
def yX2_implied : MethodName := ⟨RX2, "implied", "(I)Z"⟩
abbrev cX2_findModels : ByteArray := prog_3_method_8_code
def yX2_findModels : MethodName := ⟨RX2, "findModels", "(I)V"⟩
abbrev cX2_satisfies : ByteArray := prog_3_method_7_code
def yX2_satisfies : MethodName := ⟨RX2, "satisfies", "(II)Z"⟩
abbrev cX2_followsNow : ByteArray := prog_3_method_9_code
def yX2_followsNow : MethodName := ⟨RX2, "followsNow", "(I)Z"⟩
abbrev cX2_primes : ByteArray := prog_3_method_14_code
def yX2_primes : MethodName := ⟨RX2, "primes", "()I"⟩
abbrev cX2_findFollowing : ByteArray := prog_3_method_11_code
def yX2_findFollowing : MethodName := ⟨RX2, "findFollowing", "()V"⟩
abbrev cX2_isPrime : ByteArray := prog_3_method_12_code
def yX2_isPrime : MethodName := ⟨RX2, "isPrime", "(I)Z"⟩
abbrev cX2_within : ByteArray := prog_3_method_10_code
def yX2_within : MethodName := ⟨RX2, "within", "(II)Z"⟩
abbrev cX2_prime : ByteArray := prog_3_method_15_code
def yX2_prime : MethodName := ⟨RX2, "prime", "(I)I"⟩
abbrev cX2_primeWithin : ByteArray := prog_3_method_16_code
def yX2_primeWithin : MethodName := ⟨RX2, "primeWithin", "(I)I"⟩
abbrev cX2_models : ByteArray := prog_3_method_17_code
def yX2_models : MethodName := ⟨RX2, "models", "()I"⟩
abbrev cX2_leastModel : ByteArray := prog_3_method_18_code
def yX2_leastModel : MethodName := ⟨RX2, "leastModel", "(II)I"⟩
abbrev cX2_redundant : ByteArray := prog_3_method_19_code
def yX2_redundant : MethodName := ⟨RX2, "redundant", "()I"⟩

/-! OrderedResolverLaw -/
def RX0 : String := "OrderedResolverLaw"
abbrev cX0_cell : ByteArray := method_2_code
def yX0_cell : MethodName := ⟨RX0, "cell", "([II)I"⟩

end
end
section
section
set_option maxRecDepth 100000
/-! java/lang/Object -/
def RJ0 : String := "java/lang/Object"
abbrev cJ0_init : ByteArray := object_method_1_code
def yJ0_init : MethodName := ⟨RJ0, "<init>", "()V"⟩
theorem dJ0_init_0 : decode cJ0_init 0 = .ok (.return_, 1) := by decide +kernel
theorem q32 : (Jvm.Cond.instanceMethod ({ cls := "java/lang/Object", name := "<init>", desc := "()V" } : Jvm.MethodName)) ∈ lw_all := lw_g (lw_at lw_m1 9 rfl) rfl
theorem q33 : (Jvm.Cond.code ({ cls := "java/lang/Object", name := "<init>", desc := "()V" } : Jvm.MethodName) object_method_1_code (1 : Nat) (Option.none : Option Jvm.ClassFile.FieldType)) ∈ lw_all := lw_g (lw_at lw_m1 10 rfl) rfl

theorem q81 : (Jvm.Cond.arrayClass Jvm.ClassFile.FieldType.byte) ∈ lw_all := lw_g (lw_at lw_m1 58 rfl) rfl
theorem q82 : (Jvm.Cond.arrayClass Jvm.ClassFile.FieldType.int) ∈ lw_all := lw_g (lw_at lw_m1 59 rfl) rfl
theorem q83 : (Jvm.Cond.arrayClass Jvm.ClassFile.FieldType.short) ∈ lw_all := lw_g (lw_at lw_m1 60 rfl) rfl
theorem q84 : (Jvm.Cond.arrayClass Jvm.ClassFile.FieldType.boolean) ∈ lw_all := lw_g (lw_at lw_m1 61 rfl) rfl

theorem q24 : (Jvm.Cond.initialized "OrderedResolver") ∈ lw_all := lw_g (lw_at lw_m1 1 rfl) rfl
theorem q27 : (Jvm.Cond.instantiable "OrderedResolver" (14 : Nat)) ∈ lw_all := lw_g (lw_at lw_m1 4 rfl) rfl
theorem q29 : (Jvm.Cond.instanceMethod ({ cls := "OrderedResolver", name := "<init>", desc := "(I)V" } : Jvm.MethodName)) ∈ lw_all := lw_g (lw_at lw_m1 6 rfl) rfl
theorem q30 : (Jvm.Cond.code ({ cls := "OrderedResolver", name := "<init>", desc := "(I)V" } : Jvm.MethodName) prog_1_method_1_code (3 : Nat) (Option.none : Option Jvm.ClassFile.FieldType)) ∈ lw_all := lw_g (lw_at lw_m1 7 rfl) rfl
theorem q31 : (Jvm.Cond.methodLink "OrderedResolver" (1 : Nat) ({ cls := "java/lang/Object", name := "<init>", desc := "()V" } : Jvm.MethodName)) ∈ lw_all := lw_g (lw_at lw_m1 8 rfl) rfl
theorem q34 : (Jvm.Cond.methodLink "OrderedResolver" (47 : Nat) ({ cls := "OrderedResolver", name := "spellOut", desc := "(I)V" } : Jvm.MethodName)) ∈ lw_all := lw_g (lw_at lw_m1 11 rfl) rfl
theorem q35 : (Jvm.Cond.privateMethod ({ cls := "OrderedResolver", name := "spellOut", desc := "(I)V" } : Jvm.MethodName)) ∈ lw_tbl := lw_at lw_m1 12 rfl
theorem q36 : (Jvm.Cond.instanceMethod ({ cls := "OrderedResolver", name := "spellOut", desc := "(I)V" } : Jvm.MethodName)) ∈ lw_all := lw_g (lw_at lw_m1 13 rfl) rfl
theorem q37 : (Jvm.Cond.code ({ cls := "OrderedResolver", name := "spellOut", desc := "(I)V" } : Jvm.MethodName) prog_1_method_2_code (7 : Nat) (Option.none : Option Jvm.ClassFile.FieldType)) ∈ lw_all := lw_g (lw_at lw_m1 14 rfl) rfl
theorem q38 : (Jvm.Cond.fieldLink "OrderedResolver" (37 : Nat) "OrderedResolver" "variableCount" "I") ∈ lw_all := lw_g (lw_at lw_m1 15 rfl) rfl
theorem q39 : (Jvm.Cond.fieldLink "OrderedResolver" (44 : Nat) "OrderedResolver" "clauseCount" "I") ∈ lw_all := lw_g (lw_at lw_m1 16 rfl) rfl
theorem q40 : (Jvm.Cond.fieldLink "OrderedResolver" (41 : Nat) "OrderedResolver" "allVariables" "I") ∈ lw_all := lw_g (lw_at lw_m1 17 rfl) rfl
theorem q41 : (Jvm.Cond.fieldLink "OrderedResolver" (7 : Nat) "OrderedResolver" "wantsTrue" "[B") ∈ lw_all := lw_g (lw_at lw_m1 18 rfl) rfl
theorem q42 : (Jvm.Cond.fieldLink "OrderedResolver" (13 : Nat) "OrderedResolver" "wantsFalse" "[B") ∈ lw_all := lw_g (lw_at lw_m1 19 rfl) rfl
theorem q43 : (Jvm.Cond.fieldLink "OrderedResolver" (16 : Nat) "OrderedResolver" "weight" "[I") ∈ lw_all := lw_g (lw_at lw_m1 20 rfl) rfl
theorem q44 : (Jvm.Cond.fieldLink "OrderedResolver" (63 : Nat) "OrderedResolver" "baseSize" "I") ∈ lw_all := lw_g (lw_at lw_m1 21 rfl) rfl
theorem q45 : (Jvm.Cond.fieldLink "OrderedResolver" (20 : Nat) "OrderedResolver" "base" "[S") ∈ lw_all := lw_g (lw_at lw_m1 22 rfl) rfl
theorem q46 : (Jvm.Cond.fieldLink "OrderedResolver" (51 : Nat) "OrderedResolver" "saturated" "Z") ∈ lw_all := lw_g (lw_at lw_m1 23 rfl) rfl
theorem q47 : (Jvm.Cond.fieldLink "OrderedResolver" (24 : Nat) "OrderedResolver" "kept" "[Z") ∈ lw_all := lw_g (lw_at lw_m1 24 rfl) rfl
theorem q48 : (Jvm.Cond.fieldLink "OrderedResolver" (28 : Nat) "OrderedResolver" "waiting" "[Z") ∈ lw_all := lw_g (lw_at lw_m1 25 rfl) rfl
theorem q49 : (Jvm.Cond.fieldLink "OrderedResolver" (85 : Nat) "OrderedResolver" "waitingCount" "I") ∈ lw_all := lw_g (lw_at lw_m1 26 rfl) rfl
theorem q50 : (Jvm.Cond.fieldLink "OrderedResolver" (31 : Nat) "OrderedResolver" "openValues" "[B") ∈ lw_all := lw_g (lw_at lw_m1 27 rfl) rfl
theorem q51 : (Jvm.Cond.fieldLink "OrderedResolver" (34 : Nat) "OrderedResolver" "openCount" "[B") ∈ lw_all := lw_g (lw_at lw_m1 28 rfl) rfl
theorem q52 : (Jvm.Cond.lays "OrderedResolver" "OrderedResolver" "variableCount" "I") ∈ lw_all := lw_g (lw_at lw_m1 29 rfl) rfl
theorem q53 : (Jvm.Cond.soleField "OrderedResolver" "variableCount") ∈ lw_all := lw_g (lw_at lw_m1 30 rfl) rfl
theorem q54 : (Jvm.Cond.lays "OrderedResolver" "OrderedResolver" "clauseCount" "I") ∈ lw_all := lw_g (lw_at lw_m1 31 rfl) rfl
theorem q55 : (Jvm.Cond.soleField "OrderedResolver" "clauseCount") ∈ lw_all := lw_g (lw_at lw_m1 32 rfl) rfl
theorem q56 : (Jvm.Cond.lays "OrderedResolver" "OrderedResolver" "allVariables" "I") ∈ lw_all := lw_g (lw_at lw_m1 33 rfl) rfl
theorem q57 : (Jvm.Cond.soleField "OrderedResolver" "allVariables") ∈ lw_all := lw_g (lw_at lw_m1 34 rfl) rfl
theorem q58 : (Jvm.Cond.laysFinal "OrderedResolver" "OrderedResolver" "wantsTrue" "[B") ∈ lw_all := lw_g (lw_at lw_m1 35 rfl) rfl
theorem q59 : (Jvm.Cond.soleField "OrderedResolver" "wantsTrue") ∈ lw_all := lw_g (lw_at lw_m1 36 rfl) rfl
theorem q60 : (Jvm.Cond.laysFinal "OrderedResolver" "OrderedResolver" "wantsFalse" "[B") ∈ lw_all := lw_g (lw_at lw_m1 37 rfl) rfl
theorem q61 : (Jvm.Cond.soleField "OrderedResolver" "wantsFalse") ∈ lw_all := lw_g (lw_at lw_m1 38 rfl) rfl
theorem q62 : (Jvm.Cond.laysFinal "OrderedResolver" "OrderedResolver" "weight" "[I") ∈ lw_all := lw_g (lw_at lw_m1 39 rfl) rfl
theorem q63 : (Jvm.Cond.soleField "OrderedResolver" "weight") ∈ lw_all := lw_g (lw_at lw_m1 40 rfl) rfl
theorem q64 : (Jvm.Cond.lays "OrderedResolver" "OrderedResolver" "baseSize" "I") ∈ lw_all := lw_g (lw_at lw_m1 41 rfl) rfl
theorem q65 : (Jvm.Cond.soleField "OrderedResolver" "baseSize") ∈ lw_all := lw_g (lw_at lw_m1 42 rfl) rfl
theorem q66 : (Jvm.Cond.laysFinal "OrderedResolver" "OrderedResolver" "base" "[S") ∈ lw_all := lw_g (lw_at lw_m1 43 rfl) rfl
theorem q67 : (Jvm.Cond.soleField "OrderedResolver" "base") ∈ lw_all := lw_g (lw_at lw_m1 44 rfl) rfl
theorem q68 : (Jvm.Cond.lays "OrderedResolver" "OrderedResolver" "saturated" "Z") ∈ lw_all := lw_g (lw_at lw_m1 45 rfl) rfl
theorem q69 : (Jvm.Cond.soleField "OrderedResolver" "saturated") ∈ lw_all := lw_g (lw_at lw_m1 46 rfl) rfl
theorem q70 : (Jvm.Cond.laysFinal "OrderedResolver" "OrderedResolver" "kept" "[Z") ∈ lw_all := lw_g (lw_at lw_m1 47 rfl) rfl
theorem q71 : (Jvm.Cond.soleField "OrderedResolver" "kept") ∈ lw_all := lw_g (lw_at lw_m1 48 rfl) rfl
theorem q72 : (Jvm.Cond.laysFinal "OrderedResolver" "OrderedResolver" "waiting" "[Z") ∈ lw_all := lw_g (lw_at lw_m1 49 rfl) rfl
theorem q73 : (Jvm.Cond.soleField "OrderedResolver" "waiting") ∈ lw_all := lw_g (lw_at lw_m1 50 rfl) rfl
theorem q74 : (Jvm.Cond.lays "OrderedResolver" "OrderedResolver" "waitingCount" "I") ∈ lw_all := lw_g (lw_at lw_m1 51 rfl) rfl
theorem q75 : (Jvm.Cond.soleField "OrderedResolver" "waitingCount") ∈ lw_all := lw_g (lw_at lw_m1 52 rfl) rfl
theorem q76 : (Jvm.Cond.laysFinal "OrderedResolver" "OrderedResolver" "openValues" "[B") ∈ lw_all := lw_g (lw_at lw_m1 53 rfl) rfl
theorem q77 : (Jvm.Cond.soleField "OrderedResolver" "openValues") ∈ lw_all := lw_g (lw_at lw_m1 54 rfl) rfl
theorem q78 : (Jvm.Cond.laysFinal "OrderedResolver" "OrderedResolver" "openCount" "[B") ∈ lw_all := lw_g (lw_at lw_m1 55 rfl) rfl
theorem q79 : (Jvm.Cond.soleField "OrderedResolver" "openCount") ∈ lw_all := lw_g (lw_at lw_m1 56 rfl) rfl
theorem q80 : (Jvm.Cond.superclass "OrderedResolver" "java/lang/Object") ∈ lw_all := lw_g (lw_at lw_m1 57 rfl) rfl
theorem q86 : (Jvm.Cond.instanceMethod ({ cls := "OrderedResolver", name := "add", desc := "(I)I" } : Jvm.MethodName)) ∈ lw_all := lw_g (lw_at lw_m1 63 rfl) rfl
theorem q87 : (Jvm.Cond.selects "OrderedResolver" ({ cls := "OrderedResolver", name := "add", desc := "(I)I" } : Jvm.MethodName) ({ cls := "OrderedResolver", name := "add", desc := "(I)I" } : Jvm.MethodName)) ∈ lw_all := lw_g (lw_at lw_m1 64 rfl) rfl
theorem q88 : (Jvm.Cond.code ({ cls := "OrderedResolver", name := "add", desc := "(I)I" } : Jvm.MethodName) prog_1_method_3_code (2 : Nat) (Option.some Jvm.ClassFile.FieldType.int)) ∈ lw_all := lw_g (lw_at lw_m1 65 rfl) rfl
theorem q89 : (Jvm.Cond.methodLink "OrderedResolver" (55 : Nat) ({ cls := "OrderedResolver", name := "isClause", desc := "(I)Z" } : Jvm.MethodName)) ∈ lw_all := lw_g (lw_at lw_m1 66 rfl) rfl
theorem q90 : (Jvm.Cond.privateMethod ({ cls := "OrderedResolver", name := "isClause", desc := "(I)Z" } : Jvm.MethodName)) ∈ lw_tbl := lw_at lw_m1 67 rfl
theorem q91 : (Jvm.Cond.instanceMethod ({ cls := "OrderedResolver", name := "isClause", desc := "(I)Z" } : Jvm.MethodName)) ∈ lw_all := lw_g (lw_at lw_m1 68 rfl) rfl
theorem q92 : (Jvm.Cond.code ({ cls := "OrderedResolver", name := "isClause", desc := "(I)Z" } : Jvm.MethodName) prog_1_method_6_code (2 : Nat) (Option.some Jvm.ClassFile.FieldType.boolean)) ∈ lw_all := lw_g (lw_at lw_m1 69 rfl) rfl
theorem q93 : (Jvm.Cond.methodLink "OrderedResolver" (59 : Nat) ({ cls := "OrderedResolver", name := "placeOf", desc := "(I)I" } : Jvm.MethodName)) ∈ lw_all := lw_g (lw_at lw_m1 70 rfl) rfl
theorem q94 : (Jvm.Cond.privateMethod ({ cls := "OrderedResolver", name := "placeOf", desc := "(I)I" } : Jvm.MethodName)) ∈ lw_tbl := lw_at lw_m1 71 rfl
theorem q95 : (Jvm.Cond.instanceMethod ({ cls := "OrderedResolver", name := "placeOf", desc := "(I)I" } : Jvm.MethodName)) ∈ lw_all := lw_g (lw_at lw_m1 72 rfl) rfl
theorem q96 : (Jvm.Cond.code ({ cls := "OrderedResolver", name := "placeOf", desc := "(I)I" } : Jvm.MethodName) prog_1_method_7_code (3 : Nat) (Option.some Jvm.ClassFile.FieldType.int)) ∈ lw_all := lw_g (lw_at lw_m1 73 rfl) rfl
theorem q97 : (Jvm.Cond.methodLink "OrderedResolver" (66 : Nat) ({ cls := "OrderedResolver", name := "takeIn", desc := "(I)V" } : Jvm.MethodName)) ∈ lw_all := lw_g (lw_at lw_m1 74 rfl) rfl
theorem q98 : (Jvm.Cond.privateMethod ({ cls := "OrderedResolver", name := "takeIn", desc := "(I)V" } : Jvm.MethodName)) ∈ lw_tbl := lw_at lw_m1 75 rfl
theorem q99 : (Jvm.Cond.instanceMethod ({ cls := "OrderedResolver", name := "takeIn", desc := "(I)V" } : Jvm.MethodName)) ∈ lw_all := lw_g (lw_at lw_m1 76 rfl) rfl
theorem q100 : (Jvm.Cond.code ({ cls := "OrderedResolver", name := "takeIn", desc := "(I)V" } : Jvm.MethodName) prog_1_method_20_code (4 : Nat) (Option.none : Option Jvm.ClassFile.FieldType)) ∈ lw_all := lw_g (lw_at lw_m1 77 rfl) rfl
theorem q101 : (Jvm.Cond.methodLink "OrderedResolver" (88 : Nat) ({ cls := "OrderedResolver", name := "enqueue", desc := "(I)V" } : Jvm.MethodName)) ∈ lw_all := lw_g (lw_at lw_m1 78 rfl) rfl
theorem q102 : (Jvm.Cond.privateMethod ({ cls := "OrderedResolver", name := "enqueue", desc := "(I)V" } : Jvm.MethodName)) ∈ lw_tbl := lw_at lw_m1 79 rfl
theorem q103 : (Jvm.Cond.instanceMethod ({ cls := "OrderedResolver", name := "enqueue", desc := "(I)V" } : Jvm.MethodName)) ∈ lw_all := lw_g (lw_at lw_m1 80 rfl) rfl
theorem q104 : (Jvm.Cond.code ({ cls := "OrderedResolver", name := "enqueue", desc := "(I)V" } : Jvm.MethodName) prog_1_method_21_code (2 : Nat) (Option.none : Option Jvm.ClassFile.FieldType)) ∈ lw_all := lw_g (lw_at lw_m1 81 rfl) rfl
theorem q105 : (Jvm.Cond.methodLink "OrderedResolver" (72 : Nat) ({ cls := "OrderedResolver", name := "lowestKeptWithin", desc := "(I)I" } : Jvm.MethodName)) ∈ lw_all := lw_g (lw_at lw_m1 82 rfl) rfl
theorem q106 : (Jvm.Cond.privateMethod ({ cls := "OrderedResolver", name := "lowestKeptWithin", desc := "(I)I" } : Jvm.MethodName)) ∈ lw_tbl := lw_at lw_m1 83 rfl
theorem q107 : (Jvm.Cond.instanceMethod ({ cls := "OrderedResolver", name := "lowestKeptWithin", desc := "(I)I" } : Jvm.MethodName)) ∈ lw_all := lw_g (lw_at lw_m1 84 rfl) rfl
theorem q108 : (Jvm.Cond.code ({ cls := "OrderedResolver", name := "lowestKeptWithin", desc := "(I)I" } : Jvm.MethodName) prog_1_method_16_code (3 : Nat) (Option.some Jvm.ClassFile.FieldType.int)) ∈ lw_all := lw_g (lw_at lw_m1 85 rfl) rfl
theorem q109 : (Jvm.Cond.methodLink "OrderedResolver" (82 : Nat) ({ cls := "OrderedResolver", name := "within", desc := "(II)Z" } : Jvm.MethodName)) ∈ lw_all := lw_g (lw_at lw_m1 86 rfl) rfl
theorem q110 : (Jvm.Cond.privateMethod ({ cls := "OrderedResolver", name := "within", desc := "(II)Z" } : Jvm.MethodName)) ∈ lw_tbl := lw_at lw_m1 87 rfl
theorem q111 : (Jvm.Cond.instanceMethod ({ cls := "OrderedResolver", name := "within", desc := "(II)Z" } : Jvm.MethodName)) ∈ lw_all := lw_g (lw_at lw_m1 88 rfl) rfl
theorem q112 : (Jvm.Cond.code ({ cls := "OrderedResolver", name := "within", desc := "(II)Z" } : Jvm.MethodName) prog_1_method_15_code (3 : Nat) (Option.some Jvm.ClassFile.FieldType.boolean)) ∈ lw_all := lw_g (lw_at lw_m1 89 rfl) rfl
theorem q113 : (Jvm.Cond.methodLink "OrderedResolver" (91 : Nat) ({ cls := "OrderedResolver", name := "nextWaiting", desc := "()I" } : Jvm.MethodName)) ∈ lw_all := lw_g (lw_at lw_m1 90 rfl) rfl
theorem q114 : (Jvm.Cond.privateMethod ({ cls := "OrderedResolver", name := "nextWaiting", desc := "()I" } : Jvm.MethodName)) ∈ lw_tbl := lw_at lw_m1 91 rfl
theorem q115 : (Jvm.Cond.instanceMethod ({ cls := "OrderedResolver", name := "nextWaiting", desc := "()I" } : Jvm.MethodName)) ∈ lw_all := lw_g (lw_at lw_m1 92 rfl) rfl
theorem q116 : (Jvm.Cond.code ({ cls := "OrderedResolver", name := "nextWaiting", desc := "()I" } : Jvm.MethodName) prog_1_method_22_code (5 : Nat) (Option.some Jvm.ClassFile.FieldType.int)) ∈ lw_all := lw_g (lw_at lw_m1 93 rfl) rfl
theorem q117 : (Jvm.Cond.methodLink "OrderedResolver" (101 : Nat) ({ cls := "OrderedResolver", name := "bitsIn", desc := "(I)I" } : Jvm.MethodName)) ∈ lw_all := lw_g (lw_at lw_m1 94 rfl) rfl
theorem q118 : (Jvm.Cond.privateMethod ({ cls := "OrderedResolver", name := "bitsIn", desc := "(I)I" } : Jvm.MethodName)) ∈ lw_tbl := lw_at lw_m1 95 rfl
theorem q119 : (Jvm.Cond.instanceMethod ({ cls := "OrderedResolver", name := "bitsIn", desc := "(I)I" } : Jvm.MethodName)) ∈ lw_all := lw_g (lw_at lw_m1 96 rfl) rfl
theorem q120 : (Jvm.Cond.code ({ cls := "OrderedResolver", name := "bitsIn", desc := "(I)I" } : Jvm.MethodName) prog_1_method_23_code (4 : Nat) (Option.some Jvm.ClassFile.FieldType.int)) ∈ lw_all := lw_g (lw_at lw_m1 97 rfl) rfl
theorem q121 : (Jvm.Cond.methodLink "OrderedResolver" (95 : Nat) ({ cls := "OrderedResolver", name := "dropWider", desc := "(I)V" } : Jvm.MethodName)) ∈ lw_all := lw_g (lw_at lw_m1 98 rfl) rfl
theorem q122 : (Jvm.Cond.privateMethod ({ cls := "OrderedResolver", name := "dropWider", desc := "(I)V" } : Jvm.MethodName)) ∈ lw_tbl := lw_at lw_m1 99 rfl
theorem q123 : (Jvm.Cond.instanceMethod ({ cls := "OrderedResolver", name := "dropWider", desc := "(I)V" } : Jvm.MethodName)) ∈ lw_all := lw_g (lw_at lw_m1 100 rfl) rfl
theorem q124 : (Jvm.Cond.code ({ cls := "OrderedResolver", name := "dropWider", desc := "(I)V" } : Jvm.MethodName) prog_1_method_24_code (3 : Nat) (Option.none : Option Jvm.ClassFile.FieldType)) ∈ lw_all := lw_g (lw_at lw_m1 101 rfl) rfl
theorem q125 : (Jvm.Cond.methodLink "OrderedResolver" (98 : Nat) ({ cls := "OrderedResolver", name := "resolveWithKept", desc := "(I)V" } : Jvm.MethodName)) ∈ lw_all := lw_g (lw_at lw_m1 102 rfl) rfl
theorem q126 : (Jvm.Cond.privateMethod ({ cls := "OrderedResolver", name := "resolveWithKept", desc := "(I)V" } : Jvm.MethodName)) ∈ lw_tbl := lw_at lw_m1 103 rfl
theorem q127 : (Jvm.Cond.instanceMethod ({ cls := "OrderedResolver", name := "resolveWithKept", desc := "(I)V" } : Jvm.MethodName)) ∈ lw_all := lw_g (lw_at lw_m1 104 rfl) rfl
theorem q128 : (Jvm.Cond.code ({ cls := "OrderedResolver", name := "resolveWithKept", desc := "(I)V" } : Jvm.MethodName) prog_1_method_25_code (7 : Nat) (Option.none : Option Jvm.ClassFile.FieldType)) ∈ lw_all := lw_g (lw_at lw_m1 105 rfl) rfl
theorem q129 : (Jvm.Cond.methodLink "OrderedResolver" (104 : Nat) ({ cls := "OrderedResolver", name := "numberOf", desc := "(II)I" } : Jvm.MethodName)) ∈ lw_all := lw_g (lw_at lw_m1 106 rfl) rfl
theorem q130 : (Jvm.Cond.privateMethod ({ cls := "OrderedResolver", name := "numberOf", desc := "(II)I" } : Jvm.MethodName)) ∈ lw_tbl := lw_at lw_m1 107 rfl
theorem q131 : (Jvm.Cond.instanceMethod ({ cls := "OrderedResolver", name := "numberOf", desc := "(II)I" } : Jvm.MethodName)) ∈ lw_all := lw_g (lw_at lw_m1 108 rfl) rfl
theorem q132 : (Jvm.Cond.code ({ cls := "OrderedResolver", name := "numberOf", desc := "(II)I" } : Jvm.MethodName) prog_1_method_26_code (5 : Nat) (Option.some Jvm.ClassFile.FieldType.int)) ∈ lw_all := lw_g (lw_at lw_m1 109 rfl) rfl
theorem q134 : (Jvm.Cond.instanceMethod ({ cls := "OrderedResolver", name := "retract", desc := "(I)I" } : Jvm.MethodName)) ∈ lw_all := lw_g (lw_at lw_m1 111 rfl) rfl
theorem q135 : (Jvm.Cond.selects "OrderedResolver" ({ cls := "OrderedResolver", name := "retract", desc := "(I)I" } : Jvm.MethodName) ({ cls := "OrderedResolver", name := "retract", desc := "(I)I" } : Jvm.MethodName)) ∈ lw_all := lw_g (lw_at lw_m1 112 rfl) rfl
theorem q136 : (Jvm.Cond.code ({ cls := "OrderedResolver", name := "retract", desc := "(I)I" } : Jvm.MethodName) prog_1_method_4_code (4 : Nat) (Option.some Jvm.ClassFile.FieldType.int)) ∈ lw_all := lw_g (lw_at lw_m1 113 rfl) rfl
theorem q138 : (Jvm.Cond.instanceMethod ({ cls := "OrderedResolver", name := "size", desc := "()I" } : Jvm.MethodName)) ∈ lw_all := lw_g (lw_at lw_m1 115 rfl) rfl
theorem q139 : (Jvm.Cond.selects "OrderedResolver" ({ cls := "OrderedResolver", name := "size", desc := "()I" } : Jvm.MethodName) ({ cls := "OrderedResolver", name := "size", desc := "()I" } : Jvm.MethodName)) ∈ lw_all := lw_g (lw_at lw_m1 116 rfl) rfl
theorem q140 : (Jvm.Cond.code ({ cls := "OrderedResolver", name := "size", desc := "()I" } : Jvm.MethodName) prog_1_method_5_code (1 : Nat) (Option.some Jvm.ClassFile.FieldType.int)) ∈ lw_all := lw_g (lw_at lw_m1 117 rfl) rfl
theorem q142 : (Jvm.Cond.instanceMethod ({ cls := "OrderedResolver", name := "implied", desc := "(I)Z" } : Jvm.MethodName)) ∈ lw_all := lw_g (lw_at lw_m1 119 rfl) rfl
theorem q143 : (Jvm.Cond.selects "OrderedResolver" ({ cls := "OrderedResolver", name := "implied", desc := "(I)Z" } : Jvm.MethodName) ({ cls := "OrderedResolver", name := "implied", desc := "(I)Z" } : Jvm.MethodName)) ∈ lw_all := lw_g (lw_at lw_m1 120 rfl) rfl
theorem q144 : (Jvm.Cond.code ({ cls := "OrderedResolver", name := "implied", desc := "(I)Z" } : Jvm.MethodName) prog_1_method_8_code (2 : Nat) (Option.some Jvm.ClassFile.FieldType.boolean)) ∈ lw_all := lw_g (lw_at lw_m1 121 rfl) rfl
theorem q145 : (Jvm.Cond.methodLink "OrderedResolver" (69 : Nat) ({ cls := "OrderedResolver", name := "saturate", desc := "()V" } : Jvm.MethodName)) ∈ lw_all := lw_g (lw_at lw_m1 122 rfl) rfl
theorem q146 : (Jvm.Cond.privateMethod ({ cls := "OrderedResolver", name := "saturate", desc := "()V" } : Jvm.MethodName)) ∈ lw_tbl := lw_at lw_m1 123 rfl
theorem q147 : (Jvm.Cond.instanceMethod ({ cls := "OrderedResolver", name := "saturate", desc := "()V" } : Jvm.MethodName)) ∈ lw_all := lw_g (lw_at lw_m1 124 rfl) rfl
theorem q148 : (Jvm.Cond.code ({ cls := "OrderedResolver", name := "saturate", desc := "()V" } : Jvm.MethodName) prog_1_method_18_code (2 : Nat) (Option.none : Option Jvm.ClassFile.FieldType)) ∈ lw_all := lw_g (lw_at lw_m1 125 rfl) rfl
theorem q149 : (Jvm.Cond.methodLink "OrderedResolver" (79 : Nat) ({ cls := "OrderedResolver", name := "clearKept", desc := "()V" } : Jvm.MethodName)) ∈ lw_all := lw_g (lw_at lw_m1 126 rfl) rfl
theorem q150 : (Jvm.Cond.privateMethod ({ cls := "OrderedResolver", name := "clearKept", desc := "()V" } : Jvm.MethodName)) ∈ lw_tbl := lw_at lw_m1 127 rfl
theorem q151 : (Jvm.Cond.instanceMethod ({ cls := "OrderedResolver", name := "clearKept", desc := "()V" } : Jvm.MethodName)) ∈ lw_all := lw_g (lw_at lw_m1 128 rfl) rfl
theorem q152 : (Jvm.Cond.code ({ cls := "OrderedResolver", name := "clearKept", desc := "()V" } : Jvm.MethodName) prog_1_method_19_code (2 : Nat) (Option.none : Option Jvm.ClassFile.FieldType)) ∈ lw_all := lw_g (lw_at lw_m1 129 rfl) rfl
theorem q154 : (Jvm.Cond.instanceMethod ({ cls := "OrderedResolver", name := "primes", desc := "()I" } : Jvm.MethodName)) ∈ lw_all := lw_g (lw_at lw_m1 131 rfl) rfl
theorem q155 : (Jvm.Cond.selects "OrderedResolver" ({ cls := "OrderedResolver", name := "primes", desc := "()I" } : Jvm.MethodName) ({ cls := "OrderedResolver", name := "primes", desc := "()I" } : Jvm.MethodName)) ∈ lw_all := lw_g (lw_at lw_m1 132 rfl) rfl
theorem q156 : (Jvm.Cond.code ({ cls := "OrderedResolver", name := "primes", desc := "()I" } : Jvm.MethodName) prog_1_method_9_code (3 : Nat) (Option.some Jvm.ClassFile.FieldType.int)) ∈ lw_all := lw_g (lw_at lw_m1 133 rfl) rfl
theorem q158 : (Jvm.Cond.instanceMethod ({ cls := "OrderedResolver", name := "prime", desc := "(I)I" } : Jvm.MethodName)) ∈ lw_all := lw_g (lw_at lw_m1 135 rfl) rfl
theorem q159 : (Jvm.Cond.selects "OrderedResolver" ({ cls := "OrderedResolver", name := "prime", desc := "(I)I" } : Jvm.MethodName) ({ cls := "OrderedResolver", name := "prime", desc := "(I)I" } : Jvm.MethodName)) ∈ lw_all := lw_g (lw_at lw_m1 136 rfl) rfl
theorem q160 : (Jvm.Cond.code ({ cls := "OrderedResolver", name := "prime", desc := "(I)I" } : Jvm.MethodName) prog_1_method_10_code (4 : Nat) (Option.some Jvm.ClassFile.FieldType.int)) ∈ lw_all := lw_g (lw_at lw_m1 137 rfl) rfl
theorem q162 : (Jvm.Cond.instanceMethod ({ cls := "OrderedResolver", name := "primeWithin", desc := "(I)I" } : Jvm.MethodName)) ∈ lw_all := lw_g (lw_at lw_m1 139 rfl) rfl
theorem q163 : (Jvm.Cond.selects "OrderedResolver" ({ cls := "OrderedResolver", name := "primeWithin", desc := "(I)I" } : Jvm.MethodName) ({ cls := "OrderedResolver", name := "primeWithin", desc := "(I)I" } : Jvm.MethodName)) ∈ lw_all := lw_g (lw_at lw_m1 140 rfl) rfl
theorem q164 : (Jvm.Cond.code ({ cls := "OrderedResolver", name := "primeWithin", desc := "(I)I" } : Jvm.MethodName) prog_1_method_11_code (2 : Nat) (Option.some Jvm.ClassFile.FieldType.int)) ∈ lw_all := lw_g (lw_at lw_m1 141 rfl) rfl
theorem q166 : (Jvm.Cond.instanceMethod ({ cls := "OrderedResolver", name := "models", desc := "()I" } : Jvm.MethodName)) ∈ lw_all := lw_g (lw_at lw_m1 143 rfl) rfl
theorem q167 : (Jvm.Cond.selects "OrderedResolver" ({ cls := "OrderedResolver", name := "models", desc := "()I" } : Jvm.MethodName) ({ cls := "OrderedResolver", name := "models", desc := "()I" } : Jvm.MethodName)) ∈ lw_all := lw_g (lw_at lw_m1 144 rfl) rfl
theorem q168 : (Jvm.Cond.code ({ cls := "OrderedResolver", name := "models", desc := "()I" } : Jvm.MethodName) prog_1_method_12_code (6 : Nat) (Option.some Jvm.ClassFile.FieldType.int)) ∈ lw_all := lw_g (lw_at lw_m1 145 rfl) rfl
theorem q169 : (Jvm.Cond.methodLink "OrderedResolver" (75 : Nat) ({ cls := "OrderedResolver", name := "breaks", desc := "(II)Z" } : Jvm.MethodName)) ∈ lw_all := lw_g (lw_at lw_m1 146 rfl) rfl
theorem q170 : (Jvm.Cond.privateMethod ({ cls := "OrderedResolver", name := "breaks", desc := "(II)Z" } : Jvm.MethodName)) ∈ lw_tbl := lw_at lw_m1 147 rfl
theorem q171 : (Jvm.Cond.instanceMethod ({ cls := "OrderedResolver", name := "breaks", desc := "(II)Z" } : Jvm.MethodName)) ∈ lw_all := lw_g (lw_at lw_m1 148 rfl) rfl
theorem q172 : (Jvm.Cond.code ({ cls := "OrderedResolver", name := "breaks", desc := "(II)Z" } : Jvm.MethodName) prog_1_method_17_code (6 : Nat) (Option.some Jvm.ClassFile.FieldType.boolean)) ∈ lw_all := lw_g (lw_at lw_m1 149 rfl) rfl
theorem q174 : (Jvm.Cond.instanceMethod ({ cls := "OrderedResolver", name := "leastModel", desc := "(II)I" } : Jvm.MethodName)) ∈ lw_all := lw_g (lw_at lw_m1 151 rfl) rfl
theorem q175 : (Jvm.Cond.selects "OrderedResolver" ({ cls := "OrderedResolver", name := "leastModel", desc := "(II)I" } : Jvm.MethodName) ({ cls := "OrderedResolver", name := "leastModel", desc := "(II)I" } : Jvm.MethodName)) ∈ lw_all := lw_g (lw_at lw_m1 152 rfl) rfl
theorem q176 : (Jvm.Cond.code ({ cls := "OrderedResolver", name := "leastModel", desc := "(II)I" } : Jvm.MethodName) prog_1_method_13_code (6 : Nat) (Option.some Jvm.ClassFile.FieldType.int)) ∈ lw_all := lw_g (lw_at lw_m1 153 rfl) rfl
theorem q178 : (Jvm.Cond.instanceMethod ({ cls := "OrderedResolver", name := "redundant", desc := "()I" } : Jvm.MethodName)) ∈ lw_all := lw_g (lw_at lw_m1 155 rfl) rfl
theorem q179 : (Jvm.Cond.selects "OrderedResolver" ({ cls := "OrderedResolver", name := "redundant", desc := "()I" } : Jvm.MethodName) ({ cls := "OrderedResolver", name := "redundant", desc := "()I" } : Jvm.MethodName)) ∈ lw_all := lw_g (lw_at lw_m1 156 rfl) rfl
theorem q180 : (Jvm.Cond.code ({ cls := "OrderedResolver", name := "redundant", desc := "()I" } : Jvm.MethodName) prog_1_method_14_code (4 : Nat) (Option.some Jvm.ClassFile.FieldType.int)) ∈ lw_all := lw_g (lw_at lw_m1 157 rfl) rfl
theorem in_X1 : ∀ w ∈ wsX10, w ∈ lw_all := lw_in wsX10 [52, 54, 56, 58, 60, 62, 64, 66, 68, 70, 72, 74, 76, 78] (by decide +kernel) (by decide +kernel)
theorem q25 : (Jvm.Cond.initialized "OrderedResolverModel") ∈ lw_all := lw_g (lw_at lw_m1 2 rfl) rfl
theorem q185 : (Jvm.Cond.instantiable "OrderedResolverModel" (6 : Nat)) ∈ lw_all := lw_g (lw_at lw_m1 162 rfl) rfl
theorem q187 : (Jvm.Cond.instanceMethod ({ cls := "OrderedResolverModel", name := "<init>", desc := "(I)V" } : Jvm.MethodName)) ∈ lw_all := lw_g (lw_at lw_m1 164 rfl) rfl
theorem q188 : (Jvm.Cond.code ({ cls := "OrderedResolverModel", name := "<init>", desc := "(I)V" } : Jvm.MethodName) prog_3_method_1_code (2 : Nat) (Option.none : Option Jvm.ClassFile.FieldType)) ∈ lw_all := lw_g (lw_at lw_m1 165 rfl) rfl
theorem q189 : (Jvm.Cond.methodLink "OrderedResolverModel" (1 : Nat) ({ cls := "java/lang/Object", name := "<init>", desc := "()V" } : Jvm.MethodName)) ∈ lw_all := lw_g (lw_at lw_m1 166 rfl) rfl
theorem q190 : (Jvm.Cond.fieldLink "OrderedResolverModel" (24 : Nat) "OrderedResolverModel" "n" "I") ∈ lw_all := lw_g (lw_at lw_m1 167 rfl) rfl
theorem q191 : (Jvm.Cond.fieldLink "OrderedResolverModel" (27 : Nat) "OrderedResolverModel" "clauses" "I") ∈ lw_all := lw_g (lw_at lw_m1 168 rfl) rfl
theorem q192 : (Jvm.Cond.fieldLink "OrderedResolverModel" (7 : Nat) "OrderedResolverModel" "size" "I") ∈ lw_all := lw_g (lw_at lw_m1 169 rfl) rfl
theorem q193 : (Jvm.Cond.fieldLink "OrderedResolverModel" (13 : Nat) "OrderedResolverModel" "base" "[I") ∈ lw_all := lw_g (lw_at lw_m1 170 rfl) rfl
theorem q194 : (Jvm.Cond.fieldLink "OrderedResolverModel" (17 : Nat) "OrderedResolverModel" "model" "[Z") ∈ lw_all := lw_g (lw_at lw_m1 171 rfl) rfl
theorem q195 : (Jvm.Cond.fieldLink "OrderedResolverModel" (21 : Nat) "OrderedResolverModel" "follows" "[Z") ∈ lw_all := lw_g (lw_at lw_m1 172 rfl) rfl
theorem q196 : (Jvm.Cond.lays "OrderedResolverModel" "OrderedResolverModel" "n" "I") ∈ lw_all := lw_g (lw_at lw_m1 173 rfl) rfl
theorem q197 : (Jvm.Cond.soleField "OrderedResolverModel" "n") ∈ lw_all := lw_g (lw_at lw_m1 174 rfl) rfl
theorem q198 : (Jvm.Cond.lays "OrderedResolverModel" "OrderedResolverModel" "clauses" "I") ∈ lw_all := lw_g (lw_at lw_m1 175 rfl) rfl
theorem q199 : (Jvm.Cond.soleField "OrderedResolverModel" "clauses") ∈ lw_all := lw_g (lw_at lw_m1 176 rfl) rfl
theorem q200 : (Jvm.Cond.lays "OrderedResolverModel" "OrderedResolverModel" "size" "I") ∈ lw_all := lw_g (lw_at lw_m1 177 rfl) rfl
theorem q201 : (Jvm.Cond.soleField "OrderedResolverModel" "size") ∈ lw_all := lw_g (lw_at lw_m1 178 rfl) rfl
theorem q202 : (Jvm.Cond.lays "OrderedResolverModel" "OrderedResolverModel" "base" "[I") ∈ lw_all := lw_g (lw_at lw_m1 179 rfl) rfl
theorem q203 : (Jvm.Cond.soleField "OrderedResolverModel" "base") ∈ lw_all := lw_g (lw_at lw_m1 180 rfl) rfl
theorem q204 : (Jvm.Cond.lays "OrderedResolverModel" "OrderedResolverModel" "model" "[Z") ∈ lw_all := lw_g (lw_at lw_m1 181 rfl) rfl
theorem q205 : (Jvm.Cond.soleField "OrderedResolverModel" "model") ∈ lw_all := lw_g (lw_at lw_m1 182 rfl) rfl
theorem q206 : (Jvm.Cond.lays "OrderedResolverModel" "OrderedResolverModel" "follows" "[Z") ∈ lw_all := lw_g (lw_at lw_m1 183 rfl) rfl
theorem q207 : (Jvm.Cond.soleField "OrderedResolverModel" "follows") ∈ lw_all := lw_g (lw_at lw_m1 184 rfl) rfl
theorem q208 : (Jvm.Cond.superclass "OrderedResolverModel" "java/lang/Object") ∈ lw_all := lw_g (lw_at lw_m1 185 rfl) rfl
theorem q210 : (Jvm.Cond.instanceMethod ({ cls := "OrderedResolverModel", name := "add", desc := "(I)I" } : Jvm.MethodName)) ∈ lw_all := lw_g (lw_at lw_m1 187 rfl) rfl
theorem q211 : (Jvm.Cond.selects "OrderedResolverModel" ({ cls := "OrderedResolverModel", name := "add", desc := "(I)I" } : Jvm.MethodName) ({ cls := "OrderedResolverModel", name := "add", desc := "(I)I" } : Jvm.MethodName)) ∈ lw_all := lw_g (lw_at lw_m1 188 rfl) rfl
theorem q212 : (Jvm.Cond.code ({ cls := "OrderedResolverModel", name := "add", desc := "(I)I" } : Jvm.MethodName) prog_3_method_4_code (2 : Nat) (Option.some Jvm.ClassFile.FieldType.int)) ∈ lw_all := lw_g (lw_at lw_m1 189 rfl) rfl
theorem q213 : (Jvm.Cond.methodLink "OrderedResolverModel" (30 : Nat) ({ cls := "OrderedResolverModel", name := "isClause", desc := "(I)Z" } : Jvm.MethodName)) ∈ lw_all := lw_g (lw_at lw_m1 190 rfl) rfl
theorem q214 : (Jvm.Cond.privateMethod ({ cls := "OrderedResolverModel", name := "isClause", desc := "(I)Z" } : Jvm.MethodName)) ∈ lw_tbl := lw_at lw_m1 191 rfl
theorem q215 : (Jvm.Cond.instanceMethod ({ cls := "OrderedResolverModel", name := "isClause", desc := "(I)Z" } : Jvm.MethodName)) ∈ lw_all := lw_g (lw_at lw_m1 192 rfl) rfl
theorem q216 : (Jvm.Cond.code ({ cls := "OrderedResolverModel", name := "isClause", desc := "(I)Z" } : Jvm.MethodName) prog_3_method_2_code (2 : Nat) (Option.some Jvm.ClassFile.FieldType.boolean)) ∈ lw_all := lw_g (lw_at lw_m1 193 rfl) rfl
theorem q217 : (Jvm.Cond.methodLink "OrderedResolverModel" (34 : Nat) ({ cls := "OrderedResolverModel", name := "placeOf", desc := "(I)I" } : Jvm.MethodName)) ∈ lw_all := lw_g (lw_at lw_m1 194 rfl) rfl
theorem q218 : (Jvm.Cond.privateMethod ({ cls := "OrderedResolverModel", name := "placeOf", desc := "(I)I" } : Jvm.MethodName)) ∈ lw_tbl := lw_at lw_m1 195 rfl
theorem q219 : (Jvm.Cond.instanceMethod ({ cls := "OrderedResolverModel", name := "placeOf", desc := "(I)I" } : Jvm.MethodName)) ∈ lw_all := lw_g (lw_at lw_m1 196 rfl) rfl
theorem q220 : (Jvm.Cond.code ({ cls := "OrderedResolverModel", name := "placeOf", desc := "(I)I" } : Jvm.MethodName) prog_3_method_3_code (3 : Nat) (Option.some Jvm.ClassFile.FieldType.int)) ∈ lw_all := lw_g (lw_at lw_m1 197 rfl) rfl
theorem q222 : (Jvm.Cond.instanceMethod ({ cls := "OrderedResolverModel", name := "retract", desc := "(I)I" } : Jvm.MethodName)) ∈ lw_all := lw_g (lw_at lw_m1 199 rfl) rfl
theorem q223 : (Jvm.Cond.selects "OrderedResolverModel" ({ cls := "OrderedResolverModel", name := "retract", desc := "(I)I" } : Jvm.MethodName) ({ cls := "OrderedResolverModel", name := "retract", desc := "(I)I" } : Jvm.MethodName)) ∈ lw_all := lw_g (lw_at lw_m1 200 rfl) rfl
theorem q224 : (Jvm.Cond.code ({ cls := "OrderedResolverModel", name := "retract", desc := "(I)I" } : Jvm.MethodName) prog_3_method_5_code (3 : Nat) (Option.some Jvm.ClassFile.FieldType.int)) ∈ lw_all := lw_g (lw_at lw_m1 201 rfl) rfl
theorem q226 : (Jvm.Cond.instanceMethod ({ cls := "OrderedResolverModel", name := "size", desc := "()I" } : Jvm.MethodName)) ∈ lw_all := lw_g (lw_at lw_m1 203 rfl) rfl
theorem q227 : (Jvm.Cond.selects "OrderedResolverModel" ({ cls := "OrderedResolverModel", name := "size", desc := "()I" } : Jvm.MethodName) ({ cls := "OrderedResolverModel", name := "size", desc := "()I" } : Jvm.MethodName)) ∈ lw_all := lw_g (lw_at lw_m1 204 rfl) rfl
theorem q228 : (Jvm.Cond.code ({ cls := "OrderedResolverModel", name := "size", desc := "()I" } : Jvm.MethodName) prog_3_method_6_code (1 : Nat) (Option.some Jvm.ClassFile.FieldType.int)) ∈ lw_all := lw_g (lw_at lw_m1 205 rfl) rfl
theorem q230 : (Jvm.Cond.instanceMethod ({ cls := "OrderedResolverModel", name := "implied", desc := "(I)Z" } : Jvm.MethodName)) ∈ lw_all := lw_g (lw_at lw_m1 207 rfl) rfl
theorem q231 : (Jvm.Cond.selects "OrderedResolverModel" ({ cls := "OrderedResolverModel", name := "implied", desc := "(I)Z" } : Jvm.MethodName) ({ cls := "OrderedResolverModel", name := "implied", desc := "(I)Z" } : Jvm.MethodName)) ∈ lw_all := lw_g (lw_at lw_m1 208 rfl) rfl
theorem q232 : (Jvm.Cond.code ({ cls := "OrderedResolverModel", name := "implied", desc := "(I)Z" } : Jvm.MethodName) prog_3_method_13_code (2 : Nat) (Option.some Jvm.ClassFile.FieldType.boolean)) ∈ lw_all := lw_g (lw_at lw_m1 209 rfl) rfl
theorem q233 : (Jvm.Cond.methodLink "OrderedResolverModel" (42 : Nat) ({ cls := "OrderedResolverModel", name := "findModels", desc := "(I)V" } : Jvm.MethodName)) ∈ lw_all := lw_g (lw_at lw_m1 210 rfl) rfl
theorem q234 : (Jvm.Cond.privateMethod ({ cls := "OrderedResolverModel", name := "findModels", desc := "(I)V" } : Jvm.MethodName)) ∈ lw_tbl := lw_at lw_m1 211 rfl
theorem q235 : (Jvm.Cond.instanceMethod ({ cls := "OrderedResolverModel", name := "findModels", desc := "(I)V" } : Jvm.MethodName)) ∈ lw_all := lw_g (lw_at lw_m1 212 rfl) rfl
theorem q236 : (Jvm.Cond.code ({ cls := "OrderedResolverModel", name := "findModels", desc := "(I)V" } : Jvm.MethodName) prog_3_method_8_code (4 : Nat) (Option.none : Option Jvm.ClassFile.FieldType)) ∈ lw_all := lw_g (lw_at lw_m1 213 rfl) rfl
theorem q237 : (Jvm.Cond.methodLink "OrderedResolverModel" (38 : Nat) ({ cls := "OrderedResolverModel", name := "satisfies", desc := "(II)Z" } : Jvm.MethodName)) ∈ lw_all := lw_g (lw_at lw_m1 214 rfl) rfl
theorem q238 : (Jvm.Cond.privateMethod ({ cls := "OrderedResolverModel", name := "satisfies", desc := "(II)Z" } : Jvm.MethodName)) ∈ lw_tbl := lw_at lw_m1 215 rfl
theorem q239 : (Jvm.Cond.instanceMethod ({ cls := "OrderedResolverModel", name := "satisfies", desc := "(II)Z" } : Jvm.MethodName)) ∈ lw_all := lw_g (lw_at lw_m1 216 rfl) rfl
theorem q240 : (Jvm.Cond.code ({ cls := "OrderedResolverModel", name := "satisfies", desc := "(II)Z" } : Jvm.MethodName) prog_3_method_7_code (6 : Nat) (Option.some Jvm.ClassFile.FieldType.boolean)) ∈ lw_all := lw_g (lw_at lw_m1 217 rfl) rfl
theorem q241 : (Jvm.Cond.methodLink "OrderedResolverModel" (46 : Nat) ({ cls := "OrderedResolverModel", name := "followsNow", desc := "(I)Z" } : Jvm.MethodName)) ∈ lw_all := lw_g (lw_at lw_m1 218 rfl) rfl
theorem q242 : (Jvm.Cond.privateMethod ({ cls := "OrderedResolverModel", name := "followsNow", desc := "(I)Z" } : Jvm.MethodName)) ∈ lw_tbl := lw_at lw_m1 219 rfl
theorem q243 : (Jvm.Cond.instanceMethod ({ cls := "OrderedResolverModel", name := "followsNow", desc := "(I)Z" } : Jvm.MethodName)) ∈ lw_all := lw_g (lw_at lw_m1 220 rfl) rfl
theorem q244 : (Jvm.Cond.code ({ cls := "OrderedResolverModel", name := "followsNow", desc := "(I)Z" } : Jvm.MethodName) prog_3_method_9_code (3 : Nat) (Option.some Jvm.ClassFile.FieldType.boolean)) ∈ lw_all := lw_g (lw_at lw_m1 221 rfl) rfl
theorem q246 : (Jvm.Cond.instanceMethod ({ cls := "OrderedResolverModel", name := "primes", desc := "()I" } : Jvm.MethodName)) ∈ lw_all := lw_g (lw_at lw_m1 223 rfl) rfl
theorem q247 : (Jvm.Cond.selects "OrderedResolverModel" ({ cls := "OrderedResolverModel", name := "primes", desc := "()I" } : Jvm.MethodName) ({ cls := "OrderedResolverModel", name := "primes", desc := "()I" } : Jvm.MethodName)) ∈ lw_all := lw_g (lw_at lw_m1 224 rfl) rfl
theorem q248 : (Jvm.Cond.code ({ cls := "OrderedResolverModel", name := "primes", desc := "()I" } : Jvm.MethodName) prog_3_method_14_code (3 : Nat) (Option.some Jvm.ClassFile.FieldType.int)) ∈ lw_all := lw_g (lw_at lw_m1 225 rfl) rfl
theorem q249 : (Jvm.Cond.methodLink "OrderedResolverModel" (52 : Nat) ({ cls := "OrderedResolverModel", name := "findFollowing", desc := "()V" } : Jvm.MethodName)) ∈ lw_all := lw_g (lw_at lw_m1 226 rfl) rfl
theorem q250 : (Jvm.Cond.privateMethod ({ cls := "OrderedResolverModel", name := "findFollowing", desc := "()V" } : Jvm.MethodName)) ∈ lw_tbl := lw_at lw_m1 227 rfl
theorem q251 : (Jvm.Cond.instanceMethod ({ cls := "OrderedResolverModel", name := "findFollowing", desc := "()V" } : Jvm.MethodName)) ∈ lw_all := lw_g (lw_at lw_m1 228 rfl) rfl
theorem q252 : (Jvm.Cond.code ({ cls := "OrderedResolverModel", name := "findFollowing", desc := "()V" } : Jvm.MethodName) prog_3_method_11_code (2 : Nat) (Option.none : Option Jvm.ClassFile.FieldType)) ∈ lw_all := lw_g (lw_at lw_m1 229 rfl) rfl
theorem q253 : (Jvm.Cond.methodLink "OrderedResolverModel" (55 : Nat) ({ cls := "OrderedResolverModel", name := "isPrime", desc := "(I)Z" } : Jvm.MethodName)) ∈ lw_all := lw_g (lw_at lw_m1 230 rfl) rfl
theorem q254 : (Jvm.Cond.privateMethod ({ cls := "OrderedResolverModel", name := "isPrime", desc := "(I)Z" } : Jvm.MethodName)) ∈ lw_tbl := lw_at lw_m1 231 rfl
theorem q255 : (Jvm.Cond.instanceMethod ({ cls := "OrderedResolverModel", name := "isPrime", desc := "(I)Z" } : Jvm.MethodName)) ∈ lw_all := lw_g (lw_at lw_m1 232 rfl) rfl
theorem q256 : (Jvm.Cond.code ({ cls := "OrderedResolverModel", name := "isPrime", desc := "(I)Z" } : Jvm.MethodName) prog_3_method_12_code (3 : Nat) (Option.some Jvm.ClassFile.FieldType.boolean)) ∈ lw_all := lw_g (lw_at lw_m1 233 rfl) rfl
theorem q257 : (Jvm.Cond.methodLink "OrderedResolverModel" (49 : Nat) ({ cls := "OrderedResolverModel", name := "within", desc := "(II)Z" } : Jvm.MethodName)) ∈ lw_all := lw_g (lw_at lw_m1 234 rfl) rfl
theorem q258 : (Jvm.Cond.privateMethod ({ cls := "OrderedResolverModel", name := "within", desc := "(II)Z" } : Jvm.MethodName)) ∈ lw_tbl := lw_at lw_m1 235 rfl
theorem q259 : (Jvm.Cond.instanceMethod ({ cls := "OrderedResolverModel", name := "within", desc := "(II)Z" } : Jvm.MethodName)) ∈ lw_all := lw_g (lw_at lw_m1 236 rfl) rfl
theorem q260 : (Jvm.Cond.code ({ cls := "OrderedResolverModel", name := "within", desc := "(II)Z" } : Jvm.MethodName) prog_3_method_10_code (6 : Nat) (Option.some Jvm.ClassFile.FieldType.boolean)) ∈ lw_all := lw_g (lw_at lw_m1 237 rfl) rfl
theorem q262 : (Jvm.Cond.instanceMethod ({ cls := "OrderedResolverModel", name := "prime", desc := "(I)I" } : Jvm.MethodName)) ∈ lw_all := lw_g (lw_at lw_m1 239 rfl) rfl
theorem q263 : (Jvm.Cond.selects "OrderedResolverModel" ({ cls := "OrderedResolverModel", name := "prime", desc := "(I)I" } : Jvm.MethodName) ({ cls := "OrderedResolverModel", name := "prime", desc := "(I)I" } : Jvm.MethodName)) ∈ lw_all := lw_g (lw_at lw_m2 0 rfl) rfl
theorem q264 : (Jvm.Cond.code ({ cls := "OrderedResolverModel", name := "prime", desc := "(I)I" } : Jvm.MethodName) prog_3_method_15_code (4 : Nat) (Option.some Jvm.ClassFile.FieldType.int)) ∈ lw_all := lw_g (lw_at lw_m2 1 rfl) rfl
theorem q266 : (Jvm.Cond.instanceMethod ({ cls := "OrderedResolverModel", name := "primeWithin", desc := "(I)I" } : Jvm.MethodName)) ∈ lw_all := lw_g (lw_at lw_m2 3 rfl) rfl
theorem q267 : (Jvm.Cond.selects "OrderedResolverModel" ({ cls := "OrderedResolverModel", name := "primeWithin", desc := "(I)I" } : Jvm.MethodName) ({ cls := "OrderedResolverModel", name := "primeWithin", desc := "(I)I" } : Jvm.MethodName)) ∈ lw_all := lw_g (lw_at lw_m2 4 rfl) rfl
theorem q268 : (Jvm.Cond.code ({ cls := "OrderedResolverModel", name := "primeWithin", desc := "(I)I" } : Jvm.MethodName) prog_3_method_16_code (3 : Nat) (Option.some Jvm.ClassFile.FieldType.int)) ∈ lw_all := lw_g (lw_at lw_m2 5 rfl) rfl
theorem q270 : (Jvm.Cond.instanceMethod ({ cls := "OrderedResolverModel", name := "models", desc := "()I" } : Jvm.MethodName)) ∈ lw_all := lw_g (lw_at lw_m2 7 rfl) rfl
theorem q271 : (Jvm.Cond.selects "OrderedResolverModel" ({ cls := "OrderedResolverModel", name := "models", desc := "()I" } : Jvm.MethodName) ({ cls := "OrderedResolverModel", name := "models", desc := "()I" } : Jvm.MethodName)) ∈ lw_all := lw_g (lw_at lw_m2 8 rfl) rfl
theorem q272 : (Jvm.Cond.code ({ cls := "OrderedResolverModel", name := "models", desc := "()I" } : Jvm.MethodName) prog_3_method_17_code (3 : Nat) (Option.some Jvm.ClassFile.FieldType.int)) ∈ lw_all := lw_g (lw_at lw_m2 9 rfl) rfl
theorem q274 : (Jvm.Cond.instanceMethod ({ cls := "OrderedResolverModel", name := "leastModel", desc := "(II)I" } : Jvm.MethodName)) ∈ lw_all := lw_g (lw_at lw_m2 11 rfl) rfl
theorem q275 : (Jvm.Cond.selects "OrderedResolverModel" ({ cls := "OrderedResolverModel", name := "leastModel", desc := "(II)I" } : Jvm.MethodName) ({ cls := "OrderedResolverModel", name := "leastModel", desc := "(II)I" } : Jvm.MethodName)) ∈ lw_all := lw_g (lw_at lw_m2 12 rfl) rfl
theorem q276 : (Jvm.Cond.code ({ cls := "OrderedResolverModel", name := "leastModel", desc := "(II)I" } : Jvm.MethodName) prog_3_method_18_code (5 : Nat) (Option.some Jvm.ClassFile.FieldType.int)) ∈ lw_all := lw_g (lw_at lw_m2 13 rfl) rfl
theorem q278 : (Jvm.Cond.instanceMethod ({ cls := "OrderedResolverModel", name := "redundant", desc := "()I" } : Jvm.MethodName)) ∈ lw_all := lw_g (lw_at lw_m2 15 rfl) rfl
theorem q279 : (Jvm.Cond.selects "OrderedResolverModel" ({ cls := "OrderedResolverModel", name := "redundant", desc := "()I" } : Jvm.MethodName) ({ cls := "OrderedResolverModel", name := "redundant", desc := "()I" } : Jvm.MethodName)) ∈ lw_all := lw_g (lw_at lw_m2 16 rfl) rfl
theorem q280 : (Jvm.Cond.code ({ cls := "OrderedResolverModel", name := "redundant", desc := "()I" } : Jvm.MethodName) prog_3_method_19_code (3 : Nat) (Option.some Jvm.ClassFile.FieldType.int)) ∈ lw_all := lw_g (lw_at lw_m2 17 rfl) rfl
theorem in_X2 : ∀ w ∈ wsX20, w ∈ lw_all := lw_in wsX20 [196, 198, 200, 202, 204, 206] (by decide +kernel) (by decide +kernel)
theorem q23 : (Jvm.Cond.initialized "OrderedResolverLaw") ∈ lw_all := lw_g (lw_at lw_m1 0 rfl) rfl
theorem q26 : (Jvm.Cond.classLink "OrderedResolverLaw" (7 : Nat) "OrderedResolver") ∈ lw_all := lw_g (lw_at lw_m1 3 rfl) rfl
theorem q28 : (Jvm.Cond.methodLink "OrderedResolverLaw" (15 : Nat) ({ cls := "OrderedResolver", name := "<init>", desc := "(I)V" } : Jvm.MethodName)) ∈ lw_all := lw_g (lw_at lw_m1 5 rfl) rfl
theorem q85 : (Jvm.Cond.methodLink "OrderedResolverLaw" (21 : Nat) ({ cls := "OrderedResolver", name := "add", desc := "(I)I" } : Jvm.MethodName)) ∈ lw_all := lw_g (lw_at lw_m1 62 rfl) rfl
theorem q133 : (Jvm.Cond.methodLink "OrderedResolverLaw" (26 : Nat) ({ cls := "OrderedResolver", name := "retract", desc := "(I)I" } : Jvm.MethodName)) ∈ lw_all := lw_g (lw_at lw_m1 110 rfl) rfl
theorem q137 : (Jvm.Cond.methodLink "OrderedResolverLaw" (30 : Nat) ({ cls := "OrderedResolver", name := "size", desc := "()I" } : Jvm.MethodName)) ∈ lw_all := lw_g (lw_at lw_m1 114 rfl) rfl
theorem q141 : (Jvm.Cond.methodLink "OrderedResolverLaw" (35 : Nat) ({ cls := "OrderedResolver", name := "implied", desc := "(I)Z" } : Jvm.MethodName)) ∈ lw_all := lw_g (lw_at lw_m1 118 rfl) rfl
theorem q153 : (Jvm.Cond.methodLink "OrderedResolverLaw" (40 : Nat) ({ cls := "OrderedResolver", name := "primes", desc := "()I" } : Jvm.MethodName)) ∈ lw_all := lw_g (lw_at lw_m1 130 rfl) rfl
theorem q157 : (Jvm.Cond.methodLink "OrderedResolverLaw" (44 : Nat) ({ cls := "OrderedResolver", name := "prime", desc := "(I)I" } : Jvm.MethodName)) ∈ lw_all := lw_g (lw_at lw_m1 134 rfl) rfl
theorem q161 : (Jvm.Cond.methodLink "OrderedResolverLaw" (48 : Nat) ({ cls := "OrderedResolver", name := "primeWithin", desc := "(I)I" } : Jvm.MethodName)) ∈ lw_all := lw_g (lw_at lw_m1 138 rfl) rfl
theorem q165 : (Jvm.Cond.methodLink "OrderedResolverLaw" (52 : Nat) ({ cls := "OrderedResolver", name := "models", desc := "()I" } : Jvm.MethodName)) ∈ lw_all := lw_g (lw_at lw_m1 142 rfl) rfl
theorem q173 : (Jvm.Cond.methodLink "OrderedResolverLaw" (56 : Nat) ({ cls := "OrderedResolver", name := "leastModel", desc := "(II)I" } : Jvm.MethodName)) ∈ lw_all := lw_g (lw_at lw_m1 150 rfl) rfl
theorem q177 : (Jvm.Cond.methodLink "OrderedResolverLaw" (61 : Nat) ({ cls := "OrderedResolver", name := "redundant", desc := "()I" } : Jvm.MethodName)) ∈ lw_all := lw_g (lw_at lw_m1 154 rfl) rfl
theorem q181 : (Jvm.Cond.methodLink "OrderedResolverLaw" (9 : Nat) ({ cls := "OrderedResolverLaw", name := "cell", desc := "([II)I" } : Jvm.MethodName)) ∈ lw_all := lw_g (lw_at lw_m1 158 rfl) rfl
theorem q182 : (Jvm.Cond.static ({ cls := "OrderedResolverLaw", name := "cell", desc := "([II)I" } : Jvm.MethodName)) ∈ lw_all := lw_g (lw_at lw_m1 159 rfl) rfl
theorem q183 : (Jvm.Cond.code ({ cls := "OrderedResolverLaw", name := "cell", desc := "([II)I" } : Jvm.MethodName) method_2_code (2 : Nat) (Option.some Jvm.ClassFile.FieldType.int)) ∈ lw_all := lw_g (lw_at lw_m1 160 rfl) rfl
theorem q184 : (Jvm.Cond.classLink "OrderedResolverLaw" (18 : Nat) "OrderedResolverModel") ∈ lw_all := lw_g (lw_at lw_m1 161 rfl) rfl
theorem q186 : (Jvm.Cond.methodLink "OrderedResolverLaw" (20 : Nat) ({ cls := "OrderedResolverModel", name := "<init>", desc := "(I)V" } : Jvm.MethodName)) ∈ lw_all := lw_g (lw_at lw_m1 163 rfl) rfl
theorem q209 : (Jvm.Cond.methodLink "OrderedResolverLaw" (25 : Nat) ({ cls := "OrderedResolverModel", name := "add", desc := "(I)I" } : Jvm.MethodName)) ∈ lw_all := lw_g (lw_at lw_m1 186 rfl) rfl
theorem q221 : (Jvm.Cond.methodLink "OrderedResolverLaw" (29 : Nat) ({ cls := "OrderedResolverModel", name := "retract", desc := "(I)I" } : Jvm.MethodName)) ∈ lw_all := lw_g (lw_at lw_m1 198 rfl) rfl
theorem q225 : (Jvm.Cond.methodLink "OrderedResolverLaw" (34 : Nat) ({ cls := "OrderedResolverModel", name := "size", desc := "()I" } : Jvm.MethodName)) ∈ lw_all := lw_g (lw_at lw_m1 202 rfl) rfl
theorem q229 : (Jvm.Cond.methodLink "OrderedResolverLaw" (39 : Nat) ({ cls := "OrderedResolverModel", name := "implied", desc := "(I)Z" } : Jvm.MethodName)) ∈ lw_all := lw_g (lw_at lw_m1 206 rfl) rfl
theorem q245 : (Jvm.Cond.methodLink "OrderedResolverLaw" (43 : Nat) ({ cls := "OrderedResolverModel", name := "primes", desc := "()I" } : Jvm.MethodName)) ∈ lw_all := lw_g (lw_at lw_m1 222 rfl) rfl
theorem q261 : (Jvm.Cond.methodLink "OrderedResolverLaw" (47 : Nat) ({ cls := "OrderedResolverModel", name := "prime", desc := "(I)I" } : Jvm.MethodName)) ∈ lw_all := lw_g (lw_at lw_m1 238 rfl) rfl
theorem q265 : (Jvm.Cond.methodLink "OrderedResolverLaw" (51 : Nat) ({ cls := "OrderedResolverModel", name := "primeWithin", desc := "(I)I" } : Jvm.MethodName)) ∈ lw_all := lw_g (lw_at lw_m2 2 rfl) rfl
theorem q269 : (Jvm.Cond.methodLink "OrderedResolverLaw" (55 : Nat) ({ cls := "OrderedResolverModel", name := "models", desc := "()I" } : Jvm.MethodName)) ∈ lw_all := lw_g (lw_at lw_m2 6 rfl) rfl
theorem q273 : (Jvm.Cond.methodLink "OrderedResolverLaw" (60 : Nat) ({ cls := "OrderedResolverModel", name := "leastModel", desc := "(II)I" } : Jvm.MethodName)) ∈ lw_all := lw_g (lw_at lw_m2 10 rfl) rfl
theorem q277 : (Jvm.Cond.methodLink "OrderedResolverLaw" (64 : Nat) ({ cls := "OrderedResolverModel", name := "redundant", desc := "()I" } : Jvm.MethodName)) ∈ lw_all := lw_g (lw_at lw_m2 14 rfl) rfl
end
end
section
section
set_option maxRecDepth 100000
theorem dX1_init_0 : decode cX1_init 0 = .ok (.aload_n 0, 1) := by decide +kernel
theorem dX1_init_1 : decode cX1_init 1 = .ok (.invokespecial 1, 3) := by decide +kernel
theorem dX1_init_4 : decode cX1_init 4 = .ok (.aload_n 0, 1) := by decide +kernel
theorem dX1_init_5 : decode cX1_init 5 = .ok (.sipush 243, 3) := by decide +kernel
theorem dX1_init_8 : decode cX1_init 8 = .ok (.newarray .byte, 2) := by decide +kernel
theorem dX1_init_10 : decode cX1_init 10 = .ok (.putfield 7, 3) := by decide +kernel
theorem dX1_init_13 : decode cX1_init 13 = .ok (.aload_n 0, 1) := by decide +kernel
theorem dX1_init_14 : decode cX1_init 14 = .ok (.sipush 243, 3) := by decide +kernel
theorem dX1_init_17 : decode cX1_init 17 = .ok (.newarray .byte, 2) := by decide +kernel
theorem dX1_init_19 : decode cX1_init 19 = .ok (.putfield 13, 3) := by decide +kernel
theorem dX1_init_22 : decode cX1_init 22 = .ok (.aload_n 0, 1) := by decide +kernel
theorem dX1_init_23 : decode cX1_init 23 = .ok (.iconst 5, 1) := by decide +kernel
theorem dX1_init_24 : decode cX1_init 24 = .ok (.newarray .int, 2) := by decide +kernel
theorem dX1_init_26 : decode cX1_init 26 = .ok (.putfield 16, 3) := by decide +kernel
theorem dX1_init_29 : decode cX1_init 29 = .ok (.aload_n 0, 1) := by decide +kernel
theorem dX1_init_30 : decode cX1_init 30 = .ok (.bipush 12, 2) := by decide +kernel
theorem dX1_init_32 : decode cX1_init 32 = .ok (.newarray .short, 2) := by decide +kernel
theorem dX1_init_34 : decode cX1_init 34 = .ok (.putfield 20, 3) := by decide +kernel
theorem dX1_init_37 : decode cX1_init 37 = .ok (.aload_n 0, 1) := by decide +kernel
theorem dX1_init_38 : decode cX1_init 38 = .ok (.sipush 243, 3) := by decide +kernel
theorem dX1_init_41 : decode cX1_init 41 = .ok (.newarray .boolean, 2) := by decide +kernel
theorem dX1_init_43 : decode cX1_init 43 = .ok (.putfield 24, 3) := by decide +kernel
theorem dX1_init_46 : decode cX1_init 46 = .ok (.aload_n 0, 1) := by decide +kernel
theorem dX1_init_47 : decode cX1_init 47 = .ok (.sipush 243, 3) := by decide +kernel
theorem dX1_init_50 : decode cX1_init 50 = .ok (.newarray .boolean, 2) := by decide +kernel
theorem dX1_init_52 : decode cX1_init 52 = .ok (.putfield 28, 3) := by decide +kernel
theorem dX1_init_55 : decode cX1_init 55 = .ok (.aload_n 0, 1) := by decide +kernel
theorem dX1_init_56 : decode cX1_init 56 = .ok (.bipush 8, 2) := by decide +kernel
theorem dX1_init_58 : decode cX1_init 58 = .ok (.newarray .byte, 2) := by decide +kernel
theorem dX1_init_60 : decode cX1_init 60 = .ok (.putfield 31, 3) := by decide +kernel
theorem dX1_init_63 : decode cX1_init 63 = .ok (.aload_n 0, 1) := by decide +kernel
theorem dX1_init_64 : decode cX1_init 64 = .ok (.bipush 8, 2) := by decide +kernel
theorem dX1_init_66 : decode cX1_init 66 = .ok (.newarray .byte, 2) := by decide +kernel
theorem dX1_init_68 : decode cX1_init 68 = .ok (.putfield 34, 3) := by decide +kernel
theorem dX1_init_71 : decode cX1_init 71 = .ok (.aload_n 0, 1) := by decide +kernel
theorem dX1_init_72 : decode cX1_init 72 = .ok (.iload_n 1, 1) := by decide +kernel
theorem dX1_init_73 : decode cX1_init 73 = .ok (.iconst 2, 1) := by decide +kernel
theorem dX1_init_74 : decode cX1_init 74 = .ok (.if_icmp .ge 7, 3) := by decide +kernel
theorem dX1_init_77 : decode cX1_init 77 = .ok (.iconst 2, 1) := by decide +kernel
theorem dX1_init_78 : decode cX1_init 78 = .ok (.goto 13, 3) := by decide +kernel
theorem dX1_init_81 : decode cX1_init 81 = .ok (.iload_n 1, 1) := by decide +kernel
theorem dX1_init_82 : decode cX1_init 82 = .ok (.iconst 5, 1) := by decide +kernel
theorem dX1_init_83 : decode cX1_init 83 = .ok (.if_icmp .le 7, 3) := by decide +kernel
theorem dX1_init_86 : decode cX1_init 86 = .ok (.iconst 5, 1) := by decide +kernel
theorem dX1_init_87 : decode cX1_init 87 = .ok (.goto 4, 3) := by decide +kernel
theorem dX1_init_90 : decode cX1_init 90 = .ok (.iload_n 1, 1) := by decide +kernel
theorem dX1_init_91 : decode cX1_init 91 = .ok (.putfield 37, 3) := by decide +kernel
theorem dX1_init_94 : decode cX1_init 94 = .ok (.aload_n 0, 1) := by decide +kernel
theorem dX1_init_95 : decode cX1_init 95 = .ok (.iconst 1, 1) := by decide +kernel
theorem dX1_init_96 : decode cX1_init 96 = .ok (.aload_n 0, 1) := by decide +kernel
theorem dX1_init_97 : decode cX1_init 97 = .ok (.getfield 37, 3) := by decide +kernel
theorem dX1_init_100 : decode cX1_init 100 = .ok (.ishl, 1) := by decide +kernel
theorem dX1_init_101 : decode cX1_init 101 = .ok (.iconst 1, 1) := by decide +kernel
theorem dX1_init_102 : decode cX1_init 102 = .ok (.isub, 1) := by decide +kernel
theorem dX1_init_103 : decode cX1_init 103 = .ok (.putfield 41, 3) := by decide +kernel
theorem dX1_init_106 : decode cX1_init 106 = .ok (.aload_n 0, 1) := by decide +kernel
theorem dX1_init_107 : decode cX1_init 107 = .ok (.iconst 1, 1) := by decide +kernel
theorem dX1_init_108 : decode cX1_init 108 = .ok (.putfield 44, 3) := by decide +kernel
theorem dX1_init_111 : decode cX1_init 111 = .ok (.iconst 0, 1) := by decide +kernel
theorem dX1_init_112 : decode cX1_init 112 = .ok (.istore_n 2, 1) := by decide +kernel
theorem dX1_init_113 : decode cX1_init 113 = .ok (.iload_n 2, 1) := by decide +kernel
theorem dX1_init_114 : decode cX1_init 114 = .ok (.aload_n 0, 1) := by decide +kernel
theorem dX1_init_115 : decode cX1_init 115 = .ok (.getfield 37, 3) := by decide +kernel
theorem dX1_init_118 : decode cX1_init 118 = .ok (.if_icmp .ge 29, 3) := by decide +kernel
theorem dX1_init_121 : decode cX1_init 121 = .ok (.aload_n 0, 1) := by decide +kernel
theorem dX1_init_122 : decode cX1_init 122 = .ok (.getfield 16, 3) := by decide +kernel
theorem dX1_init_125 : decode cX1_init 125 = .ok (.iload_n 2, 1) := by decide +kernel
theorem dX1_init_126 : decode cX1_init 126 = .ok (.aload_n 0, 1) := by decide +kernel
theorem dX1_init_127 : decode cX1_init 127 = .ok (.getfield 44, 3) := by decide +kernel
theorem dX1_init_130 : decode cX1_init 130 = .ok (.iastore, 1) := by decide +kernel
theorem dX1_init_131 : decode cX1_init 131 = .ok (.aload_n 0, 1) := by decide +kernel
theorem dX1_init_132 : decode cX1_init 132 = .ok (.dup, 1) := by decide +kernel
theorem dX1_init_133 : decode cX1_init 133 = .ok (.getfield 44, 3) := by decide +kernel
theorem dX1_init_136 : decode cX1_init 136 = .ok (.iconst 3, 1) := by decide +kernel
theorem dX1_init_137 : decode cX1_init 137 = .ok (.imul, 1) := by decide +kernel
theorem dX1_init_138 : decode cX1_init 138 = .ok (.putfield 44, 3) := by decide +kernel
theorem dX1_init_141 : decode cX1_init 141 = .ok (.iinc 2 1, 3) := by decide +kernel
theorem dX1_init_144 : decode cX1_init 144 = .ok (.goto (-31), 3) := by decide +kernel
theorem dX1_init_147 : decode cX1_init 147 = .ok (.iconst 0, 1) := by decide +kernel
theorem dX1_init_148 : decode cX1_init 148 = .ok (.istore_n 2, 1) := by decide +kernel
theorem dX1_init_149 : decode cX1_init 149 = .ok (.iload_n 2, 1) := by decide +kernel
theorem dX1_init_150 : decode cX1_init 150 = .ok (.aload_n 0, 1) := by decide +kernel
theorem dX1_init_151 : decode cX1_init 151 = .ok (.getfield 44, 3) := by decide +kernel
theorem dX1_init_154 : decode cX1_init 154 = .ok (.if_icmp .ge 14, 3) := by decide +kernel
theorem dX1_init_157 : decode cX1_init 157 = .ok (.aload_n 0, 1) := by decide +kernel
theorem dX1_init_158 : decode cX1_init 158 = .ok (.iload_n 2, 1) := by decide +kernel
theorem dX1_init_159 : decode cX1_init 159 = .ok (.invokevirtual 47, 3) := by decide +kernel
theorem dX1_init_162 : decode cX1_init 162 = .ok (.iinc 2 1, 3) := by decide +kernel
theorem dX1_init_165 : decode cX1_init 165 = .ok (.goto (-16), 3) := by decide +kernel
theorem dX1_init_168 : decode cX1_init 168 = .ok (.aload_n 0, 1) := by decide +kernel
theorem dX1_init_169 : decode cX1_init 169 = .ok (.iconst 1, 1) := by decide +kernel
theorem dX1_init_170 : decode cX1_init 170 = .ok (.putfield 51, 3) := by decide +kernel
theorem dX1_init_173 : decode cX1_init 173 = .ok (.return_, 1) := by decide +kernel
theorem dX1_spellOut_0 : decode cX1_spellOut 0 = .ok (.iload_n 1, 1) := by decide +kernel
theorem dX1_spellOut_1 : decode cX1_spellOut 1 = .ok (.istore_n 2, 1) := by decide +kernel
theorem dX1_spellOut_2 : decode cX1_spellOut 2 = .ok (.iconst 0, 1) := by decide +kernel
theorem dX1_spellOut_3 : decode cX1_spellOut 3 = .ok (.istore_n 3, 1) := by decide +kernel
theorem dX1_spellOut_4 : decode cX1_spellOut 4 = .ok (.iconst 0, 1) := by decide +kernel
theorem dX1_spellOut_5 : decode cX1_spellOut 5 = .ok (.istore 4, 2) := by decide +kernel
theorem dX1_spellOut_7 : decode cX1_spellOut 7 = .ok (.iconst 0, 1) := by decide +kernel
theorem dX1_spellOut_8 : decode cX1_spellOut 8 = .ok (.istore 5, 2) := by decide +kernel
theorem dX1_spellOut_10 : decode cX1_spellOut 10 = .ok (.iload 5, 2) := by decide +kernel
theorem dX1_spellOut_12 : decode cX1_spellOut 12 = .ok (.aload_n 0, 1) := by decide +kernel
theorem dX1_spellOut_13 : decode cX1_spellOut 13 = .ok (.getfield 37, 3) := by decide +kernel
theorem dX1_spellOut_16 : decode cX1_spellOut 16 = .ok (.if_icmp .ge 46, 3) := by decide +kernel
theorem dX1_spellOut_19 : decode cX1_spellOut 19 = .ok (.iload_n 2, 1) := by decide +kernel
theorem dX1_spellOut_20 : decode cX1_spellOut 20 = .ok (.iconst 3, 1) := by decide +kernel
theorem dX1_spellOut_21 : decode cX1_spellOut 21 = .ok (.irem, 1) := by decide +kernel
theorem dX1_spellOut_22 : decode cX1_spellOut 22 = .ok (.istore 6, 2) := by decide +kernel
theorem dX1_spellOut_24 : decode cX1_spellOut 24 = .ok (.iload 6, 2) := by decide +kernel
theorem dX1_spellOut_26 : decode cX1_spellOut 26 = .ok (.iconst 1, 1) := by decide +kernel
theorem dX1_spellOut_27 : decode cX1_spellOut 27 = .ok (.if_icmp .ne 10, 3) := by decide +kernel
theorem dX1_spellOut_30 : decode cX1_spellOut 30 = .ok (.iload_n 3, 1) := by decide +kernel
theorem dX1_spellOut_31 : decode cX1_spellOut 31 = .ok (.iconst 1, 1) := by decide +kernel
theorem dX1_spellOut_32 : decode cX1_spellOut 32 = .ok (.iload 5, 2) := by decide +kernel
theorem dX1_spellOut_34 : decode cX1_spellOut 34 = .ok (.ishl, 1) := by decide +kernel
theorem dX1_spellOut_35 : decode cX1_spellOut 35 = .ok (.ior, 1) := by decide +kernel
theorem dX1_spellOut_36 : decode cX1_spellOut 36 = .ok (.istore_n 3, 1) := by decide +kernel
theorem dX1_spellOut_37 : decode cX1_spellOut 37 = .ok (.iload 6, 2) := by decide +kernel
theorem dX1_spellOut_39 : decode cX1_spellOut 39 = .ok (.iconst 2, 1) := by decide +kernel
theorem dX1_spellOut_40 : decode cX1_spellOut 40 = .ok (.if_icmp .ne 12, 3) := by decide +kernel
theorem dX1_spellOut_43 : decode cX1_spellOut 43 = .ok (.iload 4, 2) := by decide +kernel
theorem dX1_spellOut_45 : decode cX1_spellOut 45 = .ok (.iconst 1, 1) := by decide +kernel
theorem dX1_spellOut_46 : decode cX1_spellOut 46 = .ok (.iload 5, 2) := by decide +kernel
theorem dX1_spellOut_48 : decode cX1_spellOut 48 = .ok (.ishl, 1) := by decide +kernel
theorem dX1_spellOut_49 : decode cX1_spellOut 49 = .ok (.ior, 1) := by decide +kernel
theorem dX1_spellOut_50 : decode cX1_spellOut 50 = .ok (.istore 4, 2) := by decide +kernel
theorem dX1_spellOut_52 : decode cX1_spellOut 52 = .ok (.iload_n 2, 1) := by decide +kernel
theorem dX1_spellOut_53 : decode cX1_spellOut 53 = .ok (.iconst 3, 1) := by decide +kernel
theorem dX1_spellOut_54 : decode cX1_spellOut 54 = .ok (.idiv, 1) := by decide +kernel
theorem dX1_spellOut_55 : decode cX1_spellOut 55 = .ok (.istore_n 2, 1) := by decide +kernel
theorem dX1_spellOut_56 : decode cX1_spellOut 56 = .ok (.iinc 5 1, 3) := by decide +kernel
theorem dX1_spellOut_59 : decode cX1_spellOut 59 = .ok (.goto (-49), 3) := by decide +kernel
theorem dX1_spellOut_62 : decode cX1_spellOut 62 = .ok (.aload_n 0, 1) := by decide +kernel
theorem dX1_spellOut_63 : decode cX1_spellOut 63 = .ok (.getfield 7, 3) := by decide +kernel
theorem dX1_spellOut_66 : decode cX1_spellOut 66 = .ok (.iload_n 1, 1) := by decide +kernel
theorem dX1_spellOut_67 : decode cX1_spellOut 67 = .ok (.iload_n 3, 1) := by decide +kernel
theorem dX1_spellOut_68 : decode cX1_spellOut 68 = .ok (.i2b, 1) := by decide +kernel
theorem dX1_spellOut_69 : decode cX1_spellOut 69 = .ok (.bastore, 1) := by decide +kernel
theorem dX1_spellOut_70 : decode cX1_spellOut 70 = .ok (.aload_n 0, 1) := by decide +kernel
theorem dX1_spellOut_71 : decode cX1_spellOut 71 = .ok (.getfield 13, 3) := by decide +kernel
theorem dX1_spellOut_74 : decode cX1_spellOut 74 = .ok (.iload_n 1, 1) := by decide +kernel
theorem dX1_spellOut_75 : decode cX1_spellOut 75 = .ok (.iload 4, 2) := by decide +kernel
theorem dX1_spellOut_77 : decode cX1_spellOut 77 = .ok (.i2b, 1) := by decide +kernel
theorem dX1_spellOut_78 : decode cX1_spellOut 78 = .ok (.bastore, 1) := by decide +kernel
theorem dX1_spellOut_79 : decode cX1_spellOut 79 = .ok (.return_, 1) := by decide +kernel
theorem dX1_add_0 : decode cX1_add 0 = .ok (.aload_n 0, 1) := by decide +kernel
theorem dX1_add_1 : decode cX1_add 1 = .ok (.iload_n 1, 1) := by decide +kernel
theorem dX1_add_2 : decode cX1_add 2 = .ok (.invokevirtual 55, 3) := by decide +kernel
theorem dX1_add_5 : decode cX1_add 5 = .ok (.ifCond .ne 5, 3) := by decide +kernel
theorem dX1_add_8 : decode cX1_add 8 = .ok (.iconst (-1), 1) := by decide +kernel
theorem dX1_add_9 : decode cX1_add 9 = .ok (.ireturn, 1) := by decide +kernel
theorem dX1_add_10 : decode cX1_add 10 = .ok (.aload_n 0, 1) := by decide +kernel
theorem dX1_add_11 : decode cX1_add 11 = .ok (.iload_n 1, 1) := by decide +kernel
theorem dX1_add_12 : decode cX1_add 12 = .ok (.invokevirtual 59, 3) := by decide +kernel
theorem dX1_add_15 : decode cX1_add 15 = .ok (.ifCond .lt 5, 3) := by decide +kernel
theorem dX1_add_18 : decode cX1_add 18 = .ok (.iconst 0, 1) := by decide +kernel
theorem dX1_add_19 : decode cX1_add 19 = .ok (.ireturn, 1) := by decide +kernel
theorem dX1_add_20 : decode cX1_add 20 = .ok (.aload_n 0, 1) := by decide +kernel
theorem dX1_add_21 : decode cX1_add 21 = .ok (.getfield 63, 3) := by decide +kernel
theorem dX1_add_24 : decode cX1_add 24 = .ok (.bipush 12, 2) := by decide +kernel
theorem dX1_add_26 : decode cX1_add 26 = .ok (.if_icmp .lt 6, 3) := by decide +kernel
theorem dX1_add_29 : decode cX1_add 29 = .ok (.bipush (-3), 2) := by decide +kernel
theorem dX1_add_31 : decode cX1_add 31 = .ok (.ireturn, 1) := by decide +kernel
theorem dX1_add_32 : decode cX1_add 32 = .ok (.aload_n 0, 1) := by decide +kernel
theorem dX1_add_33 : decode cX1_add 33 = .ok (.getfield 20, 3) := by decide +kernel
theorem dX1_add_36 : decode cX1_add 36 = .ok (.aload_n 0, 1) := by decide +kernel
theorem dX1_add_37 : decode cX1_add 37 = .ok (.getfield 63, 3) := by decide +kernel
theorem dX1_add_40 : decode cX1_add 40 = .ok (.iload_n 1, 1) := by decide +kernel
theorem dX1_add_41 : decode cX1_add 41 = .ok (.i2s, 1) := by decide +kernel
theorem dX1_add_42 : decode cX1_add 42 = .ok (.sastore, 1) := by decide +kernel
theorem dX1_add_43 : decode cX1_add 43 = .ok (.aload_n 0, 1) := by decide +kernel
theorem dX1_add_44 : decode cX1_add 44 = .ok (.dup, 1) := by decide +kernel
theorem dX1_add_45 : decode cX1_add 45 = .ok (.getfield 63, 3) := by decide +kernel
theorem dX1_add_48 : decode cX1_add 48 = .ok (.iconst 1, 1) := by decide +kernel
theorem dX1_add_49 : decode cX1_add 49 = .ok (.iadd, 1) := by decide +kernel
theorem dX1_add_50 : decode cX1_add 50 = .ok (.putfield 63, 3) := by decide +kernel
theorem dX1_add_53 : decode cX1_add 53 = .ok (.aload_n 0, 1) := by decide +kernel
theorem dX1_add_54 : decode cX1_add 54 = .ok (.getfield 51, 3) := by decide +kernel
theorem dX1_add_57 : decode cX1_add 57 = .ok (.ifCond .eq 8, 3) := by decide +kernel
theorem dX1_add_60 : decode cX1_add 60 = .ok (.aload_n 0, 1) := by decide +kernel
theorem dX1_add_61 : decode cX1_add 61 = .ok (.iload_n 1, 1) := by decide +kernel
theorem dX1_add_62 : decode cX1_add 62 = .ok (.invokevirtual 66, 3) := by decide +kernel
theorem dX1_add_65 : decode cX1_add 65 = .ok (.iconst 1, 1) := by decide +kernel
theorem dX1_add_66 : decode cX1_add 66 = .ok (.ireturn, 1) := by decide +kernel
theorem dX1_isClause_0 : decode cX1_isClause 0 = .ok (.iload_n 1, 1) := by decide +kernel
theorem dX1_isClause_1 : decode cX1_isClause 1 = .ok (.ifCond .lt 15, 3) := by decide +kernel
theorem dX1_isClause_4 : decode cX1_isClause 4 = .ok (.iload_n 1, 1) := by decide +kernel
theorem dX1_isClause_5 : decode cX1_isClause 5 = .ok (.aload_n 0, 1) := by decide +kernel
theorem dX1_isClause_6 : decode cX1_isClause 6 = .ok (.getfield 44, 3) := by decide +kernel
theorem dX1_isClause_9 : decode cX1_isClause 9 = .ok (.if_icmp .ge 7, 3) := by decide +kernel
theorem dX1_isClause_12 : decode cX1_isClause 12 = .ok (.iconst 1, 1) := by decide +kernel
theorem dX1_isClause_13 : decode cX1_isClause 13 = .ok (.goto 4, 3) := by decide +kernel
theorem dX1_isClause_16 : decode cX1_isClause 16 = .ok (.iconst 0, 1) := by decide +kernel
theorem dX1_isClause_17 : decode cX1_isClause 17 = .ok (.ireturn, 1) := by decide +kernel
theorem dX1_placeOf_0 : decode cX1_placeOf 0 = .ok (.iconst 0, 1) := by decide +kernel
theorem dX1_placeOf_1 : decode cX1_placeOf 1 = .ok (.istore_n 2, 1) := by decide +kernel
theorem dX1_placeOf_2 : decode cX1_placeOf 2 = .ok (.iload_n 2, 1) := by decide +kernel
theorem dX1_placeOf_3 : decode cX1_placeOf 3 = .ok (.aload_n 0, 1) := by decide +kernel
theorem dX1_placeOf_4 : decode cX1_placeOf 4 = .ok (.getfield 63, 3) := by decide +kernel
theorem dX1_placeOf_7 : decode cX1_placeOf 7 = .ok (.if_icmp .ge 21, 3) := by decide +kernel
theorem dX1_placeOf_10 : decode cX1_placeOf 10 = .ok (.aload_n 0, 1) := by decide +kernel
theorem dX1_placeOf_11 : decode cX1_placeOf 11 = .ok (.getfield 20, 3) := by decide +kernel
theorem dX1_placeOf_14 : decode cX1_placeOf 14 = .ok (.iload_n 2, 1) := by decide +kernel
theorem dX1_placeOf_15 : decode cX1_placeOf 15 = .ok (.saload, 1) := by decide +kernel
theorem dX1_placeOf_16 : decode cX1_placeOf 16 = .ok (.iload_n 1, 1) := by decide +kernel
theorem dX1_placeOf_17 : decode cX1_placeOf 17 = .ok (.if_icmp .ne 5, 3) := by decide +kernel
theorem dX1_placeOf_20 : decode cX1_placeOf 20 = .ok (.iload_n 2, 1) := by decide +kernel
theorem dX1_placeOf_21 : decode cX1_placeOf 21 = .ok (.ireturn, 1) := by decide +kernel
theorem dX1_placeOf_22 : decode cX1_placeOf 22 = .ok (.iinc 2 1, 3) := by decide +kernel
theorem dX1_placeOf_25 : decode cX1_placeOf 25 = .ok (.goto (-23), 3) := by decide +kernel
theorem dX1_placeOf_28 : decode cX1_placeOf 28 = .ok (.iconst (-1), 1) := by decide +kernel
theorem dX1_placeOf_29 : decode cX1_placeOf 29 = .ok (.ireturn, 1) := by decide +kernel
theorem dX1_takeIn_0 : decode cX1_takeIn 0 = .ok (.aload_n 0, 1) := by decide +kernel
theorem dX1_takeIn_1 : decode cX1_takeIn 1 = .ok (.iconst 0, 1) := by decide +kernel
theorem dX1_takeIn_2 : decode cX1_takeIn 2 = .ok (.putfield 85, 3) := by decide +kernel
theorem dX1_takeIn_5 : decode cX1_takeIn 5 = .ok (.aload_n 0, 1) := by decide +kernel
theorem dX1_takeIn_6 : decode cX1_takeIn 6 = .ok (.iload_n 1, 1) := by decide +kernel
theorem dX1_takeIn_7 : decode cX1_takeIn 7 = .ok (.invokevirtual 88, 3) := by decide +kernel
theorem dX1_takeIn_10 : decode cX1_takeIn 10 = .ok (.iconst 0, 1) := by decide +kernel
theorem dX1_takeIn_11 : decode cX1_takeIn 11 = .ok (.istore_n 2, 1) := by decide +kernel
theorem dX1_takeIn_12 : decode cX1_takeIn 12 = .ok (.iload_n 2, 1) := by decide +kernel
theorem dX1_takeIn_13 : decode cX1_takeIn 13 = .ok (.sipush 243, 3) := by decide +kernel
theorem dX1_takeIn_16 : decode cX1_takeIn 16 = .ok (.if_icmp .ge 66, 3) := by decide +kernel
theorem dX1_takeIn_19 : decode cX1_takeIn 19 = .ok (.aload_n 0, 1) := by decide +kernel
theorem dX1_takeIn_20 : decode cX1_takeIn 20 = .ok (.getfield 85, 3) := by decide +kernel
theorem dX1_takeIn_23 : decode cX1_takeIn 23 = .ok (.ifCond .le 59, 3) := by decide +kernel
theorem dX1_takeIn_26 : decode cX1_takeIn 26 = .ok (.aload_n 0, 1) := by decide +kernel
theorem dX1_takeIn_27 : decode cX1_takeIn 27 = .ok (.invokevirtual 91, 3) := by decide +kernel
theorem dX1_takeIn_30 : decode cX1_takeIn 30 = .ok (.istore_n 3, 1) := by decide +kernel
theorem dX1_takeIn_31 : decode cX1_takeIn 31 = .ok (.aload_n 0, 1) := by decide +kernel
theorem dX1_takeIn_32 : decode cX1_takeIn 32 = .ok (.getfield 28, 3) := by decide +kernel
theorem dX1_takeIn_35 : decode cX1_takeIn 35 = .ok (.iload_n 3, 1) := by decide +kernel
theorem dX1_takeIn_36 : decode cX1_takeIn 36 = .ok (.iconst 0, 1) := by decide +kernel
theorem dX1_takeIn_37 : decode cX1_takeIn 37 = .ok (.bastore, 1) := by decide +kernel
theorem dX1_takeIn_38 : decode cX1_takeIn 38 = .ok (.aload_n 0, 1) := by decide +kernel
theorem dX1_takeIn_39 : decode cX1_takeIn 39 = .ok (.dup, 1) := by decide +kernel
theorem dX1_takeIn_40 : decode cX1_takeIn 40 = .ok (.getfield 85, 3) := by decide +kernel
theorem dX1_takeIn_43 : decode cX1_takeIn 43 = .ok (.iconst 1, 1) := by decide +kernel
theorem dX1_takeIn_44 : decode cX1_takeIn 44 = .ok (.isub, 1) := by decide +kernel
theorem dX1_takeIn_45 : decode cX1_takeIn 45 = .ok (.putfield 85, 3) := by decide +kernel
theorem dX1_takeIn_48 : decode cX1_takeIn 48 = .ok (.aload_n 0, 1) := by decide +kernel
theorem dX1_takeIn_49 : decode cX1_takeIn 49 = .ok (.iload_n 3, 1) := by decide +kernel
theorem dX1_takeIn_50 : decode cX1_takeIn 50 = .ok (.invokevirtual 72, 3) := by decide +kernel
theorem dX1_takeIn_53 : decode cX1_takeIn 53 = .ok (.ifCond .lt 6, 3) := by decide +kernel
theorem dX1_takeIn_56 : decode cX1_takeIn 56 = .ok (.goto 20, 3) := by decide +kernel
theorem dX1_takeIn_59 : decode cX1_takeIn 59 = .ok (.aload_n 0, 1) := by decide +kernel
theorem dX1_takeIn_60 : decode cX1_takeIn 60 = .ok (.iload_n 3, 1) := by decide +kernel
theorem dX1_takeIn_61 : decode cX1_takeIn 61 = .ok (.invokevirtual 95, 3) := by decide +kernel
theorem dX1_takeIn_64 : decode cX1_takeIn 64 = .ok (.aload_n 0, 1) := by decide +kernel
theorem dX1_takeIn_65 : decode cX1_takeIn 65 = .ok (.getfield 24, 3) := by decide +kernel
theorem dX1_takeIn_68 : decode cX1_takeIn 68 = .ok (.iload_n 3, 1) := by decide +kernel
theorem dX1_takeIn_69 : decode cX1_takeIn 69 = .ok (.iconst 1, 1) := by decide +kernel
theorem dX1_takeIn_70 : decode cX1_takeIn 70 = .ok (.bastore, 1) := by decide +kernel
theorem dX1_takeIn_71 : decode cX1_takeIn 71 = .ok (.aload_n 0, 1) := by decide +kernel
theorem dX1_takeIn_72 : decode cX1_takeIn 72 = .ok (.iload_n 3, 1) := by decide +kernel
theorem dX1_takeIn_73 : decode cX1_takeIn 73 = .ok (.invokevirtual 98, 3) := by decide +kernel
theorem dX1_takeIn_76 : decode cX1_takeIn 76 = .ok (.iinc 2 1, 3) := by decide +kernel
theorem dX1_takeIn_79 : decode cX1_takeIn 79 = .ok (.goto (-67), 3) := by decide +kernel
theorem dX1_takeIn_82 : decode cX1_takeIn 82 = .ok (.return_, 1) := by decide +kernel
theorem dX1_enqueue_0 : decode cX1_enqueue 0 = .ok (.aload_n 0, 1) := by decide +kernel
theorem dX1_enqueue_1 : decode cX1_enqueue 1 = .ok (.getfield 28, 3) := by decide +kernel
theorem dX1_enqueue_4 : decode cX1_enqueue 4 = .ok (.iload_n 1, 1) := by decide +kernel
theorem dX1_enqueue_5 : decode cX1_enqueue 5 = .ok (.baload, 1) := by decide +kernel
theorem dX1_enqueue_6 : decode cX1_enqueue 6 = .ok (.ifCond .ne 11, 3) := by decide +kernel
theorem dX1_enqueue_9 : decode cX1_enqueue 9 = .ok (.aload_n 0, 1) := by decide +kernel
theorem dX1_enqueue_10 : decode cX1_enqueue 10 = .ok (.iload_n 1, 1) := by decide +kernel
theorem dX1_enqueue_11 : decode cX1_enqueue 11 = .ok (.invokevirtual 72, 3) := by decide +kernel
theorem dX1_enqueue_14 : decode cX1_enqueue 14 = .ok (.ifCond .lt 4, 3) := by decide +kernel
theorem dX1_enqueue_17 : decode cX1_enqueue 17 = .ok (.return_, 1) := by decide +kernel
theorem dX1_enqueue_18 : decode cX1_enqueue 18 = .ok (.aload_n 0, 1) := by decide +kernel
theorem dX1_enqueue_19 : decode cX1_enqueue 19 = .ok (.getfield 28, 3) := by decide +kernel
theorem dX1_enqueue_22 : decode cX1_enqueue 22 = .ok (.iload_n 1, 1) := by decide +kernel
theorem dX1_enqueue_23 : decode cX1_enqueue 23 = .ok (.iconst 1, 1) := by decide +kernel
theorem dX1_enqueue_24 : decode cX1_enqueue 24 = .ok (.bastore, 1) := by decide +kernel
theorem dX1_enqueue_25 : decode cX1_enqueue 25 = .ok (.aload_n 0, 1) := by decide +kernel
theorem dX1_enqueue_26 : decode cX1_enqueue 26 = .ok (.dup, 1) := by decide +kernel
theorem dX1_enqueue_27 : decode cX1_enqueue 27 = .ok (.getfield 85, 3) := by decide +kernel
theorem dX1_enqueue_30 : decode cX1_enqueue 30 = .ok (.iconst 1, 1) := by decide +kernel
theorem dX1_enqueue_31 : decode cX1_enqueue 31 = .ok (.iadd, 1) := by decide +kernel
theorem dX1_enqueue_32 : decode cX1_enqueue 32 = .ok (.putfield 85, 3) := by decide +kernel
theorem dX1_enqueue_35 : decode cX1_enqueue 35 = .ok (.return_, 1) := by decide +kernel
theorem dX1_lowestKeptWithin_0 : decode cX1_lowestKeptWithin 0 = .ok (.iconst 0, 1) := by decide +kernel
theorem dX1_lowestKeptWithin_1 : decode cX1_lowestKeptWithin 1 = .ok (.istore_n 2, 1) := by decide +kernel
theorem dX1_lowestKeptWithin_2 : decode cX1_lowestKeptWithin 2 = .ok (.iload_n 2, 1) := by decide +kernel
theorem dX1_lowestKeptWithin_3 : decode cX1_lowestKeptWithin 3 = .ok (.iload_n 1, 1) := by decide +kernel
theorem dX1_lowestKeptWithin_4 : decode cX1_lowestKeptWithin 4 = .ok (.if_icmp .gt 29, 3) := by decide +kernel
theorem dX1_lowestKeptWithin_7 : decode cX1_lowestKeptWithin 7 = .ok (.aload_n 0, 1) := by decide +kernel
theorem dX1_lowestKeptWithin_8 : decode cX1_lowestKeptWithin 8 = .ok (.getfield 24, 3) := by decide +kernel
theorem dX1_lowestKeptWithin_11 : decode cX1_lowestKeptWithin 11 = .ok (.iload_n 2, 1) := by decide +kernel
theorem dX1_lowestKeptWithin_12 : decode cX1_lowestKeptWithin 12 = .ok (.baload, 1) := by decide +kernel
theorem dX1_lowestKeptWithin_13 : decode cX1_lowestKeptWithin 13 = .ok (.ifCond .eq 14, 3) := by decide +kernel
theorem dX1_lowestKeptWithin_16 : decode cX1_lowestKeptWithin 16 = .ok (.aload_n 0, 1) := by decide +kernel
theorem dX1_lowestKeptWithin_17 : decode cX1_lowestKeptWithin 17 = .ok (.iload_n 2, 1) := by decide +kernel
theorem dX1_lowestKeptWithin_18 : decode cX1_lowestKeptWithin 18 = .ok (.iload_n 1, 1) := by decide +kernel
theorem dX1_lowestKeptWithin_19 : decode cX1_lowestKeptWithin 19 = .ok (.invokevirtual 82, 3) := by decide +kernel
theorem dX1_lowestKeptWithin_22 : decode cX1_lowestKeptWithin 22 = .ok (.ifCond .eq 5, 3) := by decide +kernel
theorem dX1_lowestKeptWithin_25 : decode cX1_lowestKeptWithin 25 = .ok (.iload_n 2, 1) := by decide +kernel
theorem dX1_lowestKeptWithin_26 : decode cX1_lowestKeptWithin 26 = .ok (.ireturn, 1) := by decide +kernel
theorem dX1_lowestKeptWithin_27 : decode cX1_lowestKeptWithin 27 = .ok (.iinc 2 1, 3) := by decide +kernel
theorem dX1_lowestKeptWithin_30 : decode cX1_lowestKeptWithin 30 = .ok (.goto (-28), 3) := by decide +kernel
theorem dX1_lowestKeptWithin_33 : decode cX1_lowestKeptWithin 33 = .ok (.bipush (-2), 2) := by decide +kernel
theorem dX1_lowestKeptWithin_35 : decode cX1_lowestKeptWithin 35 = .ok (.ireturn, 1) := by decide +kernel
theorem dX1_within_0 : decode cX1_within 0 = .ok (.aload_n 0, 1) := by decide +kernel
theorem dX1_within_1 : decode cX1_within 1 = .ok (.getfield 7, 3) := by decide +kernel
theorem dX1_within_4 : decode cX1_within 4 = .ok (.iload_n 1, 1) := by decide +kernel
theorem dX1_within_5 : decode cX1_within 5 = .ok (.baload, 1) := by decide +kernel
theorem dX1_within_6 : decode cX1_within 6 = .ok (.aload_n 0, 1) := by decide +kernel
theorem dX1_within_7 : decode cX1_within 7 = .ok (.getfield 7, 3) := by decide +kernel
theorem dX1_within_10 : decode cX1_within 10 = .ok (.iload_n 2, 1) := by decide +kernel
theorem dX1_within_11 : decode cX1_within 11 = .ok (.baload, 1) := by decide +kernel
theorem dX1_within_12 : decode cX1_within 12 = .ok (.iconst (-1), 1) := by decide +kernel
theorem dX1_within_13 : decode cX1_within 13 = .ok (.ixor, 1) := by decide +kernel
theorem dX1_within_14 : decode cX1_within 14 = .ok (.iand, 1) := by decide +kernel
theorem dX1_within_15 : decode cX1_within 15 = .ok (.ifCond .ne 25, 3) := by decide +kernel
theorem dX1_within_18 : decode cX1_within 18 = .ok (.aload_n 0, 1) := by decide +kernel
theorem dX1_within_19 : decode cX1_within 19 = .ok (.getfield 13, 3) := by decide +kernel
theorem dX1_within_22 : decode cX1_within 22 = .ok (.iload_n 1, 1) := by decide +kernel
theorem dX1_within_23 : decode cX1_within 23 = .ok (.baload, 1) := by decide +kernel
theorem dX1_within_24 : decode cX1_within 24 = .ok (.aload_n 0, 1) := by decide +kernel
theorem dX1_within_25 : decode cX1_within 25 = .ok (.getfield 13, 3) := by decide +kernel
theorem dX1_within_28 : decode cX1_within 28 = .ok (.iload_n 2, 1) := by decide +kernel
theorem dX1_within_29 : decode cX1_within 29 = .ok (.baload, 1) := by decide +kernel
theorem dX1_within_30 : decode cX1_within 30 = .ok (.iconst (-1), 1) := by decide +kernel
theorem dX1_within_31 : decode cX1_within 31 = .ok (.ixor, 1) := by decide +kernel
theorem dX1_within_32 : decode cX1_within 32 = .ok (.iand, 1) := by decide +kernel
theorem dX1_within_33 : decode cX1_within 33 = .ok (.ifCond .ne 7, 3) := by decide +kernel
theorem dX1_within_36 : decode cX1_within 36 = .ok (.iconst 1, 1) := by decide +kernel
theorem dX1_within_37 : decode cX1_within 37 = .ok (.goto 4, 3) := by decide +kernel
theorem dX1_within_40 : decode cX1_within 40 = .ok (.iconst 0, 1) := by decide +kernel
theorem dX1_within_41 : decode cX1_within 41 = .ok (.ireturn, 1) := by decide +kernel
theorem dX1_nextWaiting_0 : decode cX1_nextWaiting 0 = .ok (.iconst (-1), 1) := by decide +kernel
theorem dX1_nextWaiting_1 : decode cX1_nextWaiting 1 = .ok (.istore_n 1, 1) := by decide +kernel
theorem dX1_nextWaiting_2 : decode cX1_nextWaiting 2 = .ok (.bipush 6, 2) := by decide +kernel
theorem dX1_nextWaiting_4 : decode cX1_nextWaiting 4 = .ok (.istore_n 2, 1) := by decide +kernel
theorem dX1_nextWaiting_5 : decode cX1_nextWaiting 5 = .ok (.iconst 0, 1) := by decide +kernel
theorem dX1_nextWaiting_6 : decode cX1_nextWaiting 6 = .ok (.istore_n 3, 1) := by decide +kernel
theorem dX1_nextWaiting_7 : decode cX1_nextWaiting 7 = .ok (.iload_n 3, 1) := by decide +kernel
theorem dX1_nextWaiting_8 : decode cX1_nextWaiting 8 = .ok (.aload_n 0, 1) := by decide +kernel
theorem dX1_nextWaiting_9 : decode cX1_nextWaiting 9 = .ok (.getfield 44, 3) := by decide +kernel
theorem dX1_nextWaiting_12 : decode cX1_nextWaiting 12 = .ok (.if_icmp .ge 51, 3) := by decide +kernel
theorem dX1_nextWaiting_15 : decode cX1_nextWaiting 15 = .ok (.aload_n 0, 1) := by decide +kernel
theorem dX1_nextWaiting_16 : decode cX1_nextWaiting 16 = .ok (.getfield 28, 3) := by decide +kernel
theorem dX1_nextWaiting_19 : decode cX1_nextWaiting 19 = .ok (.iload_n 3, 1) := by decide +kernel
theorem dX1_nextWaiting_20 : decode cX1_nextWaiting 20 = .ok (.baload, 1) := by decide +kernel
theorem dX1_nextWaiting_21 : decode cX1_nextWaiting 21 = .ok (.ifCond .ne 6, 3) := by decide +kernel
theorem dX1_nextWaiting_24 : decode cX1_nextWaiting 24 = .ok (.goto 33, 3) := by decide +kernel
theorem dX1_nextWaiting_27 : decode cX1_nextWaiting 27 = .ok (.aload_n 0, 1) := by decide +kernel
theorem dX1_nextWaiting_28 : decode cX1_nextWaiting 28 = .ok (.aload_n 0, 1) := by decide +kernel
theorem dX1_nextWaiting_29 : decode cX1_nextWaiting 29 = .ok (.getfield 7, 3) := by decide +kernel
theorem dX1_nextWaiting_32 : decode cX1_nextWaiting 32 = .ok (.iload_n 3, 1) := by decide +kernel
theorem dX1_nextWaiting_33 : decode cX1_nextWaiting 33 = .ok (.baload, 1) := by decide +kernel
theorem dX1_nextWaiting_34 : decode cX1_nextWaiting 34 = .ok (.aload_n 0, 1) := by decide +kernel
theorem dX1_nextWaiting_35 : decode cX1_nextWaiting 35 = .ok (.getfield 13, 3) := by decide +kernel
theorem dX1_nextWaiting_38 : decode cX1_nextWaiting 38 = .ok (.iload_n 3, 1) := by decide +kernel
theorem dX1_nextWaiting_39 : decode cX1_nextWaiting 39 = .ok (.baload, 1) := by decide +kernel
theorem dX1_nextWaiting_40 : decode cX1_nextWaiting 40 = .ok (.ior, 1) := by decide +kernel
theorem dX1_nextWaiting_41 : decode cX1_nextWaiting 41 = .ok (.invokevirtual 101, 3) := by decide +kernel
theorem dX1_nextWaiting_44 : decode cX1_nextWaiting 44 = .ok (.istore 4, 2) := by decide +kernel
theorem dX1_nextWaiting_46 : decode cX1_nextWaiting 46 = .ok (.iload 4, 2) := by decide +kernel
theorem dX1_nextWaiting_48 : decode cX1_nextWaiting 48 = .ok (.iload_n 2, 1) := by decide +kernel
theorem dX1_nextWaiting_49 : decode cX1_nextWaiting 49 = .ok (.if_icmp .ge 8, 3) := by decide +kernel
theorem dX1_nextWaiting_52 : decode cX1_nextWaiting 52 = .ok (.iload 4, 2) := by decide +kernel
theorem dX1_nextWaiting_54 : decode cX1_nextWaiting 54 = .ok (.istore_n 2, 1) := by decide +kernel
theorem dX1_nextWaiting_55 : decode cX1_nextWaiting 55 = .ok (.iload_n 3, 1) := by decide +kernel
theorem dX1_nextWaiting_56 : decode cX1_nextWaiting 56 = .ok (.istore_n 1, 1) := by decide +kernel
theorem dX1_nextWaiting_57 : decode cX1_nextWaiting 57 = .ok (.iinc 3 1, 3) := by decide +kernel
theorem dX1_nextWaiting_60 : decode cX1_nextWaiting 60 = .ok (.goto (-53), 3) := by decide +kernel
theorem dX1_nextWaiting_63 : decode cX1_nextWaiting 63 = .ok (.iload_n 1, 1) := by decide +kernel
theorem dX1_nextWaiting_64 : decode cX1_nextWaiting 64 = .ok (.ireturn, 1) := by decide +kernel
theorem dX1_bitsIn_0 : decode cX1_bitsIn 0 = .ok (.iconst 0, 1) := by decide +kernel
theorem dX1_bitsIn_1 : decode cX1_bitsIn 1 = .ok (.istore_n 2, 1) := by decide +kernel
theorem dX1_bitsIn_2 : decode cX1_bitsIn 2 = .ok (.iconst 0, 1) := by decide +kernel
theorem dX1_bitsIn_3 : decode cX1_bitsIn 3 = .ok (.istore_n 3, 1) := by decide +kernel
theorem dX1_bitsIn_4 : decode cX1_bitsIn 4 = .ok (.iload_n 3, 1) := by decide +kernel
theorem dX1_bitsIn_5 : decode cX1_bitsIn 5 = .ok (.iconst 5, 1) := by decide +kernel
theorem dX1_bitsIn_6 : decode cX1_bitsIn 6 = .ok (.if_icmp .ge 17, 3) := by decide +kernel
theorem dX1_bitsIn_9 : decode cX1_bitsIn 9 = .ok (.iload_n 2, 1) := by decide +kernel
theorem dX1_bitsIn_10 : decode cX1_bitsIn 10 = .ok (.iload_n 1, 1) := by decide +kernel
theorem dX1_bitsIn_11 : decode cX1_bitsIn 11 = .ok (.iload_n 3, 1) := by decide +kernel
theorem dX1_bitsIn_12 : decode cX1_bitsIn 12 = .ok (.ishr, 1) := by decide +kernel
theorem dX1_bitsIn_13 : decode cX1_bitsIn 13 = .ok (.iconst 1, 1) := by decide +kernel
theorem dX1_bitsIn_14 : decode cX1_bitsIn 14 = .ok (.iand, 1) := by decide +kernel
theorem dX1_bitsIn_15 : decode cX1_bitsIn 15 = .ok (.iadd, 1) := by decide +kernel
theorem dX1_bitsIn_16 : decode cX1_bitsIn 16 = .ok (.istore_n 2, 1) := by decide +kernel
theorem dX1_bitsIn_17 : decode cX1_bitsIn 17 = .ok (.iinc 3 1, 3) := by decide +kernel
theorem dX1_bitsIn_20 : decode cX1_bitsIn 20 = .ok (.goto (-16), 3) := by decide +kernel
theorem dX1_bitsIn_23 : decode cX1_bitsIn 23 = .ok (.iload_n 2, 1) := by decide +kernel
theorem dX1_bitsIn_24 : decode cX1_bitsIn 24 = .ok (.ireturn, 1) := by decide +kernel
theorem dX1_dropWider_0 : decode cX1_dropWider 0 = .ok (.iload_n 1, 1) := by decide +kernel
theorem dX1_dropWider_1 : decode cX1_dropWider 1 = .ok (.iconst 1, 1) := by decide +kernel
theorem dX1_dropWider_2 : decode cX1_dropWider 2 = .ok (.iadd, 1) := by decide +kernel
theorem dX1_dropWider_3 : decode cX1_dropWider 3 = .ok (.istore_n 2, 1) := by decide +kernel
theorem dX1_dropWider_4 : decode cX1_dropWider 4 = .ok (.iload_n 2, 1) := by decide +kernel
theorem dX1_dropWider_5 : decode cX1_dropWider 5 = .ok (.aload_n 0, 1) := by decide +kernel
theorem dX1_dropWider_6 : decode cX1_dropWider 6 = .ok (.getfield 44, 3) := by decide +kernel
theorem dX1_dropWider_9 : decode cX1_dropWider 9 = .ok (.if_icmp .ge 34, 3) := by decide +kernel
theorem dX1_dropWider_12 : decode cX1_dropWider 12 = .ok (.aload_n 0, 1) := by decide +kernel
theorem dX1_dropWider_13 : decode cX1_dropWider 13 = .ok (.getfield 24, 3) := by decide +kernel
theorem dX1_dropWider_16 : decode cX1_dropWider 16 = .ok (.iload_n 2, 1) := by decide +kernel
theorem dX1_dropWider_17 : decode cX1_dropWider 17 = .ok (.baload, 1) := by decide +kernel
theorem dX1_dropWider_18 : decode cX1_dropWider 18 = .ok (.ifCond .eq 19, 3) := by decide +kernel
theorem dX1_dropWider_21 : decode cX1_dropWider 21 = .ok (.aload_n 0, 1) := by decide +kernel
theorem dX1_dropWider_22 : decode cX1_dropWider 22 = .ok (.iload_n 1, 1) := by decide +kernel
theorem dX1_dropWider_23 : decode cX1_dropWider 23 = .ok (.iload_n 2, 1) := by decide +kernel
theorem dX1_dropWider_24 : decode cX1_dropWider 24 = .ok (.invokevirtual 82, 3) := by decide +kernel
theorem dX1_dropWider_27 : decode cX1_dropWider 27 = .ok (.ifCond .eq 10, 3) := by decide +kernel
theorem dX1_dropWider_30 : decode cX1_dropWider 30 = .ok (.aload_n 0, 1) := by decide +kernel
theorem dX1_dropWider_31 : decode cX1_dropWider 31 = .ok (.getfield 24, 3) := by decide +kernel
theorem dX1_dropWider_34 : decode cX1_dropWider 34 = .ok (.iload_n 2, 1) := by decide +kernel
theorem dX1_dropWider_35 : decode cX1_dropWider 35 = .ok (.iconst 0, 1) := by decide +kernel
theorem dX1_dropWider_36 : decode cX1_dropWider 36 = .ok (.bastore, 1) := by decide +kernel
theorem dX1_dropWider_37 : decode cX1_dropWider 37 = .ok (.iinc 2 1, 3) := by decide +kernel
theorem dX1_dropWider_40 : decode cX1_dropWider 40 = .ok (.goto (-36), 3) := by decide +kernel
theorem dX1_dropWider_43 : decode cX1_dropWider 43 = .ok (.return_, 1) := by decide +kernel
theorem dX1_resolveWithKept_0 : decode cX1_resolveWithKept 0 = .ok (.iconst 0, 1) := by decide +kernel
theorem dX1_resolveWithKept_1 : decode cX1_resolveWithKept 1 = .ok (.istore_n 2, 1) := by decide +kernel
theorem dX1_resolveWithKept_2 : decode cX1_resolveWithKept 2 = .ok (.iload_n 2, 1) := by decide +kernel
theorem dX1_resolveWithKept_3 : decode cX1_resolveWithKept 3 = .ok (.aload_n 0, 1) := by decide +kernel
theorem dX1_resolveWithKept_4 : decode cX1_resolveWithKept 4 = .ok (.getfield 44, 3) := by decide +kernel
theorem dX1_resolveWithKept_7 : decode cX1_resolveWithKept 7 = .ok (.if_icmp .ge 118, 3) := by decide +kernel
theorem dX1_resolveWithKept_10 : decode cX1_resolveWithKept 10 = .ok (.aload_n 0, 1) := by decide +kernel
theorem dX1_resolveWithKept_11 : decode cX1_resolveWithKept 11 = .ok (.getfield 24, 3) := by decide +kernel
theorem dX1_resolveWithKept_14 : decode cX1_resolveWithKept 14 = .ok (.iload_n 2, 1) := by decide +kernel
theorem dX1_resolveWithKept_15 : decode cX1_resolveWithKept 15 = .ok (.baload, 1) := by decide +kernel
theorem dX1_resolveWithKept_16 : decode cX1_resolveWithKept 16 = .ok (.ifCond .ne 6, 3) := by decide +kernel
theorem dX1_resolveWithKept_19 : decode cX1_resolveWithKept 19 = .ok (.goto 100, 3) := by decide +kernel
theorem dX1_resolveWithKept_22 : decode cX1_resolveWithKept 22 = .ok (.aload_n 0, 1) := by decide +kernel
theorem dX1_resolveWithKept_23 : decode cX1_resolveWithKept 23 = .ok (.getfield 7, 3) := by decide +kernel
theorem dX1_resolveWithKept_26 : decode cX1_resolveWithKept 26 = .ok (.iload_n 1, 1) := by decide +kernel
theorem dX1_resolveWithKept_27 : decode cX1_resolveWithKept 27 = .ok (.baload, 1) := by decide +kernel
theorem dX1_resolveWithKept_28 : decode cX1_resolveWithKept 28 = .ok (.aload_n 0, 1) := by decide +kernel
theorem dX1_resolveWithKept_29 : decode cX1_resolveWithKept 29 = .ok (.getfield 13, 3) := by decide +kernel
theorem dX1_resolveWithKept_32 : decode cX1_resolveWithKept 32 = .ok (.iload_n 2, 1) := by decide +kernel
theorem dX1_resolveWithKept_33 : decode cX1_resolveWithKept 33 = .ok (.baload, 1) := by decide +kernel
theorem dX1_resolveWithKept_34 : decode cX1_resolveWithKept 34 = .ok (.iand, 1) := by decide +kernel
theorem dX1_resolveWithKept_35 : decode cX1_resolveWithKept 35 = .ok (.aload_n 0, 1) := by decide +kernel
theorem dX1_resolveWithKept_36 : decode cX1_resolveWithKept 36 = .ok (.getfield 13, 3) := by decide +kernel
theorem dX1_resolveWithKept_39 : decode cX1_resolveWithKept 39 = .ok (.iload_n 1, 1) := by decide +kernel
theorem dX1_resolveWithKept_40 : decode cX1_resolveWithKept 40 = .ok (.baload, 1) := by decide +kernel
theorem dX1_resolveWithKept_41 : decode cX1_resolveWithKept 41 = .ok (.aload_n 0, 1) := by decide +kernel
theorem dX1_resolveWithKept_42 : decode cX1_resolveWithKept 42 = .ok (.getfield 7, 3) := by decide +kernel
theorem dX1_resolveWithKept_45 : decode cX1_resolveWithKept 45 = .ok (.iload_n 2, 1) := by decide +kernel
theorem dX1_resolveWithKept_46 : decode cX1_resolveWithKept 46 = .ok (.baload, 1) := by decide +kernel
theorem dX1_resolveWithKept_47 : decode cX1_resolveWithKept 47 = .ok (.iand, 1) := by decide +kernel
theorem dX1_resolveWithKept_48 : decode cX1_resolveWithKept 48 = .ok (.ior, 1) := by decide +kernel
theorem dX1_resolveWithKept_49 : decode cX1_resolveWithKept 49 = .ok (.istore_n 3, 1) := by decide +kernel
theorem dX1_resolveWithKept_50 : decode cX1_resolveWithKept 50 = .ok (.iload_n 3, 1) := by decide +kernel
theorem dX1_resolveWithKept_51 : decode cX1_resolveWithKept 51 = .ok (.ifCond .eq 68, 3) := by decide +kernel
theorem dX1_resolveWithKept_54 : decode cX1_resolveWithKept 54 = .ok (.iload_n 3, 1) := by decide +kernel
theorem dX1_resolveWithKept_55 : decode cX1_resolveWithKept 55 = .ok (.iload_n 3, 1) := by decide +kernel
theorem dX1_resolveWithKept_56 : decode cX1_resolveWithKept 56 = .ok (.iconst 1, 1) := by decide +kernel
theorem dX1_resolveWithKept_57 : decode cX1_resolveWithKept 57 = .ok (.isub, 1) := by decide +kernel
theorem dX1_resolveWithKept_58 : decode cX1_resolveWithKept 58 = .ok (.iand, 1) := by decide +kernel
theorem dX1_resolveWithKept_59 : decode cX1_resolveWithKept 59 = .ok (.ifCond .eq 6, 3) := by decide +kernel
theorem dX1_resolveWithKept_62 : decode cX1_resolveWithKept 62 = .ok (.goto 57, 3) := by decide +kernel
theorem dX1_resolveWithKept_65 : decode cX1_resolveWithKept 65 = .ok (.aload_n 0, 1) := by decide +kernel
theorem dX1_resolveWithKept_66 : decode cX1_resolveWithKept 66 = .ok (.getfield 7, 3) := by decide +kernel
theorem dX1_resolveWithKept_69 : decode cX1_resolveWithKept 69 = .ok (.iload_n 1, 1) := by decide +kernel
theorem dX1_resolveWithKept_70 : decode cX1_resolveWithKept 70 = .ok (.baload, 1) := by decide +kernel
theorem dX1_resolveWithKept_71 : decode cX1_resolveWithKept 71 = .ok (.aload_n 0, 1) := by decide +kernel
theorem dX1_resolveWithKept_72 : decode cX1_resolveWithKept 72 = .ok (.getfield 7, 3) := by decide +kernel
theorem dX1_resolveWithKept_75 : decode cX1_resolveWithKept 75 = .ok (.iload_n 2, 1) := by decide +kernel
theorem dX1_resolveWithKept_76 : decode cX1_resolveWithKept 76 = .ok (.baload, 1) := by decide +kernel
theorem dX1_resolveWithKept_77 : decode cX1_resolveWithKept 77 = .ok (.ior, 1) := by decide +kernel
theorem dX1_resolveWithKept_78 : decode cX1_resolveWithKept 78 = .ok (.iload_n 3, 1) := by decide +kernel
end
end
section
section
set_option maxRecDepth 100000
theorem dX1_resolveWithKept_79 : decode cX1_resolveWithKept 79 = .ok (.iconst (-1), 1) := by decide +kernel
theorem dX1_resolveWithKept_80 : decode cX1_resolveWithKept 80 = .ok (.ixor, 1) := by decide +kernel
theorem dX1_resolveWithKept_81 : decode cX1_resolveWithKept 81 = .ok (.iand, 1) := by decide +kernel
theorem dX1_resolveWithKept_82 : decode cX1_resolveWithKept 82 = .ok (.istore 4, 2) := by decide +kernel
theorem dX1_resolveWithKept_84 : decode cX1_resolveWithKept 84 = .ok (.aload_n 0, 1) := by decide +kernel
theorem dX1_resolveWithKept_85 : decode cX1_resolveWithKept 85 = .ok (.getfield 13, 3) := by decide +kernel
theorem dX1_resolveWithKept_88 : decode cX1_resolveWithKept 88 = .ok (.iload_n 1, 1) := by decide +kernel
theorem dX1_resolveWithKept_89 : decode cX1_resolveWithKept 89 = .ok (.baload, 1) := by decide +kernel
theorem dX1_resolveWithKept_90 : decode cX1_resolveWithKept 90 = .ok (.aload_n 0, 1) := by decide +kernel
theorem dX1_resolveWithKept_91 : decode cX1_resolveWithKept 91 = .ok (.getfield 13, 3) := by decide +kernel
theorem dX1_resolveWithKept_94 : decode cX1_resolveWithKept 94 = .ok (.iload_n 2, 1) := by decide +kernel
theorem dX1_resolveWithKept_95 : decode cX1_resolveWithKept 95 = .ok (.baload, 1) := by decide +kernel
theorem dX1_resolveWithKept_96 : decode cX1_resolveWithKept 96 = .ok (.ior, 1) := by decide +kernel
theorem dX1_resolveWithKept_97 : decode cX1_resolveWithKept 97 = .ok (.iload_n 3, 1) := by decide +kernel
theorem dX1_resolveWithKept_98 : decode cX1_resolveWithKept 98 = .ok (.iconst (-1), 1) := by decide +kernel
theorem dX1_resolveWithKept_99 : decode cX1_resolveWithKept 99 = .ok (.ixor, 1) := by decide +kernel
theorem dX1_resolveWithKept_100 : decode cX1_resolveWithKept 100 = .ok (.iand, 1) := by decide +kernel
theorem dX1_resolveWithKept_101 : decode cX1_resolveWithKept 101 = .ok (.istore 5, 2) := by decide +kernel
theorem dX1_resolveWithKept_103 : decode cX1_resolveWithKept 103 = .ok (.aload_n 0, 1) := by decide +kernel
theorem dX1_resolveWithKept_104 : decode cX1_resolveWithKept 104 = .ok (.iload 4, 2) := by decide +kernel
theorem dX1_resolveWithKept_106 : decode cX1_resolveWithKept 106 = .ok (.iload 5, 2) := by decide +kernel
theorem dX1_resolveWithKept_108 : decode cX1_resolveWithKept 108 = .ok (.invokevirtual 104, 3) := by decide +kernel
theorem dX1_resolveWithKept_111 : decode cX1_resolveWithKept 111 = .ok (.istore 6, 2) := by decide +kernel
theorem dX1_resolveWithKept_113 : decode cX1_resolveWithKept 113 = .ok (.aload_n 0, 1) := by decide +kernel
theorem dX1_resolveWithKept_114 : decode cX1_resolveWithKept 114 = .ok (.iload 6, 2) := by decide +kernel
theorem dX1_resolveWithKept_116 : decode cX1_resolveWithKept 116 = .ok (.invokevirtual 88, 3) := by decide +kernel
theorem dX1_resolveWithKept_119 : decode cX1_resolveWithKept 119 = .ok (.iinc 2 1, 3) := by decide +kernel
theorem dX1_resolveWithKept_122 : decode cX1_resolveWithKept 122 = .ok (.goto (-120), 3) := by decide +kernel
theorem dX1_resolveWithKept_125 : decode cX1_resolveWithKept 125 = .ok (.return_, 1) := by decide +kernel
theorem dX1_numberOf_0 : decode cX1_numberOf 0 = .ok (.iconst 0, 1) := by decide +kernel
theorem dX1_numberOf_1 : decode cX1_numberOf 1 = .ok (.istore_n 3, 1) := by decide +kernel
theorem dX1_numberOf_2 : decode cX1_numberOf 2 = .ok (.iconst 0, 1) := by decide +kernel
theorem dX1_numberOf_3 : decode cX1_numberOf 3 = .ok (.istore 4, 2) := by decide +kernel
theorem dX1_numberOf_5 : decode cX1_numberOf 5 = .ok (.iload 4, 2) := by decide +kernel
theorem dX1_numberOf_7 : decode cX1_numberOf 7 = .ok (.aload_n 0, 1) := by decide +kernel
theorem dX1_numberOf_8 : decode cX1_numberOf 8 = .ok (.getfield 37, 3) := by decide +kernel
theorem dX1_numberOf_11 : decode cX1_numberOf 11 = .ok (.if_icmp .ge 49, 3) := by decide +kernel
theorem dX1_numberOf_14 : decode cX1_numberOf 14 = .ok (.iload_n 1, 1) := by decide +kernel
theorem dX1_numberOf_15 : decode cX1_numberOf 15 = .ok (.iload 4, 2) := by decide +kernel
theorem dX1_numberOf_17 : decode cX1_numberOf 17 = .ok (.ishr, 1) := by decide +kernel
theorem dX1_numberOf_18 : decode cX1_numberOf 18 = .ok (.iconst 1, 1) := by decide +kernel
theorem dX1_numberOf_19 : decode cX1_numberOf 19 = .ok (.iand, 1) := by decide +kernel
theorem dX1_numberOf_20 : decode cX1_numberOf 20 = .ok (.ifCond .eq 13, 3) := by decide +kernel
theorem dX1_numberOf_23 : decode cX1_numberOf 23 = .ok (.iload_n 3, 1) := by decide +kernel
theorem dX1_numberOf_24 : decode cX1_numberOf 24 = .ok (.aload_n 0, 1) := by decide +kernel
theorem dX1_numberOf_25 : decode cX1_numberOf 25 = .ok (.getfield 16, 3) := by decide +kernel
theorem dX1_numberOf_28 : decode cX1_numberOf 28 = .ok (.iload 4, 2) := by decide +kernel
theorem dX1_numberOf_30 : decode cX1_numberOf 30 = .ok (.iaload, 1) := by decide +kernel
theorem dX1_numberOf_31 : decode cX1_numberOf 31 = .ok (.iadd, 1) := by decide +kernel
theorem dX1_numberOf_32 : decode cX1_numberOf 32 = .ok (.istore_n 3, 1) := by decide +kernel
theorem dX1_numberOf_33 : decode cX1_numberOf 33 = .ok (.iload_n 2, 1) := by decide +kernel
theorem dX1_numberOf_34 : decode cX1_numberOf 34 = .ok (.iload 4, 2) := by decide +kernel
theorem dX1_numberOf_36 : decode cX1_numberOf 36 = .ok (.ishr, 1) := by decide +kernel
theorem dX1_numberOf_37 : decode cX1_numberOf 37 = .ok (.iconst 1, 1) := by decide +kernel
theorem dX1_numberOf_38 : decode cX1_numberOf 38 = .ok (.iand, 1) := by decide +kernel
theorem dX1_numberOf_39 : decode cX1_numberOf 39 = .ok (.ifCond .eq 15, 3) := by decide +kernel
theorem dX1_numberOf_42 : decode cX1_numberOf 42 = .ok (.iload_n 3, 1) := by decide +kernel
theorem dX1_numberOf_43 : decode cX1_numberOf 43 = .ok (.iconst 2, 1) := by decide +kernel
theorem dX1_numberOf_44 : decode cX1_numberOf 44 = .ok (.aload_n 0, 1) := by decide +kernel
theorem dX1_numberOf_45 : decode cX1_numberOf 45 = .ok (.getfield 16, 3) := by decide +kernel
theorem dX1_numberOf_48 : decode cX1_numberOf 48 = .ok (.iload 4, 2) := by decide +kernel
theorem dX1_numberOf_50 : decode cX1_numberOf 50 = .ok (.iaload, 1) := by decide +kernel
theorem dX1_numberOf_51 : decode cX1_numberOf 51 = .ok (.imul, 1) := by decide +kernel
theorem dX1_numberOf_52 : decode cX1_numberOf 52 = .ok (.iadd, 1) := by decide +kernel
theorem dX1_numberOf_53 : decode cX1_numberOf 53 = .ok (.istore_n 3, 1) := by decide +kernel
theorem dX1_numberOf_54 : decode cX1_numberOf 54 = .ok (.iinc 4 1, 3) := by decide +kernel
theorem dX1_numberOf_57 : decode cX1_numberOf 57 = .ok (.goto (-52), 3) := by decide +kernel
theorem dX1_numberOf_60 : decode cX1_numberOf 60 = .ok (.iload_n 3, 1) := by decide +kernel
theorem dX1_numberOf_61 : decode cX1_numberOf 61 = .ok (.ireturn, 1) := by decide +kernel
theorem dX1_retract_0 : decode cX1_retract 0 = .ok (.aload_n 0, 1) := by decide +kernel
theorem dX1_retract_1 : decode cX1_retract 1 = .ok (.iload_n 1, 1) := by decide +kernel
theorem dX1_retract_2 : decode cX1_retract 2 = .ok (.invokevirtual 55, 3) := by decide +kernel
theorem dX1_retract_5 : decode cX1_retract 5 = .ok (.ifCond .ne 5, 3) := by decide +kernel
theorem dX1_retract_8 : decode cX1_retract 8 = .ok (.iconst (-1), 1) := by decide +kernel
theorem dX1_retract_9 : decode cX1_retract 9 = .ok (.ireturn, 1) := by decide +kernel
theorem dX1_retract_10 : decode cX1_retract 10 = .ok (.aload_n 0, 1) := by decide +kernel
theorem dX1_retract_11 : decode cX1_retract 11 = .ok (.iload_n 1, 1) := by decide +kernel
theorem dX1_retract_12 : decode cX1_retract 12 = .ok (.invokevirtual 59, 3) := by decide +kernel
theorem dX1_retract_15 : decode cX1_retract 15 = .ok (.istore_n 2, 1) := by decide +kernel
theorem dX1_retract_16 : decode cX1_retract 16 = .ok (.iload_n 2, 1) := by decide +kernel
theorem dX1_retract_17 : decode cX1_retract 17 = .ok (.ifCond .ge 5, 3) := by decide +kernel
theorem dX1_retract_20 : decode cX1_retract 20 = .ok (.iconst 0, 1) := by decide +kernel
theorem dX1_retract_21 : decode cX1_retract 21 = .ok (.ireturn, 1) := by decide +kernel
theorem dX1_retract_22 : decode cX1_retract 22 = .ok (.aload_n 0, 1) := by decide +kernel
theorem dX1_retract_23 : decode cX1_retract 23 = .ok (.dup, 1) := by decide +kernel
theorem dX1_retract_24 : decode cX1_retract 24 = .ok (.getfield 63, 3) := by decide +kernel
theorem dX1_retract_27 : decode cX1_retract 27 = .ok (.iconst 1, 1) := by decide +kernel
theorem dX1_retract_28 : decode cX1_retract 28 = .ok (.isub, 1) := by decide +kernel
theorem dX1_retract_29 : decode cX1_retract 29 = .ok (.putfield 63, 3) := by decide +kernel
theorem dX1_retract_32 : decode cX1_retract 32 = .ok (.iload_n 2, 1) := by decide +kernel
theorem dX1_retract_33 : decode cX1_retract 33 = .ok (.istore_n 3, 1) := by decide +kernel
theorem dX1_retract_34 : decode cX1_retract 34 = .ok (.iload_n 3, 1) := by decide +kernel
theorem dX1_retract_35 : decode cX1_retract 35 = .ok (.aload_n 0, 1) := by decide +kernel
theorem dX1_retract_36 : decode cX1_retract 36 = .ok (.getfield 63, 3) := by decide +kernel
theorem dX1_retract_39 : decode cX1_retract 39 = .ok (.if_icmp .ge 23, 3) := by decide +kernel
theorem dX1_retract_42 : decode cX1_retract 42 = .ok (.aload_n 0, 1) := by decide +kernel
theorem dX1_retract_43 : decode cX1_retract 43 = .ok (.getfield 20, 3) := by decide +kernel
theorem dX1_retract_46 : decode cX1_retract 46 = .ok (.iload_n 3, 1) := by decide +kernel
theorem dX1_retract_47 : decode cX1_retract 47 = .ok (.aload_n 0, 1) := by decide +kernel
theorem dX1_retract_48 : decode cX1_retract 48 = .ok (.getfield 20, 3) := by decide +kernel
theorem dX1_retract_51 : decode cX1_retract 51 = .ok (.iload_n 3, 1) := by decide +kernel
theorem dX1_retract_52 : decode cX1_retract 52 = .ok (.iconst 1, 1) := by decide +kernel
theorem dX1_retract_53 : decode cX1_retract 53 = .ok (.iadd, 1) := by decide +kernel
theorem dX1_retract_54 : decode cX1_retract 54 = .ok (.saload, 1) := by decide +kernel
theorem dX1_retract_55 : decode cX1_retract 55 = .ok (.sastore, 1) := by decide +kernel
theorem dX1_retract_56 : decode cX1_retract 56 = .ok (.iinc 3 1, 3) := by decide +kernel
theorem dX1_retract_59 : decode cX1_retract 59 = .ok (.goto (-25), 3) := by decide +kernel
theorem dX1_retract_62 : decode cX1_retract 62 = .ok (.aload_n 0, 1) := by decide +kernel
theorem dX1_retract_63 : decode cX1_retract 63 = .ok (.iconst 0, 1) := by decide +kernel
theorem dX1_retract_64 : decode cX1_retract 64 = .ok (.putfield 51, 3) := by decide +kernel
theorem dX1_retract_67 : decode cX1_retract 67 = .ok (.iconst 1, 1) := by decide +kernel
theorem dX1_retract_68 : decode cX1_retract 68 = .ok (.ireturn, 1) := by decide +kernel
theorem dX1_size_0 : decode cX1_size 0 = .ok (.aload_n 0, 1) := by decide +kernel
theorem dX1_size_1 : decode cX1_size 1 = .ok (.getfield 63, 3) := by decide +kernel
theorem dX1_size_4 : decode cX1_size 4 = .ok (.ireturn, 1) := by decide +kernel
theorem dX1_implied_0 : decode cX1_implied 0 = .ok (.aload_n 0, 1) := by decide +kernel
theorem dX1_implied_1 : decode cX1_implied 1 = .ok (.iload_n 1, 1) := by decide +kernel
theorem dX1_implied_2 : decode cX1_implied 2 = .ok (.invokevirtual 55, 3) := by decide +kernel
theorem dX1_implied_5 : decode cX1_implied 5 = .ok (.ifCond .ne 5, 3) := by decide +kernel
theorem dX1_implied_8 : decode cX1_implied 8 = .ok (.iconst 0, 1) := by decide +kernel
theorem dX1_implied_9 : decode cX1_implied 9 = .ok (.ireturn, 1) := by decide +kernel
theorem dX1_implied_10 : decode cX1_implied 10 = .ok (.aload_n 0, 1) := by decide +kernel
theorem dX1_implied_11 : decode cX1_implied 11 = .ok (.invokevirtual 69, 3) := by decide +kernel
theorem dX1_implied_14 : decode cX1_implied 14 = .ok (.aload_n 0, 1) := by decide +kernel
theorem dX1_implied_15 : decode cX1_implied 15 = .ok (.iload_n 1, 1) := by decide +kernel
theorem dX1_implied_16 : decode cX1_implied 16 = .ok (.invokevirtual 72, 3) := by decide +kernel
theorem dX1_implied_19 : decode cX1_implied 19 = .ok (.ifCond .lt 7, 3) := by decide +kernel
theorem dX1_implied_22 : decode cX1_implied 22 = .ok (.iconst 1, 1) := by decide +kernel
theorem dX1_implied_23 : decode cX1_implied 23 = .ok (.goto 4, 3) := by decide +kernel
theorem dX1_implied_26 : decode cX1_implied 26 = .ok (.iconst 0, 1) := by decide +kernel
theorem dX1_implied_27 : decode cX1_implied 27 = .ok (.ireturn, 1) := by decide +kernel
theorem dX1_saturate_0 : decode cX1_saturate 0 = .ok (.aload_n 0, 1) := by decide +kernel
theorem dX1_saturate_1 : decode cX1_saturate 1 = .ok (.getfield 51, 3) := by decide +kernel
theorem dX1_saturate_4 : decode cX1_saturate 4 = .ok (.ifCond .eq 4, 3) := by decide +kernel
theorem dX1_saturate_7 : decode cX1_saturate 7 = .ok (.return_, 1) := by decide +kernel
theorem dX1_saturate_8 : decode cX1_saturate 8 = .ok (.aload_n 0, 1) := by decide +kernel
theorem dX1_saturate_9 : decode cX1_saturate 9 = .ok (.invokevirtual 79, 3) := by decide +kernel
theorem dX1_saturate_12 : decode cX1_saturate 12 = .ok (.iconst 0, 1) := by decide +kernel
theorem dX1_saturate_13 : decode cX1_saturate 13 = .ok (.istore_n 1, 1) := by decide +kernel
theorem dX1_saturate_14 : decode cX1_saturate 14 = .ok (.iload_n 1, 1) := by decide +kernel
theorem dX1_saturate_15 : decode cX1_saturate 15 = .ok (.aload_n 0, 1) := by decide +kernel
theorem dX1_saturate_16 : decode cX1_saturate 16 = .ok (.getfield 63, 3) := by decide +kernel
theorem dX1_saturate_19 : decode cX1_saturate 19 = .ok (.if_icmp .ge 19, 3) := by decide +kernel
theorem dX1_saturate_22 : decode cX1_saturate 22 = .ok (.aload_n 0, 1) := by decide +kernel
theorem dX1_saturate_23 : decode cX1_saturate 23 = .ok (.aload_n 0, 1) := by decide +kernel
theorem dX1_saturate_24 : decode cX1_saturate 24 = .ok (.getfield 20, 3) := by decide +kernel
theorem dX1_saturate_27 : decode cX1_saturate 27 = .ok (.iload_n 1, 1) := by decide +kernel
theorem dX1_saturate_28 : decode cX1_saturate 28 = .ok (.saload, 1) := by decide +kernel
theorem dX1_saturate_29 : decode cX1_saturate 29 = .ok (.invokevirtual 66, 3) := by decide +kernel
theorem dX1_saturate_32 : decode cX1_saturate 32 = .ok (.iinc 1 1, 3) := by decide +kernel
theorem dX1_saturate_35 : decode cX1_saturate 35 = .ok (.goto (-21), 3) := by decide +kernel
theorem dX1_saturate_38 : decode cX1_saturate 38 = .ok (.aload_n 0, 1) := by decide +kernel
theorem dX1_saturate_39 : decode cX1_saturate 39 = .ok (.iconst 1, 1) := by decide +kernel
theorem dX1_saturate_40 : decode cX1_saturate 40 = .ok (.putfield 51, 3) := by decide +kernel
theorem dX1_saturate_43 : decode cX1_saturate 43 = .ok (.return_, 1) := by decide +kernel
theorem dX1_clearKept_0 : decode cX1_clearKept 0 = .ok (.iconst 0, 1) := by decide +kernel
theorem dX1_clearKept_1 : decode cX1_clearKept 1 = .ok (.istore_n 1, 1) := by decide +kernel
theorem dX1_clearKept_2 : decode cX1_clearKept 2 = .ok (.iload_n 1, 1) := by decide +kernel
theorem dX1_clearKept_3 : decode cX1_clearKept 3 = .ok (.aload_n 0, 1) := by decide +kernel
theorem dX1_clearKept_4 : decode cX1_clearKept 4 = .ok (.getfield 44, 3) := by decide +kernel
theorem dX1_clearKept_7 : decode cX1_clearKept 7 = .ok (.if_icmp .ge 16, 3) := by decide +kernel
theorem dX1_clearKept_10 : decode cX1_clearKept 10 = .ok (.aload_n 0, 1) := by decide +kernel
theorem dX1_clearKept_11 : decode cX1_clearKept 11 = .ok (.getfield 24, 3) := by decide +kernel
theorem dX1_clearKept_14 : decode cX1_clearKept 14 = .ok (.iload_n 1, 1) := by decide +kernel
theorem dX1_clearKept_15 : decode cX1_clearKept 15 = .ok (.iconst 0, 1) := by decide +kernel
theorem dX1_clearKept_16 : decode cX1_clearKept 16 = .ok (.bastore, 1) := by decide +kernel
theorem dX1_clearKept_17 : decode cX1_clearKept 17 = .ok (.iinc 1 1, 3) := by decide +kernel
theorem dX1_clearKept_20 : decode cX1_clearKept 20 = .ok (.goto (-18), 3) := by decide +kernel
theorem dX1_clearKept_23 : decode cX1_clearKept 23 = .ok (.return_, 1) := by decide +kernel
theorem dX1_primes_0 : decode cX1_primes 0 = .ok (.aload_n 0, 1) := by decide +kernel
theorem dX1_primes_1 : decode cX1_primes 1 = .ok (.invokevirtual 69, 3) := by decide +kernel
theorem dX1_primes_4 : decode cX1_primes 4 = .ok (.iconst 0, 1) := by decide +kernel
theorem dX1_primes_5 : decode cX1_primes 5 = .ok (.istore_n 1, 1) := by decide +kernel
theorem dX1_primes_6 : decode cX1_primes 6 = .ok (.iconst 0, 1) := by decide +kernel
theorem dX1_primes_7 : decode cX1_primes 7 = .ok (.istore_n 2, 1) := by decide +kernel
theorem dX1_primes_8 : decode cX1_primes 8 = .ok (.iload_n 2, 1) := by decide +kernel
theorem dX1_primes_9 : decode cX1_primes 9 = .ok (.aload_n 0, 1) := by decide +kernel
theorem dX1_primes_10 : decode cX1_primes 10 = .ok (.getfield 44, 3) := by decide +kernel
theorem dX1_primes_13 : decode cX1_primes 13 = .ok (.if_icmp .ge 21, 3) := by decide +kernel
theorem dX1_primes_16 : decode cX1_primes 16 = .ok (.aload_n 0, 1) := by decide +kernel
theorem dX1_primes_17 : decode cX1_primes 17 = .ok (.getfield 24, 3) := by decide +kernel
theorem dX1_primes_20 : decode cX1_primes 20 = .ok (.iload_n 2, 1) := by decide +kernel
theorem dX1_primes_21 : decode cX1_primes 21 = .ok (.baload, 1) := by decide +kernel
theorem dX1_primes_22 : decode cX1_primes 22 = .ok (.ifCond .eq 6, 3) := by decide +kernel
theorem dX1_primes_25 : decode cX1_primes 25 = .ok (.iinc 1 1, 3) := by decide +kernel
theorem dX1_primes_28 : decode cX1_primes 28 = .ok (.iinc 2 1, 3) := by decide +kernel
theorem dX1_primes_31 : decode cX1_primes 31 = .ok (.goto (-23), 3) := by decide +kernel
theorem dX1_primes_34 : decode cX1_primes 34 = .ok (.iload_n 1, 1) := by decide +kernel
theorem dX1_primes_35 : decode cX1_primes 35 = .ok (.ireturn, 1) := by decide +kernel
theorem dX1_prime_0 : decode cX1_prime 0 = .ok (.aload_n 0, 1) := by decide +kernel
theorem dX1_prime_1 : decode cX1_prime 1 = .ok (.invokevirtual 69, 3) := by decide +kernel
theorem dX1_prime_4 : decode cX1_prime 4 = .ok (.iload_n 1, 1) := by decide +kernel
theorem dX1_prime_5 : decode cX1_prime 5 = .ok (.istore_n 2, 1) := by decide +kernel
theorem dX1_prime_6 : decode cX1_prime 6 = .ok (.iconst 0, 1) := by decide +kernel
theorem dX1_prime_7 : decode cX1_prime 7 = .ok (.istore_n 3, 1) := by decide +kernel
theorem dX1_prime_8 : decode cX1_prime 8 = .ok (.iload_n 3, 1) := by decide +kernel
theorem dX1_prime_9 : decode cX1_prime 9 = .ok (.aload_n 0, 1) := by decide +kernel
theorem dX1_prime_10 : decode cX1_prime 10 = .ok (.getfield 44, 3) := by decide +kernel
theorem dX1_prime_13 : decode cX1_prime 13 = .ok (.if_icmp .ge 30, 3) := by decide +kernel
theorem dX1_prime_16 : decode cX1_prime 16 = .ok (.aload_n 0, 1) := by decide +kernel
theorem dX1_prime_17 : decode cX1_prime 17 = .ok (.getfield 24, 3) := by decide +kernel
theorem dX1_prime_20 : decode cX1_prime 20 = .ok (.iload_n 3, 1) := by decide +kernel
theorem dX1_prime_21 : decode cX1_prime 21 = .ok (.baload, 1) := by decide +kernel
theorem dX1_prime_22 : decode cX1_prime 22 = .ok (.ifCond .ne 6, 3) := by decide +kernel
theorem dX1_prime_25 : decode cX1_prime 25 = .ok (.goto 12, 3) := by decide +kernel
theorem dX1_prime_28 : decode cX1_prime 28 = .ok (.iload_n 2, 1) := by decide +kernel
theorem dX1_prime_29 : decode cX1_prime 29 = .ok (.ifCond .ne 5, 3) := by decide +kernel
theorem dX1_prime_32 : decode cX1_prime 32 = .ok (.iload_n 3, 1) := by decide +kernel
theorem dX1_prime_33 : decode cX1_prime 33 = .ok (.ireturn, 1) := by decide +kernel
theorem dX1_prime_34 : decode cX1_prime 34 = .ok (.iinc 2 (-1), 3) := by decide +kernel
theorem dX1_prime_37 : decode cX1_prime 37 = .ok (.iinc 3 1, 3) := by decide +kernel
theorem dX1_prime_40 : decode cX1_prime 40 = .ok (.goto (-32), 3) := by decide +kernel
theorem dX1_prime_43 : decode cX1_prime 43 = .ok (.bipush (-2), 2) := by decide +kernel
theorem dX1_prime_45 : decode cX1_prime 45 = .ok (.ireturn, 1) := by decide +kernel
theorem dX1_primeWithin_0 : decode cX1_primeWithin 0 = .ok (.aload_n 0, 1) := by decide +kernel
theorem dX1_primeWithin_1 : decode cX1_primeWithin 1 = .ok (.iload_n 1, 1) := by decide +kernel
theorem dX1_primeWithin_2 : decode cX1_primeWithin 2 = .ok (.invokevirtual 55, 3) := by decide +kernel
theorem dX1_primeWithin_5 : decode cX1_primeWithin 5 = .ok (.ifCond .ne 5, 3) := by decide +kernel
theorem dX1_primeWithin_8 : decode cX1_primeWithin 8 = .ok (.iconst (-1), 1) := by decide +kernel
theorem dX1_primeWithin_9 : decode cX1_primeWithin 9 = .ok (.ireturn, 1) := by decide +kernel
theorem dX1_primeWithin_10 : decode cX1_primeWithin 10 = .ok (.aload_n 0, 1) := by decide +kernel
theorem dX1_primeWithin_11 : decode cX1_primeWithin 11 = .ok (.invokevirtual 69, 3) := by decide +kernel
theorem dX1_primeWithin_14 : decode cX1_primeWithin 14 = .ok (.aload_n 0, 1) := by decide +kernel
theorem dX1_primeWithin_15 : decode cX1_primeWithin 15 = .ok (.iload_n 1, 1) := by decide +kernel
theorem dX1_primeWithin_16 : decode cX1_primeWithin 16 = .ok (.invokevirtual 72, 3) := by decide +kernel
theorem dX1_primeWithin_19 : decode cX1_primeWithin 19 = .ok (.ireturn, 1) := by decide +kernel
theorem dX1_models_0 : decode cX1_models 0 = .ok (.aload_n 0, 1) := by decide +kernel
theorem dX1_models_1 : decode cX1_models 1 = .ok (.invokevirtual 69, 3) := by decide +kernel
theorem dX1_models_4 : decode cX1_models 4 = .ok (.iconst 0, 1) := by decide +kernel
theorem dX1_models_5 : decode cX1_models 5 = .ok (.istore_n 1, 1) := by decide +kernel
theorem dX1_models_6 : decode cX1_models 6 = .ok (.iconst 1, 1) := by decide +kernel
theorem dX1_models_7 : decode cX1_models 7 = .ok (.istore_n 2, 1) := by decide +kernel
theorem dX1_models_8 : decode cX1_models 8 = .ok (.aload_n 0, 1) := by decide +kernel
theorem dX1_models_9 : decode cX1_models 9 = .ok (.getfield 31, 3) := by decide +kernel
theorem dX1_models_12 : decode cX1_models 12 = .ok (.iconst 0, 1) := by decide +kernel
theorem dX1_models_13 : decode cX1_models 13 = .ok (.iconst 0, 1) := by decide +kernel
theorem dX1_models_14 : decode cX1_models 14 = .ok (.bastore, 1) := by decide +kernel
theorem dX1_models_15 : decode cX1_models 15 = .ok (.aload_n 0, 1) := by decide +kernel
theorem dX1_models_16 : decode cX1_models 16 = .ok (.getfield 34, 3) := by decide +kernel
theorem dX1_models_19 : decode cX1_models 19 = .ok (.iconst 0, 1) := by decide +kernel
theorem dX1_models_20 : decode cX1_models 20 = .ok (.iconst 0, 1) := by decide +kernel
theorem dX1_models_21 : decode cX1_models 21 = .ok (.bastore, 1) := by decide +kernel
theorem dX1_models_22 : decode cX1_models 22 = .ok (.iconst 0, 1) := by decide +kernel
theorem dX1_models_23 : decode cX1_models 23 = .ok (.istore_n 3, 1) := by decide +kernel
theorem dX1_models_24 : decode cX1_models 24 = .ok (.iload_n 3, 1) := by decide +kernel
theorem dX1_models_25 : decode cX1_models 25 = .ok (.bipush 64, 2) := by decide +kernel
theorem dX1_models_27 : decode cX1_models 27 = .ok (.if_icmp .ge 117, 3) := by decide +kernel
theorem dX1_models_30 : decode cX1_models 30 = .ok (.iload_n 2, 1) := by decide +kernel
theorem dX1_models_31 : decode cX1_models 31 = .ok (.ifCond .le 113, 3) := by decide +kernel
theorem dX1_models_34 : decode cX1_models 34 = .ok (.iinc 2 (-1), 3) := by decide +kernel
theorem dX1_models_37 : decode cX1_models 37 = .ok (.aload_n 0, 1) := by decide +kernel
theorem dX1_models_38 : decode cX1_models 38 = .ok (.getfield 31, 3) := by decide +kernel
theorem dX1_models_41 : decode cX1_models 41 = .ok (.iload_n 2, 1) := by decide +kernel
theorem dX1_models_42 : decode cX1_models 42 = .ok (.baload, 1) := by decide +kernel
theorem dX1_models_43 : decode cX1_models 43 = .ok (.istore 4, 2) := by decide +kernel
theorem dX1_models_45 : decode cX1_models 45 = .ok (.aload_n 0, 1) := by decide +kernel
theorem dX1_models_46 : decode cX1_models 46 = .ok (.getfield 34, 3) := by decide +kernel
theorem dX1_models_49 : decode cX1_models 49 = .ok (.iload_n 2, 1) := by decide +kernel
theorem dX1_models_50 : decode cX1_models 50 = .ok (.baload, 1) := by decide +kernel
theorem dX1_models_51 : decode cX1_models 51 = .ok (.istore 5, 2) := by decide +kernel
theorem dX1_models_53 : decode cX1_models 53 = .ok (.aload_n 0, 1) := by decide +kernel
theorem dX1_models_54 : decode cX1_models 54 = .ok (.iconst 1, 1) := by decide +kernel
theorem dX1_models_55 : decode cX1_models 55 = .ok (.iload 5, 2) := by decide +kernel
theorem dX1_models_57 : decode cX1_models 57 = .ok (.ishl, 1) := by decide +kernel
theorem dX1_models_58 : decode cX1_models 58 = .ok (.iconst 1, 1) := by decide +kernel
theorem dX1_models_59 : decode cX1_models 59 = .ok (.isub, 1) := by decide +kernel
theorem dX1_models_60 : decode cX1_models 60 = .ok (.iload 4, 2) := by decide +kernel
theorem dX1_models_62 : decode cX1_models 62 = .ok (.invokevirtual 75, 3) := by decide +kernel
theorem dX1_models_65 : decode cX1_models 65 = .ok (.ifCond .eq 6, 3) := by decide +kernel
theorem dX1_models_68 : decode cX1_models 68 = .ok (.goto 70, 3) := by decide +kernel
theorem dX1_models_71 : decode cX1_models 71 = .ok (.iload 5, 2) := by decide +kernel
theorem dX1_models_73 : decode cX1_models 73 = .ok (.aload_n 0, 1) := by decide +kernel
theorem dX1_models_74 : decode cX1_models 74 = .ok (.getfield 37, 3) := by decide +kernel
theorem dX1_models_77 : decode cX1_models 77 = .ok (.if_icmp .ne 9, 3) := by decide +kernel
theorem dX1_models_80 : decode cX1_models 80 = .ok (.iinc 1 1, 3) := by decide +kernel
theorem dX1_models_83 : decode cX1_models 83 = .ok (.goto 55, 3) := by decide +kernel
theorem dX1_models_86 : decode cX1_models 86 = .ok (.aload_n 0, 1) := by decide +kernel
theorem dX1_models_87 : decode cX1_models 87 = .ok (.getfield 31, 3) := by decide +kernel
theorem dX1_models_90 : decode cX1_models 90 = .ok (.iload_n 2, 1) := by decide +kernel
theorem dX1_models_91 : decode cX1_models 91 = .ok (.iload 4, 2) := by decide +kernel
theorem dX1_models_93 : decode cX1_models 93 = .ok (.i2b, 1) := by decide +kernel
theorem dX1_models_94 : decode cX1_models 94 = .ok (.bastore, 1) := by decide +kernel
theorem dX1_models_95 : decode cX1_models 95 = .ok (.aload_n 0, 1) := by decide +kernel
theorem dX1_models_96 : decode cX1_models 96 = .ok (.getfield 34, 3) := by decide +kernel
theorem dX1_models_99 : decode cX1_models 99 = .ok (.iload_n 2, 1) := by decide +kernel
theorem dX1_models_100 : decode cX1_models 100 = .ok (.iload 5, 2) := by decide +kernel
theorem dX1_models_102 : decode cX1_models 102 = .ok (.iconst 1, 1) := by decide +kernel
theorem dX1_models_103 : decode cX1_models 103 = .ok (.iadd, 1) := by decide +kernel
theorem dX1_models_104 : decode cX1_models 104 = .ok (.i2b, 1) := by decide +kernel
theorem dX1_models_105 : decode cX1_models 105 = .ok (.bastore, 1) := by decide +kernel
theorem dX1_models_106 : decode cX1_models 106 = .ok (.aload_n 0, 1) := by decide +kernel
theorem dX1_models_107 : decode cX1_models 107 = .ok (.getfield 31, 3) := by decide +kernel
theorem dX1_models_110 : decode cX1_models 110 = .ok (.iload_n 2, 1) := by decide +kernel
theorem dX1_models_111 : decode cX1_models 111 = .ok (.iconst 1, 1) := by decide +kernel
theorem dX1_models_112 : decode cX1_models 112 = .ok (.iadd, 1) := by decide +kernel
theorem dX1_models_113 : decode cX1_models 113 = .ok (.iload 4, 2) := by decide +kernel
theorem dX1_models_115 : decode cX1_models 115 = .ok (.iconst 1, 1) := by decide +kernel
theorem dX1_models_116 : decode cX1_models 116 = .ok (.iload 5, 2) := by decide +kernel
theorem dX1_models_118 : decode cX1_models 118 = .ok (.ishl, 1) := by decide +kernel
theorem dX1_models_119 : decode cX1_models 119 = .ok (.ior, 1) := by decide +kernel
theorem dX1_models_120 : decode cX1_models 120 = .ok (.i2b, 1) := by decide +kernel
theorem dX1_models_121 : decode cX1_models 121 = .ok (.bastore, 1) := by decide +kernel
theorem dX1_models_122 : decode cX1_models 122 = .ok (.aload_n 0, 1) := by decide +kernel
theorem dX1_models_123 : decode cX1_models 123 = .ok (.getfield 34, 3) := by decide +kernel
theorem dX1_models_126 : decode cX1_models 126 = .ok (.iload_n 2, 1) := by decide +kernel
theorem dX1_models_127 : decode cX1_models 127 = .ok (.iconst 1, 1) := by decide +kernel
theorem dX1_models_128 : decode cX1_models 128 = .ok (.iadd, 1) := by decide +kernel
theorem dX1_models_129 : decode cX1_models 129 = .ok (.iload 5, 2) := by decide +kernel
theorem dX1_models_131 : decode cX1_models 131 = .ok (.iconst 1, 1) := by decide +kernel
theorem dX1_models_132 : decode cX1_models 132 = .ok (.iadd, 1) := by decide +kernel
theorem dX1_models_133 : decode cX1_models 133 = .ok (.i2b, 1) := by decide +kernel
theorem dX1_models_134 : decode cX1_models 134 = .ok (.bastore, 1) := by decide +kernel
theorem dX1_models_135 : decode cX1_models 135 = .ok (.iinc 2 2, 3) := by decide +kernel
theorem dX1_models_138 : decode cX1_models 138 = .ok (.iinc 3 1, 3) := by decide +kernel
theorem dX1_models_141 : decode cX1_models 141 = .ok (.goto (-117), 3) := by decide +kernel
theorem dX1_models_144 : decode cX1_models 144 = .ok (.iload_n 1, 1) := by decide +kernel
theorem dX1_models_145 : decode cX1_models 145 = .ok (.ireturn, 1) := by decide +kernel
theorem dX1_breaks_0 : decode cX1_breaks 0 = .ok (.iconst 0, 1) := by decide +kernel
theorem dX1_breaks_1 : decode cX1_breaks 1 = .ok (.istore_n 3, 1) := by decide +kernel
theorem dX1_breaks_2 : decode cX1_breaks 2 = .ok (.iload_n 3, 1) := by decide +kernel
theorem dX1_breaks_3 : decode cX1_breaks 3 = .ok (.aload_n 0, 1) := by decide +kernel
theorem dX1_breaks_4 : decode cX1_breaks 4 = .ok (.getfield 44, 3) := by decide +kernel
theorem dX1_breaks_7 : decode cX1_breaks 7 = .ok (.if_icmp .ge 75, 3) := by decide +kernel
theorem dX1_breaks_10 : decode cX1_breaks 10 = .ok (.aload_n 0, 1) := by decide +kernel
theorem dX1_breaks_11 : decode cX1_breaks 11 = .ok (.getfield 24, 3) := by decide +kernel
theorem dX1_breaks_14 : decode cX1_breaks 14 = .ok (.iload_n 3, 1) := by decide +kernel
theorem dX1_breaks_15 : decode cX1_breaks 15 = .ok (.baload, 1) := by decide +kernel
theorem dX1_breaks_16 : decode cX1_breaks 16 = .ok (.ifCond .ne 6, 3) := by decide +kernel
theorem dX1_breaks_19 : decode cX1_breaks 19 = .ok (.goto 57, 3) := by decide +kernel
theorem dX1_breaks_22 : decode cX1_breaks 22 = .ok (.aload_n 0, 1) := by decide +kernel
theorem dX1_breaks_23 : decode cX1_breaks 23 = .ok (.getfield 7, 3) := by decide +kernel
theorem dX1_breaks_26 : decode cX1_breaks 26 = .ok (.iload_n 3, 1) := by decide +kernel
theorem dX1_breaks_27 : decode cX1_breaks 27 = .ok (.baload, 1) := by decide +kernel
theorem dX1_breaks_28 : decode cX1_breaks 28 = .ok (.aload_n 0, 1) := by decide +kernel
theorem dX1_breaks_29 : decode cX1_breaks 29 = .ok (.getfield 13, 3) := by decide +kernel
theorem dX1_breaks_32 : decode cX1_breaks 32 = .ok (.iload_n 3, 1) := by decide +kernel
theorem dX1_breaks_33 : decode cX1_breaks 33 = .ok (.baload, 1) := by decide +kernel
theorem dX1_breaks_34 : decode cX1_breaks 34 = .ok (.ior, 1) := by decide +kernel
theorem dX1_breaks_35 : decode cX1_breaks 35 = .ok (.iload_n 1, 1) := by decide +kernel
theorem dX1_breaks_36 : decode cX1_breaks 36 = .ok (.iconst (-1), 1) := by decide +kernel
theorem dX1_breaks_37 : decode cX1_breaks 37 = .ok (.ixor, 1) := by decide +kernel
theorem dX1_breaks_38 : decode cX1_breaks 38 = .ok (.iand, 1) := by decide +kernel
theorem dX1_breaks_39 : decode cX1_breaks 39 = .ok (.istore 4, 2) := by decide +kernel
theorem dX1_breaks_41 : decode cX1_breaks 41 = .ok (.aload_n 0, 1) := by decide +kernel
theorem dX1_breaks_42 : decode cX1_breaks 42 = .ok (.getfield 7, 3) := by decide +kernel
theorem dX1_breaks_45 : decode cX1_breaks 45 = .ok (.iload_n 3, 1) := by decide +kernel
theorem dX1_breaks_46 : decode cX1_breaks 46 = .ok (.baload, 1) := by decide +kernel
theorem dX1_breaks_47 : decode cX1_breaks 47 = .ok (.iload_n 2, 1) := by decide +kernel
theorem dX1_breaks_48 : decode cX1_breaks 48 = .ok (.iand, 1) := by decide +kernel
theorem dX1_breaks_49 : decode cX1_breaks 49 = .ok (.aload_n 0, 1) := by decide +kernel
theorem dX1_breaks_50 : decode cX1_breaks 50 = .ok (.getfield 13, 3) := by decide +kernel
theorem dX1_breaks_53 : decode cX1_breaks 53 = .ok (.iload_n 3, 1) := by decide +kernel
theorem dX1_breaks_54 : decode cX1_breaks 54 = .ok (.baload, 1) := by decide +kernel
theorem dX1_breaks_55 : decode cX1_breaks 55 = .ok (.iload_n 1, 1) := by decide +kernel
theorem dX1_breaks_56 : decode cX1_breaks 56 = .ok (.iand, 1) := by decide +kernel
theorem dX1_breaks_57 : decode cX1_breaks 57 = .ok (.iload_n 2, 1) := by decide +kernel
theorem dX1_breaks_58 : decode cX1_breaks 58 = .ok (.iconst (-1), 1) := by decide +kernel
theorem dX1_breaks_59 : decode cX1_breaks 59 = .ok (.ixor, 1) := by decide +kernel
theorem dX1_breaks_60 : decode cX1_breaks 60 = .ok (.iand, 1) := by decide +kernel
theorem dX1_breaks_61 : decode cX1_breaks 61 = .ok (.ior, 1) := by decide +kernel
theorem dX1_breaks_62 : decode cX1_breaks 62 = .ok (.istore 5, 2) := by decide +kernel
theorem dX1_breaks_64 : decode cX1_breaks 64 = .ok (.iload 4, 2) := by decide +kernel
theorem dX1_breaks_66 : decode cX1_breaks 66 = .ok (.ifCond .ne 10, 3) := by decide +kernel
theorem dX1_breaks_69 : decode cX1_breaks 69 = .ok (.iload 5, 2) := by decide +kernel
theorem dX1_breaks_71 : decode cX1_breaks 71 = .ok (.ifCond .ne 5, 3) := by decide +kernel
theorem dX1_breaks_74 : decode cX1_breaks 74 = .ok (.iconst 1, 1) := by decide +kernel
theorem dX1_breaks_75 : decode cX1_breaks 75 = .ok (.ireturn, 1) := by decide +kernel
theorem dX1_breaks_76 : decode cX1_breaks 76 = .ok (.iinc 3 1, 3) := by decide +kernel
theorem dX1_breaks_79 : decode cX1_breaks 79 = .ok (.goto (-77), 3) := by decide +kernel
theorem dX1_breaks_82 : decode cX1_breaks 82 = .ok (.iconst 0, 1) := by decide +kernel
theorem dX1_breaks_83 : decode cX1_breaks 83 = .ok (.ireturn, 1) := by decide +kernel
theorem dX1_leastModel_0 : decode cX1_leastModel 0 = .ok (.aload_n 0, 1) := by decide +kernel
theorem dX1_leastModel_1 : decode cX1_leastModel 1 = .ok (.invokevirtual 69, 3) := by decide +kernel
theorem dX1_leastModel_4 : decode cX1_leastModel 4 = .ok (.iload_n 1, 1) := by decide +kernel
theorem dX1_leastModel_5 : decode cX1_leastModel 5 = .ok (.aload_n 0, 1) := by decide +kernel
theorem dX1_leastModel_6 : decode cX1_leastModel 6 = .ok (.getfield 41, 3) := by decide +kernel
theorem dX1_leastModel_9 : decode cX1_leastModel 9 = .ok (.iand, 1) := by decide +kernel
theorem dX1_leastModel_10 : decode cX1_leastModel 10 = .ok (.istore_n 3, 1) := by decide +kernel
theorem dX1_leastModel_11 : decode cX1_leastModel 11 = .ok (.iload_n 2, 1) := by decide +kernel
theorem dX1_leastModel_12 : decode cX1_leastModel 12 = .ok (.iload_n 3, 1) := by decide +kernel
theorem dX1_leastModel_13 : decode cX1_leastModel 13 = .ok (.iand, 1) := by decide +kernel
theorem dX1_leastModel_14 : decode cX1_leastModel 14 = .ok (.istore 4, 2) := by decide +kernel
theorem dX1_leastModel_16 : decode cX1_leastModel 16 = .ok (.aload_n 0, 1) := by decide +kernel
theorem dX1_leastModel_17 : decode cX1_leastModel 17 = .ok (.iload_n 3, 1) := by decide +kernel
theorem dX1_leastModel_18 : decode cX1_leastModel 18 = .ok (.iload 4, 2) := by decide +kernel
theorem dX1_leastModel_20 : decode cX1_leastModel 20 = .ok (.invokevirtual 75, 3) := by decide +kernel
theorem dX1_leastModel_23 : decode cX1_leastModel 23 = .ok (.ifCond .eq 6, 3) := by decide +kernel
theorem dX1_leastModel_26 : decode cX1_leastModel 26 = .ok (.bipush (-2), 2) := by decide +kernel
theorem dX1_leastModel_28 : decode cX1_leastModel 28 = .ok (.ireturn, 1) := by decide +kernel
theorem dX1_leastModel_29 : decode cX1_leastModel 29 = .ok (.aload_n 0, 1) := by decide +kernel
theorem dX1_leastModel_30 : decode cX1_leastModel 30 = .ok (.getfield 37, 3) := by decide +kernel
theorem dX1_leastModel_33 : decode cX1_leastModel 33 = .ok (.iconst 1, 1) := by decide +kernel
theorem dX1_leastModel_34 : decode cX1_leastModel 34 = .ok (.isub, 1) := by decide +kernel
theorem dX1_leastModel_35 : decode cX1_leastModel 35 = .ok (.istore 5, 2) := by decide +kernel
theorem dX1_leastModel_37 : decode cX1_leastModel 37 = .ok (.iload 5, 2) := by decide +kernel
theorem dX1_leastModel_39 : decode cX1_leastModel 39 = .ok (.ifCond .lt 47, 3) := by decide +kernel
theorem dX1_leastModel_42 : decode cX1_leastModel 42 = .ok (.iload_n 3, 1) := by decide +kernel
theorem dX1_leastModel_43 : decode cX1_leastModel 43 = .ok (.iload 5, 2) := by decide +kernel
theorem dX1_leastModel_45 : decode cX1_leastModel 45 = .ok (.ishr, 1) := by decide +kernel
theorem dX1_leastModel_46 : decode cX1_leastModel 46 = .ok (.iconst 1, 1) := by decide +kernel
theorem dX1_leastModel_47 : decode cX1_leastModel 47 = .ok (.iand, 1) := by decide +kernel
theorem dX1_leastModel_48 : decode cX1_leastModel 48 = .ok (.ifCond .eq 6, 3) := by decide +kernel
theorem dX1_leastModel_51 : decode cX1_leastModel 51 = .ok (.goto 29, 3) := by decide +kernel
theorem dX1_leastModel_54 : decode cX1_leastModel 54 = .ok (.iload_n 3, 1) := by decide +kernel
theorem dX1_leastModel_55 : decode cX1_leastModel 55 = .ok (.iconst 1, 1) := by decide +kernel
theorem dX1_leastModel_56 : decode cX1_leastModel 56 = .ok (.iload 5, 2) := by decide +kernel
theorem dX1_leastModel_58 : decode cX1_leastModel 58 = .ok (.ishl, 1) := by decide +kernel
theorem dX1_leastModel_59 : decode cX1_leastModel 59 = .ok (.ior, 1) := by decide +kernel
theorem dX1_leastModel_60 : decode cX1_leastModel 60 = .ok (.istore_n 3, 1) := by decide +kernel
theorem dX1_leastModel_61 : decode cX1_leastModel 61 = .ok (.aload_n 0, 1) := by decide +kernel
theorem dX1_leastModel_62 : decode cX1_leastModel 62 = .ok (.iload_n 3, 1) := by decide +kernel
theorem dX1_leastModel_63 : decode cX1_leastModel 63 = .ok (.iload 4, 2) := by decide +kernel
theorem dX1_leastModel_65 : decode cX1_leastModel 65 = .ok (.invokevirtual 75, 3) := by decide +kernel
theorem dX1_leastModel_68 : decode cX1_leastModel 68 = .ok (.ifCond .eq 12, 3) := by decide +kernel
theorem dX1_leastModel_71 : decode cX1_leastModel 71 = .ok (.iload 4, 2) := by decide +kernel
theorem dX1_leastModel_73 : decode cX1_leastModel 73 = .ok (.iconst 1, 1) := by decide +kernel
theorem dX1_leastModel_74 : decode cX1_leastModel 74 = .ok (.iload 5, 2) := by decide +kernel
theorem dX1_leastModel_76 : decode cX1_leastModel 76 = .ok (.ishl, 1) := by decide +kernel
theorem dX1_leastModel_77 : decode cX1_leastModel 77 = .ok (.ior, 1) := by decide +kernel
theorem dX1_leastModel_78 : decode cX1_leastModel 78 = .ok (.istore 4, 2) := by decide +kernel
theorem dX1_leastModel_80 : decode cX1_leastModel 80 = .ok (.iinc 5 (-1), 3) := by decide +kernel
theorem dX1_leastModel_83 : decode cX1_leastModel 83 = .ok (.goto (-46), 3) := by decide +kernel
theorem dX1_leastModel_86 : decode cX1_leastModel 86 = .ok (.iload 4, 2) := by decide +kernel
theorem dX1_leastModel_88 : decode cX1_leastModel 88 = .ok (.ireturn, 1) := by decide +kernel
theorem dX1_redundant_0 : decode cX1_redundant 0 = .ok (.iconst 0, 1) := by decide +kernel
theorem dX1_redundant_1 : decode cX1_redundant 1 = .ok (.istore_n 1, 1) := by decide +kernel
theorem dX1_redundant_2 : decode cX1_redundant 2 = .ok (.iconst 0, 1) := by decide +kernel
theorem dX1_redundant_3 : decode cX1_redundant 3 = .ok (.istore_n 2, 1) := by decide +kernel
theorem dX1_redundant_4 : decode cX1_redundant 4 = .ok (.iload_n 2, 1) := by decide +kernel
theorem dX1_redundant_5 : decode cX1_redundant 5 = .ok (.aload_n 0, 1) := by decide +kernel
theorem dX1_redundant_6 : decode cX1_redundant 6 = .ok (.getfield 63, 3) := by decide +kernel
theorem dX1_redundant_9 : decode cX1_redundant 9 = .ok (.if_icmp .ge 60, 3) := by decide +kernel
theorem dX1_redundant_12 : decode cX1_redundant 12 = .ok (.aload_n 0, 1) := by decide +kernel
theorem dX1_redundant_13 : decode cX1_redundant 13 = .ok (.invokevirtual 79, 3) := by decide +kernel
theorem dX1_redundant_16 : decode cX1_redundant 16 = .ok (.iconst 0, 1) := by decide +kernel
theorem dX1_redundant_17 : decode cX1_redundant 17 = .ok (.istore_n 3, 1) := by decide +kernel
theorem dX1_redundant_18 : decode cX1_redundant 18 = .ok (.iload_n 3, 1) := by decide +kernel
theorem dX1_redundant_19 : decode cX1_redundant 19 = .ok (.aload_n 0, 1) := by decide +kernel
theorem dX1_redundant_20 : decode cX1_redundant 20 = .ok (.getfield 63, 3) := by decide +kernel
theorem dX1_redundant_23 : decode cX1_redundant 23 = .ok (.if_icmp .ge 24, 3) := by decide +kernel
theorem dX1_redundant_26 : decode cX1_redundant 26 = .ok (.iload_n 3, 1) := by decide +kernel
theorem dX1_redundant_27 : decode cX1_redundant 27 = .ok (.iload_n 2, 1) := by decide +kernel
theorem dX1_redundant_28 : decode cX1_redundant 28 = .ok (.if_icmp .eq 13, 3) := by decide +kernel
theorem dX1_redundant_31 : decode cX1_redundant 31 = .ok (.aload_n 0, 1) := by decide +kernel
theorem dX1_redundant_32 : decode cX1_redundant 32 = .ok (.aload_n 0, 1) := by decide +kernel
theorem dX1_redundant_33 : decode cX1_redundant 33 = .ok (.getfield 20, 3) := by decide +kernel
theorem dX1_redundant_36 : decode cX1_redundant 36 = .ok (.iload_n 3, 1) := by decide +kernel
theorem dX1_redundant_37 : decode cX1_redundant 37 = .ok (.saload, 1) := by decide +kernel
theorem dX1_redundant_38 : decode cX1_redundant 38 = .ok (.invokevirtual 66, 3) := by decide +kernel
theorem dX1_redundant_41 : decode cX1_redundant 41 = .ok (.iinc 3 1, 3) := by decide +kernel
theorem dX1_redundant_44 : decode cX1_redundant 44 = .ok (.goto (-26), 3) := by decide +kernel
theorem dX1_redundant_47 : decode cX1_redundant 47 = .ok (.aload_n 0, 1) := by decide +kernel
theorem dX1_redundant_48 : decode cX1_redundant 48 = .ok (.aload_n 0, 1) := by decide +kernel
theorem dX1_redundant_49 : decode cX1_redundant 49 = .ok (.getfield 20, 3) := by decide +kernel
theorem dX1_redundant_52 : decode cX1_redundant 52 = .ok (.iload_n 2, 1) := by decide +kernel
theorem dX1_redundant_53 : decode cX1_redundant 53 = .ok (.saload, 1) := by decide +kernel
theorem dX1_redundant_54 : decode cX1_redundant 54 = .ok (.invokevirtual 72, 3) := by decide +kernel
theorem dX1_redundant_57 : decode cX1_redundant 57 = .ok (.ifCond .lt 6, 3) := by decide +kernel
theorem dX1_redundant_60 : decode cX1_redundant 60 = .ok (.iinc 1 1, 3) := by decide +kernel
theorem dX1_redundant_63 : decode cX1_redundant 63 = .ok (.iinc 2 1, 3) := by decide +kernel
theorem dX1_redundant_66 : decode cX1_redundant 66 = .ok (.goto (-62), 3) := by decide +kernel
theorem dX1_redundant_69 : decode cX1_redundant 69 = .ok (.aload_n 0, 1) := by decide +kernel
theorem dX1_redundant_70 : decode cX1_redundant 70 = .ok (.iconst 0, 1) := by decide +kernel
theorem dX1_redundant_71 : decode cX1_redundant 71 = .ok (.putfield 51, 3) := by decide +kernel
theorem dX1_redundant_74 : decode cX1_redundant 74 = .ok (.iload_n 1, 1) := by decide +kernel
theorem dX1_redundant_75 : decode cX1_redundant 75 = .ok (.ireturn, 1) := by decide +kernel
end
end
section
section
set_option maxRecDepth 100000
theorem dX2_init_0 : decode cX2_init 0 = .ok (.aload_n 0, 1) := by decide +kernel
theorem dX2_init_1 : decode cX2_init 1 = .ok (.invokespecial 1, 3) := by decide +kernel
theorem dX2_init_4 : decode cX2_init 4 = .ok (.aload_n 0, 1) := by decide +kernel
theorem dX2_init_5 : decode cX2_init 5 = .ok (.iconst 0, 1) := by decide +kernel
theorem dX2_init_6 : decode cX2_init 6 = .ok (.putfield 7, 3) := by decide +kernel
theorem dX2_init_9 : decode cX2_init 9 = .ok (.aload_n 0, 1) := by decide +kernel
theorem dX2_init_10 : decode cX2_init 10 = .ok (.bipush 12, 2) := by decide +kernel
theorem dX2_init_12 : decode cX2_init 12 = .ok (.newarray .int, 2) := by decide +kernel
theorem dX2_init_14 : decode cX2_init 14 = .ok (.putfield 13, 3) := by decide +kernel
theorem dX2_init_17 : decode cX2_init 17 = .ok (.aload_n 0, 1) := by decide +kernel
theorem dX2_init_18 : decode cX2_init 18 = .ok (.bipush 32, 2) := by decide +kernel
theorem dX2_init_20 : decode cX2_init 20 = .ok (.newarray .boolean, 2) := by decide +kernel
theorem dX2_init_22 : decode cX2_init 22 = .ok (.putfield 17, 3) := by decide +kernel
theorem dX2_init_25 : decode cX2_init 25 = .ok (.aload_n 0, 1) := by decide +kernel
theorem dX2_init_26 : decode cX2_init 26 = .ok (.sipush 243, 3) := by decide +kernel
theorem dX2_init_29 : decode cX2_init 29 = .ok (.newarray .boolean, 2) := by decide +kernel
theorem dX2_init_31 : decode cX2_init 31 = .ok (.putfield 21, 3) := by decide +kernel
theorem dX2_init_34 : decode cX2_init 34 = .ok (.aload_n 0, 1) := by decide +kernel
theorem dX2_init_35 : decode cX2_init 35 = .ok (.iload_n 1, 1) := by decide +kernel
theorem dX2_init_36 : decode cX2_init 36 = .ok (.iconst 2, 1) := by decide +kernel
theorem dX2_init_37 : decode cX2_init 37 = .ok (.if_icmp .ge 7, 3) := by decide +kernel
theorem dX2_init_40 : decode cX2_init 40 = .ok (.iconst 2, 1) := by decide +kernel
theorem dX2_init_41 : decode cX2_init 41 = .ok (.goto 13, 3) := by decide +kernel
theorem dX2_init_44 : decode cX2_init 44 = .ok (.iload_n 1, 1) := by decide +kernel
theorem dX2_init_45 : decode cX2_init 45 = .ok (.iconst 5, 1) := by decide +kernel
theorem dX2_init_46 : decode cX2_init 46 = .ok (.if_icmp .le 7, 3) := by decide +kernel
theorem dX2_init_49 : decode cX2_init 49 = .ok (.iconst 5, 1) := by decide +kernel
theorem dX2_init_50 : decode cX2_init 50 = .ok (.goto 4, 3) := by decide +kernel
theorem dX2_init_53 : decode cX2_init 53 = .ok (.iload_n 1, 1) := by decide +kernel
theorem dX2_init_54 : decode cX2_init 54 = .ok (.putfield 24, 3) := by decide +kernel
theorem dX2_init_57 : decode cX2_init 57 = .ok (.aload_n 0, 1) := by decide +kernel
theorem dX2_init_58 : decode cX2_init 58 = .ok (.aload_n 0, 1) := by decide +kernel
theorem dX2_init_59 : decode cX2_init 59 = .ok (.getfield 24, 3) := by decide +kernel
theorem dX2_init_62 : decode cX2_init 62 = .ok (.iconst 2, 1) := by decide +kernel
theorem dX2_init_63 : decode cX2_init 63 = .ok (.if_icmp .ne 8, 3) := by decide +kernel
theorem dX2_init_66 : decode cX2_init 66 = .ok (.bipush 9, 2) := by decide +kernel
theorem dX2_init_68 : decode cX2_init 68 = .ok (.goto 32, 3) := by decide +kernel
theorem dX2_init_71 : decode cX2_init 71 = .ok (.aload_n 0, 1) := by decide +kernel
theorem dX2_init_72 : decode cX2_init 72 = .ok (.getfield 24, 3) := by decide +kernel
theorem dX2_init_75 : decode cX2_init 75 = .ok (.iconst 3, 1) := by decide +kernel
theorem dX2_init_76 : decode cX2_init 76 = .ok (.if_icmp .ne 8, 3) := by decide +kernel
theorem dX2_init_79 : decode cX2_init 79 = .ok (.bipush 27, 2) := by decide +kernel
theorem dX2_init_81 : decode cX2_init 81 = .ok (.goto 19, 3) := by decide +kernel
theorem dX2_init_84 : decode cX2_init 84 = .ok (.aload_n 0, 1) := by decide +kernel
theorem dX2_init_85 : decode cX2_init 85 = .ok (.getfield 24, 3) := by decide +kernel
theorem dX2_init_88 : decode cX2_init 88 = .ok (.iconst 4, 1) := by decide +kernel
theorem dX2_init_89 : decode cX2_init 89 = .ok (.if_icmp .ne 8, 3) := by decide +kernel
theorem dX2_init_92 : decode cX2_init 92 = .ok (.bipush 81, 2) := by decide +kernel
theorem dX2_init_94 : decode cX2_init 94 = .ok (.goto 6, 3) := by decide +kernel
theorem dX2_init_97 : decode cX2_init 97 = .ok (.sipush 243, 3) := by decide +kernel
theorem dX2_init_100 : decode cX2_init 100 = .ok (.putfield 27, 3) := by decide +kernel
theorem dX2_init_103 : decode cX2_init 103 = .ok (.return_, 1) := by decide +kernel
theorem dX2_add_0 : decode cX2_add 0 = .ok (.aload_n 0, 1) := by decide +kernel
theorem dX2_add_1 : decode cX2_add 1 = .ok (.iload_n 1, 1) := by decide +kernel
theorem dX2_add_2 : decode cX2_add 2 = .ok (.invokevirtual 30, 3) := by decide +kernel
theorem dX2_add_5 : decode cX2_add 5 = .ok (.ifCond .ne 5, 3) := by decide +kernel
theorem dX2_add_8 : decode cX2_add 8 = .ok (.iconst (-1), 1) := by decide +kernel
theorem dX2_add_9 : decode cX2_add 9 = .ok (.ireturn, 1) := by decide +kernel
theorem dX2_add_10 : decode cX2_add 10 = .ok (.aload_n 0, 1) := by decide +kernel
theorem dX2_add_11 : decode cX2_add 11 = .ok (.iload_n 1, 1) := by decide +kernel
theorem dX2_add_12 : decode cX2_add 12 = .ok (.invokevirtual 34, 3) := by decide +kernel
theorem dX2_add_15 : decode cX2_add 15 = .ok (.ifCond .lt 5, 3) := by decide +kernel
theorem dX2_add_18 : decode cX2_add 18 = .ok (.iconst 0, 1) := by decide +kernel
theorem dX2_add_19 : decode cX2_add 19 = .ok (.ireturn, 1) := by decide +kernel
theorem dX2_add_20 : decode cX2_add 20 = .ok (.aload_n 0, 1) := by decide +kernel
theorem dX2_add_21 : decode cX2_add 21 = .ok (.getfield 7, 3) := by decide +kernel
theorem dX2_add_24 : decode cX2_add 24 = .ok (.bipush 12, 2) := by decide +kernel
theorem dX2_add_26 : decode cX2_add 26 = .ok (.if_icmp .ne 6, 3) := by decide +kernel
theorem dX2_add_29 : decode cX2_add 29 = .ok (.bipush (-3), 2) := by decide +kernel
theorem dX2_add_31 : decode cX2_add 31 = .ok (.ireturn, 1) := by decide +kernel
theorem dX2_add_32 : decode cX2_add 32 = .ok (.aload_n 0, 1) := by decide +kernel
theorem dX2_add_33 : decode cX2_add 33 = .ok (.getfield 13, 3) := by decide +kernel
theorem dX2_add_36 : decode cX2_add 36 = .ok (.aload_n 0, 1) := by decide +kernel
theorem dX2_add_37 : decode cX2_add 37 = .ok (.getfield 7, 3) := by decide +kernel
theorem dX2_add_40 : decode cX2_add 40 = .ok (.iload_n 1, 1) := by decide +kernel
theorem dX2_add_41 : decode cX2_add 41 = .ok (.iastore, 1) := by decide +kernel
theorem dX2_add_42 : decode cX2_add 42 = .ok (.aload_n 0, 1) := by decide +kernel
theorem dX2_add_43 : decode cX2_add 43 = .ok (.dup, 1) := by decide +kernel
theorem dX2_add_44 : decode cX2_add 44 = .ok (.getfield 7, 3) := by decide +kernel
theorem dX2_add_47 : decode cX2_add 47 = .ok (.iconst 1, 1) := by decide +kernel
theorem dX2_add_48 : decode cX2_add 48 = .ok (.iadd, 1) := by decide +kernel
theorem dX2_add_49 : decode cX2_add 49 = .ok (.putfield 7, 3) := by decide +kernel
theorem dX2_add_52 : decode cX2_add 52 = .ok (.iconst 1, 1) := by decide +kernel
theorem dX2_add_53 : decode cX2_add 53 = .ok (.ireturn, 1) := by decide +kernel
theorem dX2_isClause_0 : decode cX2_isClause 0 = .ok (.iload_n 1, 1) := by decide +kernel
theorem dX2_isClause_1 : decode cX2_isClause 1 = .ok (.ifCond .lt 15, 3) := by decide +kernel
theorem dX2_isClause_4 : decode cX2_isClause 4 = .ok (.iload_n 1, 1) := by decide +kernel
theorem dX2_isClause_5 : decode cX2_isClause 5 = .ok (.aload_n 0, 1) := by decide +kernel
theorem dX2_isClause_6 : decode cX2_isClause 6 = .ok (.getfield 27, 3) := by decide +kernel
theorem dX2_isClause_9 : decode cX2_isClause 9 = .ok (.if_icmp .ge 7, 3) := by decide +kernel
theorem dX2_isClause_12 : decode cX2_isClause 12 = .ok (.iconst 1, 1) := by decide +kernel
theorem dX2_isClause_13 : decode cX2_isClause 13 = .ok (.goto 4, 3) := by decide +kernel
theorem dX2_isClause_16 : decode cX2_isClause 16 = .ok (.iconst 0, 1) := by decide +kernel
theorem dX2_isClause_17 : decode cX2_isClause 17 = .ok (.ireturn, 1) := by decide +kernel
theorem dX2_placeOf_0 : decode cX2_placeOf 0 = .ok (.iconst 0, 1) := by decide +kernel
theorem dX2_placeOf_1 : decode cX2_placeOf 1 = .ok (.istore_n 2, 1) := by decide +kernel
theorem dX2_placeOf_2 : decode cX2_placeOf 2 = .ok (.iload_n 2, 1) := by decide +kernel
theorem dX2_placeOf_3 : decode cX2_placeOf 3 = .ok (.aload_n 0, 1) := by decide +kernel
theorem dX2_placeOf_4 : decode cX2_placeOf 4 = .ok (.getfield 7, 3) := by decide +kernel
theorem dX2_placeOf_7 : decode cX2_placeOf 7 = .ok (.if_icmp .ge 21, 3) := by decide +kernel
theorem dX2_placeOf_10 : decode cX2_placeOf 10 = .ok (.aload_n 0, 1) := by decide +kernel
theorem dX2_placeOf_11 : decode cX2_placeOf 11 = .ok (.getfield 13, 3) := by decide +kernel
theorem dX2_placeOf_14 : decode cX2_placeOf 14 = .ok (.iload_n 2, 1) := by decide +kernel
theorem dX2_placeOf_15 : decode cX2_placeOf 15 = .ok (.iaload, 1) := by decide +kernel
theorem dX2_placeOf_16 : decode cX2_placeOf 16 = .ok (.iload_n 1, 1) := by decide +kernel
theorem dX2_placeOf_17 : decode cX2_placeOf 17 = .ok (.if_icmp .ne 5, 3) := by decide +kernel
theorem dX2_placeOf_20 : decode cX2_placeOf 20 = .ok (.iload_n 2, 1) := by decide +kernel
theorem dX2_placeOf_21 : decode cX2_placeOf 21 = .ok (.ireturn, 1) := by decide +kernel
theorem dX2_placeOf_22 : decode cX2_placeOf 22 = .ok (.iinc 2 1, 3) := by decide +kernel
theorem dX2_placeOf_25 : decode cX2_placeOf 25 = .ok (.goto (-23), 3) := by decide +kernel
theorem dX2_placeOf_28 : decode cX2_placeOf 28 = .ok (.iconst (-1), 1) := by decide +kernel
theorem dX2_placeOf_29 : decode cX2_placeOf 29 = .ok (.ireturn, 1) := by decide +kernel
theorem dX2_retract_0 : decode cX2_retract 0 = .ok (.aload_n 0, 1) := by decide +kernel
theorem dX2_retract_1 : decode cX2_retract 1 = .ok (.iload_n 1, 1) := by decide +kernel
theorem dX2_retract_2 : decode cX2_retract 2 = .ok (.invokevirtual 30, 3) := by decide +kernel
theorem dX2_retract_5 : decode cX2_retract 5 = .ok (.ifCond .ne 5, 3) := by decide +kernel
theorem dX2_retract_8 : decode cX2_retract 8 = .ok (.iconst (-1), 1) := by decide +kernel
theorem dX2_retract_9 : decode cX2_retract 9 = .ok (.ireturn, 1) := by decide +kernel
theorem dX2_retract_10 : decode cX2_retract 10 = .ok (.aload_n 0, 1) := by decide +kernel
theorem dX2_retract_11 : decode cX2_retract 11 = .ok (.iload_n 1, 1) := by decide +kernel
theorem dX2_retract_12 : decode cX2_retract 12 = .ok (.invokevirtual 34, 3) := by decide +kernel
theorem dX2_retract_15 : decode cX2_retract 15 = .ok (.istore_n 2, 1) := by decide +kernel
theorem dX2_retract_16 : decode cX2_retract 16 = .ok (.iload_n 2, 1) := by decide +kernel
theorem dX2_retract_17 : decode cX2_retract 17 = .ok (.ifCond .ge 5, 3) := by decide +kernel
theorem dX2_retract_20 : decode cX2_retract 20 = .ok (.iconst 0, 1) := by decide +kernel
theorem dX2_retract_21 : decode cX2_retract 21 = .ok (.ireturn, 1) := by decide +kernel
theorem dX2_retract_22 : decode cX2_retract 22 = .ok (.aload_n 0, 1) := by decide +kernel
theorem dX2_retract_23 : decode cX2_retract 23 = .ok (.dup, 1) := by decide +kernel
theorem dX2_retract_24 : decode cX2_retract 24 = .ok (.getfield 7, 3) := by decide +kernel
theorem dX2_retract_27 : decode cX2_retract 27 = .ok (.iconst 1, 1) := by decide +kernel
theorem dX2_retract_28 : decode cX2_retract 28 = .ok (.isub, 1) := by decide +kernel
theorem dX2_retract_29 : decode cX2_retract 29 = .ok (.putfield 7, 3) := by decide +kernel
theorem dX2_retract_32 : decode cX2_retract 32 = .ok (.aload_n 0, 1) := by decide +kernel
theorem dX2_retract_33 : decode cX2_retract 33 = .ok (.getfield 13, 3) := by decide +kernel
theorem dX2_retract_36 : decode cX2_retract 36 = .ok (.iload_n 2, 1) := by decide +kernel
theorem dX2_retract_37 : decode cX2_retract 37 = .ok (.aload_n 0, 1) := by decide +kernel
theorem dX2_retract_38 : decode cX2_retract 38 = .ok (.getfield 13, 3) := by decide +kernel
theorem dX2_retract_41 : decode cX2_retract 41 = .ok (.aload_n 0, 1) := by decide +kernel
theorem dX2_retract_42 : decode cX2_retract 42 = .ok (.getfield 7, 3) := by decide +kernel
theorem dX2_retract_45 : decode cX2_retract 45 = .ok (.iaload, 1) := by decide +kernel
theorem dX2_retract_46 : decode cX2_retract 46 = .ok (.iastore, 1) := by decide +kernel
theorem dX2_retract_47 : decode cX2_retract 47 = .ok (.iconst 1, 1) := by decide +kernel
theorem dX2_retract_48 : decode cX2_retract 48 = .ok (.ireturn, 1) := by decide +kernel
theorem dX2_size_0 : decode cX2_size 0 = .ok (.aload_n 0, 1) := by decide +kernel
theorem dX2_size_1 : decode cX2_size 1 = .ok (.getfield 7, 3) := by decide +kernel
theorem dX2_size_4 : decode cX2_size 4 = .ok (.ireturn, 1) := by decide +kernel
theorem dX2_implied_0 : decode cX2_implied 0 = .ok (.aload_n 0, 1) := by decide +kernel
theorem dX2_implied_1 : decode cX2_implied 1 = .ok (.iload_n 1, 1) := by decide +kernel
theorem dX2_implied_2 : decode cX2_implied 2 = .ok (.invokevirtual 30, 3) := by decide +kernel
theorem dX2_implied_5 : decode cX2_implied 5 = .ok (.ifCond .ne 5, 3) := by decide +kernel
theorem dX2_implied_8 : decode cX2_implied 8 = .ok (.iconst 0, 1) := by decide +kernel
theorem dX2_implied_9 : decode cX2_implied 9 = .ok (.ireturn, 1) := by decide +kernel
theorem dX2_implied_10 : decode cX2_implied 10 = .ok (.aload_n 0, 1) := by decide +kernel
theorem dX2_implied_11 : decode cX2_implied 11 = .ok (.iconst (-1), 1) := by decide +kernel
theorem dX2_implied_12 : decode cX2_implied 12 = .ok (.invokevirtual 42, 3) := by decide +kernel
theorem dX2_implied_15 : decode cX2_implied 15 = .ok (.aload_n 0, 1) := by decide +kernel
theorem dX2_implied_16 : decode cX2_implied 16 = .ok (.iload_n 1, 1) := by decide +kernel
theorem dX2_implied_17 : decode cX2_implied 17 = .ok (.invokevirtual 46, 3) := by decide +kernel
theorem dX2_implied_20 : decode cX2_implied 20 = .ok (.ireturn, 1) := by decide +kernel
theorem dX2_findModels_0 : decode cX2_findModels 0 = .ok (.iconst 0, 1) := by decide +kernel
theorem dX2_findModels_1 : decode cX2_findModels 1 = .ok (.istore_n 2, 1) := by decide +kernel
theorem dX2_findModels_2 : decode cX2_findModels 2 = .ok (.iload_n 2, 1) := by decide +kernel
theorem dX2_findModels_3 : decode cX2_findModels 3 = .ok (.iconst 1, 1) := by decide +kernel
theorem dX2_findModels_4 : decode cX2_findModels 4 = .ok (.aload_n 0, 1) := by decide +kernel
theorem dX2_findModels_5 : decode cX2_findModels 5 = .ok (.getfield 24, 3) := by decide +kernel
theorem dX2_findModels_8 : decode cX2_findModels 8 = .ok (.ishl, 1) := by decide +kernel
theorem dX2_findModels_9 : decode cX2_findModels 9 = .ok (.if_icmp .ge 58, 3) := by decide +kernel
theorem dX2_findModels_12 : decode cX2_findModels 12 = .ok (.aload_n 0, 1) := by decide +kernel
theorem dX2_findModels_13 : decode cX2_findModels 13 = .ok (.getfield 17, 3) := by decide +kernel
theorem dX2_findModels_16 : decode cX2_findModels 16 = .ok (.iload_n 2, 1) := by decide +kernel
theorem dX2_findModels_17 : decode cX2_findModels 17 = .ok (.iconst 1, 1) := by decide +kernel
theorem dX2_findModels_18 : decode cX2_findModels 18 = .ok (.bastore, 1) := by decide +kernel
theorem dX2_findModels_19 : decode cX2_findModels 19 = .ok (.iconst 0, 1) := by decide +kernel
theorem dX2_findModels_20 : decode cX2_findModels 20 = .ok (.istore_n 3, 1) := by decide +kernel
theorem dX2_findModels_21 : decode cX2_findModels 21 = .ok (.iload_n 3, 1) := by decide +kernel
theorem dX2_findModels_22 : decode cX2_findModels 22 = .ok (.aload_n 0, 1) := by decide +kernel
theorem dX2_findModels_23 : decode cX2_findModels 23 = .ok (.getfield 7, 3) := by decide +kernel
theorem dX2_findModels_26 : decode cX2_findModels 26 = .ok (.if_icmp .ge 35, 3) := by decide +kernel
theorem dX2_findModels_29 : decode cX2_findModels 29 = .ok (.iload_n 3, 1) := by decide +kernel
theorem dX2_findModels_30 : decode cX2_findModels 30 = .ok (.iload_n 1, 1) := by decide +kernel
theorem dX2_findModels_31 : decode cX2_findModels 31 = .ok (.if_icmp .eq 24, 3) := by decide +kernel
theorem dX2_findModels_34 : decode cX2_findModels 34 = .ok (.aload_n 0, 1) := by decide +kernel
theorem dX2_findModels_35 : decode cX2_findModels 35 = .ok (.iload_n 2, 1) := by decide +kernel
theorem dX2_findModels_36 : decode cX2_findModels 36 = .ok (.aload_n 0, 1) := by decide +kernel
theorem dX2_findModels_37 : decode cX2_findModels 37 = .ok (.getfield 13, 3) := by decide +kernel
theorem dX2_findModels_40 : decode cX2_findModels 40 = .ok (.iload_n 3, 1) := by decide +kernel
theorem dX2_findModels_41 : decode cX2_findModels 41 = .ok (.iaload, 1) := by decide +kernel
theorem dX2_findModels_42 : decode cX2_findModels 42 = .ok (.invokevirtual 38, 3) := by decide +kernel
theorem dX2_findModels_45 : decode cX2_findModels 45 = .ok (.ifCond .ne 10, 3) := by decide +kernel
theorem dX2_findModels_48 : decode cX2_findModels 48 = .ok (.aload_n 0, 1) := by decide +kernel
theorem dX2_findModels_49 : decode cX2_findModels 49 = .ok (.getfield 17, 3) := by decide +kernel
theorem dX2_findModels_52 : decode cX2_findModels 52 = .ok (.iload_n 2, 1) := by decide +kernel
theorem dX2_findModels_53 : decode cX2_findModels 53 = .ok (.iconst 0, 1) := by decide +kernel
theorem dX2_findModels_54 : decode cX2_findModels 54 = .ok (.bastore, 1) := by decide +kernel
theorem dX2_findModels_55 : decode cX2_findModels 55 = .ok (.iinc 3 1, 3) := by decide +kernel
theorem dX2_findModels_58 : decode cX2_findModels 58 = .ok (.goto (-37), 3) := by decide +kernel
theorem dX2_findModels_61 : decode cX2_findModels 61 = .ok (.iinc 2 1, 3) := by decide +kernel
theorem dX2_findModels_64 : decode cX2_findModels 64 = .ok (.goto (-62), 3) := by decide +kernel
theorem dX2_findModels_67 : decode cX2_findModels 67 = .ok (.return_, 1) := by decide +kernel
theorem dX2_satisfies_0 : decode cX2_satisfies 0 = .ok (.iload_n 2, 1) := by decide +kernel
theorem dX2_satisfies_1 : decode cX2_satisfies 1 = .ok (.istore_n 3, 1) := by decide +kernel
theorem dX2_satisfies_2 : decode cX2_satisfies 2 = .ok (.iconst 0, 1) := by decide +kernel
theorem dX2_satisfies_3 : decode cX2_satisfies 3 = .ok (.istore 4, 2) := by decide +kernel
theorem dX2_satisfies_5 : decode cX2_satisfies 5 = .ok (.iload 4, 2) := by decide +kernel
theorem dX2_satisfies_7 : decode cX2_satisfies 7 = .ok (.aload_n 0, 1) := by decide +kernel
theorem dX2_satisfies_8 : decode cX2_satisfies 8 = .ok (.getfield 24, 3) := by decide +kernel
theorem dX2_satisfies_11 : decode cX2_satisfies 11 = .ok (.if_icmp .ge 51, 3) := by decide +kernel
theorem dX2_satisfies_14 : decode cX2_satisfies 14 = .ok (.iload_n 3, 1) := by decide +kernel
theorem dX2_satisfies_15 : decode cX2_satisfies 15 = .ok (.iconst 3, 1) := by decide +kernel
theorem dX2_satisfies_16 : decode cX2_satisfies 16 = .ok (.irem, 1) := by decide +kernel
theorem dX2_satisfies_17 : decode cX2_satisfies 17 = .ok (.istore 5, 2) := by decide +kernel
theorem dX2_satisfies_19 : decode cX2_satisfies 19 = .ok (.iload_n 3, 1) := by decide +kernel
theorem dX2_satisfies_20 : decode cX2_satisfies 20 = .ok (.iconst 3, 1) := by decide +kernel
theorem dX2_satisfies_21 : decode cX2_satisfies 21 = .ok (.idiv, 1) := by decide +kernel
theorem dX2_satisfies_22 : decode cX2_satisfies 22 = .ok (.istore_n 3, 1) := by decide +kernel
theorem dX2_satisfies_23 : decode cX2_satisfies 23 = .ok (.iload 5, 2) := by decide +kernel
theorem dX2_satisfies_25 : decode cX2_satisfies 25 = .ok (.iconst 1, 1) := by decide +kernel
theorem dX2_satisfies_26 : decode cX2_satisfies 26 = .ok (.if_icmp .ne 13, 3) := by decide +kernel
theorem dX2_satisfies_29 : decode cX2_satisfies 29 = .ok (.iload_n 1, 1) := by decide +kernel
theorem dX2_satisfies_30 : decode cX2_satisfies 30 = .ok (.iload 4, 2) := by decide +kernel
theorem dX2_satisfies_32 : decode cX2_satisfies 32 = .ok (.ishr, 1) := by decide +kernel
theorem dX2_satisfies_33 : decode cX2_satisfies 33 = .ok (.iconst 1, 1) := by decide +kernel
theorem dX2_satisfies_34 : decode cX2_satisfies 34 = .ok (.iand, 1) := by decide +kernel
theorem dX2_satisfies_35 : decode cX2_satisfies 35 = .ok (.iconst 1, 1) := by decide +kernel
theorem dX2_satisfies_36 : decode cX2_satisfies 36 = .ok (.if_icmp .eq 18, 3) := by decide +kernel
theorem dX2_satisfies_39 : decode cX2_satisfies 39 = .ok (.iload 5, 2) := by decide +kernel
theorem dX2_satisfies_41 : decode cX2_satisfies 41 = .ok (.iconst 2, 1) := by decide +kernel
theorem dX2_satisfies_42 : decode cX2_satisfies 42 = .ok (.if_icmp .ne 14, 3) := by decide +kernel
theorem dX2_satisfies_45 : decode cX2_satisfies 45 = .ok (.iload_n 1, 1) := by decide +kernel
theorem dX2_satisfies_46 : decode cX2_satisfies 46 = .ok (.iload 4, 2) := by decide +kernel
theorem dX2_satisfies_48 : decode cX2_satisfies 48 = .ok (.ishr, 1) := by decide +kernel
theorem dX2_satisfies_49 : decode cX2_satisfies 49 = .ok (.iconst 1, 1) := by decide +kernel
theorem dX2_satisfies_50 : decode cX2_satisfies 50 = .ok (.iand, 1) := by decide +kernel
theorem dX2_satisfies_51 : decode cX2_satisfies 51 = .ok (.ifCond .ne 5, 3) := by decide +kernel
theorem dX2_satisfies_54 : decode cX2_satisfies 54 = .ok (.iconst 1, 1) := by decide +kernel
theorem dX2_satisfies_55 : decode cX2_satisfies 55 = .ok (.ireturn, 1) := by decide +kernel
theorem dX2_satisfies_56 : decode cX2_satisfies 56 = .ok (.iinc 4 1, 3) := by decide +kernel
theorem dX2_satisfies_59 : decode cX2_satisfies 59 = .ok (.goto (-54), 3) := by decide +kernel
theorem dX2_satisfies_62 : decode cX2_satisfies 62 = .ok (.iconst 0, 1) := by decide +kernel
theorem dX2_satisfies_63 : decode cX2_satisfies 63 = .ok (.ireturn, 1) := by decide +kernel
theorem dX2_followsNow_0 : decode cX2_followsNow 0 = .ok (.iconst 0, 1) := by decide +kernel
theorem dX2_followsNow_1 : decode cX2_followsNow 1 = .ok (.istore_n 2, 1) := by decide +kernel
theorem dX2_followsNow_2 : decode cX2_followsNow 2 = .ok (.iload_n 2, 1) := by decide +kernel
theorem dX2_followsNow_3 : decode cX2_followsNow 3 = .ok (.iconst 1, 1) := by decide +kernel
theorem dX2_followsNow_4 : decode cX2_followsNow 4 = .ok (.aload_n 0, 1) := by decide +kernel
theorem dX2_followsNow_5 : decode cX2_followsNow 5 = .ok (.getfield 24, 3) := by decide +kernel
theorem dX2_followsNow_8 : decode cX2_followsNow 8 = .ok (.ishl, 1) := by decide +kernel
theorem dX2_followsNow_9 : decode cX2_followsNow 9 = .ok (.if_icmp .ge 29, 3) := by decide +kernel
theorem dX2_followsNow_12 : decode cX2_followsNow 12 = .ok (.aload_n 0, 1) := by decide +kernel
theorem dX2_followsNow_13 : decode cX2_followsNow 13 = .ok (.getfield 17, 3) := by decide +kernel
theorem dX2_followsNow_16 : decode cX2_followsNow 16 = .ok (.iload_n 2, 1) := by decide +kernel
theorem dX2_followsNow_17 : decode cX2_followsNow 17 = .ok (.baload, 1) := by decide +kernel
theorem dX2_followsNow_18 : decode cX2_followsNow 18 = .ok (.ifCond .eq 14, 3) := by decide +kernel
theorem dX2_followsNow_21 : decode cX2_followsNow 21 = .ok (.aload_n 0, 1) := by decide +kernel
theorem dX2_followsNow_22 : decode cX2_followsNow 22 = .ok (.iload_n 2, 1) := by decide +kernel
theorem dX2_followsNow_23 : decode cX2_followsNow 23 = .ok (.iload_n 1, 1) := by decide +kernel
theorem dX2_followsNow_24 : decode cX2_followsNow 24 = .ok (.invokevirtual 38, 3) := by decide +kernel
theorem dX2_followsNow_27 : decode cX2_followsNow 27 = .ok (.ifCond .ne 5, 3) := by decide +kernel
theorem dX2_followsNow_30 : decode cX2_followsNow 30 = .ok (.iconst 0, 1) := by decide +kernel
theorem dX2_followsNow_31 : decode cX2_followsNow 31 = .ok (.ireturn, 1) := by decide +kernel
theorem dX2_followsNow_32 : decode cX2_followsNow 32 = .ok (.iinc 2 1, 3) := by decide +kernel
theorem dX2_followsNow_35 : decode cX2_followsNow 35 = .ok (.goto (-33), 3) := by decide +kernel
theorem dX2_followsNow_38 : decode cX2_followsNow 38 = .ok (.iconst 1, 1) := by decide +kernel
theorem dX2_followsNow_39 : decode cX2_followsNow 39 = .ok (.ireturn, 1) := by decide +kernel
theorem dX2_primes_0 : decode cX2_primes 0 = .ok (.aload_n 0, 1) := by decide +kernel
theorem dX2_primes_1 : decode cX2_primes 1 = .ok (.invokevirtual 52, 3) := by decide +kernel
theorem dX2_primes_4 : decode cX2_primes 4 = .ok (.iconst 0, 1) := by decide +kernel
theorem dX2_primes_5 : decode cX2_primes 5 = .ok (.istore_n 1, 1) := by decide +kernel
theorem dX2_primes_6 : decode cX2_primes 6 = .ok (.iconst 0, 1) := by decide +kernel
theorem dX2_primes_7 : decode cX2_primes 7 = .ok (.istore_n 2, 1) := by decide +kernel
theorem dX2_primes_8 : decode cX2_primes 8 = .ok (.iload_n 2, 1) := by decide +kernel
theorem dX2_primes_9 : decode cX2_primes 9 = .ok (.aload_n 0, 1) := by decide +kernel
theorem dX2_primes_10 : decode cX2_primes 10 = .ok (.getfield 27, 3) := by decide +kernel
theorem dX2_primes_13 : decode cX2_primes 13 = .ok (.if_icmp .ge 20, 3) := by decide +kernel
theorem dX2_primes_16 : decode cX2_primes 16 = .ok (.aload_n 0, 1) := by decide +kernel
theorem dX2_primes_17 : decode cX2_primes 17 = .ok (.iload_n 2, 1) := by decide +kernel
theorem dX2_primes_18 : decode cX2_primes 18 = .ok (.invokevirtual 55, 3) := by decide +kernel
theorem dX2_primes_21 : decode cX2_primes 21 = .ok (.ifCond .eq 6, 3) := by decide +kernel
theorem dX2_primes_24 : decode cX2_primes 24 = .ok (.iinc 1 1, 3) := by decide +kernel
theorem dX2_primes_27 : decode cX2_primes 27 = .ok (.iinc 2 1, 3) := by decide +kernel
theorem dX2_primes_30 : decode cX2_primes 30 = .ok (.goto (-22), 3) := by decide +kernel
theorem dX2_primes_33 : decode cX2_primes 33 = .ok (.iload_n 1, 1) := by decide +kernel
theorem dX2_primes_34 : decode cX2_primes 34 = .ok (.ireturn, 1) := by decide +kernel
theorem dX2_findFollowing_0 : decode cX2_findFollowing 0 = .ok (.aload_n 0, 1) := by decide +kernel
theorem dX2_findFollowing_1 : decode cX2_findFollowing 1 = .ok (.iconst (-1), 1) := by decide +kernel
theorem dX2_findFollowing_2 : decode cX2_findFollowing 2 = .ok (.invokevirtual 42, 3) := by decide +kernel
theorem dX2_findFollowing_5 : decode cX2_findFollowing 5 = .ok (.iconst 0, 1) := by decide +kernel
theorem dX2_findFollowing_6 : decode cX2_findFollowing 6 = .ok (.istore_n 1, 1) := by decide +kernel
theorem dX2_findFollowing_7 : decode cX2_findFollowing 7 = .ok (.iload_n 1, 1) := by decide +kernel
theorem dX2_findFollowing_8 : decode cX2_findFollowing 8 = .ok (.aload_n 0, 1) := by decide +kernel
theorem dX2_findFollowing_9 : decode cX2_findFollowing 9 = .ok (.getfield 27, 3) := by decide +kernel
theorem dX2_findFollowing_12 : decode cX2_findFollowing 12 = .ok (.if_icmp .ge 20, 3) := by decide +kernel
theorem dX2_findFollowing_15 : decode cX2_findFollowing 15 = .ok (.aload_n 0, 1) := by decide +kernel
theorem dX2_findFollowing_16 : decode cX2_findFollowing 16 = .ok (.getfield 21, 3) := by decide +kernel
theorem dX2_findFollowing_19 : decode cX2_findFollowing 19 = .ok (.iload_n 1, 1) := by decide +kernel
theorem dX2_findFollowing_20 : decode cX2_findFollowing 20 = .ok (.aload_n 0, 1) := by decide +kernel
theorem dX2_findFollowing_21 : decode cX2_findFollowing 21 = .ok (.iload_n 1, 1) := by decide +kernel
theorem dX2_findFollowing_22 : decode cX2_findFollowing 22 = .ok (.invokevirtual 46, 3) := by decide +kernel
theorem dX2_findFollowing_25 : decode cX2_findFollowing 25 = .ok (.bastore, 1) := by decide +kernel
theorem dX2_findFollowing_26 : decode cX2_findFollowing 26 = .ok (.iinc 1 1, 3) := by decide +kernel
theorem dX2_findFollowing_29 : decode cX2_findFollowing 29 = .ok (.goto (-22), 3) := by decide +kernel
theorem dX2_findFollowing_32 : decode cX2_findFollowing 32 = .ok (.return_, 1) := by decide +kernel
theorem dX2_isPrime_0 : decode cX2_isPrime 0 = .ok (.aload_n 0, 1) := by decide +kernel
theorem dX2_isPrime_1 : decode cX2_isPrime 1 = .ok (.getfield 21, 3) := by decide +kernel
theorem dX2_isPrime_4 : decode cX2_isPrime 4 = .ok (.iload_n 1, 1) := by decide +kernel
theorem dX2_isPrime_5 : decode cX2_isPrime 5 = .ok (.baload, 1) := by decide +kernel
theorem dX2_isPrime_6 : decode cX2_isPrime 6 = .ok (.ifCond .ne 5, 3) := by decide +kernel
theorem dX2_isPrime_9 : decode cX2_isPrime 9 = .ok (.iconst 0, 1) := by decide +kernel
theorem dX2_isPrime_10 : decode cX2_isPrime 10 = .ok (.ireturn, 1) := by decide +kernel
theorem dX2_isPrime_11 : decode cX2_isPrime 11 = .ok (.iconst 0, 1) := by decide +kernel
theorem dX2_isPrime_12 : decode cX2_isPrime 12 = .ok (.istore_n 2, 1) := by decide +kernel
theorem dX2_isPrime_13 : decode cX2_isPrime 13 = .ok (.iload_n 2, 1) := by decide +kernel
theorem dX2_isPrime_14 : decode cX2_isPrime 14 = .ok (.aload_n 0, 1) := by decide +kernel
theorem dX2_isPrime_15 : decode cX2_isPrime 15 = .ok (.getfield 27, 3) := by decide +kernel
theorem dX2_isPrime_18 : decode cX2_isPrime 18 = .ok (.if_icmp .ge 34, 3) := by decide +kernel
theorem dX2_isPrime_21 : decode cX2_isPrime 21 = .ok (.iload_n 2, 1) := by decide +kernel
theorem dX2_isPrime_22 : decode cX2_isPrime 22 = .ok (.iload_n 1, 1) := by decide +kernel
theorem dX2_isPrime_23 : decode cX2_isPrime 23 = .ok (.if_icmp .eq 23, 3) := by decide +kernel
theorem dX2_isPrime_26 : decode cX2_isPrime 26 = .ok (.aload_n 0, 1) := by decide +kernel
theorem dX2_isPrime_27 : decode cX2_isPrime 27 = .ok (.getfield 21, 3) := by decide +kernel
theorem dX2_isPrime_30 : decode cX2_isPrime 30 = .ok (.iload_n 2, 1) := by decide +kernel
theorem dX2_isPrime_31 : decode cX2_isPrime 31 = .ok (.baload, 1) := by decide +kernel
theorem dX2_isPrime_32 : decode cX2_isPrime 32 = .ok (.ifCond .eq 14, 3) := by decide +kernel
theorem dX2_isPrime_35 : decode cX2_isPrime 35 = .ok (.aload_n 0, 1) := by decide +kernel
theorem dX2_isPrime_36 : decode cX2_isPrime 36 = .ok (.iload_n 2, 1) := by decide +kernel
theorem dX2_isPrime_37 : decode cX2_isPrime 37 = .ok (.iload_n 1, 1) := by decide +kernel
theorem dX2_isPrime_38 : decode cX2_isPrime 38 = .ok (.invokevirtual 49, 3) := by decide +kernel
theorem dX2_isPrime_41 : decode cX2_isPrime 41 = .ok (.ifCond .eq 5, 3) := by decide +kernel
theorem dX2_isPrime_44 : decode cX2_isPrime 44 = .ok (.iconst 0, 1) := by decide +kernel
theorem dX2_isPrime_45 : decode cX2_isPrime 45 = .ok (.ireturn, 1) := by decide +kernel
theorem dX2_isPrime_46 : decode cX2_isPrime 46 = .ok (.iinc 2 1, 3) := by decide +kernel
theorem dX2_isPrime_49 : decode cX2_isPrime 49 = .ok (.goto (-36), 3) := by decide +kernel
theorem dX2_isPrime_52 : decode cX2_isPrime 52 = .ok (.iconst 1, 1) := by decide +kernel
theorem dX2_isPrime_53 : decode cX2_isPrime 53 = .ok (.ireturn, 1) := by decide +kernel
theorem dX2_within_0 : decode cX2_within 0 = .ok (.iload_n 1, 1) := by decide +kernel
theorem dX2_within_1 : decode cX2_within 1 = .ok (.istore_n 3, 1) := by decide +kernel
theorem dX2_within_2 : decode cX2_within 2 = .ok (.iload_n 2, 1) := by decide +kernel
theorem dX2_within_3 : decode cX2_within 3 = .ok (.istore 4, 2) := by decide +kernel
theorem dX2_within_5 : decode cX2_within 5 = .ok (.iconst 0, 1) := by decide +kernel
theorem dX2_within_6 : decode cX2_within 6 = .ok (.istore 5, 2) := by decide +kernel
theorem dX2_within_8 : decode cX2_within 8 = .ok (.iload 5, 2) := by decide +kernel
theorem dX2_within_10 : decode cX2_within 10 = .ok (.aload_n 0, 1) := by decide +kernel
theorem dX2_within_11 : decode cX2_within 11 = .ok (.getfield 24, 3) := by decide +kernel
theorem dX2_within_14 : decode cX2_within 14 = .ok (.if_icmp .ge 37, 3) := by decide +kernel
theorem dX2_within_17 : decode cX2_within 17 = .ok (.iload_n 3, 1) := by decide +kernel
theorem dX2_within_18 : decode cX2_within 18 = .ok (.iconst 3, 1) := by decide +kernel
theorem dX2_within_19 : decode cX2_within 19 = .ok (.irem, 1) := by decide +kernel
theorem dX2_within_20 : decode cX2_within 20 = .ok (.ifCond .eq 15, 3) := by decide +kernel
theorem dX2_within_23 : decode cX2_within 23 = .ok (.iload_n 3, 1) := by decide +kernel
theorem dX2_within_24 : decode cX2_within 24 = .ok (.iconst 3, 1) := by decide +kernel
theorem dX2_within_25 : decode cX2_within 25 = .ok (.irem, 1) := by decide +kernel
theorem dX2_within_26 : decode cX2_within 26 = .ok (.iload 4, 2) := by decide +kernel
theorem dX2_within_28 : decode cX2_within 28 = .ok (.iconst 3, 1) := by decide +kernel
theorem dX2_within_29 : decode cX2_within 29 = .ok (.irem, 1) := by decide +kernel
theorem dX2_within_30 : decode cX2_within 30 = .ok (.if_icmp .eq 5, 3) := by decide +kernel
theorem dX2_within_33 : decode cX2_within 33 = .ok (.iconst 0, 1) := by decide +kernel
theorem dX2_within_34 : decode cX2_within 34 = .ok (.ireturn, 1) := by decide +kernel
theorem dX2_within_35 : decode cX2_within 35 = .ok (.iload_n 3, 1) := by decide +kernel
theorem dX2_within_36 : decode cX2_within 36 = .ok (.iconst 3, 1) := by decide +kernel
theorem dX2_within_37 : decode cX2_within 37 = .ok (.idiv, 1) := by decide +kernel
theorem dX2_within_38 : decode cX2_within 38 = .ok (.istore_n 3, 1) := by decide +kernel
theorem dX2_within_39 : decode cX2_within 39 = .ok (.iload 4, 2) := by decide +kernel
theorem dX2_within_41 : decode cX2_within 41 = .ok (.iconst 3, 1) := by decide +kernel
theorem dX2_within_42 : decode cX2_within 42 = .ok (.idiv, 1) := by decide +kernel
theorem dX2_within_43 : decode cX2_within 43 = .ok (.istore 4, 2) := by decide +kernel
theorem dX2_within_45 : decode cX2_within 45 = .ok (.iinc 5 1, 3) := by decide +kernel
theorem dX2_within_48 : decode cX2_within 48 = .ok (.goto (-40), 3) := by decide +kernel
theorem dX2_within_51 : decode cX2_within 51 = .ok (.iconst 1, 1) := by decide +kernel
theorem dX2_within_52 : decode cX2_within 52 = .ok (.ireturn, 1) := by decide +kernel
theorem dX2_prime_0 : decode cX2_prime 0 = .ok (.aload_n 0, 1) := by decide +kernel
theorem dX2_prime_1 : decode cX2_prime 1 = .ok (.invokevirtual 52, 3) := by decide +kernel
theorem dX2_prime_4 : decode cX2_prime 4 = .ok (.iconst 0, 1) := by decide +kernel
theorem dX2_prime_5 : decode cX2_prime 5 = .ok (.istore_n 2, 1) := by decide +kernel
theorem dX2_prime_6 : decode cX2_prime 6 = .ok (.iconst 0, 1) := by decide +kernel
theorem dX2_prime_7 : decode cX2_prime 7 = .ok (.istore_n 3, 1) := by decide +kernel
theorem dX2_prime_8 : decode cX2_prime 8 = .ok (.iload_n 3, 1) := by decide +kernel
theorem dX2_prime_9 : decode cX2_prime 9 = .ok (.aload_n 0, 1) := by decide +kernel
theorem dX2_prime_10 : decode cX2_prime 10 = .ok (.getfield 27, 3) := by decide +kernel
theorem dX2_prime_13 : decode cX2_prime 13 = .ok (.if_icmp .ge 27, 3) := by decide +kernel
theorem dX2_prime_16 : decode cX2_prime 16 = .ok (.aload_n 0, 1) := by decide +kernel
theorem dX2_prime_17 : decode cX2_prime 17 = .ok (.iload_n 3, 1) := by decide +kernel
theorem dX2_prime_18 : decode cX2_prime 18 = .ok (.invokevirtual 55, 3) := by decide +kernel
theorem dX2_prime_21 : decode cX2_prime 21 = .ok (.ifCond .eq 13, 3) := by decide +kernel
theorem dX2_prime_24 : decode cX2_prime 24 = .ok (.iload_n 2, 1) := by decide +kernel
theorem dX2_prime_25 : decode cX2_prime 25 = .ok (.iload_n 1, 1) := by decide +kernel
theorem dX2_prime_26 : decode cX2_prime 26 = .ok (.if_icmp .ne 5, 3) := by decide +kernel
theorem dX2_prime_29 : decode cX2_prime 29 = .ok (.iload_n 3, 1) := by decide +kernel
theorem dX2_prime_30 : decode cX2_prime 30 = .ok (.ireturn, 1) := by decide +kernel
theorem dX2_prime_31 : decode cX2_prime 31 = .ok (.iinc 2 1, 3) := by decide +kernel
theorem dX2_prime_34 : decode cX2_prime 34 = .ok (.iinc 3 1, 3) := by decide +kernel
theorem dX2_prime_37 : decode cX2_prime 37 = .ok (.goto (-29), 3) := by decide +kernel
theorem dX2_prime_40 : decode cX2_prime 40 = .ok (.bipush (-2), 2) := by decide +kernel
theorem dX2_prime_42 : decode cX2_prime 42 = .ok (.ireturn, 1) := by decide +kernel
theorem dX2_primeWithin_0 : decode cX2_primeWithin 0 = .ok (.aload_n 0, 1) := by decide +kernel
theorem dX2_primeWithin_1 : decode cX2_primeWithin 1 = .ok (.iload_n 1, 1) := by decide +kernel
theorem dX2_primeWithin_2 : decode cX2_primeWithin 2 = .ok (.invokevirtual 30, 3) := by decide +kernel
theorem dX2_primeWithin_5 : decode cX2_primeWithin 5 = .ok (.ifCond .ne 5, 3) := by decide +kernel
theorem dX2_primeWithin_8 : decode cX2_primeWithin 8 = .ok (.iconst (-1), 1) := by decide +kernel
theorem dX2_primeWithin_9 : decode cX2_primeWithin 9 = .ok (.ireturn, 1) := by decide +kernel
theorem dX2_primeWithin_10 : decode cX2_primeWithin 10 = .ok (.aload_n 0, 1) := by decide +kernel
theorem dX2_primeWithin_11 : decode cX2_primeWithin 11 = .ok (.invokevirtual 52, 3) := by decide +kernel
theorem dX2_primeWithin_14 : decode cX2_primeWithin 14 = .ok (.iconst 0, 1) := by decide +kernel
theorem dX2_primeWithin_15 : decode cX2_primeWithin 15 = .ok (.istore_n 2, 1) := by decide +kernel
theorem dX2_primeWithin_16 : decode cX2_primeWithin 16 = .ok (.iload_n 2, 1) := by decide +kernel
theorem dX2_primeWithin_17 : decode cX2_primeWithin 17 = .ok (.aload_n 0, 1) := by decide +kernel
theorem dX2_primeWithin_18 : decode cX2_primeWithin 18 = .ok (.getfield 27, 3) := by decide +kernel
theorem dX2_primeWithin_21 : decode cX2_primeWithin 21 = .ok (.if_icmp .ge 28, 3) := by decide +kernel
theorem dX2_primeWithin_24 : decode cX2_primeWithin 24 = .ok (.aload_n 0, 1) := by decide +kernel
theorem dX2_primeWithin_25 : decode cX2_primeWithin 25 = .ok (.iload_n 2, 1) := by decide +kernel
theorem dX2_primeWithin_26 : decode cX2_primeWithin 26 = .ok (.iload_n 1, 1) := by decide +kernel
theorem dX2_primeWithin_27 : decode cX2_primeWithin 27 = .ok (.invokevirtual 49, 3) := by decide +kernel
theorem dX2_primeWithin_30 : decode cX2_primeWithin 30 = .ok (.ifCond .eq 13, 3) := by decide +kernel
theorem dX2_primeWithin_33 : decode cX2_primeWithin 33 = .ok (.aload_n 0, 1) := by decide +kernel
theorem dX2_primeWithin_34 : decode cX2_primeWithin 34 = .ok (.iload_n 2, 1) := by decide +kernel
theorem dX2_primeWithin_35 : decode cX2_primeWithin 35 = .ok (.invokevirtual 55, 3) := by decide +kernel
theorem dX2_primeWithin_38 : decode cX2_primeWithin 38 = .ok (.ifCond .eq 5, 3) := by decide +kernel
theorem dX2_primeWithin_41 : decode cX2_primeWithin 41 = .ok (.iload_n 2, 1) := by decide +kernel
theorem dX2_primeWithin_42 : decode cX2_primeWithin 42 = .ok (.ireturn, 1) := by decide +kernel
theorem dX2_primeWithin_43 : decode cX2_primeWithin 43 = .ok (.iinc 2 1, 3) := by decide +kernel
theorem dX2_primeWithin_46 : decode cX2_primeWithin 46 = .ok (.goto (-30), 3) := by decide +kernel
theorem dX2_primeWithin_49 : decode cX2_primeWithin 49 = .ok (.bipush (-2), 2) := by decide +kernel
theorem dX2_primeWithin_51 : decode cX2_primeWithin 51 = .ok (.ireturn, 1) := by decide +kernel
theorem dX2_models_0 : decode cX2_models 0 = .ok (.aload_n 0, 1) := by decide +kernel
theorem dX2_models_1 : decode cX2_models 1 = .ok (.iconst (-1), 1) := by decide +kernel
theorem dX2_models_2 : decode cX2_models 2 = .ok (.invokevirtual 42, 3) := by decide +kernel
theorem dX2_models_5 : decode cX2_models 5 = .ok (.iconst 0, 1) := by decide +kernel
theorem dX2_models_6 : decode cX2_models 6 = .ok (.istore_n 1, 1) := by decide +kernel
theorem dX2_models_7 : decode cX2_models 7 = .ok (.iconst 0, 1) := by decide +kernel
theorem dX2_models_8 : decode cX2_models 8 = .ok (.istore_n 2, 1) := by decide +kernel
theorem dX2_models_9 : decode cX2_models 9 = .ok (.iload_n 2, 1) := by decide +kernel
theorem dX2_models_10 : decode cX2_models 10 = .ok (.iconst 1, 1) := by decide +kernel
theorem dX2_models_11 : decode cX2_models 11 = .ok (.aload_n 0, 1) := by decide +kernel
theorem dX2_models_12 : decode cX2_models 12 = .ok (.getfield 24, 3) := by decide +kernel
theorem dX2_models_15 : decode cX2_models 15 = .ok (.ishl, 1) := by decide +kernel
theorem dX2_models_16 : decode cX2_models 16 = .ok (.if_icmp .ge 21, 3) := by decide +kernel
theorem dX2_models_19 : decode cX2_models 19 = .ok (.aload_n 0, 1) := by decide +kernel
theorem dX2_models_20 : decode cX2_models 20 = .ok (.getfield 17, 3) := by decide +kernel
theorem dX2_models_23 : decode cX2_models 23 = .ok (.iload_n 2, 1) := by decide +kernel
theorem dX2_models_24 : decode cX2_models 24 = .ok (.baload, 1) := by decide +kernel
theorem dX2_models_25 : decode cX2_models 25 = .ok (.ifCond .eq 6, 3) := by decide +kernel
theorem dX2_models_28 : decode cX2_models 28 = .ok (.iinc 1 1, 3) := by decide +kernel
theorem dX2_models_31 : decode cX2_models 31 = .ok (.iinc 2 1, 3) := by decide +kernel
theorem dX2_models_34 : decode cX2_models 34 = .ok (.goto (-25), 3) := by decide +kernel
theorem dX2_models_37 : decode cX2_models 37 = .ok (.iload_n 1, 1) := by decide +kernel
theorem dX2_models_38 : decode cX2_models 38 = .ok (.ireturn, 1) := by decide +kernel
theorem dX2_leastModel_0 : decode cX2_leastModel 0 = .ok (.aload_n 0, 1) := by decide +kernel
theorem dX2_leastModel_1 : decode cX2_leastModel 1 = .ok (.iconst (-1), 1) := by decide +kernel
theorem dX2_leastModel_2 : decode cX2_leastModel 2 = .ok (.invokevirtual 42, 3) := by decide +kernel
theorem dX2_leastModel_5 : decode cX2_leastModel 5 = .ok (.iload_n 1, 1) := by decide +kernel
theorem dX2_leastModel_6 : decode cX2_leastModel 6 = .ok (.iconst 1, 1) := by decide +kernel
theorem dX2_leastModel_7 : decode cX2_leastModel 7 = .ok (.aload_n 0, 1) := by decide +kernel
theorem dX2_leastModel_8 : decode cX2_leastModel 8 = .ok (.getfield 24, 3) := by decide +kernel
theorem dX2_leastModel_11 : decode cX2_leastModel 11 = .ok (.ishl, 1) := by decide +kernel
theorem dX2_leastModel_12 : decode cX2_leastModel 12 = .ok (.iconst 1, 1) := by decide +kernel
theorem dX2_leastModel_13 : decode cX2_leastModel 13 = .ok (.isub, 1) := by decide +kernel
theorem dX2_leastModel_14 : decode cX2_leastModel 14 = .ok (.iand, 1) := by decide +kernel
theorem dX2_leastModel_15 : decode cX2_leastModel 15 = .ok (.istore_n 3, 1) := by decide +kernel
theorem dX2_leastModel_16 : decode cX2_leastModel 16 = .ok (.iconst 0, 1) := by decide +kernel
theorem dX2_leastModel_17 : decode cX2_leastModel 17 = .ok (.istore 4, 2) := by decide +kernel
theorem dX2_leastModel_19 : decode cX2_leastModel 19 = .ok (.iload 4, 2) := by decide +kernel
theorem dX2_leastModel_21 : decode cX2_leastModel 21 = .ok (.iconst 1, 1) := by decide +kernel
theorem dX2_leastModel_22 : decode cX2_leastModel 22 = .ok (.aload_n 0, 1) := by decide +kernel
theorem dX2_leastModel_23 : decode cX2_leastModel 23 = .ok (.getfield 24, 3) := by decide +kernel
theorem dX2_leastModel_26 : decode cX2_leastModel 26 = .ok (.ishl, 1) := by decide +kernel
theorem dX2_leastModel_27 : decode cX2_leastModel 27 = .ok (.if_icmp .ge 31, 3) := by decide +kernel
theorem dX2_leastModel_30 : decode cX2_leastModel 30 = .ok (.aload_n 0, 1) := by decide +kernel
theorem dX2_leastModel_31 : decode cX2_leastModel 31 = .ok (.getfield 17, 3) := by decide +kernel
theorem dX2_leastModel_34 : decode cX2_leastModel 34 = .ok (.iload 4, 2) := by decide +kernel
theorem dX2_leastModel_36 : decode cX2_leastModel 36 = .ok (.baload, 1) := by decide +kernel
theorem dX2_leastModel_37 : decode cX2_leastModel 37 = .ok (.ifCond .eq 15, 3) := by decide +kernel
theorem dX2_leastModel_40 : decode cX2_leastModel 40 = .ok (.iload 4, 2) := by decide +kernel
theorem dX2_leastModel_42 : decode cX2_leastModel 42 = .ok (.iload_n 2, 1) := by decide +kernel
theorem dX2_leastModel_43 : decode cX2_leastModel 43 = .ok (.ixor, 1) := by decide +kernel
theorem dX2_leastModel_44 : decode cX2_leastModel 44 = .ok (.iload_n 3, 1) := by decide +kernel
theorem dX2_leastModel_45 : decode cX2_leastModel 45 = .ok (.iand, 1) := by decide +kernel
theorem dX2_leastModel_46 : decode cX2_leastModel 46 = .ok (.ifCond .ne 6, 3) := by decide +kernel
theorem dX2_leastModel_49 : decode cX2_leastModel 49 = .ok (.iload 4, 2) := by decide +kernel
theorem dX2_leastModel_51 : decode cX2_leastModel 51 = .ok (.ireturn, 1) := by decide +kernel
theorem dX2_leastModel_52 : decode cX2_leastModel 52 = .ok (.iinc 4 1, 3) := by decide +kernel
theorem dX2_leastModel_55 : decode cX2_leastModel 55 = .ok (.goto (-36), 3) := by decide +kernel
theorem dX2_leastModel_58 : decode cX2_leastModel 58 = .ok (.bipush (-2), 2) := by decide +kernel
theorem dX2_leastModel_60 : decode cX2_leastModel 60 = .ok (.ireturn, 1) := by decide +kernel
theorem dX2_redundant_0 : decode cX2_redundant 0 = .ok (.iconst 0, 1) := by decide +kernel
theorem dX2_redundant_1 : decode cX2_redundant 1 = .ok (.istore_n 1, 1) := by decide +kernel
theorem dX2_redundant_2 : decode cX2_redundant 2 = .ok (.iconst 0, 1) := by decide +kernel
theorem dX2_redundant_3 : decode cX2_redundant 3 = .ok (.istore_n 2, 1) := by decide +kernel
theorem dX2_redundant_4 : decode cX2_redundant 4 = .ok (.iload_n 2, 1) := by decide +kernel
theorem dX2_redundant_5 : decode cX2_redundant 5 = .ok (.aload_n 0, 1) := by decide +kernel
theorem dX2_redundant_6 : decode cX2_redundant 6 = .ok (.getfield 7, 3) := by decide +kernel
theorem dX2_redundant_9 : decode cX2_redundant 9 = .ok (.if_icmp .ge 30, 3) := by decide +kernel
theorem dX2_redundant_12 : decode cX2_redundant 12 = .ok (.aload_n 0, 1) := by decide +kernel
theorem dX2_redundant_13 : decode cX2_redundant 13 = .ok (.iload_n 2, 1) := by decide +kernel
theorem dX2_redundant_14 : decode cX2_redundant 14 = .ok (.invokevirtual 42, 3) := by decide +kernel
theorem dX2_redundant_17 : decode cX2_redundant 17 = .ok (.aload_n 0, 1) := by decide +kernel
theorem dX2_redundant_18 : decode cX2_redundant 18 = .ok (.aload_n 0, 1) := by decide +kernel
theorem dX2_redundant_19 : decode cX2_redundant 19 = .ok (.getfield 13, 3) := by decide +kernel
theorem dX2_redundant_22 : decode cX2_redundant 22 = .ok (.iload_n 2, 1) := by decide +kernel
theorem dX2_redundant_23 : decode cX2_redundant 23 = .ok (.iaload, 1) := by decide +kernel
theorem dX2_redundant_24 : decode cX2_redundant 24 = .ok (.invokevirtual 46, 3) := by decide +kernel
theorem dX2_redundant_27 : decode cX2_redundant 27 = .ok (.ifCond .eq 6, 3) := by decide +kernel
theorem dX2_redundant_30 : decode cX2_redundant 30 = .ok (.iinc 1 1, 3) := by decide +kernel
theorem dX2_redundant_33 : decode cX2_redundant 33 = .ok (.iinc 2 1, 3) := by decide +kernel
theorem dX2_redundant_36 : decode cX2_redundant 36 = .ok (.goto (-32), 3) := by decide +kernel
theorem dX2_redundant_39 : decode cX2_redundant 39 = .ok (.iload_n 1, 1) := by decide +kernel
theorem dX2_redundant_40 : decode cX2_redundant 40 = .ok (.ireturn, 1) := by decide +kernel
theorem dX0_cell_0 : decode cX0_cell 0 = .ok (.iload_n 1, 1) := by decide +kernel
theorem dX0_cell_1 : decode cX0_cell 1 = .ok (.aload_n 0, 1) := by decide +kernel
theorem dX0_cell_2 : decode cX0_cell 2 = .ok (.arraylength, 1) := by decide +kernel
theorem dX0_cell_3 : decode cX0_cell 3 = .ok (.if_icmp .ge 9, 3) := by decide +kernel
theorem dX0_cell_6 : decode cX0_cell 6 = .ok (.aload_n 0, 1) := by decide +kernel
theorem dX0_cell_7 : decode cX0_cell 7 = .ok (.iload_n 1, 1) := by decide +kernel
theorem dX0_cell_8 : decode cX0_cell 8 = .ok (.iaload, 1) := by decide +kernel
theorem dX0_cell_9 : decode cX0_cell 9 = .ok (.goto 4, 3) := by decide +kernel
theorem dX0_cell_12 : decode cX0_cell 12 = .ok (.iconst 0, 1) := by decide +kernel
theorem dX0_cell_13 : decode cX0_cell 13 = .ok (.ireturn, 1) := by decide +kernel
end
end
section
section
set_option maxRecDepth 100000
/-! the law's own entry -/
abbrev cL_law : ByteArray := code
theorem dL_law_0 : decode cL_law 0 = .ok (.new 7, 3) := by decide +kernel
theorem dL_law_3 : decode cL_law 3 = .ok (.dup, 1) := by decide +kernel
theorem dL_law_4 : decode cL_law 4 = .ok (.aload_n 0, 1) := by decide +kernel
theorem dL_law_5 : decode cL_law 5 = .ok (.iconst 0, 1) := by decide +kernel
theorem dL_law_6 : decode cL_law 6 = .ok (.invokestatic 9, 3) := by decide +kernel
theorem dL_law_9 : decode cL_law 9 = .ok (.invokespecial 15, 3) := by decide +kernel
theorem dL_law_12 : decode cL_law 12 = .ok (.astore_n 1, 1) := by decide +kernel
theorem dL_law_13 : decode cL_law 13 = .ok (.new 18, 3) := by decide +kernel
theorem dL_law_16 : decode cL_law 16 = .ok (.dup, 1) := by decide +kernel
theorem dL_law_17 : decode cL_law 17 = .ok (.aload_n 0, 1) := by decide +kernel
theorem dL_law_18 : decode cL_law 18 = .ok (.iconst 0, 1) := by decide +kernel
theorem dL_law_19 : decode cL_law 19 = .ok (.invokestatic 9, 3) := by decide +kernel
theorem dL_law_22 : decode cL_law 22 = .ok (.invokespecial 20, 3) := by decide +kernel
theorem dL_law_25 : decode cL_law 25 = .ok (.astore_n 2, 1) := by decide +kernel
theorem dL_law_26 : decode cL_law 26 = .ok (.iconst 1, 1) := by decide +kernel
theorem dL_law_27 : decode cL_law 27 = .ok (.istore_n 3, 1) := by decide +kernel
theorem dL_law_28 : decode cL_law 28 = .ok (.iload_n 3, 1) := by decide +kernel
theorem dL_law_29 : decode cL_law 29 = .ok (.aload_n 0, 1) := by decide +kernel
theorem dL_law_30 : decode cL_law 30 = .ok (.arraylength, 1) := by decide +kernel
theorem dL_law_31 : decode cL_law 31 = .ok (.iconst 3, 1) := by decide +kernel
theorem dL_law_32 : decode cL_law 32 = .ok (.isub, 1) := by decide +kernel
theorem dL_law_33 : decode cL_law 33 = .ok (.if_icmp .gt 269, 3) := by decide +kernel
theorem dL_law_36 : decode cL_law 36 = .ok (.aload_n 0, 1) := by decide +kernel
theorem dL_law_37 : decode cL_law 37 = .ok (.iload_n 3, 1) := by decide +kernel
theorem dL_law_38 : decode cL_law 38 = .ok (.iaload, 1) := by decide +kernel
theorem dL_law_39 : decode cL_law 39 = .ok (.bipush 15, 2) := by decide +kernel
theorem dL_law_41 : decode cL_law 41 = .ok (.iand, 1) := by decide +kernel
theorem dL_law_42 : decode cL_law 42 = .ok (.tableswitch 254 0 9 #[54, 77, 100, 113, 136, 149, 172, 195, 208, 241], 54) := by decide +kernel
theorem dL_law_96 : decode cL_law 96 = .ok (.aload_n 1, 1) := by decide +kernel
theorem dL_law_97 : decode cL_law 97 = .ok (.aload_n 0, 1) := by decide +kernel
theorem dL_law_98 : decode cL_law 98 = .ok (.iload_n 3, 1) := by decide +kernel
theorem dL_law_99 : decode cL_law 99 = .ok (.iconst 1, 1) := by decide +kernel
theorem dL_law_100 : decode cL_law 100 = .ok (.iadd, 1) := by decide +kernel
theorem dL_law_101 : decode cL_law 101 = .ok (.iaload, 1) := by decide +kernel
theorem dL_law_102 : decode cL_law 102 = .ok (.invokevirtual 21, 3) := by decide +kernel
theorem dL_law_105 : decode cL_law 105 = .ok (.aload_n 2, 1) := by decide +kernel
theorem dL_law_106 : decode cL_law 106 = .ok (.aload_n 0, 1) := by decide +kernel
theorem dL_law_107 : decode cL_law 107 = .ok (.iload_n 3, 1) := by decide +kernel
theorem dL_law_108 : decode cL_law 108 = .ok (.iconst 1, 1) := by decide +kernel
theorem dL_law_109 : decode cL_law 109 = .ok (.iadd, 1) := by decide +kernel
theorem dL_law_110 : decode cL_law 110 = .ok (.iaload, 1) := by decide +kernel
theorem dL_law_111 : decode cL_law 111 = .ok (.invokevirtual 25, 3) := by decide +kernel
theorem dL_law_114 : decode cL_law 114 = .ok (.if_icmp .eq 182, 3) := by decide +kernel
theorem dL_law_117 : decode cL_law 117 = .ok (.iconst 0, 1) := by decide +kernel
theorem dL_law_118 : decode cL_law 118 = .ok (.ireturn, 1) := by decide +kernel
theorem dL_law_119 : decode cL_law 119 = .ok (.aload_n 1, 1) := by decide +kernel
theorem dL_law_120 : decode cL_law 120 = .ok (.aload_n 0, 1) := by decide +kernel
theorem dL_law_121 : decode cL_law 121 = .ok (.iload_n 3, 1) := by decide +kernel
theorem dL_law_122 : decode cL_law 122 = .ok (.iconst 1, 1) := by decide +kernel
theorem dL_law_123 : decode cL_law 123 = .ok (.iadd, 1) := by decide +kernel
theorem dL_law_124 : decode cL_law 124 = .ok (.iaload, 1) := by decide +kernel
theorem dL_law_125 : decode cL_law 125 = .ok (.invokevirtual 26, 3) := by decide +kernel
theorem dL_law_128 : decode cL_law 128 = .ok (.aload_n 2, 1) := by decide +kernel
theorem dL_law_129 : decode cL_law 129 = .ok (.aload_n 0, 1) := by decide +kernel
theorem dL_law_130 : decode cL_law 130 = .ok (.iload_n 3, 1) := by decide +kernel
theorem dL_law_131 : decode cL_law 131 = .ok (.iconst 1, 1) := by decide +kernel
theorem dL_law_132 : decode cL_law 132 = .ok (.iadd, 1) := by decide +kernel
theorem dL_law_133 : decode cL_law 133 = .ok (.iaload, 1) := by decide +kernel
theorem dL_law_134 : decode cL_law 134 = .ok (.invokevirtual 29, 3) := by decide +kernel
theorem dL_law_137 : decode cL_law 137 = .ok (.if_icmp .eq 159, 3) := by decide +kernel
theorem dL_law_140 : decode cL_law 140 = .ok (.iconst 0, 1) := by decide +kernel
theorem dL_law_141 : decode cL_law 141 = .ok (.ireturn, 1) := by decide +kernel
theorem dL_law_142 : decode cL_law 142 = .ok (.aload_n 1, 1) := by decide +kernel
theorem dL_law_143 : decode cL_law 143 = .ok (.invokevirtual 30, 3) := by decide +kernel
theorem dL_law_146 : decode cL_law 146 = .ok (.aload_n 2, 1) := by decide +kernel
theorem dL_law_147 : decode cL_law 147 = .ok (.invokevirtual 34, 3) := by decide +kernel
theorem dL_law_150 : decode cL_law 150 = .ok (.if_icmp .eq 146, 3) := by decide +kernel
theorem dL_law_153 : decode cL_law 153 = .ok (.iconst 0, 1) := by decide +kernel
theorem dL_law_154 : decode cL_law 154 = .ok (.ireturn, 1) := by decide +kernel
theorem dL_law_155 : decode cL_law 155 = .ok (.aload_n 1, 1) := by decide +kernel
theorem dL_law_156 : decode cL_law 156 = .ok (.aload_n 0, 1) := by decide +kernel
theorem dL_law_157 : decode cL_law 157 = .ok (.iload_n 3, 1) := by decide +kernel
theorem dL_law_158 : decode cL_law 158 = .ok (.iconst 1, 1) := by decide +kernel
theorem dL_law_159 : decode cL_law 159 = .ok (.iadd, 1) := by decide +kernel
theorem dL_law_160 : decode cL_law 160 = .ok (.iaload, 1) := by decide +kernel
theorem dL_law_161 : decode cL_law 161 = .ok (.invokevirtual 35, 3) := by decide +kernel
theorem dL_law_164 : decode cL_law 164 = .ok (.aload_n 2, 1) := by decide +kernel
theorem dL_law_165 : decode cL_law 165 = .ok (.aload_n 0, 1) := by decide +kernel
theorem dL_law_166 : decode cL_law 166 = .ok (.iload_n 3, 1) := by decide +kernel
theorem dL_law_167 : decode cL_law 167 = .ok (.iconst 1, 1) := by decide +kernel
theorem dL_law_168 : decode cL_law 168 = .ok (.iadd, 1) := by decide +kernel
theorem dL_law_169 : decode cL_law 169 = .ok (.iaload, 1) := by decide +kernel
theorem dL_law_170 : decode cL_law 170 = .ok (.invokevirtual 39, 3) := by decide +kernel
theorem dL_law_173 : decode cL_law 173 = .ok (.if_icmp .eq 123, 3) := by decide +kernel
theorem dL_law_176 : decode cL_law 176 = .ok (.iconst 0, 1) := by decide +kernel
theorem dL_law_177 : decode cL_law 177 = .ok (.ireturn, 1) := by decide +kernel
theorem dL_law_178 : decode cL_law 178 = .ok (.aload_n 1, 1) := by decide +kernel
theorem dL_law_179 : decode cL_law 179 = .ok (.invokevirtual 40, 3) := by decide +kernel
theorem dL_law_182 : decode cL_law 182 = .ok (.aload_n 2, 1) := by decide +kernel
theorem dL_law_183 : decode cL_law 183 = .ok (.invokevirtual 43, 3) := by decide +kernel
theorem dL_law_186 : decode cL_law 186 = .ok (.if_icmp .eq 110, 3) := by decide +kernel
theorem dL_law_189 : decode cL_law 189 = .ok (.iconst 0, 1) := by decide +kernel
theorem dL_law_190 : decode cL_law 190 = .ok (.ireturn, 1) := by decide +kernel
theorem dL_law_191 : decode cL_law 191 = .ok (.aload_n 1, 1) := by decide +kernel
theorem dL_law_192 : decode cL_law 192 = .ok (.aload_n 0, 1) := by decide +kernel
theorem dL_law_193 : decode cL_law 193 = .ok (.iload_n 3, 1) := by decide +kernel
theorem dL_law_194 : decode cL_law 194 = .ok (.iconst 1, 1) := by decide +kernel
theorem dL_law_195 : decode cL_law 195 = .ok (.iadd, 1) := by decide +kernel
theorem dL_law_196 : decode cL_law 196 = .ok (.iaload, 1) := by decide +kernel
theorem dL_law_197 : decode cL_law 197 = .ok (.invokevirtual 44, 3) := by decide +kernel
theorem dL_law_200 : decode cL_law 200 = .ok (.aload_n 2, 1) := by decide +kernel
theorem dL_law_201 : decode cL_law 201 = .ok (.aload_n 0, 1) := by decide +kernel
theorem dL_law_202 : decode cL_law 202 = .ok (.iload_n 3, 1) := by decide +kernel
theorem dL_law_203 : decode cL_law 203 = .ok (.iconst 1, 1) := by decide +kernel
theorem dL_law_204 : decode cL_law 204 = .ok (.iadd, 1) := by decide +kernel
theorem dL_law_205 : decode cL_law 205 = .ok (.iaload, 1) := by decide +kernel
theorem dL_law_206 : decode cL_law 206 = .ok (.invokevirtual 47, 3) := by decide +kernel
theorem dL_law_209 : decode cL_law 209 = .ok (.if_icmp .eq 87, 3) := by decide +kernel
theorem dL_law_212 : decode cL_law 212 = .ok (.iconst 0, 1) := by decide +kernel
theorem dL_law_213 : decode cL_law 213 = .ok (.ireturn, 1) := by decide +kernel
theorem dL_law_214 : decode cL_law 214 = .ok (.aload_n 1, 1) := by decide +kernel
theorem dL_law_215 : decode cL_law 215 = .ok (.aload_n 0, 1) := by decide +kernel
theorem dL_law_216 : decode cL_law 216 = .ok (.iload_n 3, 1) := by decide +kernel
theorem dL_law_217 : decode cL_law 217 = .ok (.iconst 1, 1) := by decide +kernel
theorem dL_law_218 : decode cL_law 218 = .ok (.iadd, 1) := by decide +kernel
theorem dL_law_219 : decode cL_law 219 = .ok (.iaload, 1) := by decide +kernel
theorem dL_law_220 : decode cL_law 220 = .ok (.invokevirtual 48, 3) := by decide +kernel
theorem dL_law_223 : decode cL_law 223 = .ok (.aload_n 2, 1) := by decide +kernel
theorem dL_law_224 : decode cL_law 224 = .ok (.aload_n 0, 1) := by decide +kernel
theorem dL_law_225 : decode cL_law 225 = .ok (.iload_n 3, 1) := by decide +kernel
theorem dL_law_226 : decode cL_law 226 = .ok (.iconst 1, 1) := by decide +kernel
theorem dL_law_227 : decode cL_law 227 = .ok (.iadd, 1) := by decide +kernel
theorem dL_law_228 : decode cL_law 228 = .ok (.iaload, 1) := by decide +kernel
theorem dL_law_229 : decode cL_law 229 = .ok (.invokevirtual 51, 3) := by decide +kernel
theorem dL_law_232 : decode cL_law 232 = .ok (.if_icmp .eq 64, 3) := by decide +kernel
theorem dL_law_235 : decode cL_law 235 = .ok (.iconst 0, 1) := by decide +kernel
theorem dL_law_236 : decode cL_law 236 = .ok (.ireturn, 1) := by decide +kernel
theorem dL_law_237 : decode cL_law 237 = .ok (.aload_n 1, 1) := by decide +kernel
theorem dL_law_238 : decode cL_law 238 = .ok (.invokevirtual 52, 3) := by decide +kernel
theorem dL_law_241 : decode cL_law 241 = .ok (.aload_n 2, 1) := by decide +kernel
theorem dL_law_242 : decode cL_law 242 = .ok (.invokevirtual 55, 3) := by decide +kernel
theorem dL_law_245 : decode cL_law 245 = .ok (.if_icmp .eq 51, 3) := by decide +kernel
theorem dL_law_248 : decode cL_law 248 = .ok (.iconst 0, 1) := by decide +kernel
theorem dL_law_249 : decode cL_law 249 = .ok (.ireturn, 1) := by decide +kernel
theorem dL_law_250 : decode cL_law 250 = .ok (.aload_n 1, 1) := by decide +kernel
theorem dL_law_251 : decode cL_law 251 = .ok (.aload_n 0, 1) := by decide +kernel
theorem dL_law_252 : decode cL_law 252 = .ok (.iload_n 3, 1) := by decide +kernel
theorem dL_law_253 : decode cL_law 253 = .ok (.iconst 1, 1) := by decide +kernel
theorem dL_law_254 : decode cL_law 254 = .ok (.iadd, 1) := by decide +kernel
theorem dL_law_255 : decode cL_law 255 = .ok (.iaload, 1) := by decide +kernel
theorem dL_law_256 : decode cL_law 256 = .ok (.aload_n 0, 1) := by decide +kernel
theorem dL_law_257 : decode cL_law 257 = .ok (.iload_n 3, 1) := by decide +kernel
theorem dL_law_258 : decode cL_law 258 = .ok (.iconst 2, 1) := by decide +kernel
theorem dL_law_259 : decode cL_law 259 = .ok (.iadd, 1) := by decide +kernel
theorem dL_law_260 : decode cL_law 260 = .ok (.iaload, 1) := by decide +kernel
theorem dL_law_261 : decode cL_law 261 = .ok (.invokevirtual 56, 3) := by decide +kernel
theorem dL_law_264 : decode cL_law 264 = .ok (.aload_n 2, 1) := by decide +kernel
theorem dL_law_265 : decode cL_law 265 = .ok (.aload_n 0, 1) := by decide +kernel
theorem dL_law_266 : decode cL_law 266 = .ok (.iload_n 3, 1) := by decide +kernel
theorem dL_law_267 : decode cL_law 267 = .ok (.iconst 1, 1) := by decide +kernel
theorem dL_law_268 : decode cL_law 268 = .ok (.iadd, 1) := by decide +kernel
theorem dL_law_269 : decode cL_law 269 = .ok (.iaload, 1) := by decide +kernel
theorem dL_law_270 : decode cL_law 270 = .ok (.aload_n 0, 1) := by decide +kernel
theorem dL_law_271 : decode cL_law 271 = .ok (.iload_n 3, 1) := by decide +kernel
theorem dL_law_272 : decode cL_law 272 = .ok (.iconst 2, 1) := by decide +kernel
theorem dL_law_273 : decode cL_law 273 = .ok (.iadd, 1) := by decide +kernel
theorem dL_law_274 : decode cL_law 274 = .ok (.iaload, 1) := by decide +kernel
theorem dL_law_275 : decode cL_law 275 = .ok (.invokevirtual 60, 3) := by decide +kernel
theorem dL_law_278 : decode cL_law 278 = .ok (.if_icmp .eq 18, 3) := by decide +kernel
theorem dL_law_281 : decode cL_law 281 = .ok (.iconst 0, 1) := by decide +kernel
theorem dL_law_282 : decode cL_law 282 = .ok (.ireturn, 1) := by decide +kernel
theorem dL_law_283 : decode cL_law 283 = .ok (.aload_n 1, 1) := by decide +kernel
theorem dL_law_284 : decode cL_law 284 = .ok (.invokevirtual 61, 3) := by decide +kernel
theorem dL_law_287 : decode cL_law 287 = .ok (.aload_n 2, 1) := by decide +kernel
theorem dL_law_288 : decode cL_law 288 = .ok (.invokevirtual 64, 3) := by decide +kernel
theorem dL_law_291 : decode cL_law 291 = .ok (.if_icmp .eq 5, 3) := by decide +kernel
theorem dL_law_294 : decode cL_law 294 = .ok (.iconst 0, 1) := by decide +kernel
theorem dL_law_295 : decode cL_law 295 = .ok (.ireturn, 1) := by decide +kernel
theorem dL_law_296 : decode cL_law 296 = .ok (.iinc 3 3, 3) := by decide +kernel
theorem dL_law_299 : decode cL_law 299 = .ok (.goto (-271), 3) := by decide +kernel
theorem dL_law_302 : decode cL_law 302 = .ok (.iconst 1, 1) := by decide +kernel
theorem dL_law_303 : decode cL_law 303 = .ok (.ireturn, 1) := by decide +kernel

end
end
section
/-! PURE 1: truth values as ints, counting, ternary digits, bit masks -/
section
noncomputable def rz_i (P : Prop) : Nat := @ite Nat P (Classical.propDecidable P) 1 0
theorem rz_i_t {P : Prop} (h : P) : rz_i P = 1 := @if_pos _ (Classical.propDecidable P) h Nat 1 0
theorem rz_i_f {P : Prop} (h : ¬ P) : rz_i P = 0 := @if_neg _ (Classical.propDecidable P) h Nat 1 0
theorem rz_i_le (P : Prop) : rz_i P ≤ 1 := by
  by_cases h : P
  · rw [rz_i_t h]; exact Nat.le_refl 1
  · rw [rz_i_f h]; exact Nat.zero_le 1
noncomputable def rz_b (P : Prop) : Int32 := nI (rz_i P)
theorem rz_nI0 : nI 0 = 0 := by decide +kernel
theorem rz_nI1 : nI 1 = 1 := by decide +kernel
theorem rz_b_t {P : Prop} (h : P) : rz_b P = 1 := by unfold rz_b; rw [rz_i_t h]; exact rz_nI1
theorem rz_b_f {P : Prop} (h : ¬ P) : rz_b P = 0 := by unfold rz_b; rw [rz_i_f h]; exact rz_nI0
theorem rz_1n0 : ¬ (1 : Int32) = 0 := by decide +kernel
theorem rz_b_eq0 {P : Prop} : rz_b P = 0 ↔ ¬ P := by
  constructor
  · intro h p
    rw [rz_b_t p] at h
    exact rz_1n0 h
  · exact rz_b_f
theorem rz_b_c {P P' : Prop} (h : P ↔ P') : rz_b P = rz_b P' := by rw [propext h]
theorem rz_b01 (P : Prop) : (P ∧ rz_b P = 1) ∨ (¬ P ∧ rz_b P = 0) := by
  by_cases h : P
  · exact Or.inl ⟨h, rz_b_t h⟩
  · exact Or.inr ⟨h, rz_b_f h⟩
/-- how many below N have P -/
noncomputable def rz_cn (P : Nat → Prop) : Nat → Nat
  | 0 => 0
  | N + 1 => rz_cn P N + rz_i (P N)
theorem rz_cn_le (P : Nat → Prop) (N : Nat) : rz_cn P N ≤ N := by
  induction N with
  | zero => exact Nat.le_refl 0
  | succ N ih =>
    have := rz_i_le (P N)
    show rz_cn P N + rz_i (P N) ≤ N + 1
    omega
theorem rz_cn_congr {P P' : Nat → Prop} (N : Nat) (h : ∀ c, c < N → (P c ↔ P' c)) : rz_cn P N = rz_cn P' N := by
  induction N with
  | zero => rfl
  | succ N ih =>
    show rz_cn P N + rz_i (P N) = rz_cn P' N + rz_i (P' N)
    rw [ih (fun c hc => h c (by omega)), propext (h N (by omega))]
theorem rz_i_mono {P P' : Prop} (h : P → P') : rz_i P ≤ rz_i P' := by
  by_cases p : P
  · rw [rz_i_t p, rz_i_t (h p)]; exact Nat.le_refl 1
  · rw [rz_i_f p]; exact Nat.zero_le _
theorem rz_cn_mono {P P' : Nat → Prop} (N : Nat) (h : ∀ c, c < N → P c → P' c) : rz_cn P N ≤ rz_cn P' N := by
  induction N with
  | zero => exact Nat.le_refl 0
  | succ N ih =>
    have h1 := ih (fun c hc => h c (by omega))
    have h2 := rz_i_mono (h N (by omega))
    show rz_cn P N + rz_i (P N) ≤ rz_cn P' N + rz_i (P' N)
    omega
theorem rz_cn_lt {P P' : Nat → Prop} (N : Nat) (h : ∀ c, c < N → P c → P' c) {g : Nat} (hg : g < N) (h1 : P' g) (h2 : ¬ P g) : rz_cn P N < rz_cn P' N := by
  induction N with
  | zero => omega
  | succ N ih =>
    show rz_cn P N + rz_i (P N) < rz_cn P' N + rz_i (P' N)
    by_cases e : g = N
    · subst e
      have := rz_cn_mono g (fun c hc => h c (by omega))
      rw [rz_i_t h1, rz_i_f h2]
      omega
    · have := ih (fun c hc => h c (by omega)) (by omega)
      have := rz_i_mono (h N (by omega))
      omega
theorem rz_cn_pos {P : Nat → Prop} {N : Nat} (h : 0 < rz_cn P N) : ∃ c, c < N ∧ P c := by
  induction N with
  | zero => exact absurd h (Nat.lt_irrefl 0)
  | succ N ih =>
    by_cases p : P N
    · exact ⟨N, by omega, p⟩
    · have h' : 0 < rz_cn P N + rz_i (P N) := h
      rw [rz_i_f p] at h'
      obtain ⟨c, h1, h2⟩ := ih h'
      exact ⟨c, by omega, h2⟩
theorem rz_cn_zero {P : Nat → Prop} {N : Nat} (h : rz_cn P N = 0) : ∀ c, c < N → ¬ P c := by
  intro c hc p
  have h1 : rz_cn (fun _ => False) N < rz_cn P N := rz_cn_lt N (fun _ _ q => q.elim) hc p (fun q => q)
  omega
theorem rz_cn_none {P : Nat → Prop} {N : Nat} (h : ∀ c, c < N → ¬ P c) : rz_cn P N = 0 := by
  rcases Nat.eq_zero_or_pos (rz_cn P N) with q | q
  · exact q
  · obtain ⟨c, h1, h2⟩ := rz_cn_pos q
    exact absurd h2 (h c h1)
theorem rz_i_or {P P' : Prop} (h : ¬ (P ∧ P')) : rz_i (P ∨ P') = rz_i P + rz_i P' := by
  by_cases p : P
  · rw [rz_i_t (Or.inl p), rz_i_t p, rz_i_f (fun q => h ⟨p, q⟩)]
  · by_cases q : P'
    · rw [rz_i_t (Or.inr q), rz_i_f p, rz_i_t q]
    · rw [rz_i_f (fun z => z.elim p q), rz_i_f p, rz_i_f q]
theorem rz_cn_or {P P' : Nat → Prop} (N : Nat) (h : ∀ c, c < N → ¬ (P c ∧ P' c)) : rz_cn (fun c => P c ∨ P' c) N = rz_cn P N + rz_cn P' N := by
  induction N with
  | zero => rfl
  | succ N ih =>
    have h1 := ih (fun c hc => h c (by omega))
    have h2 := rz_i_or (h N (by omega))
    show rz_cn (fun c => P c ∨ P' c) N + rz_i (P N ∨ P' N) = (rz_cn P N + rz_i (P N)) + (rz_cn P' N + rz_i (P' N))
    omega
theorem rz_cn_one {N g : Nat} (hg : g < N) : rz_cn (fun c => c = g) N = 1 := by
  induction N with
  | zero => omega
  | succ N ih =>
    show rz_cn (fun c => c = g) N + rz_i (N = g) = 1
    by_cases e : N = g
    · rw [rz_i_t e, rz_cn_none (fun c hc z => by omega)]
    · rw [rz_i_f e, ih (by omega)]
theorem rz_cn_ins {P : Nat → Prop} {N g : Nat} (hg : g < N) (h : ¬ P g) : rz_cn (fun c => P c ∨ c = g) N = rz_cn P N + 1 := by
  rw [rz_cn_or (P := P) (P' := fun c => c = g) N (fun c _ q => h (by rw [← q.2]; exact q.1)), rz_cn_one hg]
theorem rz_cn_del {P : Nat → Prop} {N g : Nat} (hg : g < N) (h : P g) : rz_cn (fun c => P c ∧ c ≠ g) N + 1 = rz_cn P N := by
  rw [← rz_cn_ins (P := fun c => P c ∧ c ≠ g) hg (fun q => q.2 rfl)]
  refine rz_cn_congr N (fun c _ => ⟨fun q => ?_, fun q => ?_⟩)
  · rcases q with q | q
    · exact q.1
    · rw [q]; exact h
  · by_cases e : c = g
    · exact Or.inr e
    · exact Or.inl ⟨q, e⟩
/-- r is the lowest place below N with P, or -2 -/
def rz_lo (N : Nat) (P : Nat → Prop) (r : Int32) : Prop := (∃ d, d < N ∧ P d ∧ (∀ j, j < d → ¬ P j) ∧ r = nI d) ∨ ((∀ d, d < N → ¬ P d) ∧ r = -2)
theorem rz_lo_uniq {N N' : Nat} {P P' : Nat → Prop} {r r' : Int32} (h : rz_lo N P r) (h' : rz_lo N' P' r') (e : ∀ d, (d < N ∧ P d) ↔ (d < N' ∧ P' d)) : r = r' := by
  rcases h with ⟨d, h1, h2, h3, h4⟩ | ⟨h1, h2⟩ <;> rcases h' with ⟨d', g1, g2, g3, g4⟩ | ⟨g1, g2⟩
  · have a := (e d).mp ⟨h1, h2⟩
    have b := (e d').mpr ⟨g1, g2⟩
    have : d = d' := by
      rcases Nat.lt_trichotomy d d' with q | q | q
      · exact absurd a.2 (g3 d q)
      · exact q
      · exact absurd b.2 (h3 d' q)
    rw [h4, g4, this]
  · have a := (e d).mp ⟨h1, h2⟩
    exact absurd a.2 (g1 d a.1)
  · have b := (e d').mpr ⟨g1, g2⟩
    exact absurd b.2 (h1 d' b.1)
  · rw [h2, g2]
/-! ternary digits -/
def rz_dg (c v : Nat) : Nat := c / 3 ^ v % 3
theorem rz_dg_lt (c v : Nat) : rz_dg c v < 3 := Nat.mod_lt _ (by decide)
def rz_en : Nat → (Nat → Nat) → Nat
  | 0, _ => 0
  | n + 1, f => rz_en n f + f n * 3 ^ n
theorem rz_p3 (n : Nat) : 0 < 3 ^ n := Nat.pow_pos (by decide)
theorem rz_en_lt (n : Nat) (f : Nat → Nat) (h : ∀ v, v < n → f v < 3) : rz_en n f < 3 ^ n := by
  induction n with
  | zero => exact Nat.one_pos
  | succ n ih =>
    have h1 := ih (fun v hv => h v (by omega))
    have h2 : f n * 3 ^ n ≤ 2 * 3 ^ n := Nat.mul_le_mul_right _ (by have := h n (by omega); omega)
    show rz_en n f + f n * 3 ^ n < 3 ^ n * 3
    omega
theorem rz_dg_en (n : Nat) (f : Nat → Nat) (h : ∀ v, v < n → f v < 3) : ∀ v, v < n → rz_dg (rz_en n f) v = f v := by
  induction n with
  | zero => intro v hv; omega
  | succ n ih =>
    intro v hv
    have hlt := rz_en_lt n f (fun v hv => h v (by omega))
    by_cases e : v = n
    · subst e
      show (rz_en v f + f v * 3 ^ v) / 3 ^ v % 3 = f v
      rw [Nat.add_mul_div_right _ _ (rz_p3 v), Nat.div_eq_of_lt hlt, Nat.zero_add]
      exact Nat.mod_eq_of_lt (h v (by omega))
    · have hv' : v < n := by omega
      rw [← ih (fun v hv => h v (by omega)) v hv']
      show (rz_en n f + f n * 3 ^ n) / 3 ^ v % 3 = rz_en n f / 3 ^ v % 3
      have e3 : 3 ^ n = 3 ^ (n - (v + 1)) * 3 * 3 ^ v := by
        rw [← Nat.pow_succ, ← Nat.pow_add]
        congr 1
        omega
      rw [e3, ← Nat.mul_assoc, ← Nat.mul_assoc, Nat.add_mul_div_right _ _ (rz_p3 v), Nat.add_mul_mod_self_right]
theorem rz_en_dg (n c : Nat) : rz_en n (rz_dg c) = c % 3 ^ n := by
  induction n with
  | zero => show 0 = c % 1; omega
  | succ n ih =>
    show rz_en n (rz_dg c) + c / 3 ^ n % 3 * 3 ^ n = c % (3 ^ n * 3)
    rw [ih, Nat.mod_mul, Nat.mul_comm (3 ^ n) (c / 3 ^ n % 3)]
theorem rz_en_le (n : Nat) {f g : Nat → Nat} (h : ∀ v, v < n → f v ≤ g v) : rz_en n f ≤ rz_en n g := by
  induction n with
  | zero => exact Nat.le_refl 0
  | succ n ih => exact Nat.add_le_add (ih (fun v hv => h v (by omega))) (Nat.mul_le_mul_right _ (h n (by omega)))
theorem rz_en_congr (n : Nat) {f g : Nat → Nat} (h : ∀ v, v < n → f v = g v) : rz_en n f = rz_en n g :=
  Nat.le_antisymm (rz_en_le n (fun v hv => Nat.le_of_eq (h v hv))) (rz_en_le n (fun v hv => Nat.le_of_eq (h v hv).symm))
theorem rz_ext {n c d : Nat} (hc : c < 3 ^ n) (hd : d < 3 ^ n) (h : ∀ v, v < n → rz_dg c v = rz_dg d v) : c = d := by
  have h1 := rz_en_congr n h
  rw [rz_en_dg, rz_en_dg, Nat.mod_eq_of_lt hc, Nat.mod_eq_of_lt hd] at h1
  exact h1
/-! masks -/
def rz_mk : Nat → (Nat → Bool) → Nat
  | 0, _ => 0
  | n + 1, P => rz_mk n P ||| (if P n = true then 2 ^ n else 0)
theorem rz_mk_bit (n : Nat) (P : Nat → Bool) (v : Nat) : (rz_mk n P).testBit v = (decide (v < n) && P v) := by
  induction n with
  | zero => simp [rz_mk]
  | succ n ih =>
    show (rz_mk n P ||| (if P n = true then 2 ^ n else 0)).testBit v = _
    rw [Nat.testBit_or, ih]
    by_cases e : v = n
    · subst e
      by_cases p : P v = true
      · simp [p, Nat.testBit_two_pow_self]
      · simp [p]
    · have h2 : (if P n = true then 2 ^ n else 0).testBit v = false := by
        by_cases p : P n = true
        · rw [if_pos p]; exact Nat.testBit_two_pow_of_ne (fun z => e z.symm)
        · rw [if_neg p]; exact Nat.zero_testBit v
      rw [h2, Bool.or_false]
      congr 1
      exact decide_eq_decide.mpr (by omega)
theorem rz_mk_lt (n : Nat) (P : Nat → Bool) : rz_mk n P < 2 ^ n := by
  refine Nat.lt_pow_two_of_testBit _ (fun i hi => ?_)
  rw [rz_mk_bit]
  have : ¬ i < n := by omega
  simp [this]
abbrev rz_T (n c : Nat) : Nat := rz_mk n (fun v => rz_dg c v == 1)
abbrev rz_F (n c : Nat) : Nat := rz_mk n (fun v => rz_dg c v == 2)
theorem rz_T_bit (n c v : Nat) : (rz_T n c).testBit v = true ↔ v < n ∧ rz_dg c v = 1 := by
  rw [rz_mk_bit]; simp
theorem rz_F_bit (n c v : Nat) : (rz_F n c).testBit v = true ↔ v < n ∧ rz_dg c v = 2 := by
  rw [rz_mk_bit]; simp
theorem rz_p25 {n : Nat} (h : n ≤ 5) : 2 ^ n ≤ 32 := Nat.pow_le_pow_right (by decide) h
theorem rz_p35 {n : Nat} (h : n ≤ 5) : 3 ^ n ≤ 243 := Nat.pow_le_pow_right (by decide) h
theorem rz_T_lt {n : Nat} (c : Nat) (h : n ≤ 5) : rz_T n c < 32 := Nat.lt_of_lt_of_le (rz_mk_lt n _) (rz_p25 h)
theorem rz_F_lt {n : Nat} (c : Nat) (h : n ≤ 5) : rz_F n c < 32 := Nat.lt_of_lt_of_le (rz_mk_lt n _) (rz_p25 h)
theorem rz_b31 (v : Nat) : Nat.testBit 31 v = decide (v < 5) := Nat.testBit_two_pow_sub_one 5 v
theorem rz_lt5 {x v : Nat} (hx : x < 32) (hv : x.testBit v = true) : v < 5 := by
  rcases Nat.lt_or_ge v 5 with q | q
  · exact q
  · have h2 : 2 ^ 5 ≤ 2 ^ v := Nat.pow_le_pow_right (by decide) q
    have h1 : x.testBit v = false := Nat.testBit_lt_two_pow (Nat.lt_of_lt_of_le hx h2)
    rw [h1] at hv
    cases hv
theorem rz_ltn {x v n : Nat} (hx : x < 2 ^ n) (hv : x.testBit v = true) : v < n := by
  rcases Nat.lt_or_ge v n with q | q
  · exact q
  · have h1 : x.testBit v = false := Nat.testBit_lt_two_pow (Nat.lt_of_lt_of_le hx (Nat.pow_le_pow_right (by decide) q))
    rw [h1] at hv
    cases hv
theorem rz_eq0 {x : Nat} : x = 0 ↔ ∀ v, ¬ x.testBit v = true := by
  constructor
  · intro h v hv
    rw [h, Nat.zero_testBit] at hv
    cases hv
  · intro h
    refine Nat.eq_of_testBit_eq (fun v => ?_)
    rw [Nat.zero_testBit]
    cases e : x.testBit v
    · rfl
    · exact absurd e (h v)
/-- the bits of a &&& ~b, for a below 32 -/
theorem rz_an_bit {x : Nat} (y : Nat) (hx : x < 32) (v : Nat) : (x &&& (y ^^^ 31)).testBit v = true ↔ x.testBit v = true ∧ ¬ y.testBit v = true := by
  rw [Nat.testBit_and, Nat.testBit_xor, rz_b31]
  constructor
  · intro h
    rw [Bool.and_eq_true] at h
    have h5 := rz_lt5 hx h.1
    refine ⟨h.1, fun hy => ?_⟩
    have h2 := h.2
    rw [hy] at h2
    simp [h5] at h2
  · intro h
    have h5 := rz_lt5 hx h.1
    have hy : y.testBit v = false := by
      cases e : y.testBit v
      · rfl
      · exact absurd e h.2
    simp [h.1, hy, h5]
theorem rz_an0 {x : Nat} (y : Nat) (hx : x < 32) : x &&& (y ^^^ 31) = 0 ↔ ∀ v, x.testBit v = true → y.testBit v = true := by
  rw [rz_eq0]
  constructor
  · intro h v hv
    cases e : y.testBit v
    · exact absurd ((rz_an_bit y hx v).mpr ⟨hv, by rw [e]; simp⟩) (h v)
    · rfl
  · intro h v hv
    have := (rz_an_bit y hx v).mp hv
    exact this.2 (h v this.1)
end
end
section
/-! PURE 2: clauses, what satisfies them, which lies within which; resolvents; a closed set has all that follows -/
section
def rz_S (n a c : Nat) : Prop := ∃ v, v < n ∧ ((rz_dg c v = 1 ∧ a.testBit v = true) ∨ (rz_dg c v = 2 ∧ ¬ a.testBit v = true))
def rz_W (n d c : Nat) : Prop := ∀ v, v < n → rz_dg d v = 0 ∨ rz_dg d v = rz_dg c v
def rz_M (n : Nat) (T : Nat → Prop) (a : Nat) : Prop := ∀ t, T t → rz_S n a t
def rz_Fo (n : Nat) (T : Nat → Prop) (c : Nat) : Prop := ∀ a, a < 2 ^ n → rz_M n T a → rz_S n a c
theorem rz_W_rf (n c : Nat) : rz_W n c c := fun _ _ => Or.inr rfl
theorem rz_W_tr {n a b c : Nat} (h1 : rz_W n a b) (h2 : rz_W n b c) : rz_W n a c := by
  intro v hv
  rcases h1 v hv with q | q
  · exact Or.inl q
  · rw [q]; exact h2 v hv
theorem rz_W_le {n c d : Nat} (hd : d < 3 ^ n) (hc : c < 3 ^ n) (h : rz_W n d c) : d ≤ c := by
  have h1 := rz_en_le n (f := rz_dg d) (g := rz_dg c) (fun v hv => by
    rcases h v hv with q | q
    · rw [q]; exact Nat.zero_le _
    · rw [q]; exact Nat.le_refl _)
  rw [rz_en_dg, rz_en_dg, Nat.mod_eq_of_lt hc, Nat.mod_eq_of_lt hd] at h1
  exact h1
theorem rz_W_as {n c d : Nat} (hd : d < 3 ^ n) (hc : c < 3 ^ n) (h : rz_W n d c) (h' : rz_W n c d) : d = c := Nat.le_antisymm (rz_W_le hd hc h) (rz_W_le hc hd h')
theorem rz_S_W {n a c d : Nat} (h : rz_W n d c) (hs : rz_S n a d) : rz_S n a c := by
  obtain ⟨v, hv, q⟩ := hs
  refine ⟨v, hv, ?_⟩
  rcases h v hv with e | e
  · rcases q with q | q
    · have := q.1; omega
    · have := q.1; omega
  · rw [← e]; exact q
/-- 'within' by the masks -/
theorem rz_W_iff {n : Nat} (hn : n ≤ 5) (d c : Nat) : rz_W n d c ↔ (rz_T n d &&& (rz_T n c ^^^ 31) = 0 ∧ rz_F n d &&& (rz_F n c ^^^ 31) = 0) := by
  rw [rz_an0 _ (rz_T_lt d hn), rz_an0 _ (rz_F_lt d hn)]
  constructor
  · intro h
    refine ⟨fun v hv => ?_, fun v hv => ?_⟩
    · obtain ⟨h1, h2⟩ := (rz_T_bit n d v).mp hv
      refine (rz_T_bit n c v).mpr ⟨h1, ?_⟩
      rcases h v h1 with q | q <;> omega
    · obtain ⟨h1, h2⟩ := (rz_F_bit n d v).mp hv
      refine (rz_F_bit n c v).mpr ⟨h1, ?_⟩
      rcases h v h1 with q | q <;> omega
  · intro h v hv
    have h3 := rz_dg_lt d v
    rcases (show rz_dg d v = 0 ∨ rz_dg d v = 1 ∨ rz_dg d v = 2 by omega) with q | q | q
    · exact Or.inl q
    · have := ((rz_T_bit n c v).mp (h.1 v ((rz_T_bit n d v).mpr ⟨hv, q⟩))).2
      exact Or.inr (by omega)
    · have := ((rz_F_bit n c v).mp (h.2 v ((rz_F_bit n d v).mpr ⟨hv, q⟩))).2
      exact Or.inr (by omega)
/-! resolvents -/
def rz_ck (g c v : Nat) : Prop := (rz_dg g v = 1 ∧ rz_dg c v = 2) ∨ (rz_dg g v = 2 ∧ rz_dg c v = 1)
def rz_cl (n g c : Nat) : Nat := (rz_T n g &&& rz_F n c) ||| (rz_F n g &&& rz_T n c)
theorem rz_cl_bit (n g c v : Nat) : (rz_cl n g c).testBit v = true ↔ v < n ∧ rz_ck g c v := by
  unfold rz_cl rz_ck
  rw [Nat.testBit_or, Nat.testBit_and, Nat.testBit_and, Bool.or_eq_true, Bool.and_eq_true, Bool.and_eq_true, rz_T_bit, rz_T_bit, rz_F_bit, rz_F_bit]
  constructor
  · rintro (⟨⟨a, b⟩, -, d⟩ | ⟨⟨a, b⟩, -, d⟩)
    · exact ⟨a, Or.inl ⟨b, d⟩⟩
    · exact ⟨a, Or.inr ⟨b, d⟩⟩
  · rintro ⟨a, ⟨b, d⟩ | ⟨b, d⟩⟩
    · exact Or.inl ⟨⟨a, b⟩, a, d⟩
    · exact Or.inr ⟨⟨a, b⟩, a, d⟩
theorem rz_cl_lt {n : Nat} (hn : n ≤ 5) (g c : Nat) : rz_cl n g c < 32 := by
  have h1 : rz_T n g &&& rz_F n c < 2 ^ 5 := Nat.and_lt_two_pow _ (rz_F_lt c hn)
  have h2 : rz_F n g &&& rz_T n c < 2 ^ 5 := Nat.and_lt_two_pow _ (rz_T_lt c hn)
  exact Nat.or_lt_two_pow h1 h2
theorem rz_ck_sym {g c v : Nat} (h : rz_ck g c v) : rz_ck c g v := by
  rcases h with h | h
  · exact Or.inr ⟨h.2, h.1⟩
  · exact Or.inl ⟨h.2, h.1⟩
theorem rz_cl_sym (n g c : Nat) : rz_cl n g c = rz_cl n c g := by
  unfold rz_cl
  rw [Nat.or_comm, Nat.and_comm (rz_F n g), Nat.and_comm (rz_T n g)]
def rz_R (n g c : Nat) : Prop := ¬ rz_cl n g c = 0 ∧ rz_cl n g c &&& (rz_cl n g c - 1) = 0
theorem rz_one : ∀ x : Fin 32, ¬ x.val = 0 → x.val &&& (x.val - 1) = 0 → ∃ v : Fin 5, x.val = 2 ^ v.val := by decide +kernel
theorem rz_one' : ∀ v : Fin 5, ¬ 2 ^ v.val = 0 ∧ 2 ^ v.val &&& (2 ^ v.val - 1) = 0 := by decide +kernel
theorem rz_R_iff {n : Nat} (hn : n ≤ 5) (g c : Nat) : rz_R n g c ↔ ∃ v, v < n ∧ rz_ck g c v ∧ ∀ u, u < n → rz_ck g c u → u = v := by
  constructor
  · intro h
    obtain ⟨⟨v, hv⟩, e⟩ := rz_one ⟨rz_cl n g c, rz_cl_lt hn g c⟩ h.1 h.2
    have e : rz_cl n g c = 2 ^ v := e
    have h1 := (rz_cl_bit n g c v).mp (by rw [e]; exact Nat.testBit_two_pow_self)
    refine ⟨v, h1.1, h1.2, fun u hu hk => ?_⟩
    have h2 := (rz_cl_bit n g c u).mpr ⟨hu, hk⟩
    rw [e, Nat.testBit_two_pow] at h2
    exact (of_decide_eq_true h2).symm
  · rintro ⟨v, hv, hk, hu⟩
    have e : rz_cl n g c = 2 ^ v := by
      refine Nat.eq_of_testBit_eq (fun u => ?_)
      rw [Nat.testBit_two_pow]
      by_cases q : v = u
      · subst q
        rw [(rz_cl_bit n g c v).mpr ⟨hv, hk⟩]
        simp
      · cases z : (rz_cl n g c).testBit u
        · simp [q]
        · have := (rz_cl_bit n g c u).mp z
          exact absurd (hu u this.1 this.2).symm q
    unfold rz_R
    rw [e]
    exact rz_one' ⟨v, by omega⟩
theorem rz_R_sym {n g c : Nat} (h : rz_R n g c) : rz_R n c g := by
  unfold rz_R at *
  rw [rz_cl_sym n c g]
  exact h
def rz_nu (p q : Nat) : Nat → Nat
  | 0 => 0
  | n + 1 => rz_nu p q n + (if p.testBit n = true then 3 ^ n else 0) + (if q.testBit n = true then 2 * 3 ^ n else 0)
theorem rz_nu_en {p q n : Nat} (h : ∀ v, v < n → ¬ (p.testBit v = true ∧ q.testBit v = true)) : rz_nu p q n = rz_en n (fun v => if p.testBit v = true then 1 else if q.testBit v = true then 2 else 0) := by
  induction n with
  | zero => rfl
  | succ n ih =>
    have h0 := h n (by omega)
    show rz_nu p q n + _ + _ = rz_en n _ + _ * 3 ^ n
    rw [ih (fun v hv => h v (by omega))]
    by_cases a : p.testBit n = true
    · have b : ¬ q.testBit n = true := fun b => h0 ⟨a, b⟩
      simp only [if_pos a, if_neg b]
      omega
    · by_cases b : q.testBit n = true
      · simp only [if_neg a, if_pos b]
        omega
      · simp only [if_neg a, if_neg b]
        omega
def rz_pp (n g c : Nat) : Nat := (rz_T n g ||| rz_T n c) &&& (rz_cl n g c ^^^ 31)
def rz_qq (n g c : Nat) : Nat := (rz_F n g ||| rz_F n c) &&& (rz_cl n g c ^^^ 31)
def rz_rs (n g c : Nat) : Nat := rz_nu (rz_pp n g c) (rz_qq n g c) n
theorem rz_TT_lt {n : Nat} (hn : n ≤ 5) (g c : Nat) : rz_T n g ||| rz_T n c < 32 := Nat.or_lt_two_pow (n := 5) (rz_T_lt g hn) (rz_T_lt c hn)
theorem rz_FF_lt {n : Nat} (hn : n ≤ 5) (g c : Nat) : rz_F n g ||| rz_F n c < 32 := Nat.or_lt_two_pow (n := 5) (rz_F_lt g hn) (rz_F_lt c hn)
theorem rz_pp_bit {n : Nat} (hn : n ≤ 5) (g c v : Nat) : (rz_pp n g c).testBit v = true ↔ v < n ∧ (rz_dg g v = 1 ∨ rz_dg c v = 1) ∧ ¬ rz_ck g c v := by
  unfold rz_pp
  rw [rz_an_bit _ (rz_TT_lt hn g c), Nat.testBit_or, Bool.or_eq_true, rz_T_bit, rz_T_bit, rz_cl_bit]
  constructor
  · rintro ⟨⟨a, b⟩ | ⟨a, b⟩, d⟩
    · exact ⟨a, Or.inl b, fun z => d ⟨a, z⟩⟩
    · exact ⟨a, Or.inr b, fun z => d ⟨a, z⟩⟩
  · rintro ⟨a, b | b, d⟩
    · exact ⟨Or.inl ⟨a, b⟩, fun z => d z.2⟩
    · exact ⟨Or.inr ⟨a, b⟩, fun z => d z.2⟩
theorem rz_qq_bit {n : Nat} (hn : n ≤ 5) (g c v : Nat) : (rz_qq n g c).testBit v = true ↔ v < n ∧ (rz_dg g v = 2 ∨ rz_dg c v = 2) ∧ ¬ rz_ck g c v := by
  unfold rz_qq
  rw [rz_an_bit _ (rz_FF_lt hn g c), Nat.testBit_or, Bool.or_eq_true, rz_F_bit, rz_F_bit, rz_cl_bit]
  constructor
  · rintro ⟨⟨a, b⟩ | ⟨a, b⟩, d⟩
    · exact ⟨a, Or.inl b, fun z => d ⟨a, z⟩⟩
    · exact ⟨a, Or.inr b, fun z => d ⟨a, z⟩⟩
  · rintro ⟨a, b | b, d⟩
    · exact ⟨Or.inl ⟨a, b⟩, fun z => d z.2⟩
    · exact ⟨Or.inr ⟨a, b⟩, fun z => d z.2⟩
theorem rz_pq {n : Nat} (hn : n ≤ 5) (g c : Nat) : ∀ v, v < n → ¬ ((rz_pp n g c).testBit v = true ∧ (rz_qq n g c).testBit v = true) := by
  intro v _ h
  have h1 := (rz_pp_bit hn g c v).mp h.1
  have h2 := (rz_qq_bit hn g c v).mp h.2
  refine h1.2.2 ?_
  unfold rz_ck
  omega
theorem rz_rs_lt {n : Nat} (hn : n ≤ 5) (g c : Nat) : rz_rs n g c < 3 ^ n := by
  unfold rz_rs
  rw [rz_nu_en (rz_pq hn g c)]
  refine rz_en_lt n _ (fun v _ => ?_)
  by_cases a : (rz_pp n g c).testBit v = true
  · simp only [if_pos a]; omega
  · by_cases b : (rz_qq n g c).testBit v = true
    · simp only [if_neg a, if_pos b]; omega
    · simp only [if_neg a, if_neg b]; omega
theorem rz_rs_dg {n : Nat} (hn : n ≤ 5) (g c v : Nat) (hv : v < n) : (rz_ck g c v ∧ rz_dg (rz_rs n g c) v = 0) ∨ (¬ rz_ck g c v ∧ rz_dg g v = 0 ∧ rz_dg (rz_rs n g c) v = rz_dg c v) ∨ (¬ rz_ck g c v ∧ ¬ rz_dg g v = 0 ∧ rz_dg (rz_rs n g c) v = rz_dg g v) := by
  have e : rz_dg (rz_rs n g c) v = (if (rz_pp n g c).testBit v = true then 1 else if (rz_qq n g c).testBit v = true then 2 else 0) := by
    unfold rz_rs
    rw [rz_nu_en (rz_pq hn g c)]
    refine rz_dg_en n _ (fun v _ => ?_) v hv
    by_cases a : (rz_pp n g c).testBit v = true
    · simp only [if_pos a]; omega
    · by_cases b : (rz_qq n g c).testBit v = true
      · simp only [if_neg a, if_pos b]; omega
      · simp only [if_neg a, if_neg b]; omega
  have hp := rz_pp_bit hn g c v
  have hq := rz_qq_bit hn g c v
  have h3 := rz_dg_lt g v
  have h4 := rz_dg_lt c v
  by_cases k : rz_ck g c v
  · have a : ¬ (rz_pp n g c).testBit v = true := fun z => (hp.mp z).2.2 k
    have b : ¬ (rz_qq n g c).testBit v = true := fun z => (hq.mp z).2.2 k
    rw [if_neg a, if_neg b] at e
    exact Or.inl ⟨k, e⟩
  · have k' : ¬ ((rz_dg g v = 1 ∧ rz_dg c v = 2) ∨ (rz_dg g v = 2 ∧ rz_dg c v = 1)) := k
    by_cases a : (rz_pp n g c).testBit v = true
    · have a' := hp.mp a
      rw [if_pos a] at e
      by_cases z : rz_dg g v = 0
      · exact Or.inr (Or.inl ⟨k, z, by omega⟩)
      · exact Or.inr (Or.inr ⟨k, z, by omega⟩)
    · have a' : ¬ (rz_dg g v = 1 ∨ rz_dg c v = 1) := fun z => a (hp.mpr ⟨hv, z, k⟩)
      rw [if_neg a] at e
      by_cases b : (rz_qq n g c).testBit v = true
      · have b' := hq.mp b
        rw [if_pos b] at e
        by_cases z : rz_dg g v = 0
        · exact Or.inr (Or.inl ⟨k, z, by omega⟩)
        · exact Or.inr (Or.inr ⟨k, z, by omega⟩)
      · have b' : ¬ (rz_dg g v = 2 ∨ rz_dg c v = 2) := fun z => b (hq.mpr ⟨hv, z, k⟩)
        rw [if_neg b] at e
        exact Or.inr (Or.inl ⟨k, by omega, by omega⟩)
theorem rz_rs_sym (n g c : Nat) : rz_rs n g c = rz_rs n c g := by
  unfold rz_rs rz_pp rz_qq
  rw [rz_cl_sym n g c, Nat.or_comm (rz_T n g), Nat.or_comm (rz_F n g)]
/-- what satisfies two clauses satisfies their resolvent -/
theorem rz_rs_S {n : Nat} (hn : n ≤ 5) {g c a : Nat} (hR : rz_R n g c) (hg : rz_S n a g) (hc : rz_S n a c) : rz_S n a (rz_rs n g c) := by
  obtain ⟨v, hv, hk, hu⟩ := (rz_R_iff hn g c).mp hR
  obtain ⟨x, hx, h1⟩ := hg
  obtain ⟨y, hy, h2⟩ := hc
  by_cases ex : rz_ck g c x
  · have e1 := hu x hx ex
    by_cases ey : rz_ck g c y
    · have e2 := hu y hy ey
      subst e1
      subst e2
      unfold rz_ck at hk
      exfalso
      rcases h1 with h1 | h1 <;> rcases h2 with h2 | h2
      · omega
      · exact h2.2 h1.2
      · exact h1.2 h2.2
      · omega
    · refine ⟨y, hy, ?_⟩
      rcases rz_rs_dg hn g c y hy with q | q | q
      · exact absurd q.1 ey
      · rw [q.2.2]; exact h2
      · have : rz_dg g y = rz_dg c y := by
          have := rz_dg_lt g y
          unfold rz_ck at ey
          rcases h2 with h2 | h2 <;> omega
        rw [q.2.2, this]; exact h2
  · refine ⟨x, hx, ?_⟩
    rcases rz_rs_dg hn g c x hx with q | q | q
    · exact absurd q.1 ex
    · exfalso
      rcases h1 with h1 | h1 <;> omega
    · rw [q.2.2]; exact h1
/-! a set that is closed under resolvents has a clause within whatever follows from it -/
def rz_st (n c v x : Nat) : Nat := rz_en n (fun u => if u = v then x else rz_dg c u)
theorem rz_st_lt3 {c v x : Nat} (hx : x < 3) (u : Nat) : (if u = v then x else rz_dg c u) < 3 := by
  by_cases e : u = v
  · rw [if_pos e]; exact hx
  · rw [if_neg e]; exact rz_dg_lt c u
theorem rz_st_lt {n c v x : Nat} (hx : x < 3) : rz_st n c v x < 3 ^ n := rz_en_lt n _ (fun u _ => rz_st_lt3 hx u)
theorem rz_st_self {n c v x : Nat} (hx : x < 3) (hv : v < n) : rz_dg (rz_st n c v x) v = x := by
  have := rz_dg_en n (fun u => if u = v then x else rz_dg c u) (fun u _ => rz_st_lt3 hx u) v hv
  rw [if_pos rfl] at this
  exact this
theorem rz_st_ne {n c v x u : Nat} (hx : x < 3) (hu : u < n) (h : u ≠ v) : rz_dg (rz_st n c v x) u = rz_dg c u := by
  have := rz_dg_en n (fun u => if u = v then x else rz_dg c u) (fun u _ => rz_st_lt3 hx u) u hu
  rw [if_neg h] at this
  exact this
theorem rz_W_st {n c v x : Nat} (hx : x < 3) (h0 : rz_dg c v = 0) : rz_W n c (rz_st n c v x) := by
  intro u hu
  by_cases e : u = v
  · rw [e]; exact Or.inl h0
  · exact Or.inr (rz_st_ne hx hu e).symm
theorem rz_full {n : Nat} (K : Nat → Prop) {c : Nat} (hz : ∀ v, v < n → ¬ rz_dg c v = 0) (hF : rz_Fo n K c) : ∃ d, K d ∧ rz_W n d c := by
  have h1 : ¬ rz_S n (rz_F n c) c := by
    rintro ⟨v, hv, h | h⟩
    · have := ((rz_F_bit n c v).mp h.2).2
      omega
    · exact h.2 ((rz_F_bit n c v).mpr ⟨hv, h.1⟩)
  have h2 : ¬ rz_M n K (rz_F n c) := fun z => h1 (hF _ (rz_mk_lt n _) z)
  have h3 : ∃ d, K d ∧ ¬ rz_S n (rz_F n c) d := by
    refine Classical.byContradiction (fun z => h2 (fun t ht => ?_))
    exact Classical.byContradiction (fun y => z ⟨t, ht, y⟩)
  obtain ⟨d, hd, hs⟩ := h3
  refine ⟨d, hd, fun v hv => ?_⟩
  have hdl := rz_dg_lt d v
  have hcl := rz_dg_lt c v
  have hcz := hz v hv
  rcases (show rz_dg d v = 0 ∨ rz_dg d v = 1 ∨ rz_dg d v = 2 by omega) with q | q | q
  · exact Or.inl q
  · right
    by_cases e : rz_dg c v = 2
    · exact absurd ⟨v, hv, Or.inl ⟨q, (rz_F_bit n c v).mpr ⟨hv, e⟩⟩⟩ hs
    · omega
  · right
    by_cases e : rz_dg c v = 2
    · omega
    · exact absurd ⟨v, hv, Or.inr ⟨q, fun z => e ((rz_F_bit n c v).mp z).2⟩⟩ hs
theorem rz_comp {n : Nat} (hn : n ≤ 5) (K : Nat → Prop) (hcl : ∀ g c, K g → K c → rz_R n g c → ∃ d, K d ∧ rz_W n d (rz_rs n g c)) :
    ∀ j, j ≤ n → ∀ c, (∀ v, v < n → j ≤ v → ¬ rz_dg c v = 0) → rz_Fo n K c → ∃ d, K d ∧ rz_W n d c := by
  intro j
  induction j with
  | zero => exact fun _ c hz hF => rz_full K (fun v hv => hz v hv (Nat.zero_le v)) hF
  | succ j ih =>
    intro hj c hz hF
    by_cases e : rz_dg c j = 0
    · have hstep : ∀ x, x < 3 → ¬ x = 0 → ∃ d, K d ∧ rz_W n d (rz_st n c j x) := by
        intro x hx hx0
        refine ih (by omega) _ (fun v hv hjv => ?_) (fun a ha hM => rz_S_W (rz_W_st hx e) (hF a ha hM))
        by_cases q : v = j
        · rw [q, rz_st_self hx (by omega)]; exact hx0
        · rw [rz_st_ne hx hv q]
          exact hz v hv (by omega)
      obtain ⟨d1, k1, w1⟩ := hstep 1 (by decide) (by decide)
      obtain ⟨d2, k2, w2⟩ := hstep 2 (by decide) (by decide)
      have hjn : j < n := by omega
      have a1 := w1 j hjn
      have a2 := w2 j hjn
      rw [rz_st_self (by decide) hjn] at a1 a2
      have o1 : ∀ u, u < n → u ≠ j → rz_dg d1 u = 0 ∨ rz_dg d1 u = rz_dg c u := fun u hu hne => by
        have := w1 u hu
        rw [rz_st_ne (by decide) hu hne] at this
        exact this
      have o2 : ∀ u, u < n → u ≠ j → rz_dg d2 u = 0 ∨ rz_dg d2 u = rz_dg c u := fun u hu hne => by
        have := w2 u hu
        rw [rz_st_ne (by decide) hu hne] at this
        exact this
      by_cases z1 : rz_dg d1 j = 0
      · refine ⟨d1, k1, fun u hu => ?_⟩
        by_cases q : u = j
        · rw [q]; exact Or.inl z1
        · exact o1 u hu q
      · by_cases z2 : rz_dg d2 j = 0
        · refine ⟨d2, k2, fun u hu => ?_⟩
          by_cases q : u = j
          · rw [q]; exact Or.inl z2
          · exact o2 u hu q
        · have b1 : rz_dg d1 j = 1 := by omega
          have b2 : rz_dg d2 j = 2 := by omega
          have hk : ∀ u, u < n → rz_ck d1 d2 u → u = j := by
            intro u hu h
            refine Classical.byContradiction (fun q => ?_)
            have p1 := o1 u hu q
            have p2 := o2 u hu q
            unfold rz_ck at h
            omega
          have hR : rz_R n d1 d2 := (rz_R_iff hn d1 d2).mpr ⟨j, hjn, Or.inl ⟨b1, b2⟩, hk⟩
          obtain ⟨d, kd, wd⟩ := hcl d1 d2 k1 k2 hR
          refine ⟨d, kd, rz_W_tr wd (fun u hu => ?_)⟩
          rcases rz_rs_dg hn d1 d2 u hu with q | q | q
          · exact Or.inl q.2
          · rw [q.2.2]
            by_cases w : u = j
            · exact absurd (by rw [w]; exact Or.inl ⟨b1, b2⟩) q.1
            · exact o2 u hu w
          · rw [q.2.2]
            by_cases w : u = j
            · exact absurd (by rw [w]; exact Or.inl ⟨b1, b2⟩) q.1
            · exact o1 u hu w
    · exact ih (by omega) c (fun v hv hjv => by
        by_cases q : v = j
        · rw [q]; exact e
        · exact hz v hv (by omega)) hF
theorem rz_complete {n : Nat} (hn : n ≤ 5) (K : Nat → Prop) (hcl : ∀ g c, K g → K c → rz_R n g c → ∃ d, K d ∧ rz_W n d (rz_rs n g c)) {c : Nat} (hF : rz_Fo n K c) : ∃ d, K d ∧ rz_W n d c :=
  rz_comp hn K hcl n (Nat.le_refl n) c (fun v hv h => by omega) hF
end
end
section
/-! PURE 3: a saturated set; one clause taken in; primes -/
section
def rz_sub (n : Nat) (K : Nat → Prop) (c : Nat) : Prop := ∃ d, K d ∧ rz_W n d c
def rz_ok (n : Nat) (K T : Nat → Prop) : Prop := (∀ c, K c → c < 3 ^ n) ∧ (∀ c, K c → rz_Fo n T c) ∧ (∀ c, rz_Fo n T c → rz_sub n K c) ∧ ∀ c d, K c → K d → rz_W n c d → c = d
def rz_J (n : Nat) (T K Q : Nat → Prop) : Prop := (∀ c, K c → c < 3 ^ n) ∧ (∀ c, Q c → c < 3 ^ n) ∧ (∀ c, K c ∨ Q c → rz_Fo n T c) ∧ (∀ t, T t → ∃ d, (K d ∨ Q d) ∧ rz_W n d t) ∧
  (∀ g c, K g → K c → rz_R n g c → ∃ d, (K d ∨ Q d) ∧ rz_W n d (rz_rs n g c)) ∧ ∀ c d, K c → K d → rz_W n c d → c = d
def rz_U (n : Nat) (K Q : Nat → Prop) (c : Nat) : Prop := ¬ Q c ∧ rz_sub n K c
theorem rz_Fo_mono {n c : Nat} {T T' : Nat → Prop} (h : ∀ t, T t → T' t) (hF : rz_Fo n T c) : rz_Fo n T' c := fun a ha hM => hF a ha (fun t ht => hM t (h t ht))
theorem rz_Fo_self {n c : Nat} {T : Nat → Prop} (h : T c) : rz_Fo n T c := fun _ _ hM => hM c h
theorem rz_Fo_W {n c d : Nat} {T : Nat → Prop} (hd : rz_Fo n T d) (h : rz_W n d c) : rz_Fo n T c := fun a ha hM => rz_S_W h (hd a ha hM)
theorem rz_Fo_rs {n g c : Nat} (hn : n ≤ 5) {T : Nat → Prop} (hg : rz_Fo n T g) (hc : rz_Fo n T c) (hR : rz_R n g c) : rz_Fo n T (rz_rs n g c) := fun a ha hM => rz_rs_S hn hR (hg a ha hM) (hc a ha hM)
/-- behind the first 'enqueue' -/
theorem rz_J_init {n : Nat} (hn : n ≤ 5) {T K : Nat → Prop} {c0 : Nat} (hc : c0 < 3 ^ n) (h : rz_ok n K T) : rz_J n (fun t => T t ∨ t = c0) K (fun c => c = c0 ∧ ¬ rz_sub n K c0) := by
  obtain ⟨h1, h2, h3, h4⟩ := h
  refine ⟨h1, fun c q => by rw [q.1]; exact hc, fun c q => ?_, fun t q => ?_, fun g c hg hc hR => ?_, h4⟩
  · rcases q with q | q
    · exact rz_Fo_mono (fun t ht => Or.inl ht) (h2 c q)
    · exact rz_Fo_self (T := fun t => T t ∨ t = c0) (Or.inr q.1)
  · rcases q with q | q
    · obtain ⟨d, k, w⟩ := h3 t (rz_Fo_self q)
      exact ⟨d, Or.inl k, w⟩
    · subst q
      by_cases z : rz_sub n K t
      · obtain ⟨d, k, w⟩ := z
        exact ⟨d, Or.inl k, w⟩
      · exact ⟨t, Or.inr ⟨rfl, z⟩, rz_W_rf n t⟩
  · obtain ⟨d, k, w⟩ := h3 _ (rz_Fo_rs hn (h2 g hg) (h2 c hc) hR)
    exact ⟨d, Or.inl k, w⟩
/-- nothing waits any more -/
theorem rz_J_end {n : Nat} (hn : n ≤ 5) {T K Q : Nat → Prop} (hQ : ∀ c, ¬ Q c) (h : rz_J n T K Q) : rz_ok n K T := by
  obtain ⟨h1, -, h2, h3, h4, h5⟩ := h
  have e : ∀ x, (∃ d, (K d ∨ Q d) ∧ rz_W n d x) → rz_sub n K x := by
    rintro x ⟨d, k | q, w⟩
    · exact ⟨d, k, w⟩
    · exact absurd q (hQ d)
  refine ⟨h1, fun c k => h2 c (Or.inl k), fun c hF => ?_, h5⟩
  refine rz_complete hn K (fun g c hg hc hR => e _ (h4 g c hg hc hR)) (fun a ha hM => hF a ha (fun t ht => ?_))
  obtain ⟨d, k, w⟩ := e t (h3 t ht)
  exact rz_S_W w (hM d k)
/-- a waiting clause is passed over -/
theorem rz_J_skip {n : Nat} {T K Q : Nat → Prop} {g : Nat} (h : rz_J n T K Q) (hs : rz_sub n K g) : rz_J n T K (fun c => Q c ∧ c ≠ g) := by
  obtain ⟨h1, h2, h3, h4, h5, h6⟩ := h
  have e : ∀ x, (∃ d, (K d ∨ Q d) ∧ rz_W n d x) → ∃ d, (K d ∨ (Q d ∧ d ≠ g)) ∧ rz_W n d x := by
    rintro x ⟨d, k | q, w⟩
    · exact ⟨d, Or.inl k, w⟩
    · by_cases z : d = g
      · subst z
        obtain ⟨d', k, w'⟩ := hs
        exact ⟨d', Or.inl k, rz_W_tr w' w⟩
      · exact ⟨d, Or.inr ⟨q, z⟩, w⟩
  exact ⟨h1, fun c q => h2 c q.1, fun c q => h3 c (q.imp id And.left), fun t ht => e _ (h4 t ht), fun g c hg hc hR => e _ (h5 g c hg hc hR), h6⟩
theorem rz_U_skip {n : Nat} {K Q : Nat → Prop} {g : Nat} (hg : g < 3 ^ n) (hq : Q g) (hs : rz_sub n K g) : rz_cn (rz_U n K Q) (3 ^ n) < rz_cn (rz_U n K (fun c => Q c ∧ c ≠ g)) (3 ^ n) :=
  rz_cn_lt _ (fun _ _ u => ⟨fun z => u.1 z.1, u.2⟩) hg ⟨fun z => z.2 rfl, hs⟩ (fun u => u.1 hq)
/-- what 'resolveWithKept' leaves -/
def rz_RW (n : Nat) (K Q Q2 : Nat → Prop) (g : Nat) : Prop := (∀ c, Q c → Q2 c) ∧ (∀ c, Q2 c → Q c ∨ (¬ rz_sub n K c ∧ ∃ k, K k ∧ rz_R n g k ∧ c = rz_rs n g k)) ∧ ∀ k, K k → rz_R n g k → Q2 (rz_rs n g k) ∨ rz_sub n K (rz_rs n g k)
theorem rz_J_take {n : Nat} (hn : n ≤ 5) {T K Q Q2 : Nat → Prop} {g : Nat} (h : rz_J n T K Q) (hq : Q g) (hs : ¬ rz_sub n K g) (hR : rz_RW n (fun c => (K c ∧ ¬ rz_W n g c) ∨ c = g) (fun c => Q c ∧ c ≠ g) Q2 g) :
    rz_J n T (fun c => (K c ∧ ¬ rz_W n g c) ∨ c = g) Q2 := by
  obtain ⟨h1, h2, h3, h4, h5, h6⟩ := h
  obtain ⟨r1, r2, r3⟩ := hR
  have kF : ∀ c, ((K c ∧ ¬ rz_W n g c) ∨ c = g) → rz_Fo n T c := by
    rintro c (q | q)
    · exact h3 c (Or.inl q.1)
    · rw [q]; exact h3 g (Or.inr hq)
  have e : ∀ x, (∃ d, (K d ∨ Q d) ∧ rz_W n d x) → ∃ d, (((K d ∧ ¬ rz_W n g d) ∨ d = g) ∨ Q2 d) ∧ rz_W n d x := by
    rintro x ⟨d, k | q, w⟩
    · by_cases z : rz_W n g d
      · exact ⟨g, Or.inl (Or.inr rfl), rz_W_tr z w⟩
      · exact ⟨d, Or.inl (Or.inl ⟨k, z⟩), w⟩
    · by_cases z : d = g
      · exact ⟨d, Or.inl (Or.inr z), w⟩
      · exact ⟨d, Or.inr (r1 d ⟨q, z⟩), w⟩
  have e3 : ∀ k, ((K k ∧ ¬ rz_W n g k) ∨ k = g) → rz_R n g k → ∃ d, (((K d ∧ ¬ rz_W n g d) ∨ d = g) ∨ Q2 d) ∧ rz_W n d (rz_rs n g k) := by
    intro k hk hR
    rcases r3 k hk hR with q | ⟨d, hd, w⟩
    · exact ⟨_, Or.inr q, rz_W_rf n _⟩
    · exact ⟨d, Or.inl hd, w⟩
  refine ⟨fun c q => ?_, fun c q => ?_, fun c q => ?_, fun t ht => e _ (h4 t ht), fun a c ha hc hR => ?_, fun c d hc hd w => ?_⟩
  · rcases q with q | q
    · exact h1 c q.1
    · rw [q]; exact h2 g hq
  · rcases r2 c q with z | ⟨-, k, -, -, z⟩
    · exact h2 c z.1
    · rw [z]; exact rz_rs_lt hn g k
  · rcases q with q | q
    · exact kF c q
    · rcases r2 c q with z | ⟨-, k, hk, hR, z⟩
      · exact h3 c (Or.inr z.1)
      · rw [z]; exact rz_Fo_rs hn (h3 g (Or.inr hq)) (kF k hk) hR
  · rcases ha with ha | ha
    · rcases hc with hc | hc
      · exact e _ (h5 a c ha.1 hc.1 hR)
      · subst hc
        rw [rz_rs_sym]
        exact e3 a (Or.inl ha) (rz_R_sym hR)
    · subst ha
      exact e3 c hc hR
  · rcases hc with hc | hc
    · rcases hd with hd | hd
      · exact h6 c d hc.1 hd.1 w
      · subst hd
        exact absurd ⟨c, hc.1, w⟩ hs
    · rcases hd with hd | hd
      · subst hc
        exact absurd w hd.2
      · rw [hc, hd]
theorem rz_U_take {n : Nat} {K Q Q2 : Nat → Prop} {g : Nat} (hg : g < 3 ^ n) (hq : Q g) (hR : rz_RW n (fun c => (K c ∧ ¬ rz_W n g c) ∨ c = g) (fun c => Q c ∧ c ≠ g) Q2 g) :
    rz_cn (rz_U n K Q) (3 ^ n) < rz_cn (rz_U n (fun c => (K c ∧ ¬ rz_W n g c) ∨ c = g) Q2) (3 ^ n) := by
  obtain ⟨r1, r2, r3⟩ := hR
  have hsg : rz_sub n (fun c => (K c ∧ ¬ rz_W n g c) ∨ c = g) g := ⟨g, Or.inr rfl, rz_W_rf n g⟩
  refine rz_cn_lt _ (fun c _ u => ?_) hg ⟨fun z => ?_, hsg⟩ (fun u => u.1 hq)
  · obtain ⟨u1, d, k, w⟩ := u
    have hs : rz_sub n (fun c => (K c ∧ ¬ rz_W n g c) ∨ c = g) c := by
      by_cases z : rz_W n g d
      · exact ⟨g, Or.inr rfl, rz_W_tr z w⟩
      · exact ⟨d, Or.inl ⟨k, z⟩, w⟩
    refine ⟨fun z => ?_, hs⟩
    rcases r2 c z with y | y
    · exact u1 y.1
    · exact y.1 hs
  · rcases r2 g z with y | y
    · exact y.2 rfl
    · exact y.1 hsg
theorem rz_U_lt {n : Nat} {K Q : Nat → Prop} {g : Nat} (hg : g < 3 ^ n) (hq : Q g) : rz_cn (rz_U n K Q) (3 ^ n) < 3 ^ n := by
  have h1 : rz_cn (rz_U n K Q) (3 ^ n) < rz_cn (fun _ => True) (3 ^ n) := rz_cn_lt _ (fun _ _ _ => trivial) hg trivial (fun u => u.1 hq)
  exact Nat.lt_of_lt_of_le h1 (rz_cn_le _ _)
/-- nothing is kept, nothing is asked -/
theorem rz_ok_0 {n : Nat} (hn : n ≤ 5) : rz_ok n (fun _ => False) (fun _ => False) := by
  refine ⟨fun c h => h.elim, fun c h => h.elim, fun c hF => ?_, fun c d h => h.elim⟩
  exact rz_complete hn _ (fun g c h => h.elim) hF
theorem rz_ok_c {n : Nat} {K T T' : Nat → Prop} (h : rz_ok n K T) (e : ∀ t, T t ↔ T' t) : rz_ok n K T' := by
  have : T = T' := funext fun t => propext (e t)
  rw [← this]; exact h
/-- primes -/
def rz_Pr (n : Nat) (T : Nat → Prop) (c : Nat) : Prop := rz_Fo n T c ∧ ∀ d, d < 3 ^ n → d ≠ c → rz_Fo n T d → ¬ rz_W n d c
theorem rz_ok_Pr {n : Nat} {K T : Nat → Prop} (h : rz_ok n K T) {c : Nat} (hc : c < 3 ^ n) : K c ↔ rz_Pr n T c := by
  obtain ⟨h1, h2, h3, h4⟩ := h
  constructor
  · intro k
    refine ⟨h2 c k, fun d hd hne hF w => ?_⟩
    obtain ⟨d', k', w'⟩ := h3 d hF
    have e := h4 d' c k' k (rz_W_tr w' w)
    subst e
    exact hne (rz_W_as hd hc w w')
  · intro q
    obtain ⟨d, k, w⟩ := h3 c q.1
    by_cases e : d = c
    · rw [← e]; exact k
    · exact absurd w (q.2 d (h1 d k) e (h2 d k))
/-- a clause follows when something within it is kept -/
theorem rz_ok_Fo {n : Nat} {K T : Nat → Prop} (h : rz_ok n K T) (c : Nat) : rz_sub n K c ↔ rz_Fo n T c := by
  constructor
  · rintro ⟨d, k, w⟩
    exact rz_Fo_W (h.2.1 d k) w
  · exact h.2.2.1 c
/-! 'breaks': a kept clause that a partial assignment makes false -/
def rz_fa (n c k w : Nat) : Prop := (rz_T n c ||| rz_F n c) &&& (k ^^^ 31) = 0 ∧ (rz_T n c &&& w) ||| ((rz_F n c &&& k) &&& (w ^^^ 31)) = 0
theorem rz_TF_lt {n : Nat} (hn : n ≤ 5) (c : Nat) : rz_T n c ||| rz_F n c < 32 := Nat.or_lt_two_pow (n := 5) (rz_T_lt c hn) (rz_F_lt c hn)
theorem rz_Fk_lt {n : Nat} (hn : n ≤ 5) (c k : Nat) : rz_F n c &&& k < 32 := by
  rw [Nat.and_comm]
  exact Nat.and_lt_two_pow (n := 5) _ (rz_F_lt c hn)
theorem rz_fa_iff {n : Nat} (hn : n ≤ 5) (c k w : Nat) : rz_fa n c k w ↔ ∀ v, v < n → rz_dg c v = 0 ∨ (k.testBit v = true ∧ ((rz_dg c v = 1 ∧ ¬ w.testBit v = true) ∨ (rz_dg c v = 2 ∧ w.testBit v = true))) := by
  unfold rz_fa
  rw [rz_an0 _ (rz_TF_lt hn c), rz_eq0]
  have e2 : ∀ v, ((rz_T n c &&& w) ||| ((rz_F n c &&& k) &&& (w ^^^ 31))).testBit v = true ↔ v < n ∧ ((rz_dg c v = 1 ∧ w.testBit v = true) ∨ (rz_dg c v = 2 ∧ k.testBit v = true ∧ ¬ w.testBit v = true)) := by
    intro v
    rw [Nat.testBit_or, Bool.or_eq_true, rz_an_bit _ (rz_Fk_lt hn c k), Nat.testBit_and, Nat.testBit_and, Bool.and_eq_true, Bool.and_eq_true, rz_T_bit, rz_F_bit]
    constructor
    · rintro (⟨⟨a, b⟩, d⟩ | ⟨⟨⟨a, b⟩, d⟩, f⟩)
      · exact ⟨a, Or.inl ⟨b, d⟩⟩
      · exact ⟨a, Or.inr ⟨b, d, f⟩⟩
    · rintro ⟨a, ⟨b, d⟩ | ⟨b, d, f⟩⟩
      · exact Or.inl ⟨⟨a, b⟩, d⟩
      · exact Or.inr ⟨⟨⟨a, b⟩, d⟩, f⟩
  have e1 : ∀ v, (rz_T n c ||| rz_F n c).testBit v = true ↔ v < n ∧ ¬ rz_dg c v = 0 := by
    intro v
    have := rz_dg_lt c v
    rw [Nat.testBit_or, Bool.or_eq_true, rz_T_bit, rz_F_bit]
    omega
  constructor
  · rintro ⟨h1, h2⟩ v hv
    by_cases z : rz_dg c v = 0
    · exact Or.inl z
    · right
      have hk := h1 v ((e1 v).mpr ⟨hv, z⟩)
      have h3 := rz_dg_lt c v
      have h4 : ¬ (v < n ∧ ((rz_dg c v = 1 ∧ w.testBit v = true) ∨ (rz_dg c v = 2 ∧ k.testBit v = true ∧ ¬ w.testBit v = true))) := fun y => h2 v ((e2 v).mpr y)
      refine ⟨hk, ?_⟩
      rcases (show rz_dg c v = 1 ∨ rz_dg c v = 2 by omega) with y | y
      · exact Or.inl ⟨y, fun q => h4 ⟨hv, Or.inl ⟨y, q⟩⟩⟩
      · exact Or.inr ⟨y, Classical.byContradiction fun q => h4 ⟨hv, Or.inr ⟨y, hk, q⟩⟩⟩
  · intro h
    refine ⟨fun v hv => ?_, fun v hv => ?_⟩
    · have := (e1 v).mp hv
      rcases h v this.1 with q | q
      · exact absurd q this.2
      · exact q.1
    · obtain ⟨a, b⟩ := (e2 v).mp hv
      rcases h v a with q | ⟨q, y | y⟩
      · rcases b with b | b
        · have := b.1; omega
        · have := b.1; omega
      · rcases b with b | b
        · exact y.2 b.2
        · have := b.1; have := y.1; omega
      · rcases b with b | b
        · have := b.1; have := y.1; omega
        · exact b.2.2 y.2
def rz_br (n : Nat) (K : Nat → Prop) (k w : Nat) : Prop := ∃ c, c < 3 ^ n ∧ K c ∧ rz_fa n c k w
/-- a goes on from the partial assignment -/
def rz_ag (n k w a : Nat) : Prop := ∀ v, v < n → k.testBit v = true → (a.testBit v = true ↔ w.testBit v = true)
theorem rz_br_iff {n : Nat} (hn : n ≤ 5) {K T : Nat → Prop} (h : rz_ok n K T) (k w : Nat) : rz_br n K k w ↔ ¬ ∃ a, a < 2 ^ n ∧ rz_M n T a ∧ rz_ag n k w a := by
  constructor
  · rintro ⟨c, hc, hk, hf⟩ ⟨a, ha, hM, hag⟩
    obtain ⟨v, hv, q⟩ := h.2.1 c hk a ha hM
    rcases (rz_fa_iff hn c k w).mp hf v hv with z | ⟨z, y | y⟩
    · rcases q with q | q
      · have := q.1; omega
      · have := q.1; omega
    · rcases q with q | q
      · exact y.2 ((hag v hv z).mp q.2)
      · have := q.1; have := y.1; omega
    · rcases q with q | q
      · have := q.1; have := y.1; omega
      · exact q.2 ((hag v hv z).mpr y.2)
  · intro hno
    have lt3 : ∀ v, (if k.testBit v = true then (if w.testBit v = true then 2 else 1) else 0) < 3 := by
      intro v
      by_cases a : k.testBit v = true
      · by_cases b : w.testBit v = true
        · rw [if_pos a, if_pos b]; decide
        · rw [if_pos a, if_neg b]; decide
      · rw [if_neg a]; decide
    have dgc := rz_dg_en n (fun v => if k.testBit v = true then (if w.testBit v = true then 2 else 1) else 0) (fun v _ => lt3 v)
    have hF : rz_Fo n T (rz_en n (fun v => if k.testBit v = true then (if w.testBit v = true then 2 else 1) else 0)) := by
      intro a ha hM
      refine Classical.byContradiction fun hS => hno ⟨a, ha, hM, fun v hv hk => ?_⟩
      have e := dgc v hv
      rw [if_pos hk] at e
      by_cases b : w.testBit v = true
      · rw [if_pos b] at e
        refine ⟨fun _ => b, fun _ => ?_⟩
        exact Classical.byContradiction fun q => hS ⟨v, hv, Or.inr ⟨e, q⟩⟩
      · rw [if_neg b] at e
        refine ⟨fun q => absurd ⟨v, hv, Or.inl ⟨e, q⟩⟩ hS, fun q => absurd q b⟩
    obtain ⟨d, hd, hw⟩ := h.2.2.1 _ hF
    refine ⟨d, h.1 d hd, hd, (rz_fa_iff hn d k w).mpr fun v hv => ?_⟩
    have e := dgc v hv
    rcases hw v hv with q | q
    · exact Or.inl q
    · rw [e] at q
      by_cases a : k.testBit v = true
      · rw [if_pos a] at q
        by_cases b : w.testBit v = true
        · rw [if_pos b] at q; exact Or.inr ⟨a, Or.inr ⟨q, b⟩⟩
        · rw [if_neg b] at q; exact Or.inr ⟨a, Or.inl ⟨q, b⟩⟩
      · rw [if_neg a] at q; exact Or.inl q
end
end
section
/-! PURE 4: counting models by partial assignments; the least model; bases -/
section
theorem rz_p2 (n : Nat) : 0 < 2 ^ n := Nat.pow_pos (by decide)
theorem rz_bt (a v : Nat) : a.testBit v = true ↔ a / 2 ^ v % 2 = 1 := by rw [Nat.testBit_eq_decide_div_mod_eq]; exact decide_eq_true_iff
theorem rz_biff {a b : Bool} (h : a = true ↔ b = true) : a = b := by
  cases a <;> cases b <;> simp_all
theorem rz_ag_mod {n k w : Nat} (hk : k ≤ n) (hw : w < 2 ^ k) (a : Nat) : rz_ag n (2 ^ k - 1) w a ↔ a % 2 ^ k = w := by
  constructor
  · intro h
    refine Nat.eq_of_testBit_eq (fun v => ?_)
    rw [Nat.testBit_mod_two_pow]
    by_cases hv : v < k
    · have e := rz_biff (h v (by omega) (by rw [Nat.testBit_two_pow_sub_one]; exact decide_eq_true hv))
      simp [hv, e]
    · have e : w.testBit v = false := Nat.testBit_lt_two_pow (Nat.lt_of_lt_of_le hw (Nat.pow_le_pow_right (by decide) (by omega)))
      simp [hv, e]
  · intro h v hv hb
    rw [Nat.testBit_two_pow_sub_one] at hb
    have hv' := of_decide_eq_true hb
    rw [← h, Nat.testBit_mod_two_pow]
    simp [hv']
noncomputable def rz_mc (n : Nat) (M : Nat → Prop) (k w : Nat) : Nat := rz_cn (fun a => M a ∧ a % 2 ^ k = w) (2 ^ n)
theorem rz_mc_0 (n : Nat) (M : Nat → Prop) : rz_mc n M 0 0 = rz_cn M (2 ^ n) := by
  refine rz_cn_congr _ (fun a _ => ⟨fun h => h.1, fun h => ⟨h, ?_⟩⟩)
  show a % 1 = 0
  omega
theorem rz_mc_split {n k w : Nat} (M : Nat → Prop) (hw : w < 2 ^ k) : rz_mc n M k w = rz_mc n M (k + 1) w + rz_mc n M (k + 1) (w + 2 ^ k) := by
  have e : ∀ a, a % 2 ^ (k + 1) = a % 2 ^ k + 2 ^ k * (a / 2 ^ k % 2) := fun a => by rw [Nat.pow_succ, Nat.mod_mul]
  have hp := rz_p2 k
  have lt : ∀ a, a % 2 ^ k < 2 ^ k := fun a => Nat.mod_lt _ hp
  have two : ∀ a : Nat, a / 2 ^ k % 2 = 0 ∨ a / 2 ^ k % 2 = 1 := fun a => by omega
  unfold rz_mc
  rw [← rz_cn_or]
  · refine rz_cn_congr _ (fun a _ => ⟨fun h => ?_, fun h => ?_⟩)
    · rcases two a with q | q
      · exact Or.inl ⟨h.1, by rw [e, q, Nat.mul_zero]; exact h.2⟩
      · exact Or.inr ⟨h.1, by rw [e, q, Nat.mul_one, h.2]⟩
    · rcases h with h | h
      · refine ⟨h.1, ?_⟩
        have h2 := h.2
        rw [e] at h2
        have := lt a
        rcases two a with q | q
        · rw [q, Nat.mul_zero] at h2; exact h2
        · rw [q, Nat.mul_one] at h2; omega
      · refine ⟨h.1, ?_⟩
        have h2 := h.2
        rw [e] at h2
        have := lt a
        rcases two a with q | q
        · rw [q, Nat.mul_zero] at h2; omega
        · rw [q, Nat.mul_one] at h2; omega
  · rintro a - ⟨h1, h2⟩
    have := h1.2.symm.trans h2.2
    omega
theorem rz_mc_full {n w : Nat} (M : Nat → Prop) (hw : w < 2 ^ n) : rz_mc n M n w = rz_i (M w) := by
  unfold rz_mc
  by_cases h : M w
  · rw [rz_i_t h, ← rz_cn_one hw]
    refine rz_cn_congr _ (fun a ha => ⟨fun q => ?_, fun q => ?_⟩)
    · rw [Nat.mod_eq_of_lt ha] at q; exact q.2
    · subst q; exact ⟨h, Nat.mod_eq_of_lt ha⟩
  · rw [rz_i_f h]
    refine rz_cn_none (fun a ha q => ?_)
    rw [Nat.mod_eq_of_lt ha] at q
    exact h (q.2 ▸ q.1)
theorem rz_br_mc {n : Nat} (hn : n ≤ 5) {K T : Nat → Prop} (h : rz_ok n K T) {k w : Nat} (hk : k ≤ n) (hw : w < 2 ^ k) : rz_br n K (2 ^ k - 1) w ↔ rz_mc n (rz_M n T) k w = 0 := by
  rw [rz_br_iff hn h]
  constructor
  · intro q
    refine rz_cn_none (fun a ha z => q ⟨a, ha, z.1, (rz_ag_mod hk hw a).mpr z.2⟩)
  · rintro q ⟨a, ha, hM, hag⟩
    exact rz_cn_zero q a ha ⟨hM, (rz_ag_mod hk hw a).mp hag⟩
theorem rz_or_pow {w k : Nat} (hw : w < 2 ^ k) : w ||| 2 ^ k = w + 2 ^ k := Nat.or_two_pow_eq_add_of_lt hw
def rz_sm (f : Nat → Nat) : Nat → Nat
  | 0 => 0
  | n + 1 => rz_sm f n + f n
theorem rz_sm_congr {f g : Nat → Nat} (n : Nat) (h : ∀ i, i < n → f i = g i) : rz_sm f n = rz_sm g n := by
  induction n with
  | zero => rfl
  | succ n ih =>
    show rz_sm f n + f n = rz_sm g n + g n
    rw [ih (fun i hi => h i (by omega)), h n (by omega)]
/-- the loop of 'models' -/
def rz_I (n : Nat) (M : Nat → Prop) (tot st top : Nat) (vv oo : Nat → Nat) : Prop := (∀ i, i < top → oo i ≤ n ∧ vv i < 2 ^ (oo i) ∧ i ≤ oo i) ∧
  tot + rz_sm (fun i => rz_mc n M (oo i) (vv i)) top = rz_cn M (2 ^ n) ∧ st + rz_sm (fun i => 2 ^ (n + 1 - oo i) - 1) top ≤ 63
theorem rz_w1 {n k : Nat} (hk : k ≤ n) : 1 ≤ 2 ^ (n + 1 - k) - 1 := by
  have h : 2 ^ 1 ≤ 2 ^ (n + 1 - k) := Nat.pow_le_pow_right (by decide) (by omega)
  omega
theorem rz_I_init {n : Nat} (hn : n ≤ 5) (M : Nat → Prop) {vv oo : Nat → Nat} (hv : vv 0 = 0) (ho : oo 0 = 0) : rz_I n M 0 0 1 vv oo := by
  refine ⟨fun i hi => ?_, ?_, ?_⟩
  · have : i = 0 := by omega
    subst this
    rw [hv, ho]
    exact ⟨Nat.zero_le n, by decide, Nat.le_refl 0⟩
  · show 0 + (0 + rz_mc n M (oo 0) (vv 0)) = _
    rw [hv, ho, rz_mc_0]
    omega
  · show 0 + (0 + (2 ^ (n + 1 - oo 0) - 1)) ≤ 63
    rw [ho]
    have h : 2 ^ (n + 1 - 0) ≤ 2 ^ 6 := Nat.pow_le_pow_right (by decide) (by omega)
    omega
theorem rz_I_st {n : Nat} {M : Nat → Prop} {tot st p : Nat} {vv oo : Nat → Nat} (h : rz_I n M tot st (p + 1) vv oo) : st < 64 := by
  have := h.2.2
  omega
theorem rz_I_pop {n : Nat} {M : Nat → Prop} {tot st p x : Nat} {vv oo : Nat → Nat} (h : rz_I n M tot st (p + 1) vv oo) (hx : rz_mc n M (oo p) (vv p) = x) : rz_I n M (tot + x) (st + 1) p vv oo := by
  obtain ⟨h1, h2, h3⟩ := h
  refine ⟨fun i hi => h1 i (by omega), ?_, ?_⟩
  · have h2 : tot + (rz_sm (fun i => rz_mc n M (oo i) (vv i)) p + rz_mc n M (oo p) (vv p)) = _ := h2
    rw [hx] at h2
    omega
  · have h3 : st + (rz_sm (fun i => 2 ^ (n + 1 - oo i) - 1) p + (2 ^ (n + 1 - oo p) - 1)) ≤ 63 := h3
    have := rz_w1 (h1 p (by omega)).1
    omega
theorem rz_I_push {n : Nat} {M : Nat → Prop} {tot st p : Nat} {vv oo vv' oo' : Nat → Nat} (h : rz_I n M tot st (p + 1) vv oo) (hlt : oo p < n)
    (hs : ∀ i, i < p → vv' i = vv i ∧ oo' i = oo i) (hp : vv' p = vv p ∧ oo' p = oo p + 1) (hq : vv' (p + 1) = vv p ||| 2 ^ (oo p) ∧ oo' (p + 1) = oo p + 1) : rz_I n M tot (st + 1) (p + 2) vv' oo' := by
  obtain ⟨h1, h2, h3⟩ := h
  obtain ⟨a1, a2, a3⟩ := h1 p (by omega)
  have hw := rz_or_pow a2
  have hpw : 2 ^ (oo p + 1) = 2 ^ (oo p) * 2 := Nat.pow_succ 2 (oo p)
  refine ⟨fun i hi => ?_, ?_, ?_⟩
  · by_cases e : i < p
    · rw [(hs i e).1, (hs i e).2]
      exact h1 i (by omega)
    · by_cases e2 : i = p
      · rw [e2, hp.1, hp.2]
        exact ⟨by omega, by omega, by omega⟩
      · have e3 : i = p + 1 := by omega
        rw [e3, hq.1, hq.2, hw]
        exact ⟨by omega, by omega, by omega⟩
  · have h2 : tot + (rz_sm (fun i => rz_mc n M (oo i) (vv i)) p + rz_mc n M (oo p) (vv p)) = _ := h2
    show tot + (rz_sm (fun i => rz_mc n M (oo' i) (vv' i)) p + rz_mc n M (oo' p) (vv' p) + rz_mc n M (oo' (p + 1)) (vv' (p + 1))) = _
    rw [rz_sm_congr p (g := fun i => rz_mc n M (oo i) (vv i)) (fun i hi => by rw [(hs i hi).1, (hs i hi).2]), hp.1, hp.2, hq.1, hq.2, hw]
    rw [rz_mc_split M a2] at h2
    omega
  · have h3 : st + (rz_sm (fun i => 2 ^ (n + 1 - oo i) - 1) p + (2 ^ (n + 1 - oo p) - 1)) ≤ 63 := h3
    show st + 1 + (rz_sm (fun i => 2 ^ (n + 1 - oo' i) - 1) p + (2 ^ (n + 1 - oo' p) - 1) + (2 ^ (n + 1 - oo' (p + 1)) - 1)) ≤ 63
    rw [rz_sm_congr p (g := fun i => 2 ^ (n + 1 - oo i) - 1) (fun i hi => by rw [(hs i hi).2]), hp.2, hq.2]
    have e : 2 ^ (n + 1 - oo p) = 2 ^ (n + 1 - (oo p + 1)) * 2 := by
      rw [← Nat.pow_succ]
      congr 1
      omega
    have := rz_p2 (n + 1 - (oo p + 1))
    omega
/-! the least model -/
def rz_L (n : Nat) (M : Nat → Prop) (k0 w0 j kn mo : Nat) : Prop := (∀ v, v < n → (kn.testBit v = true ↔ (k0.testBit v = true ∨ j ≤ v))) ∧ (∀ v, v < n → k0.testBit v = true → (mo.testBit v = true ↔ w0.testBit v = true)) ∧
  (∀ v, v < n → ¬ kn.testBit v = true → ¬ mo.testBit v = true) ∧ kn < 2 ^ n ∧ mo < 2 ^ n ∧ (∃ a, a < 2 ^ n ∧ M a ∧ rz_ag n kn mo a) ∧ ∀ a, a < 2 ^ n → M a → rz_ag n k0 w0 a → mo / 2 ^ j ≤ a / 2 ^ j
theorem rz_dv (x v : Nat) : x / 2 ^ v = 2 * (x / 2 ^ (v + 1)) + x / 2 ^ v % 2 := by
  have e : x / 2 ^ (v + 1) = x / 2 ^ v / 2 := by rw [Nat.pow_succ, Nat.div_div_eq_div_mul]
  rw [e]
  omega
theorem rz_L_init {n : Nat} {M : Nat → Prop} {k0 w0 : Nat} (hk : k0 < 2 ^ n) (hw : w0 < 2 ^ n) (hs : ∀ v, v < n → ¬ k0.testBit v = true → ¬ w0.testBit v = true) (he : ∃ a, a < 2 ^ n ∧ M a ∧ rz_ag n k0 w0 a) : rz_L n M k0 w0 n k0 w0 := by
  refine ⟨fun v hv => ⟨Or.inl, fun h => h.elim id (fun z => by omega)⟩, fun v _ _ => Iff.rfl, hs, hk, hw, he, fun a _ _ _ => ?_⟩
  rw [Nat.div_eq_of_lt hw]
  exact Nat.zero_le _
theorem rz_L_end {n : Nat} {M : Nat → Prop} {k0 w0 kn mo : Nat} (h : rz_L n M k0 w0 0 kn mo) : mo < 2 ^ n ∧ M mo ∧ rz_ag n k0 w0 mo ∧ ∀ a, a < 2 ^ n → M a → rz_ag n k0 w0 a → mo ≤ a := by
  obtain ⟨h1, h2, h3, h4, h5, ⟨a, ha, hM, hag⟩, h7⟩ := h
  have e : a = mo := by
    refine Nat.eq_of_testBit_eq (fun v => ?_)
    by_cases hv : v < n
    · exact rz_biff (hag v hv ((h1 v hv).mpr (Or.inr (Nat.zero_le v))))
    · have le : 2 ^ n ≤ 2 ^ v := Nat.pow_le_pow_right (by decide) (by omega)
      rw [Nat.testBit_lt_two_pow (Nat.lt_of_lt_of_le ha le), Nat.testBit_lt_two_pow (Nat.lt_of_lt_of_le h5 le)]
  subst e
  refine ⟨ha, hM, fun v hv hk => h2 v hv hk, fun b hb hMb hagb => ?_⟩
  have := h7 b hb hMb hagb
  rw [Nat.pow_zero, Nat.div_one, Nat.div_one] at this
  exact this
theorem rz_L_skip {n : Nat} {M : Nat → Prop} {k0 w0 v kn mo : Nat} (hv : v < n) (h : rz_L n M k0 w0 (v + 1) kn mo) (hb : kn.testBit v = true) : rz_L n M k0 w0 v kn mo := by
  obtain ⟨h1, h2, h3, h4, h5, h6, h7⟩ := h
  have hk0 : k0.testBit v = true := ((h1 v hv).mp hb).elim id (fun z => by omega)
  refine ⟨fun u hu => ?_, h2, h3, h4, h5, h6, fun a ha hM hag => ?_⟩
  · rw [h1 u hu]
    constructor
    · rintro (q | q)
      · exact Or.inl q
      · exact Or.inr (by omega)
    · rintro (q | q)
      · exact Or.inl q
      · by_cases e : u = v
        · rw [e]; exact Or.inl hk0
        · exact Or.inr (by omega)
  · have i1 := h7 a ha hM hag
    have e1 := (h2 v hv hk0).trans (hag v hv hk0).symm
    rw [rz_bt, rz_bt] at e1
    have d1 := rz_dv mo v
    have d2 := rz_dv a v
    omega
theorem rz_or_bit {x v : Nat} (u : Nat) : (x ||| 2 ^ v).testBit u = true ↔ x.testBit u = true ∨ u = v := by
  rw [Nat.testBit_or, Bool.or_eq_true, Nat.testBit_two_pow, decide_eq_true_iff]
  exact ⟨fun h => h.imp id Eq.symm, fun h => h.imp id Eq.symm⟩
theorem rz_or_lt {x v n : Nat} (hx : x < 2 ^ n) (hv : v < n) : x ||| 2 ^ v < 2 ^ n := Nat.or_lt_two_pow hx (Nat.pow_lt_pow_right (by decide) hv)
theorem rz_L_zero {n : Nat} {M : Nat → Prop} {k0 w0 v kn mo : Nat} (hv : v < n) (h : rz_L n M k0 w0 (v + 1) kn mo) (hb : ¬ kn.testBit v = true) (he : ∃ a, a < 2 ^ n ∧ M a ∧ rz_ag n (kn ||| 2 ^ v) mo a) : rz_L n M k0 w0 v (kn ||| 2 ^ v) mo := by
  obtain ⟨h1, h2, h3, h4, h5, h6, h7⟩ := h
  refine ⟨fun u hu => ?_, h2, fun u hu hn => h3 u hu (fun z => hn ((rz_or_bit u).mpr (Or.inl z))), rz_or_lt h4 hv, h5, he, fun a ha hM hag => ?_⟩
  · rw [rz_or_bit, h1 u hu]
    constructor
    · rintro ((q | q) | q)
      · exact Or.inl q
      · exact Or.inr (by omega)
      · exact Or.inr (by omega)
    · rintro (q | q)
      · exact Or.inl (Or.inl q)
      · by_cases e : u = v
        · exact Or.inr e
        · exact Or.inl (Or.inr (by omega))
  · have i1 := h7 a ha hM hag
    have i2 := h3 v hv hb
    rw [rz_bt] at i2
    have d1 := rz_dv mo v
    have d2 := rz_dv a v
    omega
theorem rz_L_one {n : Nat} {M : Nat → Prop} {k0 w0 v kn mo : Nat} (hv : v < n) (h : rz_L n M k0 w0 (v + 1) kn mo) (hb : ¬ kn.testBit v = true) (he : ¬ ∃ a, a < 2 ^ n ∧ M a ∧ rz_ag n (kn ||| 2 ^ v) mo a) : rz_L n M k0 w0 v (kn ||| 2 ^ v) (mo ||| 2 ^ v) := by
  obtain ⟨h1, h2, h3, h4, h5, h6, h7⟩ := h
  have hk0 : ¬ k0.testBit v = true := fun z => hb ((h1 v hv).mpr (Or.inl z))
  have must : ∀ a, a < 2 ^ n → M a → rz_ag n kn mo a → a.testBit v = true := by
    intro a ha hM hag
    refine Classical.byContradiction fun q => he ⟨a, ha, hM, fun u hu hk => ?_⟩
    rcases (rz_or_bit u).mp hk with z | z
    · exact hag u hu z
    · rw [z]; exact ⟨fun y => absurd y q, fun y => absurd y (h3 v hv hb)⟩
  refine ⟨fun u hu => ?_, fun u hu hk => ?_, fun u hu hn hm => ?_, rz_or_lt h4 hv, rz_or_lt h5 hv, ?_, fun a ha hM hag => ?_⟩
  · rw [rz_or_bit, h1 u hu]
    constructor
    · rintro ((q | q) | q)
      · exact Or.inl q
      · exact Or.inr (by omega)
      · exact Or.inr (by omega)
    · rintro (q | q)
      · exact Or.inl (Or.inl q)
      · by_cases e : u = v
        · exact Or.inr e
        · exact Or.inl (Or.inr (by omega))
  · rw [rz_or_bit]
    have hne : ¬ u = v := fun z => hk0 (z ▸ hk)
    exact ⟨fun q => (h2 u hu hk).mp (q.elim id (fun z => absurd z hne)), fun q => Or.inl ((h2 u hu hk).mpr q)⟩
  · rw [rz_or_bit] at hn hm
    rcases hm with z | z
    · exact h3 u hu (fun y => hn (Or.inl y)) z
    · exact hn (Or.inr z)
  · obtain ⟨a, ha, hM, hag⟩ := h6
    have hav := must a ha hM hag
    refine ⟨a, ha, hM, fun u hu hk => ?_⟩
    rw [rz_or_bit]
    by_cases e : u = v
    · rw [e]; exact ⟨fun _ => Or.inr rfl, fun _ => hav⟩
    · have hk' := ((rz_or_bit u).mp hk).elim id (fun z => absurd z e)
      exact ⟨fun q => Or.inl ((hag u hu hk').mp q), fun q => (hag u hu hk').mpr (q.elim id (fun z => absurd z e))⟩
  · have i1 := h7 a ha hM hag
    have i2 := h3 v hv hb
    rw [rz_bt] at i2
    have d0 := rz_dv mo v
    have d1 := rz_dv (mo ||| 2 ^ v) v
    have d2 := rz_dv a v
    have b1 := (rz_bt (mo ||| 2 ^ v) v).mp ((rz_or_bit v).mpr (Or.inr rfl))
    have hi : ∀ x y : Nat, x / 2 ^ (v + 1) = y / 2 ^ (v + 1) → ∀ u, v + 1 ≤ u → x.testBit u = y.testBit u := by
      intro x y e u hu
      have := congrArg (fun z => Nat.testBit z (u - (v + 1))) e
      simp only [Nat.testBit_div_two_pow] at this
      rw [show u - (v + 1) + (v + 1) = u by omega] at this
      exact this
    have e1 : (mo ||| 2 ^ v) / 2 ^ (v + 1) = mo / 2 ^ (v + 1) := by
      refine Nat.eq_of_testBit_eq (fun u => ?_)
      rw [Nat.testBit_div_two_pow, Nat.testBit_div_two_pow]
      refine rz_biff ?_
      rw [rz_or_bit]
      exact ⟨fun q => q.elim id (fun z => by omega), Or.inl⟩
    rcases Nat.lt_or_ge (mo / 2 ^ (v + 1)) (a / 2 ^ (v + 1)) with q | q
    · omega
    · have eq1 : a / 2 ^ (v + 1) = mo / 2 ^ (v + 1) := by omega
      have hav := must a ha hM (fun u hu hk => by
        rcases (h1 u hu).mp hk with z | z
        · exact (hag u hu z).trans (h2 u hu z).symm
        · rw [hi a mo eq1 u z])
      rw [rz_bt] at hav
      omega
/-! bases -/
def rz_B (b : Nat → Nat) (k t : Nat) : Prop := ∃ i, i < k ∧ b i = t
def rz_bs (N : Nat) (b : Nat → Nat) (k : Nat) : Prop := k ≤ 12 ∧ (∀ i, i < k → b i < N) ∧ ∀ i j, i < k → j < k → b i = b j → i = j
def rz_up (f : Nat → Nat) (i x : Nat) : Nat → Nat := fun j => if j = i then x else f j
theorem rz_up_s (f : Nat → Nat) (i x : Nat) : rz_up f i x i = x := if_pos rfl
theorem rz_up_n {f : Nat → Nat} {i j x : Nat} (h : j ≠ i) : rz_up f i x j = f j := if_neg h
theorem rz_B_add (b : Nat → Nat) (k j : Nat) : rz_B (rz_up b k j) (k + 1) = fun t => rz_B b k t ∨ t = j := by
  funext t
  refine propext ⟨fun h => ?_, fun h => ?_⟩
  · obtain ⟨i, hi, e⟩ := h
    by_cases z : i = k
    · rw [z, rz_up_s] at e; exact Or.inr e.symm
    · rw [rz_up_n z] at e; exact Or.inl ⟨i, by omega, e⟩
  · rcases h with ⟨i, hi, e⟩ | h
    · exact ⟨i, by omega, by rw [rz_up_n (by omega)]; exact e⟩
    · exact ⟨k, by omega, by rw [rz_up_s]; exact h.symm⟩
theorem rz_bs_add {N k j : Nat} {b : Nat → Nat} (h : rz_bs N b k) (hj : j < N) (hk : k < 12) (hn : ¬ rz_B b k j) : rz_bs N (rz_up b k j) (k + 1) := by
  obtain ⟨h1, h2, h3⟩ := h
  refine ⟨by omega, fun i hi => ?_, fun x y hx hy e => ?_⟩
  · by_cases z : i = k
    · rw [z, rz_up_s]; exact hj
    · rw [rz_up_n z]; exact h2 i (by omega)
  · by_cases zx : x = k
    · by_cases zy : y = k
      · omega
      · rw [zx, rz_up_s, rz_up_n zy] at e
        exact absurd ⟨y, by omega, e.symm⟩ hn
    · by_cases zy : y = k
      · rw [zy, rz_up_s, rz_up_n zx] at e
        exact absurd ⟨x, by omega, e⟩ hn
      · rw [rz_up_n zx, rz_up_n zy] at e
        exact h3 x y (by omega) (by omega) e
/-- shifted down by one from 'at' up to m -/
def rz_sh (b : Nat → Nat) (at_ m : Nat) : Nat → Nat := fun x => if at_ ≤ x ∧ x < m then b (x + 1) else b x
theorem rz_sh_in {b : Nat → Nat} {q m x : Nat} (h : q ≤ x) (h2 : x < m) : rz_sh b q m x = b (x + 1) := if_pos ⟨h, h2⟩
theorem rz_sh_out {b : Nat → Nat} {q m x : Nat} (h : ¬ (q ≤ x ∧ x < m)) : rz_sh b q m x = b x := if_neg h
theorem rz_sh_0 (b : Nat → Nat) (q : Nat) : rz_sh b q q = b := funext fun _ => rz_sh_out (by omega)
theorem rz_sh_s {b : Nat → Nat} {q m : Nat} (h : q ≤ m) : rz_up (rz_sh b q m) m (b (m + 1)) = rz_sh b q (m + 1) := by
  funext x
  by_cases e : x = m
  · rw [e, rz_up_s, rz_sh_in h (by omega)]
  · rw [rz_up_n e]
    by_cases z : q ≤ x ∧ x < m
    · rw [rz_sh_in z.1 z.2, rz_sh_in z.1 (by omega)]
    · rw [rz_sh_out z, rz_sh_out (by omega)]
theorem rz_sh_v {b : Nat → Nat} {q k x : Nat} (hx : x < k) : (x < q ∧ rz_sh b q k x = b x) ∨ (q ≤ x ∧ rz_sh b q k x = b (x + 1)) := by
  by_cases z : q ≤ x
  · exact Or.inr ⟨z, rz_sh_in z hx⟩
  · exact Or.inl ⟨by omega, rz_sh_out (by omega)⟩
theorem rz_B_sh {N k q : Nat} {b : Nat → Nat} (h : rz_bs N b (k + 1)) (hq : q < k + 1) : rz_B (rz_sh b q k) k = fun t => rz_B b (k + 1) t ∧ t ≠ b q := by
  obtain ⟨h1, h2, h3⟩ := h
  funext t
  refine propext ⟨fun h => ?_, fun h => ?_⟩
  · obtain ⟨i, hi, e⟩ := h
    rcases rz_sh_v (b := b) (q := q) hi with ⟨z, y⟩ | ⟨z, y⟩
    · rw [y] at e
      exact ⟨⟨i, by omega, e⟩, fun w => by have := h3 i q (by omega) hq (e.trans w); omega⟩
    · rw [y] at e
      exact ⟨⟨i + 1, by omega, e⟩, fun w => by have := h3 (i + 1) q (by omega) hq (e.trans w); omega⟩
  · obtain ⟨⟨i, hi, e⟩, hne⟩ := h
    have : i ≠ q := fun z => hne (by rw [← e, z])
    by_cases z : i < q
    · exact ⟨i, by omega, by rw [rz_sh_out (by omega)]; exact e⟩
    · refine ⟨i - 1, by omega, ?_⟩
      rw [rz_sh_in (by omega) (by omega), show i - 1 + 1 = i by omega]
      exact e
theorem rz_bs_sh {N k q : Nat} {b : Nat → Nat} (h : rz_bs N b (k + 1)) (hq : q < k + 1) : rz_bs N (rz_sh b q k) k := by
  obtain ⟨h1, h2, h3⟩ := h
  refine ⟨by omega, fun i hi => ?_, fun x y hx hy e => ?_⟩
  · rcases rz_sh_v (b := b) (q := q) hi with ⟨z, y⟩ | ⟨z, y⟩
    · rw [y]; exact h2 i (by omega)
    · rw [y]; exact h2 (i + 1) (by omega)
  · rcases rz_sh_v (b := b) (q := q) hx with ⟨z, y1⟩ | ⟨z, y1⟩ <;> rcases rz_sh_v (b := b) (q := q) hy with ⟨w, y2⟩ | ⟨w, y2⟩
    · rw [y1, y2] at e; exact h3 x y (by omega) (by omega) e
    · rw [y1, y2] at e; have := h3 x (y + 1) (by omega) (by omega) e; omega
    · rw [y1, y2] at e; have := h3 (x + 1) y (by omega) (by omega) e; omega
    · rw [y1, y2] at e; have := h3 (x + 1) (y + 1) (by omega) (by omega) e; omega
theorem rz_sw_v {b : Nat → Nat} {q k x : Nat} (hx : x < k) : (x ≠ q ∧ rz_up b q (b k) x = b x) ∨ (x = q ∧ rz_up b q (b k) x = b k) := by
  by_cases z : x = q
  · exact Or.inr ⟨z, by rw [z, rz_up_s]⟩
  · exact Or.inl ⟨z, rz_up_n z⟩
theorem rz_B_sw {N k q : Nat} {b : Nat → Nat} (h : rz_bs N b (k + 1)) (hq : q < k + 1) : rz_B (rz_up b q (b k)) k = fun t => rz_B b (k + 1) t ∧ t ≠ b q := by
  obtain ⟨h1, h2, h3⟩ := h
  funext t
  refine propext ⟨fun h => ?_, fun h => ?_⟩
  · obtain ⟨i, hi, e⟩ := h
    rcases rz_sw_v (b := b) (q := q) hi with ⟨z, y⟩ | ⟨z, y⟩
    · rw [y] at e
      exact ⟨⟨i, by omega, e⟩, fun w => by have := h3 i q (by omega) hq (e.trans w); omega⟩
    · rw [y] at e
      exact ⟨⟨k, by omega, e⟩, fun w => by have := h3 k q (by omega) hq (e.trans w); omega⟩
  · obtain ⟨⟨i, hi, e⟩, hne⟩ := h
    have : i ≠ q := fun z => hne (by rw [← e, z])
    by_cases z : i = k
    · exact ⟨q, by omega, by rw [rz_up_s, ← z]; exact e⟩
    · exact ⟨i, by omega, by rw [rz_up_n this]; exact e⟩
theorem rz_bs_sw {N k q : Nat} {b : Nat → Nat} (h : rz_bs N b (k + 1)) (hq : q < k + 1) : rz_bs N (rz_up b q (b k)) k := by
  obtain ⟨h1, h2, h3⟩ := h
  refine ⟨by omega, fun i hi => ?_, fun x y hx hy e => ?_⟩
  · rcases rz_sw_v (b := b) (q := q) hi with ⟨z, y⟩ | ⟨z, y⟩
    · rw [y]; exact h2 i (by omega)
    · rw [y]; exact h2 k (by omega)
  · rcases rz_sw_v (b := b) (q := q) hx with ⟨z, y1⟩ | ⟨z, y1⟩ <;> rcases rz_sw_v (b := b) (q := q) hy with ⟨w, y2⟩ | ⟨w, y2⟩
    · rw [y1, y2] at e; exact h3 x y (by omega) (by omega) e
    · rw [y1, y2] at e; have := h3 x k (by omega) (by omega) e; omega
    · rw [y1, y2] at e; have := h3 k y (by omega) (by omega) e; omega
    · omega
/-- counting places of a base is counting its clauses -/
theorem rz_cn_B {N : Nat} (P : Nat → Prop) (b : Nat → Nat) (k : Nat) (h2 : ∀ i, i < k → b i < N) (h3 : ∀ i j, i < k → j < k → b i = b j → i = j) : rz_cn (fun i => P (b i)) k = rz_cn (fun c => P c ∧ rz_B b k c) N := by
  induction k with
  | zero => exact (rz_cn_none (fun c _ h => by obtain ⟨-, i, hi, -⟩ := h; omega)).symm
  | succ k ih =>
    have ih := ih (fun i hi => h2 i (by omega)) (fun i j hi hj => h3 i j (by omega) (by omega))
    have hnew : ¬ rz_B b k (b k) := by
      rintro ⟨i, hi, e⟩
      have := h3 i k (by omega) (by omega) e
      omega
    have hB : ∀ c, rz_B b (k + 1) c ↔ rz_B b k c ∨ c = b k := by
      intro c
      constructor
      · rintro ⟨i, hi, e⟩
        by_cases z : i = k
        · rw [z] at e; exact Or.inr e.symm
        · exact Or.inl ⟨i, by omega, e⟩
      · rintro (⟨i, hi, e⟩ | e)
        · exact ⟨i, by omega, e⟩
        · exact ⟨k, by omega, e.symm⟩
    show rz_cn (fun i => P (b i)) k + rz_i (P (b k)) = _
    rw [ih]
    by_cases p : P (b k)
    · rw [rz_i_t p, ← rz_cn_ins (P := fun c => P c ∧ rz_B b k c) (h2 k (by omega)) (fun q => hnew q.2)]
      refine rz_cn_congr _ (fun c _ => ?_)
      rw [hB]
      constructor
      · rintro (q | q)
        · exact ⟨q.1, Or.inl q.2⟩
        · exact ⟨by rw [q]; exact p, Or.inr q⟩
      · rintro ⟨q, z | z⟩
        · exact Or.inl ⟨q, z⟩
        · exact Or.inr z
    · rw [rz_i_f p, Nat.add_zero]
      refine rz_cn_congr _ (fun c _ => ?_)
      rw [hB]
      constructor
      · exact fun q => ⟨q.1, Or.inl q.2⟩
      · rintro ⟨q, z | z⟩
        · exact ⟨q, z⟩
        · exact absurd (by rw [← z]; exact q) p
/-- the base but the place i -/
def rz_Bx (b : Nat → Nat) (k i t : Nat) : Prop := ∃ j, j < k ∧ j ≠ i ∧ b j = t
theorem rz_Bx_iff {N k i : Nat} {b : Nat → Nat} (h : rz_bs N b k) (hi : i < k) (t : Nat) : rz_Bx b k i t ↔ rz_B b k t ∧ t ≠ b i := by
  constructor
  · rintro ⟨j, hj, hne, e⟩
    exact ⟨⟨j, hj, e⟩, fun z => hne (h.2.2 j i hj hi (e.trans z))⟩
  · rintro ⟨⟨j, hj, e⟩, hne⟩
    exact ⟨j, hj, fun z => hne (by rw [← e, z]), e⟩
theorem rz_red {n N k : Nat} {b b' : Nat → Nat} (h : rz_bs N b k) (h' : rz_bs N b' k) (e : rz_B b k = rz_B b' k) : rz_cn (fun i => rz_Fo n (rz_Bx b k i) (b i)) k = rz_cn (fun i => rz_Fo n (rz_Bx b' k i) (b' i)) k := by
  have key : ∀ (b : Nat → Nat), rz_bs N b k → rz_cn (fun i => rz_Fo n (rz_Bx b k i) (b i)) k = rz_cn (fun c => rz_Fo n (fun t => rz_B b k t ∧ t ≠ c) c ∧ rz_B b k c) N := by
    intro b h
    rw [← rz_cn_B (fun c => rz_Fo n (fun t => rz_B b k t ∧ t ≠ c) c) b k h.2.1 h.2.2]
    refine rz_cn_congr _ (fun i hi => ?_)
    rw [show rz_Bx b k i = (fun t => rz_B b k t ∧ t ≠ b i) from funext fun t => propext (rz_Bx_iff h hi t)]
  rw [key b h, key b' h', e]
end
end
section
/-! ROWS: arithmetic on small numbers, contexts, branches, arrays, contracts, calls -/
section
set_option maxRecDepth 100000
abbrev vwCl : List vw_C := [(RX1, TX1, 14), (RX2, TX2, 6)]
theorem wk_and (a b : Nat) : nI a &&& nI b = nI (a &&& b) := by
  apply Int32.toBitVec_inj.1
  show BitVec.ofNat 32 a &&& BitVec.ofNat 32 b = BitVec.ofNat 32 (a &&& b)
  apply BitVec.eq_of_getLsbD_eq
  intro i hi
  simp [hi]
theorem wk_or (a b : Nat) : nI a ||| nI b = nI (a ||| b) := by
  apply Int32.toBitVec_inj.1
  show BitVec.ofNat 32 a ||| BitVec.ofNat 32 b = BitVec.ofNat 32 (a ||| b)
  apply BitVec.eq_of_getLsbD_eq
  intro i hi
  simp [hi]
theorem wk_xor (a b : Nat) : nI a ^^^ nI b = nI (a ^^^ b) := by
  apply Int32.toBitVec_inj.1
  show BitVec.ofNat 32 a ^^^ BitVec.ofNat 32 b = BitVec.ofNat 32 (a ^^^ b)
  apply BitVec.eq_of_getLsbD_eq
  intro i hi
  simp [hi]
theorem wk_m1 : (-1 : Int32) = nI 4294967295 := by decide +kernel
theorem wk_andn {a : Nat} (ha : a < 32) (b : Nat) : nI a &&& (nI b ^^^ (-1)) = nI (a &&& (b ^^^ 31)) := by
  rw [wk_m1, wk_xor, wk_and]
  congr 1
  refine Nat.eq_of_testBit_eq (fun v => ?_)
  rw [Nat.testBit_and, Nat.testBit_and, Nat.testBit_xor, Nat.testBit_xor]
  cases e : a.testBit v
  · rfl
  · have h5 := rz_lt5 ha e
    have h1 : (4294967295 : Nat).testBit v = true := by
      have : (2 ^ 32 - 1).testBit v = decide (v < 32) := Nat.testBit_two_pow_sub_one 32 v
      rw [show (4294967295 : Nat) = 2 ^ 32 - 1 from rfl, this]
      exact decide_eq_true (by omega)
    have h2 : (31 : Nat).testBit v = true := by rw [rz_b31]; exact decide_eq_true h5
    rw [h1, h2]
theorem wk_sl : ∀ n, n < 32 → ((nI n &&& 31).toBitVec.smod 32).toNat = n := by decide +kernel
theorem wk_shl {v : Nat} (hv : v < 31) : nI 1 <<< (nI v &&& 31) = nI (2 ^ v) := by
  have h : 1 * 2 ^ v < 2 ^ 32 := by
    rw [Nat.one_mul]
    exact Nat.pow_lt_pow_right (by decide) (by omega)
  rw [pk_shlN _ v (wk_sl v (by omega)) h, Nat.one_mul]
theorem wk_shr {a v : Nat} (ha : a < 2 ^ 31) (hv : v < 32) : nI a >>> (nI v &&& 31) = nI (a / 2 ^ v) := pk_shrN ha _ v (wk_sl v hv)
theorem wk_and1 (a : Nat) : nI a &&& nI 1 = nI (a % 2) := by
  rw [wk_and, Nat.and_one_is_mod]
theorem wk_rem3 {a : Nat} (ha : a < 2 ^ 31) : nI a - nI a / nI 3 * nI 3 = nI (a % 3) := pk_rem ha (by decide) (by decide)
theorem wk_div3 {a : Nat} (ha : a < 2 ^ 31) : nI a / nI 3 = nI (a / 3) := pk_div ha (by decide) (by decide)
theorem wk_3n0 : ¬ nI 3 = 0 := by decide +kernel
theorem wk_byte : ∀ x, x < 128 → (nI x).toInt8.toInt32 = nI x := by decide +kernel
theorem wk_short : ∀ x, x < 256 → (nI x).toInt16.toInt32 = nI x := by decide +kernel
theorem wk_eq0 {a : Nat} (ha : a < 2 ^ 31) : nI a = 0 ↔ a = 0 := by rw [← nI_0]; exact nI_eq ha (by decide)
theorem wk_le0 {a : Nat} (ha : a < 2 ^ 31) : nI a ≤ 0 ↔ a = 0 := by rw [← nI_0, nI_leI ha (by decide)]; omega
theorem wk_lt0 {a : Nat} (ha : a < 2 ^ 31) : ¬ nI a < 0 := nI_pos ha
theorem wk_clamp {a : Nat} (ha : a < 2 ^ 31) : (nI a).toNatClampNeg = a := nI_clamp ha
def rz_uq (K : Nat → Prop) (i : Nat) (P : Prop) : Nat → Prop := fun j => (j = i ∧ P) ∨ (j ≠ i ∧ K j)
theorem wk_updb (K : Nat → Prop) (i : Nat) (P : Prop) : upd (fun j => rz_b (K j)) i (rz_b P) = fun j => rz_b (rz_uq K i P j) := by
  funext j
  by_cases e : j = i
  · subst e
    rw [pk_us]
    exact rz_b_c ⟨fun h => Or.inl ⟨rfl, h⟩, fun h => h.elim And.right (fun z => absurd rfl z.1)⟩
  · rw [pk_un e]
    exact rz_b_c ⟨fun h => Or.inr ⟨e, h⟩, fun h => h.elim (fun z => absurd z.1 e) And.right⟩
theorem wk_updn (f : Nat → Nat) (i x : Nat) : upd (fun j => nI (f j)) i (nI x) = fun j => nI (rz_up f i x j) := by
  funext j
  by_cases e : j = i
  · subst e
    rw [pk_us, rz_up_s]
  · rw [pk_un e, rz_up_n e]
theorem wk_narb (P : Prop) : vp_nar .boolean (rz_b P) = rz_b P := by
  rcases rz_b01 P with ⟨-, h⟩ | ⟨-, h⟩
  · rw [h]; decide +kernel
  · rw [h]; decide +kernel
theorem wk_narz (P : Prop) : narrow .boolean (.int (rz_b P)) = .int (rz_b P) := by
  rcases rz_b01 P with ⟨-, h⟩ | ⟨-, h⟩
  · rw [h]; decide +kernel
  · rw [h]; decide +kernel
theorem wk_fitz (P : Prop) : fits .boolean (.int (rz_b P)) = true := by
  rcases rz_b01 P with ⟨-, h⟩ | ⟨-, h⟩
  · rw [h]; decide +kernel
  · rw [h]; decide +kernel
/-! contexts -/
def wk_C (p : Program) (s : State) (m : MethodId) (meth : Method) (c : Code) (args : Array Value) (own : String) (cc : ByteArray) (nL : Nat) (ret : Option FieldType) : Prop :=
  p.tables.exec = Jvm.exec ∧ c.code = cc ∧ meth.sig.returnType = ret ∧ c.maxLocals = nL ∧ s.vm.findClass own = some m.cls ∧ (∀ w ∈ lw_all, w.before args s = true) ∧ meth.locks = false
def wk_S (A : Nat → Prop) (s : State) (D : va_G) (tys : List (ClassId × FieldType)) (ws : va_W) (H : Heap) (locs : List Loc) : Prop :=
  va_K D vwCl tys s ∧ va_P D vwCl ws H ∧ va_D A ws ∧ va_S A s.heap H locs ∧ ∀ q : Nat, s.heap.size ≤ q → A q
def wk_rm (f lo : Nat) : Room := { frames := f, cells := 0, slots := 0, locals := lo }
def wk_R (f lo : Nat) (R : Room) : Prop := f ≤ R.frames ∧ lo ≤ R.locals
theorem wk_R.le {f lo f' lo' : Nat} {R : Room} (h : wk_R f lo R) (h1 : f' ≤ f) (h2 : lo' ≤ lo) : wk_R f' lo' R := ⟨Nat.le_trans h1 h.1, Nat.le_trans h2 h.2⟩
theorem wk_S.eq {A : Nat → Prop} {s : State} {D : va_G} {tys : List (ClassId × FieldType)} {ws ws' : va_W} {H : Heap} {locs : List Loc} (h : wk_S A s D tys ws H locs) (e : ws = ws') : wk_S A s D tys ws' H locs := e ▸ h
section
variable {p : Program} {l : Launch} {e : Env} {R : Room} {s : State} {m : MethodId} {args : Array Value} {below : List Frame} {meth : Method} {c : Code} {H : Heap} {locs : List Loc} {cells slots : Nat} {Q : State → Prop}
variable {cc : ByteArray} {pc : Nat} {ls : Array Slot} {rest : List Value}
theorem wk_top {x v : Int32} (h : x = v) (k : W p l e R s m args below meth c H locs cells slots Q (F0 m pc ls (.int v :: rest))) : W p l e R s m args below meth c H locs cells slots Q (F0 m pc ls (.int x :: rest)) := h ▸ k
theorem nk_ge (hx : p.tables.exec = Jvm.exec) (hb : c.code = cc) {a b : Nat} (ha : a < 2 ^ 31) (hb0 : b < 2 ^ 31) {off : Int} {tgt : Nat} (hdg : decode cc pc = .ok (.if_icmp .ge off, 3)) (ht : (pc : Int) + off = (tgt : Int)) (kt : b ≤ a → W p l e R s m args below meth c H locs cells slots Q (F0 m tgt ls rest)) (kf : a < b → W p l e R s m args below meth c H locs cells slots Q (F0 m (pc + 3) ls rest)) : W p l e R s m args below meth c H locs cells slots Q (F0 m pc ls (.int (nI b) :: .int (nI a) :: rest)) := lv_icmp_ge hx hb hdg ht (fun h => kt ((nI_leI hb0 ha).mp h)) (fun h => kf (Nat.not_le.mp (fun z => h ((nI_leI hb0 ha).mpr z))))
theorem nk_gt (hx : p.tables.exec = Jvm.exec) (hb : c.code = cc) {a b : Nat} (ha : a < 2 ^ 31) (hb0 : b < 2 ^ 31) {off : Int} {tgt : Nat} (hdg : decode cc pc = .ok (.if_icmp .gt off, 3)) (ht : (pc : Int) + off = (tgt : Int)) (kt : b < a → W p l e R s m args below meth c H locs cells slots Q (F0 m tgt ls rest)) (kf : a ≤ b → W p l e R s m args below meth c H locs cells slots Q (F0 m (pc + 3) ls rest)) : W p l e R s m args below meth c H locs cells slots Q (F0 m pc ls (.int (nI b) :: .int (nI a) :: rest)) := lv_icmp_gt hx hb hdg ht (fun h => kt ((nI_ltI hb0 ha).mp h)) (fun h => kf (Nat.not_lt.mp (fun z => h ((nI_ltI hb0 ha).mpr z))))
theorem nk_le (hx : p.tables.exec = Jvm.exec) (hb : c.code = cc) {a b : Nat} (ha : a < 2 ^ 31) (hb0 : b < 2 ^ 31) {off : Int} {tgt : Nat} (hdg : decode cc pc = .ok (.if_icmp .le off, 3)) (ht : (pc : Int) + off = (tgt : Int)) (kt : a ≤ b → W p l e R s m args below meth c H locs cells slots Q (F0 m tgt ls rest)) (kf : b < a → W p l e R s m args below meth c H locs cells slots Q (F0 m (pc + 3) ls rest)) : W p l e R s m args below meth c H locs cells slots Q (F0 m pc ls (.int (nI b) :: .int (nI a) :: rest)) := lv_icmp_le hx hb hdg ht (fun h => kt ((nI_leI ha hb0).mp h)) (fun h => kf (Nat.not_le.mp (fun z => h ((nI_leI ha hb0).mpr z))))
theorem nk_lt (hx : p.tables.exec = Jvm.exec) (hb : c.code = cc) {a b : Nat} (ha : a < 2 ^ 31) (hb0 : b < 2 ^ 31) {off : Int} {tgt : Nat} (hdg : decode cc pc = .ok (.if_icmp .lt off, 3)) (ht : (pc : Int) + off = (tgt : Int)) (kt : a < b → W p l e R s m args below meth c H locs cells slots Q (F0 m tgt ls rest)) (kf : b ≤ a → W p l e R s m args below meth c H locs cells slots Q (F0 m (pc + 3) ls rest)) : W p l e R s m args below meth c H locs cells slots Q (F0 m pc ls (.int (nI b) :: .int (nI a) :: rest)) := lv_icmp_lt hx hb hdg ht (fun h => kt ((nI_ltI ha hb0).mp h)) (fun h => kf (Nat.not_lt.mp (fun z => h ((nI_ltI ha hb0).mpr z))))
theorem nk_eq (hx : p.tables.exec = Jvm.exec) (hb : c.code = cc) {a b : Nat} (ha : a < 2 ^ 31) (hb0 : b < 2 ^ 31) {off : Int} {tgt : Nat} (hdg : decode cc pc = .ok (.if_icmp .eq off, 3)) (ht : (pc : Int) + off = (tgt : Int)) (kt : a = b → W p l e R s m args below meth c H locs cells slots Q (F0 m tgt ls rest)) (kf : a ≠ b → W p l e R s m args below meth c H locs cells slots Q (F0 m (pc + 3) ls rest)) : W p l e R s m args below meth c H locs cells slots Q (F0 m pc ls (.int (nI b) :: .int (nI a) :: rest)) := lv_icmp_eq hx hb hdg ht (fun h => kt ((nI_eq ha hb0).mp h)) (fun h => kf (fun z => h ((nI_eq ha hb0).mpr z)))
theorem nk_ne (hx : p.tables.exec = Jvm.exec) (hb : c.code = cc) {a b : Nat} (ha : a < 2 ^ 31) (hb0 : b < 2 ^ 31) {off : Int} {tgt : Nat} (hdg : decode cc pc = .ok (.if_icmp .ne off, 3)) (ht : (pc : Int) + off = (tgt : Int)) (kt : a ≠ b → W p l e R s m args below meth c H locs cells slots Q (F0 m tgt ls rest)) (kf : a = b → W p l e R s m args below meth c H locs cells slots Q (F0 m (pc + 3) ls rest)) : W p l e R s m args below meth c H locs cells slots Q (F0 m pc ls (.int (nI b) :: .int (nI a) :: rest)) := lv_icmp_ne hx hb hdg ht (fun h => kt (fun z => h ((nI_eq ha hb0).mpr z))) (fun h => kf ((nI_eq ha hb0).mp h))
theorem nk_if_eq (hx : p.tables.exec = Jvm.exec) (hb : c.code = cc) {a : Nat} (ha : a < 2 ^ 31) {off : Int} {tgt : Nat} (hdg : decode cc pc = .ok (.ifCond .eq off, 3)) (ht : (pc : Int) + off = (tgt : Int)) (kt : a = 0 → W p l e R s m args below meth c H locs cells slots Q (F0 m tgt ls rest)) (kf : a ≠ 0 → W p l e R s m args below meth c H locs cells slots Q (F0 m (pc + 3) ls rest)) : W p l e R s m args below meth c H locs cells slots Q (F0 m pc ls (.int (nI a) :: rest)) := lv_if_eq hx hb hdg ht (fun h => kt ((wk_eq0 ha).mp h)) (fun h => kf (fun z => h ((wk_eq0 ha).mpr z)))
theorem nk_if_ne (hx : p.tables.exec = Jvm.exec) (hb : c.code = cc) {a : Nat} (ha : a < 2 ^ 31) {off : Int} {tgt : Nat} (hdg : decode cc pc = .ok (.ifCond .ne off, 3)) (ht : (pc : Int) + off = (tgt : Int)) (kt : a ≠ 0 → W p l e R s m args below meth c H locs cells slots Q (F0 m tgt ls rest)) (kf : a = 0 → W p l e R s m args below meth c H locs cells slots Q (F0 m (pc + 3) ls rest)) : W p l e R s m args below meth c H locs cells slots Q (F0 m pc ls (.int (nI a) :: rest)) := lv_if_ne hx hb hdg ht (fun h => kt (fun z => h ((wk_eq0 ha).mpr z))) (fun h => kf ((wk_eq0 ha).mp h))
theorem nk_if_le (hx : p.tables.exec = Jvm.exec) (hb : c.code = cc) {a : Nat} (ha : a < 2 ^ 31) {off : Int} {tgt : Nat} (hdg : decode cc pc = .ok (.ifCond .le off, 3)) (ht : (pc : Int) + off = (tgt : Int)) (kt : a = 0 → W p l e R s m args below meth c H locs cells slots Q (F0 m tgt ls rest)) (kf : 0 < a → W p l e R s m args below meth c H locs cells slots Q (F0 m (pc + 3) ls rest)) : W p l e R s m args below meth c H locs cells slots Q (F0 m pc ls (.int (nI a) :: rest)) := lv_if_le hx hb hdg ht (fun h => kt ((wk_le0 ha).mp h)) (fun h => kf (Nat.pos_of_ne_zero (fun z => h ((wk_le0 ha).mpr z))))
theorem bk_if_eq (hx : p.tables.exec = Jvm.exec) (hb : c.code = cc) {P : Prop} {off : Int} {tgt : Nat} (hdg : decode cc pc = .ok (.ifCond .eq off, 3)) (ht : (pc : Int) + off = (tgt : Int)) (kt : ¬ P → W p l e R s m args below meth c H locs cells slots Q (F0 m tgt ls rest)) (kf : P → W p l e R s m args below meth c H locs cells slots Q (F0 m (pc + 3) ls rest)) : W p l e R s m args below meth c H locs cells slots Q (F0 m pc ls (.int (rz_b P) :: rest)) := lv_if_eq hx hb hdg ht (fun h => kt (rz_b_eq0.mp h)) (fun h => kf (Classical.byContradiction fun z => h (rz_b_eq0.mpr z)))
theorem bk_if_ne (hx : p.tables.exec = Jvm.exec) (hb : c.code = cc) {P : Prop} {off : Int} {tgt : Nat} (hdg : decode cc pc = .ok (.ifCond .ne off, 3)) (ht : (pc : Int) + off = (tgt : Int)) (kt : P → W p l e R s m args below meth c H locs cells slots Q (F0 m tgt ls rest)) (kf : ¬ P → W p l e R s m args below meth c H locs cells slots Q (F0 m (pc + 3) ls rest)) : W p l e R s m args below meth c H locs cells slots Q (F0 m pc ls (.int (rz_b P) :: rest)) := lv_if_ne hx hb hdg ht (fun h => kt (Classical.byContradiction fun z => h (rz_b_eq0.mpr z))) (fun h => kf (rz_b_eq0.mp h))
variable {D : va_G} {A : Nat → Prop} {a : Nat} {tys : List (ClassId × FieldType)} {ws : va_W}
theorem wk_ldi (hx : p.tables.exec = Jvm.exec) (hb : c.code = cc) (hs : wk_S A s D tys ws H locs) (q0 t0 : Nat) {cA : ClassId} {N : Nat} {f : Nat → Nat} (ha : ws[q0]? = some (a, .inl (cA, N, .inl (fun j => nI (f j))))) (ht : tys[t0]? = some (cA, .int)) {i : Nat} (hi : i < N) (hN : N < 2 ^ 31) (hdg : decode cc pc = .ok (.iaload, 1)) (kk : W p l e R s m args below meth c H locs cells slots Q (F0 m (pc + 1) ls (.int (nI (f i)) :: rest))) : W p l e R s m args below meth c H locs cells slots Q (F0 m pc ls (.int (nI i) :: .ref a :: rest)) := by
  refine va_iald hx hb hs.1 hs.2.1 q0 t0 ha ht (vp_in_nI hi hN) hdg ?_
  rw [wk_clamp (Nat.lt_trans hi hN)]
  exact kk
theorem wk_ldb (hx : p.tables.exec = Jvm.exec) (hb : c.code = cc) (hs : wk_S A s D tys ws H locs) (q0 t0 : Nat) {cA : ClassId} {N : Nat} {f : Nat → Nat} (ha : ws[q0]? = some (a, .inl (cA, N, .inl (fun j => nI (f j))))) (ht : tys[t0]? = some (cA, .byte)) {i : Nat} (hi : i < N) (hN : N < 2 ^ 31) (hdg : decode cc pc = .ok (.baload, 1)) (kk : W p l e R s m args below meth c H locs cells slots Q (F0 m (pc + 1) ls (.int (nI (f i)) :: rest))) : W p l e R s m args below meth c H locs cells slots Q (F0 m pc ls (.int (nI i) :: .ref a :: rest)) := by
  refine va_bald hx hb hs.1 hs.2.1 q0 t0 ha ht (vp_in_nI hi hN) hdg ?_
  rw [wk_clamp (Nat.lt_trans hi hN)]
  exact kk
theorem wk_lds (hx : p.tables.exec = Jvm.exec) (hb : c.code = cc) (hs : wk_S A s D tys ws H locs) (q0 t0 : Nat) {cA : ClassId} {N : Nat} {f : Nat → Nat} (ha : ws[q0]? = some (a, .inl (cA, N, .inl (fun j => nI (f j))))) (ht : tys[t0]? = some (cA, .short)) {i : Nat} (hi : i < N) (hN : N < 2 ^ 31) (hdg : decode cc pc = .ok (.saload, 1)) (kk : W p l e R s m args below meth c H locs cells slots Q (F0 m (pc + 1) ls (.int (nI (f i)) :: rest))) : W p l e R s m args below meth c H locs cells slots Q (F0 m pc ls (.int (nI i) :: .ref a :: rest)) := by
  refine va_sald hx hb hs.1 hs.2.1 q0 t0 ha ht (vp_in_nI hi hN) hdg ?_
  rw [wk_clamp (Nat.lt_trans hi hN)]
  exact kk
theorem wk_ldz (hx : p.tables.exec = Jvm.exec) (hb : c.code = cc) (hs : wk_S A s D tys ws H locs) (q0 t0 : Nat) {cA : ClassId} {N : Nat} {f : Nat → Prop} (ha : ws[q0]? = some (a, .inl (cA, N, .inl (fun j => rz_b (f j))))) (ht : tys[t0]? = some (cA, .boolean)) {i : Nat} (hi : i < N) (hN : N < 2 ^ 31) (hdg : decode cc pc = .ok (.baload, 1)) (kk : W p l e R s m args below meth c H locs cells slots Q (F0 m (pc + 1) ls (.int (rz_b (f i)) :: rest))) : W p l e R s m args below meth c H locs cells slots Q (F0 m pc ls (.int (nI i) :: .ref a :: rest)) := by
  refine va_zald hx hb hs.1 hs.2.1 q0 t0 ha ht (vp_in_nI hi hN) hdg ?_
  rw [wk_clamp (Nat.lt_trans hi hN)]
  exact kk
theorem wk_sti (hx : p.tables.exec = Jvm.exec) (hb : c.code = cc) (hs : wk_S A s D tys ws H locs) (q0 t0 : Nat) {cA : ClassId} {N : Nat} {f : Nat → Nat} (ha : ws[q0]? = some (a, .inl (cA, N, .inl (fun j => nI (f j))))) (ht : tys[t0]? = some (cA, .int)) {i x : Nat} (hi : i < N) (hN : N < 2 ^ 31) {ws' : va_W} (hw : ws.set q0 (a, .inl (cA, N, .inl (fun j => nI (rz_up f i x j)))) = ws') (hdg : decode cc pc = .ok (.iastore, 1)) (kk : ∀ (H1 : Heap) (locs1 : List Loc), wk_S A s D tys ws' H1 locs1 → W p l e R s m args below meth c H1 locs1 cells slots Q (F0 m (pc + 1) ls rest)) : W p l e R s m args below meth c H locs cells slots Q (F0 m pc ls (.int (nI x) :: .int (nI i) :: .ref a :: rest)) := by
  refine va_iast hx hb hs.1 hs.2.1 hs.2.2.1 hs.2.2.2.1 q0 t0 ha ht (vp_in_nI hi hN) hdg (fun H1 locs1 hP hD hS => ?_)
  rw [wk_clamp (Nat.lt_trans hi hN), wk_updn, hw] at hP hD
  exact kk H1 locs1 ⟨hs.1, hP, hD, hS, hs.2.2.2.2⟩
theorem wk_stb (hx : p.tables.exec = Jvm.exec) (hb : c.code = cc) (hs : wk_S A s D tys ws H locs) (q0 t0 : Nat) {cA : ClassId} {N : Nat} {f : Nat → Nat} (ha : ws[q0]? = some (a, .inl (cA, N, .inl (fun j => nI (f j))))) (ht : tys[t0]? = some (cA, .byte)) {i x : Nat} (hi : i < N) (hN : N < 2 ^ 31) (hv : x < 128) {ws' : va_W} (hw : ws.set q0 (a, .inl (cA, N, .inl (fun j => nI (rz_up f i x j)))) = ws') (hdg : decode cc pc = .ok (.bastore, 1)) (kk : ∀ (H1 : Heap) (locs1 : List Loc), wk_S A s D tys ws' H1 locs1 → W p l e R s m args below meth c H1 locs1 cells slots Q (F0 m (pc + 1) ls rest)) : W p l e R s m args below meth c H locs cells slots Q (F0 m pc ls (.int (nI x) :: .int (nI i) :: .ref a :: rest)) := by
  refine va_bast hx hb hs.1 hs.2.1 hs.2.2.1 hs.2.2.2.1 q0 t0 ha ht (vp_in_nI hi hN) hdg (fun H1 locs1 hP hD hS => ?_)
  rw [wk_clamp (Nat.lt_trans hi hN), vp_nar_byte, wk_byte x hv, wk_updn, hw] at hP hD
  exact kk H1 locs1 ⟨hs.1, hP, hD, hS, hs.2.2.2.2⟩
theorem wk_sts (hx : p.tables.exec = Jvm.exec) (hb : c.code = cc) (hs : wk_S A s D tys ws H locs) (q0 t0 : Nat) {cA : ClassId} {N : Nat} {f : Nat → Nat} (ha : ws[q0]? = some (a, .inl (cA, N, .inl (fun j => nI (f j))))) (ht : tys[t0]? = some (cA, .short)) {i x : Nat} (hi : i < N) (hN : N < 2 ^ 31) (hv : x < 256) {ws' : va_W} (hw : ws.set q0 (a, .inl (cA, N, .inl (fun j => nI (rz_up f i x j)))) = ws') (hdg : decode cc pc = .ok (.sastore, 1)) (kk : ∀ (H1 : Heap) (locs1 : List Loc), wk_S A s D tys ws' H1 locs1 → W p l e R s m args below meth c H1 locs1 cells slots Q (F0 m (pc + 1) ls rest)) : W p l e R s m args below meth c H locs cells slots Q (F0 m pc ls (.int (nI x) :: .int (nI i) :: .ref a :: rest)) := by
  refine va_sast hx hb hs.1 hs.2.1 hs.2.2.1 hs.2.2.2.1 q0 t0 ha ht (vp_in_nI hi hN) hdg (fun H1 locs1 hP hD hS => ?_)
  rw [wk_clamp (Nat.lt_trans hi hN), vp_nar_short, wk_short x hv, wk_updn, hw] at hP hD
  exact kk H1 locs1 ⟨hs.1, hP, hD, hS, hs.2.2.2.2⟩
theorem wk_stz (hx : p.tables.exec = Jvm.exec) (hb : c.code = cc) (hs : wk_S A s D tys ws H locs) (q0 t0 : Nat) {cA : ClassId} {N : Nat} {f : Nat → Prop} (ha : ws[q0]? = some (a, .inl (cA, N, .inl (fun j => rz_b (f j))))) (ht : tys[t0]? = some (cA, .boolean)) {i : Nat} {P : Prop} (hi : i < N) (hN : N < 2 ^ 31) {ws' : va_W} (hw : ws.set q0 (a, .inl (cA, N, .inl (fun j => rz_b (rz_uq f i P j)))) = ws') (hdg : decode cc pc = .ok (.bastore, 1)) (kk : ∀ (H1 : Heap) (locs1 : List Loc), wk_S A s D tys ws' H1 locs1 → W p l e R s m args below meth c H1 locs1 cells slots Q (F0 m (pc + 1) ls rest)) : W p l e R s m args below meth c H locs cells slots Q (F0 m pc ls (.int (rz_b P) :: .int (nI i) :: .ref a :: rest)) := by
  refine va_zast hx hb hs.1 hs.2.1 hs.2.2.1 hs.2.2.2.1 q0 t0 ha ht (vp_in_nI hi hN) hdg (fun H1 locs1 hP hD hS => ?_)
  rw [wk_clamp (Nat.lt_trans hi hN), wk_narb, wk_updb, hw] at hP hD
  exact kk H1 locs1 ⟨hs.1, hP, hD, hS, hs.2.2.2.2⟩
end
/-! contracts -/
def wk_QI {S : Type} (post : Int32 → S → Prop) (wr : S → va_W) (D : va_G) (tys : List (ClassId × FieldType)) (A : Nat → Prop) : Array Value → State → Outcome → State → Prop := va_Qi post (fun u t => va_P D vwCl (wr u) t.heap ∧ va_K D vwCl tys t ∧ va_D A (wr u)) A
def wk_QV {S : Type} (post : S → Prop) (wr : S → va_W) (D : va_G) (tys : List (ClassId × FieldType)) (A : Nat → Prop) : Array Value → State → Outcome → State → Prop := va_Qv post (fun u t => va_P D vwCl (wr u) t.heap ∧ va_K D vwCl tys t ∧ va_D A (wr u)) A
def wk_P (D : va_G) (tys : List (ClassId × FieldType)) (ws : va_W) (av : List Value) (sz : Nat) : Array Value → State → Prop := va_Pc av (fun U => U.heap.size = sz ∧ va_P D vwCl ws U.heap ∧ va_K D vwCl tys U ∧ va_D (fun _ => True) ws)
def wk_mI (l : Launch) (y : MethodName) (cc : ByteArray) (nL : Nat) (ret : Option FieldType) (rm : Room) (D : va_G) (tys : List (ClassId × FieldType)) (ws : va_W) (av : List Value) {S : Type} (post : Int32 → S → Prop) (wr : S → va_W) : Prop :=
  ∀ sz : Nat, Met l y (ws_ y cc nL ret) rm (wk_P D tys ws av sz) (wk_QI post wr D tys (va_A ws sz)) 0 0 (va_A ws sz)
def wk_mV (l : Launch) (y : MethodName) (cc : ByteArray) (nL : Nat) (ret : Option FieldType) (rm : Room) (D : va_G) (tys : List (ClassId × FieldType)) (ws : va_W) (av : List Value) {S : Type} (post : S → Prop) (wr : S → va_W) : Prop :=
  ∀ sz : Nat, Met l y (ws_ y cc nL ret) rm (wk_P D tys ws av sz) (wk_QV post wr D tys (va_A ws sz)) 0 0 (va_A ws sz)
theorem wk_mI.of {l : Launch} {y : MethodName} {cc : ByteArray} {nL : Nat} {ret : Option FieldType} {f lo : Nat} {D : va_G} {tys : List (ClassId × FieldType)} {ws : va_W} {av : List Value} {S : Type} {post : Int32 → S → Prop} {wr : S → va_W} (own : String) (hy : plainName y.cls = true) (ho : y.cls = own) (hlen : (lg_sl av).length ≤ nL)
    (body : ∀ (p : Program) (e : Env) (s : State) (m : MethodId) (below : List Frame) (meth : Method) (c : Code) (A : Nat → Prop) (ls : Array Slot), wk_C p s m meth c av.toArray own cc nL ret → wk_S A s D tys ws s.heap [] → lv_has ls nL (lv_args 0 av) → W p l e (wk_rm f lo) s m av.toArray below meth c s.heap [] 0 0 (MQ below (wk_QI post wr D tys A) av.toArray s 0 0 A) (F0 m 0 ls [])) : wk_mI l y cc nL ret (wk_rm f lo) D tys ws av post wr := by
  intro sz
  refine Met.ofW (cc := cc) (maxL := nL) (ret := ret) hy rfl ?_
  intro p e s m args below meth c s₁ B hml hv
  obtain ⟨rfl, hsz, hP, hK, hD0⟩ := hv
  have hts := atoms_spec (ws := ws_ y cc nL ret) B.pre
  have hts : ∀ w ∈ lw_all, w.before _ s = true := fun w h => hts w (List.mem_cons_of_mem _ h)
  have hown : s.vm.findClass y.cls = some m.cls := findClass_of_methodNamed B.named
  rw [ho] at hown
  subst hsz
  have hD := hD0.self (sz := s.heap.size)
  have hl := lv_entry av (n := nL) hlen
  rw [lg_entry_eq]
  exact body p e s m below meth c _ _ ⟨B.exec, B.bytes, B.returns, hml, hown, hts, B.notSynchronized⟩ ⟨hK, hP, hD, va_S.rf, fun q h => Or.inr h⟩ hl
theorem wk_mV.of {l : Launch} {y : MethodName} {cc : ByteArray} {nL : Nat} {ret : Option FieldType} {f lo : Nat} {D : va_G} {tys : List (ClassId × FieldType)} {ws : va_W} {av : List Value} {S : Type} {post : S → Prop} {wr : S → va_W} (own : String) (hy : plainName y.cls = true) (ho : y.cls = own) (hlen : (lg_sl av).length ≤ nL)
    (body : ∀ (p : Program) (e : Env) (s : State) (m : MethodId) (below : List Frame) (meth : Method) (c : Code) (A : Nat → Prop) (ls : Array Slot), wk_C p s m meth c av.toArray own cc nL ret → wk_S A s D tys ws s.heap [] → lv_has ls nL (lv_args 0 av) → W p l e (wk_rm f lo) s m av.toArray below meth c s.heap [] 0 0 (MQ below (wk_QV post wr D tys A) av.toArray s 0 0 A) (F0 m 0 ls [])) : wk_mV l y cc nL ret (wk_rm f lo) D tys ws av post wr := by
  intro sz
  refine Met.ofW (cc := cc) (maxL := nL) (ret := ret) hy rfl ?_
  intro p e s m args below meth c s₁ B hml hv
  obtain ⟨rfl, hsz, hP, hK, hD0⟩ := hv
  have hts := atoms_spec (ws := ws_ y cc nL ret) B.pre
  have hts : ∀ w ∈ lw_all, w.before _ s = true := fun w h => hts w (List.mem_cons_of_mem _ h)
  have hown : s.vm.findClass y.cls = some m.cls := findClass_of_methodNamed B.named
  rw [ho] at hown
  subst hsz
  have hD := hD0.self (sz := s.heap.size)
  have hl := lv_entry av (n := nL) hlen
  rw [lg_entry_eq]
  exact body p e s m below meth c _ _ ⟨B.exec, B.bytes, B.returns, hml, hown, hts, B.notSynchronized⟩ ⟨hK, hP, hD, va_S.rf, fun q h => Or.inr h⟩ hl
section
variable {p : Program} {l : Launch} {e : Env} {R : Room} {s : State} {m : MethodId} {args : Array Value} {below : List Frame} {meth : Method} {c : Code} {H : Heap} {locs : List Loc} {cells slots : Nat} {Q : State → Prop}
variable {cc : ByteArray} {pc nL : Nat} {ls : Array Slot} {rest : List Value} {D : va_G} {A : Nat → Prop} {a : Nat} {tys : List (ClassId × FieldType)} {ws : va_W} {own : String}
theorem wk_iret {S : Type} {post : Int32 → S → Prop} {wr : S → va_W} {r : Int32} (u : S) (C : wk_C p s m meth c args own cc nL (some .int)) (hs : wk_S A s D tys (wr u) H locs) (hp : post r u) (hdg : decode cc pc = .ok (.ireturn, 1)) : W p l e R s m args below meth c H locs 0 0 (MQ below (wk_QI post wr D tys A) args s 0 0 A) (F0 m pc ls [.int r]) := by
  have hlocks := C.2.2.2.2.2.2
  exact W.iret C.1 C.2.1 C.2.2.1 (fun t ht hW => ⟨⟨r, u, rfl, hp, by rw [ht]; exact hs.2.1, va_K.moved hW.alike hs.1, hs.2.2.1⟩, hs.2.2.2.1.F ht⟩) hs.2.2.2.1.2.2 hdg hlocks
theorem wk_zret {S : Type} {post : Int32 → S → Prop} {wr : S → va_W} {r : Int32} (u : S) (C : wk_C p s m meth c args own cc nL (some .boolean)) (hs : wk_S A s D tys (wr u) H locs) (hn : narrow .boolean (.int r) = .int r) (hp : post r u) (hdg : decode cc pc = .ok (.ireturn, 1)) : W p l e R s m args below meth c H locs 0 0 (MQ below (wk_QI post wr D tys A) args s 0 0 A) (F0 m pc ls [.int r]) := by
  have hlocks := C.2.2.2.2.2.2
  exact W.zret C.1 C.2.1 C.2.2.1 hn (fun t ht hW => ⟨⟨r, u, rfl, hp, by rw [ht]; exact hs.2.1, va_K.moved hW.alike hs.1, hs.2.2.1⟩, hs.2.2.2.1.F ht⟩) hs.2.2.2.1.2.2 hdg hlocks
theorem wk_vret {S : Type} {post : S → Prop} {wr : S → va_W} (u : S) (C : wk_C p s m meth c args own cc nL none) (hs : wk_S A s D tys (wr u) H locs) (hp : post u) (hdg : decode cc pc = .ok (.return_, 1)) : W p l e R s m args below meth c H locs 0 0 (MQ below (wk_QV post wr D tys A) args s 0 0 A) (F0 m pc ls []) := by
  have hlocks := C.2.2.2.2.2.2
  exact W.vret C.1 C.2.1 C.2.2.1 (fun t ht hW => ⟨⟨u, rfl, hp, by rw [ht]; exact hs.2.1, va_K.moved hW.alike hs.1, hs.2.2.1⟩, hs.2.2.2.1.F ht⟩) hs.2.2.2.1.2.2 hdg hlocks
theorem wk_calli {S : Type} {post : Int32 → S → Prop} {wr : S → va_W} {y : MethodName} {b : ByteArray} {L idx ci q0 N n f lo : Nat} {T : u_T} {fs As st0 : List Value} {ret ret' : Option FieldType} {Cn : String} (C : wk_C p s m meth c args own cc nL ret) (hs : wk_S A s D tys ws H locs) (hM : wk_mI l y b L ret' (wk_rm f lo) D tys ws (.ref a :: As) post wr) (cw : CallW R s args own Cn idx y b L ret' (ws_ y b L ret') (wk_rm f lo) 0 0 n) (hn : As.length = n)
    (hre : ws[q0]? = some (a, .inr (ci, fs))) (hcl : vwCl[ci]? = some (Cn, T, N)) (hsz : ls.size = nL) (hst : st0 = As.reverse ++ .ref a :: rest) (hroom : (rest.map fun v => v.category).sum ≤ 8) (hdg : decode cc pc = .ok (.invokevirtual idx, 3)) (hf : cells ≤ R.cells ∧ slots ≤ R.slots)
    (kk : ∀ (r : Int32) (u : S) (H1 : Heap) (locs1 : List Loc), post r u → wk_S A s D tys (wr u) H1 locs1 → W p l e R s m args below meth c H1 locs1 cells slots Q (F0 m (pc + 3) ls (.int r :: rest))) : W p l e R s m args below meth c H locs cells slots Q (F0 m pc ls st0) := by
  have hFc : ∀ q, va_A ws H.size q → A q := fun q h => by
    rcases h with ⟨k, e, h⟩ | h
    · exact hs.2.2.1.2 k (q, e) h
    · exact hs.2.2.2.2 q (Nat.le_trans hs.2.2.2.1.1 h)
  refine va_calli (va_runV (As := As) (rest := rest) ⟨C.1, C.2.1, C.2.2.2.1, C.2.2.2.2.1, C.2.2.2.2.2.1⟩ (hM H.size) cw ⟨fun a' U g mk q => by obtain ⟨q0, q1, qP, qK, qD⟩ := q; exact ⟨q0, q1, qP, va_K.moved (u := U) (U := U.calling g mk a') (Vm.Alike.refl U.vm) qK, qD⟩, va_recv hs.1 hs.2.1 hcl hre, fun U hU hW => ⟨rfl, by rw [hU], by rw [hU]; exact hs.2.1, va_K.moved hW.alike hs.1, hs.2.2.1.weaken (fun _ _ _ _ => trivial)⟩⟩ rfl hn hsz hst (lv_room hroom) hdg hf) hs.2.2.2.1 (fun q _ h => hFc q h) hFc (fun r u t H1 locs1 ht hvm hw hB hz hk hS => ?_)
  obtain ⟨hP1, hK1, hD1⟩ := hB
  rw [ht] at hP1
  exact kk r u H1 locs1 hw ⟨va_K.moved hvm.symm hK1, hP1, ⟨hD1.1, fun k q hq => hFc _ (hD1.2 k q hq)⟩, hS, hs.2.2.2.2⟩
theorem wk_callv {S : Type} {post : S → Prop} {wr : S → va_W} {y : MethodName} {b : ByteArray} {L idx ci q0 N n f lo : Nat} {T : u_T} {fs As st0 : List Value} {ret ret' : Option FieldType} {Cn : String} (C : wk_C p s m meth c args own cc nL ret) (hs : wk_S A s D tys ws H locs) (hM : wk_mV l y b L ret' (wk_rm f lo) D tys ws (.ref a :: As) post wr) (cw : CallW R s args own Cn idx y b L ret' (ws_ y b L ret') (wk_rm f lo) 0 0 n) (hn : As.length = n)
    (hre : ws[q0]? = some (a, .inr (ci, fs))) (hcl : vwCl[ci]? = some (Cn, T, N)) (hsz : ls.size = nL) (hst : st0 = As.reverse ++ .ref a :: rest) (hroom : (rest.map fun v => v.category).sum ≤ 8) (hdg : decode cc pc = .ok (.invokevirtual idx, 3)) (hf : cells ≤ R.cells ∧ slots ≤ R.slots)
    (kk : ∀ (u : S) (H1 : Heap) (locs1 : List Loc), post u → wk_S A s D tys (wr u) H1 locs1 → W p l e R s m args below meth c H1 locs1 cells slots Q (F0 m (pc + 3) ls (rest))) : W p l e R s m args below meth c H locs cells slots Q (F0 m pc ls st0) := by
  have hFc : ∀ q, va_A ws H.size q → A q := fun q h => by
    rcases h with ⟨k, e, h⟩ | h
    · exact hs.2.2.1.2 k (q, e) h
    · exact hs.2.2.2.2 q (Nat.le_trans hs.2.2.2.1.1 h)
  refine va_callv (va_runV (As := As) (rest := rest) ⟨C.1, C.2.1, C.2.2.2.1, C.2.2.2.2.1, C.2.2.2.2.2.1⟩ (hM H.size) cw ⟨fun a' U g mk q => by obtain ⟨q0, q1, qP, qK, qD⟩ := q; exact ⟨q0, q1, qP, va_K.moved (u := U) (U := U.calling g mk a') (Vm.Alike.refl U.vm) qK, qD⟩, va_recv hs.1 hs.2.1 hcl hre, fun U hU hW => ⟨rfl, by rw [hU], by rw [hU]; exact hs.2.1, va_K.moved hW.alike hs.1, hs.2.2.1.weaken (fun _ _ _ _ => trivial)⟩⟩ rfl hn hsz hst (lv_room hroom) hdg hf) hs.2.2.2.1 (fun q _ h => hFc q h) hFc (fun u t H1 locs1 ht hvm hw hB hz hk hS => ?_)
  obtain ⟨hP1, hK1, hD1⟩ := hB
  rw [ht] at hP1
  exact kk u H1 locs1 hw ⟨va_K.moved hvm.symm hK1, hP1, ⟨hD1.1, fun k q hq => hFc _ (hD1.2 k q hq)⟩, hS, hs.2.2.2.2⟩
end
end
end
section
/-! WORLDS: the cells of an OrderedResolver (X) and of an OrderedResolverModel (Y), and rows for their fields and arrays -/
section
set_option maxRecDepth 100000
def rz_TT (n c : Nat) : Nat := if c < 3 ^ n then rz_T n c else 0
def rz_FF (n c : Nat) : Nat := if c < 3 ^ n then rz_F n c else 0
def rz_we (n v : Nat) : Nat := if v < n then 3 ^ v else 0
def wX0 (ad : Nat → Nat) (cA : Nat → ClassId) (nv cv av : Int32) (fT fF fW : Nat → Int32) (bs : Int32) (fB : Nat → Int32) (sa : Int32) (fK fQ : Nat → Int32) (wc : Int32) (fV fO : Nat → Int32) : va_W :=
  [(ad 0, .inr (0, [.int nv, .int cv, .int av, .ref (ad 1), .ref (ad 2), .ref (ad 3), .int bs, .ref (ad 4), .int sa, .ref (ad 5), .ref (ad 6), .int wc, .ref (ad 7), .ref (ad 8)])),
   (ad 1, .inl (cA 1, 243, .inl fT)), (ad 2, .inl (cA 2, 243, .inl fF)), (ad 3, .inl (cA 3, 5, .inl fW)), (ad 4, .inl (cA 4, 12, .inl fB)), (ad 5, .inl (cA 5, 243, .inl fK)), (ad 6, .inl (cA 6, 243, .inl fQ)), (ad 7, .inl (cA 7, 8, .inl fV)), (ad 8, .inl (cA 8, 8, .inl fO))]
def tX (cA : Nat → ClassId) : List (ClassId × FieldType) := [(cA 1, .byte), (cA 2, .byte), (cA 3, .int), (cA 4, .short), (cA 5, .boolean), (cA 6, .boolean), (cA 7, .byte), (cA 8, .byte)]
noncomputable abbrev wX (ad : Nat → Nat) (cA : Nat → ClassId) (n : Nat) (b : Nat → Nat) (bs : Nat) (sa : Prop) (K Q : Nat → Prop) (wc : Nat) (vv oo : Nat → Nat) : va_W :=
  wX0 ad cA (nI n) (nI (3 ^ n)) (nI (2 ^ n - 1)) (fun c => nI (rz_TT n c)) (fun c => nI (rz_FF n c)) (fun v => nI (rz_we n v)) (nI bs) (fun i => nI (b i)) (rz_b sa) (fun c => rz_b (K c)) (fun c => rz_b (Q c)) (nI wc) (fun i => nI (vv i)) (fun i => nI (oo i))
def wY0 (ad : Nat → Nat) (cA : Nat → ClassId) (nv cv bs : Int32) (fB fM fF : Nat → Int32) : va_W :=
  [(ad 0, .inr (1, [.int nv, .int cv, .int bs, .ref (ad 1), .ref (ad 2), .ref (ad 3)])), (ad 1, .inl (cA 1, 12, .inl fB)), (ad 2, .inl (cA 2, 32, .inl fM)), (ad 3, .inl (cA 3, 243, .inl fF))]
def tY (cA : Nat → ClassId) : List (ClassId × FieldType) := [(cA 1, .int), (cA 2, .boolean), (cA 3, .boolean)]
noncomputable abbrev wY (ad : Nat → Nat) (cA : Nat → ClassId) (n : Nat) (b : Nat → Nat) (bs : Nat) (M F : Nat → Prop) : va_W :=
  wY0 ad cA (nI n) (nI (3 ^ n)) (nI bs) (fun i => nI (b i)) (fun a => rz_b (M a)) (fun c => rz_b (F c))
theorem wk_ofT : Int32.ofInt 1 = rz_b True := (rz_b_t trivial).symm
theorem wk_ofF : Int32.ofInt 0 = rz_b False := (rz_b_f id).symm
theorem rz_TTe {n c : Nat} (h : c < 3 ^ n) : rz_TT n c = rz_T n c := if_pos h
theorem rz_FFe {n c : Nat} (h : c < 3 ^ n) : rz_FF n c = rz_F n c := if_pos h
theorem rz_wee {n v : Nat} (h : v < n) : rz_we n v = 3 ^ v := if_pos h
section
variable {p : Program} {l : Launch} {e : Env} {R : Room} {s : State} {m : MethodId} {args : Array Value} {below : List Frame} {meth : Method} {c : Code} {H : Heap} {locs : List Loc} {cells slots : Nat} {Q : State → Prop}
variable {cc : ByteArray} {pc nL : Nat} {ls : Array Slot} {rest : List Value} {ret : Option FieldType} {D : va_G} {A : Nat → Prop} {tys : List (ClassId × FieldType)} {ad : Nat → Nat} {cA : Nat → ClassId}
theorem xg_variableCount {nv cv av bs sa wc : Int32} {fT fF fW fB fK fQ fV fO : Nat → Int32} (C : wk_C p s m meth c args RX1 cc nL ret) (hs : wk_S A s D tys (wX0 ad cA nv cv av fT fF fW bs fB sa fK fQ wc fV fO) H locs) (hdg : decode cc pc = .ok (.getfield 37, 3)) (kk : W p l e R s m args below meth c H locs cells slots Q (F0 m (pc + 3) ls (.int nv :: rest))) : W p l e R s m args below meth c H locs cells slots Q (F0 m pc ls (.ref (ad 0) :: rest)) := va_get (D := D) (ci := 0) (v := .int nv) (C := RX1) (T := TX1) (N := 14) C.1 C.2.1 C.2.2.2.2.2.1 in_X1 C.2.2.2.2.1 hs.1 hs.2.1 0 rfl rfl 0 (by decide) (C.2.2.2.2.2.1 _ q38) (fun _ h9 => h9) rfl hdg kk
theorem xg_clauseCount {nv cv av bs sa wc : Int32} {fT fF fW fB fK fQ fV fO : Nat → Int32} (C : wk_C p s m meth c args RX1 cc nL ret) (hs : wk_S A s D tys (wX0 ad cA nv cv av fT fF fW bs fB sa fK fQ wc fV fO) H locs) (hdg : decode cc pc = .ok (.getfield 44, 3)) (kk : W p l e R s m args below meth c H locs cells slots Q (F0 m (pc + 3) ls (.int cv :: rest))) : W p l e R s m args below meth c H locs cells slots Q (F0 m pc ls (.ref (ad 0) :: rest)) := va_get (D := D) (ci := 0) (v := .int cv) (C := RX1) (T := TX1) (N := 14) C.1 C.2.1 C.2.2.2.2.2.1 in_X1 C.2.2.2.2.1 hs.1 hs.2.1 0 rfl rfl 1 (by decide) (C.2.2.2.2.2.1 _ q39) (fun _ h9 => h9) rfl hdg kk
theorem xg_allVariables {nv cv av bs sa wc : Int32} {fT fF fW fB fK fQ fV fO : Nat → Int32} (C : wk_C p s m meth c args RX1 cc nL ret) (hs : wk_S A s D tys (wX0 ad cA nv cv av fT fF fW bs fB sa fK fQ wc fV fO) H locs) (hdg : decode cc pc = .ok (.getfield 41, 3)) (kk : W p l e R s m args below meth c H locs cells slots Q (F0 m (pc + 3) ls (.int av :: rest))) : W p l e R s m args below meth c H locs cells slots Q (F0 m pc ls (.ref (ad 0) :: rest)) := va_get (D := D) (ci := 0) (v := .int av) (C := RX1) (T := TX1) (N := 14) C.1 C.2.1 C.2.2.2.2.2.1 in_X1 C.2.2.2.2.1 hs.1 hs.2.1 0 rfl rfl 2 (by decide) (C.2.2.2.2.2.1 _ q40) (fun _ h9 => h9) rfl hdg kk
theorem xg_wantsTrue {nv cv av bs sa wc : Int32} {fT fF fW fB fK fQ fV fO : Nat → Int32} (C : wk_C p s m meth c args RX1 cc nL ret) (hs : wk_S A s D tys (wX0 ad cA nv cv av fT fF fW bs fB sa fK fQ wc fV fO) H locs) (hdg : decode cc pc = .ok (.getfield 7, 3)) (kk : W p l e R s m args below meth c H locs cells slots Q (F0 m (pc + 3) ls (.ref (ad 1) :: rest))) : W p l e R s m args below meth c H locs cells slots Q (F0 m pc ls (.ref (ad 0) :: rest)) := va_get (D := D) (ci := 0) (v := .ref (ad 1)) (C := RX1) (T := TX1) (N := 14) C.1 C.2.1 C.2.2.2.2.2.1 in_X1 C.2.2.2.2.1 hs.1 hs.2.1 0 rfl rfl 3 (by decide) (C.2.2.2.2.2.1 _ q41) (fun _ h9 => h9) rfl hdg kk
theorem xg_wantsFalse {nv cv av bs sa wc : Int32} {fT fF fW fB fK fQ fV fO : Nat → Int32} (C : wk_C p s m meth c args RX1 cc nL ret) (hs : wk_S A s D tys (wX0 ad cA nv cv av fT fF fW bs fB sa fK fQ wc fV fO) H locs) (hdg : decode cc pc = .ok (.getfield 13, 3)) (kk : W p l e R s m args below meth c H locs cells slots Q (F0 m (pc + 3) ls (.ref (ad 2) :: rest))) : W p l e R s m args below meth c H locs cells slots Q (F0 m pc ls (.ref (ad 0) :: rest)) := va_get (D := D) (ci := 0) (v := .ref (ad 2)) (C := RX1) (T := TX1) (N := 14) C.1 C.2.1 C.2.2.2.2.2.1 in_X1 C.2.2.2.2.1 hs.1 hs.2.1 0 rfl rfl 4 (by decide) (C.2.2.2.2.2.1 _ q42) (fun _ h9 => h9) rfl hdg kk
theorem xg_weight {nv cv av bs sa wc : Int32} {fT fF fW fB fK fQ fV fO : Nat → Int32} (C : wk_C p s m meth c args RX1 cc nL ret) (hs : wk_S A s D tys (wX0 ad cA nv cv av fT fF fW bs fB sa fK fQ wc fV fO) H locs) (hdg : decode cc pc = .ok (.getfield 16, 3)) (kk : W p l e R s m args below meth c H locs cells slots Q (F0 m (pc + 3) ls (.ref (ad 3) :: rest))) : W p l e R s m args below meth c H locs cells slots Q (F0 m pc ls (.ref (ad 0) :: rest)) := va_get (D := D) (ci := 0) (v := .ref (ad 3)) (C := RX1) (T := TX1) (N := 14) C.1 C.2.1 C.2.2.2.2.2.1 in_X1 C.2.2.2.2.1 hs.1 hs.2.1 0 rfl rfl 5 (by decide) (C.2.2.2.2.2.1 _ q43) (fun _ h9 => h9) rfl hdg kk
theorem xg_baseSize {nv cv av bs sa wc : Int32} {fT fF fW fB fK fQ fV fO : Nat → Int32} (C : wk_C p s m meth c args RX1 cc nL ret) (hs : wk_S A s D tys (wX0 ad cA nv cv av fT fF fW bs fB sa fK fQ wc fV fO) H locs) (hdg : decode cc pc = .ok (.getfield 63, 3)) (kk : W p l e R s m args below meth c H locs cells slots Q (F0 m (pc + 3) ls (.int bs :: rest))) : W p l e R s m args below meth c H locs cells slots Q (F0 m pc ls (.ref (ad 0) :: rest)) := va_get (D := D) (ci := 0) (v := .int bs) (C := RX1) (T := TX1) (N := 14) C.1 C.2.1 C.2.2.2.2.2.1 in_X1 C.2.2.2.2.1 hs.1 hs.2.1 0 rfl rfl 6 (by decide) (C.2.2.2.2.2.1 _ q44) (fun _ h9 => h9) rfl hdg kk
theorem xg_base {nv cv av bs sa wc : Int32} {fT fF fW fB fK fQ fV fO : Nat → Int32} (C : wk_C p s m meth c args RX1 cc nL ret) (hs : wk_S A s D tys (wX0 ad cA nv cv av fT fF fW bs fB sa fK fQ wc fV fO) H locs) (hdg : decode cc pc = .ok (.getfield 20, 3)) (kk : W p l e R s m args below meth c H locs cells slots Q (F0 m (pc + 3) ls (.ref (ad 4) :: rest))) : W p l e R s m args below meth c H locs cells slots Q (F0 m pc ls (.ref (ad 0) :: rest)) := va_get (D := D) (ci := 0) (v := .ref (ad 4)) (C := RX1) (T := TX1) (N := 14) C.1 C.2.1 C.2.2.2.2.2.1 in_X1 C.2.2.2.2.1 hs.1 hs.2.1 0 rfl rfl 7 (by decide) (C.2.2.2.2.2.1 _ q45) (fun _ h9 => h9) rfl hdg kk
theorem xg_saturated {nv cv av bs sa wc : Int32} {fT fF fW fB fK fQ fV fO : Nat → Int32} (C : wk_C p s m meth c args RX1 cc nL ret) (hs : wk_S A s D tys (wX0 ad cA nv cv av fT fF fW bs fB sa fK fQ wc fV fO) H locs) (hdg : decode cc pc = .ok (.getfield 51, 3)) (kk : W p l e R s m args below meth c H locs cells slots Q (F0 m (pc + 3) ls (.int sa :: rest))) : W p l e R s m args below meth c H locs cells slots Q (F0 m pc ls (.ref (ad 0) :: rest)) := va_get (D := D) (ci := 0) (v := .int sa) (C := RX1) (T := TX1) (N := 14) C.1 C.2.1 C.2.2.2.2.2.1 in_X1 C.2.2.2.2.1 hs.1 hs.2.1 0 rfl rfl 8 (by decide) (C.2.2.2.2.2.1 _ q46) (fun _ h9 => h9) rfl hdg kk
theorem xg_kept {nv cv av bs sa wc : Int32} {fT fF fW fB fK fQ fV fO : Nat → Int32} (C : wk_C p s m meth c args RX1 cc nL ret) (hs : wk_S A s D tys (wX0 ad cA nv cv av fT fF fW bs fB sa fK fQ wc fV fO) H locs) (hdg : decode cc pc = .ok (.getfield 24, 3)) (kk : W p l e R s m args below meth c H locs cells slots Q (F0 m (pc + 3) ls (.ref (ad 5) :: rest))) : W p l e R s m args below meth c H locs cells slots Q (F0 m pc ls (.ref (ad 0) :: rest)) := va_get (D := D) (ci := 0) (v := .ref (ad 5)) (C := RX1) (T := TX1) (N := 14) C.1 C.2.1 C.2.2.2.2.2.1 in_X1 C.2.2.2.2.1 hs.1 hs.2.1 0 rfl rfl 9 (by decide) (C.2.2.2.2.2.1 _ q47) (fun _ h9 => h9) rfl hdg kk
theorem xg_waiting {nv cv av bs sa wc : Int32} {fT fF fW fB fK fQ fV fO : Nat → Int32} (C : wk_C p s m meth c args RX1 cc nL ret) (hs : wk_S A s D tys (wX0 ad cA nv cv av fT fF fW bs fB sa fK fQ wc fV fO) H locs) (hdg : decode cc pc = .ok (.getfield 28, 3)) (kk : W p l e R s m args below meth c H locs cells slots Q (F0 m (pc + 3) ls (.ref (ad 6) :: rest))) : W p l e R s m args below meth c H locs cells slots Q (F0 m pc ls (.ref (ad 0) :: rest)) := va_get (D := D) (ci := 0) (v := .ref (ad 6)) (C := RX1) (T := TX1) (N := 14) C.1 C.2.1 C.2.2.2.2.2.1 in_X1 C.2.2.2.2.1 hs.1 hs.2.1 0 rfl rfl 10 (by decide) (C.2.2.2.2.2.1 _ q48) (fun _ h9 => h9) rfl hdg kk
theorem xg_waitingCount {nv cv av bs sa wc : Int32} {fT fF fW fB fK fQ fV fO : Nat → Int32} (C : wk_C p s m meth c args RX1 cc nL ret) (hs : wk_S A s D tys (wX0 ad cA nv cv av fT fF fW bs fB sa fK fQ wc fV fO) H locs) (hdg : decode cc pc = .ok (.getfield 85, 3)) (kk : W p l e R s m args below meth c H locs cells slots Q (F0 m (pc + 3) ls (.int wc :: rest))) : W p l e R s m args below meth c H locs cells slots Q (F0 m pc ls (.ref (ad 0) :: rest)) := va_get (D := D) (ci := 0) (v := .int wc) (C := RX1) (T := TX1) (N := 14) C.1 C.2.1 C.2.2.2.2.2.1 in_X1 C.2.2.2.2.1 hs.1 hs.2.1 0 rfl rfl 11 (by decide) (C.2.2.2.2.2.1 _ q49) (fun _ h9 => h9) rfl hdg kk
theorem xg_openValues {nv cv av bs sa wc : Int32} {fT fF fW fB fK fQ fV fO : Nat → Int32} (C : wk_C p s m meth c args RX1 cc nL ret) (hs : wk_S A s D tys (wX0 ad cA nv cv av fT fF fW bs fB sa fK fQ wc fV fO) H locs) (hdg : decode cc pc = .ok (.getfield 31, 3)) (kk : W p l e R s m args below meth c H locs cells slots Q (F0 m (pc + 3) ls (.ref (ad 7) :: rest))) : W p l e R s m args below meth c H locs cells slots Q (F0 m pc ls (.ref (ad 0) :: rest)) := va_get (D := D) (ci := 0) (v := .ref (ad 7)) (C := RX1) (T := TX1) (N := 14) C.1 C.2.1 C.2.2.2.2.2.1 in_X1 C.2.2.2.2.1 hs.1 hs.2.1 0 rfl rfl 12 (by decide) (C.2.2.2.2.2.1 _ q50) (fun _ h9 => h9) rfl hdg kk
theorem xg_openCount {nv cv av bs sa wc : Int32} {fT fF fW fB fK fQ fV fO : Nat → Int32} (C : wk_C p s m meth c args RX1 cc nL ret) (hs : wk_S A s D tys (wX0 ad cA nv cv av fT fF fW bs fB sa fK fQ wc fV fO) H locs) (hdg : decode cc pc = .ok (.getfield 34, 3)) (kk : W p l e R s m args below meth c H locs cells slots Q (F0 m (pc + 3) ls (.ref (ad 8) :: rest))) : W p l e R s m args below meth c H locs cells slots Q (F0 m pc ls (.ref (ad 0) :: rest)) := va_get (D := D) (ci := 0) (v := .ref (ad 8)) (C := RX1) (T := TX1) (N := 14) C.1 C.2.1 C.2.2.2.2.2.1 in_X1 C.2.2.2.2.1 hs.1 hs.2.1 0 rfl rfl 13 (by decide) (C.2.2.2.2.2.1 _ q51) (fun _ h9 => h9) rfl hdg kk
theorem xp_variableCount {nv cv av bs sa wc : Int32} {fT fF fW fB fK fQ fV fO : Nat → Int32} {v : Int32} (C : wk_C p s m meth c args RX1 cc nL ret) (hs : wk_S A s D tys (wX0 ad cA nv cv av fT fF fW bs fB sa fK fQ wc fV fO) H locs) (hdg : decode cc pc = .ok (.putfield 37, 3)) (kk : ∀ (H1 : Heap) (locs1 : List Loc), wk_S A s D tys (wX0 ad cA v cv av fT fF fW bs fB sa fK fQ wc fV fO) H1 locs1 → W p l e R s m args below meth c H1 locs1 cells slots Q (F0 m (pc + 3) ls rest)) : W p l e R s m args below meth c H locs cells slots Q (F0 m pc ls (.int v :: .ref (ad 0) :: rest)) := va_put (D := D) (ci := 0) (v := .int v) (ty := .int) (C := RX1) (T := TX1) (N := 14) C.1 C.2.1 C.2.2.2.2.2.1 in_X1 tyX1 tyX1_ok nmX1 C.2.2.2.2.1 hs.1 hs.2.1 hs.2.2.1 hs.2.2.2.1 0 rfl rfl 0 (by decide) (C.2.2.2.2.2.1 _ q38) (fun _ h9 => h9) rfl (by decide +kernel) rfl rfl (Nat.le_of_ble_eq_true rfl) hdg (fun H1 locs1 hP hD hS => kk H1 locs1 ⟨hs.1, hP, hD, hS, hs.2.2.2.2⟩)
theorem xp_clauseCount {nv cv av bs sa wc : Int32} {fT fF fW fB fK fQ fV fO : Nat → Int32} {v : Int32} (C : wk_C p s m meth c args RX1 cc nL ret) (hs : wk_S A s D tys (wX0 ad cA nv cv av fT fF fW bs fB sa fK fQ wc fV fO) H locs) (hdg : decode cc pc = .ok (.putfield 44, 3)) (kk : ∀ (H1 : Heap) (locs1 : List Loc), wk_S A s D tys (wX0 ad cA nv v av fT fF fW bs fB sa fK fQ wc fV fO) H1 locs1 → W p l e R s m args below meth c H1 locs1 cells slots Q (F0 m (pc + 3) ls rest)) : W p l e R s m args below meth c H locs cells slots Q (F0 m pc ls (.int v :: .ref (ad 0) :: rest)) := va_put (D := D) (ci := 0) (v := .int v) (ty := .int) (C := RX1) (T := TX1) (N := 14) C.1 C.2.1 C.2.2.2.2.2.1 in_X1 tyX1 tyX1_ok nmX1 C.2.2.2.2.1 hs.1 hs.2.1 hs.2.2.1 hs.2.2.2.1 0 rfl rfl 1 (by decide) (C.2.2.2.2.2.1 _ q39) (fun _ h9 => h9) rfl (by decide +kernel) rfl rfl (Nat.le_of_ble_eq_true rfl) hdg (fun H1 locs1 hP hD hS => kk H1 locs1 ⟨hs.1, hP, hD, hS, hs.2.2.2.2⟩)
theorem xp_allVariables {nv cv av bs sa wc : Int32} {fT fF fW fB fK fQ fV fO : Nat → Int32} {v : Int32} (C : wk_C p s m meth c args RX1 cc nL ret) (hs : wk_S A s D tys (wX0 ad cA nv cv av fT fF fW bs fB sa fK fQ wc fV fO) H locs) (hdg : decode cc pc = .ok (.putfield 41, 3)) (kk : ∀ (H1 : Heap) (locs1 : List Loc), wk_S A s D tys (wX0 ad cA nv cv v fT fF fW bs fB sa fK fQ wc fV fO) H1 locs1 → W p l e R s m args below meth c H1 locs1 cells slots Q (F0 m (pc + 3) ls rest)) : W p l e R s m args below meth c H locs cells slots Q (F0 m pc ls (.int v :: .ref (ad 0) :: rest)) := va_put (D := D) (ci := 0) (v := .int v) (ty := .int) (C := RX1) (T := TX1) (N := 14) C.1 C.2.1 C.2.2.2.2.2.1 in_X1 tyX1 tyX1_ok nmX1 C.2.2.2.2.1 hs.1 hs.2.1 hs.2.2.1 hs.2.2.2.1 0 rfl rfl 2 (by decide) (C.2.2.2.2.2.1 _ q40) (fun _ h9 => h9) rfl (by decide +kernel) rfl rfl (Nat.le_of_ble_eq_true rfl) hdg (fun H1 locs1 hP hD hS => kk H1 locs1 ⟨hs.1, hP, hD, hS, hs.2.2.2.2⟩)
theorem xp_baseSize {nv cv av bs sa wc : Int32} {fT fF fW fB fK fQ fV fO : Nat → Int32} {v : Int32} (C : wk_C p s m meth c args RX1 cc nL ret) (hs : wk_S A s D tys (wX0 ad cA nv cv av fT fF fW bs fB sa fK fQ wc fV fO) H locs) (hdg : decode cc pc = .ok (.putfield 63, 3)) (kk : ∀ (H1 : Heap) (locs1 : List Loc), wk_S A s D tys (wX0 ad cA nv cv av fT fF fW v fB sa fK fQ wc fV fO) H1 locs1 → W p l e R s m args below meth c H1 locs1 cells slots Q (F0 m (pc + 3) ls rest)) : W p l e R s m args below meth c H locs cells slots Q (F0 m pc ls (.int v :: .ref (ad 0) :: rest)) := va_put (D := D) (ci := 0) (v := .int v) (ty := .int) (C := RX1) (T := TX1) (N := 14) C.1 C.2.1 C.2.2.2.2.2.1 in_X1 tyX1 tyX1_ok nmX1 C.2.2.2.2.1 hs.1 hs.2.1 hs.2.2.1 hs.2.2.2.1 0 rfl rfl 6 (by decide) (C.2.2.2.2.2.1 _ q44) (fun _ h9 => h9) rfl (by decide +kernel) rfl rfl (Nat.le_of_ble_eq_true rfl) hdg (fun H1 locs1 hP hD hS => kk H1 locs1 ⟨hs.1, hP, hD, hS, hs.2.2.2.2⟩)
theorem xp_waitingCount {nv cv av bs sa wc : Int32} {fT fF fW fB fK fQ fV fO : Nat → Int32} {v : Int32} (C : wk_C p s m meth c args RX1 cc nL ret) (hs : wk_S A s D tys (wX0 ad cA nv cv av fT fF fW bs fB sa fK fQ wc fV fO) H locs) (hdg : decode cc pc = .ok (.putfield 85, 3)) (kk : ∀ (H1 : Heap) (locs1 : List Loc), wk_S A s D tys (wX0 ad cA nv cv av fT fF fW bs fB sa fK fQ v fV fO) H1 locs1 → W p l e R s m args below meth c H1 locs1 cells slots Q (F0 m (pc + 3) ls rest)) : W p l e R s m args below meth c H locs cells slots Q (F0 m pc ls (.int v :: .ref (ad 0) :: rest)) := va_put (D := D) (ci := 0) (v := .int v) (ty := .int) (C := RX1) (T := TX1) (N := 14) C.1 C.2.1 C.2.2.2.2.2.1 in_X1 tyX1 tyX1_ok nmX1 C.2.2.2.2.1 hs.1 hs.2.1 hs.2.2.1 hs.2.2.2.1 0 rfl rfl 11 (by decide) (C.2.2.2.2.2.1 _ q49) (fun _ h9 => h9) rfl (by decide +kernel) rfl rfl (Nat.le_of_ble_eq_true rfl) hdg (fun H1 locs1 hP hD hS => kk H1 locs1 ⟨hs.1, hP, hD, hS, hs.2.2.2.2⟩)
theorem xp_saturated {nv cv av bs sa wc : Int32} {fT fF fW fB fK fQ fV fO : Nat → Int32} {P : Prop} (C : wk_C p s m meth c args RX1 cc nL ret) (hs : wk_S A s D tys (wX0 ad cA nv cv av fT fF fW bs fB sa fK fQ wc fV fO) H locs) (hdg : decode cc pc = .ok (.putfield 51, 3)) (kk : ∀ (H1 : Heap) (locs1 : List Loc), wk_S A s D tys (wX0 ad cA nv cv av fT fF fW bs fB (rz_b P) fK fQ wc fV fO) H1 locs1 → W p l e R s m args below meth c H1 locs1 cells slots Q (F0 m (pc + 3) ls rest)) : W p l e R s m args below meth c H locs cells slots Q (F0 m pc ls (.int (rz_b P) :: .ref (ad 0) :: rest)) := va_put (D := D) (ci := 0) (v := .int (rz_b P)) (ty := .boolean) (C := RX1) (T := TX1) (N := 14) C.1 C.2.1 C.2.2.2.2.2.1 in_X1 tyX1 tyX1_ok nmX1 C.2.2.2.2.1 hs.1 hs.2.1 hs.2.2.1 hs.2.2.2.1 0 rfl rfl 8 (by decide) (C.2.2.2.2.2.1 _ q46) (fun _ h9 => h9) rfl (by decide +kernel) (wk_narz P) (wk_fitz P) (Nat.le_of_ble_eq_true rfl) hdg (fun H1 locs1 hP hD hS => kk H1 locs1 ⟨hs.1, hP, hD, hS, hs.2.2.2.2⟩)
theorem yg_n {nv cv bs : Int32} {fB fM fF : Nat → Int32} (C : wk_C p s m meth c args RX2 cc nL ret) (hs : wk_S A s D tys (wY0 ad cA nv cv bs fB fM fF) H locs) (hdg : decode cc pc = .ok (.getfield 24, 3)) (kk : W p l e R s m args below meth c H locs cells slots Q (F0 m (pc + 3) ls (.int nv :: rest))) : W p l e R s m args below meth c H locs cells slots Q (F0 m pc ls (.ref (ad 0) :: rest)) := va_get (D := D) (ci := 1) (v := .int nv) (C := RX2) (T := TX2) (N := 6) C.1 C.2.1 C.2.2.2.2.2.1 in_X2 C.2.2.2.2.1 hs.1 hs.2.1 0 rfl rfl 0 (by decide) (C.2.2.2.2.2.1 _ q190) (fun _ h9 => h9) rfl hdg kk
theorem yg_clauses {nv cv bs : Int32} {fB fM fF : Nat → Int32} (C : wk_C p s m meth c args RX2 cc nL ret) (hs : wk_S A s D tys (wY0 ad cA nv cv bs fB fM fF) H locs) (hdg : decode cc pc = .ok (.getfield 27, 3)) (kk : W p l e R s m args below meth c H locs cells slots Q (F0 m (pc + 3) ls (.int cv :: rest))) : W p l e R s m args below meth c H locs cells slots Q (F0 m pc ls (.ref (ad 0) :: rest)) := va_get (D := D) (ci := 1) (v := .int cv) (C := RX2) (T := TX2) (N := 6) C.1 C.2.1 C.2.2.2.2.2.1 in_X2 C.2.2.2.2.1 hs.1 hs.2.1 0 rfl rfl 1 (by decide) (C.2.2.2.2.2.1 _ q191) (fun _ h9 => h9) rfl hdg kk
theorem yg_size {nv cv bs : Int32} {fB fM fF : Nat → Int32} (C : wk_C p s m meth c args RX2 cc nL ret) (hs : wk_S A s D tys (wY0 ad cA nv cv bs fB fM fF) H locs) (hdg : decode cc pc = .ok (.getfield 7, 3)) (kk : W p l e R s m args below meth c H locs cells slots Q (F0 m (pc + 3) ls (.int bs :: rest))) : W p l e R s m args below meth c H locs cells slots Q (F0 m pc ls (.ref (ad 0) :: rest)) := va_get (D := D) (ci := 1) (v := .int bs) (C := RX2) (T := TX2) (N := 6) C.1 C.2.1 C.2.2.2.2.2.1 in_X2 C.2.2.2.2.1 hs.1 hs.2.1 0 rfl rfl 2 (by decide) (C.2.2.2.2.2.1 _ q192) (fun _ h9 => h9) rfl hdg kk
theorem yg_base {nv cv bs : Int32} {fB fM fF : Nat → Int32} (C : wk_C p s m meth c args RX2 cc nL ret) (hs : wk_S A s D tys (wY0 ad cA nv cv bs fB fM fF) H locs) (hdg : decode cc pc = .ok (.getfield 13, 3)) (kk : W p l e R s m args below meth c H locs cells slots Q (F0 m (pc + 3) ls (.ref (ad 1) :: rest))) : W p l e R s m args below meth c H locs cells slots Q (F0 m pc ls (.ref (ad 0) :: rest)) := va_get (D := D) (ci := 1) (v := .ref (ad 1)) (C := RX2) (T := TX2) (N := 6) C.1 C.2.1 C.2.2.2.2.2.1 in_X2 C.2.2.2.2.1 hs.1 hs.2.1 0 rfl rfl 3 (by decide) (C.2.2.2.2.2.1 _ q193) (fun _ h9 => h9) rfl hdg kk
theorem yg_model {nv cv bs : Int32} {fB fM fF : Nat → Int32} (C : wk_C p s m meth c args RX2 cc nL ret) (hs : wk_S A s D tys (wY0 ad cA nv cv bs fB fM fF) H locs) (hdg : decode cc pc = .ok (.getfield 17, 3)) (kk : W p l e R s m args below meth c H locs cells slots Q (F0 m (pc + 3) ls (.ref (ad 2) :: rest))) : W p l e R s m args below meth c H locs cells slots Q (F0 m pc ls (.ref (ad 0) :: rest)) := va_get (D := D) (ci := 1) (v := .ref (ad 2)) (C := RX2) (T := TX2) (N := 6) C.1 C.2.1 C.2.2.2.2.2.1 in_X2 C.2.2.2.2.1 hs.1 hs.2.1 0 rfl rfl 4 (by decide) (C.2.2.2.2.2.1 _ q194) (fun _ h9 => h9) rfl hdg kk
theorem yg_follows {nv cv bs : Int32} {fB fM fF : Nat → Int32} (C : wk_C p s m meth c args RX2 cc nL ret) (hs : wk_S A s D tys (wY0 ad cA nv cv bs fB fM fF) H locs) (hdg : decode cc pc = .ok (.getfield 21, 3)) (kk : W p l e R s m args below meth c H locs cells slots Q (F0 m (pc + 3) ls (.ref (ad 3) :: rest))) : W p l e R s m args below meth c H locs cells slots Q (F0 m pc ls (.ref (ad 0) :: rest)) := va_get (D := D) (ci := 1) (v := .ref (ad 3)) (C := RX2) (T := TX2) (N := 6) C.1 C.2.1 C.2.2.2.2.2.1 in_X2 C.2.2.2.2.1 hs.1 hs.2.1 0 rfl rfl 5 (by decide) (C.2.2.2.2.2.1 _ q195) (fun _ h9 => h9) rfl hdg kk
theorem yp_size {nv cv bs : Int32} {fB fM fF : Nat → Int32} {v : Int32} (C : wk_C p s m meth c args RX2 cc nL ret) (hs : wk_S A s D tys (wY0 ad cA nv cv bs fB fM fF) H locs) (hdg : decode cc pc = .ok (.putfield 7, 3)) (kk : ∀ (H1 : Heap) (locs1 : List Loc), wk_S A s D tys (wY0 ad cA nv cv v fB fM fF) H1 locs1 → W p l e R s m args below meth c H1 locs1 cells slots Q (F0 m (pc + 3) ls rest)) : W p l e R s m args below meth c H locs cells slots Q (F0 m pc ls (.int v :: .ref (ad 0) :: rest)) := va_put (D := D) (ci := 1) (v := .int v) (ty := .int) (C := RX2) (T := TX2) (N := 6) C.1 C.2.1 C.2.2.2.2.2.1 in_X2 tyX2 tyX2_ok nmX2 C.2.2.2.2.1 hs.1 hs.2.1 hs.2.2.1 hs.2.2.2.1 0 rfl rfl 2 (by decide) (C.2.2.2.2.2.1 _ q192) (fun _ h9 => h9) rfl (by decide +kernel) rfl rfl (Nat.le_of_ble_eq_true rfl) hdg (fun H1 locs1 hP hD hS => kk H1 locs1 ⟨hs.1, hP, hD, hS, hs.2.2.2.2⟩)
theorem xl_T {n : Nat} {b : Nat → Nat} {bs : Nat} {sa : Prop} {K Q0 : Nat → Prop} {wc : Nat} {vv oo : Nat → Nat} (C : wk_C p s m meth c args RX1 cc nL ret) (hs : wk_S A s D (tX cA) (wX ad cA n b bs sa K Q0 wc vv oo) H locs) {i : Nat} (hn : n ≤ 5) (hi : i < 3 ^ n) (hdg : decode cc pc = .ok (.baload, 1)) (kk : W p l e R s m args below meth c H locs cells slots Q (F0 m (pc + 1) ls (.int (nI (rz_T n i)) :: rest))) : W p l e R s m args below meth c H locs cells slots Q (F0 m pc ls (.int (nI i) :: .ref (ad 1) :: rest)) := wk_ldb C.1 C.2.1 hs 1 0 rfl rfl (Nat.lt_of_lt_of_le hi (rz_p35 hn)) (by decide) hdg (by rw [rz_TTe hi]; exact kk)
theorem xl_F {n : Nat} {b : Nat → Nat} {bs : Nat} {sa : Prop} {K Q0 : Nat → Prop} {wc : Nat} {vv oo : Nat → Nat} (C : wk_C p s m meth c args RX1 cc nL ret) (hs : wk_S A s D (tX cA) (wX ad cA n b bs sa K Q0 wc vv oo) H locs) {i : Nat} (hn : n ≤ 5) (hi : i < 3 ^ n) (hdg : decode cc pc = .ok (.baload, 1)) (kk : W p l e R s m args below meth c H locs cells slots Q (F0 m (pc + 1) ls (.int (nI (rz_F n i)) :: rest))) : W p l e R s m args below meth c H locs cells slots Q (F0 m pc ls (.int (nI i) :: .ref (ad 2) :: rest)) := wk_ldb C.1 C.2.1 hs 2 1 rfl rfl (Nat.lt_of_lt_of_le hi (rz_p35 hn)) (by decide) hdg (by rw [rz_FFe hi]; exact kk)
theorem xl_W {n : Nat} {b : Nat → Nat} {bs : Nat} {sa : Prop} {K Q0 : Nat → Prop} {wc : Nat} {vv oo : Nat → Nat} (C : wk_C p s m meth c args RX1 cc nL ret) (hs : wk_S A s D (tX cA) (wX ad cA n b bs sa K Q0 wc vv oo) H locs) {i : Nat} (hn : n ≤ 5) (hi : i < n) (hdg : decode cc pc = .ok (.iaload, 1)) (kk : W p l e R s m args below meth c H locs cells slots Q (F0 m (pc + 1) ls (.int (nI (3 ^ i)) :: rest))) : W p l e R s m args below meth c H locs cells slots Q (F0 m pc ls (.int (nI i) :: .ref (ad 3) :: rest)) := wk_ldi C.1 C.2.1 hs 3 2 rfl rfl (Nat.lt_of_lt_of_le hi hn) (by decide) hdg (by rw [rz_wee hi]; exact kk)
theorem xl_B {n : Nat} {b : Nat → Nat} {bs : Nat} {sa : Prop} {K Q0 : Nat → Prop} {wc : Nat} {vv oo : Nat → Nat} (C : wk_C p s m meth c args RX1 cc nL ret) (hs : wk_S A s D (tX cA) (wX ad cA n b bs sa K Q0 wc vv oo) H locs) {i : Nat} (hi : i < 12) (hdg : decode cc pc = .ok (.saload, 1)) (kk : W p l e R s m args below meth c H locs cells slots Q (F0 m (pc + 1) ls (.int (nI (b i)) :: rest))) : W p l e R s m args below meth c H locs cells slots Q (F0 m pc ls (.int (nI i) :: .ref (ad 4) :: rest)) := wk_lds C.1 C.2.1 hs 4 3 rfl rfl hi (by decide) hdg kk
theorem xl_K {n : Nat} {b : Nat → Nat} {bs : Nat} {sa : Prop} {K Q0 : Nat → Prop} {wc : Nat} {vv oo : Nat → Nat} (C : wk_C p s m meth c args RX1 cc nL ret) (hs : wk_S A s D (tX cA) (wX ad cA n b bs sa K Q0 wc vv oo) H locs) {i : Nat} (hi : i < 243) (hdg : decode cc pc = .ok (.baload, 1)) (kk : W p l e R s m args below meth c H locs cells slots Q (F0 m (pc + 1) ls (.int (rz_b (K i)) :: rest))) : W p l e R s m args below meth c H locs cells slots Q (F0 m pc ls (.int (nI i) :: .ref (ad 5) :: rest)) := wk_ldz C.1 C.2.1 hs 5 4 rfl rfl hi (by decide) hdg kk
theorem xl_Q {n : Nat} {b : Nat → Nat} {bs : Nat} {sa : Prop} {K Q0 : Nat → Prop} {wc : Nat} {vv oo : Nat → Nat} (C : wk_C p s m meth c args RX1 cc nL ret) (hs : wk_S A s D (tX cA) (wX ad cA n b bs sa K Q0 wc vv oo) H locs) {i : Nat} (hi : i < 243) (hdg : decode cc pc = .ok (.baload, 1)) (kk : W p l e R s m args below meth c H locs cells slots Q (F0 m (pc + 1) ls (.int (rz_b (Q0 i)) :: rest))) : W p l e R s m args below meth c H locs cells slots Q (F0 m pc ls (.int (nI i) :: .ref (ad 6) :: rest)) := wk_ldz C.1 C.2.1 hs 6 5 rfl rfl hi (by decide) hdg kk
theorem xl_V {n : Nat} {b : Nat → Nat} {bs : Nat} {sa : Prop} {K Q0 : Nat → Prop} {wc : Nat} {vv oo : Nat → Nat} (C : wk_C p s m meth c args RX1 cc nL ret) (hs : wk_S A s D (tX cA) (wX ad cA n b bs sa K Q0 wc vv oo) H locs) {i : Nat} (hi : i < 8) (hdg : decode cc pc = .ok (.baload, 1)) (kk : W p l e R s m args below meth c H locs cells slots Q (F0 m (pc + 1) ls (.int (nI (vv i)) :: rest))) : W p l e R s m args below meth c H locs cells slots Q (F0 m pc ls (.int (nI i) :: .ref (ad 7) :: rest)) := wk_ldb C.1 C.2.1 hs 7 6 rfl rfl hi (by decide) hdg kk
theorem xl_O {n : Nat} {b : Nat → Nat} {bs : Nat} {sa : Prop} {K Q0 : Nat → Prop} {wc : Nat} {vv oo : Nat → Nat} (C : wk_C p s m meth c args RX1 cc nL ret) (hs : wk_S A s D (tX cA) (wX ad cA n b bs sa K Q0 wc vv oo) H locs) {i : Nat} (hi : i < 8) (hdg : decode cc pc = .ok (.baload, 1)) (kk : W p l e R s m args below meth c H locs cells slots Q (F0 m (pc + 1) ls (.int (nI (oo i)) :: rest))) : W p l e R s m args below meth c H locs cells slots Q (F0 m pc ls (.int (nI i) :: .ref (ad 8) :: rest)) := wk_ldb C.1 C.2.1 hs 8 7 rfl rfl hi (by decide) hdg kk
theorem xs_B {n : Nat} {b : Nat → Nat} {bs : Nat} {sa : Prop} {K Q0 : Nat → Prop} {wc : Nat} {vv oo : Nat → Nat} (C : wk_C p s m meth c args RX1 cc nL ret) (hs : wk_S A s D (tX cA) (wX ad cA n b bs sa K Q0 wc vv oo) H locs) {i : Nat} {x : Nat} (hi : i < 12) (hv : x < 256) (hdg : decode cc pc = .ok (.sastore, 1)) (kk : ∀ (H1 : Heap) (locs1 : List Loc), wk_S A s D (tX cA) (wX ad cA n (rz_up b i x) bs sa K Q0 wc vv oo) H1 locs1 → W p l e R s m args below meth c H1 locs1 cells slots Q (F0 m (pc + 1) ls rest)) : W p l e R s m args below meth c H locs cells slots Q (F0 m pc ls (.int (nI x) :: .int (nI i) :: .ref (ad 4) :: rest)) := wk_sts C.1 C.2.1 hs 4 3 rfl rfl hi (by decide) hv rfl hdg kk
theorem xs_K {n : Nat} {b : Nat → Nat} {bs : Nat} {sa : Prop} {K Q0 : Nat → Prop} {wc : Nat} {vv oo : Nat → Nat} (C : wk_C p s m meth c args RX1 cc nL ret) (hs : wk_S A s D (tX cA) (wX ad cA n b bs sa K Q0 wc vv oo) H locs) {i : Nat} {P : Prop} (hi : i < 243) (hdg : decode cc pc = .ok (.bastore, 1)) (kk : ∀ (H1 : Heap) (locs1 : List Loc), wk_S A s D (tX cA) (wX ad cA n b bs sa (rz_uq K i P) Q0 wc vv oo) H1 locs1 → W p l e R s m args below meth c H1 locs1 cells slots Q (F0 m (pc + 1) ls rest)) : W p l e R s m args below meth c H locs cells slots Q (F0 m pc ls (.int (rz_b P) :: .int (nI i) :: .ref (ad 5) :: rest)) := wk_stz C.1 C.2.1 hs 5 4 rfl rfl hi (by decide) rfl hdg kk
theorem xs_Q {n : Nat} {b : Nat → Nat} {bs : Nat} {sa : Prop} {K Q0 : Nat → Prop} {wc : Nat} {vv oo : Nat → Nat} (C : wk_C p s m meth c args RX1 cc nL ret) (hs : wk_S A s D (tX cA) (wX ad cA n b bs sa K Q0 wc vv oo) H locs) {i : Nat} {P : Prop} (hi : i < 243) (hdg : decode cc pc = .ok (.bastore, 1)) (kk : ∀ (H1 : Heap) (locs1 : List Loc), wk_S A s D (tX cA) (wX ad cA n b bs sa K (rz_uq Q0 i P) wc vv oo) H1 locs1 → W p l e R s m args below meth c H1 locs1 cells slots Q (F0 m (pc + 1) ls rest)) : W p l e R s m args below meth c H locs cells slots Q (F0 m pc ls (.int (rz_b P) :: .int (nI i) :: .ref (ad 6) :: rest)) := wk_stz C.1 C.2.1 hs 6 5 rfl rfl hi (by decide) rfl hdg kk
theorem xs_V {n : Nat} {b : Nat → Nat} {bs : Nat} {sa : Prop} {K Q0 : Nat → Prop} {wc : Nat} {vv oo : Nat → Nat} (C : wk_C p s m meth c args RX1 cc nL ret) (hs : wk_S A s D (tX cA) (wX ad cA n b bs sa K Q0 wc vv oo) H locs) {i : Nat} {x : Nat} (hi : i < 8) (hv : x < 128) (hdg : decode cc pc = .ok (.bastore, 1)) (kk : ∀ (H1 : Heap) (locs1 : List Loc), wk_S A s D (tX cA) (wX ad cA n b bs sa K Q0 wc (rz_up vv i x) oo) H1 locs1 → W p l e R s m args below meth c H1 locs1 cells slots Q (F0 m (pc + 1) ls rest)) : W p l e R s m args below meth c H locs cells slots Q (F0 m pc ls (.int (nI x) :: .int (nI i) :: .ref (ad 7) :: rest)) := wk_stb C.1 C.2.1 hs 7 6 rfl rfl hi (by decide) hv rfl hdg kk
theorem xs_O {n : Nat} {b : Nat → Nat} {bs : Nat} {sa : Prop} {K Q0 : Nat → Prop} {wc : Nat} {vv oo : Nat → Nat} (C : wk_C p s m meth c args RX1 cc nL ret) (hs : wk_S A s D (tX cA) (wX ad cA n b bs sa K Q0 wc vv oo) H locs) {i : Nat} {x : Nat} (hi : i < 8) (hv : x < 128) (hdg : decode cc pc = .ok (.bastore, 1)) (kk : ∀ (H1 : Heap) (locs1 : List Loc), wk_S A s D (tX cA) (wX ad cA n b bs sa K Q0 wc vv (rz_up oo i x)) H1 locs1 → W p l e R s m args below meth c H1 locs1 cells slots Q (F0 m (pc + 1) ls rest)) : W p l e R s m args below meth c H locs cells slots Q (F0 m pc ls (.int (nI x) :: .int (nI i) :: .ref (ad 8) :: rest)) := wk_stb C.1 C.2.1 hs 8 7 rfl rfl hi (by decide) hv rfl hdg kk
theorem yl_B {n : Nat} {b : Nat → Nat} {bs : Nat} {M F : Nat → Prop} (C : wk_C p s m meth c args RX2 cc nL ret) (hs : wk_S A s D (tY cA) (wY ad cA n b bs M F) H locs) {i : Nat} (hi : i < 12) (hdg : decode cc pc = .ok (.iaload, 1)) (kk : W p l e R s m args below meth c H locs cells slots Q (F0 m (pc + 1) ls (.int (nI (b i)) :: rest))) : W p l e R s m args below meth c H locs cells slots Q (F0 m pc ls (.int (nI i) :: .ref (ad 1) :: rest)) := wk_ldi C.1 C.2.1 hs 1 0 rfl rfl hi (by decide) hdg kk
theorem yl_M {n : Nat} {b : Nat → Nat} {bs : Nat} {M F : Nat → Prop} (C : wk_C p s m meth c args RX2 cc nL ret) (hs : wk_S A s D (tY cA) (wY ad cA n b bs M F) H locs) {i : Nat} (hi : i < 32) (hdg : decode cc pc = .ok (.baload, 1)) (kk : W p l e R s m args below meth c H locs cells slots Q (F0 m (pc + 1) ls (.int (rz_b (M i)) :: rest))) : W p l e R s m args below meth c H locs cells slots Q (F0 m pc ls (.int (nI i) :: .ref (ad 2) :: rest)) := wk_ldz C.1 C.2.1 hs 2 1 rfl rfl hi (by decide) hdg kk
theorem yl_F {n : Nat} {b : Nat → Nat} {bs : Nat} {M F : Nat → Prop} (C : wk_C p s m meth c args RX2 cc nL ret) (hs : wk_S A s D (tY cA) (wY ad cA n b bs M F) H locs) {i : Nat} (hi : i < 243) (hdg : decode cc pc = .ok (.baload, 1)) (kk : W p l e R s m args below meth c H locs cells slots Q (F0 m (pc + 1) ls (.int (rz_b (F i)) :: rest))) : W p l e R s m args below meth c H locs cells slots Q (F0 m pc ls (.int (nI i) :: .ref (ad 3) :: rest)) := wk_ldz C.1 C.2.1 hs 3 2 rfl rfl hi (by decide) hdg kk
theorem ys_B {n : Nat} {b : Nat → Nat} {bs : Nat} {M F : Nat → Prop} (C : wk_C p s m meth c args RX2 cc nL ret) (hs : wk_S A s D (tY cA) (wY ad cA n b bs M F) H locs) {i : Nat} {x : Nat} (hi : i < 12) (hdg : decode cc pc = .ok (.iastore, 1)) (kk : ∀ (H1 : Heap) (locs1 : List Loc), wk_S A s D (tY cA) (wY ad cA n (rz_up b i x) bs M F) H1 locs1 → W p l e R s m args below meth c H1 locs1 cells slots Q (F0 m (pc + 1) ls rest)) : W p l e R s m args below meth c H locs cells slots Q (F0 m pc ls (.int (nI x) :: .int (nI i) :: .ref (ad 1) :: rest)) := wk_sti C.1 C.2.1 hs 1 0 rfl rfl hi (by decide) rfl hdg kk
theorem ys_M {n : Nat} {b : Nat → Nat} {bs : Nat} {M F : Nat → Prop} (C : wk_C p s m meth c args RX2 cc nL ret) (hs : wk_S A s D (tY cA) (wY ad cA n b bs M F) H locs) {i : Nat} {P : Prop} (hi : i < 32) (hdg : decode cc pc = .ok (.bastore, 1)) (kk : ∀ (H1 : Heap) (locs1 : List Loc), wk_S A s D (tY cA) (wY ad cA n b bs (rz_uq M i P) F) H1 locs1 → W p l e R s m args below meth c H1 locs1 cells slots Q (F0 m (pc + 1) ls rest)) : W p l e R s m args below meth c H locs cells slots Q (F0 m pc ls (.int (rz_b P) :: .int (nI i) :: .ref (ad 2) :: rest)) := wk_stz C.1 C.2.1 hs 2 1 rfl rfl hi (by decide) rfl hdg kk
theorem ys_F {n : Nat} {b : Nat → Nat} {bs : Nat} {M F : Nat → Prop} (C : wk_C p s m meth c args RX2 cc nL ret) (hs : wk_S A s D (tY cA) (wY ad cA n b bs M F) H locs) {i : Nat} {P : Prop} (hi : i < 243) (hdg : decode cc pc = .ok (.bastore, 1)) (kk : ∀ (H1 : Heap) (locs1 : List Loc), wk_S A s D (tY cA) (wY ad cA n b bs M (rz_uq F i P)) H1 locs1 → W p l e R s m args below meth c H1 locs1 cells slots Q (F0 m (pc + 1) ls rest)) : W p l e R s m args below meth c H locs cells slots Q (F0 m pc ls (.int (rz_b P) :: .int (nI i) :: .ref (ad 3) :: rest)) := wk_stz C.1 C.2.1 hs 3 2 rfl rfl hi (by decide) rfl hdg kk
end
end
end
section
/-! CALL WORDS: what a call of a method asks of the tables and of the room -/
section
set_option maxRecDepth 100000
variable {R : Room} {s : State} {args : Array Value}
theorem cwX1_X1_bitsIn (hts : ∀ w ∈ lw_all, w.before args s = true) (hR : wk_R 1 23 R) : CallW R s args RX1 RX1 101 yX1_bitsIn cX1_bitsIn 4 (some .int) (ws_ yX1_bitsIn cX1_bitsIn 4 (some .int)) (wk_rm 0 0) 0 0 1 := cwV 1 hts (lw_V q117 q119 qs8 q24 q120) rfl rfl rfl (by decide +kernel) ⟨hR.1, hR.2⟩
theorem cwX1_X1_breaks (hts : ∀ w ∈ lw_all, w.before args s = true) (hR : wk_R 1 25 R) : CallW R s args RX1 RX1 75 yX1_breaks cX1_breaks 6 (some .boolean) (ws_ yX1_breaks cX1_breaks 6 (some .boolean)) (wk_rm 0 0) 0 0 2 := cwV 2 hts (lw_V q169 q171 qs14 q24 q172) rfl rfl rfl (by decide +kernel) ⟨hR.1, hR.2⟩
theorem cwX1_X1_clearKept (hts : ∀ w ∈ lw_all, w.before args s = true) (hR : wk_R 1 21 R) : CallW R s args RX1 RX1 79 yX1_clearKept cX1_clearKept 2 none (ws_ yX1_clearKept cX1_clearKept 2 none) (wk_rm 0 0) 0 0 0 := cwV 0 hts (lw_V q149 q151 qs13 q24 q152) rfl rfl rfl (by decide +kernel) ⟨hR.1, hR.2⟩
theorem cwX1_X1_dropWider (hts : ∀ w ∈ lw_all, w.before args s = true) (hR : wk_R 2 44 R) : CallW R s args RX1 RX1 95 yX1_dropWider cX1_dropWider 3 none (ws_ yX1_dropWider cX1_dropWider 3 none) (wk_rm 1 22) 0 0 1 := cwV 1 hts (lw_V q121 q123 qs9 q24 q124) rfl rfl rfl (by decide +kernel) ⟨hR.1, hR.2⟩
theorem cwX1_X1_enqueue (hts : ∀ w ∈ lw_all, w.before args s = true) (hR : wk_R 3 65 R) : CallW R s args RX1 RX1 88 yX1_enqueue cX1_enqueue 2 none (ws_ yX1_enqueue cX1_enqueue 2 none) (wk_rm 2 44) 0 0 1 := cwV 1 hts (lw_V q101 q103 qs4 q24 q104) rfl rfl rfl (by decide +kernel) ⟨hR.1, hR.2⟩
theorem cwX1_X1_isClause (hts : ∀ w ∈ lw_all, w.before args s = true) (hR : wk_R 1 21 R) : CallW R s args RX1 RX1 55 yX1_isClause cX1_isClause 2 (some .boolean) (ws_ yX1_isClause cX1_isClause 2 (some .boolean)) (wk_rm 0 0) 0 0 1 := cwV 1 hts (lw_V q89 q91 qs1 q24 q92) rfl rfl rfl (by decide +kernel) ⟨hR.1, hR.2⟩
theorem cwX1_X1_lowestKeptWithin (hts : ∀ w ∈ lw_all, w.before args s = true) (hR : wk_R 2 44 R) : CallW R s args RX1 RX1 72 yX1_lowestKeptWithin cX1_lowestKeptWithin 3 (some .int) (ws_ yX1_lowestKeptWithin cX1_lowestKeptWithin 3 (some .int)) (wk_rm 1 22) 0 0 1 := cwV 1 hts (lw_V q105 q107 qs5 q24 q108) rfl rfl rfl (by decide +kernel) ⟨hR.1, hR.2⟩
theorem cwX1_X1_nextWaiting (hts : ∀ w ∈ lw_all, w.before args s = true) (hR : wk_R 2 47 R) : CallW R s args RX1 RX1 91 yX1_nextWaiting cX1_nextWaiting 5 (some .int) (ws_ yX1_nextWaiting cX1_nextWaiting 5 (some .int)) (wk_rm 1 23) 0 0 0 := cwV 0 hts (lw_V q113 q115 qs7 q24 q116) rfl rfl rfl (by decide +kernel) ⟨hR.1, hR.2⟩
theorem cwX1_X1_numberOf (hts : ∀ w ∈ lw_all, w.before args s = true) (hR : wk_R 1 24 R) : CallW R s args RX1 RX1 104 yX1_numberOf cX1_numberOf 5 (some .int) (ws_ yX1_numberOf cX1_numberOf 5 (some .int)) (wk_rm 0 0) 0 0 2 := cwV 2 hts (lw_V q129 q131 qs11 q24 q132) rfl rfl rfl (by decide +kernel) ⟨hR.1, hR.2⟩
theorem cwX1_X1_placeOf (hts : ∀ w ∈ lw_all, w.before args s = true) (hR : wk_R 1 22 R) : CallW R s args RX1 RX1 59 yX1_placeOf cX1_placeOf 3 (some .int) (ws_ yX1_placeOf cX1_placeOf 3 (some .int)) (wk_rm 0 0) 0 0 1 := cwV 1 hts (lw_V q93 q95 qs2 q24 q96) rfl rfl rfl (by decide +kernel) ⟨hR.1, hR.2⟩
theorem cwX1_X1_resolveWithKept (hts : ∀ w ∈ lw_all, w.before args s = true) (hR : wk_R 4 91 R) : CallW R s args RX1 RX1 98 yX1_resolveWithKept cX1_resolveWithKept 7 none (ws_ yX1_resolveWithKept cX1_resolveWithKept 7 none) (wk_rm 3 65) 0 0 1 := cwV 1 hts (lw_V q125 q127 qs10 q24 q128) rfl rfl rfl (by decide +kernel) ⟨hR.1, hR.2⟩
theorem cwX1_X1_saturate (hts : ∀ w ∈ lw_all, w.before args s = true) (hR : wk_R 6 135 R) : CallW R s args RX1 RX1 69 yX1_saturate cX1_saturate 2 none (ws_ yX1_saturate cX1_saturate 2 none) (wk_rm 5 114) 0 0 0 := cwV 0 hts (lw_V q145 q147 qs12 q24 q148) rfl rfl rfl (by decide +kernel) ⟨hR.1, hR.2⟩
theorem cwX1_X1_spellOut (hts : ∀ w ∈ lw_all, w.before args s = true) (hR : wk_R 1 26 R) : CallW R s args RX1 RX1 47 yX1_spellOut cX1_spellOut 7 none (ws_ yX1_spellOut cX1_spellOut 7 none) (wk_rm 0 0) 0 0 1 := cwV 1 hts (lw_V q34 q36 qs0 q24 q37) rfl rfl rfl (by decide +kernel) ⟨hR.1, hR.2⟩
theorem cwX1_X1_takeIn (hts : ∀ w ∈ lw_all, w.before args s = true) (hR : wk_R 5 114 R) : CallW R s args RX1 RX1 66 yX1_takeIn cX1_takeIn 4 none (ws_ yX1_takeIn cX1_takeIn 4 none) (wk_rm 4 91) 0 0 1 := cwV 1 hts (lw_V q97 q99 qs3 q24 q100) rfl rfl rfl (by decide +kernel) ⟨hR.1, hR.2⟩
theorem cwX1_X1_within (hts : ∀ w ∈ lw_all, w.before args s = true) (hR : wk_R 1 22 R) : CallW R s args RX1 RX1 82 yX1_within cX1_within 3 (some .boolean) (ws_ yX1_within cX1_within 3 (some .boolean)) (wk_rm 0 0) 0 0 2 := cwV 2 hts (lw_V q109 q111 qs6 q24 q112) rfl rfl rfl (by decide +kernel) ⟨hR.1, hR.2⟩
theorem cwX2_X2_findFollowing (hts : ∀ w ∈ lw_all, w.before args s = true) (hR : wk_R 3 69 R) : CallW R s args RX2 RX2 52 yX2_findFollowing cX2_findFollowing 2 none (ws_ yX2_findFollowing cX2_findFollowing 2 none) (wk_rm 2 48) 0 0 0 := cwV 0 hts (lw_V q249 q251 qs20 q25 q252) rfl rfl rfl (by decide +kernel) ⟨hR.1, hR.2⟩
theorem cwX2_X2_findModels (hts : ∀ w ∈ lw_all, w.before args s = true) (hR : wk_R 2 48 R) : CallW R s args RX2 RX2 42 yX2_findModels cX2_findModels 4 none (ws_ yX2_findModels cX2_findModels 4 none) (wk_rm 1 25) 0 0 1 := cwV 1 hts (lw_V q233 q235 qs17 q25 q236) rfl rfl rfl (by decide +kernel) ⟨hR.1, hR.2⟩
theorem cwX2_X2_followsNow (hts : ∀ w ∈ lw_all, w.before args s = true) (hR : wk_R 2 47 R) : CallW R s args RX2 RX2 46 yX2_followsNow cX2_followsNow 3 (some .boolean) (ws_ yX2_followsNow cX2_followsNow 3 (some .boolean)) (wk_rm 1 25) 0 0 1 := cwV 1 hts (lw_V q241 q243 qs19 q25 q244) rfl rfl rfl (by decide +kernel) ⟨hR.1, hR.2⟩
theorem cwX2_X2_isClause (hts : ∀ w ∈ lw_all, w.before args s = true) (hR : wk_R 1 21 R) : CallW R s args RX2 RX2 30 yX2_isClause cX2_isClause 2 (some .boolean) (ws_ yX2_isClause cX2_isClause 2 (some .boolean)) (wk_rm 0 0) 0 0 1 := cwV 1 hts (lw_V q213 q215 qs15 q25 q216) rfl rfl rfl (by decide +kernel) ⟨hR.1, hR.2⟩
theorem cwX2_X2_isPrime (hts : ∀ w ∈ lw_all, w.before args s = true) (hR : wk_R 2 47 R) : CallW R s args RX2 RX2 55 yX2_isPrime cX2_isPrime 3 (some .boolean) (ws_ yX2_isPrime cX2_isPrime 3 (some .boolean)) (wk_rm 1 25) 0 0 1 := cwV 1 hts (lw_V q253 q255 qs21 q25 q256) rfl rfl rfl (by decide +kernel) ⟨hR.1, hR.2⟩
theorem cwX2_X2_placeOf (hts : ∀ w ∈ lw_all, w.before args s = true) (hR : wk_R 1 22 R) : CallW R s args RX2 RX2 34 yX2_placeOf cX2_placeOf 3 (some .int) (ws_ yX2_placeOf cX2_placeOf 3 (some .int)) (wk_rm 0 0) 0 0 1 := cwV 1 hts (lw_V q217 q219 qs16 q25 q220) rfl rfl rfl (by decide +kernel) ⟨hR.1, hR.2⟩
theorem cwX2_X2_satisfies (hts : ∀ w ∈ lw_all, w.before args s = true) (hR : wk_R 1 25 R) : CallW R s args RX2 RX2 38 yX2_satisfies cX2_satisfies 6 (some .boolean) (ws_ yX2_satisfies cX2_satisfies 6 (some .boolean)) (wk_rm 0 0) 0 0 2 := cwV 2 hts (lw_V q237 q239 qs18 q25 q240) rfl rfl rfl (by decide +kernel) ⟨hR.1, hR.2⟩
theorem cwX2_X2_within (hts : ∀ w ∈ lw_all, w.before args s = true) (hR : wk_R 1 25 R) : CallW R s args RX2 RX2 49 yX2_within cX2_within 6 (some .boolean) (ws_ yX2_within cX2_within 6 (some .boolean)) (wk_rm 0 0) 0 0 2 := cwV 2 hts (lw_V q257 q259 qs22 q25 q260) rfl rfl rfl (by decide +kernel) ⟨hR.1, hR.2⟩
theorem cwX0_X1_add (hts : ∀ w ∈ lw_all, w.before args s = true) (hR : wk_R 6 135 R) : CallW R s args RX0 RX1 21 yX1_add cX1_add 2 (some .int) (ws_ yX1_add cX1_add 2 (some .int)) (wk_rm 5 114) 0 0 1 := cwV 1 hts (lw_V q85 q86 q87 q24 q88) rfl rfl rfl (by decide +kernel) ⟨hR.1, hR.2⟩
theorem cwX0_X1_implied (hts : ∀ w ∈ lw_all, w.before args s = true) (hR : wk_R 7 156 R) : CallW R s args RX0 RX1 35 yX1_implied cX1_implied 2 (some .boolean) (ws_ yX1_implied cX1_implied 2 (some .boolean)) (wk_rm 6 135) 0 0 1 := cwV 1 hts (lw_V q141 q142 q143 q24 q144) rfl rfl rfl (by decide +kernel) ⟨hR.1, hR.2⟩
theorem cwX0_X1_leastModel (hts : ∀ w ∈ lw_all, w.before args s = true) (hR : wk_R 7 160 R) : CallW R s args RX0 RX1 56 yX1_leastModel cX1_leastModel 6 (some .int) (ws_ yX1_leastModel cX1_leastModel 6 (some .int)) (wk_rm 6 135) 0 0 2 := cwV 2 hts (lw_V q173 q174 q175 q24 q176) rfl rfl rfl (by decide +kernel) ⟨hR.1, hR.2⟩
theorem cwX0_X1_models (hts : ∀ w ∈ lw_all, w.before args s = true) (hR : wk_R 7 160 R) : CallW R s args RX0 RX1 52 yX1_models cX1_models 6 (some .int) (ws_ yX1_models cX1_models 6 (some .int)) (wk_rm 6 135) 0 0 0 := cwV 0 hts (lw_V q165 q166 q167 q24 q168) rfl rfl rfl (by decide +kernel) ⟨hR.1, hR.2⟩
theorem cwX0_X1_prime (hts : ∀ w ∈ lw_all, w.before args s = true) (hR : wk_R 7 158 R) : CallW R s args RX0 RX1 44 yX1_prime cX1_prime 4 (some .int) (ws_ yX1_prime cX1_prime 4 (some .int)) (wk_rm 6 135) 0 0 1 := cwV 1 hts (lw_V q157 q158 q159 q24 q160) rfl rfl rfl (by decide +kernel) ⟨hR.1, hR.2⟩
theorem cwX0_X1_primeWithin (hts : ∀ w ∈ lw_all, w.before args s = true) (hR : wk_R 7 156 R) : CallW R s args RX0 RX1 48 yX1_primeWithin cX1_primeWithin 2 (some .int) (ws_ yX1_primeWithin cX1_primeWithin 2 (some .int)) (wk_rm 6 135) 0 0 1 := cwV 1 hts (lw_V q161 q162 q163 q24 q164) rfl rfl rfl (by decide +kernel) ⟨hR.1, hR.2⟩
theorem cwX0_X1_primes (hts : ∀ w ∈ lw_all, w.before args s = true) (hR : wk_R 7 157 R) : CallW R s args RX0 RX1 40 yX1_primes cX1_primes 3 (some .int) (ws_ yX1_primes cX1_primes 3 (some .int)) (wk_rm 6 135) 0 0 0 := cwV 0 hts (lw_V q153 q154 q155 q24 q156) rfl rfl rfl (by decide +kernel) ⟨hR.1, hR.2⟩
theorem cwX0_X1_redundant (hts : ∀ w ∈ lw_all, w.before args s = true) (hR : wk_R 6 137 R) : CallW R s args RX0 RX1 61 yX1_redundant cX1_redundant 4 (some .int) (ws_ yX1_redundant cX1_redundant 4 (some .int)) (wk_rm 5 114) 0 0 0 := cwV 0 hts (lw_V q177 q178 q179 q24 q180) rfl rfl rfl (by decide +kernel) ⟨hR.1, hR.2⟩
theorem cwX0_X1_retract (hts : ∀ w ∈ lw_all, w.before args s = true) (hR : wk_R 2 45 R) : CallW R s args RX0 RX1 26 yX1_retract cX1_retract 4 (some .int) (ws_ yX1_retract cX1_retract 4 (some .int)) (wk_rm 1 22) 0 0 1 := cwV 1 hts (lw_V q133 q134 q135 q24 q136) rfl rfl rfl (by decide +kernel) ⟨hR.1, hR.2⟩
theorem cwX0_X1_size (hts : ∀ w ∈ lw_all, w.before args s = true) (hR : wk_R 1 20 R) : CallW R s args RX0 RX1 30 yX1_size cX1_size 1 (some .int) (ws_ yX1_size cX1_size 1 (some .int)) (wk_rm 0 0) 0 0 0 := cwV 0 hts (lw_V q137 q138 q139 q24 q140) rfl rfl rfl (by decide +kernel) ⟨hR.1, hR.2⟩
theorem cwX0_X2_add (hts : ∀ w ∈ lw_all, w.before args s = true) (hR : wk_R 2 43 R) : CallW R s args RX0 RX2 25 yX2_add cX2_add 2 (some .int) (ws_ yX2_add cX2_add 2 (some .int)) (wk_rm 1 22) 0 0 1 := cwV 1 hts (lw_V q209 q210 q211 q25 q212) rfl rfl rfl (by decide +kernel) ⟨hR.1, hR.2⟩
theorem cwX0_X2_implied (hts : ∀ w ∈ lw_all, w.before args s = true) (hR : wk_R 3 69 R) : CallW R s args RX0 RX2 39 yX2_implied cX2_implied 2 (some .boolean) (ws_ yX2_implied cX2_implied 2 (some .boolean)) (wk_rm 2 48) 0 0 1 := cwV 1 hts (lw_V q229 q230 q231 q25 q232) rfl rfl rfl (by decide +kernel) ⟨hR.1, hR.2⟩
theorem cwX0_X2_leastModel (hts : ∀ w ∈ lw_all, w.before args s = true) (hR : wk_R 3 72 R) : CallW R s args RX0 RX2 60 yX2_leastModel cX2_leastModel 5 (some .int) (ws_ yX2_leastModel cX2_leastModel 5 (some .int)) (wk_rm 2 48) 0 0 2 := cwV 2 hts (lw_V q273 q274 q275 q25 q276) rfl rfl rfl (by decide +kernel) ⟨hR.1, hR.2⟩
theorem cwX0_X2_models (hts : ∀ w ∈ lw_all, w.before args s = true) (hR : wk_R 3 70 R) : CallW R s args RX0 RX2 55 yX2_models cX2_models 3 (some .int) (ws_ yX2_models cX2_models 3 (some .int)) (wk_rm 2 48) 0 0 0 := cwV 0 hts (lw_V q269 q270 q271 q25 q272) rfl rfl rfl (by decide +kernel) ⟨hR.1, hR.2⟩
theorem cwX0_X2_prime (hts : ∀ w ∈ lw_all, w.before args s = true) (hR : wk_R 4 92 R) : CallW R s args RX0 RX2 47 yX2_prime cX2_prime 4 (some .int) (ws_ yX2_prime cX2_prime 4 (some .int)) (wk_rm 3 69) 0 0 1 := cwV 1 hts (lw_V q261 q262 q263 q25 q264) rfl rfl rfl (by decide +kernel) ⟨hR.1, hR.2⟩
theorem cwX0_X2_primeWithin (hts : ∀ w ∈ lw_all, w.before args s = true) (hR : wk_R 4 91 R) : CallW R s args RX0 RX2 51 yX2_primeWithin cX2_primeWithin 3 (some .int) (ws_ yX2_primeWithin cX2_primeWithin 3 (some .int)) (wk_rm 3 69) 0 0 1 := cwV 1 hts (lw_V q265 q266 q267 q25 q268) rfl rfl rfl (by decide +kernel) ⟨hR.1, hR.2⟩
theorem cwX0_X2_primes (hts : ∀ w ∈ lw_all, w.before args s = true) (hR : wk_R 4 91 R) : CallW R s args RX0 RX2 43 yX2_primes cX2_primes 3 (some .int) (ws_ yX2_primes cX2_primes 3 (some .int)) (wk_rm 3 69) 0 0 0 := cwV 0 hts (lw_V q245 q246 q247 q25 q248) rfl rfl rfl (by decide +kernel) ⟨hR.1, hR.2⟩
theorem cwX0_X2_redundant (hts : ∀ w ∈ lw_all, w.before args s = true) (hR : wk_R 3 70 R) : CallW R s args RX0 RX2 64 yX2_redundant cX2_redundant 3 (some .int) (ws_ yX2_redundant cX2_redundant 3 (some .int)) (wk_rm 2 48) 0 0 0 := cwV 0 hts (lw_V q277 q278 q279 q25 q280) rfl rfl rfl (by decide +kernel) ⟨hR.1, hR.2⟩
theorem cwX0_X2_retract (hts : ∀ w ∈ lw_all, w.before args s = true) (hR : wk_R 2 44 R) : CallW R s args RX0 RX2 29 yX2_retract cX2_retract 3 (some .int) (ws_ yX2_retract cX2_retract 3 (some .int)) (wk_rm 1 22) 0 0 1 := cwV 1 hts (lw_V q221 q222 q223 q25 q224) rfl rfl rfl (by decide +kernel) ⟨hR.1, hR.2⟩
theorem cwX0_X2_size (hts : ∀ w ∈ lw_all, w.before args s = true) (hR : wk_R 1 20 R) : CallW R s args RX0 RX2 34 yX2_size cX2_size 1 (some .int) (ws_ yX2_size cX2_size 1 (some .int)) (wk_rm 0 0) 0 0 0 := cwV 0 hts (lw_V q225 q226 q227 q25 q228) rfl rfl rfl (by decide +kernel) ⟨hR.1, hR.2⟩
end
end
section
/-! ENTRY: a contract out of a walk with any end that the return rows reach -/
section
theorem wk_mI.goI {l : Launch} {y : MethodName} {cc : ByteArray} {nL f lo : Nat} {D : va_G} {tys : List (ClassId × FieldType)} {ws : va_W} {av : List Value} {S : Type} {post : Int32 → S → Prop} {wr : S → va_W} (own : String) (hy : plainName y.cls = true) (ho : y.cls = own) (hlen : (lg_sl av).length ≤ nL)
    (body : ∀ (p : Program) (e : Env) (R : Room) (s : State) (m : MethodId) (args : Array Value) (below : List Frame) (meth : Method) (c : Code) (A : Nat → Prop) (ls : Array Slot) (Q : State → Prop), wk_C p s m meth c args own cc nL (some .int) → wk_R f lo R → wk_S A s D tys ws s.heap [] → lv_has ls nL (lv_args 0 av) →
      (∀ {H : Heap} {locs : List Loc} {ls : Array Slot} {pc : Nat} {r : Int32} (u : S), wk_S A s D tys (wr u) H locs → post r u → decode cc pc = .ok (.ireturn, 1) → W p l e R s m args below meth c H locs 0 0 Q (F0 m pc ls [.int r])) → W p l e R s m args below meth c s.heap [] 0 0 Q (F0 m 0 ls [])) : wk_mI l y cc nL (some .int) (wk_rm f lo) D tys ws av post wr := by
  refine wk_mI.of own hy ho hlen ?_
  intro p e s m below meth c A ls C hs hl
  exact body p e _ s m _ below meth c A ls _ C ⟨Nat.le_refl _, Nat.le_refl _⟩ hs hl (fun u hs hp hd => wk_iret u C hs hp hd)
theorem wk_mI.goZ {l : Launch} {y : MethodName} {cc : ByteArray} {nL f lo : Nat} {D : va_G} {tys : List (ClassId × FieldType)} {ws : va_W} {av : List Value} {S : Type} {post : Int32 → S → Prop} {wr : S → va_W} (own : String) (hy : plainName y.cls = true) (ho : y.cls = own) (hlen : (lg_sl av).length ≤ nL)
    (body : ∀ (p : Program) (e : Env) (R : Room) (s : State) (m : MethodId) (args : Array Value) (below : List Frame) (meth : Method) (c : Code) (A : Nat → Prop) (ls : Array Slot) (Q : State → Prop), wk_C p s m meth c args own cc nL (some .boolean) → wk_R f lo R → wk_S A s D tys ws s.heap [] → lv_has ls nL (lv_args 0 av) →
      (∀ {H : Heap} {locs : List Loc} {ls : Array Slot} {pc : Nat} {r : Int32} (P : Prop) (u : S), wk_S A s D tys (wr u) H locs → r = rz_b P → post (rz_b P) u → decode cc pc = .ok (.ireturn, 1) → W p l e R s m args below meth c H locs 0 0 Q (F0 m pc ls [.int r])) → W p l e R s m args below meth c s.heap [] 0 0 Q (F0 m 0 ls [])) : wk_mI l y cc nL (some .boolean) (wk_rm f lo) D tys ws av post wr := by
  refine wk_mI.of own hy ho hlen ?_
  intro p e s m below meth c A ls C hs hl
  exact body p e _ s m _ below meth c A ls _ C ⟨Nat.le_refl _, Nat.le_refl _⟩ hs hl (fun P u hs hr hp hd => by
    subst hr
    exact wk_zret u C hs (wk_narz P) hp hd)
theorem wk_mV.go {l : Launch} {y : MethodName} {cc : ByteArray} {nL f lo : Nat} {D : va_G} {tys : List (ClassId × FieldType)} {ws : va_W} {av : List Value} {S : Type} {post : S → Prop} {wr : S → va_W} (own : String) (hy : plainName y.cls = true) (ho : y.cls = own) (hlen : (lg_sl av).length ≤ nL)
    (body : ∀ (p : Program) (e : Env) (R : Room) (s : State) (m : MethodId) (args : Array Value) (below : List Frame) (meth : Method) (c : Code) (A : Nat → Prop) (ls : Array Slot) (Q : State → Prop), wk_C p s m meth c args own cc nL none → wk_R f lo R → wk_S A s D tys ws s.heap [] → lv_has ls nL (lv_args 0 av) →
      (∀ {H : Heap} {locs : List Loc} {ls : Array Slot} {pc : Nat} (u : S), wk_S A s D tys (wr u) H locs → post u → decode cc pc = .ok (.return_, 1) → W p l e R s m args below meth c H locs 0 0 Q (F0 m pc ls [])) → W p l e R s m args below meth c s.heap [] 0 0 Q (F0 m 0 ls [])) : wk_mV l y cc nL none (wk_rm f lo) D tys ws av post wr := by
  refine wk_mV.of own hy ho hlen ?_
  intro p e s m below meth c A ls C hs hl
  exact body p e _ s m _ below meth c A ls _ C ⟨Nat.le_refl _, Nat.le_refl _⟩ hs hl (fun u hs hp hd => wk_vret u C hs hp hd)
theorem wk_T : (1 : Int32) = rz_b True := (rz_b_t trivial).symm
theorem wk_F : (0 : Int32) = rz_b False := (rz_b_f id).symm
theorem wk_1 {P : Prop} (h : P) : (1 : Int32) = rz_b P := (rz_b_t h).symm
theorem wk_0 {P : Prop} (h : ¬ P) : (0 : Int32) = rz_b P := (rz_b_f h).symm
theorem wk_lo0 {N : Nat} {P : Nat → Prop} {r : Int32} (hN : N < 2 ^ 31) (h : rz_lo N P r) : r < 0 ↔ ¬ ∃ d, d < N ∧ P d := by
  rcases h with ⟨d, h1, h2, -, rfl⟩ | ⟨h1, rfl⟩
  · exact ⟨fun q => absurd q (nI_pos (by omega)), fun q => absurd ⟨d, h1, h2⟩ q⟩
  · exact ⟨fun _ ⟨d, a, b⟩ => h1 d a b, fun _ => by decide +kernel⟩
end
end
section
/-! OrderedResolver: isClause, within, placeOf, lowestKeptWithin, breaks, numberOf, bitsIn, size, clearKept -/
section
set_option maxHeartbeats 4000000 in
set_option maxRecDepth 100000 in
theorem m1_isClause (l : Launch) (D : va_G) (ad : Nat → Nat) (cA : Nat → ClassId) {n : Nat} (hn : n ≤ 5) (b : Nat → Nat) (bs : Nat) (sa : Prop) (K Q0 : Nat → Prop) (wc : Nat) (vv oo : Nat → Nat) (x : Int32) : wk_mI l yX1_isClause cX1_isClause 2 (some .boolean) (wk_rm 0 0) D (tX cA) (wX ad cA n b bs sa K Q0 wc vv oo) [.ref (ad 0), .int (x)] (S := Unit) (fun r _ => r = rz_b (∃ j, j < 3 ^ n ∧ x = nI j)) (fun _ => wX ad cA n b bs sa K Q0 wc vv oo) := by
  refine wk_mI.goZ RX1 (by decide) rfl (Nat.le_of_ble_eq_true rfl) ?_
  intro p e R s m args below meth c A ls Q C hR hs hl hret
  have hl : lv_has ls 2 [(0, .ref (ad 0)), (1, .int (x))] := hl
  have hx := C.1
  have hb := C.2.1
  have h3 := rz_p35 hn
  refine lv_iload_n hx hb dX1_isClause_0 rfl (lv_at hl 1 rfl) ?_
  refine lv_if_lt (tgt := 16) hx hb dX1_isClause_1 (by decide) (fun h => ?_) (fun h => ?_)
  · refine lv_iconst (v := 0) hx hb dX1_isClause_16 (by decide +kernel) ?_
    exact hret _ () hs (wk_0 (fun ⟨j, hj, q⟩ => by rw [q] at h; exact wk_lt0 (by omega) h)) rfl dX1_isClause_17
  · obtain ⟨j, hj, rfl⟩ := nI_of h
    refine lv_iload_n hx hb dX1_isClause_4 rfl (lv_at hl 1 rfl) ?_
    refine lv_aload_n hx hb dX1_isClause_5 rfl (lv_at hl 0 rfl) ?_
    refine xg_clauseCount C hs dX1_isClause_6 ?_
    refine nk_ge (tgt := 16) hx hb (by omega) (by omega) dX1_isClause_9 (by decide) (fun h => ?_) (fun h => ?_)
    · refine lv_iconst (v := 0) hx hb dX1_isClause_16 (by decide +kernel) ?_
      exact hret _ () hs (wk_0 (fun ⟨i, hi, q⟩ => by rw [nI_eq hj (by omega)] at q; omega)) rfl dX1_isClause_17
    · refine lv_iconst (v := 1) hx hb dX1_isClause_12 (by decide +kernel) ?_
      refine lv_goto (tgt := 17) hx hb dX1_isClause_13 (by decide) ?_
      exact hret _ () hs (wk_1 ⟨j, h, rfl⟩) rfl dX1_isClause_17
set_option maxHeartbeats 4000000 in
set_option maxRecDepth 100000 in
theorem m1_size (l : Launch) (D : va_G) (ad : Nat → Nat) (cA : Nat → ClassId) {n : Nat} (hn : n ≤ 5) (b : Nat → Nat) (bs : Nat) (sa : Prop) (K Q0 : Nat → Prop) (wc : Nat) (vv oo : Nat → Nat) : wk_mI l yX1_size cX1_size 1 (some .int) (wk_rm 0 0) D (tX cA) (wX ad cA n b bs sa K Q0 wc vv oo) [.ref (ad 0)] (S := Unit) (fun r _ => r = nI bs) (fun _ => wX ad cA n b bs sa K Q0 wc vv oo) := by
  refine wk_mI.goI RX1 (by decide) rfl (Nat.le_of_ble_eq_true rfl) ?_
  intro p e R s m args below meth c A ls Q C hR hs hl hret
  have hl : lv_has ls 1 [(0, .ref (ad 0))] := hl
  have hx := C.1
  have hb := C.2.1
  refine lv_aload_n hx hb dX1_size_0 rfl (lv_at hl 0 rfl) ?_
  refine xg_baseSize C hs dX1_size_1 ?_
  exact hret () hs rfl dX1_size_4
set_option maxHeartbeats 4000000 in
set_option maxRecDepth 100000 in
theorem m1_within (l : Launch) (D : va_G) (ad : Nat → Nat) (cA : Nat → ClassId) {n : Nat} (hn : n ≤ 5) (b : Nat → Nat) (bs : Nat) (sa : Prop) (K Q0 : Nat → Prop) (wc : Nat) (vv oo : Nat → Nat) {d y : Nat} (hd : d < 3 ^ n) (hy : y < 3 ^ n) : wk_mI l yX1_within cX1_within 3 (some .boolean) (wk_rm 0 0) D (tX cA) (wX ad cA n b bs sa K Q0 wc vv oo) [.ref (ad 0), .int (nI (d)), .int (nI (y))] (S := Unit) (fun r _ => r = rz_b (rz_W n d y)) (fun _ => wX ad cA n b bs sa K Q0 wc vv oo) := by
  refine wk_mI.goZ RX1 (by decide) rfl (Nat.le_of_ble_eq_true rfl) ?_
  intro p e R s m args below meth c A ls Q C hR hs hl hret
  have hl : lv_has ls 3 [(0, .ref (ad 0)), (1, .int (nI (d))), (2, .int (nI (y)))] := hl
  have hx := C.1
  have hb := C.2.1
  refine lv_aload_n hx hb dX1_within_0 rfl (lv_at hl 0 rfl) ?_
  refine xg_wantsTrue C hs dX1_within_1 ?_
  refine lv_iload_n hx hb dX1_within_4 rfl (lv_at hl 1 rfl) ?_
  refine xl_T C hs hn hd dX1_within_5 ?_
  refine lv_aload_n hx hb dX1_within_6 rfl (lv_at hl 0 rfl) ?_
  refine xg_wantsTrue C hs dX1_within_7 ?_
  refine lv_iload_n hx hb dX1_within_10 rfl (lv_at hl 2 rfl) ?_
  refine xl_T C hs hn hy dX1_within_11 ?_
  refine lv_iconst (v := (-1)) hx hb dX1_within_12 (by decide +kernel) ?_
  refine lv_ixor hx hb dX1_within_13 ?_
  refine lv_iand hx hb dX1_within_14 ?_
  refine wk_top (v := nI ((rz_T n d) &&& ((rz_T n y) ^^^ 31))) (wk_andn (rz_T_lt _ hn) _) ?_
  refine nk_if_ne (tgt := 40) hx hb (Nat.lt_of_le_of_lt Nat.and_le_left (Nat.lt_trans (rz_T_lt _ hn) (by decide))) dX1_within_15 (by decide) (fun h => ?_) (fun h => ?_)
  · refine lv_iconst (v := 0) hx hb dX1_within_40 (by decide +kernel) ?_
    exact hret _ () hs (wk_0 (fun z => h ((rz_W_iff hn d y).mp z).1)) rfl dX1_within_41
  · refine lv_aload_n hx hb dX1_within_18 rfl (lv_at hl 0 rfl) ?_
    refine xg_wantsFalse C hs dX1_within_19 ?_
    refine lv_iload_n hx hb dX1_within_22 rfl (lv_at hl 1 rfl) ?_
    refine xl_F C hs hn hd dX1_within_23 ?_
    refine lv_aload_n hx hb dX1_within_24 rfl (lv_at hl 0 rfl) ?_
    refine xg_wantsFalse C hs dX1_within_25 ?_
    refine lv_iload_n hx hb dX1_within_28 rfl (lv_at hl 2 rfl) ?_
    refine xl_F C hs hn hy dX1_within_29 ?_
    refine lv_iconst (v := (-1)) hx hb dX1_within_30 (by decide +kernel) ?_
    refine lv_ixor hx hb dX1_within_31 ?_
    refine lv_iand hx hb dX1_within_32 ?_
    refine wk_top (v := nI ((rz_F n d) &&& ((rz_F n y) ^^^ 31))) (wk_andn (rz_F_lt _ hn) _) ?_
    refine nk_if_ne (tgt := 40) hx hb (Nat.lt_of_le_of_lt Nat.and_le_left (Nat.lt_trans (rz_F_lt _ hn) (by decide))) dX1_within_33 (by decide) (fun h' => ?_) (fun h' => ?_)
    · refine lv_iconst (v := 0) hx hb dX1_within_40 (by decide +kernel) ?_
      exact hret _ () hs (wk_0 (fun z => h' ((rz_W_iff hn d y).mp z).2)) rfl dX1_within_41
    · refine lv_iconst (v := 1) hx hb dX1_within_36 (by decide +kernel) ?_
      refine lv_goto (tgt := 41) hx hb dX1_within_37 (by decide) ?_
      exact hret _ () hs (wk_1 ((rz_W_iff hn d y).mpr ⟨h, h'⟩)) rfl dX1_within_41
set_option maxHeartbeats 4000000 in
set_option maxRecDepth 100000 in
theorem m1_placeOf (l : Launch) (D : va_G) (ad : Nat → Nat) (cA : Nat → ClassId) {n : Nat} (hn : n ≤ 5) (b : Nat → Nat) (bs : Nat) (sa : Prop) (K Q0 : Nat → Prop) (wc : Nat) (vv oo : Nat → Nat) (hB : rz_bs (3 ^ n) b bs) {j : Nat} (hj : j < 3 ^ n) : wk_mI l yX1_placeOf cX1_placeOf 3 (some .int) (wk_rm 0 0) D (tX cA) (wX ad cA n b bs sa K Q0 wc vv oo) [.ref (ad 0), .int (nI (j))] (S := Unit) (fun r _ => (∃ i, i < bs ∧ b i = j ∧ r = nI i) ∨ ((∀ i, i < bs → ¬ b i = j) ∧ r = -1)) (fun _ => wX ad cA n b bs sa K Q0 wc vv oo) := by
  refine wk_mI.goI RX1 (by decide) rfl (Nat.le_of_ble_eq_true rfl) ?_
  intro p e R s m args below meth c A ls Q C hR hs hl hret
  have hl : lv_has ls 3 [(0, .ref (ad 0)), (1, .int (nI (j)))] := hl
  have hx := C.1
  have hb := C.2.1
  have h3 := rz_p35 hn
  have h12 := hB.1
  refine lv_iconst (v := nI (0)) hx hb dX1_placeOf_0 (by decide +kernel) ?_
  refine lv_istore_n (lv' := [(2, .int (nI (0))), (0, .ref (ad 0)), (1, .int (nI (j)))]) hx hb dX1_placeOf_1 rfl hl (by decide) rfl (fun ls hl => ?_)
  have key : ∀ (k : Nat) (i : Nat), i ≤ bs → bs < i + k → (∀ t, t < i → ¬ b t = j) → ∀ (H : Heap) (locs : List Loc) (ls : Array Slot), wk_S A s D (tX cA) (wX ad cA n b bs sa K Q0 wc vv oo) H locs → lv_has ls 3 [(0, .ref (ad 0)), (1, .int (nI (j))), (2, .int (nI (i)))] → W p l e R s m args below meth c H locs 0 0 Q (F0 m 2 ls []) := by
    intro k
    induction k with
    | zero => intro i h1 h2 h4; exact absurd h2 (by omega)
    | succ k ih =>
      intro i h1 h2 h4 H locs ls hs hl
      refine lv_iload_n hx hb dX1_placeOf_2 rfl (lv_at hl 2 rfl) ?_
      refine lv_aload_n hx hb dX1_placeOf_3 rfl (lv_at hl 0 rfl) ?_
      refine xg_baseSize C hs dX1_placeOf_4 ?_
      refine nk_ge (tgt := 28) hx hb (by omega) (by omega) dX1_placeOf_7 (by decide) (fun h => ?_) (fun h => ?_)
      · refine lv_iconst (v := (-1)) hx hb dX1_placeOf_28 (by decide +kernel) ?_
        exact hret () hs (Or.inr ⟨fun i hi => h4 i (by omega), rfl⟩) dX1_placeOf_29
      · have hbi := hB.2.1 i h
        refine lv_aload_n hx hb dX1_placeOf_10 rfl (lv_at hl 0 rfl) ?_
        refine xg_base C hs dX1_placeOf_11 ?_
        refine lv_iload_n hx hb dX1_placeOf_14 rfl (lv_at hl 2 rfl) ?_
        refine xl_B C hs (by omega) dX1_placeOf_15 ?_
        refine lv_iload_n hx hb dX1_placeOf_16 rfl (lv_at hl 1 rfl) ?_
        refine nk_ne (tgt := 22) hx hb (by omega) (by omega) dX1_placeOf_17 (by decide) (fun h' => ?_) (fun h' => ?_)
        · refine lv_iinc (v := nI (i + 1)) (lv' := [(2, .int (nI (i + 1))), (0, .ref (ad 0)), (1, .int (nI (j)))]) hx hb dX1_placeOf_22 hl (k := 2) rfl (nI_add _ 1) (by decide) rfl (fun ls hl => ?_)
          refine lv_goto (tgt := 2) hx hb dX1_placeOf_25 (by decide) ?_
          refine ih (i + 1) (by omega) (by omega) (fun t ht => ?_) _ _ _ hs (lv_sub hl [1, 2, 0] rfl)
          by_cases q : t = i
          · rw [q]; exact h'
          · exact h4 t (by omega)
        · refine lv_iload_n hx hb dX1_placeOf_20 rfl (lv_at hl 2 rfl) ?_
          exact hret () hs (Or.inl ⟨i, h, h', rfl⟩) dX1_placeOf_21
  exact key (bs + 1) 0 (Nat.zero_le _) (by omega) (fun t ht => absurd ht (Nat.not_lt_zero t)) _ _ _ hs (lv_sub hl [1, 2, 0] rfl)
set_option maxHeartbeats 4000000 in
set_option maxRecDepth 100000 in
theorem m1_lowest (l : Launch) (D : va_G) (ad : Nat → Nat) (cA : Nat → ClassId) {n : Nat} (hn : n ≤ 5) (b : Nat → Nat) (bs : Nat) (sa : Prop) (K Q0 : Nat → Prop) (wc : Nat) (vv oo : Nat → Nat) {y : Nat} (hy : y < 3 ^ n) : wk_mI l yX1_lowestKeptWithin cX1_lowestKeptWithin 3 (some .int) (wk_rm 1 22) D (tX cA) (wX ad cA n b bs sa K Q0 wc vv oo) [.ref (ad 0), .int (nI (y))] (S := Unit) (fun r _ => rz_lo (y + 1) (fun d => K d ∧ rz_W n d y) r) (fun _ => wX ad cA n b bs sa K Q0 wc vv oo) := by
  refine wk_mI.goI RX1 (by decide) rfl (Nat.le_of_ble_eq_true rfl) ?_
  intro p e R s m args below meth c A ls Q C hR hs hl hret
  have hl : lv_has ls 3 [(0, .ref (ad 0)), (1, .int (nI (y)))] := hl
  have hx := C.1
  have hb := C.2.1
  have h3 := rz_p35 hn
  refine lv_iconst (v := nI (0)) hx hb dX1_lowestKeptWithin_0 (by decide +kernel) ?_
  refine lv_istore_n (lv' := [(2, .int (nI (0))), (0, .ref (ad 0)), (1, .int (nI (y)))]) hx hb dX1_lowestKeptWithin_1 rfl hl (by decide) rfl (fun ls hl => ?_)
  have key : ∀ (k : Nat) (i : Nat), i ≤ y + 1 → y + 1 < i + k → (∀ t, t < i → ¬ (K t ∧ rz_W n t y)) → ∀ (H : Heap) (locs : List Loc) (ls : Array Slot), wk_S A s D (tX cA) (wX ad cA n b bs sa K Q0 wc vv oo) H locs → lv_has ls 3 [(0, .ref (ad 0)), (1, .int (nI (y))), (2, .int (nI (i)))] → W p l e R s m args below meth c H locs 0 0 Q (F0 m 2 ls []) := by
    intro k
    induction k with
    | zero => intro i h1 h2 h4; exact absurd h2 (by omega)
    | succ k ih =>
      intro i h1 h2 h4 H locs ls hs hl
      refine lv_iload_n hx hb dX1_lowestKeptWithin_2 rfl (lv_at hl 2 rfl) ?_
      refine lv_iload_n hx hb dX1_lowestKeptWithin_3 rfl (lv_at hl 1 rfl) ?_
      refine nk_gt (tgt := 33) hx hb (by omega) (by omega) dX1_lowestKeptWithin_4 (by decide) (fun h => ?_) (fun h => ?_)
      · refine lv_bipush (v := (-2)) hx hb dX1_lowestKeptWithin_33 (by decide +kernel) ?_
        exact hret () hs (Or.inr ⟨fun i hi => h4 i (by omega), rfl⟩) dX1_lowestKeptWithin_35
      · refine lv_aload_n hx hb dX1_lowestKeptWithin_7 rfl (lv_at hl 0 rfl) ?_
        refine xg_kept C hs dX1_lowestKeptWithin_8 ?_
        refine lv_iload_n hx hb dX1_lowestKeptWithin_11 rfl (lv_at hl 2 rfl) ?_
        refine xl_K C hs (by omega) dX1_lowestKeptWithin_12 ?_
        refine bk_if_eq (tgt := 27) hx hb dX1_lowestKeptWithin_13 (by decide) (fun hk => ?_) (fun hk => ?_)
        · refine lv_iinc (v := nI (i + 1)) (lv' := [(2, .int (nI (i + 1))), (0, .ref (ad 0)), (1, .int (nI (y)))]) hx hb dX1_lowestKeptWithin_27 hl (k := 2) rfl (nI_add _ 1) (by decide) rfl (fun ls hl => ?_)
          refine lv_goto (tgt := 2) hx hb dX1_lowestKeptWithin_30 (by decide) ?_
          refine ih (i + 1) (by omega) (by omega) (fun t ht => ?_) _ _ _ hs (lv_sub hl [1, 2, 0] rfl)
          by_cases q : t = i
          · rw [q]; exact fun z => hk z.1
          · exact h4 t (by omega)
        · refine lv_aload_n hx hb dX1_lowestKeptWithin_16 rfl (lv_at hl 0 rfl) ?_
          refine lv_iload_n hx hb dX1_lowestKeptWithin_17 rfl (lv_at hl 2 rfl) ?_
          refine lv_iload_n hx hb dX1_lowestKeptWithin_18 rfl (lv_at hl 1 rfl) ?_
          refine wk_calli (As := [.int (nI (i)), .int (nI (y))]) (rest := []) (q0 := 0) C hs (m1_within l D ad cA hn b bs sa K Q0 wc vv oo (d := i) (y := y) (by omega) hy) (cwX1_X1_within C.2.2.2.2.2.1 (hR.le (by decide) (by decide))) rfl rfl rfl hl.1 rfl (Nat.le_of_ble_eq_true rfl) dX1_lowestKeptWithin_19 ⟨Nat.zero_le _, Nat.zero_le _⟩ (fun r u H locs hq hs => ?_)
          obtain rfl := hq
          refine bk_if_eq (tgt := 27) hx hb dX1_lowestKeptWithin_22 (by decide) (fun hw => ?_) (fun hw => ?_)
          · refine lv_iinc (v := nI (i + 1)) (lv' := [(2, .int (nI (i + 1))), (0, .ref (ad 0)), (1, .int (nI (y)))]) hx hb dX1_lowestKeptWithin_27 hl (k := 2) rfl (nI_add _ 1) (by decide) rfl (fun ls hl => ?_)
            refine lv_goto (tgt := 2) hx hb dX1_lowestKeptWithin_30 (by decide) ?_
            refine ih (i + 1) (by omega) (by omega) (fun t ht => ?_) _ _ _ hs (lv_sub hl [1, 2, 0] rfl)
            by_cases q : t = i
            · rw [q]; exact fun z => hw z.2
            · exact h4 t (by omega)
          · refine lv_iload_n hx hb dX1_lowestKeptWithin_25 rfl (lv_at hl 2 rfl) ?_
            exact hret () hs (Or.inl ⟨i, by omega, ⟨hk, hw⟩, h4, rfl⟩) dX1_lowestKeptWithin_26
  exact key (y + 2) 0 (Nat.zero_le _) (by omega) (fun t ht => absurd ht (Nat.not_lt_zero t)) _ _ _ hs (lv_sub hl [1, 2, 0] rfl)
set_option maxHeartbeats 4000000 in
set_option maxRecDepth 100000 in
theorem m1_breaks (l : Launch) (D : va_G) (ad : Nat → Nat) (cA : Nat → ClassId) {n : Nat} (hn : n ≤ 5) (b : Nat → Nat) (bs : Nat) (sa : Prop) (K Q0 : Nat → Prop) (wc : Nat) (vv oo : Nat → Nat) (kk ww : Nat) : wk_mI l yX1_breaks cX1_breaks 6 (some .boolean) (wk_rm 0 0) D (tX cA) (wX ad cA n b bs sa K Q0 wc vv oo) [.ref (ad 0), .int (nI (kk)), .int (nI (ww))] (S := Unit) (fun r _ => r = rz_b (rz_br n K kk ww)) (fun _ => wX ad cA n b bs sa K Q0 wc vv oo) := by
  refine wk_mI.goZ RX1 (by decide) rfl (Nat.le_of_ble_eq_true rfl) ?_
  intro p e R s m args below meth c A ls Q C hR hs hl hret
  have hl : lv_has ls 6 [(0, .ref (ad 0)), (1, .int (nI (kk))), (2, .int (nI (ww)))] := hl
  have hx := C.1
  have hb := C.2.1
  have h3 := rz_p35 hn
  refine lv_iconst (v := nI (0)) hx hb dX1_breaks_0 (by decide +kernel) ?_
  refine lv_istore_n (lv' := [(3, .int (nI (0))), (0, .ref (ad 0)), (1, .int (nI (kk))), (2, .int (nI (ww)))]) hx hb dX1_breaks_1 rfl hl (by decide) rfl (fun ls hl => ?_)
  have key : ∀ (k : Nat) (i : Nat), i ≤ 3 ^ n → 3 ^ n < i + k → (∀ t, t < i → ¬ (K t ∧ rz_fa n t kk ww)) → ∀ (H : Heap) (locs : List Loc) (ls : Array Slot), wk_S A s D (tX cA) (wX ad cA n b bs sa K Q0 wc vv oo) H locs → lv_has ls 6 [(0, .ref (ad 0)), (1, .int (nI (kk))), (2, .int (nI (ww))), (3, .int (nI (i)))] → W p l e R s m args below meth c H locs 0 0 Q (F0 m 2 ls []) := by
    intro k
    induction k with
    | zero => intro i h1 h2 h4; exact absurd h2 (by omega)
    | succ k ih =>
      intro i h1 h2 h4 H locs ls hs hl
      refine lv_iload_n hx hb dX1_breaks_2 rfl (lv_at hl 3 rfl) ?_
      refine lv_aload_n hx hb dX1_breaks_3 rfl (lv_at hl 0 rfl) ?_
      refine xg_clauseCount C hs dX1_breaks_4 ?_
      refine nk_ge (tgt := 82) hx hb (by omega) (by omega) dX1_breaks_7 (by decide) (fun h => ?_) (fun h => ?_)
      · refine lv_iconst (v := 0) hx hb dX1_breaks_82 (by decide +kernel) ?_
        exact hret _ () hs (wk_0 (fun ⟨t, q1, q2, q3⟩ => h4 t (by omega) ⟨q2, q3⟩)) rfl dX1_breaks_83
      · refine lv_aload_n hx hb dX1_breaks_10 rfl (lv_at hl 0 rfl) ?_
        refine xg_kept C hs dX1_breaks_11 ?_
        refine lv_iload_n hx hb dX1_breaks_14 rfl (lv_at hl 3 rfl) ?_
        refine xl_K C hs (by omega) dX1_breaks_15 ?_
        refine bk_if_ne (tgt := 22) hx hb dX1_breaks_16 (by decide) (fun hk => ?_) (fun hk => ?_)
        · refine lv_aload_n hx hb dX1_breaks_22 rfl (lv_at hl 0 rfl) ?_
          refine xg_wantsTrue C hs dX1_breaks_23 ?_
          refine lv_iload_n hx hb dX1_breaks_26 rfl (lv_at hl 3 rfl) ?_
          refine xl_T C hs hn (by omega) dX1_breaks_27 ?_
          refine lv_aload_n hx hb dX1_breaks_28 rfl (lv_at hl 0 rfl) ?_
          refine xg_wantsFalse C hs dX1_breaks_29 ?_
          refine lv_iload_n hx hb dX1_breaks_32 rfl (lv_at hl 3 rfl) ?_
          refine xl_F C hs hn (by omega) dX1_breaks_33 ?_
          refine lv_ior hx hb dX1_breaks_34 ?_
          refine wk_top (v := nI ((rz_T n i) ||| (rz_F n i))) (wk_or _ _) ?_
          refine lv_iload_n hx hb dX1_breaks_35 rfl (lv_at hl 1 rfl) ?_
          refine lv_iconst (v := (-1)) hx hb dX1_breaks_36 (by decide +kernel) ?_
          refine lv_ixor hx hb dX1_breaks_37 ?_
          refine lv_iand hx hb dX1_breaks_38 ?_
          refine wk_top (v := nI (((rz_T n i) ||| (rz_F n i)) &&& ((kk) ^^^ 31))) (wk_andn (rz_TF_lt hn _) _) ?_
          refine lv_istore (lv' := [(4, .int (nI (((rz_T n i) ||| (rz_F n i)) &&& ((kk) ^^^ 31)))), (0, .ref (ad 0)), (1, .int (nI (kk))), (2, .int (nI (ww))), (3, .int (nI (i)))]) hx hb dX1_breaks_39 hl (by decide) rfl (fun ls hl => ?_)
          refine lv_aload_n hx hb dX1_breaks_41 rfl (lv_at hl 1 rfl) ?_
          refine xg_wantsTrue C hs dX1_breaks_42 ?_
          refine lv_iload_n hx hb dX1_breaks_45 rfl (lv_at hl 4 rfl) ?_
          refine xl_T C hs hn (by omega) dX1_breaks_46 ?_
          refine lv_iload_n hx hb dX1_breaks_47 rfl (lv_at hl 3 rfl) ?_
          refine lv_iand hx hb dX1_breaks_48 ?_
          refine wk_top (v := nI ((rz_T n i) &&& (ww))) (wk_and _ _) ?_
          refine lv_aload_n hx hb dX1_breaks_49 rfl (lv_at hl 1 rfl) ?_
          refine xg_wantsFalse C hs dX1_breaks_50 ?_
          refine lv_iload_n hx hb dX1_breaks_53 rfl (lv_at hl 4 rfl) ?_
          refine xl_F C hs hn (by omega) dX1_breaks_54 ?_
          refine lv_iload_n hx hb dX1_breaks_55 rfl (lv_at hl 2 rfl) ?_
          refine lv_iand hx hb dX1_breaks_56 ?_
          refine wk_top (v := nI ((rz_F n i) &&& (kk))) (wk_and _ _) ?_
          refine lv_iload_n hx hb dX1_breaks_57 rfl (lv_at hl 3 rfl) ?_
          refine lv_iconst (v := (-1)) hx hb dX1_breaks_58 (by decide +kernel) ?_
          refine lv_ixor hx hb dX1_breaks_59 ?_
          refine lv_iand hx hb dX1_breaks_60 ?_
          refine wk_top (v := nI (((rz_F n i) &&& (kk)) &&& ((ww) ^^^ 31))) (wk_andn (rz_Fk_lt hn _ _) _) ?_
          refine lv_ior hx hb dX1_breaks_61 ?_
          refine wk_top (v := nI (((rz_T n i) &&& (ww)) ||| (((rz_F n i) &&& (kk)) &&& ((ww) ^^^ 31)))) (wk_or _ _) ?_
          refine lv_istore (lv' := [(5, .int (nI (((rz_T n i) &&& (ww)) ||| (((rz_F n i) &&& (kk)) &&& ((ww) ^^^ 31))))), (4, .int (nI (((rz_T n i) ||| (rz_F n i)) &&& ((kk) ^^^ 31)))), (0, .ref (ad 0)), (1, .int (nI (kk))), (2, .int (nI (ww))), (3, .int (nI (i)))]) hx hb dX1_breaks_62 hl (by decide) rfl (fun ls hl => ?_)
          refine lv_iload hx hb dX1_breaks_64 (lv_at hl 1 rfl) ?_
          refine nk_if_ne (tgt := 76) hx hb (Nat.lt_of_le_of_lt Nat.and_le_left (Nat.lt_trans (rz_TF_lt hn _) (by decide))) dX1_breaks_66 (by decide) (fun h5 => ?_) (fun h5 => ?_)
          · refine lv_iinc (v := nI (i + 1)) (lv' := [(3, .int (nI (i + 1))), (5, .int (nI (((rz_T n i) &&& (ww)) ||| (((rz_F n i) &&& (kk)) &&& ((ww) ^^^ 31))))), (4, .int (nI (((rz_T n i) ||| (rz_F n i)) &&& ((kk) ^^^ 31)))), (0, .ref (ad 0)), (1, .int (nI (kk))), (2, .int (nI (ww)))]) hx hb dX1_breaks_76 hl (k := 5) rfl (nI_add _ 1) (by decide) rfl (fun ls hl => ?_)
            refine lv_goto (tgt := 2) hx hb dX1_breaks_79 (by decide) ?_
            refine ih (i + 1) (by omega) (by omega) (fun t ht => ?_) _ _ _ hs (lv_sub hl [3, 4, 5, 0] rfl)
            by_cases q : t = i
            · rw [q]; exact fun z => h5 z.2.1
            · exact h4 t (by omega)
          · refine lv_iload hx hb dX1_breaks_69 (lv_at hl 0 rfl) ?_
            refine nk_if_ne (tgt := 76) hx hb (Nat.lt_trans (Nat.or_lt_two_pow (n := 5) (Nat.lt_of_le_of_lt Nat.and_le_left (rz_T_lt _ hn)) (Nat.lt_of_le_of_lt Nat.and_le_left (rz_Fk_lt hn _ _))) (by decide)) dX1_breaks_71 (by decide) (fun h6 => ?_) (fun h6 => ?_)
            · refine lv_iinc (v := nI (i + 1)) (lv' := [(3, .int (nI (i + 1))), (5, .int (nI (((rz_T n i) &&& (ww)) ||| (((rz_F n i) &&& (kk)) &&& ((ww) ^^^ 31))))), (4, .int (nI (((rz_T n i) ||| (rz_F n i)) &&& ((kk) ^^^ 31)))), (0, .ref (ad 0)), (1, .int (nI (kk))), (2, .int (nI (ww)))]) hx hb dX1_breaks_76 hl (k := 5) rfl (nI_add _ 1) (by decide) rfl (fun ls hl => ?_)
              refine lv_goto (tgt := 2) hx hb dX1_breaks_79 (by decide) ?_
              refine ih (i + 1) (by omega) (by omega) (fun t ht => ?_) _ _ _ hs (lv_sub hl [3, 4, 5, 0] rfl)
              by_cases q : t = i
              · rw [q]; exact fun z => h6 z.2.2
              · exact h4 t (by omega)
            · refine lv_iconst (v := 1) hx hb dX1_breaks_74 (by decide +kernel) ?_
              exact hret _ () hs (wk_1 ⟨i, h, hk, h5, h6⟩) rfl dX1_breaks_75
        · refine lv_goto (tgt := 76) hx hb dX1_breaks_19 (by decide) ?_
          refine lv_iinc (v := nI (i + 1)) (lv' := [(3, .int (nI (i + 1))), (0, .ref (ad 0)), (1, .int (nI (kk))), (2, .int (nI (ww)))]) hx hb dX1_breaks_76 hl (k := 3) rfl (nI_add _ 1) (by decide) rfl (fun ls hl => ?_)
          refine lv_goto (tgt := 2) hx hb dX1_breaks_79 (by decide) ?_
          refine ih (i + 1) (by omega) (by omega) (fun t ht => ?_) _ _ _ hs (lv_sub hl [1, 2, 3, 0] rfl)
          by_cases q : t = i
          · rw [q]; exact fun z => hk z.1
          · exact h4 t (by omega)
  exact key (3 ^ n + 1) 0 (Nat.zero_le _) (by omega) (fun t ht => absurd ht (Nat.not_lt_zero t)) _ _ _ hs (lv_sub hl [1, 2, 3, 0] rfl)
set_option maxHeartbeats 4000000 in
set_option maxRecDepth 100000 in
theorem m1_numberOf (l : Launch) (D : va_G) (ad : Nat → Nat) (cA : Nat → ClassId) {n : Nat} (hn : n ≤ 5) (b : Nat → Nat) (bs : Nat) (sa : Prop) (K Q0 : Nat → Prop) (wc : Nat) (vv oo : Nat → Nat) {pp qq : Nat} (hp : pp < 32) (hq : qq < 32) : wk_mI l yX1_numberOf cX1_numberOf 5 (some .int) (wk_rm 0 0) D (tX cA) (wX ad cA n b bs sa K Q0 wc vv oo) [.ref (ad 0), .int (nI (pp)), .int (nI (qq))] (S := Unit) (fun r _ => r = nI (rz_nu pp qq n)) (fun _ => wX ad cA n b bs sa K Q0 wc vv oo) := by
  refine wk_mI.goI RX1 (by decide) rfl (Nat.le_of_ble_eq_true rfl) ?_
  intro p e R s m args below meth c A ls Q C hR hs hl hret
  have hl : lv_has ls 5 [(0, .ref (ad 0)), (1, .int (nI (pp))), (2, .int (nI (qq)))] := hl
  have hx := C.1
  have hb := C.2.1
  refine lv_iconst (v := nI (0)) hx hb dX1_numberOf_0 (by decide +kernel) ?_
  refine lv_istore_n (lv' := [(3, .int (nI (0))), (0, .ref (ad 0)), (1, .int (nI (pp))), (2, .int (nI (qq)))]) hx hb dX1_numberOf_1 rfl hl (by decide) rfl (fun ls hl => ?_)
  refine lv_iconst (v := nI (0)) hx hb dX1_numberOf_2 (by decide +kernel) ?_
  refine lv_istore (lv' := [(4, .int (nI (0))), (3, .int (nI (0))), (0, .ref (ad 0)), (1, .int (nI (pp))), (2, .int (nI (qq)))]) hx hb dX1_numberOf_3 hl (by decide) rfl (fun ls hl => ?_)
  have key : ∀ (k : Nat) (v : Nat), v ≤ n → n < v + k → ∀ (H : Heap) (locs : List Loc) (ls : Array Slot), wk_S A s D (tX cA) (wX ad cA n b bs sa K Q0 wc vv oo) H locs → lv_has ls 5 [(0, .ref (ad 0)), (1, .int (nI (pp))), (2, .int (nI (qq))), (3, .int (nI (rz_nu pp qq v))), (4, .int (nI (v)))] → W p l e R s m args below meth c H locs 0 0 Q (F0 m 5 ls []) := by
    intro k
    induction k with
    | zero => intro v h1 h2; exact absurd h2 (by omega)
    | succ k ih =>
      intro v h1 h2 H locs ls hs hl
      refine lv_iload hx hb dX1_numberOf_5 (lv_at hl 4 rfl) ?_
      refine lv_aload_n hx hb dX1_numberOf_7 rfl (lv_at hl 0 rfl) ?_
      refine xg_variableCount C hs dX1_numberOf_8 ?_
      refine nk_ge (tgt := 60) hx hb (by omega) (by omega) dX1_numberOf_11 (by decide) (fun h => ?_) (fun h => ?_)
      · have hv : v = n := by omega
        subst hv
        refine lv_iload_n hx hb dX1_numberOf_60 rfl (lv_at hl 3 rfl) ?_
        exact hret () hs rfl dX1_numberOf_61
      · refine lv_iload_n hx hb dX1_numberOf_14 rfl (lv_at hl 1 rfl) ?_
        refine lv_iload hx hb dX1_numberOf_15 (lv_at hl 4 rfl) ?_
        refine lv_ishr hx hb dX1_numberOf_17 ?_
        refine wk_top (v := nI ((pp) / 2 ^ (v))) (wk_shr (by omega) (by omega)) ?_
        refine lv_iconst (v := nI (1)) hx hb dX1_numberOf_18 (by decide +kernel) ?_
        refine lv_iand hx hb dX1_numberOf_19 ?_
        refine wk_top (v := nI (((pp) / 2 ^ (v)) % 2)) (wk_and1 _) ?_
        refine nk_if_eq (tgt := 33) hx hb (by omega) dX1_numberOf_20 (by decide) (fun h5 => ?_) (fun h5 => ?_)
        · refine lv_iload_n hx hb dX1_numberOf_33 rfl (lv_at hl 2 rfl) ?_
          refine lv_iload hx hb dX1_numberOf_34 (lv_at hl 4 rfl) ?_
          refine lv_ishr hx hb dX1_numberOf_36 ?_
          refine wk_top (v := nI ((qq) / 2 ^ (v))) (wk_shr (by omega) (by omega)) ?_
          refine lv_iconst (v := nI (1)) hx hb dX1_numberOf_37 (by decide +kernel) ?_
          refine lv_iand hx hb dX1_numberOf_38 ?_
          refine wk_top (v := nI (((qq) / 2 ^ (v)) % 2)) (wk_and1 _) ?_
          refine nk_if_eq (tgt := 54) hx hb (by omega) dX1_numberOf_39 (by decide) (fun h6 => ?_) (fun h6 => ?_)
          · refine lv_iinc (v := nI (v + 1)) (lv' := [(4, .int (nI (v + 1))), (0, .ref (ad 0)), (1, .int (nI (pp))), (2, .int (nI (qq))), (3, .int (nI (rz_nu pp qq v)))]) hx hb dX1_numberOf_54 hl (k := 4) rfl (nI_add _ 1) (by decide) rfl (fun ls hl => ?_)
            refine lv_goto (tgt := 5) hx hb dX1_numberOf_57 (by decide) ?_
            have ea : rz_nu pp qq v = rz_nu pp qq (v + 1) := by
              show _ = rz_nu pp qq v + (if pp.testBit v = true then 3 ^ v else 0) + (if qq.testBit v = true then 2 * 3 ^ v else 0)
              rw [show (if pp.testBit v = true then 3 ^ v else 0) = _ from (if_neg (fun z => by have := (rz_bt pp v).mp z; omega)), show (if qq.testBit v = true then 2 * 3 ^ v else 0) = _ from (if_neg (fun z => by have := (rz_bt qq v).mp z; omega))]
              all_goals omega
            rw [ea] at hl
            exact ih (v + 1) (by omega) (by omega) _ _ _ hs (lv_sub hl [1, 2, 3, 4, 0] rfl)
          · refine lv_iload_n hx hb dX1_numberOf_42 rfl (lv_at hl 3 rfl) ?_
            refine lv_iconst (v := nI (2)) hx hb dX1_numberOf_43 (by decide +kernel) ?_
            refine lv_aload_n hx hb dX1_numberOf_44 rfl (lv_at hl 0 rfl) ?_
            refine xg_weight C hs dX1_numberOf_45 ?_
            refine lv_iload hx hb dX1_numberOf_48 (lv_at hl 4 rfl) ?_
            refine xl_W C hs hn (by omega) dX1_numberOf_50 ?_
            refine lv_imul hx hb dX1_numberOf_51 ?_
            refine wk_top (v := nI (2 * (3 ^ v))) (pk_mul _ _) ?_
            refine lv_iadd hx hb dX1_numberOf_52 ?_
            refine wk_top (v := nI (rz_nu pp qq v + 2 * (3 ^ v))) (nI_add _ _) ?_
            refine lv_istore_n (lv' := [(3, .int (nI (rz_nu pp qq v + 2 * (3 ^ v)))), (0, .ref (ad 0)), (1, .int (nI (pp))), (2, .int (nI (qq))), (4, .int (nI (v)))]) hx hb dX1_numberOf_53 rfl hl (by decide) rfl (fun ls hl => ?_)
            refine lv_iinc (v := nI (v + 1)) (lv' := [(4, .int (nI (v + 1))), (3, .int (nI (rz_nu pp qq v + 2 * (3 ^ v)))), (0, .ref (ad 0)), (1, .int (nI (pp))), (2, .int (nI (qq)))]) hx hb dX1_numberOf_54 hl (k := 4) rfl (nI_add _ 1) (by decide) rfl (fun ls hl => ?_)
            refine lv_goto (tgt := 5) hx hb dX1_numberOf_57 (by decide) ?_
            have ea : rz_nu pp qq v + 2 * (3 ^ v) = rz_nu pp qq (v + 1) := by
              show _ = rz_nu pp qq v + (if pp.testBit v = true then 3 ^ v else 0) + (if qq.testBit v = true then 2 * 3 ^ v else 0)
              rw [show (if pp.testBit v = true then 3 ^ v else 0) = _ from (if_neg (fun z => by have := (rz_bt pp v).mp z; omega)), show (if qq.testBit v = true then 2 * 3 ^ v else 0) = _ from (if_pos ((rz_bt qq v).mpr (by omega)))]
              all_goals omega
            rw [ea] at hl
            exact ih (v + 1) (by omega) (by omega) _ _ _ hs (lv_sub hl [2, 3, 4, 1, 0] rfl)
        · refine lv_iload_n hx hb dX1_numberOf_23 rfl (lv_at hl 3 rfl) ?_
          refine lv_aload_n hx hb dX1_numberOf_24 rfl (lv_at hl 0 rfl) ?_
          refine xg_weight C hs dX1_numberOf_25 ?_
          refine lv_iload hx hb dX1_numberOf_28 (lv_at hl 4 rfl) ?_
          refine xl_W C hs hn (by omega) dX1_numberOf_30 ?_
          refine lv_iadd hx hb dX1_numberOf_31 ?_
          refine wk_top (v := nI (rz_nu pp qq v + 3 ^ v)) (nI_add _ _) ?_
          refine lv_istore_n (lv' := [(3, .int (nI (rz_nu pp qq v + 3 ^ v))), (0, .ref (ad 0)), (1, .int (nI (pp))), (2, .int (nI (qq))), (4, .int (nI (v)))]) hx hb dX1_numberOf_32 rfl hl (by decide) rfl (fun ls hl => ?_)
          refine lv_iload_n hx hb dX1_numberOf_33 rfl (lv_at hl 3 rfl) ?_
          refine lv_iload hx hb dX1_numberOf_34 (lv_at hl 4 rfl) ?_
          refine lv_ishr hx hb dX1_numberOf_36 ?_
          refine wk_top (v := nI ((qq) / 2 ^ (v))) (wk_shr (by omega) (by omega)) ?_
          refine lv_iconst (v := nI (1)) hx hb dX1_numberOf_37 (by decide +kernel) ?_
          refine lv_iand hx hb dX1_numberOf_38 ?_
          refine wk_top (v := nI (((qq) / 2 ^ (v)) % 2)) (wk_and1 _) ?_
          refine nk_if_eq (tgt := 54) hx hb (by omega) dX1_numberOf_39 (by decide) (fun h6 => ?_) (fun h6 => ?_)
          · refine lv_iinc (v := nI (v + 1)) (lv' := [(4, .int (nI (v + 1))), (3, .int (nI (rz_nu pp qq v + 3 ^ v))), (0, .ref (ad 0)), (1, .int (nI (pp))), (2, .int (nI (qq)))]) hx hb dX1_numberOf_54 hl (k := 4) rfl (nI_add _ 1) (by decide) rfl (fun ls hl => ?_)
            refine lv_goto (tgt := 5) hx hb dX1_numberOf_57 (by decide) ?_
            have ea : rz_nu pp qq v + 3 ^ v = rz_nu pp qq (v + 1) := by
              show _ = rz_nu pp qq v + (if pp.testBit v = true then 3 ^ v else 0) + (if qq.testBit v = true then 2 * 3 ^ v else 0)
              rw [show (if pp.testBit v = true then 3 ^ v else 0) = _ from (if_pos ((rz_bt pp v).mpr (by omega))), show (if qq.testBit v = true then 2 * 3 ^ v else 0) = _ from (if_neg (fun z => by have := (rz_bt qq v).mp z; omega))]
              all_goals omega
            rw [ea] at hl
            exact ih (v + 1) (by omega) (by omega) _ _ _ hs (lv_sub hl [2, 3, 4, 1, 0] rfl)
          · refine lv_iload_n hx hb dX1_numberOf_42 rfl (lv_at hl 0 rfl) ?_
            refine lv_iconst (v := nI (2)) hx hb dX1_numberOf_43 (by decide +kernel) ?_
            refine lv_aload_n hx hb dX1_numberOf_44 rfl (lv_at hl 1 rfl) ?_
            refine xg_weight C hs dX1_numberOf_45 ?_
            refine lv_iload hx hb dX1_numberOf_48 (lv_at hl 4 rfl) ?_
            refine xl_W C hs hn (by omega) dX1_numberOf_50 ?_
            refine lv_imul hx hb dX1_numberOf_51 ?_
            refine wk_top (v := nI (2 * (3 ^ v))) (pk_mul _ _) ?_
            refine lv_iadd hx hb dX1_numberOf_52 ?_
            refine wk_top (v := nI (rz_nu pp qq v + 3 ^ v + 2 * (3 ^ v))) (nI_add _ _) ?_
            refine lv_istore_n (lv' := [(3, .int (nI (rz_nu pp qq v + 3 ^ v + 2 * (3 ^ v)))), (0, .ref (ad 0)), (1, .int (nI (pp))), (2, .int (nI (qq))), (4, .int (nI (v)))]) hx hb dX1_numberOf_53 rfl hl (by decide) rfl (fun ls hl => ?_)
            refine lv_iinc (v := nI (v + 1)) (lv' := [(4, .int (nI (v + 1))), (3, .int (nI (rz_nu pp qq v + 3 ^ v + 2 * (3 ^ v)))), (0, .ref (ad 0)), (1, .int (nI (pp))), (2, .int (nI (qq)))]) hx hb dX1_numberOf_54 hl (k := 4) rfl (nI_add _ 1) (by decide) rfl (fun ls hl => ?_)
            refine lv_goto (tgt := 5) hx hb dX1_numberOf_57 (by decide) ?_
            have ea : rz_nu pp qq v + 3 ^ v + 2 * (3 ^ v) = rz_nu pp qq (v + 1) := by
              show _ = rz_nu pp qq v + (if pp.testBit v = true then 3 ^ v else 0) + (if qq.testBit v = true then 2 * 3 ^ v else 0)
              rw [show (if pp.testBit v = true then 3 ^ v else 0) = _ from (if_pos ((rz_bt pp v).mpr (by omega))), show (if qq.testBit v = true then 2 * 3 ^ v else 0) = _ from (if_pos ((rz_bt qq v).mpr (by omega)))]
              all_goals omega
            rw [ea] at hl
            exact ih (v + 1) (by omega) (by omega) _ _ _ hs (lv_sub hl [2, 3, 4, 1, 0] rfl)
  exact key (n + 1) 0 (Nat.zero_le _) (by omega) _ _ _ hs (lv_sub hl [2, 3, 4, 1, 0] rfl)
set_option maxHeartbeats 4000000 in
set_option maxRecDepth 100000 in
theorem m1_bitsIn (l : Launch) (D : va_G) (ad : Nat → Nat) (cA : Nat → ClassId) {n : Nat} (hn : n ≤ 5) (b : Nat → Nat) (bs : Nat) (sa : Prop) (K Q0 : Nat → Prop) (wc : Nat) (vv oo : Nat → Nat) {x : Nat} (hx0 : x < 32) : wk_mI l yX1_bitsIn cX1_bitsIn 4 (some .int) (wk_rm 0 0) D (tX cA) (wX ad cA n b bs sa K Q0 wc vv oo) [.ref (ad 0), .int (nI (x))] (S := Unit) (fun r _ => ∃ z, z ≤ 5 ∧ r = nI z) (fun _ => wX ad cA n b bs sa K Q0 wc vv oo) := by
  refine wk_mI.goI RX1 (by decide) rfl (Nat.le_of_ble_eq_true rfl) ?_
  intro p e R s m args below meth c A ls Q C hR hs hl hret
  have hl : lv_has ls 4 [(0, .ref (ad 0)), (1, .int (nI (x)))] := hl
  have hx := C.1
  have hb := C.2.1
  refine lv_iconst (v := nI (0)) hx hb dX1_bitsIn_0 (by decide +kernel) ?_
  refine lv_istore_n (lv' := [(2, .int (nI (0))), (0, .ref (ad 0)), (1, .int (nI (x)))]) hx hb dX1_bitsIn_1 rfl hl (by decide) rfl (fun ls hl => ?_)
  refine lv_iconst (v := nI (0)) hx hb dX1_bitsIn_2 (by decide +kernel) ?_
  refine lv_istore_n (lv' := [(3, .int (nI (0))), (2, .int (nI (0))), (0, .ref (ad 0)), (1, .int (nI (x)))]) hx hb dX1_bitsIn_3 rfl hl (by decide) rfl (fun ls hl => ?_)
  have key : ∀ (k : Nat) (v t : Nat), v ≤ 5 → 5 < v + k → t ≤ v → ∀ (H : Heap) (locs : List Loc) (ls : Array Slot), wk_S A s D (tX cA) (wX ad cA n b bs sa K Q0 wc vv oo) H locs → lv_has ls 4 [(0, .ref (ad 0)), (1, .int (nI (x))), (2, .int (nI (t))), (3, .int (nI (v)))] → W p l e R s m args below meth c H locs 0 0 Q (F0 m 4 ls []) := by
    intro k
    induction k with
    | zero => intro v t h1 h2 h4; exact absurd h2 (by omega)
    | succ k ih =>
      intro v t h1 h2 h4 H locs ls hs hl
      refine lv_iload_n hx hb dX1_bitsIn_4 rfl (lv_at hl 3 rfl) ?_
      refine lv_iconst (v := nI (5)) hx hb dX1_bitsIn_5 (by decide +kernel) ?_
      refine nk_ge (tgt := 23) hx hb (by omega) (by omega) dX1_bitsIn_6 (by decide) (fun h => ?_) (fun h => ?_)
      · refine lv_iload_n hx hb dX1_bitsIn_23 rfl (lv_at hl 2 rfl) ?_
        exact hret () hs ⟨t, by omega, rfl⟩ dX1_bitsIn_24
      · refine lv_iload_n hx hb dX1_bitsIn_9 rfl (lv_at hl 2 rfl) ?_
        refine lv_iload_n hx hb dX1_bitsIn_10 rfl (lv_at hl 1 rfl) ?_
        refine lv_iload_n hx hb dX1_bitsIn_11 rfl (lv_at hl 3 rfl) ?_
        refine lv_ishr hx hb dX1_bitsIn_12 ?_
        refine wk_top (v := nI ((x) / 2 ^ (v))) (wk_shr (by omega) (by omega)) ?_
        refine lv_iconst (v := nI (1)) hx hb dX1_bitsIn_13 (by decide +kernel) ?_
        refine lv_iand hx hb dX1_bitsIn_14 ?_
        refine wk_top (v := nI (((x) / 2 ^ (v)) % 2)) (wk_and1 _) ?_
        refine lv_iadd hx hb dX1_bitsIn_15 ?_
        refine wk_top (v := nI (t + ((x) / 2 ^ (v)) % 2)) (nI_add _ _) ?_
        refine lv_istore_n (lv' := [(2, .int (nI (t + ((x) / 2 ^ (v)) % 2))), (0, .ref (ad 0)), (1, .int (nI (x))), (3, .int (nI (v)))]) hx hb dX1_bitsIn_16 rfl hl (by decide) rfl (fun ls hl => ?_)
        refine lv_iinc (v := nI (v + 1)) (lv' := [(3, .int (nI (v + 1))), (2, .int (nI (t + ((x) / 2 ^ (v)) % 2))), (0, .ref (ad 0)), (1, .int (nI (x)))]) hx hb dX1_bitsIn_17 hl (k := 3) rfl (nI_add _ 1) (by decide) rfl (fun ls hl => ?_)
        refine lv_goto (tgt := 4) hx hb dX1_bitsIn_20 (by decide) ?_
        exact ih (v + 1) _ (by omega) (by omega) (by omega) _ _ _ hs (lv_sub hl [2, 3, 1, 0] rfl)
  exact key 6 0 0 (Nat.zero_le _) (by omega) (Nat.le_refl 0) _ _ _ hs (lv_sub hl [2, 3, 1, 0] rfl)
set_option maxHeartbeats 4000000 in
set_option maxRecDepth 100000 in
theorem m1_clear (l : Launch) (D : va_G) (ad : Nat → Nat) (cA : Nat → ClassId) {n : Nat} (hn : n ≤ 5) (b : Nat → Nat) (bs : Nat) (sa : Prop) (K Q0 : Nat → Prop) (wc : Nat) (vv oo : Nat → Nat) (hK : ∀ x, K x → x < 3 ^ n) : wk_mV l yX1_clearKept cX1_clearKept 2 none (wk_rm 0 0) D (tX cA) (wX ad cA n b bs sa K Q0 wc vv oo) [.ref (ad 0)] (S := Unit) (fun _ => True) (fun _ => wX ad cA n b bs sa (fun _ => False) Q0 wc vv oo) := by
  refine wk_mV.go RX1 (by decide) rfl (Nat.le_of_ble_eq_true rfl) ?_
  intro p e R s m args below meth c A ls Q C hR hs hl hret
  have hl : lv_has ls 2 [(0, .ref (ad 0))] := hl
  have hx := C.1
  have hb := C.2.1
  have h3 := rz_p35 hn
  refine lv_iconst (v := nI (0)) hx hb dX1_clearKept_0 (by decide +kernel) ?_
  refine lv_istore_n (lv' := [(1, .int (nI (0))), (0, .ref (ad 0))]) hx hb dX1_clearKept_1 rfl hl (by decide) rfl (fun ls hl => ?_)
  have key : ∀ (k : Nat) (i : Nat) (K' : Nat → Prop), i ≤ 3 ^ n → 3 ^ n < i + k → (∀ x, K' x ↔ K x ∧ ¬ x < i) → ∀ (H : Heap) (locs : List Loc) (ls : Array Slot), wk_S A s D (tX cA) (wX ad cA n b bs sa (K') Q0 wc vv oo) H locs → lv_has ls 2 [(0, .ref (ad 0)), (1, .int (nI (i)))] → W p l e R s m args below meth c H locs 0 0 Q (F0 m 2 ls []) := by
    intro k
    induction k with
    | zero => intro i K' h1 h2 h4; exact absurd h2 (by omega)
    | succ k ih =>
      intro i K' h1 h2 h4 H locs ls hs hl
      refine lv_iload_n hx hb dX1_clearKept_2 rfl (lv_at hl 1 rfl) ?_
      refine lv_aload_n hx hb dX1_clearKept_3 rfl (lv_at hl 0 rfl) ?_
      refine xg_clauseCount C hs dX1_clearKept_4 ?_
      refine nk_ge (tgt := 23) hx hb (by omega) (by omega) dX1_clearKept_7 (by decide) (fun h => ?_) (fun h => ?_)
      · have e : K' = fun _ => False := funext fun x => propext ⟨fun z => (((h4 x).mp z).2 (by have := hK x ((h4 x).mp z).1; omega)).elim, False.elim⟩
        subst e
        exact hret () hs trivial dX1_clearKept_23
      · refine lv_aload_n hx hb dX1_clearKept_10 rfl (lv_at hl 0 rfl) ?_
        refine xg_kept C hs dX1_clearKept_11 ?_
        refine lv_iload_n hx hb dX1_clearKept_14 rfl (lv_at hl 1 rfl) ?_
        refine lv_iconst (v := rz_b (False)) hx hb dX1_clearKept_15 wk_ofF ?_
        refine xs_K C hs (by omega) dX1_clearKept_16 (fun H locs hs => ?_)
        refine lv_iinc (v := nI (i + 1)) (lv' := [(1, .int (nI (i + 1))), (0, .ref (ad 0))]) hx hb dX1_clearKept_17 hl (k := 1) rfl (nI_add _ 1) (by decide) rfl (fun ls hl => ?_)
        refine lv_goto (tgt := 2) hx hb dX1_clearKept_20 (by decide) ?_
        refine ih (i + 1) _ (by omega) (by omega) (fun x => ?_) _ _ _ hs (lv_sub hl [1, 0] rfl)
        unfold rz_uq
        have h5 := h4 x
        constructor
        · rintro (z | z)
          · exact z.2.elim
          · exact ⟨(h5.mp z.2).1, by have := (h5.mp z.2).2; have := z.1; omega⟩
        · exact fun z => Or.inr ⟨by have := z.2; omega, h5.mpr ⟨z.1, by have := z.2; omega⟩⟩
  exact key (3 ^ n + 1) 0 K (Nat.zero_le _) (by omega) (fun x => ⟨fun z => ⟨z, Nat.not_lt_zero x⟩, And.left⟩) _ _ _ hs (lv_sub hl [1, 0] rfl)
end
end
section
/-! OrderedResolver: enqueue, nextWaiting, dropWider, resolveWithKept, takeIn, saturate -/
section
theorem rz_lo_sub {n x : Nat} {K : Nat → Prop} {r : Int32} (hn : n ≤ 5) (hK : ∀ c, K c → c < 3 ^ n) (hx : x < 3 ^ n) (h : rz_lo (x + 1) (fun d => K d ∧ rz_W n d x) r) : r < 0 ↔ ¬ rz_sub n K x := by
  have h3 := rz_p35 hn
  rw [wk_lo0 (by omega) h]
  refine not_congr ⟨fun ⟨d, _, k, w⟩ => ⟨d, k, w⟩, fun ⟨d, k, w⟩ => ⟨d, ?_, k, w⟩⟩
  have := rz_W_le (hK d k) hx w
  omega
theorem rz_uq_F (K : Nat → Prop) (g : Nat) : rz_uq K g False = fun c => K c ∧ c ≠ g := funext fun c => propext ⟨fun h => h.elim (fun z => z.2.elim) (fun z => ⟨z.2, z.1⟩), fun h => Or.inr ⟨h.2, h.1⟩⟩
theorem rz_uq_T (K : Nat → Prop) (g : Nat) : rz_uq K g True = fun c => K c ∨ c = g := funext fun c => propext ⟨fun h => h.elim (fun z => Or.inr z.1) (fun z => Or.inl z.2), fun h => by
  by_cases e : c = g
  · exact Or.inl ⟨e, trivial⟩
  · exact Or.inr ⟨e, h.elim id (fun z => absurd z e)⟩⟩
theorem rz_none {N : Nat} {Q : Nat → Prop} (hQ : ∀ c, Q c → c < N) (h : rz_cn Q N = 0) : Q = fun _ => False := funext fun c => propext ⟨fun z => rz_cn_zero h c (hQ c z) z, False.elim⟩
theorem rz_no (N : Nat) : rz_cn (fun _ => False) N = 0 := rz_cn_none (fun _ _ h => h)
set_option maxHeartbeats 4000000 in
set_option maxRecDepth 100000 in
theorem m1_enqueue (l : Launch) (D : va_G) (ad : Nat → Nat) (cA : Nat → ClassId) {n : Nat} (hn : n ≤ 5) (b : Nat → Nat) (bs : Nat) (sa : Prop) (K Q0 : Nat → Prop) (wc : Nat) (vv oo : Nat → Nat) (hK : ∀ c, K c → c < 3 ^ n) (hw : wc = rz_cn Q0 (3 ^ n)) {x : Nat} (hx0 : x < 3 ^ n) : wk_mV l yX1_enqueue cX1_enqueue 2 none (wk_rm 2 44) D (tX cA) (wX ad cA n b bs sa K Q0 wc vv oo) [.ref (ad 0), .int (nI (x))] (S := (Nat → Prop) × Nat) (fun u => (∀ c, u.1 c ↔ Q0 c ∨ (c = x ∧ ¬ rz_sub n K x)) ∧ u.2 = rz_cn u.1 (3 ^ n)) (fun u => wX ad cA n b bs sa K (u.1) (u.2) vv oo) := by
  refine wk_mV.go RX1 (by decide) rfl (Nat.le_of_ble_eq_true rfl) ?_
  intro p e R s m args below meth c A ls Q C hR hs hl hret
  have hl : lv_has ls 2 [(0, .ref (ad 0)), (1, .int (nI (x)))] := hl
  have hx := C.1
  have hb := C.2.1
  have h3 := rz_p35 hn
  refine lv_aload_n hx hb dX1_enqueue_0 rfl (lv_at hl 0 rfl) ?_
  refine xg_waiting C hs dX1_enqueue_1 ?_
  refine lv_iload_n hx hb dX1_enqueue_4 rfl (lv_at hl 1 rfl) ?_
  refine xl_Q C hs (by omega) dX1_enqueue_5 ?_
  refine bk_if_ne (tgt := 17) hx hb dX1_enqueue_6 (by decide) (fun h => ?_) (fun h => ?_)
  · exact hret (Q0, wc) hs ⟨fun c => ⟨Or.inl, fun z => z.elim id (fun y => by rw [y.1]; exact h)⟩, hw⟩ dX1_enqueue_17
  · refine lv_aload_n hx hb dX1_enqueue_9 rfl (lv_at hl 0 rfl) ?_
    refine lv_iload_n hx hb dX1_enqueue_10 rfl (lv_at hl 1 rfl) ?_
    refine wk_calli (As := [.int (nI (x))]) (rest := []) (q0 := 0) C hs (m1_lowest l D ad cA hn b bs sa K Q0 wc vv oo hx0) (cwX1_X1_lowestKeptWithin C.2.2.2.2.2.1 (hR.le (by decide) (by decide))) rfl rfl rfl hl.1 rfl (Nat.le_of_ble_eq_true rfl) dX1_enqueue_11 ⟨Nat.zero_le _, Nat.zero_le _⟩ (fun r u H locs hq hs => ?_)
    have hq := rz_lo_sub hn hK hx0 hq
    refine lv_if_lt (tgt := 18) hx hb dX1_enqueue_14 (by decide) (fun h5 => ?_) (fun h5 => ?_)
    · refine lv_aload_n hx hb dX1_enqueue_18 rfl (lv_at hl 0 rfl) ?_
      refine xg_waiting C hs dX1_enqueue_19 ?_
      refine lv_iload_n hx hb dX1_enqueue_22 rfl (lv_at hl 1 rfl) ?_
      refine lv_iconst (v := rz_b (True)) hx hb dX1_enqueue_23 wk_ofT ?_
      refine xs_Q C hs (by omega) dX1_enqueue_24 (fun H locs hs => ?_)
      refine lv_aload_n hx hb dX1_enqueue_25 rfl (lv_at hl 0 rfl) ?_
      refine lv_dup hx hb dX1_enqueue_26 rfl ?_
      refine xg_waitingCount C hs dX1_enqueue_27 ?_
      refine lv_iconst (v := nI (1)) hx hb dX1_enqueue_30 (by decide +kernel) ?_
      refine lv_iadd hx hb dX1_enqueue_31 ?_
      refine wk_top (v := nI (wc + 1)) (nI_add _ _) ?_
      refine xp_waitingCount C hs dX1_enqueue_32 (fun H locs hs => ?_)
      rw [rz_uq_T] at hs
      exact hret (_, wc + 1) hs ⟨fun c => ⟨fun z => z.imp id (fun y => ⟨y, hq.mp h5⟩), fun z => z.imp id And.left⟩, by rw [rz_cn_ins hx0 h, hw]⟩ dX1_enqueue_35
    · exact hret (Q0, wc) hs ⟨fun c => ⟨Or.inl, fun z => z.elim id (fun y => absurd (hq.mpr y.2) h5)⟩, hw⟩ dX1_enqueue_17
set_option maxHeartbeats 4000000 in
set_option maxRecDepth 100000 in
theorem m1_next (l : Launch) (D : va_G) (ad : Nat → Nat) (cA : Nat → ClassId) {n : Nat} (hn : n ≤ 5) (b : Nat → Nat) (bs : Nat) (sa : Prop) (K Q0 : Nat → Prop) (wc : Nat) (vv oo : Nat → Nat) (hQ : ∃ c, c < 3 ^ n ∧ Q0 c) : wk_mI l yX1_nextWaiting cX1_nextWaiting 5 (some .int) (wk_rm 1 23) D (tX cA) (wX ad cA n b bs sa K Q0 wc vv oo) [.ref (ad 0)] (S := Unit) (fun r _ => ∃ g, g < 3 ^ n ∧ Q0 g ∧ r = nI g) (fun _ => wX ad cA n b bs sa K Q0 wc vv oo) := by
  refine wk_mI.goI RX1 (by decide) rfl (Nat.le_of_ble_eq_true rfl) ?_
  intro p e R s m args below meth c A ls Q C hR hs hl hret
  have hl : lv_has ls 5 [(0, .ref (ad 0))] := hl
  have hx := C.1
  have hb := C.2.1
  have h3 := rz_p35 hn
  refine lv_iconst (v := (-1)) hx hb dX1_nextWaiting_0 (by decide +kernel) ?_
  refine lv_istore_n (lv' := [(1, .int ((-1))), (0, .ref (ad 0))]) hx hb dX1_nextWaiting_1 rfl hl (by decide) rfl (fun ls hl => ?_)
  refine lv_bipush (v := nI (6)) hx hb dX1_nextWaiting_2 (by decide +kernel) ?_
  refine lv_istore_n (lv' := [(2, .int (nI (6))), (1, .int ((-1))), (0, .ref (ad 0))]) hx hb dX1_nextWaiting_4 rfl hl (by decide) rfl (fun ls hl => ?_)
  refine lv_iconst (v := nI (0)) hx hb dX1_nextWaiting_5 (by decide +kernel) ?_
  refine lv_istore_n (lv' := [(3, .int (nI (0))), (2, .int (nI (6))), (1, .int ((-1))), (0, .ref (ad 0))]) hx hb dX1_nextWaiting_6 rfl hl (by decide) rfl (fun ls hl => ?_)
  have key : ∀ (k : Nat) (i fw : Nat) (bt : Int32), i ≤ 3 ^ n → 3 ^ n < i + k → ((fw = 6 ∧ ∀ t, t < i → ¬ Q0 t) ∨ (fw ≤ 5 ∧ ∃ g, g < 3 ^ n ∧ Q0 g ∧ bt = nI g)) → ∀ (H : Heap) (locs : List Loc) (ls : Array Slot), wk_S A s D (tX cA) (wX ad cA n b bs sa K Q0 wc vv oo) H locs → lv_has ls 5 [(0, .ref (ad 0)), (1, .int (bt)), (2, .int (nI (fw))), (3, .int (nI (i)))] → W p l e R s m args below meth c H locs 0 0 Q (F0 m 7 ls []) := by
    intro k
    induction k with
    | zero => intro i fw bt h1 h2 h4; exact absurd h2 (by omega)
    | succ k ih =>
      intro i fw bt h1 h2 h4 H locs ls hs hl
      have hfw : fw ≤ 6 := by rcases h4 with q | q <;> omega
      refine lv_iload_n hx hb dX1_nextWaiting_7 rfl (lv_at hl 3 rfl) ?_
      refine lv_aload_n hx hb dX1_nextWaiting_8 rfl (lv_at hl 0 rfl) ?_
      refine xg_clauseCount C hs dX1_nextWaiting_9 ?_
      refine nk_ge (tgt := 63) hx hb (by omega) (by omega) dX1_nextWaiting_12 (by decide) (fun h => ?_) (fun h => ?_)
      · refine lv_iload_n hx hb dX1_nextWaiting_63 rfl (lv_at hl 1 rfl) ?_
        rcases h4 with q | ⟨-, g, q1, q2, q3⟩
        · obtain ⟨c0, q1, q2⟩ := hQ
          exact absurd q2 (q.2 c0 (by omega))
        · exact hret () hs ⟨g, q1, q2, q3⟩ dX1_nextWaiting_64
      · refine lv_aload_n hx hb dX1_nextWaiting_15 rfl (lv_at hl 0 rfl) ?_
        refine xg_waiting C hs dX1_nextWaiting_16 ?_
        refine lv_iload_n hx hb dX1_nextWaiting_19 rfl (lv_at hl 3 rfl) ?_
        refine xl_Q C hs (by omega) dX1_nextWaiting_20 ?_
        refine bk_if_ne (tgt := 27) hx hb dX1_nextWaiting_21 (by decide) (fun hk => ?_) (fun hk => ?_)
        · refine lv_aload_n hx hb dX1_nextWaiting_27 rfl (lv_at hl 0 rfl) ?_
          refine lv_aload_n hx hb dX1_nextWaiting_28 rfl (lv_at hl 0 rfl) ?_
          refine xg_wantsTrue C hs dX1_nextWaiting_29 ?_
          refine lv_iload_n hx hb dX1_nextWaiting_32 rfl (lv_at hl 3 rfl) ?_
          refine xl_T C hs hn (by omega) dX1_nextWaiting_33 ?_
          refine lv_aload_n hx hb dX1_nextWaiting_34 rfl (lv_at hl 0 rfl) ?_
          refine xg_wantsFalse C hs dX1_nextWaiting_35 ?_
          refine lv_iload_n hx hb dX1_nextWaiting_38 rfl (lv_at hl 3 rfl) ?_
          refine xl_F C hs hn (by omega) dX1_nextWaiting_39 ?_
          refine lv_ior hx hb dX1_nextWaiting_40 ?_
          refine wk_top (v := nI ((rz_T n i) ||| (rz_F n i))) (wk_or _ _) ?_
          refine wk_calli (As := [.int (nI ((rz_T n i) ||| (rz_F n i)))]) (rest := []) (q0 := 0) C hs (m1_bitsIn l D ad cA hn b bs sa K Q0 wc vv oo (rz_TF_lt hn i)) (cwX1_X1_bitsIn C.2.2.2.2.2.1 (hR.le (by decide) (by decide))) rfl rfl rfl hl.1 rfl (Nat.le_of_ble_eq_true rfl) dX1_nextWaiting_41 ⟨Nat.zero_le _, Nat.zero_le _⟩ (fun r u H locs hq hs => ?_)
          obtain ⟨z, hz, rfl⟩ := hq
          refine lv_istore (lv' := [(4, .int (nI (z))), (0, .ref (ad 0)), (1, .int (bt)), (2, .int (nI (fw))), (3, .int (nI (i)))]) hx hb dX1_nextWaiting_44 hl (by decide) rfl (fun ls hl => ?_)
          refine lv_iload hx hb dX1_nextWaiting_46 (lv_at hl 0 rfl) ?_
          refine lv_iload_n hx hb dX1_nextWaiting_48 rfl (lv_at hl 3 rfl) ?_
          refine nk_ge (tgt := 57) hx hb (by omega) (by omega) dX1_nextWaiting_49 (by decide) (fun h5 => ?_) (fun h5 => ?_)
          · refine lv_iinc (v := nI (i + 1)) (lv' := [(3, .int (nI (i + 1))), (4, .int (nI (z))), (0, .ref (ad 0)), (1, .int (bt)), (2, .int (nI (fw)))]) hx hb dX1_nextWaiting_57 hl (k := 4) rfl (nI_add _ 1) (by decide) rfl (fun ls hl => ?_)
            refine lv_goto (tgt := 7) hx hb dX1_nextWaiting_60 (by decide) ?_
            refine ih (i + 1) fw bt (by omega) (by omega) (Or.inr ?_) _ _ _ hs (lv_sub hl [2, 3, 4, 0] rfl)
            rcases h4 with q | q
            · omega
            · exact q
          · refine lv_iload hx hb dX1_nextWaiting_52 (lv_at hl 0 rfl) ?_
            refine lv_istore_n (lv' := [(2, .int (nI (z))), (4, .int (nI (z))), (0, .ref (ad 0)), (1, .int (bt)), (3, .int (nI (i)))]) hx hb dX1_nextWaiting_54 rfl hl (by decide) rfl (fun ls hl => ?_)
            refine lv_iload_n hx hb dX1_nextWaiting_55 rfl (lv_at hl 4 rfl) ?_
            refine lv_istore_n (lv' := [(1, .int (nI (i))), (2, .int (nI (z))), (4, .int (nI (z))), (0, .ref (ad 0)), (3, .int (nI (i)))]) hx hb dX1_nextWaiting_56 rfl hl (by decide) rfl (fun ls hl => ?_)
            refine lv_iinc (v := nI (i + 1)) (lv' := [(3, .int (nI (i + 1))), (1, .int (nI (i))), (2, .int (nI (z))), (4, .int (nI (z))), (0, .ref (ad 0))]) hx hb dX1_nextWaiting_57 hl (k := 4) rfl (nI_add _ 1) (by decide) rfl (fun ls hl => ?_)
            refine lv_goto (tgt := 7) hx hb dX1_nextWaiting_60 (by decide) ?_
            exact ih (i + 1) z (nI i) (by omega) (by omega) (Or.inr ⟨hz, i, h, hk, rfl⟩) _ _ _ hs (lv_sub hl [4, 1, 2, 0] rfl)
        · refine lv_goto (tgt := 57) hx hb dX1_nextWaiting_24 (by decide) ?_
          refine lv_iinc (v := nI (i + 1)) (lv' := [(3, .int (nI (i + 1))), (0, .ref (ad 0)), (1, .int (bt)), (2, .int (nI (fw)))]) hx hb dX1_nextWaiting_57 hl (k := 3) rfl (nI_add _ 1) (by decide) rfl (fun ls hl => ?_)
          refine lv_goto (tgt := 7) hx hb dX1_nextWaiting_60 (by decide) ?_
          refine ih (i + 1) fw bt (by omega) (by omega) (h4.imp (fun q => ⟨q.1, fun t ht => ?_⟩) id) _ _ _ hs (lv_sub hl [1, 2, 3, 0] rfl)
          by_cases z : t = i
          · rw [z]; exact hk
          · exact q.2 t (by omega)
  exact key (3 ^ n + 1) 0 6 (-1) (Nat.zero_le _) (by omega) (Or.inl ⟨rfl, fun t ht => absurd ht (Nat.not_lt_zero t)⟩) _ _ _ hs (lv_sub hl [3, 2, 1, 0] rfl)
set_option maxHeartbeats 4000000 in
set_option maxRecDepth 100000 in
theorem m1_drop (l : Launch) (D : va_G) (ad : Nat → Nat) (cA : Nat → ClassId) {n : Nat} (hn : n ≤ 5) (b : Nat → Nat) (bs : Nat) (sa : Prop) (K Q0 : Nat → Prop) (wc : Nat) (vv oo : Nat → Nat) (hK : ∀ c, K c → c < 3 ^ n) {g : Nat} (hg0 : g < 3 ^ n) (hg : ¬ K g) : wk_mV l yX1_dropWider cX1_dropWider 3 none (wk_rm 1 22) D (tX cA) (wX ad cA n b bs sa K Q0 wc vv oo) [.ref (ad 0), .int (nI (g))] (S := Unit) (fun _ => True) (fun _ => wX ad cA n b bs sa (fun x => K x ∧ ¬ rz_W n g x) Q0 wc vv oo) := by
  refine wk_mV.go RX1 (by decide) rfl (Nat.le_of_ble_eq_true rfl) ?_
  intro p e R s m args below meth c A ls Q C hR hs hl hret
  have hl : lv_has ls 3 [(0, .ref (ad 0)), (1, .int (nI (g)))] := hl
  have hx := C.1
  have hb := C.2.1
  have h3 := rz_p35 hn
  refine lv_iload_n hx hb dX1_dropWider_0 rfl (lv_at hl 1 rfl) ?_
  refine lv_iconst (v := nI (1)) hx hb dX1_dropWider_1 (by decide +kernel) ?_
  refine lv_iadd hx hb dX1_dropWider_2 ?_
  refine wk_top (v := nI (g + 1)) (nI_add _ _) ?_
  refine lv_istore_n (lv' := [(2, .int (nI (g + 1))), (0, .ref (ad 0)), (1, .int (nI (g)))]) hx hb dX1_dropWider_3 rfl hl (by decide) rfl (fun ls hl => ?_)
  have key : ∀ (k : Nat) (i : Nat) (K' : Nat → Prop), i ≤ 3 ^ n → 3 ^ n < i + k → (∀ x, K' x ↔ K x ∧ ¬ (x < i ∧ rz_W n g x)) → ∀ (H : Heap) (locs : List Loc) (ls : Array Slot), wk_S A s D (tX cA) (wX ad cA n b bs sa (K') Q0 wc vv oo) H locs → lv_has ls 3 [(0, .ref (ad 0)), (1, .int (nI (g))), (2, .int (nI (i)))] → W p l e R s m args below meth c H locs 0 0 Q (F0 m 4 ls []) := by
    intro k
    induction k with
    | zero => intro i K' h1 h2 h4; exact absurd h2 (by omega)
    | succ k ih =>
      intro i K' h1 h2 h4 H locs ls hs hl
      refine lv_iload_n hx hb dX1_dropWider_4 rfl (lv_at hl 2 rfl) ?_
      refine lv_aload_n hx hb dX1_dropWider_5 rfl (lv_at hl 0 rfl) ?_
      refine xg_clauseCount C hs dX1_dropWider_6 ?_
      refine nk_ge (tgt := 43) hx hb (by omega) (by omega) dX1_dropWider_9 (by decide) (fun h => ?_) (fun h => ?_)
      · have e : K' = fun x => K x ∧ ¬ rz_W n g x := funext fun x => propext ⟨fun z => ⟨((h4 x).mp z).1, fun y => ((h4 x).mp z).2 ⟨by have := hK x ((h4 x).mp z).1; omega, y⟩⟩, fun z => (h4 x).mpr ⟨z.1, fun y => z.2 y.2⟩⟩
        subst e
        exact hret () hs trivial dX1_dropWider_43
      · refine lv_aload_n hx hb dX1_dropWider_12 rfl (lv_at hl 0 rfl) ?_
        refine xg_kept C hs dX1_dropWider_13 ?_
        refine lv_iload_n hx hb dX1_dropWider_16 rfl (lv_at hl 2 rfl) ?_
        refine xl_K C hs (by omega) dX1_dropWider_17 ?_
        refine bk_if_eq (tgt := 37) hx hb dX1_dropWider_18 (by decide) (fun hk => ?_) (fun hk => ?_)
        · refine lv_iinc (v := nI (i + 1)) (lv' := [(2, .int (nI (i + 1))), (0, .ref (ad 0)), (1, .int (nI (g)))]) hx hb dX1_dropWider_37 hl (k := 2) rfl (nI_add _ 1) (by decide) rfl (fun ls hl => ?_)
          refine lv_goto (tgt := 4) hx hb dX1_dropWider_40 (by decide) ?_
          refine ih (i + 1) _ (by omega) (by omega) (fun x => ?_) _ _ _ hs (lv_sub hl [1, 2, 0] rfl)
          rw [h4 x]
          constructor
          · refine fun z => ⟨z.1, fun y => ?_⟩
            by_cases e : x = i
            · exact hk ((h4 i).mpr (e ▸ z))
            · exact z.2 ⟨by have := y.1; omega, y.2⟩
          · exact fun z => ⟨z.1, fun y => z.2 ⟨by have := y.1; omega, y.2⟩⟩
        · refine lv_aload_n hx hb dX1_dropWider_21 rfl (lv_at hl 0 rfl) ?_
          refine lv_iload_n hx hb dX1_dropWider_22 rfl (lv_at hl 1 rfl) ?_
          refine lv_iload_n hx hb dX1_dropWider_23 rfl (lv_at hl 2 rfl) ?_
          refine wk_calli (As := [.int (nI (g)), .int (nI (i))]) (rest := []) (q0 := 0) C hs (m1_within l D ad cA hn b bs sa K' Q0 wc vv oo hg0 h) (cwX1_X1_within C.2.2.2.2.2.1 (hR.le (by decide) (by decide))) rfl rfl rfl hl.1 rfl (Nat.le_of_ble_eq_true rfl) dX1_dropWider_24 ⟨Nat.zero_le _, Nat.zero_le _⟩ (fun r u H locs hq hs => ?_)
          obtain rfl := hq
          refine bk_if_eq (tgt := 37) hx hb dX1_dropWider_27 (by decide) (fun hw => ?_) (fun hw => ?_)
          · refine lv_iinc (v := nI (i + 1)) (lv' := [(2, .int (nI (i + 1))), (0, .ref (ad 0)), (1, .int (nI (g)))]) hx hb dX1_dropWider_37 hl (k := 2) rfl (nI_add _ 1) (by decide) rfl (fun ls hl => ?_)
            refine lv_goto (tgt := 4) hx hb dX1_dropWider_40 (by decide) ?_
            refine ih (i + 1) _ (by omega) (by omega) (fun x => ?_) _ _ _ hs (lv_sub hl [1, 2, 0] rfl)
            rw [h4 x]
            constructor
            · refine fun z => ⟨z.1, fun y => ?_⟩
              by_cases e : x = i
              · exact hw (e ▸ y.2)
              · exact z.2 ⟨by have := y.1; omega, y.2⟩
            · exact fun z => ⟨z.1, fun y => z.2 ⟨by have := y.1; omega, y.2⟩⟩
          · refine lv_aload_n hx hb dX1_dropWider_30 rfl (lv_at hl 0 rfl) ?_
            refine xg_kept C hs dX1_dropWider_31 ?_
            refine lv_iload_n hx hb dX1_dropWider_34 rfl (lv_at hl 2 rfl) ?_
            refine lv_iconst (v := rz_b (False)) hx hb dX1_dropWider_35 wk_ofF ?_
            refine xs_K C hs (by omega) dX1_dropWider_36 (fun H locs hs => ?_)
            rw [rz_uq_F] at hs
            refine lv_iinc (v := nI (i + 1)) (lv' := [(2, .int (nI (i + 1))), (0, .ref (ad 0)), (1, .int (nI (g)))]) hx hb dX1_dropWider_37 hl (k := 2) rfl (nI_add _ 1) (by decide) rfl (fun ls hl => ?_)
            refine lv_goto (tgt := 4) hx hb dX1_dropWider_40 (by decide) ?_
            refine ih (i + 1) _ (by omega) (by omega) (fun x => ?_) _ _ _ hs (lv_sub hl [1, 2, 0] rfl)
            rw [h4 x]
            constructor
            · refine fun z => ⟨z.1.1, fun y => ?_⟩
              exact z.1.2 ⟨by have := z.2; have := y.1; omega, y.2⟩
            · refine fun z => ⟨⟨z.1, fun y => z.2 ⟨by have := y.1; omega, y.2⟩⟩, fun e => z.2 ⟨by omega, ?_⟩⟩
              rw [e]; exact hw
  refine key (3 ^ n + 1) (g + 1) K (by omega) (by omega) (fun x => ⟨fun z => ⟨z, fun y => ?_⟩, And.left⟩) _ _ _ hs (lv_sub hl [1, 2, 0] rfl)
  have q1 := rz_W_le hg0 (hK x z) y.2
  have q2 : x = g := by omega
  exact hg (q2 ▸ z)
set_option maxHeartbeats 4000000 in
set_option maxRecDepth 100000 in
theorem m1_resolve (l : Launch) (D : va_G) (ad : Nat → Nat) (cA : Nat → ClassId) {n : Nat} (hn : n ≤ 5) (b : Nat → Nat) (bs : Nat) (sa : Prop) (K Q0 : Nat → Prop) (wc : Nat) (vv oo : Nat → Nat) (hK : ∀ c, K c → c < 3 ^ n) (hw : wc = rz_cn Q0 (3 ^ n)) {g : Nat} (hg0 : g < 3 ^ n) : wk_mV l yX1_resolveWithKept cX1_resolveWithKept 7 none (wk_rm 3 65) D (tX cA) (wX ad cA n b bs sa K Q0 wc vv oo) [.ref (ad 0), .int (nI (g))] (S := (Nat → Prop) × Nat) (fun u => rz_RW n K Q0 u.1 g ∧ u.2 = rz_cn u.1 (3 ^ n)) (fun u => wX ad cA n b bs sa K (u.1) (u.2) vv oo) := by
  refine wk_mV.go RX1 (by decide) rfl (Nat.le_of_ble_eq_true rfl) ?_
  intro p e R s m args below meth c A ls Q C hR hs hl hret
  have hl : lv_has ls 7 [(0, .ref (ad 0)), (1, .int (nI (g)))] := hl
  have hx := C.1
  have hb := C.2.1
  have h3 := rz_p35 hn
  refine lv_iconst (v := nI (0)) hx hb dX1_resolveWithKept_0 (by decide +kernel) ?_
  refine lv_istore_n (lv' := [(2, .int (nI (0))), (0, .ref (ad 0)), (1, .int (nI (g)))]) hx hb dX1_resolveWithKept_1 rfl hl (by decide) rfl (fun ls hl => ?_)
  have key : ∀ (k : Nat) (i : Nat) (Q1 : Nat → Prop) (w1 : Nat), i ≤ 3 ^ n → 3 ^ n < i + k → (∀ x, Q0 x → Q1 x) → (∀ x, Q1 x → Q0 x ∨ (¬ rz_sub n K x ∧ ∃ k, K k ∧ rz_R n g k ∧ x = rz_rs n g k)) → (∀ x, x < i → K x → rz_R n g x → Q1 (rz_rs n g x) ∨ rz_sub n K (rz_rs n g x)) → w1 = rz_cn Q1 (3 ^ n) → ∀ (H : Heap) (locs : List Loc) (ls : Array Slot), wk_S A s D (tX cA) (wX ad cA n b bs sa K Q1 w1 vv oo) H locs → lv_has ls 7 [(0, .ref (ad 0)), (1, .int (nI (g))), (2, .int (nI (i)))] → W p l e R s m args below meth c H locs 0 0 Q (F0 m 2 ls []) := by
    intro k
    induction k with
    | zero => intro i Q1 w1 h1 h2 i1 i2 i3 i4; exact absurd h2 (by omega)
    | succ k ih =>
      intro i Q1 w1 h1 h2 i1 i2 i3 i4 H locs ls hs hl
      refine lv_iload_n hx hb dX1_resolveWithKept_2 rfl (lv_at hl 2 rfl) ?_
      refine lv_aload_n hx hb dX1_resolveWithKept_3 rfl (lv_at hl 0 rfl) ?_
      refine xg_clauseCount C hs dX1_resolveWithKept_4 ?_
      refine nk_ge (tgt := 125) hx hb (by omega) (by omega) dX1_resolveWithKept_7 (by decide) (fun h => ?_) (fun h => ?_)
      · exact hret (Q1, w1) hs ⟨⟨i1, i2, fun x hk hr => i3 x (by have := hK x hk; omega) hk hr⟩, i4⟩ dX1_resolveWithKept_125
      · refine lv_aload_n hx hb dX1_resolveWithKept_10 rfl (lv_at hl 0 rfl) ?_
        refine xg_kept C hs dX1_resolveWithKept_11 ?_
        refine lv_iload_n hx hb dX1_resolveWithKept_14 rfl (lv_at hl 2 rfl) ?_
        refine xl_K C hs (by omega) dX1_resolveWithKept_15 ?_
        refine bk_if_ne (tgt := 22) hx hb dX1_resolveWithKept_16 (by decide) (fun hk => ?_) (fun hk => ?_)
        · refine lv_aload_n hx hb dX1_resolveWithKept_22 rfl (lv_at hl 0 rfl) ?_
          refine xg_wantsTrue C hs dX1_resolveWithKept_23 ?_
          refine lv_iload_n hx hb dX1_resolveWithKept_26 rfl (lv_at hl 1 rfl) ?_
          refine xl_T C hs hn hg0 dX1_resolveWithKept_27 ?_
          refine lv_aload_n hx hb dX1_resolveWithKept_28 rfl (lv_at hl 0 rfl) ?_
          refine xg_wantsFalse C hs dX1_resolveWithKept_29 ?_
          refine lv_iload_n hx hb dX1_resolveWithKept_32 rfl (lv_at hl 2 rfl) ?_
          refine xl_F C hs hn h dX1_resolveWithKept_33 ?_
          refine lv_iand hx hb dX1_resolveWithKept_34 ?_
          refine wk_top (v := nI ((rz_T n g) &&& (rz_F n i))) (wk_and _ _) ?_
          refine lv_aload_n hx hb dX1_resolveWithKept_35 rfl (lv_at hl 0 rfl) ?_
          refine xg_wantsFalse C hs dX1_resolveWithKept_36 ?_
          refine lv_iload_n hx hb dX1_resolveWithKept_39 rfl (lv_at hl 1 rfl) ?_
          refine xl_F C hs hn hg0 dX1_resolveWithKept_40 ?_
          refine lv_aload_n hx hb dX1_resolveWithKept_41 rfl (lv_at hl 0 rfl) ?_
          refine xg_wantsTrue C hs dX1_resolveWithKept_42 ?_
          refine lv_iload_n hx hb dX1_resolveWithKept_45 rfl (lv_at hl 2 rfl) ?_
          refine xl_T C hs hn h dX1_resolveWithKept_46 ?_
          refine lv_iand hx hb dX1_resolveWithKept_47 ?_
          refine wk_top (v := nI ((rz_F n g) &&& (rz_T n i))) (wk_and _ _) ?_
          refine lv_ior hx hb dX1_resolveWithKept_48 ?_
          refine wk_top (v := nI (rz_cl n g i)) (wk_or _ _) ?_
          refine lv_istore_n (lv' := [(3, .int (nI (rz_cl n g i))), (0, .ref (ad 0)), (1, .int (nI (g))), (2, .int (nI (i)))]) hx hb dX1_resolveWithKept_49 rfl hl (by decide) rfl (fun ls hl => ?_)
          refine lv_iload_n hx hb dX1_resolveWithKept_50 rfl (lv_at hl 0 rfl) ?_
          refine nk_if_eq (tgt := 119) hx hb (Nat.lt_trans (rz_cl_lt hn _ _) (by decide)) dX1_resolveWithKept_51 (by decide) (fun h5 => ?_) (fun h5 => ?_)
          · refine lv_iinc (v := nI (i + 1)) (lv' := [(2, .int (nI (i + 1))), (3, .int (nI (rz_cl n g i))), (0, .ref (ad 0)), (1, .int (nI (g)))]) hx hb dX1_resolveWithKept_119 hl (k := 3) rfl (nI_add _ 1) (by decide) rfl (fun ls hl => ?_)
            refine lv_goto (tgt := 2) hx hb dX1_resolveWithKept_122 (by decide) ?_
            refine ih (i + 1) Q1 w1 (by omega) (by omega) i1 i2 (fun x hx1 hk1 hr1 => ?_) i4 _ _ _ hs (lv_sub hl [2, 3, 0] rfl)
            by_cases e : x = i
            · subst e; exact absurd h5 hr1.1
            · exact i3 x (by omega) hk1 hr1
          · refine lv_iload_n hx hb dX1_resolveWithKept_54 rfl (lv_at hl 0 rfl) ?_
            refine lv_iload_n hx hb dX1_resolveWithKept_55 rfl (lv_at hl 0 rfl) ?_
            refine lv_iconst (v := nI (1)) hx hb dX1_resolveWithKept_56 (by decide +kernel) ?_
            refine lv_isub hx hb dX1_resolveWithKept_57 ?_
            refine wk_top (v := nI (rz_cl n g i - 1)) (pk_sub (by omega)) ?_
            refine lv_iand hx hb dX1_resolveWithKept_58 ?_
            refine wk_top (v := nI ((rz_cl n g i) &&& (rz_cl n g i - 1))) (wk_and _ _) ?_
            refine nk_if_eq (tgt := 65) hx hb (Nat.lt_of_le_of_lt Nat.and_le_left (Nat.lt_trans (rz_cl_lt hn _ _) (by decide))) dX1_resolveWithKept_59 (by decide) (fun h6 => ?_) (fun h6 => ?_)
            · refine lv_aload_n hx hb dX1_resolveWithKept_65 rfl (lv_at hl 1 rfl) ?_
              refine xg_wantsTrue C hs dX1_resolveWithKept_66 ?_
              refine lv_iload_n hx hb dX1_resolveWithKept_69 rfl (lv_at hl 2 rfl) ?_
              refine xl_T C hs hn hg0 dX1_resolveWithKept_70 ?_
              refine lv_aload_n hx hb dX1_resolveWithKept_71 rfl (lv_at hl 1 rfl) ?_
              refine xg_wantsTrue C hs dX1_resolveWithKept_72 ?_
              refine lv_iload_n hx hb dX1_resolveWithKept_75 rfl (lv_at hl 3 rfl) ?_
              refine xl_T C hs hn h dX1_resolveWithKept_76 ?_
              refine lv_ior hx hb dX1_resolveWithKept_77 ?_
              refine wk_top (v := nI ((rz_T n g) ||| (rz_T n i))) (wk_or _ _) ?_
              refine lv_iload_n hx hb dX1_resolveWithKept_78 rfl (lv_at hl 0 rfl) ?_
              refine lv_iconst (v := (-1)) hx hb dX1_resolveWithKept_79 (by decide +kernel) ?_
              refine lv_ixor hx hb dX1_resolveWithKept_80 ?_
              refine lv_iand hx hb dX1_resolveWithKept_81 ?_
              refine wk_top (v := nI (rz_pp n g i)) (wk_andn (rz_TT_lt hn _ _) _) ?_
              refine lv_istore (lv' := [(4, .int (nI (rz_pp n g i))), (3, .int (nI (rz_cl n g i))), (0, .ref (ad 0)), (1, .int (nI (g))), (2, .int (nI (i)))]) hx hb dX1_resolveWithKept_82 hl (by decide) rfl (fun ls hl => ?_)
              refine lv_aload_n hx hb dX1_resolveWithKept_84 rfl (lv_at hl 2 rfl) ?_
              refine xg_wantsFalse C hs dX1_resolveWithKept_85 ?_
              refine lv_iload_n hx hb dX1_resolveWithKept_88 rfl (lv_at hl 3 rfl) ?_
              refine xl_F C hs hn hg0 dX1_resolveWithKept_89 ?_
              refine lv_aload_n hx hb dX1_resolveWithKept_90 rfl (lv_at hl 2 rfl) ?_
              refine xg_wantsFalse C hs dX1_resolveWithKept_91 ?_
              refine lv_iload_n hx hb dX1_resolveWithKept_94 rfl (lv_at hl 4 rfl) ?_
              refine xl_F C hs hn h dX1_resolveWithKept_95 ?_
              refine lv_ior hx hb dX1_resolveWithKept_96 ?_
              refine wk_top (v := nI ((rz_F n g) ||| (rz_F n i))) (wk_or _ _) ?_
              refine lv_iload_n hx hb dX1_resolveWithKept_97 rfl (lv_at hl 1 rfl) ?_
              refine lv_iconst (v := (-1)) hx hb dX1_resolveWithKept_98 (by decide +kernel) ?_
              refine lv_ixor hx hb dX1_resolveWithKept_99 ?_
              refine lv_iand hx hb dX1_resolveWithKept_100 ?_
              refine wk_top (v := nI (rz_qq n g i)) (wk_andn (rz_FF_lt hn _ _) _) ?_
              refine lv_istore (lv' := [(5, .int (nI (rz_qq n g i))), (4, .int (nI (rz_pp n g i))), (3, .int (nI (rz_cl n g i))), (0, .ref (ad 0)), (1, .int (nI (g))), (2, .int (nI (i)))]) hx hb dX1_resolveWithKept_101 hl (by decide) rfl (fun ls hl => ?_)
              refine lv_aload_n hx hb dX1_resolveWithKept_103 rfl (lv_at hl 3 rfl) ?_
              refine lv_iload hx hb dX1_resolveWithKept_104 (lv_at hl 1 rfl) ?_
              refine lv_iload hx hb dX1_resolveWithKept_106 (lv_at hl 0 rfl) ?_
              refine wk_calli (As := [.int (nI (rz_pp n g i)), .int (nI (rz_qq n g i))]) (rest := []) (q0 := 0) C hs (m1_numberOf l D ad cA hn b bs sa K Q1 w1 vv oo (Nat.lt_of_le_of_lt Nat.and_le_left (rz_TT_lt hn g i)) (Nat.lt_of_le_of_lt Nat.and_le_left (rz_FF_lt hn g i))) (cwX1_X1_numberOf C.2.2.2.2.2.1 (hR.le (by decide) (by decide))) rfl rfl rfl hl.1 rfl (Nat.le_of_ble_eq_true rfl) dX1_resolveWithKept_108 ⟨Nat.zero_le _, Nat.zero_le _⟩ (fun r u H locs hq hs => ?_)
              have hq : r = nI (rz_rs n g i) := hq
              subst hq
              refine lv_istore (lv' := [(6, .int (nI (rz_rs n g i))), (5, .int (nI (rz_qq n g i))), (4, .int (nI (rz_pp n g i))), (3, .int (nI (rz_cl n g i))), (0, .ref (ad 0)), (1, .int (nI (g))), (2, .int (nI (i)))]) hx hb dX1_resolveWithKept_111 hl (by decide) rfl (fun ls hl => ?_)
              refine lv_aload_n hx hb dX1_resolveWithKept_113 rfl (lv_at hl 4 rfl) ?_
              refine lv_iload hx hb dX1_resolveWithKept_114 (lv_at hl 0 rfl) ?_
              refine wk_callv (As := [.int (nI (rz_rs n g i))]) (rest := []) (q0 := 0) C hs (m1_enqueue l D ad cA hn b bs sa K Q1 w1 vv oo hK i4 (rz_rs_lt hn g i)) (cwX1_X1_enqueue C.2.2.2.2.2.1 (hR.le (by decide) (by decide))) rfl rfl rfl hl.1 rfl (Nat.le_of_ble_eq_true rfl) dX1_resolveWithKept_116 ⟨Nat.zero_le _, Nat.zero_le _⟩ (fun u H locs hq hs => ?_)
              obtain ⟨Q2, w2⟩ := u
              obtain ⟨hq1, hq2⟩ := hq
              have hq1 : ∀ x, Q2 x ↔ Q1 x ∨ (x = rz_rs n g i ∧ ¬ rz_sub n K (rz_rs n g i)) := hq1
              refine lv_iinc (v := nI (i + 1)) (lv' := [(2, .int (nI (i + 1))), (6, .int (nI (rz_rs n g i))), (5, .int (nI (rz_qq n g i))), (4, .int (nI (rz_pp n g i))), (3, .int (nI (rz_cl n g i))), (0, .ref (ad 0)), (1, .int (nI (g)))]) hx hb dX1_resolveWithKept_119 hl (k := 6) rfl (nI_add _ 1) (by decide) rfl (fun ls hl => ?_)
              refine lv_goto (tgt := 2) hx hb dX1_resolveWithKept_122 (by decide) ?_
              refine ih (i + 1) Q2 w2 (by omega) (by omega) (fun x z => (hq1 x).mpr (Or.inl (i1 x z))) (fun x z => ?_) (fun x hx1 hk1 hr1 => ?_) hq2 _ _ _ hs (lv_sub hl [5, 6, 0] rfl)
              · rcases (hq1 x).mp z with y | y
                · exact i2 x y
                · exact Or.inr ⟨by rw [y.1]; exact y.2, i, hk, ⟨h5, h6⟩, y.1⟩
              · by_cases e : x = i
                · subst e
                  by_cases y : rz_sub n K (rz_rs n g x)
                  · exact Or.inr y
                  · exact Or.inl ((hq1 _).mpr (Or.inr ⟨rfl, y⟩))
                · exact (i3 x (by omega) hk1 hr1).imp (fun z => (hq1 _).mpr (Or.inl z)) id
            · refine lv_goto (tgt := 119) hx hb dX1_resolveWithKept_62 (by decide) ?_
              refine lv_iinc (v := nI (i + 1)) (lv' := [(2, .int (nI (i + 1))), (3, .int (nI (rz_cl n g i))), (0, .ref (ad 0)), (1, .int (nI (g)))]) hx hb dX1_resolveWithKept_119 hl (k := 3) rfl (nI_add _ 1) (by decide) rfl (fun ls hl => ?_)
              refine lv_goto (tgt := 2) hx hb dX1_resolveWithKept_122 (by decide) ?_
              refine ih (i + 1) Q1 w1 (by omega) (by omega) i1 i2 (fun x hx1 hk1 hr1 => ?_) i4 _ _ _ hs (lv_sub hl [2, 3, 0] rfl)
              by_cases e : x = i
              · subst e; exact absurd hr1.2 h6
              · exact i3 x (by omega) hk1 hr1
        · refine lv_goto (tgt := 119) hx hb dX1_resolveWithKept_19 (by decide) ?_
          refine lv_iinc (v := nI (i + 1)) (lv' := [(2, .int (nI (i + 1))), (0, .ref (ad 0)), (1, .int (nI (g)))]) hx hb dX1_resolveWithKept_119 hl (k := 2) rfl (nI_add _ 1) (by decide) rfl (fun ls hl => ?_)
          refine lv_goto (tgt := 2) hx hb dX1_resolveWithKept_122 (by decide) ?_
          refine ih (i + 1) Q1 w1 (by omega) (by omega) i1 i2 (fun x hx1 hk1 hr1 => ?_) i4 _ _ _ hs (lv_sub hl [1, 2, 0] rfl)
          by_cases e : x = i
          · subst e; exact absurd hk1 hk
          · exact i3 x (by omega) hk1 hr1
  exact key (3 ^ n + 1) 0 Q0 wc (Nat.zero_le _) (by omega) (fun _ z => z) (fun _ z => Or.inl z) (fun t ht => absurd ht (Nat.not_lt_zero t)) hw _ _ _ hs (lv_sub hl [1, 2, 0] rfl)
set_option maxHeartbeats 4000000 in
set_option maxRecDepth 100000 in
theorem m1_take (l : Launch) (D : va_G) (ad : Nat → Nat) (cA : Nat → ClassId) {n : Nat} (hn : n ≤ 5) (b : Nat → Nat) (bs : Nat) (sa : Prop) (K : Nat → Prop) (wc : Nat) (vv oo : Nat → Nat) (T : Nat → Prop) (hok : rz_ok n K T) {x : Nat} (hx0 : x < 3 ^ n) : wk_mV l yX1_takeIn cX1_takeIn 4 none (wk_rm 4 91) D (tX cA) (wX ad cA n b bs sa K (fun _ => False) wc vv oo) [.ref (ad 0), .int (nI (x))] (S := Nat → Prop) (fun u => rz_ok n u (fun t => T t ∨ t = x)) (fun u => wX ad cA n b bs sa u (fun _ => False) 0 vv oo) := by
  refine wk_mV.go RX1 (by decide) rfl (Nat.le_of_ble_eq_true rfl) ?_
  intro p e R s m args below meth c A ls Q C hR hs hl hret
  have hl : lv_has ls 4 [(0, .ref (ad 0)), (1, .int (nI (x)))] := hl
  have hx := C.1
  have hb := C.2.1
  have h3 := rz_p35 hn
  refine lv_aload_n hx hb dX1_takeIn_0 rfl (lv_at hl 0 rfl) ?_
  refine lv_iconst (v := nI (0)) hx hb dX1_takeIn_1 (by decide +kernel) ?_
  refine xp_waitingCount C hs dX1_takeIn_2 (fun H locs hs => ?_)
  refine lv_aload_n hx hb dX1_takeIn_5 rfl (lv_at hl 0 rfl) ?_
  refine lv_iload_n hx hb dX1_takeIn_6 rfl (lv_at hl 1 rfl) ?_
  refine wk_callv (As := [.int (nI (x))]) (rest := []) (q0 := 0) C hs (m1_enqueue l D ad cA hn b bs sa K (fun _ => False) 0 vv oo hok.1 (rz_no _).symm hx0) (cwX1_X1_enqueue C.2.2.2.2.2.1 (hR.le (by decide) (by decide))) rfl rfl rfl hl.1 rfl (Nat.le_of_ble_eq_true rfl) dX1_takeIn_7 ⟨Nat.zero_le _, Nat.zero_le _⟩ (fun u H locs hq hs => ?_)
  obtain ⟨Q1, w1⟩ := u
  obtain ⟨hq1, hq2⟩ := hq
  have hq1 : Q1 = fun c => c = x ∧ ¬ rz_sub n K x := funext fun c => propext ⟨fun z => ((hq1 c).mp z).elim False.elim id, fun z => (hq1 c).mpr (Or.inr z)⟩
  have hq2 : w1 = rz_cn Q1 (3 ^ n) := hq2
  refine lv_iconst (v := nI (0)) hx hb dX1_takeIn_10 (by decide +kernel) ?_
  refine lv_istore_n (lv' := [(2, .int (nI (0))), (0, .ref (ad 0)), (1, .int (nI (x)))]) hx hb dX1_takeIn_11 rfl hl (by decide) rfl (fun ls hl => ?_)
  have key : ∀ (k : Nat) (st : Nat) (K1 Q1 : Nat → Prop) (w1 : Nat), st ≤ 243 → 243 < st + k → rz_J n (fun t => T t ∨ t = x) K1 Q1 → w1 = rz_cn Q1 (3 ^ n) → st ≤ rz_cn (rz_U n K1 Q1) (3 ^ n) → ∀ (H : Heap) (locs : List Loc) (ls : Array Slot), wk_S A s D (tX cA) (wX ad cA n b bs sa K1 Q1 w1 vv oo) H locs → lv_has ls 4 [(0, .ref (ad 0)), (1, .int (nI (x))), (2, .int (nI (st)))] → W p l e R s m args below meth c H locs 0 0 Q (F0 m 12 ls []) := by
    intro k
    induction k with
    | zero => intro st K1 Q1 w1 h1 h2 hJ hw hU; exact absurd h2 (by omega)
    | succ k ih =>
      intro st K1 Q1 w1 h1 h2 hJ hw hU H locs ls hs hl
      have hwl : w1 ≤ 3 ^ n := by rw [hw]; exact rz_cn_le _ _
      refine lv_iload_n hx hb dX1_takeIn_12 rfl (lv_at hl 2 rfl) ?_
      refine lv_sipush (v := nI (243)) hx hb dX1_takeIn_13 (by decide +kernel) ?_
      refine nk_ge (tgt := 82) hx hb (by omega) (by omega) dX1_takeIn_16 (by decide) (fun h => ?_) (fun h => ?_)
      · have hz : ¬ 0 < w1 := fun z => by
          rw [hw] at z
          obtain ⟨g, g1, g2⟩ := rz_cn_pos z
          have := rz_U_lt (K := K1) g1 g2
          omega
        have hz : w1 = 0 := by omega
        have e : Q1 = fun _ => False := rz_none hJ.2.1 (hw.symm.trans hz)
        subst e
        subst hz
        exact hret K1 hs (rz_J_end hn (fun _ z => z) hJ) dX1_takeIn_82
      · refine lv_aload_n hx hb dX1_takeIn_19 rfl (lv_at hl 0 rfl) ?_
        refine xg_waitingCount C hs dX1_takeIn_20 ?_
        refine nk_if_le (tgt := 82) hx hb (by omega) dX1_takeIn_23 (by decide) (fun h5 => ?_) (fun h5 => ?_)
        · have hz : w1 = 0 := h5
          have e : Q1 = fun _ => False := rz_none hJ.2.1 (hw.symm.trans hz)
          subst e
          subst hz
          exact hret K1 hs (rz_J_end hn (fun _ z => z) hJ) dX1_takeIn_82
        · obtain hpos := rz_cn_pos (hw ▸ h5)
          refine lv_aload_n hx hb dX1_takeIn_26 rfl (lv_at hl 0 rfl) ?_
          refine wk_calli (As := []) (rest := []) (q0 := 0) C hs (m1_next l D ad cA hn b bs sa K1 Q1 w1 vv oo hpos) (cwX1_X1_nextWaiting C.2.2.2.2.2.1 (hR.le (by decide) (by decide))) rfl rfl rfl hl.1 rfl (Nat.le_of_ble_eq_true rfl) dX1_takeIn_27 ⟨Nat.zero_le _, Nat.zero_le _⟩ (fun r u H locs hq hs => ?_)
          obtain ⟨g, hg0, hgQ, rfl⟩ := hq
          refine lv_istore_n (lv' := [(3, .int (nI (g))), (0, .ref (ad 0)), (1, .int (nI (x))), (2, .int (nI (st)))]) hx hb dX1_takeIn_30 rfl hl (by decide) rfl (fun ls hl => ?_)
          refine lv_aload_n hx hb dX1_takeIn_31 rfl (lv_at hl 1 rfl) ?_
          refine xg_waiting C hs dX1_takeIn_32 ?_
          refine lv_iload_n hx hb dX1_takeIn_35 rfl (lv_at hl 0 rfl) ?_
          refine lv_iconst (v := rz_b (False)) hx hb dX1_takeIn_36 wk_ofF ?_
          refine xs_Q C hs (by omega) dX1_takeIn_37 (fun H locs hs => ?_)
          rw [rz_uq_F] at hs
          refine lv_aload_n hx hb dX1_takeIn_38 rfl (lv_at hl 1 rfl) ?_
          refine lv_dup hx hb dX1_takeIn_39 rfl ?_
          refine xg_waitingCount C hs dX1_takeIn_40 ?_
          refine lv_iconst (v := nI (1)) hx hb dX1_takeIn_43 (by decide +kernel) ?_
          refine lv_isub hx hb dX1_takeIn_44 ?_
          refine wk_top (v := nI (w1 - 1)) (pk_sub (by omega)) ?_
          refine xp_waitingCount C hs dX1_takeIn_45 (fun H locs hs => ?_)
          refine lv_aload_n hx hb dX1_takeIn_48 rfl (lv_at hl 1 rfl) ?_
          refine lv_iload_n hx hb dX1_takeIn_49 rfl (lv_at hl 0 rfl) ?_
          have hw2 : w1 - 1 = rz_cn (fun c => Q1 c ∧ c ≠ g) (3 ^ n) := by have := rz_cn_del hg0 hgQ; omega
          refine wk_calli (As := [.int (nI (g))]) (rest := []) (q0 := 0) C hs (m1_lowest l D ad cA hn b bs sa K1 (fun c => Q1 c ∧ c ≠ g) (w1 - 1) vv oo hg0) (cwX1_X1_lowestKeptWithin C.2.2.2.2.2.1 (hR.le (by decide) (by decide))) rfl rfl rfl hl.1 rfl (Nat.le_of_ble_eq_true rfl) dX1_takeIn_50 ⟨Nat.zero_le _, Nat.zero_le _⟩ (fun r u H locs hq hs => ?_)
          have hq := rz_lo_sub hn hJ.1 hg0 hq
          refine lv_if_lt (tgt := 59) hx hb dX1_takeIn_53 (by decide) (fun h6 => ?_) (fun h6 => ?_)
          · have hsub := hq.mp h6
            refine lv_aload_n hx hb dX1_takeIn_59 rfl (lv_at hl 1 rfl) ?_
            refine lv_iload_n hx hb dX1_takeIn_60 rfl (lv_at hl 0 rfl) ?_
            refine wk_callv (As := [.int (nI (g))]) (rest := []) (q0 := 0) C hs (m1_drop l D ad cA hn b bs sa K1 (fun c => Q1 c ∧ c ≠ g) (w1 - 1) vv oo hJ.1 hg0 (fun z => hsub ⟨g, z, rz_W_rf n g⟩)) (cwX1_X1_dropWider C.2.2.2.2.2.1 (hR.le (by decide) (by decide))) rfl rfl rfl hl.1 rfl (Nat.le_of_ble_eq_true rfl) dX1_takeIn_61 ⟨Nat.zero_le _, Nat.zero_le _⟩ (fun _ H locs hq hs => ?_)
            refine lv_aload_n hx hb dX1_takeIn_64 rfl (lv_at hl 1 rfl) ?_
            refine xg_kept C hs dX1_takeIn_65 ?_
            refine lv_iload_n hx hb dX1_takeIn_68 rfl (lv_at hl 0 rfl) ?_
            refine lv_iconst (v := rz_b (True)) hx hb dX1_takeIn_69 wk_ofT ?_
            refine xs_K C hs (by omega) dX1_takeIn_70 (fun H locs hs => ?_)
            rw [rz_uq_T] at hs
            refine lv_aload_n hx hb dX1_takeIn_71 rfl (lv_at hl 1 rfl) ?_
            refine lv_iload_n hx hb dX1_takeIn_72 rfl (lv_at hl 0 rfl) ?_
            refine wk_callv (As := [.int (nI (g))]) (rest := []) (q0 := 0) C hs (m1_resolve l D ad cA hn b bs sa (fun c => (K1 c ∧ ¬ rz_W n g c) ∨ c = g) (fun c => Q1 c ∧ c ≠ g) (w1 - 1) vv oo (fun c z => z.elim (fun y => hJ.1 c y.1) (fun y => by rw [y]; exact hg0)) hw2 hg0) (cwX1_X1_resolveWithKept C.2.2.2.2.2.1 (hR.le (by decide) (by decide))) rfl rfl rfl hl.1 rfl (Nat.le_of_ble_eq_true rfl) dX1_takeIn_73 ⟨Nat.zero_le _, Nat.zero_le _⟩ (fun u H locs hq hs => ?_)
            obtain ⟨Q2, w2⟩ := u
            obtain ⟨hq1, hq2⟩ := hq
            have hq1 : rz_RW n (fun c => (K1 c ∧ ¬ rz_W n g c) ∨ c = g) (fun c => Q1 c ∧ c ≠ g) Q2 g := hq1
            refine lv_iinc (v := nI (st + 1)) (lv' := [(2, .int (nI (st + 1))), (3, .int (nI (g))), (0, .ref (ad 0)), (1, .int (nI (x)))]) hx hb dX1_takeIn_76 hl (k := 3) rfl (nI_add _ 1) (by decide) rfl (fun ls hl => ?_)
            refine lv_goto (tgt := 12) hx hb dX1_takeIn_79 (by decide) ?_
            exact ih (st + 1) _ Q2 w2 (by omega) (by omega) (rz_J_take hn hJ hgQ hsub hq1) hq2 (by have := rz_U_take hg0 hgQ hq1; omega) _ _ _ hs (lv_sub hl [2, 3, 0] rfl)
          · have hsub : rz_sub n K1 g := Classical.byContradiction fun z => h6 (hq.mpr z)
            refine lv_goto (tgt := 76) hx hb dX1_takeIn_56 (by decide) ?_
            refine lv_iinc (v := nI (st + 1)) (lv' := [(2, .int (nI (st + 1))), (3, .int (nI (g))), (0, .ref (ad 0)), (1, .int (nI (x)))]) hx hb dX1_takeIn_76 hl (k := 3) rfl (nI_add _ 1) (by decide) rfl (fun ls hl => ?_)
            refine lv_goto (tgt := 12) hx hb dX1_takeIn_79 (by decide) ?_
            exact ih (st + 1) K1 _ (w1 - 1) (by omega) (by omega) (rz_J_skip hJ hsub) hw2 (by have := rz_U_skip hg0 hgQ hsub; omega) _ _ _ hs (lv_sub hl [2, 3, 0] rfl)
  exact key 244 0 K Q1 w1 (by omega) (by omega) (by rw [hq1]; exact rz_J_init hn hx0 hok) hq2 (Nat.zero_le _) _ _ _ hs (lv_sub hl [1, 2, 0] rfl)
set_option maxHeartbeats 4000000 in
set_option maxRecDepth 100000 in
theorem m1_saturate (l : Launch) (D : va_G) (ad : Nat → Nat) (cA : Nat → ClassId) {n : Nat} (hn : n ≤ 5) (b : Nat → Nat) (bs : Nat) (sa : Prop) (K : Nat → Prop) (wc : Nat) (vv oo : Nat → Nat) (hB : rz_bs (3 ^ n) b bs) (hK : ∀ c, K c → c < 3 ^ n) (hsa : sa → rz_ok n K (rz_B b bs)) : wk_mV l yX1_saturate cX1_saturate 2 none (wk_rm 5 114) D (tX cA) (wX ad cA n b bs sa K (fun _ => False) wc vv oo) [.ref (ad 0)] (S := (Nat → Prop) × Nat) (fun u => rz_ok n u.1 (rz_B b bs)) (fun u => wX ad cA n b bs True (u.1) (fun _ => False) (u.2) vv oo) := by
  refine wk_mV.go RX1 (by decide) rfl (Nat.le_of_ble_eq_true rfl) ?_
  intro p e R s m args below meth c A ls Q C hR hs hl hret
  have hl : lv_has ls 2 [(0, .ref (ad 0))] := hl
  have hx := C.1
  have hb := C.2.1
  have h3 := rz_p35 hn
  have h12 := hB.1
  refine lv_aload_n hx hb dX1_saturate_0 rfl (lv_at hl 0 rfl) ?_
  refine xg_saturated C hs dX1_saturate_1 ?_
  refine bk_if_eq (tgt := 8) hx hb dX1_saturate_4 (by decide) (fun h => ?_) (fun h => ?_)
  · refine lv_aload_n hx hb dX1_saturate_8 rfl (lv_at hl 0 rfl) ?_
    refine wk_callv (As := []) (rest := []) (q0 := 0) C hs (m1_clear l D ad cA hn b bs sa K (fun _ => False) wc vv oo hK) (cwX1_X1_clearKept C.2.2.2.2.2.1 (hR.le (by decide) (by decide))) rfl rfl rfl hl.1 rfl (Nat.le_of_ble_eq_true rfl) dX1_saturate_9 ⟨Nat.zero_le _, Nat.zero_le _⟩ (fun _ H locs hq hs => ?_)
    refine lv_iconst (v := nI (0)) hx hb dX1_saturate_12 (by decide +kernel) ?_
    refine lv_istore_n (lv' := [(1, .int (nI (0))), (0, .ref (ad 0))]) hx hb dX1_saturate_13 rfl hl (by decide) rfl (fun ls hl => ?_)
    have key : ∀ (k : Nat) (i : Nat) (K1 : Nat → Prop) (w1 : Nat), i ≤ bs → bs < i + k → rz_ok n K1 (rz_B b i) → ∀ (H : Heap) (locs : List Loc) (ls : Array Slot), wk_S A s D (tX cA) (wX ad cA n b bs sa K1 (fun _ => False) w1 vv oo) H locs → lv_has ls 2 [(0, .ref (ad 0)), (1, .int (nI (i)))] → W p l e R s m args below meth c H locs 0 0 Q (F0 m 14 ls []) := by
      intro k
      induction k with
      | zero => intro i K1 w1 h1 h2 hok; exact absurd h2 (by omega)
      | succ k ih =>
        intro i K1 w1 h1 h2 hok H locs ls hs hl
        refine lv_iload_n hx hb dX1_saturate_14 rfl (lv_at hl 1 rfl) ?_
        refine lv_aload_n hx hb dX1_saturate_15 rfl (lv_at hl 0 rfl) ?_
        refine xg_baseSize C hs dX1_saturate_16 ?_
        refine nk_ge (tgt := 38) hx hb (by omega) (by omega) dX1_saturate_19 (by decide) (fun h5 => ?_) (fun h5 => ?_)
        · have e : i = bs := by omega
          subst e
          refine lv_aload_n hx hb dX1_saturate_38 rfl (lv_at hl 0 rfl) ?_
          refine lv_iconst (v := rz_b (True)) hx hb dX1_saturate_39 wk_ofT ?_
          refine xp_saturated C hs dX1_saturate_40 (fun H locs hs => ?_)
          exact hret (K1, w1) hs hok dX1_saturate_43
        · refine lv_aload_n hx hb dX1_saturate_22 rfl (lv_at hl 0 rfl) ?_
          refine lv_aload_n hx hb dX1_saturate_23 rfl (lv_at hl 0 rfl) ?_
          refine xg_base C hs dX1_saturate_24 ?_
          refine lv_iload_n hx hb dX1_saturate_27 rfl (lv_at hl 1 rfl) ?_
          refine xl_B C hs (by omega) dX1_saturate_28 ?_
          refine wk_callv (As := [.int (nI (b i))]) (rest := []) (q0 := 0) C hs (m1_take l D ad cA hn b bs sa K1 w1 vv oo (rz_B b i) hok (hB.2.1 i h5)) (cwX1_X1_takeIn C.2.2.2.2.2.1 (hR.le (by decide) (by decide))) rfl rfl rfl hl.1 rfl (Nat.le_of_ble_eq_true rfl) dX1_saturate_29 ⟨Nat.zero_le _, Nat.zero_le _⟩ (fun u H locs hq hs => ?_)
          refine lv_iinc (v := nI (i + 1)) (lv' := [(1, .int (nI (i + 1))), (0, .ref (ad 0))]) hx hb dX1_saturate_32 hl (k := 1) rfl (nI_add _ 1) (by decide) rfl (fun ls hl => ?_)
          refine lv_goto (tgt := 14) hx hb dX1_saturate_35 (by decide) ?_
          refine ih (i + 1) u 0 (by omega) (by omega) (rz_ok_c hq (fun t => ?_)) _ _ _ hs (lv_sub hl [1, 0] rfl)
          constructor
          · rintro (⟨j, hj, e⟩ | e)
            · exact ⟨j, by omega, e⟩
            · exact ⟨i, by omega, e.symm⟩
          · rintro ⟨j, hj, e⟩
            by_cases z : j = i
            · exact Or.inr (by rw [← e, z])
            · exact Or.inl ⟨j, by omega, e⟩
    exact key (bs + 1) 0 _ wc (Nat.zero_le _) (by omega) (rz_ok_c (rz_ok_0 hn) (fun t => ⟨False.elim, fun ⟨i, hi, _⟩ => absurd hi (Nat.not_lt_zero i)⟩)) _ _ _ hs (lv_sub hl [1, 0] rfl)
  · have e : sa = True := propext ⟨fun _ => trivial, fun _ => h⟩
    subst e
    exact hret (K, wc) hs (hsa h) dX1_saturate_7
end
end
section
/-! OrderedResolver: its public methods -/
section
abbrev rz_SX : Type := (Nat → Nat) × Nat × Prop × (Nat → Prop) × Nat × (Nat → Nat) × (Nat → Nat)
noncomputable abbrev wXu (ad : Nat → Nat) (cA : Nat → ClassId) (n : Nat) (u : rz_SX) : va_W := wX ad cA n u.1 u.2.1 u.2.2.1 u.2.2.2.1 (fun _ => False) u.2.2.2.2.1 u.2.2.2.2.2.1 u.2.2.2.2.2.2
def rz_IX (n : Nat) (b : Nat → Nat) (bs : Nat) (sa : Prop) (K : Nat → Prop) : Prop := rz_bs (3 ^ n) b bs ∧ (∀ c, K c → c < 3 ^ n) ∧ (sa → rz_ok n K (rz_B b bs))
abbrev rz_IXu (n : Nat) (u : rz_SX) : Prop := rz_IX n u.1 u.2.1 u.2.2.1 u.2.2.2.1
/-- behind a question: the base is as it was -/
def rz_Same (n : Nat) (b : Nat → Nat) (bs : Nat) (u : rz_SX) : Prop := rz_IXu n u ∧ u.1 = b ∧ u.2.1 = bs
def rz_Add (N : Nat) (B : Nat → Prop) (k : Nat) (x r : Int32) (B' : Nat → Prop) (k' : Nat) : Prop :=
  ((¬ ∃ j, j < N ∧ x = nI j) ∧ r = -1 ∧ B' = B ∧ k' = k) ∨ ∃ j, j < N ∧ x = nI j ∧ ((B j ∧ r = 0 ∧ B' = B ∧ k' = k) ∨ (¬ B j ∧ k = 12 ∧ r = -3 ∧ B' = B ∧ k' = k) ∨ (¬ B j ∧ k < 12 ∧ r = 1 ∧ B' = (fun t => B t ∨ t = j) ∧ k' = k + 1))
def rz_Ret (N : Nat) (B : Nat → Prop) (k : Nat) (x r : Int32) (B' : Nat → Prop) (k' : Nat) : Prop :=
  ((¬ ∃ j, j < N ∧ x = nI j) ∧ r = -1 ∧ B' = B ∧ k' = k) ∨ ∃ j, j < N ∧ x = nI j ∧ ((¬ B j ∧ r = 0 ∧ B' = B ∧ k' = k) ∨ (B j ∧ r = 1 ∧ B' = (fun t => B t ∧ t ≠ j) ∧ k = k' + 1))
theorem rz_lo_c {N : Nat} {P P' : Nat → Prop} {r : Int32} (h : rz_lo N P r) (e : ∀ d, d < N → (P d ↔ P' d)) : rz_lo N P' r := by
  rcases h with ⟨d, h1, h2, h3, h4⟩ | ⟨h1, h2⟩
  · exact Or.inl ⟨d, h1, (e d h1).mp h2, fun j hj z => h3 j hj ((e j (by omega)).mpr z), h4⟩
  · exact Or.inr ⟨fun d hd z => h1 d hd ((e d hd).mpr z), h2⟩
theorem rz_lo_w {N N' : Nat} {P : Nat → Prop} {r : Int32} (h : rz_lo N P r) (hN : N ≤ N') (e : ∀ d, d < N' → P d → d < N) : rz_lo N' P r := by
  rcases h with ⟨d, h1, h2, h3, h4⟩ | ⟨h1, h2⟩
  · exact Or.inl ⟨d, by omega, h2, h3, h4⟩
  · exact Or.inr ⟨fun d hd z => h1 d (e d hd z) z, h2⟩
theorem rz_cnS {P : Nat → Prop} {i : Nat} (h : P i) : rz_cn P (i + 1) = rz_cn P i + 1 := by
  show rz_cn P i + rz_i (P i) = _
  rw [rz_i_t h]
theorem rz_cnN {P : Nat → Prop} {i : Nat} (h : ¬ P i) : rz_cn P (i + 1) = rz_cn P i := by
  show rz_cn P i + rz_i (P i) = _
  rw [rz_i_f h]
  rfl
theorem rz_s0 {x y : Int32} (h : x - y = 0) : x = y := by grind
theorem rz_sn {x y : Int32} (h : ¬ x - y = 0) : ¬ x = y := fun e => h (by grind)
theorem rz_s1 (x : Int32) (c : Nat) : x - nI c + (-1) = x - nI (c + 1) := by
  rw [← nI_1]
  grind
theorem rz_m2 : (-1 : Int32) < 0 := by decide +kernel
theorem rz_dec (v : Nat) : (nI v + (-1) = -1 ∧ v = 0) ∨ ∃ v', v = v' + 1 ∧ nI v + (-1) = nI v' := by
  cases v with
  | zero => exact Or.inl ⟨by decide +kernel, rfl⟩
  | succ v => exact Or.inr ⟨v, rfl, pk_m1 v⟩
theorem wk_andm {a n : Nat} : nI a &&& nI (2 ^ n - 1) = nI (a % 2 ^ n) := by rw [wk_and, Nat.and_two_pow_sub_one_eq_mod]
theorem rz_ag_and (n k w a : Nat) : rz_ag n k (w &&& k) a ↔ rz_ag n k w a := by
  unfold rz_ag
  refine forall_congr' fun v => forall_congr' fun _ => forall_congr' fun hk => ?_
  rw [Nat.testBit_and, hk, Bool.and_true]
set_option maxHeartbeats 4000000 in
set_option maxRecDepth 100000 in
theorem p1_size (l : Launch) (D : va_G) (ad : Nat → Nat) (cA : Nat → ClassId) {n : Nat} (hn2 : 2 ≤ n) (hn : n ≤ 5) (b : Nat → Nat) (bs : Nat) (sa : Prop) (K : Nat → Prop) (wc : Nat) (vv oo : Nat → Nat) (hI : rz_IX n b bs sa K) : wk_mI l yX1_size cX1_size 1 (some .int) (wk_rm 0 0) D (tX cA) (wX ad cA n b bs sa K (fun _ => False) wc vv oo) [.ref (ad 0)] (S := rz_SX) (fun r u => r = nI bs ∧ rz_Same n b bs u) (wXu ad cA n) := by
  refine wk_mI.goI RX1 (by decide) rfl (Nat.le_of_ble_eq_true rfl) ?_
  intro p e R s m args below meth c A ls Q C hR hs hl hret
  have hl : lv_has ls 1 [(0, .ref (ad 0))] := hl
  have hx := C.1
  have hb := C.2.1
  refine lv_aload_n hx hb dX1_size_0 rfl (lv_at hl 0 rfl) ?_
  refine xg_baseSize C hs dX1_size_1 ?_
  exact hret (b, bs, sa, K, wc, vv, oo) hs ⟨rfl, hI, rfl, rfl⟩ dX1_size_4
set_option maxHeartbeats 4000000 in
set_option maxRecDepth 100000 in
theorem p1_add (l : Launch) (D : va_G) (ad : Nat → Nat) (cA : Nat → ClassId) {n : Nat} (hn2 : 2 ≤ n) (hn : n ≤ 5) (b : Nat → Nat) (bs : Nat) (sa : Prop) (K : Nat → Prop) (wc : Nat) (vv oo : Nat → Nat) (hI : rz_IX n b bs sa K) (x : Int32) : wk_mI l yX1_add cX1_add 2 (some .int) (wk_rm 5 114) D (tX cA) (wX ad cA n b bs sa K (fun _ => False) wc vv oo) [.ref (ad 0), .int (x)] (S := rz_SX) (fun r u => rz_IXu n u ∧ rz_Add (3 ^ n) (rz_B b bs) bs x r (rz_B u.1 u.2.1) u.2.1) (wXu ad cA n) := by
  refine wk_mI.goI RX1 (by decide) rfl (Nat.le_of_ble_eq_true rfl) ?_
  intro p e R s m args below meth c A ls Q C hR hs hl hret
  have hl : lv_has ls 2 [(0, .ref (ad 0)), (1, .int (x))] := hl
  have hx := C.1
  have hb := C.2.1
  have h3 := rz_p35 hn
  obtain ⟨hB, hK, hsa⟩ := hI
  have h12 := hB.1
  refine lv_aload_n hx hb dX1_add_0 rfl (lv_at hl 0 rfl) ?_
  refine lv_iload_n hx hb dX1_add_1 rfl (lv_at hl 1 rfl) ?_
  refine wk_calli (As := [.int (x)]) (rest := []) (q0 := 0) C hs (m1_isClause l D ad cA hn b bs sa K (fun _ => False) wc vv oo x) (cwX1_X1_isClause C.2.2.2.2.2.1 (hR.le (by decide) (by decide))) rfl rfl rfl hl.1 rfl (Nat.le_of_ble_eq_true rfl) dX1_add_2 ⟨Nat.zero_le _, Nat.zero_le _⟩ (fun r u H locs hq hs => ?_)
  obtain rfl := hq
  refine bk_if_ne (tgt := 10) hx hb dX1_add_5 (by decide) (fun h => ?_) (fun h => ?_)
  · obtain ⟨j, hj, rfl⟩ := h
    refine lv_aload_n hx hb dX1_add_10 rfl (lv_at hl 0 rfl) ?_
    refine lv_iload_n hx hb dX1_add_11 rfl (lv_at hl 1 rfl) ?_
    refine wk_calli (As := [.int (nI (j))]) (rest := []) (q0 := 0) C hs (m1_placeOf l D ad cA hn b bs sa K (fun _ => False) wc vv oo hB hj) (cwX1_X1_placeOf C.2.2.2.2.2.1 (hR.le (by decide) (by decide))) rfl rfl rfl hl.1 rfl (Nat.le_of_ble_eq_true rfl) dX1_add_12 ⟨Nat.zero_le _, Nat.zero_le _⟩ (fun r u H locs hq hs => ?_)
    refine lv_if_lt (tgt := 20) hx hb dX1_add_15 (by decide) (fun h5 => ?_) (fun h5 => ?_)
    · have hno : ¬ rz_B b bs j := by
        rintro ⟨q, q1, q2⟩
        rcases hq with ⟨i, i1, -, i3⟩ | ⟨i1, -⟩
        · rw [i3] at h5; exact wk_lt0 (by omega) h5
        · exact i1 q q1 q2
      refine lv_aload_n hx hb dX1_add_20 rfl (lv_at hl 0 rfl) ?_
      refine xg_baseSize C hs dX1_add_21 ?_
      refine lv_bipush (v := nI (12)) hx hb dX1_add_24 (by decide +kernel) ?_
      refine nk_lt (tgt := 32) hx hb (by omega) (by omega) dX1_add_26 (by decide) (fun h6 => ?_) (fun h6 => ?_)
      · refine lv_aload_n hx hb dX1_add_32 rfl (lv_at hl 0 rfl) ?_
        refine xg_base C hs dX1_add_33 ?_
        refine lv_aload_n hx hb dX1_add_36 rfl (lv_at hl 0 rfl) ?_
        refine xg_baseSize C hs dX1_add_37 ?_
        refine lv_iload_n hx hb dX1_add_40 rfl (lv_at hl 1 rfl) ?_
        refine lv_i2s (v := nI (j)) hx hb dX1_add_41 (wk_short _ (by omega)) ?_
        refine xs_B C hs (by omega) (by omega) dX1_add_42 (fun H locs hs => ?_)
        refine lv_aload_n hx hb dX1_add_43 rfl (lv_at hl 0 rfl) ?_
        refine lv_dup hx hb dX1_add_44 rfl ?_
        refine xg_baseSize C hs dX1_add_45 ?_
        refine lv_iconst (v := nI (1)) hx hb dX1_add_48 (by decide +kernel) ?_
        refine lv_iadd hx hb dX1_add_49 ?_
        refine wk_top (v := nI (bs + 1)) (nI_add _ _) ?_
        refine xp_baseSize C hs dX1_add_50 (fun H locs hs => ?_)
        refine lv_aload_n hx hb dX1_add_53 rfl (lv_at hl 0 rfl) ?_
        refine xg_saturated C hs dX1_add_54 ?_
        refine bk_if_eq (tgt := 65) hx hb dX1_add_57 (by decide) (fun h7 => ?_) (fun h7 => ?_)
        · refine lv_iconst (v := nI (1)) hx hb dX1_add_65 (by decide +kernel) ?_
          exact hret (rz_up b bs j, bs + 1, sa, K, wc, vv, oo) hs ⟨⟨rz_bs_add hB hj h6 hno, hK, fun z => absurd z h7⟩, Or.inr ⟨j, hj, rfl, Or.inr (Or.inr ⟨hno, h6, rfl, rz_B_add b bs j, rfl⟩)⟩⟩ dX1_add_66
        · refine lv_aload_n hx hb dX1_add_60 rfl (lv_at hl 0 rfl) ?_
          refine lv_iload_n hx hb dX1_add_61 rfl (lv_at hl 1 rfl) ?_
          refine wk_callv (As := [.int (nI (j))]) (rest := []) (q0 := 0) C hs (m1_take l D ad cA hn (rz_up b bs j) (bs + 1) sa K wc vv oo (rz_B b bs) (hsa h7) hj) (cwX1_X1_takeIn C.2.2.2.2.2.1 (hR.le (by decide) (by decide))) rfl rfl rfl hl.1 rfl (Nat.le_of_ble_eq_true rfl) dX1_add_62 ⟨Nat.zero_le _, Nat.zero_le _⟩ (fun u H locs hq hs => ?_)
          have hq : rz_ok n u (rz_B (rz_up b bs j) (bs + 1)) := by rw [rz_B_add]; exact hq
          refine lv_iconst (v := nI (1)) hx hb dX1_add_65 (by decide +kernel) ?_
          exact hret (rz_up b bs j, bs + 1, sa, u, 0, vv, oo) hs ⟨⟨rz_bs_add hB hj h6 hno, hq.1, fun _ => hq⟩, Or.inr ⟨j, hj, rfl, Or.inr (Or.inr ⟨hno, h6, rfl, rz_B_add b bs j, rfl⟩)⟩⟩ dX1_add_66
      · have e12 : bs = 12 := by omega
        refine lv_bipush (v := (-3)) hx hb dX1_add_29 (by decide +kernel) ?_
        exact hret (b, bs, sa, K, wc, vv, oo) hs ⟨⟨hB, hK, hsa⟩, Or.inr ⟨j, hj, rfl, Or.inr (Or.inl ⟨hno, e12, rfl, rfl, rfl⟩)⟩⟩ dX1_add_31
    · rcases hq with ⟨q, q1, q2, q3⟩ | ⟨q1, rfl⟩
      skip
      · refine lv_iconst (v := nI (0)) hx hb dX1_add_18 (by decide +kernel) ?_
        exact hret (b, bs, sa, K, wc, vv, oo) hs ⟨⟨hB, hK, hsa⟩, Or.inr ⟨j, hj, rfl, Or.inl ⟨⟨q, q1, q2⟩, rfl, rfl, rfl⟩⟩⟩ dX1_add_19
      · exact absurd rz_m2 h5
  · refine lv_iconst (v := (-1)) hx hb dX1_add_8 (by decide +kernel) ?_
    exact hret (b, bs, sa, K, wc, vv, oo) hs ⟨⟨hB, hK, hsa⟩, Or.inl ⟨h, rfl, rfl, rfl⟩⟩ dX1_add_9
set_option maxHeartbeats 4000000 in
set_option maxRecDepth 100000 in
theorem p1_retract (l : Launch) (D : va_G) (ad : Nat → Nat) (cA : Nat → ClassId) {n : Nat} (hn2 : 2 ≤ n) (hn : n ≤ 5) (b : Nat → Nat) (bs : Nat) (sa : Prop) (K : Nat → Prop) (wc : Nat) (vv oo : Nat → Nat) (hI : rz_IX n b bs sa K) (x : Int32) : wk_mI l yX1_retract cX1_retract 4 (some .int) (wk_rm 1 22) D (tX cA) (wX ad cA n b bs sa K (fun _ => False) wc vv oo) [.ref (ad 0), .int (x)] (S := rz_SX) (fun r u => rz_IXu n u ∧ rz_Ret (3 ^ n) (rz_B b bs) bs x r (rz_B u.1 u.2.1) u.2.1) (wXu ad cA n) := by
  refine wk_mI.goI RX1 (by decide) rfl (Nat.le_of_ble_eq_true rfl) ?_
  intro p e R s m args below meth c A ls Q C hR hs hl hret
  have hl : lv_has ls 4 [(0, .ref (ad 0)), (1, .int (x))] := hl
  have hx := C.1
  have hb := C.2.1
  have h3 := rz_p35 hn
  obtain ⟨hB, hK, hsa⟩ := hI
  have h12 := hB.1
  refine lv_aload_n hx hb dX1_retract_0 rfl (lv_at hl 0 rfl) ?_
  refine lv_iload_n hx hb dX1_retract_1 rfl (lv_at hl 1 rfl) ?_
  refine wk_calli (As := [.int (x)]) (rest := []) (q0 := 0) C hs (m1_isClause l D ad cA hn b bs sa K (fun _ => False) wc vv oo x) (cwX1_X1_isClause C.2.2.2.2.2.1 (hR.le (by decide) (by decide))) rfl rfl rfl hl.1 rfl (Nat.le_of_ble_eq_true rfl) dX1_retract_2 ⟨Nat.zero_le _, Nat.zero_le _⟩ (fun r u H locs hq hs => ?_)
  obtain rfl := hq
  refine bk_if_ne (tgt := 10) hx hb dX1_retract_5 (by decide) (fun h => ?_) (fun h => ?_)
  · obtain ⟨j, hj, rfl⟩ := h
    refine lv_aload_n hx hb dX1_retract_10 rfl (lv_at hl 0 rfl) ?_
    refine lv_iload_n hx hb dX1_retract_11 rfl (lv_at hl 1 rfl) ?_
    refine wk_calli (As := [.int (nI (j))]) (rest := []) (q0 := 0) C hs (m1_placeOf l D ad cA hn b bs sa K (fun _ => False) wc vv oo hB hj) (cwX1_X1_placeOf C.2.2.2.2.2.1 (hR.le (by decide) (by decide))) rfl rfl rfl hl.1 rfl (Nat.le_of_ble_eq_true rfl) dX1_retract_12 ⟨Nat.zero_le _, Nat.zero_le _⟩ (fun r u H locs hq hs => ?_)
    rcases hq with ⟨q, q1, q2, rfl⟩ | ⟨q1, rfl⟩
    · obtain ⟨t0, rfl⟩ : ∃ t0, bs = t0 + 1 := ⟨bs - 1, by omega⟩
      refine lv_istore_n (lv' := [(2, .int (nI q)), (0, .ref (ad 0)), (1, .int (nI (j)))]) hx hb dX1_retract_15 rfl hl (by decide) rfl (fun ls hl => ?_)
      refine lv_iload_n hx hb dX1_retract_16 rfl (lv_at hl 0 rfl) ?_
      refine lv_if_ge (tgt := 22) hx hb dX1_retract_17 (by decide) (fun h5 => ?_) (fun h5 => ?_)
      · refine lv_aload_n hx hb dX1_retract_22 rfl (lv_at hl 1 rfl) ?_
        refine lv_dup hx hb dX1_retract_23 rfl ?_
        refine xg_baseSize C hs dX1_retract_24 ?_
        refine lv_iconst (v := nI (1)) hx hb dX1_retract_27 (by decide +kernel) ?_
        refine lv_isub hx hb dX1_retract_28 ?_
        refine wk_top (v := nI (t0)) (pk_sub (by omega)) ?_
        refine xp_baseSize C hs dX1_retract_29 (fun H locs hs => ?_)
        refine lv_iload_n hx hb dX1_retract_32 rfl (lv_at hl 0 rfl) ?_
        refine lv_istore_n (lv' := [(3, .int (nI (q))), (2, .int (nI (q))), (0, .ref (ad 0)), (1, .int (nI (j)))]) hx hb dX1_retract_33 rfl hl (by decide) rfl (fun ls hl => ?_)
        have key : ∀ (k : Nat) (i : Nat), q ≤ i → i ≤ t0 → t0 < i + k → ∀ (H : Heap) (locs : List Loc) (ls : Array Slot), wk_S A s D (tX cA) (wX ad cA n (rz_sh b q i) t0 sa K (fun _ => False) wc vv oo) H locs → lv_has ls 4 [(0, .ref (ad 0)), (3, .int (nI (i)))] → W p l e R s m args below meth c H locs 0 0 Q (F0 m 34 ls []) := by
          intro k
          induction k with
          | zero => intro i h0 h1 h2; exact absurd h2 (by omega)
          | succ k ih =>
            intro i h0 h1 h2 H locs ls hs hl
            refine lv_iload_n hx hb dX1_retract_34 rfl (lv_at hl 1 rfl) ?_
            refine lv_aload_n hx hb dX1_retract_35 rfl (lv_at hl 0 rfl) ?_
            refine xg_baseSize C hs dX1_retract_36 ?_
            refine nk_ge (tgt := 62) hx hb (by omega) (by omega) dX1_retract_39 (by decide) (fun h6 => ?_) (fun h6 => ?_)
            · have ei : i = t0 := by omega
              subst ei
              refine lv_aload_n hx hb dX1_retract_62 rfl (lv_at hl 0 rfl) ?_
              refine lv_iconst (v := rz_b (False)) hx hb dX1_retract_63 wk_ofF ?_
              refine xp_saturated C hs dX1_retract_64 (fun H locs hs => ?_)
              refine lv_iconst (v := nI (1)) hx hb dX1_retract_67 (by decide +kernel) ?_
              refine hret (rz_sh b q i, i, False, K, wc, vv, oo) hs ⟨⟨rz_bs_sh hB q1, hK, False.elim⟩, Or.inr ⟨j, hj, rfl, Or.inr ⟨⟨q, q1, q2⟩, rfl, ?_, rfl⟩⟩⟩ dX1_retract_68
              rw [← q2]
              exact rz_B_sh hB q1
            · refine lv_aload_n hx hb dX1_retract_42 rfl (lv_at hl 0 rfl) ?_
              refine xg_base C hs dX1_retract_43 ?_
              refine lv_iload_n hx hb dX1_retract_46 rfl (lv_at hl 1 rfl) ?_
              refine lv_aload_n hx hb dX1_retract_47 rfl (lv_at hl 0 rfl) ?_
              refine xg_base C hs dX1_retract_48 ?_
              refine lv_iload_n hx hb dX1_retract_51 rfl (lv_at hl 1 rfl) ?_
              refine lv_iconst (v := nI (1)) hx hb dX1_retract_52 (by decide +kernel) ?_
              refine lv_iadd hx hb dX1_retract_53 ?_
              refine wk_top (v := nI (i + 1)) (nI_add _ _) ?_
              refine xl_B C hs (by omega) dX1_retract_54 ?_
              refine wk_top (v := nI (b (i + 1))) (by rw [rz_sh_out (by omega)]) ?_
              refine xs_B C hs (by omega) (by have := hB.2.1 (i + 1) (by omega); omega) dX1_retract_55 (fun H locs hs => ?_)
              rw [rz_sh_s h0] at hs
              refine lv_iinc (v := nI (i + 1)) (lv' := [(3, .int (nI (i + 1))), (0, .ref (ad 0))]) hx hb dX1_retract_56 hl (k := 1) rfl (nI_add _ 1) (by decide) rfl (fun ls hl => ?_)
              refine lv_goto (tgt := 34) hx hb dX1_retract_59 (by decide) ?_
              exact ih (i + 1) (by omega) (by omega) (by omega) _ _ _ hs (lv_sub hl [1, 0] rfl)
        exact key (t0 + 1) q (Nat.le_refl q) (by omega) (by omega) _ _ _ (by rw [rz_sh_0]; exact hs) (lv_sub hl [2, 0] rfl)
      · exact absurd (nI_pos' (by omega)) h5
    · refine lv_istore_n (lv' := [(2, .int ((-1))), (0, .ref (ad 0)), (1, .int (nI (j)))]) hx hb dX1_retract_15 rfl hl (by decide) rfl (fun ls hl => ?_)
      refine lv_iload_n hx hb dX1_retract_16 rfl (lv_at hl 0 rfl) ?_
      refine lv_if_ge (tgt := 22) hx hb dX1_retract_17 (by decide) (fun h5 => ?_) (fun h5 => ?_)
      · exact absurd h5 (by decide +kernel)
      · refine lv_iconst (v := nI (0)) hx hb dX1_retract_20 (by decide +kernel) ?_
        exact hret (b, bs, sa, K, wc, vv, oo) hs ⟨⟨hB, hK, hsa⟩, Or.inr ⟨j, hj, rfl, Or.inl ⟨fun ⟨i, i1, i2⟩ => q1 i i1 i2, rfl, rfl, rfl⟩⟩⟩ dX1_retract_21
  · refine lv_iconst (v := (-1)) hx hb dX1_retract_8 (by decide +kernel) ?_
    exact hret (b, bs, sa, K, wc, vv, oo) hs ⟨⟨hB, hK, hsa⟩, Or.inl ⟨h, rfl, rfl, rfl⟩⟩ dX1_retract_9
set_option maxHeartbeats 4000000 in
set_option maxRecDepth 100000 in
theorem p1_implied (l : Launch) (D : va_G) (ad : Nat → Nat) (cA : Nat → ClassId) {n : Nat} (hn2 : 2 ≤ n) (hn : n ≤ 5) (b : Nat → Nat) (bs : Nat) (sa : Prop) (K : Nat → Prop) (wc : Nat) (vv oo : Nat → Nat) (hI : rz_IX n b bs sa K) (x : Int32) : wk_mI l yX1_implied cX1_implied 2 (some .boolean) (wk_rm 6 135) D (tX cA) (wX ad cA n b bs sa K (fun _ => False) wc vv oo) [.ref (ad 0), .int (x)] (S := rz_SX) (fun r u => r = rz_b (∃ j, j < 3 ^ n ∧ x = nI j ∧ rz_Fo n (rz_B b bs) j) ∧ rz_Same n b bs u) (wXu ad cA n) := by
  refine wk_mI.goZ RX1 (by decide) rfl (Nat.le_of_ble_eq_true rfl) ?_
  intro p e R s m args below meth c A ls Q C hR hs hl hret
  have hl : lv_has ls 2 [(0, .ref (ad 0)), (1, .int (x))] := hl
  have hx := C.1
  have hb := C.2.1
  have h3 := rz_p35 hn
  obtain ⟨hB, hK, hsa⟩ := hI
  have h12 := hB.1
  refine lv_aload_n hx hb dX1_implied_0 rfl (lv_at hl 0 rfl) ?_
  refine lv_iload_n hx hb dX1_implied_1 rfl (lv_at hl 1 rfl) ?_
  refine wk_calli (As := [.int (x)]) (rest := []) (q0 := 0) C hs (m1_isClause l D ad cA hn b bs sa K (fun _ => False) wc vv oo x) (cwX1_X1_isClause C.2.2.2.2.2.1 (hR.le (by decide) (by decide))) rfl rfl rfl hl.1 rfl (Nat.le_of_ble_eq_true rfl) dX1_implied_2 ⟨Nat.zero_le _, Nat.zero_le _⟩ (fun r u H locs hq hs => ?_)
  obtain rfl := hq
  refine bk_if_ne (tgt := 10) hx hb dX1_implied_5 (by decide) (fun h => ?_) (fun h => ?_)
  · obtain ⟨j, hj, rfl⟩ := h
    refine lv_aload_n hx hb dX1_implied_10 rfl (lv_at hl 0 rfl) ?_
    refine wk_callv (As := []) (rest := []) (q0 := 0) C hs (m1_saturate l D ad cA hn b bs sa K wc vv oo hB hK hsa) (cwX1_X1_saturate C.2.2.2.2.2.1 (hR.le (by decide) (by decide))) rfl rfl rfl hl.1 rfl (Nat.le_of_ble_eq_true rfl) dX1_implied_11 ⟨Nat.zero_le _, Nat.zero_le _⟩ (fun u H locs hq hs => ?_)
    obtain ⟨K1, w1⟩ := u
    have hok : rz_ok n K1 (rz_B b bs) := hq
    refine lv_aload_n hx hb dX1_implied_14 rfl (lv_at hl 0 rfl) ?_
    refine lv_iload_n hx hb dX1_implied_15 rfl (lv_at hl 1 rfl) ?_
    refine wk_calli (As := [.int (nI (j))]) (rest := []) (q0 := 0) C hs (m1_lowest l D ad cA hn b bs True K1 (fun _ => False) w1 vv oo hj) (cwX1_X1_lowestKeptWithin C.2.2.2.2.2.1 (hR.le (by decide) (by decide))) rfl rfl rfl hl.1 rfl (Nat.le_of_ble_eq_true rfl) dX1_implied_16 ⟨Nat.zero_le _, Nat.zero_le _⟩ (fun r u H locs hq hs => ?_)
    have hq := (rz_lo_sub hn hok.1 hj hq).trans (not_congr (rz_ok_Fo hok j))
    refine lv_if_lt (tgt := 26) hx hb dX1_implied_19 (by decide) (fun h5 => ?_) (fun h5 => ?_)
    · refine lv_iconst (v := 0) hx hb dX1_implied_26 (by decide +kernel) ?_
      refine hret _ (b, bs, True, K1, w1, vv, oo) hs (wk_0 (fun ⟨i, q1, q2, q3⟩ => hq.mp h5 ?_)) ⟨rfl, ⟨⟨hB, hok.1, fun _ => hok⟩, rfl, rfl⟩⟩ dX1_implied_27
      rw [(nI_eq (by omega) (by omega)).mp q2]
      exact q3
    · refine lv_iconst (v := 1) hx hb dX1_implied_22 (by decide +kernel) ?_
      refine lv_goto (tgt := 27) hx hb dX1_implied_23 (by decide) ?_
      exact hret _ (b, bs, True, K1, w1, vv, oo) hs (wk_1 ⟨j, hj, rfl, Classical.byContradiction fun z => h5 (hq.mpr z)⟩) ⟨rfl, ⟨⟨hB, hok.1, fun _ => hok⟩, rfl, rfl⟩⟩ dX1_implied_27
  · refine lv_iconst (v := 0) hx hb dX1_implied_8 (by decide +kernel) ?_
    exact hret _ (b, bs, sa, K, wc, vv, oo) hs (wk_0 (fun ⟨j, q1, q2, _⟩ => h ⟨j, q1, q2⟩)) ⟨rfl, ⟨⟨hB, hK, hsa⟩, rfl, rfl⟩⟩ dX1_implied_9
set_option maxHeartbeats 4000000 in
set_option maxRecDepth 100000 in
theorem p1_primes (l : Launch) (D : va_G) (ad : Nat → Nat) (cA : Nat → ClassId) {n : Nat} (hn2 : 2 ≤ n) (hn : n ≤ 5) (b : Nat → Nat) (bs : Nat) (sa : Prop) (K : Nat → Prop) (wc : Nat) (vv oo : Nat → Nat) (hI : rz_IX n b bs sa K) : wk_mI l yX1_primes cX1_primes 3 (some .int) (wk_rm 6 135) D (tX cA) (wX ad cA n b bs sa K (fun _ => False) wc vv oo) [.ref (ad 0)] (S := rz_SX) (fun r u => r = nI (rz_cn (rz_Pr n (rz_B b bs)) (3 ^ n)) ∧ rz_Same n b bs u) (wXu ad cA n) := by
  refine wk_mI.goI RX1 (by decide) rfl (Nat.le_of_ble_eq_true rfl) ?_
  intro p e R s m args below meth c A ls Q C hR hs hl hret
  have hl : lv_has ls 3 [(0, .ref (ad 0))] := hl
  have hx := C.1
  have hb := C.2.1
  have h3 := rz_p35 hn
  obtain ⟨hB, hK, hsa⟩ := hI
  have h12 := hB.1
  refine lv_aload_n hx hb dX1_primes_0 rfl (lv_at hl 0 rfl) ?_
  refine wk_callv (As := []) (rest := []) (q0 := 0) C hs (m1_saturate l D ad cA hn b bs sa K wc vv oo hB hK hsa) (cwX1_X1_saturate C.2.2.2.2.2.1 (hR.le (by decide) (by decide))) rfl rfl rfl hl.1 rfl (Nat.le_of_ble_eq_true rfl) dX1_primes_1 ⟨Nat.zero_le _, Nat.zero_le _⟩ (fun u H locs hq hs => ?_)
  obtain ⟨K1, w1⟩ := u
  have hok : rz_ok n K1 (rz_B b bs) := hq
  refine lv_iconst (v := nI (0)) hx hb dX1_primes_4 (by decide +kernel) ?_
  refine lv_istore_n (lv' := [(1, .int (nI (0))), (0, .ref (ad 0))]) hx hb dX1_primes_5 rfl hl (by decide) rfl (fun ls hl => ?_)
  refine lv_iconst (v := nI (0)) hx hb dX1_primes_6 (by decide +kernel) ?_
  refine lv_istore_n (lv' := [(2, .int (nI (0))), (1, .int (nI (0))), (0, .ref (ad 0))]) hx hb dX1_primes_7 rfl hl (by decide) rfl (fun ls hl => ?_)
  have key : ∀ (k : Nat) (i t : Nat), i ≤ 3 ^ n → 3 ^ n < i + k → t = rz_cn K1 i → ∀ (H : Heap) (locs : List Loc) (ls : Array Slot), wk_S A s D (tX cA) (wX ad cA n b bs True K1 (fun _ => False) w1 vv oo) H locs → lv_has ls 3 [(0, .ref (ad 0)), (1, .int (nI (t))), (2, .int (nI (i)))] → W p l e R s m args below meth c H locs 0 0 Q (F0 m 8 ls []) := by
    intro k
    induction k with
    | zero => intro i t h1 h2 h4; exact absurd h2 (by omega)
    | succ k ih =>
      intro i t h1 h2 h4 H locs ls hs hl
      refine lv_iload_n hx hb dX1_primes_8 rfl (lv_at hl 2 rfl) ?_
      refine lv_aload_n hx hb dX1_primes_9 rfl (lv_at hl 0 rfl) ?_
      refine xg_clauseCount C hs dX1_primes_10 ?_
      refine nk_ge (tgt := 34) hx hb (by omega) (by omega) dX1_primes_13 (by decide) (fun h => ?_) (fun h => ?_)
      · refine lv_iload_n hx hb dX1_primes_34 rfl (lv_at hl 1 rfl) ?_
        have ei : i = 3 ^ n := by omega
        subst ei
        refine hret (b, bs, True, K1, w1, vv, oo) hs ⟨?_, ⟨⟨hB, hok.1, fun _ => hok⟩, rfl, rfl⟩⟩ dX1_primes_35
        rw [h4]
        exact congrArg nI (rz_cn_congr _ (fun c hc => rz_ok_Pr hok hc))
      · refine lv_aload_n hx hb dX1_primes_16 rfl (lv_at hl 0 rfl) ?_
        refine xg_kept C hs dX1_primes_17 ?_
        refine lv_iload_n hx hb dX1_primes_20 rfl (lv_at hl 2 rfl) ?_
        refine xl_K C hs (by omega) dX1_primes_21 ?_
        refine bk_if_eq (tgt := 28) hx hb dX1_primes_22 (by decide) (fun hk => ?_) (fun hk => ?_)
        · refine lv_iinc (v := nI (i + 1)) (lv' := [(2, .int (nI (i + 1))), (0, .ref (ad 0)), (1, .int (nI (t)))]) hx hb dX1_primes_28 hl (k := 2) rfl (nI_add _ 1) (by decide) rfl (fun ls hl => ?_)
          refine lv_goto (tgt := 8) hx hb dX1_primes_31 (by decide) ?_
          exact ih (i + 1) t (by omega) (by omega) (by rw [rz_cnN hk]; exact h4) _ _ _ hs (lv_sub hl [1, 2, 0] rfl)
        · refine lv_iinc (v := nI (t + 1)) (lv' := [(1, .int (nI (t + 1))), (0, .ref (ad 0)), (2, .int (nI (i)))]) hx hb dX1_primes_25 hl (k := 1) rfl (nI_add _ 1) (by decide) rfl (fun ls hl => ?_)
          refine lv_iinc (v := nI (i + 1)) (lv' := [(2, .int (nI (i + 1))), (1, .int (nI (t + 1))), (0, .ref (ad 0))]) hx hb dX1_primes_28 hl (k := 2) rfl (nI_add _ 1) (by decide) rfl (fun ls hl => ?_)
          refine lv_goto (tgt := 8) hx hb dX1_primes_31 (by decide) ?_
          exact ih (i + 1) (t + 1) (by omega) (by omega) (by rw [rz_cnS hk, h4]) _ _ _ hs (lv_sub hl [2, 1, 0] rfl)
  exact key (3 ^ n + 1) 0 0 (Nat.zero_le _) (by omega) rfl _ _ _ hs (lv_sub hl [2, 1, 0] rfl)
set_option maxHeartbeats 4000000 in
set_option maxRecDepth 100000 in
theorem p1_prime (l : Launch) (D : va_G) (ad : Nat → Nat) (cA : Nat → ClassId) {n : Nat} (hn2 : 2 ≤ n) (hn : n ≤ 5) (b : Nat → Nat) (bs : Nat) (sa : Prop) (K : Nat → Prop) (wc : Nat) (vv oo : Nat → Nat) (hI : rz_IX n b bs sa K) (x : Int32) : wk_mI l yX1_prime cX1_prime 4 (some .int) (wk_rm 6 135) D (tX cA) (wX ad cA n b bs sa K (fun _ => False) wc vv oo) [.ref (ad 0), .int (x)] (S := rz_SX) (fun r u => rz_lo (3 ^ n) (fun d => rz_Pr n (rz_B b bs) d ∧ x = nI (rz_cn (rz_Pr n (rz_B b bs)) d)) r ∧ rz_Same n b bs u) (wXu ad cA n) := by
  refine wk_mI.goI RX1 (by decide) rfl (Nat.le_of_ble_eq_true rfl) ?_
  intro p e R s m args below meth c A ls Q C hR hs hl hret
  have hl : lv_has ls 4 [(0, .ref (ad 0)), (1, .int (x))] := hl
  have hx := C.1
  have hb := C.2.1
  have h3 := rz_p35 hn
  obtain ⟨hB, hK, hsa⟩ := hI
  have h12 := hB.1
  refine lv_aload_n hx hb dX1_prime_0 rfl (lv_at hl 0 rfl) ?_
  refine wk_callv (As := []) (rest := []) (q0 := 0) C hs (m1_saturate l D ad cA hn b bs sa K wc vv oo hB hK hsa) (cwX1_X1_saturate C.2.2.2.2.2.1 (hR.le (by decide) (by decide))) rfl rfl rfl hl.1 rfl (Nat.le_of_ble_eq_true rfl) dX1_prime_1 ⟨Nat.zero_le _, Nat.zero_le _⟩ (fun u H locs hq hs => ?_)
  obtain ⟨K1, w1⟩ := u
  have hok : rz_ok n K1 (rz_B b bs) := hq
  refine lv_iload_n hx hb dX1_prime_4 rfl (lv_at hl 1 rfl) ?_
  refine lv_istore_n (lv' := [(2, .int (x)), (0, .ref (ad 0)), (1, .int (x))]) hx hb dX1_prime_5 rfl hl (by decide) rfl (fun ls hl => ?_)
  refine lv_iconst (v := nI (0)) hx hb dX1_prime_6 (by decide +kernel) ?_
  refine lv_istore_n (lv' := [(3, .int (nI (0))), (2, .int (x)), (0, .ref (ad 0)), (1, .int (x))]) hx hb dX1_prime_7 rfl hl (by decide) rfl (fun ls hl => ?_)
  have key : ∀ (k : Nat) (i : Nat) (lf : Int32), i ≤ 3 ^ n → 3 ^ n < i + k → lf = x - nI (rz_cn K1 i) → (∀ d, d < i → ¬ (K1 d ∧ x = nI (rz_cn K1 d))) → ∀ (H : Heap) (locs : List Loc) (ls : Array Slot), wk_S A s D (tX cA) (wX ad cA n b bs True K1 (fun _ => False) w1 vv oo) H locs → lv_has ls 4 [(0, .ref (ad 0)), (2, .int (lf)), (3, .int (nI (i)))] → W p l e R s m args below meth c H locs 0 0 Q (F0 m 8 ls []) := by
    intro k
    induction k with
    | zero => intro i lf h1 h2 h4 h5; exact absurd h2 (by omega)
    | succ k ih =>
      intro i lf h1 h2 h4 h5 H locs ls hs hl
      refine lv_iload_n hx hb dX1_prime_8 rfl (lv_at hl 2 rfl) ?_
      refine lv_aload_n hx hb dX1_prime_9 rfl (lv_at hl 0 rfl) ?_
      refine xg_clauseCount C hs dX1_prime_10 ?_
      refine nk_ge (tgt := 43) hx hb (by omega) (by omega) dX1_prime_13 (by decide) (fun h => ?_) (fun h => ?_)
      · refine lv_bipush (v := (-2)) hx hb dX1_prime_43 (by decide +kernel) ?_
        have ei : i = 3 ^ n := by omega
        subst ei
        refine hret (b, bs, True, K1, w1, vv, oo) hs ⟨rz_lo_c (P := fun d => K1 d ∧ x = nI (rz_cn K1 d)) (Or.inr ⟨h5, rfl⟩) (fun d hd => and_congr (rz_ok_Pr hok hd) (by rw [rz_cn_congr d (fun c hc => rz_ok_Pr hok (Nat.lt_trans hc hd))])), ⟨⟨hB, hok.1, fun _ => hok⟩, rfl, rfl⟩⟩ dX1_prime_45
      · refine lv_aload_n hx hb dX1_prime_16 rfl (lv_at hl 0 rfl) ?_
        refine xg_kept C hs dX1_prime_17 ?_
        refine lv_iload_n hx hb dX1_prime_20 rfl (lv_at hl 2 rfl) ?_
        refine xl_K C hs (by omega) dX1_prime_21 ?_
        refine bk_if_ne (tgt := 28) hx hb dX1_prime_22 (by decide) (fun hk => ?_) (fun hk => ?_)
        · refine lv_iload_n hx hb dX1_prime_28 rfl (lv_at hl 1 rfl) ?_
          refine lv_if_ne (tgt := 34) hx hb dX1_prime_29 (by decide) (fun h6 => ?_) (fun h6 => ?_)
          · refine lv_iinc (v := lf + (-1)) (lv' := [(2, .int (lf + (-1))), (0, .ref (ad 0)), (3, .int (nI (i)))]) hx hb dX1_prime_34 hl (k := 1) rfl rfl (by decide) rfl (fun ls hl => ?_)
            refine lv_iinc (v := nI (i + 1)) (lv' := [(3, .int (nI (i + 1))), (2, .int (lf + (-1))), (0, .ref (ad 0))]) hx hb dX1_prime_37 hl (k := 2) rfl (nI_add _ 1) (by decide) rfl (fun ls hl => ?_)
            refine lv_goto (tgt := 8) hx hb dX1_prime_40 (by decide) ?_
            refine ih (i + 1) _ (by omega) (by omega) (by rw [rz_cnS hk, h4]; exact rz_s1 _ _) (fun d hd => ?_) _ _ _ hs (lv_sub hl [2, 1, 0] rfl)
            by_cases e : d = i
            · rw [e]; exact fun z => rz_sn (h4 ▸ h6) z.2
            · exact h5 d (by omega)
          · refine lv_iload_n hx hb dX1_prime_32 rfl (lv_at hl 2 rfl) ?_
            refine hret (b, bs, True, K1, w1, vv, oo) hs ⟨rz_lo_c (P := fun d => K1 d ∧ x = nI (rz_cn K1 d)) (Or.inl ⟨i, h, ⟨hk, rz_s0 (h4 ▸ h6)⟩, h5, rfl⟩) (fun d hd => and_congr (rz_ok_Pr hok hd) (by rw [rz_cn_congr d (fun c hc => rz_ok_Pr hok (Nat.lt_trans hc hd))])), ⟨⟨hB, hok.1, fun _ => hok⟩, rfl, rfl⟩⟩ dX1_prime_33
        · refine lv_goto (tgt := 37) hx hb dX1_prime_25 (by decide) ?_
          refine lv_iinc (v := nI (i + 1)) (lv' := [(3, .int (nI (i + 1))), (0, .ref (ad 0)), (2, .int (lf))]) hx hb dX1_prime_37 hl (k := 2) rfl (nI_add _ 1) (by decide) rfl (fun ls hl => ?_)
          refine lv_goto (tgt := 8) hx hb dX1_prime_40 (by decide) ?_
          refine ih (i + 1) _ (by omega) (by omega) (by rw [rz_cnN hk]; exact h4) (fun d hd => ?_) _ _ _ hs (lv_sub hl [1, 2, 0] rfl)
          by_cases e : d = i
          · rw [e]; exact fun z => hk z.1
          · exact h5 d (by omega)
  exact key (3 ^ n + 1) 0 x (Nat.zero_le _) (by omega) (by show x = x - 0; grind) (fun t ht => absurd ht (Nat.not_lt_zero t)) _ _ _ hs (lv_sub hl [2, 1, 0] rfl)
set_option maxHeartbeats 4000000 in
set_option maxRecDepth 100000 in
theorem p1_primeWithin (l : Launch) (D : va_G) (ad : Nat → Nat) (cA : Nat → ClassId) {n : Nat} (hn2 : 2 ≤ n) (hn : n ≤ 5) (b : Nat → Nat) (bs : Nat) (sa : Prop) (K : Nat → Prop) (wc : Nat) (vv oo : Nat → Nat) (hI : rz_IX n b bs sa K) (x : Int32) : wk_mI l yX1_primeWithin cX1_primeWithin 2 (some .int) (wk_rm 6 135) D (tX cA) (wX ad cA n b bs sa K (fun _ => False) wc vv oo) [.ref (ad 0), .int (x)] (S := rz_SX) (fun r u => (((¬ ∃ j, j < 3 ^ n ∧ x = nI j) ∧ r = -1) ∨ ∃ j, j < 3 ^ n ∧ x = nI j ∧ rz_lo (3 ^ n) (fun d => rz_W n d j ∧ rz_Pr n (rz_B b bs) d) r) ∧ rz_Same n b bs u) (wXu ad cA n) := by
  refine wk_mI.goI RX1 (by decide) rfl (Nat.le_of_ble_eq_true rfl) ?_
  intro p e R s m args below meth c A ls Q C hR hs hl hret
  have hl : lv_has ls 2 [(0, .ref (ad 0)), (1, .int (x))] := hl
  have hx := C.1
  have hb := C.2.1
  have h3 := rz_p35 hn
  obtain ⟨hB, hK, hsa⟩ := hI
  have h12 := hB.1
  refine lv_aload_n hx hb dX1_primeWithin_0 rfl (lv_at hl 0 rfl) ?_
  refine lv_iload_n hx hb dX1_primeWithin_1 rfl (lv_at hl 1 rfl) ?_
  refine wk_calli (As := [.int (x)]) (rest := []) (q0 := 0) C hs (m1_isClause l D ad cA hn b bs sa K (fun _ => False) wc vv oo x) (cwX1_X1_isClause C.2.2.2.2.2.1 (hR.le (by decide) (by decide))) rfl rfl rfl hl.1 rfl (Nat.le_of_ble_eq_true rfl) dX1_primeWithin_2 ⟨Nat.zero_le _, Nat.zero_le _⟩ (fun r u H locs hq hs => ?_)
  obtain rfl := hq
  refine bk_if_ne (tgt := 10) hx hb dX1_primeWithin_5 (by decide) (fun h => ?_) (fun h => ?_)
  · obtain ⟨j, hj, rfl⟩ := h
    refine lv_aload_n hx hb dX1_primeWithin_10 rfl (lv_at hl 0 rfl) ?_
    refine wk_callv (As := []) (rest := []) (q0 := 0) C hs (m1_saturate l D ad cA hn b bs sa K wc vv oo hB hK hsa) (cwX1_X1_saturate C.2.2.2.2.2.1 (hR.le (by decide) (by decide))) rfl rfl rfl hl.1 rfl (Nat.le_of_ble_eq_true rfl) dX1_primeWithin_11 ⟨Nat.zero_le _, Nat.zero_le _⟩ (fun u H locs hq hs => ?_)
    obtain ⟨K1, w1⟩ := u
    have hok : rz_ok n K1 (rz_B b bs) := hq
    refine lv_aload_n hx hb dX1_primeWithin_14 rfl (lv_at hl 0 rfl) ?_
    refine lv_iload_n hx hb dX1_primeWithin_15 rfl (lv_at hl 1 rfl) ?_
    refine wk_calli (As := [.int (nI (j))]) (rest := []) (q0 := 0) C hs (m1_lowest l D ad cA hn b bs True K1 (fun _ => False) w1 vv oo hj) (cwX1_X1_lowestKeptWithin C.2.2.2.2.2.1 (hR.le (by decide) (by decide))) rfl rfl rfl hl.1 rfl (Nat.le_of_ble_eq_true rfl) dX1_primeWithin_16 ⟨Nat.zero_le _, Nat.zero_le _⟩ (fun r u H locs hq hs => ?_)
    refine hret (b, bs, True, K1, w1, vv, oo) hs ⟨Or.inr ⟨j, hj, rfl, ?_⟩, ⟨⟨hB, hok.1, fun _ => hok⟩, rfl, rfl⟩⟩ dX1_primeWithin_19
    refine rz_lo_c (rz_lo_w hq hj (fun d _ z => ?_)) (fun d hd => ?_)
    · have := rz_W_le (hok.1 d z.1) hj z.2
      omega
    · rw [rz_ok_Pr hok hd]
      exact And.comm
  · refine lv_iconst (v := (-1)) hx hb dX1_primeWithin_8 (by decide +kernel) ?_
    exact hret (b, bs, sa, K, wc, vv, oo) hs ⟨Or.inl ⟨h, rfl⟩, ⟨⟨hB, hK, hsa⟩, rfl, rfl⟩⟩ dX1_primeWithin_9
end
end
section
/-! OrderedResolver: models, leastModel, redundant -/
section
set_option maxHeartbeats 4000000 in
set_option maxRecDepth 100000 in
theorem p1_models (l : Launch) (D : va_G) (ad : Nat → Nat) (cA : Nat → ClassId) {n : Nat} (hn2 : 2 ≤ n) (hn : n ≤ 5) (b : Nat → Nat) (bs : Nat) (sa : Prop) (K : Nat → Prop) (wc : Nat) (vv oo : Nat → Nat) (hI : rz_IX n b bs sa K) : wk_mI l yX1_models cX1_models 6 (some .int) (wk_rm 6 135) D (tX cA) (wX ad cA n b bs sa K (fun _ => False) wc vv oo) [.ref (ad 0)] (S := rz_SX) (fun r u => r = nI (rz_cn (rz_M n (rz_B b bs)) (2 ^ n)) ∧ rz_Same n b bs u) (wXu ad cA n) := by
  refine wk_mI.goI RX1 (by decide) rfl (Nat.le_of_ble_eq_true rfl) ?_
  intro p e R s m args below meth c A ls Q C hR hs hl hret
  have hl : lv_has ls 6 [(0, .ref (ad 0))] := hl
  have hx := C.1
  have hb := C.2.1
  have h3 := rz_p35 hn
  obtain ⟨hB, hK, hsa⟩ := hI
  have h12 := hB.1
  refine lv_aload_n hx hb dX1_models_0 rfl (lv_at hl 0 rfl) ?_
  refine wk_callv (As := []) (rest := []) (q0 := 0) C hs (m1_saturate l D ad cA hn b bs sa K wc vv oo hB hK hsa) (cwX1_X1_saturate C.2.2.2.2.2.1 (hR.le (by decide) (by decide))) rfl rfl rfl hl.1 rfl (Nat.le_of_ble_eq_true rfl) dX1_models_1 ⟨Nat.zero_le _, Nat.zero_le _⟩ (fun u H locs hq hs => ?_)
  obtain ⟨K1, w1⟩ := u
  have hok : rz_ok n K1 (rz_B b bs) := hq
  refine lv_iconst (v := nI (0)) hx hb dX1_models_4 (by decide +kernel) ?_
  refine lv_istore_n (lv' := [(1, .int (nI (0))), (0, .ref (ad 0))]) hx hb dX1_models_5 rfl hl (by decide) rfl (fun ls hl => ?_)
  refine lv_iconst (v := nI (1)) hx hb dX1_models_6 (by decide +kernel) ?_
  refine lv_istore_n (lv' := [(2, .int (nI (1))), (1, .int (nI (0))), (0, .ref (ad 0))]) hx hb dX1_models_7 rfl hl (by decide) rfl (fun ls hl => ?_)
  refine lv_aload_n hx hb dX1_models_8 rfl (lv_at hl 2 rfl) ?_
  refine xg_openValues C hs dX1_models_9 ?_
  refine lv_iconst (v := nI (0)) hx hb dX1_models_12 (by decide +kernel) ?_
  refine lv_iconst (v := nI (0)) hx hb dX1_models_13 (by decide +kernel) ?_
  refine xs_V C hs (by omega) (by omega) dX1_models_14 (fun H locs hs => ?_)
  refine lv_aload_n hx hb dX1_models_15 rfl (lv_at hl 2 rfl) ?_
  refine xg_openCount C hs dX1_models_16 ?_
  refine lv_iconst (v := nI (0)) hx hb dX1_models_19 (by decide +kernel) ?_
  refine lv_iconst (v := nI (0)) hx hb dX1_models_20 (by decide +kernel) ?_
  refine xs_O C hs (by omega) (by omega) dX1_models_21 (fun H locs hs => ?_)
  refine lv_iconst (v := nI (0)) hx hb dX1_models_22 (by decide +kernel) ?_
  refine lv_istore_n (lv' := [(3, .int (nI (0))), (2, .int (nI (1))), (1, .int (nI (0))), (0, .ref (ad 0))]) hx hb dX1_models_23 rfl hl (by decide) rfl (fun ls hl => ?_)
  have key : ∀ (k : Nat) (st tot top : Nat) (v1 o1 : Nat → Nat), st ≤ 64 → 64 < st + k → rz_I n (rz_M n (rz_B b bs)) tot st top v1 o1 → ∀ (H : Heap) (locs : List Loc) (ls : Array Slot), wk_S A s D (tX cA) (wX ad cA n b bs True K1 (fun _ => False) w1 v1 o1) H locs → lv_has ls 6 [(0, .ref (ad 0)), (1, .int (nI (tot))), (2, .int (nI (top))), (3, .int (nI (st)))] → W p l e R s m args below meth c H locs 0 0 Q (F0 m 24 ls []) := by
    intro k
    induction k with
    | zero => intro st tot top v1 o1 h1 h2 hJ; exact absurd h2 (by omega)
    | succ k ih =>
      intro st tot top v1 o1 h1 h2 hJ H locs ls hs hl
      have hst := hJ.2.2
      have htop : top ≤ 6 := by
        rcases Nat.eq_zero_or_pos top with q | q
        · omega
        · have := hJ.1 (top - 1) (by omega)
          omega
      refine lv_iload_n hx hb dX1_models_24 rfl (lv_at hl 3 rfl) ?_
      refine lv_bipush (v := nI (64)) hx hb dX1_models_25 (by decide +kernel) ?_
      refine nk_ge (tgt := 144) hx hb (by omega) (by omega) dX1_models_27 (by decide) (fun h => ?_) (fun h => ?_)
      · exact absurd h (by omega)
      · refine lv_iload_n hx hb dX1_models_30 rfl (lv_at hl 2 rfl) ?_
        refine nk_if_le (tgt := 144) hx hb (by omega) dX1_models_31 (by decide) (fun h5 => ?_) (fun h5 => ?_)
        · subst h5
          refine lv_iload_n hx hb dX1_models_144 rfl (lv_at hl 1 rfl) ?_
          refine hret (b, bs, True, K1, w1, v1, o1) hs ⟨?_, ⟨⟨hB, hok.1, fun _ => hok⟩, rfl, rfl⟩⟩ dX1_models_145
          exact congrArg nI hJ.2.1
        · obtain ⟨q, rfl⟩ : ∃ q, top = q + 1 := ⟨top - 1, by omega⟩
          obtain ⟨j1, j2, j3⟩ := hJ.1 q (by omega)
          have hp := rz_p2 (o1 q)
          have hp5 : 2 ^ (o1 q) ≤ 32 := rz_p25 (by omega)
          have hbr := rz_br_mc hn hok j1 j2
          refine lv_iinc (v := nI (q)) (lv' := [(2, .int (nI (q))), (0, .ref (ad 0)), (1, .int (nI (tot))), (3, .int (nI (st)))]) hx hb dX1_models_34 hl (k := 2) rfl (pk_m1 q) (by decide) rfl (fun ls hl => ?_)
          refine lv_aload_n hx hb dX1_models_37 rfl (lv_at hl 1 rfl) ?_
          refine xg_openValues C hs dX1_models_38 ?_
          refine lv_iload_n hx hb dX1_models_41 rfl (lv_at hl 0 rfl) ?_
          refine xl_V C hs (by omega) dX1_models_42 ?_
          refine lv_istore (lv' := [(4, .int (nI (v1 q))), (2, .int (nI (q))), (0, .ref (ad 0)), (1, .int (nI (tot))), (3, .int (nI (st)))]) hx hb dX1_models_43 hl (by decide) rfl (fun ls hl => ?_)
          refine lv_aload_n hx hb dX1_models_45 rfl (lv_at hl 2 rfl) ?_
          refine xg_openCount C hs dX1_models_46 ?_
          refine lv_iload_n hx hb dX1_models_49 rfl (lv_at hl 1 rfl) ?_
          refine xl_O C hs (by omega) dX1_models_50 ?_
          refine lv_istore (lv' := [(5, .int (nI (o1 q))), (4, .int (nI (v1 q))), (2, .int (nI (q))), (0, .ref (ad 0)), (1, .int (nI (tot))), (3, .int (nI (st)))]) hx hb dX1_models_51 hl (by decide) rfl (fun ls hl => ?_)
          refine lv_aload_n hx hb dX1_models_53 rfl (lv_at hl 3 rfl) ?_
          refine lv_iconst (v := nI (1)) hx hb dX1_models_54 (by decide +kernel) ?_
          refine lv_iload hx hb dX1_models_55 (lv_at hl 0 rfl) ?_
          refine lv_ishl hx hb dX1_models_57 ?_
          refine wk_top (v := nI (2 ^ (o1 q))) (wk_shl (by omega)) ?_
          refine lv_iconst (v := nI (1)) hx hb dX1_models_58 (by decide +kernel) ?_
          refine lv_isub hx hb dX1_models_59 ?_
          refine wk_top (v := nI (2 ^ (o1 q) - 1)) (pk_sub hp) ?_
          refine lv_iload hx hb dX1_models_60 (lv_at hl 1 rfl) ?_
          refine wk_calli (As := [.int (nI (2 ^ (o1 q) - 1)), .int (nI (v1 q))]) (rest := []) (q0 := 0) C hs (m1_breaks l D ad cA hn b bs True K1 (fun _ => False) w1 v1 o1 (2 ^ (o1 q) - 1) (v1 q)) (cwX1_X1_breaks C.2.2.2.2.2.1 (hR.le (by decide) (by decide))) rfl rfl rfl hl.1 rfl (Nat.le_of_ble_eq_true rfl) dX1_models_62 ⟨Nat.zero_le _, Nat.zero_le _⟩ (fun r u H locs hq hs => ?_)
          obtain rfl := hq
          refine bk_if_eq (tgt := 71) hx hb dX1_models_65 (by decide) (fun h6 => ?_) (fun h6 => ?_)
          · refine lv_iload hx hb dX1_models_71 (lv_at hl 0 rfl) ?_
            refine lv_aload_n hx hb dX1_models_73 rfl (lv_at hl 3 rfl) ?_
            refine xg_variableCount C hs dX1_models_74 ?_
            refine nk_ne (tgt := 86) hx hb (by omega) (by omega) dX1_models_77 (by decide) (fun h7 => ?_) (fun h7 => ?_)
            · have hor := rz_or_pow j2
              have ho32 : v1 q ||| 2 ^ (o1 q) < 32 := Nat.or_lt_two_pow (n := 5) (by omega) (Nat.lt_of_lt_of_le (Nat.pow_lt_pow_right (by decide) (show o1 q < n by omega)) (rz_p25 hn))
              refine lv_aload_n hx hb dX1_models_86 rfl (lv_at hl 3 rfl) ?_
              refine xg_openValues C hs dX1_models_87 ?_
              refine lv_iload_n hx hb dX1_models_90 rfl (lv_at hl 2 rfl) ?_
              refine lv_iload hx hb dX1_models_91 (lv_at hl 1 rfl) ?_
              refine lv_i2b (v := nI (v1 q)) hx hb dX1_models_93 (wk_byte _ (by omega)) ?_
              refine xs_V C hs (by omega) (by omega) dX1_models_94 (fun H locs hs => ?_)
              refine lv_aload_n hx hb dX1_models_95 rfl (lv_at hl 3 rfl) ?_
              refine xg_openCount C hs dX1_models_96 ?_
              refine lv_iload_n hx hb dX1_models_99 rfl (lv_at hl 2 rfl) ?_
              refine lv_iload hx hb dX1_models_100 (lv_at hl 0 rfl) ?_
              refine lv_iconst (v := nI (1)) hx hb dX1_models_102 (by decide +kernel) ?_
              refine lv_iadd hx hb dX1_models_103 ?_
              refine wk_top (v := nI (o1 q + 1)) (nI_add _ _) ?_
              refine lv_i2b (v := nI (o1 q + 1)) hx hb dX1_models_104 (wk_byte _ (by omega)) ?_
              refine xs_O C hs (by omega) (by omega) dX1_models_105 (fun H locs hs => ?_)
              refine lv_aload_n hx hb dX1_models_106 rfl (lv_at hl 3 rfl) ?_
              refine xg_openValues C hs dX1_models_107 ?_
              refine lv_iload_n hx hb dX1_models_110 rfl (lv_at hl 2 rfl) ?_
              refine lv_iconst (v := nI (1)) hx hb dX1_models_111 (by decide +kernel) ?_
              refine lv_iadd hx hb dX1_models_112 ?_
              refine wk_top (v := nI (q + 1)) (nI_add _ _) ?_
              refine lv_iload hx hb dX1_models_113 (lv_at hl 1 rfl) ?_
              refine lv_iconst (v := nI (1)) hx hb dX1_models_115 (by decide +kernel) ?_
              refine lv_iload hx hb dX1_models_116 (lv_at hl 0 rfl) ?_
              refine lv_ishl hx hb dX1_models_118 ?_
              refine wk_top (v := nI (2 ^ (o1 q))) (wk_shl (by omega)) ?_
              refine lv_ior hx hb dX1_models_119 ?_
              refine wk_top (v := nI ((v1 q) ||| (2 ^ (o1 q)))) (wk_or _ _) ?_
              refine lv_i2b (v := nI ((v1 q) ||| (2 ^ (o1 q)))) hx hb dX1_models_120 (wk_byte _ (by omega)) ?_
              refine xs_V C hs (by omega) (by omega) dX1_models_121 (fun H locs hs => ?_)
              refine lv_aload_n hx hb dX1_models_122 rfl (lv_at hl 3 rfl) ?_
              refine xg_openCount C hs dX1_models_123 ?_
              refine lv_iload_n hx hb dX1_models_126 rfl (lv_at hl 2 rfl) ?_
              refine lv_iconst (v := nI (1)) hx hb dX1_models_127 (by decide +kernel) ?_
              refine lv_iadd hx hb dX1_models_128 ?_
              refine wk_top (v := nI (q + 1)) (nI_add _ _) ?_
              refine lv_iload hx hb dX1_models_129 (lv_at hl 0 rfl) ?_
              refine lv_iconst (v := nI (1)) hx hb dX1_models_131 (by decide +kernel) ?_
              refine lv_iadd hx hb dX1_models_132 ?_
              refine wk_top (v := nI (o1 q + 1)) (nI_add _ _) ?_
              refine lv_i2b (v := nI (o1 q + 1)) hx hb dX1_models_133 (wk_byte _ (by omega)) ?_
              refine xs_O C hs (by omega) (by omega) dX1_models_134 (fun H locs hs => ?_)
              refine lv_iinc (v := nI (q + 2)) (lv' := [(2, .int (nI (q + 2))), (5, .int (nI (o1 q))), (4, .int (nI (v1 q))), (0, .ref (ad 0)), (1, .int (nI (tot))), (3, .int (nI (st)))]) hx hb dX1_models_135 hl (k := 2) rfl (nI_add _ 2) (by decide) rfl (fun ls hl => ?_)
              refine lv_iinc (v := nI (st + 1)) (lv' := [(3, .int (nI (st + 1))), (2, .int (nI (q + 2))), (5, .int (nI (o1 q))), (4, .int (nI (v1 q))), (0, .ref (ad 0)), (1, .int (nI (tot)))]) hx hb dX1_models_138 hl (k := 5) rfl (nI_add _ 1) (by decide) rfl (fun ls hl => ?_)
              refine lv_goto (tgt := 24) hx hb dX1_models_141 (by decide) ?_
              refine ih (st + 1) tot (q + 2) _ _ (by omega) (by omega) (rz_I_push hJ (by omega) (fun i hi => ⟨?_, ?_⟩) ⟨?_, ?_⟩ ⟨rz_up_s _ _ _, rz_up_s _ _ _⟩) _ _ _ hs (lv_sub hl [4, 5, 1, 0] rfl)
              · rw [rz_up_n (by omega), rz_up_n (by omega)]
              · rw [rz_up_n (by omega), rz_up_n (by omega)]
              · rw [rz_up_n (by omega), rz_up_s]
              · rw [rz_up_n (by omega), rz_up_s]
            · refine lv_iinc (v := nI (tot + 1)) (lv' := [(1, .int (nI (tot + 1))), (5, .int (nI (o1 q))), (4, .int (nI (v1 q))), (2, .int (nI (q))), (0, .ref (ad 0)), (3, .int (nI (st)))]) hx hb dX1_models_80 hl (k := 4) rfl (nI_add _ 1) (by decide) rfl (fun ls hl => ?_)
              refine lv_goto (tgt := 138) hx hb dX1_models_83 (by decide) ?_
              refine lv_iinc (v := nI (st + 1)) (lv' := [(3, .int (nI (st + 1))), (1, .int (nI (tot + 1))), (5, .int (nI (o1 q))), (4, .int (nI (v1 q))), (2, .int (nI (q))), (0, .ref (ad 0))]) hx hb dX1_models_138 hl (k := 5) rfl (nI_add _ 1) (by decide) rfl (fun ls hl => ?_)
              refine lv_goto (tgt := 24) hx hb dX1_models_141 (by decide) ?_
              refine ih (st + 1) (tot + 1) q v1 o1 (by omega) (by omega) (rz_I_pop hJ ?_) _ _ _ hs (lv_sub hl [5, 1, 4, 0] rfl)
              have e1 := rz_mc_full (n := n) (rz_M n (rz_B b bs)) (w := v1 q) (by rw [← h7]; exact j2)
              have e2 := rz_i_le ((rz_M n (rz_B b bs)) (v1 q))
              have e3 : ¬ rz_mc n (rz_M n (rz_B b bs)) (o1 q) (v1 q) = 0 := fun z => h6 (hbr.mpr z)
              rw [h7] at e3 ⊢
              omega
          · refine lv_goto (tgt := 138) hx hb dX1_models_68 (by decide) ?_
            refine lv_iinc (v := nI (st + 1)) (lv' := [(3, .int (nI (st + 1))), (5, .int (nI (o1 q))), (4, .int (nI (v1 q))), (2, .int (nI (q))), (0, .ref (ad 0)), (1, .int (nI (tot)))]) hx hb dX1_models_138 hl (k := 5) rfl (nI_add _ 1) (by decide) rfl (fun ls hl => ?_)
            refine lv_goto (tgt := 24) hx hb dX1_models_141 (by decide) ?_
            exact ih (st + 1) tot q v1 o1 (by omega) (by omega) (rz_I_pop hJ (hbr.mp h6)) _ _ _ hs (lv_sub hl [4, 5, 3, 0] rfl)
  exact key 65 0 0 1 _ _ (by omega) (by omega) (rz_I_init hn _ (rz_up_s _ _ _) (rz_up_s _ _ _)) _ _ _ hs (lv_sub hl [3, 2, 1, 0] rfl)
set_option maxHeartbeats 4000000 in
set_option maxRecDepth 100000 in
theorem p1_leastModel (l : Launch) (D : va_G) (ad : Nat → Nat) (cA : Nat → ClassId) {n : Nat} (hn2 : 2 ≤ n) (hn : n ≤ 5) (b : Nat → Nat) (bs : Nat) (sa : Prop) (K : Nat → Prop) (wc : Nat) (vv oo : Nat → Nat) (hI : rz_IX n b bs sa K) (xn yn : Nat) : wk_mI l yX1_leastModel cX1_leastModel 6 (some .int) (wk_rm 6 135) D (tX cA) (wX ad cA n b bs sa K (fun _ => False) wc vv oo) [.ref (ad 0), .int (nI (xn)), .int (nI (yn))] (S := rz_SX) (fun r u => rz_lo (2 ^ n) (fun a => rz_M n (rz_B b bs) a ∧ rz_ag n (xn % 2 ^ n) yn a) r ∧ rz_Same n b bs u) (wXu ad cA n) := by
  refine wk_mI.goI RX1 (by decide) rfl (Nat.le_of_ble_eq_true rfl) ?_
  intro p e R s m args below meth c A ls Q C hR hs hl hret
  have hl : lv_has ls 6 [(0, .ref (ad 0)), (1, .int (nI (xn))), (2, .int (nI (yn)))] := hl
  have hx := C.1
  have hb := C.2.1
  have h3 := rz_p35 hn
  obtain ⟨hB, hK, hsa⟩ := hI
  have h12 := hB.1
  refine lv_aload_n hx hb dX1_leastModel_0 rfl (lv_at hl 0 rfl) ?_
  refine wk_callv (As := []) (rest := []) (q0 := 0) C hs (m1_saturate l D ad cA hn b bs sa K wc vv oo hB hK hsa) (cwX1_X1_saturate C.2.2.2.2.2.1 (hR.le (by decide) (by decide))) rfl rfl rfl hl.1 rfl (Nat.le_of_ble_eq_true rfl) dX1_leastModel_1 ⟨Nat.zero_le _, Nat.zero_le _⟩ (fun u H locs hq hs => ?_)
  obtain ⟨K1, w1⟩ := u
  have hok : rz_ok n K1 (rz_B b bs) := hq
  have hp2 := rz_p25 hn
  have hk0 : xn % 2 ^ n < 2 ^ n := Nat.mod_lt _ (rz_p2 n)
  have hw0 : yn &&& (xn % 2 ^ n) < 2 ^ n := Nat.and_lt_two_pow _ hk0
  refine lv_iload_n hx hb dX1_leastModel_4 rfl (lv_at hl 1 rfl) ?_
  refine lv_aload_n hx hb dX1_leastModel_5 rfl (lv_at hl 0 rfl) ?_
  refine xg_allVariables C hs dX1_leastModel_6 ?_
  refine lv_iand hx hb dX1_leastModel_9 ?_
  refine wk_top (v := nI (xn % 2 ^ n)) wk_andm ?_
  refine lv_istore_n (lv' := [(3, .int (nI (xn % 2 ^ n))), (0, .ref (ad 0)), (1, .int (nI (xn))), (2, .int (nI (yn)))]) hx hb dX1_leastModel_10 rfl hl (by decide) rfl (fun ls hl => ?_)
  refine lv_iload_n hx hb dX1_leastModel_11 rfl (lv_at hl 3 rfl) ?_
  refine lv_iload_n hx hb dX1_leastModel_12 rfl (lv_at hl 0 rfl) ?_
  refine lv_iand hx hb dX1_leastModel_13 ?_
  refine wk_top (v := nI ((yn) &&& (xn % 2 ^ n))) (wk_and _ _) ?_
  refine lv_istore (lv' := [(4, .int (nI ((yn) &&& (xn % 2 ^ n)))), (3, .int (nI (xn % 2 ^ n))), (0, .ref (ad 0)), (1, .int (nI (xn))), (2, .int (nI (yn)))]) hx hb dX1_leastModel_14 hl (by decide) rfl (fun ls hl => ?_)
  refine lv_aload_n hx hb dX1_leastModel_16 rfl (lv_at hl 2 rfl) ?_
  refine lv_iload_n hx hb dX1_leastModel_17 rfl (lv_at hl 1 rfl) ?_
  refine lv_iload hx hb dX1_leastModel_18 (lv_at hl 0 rfl) ?_
  have hbi : ∀ k w, rz_br n K1 k w ↔ _ := fun k w => rz_br_iff hn hok k w
  refine wk_calli (As := [.int (nI (xn % 2 ^ n)), .int (nI ((yn) &&& (xn % 2 ^ n)))]) (rest := []) (q0 := 0) C hs (m1_breaks l D ad cA hn b bs True K1 (fun _ => False) w1 vv oo (xn % 2 ^ n) ((yn) &&& (xn % 2 ^ n))) (cwX1_X1_breaks C.2.2.2.2.2.1 (hR.le (by decide) (by decide))) rfl rfl rfl hl.1 rfl (Nat.le_of_ble_eq_true rfl) dX1_leastModel_20 ⟨Nat.zero_le _, Nat.zero_le _⟩ (fun r u H locs hq hs => ?_)
  obtain rfl := hq
  refine bk_if_eq (tgt := 29) hx hb dX1_leastModel_23 (by decide) (fun h => ?_) (fun h => ?_)
  · have he : ∃ a, a < 2 ^ n ∧ rz_M n (rz_B b bs) a ∧ rz_ag n (xn % 2 ^ n) (yn &&& (xn % 2 ^ n)) a := Classical.byContradiction fun z => h ((hbi _ _).mpr z)
    refine lv_aload_n hx hb dX1_leastModel_29 rfl (lv_at hl 2 rfl) ?_
    refine xg_variableCount C hs dX1_leastModel_30 ?_
    refine lv_iconst (v := nI (1)) hx hb dX1_leastModel_33 (by decide +kernel) ?_
    refine lv_isub hx hb dX1_leastModel_34 ?_
    refine wk_top (v := nI (n - 1)) (pk_sub (by omega)) ?_
    refine lv_istore (lv' := [(5, .int (nI (n - 1))), (4, .int (nI ((yn) &&& (xn % 2 ^ n)))), (3, .int (nI (xn % 2 ^ n))), (0, .ref (ad 0)), (1, .int (nI (xn))), (2, .int (nI (yn)))]) hx hb dX1_leastModel_35 hl (by decide) rfl (fun ls hl => ?_)
    have key : ∀ (k : Nat) (j kn mo : Nat) (jv : Int32), j < k → j ≤ n → ((jv = -1 ∧ j = 0) ∨ ∃ v, j = v + 1 ∧ jv = nI v) → rz_L n (rz_M n (rz_B b bs)) (xn % 2 ^ n) (yn &&& (xn % 2 ^ n)) j kn mo → ∀ (H : Heap) (locs : List Loc) (ls : Array Slot), wk_S A s D (tX cA) (wX ad cA n b bs True K1 (fun _ => False) w1 vv oo) H locs → lv_has ls 6 [(0, .ref (ad 0)), (3, .int (nI (kn))), (4, .int (nI (mo))), (5, .int (jv))] → W p l e R s m args below meth c H locs 0 0 Q (F0 m 37 ls []) := by
      intro k
      induction k with
      | zero => intro j kn mo jv h1 h2 h4 hL; exact absurd h1 (by omega)
      | succ k ih =>
        intro j kn mo jv h1 h2 h4 hL H locs ls hs hl
        rcases h4 with ⟨rfl, rfl⟩ | ⟨v, rfl, rfl⟩
        · refine lv_iload hx hb dX1_leastModel_37 (lv_at hl 3 rfl) ?_
          refine lv_if_lt (tgt := 86) hx hb dX1_leastModel_39 (by decide) (fun h5 => ?_) (fun h5 => ?_)
          · refine lv_iload hx hb dX1_leastModel_86 (lv_at hl 2 rfl) ?_
            obtain ⟨e1, e2, e3, e4⟩ := rz_L_end hL
            have e3 := (rz_ag_and n _ yn mo).mp e3
            refine hret (b, bs, True, K1, w1, vv, oo) hs ⟨Or.inl ⟨mo, e1, ⟨e2, e3⟩, fun a ha z => ?_, rfl⟩, ⟨⟨hB, hok.1, fun _ => hok⟩, rfl, rfl⟩⟩ dX1_leastModel_88
            have := e4 a (by omega) z.1 ((rz_ag_and n _ yn a).mpr z.2)
            omega
          · exact absurd rz_m2 h5
        · obtain ⟨l1, l2⟩ := hL.2.2.2
          have l3 := l2.1
          refine lv_iload hx hb dX1_leastModel_37 (lv_at hl 3 rfl) ?_
          refine lv_if_lt (tgt := 86) hx hb dX1_leastModel_39 (by decide) (fun h5 => ?_) (fun h5 => ?_)
          · exact absurd h5 (wk_lt0 (by omega))
          · refine lv_iload_n hx hb dX1_leastModel_42 rfl (lv_at hl 1 rfl) ?_
            refine lv_iload hx hb dX1_leastModel_43 (lv_at hl 3 rfl) ?_
            refine lv_ishr hx hb dX1_leastModel_45 ?_
            refine wk_top (v := nI ((kn) / 2 ^ (v))) (wk_shr (by omega) (by omega)) ?_
            refine lv_iconst (v := nI (1)) hx hb dX1_leastModel_46 (by decide +kernel) ?_
            refine lv_iand hx hb dX1_leastModel_47 ?_
            refine wk_top (v := nI (((kn) / 2 ^ (v)) % 2)) (wk_and1 _) ?_
            refine nk_if_eq (tgt := 54) hx hb (by omega) dX1_leastModel_48 (by decide) (fun h6 => ?_) (fun h6 => ?_)
            · have hb1 : ¬ kn.testBit v = true := fun z => by have := (rz_bt kn v).mp z; omega
              refine lv_iload_n hx hb dX1_leastModel_54 rfl (lv_at hl 1 rfl) ?_
              refine lv_iconst (v := nI (1)) hx hb dX1_leastModel_55 (by decide +kernel) ?_
              refine lv_iload hx hb dX1_leastModel_56 (lv_at hl 3 rfl) ?_
              refine lv_ishl hx hb dX1_leastModel_58 ?_
              refine wk_top (v := nI (2 ^ (v))) (wk_shl (by omega)) ?_
              refine lv_ior hx hb dX1_leastModel_59 ?_
              refine wk_top (v := nI ((kn) ||| (2 ^ (v)))) (wk_or _ _) ?_
              refine lv_istore_n (lv' := [(3, .int (nI ((kn) ||| (2 ^ (v))))), (0, .ref (ad 0)), (4, .int (nI (mo))), (5, .int (nI (v)))]) hx hb dX1_leastModel_60 rfl hl (by decide) rfl (fun ls hl => ?_)
              refine lv_aload_n hx hb dX1_leastModel_61 rfl (lv_at hl 1 rfl) ?_
              refine lv_iload_n hx hb dX1_leastModel_62 rfl (lv_at hl 0 rfl) ?_
              refine lv_iload hx hb dX1_leastModel_63 (lv_at hl 2 rfl) ?_
              refine wk_calli (As := [.int (nI ((kn) ||| (2 ^ (v)))), .int (nI (mo))]) (rest := []) (q0 := 0) C hs (m1_breaks l D ad cA hn b bs True K1 (fun _ => False) w1 vv oo ((kn) ||| (2 ^ (v))) (mo)) (cwX1_X1_breaks C.2.2.2.2.2.1 (hR.le (by decide) (by decide))) rfl rfl rfl hl.1 rfl (Nat.le_of_ble_eq_true rfl) dX1_leastModel_65 ⟨Nat.zero_le _, Nat.zero_le _⟩ (fun r u H locs hq hs => ?_)
              obtain rfl := hq
              refine bk_if_eq (tgt := 80) hx hb dX1_leastModel_68 (by decide) (fun h7 => ?_) (fun h7 => ?_)
              · refine lv_iinc (v := (nI v + (-1))) (lv' := [(5, .int ((nI v + (-1)))), (3, .int (nI ((kn) ||| (2 ^ (v))))), (0, .ref (ad 0)), (4, .int (nI (mo)))]) hx hb dX1_leastModel_80 hl (k := 3) rfl rfl (by decide) rfl (fun ls hl => ?_)
                refine lv_goto (tgt := 37) hx hb dX1_leastModel_83 (by decide) ?_
                refine ih v _ _ _ (by omega) (by omega) ((rz_dec v).imp (fun z => ⟨z.1, z.2⟩) (fun ⟨v1, q1, q2⟩ => ⟨v1, q1, q2⟩)) (rz_L_zero (by omega) hL hb1 (Classical.byContradiction fun z => h7 ((hbi _ _).mpr z))) _ _ _ hs (lv_sub hl [2, 1, 3, 0] rfl)
              · refine lv_iload hx hb dX1_leastModel_71 (lv_at hl 2 rfl) ?_
                refine lv_iconst (v := nI (1)) hx hb dX1_leastModel_73 (by decide +kernel) ?_
                refine lv_iload hx hb dX1_leastModel_74 (lv_at hl 3 rfl) ?_
                refine lv_ishl hx hb dX1_leastModel_76 ?_
                refine wk_top (v := nI (2 ^ (v))) (wk_shl (by omega)) ?_
                refine lv_ior hx hb dX1_leastModel_77 ?_
                refine wk_top (v := nI ((mo) ||| (2 ^ (v)))) (wk_or _ _) ?_
                refine lv_istore (lv' := [(4, .int (nI ((mo) ||| (2 ^ (v))))), (3, .int (nI ((kn) ||| (2 ^ (v))))), (0, .ref (ad 0)), (5, .int (nI (v)))]) hx hb dX1_leastModel_78 hl (by decide) rfl (fun ls hl => ?_)
                refine lv_iinc (v := (nI v + (-1))) (lv' := [(5, .int ((nI v + (-1)))), (4, .int (nI ((mo) ||| (2 ^ (v))))), (3, .int (nI ((kn) ||| (2 ^ (v))))), (0, .ref (ad 0))]) hx hb dX1_leastModel_80 hl (k := 3) rfl rfl (by decide) rfl (fun ls hl => ?_)
                refine lv_goto (tgt := 37) hx hb dX1_leastModel_83 (by decide) ?_
                refine ih v _ _ _ (by omega) (by omega) ((rz_dec v).imp (fun z => ⟨z.1, z.2⟩) (fun ⟨v1, q1, q2⟩ => ⟨v1, q1, q2⟩)) (rz_L_one (by omega) hL hb1 ((hbi _ _).mp h7)) _ _ _ hs (lv_sub hl [3, 2, 1, 0] rfl)
            · have hb1 : kn.testBit v = true := (rz_bt kn v).mpr (by omega)
              refine lv_goto (tgt := 80) hx hb dX1_leastModel_51 (by decide) ?_
              refine lv_iinc (v := (nI v + (-1))) (lv' := [(5, .int ((nI v + (-1)))), (0, .ref (ad 0)), (3, .int (nI (kn))), (4, .int (nI (mo)))]) hx hb dX1_leastModel_80 hl (k := 3) rfl rfl (by decide) rfl (fun ls hl => ?_)
              refine lv_goto (tgt := 37) hx hb dX1_leastModel_83 (by decide) ?_
              refine ih v _ _ _ (by omega) (by omega) ((rz_dec v).imp (fun z => ⟨z.1, z.2⟩) (fun ⟨v1, q1, q2⟩ => ⟨v1, q1, q2⟩)) (rz_L_skip (by omega) hL hb1) _ _ _ hs (lv_sub hl [1, 2, 3, 0] rfl)
    refine key (n + 1) n _ _ _ (by omega) (Nat.le_refl n) (Or.inr ⟨n - 1, by omega, rfl⟩) (rz_L_init hk0 hw0 (fun v _ hv hw => ?_) he) _ _ _ hs (lv_sub hl [3, 2, 1, 0] rfl)
    rw [Nat.testBit_and, Bool.and_eq_true] at hw
    exact hv hw.2
  · refine lv_bipush (v := (-2)) hx hb dX1_leastModel_26 (by decide +kernel) ?_
    refine hret (b, bs, True, K1, w1, vv, oo) hs ⟨Or.inr ⟨fun a ha z => (hbi _ _).mp h ⟨a, ha, z.1, ?_⟩, rfl⟩, ⟨⟨hB, hok.1, fun _ => hok⟩, rfl, rfl⟩⟩ dX1_leastModel_28
    exact (rz_ag_and n _ yn a).mpr z.2
set_option maxHeartbeats 4000000 in
set_option maxRecDepth 100000 in
theorem p1_redundant (l : Launch) (D : va_G) (ad : Nat → Nat) (cA : Nat → ClassId) {n : Nat} (hn2 : 2 ≤ n) (hn : n ≤ 5) (b : Nat → Nat) (bs : Nat) (sa : Prop) (K : Nat → Prop) (wc : Nat) (vv oo : Nat → Nat) (hI : rz_IX n b bs sa K) : wk_mI l yX1_redundant cX1_redundant 4 (some .int) (wk_rm 5 114) D (tX cA) (wX ad cA n b bs sa K (fun _ => False) wc vv oo) [.ref (ad 0)] (S := rz_SX) (fun r u => r = nI (rz_cn (fun i => rz_Fo n (rz_Bx b bs i) (b i)) bs) ∧ rz_Same n b bs u) (wXu ad cA n) := by
  refine wk_mI.goI RX1 (by decide) rfl (Nat.le_of_ble_eq_true rfl) ?_
  intro p e R s m args below meth c A ls Q C hR hs hl hret
  have hl : lv_has ls 4 [(0, .ref (ad 0))] := hl
  have hx := C.1
  have hb := C.2.1
  have h3 := rz_p35 hn
  obtain ⟨hB, hK, hsa⟩ := hI
  have h12 := hB.1
  refine lv_iconst (v := nI (0)) hx hb dX1_redundant_0 (by decide +kernel) ?_
  refine lv_istore_n (lv' := [(1, .int (nI (0))), (0, .ref (ad 0))]) hx hb dX1_redundant_1 rfl hl (by decide) rfl (fun ls hl => ?_)
  refine lv_iconst (v := nI (0)) hx hb dX1_redundant_2 (by decide +kernel) ?_
  refine lv_istore_n (lv' := [(2, .int (nI (0))), (1, .int (nI (0))), (0, .ref (ad 0))]) hx hb dX1_redundant_3 rfl hl (by decide) rfl (fun ls hl => ?_)
  have key : ∀ (k : Nat) (i t : Nat) (K1 : Nat → Prop) (w1 : Nat), i ≤ bs → bs < i + k → t = rz_cn (fun i => rz_Fo n (rz_Bx b bs i) (b i)) i → (∀ c, K1 c → c < 3 ^ n) → ∀ (H : Heap) (locs : List Loc) (ls : Array Slot), wk_S A s D (tX cA) (wX ad cA n b bs sa K1 (fun _ => False) w1 vv oo) H locs → lv_has ls 4 [(0, .ref (ad 0)), (1, .int (nI (t))), (2, .int (nI (i)))] → W p l e R s m args below meth c H locs 0 0 Q (F0 m 4 ls []) := by
    intro k
    induction k with
    | zero => intro i t K1 w1 h1 h2 h4 hK1; exact absurd h2 (by omega)
    | succ k ih =>
      intro i t K1 w1 h1 h2 h4 hK1 H locs ls hs hl
      refine lv_iload_n hx hb dX1_redundant_4 rfl (lv_at hl 2 rfl) ?_
      refine lv_aload_n hx hb dX1_redundant_5 rfl (lv_at hl 0 rfl) ?_
      refine xg_baseSize C hs dX1_redundant_6 ?_
      refine nk_ge (tgt := 69) hx hb (by omega) (by omega) dX1_redundant_9 (by decide) (fun h => ?_) (fun h => ?_)
      · have ei : i = bs := by omega
        refine lv_aload_n hx hb dX1_redundant_69 rfl (lv_at hl 0 rfl) ?_
        refine lv_iconst (v := rz_b (False)) hx hb dX1_redundant_70 wk_ofF ?_
        refine xp_saturated C hs dX1_redundant_71 (fun H locs hs => ?_)
        refine lv_iload_n hx hb dX1_redundant_74 rfl (lv_at hl 1 rfl) ?_
        exact hret (b, bs, False, K1, w1, vv, oo) hs ⟨by rw [h4, ei], ⟨hB, hK1, False.elim⟩, rfl, rfl⟩ dX1_redundant_75
      · refine lv_aload_n hx hb dX1_redundant_12 rfl (lv_at hl 0 rfl) ?_
        refine wk_callv (As := []) (rest := []) (q0 := 0) C hs (m1_clear l D ad cA hn b bs sa K1 (fun _ => False) w1 vv oo hK1) (cwX1_X1_clearKept C.2.2.2.2.2.1 (hR.le (by decide) (by decide))) rfl rfl rfl hl.1 rfl (Nat.le_of_ble_eq_true rfl) dX1_redundant_13 ⟨Nat.zero_le _, Nat.zero_le _⟩ (fun _ H locs hq hs => ?_)
        refine lv_iconst (v := nI (0)) hx hb dX1_redundant_16 (by decide +kernel) ?_
        refine lv_istore_n (lv' := [(3, .int (nI (0))), (0, .ref (ad 0)), (1, .int (nI (t))), (2, .int (nI (i)))]) hx hb dX1_redundant_17 rfl hl (by decide) rfl (fun ls hl => ?_)
        have key2 : ∀ (k2 : Nat) (j : Nat) (K2 : Nat → Prop) (w2 : Nat), j ≤ bs → bs < j + k2 → rz_ok n K2 (rz_Bx b j i) → ∀ (H : Heap) (locs : List Loc) (ls : Array Slot), wk_S A s D (tX cA) (wX ad cA n b bs sa K2 (fun _ => False) w2 vv oo) H locs → lv_has ls 4 [(0, .ref (ad 0)), (1, .int (nI (t))), (2, .int (nI (i))), (3, .int (nI (j)))] → W p l e R s m args below meth c H locs 0 0 Q (F0 m 18 ls []) := by
          intro k2
          induction k2 with
          | zero => intro j K2 w2 g1 g2 hok; exact absurd g2 (by omega)
          | succ k2 ih2 =>
            intro j K2 w2 g1 g2 hok H locs ls hs hl
            refine lv_iload_n hx hb dX1_redundant_18 rfl (lv_at hl 3 rfl) ?_
            refine lv_aload_n hx hb dX1_redundant_19 rfl (lv_at hl 0 rfl) ?_
            refine xg_baseSize C hs dX1_redundant_20 ?_
            refine nk_ge (tgt := 47) hx hb (by omega) (by omega) dX1_redundant_23 (by decide) (fun h5 => ?_) (fun h5 => ?_)
            · have ej : j = bs := by omega
              subst ej
              have hbi := hB.2.1 i h
              refine lv_aload_n hx hb dX1_redundant_47 rfl (lv_at hl 0 rfl) ?_
              refine lv_aload_n hx hb dX1_redundant_48 rfl (lv_at hl 0 rfl) ?_
              refine xg_base C hs dX1_redundant_49 ?_
              refine lv_iload_n hx hb dX1_redundant_52 rfl (lv_at hl 2 rfl) ?_
              refine xl_B C hs (by omega) dX1_redundant_53 ?_
              refine wk_calli (As := [.int (nI (b i))]) (rest := []) (q0 := 0) C hs (m1_lowest l D ad cA hn b j sa K2 (fun _ => False) w2 vv oo hbi) (cwX1_X1_lowestKeptWithin C.2.2.2.2.2.1 (hR.le (by decide) (by decide))) rfl rfl rfl hl.1 rfl (Nat.le_of_ble_eq_true rfl) dX1_redundant_54 ⟨Nat.zero_le _, Nat.zero_le _⟩ (fun r u H locs hq hs => ?_)
              have hq := (rz_lo_sub hn hok.1 hbi hq).trans (not_congr (rz_ok_Fo hok (b i)))
              refine lv_if_lt (tgt := 63) hx hb dX1_redundant_57 (by decide) (fun h6 => ?_) (fun h6 => ?_)
              · refine lv_iinc (v := nI (i + 1)) (lv' := [(2, .int (nI (i + 1))), (0, .ref (ad 0)), (1, .int (nI (t))), (3, .int (nI (j)))]) hx hb dX1_redundant_63 hl (k := 2) rfl (nI_add _ 1) (by decide) rfl (fun ls hl => ?_)
                refine lv_goto (tgt := 4) hx hb dX1_redundant_66 (by decide) ?_
                exact ih (i + 1) t K2 w2 (by omega) (by omega) (by rw [rz_cnN (P := (fun i => rz_Fo n (rz_Bx b j i) (b i))) (hq.mp h6)]; exact h4) hok.1 _ _ _ hs (lv_sub hl [1, 2, 0] rfl)
              · refine lv_iinc (v := nI (t + 1)) (lv' := [(1, .int (nI (t + 1))), (0, .ref (ad 0)), (2, .int (nI (i))), (3, .int (nI (j)))]) hx hb dX1_redundant_60 hl (k := 1) rfl (nI_add _ 1) (by decide) rfl (fun ls hl => ?_)
                refine lv_iinc (v := nI (i + 1)) (lv' := [(2, .int (nI (i + 1))), (1, .int (nI (t + 1))), (0, .ref (ad 0)), (3, .int (nI (j)))]) hx hb dX1_redundant_63 hl (k := 2) rfl (nI_add _ 1) (by decide) rfl (fun ls hl => ?_)
                refine lv_goto (tgt := 4) hx hb dX1_redundant_66 (by decide) ?_
                exact ih (i + 1) (t + 1) K2 w2 (by omega) (by omega) (by rw [rz_cnS (P := (fun i => rz_Fo n (rz_Bx b j i) (b i))) (Classical.byContradiction fun z => h6 (hq.mpr z)), h4]) hok.1 _ _ _ hs (lv_sub hl [2, 1, 0] rfl)
            · refine lv_iload_n hx hb dX1_redundant_26 rfl (lv_at hl 3 rfl) ?_
              refine lv_iload_n hx hb dX1_redundant_27 rfl (lv_at hl 2 rfl) ?_
              refine nk_eq (tgt := 41) hx hb (by omega) (by omega) dX1_redundant_28 (by decide) (fun h6 => ?_) (fun h6 => ?_)
              · refine lv_iinc (v := nI (j + 1)) (lv' := [(3, .int (nI (j + 1))), (0, .ref (ad 0)), (1, .int (nI (t))), (2, .int (nI (i)))]) hx hb dX1_redundant_41 hl (k := 3) rfl (nI_add _ 1) (by decide) rfl (fun ls hl => ?_)
                refine lv_goto (tgt := 18) hx hb dX1_redundant_44 (by decide) ?_
                refine ih2 (j + 1) K2 w2 (by omega) (by omega) (rz_ok_c hok (fun t => ⟨fun ⟨q, q1, q2, q3⟩ => ⟨q, by omega, q2, q3⟩, fun ⟨q, q1, q2, q3⟩ => ⟨q, by omega, q2, q3⟩⟩)) _ _ _ hs (lv_sub hl [1, 2, 3, 0] rfl)
              · refine lv_aload_n hx hb dX1_redundant_31 rfl (lv_at hl 0 rfl) ?_
                refine lv_aload_n hx hb dX1_redundant_32 rfl (lv_at hl 0 rfl) ?_
                refine xg_base C hs dX1_redundant_33 ?_
                refine lv_iload_n hx hb dX1_redundant_36 rfl (lv_at hl 3 rfl) ?_
                refine xl_B C hs (by omega) dX1_redundant_37 ?_
                refine wk_callv (As := [.int (nI (b j))]) (rest := []) (q0 := 0) C hs (m1_take l D ad cA hn b bs sa K2 w2 vv oo (rz_Bx b j i) hok (hB.2.1 j h5)) (cwX1_X1_takeIn C.2.2.2.2.2.1 (hR.le (by decide) (by decide))) rfl rfl rfl hl.1 rfl (Nat.le_of_ble_eq_true rfl) dX1_redundant_38 ⟨Nat.zero_le _, Nat.zero_le _⟩ (fun u H locs hq hs => ?_)
                refine lv_iinc (v := nI (j + 1)) (lv' := [(3, .int (nI (j + 1))), (0, .ref (ad 0)), (1, .int (nI (t))), (2, .int (nI (i)))]) hx hb dX1_redundant_41 hl (k := 3) rfl (nI_add _ 1) (by decide) rfl (fun ls hl => ?_)
                refine lv_goto (tgt := 18) hx hb dX1_redundant_44 (by decide) ?_
                refine ih2 (j + 1) u 0 (by omega) (by omega) (rz_ok_c hq (fun t => ?_)) _ _ _ hs (lv_sub hl [1, 2, 3, 0] rfl)
                constructor
                · rintro (⟨q, q1, q2, q3⟩ | e)
                  · exact ⟨q, by omega, q2, q3⟩
                  · exact ⟨j, by omega, h6, e.symm⟩
                · rintro ⟨q, q1, q2, q3⟩
                  by_cases z : q = j
                  · exact Or.inr (by rw [← q3, z])
                  · exact Or.inl ⟨q, by omega, q2, q3⟩
        exact key2 (bs + 1) 0 _ w1 (Nat.zero_le _) (by omega) (rz_ok_c (rz_ok_0 hn) (fun t => ⟨False.elim, fun ⟨i, hi, _⟩ => absurd hi (Nat.not_lt_zero i)⟩)) _ _ _ hs (lv_sub hl [1, 2, 3, 0] rfl)
  exact key (bs + 1) 0 0 K wc (Nat.zero_le _) (by omega) rfl hK _ _ _ hs (lv_sub hl [2, 1, 0] rfl)
end
end
section
/-! OrderedResolver: spellOut and the constructor -/
section
theorem rz_Ts1 {y v : Nat} (h : rz_dg y v = 1) : rz_T v y ||| 2 ^ v = rz_T (v + 1) y := by
  show _ = rz_mk v (fun u => rz_dg y u == 1) ||| (if (rz_dg y v == 1) = true then 2 ^ v else 0)
  rw [if_pos (by rw [h]; rfl)]
theorem rz_Ts0 {y v : Nat} (h : ¬ rz_dg y v = 1) : rz_T v y = rz_T (v + 1) y := by
  show _ = rz_mk v (fun u => rz_dg y u == 1) ||| (if (rz_dg y v == 1) = true then 2 ^ v else 0)
  rw [if_neg (fun z => h (eq_of_beq z)), Nat.or_zero]
theorem rz_Fs1 {y v : Nat} (h : rz_dg y v = 2) : rz_F v y ||| 2 ^ v = rz_F (v + 1) y := by
  show _ = rz_mk v (fun u => rz_dg y u == 2) ||| (if (rz_dg y v == 2) = true then 2 ^ v else 0)
  rw [if_pos (by rw [h]; rfl)]
theorem rz_Fs0 {y v : Nat} (h : ¬ rz_dg y v = 2) : rz_F v y = rz_F (v + 1) y := by
  show _ = rz_mk v (fun u => rz_dg y u == 2) ||| (if (rz_dg y v == 2) = true then 2 ^ v else 0)
  rw [if_neg (fun z => h (eq_of_beq z)), Nat.or_zero]
theorem rz_d3' (y v : Nat) : y / 3 ^ v / 3 = y / 3 ^ (v + 1) := by rw [Nat.div_div_eq_div_mul, ← Nat.pow_succ]
def rz_tt (g : Nat → Nat) (i j : Nat) : Nat := if j < i then g j else 0
theorem rz_tt_0 (g : Nat → Nat) : rz_tt g 0 = fun _ => 0 := funext fun j => if_neg (Nat.not_lt_zero j)
theorem rz_tt_s (g : Nat → Nat) (i : Nat) : rz_up (rz_tt g i) i (g i) = rz_tt g (i + 1) := by
  funext j
  by_cases e : j = i
  · rw [e, rz_up_s]; exact (if_pos (by omega)).symm
  · rw [rz_up_n e]
    unfold rz_tt
    by_cases z : j < i
    · rw [if_pos z, if_pos (by omega)]
    · rw [if_neg z, if_neg (by omega)]
theorem rz_we_tt (n : Nat) : rz_we n = rz_tt (fun v => 3 ^ v) n := rfl
theorem rz_TT_tt (n : Nat) : rz_TT n = rz_tt (rz_T n) (3 ^ n) := rfl
theorem rz_FF_tt (n : Nat) : rz_FF n = rz_tt (rz_F n) (3 ^ n) := rfl
/-- how many variables -/
def rz_nn (x : Int32) : Nat := if x < 2 then 2 else if 5 < x then 5 else x.toNatClampNeg
theorem rz_nn_2 {x : Int32} (h : ¬ nI 2 ≤ x) : nI 2 = nI (rz_nn x) := by
  have h' : x < 2 := by rw [Int32.lt_iff_toInt_lt]; rw [Int32.le_iff_toInt_le] at h; exact Int.not_le.mp h
  unfold rz_nn
  rw [if_pos h']
theorem rz_nn_5 {x : Int32} (h : nI 2 ≤ x) (h5 : ¬ x ≤ nI 5) : nI 5 = nI (rz_nn x) := by
  have a : ¬ x < 2 := by rw [Int32.lt_iff_toInt_lt]; rw [Int32.le_iff_toInt_le] at h; exact Int.not_lt.mpr h
  have b : 5 < x := by rw [Int32.lt_iff_toInt_lt]; rw [Int32.le_iff_toInt_le] at h5; exact Int.not_le.mp h5
  unfold rz_nn
  rw [if_neg a, if_pos b]
theorem rz_nn_x {x : Int32} (h : nI 2 ≤ x) (h5 : x ≤ nI 5) : x = nI (rz_nn x) ∧ 2 ≤ rz_nn x ∧ rz_nn x ≤ 5 := by
  have a : ¬ x < 2 := by rw [Int32.lt_iff_toInt_lt]; rw [Int32.le_iff_toInt_le] at h; exact Int.not_lt.mpr h
  have b : ¬ 5 < x := by rw [Int32.lt_iff_toInt_lt]; rw [Int32.le_iff_toInt_le] at h5; exact Int.not_lt.mpr h5
  have c0 : ¬ x < 0 := by
    rw [Int32.lt_iff_toInt_lt]
    rw [Int32.le_iff_toInt_le] at h
    have e2 : (nI 2).toInt = 2 := by decide +kernel
    have e0 : (0 : Int32).toInt = 0 := by decide +kernel
    omega
  obtain ⟨j, hj, rfl⟩ := nI_of c0
  have h1 := (nI_leI (by decide) hj).mp h
  have h2 := (nI_leI hj (by decide)).mp h5
  unfold rz_nn
  rw [if_neg a, if_neg b, nI_clamp hj]
  exact ⟨rfl, h1, h2⟩
theorem rz_nn_b (x : Int32) : 2 ≤ rz_nn x ∧ rz_nn x ≤ 5 := by
  by_cases a : nI 2 ≤ x
  · by_cases b : x ≤ nI 5
    · exact (rz_nn_x a b).2
    · have h := rz_nn_5 a b
      have a' : ¬ x < 2 := by rw [Int32.lt_iff_toInt_lt]; rw [Int32.le_iff_toInt_le] at a; exact Int.not_lt.mpr a
      have b' : 5 < x := by rw [Int32.lt_iff_toInt_lt]; rw [Int32.le_iff_toInt_le] at b; exact Int.not_le.mp b
      unfold rz_nn
      rw [if_neg a', if_pos b']
      decide
  · have a' : x < 2 := by rw [Int32.lt_iff_toInt_lt]; rw [Int32.le_iff_toInt_le] at a; exact Int.not_le.mp a
    unfold rz_nn
    rw [if_pos a']
    decide
theorem wk_bF : rz_b False = 0 := rz_b_f id
theorem wk_bT : rz_b True = 1 := rz_b_t trivial
set_option maxHeartbeats 4000000 in
set_option maxRecDepth 100000 in
theorem m1_spellOut (l : Launch) (D : va_G) (ad : Nat → Nat) (cA : Nat → ClassId) {n : Nat} (hn : n ≤ 5) (cv av bs sa wc : Int32) (gT gF : Nat → Nat) (fW fB fK fQ fV fO : Nat → Int32) {y : Nat} (hy : y < 243) : wk_mV l yX1_spellOut cX1_spellOut 7 none (wk_rm 0 0) D (tX cA) (wX0 ad cA (nI n) cv av (fun j => nI (gT j)) (fun j => nI (gF j)) fW bs fB sa fK fQ wc fV fO) [.ref (ad 0), .int (nI (y))] (S := Unit) (fun _ => True) (fun _ => wX0 ad cA (nI n) cv av (fun j => nI (rz_up gT y (rz_T n y) j)) (fun j => nI (rz_up gF y (rz_F n y) j)) fW bs fB sa fK fQ wc fV fO) := by
  refine wk_mV.go RX1 (by decide) rfl (Nat.le_of_ble_eq_true rfl) ?_
  intro p e R s m args below meth c A ls Q C hR hs hl hret
  have hl : lv_has ls 7 [(0, .ref (ad 0)), (1, .int (nI (y)))] := hl
  have hx := C.1
  have hb := C.2.1
  refine lv_iload_n hx hb dX1_spellOut_0 rfl (lv_at hl 1 rfl) ?_
  refine lv_istore_n (lv' := [(2, .int (nI (y))), (0, .ref (ad 0)), (1, .int (nI (y)))]) hx hb dX1_spellOut_1 rfl hl (by decide) rfl (fun ls hl => ?_)
  refine lv_iconst (v := nI (0)) hx hb dX1_spellOut_2 (by decide +kernel) ?_
  refine lv_istore_n (lv' := [(3, .int (nI (0))), (2, .int (nI (y))), (0, .ref (ad 0)), (1, .int (nI (y)))]) hx hb dX1_spellOut_3 rfl hl (by decide) rfl (fun ls hl => ?_)
  refine lv_iconst (v := nI (0)) hx hb dX1_spellOut_4 (by decide +kernel) ?_
  refine lv_istore (lv' := [(4, .int (nI (0))), (3, .int (nI (0))), (2, .int (nI (y))), (0, .ref (ad 0)), (1, .int (nI (y)))]) hx hb dX1_spellOut_5 hl (by decide) rfl (fun ls hl => ?_)
  refine lv_iconst (v := nI (0)) hx hb dX1_spellOut_7 (by decide +kernel) ?_
  refine lv_istore (lv' := [(5, .int (nI (0))), (4, .int (nI (0))), (3, .int (nI (0))), (2, .int (nI (y))), (0, .ref (ad 0)), (1, .int (nI (y)))]) hx hb dX1_spellOut_8 hl (by decide) rfl (fun ls hl => ?_)
  have key : ∀ (k : Nat) (v : Nat), v ≤ n → n < v + k → ∀ (H : Heap) (locs : List Loc) (ls : Array Slot), wk_S A s D (tX cA) (wX0 ad cA (nI n) cv av (fun j => nI (gT j)) (fun j => nI (gF j)) fW bs fB sa fK fQ wc fV fO) H locs → lv_has ls 7 [(0, .ref (ad 0)), (1, .int (nI (y))), (2, .int (nI (y / 3 ^ v))), (3, .int (nI (rz_T v y))), (4, .int (nI (rz_F v y))), (5, .int (nI (v)))] → W p l e R s m args below meth c H locs 0 0 Q (F0 m 10 ls []) := by
    intro k
    induction k with
    | zero => intro v h1 h2; exact absurd h2 (by omega)
    | succ k ih =>
      intro v h1 h2 H locs ls hs hl
      have hyv : y / 3 ^ v ≤ y := Nat.div_le_self _ _
      have hd0 : rz_dg y v = y / 3 ^ v % 3 := rfl
      refine lv_iload hx hb dX1_spellOut_10 (lv_at hl 5 rfl) ?_
      refine lv_aload_n hx hb dX1_spellOut_12 rfl (lv_at hl 0 rfl) ?_
      refine xg_variableCount C hs dX1_spellOut_13 ?_
      refine nk_ge (tgt := 62) hx hb (by omega) (by omega) dX1_spellOut_16 (by decide) (fun h => ?_) (fun h => ?_)
      · have ev : v = n := by omega
        subst ev
        have hT := rz_T_lt y hn
        have hF := rz_F_lt y hn
        refine lv_aload_n hx hb dX1_spellOut_62 rfl (lv_at hl 0 rfl) ?_
        refine xg_wantsTrue C hs dX1_spellOut_63 ?_
        refine lv_iload_n hx hb dX1_spellOut_66 rfl (lv_at hl 1 rfl) ?_
        refine lv_iload_n hx hb dX1_spellOut_67 rfl (lv_at hl 3 rfl) ?_
        refine lv_i2b (v := nI (rz_T v y)) hx hb dX1_spellOut_68 (wk_byte _ (by omega)) ?_
        refine wk_stb hx hb hs 1 0 rfl rfl hy (by decide) (by omega) rfl dX1_spellOut_69 (fun H locs hs => ?_)
        have hs : wk_S A s D (tX cA) (wX0 ad cA (nI v) cv av (fun j => nI (rz_up gT y (rz_T v y) j)) (fun j => nI (gF j)) fW bs fB sa fK fQ wc fV fO) H locs := hs
        refine lv_aload_n hx hb dX1_spellOut_70 rfl (lv_at hl 0 rfl) ?_
        refine xg_wantsFalse C hs dX1_spellOut_71 ?_
        refine lv_iload_n hx hb dX1_spellOut_74 rfl (lv_at hl 1 rfl) ?_
        refine lv_iload hx hb dX1_spellOut_75 (lv_at hl 4 rfl) ?_
        refine lv_i2b (v := nI (rz_F v y)) hx hb dX1_spellOut_77 (wk_byte _ (by omega)) ?_
        refine wk_stb hx hb hs 2 1 rfl rfl hy (by decide) (by omega) rfl dX1_spellOut_78 (fun H locs hs => ?_)
        exact hret () hs trivial dX1_spellOut_79
      · refine lv_iload_n hx hb dX1_spellOut_19 rfl (lv_at hl 2 rfl) ?_
        refine lv_iconst (v := nI (3)) hx hb dX1_spellOut_20 (by decide +kernel) ?_
        refine lv_irem hx hb dX1_spellOut_21 wk_3n0 ?_
        refine wk_top (v := nI ((y / 3 ^ v) % 3)) (wk_rem3 (by omega)) ?_
        refine lv_istore (lv' := [(6, .int (nI ((y / 3 ^ v) % 3))), (0, .ref (ad 0)), (1, .int (nI (y))), (2, .int (nI (y / 3 ^ v))), (3, .int (nI (rz_T v y))), (4, .int (nI (rz_F v y))), (5, .int (nI (v)))]) hx hb dX1_spellOut_22 hl (by decide) rfl (fun ls hl => ?_)
        refine lv_iload hx hb dX1_spellOut_24 (lv_at hl 0 rfl) ?_
        refine lv_iconst (v := nI (1)) hx hb dX1_spellOut_26 (by decide +kernel) ?_
        refine nk_ne (tgt := 37) hx hb (by omega) (by omega) dX1_spellOut_27 (by decide) (fun h5 => ?_) (fun h5 => ?_)
        · refine lv_iload hx hb dX1_spellOut_37 (lv_at hl 0 rfl) ?_
          refine lv_iconst (v := nI (2)) hx hb dX1_spellOut_39 (by decide +kernel) ?_
          refine nk_ne (tgt := 52) hx hb (by omega) (by omega) dX1_spellOut_40 (by decide) (fun h6 => ?_) (fun h6 => ?_)
          · refine lv_iload_n hx hb dX1_spellOut_52 rfl (lv_at hl 3 rfl) ?_
            refine lv_iconst (v := nI (3)) hx hb dX1_spellOut_53 (by decide +kernel) ?_
            refine lv_idiv hx hb dX1_spellOut_54 wk_3n0 ?_
            refine wk_top (v := nI ((y / 3 ^ v) / 3)) (wk_div3 (by omega)) ?_
            refine lv_istore_n (lv' := [(2, .int (nI ((y / 3 ^ v) / 3))), (6, .int (nI ((y / 3 ^ v) % 3))), (0, .ref (ad 0)), (1, .int (nI (y))), (3, .int (nI (rz_T v y))), (4, .int (nI (rz_F v y))), (5, .int (nI (v)))]) hx hb dX1_spellOut_55 rfl hl (by decide) rfl (fun ls hl => ?_)
            refine lv_iinc (v := nI (v + 1)) (lv' := [(5, .int (nI (v + 1))), (2, .int (nI ((y / 3 ^ v) / 3))), (6, .int (nI ((y / 3 ^ v) % 3))), (0, .ref (ad 0)), (1, .int (nI (y))), (3, .int (nI (rz_T v y))), (4, .int (nI (rz_F v y)))]) hx hb dX1_spellOut_56 hl (k := 6) rfl (nI_add _ 1) (by decide) rfl (fun ls hl => ?_)
            refine lv_goto (tgt := 10) hx hb dX1_spellOut_59 (by decide) ?_
            rw [rz_d3', rz_Ts0 h5, rz_Fs0 h6] at hl
            exact ih (v + 1) (by omega) (by omega) _ _ _ hs (lv_sub hl [3, 4, 1, 5, 6, 0] rfl)
          · refine lv_iload hx hb dX1_spellOut_43 (lv_at hl 5 rfl) ?_
            refine lv_iconst (v := nI (1)) hx hb dX1_spellOut_45 (by decide +kernel) ?_
            refine lv_iload hx hb dX1_spellOut_46 (lv_at hl 6 rfl) ?_
            refine lv_ishl hx hb dX1_spellOut_48 ?_
            refine wk_top (v := nI (2 ^ (v))) (wk_shl (by omega)) ?_
            refine lv_ior hx hb dX1_spellOut_49 ?_
            refine wk_top (v := nI ((rz_F v y) ||| (2 ^ (v)))) (wk_or _ _) ?_
            refine lv_istore (lv' := [(4, .int (nI ((rz_F v y) ||| (2 ^ (v))))), (6, .int (nI ((y / 3 ^ v) % 3))), (0, .ref (ad 0)), (1, .int (nI (y))), (2, .int (nI (y / 3 ^ v))), (3, .int (nI (rz_T v y))), (5, .int (nI (v)))]) hx hb dX1_spellOut_50 hl (by decide) rfl (fun ls hl => ?_)
            refine lv_iload_n hx hb dX1_spellOut_52 rfl (lv_at hl 4 rfl) ?_
            refine lv_iconst (v := nI (3)) hx hb dX1_spellOut_53 (by decide +kernel) ?_
            refine lv_idiv hx hb dX1_spellOut_54 wk_3n0 ?_
            refine wk_top (v := nI ((y / 3 ^ v) / 3)) (wk_div3 (by omega)) ?_
            refine lv_istore_n (lv' := [(2, .int (nI ((y / 3 ^ v) / 3))), (4, .int (nI ((rz_F v y) ||| (2 ^ (v))))), (6, .int (nI ((y / 3 ^ v) % 3))), (0, .ref (ad 0)), (1, .int (nI (y))), (3, .int (nI (rz_T v y))), (5, .int (nI (v)))]) hx hb dX1_spellOut_55 rfl hl (by decide) rfl (fun ls hl => ?_)
            refine lv_iinc (v := nI (v + 1)) (lv' := [(5, .int (nI (v + 1))), (2, .int (nI ((y / 3 ^ v) / 3))), (4, .int (nI ((rz_F v y) ||| (2 ^ (v))))), (6, .int (nI ((y / 3 ^ v) % 3))), (0, .ref (ad 0)), (1, .int (nI (y))), (3, .int (nI (rz_T v y)))]) hx hb dX1_spellOut_56 hl (k := 6) rfl (nI_add _ 1) (by decide) rfl (fun ls hl => ?_)
            refine lv_goto (tgt := 10) hx hb dX1_spellOut_59 (by decide) ?_
            rw [rz_d3', rz_Ts0 h5, rz_Fs1 h6] at hl
            exact ih (v + 1) (by omega) (by omega) _ _ _ hs (lv_sub hl [4, 5, 1, 6, 2, 0] rfl)
        · refine lv_iload_n hx hb dX1_spellOut_30 rfl (lv_at hl 4 rfl) ?_
          refine lv_iconst (v := nI (1)) hx hb dX1_spellOut_31 (by decide +kernel) ?_
          refine lv_iload hx hb dX1_spellOut_32 (lv_at hl 6 rfl) ?_
          refine lv_ishl hx hb dX1_spellOut_34 ?_
          refine wk_top (v := nI (2 ^ (v))) (wk_shl (by omega)) ?_
          refine lv_ior hx hb dX1_spellOut_35 ?_
          refine wk_top (v := nI ((rz_T v y) ||| (2 ^ (v)))) (wk_or _ _) ?_
          refine lv_istore_n (lv' := [(3, .int (nI ((rz_T v y) ||| (2 ^ (v))))), (6, .int (nI ((y / 3 ^ v) % 3))), (0, .ref (ad 0)), (1, .int (nI (y))), (2, .int (nI (y / 3 ^ v))), (4, .int (nI (rz_F v y))), (5, .int (nI (v)))]) hx hb dX1_spellOut_36 rfl hl (by decide) rfl (fun ls hl => ?_)
          refine lv_iload hx hb dX1_spellOut_37 (lv_at hl 1 rfl) ?_
          refine lv_iconst (v := nI (2)) hx hb dX1_spellOut_39 (by decide +kernel) ?_
          refine nk_ne (tgt := 52) hx hb (by omega) (by omega) dX1_spellOut_40 (by decide) (fun h6 => ?_) (fun h6 => ?_)
          · refine lv_iload_n hx hb dX1_spellOut_52 rfl (lv_at hl 4 rfl) ?_
            refine lv_iconst (v := nI (3)) hx hb dX1_spellOut_53 (by decide +kernel) ?_
            refine lv_idiv hx hb dX1_spellOut_54 wk_3n0 ?_
            refine wk_top (v := nI ((y / 3 ^ v) / 3)) (wk_div3 (by omega)) ?_
            refine lv_istore_n (lv' := [(2, .int (nI ((y / 3 ^ v) / 3))), (3, .int (nI ((rz_T v y) ||| (2 ^ (v))))), (6, .int (nI ((y / 3 ^ v) % 3))), (0, .ref (ad 0)), (1, .int (nI (y))), (4, .int (nI (rz_F v y))), (5, .int (nI (v)))]) hx hb dX1_spellOut_55 rfl hl (by decide) rfl (fun ls hl => ?_)
            refine lv_iinc (v := nI (v + 1)) (lv' := [(5, .int (nI (v + 1))), (2, .int (nI ((y / 3 ^ v) / 3))), (3, .int (nI ((rz_T v y) ||| (2 ^ (v))))), (6, .int (nI ((y / 3 ^ v) % 3))), (0, .ref (ad 0)), (1, .int (nI (y))), (4, .int (nI (rz_F v y)))]) hx hb dX1_spellOut_56 hl (k := 6) rfl (nI_add _ 1) (by decide) rfl (fun ls hl => ?_)
            refine lv_goto (tgt := 10) hx hb dX1_spellOut_59 (by decide) ?_
            rw [rz_d3', rz_Ts1 h5, rz_Fs0 h6] at hl
            exact ih (v + 1) (by omega) (by omega) _ _ _ hs (lv_sub hl [4, 5, 1, 2, 6, 0] rfl)
          · refine lv_iload hx hb dX1_spellOut_43 (lv_at hl 5 rfl) ?_
            refine lv_iconst (v := nI (1)) hx hb dX1_spellOut_45 (by decide +kernel) ?_
            refine lv_iload hx hb dX1_spellOut_46 (lv_at hl 6 rfl) ?_
            refine lv_ishl hx hb dX1_spellOut_48 ?_
            refine wk_top (v := nI (2 ^ (v))) (wk_shl (by omega)) ?_
            refine lv_ior hx hb dX1_spellOut_49 ?_
            refine wk_top (v := nI ((rz_F v y) ||| (2 ^ (v)))) (wk_or _ _) ?_
            refine lv_istore (lv' := [(4, .int (nI ((rz_F v y) ||| (2 ^ (v))))), (3, .int (nI ((rz_T v y) ||| (2 ^ (v))))), (6, .int (nI ((y / 3 ^ v) % 3))), (0, .ref (ad 0)), (1, .int (nI (y))), (2, .int (nI (y / 3 ^ v))), (5, .int (nI (v)))]) hx hb dX1_spellOut_50 hl (by decide) rfl (fun ls hl => ?_)
            refine lv_iload_n hx hb dX1_spellOut_52 rfl (lv_at hl 5 rfl) ?_
            refine lv_iconst (v := nI (3)) hx hb dX1_spellOut_53 (by decide +kernel) ?_
            refine lv_idiv hx hb dX1_spellOut_54 wk_3n0 ?_
            refine wk_top (v := nI ((y / 3 ^ v) / 3)) (wk_div3 (by omega)) ?_
            refine lv_istore_n (lv' := [(2, .int (nI ((y / 3 ^ v) / 3))), (4, .int (nI ((rz_F v y) ||| (2 ^ (v))))), (3, .int (nI ((rz_T v y) ||| (2 ^ (v))))), (6, .int (nI ((y / 3 ^ v) % 3))), (0, .ref (ad 0)), (1, .int (nI (y))), (5, .int (nI (v)))]) hx hb dX1_spellOut_55 rfl hl (by decide) rfl (fun ls hl => ?_)
            refine lv_iinc (v := nI (v + 1)) (lv' := [(5, .int (nI (v + 1))), (2, .int (nI ((y / 3 ^ v) / 3))), (4, .int (nI ((rz_F v y) ||| (2 ^ (v))))), (3, .int (nI ((rz_T v y) ||| (2 ^ (v))))), (6, .int (nI ((y / 3 ^ v) % 3))), (0, .ref (ad 0)), (1, .int (nI (y)))]) hx hb dX1_spellOut_56 hl (k := 6) rfl (nI_add _ 1) (by decide) rfl (fun ls hl => ?_)
            refine lv_goto (tgt := 10) hx hb dX1_spellOut_59 (by decide) ?_
            rw [rz_d3', rz_Ts1 h5, rz_Fs1 h6] at hl
            exact ih (v + 1) (by omega) (by omega) _ _ _ hs (lv_sub hl [5, 6, 1, 3, 2, 0] rfl)
  exact key (n + 1) 0 (Nat.zero_le _) (by omega) _ _ _ hs (lv_sub (l := [(5, .int (nI 0)), (4, .int (nI 0)), (3, .int (nI 0)), (2, .int (nI (y / 3 ^ 0))), (0, .ref (ad 0)), (1, .int (nI y))]) (by rw [Nat.pow_zero, Nat.div_one]; exact hl) [4, 5, 3, 2, 1, 0] rfl)
set_option maxHeartbeats 4000000 in
set_option maxRecDepth 100000 in
theorem x1_init2 {p : Program} {l : Launch} {e : Env} {R : Room} {s : State} {m : MethodId} {args : Array Value} {below : List Frame} {meth : Method} {c : Code} {H : Heap} {locs : List Loc} {cells slots : Nat} {Q : State → Prop} {D : va_G} {A : Nat → Prop} {ad : Nat → Nat} {cA : Nat → ClassId} {ls : Array Slot} {x nv0 cv0 av0 sa0 : Int32} (C : wk_C p s m meth c args RX1 cX1_init 3 none) (hR : wk_R 1 26 R) (hf : cells ≤ R.cells ∧ slots ≤ R.slots) (hs : wk_S A s D (tX cA) (wX0 ad cA nv0 cv0 av0 (fun _ => nI 0) (fun _ => nI 0) (fun _ => nI 0) (nI 0) (fun _ => nI 0) sa0 (fun _ => rz_b False) (fun _ => rz_b False) (nI 0) (fun _ => nI 0) (fun _ => nI 0)) H locs) (hl : lv_has ls 3 [(0, .ref (ad 0)), (1, .int (x))])
    (hret : ∀ {H : Heap} {locs : List Loc} {ls : Array Slot} {pc : Nat}, wk_S A s D (tX cA) (wX ad cA (rz_nn x) (fun _ => 0) 0 True (fun _ => False) (fun _ => False) 0 (fun _ => 0) (fun _ => 0)) H locs → decode cX1_init pc = .ok (.return_, 1) → W p l e R s m args below meth c H locs cells slots Q (F0 m pc ls [])) : W p l e R s m args below meth c H locs cells slots Q (F0 m 71 ls []) := by
  have hx := C.1
  have hb := C.2.1
  obtain ⟨n, en⟩ : ∃ n, n = rz_nn x := ⟨_, rfl⟩
  have hnb := rz_nn_b x
  rw [← en] at hnb
  have hn := hnb.2
  rw [← en] at hret
  have h3 := rz_p35 hn
  have hp2 := rz_p2 n
  have join : ∀ (ls : Array Slot), lv_has ls 3 [(0, .ref (ad 0)), (1, .int (x))] → W p l e R s m args below meth c H locs cells slots Q (F0 m 91 ls [.int (nI n), .ref (ad 0)]) := by
    intro ls hl
    refine xp_variableCount C hs dX1_init_91 (fun H locs hs => ?_)
    refine lv_aload_n hx hb dX1_init_94 rfl (lv_at hl 0 rfl) ?_
    refine lv_iconst (v := nI (1)) hx hb dX1_init_95 (by decide +kernel) ?_
    refine lv_aload_n hx hb dX1_init_96 rfl (lv_at hl 0 rfl) ?_
    refine xg_variableCount C hs dX1_init_97 ?_
    refine lv_ishl hx hb dX1_init_100 ?_
    refine wk_top (v := nI (2 ^ (n))) (wk_shl (by omega)) ?_
    refine lv_iconst (v := nI (1)) hx hb dX1_init_101 (by decide +kernel) ?_
    refine lv_isub hx hb dX1_init_102 ?_
    refine wk_top (v := nI (2 ^ (n) - 1)) (pk_sub hp2) ?_
    refine xp_allVariables C hs dX1_init_103 (fun H locs hs => ?_)
    refine lv_aload_n hx hb dX1_init_106 rfl (lv_at hl 0 rfl) ?_
    refine lv_iconst (v := nI (1)) hx hb dX1_init_107 (by decide +kernel) ?_
    refine xp_clauseCount C hs dX1_init_108 (fun H locs hs => ?_)
    refine lv_iconst (v := nI (0)) hx hb dX1_init_111 (by decide +kernel) ?_
    refine lv_istore_n (lv' := [(2, .int (nI (0))), (0, .ref (ad 0)), (1, .int (x))]) hx hb dX1_init_112 rfl hl (by decide) rfl (fun ls hl => ?_)
    have key : ∀ (k : Nat) (v : Nat), v ≤ n → n < v + k → ∀ (H : Heap) (locs : List Loc) (ls : Array Slot), wk_S A s D (tX cA) (wX0 ad cA (nI n) (nI (3 ^ v)) (nI (2 ^ n - 1)) (fun _ => nI 0) (fun _ => nI 0) (fun j => nI (rz_tt (fun v => 3 ^ v) v j)) (nI 0) (fun _ => nI 0) sa0 (fun _ => rz_b False) (fun _ => rz_b False) (nI 0) (fun _ => nI 0) (fun _ => nI 0)) H locs → lv_has ls 3 [(0, .ref (ad 0)), (2, .int (nI (v)))] → W p l e R s m args below meth c H locs cells slots Q (F0 m 113 ls []) := by
      intro k
      induction k with
      | zero => intro v h1 h2; exact absurd h2 (by omega)
      | succ k ih =>
        intro v h1 h2 H locs ls hs hl
        have hv3 : 3 ^ v ≤ 243 := rz_p35 (by omega)
        refine lv_iload_n hx hb dX1_init_113 rfl (lv_at hl 1 rfl) ?_
        refine lv_aload_n hx hb dX1_init_114 rfl (lv_at hl 0 rfl) ?_
        refine xg_variableCount C hs dX1_init_115 ?_
        refine nk_ge (tgt := 147) hx hb (by omega) (by omega) dX1_init_118 (by decide) (fun h => ?_) (fun h => ?_)
        · have ev : v = n := by omega
          subst ev
          refine lv_iconst (v := nI (0)) hx hb dX1_init_147 (by decide +kernel) ?_
          refine lv_istore_n (lv' := [(2, .int (nI (0))), (0, .ref (ad 0))]) hx hb dX1_init_148 rfl hl (by decide) rfl (fun ls hl => ?_)
          have key2 : ∀ (k : Nat) (i : Nat), i ≤ 3 ^ v → 3 ^ v < i + k → ∀ (H : Heap) (locs : List Loc) (ls : Array Slot), wk_S A s D (tX cA) (wX0 ad cA (nI v) (nI (3 ^ v)) (nI (2 ^ v - 1)) (fun j => nI (rz_tt (rz_T v) i j)) (fun j => nI (rz_tt (rz_F v) i j)) (fun j => nI (rz_tt (fun v => 3 ^ v) v j)) (nI 0) (fun _ => nI 0) sa0 (fun _ => rz_b False) (fun _ => rz_b False) (nI 0) (fun _ => nI 0) (fun _ => nI 0)) H locs → lv_has ls 3 [(0, .ref (ad 0)), (2, .int (nI (i)))] → W p l e R s m args below meth c H locs cells slots Q (F0 m 149 ls []) := by
            intro k
            induction k with
            | zero => intro i h1 h2; exact absurd h2 (by omega)
            | succ k ih =>
              intro i h1 h2 H locs ls hs hl
              refine lv_iload_n hx hb dX1_init_149 rfl (lv_at hl 1 rfl) ?_
              refine lv_aload_n hx hb dX1_init_150 rfl (lv_at hl 0 rfl) ?_
              refine xg_clauseCount C hs dX1_init_151 ?_
              refine nk_ge (tgt := 168) hx hb (by omega) (by omega) dX1_init_154 (by decide) (fun h5 => ?_) (fun h5 => ?_)
              · have ei : i = 3 ^ v := by omega
                subst ei
                refine lv_aload_n hx hb dX1_init_168 rfl (lv_at hl 0 rfl) ?_
                refine lv_iconst (v := rz_b (True)) hx hb dX1_init_169 wk_ofT ?_
                refine xp_saturated C hs dX1_init_170 (fun H locs hs => ?_)
                exact hret hs dX1_init_173
              · refine lv_aload_n hx hb dX1_init_157 rfl (lv_at hl 0 rfl) ?_
                refine lv_iload_n hx hb dX1_init_158 rfl (lv_at hl 1 rfl) ?_
                refine wk_callv (As := [.int (nI (i))]) (rest := []) (q0 := 0) C hs (m1_spellOut l D ad cA hn (nI (3 ^ v)) (nI (2 ^ v - 1)) (nI 0) sa0 (nI 0) (rz_tt (rz_T v) i) (rz_tt (rz_F v) i) (fun j => nI (rz_tt (fun v => 3 ^ v) v j)) (fun _ => nI 0) (fun _ => rz_b False) (fun _ => rz_b False) (fun _ => nI 0) (fun _ => nI 0) (y := i) (by omega)) (cwX1_X1_spellOut C.2.2.2.2.2.1 (hR.le (by decide) (by decide))) rfl rfl rfl hl.1 rfl (Nat.le_of_ble_eq_true rfl) dX1_init_159 hf (fun _ H locs hq hs => ?_)
                rw [rz_tt_s, rz_tt_s] at hs
                refine lv_iinc (v := nI (i + 1)) (lv' := [(2, .int (nI (i + 1))), (0, .ref (ad 0))]) hx hb dX1_init_162 hl (k := 1) rfl (nI_add _ 1) (by decide) rfl (fun ls hl => ?_)
                refine lv_goto (tgt := 149) hx hb dX1_init_165 (by decide) ?_
                exact ih (i + 1) (by omega) (by omega) _ _ _ hs (lv_sub hl [1, 0] rfl)
          exact key2 (3 ^ v + 1) 0 (Nat.zero_le _) (by omega) _ _ _ (by rw [rz_tt_0, rz_tt_0]; exact hs) (lv_sub hl [1, 0] rfl)
        · refine lv_aload_n hx hb dX1_init_121 rfl (lv_at hl 0 rfl) ?_
          refine xg_weight C hs dX1_init_122 ?_
          refine lv_iload_n hx hb dX1_init_125 rfl (lv_at hl 1 rfl) ?_
          refine lv_aload_n hx hb dX1_init_126 rfl (lv_at hl 0 rfl) ?_
          refine xg_clauseCount C hs dX1_init_127 ?_
          refine wk_sti hx hb hs 3 2 rfl rfl (by omega) (by decide) rfl dX1_init_130 (fun H locs hs => ?_)
          rw [rz_tt_s (fun v => 3 ^ v) v] at hs
          have hs : wk_S A s D (tX cA) (wX0 ad cA (nI n) (nI (3 ^ v)) (nI (2 ^ n - 1)) (fun _ => nI 0) (fun _ => nI 0) (fun j => nI (rz_tt (fun v => 3 ^ v) (v + 1) j)) (nI 0) (fun _ => nI 0) sa0 (fun _ => rz_b False) (fun _ => rz_b False) (nI 0) (fun _ => nI 0) (fun _ => nI 0)) H locs := hs
          refine lv_aload_n hx hb dX1_init_131 rfl (lv_at hl 0 rfl) ?_
          refine lv_dup hx hb dX1_init_132 rfl ?_
          refine xg_clauseCount C hs dX1_init_133 ?_
          refine lv_iconst (v := nI (3)) hx hb dX1_init_136 (by decide +kernel) ?_
          refine lv_imul hx hb dX1_init_137 ?_
          refine wk_top (v := nI (3 ^ v * (3))) (pk_mul _ _) ?_
          refine xp_clauseCount C hs dX1_init_138 (fun H locs hs => ?_)
          refine lv_iinc (v := nI (v + 1)) (lv' := [(2, .int (nI (v + 1))), (0, .ref (ad 0))]) hx hb dX1_init_141 hl (k := 1) rfl (nI_add _ 1) (by decide) rfl (fun ls hl => ?_)
          refine lv_goto (tgt := 113) hx hb dX1_init_144 (by decide) ?_
          exact ih (v + 1) (by omega) (by omega) _ _ _ hs (lv_sub hl [1, 0] rfl)
    exact key (n + 1) 0 (Nat.zero_le _) (by omega) _ _ _ (by rw [rz_tt_0]; exact hs) (lv_sub hl [1, 0] rfl)
  refine lv_aload_n hx hb dX1_init_71 rfl (lv_at hl 0 rfl) ?_
  refine lv_iload_n hx hb dX1_init_72 rfl (lv_at hl 1 rfl) ?_
  refine lv_iconst (v := nI (2)) hx hb dX1_init_73 (by decide +kernel) ?_
  refine lv_icmp_ge (tgt := 81) hx hb dX1_init_74 (by decide) (fun h => ?_) (fun h => ?_)
  · refine lv_iload_n hx hb dX1_init_81 rfl (lv_at hl 1 rfl) ?_
    refine lv_iconst (v := nI (5)) hx hb dX1_init_82 (by decide +kernel) ?_
    refine lv_icmp_le (tgt := 90) hx hb dX1_init_83 (by decide) (fun h5 => ?_) (fun h5 => ?_)
    · refine lv_iload_n hx hb dX1_init_90 rfl (lv_at hl 1 rfl) ?_
      refine wk_top (v := nI (n)) (by rw [en]; exact (rz_nn_x h h5).1) ?_
      exact join _ hl
    · refine lv_iconst (v := nI (5)) hx hb dX1_init_86 (by decide +kernel) ?_
      refine lv_goto (tgt := 91) hx hb dX1_init_87 (by decide) ?_
      refine wk_top (v := nI (n)) (by rw [en]; exact rz_nn_5 h h5) ?_
      exact join _ hl
  · refine lv_iconst (v := nI (2)) hx hb dX1_init_77 (by decide +kernel) ?_
    refine lv_goto (tgt := 91) hx hb dX1_init_78 (by decide) ?_
    refine wk_top (v := nI (n)) (by rw [en]; exact rz_nn_2 h) ?_
    exact join _ hl
end
end
section
/-! OrderedResolver: the constructor, whole -/
section
def rz_u0 : rz_SX := (fun _ => 0, 0, True, fun _ => False, 0, fun _ => 0, fun _ => 0)
set_option maxHeartbeats 4000000 in
set_option maxRecDepth 100000 in
theorem met1_init (l : Launch) (D : va_G) (h0 sz : Nat) (x : Int32) : Met l yX1_init (ws_ yX1_init cX1_init 3 none) { frames := 1, cells := 8, slots := 1005, locals := 26 } (va_Pc [.ref h0, .int x] (fun U => U.heap.size = sz ∧ va_P D vwCl [(h0, .inr (0, [.int 0, .int 0, .int 0, .null, .null, .null, .int 0, .null, .int 0, .null, .null, .int 0, .null, .null]))] U.heap ∧ va_K D vwCl [] U ∧ va_D (fun _ => True) [(h0, .inr (0, [.int 0, .int 0, .int 0, .null, .null, .null, .int 0, .null, .int 0, .null, .null, .int 0, .null, .null]))]))
    (va_Qv (fun u : (Nat → Nat) × (Nat → ClassId) => u.1 0 = h0) (fun u t => va_P D vwCl (wXu u.1 u.2 (rz_nn x) rz_u0) t.heap ∧ va_K D vwCl (tX u.2) t ∧ va_D (va_A [(h0, .inr (0, [.int 0, .int 0, .int 0, .null, .null, .null, .int 0, .null, .int 0, .null, .null, .int 0, .null, .null]))] sz) (wXu u.1 u.2 (rz_nn x) rz_u0)) (va_A [(h0, .inr (0, [.int 0, .int 0, .int 0, .null, .null, .null, .int 0, .null, .int 0, .null, .null, .int 0, .null, .null]))] sz)) 8 1005 (va_A [(h0, .inr (0, [.int 0, .int 0, .int 0, .null, .null, .null, .int 0, .null, .int 0, .null, .null, .int 0, .null, .null]))] sz) := by
  refine Met.ofW (cc := cX1_init) (maxL := 3) (ret := none) (by decide) rfl ?_
  intro p e s m args below meth c s₁ B hml hv
  obtain ⟨rfl, hsz, hP, hK, hD0⟩ := hv
  have hx := B.exec
  have hb := B.bytes
  have hr := B.returns
  have hts := atoms_spec (ws := ws_ yX1_init cX1_init 3 none) B.pre
  have hts : ∀ w ∈ lw_all, w.before _ s = true := fun w h => hts w (List.mem_cons_of_mem _ h)
  have hown : s.vm.findClass RX1 = some m.cls := findClass_of_methodNamed B.named
  have hlocks := B.notSynchronized
  have hin : meth.name = "<init>" := (name_of_methodNamed B.named B.method).1
  subst hsz
  have hD := hD0.self (sz := s.heap.size)
  generalize hAe : va_A [(h0, .inr (0, [.int 0, .int 0, .int 0, .null, .null, .null, .int 0, .null, .int 0, .null, .null, .int 0, .null, .null]))] s.heap.size = A at hD ⊢
  have hA : ∀ q : Nat, s.heap.size ≤ q → A q := fun q h => by rw [← hAe]; exact Or.inr h
  have hS : va_S A s.heap s.heap [] := va_S.rf
  have hP : va_P D vwCl [(h0, .inr (0, [.int 0, .int 0, .int 0, .null, .null, .null, .int 0, .null, .int 0, .null, .null, .int 0, .null, .null]))] s.heap := hP
  have hl := lv_entry ([.ref h0, .int x]) (n := 3) (Nat.le_of_ble_eq_true rfl)
  rw [lg_entry_eq]
  generalize (lg_sl ([.ref h0, .int x]) ++ List.replicate (3 - (lg_sl ([.ref h0, .int x])).length) Slot.unset).toArray = ls at hl ⊢
  have hl : lv_has ls 3 [(0, .ref h0), (1, .int x)] := hl
  refine lv_aload_n hx hb dX1_init_0 rfl (lv_at hl 0 rfl) ?_
  refine W.objInit hx hb hown (hts _ q31) (hts _ q32) (hts _ q33) rfl (by rw [hml]; exact hl.1) rfl dX1_init_1 (Nat.le_of_ble_eq_true rfl) (Nat.le_of_ble_eq_true rfl) ?_
  refine W.eq (g2 := F0 m 4 ls []) rfl ?_
  refine lv_aload_n hx hb dX1_init_4 rfl (lv_at hl 0 rfl) ?_
  refine lv_sipush (v := 243) hx hb dX1_init_5 (by decide +kernel) ?_
  refine va_newa (atype := .byte) hx hb (hts _ q81) (ty := .byte) rfl hK hP hD hS hA (a0 := (243, .inl (fun _ => 0))) (fun _ => rfl) (by decide +kernel) (by decide +kernel) (by decide +kernel) (Nat.le_of_ble_eq_true rfl) (Nat.le_of_ble_eq_true rfl) dX1_init_8 (fun q1 c1 H hK hP hD hS => ?_)
  have hK : va_K D vwCl [(c1, .byte)] s := hK
  have hP : va_P D vwCl [(h0, .inr (0, [.int 0, .int 0, .int 0, .null, .null, .null, .int 0, .null, .int 0, .null, .null, .int 0, .null, .null])), (q1, .inl (c1, 243, .inl (fun _ => 0)))] H := hP
  have hD : va_D A [(h0, .inr (0, [.int 0, .int 0, .int 0, .null, .null, .null, .int 0, .null, .int 0, .null, .null, .int 0, .null, .null])), (q1, .inl (c1, 243, .inl (fun _ => 0)))] := hD
  refine W.widen (k := 1) (n := 243) (Nat.le_of_ble_eq_true rfl) (Nat.le_of_ble_eq_true rfl) ?_
  refine va_putF (D := D) (ci := 0) (v := .ref q1) (ty := .array .byte) (C := RX1) (T := TX1) (N := 14) hx hb hts in_X1 tyX1 tyX1_ok nmX1 hown hK hP hD hS 0 rfl rfl 3 (by decide) (hts _ q41) (fun _ h9 => h9) rfl hin rfl (by decide +kernel) rfl rfl (Nat.le_of_ble_eq_true rfl) dX1_init_10 (fun H locs hP hD hS => ?_)
  have hP : va_P D vwCl [(h0, .inr (0, [.int 0, .int 0, .int 0, .ref q1, .null, .null, .int 0, .null, .int 0, .null, .null, .int 0, .null, .null])), (q1, .inl (c1, 243, .inl (fun _ => 0)))] H := hP
  have hD : va_D A [(h0, .inr (0, [.int 0, .int 0, .int 0, .ref q1, .null, .null, .int 0, .null, .int 0, .null, .null, .int 0, .null, .null])), (q1, .inl (c1, 243, .inl (fun _ => 0)))] := hD
  refine lv_aload_n hx hb dX1_init_13 rfl (lv_at hl 0 rfl) ?_
  refine lv_sipush (v := 243) hx hb dX1_init_14 (by decide +kernel) ?_
  refine va_newa (atype := .byte) hx hb (hts _ q81) (ty := .byte) rfl hK hP hD hS hA (a0 := (243, .inl (fun _ => 0))) (fun _ => rfl) (by decide +kernel) (by decide +kernel) (by decide +kernel) (Nat.le_of_ble_eq_true rfl) (Nat.le_of_ble_eq_true rfl) dX1_init_17 (fun q2 c2 H hK hP hD hS => ?_)
  have hK : va_K D vwCl [(c1, .byte), (c2, .byte)] s := hK
  have hP : va_P D vwCl [(h0, .inr (0, [.int 0, .int 0, .int 0, .ref q1, .null, .null, .int 0, .null, .int 0, .null, .null, .int 0, .null, .null])), (q1, .inl (c1, 243, .inl (fun _ => 0))), (q2, .inl (c2, 243, .inl (fun _ => 0)))] H := hP
  have hD : va_D A [(h0, .inr (0, [.int 0, .int 0, .int 0, .ref q1, .null, .null, .int 0, .null, .int 0, .null, .null, .int 0, .null, .null])), (q1, .inl (c1, 243, .inl (fun _ => 0))), (q2, .inl (c2, 243, .inl (fun _ => 0)))] := hD
  refine W.widen (k := 2) (n := 486) (Nat.le_of_ble_eq_true rfl) (Nat.le_of_ble_eq_true rfl) ?_
  refine va_putF (D := D) (ci := 0) (v := .ref q2) (ty := .array .byte) (C := RX1) (T := TX1) (N := 14) hx hb hts in_X1 tyX1 tyX1_ok nmX1 hown hK hP hD hS 0 rfl rfl 4 (by decide) (hts _ q42) (fun _ h9 => h9) rfl hin rfl (by decide +kernel) rfl rfl (Nat.le_of_ble_eq_true rfl) dX1_init_19 (fun H locs hP hD hS => ?_)
  have hP : va_P D vwCl [(h0, .inr (0, [.int 0, .int 0, .int 0, .ref q1, .ref q2, .null, .int 0, .null, .int 0, .null, .null, .int 0, .null, .null])), (q1, .inl (c1, 243, .inl (fun _ => 0))), (q2, .inl (c2, 243, .inl (fun _ => 0)))] H := hP
  have hD : va_D A [(h0, .inr (0, [.int 0, .int 0, .int 0, .ref q1, .ref q2, .null, .int 0, .null, .int 0, .null, .null, .int 0, .null, .null])), (q1, .inl (c1, 243, .inl (fun _ => 0))), (q2, .inl (c2, 243, .inl (fun _ => 0)))] := hD
  refine lv_aload_n hx hb dX1_init_22 rfl (lv_at hl 0 rfl) ?_
  refine lv_iconst (v := 5) hx hb dX1_init_23 (by decide +kernel) ?_
  refine va_newa (atype := .int) hx hb (hts _ q82) (ty := .int) rfl hK hP hD hS hA (a0 := (5, .inl (fun _ => 0))) (fun _ => rfl) (by decide +kernel) (by decide +kernel) (by decide +kernel) (Nat.le_of_ble_eq_true rfl) (Nat.le_of_ble_eq_true rfl) dX1_init_24 (fun q3 c3 H hK hP hD hS => ?_)
  have hK : va_K D vwCl [(c1, .byte), (c2, .byte), (c3, .int)] s := hK
  have hP : va_P D vwCl [(h0, .inr (0, [.int 0, .int 0, .int 0, .ref q1, .ref q2, .null, .int 0, .null, .int 0, .null, .null, .int 0, .null, .null])), (q1, .inl (c1, 243, .inl (fun _ => 0))), (q2, .inl (c2, 243, .inl (fun _ => 0))), (q3, .inl (c3, 5, .inl (fun _ => 0)))] H := hP
  have hD : va_D A [(h0, .inr (0, [.int 0, .int 0, .int 0, .ref q1, .ref q2, .null, .int 0, .null, .int 0, .null, .null, .int 0, .null, .null])), (q1, .inl (c1, 243, .inl (fun _ => 0))), (q2, .inl (c2, 243, .inl (fun _ => 0))), (q3, .inl (c3, 5, .inl (fun _ => 0)))] := hD
  refine W.widen (k := 3) (n := 491) (Nat.le_of_ble_eq_true rfl) (Nat.le_of_ble_eq_true rfl) ?_
  refine va_putF (D := D) (ci := 0) (v := .ref q3) (ty := .array .int) (C := RX1) (T := TX1) (N := 14) hx hb hts in_X1 tyX1 tyX1_ok nmX1 hown hK hP hD hS 0 rfl rfl 5 (by decide) (hts _ q43) (fun _ h9 => h9) rfl hin rfl (by decide +kernel) rfl rfl (Nat.le_of_ble_eq_true rfl) dX1_init_26 (fun H locs hP hD hS => ?_)
  have hP : va_P D vwCl [(h0, .inr (0, [.int 0, .int 0, .int 0, .ref q1, .ref q2, .ref q3, .int 0, .null, .int 0, .null, .null, .int 0, .null, .null])), (q1, .inl (c1, 243, .inl (fun _ => 0))), (q2, .inl (c2, 243, .inl (fun _ => 0))), (q3, .inl (c3, 5, .inl (fun _ => 0)))] H := hP
  have hD : va_D A [(h0, .inr (0, [.int 0, .int 0, .int 0, .ref q1, .ref q2, .ref q3, .int 0, .null, .int 0, .null, .null, .int 0, .null, .null])), (q1, .inl (c1, 243, .inl (fun _ => 0))), (q2, .inl (c2, 243, .inl (fun _ => 0))), (q3, .inl (c3, 5, .inl (fun _ => 0)))] := hD
  refine lv_aload_n hx hb dX1_init_29 rfl (lv_at hl 0 rfl) ?_
  refine lv_bipush (v := 12) hx hb dX1_init_30 (by decide +kernel) ?_
  refine va_newa (atype := .short) hx hb (hts _ q83) (ty := .short) rfl hK hP hD hS hA (a0 := (12, .inl (fun _ => 0))) (fun _ => rfl) (by decide +kernel) (by decide +kernel) (by decide +kernel) (Nat.le_of_ble_eq_true rfl) (Nat.le_of_ble_eq_true rfl) dX1_init_32 (fun q4 c4 H hK hP hD hS => ?_)
  have hK : va_K D vwCl [(c1, .byte), (c2, .byte), (c3, .int), (c4, .short)] s := hK
  have hP : va_P D vwCl [(h0, .inr (0, [.int 0, .int 0, .int 0, .ref q1, .ref q2, .ref q3, .int 0, .null, .int 0, .null, .null, .int 0, .null, .null])), (q1, .inl (c1, 243, .inl (fun _ => 0))), (q2, .inl (c2, 243, .inl (fun _ => 0))), (q3, .inl (c3, 5, .inl (fun _ => 0))), (q4, .inl (c4, 12, .inl (fun _ => 0)))] H := hP
  have hD : va_D A [(h0, .inr (0, [.int 0, .int 0, .int 0, .ref q1, .ref q2, .ref q3, .int 0, .null, .int 0, .null, .null, .int 0, .null, .null])), (q1, .inl (c1, 243, .inl (fun _ => 0))), (q2, .inl (c2, 243, .inl (fun _ => 0))), (q3, .inl (c3, 5, .inl (fun _ => 0))), (q4, .inl (c4, 12, .inl (fun _ => 0)))] := hD
  refine W.widen (k := 4) (n := 503) (Nat.le_of_ble_eq_true rfl) (Nat.le_of_ble_eq_true rfl) ?_
  refine va_putF (D := D) (ci := 0) (v := .ref q4) (ty := .array .short) (C := RX1) (T := TX1) (N := 14) hx hb hts in_X1 tyX1 tyX1_ok nmX1 hown hK hP hD hS 0 rfl rfl 7 (by decide) (hts _ q45) (fun _ h9 => h9) rfl hin rfl (by decide +kernel) rfl rfl (Nat.le_of_ble_eq_true rfl) dX1_init_34 (fun H locs hP hD hS => ?_)
  have hP : va_P D vwCl [(h0, .inr (0, [.int 0, .int 0, .int 0, .ref q1, .ref q2, .ref q3, .int 0, .ref q4, .int 0, .null, .null, .int 0, .null, .null])), (q1, .inl (c1, 243, .inl (fun _ => 0))), (q2, .inl (c2, 243, .inl (fun _ => 0))), (q3, .inl (c3, 5, .inl (fun _ => 0))), (q4, .inl (c4, 12, .inl (fun _ => 0)))] H := hP
  have hD : va_D A [(h0, .inr (0, [.int 0, .int 0, .int 0, .ref q1, .ref q2, .ref q3, .int 0, .ref q4, .int 0, .null, .null, .int 0, .null, .null])), (q1, .inl (c1, 243, .inl (fun _ => 0))), (q2, .inl (c2, 243, .inl (fun _ => 0))), (q3, .inl (c3, 5, .inl (fun _ => 0))), (q4, .inl (c4, 12, .inl (fun _ => 0)))] := hD
  refine lv_aload_n hx hb dX1_init_37 rfl (lv_at hl 0 rfl) ?_
  refine lv_sipush (v := 243) hx hb dX1_init_38 (by decide +kernel) ?_
  refine va_newa (atype := .boolean) hx hb (hts _ q84) (ty := .boolean) rfl hK hP hD hS hA (a0 := (243, .inl (fun _ => 0))) (fun _ => rfl) (by decide +kernel) (by decide +kernel) (by decide +kernel) (Nat.le_of_ble_eq_true rfl) (Nat.le_of_ble_eq_true rfl) dX1_init_41 (fun q5 c5 H hK hP hD hS => ?_)
  have hK : va_K D vwCl [(c1, .byte), (c2, .byte), (c3, .int), (c4, .short), (c5, .boolean)] s := hK
  have hP : va_P D vwCl [(h0, .inr (0, [.int 0, .int 0, .int 0, .ref q1, .ref q2, .ref q3, .int 0, .ref q4, .int 0, .null, .null, .int 0, .null, .null])), (q1, .inl (c1, 243, .inl (fun _ => 0))), (q2, .inl (c2, 243, .inl (fun _ => 0))), (q3, .inl (c3, 5, .inl (fun _ => 0))), (q4, .inl (c4, 12, .inl (fun _ => 0))), (q5, .inl (c5, 243, .inl (fun _ => 0)))] H := hP
  have hD : va_D A [(h0, .inr (0, [.int 0, .int 0, .int 0, .ref q1, .ref q2, .ref q3, .int 0, .ref q4, .int 0, .null, .null, .int 0, .null, .null])), (q1, .inl (c1, 243, .inl (fun _ => 0))), (q2, .inl (c2, 243, .inl (fun _ => 0))), (q3, .inl (c3, 5, .inl (fun _ => 0))), (q4, .inl (c4, 12, .inl (fun _ => 0))), (q5, .inl (c5, 243, .inl (fun _ => 0)))] := hD
  refine W.widen (k := 5) (n := 746) (Nat.le_of_ble_eq_true rfl) (Nat.le_of_ble_eq_true rfl) ?_
  refine va_putF (D := D) (ci := 0) (v := .ref q5) (ty := .array .boolean) (C := RX1) (T := TX1) (N := 14) hx hb hts in_X1 tyX1 tyX1_ok nmX1 hown hK hP hD hS 0 rfl rfl 9 (by decide) (hts _ q47) (fun _ h9 => h9) rfl hin rfl (by decide +kernel) rfl rfl (Nat.le_of_ble_eq_true rfl) dX1_init_43 (fun H locs hP hD hS => ?_)
  have hP : va_P D vwCl [(h0, .inr (0, [.int 0, .int 0, .int 0, .ref q1, .ref q2, .ref q3, .int 0, .ref q4, .int 0, .ref q5, .null, .int 0, .null, .null])), (q1, .inl (c1, 243, .inl (fun _ => 0))), (q2, .inl (c2, 243, .inl (fun _ => 0))), (q3, .inl (c3, 5, .inl (fun _ => 0))), (q4, .inl (c4, 12, .inl (fun _ => 0))), (q5, .inl (c5, 243, .inl (fun _ => 0)))] H := hP
  have hD : va_D A [(h0, .inr (0, [.int 0, .int 0, .int 0, .ref q1, .ref q2, .ref q3, .int 0, .ref q4, .int 0, .ref q5, .null, .int 0, .null, .null])), (q1, .inl (c1, 243, .inl (fun _ => 0))), (q2, .inl (c2, 243, .inl (fun _ => 0))), (q3, .inl (c3, 5, .inl (fun _ => 0))), (q4, .inl (c4, 12, .inl (fun _ => 0))), (q5, .inl (c5, 243, .inl (fun _ => 0)))] := hD
  refine lv_aload_n hx hb dX1_init_46 rfl (lv_at hl 0 rfl) ?_
  refine lv_sipush (v := 243) hx hb dX1_init_47 (by decide +kernel) ?_
  refine va_newa (atype := .boolean) hx hb (hts _ q84) (ty := .boolean) rfl hK hP hD hS hA (a0 := (243, .inl (fun _ => 0))) (fun _ => rfl) (by decide +kernel) (by decide +kernel) (by decide +kernel) (Nat.le_of_ble_eq_true rfl) (Nat.le_of_ble_eq_true rfl) dX1_init_50 (fun q6 c6 H hK hP hD hS => ?_)
  have hK : va_K D vwCl [(c1, .byte), (c2, .byte), (c3, .int), (c4, .short), (c5, .boolean), (c6, .boolean)] s := hK
  have hP : va_P D vwCl [(h0, .inr (0, [.int 0, .int 0, .int 0, .ref q1, .ref q2, .ref q3, .int 0, .ref q4, .int 0, .ref q5, .null, .int 0, .null, .null])), (q1, .inl (c1, 243, .inl (fun _ => 0))), (q2, .inl (c2, 243, .inl (fun _ => 0))), (q3, .inl (c3, 5, .inl (fun _ => 0))), (q4, .inl (c4, 12, .inl (fun _ => 0))), (q5, .inl (c5, 243, .inl (fun _ => 0))), (q6, .inl (c6, 243, .inl (fun _ => 0)))] H := hP
  have hD : va_D A [(h0, .inr (0, [.int 0, .int 0, .int 0, .ref q1, .ref q2, .ref q3, .int 0, .ref q4, .int 0, .ref q5, .null, .int 0, .null, .null])), (q1, .inl (c1, 243, .inl (fun _ => 0))), (q2, .inl (c2, 243, .inl (fun _ => 0))), (q3, .inl (c3, 5, .inl (fun _ => 0))), (q4, .inl (c4, 12, .inl (fun _ => 0))), (q5, .inl (c5, 243, .inl (fun _ => 0))), (q6, .inl (c6, 243, .inl (fun _ => 0)))] := hD
  refine W.widen (k := 6) (n := 989) (Nat.le_of_ble_eq_true rfl) (Nat.le_of_ble_eq_true rfl) ?_
  refine va_putF (D := D) (ci := 0) (v := .ref q6) (ty := .array .boolean) (C := RX1) (T := TX1) (N := 14) hx hb hts in_X1 tyX1 tyX1_ok nmX1 hown hK hP hD hS 0 rfl rfl 10 (by decide) (hts _ q48) (fun _ h9 => h9) rfl hin rfl (by decide +kernel) rfl rfl (Nat.le_of_ble_eq_true rfl) dX1_init_52 (fun H locs hP hD hS => ?_)
  have hP : va_P D vwCl [(h0, .inr (0, [.int 0, .int 0, .int 0, .ref q1, .ref q2, .ref q3, .int 0, .ref q4, .int 0, .ref q5, .ref q6, .int 0, .null, .null])), (q1, .inl (c1, 243, .inl (fun _ => 0))), (q2, .inl (c2, 243, .inl (fun _ => 0))), (q3, .inl (c3, 5, .inl (fun _ => 0))), (q4, .inl (c4, 12, .inl (fun _ => 0))), (q5, .inl (c5, 243, .inl (fun _ => 0))), (q6, .inl (c6, 243, .inl (fun _ => 0)))] H := hP
  have hD : va_D A [(h0, .inr (0, [.int 0, .int 0, .int 0, .ref q1, .ref q2, .ref q3, .int 0, .ref q4, .int 0, .ref q5, .ref q6, .int 0, .null, .null])), (q1, .inl (c1, 243, .inl (fun _ => 0))), (q2, .inl (c2, 243, .inl (fun _ => 0))), (q3, .inl (c3, 5, .inl (fun _ => 0))), (q4, .inl (c4, 12, .inl (fun _ => 0))), (q5, .inl (c5, 243, .inl (fun _ => 0))), (q6, .inl (c6, 243, .inl (fun _ => 0)))] := hD
  refine lv_aload_n hx hb dX1_init_55 rfl (lv_at hl 0 rfl) ?_
  refine lv_bipush (v := 8) hx hb dX1_init_56 (by decide +kernel) ?_
  refine va_newa (atype := .byte) hx hb (hts _ q81) (ty := .byte) rfl hK hP hD hS hA (a0 := (8, .inl (fun _ => 0))) (fun _ => rfl) (by decide +kernel) (by decide +kernel) (by decide +kernel) (Nat.le_of_ble_eq_true rfl) (Nat.le_of_ble_eq_true rfl) dX1_init_58 (fun q7 c7 H hK hP hD hS => ?_)
  have hK : va_K D vwCl [(c1, .byte), (c2, .byte), (c3, .int), (c4, .short), (c5, .boolean), (c6, .boolean), (c7, .byte)] s := hK
  have hP : va_P D vwCl [(h0, .inr (0, [.int 0, .int 0, .int 0, .ref q1, .ref q2, .ref q3, .int 0, .ref q4, .int 0, .ref q5, .ref q6, .int 0, .null, .null])), (q1, .inl (c1, 243, .inl (fun _ => 0))), (q2, .inl (c2, 243, .inl (fun _ => 0))), (q3, .inl (c3, 5, .inl (fun _ => 0))), (q4, .inl (c4, 12, .inl (fun _ => 0))), (q5, .inl (c5, 243, .inl (fun _ => 0))), (q6, .inl (c6, 243, .inl (fun _ => 0))), (q7, .inl (c7, 8, .inl (fun _ => 0)))] H := hP
  have hD : va_D A [(h0, .inr (0, [.int 0, .int 0, .int 0, .ref q1, .ref q2, .ref q3, .int 0, .ref q4, .int 0, .ref q5, .ref q6, .int 0, .null, .null])), (q1, .inl (c1, 243, .inl (fun _ => 0))), (q2, .inl (c2, 243, .inl (fun _ => 0))), (q3, .inl (c3, 5, .inl (fun _ => 0))), (q4, .inl (c4, 12, .inl (fun _ => 0))), (q5, .inl (c5, 243, .inl (fun _ => 0))), (q6, .inl (c6, 243, .inl (fun _ => 0))), (q7, .inl (c7, 8, .inl (fun _ => 0)))] := hD
  refine W.widen (k := 7) (n := 997) (Nat.le_of_ble_eq_true rfl) (Nat.le_of_ble_eq_true rfl) ?_
  refine va_putF (D := D) (ci := 0) (v := .ref q7) (ty := .array .byte) (C := RX1) (T := TX1) (N := 14) hx hb hts in_X1 tyX1 tyX1_ok nmX1 hown hK hP hD hS 0 rfl rfl 12 (by decide) (hts _ q50) (fun _ h9 => h9) rfl hin rfl (by decide +kernel) rfl rfl (Nat.le_of_ble_eq_true rfl) dX1_init_60 (fun H locs hP hD hS => ?_)
  have hP : va_P D vwCl [(h0, .inr (0, [.int 0, .int 0, .int 0, .ref q1, .ref q2, .ref q3, .int 0, .ref q4, .int 0, .ref q5, .ref q6, .int 0, .ref q7, .null])), (q1, .inl (c1, 243, .inl (fun _ => 0))), (q2, .inl (c2, 243, .inl (fun _ => 0))), (q3, .inl (c3, 5, .inl (fun _ => 0))), (q4, .inl (c4, 12, .inl (fun _ => 0))), (q5, .inl (c5, 243, .inl (fun _ => 0))), (q6, .inl (c6, 243, .inl (fun _ => 0))), (q7, .inl (c7, 8, .inl (fun _ => 0)))] H := hP
  have hD : va_D A [(h0, .inr (0, [.int 0, .int 0, .int 0, .ref q1, .ref q2, .ref q3, .int 0, .ref q4, .int 0, .ref q5, .ref q6, .int 0, .ref q7, .null])), (q1, .inl (c1, 243, .inl (fun _ => 0))), (q2, .inl (c2, 243, .inl (fun _ => 0))), (q3, .inl (c3, 5, .inl (fun _ => 0))), (q4, .inl (c4, 12, .inl (fun _ => 0))), (q5, .inl (c5, 243, .inl (fun _ => 0))), (q6, .inl (c6, 243, .inl (fun _ => 0))), (q7, .inl (c7, 8, .inl (fun _ => 0)))] := hD
  refine lv_aload_n hx hb dX1_init_63 rfl (lv_at hl 0 rfl) ?_
  refine lv_bipush (v := 8) hx hb dX1_init_64 (by decide +kernel) ?_
  refine va_newa (atype := .byte) hx hb (hts _ q81) (ty := .byte) rfl hK hP hD hS hA (a0 := (8, .inl (fun _ => 0))) (fun _ => rfl) (by decide +kernel) (by decide +kernel) (by decide +kernel) (Nat.le_of_ble_eq_true rfl) (Nat.le_of_ble_eq_true rfl) dX1_init_66 (fun q8 c8 H hK hP hD hS => ?_)
  have hK : va_K D vwCl [(c1, .byte), (c2, .byte), (c3, .int), (c4, .short), (c5, .boolean), (c6, .boolean), (c7, .byte), (c8, .byte)] s := hK
  have hP : va_P D vwCl [(h0, .inr (0, [.int 0, .int 0, .int 0, .ref q1, .ref q2, .ref q3, .int 0, .ref q4, .int 0, .ref q5, .ref q6, .int 0, .ref q7, .null])), (q1, .inl (c1, 243, .inl (fun _ => 0))), (q2, .inl (c2, 243, .inl (fun _ => 0))), (q3, .inl (c3, 5, .inl (fun _ => 0))), (q4, .inl (c4, 12, .inl (fun _ => 0))), (q5, .inl (c5, 243, .inl (fun _ => 0))), (q6, .inl (c6, 243, .inl (fun _ => 0))), (q7, .inl (c7, 8, .inl (fun _ => 0))), (q8, .inl (c8, 8, .inl (fun _ => 0)))] H := hP
  have hD : va_D A [(h0, .inr (0, [.int 0, .int 0, .int 0, .ref q1, .ref q2, .ref q3, .int 0, .ref q4, .int 0, .ref q5, .ref q6, .int 0, .ref q7, .null])), (q1, .inl (c1, 243, .inl (fun _ => 0))), (q2, .inl (c2, 243, .inl (fun _ => 0))), (q3, .inl (c3, 5, .inl (fun _ => 0))), (q4, .inl (c4, 12, .inl (fun _ => 0))), (q5, .inl (c5, 243, .inl (fun _ => 0))), (q6, .inl (c6, 243, .inl (fun _ => 0))), (q7, .inl (c7, 8, .inl (fun _ => 0))), (q8, .inl (c8, 8, .inl (fun _ => 0)))] := hD
  refine W.widen (k := 8) (n := 1005) (Nat.le_of_ble_eq_true rfl) (Nat.le_of_ble_eq_true rfl) ?_
  refine va_putF (D := D) (ci := 0) (v := .ref q8) (ty := .array .byte) (C := RX1) (T := TX1) (N := 14) hx hb hts in_X1 tyX1 tyX1_ok nmX1 hown hK hP hD hS 0 rfl rfl 13 (by decide) (hts _ q51) (fun _ h9 => h9) rfl hin rfl (by decide +kernel) rfl rfl (Nat.le_of_ble_eq_true rfl) dX1_init_68 (fun H locs hP hD hS => ?_)
  have hP : va_P D vwCl [(h0, .inr (0, [.int 0, .int 0, .int 0, .ref q1, .ref q2, .ref q3, .int 0, .ref q4, .int 0, .ref q5, .ref q6, .int 0, .ref q7, .ref q8])), (q1, .inl (c1, 243, .inl (fun _ => 0))), (q2, .inl (c2, 243, .inl (fun _ => 0))), (q3, .inl (c3, 5, .inl (fun _ => 0))), (q4, .inl (c4, 12, .inl (fun _ => 0))), (q5, .inl (c5, 243, .inl (fun _ => 0))), (q6, .inl (c6, 243, .inl (fun _ => 0))), (q7, .inl (c7, 8, .inl (fun _ => 0))), (q8, .inl (c8, 8, .inl (fun _ => 0)))] H := hP
  have hD : va_D A [(h0, .inr (0, [.int 0, .int 0, .int 0, .ref q1, .ref q2, .ref q3, .int 0, .ref q4, .int 0, .ref q5, .ref q6, .int 0, .ref q7, .ref q8])), (q1, .inl (c1, 243, .inl (fun _ => 0))), (q2, .inl (c2, 243, .inl (fun _ => 0))), (q3, .inl (c3, 5, .inl (fun _ => 0))), (q4, .inl (c4, 12, .inl (fun _ => 0))), (q5, .inl (c5, 243, .inl (fun _ => 0))), (q6, .inl (c6, 243, .inl (fun _ => 0))), (q7, .inl (c7, 8, .inl (fun _ => 0))), (q8, .inl (c8, 8, .inl (fun _ => 0)))] := hD
  have hs : wk_S A s D (tX (fun k => ([0, c1, c2, c3, c4, c5, c6, c7, c8] : List Nat).getD k 0)) (wX0 (fun k => ([h0, q1, q2, q3, q4, q5, q6, q7, q8] : List Nat).getD k 0) (fun k => ([0, c1, c2, c3, c4, c5, c6, c7, c8] : List Nat).getD k 0) 0 0 0 (fun _ => nI 0) (fun _ => nI 0) (fun _ => nI 0) (nI 0) (fun _ => nI 0) 0 (fun _ => rz_b False) (fun _ => rz_b False) (nI 0) (fun _ => nI 0) (fun _ => nI 0)) H locs := by
    rw [rz_nI0, wk_bF]
    exact ⟨hK, hP, hD, hS, hA⟩
  refine x1_init2 (ad := (fun k => ([h0, q1, q2, q3, q4, q5, q6, q7, q8] : List Nat).getD k 0)) (cA := (fun k => ([0, c1, c2, c3, c4, c5, c6, c7, c8] : List Nat).getD k 0)) ⟨hx, hb, hr, hml, hown, hts, hlocks⟩ ⟨Nat.le_refl _, Nat.le_refl _⟩ ⟨Nat.le_of_ble_eq_true rfl, Nat.le_of_ble_eq_true rfl⟩ hs hl (fun hs hd => ?_)
  exact W.vret hx hb hr (fun t ht hW => ⟨⟨((fun k => ([h0, q1, q2, q3, q4, q5, q6, q7, q8] : List Nat).getD k 0), (fun k => ([0, c1, c2, c3, c4, c5, c6, c7, c8] : List Nat).getD k 0)), rfl, rfl, by rw [ht]; exact hs.2.1, va_K.moved hW.alike hs.1, hs.2.2.1⟩, hs.2.2.2.1.F ht⟩) hs.2.2.2.1.2.2 hd hlocks
end
end
section
/-! OrderedResolverModel: its private methods -/
section
theorem rz_d3 (y v : Nat) : y / 3 ^ v / 3 = y / 3 ^ (v + 1) := by rw [Nat.div_div_eq_div_mul, ← Nat.pow_succ]
theorem rz_nm1 {j : Nat} (hj : j < 2 ^ 31) : ¬ nI j = -1 := fun e => by
  have h := nI_pos hj
  rw [e] at h
  exact h (by decide +kernel)
theorem rz_MB (n : Nat) (b : Nat → Nat) (bs a : Nat) : rz_M n (rz_B b bs) a ↔ ∀ j, j < bs → rz_S n a (b j) := ⟨fun h j hj => h _ ⟨j, hj, rfl⟩, fun h t ⟨j, hj, e⟩ => e ▸ h j hj⟩
theorem rz_MBx (n : Nat) (b : Nat → Nat) (bs i a : Nat) : rz_M n (rz_Bx b bs i) a ↔ ∀ j, j < bs → ¬ j = i → rz_S n a (b j) := ⟨fun h j hj hi => h _ ⟨j, hj, hi, rfl⟩, fun h t ⟨j, hj, hi, e⟩ => e ▸ h j hj hi⟩
theorem rz_ag_xor {n k : Nat} (hk : k < 2 ^ n) (a y : Nat) : (a ^^^ y) &&& k = 0 ↔ rz_ag n k y a := by
  rw [rz_eq0]
  constructor
  · intro h v hv hkv
    have h1 := h v
    rw [Nat.testBit_and, Nat.testBit_xor, hkv, Bool.and_true] at h1
    cases ha : a.testBit v <;> cases hy : y.testBit v <;> simp_all
  · intro h v hv
    rw [Nat.testBit_and, Nat.testBit_xor, Bool.and_eq_true] at hv
    have h1 := h v (rz_ltn hk hv.2) hv.2
    have h2 := hv.1
    cases ha : a.testBit v <;> cases hy : y.testBit v <;> simp_all
set_option maxHeartbeats 4000000 in
set_option maxRecDepth 100000 in
theorem m2_isClause (l : Launch) (D : va_G) (ad : Nat → Nat) (cA : Nat → ClassId) {n : Nat} (hn : n ≤ 5) (b : Nat → Nat) (bs : Nat) (M F : Nat → Prop) (x : Int32) : wk_mI l yX2_isClause cX2_isClause 2 (some .boolean) (wk_rm 0 0) D (tY cA) (wY ad cA n b bs M F) [.ref (ad 0), .int (x)] (S := Unit) (fun r _ => r = rz_b (∃ j, j < 3 ^ n ∧ x = nI j)) (fun _ => wY ad cA n b bs M F) := by
  refine wk_mI.goZ RX2 (by decide) rfl (Nat.le_of_ble_eq_true rfl) ?_
  intro p e R s m args below meth c A ls Q C hR hs hl hret
  have hl : lv_has ls 2 [(0, .ref (ad 0)), (1, .int (x))] := hl
  have hx := C.1
  have hb := C.2.1
  have h3 := rz_p35 hn
  refine lv_iload_n hx hb dX2_isClause_0 rfl (lv_at hl 1 rfl) ?_
  refine lv_if_lt (tgt := 16) hx hb dX2_isClause_1 (by decide) (fun h => ?_) (fun h => ?_)
  · refine lv_iconst (v := 0) hx hb dX2_isClause_16 (by decide +kernel) ?_
    exact hret _ () hs (wk_0 (fun ⟨j, hj, q⟩ => by rw [q] at h; exact wk_lt0 (by omega) h)) rfl dX2_isClause_17
  · obtain ⟨j, hj, rfl⟩ := nI_of h
    refine lv_iload_n hx hb dX2_isClause_4 rfl (lv_at hl 1 rfl) ?_
    refine lv_aload_n hx hb dX2_isClause_5 rfl (lv_at hl 0 rfl) ?_
    refine yg_clauses C hs dX2_isClause_6 ?_
    refine nk_ge (tgt := 16) hx hb (by omega) (by omega) dX2_isClause_9 (by decide) (fun h => ?_) (fun h => ?_)
    · refine lv_iconst (v := 0) hx hb dX2_isClause_16 (by decide +kernel) ?_
      exact hret _ () hs (wk_0 (fun ⟨i, hi, q⟩ => by rw [nI_eq hj (by omega)] at q; omega)) rfl dX2_isClause_17
    · refine lv_iconst (v := 1) hx hb dX2_isClause_12 (by decide +kernel) ?_
      refine lv_goto (tgt := 17) hx hb dX2_isClause_13 (by decide) ?_
      exact hret _ () hs (wk_1 ⟨j, h, rfl⟩) rfl dX2_isClause_17
set_option maxHeartbeats 4000000 in
set_option maxRecDepth 100000 in
theorem m2_placeOf (l : Launch) (D : va_G) (ad : Nat → Nat) (cA : Nat → ClassId) {n : Nat} (hn : n ≤ 5) (b : Nat → Nat) (bs : Nat) (M F : Nat → Prop) (hB : rz_bs (3 ^ n) b bs) {j : Nat} (hj : j < 3 ^ n) : wk_mI l yX2_placeOf cX2_placeOf 3 (some .int) (wk_rm 0 0) D (tY cA) (wY ad cA n b bs M F) [.ref (ad 0), .int (nI (j))] (S := Unit) (fun r _ => (∃ i, i < bs ∧ b i = j ∧ r = nI i) ∨ ((∀ i, i < bs → ¬ b i = j) ∧ r = -1)) (fun _ => wY ad cA n b bs M F) := by
  refine wk_mI.goI RX2 (by decide) rfl (Nat.le_of_ble_eq_true rfl) ?_
  intro p e R s m args below meth c A ls Q C hR hs hl hret
  have hl : lv_has ls 3 [(0, .ref (ad 0)), (1, .int (nI (j)))] := hl
  have hx := C.1
  have hb := C.2.1
  have h3 := rz_p35 hn
  have h12 := hB.1
  refine lv_iconst (v := nI (0)) hx hb dX2_placeOf_0 (by decide +kernel) ?_
  refine lv_istore_n (lv' := [(2, .int (nI (0))), (0, .ref (ad 0)), (1, .int (nI (j)))]) hx hb dX2_placeOf_1 rfl hl (by decide) rfl (fun ls hl => ?_)
  have key : ∀ (k : Nat) (i : Nat), i ≤ bs → bs < i + k → (∀ t, t < i → ¬ b t = j) → ∀ (H : Heap) (locs : List Loc) (ls : Array Slot), wk_S A s D (tY cA) (wY ad cA n b bs M F) H locs → lv_has ls 3 [(0, .ref (ad 0)), (1, .int (nI (j))), (2, .int (nI (i)))] → W p l e R s m args below meth c H locs 0 0 Q (F0 m 2 ls []) := by
    intro k
    induction k with
    | zero => intro i h1 h2 h4; exact absurd h2 (by omega)
    | succ k ih =>
      intro i h1 h2 h4 H locs ls hs hl
      refine lv_iload_n hx hb dX2_placeOf_2 rfl (lv_at hl 2 rfl) ?_
      refine lv_aload_n hx hb dX2_placeOf_3 rfl (lv_at hl 0 rfl) ?_
      refine yg_size C hs dX2_placeOf_4 ?_
      refine nk_ge (tgt := 28) hx hb (by omega) (by omega) dX2_placeOf_7 (by decide) (fun h => ?_) (fun h => ?_)
      · refine lv_iconst (v := (-1)) hx hb dX2_placeOf_28 (by decide +kernel) ?_
        exact hret () hs (Or.inr ⟨fun i hi => h4 i (by omega), rfl⟩) dX2_placeOf_29
      · have hbi := hB.2.1 i h
        refine lv_aload_n hx hb dX2_placeOf_10 rfl (lv_at hl 0 rfl) ?_
        refine yg_base C hs dX2_placeOf_11 ?_
        refine lv_iload_n hx hb dX2_placeOf_14 rfl (lv_at hl 2 rfl) ?_
        refine yl_B C hs (by omega) dX2_placeOf_15 ?_
        refine lv_iload_n hx hb dX2_placeOf_16 rfl (lv_at hl 1 rfl) ?_
        refine nk_ne (tgt := 22) hx hb (by omega) (by omega) dX2_placeOf_17 (by decide) (fun h' => ?_) (fun h' => ?_)
        · refine lv_iinc (v := nI (i + 1)) (lv' := [(2, .int (nI (i + 1))), (0, .ref (ad 0)), (1, .int (nI (j)))]) hx hb dX2_placeOf_22 hl (k := 2) rfl (nI_add _ 1) (by decide) rfl (fun ls hl => ?_)
          refine lv_goto (tgt := 2) hx hb dX2_placeOf_25 (by decide) ?_
          refine ih (i + 1) (by omega) (by omega) (fun t ht => ?_) _ _ _ hs (lv_sub hl [1, 2, 0] rfl)
          by_cases q : t = i
          · rw [q]; exact h'
          · exact h4 t (by omega)
        · refine lv_iload_n hx hb dX2_placeOf_20 rfl (lv_at hl 2 rfl) ?_
          exact hret () hs (Or.inl ⟨i, h, h', rfl⟩) dX2_placeOf_21
  exact key (bs + 1) 0 (Nat.zero_le _) (by omega) (fun t ht => absurd ht (Nat.not_lt_zero t)) _ _ _ hs (lv_sub hl [1, 2, 0] rfl)
set_option maxHeartbeats 4000000 in
set_option maxRecDepth 100000 in
theorem m2_satisfies (l : Launch) (D : va_G) (ad : Nat → Nat) (cA : Nat → ClassId) {n : Nat} (hn : n ≤ 5) (b : Nat → Nat) (bs : Nat) (M F : Nat → Prop) {a y : Nat} (ha : a < 32) (hy : y < 3 ^ n) : wk_mI l yX2_satisfies cX2_satisfies 6 (some .boolean) (wk_rm 0 0) D (tY cA) (wY ad cA n b bs M F) [.ref (ad 0), .int (nI (a)), .int (nI (y))] (S := Unit) (fun r _ => r = rz_b (rz_S n a y)) (fun _ => wY ad cA n b bs M F) := by
  refine wk_mI.goZ RX2 (by decide) rfl (Nat.le_of_ble_eq_true rfl) ?_
  intro p e R s m args below meth c A ls Q C hR hs hl hret
  have hl : lv_has ls 6 [(0, .ref (ad 0)), (1, .int (nI (a))), (2, .int (nI (y)))] := hl
  have hx := C.1
  have hb := C.2.1
  have h3 := rz_p35 hn
  refine lv_iload_n hx hb dX2_satisfies_0 rfl (lv_at hl 2 rfl) ?_
  refine lv_istore_n (lv' := [(3, .int (nI (y))), (0, .ref (ad 0)), (1, .int (nI (a))), (2, .int (nI (y)))]) hx hb dX2_satisfies_1 rfl hl (by decide) rfl (fun ls hl => ?_)
  refine lv_iconst (v := nI (0)) hx hb dX2_satisfies_2 (by decide +kernel) ?_
  refine lv_istore (lv' := [(4, .int (nI (0))), (3, .int (nI (y))), (0, .ref (ad 0)), (1, .int (nI (a))), (2, .int (nI (y)))]) hx hb dX2_satisfies_3 hl (by decide) rfl (fun ls hl => ?_)
  have key : ∀ (k : Nat) (v : Nat), v ≤ n → n < v + k → (∀ t, t < v → ¬ ((rz_dg y t = 1 ∧ a.testBit t = true) ∨ (rz_dg y t = 2 ∧ ¬ a.testBit t = true))) → ∀ (H : Heap) (locs : List Loc) (ls : Array Slot), wk_S A s D (tY cA) (wY ad cA n b bs M F) H locs → lv_has ls 6 [(0, .ref (ad 0)), (1, .int (nI (a))), (3, .int (nI (y / 3 ^ v))), (4, .int (nI (v)))] → W p l e R s m args below meth c H locs 0 0 Q (F0 m 5 ls []) := by
    intro k
    induction k with
    | zero => intro v h1 h2 h4; exact absurd h2 (by omega)
    | succ k ih =>
      intro v h1 h2 h4 H locs ls hs hl
      have hdv := rz_dg_lt y v
      have hyv : y / 3 ^ v ≤ y := Nat.div_le_self _ _
      have hav : a / 2 ^ v ≤ a := Nat.div_le_self _ _
      refine lv_iload hx hb dX2_satisfies_5 (lv_at hl 3 rfl) ?_
      refine lv_aload_n hx hb dX2_satisfies_7 rfl (lv_at hl 0 rfl) ?_
      refine yg_n C hs dX2_satisfies_8 ?_
      refine nk_ge (tgt := 62) hx hb (by omega) (by omega) dX2_satisfies_11 (by decide) (fun h => ?_) (fun h => ?_)
      · refine lv_iconst (v := 0) hx hb dX2_satisfies_62 (by decide +kernel) ?_
        exact hret _ () hs (wk_0 (fun ⟨t, q1, q2⟩ => h4 t (by omega) q2)) rfl dX2_satisfies_63
      · refine lv_iload_n hx hb dX2_satisfies_14 rfl (lv_at hl 2 rfl) ?_
        refine lv_iconst (v := nI (3)) hx hb dX2_satisfies_15 (by decide +kernel) ?_
        refine lv_irem hx hb dX2_satisfies_16 wk_3n0 ?_
        refine wk_top (v := nI ((y / 3 ^ v) % 3)) (wk_rem3 (by omega)) ?_
        refine lv_istore (lv' := [(5, .int (nI ((y / 3 ^ v) % 3))), (0, .ref (ad 0)), (1, .int (nI (a))), (3, .int (nI (y / 3 ^ v))), (4, .int (nI (v)))]) hx hb dX2_satisfies_17 hl (by decide) rfl (fun ls hl => ?_)
        refine lv_iload_n hx hb dX2_satisfies_19 rfl (lv_at hl 3 rfl) ?_
        refine lv_iconst (v := nI (3)) hx hb dX2_satisfies_20 (by decide +kernel) ?_
        refine lv_idiv hx hb dX2_satisfies_21 wk_3n0 ?_
        refine wk_top (v := nI ((y / 3 ^ v) / 3)) (wk_div3 (by omega)) ?_
        refine lv_istore_n (lv' := [(3, .int (nI ((y / 3 ^ v) / 3))), (5, .int (nI ((y / 3 ^ v) % 3))), (0, .ref (ad 0)), (1, .int (nI (a))), (4, .int (nI (v)))]) hx hb dX2_satisfies_22 rfl hl (by decide) rfl (fun ls hl => ?_)
        refine lv_iload hx hb dX2_satisfies_23 (lv_at hl 1 rfl) ?_
        refine lv_iconst (v := nI (1)) hx hb dX2_satisfies_25 (by decide +kernel) ?_
        have hd0 : rz_dg y v = y / 3 ^ v % 3 := rfl
        refine nk_ne (tgt := 39) hx hb (by omega) (by omega) dX2_satisfies_26 (by decide) (fun h5 => ?_) (fun h5 => ?_)
        · refine lv_iload hx hb dX2_satisfies_39 (lv_at hl 1 rfl) ?_
          refine lv_iconst (v := nI (2)) hx hb dX2_satisfies_41 (by decide +kernel) ?_
          refine nk_ne (tgt := 56) hx hb (by omega) (by omega) dX2_satisfies_42 (by decide) (fun h6 => ?_) (fun h6 => ?_)
          · refine lv_iinc (v := nI (v + 1)) (lv' := [(4, .int (nI (v + 1))), (3, .int (nI ((y / 3 ^ v) / 3))), (5, .int (nI ((y / 3 ^ v) % 3))), (0, .ref (ad 0)), (1, .int (nI (a)))]) hx hb dX2_satisfies_56 hl (k := 4) rfl (nI_add _ 1) (by decide) rfl (fun ls hl => ?_)
            refine lv_goto (tgt := 5) hx hb dX2_satisfies_59 (by decide) ?_
            rw [rz_d3] at hl
            refine ih (v + 1) (by omega) (by omega) (fun t ht => ?_) _ _ _ hs (lv_sub hl [3, 4, 1, 0] rfl)
            by_cases q : t = v
            · subst q; exact fun z => z.elim (fun z => h5 z.1) (fun z => h6 z.1)
            · exact h4 t (by omega)
          · refine lv_iload_n hx hb dX2_satisfies_45 rfl (lv_at hl 3 rfl) ?_
            refine lv_iload hx hb dX2_satisfies_46 (lv_at hl 4 rfl) ?_
            refine lv_ishr hx hb dX2_satisfies_48 ?_
            refine wk_top (v := nI ((a) / 2 ^ (v))) (wk_shr (by omega) (by omega)) ?_
            refine lv_iconst (v := nI (1)) hx hb dX2_satisfies_49 (by decide +kernel) ?_
            refine lv_iand hx hb dX2_satisfies_50 ?_
            refine wk_top (v := nI (((a) / 2 ^ (v)) % 2)) (wk_and1 _) ?_
            refine nk_if_ne (tgt := 56) hx hb (by omega) dX2_satisfies_51 (by decide) (fun h7 => ?_) (fun h7 => ?_)
            · refine lv_iinc (v := nI (v + 1)) (lv' := [(4, .int (nI (v + 1))), (3, .int (nI ((y / 3 ^ v) / 3))), (5, .int (nI ((y / 3 ^ v) % 3))), (0, .ref (ad 0)), (1, .int (nI (a)))]) hx hb dX2_satisfies_56 hl (k := 4) rfl (nI_add _ 1) (by decide) rfl (fun ls hl => ?_)
              refine lv_goto (tgt := 5) hx hb dX2_satisfies_59 (by decide) ?_
              rw [rz_d3] at hl
              refine ih (v + 1) (by omega) (by omega) (fun t ht => ?_) _ _ _ hs (lv_sub hl [3, 4, 1, 0] rfl)
              by_cases q : t = v
              · subst q; exact fun z => z.elim (fun z => h5 z.1) (fun z => z.2 ((rz_bt a t).mpr (by omega)))
              · exact h4 t (by omega)
            · refine lv_iconst (v := 1) hx hb dX2_satisfies_54 (by decide +kernel) ?_
              exact hret _ () hs (wk_1 ⟨v, h, Or.inr ⟨h6, fun z => by have := (rz_bt a v).mp z; omega⟩⟩) rfl dX2_satisfies_55
        · refine lv_iload_n hx hb dX2_satisfies_29 rfl (lv_at hl 3 rfl) ?_
          refine lv_iload hx hb dX2_satisfies_30 (lv_at hl 4 rfl) ?_
          refine lv_ishr hx hb dX2_satisfies_32 ?_
          refine wk_top (v := nI ((a) / 2 ^ (v))) (wk_shr (by omega) (by omega)) ?_
          refine lv_iconst (v := nI (1)) hx hb dX2_satisfies_33 (by decide +kernel) ?_
          refine lv_iand hx hb dX2_satisfies_34 ?_
          refine wk_top (v := nI (((a) / 2 ^ (v)) % 2)) (wk_and1 _) ?_
          refine lv_iconst (v := nI (1)) hx hb dX2_satisfies_35 (by decide +kernel) ?_
          refine nk_eq (tgt := 54) hx hb (by omega) (by omega) dX2_satisfies_36 (by decide) (fun h6 => ?_) (fun h6 => ?_)
          · refine lv_iconst (v := 1) hx hb dX2_satisfies_54 (by decide +kernel) ?_
            exact hret _ () hs (wk_1 ⟨v, h, Or.inl ⟨h5, (rz_bt a v).mpr (by omega)⟩⟩) rfl dX2_satisfies_55
          · refine lv_iload hx hb dX2_satisfies_39 (lv_at hl 1 rfl) ?_
            refine lv_iconst (v := nI (2)) hx hb dX2_satisfies_41 (by decide +kernel) ?_
            refine nk_ne (tgt := 56) hx hb (by omega) (by omega) dX2_satisfies_42 (by decide) (fun h7 => ?_) (fun h7 => ?_)
            · refine lv_iinc (v := nI (v + 1)) (lv' := [(4, .int (nI (v + 1))), (3, .int (nI ((y / 3 ^ v) / 3))), (5, .int (nI ((y / 3 ^ v) % 3))), (0, .ref (ad 0)), (1, .int (nI (a)))]) hx hb dX2_satisfies_56 hl (k := 4) rfl (nI_add _ 1) (by decide) rfl (fun ls hl => ?_)
              refine lv_goto (tgt := 5) hx hb dX2_satisfies_59 (by decide) ?_
              rw [rz_d3] at hl
              refine ih (v + 1) (by omega) (by omega) (fun t ht => ?_) _ _ _ hs (lv_sub hl [3, 4, 1, 0] rfl)
              by_cases q : t = v
              · subst q; exact fun z => z.elim (fun z => by have := (rz_bt a t).mp z.2; omega) (fun z => h7 z.1)
              · exact h4 t (by omega)
            · exact absurd h7 (by omega)
  exact key (n + 1) 0 (Nat.zero_le _) (by omega) (fun t ht => absurd ht (Nat.not_lt_zero t)) _ _ _ hs (lv_sub (l := [(4, .int (nI 0)), (3, .int (nI (y / 3 ^ 0))), (0, .ref (ad 0)), (1, .int (nI a)), (2, .int (nI y))]) (by rw [Nat.pow_zero, Nat.div_one]; exact hl) [2, 3, 1, 0] rfl)
set_option maxHeartbeats 4000000 in
set_option maxRecDepth 100000 in
theorem m2_within (l : Launch) (D : va_G) (ad : Nat → Nat) (cA : Nat → ClassId) {n : Nat} (hn : n ≤ 5) (b : Nat → Nat) (bs : Nat) (M F : Nat → Prop) {d y : Nat} (hd : d < 3 ^ n) (hy : y < 3 ^ n) : wk_mI l yX2_within cX2_within 6 (some .boolean) (wk_rm 0 0) D (tY cA) (wY ad cA n b bs M F) [.ref (ad 0), .int (nI (d)), .int (nI (y))] (S := Unit) (fun r _ => r = rz_b (rz_W n d y)) (fun _ => wY ad cA n b bs M F) := by
  refine wk_mI.goZ RX2 (by decide) rfl (Nat.le_of_ble_eq_true rfl) ?_
  intro p e R s m args below meth c A ls Q C hR hs hl hret
  have hl : lv_has ls 6 [(0, .ref (ad 0)), (1, .int (nI (d))), (2, .int (nI (y)))] := hl
  have hx := C.1
  have hb := C.2.1
  have h3 := rz_p35 hn
  refine lv_iload_n hx hb dX2_within_0 rfl (lv_at hl 1 rfl) ?_
  refine lv_istore_n (lv' := [(3, .int (nI (d))), (0, .ref (ad 0)), (1, .int (nI (d))), (2, .int (nI (y)))]) hx hb dX2_within_1 rfl hl (by decide) rfl (fun ls hl => ?_)
  refine lv_iload_n hx hb dX2_within_2 rfl (lv_at hl 3 rfl) ?_
  refine lv_istore (lv' := [(4, .int (nI (y))), (3, .int (nI (d))), (0, .ref (ad 0)), (1, .int (nI (d))), (2, .int (nI (y)))]) hx hb dX2_within_3 hl (by decide) rfl (fun ls hl => ?_)
  refine lv_iconst (v := nI (0)) hx hb dX2_within_5 (by decide +kernel) ?_
  refine lv_istore (lv' := [(5, .int (nI (0))), (4, .int (nI (y))), (3, .int (nI (d))), (0, .ref (ad 0)), (1, .int (nI (d))), (2, .int (nI (y)))]) hx hb dX2_within_6 hl (by decide) rfl (fun ls hl => ?_)
  have key : ∀ (k : Nat) (v : Nat), v ≤ n → n < v + k → (∀ t, t < v → rz_dg d t = 0 ∨ rz_dg d t = rz_dg y t) → ∀ (H : Heap) (locs : List Loc) (ls : Array Slot), wk_S A s D (tY cA) (wY ad cA n b bs M F) H locs → lv_has ls 6 [(0, .ref (ad 0)), (3, .int (nI (d / 3 ^ v))), (4, .int (nI (y / 3 ^ v))), (5, .int (nI (v)))] → W p l e R s m args below meth c H locs 0 0 Q (F0 m 8 ls []) := by
    intro k
    induction k with
    | zero => intro v h1 h2 h4; exact absurd h2 (by omega)
    | succ k ih =>
      intro v h1 h2 h4 H locs ls hs hl
      have hyv : y / 3 ^ v ≤ y := Nat.div_le_self _ _
      have hdv : d / 3 ^ v ≤ d := Nat.div_le_self _ _
      have e1 : rz_dg d v = d / 3 ^ v % 3 := rfl
      have e2 : rz_dg y v = y / 3 ^ v % 3 := rfl
      refine lv_iload hx hb dX2_within_8 (lv_at hl 3 rfl) ?_
      refine lv_aload_n hx hb dX2_within_10 rfl (lv_at hl 0 rfl) ?_
      refine yg_n C hs dX2_within_11 ?_
      refine nk_ge (tgt := 51) hx hb (by omega) (by omega) dX2_within_14 (by decide) (fun h => ?_) (fun h => ?_)
      · refine lv_iconst (v := 1) hx hb dX2_within_51 (by decide +kernel) ?_
        exact hret _ () hs (wk_1 (fun t ht => h4 t (by omega))) rfl dX2_within_52
      · refine lv_iload_n hx hb dX2_within_17 rfl (lv_at hl 1 rfl) ?_
        refine lv_iconst (v := nI (3)) hx hb dX2_within_18 (by decide +kernel) ?_
        refine lv_irem hx hb dX2_within_19 wk_3n0 ?_
        refine wk_top (v := nI ((d / 3 ^ v) % 3)) (wk_rem3 (by omega)) ?_
        refine nk_if_eq (tgt := 35) hx hb (by omega) dX2_within_20 (by decide) (fun h5 => ?_) (fun h5 => ?_)
        · refine lv_iload_n hx hb dX2_within_35 rfl (lv_at hl 1 rfl) ?_
          refine lv_iconst (v := nI (3)) hx hb dX2_within_36 (by decide +kernel) ?_
          refine lv_idiv hx hb dX2_within_37 wk_3n0 ?_
          refine wk_top (v := nI ((d / 3 ^ v) / 3)) (wk_div3 (by omega)) ?_
          refine lv_istore_n (lv' := [(3, .int (nI ((d / 3 ^ v) / 3))), (0, .ref (ad 0)), (4, .int (nI (y / 3 ^ v))), (5, .int (nI (v)))]) hx hb dX2_within_38 rfl hl (by decide) rfl (fun ls hl => ?_)
          refine lv_iload hx hb dX2_within_39 (lv_at hl 2 rfl) ?_
          refine lv_iconst (v := nI (3)) hx hb dX2_within_41 (by decide +kernel) ?_
          refine lv_idiv hx hb dX2_within_42 wk_3n0 ?_
          refine wk_top (v := nI ((y / 3 ^ v) / 3)) (wk_div3 (by omega)) ?_
          refine lv_istore (lv' := [(4, .int (nI ((y / 3 ^ v) / 3))), (3, .int (nI ((d / 3 ^ v) / 3))), (0, .ref (ad 0)), (5, .int (nI (v)))]) hx hb dX2_within_43 hl (by decide) rfl (fun ls hl => ?_)
          refine lv_iinc (v := nI (v + 1)) (lv' := [(5, .int (nI (v + 1))), (4, .int (nI ((y / 3 ^ v) / 3))), (3, .int (nI ((d / 3 ^ v) / 3))), (0, .ref (ad 0))]) hx hb dX2_within_45 hl (k := 3) rfl (nI_add _ 1) (by decide) rfl (fun ls hl => ?_)
          refine lv_goto (tgt := 8) hx hb dX2_within_48 (by decide) ?_
          rw [rz_d3, rz_d3] at hl
          refine ih (v + 1) (by omega) (by omega) (fun t ht => ?_) _ _ _ hs (lv_sub hl [3, 2, 1, 0] rfl)
          by_cases q : t = v
          · subst q; exact Or.inl h5
          · exact h4 t (by omega)
        · refine lv_iload_n hx hb dX2_within_23 rfl (lv_at hl 1 rfl) ?_
          refine lv_iconst (v := nI (3)) hx hb dX2_within_24 (by decide +kernel) ?_
          refine lv_irem hx hb dX2_within_25 wk_3n0 ?_
          refine wk_top (v := nI ((d / 3 ^ v) % 3)) (wk_rem3 (by omega)) ?_
          refine lv_iload hx hb dX2_within_26 (lv_at hl 2 rfl) ?_
          refine lv_iconst (v := nI (3)) hx hb dX2_within_28 (by decide +kernel) ?_
          refine lv_irem hx hb dX2_within_29 wk_3n0 ?_
          refine wk_top (v := nI ((y / 3 ^ v) % 3)) (wk_rem3 (by omega)) ?_
          refine nk_eq (tgt := 35) hx hb (by omega) (by omega) dX2_within_30 (by decide) (fun h6 => ?_) (fun h6 => ?_)
          · refine lv_iload_n hx hb dX2_within_35 rfl (lv_at hl 1 rfl) ?_
            refine lv_iconst (v := nI (3)) hx hb dX2_within_36 (by decide +kernel) ?_
            refine lv_idiv hx hb dX2_within_37 wk_3n0 ?_
            refine wk_top (v := nI ((d / 3 ^ v) / 3)) (wk_div3 (by omega)) ?_
            refine lv_istore_n (lv' := [(3, .int (nI ((d / 3 ^ v) / 3))), (0, .ref (ad 0)), (4, .int (nI (y / 3 ^ v))), (5, .int (nI (v)))]) hx hb dX2_within_38 rfl hl (by decide) rfl (fun ls hl => ?_)
            refine lv_iload hx hb dX2_within_39 (lv_at hl 2 rfl) ?_
            refine lv_iconst (v := nI (3)) hx hb dX2_within_41 (by decide +kernel) ?_
            refine lv_idiv hx hb dX2_within_42 wk_3n0 ?_
            refine wk_top (v := nI ((y / 3 ^ v) / 3)) (wk_div3 (by omega)) ?_
            refine lv_istore (lv' := [(4, .int (nI ((y / 3 ^ v) / 3))), (3, .int (nI ((d / 3 ^ v) / 3))), (0, .ref (ad 0)), (5, .int (nI (v)))]) hx hb dX2_within_43 hl (by decide) rfl (fun ls hl => ?_)
            refine lv_iinc (v := nI (v + 1)) (lv' := [(5, .int (nI (v + 1))), (4, .int (nI ((y / 3 ^ v) / 3))), (3, .int (nI ((d / 3 ^ v) / 3))), (0, .ref (ad 0))]) hx hb dX2_within_45 hl (k := 3) rfl (nI_add _ 1) (by decide) rfl (fun ls hl => ?_)
            refine lv_goto (tgt := 8) hx hb dX2_within_48 (by decide) ?_
            rw [rz_d3, rz_d3] at hl
            refine ih (v + 1) (by omega) (by omega) (fun t ht => ?_) _ _ _ hs (lv_sub hl [3, 2, 1, 0] rfl)
            by_cases q : t = v
            · subst q; exact Or.inr h6
            · exact h4 t (by omega)
          · refine lv_iconst (v := 0) hx hb dX2_within_33 (by decide +kernel) ?_
            exact hret _ () hs (wk_0 (fun z => (z v h).elim h5 h6)) rfl dX2_within_34
  exact key (n + 1) 0 (Nat.zero_le _) (by omega) (fun t ht => absurd ht (Nat.not_lt_zero t)) _ _ _ hs (lv_sub (l := [(5, .int (nI 0)), (4, .int (nI (y / 3 ^ 0))), (3, .int (nI (d / 3 ^ 0))), (0, .ref (ad 0)), (1, .int (nI d)), (2, .int (nI y))]) (by rw [Nat.pow_zero, Nat.div_one, Nat.div_one]; exact hl) [3, 2, 1, 0] rfl)
set_option maxHeartbeats 4000000 in
set_option maxRecDepth 100000 in
theorem m2_findModels (l : Launch) (D : va_G) (ad : Nat → Nat) (cA : Nat → ClassId) {n : Nat} (hn : n ≤ 5) (b : Nat → Nat) (bs : Nat) (M F : Nat → Prop) (hB : rz_bs (3 ^ n) b bs) (x : Int32) : wk_mV l yX2_findModels cX2_findModels 4 none (wk_rm 1 25) D (tY cA) (wY ad cA n b bs M F) [.ref (ad 0), .int (x)] (S := Nat → Prop) (fun u => ∀ t, t < 2 ^ n → (u t ↔ (∀ j, j < bs → ¬ nI j = x → rz_S n t (b j)))) (fun u => wY ad cA n b bs u F) := by
  refine wk_mV.go RX2 (by decide) rfl (Nat.le_of_ble_eq_true rfl) ?_
  intro p e R s m args below meth c A ls Q C hR hs hl hret
  have hl : lv_has ls 4 [(0, .ref (ad 0)), (1, .int (x))] := hl
  have hx := C.1
  have hb := C.2.1
  have h3 := rz_p35 hn
  have hp2 := rz_p25 hn
  have h12 := hB.1
  refine lv_iconst (v := nI (0)) hx hb dX2_findModels_0 (by decide +kernel) ?_
  refine lv_istore_n (lv' := [(2, .int (nI (0))), (0, .ref (ad 0)), (1, .int (x))]) hx hb dX2_findModels_1 rfl hl (by decide) rfl (fun ls hl => ?_)
  have key : ∀ (k : Nat) (a : Nat) (M1 : Nat → Prop), a ≤ 2 ^ n → 2 ^ n < a + k → (∀ t, t < a → (M1 t ↔ (∀ j, j < bs → ¬ nI j = x → rz_S n t (b j)))) → ∀ (H : Heap) (locs : List Loc) (ls : Array Slot), wk_S A s D (tY cA) (wY ad cA n b bs M1 F) H locs → lv_has ls 4 [(0, .ref (ad 0)), (1, .int (x)), (2, .int (nI (a)))] → W p l e R s m args below meth c H locs 0 0 Q (F0 m 2 ls []) := by
    intro k
    induction k with
    | zero => intro a M1 h1 h2 h4; exact absurd h2 (by omega)
    | succ k ih =>
      intro a M1 h1 h2 h4 H locs ls hs hl
      refine lv_iload_n hx hb dX2_findModels_2 rfl (lv_at hl 2 rfl) ?_
      refine lv_iconst (v := nI (1)) hx hb dX2_findModels_3 (by decide +kernel) ?_
      refine lv_aload_n hx hb dX2_findModels_4 rfl (lv_at hl 0 rfl) ?_
      refine yg_n C hs dX2_findModels_5 ?_
      refine lv_ishl hx hb dX2_findModels_8 ?_
      refine wk_top (v := nI (2 ^ (n))) (wk_shl (by omega)) ?_
      refine nk_ge (tgt := 67) hx hb (by omega) (by omega) dX2_findModels_9 (by decide) (fun h => ?_) (fun h => ?_)
      · exact hret M1 hs (fun t ht => h4 t (by omega)) dX2_findModels_67
      · refine lv_aload_n hx hb dX2_findModels_12 rfl (lv_at hl 0 rfl) ?_
        refine yg_model C hs dX2_findModels_13 ?_
        refine lv_iload_n hx hb dX2_findModels_16 rfl (lv_at hl 2 rfl) ?_
        refine lv_iconst (v := rz_b (True)) hx hb dX2_findModels_17 wk_ofT ?_
        refine ys_M C hs (by omega) dX2_findModels_18 (fun H locs hs => ?_)
        refine lv_iconst (v := nI (0)) hx hb dX2_findModels_19 (by decide +kernel) ?_
        refine lv_istore_n (lv' := [(3, .int (nI (0))), (0, .ref (ad 0)), (1, .int (x)), (2, .int (nI (a)))]) hx hb dX2_findModels_20 rfl hl (by decide) rfl (fun ls hl => ?_)
        have key2 : ∀ (k2 : Nat) (i : Nat) (M2 : Nat → Prop), i ≤ bs → bs < i + k2 → (∀ t, t ≠ a → (M2 t ↔ M1 t)) → (M2 a ↔ (∀ j, j < i → ¬ nI j = x → rz_S n a (b j))) → ∀ (H : Heap) (locs : List Loc) (ls : Array Slot), wk_S A s D (tY cA) (wY ad cA n b bs M2 F) H locs → lv_has ls 4 [(0, .ref (ad 0)), (1, .int (x)), (2, .int (nI (a))), (3, .int (nI (i)))] → W p l e R s m args below meth c H locs 0 0 Q (F0 m 21 ls []) := by
          intro k2
          induction k2 with
          | zero => intro i M2 g1 g2 g3 g4; exact absurd g2 (by omega)
          | succ k2 ih2 =>
            intro i M2 g1 g2 g3 g4 H locs ls hs hl
            refine lv_iload_n hx hb dX2_findModels_21 rfl (lv_at hl 3 rfl) ?_
            refine lv_aload_n hx hb dX2_findModels_22 rfl (lv_at hl 0 rfl) ?_
            refine yg_size C hs dX2_findModels_23 ?_
            refine nk_ge (tgt := 61) hx hb (by omega) (by omega) dX2_findModels_26 (by decide) (fun h5 => ?_) (fun h5 => ?_)
            · have ei : i = bs := by omega
              subst ei
              refine lv_iinc (v := nI (a + 1)) (lv' := [(2, .int (nI (a + 1))), (0, .ref (ad 0)), (1, .int (x)), (3, .int (nI (i)))]) hx hb dX2_findModels_61 hl (k := 2) rfl (nI_add _ 1) (by decide) rfl (fun ls hl => ?_)
              refine lv_goto (tgt := 2) hx hb dX2_findModels_64 (by decide) ?_
              refine ih (a + 1) M2 (by omega) (by omega) (fun t ht => ?_) _ _ _ hs (lv_sub hl [1, 2, 0] rfl)
              by_cases q : t = a
              · subst q; exact g4
              · rw [g3 t q]; exact h4 t (by omega)
            · refine lv_iload_n hx hb dX2_findModels_29 rfl (lv_at hl 3 rfl) ?_
              refine lv_iload_n hx hb dX2_findModels_30 rfl (lv_at hl 1 rfl) ?_
              refine lv_icmp_eq (tgt := 55) hx hb dX2_findModels_31 (by decide) (fun h6 => ?_) (fun h6 => ?_)
              · refine lv_iinc (v := nI (i + 1)) (lv' := [(3, .int (nI (i + 1))), (0, .ref (ad 0)), (1, .int (x)), (2, .int (nI (a)))]) hx hb dX2_findModels_55 hl (k := 3) rfl (nI_add _ 1) (by decide) rfl (fun ls hl => ?_)
                refine lv_goto (tgt := 21) hx hb dX2_findModels_58 (by decide) ?_
                refine ih2 (i + 1) M2 (by omega) (by omega) g3 ?_ _ _ _ hs (lv_sub hl [1, 2, 3, 0] rfl)
                rw [g4]
                constructor
                · intro z j hj hjx
                  by_cases q : j = i
                  · exact absurd (q ▸ h6) hjx
                  · exact z j (by omega) hjx
                · exact fun z j hj => z j (by omega)
              · refine lv_aload_n hx hb dX2_findModels_34 rfl (lv_at hl 0 rfl) ?_
                refine lv_iload_n hx hb dX2_findModels_35 rfl (lv_at hl 2 rfl) ?_
                refine lv_aload_n hx hb dX2_findModels_36 rfl (lv_at hl 0 rfl) ?_
                refine yg_base C hs dX2_findModels_37 ?_
                refine lv_iload_n hx hb dX2_findModels_40 rfl (lv_at hl 3 rfl) ?_
                refine yl_B C hs (by omega) dX2_findModels_41 ?_
                refine wk_calli (As := [.int (nI (a)), .int (nI (b i))]) (rest := []) (q0 := 0) C hs (m2_satisfies l D ad cA hn b bs M2 F (a := a) (by omega) (hB.2.1 i h5)) (cwX2_X2_satisfies C.2.2.2.2.2.1 (hR.le (by decide) (by decide))) rfl rfl rfl hl.1 rfl (Nat.le_of_ble_eq_true rfl) dX2_findModels_42 ⟨Nat.zero_le _, Nat.zero_le _⟩ (fun r u H locs hq hs => ?_)
                obtain rfl := hq
                refine bk_if_ne (tgt := 55) hx hb dX2_findModels_45 (by decide) (fun h7 => ?_) (fun h7 => ?_)
                · refine lv_iinc (v := nI (i + 1)) (lv' := [(3, .int (nI (i + 1))), (0, .ref (ad 0)), (1, .int (x)), (2, .int (nI (a)))]) hx hb dX2_findModels_55 hl (k := 3) rfl (nI_add _ 1) (by decide) rfl (fun ls hl => ?_)
                  refine lv_goto (tgt := 21) hx hb dX2_findModels_58 (by decide) ?_
                  refine ih2 (i + 1) M2 (by omega) (by omega) g3 ?_ _ _ _ hs (lv_sub hl [1, 2, 3, 0] rfl)
                  rw [g4]
                  constructor
                  · intro z j hj hjx
                    by_cases q : j = i
                    · rw [q]; exact h7
                    · exact z j (by omega) hjx
                  · exact fun z j hj => z j (by omega)
                · refine lv_aload_n hx hb dX2_findModels_48 rfl (lv_at hl 0 rfl) ?_
                  refine yg_model C hs dX2_findModels_49 ?_
                  refine lv_iload_n hx hb dX2_findModels_52 rfl (lv_at hl 2 rfl) ?_
                  refine lv_iconst (v := rz_b (False)) hx hb dX2_findModels_53 wk_ofF ?_
                  refine ys_M C hs (by omega) dX2_findModels_54 (fun H locs hs => ?_)
                  rw [rz_uq_F] at hs
                  refine lv_iinc (v := nI (i + 1)) (lv' := [(3, .int (nI (i + 1))), (0, .ref (ad 0)), (1, .int (x)), (2, .int (nI (a)))]) hx hb dX2_findModels_55 hl (k := 3) rfl (nI_add _ 1) (by decide) rfl (fun ls hl => ?_)
                  refine lv_goto (tgt := 21) hx hb dX2_findModels_58 (by decide) ?_
                  refine ih2 (i + 1) _ (by omega) (by omega) (fun t ht => ⟨fun z => (g3 t ht).mp z.1, fun z => ⟨(g3 t ht).mpr z, ht⟩⟩) ?_ _ _ _ hs (lv_sub hl [1, 2, 3, 0] rfl)
                  exact ⟨fun z => absurd rfl z.2, fun z => absurd (z i (by omega) h6) h7⟩
        refine key2 (bs + 1) 0 _ (Nat.zero_le _) (by omega) (fun t ht => ⟨fun z => z.elim (fun q => absurd q.1 ht) And.right, fun z => Or.inr ⟨ht, z⟩⟩) ⟨fun _ j hj => absurd hj (Nat.not_lt_zero j), fun _ => Or.inl ⟨rfl, trivial⟩⟩ _ _ _ hs (lv_sub hl [1, 2, 3, 0] rfl)
  exact key (2 ^ n + 1) 0 M (Nat.zero_le _) (by omega) (fun t ht => absurd ht (Nat.not_lt_zero t)) _ _ _ hs (lv_sub hl [1, 2, 0] rfl)
set_option maxHeartbeats 4000000 in
set_option maxRecDepth 100000 in
theorem m2_followsNow (l : Launch) (D : va_G) (ad : Nat → Nat) (cA : Nat → ClassId) {n : Nat} (hn : n ≤ 5) (b : Nat → Nat) (bs : Nat) (M F : Nat → Prop) {y : Nat} (hy : y < 3 ^ n) : wk_mI l yX2_followsNow cX2_followsNow 3 (some .boolean) (wk_rm 1 25) D (tY cA) (wY ad cA n b bs M F) [.ref (ad 0), .int (nI (y))] (S := Unit) (fun r _ => r = rz_b (∀ t, t < 2 ^ n → M t → rz_S n t y)) (fun _ => wY ad cA n b bs M F) := by
  refine wk_mI.goZ RX2 (by decide) rfl (Nat.le_of_ble_eq_true rfl) ?_
  intro p e R s m args below meth c A ls Q C hR hs hl hret
  have hl : lv_has ls 3 [(0, .ref (ad 0)), (1, .int (nI (y)))] := hl
  have hx := C.1
  have hb := C.2.1
  have h3 := rz_p35 hn
  have hp2 := rz_p25 hn
  refine lv_iconst (v := nI (0)) hx hb dX2_followsNow_0 (by decide +kernel) ?_
  refine lv_istore_n (lv' := [(2, .int (nI (0))), (0, .ref (ad 0)), (1, .int (nI (y)))]) hx hb dX2_followsNow_1 rfl hl (by decide) rfl (fun ls hl => ?_)
  have key : ∀ (k : Nat) (a : Nat), a ≤ 2 ^ n → 2 ^ n < a + k → (∀ t, t < a → M t → rz_S n t y) → ∀ (H : Heap) (locs : List Loc) (ls : Array Slot), wk_S A s D (tY cA) (wY ad cA n b bs M F) H locs → lv_has ls 3 [(0, .ref (ad 0)), (1, .int (nI (y))), (2, .int (nI (a)))] → W p l e R s m args below meth c H locs 0 0 Q (F0 m 2 ls []) := by
    intro k
    induction k with
    | zero => intro a h1 h2 h4; exact absurd h2 (by omega)
    | succ k ih =>
      intro a h1 h2 h4 H locs ls hs hl
      refine lv_iload_n hx hb dX2_followsNow_2 rfl (lv_at hl 2 rfl) ?_
      refine lv_iconst (v := nI (1)) hx hb dX2_followsNow_3 (by decide +kernel) ?_
      refine lv_aload_n hx hb dX2_followsNow_4 rfl (lv_at hl 0 rfl) ?_
      refine yg_n C hs dX2_followsNow_5 ?_
      refine lv_ishl hx hb dX2_followsNow_8 ?_
      refine wk_top (v := nI (2 ^ (n))) (wk_shl (by omega)) ?_
      refine nk_ge (tgt := 38) hx hb (by omega) (by omega) dX2_followsNow_9 (by decide) (fun h => ?_) (fun h => ?_)
      · refine lv_iconst (v := 1) hx hb dX2_followsNow_38 (by decide +kernel) ?_
        exact hret _ () hs (wk_1 (fun t ht => h4 t (by omega))) rfl dX2_followsNow_39
      · refine lv_aload_n hx hb dX2_followsNow_12 rfl (lv_at hl 0 rfl) ?_
        refine yg_model C hs dX2_followsNow_13 ?_
        refine lv_iload_n hx hb dX2_followsNow_16 rfl (lv_at hl 2 rfl) ?_
        refine yl_M C hs (by omega) dX2_followsNow_17 ?_
        refine bk_if_eq (tgt := 32) hx hb dX2_followsNow_18 (by decide) (fun h5 => ?_) (fun h5 => ?_)
        · refine lv_iinc (v := nI (a + 1)) (lv' := [(2, .int (nI (a + 1))), (0, .ref (ad 0)), (1, .int (nI (y)))]) hx hb dX2_followsNow_32 hl (k := 2) rfl (nI_add _ 1) (by decide) rfl (fun ls hl => ?_)
          refine lv_goto (tgt := 2) hx hb dX2_followsNow_35 (by decide) ?_
          refine ih (a + 1) (by omega) (by omega) (fun t ht hM => ?_) _ _ _ hs (lv_sub hl [1, 2, 0] rfl)
          by_cases q : t = a
          · subst q; exact absurd hM h5
          · exact h4 t (by omega) hM
        · refine lv_aload_n hx hb dX2_followsNow_21 rfl (lv_at hl 0 rfl) ?_
          refine lv_iload_n hx hb dX2_followsNow_22 rfl (lv_at hl 2 rfl) ?_
          refine lv_iload_n hx hb dX2_followsNow_23 rfl (lv_at hl 1 rfl) ?_
          refine wk_calli (As := [.int (nI (a)), .int (nI (y))]) (rest := []) (q0 := 0) C hs (m2_satisfies l D ad cA hn b bs M F (a := a) (by omega) hy) (cwX2_X2_satisfies C.2.2.2.2.2.1 (hR.le (by decide) (by decide))) rfl rfl rfl hl.1 rfl (Nat.le_of_ble_eq_true rfl) dX2_followsNow_24 ⟨Nat.zero_le _, Nat.zero_le _⟩ (fun r u H locs hq hs => ?_)
          obtain rfl := hq
          refine bk_if_ne (tgt := 32) hx hb dX2_followsNow_27 (by decide) (fun h6 => ?_) (fun h6 => ?_)
          · refine lv_iinc (v := nI (a + 1)) (lv' := [(2, .int (nI (a + 1))), (0, .ref (ad 0)), (1, .int (nI (y)))]) hx hb dX2_followsNow_32 hl (k := 2) rfl (nI_add _ 1) (by decide) rfl (fun ls hl => ?_)
            refine lv_goto (tgt := 2) hx hb dX2_followsNow_35 (by decide) ?_
            refine ih (a + 1) (by omega) (by omega) (fun t ht hM => ?_) _ _ _ hs (lv_sub hl [1, 2, 0] rfl)
            by_cases q : t = a
            · subst q; exact h6
            · exact h4 t (by omega) hM
          · refine lv_iconst (v := 0) hx hb dX2_followsNow_30 (by decide +kernel) ?_
            exact hret _ () hs (wk_0 (fun z => h6 (z a h h5))) rfl dX2_followsNow_31
  exact key (2 ^ n + 1) 0 (Nat.zero_le _) (by omega) (fun t ht => absurd ht (Nat.not_lt_zero t)) _ _ _ hs (lv_sub hl [1, 2, 0] rfl)
set_option maxHeartbeats 4000000 in
set_option maxRecDepth 100000 in
theorem m2_findFollowing (l : Launch) (D : va_G) (ad : Nat → Nat) (cA : Nat → ClassId) {n : Nat} (hn : n ≤ 5) (b : Nat → Nat) (bs : Nat) (M F : Nat → Prop) (hB : rz_bs (3 ^ n) b bs) : wk_mV l yX2_findFollowing cX2_findFollowing 2 none (wk_rm 2 48) D (tY cA) (wY ad cA n b bs M F) [.ref (ad 0)] (S := (Nat → Prop) × (Nat → Prop)) (fun u => (∀ t, t < 2 ^ n → (u.1 t ↔ rz_M n (rz_B b bs) t)) ∧ ∀ t, t < 3 ^ n → (u.2 t ↔ rz_Fo n (rz_B b bs) t)) (fun u => wY ad cA n b bs (u.1) (u.2)) := by
  refine wk_mV.go RX2 (by decide) rfl (Nat.le_of_ble_eq_true rfl) ?_
  intro p e R s m args below meth c A ls Q C hR hs hl hret
  have hl : lv_has ls 2 [(0, .ref (ad 0))] := hl
  have hx := C.1
  have hb := C.2.1
  have h3 := rz_p35 hn
  have hp2 := rz_p25 hn
  have h12 := hB.1
  refine lv_aload_n hx hb dX2_findFollowing_0 rfl (lv_at hl 0 rfl) ?_
  refine lv_iconst (v := (-1)) hx hb dX2_findFollowing_1 (by decide +kernel) ?_
  refine wk_callv (As := [.int ((-1))]) (rest := []) (q0 := 0) C hs (m2_findModels l D ad cA hn b bs M F hB (-1)) (cwX2_X2_findModels C.2.2.2.2.2.1 (hR.le (by decide) (by decide))) rfl rfl rfl hl.1 rfl (Nat.le_of_ble_eq_true rfl) dX2_findFollowing_2 ⟨Nat.zero_le _, Nat.zero_le _⟩ (fun M1 H locs hq hs => ?_)
  have hM : ∀ t, t < 2 ^ n → (M1 t ↔ rz_M n (rz_B b bs) t) := fun t ht => by
    rw [hq t ht, rz_MB]
    exact ⟨fun z j hj => z j hj (rz_nm1 (by omega)), fun z j hj _ => z j hj⟩
  refine lv_iconst (v := nI (0)) hx hb dX2_findFollowing_5 (by decide +kernel) ?_
  refine lv_istore_n (lv' := [(1, .int (nI (0))), (0, .ref (ad 0))]) hx hb dX2_findFollowing_6 rfl hl (by decide) rfl (fun ls hl => ?_)
  have key : ∀ (k : Nat) (i : Nat) (F1 : Nat → Prop), i ≤ 3 ^ n → 3 ^ n < i + k → (∀ t, t < i → (F1 t ↔ rz_Fo n (rz_B b bs) t)) → ∀ (H : Heap) (locs : List Loc) (ls : Array Slot), wk_S A s D (tY cA) (wY ad cA n b bs M1 F1) H locs → lv_has ls 2 [(0, .ref (ad 0)), (1, .int (nI (i)))] → W p l e R s m args below meth c H locs 0 0 Q (F0 m 7 ls []) := by
    intro k
    induction k with
    | zero => intro i F1 h1 h2 h4; exact absurd h2 (by omega)
    | succ k ih =>
      intro i F1 h1 h2 h4 H locs ls hs hl
      refine lv_iload_n hx hb dX2_findFollowing_7 rfl (lv_at hl 1 rfl) ?_
      refine lv_aload_n hx hb dX2_findFollowing_8 rfl (lv_at hl 0 rfl) ?_
      refine yg_clauses C hs dX2_findFollowing_9 ?_
      refine nk_ge (tgt := 32) hx hb (by omega) (by omega) dX2_findFollowing_12 (by decide) (fun h => ?_) (fun h => ?_)
      · exact hret (M1, F1) hs ⟨hM, fun t ht => h4 t (by omega)⟩ dX2_findFollowing_32
      · refine lv_aload_n hx hb dX2_findFollowing_15 rfl (lv_at hl 0 rfl) ?_
        refine yg_follows C hs dX2_findFollowing_16 ?_
        refine lv_iload_n hx hb dX2_findFollowing_19 rfl (lv_at hl 1 rfl) ?_
        refine lv_aload_n hx hb dX2_findFollowing_20 rfl (lv_at hl 0 rfl) ?_
        refine lv_iload_n hx hb dX2_findFollowing_21 rfl (lv_at hl 1 rfl) ?_
        refine wk_calli (As := [.int (nI (i))]) (rest := [.int (nI (i)), .ref (ad 3)]) (q0 := 0) C hs (m2_followsNow l D ad cA hn b bs M1 F1 h) (cwX2_X2_followsNow C.2.2.2.2.2.1 (hR.le (by decide) (by decide))) rfl rfl rfl hl.1 rfl (Nat.le_of_ble_eq_true rfl) dX2_findFollowing_22 ⟨Nat.zero_le _, Nat.zero_le _⟩ (fun r u H locs hq hs => ?_)
        obtain rfl := hq
        refine ys_F C hs (by omega) dX2_findFollowing_25 (fun H locs hs => ?_)
        refine lv_iinc (v := nI (i + 1)) (lv' := [(1, .int (nI (i + 1))), (0, .ref (ad 0))]) hx hb dX2_findFollowing_26 hl (k := 1) rfl (nI_add _ 1) (by decide) rfl (fun ls hl => ?_)
        refine lv_goto (tgt := 7) hx hb dX2_findFollowing_29 (by decide) ?_
        refine ih (i + 1) _ (by omega) (by omega) (fun t ht => ?_) _ _ _ hs (lv_sub hl [1, 0] rfl)
        unfold rz_uq
        by_cases q : t = i
        · subst q
          refine ⟨fun z => z.elim (fun y a ha hm => y.2 a ha ((hM a ha).mpr hm)) (fun y => absurd rfl y.1), fun z => Or.inl ⟨rfl, fun a ha hm => z a ha ((hM a ha).mp hm)⟩⟩
        · rw [← h4 t (by omega)]
          exact ⟨fun z => z.elim (fun y => absurd y.1 q) And.right, fun z => Or.inr ⟨q, z⟩⟩
  exact key (3 ^ n + 1) 0 F (Nat.zero_le _) (by omega) (fun t ht => absurd ht (Nat.not_lt_zero t)) _ _ _ hs (lv_sub hl [1, 0] rfl)
set_option maxHeartbeats 4000000 in
set_option maxRecDepth 100000 in
theorem m2_isPrime (l : Launch) (D : va_G) (ad : Nat → Nat) (cA : Nat → ClassId) {n : Nat} (hn : n ≤ 5) (b : Nat → Nat) (bs : Nat) (M F : Nat → Prop) (T : Nat → Prop) (hF : ∀ t, t < 3 ^ n → (F t ↔ rz_Fo n T t)) {y : Nat} (hy : y < 3 ^ n) : wk_mI l yX2_isPrime cX2_isPrime 3 (some .boolean) (wk_rm 1 25) D (tY cA) (wY ad cA n b bs M F) [.ref (ad 0), .int (nI (y))] (S := Unit) (fun r _ => r = rz_b (rz_Pr n T y)) (fun _ => wY ad cA n b bs M F) := by
  refine wk_mI.goZ RX2 (by decide) rfl (Nat.le_of_ble_eq_true rfl) ?_
  intro p e R s m args below meth c A ls Q C hR hs hl hret
  have hl : lv_has ls 3 [(0, .ref (ad 0)), (1, .int (nI (y)))] := hl
  have hx := C.1
  have hb := C.2.1
  have h3 := rz_p35 hn
  refine lv_aload_n hx hb dX2_isPrime_0 rfl (lv_at hl 0 rfl) ?_
  refine yg_follows C hs dX2_isPrime_1 ?_
  refine lv_iload_n hx hb dX2_isPrime_4 rfl (lv_at hl 1 rfl) ?_
  refine yl_F C hs (by omega) dX2_isPrime_5 ?_
  refine bk_if_ne (tgt := 11) hx hb dX2_isPrime_6 (by decide) (fun h0 => ?_) (fun h0 => ?_)
  · refine lv_iconst (v := nI (0)) hx hb dX2_isPrime_11 (by decide +kernel) ?_
    refine lv_istore_n (lv' := [(2, .int (nI (0))), (0, .ref (ad 0)), (1, .int (nI (y)))]) hx hb dX2_isPrime_12 rfl hl (by decide) rfl (fun ls hl => ?_)
    have key : ∀ (k : Nat) (i : Nat), i ≤ 3 ^ n → 3 ^ n < i + k → (∀ d, d < i → d ≠ y → F d → ¬ rz_W n d y) → ∀ (H : Heap) (locs : List Loc) (ls : Array Slot), wk_S A s D (tY cA) (wY ad cA n b bs M F) H locs → lv_has ls 3 [(0, .ref (ad 0)), (1, .int (nI (y))), (2, .int (nI (i)))] → W p l e R s m args below meth c H locs 0 0 Q (F0 m 13 ls []) := by
      intro k
      induction k with
      | zero => intro i h1 h2 h4; exact absurd h2 (by omega)
      | succ k ih =>
        intro i h1 h2 h4 H locs ls hs hl
        refine lv_iload_n hx hb dX2_isPrime_13 rfl (lv_at hl 2 rfl) ?_
        refine lv_aload_n hx hb dX2_isPrime_14 rfl (lv_at hl 0 rfl) ?_
        refine yg_clauses C hs dX2_isPrime_15 ?_
        refine nk_ge (tgt := 52) hx hb (by omega) (by omega) dX2_isPrime_18 (by decide) (fun h => ?_) (fun h => ?_)
        · refine lv_iconst (v := 1) hx hb dX2_isPrime_52 (by decide +kernel) ?_
          exact hret _ () hs (wk_1 ⟨(hF y hy).mp h0, fun d hd hne hFo => h4 d (by omega) hne ((hF d hd).mpr hFo)⟩) rfl dX2_isPrime_53
        · refine lv_iload_n hx hb dX2_isPrime_21 rfl (lv_at hl 2 rfl) ?_
          refine lv_iload_n hx hb dX2_isPrime_22 rfl (lv_at hl 1 rfl) ?_
          refine nk_eq (tgt := 46) hx hb (by omega) (by omega) dX2_isPrime_23 (by decide) (fun h5 => ?_) (fun h5 => ?_)
          · refine lv_iinc (v := nI (i + 1)) (lv' := [(2, .int (nI (i + 1))), (0, .ref (ad 0)), (1, .int (nI (y)))]) hx hb dX2_isPrime_46 hl (k := 2) rfl (nI_add _ 1) (by decide) rfl (fun ls hl => ?_)
            refine lv_goto (tgt := 13) hx hb dX2_isPrime_49 (by decide) ?_
            refine ih (i + 1) (by omega) (by omega) (fun d hd hne hFd => ?_) _ _ _ hs (lv_sub hl [1, 2, 0] rfl)
            by_cases q : d = i
            · subst q; exact absurd h5 hne
            · exact h4 d (by omega) hne hFd
          · refine lv_aload_n hx hb dX2_isPrime_26 rfl (lv_at hl 0 rfl) ?_
            refine yg_follows C hs dX2_isPrime_27 ?_
            refine lv_iload_n hx hb dX2_isPrime_30 rfl (lv_at hl 2 rfl) ?_
            refine yl_F C hs (by omega) dX2_isPrime_31 ?_
            refine bk_if_eq (tgt := 46) hx hb dX2_isPrime_32 (by decide) (fun h6 => ?_) (fun h6 => ?_)
            · refine lv_iinc (v := nI (i + 1)) (lv' := [(2, .int (nI (i + 1))), (0, .ref (ad 0)), (1, .int (nI (y)))]) hx hb dX2_isPrime_46 hl (k := 2) rfl (nI_add _ 1) (by decide) rfl (fun ls hl => ?_)
              refine lv_goto (tgt := 13) hx hb dX2_isPrime_49 (by decide) ?_
              refine ih (i + 1) (by omega) (by omega) (fun d hd hne hFd => ?_) _ _ _ hs (lv_sub hl [1, 2, 0] rfl)
              by_cases q : d = i
              · subst q; exact absurd hFd h6
              · exact h4 d (by omega) hne hFd
            · refine lv_aload_n hx hb dX2_isPrime_35 rfl (lv_at hl 0 rfl) ?_
              refine lv_iload_n hx hb dX2_isPrime_36 rfl (lv_at hl 2 rfl) ?_
              refine lv_iload_n hx hb dX2_isPrime_37 rfl (lv_at hl 1 rfl) ?_
              refine wk_calli (As := [.int (nI (i)), .int (nI (y))]) (rest := []) (q0 := 0) C hs (m2_within l D ad cA hn b bs M F h hy) (cwX2_X2_within C.2.2.2.2.2.1 (hR.le (by decide) (by decide))) rfl rfl rfl hl.1 rfl (Nat.le_of_ble_eq_true rfl) dX2_isPrime_38 ⟨Nat.zero_le _, Nat.zero_le _⟩ (fun r u H locs hq hs => ?_)
              obtain rfl := hq
              refine bk_if_eq (tgt := 46) hx hb dX2_isPrime_41 (by decide) (fun h7 => ?_) (fun h7 => ?_)
              · refine lv_iinc (v := nI (i + 1)) (lv' := [(2, .int (nI (i + 1))), (0, .ref (ad 0)), (1, .int (nI (y)))]) hx hb dX2_isPrime_46 hl (k := 2) rfl (nI_add _ 1) (by decide) rfl (fun ls hl => ?_)
                refine lv_goto (tgt := 13) hx hb dX2_isPrime_49 (by decide) ?_
                refine ih (i + 1) (by omega) (by omega) (fun d hd hne hFd => ?_) _ _ _ hs (lv_sub hl [1, 2, 0] rfl)
                by_cases q : d = i
                · subst q; exact h7
                · exact h4 d (by omega) hne hFd
              · refine lv_iconst (v := 0) hx hb dX2_isPrime_44 (by decide +kernel) ?_
                exact hret _ () hs (wk_0 (fun z => z.2 i h h5 ((hF i h).mp h6) h7)) rfl dX2_isPrime_45
    exact key (3 ^ n + 1) 0 (Nat.zero_le _) (by omega) (fun t ht => absurd ht (Nat.not_lt_zero t)) _ _ _ hs (lv_sub hl [1, 2, 0] rfl)
  · refine lv_iconst (v := 0) hx hb dX2_isPrime_9 (by decide +kernel) ?_
    exact hret _ () hs (wk_0 (fun z => h0 ((hF y hy).mpr z.1))) rfl dX2_isPrime_10
end
end
section
/-! OrderedResolverModel: its public methods -/
section
abbrev rz_SY : Type := (Nat → Nat) × Nat × (Nat → Prop) × (Nat → Prop)
noncomputable abbrev wYu (ad : Nat → Nat) (cA : Nat → ClassId) (n : Nat) (u : rz_SY) : va_W := wY ad cA n u.1 u.2.1 u.2.2.1 u.2.2.2
def rz_SameY (n : Nat) (b : Nat → Nat) (bs : Nat) (u : rz_SY) : Prop := rz_bs (3 ^ n) u.1 u.2.1 ∧ u.1 = b ∧ u.2.1 = bs
set_option maxHeartbeats 4000000 in
set_option maxRecDepth 100000 in
theorem p2_size (l : Launch) (D : va_G) (ad : Nat → Nat) (cA : Nat → ClassId) {n : Nat} (hn2 : 2 ≤ n) (hn : n ≤ 5) (b : Nat → Nat) (bs : Nat) (M F : Nat → Prop) (hB : rz_bs (3 ^ n) b bs) : wk_mI l yX2_size cX2_size 1 (some .int) (wk_rm 0 0) D (tY cA) (wY ad cA n b bs M F) [.ref (ad 0)] (S := rz_SY) (fun r u => r = nI bs ∧ rz_SameY n b bs u) (wYu ad cA n) := by
  refine wk_mI.goI RX2 (by decide) rfl (Nat.le_of_ble_eq_true rfl) ?_
  intro p e R s m args below meth c A ls Q C hR hs hl hret
  have hl : lv_has ls 1 [(0, .ref (ad 0))] := hl
  have hx := C.1
  have hb := C.2.1
  refine lv_aload_n hx hb dX2_size_0 rfl (lv_at hl 0 rfl) ?_
  refine yg_size C hs dX2_size_1 ?_
  exact hret (b, bs, M, F) hs ⟨rfl, ⟨hB, rfl, rfl⟩⟩ dX2_size_4
set_option maxHeartbeats 4000000 in
set_option maxRecDepth 100000 in
theorem p2_add (l : Launch) (D : va_G) (ad : Nat → Nat) (cA : Nat → ClassId) {n : Nat} (hn2 : 2 ≤ n) (hn : n ≤ 5) (b : Nat → Nat) (bs : Nat) (M F : Nat → Prop) (hB : rz_bs (3 ^ n) b bs) (x : Int32) : wk_mI l yX2_add cX2_add 2 (some .int) (wk_rm 1 22) D (tY cA) (wY ad cA n b bs M F) [.ref (ad 0), .int (x)] (S := rz_SY) (fun r u => rz_bs (3 ^ n) u.1 u.2.1 ∧ rz_Add (3 ^ n) (rz_B b bs) bs x r (rz_B u.1 u.2.1) u.2.1) (wYu ad cA n) := by
  refine wk_mI.goI RX2 (by decide) rfl (Nat.le_of_ble_eq_true rfl) ?_
  intro p e R s m args below meth c A ls Q C hR hs hl hret
  have hl : lv_has ls 2 [(0, .ref (ad 0)), (1, .int (x))] := hl
  have hx := C.1
  have hb := C.2.1
  have h3 := rz_p35 hn
  have hp2 := rz_p25 hn
  have h12 := hB.1
  refine lv_aload_n hx hb dX2_add_0 rfl (lv_at hl 0 rfl) ?_
  refine lv_iload_n hx hb dX2_add_1 rfl (lv_at hl 1 rfl) ?_
  refine wk_calli (As := [.int (x)]) (rest := []) (q0 := 0) C hs (m2_isClause l D ad cA hn b bs M F x) (cwX2_X2_isClause C.2.2.2.2.2.1 (hR.le (by decide) (by decide))) rfl rfl rfl hl.1 rfl (Nat.le_of_ble_eq_true rfl) dX2_add_2 ⟨Nat.zero_le _, Nat.zero_le _⟩ (fun r u H locs hq hs => ?_)
  obtain rfl := hq
  refine bk_if_ne (tgt := 10) hx hb dX2_add_5 (by decide) (fun h => ?_) (fun h => ?_)
  · obtain ⟨j, hj, rfl⟩ := h
    refine lv_aload_n hx hb dX2_add_10 rfl (lv_at hl 0 rfl) ?_
    refine lv_iload_n hx hb dX2_add_11 rfl (lv_at hl 1 rfl) ?_
    refine wk_calli (As := [.int (nI (j))]) (rest := []) (q0 := 0) C hs (m2_placeOf l D ad cA hn b bs M F hB hj) (cwX2_X2_placeOf C.2.2.2.2.2.1 (hR.le (by decide) (by decide))) rfl rfl rfl hl.1 rfl (Nat.le_of_ble_eq_true rfl) dX2_add_12 ⟨Nat.zero_le _, Nat.zero_le _⟩ (fun r u H locs hq hs => ?_)
    refine lv_if_lt (tgt := 20) hx hb dX2_add_15 (by decide) (fun h5 => ?_) (fun h5 => ?_)
    · have hno : ¬ rz_B b bs j := by
        rintro ⟨q, q1, q2⟩
        rcases hq with ⟨i, i1, -, i3⟩ | ⟨i1, -⟩
        · rw [i3] at h5; exact wk_lt0 (by omega) h5
        · exact i1 q q1 q2
      refine lv_aload_n hx hb dX2_add_20 rfl (lv_at hl 0 rfl) ?_
      refine yg_size C hs dX2_add_21 ?_
      refine lv_bipush (v := nI (12)) hx hb dX2_add_24 (by decide +kernel) ?_
      refine nk_ne (tgt := 32) hx hb (by omega) (by omega) dX2_add_26 (by decide) (fun h6 => ?_) (fun h6 => ?_)
      · refine lv_aload_n hx hb dX2_add_32 rfl (lv_at hl 0 rfl) ?_
        refine yg_base C hs dX2_add_33 ?_
        refine lv_aload_n hx hb dX2_add_36 rfl (lv_at hl 0 rfl) ?_
        refine yg_size C hs dX2_add_37 ?_
        refine lv_iload_n hx hb dX2_add_40 rfl (lv_at hl 1 rfl) ?_
        refine ys_B C hs (by omega) dX2_add_41 (fun H locs hs => ?_)
        refine lv_aload_n hx hb dX2_add_42 rfl (lv_at hl 0 rfl) ?_
        refine lv_dup hx hb dX2_add_43 rfl ?_
        refine yg_size C hs dX2_add_44 ?_
        refine lv_iconst (v := nI (1)) hx hb dX2_add_47 (by decide +kernel) ?_
        refine lv_iadd hx hb dX2_add_48 ?_
        refine wk_top (v := nI (bs + 1)) (nI_add _ _) ?_
        refine yp_size C hs dX2_add_49 (fun H locs hs => ?_)
        refine lv_iconst (v := nI (1)) hx hb dX2_add_52 (by decide +kernel) ?_
        exact hret (rz_up b bs j, bs + 1, M, F) hs ⟨rz_bs_add hB hj (by omega) hno, Or.inr ⟨j, hj, rfl, Or.inr (Or.inr ⟨hno, by omega, rfl, rz_B_add b bs j, rfl⟩)⟩⟩ dX2_add_53
      · refine lv_bipush (v := (-3)) hx hb dX2_add_29 (by decide +kernel) ?_
        exact hret (b, bs, M, F) hs ⟨hB, Or.inr ⟨j, hj, rfl, Or.inr (Or.inl ⟨hno, h6, rfl, rfl, rfl⟩)⟩⟩ dX2_add_31
    · rcases hq with ⟨q, q1, q2, q3⟩ | ⟨q1, rfl⟩
      skip
      · refine lv_iconst (v := nI (0)) hx hb dX2_add_18 (by decide +kernel) ?_
        exact hret (b, bs, M, F) hs ⟨hB, Or.inr ⟨j, hj, rfl, Or.inl ⟨⟨q, q1, q2⟩, rfl, rfl, rfl⟩⟩⟩ dX2_add_19
      · exact absurd rz_m2 h5
  · refine lv_iconst (v := (-1)) hx hb dX2_add_8 (by decide +kernel) ?_
    exact hret (b, bs, M, F) hs ⟨hB, Or.inl ⟨h, rfl, rfl, rfl⟩⟩ dX2_add_9
set_option maxHeartbeats 4000000 in
set_option maxRecDepth 100000 in
theorem p2_retract (l : Launch) (D : va_G) (ad : Nat → Nat) (cA : Nat → ClassId) {n : Nat} (hn2 : 2 ≤ n) (hn : n ≤ 5) (b : Nat → Nat) (bs : Nat) (M F : Nat → Prop) (hB : rz_bs (3 ^ n) b bs) (x : Int32) : wk_mI l yX2_retract cX2_retract 3 (some .int) (wk_rm 1 22) D (tY cA) (wY ad cA n b bs M F) [.ref (ad 0), .int (x)] (S := rz_SY) (fun r u => rz_bs (3 ^ n) u.1 u.2.1 ∧ rz_Ret (3 ^ n) (rz_B b bs) bs x r (rz_B u.1 u.2.1) u.2.1) (wYu ad cA n) := by
  refine wk_mI.goI RX2 (by decide) rfl (Nat.le_of_ble_eq_true rfl) ?_
  intro p e R s m args below meth c A ls Q C hR hs hl hret
  have hl : lv_has ls 3 [(0, .ref (ad 0)), (1, .int (x))] := hl
  have hx := C.1
  have hb := C.2.1
  have h3 := rz_p35 hn
  have hp2 := rz_p25 hn
  have h12 := hB.1
  refine lv_aload_n hx hb dX2_retract_0 rfl (lv_at hl 0 rfl) ?_
  refine lv_iload_n hx hb dX2_retract_1 rfl (lv_at hl 1 rfl) ?_
  refine wk_calli (As := [.int (x)]) (rest := []) (q0 := 0) C hs (m2_isClause l D ad cA hn b bs M F x) (cwX2_X2_isClause C.2.2.2.2.2.1 (hR.le (by decide) (by decide))) rfl rfl rfl hl.1 rfl (Nat.le_of_ble_eq_true rfl) dX2_retract_2 ⟨Nat.zero_le _, Nat.zero_le _⟩ (fun r u H locs hq hs => ?_)
  obtain rfl := hq
  refine bk_if_ne (tgt := 10) hx hb dX2_retract_5 (by decide) (fun h => ?_) (fun h => ?_)
  · obtain ⟨j, hj, rfl⟩ := h
    refine lv_aload_n hx hb dX2_retract_10 rfl (lv_at hl 0 rfl) ?_
    refine lv_iload_n hx hb dX2_retract_11 rfl (lv_at hl 1 rfl) ?_
    refine wk_calli (As := [.int (nI (j))]) (rest := []) (q0 := 0) C hs (m2_placeOf l D ad cA hn b bs M F hB hj) (cwX2_X2_placeOf C.2.2.2.2.2.1 (hR.le (by decide) (by decide))) rfl rfl rfl hl.1 rfl (Nat.le_of_ble_eq_true rfl) dX2_retract_12 ⟨Nat.zero_le _, Nat.zero_le _⟩ (fun r u H locs hq hs => ?_)
    rcases hq with ⟨q, q1, q2, rfl⟩ | ⟨q1, rfl⟩
    · obtain ⟨t0, rfl⟩ : ∃ t0, bs = t0 + 1 := ⟨bs - 1, by omega⟩
      refine lv_istore_n (lv' := [(2, .int (nI q)), (0, .ref (ad 0)), (1, .int (nI (j)))]) hx hb dX2_retract_15 rfl hl (by decide) rfl (fun ls hl => ?_)
      refine lv_iload_n hx hb dX2_retract_16 rfl (lv_at hl 0 rfl) ?_
      refine lv_if_ge (tgt := 22) hx hb dX2_retract_17 (by decide) (fun h5 => ?_) (fun h5 => ?_)
      · refine lv_aload_n hx hb dX2_retract_22 rfl (lv_at hl 1 rfl) ?_
        refine lv_dup hx hb dX2_retract_23 rfl ?_
        refine yg_size C hs dX2_retract_24 ?_
        refine lv_iconst (v := nI (1)) hx hb dX2_retract_27 (by decide +kernel) ?_
        refine lv_isub hx hb dX2_retract_28 ?_
        refine wk_top (v := nI (t0)) (pk_sub (by omega)) ?_
        refine yp_size C hs dX2_retract_29 (fun H locs hs => ?_)
        refine lv_aload_n hx hb dX2_retract_32 rfl (lv_at hl 1 rfl) ?_
        refine yg_base C hs dX2_retract_33 ?_
        refine lv_iload_n hx hb dX2_retract_36 rfl (lv_at hl 0 rfl) ?_
        refine lv_aload_n hx hb dX2_retract_37 rfl (lv_at hl 1 rfl) ?_
        refine yg_base C hs dX2_retract_38 ?_
        refine lv_aload_n hx hb dX2_retract_41 rfl (lv_at hl 1 rfl) ?_
        refine yg_size C hs dX2_retract_42 ?_
        refine yl_B C hs (by omega) dX2_retract_45 ?_
        refine ys_B C hs (by omega) dX2_retract_46 (fun H locs hs => ?_)
        refine lv_iconst (v := nI (1)) hx hb dX2_retract_47 (by decide +kernel) ?_
        refine hret (rz_up b q (b t0), t0, M, F) hs ⟨rz_bs_sw hB q1, Or.inr ⟨j, hj, rfl, Or.inr ⟨⟨q, q1, q2⟩, rfl, ?_, rfl⟩⟩⟩ dX2_retract_48
        rw [← q2]
        exact rz_B_sw hB q1
      · exact absurd (nI_pos' (by omega)) h5
    · refine lv_istore_n (lv' := [(2, .int ((-1))), (0, .ref (ad 0)), (1, .int (nI (j)))]) hx hb dX2_retract_15 rfl hl (by decide) rfl (fun ls hl => ?_)
      refine lv_iload_n hx hb dX2_retract_16 rfl (lv_at hl 0 rfl) ?_
      refine lv_if_ge (tgt := 22) hx hb dX2_retract_17 (by decide) (fun h5 => ?_) (fun h5 => ?_)
      · exact absurd h5 (by decide +kernel)
      · refine lv_iconst (v := nI (0)) hx hb dX2_retract_20 (by decide +kernel) ?_
        exact hret (b, bs, M, F) hs ⟨hB, Or.inr ⟨j, hj, rfl, Or.inl ⟨fun ⟨i, i1, i2⟩ => q1 i i1 i2, rfl, rfl, rfl⟩⟩⟩ dX2_retract_21
  · refine lv_iconst (v := (-1)) hx hb dX2_retract_8 (by decide +kernel) ?_
    exact hret (b, bs, M, F) hs ⟨hB, Or.inl ⟨h, rfl, rfl, rfl⟩⟩ dX2_retract_9
set_option maxHeartbeats 4000000 in
set_option maxRecDepth 100000 in
theorem p2_implied (l : Launch) (D : va_G) (ad : Nat → Nat) (cA : Nat → ClassId) {n : Nat} (hn2 : 2 ≤ n) (hn : n ≤ 5) (b : Nat → Nat) (bs : Nat) (M F : Nat → Prop) (hB : rz_bs (3 ^ n) b bs) (x : Int32) : wk_mI l yX2_implied cX2_implied 2 (some .boolean) (wk_rm 2 48) D (tY cA) (wY ad cA n b bs M F) [.ref (ad 0), .int (x)] (S := rz_SY) (fun r u => r = rz_b (∃ j, j < 3 ^ n ∧ x = nI j ∧ rz_Fo n (rz_B b bs) j) ∧ rz_SameY n b bs u) (wYu ad cA n) := by
  refine wk_mI.goZ RX2 (by decide) rfl (Nat.le_of_ble_eq_true rfl) ?_
  intro p e R s m args below meth c A ls Q C hR hs hl hret
  have hl : lv_has ls 2 [(0, .ref (ad 0)), (1, .int (x))] := hl
  have hx := C.1
  have hb := C.2.1
  have h3 := rz_p35 hn
  have hp2 := rz_p25 hn
  have h12 := hB.1
  refine lv_aload_n hx hb dX2_implied_0 rfl (lv_at hl 0 rfl) ?_
  refine lv_iload_n hx hb dX2_implied_1 rfl (lv_at hl 1 rfl) ?_
  refine wk_calli (As := [.int (x)]) (rest := []) (q0 := 0) C hs (m2_isClause l D ad cA hn b bs M F x) (cwX2_X2_isClause C.2.2.2.2.2.1 (hR.le (by decide) (by decide))) rfl rfl rfl hl.1 rfl (Nat.le_of_ble_eq_true rfl) dX2_implied_2 ⟨Nat.zero_le _, Nat.zero_le _⟩ (fun r u H locs hq hs => ?_)
  obtain rfl := hq
  refine bk_if_ne (tgt := 10) hx hb dX2_implied_5 (by decide) (fun h => ?_) (fun h => ?_)
  · obtain ⟨j, hj, rfl⟩ := h
    refine lv_aload_n hx hb dX2_implied_10 rfl (lv_at hl 0 rfl) ?_
    refine lv_iconst (v := (-1)) hx hb dX2_implied_11 (by decide +kernel) ?_
    refine wk_callv (As := [.int ((-1))]) (rest := []) (q0 := 0) C hs (m2_findModels l D ad cA hn b bs M F hB (-1)) (cwX2_X2_findModels C.2.2.2.2.2.1 (hR.le (by decide) (by decide))) rfl rfl rfl hl.1 rfl (Nat.le_of_ble_eq_true rfl) dX2_implied_12 ⟨Nat.zero_le _, Nat.zero_le _⟩ (fun M1 H locs hq hs => ?_)
    have hM : ∀ t, t < 2 ^ n → (M1 t ↔ rz_M n (rz_B b bs) t) := fun t ht => by
      rw [hq t ht, rz_MB]
      exact ⟨fun z j hj => z j hj (rz_nm1 (by omega)), fun z j hj _ => z j hj⟩
    refine lv_aload_n hx hb dX2_implied_15 rfl (lv_at hl 0 rfl) ?_
    refine lv_iload_n hx hb dX2_implied_16 rfl (lv_at hl 1 rfl) ?_
    refine wk_calli (As := [.int (nI (j))]) (rest := []) (q0 := 0) C hs (m2_followsNow l D ad cA hn b bs M1 F hj) (cwX2_X2_followsNow C.2.2.2.2.2.1 (hR.le (by decide) (by decide))) rfl rfl rfl hl.1 rfl (Nat.le_of_ble_eq_true rfl) dX2_implied_17 ⟨Nat.zero_le _, Nat.zero_le _⟩ (fun r u H locs hq hs => ?_)
    refine hret _ (b, bs, M1, F) hs (hq.trans (rz_b_c ⟨fun z => ⟨j, hj, rfl, fun a ha hm => z a ha ((hM a ha).mpr hm)⟩, fun ⟨i, q1, q2, q3⟩ a ha hm => ?_⟩)) ⟨rfl, ⟨hB, rfl, rfl⟩⟩ dX2_implied_20
    rw [(nI_eq (by omega) (by omega)).mp q2]
    exact q3 a ha ((hM a ha).mp hm)
  · refine lv_iconst (v := 0) hx hb dX2_implied_8 (by decide +kernel) ?_
    exact hret _ (b, bs, M, F) hs (wk_0 (fun ⟨j, q1, q2, _⟩ => h ⟨j, q1, q2⟩)) ⟨rfl, ⟨hB, rfl, rfl⟩⟩ dX2_implied_9
set_option maxHeartbeats 4000000 in
set_option maxRecDepth 100000 in
theorem p2_primes (l : Launch) (D : va_G) (ad : Nat → Nat) (cA : Nat → ClassId) {n : Nat} (hn2 : 2 ≤ n) (hn : n ≤ 5) (b : Nat → Nat) (bs : Nat) (M F : Nat → Prop) (hB : rz_bs (3 ^ n) b bs) : wk_mI l yX2_primes cX2_primes 3 (some .int) (wk_rm 3 69) D (tY cA) (wY ad cA n b bs M F) [.ref (ad 0)] (S := rz_SY) (fun r u => r = nI (rz_cn (rz_Pr n (rz_B b bs)) (3 ^ n)) ∧ rz_SameY n b bs u) (wYu ad cA n) := by
  refine wk_mI.goI RX2 (by decide) rfl (Nat.le_of_ble_eq_true rfl) ?_
  intro p e R s m args below meth c A ls Q C hR hs hl hret
  have hl : lv_has ls 3 [(0, .ref (ad 0))] := hl
  have hx := C.1
  have hb := C.2.1
  have h3 := rz_p35 hn
  have hp2 := rz_p25 hn
  have h12 := hB.1
  refine lv_aload_n hx hb dX2_primes_0 rfl (lv_at hl 0 rfl) ?_
  refine wk_callv (As := []) (rest := []) (q0 := 0) C hs (m2_findFollowing l D ad cA hn b bs M F hB) (cwX2_X2_findFollowing C.2.2.2.2.2.1 (hR.le (by decide) (by decide))) rfl rfl rfl hl.1 rfl (Nat.le_of_ble_eq_true rfl) dX2_primes_1 ⟨Nat.zero_le _, Nat.zero_le _⟩ (fun u H locs hq hs => ?_)
  obtain ⟨M1, F1⟩ := u
  have hF : ∀ t, t < 3 ^ n → (F1 t ↔ rz_Fo n (rz_B b bs) t) := hq.2
  refine lv_iconst (v := nI (0)) hx hb dX2_primes_4 (by decide +kernel) ?_
  refine lv_istore_n (lv' := [(1, .int (nI (0))), (0, .ref (ad 0))]) hx hb dX2_primes_5 rfl hl (by decide) rfl (fun ls hl => ?_)
  refine lv_iconst (v := nI (0)) hx hb dX2_primes_6 (by decide +kernel) ?_
  refine lv_istore_n (lv' := [(2, .int (nI (0))), (1, .int (nI (0))), (0, .ref (ad 0))]) hx hb dX2_primes_7 rfl hl (by decide) rfl (fun ls hl => ?_)
  have key : ∀ (k : Nat) (i t : Nat), i ≤ 3 ^ n → 3 ^ n < i + k → t = rz_cn (rz_Pr n (rz_B b bs)) i → ∀ (H : Heap) (locs : List Loc) (ls : Array Slot), wk_S A s D (tY cA) (wY ad cA n b bs M1 F1) H locs → lv_has ls 3 [(0, .ref (ad 0)), (1, .int (nI (t))), (2, .int (nI (i)))] → W p l e R s m args below meth c H locs 0 0 Q (F0 m 8 ls []) := by
    intro k
    induction k with
    | zero => intro i t h1 h2 h4; exact absurd h2 (by omega)
    | succ k ih =>
      intro i t h1 h2 h4 H locs ls hs hl
      refine lv_iload_n hx hb dX2_primes_8 rfl (lv_at hl 2 rfl) ?_
      refine lv_aload_n hx hb dX2_primes_9 rfl (lv_at hl 0 rfl) ?_
      refine yg_clauses C hs dX2_primes_10 ?_
      refine nk_ge (tgt := 33) hx hb (by omega) (by omega) dX2_primes_13 (by decide) (fun h => ?_) (fun h => ?_)
      · refine lv_iload_n hx hb dX2_primes_33 rfl (lv_at hl 1 rfl) ?_
        have ei : i = 3 ^ n := by omega
        exact hret (b, bs, M1, F1) hs ⟨by rw [h4, ei], ⟨hB, rfl, rfl⟩⟩ dX2_primes_34
      · refine lv_aload_n hx hb dX2_primes_16 rfl (lv_at hl 0 rfl) ?_
        refine lv_iload_n hx hb dX2_primes_17 rfl (lv_at hl 2 rfl) ?_
        refine wk_calli (As := [.int (nI (i))]) (rest := []) (q0 := 0) C hs (m2_isPrime l D ad cA hn b bs M1 F1 (rz_B b bs) hF h) (cwX2_X2_isPrime C.2.2.2.2.2.1 (hR.le (by decide) (by decide))) rfl rfl rfl hl.1 rfl (Nat.le_of_ble_eq_true rfl) dX2_primes_18 ⟨Nat.zero_le _, Nat.zero_le _⟩ (fun r u H locs hq hs => ?_)
        obtain rfl := hq
        refine bk_if_eq (tgt := 27) hx hb dX2_primes_21 (by decide) (fun hk => ?_) (fun hk => ?_)
        · refine lv_iinc (v := nI (i + 1)) (lv' := [(2, .int (nI (i + 1))), (0, .ref (ad 0)), (1, .int (nI (t)))]) hx hb dX2_primes_27 hl (k := 2) rfl (nI_add _ 1) (by decide) rfl (fun ls hl => ?_)
          refine lv_goto (tgt := 8) hx hb dX2_primes_30 (by decide) ?_
          exact ih (i + 1) t (by omega) (by omega) (by rw [rz_cnN hk]; exact h4) _ _ _ hs (lv_sub hl [1, 2, 0] rfl)
        · refine lv_iinc (v := nI (t + 1)) (lv' := [(1, .int (nI (t + 1))), (0, .ref (ad 0)), (2, .int (nI (i)))]) hx hb dX2_primes_24 hl (k := 1) rfl (nI_add _ 1) (by decide) rfl (fun ls hl => ?_)
          refine lv_iinc (v := nI (i + 1)) (lv' := [(2, .int (nI (i + 1))), (1, .int (nI (t + 1))), (0, .ref (ad 0))]) hx hb dX2_primes_27 hl (k := 2) rfl (nI_add _ 1) (by decide) rfl (fun ls hl => ?_)
          refine lv_goto (tgt := 8) hx hb dX2_primes_30 (by decide) ?_
          exact ih (i + 1) (t + 1) (by omega) (by omega) (by rw [rz_cnS hk, h4]) _ _ _ hs (lv_sub hl [2, 1, 0] rfl)
  exact key (3 ^ n + 1) 0 0 (Nat.zero_le _) (by omega) rfl _ _ _ hs (lv_sub hl [2, 1, 0] rfl)
set_option maxHeartbeats 4000000 in
set_option maxRecDepth 100000 in
theorem p2_prime (l : Launch) (D : va_G) (ad : Nat → Nat) (cA : Nat → ClassId) {n : Nat} (hn2 : 2 ≤ n) (hn : n ≤ 5) (b : Nat → Nat) (bs : Nat) (M F : Nat → Prop) (hB : rz_bs (3 ^ n) b bs) (x : Int32) : wk_mI l yX2_prime cX2_prime 4 (some .int) (wk_rm 3 69) D (tY cA) (wY ad cA n b bs M F) [.ref (ad 0), .int (x)] (S := rz_SY) (fun r u => rz_lo (3 ^ n) (fun d => rz_Pr n (rz_B b bs) d ∧ x = nI (rz_cn (rz_Pr n (rz_B b bs)) d)) r ∧ rz_SameY n b bs u) (wYu ad cA n) := by
  refine wk_mI.goI RX2 (by decide) rfl (Nat.le_of_ble_eq_true rfl) ?_
  intro p e R s m args below meth c A ls Q C hR hs hl hret
  have hl : lv_has ls 4 [(0, .ref (ad 0)), (1, .int (x))] := hl
  have hx := C.1
  have hb := C.2.1
  have h3 := rz_p35 hn
  have hp2 := rz_p25 hn
  have h12 := hB.1
  refine lv_aload_n hx hb dX2_prime_0 rfl (lv_at hl 0 rfl) ?_
  refine wk_callv (As := []) (rest := []) (q0 := 0) C hs (m2_findFollowing l D ad cA hn b bs M F hB) (cwX2_X2_findFollowing C.2.2.2.2.2.1 (hR.le (by decide) (by decide))) rfl rfl rfl hl.1 rfl (Nat.le_of_ble_eq_true rfl) dX2_prime_1 ⟨Nat.zero_le _, Nat.zero_le _⟩ (fun u H locs hq hs => ?_)
  obtain ⟨M1, F1⟩ := u
  have hF : ∀ t, t < 3 ^ n → (F1 t ↔ rz_Fo n (rz_B b bs) t) := hq.2
  refine lv_iconst (v := nI (0)) hx hb dX2_prime_4 (by decide +kernel) ?_
  refine lv_istore_n (lv' := [(2, .int (nI (0))), (0, .ref (ad 0)), (1, .int (x))]) hx hb dX2_prime_5 rfl hl (by decide) rfl (fun ls hl => ?_)
  refine lv_iconst (v := nI (0)) hx hb dX2_prime_6 (by decide +kernel) ?_
  refine lv_istore_n (lv' := [(3, .int (nI (0))), (2, .int (nI (0))), (0, .ref (ad 0)), (1, .int (x))]) hx hb dX2_prime_7 rfl hl (by decide) rfl (fun ls hl => ?_)
  have key : ∀ (k : Nat) (i t : Nat), i ≤ 3 ^ n → 3 ^ n < i + k → t = rz_cn (rz_Pr n (rz_B b bs)) i → (∀ d, d < i → ¬ (rz_Pr n (rz_B b bs) d ∧ x = nI (rz_cn (rz_Pr n (rz_B b bs)) d))) → ∀ (H : Heap) (locs : List Loc) (ls : Array Slot), wk_S A s D (tY cA) (wY ad cA n b bs M1 F1) H locs → lv_has ls 4 [(0, .ref (ad 0)), (1, .int (x)), (2, .int (nI (t))), (3, .int (nI (i)))] → W p l e R s m args below meth c H locs 0 0 Q (F0 m 8 ls []) := by
    intro k
    induction k with
    | zero => intro i t h1 h2 h4 h5; exact absurd h2 (by omega)
    | succ k ih =>
      intro i t h1 h2 h4 h5 H locs ls hs hl
      refine lv_iload_n hx hb dX2_prime_8 rfl (lv_at hl 3 rfl) ?_
      refine lv_aload_n hx hb dX2_prime_9 rfl (lv_at hl 0 rfl) ?_
      refine yg_clauses C hs dX2_prime_10 ?_
      refine nk_ge (tgt := 40) hx hb (by omega) (by omega) dX2_prime_13 (by decide) (fun h => ?_) (fun h => ?_)
      · refine lv_bipush (v := (-2)) hx hb dX2_prime_40 (by decide +kernel) ?_
        have ei : i = 3 ^ n := by omega
        subst ei
        exact hret (b, bs, M1, F1) hs ⟨Or.inr ⟨h5, rfl⟩, ⟨hB, rfl, rfl⟩⟩ dX2_prime_42
      · refine lv_aload_n hx hb dX2_prime_16 rfl (lv_at hl 0 rfl) ?_
        refine lv_iload_n hx hb dX2_prime_17 rfl (lv_at hl 3 rfl) ?_
        refine wk_calli (As := [.int (nI (i))]) (rest := []) (q0 := 0) C hs (m2_isPrime l D ad cA hn b bs M1 F1 (rz_B b bs) hF h) (cwX2_X2_isPrime C.2.2.2.2.2.1 (hR.le (by decide) (by decide))) rfl rfl rfl hl.1 rfl (Nat.le_of_ble_eq_true rfl) dX2_prime_18 ⟨Nat.zero_le _, Nat.zero_le _⟩ (fun r u H locs hq hs => ?_)
        obtain rfl := hq
        refine bk_if_eq (tgt := 34) hx hb dX2_prime_21 (by decide) (fun hk => ?_) (fun hk => ?_)
        · refine lv_iinc (v := nI (i + 1)) (lv' := [(3, .int (nI (i + 1))), (0, .ref (ad 0)), (1, .int (x)), (2, .int (nI (t)))]) hx hb dX2_prime_34 hl (k := 3) rfl (nI_add _ 1) (by decide) rfl (fun ls hl => ?_)
          refine lv_goto (tgt := 8) hx hb dX2_prime_37 (by decide) ?_
          refine ih (i + 1) t (by omega) (by omega) (by rw [rz_cnN hk]; exact h4) (fun d hd => ?_) _ _ _ hs (lv_sub hl [1, 2, 3, 0] rfl)
          by_cases e : d = i
          · rw [e]; exact fun z => hk z.1
          · exact h5 d (by omega)
        · refine lv_iload_n hx hb dX2_prime_24 rfl (lv_at hl 2 rfl) ?_
          refine lv_iload_n hx hb dX2_prime_25 rfl (lv_at hl 1 rfl) ?_
          refine lv_icmp_ne (tgt := 31) hx hb dX2_prime_26 (by decide) (fun h6 => ?_) (fun h6 => ?_)
          · refine lv_iinc (v := nI (t + 1)) (lv' := [(2, .int (nI (t + 1))), (0, .ref (ad 0)), (1, .int (x)), (3, .int (nI (i)))]) hx hb dX2_prime_31 hl (k := 2) rfl (nI_add _ 1) (by decide) rfl (fun ls hl => ?_)
            refine lv_iinc (v := nI (i + 1)) (lv' := [(3, .int (nI (i + 1))), (2, .int (nI (t + 1))), (0, .ref (ad 0)), (1, .int (x))]) hx hb dX2_prime_34 hl (k := 3) rfl (nI_add _ 1) (by decide) rfl (fun ls hl => ?_)
            refine lv_goto (tgt := 8) hx hb dX2_prime_37 (by decide) ?_
            refine ih (i + 1) (t + 1) (by omega) (by omega) (by rw [rz_cnS hk, h4]) (fun d hd => ?_) _ _ _ hs (lv_sub hl [2, 3, 1, 0] rfl)
            by_cases e : d = i
            · rw [e]; exact fun z => h6 (by rw [h4]; exact z.2.symm)
            · exact h5 d (by omega)
          · refine lv_iload_n hx hb dX2_prime_29 rfl (lv_at hl 3 rfl) ?_
            exact hret (b, bs, M1, F1) hs ⟨Or.inl ⟨i, h, ⟨hk, by rw [← h4]; exact h6.symm⟩, h5, rfl⟩, ⟨hB, rfl, rfl⟩⟩ dX2_prime_30
  exact key (3 ^ n + 1) 0 0 (Nat.zero_le _) (by omega) rfl (fun t ht => absurd ht (Nat.not_lt_zero t)) _ _ _ hs (lv_sub hl [2, 3, 1, 0] rfl)
set_option maxHeartbeats 4000000 in
set_option maxRecDepth 100000 in
theorem p2_primeWithin (l : Launch) (D : va_G) (ad : Nat → Nat) (cA : Nat → ClassId) {n : Nat} (hn2 : 2 ≤ n) (hn : n ≤ 5) (b : Nat → Nat) (bs : Nat) (M F : Nat → Prop) (hB : rz_bs (3 ^ n) b bs) (x : Int32) : wk_mI l yX2_primeWithin cX2_primeWithin 3 (some .int) (wk_rm 3 69) D (tY cA) (wY ad cA n b bs M F) [.ref (ad 0), .int (x)] (S := rz_SY) (fun r u => (((¬ ∃ j, j < 3 ^ n ∧ x = nI j) ∧ r = -1) ∨ ∃ j, j < 3 ^ n ∧ x = nI j ∧ rz_lo (3 ^ n) (fun d => rz_W n d j ∧ rz_Pr n (rz_B b bs) d) r) ∧ rz_SameY n b bs u) (wYu ad cA n) := by
  refine wk_mI.goI RX2 (by decide) rfl (Nat.le_of_ble_eq_true rfl) ?_
  intro p e R s m args below meth c A ls Q C hR hs hl hret
  have hl : lv_has ls 3 [(0, .ref (ad 0)), (1, .int (x))] := hl
  have hx := C.1
  have hb := C.2.1
  have h3 := rz_p35 hn
  have hp2 := rz_p25 hn
  have h12 := hB.1
  refine lv_aload_n hx hb dX2_primeWithin_0 rfl (lv_at hl 0 rfl) ?_
  refine lv_iload_n hx hb dX2_primeWithin_1 rfl (lv_at hl 1 rfl) ?_
  refine wk_calli (As := [.int (x)]) (rest := []) (q0 := 0) C hs (m2_isClause l D ad cA hn b bs M F x) (cwX2_X2_isClause C.2.2.2.2.2.1 (hR.le (by decide) (by decide))) rfl rfl rfl hl.1 rfl (Nat.le_of_ble_eq_true rfl) dX2_primeWithin_2 ⟨Nat.zero_le _, Nat.zero_le _⟩ (fun r u H locs hq hs => ?_)
  obtain rfl := hq
  refine bk_if_ne (tgt := 10) hx hb dX2_primeWithin_5 (by decide) (fun h => ?_) (fun h => ?_)
  · obtain ⟨j, hj, rfl⟩ := h
    refine lv_aload_n hx hb dX2_primeWithin_10 rfl (lv_at hl 0 rfl) ?_
    refine wk_callv (As := []) (rest := []) (q0 := 0) C hs (m2_findFollowing l D ad cA hn b bs M F hB) (cwX2_X2_findFollowing C.2.2.2.2.2.1 (hR.le (by decide) (by decide))) rfl rfl rfl hl.1 rfl (Nat.le_of_ble_eq_true rfl) dX2_primeWithin_11 ⟨Nat.zero_le _, Nat.zero_le _⟩ (fun u H locs hq hs => ?_)
    obtain ⟨M1, F1⟩ := u
    have hF : ∀ t, t < 3 ^ n → (F1 t ↔ rz_Fo n (rz_B b bs) t) := hq.2
    refine lv_iconst (v := nI (0)) hx hb dX2_primeWithin_14 (by decide +kernel) ?_
    refine lv_istore_n (lv' := [(2, .int (nI (0))), (0, .ref (ad 0)), (1, .int (nI (j)))]) hx hb dX2_primeWithin_15 rfl hl (by decide) rfl (fun ls hl => ?_)
    have key : ∀ (k : Nat) (i : Nat), i ≤ 3 ^ n → 3 ^ n < i + k → (∀ d, d < i → ¬ (rz_W n d j ∧ rz_Pr n (rz_B b bs) d)) → ∀ (H : Heap) (locs : List Loc) (ls : Array Slot), wk_S A s D (tY cA) (wY ad cA n b bs M1 F1) H locs → lv_has ls 3 [(0, .ref (ad 0)), (1, .int (nI (j))), (2, .int (nI (i)))] → W p l e R s m args below meth c H locs 0 0 Q (F0 m 16 ls []) := by
      intro k
      induction k with
      | zero => intro i h1 h2 h4; exact absurd h2 (by omega)
      | succ k ih =>
        intro i h1 h2 h4 H locs ls hs hl
        refine lv_iload_n hx hb dX2_primeWithin_16 rfl (lv_at hl 2 rfl) ?_
        refine lv_aload_n hx hb dX2_primeWithin_17 rfl (lv_at hl 0 rfl) ?_
        refine yg_clauses C hs dX2_primeWithin_18 ?_
        refine nk_ge (tgt := 49) hx hb (by omega) (by omega) dX2_primeWithin_21 (by decide) (fun h => ?_) (fun h => ?_)
        · refine lv_bipush (v := (-2)) hx hb dX2_primeWithin_49 (by decide +kernel) ?_
          have ei : i = 3 ^ n := by omega
          subst ei
          exact hret (b, bs, M1, F1) hs ⟨Or.inr ⟨j, hj, rfl, Or.inr ⟨h4, rfl⟩⟩, ⟨hB, rfl, rfl⟩⟩ dX2_primeWithin_51
        · refine lv_aload_n hx hb dX2_primeWithin_24 rfl (lv_at hl 0 rfl) ?_
          refine lv_iload_n hx hb dX2_primeWithin_25 rfl (lv_at hl 2 rfl) ?_
          refine lv_iload_n hx hb dX2_primeWithin_26 rfl (lv_at hl 1 rfl) ?_
          refine wk_calli (As := [.int (nI (i)), .int (nI (j))]) (rest := []) (q0 := 0) C hs (m2_within l D ad cA hn b bs M1 F1 h hj) (cwX2_X2_within C.2.2.2.2.2.1 (hR.le (by decide) (by decide))) rfl rfl rfl hl.1 rfl (Nat.le_of_ble_eq_true rfl) dX2_primeWithin_27 ⟨Nat.zero_le _, Nat.zero_le _⟩ (fun r u H locs hq hs => ?_)
          obtain rfl := hq
          refine bk_if_eq (tgt := 43) hx hb dX2_primeWithin_30 (by decide) (fun h5 => ?_) (fun h5 => ?_)
          · refine lv_iinc (v := nI (i + 1)) (lv' := [(2, .int (nI (i + 1))), (0, .ref (ad 0)), (1, .int (nI (j)))]) hx hb dX2_primeWithin_43 hl (k := 2) rfl (nI_add _ 1) (by decide) rfl (fun ls hl => ?_)
            refine lv_goto (tgt := 16) hx hb dX2_primeWithin_46 (by decide) ?_
            refine ih (i + 1) (by omega) (by omega) (fun d hd => ?_) _ _ _ hs (lv_sub hl [1, 2, 0] rfl)
            by_cases e : d = i
            · rw [e]; exact fun z => h5 z.1
            · exact h4 d (by omega)
          · refine lv_aload_n hx hb dX2_primeWithin_33 rfl (lv_at hl 0 rfl) ?_
            refine lv_iload_n hx hb dX2_primeWithin_34 rfl (lv_at hl 2 rfl) ?_
            refine wk_calli (As := [.int (nI (i))]) (rest := []) (q0 := 0) C hs (m2_isPrime l D ad cA hn b bs M1 F1 (rz_B b bs) hF h) (cwX2_X2_isPrime C.2.2.2.2.2.1 (hR.le (by decide) (by decide))) rfl rfl rfl hl.1 rfl (Nat.le_of_ble_eq_true rfl) dX2_primeWithin_35 ⟨Nat.zero_le _, Nat.zero_le _⟩ (fun r u H locs hq hs => ?_)
            obtain rfl := hq
            refine bk_if_eq (tgt := 43) hx hb dX2_primeWithin_38 (by decide) (fun h6 => ?_) (fun h6 => ?_)
            · refine lv_iinc (v := nI (i + 1)) (lv' := [(2, .int (nI (i + 1))), (0, .ref (ad 0)), (1, .int (nI (j)))]) hx hb dX2_primeWithin_43 hl (k := 2) rfl (nI_add _ 1) (by decide) rfl (fun ls hl => ?_)
              refine lv_goto (tgt := 16) hx hb dX2_primeWithin_46 (by decide) ?_
              refine ih (i + 1) (by omega) (by omega) (fun d hd => ?_) _ _ _ hs (lv_sub hl [1, 2, 0] rfl)
              by_cases e : d = i
              · rw [e]; exact fun z => h6 z.2
              · exact h4 d (by omega)
            · refine lv_iload_n hx hb dX2_primeWithin_41 rfl (lv_at hl 2 rfl) ?_
              exact hret (b, bs, M1, F1) hs ⟨Or.inr ⟨j, hj, rfl, Or.inl ⟨i, h, ⟨h5, h6⟩, h4, rfl⟩⟩, ⟨hB, rfl, rfl⟩⟩ dX2_primeWithin_42
    exact key (3 ^ n + 1) 0 (Nat.zero_le _) (by omega) (fun t ht => absurd ht (Nat.not_lt_zero t)) _ _ _ hs (lv_sub hl [1, 2, 0] rfl)
  · refine lv_iconst (v := (-1)) hx hb dX2_primeWithin_8 (by decide +kernel) ?_
    exact hret (b, bs, M, F) hs ⟨Or.inl ⟨h, rfl⟩, ⟨hB, rfl, rfl⟩⟩ dX2_primeWithin_9
set_option maxHeartbeats 4000000 in
set_option maxRecDepth 100000 in
theorem p2_models (l : Launch) (D : va_G) (ad : Nat → Nat) (cA : Nat → ClassId) {n : Nat} (hn2 : 2 ≤ n) (hn : n ≤ 5) (b : Nat → Nat) (bs : Nat) (M F : Nat → Prop) (hB : rz_bs (3 ^ n) b bs) : wk_mI l yX2_models cX2_models 3 (some .int) (wk_rm 2 48) D (tY cA) (wY ad cA n b bs M F) [.ref (ad 0)] (S := rz_SY) (fun r u => r = nI (rz_cn (rz_M n (rz_B b bs)) (2 ^ n)) ∧ rz_SameY n b bs u) (wYu ad cA n) := by
  refine wk_mI.goI RX2 (by decide) rfl (Nat.le_of_ble_eq_true rfl) ?_
  intro p e R s m args below meth c A ls Q C hR hs hl hret
  have hl : lv_has ls 3 [(0, .ref (ad 0))] := hl
  have hx := C.1
  have hb := C.2.1
  have h3 := rz_p35 hn
  have hp2 := rz_p25 hn
  have h12 := hB.1
  refine lv_aload_n hx hb dX2_models_0 rfl (lv_at hl 0 rfl) ?_
  refine lv_iconst (v := (-1)) hx hb dX2_models_1 (by decide +kernel) ?_
  refine wk_callv (As := [.int ((-1))]) (rest := []) (q0 := 0) C hs (m2_findModels l D ad cA hn b bs M F hB (-1)) (cwX2_X2_findModels C.2.2.2.2.2.1 (hR.le (by decide) (by decide))) rfl rfl rfl hl.1 rfl (Nat.le_of_ble_eq_true rfl) dX2_models_2 ⟨Nat.zero_le _, Nat.zero_le _⟩ (fun M1 H locs hq hs => ?_)
  have hM : ∀ t, t < 2 ^ n → (M1 t ↔ rz_M n (rz_B b bs) t) := fun t ht => by
    rw [hq t ht, rz_MB]
    exact ⟨fun z j hj => z j hj (rz_nm1 (by omega)), fun z j hj _ => z j hj⟩
  refine lv_iconst (v := nI (0)) hx hb dX2_models_5 (by decide +kernel) ?_
  refine lv_istore_n (lv' := [(1, .int (nI (0))), (0, .ref (ad 0))]) hx hb dX2_models_6 rfl hl (by decide) rfl (fun ls hl => ?_)
  refine lv_iconst (v := nI (0)) hx hb dX2_models_7 (by decide +kernel) ?_
  refine lv_istore_n (lv' := [(2, .int (nI (0))), (1, .int (nI (0))), (0, .ref (ad 0))]) hx hb dX2_models_8 rfl hl (by decide) rfl (fun ls hl => ?_)
  have key : ∀ (k : Nat) (i t : Nat), i ≤ 2 ^ n → 2 ^ n < i + k → t = rz_cn (rz_M n (rz_B b bs)) i → ∀ (H : Heap) (locs : List Loc) (ls : Array Slot), wk_S A s D (tY cA) (wY ad cA n b bs M1 F) H locs → lv_has ls 3 [(0, .ref (ad 0)), (1, .int (nI (t))), (2, .int (nI (i)))] → W p l e R s m args below meth c H locs 0 0 Q (F0 m 9 ls []) := by
    intro k
    induction k with
    | zero => intro i t h1 h2 h4; exact absurd h2 (by omega)
    | succ k ih =>
      intro i t h1 h2 h4 H locs ls hs hl
      refine lv_iload_n hx hb dX2_models_9 rfl (lv_at hl 2 rfl) ?_
      refine lv_iconst (v := nI (1)) hx hb dX2_models_10 (by decide +kernel) ?_
      refine lv_aload_n hx hb dX2_models_11 rfl (lv_at hl 0 rfl) ?_
      refine yg_n C hs dX2_models_12 ?_
      refine lv_ishl hx hb dX2_models_15 ?_
      refine wk_top (v := nI (2 ^ (n))) (wk_shl (by omega)) ?_
      refine nk_ge (tgt := 37) hx hb (by omega) (by omega) dX2_models_16 (by decide) (fun h => ?_) (fun h => ?_)
      · refine lv_iload_n hx hb dX2_models_37 rfl (lv_at hl 1 rfl) ?_
        have ei : i = 2 ^ n := by omega
        exact hret (b, bs, M1, F) hs ⟨by rw [h4, ei], ⟨hB, rfl, rfl⟩⟩ dX2_models_38
      · refine lv_aload_n hx hb dX2_models_19 rfl (lv_at hl 0 rfl) ?_
        refine yg_model C hs dX2_models_20 ?_
        refine lv_iload_n hx hb dX2_models_23 rfl (lv_at hl 2 rfl) ?_
        refine yl_M C hs (by omega) dX2_models_24 ?_
        refine bk_if_eq (tgt := 31) hx hb dX2_models_25 (by decide) (fun hk => ?_) (fun hk => ?_)
        · refine lv_iinc (v := nI (i + 1)) (lv' := [(2, .int (nI (i + 1))), (0, .ref (ad 0)), (1, .int (nI (t)))]) hx hb dX2_models_31 hl (k := 2) rfl (nI_add _ 1) (by decide) rfl (fun ls hl => ?_)
          refine lv_goto (tgt := 9) hx hb dX2_models_34 (by decide) ?_
          exact ih (i + 1) t (by omega) (by omega) (by rw [rz_cnN (fun z => hk ((hM i h).mpr z))]; exact h4) _ _ _ hs (lv_sub hl [1, 2, 0] rfl)
        · refine lv_iinc (v := nI (t + 1)) (lv' := [(1, .int (nI (t + 1))), (0, .ref (ad 0)), (2, .int (nI (i)))]) hx hb dX2_models_28 hl (k := 1) rfl (nI_add _ 1) (by decide) rfl (fun ls hl => ?_)
          refine lv_iinc (v := nI (i + 1)) (lv' := [(2, .int (nI (i + 1))), (1, .int (nI (t + 1))), (0, .ref (ad 0))]) hx hb dX2_models_31 hl (k := 2) rfl (nI_add _ 1) (by decide) rfl (fun ls hl => ?_)
          refine lv_goto (tgt := 9) hx hb dX2_models_34 (by decide) ?_
          exact ih (i + 1) (t + 1) (by omega) (by omega) (by rw [rz_cnS ((hM i h).mp hk), h4]) _ _ _ hs (lv_sub hl [2, 1, 0] rfl)
  exact key (2 ^ n + 1) 0 0 (Nat.zero_le _) (by omega) rfl _ _ _ hs (lv_sub hl [2, 1, 0] rfl)
set_option maxHeartbeats 4000000 in
set_option maxRecDepth 100000 in
theorem p2_leastModel (l : Launch) (D : va_G) (ad : Nat → Nat) (cA : Nat → ClassId) {n : Nat} (hn2 : 2 ≤ n) (hn : n ≤ 5) (b : Nat → Nat) (bs : Nat) (M F : Nat → Prop) (hB : rz_bs (3 ^ n) b bs) (xn yn : Nat) : wk_mI l yX2_leastModel cX2_leastModel 5 (some .int) (wk_rm 2 48) D (tY cA) (wY ad cA n b bs M F) [.ref (ad 0), .int (nI (xn)), .int (nI (yn))] (S := rz_SY) (fun r u => rz_lo (2 ^ n) (fun a => rz_M n (rz_B b bs) a ∧ rz_ag n (xn % 2 ^ n) yn a) r ∧ rz_SameY n b bs u) (wYu ad cA n) := by
  refine wk_mI.goI RX2 (by decide) rfl (Nat.le_of_ble_eq_true rfl) ?_
  intro p e R s m args below meth c A ls Q C hR hs hl hret
  have hl : lv_has ls 5 [(0, .ref (ad 0)), (1, .int (nI (xn))), (2, .int (nI (yn)))] := hl
  have hx := C.1
  have hb := C.2.1
  have h3 := rz_p35 hn
  have hp2 := rz_p25 hn
  have h12 := hB.1
  refine lv_aload_n hx hb dX2_leastModel_0 rfl (lv_at hl 0 rfl) ?_
  refine lv_iconst (v := (-1)) hx hb dX2_leastModel_1 (by decide +kernel) ?_
  refine wk_callv (As := [.int ((-1))]) (rest := []) (q0 := 0) C hs (m2_findModels l D ad cA hn b bs M F hB (-1)) (cwX2_X2_findModels C.2.2.2.2.2.1 (hR.le (by decide) (by decide))) rfl rfl rfl hl.1 rfl (Nat.le_of_ble_eq_true rfl) dX2_leastModel_2 ⟨Nat.zero_le _, Nat.zero_le _⟩ (fun M1 H locs hq hs => ?_)
  have hM : ∀ t, t < 2 ^ n → (M1 t ↔ rz_M n (rz_B b bs) t) := fun t ht => by
    rw [hq t ht, rz_MB]
    exact ⟨fun z j hj => z j hj (rz_nm1 (by omega)), fun z j hj _ => z j hj⟩
  have hk0 : xn % 2 ^ n < 2 ^ n := Nat.mod_lt _ (rz_p2 n)
  refine lv_iload_n hx hb dX2_leastModel_5 rfl (lv_at hl 1 rfl) ?_
  refine lv_iconst (v := nI (1)) hx hb dX2_leastModel_6 (by decide +kernel) ?_
  refine lv_aload_n hx hb dX2_leastModel_7 rfl (lv_at hl 0 rfl) ?_
  refine yg_n C hs dX2_leastModel_8 ?_
  refine lv_ishl hx hb dX2_leastModel_11 ?_
  refine wk_top (v := nI (2 ^ (n))) (wk_shl (by omega)) ?_
  refine lv_iconst (v := nI (1)) hx hb dX2_leastModel_12 (by decide +kernel) ?_
  refine lv_isub hx hb dX2_leastModel_13 ?_
  refine wk_top (v := nI (2 ^ (n) - 1)) (pk_sub (rz_p2 n)) ?_
  refine lv_iand hx hb dX2_leastModel_14 ?_
  refine wk_top (v := nI (xn % 2 ^ n)) wk_andm ?_
  refine lv_istore_n (lv' := [(3, .int (nI (xn % 2 ^ n))), (0, .ref (ad 0)), (1, .int (nI (xn))), (2, .int (nI (yn)))]) hx hb dX2_leastModel_15 rfl hl (by decide) rfl (fun ls hl => ?_)
  refine lv_iconst (v := nI (0)) hx hb dX2_leastModel_16 (by decide +kernel) ?_
  refine lv_istore (lv' := [(4, .int (nI (0))), (3, .int (nI (xn % 2 ^ n))), (0, .ref (ad 0)), (1, .int (nI (xn))), (2, .int (nI (yn)))]) hx hb dX2_leastModel_17 hl (by decide) rfl (fun ls hl => ?_)
  have key : ∀ (k : Nat) (a : Nat), a ≤ 2 ^ n → 2 ^ n < a + k → (∀ t, t < a → ¬ (rz_M n (rz_B b bs) t ∧ rz_ag n (xn % 2 ^ n) yn t)) → ∀ (H : Heap) (locs : List Loc) (ls : Array Slot), wk_S A s D (tY cA) (wY ad cA n b bs M1 F) H locs → lv_has ls 5 [(0, .ref (ad 0)), (2, .int (nI (yn))), (3, .int (nI (xn % 2 ^ n))), (4, .int (nI (a)))] → W p l e R s m args below meth c H locs 0 0 Q (F0 m 19 ls []) := by
    intro k
    induction k with
    | zero => intro a h1 h2 h4; exact absurd h2 (by omega)
    | succ k ih =>
      intro a h1 h2 h4 H locs ls hs hl
      refine lv_iload hx hb dX2_leastModel_19 (lv_at hl 3 rfl) ?_
      refine lv_iconst (v := nI (1)) hx hb dX2_leastModel_21 (by decide +kernel) ?_
      refine lv_aload_n hx hb dX2_leastModel_22 rfl (lv_at hl 0 rfl) ?_
      refine yg_n C hs dX2_leastModel_23 ?_
      refine lv_ishl hx hb dX2_leastModel_26 ?_
      refine wk_top (v := nI (2 ^ (n))) (wk_shl (by omega)) ?_
      refine nk_ge (tgt := 58) hx hb (by omega) (by omega) dX2_leastModel_27 (by decide) (fun h => ?_) (fun h => ?_)
      · refine lv_bipush (v := (-2)) hx hb dX2_leastModel_58 (by decide +kernel) ?_
        have ei : a = 2 ^ n := by omega
        subst ei
        exact hret (b, bs, M1, F) hs ⟨Or.inr ⟨h4, rfl⟩, ⟨hB, rfl, rfl⟩⟩ dX2_leastModel_60
      · refine lv_aload_n hx hb dX2_leastModel_30 rfl (lv_at hl 0 rfl) ?_
        refine yg_model C hs dX2_leastModel_31 ?_
        refine lv_iload hx hb dX2_leastModel_34 (lv_at hl 3 rfl) ?_
        refine yl_M C hs (by omega) dX2_leastModel_36 ?_
        refine bk_if_eq (tgt := 52) hx hb dX2_leastModel_37 (by decide) (fun h5 => ?_) (fun h5 => ?_)
        · refine lv_iinc (v := nI (a + 1)) (lv' := [(4, .int (nI (a + 1))), (0, .ref (ad 0)), (2, .int (nI (yn))), (3, .int (nI (xn % 2 ^ n)))]) hx hb dX2_leastModel_52 hl (k := 3) rfl (nI_add _ 1) (by decide) rfl (fun ls hl => ?_)
          refine lv_goto (tgt := 19) hx hb dX2_leastModel_55 (by decide) ?_
          refine ih (a + 1) (by omega) (by omega) (fun t ht => ?_) _ _ _ hs (lv_sub hl [1, 2, 3, 0] rfl)
          by_cases e : t = a
          · rw [e]; exact fun z => h5 ((hM a h).mpr z.1)
          · exact h4 t (by omega)
        · refine lv_iload hx hb dX2_leastModel_40 (lv_at hl 3 rfl) ?_
          refine lv_iload_n hx hb dX2_leastModel_42 rfl (lv_at hl 1 rfl) ?_
          refine lv_ixor hx hb dX2_leastModel_43 ?_
          refine wk_top (v := nI ((a) ^^^ (yn))) (wk_xor _ _) ?_
          refine lv_iload_n hx hb dX2_leastModel_44 rfl (lv_at hl 2 rfl) ?_
          refine lv_iand hx hb dX2_leastModel_45 ?_
          refine wk_top (v := nI (((a) ^^^ (yn)) &&& (xn % 2 ^ n))) (wk_and _ _) ?_
          refine nk_if_ne (tgt := 52) hx hb (Nat.lt_of_le_of_lt Nat.and_le_right (by omega)) dX2_leastModel_46 (by decide) (fun h6 => ?_) (fun h6 => ?_)
          · refine lv_iinc (v := nI (a + 1)) (lv' := [(4, .int (nI (a + 1))), (0, .ref (ad 0)), (2, .int (nI (yn))), (3, .int (nI (xn % 2 ^ n)))]) hx hb dX2_leastModel_52 hl (k := 3) rfl (nI_add _ 1) (by decide) rfl (fun ls hl => ?_)
            refine lv_goto (tgt := 19) hx hb dX2_leastModel_55 (by decide) ?_
            refine ih (a + 1) (by omega) (by omega) (fun t ht => ?_) _ _ _ hs (lv_sub hl [1, 2, 3, 0] rfl)
            by_cases e : t = a
            · rw [e]; exact fun z => h6 ((rz_ag_xor hk0 a yn).mpr z.2)
            · exact h4 t (by omega)
          · refine lv_iload hx hb dX2_leastModel_49 (lv_at hl 3 rfl) ?_
            exact hret (b, bs, M1, F) hs ⟨Or.inl ⟨a, h, ⟨(hM a h).mp h5, (rz_ag_xor hk0 a yn).mp h6⟩, h4, rfl⟩, ⟨hB, rfl, rfl⟩⟩ dX2_leastModel_51
  exact key (2 ^ n + 1) 0 (Nat.zero_le _) (by omega) (fun t ht => absurd ht (Nat.not_lt_zero t)) _ _ _ hs (lv_sub hl [2, 4, 1, 0] rfl)
set_option maxHeartbeats 4000000 in
set_option maxRecDepth 100000 in
theorem p2_redundant (l : Launch) (D : va_G) (ad : Nat → Nat) (cA : Nat → ClassId) {n : Nat} (hn2 : 2 ≤ n) (hn : n ≤ 5) (b : Nat → Nat) (bs : Nat) (M F : Nat → Prop) (hB : rz_bs (3 ^ n) b bs) : wk_mI l yX2_redundant cX2_redundant 3 (some .int) (wk_rm 2 48) D (tY cA) (wY ad cA n b bs M F) [.ref (ad 0)] (S := rz_SY) (fun r u => r = nI (rz_cn (fun i => rz_Fo n (rz_Bx b bs i) (b i)) bs) ∧ rz_SameY n b bs u) (wYu ad cA n) := by
  refine wk_mI.goI RX2 (by decide) rfl (Nat.le_of_ble_eq_true rfl) ?_
  intro p e R s m args below meth c A ls Q C hR hs hl hret
  have hl : lv_has ls 3 [(0, .ref (ad 0))] := hl
  have hx := C.1
  have hb := C.2.1
  have h3 := rz_p35 hn
  have hp2 := rz_p25 hn
  have h12 := hB.1
  refine lv_iconst (v := nI (0)) hx hb dX2_redundant_0 (by decide +kernel) ?_
  refine lv_istore_n (lv' := [(1, .int (nI (0))), (0, .ref (ad 0))]) hx hb dX2_redundant_1 rfl hl (by decide) rfl (fun ls hl => ?_)
  refine lv_iconst (v := nI (0)) hx hb dX2_redundant_2 (by decide +kernel) ?_
  refine lv_istore_n (lv' := [(2, .int (nI (0))), (1, .int (nI (0))), (0, .ref (ad 0))]) hx hb dX2_redundant_3 rfl hl (by decide) rfl (fun ls hl => ?_)
  have key : ∀ (k : Nat) (i t : Nat) (M0 : Nat → Prop), i ≤ bs → bs < i + k → t = rz_cn (fun i => rz_Fo n (rz_Bx b bs i) (b i)) i → ∀ (H : Heap) (locs : List Loc) (ls : Array Slot), wk_S A s D (tY cA) (wY ad cA n b bs M0 F) H locs → lv_has ls 3 [(0, .ref (ad 0)), (1, .int (nI (t))), (2, .int (nI (i)))] → W p l e R s m args below meth c H locs 0 0 Q (F0 m 4 ls []) := by
    intro k
    induction k with
    | zero => intro i t M0 h1 h2 h4; exact absurd h2 (by omega)
    | succ k ih =>
      intro i t M0 h1 h2 h4 H locs ls hs hl
      refine lv_iload_n hx hb dX2_redundant_4 rfl (lv_at hl 2 rfl) ?_
      refine lv_aload_n hx hb dX2_redundant_5 rfl (lv_at hl 0 rfl) ?_
      refine yg_size C hs dX2_redundant_6 ?_
      refine nk_ge (tgt := 39) hx hb (by omega) (by omega) dX2_redundant_9 (by decide) (fun h => ?_) (fun h => ?_)
      · have ei : i = bs := by omega
        refine lv_iload_n hx hb dX2_redundant_39 rfl (lv_at hl 1 rfl) ?_
        exact hret (b, bs, M0, F) hs ⟨by rw [h4, ei], ⟨hB, rfl, rfl⟩⟩ dX2_redundant_40
      · refine lv_aload_n hx hb dX2_redundant_12 rfl (lv_at hl 0 rfl) ?_
        refine lv_iload_n hx hb dX2_redundant_13 rfl (lv_at hl 2 rfl) ?_
        refine wk_callv (As := [.int (nI (i))]) (rest := []) (q0 := 0) C hs (m2_findModels l D ad cA hn b bs M0 F hB (nI i)) (cwX2_X2_findModels C.2.2.2.2.2.1 (hR.le (by decide) (by decide))) rfl rfl rfl hl.1 rfl (Nat.le_of_ble_eq_true rfl) dX2_redundant_14 ⟨Nat.zero_le _, Nat.zero_le _⟩ (fun M1 H locs hq hs => ?_)
        have hM : ∀ t, t < 2 ^ n → (M1 t ↔ rz_M n (rz_Bx b bs i) t) := fun t ht => by
          rw [hq t ht, rz_MBx]
          exact ⟨fun z j hj hne => z j hj (fun e => hne ((nI_eq (by omega) (by omega)).mp e)), fun z j hj hne => z j hj (fun e => hne (by rw [e]))⟩
        refine lv_aload_n hx hb dX2_redundant_17 rfl (lv_at hl 0 rfl) ?_
        refine lv_aload_n hx hb dX2_redundant_18 rfl (lv_at hl 0 rfl) ?_
        refine yg_base C hs dX2_redundant_19 ?_
        refine lv_iload_n hx hb dX2_redundant_22 rfl (lv_at hl 2 rfl) ?_
        refine yl_B C hs (by omega) dX2_redundant_23 ?_
        refine wk_calli (As := [.int (nI (b i))]) (rest := []) (q0 := 0) C hs (m2_followsNow l D ad cA hn b bs M1 F (hB.2.1 i h)) (cwX2_X2_followsNow C.2.2.2.2.2.1 (hR.le (by decide) (by decide))) rfl rfl rfl hl.1 rfl (Nat.le_of_ble_eq_true rfl) dX2_redundant_24 ⟨Nat.zero_le _, Nat.zero_le _⟩ (fun r u H locs hq hs => ?_)
        obtain rfl := hq
        have hfo : rz_Fo n (rz_Bx b bs i) (b i) ↔ ∀ t, t < 2 ^ n → M1 t → rz_S n t (b i) := ⟨fun z a ha hm => z a ha ((hM a ha).mp hm), fun z a ha hm => z a ha ((hM a ha).mpr hm)⟩
        refine bk_if_eq (tgt := 33) hx hb dX2_redundant_27 (by decide) (fun h5 => ?_) (fun h5 => ?_)
        · refine lv_iinc (v := nI (i + 1)) (lv' := [(2, .int (nI (i + 1))), (0, .ref (ad 0)), (1, .int (nI (t)))]) hx hb dX2_redundant_33 hl (k := 2) rfl (nI_add _ 1) (by decide) rfl (fun ls hl => ?_)
          refine lv_goto (tgt := 4) hx hb dX2_redundant_36 (by decide) ?_
          exact ih (i + 1) t M1 (by omega) (by omega) (by rw [rz_cnN (P := (fun i => rz_Fo n (rz_Bx b bs i) (b i))) (fun z => h5 (hfo.mp z))]; exact h4) _ _ _ hs (lv_sub hl [1, 2, 0] rfl)
        · refine lv_iinc (v := nI (t + 1)) (lv' := [(1, .int (nI (t + 1))), (0, .ref (ad 0)), (2, .int (nI (i)))]) hx hb dX2_redundant_30 hl (k := 1) rfl (nI_add _ 1) (by decide) rfl (fun ls hl => ?_)
          refine lv_iinc (v := nI (i + 1)) (lv' := [(2, .int (nI (i + 1))), (1, .int (nI (t + 1))), (0, .ref (ad 0))]) hx hb dX2_redundant_33 hl (k := 2) rfl (nI_add _ 1) (by decide) rfl (fun ls hl => ?_)
          refine lv_goto (tgt := 4) hx hb dX2_redundant_36 (by decide) ?_
          exact ih (i + 1) (t + 1) M1 (by omega) (by omega) (by rw [rz_cnS (P := (fun i => rz_Fo n (rz_Bx b bs i) (b i))) (hfo.mpr h5), h4]) _ _ _ hs (lv_sub hl [2, 1, 0] rfl)
  exact key (bs + 1) 0 0 M (Nat.zero_le _) (by omega) rfl _ _ _ hs (lv_sub hl [2, 1, 0] rfl)
end
end
section
/-! OrderedResolverModel: the constructor -/
section
theorem yp_n {p : Program} {l : Launch} {e : Env} {R : Room} {s : State} {m : MethodId} {args : Array Value} {below : List Frame} {meth : Method} {c : Code} {H : Heap} {locs : List Loc} {cells slots : Nat} {Q : State → Prop} {cc : ByteArray} {pc nL : Nat} {ls : Array Slot} {rest : List Value} {ret : Option FieldType} {D : va_G} {A : Nat → Prop} {tys : List (ClassId × FieldType)} {ad : Nat → Nat} {cA : Nat → ClassId} {nv cv bs : Int32} {fB fM fF : Nat → Int32} {v : Int32} (C : wk_C p s m meth c args RX2 cc nL ret) (hs : wk_S A s D tys (wY0 ad cA nv cv bs fB fM fF) H locs) (hdg : decode cc pc = .ok (.putfield 24, 3)) (kk : ∀ (H1 : Heap) (locs1 : List Loc), wk_S A s D tys (wY0 ad cA v cv bs fB fM fF) H1 locs1 → W p l e R s m args below meth c H1 locs1 cells slots Q (F0 m (pc + 3) ls rest)) : W p l e R s m args below meth c H locs cells slots Q (F0 m pc ls (.int v :: .ref (ad 0) :: rest)) := va_put (D := D) (ci := 1) (v := .int v) (ty := .int) (C := RX2) (T := TX2) (N := 6) C.1 C.2.1 C.2.2.2.2.2.1 in_X2 tyX2 tyX2_ok nmX2 C.2.2.2.2.1 hs.1 hs.2.1 hs.2.2.1 hs.2.2.2.1 0 rfl rfl 0 (by decide) (C.2.2.2.2.2.1 _ q190) (fun _ h9 => h9) rfl (by decide +kernel) rfl rfl (Nat.le_of_ble_eq_true rfl) hdg (fun H1 locs1 hP hD hS => kk H1 locs1 ⟨hs.1, hP, hD, hS, hs.2.2.2.2⟩)
theorem yp_clauses {p : Program} {l : Launch} {e : Env} {R : Room} {s : State} {m : MethodId} {args : Array Value} {below : List Frame} {meth : Method} {c : Code} {H : Heap} {locs : List Loc} {cells slots : Nat} {Q : State → Prop} {cc : ByteArray} {pc nL : Nat} {ls : Array Slot} {rest : List Value} {ret : Option FieldType} {D : va_G} {A : Nat → Prop} {tys : List (ClassId × FieldType)} {ad : Nat → Nat} {cA : Nat → ClassId} {nv cv bs : Int32} {fB fM fF : Nat → Int32} {v : Int32} (C : wk_C p s m meth c args RX2 cc nL ret) (hs : wk_S A s D tys (wY0 ad cA nv cv bs fB fM fF) H locs) (hdg : decode cc pc = .ok (.putfield 27, 3)) (kk : ∀ (H1 : Heap) (locs1 : List Loc), wk_S A s D tys (wY0 ad cA nv v bs fB fM fF) H1 locs1 → W p l e R s m args below meth c H1 locs1 cells slots Q (F0 m (pc + 3) ls rest)) : W p l e R s m args below meth c H locs cells slots Q (F0 m pc ls (.int v :: .ref (ad 0) :: rest)) := va_put (D := D) (ci := 1) (v := .int v) (ty := .int) (C := RX2) (T := TX2) (N := 6) C.1 C.2.1 C.2.2.2.2.2.1 in_X2 tyX2 tyX2_ok nmX2 C.2.2.2.2.1 hs.1 hs.2.1 hs.2.2.1 hs.2.2.2.1 0 rfl rfl 1 (by decide) (C.2.2.2.2.2.1 _ q191) (fun _ h9 => h9) rfl (by decide +kernel) rfl rfl (Nat.le_of_ble_eq_true rfl) hdg (fun H1 locs1 hP hD hS => kk H1 locs1 ⟨hs.1, hP, hD, hS, hs.2.2.2.2⟩)
set_option maxHeartbeats 4000000 in
set_option maxRecDepth 100000 in
theorem x2_init2 {p : Program} {l : Launch} {e : Env} {R : Room} {s : State} {m : MethodId} {args : Array Value} {below : List Frame} {meth : Method} {c : Code} {H : Heap} {locs : List Loc} {cells slots : Nat} {Q : State → Prop} {D : va_G} {A : Nat → Prop} {ad : Nat → Nat} {cA : Nat → ClassId} {ls : Array Slot} {x nv0 cv0 : Int32} (C : wk_C p s m meth c args RX2 cX2_init 2 none) (hs : wk_S A s D (tY cA) (wY0 ad cA nv0 cv0 (nI 0) (fun _ => nI 0) (fun _ => rz_b False) (fun _ => rz_b False)) H locs) (hl : lv_has ls 2 [(0, .ref (ad 0)), (1, .int (x))])
    (hret : ∀ {H : Heap} {locs : List Loc} {ls : Array Slot} {pc : Nat}, wk_S A s D (tY cA) (wY ad cA (rz_nn x) (fun _ => 0) 0 (fun _ => False) (fun _ => False)) H locs → decode cX2_init pc = .ok (.return_, 1) → W p l e R s m args below meth c H locs cells slots Q (F0 m pc ls [])) : W p l e R s m args below meth c H locs cells slots Q (F0 m 34 ls []) := by
  have hx := C.1
  have hb := C.2.1
  obtain ⟨n, en⟩ : ∃ n, n = rz_nn x := ⟨_, rfl⟩
  have hnb := rz_nn_b x
  rw [← en] at hnb hret
  have join : ∀ (ls : Array Slot), lv_has ls 2 [(0, .ref (ad 0)), (1, .int (x))] → W p l e R s m args below meth c H locs cells slots Q (F0 m 54 ls [.int (nI n), .ref (ad 0)]) := by
    intro ls hl
    refine yp_n C hs dX2_init_54 (fun H locs hs => ?_)
    refine lv_aload_n hx hb dX2_init_57 rfl (lv_at hl 0 rfl) ?_
    refine lv_aload_n hx hb dX2_init_58 rfl (lv_at hl 0 rfl) ?_
    refine yg_n C hs dX2_init_59 ?_
    refine lv_iconst (v := nI (2)) hx hb dX2_init_62 (by decide +kernel) ?_
    refine nk_ne (tgt := 71) hx hb (by omega) (by omega) dX2_init_63 (by decide) (fun h => ?_) (fun h => ?_)
    · refine lv_aload_n hx hb dX2_init_71 rfl (lv_at hl 0 rfl) ?_
      refine yg_n C hs dX2_init_72 ?_
      refine lv_iconst (v := nI (3)) hx hb dX2_init_75 (by decide +kernel) ?_
      refine nk_ne (tgt := 84) hx hb (by omega) (by omega) dX2_init_76 (by decide) (fun h5 => ?_) (fun h5 => ?_)
      · refine lv_aload_n hx hb dX2_init_84 rfl (lv_at hl 0 rfl) ?_
        refine yg_n C hs dX2_init_85 ?_
        refine lv_iconst (v := nI (4)) hx hb dX2_init_88 (by decide +kernel) ?_
        refine nk_ne (tgt := 97) hx hb (by omega) (by omega) dX2_init_89 (by decide) (fun h6 => ?_) (fun h6 => ?_)
        · refine lv_sipush (v := nI (243)) hx hb dX2_init_97 (by decide +kernel) ?_
          have e5 : n = 5 := by omega
          refine wk_top (v := nI (3 ^ n)) (by rw [e5]) ?_
          refine yp_clauses C hs dX2_init_100 (fun H locs hs => ?_)
          exact hret hs dX2_init_103
        · refine lv_bipush (v := nI (81)) hx hb dX2_init_92 (by decide +kernel) ?_
          refine lv_goto (tgt := 100) hx hb dX2_init_94 (by decide) ?_
          refine wk_top (v := nI (3 ^ n)) (by rw [h6]) ?_
          refine yp_clauses C hs dX2_init_100 (fun H locs hs => ?_)
          exact hret hs dX2_init_103
      · refine lv_bipush (v := nI (27)) hx hb dX2_init_79 (by decide +kernel) ?_
        refine lv_goto (tgt := 100) hx hb dX2_init_81 (by decide) ?_
        refine wk_top (v := nI (3 ^ n)) (by rw [h5]) ?_
        refine yp_clauses C hs dX2_init_100 (fun H locs hs => ?_)
        exact hret hs dX2_init_103
    · refine lv_bipush (v := nI (9)) hx hb dX2_init_66 (by decide +kernel) ?_
      refine lv_goto (tgt := 100) hx hb dX2_init_68 (by decide) ?_
      refine wk_top (v := nI (3 ^ n)) (by rw [h]) ?_
      refine yp_clauses C hs dX2_init_100 (fun H locs hs => ?_)
      exact hret hs dX2_init_103
  refine lv_aload_n hx hb dX2_init_34 rfl (lv_at hl 0 rfl) ?_
  refine lv_iload_n hx hb dX2_init_35 rfl (lv_at hl 1 rfl) ?_
  refine lv_iconst (v := nI (2)) hx hb dX2_init_36 (by decide +kernel) ?_
  refine lv_icmp_ge (tgt := 44) hx hb dX2_init_37 (by decide) (fun h => ?_) (fun h => ?_)
  · refine lv_iload_n hx hb dX2_init_44 rfl (lv_at hl 1 rfl) ?_
    refine lv_iconst (v := nI (5)) hx hb dX2_init_45 (by decide +kernel) ?_
    refine lv_icmp_le (tgt := 53) hx hb dX2_init_46 (by decide) (fun h5 => ?_) (fun h5 => ?_)
    · refine lv_iload_n hx hb dX2_init_53 rfl (lv_at hl 1 rfl) ?_
      refine wk_top (v := nI (n)) (by rw [en]; exact (rz_nn_x h h5).1) ?_
      exact join _ hl
    · refine lv_iconst (v := nI (5)) hx hb dX2_init_49 (by decide +kernel) ?_
      refine lv_goto (tgt := 54) hx hb dX2_init_50 (by decide) ?_
      refine wk_top (v := nI (n)) (by rw [en]; exact rz_nn_5 h h5) ?_
      exact join _ hl
  · refine lv_iconst (v := nI (2)) hx hb dX2_init_40 (by decide +kernel) ?_
    refine lv_goto (tgt := 54) hx hb dX2_init_41 (by decide) ?_
    refine wk_top (v := nI (n)) (by rw [en]; exact rz_nn_2 h) ?_
    exact join _ hl
def rz_v0 : rz_SY := (fun _ => 0, 0, fun _ => False, fun _ => False)
set_option maxHeartbeats 4000000 in
set_option maxRecDepth 100000 in
theorem met2_init (l : Launch) (D : va_G) (h0 sz : Nat) (x : Int32) : Met l yX2_init (ws_ yX2_init cX2_init 2 none) { frames := 1, cells := 3, slots := 287, locals := 13 } (va_Pc [.ref h0, .int x] (fun U => U.heap.size = sz ∧ va_P D vwCl [(h0, .inr (1, [.int 0, .int 0, .int 0, .null, .null, .null]))] U.heap ∧ va_K D vwCl [] U ∧ va_D (fun _ => True) [(h0, .inr (1, [.int 0, .int 0, .int 0, .null, .null, .null]))]))
    (va_Qv (fun u : (Nat → Nat) × (Nat → ClassId) => u.1 0 = h0) (fun u t => va_P D vwCl (wYu u.1 u.2 (rz_nn x) rz_v0) t.heap ∧ va_K D vwCl (tY u.2) t ∧ va_D (va_A [(h0, .inr (1, [.int 0, .int 0, .int 0, .null, .null, .null]))] sz) (wYu u.1 u.2 (rz_nn x) rz_v0)) (va_A [(h0, .inr (1, [.int 0, .int 0, .int 0, .null, .null, .null]))] sz)) 3 287 (va_A [(h0, .inr (1, [.int 0, .int 0, .int 0, .null, .null, .null]))] sz) := by
  refine Met.ofW (cc := cX2_init) (maxL := 2) (ret := none) (by decide) rfl ?_
  intro p e s m args below meth c s₁ B hml hv
  obtain ⟨rfl, hsz, hP, hK, hD0⟩ := hv
  have hx := B.exec
  have hb := B.bytes
  have hr := B.returns
  have hts := atoms_spec (ws := ws_ yX2_init cX2_init 2 none) B.pre
  have hts : ∀ w ∈ lw_all, w.before _ s = true := fun w h => hts w (List.mem_cons_of_mem _ h)
  have hown : s.vm.findClass RX2 = some m.cls := findClass_of_methodNamed B.named
  have hlocks := B.notSynchronized
  have hin : meth.name = "<init>" := (name_of_methodNamed B.named B.method).1
  subst hsz
  have hD := hD0.self (sz := s.heap.size)
  generalize hAe : va_A [(h0, .inr (1, [.int 0, .int 0, .int 0, .null, .null, .null]))] s.heap.size = A at hD ⊢
  have hA : ∀ q : Nat, s.heap.size ≤ q → A q := fun q h => by rw [← hAe]; exact Or.inr h
  have hS : va_S A s.heap s.heap [] := va_S.rf
  have hP : va_P D vwCl [(h0, .inr (1, [.int 0, .int 0, .int 0, .null, .null, .null]))] s.heap := hP
  have hl := lv_entry ([.ref h0, .int x]) (n := 2) (Nat.le_of_ble_eq_true rfl)
  rw [lg_entry_eq]
  generalize (lg_sl ([.ref h0, .int x]) ++ List.replicate (2 - (lg_sl ([.ref h0, .int x])).length) Slot.unset).toArray = ls at hl ⊢
  have hl : lv_has ls 2 [(0, .ref h0), (1, .int x)] := hl
  refine lv_aload_n hx hb dX2_init_0 rfl (lv_at hl 0 rfl) ?_
  refine W.objInit hx hb hown (hts _ q189) (hts _ q32) (hts _ q33) rfl (by rw [hml]; exact hl.1) rfl dX2_init_1 (Nat.le_of_ble_eq_true rfl) (Nat.le_of_ble_eq_true rfl) ?_
  refine W.eq (g2 := F0 m 4 ls []) rfl ?_
  refine lv_aload_n hx hb dX2_init_4 rfl (lv_at hl 0 rfl) ?_
  refine lv_iconst (v := 0) hx hb dX2_init_5 (by decide +kernel) ?_
  refine va_put (D := D) (ci := 1) (v := .int 0) (ty := .int) (C := RX2) (T := TX2) (N := 6) hx hb hts in_X2 tyX2 tyX2_ok nmX2 hown hK hP hD hS 0 rfl rfl 2 (by decide) (hts _ q192) (fun _ h9 => h9) rfl (by decide +kernel) rfl rfl (Nat.le_of_ble_eq_true rfl) dX2_init_6 (fun H locs hP hD hS => ?_)
  have hP : va_P D vwCl [(h0, .inr (1, [.int 0, .int 0, .int 0, .null, .null, .null]))] H := hP
  have hD : va_D A [(h0, .inr (1, [.int 0, .int 0, .int 0, .null, .null, .null]))] := hD
  refine lv_aload_n hx hb dX2_init_9 rfl (lv_at hl 0 rfl) ?_
  refine lv_bipush (v := 12) hx hb dX2_init_10 (by decide +kernel) ?_
  refine va_newa (atype := .int) hx hb (hts _ q82) (ty := .int) rfl hK hP hD hS hA (a0 := (12, .inl (fun _ => 0))) (fun _ => rfl) (by decide +kernel) (by decide +kernel) (by decide +kernel) (Nat.le_of_ble_eq_true rfl) (Nat.le_of_ble_eq_true rfl) dX2_init_12 (fun q1 c1 H hK hP hD hS => ?_)
  have hK : va_K D vwCl [(c1, .int)] s := hK
  have hP : va_P D vwCl [(h0, .inr (1, [.int 0, .int 0, .int 0, .null, .null, .null])), (q1, .inl (c1, 12, .inl (fun _ => 0)))] H := hP
  have hD : va_D A [(h0, .inr (1, [.int 0, .int 0, .int 0, .null, .null, .null])), (q1, .inl (c1, 12, .inl (fun _ => 0)))] := hD
  refine W.widen (k := 1) (n := 12) (Nat.le_of_ble_eq_true rfl) (Nat.le_of_ble_eq_true rfl) ?_
  refine va_put (D := D) (ci := 1) (v := .ref q1) (ty := .array .int) (C := RX2) (T := TX2) (N := 6) hx hb hts in_X2 tyX2 tyX2_ok nmX2 hown hK hP hD hS 0 rfl rfl 3 (by decide) (hts _ q193) (fun _ h9 => h9) rfl (by decide +kernel) rfl rfl (Nat.le_of_ble_eq_true rfl) dX2_init_14 (fun H locs hP hD hS => ?_)
  have hP : va_P D vwCl [(h0, .inr (1, [.int 0, .int 0, .int 0, .ref q1, .null, .null])), (q1, .inl (c1, 12, .inl (fun _ => 0)))] H := hP
  have hD : va_D A [(h0, .inr (1, [.int 0, .int 0, .int 0, .ref q1, .null, .null])), (q1, .inl (c1, 12, .inl (fun _ => 0)))] := hD
  refine lv_aload_n hx hb dX2_init_17 rfl (lv_at hl 0 rfl) ?_
  refine lv_bipush (v := 32) hx hb dX2_init_18 (by decide +kernel) ?_
  refine va_newa (atype := .boolean) hx hb (hts _ q84) (ty := .boolean) rfl hK hP hD hS hA (a0 := (32, .inl (fun _ => 0))) (fun _ => rfl) (by decide +kernel) (by decide +kernel) (by decide +kernel) (Nat.le_of_ble_eq_true rfl) (Nat.le_of_ble_eq_true rfl) dX2_init_20 (fun q2 c2 H hK hP hD hS => ?_)
  have hK : va_K D vwCl [(c1, .int), (c2, .boolean)] s := hK
  have hP : va_P D vwCl [(h0, .inr (1, [.int 0, .int 0, .int 0, .ref q1, .null, .null])), (q1, .inl (c1, 12, .inl (fun _ => 0))), (q2, .inl (c2, 32, .inl (fun _ => 0)))] H := hP
  have hD : va_D A [(h0, .inr (1, [.int 0, .int 0, .int 0, .ref q1, .null, .null])), (q1, .inl (c1, 12, .inl (fun _ => 0))), (q2, .inl (c2, 32, .inl (fun _ => 0)))] := hD
  refine W.widen (k := 2) (n := 44) (Nat.le_of_ble_eq_true rfl) (Nat.le_of_ble_eq_true rfl) ?_
  refine va_put (D := D) (ci := 1) (v := .ref q2) (ty := .array .boolean) (C := RX2) (T := TX2) (N := 6) hx hb hts in_X2 tyX2 tyX2_ok nmX2 hown hK hP hD hS 0 rfl rfl 4 (by decide) (hts _ q194) (fun _ h9 => h9) rfl (by decide +kernel) rfl rfl (Nat.le_of_ble_eq_true rfl) dX2_init_22 (fun H locs hP hD hS => ?_)
  have hP : va_P D vwCl [(h0, .inr (1, [.int 0, .int 0, .int 0, .ref q1, .ref q2, .null])), (q1, .inl (c1, 12, .inl (fun _ => 0))), (q2, .inl (c2, 32, .inl (fun _ => 0)))] H := hP
  have hD : va_D A [(h0, .inr (1, [.int 0, .int 0, .int 0, .ref q1, .ref q2, .null])), (q1, .inl (c1, 12, .inl (fun _ => 0))), (q2, .inl (c2, 32, .inl (fun _ => 0)))] := hD
  refine lv_aload_n hx hb dX2_init_25 rfl (lv_at hl 0 rfl) ?_
  refine lv_sipush (v := 243) hx hb dX2_init_26 (by decide +kernel) ?_
  refine va_newa (atype := .boolean) hx hb (hts _ q84) (ty := .boolean) rfl hK hP hD hS hA (a0 := (243, .inl (fun _ => 0))) (fun _ => rfl) (by decide +kernel) (by decide +kernel) (by decide +kernel) (Nat.le_of_ble_eq_true rfl) (Nat.le_of_ble_eq_true rfl) dX2_init_29 (fun q3 c3 H hK hP hD hS => ?_)
  have hK : va_K D vwCl [(c1, .int), (c2, .boolean), (c3, .boolean)] s := hK
  have hP : va_P D vwCl [(h0, .inr (1, [.int 0, .int 0, .int 0, .ref q1, .ref q2, .null])), (q1, .inl (c1, 12, .inl (fun _ => 0))), (q2, .inl (c2, 32, .inl (fun _ => 0))), (q3, .inl (c3, 243, .inl (fun _ => 0)))] H := hP
  have hD : va_D A [(h0, .inr (1, [.int 0, .int 0, .int 0, .ref q1, .ref q2, .null])), (q1, .inl (c1, 12, .inl (fun _ => 0))), (q2, .inl (c2, 32, .inl (fun _ => 0))), (q3, .inl (c3, 243, .inl (fun _ => 0)))] := hD
  refine W.widen (k := 3) (n := 287) (Nat.le_of_ble_eq_true rfl) (Nat.le_of_ble_eq_true rfl) ?_
  refine va_put (D := D) (ci := 1) (v := .ref q3) (ty := .array .boolean) (C := RX2) (T := TX2) (N := 6) hx hb hts in_X2 tyX2 tyX2_ok nmX2 hown hK hP hD hS 0 rfl rfl 5 (by decide) (hts _ q195) (fun _ h9 => h9) rfl (by decide +kernel) rfl rfl (Nat.le_of_ble_eq_true rfl) dX2_init_31 (fun H locs hP hD hS => ?_)
  have hP : va_P D vwCl [(h0, .inr (1, [.int 0, .int 0, .int 0, .ref q1, .ref q2, .ref q3])), (q1, .inl (c1, 12, .inl (fun _ => 0))), (q2, .inl (c2, 32, .inl (fun _ => 0))), (q3, .inl (c3, 243, .inl (fun _ => 0)))] H := hP
  have hD : va_D A [(h0, .inr (1, [.int 0, .int 0, .int 0, .ref q1, .ref q2, .ref q3])), (q1, .inl (c1, 12, .inl (fun _ => 0))), (q2, .inl (c2, 32, .inl (fun _ => 0))), (q3, .inl (c3, 243, .inl (fun _ => 0)))] := hD
  have hs : wk_S A s D (tY (fun k => ([0, c1, c2, c3] : List Nat).getD k 0)) (wY0 (fun k => ([h0, q1, q2, q3] : List Nat).getD k 0) (fun k => ([0, c1, c2, c3] : List Nat).getD k 0) 0 0 (nI 0) (fun _ => nI 0) (fun _ => rz_b False) (fun _ => rz_b False)) H locs := by
    rw [rz_nI0, wk_bF]
    exact ⟨hK, hP, hD, hS, hA⟩
  refine x2_init2 (ad := (fun k => ([h0, q1, q2, q3] : List Nat).getD k 0)) (cA := (fun k => ([0, c1, c2, c3] : List Nat).getD k 0)) ⟨hx, hb, hr, hml, hown, hts, hlocks⟩ hs hl (fun hs hd => ?_)
  exact W.vret hx hb hr (fun t ht hW => ⟨⟨((fun k => ([h0, q1, q2, q3] : List Nat).getD k 0), (fun k => ([0, c1, c2, c3] : List Nat).getD k 0)), rfl, rfl, by rw [ht]; exact hs.2.1, va_K.moved hW.alike hs.1, hs.2.2.1⟩, hs.2.2.2.1.F ht⟩) hs.2.2.2.1.2.2 hd hlocks
end
end
section
section
set_option maxRecDepth 100000
/-! THE CLAIM OUT OF ONE WALK OF THE LAW'S BODY. Your part is whole_start (and what it stands on); all else here is the same for every law, but numbers. -/
def R_law : String := "OrderedResolverLaw"
def lw_P (b : Addr) (xs : List Int32) (args : Array Value) (s : State) : Prop := args = #[.ref b] ∧ s.IntsAt b xs ∧ xs.length ≤ 193 ∧ (Jvm.Cond.and given_1 narrow_1).before args s = true
def lw_Q (_ : Array Value) (s : State) (o : Outcome) (t : State) : Prop := o = .returned (some (.int 1)) ∧ Framed s o t [] 600000 7290000
def lw_Z (below : List Frame) (a : Array Value) (s : State) : State → Prop := fun t => ∃ o, t.status = .running ∧ Ended t below o ∧ lw_Q a s o t
/-- the law's own end, with 1 on the stack, nothing written that was there before, its room as the claim has it -/
theorem lw_ret {p : Program} {l : Launch} {e : Env} {s : State} {m : MethodId} {below : List Frame} {meth : Method} {c : Code} {b : Nat} (hx : p.tables.exec = Jvm.exec) (hb : c.code = code) (hr : meth.sig.returnType = ret) (hlocks : meth.locks = false) {pc : Nat} {H : Heap} {ls : Array Slot} (hdg : decode code pc = .ok (.ireturn, 1)) : W p l e room_1 s m #[Value.ref b] below meth c H [] 600000 7290000 (lw_Z below #[Value.ref b] s) (F0 m pc ls [.int 1]) := by
  intro T hT X
  obtain ⟨fs, hret, hrun, hended, hW, hframe⟩ := X.leave (v := some (.int 1)) (hlocks := hlocks) (fun h => by rw [hr] at h; cases h)
  have hmeth' : T.vm.method? m = some meth := X.method'
  refine ⟨T.setFrames fs, ?_, .returned (some (.int 1)), hrun, hended, rfl, ⟨_, rfl⟩, hW, hframe⟩
  jvm_step X.here [X.here.top, hx, hb, hdg, hmeth', hr, ret, narrow_b1]
  (try refine ⟨rfl, ?_⟩); (try refine ⟨rfl, ?_⟩)
  first | (intro acts; rw [hret _ acts rfl rfl rfl]) | rw [hret _ _ rfl rfl rfl]
  exact Steps.refl _
/-- what holds at the law's entry: the machine, the code, the tables' words (any of lw_tbl by 'hts w (by decide +kernel)'), the script of L ints xs at the cell b, what the Statement gives of the start (any of its parts by flat_of_before) -/
def lw_At (p : Program) (s : State) (m : MethodId) (meth : Method) (c : Code) (b L : Nat) (xs : Nat → Int32) : Prop :=
  p.tables.exec = Jvm.exec ∧ c.code = code ∧ meth.sig.returnType = ret ∧ c.maxLocals = 4 ∧ s.vm.findClass R_law = some m.cls ∧ (∀ w ∈ lw_tbl, w.before #[Value.ref b] s = true) ∧ va_X b L xs s s.heap ∧ b < s.heap.size ∧ meth.locks = false ∧ (Jvm.Cond.and given_1 narrow_1).before #[Value.ref b] s = true
end
end
section
/-! THE LAW: its own static method, calls out of the two worlds side by side, answers that agree -/
section
set_option maxRecDepth 100000
set_option maxHeartbeats 4000000
def rz_ce (L : Nat) (xs : Nat → Int32) : Int32 := if 0 < L then xs 0 else 0
theorem met0_cell (l : Launch) (b L sz : Nat) (xs : Nat → Int32) (hL : L ≤ 193) : Met l yX0_cell (ws_ yX0_cell cX0_cell 2 (some .int)) (wk_rm 0 0) (va_Pc [.ref b, .int (nI 0)] (fun U => U.heap.size = sz ∧ va_X b L xs U U.heap)) (va_Qi (fun r (_ : Unit) => r = rz_ce L xs) (fun _ _ => True) (fun q => sz ≤ q)) 0 0 (fun q => sz ≤ q) := by
  refine Met.ofW (cc := cX0_cell) (maxL := 2) (ret := some .int) (by decide) rfl ?_
  intro p e s m args below meth c s₁ B hml hv
  obtain ⟨rfl, hsz, hX⟩ := hv
  have hx := B.exec
  have hb := B.bytes
  have hr := B.returns
  have hlocks := B.notSynchronized
  subst hsz
  have hbl : b < s.heap.size := by
    obtain ⟨scr, h1, -⟩ := hX
    exact (Array.getElem?_eq_some_iff.mp h1).1
  obtain ⟨A, eA⟩ : ∃ A : Nat → Prop, A = fun q => s.heap.size ≤ q := ⟨_, rfl⟩
  have hbA : ¬ A b := by rw [eA]; exact Nat.not_le.mpr hbl
  rw [← eA]
  have hS : va_S A s.heap s.heap [] := va_S.rf
  have hl := lv_entry ([.ref b, .int (nI 0)]) (n := 2) (Nat.le_of_ble_eq_true rfl)
  rw [lg_entry_eq]
  generalize (lg_sl ([.ref b, .int (nI 0)]) ++ List.replicate (2 - (lg_sl ([.ref b, .int (nI 0)])).length) Slot.unset).toArray = ls at hl ⊢
  have hl : lv_has ls 2 [(0, .ref b), (1, .int (nI 0))] := hl
  refine lv_iload_n hx hb dX0_cell_0 rfl (lv_at hl 1 rfl) ?_
  refine lv_aload_n hx hb dX0_cell_1 rfl (lv_at hl 0 rfl) ?_
  refine va_slen hx hb hX hbl hbA hS dX0_cell_2 ?_
  refine nk_ge (tgt := 12) (b := L) hx hb (by decide) (by omega) dX0_cell_3 (by decide) (fun h => ?_) (fun h => ?_)
  · refine lv_iconst (v := 0) hx hb dX0_cell_12 (by decide +kernel) ?_
    exact W.iret (v := 0) hx hb hr (fun t ht hW => ⟨⟨0, (), rfl, (if_neg (by omega)).symm, trivial⟩, hS.F ht⟩) hS.2.2 dX0_cell_13 hlocks
  · refine lv_aload_n hx hb dX0_cell_6 rfl (lv_at hl 0 rfl) ?_
    refine lv_iload_n hx hb dX0_cell_7 rfl (lv_at hl 1 rfl) ?_
    refine va_sld hx hb hX hbl hbA hS (vp_in_nI h (by omega)) dX0_cell_8 ?_
    refine wk_top (v := xs 0) (by rw [wk_clamp (by decide)]) ?_
    refine lv_goto (tgt := 13) hx hb dX0_cell_9 (by decide) ?_
    exact W.iret (v := xs 0) hx hb hr (fun t ht hW => ⟨⟨xs 0, (), rfl, (if_pos h).symm, trivial⟩, hS.F ht⟩) hS.2.2 dX0_cell_13 hlocks
theorem lx_calli {p : Program} {l : Launch} {e : Env} {R : Room} {s : State} {m : MethodId} {args : Array Value} {below : List Frame} {meth : Method} {c : Code} {H : Heap} {locs : List Loc} {cells slots : Nat} {Q : State → Prop} {cc : ByteArray} {pc nL : Nat} {ls : Array Slot} {rest : List Value} {D : va_G} {A : Nat → Prop} {own : String} {ad ad2 : Nat → Nat} {cA cA2 : Nat → ClassId} {n : Nat} {u : rz_SX} {v : rz_SY} {post : Int32 → rz_SX → Prop} {y : MethodName} {b : ByteArray} {L idx n0 f lo : Nat} {As st0 : List Value} {ret ret' : Option FieldType} (C : wk_C p s m meth c args own cc nL ret) (hs : wk_S A s D (tX cA ++ tY cA2) (wXu ad cA n u ++ wYu ad2 cA2 n v) H locs) (hM : wk_mI l y b L ret' (wk_rm f lo) D (tX cA) (wXu ad cA n u) (.ref (ad 0) :: As) post (wXu ad cA n)) (cw : CallW R s args own RX1 idx y b L ret' (ws_ y b L ret') (wk_rm f lo) 0 0 n0) (hn : As.length = n0)
    (hsz : ls.size = nL) (hst : st0 = As.reverse ++ .ref (ad 0) :: rest) (hroom : (rest.map fun v => v.category).sum ≤ 8) (hdg : decode cc pc = .ok (.invokevirtual idx, 3)) (hf : cells ≤ R.cells ∧ slots ≤ R.slots)
    (kk : ∀ (r : Int32) (u' : rz_SX) (H1 : Heap) (locs1 : List Loc), post r u' → wk_S A s D (tX cA ++ tY cA2) (wXu ad cA n u' ++ wYu ad2 cA2 n v) H1 locs1 → W p l e R s m args below meth c H1 locs1 cells slots Q (F0 m (pc + 3) ls (.int r :: rest))) : W p l e R s m args below meth c H locs cells slots Q (F0 m pc ls st0) := by
  have hPc := hs.2.1.sub (ws' := wXu ad cA n u) [0, 1, 2, 3, 4, 5, 6, 7, 8] rfl
  have hDc := hs.2.2.1.sub (ws' := wXu ad cA n u) [0, 1, 2, 3, 4, 5, 6, 7, 8] (by decide) rfl
  have hKc := hs.1.sub (tys' := tX cA) [0, 1, 2, 3, 4, 5, 6, 7] rfl
  have hFc := va_free (wc := wXu ad cA n u) hs.2.2.1 hs.2.2.2.1 hs.2.2.2.2 [0, 1, 2, 3, 4, 5, 6, 7, 8] rfl
  refine va_calli (va_runV (As := As) (rest := rest) ⟨C.1, C.2.1, C.2.2.2.1, C.2.2.2.2.1, C.2.2.2.2.2.1⟩ (hM H.size) cw ⟨fun a' U g mk q => by obtain ⟨q0, q1, qP, qK, qD⟩ := q; exact ⟨q0, q1, qP, va_K.moved (u := U) (U := U.calling g mk a') (Vm.Alike.refl U.vm) qK, qD⟩, va_recv hKc hPc (ci := 0) (q0 := 0) rfl rfl, fun U hU hW => ⟨rfl, by rw [hU], by rw [hU]; exact hPc, va_K.moved hW.alike hKc, hDc.weaken (fun _ _ _ _ => trivial)⟩⟩ rfl hn hsz hst (lv_room hroom) hdg hf) hs.2.2.2.1 (fun q _ h => hFc q h) hFc (fun r u' t H1 locs1 ht hvm hw hB hz hk hS => ?_)
  obtain ⟨hP1, hK1, hD1⟩ := hB
  rw [ht] at hP1
  obtain ⟨hP, hD⟩ := va_join (wr := wYu ad2 cA2 n v) (w1 := wXu ad cA n u') hs.2.1 hs.2.2.1 [0, 1, 2, 3, 4, 5, 6, 7, 8] [9, 10, 11, 12] rfl rfl (by decide) (by decide) hk hFc hP1 hD1
  exact kk r u' H1 locs1 hw ⟨hs.1, hP.sub (ws' := wXu ad cA n u' ++ wYu ad2 cA2 n v) [4, 5, 6, 7, 8, 9, 10, 11, 12, 0, 1, 2, 3] rfl, hD.sub (ws' := wXu ad cA n u' ++ wYu ad2 cA2 n v) [4, 5, 6, 7, 8, 9, 10, 11, 12, 0, 1, 2, 3] (by decide) rfl, hS, hs.2.2.2.2⟩
theorem ly_calli {p : Program} {l : Launch} {e : Env} {R : Room} {s : State} {m : MethodId} {args : Array Value} {below : List Frame} {meth : Method} {c : Code} {H : Heap} {locs : List Loc} {cells slots : Nat} {Q : State → Prop} {cc : ByteArray} {pc nL : Nat} {ls : Array Slot} {rest : List Value} {D : va_G} {A : Nat → Prop} {own : String} {ad ad2 : Nat → Nat} {cA cA2 : Nat → ClassId} {n : Nat} {u : rz_SX} {v : rz_SY} {post : Int32 → rz_SY → Prop} {y : MethodName} {b : ByteArray} {L idx n0 f lo : Nat} {As st0 : List Value} {ret ret' : Option FieldType} (C : wk_C p s m meth c args own cc nL ret) (hs : wk_S A s D (tX cA ++ tY cA2) (wXu ad cA n u ++ wYu ad2 cA2 n v) H locs) (hM : wk_mI l y b L ret' (wk_rm f lo) D (tY cA2) (wYu ad2 cA2 n v) (.ref (ad2 0) :: As) post (wYu ad2 cA2 n)) (cw : CallW R s args own RX2 idx y b L ret' (ws_ y b L ret') (wk_rm f lo) 0 0 n0) (hn : As.length = n0)
    (hsz : ls.size = nL) (hst : st0 = As.reverse ++ .ref (ad2 0) :: rest) (hroom : (rest.map fun v => v.category).sum ≤ 8) (hdg : decode cc pc = .ok (.invokevirtual idx, 3)) (hf : cells ≤ R.cells ∧ slots ≤ R.slots)
    (kk : ∀ (r : Int32) (u' : rz_SY) (H1 : Heap) (locs1 : List Loc), post r u' → wk_S A s D (tX cA ++ tY cA2) (wXu ad cA n u ++ wYu ad2 cA2 n u') H1 locs1 → W p l e R s m args below meth c H1 locs1 cells slots Q (F0 m (pc + 3) ls (.int r :: rest))) : W p l e R s m args below meth c H locs cells slots Q (F0 m pc ls st0) := by
  have hPc := hs.2.1.sub (ws' := wYu ad2 cA2 n v) [9, 10, 11, 12] rfl
  have hDc := hs.2.2.1.sub (ws' := wYu ad2 cA2 n v) [9, 10, 11, 12] (by decide) rfl
  have hKc := hs.1.sub (tys' := tY cA2) [8, 9, 10] rfl
  have hFc := va_free (wc := wYu ad2 cA2 n v) hs.2.2.1 hs.2.2.2.1 hs.2.2.2.2 [9, 10, 11, 12] rfl
  refine va_calli (va_runV (As := As) (rest := rest) ⟨C.1, C.2.1, C.2.2.2.1, C.2.2.2.2.1, C.2.2.2.2.2.1⟩ (hM H.size) cw ⟨fun a' U g mk q => by obtain ⟨q0, q1, qP, qK, qD⟩ := q; exact ⟨q0, q1, qP, va_K.moved (u := U) (U := U.calling g mk a') (Vm.Alike.refl U.vm) qK, qD⟩, va_recv hKc hPc (ci := 1) (q0 := 0) rfl rfl, fun U hU hW => ⟨rfl, by rw [hU], by rw [hU]; exact hPc, va_K.moved hW.alike hKc, hDc.weaken (fun _ _ _ _ => trivial)⟩⟩ rfl hn hsz hst (lv_room hroom) hdg hf) hs.2.2.2.1 (fun q _ h => hFc q h) hFc (fun r u' t H1 locs1 ht hvm hw hB hz hk hS => ?_)
  obtain ⟨hP1, hK1, hD1⟩ := hB
  rw [ht] at hP1
  obtain ⟨hP, hD⟩ := va_join (wr := wXu ad cA n u) (w1 := wYu ad2 cA2 n u') hs.2.1 hs.2.2.1 [9, 10, 11, 12] [0, 1, 2, 3, 4, 5, 6, 7, 8] rfl rfl (by decide) (by decide) hk hFc hP1 hD1
  exact kk r u' H1 locs1 hw ⟨hs.1, hP.sub (ws' := wXu ad cA n u ++ wYu ad2 cA2 n u') [0, 1, 2, 3, 4, 5, 6, 7, 8, 9, 10, 11, 12] rfl, hD.sub (ws' := wXu ad cA n u ++ wYu ad2 cA2 n u') [0, 1, 2, 3, 4, 5, 6, 7, 8, 9, 10, 11, 12] (by decide) rfl, hS, hs.2.2.2.2⟩
theorem rz_of32 (x : Int32) : ∃ n, x = nI n := ⟨x.toBitVec.toNat, by
  apply Int32.toBitVec_inj.1
  show x.toBitVec = BitVec.ofNat 32 x.toBitVec.toNat
  simp⟩
theorem rz_gt {L i : Nat} (hL : L < 1000) (hi : i < 1000) : nI L - nI 3 < nI i ↔ L < i + 3 := by
  rw [Int32.lt_iff_toInt_lt, pk_sub_toInt (by omega) (by decide), nI_toInt (by omega)]
  omega
/-- the two bases hold the same clauses -/
def rz_rel (n : Nat) (u : rz_SX) (v : rz_SY) : Prop := rz_IXu n u ∧ rz_bs (3 ^ n) v.1 v.2.1 ∧ rz_B u.1 u.2.1 = rz_B v.1 v.2.1 ∧ u.2.1 = v.2.1
theorem rz_rel_0 {n : Nat} (hn : n ≤ 5) : rz_rel n rz_u0 rz_v0 := by
  refine ⟨⟨⟨Nat.zero_le _, fun i hi => absurd hi (Nat.not_lt_zero i), fun i j hi => absurd hi (Nat.not_lt_zero i)⟩, fun c h => h.elim, fun _ => ?_⟩, ⟨Nat.zero_le _, fun i hi => absurd hi (Nat.not_lt_zero i), fun i j hi => absurd hi (Nat.not_lt_zero i)⟩, rfl, rfl⟩
  exact rz_ok_c (rz_ok_0 hn) (fun t => ⟨False.elim, fun ⟨i, hi, _⟩ => absurd hi (Nat.not_lt_zero i)⟩)
theorem rz_add_eq {N k k1 k2 : Nat} {B B1 B2 : Nat → Prop} {x r1 r2 : Int32} (hN : N < 2 ^ 31) (h1 : rz_Add N B k x r1 B1 k1) (h2 : rz_Add N B k x r2 B2 k2) : r1 = r2 ∧ B1 = B2 ∧ k1 = k2 := by
  rcases h1 with ⟨a1, a2, a3, a4⟩ | ⟨j, a1, rfl, a3⟩
  · rcases h2 with ⟨b1, b2, b3, b4⟩ | ⟨i, b1, b2, b3⟩
    · rw [a2, a3, a4, b2, b3, b4]; exact ⟨rfl, rfl, rfl⟩
    · exact absurd ⟨i, b1, b2⟩ a1
  · rcases h2 with ⟨b1, b2, b3, b4⟩ | ⟨i, b1, b2, b3⟩
    · exact absurd ⟨j, a1, rfl⟩ b1
    · have e := (nI_eq (by omega) (by omega)).mp b2
      subst e
      rcases a3 with ⟨c1, c2, c3, c4⟩ | ⟨c1, c2, c3, c4, c5⟩ | ⟨c1, c2, c3, c4, c5⟩ <;> rcases b3 with ⟨d1, d2, d3, d4⟩ | ⟨d1, d2, d3, d4, d5⟩ | ⟨d1, d2, d3, d4, d5⟩
      · rw [c2, c3, c4, d2, d3, d4]; exact ⟨rfl, rfl, rfl⟩
      · exact absurd c1 d1
      · exact absurd c1 d1
      · exact absurd d1 c1
      · rw [c3, c4, c5, d3, d4, d5]; exact ⟨rfl, rfl, rfl⟩
      · omega
      · exact absurd d1 c1
      · omega
      · rw [c3, c4, c5, d3, d4, d5]; exact ⟨rfl, rfl, rfl⟩
theorem rz_ret_eq {N k k1 k2 : Nat} {B B1 B2 : Nat → Prop} {x r1 r2 : Int32} (hN : N < 2 ^ 31) (h1 : rz_Ret N B k x r1 B1 k1) (h2 : rz_Ret N B k x r2 B2 k2) : r1 = r2 ∧ B1 = B2 ∧ k1 = k2 := by
  rcases h1 with ⟨a1, a2, a3, a4⟩ | ⟨j, a1, rfl, a3⟩
  · rcases h2 with ⟨b1, b2, b3, b4⟩ | ⟨i, b1, b2, b3⟩
    · rw [a2, a3, a4, b2, b3, b4]; exact ⟨rfl, rfl, rfl⟩
    · exact absurd ⟨i, b1, b2⟩ a1
  · rcases h2 with ⟨b1, b2, b3, b4⟩ | ⟨i, b1, b2, b3⟩
    · exact absurd ⟨j, a1, rfl⟩ b1
    · have e := (nI_eq (by omega) (by omega)).mp b2
      subst e
      rcases a3 with ⟨c1, c2, c3, c4⟩ | ⟨c1, c2, c3, c4⟩ <;> rcases b3 with ⟨d1, d2, d3, d4⟩ | ⟨d1, d2, d3, d4⟩
      · rw [c2, c3, c4, d2, d3, d4]; exact ⟨rfl, rfl, rfl⟩
      · exact absurd d1 c1
      · exact absurd c1 d1
      · rw [c2, c3, d2, d3]; exact ⟨rfl, rfl, by omega⟩
theorem rz_pw_eq {n : Nat} {T : Nat → Prop} {x r1 r2 : Int32} (hn : n ≤ 5) (h1 : ((¬ ∃ j, j < 3 ^ n ∧ x = nI j) ∧ r1 = -1) ∨ ∃ j, j < 3 ^ n ∧ x = nI j ∧ rz_lo (3 ^ n) (fun d => rz_W n d j ∧ rz_Pr n T d) r1) (h2 : ((¬ ∃ j, j < 3 ^ n ∧ x = nI j) ∧ r2 = -1) ∨ ∃ j, j < 3 ^ n ∧ x = nI j ∧ rz_lo (3 ^ n) (fun d => rz_W n d j ∧ rz_Pr n T d) r2) : r1 = r2 := by
  have h3 := rz_p35 hn
  rcases h1 with ⟨a1, a2⟩ | ⟨j, a1, rfl, a3⟩
  · rcases h2 with ⟨b1, b2⟩ | ⟨i, b1, b2, b3⟩
    · rw [a2, b2]
    · exact absurd ⟨i, b1, b2⟩ a1
  · rcases h2 with ⟨b1, b2⟩ | ⟨i, b1, b2, b3⟩
    · exact absurd ⟨j, a1, rfl⟩ b1
    · have e := (nI_eq (by omega) (by omega)).mp b2
      subst e
      exact rz_lo_uniq a3 b3 (fun d => Iff.rfl)
end
end
section
/-! THE LAW'S SWITCH: each arm calls both objects and finds the answers alike -/
section
set_option maxRecDepth 100000
theorem rz_rel_same {n : Nat} {u u' : rz_SX} {v v' : rz_SY} (h : rz_rel n u v) (h1 : rz_Same n u.1 u.2.1 u') (h2 : rz_SameY n v.1 v.2.1 v') : rz_rel n u' v' := by
  obtain ⟨a1, a2, a3⟩ := h1
  obtain ⟨b1, b2, b3⟩ := h2
  refine ⟨a1, b1, ?_, ?_⟩
  · rw [a2, a3, b2, b3]; exact h.2.2.1
  · rw [a3, b3]; exact h.2.2.2
theorem rz_red_eq {n : Nat} {u : rz_SX} {v : rz_SY} (h : rz_rel n u v) : rz_cn (fun i => rz_Fo n (rz_Bx u.1 u.2.1 i) (u.1 i)) u.2.1 = rz_cn (fun i => rz_Fo n (rz_Bx v.1 v.2.1 i) (v.1 i)) v.2.1 := by
  obtain ⟨b, bs, r⟩ := u
  obtain ⟨b', bs', r'⟩ := v
  obtain ⟨⟨h1, -, -⟩, h2, h3, h4⟩ := h
  have h4 : bs = bs' := h4
  subst h4
  exact rz_red (N := 3 ^ n) h1 h2 h3
set_option maxHeartbeats 4000000 in
theorem arm_add {p : Program} {l : Launch} {e : Env} {s : State} {m : MethodId} {below : List Frame} {meth : Method} {c : Code} {Q : State → Prop} {D : va_G} {A : Nat → Prop} {ad ad2 : Nat → Nat} {cA cA2 : Nat → ClassId} {n b L i : Nat} {xs : Nat → Int32} {u : rz_SX} {v : rz_SY} {H : Heap} {locs : List Loc} {ls : Array Slot} (C : wk_C p s m meth c #[Value.ref b] RX0 cL_law 4 ret) (hX : va_X b L xs s s.heap) (hbl : b < s.heap.size) (hbA : ¬ A b) (hL : L ≤ 193) (hn2 : 2 ≤ n) (hn : n ≤ 5) (hi : i + 3 ≤ L) (hrel : rz_rel n u v) (hs : wk_S A s D (tX cA ++ tY cA2) (wXu ad cA n u ++ wYu ad2 cA2 n v) H locs) (hl : lv_has ls 4 [(0, .ref b), (1, .ref (ad 0)), (2, .ref (ad2 0)), (3, .int (nI i))]) (next : ∀ (u : rz_SX) (v : rz_SY) (H : Heap) (locs : List Loc) (ls : Array Slot), rz_rel n u v → wk_S A s D (tX cA ++ tY cA2) (wXu ad cA n u ++ wYu ad2 cA2 n v) H locs → lv_has ls 4 [(0, .ref b), (1, .ref (ad 0)), (2, .ref (ad2 0)), (3, .int (nI i))] → W p l e room_1 s m #[Value.ref b] below meth c H locs 13 1312 Q (F0 m 296 ls [])) : W p l e room_1 s m #[Value.ref b] below meth c H locs 13 1312 Q (F0 m 96 ls []) := by
  have hx := C.1
  have hb := C.2.1
  have h3 := rz_p35 hn
  refine lv_aload_n hx hb dL_law_96 rfl (lv_at hl 1 rfl) ?_
  refine lv_aload_n hx hb dL_law_97 rfl (lv_at hl 0 rfl) ?_
  refine lv_iload_n hx hb dL_law_98 rfl (lv_at hl 3 rfl) ?_
  refine lv_iconst (v := nI 1) hx hb dL_law_99 (by decide +kernel) ?_
  refine lv_iadd hx hb dL_law_100 ?_
  refine wk_top (v := nI (i + 1)) (nI_add _ _) ?_
  refine va_sld hx hb hX hbl hbA hs.2.2.2.1 (vp_in_nI (n := i + 1) (by omega) (by omega)) dL_law_101 ?_
  refine wk_top (v := xs (i + 1)) (by rw [wk_clamp (by omega)]) ?_
  refine lx_calli (As := [.int (xs (i + 1))]) (rest := []) C hs (p1_add l D ad cA hn2 hn u.1 u.2.1 u.2.2.1 u.2.2.2.1 u.2.2.2.2.1 u.2.2.2.2.2.1 u.2.2.2.2.2.2 hrel.1 (xs (i + 1))) (cwX0_X1_add C.2.2.2.2.2.1 ⟨Nat.le_of_ble_eq_true rfl, Nat.le_of_ble_eq_true rfl⟩) rfl hl.1 rfl (Nat.le_of_ble_eq_true rfl) dL_law_102 ⟨Nat.le_of_ble_eq_true rfl, Nat.le_of_ble_eq_true rfl⟩ (fun r u1 H locs hq hs => ?_)
  refine lv_aload_n hx hb dL_law_105 rfl (lv_at hl 2 rfl) ?_
  refine lv_aload_n hx hb dL_law_106 rfl (lv_at hl 0 rfl) ?_
  refine lv_iload_n hx hb dL_law_107 rfl (lv_at hl 3 rfl) ?_
  refine lv_iconst (v := nI 1) hx hb dL_law_108 (by decide +kernel) ?_
  refine lv_iadd hx hb dL_law_109 ?_
  refine wk_top (v := nI (i + 1)) (nI_add _ _) ?_
  refine va_sld hx hb hX hbl hbA hs.2.2.2.1 (vp_in_nI (n := i + 1) (by omega) (by omega)) dL_law_110 ?_
  refine wk_top (v := xs (i + 1)) (by rw [wk_clamp (by omega)]) ?_
  refine ly_calli (As := [.int (xs (i + 1))]) (rest := [.int r]) C hs (p2_add l D ad2 cA2 hn2 hn v.1 v.2.1 v.2.2.1 v.2.2.2 hrel.2.1 (xs (i + 1))) (cwX0_X2_add C.2.2.2.2.2.1 ⟨Nat.le_of_ble_eq_true rfl, Nat.le_of_ble_eq_true rfl⟩) rfl hl.1 rfl (Nat.le_of_ble_eq_true rfl) dL_law_111 ⟨Nat.le_of_ble_eq_true rfl, Nat.le_of_ble_eq_true rfl⟩ (fun r2 v1 H locs hq2 hs => ?_)
  rw [hrel.2.2.1, hrel.2.2.2] at hq
  have he := rz_add_eq (by omega) hq.2 hq2.2
  refine lv_icmp_eq (tgt := 296) hx hb dL_law_114 (by decide) (fun _ => ?_) (fun h => absurd he.1 h)
  exact next u1 v1 H locs ls ⟨hq.1, hq2.1, he.2.1, he.2.2⟩ hs hl
set_option maxHeartbeats 4000000 in
theorem arm_retract {p : Program} {l : Launch} {e : Env} {s : State} {m : MethodId} {below : List Frame} {meth : Method} {c : Code} {Q : State → Prop} {D : va_G} {A : Nat → Prop} {ad ad2 : Nat → Nat} {cA cA2 : Nat → ClassId} {n b L i : Nat} {xs : Nat → Int32} {u : rz_SX} {v : rz_SY} {H : Heap} {locs : List Loc} {ls : Array Slot} (C : wk_C p s m meth c #[Value.ref b] RX0 cL_law 4 ret) (hX : va_X b L xs s s.heap) (hbl : b < s.heap.size) (hbA : ¬ A b) (hL : L ≤ 193) (hn2 : 2 ≤ n) (hn : n ≤ 5) (hi : i + 3 ≤ L) (hrel : rz_rel n u v) (hs : wk_S A s D (tX cA ++ tY cA2) (wXu ad cA n u ++ wYu ad2 cA2 n v) H locs) (hl : lv_has ls 4 [(0, .ref b), (1, .ref (ad 0)), (2, .ref (ad2 0)), (3, .int (nI i))]) (next : ∀ (u : rz_SX) (v : rz_SY) (H : Heap) (locs : List Loc) (ls : Array Slot), rz_rel n u v → wk_S A s D (tX cA ++ tY cA2) (wXu ad cA n u ++ wYu ad2 cA2 n v) H locs → lv_has ls 4 [(0, .ref b), (1, .ref (ad 0)), (2, .ref (ad2 0)), (3, .int (nI i))] → W p l e room_1 s m #[Value.ref b] below meth c H locs 13 1312 Q (F0 m 296 ls [])) : W p l e room_1 s m #[Value.ref b] below meth c H locs 13 1312 Q (F0 m 119 ls []) := by
  have hx := C.1
  have hb := C.2.1
  have h3 := rz_p35 hn
  refine lv_aload_n hx hb dL_law_119 rfl (lv_at hl 1 rfl) ?_
  refine lv_aload_n hx hb dL_law_120 rfl (lv_at hl 0 rfl) ?_
  refine lv_iload_n hx hb dL_law_121 rfl (lv_at hl 3 rfl) ?_
  refine lv_iconst (v := nI 1) hx hb dL_law_122 (by decide +kernel) ?_
  refine lv_iadd hx hb dL_law_123 ?_
  refine wk_top (v := nI (i + 1)) (nI_add _ _) ?_
  refine va_sld hx hb hX hbl hbA hs.2.2.2.1 (vp_in_nI (n := i + 1) (by omega) (by omega)) dL_law_124 ?_
  refine wk_top (v := xs (i + 1)) (by rw [wk_clamp (by omega)]) ?_
  refine lx_calli (As := [.int (xs (i + 1))]) (rest := []) C hs (p1_retract l D ad cA hn2 hn u.1 u.2.1 u.2.2.1 u.2.2.2.1 u.2.2.2.2.1 u.2.2.2.2.2.1 u.2.2.2.2.2.2 hrel.1 (xs (i + 1))) (cwX0_X1_retract C.2.2.2.2.2.1 ⟨Nat.le_of_ble_eq_true rfl, Nat.le_of_ble_eq_true rfl⟩) rfl hl.1 rfl (Nat.le_of_ble_eq_true rfl) dL_law_125 ⟨Nat.le_of_ble_eq_true rfl, Nat.le_of_ble_eq_true rfl⟩ (fun r u1 H locs hq hs => ?_)
  refine lv_aload_n hx hb dL_law_128 rfl (lv_at hl 2 rfl) ?_
  refine lv_aload_n hx hb dL_law_129 rfl (lv_at hl 0 rfl) ?_
  refine lv_iload_n hx hb dL_law_130 rfl (lv_at hl 3 rfl) ?_
  refine lv_iconst (v := nI 1) hx hb dL_law_131 (by decide +kernel) ?_
  refine lv_iadd hx hb dL_law_132 ?_
  refine wk_top (v := nI (i + 1)) (nI_add _ _) ?_
  refine va_sld hx hb hX hbl hbA hs.2.2.2.1 (vp_in_nI (n := i + 1) (by omega) (by omega)) dL_law_133 ?_
  refine wk_top (v := xs (i + 1)) (by rw [wk_clamp (by omega)]) ?_
  refine ly_calli (As := [.int (xs (i + 1))]) (rest := [.int r]) C hs (p2_retract l D ad2 cA2 hn2 hn v.1 v.2.1 v.2.2.1 v.2.2.2 hrel.2.1 (xs (i + 1))) (cwX0_X2_retract C.2.2.2.2.2.1 ⟨Nat.le_of_ble_eq_true rfl, Nat.le_of_ble_eq_true rfl⟩) rfl hl.1 rfl (Nat.le_of_ble_eq_true rfl) dL_law_134 ⟨Nat.le_of_ble_eq_true rfl, Nat.le_of_ble_eq_true rfl⟩ (fun r2 v1 H locs hq2 hs => ?_)
  rw [hrel.2.2.1, hrel.2.2.2] at hq
  have he := rz_ret_eq (by omega) hq.2 hq2.2
  refine lv_icmp_eq (tgt := 296) hx hb dL_law_137 (by decide) (fun _ => ?_) (fun h => absurd he.1 h)
  exact next u1 v1 H locs ls ⟨hq.1, hq2.1, he.2.1, he.2.2⟩ hs hl
set_option maxHeartbeats 4000000 in
theorem arm_size {p : Program} {l : Launch} {e : Env} {s : State} {m : MethodId} {below : List Frame} {meth : Method} {c : Code} {Q : State → Prop} {D : va_G} {A : Nat → Prop} {ad ad2 : Nat → Nat} {cA cA2 : Nat → ClassId} {n b L i : Nat} {xs : Nat → Int32} {u : rz_SX} {v : rz_SY} {H : Heap} {locs : List Loc} {ls : Array Slot} (C : wk_C p s m meth c #[Value.ref b] RX0 cL_law 4 ret) (hX : va_X b L xs s s.heap) (hbl : b < s.heap.size) (hbA : ¬ A b) (hL : L ≤ 193) (hn2 : 2 ≤ n) (hn : n ≤ 5) (hi : i + 3 ≤ L) (hrel : rz_rel n u v) (hs : wk_S A s D (tX cA ++ tY cA2) (wXu ad cA n u ++ wYu ad2 cA2 n v) H locs) (hl : lv_has ls 4 [(0, .ref b), (1, .ref (ad 0)), (2, .ref (ad2 0)), (3, .int (nI i))]) (next : ∀ (u : rz_SX) (v : rz_SY) (H : Heap) (locs : List Loc) (ls : Array Slot), rz_rel n u v → wk_S A s D (tX cA ++ tY cA2) (wXu ad cA n u ++ wYu ad2 cA2 n v) H locs → lv_has ls 4 [(0, .ref b), (1, .ref (ad 0)), (2, .ref (ad2 0)), (3, .int (nI i))] → W p l e room_1 s m #[Value.ref b] below meth c H locs 13 1312 Q (F0 m 296 ls [])) : W p l e room_1 s m #[Value.ref b] below meth c H locs 13 1312 Q (F0 m 142 ls []) := by
  have hx := C.1
  have hb := C.2.1
  have h3 := rz_p35 hn
  refine lv_aload_n hx hb dL_law_142 rfl (lv_at hl 1 rfl) ?_
  refine lx_calli (As := []) (rest := []) C hs (p1_size l D ad cA hn2 hn u.1 u.2.1 u.2.2.1 u.2.2.2.1 u.2.2.2.2.1 u.2.2.2.2.2.1 u.2.2.2.2.2.2 hrel.1) (cwX0_X1_size C.2.2.2.2.2.1 ⟨Nat.le_of_ble_eq_true rfl, Nat.le_of_ble_eq_true rfl⟩) rfl hl.1 rfl (Nat.le_of_ble_eq_true rfl) dL_law_143 ⟨Nat.le_of_ble_eq_true rfl, Nat.le_of_ble_eq_true rfl⟩ (fun r u1 H locs hq hs => ?_)
  refine lv_aload_n hx hb dL_law_146 rfl (lv_at hl 2 rfl) ?_
  refine ly_calli (As := []) (rest := [.int r]) C hs (p2_size l D ad2 cA2 hn2 hn v.1 v.2.1 v.2.2.1 v.2.2.2 hrel.2.1) (cwX0_X2_size C.2.2.2.2.2.1 ⟨Nat.le_of_ble_eq_true rfl, Nat.le_of_ble_eq_true rfl⟩) rfl hl.1 rfl (Nat.le_of_ble_eq_true rfl) dL_law_147 ⟨Nat.le_of_ble_eq_true rfl, Nat.le_of_ble_eq_true rfl⟩ (fun r2 v1 H locs hq2 hs => ?_)
  have he : r = r2 := by rw [hq.1, hq2.1, hrel.2.2.2]
  refine lv_icmp_eq (tgt := 296) hx hb dL_law_150 (by decide) (fun _ => ?_) (fun h => absurd he h)
  exact next u1 v1 H locs ls (rz_rel_same hrel hq.2 hq2.2) hs hl
set_option maxHeartbeats 4000000 in
theorem arm_implied {p : Program} {l : Launch} {e : Env} {s : State} {m : MethodId} {below : List Frame} {meth : Method} {c : Code} {Q : State → Prop} {D : va_G} {A : Nat → Prop} {ad ad2 : Nat → Nat} {cA cA2 : Nat → ClassId} {n b L i : Nat} {xs : Nat → Int32} {u : rz_SX} {v : rz_SY} {H : Heap} {locs : List Loc} {ls : Array Slot} (C : wk_C p s m meth c #[Value.ref b] RX0 cL_law 4 ret) (hX : va_X b L xs s s.heap) (hbl : b < s.heap.size) (hbA : ¬ A b) (hL : L ≤ 193) (hn2 : 2 ≤ n) (hn : n ≤ 5) (hi : i + 3 ≤ L) (hrel : rz_rel n u v) (hs : wk_S A s D (tX cA ++ tY cA2) (wXu ad cA n u ++ wYu ad2 cA2 n v) H locs) (hl : lv_has ls 4 [(0, .ref b), (1, .ref (ad 0)), (2, .ref (ad2 0)), (3, .int (nI i))]) (next : ∀ (u : rz_SX) (v : rz_SY) (H : Heap) (locs : List Loc) (ls : Array Slot), rz_rel n u v → wk_S A s D (tX cA ++ tY cA2) (wXu ad cA n u ++ wYu ad2 cA2 n v) H locs → lv_has ls 4 [(0, .ref b), (1, .ref (ad 0)), (2, .ref (ad2 0)), (3, .int (nI i))] → W p l e room_1 s m #[Value.ref b] below meth c H locs 13 1312 Q (F0 m 296 ls [])) : W p l e room_1 s m #[Value.ref b] below meth c H locs 13 1312 Q (F0 m 155 ls []) := by
  have hx := C.1
  have hb := C.2.1
  have h3 := rz_p35 hn
  refine lv_aload_n hx hb dL_law_155 rfl (lv_at hl 1 rfl) ?_
  refine lv_aload_n hx hb dL_law_156 rfl (lv_at hl 0 rfl) ?_
  refine lv_iload_n hx hb dL_law_157 rfl (lv_at hl 3 rfl) ?_
  refine lv_iconst (v := nI 1) hx hb dL_law_158 (by decide +kernel) ?_
  refine lv_iadd hx hb dL_law_159 ?_
  refine wk_top (v := nI (i + 1)) (nI_add _ _) ?_
  refine va_sld hx hb hX hbl hbA hs.2.2.2.1 (vp_in_nI (n := i + 1) (by omega) (by omega)) dL_law_160 ?_
  refine wk_top (v := xs (i + 1)) (by rw [wk_clamp (by omega)]) ?_
  refine lx_calli (As := [.int (xs (i + 1))]) (rest := []) C hs (p1_implied l D ad cA hn2 hn u.1 u.2.1 u.2.2.1 u.2.2.2.1 u.2.2.2.2.1 u.2.2.2.2.2.1 u.2.2.2.2.2.2 hrel.1 (xs (i + 1))) (cwX0_X1_implied C.2.2.2.2.2.1 ⟨Nat.le_of_ble_eq_true rfl, Nat.le_of_ble_eq_true rfl⟩) rfl hl.1 rfl (Nat.le_of_ble_eq_true rfl) dL_law_161 ⟨Nat.le_of_ble_eq_true rfl, Nat.le_of_ble_eq_true rfl⟩ (fun r u1 H locs hq hs => ?_)
  refine lv_aload_n hx hb dL_law_164 rfl (lv_at hl 2 rfl) ?_
  refine lv_aload_n hx hb dL_law_165 rfl (lv_at hl 0 rfl) ?_
  refine lv_iload_n hx hb dL_law_166 rfl (lv_at hl 3 rfl) ?_
  refine lv_iconst (v := nI 1) hx hb dL_law_167 (by decide +kernel) ?_
  refine lv_iadd hx hb dL_law_168 ?_
  refine wk_top (v := nI (i + 1)) (nI_add _ _) ?_
  refine va_sld hx hb hX hbl hbA hs.2.2.2.1 (vp_in_nI (n := i + 1) (by omega) (by omega)) dL_law_169 ?_
  refine wk_top (v := xs (i + 1)) (by rw [wk_clamp (by omega)]) ?_
  refine ly_calli (As := [.int (xs (i + 1))]) (rest := [.int r]) C hs (p2_implied l D ad2 cA2 hn2 hn v.1 v.2.1 v.2.2.1 v.2.2.2 hrel.2.1 (xs (i + 1))) (cwX0_X2_implied C.2.2.2.2.2.1 ⟨Nat.le_of_ble_eq_true rfl, Nat.le_of_ble_eq_true rfl⟩) rfl hl.1 rfl (Nat.le_of_ble_eq_true rfl) dL_law_170 ⟨Nat.le_of_ble_eq_true rfl, Nat.le_of_ble_eq_true rfl⟩ (fun r2 v1 H locs hq2 hs => ?_)
  have he : r = r2 := by rw [hq.1, hq2.1, hrel.2.2.1]
  refine lv_icmp_eq (tgt := 296) hx hb dL_law_173 (by decide) (fun _ => ?_) (fun h => absurd he h)
  exact next u1 v1 H locs ls (rz_rel_same hrel hq.2 hq2.2) hs hl
set_option maxHeartbeats 4000000 in
theorem arm_primes {p : Program} {l : Launch} {e : Env} {s : State} {m : MethodId} {below : List Frame} {meth : Method} {c : Code} {Q : State → Prop} {D : va_G} {A : Nat → Prop} {ad ad2 : Nat → Nat} {cA cA2 : Nat → ClassId} {n b L i : Nat} {xs : Nat → Int32} {u : rz_SX} {v : rz_SY} {H : Heap} {locs : List Loc} {ls : Array Slot} (C : wk_C p s m meth c #[Value.ref b] RX0 cL_law 4 ret) (hX : va_X b L xs s s.heap) (hbl : b < s.heap.size) (hbA : ¬ A b) (hL : L ≤ 193) (hn2 : 2 ≤ n) (hn : n ≤ 5) (hi : i + 3 ≤ L) (hrel : rz_rel n u v) (hs : wk_S A s D (tX cA ++ tY cA2) (wXu ad cA n u ++ wYu ad2 cA2 n v) H locs) (hl : lv_has ls 4 [(0, .ref b), (1, .ref (ad 0)), (2, .ref (ad2 0)), (3, .int (nI i))]) (next : ∀ (u : rz_SX) (v : rz_SY) (H : Heap) (locs : List Loc) (ls : Array Slot), rz_rel n u v → wk_S A s D (tX cA ++ tY cA2) (wXu ad cA n u ++ wYu ad2 cA2 n v) H locs → lv_has ls 4 [(0, .ref b), (1, .ref (ad 0)), (2, .ref (ad2 0)), (3, .int (nI i))] → W p l e room_1 s m #[Value.ref b] below meth c H locs 13 1312 Q (F0 m 296 ls [])) : W p l e room_1 s m #[Value.ref b] below meth c H locs 13 1312 Q (F0 m 178 ls []) := by
  have hx := C.1
  have hb := C.2.1
  have h3 := rz_p35 hn
  refine lv_aload_n hx hb dL_law_178 rfl (lv_at hl 1 rfl) ?_
  refine lx_calli (As := []) (rest := []) C hs (p1_primes l D ad cA hn2 hn u.1 u.2.1 u.2.2.1 u.2.2.2.1 u.2.2.2.2.1 u.2.2.2.2.2.1 u.2.2.2.2.2.2 hrel.1) (cwX0_X1_primes C.2.2.2.2.2.1 ⟨Nat.le_of_ble_eq_true rfl, Nat.le_of_ble_eq_true rfl⟩) rfl hl.1 rfl (Nat.le_of_ble_eq_true rfl) dL_law_179 ⟨Nat.le_of_ble_eq_true rfl, Nat.le_of_ble_eq_true rfl⟩ (fun r u1 H locs hq hs => ?_)
  refine lv_aload_n hx hb dL_law_182 rfl (lv_at hl 2 rfl) ?_
  refine ly_calli (As := []) (rest := [.int r]) C hs (p2_primes l D ad2 cA2 hn2 hn v.1 v.2.1 v.2.2.1 v.2.2.2 hrel.2.1) (cwX0_X2_primes C.2.2.2.2.2.1 ⟨Nat.le_of_ble_eq_true rfl, Nat.le_of_ble_eq_true rfl⟩) rfl hl.1 rfl (Nat.le_of_ble_eq_true rfl) dL_law_183 ⟨Nat.le_of_ble_eq_true rfl, Nat.le_of_ble_eq_true rfl⟩ (fun r2 v1 H locs hq2 hs => ?_)
  have he : r = r2 := by rw [hq.1, hq2.1, hrel.2.2.1]
  refine lv_icmp_eq (tgt := 296) hx hb dL_law_186 (by decide) (fun _ => ?_) (fun h => absurd he h)
  exact next u1 v1 H locs ls (rz_rel_same hrel hq.2 hq2.2) hs hl
set_option maxHeartbeats 4000000 in
theorem arm_prime {p : Program} {l : Launch} {e : Env} {s : State} {m : MethodId} {below : List Frame} {meth : Method} {c : Code} {Q : State → Prop} {D : va_G} {A : Nat → Prop} {ad ad2 : Nat → Nat} {cA cA2 : Nat → ClassId} {n b L i : Nat} {xs : Nat → Int32} {u : rz_SX} {v : rz_SY} {H : Heap} {locs : List Loc} {ls : Array Slot} (C : wk_C p s m meth c #[Value.ref b] RX0 cL_law 4 ret) (hX : va_X b L xs s s.heap) (hbl : b < s.heap.size) (hbA : ¬ A b) (hL : L ≤ 193) (hn2 : 2 ≤ n) (hn : n ≤ 5) (hi : i + 3 ≤ L) (hrel : rz_rel n u v) (hs : wk_S A s D (tX cA ++ tY cA2) (wXu ad cA n u ++ wYu ad2 cA2 n v) H locs) (hl : lv_has ls 4 [(0, .ref b), (1, .ref (ad 0)), (2, .ref (ad2 0)), (3, .int (nI i))]) (next : ∀ (u : rz_SX) (v : rz_SY) (H : Heap) (locs : List Loc) (ls : Array Slot), rz_rel n u v → wk_S A s D (tX cA ++ tY cA2) (wXu ad cA n u ++ wYu ad2 cA2 n v) H locs → lv_has ls 4 [(0, .ref b), (1, .ref (ad 0)), (2, .ref (ad2 0)), (3, .int (nI i))] → W p l e room_1 s m #[Value.ref b] below meth c H locs 13 1312 Q (F0 m 296 ls [])) : W p l e room_1 s m #[Value.ref b] below meth c H locs 13 1312 Q (F0 m 191 ls []) := by
  have hx := C.1
  have hb := C.2.1
  have h3 := rz_p35 hn
  refine lv_aload_n hx hb dL_law_191 rfl (lv_at hl 1 rfl) ?_
  refine lv_aload_n hx hb dL_law_192 rfl (lv_at hl 0 rfl) ?_
  refine lv_iload_n hx hb dL_law_193 rfl (lv_at hl 3 rfl) ?_
  refine lv_iconst (v := nI 1) hx hb dL_law_194 (by decide +kernel) ?_
  refine lv_iadd hx hb dL_law_195 ?_
  refine wk_top (v := nI (i + 1)) (nI_add _ _) ?_
  refine va_sld hx hb hX hbl hbA hs.2.2.2.1 (vp_in_nI (n := i + 1) (by omega) (by omega)) dL_law_196 ?_
  refine wk_top (v := xs (i + 1)) (by rw [wk_clamp (by omega)]) ?_
  refine lx_calli (As := [.int (xs (i + 1))]) (rest := []) C hs (p1_prime l D ad cA hn2 hn u.1 u.2.1 u.2.2.1 u.2.2.2.1 u.2.2.2.2.1 u.2.2.2.2.2.1 u.2.2.2.2.2.2 hrel.1 (xs (i + 1))) (cwX0_X1_prime C.2.2.2.2.2.1 ⟨Nat.le_of_ble_eq_true rfl, Nat.le_of_ble_eq_true rfl⟩) rfl hl.1 rfl (Nat.le_of_ble_eq_true rfl) dL_law_197 ⟨Nat.le_of_ble_eq_true rfl, Nat.le_of_ble_eq_true rfl⟩ (fun r u1 H locs hq hs => ?_)
  refine lv_aload_n hx hb dL_law_200 rfl (lv_at hl 2 rfl) ?_
  refine lv_aload_n hx hb dL_law_201 rfl (lv_at hl 0 rfl) ?_
  refine lv_iload_n hx hb dL_law_202 rfl (lv_at hl 3 rfl) ?_
  refine lv_iconst (v := nI 1) hx hb dL_law_203 (by decide +kernel) ?_
  refine lv_iadd hx hb dL_law_204 ?_
  refine wk_top (v := nI (i + 1)) (nI_add _ _) ?_
  refine va_sld hx hb hX hbl hbA hs.2.2.2.1 (vp_in_nI (n := i + 1) (by omega) (by omega)) dL_law_205 ?_
  refine wk_top (v := xs (i + 1)) (by rw [wk_clamp (by omega)]) ?_
  refine ly_calli (As := [.int (xs (i + 1))]) (rest := [.int r]) C hs (p2_prime l D ad2 cA2 hn2 hn v.1 v.2.1 v.2.2.1 v.2.2.2 hrel.2.1 (xs (i + 1))) (cwX0_X2_prime C.2.2.2.2.2.1 ⟨Nat.le_of_ble_eq_true rfl, Nat.le_of_ble_eq_true rfl⟩) rfl hl.1 rfl (Nat.le_of_ble_eq_true rfl) dL_law_206 ⟨Nat.le_of_ble_eq_true rfl, Nat.le_of_ble_eq_true rfl⟩ (fun r2 v1 H locs hq2 hs => ?_)
  have hq1 := hq.1
  rw [hrel.2.2.1] at hq1
  have he : r = r2 := rz_lo_uniq hq1 hq2.1 (fun d => Iff.rfl)
  refine lv_icmp_eq (tgt := 296) hx hb dL_law_209 (by decide) (fun _ => ?_) (fun h => absurd he h)
  exact next u1 v1 H locs ls (rz_rel_same hrel hq.2 hq2.2) hs hl
set_option maxHeartbeats 4000000 in
theorem arm_primeWithin {p : Program} {l : Launch} {e : Env} {s : State} {m : MethodId} {below : List Frame} {meth : Method} {c : Code} {Q : State → Prop} {D : va_G} {A : Nat → Prop} {ad ad2 : Nat → Nat} {cA cA2 : Nat → ClassId} {n b L i : Nat} {xs : Nat → Int32} {u : rz_SX} {v : rz_SY} {H : Heap} {locs : List Loc} {ls : Array Slot} (C : wk_C p s m meth c #[Value.ref b] RX0 cL_law 4 ret) (hX : va_X b L xs s s.heap) (hbl : b < s.heap.size) (hbA : ¬ A b) (hL : L ≤ 193) (hn2 : 2 ≤ n) (hn : n ≤ 5) (hi : i + 3 ≤ L) (hrel : rz_rel n u v) (hs : wk_S A s D (tX cA ++ tY cA2) (wXu ad cA n u ++ wYu ad2 cA2 n v) H locs) (hl : lv_has ls 4 [(0, .ref b), (1, .ref (ad 0)), (2, .ref (ad2 0)), (3, .int (nI i))]) (next : ∀ (u : rz_SX) (v : rz_SY) (H : Heap) (locs : List Loc) (ls : Array Slot), rz_rel n u v → wk_S A s D (tX cA ++ tY cA2) (wXu ad cA n u ++ wYu ad2 cA2 n v) H locs → lv_has ls 4 [(0, .ref b), (1, .ref (ad 0)), (2, .ref (ad2 0)), (3, .int (nI i))] → W p l e room_1 s m #[Value.ref b] below meth c H locs 13 1312 Q (F0 m 296 ls [])) : W p l e room_1 s m #[Value.ref b] below meth c H locs 13 1312 Q (F0 m 214 ls []) := by
  have hx := C.1
  have hb := C.2.1
  have h3 := rz_p35 hn
  refine lv_aload_n hx hb dL_law_214 rfl (lv_at hl 1 rfl) ?_
  refine lv_aload_n hx hb dL_law_215 rfl (lv_at hl 0 rfl) ?_
  refine lv_iload_n hx hb dL_law_216 rfl (lv_at hl 3 rfl) ?_
  refine lv_iconst (v := nI 1) hx hb dL_law_217 (by decide +kernel) ?_
  refine lv_iadd hx hb dL_law_218 ?_
  refine wk_top (v := nI (i + 1)) (nI_add _ _) ?_
  refine va_sld hx hb hX hbl hbA hs.2.2.2.1 (vp_in_nI (n := i + 1) (by omega) (by omega)) dL_law_219 ?_
  refine wk_top (v := xs (i + 1)) (by rw [wk_clamp (by omega)]) ?_
  refine lx_calli (As := [.int (xs (i + 1))]) (rest := []) C hs (p1_primeWithin l D ad cA hn2 hn u.1 u.2.1 u.2.2.1 u.2.2.2.1 u.2.2.2.2.1 u.2.2.2.2.2.1 u.2.2.2.2.2.2 hrel.1 (xs (i + 1))) (cwX0_X1_primeWithin C.2.2.2.2.2.1 ⟨Nat.le_of_ble_eq_true rfl, Nat.le_of_ble_eq_true rfl⟩) rfl hl.1 rfl (Nat.le_of_ble_eq_true rfl) dL_law_220 ⟨Nat.le_of_ble_eq_true rfl, Nat.le_of_ble_eq_true rfl⟩ (fun r u1 H locs hq hs => ?_)
  refine lv_aload_n hx hb dL_law_223 rfl (lv_at hl 2 rfl) ?_
  refine lv_aload_n hx hb dL_law_224 rfl (lv_at hl 0 rfl) ?_
  refine lv_iload_n hx hb dL_law_225 rfl (lv_at hl 3 rfl) ?_
  refine lv_iconst (v := nI 1) hx hb dL_law_226 (by decide +kernel) ?_
  refine lv_iadd hx hb dL_law_227 ?_
  refine wk_top (v := nI (i + 1)) (nI_add _ _) ?_
  refine va_sld hx hb hX hbl hbA hs.2.2.2.1 (vp_in_nI (n := i + 1) (by omega) (by omega)) dL_law_228 ?_
  refine wk_top (v := xs (i + 1)) (by rw [wk_clamp (by omega)]) ?_
  refine ly_calli (As := [.int (xs (i + 1))]) (rest := [.int r]) C hs (p2_primeWithin l D ad2 cA2 hn2 hn v.1 v.2.1 v.2.2.1 v.2.2.2 hrel.2.1 (xs (i + 1))) (cwX0_X2_primeWithin C.2.2.2.2.2.1 ⟨Nat.le_of_ble_eq_true rfl, Nat.le_of_ble_eq_true rfl⟩) rfl hl.1 rfl (Nat.le_of_ble_eq_true rfl) dL_law_229 ⟨Nat.le_of_ble_eq_true rfl, Nat.le_of_ble_eq_true rfl⟩ (fun r2 v1 H locs hq2 hs => ?_)
  have hq1 := hq.1
  rw [hrel.2.2.1] at hq1
  have he : r = r2 := rz_pw_eq hn hq1 hq2.1
  refine lv_icmp_eq (tgt := 296) hx hb dL_law_232 (by decide) (fun _ => ?_) (fun h => absurd he h)
  exact next u1 v1 H locs ls (rz_rel_same hrel hq.2 hq2.2) hs hl
set_option maxHeartbeats 4000000 in
theorem arm_models {p : Program} {l : Launch} {e : Env} {s : State} {m : MethodId} {below : List Frame} {meth : Method} {c : Code} {Q : State → Prop} {D : va_G} {A : Nat → Prop} {ad ad2 : Nat → Nat} {cA cA2 : Nat → ClassId} {n b L i : Nat} {xs : Nat → Int32} {u : rz_SX} {v : rz_SY} {H : Heap} {locs : List Loc} {ls : Array Slot} (C : wk_C p s m meth c #[Value.ref b] RX0 cL_law 4 ret) (hX : va_X b L xs s s.heap) (hbl : b < s.heap.size) (hbA : ¬ A b) (hL : L ≤ 193) (hn2 : 2 ≤ n) (hn : n ≤ 5) (hi : i + 3 ≤ L) (hrel : rz_rel n u v) (hs : wk_S A s D (tX cA ++ tY cA2) (wXu ad cA n u ++ wYu ad2 cA2 n v) H locs) (hl : lv_has ls 4 [(0, .ref b), (1, .ref (ad 0)), (2, .ref (ad2 0)), (3, .int (nI i))]) (next : ∀ (u : rz_SX) (v : rz_SY) (H : Heap) (locs : List Loc) (ls : Array Slot), rz_rel n u v → wk_S A s D (tX cA ++ tY cA2) (wXu ad cA n u ++ wYu ad2 cA2 n v) H locs → lv_has ls 4 [(0, .ref b), (1, .ref (ad 0)), (2, .ref (ad2 0)), (3, .int (nI i))] → W p l e room_1 s m #[Value.ref b] below meth c H locs 13 1312 Q (F0 m 296 ls [])) : W p l e room_1 s m #[Value.ref b] below meth c H locs 13 1312 Q (F0 m 237 ls []) := by
  have hx := C.1
  have hb := C.2.1
  have h3 := rz_p35 hn
  refine lv_aload_n hx hb dL_law_237 rfl (lv_at hl 1 rfl) ?_
  refine lx_calli (As := []) (rest := []) C hs (p1_models l D ad cA hn2 hn u.1 u.2.1 u.2.2.1 u.2.2.2.1 u.2.2.2.2.1 u.2.2.2.2.2.1 u.2.2.2.2.2.2 hrel.1) (cwX0_X1_models C.2.2.2.2.2.1 ⟨Nat.le_of_ble_eq_true rfl, Nat.le_of_ble_eq_true rfl⟩) rfl hl.1 rfl (Nat.le_of_ble_eq_true rfl) dL_law_238 ⟨Nat.le_of_ble_eq_true rfl, Nat.le_of_ble_eq_true rfl⟩ (fun r u1 H locs hq hs => ?_)
  refine lv_aload_n hx hb dL_law_241 rfl (lv_at hl 2 rfl) ?_
  refine ly_calli (As := []) (rest := [.int r]) C hs (p2_models l D ad2 cA2 hn2 hn v.1 v.2.1 v.2.2.1 v.2.2.2 hrel.2.1) (cwX0_X2_models C.2.2.2.2.2.1 ⟨Nat.le_of_ble_eq_true rfl, Nat.le_of_ble_eq_true rfl⟩) rfl hl.1 rfl (Nat.le_of_ble_eq_true rfl) dL_law_242 ⟨Nat.le_of_ble_eq_true rfl, Nat.le_of_ble_eq_true rfl⟩ (fun r2 v1 H locs hq2 hs => ?_)
  have he : r = r2 := by rw [hq.1, hq2.1, hrel.2.2.1]
  refine lv_icmp_eq (tgt := 296) hx hb dL_law_245 (by decide) (fun _ => ?_) (fun h => absurd he h)
  exact next u1 v1 H locs ls (rz_rel_same hrel hq.2 hq2.2) hs hl
set_option maxHeartbeats 4000000 in
theorem arm_leastModel {p : Program} {l : Launch} {e : Env} {s : State} {m : MethodId} {below : List Frame} {meth : Method} {c : Code} {Q : State → Prop} {D : va_G} {A : Nat → Prop} {ad ad2 : Nat → Nat} {cA cA2 : Nat → ClassId} {n b L i : Nat} {xs : Nat → Int32} {u : rz_SX} {v : rz_SY} {H : Heap} {locs : List Loc} {ls : Array Slot} (C : wk_C p s m meth c #[Value.ref b] RX0 cL_law 4 ret) (hX : va_X b L xs s s.heap) (hbl : b < s.heap.size) (hbA : ¬ A b) (hL : L ≤ 193) (hn2 : 2 ≤ n) (hn : n ≤ 5) (hi : i + 3 ≤ L) (hrel : rz_rel n u v) (hs : wk_S A s D (tX cA ++ tY cA2) (wXu ad cA n u ++ wYu ad2 cA2 n v) H locs) (hl : lv_has ls 4 [(0, .ref b), (1, .ref (ad 0)), (2, .ref (ad2 0)), (3, .int (nI i))]) (next : ∀ (u : rz_SX) (v : rz_SY) (H : Heap) (locs : List Loc) (ls : Array Slot), rz_rel n u v → wk_S A s D (tX cA ++ tY cA2) (wXu ad cA n u ++ wYu ad2 cA2 n v) H locs → lv_has ls 4 [(0, .ref b), (1, .ref (ad 0)), (2, .ref (ad2 0)), (3, .int (nI i))] → W p l e room_1 s m #[Value.ref b] below meth c H locs 13 1312 Q (F0 m 296 ls [])) : W p l e room_1 s m #[Value.ref b] below meth c H locs 13 1312 Q (F0 m 250 ls []) := by
  have hx := C.1
  have hb := C.2.1
  have h3 := rz_p35 hn
  obtain ⟨xn, ex⟩ := rz_of32 (xs (i + 1))
  obtain ⟨yn, ey⟩ := rz_of32 (xs (i + 2))
  refine lv_aload_n hx hb dL_law_250 rfl (lv_at hl 1 rfl) ?_
  refine lv_aload_n hx hb dL_law_251 rfl (lv_at hl 0 rfl) ?_
  refine lv_iload_n hx hb dL_law_252 rfl (lv_at hl 3 rfl) ?_
  refine lv_iconst (v := nI 1) hx hb dL_law_253 (by decide +kernel) ?_
  refine lv_iadd hx hb dL_law_254 ?_
  refine wk_top (v := nI (i + 1)) (nI_add _ _) ?_
  refine va_sld hx hb hX hbl hbA hs.2.2.2.1 (vp_in_nI (n := i + 1) (by omega) (by omega)) dL_law_255 ?_
  refine wk_top (v := nI xn) (by rw [wk_clamp (by omega), ex]) ?_
  refine lv_aload_n hx hb dL_law_256 rfl (lv_at hl 0 rfl) ?_
  refine lv_iload_n hx hb dL_law_257 rfl (lv_at hl 3 rfl) ?_
  refine lv_iconst (v := nI 2) hx hb dL_law_258 (by decide +kernel) ?_
  refine lv_iadd hx hb dL_law_259 ?_
  refine wk_top (v := nI (i + 2)) (nI_add _ _) ?_
  refine va_sld hx hb hX hbl hbA hs.2.2.2.1 (vp_in_nI (n := i + 2) (by omega) (by omega)) dL_law_260 ?_
  refine wk_top (v := nI yn) (by rw [wk_clamp (by omega), ey]) ?_
  refine lx_calli (As := [.int (nI xn), .int (nI yn)]) (rest := []) C hs (p1_leastModel l D ad cA hn2 hn u.1 u.2.1 u.2.2.1 u.2.2.2.1 u.2.2.2.2.1 u.2.2.2.2.2.1 u.2.2.2.2.2.2 hrel.1 xn yn) (cwX0_X1_leastModel C.2.2.2.2.2.1 ⟨Nat.le_of_ble_eq_true rfl, Nat.le_of_ble_eq_true rfl⟩) rfl hl.1 rfl (Nat.le_of_ble_eq_true rfl) dL_law_261 ⟨Nat.le_of_ble_eq_true rfl, Nat.le_of_ble_eq_true rfl⟩ (fun r u1 H locs hq hs => ?_)
  refine lv_aload_n hx hb dL_law_264 rfl (lv_at hl 2 rfl) ?_
  refine lv_aload_n hx hb dL_law_265 rfl (lv_at hl 0 rfl) ?_
  refine lv_iload_n hx hb dL_law_266 rfl (lv_at hl 3 rfl) ?_
  refine lv_iconst (v := nI 1) hx hb dL_law_267 (by decide +kernel) ?_
  refine lv_iadd hx hb dL_law_268 ?_
  refine wk_top (v := nI (i + 1)) (nI_add _ _) ?_
  refine va_sld hx hb hX hbl hbA hs.2.2.2.1 (vp_in_nI (n := i + 1) (by omega) (by omega)) dL_law_269 ?_
  refine wk_top (v := nI xn) (by rw [wk_clamp (by omega), ex]) ?_
  refine lv_aload_n hx hb dL_law_270 rfl (lv_at hl 0 rfl) ?_
  refine lv_iload_n hx hb dL_law_271 rfl (lv_at hl 3 rfl) ?_
  refine lv_iconst (v := nI 2) hx hb dL_law_272 (by decide +kernel) ?_
  refine lv_iadd hx hb dL_law_273 ?_
  refine wk_top (v := nI (i + 2)) (nI_add _ _) ?_
  refine va_sld hx hb hX hbl hbA hs.2.2.2.1 (vp_in_nI (n := i + 2) (by omega) (by omega)) dL_law_274 ?_
  refine wk_top (v := nI yn) (by rw [wk_clamp (by omega), ey]) ?_
  refine ly_calli (As := [.int (nI xn), .int (nI yn)]) (rest := [.int r]) C hs (p2_leastModel l D ad2 cA2 hn2 hn v.1 v.2.1 v.2.2.1 v.2.2.2 hrel.2.1 xn yn) (cwX0_X2_leastModel C.2.2.2.2.2.1 ⟨Nat.le_of_ble_eq_true rfl, Nat.le_of_ble_eq_true rfl⟩) rfl hl.1 rfl (Nat.le_of_ble_eq_true rfl) dL_law_275 ⟨Nat.le_of_ble_eq_true rfl, Nat.le_of_ble_eq_true rfl⟩ (fun r2 v1 H locs hq2 hs => ?_)
  have hq1 := hq.1
  rw [hrel.2.2.1] at hq1
  have he : r = r2 := rz_lo_uniq hq1 hq2.1 (fun d => Iff.rfl)
  refine lv_icmp_eq (tgt := 296) hx hb dL_law_278 (by decide) (fun _ => ?_) (fun h => absurd he h)
  exact next u1 v1 H locs ls (rz_rel_same hrel hq.2 hq2.2) hs hl
set_option maxHeartbeats 4000000 in
theorem arm_redundant {p : Program} {l : Launch} {e : Env} {s : State} {m : MethodId} {below : List Frame} {meth : Method} {c : Code} {Q : State → Prop} {D : va_G} {A : Nat → Prop} {ad ad2 : Nat → Nat} {cA cA2 : Nat → ClassId} {n b L i : Nat} {xs : Nat → Int32} {u : rz_SX} {v : rz_SY} {H : Heap} {locs : List Loc} {ls : Array Slot} (C : wk_C p s m meth c #[Value.ref b] RX0 cL_law 4 ret) (hX : va_X b L xs s s.heap) (hbl : b < s.heap.size) (hbA : ¬ A b) (hL : L ≤ 193) (hn2 : 2 ≤ n) (hn : n ≤ 5) (hi : i + 3 ≤ L) (hrel : rz_rel n u v) (hs : wk_S A s D (tX cA ++ tY cA2) (wXu ad cA n u ++ wYu ad2 cA2 n v) H locs) (hl : lv_has ls 4 [(0, .ref b), (1, .ref (ad 0)), (2, .ref (ad2 0)), (3, .int (nI i))]) (next : ∀ (u : rz_SX) (v : rz_SY) (H : Heap) (locs : List Loc) (ls : Array Slot), rz_rel n u v → wk_S A s D (tX cA ++ tY cA2) (wXu ad cA n u ++ wYu ad2 cA2 n v) H locs → lv_has ls 4 [(0, .ref b), (1, .ref (ad 0)), (2, .ref (ad2 0)), (3, .int (nI i))] → W p l e room_1 s m #[Value.ref b] below meth c H locs 13 1312 Q (F0 m 296 ls [])) : W p l e room_1 s m #[Value.ref b] below meth c H locs 13 1312 Q (F0 m 283 ls []) := by
  have hx := C.1
  have hb := C.2.1
  have h3 := rz_p35 hn
  refine lv_aload_n hx hb dL_law_283 rfl (lv_at hl 1 rfl) ?_
  refine lx_calli (As := []) (rest := []) C hs (p1_redundant l D ad cA hn2 hn u.1 u.2.1 u.2.2.1 u.2.2.2.1 u.2.2.2.2.1 u.2.2.2.2.2.1 u.2.2.2.2.2.2 hrel.1) (cwX0_X1_redundant C.2.2.2.2.2.1 ⟨Nat.le_of_ble_eq_true rfl, Nat.le_of_ble_eq_true rfl⟩) rfl hl.1 rfl (Nat.le_of_ble_eq_true rfl) dL_law_284 ⟨Nat.le_of_ble_eq_true rfl, Nat.le_of_ble_eq_true rfl⟩ (fun r u1 H locs hq hs => ?_)
  refine lv_aload_n hx hb dL_law_287 rfl (lv_at hl 2 rfl) ?_
  refine ly_calli (As := []) (rest := [.int r]) C hs (p2_redundant l D ad2 cA2 hn2 hn v.1 v.2.1 v.2.2.1 v.2.2.2 hrel.2.1) (cwX0_X2_redundant C.2.2.2.2.2.1 ⟨Nat.le_of_ble_eq_true rfl, Nat.le_of_ble_eq_true rfl⟩) rfl hl.1 rfl (Nat.le_of_ble_eq_true rfl) dL_law_288 ⟨Nat.le_of_ble_eq_true rfl, Nat.le_of_ble_eq_true rfl⟩ (fun r2 v1 H locs hq2 hs => ?_)
  have he : r = r2 := by rw [hq.1, hq2.1, rz_red_eq hrel]
  refine lv_icmp_eq (tgt := 296) hx hb dL_law_291 (by decide) (fun _ => ?_) (fun h => absurd he h)
  exact next u1 v1 H locs ls (rz_rel_same hrel hq.2 hq2.2) hs hl
end
end
section
/-! THE LAW'S LOOP and its start -/
section
set_option maxRecDepth 100000
theorem rz_and15 (x : Int32) : ∃ o, o < 16 ∧ x &&& nI 15 = nI o := by
  obtain ⟨t, rfl⟩ := rz_of32 x
  exact ⟨t &&& 15, Nat.and_lt_two_pow (n := 4) t (by decide), wk_and t 15⟩
set_option maxHeartbeats 4000000 in
/-- at the loop's head, the two objects hold the same base -/
theorem law_loop {p : Program} {l : Launch} {e : Env} {s : State} {m : MethodId} {below : List Frame} {meth : Method} {c : Code} {D : va_G} {A : Nat → Prop} {ad ad2 : Nat → Nat} {cA cA2 : Nat → ClassId} {n b L : Nat} {xs : Nat → Int32} (C : wk_C p s m meth c #[Value.ref b] RX0 cL_law 4 ret) (hX : va_X b L xs s s.heap) (hbl : b < s.heap.size) (hA0 : ∀ q, A q → s.heap.size ≤ q) (hL : L ≤ 193) (hn2 : 2 ≤ n) (hn : n ≤ 5) :
    ∀ (k i : Nat), i ≤ L + 1 → L + 2 ≤ i + k → ∀ (u : rz_SX) (v : rz_SY) (H : Heap) (locs : List Loc) (ls : Array Slot), rz_rel n u v → wk_S A s D (tX cA ++ tY cA2) (wXu ad cA n u ++ wYu ad2 cA2 n v) H locs → lv_has ls 4 [(0, .ref b), (1, .ref (ad 0)), (2, .ref (ad2 0)), (3, .int (nI i))] → W p l e room_1 s m #[Value.ref b] below meth c H locs 13 1312 (lw_Z below #[Value.ref b] s) (F0 m 28 ls []) := by
  have hbA : ¬ A b := fun h => absurd (hA0 b h) (Nat.not_le.mpr hbl)
  have hx := C.1
  have hb := C.2.1
  intro k
  induction k with
  | zero =>
    intro i h1 h2
    exact absurd h2 (by omega)
  | succ k ih =>
    intro i hi hik u v H locs ls hrel hs hl
    refine lv_iload_n hx hb dL_law_28 rfl (lv_at hl 3 rfl) ?_
    refine lv_aload_n hx hb dL_law_29 rfl (lv_at hl 0 rfl) ?_
    refine va_slen hx hb hX hbl hbA hs.2.2.2.1 dL_law_30 ?_
    refine lv_iconst (v := nI 3) hx hb dL_law_31 (by decide +kernel) ?_
    refine lv_isub hx hb dL_law_32 ?_
    refine lv_icmp_gt (tgt := 302) hx hb dL_law_33 (by decide) (fun h => ?_) (fun h => ?_)
    · refine lv_iconst (v := 1) hx hb dL_law_302 (by decide +kernel) ?_
      refine va_forget (fun q hq => hA0 _ (hs.2.2.2.1.2.2 q hq)) ?_
      refine W.widen (k := 600000) (n := 7290000) (Nat.le_of_ble_eq_true rfl) (Nat.le_of_ble_eq_true rfl) ?_
      exact lw_ret hx hb C.2.2.1 C.2.2.2.2.2.2 dL_law_303
    · have h' : ¬ L < i + 3 := fun z => h ((rz_gt (by omega) (by omega)).mpr z)
      have hi3 : i + 3 ≤ L := by omega
      have next : ∀ (u : rz_SX) (v : rz_SY) (H : Heap) (locs : List Loc) (ls : Array Slot), rz_rel n u v → wk_S A s D (tX cA ++ tY cA2) (wXu ad cA n u ++ wYu ad2 cA2 n v) H locs → lv_has ls 4 [(0, .ref b), (1, .ref (ad 0)), (2, .ref (ad2 0)), (3, .int (nI i))] → W p l e room_1 s m #[Value.ref b] below meth c H locs 13 1312 (lw_Z below #[Value.ref b] s) (F0 m 296 ls []) := by
        intro u v H locs ls hrel hs hl
        refine lv_iinc (v := nI (i + 3)) (lv' := [(3, .int (nI (i + 3))), (0, .ref b), (1, .ref (ad 0)), (2, .ref (ad2 0))]) hx hb dL_law_296 hl (k := 3) rfl (nI_add _ 3) (by decide) rfl (fun ls hl => ?_)
        refine lv_goto (tgt := 28) hx hb dL_law_299 (by decide) ?_
        exact ih (i + 3) (by omega) (by omega) u v H locs ls hrel hs (lv_sub hl [1, 2, 3, 0] rfl)
      refine lv_aload_n hx hb dL_law_36 rfl (lv_at hl 0 rfl) ?_
      refine lv_iload_n hx hb dL_law_37 rfl (lv_at hl 3 rfl) ?_
      refine va_sld hx hb hX hbl hbA hs.2.2.2.1 (vp_in_nI (n := i) (by omega) (by omega)) dL_law_38 ?_
      refine wk_top (v := xs i) (by rw [wk_clamp (by omega)]) ?_
      refine lv_bipush (v := nI 15) hx hb dL_law_39 (by decide +kernel) ?_
      refine lv_iand hx hb dL_law_41 ?_
      obtain ⟨o, ho, eo⟩ := rz_and15 (xs i)
      refine wk_top (v := nI o) eo ?_
      rcases (show o = 0 ∨ o = 1 ∨ o = 2 ∨ o = 3 ∨ o = 4 ∨ o = 5 ∨ o = 6 ∨ o = 7 ∨ o = 8 ∨ o = 9 ∨ 10 ≤ o by omega) with e0 | e0 | e0 | e0 | e0 | e0 | e0 | e0 | e0 | e0 | e0
      · subst e0
        refine lv_tableIn (off := 54) (tgt := 96) hx hb dL_law_42 (by decide +kernel) (by decide +kernel) (by decide +kernel) (by decide) ?_
        exact arm_add C hX hbl hbA hL hn2 hn hi3 hrel hs hl next
      · subst e0
        refine lv_tableIn (off := 77) (tgt := 119) hx hb dL_law_42 (by decide +kernel) (by decide +kernel) (by decide +kernel) (by decide) ?_
        exact arm_retract C hX hbl hbA hL hn2 hn hi3 hrel hs hl next
      · subst e0
        refine lv_tableIn (off := 100) (tgt := 142) hx hb dL_law_42 (by decide +kernel) (by decide +kernel) (by decide +kernel) (by decide) ?_
        exact arm_size C hX hbl hbA hL hn2 hn hi3 hrel hs hl next
      · subst e0
        refine lv_tableIn (off := 113) (tgt := 155) hx hb dL_law_42 (by decide +kernel) (by decide +kernel) (by decide +kernel) (by decide) ?_
        exact arm_implied C hX hbl hbA hL hn2 hn hi3 hrel hs hl next
      · subst e0
        refine lv_tableIn (off := 136) (tgt := 178) hx hb dL_law_42 (by decide +kernel) (by decide +kernel) (by decide +kernel) (by decide) ?_
        exact arm_primes C hX hbl hbA hL hn2 hn hi3 hrel hs hl next
      · subst e0
        refine lv_tableIn (off := 149) (tgt := 191) hx hb dL_law_42 (by decide +kernel) (by decide +kernel) (by decide +kernel) (by decide) ?_
        exact arm_prime C hX hbl hbA hL hn2 hn hi3 hrel hs hl next
      · subst e0
        refine lv_tableIn (off := 172) (tgt := 214) hx hb dL_law_42 (by decide +kernel) (by decide +kernel) (by decide +kernel) (by decide) ?_
        exact arm_primeWithin C hX hbl hbA hL hn2 hn hi3 hrel hs hl next
      · subst e0
        refine lv_tableIn (off := 195) (tgt := 237) hx hb dL_law_42 (by decide +kernel) (by decide +kernel) (by decide +kernel) (by decide) ?_
        exact arm_models C hX hbl hbA hL hn2 hn hi3 hrel hs hl next
      · subst e0
        refine lv_tableIn (off := 208) (tgt := 250) hx hb dL_law_42 (by decide +kernel) (by decide +kernel) (by decide +kernel) (by decide) ?_
        exact arm_leastModel C hX hbl hbA hL hn2 hn hi3 hrel hs hl next
      · subst e0
        refine lv_tableIn (off := 241) (tgt := 283) hx hb dL_law_42 (by decide +kernel) (by decide +kernel) (by decide +kernel) (by decide) ?_
        exact arm_redundant C hX hbl hbA hL hn2 hn hi3 hrel hs hl next
      · refine lv_tableOut (tgt := 296) hx hb dL_law_42 (Or.inr (by rw [nI_toInt (by omega)]; omega)) (by decide) ?_
        exact next u v H locs ls hrel hs hl
set_option maxHeartbeats 4000000 in
/-- cell(script, 0): nothing changes -/
theorem lw_cell {p : Program} {l : Launch} {e : Env} {s : State} {m : MethodId} {below : List Frame} {meth : Method} {c : Code} {Q : State → Prop} {D : va_G} {A : Nat → Prop} {b L : Nat} {xs : Nat → Int32} {H : Heap} {locs : List Loc} {ls : Array Slot} {cells slots pc : Nat} {ws : va_W} {rest : List Value} (C : wk_C p s m meth c #[Value.ref b] RX0 cL_law 4 ret) (hL : L ≤ 193) (hX : va_X b L xs s s.heap) (hbl : b < s.heap.size) (hbA : ¬ A b) (hA : ∀ q, s.heap.size ≤ q → A q) (hP : va_P D vwCl ws H) (hS : va_S A s.heap H locs) (hsz : ls.size = 4) (hroom : (rest.map fun v => v.category).sum ≤ 8) (hdg : decode cL_law pc = .ok (.invokestatic 9, 3)) (hf : cells ≤ room_1.cells ∧ slots ≤ room_1.slots)
    (kk : ∀ (H1 : Heap) (locs1 : List Loc), va_P D vwCl ws H1 → va_S A s.heap H1 locs1 → W p l e room_1 s m #[Value.ref b] below meth c H1 locs1 cells slots Q (F0 m (pc + 3) ls (.int (rz_ce L xs) :: rest))) : W p l e room_1 s m #[Value.ref b] below meth c H locs cells slots Q (F0 m pc ls (.int (nI 0) :: .ref b :: rest)) := by
  have hXH : va_X b L xs s H := hX.kept (hS.2.1 b hbl hbA)
  refine va_calli (va_runS (As := [.ref b, .int (nI 0)]) (rest := rest) ⟨C.1, C.2.1, C.2.2.2.1, C.2.2.2.2.1, C.2.2.2.2.2.1⟩ (met0_cell l b L H.size xs hL) (va_cwS 2 C.2.2.2.2.2.1 (lw_S q181 q182 q23 q183) rfl rfl rfl (by decide +kernel) ⟨Nat.le_of_ble_eq_true rfl, Nat.le_of_ble_eq_true rfl⟩) ⟨fun a' U g mk q => by obtain ⟨q0, q1, qX⟩ := q; exact ⟨q0, q1, va_X.moved (u := U) (U := U.calling g mk a') (Vm.Alike.refl U.vm) qX⟩, fun U hU hW => ⟨rfl, by rw [hU], by rw [hU]; exact va_X.moved hW.alike hXH⟩⟩ rfl rfl hsz rfl (lv_room hroom) hdg hf) hS (fun q h1 h2 => absurd h1 (Nat.not_lt.mpr h2)) (fun q h => hA q (Nat.le_trans hS.1 h)) (fun r u t H1 locs1 ht hvm hw hB hz hk hS => ?_)
  subst hw
  exact kk H1 locs1 (hP.kept (fun k x hx => hk x.1 ((hP k x hx).lt) (Nat.not_le.mpr ((hP k x hx).lt)))) hS
theorem rz_def1 : ∀ j, j < 14 → defaultValue (tyX1 j) = vp_V [.int 0, .int 0, .int 0, .null, .null, .null, .int 0, .null, .int 0, .null, .null, .int 0, .null, .null] j := by
  intro j hj
  rcases (show j = 0 ∨ j = 1 ∨ j = 2 ∨ j = 3 ∨ j = 4 ∨ j = 5 ∨ j = 6 ∨ j = 7 ∨ j = 8 ∨ j = 9 ∨ j = 10 ∨ j = 11 ∨ j = 12 ∨ j = 13 by omega) with rfl | rfl | rfl | rfl | rfl | rfl | rfl | rfl | rfl | rfl | rfl | rfl | rfl | rfl <;> rfl
theorem rz_def2 : ∀ j, j < 6 → defaultValue (tyX2 j) = vp_V [.int 0, .int 0, .int 0, .null, .null, .null] j := by
  intro j hj
  rcases (show j = 0 ∨ j = 1 ∨ j = 2 ∨ j = 3 ∨ j = 4 ∨ j = 5 by omega) with rfl | rfl | rfl | rfl | rfl | rfl <;> rfl
set_option maxHeartbeats 4000000 in
/-- THE LAW, from its entry -/
theorem whole_start {p : Program} {e : Env} {s : State} {m : MethodId} {below : List Frame} {meth : Method} {c : Code} (l : Launch) {b L : Nat} {xs : Nat → Int32} (hL : L ≤ 193) (C0 : lw_At p s m meth c b L xs) : W p l e room_1 s m #[Value.ref b] below meth c s.heap [] 0 0 (lw_Z below #[Value.ref b] s) (entryFrame m ([Value.ref b] : List Value).toArray 4) := by
  obtain ⟨hx, hb, hr, hml, hown, hts0, hX, hbl, hlocks, hgv⟩ := id C0
  have hown : s.vm.findClass RX0 = some m.cls := hown
  have hb : c.code = cL_law := hb
  have hts : ∀ w ∈ lw_all, w.before #[Value.ref b] s = true := fun w h => hts0 w (lw_all_tbl h)
  have C : wk_C p s m meth c #[Value.ref b] RX0 cL_law 4 ret := ⟨hx, hb, hr, hml, hown, hts, hlocks⟩
  obtain ⟨A, eA⟩ : ∃ A : Nat → Prop, A = fun q => s.heap.size ≤ q := ⟨_, rfl⟩
  have hA : ∀ q, s.heap.size ≤ q → A q := fun q h => by rw [eA]; exact h
  have hA0 : ∀ q, A q → s.heap.size ≤ q := fun q h => by rw [eA] at h; exact h
  have hbA : ¬ A b := fun h => absurd (hA0 b h) (Nat.not_le.mpr hbl)
  obtain ⟨c1, iS1, hKn1⟩ := u_known (C := RX1) (T := TX1) (N := 14) (n := 14) hts in_X1 (hts _ q27)
  obtain ⟨c2, iS2, hKn2⟩ := u_known (C := RX2) (T := TX2) (N := 6) (n := 6) hts in_X2 (hts _ q185)
  obtain ⟨D, hKD⟩ : ∃ D : va_G, ∀ (k : Nat) (q : vw_C), vwCl[k]? = some q → u_Kn s q.1 q.2.1 q.2.2 (D.1 k) (D.2 k) := by
    refine ⟨(fun k => if k = 0 then c1 else c2, fun k => if k = 0 then iS1 else iS2), ?_⟩
    intro k q hq
    match k, hq with
    | 0, hq => cases hq; exact hKn1
    | 1, hq => cases hq; exact hKn2
    | k + 2, hq => simp [vwCl] at hq
  have hS : va_S A s.heap s.heap [] := va_S.rf
  have hK : va_K D vwCl [] s := ⟨hKD, fun k q h => by simp at h⟩
  have hP : va_P D vwCl [] s.heap := fun k q h => by simp at h
  have hD : va_D A [] := ⟨fun i j p q h => by simp at h, fun k q h => by simp at h⟩
  have hl := lv_entry ([.ref b]) (n := 4) (Nat.le_of_ble_eq_true rfl)
  rw [lg_entry_eq]
  generalize (lg_sl ([.ref b]) ++ List.replicate (4 - (lg_sl ([.ref b])).length) Slot.unset).toArray = ls at hl ⊢
  have hl : lv_has ls 4 [(0, .ref b)] := hl
  obtain ⟨x, ex⟩ : ∃ x, x = rz_ce L xs := ⟨_, rfl⟩
  refine va_new (ci := 0) (fs := [.int 0, .int 0, .int 0, .null, .null, .null, .int 0, .null, .int 0, .null, .null, .int 0, .null, .null]) (C := RX1) (T := TX1) (N := 14) hx hb hts in_X1 tyX1 tyX1_ok hown (hts _ q26) (hts _ q27) (hts _ q24) hK hP hD hS hA rfl rz_def1 (Nat.le_of_ble_eq_true rfl) (Nat.le_of_ble_eq_true rfl) dL_law_0 (fun q0 H hP hD hS => ?_)
  have hP : va_P D vwCl [(q0, .inr (0, [.int 0, .int 0, .int 0, .null, .null, .null, .int 0, .null, .int 0, .null, .null, .int 0, .null, .null]))] H := hP
  have hD : va_D A [(q0, .inr (0, [.int 0, .int 0, .int 0, .null, .null, .null, .int 0, .null, .int 0, .null, .null, .int 0, .null, .null]))] := hD
  refine W.widen (k := 1) (n := 14) (Nat.le_of_ble_eq_true rfl) (Nat.le_of_ble_eq_true rfl) ?_
  refine lv_dup hx hb dL_law_3 rfl ?_
  refine lv_aload_n hx hb dL_law_4 rfl (lv_at hl 0 rfl) ?_
  refine lv_iconst (v := nI 0) hx hb dL_law_5 (by decide +kernel) ?_
  refine lw_cell C hL hX hbl hbA hA hP hS hl.1 (Nat.le_of_ble_eq_true rfl) dL_law_6 ⟨Nat.le_of_ble_eq_true rfl, Nat.le_of_ble_eq_true rfl⟩ (fun H locs hP hS => ?_)
  rw [← ex]
  have hPc := hP
  have hDc := hD
  have hKc := hK
  have hFc := va_free (wc := [(q0, .inr (0, [.int 0, .int 0, .int 0, .null, .null, .null, .int 0, .null, .int 0, .null, .null, .int 0, .null, .null]))]) hD hS hA [0] rfl
  refine va_callv (va_runI (As := [.int x]) (rest := [.ref q0]) ⟨hx, hb, hml, hown, hts⟩ (met1_init l D q0 H.size x) (cwI 1 hts (lw_meth q30) rfl rfl rfl (hts _ q24) (hts _ q28) (hts _ q29) rfl (by decide +kernel) ⟨Nat.le_of_ble_eq_true rfl, Nat.le_of_ble_eq_true rfl⟩) ⟨fun a' U g mk q => by obtain ⟨q0, q1, qP, qK, qD⟩ := q; exact ⟨q0, q1, qP, va_K.moved (u := U) (U := U.calling g mk a') (Vm.Alike.refl U.vm) qK, qD⟩, fun U hU hW => ⟨rfl, by rw [hU], by rw [hU]; exact hPc, va_K.moved hW.alike hKc, hDc.weaken (fun _ _ _ _ => trivial)⟩⟩ rfl rfl hl.1 rfl (lv_room (Nat.le_of_ble_eq_true rfl)) dL_law_9 ⟨Nat.le_of_ble_eq_true rfl, Nat.le_of_ble_eq_true rfl⟩) hS (fun q _ h => hFc q h) hFc (fun uu t H1 locs ht hvm hw hB hz hk hS => ?_)
  obtain ⟨ad, cA⟩ := uu
  obtain ⟨hP1, hK1, hD1⟩ := hB
  rw [ht] at hP1
  have hK1 : va_K D vwCl (tX cA) s := va_K.moved hvm.symm hK1
  have hw : ad 0 = q0 := hw
  subst hw
  obtain ⟨hP, hD⟩ := va_join (wr := []) (w1 := wXu ad cA (rz_nn x) rz_u0) hP hD [0] [] rfl rfl (by decide) (by decide) hk hFc hP1 hD1
  generalize H1 = H at hP hS ⊢
  have hP : va_P D vwCl (wXu ad cA (rz_nn x) rz_u0) H := hP
  have hD : va_D A (wXu ad cA (rz_nn x) rz_u0) := hD
  have hK := hK1
  refine W.widen (k := 9) (n := 1019) (Nat.le_of_ble_eq_true rfl) (Nat.le_of_ble_eq_true rfl) ?_
  refine lv_astore_n (lv' := [(1, .ref (ad 0)), (0, .ref b)]) hx hb dL_law_12 rfl hl (by decide) rfl (fun ls hl => ?_)
  refine va_new (ci := 1) (fs := [.int 0, .int 0, .int 0, .null, .null, .null]) (C := RX2) (T := TX2) (N := 6) hx hb hts in_X2 tyX2 tyX2_ok hown (hts _ q184) (hts _ q185) (hts _ q25) hK hP hD hS hA rfl rz_def2 (Nat.le_of_ble_eq_true rfl) (Nat.le_of_ble_eq_true rfl) dL_law_13 (fun q1 H hP hD hS => ?_)
  refine W.widen (k := 10) (n := 1025) (Nat.le_of_ble_eq_true rfl) (Nat.le_of_ble_eq_true rfl) ?_
  refine lv_dup hx hb dL_law_16 rfl ?_
  refine lv_aload_n hx hb dL_law_17 rfl (lv_at hl 1 rfl) ?_
  refine lv_iconst (v := nI 0) hx hb dL_law_18 (by decide +kernel) ?_
  refine lw_cell C hL hX hbl hbA hA hP hS hl.1 (Nat.le_of_ble_eq_true rfl) dL_law_19 ⟨Nat.le_of_ble_eq_true rfl, Nat.le_of_ble_eq_true rfl⟩ (fun H locs hP hS => ?_)
  rw [← ex]
  have hPc := hP.sub (ws' := [(q1, .inr (1, [.int 0, .int 0, .int 0, .null, .null, .null]))]) [9] rfl
  have hDc := hD.sub (ws' := [(q1, .inr (1, [.int 0, .int 0, .int 0, .null, .null, .null]))]) [9] (by decide) rfl
  have hKc := hK.sub (tys' := []) [] rfl
  have hFc := va_free (wc := [(q1, .inr (1, [.int 0, .int 0, .int 0, .null, .null, .null]))]) hD hS hA [9] rfl
  refine va_callv (va_runI (As := [.int x]) (rest := [.ref q1]) ⟨hx, hb, hml, hown, hts⟩ (met2_init l D q1 H.size x) (cwI 1 hts (lw_meth q188) rfl rfl rfl (hts _ q25) (hts _ q186) (hts _ q187) rfl (by decide +kernel) ⟨Nat.le_of_ble_eq_true rfl, Nat.le_of_ble_eq_true rfl⟩) ⟨fun a' U g mk q => by obtain ⟨q0, q1, qP, qK, qD⟩ := q; exact ⟨q0, q1, qP, va_K.moved (u := U) (U := U.calling g mk a') (Vm.Alike.refl U.vm) qK, qD⟩, fun U hU hW => ⟨rfl, by rw [hU], by rw [hU]; exact hPc, va_K.moved hW.alike hKc, hDc.weaken (fun _ _ _ _ => trivial)⟩⟩ rfl rfl hl.1 rfl (lv_room (Nat.le_of_ble_eq_true rfl)) dL_law_22 ⟨Nat.le_of_ble_eq_true rfl, Nat.le_of_ble_eq_true rfl⟩) hS (fun q _ h => hFc q h) hFc (fun uu t H1 locs ht hvm hw hB hz hk hS => ?_)
  obtain ⟨ad2, cA2⟩ := uu
  obtain ⟨hP1, hK1, hD1⟩ := hB
  rw [ht] at hP1
  have hK1 : va_K D vwCl (tY cA2) s := va_K.moved hvm.symm hK1
  have hw : ad2 0 = q1 := hw
  subst hw
  obtain ⟨hP, hD⟩ := va_join (wr := wXu ad cA (rz_nn x) rz_u0) (w1 := wYu ad2 cA2 (rz_nn x) rz_v0) hP hD [9] [0, 1, 2, 3, 4, 5, 6, 7, 8] rfl rfl (by decide) (by decide) hk hFc hP1 hD1
  refine W.widen (k := 13) (n := 1312) (Nat.le_of_ble_eq_true rfl) (Nat.le_of_ble_eq_true rfl) ?_
  refine lv_astore_n (lv' := [(2, .ref (ad2 0)), (1, .ref (ad 0)), (0, .ref b)]) hx hb dL_law_25 rfl hl (by decide) rfl (fun ls hl => ?_)
  refine lv_iconst (v := nI 1) hx hb dL_law_26 (by decide +kernel) ?_
  refine lv_istore_n (lv' := [(3, .int (nI 1)), (2, .ref (ad2 0)), (1, .ref (ad 0)), (0, .ref b)]) hx hb dL_law_27 rfl hl (by decide) rfl (fun ls hl => ?_)
  have hnb := rz_nn_b x
  exact law_loop C hX hbl hA0 hL hnb.1 hnb.2 (L + 1) 1 (by omega) (by omega) rz_u0 rz_v0 _ _ _ (rz_rel_0 hnb.2) ⟨hK.app hK1, hP, hD, hS, hA⟩ (lv_sub hl [3, 2, 1, 0] rfl)
end
end
section
section
set_option maxRecDepth 100000
set_option maxHeartbeats 4000000 in
theorem lw_walk (l : Launch) (b : Addr) (xs : List Int32) : MetFree l x (headSpec (Jvm.Cond.code x code maxLocals ret :: tables_1) room_1) (lw_P b xs) (fun _ _ _ _ _ => True) lw_Q := by
  refine MetFree.of_bodyS (code := code) (maxLocals := maxLocals) (ret := ret) (by decide) ?_ ?_
  · intro args s m h hn
    obtain ⟨meth, c, h1, h2, h3, h4, h5, h6, -, -⟩ := Cond.code_spec hn (atoms_spec (ws := Jvm.Cond.code x code maxLocals ret :: tables_1) h _ List.mem_cons_self)
    exact ⟨meth, c, h1, h2, h3, h4, h5, h6⟩
  · intro p e s m args below meth c s₁ B hml0 hP _
    obtain ⟨rfl, hx, hbd, hgv⟩ := hP
    obtain ⟨scr, harrAt, hlist, hof, hsmall⟩ := hx
    obtain ⟨hcb, hkn, -, -⟩ := State.arrayAt?_spec harrAt
    have hown : s.vm.findClass R_law = some m.cls := findClass_of_methodNamed B.named
    have hts0 : ∀ c ∈ (Jvm.Cond.code x code maxLocals ret :: tables_1), c.before #[Value.ref b] s = true := atoms_spec (ws := Jvm.Cond.code x code maxLocals ret :: tables_1) B.pre
    have hts : ∀ w ∈ lw_tbl, w.before #[Value.ref b] s = true := k2_hts_sels lw_privs (fun w hw => hts0 w (List.mem_cons_of_mem _ hw)) lw_privs_ok
    have hml : c.maxLocals = 4 := B.maxLocals_eq (hts0 _ List.mem_cons_self)
    have X₀ : Stand p l e room_1 s m #[Value.ref b] below meth c s₁ [] 0 0 := Stand.of_body B
    have hh0 : s₁.heap = s.heap := by rw [B.state]; rfl
    have hsz : scr.slots.size = xs.length := by rw [← Array.length_toList, hlist, List.length_map]
    have hval : ∀ j : Nat, j < xs.length → scr.slots[j]? = some (.int (xs.getD j 0)) := fun j hj => by
      rw [← Array.getElem?_toList, hlist]
      simp [hj]
    have hbl : b < s.heap.size := (Array.getElem?_eq_some_iff.mp hcb).1
    have hX : va_X b xs.length (fun j => xs.getD j 0) s s.heap := ⟨scr, hcb, hof, hkn, hsz, hval⟩
    have K : W p l e room_1 s m #[Value.ref b] below meth c s₁.heap [] 0 0 (lw_Z below #[Value.ref b] s) (entryFrame m ([Value.ref b] : List Value).toArray 4) := by
      rw [hh0]
      exact whole_start l hbd ⟨B.exec, B.bytes, B.returns, hml, hown, hts, hX, hbl, B.notSynchronized, hgv⟩
    obtain ⟨t, a1, o, b1, b2, b3⟩ := K s₁ rfl X₀
    exact ⟨t, o, a1, b1, b2, b3⟩
theorem lw_pre_spec {args : Array Value} {s : State} (h : (Jvm.Cond.and given_1 narrow_1).before args s = true) (hr : rest_1_c.before args s = true) : ∃ (b : Addr) (xs : List Int32), lw_P b xs args s := by
  have hs := flat_of_before _ h
  have hq := flat_of_before _ hr
  have hc : (Cond.count 1).before args s = true := hs _ (by decide +kernel)
  have harr : (Cond.arrayOf (.arg 0) .int).before args s = true := hs _ (by decide +kernel)
  have hle : (Cond.le (.length (.arg 0)) (.int 193)).before args s = true := hs _ (by decide +kernel)
  have hlen : (Cond.isInt (.length (.arg 0))).before args s = true := hq _ (by decide +kernel)
  have hall : (Cond.all (.arg 0) (.isInt (.elem (.arg 0) (.index 0)))).before args s = true := hq _ (by decide +kernel)
  obtain ⟨b, xs, hb, hx⟩ := State.ints_of_pre rfl harr hlen hall
  have hsm : xs.length < 2 ^ 31 := hx.choose_spec.2.2.2
  have hev : (Term.length (.arg 0)).eval args s none [] s = some (.int xs.length.toInt32) := hx.length_eval hb
  have hv := Cond.le_ints hev (show (Term.int 193).eval args s none [] s = some (.int 193) from rfl)
  have hd : xs.length.toInt32 ≤ 193 := by
    simpa [Cond.before, Cond.holds, hv] using hle
  have hN : xs.length ≤ 193 := (Int32.ofNat_le_ofNat hsm (by decide)).mp (show Int32.ofNat xs.length ≤ Int32.ofNat 193 from hd)
  exact ⟨b, xs, Cond.one_arg hc (show args[0]? = some (.ref b) from hb), hx, hN, h⟩
theorem lw_comes (l : Launch) : Comes l x (Jvm.Cond.code x code maxLocals ret :: tables_1) room_1 (fun tb e args s => Calls_1 tb e args s ∧ rest_1 tb e args s ∧ Pre_1 tb e args s)
    (fun _ _ args s o t => lw_Q args s o t) := by
  intro p e ha hc hk s m args below hf hfit hheap happ hpre
  obtain ⟨b, xs, hP⟩ := lw_pre_spec hpre.2.2 hpre.2.1
  obtain ⟨k, o, h1, h2, h3, hQ⟩ := lw_walk l b xs p e ha hc hk s m args below hf ((Spec.applies_iff_loose hf).mp happ).1 hP trivial
  exact ⟨k, o, h1, h2, h3, hQ⟩
theorem lw_frame {s t : State} {o : Outcome} {args : Array Value} (h : Framed s o t [] 600000 7290000) :
    Framed s o t (fieldLocs frame_1_writes args s ++ arrayLocs frame_1_arrays args s ++ staticLocs frame_1_statics s) 600000 7290000 := h
theorem lw_limb (L : Cond) (hL : ∀ (args : Array Value) (s t : State), L.after args s (.returned (some (.int 1))) t = true) :
    ArmFor flags0 classFile x code maxLocals ret World_1 tables_1 room_1 Calls_1 rest_1 Pre_1
      (fun tb e a s o t => postC L tb e a s o t ∧ Framed s o t (fieldLocs frame_1_writes a s ++ arrayLocs frame_1_arrays a s ++ staticLocs frame_1_statics s) 600000 7290000) := by
  intro l _ _ _ p e ha hc hk s m args below hf hfit hheap happ hpre
  obtain ⟨k, o, h1, h2, h3, rfl, hF⟩ := lw_comes l p e ha hc hk s m args below hf hfit hheap happ hpre
  exact ⟨k, _, h1, h2, h3, hL args s _, lw_frame hF⟩
theorem i_vc : Claimed_1_1 ∧ Claimed_1_2 := ⟨lw_limb limb_1_1 (fun args s t => by simp [limb_1_1, Cond.after, Cond.holds, Cond.value]), lw_limb limb_1_2 (fun args s t => Cond.after_iff.mpr (by
  first | (rw [show limb_1_2 = Cond.eq .result (.int 1) from rfl, Cond.eq_ints (x := 1) (y := 1) rfl rfl]; simp; done) | (simp [limb_1_2, Cond.value, Term.eval]; done)))⟩

end
end
