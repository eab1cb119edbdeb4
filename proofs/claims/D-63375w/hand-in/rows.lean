section
-- ===== PART A: goes FIRST, ahead of the names: the tables' words, and 'selects' of the private methods out of them =====
/-- a private method of a class that the tables say can be made, by its rows of tables_1 -/
def lw_okq (q : MethodName × Nat) : Prop := (q.1.cls ≠ "java/lang/invoke/MethodHandle" ∧ q.1.cls ≠ "java/lang/invoke/VarHandle") ∧ Cond.instantiable q.1.cls q.2 ∈ tables_1 ∧ Cond.privateMethod q.1 ∈ tables_1 ∧ Cond.instanceMethod q.1 ∈ tables_1
set_option maxRecDepth 100000
theorem lw_t1 {w : Cond} (h : w ∈ tables_1_1) : w ∈ tables_1 := List.mem_append_left _ h
theorem lw_t2 {w : Cond} (h : w ∈ tables_1_2) : w ∈ tables_1 := List.mem_append_right _ h
theorem lw_p0 : lw_okq (⟨"WeightedNetwork", "freeAll", "()V"⟩, 16) := ⟨⟨by decide +kernel, by decide +kernel⟩, lw_t1 (List.mem_of_getElem? (i := 4) rfl), lw_t1 (List.mem_of_getElem? (i := 88) rfl), lw_t1 (List.mem_of_getElem? (i := 89) rfl)⟩
theorem lw_p1 : lw_okq (⟨"WeightedNetwork", "leastCost", "()I"⟩, 16) := ⟨⟨by decide +kernel, by decide +kernel⟩, lw_t1 (List.mem_of_getElem? (i := 4) rfl), lw_t1 (List.mem_of_getElem? (i := 92) rfl), lw_t1 (List.mem_of_getElem? (i := 93) rfl)⟩
theorem lw_p2 : lw_okq (⟨"WeightedNetwork", "search", "(IZ)V"⟩, 16) := ⟨⟨by decide +kernel, by decide +kernel⟩, lw_t1 (List.mem_of_getElem? (i := 4) rfl), lw_t1 (List.mem_of_getElem? (i := 97) rfl), lw_t1 (List.mem_of_getElem? (i := 98) rfl)⟩
theorem lw_p3 : lw_okq (⟨"WeightedNetwork", "prepare", "()V"⟩, 16) := ⟨⟨by decide +kernel, by decide +kernel⟩, lw_t1 (List.mem_of_getElem? (i := 4) rfl), lw_t1 (List.mem_of_getElem? (i := 101) rfl), lw_t1 (List.mem_of_getElem? (i := 102) rfl)⟩
theorem lw_p4 : lw_okq (⟨"WeightedNetwork", "moveToValue", "(IIZ)V"⟩, 16) := ⟨⟨by decide +kernel, by decide +kernel⟩, lw_t1 (List.mem_of_getElem? (i := 4) rfl), lw_t1 (List.mem_of_getElem? (i := 109) rfl), lw_t1 (List.mem_of_getElem? (i := 110) rfl)⟩
theorem lw_p5 : lw_okq (⟨"WeightedNetwork", "moveToFloor", "(I)V"⟩, 16) := ⟨⟨by decide +kernel, by decide +kernel⟩, lw_t1 (List.mem_of_getElem? (i := 4) rfl), lw_t1 (List.mem_of_getElem? (i := 123) rfl), lw_t1 (List.mem_of_getElem? (i := 124) rfl)⟩
theorem lw_p6 : lw_okq (⟨"WeightedNetwork", "open", "(I)V"⟩, 16) := ⟨⟨by decide +kernel, by decide +kernel⟩, lw_t1 (List.mem_of_getElem? (i := 4) rfl), lw_t1 (List.mem_of_getElem? (i := 127) rfl), lw_t1 (List.mem_of_getElem? (i := 128) rfl)⟩
theorem lw_p7 : lw_okq (⟨"WeightedNetwork", "lastValue", "(I)I"⟩, 16) := ⟨⟨by decide +kernel, by decide +kernel⟩, lw_t1 (List.mem_of_getElem? (i := 4) rfl), lw_t1 (List.mem_of_getElem? (i := 131) rfl), lw_t1 (List.mem_of_getElem? (i := 132) rfl)⟩
theorem lw_p8 : lw_okq (⟨"WeightedNetwork", "withTaken", "(III)I"⟩, 16) := ⟨⟨by decide +kernel, by decide +kernel⟩, lw_t1 (List.mem_of_getElem? (i := 4) rfl), lw_t1 (List.mem_of_getElem? (i := 135) rfl), lw_t1 (List.mem_of_getElem? (i := 136) rfl)⟩
theorem lw_p9 : lw_okq (⟨"WeightedNetwork", "descend", "(II)I"⟩, 16) := ⟨⟨by decide +kernel, by decide +kernel⟩, lw_t1 (List.mem_of_getElem? (i := 4) rfl), lw_t1 (List.mem_of_getElem? (i := 139) rfl), lw_t1 (List.mem_of_getElem? (i := 140) rfl)⟩
theorem lw_p10 : lw_okq (⟨"WeightedNetwork", "ahead", "(I)I"⟩, 16) := ⟨⟨by decide +kernel, by decide +kernel⟩, lw_t1 (List.mem_of_getElem? (i := 4) rfl), lw_t1 (List.mem_of_getElem? (i := 143) rfl), lw_t1 (List.mem_of_getElem? (i := 144) rfl)⟩
theorem lw_p11 : lw_okq (⟨"WeightedNetwork", "take", "(I)V"⟩, 16) := ⟨⟨by decide +kernel, by decide +kernel⟩, lw_t1 (List.mem_of_getElem? (i := 4) rfl), lw_t1 (List.mem_of_getElem? (i := 147) rfl), lw_t1 (List.mem_of_getElem? (i := 148) rfl)⟩
theorem lw_p12 : lw_okq (⟨"WeightedNetwork", "countUpTo", "(I)I"⟩, 16) := ⟨⟨by decide +kernel, by decide +kernel⟩, lw_t1 (List.mem_of_getElem? (i := 4) rfl), lw_t1 (List.mem_of_getElem? (i := 163) rfl), lw_t1 (List.mem_of_getElem? (i := 164) rfl)⟩
theorem lw_p13 : lw_okq (⟨"WeightedNetworkModel", "isVariable", "(I)Z"⟩, 7) := ⟨⟨by decide +kernel, by decide +kernel⟩, lw_t1 (List.mem_of_getElem? (i := 179) rfl), lw_t1 (List.mem_of_getElem? (i := 211) rfl), lw_t1 (List.mem_of_getElem? (i := 212) rfl)⟩
theorem lw_p14 : lw_okq (⟨"WeightedNetworkModel", "first", "()I"⟩, 7) := ⟨⟨by decide +kernel, by decide +kernel⟩, lw_t1 (List.mem_of_getElem? (i := 179) rfl), lw_t1 (List.mem_of_getElem? (i := 231) rfl), lw_t1 (List.mem_of_getElem? (i := 232) rfl)⟩
theorem lw_p15 : lw_okq (⟨"WeightedNetworkModel", "work", "()V"⟩, 7) := ⟨⟨by decide +kernel, by decide +kernel⟩, lw_t1 (List.mem_of_getElem? (i := 179) rfl), lw_t1 (List.mem_of_getElem? (i := 235) rfl), lw_t1 (List.mem_of_getElem? (i := 236) rfl)⟩
def lw_privs_1 : List (MethodName × Nat) := [(⟨"WeightedNetwork", "freeAll", "()V"⟩, 16), (⟨"WeightedNetwork", "leastCost", "()I"⟩, 16), (⟨"WeightedNetwork", "search", "(IZ)V"⟩, 16), (⟨"WeightedNetwork", "prepare", "()V"⟩, 16), (⟨"WeightedNetwork", "moveToValue", "(IIZ)V"⟩, 16), (⟨"WeightedNetwork", "moveToFloor", "(I)V"⟩, 16), (⟨"WeightedNetwork", "open", "(I)V"⟩, 16), (⟨"WeightedNetwork", "lastValue", "(I)I"⟩, 16), (⟨"WeightedNetwork", "withTaken", "(III)I"⟩, 16), (⟨"WeightedNetwork", "descend", "(II)I"⟩, 16), (⟨"WeightedNetwork", "ahead", "(I)I"⟩, 16), (⟨"WeightedNetwork", "take", "(I)V"⟩, 16), (⟨"WeightedNetwork", "countUpTo", "(I)I"⟩, 16), (⟨"WeightedNetworkModel", "isVariable", "(I)Z"⟩, 7), (⟨"WeightedNetworkModel", "first", "()I"⟩, 7), (⟨"WeightedNetworkModel", "work", "()V"⟩, 7)]
theorem lw_r1 : ∀ q ∈ lw_privs_1, lw_okq q := List.forall_mem_cons.mpr ⟨lw_p0, List.forall_mem_cons.mpr ⟨lw_p1, List.forall_mem_cons.mpr ⟨lw_p2, List.forall_mem_cons.mpr ⟨lw_p3, List.forall_mem_cons.mpr ⟨lw_p4, List.forall_mem_cons.mpr ⟨lw_p5, List.forall_mem_cons.mpr ⟨lw_p6, List.forall_mem_cons.mpr ⟨lw_p7, List.forall_mem_cons.mpr ⟨lw_p8, List.forall_mem_cons.mpr ⟨lw_p9, List.forall_mem_cons.mpr ⟨lw_p10, List.forall_mem_cons.mpr ⟨lw_p11, List.forall_mem_cons.mpr ⟨lw_p12, List.forall_mem_cons.mpr ⟨lw_p13, List.forall_mem_cons.mpr ⟨lw_p14, List.forall_mem_cons.mpr ⟨lw_p15, fun _ h => absurd h List.not_mem_nil⟩⟩⟩⟩⟩⟩⟩⟩⟩⟩⟩⟩⟩⟩⟩⟩
theorem lw_p16 : lw_okq (⟨"WeightedNetworkModel", "totalOf", "(I)I"⟩, 7) := ⟨⟨by decide +kernel, by decide +kernel⟩, lw_t1 (List.mem_of_getElem? (i := 179) rfl), lw_t1 (List.mem_of_getElem? (i := 239) rfl), lw_t2 (List.mem_of_getElem? (i := 0) rfl)⟩
theorem lw_p17 : lw_okq (⟨"WeightedNetworkModel", "valueIn", "(II)I"⟩, 7) := ⟨⟨by decide +kernel, by decide +kernel⟩, lw_t1 (List.mem_of_getElem? (i := 179) rfl), lw_t2 (List.mem_of_getElem? (i := 3) rfl), lw_t2 (List.mem_of_getElem? (i := 4) rfl)⟩
def lw_privs_2 : List (MethodName × Nat) := [(⟨"WeightedNetworkModel", "totalOf", "(I)I"⟩, 7), (⟨"WeightedNetworkModel", "valueIn", "(II)I"⟩, 7)]
theorem lw_r2 : ∀ q ∈ lw_privs_2, lw_okq q := List.forall_mem_cons.mpr ⟨lw_p16, List.forall_mem_cons.mpr ⟨lw_p17, fun _ h => absurd h List.not_mem_nil⟩⟩
def lw_privs : List (MethodName × Nat) := lw_privs_1 ++ (lw_privs_2)
def lw_tbl : List Cond := k2_sels lw_privs ++ tables_1
theorem lw_privs_ok : ∀ q ∈ lw_privs, lw_okq q := by
  show ∀ q ∈ lw_privs_1 ++ (lw_privs_2), lw_okq q
  exact List.forall_mem_append.mpr ⟨lw_r1, lw_r2⟩
-- ===== ONE list of words for every method: the tables' words that hold all through a run =====
def lw_all : List Cond := lw_tbl.filter goodWord
/-- a word of the tables by its place: claim/WORDS.tsv -/
theorem lw_w {w : Cond} (i : Nat) (h : lw_tbl[i]? = some w) (g : goodWord w = true) : w ∈ lw_all := List.mem_filter.mpr ⟨List.mem_of_getElem? h, g⟩
theorem lw_all_tbl {w : Cond} (h : w ∈ lw_all) : w ∈ lw_tbl := (List.mem_filter.mp h).1
theorem lw_self : GoodIn lw_all lw_all := fun w h => ⟨h, good_of_word (List.mem_filter.mp h).2⟩
/-- a class's field words, by their places -/
theorem lw_in (ws : List Cond) (ps : List Nat) (hp : ws = ps.filterMap (fun i => lw_tbl[i]?)) (hg : ws.all goodWord = true) : ∀ w ∈ ws, w ∈ lw_all := by
  intro w h
  have h1 := List.all_eq_true.mp hg w h
  rw [hp] at h
  obtain ⟨i, -, hi⟩ := List.mem_filterMap.mp h
  exact lw_w i hi h1
/-- the words of a contract for the method y with code b, L locals, answer r -/
abbrev ws_ (y : MethodName) (b : ByteArray) (L : Nat) (r : Option FieldType) : List Cond := Cond.code y b L r :: lw_all
theorem lw_meth {y : MethodName} {b : ByteArray} {L : Nat} {r : Option FieldType} (h : Cond.code y b L r ∈ lw_all) : GoodIn lw_all (ws_ y b L r) := by
  intro w hw
  rcases List.mem_cons.mp hw with e | e
  · rw [e]
    exact lw_self _ h
  · exact lw_self _ e
theorem lw_app {a c : List Cond} (ha : ∀ w ∈ a, w ∈ lw_all) (hc : GoodIn lw_all c) : GoodIn lw_all (a ++ c) := by
  intro w hw
  rcases List.mem_append.mp hw with e | e
  · exact lw_self w (ha w e)
  · exact hc w e
/-- what a call through an object asks: cwV n hts (lw_V ..) -/
theorem lw_V {own : String} {idx : Nat} {C : String} {y : MethodName} {b : ByteArray} {L : Nat} {r : Option FieldType} (h1 : Cond.methodLink own idx y ∈ lw_all) (h2 : Cond.instanceMethod y ∈ lw_all) (h3 : Cond.selects C y y ∈ lw_all) (h4 : Cond.initialized C ∈ lw_all) (h5 : Cond.code y b L r ∈ lw_all) : GoodIn lw_all (wsV own idx C y (ws_ y b L r)) := by
  refine lw_app ?_ (lw_meth h5)
  intro w hw
  simp only [List.mem_cons, List.not_mem_nil, or_false] at hw
  rcases hw with e | e | e | e
  · rw [e]; exact h1
  · rw [e]; exact h2
  · rw [e]; exact h3
  · rw [e]; exact h4
/-- what a static call asks: va_cwS n hts (lw_S ..) -/
theorem lw_S {own : String} {idx : Nat} {y : MethodName} {b : ByteArray} {L : Nat} {r : Option FieldType} (h1 : Cond.methodLink own idx y ∈ lw_all) (h2 : Cond.static y ∈ lw_all) (h3 : Cond.initialized y.cls ∈ lw_all) (h4 : Cond.code y b L r ∈ lw_all) : GoodIn lw_all (va_wsS own idx y (ws_ y b L r)) := by
  refine lw_app ?_ (lw_meth h4)
  intro w hw
  simp only [List.mem_cons, List.not_mem_nil, or_false] at hw
  rcases hw with e | e | e
  · rw [e]; exact h1
  · rw [e]; exact h2
  · rw [e]; exact h3
/-- the words of a contract for a method WITH HANDLERS (hh: its table) -/
abbrev wsW_ (y : MethodName) (b : ByteArray) (L : Nat) (r : Option FieldType) (hh : List (Nat × Nat × Nat × Nat)) : List Cond := Cond.codeWith y b L r hh :: lw_all
theorem lw_methW {y : MethodName} {b : ByteArray} {L : Nat} {r : Option FieldType} {hh : List (Nat × Nat × Nat × Nat)} (h : Cond.codeWith y b L r hh ∈ lw_all) : GoodIn lw_all (wsW_ y b L r hh) := by
  intro w hw
  rcases List.mem_cons.mp hw with e | e
  · rw [e]
    exact lw_self _ h
  · exact lw_self _ e
/-- any list of words by their places (lw_in), good -/
theorem lw_good {ws : List Cond} (h : ∀ w ∈ ws, w ∈ lw_all) : GoodIn lw_all ws := fun w hw => lw_self w (h w hw)
/-- what a call of a method with handlers asks: vx_cwVW n hts (lw_VW ..), vx_cwSW n hts (lw_SW ..) -/
theorem lw_VW {own : String} {idx : Nat} {C : String} {y : MethodName} {b : ByteArray} {L : Nat} {r : Option FieldType} {hh : List (Nat × Nat × Nat × Nat)} (h1 : Cond.methodLink own idx y ∈ lw_all) (h2 : Cond.instanceMethod y ∈ lw_all) (h3 : Cond.selects C y y ∈ lw_all) (h4 : Cond.initialized C ∈ lw_all) (h5 : Cond.codeWith y b L r hh ∈ lw_all) : GoodIn lw_all (wsV own idx C y (wsW_ y b L r hh)) := by
  refine lw_app ?_ (lw_methW h5)
  intro w hw
  simp only [List.mem_cons, List.not_mem_nil, or_false] at hw
  rcases hw with e | e | e | e
  · rw [e]; exact h1
  · rw [e]; exact h2
  · rw [e]; exact h3
  · rw [e]; exact h4
theorem lw_SW {own : String} {idx : Nat} {y : MethodName} {b : ByteArray} {L : Nat} {r : Option FieldType} {hh : List (Nat × Nat × Nat × Nat)} (h1 : Cond.methodLink own idx y ∈ lw_all) (h2 : Cond.static y ∈ lw_all) (h3 : Cond.initialized y.cls ∈ lw_all) (h4 : Cond.codeWith y b L r hh ∈ lw_all) : GoodIn lw_all (va_wsS own idx y (wsW_ y b L r hh)) := by
  refine lw_app ?_ (lw_methW h4)
  intro w hw
  simp only [List.mem_cons, List.not_mem_nil, or_false] at hw
  rcases hw with e | e | e
  · rw [e]; exact h1
  · rw [e]; exact h2
  · rw [e]; exact h3
/-- a word by its place in its run of the tables -/
theorem lw_at {r : List Cond} (hr : ∀ w ∈ r, w ∈ lw_tbl) {w : Cond} (i : Nat) (h : r[i]? = some w) : w ∈ lw_tbl := hr w (List.mem_of_getElem? h)
theorem lw_g {w : Cond} (h : w ∈ lw_tbl) (g : goodWord w = true) : w ∈ lw_all := List.mem_filter.mpr ⟨h, g⟩
theorem lw_ms : ∀ w ∈ k2_sels lw_privs, w ∈ lw_tbl := fun w h => show w ∈ k2_sels lw_privs ++ tables_1 from List.mem_append_left _ h
theorem lw_m1 : ∀ w ∈ tables_1_1, w ∈ lw_tbl := fun w h => show w ∈ k2_sels lw_privs ++ tables_1 from List.mem_append_right (k2_sels lw_privs) (show w ∈ tables_1 from List.mem_append_left _ h)
theorem lw_m2 : ∀ w ∈ tables_1_2, w ∈ lw_tbl := fun w h => show w ∈ k2_sels lw_privs ++ tables_1 from List.mem_append_right (k2_sels lw_privs) (show w ∈ tables_1 from List.mem_append_right _ h)
theorem qs0 : (Cond.selects "WeightedNetwork" ⟨"WeightedNetwork", "freeAll", "()V"⟩ ⟨"WeightedNetwork", "freeAll", "()V"⟩) ∈ lw_all := lw_g (lw_at lw_ms 0 rfl) rfl
theorem qs1 : (Cond.selects "WeightedNetwork" ⟨"WeightedNetwork", "leastCost", "()I"⟩ ⟨"WeightedNetwork", "leastCost", "()I"⟩) ∈ lw_all := lw_g (lw_at lw_ms 1 rfl) rfl
theorem qs2 : (Cond.selects "WeightedNetwork" ⟨"WeightedNetwork", "search", "(IZ)V"⟩ ⟨"WeightedNetwork", "search", "(IZ)V"⟩) ∈ lw_all := lw_g (lw_at lw_ms 2 rfl) rfl
theorem qs3 : (Cond.selects "WeightedNetwork" ⟨"WeightedNetwork", "prepare", "()V"⟩ ⟨"WeightedNetwork", "prepare", "()V"⟩) ∈ lw_all := lw_g (lw_at lw_ms 3 rfl) rfl
theorem qs4 : (Cond.selects "WeightedNetwork" ⟨"WeightedNetwork", "moveToValue", "(IIZ)V"⟩ ⟨"WeightedNetwork", "moveToValue", "(IIZ)V"⟩) ∈ lw_all := lw_g (lw_at lw_ms 4 rfl) rfl
theorem qs5 : (Cond.selects "WeightedNetwork" ⟨"WeightedNetwork", "moveToFloor", "(I)V"⟩ ⟨"WeightedNetwork", "moveToFloor", "(I)V"⟩) ∈ lw_all := lw_g (lw_at lw_ms 5 rfl) rfl
theorem qs6 : (Cond.selects "WeightedNetwork" ⟨"WeightedNetwork", "open", "(I)V"⟩ ⟨"WeightedNetwork", "open", "(I)V"⟩) ∈ lw_all := lw_g (lw_at lw_ms 6 rfl) rfl
theorem qs7 : (Cond.selects "WeightedNetwork" ⟨"WeightedNetwork", "lastValue", "(I)I"⟩ ⟨"WeightedNetwork", "lastValue", "(I)I"⟩) ∈ lw_all := lw_g (lw_at lw_ms 7 rfl) rfl
theorem qs8 : (Cond.selects "WeightedNetwork" ⟨"WeightedNetwork", "withTaken", "(III)I"⟩ ⟨"WeightedNetwork", "withTaken", "(III)I"⟩) ∈ lw_all := lw_g (lw_at lw_ms 8 rfl) rfl
theorem qs9 : (Cond.selects "WeightedNetwork" ⟨"WeightedNetwork", "descend", "(II)I"⟩ ⟨"WeightedNetwork", "descend", "(II)I"⟩) ∈ lw_all := lw_g (lw_at lw_ms 9 rfl) rfl
theorem qs10 : (Cond.selects "WeightedNetwork" ⟨"WeightedNetwork", "ahead", "(I)I"⟩ ⟨"WeightedNetwork", "ahead", "(I)I"⟩) ∈ lw_all := lw_g (lw_at lw_ms 10 rfl) rfl
theorem qs11 : (Cond.selects "WeightedNetwork" ⟨"WeightedNetwork", "take", "(I)V"⟩ ⟨"WeightedNetwork", "take", "(I)V"⟩) ∈ lw_all := lw_g (lw_at lw_ms 11 rfl) rfl
theorem qs12 : (Cond.selects "WeightedNetwork" ⟨"WeightedNetwork", "countUpTo", "(I)I"⟩ ⟨"WeightedNetwork", "countUpTo", "(I)I"⟩) ∈ lw_all := lw_g (lw_at lw_ms 12 rfl) rfl
theorem qs13 : (Cond.selects "WeightedNetworkModel" ⟨"WeightedNetworkModel", "isVariable", "(I)Z"⟩ ⟨"WeightedNetworkModel", "isVariable", "(I)Z"⟩) ∈ lw_all := lw_g (lw_at lw_ms 13 rfl) rfl
theorem qs14 : (Cond.selects "WeightedNetworkModel" ⟨"WeightedNetworkModel", "first", "()I"⟩ ⟨"WeightedNetworkModel", "first", "()I"⟩) ∈ lw_all := lw_g (lw_at lw_ms 14 rfl) rfl
theorem qs15 : (Cond.selects "WeightedNetworkModel" ⟨"WeightedNetworkModel", "work", "()V"⟩ ⟨"WeightedNetworkModel", "work", "()V"⟩) ∈ lw_all := lw_g (lw_at lw_ms 15 rfl) rfl
theorem qs16 : (Cond.selects "WeightedNetworkModel" ⟨"WeightedNetworkModel", "totalOf", "(I)I"⟩ ⟨"WeightedNetworkModel", "totalOf", "(I)I"⟩) ∈ lw_all := lw_g (lw_at lw_ms 16 rfl) rfl
theorem qs17 : (Cond.selects "WeightedNetworkModel" ⟨"WeightedNetworkModel", "valueIn", "(II)I"⟩ ⟨"WeightedNetworkModel", "valueIn", "(II)I"⟩) ∈ lw_all := lw_g (lw_at lw_ms 17 rfl) rfl
end
section
set_option maxRecDepth 100000
/-! WeightedNetwork -/
def RX0 : String := "WeightedNetwork"
def TX0 : u_T := fun k => match k with
  | 0 => ("WeightedNetwork", "cost", "[I", true)
  | 1 => ("WeightedNetwork", "tables", "I", false)
  | 2 => ("WeightedNetwork", "overX", "[I", true)
  | 3 => ("WeightedNetwork", "overY", "[I", true)
  | 4 => ("WeightedNetwork", "pairCost", "[I", true)
  | 5 => ("WeightedNetwork", "ready", "Z", false)
  | 6 => ("WeightedNetwork", "floor", "I", false)
  | 7 => ("WeightedNetwork", "one", "[I", true)
  | 8 => ("WeightedNetwork", "two", "[I", true)
  | 9 => ("WeightedNetwork", "fixed", "[I", true)
  | 10 => ("WeightedNetwork", "taken", "[I", true)
  | 11 => ("WeightedNetwork", "sofar", "[I", true)
  | 12 => ("WeightedNetwork", "nextValue", "[I", true)
  | 13 => ("WeightedNetwork", "found", "I", false)
  | 14 => ("WeightedNetwork", "best", "I", false)
  | _ => ("WeightedNetwork", "bestValues", "[I", true)
def tyX0 : Nat → FieldType := fun k => match k with
  | 0 => .array .int
  | 1 => .int
  | 2 => .array .int
  | 3 => .array .int
  | 4 => .array .int
  | 5 => .boolean
  | 6 => .int
  | 7 => .array .int
  | 8 => .array .int
  | 9 => .array .int
  | 10 => .array .int
  | 11 => .array .int
  | 12 => .array .int
  | 13 => .int
  | 14 => .int
  | _ => .array .int
abbrev wsX00 : List Cond := u_ws RX0 TX0 16
set_option maxRecDepth 100000 in
theorem nmX0 : ∀ a, a < 16 → ∀ b, b < 16 → a ≠ b → (TX0 a).2.1 ≠ (TX0 b).2.1 := by decide +kernel
set_option maxRecDepth 100000 in
theorem tyX0_ok : ∀ k, k < 16 → parseFieldDescriptor (TX0 k).2.2.1 = some (tyX0 k) := by decide +kernel
abbrev cX0_init : ByteArray := prog_1_method_1_code
def yX0_init : MethodName := ⟨RX0, "<init>", "()V"⟩
abbrev cX0_cost : ByteArray := prog_1_method_4_code
def yX0_cost : MethodName := ⟨RX0, "cost", "(III)I"⟩
abbrev cX0_badVariable : ByteArray := prog_1_method_2_code
def yX0_badVariable : MethodName := ⟨RX0, "badVariable", "(I)Z"⟩
abbrev cX0_badCost : ByteArray := prog_1_method_3_code
def yX0_badCost : MethodName := ⟨RX0, "badCost", "(I)Z"⟩
abbrev cX0_table : ByteArray := prog_1_method_5_code
def yX0_table : MethodName := ⟨RX0, "table", "(II)I"⟩
abbrev cX0_pair : ByteArray := prog_1_method_6_code
def yX0_pair : MethodName := ⟨RX0, "pair", "(III)I"⟩
abbrev cX0_drop : ByteArray := prog_1_method_7_code
def yX0_drop : MethodName := ⟨RX0, "drop", "()I"⟩
abbrev cX0_least : ByteArray := prog_1_method_24_code
def yX0_least : MethodName := ⟨RX0, "least", "()I"⟩
abbrev cX0_freeAll : ByteArray := prog_1_method_22_code
def yX0_freeAll : MethodName := ⟨RX0, "freeAll", "()V"⟩
abbrev cX0_leastCost : ByteArray := prog_1_method_23_code
def yX0_leastCost : MethodName := ⟨RX0, "leastCost", "()I"⟩
abbrev cX0_search : ByteArray := prog_1_method_20_code
def yX0_search : MethodName := ⟨RX0, "search", "(IZ)V"⟩
abbrev cX0_prepare : ByteArray := prog_1_method_14_code
def yX0_prepare : MethodName := ⟨RX0, "prepare", "()V"⟩
abbrev cX0_asMoved : ByteArray := prog_1_method_8_code
def yX0_asMoved : MethodName := ⟨RX0, "asMoved", "(I)I"⟩
abbrev cX0_moveToValue : ByteArray := prog_1_method_12_code
def yX0_moveToValue : MethodName := ⟨RX0, "moveToValue", "(IIZ)V"⟩
abbrev cX0_pairAt : ByteArray := prog_1_method_11_code
def yX0_pairAt : MethodName := ⟨RX0, "pairAt", "(IIIZ)I"⟩
abbrev cX0_more : ByteArray := prog_1_method_10_code
def yX0_more : MethodName := ⟨RX0, "more", "(II)I"⟩
abbrev cX0_less : ByteArray := prog_1_method_9_code
def yX0_less : MethodName := ⟨RX0, "less", "(II)I"⟩
abbrev cX0_moveToFloor : ByteArray := prog_1_method_13_code
def yX0_moveToFloor : MethodName := ⟨RX0, "moveToFloor", "(I)V"⟩
abbrev cX0_open : ByteArray := prog_1_method_17_code
def yX0_open : MethodName := ⟨RX0, "open", "(I)V"⟩
abbrev cX0_lastValue : ByteArray := prog_1_method_18_code
def yX0_lastValue : MethodName := ⟨RX0, "lastValue", "(I)I"⟩
abbrev cX0_withTaken : ByteArray := prog_1_method_16_code
def yX0_withTaken : MethodName := ⟨RX0, "withTaken", "(III)I"⟩
abbrev cX0_descend : ByteArray := prog_1_method_21_code
def yX0_descend : MethodName := ⟨RX0, "descend", "(II)I"⟩
abbrev cX0_ahead : ByteArray := prog_1_method_15_code
def yX0_ahead : MethodName := ⟨RX0, "ahead", "(I)I"⟩
abbrev cX0_take : ByteArray := prog_1_method_19_code
def yX0_take : MethodName := ⟨RX0, "take", "(I)V"⟩
abbrev cX0_value : ByteArray := prog_1_method_25_code
def yX0_value : MethodName := ⟨RX0, "value", "(I)I"⟩
abbrev cX0_leastWith : ByteArray := prog_1_method_26_code
def yX0_leastWith : MethodName := ⟨RX0, "leastWith", "(II)I"⟩
abbrev cX0_ties : ByteArray := prog_1_method_28_code
def yX0_ties : MethodName := ⟨RX0, "ties", "()I"⟩
abbrev cX0_countUpTo : ByteArray := prog_1_method_27_code
def yX0_countUpTo : MethodName := ⟨RX0, "countUpTo", "(I)I"⟩
abbrev cX0_allowed : ByteArray := prog_1_method_29_code
def yX0_allowed : MethodName := ⟨RX0, "allowed", "()I"⟩
abbrev cX0_upTo : ByteArray := prog_1_method_30_code
def yX0_upTo : MethodName := ⟨RX0, "upTo", "(I)I"⟩
abbrev cX0_canAgree : ByteArray := prog_1_method_31_code
def yX0_canAgree : MethodName := ⟨RX0, "canAgree", "(II)Z"⟩

/-! WeightedNetworkModel -/
def RX1 : String := "WeightedNetworkModel"
def TX1 : u_T := fun k => match k with
  | 0 => ("WeightedNetworkModel", "costs", "[I", true)
  | 1 => ("WeightedNetworkModel", "xs", "[I", true)
  | 2 => ("WeightedNetworkModel", "ys", "[I", true)
  | 3 => ("WeightedNetworkModel", "pairs", "[I", true)
  | 4 => ("WeightedNetworkModel", "tables", "I", false)
  | 5 => ("WeightedNetworkModel", "totals", "[I", true)
  | _ => ("WeightedNetworkModel", "known", "Z", false)
def tyX1 : Nat → FieldType := fun k => match k with
  | 0 => .array .int
  | 1 => .array .int
  | 2 => .array .int
  | 3 => .array .int
  | 4 => .int
  | 5 => .array .int
  | _ => .boolean
abbrev wsX10 : List Cond := u_ws RX1 TX1 7
theorem nmX1 : ∀ a, a < 7 → ∀ b, b < 7 → a ≠ b → (TX1 a).2.1 ≠ (TX1 b).2.1 := by decide +kernel
theorem tyX1_ok : ∀ k, k < 7 → parseFieldDescriptor (TX1 k).2.2.1 = some (tyX1 k) := by decide +kernel
abbrev cX1_init : ByteArray := prog_3_method_1_code
def yX1_init : MethodName := ⟨RX1, "<init>", "()V"⟩
abbrev cX1_cost : ByteArray := prog_3_method_3_code
def yX1_cost : MethodName := ⟨RX1, "cost", "(III)I"⟩
abbrev cX1_isVariable : ByteArray := prog_3_method_2_code
def yX1_isVariable : MethodName := ⟨RX1, "isVariable", "(I)Z"⟩
abbrev cX1_table : ByteArray := prog_3_method_4_code
def yX1_table : MethodName := ⟨RX1, "table", "(II)I"⟩
abbrev cX1_pair : ByteArray := prog_3_method_5_code
def yX1_pair : MethodName := ⟨RX1, "pair", "(III)I"⟩
abbrev cX1_drop : ByteArray := prog_3_method_6_code
def yX1_drop : MethodName := ⟨RX1, "drop", "()I"⟩
abbrev cX1_least : ByteArray := prog_3_method_11_code
def yX1_least : MethodName := ⟨RX1, "least", "()I"⟩
abbrev cX1_first : ByteArray := prog_3_method_10_code
def yX1_first : MethodName := ⟨RX1, "first", "()I"⟩
abbrev cX1_work : ByteArray := prog_3_method_9_code
def yX1_work : MethodName := ⟨RX1, "work", "()V"⟩
abbrev cX1_totalOf : ByteArray := prog_3_method_8_code
def yX1_totalOf : MethodName := ⟨RX1, "totalOf", "(I)I"⟩
abbrev cX1_valueIn : ByteArray := prog_3_method_7_code
def yX1_valueIn : MethodName := ⟨RX1, "valueIn", "(II)I"⟩
abbrev cX1_value : ByteArray := prog_3_method_12_code
def yX1_value : MethodName := ⟨RX1, "value", "(I)I"⟩
abbrev cX1_leastWith : ByteArray := prog_3_method_13_code
def yX1_leastWith : MethodName := ⟨RX1, "leastWith", "(II)I"⟩
abbrev cX1_ties : ByteArray := prog_3_method_14_code
def yX1_ties : MethodName := ⟨RX1, "ties", "()I"⟩
abbrev cX1_upTo : ByteArray := prog_3_method_16_code
def yX1_upTo : MethodName := ⟨RX1, "upTo", "(I)I"⟩
abbrev cX1_allowed : ByteArray := prog_3_method_15_code
def yX1_allowed : MethodName := ⟨RX1, "allowed", "()I"⟩
abbrev cX1_canAgree : ByteArray := prog_3_method_17_code
def yX1_canAgree : MethodName := ⟨RX1, "canAgree", "(II)Z"⟩

/-! the law's own entry -/
abbrev cL_law : ByteArray := code

/-! java/lang/Object -/
def RJ0 : String := "java/lang/Object"
abbrev cJ0_init : ByteArray := object_method_1_code
def yJ0_init : MethodName := ⟨RJ0, "<init>", "()V"⟩

theorem dJ0_init_0 : decode cJ0_init 0 = .ok (.return_, 1) := by decide +kernel
theorem q19 : (Jvm.Cond.initialized "WeightedNetwork") ∈ lw_all := lw_g (lw_at lw_m1 1 rfl) rfl
theorem q22 : (Jvm.Cond.instantiable "WeightedNetwork" (16 : Nat)) ∈ lw_all := lw_g (lw_at lw_m1 4 rfl) rfl
theorem q24 : (Jvm.Cond.instanceMethod ({ cls := "WeightedNetwork", name := "<init>", desc := "()V" } : Jvm.MethodName)) ∈ lw_all := lw_g (lw_at lw_m1 6 rfl) rfl
theorem q25 : (Jvm.Cond.code ({ cls := "WeightedNetwork", name := "<init>", desc := "()V" } : Jvm.MethodName) prog_1_method_1_code (1 : Nat) (Option.none : Option Jvm.ClassFile.FieldType)) ∈ lw_all := lw_g (lw_at lw_m1 7 rfl) rfl
theorem q26 : (Jvm.Cond.methodLink "WeightedNetwork" (1 : Nat) ({ cls := "java/lang/Object", name := "<init>", desc := "()V" } : Jvm.MethodName)) ∈ lw_all := lw_g (lw_at lw_m1 8 rfl) rfl
theorem q29 : (Jvm.Cond.fieldLink "WeightedNetwork" (7 : Nat) "WeightedNetwork" "cost" "[I") ∈ lw_all := lw_g (lw_at lw_m1 11 rfl) rfl
theorem q30 : (Jvm.Cond.fieldLink "WeightedNetwork" (54 : Nat) "WeightedNetwork" "tables" "I") ∈ lw_all := lw_g (lw_at lw_m1 12 rfl) rfl
theorem q31 : (Jvm.Cond.fieldLink "WeightedNetwork" (13 : Nat) "WeightedNetwork" "overX" "[I") ∈ lw_all := lw_g (lw_at lw_m1 13 rfl) rfl
theorem q32 : (Jvm.Cond.fieldLink "WeightedNetwork" (16 : Nat) "WeightedNetwork" "overY" "[I") ∈ lw_all := lw_g (lw_at lw_m1 14 rfl) rfl
theorem q33 : (Jvm.Cond.fieldLink "WeightedNetwork" (19 : Nat) "WeightedNetwork" "pairCost" "[I") ∈ lw_all := lw_g (lw_at lw_m1 15 rfl) rfl
theorem q34 : (Jvm.Cond.fieldLink "WeightedNetwork" (43 : Nat) "WeightedNetwork" "ready" "Z") ∈ lw_all := lw_g (lw_at lw_m1 16 rfl) rfl
theorem q35 : (Jvm.Cond.fieldLink "WeightedNetwork" (71 : Nat) "WeightedNetwork" "floor" "I") ∈ lw_all := lw_g (lw_at lw_m1 17 rfl) rfl
theorem q36 : (Jvm.Cond.fieldLink "WeightedNetwork" (22 : Nat) "WeightedNetwork" "one" "[I") ∈ lw_all := lw_g (lw_at lw_m1 18 rfl) rfl
theorem q37 : (Jvm.Cond.fieldLink "WeightedNetwork" (25 : Nat) "WeightedNetwork" "two" "[I") ∈ lw_all := lw_g (lw_at lw_m1 19 rfl) rfl
theorem q38 : (Jvm.Cond.fieldLink "WeightedNetwork" (28 : Nat) "WeightedNetwork" "fixed" "[I") ∈ lw_all := lw_g (lw_at lw_m1 20 rfl) rfl
theorem q39 : (Jvm.Cond.fieldLink "WeightedNetwork" (31 : Nat) "WeightedNetwork" "taken" "[I") ∈ lw_all := lw_g (lw_at lw_m1 21 rfl) rfl
theorem q40 : (Jvm.Cond.fieldLink "WeightedNetwork" (34 : Nat) "WeightedNetwork" "sofar" "[I") ∈ lw_all := lw_g (lw_at lw_m1 22 rfl) rfl
theorem q41 : (Jvm.Cond.fieldLink "WeightedNetwork" (37 : Nat) "WeightedNetwork" "nextValue" "[I") ∈ lw_all := lw_g (lw_at lw_m1 23 rfl) rfl
theorem q42 : (Jvm.Cond.fieldLink "WeightedNetwork" (90 : Nat) "WeightedNetwork" "found" "I") ∈ lw_all := lw_g (lw_at lw_m1 24 rfl) rfl
theorem q43 : (Jvm.Cond.fieldLink "WeightedNetwork" (93 : Nat) "WeightedNetwork" "best" "I") ∈ lw_all := lw_g (lw_at lw_m1 25 rfl) rfl
theorem q44 : (Jvm.Cond.fieldLink "WeightedNetwork" (40 : Nat) "WeightedNetwork" "bestValues" "[I") ∈ lw_all := lw_g (lw_at lw_m1 26 rfl) rfl
theorem q45 : (Jvm.Cond.laysFinal "WeightedNetwork" "WeightedNetwork" "cost" "[I") ∈ lw_all := lw_g (lw_at lw_m1 27 rfl) rfl
theorem q46 : (Jvm.Cond.soleField "WeightedNetwork" "cost") ∈ lw_all := lw_g (lw_at lw_m1 28 rfl) rfl
theorem q47 : (Jvm.Cond.lays "WeightedNetwork" "WeightedNetwork" "tables" "I") ∈ lw_all := lw_g (lw_at lw_m1 29 rfl) rfl
theorem q48 : (Jvm.Cond.soleField "WeightedNetwork" "tables") ∈ lw_all := lw_g (lw_at lw_m1 30 rfl) rfl
theorem q49 : (Jvm.Cond.laysFinal "WeightedNetwork" "WeightedNetwork" "overX" "[I") ∈ lw_all := lw_g (lw_at lw_m1 31 rfl) rfl
theorem q50 : (Jvm.Cond.soleField "WeightedNetwork" "overX") ∈ lw_all := lw_g (lw_at lw_m1 32 rfl) rfl
theorem q51 : (Jvm.Cond.laysFinal "WeightedNetwork" "WeightedNetwork" "overY" "[I") ∈ lw_all := lw_g (lw_at lw_m1 33 rfl) rfl
theorem q52 : (Jvm.Cond.soleField "WeightedNetwork" "overY") ∈ lw_all := lw_g (lw_at lw_m1 34 rfl) rfl
theorem q53 : (Jvm.Cond.laysFinal "WeightedNetwork" "WeightedNetwork" "pairCost" "[I") ∈ lw_all := lw_g (lw_at lw_m1 35 rfl) rfl
theorem q54 : (Jvm.Cond.soleField "WeightedNetwork" "pairCost") ∈ lw_all := lw_g (lw_at lw_m1 36 rfl) rfl
theorem q55 : (Jvm.Cond.lays "WeightedNetwork" "WeightedNetwork" "ready" "Z") ∈ lw_all := lw_g (lw_at lw_m1 37 rfl) rfl
theorem q56 : (Jvm.Cond.soleField "WeightedNetwork" "ready") ∈ lw_all := lw_g (lw_at lw_m1 38 rfl) rfl
theorem q57 : (Jvm.Cond.lays "WeightedNetwork" "WeightedNetwork" "floor" "I") ∈ lw_all := lw_g (lw_at lw_m1 39 rfl) rfl
theorem q58 : (Jvm.Cond.soleField "WeightedNetwork" "floor") ∈ lw_all := lw_g (lw_at lw_m1 40 rfl) rfl
theorem q59 : (Jvm.Cond.laysFinal "WeightedNetwork" "WeightedNetwork" "one" "[I") ∈ lw_all := lw_g (lw_at lw_m1 41 rfl) rfl
theorem q60 : (Jvm.Cond.soleField "WeightedNetwork" "one") ∈ lw_all := lw_g (lw_at lw_m1 42 rfl) rfl
theorem q61 : (Jvm.Cond.laysFinal "WeightedNetwork" "WeightedNetwork" "two" "[I") ∈ lw_all := lw_g (lw_at lw_m1 43 rfl) rfl
theorem q62 : (Jvm.Cond.soleField "WeightedNetwork" "two") ∈ lw_all := lw_g (lw_at lw_m1 44 rfl) rfl
theorem q63 : (Jvm.Cond.laysFinal "WeightedNetwork" "WeightedNetwork" "fixed" "[I") ∈ lw_all := lw_g (lw_at lw_m1 45 rfl) rfl
theorem q64 : (Jvm.Cond.soleField "WeightedNetwork" "fixed") ∈ lw_all := lw_g (lw_at lw_m1 46 rfl) rfl
theorem q65 : (Jvm.Cond.laysFinal "WeightedNetwork" "WeightedNetwork" "taken" "[I") ∈ lw_all := lw_g (lw_at lw_m1 47 rfl) rfl
theorem q66 : (Jvm.Cond.soleField "WeightedNetwork" "taken") ∈ lw_all := lw_g (lw_at lw_m1 48 rfl) rfl
theorem q67 : (Jvm.Cond.laysFinal "WeightedNetwork" "WeightedNetwork" "sofar" "[I") ∈ lw_all := lw_g (lw_at lw_m1 49 rfl) rfl
theorem q68 : (Jvm.Cond.soleField "WeightedNetwork" "sofar") ∈ lw_all := lw_g (lw_at lw_m1 50 rfl) rfl
theorem q69 : (Jvm.Cond.laysFinal "WeightedNetwork" "WeightedNetwork" "nextValue" "[I") ∈ lw_all := lw_g (lw_at lw_m1 51 rfl) rfl
theorem q70 : (Jvm.Cond.soleField "WeightedNetwork" "nextValue") ∈ lw_all := lw_g (lw_at lw_m1 52 rfl) rfl
theorem q71 : (Jvm.Cond.lays "WeightedNetwork" "WeightedNetwork" "found" "I") ∈ lw_all := lw_g (lw_at lw_m1 53 rfl) rfl
theorem q72 : (Jvm.Cond.soleField "WeightedNetwork" "found") ∈ lw_all := lw_g (lw_at lw_m1 54 rfl) rfl
theorem q73 : (Jvm.Cond.lays "WeightedNetwork" "WeightedNetwork" "best" "I") ∈ lw_all := lw_g (lw_at lw_m1 55 rfl) rfl
theorem q74 : (Jvm.Cond.soleField "WeightedNetwork" "best") ∈ lw_all := lw_g (lw_at lw_m1 56 rfl) rfl
theorem q75 : (Jvm.Cond.laysFinal "WeightedNetwork" "WeightedNetwork" "bestValues" "[I") ∈ lw_all := lw_g (lw_at lw_m1 57 rfl) rfl
theorem q76 : (Jvm.Cond.soleField "WeightedNetwork" "bestValues") ∈ lw_all := lw_g (lw_at lw_m1 58 rfl) rfl
theorem q77 : (Jvm.Cond.superclass "WeightedNetwork" "java/lang/Object") ∈ lw_all := lw_g (lw_at lw_m1 59 rfl) rfl
theorem q80 : (Jvm.Cond.instanceMethod ({ cls := "WeightedNetwork", name := "cost", desc := "(III)I" } : Jvm.MethodName)) ∈ lw_all := lw_g (lw_at lw_m1 62 rfl) rfl
theorem q81 : (Jvm.Cond.selects "WeightedNetwork" ({ cls := "WeightedNetwork", name := "cost", desc := "(III)I" } : Jvm.MethodName) ({ cls := "WeightedNetwork", name := "cost", desc := "(III)I" } : Jvm.MethodName)) ∈ lw_all := lw_g (lw_at lw_m1 63 rfl) rfl
theorem q82 : (Jvm.Cond.code ({ cls := "WeightedNetwork", name := "cost", desc := "(III)I" } : Jvm.MethodName) prog_1_method_4_code (5 : Nat) (Option.some Jvm.ClassFile.FieldType.int)) ∈ lw_all := lw_g (lw_at lw_m1 64 rfl) rfl
theorem q83 : (Jvm.Cond.methodLink "WeightedNetwork" (47 : Nat) ({ cls := "WeightedNetwork", name := "badVariable", desc := "(I)Z" } : Jvm.MethodName)) ∈ lw_all := lw_g (lw_at lw_m1 65 rfl) rfl
theorem q84 : (Jvm.Cond.static ({ cls := "WeightedNetwork", name := "badVariable", desc := "(I)Z" } : Jvm.MethodName)) ∈ lw_all := lw_g (lw_at lw_m1 66 rfl) rfl
theorem q85 : (Jvm.Cond.code ({ cls := "WeightedNetwork", name := "badVariable", desc := "(I)Z" } : Jvm.MethodName) prog_1_method_2_code (1 : Nat) (Option.some Jvm.ClassFile.FieldType.boolean)) ∈ lw_all := lw_g (lw_at lw_m1 67 rfl) rfl
theorem q86 : (Jvm.Cond.methodLink "WeightedNetwork" (51 : Nat) ({ cls := "WeightedNetwork", name := "badCost", desc := "(I)Z" } : Jvm.MethodName)) ∈ lw_all := lw_g (lw_at lw_m1 68 rfl) rfl
theorem q87 : (Jvm.Cond.static ({ cls := "WeightedNetwork", name := "badCost", desc := "(I)Z" } : Jvm.MethodName)) ∈ lw_all := lw_g (lw_at lw_m1 69 rfl) rfl
theorem q88 : (Jvm.Cond.code ({ cls := "WeightedNetwork", name := "badCost", desc := "(I)Z" } : Jvm.MethodName) prog_1_method_3_code (1 : Nat) (Option.some Jvm.ClassFile.FieldType.boolean)) ∈ lw_all := lw_g (lw_at lw_m1 70 rfl) rfl
theorem q90 : (Jvm.Cond.instanceMethod ({ cls := "WeightedNetwork", name := "table", desc := "(II)I" } : Jvm.MethodName)) ∈ lw_all := lw_g (lw_at lw_m1 72 rfl) rfl
theorem q91 : (Jvm.Cond.selects "WeightedNetwork" ({ cls := "WeightedNetwork", name := "table", desc := "(II)I" } : Jvm.MethodName) ({ cls := "WeightedNetwork", name := "table", desc := "(II)I" } : Jvm.MethodName)) ∈ lw_all := lw_g (lw_at lw_m1 73 rfl) rfl
theorem q92 : (Jvm.Cond.code ({ cls := "WeightedNetwork", name := "table", desc := "(II)I" } : Jvm.MethodName) prog_1_method_5_code (4 : Nat) (Option.some Jvm.ClassFile.FieldType.int)) ∈ lw_all := lw_g (lw_at lw_m1 74 rfl) rfl
theorem q94 : (Jvm.Cond.instanceMethod ({ cls := "WeightedNetwork", name := "pair", desc := "(III)I" } : Jvm.MethodName)) ∈ lw_all := lw_g (lw_at lw_m1 76 rfl) rfl
theorem q95 : (Jvm.Cond.selects "WeightedNetwork" ({ cls := "WeightedNetwork", name := "pair", desc := "(III)I" } : Jvm.MethodName) ({ cls := "WeightedNetwork", name := "pair", desc := "(III)I" } : Jvm.MethodName)) ∈ lw_all := lw_g (lw_at lw_m1 77 rfl) rfl
theorem q96 : (Jvm.Cond.code ({ cls := "WeightedNetwork", name := "pair", desc := "(III)I" } : Jvm.MethodName) prog_1_method_6_code (5 : Nat) (Option.some Jvm.ClassFile.FieldType.int)) ∈ lw_all := lw_g (lw_at lw_m1 78 rfl) rfl
theorem q98 : (Jvm.Cond.instanceMethod ({ cls := "WeightedNetwork", name := "drop", desc := "()I" } : Jvm.MethodName)) ∈ lw_all := lw_g (lw_at lw_m1 80 rfl) rfl
theorem q99 : (Jvm.Cond.selects "WeightedNetwork" ({ cls := "WeightedNetwork", name := "drop", desc := "()I" } : Jvm.MethodName) ({ cls := "WeightedNetwork", name := "drop", desc := "()I" } : Jvm.MethodName)) ∈ lw_all := lw_g (lw_at lw_m1 81 rfl) rfl
theorem q100 : (Jvm.Cond.code ({ cls := "WeightedNetwork", name := "drop", desc := "()I" } : Jvm.MethodName) prog_1_method_7_code (1 : Nat) (Option.some Jvm.ClassFile.FieldType.int)) ∈ lw_all := lw_g (lw_at lw_m1 82 rfl) rfl
theorem q102 : (Jvm.Cond.instanceMethod ({ cls := "WeightedNetwork", name := "least", desc := "()I" } : Jvm.MethodName)) ∈ lw_all := lw_g (lw_at lw_m1 84 rfl) rfl
theorem q103 : (Jvm.Cond.selects "WeightedNetwork" ({ cls := "WeightedNetwork", name := "least", desc := "()I" } : Jvm.MethodName) ({ cls := "WeightedNetwork", name := "least", desc := "()I" } : Jvm.MethodName)) ∈ lw_all := lw_g (lw_at lw_m1 85 rfl) rfl
theorem q104 : (Jvm.Cond.code ({ cls := "WeightedNetwork", name := "least", desc := "()I" } : Jvm.MethodName) prog_1_method_24_code (1 : Nat) (Option.some Jvm.ClassFile.FieldType.int)) ∈ lw_all := lw_g (lw_at lw_m1 86 rfl) rfl
theorem q105 : (Jvm.Cond.methodLink "WeightedNetwork" (119 : Nat) ({ cls := "WeightedNetwork", name := "freeAll", desc := "()V" } : Jvm.MethodName)) ∈ lw_all := lw_g (lw_at lw_m1 87 rfl) rfl
theorem q106 : (Jvm.Cond.privateMethod ({ cls := "WeightedNetwork", name := "freeAll", desc := "()V" } : Jvm.MethodName)) ∈ lw_tbl := lw_at lw_m1 88 rfl
theorem q107 : (Jvm.Cond.instanceMethod ({ cls := "WeightedNetwork", name := "freeAll", desc := "()V" } : Jvm.MethodName)) ∈ lw_all := lw_g (lw_at lw_m1 89 rfl) rfl
theorem q108 : (Jvm.Cond.code ({ cls := "WeightedNetwork", name := "freeAll", desc := "()V" } : Jvm.MethodName) prog_1_method_22_code (2 : Nat) (Option.none : Option Jvm.ClassFile.FieldType)) ∈ lw_all := lw_g (lw_at lw_m1 90 rfl) rfl
theorem q109 : (Jvm.Cond.methodLink "WeightedNetwork" (122 : Nat) ({ cls := "WeightedNetwork", name := "leastCost", desc := "()I" } : Jvm.MethodName)) ∈ lw_all := lw_g (lw_at lw_m1 91 rfl) rfl
theorem q110 : (Jvm.Cond.privateMethod ({ cls := "WeightedNetwork", name := "leastCost", desc := "()I" } : Jvm.MethodName)) ∈ lw_tbl := lw_at lw_m1 92 rfl
theorem q111 : (Jvm.Cond.instanceMethod ({ cls := "WeightedNetwork", name := "leastCost", desc := "()I" } : Jvm.MethodName)) ∈ lw_all := lw_g (lw_at lw_m1 93 rfl) rfl
theorem q112 : (Jvm.Cond.code ({ cls := "WeightedNetwork", name := "leastCost", desc := "()I" } : Jvm.MethodName) prog_1_method_23_code (1 : Nat) (Option.some Jvm.ClassFile.FieldType.int)) ∈ lw_all := lw_g (lw_at lw_m1 94 rfl) rfl
theorem q113 : (Jvm.Cond.constant "WeightedNetwork" (114 : Nat) (49999 : Int32)) ∈ lw_all := lw_g (lw_at lw_m1 95 rfl) rfl
theorem q114 : (Jvm.Cond.methodLink "WeightedNetwork" (115 : Nat) ({ cls := "WeightedNetwork", name := "search", desc := "(IZ)V" } : Jvm.MethodName)) ∈ lw_all := lw_g (lw_at lw_m1 96 rfl) rfl
theorem q115 : (Jvm.Cond.privateMethod ({ cls := "WeightedNetwork", name := "search", desc := "(IZ)V" } : Jvm.MethodName)) ∈ lw_tbl := lw_at lw_m1 97 rfl
theorem q116 : (Jvm.Cond.instanceMethod ({ cls := "WeightedNetwork", name := "search", desc := "(IZ)V" } : Jvm.MethodName)) ∈ lw_all := lw_g (lw_at lw_m1 98 rfl) rfl
theorem q117 : (Jvm.Cond.code ({ cls := "WeightedNetwork", name := "search", desc := "(IZ)V" } : Jvm.MethodName) prog_1_method_20_code (6 : Nat) (Option.none : Option Jvm.ClassFile.FieldType)) ∈ lw_all := lw_g (lw_at lw_m1 99 rfl) rfl
theorem q118 : (Jvm.Cond.methodLink "WeightedNetwork" (96 : Nat) ({ cls := "WeightedNetwork", name := "prepare", desc := "()V" } : Jvm.MethodName)) ∈ lw_all := lw_g (lw_at lw_m1 100 rfl) rfl
theorem q119 : (Jvm.Cond.privateMethod ({ cls := "WeightedNetwork", name := "prepare", desc := "()V" } : Jvm.MethodName)) ∈ lw_tbl := lw_at lw_m1 101 rfl
theorem q120 : (Jvm.Cond.instanceMethod ({ cls := "WeightedNetwork", name := "prepare", desc := "()V" } : Jvm.MethodName)) ∈ lw_all := lw_g (lw_at lw_m1 102 rfl) rfl
theorem q121 : (Jvm.Cond.code ({ cls := "WeightedNetwork", name := "prepare", desc := "()V" } : Jvm.MethodName) prog_1_method_14_code (3 : Nat) (Option.none : Option Jvm.ClassFile.FieldType)) ∈ lw_all := lw_g (lw_at lw_m1 103 rfl) rfl
theorem q122 : (Jvm.Cond.methodLink "WeightedNetwork" (74 : Nat) ({ cls := "WeightedNetwork", name := "asMoved", desc := "(I)I" } : Jvm.MethodName)) ∈ lw_all := lw_g (lw_at lw_m1 104 rfl) rfl
theorem q123 : (Jvm.Cond.static ({ cls := "WeightedNetwork", name := "asMoved", desc := "(I)I" } : Jvm.MethodName)) ∈ lw_all := lw_g (lw_at lw_m1 105 rfl) rfl
theorem q124 : (Jvm.Cond.code ({ cls := "WeightedNetwork", name := "asMoved", desc := "(I)I" } : Jvm.MethodName) prog_1_method_8_code (1 : Nat) (Option.some Jvm.ClassFile.FieldType.int)) ∈ lw_all := lw_g (lw_at lw_m1 106 rfl) rfl
theorem q125 : (Jvm.Cond.constant "WeightedNetwork" (58 : Nat) (100000 : Int32)) ∈ lw_all := lw_g (lw_at lw_m1 107 rfl) rfl
theorem q126 : (Jvm.Cond.methodLink "WeightedNetwork" (78 : Nat) ({ cls := "WeightedNetwork", name := "moveToValue", desc := "(IIZ)V" } : Jvm.MethodName)) ∈ lw_all := lw_g (lw_at lw_m1 108 rfl) rfl
theorem q127 : (Jvm.Cond.privateMethod ({ cls := "WeightedNetwork", name := "moveToValue", desc := "(IIZ)V" } : Jvm.MethodName)) ∈ lw_tbl := lw_at lw_m1 109 rfl
theorem q128 : (Jvm.Cond.instanceMethod ({ cls := "WeightedNetwork", name := "moveToValue", desc := "(IIZ)V" } : Jvm.MethodName)) ∈ lw_all := lw_g (lw_at lw_m1 110 rfl) rfl
theorem q129 : (Jvm.Cond.code ({ cls := "WeightedNetwork", name := "moveToValue", desc := "(IIZ)V" } : Jvm.MethodName) prog_1_method_12_code (8 : Nat) (Option.none : Option Jvm.ClassFile.FieldType)) ∈ lw_all := lw_g (lw_at lw_m1 111 rfl) rfl
theorem q130 : (Jvm.Cond.methodLink "WeightedNetwork" (60 : Nat) ({ cls := "WeightedNetwork", name := "pairAt", desc := "(IIIZ)I" } : Jvm.MethodName)) ∈ lw_all := lw_g (lw_at lw_m1 112 rfl) rfl
theorem q131 : (Jvm.Cond.static ({ cls := "WeightedNetwork", name := "pairAt", desc := "(IIIZ)I" } : Jvm.MethodName)) ∈ lw_all := lw_g (lw_at lw_m1 113 rfl) rfl
theorem q132 : (Jvm.Cond.code ({ cls := "WeightedNetwork", name := "pairAt", desc := "(IIIZ)I" } : Jvm.MethodName) prog_1_method_11_code (4 : Nat) (Option.some Jvm.ClassFile.FieldType.int)) ∈ lw_all := lw_g (lw_at lw_m1 114 rfl) rfl
theorem q133 : (Jvm.Cond.methodLink "WeightedNetwork" (64 : Nat) ({ cls := "WeightedNetwork", name := "more", desc := "(II)I" } : Jvm.MethodName)) ∈ lw_all := lw_g (lw_at lw_m1 115 rfl) rfl
theorem q134 : (Jvm.Cond.static ({ cls := "WeightedNetwork", name := "more", desc := "(II)I" } : Jvm.MethodName)) ∈ lw_all := lw_g (lw_at lw_m1 116 rfl) rfl
theorem q135 : (Jvm.Cond.code ({ cls := "WeightedNetwork", name := "more", desc := "(II)I" } : Jvm.MethodName) prog_1_method_10_code (2 : Nat) (Option.some Jvm.ClassFile.FieldType.int)) ∈ lw_all := lw_g (lw_at lw_m1 117 rfl) rfl
theorem q136 : (Jvm.Cond.constant "WeightedNetwork" (59 : Nat) (50000 : Int32)) ∈ lw_all := lw_g (lw_at lw_m1 118 rfl) rfl
theorem q137 : (Jvm.Cond.methodLink "WeightedNetwork" (68 : Nat) ({ cls := "WeightedNetwork", name := "less", desc := "(II)I" } : Jvm.MethodName)) ∈ lw_all := lw_g (lw_at lw_m1 119 rfl) rfl
theorem q138 : (Jvm.Cond.static ({ cls := "WeightedNetwork", name := "less", desc := "(II)I" } : Jvm.MethodName)) ∈ lw_all := lw_g (lw_at lw_m1 120 rfl) rfl
theorem q139 : (Jvm.Cond.code ({ cls := "WeightedNetwork", name := "less", desc := "(II)I" } : Jvm.MethodName) prog_1_method_9_code (2 : Nat) (Option.some Jvm.ClassFile.FieldType.int)) ∈ lw_all := lw_g (lw_at lw_m1 121 rfl) rfl
theorem q140 : (Jvm.Cond.methodLink "WeightedNetwork" (82 : Nat) ({ cls := "WeightedNetwork", name := "moveToFloor", desc := "(I)V" } : Jvm.MethodName)) ∈ lw_all := lw_g (lw_at lw_m1 122 rfl) rfl
theorem q141 : (Jvm.Cond.privateMethod ({ cls := "WeightedNetwork", name := "moveToFloor", desc := "(I)V" } : Jvm.MethodName)) ∈ lw_tbl := lw_at lw_m1 123 rfl
theorem q142 : (Jvm.Cond.instanceMethod ({ cls := "WeightedNetwork", name := "moveToFloor", desc := "(I)V" } : Jvm.MethodName)) ∈ lw_all := lw_g (lw_at lw_m1 124 rfl) rfl
theorem q143 : (Jvm.Cond.code ({ cls := "WeightedNetwork", name := "moveToFloor", desc := "(I)V" } : Jvm.MethodName) prog_1_method_13_code (4 : Nat) (Option.none : Option Jvm.ClassFile.FieldType)) ∈ lw_all := lw_g (lw_at lw_m1 125 rfl) rfl
theorem q144 : (Jvm.Cond.methodLink "WeightedNetwork" (99 : Nat) ({ cls := "WeightedNetwork", name := "open", desc := "(I)V" } : Jvm.MethodName)) ∈ lw_all := lw_g (lw_at lw_m1 126 rfl) rfl
theorem q145 : (Jvm.Cond.privateMethod ({ cls := "WeightedNetwork", name := "open", desc := "(I)V" } : Jvm.MethodName)) ∈ lw_tbl := lw_at lw_m1 127 rfl
theorem q146 : (Jvm.Cond.instanceMethod ({ cls := "WeightedNetwork", name := "open", desc := "(I)V" } : Jvm.MethodName)) ∈ lw_all := lw_g (lw_at lw_m1 128 rfl) rfl
theorem q147 : (Jvm.Cond.code ({ cls := "WeightedNetwork", name := "open", desc := "(I)V" } : Jvm.MethodName) prog_1_method_17_code (2 : Nat) (Option.none : Option Jvm.ClassFile.FieldType)) ∈ lw_all := lw_g (lw_at lw_m1 129 rfl) rfl
theorem q148 : (Jvm.Cond.methodLink "WeightedNetwork" (102 : Nat) ({ cls := "WeightedNetwork", name := "lastValue", desc := "(I)I" } : Jvm.MethodName)) ∈ lw_all := lw_g (lw_at lw_m1 130 rfl) rfl
theorem q149 : (Jvm.Cond.privateMethod ({ cls := "WeightedNetwork", name := "lastValue", desc := "(I)I" } : Jvm.MethodName)) ∈ lw_tbl := lw_at lw_m1 131 rfl
theorem q150 : (Jvm.Cond.instanceMethod ({ cls := "WeightedNetwork", name := "lastValue", desc := "(I)I" } : Jvm.MethodName)) ∈ lw_all := lw_g (lw_at lw_m1 132 rfl) rfl
theorem q151 : (Jvm.Cond.code ({ cls := "WeightedNetwork", name := "lastValue", desc := "(I)I" } : Jvm.MethodName) prog_1_method_18_code (2 : Nat) (Option.some Jvm.ClassFile.FieldType.int)) ∈ lw_all := lw_g (lw_at lw_m1 133 rfl) rfl
theorem q152 : (Jvm.Cond.methodLink "WeightedNetwork" (86 : Nat) ({ cls := "WeightedNetwork", name := "withTaken", desc := "(III)I" } : Jvm.MethodName)) ∈ lw_all := lw_g (lw_at lw_m1 134 rfl) rfl
theorem q153 : (Jvm.Cond.privateMethod ({ cls := "WeightedNetwork", name := "withTaken", desc := "(III)I" } : Jvm.MethodName)) ∈ lw_tbl := lw_at lw_m1 135 rfl
theorem q154 : (Jvm.Cond.instanceMethod ({ cls := "WeightedNetwork", name := "withTaken", desc := "(III)I" } : Jvm.MethodName)) ∈ lw_all := lw_g (lw_at lw_m1 136 rfl) rfl
theorem q155 : (Jvm.Cond.code ({ cls := "WeightedNetwork", name := "withTaken", desc := "(III)I" } : Jvm.MethodName) prog_1_method_16_code (9 : Nat) (Option.some Jvm.ClassFile.FieldType.int)) ∈ lw_all := lw_g (lw_at lw_m1 137 rfl) rfl
theorem q156 : (Jvm.Cond.methodLink "WeightedNetwork" (105 : Nat) ({ cls := "WeightedNetwork", name := "descend", desc := "(II)I" } : Jvm.MethodName)) ∈ lw_all := lw_g (lw_at lw_m1 138 rfl) rfl
theorem q157 : (Jvm.Cond.privateMethod ({ cls := "WeightedNetwork", name := "descend", desc := "(II)I" } : Jvm.MethodName)) ∈ lw_tbl := lw_at lw_m1 139 rfl
theorem q158 : (Jvm.Cond.instanceMethod ({ cls := "WeightedNetwork", name := "descend", desc := "(II)I" } : Jvm.MethodName)) ∈ lw_all := lw_g (lw_at lw_m1 140 rfl) rfl
theorem q159 : (Jvm.Cond.code ({ cls := "WeightedNetwork", name := "descend", desc := "(II)I" } : Jvm.MethodName) prog_1_method_21_code (5 : Nat) (Option.some Jvm.ClassFile.FieldType.int)) ∈ lw_all := lw_g (lw_at lw_m1 141 rfl) rfl
theorem q160 : (Jvm.Cond.methodLink "WeightedNetwork" (108 : Nat) ({ cls := "WeightedNetwork", name := "ahead", desc := "(I)I" } : Jvm.MethodName)) ∈ lw_all := lw_g (lw_at lw_m1 142 rfl) rfl
theorem q161 : (Jvm.Cond.privateMethod ({ cls := "WeightedNetwork", name := "ahead", desc := "(I)I" } : Jvm.MethodName)) ∈ lw_tbl := lw_at lw_m1 143 rfl
theorem q162 : (Jvm.Cond.instanceMethod ({ cls := "WeightedNetwork", name := "ahead", desc := "(I)I" } : Jvm.MethodName)) ∈ lw_all := lw_g (lw_at lw_m1 144 rfl) rfl
theorem q163 : (Jvm.Cond.code ({ cls := "WeightedNetwork", name := "ahead", desc := "(I)I" } : Jvm.MethodName) prog_1_method_15_code (8 : Nat) (Option.some Jvm.ClassFile.FieldType.int)) ∈ lw_all := lw_g (lw_at lw_m1 145 rfl) rfl
theorem q164 : (Jvm.Cond.methodLink "WeightedNetwork" (111 : Nat) ({ cls := "WeightedNetwork", name := "take", desc := "(I)V" } : Jvm.MethodName)) ∈ lw_all := lw_g (lw_at lw_m1 146 rfl) rfl
theorem q165 : (Jvm.Cond.privateMethod ({ cls := "WeightedNetwork", name := "take", desc := "(I)V" } : Jvm.MethodName)) ∈ lw_tbl := lw_at lw_m1 147 rfl
theorem q166 : (Jvm.Cond.instanceMethod ({ cls := "WeightedNetwork", name := "take", desc := "(I)V" } : Jvm.MethodName)) ∈ lw_all := lw_g (lw_at lw_m1 148 rfl) rfl
theorem q167 : (Jvm.Cond.code ({ cls := "WeightedNetwork", name := "take", desc := "(I)V" } : Jvm.MethodName) prog_1_method_19_code (3 : Nat) (Option.none : Option Jvm.ClassFile.FieldType)) ∈ lw_all := lw_g (lw_at lw_m1 149 rfl) rfl
theorem q169 : (Jvm.Cond.instanceMethod ({ cls := "WeightedNetwork", name := "value", desc := "(I)I" } : Jvm.MethodName)) ∈ lw_all := lw_g (lw_at lw_m1 151 rfl) rfl
theorem q170 : (Jvm.Cond.selects "WeightedNetwork" ({ cls := "WeightedNetwork", name := "value", desc := "(I)I" } : Jvm.MethodName) ({ cls := "WeightedNetwork", name := "value", desc := "(I)I" } : Jvm.MethodName)) ∈ lw_all := lw_g (lw_at lw_m1 152 rfl) rfl
theorem q171 : (Jvm.Cond.code ({ cls := "WeightedNetwork", name := "value", desc := "(I)I" } : Jvm.MethodName) prog_1_method_25_code (3 : Nat) (Option.some Jvm.ClassFile.FieldType.int)) ∈ lw_all := lw_g (lw_at lw_m1 153 rfl) rfl
theorem q173 : (Jvm.Cond.instanceMethod ({ cls := "WeightedNetwork", name := "leastWith", desc := "(II)I" } : Jvm.MethodName)) ∈ lw_all := lw_g (lw_at lw_m1 155 rfl) rfl
theorem q174 : (Jvm.Cond.selects "WeightedNetwork" ({ cls := "WeightedNetwork", name := "leastWith", desc := "(II)I" } : Jvm.MethodName) ({ cls := "WeightedNetwork", name := "leastWith", desc := "(II)I" } : Jvm.MethodName)) ∈ lw_all := lw_g (lw_at lw_m1 156 rfl) rfl
theorem q175 : (Jvm.Cond.code ({ cls := "WeightedNetwork", name := "leastWith", desc := "(II)I" } : Jvm.MethodName) prog_1_method_26_code (3 : Nat) (Option.some Jvm.ClassFile.FieldType.int)) ∈ lw_all := lw_g (lw_at lw_m1 157 rfl) rfl
theorem q177 : (Jvm.Cond.instanceMethod ({ cls := "WeightedNetwork", name := "ties", desc := "()I" } : Jvm.MethodName)) ∈ lw_all := lw_g (lw_at lw_m1 159 rfl) rfl
theorem q178 : (Jvm.Cond.selects "WeightedNetwork" ({ cls := "WeightedNetwork", name := "ties", desc := "()I" } : Jvm.MethodName) ({ cls := "WeightedNetwork", name := "ties", desc := "()I" } : Jvm.MethodName)) ∈ lw_all := lw_g (lw_at lw_m1 160 rfl) rfl
theorem q179 : (Jvm.Cond.code ({ cls := "WeightedNetwork", name := "ties", desc := "()I" } : Jvm.MethodName) prog_1_method_28_code (2 : Nat) (Option.some Jvm.ClassFile.FieldType.int)) ∈ lw_all := lw_g (lw_at lw_m1 161 rfl) rfl
theorem q180 : (Jvm.Cond.methodLink "WeightedNetwork" (126 : Nat) ({ cls := "WeightedNetwork", name := "countUpTo", desc := "(I)I" } : Jvm.MethodName)) ∈ lw_all := lw_g (lw_at lw_m1 162 rfl) rfl
theorem q181 : (Jvm.Cond.privateMethod ({ cls := "WeightedNetwork", name := "countUpTo", desc := "(I)I" } : Jvm.MethodName)) ∈ lw_tbl := lw_at lw_m1 163 rfl
theorem q182 : (Jvm.Cond.instanceMethod ({ cls := "WeightedNetwork", name := "countUpTo", desc := "(I)I" } : Jvm.MethodName)) ∈ lw_all := lw_g (lw_at lw_m1 164 rfl) rfl
theorem q183 : (Jvm.Cond.code ({ cls := "WeightedNetwork", name := "countUpTo", desc := "(I)I" } : Jvm.MethodName) prog_1_method_27_code (2 : Nat) (Option.some Jvm.ClassFile.FieldType.int)) ∈ lw_all := lw_g (lw_at lw_m1 165 rfl) rfl
theorem q185 : (Jvm.Cond.instanceMethod ({ cls := "WeightedNetwork", name := "allowed", desc := "()I" } : Jvm.MethodName)) ∈ lw_all := lw_g (lw_at lw_m1 167 rfl) rfl
theorem q186 : (Jvm.Cond.selects "WeightedNetwork" ({ cls := "WeightedNetwork", name := "allowed", desc := "()I" } : Jvm.MethodName) ({ cls := "WeightedNetwork", name := "allowed", desc := "()I" } : Jvm.MethodName)) ∈ lw_all := lw_g (lw_at lw_m1 168 rfl) rfl
theorem q187 : (Jvm.Cond.code ({ cls := "WeightedNetwork", name := "allowed", desc := "()I" } : Jvm.MethodName) prog_1_method_29_code (1 : Nat) (Option.some Jvm.ClassFile.FieldType.int)) ∈ lw_all := lw_g (lw_at lw_m1 169 rfl) rfl
theorem q189 : (Jvm.Cond.instanceMethod ({ cls := "WeightedNetwork", name := "upTo", desc := "(I)I" } : Jvm.MethodName)) ∈ lw_all := lw_g (lw_at lw_m1 171 rfl) rfl
theorem q190 : (Jvm.Cond.selects "WeightedNetwork" ({ cls := "WeightedNetwork", name := "upTo", desc := "(I)I" } : Jvm.MethodName) ({ cls := "WeightedNetwork", name := "upTo", desc := "(I)I" } : Jvm.MethodName)) ∈ lw_all := lw_g (lw_at lw_m1 172 rfl) rfl
theorem q191 : (Jvm.Cond.code ({ cls := "WeightedNetwork", name := "upTo", desc := "(I)I" } : Jvm.MethodName) prog_1_method_30_code (2 : Nat) (Option.some Jvm.ClassFile.FieldType.int)) ∈ lw_all := lw_g (lw_at lw_m1 173 rfl) rfl
theorem q193 : (Jvm.Cond.instanceMethod ({ cls := "WeightedNetwork", name := "canAgree", desc := "(II)Z" } : Jvm.MethodName)) ∈ lw_all := lw_g (lw_at lw_m1 175 rfl) rfl
theorem q194 : (Jvm.Cond.selects "WeightedNetwork" ({ cls := "WeightedNetwork", name := "canAgree", desc := "(II)Z" } : Jvm.MethodName) ({ cls := "WeightedNetwork", name := "canAgree", desc := "(II)Z" } : Jvm.MethodName)) ∈ lw_all := lw_g (lw_at lw_m1 176 rfl) rfl
theorem q195 : (Jvm.Cond.code ({ cls := "WeightedNetwork", name := "canAgree", desc := "(II)Z" } : Jvm.MethodName) prog_1_method_31_code (6 : Nat) (Option.some Jvm.ClassFile.FieldType.boolean)) ∈ lw_all := lw_g (lw_at lw_m1 177 rfl) rfl
theorem in_X0 : ∀ w ∈ wsX00, w ∈ lw_all := lw_in wsX00 [45, 47, 49, 51, 53, 55, 57, 59, 61, 63, 65, 67, 69, 71, 73, 75] (by decide +kernel) (by decide +kernel)
theorem q20 : (Jvm.Cond.initialized "WeightedNetworkModel") ∈ lw_all := lw_g (lw_at lw_m1 2 rfl) rfl
theorem q197 : (Jvm.Cond.instantiable "WeightedNetworkModel" (7 : Nat)) ∈ lw_all := lw_g (lw_at lw_m1 179 rfl) rfl
theorem q199 : (Jvm.Cond.instanceMethod ({ cls := "WeightedNetworkModel", name := "<init>", desc := "()V" } : Jvm.MethodName)) ∈ lw_all := lw_g (lw_at lw_m1 181 rfl) rfl
theorem q200 : (Jvm.Cond.code ({ cls := "WeightedNetworkModel", name := "<init>", desc := "()V" } : Jvm.MethodName) prog_3_method_1_code (1 : Nat) (Option.none : Option Jvm.ClassFile.FieldType)) ∈ lw_all := lw_g (lw_at lw_m1 182 rfl) rfl
theorem q201 : (Jvm.Cond.methodLink "WeightedNetworkModel" (1 : Nat) ({ cls := "java/lang/Object", name := "<init>", desc := "()V" } : Jvm.MethodName)) ∈ lw_all := lw_g (lw_at lw_m1 183 rfl) rfl
theorem q202 : (Jvm.Cond.fieldLink "WeightedNetworkModel" (7 : Nat) "WeightedNetworkModel" "costs" "[I") ∈ lw_all := lw_g (lw_at lw_m1 184 rfl) rfl
theorem q203 : (Jvm.Cond.fieldLink "WeightedNetworkModel" (13 : Nat) "WeightedNetworkModel" "xs" "[I") ∈ lw_all := lw_g (lw_at lw_m1 185 rfl) rfl
theorem q204 : (Jvm.Cond.fieldLink "WeightedNetworkModel" (16 : Nat) "WeightedNetworkModel" "ys" "[I") ∈ lw_all := lw_g (lw_at lw_m1 186 rfl) rfl
theorem q205 : (Jvm.Cond.fieldLink "WeightedNetworkModel" (19 : Nat) "WeightedNetworkModel" "pairs" "[I") ∈ lw_all := lw_g (lw_at lw_m1 187 rfl) rfl
theorem q206 : (Jvm.Cond.fieldLink "WeightedNetworkModel" (33 : Nat) "WeightedNetworkModel" "tables" "I") ∈ lw_all := lw_g (lw_at lw_m1 188 rfl) rfl
theorem q207 : (Jvm.Cond.fieldLink "WeightedNetworkModel" (22 : Nat) "WeightedNetworkModel" "totals" "[I") ∈ lw_all := lw_g (lw_at lw_m1 189 rfl) rfl
theorem q208 : (Jvm.Cond.fieldLink "WeightedNetworkModel" (29 : Nat) "WeightedNetworkModel" "known" "Z") ∈ lw_all := lw_g (lw_at lw_m1 190 rfl) rfl
theorem q209 : (Jvm.Cond.laysFinal "WeightedNetworkModel" "WeightedNetworkModel" "costs" "[I") ∈ lw_all := lw_g (lw_at lw_m1 191 rfl) rfl
theorem q210 : (Jvm.Cond.soleField "WeightedNetworkModel" "costs") ∈ lw_all := lw_g (lw_at lw_m1 192 rfl) rfl
theorem q211 : (Jvm.Cond.laysFinal "WeightedNetworkModel" "WeightedNetworkModel" "xs" "[I") ∈ lw_all := lw_g (lw_at lw_m1 193 rfl) rfl
theorem q212 : (Jvm.Cond.soleField "WeightedNetworkModel" "xs") ∈ lw_all := lw_g (lw_at lw_m1 194 rfl) rfl
theorem q213 : (Jvm.Cond.laysFinal "WeightedNetworkModel" "WeightedNetworkModel" "ys" "[I") ∈ lw_all := lw_g (lw_at lw_m1 195 rfl) rfl
theorem q214 : (Jvm.Cond.soleField "WeightedNetworkModel" "ys") ∈ lw_all := lw_g (lw_at lw_m1 196 rfl) rfl
theorem q215 : (Jvm.Cond.laysFinal "WeightedNetworkModel" "WeightedNetworkModel" "pairs" "[I") ∈ lw_all := lw_g (lw_at lw_m1 197 rfl) rfl
theorem q216 : (Jvm.Cond.soleField "WeightedNetworkModel" "pairs") ∈ lw_all := lw_g (lw_at lw_m1 198 rfl) rfl
theorem q217 : (Jvm.Cond.lays "WeightedNetworkModel" "WeightedNetworkModel" "tables" "I") ∈ lw_all := lw_g (lw_at lw_m1 199 rfl) rfl
theorem q218 : (Jvm.Cond.soleField "WeightedNetworkModel" "tables") ∈ lw_all := lw_g (lw_at lw_m1 200 rfl) rfl
theorem q219 : (Jvm.Cond.laysFinal "WeightedNetworkModel" "WeightedNetworkModel" "totals" "[I") ∈ lw_all := lw_g (lw_at lw_m1 201 rfl) rfl
theorem q220 : (Jvm.Cond.soleField "WeightedNetworkModel" "totals") ∈ lw_all := lw_g (lw_at lw_m1 202 rfl) rfl
theorem q221 : (Jvm.Cond.lays "WeightedNetworkModel" "WeightedNetworkModel" "known" "Z") ∈ lw_all := lw_g (lw_at lw_m1 203 rfl) rfl
theorem q222 : (Jvm.Cond.soleField "WeightedNetworkModel" "known") ∈ lw_all := lw_g (lw_at lw_m1 204 rfl) rfl
theorem q223 : (Jvm.Cond.superclass "WeightedNetworkModel" "java/lang/Object") ∈ lw_all := lw_g (lw_at lw_m1 205 rfl) rfl
theorem q225 : (Jvm.Cond.instanceMethod ({ cls := "WeightedNetworkModel", name := "cost", desc := "(III)I" } : Jvm.MethodName)) ∈ lw_all := lw_g (lw_at lw_m1 207 rfl) rfl
theorem q226 : (Jvm.Cond.selects "WeightedNetworkModel" ({ cls := "WeightedNetworkModel", name := "cost", desc := "(III)I" } : Jvm.MethodName) ({ cls := "WeightedNetworkModel", name := "cost", desc := "(III)I" } : Jvm.MethodName)) ∈ lw_all := lw_g (lw_at lw_m1 208 rfl) rfl
theorem q227 : (Jvm.Cond.code ({ cls := "WeightedNetworkModel", name := "cost", desc := "(III)I" } : Jvm.MethodName) prog_3_method_3_code (5 : Nat) (Option.some Jvm.ClassFile.FieldType.int)) ∈ lw_all := lw_g (lw_at lw_m1 209 rfl) rfl
theorem q228 : (Jvm.Cond.methodLink "WeightedNetworkModel" (25 : Nat) ({ cls := "WeightedNetworkModel", name := "isVariable", desc := "(I)Z" } : Jvm.MethodName)) ∈ lw_all := lw_g (lw_at lw_m1 210 rfl) rfl
theorem q229 : (Jvm.Cond.privateMethod ({ cls := "WeightedNetworkModel", name := "isVariable", desc := "(I)Z" } : Jvm.MethodName)) ∈ lw_tbl := lw_at lw_m1 211 rfl
theorem q230 : (Jvm.Cond.instanceMethod ({ cls := "WeightedNetworkModel", name := "isVariable", desc := "(I)Z" } : Jvm.MethodName)) ∈ lw_all := lw_g (lw_at lw_m1 212 rfl) rfl
theorem q231 : (Jvm.Cond.code ({ cls := "WeightedNetworkModel", name := "isVariable", desc := "(I)Z" } : Jvm.MethodName) prog_3_method_2_code (2 : Nat) (Option.some Jvm.ClassFile.FieldType.boolean)) ∈ lw_all := lw_g (lw_at lw_m1 213 rfl) rfl
theorem q233 : (Jvm.Cond.instanceMethod ({ cls := "WeightedNetworkModel", name := "table", desc := "(II)I" } : Jvm.MethodName)) ∈ lw_all := lw_g (lw_at lw_m1 215 rfl) rfl
theorem q234 : (Jvm.Cond.selects "WeightedNetworkModel" ({ cls := "WeightedNetworkModel", name := "table", desc := "(II)I" } : Jvm.MethodName) ({ cls := "WeightedNetworkModel", name := "table", desc := "(II)I" } : Jvm.MethodName)) ∈ lw_all := lw_g (lw_at lw_m1 216 rfl) rfl
theorem q235 : (Jvm.Cond.code ({ cls := "WeightedNetworkModel", name := "table", desc := "(II)I" } : Jvm.MethodName) prog_3_method_4_code (4 : Nat) (Option.some Jvm.ClassFile.FieldType.int)) ∈ lw_all := lw_g (lw_at lw_m1 217 rfl) rfl
theorem q237 : (Jvm.Cond.instanceMethod ({ cls := "WeightedNetworkModel", name := "pair", desc := "(III)I" } : Jvm.MethodName)) ∈ lw_all := lw_g (lw_at lw_m1 219 rfl) rfl
theorem q238 : (Jvm.Cond.selects "WeightedNetworkModel" ({ cls := "WeightedNetworkModel", name := "pair", desc := "(III)I" } : Jvm.MethodName) ({ cls := "WeightedNetworkModel", name := "pair", desc := "(III)I" } : Jvm.MethodName)) ∈ lw_all := lw_g (lw_at lw_m1 220 rfl) rfl
theorem q239 : (Jvm.Cond.code ({ cls := "WeightedNetworkModel", name := "pair", desc := "(III)I" } : Jvm.MethodName) prog_3_method_5_code (5 : Nat) (Option.some Jvm.ClassFile.FieldType.int)) ∈ lw_all := lw_g (lw_at lw_m1 221 rfl) rfl
theorem q241 : (Jvm.Cond.instanceMethod ({ cls := "WeightedNetworkModel", name := "drop", desc := "()I" } : Jvm.MethodName)) ∈ lw_all := lw_g (lw_at lw_m1 223 rfl) rfl
theorem q242 : (Jvm.Cond.selects "WeightedNetworkModel" ({ cls := "WeightedNetworkModel", name := "drop", desc := "()I" } : Jvm.MethodName) ({ cls := "WeightedNetworkModel", name := "drop", desc := "()I" } : Jvm.MethodName)) ∈ lw_all := lw_g (lw_at lw_m1 224 rfl) rfl
theorem q243 : (Jvm.Cond.code ({ cls := "WeightedNetworkModel", name := "drop", desc := "()I" } : Jvm.MethodName) prog_3_method_6_code (1 : Nat) (Option.some Jvm.ClassFile.FieldType.int)) ∈ lw_all := lw_g (lw_at lw_m1 225 rfl) rfl
theorem q245 : (Jvm.Cond.instanceMethod ({ cls := "WeightedNetworkModel", name := "least", desc := "()I" } : Jvm.MethodName)) ∈ lw_all := lw_g (lw_at lw_m1 227 rfl) rfl
theorem q246 : (Jvm.Cond.selects "WeightedNetworkModel" ({ cls := "WeightedNetworkModel", name := "least", desc := "()I" } : Jvm.MethodName) ({ cls := "WeightedNetworkModel", name := "least", desc := "()I" } : Jvm.MethodName)) ∈ lw_all := lw_g (lw_at lw_m1 228 rfl) rfl
theorem q247 : (Jvm.Cond.code ({ cls := "WeightedNetworkModel", name := "least", desc := "()I" } : Jvm.MethodName) prog_3_method_11_code (2 : Nat) (Option.some Jvm.ClassFile.FieldType.int)) ∈ lw_all := lw_g (lw_at lw_m1 229 rfl) rfl
theorem q248 : (Jvm.Cond.methodLink "WeightedNetworkModel" (48 : Nat) ({ cls := "WeightedNetworkModel", name := "first", desc := "()I" } : Jvm.MethodName)) ∈ lw_all := lw_g (lw_at lw_m1 230 rfl) rfl
theorem q249 : (Jvm.Cond.privateMethod ({ cls := "WeightedNetworkModel", name := "first", desc := "()I" } : Jvm.MethodName)) ∈ lw_tbl := lw_at lw_m1 231 rfl
theorem q250 : (Jvm.Cond.instanceMethod ({ cls := "WeightedNetworkModel", name := "first", desc := "()I" } : Jvm.MethodName)) ∈ lw_all := lw_g (lw_at lw_m1 232 rfl) rfl
theorem q251 : (Jvm.Cond.code ({ cls := "WeightedNetworkModel", name := "first", desc := "()I" } : Jvm.MethodName) prog_3_method_10_code (3 : Nat) (Option.some Jvm.ClassFile.FieldType.int)) ∈ lw_all := lw_g (lw_at lw_m1 233 rfl) rfl
theorem q252 : (Jvm.Cond.methodLink "WeightedNetworkModel" (45 : Nat) ({ cls := "WeightedNetworkModel", name := "work", desc := "()V" } : Jvm.MethodName)) ∈ lw_all := lw_g (lw_at lw_m1 234 rfl) rfl
theorem q253 : (Jvm.Cond.privateMethod ({ cls := "WeightedNetworkModel", name := "work", desc := "()V" } : Jvm.MethodName)) ∈ lw_tbl := lw_at lw_m1 235 rfl
theorem q254 : (Jvm.Cond.instanceMethod ({ cls := "WeightedNetworkModel", name := "work", desc := "()V" } : Jvm.MethodName)) ∈ lw_all := lw_g (lw_at lw_m1 236 rfl) rfl
theorem q255 : (Jvm.Cond.code ({ cls := "WeightedNetworkModel", name := "work", desc := "()V" } : Jvm.MethodName) prog_3_method_9_code (2 : Nat) (Option.none : Option Jvm.ClassFile.FieldType)) ∈ lw_all := lw_g (lw_at lw_m1 237 rfl) rfl
theorem q256 : (Jvm.Cond.methodLink "WeightedNetworkModel" (41 : Nat) ({ cls := "WeightedNetworkModel", name := "totalOf", desc := "(I)I" } : Jvm.MethodName)) ∈ lw_all := lw_g (lw_at lw_m1 238 rfl) rfl
theorem q257 : (Jvm.Cond.privateMethod ({ cls := "WeightedNetworkModel", name := "totalOf", desc := "(I)I" } : Jvm.MethodName)) ∈ lw_tbl := lw_at lw_m1 239 rfl
theorem q258 : (Jvm.Cond.instanceMethod ({ cls := "WeightedNetworkModel", name := "totalOf", desc := "(I)I" } : Jvm.MethodName)) ∈ lw_all := lw_g (lw_at lw_m2 0 rfl) rfl
theorem q259 : (Jvm.Cond.code ({ cls := "WeightedNetworkModel", name := "totalOf", desc := "(I)I" } : Jvm.MethodName) prog_3_method_8_code (6 : Nat) (Option.some Jvm.ClassFile.FieldType.int)) ∈ lw_all := lw_g (lw_at lw_m2 1 rfl) rfl
theorem q260 : (Jvm.Cond.methodLink "WeightedNetworkModel" (37 : Nat) ({ cls := "WeightedNetworkModel", name := "valueIn", desc := "(II)I" } : Jvm.MethodName)) ∈ lw_all := lw_g (lw_at lw_m2 2 rfl) rfl
theorem q261 : (Jvm.Cond.privateMethod ({ cls := "WeightedNetworkModel", name := "valueIn", desc := "(II)I" } : Jvm.MethodName)) ∈ lw_tbl := lw_at lw_m2 3 rfl
theorem q262 : (Jvm.Cond.instanceMethod ({ cls := "WeightedNetworkModel", name := "valueIn", desc := "(II)I" } : Jvm.MethodName)) ∈ lw_all := lw_g (lw_at lw_m2 4 rfl) rfl
theorem q263 : (Jvm.Cond.code ({ cls := "WeightedNetworkModel", name := "valueIn", desc := "(II)I" } : Jvm.MethodName) prog_3_method_7_code (5 : Nat) (Option.some Jvm.ClassFile.FieldType.int)) ∈ lw_all := lw_g (lw_at lw_m2 5 rfl) rfl
theorem q265 : (Jvm.Cond.instanceMethod ({ cls := "WeightedNetworkModel", name := "value", desc := "(I)I" } : Jvm.MethodName)) ∈ lw_all := lw_g (lw_at lw_m2 7 rfl) rfl
theorem q266 : (Jvm.Cond.selects "WeightedNetworkModel" ({ cls := "WeightedNetworkModel", name := "value", desc := "(I)I" } : Jvm.MethodName) ({ cls := "WeightedNetworkModel", name := "value", desc := "(I)I" } : Jvm.MethodName)) ∈ lw_all := lw_g (lw_at lw_m2 8 rfl) rfl
theorem q267 : (Jvm.Cond.code ({ cls := "WeightedNetworkModel", name := "value", desc := "(I)I" } : Jvm.MethodName) prog_3_method_12_code (3 : Nat) (Option.some Jvm.ClassFile.FieldType.int)) ∈ lw_all := lw_g (lw_at lw_m2 9 rfl) rfl
theorem q269 : (Jvm.Cond.instanceMethod ({ cls := "WeightedNetworkModel", name := "leastWith", desc := "(II)I" } : Jvm.MethodName)) ∈ lw_all := lw_g (lw_at lw_m2 11 rfl) rfl
theorem q270 : (Jvm.Cond.selects "WeightedNetworkModel" ({ cls := "WeightedNetworkModel", name := "leastWith", desc := "(II)I" } : Jvm.MethodName) ({ cls := "WeightedNetworkModel", name := "leastWith", desc := "(II)I" } : Jvm.MethodName)) ∈ lw_all := lw_g (lw_at lw_m2 12 rfl) rfl
theorem q271 : (Jvm.Cond.code ({ cls := "WeightedNetworkModel", name := "leastWith", desc := "(II)I" } : Jvm.MethodName) prog_3_method_13_code (6 : Nat) (Option.some Jvm.ClassFile.FieldType.int)) ∈ lw_all := lw_g (lw_at lw_m2 13 rfl) rfl
theorem q273 : (Jvm.Cond.instanceMethod ({ cls := "WeightedNetworkModel", name := "ties", desc := "()I" } : Jvm.MethodName)) ∈ lw_all := lw_g (lw_at lw_m2 15 rfl) rfl
theorem q274 : (Jvm.Cond.selects "WeightedNetworkModel" ({ cls := "WeightedNetworkModel", name := "ties", desc := "()I" } : Jvm.MethodName) ({ cls := "WeightedNetworkModel", name := "ties", desc := "()I" } : Jvm.MethodName)) ∈ lw_all := lw_g (lw_at lw_m2 16 rfl) rfl
theorem q275 : (Jvm.Cond.code ({ cls := "WeightedNetworkModel", name := "ties", desc := "()I" } : Jvm.MethodName) prog_3_method_14_code (2 : Nat) (Option.some Jvm.ClassFile.FieldType.int)) ∈ lw_all := lw_g (lw_at lw_m2 17 rfl) rfl
theorem q276 : (Jvm.Cond.methodLink "WeightedNetworkModel" (52 : Nat) ({ cls := "WeightedNetworkModel", name := "least", desc := "()I" } : Jvm.MethodName)) ∈ lw_all := lw_g (lw_at lw_m2 18 rfl) rfl
theorem q277 : (Jvm.Cond.methodLink "WeightedNetworkModel" (55 : Nat) ({ cls := "WeightedNetworkModel", name := "upTo", desc := "(I)I" } : Jvm.MethodName)) ∈ lw_all := lw_g (lw_at lw_m2 19 rfl) rfl
theorem q278 : (Jvm.Cond.instanceMethod ({ cls := "WeightedNetworkModel", name := "upTo", desc := "(I)I" } : Jvm.MethodName)) ∈ lw_all := lw_g (lw_at lw_m2 20 rfl) rfl
theorem q279 : (Jvm.Cond.selects "WeightedNetworkModel" ({ cls := "WeightedNetworkModel", name := "upTo", desc := "(I)I" } : Jvm.MethodName) ({ cls := "WeightedNetworkModel", name := "upTo", desc := "(I)I" } : Jvm.MethodName)) ∈ lw_all := lw_g (lw_at lw_m2 21 rfl) rfl
theorem q280 : (Jvm.Cond.code ({ cls := "WeightedNetworkModel", name := "upTo", desc := "(I)I" } : Jvm.MethodName) prog_3_method_16_code (4 : Nat) (Option.some Jvm.ClassFile.FieldType.int)) ∈ lw_all := lw_g (lw_at lw_m2 22 rfl) rfl
theorem q282 : (Jvm.Cond.instanceMethod ({ cls := "WeightedNetworkModel", name := "allowed", desc := "()I" } : Jvm.MethodName)) ∈ lw_all := lw_g (lw_at lw_m2 24 rfl) rfl
theorem q283 : (Jvm.Cond.selects "WeightedNetworkModel" ({ cls := "WeightedNetworkModel", name := "allowed", desc := "()I" } : Jvm.MethodName) ({ cls := "WeightedNetworkModel", name := "allowed", desc := "()I" } : Jvm.MethodName)) ∈ lw_all := lw_g (lw_at lw_m2 25 rfl) rfl
theorem q284 : (Jvm.Cond.code ({ cls := "WeightedNetworkModel", name := "allowed", desc := "()I" } : Jvm.MethodName) prog_3_method_15_code (1 : Nat) (Option.some Jvm.ClassFile.FieldType.int)) ∈ lw_all := lw_g (lw_at lw_m2 26 rfl) rfl
theorem q287 : (Jvm.Cond.instanceMethod ({ cls := "WeightedNetworkModel", name := "canAgree", desc := "(II)Z" } : Jvm.MethodName)) ∈ lw_all := lw_g (lw_at lw_m2 29 rfl) rfl
theorem q288 : (Jvm.Cond.selects "WeightedNetworkModel" ({ cls := "WeightedNetworkModel", name := "canAgree", desc := "(II)Z" } : Jvm.MethodName) ({ cls := "WeightedNetworkModel", name := "canAgree", desc := "(II)Z" } : Jvm.MethodName)) ∈ lw_all := lw_g (lw_at lw_m2 30 rfl) rfl
theorem q289 : (Jvm.Cond.code ({ cls := "WeightedNetworkModel", name := "canAgree", desc := "(II)Z" } : Jvm.MethodName) prog_3_method_17_code (5 : Nat) (Option.some Jvm.ClassFile.FieldType.boolean)) ∈ lw_all := lw_g (lw_at lw_m2 31 rfl) rfl
theorem in_X1 : ∀ w ∈ wsX10, w ∈ lw_all := lw_in wsX10 [209, 211, 213, 215, 217, 219, 221] (by decide +kernel) (by decide +kernel)
theorem q27 : (Jvm.Cond.instanceMethod ({ cls := "java/lang/Object", name := "<init>", desc := "()V" } : Jvm.MethodName)) ∈ lw_all := lw_g (lw_at lw_m1 9 rfl) rfl
theorem q28 : (Jvm.Cond.code ({ cls := "java/lang/Object", name := "<init>", desc := "()V" } : Jvm.MethodName) object_method_1_code (1 : Nat) (Option.none : Option Jvm.ClassFile.FieldType)) ∈ lw_all := lw_g (lw_at lw_m1 10 rfl) rfl
theorem q18 : (Jvm.Cond.initialized "WeightedNetworkLaw") ∈ lw_all := lw_g (lw_at lw_m1 0 rfl) rfl
theorem q21 : (Jvm.Cond.classLink "WeightedNetworkLaw" (7 : Nat) "WeightedNetwork") ∈ lw_all := lw_g (lw_at lw_m1 3 rfl) rfl
theorem q23 : (Jvm.Cond.methodLink "WeightedNetworkLaw" (9 : Nat) ({ cls := "WeightedNetwork", name := "<init>", desc := "()V" } : Jvm.MethodName)) ∈ lw_all := lw_g (lw_at lw_m1 5 rfl) rfl
theorem q79 : (Jvm.Cond.methodLink "WeightedNetworkLaw" (13 : Nat) ({ cls := "WeightedNetwork", name := "cost", desc := "(III)I" } : Jvm.MethodName)) ∈ lw_all := lw_g (lw_at lw_m1 61 rfl) rfl
theorem q89 : (Jvm.Cond.methodLink "WeightedNetworkLaw" (18 : Nat) ({ cls := "WeightedNetwork", name := "table", desc := "(II)I" } : Jvm.MethodName)) ∈ lw_all := lw_g (lw_at lw_m1 71 rfl) rfl
theorem q93 : (Jvm.Cond.methodLink "WeightedNetworkLaw" (23 : Nat) ({ cls := "WeightedNetwork", name := "pair", desc := "(III)I" } : Jvm.MethodName)) ∈ lw_all := lw_g (lw_at lw_m1 75 rfl) rfl
theorem q97 : (Jvm.Cond.methodLink "WeightedNetworkLaw" (27 : Nat) ({ cls := "WeightedNetwork", name := "drop", desc := "()I" } : Jvm.MethodName)) ∈ lw_all := lw_g (lw_at lw_m1 79 rfl) rfl
theorem q101 : (Jvm.Cond.methodLink "WeightedNetworkLaw" (32 : Nat) ({ cls := "WeightedNetwork", name := "least", desc := "()I" } : Jvm.MethodName)) ∈ lw_all := lw_g (lw_at lw_m1 83 rfl) rfl
theorem q168 : (Jvm.Cond.methodLink "WeightedNetworkLaw" (36 : Nat) ({ cls := "WeightedNetwork", name := "value", desc := "(I)I" } : Jvm.MethodName)) ∈ lw_all := lw_g (lw_at lw_m1 150 rfl) rfl
theorem q172 : (Jvm.Cond.methodLink "WeightedNetworkLaw" (41 : Nat) ({ cls := "WeightedNetwork", name := "leastWith", desc := "(II)I" } : Jvm.MethodName)) ∈ lw_all := lw_g (lw_at lw_m1 154 rfl) rfl
theorem q176 : (Jvm.Cond.methodLink "WeightedNetworkLaw" (45 : Nat) ({ cls := "WeightedNetwork", name := "ties", desc := "()I" } : Jvm.MethodName)) ∈ lw_all := lw_g (lw_at lw_m1 158 rfl) rfl
theorem q184 : (Jvm.Cond.methodLink "WeightedNetworkLaw" (49 : Nat) ({ cls := "WeightedNetwork", name := "allowed", desc := "()I" } : Jvm.MethodName)) ∈ lw_all := lw_g (lw_at lw_m1 166 rfl) rfl
theorem q188 : (Jvm.Cond.methodLink "WeightedNetworkLaw" (53 : Nat) ({ cls := "WeightedNetwork", name := "upTo", desc := "(I)I" } : Jvm.MethodName)) ∈ lw_all := lw_g (lw_at lw_m1 170 rfl) rfl
theorem q192 : (Jvm.Cond.methodLink "WeightedNetworkLaw" (57 : Nat) ({ cls := "WeightedNetwork", name := "canAgree", desc := "(II)Z" } : Jvm.MethodName)) ∈ lw_all := lw_g (lw_at lw_m1 174 rfl) rfl
theorem q196 : (Jvm.Cond.classLink "WeightedNetworkLaw" (10 : Nat) "WeightedNetworkModel") ∈ lw_all := lw_g (lw_at lw_m1 178 rfl) rfl
theorem q198 : (Jvm.Cond.methodLink "WeightedNetworkLaw" (12 : Nat) ({ cls := "WeightedNetworkModel", name := "<init>", desc := "()V" } : Jvm.MethodName)) ∈ lw_all := lw_g (lw_at lw_m1 180 rfl) rfl
theorem q224 : (Jvm.Cond.methodLink "WeightedNetworkLaw" (17 : Nat) ({ cls := "WeightedNetworkModel", name := "cost", desc := "(III)I" } : Jvm.MethodName)) ∈ lw_all := lw_g (lw_at lw_m1 206 rfl) rfl
theorem q232 : (Jvm.Cond.methodLink "WeightedNetworkLaw" (22 : Nat) ({ cls := "WeightedNetworkModel", name := "table", desc := "(II)I" } : Jvm.MethodName)) ∈ lw_all := lw_g (lw_at lw_m1 214 rfl) rfl
theorem q236 : (Jvm.Cond.methodLink "WeightedNetworkLaw" (26 : Nat) ({ cls := "WeightedNetworkModel", name := "pair", desc := "(III)I" } : Jvm.MethodName)) ∈ lw_all := lw_g (lw_at lw_m1 218 rfl) rfl
theorem q240 : (Jvm.Cond.methodLink "WeightedNetworkLaw" (31 : Nat) ({ cls := "WeightedNetworkModel", name := "drop", desc := "()I" } : Jvm.MethodName)) ∈ lw_all := lw_g (lw_at lw_m1 222 rfl) rfl
theorem q244 : (Jvm.Cond.methodLink "WeightedNetworkLaw" (35 : Nat) ({ cls := "WeightedNetworkModel", name := "least", desc := "()I" } : Jvm.MethodName)) ∈ lw_all := lw_g (lw_at lw_m1 226 rfl) rfl
theorem q264 : (Jvm.Cond.methodLink "WeightedNetworkLaw" (40 : Nat) ({ cls := "WeightedNetworkModel", name := "value", desc := "(I)I" } : Jvm.MethodName)) ∈ lw_all := lw_g (lw_at lw_m2 6 rfl) rfl
theorem q268 : (Jvm.Cond.methodLink "WeightedNetworkLaw" (44 : Nat) ({ cls := "WeightedNetworkModel", name := "leastWith", desc := "(II)I" } : Jvm.MethodName)) ∈ lw_all := lw_g (lw_at lw_m2 10 rfl) rfl
theorem q272 : (Jvm.Cond.methodLink "WeightedNetworkLaw" (48 : Nat) ({ cls := "WeightedNetworkModel", name := "ties", desc := "()I" } : Jvm.MethodName)) ∈ lw_all := lw_g (lw_at lw_m2 14 rfl) rfl
theorem q281 : (Jvm.Cond.methodLink "WeightedNetworkLaw" (52 : Nat) ({ cls := "WeightedNetworkModel", name := "allowed", desc := "()I" } : Jvm.MethodName)) ∈ lw_all := lw_g (lw_at lw_m2 23 rfl) rfl
theorem q285 : (Jvm.Cond.methodLink "WeightedNetworkLaw" (56 : Nat) ({ cls := "WeightedNetworkModel", name := "upTo", desc := "(I)I" } : Jvm.MethodName)) ∈ lw_all := lw_g (lw_at lw_m2 27 rfl) rfl
theorem q286 : (Jvm.Cond.methodLink "WeightedNetworkLaw" (61 : Nat) ({ cls := "WeightedNetworkModel", name := "canAgree", desc := "(II)Z" } : Jvm.MethodName)) ∈ lw_all := lw_g (lw_at lw_m2 28 rfl) rfl
theorem q78 : (Jvm.Cond.arrayClass Jvm.ClassFile.FieldType.int) ∈ lw_all := lw_g (lw_at lw_m1 60 rfl) rfl
end
section
set_option maxRecDepth 100000
theorem dX0_init_0 : decode cX0_init 0 = .ok (.aload_n 0, 1) := by decide +kernel
theorem dX0_init_1 : decode cX0_init 1 = .ok (.invokespecial 1, 3) := by decide +kernel
theorem dX0_init_4 : decode cX0_init 4 = .ok (.aload_n 0, 1) := by decide +kernel
theorem dX0_init_5 : decode cX0_init 5 = .ok (.bipush 18, 2) := by decide +kernel
theorem dX0_init_7 : decode cX0_init 7 = .ok (.newarray .int, 2) := by decide +kernel
theorem dX0_init_9 : decode cX0_init 9 = .ok (.putfield 7, 3) := by decide +kernel
theorem dX0_init_12 : decode cX0_init 12 = .ok (.aload_n 0, 1) := by decide +kernel
theorem dX0_init_13 : decode cX0_init 13 = .ok (.bipush 8, 2) := by decide +kernel
theorem dX0_init_15 : decode cX0_init 15 = .ok (.newarray .int, 2) := by decide +kernel
theorem dX0_init_17 : decode cX0_init 17 = .ok (.putfield 13, 3) := by decide +kernel
theorem dX0_init_20 : decode cX0_init 20 = .ok (.aload_n 0, 1) := by decide +kernel
theorem dX0_init_21 : decode cX0_init 21 = .ok (.bipush 8, 2) := by decide +kernel
theorem dX0_init_23 : decode cX0_init 23 = .ok (.newarray .int, 2) := by decide +kernel
theorem dX0_init_25 : decode cX0_init 25 = .ok (.putfield 16, 3) := by decide +kernel
theorem dX0_init_28 : decode cX0_init 28 = .ok (.aload_n 0, 1) := by decide +kernel
theorem dX0_init_29 : decode cX0_init 29 = .ok (.bipush 72, 2) := by decide +kernel
theorem dX0_init_31 : decode cX0_init 31 = .ok (.newarray .int, 2) := by decide +kernel
theorem dX0_init_33 : decode cX0_init 33 = .ok (.putfield 19, 3) := by decide +kernel
theorem dX0_init_36 : decode cX0_init 36 = .ok (.aload_n 0, 1) := by decide +kernel
theorem dX0_init_37 : decode cX0_init 37 = .ok (.bipush 18, 2) := by decide +kernel
theorem dX0_init_39 : decode cX0_init 39 = .ok (.newarray .int, 2) := by decide +kernel
theorem dX0_init_41 : decode cX0_init 41 = .ok (.putfield 22, 3) := by decide +kernel
theorem dX0_init_44 : decode cX0_init 44 = .ok (.aload_n 0, 1) := by decide +kernel
theorem dX0_init_45 : decode cX0_init 45 = .ok (.bipush 72, 2) := by decide +kernel
theorem dX0_init_47 : decode cX0_init 47 = .ok (.newarray .int, 2) := by decide +kernel
theorem dX0_init_49 : decode cX0_init 49 = .ok (.putfield 25, 3) := by decide +kernel
theorem dX0_init_52 : decode cX0_init 52 = .ok (.aload_n 0, 1) := by decide +kernel
theorem dX0_init_53 : decode cX0_init 53 = .ok (.bipush 6, 2) := by decide +kernel
theorem dX0_init_55 : decode cX0_init 55 = .ok (.newarray .int, 2) := by decide +kernel
theorem dX0_init_57 : decode cX0_init 57 = .ok (.putfield 28, 3) := by decide +kernel
theorem dX0_init_60 : decode cX0_init 60 = .ok (.aload_n 0, 1) := by decide +kernel
theorem dX0_init_61 : decode cX0_init 61 = .ok (.bipush 6, 2) := by decide +kernel
theorem dX0_init_63 : decode cX0_init 63 = .ok (.newarray .int, 2) := by decide +kernel
theorem dX0_init_65 : decode cX0_init 65 = .ok (.putfield 31, 3) := by decide +kernel
theorem dX0_init_68 : decode cX0_init 68 = .ok (.aload_n 0, 1) := by decide +kernel
theorem dX0_init_69 : decode cX0_init 69 = .ok (.bipush 7, 2) := by decide +kernel
theorem dX0_init_71 : decode cX0_init 71 = .ok (.newarray .int, 2) := by decide +kernel
theorem dX0_init_73 : decode cX0_init 73 = .ok (.putfield 34, 3) := by decide +kernel
theorem dX0_init_76 : decode cX0_init 76 = .ok (.aload_n 0, 1) := by decide +kernel
theorem dX0_init_77 : decode cX0_init 77 = .ok (.bipush 6, 2) := by decide +kernel
theorem dX0_init_79 : decode cX0_init 79 = .ok (.newarray .int, 2) := by decide +kernel
theorem dX0_init_81 : decode cX0_init 81 = .ok (.putfield 37, 3) := by decide +kernel
theorem dX0_init_84 : decode cX0_init 84 = .ok (.aload_n 0, 1) := by decide +kernel
theorem dX0_init_85 : decode cX0_init 85 = .ok (.bipush 6, 2) := by decide +kernel
theorem dX0_init_87 : decode cX0_init 87 = .ok (.newarray .int, 2) := by decide +kernel
theorem dX0_init_89 : decode cX0_init 89 = .ok (.putfield 40, 3) := by decide +kernel
theorem dX0_init_92 : decode cX0_init 92 = .ok (.aload_n 0, 1) := by decide +kernel
theorem dX0_init_93 : decode cX0_init 93 = .ok (.iconst 0, 1) := by decide +kernel
theorem dX0_init_94 : decode cX0_init 94 = .ok (.putfield 43, 3) := by decide +kernel
theorem dX0_init_97 : decode cX0_init 97 = .ok (.return_, 1) := by decide +kernel
theorem dX0_cost_0 : decode cX0_cost 0 = .ok (.iload_n 1, 1) := by decide +kernel
theorem dX0_cost_1 : decode cX0_cost 1 = .ok (.invokestatic 47, 3) := by decide +kernel
theorem dX0_cost_4 : decode cX0_cost 4 = .ok (.ifCond .eq 5, 3) := by decide +kernel
theorem dX0_cost_7 : decode cX0_cost 7 = .ok (.iconst (-1), 1) := by decide +kernel
theorem dX0_cost_8 : decode cX0_cost 8 = .ok (.ireturn, 1) := by decide +kernel
theorem dX0_cost_9 : decode cX0_cost 9 = .ok (.iload_n 2, 1) := by decide +kernel
theorem dX0_cost_10 : decode cX0_cost 10 = .ok (.ifCond .lt 8, 3) := by decide +kernel
theorem dX0_cost_13 : decode cX0_cost 13 = .ok (.iload_n 2, 1) := by decide +kernel
theorem dX0_cost_14 : decode cX0_cost 14 = .ok (.iconst 3, 1) := by decide +kernel
theorem dX0_cost_15 : decode cX0_cost 15 = .ok (.if_icmp .lt 6, 3) := by decide +kernel
theorem dX0_cost_18 : decode cX0_cost 18 = .ok (.bipush (-2), 2) := by decide +kernel
theorem dX0_cost_20 : decode cX0_cost 20 = .ok (.ireturn, 1) := by decide +kernel
theorem dX0_cost_21 : decode cX0_cost 21 = .ok (.iload_n 3, 1) := by decide +kernel
theorem dX0_cost_22 : decode cX0_cost 22 = .ok (.invokestatic 51, 3) := by decide +kernel
theorem dX0_cost_25 : decode cX0_cost 25 = .ok (.ifCond .eq 6, 3) := by decide +kernel
theorem dX0_cost_28 : decode cX0_cost 28 = .ok (.bipush (-3), 2) := by decide +kernel
theorem dX0_cost_30 : decode cX0_cost 30 = .ok (.ireturn, 1) := by decide +kernel
theorem dX0_cost_31 : decode cX0_cost 31 = .ok (.aload_n 0, 1) := by decide +kernel
theorem dX0_cost_32 : decode cX0_cost 32 = .ok (.getfield 7, 3) := by decide +kernel
theorem dX0_cost_35 : decode cX0_cost 35 = .ok (.iload_n 1, 1) := by decide +kernel
theorem dX0_cost_36 : decode cX0_cost 36 = .ok (.iconst 3, 1) := by decide +kernel
theorem dX0_cost_37 : decode cX0_cost 37 = .ok (.imul, 1) := by decide +kernel
theorem dX0_cost_38 : decode cX0_cost 38 = .ok (.iload_n 2, 1) := by decide +kernel
theorem dX0_cost_39 : decode cX0_cost 39 = .ok (.iadd, 1) := by decide +kernel
theorem dX0_cost_40 : decode cX0_cost 40 = .ok (.iaload, 1) := by decide +kernel
theorem dX0_cost_41 : decode cX0_cost 41 = .ok (.istore 4, 2) := by decide +kernel
theorem dX0_cost_43 : decode cX0_cost 43 = .ok (.aload_n 0, 1) := by decide +kernel
theorem dX0_cost_44 : decode cX0_cost 44 = .ok (.getfield 7, 3) := by decide +kernel
theorem dX0_cost_47 : decode cX0_cost 47 = .ok (.iload_n 1, 1) := by decide +kernel
theorem dX0_cost_48 : decode cX0_cost 48 = .ok (.iconst 3, 1) := by decide +kernel
theorem dX0_cost_49 : decode cX0_cost 49 = .ok (.imul, 1) := by decide +kernel
theorem dX0_cost_50 : decode cX0_cost 50 = .ok (.iload_n 2, 1) := by decide +kernel
theorem dX0_cost_51 : decode cX0_cost 51 = .ok (.iadd, 1) := by decide +kernel
theorem dX0_cost_52 : decode cX0_cost 52 = .ok (.iload_n 3, 1) := by decide +kernel
theorem dX0_cost_53 : decode cX0_cost 53 = .ok (.iastore, 1) := by decide +kernel
theorem dX0_cost_54 : decode cX0_cost 54 = .ok (.aload_n 0, 1) := by decide +kernel
theorem dX0_cost_55 : decode cX0_cost 55 = .ok (.iconst 0, 1) := by decide +kernel
theorem dX0_cost_56 : decode cX0_cost 56 = .ok (.putfield 43, 3) := by decide +kernel
theorem dX0_cost_59 : decode cX0_cost 59 = .ok (.iload 4, 2) := by decide +kernel
theorem dX0_cost_61 : decode cX0_cost 61 = .ok (.ireturn, 1) := by decide +kernel
theorem dX0_badVariable_0 : decode cX0_badVariable 0 = .ok (.iload_n 0, 1) := by decide +kernel
theorem dX0_badVariable_1 : decode cX0_badVariable 1 = .ok (.ifCond .lt 9, 3) := by decide +kernel
theorem dX0_badVariable_4 : decode cX0_badVariable 4 = .ok (.iload_n 0, 1) := by decide +kernel
theorem dX0_badVariable_5 : decode cX0_badVariable 5 = .ok (.bipush 6, 2) := by decide +kernel
theorem dX0_badVariable_7 : decode cX0_badVariable 7 = .ok (.if_icmp .lt 7, 3) := by decide +kernel
theorem dX0_badVariable_10 : decode cX0_badVariable 10 = .ok (.iconst 1, 1) := by decide +kernel
theorem dX0_badVariable_11 : decode cX0_badVariable 11 = .ok (.goto 4, 3) := by decide +kernel
theorem dX0_badVariable_14 : decode cX0_badVariable 14 = .ok (.iconst 0, 1) := by decide +kernel
theorem dX0_badVariable_15 : decode cX0_badVariable 15 = .ok (.ireturn, 1) := by decide +kernel
theorem dX0_badCost_0 : decode cX0_badCost 0 = .ok (.iload_n 0, 1) := by decide +kernel
theorem dX0_badCost_1 : decode cX0_badCost 1 = .ok (.ifCond .lt 9, 3) := by decide +kernel
theorem dX0_badCost_4 : decode cX0_badCost 4 = .ok (.iload_n 0, 1) := by decide +kernel
theorem dX0_badCost_5 : decode cX0_badCost 5 = .ok (.bipush 20, 2) := by decide +kernel
theorem dX0_badCost_7 : decode cX0_badCost 7 = .ok (.if_icmp .le 7, 3) := by decide +kernel
theorem dX0_badCost_10 : decode cX0_badCost 10 = .ok (.iconst 1, 1) := by decide +kernel
theorem dX0_badCost_11 : decode cX0_badCost 11 = .ok (.goto 4, 3) := by decide +kernel
theorem dX0_badCost_14 : decode cX0_badCost 14 = .ok (.iconst 0, 1) := by decide +kernel
theorem dX0_badCost_15 : decode cX0_badCost 15 = .ok (.ireturn, 1) := by decide +kernel
theorem dX0_table_0 : decode cX0_table 0 = .ok (.iload_n 1, 1) := by decide +kernel
theorem dX0_table_1 : decode cX0_table 1 = .ok (.invokestatic 47, 3) := by decide +kernel
theorem dX0_table_4 : decode cX0_table 4 = .ok (.ifCond .ne 15, 3) := by decide +kernel
theorem dX0_table_7 : decode cX0_table 7 = .ok (.iload_n 2, 1) := by decide +kernel
theorem dX0_table_8 : decode cX0_table 8 = .ok (.invokestatic 47, 3) := by decide +kernel
theorem dX0_table_11 : decode cX0_table 11 = .ok (.ifCond .ne 8, 3) := by decide +kernel
theorem dX0_table_14 : decode cX0_table 14 = .ok (.iload_n 1, 1) := by decide +kernel
theorem dX0_table_15 : decode cX0_table 15 = .ok (.iload_n 2, 1) := by decide +kernel
theorem dX0_table_16 : decode cX0_table 16 = .ok (.if_icmp .ne 5, 3) := by decide +kernel
theorem dX0_table_19 : decode cX0_table 19 = .ok (.iconst (-1), 1) := by decide +kernel
theorem dX0_table_20 : decode cX0_table 20 = .ok (.ireturn, 1) := by decide +kernel
theorem dX0_table_21 : decode cX0_table 21 = .ok (.aload_n 0, 1) := by decide +kernel
theorem dX0_table_22 : decode cX0_table 22 = .ok (.getfield 54, 3) := by decide +kernel
theorem dX0_table_25 : decode cX0_table 25 = .ok (.bipush 8, 2) := by decide +kernel
theorem dX0_table_27 : decode cX0_table 27 = .ok (.if_icmp .lt 6, 3) := by decide +kernel
theorem dX0_table_30 : decode cX0_table 30 = .ok (.bipush (-5), 2) := by decide +kernel
theorem dX0_table_32 : decode cX0_table 32 = .ok (.ireturn, 1) := by decide +kernel
theorem dX0_table_33 : decode cX0_table 33 = .ok (.aload_n 0, 1) := by decide +kernel
theorem dX0_table_34 : decode cX0_table 34 = .ok (.getfield 13, 3) := by decide +kernel
theorem dX0_table_37 : decode cX0_table 37 = .ok (.aload_n 0, 1) := by decide +kernel
theorem dX0_table_38 : decode cX0_table 38 = .ok (.getfield 54, 3) := by decide +kernel
theorem dX0_table_41 : decode cX0_table 41 = .ok (.iload_n 1, 1) := by decide +kernel
theorem dX0_table_42 : decode cX0_table 42 = .ok (.iastore, 1) := by decide +kernel
theorem dX0_table_43 : decode cX0_table 43 = .ok (.aload_n 0, 1) := by decide +kernel
theorem dX0_table_44 : decode cX0_table 44 = .ok (.getfield 16, 3) := by decide +kernel
theorem dX0_table_47 : decode cX0_table 47 = .ok (.aload_n 0, 1) := by decide +kernel
theorem dX0_table_48 : decode cX0_table 48 = .ok (.getfield 54, 3) := by decide +kernel
theorem dX0_table_51 : decode cX0_table 51 = .ok (.iload_n 2, 1) := by decide +kernel
theorem dX0_table_52 : decode cX0_table 52 = .ok (.iastore, 1) := by decide +kernel
theorem dX0_table_53 : decode cX0_table 53 = .ok (.iconst 0, 1) := by decide +kernel
theorem dX0_table_54 : decode cX0_table 54 = .ok (.istore_n 3, 1) := by decide +kernel
theorem dX0_table_55 : decode cX0_table 55 = .ok (.iload_n 3, 1) := by decide +kernel
theorem dX0_table_56 : decode cX0_table 56 = .ok (.bipush 9, 2) := by decide +kernel
theorem dX0_table_58 : decode cX0_table 58 = .ok (.if_icmp .ge 24, 3) := by decide +kernel
theorem dX0_table_61 : decode cX0_table 61 = .ok (.aload_n 0, 1) := by decide +kernel
theorem dX0_table_62 : decode cX0_table 62 = .ok (.getfield 19, 3) := by decide +kernel
theorem dX0_table_65 : decode cX0_table 65 = .ok (.aload_n 0, 1) := by decide +kernel
theorem dX0_table_66 : decode cX0_table 66 = .ok (.getfield 54, 3) := by decide +kernel
theorem dX0_table_69 : decode cX0_table 69 = .ok (.bipush 9, 2) := by decide +kernel
theorem dX0_table_71 : decode cX0_table 71 = .ok (.imul, 1) := by decide +kernel
theorem dX0_table_72 : decode cX0_table 72 = .ok (.iload_n 3, 1) := by decide +kernel
theorem dX0_table_73 : decode cX0_table 73 = .ok (.iadd, 1) := by decide +kernel
theorem dX0_table_74 : decode cX0_table 74 = .ok (.iconst 0, 1) := by decide +kernel
theorem dX0_table_75 : decode cX0_table 75 = .ok (.iastore, 1) := by decide +kernel
theorem dX0_table_76 : decode cX0_table 76 = .ok (.iinc 3 1, 3) := by decide +kernel
theorem dX0_table_79 : decode cX0_table 79 = .ok (.goto (-24), 3) := by decide +kernel
theorem dX0_table_82 : decode cX0_table 82 = .ok (.aload_n 0, 1) := by decide +kernel
theorem dX0_table_83 : decode cX0_table 83 = .ok (.dup, 1) := by decide +kernel
theorem dX0_table_84 : decode cX0_table 84 = .ok (.getfield 54, 3) := by decide +kernel
theorem dX0_table_87 : decode cX0_table 87 = .ok (.iconst 1, 1) := by decide +kernel
theorem dX0_table_88 : decode cX0_table 88 = .ok (.iadd, 1) := by decide +kernel
theorem dX0_table_89 : decode cX0_table 89 = .ok (.putfield 54, 3) := by decide +kernel
theorem dX0_table_92 : decode cX0_table 92 = .ok (.aload_n 0, 1) := by decide +kernel
theorem dX0_table_93 : decode cX0_table 93 = .ok (.iconst 0, 1) := by decide +kernel
theorem dX0_table_94 : decode cX0_table 94 = .ok (.putfield 43, 3) := by decide +kernel
theorem dX0_table_97 : decode cX0_table 97 = .ok (.aload_n 0, 1) := by decide +kernel
theorem dX0_table_98 : decode cX0_table 98 = .ok (.getfield 54, 3) := by decide +kernel
theorem dX0_table_101 : decode cX0_table 101 = .ok (.iconst 1, 1) := by decide +kernel
theorem dX0_table_102 : decode cX0_table 102 = .ok (.isub, 1) := by decide +kernel
theorem dX0_table_103 : decode cX0_table 103 = .ok (.ireturn, 1) := by decide +kernel
theorem dX0_pair_0 : decode cX0_pair 0 = .ok (.iload_n 1, 1) := by decide +kernel
theorem dX0_pair_1 : decode cX0_pair 1 = .ok (.ifCond .lt 11, 3) := by decide +kernel
theorem dX0_pair_4 : decode cX0_pair 4 = .ok (.iload_n 1, 1) := by decide +kernel
theorem dX0_pair_5 : decode cX0_pair 5 = .ok (.aload_n 0, 1) := by decide +kernel
theorem dX0_pair_6 : decode cX0_pair 6 = .ok (.getfield 54, 3) := by decide +kernel
theorem dX0_pair_9 : decode cX0_pair 9 = .ok (.if_icmp .lt 6, 3) := by decide +kernel
theorem dX0_pair_12 : decode cX0_pair 12 = .ok (.bipush (-4), 2) := by decide +kernel
theorem dX0_pair_14 : decode cX0_pair 14 = .ok (.ireturn, 1) := by decide +kernel
theorem dX0_pair_15 : decode cX0_pair 15 = .ok (.iload_n 2, 1) := by decide +kernel
theorem dX0_pair_16 : decode cX0_pair 16 = .ok (.ifCond .lt 9, 3) := by decide +kernel
theorem dX0_pair_19 : decode cX0_pair 19 = .ok (.iload_n 2, 1) := by decide +kernel
theorem dX0_pair_20 : decode cX0_pair 20 = .ok (.bipush 8, 2) := by decide +kernel
theorem dX0_pair_22 : decode cX0_pair 22 = .ok (.if_icmp .le 6, 3) := by decide +kernel
theorem dX0_pair_25 : decode cX0_pair 25 = .ok (.bipush (-2), 2) := by decide +kernel
theorem dX0_pair_27 : decode cX0_pair 27 = .ok (.ireturn, 1) := by decide +kernel
theorem dX0_pair_28 : decode cX0_pair 28 = .ok (.iload_n 3, 1) := by decide +kernel
theorem dX0_pair_29 : decode cX0_pair 29 = .ok (.invokestatic 51, 3) := by decide +kernel
theorem dX0_pair_32 : decode cX0_pair 32 = .ok (.ifCond .eq 6, 3) := by decide +kernel
theorem dX0_pair_35 : decode cX0_pair 35 = .ok (.bipush (-3), 2) := by decide +kernel
theorem dX0_pair_37 : decode cX0_pair 37 = .ok (.ireturn, 1) := by decide +kernel
theorem dX0_pair_38 : decode cX0_pair 38 = .ok (.aload_n 0, 1) := by decide +kernel
theorem dX0_pair_39 : decode cX0_pair 39 = .ok (.getfield 19, 3) := by decide +kernel
theorem dX0_pair_42 : decode cX0_pair 42 = .ok (.iload_n 1, 1) := by decide +kernel
theorem dX0_pair_43 : decode cX0_pair 43 = .ok (.bipush 9, 2) := by decide +kernel
theorem dX0_pair_45 : decode cX0_pair 45 = .ok (.imul, 1) := by decide +kernel
theorem dX0_pair_46 : decode cX0_pair 46 = .ok (.iload_n 2, 1) := by decide +kernel
theorem dX0_pair_47 : decode cX0_pair 47 = .ok (.iadd, 1) := by decide +kernel
theorem dX0_pair_48 : decode cX0_pair 48 = .ok (.iaload, 1) := by decide +kernel
theorem dX0_pair_49 : decode cX0_pair 49 = .ok (.istore 4, 2) := by decide +kernel
theorem dX0_pair_51 : decode cX0_pair 51 = .ok (.aload_n 0, 1) := by decide +kernel
theorem dX0_pair_52 : decode cX0_pair 52 = .ok (.getfield 19, 3) := by decide +kernel
theorem dX0_pair_55 : decode cX0_pair 55 = .ok (.iload_n 1, 1) := by decide +kernel
theorem dX0_pair_56 : decode cX0_pair 56 = .ok (.bipush 9, 2) := by decide +kernel
theorem dX0_pair_58 : decode cX0_pair 58 = .ok (.imul, 1) := by decide +kernel
theorem dX0_pair_59 : decode cX0_pair 59 = .ok (.iload_n 2, 1) := by decide +kernel
theorem dX0_pair_60 : decode cX0_pair 60 = .ok (.iadd, 1) := by decide +kernel
theorem dX0_pair_61 : decode cX0_pair 61 = .ok (.iload_n 3, 1) := by decide +kernel
theorem dX0_pair_62 : decode cX0_pair 62 = .ok (.iastore, 1) := by decide +kernel
theorem dX0_pair_63 : decode cX0_pair 63 = .ok (.aload_n 0, 1) := by decide +kernel
theorem dX0_pair_64 : decode cX0_pair 64 = .ok (.iconst 0, 1) := by decide +kernel
theorem dX0_pair_65 : decode cX0_pair 65 = .ok (.putfield 43, 3) := by decide +kernel
theorem dX0_pair_68 : decode cX0_pair 68 = .ok (.iload 4, 2) := by decide +kernel
theorem dX0_pair_70 : decode cX0_pair 70 = .ok (.ireturn, 1) := by decide +kernel
theorem dX0_drop_0 : decode cX0_drop 0 = .ok (.aload_n 0, 1) := by decide +kernel
theorem dX0_drop_1 : decode cX0_drop 1 = .ok (.getfield 54, 3) := by decide +kernel
theorem dX0_drop_4 : decode cX0_drop 4 = .ok (.ifCond .ne 6, 3) := by decide +kernel
theorem dX0_drop_7 : decode cX0_drop 7 = .ok (.bipush (-4), 2) := by decide +kernel
theorem dX0_drop_9 : decode cX0_drop 9 = .ok (.ireturn, 1) := by decide +kernel
theorem dX0_drop_10 : decode cX0_drop 10 = .ok (.aload_n 0, 1) := by decide +kernel
theorem dX0_drop_11 : decode cX0_drop 11 = .ok (.dup, 1) := by decide +kernel
theorem dX0_drop_12 : decode cX0_drop 12 = .ok (.getfield 54, 3) := by decide +kernel
theorem dX0_drop_15 : decode cX0_drop 15 = .ok (.iconst 1, 1) := by decide +kernel
theorem dX0_drop_16 : decode cX0_drop 16 = .ok (.isub, 1) := by decide +kernel
theorem dX0_drop_17 : decode cX0_drop 17 = .ok (.putfield 54, 3) := by decide +kernel
theorem dX0_drop_20 : decode cX0_drop 20 = .ok (.aload_n 0, 1) := by decide +kernel
theorem dX0_drop_21 : decode cX0_drop 21 = .ok (.iconst 0, 1) := by decide +kernel
theorem dX0_drop_22 : decode cX0_drop 22 = .ok (.putfield 43, 3) := by decide +kernel
theorem dX0_drop_25 : decode cX0_drop 25 = .ok (.aload_n 0, 1) := by decide +kernel
theorem dX0_drop_26 : decode cX0_drop 26 = .ok (.getfield 54, 3) := by decide +kernel
theorem dX0_drop_29 : decode cX0_drop 29 = .ok (.ireturn, 1) := by decide +kernel
theorem dX0_least_0 : decode cX0_least 0 = .ok (.aload_n 0, 1) := by decide +kernel
theorem dX0_least_1 : decode cX0_least 1 = .ok (.invokevirtual 119, 3) := by decide +kernel
theorem dX0_least_4 : decode cX0_least 4 = .ok (.aload_n 0, 1) := by decide +kernel
theorem dX0_least_5 : decode cX0_least 5 = .ok (.invokevirtual 122, 3) := by decide +kernel
theorem dX0_least_8 : decode cX0_least 8 = .ok (.ireturn, 1) := by decide +kernel
theorem dX0_freeAll_0 : decode cX0_freeAll 0 = .ok (.iconst 0, 1) := by decide +kernel
theorem dX0_freeAll_1 : decode cX0_freeAll 1 = .ok (.istore_n 1, 1) := by decide +kernel
theorem dX0_freeAll_2 : decode cX0_freeAll 2 = .ok (.iload_n 1, 1) := by decide +kernel
theorem dX0_freeAll_3 : decode cX0_freeAll 3 = .ok (.bipush 6, 2) := by decide +kernel
theorem dX0_freeAll_5 : decode cX0_freeAll 5 = .ok (.if_icmp .ge 16, 3) := by decide +kernel
theorem dX0_freeAll_8 : decode cX0_freeAll 8 = .ok (.aload_n 0, 1) := by decide +kernel
theorem dX0_freeAll_9 : decode cX0_freeAll 9 = .ok (.getfield 28, 3) := by decide +kernel
theorem dX0_freeAll_12 : decode cX0_freeAll 12 = .ok (.iload_n 1, 1) := by decide +kernel
theorem dX0_freeAll_13 : decode cX0_freeAll 13 = .ok (.iconst (-1), 1) := by decide +kernel
theorem dX0_freeAll_14 : decode cX0_freeAll 14 = .ok (.iastore, 1) := by decide +kernel
theorem dX0_freeAll_15 : decode cX0_freeAll 15 = .ok (.iinc 1 1, 3) := by decide +kernel
theorem dX0_freeAll_18 : decode cX0_freeAll 18 = .ok (.goto (-16), 3) := by decide +kernel
theorem dX0_freeAll_21 : decode cX0_freeAll 21 = .ok (.return_, 1) := by decide +kernel
theorem dX0_leastCost_0 : decode cX0_leastCost 0 = .ok (.aload_n 0, 1) := by decide +kernel
theorem dX0_leastCost_1 : decode cX0_leastCost 1 = .ok (.ldc 114, 2) := by decide +kernel
theorem dX0_leastCost_3 : decode cX0_leastCost 3 = .ok (.iconst 1, 1) := by decide +kernel
theorem dX0_leastCost_4 : decode cX0_leastCost 4 = .ok (.invokevirtual 115, 3) := by decide +kernel
theorem dX0_leastCost_7 : decode cX0_leastCost 7 = .ok (.aload_n 0, 1) := by decide +kernel
theorem dX0_leastCost_8 : decode cX0_leastCost 8 = .ok (.getfield 93, 3) := by decide +kernel
theorem dX0_leastCost_11 : decode cX0_leastCost 11 = .ok (.ldc 59, 2) := by decide +kernel
theorem dX0_leastCost_13 : decode cX0_leastCost 13 = .ok (.if_icmp .lt 8, 3) := by decide +kernel
theorem dX0_leastCost_16 : decode cX0_leastCost 16 = .ok (.bipush (-6), 2) := by decide +kernel
theorem dX0_leastCost_18 : decode cX0_leastCost 18 = .ok (.goto 7, 3) := by decide +kernel
theorem dX0_leastCost_21 : decode cX0_leastCost 21 = .ok (.aload_n 0, 1) := by decide +kernel
theorem dX0_leastCost_22 : decode cX0_leastCost 22 = .ok (.getfield 93, 3) := by decide +kernel
theorem dX0_leastCost_25 : decode cX0_leastCost 25 = .ok (.ireturn, 1) := by decide +kernel
theorem dX0_search_0 : decode cX0_search 0 = .ok (.aload_n 0, 1) := by decide +kernel
theorem dX0_search_1 : decode cX0_search 1 = .ok (.invokevirtual 96, 3) := by decide +kernel
theorem dX0_search_4 : decode cX0_search 4 = .ok (.aload_n 0, 1) := by decide +kernel
theorem dX0_search_5 : decode cX0_search 5 = .ok (.iconst 0, 1) := by decide +kernel
theorem dX0_search_6 : decode cX0_search 6 = .ok (.putfield 90, 3) := by decide +kernel
theorem dX0_search_9 : decode cX0_search 9 = .ok (.aload_n 0, 1) := by decide +kernel
theorem dX0_search_10 : decode cX0_search 10 = .ok (.ldc 58, 2) := by decide +kernel
theorem dX0_search_12 : decode cX0_search 12 = .ok (.putfield 93, 3) := by decide +kernel
theorem dX0_search_15 : decode cX0_search 15 = .ok (.aload_n 0, 1) := by decide +kernel
theorem dX0_search_16 : decode cX0_search 16 = .ok (.getfield 34, 3) := by decide +kernel
theorem dX0_search_19 : decode cX0_search 19 = .ok (.iconst 0, 1) := by decide +kernel
theorem dX0_search_20 : decode cX0_search 20 = .ok (.aload_n 0, 1) := by decide +kernel
theorem dX0_search_21 : decode cX0_search 21 = .ok (.getfield 71, 3) := by decide +kernel
theorem dX0_search_24 : decode cX0_search 24 = .ok (.iastore, 1) := by decide +kernel
theorem dX0_search_25 : decode cX0_search 25 = .ok (.iconst 0, 1) := by decide +kernel
theorem dX0_search_26 : decode cX0_search 26 = .ok (.istore_n 3, 1) := by decide +kernel
theorem dX0_search_27 : decode cX0_search 27 = .ok (.aload_n 0, 1) := by decide +kernel
theorem dX0_search_28 : decode cX0_search 28 = .ok (.iconst 0, 1) := by decide +kernel
theorem dX0_search_29 : decode cX0_search 29 = .ok (.invokevirtual 99, 3) := by decide +kernel
theorem dX0_search_32 : decode cX0_search 32 = .ok (.iconst 0, 1) := by decide +kernel
theorem dX0_search_33 : decode cX0_search 33 = .ok (.istore 4, 2) := by decide +kernel
theorem dX0_search_35 : decode cX0_search 35 = .ok (.iload 4, 2) := by decide +kernel
theorem dX0_search_37 : decode cX0_search 37 = .ok (.sipush 3000, 3) := by decide +kernel
theorem dX0_search_40 : decode cX0_search 40 = .ok (.if_icmp .ge 116, 3) := by decide +kernel
theorem dX0_search_43 : decode cX0_search 43 = .ok (.iload_n 3, 1) := by decide +kernel
theorem dX0_search_44 : decode cX0_search 44 = .ok (.ifCond .lt 112, 3) := by decide +kernel
theorem dX0_search_47 : decode cX0_search 47 = .ok (.aload_n 0, 1) := by decide +kernel
theorem dX0_search_48 : decode cX0_search 48 = .ok (.getfield 37, 3) := by decide +kernel
theorem dX0_search_51 : decode cX0_search 51 = .ok (.iload_n 3, 1) := by decide +kernel
theorem dX0_search_52 : decode cX0_search 52 = .ok (.iaload, 1) := by decide +kernel
theorem dX0_search_53 : decode cX0_search 53 = .ok (.aload_n 0, 1) := by decide +kernel
theorem dX0_search_54 : decode cX0_search 54 = .ok (.iload_n 3, 1) := by decide +kernel
theorem dX0_search_55 : decode cX0_search 55 = .ok (.invokevirtual 102, 3) := by decide +kernel
theorem dX0_search_58 : decode cX0_search 58 = .ok (.if_icmp .le 9, 3) := by decide +kernel
theorem dX0_search_61 : decode cX0_search 61 = .ok (.iinc 3 (-1), 3) := by decide +kernel
theorem dX0_search_64 : decode cX0_search 64 = .ok (.goto 86, 3) := by decide +kernel
theorem dX0_search_67 : decode cX0_search 67 = .ok (.aload_n 0, 1) := by decide +kernel
theorem dX0_search_68 : decode cX0_search 68 = .ok (.getfield 31, 3) := by decide +kernel
theorem dX0_search_71 : decode cX0_search 71 = .ok (.iload_n 3, 1) := by decide +kernel
theorem dX0_search_72 : decode cX0_search 72 = .ok (.aload_n 0, 1) := by decide +kernel
theorem dX0_search_73 : decode cX0_search 73 = .ok (.getfield 37, 3) := by decide +kernel
theorem dX0_search_76 : decode cX0_search 76 = .ok (.iload_n 3, 1) := by decide +kernel
theorem dX0_search_77 : decode cX0_search 77 = .ok (.iaload, 1) := by decide +kernel
theorem dX0_search_78 : decode cX0_search 78 = .ok (.iastore, 1) := by decide +kernel
theorem dX0_search_79 : decode cX0_search 79 = .ok (.aload_n 0, 1) := by decide +kernel
theorem dX0_search_80 : decode cX0_search 80 = .ok (.getfield 37, 3) := by decide +kernel
theorem dX0_search_83 : decode cX0_search 83 = .ok (.iload_n 3, 1) := by decide +kernel
theorem dX0_search_84 : decode cX0_search 84 = .ok (.dup2, 1) := by decide +kernel
theorem dX0_search_85 : decode cX0_search 85 = .ok (.iaload, 1) := by decide +kernel
theorem dX0_search_86 : decode cX0_search 86 = .ok (.iconst 1, 1) := by decide +kernel
theorem dX0_search_87 : decode cX0_search 87 = .ok (.iadd, 1) := by decide +kernel
theorem dX0_search_88 : decode cX0_search 88 = .ok (.iastore, 1) := by decide +kernel
theorem dX0_search_89 : decode cX0_search 89 = .ok (.aload_n 0, 1) := by decide +kernel
theorem dX0_search_90 : decode cX0_search 90 = .ok (.iload_n 3, 1) := by decide +kernel
theorem dX0_search_91 : decode cX0_search 91 = .ok (.aload_n 0, 1) := by decide +kernel
theorem dX0_search_92 : decode cX0_search 92 = .ok (.getfield 31, 3) := by decide +kernel
theorem dX0_search_95 : decode cX0_search 95 = .ok (.iload_n 3, 1) := by decide +kernel
theorem dX0_search_96 : decode cX0_search 96 = .ok (.iaload, 1) := by decide +kernel
theorem dX0_search_97 : decode cX0_search 97 = .ok (.iload_n 3, 1) := by decide +kernel
theorem dX0_search_98 : decode cX0_search 98 = .ok (.invokevirtual 86, 3) := by decide +kernel
theorem dX0_search_101 : decode cX0_search 101 = .ok (.istore 5, 2) := by decide +kernel
theorem dX0_search_103 : decode cX0_search 103 = .ok (.aload_n 0, 1) := by decide +kernel
theorem dX0_search_104 : decode cX0_search 104 = .ok (.getfield 34, 3) := by decide +kernel
theorem dX0_search_107 : decode cX0_search 107 = .ok (.iload_n 3, 1) := by decide +kernel
theorem dX0_search_108 : decode cX0_search 108 = .ok (.iconst 1, 1) := by decide +kernel
theorem dX0_search_109 : decode cX0_search 109 = .ok (.iadd, 1) := by decide +kernel
theorem dX0_search_110 : decode cX0_search 110 = .ok (.aload_n 0, 1) := by decide +kernel
theorem dX0_search_111 : decode cX0_search 111 = .ok (.getfield 34, 3) := by decide +kernel
theorem dX0_search_114 : decode cX0_search 114 = .ok (.iload_n 3, 1) := by decide +kernel
theorem dX0_search_115 : decode cX0_search 115 = .ok (.iaload, 1) := by decide +kernel
theorem dX0_search_116 : decode cX0_search 116 = .ok (.iload 5, 2) := by decide +kernel
theorem dX0_search_118 : decode cX0_search 118 = .ok (.invokestatic 64, 3) := by decide +kernel
theorem dX0_search_121 : decode cX0_search 121 = .ok (.iastore, 1) := by decide +kernel
theorem dX0_search_122 : decode cX0_search 122 = .ok (.aload_n 0, 1) := by decide +kernel
theorem dX0_search_123 : decode cX0_search 123 = .ok (.iload_n 3, 1) := by decide +kernel
theorem dX0_search_124 : decode cX0_search 124 = .ok (.iload_n 2, 1) := by decide +kernel
theorem dX0_search_125 : decode cX0_search 125 = .ok (.ifCond .eq 20, 3) := by decide +kernel
theorem dX0_search_128 : decode cX0_search 128 = .ok (.aload_n 0, 1) := by decide +kernel
theorem dX0_search_129 : decode cX0_search 129 = .ok (.getfield 93, 3) := by decide +kernel
theorem dX0_search_132 : decode cX0_search 132 = .ok (.iload_n 1, 1) := by decide +kernel
theorem dX0_search_133 : decode cX0_search 133 = .ok (.if_icmp .gt 12, 3) := by decide +kernel
theorem dX0_search_136 : decode cX0_search 136 = .ok (.aload_n 0, 1) := by decide +kernel
theorem dX0_search_137 : decode cX0_search 137 = .ok (.getfield 93, 3) := by decide +kernel
theorem dX0_search_140 : decode cX0_search 140 = .ok (.iconst 1, 1) := by decide +kernel
theorem dX0_search_141 : decode cX0_search 141 = .ok (.isub, 1) := by decide +kernel
theorem dX0_search_142 : decode cX0_search 142 = .ok (.goto 4, 3) := by decide +kernel
theorem dX0_search_145 : decode cX0_search 145 = .ok (.iload_n 1, 1) := by decide +kernel
theorem dX0_search_146 : decode cX0_search 146 = .ok (.invokevirtual 105, 3) := by decide +kernel
theorem dX0_search_149 : decode cX0_search 149 = .ok (.istore_n 3, 1) := by decide +kernel
theorem dX0_search_150 : decode cX0_search 150 = .ok (.iinc 4 1, 3) := by decide +kernel
theorem dX0_search_153 : decode cX0_search 153 = .ok (.goto (-118), 3) := by decide +kernel
theorem dX0_search_156 : decode cX0_search 156 = .ok (.return_, 1) := by decide +kernel
theorem dX0_prepare_0 : decode cX0_prepare 0 = .ok (.aload_n 0, 1) := by decide +kernel
theorem dX0_prepare_1 : decode cX0_prepare 1 = .ok (.getfield 43, 3) := by decide +kernel
theorem dX0_prepare_4 : decode cX0_prepare 4 = .ok (.ifCond .eq 4, 3) := by decide +kernel
theorem dX0_prepare_7 : decode cX0_prepare 7 = .ok (.return_, 1) := by decide +kernel
theorem dX0_prepare_8 : decode cX0_prepare 8 = .ok (.aload_n 0, 1) := by decide +kernel
theorem dX0_prepare_9 : decode cX0_prepare 9 = .ok (.iconst 1, 1) := by decide +kernel
theorem dX0_prepare_10 : decode cX0_prepare 10 = .ok (.putfield 43, 3) := by decide +kernel
theorem dX0_prepare_13 : decode cX0_prepare 13 = .ok (.aload_n 0, 1) := by decide +kernel
theorem dX0_prepare_14 : decode cX0_prepare 14 = .ok (.iconst 0, 1) := by decide +kernel
theorem dX0_prepare_15 : decode cX0_prepare 15 = .ok (.putfield 71, 3) := by decide +kernel
theorem dX0_prepare_18 : decode cX0_prepare 18 = .ok (.iconst 0, 1) := by decide +kernel
theorem dX0_prepare_19 : decode cX0_prepare 19 = .ok (.istore_n 1, 1) := by decide +kernel
theorem dX0_prepare_20 : decode cX0_prepare 20 = .ok (.iload_n 1, 1) := by decide +kernel
theorem dX0_prepare_21 : decode cX0_prepare 21 = .ok (.bipush 18, 2) := by decide +kernel
theorem dX0_prepare_23 : decode cX0_prepare 23 = .ok (.if_icmp .ge 24, 3) := by decide +kernel
theorem dX0_prepare_26 : decode cX0_prepare 26 = .ok (.aload_n 0, 1) := by decide +kernel
theorem dX0_prepare_27 : decode cX0_prepare 27 = .ok (.getfield 22, 3) := by decide +kernel
theorem dX0_prepare_30 : decode cX0_prepare 30 = .ok (.iload_n 1, 1) := by decide +kernel
theorem dX0_prepare_31 : decode cX0_prepare 31 = .ok (.aload_n 0, 1) := by decide +kernel
theorem dX0_prepare_32 : decode cX0_prepare 32 = .ok (.getfield 7, 3) := by decide +kernel
theorem dX0_prepare_35 : decode cX0_prepare 35 = .ok (.iload_n 1, 1) := by decide +kernel
theorem dX0_prepare_36 : decode cX0_prepare 36 = .ok (.iaload, 1) := by decide +kernel
theorem dX0_prepare_37 : decode cX0_prepare 37 = .ok (.invokestatic 74, 3) := by decide +kernel
theorem dX0_prepare_40 : decode cX0_prepare 40 = .ok (.iastore, 1) := by decide +kernel
theorem dX0_prepare_41 : decode cX0_prepare 41 = .ok (.iinc 1 1, 3) := by decide +kernel
theorem dX0_prepare_44 : decode cX0_prepare 44 = .ok (.goto (-24), 3) := by decide +kernel
theorem dX0_prepare_47 : decode cX0_prepare 47 = .ok (.iconst 0, 1) := by decide +kernel
theorem dX0_prepare_48 : decode cX0_prepare 48 = .ok (.istore_n 1, 1) := by decide +kernel
theorem dX0_prepare_49 : decode cX0_prepare 49 = .ok (.iload_n 1, 1) := by decide +kernel
theorem dX0_prepare_50 : decode cX0_prepare 50 = .ok (.aload_n 0, 1) := by decide +kernel
theorem dX0_prepare_51 : decode cX0_prepare 51 = .ok (.getfield 54, 3) := by decide +kernel
theorem dX0_prepare_54 : decode cX0_prepare 54 = .ok (.bipush 9, 2) := by decide +kernel
theorem dX0_prepare_56 : decode cX0_prepare 56 = .ok (.imul, 1) := by decide +kernel
theorem dX0_prepare_57 : decode cX0_prepare 57 = .ok (.if_icmp .ge 24, 3) := by decide +kernel
theorem dX0_prepare_60 : decode cX0_prepare 60 = .ok (.aload_n 0, 1) := by decide +kernel
theorem dX0_prepare_61 : decode cX0_prepare 61 = .ok (.getfield 25, 3) := by decide +kernel
theorem dX0_prepare_64 : decode cX0_prepare 64 = .ok (.iload_n 1, 1) := by decide +kernel
theorem dX0_prepare_65 : decode cX0_prepare 65 = .ok (.aload_n 0, 1) := by decide +kernel
theorem dX0_prepare_66 : decode cX0_prepare 66 = .ok (.getfield 19, 3) := by decide +kernel
theorem dX0_prepare_69 : decode cX0_prepare 69 = .ok (.iload_n 1, 1) := by decide +kernel
theorem dX0_prepare_70 : decode cX0_prepare 70 = .ok (.iaload, 1) := by decide +kernel
theorem dX0_prepare_71 : decode cX0_prepare 71 = .ok (.invokestatic 74, 3) := by decide +kernel
theorem dX0_prepare_74 : decode cX0_prepare 74 = .ok (.iastore, 1) := by decide +kernel
theorem dX0_prepare_75 : decode cX0_prepare 75 = .ok (.iinc 1 1, 3) := by decide +kernel
theorem dX0_prepare_78 : decode cX0_prepare 78 = .ok (.goto (-29), 3) := by decide +kernel
theorem dX0_prepare_81 : decode cX0_prepare 81 = .ok (.iconst 0, 1) := by decide +kernel
theorem dX0_prepare_82 : decode cX0_prepare 82 = .ok (.istore_n 1, 1) := by decide +kernel
theorem dX0_prepare_83 : decode cX0_prepare 83 = .ok (.iload_n 1, 1) := by decide +kernel
theorem dX0_prepare_84 : decode cX0_prepare 84 = .ok (.aload_n 0, 1) := by decide +kernel
theorem dX0_prepare_85 : decode cX0_prepare 85 = .ok (.getfield 54, 3) := by decide +kernel
theorem dX0_prepare_88 : decode cX0_prepare 88 = .ok (.if_icmp .ge 36, 3) := by decide +kernel
theorem dX0_prepare_91 : decode cX0_prepare 91 = .ok (.iconst 0, 1) := by decide +kernel
theorem dX0_prepare_92 : decode cX0_prepare 92 = .ok (.istore_n 2, 1) := by decide +kernel
theorem dX0_prepare_93 : decode cX0_prepare 93 = .ok (.iload_n 2, 1) := by decide +kernel
theorem dX0_prepare_94 : decode cX0_prepare 94 = .ok (.iconst 3, 1) := by decide +kernel
theorem dX0_prepare_95 : decode cX0_prepare 95 = .ok (.if_icmp .ge 23, 3) := by decide +kernel
theorem dX0_prepare_98 : decode cX0_prepare 98 = .ok (.aload_n 0, 1) := by decide +kernel
theorem dX0_prepare_99 : decode cX0_prepare 99 = .ok (.iload_n 1, 1) := by decide +kernel
theorem dX0_prepare_100 : decode cX0_prepare 100 = .ok (.iload_n 2, 1) := by decide +kernel
theorem dX0_prepare_101 : decode cX0_prepare 101 = .ok (.iconst 1, 1) := by decide +kernel
theorem dX0_prepare_102 : decode cX0_prepare 102 = .ok (.invokevirtual 78, 3) := by decide +kernel
theorem dX0_prepare_105 : decode cX0_prepare 105 = .ok (.aload_n 0, 1) := by decide +kernel
theorem dX0_prepare_106 : decode cX0_prepare 106 = .ok (.iload_n 1, 1) := by decide +kernel
theorem dX0_prepare_107 : decode cX0_prepare 107 = .ok (.iload_n 2, 1) := by decide +kernel
theorem dX0_prepare_108 : decode cX0_prepare 108 = .ok (.iconst 0, 1) := by decide +kernel
theorem dX0_prepare_109 : decode cX0_prepare 109 = .ok (.invokevirtual 78, 3) := by decide +kernel
theorem dX0_prepare_112 : decode cX0_prepare 112 = .ok (.iinc 2 1, 3) := by decide +kernel
theorem dX0_prepare_115 : decode cX0_prepare 115 = .ok (.goto (-22), 3) := by decide +kernel
theorem dX0_prepare_118 : decode cX0_prepare 118 = .ok (.iinc 1 1, 3) := by decide +kernel
theorem dX0_prepare_121 : decode cX0_prepare 121 = .ok (.goto (-38), 3) := by decide +kernel
theorem dX0_prepare_124 : decode cX0_prepare 124 = .ok (.iconst 0, 1) := by decide +kernel
theorem dX0_prepare_125 : decode cX0_prepare 125 = .ok (.istore_n 1, 1) := by decide +kernel
theorem dX0_prepare_126 : decode cX0_prepare 126 = .ok (.iload_n 1, 1) := by decide +kernel
theorem dX0_prepare_127 : decode cX0_prepare 127 = .ok (.bipush 6, 2) := by decide +kernel
theorem dX0_prepare_129 : decode cX0_prepare 129 = .ok (.if_icmp .ge 14, 3) := by decide +kernel
theorem dX0_prepare_132 : decode cX0_prepare 132 = .ok (.aload_n 0, 1) := by decide +kernel
theorem dX0_prepare_133 : decode cX0_prepare 133 = .ok (.iload_n 1, 1) := by decide +kernel
theorem dX0_prepare_134 : decode cX0_prepare 134 = .ok (.invokevirtual 82, 3) := by decide +kernel
theorem dX0_prepare_137 : decode cX0_prepare 137 = .ok (.iinc 1 1, 3) := by decide +kernel
theorem dX0_prepare_140 : decode cX0_prepare 140 = .ok (.goto (-14), 3) := by decide +kernel
theorem dX0_prepare_143 : decode cX0_prepare 143 = .ok (.return_, 1) := by decide +kernel
theorem dX0_asMoved_0 : decode cX0_asMoved 0 = .ok (.iload_n 0, 1) := by decide +kernel
theorem dX0_asMoved_1 : decode cX0_asMoved 1 = .ok (.bipush 20, 2) := by decide +kernel
theorem dX0_asMoved_3 : decode cX0_asMoved 3 = .ok (.if_icmp .ne 8, 3) := by decide +kernel
theorem dX0_asMoved_6 : decode cX0_asMoved 6 = .ok (.ldc 58, 2) := by decide +kernel
theorem dX0_asMoved_8 : decode cX0_asMoved 8 = .ok (.goto 4, 3) := by decide +kernel
theorem dX0_asMoved_11 : decode cX0_asMoved 11 = .ok (.iload_n 0, 1) := by decide +kernel
theorem dX0_asMoved_12 : decode cX0_asMoved 12 = .ok (.ireturn, 1) := by decide +kernel
theorem dX0_moveToValue_0 : decode cX0_moveToValue 0 = .ok (.ldc 58, 2) := by decide +kernel
theorem dX0_moveToValue_2 : decode cX0_moveToValue 2 = .ok (.istore 4, 2) := by decide +kernel
theorem dX0_moveToValue_4 : decode cX0_moveToValue 4 = .ok (.iconst 0, 1) := by decide +kernel
theorem dX0_moveToValue_5 : decode cX0_moveToValue 5 = .ok (.istore 5, 2) := by decide +kernel
theorem dX0_moveToValue_7 : decode cX0_moveToValue 7 = .ok (.iload 5, 2) := by decide +kernel
theorem dX0_moveToValue_9 : decode cX0_moveToValue 9 = .ok (.iconst 3, 1) := by decide +kernel
theorem dX0_moveToValue_10 : decode cX0_moveToValue 10 = .ok (.if_icmp .ge 35, 3) := by decide +kernel
theorem dX0_moveToValue_13 : decode cX0_moveToValue 13 = .ok (.aload_n 0, 1) := by decide +kernel
theorem dX0_moveToValue_14 : decode cX0_moveToValue 14 = .ok (.getfield 25, 3) := by decide +kernel
theorem dX0_moveToValue_17 : decode cX0_moveToValue 17 = .ok (.iload_n 1, 1) := by decide +kernel
theorem dX0_moveToValue_18 : decode cX0_moveToValue 18 = .ok (.iload_n 2, 1) := by decide +kernel
theorem dX0_moveToValue_19 : decode cX0_moveToValue 19 = .ok (.iload 5, 2) := by decide +kernel
theorem dX0_moveToValue_21 : decode cX0_moveToValue 21 = .ok (.iload_n 3, 1) := by decide +kernel
theorem dX0_moveToValue_22 : decode cX0_moveToValue 22 = .ok (.invokestatic 60, 3) := by decide +kernel
theorem dX0_moveToValue_25 : decode cX0_moveToValue 25 = .ok (.iaload, 1) := by decide +kernel
theorem dX0_moveToValue_26 : decode cX0_moveToValue 26 = .ok (.istore 6, 2) := by decide +kernel
theorem dX0_moveToValue_28 : decode cX0_moveToValue 28 = .ok (.iload 6, 2) := by decide +kernel
theorem dX0_moveToValue_30 : decode cX0_moveToValue 30 = .ok (.iload 4, 2) := by decide +kernel
theorem dX0_moveToValue_32 : decode cX0_moveToValue 32 = .ok (.if_icmp .ge 7, 3) := by decide +kernel
theorem dX0_moveToValue_35 : decode cX0_moveToValue 35 = .ok (.iload 6, 2) := by decide +kernel
theorem dX0_moveToValue_37 : decode cX0_moveToValue 37 = .ok (.istore 4, 2) := by decide +kernel
theorem dX0_moveToValue_39 : decode cX0_moveToValue 39 = .ok (.iinc 5 1, 3) := by decide +kernel
theorem dX0_moveToValue_42 : decode cX0_moveToValue 42 = .ok (.goto (-35), 3) := by decide +kernel
theorem dX0_moveToValue_45 : decode cX0_moveToValue 45 = .ok (.iload 4, 2) := by decide +kernel
theorem dX0_moveToValue_47 : decode cX0_moveToValue 47 = .ok (.ifCond .ne 4, 3) := by decide +kernel
theorem dX0_moveToValue_50 : decode cX0_moveToValue 50 = .ok (.return_, 1) := by decide +kernel
theorem dX0_moveToValue_51 : decode cX0_moveToValue 51 = .ok (.iload_n 3, 1) := by decide +kernel
theorem dX0_moveToValue_52 : decode cX0_moveToValue 52 = .ok (.ifCond .eq 12, 3) := by decide +kernel
theorem dX0_moveToValue_55 : decode cX0_moveToValue 55 = .ok (.aload_n 0, 1) := by decide +kernel
theorem dX0_moveToValue_56 : decode cX0_moveToValue 56 = .ok (.getfield 13, 3) := by decide +kernel
theorem dX0_moveToValue_59 : decode cX0_moveToValue 59 = .ok (.iload_n 1, 1) := by decide +kernel
theorem dX0_moveToValue_60 : decode cX0_moveToValue 60 = .ok (.iaload, 1) := by decide +kernel
theorem dX0_moveToValue_61 : decode cX0_moveToValue 61 = .ok (.goto 9, 3) := by decide +kernel
theorem dX0_moveToValue_64 : decode cX0_moveToValue 64 = .ok (.aload_n 0, 1) := by decide +kernel
theorem dX0_moveToValue_65 : decode cX0_moveToValue 65 = .ok (.getfield 16, 3) := by decide +kernel
theorem dX0_moveToValue_68 : decode cX0_moveToValue 68 = .ok (.iload_n 1, 1) := by decide +kernel
theorem dX0_moveToValue_69 : decode cX0_moveToValue 69 = .ok (.iaload, 1) := by decide +kernel
theorem dX0_moveToValue_70 : decode cX0_moveToValue 70 = .ok (.istore 5, 2) := by decide +kernel
theorem dX0_moveToValue_72 : decode cX0_moveToValue 72 = .ok (.aload_n 0, 1) := by decide +kernel
theorem dX0_moveToValue_73 : decode cX0_moveToValue 73 = .ok (.getfield 22, 3) := by decide +kernel
theorem dX0_moveToValue_76 : decode cX0_moveToValue 76 = .ok (.iload 5, 2) := by decide +kernel
theorem dX0_moveToValue_78 : decode cX0_moveToValue 78 = .ok (.iconst 3, 1) := by decide +kernel
theorem dX0_moveToValue_79 : decode cX0_moveToValue 79 = .ok (.imul, 1) := by decide +kernel
theorem dX0_moveToValue_80 : decode cX0_moveToValue 80 = .ok (.iload_n 2, 1) := by decide +kernel
theorem dX0_moveToValue_81 : decode cX0_moveToValue 81 = .ok (.iadd, 1) := by decide +kernel
theorem dX0_moveToValue_82 : decode cX0_moveToValue 82 = .ok (.aload_n 0, 1) := by decide +kernel
theorem dX0_moveToValue_83 : decode cX0_moveToValue 83 = .ok (.getfield 22, 3) := by decide +kernel
theorem dX0_moveToValue_86 : decode cX0_moveToValue 86 = .ok (.iload 5, 2) := by decide +kernel
theorem dX0_moveToValue_88 : decode cX0_moveToValue 88 = .ok (.iconst 3, 1) := by decide +kernel
theorem dX0_moveToValue_89 : decode cX0_moveToValue 89 = .ok (.imul, 1) := by decide +kernel
theorem dX0_moveToValue_90 : decode cX0_moveToValue 90 = .ok (.iload_n 2, 1) := by decide +kernel
theorem dX0_moveToValue_91 : decode cX0_moveToValue 91 = .ok (.iadd, 1) := by decide +kernel
theorem dX0_moveToValue_92 : decode cX0_moveToValue 92 = .ok (.iaload, 1) := by decide +kernel
theorem dX0_moveToValue_93 : decode cX0_moveToValue 93 = .ok (.iload 4, 2) := by decide +kernel
theorem dX0_moveToValue_95 : decode cX0_moveToValue 95 = .ok (.invokestatic 64, 3) := by decide +kernel
theorem dX0_moveToValue_98 : decode cX0_moveToValue 98 = .ok (.iastore, 1) := by decide +kernel
theorem dX0_moveToValue_99 : decode cX0_moveToValue 99 = .ok (.iconst 0, 1) := by decide +kernel
theorem dX0_moveToValue_100 : decode cX0_moveToValue 100 = .ok (.istore 6, 2) := by decide +kernel
end
section
set_option maxRecDepth 100000
theorem dX0_moveToValue_102 : decode cX0_moveToValue 102 = .ok (.iload 6, 2) := by decide +kernel
theorem dX0_moveToValue_104 : decode cX0_moveToValue 104 = .ok (.iconst 3, 1) := by decide +kernel
theorem dX0_moveToValue_105 : decode cX0_moveToValue 105 = .ok (.if_icmp .ge 49, 3) := by decide +kernel
theorem dX0_moveToValue_108 : decode cX0_moveToValue 108 = .ok (.iload_n 1, 1) := by decide +kernel
theorem dX0_moveToValue_109 : decode cX0_moveToValue 109 = .ok (.iload_n 2, 1) := by decide +kernel
theorem dX0_moveToValue_110 : decode cX0_moveToValue 110 = .ok (.iload 6, 2) := by decide +kernel
theorem dX0_moveToValue_112 : decode cX0_moveToValue 112 = .ok (.iload_n 3, 1) := by decide +kernel
theorem dX0_moveToValue_113 : decode cX0_moveToValue 113 = .ok (.invokestatic 60, 3) := by decide +kernel
theorem dX0_moveToValue_116 : decode cX0_moveToValue 116 = .ok (.istore 7, 2) := by decide +kernel
theorem dX0_moveToValue_118 : decode cX0_moveToValue 118 = .ok (.aload_n 0, 1) := by decide +kernel
theorem dX0_moveToValue_119 : decode cX0_moveToValue 119 = .ok (.getfield 25, 3) := by decide +kernel
theorem dX0_moveToValue_122 : decode cX0_moveToValue 122 = .ok (.iload 7, 2) := by decide +kernel
theorem dX0_moveToValue_124 : decode cX0_moveToValue 124 = .ok (.iload 4, 2) := by decide +kernel
theorem dX0_moveToValue_126 : decode cX0_moveToValue 126 = .ok (.ldc 59, 2) := by decide +kernel
theorem dX0_moveToValue_128 : decode cX0_moveToValue 128 = .ok (.if_icmp .lt 7, 3) := by decide +kernel
theorem dX0_moveToValue_131 : decode cX0_moveToValue 131 = .ok (.iconst 0, 1) := by decide +kernel
theorem dX0_moveToValue_132 : decode cX0_moveToValue 132 = .ok (.goto 15, 3) := by decide +kernel
theorem dX0_moveToValue_135 : decode cX0_moveToValue 135 = .ok (.aload_n 0, 1) := by decide +kernel
theorem dX0_moveToValue_136 : decode cX0_moveToValue 136 = .ok (.getfield 25, 3) := by decide +kernel
theorem dX0_moveToValue_139 : decode cX0_moveToValue 139 = .ok (.iload 7, 2) := by decide +kernel
theorem dX0_moveToValue_141 : decode cX0_moveToValue 141 = .ok (.iaload, 1) := by decide +kernel
theorem dX0_moveToValue_142 : decode cX0_moveToValue 142 = .ok (.iload 4, 2) := by decide +kernel
theorem dX0_moveToValue_144 : decode cX0_moveToValue 144 = .ok (.invokestatic 68, 3) := by decide +kernel
theorem dX0_moveToValue_147 : decode cX0_moveToValue 147 = .ok (.iastore, 1) := by decide +kernel
theorem dX0_moveToValue_148 : decode cX0_moveToValue 148 = .ok (.iinc 6 1, 3) := by decide +kernel
theorem dX0_moveToValue_151 : decode cX0_moveToValue 151 = .ok (.goto (-49), 3) := by decide +kernel
theorem dX0_moveToValue_154 : decode cX0_moveToValue 154 = .ok (.return_, 1) := by decide +kernel
theorem dX0_pairAt_0 : decode cX0_pairAt 0 = .ok (.iload_n 3, 1) := by decide +kernel
theorem dX0_pairAt_1 : decode cX0_pairAt 1 = .ok (.ifCond .eq 16, 3) := by decide +kernel
theorem dX0_pairAt_4 : decode cX0_pairAt 4 = .ok (.iload_n 0, 1) := by decide +kernel
theorem dX0_pairAt_5 : decode cX0_pairAt 5 = .ok (.bipush 9, 2) := by decide +kernel
theorem dX0_pairAt_7 : decode cX0_pairAt 7 = .ok (.imul, 1) := by decide +kernel
theorem dX0_pairAt_8 : decode cX0_pairAt 8 = .ok (.iload_n 1, 1) := by decide +kernel
theorem dX0_pairAt_9 : decode cX0_pairAt 9 = .ok (.iadd, 1) := by decide +kernel
theorem dX0_pairAt_10 : decode cX0_pairAt 10 = .ok (.iconst 3, 1) := by decide +kernel
theorem dX0_pairAt_11 : decode cX0_pairAt 11 = .ok (.iload_n 2, 1) := by decide +kernel
theorem dX0_pairAt_12 : decode cX0_pairAt 12 = .ok (.imul, 1) := by decide +kernel
theorem dX0_pairAt_13 : decode cX0_pairAt 13 = .ok (.iadd, 1) := by decide +kernel
theorem dX0_pairAt_14 : decode cX0_pairAt 14 = .ok (.goto 13, 3) := by decide +kernel
theorem dX0_pairAt_17 : decode cX0_pairAt 17 = .ok (.iload_n 0, 1) := by decide +kernel
theorem dX0_pairAt_18 : decode cX0_pairAt 18 = .ok (.bipush 9, 2) := by decide +kernel
theorem dX0_pairAt_20 : decode cX0_pairAt 20 = .ok (.imul, 1) := by decide +kernel
theorem dX0_pairAt_21 : decode cX0_pairAt 21 = .ok (.iload_n 2, 1) := by decide +kernel
theorem dX0_pairAt_22 : decode cX0_pairAt 22 = .ok (.iadd, 1) := by decide +kernel
theorem dX0_pairAt_23 : decode cX0_pairAt 23 = .ok (.iconst 3, 1) := by decide +kernel
theorem dX0_pairAt_24 : decode cX0_pairAt 24 = .ok (.iload_n 1, 1) := by decide +kernel
theorem dX0_pairAt_25 : decode cX0_pairAt 25 = .ok (.imul, 1) := by decide +kernel
theorem dX0_pairAt_26 : decode cX0_pairAt 26 = .ok (.iadd, 1) := by decide +kernel
theorem dX0_pairAt_27 : decode cX0_pairAt 27 = .ok (.ireturn, 1) := by decide +kernel
theorem dX0_more_0 : decode cX0_more 0 = .ok (.iload_n 0, 1) := by decide +kernel
theorem dX0_more_1 : decode cX0_more 1 = .ok (.ldc 59, 2) := by decide +kernel
theorem dX0_more_3 : decode cX0_more 3 = .ok (.if_icmp .ge 9, 3) := by decide +kernel
theorem dX0_more_6 : decode cX0_more 6 = .ok (.iload_n 1, 1) := by decide +kernel
theorem dX0_more_7 : decode cX0_more 7 = .ok (.ldc 59, 2) := by decide +kernel
theorem dX0_more_9 : decode cX0_more 9 = .ok (.if_icmp .lt 8, 3) := by decide +kernel
theorem dX0_more_12 : decode cX0_more 12 = .ok (.ldc 58, 2) := by decide +kernel
theorem dX0_more_14 : decode cX0_more 14 = .ok (.goto 6, 3) := by decide +kernel
theorem dX0_more_17 : decode cX0_more 17 = .ok (.iload_n 0, 1) := by decide +kernel
theorem dX0_more_18 : decode cX0_more 18 = .ok (.iload_n 1, 1) := by decide +kernel
theorem dX0_more_19 : decode cX0_more 19 = .ok (.iadd, 1) := by decide +kernel
theorem dX0_more_20 : decode cX0_more 20 = .ok (.ireturn, 1) := by decide +kernel
theorem dX0_less_0 : decode cX0_less 0 = .ok (.iload_n 0, 1) := by decide +kernel
theorem dX0_less_1 : decode cX0_less 1 = .ok (.ldc 59, 2) := by decide +kernel
theorem dX0_less_3 : decode cX0_less 3 = .ok (.if_icmp .lt 8, 3) := by decide +kernel
theorem dX0_less_6 : decode cX0_less 6 = .ok (.ldc 58, 2) := by decide +kernel
theorem dX0_less_8 : decode cX0_less 8 = .ok (.goto 6, 3) := by decide +kernel
theorem dX0_less_11 : decode cX0_less 11 = .ok (.iload_n 0, 1) := by decide +kernel
theorem dX0_less_12 : decode cX0_less 12 = .ok (.iload_n 1, 1) := by decide +kernel
theorem dX0_less_13 : decode cX0_less 13 = .ok (.isub, 1) := by decide +kernel
theorem dX0_less_14 : decode cX0_less 14 = .ok (.ireturn, 1) := by decide +kernel
theorem dX0_moveToFloor_0 : decode cX0_moveToFloor 0 = .ok (.ldc 58, 2) := by decide +kernel
theorem dX0_moveToFloor_2 : decode cX0_moveToFloor 2 = .ok (.istore_n 2, 1) := by decide +kernel
theorem dX0_moveToFloor_3 : decode cX0_moveToFloor 3 = .ok (.iconst 0, 1) := by decide +kernel
theorem dX0_moveToFloor_4 : decode cX0_moveToFloor 4 = .ok (.istore_n 3, 1) := by decide +kernel
theorem dX0_moveToFloor_5 : decode cX0_moveToFloor 5 = .ok (.iload_n 3, 1) := by decide +kernel
theorem dX0_moveToFloor_6 : decode cX0_moveToFloor 6 = .ok (.iconst 3, 1) := by decide +kernel
theorem dX0_moveToFloor_7 : decode cX0_moveToFloor 7 = .ok (.if_icmp .ge 34, 3) := by decide +kernel
theorem dX0_moveToFloor_10 : decode cX0_moveToFloor 10 = .ok (.aload_n 0, 1) := by decide +kernel
theorem dX0_moveToFloor_11 : decode cX0_moveToFloor 11 = .ok (.getfield 22, 3) := by decide +kernel
theorem dX0_moveToFloor_14 : decode cX0_moveToFloor 14 = .ok (.iload_n 1, 1) := by decide +kernel
theorem dX0_moveToFloor_15 : decode cX0_moveToFloor 15 = .ok (.iconst 3, 1) := by decide +kernel
theorem dX0_moveToFloor_16 : decode cX0_moveToFloor 16 = .ok (.imul, 1) := by decide +kernel
theorem dX0_moveToFloor_17 : decode cX0_moveToFloor 17 = .ok (.iload_n 3, 1) := by decide +kernel
theorem dX0_moveToFloor_18 : decode cX0_moveToFloor 18 = .ok (.iadd, 1) := by decide +kernel
theorem dX0_moveToFloor_19 : decode cX0_moveToFloor 19 = .ok (.iaload, 1) := by decide +kernel
theorem dX0_moveToFloor_20 : decode cX0_moveToFloor 20 = .ok (.iload_n 2, 1) := by decide +kernel
theorem dX0_moveToFloor_21 : decode cX0_moveToFloor 21 = .ok (.if_icmp .ge 14, 3) := by decide +kernel
theorem dX0_moveToFloor_24 : decode cX0_moveToFloor 24 = .ok (.aload_n 0, 1) := by decide +kernel
theorem dX0_moveToFloor_25 : decode cX0_moveToFloor 25 = .ok (.getfield 22, 3) := by decide +kernel
theorem dX0_moveToFloor_28 : decode cX0_moveToFloor 28 = .ok (.iload_n 1, 1) := by decide +kernel
theorem dX0_moveToFloor_29 : decode cX0_moveToFloor 29 = .ok (.iconst 3, 1) := by decide +kernel
theorem dX0_moveToFloor_30 : decode cX0_moveToFloor 30 = .ok (.imul, 1) := by decide +kernel
theorem dX0_moveToFloor_31 : decode cX0_moveToFloor 31 = .ok (.iload_n 3, 1) := by decide +kernel
theorem dX0_moveToFloor_32 : decode cX0_moveToFloor 32 = .ok (.iadd, 1) := by decide +kernel
theorem dX0_moveToFloor_33 : decode cX0_moveToFloor 33 = .ok (.iaload, 1) := by decide +kernel
theorem dX0_moveToFloor_34 : decode cX0_moveToFloor 34 = .ok (.istore_n 2, 1) := by decide +kernel
theorem dX0_moveToFloor_35 : decode cX0_moveToFloor 35 = .ok (.iinc 3 1, 3) := by decide +kernel
theorem dX0_moveToFloor_38 : decode cX0_moveToFloor 38 = .ok (.goto (-33), 3) := by decide +kernel
theorem dX0_moveToFloor_41 : decode cX0_moveToFloor 41 = .ok (.aload_n 0, 1) := by decide +kernel
theorem dX0_moveToFloor_42 : decode cX0_moveToFloor 42 = .ok (.aload_n 0, 1) := by decide +kernel
theorem dX0_moveToFloor_43 : decode cX0_moveToFloor 43 = .ok (.getfield 71, 3) := by decide +kernel
theorem dX0_moveToFloor_46 : decode cX0_moveToFloor 46 = .ok (.iload_n 2, 1) := by decide +kernel
theorem dX0_moveToFloor_47 : decode cX0_moveToFloor 47 = .ok (.invokestatic 64, 3) := by decide +kernel
theorem dX0_moveToFloor_50 : decode cX0_moveToFloor 50 = .ok (.putfield 71, 3) := by decide +kernel
theorem dX0_moveToFloor_53 : decode cX0_moveToFloor 53 = .ok (.iconst 0, 1) := by decide +kernel
theorem dX0_moveToFloor_54 : decode cX0_moveToFloor 54 = .ok (.istore_n 3, 1) := by decide +kernel
theorem dX0_moveToFloor_55 : decode cX0_moveToFloor 55 = .ok (.iload_n 3, 1) := by decide +kernel
theorem dX0_moveToFloor_56 : decode cX0_moveToFloor 56 = .ok (.iconst 3, 1) := by decide +kernel
theorem dX0_moveToFloor_57 : decode cX0_moveToFloor 57 = .ok (.if_icmp .ge 43, 3) := by decide +kernel
theorem dX0_moveToFloor_60 : decode cX0_moveToFloor 60 = .ok (.aload_n 0, 1) := by decide +kernel
theorem dX0_moveToFloor_61 : decode cX0_moveToFloor 61 = .ok (.getfield 22, 3) := by decide +kernel
theorem dX0_moveToFloor_64 : decode cX0_moveToFloor 64 = .ok (.iload_n 1, 1) := by decide +kernel
theorem dX0_moveToFloor_65 : decode cX0_moveToFloor 65 = .ok (.iconst 3, 1) := by decide +kernel
theorem dX0_moveToFloor_66 : decode cX0_moveToFloor 66 = .ok (.imul, 1) := by decide +kernel
theorem dX0_moveToFloor_67 : decode cX0_moveToFloor 67 = .ok (.iload_n 3, 1) := by decide +kernel
theorem dX0_moveToFloor_68 : decode cX0_moveToFloor 68 = .ok (.iadd, 1) := by decide +kernel
theorem dX0_moveToFloor_69 : decode cX0_moveToFloor 69 = .ok (.iload_n 2, 1) := by decide +kernel
theorem dX0_moveToFloor_70 : decode cX0_moveToFloor 70 = .ok (.ldc 59, 2) := by decide +kernel
theorem dX0_moveToFloor_72 : decode cX0_moveToFloor 72 = .ok (.if_icmp .lt 7, 3) := by decide +kernel
theorem dX0_moveToFloor_75 : decode cX0_moveToFloor 75 = .ok (.iconst 0, 1) := by decide +kernel
theorem dX0_moveToFloor_76 : decode cX0_moveToFloor 76 = .ok (.goto 17, 3) := by decide +kernel
theorem dX0_moveToFloor_79 : decode cX0_moveToFloor 79 = .ok (.aload_n 0, 1) := by decide +kernel
theorem dX0_moveToFloor_80 : decode cX0_moveToFloor 80 = .ok (.getfield 22, 3) := by decide +kernel
theorem dX0_moveToFloor_83 : decode cX0_moveToFloor 83 = .ok (.iload_n 1, 1) := by decide +kernel
theorem dX0_moveToFloor_84 : decode cX0_moveToFloor 84 = .ok (.iconst 3, 1) := by decide +kernel
theorem dX0_moveToFloor_85 : decode cX0_moveToFloor 85 = .ok (.imul, 1) := by decide +kernel
theorem dX0_moveToFloor_86 : decode cX0_moveToFloor 86 = .ok (.iload_n 3, 1) := by decide +kernel
theorem dX0_moveToFloor_87 : decode cX0_moveToFloor 87 = .ok (.iadd, 1) := by decide +kernel
theorem dX0_moveToFloor_88 : decode cX0_moveToFloor 88 = .ok (.iaload, 1) := by decide +kernel
theorem dX0_moveToFloor_89 : decode cX0_moveToFloor 89 = .ok (.iload_n 2, 1) := by decide +kernel
theorem dX0_moveToFloor_90 : decode cX0_moveToFloor 90 = .ok (.invokestatic 68, 3) := by decide +kernel
theorem dX0_moveToFloor_93 : decode cX0_moveToFloor 93 = .ok (.iastore, 1) := by decide +kernel
theorem dX0_moveToFloor_94 : decode cX0_moveToFloor 94 = .ok (.iinc 3 1, 3) := by decide +kernel
theorem dX0_moveToFloor_97 : decode cX0_moveToFloor 97 = .ok (.goto (-42), 3) := by decide +kernel
theorem dX0_moveToFloor_100 : decode cX0_moveToFloor 100 = .ok (.return_, 1) := by decide +kernel
theorem dX0_open_0 : decode cX0_open 0 = .ok (.aload_n 0, 1) := by decide +kernel
theorem dX0_open_1 : decode cX0_open 1 = .ok (.getfield 37, 3) := by decide +kernel
theorem dX0_open_4 : decode cX0_open 4 = .ok (.iload_n 1, 1) := by decide +kernel
theorem dX0_open_5 : decode cX0_open 5 = .ok (.aload_n 0, 1) := by decide +kernel
theorem dX0_open_6 : decode cX0_open 6 = .ok (.getfield 28, 3) := by decide +kernel
theorem dX0_open_9 : decode cX0_open 9 = .ok (.iload_n 1, 1) := by decide +kernel
theorem dX0_open_10 : decode cX0_open 10 = .ok (.iaload, 1) := by decide +kernel
theorem dX0_open_11 : decode cX0_open 11 = .ok (.ifCond .lt 12, 3) := by decide +kernel
theorem dX0_open_14 : decode cX0_open 14 = .ok (.aload_n 0, 1) := by decide +kernel
theorem dX0_open_15 : decode cX0_open 15 = .ok (.getfield 28, 3) := by decide +kernel
theorem dX0_open_18 : decode cX0_open 18 = .ok (.iload_n 1, 1) := by decide +kernel
theorem dX0_open_19 : decode cX0_open 19 = .ok (.iaload, 1) := by decide +kernel
theorem dX0_open_20 : decode cX0_open 20 = .ok (.goto 4, 3) := by decide +kernel
theorem dX0_open_23 : decode cX0_open 23 = .ok (.iconst 0, 1) := by decide +kernel
theorem dX0_open_24 : decode cX0_open 24 = .ok (.iastore, 1) := by decide +kernel
theorem dX0_open_25 : decode cX0_open 25 = .ok (.return_, 1) := by decide +kernel
theorem dX0_lastValue_0 : decode cX0_lastValue 0 = .ok (.aload_n 0, 1) := by decide +kernel
theorem dX0_lastValue_1 : decode cX0_lastValue 1 = .ok (.getfield 28, 3) := by decide +kernel
theorem dX0_lastValue_4 : decode cX0_lastValue 4 = .ok (.iload_n 1, 1) := by decide +kernel
theorem dX0_lastValue_5 : decode cX0_lastValue 5 = .ok (.iaload, 1) := by decide +kernel
theorem dX0_lastValue_6 : decode cX0_lastValue 6 = .ok (.ifCond .lt 12, 3) := by decide +kernel
theorem dX0_lastValue_9 : decode cX0_lastValue 9 = .ok (.aload_n 0, 1) := by decide +kernel
theorem dX0_lastValue_10 : decode cX0_lastValue 10 = .ok (.getfield 28, 3) := by decide +kernel
theorem dX0_lastValue_13 : decode cX0_lastValue 13 = .ok (.iload_n 1, 1) := by decide +kernel
theorem dX0_lastValue_14 : decode cX0_lastValue 14 = .ok (.iaload, 1) := by decide +kernel
theorem dX0_lastValue_15 : decode cX0_lastValue 15 = .ok (.goto 4, 3) := by decide +kernel
theorem dX0_lastValue_18 : decode cX0_lastValue 18 = .ok (.iconst 2, 1) := by decide +kernel
theorem dX0_lastValue_19 : decode cX0_lastValue 19 = .ok (.ireturn, 1) := by decide +kernel
theorem dX0_withTaken_0 : decode cX0_withTaken 0 = .ok (.aload_n 0, 1) := by decide +kernel
theorem dX0_withTaken_1 : decode cX0_withTaken 1 = .ok (.getfield 22, 3) := by decide +kernel
theorem dX0_withTaken_4 : decode cX0_withTaken 4 = .ok (.iload_n 1, 1) := by decide +kernel
theorem dX0_withTaken_5 : decode cX0_withTaken 5 = .ok (.iconst 3, 1) := by decide +kernel
theorem dX0_withTaken_6 : decode cX0_withTaken 6 = .ok (.imul, 1) := by decide +kernel
theorem dX0_withTaken_7 : decode cX0_withTaken 7 = .ok (.iload_n 2, 1) := by decide +kernel
theorem dX0_withTaken_8 : decode cX0_withTaken 8 = .ok (.iadd, 1) := by decide +kernel
theorem dX0_withTaken_9 : decode cX0_withTaken 9 = .ok (.iaload, 1) := by decide +kernel
theorem dX0_withTaken_10 : decode cX0_withTaken 10 = .ok (.istore 4, 2) := by decide +kernel
theorem dX0_withTaken_12 : decode cX0_withTaken 12 = .ok (.iconst 0, 1) := by decide +kernel
theorem dX0_withTaken_13 : decode cX0_withTaken 13 = .ok (.istore 5, 2) := by decide +kernel
theorem dX0_withTaken_15 : decode cX0_withTaken 15 = .ok (.iload 5, 2) := by decide +kernel
theorem dX0_withTaken_17 : decode cX0_withTaken 17 = .ok (.aload_n 0, 1) := by decide +kernel
theorem dX0_withTaken_18 : decode cX0_withTaken 18 = .ok (.getfield 54, 3) := by decide +kernel
theorem dX0_withTaken_21 : decode cX0_withTaken 21 = .ok (.if_icmp .ge 104, 3) := by decide +kernel
theorem dX0_withTaken_24 : decode cX0_withTaken 24 = .ok (.aload_n 0, 1) := by decide +kernel
theorem dX0_withTaken_25 : decode cX0_withTaken 25 = .ok (.getfield 13, 3) := by decide +kernel
theorem dX0_withTaken_28 : decode cX0_withTaken 28 = .ok (.iload 5, 2) := by decide +kernel
theorem dX0_withTaken_30 : decode cX0_withTaken 30 = .ok (.iaload, 1) := by decide +kernel
theorem dX0_withTaken_31 : decode cX0_withTaken 31 = .ok (.iload_n 1, 1) := by decide +kernel
theorem dX0_withTaken_32 : decode cX0_withTaken 32 = .ok (.if_icmp .ne 7, 3) := by decide +kernel
theorem dX0_withTaken_35 : decode cX0_withTaken 35 = .ok (.iconst 1, 1) := by decide +kernel
theorem dX0_withTaken_36 : decode cX0_withTaken 36 = .ok (.goto 4, 3) := by decide +kernel
theorem dX0_withTaken_39 : decode cX0_withTaken 39 = .ok (.iconst 0, 1) := by decide +kernel
theorem dX0_withTaken_40 : decode cX0_withTaken 40 = .ok (.istore 6, 2) := by decide +kernel
theorem dX0_withTaken_42 : decode cX0_withTaken 42 = .ok (.iload 6, 2) := by decide +kernel
theorem dX0_withTaken_44 : decode cX0_withTaken 44 = .ok (.ifCond .eq 13, 3) := by decide +kernel
theorem dX0_withTaken_47 : decode cX0_withTaken 47 = .ok (.aload_n 0, 1) := by decide +kernel
theorem dX0_withTaken_48 : decode cX0_withTaken 48 = .ok (.getfield 16, 3) := by decide +kernel
theorem dX0_withTaken_51 : decode cX0_withTaken 51 = .ok (.iload 5, 2) := by decide +kernel
theorem dX0_withTaken_53 : decode cX0_withTaken 53 = .ok (.iaload, 1) := by decide +kernel
theorem dX0_withTaken_54 : decode cX0_withTaken 54 = .ok (.goto 10, 3) := by decide +kernel
theorem dX0_withTaken_57 : decode cX0_withTaken 57 = .ok (.aload_n 0, 1) := by decide +kernel
theorem dX0_withTaken_58 : decode cX0_withTaken 58 = .ok (.getfield 13, 3) := by decide +kernel
theorem dX0_withTaken_61 : decode cX0_withTaken 61 = .ok (.iload 5, 2) := by decide +kernel
theorem dX0_withTaken_63 : decode cX0_withTaken 63 = .ok (.iaload, 1) := by decide +kernel
theorem dX0_withTaken_64 : decode cX0_withTaken 64 = .ok (.istore 7, 2) := by decide +kernel
theorem dX0_withTaken_66 : decode cX0_withTaken 66 = .ok (.iload 6, 2) := by decide +kernel
theorem dX0_withTaken_68 : decode cX0_withTaken 68 = .ok (.ifCond .ne 14, 3) := by decide +kernel
theorem dX0_withTaken_71 : decode cX0_withTaken 71 = .ok (.aload_n 0, 1) := by decide +kernel
theorem dX0_withTaken_72 : decode cX0_withTaken 72 = .ok (.getfield 16, 3) := by decide +kernel
theorem dX0_withTaken_75 : decode cX0_withTaken 75 = .ok (.iload 5, 2) := by decide +kernel
theorem dX0_withTaken_77 : decode cX0_withTaken 77 = .ok (.iaload, 1) := by decide +kernel
theorem dX0_withTaken_78 : decode cX0_withTaken 78 = .ok (.iload_n 1, 1) := by decide +kernel
theorem dX0_withTaken_79 : decode cX0_withTaken 79 = .ok (.if_icmp .ne 40, 3) := by decide +kernel
theorem dX0_withTaken_82 : decode cX0_withTaken 82 = .ok (.iload 7, 2) := by decide +kernel
theorem dX0_withTaken_84 : decode cX0_withTaken 84 = .ok (.iload_n 3, 1) := by decide +kernel
theorem dX0_withTaken_85 : decode cX0_withTaken 85 = .ok (.if_icmp .ge 34, 3) := by decide +kernel
theorem dX0_withTaken_88 : decode cX0_withTaken 88 = .ok (.iload 5, 2) := by decide +kernel
theorem dX0_withTaken_90 : decode cX0_withTaken 90 = .ok (.iload_n 2, 1) := by decide +kernel
theorem dX0_withTaken_91 : decode cX0_withTaken 91 = .ok (.aload_n 0, 1) := by decide +kernel
theorem dX0_withTaken_92 : decode cX0_withTaken 92 = .ok (.getfield 31, 3) := by decide +kernel
theorem dX0_withTaken_95 : decode cX0_withTaken 95 = .ok (.iload 7, 2) := by decide +kernel
theorem dX0_withTaken_97 : decode cX0_withTaken 97 = .ok (.iaload, 1) := by decide +kernel
theorem dX0_withTaken_98 : decode cX0_withTaken 98 = .ok (.iload 6, 2) := by decide +kernel
theorem dX0_withTaken_100 : decode cX0_withTaken 100 = .ok (.invokestatic 60, 3) := by decide +kernel
theorem dX0_withTaken_103 : decode cX0_withTaken 103 = .ok (.istore 8, 2) := by decide +kernel
theorem dX0_withTaken_105 : decode cX0_withTaken 105 = .ok (.iload 4, 2) := by decide +kernel
theorem dX0_withTaken_107 : decode cX0_withTaken 107 = .ok (.aload_n 0, 1) := by decide +kernel
theorem dX0_withTaken_108 : decode cX0_withTaken 108 = .ok (.getfield 25, 3) := by decide +kernel
theorem dX0_withTaken_111 : decode cX0_withTaken 111 = .ok (.iload 8, 2) := by decide +kernel
theorem dX0_withTaken_113 : decode cX0_withTaken 113 = .ok (.iaload, 1) := by decide +kernel
theorem dX0_withTaken_114 : decode cX0_withTaken 114 = .ok (.invokestatic 64, 3) := by decide +kernel
theorem dX0_withTaken_117 : decode cX0_withTaken 117 = .ok (.istore 4, 2) := by decide +kernel
theorem dX0_withTaken_119 : decode cX0_withTaken 119 = .ok (.iinc 5 1, 3) := by decide +kernel
theorem dX0_withTaken_122 : decode cX0_withTaken 122 = .ok (.goto (-107), 3) := by decide +kernel
theorem dX0_withTaken_125 : decode cX0_withTaken 125 = .ok (.iload 4, 2) := by decide +kernel
theorem dX0_withTaken_127 : decode cX0_withTaken 127 = .ok (.ireturn, 1) := by decide +kernel
theorem dX0_descend_0 : decode cX0_descend 0 = .ok (.iload_n 1, 1) := by decide +kernel
theorem dX0_descend_1 : decode cX0_descend 1 = .ok (.iconst 1, 1) := by decide +kernel
theorem dX0_descend_2 : decode cX0_descend 2 = .ok (.iadd, 1) := by decide +kernel
theorem dX0_descend_3 : decode cX0_descend 3 = .ok (.bipush 6, 2) := by decide +kernel
theorem dX0_descend_5 : decode cX0_descend 5 = .ok (.if_icmp .ge 13, 3) := by decide +kernel
theorem dX0_descend_8 : decode cX0_descend 8 = .ok (.aload_n 0, 1) := by decide +kernel
theorem dX0_descend_9 : decode cX0_descend 9 = .ok (.iload_n 1, 1) := by decide +kernel
theorem dX0_descend_10 : decode cX0_descend 10 = .ok (.iconst 1, 1) := by decide +kernel
theorem dX0_descend_11 : decode cX0_descend 11 = .ok (.iadd, 1) := by decide +kernel
theorem dX0_descend_12 : decode cX0_descend 12 = .ok (.invokevirtual 108, 3) := by decide +kernel
theorem dX0_descend_15 : decode cX0_descend 15 = .ok (.goto 4, 3) := by decide +kernel
theorem dX0_descend_18 : decode cX0_descend 18 = .ok (.iconst 0, 1) := by decide +kernel
theorem dX0_descend_19 : decode cX0_descend 19 = .ok (.istore_n 3, 1) := by decide +kernel
theorem dX0_descend_20 : decode cX0_descend 20 = .ok (.aload_n 0, 1) := by decide +kernel
theorem dX0_descend_21 : decode cX0_descend 21 = .ok (.getfield 34, 3) := by decide +kernel
theorem dX0_descend_24 : decode cX0_descend 24 = .ok (.iload_n 1, 1) := by decide +kernel
theorem dX0_descend_25 : decode cX0_descend 25 = .ok (.iconst 1, 1) := by decide +kernel
theorem dX0_descend_26 : decode cX0_descend 26 = .ok (.iadd, 1) := by decide +kernel
theorem dX0_descend_27 : decode cX0_descend 27 = .ok (.iaload, 1) := by decide +kernel
theorem dX0_descend_28 : decode cX0_descend 28 = .ok (.iload_n 3, 1) := by decide +kernel
theorem dX0_descend_29 : decode cX0_descend 29 = .ok (.invokestatic 64, 3) := by decide +kernel
theorem dX0_descend_32 : decode cX0_descend 32 = .ok (.istore 4, 2) := by decide +kernel
theorem dX0_descend_34 : decode cX0_descend 34 = .ok (.iload 4, 2) := by decide +kernel
theorem dX0_descend_36 : decode cX0_descend 36 = .ok (.ldc 59, 2) := by decide +kernel
theorem dX0_descend_38 : decode cX0_descend 38 = .ok (.if_icmp .ge 9, 3) := by decide +kernel
theorem dX0_descend_41 : decode cX0_descend 41 = .ok (.iload 4, 2) := by decide +kernel
theorem dX0_descend_43 : decode cX0_descend 43 = .ok (.iload_n 2, 1) := by decide +kernel
theorem dX0_descend_44 : decode cX0_descend 44 = .ok (.if_icmp .le 5, 3) := by decide +kernel
theorem dX0_descend_47 : decode cX0_descend 47 = .ok (.iload_n 1, 1) := by decide +kernel
theorem dX0_descend_48 : decode cX0_descend 48 = .ok (.ireturn, 1) := by decide +kernel
theorem dX0_descend_49 : decode cX0_descend 49 = .ok (.iload_n 1, 1) := by decide +kernel
theorem dX0_descend_50 : decode cX0_descend 50 = .ok (.iconst 1, 1) := by decide +kernel
theorem dX0_descend_51 : decode cX0_descend 51 = .ok (.iadd, 1) := by decide +kernel
theorem dX0_descend_52 : decode cX0_descend 52 = .ok (.bipush 6, 2) := by decide +kernel
theorem dX0_descend_54 : decode cX0_descend 54 = .ok (.if_icmp .ne 16, 3) := by decide +kernel
theorem dX0_descend_57 : decode cX0_descend 57 = .ok (.aload_n 0, 1) := by decide +kernel
theorem dX0_descend_58 : decode cX0_descend 58 = .ok (.aload_n 0, 1) := by decide +kernel
theorem dX0_descend_59 : decode cX0_descend 59 = .ok (.getfield 34, 3) := by decide +kernel
theorem dX0_descend_62 : decode cX0_descend 62 = .ok (.bipush 6, 2) := by decide +kernel
theorem dX0_descend_64 : decode cX0_descend 64 = .ok (.iaload, 1) := by decide +kernel
theorem dX0_descend_65 : decode cX0_descend 65 = .ok (.invokevirtual 111, 3) := by decide +kernel
theorem dX0_descend_68 : decode cX0_descend 68 = .ok (.iload_n 1, 1) := by decide +kernel
theorem dX0_descend_69 : decode cX0_descend 69 = .ok (.ireturn, 1) := by decide +kernel
theorem dX0_descend_70 : decode cX0_descend 70 = .ok (.aload_n 0, 1) := by decide +kernel
theorem dX0_descend_71 : decode cX0_descend 71 = .ok (.iload_n 1, 1) := by decide +kernel
theorem dX0_descend_72 : decode cX0_descend 72 = .ok (.iconst 1, 1) := by decide +kernel
theorem dX0_descend_73 : decode cX0_descend 73 = .ok (.iadd, 1) := by decide +kernel
theorem dX0_descend_74 : decode cX0_descend 74 = .ok (.invokevirtual 99, 3) := by decide +kernel
theorem dX0_descend_77 : decode cX0_descend 77 = .ok (.iload_n 1, 1) := by decide +kernel
theorem dX0_descend_78 : decode cX0_descend 78 = .ok (.iconst 1, 1) := by decide +kernel
theorem dX0_descend_79 : decode cX0_descend 79 = .ok (.iadd, 1) := by decide +kernel
theorem dX0_descend_80 : decode cX0_descend 80 = .ok (.ireturn, 1) := by decide +kernel
theorem dX0_ahead_0 : decode cX0_ahead 0 = .ok (.iconst 0, 1) := by decide +kernel
theorem dX0_ahead_1 : decode cX0_ahead 1 = .ok (.istore_n 2, 1) := by decide +kernel
theorem dX0_ahead_2 : decode cX0_ahead 2 = .ok (.iload_n 1, 1) := by decide +kernel
theorem dX0_ahead_3 : decode cX0_ahead 3 = .ok (.istore_n 3, 1) := by decide +kernel
theorem dX0_ahead_4 : decode cX0_ahead 4 = .ok (.iload_n 3, 1) := by decide +kernel
theorem dX0_ahead_5 : decode cX0_ahead 5 = .ok (.bipush 6, 2) := by decide +kernel
theorem dX0_ahead_7 : decode cX0_ahead 7 = .ok (.if_icmp .ge 93, 3) := by decide +kernel
theorem dX0_ahead_10 : decode cX0_ahead 10 = .ok (.ldc 58, 2) := by decide +kernel
theorem dX0_ahead_12 : decode cX0_ahead 12 = .ok (.istore 4, 2) := by decide +kernel
theorem dX0_ahead_14 : decode cX0_ahead 14 = .ok (.iconst 0, 1) := by decide +kernel
theorem dX0_ahead_15 : decode cX0_ahead 15 = .ok (.istore 5, 2) := by decide +kernel
theorem dX0_ahead_17 : decode cX0_ahead 17 = .ok (.iload 5, 2) := by decide +kernel
theorem dX0_ahead_19 : decode cX0_ahead 19 = .ok (.iconst 3, 1) := by decide +kernel
theorem dX0_ahead_20 : decode cX0_ahead 20 = .ok (.if_icmp .ge 67, 3) := by decide +kernel
theorem dX0_ahead_23 : decode cX0_ahead 23 = .ok (.aload_n 0, 1) := by decide +kernel
theorem dX0_ahead_24 : decode cX0_ahead 24 = .ok (.getfield 28, 3) := by decide +kernel
theorem dX0_ahead_27 : decode cX0_ahead 27 = .ok (.iload_n 3, 1) := by decide +kernel
theorem dX0_ahead_28 : decode cX0_ahead 28 = .ok (.iaload, 1) := by decide +kernel
theorem dX0_ahead_29 : decode cX0_ahead 29 = .ok (.ifCond .lt 14, 3) := by decide +kernel
theorem dX0_ahead_32 : decode cX0_ahead 32 = .ok (.aload_n 0, 1) := by decide +kernel
theorem dX0_ahead_33 : decode cX0_ahead 33 = .ok (.getfield 28, 3) := by decide +kernel
theorem dX0_ahead_36 : decode cX0_ahead 36 = .ok (.iload_n 3, 1) := by decide +kernel
theorem dX0_ahead_37 : decode cX0_ahead 37 = .ok (.iaload, 1) := by decide +kernel
theorem dX0_ahead_38 : decode cX0_ahead 38 = .ok (.iload 5, 2) := by decide +kernel
theorem dX0_ahead_40 : decode cX0_ahead 40 = .ok (.if_icmp .ne 7, 3) := by decide +kernel
theorem dX0_ahead_43 : decode cX0_ahead 43 = .ok (.iconst 1, 1) := by decide +kernel
theorem dX0_ahead_44 : decode cX0_ahead 44 = .ok (.goto 4, 3) := by decide +kernel
theorem dX0_ahead_47 : decode cX0_ahead 47 = .ok (.iconst 0, 1) := by decide +kernel
theorem dX0_ahead_48 : decode cX0_ahead 48 = .ok (.istore 6, 2) := by decide +kernel
theorem dX0_ahead_50 : decode cX0_ahead 50 = .ok (.iload 6, 2) := by decide +kernel
theorem dX0_ahead_52 : decode cX0_ahead 52 = .ok (.ifCond .eq 14, 3) := by decide +kernel
theorem dX0_ahead_55 : decode cX0_ahead 55 = .ok (.aload_n 0, 1) := by decide +kernel
theorem dX0_ahead_56 : decode cX0_ahead 56 = .ok (.iload_n 3, 1) := by decide +kernel
theorem dX0_ahead_57 : decode cX0_ahead 57 = .ok (.iload 5, 2) := by decide +kernel
theorem dX0_ahead_59 : decode cX0_ahead 59 = .ok (.iload_n 1, 1) := by decide +kernel
theorem dX0_ahead_60 : decode cX0_ahead 60 = .ok (.invokevirtual 86, 3) := by decide +kernel
theorem dX0_ahead_63 : decode cX0_ahead 63 = .ok (.goto 5, 3) := by decide +kernel
theorem dX0_ahead_66 : decode cX0_ahead 66 = .ok (.ldc 58, 2) := by decide +kernel
theorem dX0_ahead_68 : decode cX0_ahead 68 = .ok (.istore 7, 2) := by decide +kernel
theorem dX0_ahead_70 : decode cX0_ahead 70 = .ok (.iload 7, 2) := by decide +kernel
theorem dX0_ahead_72 : decode cX0_ahead 72 = .ok (.iload 4, 2) := by decide +kernel
theorem dX0_ahead_74 : decode cX0_ahead 74 = .ok (.if_icmp .ge 7, 3) := by decide +kernel
theorem dX0_ahead_77 : decode cX0_ahead 77 = .ok (.iload 7, 2) := by decide +kernel
theorem dX0_ahead_79 : decode cX0_ahead 79 = .ok (.istore 4, 2) := by decide +kernel
theorem dX0_ahead_81 : decode cX0_ahead 81 = .ok (.iinc 5 1, 3) := by decide +kernel
theorem dX0_ahead_84 : decode cX0_ahead 84 = .ok (.goto (-67), 3) := by decide +kernel
theorem dX0_ahead_87 : decode cX0_ahead 87 = .ok (.iload_n 2, 1) := by decide +kernel
theorem dX0_ahead_88 : decode cX0_ahead 88 = .ok (.iload 4, 2) := by decide +kernel
theorem dX0_ahead_90 : decode cX0_ahead 90 = .ok (.invokestatic 64, 3) := by decide +kernel
theorem dX0_ahead_93 : decode cX0_ahead 93 = .ok (.istore_n 2, 1) := by decide +kernel
theorem dX0_ahead_94 : decode cX0_ahead 94 = .ok (.iinc 3 1, 3) := by decide +kernel
theorem dX0_ahead_97 : decode cX0_ahead 97 = .ok (.goto (-93), 3) := by decide +kernel
theorem dX0_ahead_100 : decode cX0_ahead 100 = .ok (.iload_n 2, 1) := by decide +kernel
theorem dX0_ahead_101 : decode cX0_ahead 101 = .ok (.ireturn, 1) := by decide +kernel
theorem dX0_take_0 : decode cX0_take 0 = .ok (.aload_n 0, 1) := by decide +kernel
theorem dX0_take_1 : decode cX0_take 1 = .ok (.dup, 1) := by decide +kernel
theorem dX0_take_2 : decode cX0_take 2 = .ok (.getfield 90, 3) := by decide +kernel
theorem dX0_take_5 : decode cX0_take 5 = .ok (.iconst 1, 1) := by decide +kernel
theorem dX0_take_6 : decode cX0_take 6 = .ok (.iadd, 1) := by decide +kernel
theorem dX0_take_7 : decode cX0_take 7 = .ok (.putfield 90, 3) := by decide +kernel
theorem dX0_take_10 : decode cX0_take 10 = .ok (.iload_n 1, 1) := by decide +kernel
theorem dX0_take_11 : decode cX0_take 11 = .ok (.aload_n 0, 1) := by decide +kernel
theorem dX0_take_12 : decode cX0_take 12 = .ok (.getfield 93, 3) := by decide +kernel
theorem dX0_take_15 : decode cX0_take 15 = .ok (.if_icmp .ge 34, 3) := by decide +kernel
theorem dX0_take_18 : decode cX0_take 18 = .ok (.aload_n 0, 1) := by decide +kernel
theorem dX0_take_19 : decode cX0_take 19 = .ok (.iload_n 1, 1) := by decide +kernel
theorem dX0_take_20 : decode cX0_take 20 = .ok (.putfield 93, 3) := by decide +kernel
theorem dX0_take_23 : decode cX0_take 23 = .ok (.iconst 0, 1) := by decide +kernel
theorem dX0_take_24 : decode cX0_take 24 = .ok (.istore_n 2, 1) := by decide +kernel
theorem dX0_take_25 : decode cX0_take 25 = .ok (.iload_n 2, 1) := by decide +kernel
theorem dX0_take_26 : decode cX0_take 26 = .ok (.bipush 6, 2) := by decide +kernel
theorem dX0_take_28 : decode cX0_take 28 = .ok (.if_icmp .ge 21, 3) := by decide +kernel
theorem dX0_take_31 : decode cX0_take 31 = .ok (.aload_n 0, 1) := by decide +kernel
theorem dX0_take_32 : decode cX0_take 32 = .ok (.getfield 40, 3) := by decide +kernel
theorem dX0_take_35 : decode cX0_take 35 = .ok (.iload_n 2, 1) := by decide +kernel
theorem dX0_take_36 : decode cX0_take 36 = .ok (.aload_n 0, 1) := by decide +kernel
theorem dX0_take_37 : decode cX0_take 37 = .ok (.getfield 31, 3) := by decide +kernel
theorem dX0_take_40 : decode cX0_take 40 = .ok (.iload_n 2, 1) := by decide +kernel
theorem dX0_take_41 : decode cX0_take 41 = .ok (.iaload, 1) := by decide +kernel
theorem dX0_take_42 : decode cX0_take 42 = .ok (.iastore, 1) := by decide +kernel
theorem dX0_take_43 : decode cX0_take 43 = .ok (.iinc 2 1, 3) := by decide +kernel
theorem dX0_take_46 : decode cX0_take 46 = .ok (.goto (-21), 3) := by decide +kernel
theorem dX0_take_49 : decode cX0_take 49 = .ok (.return_, 1) := by decide +kernel
theorem dX0_value_0 : decode cX0_value 0 = .ok (.iload_n 1, 1) := by decide +kernel
theorem dX0_value_1 : decode cX0_value 1 = .ok (.invokestatic 47, 3) := by decide +kernel
theorem dX0_value_4 : decode cX0_value 4 = .ok (.ifCond .eq 5, 3) := by decide +kernel
theorem dX0_value_7 : decode cX0_value 7 = .ok (.iconst (-1), 1) := by decide +kernel
theorem dX0_value_8 : decode cX0_value 8 = .ok (.ireturn, 1) := by decide +kernel
theorem dX0_value_9 : decode cX0_value 9 = .ok (.aload_n 0, 1) := by decide +kernel
theorem dX0_value_10 : decode cX0_value 10 = .ok (.invokevirtual 119, 3) := by decide +kernel
theorem dX0_value_13 : decode cX0_value 13 = .ok (.aload_n 0, 1) := by decide +kernel
theorem dX0_value_14 : decode cX0_value 14 = .ok (.invokevirtual 122, 3) := by decide +kernel
theorem dX0_value_17 : decode cX0_value 17 = .ok (.istore_n 2, 1) := by decide +kernel
theorem dX0_value_18 : decode cX0_value 18 = .ok (.iload_n 2, 1) := by decide +kernel
theorem dX0_value_19 : decode cX0_value 19 = .ok (.bipush (-6), 2) := by decide +kernel
theorem dX0_value_21 : decode cX0_value 21 = .ok (.if_icmp .ne 8, 3) := by decide +kernel
theorem dX0_value_24 : decode cX0_value 24 = .ok (.bipush (-6), 2) := by decide +kernel
theorem dX0_value_26 : decode cX0_value 26 = .ok (.goto 9, 3) := by decide +kernel
theorem dX0_value_29 : decode cX0_value 29 = .ok (.aload_n 0, 1) := by decide +kernel
theorem dX0_value_30 : decode cX0_value 30 = .ok (.getfield 40, 3) := by decide +kernel
theorem dX0_value_33 : decode cX0_value 33 = .ok (.iload_n 1, 1) := by decide +kernel
theorem dX0_value_34 : decode cX0_value 34 = .ok (.iaload, 1) := by decide +kernel
theorem dX0_value_35 : decode cX0_value 35 = .ok (.ireturn, 1) := by decide +kernel
theorem dX0_leastWith_0 : decode cX0_leastWith 0 = .ok (.iload_n 1, 1) := by decide +kernel
theorem dX0_leastWith_1 : decode cX0_leastWith 1 = .ok (.invokestatic 47, 3) := by decide +kernel
theorem dX0_leastWith_4 : decode cX0_leastWith 4 = .ok (.ifCond .eq 5, 3) := by decide +kernel
theorem dX0_leastWith_7 : decode cX0_leastWith 7 = .ok (.iconst (-1), 1) := by decide +kernel
theorem dX0_leastWith_8 : decode cX0_leastWith 8 = .ok (.ireturn, 1) := by decide +kernel
theorem dX0_leastWith_9 : decode cX0_leastWith 9 = .ok (.iload_n 2, 1) := by decide +kernel
theorem dX0_leastWith_10 : decode cX0_leastWith 10 = .ok (.ifCond .lt 8, 3) := by decide +kernel
theorem dX0_leastWith_13 : decode cX0_leastWith 13 = .ok (.iload_n 2, 1) := by decide +kernel
theorem dX0_leastWith_14 : decode cX0_leastWith 14 = .ok (.iconst 3, 1) := by decide +kernel
theorem dX0_leastWith_15 : decode cX0_leastWith 15 = .ok (.if_icmp .lt 6, 3) := by decide +kernel
theorem dX0_leastWith_18 : decode cX0_leastWith 18 = .ok (.bipush (-2), 2) := by decide +kernel
theorem dX0_leastWith_20 : decode cX0_leastWith 20 = .ok (.ireturn, 1) := by decide +kernel
theorem dX0_leastWith_21 : decode cX0_leastWith 21 = .ok (.aload_n 0, 1) := by decide +kernel
theorem dX0_leastWith_22 : decode cX0_leastWith 22 = .ok (.invokevirtual 119, 3) := by decide +kernel
theorem dX0_leastWith_25 : decode cX0_leastWith 25 = .ok (.aload_n 0, 1) := by decide +kernel
theorem dX0_leastWith_26 : decode cX0_leastWith 26 = .ok (.getfield 28, 3) := by decide +kernel
theorem dX0_leastWith_29 : decode cX0_leastWith 29 = .ok (.iload_n 1, 1) := by decide +kernel
theorem dX0_leastWith_30 : decode cX0_leastWith 30 = .ok (.iload_n 2, 1) := by decide +kernel
theorem dX0_leastWith_31 : decode cX0_leastWith 31 = .ok (.iastore, 1) := by decide +kernel
theorem dX0_leastWith_32 : decode cX0_leastWith 32 = .ok (.aload_n 0, 1) := by decide +kernel
theorem dX0_leastWith_33 : decode cX0_leastWith 33 = .ok (.invokevirtual 122, 3) := by decide +kernel
theorem dX0_leastWith_36 : decode cX0_leastWith 36 = .ok (.ireturn, 1) := by decide +kernel
theorem dX0_ties_0 : decode cX0_ties 0 = .ok (.aload_n 0, 1) := by decide +kernel
theorem dX0_ties_1 : decode cX0_ties 1 = .ok (.invokevirtual 119, 3) := by decide +kernel
theorem dX0_ties_4 : decode cX0_ties 4 = .ok (.aload_n 0, 1) := by decide +kernel
theorem dX0_ties_5 : decode cX0_ties 5 = .ok (.invokevirtual 122, 3) := by decide +kernel
theorem dX0_ties_8 : decode cX0_ties 8 = .ok (.istore_n 1, 1) := by decide +kernel
theorem dX0_ties_9 : decode cX0_ties 9 = .ok (.iload_n 1, 1) := by decide +kernel
theorem dX0_ties_10 : decode cX0_ties 10 = .ok (.bipush (-6), 2) := by decide +kernel
theorem dX0_ties_12 : decode cX0_ties 12 = .ok (.if_icmp .ne 7, 3) := by decide +kernel
theorem dX0_ties_15 : decode cX0_ties 15 = .ok (.iconst 0, 1) := by decide +kernel
theorem dX0_ties_16 : decode cX0_ties 16 = .ok (.goto 8, 3) := by decide +kernel
theorem dX0_ties_19 : decode cX0_ties 19 = .ok (.aload_n 0, 1) := by decide +kernel
theorem dX0_ties_20 : decode cX0_ties 20 = .ok (.iload_n 1, 1) := by decide +kernel
theorem dX0_ties_21 : decode cX0_ties 21 = .ok (.invokevirtual 126, 3) := by decide +kernel
theorem dX0_ties_24 : decode cX0_ties 24 = .ok (.ireturn, 1) := by decide +kernel
theorem dX0_countUpTo_0 : decode cX0_countUpTo 0 = .ok (.aload_n 0, 1) := by decide +kernel
theorem dX0_countUpTo_1 : decode cX0_countUpTo 1 = .ok (.iload_n 1, 1) := by decide +kernel
theorem dX0_countUpTo_2 : decode cX0_countUpTo 2 = .ok (.iconst 0, 1) := by decide +kernel
theorem dX0_countUpTo_3 : decode cX0_countUpTo 3 = .ok (.invokevirtual 115, 3) := by decide +kernel
theorem dX0_countUpTo_6 : decode cX0_countUpTo 6 = .ok (.aload_n 0, 1) := by decide +kernel
theorem dX0_countUpTo_7 : decode cX0_countUpTo 7 = .ok (.getfield 90, 3) := by decide +kernel
theorem dX0_countUpTo_10 : decode cX0_countUpTo 10 = .ok (.ireturn, 1) := by decide +kernel
theorem dX0_allowed_0 : decode cX0_allowed 0 = .ok (.aload_n 0, 1) := by decide +kernel
theorem dX0_allowed_1 : decode cX0_allowed 1 = .ok (.invokevirtual 119, 3) := by decide +kernel
theorem dX0_allowed_4 : decode cX0_allowed 4 = .ok (.aload_n 0, 1) := by decide +kernel
theorem dX0_allowed_5 : decode cX0_allowed 5 = .ok (.ldc 114, 2) := by decide +kernel
theorem dX0_allowed_7 : decode cX0_allowed 7 = .ok (.invokevirtual 126, 3) := by decide +kernel
theorem dX0_allowed_10 : decode cX0_allowed 10 = .ok (.ireturn, 1) := by decide +kernel
theorem dX0_upTo_0 : decode cX0_upTo 0 = .ok (.iload_n 1, 1) := by decide +kernel
theorem dX0_upTo_1 : decode cX0_upTo 1 = .ok (.ifCond .ge 5, 3) := by decide +kernel
theorem dX0_upTo_4 : decode cX0_upTo 4 = .ok (.iconst 0, 1) := by decide +kernel
theorem dX0_upTo_5 : decode cX0_upTo 5 = .ok (.ireturn, 1) := by decide +kernel
theorem dX0_upTo_6 : decode cX0_upTo 6 = .ok (.aload_n 0, 1) := by decide +kernel
theorem dX0_upTo_7 : decode cX0_upTo 7 = .ok (.invokevirtual 119, 3) := by decide +kernel
theorem dX0_upTo_10 : decode cX0_upTo 10 = .ok (.aload_n 0, 1) := by decide +kernel
theorem dX0_upTo_11 : decode cX0_upTo 11 = .ok (.iload_n 1, 1) := by decide +kernel
theorem dX0_upTo_12 : decode cX0_upTo 12 = .ok (.ldc 59, 2) := by decide +kernel
theorem dX0_upTo_14 : decode cX0_upTo 14 = .ok (.if_icmp .ge 7, 3) := by decide +kernel
theorem dX0_upTo_17 : decode cX0_upTo 17 = .ok (.iload_n 1, 1) := by decide +kernel
theorem dX0_upTo_18 : decode cX0_upTo 18 = .ok (.goto 5, 3) := by decide +kernel
theorem dX0_upTo_21 : decode cX0_upTo 21 = .ok (.ldc 114, 2) := by decide +kernel
theorem dX0_upTo_23 : decode cX0_upTo 23 = .ok (.invokevirtual 126, 3) := by decide +kernel
theorem dX0_upTo_26 : decode cX0_upTo 26 = .ok (.ireturn, 1) := by decide +kernel
theorem dX0_canAgree_0 : decode cX0_canAgree 0 = .ok (.iload_n 1, 1) := by decide +kernel
theorem dX0_canAgree_1 : decode cX0_canAgree 1 = .ok (.invokestatic 47, 3) := by decide +kernel
theorem dX0_canAgree_4 : decode cX0_canAgree 4 = .ok (.ifCond .ne 10, 3) := by decide +kernel
theorem dX0_canAgree_7 : decode cX0_canAgree 7 = .ok (.iload_n 2, 1) := by decide +kernel
theorem dX0_canAgree_8 : decode cX0_canAgree 8 = .ok (.invokestatic 47, 3) := by decide +kernel
theorem dX0_canAgree_11 : decode cX0_canAgree 11 = .ok (.ifCond .eq 5, 3) := by decide +kernel
theorem dX0_canAgree_14 : decode cX0_canAgree 14 = .ok (.iconst 0, 1) := by decide +kernel
theorem dX0_canAgree_15 : decode cX0_canAgree 15 = .ok (.ireturn, 1) := by decide +kernel
theorem dX0_canAgree_16 : decode cX0_canAgree 16 = .ok (.aload_n 0, 1) := by decide +kernel
theorem dX0_canAgree_17 : decode cX0_canAgree 17 = .ok (.invokevirtual 119, 3) := by decide +kernel
theorem dX0_canAgree_20 : decode cX0_canAgree 20 = .ok (.aload_n 0, 1) := by decide +kernel
theorem dX0_canAgree_21 : decode cX0_canAgree 21 = .ok (.invokevirtual 122, 3) := by decide +kernel
theorem dX0_canAgree_24 : decode cX0_canAgree 24 = .ok (.istore_n 3, 1) := by decide +kernel
theorem dX0_canAgree_25 : decode cX0_canAgree 25 = .ok (.iload_n 3, 1) := by decide +kernel
theorem dX0_canAgree_26 : decode cX0_canAgree 26 = .ok (.bipush (-6), 2) := by decide +kernel
theorem dX0_canAgree_28 : decode cX0_canAgree 28 = .ok (.if_icmp .ne 5, 3) := by decide +kernel
theorem dX0_canAgree_31 : decode cX0_canAgree 31 = .ok (.iconst 0, 1) := by decide +kernel
theorem dX0_canAgree_32 : decode cX0_canAgree 32 = .ok (.ireturn, 1) := by decide +kernel
theorem dX0_canAgree_33 : decode cX0_canAgree 33 = .ok (.iconst 0, 1) := by decide +kernel
theorem dX0_canAgree_34 : decode cX0_canAgree 34 = .ok (.istore 4, 2) := by decide +kernel
theorem dX0_canAgree_36 : decode cX0_canAgree 36 = .ok (.iload 4, 2) := by decide +kernel
theorem dX0_canAgree_38 : decode cX0_canAgree 38 = .ok (.iconst 3, 1) := by decide +kernel
theorem dX0_canAgree_39 : decode cX0_canAgree 39 = .ok (.if_icmp .ge 43, 3) := by decide +kernel
theorem dX0_canAgree_42 : decode cX0_canAgree 42 = .ok (.aload_n 0, 1) := by decide +kernel
theorem dX0_canAgree_43 : decode cX0_canAgree 43 = .ok (.invokevirtual 119, 3) := by decide +kernel
theorem dX0_canAgree_46 : decode cX0_canAgree 46 = .ok (.aload_n 0, 1) := by decide +kernel
theorem dX0_canAgree_47 : decode cX0_canAgree 47 = .ok (.getfield 28, 3) := by decide +kernel
theorem dX0_canAgree_50 : decode cX0_canAgree 50 = .ok (.iload_n 1, 1) := by decide +kernel
theorem dX0_canAgree_51 : decode cX0_canAgree 51 = .ok (.iload 4, 2) := by decide +kernel
theorem dX0_canAgree_53 : decode cX0_canAgree 53 = .ok (.iastore, 1) := by decide +kernel
theorem dX0_canAgree_54 : decode cX0_canAgree 54 = .ok (.aload_n 0, 1) := by decide +kernel
theorem dX0_canAgree_55 : decode cX0_canAgree 55 = .ok (.getfield 28, 3) := by decide +kernel
theorem dX0_canAgree_58 : decode cX0_canAgree 58 = .ok (.iload_n 2, 1) := by decide +kernel
theorem dX0_canAgree_59 : decode cX0_canAgree 59 = .ok (.iload 4, 2) := by decide +kernel
theorem dX0_canAgree_61 : decode cX0_canAgree 61 = .ok (.iastore, 1) := by decide +kernel
theorem dX0_canAgree_62 : decode cX0_canAgree 62 = .ok (.aload_n 0, 1) := by decide +kernel
theorem dX0_canAgree_63 : decode cX0_canAgree 63 = .ok (.invokevirtual 122, 3) := by decide +kernel
theorem dX0_canAgree_66 : decode cX0_canAgree 66 = .ok (.istore 5, 2) := by decide +kernel
theorem dX0_canAgree_68 : decode cX0_canAgree 68 = .ok (.iload 5, 2) := by decide +kernel
theorem dX0_canAgree_70 : decode cX0_canAgree 70 = .ok (.iload_n 3, 1) := by decide +kernel
theorem dX0_canAgree_71 : decode cX0_canAgree 71 = .ok (.if_icmp .ne 5, 3) := by decide +kernel
theorem dX0_canAgree_74 : decode cX0_canAgree 74 = .ok (.iconst 1, 1) := by decide +kernel
theorem dX0_canAgree_75 : decode cX0_canAgree 75 = .ok (.ireturn, 1) := by decide +kernel
theorem dX0_canAgree_76 : decode cX0_canAgree 76 = .ok (.iinc 4 1, 3) := by decide +kernel
theorem dX0_canAgree_79 : decode cX0_canAgree 79 = .ok (.goto (-43), 3) := by decide +kernel
theorem dX0_canAgree_82 : decode cX0_canAgree 82 = .ok (.iconst 0, 1) := by decide +kernel
theorem dX0_canAgree_83 : decode cX0_canAgree 83 = .ok (.ireturn, 1) := by decide +kernel
end
section
set_option maxRecDepth 100000
theorem dX1_init_0 : decode cX1_init 0 = .ok (.aload_n 0, 1) := by decide +kernel
theorem dX1_init_1 : decode cX1_init 1 = .ok (.invokespecial 1, 3) := by decide +kernel
theorem dX1_init_4 : decode cX1_init 4 = .ok (.aload_n 0, 1) := by decide +kernel
theorem dX1_init_5 : decode cX1_init 5 = .ok (.bipush 18, 2) := by decide +kernel
theorem dX1_init_7 : decode cX1_init 7 = .ok (.newarray .int, 2) := by decide +kernel
theorem dX1_init_9 : decode cX1_init 9 = .ok (.putfield 7, 3) := by decide +kernel
theorem dX1_init_12 : decode cX1_init 12 = .ok (.aload_n 0, 1) := by decide +kernel
theorem dX1_init_13 : decode cX1_init 13 = .ok (.bipush 8, 2) := by decide +kernel
theorem dX1_init_15 : decode cX1_init 15 = .ok (.newarray .int, 2) := by decide +kernel
theorem dX1_init_17 : decode cX1_init 17 = .ok (.putfield 13, 3) := by decide +kernel
theorem dX1_init_20 : decode cX1_init 20 = .ok (.aload_n 0, 1) := by decide +kernel
theorem dX1_init_21 : decode cX1_init 21 = .ok (.bipush 8, 2) := by decide +kernel
theorem dX1_init_23 : decode cX1_init 23 = .ok (.newarray .int, 2) := by decide +kernel
theorem dX1_init_25 : decode cX1_init 25 = .ok (.putfield 16, 3) := by decide +kernel
theorem dX1_init_28 : decode cX1_init 28 = .ok (.aload_n 0, 1) := by decide +kernel
theorem dX1_init_29 : decode cX1_init 29 = .ok (.bipush 72, 2) := by decide +kernel
theorem dX1_init_31 : decode cX1_init 31 = .ok (.newarray .int, 2) := by decide +kernel
theorem dX1_init_33 : decode cX1_init 33 = .ok (.putfield 19, 3) := by decide +kernel
theorem dX1_init_36 : decode cX1_init 36 = .ok (.aload_n 0, 1) := by decide +kernel
theorem dX1_init_37 : decode cX1_init 37 = .ok (.sipush 729, 3) := by decide +kernel
theorem dX1_init_40 : decode cX1_init 40 = .ok (.newarray .int, 2) := by decide +kernel
theorem dX1_init_42 : decode cX1_init 42 = .ok (.putfield 22, 3) := by decide +kernel
theorem dX1_init_45 : decode cX1_init 45 = .ok (.return_, 1) := by decide +kernel
theorem dX1_cost_0 : decode cX1_cost 0 = .ok (.aload_n 0, 1) := by decide +kernel
theorem dX1_cost_1 : decode cX1_cost 1 = .ok (.iload_n 1, 1) := by decide +kernel
theorem dX1_cost_2 : decode cX1_cost 2 = .ok (.invokevirtual 25, 3) := by decide +kernel
theorem dX1_cost_5 : decode cX1_cost 5 = .ok (.ifCond .ne 5, 3) := by decide +kernel
theorem dX1_cost_8 : decode cX1_cost 8 = .ok (.iconst (-1), 1) := by decide +kernel
theorem dX1_cost_9 : decode cX1_cost 9 = .ok (.ireturn, 1) := by decide +kernel
theorem dX1_cost_10 : decode cX1_cost 10 = .ok (.iload_n 2, 1) := by decide +kernel
theorem dX1_cost_11 : decode cX1_cost 11 = .ok (.ifCond .lt 8, 3) := by decide +kernel
theorem dX1_cost_14 : decode cX1_cost 14 = .ok (.iload_n 2, 1) := by decide +kernel
theorem dX1_cost_15 : decode cX1_cost 15 = .ok (.iconst 2, 1) := by decide +kernel
theorem dX1_cost_16 : decode cX1_cost 16 = .ok (.if_icmp .le 6, 3) := by decide +kernel
theorem dX1_cost_19 : decode cX1_cost 19 = .ok (.bipush (-2), 2) := by decide +kernel
theorem dX1_cost_21 : decode cX1_cost 21 = .ok (.ireturn, 1) := by decide +kernel
theorem dX1_cost_22 : decode cX1_cost 22 = .ok (.iload_n 3, 1) := by decide +kernel
theorem dX1_cost_23 : decode cX1_cost 23 = .ok (.ifCond .lt 9, 3) := by decide +kernel
theorem dX1_cost_26 : decode cX1_cost 26 = .ok (.iload_n 3, 1) := by decide +kernel
theorem dX1_cost_27 : decode cX1_cost 27 = .ok (.bipush 20, 2) := by decide +kernel
theorem dX1_cost_29 : decode cX1_cost 29 = .ok (.if_icmp .le 6, 3) := by decide +kernel
theorem dX1_cost_32 : decode cX1_cost 32 = .ok (.bipush (-3), 2) := by decide +kernel
theorem dX1_cost_34 : decode cX1_cost 34 = .ok (.ireturn, 1) := by decide +kernel
theorem dX1_cost_35 : decode cX1_cost 35 = .ok (.aload_n 0, 1) := by decide +kernel
theorem dX1_cost_36 : decode cX1_cost 36 = .ok (.getfield 7, 3) := by decide +kernel
theorem dX1_cost_39 : decode cX1_cost 39 = .ok (.iload_n 1, 1) := by decide +kernel
theorem dX1_cost_40 : decode cX1_cost 40 = .ok (.iconst 3, 1) := by decide +kernel
theorem dX1_cost_41 : decode cX1_cost 41 = .ok (.imul, 1) := by decide +kernel
theorem dX1_cost_42 : decode cX1_cost 42 = .ok (.iload_n 2, 1) := by decide +kernel
theorem dX1_cost_43 : decode cX1_cost 43 = .ok (.iadd, 1) := by decide +kernel
theorem dX1_cost_44 : decode cX1_cost 44 = .ok (.iaload, 1) := by decide +kernel
theorem dX1_cost_45 : decode cX1_cost 45 = .ok (.istore 4, 2) := by decide +kernel
theorem dX1_cost_47 : decode cX1_cost 47 = .ok (.aload_n 0, 1) := by decide +kernel
theorem dX1_cost_48 : decode cX1_cost 48 = .ok (.getfield 7, 3) := by decide +kernel
theorem dX1_cost_51 : decode cX1_cost 51 = .ok (.iload_n 1, 1) := by decide +kernel
theorem dX1_cost_52 : decode cX1_cost 52 = .ok (.iconst 3, 1) := by decide +kernel
theorem dX1_cost_53 : decode cX1_cost 53 = .ok (.imul, 1) := by decide +kernel
theorem dX1_cost_54 : decode cX1_cost 54 = .ok (.iload_n 2, 1) := by decide +kernel
theorem dX1_cost_55 : decode cX1_cost 55 = .ok (.iadd, 1) := by decide +kernel
theorem dX1_cost_56 : decode cX1_cost 56 = .ok (.iload_n 3, 1) := by decide +kernel
theorem dX1_cost_57 : decode cX1_cost 57 = .ok (.iastore, 1) := by decide +kernel
theorem dX1_cost_58 : decode cX1_cost 58 = .ok (.aload_n 0, 1) := by decide +kernel
theorem dX1_cost_59 : decode cX1_cost 59 = .ok (.iconst 0, 1) := by decide +kernel
theorem dX1_cost_60 : decode cX1_cost 60 = .ok (.putfield 29, 3) := by decide +kernel
theorem dX1_cost_63 : decode cX1_cost 63 = .ok (.iload 4, 2) := by decide +kernel
theorem dX1_cost_65 : decode cX1_cost 65 = .ok (.ireturn, 1) := by decide +kernel
theorem dX1_isVariable_0 : decode cX1_isVariable 0 = .ok (.iload_n 1, 1) := by decide +kernel
theorem dX1_isVariable_1 : decode cX1_isVariable 1 = .ok (.ifCond .lt 13, 3) := by decide +kernel
theorem dX1_isVariable_4 : decode cX1_isVariable 4 = .ok (.iload_n 1, 1) := by decide +kernel
theorem dX1_isVariable_5 : decode cX1_isVariable 5 = .ok (.bipush 6, 2) := by decide +kernel
theorem dX1_isVariable_7 : decode cX1_isVariable 7 = .ok (.if_icmp .ge 7, 3) := by decide +kernel
theorem dX1_isVariable_10 : decode cX1_isVariable 10 = .ok (.iconst 1, 1) := by decide +kernel
theorem dX1_isVariable_11 : decode cX1_isVariable 11 = .ok (.goto 4, 3) := by decide +kernel
theorem dX1_isVariable_14 : decode cX1_isVariable 14 = .ok (.iconst 0, 1) := by decide +kernel
theorem dX1_isVariable_15 : decode cX1_isVariable 15 = .ok (.ireturn, 1) := by decide +kernel
theorem dX1_table_0 : decode cX1_table 0 = .ok (.aload_n 0, 1) := by decide +kernel
theorem dX1_table_1 : decode cX1_table 1 = .ok (.iload_n 1, 1) := by decide +kernel
theorem dX1_table_2 : decode cX1_table 2 = .ok (.invokevirtual 25, 3) := by decide +kernel
theorem dX1_table_5 : decode cX1_table 5 = .ok (.ifCond .eq 16, 3) := by decide +kernel
theorem dX1_table_8 : decode cX1_table 8 = .ok (.aload_n 0, 1) := by decide +kernel
theorem dX1_table_9 : decode cX1_table 9 = .ok (.iload_n 2, 1) := by decide +kernel
theorem dX1_table_10 : decode cX1_table 10 = .ok (.invokevirtual 25, 3) := by decide +kernel
theorem dX1_table_13 : decode cX1_table 13 = .ok (.ifCond .eq 8, 3) := by decide +kernel
theorem dX1_table_16 : decode cX1_table 16 = .ok (.iload_n 1, 1) := by decide +kernel
theorem dX1_table_17 : decode cX1_table 17 = .ok (.iload_n 2, 1) := by decide +kernel
theorem dX1_table_18 : decode cX1_table 18 = .ok (.if_icmp .ne 5, 3) := by decide +kernel
theorem dX1_table_21 : decode cX1_table 21 = .ok (.iconst (-1), 1) := by decide +kernel
theorem dX1_table_22 : decode cX1_table 22 = .ok (.ireturn, 1) := by decide +kernel
theorem dX1_table_23 : decode cX1_table 23 = .ok (.aload_n 0, 1) := by decide +kernel
theorem dX1_table_24 : decode cX1_table 24 = .ok (.getfield 33, 3) := by decide +kernel
theorem dX1_table_27 : decode cX1_table 27 = .ok (.bipush 8, 2) := by decide +kernel
theorem dX1_table_29 : decode cX1_table 29 = .ok (.if_icmp .ne 6, 3) := by decide +kernel
theorem dX1_table_32 : decode cX1_table 32 = .ok (.bipush (-5), 2) := by decide +kernel
theorem dX1_table_34 : decode cX1_table 34 = .ok (.ireturn, 1) := by decide +kernel
theorem dX1_table_35 : decode cX1_table 35 = .ok (.aload_n 0, 1) := by decide +kernel
theorem dX1_table_36 : decode cX1_table 36 = .ok (.getfield 13, 3) := by decide +kernel
theorem dX1_table_39 : decode cX1_table 39 = .ok (.aload_n 0, 1) := by decide +kernel
theorem dX1_table_40 : decode cX1_table 40 = .ok (.getfield 33, 3) := by decide +kernel
theorem dX1_table_43 : decode cX1_table 43 = .ok (.iload_n 1, 1) := by decide +kernel
theorem dX1_table_44 : decode cX1_table 44 = .ok (.iastore, 1) := by decide +kernel
theorem dX1_table_45 : decode cX1_table 45 = .ok (.aload_n 0, 1) := by decide +kernel
theorem dX1_table_46 : decode cX1_table 46 = .ok (.getfield 16, 3) := by decide +kernel
theorem dX1_table_49 : decode cX1_table 49 = .ok (.aload_n 0, 1) := by decide +kernel
theorem dX1_table_50 : decode cX1_table 50 = .ok (.getfield 33, 3) := by decide +kernel
theorem dX1_table_53 : decode cX1_table 53 = .ok (.iload_n 2, 1) := by decide +kernel
theorem dX1_table_54 : decode cX1_table 54 = .ok (.iastore, 1) := by decide +kernel
theorem dX1_table_55 : decode cX1_table 55 = .ok (.iconst 0, 1) := by decide +kernel
theorem dX1_table_56 : decode cX1_table 56 = .ok (.istore_n 3, 1) := by decide +kernel
theorem dX1_table_57 : decode cX1_table 57 = .ok (.iload_n 3, 1) := by decide +kernel
theorem dX1_table_58 : decode cX1_table 58 = .ok (.bipush 9, 2) := by decide +kernel
theorem dX1_table_60 : decode cX1_table 60 = .ok (.if_icmp .ge 24, 3) := by decide +kernel
theorem dX1_table_63 : decode cX1_table 63 = .ok (.aload_n 0, 1) := by decide +kernel
theorem dX1_table_64 : decode cX1_table 64 = .ok (.getfield 19, 3) := by decide +kernel
theorem dX1_table_67 : decode cX1_table 67 = .ok (.aload_n 0, 1) := by decide +kernel
theorem dX1_table_68 : decode cX1_table 68 = .ok (.getfield 33, 3) := by decide +kernel
theorem dX1_table_71 : decode cX1_table 71 = .ok (.bipush 9, 2) := by decide +kernel
theorem dX1_table_73 : decode cX1_table 73 = .ok (.imul, 1) := by decide +kernel
theorem dX1_table_74 : decode cX1_table 74 = .ok (.iload_n 3, 1) := by decide +kernel
theorem dX1_table_75 : decode cX1_table 75 = .ok (.iadd, 1) := by decide +kernel
theorem dX1_table_76 : decode cX1_table 76 = .ok (.iconst 0, 1) := by decide +kernel
theorem dX1_table_77 : decode cX1_table 77 = .ok (.iastore, 1) := by decide +kernel
theorem dX1_table_78 : decode cX1_table 78 = .ok (.iinc 3 1, 3) := by decide +kernel
theorem dX1_table_81 : decode cX1_table 81 = .ok (.goto (-24), 3) := by decide +kernel
theorem dX1_table_84 : decode cX1_table 84 = .ok (.aload_n 0, 1) := by decide +kernel
theorem dX1_table_85 : decode cX1_table 85 = .ok (.dup, 1) := by decide +kernel
theorem dX1_table_86 : decode cX1_table 86 = .ok (.getfield 33, 3) := by decide +kernel
theorem dX1_table_89 : decode cX1_table 89 = .ok (.iconst 1, 1) := by decide +kernel
theorem dX1_table_90 : decode cX1_table 90 = .ok (.iadd, 1) := by decide +kernel
theorem dX1_table_91 : decode cX1_table 91 = .ok (.putfield 33, 3) := by decide +kernel
theorem dX1_table_94 : decode cX1_table 94 = .ok (.aload_n 0, 1) := by decide +kernel
theorem dX1_table_95 : decode cX1_table 95 = .ok (.iconst 0, 1) := by decide +kernel
theorem dX1_table_96 : decode cX1_table 96 = .ok (.putfield 29, 3) := by decide +kernel
theorem dX1_table_99 : decode cX1_table 99 = .ok (.aload_n 0, 1) := by decide +kernel
theorem dX1_table_100 : decode cX1_table 100 = .ok (.getfield 33, 3) := by decide +kernel
theorem dX1_table_103 : decode cX1_table 103 = .ok (.iconst 1, 1) := by decide +kernel
theorem dX1_table_104 : decode cX1_table 104 = .ok (.isub, 1) := by decide +kernel
theorem dX1_table_105 : decode cX1_table 105 = .ok (.ireturn, 1) := by decide +kernel
theorem dX1_pair_0 : decode cX1_pair 0 = .ok (.iload_n 1, 1) := by decide +kernel
theorem dX1_pair_1 : decode cX1_pair 1 = .ok (.ifCond .lt 11, 3) := by decide +kernel
theorem dX1_pair_4 : decode cX1_pair 4 = .ok (.iload_n 1, 1) := by decide +kernel
theorem dX1_pair_5 : decode cX1_pair 5 = .ok (.aload_n 0, 1) := by decide +kernel
theorem dX1_pair_6 : decode cX1_pair 6 = .ok (.getfield 33, 3) := by decide +kernel
theorem dX1_pair_9 : decode cX1_pair 9 = .ok (.if_icmp .lt 6, 3) := by decide +kernel
theorem dX1_pair_12 : decode cX1_pair 12 = .ok (.bipush (-4), 2) := by decide +kernel
theorem dX1_pair_14 : decode cX1_pair 14 = .ok (.ireturn, 1) := by decide +kernel
theorem dX1_pair_15 : decode cX1_pair 15 = .ok (.iload_n 2, 1) := by decide +kernel
theorem dX1_pair_16 : decode cX1_pair 16 = .ok (.ifCond .lt 9, 3) := by decide +kernel
theorem dX1_pair_19 : decode cX1_pair 19 = .ok (.iload_n 2, 1) := by decide +kernel
theorem dX1_pair_20 : decode cX1_pair 20 = .ok (.bipush 8, 2) := by decide +kernel
theorem dX1_pair_22 : decode cX1_pair 22 = .ok (.if_icmp .le 6, 3) := by decide +kernel
theorem dX1_pair_25 : decode cX1_pair 25 = .ok (.bipush (-2), 2) := by decide +kernel
theorem dX1_pair_27 : decode cX1_pair 27 = .ok (.ireturn, 1) := by decide +kernel
theorem dX1_pair_28 : decode cX1_pair 28 = .ok (.iload_n 3, 1) := by decide +kernel
theorem dX1_pair_29 : decode cX1_pair 29 = .ok (.ifCond .lt 9, 3) := by decide +kernel
theorem dX1_pair_32 : decode cX1_pair 32 = .ok (.iload_n 3, 1) := by decide +kernel
theorem dX1_pair_33 : decode cX1_pair 33 = .ok (.bipush 20, 2) := by decide +kernel
theorem dX1_pair_35 : decode cX1_pair 35 = .ok (.if_icmp .le 6, 3) := by decide +kernel
theorem dX1_pair_38 : decode cX1_pair 38 = .ok (.bipush (-3), 2) := by decide +kernel
theorem dX1_pair_40 : decode cX1_pair 40 = .ok (.ireturn, 1) := by decide +kernel
theorem dX1_pair_41 : decode cX1_pair 41 = .ok (.aload_n 0, 1) := by decide +kernel
theorem dX1_pair_42 : decode cX1_pair 42 = .ok (.getfield 19, 3) := by decide +kernel
theorem dX1_pair_45 : decode cX1_pair 45 = .ok (.iload_n 1, 1) := by decide +kernel
theorem dX1_pair_46 : decode cX1_pair 46 = .ok (.bipush 9, 2) := by decide +kernel
theorem dX1_pair_48 : decode cX1_pair 48 = .ok (.imul, 1) := by decide +kernel
theorem dX1_pair_49 : decode cX1_pair 49 = .ok (.iload_n 2, 1) := by decide +kernel
theorem dX1_pair_50 : decode cX1_pair 50 = .ok (.iadd, 1) := by decide +kernel
theorem dX1_pair_51 : decode cX1_pair 51 = .ok (.iaload, 1) := by decide +kernel
theorem dX1_pair_52 : decode cX1_pair 52 = .ok (.istore 4, 2) := by decide +kernel
theorem dX1_pair_54 : decode cX1_pair 54 = .ok (.aload_n 0, 1) := by decide +kernel
theorem dX1_pair_55 : decode cX1_pair 55 = .ok (.getfield 19, 3) := by decide +kernel
theorem dX1_pair_58 : decode cX1_pair 58 = .ok (.iload_n 1, 1) := by decide +kernel
theorem dX1_pair_59 : decode cX1_pair 59 = .ok (.bipush 9, 2) := by decide +kernel
theorem dX1_pair_61 : decode cX1_pair 61 = .ok (.imul, 1) := by decide +kernel
theorem dX1_pair_62 : decode cX1_pair 62 = .ok (.iload_n 2, 1) := by decide +kernel
theorem dX1_pair_63 : decode cX1_pair 63 = .ok (.iadd, 1) := by decide +kernel
theorem dX1_pair_64 : decode cX1_pair 64 = .ok (.iload_n 3, 1) := by decide +kernel
theorem dX1_pair_65 : decode cX1_pair 65 = .ok (.iastore, 1) := by decide +kernel
theorem dX1_pair_66 : decode cX1_pair 66 = .ok (.aload_n 0, 1) := by decide +kernel
theorem dX1_pair_67 : decode cX1_pair 67 = .ok (.iconst 0, 1) := by decide +kernel
theorem dX1_pair_68 : decode cX1_pair 68 = .ok (.putfield 29, 3) := by decide +kernel
theorem dX1_pair_71 : decode cX1_pair 71 = .ok (.iload 4, 2) := by decide +kernel
theorem dX1_pair_73 : decode cX1_pair 73 = .ok (.ireturn, 1) := by decide +kernel
theorem dX1_drop_0 : decode cX1_drop 0 = .ok (.aload_n 0, 1) := by decide +kernel
theorem dX1_drop_1 : decode cX1_drop 1 = .ok (.getfield 33, 3) := by decide +kernel
theorem dX1_drop_4 : decode cX1_drop 4 = .ok (.ifCond .ne 6, 3) := by decide +kernel
theorem dX1_drop_7 : decode cX1_drop 7 = .ok (.bipush (-4), 2) := by decide +kernel
theorem dX1_drop_9 : decode cX1_drop 9 = .ok (.ireturn, 1) := by decide +kernel
theorem dX1_drop_10 : decode cX1_drop 10 = .ok (.aload_n 0, 1) := by decide +kernel
theorem dX1_drop_11 : decode cX1_drop 11 = .ok (.dup, 1) := by decide +kernel
theorem dX1_drop_12 : decode cX1_drop 12 = .ok (.getfield 33, 3) := by decide +kernel
theorem dX1_drop_15 : decode cX1_drop 15 = .ok (.iconst 1, 1) := by decide +kernel
theorem dX1_drop_16 : decode cX1_drop 16 = .ok (.isub, 1) := by decide +kernel
theorem dX1_drop_17 : decode cX1_drop 17 = .ok (.putfield 33, 3) := by decide +kernel
theorem dX1_drop_20 : decode cX1_drop 20 = .ok (.aload_n 0, 1) := by decide +kernel
theorem dX1_drop_21 : decode cX1_drop 21 = .ok (.iconst 0, 1) := by decide +kernel
theorem dX1_drop_22 : decode cX1_drop 22 = .ok (.putfield 29, 3) := by decide +kernel
theorem dX1_drop_25 : decode cX1_drop 25 = .ok (.aload_n 0, 1) := by decide +kernel
theorem dX1_drop_26 : decode cX1_drop 26 = .ok (.getfield 33, 3) := by decide +kernel
theorem dX1_drop_29 : decode cX1_drop 29 = .ok (.ireturn, 1) := by decide +kernel
theorem dX1_least_0 : decode cX1_least 0 = .ok (.aload_n 0, 1) := by decide +kernel
theorem dX1_least_1 : decode cX1_least 1 = .ok (.invokevirtual 48, 3) := by decide +kernel
theorem dX1_least_4 : decode cX1_least 4 = .ok (.istore_n 1, 1) := by decide +kernel
theorem dX1_least_5 : decode cX1_least 5 = .ok (.iload_n 1, 1) := by decide +kernel
theorem dX1_least_6 : decode cX1_least 6 = .ok (.ifCond .ge 8, 3) := by decide +kernel
theorem dX1_least_9 : decode cX1_least 9 = .ok (.bipush (-6), 2) := by decide +kernel
theorem dX1_least_11 : decode cX1_least 11 = .ok (.goto 9, 3) := by decide +kernel
theorem dX1_least_14 : decode cX1_least 14 = .ok (.aload_n 0, 1) := by decide +kernel
theorem dX1_least_15 : decode cX1_least 15 = .ok (.getfield 22, 3) := by decide +kernel
theorem dX1_least_18 : decode cX1_least 18 = .ok (.iload_n 1, 1) := by decide +kernel
theorem dX1_least_19 : decode cX1_least 19 = .ok (.iaload, 1) := by decide +kernel
theorem dX1_least_20 : decode cX1_least 20 = .ok (.ireturn, 1) := by decide +kernel
theorem dX1_first_0 : decode cX1_first 0 = .ok (.aload_n 0, 1) := by decide +kernel
theorem dX1_first_1 : decode cX1_first 1 = .ok (.invokevirtual 45, 3) := by decide +kernel
theorem dX1_first_4 : decode cX1_first 4 = .ok (.bipush (-6), 2) := by decide +kernel
theorem dX1_first_6 : decode cX1_first 6 = .ok (.istore_n 1, 1) := by decide +kernel
theorem dX1_first_7 : decode cX1_first 7 = .ok (.iconst 0, 1) := by decide +kernel
theorem dX1_first_8 : decode cX1_first 8 = .ok (.istore_n 2, 1) := by decide +kernel
theorem dX1_first_9 : decode cX1_first 9 = .ok (.iload_n 2, 1) := by decide +kernel
theorem dX1_first_10 : decode cX1_first 10 = .ok (.sipush 729, 3) := by decide +kernel
theorem dX1_first_13 : decode cX1_first 13 = .ok (.if_icmp .ge 39, 3) := by decide +kernel
theorem dX1_first_16 : decode cX1_first 16 = .ok (.aload_n 0, 1) := by decide +kernel
theorem dX1_first_17 : decode cX1_first 17 = .ok (.getfield 22, 3) := by decide +kernel
theorem dX1_first_20 : decode cX1_first 20 = .ok (.iload_n 2, 1) := by decide +kernel
theorem dX1_first_21 : decode cX1_first 21 = .ok (.iaload, 1) := by decide +kernel
theorem dX1_first_22 : decode cX1_first 22 = .ok (.ifCond .lt 24, 3) := by decide +kernel
theorem dX1_first_25 : decode cX1_first 25 = .ok (.iload_n 1, 1) := by decide +kernel
theorem dX1_first_26 : decode cX1_first 26 = .ok (.ifCond .lt 18, 3) := by decide +kernel
theorem dX1_first_29 : decode cX1_first 29 = .ok (.aload_n 0, 1) := by decide +kernel
theorem dX1_first_30 : decode cX1_first 30 = .ok (.getfield 22, 3) := by decide +kernel
theorem dX1_first_33 : decode cX1_first 33 = .ok (.iload_n 2, 1) := by decide +kernel
theorem dX1_first_34 : decode cX1_first 34 = .ok (.iaload, 1) := by decide +kernel
theorem dX1_first_35 : decode cX1_first 35 = .ok (.aload_n 0, 1) := by decide +kernel
theorem dX1_first_36 : decode cX1_first 36 = .ok (.getfield 22, 3) := by decide +kernel
theorem dX1_first_39 : decode cX1_first 39 = .ok (.iload_n 1, 1) := by decide +kernel
theorem dX1_first_40 : decode cX1_first 40 = .ok (.iaload, 1) := by decide +kernel
theorem dX1_first_41 : decode cX1_first 41 = .ok (.if_icmp .ge 5, 3) := by decide +kernel
theorem dX1_first_44 : decode cX1_first 44 = .ok (.iload_n 2, 1) := by decide +kernel
theorem dX1_first_45 : decode cX1_first 45 = .ok (.istore_n 1, 1) := by decide +kernel
theorem dX1_first_46 : decode cX1_first 46 = .ok (.iinc 2 1, 3) := by decide +kernel
theorem dX1_first_49 : decode cX1_first 49 = .ok (.goto (-40), 3) := by decide +kernel
theorem dX1_first_52 : decode cX1_first 52 = .ok (.iload_n 1, 1) := by decide +kernel
theorem dX1_first_53 : decode cX1_first 53 = .ok (.ireturn, 1) := by decide +kernel
theorem dX1_work_0 : decode cX1_work 0 = .ok (.aload_n 0, 1) := by decide +kernel
theorem dX1_work_1 : decode cX1_work 1 = .ok (.getfield 29, 3) := by decide +kernel
theorem dX1_work_4 : decode cX1_work 4 = .ok (.ifCond .eq 4, 3) := by decide +kernel
theorem dX1_work_7 : decode cX1_work 7 = .ok (.return_, 1) := by decide +kernel
theorem dX1_work_8 : decode cX1_work 8 = .ok (.iconst 0, 1) := by decide +kernel
theorem dX1_work_9 : decode cX1_work 9 = .ok (.istore_n 1, 1) := by decide +kernel
theorem dX1_work_10 : decode cX1_work 10 = .ok (.iload_n 1, 1) := by decide +kernel
theorem dX1_work_11 : decode cX1_work 11 = .ok (.sipush 729, 3) := by decide +kernel
theorem dX1_work_14 : decode cX1_work 14 = .ok (.if_icmp .ge 20, 3) := by decide +kernel
theorem dX1_work_17 : decode cX1_work 17 = .ok (.aload_n 0, 1) := by decide +kernel
theorem dX1_work_18 : decode cX1_work 18 = .ok (.getfield 22, 3) := by decide +kernel
theorem dX1_work_21 : decode cX1_work 21 = .ok (.iload_n 1, 1) := by decide +kernel
theorem dX1_work_22 : decode cX1_work 22 = .ok (.aload_n 0, 1) := by decide +kernel
theorem dX1_work_23 : decode cX1_work 23 = .ok (.iload_n 1, 1) := by decide +kernel
theorem dX1_work_24 : decode cX1_work 24 = .ok (.invokevirtual 41, 3) := by decide +kernel
theorem dX1_work_27 : decode cX1_work 27 = .ok (.iastore, 1) := by decide +kernel
theorem dX1_work_28 : decode cX1_work 28 = .ok (.iinc 1 1, 3) := by decide +kernel
theorem dX1_work_31 : decode cX1_work 31 = .ok (.goto (-21), 3) := by decide +kernel
theorem dX1_work_34 : decode cX1_work 34 = .ok (.aload_n 0, 1) := by decide +kernel
theorem dX1_work_35 : decode cX1_work 35 = .ok (.iconst 1, 1) := by decide +kernel
theorem dX1_work_36 : decode cX1_work 36 = .ok (.putfield 29, 3) := by decide +kernel
theorem dX1_work_39 : decode cX1_work 39 = .ok (.return_, 1) := by decide +kernel
theorem dX1_totalOf_0 : decode cX1_totalOf 0 = .ok (.iconst 0, 1) := by decide +kernel
theorem dX1_totalOf_1 : decode cX1_totalOf 1 = .ok (.istore_n 2, 1) := by decide +kernel
theorem dX1_totalOf_2 : decode cX1_totalOf 2 = .ok (.iconst 0, 1) := by decide +kernel
theorem dX1_totalOf_3 : decode cX1_totalOf 3 = .ok (.istore_n 3, 1) := by decide +kernel
theorem dX1_totalOf_4 : decode cX1_totalOf 4 = .ok (.iconst 0, 1) := by decide +kernel
theorem dX1_totalOf_5 : decode cX1_totalOf 5 = .ok (.istore 4, 2) := by decide +kernel
theorem dX1_totalOf_7 : decode cX1_totalOf 7 = .ok (.iload 4, 2) := by decide +kernel
theorem dX1_totalOf_9 : decode cX1_totalOf 9 = .ok (.bipush 6, 2) := by decide +kernel
theorem dX1_totalOf_11 : decode cX1_totalOf 11 = .ok (.if_icmp .ge 50, 3) := by decide +kernel
theorem dX1_totalOf_14 : decode cX1_totalOf 14 = .ok (.aload_n 0, 1) := by decide +kernel
theorem dX1_totalOf_15 : decode cX1_totalOf 15 = .ok (.getfield 7, 3) := by decide +kernel
theorem dX1_totalOf_18 : decode cX1_totalOf 18 = .ok (.iload 4, 2) := by decide +kernel
theorem dX1_totalOf_20 : decode cX1_totalOf 20 = .ok (.iconst 3, 1) := by decide +kernel
theorem dX1_totalOf_21 : decode cX1_totalOf 21 = .ok (.imul, 1) := by decide +kernel
theorem dX1_totalOf_22 : decode cX1_totalOf 22 = .ok (.aload_n 0, 1) := by decide +kernel
theorem dX1_totalOf_23 : decode cX1_totalOf 23 = .ok (.iload_n 1, 1) := by decide +kernel
theorem dX1_totalOf_24 : decode cX1_totalOf 24 = .ok (.iload 4, 2) := by decide +kernel
theorem dX1_totalOf_26 : decode cX1_totalOf 26 = .ok (.invokevirtual 37, 3) := by decide +kernel
theorem dX1_totalOf_29 : decode cX1_totalOf 29 = .ok (.iadd, 1) := by decide +kernel
theorem dX1_totalOf_30 : decode cX1_totalOf 30 = .ok (.iaload, 1) := by decide +kernel
theorem dX1_totalOf_31 : decode cX1_totalOf 31 = .ok (.istore 5, 2) := by decide +kernel
theorem dX1_totalOf_33 : decode cX1_totalOf 33 = .ok (.iload_n 2, 1) := by decide +kernel
theorem dX1_totalOf_34 : decode cX1_totalOf 34 = .ok (.iload 5, 2) := by decide +kernel
theorem dX1_totalOf_36 : decode cX1_totalOf 36 = .ok (.iadd, 1) := by decide +kernel
theorem dX1_totalOf_37 : decode cX1_totalOf 37 = .ok (.istore_n 2, 1) := by decide +kernel
theorem dX1_totalOf_38 : decode cX1_totalOf 38 = .ok (.iload_n 3, 1) := by decide +kernel
theorem dX1_totalOf_39 : decode cX1_totalOf 39 = .ok (.ifCond .ne 10, 3) := by decide +kernel
theorem dX1_totalOf_42 : decode cX1_totalOf 42 = .ok (.iload 5, 2) := by decide +kernel
theorem dX1_totalOf_44 : decode cX1_totalOf 44 = .ok (.bipush 20, 2) := by decide +kernel
theorem dX1_totalOf_46 : decode cX1_totalOf 46 = .ok (.if_icmp .ne 7, 3) := by decide +kernel
theorem dX1_totalOf_49 : decode cX1_totalOf 49 = .ok (.iconst 1, 1) := by decide +kernel
theorem dX1_totalOf_50 : decode cX1_totalOf 50 = .ok (.goto 4, 3) := by decide +kernel
theorem dX1_totalOf_53 : decode cX1_totalOf 53 = .ok (.iconst 0, 1) := by decide +kernel
theorem dX1_totalOf_54 : decode cX1_totalOf 54 = .ok (.istore_n 3, 1) := by decide +kernel
theorem dX1_totalOf_55 : decode cX1_totalOf 55 = .ok (.iinc 4 1, 3) := by decide +kernel
theorem dX1_totalOf_58 : decode cX1_totalOf 58 = .ok (.goto (-51), 3) := by decide +kernel
theorem dX1_totalOf_61 : decode cX1_totalOf 61 = .ok (.iconst 0, 1) := by decide +kernel
theorem dX1_totalOf_62 : decode cX1_totalOf 62 = .ok (.istore 4, 2) := by decide +kernel
theorem dX1_totalOf_64 : decode cX1_totalOf 64 = .ok (.iload 4, 2) := by decide +kernel
theorem dX1_totalOf_66 : decode cX1_totalOf 66 = .ok (.aload_n 0, 1) := by decide +kernel
theorem dX1_totalOf_67 : decode cX1_totalOf 67 = .ok (.getfield 33, 3) := by decide +kernel
theorem dX1_totalOf_70 : decode cX1_totalOf 70 = .ok (.if_icmp .ge 71, 3) := by decide +kernel
theorem dX1_totalOf_73 : decode cX1_totalOf 73 = .ok (.aload_n 0, 1) := by decide +kernel
theorem dX1_totalOf_74 : decode cX1_totalOf 74 = .ok (.getfield 19, 3) := by decide +kernel
theorem dX1_totalOf_77 : decode cX1_totalOf 77 = .ok (.iload 4, 2) := by decide +kernel
theorem dX1_totalOf_79 : decode cX1_totalOf 79 = .ok (.bipush 9, 2) := by decide +kernel
theorem dX1_totalOf_81 : decode cX1_totalOf 81 = .ok (.imul, 1) := by decide +kernel
theorem dX1_totalOf_82 : decode cX1_totalOf 82 = .ok (.aload_n 0, 1) := by decide +kernel
theorem dX1_totalOf_83 : decode cX1_totalOf 83 = .ok (.iload_n 1, 1) := by decide +kernel
theorem dX1_totalOf_84 : decode cX1_totalOf 84 = .ok (.aload_n 0, 1) := by decide +kernel
theorem dX1_totalOf_85 : decode cX1_totalOf 85 = .ok (.getfield 13, 3) := by decide +kernel
theorem dX1_totalOf_88 : decode cX1_totalOf 88 = .ok (.iload 4, 2) := by decide +kernel
theorem dX1_totalOf_90 : decode cX1_totalOf 90 = .ok (.iaload, 1) := by decide +kernel
theorem dX1_totalOf_91 : decode cX1_totalOf 91 = .ok (.invokevirtual 37, 3) := by decide +kernel
theorem dX1_totalOf_94 : decode cX1_totalOf 94 = .ok (.iadd, 1) := by decide +kernel
theorem dX1_totalOf_95 : decode cX1_totalOf 95 = .ok (.iconst 3, 1) := by decide +kernel
theorem dX1_totalOf_96 : decode cX1_totalOf 96 = .ok (.aload_n 0, 1) := by decide +kernel
theorem dX1_totalOf_97 : decode cX1_totalOf 97 = .ok (.iload_n 1, 1) := by decide +kernel
theorem dX1_totalOf_98 : decode cX1_totalOf 98 = .ok (.aload_n 0, 1) := by decide +kernel
theorem dX1_totalOf_99 : decode cX1_totalOf 99 = .ok (.getfield 16, 3) := by decide +kernel
theorem dX1_totalOf_102 : decode cX1_totalOf 102 = .ok (.iload 4, 2) := by decide +kernel
theorem dX1_totalOf_104 : decode cX1_totalOf 104 = .ok (.iaload, 1) := by decide +kernel
theorem dX1_totalOf_105 : decode cX1_totalOf 105 = .ok (.invokevirtual 37, 3) := by decide +kernel
theorem dX1_totalOf_108 : decode cX1_totalOf 108 = .ok (.imul, 1) := by decide +kernel
theorem dX1_totalOf_109 : decode cX1_totalOf 109 = .ok (.iadd, 1) := by decide +kernel
theorem dX1_totalOf_110 : decode cX1_totalOf 110 = .ok (.iaload, 1) := by decide +kernel
theorem dX1_totalOf_111 : decode cX1_totalOf 111 = .ok (.istore 5, 2) := by decide +kernel
theorem dX1_totalOf_113 : decode cX1_totalOf 113 = .ok (.iload_n 2, 1) := by decide +kernel
theorem dX1_totalOf_114 : decode cX1_totalOf 114 = .ok (.iload 5, 2) := by decide +kernel
theorem dX1_totalOf_116 : decode cX1_totalOf 116 = .ok (.iadd, 1) := by decide +kernel
theorem dX1_totalOf_117 : decode cX1_totalOf 117 = .ok (.istore_n 2, 1) := by decide +kernel
theorem dX1_totalOf_118 : decode cX1_totalOf 118 = .ok (.iload_n 3, 1) := by decide +kernel
theorem dX1_totalOf_119 : decode cX1_totalOf 119 = .ok (.ifCond .ne 10, 3) := by decide +kernel
theorem dX1_totalOf_122 : decode cX1_totalOf 122 = .ok (.iload 5, 2) := by decide +kernel
theorem dX1_totalOf_124 : decode cX1_totalOf 124 = .ok (.bipush 20, 2) := by decide +kernel
theorem dX1_totalOf_126 : decode cX1_totalOf 126 = .ok (.if_icmp .ne 7, 3) := by decide +kernel
theorem dX1_totalOf_129 : decode cX1_totalOf 129 = .ok (.iconst 1, 1) := by decide +kernel
theorem dX1_totalOf_130 : decode cX1_totalOf 130 = .ok (.goto 4, 3) := by decide +kernel
theorem dX1_totalOf_133 : decode cX1_totalOf 133 = .ok (.iconst 0, 1) := by decide +kernel
theorem dX1_totalOf_134 : decode cX1_totalOf 134 = .ok (.istore_n 3, 1) := by decide +kernel
theorem dX1_totalOf_135 : decode cX1_totalOf 135 = .ok (.iinc 4 1, 3) := by decide +kernel
theorem dX1_totalOf_138 : decode cX1_totalOf 138 = .ok (.goto (-74), 3) := by decide +kernel
theorem dX1_totalOf_141 : decode cX1_totalOf 141 = .ok (.iload_n 3, 1) := by decide +kernel
theorem dX1_totalOf_142 : decode cX1_totalOf 142 = .ok (.ifCond .eq 8, 3) := by decide +kernel
theorem dX1_totalOf_145 : decode cX1_totalOf 145 = .ok (.bipush (-6), 2) := by decide +kernel
theorem dX1_totalOf_147 : decode cX1_totalOf 147 = .ok (.goto 4, 3) := by decide +kernel
theorem dX1_totalOf_150 : decode cX1_totalOf 150 = .ok (.iload_n 2, 1) := by decide +kernel
theorem dX1_totalOf_151 : decode cX1_totalOf 151 = .ok (.ireturn, 1) := by decide +kernel
theorem dX1_valueIn_0 : decode cX1_valueIn 0 = .ok (.iload_n 1, 1) := by decide +kernel
theorem dX1_valueIn_1 : decode cX1_valueIn 1 = .ok (.istore_n 3, 1) := by decide +kernel
theorem dX1_valueIn_2 : decode cX1_valueIn 2 = .ok (.iconst 5, 1) := by decide +kernel
theorem dX1_valueIn_3 : decode cX1_valueIn 3 = .ok (.istore 4, 2) := by decide +kernel
theorem dX1_valueIn_5 : decode cX1_valueIn 5 = .ok (.iload 4, 2) := by decide +kernel
theorem dX1_valueIn_7 : decode cX1_valueIn 7 = .ok (.iload_n 2, 1) := by decide +kernel
theorem dX1_valueIn_8 : decode cX1_valueIn 8 = .ok (.if_icmp .le 13, 3) := by decide +kernel
theorem dX1_valueIn_11 : decode cX1_valueIn 11 = .ok (.iload_n 3, 1) := by decide +kernel
theorem dX1_valueIn_12 : decode cX1_valueIn 12 = .ok (.iconst 3, 1) := by decide +kernel
theorem dX1_valueIn_13 : decode cX1_valueIn 13 = .ok (.idiv, 1) := by decide +kernel
theorem dX1_valueIn_14 : decode cX1_valueIn 14 = .ok (.istore_n 3, 1) := by decide +kernel
theorem dX1_valueIn_15 : decode cX1_valueIn 15 = .ok (.iinc 4 (-1), 3) := by decide +kernel
theorem dX1_valueIn_18 : decode cX1_valueIn 18 = .ok (.goto (-13), 3) := by decide +kernel
theorem dX1_valueIn_21 : decode cX1_valueIn 21 = .ok (.iload_n 3, 1) := by decide +kernel
theorem dX1_valueIn_22 : decode cX1_valueIn 22 = .ok (.iconst 3, 1) := by decide +kernel
theorem dX1_valueIn_23 : decode cX1_valueIn 23 = .ok (.irem, 1) := by decide +kernel
theorem dX1_valueIn_24 : decode cX1_valueIn 24 = .ok (.ireturn, 1) := by decide +kernel
theorem dX1_value_0 : decode cX1_value 0 = .ok (.aload_n 0, 1) := by decide +kernel
theorem dX1_value_1 : decode cX1_value 1 = .ok (.iload_n 1, 1) := by decide +kernel
theorem dX1_value_2 : decode cX1_value 2 = .ok (.invokevirtual 25, 3) := by decide +kernel
theorem dX1_value_5 : decode cX1_value 5 = .ok (.ifCond .ne 5, 3) := by decide +kernel
theorem dX1_value_8 : decode cX1_value 8 = .ok (.iconst (-1), 1) := by decide +kernel
theorem dX1_value_9 : decode cX1_value 9 = .ok (.ireturn, 1) := by decide +kernel
theorem dX1_value_10 : decode cX1_value 10 = .ok (.aload_n 0, 1) := by decide +kernel
theorem dX1_value_11 : decode cX1_value 11 = .ok (.invokevirtual 48, 3) := by decide +kernel
theorem dX1_value_14 : decode cX1_value 14 = .ok (.istore_n 2, 1) := by decide +kernel
theorem dX1_value_15 : decode cX1_value 15 = .ok (.iload_n 2, 1) := by decide +kernel
theorem dX1_value_16 : decode cX1_value 16 = .ok (.ifCond .ge 8, 3) := by decide +kernel
theorem dX1_value_19 : decode cX1_value 19 = .ok (.bipush (-6), 2) := by decide +kernel
theorem dX1_value_21 : decode cX1_value 21 = .ok (.goto 9, 3) := by decide +kernel
theorem dX1_value_24 : decode cX1_value 24 = .ok (.aload_n 0, 1) := by decide +kernel
theorem dX1_value_25 : decode cX1_value 25 = .ok (.iload_n 2, 1) := by decide +kernel
theorem dX1_value_26 : decode cX1_value 26 = .ok (.iload_n 1, 1) := by decide +kernel
theorem dX1_value_27 : decode cX1_value 27 = .ok (.invokevirtual 37, 3) := by decide +kernel
theorem dX1_value_30 : decode cX1_value 30 = .ok (.ireturn, 1) := by decide +kernel
theorem dX1_leastWith_0 : decode cX1_leastWith 0 = .ok (.aload_n 0, 1) := by decide +kernel
theorem dX1_leastWith_1 : decode cX1_leastWith 1 = .ok (.iload_n 1, 1) := by decide +kernel
theorem dX1_leastWith_2 : decode cX1_leastWith 2 = .ok (.invokevirtual 25, 3) := by decide +kernel
theorem dX1_leastWith_5 : decode cX1_leastWith 5 = .ok (.ifCond .ne 5, 3) := by decide +kernel
theorem dX1_leastWith_8 : decode cX1_leastWith 8 = .ok (.iconst (-1), 1) := by decide +kernel
theorem dX1_leastWith_9 : decode cX1_leastWith 9 = .ok (.ireturn, 1) := by decide +kernel
theorem dX1_leastWith_10 : decode cX1_leastWith 10 = .ok (.iload_n 2, 1) := by decide +kernel
theorem dX1_leastWith_11 : decode cX1_leastWith 11 = .ok (.ifCond .lt 8, 3) := by decide +kernel
theorem dX1_leastWith_14 : decode cX1_leastWith 14 = .ok (.iload_n 2, 1) := by decide +kernel
theorem dX1_leastWith_15 : decode cX1_leastWith 15 = .ok (.iconst 2, 1) := by decide +kernel
theorem dX1_leastWith_16 : decode cX1_leastWith 16 = .ok (.if_icmp .le 6, 3) := by decide +kernel
theorem dX1_leastWith_19 : decode cX1_leastWith 19 = .ok (.bipush (-2), 2) := by decide +kernel
theorem dX1_leastWith_21 : decode cX1_leastWith 21 = .ok (.ireturn, 1) := by decide +kernel
theorem dX1_leastWith_22 : decode cX1_leastWith 22 = .ok (.aload_n 0, 1) := by decide +kernel
theorem dX1_leastWith_23 : decode cX1_leastWith 23 = .ok (.invokevirtual 45, 3) := by decide +kernel
theorem dX1_leastWith_26 : decode cX1_leastWith 26 = .ok (.bipush (-6), 2) := by decide +kernel
theorem dX1_leastWith_28 : decode cX1_leastWith 28 = .ok (.istore_n 3, 1) := by decide +kernel
theorem dX1_leastWith_29 : decode cX1_leastWith 29 = .ok (.iconst 0, 1) := by decide +kernel
theorem dX1_leastWith_30 : decode cX1_leastWith 30 = .ok (.istore 4, 2) := by decide +kernel
theorem dX1_leastWith_32 : decode cX1_leastWith 32 = .ok (.iload 4, 2) := by decide +kernel
theorem dX1_leastWith_34 : decode cX1_leastWith 34 = .ok (.sipush 729, 3) := by decide +kernel
theorem dX1_leastWith_37 : decode cX1_leastWith 37 = .ok (.if_icmp .ge 65, 3) := by decide +kernel
theorem dX1_leastWith_40 : decode cX1_leastWith 40 = .ok (.aload_n 0, 1) := by decide +kernel
theorem dX1_leastWith_41 : decode cX1_leastWith 41 = .ok (.getfield 22, 3) := by decide +kernel
theorem dX1_leastWith_44 : decode cX1_leastWith 44 = .ok (.iload 4, 2) := by decide +kernel
theorem dX1_leastWith_46 : decode cX1_leastWith 46 = .ok (.iaload, 1) := by decide +kernel
theorem dX1_leastWith_47 : decode cX1_leastWith 47 = .ok (.ifCond .lt 18, 3) := by decide +kernel
theorem dX1_leastWith_50 : decode cX1_leastWith 50 = .ok (.aload_n 0, 1) := by decide +kernel
theorem dX1_leastWith_51 : decode cX1_leastWith 51 = .ok (.iload 4, 2) := by decide +kernel
theorem dX1_leastWith_53 : decode cX1_leastWith 53 = .ok (.iload_n 1, 1) := by decide +kernel
theorem dX1_leastWith_54 : decode cX1_leastWith 54 = .ok (.invokevirtual 37, 3) := by decide +kernel
theorem dX1_leastWith_57 : decode cX1_leastWith 57 = .ok (.iload_n 2, 1) := by decide +kernel
theorem dX1_leastWith_58 : decode cX1_leastWith 58 = .ok (.if_icmp .ne 7, 3) := by decide +kernel
theorem dX1_leastWith_61 : decode cX1_leastWith 61 = .ok (.iconst 1, 1) := by decide +kernel
theorem dX1_leastWith_62 : decode cX1_leastWith 62 = .ok (.goto 4, 3) := by decide +kernel
theorem dX1_leastWith_65 : decode cX1_leastWith 65 = .ok (.iconst 0, 1) := by decide +kernel
theorem dX1_leastWith_66 : decode cX1_leastWith 66 = .ok (.istore 5, 2) := by decide +kernel
theorem dX1_leastWith_68 : decode cX1_leastWith 68 = .ok (.iload 5, 2) := by decide +kernel
theorem dX1_leastWith_70 : decode cX1_leastWith 70 = .ok (.ifCond .eq 26, 3) := by decide +kernel
theorem dX1_leastWith_73 : decode cX1_leastWith 73 = .ok (.iload_n 3, 1) := by decide +kernel
theorem dX1_leastWith_74 : decode cX1_leastWith 74 = .ok (.ifCond .lt 14, 3) := by decide +kernel
theorem dX1_leastWith_77 : decode cX1_leastWith 77 = .ok (.aload_n 0, 1) := by decide +kernel
theorem dX1_leastWith_78 : decode cX1_leastWith 78 = .ok (.getfield 22, 3) := by decide +kernel
theorem dX1_leastWith_81 : decode cX1_leastWith 81 = .ok (.iload 4, 2) := by decide +kernel
theorem dX1_leastWith_83 : decode cX1_leastWith 83 = .ok (.iaload, 1) := by decide +kernel
theorem dX1_leastWith_84 : decode cX1_leastWith 84 = .ok (.iload_n 3, 1) := by decide +kernel
theorem dX1_leastWith_85 : decode cX1_leastWith 85 = .ok (.if_icmp .ge 11, 3) := by decide +kernel
theorem dX1_leastWith_88 : decode cX1_leastWith 88 = .ok (.aload_n 0, 1) := by decide +kernel
theorem dX1_leastWith_89 : decode cX1_leastWith 89 = .ok (.getfield 22, 3) := by decide +kernel
theorem dX1_leastWith_92 : decode cX1_leastWith 92 = .ok (.iload 4, 2) := by decide +kernel
theorem dX1_leastWith_94 : decode cX1_leastWith 94 = .ok (.iaload, 1) := by decide +kernel
theorem dX1_leastWith_95 : decode cX1_leastWith 95 = .ok (.istore_n 3, 1) := by decide +kernel
theorem dX1_leastWith_96 : decode cX1_leastWith 96 = .ok (.iinc 4 1, 3) := by decide +kernel
theorem dX1_leastWith_99 : decode cX1_leastWith 99 = .ok (.goto (-67), 3) := by decide +kernel
theorem dX1_leastWith_102 : decode cX1_leastWith 102 = .ok (.iload_n 3, 1) := by decide +kernel
theorem dX1_leastWith_103 : decode cX1_leastWith 103 = .ok (.ireturn, 1) := by decide +kernel
theorem dX1_ties_0 : decode cX1_ties 0 = .ok (.aload_n 0, 1) := by decide +kernel
theorem dX1_ties_1 : decode cX1_ties 1 = .ok (.invokevirtual 52, 3) := by decide +kernel
theorem dX1_ties_4 : decode cX1_ties 4 = .ok (.istore_n 1, 1) := by decide +kernel
theorem dX1_ties_5 : decode cX1_ties 5 = .ok (.iload_n 1, 1) := by decide +kernel
theorem dX1_ties_6 : decode cX1_ties 6 = .ok (.ifCond .ge 7, 3) := by decide +kernel
theorem dX1_ties_9 : decode cX1_ties 9 = .ok (.iconst 0, 1) := by decide +kernel
theorem dX1_ties_10 : decode cX1_ties 10 = .ok (.goto 8, 3) := by decide +kernel
theorem dX1_ties_13 : decode cX1_ties 13 = .ok (.aload_n 0, 1) := by decide +kernel
theorem dX1_ties_14 : decode cX1_ties 14 = .ok (.iload_n 1, 1) := by decide +kernel
theorem dX1_ties_15 : decode cX1_ties 15 = .ok (.invokevirtual 55, 3) := by decide +kernel
theorem dX1_ties_18 : decode cX1_ties 18 = .ok (.ireturn, 1) := by decide +kernel
theorem dX1_upTo_0 : decode cX1_upTo 0 = .ok (.aload_n 0, 1) := by decide +kernel
theorem dX1_upTo_1 : decode cX1_upTo 1 = .ok (.invokevirtual 45, 3) := by decide +kernel
theorem dX1_upTo_4 : decode cX1_upTo 4 = .ok (.iconst 0, 1) := by decide +kernel
theorem dX1_upTo_5 : decode cX1_upTo 5 = .ok (.istore_n 2, 1) := by decide +kernel
theorem dX1_upTo_6 : decode cX1_upTo 6 = .ok (.iconst 0, 1) := by decide +kernel
theorem dX1_upTo_7 : decode cX1_upTo 7 = .ok (.istore_n 3, 1) := by decide +kernel
theorem dX1_upTo_8 : decode cX1_upTo 8 = .ok (.iload_n 3, 1) := by decide +kernel
theorem dX1_upTo_9 : decode cX1_upTo 9 = .ok (.sipush 729, 3) := by decide +kernel
theorem dX1_upTo_12 : decode cX1_upTo 12 = .ok (.if_icmp .ge 31, 3) := by decide +kernel
theorem dX1_upTo_15 : decode cX1_upTo 15 = .ok (.aload_n 0, 1) := by decide +kernel
theorem dX1_upTo_16 : decode cX1_upTo 16 = .ok (.getfield 22, 3) := by decide +kernel
theorem dX1_upTo_19 : decode cX1_upTo 19 = .ok (.iload_n 3, 1) := by decide +kernel
theorem dX1_upTo_20 : decode cX1_upTo 20 = .ok (.iaload, 1) := by decide +kernel
theorem dX1_upTo_21 : decode cX1_upTo 21 = .ok (.ifCond .lt 16, 3) := by decide +kernel
theorem dX1_upTo_24 : decode cX1_upTo 24 = .ok (.aload_n 0, 1) := by decide +kernel
theorem dX1_upTo_25 : decode cX1_upTo 25 = .ok (.getfield 22, 3) := by decide +kernel
theorem dX1_upTo_28 : decode cX1_upTo 28 = .ok (.iload_n 3, 1) := by decide +kernel
theorem dX1_upTo_29 : decode cX1_upTo 29 = .ok (.iaload, 1) := by decide +kernel
theorem dX1_upTo_30 : decode cX1_upTo 30 = .ok (.iload_n 1, 1) := by decide +kernel
theorem dX1_upTo_31 : decode cX1_upTo 31 = .ok (.if_icmp .gt 6, 3) := by decide +kernel
theorem dX1_upTo_34 : decode cX1_upTo 34 = .ok (.iinc 2 1, 3) := by decide +kernel
theorem dX1_upTo_37 : decode cX1_upTo 37 = .ok (.iinc 3 1, 3) := by decide +kernel
theorem dX1_upTo_40 : decode cX1_upTo 40 = .ok (.goto (-32), 3) := by decide +kernel
theorem dX1_upTo_43 : decode cX1_upTo 43 = .ok (.iload_n 2, 1) := by decide +kernel
theorem dX1_upTo_44 : decode cX1_upTo 44 = .ok (.ireturn, 1) := by decide +kernel
theorem dX1_allowed_0 : decode cX1_allowed 0 = .ok (.aload_n 0, 1) := by decide +kernel
theorem dX1_allowed_1 : decode cX1_allowed 1 = .ok (.sipush 1000, 3) := by decide +kernel
theorem dX1_allowed_4 : decode cX1_allowed 4 = .ok (.invokevirtual 55, 3) := by decide +kernel
theorem dX1_allowed_7 : decode cX1_allowed 7 = .ok (.ireturn, 1) := by decide +kernel
theorem dX1_canAgree_0 : decode cX1_canAgree 0 = .ok (.aload_n 0, 1) := by decide +kernel
theorem dX1_canAgree_1 : decode cX1_canAgree 1 = .ok (.iload_n 1, 1) := by decide +kernel
theorem dX1_canAgree_2 : decode cX1_canAgree 2 = .ok (.invokevirtual 25, 3) := by decide +kernel
theorem dX1_canAgree_5 : decode cX1_canAgree 5 = .ok (.ifCond .eq 11, 3) := by decide +kernel
theorem dX1_canAgree_8 : decode cX1_canAgree 8 = .ok (.aload_n 0, 1) := by decide +kernel
theorem dX1_canAgree_9 : decode cX1_canAgree 9 = .ok (.iload_n 2, 1) := by decide +kernel
theorem dX1_canAgree_10 : decode cX1_canAgree 10 = .ok (.invokevirtual 25, 3) := by decide +kernel
theorem dX1_canAgree_13 : decode cX1_canAgree 13 = .ok (.ifCond .ne 5, 3) := by decide +kernel
theorem dX1_canAgree_16 : decode cX1_canAgree 16 = .ok (.iconst 0, 1) := by decide +kernel
theorem dX1_canAgree_17 : decode cX1_canAgree 17 = .ok (.ireturn, 1) := by decide +kernel
theorem dX1_canAgree_18 : decode cX1_canAgree 18 = .ok (.aload_n 0, 1) := by decide +kernel
theorem dX1_canAgree_19 : decode cX1_canAgree 19 = .ok (.invokevirtual 52, 3) := by decide +kernel
theorem dX1_canAgree_22 : decode cX1_canAgree 22 = .ok (.istore_n 3, 1) := by decide +kernel
theorem dX1_canAgree_23 : decode cX1_canAgree 23 = .ok (.iconst 0, 1) := by decide +kernel
theorem dX1_canAgree_24 : decode cX1_canAgree 24 = .ok (.istore 4, 2) := by decide +kernel
theorem dX1_canAgree_26 : decode cX1_canAgree 26 = .ok (.iload 4, 2) := by decide +kernel
theorem dX1_canAgree_28 : decode cX1_canAgree 28 = .ok (.sipush 729, 3) := by decide +kernel
theorem dX1_canAgree_31 : decode cX1_canAgree 31 = .ok (.if_icmp .ge 43, 3) := by decide +kernel
theorem dX1_canAgree_34 : decode cX1_canAgree 34 = .ok (.iload_n 3, 1) := by decide +kernel
theorem dX1_canAgree_35 : decode cX1_canAgree 35 = .ok (.ifCond .lt 33, 3) := by decide +kernel
theorem dX1_canAgree_38 : decode cX1_canAgree 38 = .ok (.aload_n 0, 1) := by decide +kernel
theorem dX1_canAgree_39 : decode cX1_canAgree 39 = .ok (.getfield 22, 3) := by decide +kernel
theorem dX1_canAgree_42 : decode cX1_canAgree 42 = .ok (.iload 4, 2) := by decide +kernel
theorem dX1_canAgree_44 : decode cX1_canAgree 44 = .ok (.iaload, 1) := by decide +kernel
theorem dX1_canAgree_45 : decode cX1_canAgree 45 = .ok (.iload_n 3, 1) := by decide +kernel
theorem dX1_canAgree_46 : decode cX1_canAgree 46 = .ok (.if_icmp .ne 22, 3) := by decide +kernel
theorem dX1_canAgree_49 : decode cX1_canAgree 49 = .ok (.aload_n 0, 1) := by decide +kernel
theorem dX1_canAgree_50 : decode cX1_canAgree 50 = .ok (.iload 4, 2) := by decide +kernel
theorem dX1_canAgree_52 : decode cX1_canAgree 52 = .ok (.iload_n 1, 1) := by decide +kernel
theorem dX1_canAgree_53 : decode cX1_canAgree 53 = .ok (.invokevirtual 37, 3) := by decide +kernel
theorem dX1_canAgree_56 : decode cX1_canAgree 56 = .ok (.aload_n 0, 1) := by decide +kernel
theorem dX1_canAgree_57 : decode cX1_canAgree 57 = .ok (.iload 4, 2) := by decide +kernel
theorem dX1_canAgree_59 : decode cX1_canAgree 59 = .ok (.iload_n 2, 1) := by decide +kernel
theorem dX1_canAgree_60 : decode cX1_canAgree 60 = .ok (.invokevirtual 37, 3) := by decide +kernel
theorem dX1_canAgree_63 : decode cX1_canAgree 63 = .ok (.if_icmp .ne 5, 3) := by decide +kernel
theorem dX1_canAgree_66 : decode cX1_canAgree 66 = .ok (.iconst 1, 1) := by decide +kernel
theorem dX1_canAgree_67 : decode cX1_canAgree 67 = .ok (.ireturn, 1) := by decide +kernel
theorem dX1_canAgree_68 : decode cX1_canAgree 68 = .ok (.iinc 4 1, 3) := by decide +kernel
theorem dX1_canAgree_71 : decode cX1_canAgree 71 = .ok (.goto (-45), 3) := by decide +kernel
theorem dX1_canAgree_74 : decode cX1_canAgree 74 = .ok (.iconst 0, 1) := by decide +kernel
theorem dX1_canAgree_75 : decode cX1_canAgree 75 = .ok (.ireturn, 1) := by decide +kernel
end
section
set_option maxRecDepth 100000
theorem dL_law_0 : decode cL_law 0 = .ok (.new 7, 3) := by decide +kernel
theorem dL_law_3 : decode cL_law 3 = .ok (.dup, 1) := by decide +kernel
theorem dL_law_4 : decode cL_law 4 = .ok (.invokespecial 9, 3) := by decide +kernel
theorem dL_law_7 : decode cL_law 7 = .ok (.astore_n 1, 1) := by decide +kernel
theorem dL_law_8 : decode cL_law 8 = .ok (.new 10, 3) := by decide +kernel
theorem dL_law_11 : decode cL_law 11 = .ok (.dup, 1) := by decide +kernel
theorem dL_law_12 : decode cL_law 12 = .ok (.invokespecial 12, 3) := by decide +kernel
theorem dL_law_15 : decode cL_law 15 = .ok (.astore_n 2, 1) := by decide +kernel
theorem dL_law_16 : decode cL_law 16 = .ok (.iconst 0, 1) := by decide +kernel
theorem dL_law_17 : decode cL_law 17 = .ok (.istore_n 3, 1) := by decide +kernel
theorem dL_law_18 : decode cL_law 18 = .ok (.iload_n 3, 1) := by decide +kernel
theorem dL_law_19 : decode cL_law 19 = .ok (.aload_n 0, 1) := by decide +kernel
theorem dL_law_20 : decode cL_law 20 = .ok (.arraylength, 1) := by decide +kernel
theorem dL_law_21 : decode cL_law 21 = .ok (.iconst 4, 1) := by decide +kernel
theorem dL_law_22 : decode cL_law 22 = .ok (.isub, 1) := by decide +kernel
theorem dL_law_23 : decode cL_law 23 = .ok (.if_icmp .gt 358, 3) := by decide +kernel
theorem dL_law_26 : decode cL_law 26 = .ok (.aload_n 0, 1) := by decide +kernel
theorem dL_law_27 : decode cL_law 27 = .ok (.iload_n 3, 1) := by decide +kernel
theorem dL_law_28 : decode cL_law 28 = .ok (.iaload, 1) := by decide +kernel
theorem dL_law_29 : decode cL_law 29 = .ok (.bipush 15, 2) := by decide +kernel
theorem dL_law_31 : decode cL_law 31 = .ok (.iand, 1) := by decide +kernel
theorem dL_law_32 : decode cL_law 32 = .ok (.tableswitch 343 0 10 #[60, 103, 136, 179, 192, 205, 228, 261, 274, 287, 310], 60) := by decide +kernel
theorem dL_law_92 : decode cL_law 92 = .ok (.aload_n 1, 1) := by decide +kernel
theorem dL_law_93 : decode cL_law 93 = .ok (.aload_n 0, 1) := by decide +kernel
theorem dL_law_94 : decode cL_law 94 = .ok (.iload_n 3, 1) := by decide +kernel
theorem dL_law_95 : decode cL_law 95 = .ok (.iconst 1, 1) := by decide +kernel
theorem dL_law_96 : decode cL_law 96 = .ok (.iadd, 1) := by decide +kernel
theorem dL_law_97 : decode cL_law 97 = .ok (.iaload, 1) := by decide +kernel
theorem dL_law_98 : decode cL_law 98 = .ok (.aload_n 0, 1) := by decide +kernel
theorem dL_law_99 : decode cL_law 99 = .ok (.iload_n 3, 1) := by decide +kernel
theorem dL_law_100 : decode cL_law 100 = .ok (.iconst 2, 1) := by decide +kernel
theorem dL_law_101 : decode cL_law 101 = .ok (.iadd, 1) := by decide +kernel
theorem dL_law_102 : decode cL_law 102 = .ok (.iaload, 1) := by decide +kernel
theorem dL_law_103 : decode cL_law 103 = .ok (.aload_n 0, 1) := by decide +kernel
theorem dL_law_104 : decode cL_law 104 = .ok (.iload_n 3, 1) := by decide +kernel
theorem dL_law_105 : decode cL_law 105 = .ok (.iconst 3, 1) := by decide +kernel
theorem dL_law_106 : decode cL_law 106 = .ok (.iadd, 1) := by decide +kernel
theorem dL_law_107 : decode cL_law 107 = .ok (.iaload, 1) := by decide +kernel
theorem dL_law_108 : decode cL_law 108 = .ok (.invokevirtual 13, 3) := by decide +kernel
theorem dL_law_111 : decode cL_law 111 = .ok (.aload_n 2, 1) := by decide +kernel
theorem dL_law_112 : decode cL_law 112 = .ok (.aload_n 0, 1) := by decide +kernel
theorem dL_law_113 : decode cL_law 113 = .ok (.iload_n 3, 1) := by decide +kernel
theorem dL_law_114 : decode cL_law 114 = .ok (.iconst 1, 1) := by decide +kernel
theorem dL_law_115 : decode cL_law 115 = .ok (.iadd, 1) := by decide +kernel
theorem dL_law_116 : decode cL_law 116 = .ok (.iaload, 1) := by decide +kernel
theorem dL_law_117 : decode cL_law 117 = .ok (.aload_n 0, 1) := by decide +kernel
theorem dL_law_118 : decode cL_law 118 = .ok (.iload_n 3, 1) := by decide +kernel
theorem dL_law_119 : decode cL_law 119 = .ok (.iconst 2, 1) := by decide +kernel
theorem dL_law_120 : decode cL_law 120 = .ok (.iadd, 1) := by decide +kernel
theorem dL_law_121 : decode cL_law 121 = .ok (.iaload, 1) := by decide +kernel
theorem dL_law_122 : decode cL_law 122 = .ok (.aload_n 0, 1) := by decide +kernel
theorem dL_law_123 : decode cL_law 123 = .ok (.iload_n 3, 1) := by decide +kernel
theorem dL_law_124 : decode cL_law 124 = .ok (.iconst 3, 1) := by decide +kernel
theorem dL_law_125 : decode cL_law 125 = .ok (.iadd, 1) := by decide +kernel
theorem dL_law_126 : decode cL_law 126 = .ok (.iaload, 1) := by decide +kernel
theorem dL_law_127 : decode cL_law 127 = .ok (.invokevirtual 17, 3) := by decide +kernel
theorem dL_law_130 : decode cL_law 130 = .ok (.if_icmp .eq 245, 3) := by decide +kernel
theorem dL_law_133 : decode cL_law 133 = .ok (.iconst 0, 1) := by decide +kernel
theorem dL_law_134 : decode cL_law 134 = .ok (.ireturn, 1) := by decide +kernel
theorem dL_law_135 : decode cL_law 135 = .ok (.aload_n 1, 1) := by decide +kernel
theorem dL_law_136 : decode cL_law 136 = .ok (.aload_n 0, 1) := by decide +kernel
theorem dL_law_137 : decode cL_law 137 = .ok (.iload_n 3, 1) := by decide +kernel
theorem dL_law_138 : decode cL_law 138 = .ok (.iconst 1, 1) := by decide +kernel
theorem dL_law_139 : decode cL_law 139 = .ok (.iadd, 1) := by decide +kernel
theorem dL_law_140 : decode cL_law 140 = .ok (.iaload, 1) := by decide +kernel
theorem dL_law_141 : decode cL_law 141 = .ok (.aload_n 0, 1) := by decide +kernel
theorem dL_law_142 : decode cL_law 142 = .ok (.iload_n 3, 1) := by decide +kernel
theorem dL_law_143 : decode cL_law 143 = .ok (.iconst 2, 1) := by decide +kernel
theorem dL_law_144 : decode cL_law 144 = .ok (.iadd, 1) := by decide +kernel
theorem dL_law_145 : decode cL_law 145 = .ok (.iaload, 1) := by decide +kernel
theorem dL_law_146 : decode cL_law 146 = .ok (.invokevirtual 18, 3) := by decide +kernel
theorem dL_law_149 : decode cL_law 149 = .ok (.aload_n 2, 1) := by decide +kernel
theorem dL_law_150 : decode cL_law 150 = .ok (.aload_n 0, 1) := by decide +kernel
theorem dL_law_151 : decode cL_law 151 = .ok (.iload_n 3, 1) := by decide +kernel
theorem dL_law_152 : decode cL_law 152 = .ok (.iconst 1, 1) := by decide +kernel
theorem dL_law_153 : decode cL_law 153 = .ok (.iadd, 1) := by decide +kernel
theorem dL_law_154 : decode cL_law 154 = .ok (.iaload, 1) := by decide +kernel
theorem dL_law_155 : decode cL_law 155 = .ok (.aload_n 0, 1) := by decide +kernel
theorem dL_law_156 : decode cL_law 156 = .ok (.iload_n 3, 1) := by decide +kernel
theorem dL_law_157 : decode cL_law 157 = .ok (.iconst 2, 1) := by decide +kernel
theorem dL_law_158 : decode cL_law 158 = .ok (.iadd, 1) := by decide +kernel
theorem dL_law_159 : decode cL_law 159 = .ok (.iaload, 1) := by decide +kernel
theorem dL_law_160 : decode cL_law 160 = .ok (.invokevirtual 22, 3) := by decide +kernel
theorem dL_law_163 : decode cL_law 163 = .ok (.if_icmp .eq 212, 3) := by decide +kernel
theorem dL_law_166 : decode cL_law 166 = .ok (.iconst 0, 1) := by decide +kernel
theorem dL_law_167 : decode cL_law 167 = .ok (.ireturn, 1) := by decide +kernel
theorem dL_law_168 : decode cL_law 168 = .ok (.aload_n 1, 1) := by decide +kernel
theorem dL_law_169 : decode cL_law 169 = .ok (.aload_n 0, 1) := by decide +kernel
theorem dL_law_170 : decode cL_law 170 = .ok (.iload_n 3, 1) := by decide +kernel
theorem dL_law_171 : decode cL_law 171 = .ok (.iconst 1, 1) := by decide +kernel
theorem dL_law_172 : decode cL_law 172 = .ok (.iadd, 1) := by decide +kernel
theorem dL_law_173 : decode cL_law 173 = .ok (.iaload, 1) := by decide +kernel
theorem dL_law_174 : decode cL_law 174 = .ok (.aload_n 0, 1) := by decide +kernel
theorem dL_law_175 : decode cL_law 175 = .ok (.iload_n 3, 1) := by decide +kernel
theorem dL_law_176 : decode cL_law 176 = .ok (.iconst 2, 1) := by decide +kernel
theorem dL_law_177 : decode cL_law 177 = .ok (.iadd, 1) := by decide +kernel
theorem dL_law_178 : decode cL_law 178 = .ok (.iaload, 1) := by decide +kernel
theorem dL_law_179 : decode cL_law 179 = .ok (.aload_n 0, 1) := by decide +kernel
theorem dL_law_180 : decode cL_law 180 = .ok (.iload_n 3, 1) := by decide +kernel
theorem dL_law_181 : decode cL_law 181 = .ok (.iconst 3, 1) := by decide +kernel
theorem dL_law_182 : decode cL_law 182 = .ok (.iadd, 1) := by decide +kernel
theorem dL_law_183 : decode cL_law 183 = .ok (.iaload, 1) := by decide +kernel
theorem dL_law_184 : decode cL_law 184 = .ok (.invokevirtual 23, 3) := by decide +kernel
theorem dL_law_187 : decode cL_law 187 = .ok (.aload_n 2, 1) := by decide +kernel
theorem dL_law_188 : decode cL_law 188 = .ok (.aload_n 0, 1) := by decide +kernel
theorem dL_law_189 : decode cL_law 189 = .ok (.iload_n 3, 1) := by decide +kernel
theorem dL_law_190 : decode cL_law 190 = .ok (.iconst 1, 1) := by decide +kernel
theorem dL_law_191 : decode cL_law 191 = .ok (.iadd, 1) := by decide +kernel
theorem dL_law_192 : decode cL_law 192 = .ok (.iaload, 1) := by decide +kernel
theorem dL_law_193 : decode cL_law 193 = .ok (.aload_n 0, 1) := by decide +kernel
theorem dL_law_194 : decode cL_law 194 = .ok (.iload_n 3, 1) := by decide +kernel
theorem dL_law_195 : decode cL_law 195 = .ok (.iconst 2, 1) := by decide +kernel
theorem dL_law_196 : decode cL_law 196 = .ok (.iadd, 1) := by decide +kernel
theorem dL_law_197 : decode cL_law 197 = .ok (.iaload, 1) := by decide +kernel
theorem dL_law_198 : decode cL_law 198 = .ok (.aload_n 0, 1) := by decide +kernel
theorem dL_law_199 : decode cL_law 199 = .ok (.iload_n 3, 1) := by decide +kernel
theorem dL_law_200 : decode cL_law 200 = .ok (.iconst 3, 1) := by decide +kernel
theorem dL_law_201 : decode cL_law 201 = .ok (.iadd, 1) := by decide +kernel
theorem dL_law_202 : decode cL_law 202 = .ok (.iaload, 1) := by decide +kernel
theorem dL_law_203 : decode cL_law 203 = .ok (.invokevirtual 26, 3) := by decide +kernel
theorem dL_law_206 : decode cL_law 206 = .ok (.if_icmp .eq 169, 3) := by decide +kernel
theorem dL_law_209 : decode cL_law 209 = .ok (.iconst 0, 1) := by decide +kernel
theorem dL_law_210 : decode cL_law 210 = .ok (.ireturn, 1) := by decide +kernel
theorem dL_law_211 : decode cL_law 211 = .ok (.aload_n 1, 1) := by decide +kernel
theorem dL_law_212 : decode cL_law 212 = .ok (.invokevirtual 27, 3) := by decide +kernel
theorem dL_law_215 : decode cL_law 215 = .ok (.aload_n 2, 1) := by decide +kernel
theorem dL_law_216 : decode cL_law 216 = .ok (.invokevirtual 31, 3) := by decide +kernel
theorem dL_law_219 : decode cL_law 219 = .ok (.if_icmp .eq 156, 3) := by decide +kernel
theorem dL_law_222 : decode cL_law 222 = .ok (.iconst 0, 1) := by decide +kernel
theorem dL_law_223 : decode cL_law 223 = .ok (.ireturn, 1) := by decide +kernel
theorem dL_law_224 : decode cL_law 224 = .ok (.aload_n 1, 1) := by decide +kernel
theorem dL_law_225 : decode cL_law 225 = .ok (.invokevirtual 32, 3) := by decide +kernel
theorem dL_law_228 : decode cL_law 228 = .ok (.aload_n 2, 1) := by decide +kernel
theorem dL_law_229 : decode cL_law 229 = .ok (.invokevirtual 35, 3) := by decide +kernel
theorem dL_law_232 : decode cL_law 232 = .ok (.if_icmp .eq 143, 3) := by decide +kernel
theorem dL_law_235 : decode cL_law 235 = .ok (.iconst 0, 1) := by decide +kernel
theorem dL_law_236 : decode cL_law 236 = .ok (.ireturn, 1) := by decide +kernel
theorem dL_law_237 : decode cL_law 237 = .ok (.aload_n 1, 1) := by decide +kernel
theorem dL_law_238 : decode cL_law 238 = .ok (.aload_n 0, 1) := by decide +kernel
theorem dL_law_239 : decode cL_law 239 = .ok (.iload_n 3, 1) := by decide +kernel
theorem dL_law_240 : decode cL_law 240 = .ok (.iconst 1, 1) := by decide +kernel
theorem dL_law_241 : decode cL_law 241 = .ok (.iadd, 1) := by decide +kernel
theorem dL_law_242 : decode cL_law 242 = .ok (.iaload, 1) := by decide +kernel
theorem dL_law_243 : decode cL_law 243 = .ok (.invokevirtual 36, 3) := by decide +kernel
theorem dL_law_246 : decode cL_law 246 = .ok (.aload_n 2, 1) := by decide +kernel
theorem dL_law_247 : decode cL_law 247 = .ok (.aload_n 0, 1) := by decide +kernel
theorem dL_law_248 : decode cL_law 248 = .ok (.iload_n 3, 1) := by decide +kernel
theorem dL_law_249 : decode cL_law 249 = .ok (.iconst 1, 1) := by decide +kernel
theorem dL_law_250 : decode cL_law 250 = .ok (.iadd, 1) := by decide +kernel
theorem dL_law_251 : decode cL_law 251 = .ok (.iaload, 1) := by decide +kernel
theorem dL_law_252 : decode cL_law 252 = .ok (.invokevirtual 40, 3) := by decide +kernel
theorem dL_law_255 : decode cL_law 255 = .ok (.if_icmp .eq 120, 3) := by decide +kernel
theorem dL_law_258 : decode cL_law 258 = .ok (.iconst 0, 1) := by decide +kernel
theorem dL_law_259 : decode cL_law 259 = .ok (.ireturn, 1) := by decide +kernel
theorem dL_law_260 : decode cL_law 260 = .ok (.aload_n 1, 1) := by decide +kernel
theorem dL_law_261 : decode cL_law 261 = .ok (.aload_n 0, 1) := by decide +kernel
theorem dL_law_262 : decode cL_law 262 = .ok (.iload_n 3, 1) := by decide +kernel
theorem dL_law_263 : decode cL_law 263 = .ok (.iconst 1, 1) := by decide +kernel
theorem dL_law_264 : decode cL_law 264 = .ok (.iadd, 1) := by decide +kernel
theorem dL_law_265 : decode cL_law 265 = .ok (.iaload, 1) := by decide +kernel
theorem dL_law_266 : decode cL_law 266 = .ok (.aload_n 0, 1) := by decide +kernel
theorem dL_law_267 : decode cL_law 267 = .ok (.iload_n 3, 1) := by decide +kernel
theorem dL_law_268 : decode cL_law 268 = .ok (.iconst 2, 1) := by decide +kernel
theorem dL_law_269 : decode cL_law 269 = .ok (.iadd, 1) := by decide +kernel
theorem dL_law_270 : decode cL_law 270 = .ok (.iaload, 1) := by decide +kernel
theorem dL_law_271 : decode cL_law 271 = .ok (.invokevirtual 41, 3) := by decide +kernel
theorem dL_law_274 : decode cL_law 274 = .ok (.aload_n 2, 1) := by decide +kernel
theorem dL_law_275 : decode cL_law 275 = .ok (.aload_n 0, 1) := by decide +kernel
theorem dL_law_276 : decode cL_law 276 = .ok (.iload_n 3, 1) := by decide +kernel
theorem dL_law_277 : decode cL_law 277 = .ok (.iconst 1, 1) := by decide +kernel
theorem dL_law_278 : decode cL_law 278 = .ok (.iadd, 1) := by decide +kernel
theorem dL_law_279 : decode cL_law 279 = .ok (.iaload, 1) := by decide +kernel
theorem dL_law_280 : decode cL_law 280 = .ok (.aload_n 0, 1) := by decide +kernel
theorem dL_law_281 : decode cL_law 281 = .ok (.iload_n 3, 1) := by decide +kernel
theorem dL_law_282 : decode cL_law 282 = .ok (.iconst 2, 1) := by decide +kernel
theorem dL_law_283 : decode cL_law 283 = .ok (.iadd, 1) := by decide +kernel
theorem dL_law_284 : decode cL_law 284 = .ok (.iaload, 1) := by decide +kernel
theorem dL_law_285 : decode cL_law 285 = .ok (.invokevirtual 44, 3) := by decide +kernel
theorem dL_law_288 : decode cL_law 288 = .ok (.if_icmp .eq 87, 3) := by decide +kernel
theorem dL_law_291 : decode cL_law 291 = .ok (.iconst 0, 1) := by decide +kernel
theorem dL_law_292 : decode cL_law 292 = .ok (.ireturn, 1) := by decide +kernel
theorem dL_law_293 : decode cL_law 293 = .ok (.aload_n 1, 1) := by decide +kernel
theorem dL_law_294 : decode cL_law 294 = .ok (.invokevirtual 45, 3) := by decide +kernel
theorem dL_law_297 : decode cL_law 297 = .ok (.aload_n 2, 1) := by decide +kernel
theorem dL_law_298 : decode cL_law 298 = .ok (.invokevirtual 48, 3) := by decide +kernel
theorem dL_law_301 : decode cL_law 301 = .ok (.if_icmp .eq 74, 3) := by decide +kernel
theorem dL_law_304 : decode cL_law 304 = .ok (.iconst 0, 1) := by decide +kernel
theorem dL_law_305 : decode cL_law 305 = .ok (.ireturn, 1) := by decide +kernel
theorem dL_law_306 : decode cL_law 306 = .ok (.aload_n 1, 1) := by decide +kernel
theorem dL_law_307 : decode cL_law 307 = .ok (.invokevirtual 49, 3) := by decide +kernel
theorem dL_law_310 : decode cL_law 310 = .ok (.aload_n 2, 1) := by decide +kernel
theorem dL_law_311 : decode cL_law 311 = .ok (.invokevirtual 52, 3) := by decide +kernel
theorem dL_law_314 : decode cL_law 314 = .ok (.if_icmp .eq 61, 3) := by decide +kernel
theorem dL_law_317 : decode cL_law 317 = .ok (.iconst 0, 1) := by decide +kernel
theorem dL_law_318 : decode cL_law 318 = .ok (.ireturn, 1) := by decide +kernel
theorem dL_law_319 : decode cL_law 319 = .ok (.aload_n 1, 1) := by decide +kernel
theorem dL_law_320 : decode cL_law 320 = .ok (.aload_n 0, 1) := by decide +kernel
theorem dL_law_321 : decode cL_law 321 = .ok (.iload_n 3, 1) := by decide +kernel
theorem dL_law_322 : decode cL_law 322 = .ok (.iconst 1, 1) := by decide +kernel
theorem dL_law_323 : decode cL_law 323 = .ok (.iadd, 1) := by decide +kernel
theorem dL_law_324 : decode cL_law 324 = .ok (.iaload, 1) := by decide +kernel
theorem dL_law_325 : decode cL_law 325 = .ok (.invokevirtual 53, 3) := by decide +kernel
theorem dL_law_328 : decode cL_law 328 = .ok (.aload_n 2, 1) := by decide +kernel
theorem dL_law_329 : decode cL_law 329 = .ok (.aload_n 0, 1) := by decide +kernel
theorem dL_law_330 : decode cL_law 330 = .ok (.iload_n 3, 1) := by decide +kernel
theorem dL_law_331 : decode cL_law 331 = .ok (.iconst 1, 1) := by decide +kernel
theorem dL_law_332 : decode cL_law 332 = .ok (.iadd, 1) := by decide +kernel
theorem dL_law_333 : decode cL_law 333 = .ok (.iaload, 1) := by decide +kernel
theorem dL_law_334 : decode cL_law 334 = .ok (.invokevirtual 56, 3) := by decide +kernel
theorem dL_law_337 : decode cL_law 337 = .ok (.if_icmp .eq 38, 3) := by decide +kernel
theorem dL_law_340 : decode cL_law 340 = .ok (.iconst 0, 1) := by decide +kernel
theorem dL_law_341 : decode cL_law 341 = .ok (.ireturn, 1) := by decide +kernel
theorem dL_law_342 : decode cL_law 342 = .ok (.aload_n 1, 1) := by decide +kernel
theorem dL_law_343 : decode cL_law 343 = .ok (.aload_n 0, 1) := by decide +kernel
theorem dL_law_344 : decode cL_law 344 = .ok (.iload_n 3, 1) := by decide +kernel
theorem dL_law_345 : decode cL_law 345 = .ok (.iconst 1, 1) := by decide +kernel
theorem dL_law_346 : decode cL_law 346 = .ok (.iadd, 1) := by decide +kernel
theorem dL_law_347 : decode cL_law 347 = .ok (.iaload, 1) := by decide +kernel
theorem dL_law_348 : decode cL_law 348 = .ok (.aload_n 0, 1) := by decide +kernel
theorem dL_law_349 : decode cL_law 349 = .ok (.iload_n 3, 1) := by decide +kernel
theorem dL_law_350 : decode cL_law 350 = .ok (.iconst 2, 1) := by decide +kernel
theorem dL_law_351 : decode cL_law 351 = .ok (.iadd, 1) := by decide +kernel
theorem dL_law_352 : decode cL_law 352 = .ok (.iaload, 1) := by decide +kernel
theorem dL_law_353 : decode cL_law 353 = .ok (.invokevirtual 57, 3) := by decide +kernel
theorem dL_law_356 : decode cL_law 356 = .ok (.aload_n 2, 1) := by decide +kernel
theorem dL_law_357 : decode cL_law 357 = .ok (.aload_n 0, 1) := by decide +kernel
theorem dL_law_358 : decode cL_law 358 = .ok (.iload_n 3, 1) := by decide +kernel
theorem dL_law_359 : decode cL_law 359 = .ok (.iconst 1, 1) := by decide +kernel
theorem dL_law_360 : decode cL_law 360 = .ok (.iadd, 1) := by decide +kernel
theorem dL_law_361 : decode cL_law 361 = .ok (.iaload, 1) := by decide +kernel
theorem dL_law_362 : decode cL_law 362 = .ok (.aload_n 0, 1) := by decide +kernel
theorem dL_law_363 : decode cL_law 363 = .ok (.iload_n 3, 1) := by decide +kernel
theorem dL_law_364 : decode cL_law 364 = .ok (.iconst 2, 1) := by decide +kernel
theorem dL_law_365 : decode cL_law 365 = .ok (.iadd, 1) := by decide +kernel
theorem dL_law_366 : decode cL_law 366 = .ok (.iaload, 1) := by decide +kernel
theorem dL_law_367 : decode cL_law 367 = .ok (.invokevirtual 61, 3) := by decide +kernel
theorem dL_law_370 : decode cL_law 370 = .ok (.if_icmp .eq 5, 3) := by decide +kernel
theorem dL_law_373 : decode cL_law 373 = .ok (.iconst 0, 1) := by decide +kernel
theorem dL_law_374 : decode cL_law 374 = .ok (.ireturn, 1) := by decide +kernel
theorem dL_law_375 : decode cL_law 375 = .ok (.iinc 3 4, 3) := by decide +kernel
theorem dL_law_378 : decode cL_law 378 = .ok (.goto (-360), 3) := by decide +kernel
theorem dL_law_381 : decode cL_law 381 = .ok (.iconst 1, 1) := by decide +kernel
theorem dL_law_382 : decode cL_law 382 = .ok (.ireturn, 1) := by decide +kernel
end
section
set_option maxRecDepth 100000
/-! ===== ints of the machine as integers ===== -/
def iI (z : Int) : Int32 := Int32.ofInt z
theorem iI_add (a b : Int) : iI a + iI b = iI (a + b) := (Int32.ofInt_add a b).symm
theorem iI_sub (a b : Int) : iI a - iI b = iI (a - b) := (Int32.ofInt_sub a b).symm
theorem iI_mul (a b : Int) : iI a * iI b = iI (a * b) := (Int32.ofInt_mul a b).symm
theorem iI_of (x : Int32) : iI x.toInt = x := Int32.ofInt_toInt x
theorem iI_rg (x : Int32) : -2147483648 ≤ x.toInt ∧ x.toInt ≤ 2147483647 := by
  have h1 := x.toInt_lt
  have h2 := x.le_toInt
  omega
theorem iI_t {a : Int} (h : -2147483648 ≤ a ∧ a ≤ 2147483647) : (iI a).toInt = a := Int32.toInt_ofInt_of_le (by omega) (by omega)
theorem iI_eq {a b : Int} (ha : -2147483648 ≤ a ∧ a ≤ 2147483647) (hb : -2147483648 ≤ b ∧ b ≤ 2147483647) : iI a = iI b ↔ a = b := by
  rw [← Int32.toInt_inj, iI_t ha, iI_t hb]
theorem iI_lt {a b : Int} (ha : -2147483648 ≤ a ∧ a ≤ 2147483647) (hb : -2147483648 ≤ b ∧ b ≤ 2147483647) : iI a < iI b ↔ a < b := by
  rw [Int32.lt_iff_toInt_lt, iI_t ha, iI_t hb]
theorem iI_le {a b : Int} (ha : -2147483648 ≤ a ∧ a ≤ 2147483647) (hb : -2147483648 ≤ b ∧ b ≤ 2147483647) : iI a ≤ iI b ↔ a ≤ b := by
  rw [Int32.le_iff_toInt_le, iI_t ha, iI_t hb]
theorem iI_0 : iI 0 = 0 := by decide
theorem iI_c {a : Int} (h0 : 0 ≤ a) (h : a ≤ 2147483647) : (iI a).toNatClampNeg = a.toNat := by
  show (iI a).toInt.toNat = a.toNat
  rw [iI_t (by omega)]
theorem iI_in {a : Int} {n : Nat} (h0 : 0 ≤ a) (h : a < n) (hn : n ≤ 100000) : vp_in (iI a) n := by
  rw [vp_in_iff, iI_t (by omega)]
  omega
theorem iI_div3 {a : Int} (h : 0 ≤ a ∧ a ≤ 2147483647) : iI a / iI 3 = iI (a / 3) := by
  apply Int32.toInt_inj.mp
  rw [Jvm.Kit.i32_div (by rw [iI_t (by omega), iI_t (by omega)]; omega), iI_t (by omega), iI_t (by omega), iI_t (by omega), Int.tdiv_eq_ediv_of_nonneg h.1]
theorem iI_rem3 {a : Int} (h : 0 ≤ a ∧ a ≤ 2147483647) : iI a - iI a / iI 3 * iI 3 = iI (a % 3) := by
  rw [iI_div3 h, iI_mul, iI_sub]
  congr 1
  omega
theorem iI_z {z : Int} (h : z = 0 ∨ z = 1) : narrow .boolean (.int (iI z)) = .int (iI z) ∧ fits .boolean (.int (iI z)) = true := by
  rcases h with rfl | rfl
  · exact ⟨by decide, by decide⟩
  · exact ⟨by decide, by decide⟩
/-! ===== one row an instruction, at the level of Int ===== -/
section ZW
variable {p : Program} {l : Launch} {e : Env} {R : Room} {s : State} {m : MethodId} {args : Array Value} {below : List Frame} {meth : Method} {c : Code} {H : Heap} {locs : List Loc} {cells slots : Nat} {Q : State → Prop}
variable {cc : ByteArray} {pc : Nat} {ls : Array Slot} {rest : List Value}
theorem z_iconst (hx : p.tables.exec = Jvm.exec) (hb : c.code = cc) {n : Int} (hd : decode cc pc = .ok (.iconst n, 1)) (k : W p l e R s m args below meth c H locs cells slots Q (F0 m (pc + 1) ls (.int (iI n) :: rest))) : W p l e R s m args below meth c H locs cells slots Q (F0 m pc ls rest) := lv_iconst hx hb hd rfl k
theorem z_bipush (hx : p.tables.exec = Jvm.exec) (hb : c.code = cc) {n : Int} (hd : decode cc pc = .ok (.bipush n, 2)) (hv : (Int8.ofInt n).toInt32 = iI n) (k : W p l e R s m args below meth c H locs cells slots Q (F0 m (pc + 2) ls (.int (iI n) :: rest))) : W p l e R s m args below meth c H locs cells slots Q (F0 m pc ls rest) := lv_bipush hx hb hd hv k
theorem z_sipush (hx : p.tables.exec = Jvm.exec) (hb : c.code = cc) {n : Int} (hd : decode cc pc = .ok (.sipush n, 3)) (hv : (Int16.ofInt n).toInt32 = iI n) (k : W p l e R s m args below meth c H locs cells slots Q (F0 m (pc + 3) ls (.int (iI n) :: rest))) : W p l e R s m args below meth c H locs cells slots Q (F0 m pc ls rest) := lv_sipush hx hb hd hv k
theorem z_ldc (hx : p.tables.exec = Jvm.exec) (hb : c.code = cc) {own : String} {index : Nat} {v : Int32} {z : Int} (hown : s.vm.findClass own = some m.cls) (hc : (Jvm.Cond.constant own index v).before args s = true) (hv : v = iI z) (hd : decode cc pc = .ok (.ldc index, 2)) (k : W p l e R s m args below meth c H locs cells slots Q (F0 m (pc + 2) ls (.int (iI z) :: rest))) : W p l e R s m args below meth c H locs cells slots Q (F0 m pc ls rest) := lv_ldc hx hb hown hc hd (by rw [hv]; exact k)
theorem z_iadd (hx : p.tables.exec = Jvm.exec) (hb : c.code = cc) {a b : Int} (hd : decode cc pc = .ok (.iadd, 1)) (k : W p l e R s m args below meth c H locs cells slots Q (F0 m (pc + 1) ls (.int (iI (a + b)) :: rest))) : W p l e R s m args below meth c H locs cells slots Q (F0 m pc ls (.int (iI b) :: .int (iI a) :: rest)) := lv_iadd hx hb hd (by rw [iI_add]; exact k)
theorem z_isub (hx : p.tables.exec = Jvm.exec) (hb : c.code = cc) {a b : Int} (hd : decode cc pc = .ok (.isub, 1)) (k : W p l e R s m args below meth c H locs cells slots Q (F0 m (pc + 1) ls (.int (iI (a - b)) :: rest))) : W p l e R s m args below meth c H locs cells slots Q (F0 m pc ls (.int (iI b) :: .int (iI a) :: rest)) := lv_isub hx hb hd (by rw [iI_sub]; exact k)
theorem z_imul (hx : p.tables.exec = Jvm.exec) (hb : c.code = cc) {a b : Int} (hd : decode cc pc = .ok (.imul, 1)) (k : W p l e R s m args below meth c H locs cells slots Q (F0 m (pc + 1) ls (.int (iI (a * b)) :: rest))) : W p l e R s m args below meth c H locs cells slots Q (F0 m pc ls (.int (iI b) :: .int (iI a) :: rest)) := lv_imul hx hb hd (by rw [iI_mul]; exact k)
theorem z_idiv3 (hx : p.tables.exec = Jvm.exec) (hb : c.code = cc) {a : Int} (h : 0 ≤ a ∧ a ≤ 2147483647) (hd : decode cc pc = .ok (.idiv, 1)) (k : W p l e R s m args below meth c H locs cells slots Q (F0 m (pc + 1) ls (.int (iI (a / 3)) :: rest))) : W p l e R s m args below meth c H locs cells slots Q (F0 m pc ls (.int (iI 3) :: .int (iI a) :: rest)) := lv_idiv hx hb hd (by decide) (by rw [iI_div3 h]; exact k)
theorem z_irem3 (hx : p.tables.exec = Jvm.exec) (hb : c.code = cc) {a : Int} (h : 0 ≤ a ∧ a ≤ 2147483647) (hd : decode cc pc = .ok (.irem, 1)) (k : W p l e R s m args below meth c H locs cells slots Q (F0 m (pc + 1) ls (.int (iI (a % 3)) :: rest))) : W p l e R s m args below meth c H locs cells slots Q (F0 m pc ls (.int (iI 3) :: .int (iI a) :: rest)) := lv_irem hx hb hd (by decide) (by rw [iI_rem3 h]; exact k)
theorem z_iinc (hx : p.tables.exec = Jvm.exec) (hb : c.code = cc) {i nL k : Nat} {n x : Int} {lv lv' : List (Nat × Value)} (hd : decode cc pc = .ok (.iinc i n, 3)) (h : lv_has ls nL lv) (hk : lv[k]? = some (i, .int (iI x))) (hn : i < nL) (hl : (i, Value.int (iI (x + n))) :: lv.filter (fun q => !(q.1 == i) && !(q.1 + 1 == i && q.2.category == 2)) = lv') (kk : ∀ ls' : Array Slot, lv_has ls' nL lv' → W p l e R s m args below meth c H locs cells slots Q (F0 m (pc + 3) ls' rest)) : W p l e R s m args below meth c H locs cells slots Q (F0 m pc ls rest) := lv_iinc hx hb hd h hk (iI_add x n) hn hl kk
theorem z_icmp_eq (hx : p.tables.exec = Jvm.exec) (hb : c.code = cc) {a b : Int} {off : Int} {tgt : Nat} (hd : decode cc pc = .ok (.if_icmp .eq off, 3)) (ht : (pc : Int) + off = (tgt : Int)) (ra : -2147483648 ≤ a ∧ a ≤ 2147483647) (rb : -2147483648 ≤ b ∧ b ≤ 2147483647) (kt : a = b → W p l e R s m args below meth c H locs cells slots Q (F0 m tgt ls rest)) (kf : ¬ a = b → W p l e R s m args below meth c H locs cells slots Q (F0 m (pc + 3) ls rest)) : W p l e R s m args below meth c H locs cells slots Q (F0 m pc ls (.int (iI b) :: .int (iI a) :: rest)) := lv_icmp_eq hx hb hd ht (fun q => kt ((iI_eq ra rb).mp q)) (fun q => kf (by have z : ¬ _ := fun z => q ((iI_eq ra rb).mpr z); omega))
theorem z_icmp_ne (hx : p.tables.exec = Jvm.exec) (hb : c.code = cc) {a b : Int} {off : Int} {tgt : Nat} (hd : decode cc pc = .ok (.if_icmp .ne off, 3)) (ht : (pc : Int) + off = (tgt : Int)) (ra : -2147483648 ≤ a ∧ a ≤ 2147483647) (rb : -2147483648 ≤ b ∧ b ≤ 2147483647) (kt : ¬ a = b → W p l e R s m args below meth c H locs cells slots Q (F0 m tgt ls rest)) (kf : a = b → W p l e R s m args below meth c H locs cells slots Q (F0 m (pc + 3) ls rest)) : W p l e R s m args below meth c H locs cells slots Q (F0 m pc ls (.int (iI b) :: .int (iI a) :: rest)) := lv_icmp_ne hx hb hd ht (fun q => kt (fun z => q ((iI_eq ra rb).mpr z))) (fun q => kf ((iI_eq ra rb).mp q))
theorem z_icmp_lt (hx : p.tables.exec = Jvm.exec) (hb : c.code = cc) {a b : Int} {off : Int} {tgt : Nat} (hd : decode cc pc = .ok (.if_icmp .lt off, 3)) (ht : (pc : Int) + off = (tgt : Int)) (ra : -2147483648 ≤ a ∧ a ≤ 2147483647) (rb : -2147483648 ≤ b ∧ b ≤ 2147483647) (kt : a < b → W p l e R s m args below meth c H locs cells slots Q (F0 m tgt ls rest)) (kf : b ≤ a → W p l e R s m args below meth c H locs cells slots Q (F0 m (pc + 3) ls rest)) : W p l e R s m args below meth c H locs cells slots Q (F0 m pc ls (.int (iI b) :: .int (iI a) :: rest)) := lv_icmp_lt hx hb hd ht (fun q => kt ((iI_lt ra rb).mp q)) (fun q => kf (by have z : ¬ _ := fun z => q ((iI_lt ra rb).mpr z); omega))
theorem z_icmp_ge (hx : p.tables.exec = Jvm.exec) (hb : c.code = cc) {a b : Int} {off : Int} {tgt : Nat} (hd : decode cc pc = .ok (.if_icmp .ge off, 3)) (ht : (pc : Int) + off = (tgt : Int)) (ra : -2147483648 ≤ a ∧ a ≤ 2147483647) (rb : -2147483648 ≤ b ∧ b ≤ 2147483647) (kt : b ≤ a → W p l e R s m args below meth c H locs cells slots Q (F0 m tgt ls rest)) (kf : a < b → W p l e R s m args below meth c H locs cells slots Q (F0 m (pc + 3) ls rest)) : W p l e R s m args below meth c H locs cells slots Q (F0 m pc ls (.int (iI b) :: .int (iI a) :: rest)) := lv_icmp_ge hx hb hd ht (fun q => kt ((iI_le rb ra).mp q)) (fun q => kf (by have z : ¬ _ := fun z => q ((iI_le rb ra).mpr z); omega))
theorem z_icmp_gt (hx : p.tables.exec = Jvm.exec) (hb : c.code = cc) {a b : Int} {off : Int} {tgt : Nat} (hd : decode cc pc = .ok (.if_icmp .gt off, 3)) (ht : (pc : Int) + off = (tgt : Int)) (ra : -2147483648 ≤ a ∧ a ≤ 2147483647) (rb : -2147483648 ≤ b ∧ b ≤ 2147483647) (kt : b < a → W p l e R s m args below meth c H locs cells slots Q (F0 m tgt ls rest)) (kf : a ≤ b → W p l e R s m args below meth c H locs cells slots Q (F0 m (pc + 3) ls rest)) : W p l e R s m args below meth c H locs cells slots Q (F0 m pc ls (.int (iI b) :: .int (iI a) :: rest)) := lv_icmp_gt hx hb hd ht (fun q => kt ((iI_lt rb ra).mp q)) (fun q => kf (by have z : ¬ _ := fun z => q ((iI_lt rb ra).mpr z); omega))
theorem z_icmp_le (hx : p.tables.exec = Jvm.exec) (hb : c.code = cc) {a b : Int} {off : Int} {tgt : Nat} (hd : decode cc pc = .ok (.if_icmp .le off, 3)) (ht : (pc : Int) + off = (tgt : Int)) (ra : -2147483648 ≤ a ∧ a ≤ 2147483647) (rb : -2147483648 ≤ b ∧ b ≤ 2147483647) (kt : a ≤ b → W p l e R s m args below meth c H locs cells slots Q (F0 m tgt ls rest)) (kf : b < a → W p l e R s m args below meth c H locs cells slots Q (F0 m (pc + 3) ls rest)) : W p l e R s m args below meth c H locs cells slots Q (F0 m pc ls (.int (iI b) :: .int (iI a) :: rest)) := lv_icmp_le hx hb hd ht (fun q => kt ((iI_le ra rb).mp q)) (fun q => kf (by have z : ¬ _ := fun z => q ((iI_le ra rb).mpr z); omega))
theorem z_if_eq (hx : p.tables.exec = Jvm.exec) (hb : c.code = cc) {a : Int} {off : Int} {tgt : Nat} (hd : decode cc pc = .ok (.ifCond .eq off, 3)) (ht : (pc : Int) + off = (tgt : Int)) (ra : -2147483648 ≤ a ∧ a ≤ 2147483647) (kt : a = 0 → W p l e R s m args below meth c H locs cells slots Q (F0 m tgt ls rest)) (kf : ¬ a = 0 → W p l e R s m args below meth c H locs cells slots Q (F0 m (pc + 3) ls rest)) : W p l e R s m args below meth c H locs cells slots Q (F0 m pc ls (.int (iI a) :: rest)) := by
  have z0 : -2147483648 ≤ (0 : Int) ∧ (0 : Int) ≤ 2147483647 := by omega
  have L := iI_eq ra z0
  rw [iI_0] at L
  refine lv_if_eq hx hb hd ht (fun q => kt ?_) (fun q => kf ?_)
  · exact L.mp q
  · exact fun z => q (L.mpr z)
theorem z_if_ne (hx : p.tables.exec = Jvm.exec) (hb : c.code = cc) {a : Int} {off : Int} {tgt : Nat} (hd : decode cc pc = .ok (.ifCond .ne off, 3)) (ht : (pc : Int) + off = (tgt : Int)) (ra : -2147483648 ≤ a ∧ a ≤ 2147483647) (kt : ¬ a = 0 → W p l e R s m args below meth c H locs cells slots Q (F0 m tgt ls rest)) (kf : a = 0 → W p l e R s m args below meth c H locs cells slots Q (F0 m (pc + 3) ls rest)) : W p l e R s m args below meth c H locs cells slots Q (F0 m pc ls (.int (iI a) :: rest)) := by
  have z0 : -2147483648 ≤ (0 : Int) ∧ (0 : Int) ≤ 2147483647 := by omega
  have L := iI_eq ra z0
  rw [iI_0] at L
  refine lv_if_ne hx hb hd ht (fun q => kt ?_) (fun q => kf ?_)
  · exact fun z => q (L.mpr z)
  · exact L.mp q
theorem z_if_lt (hx : p.tables.exec = Jvm.exec) (hb : c.code = cc) {a : Int} {off : Int} {tgt : Nat} (hd : decode cc pc = .ok (.ifCond .lt off, 3)) (ht : (pc : Int) + off = (tgt : Int)) (ra : -2147483648 ≤ a ∧ a ≤ 2147483647) (kt : a < 0 → W p l e R s m args below meth c H locs cells slots Q (F0 m tgt ls rest)) (kf : 0 ≤ a → W p l e R s m args below meth c H locs cells slots Q (F0 m (pc + 3) ls rest)) : W p l e R s m args below meth c H locs cells slots Q (F0 m pc ls (.int (iI a) :: rest)) := by
  have z0 : -2147483648 ≤ (0 : Int) ∧ (0 : Int) ≤ 2147483647 := by omega
  have L := iI_lt ra z0
  rw [iI_0] at L
  refine lv_if_lt hx hb hd ht (fun q => kt ?_) (fun q => kf ?_)
  · exact L.mp q
  · have z : ¬ _ := fun z => q (L.mpr z)
    omega
theorem z_if_ge (hx : p.tables.exec = Jvm.exec) (hb : c.code = cc) {a : Int} {off : Int} {tgt : Nat} (hd : decode cc pc = .ok (.ifCond .ge off, 3)) (ht : (pc : Int) + off = (tgt : Int)) (ra : -2147483648 ≤ a ∧ a ≤ 2147483647) (kt : 0 ≤ a → W p l e R s m args below meth c H locs cells slots Q (F0 m tgt ls rest)) (kf : a < 0 → W p l e R s m args below meth c H locs cells slots Q (F0 m (pc + 3) ls rest)) : W p l e R s m args below meth c H locs cells slots Q (F0 m pc ls (.int (iI a) :: rest)) := by
  have z0 : -2147483648 ≤ (0 : Int) ∧ (0 : Int) ≤ 2147483647 := by omega
  have L := iI_le z0 ra
  rw [iI_0] at L
  refine lv_if_ge hx hb hd ht (fun q => kt ?_) (fun q => kf ?_)
  · exact L.mp q
  · have z : ¬ _ := fun z => q (L.mpr z)
    omega
theorem z_if_gt (hx : p.tables.exec = Jvm.exec) (hb : c.code = cc) {a : Int} {off : Int} {tgt : Nat} (hd : decode cc pc = .ok (.ifCond .gt off, 3)) (ht : (pc : Int) + off = (tgt : Int)) (ra : -2147483648 ≤ a ∧ a ≤ 2147483647) (kt : 0 < a → W p l e R s m args below meth c H locs cells slots Q (F0 m tgt ls rest)) (kf : a ≤ 0 → W p l e R s m args below meth c H locs cells slots Q (F0 m (pc + 3) ls rest)) : W p l e R s m args below meth c H locs cells slots Q (F0 m pc ls (.int (iI a) :: rest)) := by
  have z0 : -2147483648 ≤ (0 : Int) ∧ (0 : Int) ≤ 2147483647 := by omega
  have L := iI_lt z0 ra
  rw [iI_0] at L
  refine lv_if_gt hx hb hd ht (fun q => kt ?_) (fun q => kf ?_)
  · exact L.mp q
  · have z : ¬ _ := fun z => q (L.mpr z)
    omega
theorem z_if_le (hx : p.tables.exec = Jvm.exec) (hb : c.code = cc) {a : Int} {off : Int} {tgt : Nat} (hd : decode cc pc = .ok (.ifCond .le off, 3)) (ht : (pc : Int) + off = (tgt : Int)) (ra : -2147483648 ≤ a ∧ a ≤ 2147483647) (kt : a ≤ 0 → W p l e R s m args below meth c H locs cells slots Q (F0 m tgt ls rest)) (kf : 0 < a → W p l e R s m args below meth c H locs cells slots Q (F0 m (pc + 3) ls rest)) : W p l e R s m args below meth c H locs cells slots Q (F0 m pc ls (.int (iI a) :: rest)) := by
  have z0 : -2147483648 ≤ (0 : Int) ∧ (0 : Int) ≤ 2147483647 := by omega
  have L := iI_le ra z0
  rw [iI_0] at L
  refine lv_if_le hx hb hd ht (fun q => kt ?_) (fun q => kf ?_)
  · exact L.mp q
  · have z : ¬ _ := fun z => q (L.mpr z)
    omega
end ZW
/-! ===== states, worlds ===== -/
abbrev St : Type := Nat → Int → Int
def up (S : St) (k : Nat) (e x : Int) : St := fun k' j => if k' = k then (if j = e then x else S k' j) else S k' j
theorem up_s (S : St) (k : Nat) (e x j : Int) : up S k e x k j = if j = e then x else S k j := by simp [up]
theorem up_e (S : St) (k : Nat) (e x : Int) : up S k e x k e = x := by simp [up]
theorem up_d (S : St) (k : Nat) (e x j : Int) (h : j ≠ e) : up S k e x k j = S k j := by simp [up, h]
theorem up_n (S : St) (k k' : Nat) (e x : Int) (h : k' ≠ k) : up S k e x k' = S k' := by funext j; simp [up, h]
abbrev vwCl : List vw_C := [(RX0, TX0, 16), (RX1, TX1, 7)]
def wX (h : Nat) (ad : Nat → Nat) (d : ClassId) (S : St) : va_W := [(h, .inr (0, [.ref (ad 0), .int (iI (S 1 0)), .ref (ad 2), .ref (ad 3), .ref (ad 4), .int (iI (S 5 0)), .int (iI (S 6 0)), .ref (ad 7), .ref (ad 8), .ref (ad 9), .ref (ad 10), .ref (ad 11), .ref (ad 12), .int (iI (S 13 0)), .int (iI (S 14 0)), .ref (ad 15)])), (ad 0, .inl (d, 18, .inl (fun j => iI (S 0 j)))), (ad 2, .inl (d, 8, .inl (fun j => iI (S 2 j)))), (ad 3, .inl (d, 8, .inl (fun j => iI (S 3 j)))), (ad 4, .inl (d, 72, .inl (fun j => iI (S 4 j)))), (ad 7, .inl (d, 18, .inl (fun j => iI (S 7 j)))), (ad 8, .inl (d, 72, .inl (fun j => iI (S 8 j)))), (ad 9, .inl (d, 6, .inl (fun j => iI (S 9 j)))), (ad 10, .inl (d, 6, .inl (fun j => iI (S 10 j)))), (ad 11, .inl (d, 7, .inl (fun j => iI (S 11 j)))), (ad 12, .inl (d, 6, .inl (fun j => iI (S 12 j)))), (ad 15, .inl (d, 6, .inl (fun j => iI (S 15 j))))]
def wM (h : Nat) (ad : Nat → Nat) (d : ClassId) (S : St) : va_W := [(h, .inr (1, [.ref (ad 0), .ref (ad 1), .ref (ad 2), .ref (ad 3), .int (iI (S 4 0)), .ref (ad 5), .int (iI (S 6 0))])), (ad 0, .inl (d, 18, .inl (fun j => iI (S 0 j)))), (ad 1, .inl (d, 8, .inl (fun j => iI (S 1 j)))), (ad 2, .inl (d, 8, .inl (fun j => iI (S 2 j)))), (ad 3, .inl (d, 72, .inl (fun j => iI (S 3 j)))), (ad 5, .inl (d, 729, .inl (fun j => iI (S 5 j))))]
def GW (D : va_G) (A : Nat → Prop) (s : State) (H : Heap) (locs : List Loc) (d : ClassId) (w : va_W) : Prop := va_K D vwCl [(d, .int)] s ∧ va_P D vwCl w H ∧ va_D A w ∧ va_S A s.heap H locs ∧ ∀ q : Nat, s.heap.size ≤ q → A q
/-- a store into an array of a state -/
theorem up_arr (S : St) (k : Nat) {e : Int} (x : Int) (h0 : 0 ≤ e) (h : e ≤ 2147483647) : upd (fun j : Nat => iI (S k j)) (iI e).toNatClampNeg (iI x) = fun j : Nat => iI (up S k e x k j) := by
  funext j
  rw [iI_c h0 h, up_s]
  unfold upd
  by_cases hj : j = e.toNat
  · rw [if_pos hj, if_pos (by omega)]
  · rw [if_neg hj, if_neg (by omega)]
theorem rd_arr (S : St) (k : Nat) {e : Int} (h0 : 0 ≤ e) (h : e ≤ 2147483647) : iI (S k ((iI e).toNatClampNeg : Int)) = iI (S k e) := by
  rw [iI_c h0 h, Int.toNat_of_nonneg h0]
theorem x_set_0 (h : Nat) (ad : Nat → Nat) (d : ClassId) (S : St) {e : Int} (x : Int) (h0 : 0 ≤ e) (h1 : e ≤ 2147483647) : (wX h ad d S).set 1 (ad 0, .inl (d, 18, .inl (upd (fun j => iI (S 0 j)) (iI e).toNatClampNeg (iI x)))) = wX h ad d (up S 0 e x) := by
  rw [up_arr S 0 x h0 h1]
  rfl
theorem x_set_1 (h : Nat) (ad : Nat → Nat) (d : ClassId) (S : St) (x : Int) : (wX h ad d S).set 0 (h, .inr (0, ([.ref (ad 0), .int (iI (S 1 0)), .ref (ad 2), .ref (ad 3), .ref (ad 4), .int (iI (S 5 0)), .int (iI (S 6 0)), .ref (ad 7), .ref (ad 8), .ref (ad 9), .ref (ad 10), .ref (ad 11), .ref (ad 12), .int (iI (S 13 0)), .int (iI (S 14 0)), .ref (ad 15)] : List Value).set 1 (.int (iI x)))) = wX h ad d (up S 1 0 x) := by
  have e0 : up S 1 0 x 1 0 = x := up_e S 1 0 x
  unfold wX
  rw [e0]
  rfl
theorem x_set_2 (h : Nat) (ad : Nat → Nat) (d : ClassId) (S : St) {e : Int} (x : Int) (h0 : 0 ≤ e) (h1 : e ≤ 2147483647) : (wX h ad d S).set 2 (ad 2, .inl (d, 8, .inl (upd (fun j => iI (S 2 j)) (iI e).toNatClampNeg (iI x)))) = wX h ad d (up S 2 e x) := by
  rw [up_arr S 2 x h0 h1]
  rfl
theorem x_set_3 (h : Nat) (ad : Nat → Nat) (d : ClassId) (S : St) {e : Int} (x : Int) (h0 : 0 ≤ e) (h1 : e ≤ 2147483647) : (wX h ad d S).set 3 (ad 3, .inl (d, 8, .inl (upd (fun j => iI (S 3 j)) (iI e).toNatClampNeg (iI x)))) = wX h ad d (up S 3 e x) := by
  rw [up_arr S 3 x h0 h1]
  rfl
theorem x_set_4 (h : Nat) (ad : Nat → Nat) (d : ClassId) (S : St) {e : Int} (x : Int) (h0 : 0 ≤ e) (h1 : e ≤ 2147483647) : (wX h ad d S).set 4 (ad 4, .inl (d, 72, .inl (upd (fun j => iI (S 4 j)) (iI e).toNatClampNeg (iI x)))) = wX h ad d (up S 4 e x) := by
  rw [up_arr S 4 x h0 h1]
  rfl
theorem x_set_5 (h : Nat) (ad : Nat → Nat) (d : ClassId) (S : St) (x : Int) : (wX h ad d S).set 0 (h, .inr (0, ([.ref (ad 0), .int (iI (S 1 0)), .ref (ad 2), .ref (ad 3), .ref (ad 4), .int (iI (S 5 0)), .int (iI (S 6 0)), .ref (ad 7), .ref (ad 8), .ref (ad 9), .ref (ad 10), .ref (ad 11), .ref (ad 12), .int (iI (S 13 0)), .int (iI (S 14 0)), .ref (ad 15)] : List Value).set 5 (.int (iI x)))) = wX h ad d (up S 5 0 x) := by
  have e0 : up S 5 0 x 5 0 = x := up_e S 5 0 x
  unfold wX
  rw [e0]
  rfl
theorem x_set_6 (h : Nat) (ad : Nat → Nat) (d : ClassId) (S : St) (x : Int) : (wX h ad d S).set 0 (h, .inr (0, ([.ref (ad 0), .int (iI (S 1 0)), .ref (ad 2), .ref (ad 3), .ref (ad 4), .int (iI (S 5 0)), .int (iI (S 6 0)), .ref (ad 7), .ref (ad 8), .ref (ad 9), .ref (ad 10), .ref (ad 11), .ref (ad 12), .int (iI (S 13 0)), .int (iI (S 14 0)), .ref (ad 15)] : List Value).set 6 (.int (iI x)))) = wX h ad d (up S 6 0 x) := by
  have e0 : up S 6 0 x 6 0 = x := up_e S 6 0 x
  unfold wX
  rw [e0]
  rfl
theorem x_set_7 (h : Nat) (ad : Nat → Nat) (d : ClassId) (S : St) {e : Int} (x : Int) (h0 : 0 ≤ e) (h1 : e ≤ 2147483647) : (wX h ad d S).set 5 (ad 7, .inl (d, 18, .inl (upd (fun j => iI (S 7 j)) (iI e).toNatClampNeg (iI x)))) = wX h ad d (up S 7 e x) := by
  rw [up_arr S 7 x h0 h1]
  rfl
theorem x_set_8 (h : Nat) (ad : Nat → Nat) (d : ClassId) (S : St) {e : Int} (x : Int) (h0 : 0 ≤ e) (h1 : e ≤ 2147483647) : (wX h ad d S).set 6 (ad 8, .inl (d, 72, .inl (upd (fun j => iI (S 8 j)) (iI e).toNatClampNeg (iI x)))) = wX h ad d (up S 8 e x) := by
  rw [up_arr S 8 x h0 h1]
  rfl
theorem x_set_9 (h : Nat) (ad : Nat → Nat) (d : ClassId) (S : St) {e : Int} (x : Int) (h0 : 0 ≤ e) (h1 : e ≤ 2147483647) : (wX h ad d S).set 7 (ad 9, .inl (d, 6, .inl (upd (fun j => iI (S 9 j)) (iI e).toNatClampNeg (iI x)))) = wX h ad d (up S 9 e x) := by
  rw [up_arr S 9 x h0 h1]
  rfl
theorem x_set_10 (h : Nat) (ad : Nat → Nat) (d : ClassId) (S : St) {e : Int} (x : Int) (h0 : 0 ≤ e) (h1 : e ≤ 2147483647) : (wX h ad d S).set 8 (ad 10, .inl (d, 6, .inl (upd (fun j => iI (S 10 j)) (iI e).toNatClampNeg (iI x)))) = wX h ad d (up S 10 e x) := by
  rw [up_arr S 10 x h0 h1]
  rfl
theorem x_set_11 (h : Nat) (ad : Nat → Nat) (d : ClassId) (S : St) {e : Int} (x : Int) (h0 : 0 ≤ e) (h1 : e ≤ 2147483647) : (wX h ad d S).set 9 (ad 11, .inl (d, 7, .inl (upd (fun j => iI (S 11 j)) (iI e).toNatClampNeg (iI x)))) = wX h ad d (up S 11 e x) := by
  rw [up_arr S 11 x h0 h1]
  rfl
theorem x_set_12 (h : Nat) (ad : Nat → Nat) (d : ClassId) (S : St) {e : Int} (x : Int) (h0 : 0 ≤ e) (h1 : e ≤ 2147483647) : (wX h ad d S).set 10 (ad 12, .inl (d, 6, .inl (upd (fun j => iI (S 12 j)) (iI e).toNatClampNeg (iI x)))) = wX h ad d (up S 12 e x) := by
  rw [up_arr S 12 x h0 h1]
  rfl
theorem x_set_13 (h : Nat) (ad : Nat → Nat) (d : ClassId) (S : St) (x : Int) : (wX h ad d S).set 0 (h, .inr (0, ([.ref (ad 0), .int (iI (S 1 0)), .ref (ad 2), .ref (ad 3), .ref (ad 4), .int (iI (S 5 0)), .int (iI (S 6 0)), .ref (ad 7), .ref (ad 8), .ref (ad 9), .ref (ad 10), .ref (ad 11), .ref (ad 12), .int (iI (S 13 0)), .int (iI (S 14 0)), .ref (ad 15)] : List Value).set 13 (.int (iI x)))) = wX h ad d (up S 13 0 x) := by
  have e0 : up S 13 0 x 13 0 = x := up_e S 13 0 x
  unfold wX
  rw [e0]
  rfl
theorem x_set_14 (h : Nat) (ad : Nat → Nat) (d : ClassId) (S : St) (x : Int) : (wX h ad d S).set 0 (h, .inr (0, ([.ref (ad 0), .int (iI (S 1 0)), .ref (ad 2), .ref (ad 3), .ref (ad 4), .int (iI (S 5 0)), .int (iI (S 6 0)), .ref (ad 7), .ref (ad 8), .ref (ad 9), .ref (ad 10), .ref (ad 11), .ref (ad 12), .int (iI (S 13 0)), .int (iI (S 14 0)), .ref (ad 15)] : List Value).set 14 (.int (iI x)))) = wX h ad d (up S 14 0 x) := by
  have e0 : up S 14 0 x 14 0 = x := up_e S 14 0 x
  unfold wX
  rw [e0]
  rfl
theorem x_set_15 (h : Nat) (ad : Nat → Nat) (d : ClassId) (S : St) {e : Int} (x : Int) (h0 : 0 ≤ e) (h1 : e ≤ 2147483647) : (wX h ad d S).set 11 (ad 15, .inl (d, 6, .inl (upd (fun j => iI (S 15 j)) (iI e).toNatClampNeg (iI x)))) = wX h ad d (up S 15 e x) := by
  rw [up_arr S 15 x h0 h1]
  rfl
theorem m_set_0 (h : Nat) (ad : Nat → Nat) (d : ClassId) (S : St) {e : Int} (x : Int) (h0 : 0 ≤ e) (h1 : e ≤ 2147483647) : (wM h ad d S).set 1 (ad 0, .inl (d, 18, .inl (upd (fun j => iI (S 0 j)) (iI e).toNatClampNeg (iI x)))) = wM h ad d (up S 0 e x) := by
  rw [up_arr S 0 x h0 h1]
  rfl
theorem m_set_1 (h : Nat) (ad : Nat → Nat) (d : ClassId) (S : St) {e : Int} (x : Int) (h0 : 0 ≤ e) (h1 : e ≤ 2147483647) : (wM h ad d S).set 2 (ad 1, .inl (d, 8, .inl (upd (fun j => iI (S 1 j)) (iI e).toNatClampNeg (iI x)))) = wM h ad d (up S 1 e x) := by
  rw [up_arr S 1 x h0 h1]
  rfl
theorem m_set_2 (h : Nat) (ad : Nat → Nat) (d : ClassId) (S : St) {e : Int} (x : Int) (h0 : 0 ≤ e) (h1 : e ≤ 2147483647) : (wM h ad d S).set 3 (ad 2, .inl (d, 8, .inl (upd (fun j => iI (S 2 j)) (iI e).toNatClampNeg (iI x)))) = wM h ad d (up S 2 e x) := by
  rw [up_arr S 2 x h0 h1]
  rfl
theorem m_set_3 (h : Nat) (ad : Nat → Nat) (d : ClassId) (S : St) {e : Int} (x : Int) (h0 : 0 ≤ e) (h1 : e ≤ 2147483647) : (wM h ad d S).set 4 (ad 3, .inl (d, 72, .inl (upd (fun j => iI (S 3 j)) (iI e).toNatClampNeg (iI x)))) = wM h ad d (up S 3 e x) := by
  rw [up_arr S 3 x h0 h1]
  rfl
theorem m_set_4 (h : Nat) (ad : Nat → Nat) (d : ClassId) (S : St) (x : Int) : (wM h ad d S).set 0 (h, .inr (1, ([.ref (ad 0), .ref (ad 1), .ref (ad 2), .ref (ad 3), .int (iI (S 4 0)), .ref (ad 5), .int (iI (S 6 0))] : List Value).set 4 (.int (iI x)))) = wM h ad d (up S 4 0 x) := by
  have e0 : up S 4 0 x 4 0 = x := up_e S 4 0 x
  unfold wM
  rw [e0]
  rfl
theorem m_set_5 (h : Nat) (ad : Nat → Nat) (d : ClassId) (S : St) {e : Int} (x : Int) (h0 : 0 ≤ e) (h1 : e ≤ 2147483647) : (wM h ad d S).set 5 (ad 5, .inl (d, 729, .inl (upd (fun j => iI (S 5 j)) (iI e).toNatClampNeg (iI x)))) = wM h ad d (up S 5 e x) := by
  rw [up_arr S 5 x h0 h1]
  rfl
theorem m_set_6 (h : Nat) (ad : Nat → Nat) (d : ClassId) (S : St) (x : Int) : (wM h ad d S).set 0 (h, .inr (1, ([.ref (ad 0), .ref (ad 1), .ref (ad 2), .ref (ad 3), .int (iI (S 4 0)), .ref (ad 5), .int (iI (S 6 0))] : List Value).set 6 (.int (iI x)))) = wM h ad d (up S 6 0 x) := by
  have e0 : up S 6 0 x 6 0 = x := up_e S 6 0 x
  unfold wM
  rw [e0]
  rfl
section XR
variable {p : Program} {l : Launch} {e : Env} {R : Room} {s : State} {m : MethodId} {args : Array Value} {below : List Frame} {meth : Method} {c : Code} {H : Heap} {locs : List Loc} {cells slots : Nat} {Q : State → Prop}
variable {cc : ByteArray} {pc nL : Nat} {ls : Array Slot} {rest : List Value} {D : va_G} {A : Nat → Prop} {d : ClassId} {h : Nat} {ad : Nat → Nat} {S : St}
theorem x_get_0 (C : CallFix p m c cc nL s args lw_all RX0) (Z : GW D A s H locs d (wX h ad d S)) (hd : decode cc pc = .ok (.getfield 7, 3)) (k : W p l e R s m args below meth c H locs cells slots Q (F0 m (pc + 3) ls (.ref (ad 0) :: rest))) : W p l e R s m args below meth c H locs cells slots Q (F0 m pc ls (.ref h :: rest)) := va_get (D := D) (ci := 0) (v := .ref (ad 0)) (C := RX0) (T := TX0) (N := 16) C.1 C.2.1 C.2.2.2.2 in_X0 C.2.2.2.1 Z.1 Z.2.1 0 rfl rfl 0 (by decide) (C.2.2.2.2 _ q29) (fun _ h9 => h9) rfl hd k
theorem x_ald_0 (C : CallFix p m c cc nL s args lw_all RX0) (Z : GW D A s H locs d (wX h ad d S)) {e0 : Int} (h0 : 0 ≤ e0) (h1 : e0 < 18) (hd : decode cc pc = .ok (.iaload, 1)) (k : W p l e R s m args below meth c H locs cells slots Q (F0 m (pc + 1) ls (.int (iI (S 0 e0)) :: rest))) : W p l e R s m args below meth c H locs cells slots Q (F0 m pc ls (.int (iI e0) :: .ref (ad 0) :: rest)) := va_iald C.1 C.2.1 Z.1 Z.2.1 1 0 rfl rfl (iI_in h0 h1 (by decide)) hd (by rw [rd_arr S 0 h0 (by omega)]; exact k)
theorem x_ast_0 (C : CallFix p m c cc nL s args lw_all RX0) (Z : GW D A s H locs d (wX h ad d S)) {e0 x : Int} (h0 : 0 ≤ e0) (h1 : e0 < 18) (hd : decode cc pc = .ok (.iastore, 1)) (kk : ∀ (S1 : St) (H1 : Heap) (locs1 : List Loc), S1 = up S 0 e0 x → GW D A s H1 locs1 d (wX h ad d S1) → W p l e R s m args below meth c H1 locs1 cells slots Q (F0 m (pc + 1) ls rest)) : W p l e R s m args below meth c H locs cells slots Q (F0 m pc ls (.int (iI x) :: .int (iI e0) :: .ref (ad 0) :: rest)) := by
  refine va_iast C.1 C.2.1 Z.1 Z.2.1 Z.2.2.1 Z.2.2.2.1 1 0 rfl rfl (iI_in h0 h1 (by decide)) hd (fun H1 locs1 hP hD hS => ?_)
  rw [x_set_0 h ad d S x h0 (by omega)] at hP hD
  exact kk _ H1 locs1 rfl ⟨Z.1, hP, hD, hS, Z.2.2.2.2⟩
theorem x_get_1 (C : CallFix p m c cc nL s args lw_all RX0) (Z : GW D A s H locs d (wX h ad d S)) (hd : decode cc pc = .ok (.getfield 54, 3)) (k : W p l e R s m args below meth c H locs cells slots Q (F0 m (pc + 3) ls (.int (iI (S 1 0)) :: rest))) : W p l e R s m args below meth c H locs cells slots Q (F0 m pc ls (.ref h :: rest)) := va_get (D := D) (ci := 0) (v := .int (iI (S 1 0))) (C := RX0) (T := TX0) (N := 16) C.1 C.2.1 C.2.2.2.2 in_X0 C.2.2.2.1 Z.1 Z.2.1 0 rfl rfl 1 (by decide) (C.2.2.2.2 _ q30) (fun _ h9 => h9) rfl hd k
theorem x_put_1 (C : CallFix p m c cc nL s args lw_all RX0) (Z : GW D A s H locs d (wX h ad d S)) {x : Int} (hd : decode cc pc = .ok (.putfield 54, 3)) (kk : ∀ (S1 : St) (H1 : Heap) (locs1 : List Loc), S1 = up S 1 0 x → GW D A s H1 locs1 d (wX h ad d S1) → W p l e R s m args below meth c H1 locs1 cells slots Q (F0 m (pc + 3) ls rest)) : W p l e R s m args below meth c H locs cells slots Q (F0 m pc ls (.int (iI x) :: .ref h :: rest)) := by
  refine va_put (D := D) (ci := 0) (v := .int (iI x)) (ty := .int) (C := RX0) (T := TX0) (N := 16) C.1 C.2.1 C.2.2.2.2 in_X0 tyX0 tyX0_ok nmX0 C.2.2.2.1 Z.1 Z.2.1 Z.2.2.1 Z.2.2.2.1 0 rfl rfl 1 (by decide) (C.2.2.2.2 _ q30) (fun _ h9 => h9) rfl (by decide +kernel) rfl rfl (Nat.le_of_ble_eq_true rfl) hd (fun H1 locs1 hP hD hS => ?_)
  rw [x_set_1 h ad d S x] at hP hD
  exact kk _ H1 locs1 rfl ⟨Z.1, hP, hD, hS, Z.2.2.2.2⟩
theorem x_get_2 (C : CallFix p m c cc nL s args lw_all RX0) (Z : GW D A s H locs d (wX h ad d S)) (hd : decode cc pc = .ok (.getfield 13, 3)) (k : W p l e R s m args below meth c H locs cells slots Q (F0 m (pc + 3) ls (.ref (ad 2) :: rest))) : W p l e R s m args below meth c H locs cells slots Q (F0 m pc ls (.ref h :: rest)) := va_get (D := D) (ci := 0) (v := .ref (ad 2)) (C := RX0) (T := TX0) (N := 16) C.1 C.2.1 C.2.2.2.2 in_X0 C.2.2.2.1 Z.1 Z.2.1 0 rfl rfl 2 (by decide) (C.2.2.2.2 _ q31) (fun _ h9 => h9) rfl hd k
theorem x_ald_2 (C : CallFix p m c cc nL s args lw_all RX0) (Z : GW D A s H locs d (wX h ad d S)) {e0 : Int} (h0 : 0 ≤ e0) (h1 : e0 < 8) (hd : decode cc pc = .ok (.iaload, 1)) (k : W p l e R s m args below meth c H locs cells slots Q (F0 m (pc + 1) ls (.int (iI (S 2 e0)) :: rest))) : W p l e R s m args below meth c H locs cells slots Q (F0 m pc ls (.int (iI e0) :: .ref (ad 2) :: rest)) := va_iald C.1 C.2.1 Z.1 Z.2.1 2 0 rfl rfl (iI_in h0 h1 (by decide)) hd (by rw [rd_arr S 2 h0 (by omega)]; exact k)
theorem x_ast_2 (C : CallFix p m c cc nL s args lw_all RX0) (Z : GW D A s H locs d (wX h ad d S)) {e0 x : Int} (h0 : 0 ≤ e0) (h1 : e0 < 8) (hd : decode cc pc = .ok (.iastore, 1)) (kk : ∀ (S1 : St) (H1 : Heap) (locs1 : List Loc), S1 = up S 2 e0 x → GW D A s H1 locs1 d (wX h ad d S1) → W p l e R s m args below meth c H1 locs1 cells slots Q (F0 m (pc + 1) ls rest)) : W p l e R s m args below meth c H locs cells slots Q (F0 m pc ls (.int (iI x) :: .int (iI e0) :: .ref (ad 2) :: rest)) := by
  refine va_iast C.1 C.2.1 Z.1 Z.2.1 Z.2.2.1 Z.2.2.2.1 2 0 rfl rfl (iI_in h0 h1 (by decide)) hd (fun H1 locs1 hP hD hS => ?_)
  rw [x_set_2 h ad d S x h0 (by omega)] at hP hD
  exact kk _ H1 locs1 rfl ⟨Z.1, hP, hD, hS, Z.2.2.2.2⟩
theorem x_get_3 (C : CallFix p m c cc nL s args lw_all RX0) (Z : GW D A s H locs d (wX h ad d S)) (hd : decode cc pc = .ok (.getfield 16, 3)) (k : W p l e R s m args below meth c H locs cells slots Q (F0 m (pc + 3) ls (.ref (ad 3) :: rest))) : W p l e R s m args below meth c H locs cells slots Q (F0 m pc ls (.ref h :: rest)) := va_get (D := D) (ci := 0) (v := .ref (ad 3)) (C := RX0) (T := TX0) (N := 16) C.1 C.2.1 C.2.2.2.2 in_X0 C.2.2.2.1 Z.1 Z.2.1 0 rfl rfl 3 (by decide) (C.2.2.2.2 _ q32) (fun _ h9 => h9) rfl hd k
theorem x_ald_3 (C : CallFix p m c cc nL s args lw_all RX0) (Z : GW D A s H locs d (wX h ad d S)) {e0 : Int} (h0 : 0 ≤ e0) (h1 : e0 < 8) (hd : decode cc pc = .ok (.iaload, 1)) (k : W p l e R s m args below meth c H locs cells slots Q (F0 m (pc + 1) ls (.int (iI (S 3 e0)) :: rest))) : W p l e R s m args below meth c H locs cells slots Q (F0 m pc ls (.int (iI e0) :: .ref (ad 3) :: rest)) := va_iald C.1 C.2.1 Z.1 Z.2.1 3 0 rfl rfl (iI_in h0 h1 (by decide)) hd (by rw [rd_arr S 3 h0 (by omega)]; exact k)
theorem x_ast_3 (C : CallFix p m c cc nL s args lw_all RX0) (Z : GW D A s H locs d (wX h ad d S)) {e0 x : Int} (h0 : 0 ≤ e0) (h1 : e0 < 8) (hd : decode cc pc = .ok (.iastore, 1)) (kk : ∀ (S1 : St) (H1 : Heap) (locs1 : List Loc), S1 = up S 3 e0 x → GW D A s H1 locs1 d (wX h ad d S1) → W p l e R s m args below meth c H1 locs1 cells slots Q (F0 m (pc + 1) ls rest)) : W p l e R s m args below meth c H locs cells slots Q (F0 m pc ls (.int (iI x) :: .int (iI e0) :: .ref (ad 3) :: rest)) := by
  refine va_iast C.1 C.2.1 Z.1 Z.2.1 Z.2.2.1 Z.2.2.2.1 3 0 rfl rfl (iI_in h0 h1 (by decide)) hd (fun H1 locs1 hP hD hS => ?_)
  rw [x_set_3 h ad d S x h0 (by omega)] at hP hD
  exact kk _ H1 locs1 rfl ⟨Z.1, hP, hD, hS, Z.2.2.2.2⟩
theorem x_get_4 (C : CallFix p m c cc nL s args lw_all RX0) (Z : GW D A s H locs d (wX h ad d S)) (hd : decode cc pc = .ok (.getfield 19, 3)) (k : W p l e R s m args below meth c H locs cells slots Q (F0 m (pc + 3) ls (.ref (ad 4) :: rest))) : W p l e R s m args below meth c H locs cells slots Q (F0 m pc ls (.ref h :: rest)) := va_get (D := D) (ci := 0) (v := .ref (ad 4)) (C := RX0) (T := TX0) (N := 16) C.1 C.2.1 C.2.2.2.2 in_X0 C.2.2.2.1 Z.1 Z.2.1 0 rfl rfl 4 (by decide) (C.2.2.2.2 _ q33) (fun _ h9 => h9) rfl hd k
theorem x_ald_4 (C : CallFix p m c cc nL s args lw_all RX0) (Z : GW D A s H locs d (wX h ad d S)) {e0 : Int} (h0 : 0 ≤ e0) (h1 : e0 < 72) (hd : decode cc pc = .ok (.iaload, 1)) (k : W p l e R s m args below meth c H locs cells slots Q (F0 m (pc + 1) ls (.int (iI (S 4 e0)) :: rest))) : W p l e R s m args below meth c H locs cells slots Q (F0 m pc ls (.int (iI e0) :: .ref (ad 4) :: rest)) := va_iald C.1 C.2.1 Z.1 Z.2.1 4 0 rfl rfl (iI_in h0 h1 (by decide)) hd (by rw [rd_arr S 4 h0 (by omega)]; exact k)
theorem x_ast_4 (C : CallFix p m c cc nL s args lw_all RX0) (Z : GW D A s H locs d (wX h ad d S)) {e0 x : Int} (h0 : 0 ≤ e0) (h1 : e0 < 72) (hd : decode cc pc = .ok (.iastore, 1)) (kk : ∀ (S1 : St) (H1 : Heap) (locs1 : List Loc), S1 = up S 4 e0 x → GW D A s H1 locs1 d (wX h ad d S1) → W p l e R s m args below meth c H1 locs1 cells slots Q (F0 m (pc + 1) ls rest)) : W p l e R s m args below meth c H locs cells slots Q (F0 m pc ls (.int (iI x) :: .int (iI e0) :: .ref (ad 4) :: rest)) := by
  refine va_iast C.1 C.2.1 Z.1 Z.2.1 Z.2.2.1 Z.2.2.2.1 4 0 rfl rfl (iI_in h0 h1 (by decide)) hd (fun H1 locs1 hP hD hS => ?_)
  rw [x_set_4 h ad d S x h0 (by omega)] at hP hD
  exact kk _ H1 locs1 rfl ⟨Z.1, hP, hD, hS, Z.2.2.2.2⟩
theorem x_get_5 (C : CallFix p m c cc nL s args lw_all RX0) (Z : GW D A s H locs d (wX h ad d S)) (hd : decode cc pc = .ok (.getfield 43, 3)) (k : W p l e R s m args below meth c H locs cells slots Q (F0 m (pc + 3) ls (.int (iI (S 5 0)) :: rest))) : W p l e R s m args below meth c H locs cells slots Q (F0 m pc ls (.ref h :: rest)) := va_get (D := D) (ci := 0) (v := .int (iI (S 5 0))) (C := RX0) (T := TX0) (N := 16) C.1 C.2.1 C.2.2.2.2 in_X0 C.2.2.2.1 Z.1 Z.2.1 0 rfl rfl 5 (by decide) (C.2.2.2.2 _ q34) (fun _ h9 => h9) rfl hd k
theorem x_put_5 (C : CallFix p m c cc nL s args lw_all RX0) (Z : GW D A s H locs d (wX h ad d S)) {x : Int} (hz : x = 0 ∨ x = 1) (hd : decode cc pc = .ok (.putfield 43, 3)) (kk : ∀ (S1 : St) (H1 : Heap) (locs1 : List Loc), S1 = up S 5 0 x → GW D A s H1 locs1 d (wX h ad d S1) → W p l e R s m args below meth c H1 locs1 cells slots Q (F0 m (pc + 3) ls rest)) : W p l e R s m args below meth c H locs cells slots Q (F0 m pc ls (.int (iI x) :: .ref h :: rest)) := by
  refine va_put (D := D) (ci := 0) (v := .int (iI x)) (ty := .boolean) (C := RX0) (T := TX0) (N := 16) C.1 C.2.1 C.2.2.2.2 in_X0 tyX0 tyX0_ok nmX0 C.2.2.2.1 Z.1 Z.2.1 Z.2.2.1 Z.2.2.2.1 0 rfl rfl 5 (by decide) (C.2.2.2.2 _ q34) (fun _ h9 => h9) rfl (by decide +kernel) (iI_z hz).1 (iI_z hz).2 (Nat.le_of_ble_eq_true rfl) hd (fun H1 locs1 hP hD hS => ?_)
  rw [x_set_5 h ad d S x] at hP hD
  exact kk _ H1 locs1 rfl ⟨Z.1, hP, hD, hS, Z.2.2.2.2⟩
theorem x_get_6 (C : CallFix p m c cc nL s args lw_all RX0) (Z : GW D A s H locs d (wX h ad d S)) (hd : decode cc pc = .ok (.getfield 71, 3)) (k : W p l e R s m args below meth c H locs cells slots Q (F0 m (pc + 3) ls (.int (iI (S 6 0)) :: rest))) : W p l e R s m args below meth c H locs cells slots Q (F0 m pc ls (.ref h :: rest)) := va_get (D := D) (ci := 0) (v := .int (iI (S 6 0))) (C := RX0) (T := TX0) (N := 16) C.1 C.2.1 C.2.2.2.2 in_X0 C.2.2.2.1 Z.1 Z.2.1 0 rfl rfl 6 (by decide) (C.2.2.2.2 _ q35) (fun _ h9 => h9) rfl hd k
theorem x_put_6 (C : CallFix p m c cc nL s args lw_all RX0) (Z : GW D A s H locs d (wX h ad d S)) {x : Int} (hd : decode cc pc = .ok (.putfield 71, 3)) (kk : ∀ (S1 : St) (H1 : Heap) (locs1 : List Loc), S1 = up S 6 0 x → GW D A s H1 locs1 d (wX h ad d S1) → W p l e R s m args below meth c H1 locs1 cells slots Q (F0 m (pc + 3) ls rest)) : W p l e R s m args below meth c H locs cells slots Q (F0 m pc ls (.int (iI x) :: .ref h :: rest)) := by
  refine va_put (D := D) (ci := 0) (v := .int (iI x)) (ty := .int) (C := RX0) (T := TX0) (N := 16) C.1 C.2.1 C.2.2.2.2 in_X0 tyX0 tyX0_ok nmX0 C.2.2.2.1 Z.1 Z.2.1 Z.2.2.1 Z.2.2.2.1 0 rfl rfl 6 (by decide) (C.2.2.2.2 _ q35) (fun _ h9 => h9) rfl (by decide +kernel) rfl rfl (Nat.le_of_ble_eq_true rfl) hd (fun H1 locs1 hP hD hS => ?_)
  rw [x_set_6 h ad d S x] at hP hD
  exact kk _ H1 locs1 rfl ⟨Z.1, hP, hD, hS, Z.2.2.2.2⟩
theorem x_get_7 (C : CallFix p m c cc nL s args lw_all RX0) (Z : GW D A s H locs d (wX h ad d S)) (hd : decode cc pc = .ok (.getfield 22, 3)) (k : W p l e R s m args below meth c H locs cells slots Q (F0 m (pc + 3) ls (.ref (ad 7) :: rest))) : W p l e R s m args below meth c H locs cells slots Q (F0 m pc ls (.ref h :: rest)) := va_get (D := D) (ci := 0) (v := .ref (ad 7)) (C := RX0) (T := TX0) (N := 16) C.1 C.2.1 C.2.2.2.2 in_X0 C.2.2.2.1 Z.1 Z.2.1 0 rfl rfl 7 (by decide) (C.2.2.2.2 _ q36) (fun _ h9 => h9) rfl hd k
theorem x_ald_7 (C : CallFix p m c cc nL s args lw_all RX0) (Z : GW D A s H locs d (wX h ad d S)) {e0 : Int} (h0 : 0 ≤ e0) (h1 : e0 < 18) (hd : decode cc pc = .ok (.iaload, 1)) (k : W p l e R s m args below meth c H locs cells slots Q (F0 m (pc + 1) ls (.int (iI (S 7 e0)) :: rest))) : W p l e R s m args below meth c H locs cells slots Q (F0 m pc ls (.int (iI e0) :: .ref (ad 7) :: rest)) := va_iald C.1 C.2.1 Z.1 Z.2.1 5 0 rfl rfl (iI_in h0 h1 (by decide)) hd (by rw [rd_arr S 7 h0 (by omega)]; exact k)
theorem x_ast_7 (C : CallFix p m c cc nL s args lw_all RX0) (Z : GW D A s H locs d (wX h ad d S)) {e0 x : Int} (h0 : 0 ≤ e0) (h1 : e0 < 18) (hd : decode cc pc = .ok (.iastore, 1)) (kk : ∀ (S1 : St) (H1 : Heap) (locs1 : List Loc), S1 = up S 7 e0 x → GW D A s H1 locs1 d (wX h ad d S1) → W p l e R s m args below meth c H1 locs1 cells slots Q (F0 m (pc + 1) ls rest)) : W p l e R s m args below meth c H locs cells slots Q (F0 m pc ls (.int (iI x) :: .int (iI e0) :: .ref (ad 7) :: rest)) := by
  refine va_iast C.1 C.2.1 Z.1 Z.2.1 Z.2.2.1 Z.2.2.2.1 5 0 rfl rfl (iI_in h0 h1 (by decide)) hd (fun H1 locs1 hP hD hS => ?_)
  rw [x_set_7 h ad d S x h0 (by omega)] at hP hD
  exact kk _ H1 locs1 rfl ⟨Z.1, hP, hD, hS, Z.2.2.2.2⟩
theorem x_get_8 (C : CallFix p m c cc nL s args lw_all RX0) (Z : GW D A s H locs d (wX h ad d S)) (hd : decode cc pc = .ok (.getfield 25, 3)) (k : W p l e R s m args below meth c H locs cells slots Q (F0 m (pc + 3) ls (.ref (ad 8) :: rest))) : W p l e R s m args below meth c H locs cells slots Q (F0 m pc ls (.ref h :: rest)) := va_get (D := D) (ci := 0) (v := .ref (ad 8)) (C := RX0) (T := TX0) (N := 16) C.1 C.2.1 C.2.2.2.2 in_X0 C.2.2.2.1 Z.1 Z.2.1 0 rfl rfl 8 (by decide) (C.2.2.2.2 _ q37) (fun _ h9 => h9) rfl hd k
theorem x_ald_8 (C : CallFix p m c cc nL s args lw_all RX0) (Z : GW D A s H locs d (wX h ad d S)) {e0 : Int} (h0 : 0 ≤ e0) (h1 : e0 < 72) (hd : decode cc pc = .ok (.iaload, 1)) (k : W p l e R s m args below meth c H locs cells slots Q (F0 m (pc + 1) ls (.int (iI (S 8 e0)) :: rest))) : W p l e R s m args below meth c H locs cells slots Q (F0 m pc ls (.int (iI e0) :: .ref (ad 8) :: rest)) := va_iald C.1 C.2.1 Z.1 Z.2.1 6 0 rfl rfl (iI_in h0 h1 (by decide)) hd (by rw [rd_arr S 8 h0 (by omega)]; exact k)
theorem x_ast_8 (C : CallFix p m c cc nL s args lw_all RX0) (Z : GW D A s H locs d (wX h ad d S)) {e0 x : Int} (h0 : 0 ≤ e0) (h1 : e0 < 72) (hd : decode cc pc = .ok (.iastore, 1)) (kk : ∀ (S1 : St) (H1 : Heap) (locs1 : List Loc), S1 = up S 8 e0 x → GW D A s H1 locs1 d (wX h ad d S1) → W p l e R s m args below meth c H1 locs1 cells slots Q (F0 m (pc + 1) ls rest)) : W p l e R s m args below meth c H locs cells slots Q (F0 m pc ls (.int (iI x) :: .int (iI e0) :: .ref (ad 8) :: rest)) := by
  refine va_iast C.1 C.2.1 Z.1 Z.2.1 Z.2.2.1 Z.2.2.2.1 6 0 rfl rfl (iI_in h0 h1 (by decide)) hd (fun H1 locs1 hP hD hS => ?_)
  rw [x_set_8 h ad d S x h0 (by omega)] at hP hD
  exact kk _ H1 locs1 rfl ⟨Z.1, hP, hD, hS, Z.2.2.2.2⟩
theorem x_get_9 (C : CallFix p m c cc nL s args lw_all RX0) (Z : GW D A s H locs d (wX h ad d S)) (hd : decode cc pc = .ok (.getfield 28, 3)) (k : W p l e R s m args below meth c H locs cells slots Q (F0 m (pc + 3) ls (.ref (ad 9) :: rest))) : W p l e R s m args below meth c H locs cells slots Q (F0 m pc ls (.ref h :: rest)) := va_get (D := D) (ci := 0) (v := .ref (ad 9)) (C := RX0) (T := TX0) (N := 16) C.1 C.2.1 C.2.2.2.2 in_X0 C.2.2.2.1 Z.1 Z.2.1 0 rfl rfl 9 (by decide) (C.2.2.2.2 _ q38) (fun _ h9 => h9) rfl hd k
theorem x_ald_9 (C : CallFix p m c cc nL s args lw_all RX0) (Z : GW D A s H locs d (wX h ad d S)) {e0 : Int} (h0 : 0 ≤ e0) (h1 : e0 < 6) (hd : decode cc pc = .ok (.iaload, 1)) (k : W p l e R s m args below meth c H locs cells slots Q (F0 m (pc + 1) ls (.int (iI (S 9 e0)) :: rest))) : W p l e R s m args below meth c H locs cells slots Q (F0 m pc ls (.int (iI e0) :: .ref (ad 9) :: rest)) := va_iald C.1 C.2.1 Z.1 Z.2.1 7 0 rfl rfl (iI_in h0 h1 (by decide)) hd (by rw [rd_arr S 9 h0 (by omega)]; exact k)
theorem x_ast_9 (C : CallFix p m c cc nL s args lw_all RX0) (Z : GW D A s H locs d (wX h ad d S)) {e0 x : Int} (h0 : 0 ≤ e0) (h1 : e0 < 6) (hd : decode cc pc = .ok (.iastore, 1)) (kk : ∀ (S1 : St) (H1 : Heap) (locs1 : List Loc), S1 = up S 9 e0 x → GW D A s H1 locs1 d (wX h ad d S1) → W p l e R s m args below meth c H1 locs1 cells slots Q (F0 m (pc + 1) ls rest)) : W p l e R s m args below meth c H locs cells slots Q (F0 m pc ls (.int (iI x) :: .int (iI e0) :: .ref (ad 9) :: rest)) := by
  refine va_iast C.1 C.2.1 Z.1 Z.2.1 Z.2.2.1 Z.2.2.2.1 7 0 rfl rfl (iI_in h0 h1 (by decide)) hd (fun H1 locs1 hP hD hS => ?_)
  rw [x_set_9 h ad d S x h0 (by omega)] at hP hD
  exact kk _ H1 locs1 rfl ⟨Z.1, hP, hD, hS, Z.2.2.2.2⟩
theorem x_get_10 (C : CallFix p m c cc nL s args lw_all RX0) (Z : GW D A s H locs d (wX h ad d S)) (hd : decode cc pc = .ok (.getfield 31, 3)) (k : W p l e R s m args below meth c H locs cells slots Q (F0 m (pc + 3) ls (.ref (ad 10) :: rest))) : W p l e R s m args below meth c H locs cells slots Q (F0 m pc ls (.ref h :: rest)) := va_get (D := D) (ci := 0) (v := .ref (ad 10)) (C := RX0) (T := TX0) (N := 16) C.1 C.2.1 C.2.2.2.2 in_X0 C.2.2.2.1 Z.1 Z.2.1 0 rfl rfl 10 (by decide) (C.2.2.2.2 _ q39) (fun _ h9 => h9) rfl hd k
theorem x_ald_10 (C : CallFix p m c cc nL s args lw_all RX0) (Z : GW D A s H locs d (wX h ad d S)) {e0 : Int} (h0 : 0 ≤ e0) (h1 : e0 < 6) (hd : decode cc pc = .ok (.iaload, 1)) (k : W p l e R s m args below meth c H locs cells slots Q (F0 m (pc + 1) ls (.int (iI (S 10 e0)) :: rest))) : W p l e R s m args below meth c H locs cells slots Q (F0 m pc ls (.int (iI e0) :: .ref (ad 10) :: rest)) := va_iald C.1 C.2.1 Z.1 Z.2.1 8 0 rfl rfl (iI_in h0 h1 (by decide)) hd (by rw [rd_arr S 10 h0 (by omega)]; exact k)
theorem x_ast_10 (C : CallFix p m c cc nL s args lw_all RX0) (Z : GW D A s H locs d (wX h ad d S)) {e0 x : Int} (h0 : 0 ≤ e0) (h1 : e0 < 6) (hd : decode cc pc = .ok (.iastore, 1)) (kk : ∀ (S1 : St) (H1 : Heap) (locs1 : List Loc), S1 = up S 10 e0 x → GW D A s H1 locs1 d (wX h ad d S1) → W p l e R s m args below meth c H1 locs1 cells slots Q (F0 m (pc + 1) ls rest)) : W p l e R s m args below meth c H locs cells slots Q (F0 m pc ls (.int (iI x) :: .int (iI e0) :: .ref (ad 10) :: rest)) := by
  refine va_iast C.1 C.2.1 Z.1 Z.2.1 Z.2.2.1 Z.2.2.2.1 8 0 rfl rfl (iI_in h0 h1 (by decide)) hd (fun H1 locs1 hP hD hS => ?_)
  rw [x_set_10 h ad d S x h0 (by omega)] at hP hD
  exact kk _ H1 locs1 rfl ⟨Z.1, hP, hD, hS, Z.2.2.2.2⟩
theorem x_get_11 (C : CallFix p m c cc nL s args lw_all RX0) (Z : GW D A s H locs d (wX h ad d S)) (hd : decode cc pc = .ok (.getfield 34, 3)) (k : W p l e R s m args below meth c H locs cells slots Q (F0 m (pc + 3) ls (.ref (ad 11) :: rest))) : W p l e R s m args below meth c H locs cells slots Q (F0 m pc ls (.ref h :: rest)) := va_get (D := D) (ci := 0) (v := .ref (ad 11)) (C := RX0) (T := TX0) (N := 16) C.1 C.2.1 C.2.2.2.2 in_X0 C.2.2.2.1 Z.1 Z.2.1 0 rfl rfl 11 (by decide) (C.2.2.2.2 _ q40) (fun _ h9 => h9) rfl hd k
theorem x_ald_11 (C : CallFix p m c cc nL s args lw_all RX0) (Z : GW D A s H locs d (wX h ad d S)) {e0 : Int} (h0 : 0 ≤ e0) (h1 : e0 < 7) (hd : decode cc pc = .ok (.iaload, 1)) (k : W p l e R s m args below meth c H locs cells slots Q (F0 m (pc + 1) ls (.int (iI (S 11 e0)) :: rest))) : W p l e R s m args below meth c H locs cells slots Q (F0 m pc ls (.int (iI e0) :: .ref (ad 11) :: rest)) := va_iald C.1 C.2.1 Z.1 Z.2.1 9 0 rfl rfl (iI_in h0 h1 (by decide)) hd (by rw [rd_arr S 11 h0 (by omega)]; exact k)
theorem x_ast_11 (C : CallFix p m c cc nL s args lw_all RX0) (Z : GW D A s H locs d (wX h ad d S)) {e0 x : Int} (h0 : 0 ≤ e0) (h1 : e0 < 7) (hd : decode cc pc = .ok (.iastore, 1)) (kk : ∀ (S1 : St) (H1 : Heap) (locs1 : List Loc), S1 = up S 11 e0 x → GW D A s H1 locs1 d (wX h ad d S1) → W p l e R s m args below meth c H1 locs1 cells slots Q (F0 m (pc + 1) ls rest)) : W p l e R s m args below meth c H locs cells slots Q (F0 m pc ls (.int (iI x) :: .int (iI e0) :: .ref (ad 11) :: rest)) := by
  refine va_iast C.1 C.2.1 Z.1 Z.2.1 Z.2.2.1 Z.2.2.2.1 9 0 rfl rfl (iI_in h0 h1 (by decide)) hd (fun H1 locs1 hP hD hS => ?_)
  rw [x_set_11 h ad d S x h0 (by omega)] at hP hD
  exact kk _ H1 locs1 rfl ⟨Z.1, hP, hD, hS, Z.2.2.2.2⟩
theorem x_get_12 (C : CallFix p m c cc nL s args lw_all RX0) (Z : GW D A s H locs d (wX h ad d S)) (hd : decode cc pc = .ok (.getfield 37, 3)) (k : W p l e R s m args below meth c H locs cells slots Q (F0 m (pc + 3) ls (.ref (ad 12) :: rest))) : W p l e R s m args below meth c H locs cells slots Q (F0 m pc ls (.ref h :: rest)) := va_get (D := D) (ci := 0) (v := .ref (ad 12)) (C := RX0) (T := TX0) (N := 16) C.1 C.2.1 C.2.2.2.2 in_X0 C.2.2.2.1 Z.1 Z.2.1 0 rfl rfl 12 (by decide) (C.2.2.2.2 _ q41) (fun _ h9 => h9) rfl hd k
theorem x_ald_12 (C : CallFix p m c cc nL s args lw_all RX0) (Z : GW D A s H locs d (wX h ad d S)) {e0 : Int} (h0 : 0 ≤ e0) (h1 : e0 < 6) (hd : decode cc pc = .ok (.iaload, 1)) (k : W p l e R s m args below meth c H locs cells slots Q (F0 m (pc + 1) ls (.int (iI (S 12 e0)) :: rest))) : W p l e R s m args below meth c H locs cells slots Q (F0 m pc ls (.int (iI e0) :: .ref (ad 12) :: rest)) := va_iald C.1 C.2.1 Z.1 Z.2.1 10 0 rfl rfl (iI_in h0 h1 (by decide)) hd (by rw [rd_arr S 12 h0 (by omega)]; exact k)
theorem x_ast_12 (C : CallFix p m c cc nL s args lw_all RX0) (Z : GW D A s H locs d (wX h ad d S)) {e0 x : Int} (h0 : 0 ≤ e0) (h1 : e0 < 6) (hd : decode cc pc = .ok (.iastore, 1)) (kk : ∀ (S1 : St) (H1 : Heap) (locs1 : List Loc), S1 = up S 12 e0 x → GW D A s H1 locs1 d (wX h ad d S1) → W p l e R s m args below meth c H1 locs1 cells slots Q (F0 m (pc + 1) ls rest)) : W p l e R s m args below meth c H locs cells slots Q (F0 m pc ls (.int (iI x) :: .int (iI e0) :: .ref (ad 12) :: rest)) := by
  refine va_iast C.1 C.2.1 Z.1 Z.2.1 Z.2.2.1 Z.2.2.2.1 10 0 rfl rfl (iI_in h0 h1 (by decide)) hd (fun H1 locs1 hP hD hS => ?_)
  rw [x_set_12 h ad d S x h0 (by omega)] at hP hD
  exact kk _ H1 locs1 rfl ⟨Z.1, hP, hD, hS, Z.2.2.2.2⟩
theorem x_get_13 (C : CallFix p m c cc nL s args lw_all RX0) (Z : GW D A s H locs d (wX h ad d S)) (hd : decode cc pc = .ok (.getfield 90, 3)) (k : W p l e R s m args below meth c H locs cells slots Q (F0 m (pc + 3) ls (.int (iI (S 13 0)) :: rest))) : W p l e R s m args below meth c H locs cells slots Q (F0 m pc ls (.ref h :: rest)) := va_get (D := D) (ci := 0) (v := .int (iI (S 13 0))) (C := RX0) (T := TX0) (N := 16) C.1 C.2.1 C.2.2.2.2 in_X0 C.2.2.2.1 Z.1 Z.2.1 0 rfl rfl 13 (by decide) (C.2.2.2.2 _ q42) (fun _ h9 => h9) rfl hd k
theorem x_put_13 (C : CallFix p m c cc nL s args lw_all RX0) (Z : GW D A s H locs d (wX h ad d S)) {x : Int} (hd : decode cc pc = .ok (.putfield 90, 3)) (kk : ∀ (S1 : St) (H1 : Heap) (locs1 : List Loc), S1 = up S 13 0 x → GW D A s H1 locs1 d (wX h ad d S1) → W p l e R s m args below meth c H1 locs1 cells slots Q (F0 m (pc + 3) ls rest)) : W p l e R s m args below meth c H locs cells slots Q (F0 m pc ls (.int (iI x) :: .ref h :: rest)) := by
  refine va_put (D := D) (ci := 0) (v := .int (iI x)) (ty := .int) (C := RX0) (T := TX0) (N := 16) C.1 C.2.1 C.2.2.2.2 in_X0 tyX0 tyX0_ok nmX0 C.2.2.2.1 Z.1 Z.2.1 Z.2.2.1 Z.2.2.2.1 0 rfl rfl 13 (by decide) (C.2.2.2.2 _ q42) (fun _ h9 => h9) rfl (by decide +kernel) rfl rfl (Nat.le_of_ble_eq_true rfl) hd (fun H1 locs1 hP hD hS => ?_)
  rw [x_set_13 h ad d S x] at hP hD
  exact kk _ H1 locs1 rfl ⟨Z.1, hP, hD, hS, Z.2.2.2.2⟩
theorem x_get_14 (C : CallFix p m c cc nL s args lw_all RX0) (Z : GW D A s H locs d (wX h ad d S)) (hd : decode cc pc = .ok (.getfield 93, 3)) (k : W p l e R s m args below meth c H locs cells slots Q (F0 m (pc + 3) ls (.int (iI (S 14 0)) :: rest))) : W p l e R s m args below meth c H locs cells slots Q (F0 m pc ls (.ref h :: rest)) := va_get (D := D) (ci := 0) (v := .int (iI (S 14 0))) (C := RX0) (T := TX0) (N := 16) C.1 C.2.1 C.2.2.2.2 in_X0 C.2.2.2.1 Z.1 Z.2.1 0 rfl rfl 14 (by decide) (C.2.2.2.2 _ q43) (fun _ h9 => h9) rfl hd k
theorem x_put_14 (C : CallFix p m c cc nL s args lw_all RX0) (Z : GW D A s H locs d (wX h ad d S)) {x : Int} (hd : decode cc pc = .ok (.putfield 93, 3)) (kk : ∀ (S1 : St) (H1 : Heap) (locs1 : List Loc), S1 = up S 14 0 x → GW D A s H1 locs1 d (wX h ad d S1) → W p l e R s m args below meth c H1 locs1 cells slots Q (F0 m (pc + 3) ls rest)) : W p l e R s m args below meth c H locs cells slots Q (F0 m pc ls (.int (iI x) :: .ref h :: rest)) := by
  refine va_put (D := D) (ci := 0) (v := .int (iI x)) (ty := .int) (C := RX0) (T := TX0) (N := 16) C.1 C.2.1 C.2.2.2.2 in_X0 tyX0 tyX0_ok nmX0 C.2.2.2.1 Z.1 Z.2.1 Z.2.2.1 Z.2.2.2.1 0 rfl rfl 14 (by decide) (C.2.2.2.2 _ q43) (fun _ h9 => h9) rfl (by decide +kernel) rfl rfl (Nat.le_of_ble_eq_true rfl) hd (fun H1 locs1 hP hD hS => ?_)
  rw [x_set_14 h ad d S x] at hP hD
  exact kk _ H1 locs1 rfl ⟨Z.1, hP, hD, hS, Z.2.2.2.2⟩
theorem x_get_15 (C : CallFix p m c cc nL s args lw_all RX0) (Z : GW D A s H locs d (wX h ad d S)) (hd : decode cc pc = .ok (.getfield 40, 3)) (k : W p l e R s m args below meth c H locs cells slots Q (F0 m (pc + 3) ls (.ref (ad 15) :: rest))) : W p l e R s m args below meth c H locs cells slots Q (F0 m pc ls (.ref h :: rest)) := va_get (D := D) (ci := 0) (v := .ref (ad 15)) (C := RX0) (T := TX0) (N := 16) C.1 C.2.1 C.2.2.2.2 in_X0 C.2.2.2.1 Z.1 Z.2.1 0 rfl rfl 15 (by decide) (C.2.2.2.2 _ q44) (fun _ h9 => h9) rfl hd k
theorem x_ald_15 (C : CallFix p m c cc nL s args lw_all RX0) (Z : GW D A s H locs d (wX h ad d S)) {e0 : Int} (h0 : 0 ≤ e0) (h1 : e0 < 6) (hd : decode cc pc = .ok (.iaload, 1)) (k : W p l e R s m args below meth c H locs cells slots Q (F0 m (pc + 1) ls (.int (iI (S 15 e0)) :: rest))) : W p l e R s m args below meth c H locs cells slots Q (F0 m pc ls (.int (iI e0) :: .ref (ad 15) :: rest)) := va_iald C.1 C.2.1 Z.1 Z.2.1 11 0 rfl rfl (iI_in h0 h1 (by decide)) hd (by rw [rd_arr S 15 h0 (by omega)]; exact k)
theorem x_ast_15 (C : CallFix p m c cc nL s args lw_all RX0) (Z : GW D A s H locs d (wX h ad d S)) {e0 x : Int} (h0 : 0 ≤ e0) (h1 : e0 < 6) (hd : decode cc pc = .ok (.iastore, 1)) (kk : ∀ (S1 : St) (H1 : Heap) (locs1 : List Loc), S1 = up S 15 e0 x → GW D A s H1 locs1 d (wX h ad d S1) → W p l e R s m args below meth c H1 locs1 cells slots Q (F0 m (pc + 1) ls rest)) : W p l e R s m args below meth c H locs cells slots Q (F0 m pc ls (.int (iI x) :: .int (iI e0) :: .ref (ad 15) :: rest)) := by
  refine va_iast C.1 C.2.1 Z.1 Z.2.1 Z.2.2.1 Z.2.2.2.1 11 0 rfl rfl (iI_in h0 h1 (by decide)) hd (fun H1 locs1 hP hD hS => ?_)
  rw [x_set_15 h ad d S x h0 (by omega)] at hP hD
  exact kk _ H1 locs1 rfl ⟨Z.1, hP, hD, hS, Z.2.2.2.2⟩
theorem m_get_0 (C : CallFix p m c cc nL s args lw_all RX1) (Z : GW D A s H locs d (wM h ad d S)) (hd : decode cc pc = .ok (.getfield 7, 3)) (k : W p l e R s m args below meth c H locs cells slots Q (F0 m (pc + 3) ls (.ref (ad 0) :: rest))) : W p l e R s m args below meth c H locs cells slots Q (F0 m pc ls (.ref h :: rest)) := va_get (D := D) (ci := 1) (v := .ref (ad 0)) (C := RX1) (T := TX1) (N := 7) C.1 C.2.1 C.2.2.2.2 in_X1 C.2.2.2.1 Z.1 Z.2.1 0 rfl rfl 0 (by decide) (C.2.2.2.2 _ q202) (fun _ h9 => h9) rfl hd k
theorem m_ald_0 (C : CallFix p m c cc nL s args lw_all RX1) (Z : GW D A s H locs d (wM h ad d S)) {e0 : Int} (h0 : 0 ≤ e0) (h1 : e0 < 18) (hd : decode cc pc = .ok (.iaload, 1)) (k : W p l e R s m args below meth c H locs cells slots Q (F0 m (pc + 1) ls (.int (iI (S 0 e0)) :: rest))) : W p l e R s m args below meth c H locs cells slots Q (F0 m pc ls (.int (iI e0) :: .ref (ad 0) :: rest)) := va_iald C.1 C.2.1 Z.1 Z.2.1 1 0 rfl rfl (iI_in h0 h1 (by decide)) hd (by rw [rd_arr S 0 h0 (by omega)]; exact k)
theorem m_ast_0 (C : CallFix p m c cc nL s args lw_all RX1) (Z : GW D A s H locs d (wM h ad d S)) {e0 x : Int} (h0 : 0 ≤ e0) (h1 : e0 < 18) (hd : decode cc pc = .ok (.iastore, 1)) (kk : ∀ (S1 : St) (H1 : Heap) (locs1 : List Loc), S1 = up S 0 e0 x → GW D A s H1 locs1 d (wM h ad d S1) → W p l e R s m args below meth c H1 locs1 cells slots Q (F0 m (pc + 1) ls rest)) : W p l e R s m args below meth c H locs cells slots Q (F0 m pc ls (.int (iI x) :: .int (iI e0) :: .ref (ad 0) :: rest)) := by
  refine va_iast C.1 C.2.1 Z.1 Z.2.1 Z.2.2.1 Z.2.2.2.1 1 0 rfl rfl (iI_in h0 h1 (by decide)) hd (fun H1 locs1 hP hD hS => ?_)
  rw [m_set_0 h ad d S x h0 (by omega)] at hP hD
  exact kk _ H1 locs1 rfl ⟨Z.1, hP, hD, hS, Z.2.2.2.2⟩
theorem m_get_1 (C : CallFix p m c cc nL s args lw_all RX1) (Z : GW D A s H locs d (wM h ad d S)) (hd : decode cc pc = .ok (.getfield 13, 3)) (k : W p l e R s m args below meth c H locs cells slots Q (F0 m (pc + 3) ls (.ref (ad 1) :: rest))) : W p l e R s m args below meth c H locs cells slots Q (F0 m pc ls (.ref h :: rest)) := va_get (D := D) (ci := 1) (v := .ref (ad 1)) (C := RX1) (T := TX1) (N := 7) C.1 C.2.1 C.2.2.2.2 in_X1 C.2.2.2.1 Z.1 Z.2.1 0 rfl rfl 1 (by decide) (C.2.2.2.2 _ q203) (fun _ h9 => h9) rfl hd k
theorem m_ald_1 (C : CallFix p m c cc nL s args lw_all RX1) (Z : GW D A s H locs d (wM h ad d S)) {e0 : Int} (h0 : 0 ≤ e0) (h1 : e0 < 8) (hd : decode cc pc = .ok (.iaload, 1)) (k : W p l e R s m args below meth c H locs cells slots Q (F0 m (pc + 1) ls (.int (iI (S 1 e0)) :: rest))) : W p l e R s m args below meth c H locs cells slots Q (F0 m pc ls (.int (iI e0) :: .ref (ad 1) :: rest)) := va_iald C.1 C.2.1 Z.1 Z.2.1 2 0 rfl rfl (iI_in h0 h1 (by decide)) hd (by rw [rd_arr S 1 h0 (by omega)]; exact k)
theorem m_ast_1 (C : CallFix p m c cc nL s args lw_all RX1) (Z : GW D A s H locs d (wM h ad d S)) {e0 x : Int} (h0 : 0 ≤ e0) (h1 : e0 < 8) (hd : decode cc pc = .ok (.iastore, 1)) (kk : ∀ (S1 : St) (H1 : Heap) (locs1 : List Loc), S1 = up S 1 e0 x → GW D A s H1 locs1 d (wM h ad d S1) → W p l e R s m args below meth c H1 locs1 cells slots Q (F0 m (pc + 1) ls rest)) : W p l e R s m args below meth c H locs cells slots Q (F0 m pc ls (.int (iI x) :: .int (iI e0) :: .ref (ad 1) :: rest)) := by
  refine va_iast C.1 C.2.1 Z.1 Z.2.1 Z.2.2.1 Z.2.2.2.1 2 0 rfl rfl (iI_in h0 h1 (by decide)) hd (fun H1 locs1 hP hD hS => ?_)
  rw [m_set_1 h ad d S x h0 (by omega)] at hP hD
  exact kk _ H1 locs1 rfl ⟨Z.1, hP, hD, hS, Z.2.2.2.2⟩
theorem m_get_2 (C : CallFix p m c cc nL s args lw_all RX1) (Z : GW D A s H locs d (wM h ad d S)) (hd : decode cc pc = .ok (.getfield 16, 3)) (k : W p l e R s m args below meth c H locs cells slots Q (F0 m (pc + 3) ls (.ref (ad 2) :: rest))) : W p l e R s m args below meth c H locs cells slots Q (F0 m pc ls (.ref h :: rest)) := va_get (D := D) (ci := 1) (v := .ref (ad 2)) (C := RX1) (T := TX1) (N := 7) C.1 C.2.1 C.2.2.2.2 in_X1 C.2.2.2.1 Z.1 Z.2.1 0 rfl rfl 2 (by decide) (C.2.2.2.2 _ q204) (fun _ h9 => h9) rfl hd k
theorem m_ald_2 (C : CallFix p m c cc nL s args lw_all RX1) (Z : GW D A s H locs d (wM h ad d S)) {e0 : Int} (h0 : 0 ≤ e0) (h1 : e0 < 8) (hd : decode cc pc = .ok (.iaload, 1)) (k : W p l e R s m args below meth c H locs cells slots Q (F0 m (pc + 1) ls (.int (iI (S 2 e0)) :: rest))) : W p l e R s m args below meth c H locs cells slots Q (F0 m pc ls (.int (iI e0) :: .ref (ad 2) :: rest)) := va_iald C.1 C.2.1 Z.1 Z.2.1 3 0 rfl rfl (iI_in h0 h1 (by decide)) hd (by rw [rd_arr S 2 h0 (by omega)]; exact k)
theorem m_ast_2 (C : CallFix p m c cc nL s args lw_all RX1) (Z : GW D A s H locs d (wM h ad d S)) {e0 x : Int} (h0 : 0 ≤ e0) (h1 : e0 < 8) (hd : decode cc pc = .ok (.iastore, 1)) (kk : ∀ (S1 : St) (H1 : Heap) (locs1 : List Loc), S1 = up S 2 e0 x → GW D A s H1 locs1 d (wM h ad d S1) → W p l e R s m args below meth c H1 locs1 cells slots Q (F0 m (pc + 1) ls rest)) : W p l e R s m args below meth c H locs cells slots Q (F0 m pc ls (.int (iI x) :: .int (iI e0) :: .ref (ad 2) :: rest)) := by
  refine va_iast C.1 C.2.1 Z.1 Z.2.1 Z.2.2.1 Z.2.2.2.1 3 0 rfl rfl (iI_in h0 h1 (by decide)) hd (fun H1 locs1 hP hD hS => ?_)
  rw [m_set_2 h ad d S x h0 (by omega)] at hP hD
  exact kk _ H1 locs1 rfl ⟨Z.1, hP, hD, hS, Z.2.2.2.2⟩
theorem m_get_3 (C : CallFix p m c cc nL s args lw_all RX1) (Z : GW D A s H locs d (wM h ad d S)) (hd : decode cc pc = .ok (.getfield 19, 3)) (k : W p l e R s m args below meth c H locs cells slots Q (F0 m (pc + 3) ls (.ref (ad 3) :: rest))) : W p l e R s m args below meth c H locs cells slots Q (F0 m pc ls (.ref h :: rest)) := va_get (D := D) (ci := 1) (v := .ref (ad 3)) (C := RX1) (T := TX1) (N := 7) C.1 C.2.1 C.2.2.2.2 in_X1 C.2.2.2.1 Z.1 Z.2.1 0 rfl rfl 3 (by decide) (C.2.2.2.2 _ q205) (fun _ h9 => h9) rfl hd k
theorem m_ald_3 (C : CallFix p m c cc nL s args lw_all RX1) (Z : GW D A s H locs d (wM h ad d S)) {e0 : Int} (h0 : 0 ≤ e0) (h1 : e0 < 72) (hd : decode cc pc = .ok (.iaload, 1)) (k : W p l e R s m args below meth c H locs cells slots Q (F0 m (pc + 1) ls (.int (iI (S 3 e0)) :: rest))) : W p l e R s m args below meth c H locs cells slots Q (F0 m pc ls (.int (iI e0) :: .ref (ad 3) :: rest)) := va_iald C.1 C.2.1 Z.1 Z.2.1 4 0 rfl rfl (iI_in h0 h1 (by decide)) hd (by rw [rd_arr S 3 h0 (by omega)]; exact k)
theorem m_ast_3 (C : CallFix p m c cc nL s args lw_all RX1) (Z : GW D A s H locs d (wM h ad d S)) {e0 x : Int} (h0 : 0 ≤ e0) (h1 : e0 < 72) (hd : decode cc pc = .ok (.iastore, 1)) (kk : ∀ (S1 : St) (H1 : Heap) (locs1 : List Loc), S1 = up S 3 e0 x → GW D A s H1 locs1 d (wM h ad d S1) → W p l e R s m args below meth c H1 locs1 cells slots Q (F0 m (pc + 1) ls rest)) : W p l e R s m args below meth c H locs cells slots Q (F0 m pc ls (.int (iI x) :: .int (iI e0) :: .ref (ad 3) :: rest)) := by
  refine va_iast C.1 C.2.1 Z.1 Z.2.1 Z.2.2.1 Z.2.2.2.1 4 0 rfl rfl (iI_in h0 h1 (by decide)) hd (fun H1 locs1 hP hD hS => ?_)
  rw [m_set_3 h ad d S x h0 (by omega)] at hP hD
  exact kk _ H1 locs1 rfl ⟨Z.1, hP, hD, hS, Z.2.2.2.2⟩
theorem m_get_4 (C : CallFix p m c cc nL s args lw_all RX1) (Z : GW D A s H locs d (wM h ad d S)) (hd : decode cc pc = .ok (.getfield 33, 3)) (k : W p l e R s m args below meth c H locs cells slots Q (F0 m (pc + 3) ls (.int (iI (S 4 0)) :: rest))) : W p l e R s m args below meth c H locs cells slots Q (F0 m pc ls (.ref h :: rest)) := va_get (D := D) (ci := 1) (v := .int (iI (S 4 0))) (C := RX1) (T := TX1) (N := 7) C.1 C.2.1 C.2.2.2.2 in_X1 C.2.2.2.1 Z.1 Z.2.1 0 rfl rfl 4 (by decide) (C.2.2.2.2 _ q206) (fun _ h9 => h9) rfl hd k
theorem m_put_4 (C : CallFix p m c cc nL s args lw_all RX1) (Z : GW D A s H locs d (wM h ad d S)) {x : Int} (hd : decode cc pc = .ok (.putfield 33, 3)) (kk : ∀ (S1 : St) (H1 : Heap) (locs1 : List Loc), S1 = up S 4 0 x → GW D A s H1 locs1 d (wM h ad d S1) → W p l e R s m args below meth c H1 locs1 cells slots Q (F0 m (pc + 3) ls rest)) : W p l e R s m args below meth c H locs cells slots Q (F0 m pc ls (.int (iI x) :: .ref h :: rest)) := by
  refine va_put (D := D) (ci := 1) (v := .int (iI x)) (ty := .int) (C := RX1) (T := TX1) (N := 7) C.1 C.2.1 C.2.2.2.2 in_X1 tyX1 tyX1_ok nmX1 C.2.2.2.1 Z.1 Z.2.1 Z.2.2.1 Z.2.2.2.1 0 rfl rfl 4 (by decide) (C.2.2.2.2 _ q206) (fun _ h9 => h9) rfl (by decide +kernel) rfl rfl (Nat.le_of_ble_eq_true rfl) hd (fun H1 locs1 hP hD hS => ?_)
  rw [m_set_4 h ad d S x] at hP hD
  exact kk _ H1 locs1 rfl ⟨Z.1, hP, hD, hS, Z.2.2.2.2⟩
theorem m_get_5 (C : CallFix p m c cc nL s args lw_all RX1) (Z : GW D A s H locs d (wM h ad d S)) (hd : decode cc pc = .ok (.getfield 22, 3)) (k : W p l e R s m args below meth c H locs cells slots Q (F0 m (pc + 3) ls (.ref (ad 5) :: rest))) : W p l e R s m args below meth c H locs cells slots Q (F0 m pc ls (.ref h :: rest)) := va_get (D := D) (ci := 1) (v := .ref (ad 5)) (C := RX1) (T := TX1) (N := 7) C.1 C.2.1 C.2.2.2.2 in_X1 C.2.2.2.1 Z.1 Z.2.1 0 rfl rfl 5 (by decide) (C.2.2.2.2 _ q207) (fun _ h9 => h9) rfl hd k
theorem m_ald_5 (C : CallFix p m c cc nL s args lw_all RX1) (Z : GW D A s H locs d (wM h ad d S)) {e0 : Int} (h0 : 0 ≤ e0) (h1 : e0 < 729) (hd : decode cc pc = .ok (.iaload, 1)) (k : W p l e R s m args below meth c H locs cells slots Q (F0 m (pc + 1) ls (.int (iI (S 5 e0)) :: rest))) : W p l e R s m args below meth c H locs cells slots Q (F0 m pc ls (.int (iI e0) :: .ref (ad 5) :: rest)) := va_iald C.1 C.2.1 Z.1 Z.2.1 5 0 rfl rfl (iI_in h0 h1 (by decide)) hd (by rw [rd_arr S 5 h0 (by omega)]; exact k)
theorem m_ast_5 (C : CallFix p m c cc nL s args lw_all RX1) (Z : GW D A s H locs d (wM h ad d S)) {e0 x : Int} (h0 : 0 ≤ e0) (h1 : e0 < 729) (hd : decode cc pc = .ok (.iastore, 1)) (kk : ∀ (S1 : St) (H1 : Heap) (locs1 : List Loc), S1 = up S 5 e0 x → GW D A s H1 locs1 d (wM h ad d S1) → W p l e R s m args below meth c H1 locs1 cells slots Q (F0 m (pc + 1) ls rest)) : W p l e R s m args below meth c H locs cells slots Q (F0 m pc ls (.int (iI x) :: .int (iI e0) :: .ref (ad 5) :: rest)) := by
  refine va_iast C.1 C.2.1 Z.1 Z.2.1 Z.2.2.1 Z.2.2.2.1 5 0 rfl rfl (iI_in h0 h1 (by decide)) hd (fun H1 locs1 hP hD hS => ?_)
  rw [m_set_5 h ad d S x h0 (by omega)] at hP hD
  exact kk _ H1 locs1 rfl ⟨Z.1, hP, hD, hS, Z.2.2.2.2⟩
theorem m_get_6 (C : CallFix p m c cc nL s args lw_all RX1) (Z : GW D A s H locs d (wM h ad d S)) (hd : decode cc pc = .ok (.getfield 29, 3)) (k : W p l e R s m args below meth c H locs cells slots Q (F0 m (pc + 3) ls (.int (iI (S 6 0)) :: rest))) : W p l e R s m args below meth c H locs cells slots Q (F0 m pc ls (.ref h :: rest)) := va_get (D := D) (ci := 1) (v := .int (iI (S 6 0))) (C := RX1) (T := TX1) (N := 7) C.1 C.2.1 C.2.2.2.2 in_X1 C.2.2.2.1 Z.1 Z.2.1 0 rfl rfl 6 (by decide) (C.2.2.2.2 _ q208) (fun _ h9 => h9) rfl hd k
theorem m_put_6 (C : CallFix p m c cc nL s args lw_all RX1) (Z : GW D A s H locs d (wM h ad d S)) {x : Int} (hz : x = 0 ∨ x = 1) (hd : decode cc pc = .ok (.putfield 29, 3)) (kk : ∀ (S1 : St) (H1 : Heap) (locs1 : List Loc), S1 = up S 6 0 x → GW D A s H1 locs1 d (wM h ad d S1) → W p l e R s m args below meth c H1 locs1 cells slots Q (F0 m (pc + 3) ls rest)) : W p l e R s m args below meth c H locs cells slots Q (F0 m pc ls (.int (iI x) :: .ref h :: rest)) := by
  refine va_put (D := D) (ci := 1) (v := .int (iI x)) (ty := .boolean) (C := RX1) (T := TX1) (N := 7) C.1 C.2.1 C.2.2.2.2 in_X1 tyX1 tyX1_ok nmX1 C.2.2.2.1 Z.1 Z.2.1 Z.2.2.1 Z.2.2.2.1 0 rfl rfl 6 (by decide) (C.2.2.2.2 _ q208) (fun _ h9 => h9) rfl (by decide +kernel) (iI_z hz).1 (iI_z hz).2 (Nat.le_of_ble_eq_true rfl) hd (fun H1 locs1 hP hD hS => ?_)
  rw [m_set_6 h ad d S x] at hP hD
  exact kk _ H1 locs1 rfl ⟨Z.1, hP, hD, hS, Z.2.2.2.2⟩
end XR
end
section
set_option maxRecDepth 100000
/-! ===== contracts over a whole world of one object; calls, ends, starts ===== -/
theorem gw_L {wr wc : va_W} {k : Nat} {q : Nat × va_E} (h : wr[k]? = some q) : (wr ++ wc)[k]? = some q := by
  rw [List.getElem?_append_left (List.getElem?_eq_some_iff.mp h).1]
  exact h
theorem gw_R {wr wc : va_W} {k : Nat} {q : Nat × va_E} (h : wc[k]? = some q) : (wr ++ wc)[wr.length + k]? = some q := by
  rw [List.getElem?_append_right (by omega), Nat.add_sub_cancel_left]
  exact h
theorem gw_PL {D : va_G} {cl : List vw_C} {wr wc : va_W} {H : Heap} (h : va_P D cl (wr ++ wc) H) : va_P D cl wr H := fun k q hk => h k q (gw_L hk)
theorem gw_PR {D : va_G} {cl : List vw_C} {wr wc : va_W} {H : Heap} (h : va_P D cl (wr ++ wc) H) : va_P D cl wc H := fun k q hk => h _ q (gw_R hk)
theorem gw_DL {A : Nat → Prop} {wr wc : va_W} (h : va_D A (wr ++ wc)) : va_D A wr := ⟨fun i j p q hi hj e => h.1 i j p q (gw_L hi) (gw_L hj) e, fun k q hk => h.2 k q (gw_L hk)⟩
theorem gw_DR {A : Nat → Prop} {wr wc : va_W} (h : va_D A (wr ++ wc)) : va_D A wc := ⟨fun i j p q hi hj e => by
  have := h.1 _ _ p q (gw_R hi) (gw_R hj) e
  omega, fun k q hk => h.2 _ q (gw_R hk)⟩
theorem gw_ap {A : Nat → Prop} {wr wc : va_W} (h : va_D A (wr ++ wc)) (i j : Nat) (p q : Nat × va_E) (hi : wr[i]? = some p) (hj : wc[j]? = some q) : p.1 ≠ q.1 := by
  intro e
  have h1 := h.1 _ _ p q (gw_L hi) (gw_R hj) e
  have h2 := (List.getElem?_eq_some_iff.mp hi).1
  omega
theorem gw_swap {D : va_G} {A : Nat → Prop} {s : State} {H : Heap} {locs : List Loc} {d : ClassId} {a b : va_W} (Z : GW D A s H locs d (a ++ b)) : GW D A s H locs d (b ++ a) :=
  ⟨Z.1, va_P.app (gw_PR Z.2.1) (gw_PL Z.2.1), va_D.app (gw_DR Z.2.2.1) (gw_DL Z.2.2.1) (fun i j p q hi hj e => gw_ap Z.2.2.1 j i q p hj hi e.symm), Z.2.2.2⟩
theorem gw_back {A0 : Nat → Prop} {D : va_G} {cl : List vw_C} {wr wc w1 : va_W} {H H1 : Heap} (hP : va_P D cl (wr ++ wc) H) (hD : va_D A0 (wr ++ wc))
    (hk : ∀ q : Nat, q < H.size → ¬ va_A wc H.size q → H1[q]? = H[q]?) (hF : ∀ q, va_A wc H.size q → A0 q) (hP1 : va_P D cl w1 H1) (hD1 : va_D (va_A wc H.size) w1) : va_P D cl (wr ++ w1) H1 ∧ va_D A0 (wr ++ w1) := by
  have apart : ∀ (k : Nat) (q : Nat × va_E), wr[k]? = some q → q.1 < H.size ∧ ¬ va_A wc H.size q.1 := by
    intro k q hq
    have hl := (hP k q (gw_L hq)).lt
    refine ⟨hl, fun h => ?_⟩
    rcases h with ⟨j, e, h⟩ | h
    · exact gw_ap hD k j q (q.1, e) hq h rfl
    · omega
  refine ⟨va_P.app (fun k q hq => ?_) hP1, va_D.app (gw_DL hD) (hD1.weaken (fun k q _ h => hF q.1 h)) (fun i j x y hx hy hxy => ?_)⟩
  · obtain ⟨g1, g2⟩ := apart k q hq
    exact (hP k q (gw_L hq)).kept (hk q.1 g1 g2)
  · exact (apart i x hx).2 (by rw [hxy]; exact hD1.2 j y hy)
/-- the cells of a world, and what is made later, lie in the frame -/
theorem gw_F {D : va_G} {A : Nat → Prop} {s : State} {H : Heap} {locs : List Loc} {d : ClassId} {wr wc : va_W} (Z : GW D A s H locs d (wr ++ wc)) : ∀ q, va_A wc H.size q → A q := by
  intro q h
  rcases h with ⟨k, e, h⟩ | h
  · exact (gw_DR Z.2.2.1).2 k (q, e) h
  · exact Z.2.2.2.2 q (Nat.le_trans Z.2.2.2.1.1 h)
/-- a start: the world w0, the arguments av -/
def gP (D : va_G) (d : ClassId) (w0 : va_W) (av : List Value) (sz : Nat) : Array Value → State → Prop := va_Pc av (fun U => U.heap.size = sz ∧ va_P D vwCl w0 U.heap ∧ va_K D vwCl [(d, .int)] U ∧ va_D (fun _ => True) w0)
def gB (D : va_G) (d : ClassId) (w : St → va_W) (w0 : va_W) (sz : Nat) (u : St) (t : State) : Prop := va_P D vwCl (w u) t.heap ∧ va_K D vwCl [(d, .int)] t ∧ va_D (va_A w0 sz) (w u)
def gQi (D : va_G) (d : ClassId) (w : St → va_W) (w0 : va_W) (post : Int → St → Prop) (sz : Nat) : Array Value → State → Outcome → State → Prop := va_Qi (fun r u => ∃ z : Int, r = iI z ∧ post z u) (gB D d w w0 sz) (va_A w0 sz)
def gQv (D : va_G) (d : ClassId) (w : St → va_W) (w0 : va_W) (post : St → Prop) (sz : Nat) : Array Value → State → Outcome → State → Prop := va_Qv post (gB D d w w0 sz) (va_A w0 sz)
/-- a static method without a world -/
def sQ (post : Int → Prop) : Array Value → State → Outcome → State → Prop := va_Qi (fun r (_ : Unit) => ∃ z : Int, r = iI z ∧ post z) (fun _ _ => True) (fun _ => False)
def gMi (l : Launch) (D : va_G) (d : ClassId) (w : St → va_W) (h : Nat) (y : MethodName) (bytes : ByteArray) (maxL : Nat) (ret : Option FieldType) (rm : Room) (As : List Value) (S : St) (post : Int → St → Prop) : Prop :=
  ∀ sz : Nat, Met l y (ws_ y bytes maxL ret) rm (gP D d (w S) (.ref h :: As) sz) (gQi D d w (w S) post sz) 0 0 (va_A (w S) sz)
def gMv (l : Launch) (D : va_G) (d : ClassId) (w : St → va_W) (h : Nat) (y : MethodName) (bytes : ByteArray) (maxL : Nat) (rm : Room) (As : List Value) (S : St) (post : St → Prop) : Prop :=
  ∀ sz : Nat, Met l y (ws_ y bytes maxL none) rm (gP D d (w S) (.ref h :: As) sz) (gQv D d w (w S) post sz) 0 0 (va_A (w S) sz)
def sM (l : Launch) (y : MethodName) (bytes : ByteArray) (maxL : Nat) (ret : Option FieldType) (rm : Room) (As : List Value) (post : Int → Prop) : Prop :=
  Met l y (ws_ y bytes maxL ret) rm (va_Pc As (fun _ => True)) (sQ post) 0 0 (fun _ => False)
abbrev rmv (f : Nat) : Room := { frames := f, cells := 0, slots := 0, locals := 40 * f }
theorem gP_pre {D : va_G} {d : ClassId} {s : State} {H : Heap} {A : Nat → Prop} {w0 : va_W} {av : List Value} (hK : va_K D vwCl [(d, .int)] s) (hP : va_P D vwCl w0 H) (hD : va_D A w0) : FrameBlind (gP D d w0 av H.size) ∧ ∀ U : State, U.heap = H → s.WarmedH U.vm → gP D d w0 av H.size av.toArray U :=
  ⟨fun a U g mk q => by
    obtain ⟨q0, q1, qP, qK, qD⟩ := q
    exact ⟨q0, q1, qP, va_K.moved (u := U) (U := U.calling g mk a) (Vm.Alike.refl U.vm) qK, qD⟩,
  fun U hU hW => ⟨rfl, by rw [hU], by rw [hU]; exact hP, va_K.moved hW.alike hK, hD.weaken (fun _ _ _ _ => trivial)⟩⟩
section GC
variable {p : Program} {l : Launch} {e : Env} {R : Room} {s : State} {m : MethodId} {args : Array Value} {below : List Frame} {meth : Method} {c : Code} {H : Heap} {locs : List Loc} {cells slots : Nat} {Q : State → Prop}
variable {cc : ByteArray} {pc nL : Nat} {ls : Array Slot} {rest st0 : List Value} {D : va_G} {A : Nat → Prop} {d : ClassId} {h ci : Nat} {S : St} {own Cn : String} {wr : va_W} {w : St → va_W} {As fs : List Value}
variable {y : MethodName} {bytes : ByteArray} {maxL idx n : Nat} {ret : Option FieldType} {rm : Room} {cq : u_T × Nat}
theorem g_calli {post : Int → St → Prop} (C : CallFix p m c cc nL s args lw_all own) (Z : GW D A s H locs d (wr ++ w S)) (hsz : ls.size = nL)
    (hM : gMi l D d w h y bytes maxL ret rm As S post) (hwd : GoodIn lw_all (wsV own idx Cn y (ws_ y bytes maxL ret)))
    (h0 : (w S)[0]? = some (h, .inr (ci, fs))) (hcl : vwCl[ci]? = some (Cn, cq))
    (hd1 : y.cls = Cn ∧ y.cls ≠ "java/lang/invoke/MethodHandle" ∧ y.cls ≠ "java/lang/invoke/VarHandle" ∧ (parseMethodDescriptor y.desc).map (fun d => d.parameters.length) = some n) (hn : As.length = n)
    (hrm : rm.cells = 0 ∧ rm.slots = 0) (hR : rm.frames + 1 ≤ R.frames ∧ 8 + (maxL + 11) + rm.locals ≤ R.locals)
    (hst : st0 = As.reverse ++ .ref h :: rest) (hcat : (rest.map fun v => v.category).sum ≤ 8) (hd : decode cc pc = .ok (.invokevirtual idx, 3)) (hcs : cells ≤ R.cells ∧ slots ≤ R.slots)
    (kk : ∀ (z : Int) (S1 : St) (H1 : Heap) (locs1 : List Loc), post z S1 → GW D A s H1 locs1 d (wr ++ w S1) → W p l e R s m args below meth c H1 locs1 cells slots Q (F0 m (pc + 3) ls (.int (iI z) :: rest))) :
    W p l e R s m args below meth c H locs cells slots Q (F0 m pc ls st0) := by
  have hFc := gw_F Z
  obtain ⟨hK, hP, hD, hS, hA⟩ := Z
  have hpre := gP_pre (av := .ref h :: As) hK (gw_PR hP) (gw_DR hD)
  refine va_calli (va_runV (As := As) (rest := rest) C (hM H.size) (cwV n C.2.2.2.2 hwd rfl hrm.1 hrm.2 hd1 hR) ⟨hpre.1, va_recv hK (gw_PR hP) hcl h0, hpre.2⟩ rfl hn hsz hst (lv_room hcat) hd hcs) hS (fun q _ h => hFc q h) hFc (fun r u t H1 locs1 ht hvm hw1 hB hz1 hk1 hS1 => ?_)
  obtain ⟨z, rfl, hp⟩ := hw1
  obtain ⟨hP1, hK1, hD1⟩ := hB
  rw [ht] at hP1
  obtain ⟨hP2, hD2⟩ := gw_back hP hD hk1 hFc hP1 hD1
  exact kk z u H1 locs1 hp ⟨hK, hP2, hD2, hS1, hA⟩
theorem g_callv {post : St → Prop} (C : CallFix p m c cc nL s args lw_all own) (Z : GW D A s H locs d (wr ++ w S)) (hsz : ls.size = nL)
    (hM : gMv l D d w h y bytes maxL rm As S post) (hwd : GoodIn lw_all (wsV own idx Cn y (ws_ y bytes maxL none)))
    (h0 : (w S)[0]? = some (h, .inr (ci, fs))) (hcl : vwCl[ci]? = some (Cn, cq))
    (hd1 : y.cls = Cn ∧ y.cls ≠ "java/lang/invoke/MethodHandle" ∧ y.cls ≠ "java/lang/invoke/VarHandle" ∧ (parseMethodDescriptor y.desc).map (fun d => d.parameters.length) = some n) (hn : As.length = n)
    (hrm : rm.cells = 0 ∧ rm.slots = 0) (hR : rm.frames + 1 ≤ R.frames ∧ 8 + (maxL + 11) + rm.locals ≤ R.locals)
    (hst : st0 = As.reverse ++ .ref h :: rest) (hcat : (rest.map fun v => v.category).sum ≤ 8) (hd : decode cc pc = .ok (.invokevirtual idx, 3)) (hcs : cells ≤ R.cells ∧ slots ≤ R.slots)
    (kk : ∀ (S1 : St) (H1 : Heap) (locs1 : List Loc), post S1 → GW D A s H1 locs1 d (wr ++ w S1) → W p l e R s m args below meth c H1 locs1 cells slots Q (F0 m (pc + 3) ls rest)) :
    W p l e R s m args below meth c H locs cells slots Q (F0 m pc ls st0) := by
  have hFc := gw_F Z
  obtain ⟨hK, hP, hD, hS, hA⟩ := Z
  have hpre := gP_pre (av := .ref h :: As) hK (gw_PR hP) (gw_DR hD)
  refine va_callv (va_runV (As := As) (rest := rest) C (hM H.size) (cwV n C.2.2.2.2 hwd rfl hrm.1 hrm.2 hd1 hR) ⟨hpre.1, va_recv hK (gw_PR hP) hcl h0, hpre.2⟩ rfl hn hsz hst (lv_room hcat) hd hcs) hS (fun q _ h => hFc q h) hFc (fun u t H1 locs1 ht hvm hw1 hB hz1 hk1 hS1 => ?_)
  obtain ⟨hP1, hK1, hD1⟩ := hB
  rw [ht] at hP1
  obtain ⟨hP2, hD2⟩ := gw_back hP hD hk1 hFc hP1 hD1
  exact kk u H1 locs1 hw1 ⟨hK, hP2, hD2, hS1, hA⟩
theorem g_calls {w0 : va_W} {post : Int → Prop} (C : CallFix p m c cc nL s args lw_all own) (Z : GW D A s H locs d w0) (hsz : ls.size = nL)
    (hM : sM l y bytes maxL ret rm As post) (hwd : GoodIn lw_all (va_wsS own idx y (ws_ y bytes maxL ret)))
    (hd1 : y.cls ≠ "java/lang/invoke/MethodHandle" ∧ y.cls ≠ "java/lang/invoke/VarHandle" ∧ (parseMethodDescriptor y.desc).map (fun d => d.parameters.length) = some n) (hn : As.length = n)
    (hrm : rm.cells = 0 ∧ rm.slots = 0) (hR : rm.frames + 1 ≤ R.frames ∧ 8 + (maxL + 11) + rm.locals ≤ R.locals)
    (hst : st0 = As.reverse ++ rest) (hcat : (rest.map fun v => v.category).sum ≤ 8) (hd : decode cc pc = .ok (.invokestatic idx, 3)) (hcs : cells ≤ R.cells ∧ slots ≤ R.slots)
    (kk : ∀ (z : Int) (H1 : Heap) (locs1 : List Loc), post z → GW D A s H1 locs1 d w0 → W p l e R s m args below meth c H1 locs1 cells slots Q (F0 m (pc + 3) ls (.int (iI z) :: rest))) :
    W p l e R s m args below meth c H locs cells slots Q (F0 m pc ls st0) := by
  obtain ⟨hK, hP, hD, hS, hA⟩ := Z
  refine va_calli (va_runS (As := As) (rest := rest) C hM (va_cwS n C.2.2.2.2 hwd rfl hrm.1 hrm.2 hd1 hR) ⟨fun a U g mk q => ⟨q.1, trivial⟩, fun U hU hW => ⟨rfl, trivial⟩⟩ rfl hn hsz hst (lv_room hcat) hd hcs) hS (fun q _ h => h.elim) (fun q h => h.elim) (fun r u t H1 locs1 ht hvm hw1 hB hz1 hk1 hS1 => ?_)
  obtain ⟨z, rfl, hp⟩ := hw1
  exact kk z H1 locs1 hp ⟨hK, hP.kept (fun k q hq => hk1 q.1 ((hP k q hq).lt) (fun f => f)), hD, hS1, hA⟩
theorem g_reti {S0 : St} {post : Int → St → Prop} {z : Int} (C : CallFix p m c cc nL s args lw_all own) (hr : meth.sig.returnType = some .int) (hlk : meth.locks = false) (Z : GW D (va_A (w S0) s.heap.size) s H locs d (w S)) (hd : decode cc pc = .ok (.ireturn, 1)) (hp : post z S) :
    W p l e R s m args below meth c H locs 0 0 (MQ below (gQi D d w (w S0) post s.heap.size) args s 0 0 (va_A (w S0) s.heap.size)) (F0 m pc ls [.int (iI z)]) :=
  W.iret (v := iI z) C.1 C.2.1 hr (fun t ht hW => ⟨⟨iI z, S, rfl, ⟨z, rfl, hp⟩, by rw [ht]; exact Z.2.1, va_K.moved hW.alike Z.1, Z.2.2.1⟩, Z.2.2.2.1.F ht⟩) Z.2.2.2.1.2.2 hd hlk
theorem g_retz {S0 : St} {post : Int → St → Prop} {z : Int} (C : CallFix p m c cc nL s args lw_all own) (hr : meth.sig.returnType = some .boolean) (hlk : meth.locks = false) (Z : GW D (va_A (w S0) s.heap.size) s H locs d (w S)) (hd : decode cc pc = .ok (.ireturn, 1)) (hz : z = 0 ∨ z = 1) (hp : post z S) :
    W p l e R s m args below meth c H locs 0 0 (MQ below (gQi D d w (w S0) post s.heap.size) args s 0 0 (va_A (w S0) s.heap.size)) (F0 m pc ls [.int (iI z)]) :=
  W.zret (v := iI z) C.1 C.2.1 hr (iI_z hz).1 (fun t ht hW => ⟨⟨iI z, S, rfl, ⟨z, rfl, hp⟩, by rw [ht]; exact Z.2.1, va_K.moved hW.alike Z.1, Z.2.2.1⟩, Z.2.2.2.1.F ht⟩) Z.2.2.2.1.2.2 hd hlk
theorem g_retv {S0 : St} {post : St → Prop} (C : CallFix p m c cc nL s args lw_all own) (hr : meth.sig.returnType = none) (hlk : meth.locks = false) (Z : GW D (va_A (w S0) s.heap.size) s H locs d (w S)) (hd : decode cc pc = .ok (.return_, 1)) (hp : post S) :
    W p l e R s m args below meth c H locs 0 0 (MQ below (gQv D d w (w S0) post s.heap.size) args s 0 0 (va_A (w S0) s.heap.size)) (F0 m pc ls []) :=
  W.vret C.1 C.2.1 hr (fun t ht hW => ⟨⟨S, rfl, hp, by rw [ht]; exact Z.2.1, va_K.moved hW.alike Z.1, Z.2.2.1⟩, Z.2.2.2.1.F ht⟩) Z.2.2.2.1.2.2 hd hlk
theorem s_reti {post : Int → Prop} {z : Int} (C : CallFix p m c cc nL s args lw_all own) (hr : meth.sig.returnType = some .int) (hlk : meth.locks = false) (hd : decode cc pc = .ok (.ireturn, 1)) (hp : post z) :
    W p l e R s m args below meth c s.heap [] 0 0 (MQ below (sQ post) args s 0 0 (fun _ => False)) (F0 m pc ls [.int (iI z)]) :=
  W.iret (v := iI z) C.1 C.2.1 hr (fun t ht hW => ⟨⟨iI z, (), rfl, ⟨z, rfl, hp⟩, trivial⟩, ⟨by rw [ht]; exact Nat.le_refl _, fun q _ _ => by rw [ht]⟩⟩) (fun q hq => by cases hq) hd hlk
theorem s_retz {post : Int → Prop} {z : Int} (C : CallFix p m c cc nL s args lw_all own) (hr : meth.sig.returnType = some .boolean) (hlk : meth.locks = false) (hd : decode cc pc = .ok (.ireturn, 1)) (hz : z = 0 ∨ z = 1) (hp : post z) :
    W p l e R s m args below meth c s.heap [] 0 0 (MQ below (sQ post) args s 0 0 (fun _ => False)) (F0 m pc ls [.int (iI z)]) :=
  W.zret (v := iI z) C.1 C.2.1 hr (iI_z hz).1 (fun t ht hW => ⟨⟨iI z, (), rfl, ⟨z, rfl, hp⟩, trivial⟩, ⟨by rw [ht]; exact Nat.le_refl _, fun q _ _ => by rw [ht]⟩⟩) (fun q hq => by cases hq) hd hlk
end GC
/-- a contract out of a walk of the body -/
theorem g_met {l : Launch} {D : va_G} {d : ClassId} {w0 : va_W} {av : List Value} {y : MethodName} {bytes : ByteArray} {maxL : Nat} {ret : Option FieldType} {rm : Room} {Qc : Nat → Array Value → State → Outcome → State → Prop} (hy : plainName y.cls = true) (hL : (lg_sl av).length ≤ maxL)
    (body : ∀ (p : Program) (e : Env) (s : State) (m : MethodId) (args : Array Value) (below : List Frame) (meth : Method) (c : Code), CallFix p m c bytes maxL s args lw_all y.cls → meth.sig.returnType = ret → meth.locks = false → GW D (va_A w0 s.heap.size) s s.heap [] d w0 → ∀ ls : Array Slot, lv_has ls maxL (lv_args 0 av) →
      W p l e rm s m args below meth c s.heap [] 0 0 (MQ below (Qc s.heap.size) args s 0 0 (va_A w0 s.heap.size)) (F0 m 0 ls [])) : ∀ sz : Nat, Met l y (ws_ y bytes maxL ret) rm (gP D d w0 av sz) (Qc sz) 0 0 (va_A w0 sz) := by
  intro sz
  refine Met.ofW (cc := bytes) (maxL := maxL) (ret := ret) hy rfl ?_
  intro p e s m args below meth c s₁ B hml hv
  obtain ⟨rfl, hsz, hP, hK, hD0⟩ := hv
  subst hsz
  have hts := atoms_spec (ws := ws_ y bytes maxL ret) B.pre
  have hts : ∀ w ∈ lw_all, w.before _ s = true := fun w h => hts w (List.mem_cons_of_mem _ h)
  have hl := lv_entry av (n := maxL) hL
  rw [lg_entry_eq]
  exact body p e s m _ below meth c ⟨B.exec, B.bytes, hml, findClass_of_methodNamed B.named, hts⟩ B.returns B.notSynchronized ⟨hK, hP, hD0.self, va_S.rf, fun q h => Or.inr h⟩ _ hl
theorem s_met {l : Launch} {av : List Value} {y : MethodName} {bytes : ByteArray} {maxL : Nat} {ret : Option FieldType} {rm : Room} {post : Int → Prop} (hy : plainName y.cls = true) (hL : (lg_sl av).length ≤ maxL)
    (body : ∀ (p : Program) (e : Env) (s : State) (m : MethodId) (args : Array Value) (below : List Frame) (meth : Method) (c : Code), CallFix p m c bytes maxL s args lw_all y.cls → meth.sig.returnType = ret → meth.locks = false → ∀ ls : Array Slot, lv_has ls maxL (lv_args 0 av) →
      W p l e rm s m args below meth c s.heap [] 0 0 (MQ below (sQ post) args s 0 0 (fun _ => False)) (F0 m 0 ls [])) : sM l y bytes maxL ret rm av post := by
  refine Met.ofW (cc := bytes) (maxL := maxL) (ret := ret) hy rfl ?_
  intro p e s m args below meth c s₁ B hml hv
  obtain ⟨rfl, -⟩ := hv
  have hts := atoms_spec (ws := ws_ y bytes maxL ret) B.pre
  have hts : ∀ w ∈ lw_all, w.before _ s = true := fun w h => hts w (List.mem_cons_of_mem _ h)
  have hl := lv_entry av (n := maxL) hL
  rw [lg_entry_eq]
  exact body p e s m _ below meth c ⟨B.exec, B.bytes, hml, findClass_of_methodNamed B.named, hts⟩ B.returns B.notSynchronized _ hl
end
section
set_option maxRecDepth 100000
/-! ===== the plain words: capped sums, totals, assignments ===== -/
def mo (a b : Int) : Int := if 50000 ≤ a ∨ 50000 ≤ b then 100000 else a + b
def le_ (a b : Int) : Int := if 50000 ≤ a then 100000 else a - b
def aM (a : Int) : Int := if a = 20 then 100000 else a
def cp (a : Int) : Int := if a ≤ 50000 then a else 50000
def bV (v : Int) : Int := if v < 0 ∨ 6 ≤ v then 1 else 0
def bC (v : Int) : Int := if v < 0 ∨ 20 < v then 1 else 0
def pA (t a b f : Int) : Int := if f = 0 then t * 9 + b + 3 * a else t * 9 + a + 3 * b
def sm (f : Int → Int) : Nat → Int
  | 0 => 0
  | n + 1 => sm f n + f (n : Int)
/-- the x and y of a table, the place of the pair that an assignment f takes in it -/
def pl (S : St) (f : Int → Int) (t : Int) : Int := t * 9 + f (S 2 t) + 3 * f (S 3 t)
/-- what an assignment costs by the costs as given (50000: forbidden) -/
def tO (S : St) (f : Int → Int) : Int := cp (sm (fun v => cp (aM (S 0 (v * 3 + f v)))) 6 + sm (fun t => cp (aM (S 4 (pl S f t)))) (S 1 0).toNat)
/-- what it costs by the costs as moved -/
def tM (S : St) (f : Int → Int) : Int := cp (cp (S 6 0) + sm (fun v => cp (S 7 (v * 3 + f v))) 6 + sm (fun t => cp (S 8 (pl S f t))) (S 1 0).toNat)
def vl (f : Int → Int) : Prop := ∀ v : Int, 0 ≤ f v ∧ f v ≤ 2
def b0 (a : Int) : Prop := 0 ≤ a ∧ a ≤ 100000
/-- the costs as given, in their ranges -/
def nOK (S : St) : Prop := (0 ≤ S 1 0 ∧ S 1 0 ≤ 8) ∧ (∀ j, 0 ≤ S 0 j ∧ S 0 j ≤ 20) ∧ (∀ j, 0 ≤ S 2 j ∧ S 2 j ≤ 5) ∧ (∀ j, 0 ≤ S 3 j ∧ S 3 j ≤ 5) ∧ (∀ j, 0 ≤ S 4 j ∧ S 4 j ≤ 20) ∧ (∀ t, 0 ≤ t → t < S 1 0 → S 2 t ≠ S 3 t)
/-- the costs as moved, in their ranges -/
def mOK (S : St) : Prop := (0 ≤ S 6 0 ∧ S 6 0 ≤ 100000) ∧ (∀ j, 0 ≤ S 7 j ∧ S 7 j ≤ 100000) ∧ (∀ j, 0 ≤ S 8 j ∧ S 8 j ≤ 100000)
/-- the digits of an assignment's number: variable 0 is the first -/
def dv (k : Int) : Nat → Int
  | 0 => k
  | n + 1 => dv k n / 3
def dg (k v : Int) : Int := dv k (5 - v).toNat % 3
end
section
set_option maxRecDepth 100000
set_option maxHeartbeats 4000000 in
theorem c_badVariable (l : Launch) (v : Int) (rv : -2147483648 ≤ v ∧ v ≤ 2147483647) : sM l yX0_badVariable cX0_badVariable 1 (some .boolean) (rmv 0) [.int (iI v)] (fun z => z = bV v) := by
  refine s_met (by decide) (Nat.le_of_ble_eq_true rfl) ?_
  intro p e s m args below meth c C hr hlk ls hl
  have C : CallFix p m c cX0_badVariable 1 s args lw_all RX0 := C
  have hx := C.1
  have hb := C.2.1
  have hl : lv_has ls 1 [(0, .int (iI v))] := hl
  refine lv_iload_n hx hb dX0_badVariable_0 rfl (lv_at hl 0 rfl) ?_
  refine z_if_lt (tgt := 10) hx hb dX0_badVariable_1 (by decide) (by omega) (fun c_1 => ?_) (fun c_1 => ?_)
  · refine z_iconst hx hb dX0_badVariable_10 ?_
    refine lv_goto (tgt := 15) hx hb dX0_badVariable_11 (by decide) ?_
    exact s_retz C hr hlk dX0_badVariable_15 (by omega) (by show _ = _; unfold bV; split <;> omega)
  · refine lv_iload_n hx hb dX0_badVariable_4 rfl (lv_at hl 0 rfl) ?_
    refine z_bipush hx hb dX0_badVariable_5 (by decide) ?_
    refine z_icmp_lt (tgt := 14) hx hb dX0_badVariable_7 (by decide) (by omega) (by omega) (fun c_7 => ?_) (fun c_7 => ?_)
    · refine z_iconst hx hb dX0_badVariable_14 ?_
      exact s_retz C hr hlk dX0_badVariable_15 (by omega) (by show _ = _; unfold bV; split <;> omega)
    · refine z_iconst hx hb dX0_badVariable_10 ?_
      refine lv_goto (tgt := 15) hx hb dX0_badVariable_11 (by decide) ?_
      exact s_retz C hr hlk dX0_badVariable_15 (by omega) (by show _ = _; unfold bV; split <;> omega)
set_option maxHeartbeats 4000000 in
theorem c_badCost (l : Launch) (v : Int) (rv : -2147483648 ≤ v ∧ v ≤ 2147483647) : sM l yX0_badCost cX0_badCost 1 (some .boolean) (rmv 0) [.int (iI v)] (fun z => z = bC v) := by
  refine s_met (by decide) (Nat.le_of_ble_eq_true rfl) ?_
  intro p e s m args below meth c C hr hlk ls hl
  have C : CallFix p m c cX0_badCost 1 s args lw_all RX0 := C
  have hx := C.1
  have hb := C.2.1
  have hl : lv_has ls 1 [(0, .int (iI v))] := hl
  refine lv_iload_n hx hb dX0_badCost_0 rfl (lv_at hl 0 rfl) ?_
  refine z_if_lt (tgt := 10) hx hb dX0_badCost_1 (by decide) (by omega) (fun c_1 => ?_) (fun c_1 => ?_)
  · refine z_iconst hx hb dX0_badCost_10 ?_
    refine lv_goto (tgt := 15) hx hb dX0_badCost_11 (by decide) ?_
    exact s_retz C hr hlk dX0_badCost_15 (by omega) (by show _ = _; unfold bC; split <;> omega)
  · refine lv_iload_n hx hb dX0_badCost_4 rfl (lv_at hl 0 rfl) ?_
    refine z_bipush hx hb dX0_badCost_5 (by decide) ?_
    refine z_icmp_le (tgt := 14) hx hb dX0_badCost_7 (by decide) (by omega) (by omega) (fun c_7 => ?_) (fun c_7 => ?_)
    · refine z_iconst hx hb dX0_badCost_14 ?_
      exact s_retz C hr hlk dX0_badCost_15 (by omega) (by show _ = _; unfold bC; split <;> omega)
    · refine z_iconst hx hb dX0_badCost_10 ?_
      refine lv_goto (tgt := 15) hx hb dX0_badCost_11 (by decide) ?_
      exact s_retz C hr hlk dX0_badCost_15 (by omega) (by show _ = _; unfold bC; split <;> omega)
set_option maxHeartbeats 4000000 in
theorem c_asMoved (l : Launch) (v : Int) (rv : -2147483648 ≤ v ∧ v ≤ 2147483647) : sM l yX0_asMoved cX0_asMoved 1 (some .int) (rmv 0) [.int (iI v)] (fun z => z = aM v) := by
  refine s_met (by decide) (Nat.le_of_ble_eq_true rfl) ?_
  intro p e s m args below meth c C hr hlk ls hl
  have C : CallFix p m c cX0_asMoved 1 s args lw_all RX0 := C
  have hx := C.1
  have hb := C.2.1
  have hl : lv_has ls 1 [(0, .int (iI v))] := hl
  refine lv_iload_n hx hb dX0_asMoved_0 rfl (lv_at hl 0 rfl) ?_
  refine z_bipush hx hb dX0_asMoved_1 (by decide) ?_
  refine z_icmp_ne (tgt := 11) hx hb dX0_asMoved_3 (by decide) (by omega) (by omega) (fun c_3 => ?_) (fun c_3 => ?_)
  · refine lv_iload_n hx hb dX0_asMoved_11 rfl (lv_at hl 0 rfl) ?_
    exact s_reti C hr hlk dX0_asMoved_12 (by show _ = _; unfold aM; split <;> omega)
  · refine z_ldc (z := 100000) hx hb C.2.2.2.1 (C.2.2.2.2 _ q125) (by decide) dX0_asMoved_6 ?_
    refine lv_goto (tgt := 12) hx hb dX0_asMoved_8 (by decide) ?_
    exact s_reti C hr hlk dX0_asMoved_12 (by show _ = _; unfold aM; split <;> omega)
set_option maxHeartbeats 4000000 in
theorem c_less (l : Launch) (a : Int) (b : Int) (ra : -2147483648 ≤ a ∧ a ≤ 2147483647) : sM l yX0_less cX0_less 2 (some .int) (rmv 0) [.int (iI a), .int (iI b)] (fun z => z = le_ a b) := by
  refine s_met (by decide) (Nat.le_of_ble_eq_true rfl) ?_
  intro p e s m args below meth c C hr hlk ls hl
  have C : CallFix p m c cX0_less 2 s args lw_all RX0 := C
  have hx := C.1
  have hb := C.2.1
  have hl : lv_has ls 2 [(0, .int (iI a)), (1, .int (iI b))] := hl
  refine lv_iload_n hx hb dX0_less_0 rfl (lv_at hl 0 rfl) ?_
  refine z_ldc (z := 50000) hx hb C.2.2.2.1 (C.2.2.2.2 _ q136) (by decide) dX0_less_1 ?_
  refine z_icmp_lt (tgt := 11) hx hb dX0_less_3 (by decide) (by omega) (by omega) (fun c_3 => ?_) (fun c_3 => ?_)
  · refine lv_iload_n hx hb dX0_less_11 rfl (lv_at hl 0 rfl) ?_
    refine lv_iload_n hx hb dX0_less_12 rfl (lv_at hl 1 rfl) ?_
    refine z_isub hx hb dX0_less_13 ?_
    exact s_reti C hr hlk dX0_less_14 (by show _ = _; unfold le_; split <;> omega)
  · refine z_ldc (z := 100000) hx hb C.2.2.2.1 (C.2.2.2.2 _ q125) (by decide) dX0_less_6 ?_
    refine lv_goto (tgt := 14) hx hb dX0_less_8 (by decide) ?_
    exact s_reti C hr hlk dX0_less_14 (by show _ = _; unfold le_; split <;> omega)
set_option maxHeartbeats 4000000 in
theorem c_more (l : Launch) (a : Int) (b : Int) (ra : -2147483648 ≤ a ∧ a ≤ 2147483647) (rb : -2147483648 ≤ b ∧ b ≤ 2147483647) : sM l yX0_more cX0_more 2 (some .int) (rmv 0) [.int (iI a), .int (iI b)] (fun z => z = mo a b) := by
  refine s_met (by decide) (Nat.le_of_ble_eq_true rfl) ?_
  intro p e s m args below meth c C hr hlk ls hl
  have C : CallFix p m c cX0_more 2 s args lw_all RX0 := C
  have hx := C.1
  have hb := C.2.1
  have hl : lv_has ls 2 [(0, .int (iI a)), (1, .int (iI b))] := hl
  refine lv_iload_n hx hb dX0_more_0 rfl (lv_at hl 0 rfl) ?_
  refine z_ldc (z := 50000) hx hb C.2.2.2.1 (C.2.2.2.2 _ q136) (by decide) dX0_more_1 ?_
  refine z_icmp_ge (tgt := 12) hx hb dX0_more_3 (by decide) (by omega) (by omega) (fun c_3 => ?_) (fun c_3 => ?_)
  · refine z_ldc (z := 100000) hx hb C.2.2.2.1 (C.2.2.2.2 _ q125) (by decide) dX0_more_12 ?_
    refine lv_goto (tgt := 20) hx hb dX0_more_14 (by decide) ?_
    exact s_reti C hr hlk dX0_more_20 (by show _ = _; unfold mo; split <;> omega)
  · refine lv_iload_n hx hb dX0_more_6 rfl (lv_at hl 1 rfl) ?_
    refine z_ldc (z := 50000) hx hb C.2.2.2.1 (C.2.2.2.2 _ q136) (by decide) dX0_more_7 ?_
    refine z_icmp_lt (tgt := 17) hx hb dX0_more_9 (by decide) (by omega) (by omega) (fun c_9 => ?_) (fun c_9 => ?_)
    · refine lv_iload_n hx hb dX0_more_17 rfl (lv_at hl 0 rfl) ?_
      refine lv_iload_n hx hb dX0_more_18 rfl (lv_at hl 1 rfl) ?_
      refine z_iadd hx hb dX0_more_19 ?_
      exact s_reti C hr hlk dX0_more_20 (by show _ = _; unfold mo; split <;> omega)
    · refine z_ldc (z := 100000) hx hb C.2.2.2.1 (C.2.2.2.2 _ q125) (by decide) dX0_more_12 ?_
      refine lv_goto (tgt := 20) hx hb dX0_more_14 (by decide) ?_
      exact s_reti C hr hlk dX0_more_20 (by show _ = _; unfold mo; split <;> omega)
set_option maxHeartbeats 4000000 in
theorem c_pairAt (l : Launch) (t : Int) (a : Int) (b : Int) (f : Int) (rf : -2147483648 ≤ f ∧ f ≤ 2147483647) : sM l yX0_pairAt cX0_pairAt 4 (some .int) (rmv 0) [.int (iI t), .int (iI a), .int (iI b), .int (iI f)] (fun z => z = pA t a b f) := by
  refine s_met (by decide) (Nat.le_of_ble_eq_true rfl) ?_
  intro p e s m args below meth c C hr hlk ls hl
  have C : CallFix p m c cX0_pairAt 4 s args lw_all RX0 := C
  have hx := C.1
  have hb := C.2.1
  have hl : lv_has ls 4 [(0, .int (iI t)), (1, .int (iI a)), (2, .int (iI b)), (3, .int (iI f))] := hl
  refine lv_iload_n hx hb dX0_pairAt_0 rfl (lv_at hl 3 rfl) ?_
  refine z_if_eq (tgt := 17) hx hb dX0_pairAt_1 (by decide) (by omega) (fun c_1 => ?_) (fun c_1 => ?_)
  · refine lv_iload_n hx hb dX0_pairAt_17 rfl (lv_at hl 0 rfl) ?_
    refine z_bipush hx hb dX0_pairAt_18 (by decide) ?_
    refine z_imul hx hb dX0_pairAt_20 ?_
    refine lv_iload_n hx hb dX0_pairAt_21 rfl (lv_at hl 2 rfl) ?_
    refine z_iadd hx hb dX0_pairAt_22 ?_
    refine z_iconst hx hb dX0_pairAt_23 ?_
    refine lv_iload_n hx hb dX0_pairAt_24 rfl (lv_at hl 1 rfl) ?_
    refine z_imul hx hb dX0_pairAt_25 ?_
    refine z_iadd hx hb dX0_pairAt_26 ?_
    exact s_reti C hr hlk dX0_pairAt_27 (by show _ = _; unfold pA; split <;> omega)
  · refine lv_iload_n hx hb dX0_pairAt_4 rfl (lv_at hl 0 rfl) ?_
    refine z_bipush hx hb dX0_pairAt_5 (by decide) ?_
    refine z_imul hx hb dX0_pairAt_7 ?_
    refine lv_iload_n hx hb dX0_pairAt_8 rfl (lv_at hl 1 rfl) ?_
    refine z_iadd hx hb dX0_pairAt_9 ?_
    refine z_iconst hx hb dX0_pairAt_10 ?_
    refine lv_iload_n hx hb dX0_pairAt_11 rfl (lv_at hl 2 rfl) ?_
    refine z_imul hx hb dX0_pairAt_12 ?_
    refine z_iadd hx hb dX0_pairAt_13 ?_
    refine lv_goto (tgt := 27) hx hb dX0_pairAt_14 (by decide) ?_
    exact s_reti C hr hlk dX0_pairAt_27 (by show _ = _; unfold pA; split <;> omega)
end
section
set_option maxRecDepth 100000
set_option maxHeartbeats 8000000 in
theorem kx_open (l : Launch) (D : va_G) (d : ClassId) (h : Nat) (ad : Nat → Nat) (S : St) (v : Int) (hv : 0 ≤ v ∧ v ≤ 5) (hf : -1 ≤ S 9 v ∧ S 9 v ≤ 2) : gMv l D d (wX h ad d) h yX0_open cX0_open 2 (rmv 0) [.int (iI v)] S (fun S' => S' = up S 12 v (if 0 ≤ S 9 v then S 9 v else 0)) := by
  refine g_met (by decide) (Nat.le_of_ble_eq_true rfl) ?_
  intro p e s m args below meth c C hr hlk Z ls hl
  have C : CallFix p m c cX0_open 2 s args lw_all RX0 := C
  have hx := C.1
  have hb := C.2.1
  have hl : lv_has ls 2 [(0, .ref h), (1, .int (iI v))] := hl
  refine lv_aload_n hx hb dX0_open_0 rfl (lv_at hl 0 rfl) ?_
  refine x_get_12 C Z dX0_open_1 ?_
  refine lv_iload_n hx hb dX0_open_4 rfl (lv_at hl 1 rfl) ?_
  refine lv_aload_n hx hb dX0_open_5 rfl (lv_at hl 0 rfl) ?_
  refine x_get_9 C Z dX0_open_6 ?_
  refine lv_iload_n hx hb dX0_open_9 rfl (lv_at hl 1 rfl) ?_
  refine x_ald_9 C Z (e0 := v) (by omega) (by omega) dX0_open_10 ?_
  have q := hf
  refine z_if_lt (tgt := 23) hx hb dX0_open_11 (by decide) (by omega) (fun c_11 => ?_) (fun c_11 => ?_)
  · refine z_iconst hx hb dX0_open_23 ?_
    refine x_ast_12 C Z (e0 := v) (by omega) (by omega) dX0_open_24 (fun S1 H locs eS1 Z => ?_)
    exact g_retv C hr hlk Z dX0_open_25 (by subst eS1; first | rw [if_pos (by omega)] | rw [if_neg (by omega)])
  · refine lv_aload_n hx hb dX0_open_14 rfl (lv_at hl 0 rfl) ?_
    refine x_get_9 C Z dX0_open_15 ?_
    refine lv_iload_n hx hb dX0_open_18 rfl (lv_at hl 1 rfl) ?_
    refine x_ald_9 C Z (e0 := v) (by omega) (by omega) dX0_open_19 ?_
    refine lv_goto (tgt := 24) hx hb dX0_open_20 (by decide) ?_
    refine x_ast_12 C Z (e0 := v) (by omega) (by omega) dX0_open_24 (fun S2 H locs eS2 Z => ?_)
    exact g_retv C hr hlk Z dX0_open_25 (by subst eS2; first | rw [if_pos (by omega)] | rw [if_neg (by omega)])
set_option maxHeartbeats 8000000 in
theorem kx_lastValue (l : Launch) (D : va_G) (d : ClassId) (h : Nat) (ad : Nat → Nat) (S : St) (v : Int) (hv : 0 ≤ v ∧ v ≤ 5) (hf : -1 ≤ S 9 v ∧ S 9 v ≤ 2) : gMi l D d (wX h ad d) h yX0_lastValue cX0_lastValue 2 (some .int) (rmv 0) [.int (iI v)] S (fun z S' => z = (if 0 ≤ S 9 v then S 9 v else 2) ∧ S' = S) := by
  refine g_met (by decide) (Nat.le_of_ble_eq_true rfl) ?_
  intro p e s m args below meth c C hr hlk Z ls hl
  have C : CallFix p m c cX0_lastValue 2 s args lw_all RX0 := C
  have hx := C.1
  have hb := C.2.1
  have hl : lv_has ls 2 [(0, .ref h), (1, .int (iI v))] := hl
  refine lv_aload_n hx hb dX0_lastValue_0 rfl (lv_at hl 0 rfl) ?_
  refine x_get_9 C Z dX0_lastValue_1 ?_
  refine lv_iload_n hx hb dX0_lastValue_4 rfl (lv_at hl 1 rfl) ?_
  refine x_ald_9 C Z (e0 := v) (by omega) (by omega) dX0_lastValue_5 ?_
  refine z_if_lt (tgt := 18) hx hb dX0_lastValue_6 (by decide) (by omega) (fun c_6 => ?_) (fun c_6 => ?_)
  · refine z_iconst hx hb dX0_lastValue_18 ?_
    exact g_reti C hr hlk Z dX0_lastValue_19 (by first | rw [if_pos (by omega)]; exact ⟨rfl, rfl⟩ | rw [if_neg (by omega)]; exact ⟨rfl, rfl⟩)
  · refine lv_aload_n hx hb dX0_lastValue_9 rfl (lv_at hl 0 rfl) ?_
    refine x_get_9 C Z dX0_lastValue_10 ?_
    refine lv_iload_n hx hb dX0_lastValue_13 rfl (lv_at hl 1 rfl) ?_
    refine x_ald_9 C Z (e0 := v) (by omega) (by omega) dX0_lastValue_14 ?_
    refine lv_goto (tgt := 19) hx hb dX0_lastValue_15 (by decide) ?_
    exact g_reti C hr hlk Z dX0_lastValue_19 (by first | rw [if_pos (by omega)]; exact ⟨rfl, rfl⟩ | rw [if_neg (by omega)]; exact ⟨rfl, rfl⟩)
set_option maxHeartbeats 8000000 in
theorem Lx_freeAll {p : Program} {l : Launch} {e : Env} {s : State} {m : MethodId} {args : Array Value} {below : List Frame} {meth : Method} {c : Code} {Q : State → Prop} {D : va_G} {A : Nat → Prop} {d : ClassId} {h : Nat} {ad : Nat → Nat} {R : Room} (C : CallFix p m c cX0_freeAll 2 s args lw_all RX0) (S0 : St) (kk : ∀ (S : St) (H : Heap) (locs : List Loc) (ls : Array Slot), GW D A s H locs d (wX h ad d S) → (∀ k, k ≠ 9 → S k = S0 k) → (∀ j, 0 ≤ j → j < 6 → S 9 j = -1) → W p l e R s m args below meth c H locs 0 0 Q (F0 m 21 ls [])) : ∀ (n : Nat) (v : Int) (S : St) (H : Heap) (locs : List Loc) (ls : Array Slot), 0 ≤ v → v ≤ 6 → 7 ≤ v + n → GW D A s H locs d (wX h ad d S) → (∀ k, k ≠ 9 → S k = S0 k) → (∀ j, 0 ≤ j → j < v → S 9 j = -1) → lv_has ls 2 [(0, .ref h), (1, .int (iI v))] → W p l e R s m args below meth c H locs 0 0 Q (F0 m 2 ls []) := by
  have hx := C.1
  have hb := C.2.1
  intro n
  induction n with
  | zero =>
    intro v S H locs ls h1 h2 h3
    exact absurd h3 (by omega)
  | succ n ih =>
    intro v S H locs ls h1 h2 h3 Z i1 i2 hl
    refine lv_iload_n hx hb dX0_freeAll_2 rfl (lv_at hl 1 rfl) ?_
    refine z_bipush hx hb dX0_freeAll_3 (by decide) ?_
    refine z_icmp_ge (tgt := 21) hx hb dX0_freeAll_5 (by decide) (by omega) (by omega) (fun c_5 => ?_) (fun c_5 => ?_)
    · exact kk S H locs ls Z i1 (fun j a b => i2 j a (by omega))
    · refine lv_aload_n hx hb dX0_freeAll_8 rfl (lv_at hl 0 rfl) ?_
      refine x_get_9 C Z dX0_freeAll_9 ?_
      refine lv_iload_n hx hb dX0_freeAll_12 rfl (lv_at hl 1 rfl) ?_
      refine z_iconst hx hb dX0_freeAll_13 ?_
      refine x_ast_9 C Z (e0 := v) (by omega) (by omega) dX0_freeAll_14 (fun S1 H locs eS1 Z => ?_)
      refine z_iinc (lv' := [(1, .int (iI (v + 1))), (0, .ref h)]) hx hb dX0_freeAll_15 hl (k := 1) rfl (by decide) rfl (fun ls hl => ?_)
      refine lv_goto (tgt := 2) hx hb dX0_freeAll_18 (by decide) ?_
      refine ih (v + 1) S1 H locs ls (by omega) (by omega) (by omega) Z (fun k hk => by rw [eS1, up_n _ _ _ _ _ hk]; exact i1 k hk) (fun j a b => ?_) (lv_sub hl [1, 0] rfl)
      rw [eS1, up_s]
      split
      · rfl
      · exact i2 j a (by omega)
set_option maxHeartbeats 8000000 in
theorem kx_freeAll (l : Launch) (D : va_G) (d : ClassId) (h : Nat) (ad : Nat → Nat) (S : St) : gMv l D d (wX h ad d) h yX0_freeAll cX0_freeAll 2 (rmv 0) [] S (fun S' => (∀ k, k ≠ 9 → S' k = S k) ∧ (∀ j, 0 ≤ j → j < 6 → S' 9 j = -1)) := by
  refine g_met (by decide) (Nat.le_of_ble_eq_true rfl) ?_
  intro p e s m args below meth c C hr hlk Z ls hl
  have C : CallFix p m c cX0_freeAll 2 s args lw_all RX0 := C
  have hx := C.1
  have hb := C.2.1
  have hl : lv_has ls 2 [(0, .ref h)] := hl
  refine z_iconst hx hb dX0_freeAll_0 ?_
  refine lv_istore_n (lv' := [(1, .int (iI 0)), (0, .ref h)]) hx hb dX0_freeAll_1 rfl hl (by decide) rfl (fun ls hl => ?_)
  refine Lx_freeAll C S (fun S1 H locs ls Z i1 i2 => ?_) 7 0 S _ _ ls (by omega) (by omega) (by omega) Z (fun k _ => rfl) (fun j a b => absurd b (by omega)) (lv_sub hl [1, 0] rfl)
  exact g_retv C hr hlk Z dX0_freeAll_21 (⟨i1, i2⟩)
set_option maxHeartbeats 8000000 in
theorem Lx_take {p : Program} {l : Launch} {e : Env} {s : State} {m : MethodId} {args : Array Value} {below : List Frame} {meth : Method} {c : Code} {Q : State → Prop} {D : va_G} {A : Nat → Prop} {d : ClassId} {h : Nat} {ad : Nat → Nat} {R : Room} (C : CallFix p m c cX0_take 3 s args lw_all RX0) (S0 : St) (kk : ∀ (S : St) (H : Heap) (locs : List Loc) (ls : Array Slot), GW D A s H locs d (wX h ad d S) → (∀ k, k ≠ 15 → S k = S0 k) → (∀ j, 0 ≤ j → j < 6 → S 15 j = S0 10 j) → W p l e R s m args below meth c H locs 0 0 Q (F0 m 49 ls [])) : ∀ (n : Nat) (v : Int) (S : St) (H : Heap) (locs : List Loc) (ls : Array Slot), 0 ≤ v → v ≤ 6 → 7 ≤ v + n → GW D A s H locs d (wX h ad d S) → (∀ k, k ≠ 15 → S k = S0 k) → (∀ j, 0 ≤ j → j < v → S 15 j = S0 10 j) → lv_has ls 3 [(0, .ref h), (2, .int (iI v))] → W p l e R s m args below meth c H locs 0 0 Q (F0 m 25 ls []) := by
  have hx := C.1
  have hb := C.2.1
  intro n
  induction n with
  | zero =>
    intro v S H locs ls h1 h2 h3
    exact absurd h3 (by omega)
  | succ n ih =>
    intro v S H locs ls h1 h2 h3 Z i1 i2 hl
    refine lv_iload_n hx hb dX0_take_25 rfl (lv_at hl 1 rfl) ?_
    refine z_bipush hx hb dX0_take_26 (by decide) ?_
    refine z_icmp_ge (tgt := 49) hx hb dX0_take_28 (by decide) (by omega) (by omega) (fun c_28 => ?_) (fun c_28 => ?_)
    · exact kk S H locs ls Z i1 (fun j a b => i2 j a (by omega))
    · refine lv_aload_n hx hb dX0_take_31 rfl (lv_at hl 0 rfl) ?_
      refine x_get_15 C Z dX0_take_32 ?_
      refine lv_iload_n hx hb dX0_take_35 rfl (lv_at hl 1 rfl) ?_
      refine lv_aload_n hx hb dX0_take_36 rfl (lv_at hl 0 rfl) ?_
      refine x_get_10 C Z dX0_take_37 ?_
      refine lv_iload_n hx hb dX0_take_40 rfl (lv_at hl 1 rfl) ?_
      refine x_ald_10 C Z (e0 := v) (by omega) (by omega) dX0_take_41 ?_
      refine x_ast_15 C Z (e0 := v) (by omega) (by omega) dX0_take_42 (fun S1 H locs eS1 Z => ?_)
      refine z_iinc (lv' := [(2, .int (iI (v + 1))), (0, .ref h)]) hx hb dX0_take_43 hl (k := 1) rfl (by decide) rfl (fun ls hl => ?_)
      refine lv_goto (tgt := 25) hx hb dX0_take_46 (by decide) ?_
      refine ih (v + 1) S1 H locs ls (by omega) (by omega) (by omega) Z (fun k hk => by rw [eS1, up_n _ _ _ _ _ hk]; exact i1 k hk) (fun j a b => ?_) (lv_sub hl [1, 0] rfl)
      rw [eS1, up_s]
      split
      · rename_i q
        rw [q, i1 10 (by decide)]
      · exact i2 j a (by omega)
set_option maxHeartbeats 8000000 in
theorem kx_take (l : Launch) (D : va_G) (d : ClassId) (h : Nat) (ad : Nat → Nat) (S : St) (v : Int) (hv : b0 v) (hbb : b0 (S 14 0)) : gMv l D d (wX h ad d) h yX0_take cX0_take 3 (rmv 0) [.int (iI v)] S (fun S' => S' 13 0 = S 13 0 + 1 ∧ (∀ k, k ≠ 13 → k ≠ 14 → k ≠ 15 → S' k = S k) ∧ ((v < S 14 0 ∧ S' 14 0 = v ∧ ∀ j, 0 ≤ j → j < 6 → S' 15 j = S 10 j) ∨ (S 14 0 ≤ v ∧ S' 14 0 = S 14 0 ∧ S' 15 = S 15))) := by
  refine g_met (by decide) (Nat.le_of_ble_eq_true rfl) ?_
  intro p e s m args below meth c C hr hlk Z ls hl
  have C : CallFix p m c cX0_take 3 s args lw_all RX0 := C
  have hx := C.1
  have hb := C.2.1
  have hl : lv_has ls 3 [(0, .ref h), (1, .int (iI v))] := hl
  unfold b0 at hv hbb
  refine lv_aload_n hx hb dX0_take_0 rfl (lv_at hl 0 rfl) ?_
  refine lv_dup hx hb dX0_take_1 rfl ?_
  refine x_get_13 C Z dX0_take_2 ?_
  refine z_iconst hx hb dX0_take_5 ?_
  refine z_iadd hx hb dX0_take_6 ?_
  refine x_put_13 C Z dX0_take_7 (fun S1 H locs eS1 Z => ?_)
  refine lv_iload_n hx hb dX0_take_10 rfl (lv_at hl 1 rfl) ?_
  refine lv_aload_n hx hb dX0_take_11 rfl (lv_at hl 0 rfl) ?_
  refine x_get_14 C Z dX0_take_12 ?_
  have eb : S1 14 0 = S 14 0 := by rw [eS1]; simp [up]
  refine z_icmp_ge (tgt := 49) hx hb dX0_take_15 (by decide) (by omega) (by omega) (fun c_15 => ?_) (fun c_15 => ?_)
  · exact g_retv C hr hlk Z dX0_take_49 (by
      refine ⟨by rw [eS1]; simp [up], fun k h1 h2 h3 => by rw [eS1, up_n _ _ _ _ _ h1], Or.inr ⟨by omega, eb, by rw [eS1, up_n _ _ _ _ _ (by decide)]⟩⟩)
  · refine lv_aload_n hx hb dX0_take_18 rfl (lv_at hl 0 rfl) ?_
    refine lv_iload_n hx hb dX0_take_19 rfl (lv_at hl 1 rfl) ?_
    refine x_put_14 C Z dX0_take_20 (fun S2 H locs eS2 Z => ?_)
    refine z_iconst hx hb dX0_take_23 ?_
    refine lv_istore_n (lv' := [(2, .int (iI 0)), (0, .ref h), (1, .int (iI v))]) hx hb dX0_take_24 rfl hl (by decide) rfl (fun ls hl => ?_)
    refine Lx_take C S2 (fun S9 H locs ls Z i1 i2 => ?_) 7 0 S2 _ _ ls (by omega) (by omega) (by omega) Z (fun k _ => rfl) (fun j a b => absurd b (by omega)) (lv_sub hl [1, 0] rfl)
    exact g_retv C hr hlk Z dX0_take_49 (by
      have f1 : S9 13 0 = S 13 0 + 1 := by rw [i1 13 (by decide), eS2, eS1]; simp [up]
      have f2 : S9 14 0 = v := by rw [i1 14 (by decide), eS2]; simp [up]
      refine ⟨f1, fun k h1 h2 h3 => ?_, Or.inl ⟨by omega, f2, fun j a b => ?_⟩⟩
      · rw [i1 k h3, eS2, eS1, up_n _ _ _ _ _ h2, up_n _ _ _ _ _ h1]
      · rw [i2 j a b, eS2, eS1]; simp [up])
end
section
set_option maxRecDepth 100000
theorem bV_o {z v : Int} (h : z = bV v) : (z = 1 ∧ (v < 0 ∨ 6 ≤ v)) ∨ (z = 0 ∧ 0 ≤ v ∧ v ≤ 5) := by
  unfold bV at h
  split at h <;> omega
theorem bC_o {z v : Int} (h : z = bC v) : (z = 1 ∧ (v < 0 ∨ 20 < v)) ∨ (z = 0 ∧ 0 ≤ v ∧ v ≤ 20) := by
  unfold bC at h
  split at h <;> omega
theorem mo_o {z a b : Int} (h : z = mo a b) : ((50000 ≤ a ∨ 50000 ≤ b) ∧ z = 100000) ∨ (a < 50000 ∧ b < 50000 ∧ z = a + b) := by
  unfold mo at h
  split at h <;> omega
theorem le_o {z a b : Int} (h : z = le_ a b) : (50000 ≤ a ∧ z = 100000) ∨ (a < 50000 ∧ z = a - b) := by
  unfold le_ at h
  split at h <;> omega
theorem aM_o {z a : Int} (h : z = aM a) : (a = 20 ∧ z = 100000) ∨ (a ≠ 20 ∧ z = a) := by
  unfold aM at h
  split at h <;> omega
theorem pA_o {z t a b f : Int} (h : z = pA t a b f) : (f = 0 ∧ z = t * 9 + b + 3 * a) ∨ (f ≠ 0 ∧ z = t * 9 + a + 3 * b) := by
  unfold pA at h
  split at h <;> omega
set_option maxHeartbeats 8000000 in
theorem km_isVariable (l : Launch) (D : va_G) (d : ClassId) (h : Nat) (ad : Nat → Nat) (S : St) (v : Int) (rv : -2147483648 ≤ v ∧ v ≤ 2147483647) : gMi l D d (wM h ad d) h yX1_isVariable cX1_isVariable 2 (some .boolean) (rmv 0) [.int (iI v)] S (fun z S' => ((z = 0 ∧ (v < 0 ∨ 6 ≤ v)) ∨ (z = 1 ∧ 0 ≤ v ∧ v ≤ 5)) ∧ S' = S) := by
  refine g_met (by decide) (Nat.le_of_ble_eq_true rfl) ?_
  intro p e s m args below meth c C hr hlk Z ls hl
  have C : CallFix p m c cX1_isVariable 2 s args lw_all RX1 := C
  have hx := C.1
  have hb := C.2.1
  have hl : lv_has ls 2 [(0, .ref h), (1, .int (iI v))] := hl
  refine lv_iload_n hx hb dX1_isVariable_0 rfl (lv_at hl 1 rfl) ?_
  refine z_if_lt (tgt := 14) hx hb dX1_isVariable_1 (by decide) (by omega) (fun c_1 => ?_) (fun c_1 => ?_)
  · refine z_iconst hx hb dX1_isVariable_14 ?_
    exact g_retz C hr hlk Z dX1_isVariable_15 (by omega) (⟨by omega, rfl⟩)
  · refine lv_iload_n hx hb dX1_isVariable_4 rfl (lv_at hl 1 rfl) ?_
    refine z_bipush hx hb dX1_isVariable_5 (by decide) ?_
    refine z_icmp_ge (tgt := 14) hx hb dX1_isVariable_7 (by decide) (by omega) (by omega) (fun c_7 => ?_) (fun c_7 => ?_)
    · refine z_iconst hx hb dX1_isVariable_14 ?_
      exact g_retz C hr hlk Z dX1_isVariable_15 (by omega) (⟨by omega, rfl⟩)
    · refine z_iconst hx hb dX1_isVariable_10 ?_
      refine lv_goto (tgt := 15) hx hb dX1_isVariable_11 (by decide) ?_
      exact g_retz C hr hlk Z dX1_isVariable_15 (by omega) (⟨by omega, rfl⟩)
set_option maxHeartbeats 8000000 in
theorem kx_cost (l : Launch) (D : va_G) (d : ClassId) (h : Nat) (ad : Nat → Nat) (S : St) (v : Int) (a : Int) (k : Int) (rv : -2147483648 ≤ v ∧ v ≤ 2147483647) (ra : -2147483648 ≤ a ∧ a ≤ 2147483647) (rk : -2147483648 ≤ k ∧ k ≤ 2147483647) : gMi l D d (wX h ad d) h yX0_cost cX0_cost 5 (some .int) (rmv 1) [.int (iI v), .int (iI a), .int (iI k)] S (fun z S' => ((v < 0 ∨ 6 ≤ v) ∧ z = -1 ∧ S' = S) ∨ ((0 ≤ v ∧ v ≤ 5) ∧ (a < 0 ∨ 2 < a) ∧ z = -2 ∧ S' = S) ∨ ((0 ≤ v ∧ v ≤ 5) ∧ (0 ≤ a ∧ a ≤ 2) ∧ (k < 0 ∨ 20 < k) ∧ z = -3 ∧ S' = S) ∨ ((0 ≤ v ∧ v ≤ 5) ∧ (0 ≤ a ∧ a ≤ 2) ∧ (0 ≤ k ∧ k ≤ 20) ∧ z = S 0 (v * 3 + a) ∧ S' = up (up S 0 (v * 3 + a) k) 5 0 0)) := by
  refine g_met (by decide) (Nat.le_of_ble_eq_true rfl) ?_
  intro p e s m args below meth c C hr hlk Z ls hl
  have C : CallFix p m c cX0_cost 5 s args lw_all RX0 := C
  have hx := C.1
  have hb := C.2.1
  have hl : lv_has ls 5 [(0, .ref h), (1, .int (iI v)), (2, .int (iI a)), (3, .int (iI k))] := hl
  refine lv_iload_n hx hb dX0_cost_0 rfl (lv_at hl 1 rfl) ?_
  refine g_calls (n := 1) (As := [.int (iI v)]) (rest := []) C Z hl.1 (c_badVariable l v (by omega)) (lw_S q83 q84 q19 q85) (by decide +kernel) rfl ⟨rfl, rfl⟩ ⟨Nat.le_of_ble_eq_true rfl, Nat.le_of_ble_eq_true rfl⟩ rfl (Nat.le_of_ble_eq_true rfl) dX0_cost_1 ⟨Nat.zero_le _, Nat.zero_le _⟩ (fun z1 H locs hz1 Z => ?_)
  have gz1 := bV_o hz1
  refine z_if_eq (tgt := 9) hx hb dX0_cost_4 (by decide) (by omega) (fun c_4 => ?_) (fun c_4 => ?_)
  · refine lv_iload_n hx hb dX0_cost_9 rfl (lv_at hl 2 rfl) ?_
    refine z_if_lt (tgt := 18) hx hb dX0_cost_10 (by decide) (by omega) (fun c_10 => ?_) (fun c_10 => ?_)
    · refine z_bipush hx hb dX0_cost_18 (by decide) ?_
      exact g_reti C hr hlk Z dX0_cost_20 (Or.inr (Or.inl ⟨by omega, by omega, rfl, rfl⟩))
    · refine lv_iload_n hx hb dX0_cost_13 rfl (lv_at hl 2 rfl) ?_
      refine z_iconst hx hb dX0_cost_14 ?_
      refine z_icmp_lt (tgt := 21) hx hb dX0_cost_15 (by decide) (by omega) (by omega) (fun c_15 => ?_) (fun c_15 => ?_)
      · refine lv_iload_n hx hb dX0_cost_21 rfl (lv_at hl 3 rfl) ?_
        refine g_calls (n := 1) (As := [.int (iI k)]) (rest := []) C Z hl.1 (c_badCost l k (by omega)) (lw_S q86 q87 q19 q88) (by decide +kernel) rfl ⟨rfl, rfl⟩ ⟨Nat.le_of_ble_eq_true rfl, Nat.le_of_ble_eq_true rfl⟩ rfl (Nat.le_of_ble_eq_true rfl) dX0_cost_22 ⟨Nat.zero_le _, Nat.zero_le _⟩ (fun z2 H locs hz2 Z => ?_)
        have gz2 := bC_o hz2
        refine z_if_eq (tgt := 31) hx hb dX0_cost_25 (by decide) (by omega) (fun c_25 => ?_) (fun c_25 => ?_)
        · refine lv_aload_n hx hb dX0_cost_31 rfl (lv_at hl 0 rfl) ?_
          refine x_get_0 C Z dX0_cost_32 ?_
          refine lv_iload_n hx hb dX0_cost_35 rfl (lv_at hl 1 rfl) ?_
          refine z_iconst hx hb dX0_cost_36 ?_
          refine z_imul hx hb dX0_cost_37 ?_
          refine lv_iload_n hx hb dX0_cost_38 rfl (lv_at hl 2 rfl) ?_
          refine z_iadd hx hb dX0_cost_39 ?_
          refine x_ald_0 C Z (e0 := (v * 3) + a) (by omega) (by omega) dX0_cost_40 ?_
          refine lv_istore (lv' := [(4, .int (iI (S 0 ((v * 3) + a)))), (0, .ref h), (1, .int (iI v)), (2, .int (iI a)), (3, .int (iI k))]) hx hb dX0_cost_41 hl (by decide) rfl (fun ls hl => ?_)
          refine lv_aload_n hx hb dX0_cost_43 rfl (lv_at hl 1 rfl) ?_
          refine x_get_0 C Z dX0_cost_44 ?_
          refine lv_iload_n hx hb dX0_cost_47 rfl (lv_at hl 2 rfl) ?_
          refine z_iconst hx hb dX0_cost_48 ?_
          refine z_imul hx hb dX0_cost_49 ?_
          refine lv_iload_n hx hb dX0_cost_50 rfl (lv_at hl 3 rfl) ?_
          refine z_iadd hx hb dX0_cost_51 ?_
          refine lv_iload_n hx hb dX0_cost_52 rfl (lv_at hl 4 rfl) ?_
          refine x_ast_0 C Z (e0 := (v * 3) + a) (by omega) (by omega) dX0_cost_53 (fun S3 H locs eS3 Z => ?_)
          refine lv_aload_n hx hb dX0_cost_54 rfl (lv_at hl 1 rfl) ?_
          refine z_iconst hx hb dX0_cost_55 ?_
          refine x_put_5 C Z (by omega) dX0_cost_56 (fun S4 H locs eS4 Z => ?_)
          refine lv_iload hx hb dX0_cost_59 (lv_at hl 0 rfl) ?_
          exact g_reti C hr hlk Z dX0_cost_61 (Or.inr (Or.inr (Or.inr ⟨by omega, by omega, by omega, rfl, by rw [eS4, eS3]⟩)))
        · refine z_bipush hx hb dX0_cost_28 (by decide) ?_
          exact g_reti C hr hlk Z dX0_cost_30 (Or.inr (Or.inr (Or.inl ⟨by omega, by omega, by omega, rfl, rfl⟩)))
      · refine z_bipush hx hb dX0_cost_18 (by decide) ?_
        exact g_reti C hr hlk Z dX0_cost_20 (Or.inr (Or.inl ⟨by omega, by omega, rfl, rfl⟩))
  · refine z_iconst hx hb dX0_cost_7 ?_
    exact g_reti C hr hlk Z dX0_cost_8 (Or.inl ⟨by omega, rfl, rfl⟩)
set_option maxHeartbeats 8000000 in
theorem kx_pair (l : Launch) (D : va_G) (d : ClassId) (h : Nat) (ad : Nat → Nat) (S : St) (t : Int) (a : Int) (k : Int) (rt : -2147483648 ≤ t ∧ t ≤ 2147483647) (ra : -2147483648 ≤ a ∧ a ≤ 2147483647) (rk : -2147483648 ≤ k ∧ k ≤ 2147483647) (hn : 0 ≤ S 1 0 ∧ S 1 0 ≤ 8) : gMi l D d (wX h ad d) h yX0_pair cX0_pair 5 (some .int) (rmv 1) [.int (iI t), .int (iI a), .int (iI k)] S (fun z S' => ((t < 0 ∨ S 1 0 ≤ t) ∧ z = -4 ∧ S' = S) ∨ ((0 ≤ t ∧ t < S 1 0) ∧ (a < 0 ∨ 8 < a) ∧ z = -2 ∧ S' = S) ∨ ((0 ≤ t ∧ t < S 1 0) ∧ (0 ≤ a ∧ a ≤ 8) ∧ (k < 0 ∨ 20 < k) ∧ z = -3 ∧ S' = S) ∨ ((0 ≤ t ∧ t < S 1 0) ∧ (0 ≤ a ∧ a ≤ 8) ∧ (0 ≤ k ∧ k ≤ 20) ∧ z = S 4 (t * 9 + a) ∧ S' = up (up S 4 (t * 9 + a) k) 5 0 0)) := by
  refine g_met (by decide) (Nat.le_of_ble_eq_true rfl) ?_
  intro p e s m args below meth c C hr hlk Z ls hl
  have C : CallFix p m c cX0_pair 5 s args lw_all RX0 := C
  have hx := C.1
  have hb := C.2.1
  have hl : lv_has ls 5 [(0, .ref h), (1, .int (iI t)), (2, .int (iI a)), (3, .int (iI k))] := hl
  refine lv_iload_n hx hb dX0_pair_0 rfl (lv_at hl 1 rfl) ?_
  refine z_if_lt (tgt := 12) hx hb dX0_pair_1 (by decide) (by omega) (fun c_1 => ?_) (fun c_1 => ?_)
  · refine z_bipush hx hb dX0_pair_12 (by decide) ?_
    exact g_reti C hr hlk Z dX0_pair_14 (Or.inl ⟨by omega, rfl, rfl⟩)
  · refine lv_iload_n hx hb dX0_pair_4 rfl (lv_at hl 1 rfl) ?_
    refine lv_aload_n hx hb dX0_pair_5 rfl (lv_at hl 0 rfl) ?_
    refine x_get_1 C Z dX0_pair_6 ?_
    refine z_icmp_lt (tgt := 15) hx hb dX0_pair_9 (by decide) (by omega) (by omega) (fun c_9 => ?_) (fun c_9 => ?_)
    · refine lv_iload_n hx hb dX0_pair_15 rfl (lv_at hl 2 rfl) ?_
      refine z_if_lt (tgt := 25) hx hb dX0_pair_16 (by decide) (by omega) (fun c_16 => ?_) (fun c_16 => ?_)
      · refine z_bipush hx hb dX0_pair_25 (by decide) ?_
        exact g_reti C hr hlk Z dX0_pair_27 (Or.inr (Or.inl ⟨by omega, by omega, rfl, rfl⟩))
      · refine lv_iload_n hx hb dX0_pair_19 rfl (lv_at hl 2 rfl) ?_
        refine z_bipush hx hb dX0_pair_20 (by decide) ?_
        refine z_icmp_le (tgt := 28) hx hb dX0_pair_22 (by decide) (by omega) (by omega) (fun c_22 => ?_) (fun c_22 => ?_)
        · refine lv_iload_n hx hb dX0_pair_28 rfl (lv_at hl 3 rfl) ?_
          refine g_calls (n := 1) (As := [.int (iI k)]) (rest := []) C Z hl.1 (c_badCost l k (by omega)) (lw_S q86 q87 q19 q88) (by decide +kernel) rfl ⟨rfl, rfl⟩ ⟨Nat.le_of_ble_eq_true rfl, Nat.le_of_ble_eq_true rfl⟩ rfl (Nat.le_of_ble_eq_true rfl) dX0_pair_29 ⟨Nat.zero_le _, Nat.zero_le _⟩ (fun z1 H locs hz1 Z => ?_)
          have gz1 := bC_o hz1
          refine z_if_eq (tgt := 38) hx hb dX0_pair_32 (by decide) (by omega) (fun c_32 => ?_) (fun c_32 => ?_)
          · refine lv_aload_n hx hb dX0_pair_38 rfl (lv_at hl 0 rfl) ?_
            refine x_get_4 C Z dX0_pair_39 ?_
            refine lv_iload_n hx hb dX0_pair_42 rfl (lv_at hl 1 rfl) ?_
            refine z_bipush hx hb dX0_pair_43 (by decide) ?_
            refine z_imul hx hb dX0_pair_45 ?_
            refine lv_iload_n hx hb dX0_pair_46 rfl (lv_at hl 2 rfl) ?_
            refine z_iadd hx hb dX0_pair_47 ?_
            refine x_ald_4 C Z (e0 := (t * 9) + a) (by omega) (by omega) dX0_pair_48 ?_
            refine lv_istore (lv' := [(4, .int (iI (S 4 ((t * 9) + a)))), (0, .ref h), (1, .int (iI t)), (2, .int (iI a)), (3, .int (iI k))]) hx hb dX0_pair_49 hl (by decide) rfl (fun ls hl => ?_)
            refine lv_aload_n hx hb dX0_pair_51 rfl (lv_at hl 1 rfl) ?_
            refine x_get_4 C Z dX0_pair_52 ?_
            refine lv_iload_n hx hb dX0_pair_55 rfl (lv_at hl 2 rfl) ?_
            refine z_bipush hx hb dX0_pair_56 (by decide) ?_
            refine z_imul hx hb dX0_pair_58 ?_
            refine lv_iload_n hx hb dX0_pair_59 rfl (lv_at hl 3 rfl) ?_
            refine z_iadd hx hb dX0_pair_60 ?_
            refine lv_iload_n hx hb dX0_pair_61 rfl (lv_at hl 4 rfl) ?_
            refine x_ast_4 C Z (e0 := (t * 9) + a) (by omega) (by omega) dX0_pair_62 (fun S2 H locs eS2 Z => ?_)
            refine lv_aload_n hx hb dX0_pair_63 rfl (lv_at hl 1 rfl) ?_
            refine z_iconst hx hb dX0_pair_64 ?_
            refine x_put_5 C Z (by omega) dX0_pair_65 (fun S3 H locs eS3 Z => ?_)
            refine lv_iload hx hb dX0_pair_68 (lv_at hl 0 rfl) ?_
            exact g_reti C hr hlk Z dX0_pair_70 (Or.inr (Or.inr (Or.inr ⟨by omega, by omega, by omega, rfl, by rw [eS3, eS2]⟩)))
          · refine z_bipush hx hb dX0_pair_35 (by decide) ?_
            exact g_reti C hr hlk Z dX0_pair_37 (Or.inr (Or.inr (Or.inl ⟨by omega, by omega, by omega, rfl, rfl⟩)))
        · refine z_bipush hx hb dX0_pair_25 (by decide) ?_
          exact g_reti C hr hlk Z dX0_pair_27 (Or.inr (Or.inl ⟨by omega, by omega, rfl, rfl⟩))
    · refine z_bipush hx hb dX0_pair_12 (by decide) ?_
      exact g_reti C hr hlk Z dX0_pair_14 (Or.inl ⟨by omega, rfl, rfl⟩)
set_option maxHeartbeats 8000000 in
theorem kx_drop (l : Launch) (D : va_G) (d : ClassId) (h : Nat) (ad : Nat → Nat) (S : St) (hn : 0 ≤ S 1 0 ∧ S 1 0 ≤ 8) : gMi l D d (wX h ad d) h yX0_drop cX0_drop 1 (some .int) (rmv 0) [] S (fun z S' => (S 1 0 = 0 ∧ z = -4 ∧ S' = S) ∨ (0 < S 1 0 ∧ z = S 1 0 - 1 ∧ S' = up (up S 1 0 (S 1 0 - 1)) 5 0 0)) := by
  refine g_met (by decide) (Nat.le_of_ble_eq_true rfl) ?_
  intro p e s m args below meth c C hr hlk Z ls hl
  have C : CallFix p m c cX0_drop 1 s args lw_all RX0 := C
  have hx := C.1
  have hb := C.2.1
  have hl : lv_has ls 1 [(0, .ref h)] := hl
  refine lv_aload_n hx hb dX0_drop_0 rfl (lv_at hl 0 rfl) ?_
  refine x_get_1 C Z dX0_drop_1 ?_
  refine z_if_ne (tgt := 10) hx hb dX0_drop_4 (by decide) (by omega) (fun c_4 => ?_) (fun c_4 => ?_)
  · refine lv_aload_n hx hb dX0_drop_10 rfl (lv_at hl 0 rfl) ?_
    refine lv_dup hx hb dX0_drop_11 rfl ?_
    refine x_get_1 C Z dX0_drop_12 ?_
    refine z_iconst hx hb dX0_drop_15 ?_
    refine z_isub hx hb dX0_drop_16 ?_
    refine x_put_1 C Z dX0_drop_17 (fun S1 H locs eS1 Z => ?_)
    refine lv_aload_n hx hb dX0_drop_20 rfl (lv_at hl 0 rfl) ?_
    refine z_iconst hx hb dX0_drop_21 ?_
    refine x_put_5 C Z (by omega) dX0_drop_22 (fun S2 H locs eS2 Z => ?_)
    refine lv_aload_n hx hb dX0_drop_25 rfl (lv_at hl 0 rfl) ?_
    refine x_get_1 C Z dX0_drop_26 ?_
    exact g_reti C hr hlk Z dX0_drop_29 (Or.inr ⟨by omega, by rw [eS2, eS1]; simp [up], by rw [eS2, eS1]⟩)
  · refine z_bipush hx hb dX0_drop_7 (by decide) ?_
    exact g_reti C hr hlk Z dX0_drop_9 (Or.inl ⟨by omega, rfl, rfl⟩)
set_option maxHeartbeats 8000000 in
theorem Lx_table {p : Program} {l : Launch} {e : Env} {s : State} {m : MethodId} {args : Array Value} {below : List Frame} {meth : Method} {c : Code} {Q : State → Prop} {D : va_G} {A : Nat → Prop} {d : ClassId} {h : Nat} {ad : Nat → Nat} {R : Room} (C : CallFix p m c cX0_table 4 s args lw_all RX0) (S0 : St) (hn : 0 ≤ S0 1 0 ∧ S0 1 0 ≤ 7) (kk : ∀ (S : St) (H : Heap) (locs : List Loc) (ls : Array Slot), GW D A s H locs d (wX h ad d S) → (∀ k, k ≠ 4 → S k = S0 k) → (∀ j, S 4 j = if S0 1 0 * 9 ≤ j ∧ j < S0 1 0 * 9 + 9 then 0 else S0 4 j) → lv_has ls 4 [(0, .ref h)] → W p l e R s m args below meth c H locs 0 0 Q (F0 m 82 ls [])) : ∀ (n : Nat) (v : Int) (S : St) (H : Heap) (locs : List Loc) (ls : Array Slot), 0 ≤ v → v ≤ 9 → 10 ≤ v + n → GW D A s H locs d (wX h ad d S) → (∀ k, k ≠ 4 → S k = S0 k) → (∀ j, S 4 j = if S0 1 0 * 9 ≤ j ∧ j < S0 1 0 * 9 + v then 0 else S0 4 j) → lv_has ls 4 [(0, .ref h), (3, .int (iI v))] → W p l e R s m args below meth c H locs 0 0 Q (F0 m 55 ls []) := by
  have hx := C.1
  have hb := C.2.1
  intro n
  induction n with
  | zero =>
    intro v S H locs ls h1 h2 h3
    exact absurd h3 (by omega)
  | succ n ih =>
    intro v S H locs ls h1 h2 h3 Z i1 i2 hl
    have en : S 1 0 = S0 1 0 := by rw [i1 1 (by decide)]
    refine lv_iload_n hx hb dX0_table_55 rfl (lv_at hl 1 rfl) ?_
    refine z_bipush hx hb dX0_table_56 (by decide) ?_
    refine z_icmp_ge (tgt := 82) hx hb dX0_table_58 (by decide) (by omega) (by omega) (fun c_58 => ?_) (fun c_58 => ?_)
    · have ev : v = 9 := by omega
      subst ev
      exact kk S H locs ls Z i1 i2 (lv_sub hl [0] rfl)
    · refine lv_aload_n hx hb dX0_table_61 rfl (lv_at hl 0 rfl) ?_
      refine x_get_4 C Z dX0_table_62 ?_
      refine lv_aload_n hx hb dX0_table_65 rfl (lv_at hl 0 rfl) ?_
      refine x_get_1 C Z dX0_table_66 ?_
      refine z_bipush hx hb dX0_table_69 (by decide) ?_
      refine z_imul hx hb dX0_table_71 ?_
      refine lv_iload_n hx hb dX0_table_72 rfl (lv_at hl 1 rfl) ?_
      refine z_iadd hx hb dX0_table_73 ?_
      refine z_iconst hx hb dX0_table_74 ?_
      refine x_ast_4 C Z (e0 := ((S 1 0) * 9) + v) (by omega) (by omega) dX0_table_75 (fun S1 H locs eS1 Z => ?_)
      refine z_iinc (lv' := [(3, .int (iI (v + 1))), (0, .ref h)]) hx hb dX0_table_76 hl (k := 1) rfl (by decide) rfl (fun ls hl => ?_)
      refine lv_goto (tgt := 55) hx hb dX0_table_79 (by decide) ?_
      refine ih (v + 1) S1 H locs ls (by omega) (by omega) (by omega) Z (fun k hk => by rw [eS1, up_n _ _ _ _ _ hk]; exact i1 k hk) (fun j => ?_) (lv_sub hl [1, 0] rfl)
      rw [eS1, up_s, i2 j, en]
      by_cases q : j = S0 1 0 * 9 + v
      · rw [if_pos q, if_pos (by omega)]
      · rw [if_neg q]
        by_cases q2 : S0 1 0 * 9 ≤ j ∧ j < S0 1 0 * 9 + v
        · rw [if_pos q2, if_pos (by omega)]
        · rw [if_neg q2, if_neg (by omega)]
set_option maxHeartbeats 8000000 in
theorem kx_table (l : Launch) (D : va_G) (d : ClassId) (h : Nat) (ad : Nat → Nat) (S : St) (u : Int) (v : Int) (ru : -2147483648 ≤ u ∧ u ≤ 2147483647) (rv : -2147483648 ≤ v ∧ v ≤ 2147483647) (hn : 0 ≤ S 1 0 ∧ S 1 0 ≤ 8) : gMi l D d (wX h ad d) h yX0_table cX0_table 4 (some .int) (rmv 1) [.int (iI u), .int (iI v)] S (fun z S' => ((u < 0 ∨ 6 ≤ u ∨ v < 0 ∨ 6 ≤ v ∨ u = v) ∧ z = -1 ∧ S' = S) ∨ ((0 ≤ u ∧ u ≤ 5 ∧ 0 ≤ v ∧ v ≤ 5 ∧ u ≠ v) ∧ S 1 0 = 8 ∧ z = -5 ∧ S' = S) ∨ ((0 ≤ u ∧ u ≤ 5 ∧ 0 ≤ v ∧ v ≤ 5 ∧ u ≠ v) ∧ S 1 0 ≤ 7 ∧ z = S 1 0 ∧ S' 1 0 = S 1 0 + 1 ∧ S' 5 0 = 0 ∧ (∀ j, S' 2 j = if j = S 1 0 then u else S 2 j) ∧ (∀ j, S' 3 j = if j = S 1 0 then v else S 3 j) ∧ (∀ j, S' 4 j = if S 1 0 * 9 ≤ j ∧ j < S 1 0 * 9 + 9 then 0 else S 4 j) ∧ (∀ k, k ≠ 1 → k ≠ 2 → k ≠ 3 → k ≠ 4 → k ≠ 5 → S' k = S k))) := by
  refine g_met (by decide) (Nat.le_of_ble_eq_true rfl) ?_
  intro p e s m args below meth c C hr hlk Z ls hl
  have C : CallFix p m c cX0_table 4 s args lw_all RX0 := C
  have hx := C.1
  have hb := C.2.1
  have hl : lv_has ls 4 [(0, .ref h), (1, .int (iI u)), (2, .int (iI v))] := hl
  refine lv_iload_n hx hb dX0_table_0 rfl (lv_at hl 1 rfl) ?_
  refine g_calls (n := 1) (As := [.int (iI u)]) (rest := []) C Z hl.1 (c_badVariable l u (by omega)) (lw_S q83 q84 q19 q85) (by decide +kernel) rfl ⟨rfl, rfl⟩ ⟨Nat.le_of_ble_eq_true rfl, Nat.le_of_ble_eq_true rfl⟩ rfl (Nat.le_of_ble_eq_true rfl) dX0_table_1 ⟨Nat.zero_le _, Nat.zero_le _⟩ (fun z1 H locs hz1 Z => ?_)
  have gz1 := bV_o hz1
  refine z_if_ne (tgt := 19) hx hb dX0_table_4 (by decide) (by omega) (fun c_4 => ?_) (fun c_4 => ?_)
  · refine z_iconst hx hb dX0_table_19 ?_
    exact g_reti C hr hlk Z dX0_table_20 (Or.inl ⟨by omega, rfl, rfl⟩)
  · refine lv_iload_n hx hb dX0_table_7 rfl (lv_at hl 2 rfl) ?_
    refine g_calls (n := 1) (As := [.int (iI v)]) (rest := []) C Z hl.1 (c_badVariable l v (by omega)) (lw_S q83 q84 q19 q85) (by decide +kernel) rfl ⟨rfl, rfl⟩ ⟨Nat.le_of_ble_eq_true rfl, Nat.le_of_ble_eq_true rfl⟩ rfl (Nat.le_of_ble_eq_true rfl) dX0_table_8 ⟨Nat.zero_le _, Nat.zero_le _⟩ (fun z2 H locs hz2 Z => ?_)
    have gz2 := bV_o hz2
    refine z_if_ne (tgt := 19) hx hb dX0_table_11 (by decide) (by omega) (fun c_11 => ?_) (fun c_11 => ?_)
    · refine z_iconst hx hb dX0_table_19 ?_
      exact g_reti C hr hlk Z dX0_table_20 (Or.inl ⟨by omega, rfl, rfl⟩)
    · refine lv_iload_n hx hb dX0_table_14 rfl (lv_at hl 1 rfl) ?_
      refine lv_iload_n hx hb dX0_table_15 rfl (lv_at hl 2 rfl) ?_
      refine z_icmp_ne (tgt := 21) hx hb dX0_table_16 (by decide) (by omega) (by omega) (fun c_16 => ?_) (fun c_16 => ?_)
      · refine lv_aload_n hx hb dX0_table_21 rfl (lv_at hl 0 rfl) ?_
        refine x_get_1 C Z dX0_table_22 ?_
        refine z_bipush hx hb dX0_table_25 (by decide) ?_
        refine z_icmp_lt (tgt := 33) hx hb dX0_table_27 (by decide) (by omega) (by omega) (fun c_27 => ?_) (fun c_27 => ?_)
        · refine lv_aload_n hx hb dX0_table_33 rfl (lv_at hl 0 rfl) ?_
          refine x_get_2 C Z dX0_table_34 ?_
          refine lv_aload_n hx hb dX0_table_37 rfl (lv_at hl 0 rfl) ?_
          refine x_get_1 C Z dX0_table_38 ?_
          refine lv_iload_n hx hb dX0_table_41 rfl (lv_at hl 1 rfl) ?_
          refine x_ast_2 C Z (e0 := S 1 0) (by omega) (by omega) dX0_table_42 (fun S3 H locs eS3 Z => ?_)
          refine lv_aload_n hx hb dX0_table_43 rfl (lv_at hl 0 rfl) ?_
          refine x_get_3 C Z dX0_table_44 ?_
          refine lv_aload_n hx hb dX0_table_47 rfl (lv_at hl 0 rfl) ?_
          refine x_get_1 C Z dX0_table_48 ?_
          refine lv_iload_n hx hb dX0_table_51 rfl (lv_at hl 2 rfl) ?_
          have en : S3 1 0 = S 1 0 := by rw [eS3, up_n _ _ _ _ _ (by decide)]
          refine x_ast_3 C Z (e0 := S3 1 0) (by omega) (by omega) dX0_table_52 (fun S4 H locs eS4 Z => ?_)
          refine z_iconst hx hb dX0_table_53 ?_
          refine lv_istore_n (lv' := [(3, .int (iI 0)), (0, .ref h), (1, .int (iI u)), (2, .int (iI v))]) hx hb dX0_table_54 rfl hl (by decide) rfl (fun ls hl => ?_)
          have en : S4 1 0 = S 1 0 := by rw [eS4, eS3, up_n _ _ _ _ _ (by decide), up_n _ _ _ _ _ (by decide)]
          refine Lx_table C S4 (by omega) (fun S9 H locs ls Z i1 i2 hl => ?_) 10 0 S4 _ _ ls (by omega) (by omega) (by omega) Z (fun k _ => rfl) (fun j => by rw [if_neg (by omega)]) (lv_sub hl [1, 0] rfl)
          refine lv_aload_n hx hb dX0_table_82 rfl (lv_at hl 0 rfl) ?_
          refine lv_dup hx hb dX0_table_83 rfl ?_
          refine x_get_1 C Z dX0_table_84 ?_
          refine z_iconst hx hb dX0_table_87 ?_
          refine z_iadd hx hb dX0_table_88 ?_
          refine x_put_1 C Z dX0_table_89 (fun S5 H locs eS5 Z => ?_)
          refine lv_aload_n hx hb dX0_table_92 rfl (lv_at hl 0 rfl) ?_
          refine z_iconst hx hb dX0_table_93 ?_
          refine x_put_5 C Z (by omega) dX0_table_94 (fun S6 H locs eS6 Z => ?_)
          refine lv_aload_n hx hb dX0_table_97 rfl (lv_at hl 0 rfl) ?_
          refine x_get_1 C Z dX0_table_98 ?_
          refine z_iconst hx hb dX0_table_101 ?_
          refine z_isub hx hb dX0_table_102 ?_
          exact g_reti C hr hlk Z dX0_table_103 (by
            have f1 : S6 1 0 = S 1 0 + 1 := by
              have q : S9 1 0 = S 1 0 := by rw [i1 1 (by decide)]; exact en
              rw [eS6, eS5]; simp [up, q]
            refine Or.inr (Or.inr ⟨by omega, by omega, by omega, f1, by rw [eS6]; simp [up], fun j => ?_, fun j => ?_, fun j => ?_, fun k h1 h2 h3 h4 h5 => ?_⟩)
            · rw [eS6, eS5, up_n _ _ _ _ _ (by decide), up_n _ _ _ _ _ (by decide), i1 2 (by decide), eS4, eS3, up_n _ _ _ _ _ (by decide), up_s]
            · rw [eS6, eS5, up_n _ _ _ _ _ (by decide), up_n _ _ _ _ _ (by decide), i1 3 (by decide), eS4, up_s]
              have q : S3 1 0 = S 1 0 := by rw [eS3, up_n _ _ _ _ _ (by decide)]
              rw [q, eS3, up_n _ _ _ _ _ (by decide)]
            · rw [eS6, eS5, up_n _ _ _ _ _ (by decide), up_n _ _ _ _ _ (by decide), i2 j, en]
              rw [eS4, eS3, up_n _ _ _ _ _ (by decide), up_n _ _ _ _ _ (by decide)]
            · rw [eS6, eS5, up_n _ _ _ _ _ h5, up_n _ _ _ _ _ h1, i1 k h4, eS4, eS3, up_n _ _ _ _ _ h3, up_n _ _ _ _ _ h2])
        · refine z_bipush hx hb dX0_table_30 (by decide) ?_
          exact g_reti C hr hlk Z dX0_table_32 (Or.inr (Or.inl ⟨by omega, by omega, rfl, rfl⟩))
      · refine z_iconst hx hb dX0_table_19 ?_
        exact g_reti C hr hlk Z dX0_table_20 (Or.inl ⟨by omega, rfl, rfl⟩)
set_option maxHeartbeats 8000000 in
theorem km_cost (l : Launch) (D : va_G) (d : ClassId) (h : Nat) (ad : Nat → Nat) (S : St) (v : Int) (a : Int) (k : Int) (rv : -2147483648 ≤ v ∧ v ≤ 2147483647) (ra : -2147483648 ≤ a ∧ a ≤ 2147483647) (rk : -2147483648 ≤ k ∧ k ≤ 2147483647) : gMi l D d (wM h ad d) h yX1_cost cX1_cost 5 (some .int) (rmv 1) [.int (iI v), .int (iI a), .int (iI k)] S (fun z S' => ((v < 0 ∨ 6 ≤ v) ∧ z = -1 ∧ S' = S) ∨ ((0 ≤ v ∧ v ≤ 5) ∧ (a < 0 ∨ 2 < a) ∧ z = -2 ∧ S' = S) ∨ ((0 ≤ v ∧ v ≤ 5) ∧ (0 ≤ a ∧ a ≤ 2) ∧ (k < 0 ∨ 20 < k) ∧ z = -3 ∧ S' = S) ∨ ((0 ≤ v ∧ v ≤ 5) ∧ (0 ≤ a ∧ a ≤ 2) ∧ (0 ≤ k ∧ k ≤ 20) ∧ z = S 0 (v * 3 + a) ∧ S' = up (up S 0 (v * 3 + a) k) 6 0 0)) := by
  refine g_met (by decide) (Nat.le_of_ble_eq_true rfl) ?_
  intro p e s m args below meth c C hr hlk Z ls hl
  have C : CallFix p m c cX1_cost 5 s args lw_all RX1 := C
  have hx := C.1
  have hb := C.2.1
  have hl : lv_has ls 5 [(0, .ref h), (1, .int (iI v)), (2, .int (iI a)), (3, .int (iI k))] := hl
  refine lv_aload_n hx hb dX1_cost_0 rfl (lv_at hl 0 rfl) ?_
  refine lv_iload_n hx hb dX1_cost_1 rfl (lv_at hl 1 rfl) ?_
  refine g_calli (n := 1) (wr := []) (w := wM h ad d) (As := [.int (iI v)]) (rest := []) C Z hl.1 (km_isVariable l D d h ad S v (by omega)) (lw_V q228 q230 qs13 q20 q231) rfl rfl (by decide +kernel) rfl ⟨rfl, rfl⟩ ⟨Nat.le_of_ble_eq_true rfl, Nat.le_of_ble_eq_true rfl⟩ rfl (Nat.le_of_ble_eq_true rfl) dX1_cost_2 ⟨Nat.zero_le _, Nat.zero_le _⟩ (fun z1 S2 H locs hz1 Z => ?_)
  have Z : GW D _ s H locs d (wM h ad d S2) := Z
  rw [hz1.2] at Z
  have gz1 := hz1.1
  refine z_if_ne (tgt := 10) hx hb dX1_cost_5 (by decide) (by omega) (fun c_5 => ?_) (fun c_5 => ?_)
  · refine lv_iload_n hx hb dX1_cost_10 rfl (lv_at hl 2 rfl) ?_
    refine z_if_lt (tgt := 19) hx hb dX1_cost_11 (by decide) (by omega) (fun c_11 => ?_) (fun c_11 => ?_)
    · refine z_bipush hx hb dX1_cost_19 (by decide) ?_
      exact g_reti C hr hlk Z dX1_cost_21 (Or.inr (Or.inl ⟨by omega, by omega, rfl, rfl⟩))
    · refine lv_iload_n hx hb dX1_cost_14 rfl (lv_at hl 2 rfl) ?_
      refine z_iconst hx hb dX1_cost_15 ?_
      refine z_icmp_le (tgt := 22) hx hb dX1_cost_16 (by decide) (by omega) (by omega) (fun c_16 => ?_) (fun c_16 => ?_)
      · refine lv_iload_n hx hb dX1_cost_22 rfl (lv_at hl 3 rfl) ?_
        refine z_if_lt (tgt := 32) hx hb dX1_cost_23 (by decide) (by omega) (fun c_23 => ?_) (fun c_23 => ?_)
        · refine z_bipush hx hb dX1_cost_32 (by decide) ?_
          exact g_reti C hr hlk Z dX1_cost_34 (Or.inr (Or.inr (Or.inl ⟨by omega, by omega, by omega, rfl, rfl⟩)))
        · refine lv_iload_n hx hb dX1_cost_26 rfl (lv_at hl 3 rfl) ?_
          refine z_bipush hx hb dX1_cost_27 (by decide) ?_
          refine z_icmp_le (tgt := 35) hx hb dX1_cost_29 (by decide) (by omega) (by omega) (fun c_29 => ?_) (fun c_29 => ?_)
          · refine lv_aload_n hx hb dX1_cost_35 rfl (lv_at hl 0 rfl) ?_
            refine m_get_0 C Z dX1_cost_36 ?_
            refine lv_iload_n hx hb dX1_cost_39 rfl (lv_at hl 1 rfl) ?_
            refine z_iconst hx hb dX1_cost_40 ?_
            refine z_imul hx hb dX1_cost_41 ?_
            refine lv_iload_n hx hb dX1_cost_42 rfl (lv_at hl 2 rfl) ?_
            refine z_iadd hx hb dX1_cost_43 ?_
            refine m_ald_0 C Z (e0 := (v * 3) + a) (by omega) (by omega) dX1_cost_44 ?_
            refine lv_istore (lv' := [(4, .int (iI (S 0 ((v * 3) + a)))), (0, .ref h), (1, .int (iI v)), (2, .int (iI a)), (3, .int (iI k))]) hx hb dX1_cost_45 hl (by decide) rfl (fun ls hl => ?_)
            refine lv_aload_n hx hb dX1_cost_47 rfl (lv_at hl 1 rfl) ?_
            refine m_get_0 C Z dX1_cost_48 ?_
            refine lv_iload_n hx hb dX1_cost_51 rfl (lv_at hl 2 rfl) ?_
            refine z_iconst hx hb dX1_cost_52 ?_
            refine z_imul hx hb dX1_cost_53 ?_
            refine lv_iload_n hx hb dX1_cost_54 rfl (lv_at hl 3 rfl) ?_
            refine z_iadd hx hb dX1_cost_55 ?_
            refine lv_iload_n hx hb dX1_cost_56 rfl (lv_at hl 4 rfl) ?_
            refine m_ast_0 C Z (e0 := (v * 3) + a) (by omega) (by omega) dX1_cost_57 (fun S3 H locs eS3 Z => ?_)
            refine lv_aload_n hx hb dX1_cost_58 rfl (lv_at hl 1 rfl) ?_
            refine z_iconst hx hb dX1_cost_59 ?_
            refine m_put_6 C Z (by omega) dX1_cost_60 (fun S4 H locs eS4 Z => ?_)
            refine lv_iload hx hb dX1_cost_63 (lv_at hl 0 rfl) ?_
            exact g_reti C hr hlk Z dX1_cost_65 (Or.inr (Or.inr (Or.inr ⟨by omega, by omega, by omega, rfl, by rw [eS4, eS3]⟩)))
          · refine z_bipush hx hb dX1_cost_32 (by decide) ?_
            exact g_reti C hr hlk Z dX1_cost_34 (Or.inr (Or.inr (Or.inl ⟨by omega, by omega, by omega, rfl, rfl⟩)))
      · refine z_bipush hx hb dX1_cost_19 (by decide) ?_
        exact g_reti C hr hlk Z dX1_cost_21 (Or.inr (Or.inl ⟨by omega, by omega, rfl, rfl⟩))
  · refine z_iconst hx hb dX1_cost_8 ?_
    exact g_reti C hr hlk Z dX1_cost_9 (Or.inl ⟨by omega, rfl, rfl⟩)
set_option maxHeartbeats 8000000 in
theorem km_pair (l : Launch) (D : va_G) (d : ClassId) (h : Nat) (ad : Nat → Nat) (S : St) (t : Int) (a : Int) (k : Int) (rt : -2147483648 ≤ t ∧ t ≤ 2147483647) (ra : -2147483648 ≤ a ∧ a ≤ 2147483647) (rk : -2147483648 ≤ k ∧ k ≤ 2147483647) (hn : 0 ≤ S 4 0 ∧ S 4 0 ≤ 8) : gMi l D d (wM h ad d) h yX1_pair cX1_pair 5 (some .int) (rmv 1) [.int (iI t), .int (iI a), .int (iI k)] S (fun z S' => ((t < 0 ∨ S 4 0 ≤ t) ∧ z = -4 ∧ S' = S) ∨ ((0 ≤ t ∧ t < S 4 0) ∧ (a < 0 ∨ 8 < a) ∧ z = -2 ∧ S' = S) ∨ ((0 ≤ t ∧ t < S 4 0) ∧ (0 ≤ a ∧ a ≤ 8) ∧ (k < 0 ∨ 20 < k) ∧ z = -3 ∧ S' = S) ∨ ((0 ≤ t ∧ t < S 4 0) ∧ (0 ≤ a ∧ a ≤ 8) ∧ (0 ≤ k ∧ k ≤ 20) ∧ z = S 3 (t * 9 + a) ∧ S' = up (up S 3 (t * 9 + a) k) 6 0 0)) := by
  refine g_met (by decide) (Nat.le_of_ble_eq_true rfl) ?_
  intro p e s m args below meth c C hr hlk Z ls hl
  have C : CallFix p m c cX1_pair 5 s args lw_all RX1 := C
  have hx := C.1
  have hb := C.2.1
  have hl : lv_has ls 5 [(0, .ref h), (1, .int (iI t)), (2, .int (iI a)), (3, .int (iI k))] := hl
  refine lv_iload_n hx hb dX1_pair_0 rfl (lv_at hl 1 rfl) ?_
  refine z_if_lt (tgt := 12) hx hb dX1_pair_1 (by decide) (by omega) (fun c_1 => ?_) (fun c_1 => ?_)
  · refine z_bipush hx hb dX1_pair_12 (by decide) ?_
    exact g_reti C hr hlk Z dX1_pair_14 (Or.inl ⟨by omega, rfl, rfl⟩)
  · refine lv_iload_n hx hb dX1_pair_4 rfl (lv_at hl 1 rfl) ?_
    refine lv_aload_n hx hb dX1_pair_5 rfl (lv_at hl 0 rfl) ?_
    refine m_get_4 C Z dX1_pair_6 ?_
    refine z_icmp_lt (tgt := 15) hx hb dX1_pair_9 (by decide) (by omega) (by omega) (fun c_9 => ?_) (fun c_9 => ?_)
    · refine lv_iload_n hx hb dX1_pair_15 rfl (lv_at hl 2 rfl) ?_
      refine z_if_lt (tgt := 25) hx hb dX1_pair_16 (by decide) (by omega) (fun c_16 => ?_) (fun c_16 => ?_)
      · refine z_bipush hx hb dX1_pair_25 (by decide) ?_
        exact g_reti C hr hlk Z dX1_pair_27 (Or.inr (Or.inl ⟨by omega, by omega, rfl, rfl⟩))
      · refine lv_iload_n hx hb dX1_pair_19 rfl (lv_at hl 2 rfl) ?_
        refine z_bipush hx hb dX1_pair_20 (by decide) ?_
        refine z_icmp_le (tgt := 28) hx hb dX1_pair_22 (by decide) (by omega) (by omega) (fun c_22 => ?_) (fun c_22 => ?_)
        · refine lv_iload_n hx hb dX1_pair_28 rfl (lv_at hl 3 rfl) ?_
          refine z_if_lt (tgt := 38) hx hb dX1_pair_29 (by decide) (by omega) (fun c_29 => ?_) (fun c_29 => ?_)
          · refine z_bipush hx hb dX1_pair_38 (by decide) ?_
            exact g_reti C hr hlk Z dX1_pair_40 (Or.inr (Or.inr (Or.inl ⟨by omega, by omega, by omega, rfl, rfl⟩)))
          · refine lv_iload_n hx hb dX1_pair_32 rfl (lv_at hl 3 rfl) ?_
            refine z_bipush hx hb dX1_pair_33 (by decide) ?_
            refine z_icmp_le (tgt := 41) hx hb dX1_pair_35 (by decide) (by omega) (by omega) (fun c_35 => ?_) (fun c_35 => ?_)
            · refine lv_aload_n hx hb dX1_pair_41 rfl (lv_at hl 0 rfl) ?_
              refine m_get_3 C Z dX1_pair_42 ?_
              refine lv_iload_n hx hb dX1_pair_45 rfl (lv_at hl 1 rfl) ?_
              refine z_bipush hx hb dX1_pair_46 (by decide) ?_
              refine z_imul hx hb dX1_pair_48 ?_
              refine lv_iload_n hx hb dX1_pair_49 rfl (lv_at hl 2 rfl) ?_
              refine z_iadd hx hb dX1_pair_50 ?_
              refine m_ald_3 C Z (e0 := (t * 9) + a) (by omega) (by omega) dX1_pair_51 ?_
              refine lv_istore (lv' := [(4, .int (iI (S 3 ((t * 9) + a)))), (0, .ref h), (1, .int (iI t)), (2, .int (iI a)), (3, .int (iI k))]) hx hb dX1_pair_52 hl (by decide) rfl (fun ls hl => ?_)
              refine lv_aload_n hx hb dX1_pair_54 rfl (lv_at hl 1 rfl) ?_
              refine m_get_3 C Z dX1_pair_55 ?_
              refine lv_iload_n hx hb dX1_pair_58 rfl (lv_at hl 2 rfl) ?_
              refine z_bipush hx hb dX1_pair_59 (by decide) ?_
              refine z_imul hx hb dX1_pair_61 ?_
              refine lv_iload_n hx hb dX1_pair_62 rfl (lv_at hl 3 rfl) ?_
              refine z_iadd hx hb dX1_pair_63 ?_
              refine lv_iload_n hx hb dX1_pair_64 rfl (lv_at hl 4 rfl) ?_
              refine m_ast_3 C Z (e0 := (t * 9) + a) (by omega) (by omega) dX1_pair_65 (fun S1 H locs eS1 Z => ?_)
              refine lv_aload_n hx hb dX1_pair_66 rfl (lv_at hl 1 rfl) ?_
              refine z_iconst hx hb dX1_pair_67 ?_
              refine m_put_6 C Z (by omega) dX1_pair_68 (fun S2 H locs eS2 Z => ?_)
              refine lv_iload hx hb dX1_pair_71 (lv_at hl 0 rfl) ?_
              exact g_reti C hr hlk Z dX1_pair_73 (Or.inr (Or.inr (Or.inr ⟨by omega, by omega, by omega, rfl, by rw [eS2, eS1]⟩)))
            · refine z_bipush hx hb dX1_pair_38 (by decide) ?_
              exact g_reti C hr hlk Z dX1_pair_40 (Or.inr (Or.inr (Or.inl ⟨by omega, by omega, by omega, rfl, rfl⟩)))
        · refine z_bipush hx hb dX1_pair_25 (by decide) ?_
          exact g_reti C hr hlk Z dX1_pair_27 (Or.inr (Or.inl ⟨by omega, by omega, rfl, rfl⟩))
    · refine z_bipush hx hb dX1_pair_12 (by decide) ?_
      exact g_reti C hr hlk Z dX1_pair_14 (Or.inl ⟨by omega, rfl, rfl⟩)
set_option maxHeartbeats 8000000 in
theorem km_drop (l : Launch) (D : va_G) (d : ClassId) (h : Nat) (ad : Nat → Nat) (S : St) (hn : 0 ≤ S 4 0 ∧ S 4 0 ≤ 8) : gMi l D d (wM h ad d) h yX1_drop cX1_drop 1 (some .int) (rmv 0) [] S (fun z S' => (S 4 0 = 0 ∧ z = -4 ∧ S' = S) ∨ (0 < S 4 0 ∧ z = S 4 0 - 1 ∧ S' = up (up S 4 0 (S 4 0 - 1)) 6 0 0)) := by
  refine g_met (by decide) (Nat.le_of_ble_eq_true rfl) ?_
  intro p e s m args below meth c C hr hlk Z ls hl
  have C : CallFix p m c cX1_drop 1 s args lw_all RX1 := C
  have hx := C.1
  have hb := C.2.1
  have hl : lv_has ls 1 [(0, .ref h)] := hl
  refine lv_aload_n hx hb dX1_drop_0 rfl (lv_at hl 0 rfl) ?_
  refine m_get_4 C Z dX1_drop_1 ?_
  refine z_if_ne (tgt := 10) hx hb dX1_drop_4 (by decide) (by omega) (fun c_4 => ?_) (fun c_4 => ?_)
  · refine lv_aload_n hx hb dX1_drop_10 rfl (lv_at hl 0 rfl) ?_
    refine lv_dup hx hb dX1_drop_11 rfl ?_
    refine m_get_4 C Z dX1_drop_12 ?_
    refine z_iconst hx hb dX1_drop_15 ?_
    refine z_isub hx hb dX1_drop_16 ?_
    refine m_put_4 C Z dX1_drop_17 (fun S1 H locs eS1 Z => ?_)
    refine lv_aload_n hx hb dX1_drop_20 rfl (lv_at hl 0 rfl) ?_
    refine z_iconst hx hb dX1_drop_21 ?_
    refine m_put_6 C Z (by omega) dX1_drop_22 (fun S2 H locs eS2 Z => ?_)
    refine lv_aload_n hx hb dX1_drop_25 rfl (lv_at hl 0 rfl) ?_
    refine m_get_4 C Z dX1_drop_26 ?_
    exact g_reti C hr hlk Z dX1_drop_29 (Or.inr ⟨by omega, by rw [eS2, eS1]; simp [up], by rw [eS2, eS1]⟩)
  · refine z_bipush hx hb dX1_drop_7 (by decide) ?_
    exact g_reti C hr hlk Z dX1_drop_9 (Or.inl ⟨by omega, rfl, rfl⟩)
set_option maxHeartbeats 8000000 in
theorem Lm_table {p : Program} {l : Launch} {e : Env} {s : State} {m : MethodId} {args : Array Value} {below : List Frame} {meth : Method} {c : Code} {Q : State → Prop} {D : va_G} {A : Nat → Prop} {d : ClassId} {h : Nat} {ad : Nat → Nat} {R : Room} (C : CallFix p m c cX1_table 4 s args lw_all RX1) (S0 : St) (hn : 0 ≤ S0 4 0 ∧ S0 4 0 ≤ 7) (kk : ∀ (S : St) (H : Heap) (locs : List Loc) (ls : Array Slot), GW D A s H locs d (wM h ad d S) → (∀ k, k ≠ 3 → S k = S0 k) → (∀ j, S 3 j = if S0 4 0 * 9 ≤ j ∧ j < S0 4 0 * 9 + 9 then 0 else S0 3 j) → lv_has ls 4 [(0, .ref h)] → W p l e R s m args below meth c H locs 0 0 Q (F0 m 84 ls [])) : ∀ (n : Nat) (v : Int) (S : St) (H : Heap) (locs : List Loc) (ls : Array Slot), 0 ≤ v → v ≤ 9 → 10 ≤ v + n → GW D A s H locs d (wM h ad d S) → (∀ k, k ≠ 3 → S k = S0 k) → (∀ j, S 3 j = if S0 4 0 * 9 ≤ j ∧ j < S0 4 0 * 9 + v then 0 else S0 3 j) → lv_has ls 4 [(0, .ref h), (3, .int (iI v))] → W p l e R s m args below meth c H locs 0 0 Q (F0 m 57 ls []) := by
  have hx := C.1
  have hb := C.2.1
  intro n
  induction n with
  | zero =>
    intro v S H locs ls h1 h2 h3
    exact absurd h3 (by omega)
  | succ n ih =>
    intro v S H locs ls h1 h2 h3 Z i1 i2 hl
    have en : S 4 0 = S0 4 0 := by rw [i1 4 (by decide)]
    refine lv_iload_n hx hb dX1_table_57 rfl (lv_at hl 1 rfl) ?_
    refine z_bipush hx hb dX1_table_58 (by decide) ?_
    refine z_icmp_ge (tgt := 84) hx hb dX1_table_60 (by decide) (by omega) (by omega) (fun c_60 => ?_) (fun c_60 => ?_)
    · have ev : v = 9 := by omega
      subst ev
      exact kk S H locs ls Z i1 i2 (lv_sub hl [0] rfl)
    · refine lv_aload_n hx hb dX1_table_63 rfl (lv_at hl 0 rfl) ?_
      refine m_get_3 C Z dX1_table_64 ?_
      refine lv_aload_n hx hb dX1_table_67 rfl (lv_at hl 0 rfl) ?_
      refine m_get_4 C Z dX1_table_68 ?_
      refine z_bipush hx hb dX1_table_71 (by decide) ?_
      refine z_imul hx hb dX1_table_73 ?_
      refine lv_iload_n hx hb dX1_table_74 rfl (lv_at hl 1 rfl) ?_
      refine z_iadd hx hb dX1_table_75 ?_
      refine z_iconst hx hb dX1_table_76 ?_
      refine m_ast_3 C Z (e0 := ((S 4 0) * 9) + v) (by omega) (by omega) dX1_table_77 (fun S1 H locs eS1 Z => ?_)
      refine z_iinc (lv' := [(3, .int (iI (v + 1))), (0, .ref h)]) hx hb dX1_table_78 hl (k := 1) rfl (by decide) rfl (fun ls hl => ?_)
      refine lv_goto (tgt := 57) hx hb dX1_table_81 (by decide) ?_
      refine ih (v + 1) S1 H locs ls (by omega) (by omega) (by omega) Z (fun k hk => by rw [eS1, up_n _ _ _ _ _ hk]; exact i1 k hk) (fun j => ?_) (lv_sub hl [1, 0] rfl)
      rw [eS1, up_s, i2 j, en]
      by_cases q : j = S0 4 0 * 9 + v
      · rw [if_pos q, if_pos (by omega)]
      · rw [if_neg q]
        by_cases q2 : S0 4 0 * 9 ≤ j ∧ j < S0 4 0 * 9 + v
        · rw [if_pos q2, if_pos (by omega)]
        · rw [if_neg q2, if_neg (by omega)]
set_option maxHeartbeats 8000000 in
theorem km_table (l : Launch) (D : va_G) (d : ClassId) (h : Nat) (ad : Nat → Nat) (S : St) (u : Int) (v : Int) (ru : -2147483648 ≤ u ∧ u ≤ 2147483647) (rv : -2147483648 ≤ v ∧ v ≤ 2147483647) (hn : 0 ≤ S 4 0 ∧ S 4 0 ≤ 8) : gMi l D d (wM h ad d) h yX1_table cX1_table 4 (some .int) (rmv 1) [.int (iI u), .int (iI v)] S (fun z S' => ((u < 0 ∨ 6 ≤ u ∨ v < 0 ∨ 6 ≤ v ∨ u = v) ∧ z = -1 ∧ S' = S) ∨ ((0 ≤ u ∧ u ≤ 5 ∧ 0 ≤ v ∧ v ≤ 5 ∧ u ≠ v) ∧ S 4 0 = 8 ∧ z = -5 ∧ S' = S) ∨ ((0 ≤ u ∧ u ≤ 5 ∧ 0 ≤ v ∧ v ≤ 5 ∧ u ≠ v) ∧ S 4 0 ≤ 7 ∧ z = S 4 0 ∧ S' 4 0 = S 4 0 + 1 ∧ S' 6 0 = 0 ∧ (∀ j, S' 1 j = if j = S 4 0 then u else S 1 j) ∧ (∀ j, S' 2 j = if j = S 4 0 then v else S 2 j) ∧ (∀ j, S' 3 j = if S 4 0 * 9 ≤ j ∧ j < S 4 0 * 9 + 9 then 0 else S 3 j) ∧ (∀ k, k ≠ 4 → k ≠ 1 → k ≠ 2 → k ≠ 3 → k ≠ 6 → S' k = S k))) := by
  refine g_met (by decide) (Nat.le_of_ble_eq_true rfl) ?_
  intro p e s m args below meth c C hr hlk Z ls hl
  have C : CallFix p m c cX1_table 4 s args lw_all RX1 := C
  have hx := C.1
  have hb := C.2.1
  have hl : lv_has ls 4 [(0, .ref h), (1, .int (iI u)), (2, .int (iI v))] := hl
  refine lv_aload_n hx hb dX1_table_0 rfl (lv_at hl 0 rfl) ?_
  refine lv_iload_n hx hb dX1_table_1 rfl (lv_at hl 1 rfl) ?_
  refine g_calli (n := 1) (wr := []) (w := wM h ad d) (As := [.int (iI u)]) (rest := []) C Z hl.1 (km_isVariable l D d h ad S u (by omega)) (lw_V q228 q230 qs13 q20 q231) rfl rfl (by decide +kernel) rfl ⟨rfl, rfl⟩ ⟨Nat.le_of_ble_eq_true rfl, Nat.le_of_ble_eq_true rfl⟩ rfl (Nat.le_of_ble_eq_true rfl) dX1_table_2 ⟨Nat.zero_le _, Nat.zero_le _⟩ (fun z1 S2 H locs hz1 Z => ?_)
  have Z : GW D _ s H locs d (wM h ad d S2) := Z
  rw [hz1.2] at Z
  have gz1 := hz1.1
  refine z_if_eq (tgt := 21) hx hb dX1_table_5 (by decide) (by omega) (fun c_5 => ?_) (fun c_5 => ?_)
  · refine z_iconst hx hb dX1_table_21 ?_
    exact g_reti C hr hlk Z dX1_table_22 (Or.inl ⟨by omega, rfl, rfl⟩)
  · refine lv_aload_n hx hb dX1_table_8 rfl (lv_at hl 0 rfl) ?_
    refine lv_iload_n hx hb dX1_table_9 rfl (lv_at hl 2 rfl) ?_
    refine g_calli (n := 1) (wr := []) (w := wM h ad d) (As := [.int (iI v)]) (rest := []) C Z hl.1 (km_isVariable l D d h ad S v (by omega)) (lw_V q228 q230 qs13 q20 q231) rfl rfl (by decide +kernel) rfl ⟨rfl, rfl⟩ ⟨Nat.le_of_ble_eq_true rfl, Nat.le_of_ble_eq_true rfl⟩ rfl (Nat.le_of_ble_eq_true rfl) dX1_table_10 ⟨Nat.zero_le _, Nat.zero_le _⟩ (fun z3 S4 H locs hz3 Z => ?_)
    have Z : GW D _ s H locs d (wM h ad d S4) := Z
    rw [hz3.2] at Z
    have gz3 := hz3.1
    refine z_if_eq (tgt := 21) hx hb dX1_table_13 (by decide) (by omega) (fun c_13 => ?_) (fun c_13 => ?_)
    · refine z_iconst hx hb dX1_table_21 ?_
      exact g_reti C hr hlk Z dX1_table_22 (Or.inl ⟨by omega, rfl, rfl⟩)
    · refine lv_iload_n hx hb dX1_table_16 rfl (lv_at hl 1 rfl) ?_
      refine lv_iload_n hx hb dX1_table_17 rfl (lv_at hl 2 rfl) ?_
      refine z_icmp_ne (tgt := 23) hx hb dX1_table_18 (by decide) (by omega) (by omega) (fun c_18 => ?_) (fun c_18 => ?_)
      · refine lv_aload_n hx hb dX1_table_23 rfl (lv_at hl 0 rfl) ?_
        refine m_get_4 C Z dX1_table_24 ?_
        refine z_bipush hx hb dX1_table_27 (by decide) ?_
        refine z_icmp_ne (tgt := 35) hx hb dX1_table_29 (by decide) (by omega) (by omega) (fun c_29 => ?_) (fun c_29 => ?_)
        · refine lv_aload_n hx hb dX1_table_35 rfl (lv_at hl 0 rfl) ?_
          refine m_get_1 C Z dX1_table_36 ?_
          refine lv_aload_n hx hb dX1_table_39 rfl (lv_at hl 0 rfl) ?_
          refine m_get_4 C Z dX1_table_40 ?_
          refine lv_iload_n hx hb dX1_table_43 rfl (lv_at hl 1 rfl) ?_
          refine m_ast_1 C Z (e0 := S 4 0) (by omega) (by omega) dX1_table_44 (fun S5 H locs eS5 Z => ?_)
          refine lv_aload_n hx hb dX1_table_45 rfl (lv_at hl 0 rfl) ?_
          refine m_get_2 C Z dX1_table_46 ?_
          refine lv_aload_n hx hb dX1_table_49 rfl (lv_at hl 0 rfl) ?_
          refine m_get_4 C Z dX1_table_50 ?_
          refine lv_iload_n hx hb dX1_table_53 rfl (lv_at hl 2 rfl) ?_
          have en : S5 4 0 = S 4 0 := by rw [eS5, up_n _ _ _ _ _ (by decide)]
          refine m_ast_2 C Z (e0 := S5 4 0) (by omega) (by omega) dX1_table_54 (fun S6 H locs eS6 Z => ?_)
          refine z_iconst hx hb dX1_table_55 ?_
          refine lv_istore_n (lv' := [(3, .int (iI 0)), (0, .ref h), (1, .int (iI u)), (2, .int (iI v))]) hx hb dX1_table_56 rfl hl (by decide) rfl (fun ls hl => ?_)
          have en : S6 4 0 = S 4 0 := by rw [eS6, eS5, up_n _ _ _ _ _ (by decide), up_n _ _ _ _ _ (by decide)]
          refine Lm_table C S6 (by omega) (fun S9 H locs ls Z i1 i2 hl => ?_) 10 0 S6 _ _ ls (by omega) (by omega) (by omega) Z (fun k _ => rfl) (fun j => by rw [if_neg (by omega)]) (lv_sub hl [1, 0] rfl)
          refine lv_aload_n hx hb dX1_table_84 rfl (lv_at hl 0 rfl) ?_
          refine lv_dup hx hb dX1_table_85 rfl ?_
          refine m_get_4 C Z dX1_table_86 ?_
          refine z_iconst hx hb dX1_table_89 ?_
          refine z_iadd hx hb dX1_table_90 ?_
          refine m_put_4 C Z dX1_table_91 (fun S7 H locs eS7 Z => ?_)
          refine lv_aload_n hx hb dX1_table_94 rfl (lv_at hl 0 rfl) ?_
          refine z_iconst hx hb dX1_table_95 ?_
          refine m_put_6 C Z (by omega) dX1_table_96 (fun S8 H locs eS8 Z => ?_)
          refine lv_aload_n hx hb dX1_table_99 rfl (lv_at hl 0 rfl) ?_
          refine m_get_4 C Z dX1_table_100 ?_
          refine z_iconst hx hb dX1_table_103 ?_
          refine z_isub hx hb dX1_table_104 ?_
          exact g_reti C hr hlk Z dX1_table_105 (by
            have f1 : S8 4 0 = S 4 0 + 1 := by
              have q : S9 4 0 = S 4 0 := by rw [i1 4 (by decide)]; exact en
              rw [eS8, eS7]; simp [up, q]
            refine Or.inr (Or.inr ⟨by omega, by omega, by omega, f1, by rw [eS8]; simp [up], fun j => ?_, fun j => ?_, fun j => ?_, fun k h1 h2 h3 h4 h5 => ?_⟩)
            · rw [eS8, eS7, up_n _ _ _ _ _ (by decide), up_n _ _ _ _ _ (by decide), i1 1 (by decide), eS6, eS5, up_n _ _ _ _ _ (by decide), up_s]
            · rw [eS8, eS7, up_n _ _ _ _ _ (by decide), up_n _ _ _ _ _ (by decide), i1 2 (by decide), eS6, up_s]
              have q : S5 4 0 = S 4 0 := by rw [eS5, up_n _ _ _ _ _ (by decide)]
              rw [q, eS5, up_n _ _ _ _ _ (by decide)]
            · rw [eS8, eS7, up_n _ _ _ _ _ (by decide), up_n _ _ _ _ _ (by decide), i2 j, en]
              rw [eS6, eS5, up_n _ _ _ _ _ (by decide), up_n _ _ _ _ _ (by decide)]
            · rw [eS8, eS7, up_n _ _ _ _ _ h5, up_n _ _ _ _ _ h1, i1 k h4, eS6, eS5, up_n _ _ _ _ _ h3, up_n _ _ _ _ _ h2])
        · refine z_bipush hx hb dX1_table_32 (by decide) ?_
          exact g_reti C hr hlk Z dX1_table_34 (Or.inr (Or.inl ⟨by omega, by omega, rfl, rfl⟩))
      · refine z_iconst hx hb dX1_table_21 ?_
        exact g_reti C hr hlk Z dX1_table_22 (Or.inl ⟨by omega, rfl, rfl⟩)
end
section
set_option maxRecDepth 100000
/-! ===== capped sums ===== -/
theorem cp_o (a : Int) : (a ≤ 50000 ∧ cp a = a) ∨ (50000 < a ∧ cp a = 50000) := by
  unfold cp
  split <;> omega
theorem mo_b {z a b : Int} (ha : 0 ≤ a) (hb : 0 ≤ b) (h : z = mo a b) : 0 ≤ z ∧ z ≤ 100000 := by
  have := mo_o h
  omega
theorem cp_add {a b z X : Int} (ha : 0 ≤ a) (hb : 0 ≤ b) (hX : 0 ≤ X) (e : cp a = cp X) (h : z = mo a b) : cp z = cp (X + cp b) := by
  have g := mo_o h
  have g1 := cp_o a
  have g2 := cp_o b
  have g3 := cp_o z
  have g4 := cp_o X
  have g5 := cp_o (X + cp b)
  omega
theorem cp_nn {a : Int} (h : 0 ≤ a) : 0 ≤ cp a := by
  have := cp_o a
  omega
theorem cp_le {a b : Int} (h : a ≤ b) : cp a ≤ cp b := by
  have := cp_o a
  have := cp_o b
  omega
theorem cp_cp (a : Int) : cp (cp a) = cp a := by
  have := cp_o a
  have := cp_o (cp a)
  omega
theorem sm_step (f : Int → Int) {t : Int} (h : 0 ≤ t) : sm f (t + 1).toNat = sm f t.toNat + f t := by
  rw [show (t + 1).toNat = t.toNat + 1 by omega]
  show sm f t.toNat + f ((t.toNat : Nat) : Int) = _
  rw [Int.toNat_of_nonneg h]
theorem sm_nn {f : Int → Int} (h : ∀ i, 0 ≤ f i) (n : Nat) : 0 ≤ sm f n := by
  induction n with
  | zero => exact Int.le_refl _
  | succ n ih =>
    have := h n
    show 0 ≤ sm f n + f n
    omega
theorem sm_congr {f g : Int → Int} {n : Nat} (h : ∀ i : Int, 0 ≤ i → i < n → f i = g i) : sm f n = sm g n := by
  induction n with
  | zero => rfl
  | succ n ih =>
    show sm f n + f n = sm g n + g n
    rw [ih (fun i a b => h i a (by omega)), h n (by omega) (by omega)]
theorem sm_le {f g : Int → Int} {n : Nat} (h : ∀ i : Int, 0 ≤ i → i < n → f i ≤ g i) : sm f n ≤ sm g n := by
  induction n with
  | zero => exact Int.le_refl _
  | succ n ih =>
    show sm f n + f n ≤ sm g n + g n
    have a := ih (fun i a b => h i a (by omega))
    have b := h n (by omega) (by omega)
    omega
theorem sm_add (f g : Int → Int) (n : Nat) : sm (fun i => f i + g i) n = sm f n + sm g n := by
  induction n with
  | zero => rfl
  | succ n ih =>
    show sm (fun i => f i + g i) n + (f n + g n) = sm f n + f n + (sm g n + g n)
    rw [ih]
    omega
/-- a change of one summand -/
theorem sm_at {f g : Int → Int} {n : Nat} {v : Int} (hv : 0 ≤ v) (hn : v < n) (h : ∀ i : Int, 0 ≤ i → i < n → i ≠ v → f i = g i) : sm f n + g v = sm g n + f v := by
  induction n with
  | zero => omega
  | succ n ih =>
    show sm f n + f n + g v = sm g n + g n + f v
    by_cases e : v = n
    · subst e
      rw [sm_congr (f := f) (g := g) (fun i a b => h i a (by omega) (by omega))]
      omega
    · have a := ih (by omega) (fun i a b c => h i a (by omega) c)
      have b := h n (by omega) (by omega) (fun q => e q.symm)
      omega
/-! ===== what a value costs with those taken before ===== -/
def wt (S : St) (v a fr t : Int) : Int := if S 2 t = v ∧ S 3 t < fr then cp (S 8 (t * 9 + a + 3 * S 10 (S 3 t))) else if S 2 t ≠ v ∧ S 3 t = v ∧ S 2 t < fr then cp (S 8 (t * 9 + S 10 (S 2 t) + 3 * a)) else 0
theorem wt_1 {S : St} {v a fr t : Int} (h1 : S 2 t = v) (h2 : S 3 t < fr) : wt S v a fr t = cp (S 8 (t * 9 + a + 3 * S 10 (S 3 t))) := by
  unfold wt
  rw [if_pos ⟨h1, h2⟩]
theorem wt_2 {S : St} {v a fr t : Int} (h1 : S 2 t ≠ v) (h2 : S 3 t = v) (h3 : S 2 t < fr) : wt S v a fr t = cp (S 8 (t * 9 + S 10 (S 2 t) + 3 * a)) := by
  unfold wt
  rw [if_neg (fun q => h1 q.1), if_pos ⟨h1, h2, h3⟩]
theorem wt_0 {S : St} {v a fr t : Int} (h1 : S 2 t = v → fr ≤ S 3 t) (h2 : S 3 t = v → S 2 t ≠ v → fr ≤ S 2 t) : wt S v a fr t = 0 := by
  unfold wt
  rw [if_neg (fun q => by have := h1 q.1; omega), if_neg (fun q => by have := h2 q.2.1 q.1; omega)]
theorem wt_nn {S : St} (hm : mOK S) (v a fr t : Int) : 0 ≤ wt S v a fr t := by
  unfold wt
  split
  · exact cp_nn (hm.2.2 _).1
  · split
    · exact cp_nn (hm.2.2 _).1
    · exact Int.le_refl _
def wS (S : St) (v a fr : Int) (t : Int) : Int := cp (S 7 (v * 3 + a)) + sm (wt S v a fr) t.toNat
theorem wS_nn {S : St} (hm : mOK S) (v a fr t : Int) : 0 ≤ wS S v a fr t := by
  have h1 := cp_nn (hm.2.1 (v * 3 + a)).1
  have h2 := sm_nn (wt_nn hm v a fr) t.toNat
  unfold wS
  omega
theorem wS_s {S : St} {v a fr t : Int} (h : 0 ≤ t) : wS S v a fr (t + 1) = wS S v a fr t + wt S v a fr t := by
  unfold wS
  rw [sm_step _ h]
  omega
end
section
set_option maxRecDepth 100000
set_option maxHeartbeats 8000000 in
theorem Lx_withTaken {p : Program} {l : Launch} {e : Env} {s : State} {m : MethodId} {args : Array Value} {below : List Frame} {meth : Method} {c : Code} {Q : State → Prop} {D : va_G} {A : Nat → Prop} {d : ClassId} {h : Nat} {ad : Nat → Nat} (C : CallFix p m c cX0_withTaken 9 s args lw_all RX0) (S : St) (v a fr : Int) (hv : 0 ≤ v ∧ v ≤ 5) (ha : 0 ≤ a ∧ a ≤ 2) (hf : 0 ≤ fr ∧ fr ≤ 6) (hn : nOK S) (hm : mOK S) (hk : ∀ j, 0 ≤ j → j < fr → 0 ≤ S 10 j ∧ S 10 j ≤ 2) (kk : ∀ (u : Int) (H : Heap) (locs : List Loc) (ls : Array Slot), GW D A s H locs d (wX h ad d S) → 0 ≤ u ∧ u ≤ 100000 ∧ cp u = cp (wS S v a fr (S 1 0)) → lv_has ls 9 [(0, .ref h), (4, .int (iI u))] → W p l e (rmv 1) s m args below meth c H locs 0 0 Q (F0 m 125 ls [])) : ∀ (n : Nat) (t u : Int) (H : Heap) (locs : List Loc) (ls : Array Slot), 0 ≤ t → t ≤ S 1 0 → S 1 0 + 1 ≤ t + n → GW D A s H locs d (wX h ad d S) → 0 ≤ u ∧ u ≤ 100000 ∧ cp u = cp (wS S v a fr t) → lv_has ls 9 [(0, .ref h), (1, .int (iI v)), (2, .int (iI a)), (3, .int (iI fr)), (4, .int (iI u)), (5, .int (iI t))] → W p l e (rmv 1) s m args below meth c H locs 0 0 Q (F0 m 15 ls []) := by
  have hx := C.1
  have hb := C.2.1
  obtain ⟨n1, n0, n2, n3, n4, n5⟩ := id hn
  obtain ⟨m6, m7, m8⟩ := id hm
  intro n
  induction n with
  | zero =>
    intro t u H locs ls h1 h2 h3
    exact absurd h3 (by omega)
  | succ n ih =>
    intro t u H locs ls h1 h2 h3 Z i hl
    have b2 := n2 t
    have b3 := n3 t
    refine lv_iload hx hb dX0_withTaken_15 (lv_at hl 5 rfl) ?_
    refine lv_aload_n hx hb dX0_withTaken_17 rfl (lv_at hl 0 rfl) ?_
    refine x_get_1 C Z dX0_withTaken_18 ?_
    refine z_icmp_ge (tgt := 125) hx hb dX0_withTaken_21 (by decide) (by omega) (by omega) (fun c_21 => ?_) (fun c_21 => ?_)
    · obtain rfl : t = S 1 0 := by omega
      exact kk u H locs ls Z i (lv_sub hl [0, 4] rfl)
    · refine lv_aload_n hx hb dX0_withTaken_24 rfl (lv_at hl 0 rfl) ?_
      refine x_get_2 C Z dX0_withTaken_25 ?_
      refine lv_iload hx hb dX0_withTaken_28 (lv_at hl 5 rfl) ?_
      refine x_ald_2 C Z (e0 := t) (by omega) (by omega) dX0_withTaken_30 ?_
      refine lv_iload_n hx hb dX0_withTaken_31 rfl (lv_at hl 1 rfl) ?_
      refine z_icmp_ne (tgt := 39) hx hb dX0_withTaken_32 (by decide) (by omega) (by omega) (fun c_32 => ?_) (fun c_32 => ?_)
      · refine z_iconst hx hb dX0_withTaken_39 ?_
        refine lv_istore (lv' := [(6, .int (iI 0)), (0, .ref h), (1, .int (iI v)), (2, .int (iI a)), (3, .int (iI fr)), (4, .int (iI u)), (5, .int (iI t))]) hx hb dX0_withTaken_40 hl (by decide) rfl (fun ls hl => ?_)
        refine lv_iload hx hb dX0_withTaken_42 (lv_at hl 0 rfl) ?_
        refine z_if_eq (tgt := 57) hx hb dX0_withTaken_44 (by decide) (by omega) (fun c_44 => ?_) (fun c_44 => ?_)
        · refine lv_aload_n hx hb dX0_withTaken_57 rfl (lv_at hl 1 rfl) ?_
          refine x_get_2 C Z dX0_withTaken_58 ?_
          refine lv_iload hx hb dX0_withTaken_61 (lv_at hl 6 rfl) ?_
          refine x_ald_2 C Z (e0 := t) (by omega) (by omega) dX0_withTaken_63 ?_
          refine lv_istore (lv' := [(7, .int (iI (S 2 t))), (6, .int (iI 0)), (0, .ref h), (1, .int (iI v)), (2, .int (iI a)), (3, .int (iI fr)), (4, .int (iI u)), (5, .int (iI t))]) hx hb dX0_withTaken_64 hl (by decide) rfl (fun ls hl => ?_)
          refine lv_iload hx hb dX0_withTaken_66 (lv_at hl 1 rfl) ?_
          refine z_if_ne (tgt := 82) hx hb dX0_withTaken_68 (by decide) (by omega) (fun c_68 => ?_) (fun c_68 => ?_)
          · omega
          · refine lv_aload_n hx hb dX0_withTaken_71 rfl (lv_at hl 2 rfl) ?_
            refine x_get_3 C Z dX0_withTaken_72 ?_
            refine lv_iload hx hb dX0_withTaken_75 (lv_at hl 7 rfl) ?_
            refine x_ald_3 C Z (e0 := t) (by omega) (by omega) dX0_withTaken_77 ?_
            refine lv_iload_n hx hb dX0_withTaken_78 rfl (lv_at hl 3 rfl) ?_
            refine z_icmp_ne (tgt := 119) hx hb dX0_withTaken_79 (by decide) (by omega) (by omega) (fun c_79 => ?_) (fun c_79 => ?_)
            · refine z_iinc (lv' := [(5, .int (iI (t + 1))), (7, .int (iI (S 2 t))), (6, .int (iI 0)), (0, .ref h), (1, .int (iI v)), (2, .int (iI a)), (3, .int (iI fr)), (4, .int (iI u))]) hx hb dX0_withTaken_119 hl (k := 7) rfl (by decide) rfl (fun ls hl => ?_)
              refine lv_goto (tgt := 15) hx hb dX0_withTaken_122 (by decide) ?_
              refine ih (t + 1) u H locs ls (by omega) (by omega) (by omega) Z ?_ (lv_sub hl [3, 4, 5, 6, 7, 0] rfl)
              rw [wS_s h1, wt_0 (by omega) (by omega), Int.add_zero]
              exact i
            · refine lv_iload hx hb dX0_withTaken_82 (lv_at hl 0 rfl) ?_
              refine lv_iload_n hx hb dX0_withTaken_84 rfl (lv_at hl 5 rfl) ?_
              refine z_icmp_ge (tgt := 119) hx hb dX0_withTaken_85 (by decide) (by omega) (by omega) (fun c_85 => ?_) (fun c_85 => ?_)
              · refine z_iinc (lv' := [(5, .int (iI (t + 1))), (7, .int (iI (S 2 t))), (6, .int (iI 0)), (0, .ref h), (1, .int (iI v)), (2, .int (iI a)), (3, .int (iI fr)), (4, .int (iI u))]) hx hb dX0_withTaken_119 hl (k := 7) rfl (by decide) rfl (fun ls hl => ?_)
                refine lv_goto (tgt := 15) hx hb dX0_withTaken_122 (by decide) ?_
                refine ih (t + 1) u H locs ls (by omega) (by omega) (by omega) Z ?_ (lv_sub hl [3, 4, 5, 6, 7, 0] rfl)
                rw [wS_s h1, wt_0 (by omega) (by omega), Int.add_zero]
                exact i
              · refine lv_iload hx hb dX0_withTaken_88 (lv_at hl 7 rfl) ?_
                refine lv_iload_n hx hb dX0_withTaken_90 rfl (lv_at hl 4 rfl) ?_
                refine lv_aload_n hx hb dX0_withTaken_91 rfl (lv_at hl 2 rfl) ?_
                refine x_get_10 C Z dX0_withTaken_92 ?_
                refine lv_iload hx hb dX0_withTaken_95 (lv_at hl 0 rfl) ?_
                have bk := hk (S 3 t)
                have bk2 := hk (S 2 t)
                refine x_ald_10 C Z (e0 := S 2 t) (by omega) (by omega) dX0_withTaken_97 ?_
                refine lv_iload hx hb dX0_withTaken_98 (lv_at hl 1 rfl) ?_
                refine g_calls (n := 4) (As := [.int (iI t), .int (iI a), .int (iI (S 10 (S 2 t))), .int (iI 0)]) (rest := []) C Z hl.1 (c_pairAt l t a (S 10 (S 2 t)) 0 (by omega)) (lw_S q130 q131 q19 q132) (by decide +kernel) rfl ⟨rfl, rfl⟩ ⟨Nat.le_of_ble_eq_true rfl, Nat.le_of_ble_eq_true rfl⟩ rfl (Nat.le_of_ble_eq_true rfl) dX0_withTaken_100 ⟨Nat.zero_le _, Nat.zero_le _⟩ (fun z1 H locs hz1 Z => ?_)
                obtain rfl : z1 = t * 9 + (S 10 (S 2 t)) + 3 * a := by have g := pA_o hz1; omega
                refine lv_istore (lv' := [(8, .int (iI (t * 9 + (S 10 (S 2 t)) + 3 * a))), (7, .int (iI (S 2 t))), (6, .int (iI 0)), (0, .ref h), (1, .int (iI v)), (2, .int (iI a)), (3, .int (iI fr)), (4, .int (iI u)), (5, .int (iI t))]) hx hb dX0_withTaken_103 hl (by decide) rfl (fun ls hl => ?_)
                refine lv_iload hx hb dX0_withTaken_105 (lv_at hl 7 rfl) ?_
                refine lv_aload_n hx hb dX0_withTaken_107 rfl (lv_at hl 3 rfl) ?_
                refine x_get_8 C Z dX0_withTaken_108 ?_
                refine lv_iload hx hb dX0_withTaken_111 (lv_at hl 0 rfl) ?_
                refine x_ald_8 C Z (e0 := t * 9 + (S 10 (S 2 t)) + 3 * a) (by omega) (by omega) dX0_withTaken_113 ?_
                have b8 := m8 (t * 9 + (S 10 (S 2 t)) + 3 * a)
                refine g_calls (n := 2) (As := [.int (iI u), .int (iI (S 8 (t * 9 + (S 10 (S 2 t)) + 3 * a)))]) (rest := []) C Z hl.1 (c_more l u (S 8 (t * 9 + (S 10 (S 2 t)) + 3 * a)) (by omega) (by omega)) (lw_S q133 q134 q19 q135) (by decide +kernel) rfl ⟨rfl, rfl⟩ ⟨Nat.le_of_ble_eq_true rfl, Nat.le_of_ble_eq_true rfl⟩ rfl (Nat.le_of_ble_eq_true rfl) dX0_withTaken_114 ⟨Nat.zero_le _, Nat.zero_le _⟩ (fun z2 H locs hz2 Z => ?_)
                have bz2 := mo_b (by omega) (by omega) hz2
                refine lv_istore (lv' := [(4, .int (iI z2)), (8, .int (iI (t * 9 + (S 10 (S 2 t)) + 3 * a))), (7, .int (iI (S 2 t))), (6, .int (iI 0)), (0, .ref h), (1, .int (iI v)), (2, .int (iI a)), (3, .int (iI fr)), (5, .int (iI t))]) hx hb dX0_withTaken_117 hl (by decide) rfl (fun ls hl => ?_)
                refine z_iinc (lv' := [(5, .int (iI (t + 1))), (4, .int (iI z2)), (8, .int (iI (t * 9 + (S 10 (S 2 t)) + 3 * a))), (7, .int (iI (S 2 t))), (6, .int (iI 0)), (0, .ref h), (1, .int (iI v)), (2, .int (iI a)), (3, .int (iI fr))]) hx hb dX0_withTaken_119 hl (k := 8) rfl (by decide) rfl (fun ls hl => ?_)
                refine lv_goto (tgt := 15) hx hb dX0_withTaken_122 (by decide) ?_
                refine ih (t + 1) z2 H locs ls (by omega) (by omega) (by omega) Z ?_ (lv_sub hl [5, 6, 7, 8, 1, 0] rfl)
                have q := cp_add i.1 (m8 _).1 (wS_nn hm v a fr t) i.2.2 hz2
                rw [wS_s h1, wt_2 (by omega) (by omega) (by omega)]
                exact ⟨bz2.1, bz2.2, q⟩
        · omega
      · refine z_iconst hx hb dX0_withTaken_35 ?_
        refine lv_goto (tgt := 40) hx hb dX0_withTaken_36 (by decide) ?_
        refine lv_istore (lv' := [(6, .int (iI 1)), (0, .ref h), (1, .int (iI v)), (2, .int (iI a)), (3, .int (iI fr)), (4, .int (iI u)), (5, .int (iI t))]) hx hb dX0_withTaken_40 hl (by decide) rfl (fun ls hl => ?_)
        refine lv_iload hx hb dX0_withTaken_42 (lv_at hl 0 rfl) ?_
        refine z_if_eq (tgt := 57) hx hb dX0_withTaken_44 (by decide) (by omega) (fun c_44 => ?_) (fun c_44 => ?_)
        · omega
        · refine lv_aload_n hx hb dX0_withTaken_47 rfl (lv_at hl 1 rfl) ?_
          refine x_get_3 C Z dX0_withTaken_48 ?_
          refine lv_iload hx hb dX0_withTaken_51 (lv_at hl 6 rfl) ?_
          refine x_ald_3 C Z (e0 := t) (by omega) (by omega) dX0_withTaken_53 ?_
          refine lv_goto (tgt := 64) hx hb dX0_withTaken_54 (by decide) ?_
          refine lv_istore (lv' := [(7, .int (iI (S 3 t))), (6, .int (iI 1)), (0, .ref h), (1, .int (iI v)), (2, .int (iI a)), (3, .int (iI fr)), (4, .int (iI u)), (5, .int (iI t))]) hx hb dX0_withTaken_64 hl (by decide) rfl (fun ls hl => ?_)
          refine lv_iload hx hb dX0_withTaken_66 (lv_at hl 1 rfl) ?_
          refine z_if_ne (tgt := 82) hx hb dX0_withTaken_68 (by decide) (by omega) (fun c_68 => ?_) (fun c_68 => ?_)
          · refine lv_iload hx hb dX0_withTaken_82 (lv_at hl 0 rfl) ?_
            refine lv_iload_n hx hb dX0_withTaken_84 rfl (lv_at hl 5 rfl) ?_
            refine z_icmp_ge (tgt := 119) hx hb dX0_withTaken_85 (by decide) (by omega) (by omega) (fun c_85 => ?_) (fun c_85 => ?_)
            · refine z_iinc (lv' := [(5, .int (iI (t + 1))), (7, .int (iI (S 3 t))), (6, .int (iI 1)), (0, .ref h), (1, .int (iI v)), (2, .int (iI a)), (3, .int (iI fr)), (4, .int (iI u))]) hx hb dX0_withTaken_119 hl (k := 7) rfl (by decide) rfl (fun ls hl => ?_)
              refine lv_goto (tgt := 15) hx hb dX0_withTaken_122 (by decide) ?_
              refine ih (t + 1) u H locs ls (by omega) (by omega) (by omega) Z ?_ (lv_sub hl [3, 4, 5, 6, 7, 0] rfl)
              rw [wS_s h1, wt_0 (by omega) (by omega), Int.add_zero]
              exact i
            · refine lv_iload hx hb dX0_withTaken_88 (lv_at hl 7 rfl) ?_
              refine lv_iload_n hx hb dX0_withTaken_90 rfl (lv_at hl 4 rfl) ?_
              refine lv_aload_n hx hb dX0_withTaken_91 rfl (lv_at hl 2 rfl) ?_
              refine x_get_10 C Z dX0_withTaken_92 ?_
              refine lv_iload hx hb dX0_withTaken_95 (lv_at hl 0 rfl) ?_
              have bk := hk (S 3 t)
              have bk2 := hk (S 2 t)
              refine x_ald_10 C Z (e0 := S 3 t) (by omega) (by omega) dX0_withTaken_97 ?_
              refine lv_iload hx hb dX0_withTaken_98 (lv_at hl 1 rfl) ?_
              refine g_calls (n := 4) (As := [.int (iI t), .int (iI a), .int (iI (S 10 (S 3 t))), .int (iI 1)]) (rest := []) C Z hl.1 (c_pairAt l t a (S 10 (S 3 t)) 1 (by omega)) (lw_S q130 q131 q19 q132) (by decide +kernel) rfl ⟨rfl, rfl⟩ ⟨Nat.le_of_ble_eq_true rfl, Nat.le_of_ble_eq_true rfl⟩ rfl (Nat.le_of_ble_eq_true rfl) dX0_withTaken_100 ⟨Nat.zero_le _, Nat.zero_le _⟩ (fun z3 H locs hz3 Z => ?_)
              obtain rfl : z3 = t * 9 + a + 3 * (S 10 (S 3 t)) := by have g := pA_o hz3; omega
              refine lv_istore (lv' := [(8, .int (iI (t * 9 + a + 3 * (S 10 (S 3 t))))), (7, .int (iI (S 3 t))), (6, .int (iI 1)), (0, .ref h), (1, .int (iI v)), (2, .int (iI a)), (3, .int (iI fr)), (4, .int (iI u)), (5, .int (iI t))]) hx hb dX0_withTaken_103 hl (by decide) rfl (fun ls hl => ?_)
              refine lv_iload hx hb dX0_withTaken_105 (lv_at hl 7 rfl) ?_
              refine lv_aload_n hx hb dX0_withTaken_107 rfl (lv_at hl 3 rfl) ?_
              refine x_get_8 C Z dX0_withTaken_108 ?_
              refine lv_iload hx hb dX0_withTaken_111 (lv_at hl 0 rfl) ?_
              refine x_ald_8 C Z (e0 := t * 9 + a + 3 * (S 10 (S 3 t))) (by omega) (by omega) dX0_withTaken_113 ?_
              have b8 := m8 (t * 9 + a + 3 * (S 10 (S 3 t)))
              refine g_calls (n := 2) (As := [.int (iI u), .int (iI (S 8 (t * 9 + a + 3 * (S 10 (S 3 t)))))]) (rest := []) C Z hl.1 (c_more l u (S 8 (t * 9 + a + 3 * (S 10 (S 3 t)))) (by omega) (by omega)) (lw_S q133 q134 q19 q135) (by decide +kernel) rfl ⟨rfl, rfl⟩ ⟨Nat.le_of_ble_eq_true rfl, Nat.le_of_ble_eq_true rfl⟩ rfl (Nat.le_of_ble_eq_true rfl) dX0_withTaken_114 ⟨Nat.zero_le _, Nat.zero_le _⟩ (fun z4 H locs hz4 Z => ?_)
              have bz4 := mo_b (by omega) (by omega) hz4
              refine lv_istore (lv' := [(4, .int (iI z4)), (8, .int (iI (t * 9 + a + 3 * (S 10 (S 3 t))))), (7, .int (iI (S 3 t))), (6, .int (iI 1)), (0, .ref h), (1, .int (iI v)), (2, .int (iI a)), (3, .int (iI fr)), (5, .int (iI t))]) hx hb dX0_withTaken_117 hl (by decide) rfl (fun ls hl => ?_)
              refine z_iinc (lv' := [(5, .int (iI (t + 1))), (4, .int (iI z4)), (8, .int (iI (t * 9 + a + 3 * (S 10 (S 3 t))))), (7, .int (iI (S 3 t))), (6, .int (iI 1)), (0, .ref h), (1, .int (iI v)), (2, .int (iI a)), (3, .int (iI fr))]) hx hb dX0_withTaken_119 hl (k := 8) rfl (by decide) rfl (fun ls hl => ?_)
              refine lv_goto (tgt := 15) hx hb dX0_withTaken_122 (by decide) ?_
              refine ih (t + 1) z4 H locs ls (by omega) (by omega) (by omega) Z ?_ (lv_sub hl [5, 6, 7, 8, 1, 0] rfl)
              have q := cp_add i.1 (m8 _).1 (wS_nn hm v a fr t) i.2.2 hz4
              rw [wS_s h1, wt_1 (by omega) (by omega)]
              exact ⟨bz4.1, bz4.2, q⟩
          · omega
set_option maxHeartbeats 8000000 in
theorem kx_withTaken (l : Launch) (D : va_G) (d : ClassId) (h : Nat) (ad : Nat → Nat) (S : St) (v : Int) (a : Int) (fr : Int) (hv : 0 ≤ v ∧ v ≤ 5) (ha : 0 ≤ a ∧ a ≤ 2) (hf : 0 ≤ fr ∧ fr ≤ 6) (hn : nOK S) (hm : mOK S) (hk : ∀ j, 0 ≤ j → j < fr → 0 ≤ S 10 j ∧ S 10 j ≤ 2) : gMi l D d (wX h ad d) h yX0_withTaken cX0_withTaken 9 (some .int) (rmv 1) [.int (iI v), .int (iI a), .int (iI fr)] S (fun z S' => S' = S ∧ 0 ≤ z ∧ z ≤ 100000 ∧ cp z = cp (wS S v a fr (S 1 0))) := by
  refine g_met (by decide) (Nat.le_of_ble_eq_true rfl) ?_
  intro p e s m args below meth c C hr hlk Z ls hl
  have C : CallFix p m c cX0_withTaken 9 s args lw_all RX0 := C
  have hx := C.1
  have hb := C.2.1
  have hl : lv_has ls 9 [(0, .ref h), (1, .int (iI v)), (2, .int (iI a)), (3, .int (iI fr))] := hl
  refine lv_aload_n hx hb dX0_withTaken_0 rfl (lv_at hl 0 rfl) ?_
  refine x_get_7 C Z dX0_withTaken_1 ?_
  refine lv_iload_n hx hb dX0_withTaken_4 rfl (lv_at hl 1 rfl) ?_
  refine z_iconst hx hb dX0_withTaken_5 ?_
  refine z_imul hx hb dX0_withTaken_6 ?_
  refine lv_iload_n hx hb dX0_withTaken_7 rfl (lv_at hl 2 rfl) ?_
  refine z_iadd hx hb dX0_withTaken_8 ?_
  refine x_ald_7 C Z (e0 := (v * 3) + a) (by omega) (by omega) dX0_withTaken_9 ?_
  refine lv_istore (lv' := [(4, .int (iI (S 7 ((v * 3) + a)))), (0, .ref h), (1, .int (iI v)), (2, .int (iI a)), (3, .int (iI fr))]) hx hb dX0_withTaken_10 hl (by decide) rfl (fun ls hl => ?_)
  refine z_iconst hx hb dX0_withTaken_12 ?_
  refine lv_istore (lv' := [(5, .int (iI 0)), (4, .int (iI (S 7 ((v * 3) + a)))), (0, .ref h), (1, .int (iI v)), (2, .int (iI a)), (3, .int (iI fr))]) hx hb dX0_withTaken_13 hl (by decide) rfl (fun ls hl => ?_)
  obtain ⟨n1, n0, n2, n3, n4, n5⟩ := id hn
  obtain ⟨m6, m7, m8⟩ := id hm
  have b7 := m7 (v * 3 + a)
  refine Lx_withTaken C S v a fr hv ha hf hn hm hk (fun u H locs ls Z i hl => ?_) 9 0 (S 7 (v * 3 + a)) _ _ ls (by omega) (by omega) (by omega) Z ⟨b7.1, b7.2, ?_⟩ (lv_sub hl [2, 3, 4, 5, 1, 0] rfl)
  rotate_left
  · unfold wS
    show _ = cp (cp (S 7 (v * 3 + a)) + 0)
    rw [Int.add_zero, cp_cp]
  refine lv_iload hx hb dX0_withTaken_125 (lv_at hl 1 rfl) ?_
  exact g_reti C hr hlk Z dX0_withTaken_127 (⟨rfl, i⟩)
end
section
set_option maxRecDepth 100000
theorem cp_addle {a b z X Y : Int} (ha : 0 ≤ a) (hb : 0 ≤ b) (hX : 0 ≤ X) (hY : 0 ≤ Y) (e : cp a ≤ cp X) (e2 : cp b ≤ cp Y) (h : z = mo a b) : cp z ≤ cp (X + Y) := by
  have g := mo_o h
  have g1 := cp_o a
  have g2 := cp_o b
  have g3 := cp_o z
  have g4 := cp_o X
  have g5 := cp_o Y
  have g6 := cp_o (X + Y)
  omega
/-- what the variables from 'fr' up to V cost at least under f -/
def aS (S : St) (f : Int → Int) (fr V : Int) : Int := sm (fun u => if fr ≤ u then wS S u (f u) fr (S 1 0) else 0) V.toNat
theorem aS_s {S : St} {f : Int → Int} {fr V : Int} (h : 0 ≤ V) (h2 : fr ≤ V) : aS S f fr (V + 1) = aS S f fr V + wS S V (f V) fr (S 1 0) := by
  unfold aS
  rw [sm_step _ h, if_pos h2]
theorem aS_nn {S : St} (hm : mOK S) (f : Int → Int) (fr V : Int) : 0 ≤ aS S f fr V := by
  refine sm_nn (fun i => ?_) _
  split
  · exact wS_nn hm _ _ _ _
  · exact Int.le_refl _
theorem aS_0 {S : St} {f : Int → Int} {fr : Int} (h : 0 ≤ fr) : aS S f fr fr = 0 := by
  unfold aS
  rw [sm_congr (g := fun _ => 0) (fun i a b => by rw [if_neg (by omega)])]
  have : ∀ n : Nat, sm (fun _ => 0) n = 0 := by
    intro n
    induction n with
    | zero => rfl
    | succ n ih => show sm (fun _ => 0) n + 0 = 0; rw [ih]; rfl
  exact this _
/-- f may be taken from 'fr' on -/
def opn (S : St) (f : Int → Int) (fr : Int) : Prop := ∀ u, fr ≤ u → u ≤ 5 → S 9 u < 0 ∨ S 9 u = f u
set_option maxHeartbeats 8000000 in
theorem Lx_ahead1 {p : Program} {l : Launch} {e : Env} {s : State} {m : MethodId} {args : Array Value} {below : List Frame} {meth : Method} {c : Code} {Q : State → Prop} {D : va_G} {A : Nat → Prop} {d : ClassId} {h : Nat} {ad : Nat → Nat} (C : CallFix p m c cX0_ahead 8 s args lw_all RX0) (S : St) (fr u v : Int) (hf : 0 ≤ fr ∧ fr ≤ 6) (hn : nOK S) (hm : mOK S) (hk : ∀ j, 0 ≤ j → j < fr → 0 ≤ S 10 j ∧ S 10 j ≤ 2) (h9 : ∀ j, 0 ≤ j → j ≤ 5 → -1 ≤ S 9 j ∧ S 9 j ≤ 2) (hv : fr ≤ v ∧ v ≤ 5) (kk : ∀ (w : Int) (H : Heap) (locs : List Loc) (ls : Array Slot), GW D A s H locs d (wX h ad d S) → 0 ≤ w → w ≤ 100000 → (∀ x, 0 ≤ x → x < 3 → (S 9 v < 0 ∨ S 9 v = x) → cp w ≤ cp (wS S v x fr (S 1 0))) → lv_has ls 8 [(0, .ref h), (1, .int (iI fr)), (2, .int (iI u)), (3, .int (iI v)), (4, .int (iI w))] → W p l e (rmv 2) s m args below meth c H locs 0 0 Q (F0 m 87 ls [])) : ∀ (n : Nat) (b w : Int) (H : Heap) (locs : List Loc) (ls : Array Slot), 0 ≤ b → b ≤ 3 → 4 ≤ b + n → GW D A s H locs d (wX h ad d S) → 0 ≤ w → w ≤ 100000 → (∀ x, 0 ≤ x → x < b → (S 9 v < 0 ∨ S 9 v = x) → cp w ≤ cp (wS S v x fr (S 1 0))) → lv_has ls 8 [(0, .ref h), (1, .int (iI fr)), (2, .int (iI u)), (3, .int (iI v)), (4, .int (iI w)), (5, .int (iI b))] → W p l e (rmv 2) s m args below meth c H locs 0 0 Q (F0 m 17 ls []) := by
  have hx := C.1
  have hb := C.2.1
  intro n
  induction n with
  | zero =>
    intro b w H locs ls h1 h2 h3
    exact absurd h3 (by omega)
  | succ n ih =>
    intro b w H locs ls h1 h2 h3 Z i0 i1 i2 hl
    have b9 := h9 v (by omega) (by omega)
    refine lv_iload hx hb dX0_ahead_17 (lv_at hl 5 rfl) ?_
    refine z_iconst hx hb dX0_ahead_19 ?_
    refine z_icmp_ge (tgt := 87) hx hb dX0_ahead_20 (by decide) (by omega) (by omega) (fun c_20 => ?_) (fun c_20 => ?_)
    · obtain rfl : b = 3 := by omega
      exact kk w H locs ls Z i0 i1 i2 (lv_sub hl [0, 1, 2, 3, 4] rfl)
    · refine lv_aload_n hx hb dX0_ahead_23 rfl (lv_at hl 0 rfl) ?_
      refine x_get_9 C Z dX0_ahead_24 ?_
      refine lv_iload_n hx hb dX0_ahead_27 rfl (lv_at hl 3 rfl) ?_
      refine x_ald_9 C Z (e0 := v) (by omega) (by omega) dX0_ahead_28 ?_
      refine z_if_lt (tgt := 43) hx hb dX0_ahead_29 (by decide) (by omega) (fun c_29 => ?_) (fun c_29 => ?_)
      · refine z_iconst hx hb dX0_ahead_43 ?_
        refine lv_goto (tgt := 48) hx hb dX0_ahead_44 (by decide) ?_
        refine lv_istore (lv' := [(6, .int (iI 1)), (0, .ref h), (1, .int (iI fr)), (2, .int (iI u)), (3, .int (iI v)), (4, .int (iI w)), (5, .int (iI b))]) hx hb dX0_ahead_48 hl (by decide) rfl (fun ls hl => ?_)
        refine lv_iload hx hb dX0_ahead_50 (lv_at hl 0 rfl) ?_
        refine z_if_eq (tgt := 66) hx hb dX0_ahead_52 (by decide) (by omega) (fun c_52 => ?_) (fun c_52 => ?_)
        · omega
        · refine lv_aload_n hx hb dX0_ahead_55 rfl (lv_at hl 1 rfl) ?_
          refine lv_iload_n hx hb dX0_ahead_56 rfl (lv_at hl 4 rfl) ?_
          refine lv_iload hx hb dX0_ahead_57 (lv_at hl 6 rfl) ?_
          refine lv_iload_n hx hb dX0_ahead_59 rfl (lv_at hl 2 rfl) ?_
          refine g_calli (n := 3) (wr := []) (w := wX h ad d) (As := [.int (iI v), .int (iI b), .int (iI fr)]) (rest := []) C Z hl.1 (kx_withTaken l D d h ad S v b fr (by omega) (by omega) hf hn hm hk) (lw_V q152 q154 qs8 q19 q155) rfl rfl (by decide +kernel) rfl ⟨rfl, rfl⟩ ⟨Nat.le_of_ble_eq_true rfl, Nat.le_of_ble_eq_true rfl⟩ rfl (Nat.le_of_ble_eq_true rfl) dX0_ahead_60 ⟨Nat.zero_le _, Nat.zero_le _⟩ (fun z1 S2 H locs hz1 Z => ?_)
          have Z : GW D _ s H locs d (wX h ad d S2) := Z
          rw [hz1.1] at Z
          have bz1 := hz1.2.1
          have bbz1 := hz1.2.2.1
          refine lv_goto (tgt := 68) hx hb dX0_ahead_63 (by decide) ?_
          refine lv_istore (lv' := [(7, .int (iI z1)), (6, .int (iI 1)), (0, .ref h), (1, .int (iI fr)), (2, .int (iI u)), (3, .int (iI v)), (4, .int (iI w)), (5, .int (iI b))]) hx hb dX0_ahead_68 hl (by decide) rfl (fun ls hl => ?_)
          refine lv_iload hx hb dX0_ahead_70 (lv_at hl 0 rfl) ?_
          refine lv_iload hx hb dX0_ahead_72 (lv_at hl 6 rfl) ?_
          refine z_icmp_ge (tgt := 81) hx hb dX0_ahead_74 (by decide) (by omega) (by omega) (fun c_74 => ?_) (fun c_74 => ?_)
          · refine z_iinc (lv' := [(5, .int (iI (b + 1))), (7, .int (iI z1)), (6, .int (iI 1)), (0, .ref h), (1, .int (iI fr)), (2, .int (iI u)), (3, .int (iI v)), (4, .int (iI w))]) hx hb dX0_ahead_81 hl (k := 7) rfl (by decide) rfl (fun ls hl => ?_)
            refine lv_goto (tgt := 17) hx hb dX0_ahead_84 (by decide) ?_
            refine ih (b + 1) w H locs ls (by omega) (by omega) (by omega) Z (by omega) (by omega) (fun x y0 y1 ho => ?_) (lv_sub hl [3, 4, 5, 6, 7, 0] rfl)
            by_cases q : x = b
            · subst q
              rw [← hz1.2.2.2]
              exact cp_le (by omega)
            · exact Int.le_trans (cp_le (by omega)) (i2 x y0 (by omega) ho)
          · refine lv_iload hx hb dX0_ahead_77 (lv_at hl 0 rfl) ?_
            refine lv_istore (lv' := [(4, .int (iI z1)), (7, .int (iI z1)), (6, .int (iI 1)), (0, .ref h), (1, .int (iI fr)), (2, .int (iI u)), (3, .int (iI v)), (5, .int (iI b))]) hx hb dX0_ahead_79 hl (by decide) rfl (fun ls hl => ?_)
            refine z_iinc (lv' := [(5, .int (iI (b + 1))), (4, .int (iI z1)), (7, .int (iI z1)), (6, .int (iI 1)), (0, .ref h), (1, .int (iI fr)), (2, .int (iI u)), (3, .int (iI v))]) hx hb dX0_ahead_81 hl (k := 7) rfl (by decide) rfl (fun ls hl => ?_)
            refine lv_goto (tgt := 17) hx hb dX0_ahead_84 (by decide) ?_
            refine ih (b + 1) z1 H locs ls (by omega) (by omega) (by omega) Z (by omega) (by omega) (fun x y0 y1 ho => ?_) (lv_sub hl [4, 5, 6, 7, 1, 0] rfl)
            by_cases q : x = b
            · subst q
              rw [← hz1.2.2.2]
              exact cp_le (by omega)
            · exact Int.le_trans (cp_le (by omega)) (i2 x y0 (by omega) ho)
      · refine lv_aload_n hx hb dX0_ahead_32 rfl (lv_at hl 0 rfl) ?_
        refine x_get_9 C Z dX0_ahead_33 ?_
        refine lv_iload_n hx hb dX0_ahead_36 rfl (lv_at hl 3 rfl) ?_
        refine x_ald_9 C Z (e0 := v) (by omega) (by omega) dX0_ahead_37 ?_
        refine lv_iload hx hb dX0_ahead_38 (lv_at hl 5 rfl) ?_
        refine z_icmp_ne (tgt := 47) hx hb dX0_ahead_40 (by decide) (by omega) (by omega) (fun c_40 => ?_) (fun c_40 => ?_)
        · refine z_iconst hx hb dX0_ahead_47 ?_
          refine lv_istore (lv' := [(6, .int (iI 0)), (0, .ref h), (1, .int (iI fr)), (2, .int (iI u)), (3, .int (iI v)), (4, .int (iI w)), (5, .int (iI b))]) hx hb dX0_ahead_48 hl (by decide) rfl (fun ls hl => ?_)
          refine lv_iload hx hb dX0_ahead_50 (lv_at hl 0 rfl) ?_
          refine z_if_eq (tgt := 66) hx hb dX0_ahead_52 (by decide) (by omega) (fun c_52 => ?_) (fun c_52 => ?_)
          · refine z_ldc (z := 100000) hx hb C.2.2.2.1 (C.2.2.2.2 _ q125) (by decide) dX0_ahead_66 ?_
            refine lv_istore (lv' := [(7, .int (iI 100000)), (6, .int (iI 0)), (0, .ref h), (1, .int (iI fr)), (2, .int (iI u)), (3, .int (iI v)), (4, .int (iI w)), (5, .int (iI b))]) hx hb dX0_ahead_68 hl (by decide) rfl (fun ls hl => ?_)
            refine lv_iload hx hb dX0_ahead_70 (lv_at hl 0 rfl) ?_
            refine lv_iload hx hb dX0_ahead_72 (lv_at hl 6 rfl) ?_
            refine z_icmp_ge (tgt := 81) hx hb dX0_ahead_74 (by decide) (by omega) (by omega) (fun c_74 => ?_) (fun c_74 => ?_)
            · refine z_iinc (lv' := [(5, .int (iI (b + 1))), (7, .int (iI 100000)), (6, .int (iI 0)), (0, .ref h), (1, .int (iI fr)), (2, .int (iI u)), (3, .int (iI v)), (4, .int (iI w))]) hx hb dX0_ahead_81 hl (k := 7) rfl (by decide) rfl (fun ls hl => ?_)
              refine lv_goto (tgt := 17) hx hb dX0_ahead_84 (by decide) ?_
              refine ih (b + 1) w H locs ls (by omega) (by omega) (by omega) Z (by omega) (by omega) (fun x y0 y1 ho => ?_) (lv_sub hl [3, 4, 5, 6, 7, 0] rfl)
              by_cases q : x = b
              · omega
              · exact Int.le_trans (cp_le (by omega)) (i2 x y0 (by omega) ho)
            · refine lv_iload hx hb dX0_ahead_77 (lv_at hl 0 rfl) ?_
              refine lv_istore (lv' := [(4, .int (iI 100000)), (7, .int (iI 100000)), (6, .int (iI 0)), (0, .ref h), (1, .int (iI fr)), (2, .int (iI u)), (3, .int (iI v)), (5, .int (iI b))]) hx hb dX0_ahead_79 hl (by decide) rfl (fun ls hl => ?_)
              refine z_iinc (lv' := [(5, .int (iI (b + 1))), (4, .int (iI 100000)), (7, .int (iI 100000)), (6, .int (iI 0)), (0, .ref h), (1, .int (iI fr)), (2, .int (iI u)), (3, .int (iI v))]) hx hb dX0_ahead_81 hl (k := 7) rfl (by decide) rfl (fun ls hl => ?_)
              refine lv_goto (tgt := 17) hx hb dX0_ahead_84 (by decide) ?_
              omega
          · omega
        · refine z_iconst hx hb dX0_ahead_43 ?_
          refine lv_goto (tgt := 48) hx hb dX0_ahead_44 (by decide) ?_
          refine lv_istore (lv' := [(6, .int (iI 1)), (0, .ref h), (1, .int (iI fr)), (2, .int (iI u)), (3, .int (iI v)), (4, .int (iI w)), (5, .int (iI b))]) hx hb dX0_ahead_48 hl (by decide) rfl (fun ls hl => ?_)
          refine lv_iload hx hb dX0_ahead_50 (lv_at hl 0 rfl) ?_
          refine z_if_eq (tgt := 66) hx hb dX0_ahead_52 (by decide) (by omega) (fun c_52 => ?_) (fun c_52 => ?_)
          · omega
          · refine lv_aload_n hx hb dX0_ahead_55 rfl (lv_at hl 1 rfl) ?_
            refine lv_iload_n hx hb dX0_ahead_56 rfl (lv_at hl 4 rfl) ?_
            refine lv_iload hx hb dX0_ahead_57 (lv_at hl 6 rfl) ?_
            refine lv_iload_n hx hb dX0_ahead_59 rfl (lv_at hl 2 rfl) ?_
            refine g_calli (n := 3) (wr := []) (w := wX h ad d) (As := [.int (iI v), .int (iI b), .int (iI fr)]) (rest := []) C Z hl.1 (kx_withTaken l D d h ad S v b fr (by omega) (by omega) hf hn hm hk) (lw_V q152 q154 qs8 q19 q155) rfl rfl (by decide +kernel) rfl ⟨rfl, rfl⟩ ⟨Nat.le_of_ble_eq_true rfl, Nat.le_of_ble_eq_true rfl⟩ rfl (Nat.le_of_ble_eq_true rfl) dX0_ahead_60 ⟨Nat.zero_le _, Nat.zero_le _⟩ (fun z3 S4 H locs hz3 Z => ?_)
            have Z : GW D _ s H locs d (wX h ad d S4) := Z
            rw [hz3.1] at Z
            have bz3 := hz3.2.1
            have bbz3 := hz3.2.2.1
            refine lv_goto (tgt := 68) hx hb dX0_ahead_63 (by decide) ?_
            refine lv_istore (lv' := [(7, .int (iI z3)), (6, .int (iI 1)), (0, .ref h), (1, .int (iI fr)), (2, .int (iI u)), (3, .int (iI v)), (4, .int (iI w)), (5, .int (iI b))]) hx hb dX0_ahead_68 hl (by decide) rfl (fun ls hl => ?_)
            refine lv_iload hx hb dX0_ahead_70 (lv_at hl 0 rfl) ?_
            refine lv_iload hx hb dX0_ahead_72 (lv_at hl 6 rfl) ?_
            refine z_icmp_ge (tgt := 81) hx hb dX0_ahead_74 (by decide) (by omega) (by omega) (fun c_74 => ?_) (fun c_74 => ?_)
            · refine z_iinc (lv' := [(5, .int (iI (b + 1))), (7, .int (iI z3)), (6, .int (iI 1)), (0, .ref h), (1, .int (iI fr)), (2, .int (iI u)), (3, .int (iI v)), (4, .int (iI w))]) hx hb dX0_ahead_81 hl (k := 7) rfl (by decide) rfl (fun ls hl => ?_)
              refine lv_goto (tgt := 17) hx hb dX0_ahead_84 (by decide) ?_
              refine ih (b + 1) w H locs ls (by omega) (by omega) (by omega) Z (by omega) (by omega) (fun x y0 y1 ho => ?_) (lv_sub hl [3, 4, 5, 6, 7, 0] rfl)
              by_cases q : x = b
              · subst q
                rw [← hz3.2.2.2]
                exact cp_le (by omega)
              · exact Int.le_trans (cp_le (by omega)) (i2 x y0 (by omega) ho)
            · refine lv_iload hx hb dX0_ahead_77 (lv_at hl 0 rfl) ?_
              refine lv_istore (lv' := [(4, .int (iI z3)), (7, .int (iI z3)), (6, .int (iI 1)), (0, .ref h), (1, .int (iI fr)), (2, .int (iI u)), (3, .int (iI v)), (5, .int (iI b))]) hx hb dX0_ahead_79 hl (by decide) rfl (fun ls hl => ?_)
              refine z_iinc (lv' := [(5, .int (iI (b + 1))), (4, .int (iI z3)), (7, .int (iI z3)), (6, .int (iI 1)), (0, .ref h), (1, .int (iI fr)), (2, .int (iI u)), (3, .int (iI v))]) hx hb dX0_ahead_81 hl (k := 7) rfl (by decide) rfl (fun ls hl => ?_)
              refine lv_goto (tgt := 17) hx hb dX0_ahead_84 (by decide) ?_
              refine ih (b + 1) z3 H locs ls (by omega) (by omega) (by omega) Z (by omega) (by omega) (fun x y0 y1 ho => ?_) (lv_sub hl [4, 5, 6, 7, 1, 0] rfl)
              by_cases q : x = b
              · subst q
                rw [← hz3.2.2.2]
                exact cp_le (by omega)
              · exact Int.le_trans (cp_le (by omega)) (i2 x y0 (by omega) ho)
set_option maxHeartbeats 8000000 in
theorem Lx_ahead {p : Program} {l : Launch} {e : Env} {s : State} {m : MethodId} {args : Array Value} {below : List Frame} {meth : Method} {c : Code} {Q : State → Prop} {D : va_G} {A : Nat → Prop} {d : ClassId} {h : Nat} {ad : Nat → Nat} (C : CallFix p m c cX0_ahead 8 s args lw_all RX0) (S : St) (fr : Int) (hf : 0 ≤ fr ∧ fr ≤ 6) (hn : nOK S) (hm : mOK S) (hk : ∀ j, 0 ≤ j → j < fr → 0 ≤ S 10 j ∧ S 10 j ≤ 2) (h9 : ∀ j, 0 ≤ j → j ≤ 5 → -1 ≤ S 9 j ∧ S 9 j ≤ 2) (kk : ∀ (u : Int) (H : Heap) (locs : List Loc) (ls : Array Slot), GW D A s H locs d (wX h ad d S) → 0 ≤ u → u ≤ 100000 → (∀ f, vl f → opn S f fr → cp u ≤ cp (aS S f fr 6)) → lv_has ls 8 [(0, .ref h), (2, .int (iI u))] → W p l e (rmv 2) s m args below meth c H locs 0 0 Q (F0 m 100 ls [])) : ∀ (n : Nat) (v u : Int) (H : Heap) (locs : List Loc) (ls : Array Slot), fr ≤ v → v ≤ 6 → 7 ≤ v + n → GW D A s H locs d (wX h ad d S) → 0 ≤ u → u ≤ 100000 → (∀ f, vl f → opn S f fr → cp u ≤ cp (aS S f fr v)) → lv_has ls 8 [(0, .ref h), (1, .int (iI fr)), (2, .int (iI u)), (3, .int (iI v))] → W p l e (rmv 2) s m args below meth c H locs 0 0 Q (F0 m 4 ls []) := by
  have hx := C.1
  have hb := C.2.1
  intro n
  induction n with
  | zero =>
    intro v u H locs ls h1 h2 h3
    exact absurd h3 (by omega)
  | succ n ih =>
    intro v u H locs ls h1 h2 h3 Z i0 i1 i2 hl
    refine lv_iload_n hx hb dX0_ahead_4 rfl (lv_at hl 3 rfl) ?_
    refine z_bipush hx hb dX0_ahead_5 (by decide) ?_
    refine z_icmp_ge (tgt := 100) hx hb dX0_ahead_7 (by decide) (by omega) (by omega) (fun c_7 => ?_) (fun c_7 => ?_)
    · obtain rfl : v = 6 := by omega
      exact kk u H locs ls Z i0 i1 i2 (lv_sub hl [0, 2] rfl)
    · refine z_ldc (z := 100000) hx hb C.2.2.2.1 (C.2.2.2.2 _ q125) (by decide) dX0_ahead_10 ?_
      refine lv_istore (lv' := [(4, .int (iI 100000)), (0, .ref h), (1, .int (iI fr)), (2, .int (iI u)), (3, .int (iI v))]) hx hb dX0_ahead_12 hl (by decide) rfl (fun ls hl => ?_)
      refine z_iconst hx hb dX0_ahead_14 ?_
      refine lv_istore (lv' := [(5, .int (iI 0)), (4, .int (iI 100000)), (0, .ref h), (1, .int (iI fr)), (2, .int (iI u)), (3, .int (iI v))]) hx hb dX0_ahead_15 hl (by decide) rfl (fun ls hl => ?_)
      refine Lx_ahead1 C S fr u v hf hn hm hk h9 (by omega) (fun w H locs ls Z j0 j1 j2 hl => ?_) 4 0 100000 _ _ ls (by omega) (by omega) (by omega) Z (by omega) (by omega) (fun x y0 y1 => by omega) (lv_sub hl [2, 3, 4, 5, 1, 0] rfl)
      refine lv_iload_n hx hb dX0_ahead_87 rfl (lv_at hl 2 rfl) ?_
      refine lv_iload hx hb dX0_ahead_88 (lv_at hl 4 rfl) ?_
      refine g_calls (n := 2) (As := [.int (iI u), .int (iI w)]) (rest := []) C Z hl.1 (c_more l u w (by omega) (by omega)) (lw_S q133 q134 q19 q135) (by decide +kernel) rfl ⟨rfl, rfl⟩ ⟨Nat.le_of_ble_eq_true rfl, Nat.le_of_ble_eq_true rfl⟩ rfl (Nat.le_of_ble_eq_true rfl) dX0_ahead_90 ⟨Nat.zero_le _, Nat.zero_le _⟩ (fun z1 H locs hz1 Z => ?_)
      have bz1 := mo_b (by omega) (by omega) hz1
      refine lv_istore_n (lv' := [(2, .int (iI z1)), (0, .ref h), (1, .int (iI fr)), (3, .int (iI v)), (4, .int (iI w))]) hx hb dX0_ahead_93 rfl hl (by decide) rfl (fun ls hl => ?_)
      refine z_iinc (lv' := [(3, .int (iI (v + 1))), (2, .int (iI z1)), (0, .ref h), (1, .int (iI fr)), (4, .int (iI w))]) hx hb dX0_ahead_94 hl (k := 3) rfl (by decide) rfl (fun ls hl => ?_)
      refine lv_goto (tgt := 4) hx hb dX0_ahead_97 (by decide) ?_
      refine ih (v + 1) z1 H locs ls (by omega) (by omega) (by omega) Z bz1.1 bz1.2 (fun f vf of => ?_) (lv_sub hl [2, 3, 1, 0] rfl)
      rw [aS_s (by omega) (by omega)]
      exact cp_addle i0 j0 (aS_nn hm _ _ _) (wS_nn hm _ _ _ _) (i2 f vf of) (j2 (f v) (vf v).1 (by have := (vf v).2; omega) (of v (by omega) (by omega))) hz1
set_option maxHeartbeats 8000000 in
theorem kx_ahead (l : Launch) (D : va_G) (d : ClassId) (h : Nat) (ad : Nat → Nat) (S : St) (fr : Int) (hf : 0 ≤ fr ∧ fr ≤ 6) (hn : nOK S) (hm : mOK S) (hk : ∀ j, 0 ≤ j → j < fr → 0 ≤ S 10 j ∧ S 10 j ≤ 2) (h9 : ∀ j, 0 ≤ j → j ≤ 5 → -1 ≤ S 9 j ∧ S 9 j ≤ 2) : gMi l D d (wX h ad d) h yX0_ahead cX0_ahead 8 (some .int) (rmv 2) [.int (iI fr)] S (fun z S' => S' = S ∧ 0 ≤ z ∧ z ≤ 100000 ∧ ∀ f, vl f → opn S f fr → cp z ≤ cp (aS S f fr 6)) := by
  refine g_met (by decide) (Nat.le_of_ble_eq_true rfl) ?_
  intro p e s m args below meth c C hr hlk Z ls hl
  have C : CallFix p m c cX0_ahead 8 s args lw_all RX0 := C
  have hx := C.1
  have hb := C.2.1
  have hl : lv_has ls 8 [(0, .ref h), (1, .int (iI fr))] := hl
  refine z_iconst hx hb dX0_ahead_0 ?_
  refine lv_istore_n (lv' := [(2, .int (iI 0)), (0, .ref h), (1, .int (iI fr))]) hx hb dX0_ahead_1 rfl hl (by decide) rfl (fun ls hl => ?_)
  refine lv_iload_n hx hb dX0_ahead_2 rfl (lv_at hl 2 rfl) ?_
  refine lv_istore_n (lv' := [(3, .int (iI fr)), (2, .int (iI 0)), (0, .ref h), (1, .int (iI fr))]) hx hb dX0_ahead_3 rfl hl (by decide) rfl (fun ls hl => ?_)
  refine Lx_ahead C S fr hf hn hm hk h9 (fun u H locs ls Z i0 i1 i2 hl => ?_) 7 fr 0 _ _ ls (by omega) (by omega) (by omega) Z (by omega) (by omega) (fun f vf of => ?_) (lv_sub hl [2, 3, 1, 0] rfl)
  rotate_left
  · rw [aS_0 hf.1]
    exact Int.le_refl _
  refine lv_iload_n hx hb dX0_ahead_100 rfl (lv_at hl 1 rfl) ?_
  exact g_reti C hr hlk Z dX0_ahead_101 (⟨rfl, i0, i1, i2⟩)
end
section
set_option maxRecDepth 100000
/-! ===== costs moved: what an assignment costs stays ===== -/
theorem sm_ge {f : Int → Int} (h : ∀ i, 0 ≤ f i) {n : Nat} {v : Int} (hv : 0 ≤ v) (hn : v < n) : f v ≤ sm f n := by
  induction n with
  | zero => omega
  | succ n ih =>
    show f v ≤ sm f n + f n
    have a := h n
    by_cases e : v = n
    · subst e
      have := sm_nn h n
      omega
    · have := ih (by omega)
      omega
def nw (w y : Int) : Int := if 50000 ≤ w then 0 else le_ y w
theorem nw_o (w y : Int) : (50000 ≤ w ∧ nw w y = 0) ∨ (w < 50000 ∧ 50000 ≤ y ∧ nw w y = 100000) ∨ (w < 50000 ∧ y < 50000 ∧ nw w y = y - w) := by
  unfold nw le_
  split
  · omega
  · split <;> omega
/-- the moved part: a receives w, y gives it -/
theorem mv_cp {R a w y : Int} (hR : 0 ≤ R) (ha : 0 ≤ a) (hw : 0 ≤ w) (hy : w ≤ y) : cp (R + cp (mo a w) + cp (nw w y)) = cp (R + cp a + cp y) := by
  have g1 := mo_o (z := mo a w) rfl
  have g2 := nw_o w y
  have g3 := cp_o (mo a w)
  have g4 := cp_o (nw w y)
  have g5 := cp_o a
  have g6 := cp_o y
  have g7 := cp_o (R + cp (mo a w) + cp (nw w y))
  have g8 := cp_o (R + cp a + cp y)
  omega
theorem nw_b {w y : Int} (hw : 0 ≤ w) (hy : w ≤ y) (h2 : y ≤ 100000) : 0 ≤ nw w y ∧ nw w y ≤ 100000 := by
  have g2 := nw_o w y
  omega
theorem mv_keep {S S' : St} {t v o a w : Int} {f : Int} (hn : nOK S) (hm : mOK S) (ht : 0 ≤ t ∧ t < S 1 0) (ha : 0 ≤ a ∧ a ≤ 2) (hw0 : 0 ≤ w) (hf : (f = 0 ∧ v = S 3 t ∧ o = S 2 t) ∨ (f = 1 ∧ v = S 2 t ∧ o = S 3 t))
    (e0 : ∀ k, k ≠ 7 → k ≠ 8 → S' k = S k) (e7 : ∀ j, S' 7 j = if j = v * 3 + a then mo (S 7 (v * 3 + a)) w else S 7 j)
    (e8a : ∀ x, 0 ≤ x → x < 3 → S' 8 (pA t a x f) = nw w (S 8 (pA t a x f))) (e8b : ∀ j, (∀ x, 0 ≤ x → x < 3 → j ≠ pA t a x f) → S' 8 j = S 8 j)
    (hw : ∀ x, 0 ≤ x → x < 3 → w ≤ S 8 (pA t a x f)) : mOK S' ∧ ∀ g, vl g → tM S' g = tM S g := by
  obtain ⟨n1, n0, n2, n3, n4, n5⟩ := id hn
  obtain ⟨m6, m7, m8⟩ := id hm
  have pAo : ∀ x y, pA t y x f = (if f = 0 then t * 9 + x + 3 * y else t * 9 + y + 3 * x) := fun x y => rfl
  refine ⟨⟨?_, fun j => ?_, fun j => ?_⟩, fun g vg => ?_⟩
  · rw [e0 6 (by decide) (by decide)]; exact m6
  · rw [e7 j]
    split
    · exact mo_b (m7 _).1 hw0 rfl
    · exact m7 j
  · by_cases q : ∃ x, 0 ≤ x ∧ x < 3 ∧ j = pA t a x f
    · obtain ⟨x, h1, h2, rfl⟩ := q
      rw [e8a x h1 h2]
      exact nw_b hw0 (hw x h1 h2) (m8 _).2
    · rw [e8b j (fun x h1 h2 h3 => q ⟨x, h1, h2, h3⟩)]
      exact m8 j
  · have hpl : pl S' g = pl S g := by
      funext i
      unfold pl
      rw [e0 2 (by decide) (by decide), e0 3 (by decide) (by decide)]
    have gv := vg v
    have go := vg o
    have b2 := n2 t
    have b3 := n3 t
    have plt : pl S g t = pA t (g v) (g o) f := by
      unfold pl
      rw [pAo]
      rcases hf with ⟨h1, h2, h3⟩ | ⟨h1, h2, h3⟩
      · rw [if_pos h1, h2, h3]
      · rw [if_neg (by omega), h2, h3]
    have hv : 0 ≤ v ∧ v ≤ 5 := by omega
    have far : ∀ i, i ≠ t → ∀ x, 0 ≤ x → x < 3 → pl S g i ≠ pA t a x f := by
      intro i hi x h1 h2
      rw [pAo]
      unfold pl
      have := vg (S 2 i)
      have := vg (S 3 i)
      rcases hf with ⟨f1, -, -⟩ | ⟨f1, -, -⟩
      · rw [if_pos f1]; omega
      · rw [if_neg (by omega)]; omega
    unfold tM
    rw [hpl, e0 6 (by decide) (by decide), e0 1 (by decide) (by decide)]
    by_cases q : g v = a
    · have s1 := sm_at (f := fun u => cp (S' 7 (u * 3 + g u))) (g := fun u => cp (S 7 (u * 3 + g u))) (n := 6) (v := v) hv.1 (by omega) (fun i h1 h2 h3 => by
        have := vg i
        show cp (S' 7 (i * 3 + g i)) = cp (S 7 (i * 3 + g i))
        rw [e7, if_neg (by omega)])
      have s2 := sm_at (f := fun u => cp (S' 8 (pl S g u))) (g := fun u => cp (S 8 (pl S g u))) (n := (S 1 0).toNat) (v := t) ht.1 (by omega) (fun i h1 h2 h3 => by
        show cp (S' 8 (pl S g i)) = cp (S 8 (pl S g i))
        rw [e8b _ (far i h3)])
      have k1 : cp (S' 7 (v * 3 + g v)) = cp (mo (S 7 (v * 3 + a)) w) := by rw [e7, q, if_pos rfl]
      have k2 : cp (S' 8 (pl S g t)) = cp (nw w (S 8 (pl S g t))) := by rw [plt, q, e8a _ go.1 (by omega)]
      have hy : w ≤ S 8 (pl S g t) := by rw [plt, q]; exact hw _ go.1 (by omega)
      have r1 := sm_ge (f := fun u => cp (S 7 (u * 3 + g u))) (fun i => cp_nn (m7 _).1) (n := 6) hv.1 (by omega)
      have r2 := sm_ge (f := fun u => cp (S 8 (pl S g u))) (fun i => cp_nn (m8 _).1) (n := (S 1 0).toNat) ht.1 (by omega)
      try dsimp only at s1 s2 r1 r2
      rw [k1] at s1
      rw [k2] at s2
      rw [q] at s1 r1
      have k := mv_cp (R := cp (S 6 0) + (sm (fun u => cp (S 7 (u * 3 + g u))) 6 - cp (S 7 (v * 3 + a))) + (sm (fun u => cp (S 8 (pl S g u))) (S 1 0).toNat - cp (S 8 (pl S g t)))) (by have := cp_nn m6.1; omega) (m7 (v * 3 + a)).1 hw0 hy
      rw [show cp (S 6 0) + sm (fun v => cp (S' 7 (v * 3 + g v))) 6 + sm (fun t => cp (S' 8 (pl S g t))) (S 1 0).toNat = cp (S 6 0) + (sm (fun u => cp (S 7 (u * 3 + g u))) 6 - cp (S 7 (v * 3 + a))) + (sm (fun u => cp (S 8 (pl S g u))) (S 1 0).toNat - cp (S 8 (pl S g t))) + cp (mo (S 7 (v * 3 + a)) w) + cp (nw w (S 8 (pl S g t))) by omega, k]
      congr 1
      omega
    · rw [sm_congr (f := fun u => cp (S' 7 (u * 3 + g u))) (g := fun u => cp (S 7 (u * 3 + g u))) (fun i h1 h2 => by
        have := vg i
        show cp (S' 7 (i * 3 + g i)) = cp (S 7 (i * 3 + g i))
        rw [e7, if_neg (fun z => q (by
          have : i = v := by omega
          subst this
          omega))])]
      rw [sm_congr (f := fun u => cp (S' 8 (pl S g u))) (g := fun u => cp (S 8 (pl S g u))) (fun i h1 h2 => by
        show cp (S' 8 (pl S g i)) = cp (S 8 (pl S g i))
        by_cases z : i = t
        · rw [e8b]
          intro x h3 h4 h5
          rw [z, plt, pAo, pAo] at h5
          rcases hf with ⟨f1, -, -⟩ | ⟨f1, -, -⟩
          · rw [if_pos f1, if_pos f1] at h5; omega
          · rw [if_neg (by omega), if_neg (by omega)] at h5; omega
        · rw [e8b _ (far i z)])]
theorem mf_keep {S S' : St} {v w : Int} (hm : mOK S) (hv : 0 ≤ v ∧ v ≤ 5) (hw0 : 0 ≤ w)
    (e0 : ∀ k, k ≠ 6 → k ≠ 7 → S' k = S k) (e6 : S' 6 0 = mo (S 6 0) w)
    (e7a : ∀ x, 0 ≤ x → x < 3 → S' 7 (v * 3 + x) = nw w (S 7 (v * 3 + x))) (e7b : ∀ j, (∀ x, 0 ≤ x → x < 3 → j ≠ v * 3 + x) → S' 7 j = S 7 j)
    (hw : ∀ x, 0 ≤ x → x < 3 → w ≤ S 7 (v * 3 + x)) : mOK S' ∧ ∀ g, vl g → tM S' g = tM S g := by
  obtain ⟨m6, m7, m8⟩ := id hm
  refine ⟨⟨?_, fun j => ?_, fun j => ?_⟩, fun g vg => ?_⟩
  · rw [e6]; exact mo_b m6.1 hw0 rfl
  · by_cases q : ∃ x, 0 ≤ x ∧ x < 3 ∧ j = v * 3 + x
    · obtain ⟨x, h1, h2, rfl⟩ := q
      rw [e7a x h1 h2]
      exact nw_b hw0 (hw x h1 h2) (m7 _).2
    · rw [e7b j (fun x h1 h2 h3 => q ⟨x, h1, h2, h3⟩)]
      exact m7 j
  · rw [e0 8 (by decide) (by decide)]; exact m8 j
  · have hpl : pl S' g = pl S g := by
      funext i
      unfold pl
      rw [e0 2 (by decide) (by decide), e0 3 (by decide) (by decide)]
    have gv := vg v
    unfold tM
    rw [hpl, e6, e0 1 (by decide) (by decide), e0 8 (by decide) (by decide)]
    have s1 := sm_at (f := fun u => cp (S' 7 (u * 3 + g u))) (g := fun u => cp (S 7 (u * 3 + g u))) (n := 6) (v := v) hv.1 (by omega) (fun i h1 h2 h3 => by
      have := vg i
      show cp (S' 7 (i * 3 + g i)) = cp (S 7 (i * 3 + g i))
      rw [e7b]
      intro x h4 h5 h6
      omega)
    have k1 : cp (S' 7 (v * 3 + g v)) = cp (nw w (S 7 (v * 3 + g v))) := by rw [e7a _ gv.1 (by omega)]
    have r1 := sm_ge (f := fun u => cp (S 7 (u * 3 + g u))) (fun i => cp_nn (m7 _).1) (n := 6) hv.1 (by omega)
    try dsimp only at s1 r1
    rw [k1] at s1
    have r2 := sm_nn (f := fun u => cp (S 8 (pl S g u))) (fun i => cp_nn (m8 _).1) (S 1 0).toNat
    have k := mv_cp (R := (sm (fun u => cp (S 7 (u * 3 + g u))) 6 - cp (S 7 (v * 3 + g v))) + sm (fun u => cp (S 8 (pl S g u))) (S 1 0).toNat) (by omega) m6.1 hw0 (hw _ gv.1 (by omega))
    rw [show cp (mo (S 6 0) w) + sm (fun v => cp (S' 7 (v * 3 + g v))) 6 + sm (fun t => cp (S 8 (pl S g t))) (S 1 0).toNat = (sm (fun u => cp (S 7 (u * 3 + g u))) 6 - cp (S 7 (v * 3 + g v))) + sm (fun u => cp (S 8 (pl S g u))) (S 1 0).toNat + cp (mo (S 6 0) w) + cp (nw w (S 7 (v * 3 + g v))) by omega, k]
    congr 1
    omega
end
section
set_option maxRecDepth 100000
set_option maxHeartbeats 8000000 in
theorem Lx_mva0 {p : Program} {l : Launch} {e : Env} {s : State} {m : MethodId} {args : Array Value} {below : List Frame} {meth : Method} {c : Code} {Q : State → Prop} {D : va_G} {A : Nat → Prop} {d : ClassId} {h : Nat} {ad : Nat → Nat} (C : CallFix p m c cX0_moveToValue 8 s args lw_all RX0) (S : St) (t a : Int) (ht : 0 ≤ t ∧ t < S 1 0) (ha : 0 ≤ a ∧ a ≤ 2) (hn : nOK S) (hm : mOK S) (kk : ∀ (w : Int) (H : Heap) (locs : List Loc) (ls : Array Slot), GW D A s H locs d (wX h ad d S) → 0 ≤ w → w ≤ 100000 → (∀ x, 0 ≤ x → x < 3 → w ≤ S 8 (t * 9 + x + 3 * a)) → lv_has ls 8 [(0, .ref h), (1, .int (iI t)), (2, .int (iI a)), (3, .int (iI 0)), (4, .int (iI w))] → W p l e (rmv 1) s m args below meth c H locs 0 0 Q (F0 m 45 ls [])) : ∀ (n : Nat) (b w : Int) (H : Heap) (locs : List Loc) (ls : Array Slot), 0 ≤ b → b ≤ 3 → 4 ≤ b + n → GW D A s H locs d (wX h ad d S) → 0 ≤ w → w ≤ 100000 → (∀ x, 0 ≤ x → x < b → w ≤ S 8 (t * 9 + x + 3 * a)) → lv_has ls 8 [(0, .ref h), (1, .int (iI t)), (2, .int (iI a)), (3, .int (iI 0)), (4, .int (iI w)), (5, .int (iI b))] → W p l e (rmv 1) s m args below meth c H locs 0 0 Q (F0 m 7 ls []) := by
  have hx := C.1
  have hb := C.2.1
  obtain ⟨n1, n0, n2, n3, n4, n5⟩ := id hn
  obtain ⟨m6, m7, m8⟩ := id hm
  intro n
  induction n with
  | zero =>
    intro b w H locs ls h1 h2 h3
    exact absurd h3 (by omega)
  | succ n ih =>
    intro b w H locs ls h1 h2 h3 Z i0 i1 i2 hl
    have b8 := m8 (t * 9 + b + 3 * a)
    refine lv_iload hx hb dX0_moveToValue_7 (lv_at hl 5 rfl) ?_
    refine z_iconst hx hb dX0_moveToValue_9 ?_
    refine z_icmp_ge (tgt := 45) hx hb dX0_moveToValue_10 (by decide) (by omega) (by omega) (fun c_10 => ?_) (fun c_10 => ?_)
    · obtain rfl : b = 3 := by omega
      exact kk w H locs ls Z i0 i1 i2 (lv_sub hl [0, 1, 2, 3, 4] rfl)
    · refine lv_aload_n hx hb dX0_moveToValue_13 rfl (lv_at hl 0 rfl) ?_
      refine x_get_8 C Z dX0_moveToValue_14 ?_
      refine lv_iload_n hx hb dX0_moveToValue_17 rfl (lv_at hl 1 rfl) ?_
      refine lv_iload_n hx hb dX0_moveToValue_18 rfl (lv_at hl 2 rfl) ?_
      refine lv_iload hx hb dX0_moveToValue_19 (lv_at hl 5 rfl) ?_
      refine lv_iload_n hx hb dX0_moveToValue_21 rfl (lv_at hl 3 rfl) ?_
      refine g_calls (n := 4) (As := [.int (iI t), .int (iI a), .int (iI b), .int (iI 0)]) (rest := [.ref (ad 8)]) C Z hl.1 (c_pairAt l t a b 0 (by omega)) (lw_S q130 q131 q19 q132) (by decide +kernel) rfl ⟨rfl, rfl⟩ ⟨Nat.le_of_ble_eq_true rfl, Nat.le_of_ble_eq_true rfl⟩ rfl (Nat.le_of_ble_eq_true rfl) dX0_moveToValue_22 ⟨Nat.zero_le _, Nat.zero_le _⟩ (fun z1 H locs hz1 Z => ?_)
      obtain rfl : z1 = t * 9 + b + 3 * a := by have g := pA_o hz1; omega
      refine x_ald_8 C Z (e0 := t * 9 + b + 3 * a) (by omega) (by omega) dX0_moveToValue_25 ?_
      refine lv_istore (lv' := [(6, .int (iI (S 8 (t * 9 + b + 3 * a)))), (0, .ref h), (1, .int (iI t)), (2, .int (iI a)), (3, .int (iI 0)), (4, .int (iI w)), (5, .int (iI b))]) hx hb dX0_moveToValue_26 hl (by decide) rfl (fun ls hl => ?_)
      refine lv_iload hx hb dX0_moveToValue_28 (lv_at hl 0 rfl) ?_
      refine lv_iload hx hb dX0_moveToValue_30 (lv_at hl 5 rfl) ?_
      refine z_icmp_ge (tgt := 39) hx hb dX0_moveToValue_32 (by decide) (by omega) (by omega) (fun c_32 => ?_) (fun c_32 => ?_)
      · refine z_iinc (lv' := [(5, .int (iI (b + 1))), (6, .int (iI (S 8 (t * 9 + b + 3 * a)))), (0, .ref h), (1, .int (iI t)), (2, .int (iI a)), (3, .int (iI 0)), (4, .int (iI w))]) hx hb dX0_moveToValue_39 hl (k := 6) rfl (by decide) rfl (fun ls hl => ?_)
        refine lv_goto (tgt := 7) hx hb dX0_moveToValue_42 (by decide) ?_
        refine ih (b + 1) w H locs ls (by omega) (by omega) (by omega) Z (by omega) (by omega) (fun x y0 y1 => ?_) (lv_sub hl [2, 3, 4, 5, 6, 0] rfl)
        by_cases q : x = b
        · subst q
          omega
        · have := i2 x y0 (by omega)
          omega
      · refine lv_iload hx hb dX0_moveToValue_35 (lv_at hl 0 rfl) ?_
        refine lv_istore (lv' := [(4, .int (iI (S 8 (t * 9 + b + 3 * a)))), (6, .int (iI (S 8 (t * 9 + b + 3 * a)))), (0, .ref h), (1, .int (iI t)), (2, .int (iI a)), (3, .int (iI 0)), (5, .int (iI b))]) hx hb dX0_moveToValue_37 hl (by decide) rfl (fun ls hl => ?_)
        refine z_iinc (lv' := [(5, .int (iI (b + 1))), (4, .int (iI (S 8 (t * 9 + b + 3 * a)))), (6, .int (iI (S 8 (t * 9 + b + 3 * a)))), (0, .ref h), (1, .int (iI t)), (2, .int (iI a)), (3, .int (iI 0))]) hx hb dX0_moveToValue_39 hl (k := 6) rfl (by decide) rfl (fun ls hl => ?_)
        refine lv_goto (tgt := 7) hx hb dX0_moveToValue_42 (by decide) ?_
        refine ih (b + 1) (S 8 (t * 9 + b + 3 * a)) H locs ls (by omega) (by omega) (by omega) Z (by omega) (by omega) (fun x y0 y1 => ?_) (lv_sub hl [3, 4, 5, 6, 1, 0] rfl)
        by_cases q : x = b
        · subst q
          omega
        · have := i2 x y0 (by omega)
          omega
set_option maxHeartbeats 8000000 in
theorem Lx_mvb0 {p : Program} {l : Launch} {e : Env} {s : State} {m : MethodId} {args : Array Value} {below : List Frame} {meth : Method} {c : Code} {Q : State → Prop} {D : va_G} {A : Nat → Prop} {d : ClassId} {h : Nat} {ad : Nat → Nat} (C : CallFix p m c cX0_moveToValue 8 s args lw_all RX0) (S : St) (t a w : Int) (ht : 0 ≤ t ∧ t < S 1 0) (ha : 0 ≤ a ∧ a ≤ 2) (hn : nOK S) (hm : mOK S) (hw : 0 ≤ w ∧ w ≤ 100000) (kk : ∀ (T : St) (H : Heap) (locs : List Loc) (ls : Array Slot), GW D A s H locs d (wX h ad d T) → (∀ k, k ≠ 8 → T k = S k) → (∀ x, 0 ≤ x → x < 3 → T 8 (t * 9 + x + 3 * a) = nw w (S 8 (t * 9 + x + 3 * a))) → (∀ j, (∀ x, 0 ≤ x → x < 3 → j ≠ t * 9 + x + 3 * a) → T 8 j = S 8 j) → W p l e (rmv 1) s m args below meth c H locs 0 0 Q (F0 m 154 ls [])) : ∀ (n : Nat) (b : Int) (T : St) (H : Heap) (locs : List Loc) (ls : Array Slot), 0 ≤ b → b ≤ 3 → 4 ≤ b + n → GW D A s H locs d (wX h ad d T) → (∀ k, k ≠ 8 → T k = S k) → (∀ x, 0 ≤ x → x < b → T 8 (t * 9 + x + 3 * a) = nw w (S 8 (t * 9 + x + 3 * a))) → (∀ j, (∀ x, 0 ≤ x → x < b → j ≠ t * 9 + x + 3 * a) → T 8 j = S 8 j) → lv_has ls 8 [(0, .ref h), (1, .int (iI t)), (2, .int (iI a)), (3, .int (iI 0)), (4, .int (iI w)), (6, .int (iI b))] → W p l e (rmv 1) s m args below meth c H locs 0 0 Q (F0 m 102 ls []) := by
  have hx := C.1
  have hb := C.2.1
  obtain ⟨n1, n0, n2, n3, n4, n5⟩ := id hn
  obtain ⟨m6, m7, m8⟩ := id hm
  intro n
  induction n with
  | zero =>
    intro b T H locs ls h1 h2 h3
    exact absurd h3 (by omega)
  | succ n ih =>
    intro b T H locs ls h1 h2 h3 Z i0 i1 i2 hl
    have b8 := m8 (t * 9 + b + 3 * a)
    have eT : T 8 (t * 9 + b + 3 * a) = S 8 (t * 9 + b + 3 * a) := i2 _ (fun x y0 y1 => by omega)
    refine lv_iload hx hb dX0_moveToValue_102 (lv_at hl 5 rfl) ?_
    refine z_iconst hx hb dX0_moveToValue_104 ?_
    refine z_icmp_ge (tgt := 154) hx hb dX0_moveToValue_105 (by decide) (by omega) (by omega) (fun c_105 => ?_) (fun c_105 => ?_)
    · obtain rfl : b = 3 := by omega
      exact kk T H locs ls Z i0 i1 i2
    · refine lv_iload_n hx hb dX0_moveToValue_108 rfl (lv_at hl 1 rfl) ?_
      refine lv_iload_n hx hb dX0_moveToValue_109 rfl (lv_at hl 2 rfl) ?_
      refine lv_iload hx hb dX0_moveToValue_110 (lv_at hl 5 rfl) ?_
      refine lv_iload_n hx hb dX0_moveToValue_112 rfl (lv_at hl 3 rfl) ?_
      refine g_calls (n := 4) (As := [.int (iI t), .int (iI a), .int (iI b), .int (iI 0)]) (rest := []) C Z hl.1 (c_pairAt l t a b 0 (by omega)) (lw_S q130 q131 q19 q132) (by decide +kernel) rfl ⟨rfl, rfl⟩ ⟨Nat.le_of_ble_eq_true rfl, Nat.le_of_ble_eq_true rfl⟩ rfl (Nat.le_of_ble_eq_true rfl) dX0_moveToValue_113 ⟨Nat.zero_le _, Nat.zero_le _⟩ (fun z1 H locs hz1 Z => ?_)
      obtain rfl : z1 = t * 9 + b + 3 * a := by have g := pA_o hz1; omega
      refine lv_istore (lv' := [(7, .int (iI (t * 9 + b + 3 * a))), (0, .ref h), (1, .int (iI t)), (2, .int (iI a)), (3, .int (iI 0)), (4, .int (iI w)), (6, .int (iI b))]) hx hb dX0_moveToValue_116 hl (by decide) rfl (fun ls hl => ?_)
      refine lv_aload_n hx hb dX0_moveToValue_118 rfl (lv_at hl 1 rfl) ?_
      refine x_get_8 C Z dX0_moveToValue_119 ?_
      refine lv_iload hx hb dX0_moveToValue_122 (lv_at hl 0 rfl) ?_
      refine lv_iload hx hb dX0_moveToValue_124 (lv_at hl 5 rfl) ?_
      refine z_ldc (z := 50000) hx hb C.2.2.2.1 (C.2.2.2.2 _ q136) (by decide) dX0_moveToValue_126 ?_
      refine z_icmp_lt (tgt := 135) hx hb dX0_moveToValue_128 (by decide) (by omega) (by omega) (fun c_128 => ?_) (fun c_128 => ?_)
      · refine lv_aload_n hx hb dX0_moveToValue_135 rfl (lv_at hl 1 rfl) ?_
        refine x_get_8 C Z dX0_moveToValue_136 ?_
        refine lv_iload hx hb dX0_moveToValue_139 (lv_at hl 0 rfl) ?_
        refine x_ald_8 C Z (e0 := t * 9 + b + 3 * a) (by omega) (by omega) dX0_moveToValue_141 ?_
        refine lv_iload hx hb dX0_moveToValue_142 (lv_at hl 5 rfl) ?_
        refine g_calls (n := 2) (As := [.int (iI (T 8 (t * 9 + b + 3 * a))), .int (iI w)]) (rest := [.int (iI (t * 9 + b + 3 * a)), .ref (ad 8)]) C Z hl.1 (c_less l (T 8 (t * 9 + b + 3 * a)) w (by omega)) (lw_S q137 q138 q19 q139) (by decide +kernel) rfl ⟨rfl, rfl⟩ ⟨Nat.le_of_ble_eq_true rfl, Nat.le_of_ble_eq_true rfl⟩ rfl (Nat.le_of_ble_eq_true rfl) dX0_moveToValue_144 ⟨Nat.zero_le _, Nat.zero_le _⟩ (fun z2 H locs hz2 Z => ?_)
        refine x_ast_8 C Z (e0 := t * 9 + b + 3 * a) (by omega) (by omega) dX0_moveToValue_147 (fun S3 H locs eS3 Z => ?_)
        refine z_iinc (lv' := [(6, .int (iI (b + 1))), (7, .int (iI (t * 9 + b + 3 * a))), (0, .ref h), (1, .int (iI t)), (2, .int (iI a)), (3, .int (iI 0)), (4, .int (iI w))]) hx hb dX0_moveToValue_148 hl (k := 6) rfl (by decide) rfl (fun ls hl => ?_)
        refine lv_goto (tgt := 102) hx hb dX0_moveToValue_151 (by decide) ?_
        refine ih (b + 1) S3 H locs ls (by omega) (by omega) (by omega) Z (fun k hk => by rw [eS3, up_n _ _ _ _ _ hk]; exact i0 k hk) (fun x y0 y1 => ?_) (fun j hj => ?_) (lv_sub hl [2, 3, 4, 5, 6, 0] rfl)
        · rw [eS3]
          by_cases q : x = b
          · subst q
            rw [up_e]
            rw [hz2, eT]
            unfold nw
            rw [if_neg (by omega)]
          · rw [up_d _ _ _ _ _ (by omega)]
            exact i1 x y0 (by omega)
        · rw [eS3, up_d _ _ _ _ _ (hj b (by omega) (by omega))]
          exact i2 j (fun x y0 y1 => hj x y0 (by omega))
      · refine z_iconst hx hb dX0_moveToValue_131 ?_
        refine lv_goto (tgt := 147) hx hb dX0_moveToValue_132 (by decide) ?_
        refine x_ast_8 C Z (e0 := t * 9 + b + 3 * a) (by omega) (by omega) dX0_moveToValue_147 (fun S4 H locs eS4 Z => ?_)
        refine z_iinc (lv' := [(6, .int (iI (b + 1))), (7, .int (iI (t * 9 + b + 3 * a))), (0, .ref h), (1, .int (iI t)), (2, .int (iI a)), (3, .int (iI 0)), (4, .int (iI w))]) hx hb dX0_moveToValue_148 hl (k := 6) rfl (by decide) rfl (fun ls hl => ?_)
        refine lv_goto (tgt := 102) hx hb dX0_moveToValue_151 (by decide) ?_
        refine ih (b + 1) S4 H locs ls (by omega) (by omega) (by omega) Z (fun k hk => by rw [eS4, up_n _ _ _ _ _ hk]; exact i0 k hk) (fun x y0 y1 => ?_) (fun j hj => ?_) (lv_sub hl [2, 3, 4, 5, 6, 0] rfl)
        · rw [eS4]
          by_cases q : x = b
          · subst q
            rw [up_e]
            unfold nw
            rw [if_pos (by omega)]
          · rw [up_d _ _ _ _ _ (by omega)]
            exact i1 x y0 (by omega)
        · rw [eS4, up_d _ _ _ _ _ (hj b (by omega) (by omega))]
          exact i2 j (fun x y0 y1 => hj x y0 (by omega))
theorem pA_0 (t a x : Int) : pA t a x 0 = t * 9 + x + 3 * a := by
  have := pA_o (z := pA t a x 0) rfl
  omega
set_option maxHeartbeats 8000000 in
theorem kx_mv0 (l : Launch) (D : va_G) (d : ClassId) (h : Nat) (ad : Nat → Nat) (S : St) (t : Int) (a : Int) (ht : 0 ≤ t ∧ t < S 1 0) (ha : 0 ≤ a ∧ a ≤ 2) (hn : nOK S) (hm : mOK S) : gMv l D d (wX h ad d) h yX0_moveToValue cX0_moveToValue 8 (rmv 1) [.int (iI t), .int (iI a), .int (iI 0)] S (fun S' => (∀ k, k ≠ 7 → k ≠ 8 → S' k = S k) ∧ mOK S' ∧ ∀ g, vl g → tM S' g = tM S g) := by
  refine g_met (by decide) (Nat.le_of_ble_eq_true rfl) ?_
  intro p e s m args below meth c C hr hlk Z ls hl
  have C : CallFix p m c cX0_moveToValue 8 s args lw_all RX0 := C
  have hx := C.1
  have hb := C.2.1
  have hl : lv_has ls 8 [(0, .ref h), (1, .int (iI t)), (2, .int (iI a)), (3, .int (iI 0))] := hl
  obtain ⟨n1, n0, n2, n3, n4, n5⟩ := id hn
  obtain ⟨m6, m7, m8⟩ := id hm
  have b2 := n2 t
  have b3 := n3 t
  refine z_ldc (z := 100000) hx hb C.2.2.2.1 (C.2.2.2.2 _ q125) (by decide) dX0_moveToValue_0 ?_
  refine lv_istore (lv' := [(4, .int (iI 100000)), (0, .ref h), (1, .int (iI t)), (2, .int (iI a)), (3, .int (iI 0))]) hx hb dX0_moveToValue_2 hl (by decide) rfl (fun ls hl => ?_)
  refine z_iconst hx hb dX0_moveToValue_4 ?_
  refine lv_istore (lv' := [(5, .int (iI 0)), (4, .int (iI 100000)), (0, .ref h), (1, .int (iI t)), (2, .int (iI a)), (3, .int (iI 0))]) hx hb dX0_moveToValue_5 hl (by decide) rfl (fun ls hl => ?_)
  refine Lx_mva0 C S t a ht ha hn hm (fun w H locs ls Z i0 i1 i2 hl => ?_) 4 0 100000 _ _ ls (by omega) (by omega) (by omega) Z (by omega) (by omega) (fun x y0 y1 => by omega) (lv_sub hl [2, 3, 4, 5, 1, 0] rfl)
  refine lv_iload hx hb dX0_moveToValue_45 (lv_at hl 4 rfl) ?_
  refine z_if_ne (tgt := 51) hx hb dX0_moveToValue_47 (by decide) (by omega) (fun c_47 => ?_) (fun c_47 => ?_)
  · refine lv_iload_n hx hb dX0_moveToValue_51 rfl (lv_at hl 3 rfl) ?_
    refine z_if_eq (tgt := 64) hx hb dX0_moveToValue_52 (by decide) (by omega) (fun c_52 => ?_) (fun c_52 => ?_)
    · refine lv_aload_n hx hb dX0_moveToValue_64 rfl (lv_at hl 0 rfl) ?_
      refine x_get_3 C Z dX0_moveToValue_65 ?_
      refine lv_iload_n hx hb dX0_moveToValue_68 rfl (lv_at hl 1 rfl) ?_
      refine x_ald_3 C Z (e0 := t) (by omega) (by omega) dX0_moveToValue_69 ?_
      refine lv_istore (lv' := [(5, .int (iI (S 3 t))), (0, .ref h), (1, .int (iI t)), (2, .int (iI a)), (3, .int (iI 0)), (4, .int (iI w))]) hx hb dX0_moveToValue_70 hl (by decide) rfl (fun ls hl => ?_)
      refine lv_aload_n hx hb dX0_moveToValue_72 rfl (lv_at hl 1 rfl) ?_
      refine x_get_7 C Z dX0_moveToValue_73 ?_
      refine lv_iload hx hb dX0_moveToValue_76 (lv_at hl 0 rfl) ?_
      refine z_iconst hx hb dX0_moveToValue_78 ?_
      refine z_imul hx hb dX0_moveToValue_79 ?_
      refine lv_iload_n hx hb dX0_moveToValue_80 rfl (lv_at hl 3 rfl) ?_
      refine z_iadd hx hb dX0_moveToValue_81 ?_
      refine lv_aload_n hx hb dX0_moveToValue_82 rfl (lv_at hl 1 rfl) ?_
      refine x_get_7 C Z dX0_moveToValue_83 ?_
      refine lv_iload hx hb dX0_moveToValue_86 (lv_at hl 0 rfl) ?_
      refine z_iconst hx hb dX0_moveToValue_88 ?_
      refine z_imul hx hb dX0_moveToValue_89 ?_
      refine lv_iload_n hx hb dX0_moveToValue_90 rfl (lv_at hl 3 rfl) ?_
      refine z_iadd hx hb dX0_moveToValue_91 ?_
      refine x_ald_7 C Z (e0 := ((S 3 t) * 3) + a) (by omega) (by omega) dX0_moveToValue_92 ?_
      refine lv_iload hx hb dX0_moveToValue_93 (lv_at hl 5 rfl) ?_
      have b7 := m7 (S 3 t * 3 + a)
      refine g_calls (n := 2) (As := [.int (iI (S 7 (((S 3 t) * 3) + a))), .int (iI w)]) (rest := [.int (iI (((S 3 t) * 3) + a)), .ref (ad 7)]) C Z hl.1 (c_more l (S 7 (((S 3 t) * 3) + a)) w (by omega) (by omega)) (lw_S q133 q134 q19 q135) (by decide +kernel) rfl ⟨rfl, rfl⟩ ⟨Nat.le_of_ble_eq_true rfl, Nat.le_of_ble_eq_true rfl⟩ rfl (Nat.le_of_ble_eq_true rfl) dX0_moveToValue_95 ⟨Nat.zero_le _, Nat.zero_le _⟩ (fun z1 H locs hz1 Z => ?_)
      have bz1 := mo_b (by omega) (by omega) hz1
      refine x_ast_7 C Z (e0 := ((S 3 t) * 3) + a) (by omega) (by omega) dX0_moveToValue_98 (fun S2 H locs eS2 Z => ?_)
      refine z_iconst hx hb dX0_moveToValue_99 ?_
      refine lv_istore (lv' := [(6, .int (iI 0)), (5, .int (iI (S 3 t))), (0, .ref h), (1, .int (iI t)), (2, .int (iI a)), (3, .int (iI 0)), (4, .int (iI w))]) hx hb dX0_moveToValue_100 hl (by decide) rfl (fun ls hl => ?_)
      have en : nOK S2 := by
        rw [eS2]
        unfold nOK
        rw [up_n _ _ _ _ _ (by decide), up_n _ _ _ _ _ (by decide), up_n _ _ _ _ _ (by decide), up_n _ _ _ _ _ (by decide), up_n _ _ _ _ _ (by decide)]
        exact hn
      have em : mOK S2 := by
        rw [eS2]
        refine ⟨?_, fun j => ?_, fun j => ?_⟩
        · rw [up_n _ _ _ _ _ (by decide)]; exact m6
        · rw [up_s]
          split
          · exact bz1
          · exact m7 j
        · rw [up_n _ _ _ _ _ (by decide)]; exact m8 j
      have e1 : S2 1 0 = S 1 0 := by rw [eS2, up_n _ _ _ _ _ (by decide)]
      refine Lx_mvb0 C S2 t a w (by omega) ha en em (by omega) (fun T H locs ls Z j0 j1 j2 => ?_) 4 0 S2 _ _ ls (by omega) (by omega) (by omega) Z (fun k _ => rfl) (fun x y0 y1 => by omega) (fun j _ => rfl) (lv_sub hl [2, 3, 4, 5, 6, 0] rfl)
      exact g_retv C hr hlk Z dX0_moveToValue_154 (by
        have q8 : S2 8 = S 8 := by rw [eS2, up_n _ _ _ _ _ (by decide)]
        have q0 : ∀ k, k ≠ 7 → k ≠ 8 → T k = S k := fun k h7 h8 => by rw [j0 k h8, eS2, up_n _ _ _ _ _ h7]
        have q := mv_keep (S := S) (S' := T) (t := t) (v := S 3 t) (o := S 2 t) (a := a) (w := w) (f := 0) hn hm ht ha i0 (by omega) q0 (fun j => by rw [j0 7 (by decide), eS2, up_s, hz1]) (fun x y0 y1 => by rw [pA_0, ← q8]; exact j1 x y0 y1) (fun j hj => by rw [← q8]; exact j2 j (fun x y0 y1 => by rw [← pA_0]; exact hj x y0 y1)) (fun x y0 y1 => by rw [pA_0]; exact i2 x y0 y1)
        exact ⟨q0, q.1, q.2⟩)
    · omega
  · exact g_retv C hr hlk Z dX0_moveToValue_50 (⟨fun _ _ _ => rfl, hm, fun _ _ => rfl⟩)
set_option maxHeartbeats 8000000 in
theorem Lx_mva1 {p : Program} {l : Launch} {e : Env} {s : State} {m : MethodId} {args : Array Value} {below : List Frame} {meth : Method} {c : Code} {Q : State → Prop} {D : va_G} {A : Nat → Prop} {d : ClassId} {h : Nat} {ad : Nat → Nat} (C : CallFix p m c cX0_moveToValue 8 s args lw_all RX0) (S : St) (t a : Int) (ht : 0 ≤ t ∧ t < S 1 0) (ha : 0 ≤ a ∧ a ≤ 2) (hn : nOK S) (hm : mOK S) (kk : ∀ (w : Int) (H : Heap) (locs : List Loc) (ls : Array Slot), GW D A s H locs d (wX h ad d S) → 0 ≤ w → w ≤ 100000 → (∀ x, 0 ≤ x → x < 3 → w ≤ S 8 (t * 9 + a + 3 * x)) → lv_has ls 8 [(0, .ref h), (1, .int (iI t)), (2, .int (iI a)), (3, .int (iI 1)), (4, .int (iI w))] → W p l e (rmv 1) s m args below meth c H locs 0 0 Q (F0 m 45 ls [])) : ∀ (n : Nat) (b w : Int) (H : Heap) (locs : List Loc) (ls : Array Slot), 0 ≤ b → b ≤ 3 → 4 ≤ b + n → GW D A s H locs d (wX h ad d S) → 0 ≤ w → w ≤ 100000 → (∀ x, 0 ≤ x → x < b → w ≤ S 8 (t * 9 + a + 3 * x)) → lv_has ls 8 [(0, .ref h), (1, .int (iI t)), (2, .int (iI a)), (3, .int (iI 1)), (4, .int (iI w)), (5, .int (iI b))] → W p l e (rmv 1) s m args below meth c H locs 0 0 Q (F0 m 7 ls []) := by
  have hx := C.1
  have hb := C.2.1
  obtain ⟨n1, n0, n2, n3, n4, n5⟩ := id hn
  obtain ⟨m6, m7, m8⟩ := id hm
  intro n
  induction n with
  | zero =>
    intro b w H locs ls h1 h2 h3
    exact absurd h3 (by omega)
  | succ n ih =>
    intro b w H locs ls h1 h2 h3 Z i0 i1 i2 hl
    have b8 := m8 (t * 9 + a + 3 * b)
    refine lv_iload hx hb dX0_moveToValue_7 (lv_at hl 5 rfl) ?_
    refine z_iconst hx hb dX0_moveToValue_9 ?_
    refine z_icmp_ge (tgt := 45) hx hb dX0_moveToValue_10 (by decide) (by omega) (by omega) (fun c_10 => ?_) (fun c_10 => ?_)
    · obtain rfl : b = 3 := by omega
      exact kk w H locs ls Z i0 i1 i2 (lv_sub hl [0, 1, 2, 3, 4] rfl)
    · refine lv_aload_n hx hb dX0_moveToValue_13 rfl (lv_at hl 0 rfl) ?_
      refine x_get_8 C Z dX0_moveToValue_14 ?_
      refine lv_iload_n hx hb dX0_moveToValue_17 rfl (lv_at hl 1 rfl) ?_
      refine lv_iload_n hx hb dX0_moveToValue_18 rfl (lv_at hl 2 rfl) ?_
      refine lv_iload hx hb dX0_moveToValue_19 (lv_at hl 5 rfl) ?_
      refine lv_iload_n hx hb dX0_moveToValue_21 rfl (lv_at hl 3 rfl) ?_
      refine g_calls (n := 4) (As := [.int (iI t), .int (iI a), .int (iI b), .int (iI 1)]) (rest := [.ref (ad 8)]) C Z hl.1 (c_pairAt l t a b 1 (by omega)) (lw_S q130 q131 q19 q132) (by decide +kernel) rfl ⟨rfl, rfl⟩ ⟨Nat.le_of_ble_eq_true rfl, Nat.le_of_ble_eq_true rfl⟩ rfl (Nat.le_of_ble_eq_true rfl) dX0_moveToValue_22 ⟨Nat.zero_le _, Nat.zero_le _⟩ (fun z1 H locs hz1 Z => ?_)
      obtain rfl : z1 = t * 9 + a + 3 * b := by have g := pA_o hz1; omega
      refine x_ald_8 C Z (e0 := t * 9 + a + 3 * b) (by omega) (by omega) dX0_moveToValue_25 ?_
      refine lv_istore (lv' := [(6, .int (iI (S 8 (t * 9 + a + 3 * b)))), (0, .ref h), (1, .int (iI t)), (2, .int (iI a)), (3, .int (iI 1)), (4, .int (iI w)), (5, .int (iI b))]) hx hb dX0_moveToValue_26 hl (by decide) rfl (fun ls hl => ?_)
      refine lv_iload hx hb dX0_moveToValue_28 (lv_at hl 0 rfl) ?_
      refine lv_iload hx hb dX0_moveToValue_30 (lv_at hl 5 rfl) ?_
      refine z_icmp_ge (tgt := 39) hx hb dX0_moveToValue_32 (by decide) (by omega) (by omega) (fun c_32 => ?_) (fun c_32 => ?_)
      · refine z_iinc (lv' := [(5, .int (iI (b + 1))), (6, .int (iI (S 8 (t * 9 + a + 3 * b)))), (0, .ref h), (1, .int (iI t)), (2, .int (iI a)), (3, .int (iI 1)), (4, .int (iI w))]) hx hb dX0_moveToValue_39 hl (k := 6) rfl (by decide) rfl (fun ls hl => ?_)
        refine lv_goto (tgt := 7) hx hb dX0_moveToValue_42 (by decide) ?_
        refine ih (b + 1) w H locs ls (by omega) (by omega) (by omega) Z (by omega) (by omega) (fun x y0 y1 => ?_) (lv_sub hl [2, 3, 4, 5, 6, 0] rfl)
        by_cases q : x = b
        · subst q
          omega
        · have := i2 x y0 (by omega)
          omega
      · refine lv_iload hx hb dX0_moveToValue_35 (lv_at hl 0 rfl) ?_
        refine lv_istore (lv' := [(4, .int (iI (S 8 (t * 9 + a + 3 * b)))), (6, .int (iI (S 8 (t * 9 + a + 3 * b)))), (0, .ref h), (1, .int (iI t)), (2, .int (iI a)), (3, .int (iI 1)), (5, .int (iI b))]) hx hb dX0_moveToValue_37 hl (by decide) rfl (fun ls hl => ?_)
        refine z_iinc (lv' := [(5, .int (iI (b + 1))), (4, .int (iI (S 8 (t * 9 + a + 3 * b)))), (6, .int (iI (S 8 (t * 9 + a + 3 * b)))), (0, .ref h), (1, .int (iI t)), (2, .int (iI a)), (3, .int (iI 1))]) hx hb dX0_moveToValue_39 hl (k := 6) rfl (by decide) rfl (fun ls hl => ?_)
        refine lv_goto (tgt := 7) hx hb dX0_moveToValue_42 (by decide) ?_
        refine ih (b + 1) (S 8 (t * 9 + a + 3 * b)) H locs ls (by omega) (by omega) (by omega) Z (by omega) (by omega) (fun x y0 y1 => ?_) (lv_sub hl [3, 4, 5, 6, 1, 0] rfl)
        by_cases q : x = b
        · subst q
          omega
        · have := i2 x y0 (by omega)
          omega
set_option maxHeartbeats 8000000 in
theorem Lx_mvb1 {p : Program} {l : Launch} {e : Env} {s : State} {m : MethodId} {args : Array Value} {below : List Frame} {meth : Method} {c : Code} {Q : State → Prop} {D : va_G} {A : Nat → Prop} {d : ClassId} {h : Nat} {ad : Nat → Nat} (C : CallFix p m c cX0_moveToValue 8 s args lw_all RX0) (S : St) (t a w : Int) (ht : 0 ≤ t ∧ t < S 1 0) (ha : 0 ≤ a ∧ a ≤ 2) (hn : nOK S) (hm : mOK S) (hw : 0 ≤ w ∧ w ≤ 100000) (kk : ∀ (T : St) (H : Heap) (locs : List Loc) (ls : Array Slot), GW D A s H locs d (wX h ad d T) → (∀ k, k ≠ 8 → T k = S k) → (∀ x, 0 ≤ x → x < 3 → T 8 (t * 9 + a + 3 * x) = nw w (S 8 (t * 9 + a + 3 * x))) → (∀ j, (∀ x, 0 ≤ x → x < 3 → j ≠ t * 9 + a + 3 * x) → T 8 j = S 8 j) → W p l e (rmv 1) s m args below meth c H locs 0 0 Q (F0 m 154 ls [])) : ∀ (n : Nat) (b : Int) (T : St) (H : Heap) (locs : List Loc) (ls : Array Slot), 0 ≤ b → b ≤ 3 → 4 ≤ b + n → GW D A s H locs d (wX h ad d T) → (∀ k, k ≠ 8 → T k = S k) → (∀ x, 0 ≤ x → x < b → T 8 (t * 9 + a + 3 * x) = nw w (S 8 (t * 9 + a + 3 * x))) → (∀ j, (∀ x, 0 ≤ x → x < b → j ≠ t * 9 + a + 3 * x) → T 8 j = S 8 j) → lv_has ls 8 [(0, .ref h), (1, .int (iI t)), (2, .int (iI a)), (3, .int (iI 1)), (4, .int (iI w)), (6, .int (iI b))] → W p l e (rmv 1) s m args below meth c H locs 0 0 Q (F0 m 102 ls []) := by
  have hx := C.1
  have hb := C.2.1
  obtain ⟨n1, n0, n2, n3, n4, n5⟩ := id hn
  obtain ⟨m6, m7, m8⟩ := id hm
  intro n
  induction n with
  | zero =>
    intro b T H locs ls h1 h2 h3
    exact absurd h3 (by omega)
  | succ n ih =>
    intro b T H locs ls h1 h2 h3 Z i0 i1 i2 hl
    have b8 := m8 (t * 9 + a + 3 * b)
    have eT : T 8 (t * 9 + a + 3 * b) = S 8 (t * 9 + a + 3 * b) := i2 _ (fun x y0 y1 => by omega)
    refine lv_iload hx hb dX0_moveToValue_102 (lv_at hl 5 rfl) ?_
    refine z_iconst hx hb dX0_moveToValue_104 ?_
    refine z_icmp_ge (tgt := 154) hx hb dX0_moveToValue_105 (by decide) (by omega) (by omega) (fun c_105 => ?_) (fun c_105 => ?_)
    · obtain rfl : b = 3 := by omega
      exact kk T H locs ls Z i0 i1 i2
    · refine lv_iload_n hx hb dX0_moveToValue_108 rfl (lv_at hl 1 rfl) ?_
      refine lv_iload_n hx hb dX0_moveToValue_109 rfl (lv_at hl 2 rfl) ?_
      refine lv_iload hx hb dX0_moveToValue_110 (lv_at hl 5 rfl) ?_
      refine lv_iload_n hx hb dX0_moveToValue_112 rfl (lv_at hl 3 rfl) ?_
      refine g_calls (n := 4) (As := [.int (iI t), .int (iI a), .int (iI b), .int (iI 1)]) (rest := []) C Z hl.1 (c_pairAt l t a b 1 (by omega)) (lw_S q130 q131 q19 q132) (by decide +kernel) rfl ⟨rfl, rfl⟩ ⟨Nat.le_of_ble_eq_true rfl, Nat.le_of_ble_eq_true rfl⟩ rfl (Nat.le_of_ble_eq_true rfl) dX0_moveToValue_113 ⟨Nat.zero_le _, Nat.zero_le _⟩ (fun z1 H locs hz1 Z => ?_)
      obtain rfl : z1 = t * 9 + a + 3 * b := by have g := pA_o hz1; omega
      refine lv_istore (lv' := [(7, .int (iI (t * 9 + a + 3 * b))), (0, .ref h), (1, .int (iI t)), (2, .int (iI a)), (3, .int (iI 1)), (4, .int (iI w)), (6, .int (iI b))]) hx hb dX0_moveToValue_116 hl (by decide) rfl (fun ls hl => ?_)
      refine lv_aload_n hx hb dX0_moveToValue_118 rfl (lv_at hl 1 rfl) ?_
      refine x_get_8 C Z dX0_moveToValue_119 ?_
      refine lv_iload hx hb dX0_moveToValue_122 (lv_at hl 0 rfl) ?_
      refine lv_iload hx hb dX0_moveToValue_124 (lv_at hl 5 rfl) ?_
      refine z_ldc (z := 50000) hx hb C.2.2.2.1 (C.2.2.2.2 _ q136) (by decide) dX0_moveToValue_126 ?_
      refine z_icmp_lt (tgt := 135) hx hb dX0_moveToValue_128 (by decide) (by omega) (by omega) (fun c_128 => ?_) (fun c_128 => ?_)
      · refine lv_aload_n hx hb dX0_moveToValue_135 rfl (lv_at hl 1 rfl) ?_
        refine x_get_8 C Z dX0_moveToValue_136 ?_
        refine lv_iload hx hb dX0_moveToValue_139 (lv_at hl 0 rfl) ?_
        refine x_ald_8 C Z (e0 := t * 9 + a + 3 * b) (by omega) (by omega) dX0_moveToValue_141 ?_
        refine lv_iload hx hb dX0_moveToValue_142 (lv_at hl 5 rfl) ?_
        refine g_calls (n := 2) (As := [.int (iI (T 8 (t * 9 + a + 3 * b))), .int (iI w)]) (rest := [.int (iI (t * 9 + a + 3 * b)), .ref (ad 8)]) C Z hl.1 (c_less l (T 8 (t * 9 + a + 3 * b)) w (by omega)) (lw_S q137 q138 q19 q139) (by decide +kernel) rfl ⟨rfl, rfl⟩ ⟨Nat.le_of_ble_eq_true rfl, Nat.le_of_ble_eq_true rfl⟩ rfl (Nat.le_of_ble_eq_true rfl) dX0_moveToValue_144 ⟨Nat.zero_le _, Nat.zero_le _⟩ (fun z2 H locs hz2 Z => ?_)
        refine x_ast_8 C Z (e0 := t * 9 + a + 3 * b) (by omega) (by omega) dX0_moveToValue_147 (fun S3 H locs eS3 Z => ?_)
        refine z_iinc (lv' := [(6, .int (iI (b + 1))), (7, .int (iI (t * 9 + a + 3 * b))), (0, .ref h), (1, .int (iI t)), (2, .int (iI a)), (3, .int (iI 1)), (4, .int (iI w))]) hx hb dX0_moveToValue_148 hl (k := 6) rfl (by decide) rfl (fun ls hl => ?_)
        refine lv_goto (tgt := 102) hx hb dX0_moveToValue_151 (by decide) ?_
        refine ih (b + 1) S3 H locs ls (by omega) (by omega) (by omega) Z (fun k hk => by rw [eS3, up_n _ _ _ _ _ hk]; exact i0 k hk) (fun x y0 y1 => ?_) (fun j hj => ?_) (lv_sub hl [2, 3, 4, 5, 6, 0] rfl)
        · rw [eS3]
          by_cases q : x = b
          · subst q
            rw [up_e]
            rw [hz2, eT]
            unfold nw
            rw [if_neg (by omega)]
          · rw [up_d _ _ _ _ _ (by omega)]
            exact i1 x y0 (by omega)
        · rw [eS3, up_d _ _ _ _ _ (hj b (by omega) (by omega))]
          exact i2 j (fun x y0 y1 => hj x y0 (by omega))
      · refine z_iconst hx hb dX0_moveToValue_131 ?_
        refine lv_goto (tgt := 147) hx hb dX0_moveToValue_132 (by decide) ?_
        refine x_ast_8 C Z (e0 := t * 9 + a + 3 * b) (by omega) (by omega) dX0_moveToValue_147 (fun S4 H locs eS4 Z => ?_)
        refine z_iinc (lv' := [(6, .int (iI (b + 1))), (7, .int (iI (t * 9 + a + 3 * b))), (0, .ref h), (1, .int (iI t)), (2, .int (iI a)), (3, .int (iI 1)), (4, .int (iI w))]) hx hb dX0_moveToValue_148 hl (k := 6) rfl (by decide) rfl (fun ls hl => ?_)
        refine lv_goto (tgt := 102) hx hb dX0_moveToValue_151 (by decide) ?_
        refine ih (b + 1) S4 H locs ls (by omega) (by omega) (by omega) Z (fun k hk => by rw [eS4, up_n _ _ _ _ _ hk]; exact i0 k hk) (fun x y0 y1 => ?_) (fun j hj => ?_) (lv_sub hl [2, 3, 4, 5, 6, 0] rfl)
        · rw [eS4]
          by_cases q : x = b
          · subst q
            rw [up_e]
            unfold nw
            rw [if_pos (by omega)]
          · rw [up_d _ _ _ _ _ (by omega)]
            exact i1 x y0 (by omega)
        · rw [eS4, up_d _ _ _ _ _ (hj b (by omega) (by omega))]
          exact i2 j (fun x y0 y1 => hj x y0 (by omega))
theorem pA_1 (t a x : Int) : pA t a x 1 = t * 9 + a + 3 * x := by
  have := pA_o (z := pA t a x 1) rfl
  omega
set_option maxHeartbeats 8000000 in
theorem kx_mv1 (l : Launch) (D : va_G) (d : ClassId) (h : Nat) (ad : Nat → Nat) (S : St) (t : Int) (a : Int) (ht : 0 ≤ t ∧ t < S 1 0) (ha : 0 ≤ a ∧ a ≤ 2) (hn : nOK S) (hm : mOK S) : gMv l D d (wX h ad d) h yX0_moveToValue cX0_moveToValue 8 (rmv 1) [.int (iI t), .int (iI a), .int (iI 1)] S (fun S' => (∀ k, k ≠ 7 → k ≠ 8 → S' k = S k) ∧ mOK S' ∧ ∀ g, vl g → tM S' g = tM S g) := by
  refine g_met (by decide) (Nat.le_of_ble_eq_true rfl) ?_
  intro p e s m args below meth c C hr hlk Z ls hl
  have C : CallFix p m c cX0_moveToValue 8 s args lw_all RX0 := C
  have hx := C.1
  have hb := C.2.1
  have hl : lv_has ls 8 [(0, .ref h), (1, .int (iI t)), (2, .int (iI a)), (3, .int (iI 1))] := hl
  obtain ⟨n1, n0, n2, n3, n4, n5⟩ := id hn
  obtain ⟨m6, m7, m8⟩ := id hm
  have b2 := n2 t
  have b3 := n3 t
  refine z_ldc (z := 100000) hx hb C.2.2.2.1 (C.2.2.2.2 _ q125) (by decide) dX0_moveToValue_0 ?_
  refine lv_istore (lv' := [(4, .int (iI 100000)), (0, .ref h), (1, .int (iI t)), (2, .int (iI a)), (3, .int (iI 1))]) hx hb dX0_moveToValue_2 hl (by decide) rfl (fun ls hl => ?_)
  refine z_iconst hx hb dX0_moveToValue_4 ?_
  refine lv_istore (lv' := [(5, .int (iI 0)), (4, .int (iI 100000)), (0, .ref h), (1, .int (iI t)), (2, .int (iI a)), (3, .int (iI 1))]) hx hb dX0_moveToValue_5 hl (by decide) rfl (fun ls hl => ?_)
  refine Lx_mva1 C S t a ht ha hn hm (fun w H locs ls Z i0 i1 i2 hl => ?_) 4 0 100000 _ _ ls (by omega) (by omega) (by omega) Z (by omega) (by omega) (fun x y0 y1 => by omega) (lv_sub hl [2, 3, 4, 5, 1, 0] rfl)
  refine lv_iload hx hb dX0_moveToValue_45 (lv_at hl 4 rfl) ?_
  refine z_if_ne (tgt := 51) hx hb dX0_moveToValue_47 (by decide) (by omega) (fun c_47 => ?_) (fun c_47 => ?_)
  · refine lv_iload_n hx hb dX0_moveToValue_51 rfl (lv_at hl 3 rfl) ?_
    refine z_if_eq (tgt := 64) hx hb dX0_moveToValue_52 (by decide) (by omega) (fun c_52 => ?_) (fun c_52 => ?_)
    · omega
    · refine lv_aload_n hx hb dX0_moveToValue_55 rfl (lv_at hl 0 rfl) ?_
      refine x_get_2 C Z dX0_moveToValue_56 ?_
      refine lv_iload_n hx hb dX0_moveToValue_59 rfl (lv_at hl 1 rfl) ?_
      refine x_ald_2 C Z (e0 := t) (by omega) (by omega) dX0_moveToValue_60 ?_
      refine lv_goto (tgt := 70) hx hb dX0_moveToValue_61 (by decide) ?_
      refine lv_istore (lv' := [(5, .int (iI (S 2 t))), (0, .ref h), (1, .int (iI t)), (2, .int (iI a)), (3, .int (iI 1)), (4, .int (iI w))]) hx hb dX0_moveToValue_70 hl (by decide) rfl (fun ls hl => ?_)
      refine lv_aload_n hx hb dX0_moveToValue_72 rfl (lv_at hl 1 rfl) ?_
      refine x_get_7 C Z dX0_moveToValue_73 ?_
      refine lv_iload hx hb dX0_moveToValue_76 (lv_at hl 0 rfl) ?_
      refine z_iconst hx hb dX0_moveToValue_78 ?_
      refine z_imul hx hb dX0_moveToValue_79 ?_
      refine lv_iload_n hx hb dX0_moveToValue_80 rfl (lv_at hl 3 rfl) ?_
      refine z_iadd hx hb dX0_moveToValue_81 ?_
      refine lv_aload_n hx hb dX0_moveToValue_82 rfl (lv_at hl 1 rfl) ?_
      refine x_get_7 C Z dX0_moveToValue_83 ?_
      refine lv_iload hx hb dX0_moveToValue_86 (lv_at hl 0 rfl) ?_
      refine z_iconst hx hb dX0_moveToValue_88 ?_
      refine z_imul hx hb dX0_moveToValue_89 ?_
      refine lv_iload_n hx hb dX0_moveToValue_90 rfl (lv_at hl 3 rfl) ?_
      refine z_iadd hx hb dX0_moveToValue_91 ?_
      refine x_ald_7 C Z (e0 := ((S 2 t) * 3) + a) (by omega) (by omega) dX0_moveToValue_92 ?_
      refine lv_iload hx hb dX0_moveToValue_93 (lv_at hl 5 rfl) ?_
      have b7 := m7 (S 2 t * 3 + a)
      refine g_calls (n := 2) (As := [.int (iI (S 7 (((S 2 t) * 3) + a))), .int (iI w)]) (rest := [.int (iI (((S 2 t) * 3) + a)), .ref (ad 7)]) C Z hl.1 (c_more l (S 7 (((S 2 t) * 3) + a)) w (by omega) (by omega)) (lw_S q133 q134 q19 q135) (by decide +kernel) rfl ⟨rfl, rfl⟩ ⟨Nat.le_of_ble_eq_true rfl, Nat.le_of_ble_eq_true rfl⟩ rfl (Nat.le_of_ble_eq_true rfl) dX0_moveToValue_95 ⟨Nat.zero_le _, Nat.zero_le _⟩ (fun z1 H locs hz1 Z => ?_)
      have bz1 := mo_b (by omega) (by omega) hz1
      refine x_ast_7 C Z (e0 := ((S 2 t) * 3) + a) (by omega) (by omega) dX0_moveToValue_98 (fun S2 H locs eS2 Z => ?_)
      refine z_iconst hx hb dX0_moveToValue_99 ?_
      refine lv_istore (lv' := [(6, .int (iI 0)), (5, .int (iI (S 2 t))), (0, .ref h), (1, .int (iI t)), (2, .int (iI a)), (3, .int (iI 1)), (4, .int (iI w))]) hx hb dX0_moveToValue_100 hl (by decide) rfl (fun ls hl => ?_)
      have en : nOK S2 := by
        rw [eS2]
        unfold nOK
        rw [up_n _ _ _ _ _ (by decide), up_n _ _ _ _ _ (by decide), up_n _ _ _ _ _ (by decide), up_n _ _ _ _ _ (by decide), up_n _ _ _ _ _ (by decide)]
        exact hn
      have em : mOK S2 := by
        rw [eS2]
        refine ⟨?_, fun j => ?_, fun j => ?_⟩
        · rw [up_n _ _ _ _ _ (by decide)]; exact m6
        · rw [up_s]
          split
          · exact bz1
          · exact m7 j
        · rw [up_n _ _ _ _ _ (by decide)]; exact m8 j
      have e1 : S2 1 0 = S 1 0 := by rw [eS2, up_n _ _ _ _ _ (by decide)]
      refine Lx_mvb1 C S2 t a w (by omega) ha en em (by omega) (fun T H locs ls Z j0 j1 j2 => ?_) 4 0 S2 _ _ ls (by omega) (by omega) (by omega) Z (fun k _ => rfl) (fun x y0 y1 => by omega) (fun j _ => rfl) (lv_sub hl [2, 3, 4, 5, 6, 0] rfl)
      exact g_retv C hr hlk Z dX0_moveToValue_154 (by
        have q8 : S2 8 = S 8 := by rw [eS2, up_n _ _ _ _ _ (by decide)]
        have q0 : ∀ k, k ≠ 7 → k ≠ 8 → T k = S k := fun k h7 h8 => by rw [j0 k h8, eS2, up_n _ _ _ _ _ h7]
        have q := mv_keep (S := S) (S' := T) (t := t) (v := S 2 t) (o := S 3 t) (a := a) (w := w) (f := 1) hn hm ht ha i0 (by omega) q0 (fun j => by rw [j0 7 (by decide), eS2, up_s, hz1]) (fun x y0 y1 => by rw [pA_1, ← q8]; exact j1 x y0 y1) (fun j hj => by rw [← q8]; exact j2 j (fun x y0 y1 => by rw [← pA_1]; exact hj x y0 y1)) (fun x y0 y1 => by rw [pA_1]; exact i2 x y0 y1)
        exact ⟨q0, q.1, q.2⟩)
  · exact g_retv C hr hlk Z dX0_moveToValue_50 (⟨fun _ _ _ => rfl, hm, fun _ _ => rfl⟩)
set_option maxHeartbeats 8000000 in
theorem Lx_mfa {p : Program} {l : Launch} {e : Env} {s : State} {m : MethodId} {args : Array Value} {below : List Frame} {meth : Method} {c : Code} {Q : State → Prop} {D : va_G} {A : Nat → Prop} {d : ClassId} {h : Nat} {ad : Nat → Nat} (C : CallFix p m c cX0_moveToFloor 4 s args lw_all RX0) (S : St) (v : Int) (hv : 0 ≤ v ∧ v ≤ 5) (hm : mOK S) (kk : ∀ (w : Int) (H : Heap) (locs : List Loc) (ls : Array Slot), GW D A s H locs d (wX h ad d S) → 0 ≤ w → w ≤ 100000 → (∀ x, 0 ≤ x → x < 3 → w ≤ S 7 (v * 3 + x)) → lv_has ls 4 [(0, .ref h), (1, .int (iI v)), (2, .int (iI w))] → W p l e (rmv 1) s m args below meth c H locs 0 0 Q (F0 m 41 ls [])) : ∀ (n : Nat) (b w : Int) (H : Heap) (locs : List Loc) (ls : Array Slot), 0 ≤ b → b ≤ 3 → 4 ≤ b + n → GW D A s H locs d (wX h ad d S) → 0 ≤ w → w ≤ 100000 → (∀ x, 0 ≤ x → x < b → w ≤ S 7 (v * 3 + x)) → lv_has ls 4 [(0, .ref h), (1, .int (iI v)), (2, .int (iI w)), (3, .int (iI b))] → W p l e (rmv 1) s m args below meth c H locs 0 0 Q (F0 m 5 ls []) := by
  have hx := C.1
  have hb := C.2.1
  obtain ⟨m6, m7, m8⟩ := id hm
  intro n
  induction n with
  | zero =>
    intro b w H locs ls h1 h2 h3
    exact absurd h3 (by omega)
  | succ n ih =>
    intro b w H locs ls h1 h2 h3 Z i0 i1 i2 hl
    have b7 := m7 (v * 3 + b)
    refine lv_iload_n hx hb dX0_moveToFloor_5 rfl (lv_at hl 3 rfl) ?_
    refine z_iconst hx hb dX0_moveToFloor_6 ?_
    refine z_icmp_ge (tgt := 41) hx hb dX0_moveToFloor_7 (by decide) (by omega) (by omega) (fun c_7 => ?_) (fun c_7 => ?_)
    · obtain rfl : b = 3 := by omega
      exact kk w H locs ls Z i0 i1 i2 (lv_sub hl [0, 1, 2] rfl)
    · refine lv_aload_n hx hb dX0_moveToFloor_10 rfl (lv_at hl 0 rfl) ?_
      refine x_get_7 C Z dX0_moveToFloor_11 ?_
      refine lv_iload_n hx hb dX0_moveToFloor_14 rfl (lv_at hl 1 rfl) ?_
      refine z_iconst hx hb dX0_moveToFloor_15 ?_
      refine z_imul hx hb dX0_moveToFloor_16 ?_
      refine lv_iload_n hx hb dX0_moveToFloor_17 rfl (lv_at hl 3 rfl) ?_
      refine z_iadd hx hb dX0_moveToFloor_18 ?_
      refine x_ald_7 C Z (e0 := (v * 3) + b) (by omega) (by omega) dX0_moveToFloor_19 ?_
      refine lv_iload_n hx hb dX0_moveToFloor_20 rfl (lv_at hl 2 rfl) ?_
      refine z_icmp_ge (tgt := 35) hx hb dX0_moveToFloor_21 (by decide) (by omega) (by omega) (fun c_21 => ?_) (fun c_21 => ?_)
      · refine z_iinc (lv' := [(3, .int (iI (b + 1))), (0, .ref h), (1, .int (iI v)), (2, .int (iI w))]) hx hb dX0_moveToFloor_35 hl (k := 3) rfl (by decide) rfl (fun ls hl => ?_)
        refine lv_goto (tgt := 5) hx hb dX0_moveToFloor_38 (by decide) ?_
        refine ih (b + 1) w H locs ls (by omega) (by omega) (by omega) Z (by omega) (by omega) (fun x y0 y1 => ?_) (lv_sub hl [1, 2, 3, 0] rfl)
        by_cases q : x = b
        · subst q
          omega
        · have := i2 x y0 (by omega)
          omega
      · refine lv_aload_n hx hb dX0_moveToFloor_24 rfl (lv_at hl 0 rfl) ?_
        refine x_get_7 C Z dX0_moveToFloor_25 ?_
        refine lv_iload_n hx hb dX0_moveToFloor_28 rfl (lv_at hl 1 rfl) ?_
        refine z_iconst hx hb dX0_moveToFloor_29 ?_
        refine z_imul hx hb dX0_moveToFloor_30 ?_
        refine lv_iload_n hx hb dX0_moveToFloor_31 rfl (lv_at hl 3 rfl) ?_
        refine z_iadd hx hb dX0_moveToFloor_32 ?_
        refine x_ald_7 C Z (e0 := (v * 3) + b) (by omega) (by omega) dX0_moveToFloor_33 ?_
        refine lv_istore_n (lv' := [(2, .int (iI (S 7 ((v * 3) + b)))), (0, .ref h), (1, .int (iI v)), (3, .int (iI b))]) hx hb dX0_moveToFloor_34 rfl hl (by decide) rfl (fun ls hl => ?_)
        refine z_iinc (lv' := [(3, .int (iI (b + 1))), (2, .int (iI (S 7 ((v * 3) + b)))), (0, .ref h), (1, .int (iI v))]) hx hb dX0_moveToFloor_35 hl (k := 3) rfl (by decide) rfl (fun ls hl => ?_)
        refine lv_goto (tgt := 5) hx hb dX0_moveToFloor_38 (by decide) ?_
        refine ih (b + 1) (S 7 ((v * 3) + b)) H locs ls (by omega) (by omega) (by omega) Z (by omega) (by omega) (fun x y0 y1 => ?_) (lv_sub hl [2, 3, 1, 0] rfl)
        by_cases q : x = b
        · subst q
          omega
        · have := i2 x y0 (by omega)
          omega
set_option maxHeartbeats 8000000 in
theorem Lx_mfb {p : Program} {l : Launch} {e : Env} {s : State} {m : MethodId} {args : Array Value} {below : List Frame} {meth : Method} {c : Code} {Q : State → Prop} {D : va_G} {A : Nat → Prop} {d : ClassId} {h : Nat} {ad : Nat → Nat} (C : CallFix p m c cX0_moveToFloor 4 s args lw_all RX0) (S : St) (v w : Int) (hv : 0 ≤ v ∧ v ≤ 5) (hm : mOK S) (hw : 0 ≤ w ∧ w ≤ 100000) (kk : ∀ (T : St) (H : Heap) (locs : List Loc) (ls : Array Slot), GW D A s H locs d (wX h ad d T) → (∀ k, k ≠ 7 → T k = S k) → (∀ x, 0 ≤ x → x < 3 → T 7 (v * 3 + x) = nw w (S 7 (v * 3 + x))) → (∀ j, (∀ x, 0 ≤ x → x < 3 → j ≠ v * 3 + x) → T 7 j = S 7 j) → W p l e (rmv 1) s m args below meth c H locs 0 0 Q (F0 m 100 ls [])) : ∀ (n : Nat) (b : Int) (T : St) (H : Heap) (locs : List Loc) (ls : Array Slot), 0 ≤ b → b ≤ 3 → 4 ≤ b + n → GW D A s H locs d (wX h ad d T) → (∀ k, k ≠ 7 → T k = S k) → (∀ x, 0 ≤ x → x < b → T 7 (v * 3 + x) = nw w (S 7 (v * 3 + x))) → (∀ j, (∀ x, 0 ≤ x → x < b → j ≠ v * 3 + x) → T 7 j = S 7 j) → lv_has ls 4 [(0, .ref h), (1, .int (iI v)), (2, .int (iI w)), (3, .int (iI b))] → W p l e (rmv 1) s m args below meth c H locs 0 0 Q (F0 m 55 ls []) := by
  have hx := C.1
  have hb := C.2.1
  obtain ⟨m6, m7, m8⟩ := id hm
  intro n
  induction n with
  | zero =>
    intro b T H locs ls h1 h2 h3
    exact absurd h3 (by omega)
  | succ n ih =>
    intro b T H locs ls h1 h2 h3 Z i0 i1 i2 hl
    have b8 := m7 (v * 3 + b)
    have eT : T 7 (v * 3 + b) = S 7 (v * 3 + b) := i2 _ (fun x y0 y1 => by omega)
    refine lv_iload_n hx hb dX0_moveToFloor_55 rfl (lv_at hl 3 rfl) ?_
    refine z_iconst hx hb dX0_moveToFloor_56 ?_
    refine z_icmp_ge (tgt := 100) hx hb dX0_moveToFloor_57 (by decide) (by omega) (by omega) (fun c_57 => ?_) (fun c_57 => ?_)
    · obtain rfl : b = 3 := by omega
      exact kk T H locs ls Z i0 i1 i2
    · refine lv_aload_n hx hb dX0_moveToFloor_60 rfl (lv_at hl 0 rfl) ?_
      refine x_get_7 C Z dX0_moveToFloor_61 ?_
      refine lv_iload_n hx hb dX0_moveToFloor_64 rfl (lv_at hl 1 rfl) ?_
      refine z_iconst hx hb dX0_moveToFloor_65 ?_
      refine z_imul hx hb dX0_moveToFloor_66 ?_
      refine lv_iload_n hx hb dX0_moveToFloor_67 rfl (lv_at hl 3 rfl) ?_
      refine z_iadd hx hb dX0_moveToFloor_68 ?_
      refine lv_iload_n hx hb dX0_moveToFloor_69 rfl (lv_at hl 2 rfl) ?_
      refine z_ldc (z := 50000) hx hb C.2.2.2.1 (C.2.2.2.2 _ q136) (by decide) dX0_moveToFloor_70 ?_
      refine z_icmp_lt (tgt := 79) hx hb dX0_moveToFloor_72 (by decide) (by omega) (by omega) (fun c_72 => ?_) (fun c_72 => ?_)
      · refine lv_aload_n hx hb dX0_moveToFloor_79 rfl (lv_at hl 0 rfl) ?_
        refine x_get_7 C Z dX0_moveToFloor_80 ?_
        refine lv_iload_n hx hb dX0_moveToFloor_83 rfl (lv_at hl 1 rfl) ?_
        refine z_iconst hx hb dX0_moveToFloor_84 ?_
        refine z_imul hx hb dX0_moveToFloor_85 ?_
        refine lv_iload_n hx hb dX0_moveToFloor_86 rfl (lv_at hl 3 rfl) ?_
        refine z_iadd hx hb dX0_moveToFloor_87 ?_
        refine x_ald_7 C Z (e0 := (v * 3) + b) (by omega) (by omega) dX0_moveToFloor_88 ?_
        refine lv_iload_n hx hb dX0_moveToFloor_89 rfl (lv_at hl 2 rfl) ?_
        refine g_calls (n := 2) (As := [.int (iI (T 7 ((v * 3) + b))), .int (iI w)]) (rest := [.int (iI ((v * 3) + b)), .ref (ad 7)]) C Z hl.1 (c_less l (T 7 ((v * 3) + b)) w (by omega)) (lw_S q137 q138 q19 q139) (by decide +kernel) rfl ⟨rfl, rfl⟩ ⟨Nat.le_of_ble_eq_true rfl, Nat.le_of_ble_eq_true rfl⟩ rfl (Nat.le_of_ble_eq_true rfl) dX0_moveToFloor_90 ⟨Nat.zero_le _, Nat.zero_le _⟩ (fun z1 H locs hz1 Z => ?_)
        refine x_ast_7 C Z (e0 := (v * 3) + b) (by omega) (by omega) dX0_moveToFloor_93 (fun S2 H locs eS2 Z => ?_)
        refine z_iinc (lv' := [(3, .int (iI (b + 1))), (0, .ref h), (1, .int (iI v)), (2, .int (iI w))]) hx hb dX0_moveToFloor_94 hl (k := 3) rfl (by decide) rfl (fun ls hl => ?_)
        refine lv_goto (tgt := 55) hx hb dX0_moveToFloor_97 (by decide) ?_
        refine ih (b + 1) S2 H locs ls (by omega) (by omega) (by omega) Z (fun k hk => by rw [eS2, up_n _ _ _ _ _ hk]; exact i0 k hk) (fun x y0 y1 => ?_) (fun j hj => ?_) (lv_sub hl [1, 2, 3, 0] rfl)
        · rw [eS2]
          by_cases q : x = b
          · subst q
            rw [up_e]
            rw [hz1, eT]
            unfold nw
            rw [if_neg (by omega)]
          · rw [up_d _ _ _ _ _ (by omega)]
            exact i1 x y0 (by omega)
        · rw [eS2, up_d _ _ _ _ _ (hj b (by omega) (by omega))]
          exact i2 j (fun x y0 y1 => hj x y0 (by omega))
      · refine z_iconst hx hb dX0_moveToFloor_75 ?_
        refine lv_goto (tgt := 93) hx hb dX0_moveToFloor_76 (by decide) ?_
        refine x_ast_7 C Z (e0 := (v * 3) + b) (by omega) (by omega) dX0_moveToFloor_93 (fun S3 H locs eS3 Z => ?_)
        refine z_iinc (lv' := [(3, .int (iI (b + 1))), (0, .ref h), (1, .int (iI v)), (2, .int (iI w))]) hx hb dX0_moveToFloor_94 hl (k := 3) rfl (by decide) rfl (fun ls hl => ?_)
        refine lv_goto (tgt := 55) hx hb dX0_moveToFloor_97 (by decide) ?_
        refine ih (b + 1) S3 H locs ls (by omega) (by omega) (by omega) Z (fun k hk => by rw [eS3, up_n _ _ _ _ _ hk]; exact i0 k hk) (fun x y0 y1 => ?_) (fun j hj => ?_) (lv_sub hl [1, 2, 3, 0] rfl)
        · rw [eS3]
          by_cases q : x = b
          · subst q
            rw [up_e]
            unfold nw
            rw [if_pos (by omega)]
          · rw [up_d _ _ _ _ _ (by omega)]
            exact i1 x y0 (by omega)
        · rw [eS3, up_d _ _ _ _ _ (hj b (by omega) (by omega))]
          exact i2 j (fun x y0 y1 => hj x y0 (by omega))
set_option maxHeartbeats 8000000 in
theorem kx_moveToFloor (l : Launch) (D : va_G) (d : ClassId) (h : Nat) (ad : Nat → Nat) (S : St) (v : Int) (hv : 0 ≤ v ∧ v ≤ 5) (hm : mOK S) : gMv l D d (wX h ad d) h yX0_moveToFloor cX0_moveToFloor 4 (rmv 1) [.int (iI v)] S (fun S' => (∀ k, k ≠ 6 → k ≠ 7 → S' k = S k) ∧ mOK S' ∧ ∀ g, vl g → tM S' g = tM S g) := by
  refine g_met (by decide) (Nat.le_of_ble_eq_true rfl) ?_
  intro p e s m args below meth c C hr hlk Z ls hl
  have C : CallFix p m c cX0_moveToFloor 4 s args lw_all RX0 := C
  have hx := C.1
  have hb := C.2.1
  have hl : lv_has ls 4 [(0, .ref h), (1, .int (iI v))] := hl
  obtain ⟨m6, m7, m8⟩ := id hm
  refine z_ldc (z := 100000) hx hb C.2.2.2.1 (C.2.2.2.2 _ q125) (by decide) dX0_moveToFloor_0 ?_
  refine lv_istore_n (lv' := [(2, .int (iI 100000)), (0, .ref h), (1, .int (iI v))]) hx hb dX0_moveToFloor_2 rfl hl (by decide) rfl (fun ls hl => ?_)
  refine z_iconst hx hb dX0_moveToFloor_3 ?_
  refine lv_istore_n (lv' := [(3, .int (iI 0)), (2, .int (iI 100000)), (0, .ref h), (1, .int (iI v))]) hx hb dX0_moveToFloor_4 rfl hl (by decide) rfl (fun ls hl => ?_)
  refine Lx_mfa C S v hv hm (fun w H locs ls Z i0 i1 i2 hl => ?_) 4 0 100000 _ _ ls (by omega) (by omega) (by omega) Z (by omega) (by omega) (fun x y0 y1 => by omega) (lv_sub hl [2, 3, 1, 0] rfl)
  refine lv_aload_n hx hb dX0_moveToFloor_41 rfl (lv_at hl 0 rfl) ?_
  refine lv_aload_n hx hb dX0_moveToFloor_42 rfl (lv_at hl 0 rfl) ?_
  refine x_get_6 C Z dX0_moveToFloor_43 ?_
  refine lv_iload_n hx hb dX0_moveToFloor_46 rfl (lv_at hl 2 rfl) ?_
  refine g_calls (n := 2) (As := [.int (iI (S 6 0)), .int (iI w)]) (rest := [.ref h]) C Z hl.1 (c_more l (S 6 0) w (by omega) (by omega)) (lw_S q133 q134 q19 q135) (by decide +kernel) rfl ⟨rfl, rfl⟩ ⟨Nat.le_of_ble_eq_true rfl, Nat.le_of_ble_eq_true rfl⟩ rfl (Nat.le_of_ble_eq_true rfl) dX0_moveToFloor_47 ⟨Nat.zero_le _, Nat.zero_le _⟩ (fun z1 H locs hz1 Z => ?_)
  have bz1 := mo_b (by omega) (by omega) hz1
  refine x_put_6 C Z dX0_moveToFloor_50 (fun S2 H locs eS2 Z => ?_)
  refine z_iconst hx hb dX0_moveToFloor_53 ?_
  refine lv_istore_n (lv' := [(3, .int (iI 0)), (0, .ref h), (1, .int (iI v)), (2, .int (iI w))]) hx hb dX0_moveToFloor_54 rfl hl (by decide) rfl (fun ls hl => ?_)
  have em : mOK S2 := by
    rw [eS2]
    refine ⟨?_, fun j => ?_, fun j => ?_⟩
    · rw [up_e]; exact bz1
    · rw [up_n _ _ _ _ _ (by decide)]; exact m7 j
    · rw [up_n _ _ _ _ _ (by decide)]; exact m8 j
  refine Lx_mfb C S2 v w hv em (by omega) (fun T H locs ls Z j0 j1 j2 => ?_) 4 0 S2 _ _ ls (by omega) (by omega) (by omega) Z (fun k _ => rfl) (fun x y0 y1 => by omega) (fun j _ => rfl) (lv_sub hl [1, 2, 3, 0] rfl)
  exact g_retv C hr hlk Z dX0_moveToFloor_100 (by
    have q7 : S2 7 = S 7 := by rw [eS2, up_n _ _ _ _ _ (by decide)]
    have q0 : ∀ k, k ≠ 6 → k ≠ 7 → T k = S k := fun k h6 h7 => by rw [j0 k h7, eS2, up_n _ _ _ _ _ h6]
    have q := mf_keep (S := S) (S' := T) (v := v) (w := w) hm hv i0 q0 (by rw [j0 6 (by decide), eS2, up_e, hz1]) (fun x y0 y1 => by rw [← q7]; exact j1 x y0 y1) (fun j hj => by rw [← q7]; exact j2 j hj) i2
    exact ⟨q0, q.1, q.2⟩)
end
section
set_option maxRecDepth 100000
/-- an object's state between calls -/
def xOK (S : St) : Prop := nOK S ∧ mOK S ∧ (S 5 0 = 0 ∨ S 5 0 = 1) ∧ (S 5 0 = 1 → ∀ g, vl g → tM S g = tO S g)
theorem nOK_c {S T : St} (h : ∀ k, k ≤ 4 → T k = S k) (hn : nOK S) : nOK T := by
  unfold nOK
  rw [h 0 (by decide), h 1 (by decide), h 2 (by decide), h 3 (by decide), h 4 (by decide)]
  exact hn
theorem tO_c {S T : St} (h : ∀ k, k ≤ 4 → T k = S k) (g : Int → Int) : tO T g = tO S g := by
  have hp : pl T g = pl S g := by
    funext i
    unfold pl
    rw [h 2 (by decide), h 3 (by decide)]
  unfold tO
  rw [hp, h 0 (by decide), h 1 (by decide), h 4 (by decide)]
theorem tM_0 {S T : St} (hn : nOK S) (h : ∀ k, k ≤ 4 → T k = S k) (h6 : T 6 0 = 0) (h7 : ∀ j, 0 ≤ j → j < 18 → T 7 j = aM (S 0 j)) (h8 : ∀ j, 0 ≤ j → j < S 1 0 * 9 → T 8 j = aM (S 4 j)) (g : Int → Int) (vg : vl g) : tM T g = tO S g := by
  obtain ⟨n1, n0, n2, n3, n4, n5⟩ := id hn
  have hp : pl T g = pl S g := by
    funext i
    unfold pl
    rw [h 2 (by decide), h 3 (by decide)]
  unfold tO tM
  rw [hp, h6, h 1 (by decide)]
  rw [sm_congr (f := fun u => cp (T 7 (u * 3 + g u))) (g := fun v => cp (aM (S 0 (v * 3 + g v)))) (fun i a b => by
    have := vg i
    show cp (T 7 (i * 3 + g i)) = _
    rw [h7 _ (by omega) (by omega)])]
  rw [sm_congr (f := fun u => cp (T 8 (pl S g u))) (g := fun v => cp (aM (S 4 (pl S g v)))) (fun i a b => by
    have := vg (S 2 i)
    have := vg (S 3 i)
    show cp (T 8 (pl S g i)) = _
    rw [h8 _ (by unfold pl; omega) (by unfold pl; omega)])]
  rw [show cp 0 = 0 from rfl, Int.zero_add]
set_option maxHeartbeats 8000000 in
theorem Lx_prep1 {p : Program} {l : Launch} {e : Env} {s : State} {m : MethodId} {args : Array Value} {below : List Frame} {meth : Method} {c : Code} {Q : State → Prop} {D : va_G} {A : Nat → Prop} {d : ClassId} {h : Nat} {ad : Nat → Nat} (C : CallFix p m c cX0_prepare 3 s args lw_all RX0) (S : St) (hn : nOK S) (kk : ∀ (T : St) (H : Heap) (locs : List Loc) (ls : Array Slot), GW D A s H locs d (wX h ad d T) → (∀ k, k ≠ 7 → T k = S k) → (∀ j, 0 ≤ j → j < 18 → T 7 j = aM (S 0 j)) → (∀ j, (j < 0 ∨ 18 ≤ j) → T 7 j = S 7 j) → lv_has ls 3 [(0, .ref h)] → W p l e (rmv 2) s m args below meth c H locs 0 0 Q (F0 m 47 ls [])) : ∀ (n : Nat) (b : Int) (T : St) (H : Heap) (locs : List Loc) (ls : Array Slot), 0 ≤ b → b ≤ 18 → 18 + 1 ≤ b + n → GW D A s H locs d (wX h ad d T) → (∀ k, k ≠ 7 → T k = S k) → (∀ j, 0 ≤ j → j < b → T 7 j = aM (S 0 j)) → (∀ j, (j < 0 ∨ b ≤ j) → T 7 j = S 7 j) → lv_has ls 3 [(0, .ref h), (1, .int (iI b))] → W p l e (rmv 2) s m args below meth c H locs 0 0 Q (F0 m 20 ls []) := by
  have hx := C.1
  have hb := C.2.1
  obtain ⟨n1, n0, n2, n3, n4, n5⟩ := id hn
  intro n
  induction n with
  | zero =>
    intro b T H locs ls h1 h2 h3
    exact absurd h3 (by omega)
  | succ n ih =>
    intro b T H locs ls h1 h2 h3 Z i0 i1 i2 hl
    have bs := n0 b
    have es : T 0 b = S 0 b := by rw [i0 0 (by decide)]
    have e1 : T 1 0 = S 1 0 := by rw [i0 1 (by decide)]
    refine lv_iload_n hx hb dX0_prepare_20 rfl (lv_at hl 1 rfl) ?_
    refine z_bipush hx hb dX0_prepare_21 (by decide) ?_
    refine z_icmp_ge (tgt := 47) hx hb dX0_prepare_23 (by decide) (by omega) (by omega) (fun c_23 => ?_) (fun c_23 => ?_)
    · obtain rfl : b = 18 := by omega
      exact kk T H locs ls Z i0 i1 i2 (lv_sub hl [0] rfl)
    · refine lv_aload_n hx hb dX0_prepare_26 rfl (lv_at hl 0 rfl) ?_
      refine x_get_7 C Z dX0_prepare_27 ?_
      refine lv_iload_n hx hb dX0_prepare_30 rfl (lv_at hl 1 rfl) ?_
      refine lv_aload_n hx hb dX0_prepare_31 rfl (lv_at hl 0 rfl) ?_
      refine x_get_0 C Z dX0_prepare_32 ?_
      refine lv_iload_n hx hb dX0_prepare_35 rfl (lv_at hl 1 rfl) ?_
      refine x_ald_0 C Z (e0 := b) (by omega) (by omega) dX0_prepare_36 ?_
      refine g_calls (n := 1) (As := [.int (iI (T 0 b))]) (rest := [.int (iI b), .ref (ad 7)]) C Z hl.1 (c_asMoved l (T 0 b) (by omega)) (lw_S q122 q123 q19 q124) (by decide +kernel) rfl ⟨rfl, rfl⟩ ⟨Nat.le_of_ble_eq_true rfl, Nat.le_of_ble_eq_true rfl⟩ rfl (Nat.le_of_ble_eq_true rfl) dX0_prepare_37 ⟨Nat.zero_le _, Nat.zero_le _⟩ (fun z1 H locs hz1 Z => ?_)
      refine x_ast_7 C Z (e0 := b) (by omega) (by omega) dX0_prepare_40 (fun S2 H locs eS2 Z => ?_)
      refine z_iinc (lv' := [(1, .int (iI (b + 1))), (0, .ref h)]) hx hb dX0_prepare_41 hl (k := 1) rfl (by decide) rfl (fun ls hl => ?_)
      refine lv_goto (tgt := 20) hx hb dX0_prepare_44 (by decide) ?_
      refine ih (b + 1) S2 H locs ls (by omega) (by omega) (by omega) Z (fun k hk => by rw [eS2, up_n _ _ _ _ _ hk]; exact i0 k hk) (fun j y0 y1 => ?_) (fun j hj => ?_) (lv_sub hl [1, 0] rfl)
      · rw [eS2, up_s]
        split
        · rename_i q
          rw [hz1, es, q]
        · exact i1 j y0 (by omega)
      · rw [eS2, up_d _ _ _ _ _ (by omega)]
        exact i2 j (by omega)
set_option maxHeartbeats 8000000 in
theorem Lx_prep2 {p : Program} {l : Launch} {e : Env} {s : State} {m : MethodId} {args : Array Value} {below : List Frame} {meth : Method} {c : Code} {Q : State → Prop} {D : va_G} {A : Nat → Prop} {d : ClassId} {h : Nat} {ad : Nat → Nat} (C : CallFix p m c cX0_prepare 3 s args lw_all RX0) (S : St) (hn : nOK S) (kk : ∀ (T : St) (H : Heap) (locs : List Loc) (ls : Array Slot), GW D A s H locs d (wX h ad d T) → (∀ k, k ≠ 8 → T k = S k) → (∀ j, 0 ≤ j → j < S 1 0 * 9 → T 8 j = aM (S 4 j)) → (∀ j, (j < 0 ∨ S 1 0 * 9 ≤ j) → T 8 j = S 8 j) → lv_has ls 3 [(0, .ref h)] → W p l e (rmv 2) s m args below meth c H locs 0 0 Q (F0 m 81 ls [])) : ∀ (n : Nat) (b : Int) (T : St) (H : Heap) (locs : List Loc) (ls : Array Slot), 0 ≤ b → b ≤ S 1 0 * 9 → S 1 0 * 9 + 1 ≤ b + n → GW D A s H locs d (wX h ad d T) → (∀ k, k ≠ 8 → T k = S k) → (∀ j, 0 ≤ j → j < b → T 8 j = aM (S 4 j)) → (∀ j, (j < 0 ∨ b ≤ j) → T 8 j = S 8 j) → lv_has ls 3 [(0, .ref h), (1, .int (iI b))] → W p l e (rmv 2) s m args below meth c H locs 0 0 Q (F0 m 49 ls []) := by
  have hx := C.1
  have hb := C.2.1
  obtain ⟨n1, n0, n2, n3, n4, n5⟩ := id hn
  intro n
  induction n with
  | zero =>
    intro b T H locs ls h1 h2 h3
    exact absurd h3 (by omega)
  | succ n ih =>
    intro b T H locs ls h1 h2 h3 Z i0 i1 i2 hl
    have bs := n4 b
    have es : T 4 b = S 4 b := by rw [i0 4 (by decide)]
    have e1 : T 1 0 = S 1 0 := by rw [i0 1 (by decide)]
    refine lv_iload_n hx hb dX0_prepare_49 rfl (lv_at hl 1 rfl) ?_
    refine lv_aload_n hx hb dX0_prepare_50 rfl (lv_at hl 0 rfl) ?_
    refine x_get_1 C Z dX0_prepare_51 ?_
    refine z_bipush hx hb dX0_prepare_54 (by decide) ?_
    refine z_imul hx hb dX0_prepare_56 ?_
    refine z_icmp_ge (tgt := 81) hx hb dX0_prepare_57 (by decide) (by omega) (by omega) (fun c_57 => ?_) (fun c_57 => ?_)
    · obtain rfl : b = S 1 0 * 9 := by omega
      exact kk T H locs ls Z i0 i1 i2 (lv_sub hl [0] rfl)
    · refine lv_aload_n hx hb dX0_prepare_60 rfl (lv_at hl 0 rfl) ?_
      refine x_get_8 C Z dX0_prepare_61 ?_
      refine lv_iload_n hx hb dX0_prepare_64 rfl (lv_at hl 1 rfl) ?_
      refine lv_aload_n hx hb dX0_prepare_65 rfl (lv_at hl 0 rfl) ?_
      refine x_get_4 C Z dX0_prepare_66 ?_
      refine lv_iload_n hx hb dX0_prepare_69 rfl (lv_at hl 1 rfl) ?_
      refine x_ald_4 C Z (e0 := b) (by omega) (by omega) dX0_prepare_70 ?_
      refine g_calls (n := 1) (As := [.int (iI (T 4 b))]) (rest := [.int (iI b), .ref (ad 8)]) C Z hl.1 (c_asMoved l (T 4 b) (by omega)) (lw_S q122 q123 q19 q124) (by decide +kernel) rfl ⟨rfl, rfl⟩ ⟨Nat.le_of_ble_eq_true rfl, Nat.le_of_ble_eq_true rfl⟩ rfl (Nat.le_of_ble_eq_true rfl) dX0_prepare_71 ⟨Nat.zero_le _, Nat.zero_le _⟩ (fun z1 H locs hz1 Z => ?_)
      refine x_ast_8 C Z (e0 := b) (by omega) (by omega) dX0_prepare_74 (fun S2 H locs eS2 Z => ?_)
      refine z_iinc (lv' := [(1, .int (iI (b + 1))), (0, .ref h)]) hx hb dX0_prepare_75 hl (k := 1) rfl (by decide) rfl (fun ls hl => ?_)
      refine lv_goto (tgt := 49) hx hb dX0_prepare_78 (by decide) ?_
      refine ih (b + 1) S2 H locs ls (by omega) (by omega) (by omega) Z (fun k hk => by rw [eS2, up_n _ _ _ _ _ hk]; exact i0 k hk) (fun j y0 y1 => ?_) (fun j hj => ?_) (lv_sub hl [1, 0] rfl)
      · rw [eS2, up_s]
        split
        · rename_i q
          rw [hz1, es, q]
        · exact i1 j y0 (by omega)
      · rw [eS2, up_d _ _ _ _ _ (by omega)]
        exact i2 j (by omega)
set_option maxHeartbeats 8000000 in
theorem Lx_prep3 {p : Program} {l : Launch} {e : Env} {s : State} {m : MethodId} {args : Array Value} {below : List Frame} {meth : Method} {c : Code} {Q : State → Prop} {D : va_G} {A : Nat → Prop} {d : ClassId} {h : Nat} {ad : Nat → Nat} (C : CallFix p m c cX0_prepare 3 s args lw_all RX0) (S : St) (hn : nOK S) (t : Int) (ht : 0 ≤ t ∧ t < S 1 0) (kk : ∀ (T : St) (H : Heap) (locs : List Loc) (ls : Array Slot), GW D A s H locs d (wX h ad d T) → (∀ k, k ≠ 7 → k ≠ 8 → T k = S k) → mOK T → (∀ g, vl g → tM T g = tM S g) → lv_has ls 3 [(0, .ref h), (1, .int (iI t))] → W p l e (rmv 2) s m args below meth c H locs 0 0 Q (F0 m 118 ls [])) : ∀ (n : Nat) (b : Int) (T : St) (H : Heap) (locs : List Loc) (ls : Array Slot), 0 ≤ b → b ≤ 3 → 4 ≤ b + n → GW D A s H locs d (wX h ad d T) → (∀ k, k ≠ 7 → k ≠ 8 → T k = S k) → mOK T → (∀ g, vl g → tM T g = tM S g) → lv_has ls 3 [(0, .ref h), (1, .int (iI t)), (2, .int (iI b))] → W p l e (rmv 2) s m args below meth c H locs 0 0 Q (F0 m 93 ls []) := by
  have hx := C.1
  have hb := C.2.1
  intro n
  induction n with
  | zero =>
    intro b T H locs ls h1 h2 h3
    exact absurd h3 (by omega)
  | succ n ih =>
    intro b T H locs ls h1 h2 h3 Z i0 i1 i2 hl
    have e1 : T 1 0 = S 1 0 := by rw [i0 1 (by decide) (by decide)]
    have nT : nOK T := nOK_c (fun k hk => i0 k (by omega) (by omega)) hn
    refine lv_iload_n hx hb dX0_prepare_93 rfl (lv_at hl 2 rfl) ?_
    refine z_iconst hx hb dX0_prepare_94 ?_
    refine z_icmp_ge (tgt := 118) hx hb dX0_prepare_95 (by decide) (by omega) (by omega) (fun c_95 => ?_) (fun c_95 => ?_)
    · exact kk T H locs ls Z i0 i1 i2 (lv_sub hl [0, 1] rfl)
    · refine lv_aload_n hx hb dX0_prepare_98 rfl (lv_at hl 0 rfl) ?_
      refine lv_iload_n hx hb dX0_prepare_99 rfl (lv_at hl 1 rfl) ?_
      refine lv_iload_n hx hb dX0_prepare_100 rfl (lv_at hl 2 rfl) ?_
      refine z_iconst hx hb dX0_prepare_101 ?_
      refine g_callv (n := 3) (wr := []) (w := wX h ad d) (As := [.int (iI t), .int (iI b), .int (iI 1)]) (rest := []) C Z hl.1 (kx_mv1 l D d h ad T t b (by omega) (by omega) nT i1) (lw_V q126 q128 qs4 q19 q129) rfl rfl (by decide +kernel) rfl ⟨rfl, rfl⟩ ⟨Nat.le_of_ble_eq_true rfl, Nat.le_of_ble_eq_true rfl⟩ rfl (Nat.le_of_ble_eq_true rfl) dX0_prepare_102 ⟨Nat.zero_le _, Nat.zero_le _⟩ (fun S2 H locs hz1 Z => ?_)
      have Z : GW D _ s H locs d (wX h ad d S2) := Z
      have e1S2 : S2 1 0 = S 1 0 := by rw [hz1.1 1 (by decide) (by decide)]; omega
      have nS2 : nOK S2 := nOK_c (fun k hk => hz1.1 k (by omega) (by omega)) nT
      refine lv_aload_n hx hb dX0_prepare_105 rfl (lv_at hl 0 rfl) ?_
      refine lv_iload_n hx hb dX0_prepare_106 rfl (lv_at hl 1 rfl) ?_
      refine lv_iload_n hx hb dX0_prepare_107 rfl (lv_at hl 2 rfl) ?_
      refine z_iconst hx hb dX0_prepare_108 ?_
      refine g_callv (n := 3) (wr := []) (w := wX h ad d) (As := [.int (iI t), .int (iI b), .int (iI 0)]) (rest := []) C Z hl.1 (kx_mv0 l D d h ad S2 t b (by omega) (by omega) nS2 hz1.2.1) (lw_V q126 q128 qs4 q19 q129) rfl rfl (by decide +kernel) rfl ⟨rfl, rfl⟩ ⟨Nat.le_of_ble_eq_true rfl, Nat.le_of_ble_eq_true rfl⟩ rfl (Nat.le_of_ble_eq_true rfl) dX0_prepare_109 ⟨Nat.zero_le _, Nat.zero_le _⟩ (fun S4 H locs hz3 Z => ?_)
      have Z : GW D _ s H locs d (wX h ad d S4) := Z
      have e1S4 : S4 1 0 = S 1 0 := by rw [hz3.1 1 (by decide) (by decide)]; omega
      have nS4 : nOK S4 := nOK_c (fun k hk => hz3.1 k (by omega) (by omega)) nS2
      refine z_iinc (lv' := [(2, .int (iI (b + 1))), (0, .ref h), (1, .int (iI t))]) hx hb dX0_prepare_112 hl (k := 2) rfl (by decide) rfl (fun ls hl => ?_)
      refine lv_goto (tgt := 93) hx hb dX0_prepare_115 (by decide) ?_
      exact ih (b + 1) S4 H locs ls (by omega) (by omega) (by omega) Z (fun k h7 h8 => by rw [hz3.1 k h7 h8, hz1.1 k h7 h8]; exact i0 k h7 h8) hz3.2.1 (fun g vg => by rw [hz3.2.2 g vg, hz1.2.2 g vg]; exact i2 g vg) (lv_sub hl [1, 2, 0] rfl)
set_option maxHeartbeats 8000000 in
theorem Lx_prep4 {p : Program} {l : Launch} {e : Env} {s : State} {m : MethodId} {args : Array Value} {below : List Frame} {meth : Method} {c : Code} {Q : State → Prop} {D : va_G} {A : Nat → Prop} {d : ClassId} {h : Nat} {ad : Nat → Nat} (C : CallFix p m c cX0_prepare 3 s args lw_all RX0) (S : St) (hn : nOK S) (kk : ∀ (T : St) (H : Heap) (locs : List Loc) (ls : Array Slot), GW D A s H locs d (wX h ad d T) → (∀ k, k ≠ 7 → k ≠ 8 → T k = S k) → mOK T → (∀ g, vl g → tM T g = tM S g) → lv_has ls 3 [(0, .ref h)] → W p l e (rmv 2) s m args below meth c H locs 0 0 Q (F0 m 124 ls [])) : ∀ (n : Nat) (t : Int) (T : St) (H : Heap) (locs : List Loc) (ls : Array Slot), 0 ≤ t → t ≤ S 1 0 → S 1 0 + 1 ≤ t + n → GW D A s H locs d (wX h ad d T) → (∀ k, k ≠ 7 → k ≠ 8 → T k = S k) → mOK T → (∀ g, vl g → tM T g = tM S g) → lv_has ls 3 [(0, .ref h), (1, .int (iI t))] → W p l e (rmv 2) s m args below meth c H locs 0 0 Q (F0 m 83 ls []) := by
  have hx := C.1
  have hb := C.2.1
  obtain ⟨n1, n0, n2, n3, n4, n5⟩ := id hn
  intro n
  induction n with
  | zero =>
    intro t T H locs ls h1 h2 h3
    exact absurd h3 (by omega)
  | succ n ih =>
    intro t T H locs ls h1 h2 h3 Z i0 i1 i2 hl
    have e1 : T 1 0 = S 1 0 := by rw [i0 1 (by decide) (by decide)]
    refine lv_iload_n hx hb dX0_prepare_83 rfl (lv_at hl 1 rfl) ?_
    refine lv_aload_n hx hb dX0_prepare_84 rfl (lv_at hl 0 rfl) ?_
    refine x_get_1 C Z dX0_prepare_85 ?_
    refine z_icmp_ge (tgt := 124) hx hb dX0_prepare_88 (by decide) (by omega) (by omega) (fun c_88 => ?_) (fun c_88 => ?_)
    · exact kk T H locs ls Z i0 i1 i2 (lv_sub hl [0] rfl)
    · refine z_iconst hx hb dX0_prepare_91 ?_
      refine lv_istore_n (lv' := [(2, .int (iI 0)), (0, .ref h), (1, .int (iI t))]) hx hb dX0_prepare_92 rfl hl (by decide) rfl (fun ls hl => ?_)
      refine Lx_prep3 C S hn t (by omega) (fun T H locs ls Z j0 j1 j2 hl => ?_) 4 0 T _ _ ls (by omega) (by omega) (by omega) Z i0 i1 i2 (lv_sub hl [1, 2, 0] rfl)
      refine z_iinc (lv' := [(1, .int (iI (t + 1))), (0, .ref h)]) hx hb dX0_prepare_118 hl (k := 1) rfl (by decide) rfl (fun ls hl => ?_)
      refine lv_goto (tgt := 83) hx hb dX0_prepare_121 (by decide) ?_
      exact ih (t + 1) T H locs ls (by omega) (by omega) (by omega) Z j0 j1 j2 (lv_sub hl [1, 0] rfl)
set_option maxHeartbeats 8000000 in
theorem Lx_prep5 {p : Program} {l : Launch} {e : Env} {s : State} {m : MethodId} {args : Array Value} {below : List Frame} {meth : Method} {c : Code} {Q : State → Prop} {D : va_G} {A : Nat → Prop} {d : ClassId} {h : Nat} {ad : Nat → Nat} (C : CallFix p m c cX0_prepare 3 s args lw_all RX0) (S : St) (kk : ∀ (T : St) (H : Heap) (locs : List Loc) (ls : Array Slot), GW D A s H locs d (wX h ad d T) → (∀ k, k ≠ 6 → k ≠ 7 → T k = S k) → mOK T → (∀ g, vl g → tM T g = tM S g) → W p l e (rmv 2) s m args below meth c H locs 0 0 Q (F0 m 143 ls [])) : ∀ (n : Nat) (v : Int) (T : St) (H : Heap) (locs : List Loc) (ls : Array Slot), 0 ≤ v → v ≤ 6 → 7 ≤ v + n → GW D A s H locs d (wX h ad d T) → (∀ k, k ≠ 6 → k ≠ 7 → T k = S k) → mOK T → (∀ g, vl g → tM T g = tM S g) → lv_has ls 3 [(0, .ref h), (1, .int (iI v))] → W p l e (rmv 2) s m args below meth c H locs 0 0 Q (F0 m 126 ls []) := by
  have hx := C.1
  have hb := C.2.1
  intro n
  induction n with
  | zero =>
    intro v T H locs ls h1 h2 h3
    exact absurd h3 (by omega)
  | succ n ih =>
    intro v T H locs ls h1 h2 h3 Z i0 i1 i2 hl
    refine lv_iload_n hx hb dX0_prepare_126 rfl (lv_at hl 1 rfl) ?_
    refine z_bipush hx hb dX0_prepare_127 (by decide) ?_
    refine z_icmp_ge (tgt := 143) hx hb dX0_prepare_129 (by decide) (by omega) (by omega) (fun c_129 => ?_) (fun c_129 => ?_)
    · exact kk T H locs ls Z i0 i1 i2
    · refine lv_aload_n hx hb dX0_prepare_132 rfl (lv_at hl 0 rfl) ?_
      refine lv_iload_n hx hb dX0_prepare_133 rfl (lv_at hl 1 rfl) ?_
      refine g_callv (n := 1) (wr := []) (w := wX h ad d) (As := [.int (iI v)]) (rest := []) C Z hl.1 (kx_moveToFloor l D d h ad T v (by omega) i1) (lw_V q140 q142 qs5 q19 q143) rfl rfl (by decide +kernel) rfl ⟨rfl, rfl⟩ ⟨Nat.le_of_ble_eq_true rfl, Nat.le_of_ble_eq_true rfl⟩ rfl (Nat.le_of_ble_eq_true rfl) dX0_prepare_134 ⟨Nat.zero_le _, Nat.zero_le _⟩ (fun S2 H locs hz1 Z => ?_)
      have Z : GW D _ s H locs d (wX h ad d S2) := Z
      refine z_iinc (lv' := [(1, .int (iI (v + 1))), (0, .ref h)]) hx hb dX0_prepare_137 hl (k := 1) rfl (by decide) rfl (fun ls hl => ?_)
      refine lv_goto (tgt := 126) hx hb dX0_prepare_140 (by decide) ?_
      exact ih (v + 1) S2 H locs ls (by omega) (by omega) (by omega) Z (fun k h7 h8 => by rw [hz1.1 k h7 h8]; exact i0 k h7 h8) hz1.2.1 (fun g vg => by rw [hz1.2.2 g vg]; exact i2 g vg) (lv_sub hl [1, 0] rfl)
set_option maxHeartbeats 8000000 in
theorem kx_prepare (l : Launch) (D : va_G) (d : ClassId) (h : Nat) (ad : Nat → Nat) (S : St) (hI : xOK S) : gMv l D d (wX h ad d) h yX0_prepare cX0_prepare 3 (rmv 2) [] S (fun S' => (∀ k, k ≠ 5 → k ≠ 6 → k ≠ 7 → k ≠ 8 → S' k = S k) ∧ S' 5 0 = 1 ∧ mOK S' ∧ ∀ g, vl g → tM S' g = tO S g) := by
  refine g_met (by decide) (Nat.le_of_ble_eq_true rfl) ?_
  intro p e s m args below meth c C hr hlk Z ls hl
  have C : CallFix p m c cX0_prepare 3 s args lw_all RX0 := C
  have hx := C.1
  have hb := C.2.1
  have hl : lv_has ls 3 [(0, .ref h)] := hl
  obtain ⟨hn, hm, h5, h5b⟩ := id hI
  obtain ⟨m6, m7, m8⟩ := id hm
  refine lv_aload_n hx hb dX0_prepare_0 rfl (lv_at hl 0 rfl) ?_
  refine x_get_5 C Z dX0_prepare_1 ?_
  refine z_if_eq (tgt := 8) hx hb dX0_prepare_4 (by decide) (by omega) (fun c_4 => ?_) (fun c_4 => ?_)
  · refine lv_aload_n hx hb dX0_prepare_8 rfl (lv_at hl 0 rfl) ?_
    refine z_iconst hx hb dX0_prepare_9 ?_
    refine x_put_5 C Z (by omega) dX0_prepare_10 (fun S1 H locs eS1 Z => ?_)
    refine lv_aload_n hx hb dX0_prepare_13 rfl (lv_at hl 0 rfl) ?_
    refine z_iconst hx hb dX0_prepare_14 ?_
    refine x_put_6 C Z dX0_prepare_15 (fun S2 H locs eS2 Z => ?_)
    refine z_iconst hx hb dX0_prepare_18 ?_
    refine lv_istore_n (lv' := [(1, .int (iI 0)), (0, .ref h)]) hx hb dX0_prepare_19 rfl hl (by decide) rfl (fun ls hl => ?_)
    have q2 : ∀ k, k ≠ 5 → k ≠ 6 → S2 k = S k := fun k a b => by rw [eS2, eS1, up_n _ _ _ _ _ b, up_n _ _ _ _ _ a]
    have n2 : nOK S2 := nOK_c (fun k hk => q2 k (by omega) (by omega)) hn
    have n1 := n2.1
    refine Lx_prep1 C S2 n2 (fun T3 H locs ls Z a0 a1 a2 hl => ?_) 19 0 S2 _ _ ls (by omega) (by omega) (by omega) Z (fun k _ => rfl) (fun j y0 y1 => by omega) (fun j _ => rfl) (lv_sub hl [1, 0] rfl)
    refine z_iconst hx hb dX0_prepare_47 ?_
    refine lv_istore_n (lv' := [(1, .int (iI 0)), (0, .ref h)]) hx hb dX0_prepare_48 rfl hl (by decide) rfl (fun ls hl => ?_)
    have n3 : nOK T3 := nOK_c (fun k hk => a0 k (by omega)) n2
    have n31 := n3.1
    refine Lx_prep2 C T3 n3 (fun T4 H locs ls Z b0 b1 b2 hl => ?_) 73 0 T3 _ _ ls (by omega) (by omega) (by omega) Z (fun k _ => rfl) (fun j y0 y1 => by omega) (fun j _ => rfl) (lv_sub hl [1, 0] rfl)
    refine z_iconst hx hb dX0_prepare_81 ?_
    refine lv_istore_n (lv' := [(1, .int (iI 0)), (0, .ref h)]) hx hb dX0_prepare_82 rfl hl (by decide) rfl (fun ls hl => ?_)
    have n4 : nOK T4 := nOK_c (fun k hk => b0 k (by omega)) n3
    have n41 := n4.1
    have q3 : ∀ k, k ≤ 4 → T3 k = S k := fun k hk => by rw [a0 k (by omega), q2 k (by omega) (by omega)]
    have q4 : ∀ k, k ≤ 4 → T4 k = S k := fun k hk => by rw [b0 k (by omega), q3 k hk]
    have q46 : T4 6 0 = 0 := by rw [b0 6 (by decide), a0 6 (by decide), eS2, up_e]
    have q47 : ∀ j, 0 ≤ j → j < 18 → T4 7 j = aM (S 0 j) := fun j y0 y1 => by rw [b0 7 (by decide), a1 j y0 y1, q2 0 (by decide) (by decide)]
    have q48 : ∀ j, 0 ≤ j → j < S 1 0 * 9 → T4 8 j = aM (S 4 j) := fun j y0 y1 => by rw [b1 j y0 (by rw [q3 1 (by decide)]; exact y1), q3 4 (by decide)]
    have am : ∀ y, 0 ≤ y ∧ y ≤ 20 → 0 ≤ aM y ∧ aM y ≤ 100000 := fun y hy => by have := aM_o (z := aM y) rfl; omega
    have m4 : mOK T4 := by
      refine ⟨by omega, fun j => ?_, fun j => ?_⟩
      · by_cases y : 0 ≤ j ∧ j < 18
        · rw [q47 j y.1 y.2]; exact am _ (hn.2.1 j)
        · rw [b0 7 (by decide), a2 j (by omega), q2 7 (by decide) (by decide)]; exact m7 j
      · by_cases y : 0 ≤ j ∧ j < S 1 0 * 9
        · rw [q48 j y.1 y.2]; exact am _ (hn.2.2.2.2.1 j)
        · rw [b2 j (by rw [q3 1 (by decide)]; omega), a0 8 (by decide), q2 8 (by decide) (by decide)]; exact m8 j
    have t4 := tM_0 hn q4 q46 q47 q48
    refine Lx_prep4 C T4 n4 (fun T5 H locs ls Z d0 d1 d2 hl => ?_) 9 0 T4 _ _ ls (by omega) (by omega) (by omega) Z (fun k _ _ => rfl) m4 (fun g _ => rfl) (lv_sub hl [1, 0] rfl)
    refine z_iconst hx hb dX0_prepare_124 ?_
    refine lv_istore_n (lv' := [(1, .int (iI 0)), (0, .ref h)]) hx hb dX0_prepare_125 rfl hl (by decide) rfl (fun ls hl => ?_)
    refine Lx_prep5 C T5 (fun T6 H locs ls Z f0 f1 f2 => ?_) 7 0 T5 _ _ ls (by omega) (by omega) (by omega) Z (fun k _ _ => rfl) d1 (fun g _ => rfl) (lv_sub hl [1, 0] rfl)
    exact g_retv C hr hlk Z dX0_prepare_143 (by
      refine ⟨fun k h5 h6 h7 h8 => ?_, ?_, f1, fun g vg => ?_⟩
      · rw [f0 k h6 h7, d0 k h7 h8, b0 k h8, a0 k h7, q2 k h5 h6]
      · rw [f0 5 (by decide) (by decide), d0 5 (by decide) (by decide), b0 5 (by decide), a0 5 (by decide), eS2, eS1, up_n _ _ _ _ _ (by decide), up_e]
      · rw [f2 g vg, d2 g vg]
        exact t4 g vg)
  · exact g_retv C hr hlk Z dX0_prepare_7 (⟨fun _ _ _ _ _ => rfl, by omega, hm, h5b (by omega)⟩)
end
section
set_option maxRecDepth 100000
/-! ===== parts of a total: the variables below V, and the tables that fr already decides ===== -/
def qc (T : St) (fr V t : Int) : Prop := (T 2 t < fr ∧ T 3 t < V) ∨ (T 3 t < fr ∧ T 2 t < V)
noncomputable def qg (T : St) (g : Int → Int) (fr V t : Int) : Int := @ite _ (qc T fr V t) (Classical.propDecidable _) (cp (T 8 (pl T g t))) 0
noncomputable def qt (T : St) (g : Int → Int) (fr V : Int) : Int := cp (T 6 0) + sm (fun v => cp (T 7 (v * 3 + g v))) V.toNat + sm (qg T g fr V) (T 1 0).toNat
theorem qg_1 {T : St} {g : Int → Int} {fr V t : Int} (h : qc T fr V t) : qg T g fr V t = cp (T 8 (pl T g t)) := by
  unfold qg
  rw [if_pos h]
theorem qg_0 {T : St} {g : Int → Int} {fr V t : Int} (h : ¬ qc T fr V t) : qg T g fr V t = 0 := by
  unfold qg
  rw [if_neg h]
theorem qt_s {T : St} {g : Int → Int} {fr V : Int} (hn : nOK T) (hf : 0 ≤ fr) (hV : fr ≤ V) (hg : ∀ v, 0 ≤ v → v < fr → g v = T 10 v) : qt T g fr (V + 1) = qt T g fr V + wS T V (g V) fr (T 1 0) := by
  obtain ⟨n1, n0, n2, n3, n4, n5⟩ := id hn
  unfold qt wS
  rw [sm_step _ (by omega)]
  have e : sm (qg T g fr (V + 1)) (T 1 0).toNat = sm (fun t => qg T g fr V t + wt T V (g V) fr t) (T 1 0).toNat := by
    refine sm_congr (fun t a b => ?_)
    have b2 := n2 t
    have b3 := n3 t
    have b5 := n5 t a (by omega)
    by_cases c1 : T 2 t = V ∧ T 3 t < fr
    · rw [wt_1 c1.1 c1.2, qg_1 (Or.inr ⟨c1.2, by omega⟩), qg_0 (fun q => by rcases q with q | q <;> omega)]
      unfold pl
      rw [← hg (T 3 t) b3.1 c1.2, c1.1, Int.zero_add]
    · by_cases c2 : T 3 t = V ∧ T 2 t < fr
      · rw [wt_2 (by omega) c2.1 c2.2, qg_1 (Or.inl ⟨c2.2, by omega⟩), qg_0 (fun q => by rcases q with q | q <;> omega)]
        unfold pl
        rw [← hg (T 2 t) b2.1 c2.2, c2.1, Int.zero_add]
      · rw [wt_0 (by omega) (by omega), Int.add_zero]
        by_cases c3 : qc T fr V t
        · rw [qg_1 c3, qg_1 (by unfold qc at c3 ⊢; omega)]
        · rw [qg_0 c3, qg_0 (by unfold qc at c3 ⊢; omega)]
  rw [e, sm_add]
  omega
theorem qt_p {T : St} {g : Int → Int} {j : Int} (hn : nOK T) : qt T g (j + 1) (j + 1) = qt T g j (j + 1) := by
  obtain ⟨n1, n0, n2, n3, n4, n5⟩ := id hn
  unfold qt
  rw [sm_congr (f := qg T g (j + 1) (j + 1)) (g := qg T g j (j + 1)) (fun t a b => by
    have b5 := n5 t a (by omega)
    by_cases c3 : qc T j (j + 1) t
    · rw [qg_1 c3, qg_1 (by unfold qc at c3 ⊢; omega)]
    · rw [qg_0 c3, qg_0 (by unfold qc at c3 ⊢; omega)])]
theorem qt_c {T : St} {g g' : Int → Int} {fr V : Int} (hn : nOK T) (hf : fr ≤ V) (hg : ∀ v, 0 ≤ v → v < V → g v = g' v) : qt T g fr V = qt T g' fr V := by
  obtain ⟨n1, n0, n2, n3, n4, n5⟩ := id hn
  unfold qt
  rw [sm_congr (f := fun v => cp (T 7 (v * 3 + g v))) (g := fun v => cp (T 7 (v * 3 + g' v))) (fun v a b => by
    show cp (T 7 (v * 3 + g v)) = _
    rw [hg v a (by omega)])]
  rw [sm_congr (f := qg T g fr V) (g := qg T g' fr V) (fun t a b => by
    have b2 := n2 t
    have b3 := n3 t
    by_cases c3 : qc T fr V t
    · rw [qg_1 c3, qg_1 c3]
      unfold qc at c3
      unfold pl
      rw [hg _ b2.1 (by omega), hg _ b3.1 (by omega)]
    · rw [qg_0 c3, qg_0 c3])]
theorem qt_T {T U : St} {g : Int → Int} {fr V : Int} (h : ∀ k, k ≤ 8 → U k = T k) : qt U g fr V = qt T g fr V := by
  have hp : pl U g = pl T g := by
    funext i
    unfold pl
    rw [h 2 (by decide), h 3 (by decide)]
  have hq : qg U g fr V = qg T g fr V := by
    funext t
    by_cases c3 : qc T fr V t
    · rw [qg_1 c3, qg_1 (by unfold qc at c3 ⊢; rw [h 2 (by decide), h 3 (by decide)]; exact c3), hp, h 8 (by decide)]
    · rw [qg_0 c3, qg_0 (by unfold qc at c3 ⊢; rw [h 2 (by decide), h 3 (by decide)]; exact c3)]
  unfold qt
  rw [hq, h 6 (by decide), h 7 (by decide), h 1 (by decide)]
theorem qt_6 {T : St} {g : Int → Int} (hn : nOK T) : cp (qt T g 6 6) = tM T g := by
  obtain ⟨n1, n0, n2, n3, n4, n5⟩ := id hn
  unfold qt tM
  rw [sm_congr (f := qg T g 6 6) (g := fun t => cp (T 8 (pl T g t))) (fun t a b => by
    have b2 := n2 t
    have b3 := n3 t
    rw [qg_1 (Or.inl ⟨by omega, by omega⟩)])]
  rfl
theorem qt_le {T : St} {g : Int → Int} {fr : Int} (hn : nOK T) (hm : mOK T) (hf : fr ≤ 6) : qt T g fr 6 ≤ qt T g 6 6 := by
  obtain ⟨n1, n0, n2, n3, n4, n5⟩ := id hn
  have : sm (qg T g fr 6) (T 1 0).toNat ≤ sm (qg T g 6 6) (T 1 0).toNat := by
    refine sm_le (fun t a b => ?_)
    have b2 := n2 t
    have b3 := n3 t
    rw [qg_1 (fr := 6) (Or.inl ⟨by omega, by omega⟩)]
    by_cases c3 : qc T fr 6 t
    · rw [qg_1 c3]; exact Int.le_refl _
    · rw [qg_0 c3]; exact cp_nn (hm.2.2 _).1
  unfold qt
  omega
theorem qt_nn {T : St} (hm : mOK T) (g : Int → Int) (fr V : Int) : 0 ≤ qt T g fr V := by
  have h1 := cp_nn hm.1.1
  have h2 := sm_nn (f := fun v => cp (T 7 (v * 3 + g v))) (fun i => cp_nn (hm.2.1 _).1) V.toNat
  have h3 : 0 ≤ sm (qg T g fr V) (T 1 0).toNat := by
    refine sm_nn (fun t => ?_) _
    by_cases c3 : qc T fr V t
    · rw [qg_1 c3]; exact cp_nn (hm.2.2 _).1
    · rw [qg_0 c3]; exact Int.le_refl _
  unfold qt
  omega
theorem aS_qt {T : St} {g : Int → Int} {fr : Int} (hn : nOK T) (hf : 0 ≤ fr) (hg : ∀ v, 0 ≤ v → v < fr → g v = T 10 v) (n : Nat) : qt T g fr (fr + n) = qt T g fr fr + aS T g fr (fr + n) := by
  induction n with
  | zero =>
    rw [show fr + ((0 : Nat) : Int) = fr by omega, aS_0 hf]
    omega
  | succ n ih =>
    rw [show fr + ((n + 1 : Nat) : Int) = (fr + n) + 1 by omega, qt_s hn hf (by omega) hg, aS_s (by omega) (by omega), ih]
    omega
/-- nothing below a node that is given up costs less than what was asked -/
theorem ds_prune {T : St} {L r z lm : Int} (hn : nOK T) (hm : mOK T) (hL : 0 ≤ L ∧ L ≤ 5) (h11 : 0 ≤ T 11 (L + 1)) (hp : cp (T 11 (L + 1)) = cp (qt T (T 10) (L + 1) (L + 1))) (hr0 : 0 ≤ r)
    (hr : ∀ g, vl g → opn T g (L + 1) → cp r ≤ cp (aS T g (L + 1) 6)) (hz : z = mo (T 11 (L + 1)) r) (hc : 50000 ≤ z ∨ lm < z) (g : Int → Int) (vg : vl g) (ag : ∀ j, 0 ≤ j → j ≤ L → g j = T 10 j) (og : opn T g (L + 1)) : 50000 ≤ tM T g ∨ lm < tM T g := by
  have h1 := cp_addle h11 hr0 (qt_nn hm (T 10) (L + 1) (L + 1)) (aS_nn hm g (L + 1) 6) (by omega) (hr g vg og) hz
  have h2 := aS_qt (T := T) (g := g) (fr := L + 1) hn (by omega) (fun v a b => ag v a (by omega)) (5 - L).toNat
  rw [show (L + 1 : Int) + ((5 - L).toNat : Int) = 6 by omega] at h2
  rw [qt_c (g' := T 10) hn (Int.le_refl _) (fun v a b => ag v a (by omega))] at h2
  rw [← h2] at h1
  have h3 := cp_le (qt_le (g := g) hn hm (fr := L + 1) (by omega))
  rw [qt_6 hn] at h3
  have h4 := cp_o z
  omega
end
section
set_option maxRecDepth 100000
/-- what take does -/
def tkP (S S' : St) (v : Int) : Prop := S' 13 0 = S 13 0 + 1 ∧ (∀ k, k ≠ 13 → k ≠ 14 → k ≠ 15 → S' k = S k) ∧ ((v < S 14 0 ∧ S' 14 0 = v ∧ ∀ j, 0 ≤ j → j < 6 → S' 15 j = S 10 j) ∨ (S 14 0 ≤ v ∧ S' 14 0 = S 14 0 ∧ S' 15 = S 15))
set_option maxHeartbeats 8000000 in
theorem kx_descend (l : Launch) (D : va_G) (d : ClassId) (h : Nat) (ad : Nat → Nat) (S : St) (v : Int) (lm : Int) (hL : 0 ≤ v ∧ v ≤ 5) (hlm : -1 ≤ lm ∧ lm ≤ 100000) (hn : nOK S) (hm : mOK S) (hk : ∀ j, 0 ≤ j → j ≤ v → 0 ≤ S 10 j ∧ S 10 j ≤ 2) (h9 : ∀ j, 0 ≤ j → j ≤ 5 → -1 ≤ S 9 j ∧ S 9 j ≤ 2) (h11 : 0 ≤ S 11 (v + 1) ∧ S 11 (v + 1) ≤ 100000) (hp : cp (S 11 (v + 1)) = cp (qt S (S 10) (v + 1) (v + 1))) (h14 : b0 (S 14 0)) : gMi l D d (wX h ad d) h yX0_descend cX0_descend 5 (some .int) (rmv 3) [.int (iI v), .int (iI lm)] S (fun z S' => (z = v ∧ S' = S ∧ ∀ g, vl g → (∀ j, 0 ≤ j → j ≤ v → g j = S 10 j) → opn S g (v + 1) → 50000 ≤ tM S g ∨ lm < tM S g) ∨ (v = 5 ∧ z = 5 ∧ S 11 6 < 50000 ∧ S 11 6 ≤ lm ∧ tkP S S' (S 11 6)) ∨ (v < 5 ∧ z = v + 1 ∧ S' = up S 12 (v + 1) (if 0 ≤ S 9 (v + 1) then S 9 (v + 1) else 0))) := by
  refine g_met (by decide) (Nat.le_of_ble_eq_true rfl) ?_
  intro p e s m args below meth c C hr hlk Z ls hl
  have C : CallFix p m c cX0_descend 5 s args lw_all RX0 := C
  have hx := C.1
  have hb := C.2.1
  have hl : lv_has ls 5 [(0, .ref h), (1, .int (iI v)), (2, .int (iI lm))] := hl
  refine lv_iload_n hx hb dX0_descend_0 rfl (lv_at hl 1 rfl) ?_
  refine z_iconst hx hb dX0_descend_1 ?_
  refine z_iadd hx hb dX0_descend_2 ?_
  refine z_bipush hx hb dX0_descend_3 (by decide) ?_
  refine z_icmp_ge (tgt := 18) hx hb dX0_descend_5 (by decide) (by omega) (by omega) (fun c_5 => ?_) (fun c_5 => ?_)
  · refine z_iconst hx hb dX0_descend_18 ?_
    refine lv_istore_n (lv' := [(3, .int (iI 0)), (0, .ref h), (1, .int (iI v)), (2, .int (iI lm))]) hx hb dX0_descend_19 rfl hl (by decide) rfl (fun ls hl => ?_)
    refine lv_aload_n hx hb dX0_descend_20 rfl (lv_at hl 1 rfl) ?_
    refine x_get_11 C Z dX0_descend_21 ?_
    refine lv_iload_n hx hb dX0_descend_24 rfl (lv_at hl 2 rfl) ?_
    refine z_iconst hx hb dX0_descend_25 ?_
    refine z_iadd hx hb dX0_descend_26 ?_
    refine x_ald_11 C Z (e0 := v + 1) (by omega) (by omega) dX0_descend_27 ?_
    refine lv_iload_n hx hb dX0_descend_28 rfl (lv_at hl 0 rfl) ?_
    refine g_calls (n := 2) (As := [.int (iI (S 11 (v + 1))), .int (iI 0)]) (rest := []) C Z hl.1 (c_more l (S 11 (v + 1)) 0 (by omega) (by omega)) (lw_S q133 q134 q19 q135) (by decide +kernel) rfl ⟨rfl, rfl⟩ ⟨Nat.le_of_ble_eq_true rfl, Nat.le_of_ble_eq_true rfl⟩ rfl (Nat.le_of_ble_eq_true rfl) dX0_descend_29 ⟨Nat.zero_le _, Nat.zero_le _⟩ (fun z1 H locs hz1 Z => ?_)
    have bz1 := mo_b (by omega) (by omega) hz1
    refine lv_istore (lv' := [(4, .int (iI z1)), (3, .int (iI 0)), (0, .ref h), (1, .int (iI v)), (2, .int (iI lm))]) hx hb dX0_descend_32 hl (by decide) rfl (fun ls hl => ?_)
    refine lv_iload hx hb dX0_descend_34 (lv_at hl 0 rfl) ?_
    refine z_ldc (z := 50000) hx hb C.2.2.2.1 (C.2.2.2.2 _ q136) (by decide) dX0_descend_36 ?_
    refine z_icmp_ge (tgt := 47) hx hb dX0_descend_38 (by decide) (by omega) (by omega) (fun c_38 => ?_) (fun c_38 => ?_)
    · refine lv_iload_n hx hb dX0_descend_47 rfl (lv_at hl 3 rfl) ?_
      exact g_reti C hr hlk Z dX0_descend_48 (Or.inl ⟨rfl, rfl, ds_prune hn hm hL h11.1 hp (by omega) (fun g vg og => by rw [show (v + 1 : Int) = 6 by omega, aS_0 (by omega)]; exact Int.le_refl _) hz1 (by omega)⟩)
    · refine lv_iload hx hb dX0_descend_41 (lv_at hl 0 rfl) ?_
      refine lv_iload_n hx hb dX0_descend_43 rfl (lv_at hl 4 rfl) ?_
      refine z_icmp_le (tgt := 49) hx hb dX0_descend_44 (by decide) (by omega) (by omega) (fun c_44 => ?_) (fun c_44 => ?_)
      · refine lv_iload_n hx hb dX0_descend_49 rfl (lv_at hl 3 rfl) ?_
        refine z_iconst hx hb dX0_descend_50 ?_
        refine z_iadd hx hb dX0_descend_51 ?_
        refine z_bipush hx hb dX0_descend_52 (by decide) ?_
        refine z_icmp_ne (tgt := 70) hx hb dX0_descend_54 (by decide) (by omega) (by omega) (fun c_54 => ?_) (fun c_54 => ?_)
        · omega
        · have h116 : S 11 6 = S 11 (v + 1) := by rw [show (v + 1 : Int) = 6 by omega]
          refine lv_aload_n hx hb dX0_descend_57 rfl (lv_at hl 2 rfl) ?_
          refine lv_aload_n hx hb dX0_descend_58 rfl (lv_at hl 2 rfl) ?_
          refine x_get_11 C Z dX0_descend_59 ?_
          refine z_bipush hx hb dX0_descend_62 (by decide) ?_
          refine x_ald_11 C Z (e0 := 6) (by omega) (by omega) dX0_descend_64 ?_
          refine g_callv (n := 1) (wr := []) (w := wX h ad d) (As := [.int (iI (S 11 6))]) (rest := []) C Z hl.1 (kx_take l D d h ad S (S 11 6) ⟨by omega, by omega⟩ h14) (lw_V q164 q166 qs11 q19 q167) rfl rfl (by decide +kernel) rfl ⟨rfl, rfl⟩ ⟨Nat.le_of_ble_eq_true rfl, Nat.le_of_ble_eq_true rfl⟩ rfl (Nat.le_of_ble_eq_true rfl) dX0_descend_65 ⟨Nat.zero_le _, Nat.zero_le _⟩ (fun S3 H locs hz2 Z => ?_)
          have Z : GW D _ s H locs d (wX h ad d S3) := Z
          refine lv_iload_n hx hb dX0_descend_68 rfl (lv_at hl 3 rfl) ?_
          exact g_reti C hr hlk Z dX0_descend_69 (Or.inr (Or.inl ⟨by omega, by omega, by have := mo_o hz1; omega, by have := mo_o hz1; omega, hz2⟩))
      · refine lv_iload_n hx hb dX0_descend_47 rfl (lv_at hl 3 rfl) ?_
        exact g_reti C hr hlk Z dX0_descend_48 (Or.inl ⟨rfl, rfl, ds_prune hn hm hL h11.1 hp (by omega) (fun g vg og => by rw [show (v + 1 : Int) = 6 by omega, aS_0 (by omega)]; exact Int.le_refl _) hz1 (by omega)⟩)
  · refine lv_aload_n hx hb dX0_descend_8 rfl (lv_at hl 0 rfl) ?_
    refine lv_iload_n hx hb dX0_descend_9 rfl (lv_at hl 1 rfl) ?_
    refine z_iconst hx hb dX0_descend_10 ?_
    refine z_iadd hx hb dX0_descend_11 ?_
    refine g_calli (n := 1) (wr := []) (w := wX h ad d) (As := [.int (iI (v + 1))]) (rest := []) C Z hl.1 (kx_ahead l D d h ad S (v + 1) (by omega) hn hm (fun j a b => hk j a (by omega)) h9) (lw_V q160 q162 qs10 q19 q163) rfl rfl (by decide +kernel) rfl ⟨rfl, rfl⟩ ⟨Nat.le_of_ble_eq_true rfl, Nat.le_of_ble_eq_true rfl⟩ rfl (Nat.le_of_ble_eq_true rfl) dX0_descend_12 ⟨Nat.zero_le _, Nat.zero_le _⟩ (fun z4 S5 H locs hz4 Z => ?_)
    have Z : GW D _ s H locs d (wX h ad d S5) := Z
    rw [hz4.1] at Z
    have r0 := hz4.2.1
    have r1 := hz4.2.2.1
    refine lv_goto (tgt := 19) hx hb dX0_descend_15 (by decide) ?_
    refine lv_istore_n (lv' := [(3, .int (iI z4)), (0, .ref h), (1, .int (iI v)), (2, .int (iI lm))]) hx hb dX0_descend_19 rfl hl (by decide) rfl (fun ls hl => ?_)
    refine lv_aload_n hx hb dX0_descend_20 rfl (lv_at hl 1 rfl) ?_
    refine x_get_11 C Z dX0_descend_21 ?_
    refine lv_iload_n hx hb dX0_descend_24 rfl (lv_at hl 2 rfl) ?_
    refine z_iconst hx hb dX0_descend_25 ?_
    refine z_iadd hx hb dX0_descend_26 ?_
    refine x_ald_11 C Z (e0 := v + 1) (by omega) (by omega) dX0_descend_27 ?_
    refine lv_iload_n hx hb dX0_descend_28 rfl (lv_at hl 0 rfl) ?_
    refine g_calls (n := 2) (As := [.int (iI (S 11 (v + 1))), .int (iI z4)]) (rest := []) C Z hl.1 (c_more l (S 11 (v + 1)) z4 (by omega) (by omega)) (lw_S q133 q134 q19 q135) (by decide +kernel) rfl ⟨rfl, rfl⟩ ⟨Nat.le_of_ble_eq_true rfl, Nat.le_of_ble_eq_true rfl⟩ rfl (Nat.le_of_ble_eq_true rfl) dX0_descend_29 ⟨Nat.zero_le _, Nat.zero_le _⟩ (fun z6 H locs hz6 Z => ?_)
    have bz6 := mo_b (by omega) (by omega) hz6
    refine lv_istore (lv' := [(4, .int (iI z6)), (3, .int (iI z4)), (0, .ref h), (1, .int (iI v)), (2, .int (iI lm))]) hx hb dX0_descend_32 hl (by decide) rfl (fun ls hl => ?_)
    refine lv_iload hx hb dX0_descend_34 (lv_at hl 0 rfl) ?_
    refine z_ldc (z := 50000) hx hb C.2.2.2.1 (C.2.2.2.2 _ q136) (by decide) dX0_descend_36 ?_
    refine z_icmp_ge (tgt := 47) hx hb dX0_descend_38 (by decide) (by omega) (by omega) (fun c_38 => ?_) (fun c_38 => ?_)
    · refine lv_iload_n hx hb dX0_descend_47 rfl (lv_at hl 3 rfl) ?_
      exact g_reti C hr hlk Z dX0_descend_48 (Or.inl ⟨rfl, rfl, ds_prune hn hm hL h11.1 hp (by omega) hz4.2.2.2 hz6 (by omega)⟩)
    · refine lv_iload hx hb dX0_descend_41 (lv_at hl 0 rfl) ?_
      refine lv_iload_n hx hb dX0_descend_43 rfl (lv_at hl 4 rfl) ?_
      refine z_icmp_le (tgt := 49) hx hb dX0_descend_44 (by decide) (by omega) (by omega) (fun c_44 => ?_) (fun c_44 => ?_)
      · refine lv_iload_n hx hb dX0_descend_49 rfl (lv_at hl 3 rfl) ?_
        refine z_iconst hx hb dX0_descend_50 ?_
        refine z_iadd hx hb dX0_descend_51 ?_
        refine z_bipush hx hb dX0_descend_52 (by decide) ?_
        refine z_icmp_ne (tgt := 70) hx hb dX0_descend_54 (by decide) (by omega) (by omega) (fun c_54 => ?_) (fun c_54 => ?_)
        · refine lv_aload_n hx hb dX0_descend_70 rfl (lv_at hl 2 rfl) ?_
          refine lv_iload_n hx hb dX0_descend_71 rfl (lv_at hl 3 rfl) ?_
          refine z_iconst hx hb dX0_descend_72 ?_
          refine z_iadd hx hb dX0_descend_73 ?_
          refine g_callv (n := 1) (wr := []) (w := wX h ad d) (As := [.int (iI (v + 1))]) (rest := []) C Z hl.1 (kx_open l D d h ad S (v + 1) (by omega) (h9 (v + 1) (by omega) (by omega))) (lw_V q144 q146 qs6 q19 q147) rfl rfl (by decide +kernel) rfl ⟨rfl, rfl⟩ ⟨Nat.le_of_ble_eq_true rfl, Nat.le_of_ble_eq_true rfl⟩ rfl (Nat.le_of_ble_eq_true rfl) dX0_descend_74 ⟨Nat.zero_le _, Nat.zero_le _⟩ (fun S8 H locs hz7 Z => ?_)
          have Z : GW D _ s H locs d (wX h ad d S8) := Z
          refine lv_iload_n hx hb dX0_descend_77 rfl (lv_at hl 3 rfl) ?_
          refine z_iconst hx hb dX0_descend_78 ?_
          refine z_iadd hx hb dX0_descend_79 ?_
          exact g_reti C hr hlk Z dX0_descend_80 (Or.inr (Or.inr ⟨by omega, rfl, hz7⟩))
        · omega
      · refine lv_iload_n hx hb dX0_descend_47 rfl (lv_at hl 3 rfl) ?_
        exact g_reti C hr hlk Z dX0_descend_48 (Or.inl ⟨rfl, rfl, ds_prune hn hm hL h11.1 hp (by omega) hz4.2.2.2 hz6 (by omega)⟩)
end
section
set_option maxRecDepth 100000
/-! ===== the search: what has been gone through ===== -/
theorem dg_b (k v : Int) : 0 ≤ dg k v ∧ dg k v ≤ 2 := by
  unfold dg
  omega
theorem vl_dg (k : Int) : vl (dg k) := fun v => dg_b k v
theorem dg_sum {k : Int} (h0 : 0 ≤ k) (h : k < 729) : k = dg k 0 * 243 + dg k 1 * 81 + dg k 2 * 27 + dg k 3 * 9 + dg k 4 * 3 + dg k 5 := by
  have e0 : dg k 0 = k / 3 / 3 / 3 / 3 / 3 % 3 := rfl
  have e1 : dg k 1 = k / 3 / 3 / 3 / 3 % 3 := rfl
  have e2 : dg k 2 = k / 3 / 3 / 3 % 3 := rfl
  have e3 : dg k 3 = k / 3 / 3 % 3 := rfl
  have e4 : dg k 4 = k / 3 % 3 := rfl
  have e5 : dg k 5 = k % 3 := rfl
  omega
def okk (T : St) (k : Int) : Prop := ∀ v, 0 ≤ v → v ≤ 5 → T 9 v < 0 ∨ T 9 v = dg k v
def tt (T : St) (k : Int) : Int := tO T (dg k)
noncomputable def cn (P : Int → Prop) : Nat → Int
  | 0 => 0
  | n + 1 => cn P n + @ite _ (P n) (Classical.propDecidable _) 1 0
theorem cn_1 {P : Int → Prop} {n : Nat} (h : P n) : cn P (n + 1) = cn P n + 1 := by
  show cn P n + @ite _ (P n) (Classical.propDecidable _) 1 0 = _
  rw [if_pos h]
theorem cn_0 {P : Int → Prop} {n : Nat} (h : ¬ P n) : cn P (n + 1) = cn P n := by
  show cn P n + @ite _ (P n) (Classical.propDecidable _) 1 0 = _
  rw [if_neg h, Int.add_zero]
theorem cn_c {P R : Int → Prop} {n : Nat} (h : ∀ k : Int, 0 ≤ k → k < n → (P k ↔ R k)) : cn P n = cn R n := by
  induction n with
  | zero => rfl
  | succ n ih =>
    have e := ih (fun k a b => h k a (by omega))
    have q := h n (by omega) (by omega)
    by_cases c : P n
    · rw [cn_1 c, cn_1 (q.mp c), e]
    · rw [cn_0 c, cn_0 (fun z => c (q.mpr z)), e]
theorem cn_skip {P : Int → Prop} (a n : Nat) (h : ∀ k : Int, a ≤ k → k < a + n → ¬ P k) : cn P (a + n) = cn P a := by
  induction n with
  | zero => rfl
  | succ n ih =>
    rw [show a + (n + 1) = (a + n) + 1 by omega, cn_0 (h _ (by omega) (by omega))]
    exact ih (fun k x y => h k x (by omega))
/-- the best of the numbers below pos, and the first that has it -/
def HB (T : St) (pos best : Int) (bv : Int → Int) : Prop := (best = 100000 ∧ ∀ k, 0 ≤ k → k < pos → okk T k → 50000 ≤ tt T k) ∨ (∃ k0, 0 ≤ k0 ∧ k0 < pos ∧ okk T k0 ∧ tt T k0 = best ∧ best < 50000 ∧ (∀ j, 0 ≤ j → j < 6 → bv j = dg k0 j) ∧ (∀ k, 0 ≤ k → k < pos → okk T k → best ≤ tt T k) ∧ (∀ k, 0 ≤ k → k < k0 → okk T k → best < tt T k))
def HA (T : St) (sh bd pos : Int) : Prop := (sh = 1 → HB T pos (T 14 0) (T 15)) ∧ (sh = 0 → T 13 0 = cn (fun k => okk T k ∧ tt T k ≤ bd) pos.toNat)
def lim (sh bd b : Int) : Int := if sh = 1 ∧ b ≤ bd then b - 1 else bd
theorem lim_o (sh bd b : Int) : (sh = 1 ∧ b ≤ bd ∧ lim sh bd b = b - 1) ∨ ((sh ≠ 1 ∨ bd < b) ∧ lim sh bd b = bd) := by
  unfold lim
  split <;> omega
theorem HA_skip {T : St} {sh bd a b : Int} (hb1 : sh = 1 → bd = 49999) (hb2 : bd ≤ 49999) (h0 : 0 ≤ a) (hab : a ≤ b) (H : HA T sh bd a) (h : ∀ k, a ≤ k → k < b → okk T k → 50000 ≤ tt T k ∨ lim sh bd (T 14 0) < tt T k) : HA T sh bd b := by
  have lo := lim_o sh bd (T 14 0)
  refine ⟨fun e => ?_, fun e => ?_⟩
  · have hb := hb1 e
    rcases H.1 e with ⟨q1, q2⟩ | ⟨k0, q1, q2, q3, q4, q5, q6, q7, q8⟩
    · refine Or.inl ⟨q1, fun k x y z => ?_⟩
      by_cases c : k < a
      · exact q2 k x c z
      · have := h k (by omega) y z
        omega
    · refine Or.inr ⟨k0, q1, by omega, q3, q4, q5, q6, fun k x y z => ?_, q8⟩
      by_cases c : k < a
      · exact q7 k x c z
      · have := h k (by omega) y z
        omega
  · rw [H.2 e]
    have q := cn_skip (P := fun k => okk T k ∧ tt T k ≤ bd) a.toNat (b - a).toNat (fun k x y z => by
      have := h k (by omega) (by omega) z.1
      have := z.2
      omega)
    rw [show a.toNat + (b - a).toNat = b.toNat by omega] at q
    exact q.symm
theorem okk_c {T U : St} (h : U 9 = T 9) (k : Int) : okk U k ↔ okk T k := by
  unfold okk
  rw [h]
theorem tt_c {T U : St} (h : ∀ k, k ≤ 4 → U k = T k) (k : Int) : tt U k = tt T k := tO_c h _
theorem HB_c {T U : St} (h : ∀ k, k ≤ 4 → U k = T k) (h9 : U 9 = T 9) {pos best : Int} {bv : Int → Int} (H : HB T pos best bv) : HB U pos best bv := by
  rcases H with ⟨q1, q2⟩ | ⟨k0, q1, q2, q3, q4, q5, q6, q7, q8⟩
  · exact Or.inl ⟨q1, fun k x y z => by rw [tt_c h]; exact q2 k x y ((okk_c h9 k).mp z)⟩
  · exact Or.inr ⟨k0, q1, q2, (okk_c h9 k0).mpr q3, by rw [tt_c h]; exact q4, q5, q6, fun k x y z => by rw [tt_c h]; exact q7 k x y ((okk_c h9 k).mp z), fun k x y z => by rw [tt_c h]; exact q8 k x y ((okk_c h9 k).mp z)⟩
theorem HA_c {T U : St} (h : ∀ k, k ≤ 4 → U k = T k) (h9 : U 9 = T 9) (h13 : U 13 = T 13) (h14 : U 14 = T 14) (h15 : U 15 = T 15) {sh bd pos : Int} (H : HA T sh bd pos) : HA U sh bd pos := by
  refine ⟨fun e => ?_, fun e => ?_⟩
  · rw [h14, h15]
    exact HB_c h h9 (H.1 e)
  · rw [h13, H.2 e]
    exact cn_c (fun k _ _ => by rw [okk_c h9, tt_c h])
theorem HA_take {T U : St} {sh bd a c : Int} (hb1 : sh = 1 → bd = 49999) (hb2 : bd ≤ 49999) (h0 : 0 ≤ a) (H : HA T sh bd a) (ok : okk T a) (e : tt T a = c) (hc : c < 50000) (hl : c ≤ lim sh bd (T 14 0)) (tk : tkP T U c) (dq : ∀ j, 0 ≤ j → j < 6 → T 10 j = dg a j) : HA U sh bd (a + 1) := by
  obtain ⟨t1, t2, t3⟩ := tk
  have u4 : ∀ k, k ≤ 4 → U k = T k := fun k hk => t2 k (by omega) (by omega) (by omega)
  have u9 : U 9 = T 9 := t2 9 (by decide) (by decide) (by decide)
  have lo := lim_o sh bd (T 14 0)
  refine ⟨fun s1 => ?_, fun s0 => ?_⟩
  · have hb := hb1 s1
    have hB := H.1 s1
    have lt : c < T 14 0 := by
      rcases hB with ⟨q1, -⟩ | ⟨k0, -, -, -, -, q5, -⟩
      · omega
      · omega
    rcases t3 with ⟨-, w1, w2⟩ | ⟨w0, -⟩
    · refine HB_c (T := T) u4 u9 (Or.inr ⟨a, h0, by omega, ok, by rw [e, w1], by omega, fun j x y => by rw [w2 j x y, dq j x y], fun k x y z => ?_, fun k x y z => ?_⟩)
      · by_cases c2 : k < a
        · rcases hB with ⟨q1, q2⟩ | ⟨k0, -, -, -, -, q5, -, q7, -⟩
          · have := q2 k x c2 z
            omega
          · have := q7 k x c2 z
            omega
        · obtain rfl : k = a := by omega
          omega
      · rcases hB with ⟨q1, q2⟩ | ⟨k0, -, -, -, -, q5, -, q7, -⟩
        · have := q2 k x y z
          omega
        · have := q7 k x y z
          omega
    · omega
  · rw [t1, H.2 s0, show (a + 1).toNat = a.toNat + 1 by omega]
    have q := cn_1 (P := fun k => okk U k ∧ tt U k ≤ bd) (n := a.toNat) (by
      show okk U (a.toNat : Int) ∧ tt U (a.toNat : Int) ≤ bd
      rw [Int.toNat_of_nonneg h0, okk_c u9, tt_c u4]
      exact ⟨ok, by omega⟩)
    rw [q, cn_c (P := fun k => okk U k ∧ tt U k ≤ bd) (R := fun k => okk T k ∧ tt T k ≤ bd) (fun k _ _ => by rw [okk_c u9, tt_c u4])]
end
section
set_option maxRecDepth 100000
/-! where the search stands, and how many steps it has at most -/
def qd (T : St) (L j : Int) : Int := if j < L then T 10 j else if j = L then T 12 j else 0
def ps (T : St) (L : Int) : Int := if L < 0 then 729 else qd T L 0 * 243 + qd T L 1 * 81 + qd T L 2 * 27 + qd T L 3 * 9 + qd T L 4 * 3 + qd T L 5
def rd (T : St) (L j w : Int) : Int := if j ≤ L then (3 - T 12 j) * w + 1 else 0
def ph (T : St) (L : Int) : Int := rd T L 0 485 + rd T L 1 161 + rd T L 2 53 + rd T L 3 17 + rd T L 4 5 + rd T L 5 1
theorem ps_m (T : St) : ps T (-1) = 729 := rfl
theorem ph_m (T : St) : ph T (-1) = 0 := rfl
theorem ps_0 (T : St) : ps T 0 = T 12 0 * 243 := by
  simp [ps, qd]
theorem ph_0 (T : St) : ph T 0 = ((3 - T 12 0) * 485 + 1) := by
  simp [ph, rd]
theorem ps_1 (T : St) : ps T 1 = T 10 0 * 243 + T 12 1 * 81 := by
  simp [ps, qd]
theorem ph_1 (T : St) : ph T 1 = ((3 - T 12 0) * 485 + 1) + ((3 - T 12 1) * 161 + 1) := by
  simp [ph, rd]
theorem ps_2 (T : St) : ps T 2 = T 10 0 * 243 + T 10 1 * 81 + T 12 2 * 27 := by
  simp [ps, qd]
theorem ph_2 (T : St) : ph T 2 = ((3 - T 12 0) * 485 + 1) + ((3 - T 12 1) * 161 + 1) + ((3 - T 12 2) * 53 + 1) := by
  simp [ph, rd]
theorem ps_3 (T : St) : ps T 3 = T 10 0 * 243 + T 10 1 * 81 + T 10 2 * 27 + T 12 3 * 9 := by
  simp [ps, qd]
theorem ph_3 (T : St) : ph T 3 = ((3 - T 12 0) * 485 + 1) + ((3 - T 12 1) * 161 + 1) + ((3 - T 12 2) * 53 + 1) + ((3 - T 12 3) * 17 + 1) := by
  simp [ph, rd]
theorem ps_4 (T : St) : ps T 4 = T 10 0 * 243 + T 10 1 * 81 + T 10 2 * 27 + T 10 3 * 9 + T 12 4 * 3 := by
  simp [ps, qd]
theorem ph_4 (T : St) : ph T 4 = ((3 - T 12 0) * 485 + 1) + ((3 - T 12 1) * 161 + 1) + ((3 - T 12 2) * 53 + 1) + ((3 - T 12 3) * 17 + 1) + ((3 - T 12 4) * 5 + 1) := by
  simp [ph, rd]
theorem ps_5 (T : St) : ps T 5 = T 10 0 * 243 + T 10 1 * 81 + T 10 2 * 27 + T 10 3 * 9 + T 10 4 * 3 + T 12 5 * 1 := by
  simp [ps, qd]
theorem ph_5 (T : St) : ph T 5 = ((3 - T 12 0) * 485 + 1) + ((3 - T 12 1) * 161 + 1) + ((3 - T 12 2) * 53 + 1) + ((3 - T 12 3) * 17 + 1) + ((3 - T 12 4) * 5 + 1) + ((3 - T 12 5) * 1 + 1) := by
  simp [ph, rd]
theorem db_0 {a0 k : Int} (hk0 : 0 ≤ k) (hk1 : k < 729) (ha0 : 0 ≤ a0 ∧ a0 ≤ 2) (h1 : a0 * 243 ≤ k) (h2 : k < a0 * 243 + 243) : dg k 0 = a0 := by
  have hs := dg_sum hk0 hk1
  have b0 := dg_b k 0
  have b1 := dg_b k 1
  have b2 := dg_b k 2
  have b3 := dg_b k 3
  have b4 := dg_b k 4
  have b5 := dg_b k 5
  generalize dg k 0 = d0 at *
  generalize dg k 1 = d1 at *
  generalize dg k 2 = d2 at *
  generalize dg k 3 = d3 at *
  generalize dg k 4 = d4 at *
  generalize dg k 5 = d5 at *
  have e0 : d0 = a0 := by omega
  exact e0
theorem db_1 {a0 a1 k : Int} (hk0 : 0 ≤ k) (hk1 : k < 729) (ha0 : 0 ≤ a0 ∧ a0 ≤ 2) (ha1 : 0 ≤ a1 ∧ a1 ≤ 2) (h1 : a0 * 243 + a1 * 81 ≤ k) (h2 : k < a0 * 243 + a1 * 81 + 81) : dg k 0 = a0 ∧ dg k 1 = a1 := by
  have hs := dg_sum hk0 hk1
  have b0 := dg_b k 0
  have b1 := dg_b k 1
  have b2 := dg_b k 2
  have b3 := dg_b k 3
  have b4 := dg_b k 4
  have b5 := dg_b k 5
  generalize dg k 0 = d0 at *
  generalize dg k 1 = d1 at *
  generalize dg k 2 = d2 at *
  generalize dg k 3 = d3 at *
  generalize dg k 4 = d4 at *
  generalize dg k 5 = d5 at *
  have e0 : d0 = a0 := by omega
  have e1 : d1 = a1 := by omega
  exact ⟨e0, e1⟩
theorem db_2 {a0 a1 a2 k : Int} (hk0 : 0 ≤ k) (hk1 : k < 729) (ha0 : 0 ≤ a0 ∧ a0 ≤ 2) (ha1 : 0 ≤ a1 ∧ a1 ≤ 2) (ha2 : 0 ≤ a2 ∧ a2 ≤ 2) (h1 : a0 * 243 + a1 * 81 + a2 * 27 ≤ k) (h2 : k < a0 * 243 + a1 * 81 + a2 * 27 + 27) : dg k 0 = a0 ∧ dg k 1 = a1 ∧ dg k 2 = a2 := by
  have hs := dg_sum hk0 hk1
  have b0 := dg_b k 0
  have b1 := dg_b k 1
  have b2 := dg_b k 2
  have b3 := dg_b k 3
  have b4 := dg_b k 4
  have b5 := dg_b k 5
  generalize dg k 0 = d0 at *
  generalize dg k 1 = d1 at *
  generalize dg k 2 = d2 at *
  generalize dg k 3 = d3 at *
  generalize dg k 4 = d4 at *
  generalize dg k 5 = d5 at *
  have e0 : d0 = a0 := by omega
  have e1 : d1 = a1 := by omega
  have e2 : d2 = a2 := by omega
  exact ⟨e0, e1, e2⟩
theorem db_3 {a0 a1 a2 a3 k : Int} (hk0 : 0 ≤ k) (hk1 : k < 729) (ha0 : 0 ≤ a0 ∧ a0 ≤ 2) (ha1 : 0 ≤ a1 ∧ a1 ≤ 2) (ha2 : 0 ≤ a2 ∧ a2 ≤ 2) (ha3 : 0 ≤ a3 ∧ a3 ≤ 2) (h1 : a0 * 243 + a1 * 81 + a2 * 27 + a3 * 9 ≤ k) (h2 : k < a0 * 243 + a1 * 81 + a2 * 27 + a3 * 9 + 9) : dg k 0 = a0 ∧ dg k 1 = a1 ∧ dg k 2 = a2 ∧ dg k 3 = a3 := by
  have hs := dg_sum hk0 hk1
  have b0 := dg_b k 0
  have b1 := dg_b k 1
  have b2 := dg_b k 2
  have b3 := dg_b k 3
  have b4 := dg_b k 4
  have b5 := dg_b k 5
  generalize dg k 0 = d0 at *
  generalize dg k 1 = d1 at *
  generalize dg k 2 = d2 at *
  generalize dg k 3 = d3 at *
  generalize dg k 4 = d4 at *
  generalize dg k 5 = d5 at *
  have e0 : d0 = a0 := by omega
  have e1 : d1 = a1 := by omega
  have e2 : d2 = a2 := by omega
  have e3 : d3 = a3 := by omega
  exact ⟨e0, e1, e2, e3⟩
theorem db_4 {a0 a1 a2 a3 a4 k : Int} (hk0 : 0 ≤ k) (hk1 : k < 729) (ha0 : 0 ≤ a0 ∧ a0 ≤ 2) (ha1 : 0 ≤ a1 ∧ a1 ≤ 2) (ha2 : 0 ≤ a2 ∧ a2 ≤ 2) (ha3 : 0 ≤ a3 ∧ a3 ≤ 2) (ha4 : 0 ≤ a4 ∧ a4 ≤ 2) (h1 : a0 * 243 + a1 * 81 + a2 * 27 + a3 * 9 + a4 * 3 ≤ k) (h2 : k < a0 * 243 + a1 * 81 + a2 * 27 + a3 * 9 + a4 * 3 + 3) : dg k 0 = a0 ∧ dg k 1 = a1 ∧ dg k 2 = a2 ∧ dg k 3 = a3 ∧ dg k 4 = a4 := by
  have hs := dg_sum hk0 hk1
  have b0 := dg_b k 0
  have b1 := dg_b k 1
  have b2 := dg_b k 2
  have b3 := dg_b k 3
  have b4 := dg_b k 4
  have b5 := dg_b k 5
  generalize dg k 0 = d0 at *
  generalize dg k 1 = d1 at *
  generalize dg k 2 = d2 at *
  generalize dg k 3 = d3 at *
  generalize dg k 4 = d4 at *
  generalize dg k 5 = d5 at *
  have e0 : d0 = a0 := by omega
  have e1 : d1 = a1 := by omega
  have e2 : d2 = a2 := by omega
  have e3 : d3 = a3 := by omega
  have e4 : d4 = a4 := by omega
  exact ⟨e0, e1, e2, e3, e4⟩
theorem db_5 {a0 a1 a2 a3 a4 a5 k : Int} (hk0 : 0 ≤ k) (hk1 : k < 729) (ha0 : 0 ≤ a0 ∧ a0 ≤ 2) (ha1 : 0 ≤ a1 ∧ a1 ≤ 2) (ha2 : 0 ≤ a2 ∧ a2 ≤ 2) (ha3 : 0 ≤ a3 ∧ a3 ≤ 2) (ha4 : 0 ≤ a4 ∧ a4 ≤ 2) (ha5 : 0 ≤ a5 ∧ a5 ≤ 2) (h1 : a0 * 243 + a1 * 81 + a2 * 27 + a3 * 9 + a4 * 3 + a5 * 1 ≤ k) (h2 : k < a0 * 243 + a1 * 81 + a2 * 27 + a3 * 9 + a4 * 3 + a5 * 1 + 1) : dg k 0 = a0 ∧ dg k 1 = a1 ∧ dg k 2 = a2 ∧ dg k 3 = a3 ∧ dg k 4 = a4 ∧ dg k 5 = a5 := by
  have hs := dg_sum hk0 hk1
  have b0 := dg_b k 0
  have b1 := dg_b k 1
  have b2 := dg_b k 2
  have b3 := dg_b k 3
  have b4 := dg_b k 4
  have b5 := dg_b k 5
  generalize dg k 0 = d0 at *
  generalize dg k 1 = d1 at *
  generalize dg k 2 = d2 at *
  generalize dg k 3 = d3 at *
  generalize dg k 4 = d4 at *
  generalize dg k 5 = d5 at *
  have e0 : d0 = a0 := by omega
  have e1 : d1 = a1 := by omega
  have e2 : d2 = a2 := by omega
  have e3 : d3 = a3 := by omega
  have e4 : d4 = a4 := by omega
  have e5 : d5 = a5 := by omega
  exact ⟨e0, e1, e2, e3, e4, e5⟩
theorem se_0 { x f k : Int}  (hx : (0 ≤ f ∧ x = f + 1) ∨ (f < 0 ∧ x = 3)) (h1 : 0 + x * 243 ≤ k) (h2 : k < 729) (z : f < 0 ∨ f = dg k 0) : False := by
  rcases hx with ⟨g1, g2⟩ | ⟨g1, g2⟩
  · have zf : f = dg k 0 := by omega
    have hs := dg_sum (k := k) (by omega) (by omega)
    have b0 := dg_b k 0
    have b1 := dg_b k 1
    have b2 := dg_b k 2
    have b3 := dg_b k 3
    have b4 := dg_b k 4
    have b5 := dg_b k 5
    clear z
    omega
  · clear z
    omega
theorem se_1 {a0 x f k : Int} (ha0 : 0 ≤ a0 ∧ a0 ≤ 2) (hx : (0 ≤ f ∧ x = f + 1) ∨ (f < 0 ∧ x = 3)) (h1 : a0 * 243 + x * 81 ≤ k) (h2 : k < a0 * 243 + 243) (z : f < 0 ∨ f = dg k 1) : False := by
  rcases hx with ⟨g1, g2⟩ | ⟨g1, g2⟩
  · have zf : f = dg k 1 := by omega
    have e := db_0 (k := k) (by omega) (by omega) ha0 (by omega) (by omega)
    have hs := dg_sum (k := k) (by omega) (by omega)
    have b0 := dg_b k 0
    have b1 := dg_b k 1
    have b2 := dg_b k 2
    have b3 := dg_b k 3
    have b4 := dg_b k 4
    have b5 := dg_b k 5
    clear z
    omega
  · clear z
    omega
theorem se_2 {a0 a1 x f k : Int} (ha0 : 0 ≤ a0 ∧ a0 ≤ 2) (ha1 : 0 ≤ a1 ∧ a1 ≤ 2) (hx : (0 ≤ f ∧ x = f + 1) ∨ (f < 0 ∧ x = 3)) (h1 : a0 * 243 + a1 * 81 + x * 27 ≤ k) (h2 : k < a0 * 243 + a1 * 81 + 81) (z : f < 0 ∨ f = dg k 2) : False := by
  rcases hx with ⟨g1, g2⟩ | ⟨g1, g2⟩
  · have zf : f = dg k 2 := by omega
    have e := db_1 (k := k) (by omega) (by omega) ha0 ha1 (by omega) (by omega)
    have hs := dg_sum (k := k) (by omega) (by omega)
    have b0 := dg_b k 0
    have b1 := dg_b k 1
    have b2 := dg_b k 2
    have b3 := dg_b k 3
    have b4 := dg_b k 4
    have b5 := dg_b k 5
    clear z
    omega
  · clear z
    omega
theorem se_3 {a0 a1 a2 x f k : Int} (ha0 : 0 ≤ a0 ∧ a0 ≤ 2) (ha1 : 0 ≤ a1 ∧ a1 ≤ 2) (ha2 : 0 ≤ a2 ∧ a2 ≤ 2) (hx : (0 ≤ f ∧ x = f + 1) ∨ (f < 0 ∧ x = 3)) (h1 : a0 * 243 + a1 * 81 + a2 * 27 + x * 9 ≤ k) (h2 : k < a0 * 243 + a1 * 81 + a2 * 27 + 27) (z : f < 0 ∨ f = dg k 3) : False := by
  rcases hx with ⟨g1, g2⟩ | ⟨g1, g2⟩
  · have zf : f = dg k 3 := by omega
    have e := db_2 (k := k) (by omega) (by omega) ha0 ha1 ha2 (by omega) (by omega)
    have hs := dg_sum (k := k) (by omega) (by omega)
    have b0 := dg_b k 0
    have b1 := dg_b k 1
    have b2 := dg_b k 2
    have b3 := dg_b k 3
    have b4 := dg_b k 4
    have b5 := dg_b k 5
    clear z
    omega
  · clear z
    omega
theorem se_4 {a0 a1 a2 a3 x f k : Int} (ha0 : 0 ≤ a0 ∧ a0 ≤ 2) (ha1 : 0 ≤ a1 ∧ a1 ≤ 2) (ha2 : 0 ≤ a2 ∧ a2 ≤ 2) (ha3 : 0 ≤ a3 ∧ a3 ≤ 2) (hx : (0 ≤ f ∧ x = f + 1) ∨ (f < 0 ∧ x = 3)) (h1 : a0 * 243 + a1 * 81 + a2 * 27 + a3 * 9 + x * 3 ≤ k) (h2 : k < a0 * 243 + a1 * 81 + a2 * 27 + a3 * 9 + 9) (z : f < 0 ∨ f = dg k 4) : False := by
  rcases hx with ⟨g1, g2⟩ | ⟨g1, g2⟩
  · have zf : f = dg k 4 := by omega
    have e := db_3 (k := k) (by omega) (by omega) ha0 ha1 ha2 ha3 (by omega) (by omega)
    have hs := dg_sum (k := k) (by omega) (by omega)
    have b0 := dg_b k 0
    have b1 := dg_b k 1
    have b2 := dg_b k 2
    have b3 := dg_b k 3
    have b4 := dg_b k 4
    have b5 := dg_b k 5
    clear z
    omega
  · clear z
    omega
theorem se_5 {a0 a1 a2 a3 a4 x f k : Int} (ha0 : 0 ≤ a0 ∧ a0 ≤ 2) (ha1 : 0 ≤ a1 ∧ a1 ≤ 2) (ha2 : 0 ≤ a2 ∧ a2 ≤ 2) (ha3 : 0 ≤ a3 ∧ a3 ≤ 2) (ha4 : 0 ≤ a4 ∧ a4 ≤ 2) (hx : (0 ≤ f ∧ x = f + 1) ∨ (f < 0 ∧ x = 3)) (h1 : a0 * 243 + a1 * 81 + a2 * 27 + a3 * 9 + a4 * 3 + x * 1 ≤ k) (h2 : k < a0 * 243 + a1 * 81 + a2 * 27 + a3 * 9 + a4 * 3 + 3) (z : f < 0 ∨ f = dg k 5) : False := by
  rcases hx with ⟨g1, g2⟩ | ⟨g1, g2⟩
  · have zf : f = dg k 5 := by omega
    have e := db_4 (k := k) (by omega) (by omega) ha0 ha1 ha2 ha3 ha4 (by omega) (by omega)
    have hs := dg_sum (k := k) (by omega) (by omega)
    have b0 := dg_b k 0
    have b1 := dg_b k 1
    have b2 := dg_b k 2
    have b3 := dg_b k 3
    have b4 := dg_b k 4
    have b5 := dg_b k 5
    clear z
    omega
  · clear z
    omega
theorem so_0 {a0 y f k : Int} (ha0 : 0 ≤ a0 ∧ a0 ≤ 2) (hf : f ≤ 2) (hx : (0 ≤ f ∧ y = f) ∨ (f < 0 ∧ y = 0)) (h1 : a0 * 243 ≤ k) (h2 : k < a0 * 243 + y * 81) (z : f < 0 ∨ f = dg k 1) : False := by
  rcases hx with ⟨g1, g2⟩ | ⟨g1, g2⟩
  · have zf : f = dg k 1 := by omega
    have e := db_0 (k := k) (by omega) (by omega) ha0 (by omega) (by omega)
    have hs := dg_sum (k := k) (by omega) (by omega)
    have b0 := dg_b k 0
    have b1 := dg_b k 1
    have b2 := dg_b k 2
    have b3 := dg_b k 3
    have b4 := dg_b k 4
    have b5 := dg_b k 5
    clear z
    omega
  · clear z
    omega
theorem so_1 {a0 a1 y f k : Int} (ha0 : 0 ≤ a0 ∧ a0 ≤ 2) (ha1 : 0 ≤ a1 ∧ a1 ≤ 2) (hf : f ≤ 2) (hx : (0 ≤ f ∧ y = f) ∨ (f < 0 ∧ y = 0)) (h1 : a0 * 243 + a1 * 81 ≤ k) (h2 : k < a0 * 243 + a1 * 81 + y * 27) (z : f < 0 ∨ f = dg k 2) : False := by
  rcases hx with ⟨g1, g2⟩ | ⟨g1, g2⟩
  · have zf : f = dg k 2 := by omega
    have e := db_1 (k := k) (by omega) (by omega) ha0 ha1 (by omega) (by omega)
    have hs := dg_sum (k := k) (by omega) (by omega)
    have b0 := dg_b k 0
    have b1 := dg_b k 1
    have b2 := dg_b k 2
    have b3 := dg_b k 3
    have b4 := dg_b k 4
    have b5 := dg_b k 5
    clear z
    omega
  · clear z
    omega
theorem so_2 {a0 a1 a2 y f k : Int} (ha0 : 0 ≤ a0 ∧ a0 ≤ 2) (ha1 : 0 ≤ a1 ∧ a1 ≤ 2) (ha2 : 0 ≤ a2 ∧ a2 ≤ 2) (hf : f ≤ 2) (hx : (0 ≤ f ∧ y = f) ∨ (f < 0 ∧ y = 0)) (h1 : a0 * 243 + a1 * 81 + a2 * 27 ≤ k) (h2 : k < a0 * 243 + a1 * 81 + a2 * 27 + y * 9) (z : f < 0 ∨ f = dg k 3) : False := by
  rcases hx with ⟨g1, g2⟩ | ⟨g1, g2⟩
  · have zf : f = dg k 3 := by omega
    have e := db_2 (k := k) (by omega) (by omega) ha0 ha1 ha2 (by omega) (by omega)
    have hs := dg_sum (k := k) (by omega) (by omega)
    have b0 := dg_b k 0
    have b1 := dg_b k 1
    have b2 := dg_b k 2
    have b3 := dg_b k 3
    have b4 := dg_b k 4
    have b5 := dg_b k 5
    clear z
    omega
  · clear z
    omega
theorem so_3 {a0 a1 a2 a3 y f k : Int} (ha0 : 0 ≤ a0 ∧ a0 ≤ 2) (ha1 : 0 ≤ a1 ∧ a1 ≤ 2) (ha2 : 0 ≤ a2 ∧ a2 ≤ 2) (ha3 : 0 ≤ a3 ∧ a3 ≤ 2) (hf : f ≤ 2) (hx : (0 ≤ f ∧ y = f) ∨ (f < 0 ∧ y = 0)) (h1 : a0 * 243 + a1 * 81 + a2 * 27 + a3 * 9 ≤ k) (h2 : k < a0 * 243 + a1 * 81 + a2 * 27 + a3 * 9 + y * 3) (z : f < 0 ∨ f = dg k 4) : False := by
  rcases hx with ⟨g1, g2⟩ | ⟨g1, g2⟩
  · have zf : f = dg k 4 := by omega
    have e := db_3 (k := k) (by omega) (by omega) ha0 ha1 ha2 ha3 (by omega) (by omega)
    have hs := dg_sum (k := k) (by omega) (by omega)
    have b0 := dg_b k 0
    have b1 := dg_b k 1
    have b2 := dg_b k 2
    have b3 := dg_b k 3
    have b4 := dg_b k 4
    have b5 := dg_b k 5
    clear z
    omega
  · clear z
    omega
theorem so_4 {a0 a1 a2 a3 a4 y f k : Int} (ha0 : 0 ≤ a0 ∧ a0 ≤ 2) (ha1 : 0 ≤ a1 ∧ a1 ≤ 2) (ha2 : 0 ≤ a2 ∧ a2 ≤ 2) (ha3 : 0 ≤ a3 ∧ a3 ≤ 2) (ha4 : 0 ≤ a4 ∧ a4 ≤ 2) (hf : f ≤ 2) (hx : (0 ≤ f ∧ y = f) ∨ (f < 0 ∧ y = 0)) (h1 : a0 * 243 + a1 * 81 + a2 * 27 + a3 * 9 + a4 * 3 ≤ k) (h2 : k < a0 * 243 + a1 * 81 + a2 * 27 + a3 * 9 + a4 * 3 + y * 1) (z : f < 0 ∨ f = dg k 5) : False := by
  rcases hx with ⟨g1, g2⟩ | ⟨g1, g2⟩
  · have zf : f = dg k 5 := by omega
    have e := db_4 (k := k) (by omega) (by omega) ha0 ha1 ha2 ha3 ha4 (by omega) (by omega)
    have hs := dg_sum (k := k) (by omega) (by omega)
    have b0 := dg_b k 0
    have b1 := dg_b k 1
    have b2 := dg_b k 2
    have b3 := dg_b k 3
    have b4 := dg_b k 4
    have b5 := dg_b k 5
    clear z
    omega
  · clear z
    omega
end
section
set_option maxRecDepth 100000
/-- the search at level L: the invariant of its loop -/
def sI (T : St) (sh bd L : Int) : Prop := nOK T ∧ mOK T ∧ (∀ g, vl g → tM T g = tO T g) ∧ (∀ j, 0 ≤ j → j ≤ 5 → -1 ≤ T 9 j ∧ T 9 j ≤ 2) ∧ b0 (T 14 0) ∧ (-1 ≤ L ∧ L ≤ 5) ∧ (∀ j, 0 ≤ j → j < L → (0 ≤ T 10 j ∧ T 10 j ≤ 2) ∧ T 12 j = T 10 j + 1 ∧ (T 9 j < 0 ∨ T 9 j = T 10 j)) ∧ (∀ j, 0 ≤ j → j ≤ L → (0 ≤ T 11 j ∧ T 11 j ≤ 100000) ∧ cp (T 11 j) = cp (qt T (T 10) j j)) ∧ (0 ≤ L → (0 ≤ T 12 L ∧ T 12 L ≤ 3) ∧ (0 ≤ T 9 L → T 9 L ≤ T 12 L ∧ T 12 L ≤ T 9 L + 1)) ∧ HA T sh bd (ps T L)
def lst (T : St) (L : Int) : Int := if 0 ≤ T 9 L then T 9 L else 2
theorem lst_o (T : St) (L : Int) : (0 ≤ T 9 L ∧ lst T L = T 9 L) ∨ (T 9 L < 0 ∧ lst T L = 2) := by
  unfold lst
  split <;> omega
theorem L6 {L : Int} (h : 0 ≤ L ∧ L ≤ 5) : L = 0 ∨ L = 1 ∨ L = 2 ∨ L = 3 ∨ L = 4 ∨ L = 5 := by omega

set_option maxHeartbeats 8000000 in
theorem s_exit {T : St} {sh bd L : Int} (hb1 : sh = 1 → bd = 49999) (hb2 : bd ≤ 49999) (hI : sI T sh bd L) (h0 : 0 ≤ L) (hx : lst T L < T 12 L) : sI T sh bd (L - 1) ∧ ph T (L - 1) + 1 ≤ ph T L := by
  obtain ⟨hn, hm, ht, h9, h14, hL, h10, h11, h12, hA⟩ := id hI
  have lo := lst_o T L
  have f12 := h12 h0
  have f9 := h9 L h0 hL.2
  have key : (0 ≤ ps T L ∧ ps T L ≤ ps T (L - 1)) ∧ (∀ k, ps T L ≤ k → k < ps T (L - 1) → okk T k → False) ∧ ph T (L - 1) + 1 ≤ ph T L := by
    rcases L6 ⟨h0, hL.2⟩ with rfl | rfl | rfl | rfl | rfl | rfl
    · rw [ps_0, ph_0, show ps T (0 - 1) = 729 from rfl, show ph T (0 - 1) = 0 from rfl]
      have lo2 : (0 ≤ T 9 0 ∧ T 12 0 = T 9 0 + 1) ∨ (T 9 0 < 0 ∧ T 12 0 = 3) := by omega
      have f2 := f12.1
      clear f12 lo hx f9
      refine ⟨by omega, fun k x y z => ?_, by omega⟩
      exact se_0 (k := k)  lo2 (by omega) (by omega) (z 0 (by decide) (by decide))
    · rw [ps_1, ph_1, show ps T (1 - 1) = T 12 0 * 243 from ps_0 T, show ph T (1 - 1) = ((3 - T 12 0) * 485 + 1) from ph_0 T]
      have q0 := (h10 0 (by decide) (by decide)).1
      have r0 := (h10 0 (by decide) (by decide)).2.1
      have lo2 : (0 ≤ T 9 1 ∧ T 12 1 = T 9 1 + 1) ∨ (T 9 1 < 0 ∧ T 12 1 = 3) := by omega
      have f2 := f12.1
      clear f12 lo hx f9
      refine ⟨by omega, fun k x y z => ?_, by omega⟩
      exact se_1 (k := k) q0 lo2 (by omega) (by omega) (z 1 (by decide) (by decide))
    · rw [ps_2, ph_2, show ps T (2 - 1) = T 10 0 * 243 + T 12 1 * 81 from ps_1 T, show ph T (2 - 1) = ((3 - T 12 0) * 485 + 1) + ((3 - T 12 1) * 161 + 1) from ph_1 T]
      have q0 := (h10 0 (by decide) (by decide)).1
      have r0 := (h10 0 (by decide) (by decide)).2.1
      have q1 := (h10 1 (by decide) (by decide)).1
      have r1 := (h10 1 (by decide) (by decide)).2.1
      have lo2 : (0 ≤ T 9 2 ∧ T 12 2 = T 9 2 + 1) ∨ (T 9 2 < 0 ∧ T 12 2 = 3) := by omega
      have f2 := f12.1
      clear f12 lo hx f9
      refine ⟨by omega, fun k x y z => ?_, by omega⟩
      exact se_2 (k := k) q0 q1 lo2 (by omega) (by omega) (z 2 (by decide) (by decide))
    · rw [ps_3, ph_3, show ps T (3 - 1) = T 10 0 * 243 + T 10 1 * 81 + T 12 2 * 27 from ps_2 T, show ph T (3 - 1) = ((3 - T 12 0) * 485 + 1) + ((3 - T 12 1) * 161 + 1) + ((3 - T 12 2) * 53 + 1) from ph_2 T]
      have q0 := (h10 0 (by decide) (by decide)).1
      have r0 := (h10 0 (by decide) (by decide)).2.1
      have q1 := (h10 1 (by decide) (by decide)).1
      have r1 := (h10 1 (by decide) (by decide)).2.1
      have q2 := (h10 2 (by decide) (by decide)).1
      have r2 := (h10 2 (by decide) (by decide)).2.1
      have lo2 : (0 ≤ T 9 3 ∧ T 12 3 = T 9 3 + 1) ∨ (T 9 3 < 0 ∧ T 12 3 = 3) := by omega
      have f2 := f12.1
      clear f12 lo hx f9
      refine ⟨by omega, fun k x y z => ?_, by omega⟩
      exact se_3 (k := k) q0 q1 q2 lo2 (by omega) (by omega) (z 3 (by decide) (by decide))
    · rw [ps_4, ph_4, show ps T (4 - 1) = T 10 0 * 243 + T 10 1 * 81 + T 10 2 * 27 + T 12 3 * 9 from ps_3 T, show ph T (4 - 1) = ((3 - T 12 0) * 485 + 1) + ((3 - T 12 1) * 161 + 1) + ((3 - T 12 2) * 53 + 1) + ((3 - T 12 3) * 17 + 1) from ph_3 T]
      have q0 := (h10 0 (by decide) (by decide)).1
      have r0 := (h10 0 (by decide) (by decide)).2.1
      have q1 := (h10 1 (by decide) (by decide)).1
      have r1 := (h10 1 (by decide) (by decide)).2.1
      have q2 := (h10 2 (by decide) (by decide)).1
      have r2 := (h10 2 (by decide) (by decide)).2.1
      have q3 := (h10 3 (by decide) (by decide)).1
      have r3 := (h10 3 (by decide) (by decide)).2.1
      have lo2 : (0 ≤ T 9 4 ∧ T 12 4 = T 9 4 + 1) ∨ (T 9 4 < 0 ∧ T 12 4 = 3) := by omega
      have f2 := f12.1
      clear f12 lo hx f9
      refine ⟨by omega, fun k x y z => ?_, by omega⟩
      exact se_4 (k := k) q0 q1 q2 q3 lo2 (by omega) (by omega) (z 4 (by decide) (by decide))
    · rw [ps_5, ph_5, show ps T (5 - 1) = T 10 0 * 243 + T 10 1 * 81 + T 10 2 * 27 + T 10 3 * 9 + T 12 4 * 3 from ps_4 T, show ph T (5 - 1) = ((3 - T 12 0) * 485 + 1) + ((3 - T 12 1) * 161 + 1) + ((3 - T 12 2) * 53 + 1) + ((3 - T 12 3) * 17 + 1) + ((3 - T 12 4) * 5 + 1) from ph_4 T]
      have q0 := (h10 0 (by decide) (by decide)).1
      have r0 := (h10 0 (by decide) (by decide)).2.1
      have q1 := (h10 1 (by decide) (by decide)).1
      have r1 := (h10 1 (by decide) (by decide)).2.1
      have q2 := (h10 2 (by decide) (by decide)).1
      have r2 := (h10 2 (by decide) (by decide)).2.1
      have q3 := (h10 3 (by decide) (by decide)).1
      have r3 := (h10 3 (by decide) (by decide)).2.1
      have q4 := (h10 4 (by decide) (by decide)).1
      have r4 := (h10 4 (by decide) (by decide)).2.1
      have lo2 : (0 ≤ T 9 5 ∧ T 12 5 = T 9 5 + 1) ∨ (T 9 5 < 0 ∧ T 12 5 = 3) := by omega
      have f2 := f12.1
      clear f12 lo hx f9
      refine ⟨by omega, fun k x y z => ?_, by omega⟩
      exact se_5 (k := k) q0 q1 q2 q3 q4 lo2 (by omega) (by omega) (z 5 (by decide) (by decide))
  obtain ⟨k1, k2, k3⟩ := key
  refine ⟨⟨hn, hm, ht, h9, h14, by omega, fun j a b => h10 j a (by omega), fun j a b => h11 j a (by omega), fun hL0 => ?_, HA_skip hb1 hb2 k1.1 k1.2 hA (fun k x y z => (k2 k x y z).elim)⟩, k3⟩
  have := h10 (L - 1) hL0 (by omega)
  omega
end
section
set_option maxRecDepth 100000
/-- a value is taken at level L: the state behind the three stores -/
def s3 (T U : St) (L z : Int) : Prop := (∀ k, k ≠ 10 → k ≠ 11 → k ≠ 12 → U k = T k) ∧ (∀ j, U 10 j = if j = L then T 12 L else T 10 j) ∧ (∀ j, U 12 j = if j = L then T 12 L + 1 else T 12 j) ∧ (∀ j, U 11 j = if j = L + 1 then z else T 11 j)
theorem s3_nv {T : St} {sh bd L : Int} (hI : sI T sh bd L) (h0 : 0 ≤ L) (hx : T 12 L ≤ lst T L) : (0 ≤ T 12 L ∧ T 12 L ≤ 2) ∧ (T 9 L < 0 ∨ T 9 L = T 12 L) := by
  obtain ⟨hn, hm, ht, h9, h14, hL, h10, h11, h12, hA⟩ := id hI
  have lo := lst_o T L
  have f12 := h12 h0
  have f9 := h9 L h0 hL.2
  omega
/-- the old facts about the new state -/
theorem s3_f {T U : St} {sh bd L z : Int} (hI : sI T sh bd L) (h0 : 0 ≤ L) (hx : T 12 L ≤ lst T L) (hU : s3 T U L z) (hz : (0 ≤ z ∧ z ≤ 100000) ∧ cp z = cp (qt U (U 10) (L + 1) (L + 1))) :
    nOK U ∧ mOK U ∧ (∀ g, vl g → tM U g = tO U g) ∧ (∀ j, 0 ≤ j → j ≤ 5 → -1 ≤ U 9 j ∧ U 9 j ≤ 2) ∧ b0 (U 14 0) ∧ (∀ j, 0 ≤ j → j ≤ L → (0 ≤ U 10 j ∧ U 10 j ≤ 2) ∧ U 12 j = U 10 j + 1 ∧ (U 9 j < 0 ∨ U 9 j = U 10 j)) ∧ (∀ j, 0 ≤ j → j ≤ L + 1 → (0 ≤ U 11 j ∧ U 11 j ≤ 100000) ∧ cp (U 11 j) = cp (qt U (U 10) j j)) ∧ HA U sh bd (ps T L) := by
  obtain ⟨hn, hm, ht, h9, h14, hL, h10, h11, h12, hA⟩ := id hI
  obtain ⟨u, u10, u12, u11⟩ := hU
  have nv := s3_nv hI h0 hx
  have u8 : ∀ k, k ≤ 8 → U k = T k := fun k hk => u k (by omega) (by omega) (by omega)
  have u9 : U 9 = T 9 := u 9 (by decide) (by decide) (by decide)
  have u14 : U 14 = T 14 := u 14 (by decide) (by decide) (by decide)
  refine ⟨nOK_c (fun k hk => u8 k (by omega)) hn, ?_, fun g vg => ?_, ?_, ?_, fun j a b => ?_, fun j a b => ?_, HA_c (fun k hk => u8 k (by omega)) u9 (u 13 (by decide) (by decide) (by decide)) u14 (u 15 (by decide) (by decide) (by decide)) hA⟩
  · unfold mOK
    rw [u8 6 (by decide), u8 7 (by decide), u8 8 (by decide)]
    exact hm
  · have := ht g vg
    rw [tO_c (fun k hk => u8 k (by omega))]
    rw [← this]
    have hp : pl U g = pl T g := by
      funext i
      unfold pl
      rw [u8 2 (by decide), u8 3 (by decide)]
    unfold tM
    rw [hp, u8 1 (by decide), u8 6 (by decide), u8 7 (by decide), u8 8 (by decide)]
  · rw [u9]; exact h9
  · rw [u14]; exact h14
  · rw [u10, u12, u9]
    by_cases c : j = L
    · subst c
      rw [if_pos rfl, if_pos rfl]
      exact ⟨nv.1, rfl, nv.2⟩
    · rw [if_neg c, if_neg c]
      exact h10 j a (by omega)
  · by_cases c : j = L + 1
    · rw [c, u11, if_pos rfl]
      exact hz
    · rw [u11, if_neg c]
      have q := h11 j a (by omega)
      refine ⟨q.1, ?_⟩
      rw [q.2, qt_T u8]
      rw [qt_c (g := U 10) (g' := T 10) hn (Int.le_refl _) (fun v x y => by rw [u10, if_neg (by omega)])]
set_option maxHeartbeats 8000000 in
theorem s_blk {T U : St} {sh bd L z : Int} (hI : sI T sh bd L) (h0 : 0 ≤ L) (hx : T 12 L ≤ lst T L) (hU : s3 T U L z) (hz : (0 ≤ z ∧ z ≤ 100000) ∧ cp z = cp (qt U (U 10) (L + 1) (L + 1))) :
    (0 ≤ ps T L ∧ ps T L ≤ ps U L ∧ ps U L ≤ 729) ∧ ph U L + 1 ≤ ph T L ∧ (∀ k, ps T L ≤ k → k < ps U L → ∀ j, 0 ≤ j → j ≤ L → dg k j = U 10 j) ∧ (L = 5 → ps U L = ps T L + 1) := by
  obtain ⟨f1, f2, f3, f4, f5, f6, f7, f8⟩ := s3_f hI h0 hx hU hz
  obtain ⟨hn, hm, ht, h9, h14, hL, h10, h11, h12, hA⟩ := id hI
  obtain ⟨u, u10, u12, u11⟩ := hU
  have nv := (s3_nv hI h0 hx).1
  clear f7 f8 hz h9 h11 h12 hx h10
  rcases L6 ⟨h0, hL.2⟩ with rfl | rfl | rfl | rfl | rfl | rfl
  · rw [ps_0, ps_0, ph_0, ph_0]
    have q0 := (f6 0 (by decide) (by decide)).1
    have v0 := u10 0
    have w0 := u12 0
    rw [if_pos rfl] at v0 w0
    refine ⟨by omega, by omega, fun k x y j j0 j1 => ?_, by omega⟩
    have e := db_0 (k := k) (by omega) (by omega) q0 (by omega) (by omega)
    rcases (show j = 0 by omega) with rfl
    · exact e
  · rw [ps_1, ps_1, ph_1, ph_1]
    have q0 := (f6 0 (by decide) (by decide)).1
    have v0 := u10 0
    have w0 := u12 0
    rw [if_neg (by decide)] at v0 w0
    have q1 := (f6 1 (by decide) (by decide)).1
    have v1 := u10 1
    have w1 := u12 1
    rw [if_pos rfl] at v1 w1
    refine ⟨by omega, by omega, fun k x y j j0 j1 => ?_, by omega⟩
    have e := db_1 (k := k) (by omega) (by omega) q0 q1 (by omega) (by omega)
    rcases (show j = 0 ∨ j = 1 by omega) with rfl | rfl
    · exact e.1
    · exact e.2
  · rw [ps_2, ps_2, ph_2, ph_2]
    have q0 := (f6 0 (by decide) (by decide)).1
    have v0 := u10 0
    have w0 := u12 0
    rw [if_neg (by decide)] at v0 w0
    have q1 := (f6 1 (by decide) (by decide)).1
    have v1 := u10 1
    have w1 := u12 1
    rw [if_neg (by decide)] at v1 w1
    have q2 := (f6 2 (by decide) (by decide)).1
    have v2 := u10 2
    have w2 := u12 2
    rw [if_pos rfl] at v2 w2
    refine ⟨by omega, by omega, fun k x y j j0 j1 => ?_, by omega⟩
    have e := db_2 (k := k) (by omega) (by omega) q0 q1 q2 (by omega) (by omega)
    rcases (show j = 0 ∨ j = 1 ∨ j = 2 by omega) with rfl | rfl | rfl
    · exact e.1
    · exact e.2.1
    · exact e.2.2
  · rw [ps_3, ps_3, ph_3, ph_3]
    have q0 := (f6 0 (by decide) (by decide)).1
    have v0 := u10 0
    have w0 := u12 0
    rw [if_neg (by decide)] at v0 w0
    have q1 := (f6 1 (by decide) (by decide)).1
    have v1 := u10 1
    have w1 := u12 1
    rw [if_neg (by decide)] at v1 w1
    have q2 := (f6 2 (by decide) (by decide)).1
    have v2 := u10 2
    have w2 := u12 2
    rw [if_neg (by decide)] at v2 w2
    have q3 := (f6 3 (by decide) (by decide)).1
    have v3 := u10 3
    have w3 := u12 3
    rw [if_pos rfl] at v3 w3
    refine ⟨by omega, by omega, fun k x y j j0 j1 => ?_, by omega⟩
    have e := db_3 (k := k) (by omega) (by omega) q0 q1 q2 q3 (by omega) (by omega)
    rcases (show j = 0 ∨ j = 1 ∨ j = 2 ∨ j = 3 by omega) with rfl | rfl | rfl | rfl
    · exact e.1
    · exact e.2.1
    · exact e.2.2.1
    · exact e.2.2.2
  · rw [ps_4, ps_4, ph_4, ph_4]
    have q0 := (f6 0 (by decide) (by decide)).1
    have v0 := u10 0
    have w0 := u12 0
    rw [if_neg (by decide)] at v0 w0
    have q1 := (f6 1 (by decide) (by decide)).1
    have v1 := u10 1
    have w1 := u12 1
    rw [if_neg (by decide)] at v1 w1
    have q2 := (f6 2 (by decide) (by decide)).1
    have v2 := u10 2
    have w2 := u12 2
    rw [if_neg (by decide)] at v2 w2
    have q3 := (f6 3 (by decide) (by decide)).1
    have v3 := u10 3
    have w3 := u12 3
    rw [if_neg (by decide)] at v3 w3
    have q4 := (f6 4 (by decide) (by decide)).1
    have v4 := u10 4
    have w4 := u12 4
    rw [if_pos rfl] at v4 w4
    refine ⟨by omega, by omega, fun k x y j j0 j1 => ?_, by omega⟩
    have e := db_4 (k := k) (by omega) (by omega) q0 q1 q2 q3 q4 (by omega) (by omega)
    rcases (show j = 0 ∨ j = 1 ∨ j = 2 ∨ j = 3 ∨ j = 4 by omega) with rfl | rfl | rfl | rfl | rfl
    · exact e.1
    · exact e.2.1
    · exact e.2.2.1
    · exact e.2.2.2.1
    · exact e.2.2.2.2
  · rw [ps_5, ps_5, ph_5, ph_5]
    have q0 := (f6 0 (by decide) (by decide)).1
    have v0 := u10 0
    have w0 := u12 0
    rw [if_neg (by decide)] at v0 w0
    have q1 := (f6 1 (by decide) (by decide)).1
    have v1 := u10 1
    have w1 := u12 1
    rw [if_neg (by decide)] at v1 w1
    have q2 := (f6 2 (by decide) (by decide)).1
    have v2 := u10 2
    have w2 := u12 2
    rw [if_neg (by decide)] at v2 w2
    have q3 := (f6 3 (by decide) (by decide)).1
    have v3 := u10 3
    have w3 := u12 3
    rw [if_neg (by decide)] at v3 w3
    have q4 := (f6 4 (by decide) (by decide)).1
    have v4 := u10 4
    have w4 := u12 4
    rw [if_neg (by decide)] at v4 w4
    have q5 := (f6 5 (by decide) (by decide)).1
    have v5 := u10 5
    have w5 := u12 5
    rw [if_pos rfl] at v5 w5
    refine ⟨by omega, by omega, fun k x y j j0 j1 => ?_, by omega⟩
    have e := db_5 (k := k) (by omega) (by omega) q0 q1 q2 q3 q4 q5 (by omega) (by omega)
    rcases (show j = 0 ∨ j = 1 ∨ j = 2 ∨ j = 3 ∨ j = 4 ∨ j = 5 by omega) with rfl | rfl | rfl | rfl | rfl | rfl
    · exact e.1
    · exact e.2.1
    · exact e.2.2.1
    · exact e.2.2.2.1
    · exact e.2.2.2.2.1
    · exact e.2.2.2.2.2
end
section
set_option maxRecDepth 100000
theorem opn_okk {T : St} {k L : Int} (h0 : 0 ≤ L) (h : okk T k) : opn T (dg k) L := fun u a b => h u (by omega) b
/-- outcome 1: the node is given up -/
theorem s_prune {T U : St} {sh bd L z lm : Int} (hb1 : sh = 1 → bd = 49999) (hb2 : bd ≤ 49999) (hI : sI T sh bd L) (h0 : 0 ≤ L) (hx : T 12 L ≤ lst T L) (hU : s3 T U L z) (hz : (0 ≤ z ∧ z ≤ 100000) ∧ cp z = cp (qt U (U 10) (L + 1) (L + 1))) (hl : lm = lim sh bd (T 14 0))
    (h : ∀ g, vl g → (∀ j, 0 ≤ j → j ≤ L → g j = U 10 j) → opn U g (L + 1) → 50000 ≤ tM U g ∨ lm < tM U g) : sI U sh bd L ∧ ph U L + 1 ≤ ph T L := by
  obtain ⟨f1, f2, f3, f4, f5, f6, f7, f8⟩ := s3_f hI h0 hx hU hz
  obtain ⟨k1, k2, k3, k4⟩ := s_blk hI h0 hx hU hz
  have u14 : U 14 = T 14 := hU.1 14 (by decide) (by decide) (by decide)
  refine ⟨⟨f1, f2, f3, f4, f5, hI.2.2.2.2.2.1, fun j a b => f6 j a (by omega), fun j a b => f7 j a (by omega), fun _ => ?_, HA_skip hb1 hb2 k1.1 k1.2.1 f8 (fun k x y ok => ?_)⟩, k2⟩
  · have := f6 L h0 (Int.le_refl _)
    omega
  · rw [u14, ← hl]
    have := h (dg k) (vl_dg k) (k3 k x y) (opn_okk (by omega) ok)
    rw [f3 _ (vl_dg k)] at this
    exact this
/-- outcome 2: a whole assignment is taken -/
theorem s_take {T U V : St} {sh bd z lm : Int} (hb1 : sh = 1 → bd = 49999) (hb2 : bd ≤ 49999) (hI : sI T sh bd 5) (hx : T 12 5 ≤ lst T 5) (hU : s3 T U 5 z) (hz : (0 ≤ z ∧ z ≤ 100000) ∧ cp z = cp (qt U (U 10) (5 + 1) (5 + 1))) (hl : lm = lim sh bd (T 14 0))
    (c1 : U 11 6 < 50000) (c2 : U 11 6 ≤ lm) (tk : tkP U V (U 11 6)) : sI V sh bd 5 ∧ ph V 5 + 1 ≤ ph T 5 := by
  obtain ⟨f1, f2, f3, f4, f5, f6, f7, f8⟩ := s3_f hI (by decide) hx hU hz
  obtain ⟨k1, k2, k3, k4⟩ := s_blk hI (by decide) hx hU hz
  have k5 := k4 rfl
  have u14 : U 14 = T 14 := hU.1 14 (by decide) (by decide) (by decide)
  have t2 := tk.2.1
  have v12 : ∀ k, k ≤ 12 → V k = U k := fun k hk => t2 k (by omega) (by omega) (by omega)
  have dq : ∀ j, 0 ≤ j → j ≤ 5 → dg (ps T 5) j = U 10 j := k3 (ps T 5) (Int.le_refl _) (by omega)
  have ok : okk U (ps T 5) := fun v a b => by
    rw [dq v a b]
    exact (f6 v a b).2.2
  have e6 := f7 6 (by decide) (by decide)
  have et : tt U (ps T 5) = U 11 6 := by
    show tO U (dg (ps T 5)) = _
    rw [← f3 _ (vl_dg _), ← qt_6 f1, qt_c (g' := U 10) f1 (Int.le_refl _) (fun v a b => dq v a (by omega)), ← e6.2]
    have := cp_o (U 11 6)
    omega
  have hA := HA_take hb1 hb2 k1.1 f8 ok et c1 (by rw [u14, ← hl]; exact c2) tk (fun j a b => (dq j a (by omega)).symm)
  have ep : ps V 5 = ps U 5 := by
    rw [ps_5, ps_5, v12 10 (by decide), v12 12 (by decide)]
  have eh : ph V 5 = ph U 5 := by
    rw [ph_5, ph_5, v12 12 (by decide)]
  refine ⟨⟨nOK_c (fun k hk => v12 k (by omega)) f1, ?_, fun g vg => ?_, ?_, ?_, by decide, fun j a b => ?_, fun j a b => ?_, fun _ => ?_, by rw [ep, k5]; exact hA⟩, by rw [eh]; exact k2⟩
  · unfold mOK
    rw [v12 6 (by decide), v12 7 (by decide), v12 8 (by decide)]
    exact f2
  · rw [tO_c (fun k hk => v12 k (by omega)), ← f3 g vg]
    have hp : pl V g = pl U g := by
      funext i
      unfold pl
      rw [v12 2 (by decide), v12 3 (by decide)]
    unfold tM
    rw [hp, v12 1 (by decide), v12 6 (by decide), v12 7 (by decide), v12 8 (by decide)]
  · rw [v12 9 (by decide)]; exact f4
  · rcases tk.2.2 with ⟨-, w1, -⟩ | ⟨-, w1, -⟩
    · rw [w1]; exact e6.1
    · rw [w1]; exact f5
  · rw [v12 9 (by decide), v12 10 (by decide), v12 12 (by decide)]
    exact f6 j a (by omega)
  · rw [v12 11 (by decide), v12 10 (by decide), qt_T (fun k hk => v12 k (by omega))]
    exact f7 j a (by omega)
  · rw [v12 12 (by decide), v12 9 (by decide)]
    have := f6 5 (by decide) (by decide)
    omega
end
section
set_option maxRecDepth 100000
set_option maxHeartbeats 8000000 in
/-- outcome 3: the next level is begun -/
theorem s_open {T U V : St} {sh bd L z : Int} (hb1 : sh = 1 → bd = 49999) (hb2 : bd ≤ 49999) (hI : sI T sh bd L) (h0 : 0 ≤ L) (h5 : L < 5) (hx : T 12 L ≤ lst T L) (hU : s3 T U L z) (hz : (0 ≤ z ∧ z ≤ 100000) ∧ cp z = cp (qt U (U 10) (L + 1) (L + 1)))
    (hV : V = up U 12 (L + 1) (if 0 ≤ U 9 (L + 1) then U 9 (L + 1) else 0)) : sI V sh bd (L + 1) ∧ ph V (L + 1) + 1 ≤ ph T L := by
  obtain ⟨f1, f2, f3, f4, f5, f6, f7, f8⟩ := s3_f hI h0 hx hU hz
  obtain ⟨k1, k2, k3, k4⟩ := s_blk hI h0 hx hU hz
  obtain ⟨y, hy⟩ : ∃ y, y = (if 0 ≤ U 9 (L + 1) then U 9 (L + 1) else 0) := ⟨_, rfl⟩
  rw [← hy] at hV
  have yo : (0 ≤ U 9 (L + 1) ∧ y = U 9 (L + 1)) ∨ (U 9 (L + 1) < 0 ∧ y = 0) := by
    rw [hy]
    split <;> omega
  have g9 := f4 (L + 1) (by omega) (by omega)
  have vk : ∀ k, k ≠ 12 → V k = U k := fun k hk => by rw [hV, up_n _ _ _ _ _ hk]
  have ve : V 12 (L + 1) = y := by rw [hV, up_e]
  have vd : ∀ j, j ≠ L + 1 → V 12 j = U 12 j := fun j hj => by rw [hV, up_d _ _ _ _ _ hj]
  have hA := HA_c (U := V) (fun k hk => vk k (by omega)) (vk 9 (by decide)) (vk 13 (by decide)) (vk 14 (by decide)) (vk 15 (by decide)) f8
  have key : (ps T L ≤ ps V (L + 1)) ∧ (∀ k, ps T L ≤ k → k < ps V (L + 1) → okk V k → False) ∧ ph V (L + 1) + 1 ≤ ph T L := by
    obtain ⟨hn, hm, ht, h9, h14, hL, h10, h11, h12, -⟩ := id hI
    obtain ⟨u, u10, u12, u11⟩ := hU
    have nv := (s3_nv hI h0 hx).1
    clear h9 h11 h12 hx f7 f8 hz hA k2 k3 k4 k1 h10 hy
    rcases (show L = 0 ∨ L = 1 ∨ L = 2 ∨ L = 3 ∨ L = 4 by omega) with rfl | rfl | rfl | rfl | rfl
    · rw [ps_0, ph_0, show ps V (0 + 1) = V 10 0 * 243 + V 12 1 * 81 from ps_1 V, show ph V (0 + 1) = ((3 - V 12 0) * 485 + 1) + ((3 - V 12 1) * 161 + 1) from ph_1 V, vk 10 (by decide)]
      have ve : V 12 1 = y := ve
      have yo2 : (0 ≤ U 9 1 ∧ y = U 9 1) ∨ (U 9 1 < 0 ∧ y = 0) := yo
      have g9 : -1 ≤ U 9 1 ∧ U 9 1 ≤ 2 := g9
      have yb : 0 ≤ y ∧ y ≤ 2 := by clear yo; omega
      clear yo
      have q0 := (f6 0 (by decide) (by decide)).1
      have v0 := u10 0
      have w0 := u12 0
      have x0 := vd 0 (by decide)
      rw [if_pos rfl] at v0 w0
      refine ⟨by clear yo2; omega, fun k x y z => ?_, by clear yo2; omega⟩
      have zL := z 1 (by decide) (by decide)
      rw [vk 9 (by decide)] at zL
      exact so_0 (k := k) q0 g9.2 yo2 (by clear yo2 zL; omega) (by clear yo2 zL; omega) zL
    · rw [ps_1, ph_1, show ps V (1 + 1) = V 10 0 * 243 + V 10 1 * 81 + V 12 2 * 27 from ps_2 V, show ph V (1 + 1) = ((3 - V 12 0) * 485 + 1) + ((3 - V 12 1) * 161 + 1) + ((3 - V 12 2) * 53 + 1) from ph_2 V, vk 10 (by decide)]
      have ve : V 12 2 = y := ve
      have yo2 : (0 ≤ U 9 2 ∧ y = U 9 2) ∨ (U 9 2 < 0 ∧ y = 0) := yo
      have g9 : -1 ≤ U 9 2 ∧ U 9 2 ≤ 2 := g9
      have yb : 0 ≤ y ∧ y ≤ 2 := by clear yo; omega
      clear yo
      have q0 := (f6 0 (by decide) (by decide)).1
      have v0 := u10 0
      have w0 := u12 0
      have x0 := vd 0 (by decide)
      rw [if_neg (by decide)] at v0 w0
      have q1 := (f6 1 (by decide) (by decide)).1
      have v1 := u10 1
      have w1 := u12 1
      have x1 := vd 1 (by decide)
      rw [if_pos rfl] at v1 w1
      refine ⟨by clear yo2; omega, fun k x y z => ?_, by clear yo2; omega⟩
      have zL := z 2 (by decide) (by decide)
      rw [vk 9 (by decide)] at zL
      exact so_1 (k := k) q0 q1 g9.2 yo2 (by clear yo2 zL; omega) (by clear yo2 zL; omega) zL
    · rw [ps_2, ph_2, show ps V (2 + 1) = V 10 0 * 243 + V 10 1 * 81 + V 10 2 * 27 + V 12 3 * 9 from ps_3 V, show ph V (2 + 1) = ((3 - V 12 0) * 485 + 1) + ((3 - V 12 1) * 161 + 1) + ((3 - V 12 2) * 53 + 1) + ((3 - V 12 3) * 17 + 1) from ph_3 V, vk 10 (by decide)]
      have ve : V 12 3 = y := ve
      have yo2 : (0 ≤ U 9 3 ∧ y = U 9 3) ∨ (U 9 3 < 0 ∧ y = 0) := yo
      have g9 : -1 ≤ U 9 3 ∧ U 9 3 ≤ 2 := g9
      have yb : 0 ≤ y ∧ y ≤ 2 := by clear yo; omega
      clear yo
      have q0 := (f6 0 (by decide) (by decide)).1
      have v0 := u10 0
      have w0 := u12 0
      have x0 := vd 0 (by decide)
      rw [if_neg (by decide)] at v0 w0
      have q1 := (f6 1 (by decide) (by decide)).1
      have v1 := u10 1
      have w1 := u12 1
      have x1 := vd 1 (by decide)
      rw [if_neg (by decide)] at v1 w1
      have q2 := (f6 2 (by decide) (by decide)).1
      have v2 := u10 2
      have w2 := u12 2
      have x2 := vd 2 (by decide)
      rw [if_pos rfl] at v2 w2
      refine ⟨by clear yo2; omega, fun k x y z => ?_, by clear yo2; omega⟩
      have zL := z 3 (by decide) (by decide)
      rw [vk 9 (by decide)] at zL
      exact so_2 (k := k) q0 q1 q2 g9.2 yo2 (by clear yo2 zL; omega) (by clear yo2 zL; omega) zL
    · rw [ps_3, ph_3, show ps V (3 + 1) = V 10 0 * 243 + V 10 1 * 81 + V 10 2 * 27 + V 10 3 * 9 + V 12 4 * 3 from ps_4 V, show ph V (3 + 1) = ((3 - V 12 0) * 485 + 1) + ((3 - V 12 1) * 161 + 1) + ((3 - V 12 2) * 53 + 1) + ((3 - V 12 3) * 17 + 1) + ((3 - V 12 4) * 5 + 1) from ph_4 V, vk 10 (by decide)]
      have ve : V 12 4 = y := ve
      have yo2 : (0 ≤ U 9 4 ∧ y = U 9 4) ∨ (U 9 4 < 0 ∧ y = 0) := yo
      have g9 : -1 ≤ U 9 4 ∧ U 9 4 ≤ 2 := g9
      have yb : 0 ≤ y ∧ y ≤ 2 := by clear yo; omega
      clear yo
      have q0 := (f6 0 (by decide) (by decide)).1
      have v0 := u10 0
      have w0 := u12 0
      have x0 := vd 0 (by decide)
      rw [if_neg (by decide)] at v0 w0
      have q1 := (f6 1 (by decide) (by decide)).1
      have v1 := u10 1
      have w1 := u12 1
      have x1 := vd 1 (by decide)
      rw [if_neg (by decide)] at v1 w1
      have q2 := (f6 2 (by decide) (by decide)).1
      have v2 := u10 2
      have w2 := u12 2
      have x2 := vd 2 (by decide)
      rw [if_neg (by decide)] at v2 w2
      have q3 := (f6 3 (by decide) (by decide)).1
      have v3 := u10 3
      have w3 := u12 3
      have x3 := vd 3 (by decide)
      rw [if_pos rfl] at v3 w3
      refine ⟨by clear yo2; omega, fun k x y z => ?_, by clear yo2; omega⟩
      have zL := z 4 (by decide) (by decide)
      rw [vk 9 (by decide)] at zL
      exact so_3 (k := k) q0 q1 q2 q3 g9.2 yo2 (by clear yo2 zL; omega) (by clear yo2 zL; omega) zL
    · rw [ps_4, ph_4, show ps V (4 + 1) = V 10 0 * 243 + V 10 1 * 81 + V 10 2 * 27 + V 10 3 * 9 + V 10 4 * 3 + V 12 5 * 1 from ps_5 V, show ph V (4 + 1) = ((3 - V 12 0) * 485 + 1) + ((3 - V 12 1) * 161 + 1) + ((3 - V 12 2) * 53 + 1) + ((3 - V 12 3) * 17 + 1) + ((3 - V 12 4) * 5 + 1) + ((3 - V 12 5) * 1 + 1) from ph_5 V, vk 10 (by decide)]
      have ve : V 12 5 = y := ve
      have yo2 : (0 ≤ U 9 5 ∧ y = U 9 5) ∨ (U 9 5 < 0 ∧ y = 0) := yo
      have g9 : -1 ≤ U 9 5 ∧ U 9 5 ≤ 2 := g9
      have yb : 0 ≤ y ∧ y ≤ 2 := by clear yo; omega
      clear yo
      have q0 := (f6 0 (by decide) (by decide)).1
      have v0 := u10 0
      have w0 := u12 0
      have x0 := vd 0 (by decide)
      rw [if_neg (by decide)] at v0 w0
      have q1 := (f6 1 (by decide) (by decide)).1
      have v1 := u10 1
      have w1 := u12 1
      have x1 := vd 1 (by decide)
      rw [if_neg (by decide)] at v1 w1
      have q2 := (f6 2 (by decide) (by decide)).1
      have v2 := u10 2
      have w2 := u12 2
      have x2 := vd 2 (by decide)
      rw [if_neg (by decide)] at v2 w2
      have q3 := (f6 3 (by decide) (by decide)).1
      have v3 := u10 3
      have w3 := u12 3
      have x3 := vd 3 (by decide)
      rw [if_neg (by decide)] at v3 w3
      have q4 := (f6 4 (by decide) (by decide)).1
      have v4 := u10 4
      have w4 := u12 4
      have x4 := vd 4 (by decide)
      rw [if_pos rfl] at v4 w4
      refine ⟨by clear yo2; omega, fun k x y z => ?_, by clear yo2; omega⟩
      have zL := z 5 (by decide) (by decide)
      rw [vk 9 (by decide)] at zL
      exact so_4 (k := k) q0 q1 q2 q3 q4 g9.2 yo2 (by clear yo2 zL; omega) (by clear yo2 zL; omega) zL
  obtain ⟨m1, m2, m3⟩ := key
  refine ⟨⟨nOK_c (fun k hk => vk k (by omega)) f1, ?_, fun g vg => ?_, ?_, ?_, by omega, fun j a b => ?_, fun j a b => ?_, fun _ => ?_, HA_skip hb1 hb2 k1.1 m1 hA (fun k x y ok => (m2 k x y ok).elim)⟩, m3⟩
  · unfold mOK
    rw [vk 6 (by decide), vk 7 (by decide), vk 8 (by decide)]
    exact f2
  · rw [tO_c (fun k hk => vk k (by omega)), ← f3 g vg]
    have hp : pl V g = pl U g := by
      funext i
      unfold pl
      rw [vk 2 (by decide), vk 3 (by decide)]
    unfold tM
    rw [hp, vk 1 (by decide), vk 6 (by decide), vk 7 (by decide), vk 8 (by decide)]
  · rw [vk 9 (by decide)]; exact f4
  · rw [vk 14 (by decide)]; exact f5
  · rw [vk 9 (by decide), vk 10 (by decide), vd j (by omega)]
    exact f6 j a (by omega)
  · rw [vk 11 (by decide), vk 10 (by decide), qt_T (fun k hk => vk k (by omega))]
    exact f7 j a (by omega)
  · rw [vk 9 (by decide), ve]
    omega
/-- the beginning -/
theorem s_begin {U V : St} {sh bd : Int} (hb1 : sh = 1 → bd = 49999) (hb2 : bd ≤ 49999) (f1 : nOK U) (f2 : mOK U) (f3 : ∀ g, vl g → tM U g = tO U g) (f4 : ∀ j, 0 ≤ j → j ≤ 5 → -1 ≤ U 9 j ∧ U 9 j ≤ 2) (h13 : U 13 0 = 0) (h14 : U 14 0 = 100000) (h11 : U 11 0 = U 6 0)
    (hV : V = up U 12 0 (if 0 ≤ U 9 0 then U 9 0 else 0)) : sI V sh bd 0 ∧ ph V 0 ≤ 1456 := by
  obtain ⟨y, hy⟩ : ∃ y, y = (if 0 ≤ U 9 0 then U 9 0 else 0) := ⟨_, rfl⟩
  rw [← hy] at hV
  have yo : (0 ≤ U 9 0 ∧ y = U 9 0) ∨ (U 9 0 < 0 ∧ y = 0) := by
    rw [hy]
    split <;> omega
  have g9 := f4 0 (by omega) (by omega)
  have vk : ∀ k, k ≠ 12 → V k = U k := fun k hk => by rw [hV, up_n _ _ _ _ _ hk]
  have ve : V 12 0 = y := by rw [hV, up_e]
  have hA : HA V sh bd 0 := by
    refine ⟨fun _ => Or.inl ⟨by rw [vk 14 (by decide)]; exact h14, fun k a b => by omega⟩, fun _ => ?_⟩
    rw [vk 13 (by decide), h13]
    rfl
  refine ⟨⟨nOK_c (fun k hk => vk k (by omega)) f1, ?_, fun g vg => ?_, ?_, ?_, by decide, fun j a b => by omega, fun j a b => ?_, fun _ => ?_, HA_skip hb1 hb2 (Int.le_refl _) ?_ hA (fun k x y ok => ?_)⟩, ?_⟩
  · unfold mOK
    rw [vk 6 (by decide), vk 7 (by decide), vk 8 (by decide)]
    exact f2
  · rw [tO_c (fun k hk => vk k (by omega)), ← f3 g vg]
    have hp : pl V g = pl U g := by
      funext i
      unfold pl
      rw [vk 2 (by decide), vk 3 (by decide)]
    unfold tM
    rw [hp, vk 1 (by decide), vk 6 (by decide), vk 7 (by decide), vk 8 (by decide)]
  · rw [vk 9 (by decide)]; exact f4
  · rw [vk 14 (by decide), h14]; exact ⟨by decide, by decide⟩
  · obtain rfl : j = 0 := by omega
    rw [vk 11 (by decide), h11, vk 10 (by decide), qt_T (fun k hk => vk k (by omega))]
    refine ⟨f2.1, ?_⟩
    unfold qt
    have e : sm (qg U (U 10) 0 0) (U 1 0).toNat = sm (fun _ => 0) (U 1 0).toNat := by
      refine sm_congr (fun t a b => qg_0 (fun q => ?_))
      have b2 := f1.2.2.1 t
      have b3 := f1.2.2.2.1 t
      unfold qc at q
      omega
    have e0 : ∀ n : Nat, sm (fun _ => 0) n = 0 := by
      intro n
      induction n with
      | zero => rfl
      | succ n ih => show sm (fun _ => 0) n + 0 = 0; rw [ih]; rfl
    rw [e, e0]
    show cp (U 6 0) = cp (cp (U 6 0) + 0 + 0)
    rw [Int.add_zero, Int.add_zero, cp_cp]
  · rw [vk 9 (by decide), ve]
    omega
  · rw [ps_0, ve]
    omega
  · have zL := ok 0 (by decide) (by decide)
    rw [vk 9 (by decide)] at zL
    rw [ps_0, ve] at y
    have hs := dg_sum (k := k) (by omega) (by omega)
    have b0 := dg_b k 0
    have b1 := dg_b k 1
    have b2 := dg_b k 2
    have b3 := dg_b k 3
    have b4 := dg_b k 4
    have b5 := dg_b k 5
    omega
  · rw [ph_0, ve]
    omega
end
section
set_option maxRecDepth 100000
theorem cp_addeq {a b z X Y : Int} (ha : 0 ≤ a) (hb : 0 ≤ b) (hX : 0 ≤ X) (hY : 0 ≤ Y) (e : cp a = cp X) (e2 : cp b = cp Y) (h : z = mo a b) : cp z = cp (X + Y) := by
  have g := mo_o h
  have g1 := cp_o a
  have g2 := cp_o b
  have g3 := cp_o z
  have g4 := cp_o X
  have g5 := cp_o Y
  have g6 := cp_o (X + Y)
  omega
theorem mOK_c {S T : St} (h : ∀ k, k ≤ 8 → T k = S k) (hm : mOK S) : mOK T := by
  unfold mOK
  rw [h 6 (by decide), h 7 (by decide), h 8 (by decide)]
  exact hm
theorem s_sofar {T P U : St} {L za z : Int} (hn : nOK T) (hm : mOK T) (h0 : 0 ≤ L) (e8 : ∀ k, k ≤ 8 → P k = T k) (e10 : ∀ j, j ≠ L → P 10 j = T 10 j) (e11 : P 11 L = T 11 L) (u : ∀ k, k ≤ 10 → U k = P k) (h11 : 0 ≤ T 11 L) (hp : cp (T 11 L) = cp (qt T (T 10) L L)) (ha : 0 ≤ za) (hw : cp za = cp (wS P L (P 10 L) L (P 1 0))) (hz : z = mo (P 11 L) za) : cp z = cp (qt U (U 10) (L + 1) (L + 1)) := by
  have nP := nOK_c (fun k hk => e8 k (by omega)) hn
  have mP := mOK_c e8 hm
  rw [u 10 (by decide), qt_T (fun k hk => u k (by omega)), qt_p nP, qt_s nP h0 (Int.le_refl _) (fun _ _ _ => rfl)]
  refine cp_addeq (by rw [e11]; exact h11) ha (qt_nn mP _ _ _) (wS_nn mP _ _ _ _) ?_ hw hz
  rw [e11, hp, qt_T e8, qt_c (g := P 10) (g' := T 10) hn (Int.le_refl _) (fun v a b => e10 v (by omega))]
theorem ph_nn {T : St} {sh bd L : Int} (hI : sI T sh bd L) : 0 ≤ ph T L := by
  obtain ⟨hn, hm, ht, h9, h14, hL, h10, h11, h12, hA⟩ := id hI
  have t : ∀ j w, 0 ≤ j → 0 ≤ w → 0 ≤ rd T L j w := by
    intro j w hj hw
    unfold rd
    split
    · have : 0 ≤ 3 - T 12 j := by
        by_cases c : j = L
        · subst c
          have := (h12 hj).1
          omega
        · have := h10 j hj (by omega)
          omega
      have := Int.mul_nonneg this hw
      omega
    · exact Int.le_refl _
  have a0 := t 0 485 (by decide) (by decide)
  have a1 := t 1 161 (by decide) (by decide)
  have a2 := t 2 53 (by decide) (by decide)
  have a3 := t 3 17 (by decide) (by decide)
  have a4 := t 4 5 (by decide) (by decide)
  have a5 := t 5 1 (by decide) (by decide)
  unfold ph
  omega
/-- behind descend -/
theorem s_desc {T U V : St} {sh bd L z lm r : Int} (hb1 : sh = 1 → bd = 49999) (hb2 : bd ≤ 49999) (hI : sI T sh bd L) (h0 : 0 ≤ L) (hx : T 12 L ≤ lst T L) (hU : s3 T U L z) (hz : (0 ≤ z ∧ z ≤ 100000) ∧ cp z = cp (qt U (U 10) (L + 1) (L + 1))) (hl : lm = lim sh bd (T 14 0))
    (h : (r = L ∧ V = U ∧ ∀ g, vl g → (∀ j, 0 ≤ j → j ≤ L → g j = U 10 j) → opn U g (L + 1) → 50000 ≤ tM U g ∨ lm < tM U g) ∨ (L = 5 ∧ r = 5 ∧ U 11 6 < 50000 ∧ U 11 6 ≤ lm ∧ tkP U V (U 11 6)) ∨ (L < 5 ∧ r = L + 1 ∧ V = up U 12 (L + 1) (if 0 ≤ U 9 (L + 1) then U 9 (L + 1) else 0))) : sI V sh bd r ∧ ph V r + 1 ≤ ph T L ∧ ∀ k, k ≤ 9 → V k = T k := by
  have uk : ∀ k, k ≤ 9 → U k = T k := fun k hk => hU.1 k (by omega) (by omega) (by omega)
  rcases h with ⟨h1, h2, h3⟩ | ⟨h1, h2, h3, h4, h5⟩ | ⟨h1, h2, h3⟩
  · rw [h1, h2]
    have q := s_prune hb1 hb2 hI h0 hx hU hz hl h3
    exact ⟨q.1, q.2, uk⟩
  · subst h1
    rw [h2]
    have q := s_take hb1 hb2 hI hx hU hz hl h3 h4 h5
    exact ⟨q.1, q.2, fun k hk => by rw [h5.2.1 k (by omega) (by omega) (by omega)]; exact uk k hk⟩
  · rw [h2]
    have q := s_open hb1 hb2 hI h0 h1 hx hU hz h3
    exact ⟨q.1, q.2, fun k hk => by rw [h3, up_n _ _ _ _ _ (by omega)]; exact uk k hk⟩
end
section
set_option maxRecDepth 100000
set_option maxHeartbeats 16000000 in
theorem Lx_search {p : Program} {l : Launch} {e : Env} {s : State} {m : MethodId} {args : Array Value} {below : List Frame} {meth : Method} {c : Code} {Q : State → Prop} {D : va_G} {A : Nat → Prop} {d : ClassId} {h : Nat} {ad : Nat → Nat} (C : CallFix p m c cX0_search 6 s args lw_all RX0) (S0 : St) (bd sh : Int) (hs : sh = 0 ∨ sh = 1) (hb1 : sh = 1 → bd = 49999) (hb2 : 0 ≤ bd ∧ bd ≤ 49999) (kk : ∀ (T : St) (H : Heap) (locs : List Loc) (ls : Array Slot), GW D A s H locs d (wX h ad d T) → sI T sh bd (-1) → (∀ k, k ≤ 9 → T k = S0 k) → W p l e (rmv 4) s m args below meth c H locs 0 0 Q (F0 m 156 ls [])) : ∀ (n : Nat) (L st : Int) (T : St) (H : Heap) (locs : List Loc) (ls : Array Slot), 0 ≤ st → st + ph T L ≤ 1456 → 1457 ≤ st + n → GW D A s H locs d (wX h ad d T) → sI T sh bd L → (∀ k, k ≤ 9 → T k = S0 k) → lv_has ls 6 [(0, .ref h), (1, .int (iI bd)), (2, .int (iI sh)), (3, .int (iI L)), (4, .int (iI st))] → W p l e (rmv 4) s m args below meth c H locs 0 0 Q (F0 m 35 ls []) := by
  have hx := C.1
  have hb := C.2.1
  intro n
  induction n with
  | zero =>
    intro L st T H locs ls h1 h2 h3 Z hI
    have pn := ph_nn hI
    exact absurd h3 (by omega)
  | succ n ih =>
    intro L st T H locs ls h1 h2 h3 Z hI hf hl
    have pn := ph_nn hI
    obtain ⟨jn, jm, jt, j9, j14, jL, j10, j11, j12, jA⟩ := id hI
    refine lv_iload hx hb dX0_search_35 (lv_at hl 4 rfl) ?_
    refine z_sipush hx hb dX0_search_37 (by decide) ?_
    refine z_icmp_ge (tgt := 156) hx hb dX0_search_40 (by decide) (by omega) (by omega) (fun c_40 => ?_) (fun c_40 => ?_)
    · omega
    · refine lv_iload_n hx hb dX0_search_43 rfl (lv_at hl 3 rfl) ?_
      refine z_if_lt (tgt := 156) hx hb dX0_search_44 (by decide) (by omega) (fun c_44 => ?_) (fun c_44 => ?_)
      · obtain rfl : L = -1 := by omega
        exact kk T H locs ls Z hI hf
      · have f12 := (j12 c_44).1
        have f9 := j9 L c_44 jL.2
        have lo := lst_o T L
        refine lv_aload_n hx hb dX0_search_47 rfl (lv_at hl 0 rfl) ?_
        refine x_get_12 C Z dX0_search_48 ?_
        refine lv_iload_n hx hb dX0_search_51 rfl (lv_at hl 3 rfl) ?_
        refine x_ald_12 C Z (e0 := L) (by omega) (by omega) dX0_search_52 ?_
        refine lv_aload_n hx hb dX0_search_53 rfl (lv_at hl 0 rfl) ?_
        refine lv_iload_n hx hb dX0_search_54 rfl (lv_at hl 3 rfl) ?_
        refine g_calli (n := 1) (wr := []) (w := wX h ad d) (As := [.int (iI L)]) (rest := [.int (iI (T 12 L))]) C Z hl.1 (kx_lastValue l D d h ad T L (by omega) f9) (lw_V q148 q150 qs7 q19 q151) rfl rfl (by decide +kernel) rfl ⟨rfl, rfl⟩ ⟨Nat.le_of_ble_eq_true rfl, Nat.le_of_ble_eq_true rfl⟩ rfl (Nat.le_of_ble_eq_true rfl) dX0_search_55 ⟨Nat.zero_le _, Nat.zero_le _⟩ (fun z1 S2 H locs hz1 Z => ?_)
        have Z : GW D _ s H locs d (wX h ad d S2) := Z
        rw [hz1.2] at Z
        obtain rfl : z1 = lst T L := hz1.1
        refine z_icmp_le (tgt := 67) hx hb dX0_search_58 (by decide) (by omega) (by omega) (fun c_58 => ?_) (fun c_58 => ?_)
        · have nv := s3_nv hI c_44 c_58
          refine lv_aload_n hx hb dX0_search_67 rfl (lv_at hl 0 rfl) ?_
          refine x_get_10 C Z dX0_search_68 ?_
          refine lv_iload_n hx hb dX0_search_71 rfl (lv_at hl 3 rfl) ?_
          refine lv_aload_n hx hb dX0_search_72 rfl (lv_at hl 0 rfl) ?_
          refine x_get_12 C Z dX0_search_73 ?_
          refine lv_iload_n hx hb dX0_search_76 rfl (lv_at hl 3 rfl) ?_
          refine x_ald_12 C Z (e0 := L) (by omega) (by omega) dX0_search_77 ?_
          refine x_ast_10 C Z (e0 := L) (by omega) (by omega) dX0_search_78 (fun S3 H locs eS3 Z => ?_)
          refine lv_aload_n hx hb dX0_search_79 rfl (lv_at hl 0 rfl) ?_
          refine x_get_12 C Z dX0_search_80 ?_
          refine lv_iload_n hx hb dX0_search_83 rfl (lv_at hl 3 rfl) ?_
          refine lv_dup2_11 hx hb dX0_search_84 rfl rfl ?_
          refine x_ald_12 C Z (e0 := L) (by omega) (by omega) dX0_search_85 ?_
          refine z_iconst hx hb dX0_search_86 ?_
          refine z_iadd hx hb dX0_search_87 ?_
          refine x_ast_12 C Z (e0 := L) (by omega) (by omega) dX0_search_88 (fun S4 H locs eS4 Z => ?_)
          refine lv_aload_n hx hb dX0_search_89 rfl (lv_at hl 0 rfl) ?_
          refine lv_iload_n hx hb dX0_search_90 rfl (lv_at hl 3 rfl) ?_
          refine lv_aload_n hx hb dX0_search_91 rfl (lv_at hl 0 rfl) ?_
          refine x_get_10 C Z dX0_search_92 ?_
          refine lv_iload_n hx hb dX0_search_95 rfl (lv_at hl 3 rfl) ?_
          refine x_ald_10 C Z (e0 := L) (by omega) (by omega) dX0_search_96 ?_
          refine lv_iload_n hx hb dX0_search_97 rfl (lv_at hl 3 rfl) ?_
          have e8 : ∀ k, k ≤ 8 → S4 k = T k := fun k hk => by rw [eS4, eS3, up_n _ _ _ _ _ (by omega), up_n _ _ _ _ _ (by omega)]
          have e10 : S4 10 L = T 12 L := by rw [eS4, eS3, up_n _ _ _ _ _ (by decide), up_e]
          have e10d : ∀ j, j ≠ L → S4 10 j = T 10 j := fun j hj => by rw [eS4, eS3, up_n _ _ _ _ _ (by decide), up_d _ _ _ _ _ hj]
          have e11 : S4 11 = T 11 := by rw [eS4, eS3, up_n _ _ _ _ _ (by decide), up_n _ _ _ _ _ (by decide)]
          have nP : nOK S4 := nOK_c (fun k hk => e8 k (by omega)) jn
          have mP : mOK S4 := mOK_c e8 jm
          have q11 := j11 L c_44 (Int.le_refl _)
          refine g_calli (n := 3) (wr := []) (w := wX h ad d) (As := [.int (iI L), .int (iI (S4 10 L)), .int (iI L)]) (rest := []) C Z hl.1 (kx_withTaken l D d h ad S4 L (S4 10 L) L (by omega) (by omega) (by omega) nP mP (fun j a b => by rw [e10d j (by omega)]; exact (j10 j a b).1)) (lw_V q152 q154 qs8 q19 q155) rfl rfl (by decide +kernel) rfl ⟨rfl, rfl⟩ ⟨Nat.le_of_ble_eq_true rfl, Nat.le_of_ble_eq_true rfl⟩ rfl (Nat.le_of_ble_eq_true rfl) dX0_search_98 ⟨Nat.zero_le _, Nat.zero_le _⟩ (fun z5 S6 H locs hz5 Z => ?_)
          have Z : GW D _ s H locs d (wX h ad d S6) := Z
          rw [hz5.1] at Z
          have bz5 := hz5.2.1
          have bbz5 := hz5.2.2.1
          have e11L : S4 11 L = T 11 L := by rw [e11]
          refine lv_istore (lv' := [(5, .int (iI z5)), (0, .ref h), (1, .int (iI bd)), (2, .int (iI sh)), (3, .int (iI L)), (4, .int (iI st))]) hx hb dX0_search_101 hl (by decide) rfl (fun ls hl => ?_)
          refine lv_aload_n hx hb dX0_search_103 rfl (lv_at hl 1 rfl) ?_
          refine x_get_11 C Z dX0_search_104 ?_
          refine lv_iload_n hx hb dX0_search_107 rfl (lv_at hl 4 rfl) ?_
          refine z_iconst hx hb dX0_search_108 ?_
          refine z_iadd hx hb dX0_search_109 ?_
          refine lv_aload_n hx hb dX0_search_110 rfl (lv_at hl 1 rfl) ?_
          refine x_get_11 C Z dX0_search_111 ?_
          refine lv_iload_n hx hb dX0_search_114 rfl (lv_at hl 4 rfl) ?_
          refine x_ald_11 C Z (e0 := L) (by omega) (by omega) dX0_search_115 ?_
          refine lv_iload hx hb dX0_search_116 (lv_at hl 0 rfl) ?_
          refine g_calls (n := 2) (As := [.int (iI (S4 11 L)), .int (iI z5)]) (rest := [.int (iI (L + 1)), .ref (ad 11)]) C Z hl.1 (c_more l (S4 11 L) z5 (by omega) (by omega)) (lw_S q133 q134 q19 q135) (by decide +kernel) rfl ⟨rfl, rfl⟩ ⟨Nat.le_of_ble_eq_true rfl, Nat.le_of_ble_eq_true rfl⟩ rfl (Nat.le_of_ble_eq_true rfl) dX0_search_118 ⟨Nat.zero_le _, Nat.zero_le _⟩ (fun z7 H locs hz7 Z => ?_)
          have bz7 := mo_b (by omega) (by omega) hz7
          refine x_ast_11 C Z (e0 := L + 1) (by omega) (by omega) dX0_search_121 (fun S8 H locs eS8 Z => ?_)
          have hU : s3 T S8 L z7 := by
            refine ⟨fun k h1 h2 h3 => ?_, fun j => ?_, fun j => ?_, fun j => ?_⟩
            · rw [eS8, eS4, eS3, up_n _ _ _ _ _ h2, up_n _ _ _ _ _ h3, up_n _ _ _ _ _ h1]
            · rw [eS8, eS4, eS3, up_n _ _ _ _ _ (by decide), up_n _ _ _ _ _ (by decide), up_s]
            · rw [eS8, eS4, eS3, up_n _ _ _ _ _ (by decide), up_s, up_n _ _ _ _ _ (by decide)]
            · rw [eS8, up_s, e11]
          have hz0 : (0 ≤ z7 ∧ z7 ≤ 100000) ∧ cp z7 = cp (qt S8 (S8 10) (L + 1) (L + 1)) := ⟨bz7, s_sofar jn jm c_44 e8 e10d (by rw [e11]) (fun k hk => by rw [eS8, up_n _ _ _ _ _ (by omega)]) q11.1.1 q11.2 bz5 hz5.2.2.2 hz7⟩
          obtain ⟨f1, f2, f3, f4, f5, f6, f7, f8⟩ := s3_f hI c_44 c_58 hU hz0
          have e14 : S8 14 0 = T 14 0 := by rw [hU.1 14 (by decide) (by decide) (by decide)]
          have b14 : 0 ≤ T 14 0 ∧ T 14 0 ≤ 100000 := j14
          have lmo := lim_o sh bd (T 14 0)
          refine lv_aload_n hx hb dX0_search_122 rfl (lv_at hl 1 rfl) ?_
          refine lv_iload_n hx hb dX0_search_123 rfl (lv_at hl 4 rfl) ?_
          refine lv_iload_n hx hb dX0_search_124 rfl (lv_at hl 3 rfl) ?_
          refine z_if_eq (tgt := 145) hx hb dX0_search_125 (by decide) (by omega) (fun c_125 => ?_) (fun c_125 => ?_)
          · refine lv_iload_n hx hb dX0_search_145 rfl (lv_at hl 2 rfl) ?_
            refine g_calli (n := 2) (wr := []) (w := wX h ad d) (As := [.int (iI L), .int (iI bd)]) (rest := []) C Z hl.1 (kx_descend l D d h ad S8 L bd (by omega) (by omega) f1 f2 (fun j a b => (f6 j a b).1) f4 (f7 (L + 1) (by omega) (by omega)).1 (f7 (L + 1) (by omega) (by omega)).2 f5) (lw_V q156 q158 qs9 q19 q159) rfl rfl (by decide +kernel) rfl ⟨rfl, rfl⟩ ⟨Nat.le_of_ble_eq_true rfl, Nat.le_of_ble_eq_true rfl⟩ rfl (Nat.le_of_ble_eq_true rfl) dX0_search_146 ⟨Nat.zero_le _, Nat.zero_le _⟩ (fun z9 S10 H locs hz9 Z => ?_)
            have Z : GW D _ s H locs d (wX h ad d S10) := Z
            have q := s_desc hb1 hb2.2 hI c_44 c_58 hU hz0 (lm := bd) (by omega) hz9
            have jz := q.1.2.2.2.2.2.1
            refine lv_istore_n (lv' := [(3, .int (iI z9)), (5, .int (iI z5)), (0, .ref h), (1, .int (iI bd)), (2, .int (iI sh)), (4, .int (iI st))]) hx hb dX0_search_149 rfl hl (by decide) rfl (fun ls hl => ?_)
            refine z_iinc (lv' := [(4, .int (iI (st + 1))), (3, .int (iI z9)), (5, .int (iI z5)), (0, .ref h), (1, .int (iI bd)), (2, .int (iI sh))]) hx hb dX0_search_150 hl (k := 5) rfl (by decide) rfl (fun ls hl => ?_)
            refine lv_goto (tgt := 35) hx hb dX0_search_153 (by decide) ?_
            exact ih z9 (st + 1) S10 H locs ls (by omega) (by have := q.2.1; omega) (by omega) Z q.1 (fun k hk => by rw [q.2.2 k hk]; exact hf k hk) (lv_sub hl [3, 4, 5, 1, 0] rfl)
          · refine lv_aload_n hx hb dX0_search_128 rfl (lv_at hl 1 rfl) ?_
            refine x_get_14 C Z dX0_search_129 ?_
            refine lv_iload_n hx hb dX0_search_132 rfl (lv_at hl 2 rfl) ?_
            refine z_icmp_gt (tgt := 145) hx hb dX0_search_133 (by decide) (by omega) (by omega) (fun c_133 => ?_) (fun c_133 => ?_)
            · refine lv_iload_n hx hb dX0_search_145 rfl (lv_at hl 2 rfl) ?_
              refine g_calli (n := 2) (wr := []) (w := wX h ad d) (As := [.int (iI L), .int (iI bd)]) (rest := []) C Z hl.1 (kx_descend l D d h ad S8 L bd (by omega) (by omega) f1 f2 (fun j a b => (f6 j a b).1) f4 (f7 (L + 1) (by omega) (by omega)).1 (f7 (L + 1) (by omega) (by omega)).2 f5) (lw_V q156 q158 qs9 q19 q159) rfl rfl (by decide +kernel) rfl ⟨rfl, rfl⟩ ⟨Nat.le_of_ble_eq_true rfl, Nat.le_of_ble_eq_true rfl⟩ rfl (Nat.le_of_ble_eq_true rfl) dX0_search_146 ⟨Nat.zero_le _, Nat.zero_le _⟩ (fun z11 S12 H locs hz11 Z => ?_)
              have Z : GW D _ s H locs d (wX h ad d S12) := Z
              have q := s_desc hb1 hb2.2 hI c_44 c_58 hU hz0 (lm := bd) (by omega) hz11
              have jz := q.1.2.2.2.2.2.1
              refine lv_istore_n (lv' := [(3, .int (iI z11)), (5, .int (iI z5)), (0, .ref h), (1, .int (iI bd)), (2, .int (iI sh)), (4, .int (iI st))]) hx hb dX0_search_149 rfl hl (by decide) rfl (fun ls hl => ?_)
              refine z_iinc (lv' := [(4, .int (iI (st + 1))), (3, .int (iI z11)), (5, .int (iI z5)), (0, .ref h), (1, .int (iI bd)), (2, .int (iI sh))]) hx hb dX0_search_150 hl (k := 5) rfl (by decide) rfl (fun ls hl => ?_)
              refine lv_goto (tgt := 35) hx hb dX0_search_153 (by decide) ?_
              exact ih z11 (st + 1) S12 H locs ls (by omega) (by have := q.2.1; omega) (by omega) Z q.1 (fun k hk => by rw [q.2.2 k hk]; exact hf k hk) (lv_sub hl [3, 4, 5, 1, 0] rfl)
            · refine lv_aload_n hx hb dX0_search_136 rfl (lv_at hl 1 rfl) ?_
              refine x_get_14 C Z dX0_search_137 ?_
              refine z_iconst hx hb dX0_search_140 ?_
              refine z_isub hx hb dX0_search_141 ?_
              refine lv_goto (tgt := 146) hx hb dX0_search_142 (by decide) ?_
              refine g_calli (n := 2) (wr := []) (w := wX h ad d) (As := [.int (iI L), .int (iI ((S8 14 0) - 1))]) (rest := []) C Z hl.1 (kx_descend l D d h ad S8 L ((S8 14 0) - 1) (by omega) (by omega) f1 f2 (fun j a b => (f6 j a b).1) f4 (f7 (L + 1) (by omega) (by omega)).1 (f7 (L + 1) (by omega) (by omega)).2 f5) (lw_V q156 q158 qs9 q19 q159) rfl rfl (by decide +kernel) rfl ⟨rfl, rfl⟩ ⟨Nat.le_of_ble_eq_true rfl, Nat.le_of_ble_eq_true rfl⟩ rfl (Nat.le_of_ble_eq_true rfl) dX0_search_146 ⟨Nat.zero_le _, Nat.zero_le _⟩ (fun z13 S14 H locs hz13 Z => ?_)
              have Z : GW D _ s H locs d (wX h ad d S14) := Z
              have q := s_desc hb1 hb2.2 hI c_44 c_58 hU hz0 (lm := (S8 14 0) - 1) (by omega) hz13
              have jz := q.1.2.2.2.2.2.1
              refine lv_istore_n (lv' := [(3, .int (iI z13)), (5, .int (iI z5)), (0, .ref h), (1, .int (iI bd)), (2, .int (iI sh)), (4, .int (iI st))]) hx hb dX0_search_149 rfl hl (by decide) rfl (fun ls hl => ?_)
              refine z_iinc (lv' := [(4, .int (iI (st + 1))), (3, .int (iI z13)), (5, .int (iI z5)), (0, .ref h), (1, .int (iI bd)), (2, .int (iI sh))]) hx hb dX0_search_150 hl (k := 5) rfl (by decide) rfl (fun ls hl => ?_)
              refine lv_goto (tgt := 35) hx hb dX0_search_153 (by decide) ?_
              exact ih z13 (st + 1) S14 H locs ls (by omega) (by have := q.2.1; omega) (by omega) Z q.1 (fun k hk => by rw [q.2.2 k hk]; exact hf k hk) (lv_sub hl [3, 4, 5, 1, 0] rfl)
        · have q := s_exit hb1 hb2.2 hI c_44 c_58
          rw [show L - 1 = L + (-1) by omega] at q
          refine z_iinc (lv' := [(3, .int (iI (L + (-1)))), (0, .ref h), (1, .int (iI bd)), (2, .int (iI sh)), (4, .int (iI st))]) hx hb dX0_search_61 hl (k := 3) rfl (by decide) rfl (fun ls hl => ?_)
          refine lv_goto (tgt := 150) hx hb dX0_search_64 (by decide) ?_
          refine z_iinc (lv' := [(4, .int (iI (st + 1))), (3, .int (iI (L + (-1)))), (0, .ref h), (1, .int (iI bd)), (2, .int (iI sh))]) hx hb dX0_search_150 hl (k := 4) rfl (by decide) rfl (fun ls hl => ?_)
          refine lv_goto (tgt := 35) hx hb dX0_search_153 (by decide) ?_
          exact ih (L + (-1)) (st + 1) T H locs ls (by omega) (by have := q.2; omega) (by omega) Z q.1 hf (lv_sub hl [2, 3, 4, 1, 0] rfl)
set_option maxHeartbeats 8000000 in
theorem kx_search (l : Launch) (D : va_G) (d : ClassId) (h : Nat) (ad : Nat → Nat) (S : St) (bd : Int) (sh : Int) (hI : xOK S) (h9 : ∀ j, 0 ≤ j → j ≤ 5 → -1 ≤ S 9 j ∧ S 9 j ≤ 2) (hs : sh = 0 ∨ sh = 1) (hb1 : sh = 1 → bd = 49999) (hb2 : 0 ≤ bd ∧ bd ≤ 49999) : gMv l D d (wX h ad d) h yX0_search cX0_search 6 (rmv 4) [.int (iI bd), .int (iI sh)] S (fun S' => (∀ k, k ≤ 4 → S' k = S k) ∧ S' 9 = S 9 ∧ xOK S' ∧ HA S' sh bd 729) := by
  refine g_met (by decide) (Nat.le_of_ble_eq_true rfl) ?_
  intro p e s m args below meth c C hr hlk Z ls hl
  have C : CallFix p m c cX0_search 6 s args lw_all RX0 := C
  have hx := C.1
  have hb := C.2.1
  have hl : lv_has ls 6 [(0, .ref h), (1, .int (iI bd)), (2, .int (iI sh))] := hl
  obtain ⟨hn, hm, h5, h5b⟩ := id hI
  refine lv_aload_n hx hb dX0_search_0 rfl (lv_at hl 0 rfl) ?_
  refine g_callv (n := 0) (wr := []) (w := wX h ad d) (As := []) (rest := []) C Z hl.1 (kx_prepare l D d h ad S hI) (lw_V q118 q120 qs3 q19 q121) rfl rfl (by decide +kernel) rfl ⟨rfl, rfl⟩ ⟨Nat.le_of_ble_eq_true rfl, Nat.le_of_ble_eq_true rfl⟩ rfl (Nat.le_of_ble_eq_true rfl) dX0_search_1 ⟨Nat.zero_le _, Nat.zero_le _⟩ (fun S2 H locs hz1 Z => ?_)
  have Z : GW D _ s H locs d (wX h ad d S2) := Z
  refine lv_aload_n hx hb dX0_search_4 rfl (lv_at hl 0 rfl) ?_
  refine z_iconst hx hb dX0_search_5 ?_
  refine x_put_13 C Z dX0_search_6 (fun S3 H locs eS3 Z => ?_)
  refine lv_aload_n hx hb dX0_search_9 rfl (lv_at hl 0 rfl) ?_
  refine z_ldc (z := 100000) hx hb C.2.2.2.1 (C.2.2.2.2 _ q125) (by decide) dX0_search_10 ?_
  refine x_put_14 C Z dX0_search_12 (fun S4 H locs eS4 Z => ?_)
  refine lv_aload_n hx hb dX0_search_15 rfl (lv_at hl 0 rfl) ?_
  refine x_get_11 C Z dX0_search_16 ?_
  refine z_iconst hx hb dX0_search_19 ?_
  refine lv_aload_n hx hb dX0_search_20 rfl (lv_at hl 0 rfl) ?_
  refine x_get_6 C Z dX0_search_21 ?_
  refine x_ast_11 C Z (e0 := 0) (by omega) (by omega) dX0_search_24 (fun S5 H locs eS5 Z => ?_)
  refine z_iconst hx hb dX0_search_25 ?_
  refine lv_istore_n (lv' := [(3, .int (iI 0)), (0, .ref h), (1, .int (iI bd)), (2, .int (iI sh))]) hx hb dX0_search_26 rfl hl (by decide) rfl (fun ls hl => ?_)
  refine lv_aload_n hx hb dX0_search_27 rfl (lv_at hl 1 rfl) ?_
  refine z_iconst hx hb dX0_search_28 ?_
  have u0 : ∀ k, k ≠ 11 → k ≠ 13 → k ≠ 14 → S5 k = S2 k := fun k a b c => by rw [eS5, eS4, eS3, up_n _ _ _ _ _ a, up_n _ _ _ _ _ c, up_n _ _ _ _ _ b]
  have u4 : ∀ k, k ≤ 4 → S5 k = S k := fun k hk => by rw [u0 k (by omega) (by omega) (by omega), hz1.1 k (by omega) (by omega) (by omega) (by omega)]
  have u9 : S5 9 = S 9 := by rw [u0 9 (by decide) (by decide) (by decide), hz1.1 9 (by decide) (by decide) (by decide) (by decide)]
  have u5 : S5 5 0 = 1 := by rw [u0 5 (by decide) (by decide) (by decide)]; exact hz1.2.1
  have nU : nOK S5 := nOK_c u4 hn
  have mU : mOK S5 := mOK_c (fun k hk => u0 k (by omega) (by omega) (by omega)) hz1.2.2.1
  have tU : ∀ g, vl g → tM S5 g = tO S5 g := by
    intro g vg
    rw [tO_c u4, ← hz1.2.2.2 g vg]
    have hpl : pl S5 g = pl S2 g := by
      funext i
      unfold pl
      rw [u0 2 (by decide) (by decide) (by decide), u0 3 (by decide) (by decide) (by decide)]
    unfold tM
    rw [hpl, u0 1 (by decide) (by decide) (by decide), u0 6 (by decide) (by decide) (by decide), u0 7 (by decide) (by decide) (by decide), u0 8 (by decide) (by decide) (by decide)]
  have i9 : ∀ j, 0 ≤ j → j ≤ 5 → -1 ≤ S5 9 j ∧ S5 9 j ≤ 2 := by rw [u9]; exact h9
  refine g_callv (n := 1) (wr := []) (w := wX h ad d) (As := [.int (iI 0)]) (rest := []) C Z hl.1 (kx_open l D d h ad S5 0 (by omega) (i9 0 (by omega) (by omega))) (lw_V q144 q146 qs6 q19 q147) rfl rfl (by decide +kernel) rfl ⟨rfl, rfl⟩ ⟨Nat.le_of_ble_eq_true rfl, Nat.le_of_ble_eq_true rfl⟩ rfl (Nat.le_of_ble_eq_true rfl) dX0_search_29 ⟨Nat.zero_le _, Nat.zero_le _⟩ (fun S7 H locs hz6 Z => ?_)
  have Z : GW D _ s H locs d (wX h ad d S7) := Z
  have qb := s_begin hb1 hb2.2 nU mU tU i9 (by rw [eS5, eS4, eS3]; simp [up]) (by rw [eS5, eS4]; simp [up]) (by rw [eS5, up_e, up_n _ _ _ _ _ (by decide)]) hz6
  have v9 : ∀ k, k ≤ 9 → S7 k = S5 k := fun k hk => by rw [hz6, up_n _ _ _ _ _ (by omega)]
  refine z_iconst hx hb dX0_search_32 ?_
  refine lv_istore (lv' := [(4, .int (iI 0)), (3, .int (iI 0)), (0, .ref h), (1, .int (iI bd)), (2, .int (iI sh))]) hx hb dX0_search_33 hl (by decide) rfl (fun ls hl => ?_)
  refine Lx_search C S7 bd sh hs hb1 hb2 (fun T H locs ls Z qI qf => ?_) 1457 0 0 S7 _ _ ls (by omega) (by have := qb.2; omega) (by omega) Z qb.1 (fun k _ => rfl) (lv_sub hl [2, 3, 4, 1, 0] rfl)
  exact g_retv C hr hlk Z dX0_search_156 (by
    obtain ⟨f1, f2, f3, f4, f5, f6, f7, f8, f9, f10⟩ := qI
    refine ⟨fun k hk => by rw [qf k (by omega), v9 k (by omega)]; exact u4 k hk, by rw [qf 9 (by decide), v9 9 (by decide)]; exact u9, ⟨f1, f2, Or.inr ?_, fun _ => f3⟩, f10⟩
    rw [qf 5 (by decide), v9 5 (by decide)]
    exact u5)
end
section
set_option maxRecDepth 100000
/-! ===== the questions, in plain words ===== -/
def frx (S S' : St) : Prop := (∀ k, k ≤ 4 → S' k = S k) ∧ xOK S'
def isM (S : St) (P : Int → Prop) (r : Int) : Prop := (r = -6 ∧ ∀ k, 0 ≤ k → k < 729 → P k → 50000 ≤ tt S k) ∨ ((0 ≤ r ∧ r < 50000) ∧ (∃ k, 0 ≤ k ∧ k < 729 ∧ P k ∧ tt S k = r) ∧ ∀ k, 0 ≤ k → k < 729 → P k → r ≤ tt S k)
/-- the first of the best -/
def isF (S : St) (k0 : Int) : Prop := (0 ≤ k0 ∧ k0 < 729) ∧ tt S k0 < 50000 ∧ (∀ k, 0 ≤ k → k < 729 → tt S k0 ≤ tt S k) ∧ (∀ k, 0 ≤ k → k < k0 → tt S k0 < tt S k)
def noF (S : St) : Prop := ∀ k, 0 ≤ k → k < 729 → 50000 ≤ tt S k
noncomputable def cnt (S : St) (b : Int) : Int := cn (fun k => tt S k < 50000 ∧ tt S k ≤ b) 729
def lcP (S : St) (z : Int) (bv : Int → Int) : Prop := (z = -6 ∧ ∀ k, 0 ≤ k → k < 729 → okk S k → 50000 ≤ tt S k) ∨ (∃ k0, 0 ≤ k0 ∧ k0 < 729 ∧ okk S k0 ∧ tt S k0 = z ∧ z < 50000 ∧ (∀ j, 0 ≤ j → j < 6 → bv j = dg k0 j) ∧ (∀ k, 0 ≤ k → k < 729 → okk S k → z ≤ tt S k) ∧ (∀ k, 0 ≤ k → k < k0 → okk S k → z < tt S k))
theorem aM_nn {a : Int} (h : 0 ≤ a) : 0 ≤ aM a := by
  have := aM_o (z := aM a) rfl
  omega
theorem tO_nn {S : St} (hn : nOK S) (g : Int → Int) : 0 ≤ tO S g := by
  obtain ⟨n1, n0, n2, n3, n4, n5⟩ := id hn
  have h1 := sm_nn (f := fun v => cp (aM (S 0 (v * 3 + g v)))) (fun i => cp_nn (aM_nn (n0 _).1)) 6
  have h2 := sm_nn (f := fun t => cp (aM (S 4 (pl S g t)))) (fun i => cp_nn (aM_nn (n4 _).1)) (S 1 0).toNat
  exact cp_nn (by omega)
theorem tt_nn {S : St} (hn : nOK S) (k : Int) : 0 ≤ tt S k := tO_nn hn _
theorem HB_b {S : St} {pos best : Int} {bv : Int → Int} (hn : nOK S) (H : HB S pos best bv) : best = 100000 ∨ (0 ≤ best ∧ best < 50000) := by
  rcases H with ⟨q1, q2⟩ | ⟨k0, q1, q2, q3, q4, q5, q6, q7, q8⟩
  · exact Or.inl q1
  · have := tt_nn hn k0
    omega
theorem lc_no {S : St} {best : Int} {bv : Int → Int} (hn : nOK S) (H : HB S 729 best bv) (h : 50000 ≤ best) : lcP S (-6) bv := by
  rcases H with ⟨q1, q2⟩ | ⟨k0, q1, q2, q3, q4, q5, q6, q7, q8⟩
  · exact Or.inl ⟨rfl, q2⟩
  · omega
theorem lc_yes {S : St} {best : Int} {bv : Int → Int} (hn : nOK S) (H : HB S 729 best bv) (h : best < 50000) : lcP S best bv := by
  rcases H with ⟨q1, q2⟩ | ⟨k0, q1, q2, q3, q4, q5, q6, q7, q8⟩
  · omega
  · exact Or.inr ⟨k0, q1, q2, q3, q4, q5, q6, q7, q8⟩
theorem lc_M {S U : St} {z : Int} {bv : Int → Int} {P : Int → Prop} (hn : nOK S) (h : ∀ k, k ≤ 4 → U k = S k) (hP : ∀ k, 0 ≤ k → k < 729 → (okk U k ↔ P k)) (H : lcP U z bv) : isM S P z := by
  rcases H with ⟨q1, q2⟩ | ⟨k0, q1, q2, q3, q4, q5, q6, q7, q8⟩
  · exact Or.inl ⟨q1, fun k a b c => by rw [← tt_c h]; exact q2 k a b ((hP k a b).mpr c)⟩
  · have := tt_nn hn k0
    rw [tt_c h] at q4
    exact Or.inr ⟨by omega, ⟨k0, q1, q2, (hP k0 q1 q2).mp q3, q4⟩, fun k a b c => by rw [← tt_c h]; exact q7 k a b ((hP k a b).mpr c)⟩
theorem okk_free {U : St} (h : ∀ j, 0 ≤ j → j < 6 → U 9 j = -1) (k : Int) : okk U k := fun v a b => Or.inl (by rw [h v a (by omega)]; decide)
theorem okk_one {U V : St} {v a : Int} (hv : 0 ≤ v ∧ v ≤ 5) (ha : 0 ≤ a) (h : ∀ j, 0 ≤ j → j < 6 → U 9 j = -1) (e : V = up U 9 v a) (k : Int) : okk V k ↔ dg k v = a := by
  subst e
  refine ⟨fun q => ?_, fun q u x y => ?_⟩
  · have := q v hv.1 hv.2
    rw [up_e] at this
    omega
  · rw [up_s]
    split
    · rename_i c
      subst c
      exact Or.inr q.symm
    · exact Or.inl (by rw [h u x (by omega)]; decide)
theorem okk_two {U V W : St} {v u a : Int} (hv : 0 ≤ v ∧ v ≤ 5) (hu : 0 ≤ u ∧ u ≤ 5) (ha : 0 ≤ a) (h : ∀ j, 0 ≤ j → j < 6 → U 9 j = -1) (e : V = up U 9 v a) (e2 : W = up V 9 u a) (k : Int) : okk W k ↔ (dg k v = a ∧ dg k u = a) := by
  subst e e2
  refine ⟨fun q => ?_, fun q w x y => ?_⟩
  · have q1 := q v hv.1 hv.2
    have q2 := q u hu.1 hu.2
    rw [up_s] at q1 q2
    rw [if_pos rfl] at q2
    by_cases c : v = u
    · subst c
      rw [if_pos rfl] at q1
      omega
    · rw [if_neg c, up_e] at q1
      omega
  · rw [up_s]
    split
    · rename_i c
      subst c
      exact Or.inr q.2.symm
    · rw [up_s]
      split
      · rename_i c
        subst c
        exact Or.inr q.1.symm
      · exact Or.inl (by rw [h w x (by omega)]; decide)
theorem lc_F {S U : St} {z : Int} {bv : Int → Int} (hn : nOK S) (h : ∀ k, k ≤ 4 → U k = S k) (hf : ∀ k, okk U k) (H : lcP U z bv) : (z = -6 ∧ noF S) ∨ (z ≠ -6 ∧ ∃ k0, isF S k0 ∧ z = tt S k0 ∧ ∀ j, 0 ≤ j → j < 6 → bv j = dg k0 j) := by
  rcases H with ⟨q1, q2⟩ | ⟨k0, q1, q2, q3, q4, q5, q6, q7, q8⟩
  · exact Or.inl ⟨q1, fun k a b => by rw [← tt_c h]; exact q2 k a b (hf k)⟩
  · have := tt_nn hn k0
    rw [tt_c h] at q4
    refine Or.inr ⟨by omega, k0, ⟨⟨q1, q2⟩, by omega, fun k a b => ?_, fun k a b => ?_⟩, q4.symm, q6⟩
    · rw [q4, ← tt_c h]; exact q7 k a b (hf k)
    · rw [q4, ← tt_c h]; exact q8 k a b (hf k)
theorem cnt_c {S U : St} {b : Int} (h : ∀ k, k ≤ 4 → U k = S k) (hf : ∀ k, okk U k) (hb : b ≤ 49999) : cn (fun k => okk U k ∧ tt U k ≤ b) 729 = cnt S b := by
  unfold cnt
  refine cn_c (fun k _ _ => ?_)
  rw [tt_c h]
  exact ⟨fun q => ⟨by have := q.2; omega, q.2⟩, fun q => ⟨hf k, q.2⟩⟩
theorem cnt_neg {S : St} (hn : nOK S) {b : Int} (hb : b < 0) : cnt S b = 0 := by
  unfold cnt
  have := cn_skip (P := fun k => tt S k < 50000 ∧ tt S k ≤ b) 0 729 (fun k _ _ q => by
    have := tt_nn hn k
    have := q.2
    omega)
  rw [Nat.zero_add] at this
  exact this
theorem cnt_big {S : St} {b : Int} (hb : 49999 ≤ b) : cnt S 49999 = cnt S b := by
  unfold cnt
  exact cn_c (fun k _ _ => by constructor <;> intro q <;> omega)
/-- a whole assignment costs at most 280 or is forbidden -/
theorem cnt_all {S : St} (hn : nOK S) {b : Int} (hb : 1000 ≤ b) : cnt S 49999 = cnt S b := by
  obtain ⟨n1, n0, n2, n3, n4, n5⟩ := id hn
  unfold cnt
  refine cn_c (fun k _ _ => ?_)
  have key : tt S k < 50000 → tt S k ≤ 1000 := by
    intro q
    unfold tt tO at q ⊢
    have bd : ∀ (f : Int → Int) (n : Nat), (∀ i, (0 ≤ f i ∧ f i ≤ 20) ∨ f i = 50000) → (0 ≤ sm f n ∧ sm f n ≤ 20 * n) ∨ 50000 ≤ sm f n := by
      intro f n hf
      induction n with
      | zero => left; exact ⟨Int.le_refl _, by simp [sm]⟩
      | succ n ih =>
        have := hf n
        show (0 ≤ sm f n + f n ∧ sm f n + f n ≤ 20 * (n + 1 : Nat)) ∨ 50000 ≤ sm f n + f n
        omega
    have am : ∀ y, 0 ≤ y ∧ y ≤ 20 → (0 ≤ cp (aM y) ∧ cp (aM y) ≤ 20) ∨ cp (aM y) = 50000 := fun y hy => by
      have := aM_o (z := aM y) rfl
      have := cp_o (aM y)
      omega
    have b1 := bd (fun v => cp (aM (S 0 (v * 3 + dg k v)))) 6 (fun i => am _ (n0 _))
    have b2 := bd (fun t => cp (aM (S 4 (pl S (dg k) t)))) (S 1 0).toNat (fun i => am _ (n4 _))
    have := cp_o (sm (fun v => cp (aM (S 0 (v * 3 + dg k v)))) 6 + sm (fun t => cp (aM (S 4 (pl S (dg k) t)))) (S 1 0).toNat)
    omega
  constructor <;> intro q
  · exact ⟨q.1, by have := key q.1; omega⟩
  · exact ⟨q.1, by omega⟩
end
section
set_option maxRecDepth 100000
theorem xOK_c {S T : St} (h : ∀ k, k ≤ 8 → T k = S k) (hI : xOK S) : xOK T := by
  obtain ⟨hn, hm, h5, h5b⟩ := id hI
  refine ⟨nOK_c (fun k hk => h k (by omega)) hn, mOK_c h hm, by rw [h 5 (by decide)]; exact h5, fun q g vg => ?_⟩
  rw [h 5 (by decide)] at q
  rw [tO_c (fun k hk => h k (by omega)), ← h5b q g vg]
  have hp : pl T g = pl S g := by
    funext i
    unfold pl
    rw [h 2 (by decide), h 3 (by decide)]
  unfold tM
  rw [hp, h 1 (by decide), h 6 (by decide), h 7 (by decide), h 8 (by decide)]
theorem lcP_b {S : St} {z : Int} {bv : Int → Int} (hn : nOK S) (H : lcP S z bv) : z = -6 ∨ (0 ≤ z ∧ z ≤ 49999) := by
  rcases H with ⟨q1, q2⟩ | ⟨k0, q1, q2, q3, q4, q5, q6, q7, q8⟩
  · exact Or.inl q1
  · have := tt_nn hn k0
    omega
def agr (S : St) (a b : Int) : Prop := ∃ k0, (0 ≤ k0 ∧ k0 < 729) ∧ tt S k0 < 50000 ∧ (∀ k, 0 ≤ k → k < 729 → tt S k0 ≤ tt S k) ∧ dg k0 a = dg k0 b
set_option maxHeartbeats 8000000 in
theorem kx_leastCost (l : Launch) (D : va_G) (d : ClassId) (h : Nat) (ad : Nat → Nat) (S : St) (hI : xOK S) (h9 : ∀ j, 0 ≤ j → j ≤ 5 → -1 ≤ S 9 j ∧ S 9 j ≤ 2) : gMi l D d (wX h ad d) h yX0_leastCost cX0_leastCost 1 (some .int) (rmv 5) [] S (fun z S' => frx S S' ∧ S' 9 = S 9 ∧ lcP S z (S' 15)) := by
  refine g_met (by decide) (Nat.le_of_ble_eq_true rfl) ?_
  intro p e s m args below meth c C hr hlk Z ls hl
  have C : CallFix p m c cX0_leastCost 1 s args lw_all RX0 := C
  have hx := C.1
  have hb := C.2.1
  have hl : lv_has ls 1 [(0, .ref h)] := hl
  refine lv_aload_n hx hb dX0_leastCost_0 rfl (lv_at hl 0 rfl) ?_
  refine z_ldc (z := 49999) hx hb C.2.2.2.1 (C.2.2.2.2 _ q113) (by decide) dX0_leastCost_1 ?_
  refine z_iconst hx hb dX0_leastCost_3 ?_
  refine g_callv (n := 2) (wr := []) (w := wX h ad d) (As := [.int (iI 49999), .int (iI 1)]) (rest := []) C Z hl.1 (kx_search l D d h ad S 49999 1 hI h9 (Or.inr rfl) (fun _ => rfl) (by omega)) (lw_V q114 q116 qs2 q19 q117) rfl rfl (by decide +kernel) rfl ⟨rfl, rfl⟩ ⟨Nat.le_of_ble_eq_true rfl, Nat.le_of_ble_eq_true rfl⟩ rfl (Nat.le_of_ble_eq_true rfl) dX0_leastCost_4 ⟨Nat.zero_le _, Nat.zero_le _⟩ (fun S2 H locs hz1 Z => ?_)
  have Z : GW D _ s H locs d (wX h ad d S2) := Z
  have hB : HB S 729 (S2 14 0) (S2 15) := HB_c (fun k hk => (hz1.1 k hk).symm) hz1.2.1.symm (hz1.2.2.2.1 rfl)
  have bb := HB_b hI.1 hB
  refine lv_aload_n hx hb dX0_leastCost_7 rfl (lv_at hl 0 rfl) ?_
  refine x_get_14 C Z dX0_leastCost_8 ?_
  refine z_ldc (z := 50000) hx hb C.2.2.2.1 (C.2.2.2.2 _ q136) (by decide) dX0_leastCost_11 ?_
  refine z_icmp_lt (tgt := 21) hx hb dX0_leastCost_13 (by decide) (by omega) (by omega) (fun c_13 => ?_) (fun c_13 => ?_)
  · refine lv_aload_n hx hb dX0_leastCost_21 rfl (lv_at hl 0 rfl) ?_
    refine x_get_14 C Z dX0_leastCost_22 ?_
    exact g_reti C hr hlk Z dX0_leastCost_25 (⟨⟨hz1.1, hz1.2.2.1⟩, hz1.2.1, lc_yes hI.1 hB (by omega)⟩)
  · refine z_bipush hx hb dX0_leastCost_16 (by decide) ?_
    refine lv_goto (tgt := 25) hx hb dX0_leastCost_18 (by decide) ?_
    exact g_reti C hr hlk Z dX0_leastCost_25 (⟨⟨hz1.1, hz1.2.2.1⟩, hz1.2.1, lc_no hI.1 hB (by omega)⟩)
set_option maxHeartbeats 8000000 in
theorem kx_countUpTo (l : Launch) (D : va_G) (d : ClassId) (h : Nat) (ad : Nat → Nat) (S : St) (bd : Int) (hI : xOK S) (h9 : ∀ j, 0 ≤ j → j ≤ 5 → -1 ≤ S 9 j ∧ S 9 j ≤ 2) (hbd : 0 ≤ bd ∧ bd ≤ 49999) : gMi l D d (wX h ad d) h yX0_countUpTo cX0_countUpTo 2 (some .int) (rmv 5) [.int (iI bd)] S (fun z S' => frx S S' ∧ S' 9 = S 9 ∧ z = cn (fun k => okk S k ∧ tt S k ≤ bd) 729) := by
  refine g_met (by decide) (Nat.le_of_ble_eq_true rfl) ?_
  intro p e s m args below meth c C hr hlk Z ls hl
  have C : CallFix p m c cX0_countUpTo 2 s args lw_all RX0 := C
  have hx := C.1
  have hb := C.2.1
  have hl : lv_has ls 2 [(0, .ref h), (1, .int (iI bd))] := hl
  refine lv_aload_n hx hb dX0_countUpTo_0 rfl (lv_at hl 0 rfl) ?_
  refine lv_iload_n hx hb dX0_countUpTo_1 rfl (lv_at hl 1 rfl) ?_
  refine z_iconst hx hb dX0_countUpTo_2 ?_
  refine g_callv (n := 2) (wr := []) (w := wX h ad d) (As := [.int (iI bd), .int (iI 0)]) (rest := []) C Z hl.1 (kx_search l D d h ad S bd 0 hI h9 (Or.inl rfl) (fun q => by omega) hbd) (lw_V q114 q116 qs2 q19 q117) rfl rfl (by decide +kernel) rfl ⟨rfl, rfl⟩ ⟨Nat.le_of_ble_eq_true rfl, Nat.le_of_ble_eq_true rfl⟩ rfl (Nat.le_of_ble_eq_true rfl) dX0_countUpTo_3 ⟨Nat.zero_le _, Nat.zero_le _⟩ (fun S2 H locs hz1 Z => ?_)
  have Z : GW D _ s H locs d (wX h ad d S2) := Z
  refine lv_aload_n hx hb dX0_countUpTo_6 rfl (lv_at hl 0 rfl) ?_
  refine x_get_13 C Z dX0_countUpTo_7 ?_
  exact g_reti C hr hlk Z dX0_countUpTo_10 (by
    have q := hz1.2.2.2.2 rfl
    refine ⟨⟨hz1.1, hz1.2.2.1⟩, hz1.2.1, ?_⟩
    rw [q]
    exact cn_c (fun k _ _ => by rw [okk_c hz1.2.1, tt_c hz1.1]))
set_option maxHeartbeats 8000000 in
theorem kx_least (l : Launch) (D : va_G) (d : ClassId) (h : Nat) (ad : Nat → Nat) (S : St) (hI : xOK S) : gMi l D d (wX h ad d) h yX0_least cX0_least 1 (some .int) (rmv 6) [] S (fun z S' => frx S S' ∧ isM S (fun _ => True) z) := by
  refine g_met (by decide) (Nat.le_of_ble_eq_true rfl) ?_
  intro p e s m args below meth c C hr hlk Z ls hl
  have C : CallFix p m c cX0_least 1 s args lw_all RX0 := C
  have hx := C.1
  have hb := C.2.1
  have hl : lv_has ls 1 [(0, .ref h)] := hl
  refine lv_aload_n hx hb dX0_least_0 rfl (lv_at hl 0 rfl) ?_
  refine g_callv (n := 0) (wr := []) (w := wX h ad d) (As := []) (rest := []) C Z hl.1 (kx_freeAll l D d h ad S) (lw_V q105 q107 qs0 q19 q108) rfl rfl (by decide +kernel) rfl ⟨rfl, rfl⟩ ⟨Nat.le_of_ble_eq_true rfl, Nat.le_of_ble_eq_true rfl⟩ rfl (Nat.le_of_ble_eq_true rfl) dX0_least_1 ⟨Nat.zero_le _, Nat.zero_le _⟩ (fun S2 H locs hz1 Z => ?_)
  have Z : GW D _ s H locs d (wX h ad d S2) := Z
  have xS2 : xOK S2 := xOK_c (fun k hk => hz1.1 k (by omega)) hI
  have iS2 : ∀ j, 0 ≤ j → j ≤ 5 → -1 ≤ S2 9 j ∧ S2 9 j ≤ 2 := fun j a b => by rw [hz1.2 j a (by omega)]; decide
  have uS2 : ∀ k, k ≤ 4 → S2 k = S k := fun k hk => by rw [hz1.1 k (by omega)]
  refine lv_aload_n hx hb dX0_least_4 rfl (lv_at hl 0 rfl) ?_
  refine g_calli (n := 0) (wr := []) (w := wX h ad d) (As := []) (rest := []) C Z hl.1 (kx_leastCost l D d h ad S2 xS2 iS2) (lw_V q109 q111 qs1 q19 q112) rfl rfl (by decide +kernel) rfl ⟨rfl, rfl⟩ ⟨Nat.le_of_ble_eq_true rfl, Nat.le_of_ble_eq_true rfl⟩ rfl (Nat.le_of_ble_eq_true rfl) dX0_least_5 ⟨Nat.zero_le _, Nat.zero_le _⟩ (fun z3 S4 H locs hz3 Z => ?_)
  have Z : GW D _ s H locs d (wX h ad d S4) := Z
  have uS4 : ∀ k, k ≤ 4 → S4 k = S k := fun k hk => by rw [hz3.1.1 k hk]; exact uS2 k hk
  have bz3 := lcP_b xS2.1 hz3.2.2
  exact g_reti C hr hlk Z dX0_least_8 (⟨⟨uS4, hz3.1.2⟩, lc_M hI.1 uS2 (fun k _ _ => ⟨fun _ => trivial, fun _ => okk_free hz1.2 k⟩) hz3.2.2⟩)
set_option maxHeartbeats 8000000 in
theorem kx_value (l : Launch) (D : va_G) (d : ClassId) (h : Nat) (ad : Nat → Nat) (S : St) (v : Int) (rv : -2147483648 ≤ v ∧ v ≤ 2147483647) (hI : xOK S) : gMi l D d (wX h ad d) h yX0_value cX0_value 3 (some .int) (rmv 6) [.int (iI v)] S (fun z S' => frx S S' ∧ (((v < 0 ∨ 6 ≤ v) ∧ z = -1) ∨ ((0 ≤ v ∧ v ≤ 5) ∧ ((z = -6 ∧ noF S) ∨ ∃ k0, isF S k0 ∧ z = dg k0 v)))) := by
  refine g_met (by decide) (Nat.le_of_ble_eq_true rfl) ?_
  intro p e s m args below meth c C hr hlk Z ls hl
  have C : CallFix p m c cX0_value 3 s args lw_all RX0 := C
  have hx := C.1
  have hb := C.2.1
  have hl : lv_has ls 3 [(0, .ref h), (1, .int (iI v))] := hl
  refine lv_iload_n hx hb dX0_value_0 rfl (lv_at hl 1 rfl) ?_
  refine g_calls (n := 1) (As := [.int (iI v)]) (rest := []) C Z hl.1 (c_badVariable l v (by omega)) (lw_S q83 q84 q19 q85) (by decide +kernel) rfl ⟨rfl, rfl⟩ ⟨Nat.le_of_ble_eq_true rfl, Nat.le_of_ble_eq_true rfl⟩ rfl (Nat.le_of_ble_eq_true rfl) dX0_value_1 ⟨Nat.zero_le _, Nat.zero_le _⟩ (fun z1 H locs hz1 Z => ?_)
  have gz1 := bV_o hz1
  refine z_if_eq (tgt := 9) hx hb dX0_value_4 (by decide) (by omega) (fun c_4 => ?_) (fun c_4 => ?_)
  · refine lv_aload_n hx hb dX0_value_9 rfl (lv_at hl 0 rfl) ?_
    refine g_callv (n := 0) (wr := []) (w := wX h ad d) (As := []) (rest := []) C Z hl.1 (kx_freeAll l D d h ad S) (lw_V q105 q107 qs0 q19 q108) rfl rfl (by decide +kernel) rfl ⟨rfl, rfl⟩ ⟨Nat.le_of_ble_eq_true rfl, Nat.le_of_ble_eq_true rfl⟩ rfl (Nat.le_of_ble_eq_true rfl) dX0_value_10 ⟨Nat.zero_le _, Nat.zero_le _⟩ (fun S3 H locs hz2 Z => ?_)
    have Z : GW D _ s H locs d (wX h ad d S3) := Z
    have xS3 : xOK S3 := xOK_c (fun k hk => hz2.1 k (by omega)) hI
    have iS3 : ∀ j, 0 ≤ j → j ≤ 5 → -1 ≤ S3 9 j ∧ S3 9 j ≤ 2 := fun j a b => by rw [hz2.2 j a (by omega)]; decide
    have uS3 : ∀ k, k ≤ 4 → S3 k = S k := fun k hk => by rw [hz2.1 k (by omega)]
    refine lv_aload_n hx hb dX0_value_13 rfl (lv_at hl 0 rfl) ?_
    refine g_calli (n := 0) (wr := []) (w := wX h ad d) (As := []) (rest := []) C Z hl.1 (kx_leastCost l D d h ad S3 xS3 iS3) (lw_V q109 q111 qs1 q19 q112) rfl rfl (by decide +kernel) rfl ⟨rfl, rfl⟩ ⟨Nat.le_of_ble_eq_true rfl, Nat.le_of_ble_eq_true rfl⟩ rfl (Nat.le_of_ble_eq_true rfl) dX0_value_14 ⟨Nat.zero_le _, Nat.zero_le _⟩ (fun z4 S5 H locs hz4 Z => ?_)
    have Z : GW D _ s H locs d (wX h ad d S5) := Z
    have uS5 : ∀ k, k ≤ 4 → S5 k = S k := fun k hk => by rw [hz4.1.1 k hk]; exact uS3 k hk
    have bz4 := lcP_b xS3.1 hz4.2.2
    refine lv_istore_n (lv' := [(2, .int (iI z4)), (0, .ref h), (1, .int (iI v))]) hx hb dX0_value_17 rfl hl (by decide) rfl (fun ls hl => ?_)
    refine lv_iload_n hx hb dX0_value_18 rfl (lv_at hl 0 rfl) ?_
    refine z_bipush hx hb dX0_value_19 (by decide) ?_
    refine z_icmp_ne (tgt := 29) hx hb dX0_value_21 (by decide) (by omega) (by omega) (fun c_21 => ?_) (fun c_21 => ?_)
    · refine lv_aload_n hx hb dX0_value_29 rfl (lv_at hl 1 rfl) ?_
      refine x_get_15 C Z dX0_value_30 ?_
      refine lv_iload_n hx hb dX0_value_33 rfl (lv_at hl 2 rfl) ?_
      refine x_ald_15 C Z (e0 := v) (by omega) (by omega) dX0_value_34 ?_
      exact g_reti C hr hlk Z dX0_value_35 (⟨⟨uS5, hz4.1.2⟩, Or.inr ⟨by omega, Or.inr (by
          rcases lc_F hI.1 uS3 (okk_free hz2.2) hz4.2.2 with q | ⟨q, k0, q1, q2, q3⟩
          · exact absurd q.1 c_21
          · exact ⟨k0, q1, q3 v (by omega) (by omega)⟩)⟩⟩)
    · refine z_bipush hx hb dX0_value_24 (by decide) ?_
      refine lv_goto (tgt := 35) hx hb dX0_value_26 (by decide) ?_
      exact g_reti C hr hlk Z dX0_value_35 (⟨⟨uS5, hz4.1.2⟩, Or.inr ⟨by omega, Or.inl ⟨rfl, by
          rcases lc_F hI.1 uS3 (okk_free hz2.2) hz4.2.2 with q | q
          · exact q.2
          · exact absurd c_21 q.1⟩⟩⟩)
  · refine z_iconst hx hb dX0_value_7 ?_
    exact g_reti C hr hlk Z dX0_value_8 (⟨⟨fun _ _ => rfl, hI⟩, Or.inl ⟨by omega, rfl⟩⟩)
set_option maxHeartbeats 8000000 in
theorem kx_leastWith (l : Launch) (D : va_G) (d : ClassId) (h : Nat) (ad : Nat → Nat) (S : St) (v : Int) (a : Int) (rv : -2147483648 ≤ v ∧ v ≤ 2147483647) (ra : -2147483648 ≤ a ∧ a ≤ 2147483647) (hI : xOK S) : gMi l D d (wX h ad d) h yX0_leastWith cX0_leastWith 3 (some .int) (rmv 6) [.int (iI v), .int (iI a)] S (fun z S' => frx S S' ∧ (((v < 0 ∨ 6 ≤ v) ∧ z = -1) ∨ ((0 ≤ v ∧ v ≤ 5) ∧ (a < 0 ∨ 2 < a) ∧ z = -2) ∨ ((0 ≤ v ∧ v ≤ 5) ∧ (0 ≤ a ∧ a ≤ 2) ∧ isM S (fun k => dg k v = a) z))) := by
  refine g_met (by decide) (Nat.le_of_ble_eq_true rfl) ?_
  intro p e s m args below meth c C hr hlk Z ls hl
  have C : CallFix p m c cX0_leastWith 3 s args lw_all RX0 := C
  have hx := C.1
  have hb := C.2.1
  have hl : lv_has ls 3 [(0, .ref h), (1, .int (iI v)), (2, .int (iI a))] := hl
  refine lv_iload_n hx hb dX0_leastWith_0 rfl (lv_at hl 1 rfl) ?_
  refine g_calls (n := 1) (As := [.int (iI v)]) (rest := []) C Z hl.1 (c_badVariable l v (by omega)) (lw_S q83 q84 q19 q85) (by decide +kernel) rfl ⟨rfl, rfl⟩ ⟨Nat.le_of_ble_eq_true rfl, Nat.le_of_ble_eq_true rfl⟩ rfl (Nat.le_of_ble_eq_true rfl) dX0_leastWith_1 ⟨Nat.zero_le _, Nat.zero_le _⟩ (fun z1 H locs hz1 Z => ?_)
  have gz1 := bV_o hz1
  refine z_if_eq (tgt := 9) hx hb dX0_leastWith_4 (by decide) (by omega) (fun c_4 => ?_) (fun c_4 => ?_)
  · refine lv_iload_n hx hb dX0_leastWith_9 rfl (lv_at hl 2 rfl) ?_
    refine z_if_lt (tgt := 18) hx hb dX0_leastWith_10 (by decide) (by omega) (fun c_10 => ?_) (fun c_10 => ?_)
    · refine z_bipush hx hb dX0_leastWith_18 (by decide) ?_
      exact g_reti C hr hlk Z dX0_leastWith_20 (⟨⟨fun _ _ => rfl, hI⟩, Or.inr (Or.inl ⟨by omega, by omega, rfl⟩)⟩)
    · refine lv_iload_n hx hb dX0_leastWith_13 rfl (lv_at hl 2 rfl) ?_
      refine z_iconst hx hb dX0_leastWith_14 ?_
      refine z_icmp_lt (tgt := 21) hx hb dX0_leastWith_15 (by decide) (by omega) (by omega) (fun c_15 => ?_) (fun c_15 => ?_)
      · refine lv_aload_n hx hb dX0_leastWith_21 rfl (lv_at hl 0 rfl) ?_
        refine g_callv (n := 0) (wr := []) (w := wX h ad d) (As := []) (rest := []) C Z hl.1 (kx_freeAll l D d h ad S) (lw_V q105 q107 qs0 q19 q108) rfl rfl (by decide +kernel) rfl ⟨rfl, rfl⟩ ⟨Nat.le_of_ble_eq_true rfl, Nat.le_of_ble_eq_true rfl⟩ rfl (Nat.le_of_ble_eq_true rfl) dX0_leastWith_22 ⟨Nat.zero_le _, Nat.zero_le _⟩ (fun S3 H locs hz2 Z => ?_)
        have Z : GW D _ s H locs d (wX h ad d S3) := Z
        have xS3 : xOK S3 := xOK_c (fun k hk => hz2.1 k (by omega)) hI
        have iS3 : ∀ j, 0 ≤ j → j ≤ 5 → -1 ≤ S3 9 j ∧ S3 9 j ≤ 2 := fun j a b => by rw [hz2.2 j a (by omega)]; decide
        have uS3 : ∀ k, k ≤ 4 → S3 k = S k := fun k hk => by rw [hz2.1 k (by omega)]
        refine lv_aload_n hx hb dX0_leastWith_25 rfl (lv_at hl 0 rfl) ?_
        refine x_get_9 C Z dX0_leastWith_26 ?_
        refine lv_iload_n hx hb dX0_leastWith_29 rfl (lv_at hl 1 rfl) ?_
        refine lv_iload_n hx hb dX0_leastWith_30 rfl (lv_at hl 2 rfl) ?_
        refine x_ast_9 C Z (e0 := v) (by omega) (by omega) dX0_leastWith_31 (fun S4 H locs eS4 Z => ?_)
        have xS4 : xOK S4 := xOK_c (fun k hk => by rw [eS4, up_n _ _ _ _ _ (by omega)]) xS3
        have iS4 : ∀ j, 0 ≤ j → j ≤ 5 → -1 ≤ S4 9 j ∧ S4 9 j ≤ 2 := fun j x y => by
          rw [eS4, up_s]
          split
          · omega
          · rw [hz2.2 j x (by omega)]; decide
        have uS4 : ∀ k, k ≤ 4 → S4 k = S k := fun k hk => by rw [eS4, up_n _ _ _ _ _ (by omega)]; exact uS3 k hk
        refine lv_aload_n hx hb dX0_leastWith_32 rfl (lv_at hl 0 rfl) ?_
        refine g_calli (n := 0) (wr := []) (w := wX h ad d) (As := []) (rest := []) C Z hl.1 (kx_leastCost l D d h ad S4 xS4 iS4) (lw_V q109 q111 qs1 q19 q112) rfl rfl (by decide +kernel) rfl ⟨rfl, rfl⟩ ⟨Nat.le_of_ble_eq_true rfl, Nat.le_of_ble_eq_true rfl⟩ rfl (Nat.le_of_ble_eq_true rfl) dX0_leastWith_33 ⟨Nat.zero_le _, Nat.zero_le _⟩ (fun z5 S6 H locs hz5 Z => ?_)
        have Z : GW D _ s H locs d (wX h ad d S6) := Z
        have uS6 : ∀ k, k ≤ 4 → S6 k = S k := fun k hk => by rw [hz5.1.1 k hk]; exact uS4 k hk
        have bz5 := lcP_b xS4.1 hz5.2.2
        exact g_reti C hr hlk Z dX0_leastWith_36 (⟨⟨uS6, hz5.1.2⟩, Or.inr (Or.inr ⟨by omega, by omega, lc_M hI.1 uS4 (fun k _ _ => okk_one (by omega) (by omega) hz2.2 eS4 k) hz5.2.2⟩)⟩)
      · refine z_bipush hx hb dX0_leastWith_18 (by decide) ?_
        exact g_reti C hr hlk Z dX0_leastWith_20 (⟨⟨fun _ _ => rfl, hI⟩, Or.inr (Or.inl ⟨by omega, by omega, rfl⟩)⟩)
  · refine z_iconst hx hb dX0_leastWith_7 ?_
    exact g_reti C hr hlk Z dX0_leastWith_8 (⟨⟨fun _ _ => rfl, hI⟩, Or.inl ⟨by omega, rfl⟩⟩)
set_option maxHeartbeats 8000000 in
theorem kx_ties (l : Launch) (D : va_G) (d : ClassId) (h : Nat) (ad : Nat → Nat) (S : St) (hI : xOK S) : gMi l D d (wX h ad d) h yX0_ties cX0_ties 2 (some .int) (rmv 6) [] S (fun z S' => frx S S' ∧ ((noF S ∧ z = 0) ∨ ∃ k0, isF S k0 ∧ z = cnt S (tt S k0))) := by
  refine g_met (by decide) (Nat.le_of_ble_eq_true rfl) ?_
  intro p e s m args below meth c C hr hlk Z ls hl
  have C : CallFix p m c cX0_ties 2 s args lw_all RX0 := C
  have hx := C.1
  have hb := C.2.1
  have hl : lv_has ls 2 [(0, .ref h)] := hl
  refine lv_aload_n hx hb dX0_ties_0 rfl (lv_at hl 0 rfl) ?_
  refine g_callv (n := 0) (wr := []) (w := wX h ad d) (As := []) (rest := []) C Z hl.1 (kx_freeAll l D d h ad S) (lw_V q105 q107 qs0 q19 q108) rfl rfl (by decide +kernel) rfl ⟨rfl, rfl⟩ ⟨Nat.le_of_ble_eq_true rfl, Nat.le_of_ble_eq_true rfl⟩ rfl (Nat.le_of_ble_eq_true rfl) dX0_ties_1 ⟨Nat.zero_le _, Nat.zero_le _⟩ (fun S2 H locs hz1 Z => ?_)
  have Z : GW D _ s H locs d (wX h ad d S2) := Z
  have xS2 : xOK S2 := xOK_c (fun k hk => hz1.1 k (by omega)) hI
  have iS2 : ∀ j, 0 ≤ j → j ≤ 5 → -1 ≤ S2 9 j ∧ S2 9 j ≤ 2 := fun j a b => by rw [hz1.2 j a (by omega)]; decide
  have uS2 : ∀ k, k ≤ 4 → S2 k = S k := fun k hk => by rw [hz1.1 k (by omega)]
  refine lv_aload_n hx hb dX0_ties_4 rfl (lv_at hl 0 rfl) ?_
  refine g_calli (n := 0) (wr := []) (w := wX h ad d) (As := []) (rest := []) C Z hl.1 (kx_leastCost l D d h ad S2 xS2 iS2) (lw_V q109 q111 qs1 q19 q112) rfl rfl (by decide +kernel) rfl ⟨rfl, rfl⟩ ⟨Nat.le_of_ble_eq_true rfl, Nat.le_of_ble_eq_true rfl⟩ rfl (Nat.le_of_ble_eq_true rfl) dX0_ties_5 ⟨Nat.zero_le _, Nat.zero_le _⟩ (fun z3 S4 H locs hz3 Z => ?_)
  have Z : GW D _ s H locs d (wX h ad d S4) := Z
  have uS4 : ∀ k, k ≤ 4 → S4 k = S k := fun k hk => by rw [hz3.1.1 k hk]; exact uS2 k hk
  have bz3 := lcP_b xS2.1 hz3.2.2
  refine lv_istore_n (lv' := [(1, .int (iI z3)), (0, .ref h)]) hx hb dX0_ties_8 rfl hl (by decide) rfl (fun ls hl => ?_)
  refine lv_iload_n hx hb dX0_ties_9 rfl (lv_at hl 0 rfl) ?_
  refine z_bipush hx hb dX0_ties_10 (by decide) ?_
  refine z_icmp_ne (tgt := 19) hx hb dX0_ties_12 (by decide) (by omega) (by omega) (fun c_12 => ?_) (fun c_12 => ?_)
  · refine lv_aload_n hx hb dX0_ties_19 rfl (lv_at hl 1 rfl) ?_
    refine lv_iload_n hx hb dX0_ties_20 rfl (lv_at hl 0 rfl) ?_
    refine g_calli (n := 1) (wr := []) (w := wX h ad d) (As := [.int (iI z3)]) (rest := []) C Z hl.1 (kx_countUpTo l D d h ad S4 z3 hz3.1.2 (by rw [hz3.2.1]; exact iS2) (by omega)) (lw_V q180 q182 qs12 q19 q183) rfl rfl (by decide +kernel) rfl ⟨rfl, rfl⟩ ⟨Nat.le_of_ble_eq_true rfl, Nat.le_of_ble_eq_true rfl⟩ rfl (Nat.le_of_ble_eq_true rfl) dX0_ties_21 ⟨Nat.zero_le _, Nat.zero_le _⟩ (fun z5 S6 H locs hz5 Z => ?_)
    have Z : GW D _ s H locs d (wX h ad d S6) := Z
    have uS6 : ∀ k, k ≤ 4 → S6 k = S k := fun k hk => by rw [hz5.1.1 k hk]; exact uS4 k hk
    exact g_reti C hr hlk Z dX0_ties_24 (⟨⟨uS6, hz5.1.2⟩, by
        rcases lc_F hI.1 uS2 (okk_free hz1.2) hz3.2.2 with q | ⟨q, k0, q1, q2, q3⟩
        · exact absurd q.1 c_12
        · refine Or.inr ⟨k0, q1, ?_⟩
          rw [hz5.2.2, ← q2]
          exact cnt_c uS4 (fun k => (okk_c hz3.2.1 k).mpr (okk_free hz1.2 k)) (by omega)⟩)
  · refine z_iconst hx hb dX0_ties_15 ?_
    refine lv_goto (tgt := 24) hx hb dX0_ties_16 (by decide) ?_
    exact g_reti C hr hlk Z dX0_ties_24 (⟨⟨uS4, hz3.1.2⟩, by
        rcases lc_F hI.1 uS2 (okk_free hz1.2) hz3.2.2 with q | q
        · exact Or.inl ⟨q.2, rfl⟩
        · exact absurd c_12 q.1⟩)
set_option maxHeartbeats 8000000 in
theorem kx_allowed (l : Launch) (D : va_G) (d : ClassId) (h : Nat) (ad : Nat → Nat) (S : St) (hI : xOK S) : gMi l D d (wX h ad d) h yX0_allowed cX0_allowed 1 (some .int) (rmv 6) [] S (fun z S' => frx S S' ∧ z = cnt S 49999) := by
  refine g_met (by decide) (Nat.le_of_ble_eq_true rfl) ?_
  intro p e s m args below meth c C hr hlk Z ls hl
  have C : CallFix p m c cX0_allowed 1 s args lw_all RX0 := C
  have hx := C.1
  have hb := C.2.1
  have hl : lv_has ls 1 [(0, .ref h)] := hl
  refine lv_aload_n hx hb dX0_allowed_0 rfl (lv_at hl 0 rfl) ?_
  refine g_callv (n := 0) (wr := []) (w := wX h ad d) (As := []) (rest := []) C Z hl.1 (kx_freeAll l D d h ad S) (lw_V q105 q107 qs0 q19 q108) rfl rfl (by decide +kernel) rfl ⟨rfl, rfl⟩ ⟨Nat.le_of_ble_eq_true rfl, Nat.le_of_ble_eq_true rfl⟩ rfl (Nat.le_of_ble_eq_true rfl) dX0_allowed_1 ⟨Nat.zero_le _, Nat.zero_le _⟩ (fun S2 H locs hz1 Z => ?_)
  have Z : GW D _ s H locs d (wX h ad d S2) := Z
  have xS2 : xOK S2 := xOK_c (fun k hk => hz1.1 k (by omega)) hI
  have iS2 : ∀ j, 0 ≤ j → j ≤ 5 → -1 ≤ S2 9 j ∧ S2 9 j ≤ 2 := fun j a b => by rw [hz1.2 j a (by omega)]; decide
  have uS2 : ∀ k, k ≤ 4 → S2 k = S k := fun k hk => by rw [hz1.1 k (by omega)]
  refine lv_aload_n hx hb dX0_allowed_4 rfl (lv_at hl 0 rfl) ?_
  refine z_ldc (z := 49999) hx hb C.2.2.2.1 (C.2.2.2.2 _ q113) (by decide) dX0_allowed_5 ?_
  refine g_calli (n := 1) (wr := []) (w := wX h ad d) (As := [.int (iI 49999)]) (rest := []) C Z hl.1 (kx_countUpTo l D d h ad S2 49999 xS2 iS2 (by omega)) (lw_V q180 q182 qs12 q19 q183) rfl rfl (by decide +kernel) rfl ⟨rfl, rfl⟩ ⟨Nat.le_of_ble_eq_true rfl, Nat.le_of_ble_eq_true rfl⟩ rfl (Nat.le_of_ble_eq_true rfl) dX0_allowed_7 ⟨Nat.zero_le _, Nat.zero_le _⟩ (fun z3 S4 H locs hz3 Z => ?_)
  have Z : GW D _ s H locs d (wX h ad d S4) := Z
  have uS4 : ∀ k, k ≤ 4 → S4 k = S k := fun k hk => by rw [hz3.1.1 k hk]; exact uS2 k hk
  exact g_reti C hr hlk Z dX0_allowed_10 (⟨⟨uS4, hz3.1.2⟩, by rw [hz3.2.2]; exact cnt_c uS2 (okk_free hz1.2) (by omega)⟩)
set_option maxHeartbeats 8000000 in
theorem kx_upTo (l : Launch) (D : va_G) (d : ClassId) (h : Nat) (ad : Nat → Nat) (S : St) (v : Int) (rv : -2147483648 ≤ v ∧ v ≤ 2147483647) (hI : xOK S) : gMi l D d (wX h ad d) h yX0_upTo cX0_upTo 2 (some .int) (rmv 6) [.int (iI v)] S (fun z S' => frx S S' ∧ z = cnt S v) := by
  refine g_met (by decide) (Nat.le_of_ble_eq_true rfl) ?_
  intro p e s m args below meth c C hr hlk Z ls hl
  have C : CallFix p m c cX0_upTo 2 s args lw_all RX0 := C
  have hx := C.1
  have hb := C.2.1
  have hl : lv_has ls 2 [(0, .ref h), (1, .int (iI v))] := hl
  refine lv_iload_n hx hb dX0_upTo_0 rfl (lv_at hl 1 rfl) ?_
  refine z_if_ge (tgt := 6) hx hb dX0_upTo_1 (by decide) (by omega) (fun c_1 => ?_) (fun c_1 => ?_)
  · refine lv_aload_n hx hb dX0_upTo_6 rfl (lv_at hl 0 rfl) ?_
    refine g_callv (n := 0) (wr := []) (w := wX h ad d) (As := []) (rest := []) C Z hl.1 (kx_freeAll l D d h ad S) (lw_V q105 q107 qs0 q19 q108) rfl rfl (by decide +kernel) rfl ⟨rfl, rfl⟩ ⟨Nat.le_of_ble_eq_true rfl, Nat.le_of_ble_eq_true rfl⟩ rfl (Nat.le_of_ble_eq_true rfl) dX0_upTo_7 ⟨Nat.zero_le _, Nat.zero_le _⟩ (fun S2 H locs hz1 Z => ?_)
    have Z : GW D _ s H locs d (wX h ad d S2) := Z
    have xS2 : xOK S2 := xOK_c (fun k hk => hz1.1 k (by omega)) hI
    have iS2 : ∀ j, 0 ≤ j → j ≤ 5 → -1 ≤ S2 9 j ∧ S2 9 j ≤ 2 := fun j a b => by rw [hz1.2 j a (by omega)]; decide
    have uS2 : ∀ k, k ≤ 4 → S2 k = S k := fun k hk => by rw [hz1.1 k (by omega)]
    refine lv_aload_n hx hb dX0_upTo_10 rfl (lv_at hl 0 rfl) ?_
    refine lv_iload_n hx hb dX0_upTo_11 rfl (lv_at hl 1 rfl) ?_
    refine z_ldc (z := 50000) hx hb C.2.2.2.1 (C.2.2.2.2 _ q136) (by decide) dX0_upTo_12 ?_
    refine z_icmp_ge (tgt := 21) hx hb dX0_upTo_14 (by decide) (by omega) (by omega) (fun c_14 => ?_) (fun c_14 => ?_)
    · refine z_ldc (z := 49999) hx hb C.2.2.2.1 (C.2.2.2.2 _ q113) (by decide) dX0_upTo_21 ?_
      refine g_calli (n := 1) (wr := []) (w := wX h ad d) (As := [.int (iI 49999)]) (rest := []) C Z hl.1 (kx_countUpTo l D d h ad S2 49999 xS2 iS2 (by omega)) (lw_V q180 q182 qs12 q19 q183) rfl rfl (by decide +kernel) rfl ⟨rfl, rfl⟩ ⟨Nat.le_of_ble_eq_true rfl, Nat.le_of_ble_eq_true rfl⟩ rfl (Nat.le_of_ble_eq_true rfl) dX0_upTo_23 ⟨Nat.zero_le _, Nat.zero_le _⟩ (fun z3 S4 H locs hz3 Z => ?_)
      have Z : GW D _ s H locs d (wX h ad d S4) := Z
      have uS4 : ∀ k, k ≤ 4 → S4 k = S k := fun k hk => by rw [hz3.1.1 k hk]; exact uS2 k hk
      exact g_reti C hr hlk Z dX0_upTo_26 (⟨⟨uS4, hz3.1.2⟩, by rw [hz3.2.2, cnt_c uS2 (okk_free hz1.2) (by omega)]; exact cnt_big (by omega)⟩)
    · refine lv_iload_n hx hb dX0_upTo_17 rfl (lv_at hl 1 rfl) ?_
      refine lv_goto (tgt := 23) hx hb dX0_upTo_18 (by decide) ?_
      refine g_calli (n := 1) (wr := []) (w := wX h ad d) (As := [.int (iI v)]) (rest := []) C Z hl.1 (kx_countUpTo l D d h ad S2 v xS2 iS2 (by omega)) (lw_V q180 q182 qs12 q19 q183) rfl rfl (by decide +kernel) rfl ⟨rfl, rfl⟩ ⟨Nat.le_of_ble_eq_true rfl, Nat.le_of_ble_eq_true rfl⟩ rfl (Nat.le_of_ble_eq_true rfl) dX0_upTo_23 ⟨Nat.zero_le _, Nat.zero_le _⟩ (fun z5 S6 H locs hz5 Z => ?_)
      have Z : GW D _ s H locs d (wX h ad d S6) := Z
      have uS6 : ∀ k, k ≤ 4 → S6 k = S k := fun k hk => by rw [hz5.1.1 k hk]; exact uS2 k hk
      exact g_reti C hr hlk Z dX0_upTo_26 (⟨⟨uS6, hz5.1.2⟩, by rw [hz5.2.2]; exact cnt_c uS2 (okk_free hz1.2) (by omega)⟩)
  · refine z_iconst hx hb dX0_upTo_4 ?_
    exact g_reti C hr hlk Z dX0_upTo_5 (⟨⟨fun _ _ => rfl, hI⟩, (cnt_neg hI.1 (by omega)).symm⟩)
set_option maxHeartbeats 8000000 in
theorem Lx_canAgree {p : Program} {l : Launch} {e : Env} {s : State} {m : MethodId} {args : Array Value} {below : List Frame} {meth : Method} {c : Code} {Q : State → Prop} {D : va_G} {A : Nat → Prop} {d : ClassId} {h : Nat} {ad : Nat → Nat} (C : CallFix p m c cX0_canAgree 6 s args lw_all RX0) (S : St) (a b co : Int) (ha : 0 ≤ a ∧ a ≤ 5) (hbb : 0 ≤ b ∧ b ≤ 5) (hn : nOK S) (hco : 0 ≤ co ∧ co ≤ 49999) (hmin : ∀ k, 0 ≤ k → k < 729 → co ≤ tt S k) (k1 : ∀ (T : St) (H : Heap) (locs : List Loc) (ls : Array Slot), GW D A s H locs d (wX h ad d T) → frx S T → agr S a b → W p l e (rmv 6) s m args below meth c H locs 0 0 Q (F0 m 74 ls [])) (k0 : ∀ (T : St) (H : Heap) (locs : List Loc) (ls : Array Slot), GW D A s H locs d (wX h ad d T) → frx S T → (∀ x, 0 ≤ x → x < 3 → ∀ k, 0 ≤ k → k < 729 → dg k a = x → dg k b = x → tt S k ≠ co) → W p l e (rmv 6) s m args below meth c H locs 0 0 Q (F0 m 82 ls [])) : ∀ (n : Nat) (v : Int) (T : St) (H : Heap) (locs : List Loc) (ls : Array Slot), 0 ≤ v → v ≤ 3 → 4 ≤ v + n → GW D A s H locs d (wX h ad d T) → frx S T → (∀ x, 0 ≤ x → x < v → ∀ k, 0 ≤ k → k < 729 → dg k a = x → dg k b = x → tt S k ≠ co) → lv_has ls 6 [(0, .ref h), (1, .int (iI a)), (2, .int (iI b)), (3, .int (iI co)), (4, .int (iI v))] → W p l e (rmv 6) s m args below meth c H locs 0 0 Q (F0 m 36 ls []) := by
  have hx := C.1
  have hb := C.2.1
  intro n
  induction n with
  | zero =>
    intro v T H locs ls h1 h2 h3
    exact absurd h3 (by omega)
  | succ n ih =>
    intro v T H locs ls h1 h2 h3 Z i0 i1 hl
    refine lv_iload hx hb dX0_canAgree_36 (lv_at hl 4 rfl) ?_
    refine z_iconst hx hb dX0_canAgree_38 ?_
    refine z_icmp_ge (tgt := 82) hx hb dX0_canAgree_39 (by decide) (by omega) (by omega) (fun c_39 => ?_) (fun c_39 => ?_)
    · obtain rfl : v = 3 := by omega
      exact k0 T H locs ls Z i0 i1
    · refine lv_aload_n hx hb dX0_canAgree_42 rfl (lv_at hl 0 rfl) ?_
      refine g_callv (n := 0) (wr := []) (w := wX h ad d) (As := []) (rest := []) C Z hl.1 (kx_freeAll l D d h ad T) (lw_V q105 q107 qs0 q19 q108) rfl rfl (by decide +kernel) rfl ⟨rfl, rfl⟩ ⟨Nat.le_of_ble_eq_true rfl, Nat.le_of_ble_eq_true rfl⟩ rfl (Nat.le_of_ble_eq_true rfl) dX0_canAgree_43 ⟨Nat.zero_le _, Nat.zero_le _⟩ (fun S2 H locs hz1 Z => ?_)
      have Z : GW D _ s H locs d (wX h ad d S2) := Z
      have xS2 : xOK S2 := xOK_c (fun k hk => hz1.1 k (by omega)) i0.2
      have iS2 : ∀ j, 0 ≤ j → j ≤ 5 → -1 ≤ S2 9 j ∧ S2 9 j ≤ 2 := fun j a b => by rw [hz1.2 j a (by omega)]; decide
      have uS2 : ∀ k, k ≤ 4 → S2 k = S k := fun k hk => by rw [hz1.1 k (by omega)]; exact i0.1 k hk
      refine lv_aload_n hx hb dX0_canAgree_46 rfl (lv_at hl 0 rfl) ?_
      refine x_get_9 C Z dX0_canAgree_47 ?_
      refine lv_iload_n hx hb dX0_canAgree_50 rfl (lv_at hl 1 rfl) ?_
      refine lv_iload hx hb dX0_canAgree_51 (lv_at hl 4 rfl) ?_
      refine x_ast_9 C Z (e0 := a) (by omega) (by omega) dX0_canAgree_53 (fun S3 H locs eS3 Z => ?_)
      refine lv_aload_n hx hb dX0_canAgree_54 rfl (lv_at hl 0 rfl) ?_
      refine x_get_9 C Z dX0_canAgree_55 ?_
      refine lv_iload_n hx hb dX0_canAgree_58 rfl (lv_at hl 2 rfl) ?_
      refine lv_iload hx hb dX0_canAgree_59 (lv_at hl 4 rfl) ?_
      refine x_ast_9 C Z (e0 := b) (by omega) (by omega) dX0_canAgree_61 (fun S4 H locs eS4 Z => ?_)
      have xS4 : xOK S4 := xOK_c (fun k hk => by rw [eS4, eS3, up_n _ _ _ _ _ (by omega), up_n _ _ _ _ _ (by omega)]) xS2
      have iS4 : ∀ j, 0 ≤ j → j ≤ 5 → -1 ≤ S4 9 j ∧ S4 9 j ≤ 2 := fun j x y => by
        rw [eS4, up_s]
        split
        · omega
        · rw [eS3, up_s]
          split
          · omega
          · rw [hz1.2 j x (by omega)]; decide
      have uS4 : ∀ k, k ≤ 4 → S4 k = S k := fun k hk => by rw [eS4, eS3, up_n _ _ _ _ _ (by omega), up_n _ _ _ _ _ (by omega)]; exact uS2 k hk
      refine lv_aload_n hx hb dX0_canAgree_62 rfl (lv_at hl 0 rfl) ?_
      refine g_calli (n := 0) (wr := []) (w := wX h ad d) (As := []) (rest := []) C Z hl.1 (kx_leastCost l D d h ad S4 xS4 iS4) (lw_V q109 q111 qs1 q19 q112) rfl rfl (by decide +kernel) rfl ⟨rfl, rfl⟩ ⟨Nat.le_of_ble_eq_true rfl, Nat.le_of_ble_eq_true rfl⟩ rfl (Nat.le_of_ble_eq_true rfl) dX0_canAgree_63 ⟨Nat.zero_le _, Nat.zero_le _⟩ (fun z5 S6 H locs hz5 Z => ?_)
      have Z : GW D _ s H locs d (wX h ad d S6) := Z
      have uS6 : ∀ k, k ≤ 4 → S6 k = S k := fun k hk => by rw [hz5.1.1 k hk]; exact uS4 k hk
      have bz5 := lcP_b xS4.1 hz5.2.2
      refine lv_istore (lv' := [(5, .int (iI z5)), (0, .ref h), (1, .int (iI a)), (2, .int (iI b)), (3, .int (iI co)), (4, .int (iI v))]) hx hb dX0_canAgree_66 hl (by decide) rfl (fun ls hl => ?_)
      have im : isM S (fun k => dg k a = v ∧ dg k b = v) z5 := lc_M hn uS4 (fun k _ _ => okk_two ha hbb h1 hz1.2 eS3 eS4 k) hz5.2.2
      refine lv_iload hx hb dX0_canAgree_68 (lv_at hl 0 rfl) ?_
      refine lv_iload_n hx hb dX0_canAgree_70 rfl (lv_at hl 4 rfl) ?_
      refine z_icmp_ne (tgt := 76) hx hb dX0_canAgree_71 (by decide) (by omega) (by omega) (fun c_71 => ?_) (fun c_71 => ?_)
      · refine z_iinc (lv' := [(4, .int (iI (v + 1))), (5, .int (iI z5)), (0, .ref h), (1, .int (iI a)), (2, .int (iI b)), (3, .int (iI co))]) hx hb dX0_canAgree_76 hl (k := 5) rfl (by decide) rfl (fun ls hl => ?_)
        refine lv_goto (tgt := 36) hx hb dX0_canAgree_79 (by decide) ?_
        refine ih (v + 1) S6 H locs ls (by omega) (by omega) (by omega) Z ⟨uS6, hz5.1.2⟩ (fun x y0 y1 k y2 y3 y4 y5 y6 => ?_) (lv_sub hl [2, 3, 4, 5, 0] rfl)
        by_cases q : x = v
        · subst q
          rcases im with q | ⟨q1, ⟨k', q2, q3, q4, q5⟩, q6⟩
          · have := q.2 k y2 y3 ⟨y4, y5⟩
            omega
          · have := q6 k y2 y3 ⟨y4, y5⟩
            have := hmin k' q2 q3
            omega
        · exact i1 x y0 (by omega) k y2 y3 y4 y5 y6
      · refine k1 S6 H locs ls Z ⟨uS6, hz5.1.2⟩ ?_
        rcases im with q | ⟨q1, ⟨k, q2, q3, q4, q5⟩, q6⟩
        · omega
        · exact ⟨k, ⟨q2, q3⟩, by omega, fun k' x y => by rw [q5, c_71]; exact hmin k' x y, by rw [q4.1, q4.2]⟩
set_option maxHeartbeats 8000000 in
theorem kx_canAgree (l : Launch) (D : va_G) (d : ClassId) (h : Nat) (ad : Nat → Nat) (S : St) (a : Int) (b : Int) (ra : -2147483648 ≤ a ∧ a ≤ 2147483647) (rb : -2147483648 ≤ b ∧ b ≤ 2147483647) (hI : xOK S) : gMi l D d (wX h ad d) h yX0_canAgree cX0_canAgree 6 (some .boolean) (rmv 6) [.int (iI a), .int (iI b)] S (fun z S' => frx S S' ∧ (z = 0 ∨ z = 1) ∧ (z = 1 ↔ ((0 ≤ a ∧ a ≤ 5) ∧ (0 ≤ b ∧ b ≤ 5) ∧ agr S a b))) := by
  refine g_met (by decide) (Nat.le_of_ble_eq_true rfl) ?_
  intro p e s m args below meth c C hr hlk Z ls hl
  have C : CallFix p m c cX0_canAgree 6 s args lw_all RX0 := C
  have hx := C.1
  have hb := C.2.1
  have hl : lv_has ls 6 [(0, .ref h), (1, .int (iI a)), (2, .int (iI b))] := hl
  refine lv_iload_n hx hb dX0_canAgree_0 rfl (lv_at hl 1 rfl) ?_
  refine g_calls (n := 1) (As := [.int (iI a)]) (rest := []) C Z hl.1 (c_badVariable l a (by omega)) (lw_S q83 q84 q19 q85) (by decide +kernel) rfl ⟨rfl, rfl⟩ ⟨Nat.le_of_ble_eq_true rfl, Nat.le_of_ble_eq_true rfl⟩ rfl (Nat.le_of_ble_eq_true rfl) dX0_canAgree_1 ⟨Nat.zero_le _, Nat.zero_le _⟩ (fun z1 H locs hz1 Z => ?_)
  have gz1 := bV_o hz1
  refine z_if_ne (tgt := 14) hx hb dX0_canAgree_4 (by decide) (by omega) (fun c_4 => ?_) (fun c_4 => ?_)
  · refine z_iconst hx hb dX0_canAgree_14 ?_
    exact g_retz C hr hlk Z dX0_canAgree_15 (by omega) (⟨⟨fun _ _ => rfl, hI⟩, Or.inl rfl, ⟨fun q => by omega, fun q => by omega⟩⟩)
  · refine lv_iload_n hx hb dX0_canAgree_7 rfl (lv_at hl 2 rfl) ?_
    refine g_calls (n := 1) (As := [.int (iI b)]) (rest := []) C Z hl.1 (c_badVariable l b (by omega)) (lw_S q83 q84 q19 q85) (by decide +kernel) rfl ⟨rfl, rfl⟩ ⟨Nat.le_of_ble_eq_true rfl, Nat.le_of_ble_eq_true rfl⟩ rfl (Nat.le_of_ble_eq_true rfl) dX0_canAgree_8 ⟨Nat.zero_le _, Nat.zero_le _⟩ (fun z2 H locs hz2 Z => ?_)
    have gz2 := bV_o hz2
    refine z_if_eq (tgt := 16) hx hb dX0_canAgree_11 (by decide) (by omega) (fun c_11 => ?_) (fun c_11 => ?_)
    · refine lv_aload_n hx hb dX0_canAgree_16 rfl (lv_at hl 0 rfl) ?_
      refine g_callv (n := 0) (wr := []) (w := wX h ad d) (As := []) (rest := []) C Z hl.1 (kx_freeAll l D d h ad S) (lw_V q105 q107 qs0 q19 q108) rfl rfl (by decide +kernel) rfl ⟨rfl, rfl⟩ ⟨Nat.le_of_ble_eq_true rfl, Nat.le_of_ble_eq_true rfl⟩ rfl (Nat.le_of_ble_eq_true rfl) dX0_canAgree_17 ⟨Nat.zero_le _, Nat.zero_le _⟩ (fun S4 H locs hz3 Z => ?_)
      have Z : GW D _ s H locs d (wX h ad d S4) := Z
      have xS4 : xOK S4 := xOK_c (fun k hk => hz3.1 k (by omega)) hI
      have iS4 : ∀ j, 0 ≤ j → j ≤ 5 → -1 ≤ S4 9 j ∧ S4 9 j ≤ 2 := fun j a b => by rw [hz3.2 j a (by omega)]; decide
      have uS4 : ∀ k, k ≤ 4 → S4 k = S k := fun k hk => by rw [hz3.1 k (by omega)]
      refine lv_aload_n hx hb dX0_canAgree_20 rfl (lv_at hl 0 rfl) ?_
      refine g_calli (n := 0) (wr := []) (w := wX h ad d) (As := []) (rest := []) C Z hl.1 (kx_leastCost l D d h ad S4 xS4 iS4) (lw_V q109 q111 qs1 q19 q112) rfl rfl (by decide +kernel) rfl ⟨rfl, rfl⟩ ⟨Nat.le_of_ble_eq_true rfl, Nat.le_of_ble_eq_true rfl⟩ rfl (Nat.le_of_ble_eq_true rfl) dX0_canAgree_21 ⟨Nat.zero_le _, Nat.zero_le _⟩ (fun z5 S6 H locs hz5 Z => ?_)
      have Z : GW D _ s H locs d (wX h ad d S6) := Z
      have uS6 : ∀ k, k ≤ 4 → S6 k = S k := fun k hk => by rw [hz5.1.1 k hk]; exact uS4 k hk
      have bz5 := lcP_b xS4.1 hz5.2.2
      refine lv_istore_n (lv' := [(3, .int (iI z5)), (0, .ref h), (1, .int (iI a)), (2, .int (iI b))]) hx hb dX0_canAgree_24 rfl hl (by decide) rfl (fun ls hl => ?_)
      refine lv_iload_n hx hb dX0_canAgree_25 rfl (lv_at hl 0 rfl) ?_
      refine z_bipush hx hb dX0_canAgree_26 (by decide) ?_
      refine z_icmp_ne (tgt := 33) hx hb dX0_canAgree_28 (by decide) (by omega) (by omega) (fun c_28 => ?_) (fun c_28 => ?_)
      · refine z_iconst hx hb dX0_canAgree_33 ?_
        refine lv_istore (lv' := [(4, .int (iI 0)), (3, .int (iI z5)), (0, .ref h), (1, .int (iI a)), (2, .int (iI b))]) hx hb dX0_canAgree_34 hl (by decide) rfl (fun ls hl => ?_)
        rcases lc_F hI.1 uS4 (okk_free hz3.2) hz5.2.2 with q | ⟨q, k0, q1, q2, q3⟩
        · exact absurd q.1 c_28
        refine Lx_canAgree C S a b z5 (by omega) (by omega) hI.1 (by omega) (fun k x y => by rw [q2]; exact q1.2.2.1 k x y) (fun T H locs ls Z i0 ia => ?_) (fun T H locs ls Z i0 ia => ?_) 4 0 S6 _ _ ls (by omega) (by omega) (by omega) Z ⟨uS6, hz5.1.2⟩ (fun x y0 y1 => by omega) (lv_sub hl [2, 3, 4, 1, 0] rfl)
        · refine z_iconst hx hb dX0_canAgree_74 ?_
          exact g_retz C hr hlk Z dX0_canAgree_75 (by omega) (⟨i0, Or.inr rfl, ⟨fun _ => ⟨by omega, by omega, ia⟩, fun _ => rfl⟩⟩)
        · refine z_iconst hx hb dX0_canAgree_82 ?_
          exact g_retz C hr hlk Z dX0_canAgree_83 (by omega) (⟨i0, Or.inl rfl, ⟨fun q => by omega, fun q => by
              obtain ⟨-, -, k, q4, q5, q6, q7⟩ := q
              have bk := dg_b k a
              have e1 := q6 k0 q1.1.1 q1.1.2
              have e2 := q1.2.2.1 k q4.1 q4.2
              exact absurd (by omega) (ia (dg k a) bk.1 (by omega) k q4.1 q4.2 rfl q7.symm)⟩⟩)
      · refine z_iconst hx hb dX0_canAgree_31 ?_
        exact g_retz C hr hlk Z dX0_canAgree_32 (by omega) (⟨⟨uS6, hz5.1.2⟩, Or.inl rfl, ⟨fun q => by omega, fun q => by
            rcases lc_F hI.1 uS4 (okk_free hz3.2) hz5.2.2 with y | ⟨y, -⟩
            · obtain ⟨-, -, k, q4, q5, q6, q7⟩ := q
              have := y.2 k q4.1 q4.2
              omega
            · exact absurd c_28 y⟩⟩)
    · refine z_iconst hx hb dX0_canAgree_14 ?_
      exact g_retz C hr hlk Z dX0_canAgree_15 (by omega) (⟨⟨fun _ _ => rfl, hI⟩, Or.inl rfl, ⟨fun q => by omega, fun q => by omega⟩⟩)
end
section
set_option maxRecDepth 100000
/-! ===== the model's state ===== -/
def nm (M : St) : St := fun k => if k = 0 then M 0 else if k = 1 then M 4 else if k = 2 then M 1 else if k = 3 then M 2 else M 3
def tmv (x : Int) : Int := if 50000 ≤ x then -6 else x
theorem tmv_o (x : Int) : (50000 ≤ x ∧ tmv x = -6) ∨ (x < 50000 ∧ tmv x = x) := by
  unfold tmv
  split <;> omega
def ttl (M : St) : Prop := ∀ k, 0 ≤ k → k < 729 → M 5 k = tmv (tt (nm M) k)
def mdOK (M : St) : Prop := nOK (nm M) ∧ (M 6 0 = 0 ∨ M 6 0 = 1) ∧ (M 6 0 = 1 → ttl M)
def frm (S S' : St) : Prop := (∀ k, k ≤ 4 → S' k = S k) ∧ mdOK S'
theorem nm_c {S T : St} (h : ∀ k, k ≤ 4 → T k = S k) : nm T = nm S := by
  unfold nm
  rw [h 0 (by decide), h 1 (by decide), h 2 (by decide), h 3 (by decide), h 4 (by decide)]
theorem dv_b {k : Int} (h : 0 ≤ k) (n : Nat) : 0 ≤ dv k n ∧ dv k n ≤ k := by
  induction n with
  | zero => exact ⟨h, Int.le_refl _⟩
  | succ n ih =>
    show 0 ≤ dv k n / 3 ∧ dv k n / 3 ≤ k
    omega
/-- totalOf: the sum so far and whether it is forbidden, against the capped sum X -/
def tl (u b X B : Int) : Prop := (b = 1 ∧ 50000 ≤ X) ∨ (b = 0 ∧ u = X ∧ 0 ≤ X ∧ X ≤ B)
theorem tl_s {u b X B w b' : Int} (h : tl u b X B) (hw : 0 ≤ w ∧ w ≤ 20) (hb : (b' = 1 ∧ (b ≠ 0 ∨ w = 20)) ∨ (b' = 0 ∧ b = 0 ∧ w ≠ 20)) : tl (u + w) b' (X + cp (aM w)) (B + 20) := by
  have g1 := aM_o (z := aM w) rfl
  have g2 := cp_o (aM w)
  unfold tl at *
  omega
/-- first: the best so far among F 0 .. F (n-1) -/
def fP (F : Int → Int) (n b : Int) : Prop := (b = -6 ∧ ∀ k, 0 ≤ k → k < n → F k < 0) ∨ (0 ≤ b ∧ b < n ∧ 0 ≤ F b ∧ (∀ k, 0 ≤ k → k < n → 0 ≤ F k → F b ≤ F k) ∧ ∀ k, 0 ≤ k → k < b → 0 ≤ F k → F b < F k)
theorem fP_keep {F : Int → Int} {n b : Int} (h : fP F n b) (hc : F n < 0 ∨ (0 ≤ b ∧ F b ≤ F n)) : fP F (n + 1) b := by
  rcases h with ⟨h1, h2⟩ | ⟨h1, h2, h3, h4, h5⟩
  · refine Or.inl ⟨h1, fun k x y => ?_⟩
    by_cases q : k = n
    · subst q; omega
    · exact h2 k x (by omega)
  · refine Or.inr ⟨h1, by omega, h3, fun k x y z => ?_, h5⟩
    by_cases q : k = n
    · subst q; omega
    · exact h4 k x (by omega) z
theorem fP_new {F : Int → Int} {n b : Int} (h : fP F n b) (h0 : 0 ≤ n) (hn : 0 ≤ F n) (hc : b < 0 ∨ F n < F b) : fP F (n + 1) n := by
  rcases h with ⟨h1, h2⟩ | ⟨h1, h2, h3, h4, h5⟩
  · refine Or.inr ⟨h0, by omega, hn, fun k x y z => ?_, fun k x y z => ?_⟩
    · by_cases q : k = n
      · subst q; omega
      · have := h2 k x (by omega); omega
    · have := h2 k x (by omega); omega
  · refine Or.inr ⟨h0, by omega, hn, fun k x y z => ?_, fun k x y z => ?_⟩
    · by_cases q : k = n
      · subst q; omega
      · have := h4 k x (by omega) z; omega
    · have := h4 k x (by omega) z; omega
theorem fP_F {N : St} {F : Int → Int} {b : Int} (hn : nOK N) (hF : ∀ k, 0 ≤ k → k < 729 → F k = tmv (tt N k)) (h : fP F 729 b) : (b = -6 ∧ noF N) ∨ (0 ≤ b ∧ isF N b ∧ F b = tt N b) := by
  rcases h with ⟨h1, h2⟩ | ⟨h1, h2, h3, h4, h5⟩
  · refine Or.inl ⟨h1, fun k x y => ?_⟩
    have := h2 k x y
    have := hF k x y
    have := tmv_o (tt N k)
    have := tt_nn hn k
    omega
  · have e1 := hF b h1 h2
    have e2 := tmv_o (tt N b)
    refine Or.inr ⟨h1, ⟨⟨h1, h2⟩, by omega, fun k x y => ?_, fun k x y => ?_⟩, by omega⟩
    · have e3 := hF k x y
      have e4 := tmv_o (tt N k)
      have e5 := tt_nn hn k
      by_cases q : 50000 ≤ tt N k
      · omega
      · have := h4 k x y (by omega)
        omega
    · have e3 := hF k x (by omega)
      have e4 := tmv_o (tt N k)
      have e5 := tt_nn hn k
      by_cases q : 50000 ≤ tt N k
      · omega
      · have := h5 k x y (by omega)
        omega
/-- leastWith: the least so far among those with P -/
def mP (F : Int → Int) (P : Int → Prop) (n r : Int) : Prop := (r = -6 ∧ ∀ k, 0 ≤ k → k < n → P k → F k < 0) ∨ (0 ≤ r ∧ (∃ k, 0 ≤ k ∧ k < n ∧ P k ∧ F k = r) ∧ ∀ k, 0 ≤ k → k < n → P k → 0 ≤ F k → r ≤ F k)
theorem mP_keep {F : Int → Int} {P : Int → Prop} {n r : Int} (h : mP F P n r) (hc : F n < 0 ∨ ¬ P n ∨ (0 ≤ r ∧ r ≤ F n)) : mP F P (n + 1) r := by
  rcases h with ⟨h1, h2⟩ | ⟨h1, ⟨k0, h2, h3, h4, h5⟩, h6⟩
  · refine Or.inl ⟨h1, fun k x y z => ?_⟩
    by_cases q : k = n
    · subst q
      rcases hc with c | c | c
      · exact c
      · exact absurd z c
      · omega
    · exact h2 k x (by omega) z
  · refine Or.inr ⟨h1, ⟨k0, h2, by omega, h4, h5⟩, fun k x y z w => ?_⟩
    by_cases q : k = n
    · subst q
      rcases hc with c | c | c
      · omega
      · exact absurd z c
      · omega
    · exact h6 k x (by omega) z w
theorem mP_new {F : Int → Int} {P : Int → Prop} {n r : Int} (h : mP F P n r) (h0 : 0 ≤ n) (hn : 0 ≤ F n) (hp : P n) (hc : r < 0 ∨ F n < r) : mP F P (n + 1) (F n) := by
  refine Or.inr ⟨hn, ⟨n, h0, by omega, hp, rfl⟩, fun k x y z w => ?_⟩
  by_cases q : k = n
  · subst q; omega
  · rcases h with ⟨h1, h2⟩ | ⟨h1, h2, h6⟩
    · have := h2 k x (by omega) z; omega
    · have := h6 k x (by omega) z w; omega
theorem mP_M {N : St} {F : Int → Int} {P : Int → Prop} {r : Int} (hn : nOK N) (hF : ∀ k, 0 ≤ k → k < 729 → F k = tmv (tt N k)) (h : mP F P 729 r) : isM N P r := by
  rcases h with ⟨h1, h2⟩ | ⟨h1, ⟨k0, h2, h3, h4, h5⟩, h6⟩
  · refine Or.inl ⟨h1, fun k x y z => ?_⟩
    have := h2 k x y z
    have := hF k x y
    have := tmv_o (tt N k)
    have := tt_nn hn k
    omega
  · have e1 := hF k0 h2 h3
    have e2 := tmv_o (tt N k0)
    refine Or.inr ⟨by omega, ⟨k0, h2, h3, h4, by omega⟩, fun k x y z => ?_⟩
    have e3 := hF k x y
    have e4 := tmv_o (tt N k)
    have e5 := tt_nn hn k
    by_cases q : 50000 ≤ tt N k
    · omega
    · have := h6 k x y z (by omega)
      omega
theorem cn_F {N : St} {F : Int → Int} {b : Int} (hn : nOK N) (hF : ∀ k, 0 ≤ k → k < 729 → F k = tmv (tt N k)) : cn (fun k => 0 ≤ F k ∧ F k ≤ b) 729 = cnt N b := by
  unfold cnt
  refine cn_c (fun k x y => ?_)
  have e3 := hF k x (by omega)
  have e4 := tmv_o (tt N k)
  have e5 := tt_nn hn k
  constructor <;> intro q <;> omega
theorem isF_M {N : St} {k : Int} (hn : nOK N) (h : isF N k) : isM N (fun _ => True) (tt N k) := by
  have := tt_nn hn k
  exact Or.inr ⟨⟨this, h.2.1⟩, ⟨k, h.1.1, h.1.2, trivial, rfl⟩, fun k x y _ => h.2.2.1 k x y⟩
theorem noF_M {N : St} (h : noF N) : isM N (fun _ => True) (-6) := Or.inl ⟨rfl, fun k x y _ => h k x y⟩
end
section
set_option maxRecDepth 100000
set_option maxHeartbeats 8000000 in
theorem Lm_valueIn {p : Program} {l : Launch} {e : Env} {s : State} {m : MethodId} {args : Array Value} {below : List Frame} {meth : Method} {c : Code} {Q : State → Prop} {D : va_G} {A : Nat → Prop} {d : ClassId} {h : Nat} {ad : Nat → Nat} (C : CallFix p m c cX1_valueIn 5 s args lw_all RX1) (S : St) (k v : Int) (hk : 0 ≤ k ∧ k ≤ 1000) (hv : 0 ≤ v ∧ v ≤ 5) (kk : ∀ (H : Heap) (locs : List Loc) (ls : Array Slot), GW D A s H locs d (wM h ad d S) → lv_has ls 5 [(0, .ref h), (3, .int (iI (dv k (5 - v).toNat)))] → W p l e (rmv 0) s m args below meth c H locs 0 0 Q (F0 m 21 ls [])) : ∀ (n : Nat) (u r : Int) (H : Heap) (locs : List Loc) (ls : Array Slot), v ≤ u → u ≤ 5 → u + 1 ≤ v + n → r = dv k (5 - u).toNat → GW D A s H locs d (wM h ad d S) → lv_has ls 5 [(0, .ref h), (1, .int (iI k)), (2, .int (iI v)), (3, .int (iI r)), (4, .int (iI u))] → W p l e (rmv 0) s m args below meth c H locs 0 0 Q (F0 m 5 ls []) := by
  have hx := C.1
  have hb := C.2.1
  intro n
  induction n with
  | zero =>
    intro u r H locs ls h1 h2 h3
    exact absurd h3 (by omega)
  | succ n ih =>
    intro u r H locs ls h1 h2 h3 er Z hl
    have br := dv_b hk.1 (5 - u).toNat
    rw [← er] at br
    refine lv_iload hx hb dX1_valueIn_5 (lv_at hl 4 rfl) ?_
    refine lv_iload_n hx hb dX1_valueIn_7 rfl (lv_at hl 2 rfl) ?_
    refine z_icmp_le (tgt := 21) hx hb dX1_valueIn_8 (by decide) (by omega) (by omega) (fun c_8 => ?_) (fun c_8 => ?_)
    · obtain rfl : u = v := by omega
      rw [er] at hl
      exact kk H locs ls Z (lv_sub hl [0, 3] rfl)
    · refine lv_iload_n hx hb dX1_valueIn_11 rfl (lv_at hl 3 rfl) ?_
      refine z_iconst hx hb dX1_valueIn_12 ?_
      refine z_idiv3 hx hb (by omega) dX1_valueIn_13 ?_
      refine lv_istore_n (lv' := [(3, .int (iI (r / 3))), (0, .ref h), (1, .int (iI k)), (2, .int (iI v)), (4, .int (iI u))]) hx hb dX1_valueIn_14 rfl hl (by decide) rfl (fun ls hl => ?_)
      refine z_iinc (lv' := [(4, .int (iI (u + (-1)))), (3, .int (iI (r / 3))), (0, .ref h), (1, .int (iI k)), (2, .int (iI v))]) hx hb dX1_valueIn_15 hl (k := 4) rfl (by decide) rfl (fun ls hl => ?_)
      refine lv_goto (tgt := 5) hx hb dX1_valueIn_18 (by decide) ?_
      exact ih (u + (-1)) (r / 3) H locs ls (by omega) (by omega) (by omega) (by rw [show (5 - (u + (-1))).toNat = (5 - u).toNat + 1 by omega, er]; rfl) Z (lv_sub hl [2, 3, 4, 1, 0] rfl)
set_option maxHeartbeats 8000000 in
theorem km_valueIn (l : Launch) (D : va_G) (d : ClassId) (h : Nat) (ad : Nat → Nat) (S : St) (k : Int) (v : Int) (hk : 0 ≤ k ∧ k ≤ 1000) (hv : 0 ≤ v ∧ v ≤ 5) : gMi l D d (wM h ad d) h yX1_valueIn cX1_valueIn 5 (some .int) (rmv 0) [.int (iI k), .int (iI v)] S (fun z S' => z = dg k v ∧ S' = S) := by
  refine g_met (by decide) (Nat.le_of_ble_eq_true rfl) ?_
  intro p e s m args below meth c C hr hlk Z ls hl
  have C : CallFix p m c cX1_valueIn 5 s args lw_all RX1 := C
  have hx := C.1
  have hb := C.2.1
  have hl : lv_has ls 5 [(0, .ref h), (1, .int (iI k)), (2, .int (iI v))] := hl
  refine lv_iload_n hx hb dX1_valueIn_0 rfl (lv_at hl 1 rfl) ?_
  refine lv_istore_n (lv' := [(3, .int (iI k)), (0, .ref h), (1, .int (iI k)), (2, .int (iI v))]) hx hb dX1_valueIn_1 rfl hl (by decide) rfl (fun ls hl => ?_)
  refine z_iconst hx hb dX1_valueIn_2 ?_
  refine lv_istore (lv' := [(4, .int (iI 5)), (3, .int (iI k)), (0, .ref h), (1, .int (iI k)), (2, .int (iI v))]) hx hb dX1_valueIn_3 hl (by decide) rfl (fun ls hl => ?_)
  have bq := dv_b hk.1 (5 - v).toNat
  refine Lm_valueIn C S k v hk hv (fun H locs ls Z hl => ?_) 6 5 k _ _ ls (by omega) (by omega) (by omega) rfl Z (lv_sub hl [2, 3, 4, 1, 0] rfl)
  refine lv_iload_n hx hb dX1_valueIn_21 rfl (lv_at hl 1 rfl) ?_
  refine z_iconst hx hb dX1_valueIn_22 ?_
  refine z_irem3 hx hb (by omega) dX1_valueIn_23 ?_
  exact g_reti C hr hlk Z dX1_valueIn_24 (⟨rfl, rfl⟩)
set_option maxHeartbeats 8000000 in
theorem Lm_tot1 {p : Program} {l : Launch} {e : Env} {s : State} {m : MethodId} {args : Array Value} {below : List Frame} {meth : Method} {c : Code} {Q : State → Prop} {D : va_G} {A : Nat → Prop} {d : ClassId} {h : Nat} {ad : Nat → Nat} (C : CallFix p m c cX1_totalOf 6 s args lw_all RX1) (S : St) (k : Int) (hk : 0 ≤ k ∧ k < 729) (hn : nOK (nm S)) (kk : ∀ (u b : Int) (H : Heap) (locs : List Loc) (ls : Array Slot), GW D A s H locs d (wM h ad d S) → tl u b (sm (fun v => cp (aM (nm S 0 (v * 3 + dg k v)))) 6) 120 → lv_has ls 6 [(0, .ref h), (1, .int (iI k)), (2, .int (iI u)), (3, .int (iI b))] → W p l e (rmv 1) s m args below meth c H locs 0 0 Q (F0 m 61 ls [])) : ∀ (n : Nat) (v u b : Int) (H : Heap) (locs : List Loc) (ls : Array Slot), 0 ≤ v → v ≤ 6 → 7 ≤ v + n → GW D A s H locs d (wM h ad d S) → tl u b (sm (fun v => cp (aM (nm S 0 (v * 3 + dg k v)))) v.toNat) (20 * v) → lv_has ls 6 [(0, .ref h), (1, .int (iI k)), (2, .int (iI u)), (3, .int (iI b)), (4, .int (iI v))] → W p l e (rmv 1) s m args below meth c H locs 0 0 Q (F0 m 7 ls []) := by
  have hx := C.1
  have hb := C.2.1
  obtain ⟨n1, n0, n2, n3, n4, n5⟩ := id hn
  have n1 : 0 ≤ S 4 0 ∧ S 4 0 ≤ 8 := n1
  have n0 : ∀ j, 0 ≤ S 0 j ∧ S 0 j ≤ 20 := n0
  have n2 : ∀ j, 0 ≤ S 1 j ∧ S 1 j ≤ 5 := n2
  have n3 : ∀ j, 0 ≤ S 2 j ∧ S 2 j ≤ 5 := n3
  have n4 : ∀ j, 0 ≤ S 3 j ∧ S 3 j ≤ 20 := n4
  intro n
  induction n with
  | zero =>
    intro v u b H locs ls h1 h2 h3
    exact absurd h3 (by omega)
  | succ n ih =>
    intro v u b H locs ls h1 h2 h3 Z i hl
    have bb : b = 1 ∨ b = 0 := by unfold tl at i; omega
    have bo := n0 (v * 3 + dg k v)
    refine lv_iload hx hb dX1_totalOf_7 (lv_at hl 4 rfl) ?_
    refine z_bipush hx hb dX1_totalOf_9 (by decide) ?_
    refine z_icmp_ge (tgt := 61) hx hb dX1_totalOf_11 (by decide) (by omega) (by omega) (fun c_11 => ?_) (fun c_11 => ?_)
    · obtain rfl : v = 6 := by omega
      exact kk u b H locs ls Z i (lv_sub hl [0, 1, 2, 3] rfl)
    · refine lv_aload_n hx hb dX1_totalOf_14 rfl (lv_at hl 0 rfl) ?_
      refine m_get_0 C Z dX1_totalOf_15 ?_
      refine lv_iload hx hb dX1_totalOf_18 (lv_at hl 4 rfl) ?_
      refine z_iconst hx hb dX1_totalOf_20 ?_
      refine z_imul hx hb dX1_totalOf_21 ?_
      refine lv_aload_n hx hb dX1_totalOf_22 rfl (lv_at hl 0 rfl) ?_
      refine lv_iload_n hx hb dX1_totalOf_23 rfl (lv_at hl 1 rfl) ?_
      refine lv_iload hx hb dX1_totalOf_24 (lv_at hl 4 rfl) ?_
      refine g_calli (n := 2) (wr := []) (w := wM h ad d) (As := [.int (iI k), .int (iI v)]) (rest := [.int (iI (v * 3)), .ref (ad 0)]) C Z hl.1 (km_valueIn l D d h ad S k v (by omega) (by omega)) (lw_V q260 q262 qs17 q20 q263) rfl rfl (by decide +kernel) rfl ⟨rfl, rfl⟩ ⟨Nat.le_of_ble_eq_true rfl, Nat.le_of_ble_eq_true rfl⟩ rfl (Nat.le_of_ble_eq_true rfl) dX1_totalOf_26 ⟨Nat.zero_le _, Nat.zero_le _⟩ (fun z1 S2 H locs hz1 Z => ?_)
      have Z : GW D _ s H locs d (wM h ad d S2) := Z
      rw [hz1.2] at Z
      obtain rfl : z1 = dg k v := hz1.1
      have bz1 := dg_b k v
      refine z_iadd hx hb dX1_totalOf_29 ?_
      refine m_ald_0 C Z (e0 := (v * 3) + (dg k v)) (by omega) (by omega) dX1_totalOf_30 ?_
      refine lv_istore (lv' := [(5, .int (iI (S 0 ((v * 3) + (dg k v))))), (0, .ref h), (1, .int (iI k)), (2, .int (iI u)), (3, .int (iI b)), (4, .int (iI v))]) hx hb dX1_totalOf_31 hl (by decide) rfl (fun ls hl => ?_)
      refine lv_iload_n hx hb dX1_totalOf_33 rfl (lv_at hl 3 rfl) ?_
      refine lv_iload hx hb dX1_totalOf_34 (lv_at hl 0 rfl) ?_
      refine z_iadd hx hb dX1_totalOf_36 ?_
      refine lv_istore_n (lv' := [(2, .int (iI (u + (S 0 ((v * 3) + (dg k v)))))), (5, .int (iI (S 0 ((v * 3) + (dg k v))))), (0, .ref h), (1, .int (iI k)), (3, .int (iI b)), (4, .int (iI v))]) hx hb dX1_totalOf_37 rfl hl (by decide) rfl (fun ls hl => ?_)
      refine lv_iload_n hx hb dX1_totalOf_38 rfl (lv_at hl 4 rfl) ?_
      refine z_if_ne (tgt := 49) hx hb dX1_totalOf_39 (by decide) (by omega) (fun c_39 => ?_) (fun c_39 => ?_)
      · refine z_iconst hx hb dX1_totalOf_49 ?_
        refine lv_goto (tgt := 54) hx hb dX1_totalOf_50 (by decide) ?_
        refine lv_istore_n (lv' := [(3, .int (iI 1)), (2, .int (iI (u + (S 0 ((v * 3) + (dg k v)))))), (5, .int (iI (S 0 ((v * 3) + (dg k v))))), (0, .ref h), (1, .int (iI k)), (4, .int (iI v))]) hx hb dX1_totalOf_54 rfl hl (by decide) rfl (fun ls hl => ?_)
        refine z_iinc (lv' := [(4, .int (iI (v + 1))), (3, .int (iI 1)), (2, .int (iI (u + (S 0 ((v * 3) + (dg k v)))))), (5, .int (iI (S 0 ((v * 3) + (dg k v))))), (0, .ref h), (1, .int (iI k))]) hx hb dX1_totalOf_55 hl (k := 5) rfl (by decide) rfl (fun ls hl => ?_)
        refine lv_goto (tgt := 7) hx hb dX1_totalOf_58 (by decide) ?_
        have q := tl_s i bo (b' := 1) (by omega)
        refine ih (v + 1) (u + (S 0 ((v * 3) + (dg k v)))) 1 H locs ls (by omega) (by omega) (by omega) Z ?_ (lv_sub hl [4, 5, 2, 1, 0] rfl)
        rw [sm_step _ h1, show 20 * (v + 1) = 20 * v + 20 by omega]
        exact q
      · refine lv_iload hx hb dX1_totalOf_42 (lv_at hl 1 rfl) ?_
        refine z_bipush hx hb dX1_totalOf_44 (by decide) ?_
        refine z_icmp_ne (tgt := 53) hx hb dX1_totalOf_46 (by decide) (by omega) (by omega) (fun c_46 => ?_) (fun c_46 => ?_)
        · refine z_iconst hx hb dX1_totalOf_53 ?_
          refine lv_istore_n (lv' := [(3, .int (iI 0)), (2, .int (iI (u + (S 0 ((v * 3) + (dg k v)))))), (5, .int (iI (S 0 ((v * 3) + (dg k v))))), (0, .ref h), (1, .int (iI k)), (4, .int (iI v))]) hx hb dX1_totalOf_54 rfl hl (by decide) rfl (fun ls hl => ?_)
          refine z_iinc (lv' := [(4, .int (iI (v + 1))), (3, .int (iI 0)), (2, .int (iI (u + (S 0 ((v * 3) + (dg k v)))))), (5, .int (iI (S 0 ((v * 3) + (dg k v))))), (0, .ref h), (1, .int (iI k))]) hx hb dX1_totalOf_55 hl (k := 5) rfl (by decide) rfl (fun ls hl => ?_)
          refine lv_goto (tgt := 7) hx hb dX1_totalOf_58 (by decide) ?_
          have q := tl_s i bo (b' := 0) (by omega)
          refine ih (v + 1) (u + (S 0 ((v * 3) + (dg k v)))) 0 H locs ls (by omega) (by omega) (by omega) Z ?_ (lv_sub hl [4, 5, 2, 1, 0] rfl)
          rw [sm_step _ h1, show 20 * (v + 1) = 20 * v + 20 by omega]
          exact q
        · refine z_iconst hx hb dX1_totalOf_49 ?_
          refine lv_goto (tgt := 54) hx hb dX1_totalOf_50 (by decide) ?_
          refine lv_istore_n (lv' := [(3, .int (iI 1)), (2, .int (iI (u + (S 0 ((v * 3) + (dg k v)))))), (5, .int (iI (S 0 ((v * 3) + (dg k v))))), (0, .ref h), (1, .int (iI k)), (4, .int (iI v))]) hx hb dX1_totalOf_54 rfl hl (by decide) rfl (fun ls hl => ?_)
          refine z_iinc (lv' := [(4, .int (iI (v + 1))), (3, .int (iI 1)), (2, .int (iI (u + (S 0 ((v * 3) + (dg k v)))))), (5, .int (iI (S 0 ((v * 3) + (dg k v))))), (0, .ref h), (1, .int (iI k))]) hx hb dX1_totalOf_55 hl (k := 5) rfl (by decide) rfl (fun ls hl => ?_)
          refine lv_goto (tgt := 7) hx hb dX1_totalOf_58 (by decide) ?_
          have q := tl_s i bo (b' := 1) (by omega)
          refine ih (v + 1) (u + (S 0 ((v * 3) + (dg k v)))) 1 H locs ls (by omega) (by omega) (by omega) Z ?_ (lv_sub hl [4, 5, 2, 1, 0] rfl)
          rw [sm_step _ h1, show 20 * (v + 1) = 20 * v + 20 by omega]
          exact q
set_option maxHeartbeats 8000000 in
theorem Lm_tot2 {p : Program} {l : Launch} {e : Env} {s : State} {m : MethodId} {args : Array Value} {below : List Frame} {meth : Method} {c : Code} {Q : State → Prop} {D : va_G} {A : Nat → Prop} {d : ClassId} {h : Nat} {ad : Nat → Nat} (C : CallFix p m c cX1_totalOf 6 s args lw_all RX1) (S : St) (k : Int) (hk : 0 ≤ k ∧ k < 729) (hn : nOK (nm S)) (kk : ∀ (u b : Int) (H : Heap) (locs : List Loc) (ls : Array Slot), GW D A s H locs d (wM h ad d S) → tl u b (sm (fun v => cp (aM (nm S 0 (v * 3 + dg k v)))) 6 + sm (fun t => cp (aM (nm S 4 (pl (nm S) (dg k) t)))) (S 4 0).toNat) (120 + 20 * S 4 0) → lv_has ls 6 [(0, .ref h), (2, .int (iI u)), (3, .int (iI b))] → W p l e (rmv 1) s m args below meth c H locs 0 0 Q (F0 m 141 ls [])) : ∀ (n : Nat) (t u b : Int) (H : Heap) (locs : List Loc) (ls : Array Slot), 0 ≤ t → t ≤ S 4 0 → S 4 0 + 1 ≤ t + n → GW D A s H locs d (wM h ad d S) → tl u b (sm (fun v => cp (aM (nm S 0 (v * 3 + dg k v)))) 6 + sm (fun t => cp (aM (nm S 4 (pl (nm S) (dg k) t)))) t.toNat) (120 + 20 * t) → lv_has ls 6 [(0, .ref h), (1, .int (iI k)), (2, .int (iI u)), (3, .int (iI b)), (4, .int (iI t))] → W p l e (rmv 1) s m args below meth c H locs 0 0 Q (F0 m 64 ls []) := by
  have hx := C.1
  have hb := C.2.1
  obtain ⟨n1, n0, n2, n3, n4, n5⟩ := id hn
  have n1 : 0 ≤ S 4 0 ∧ S 4 0 ≤ 8 := n1
  have n0 : ∀ j, 0 ≤ S 0 j ∧ S 0 j ≤ 20 := n0
  have n2 : ∀ j, 0 ≤ S 1 j ∧ S 1 j ≤ 5 := n2
  have n3 : ∀ j, 0 ≤ S 2 j ∧ S 2 j ≤ 5 := n3
  have n4 : ∀ j, 0 ≤ S 3 j ∧ S 3 j ≤ 20 := n4
  intro n
  induction n with
  | zero =>
    intro t u b H locs ls h1 h2 h3
    exact absurd h3 (by omega)
  | succ n ih =>
    intro t u b H locs ls h1 h2 h3 Z i hl
    have bb : b = 1 ∨ b = 0 := by unfold tl at i; omega
    have b1 := n2 t
    have b2 := n3 t
    have bo := n4 (t * 9 + dg k (S 1 t) + 3 * dg k (S 2 t))
    refine lv_iload hx hb dX1_totalOf_64 (lv_at hl 4 rfl) ?_
    refine lv_aload_n hx hb dX1_totalOf_66 rfl (lv_at hl 0 rfl) ?_
    refine m_get_4 C Z dX1_totalOf_67 ?_
    refine z_icmp_ge (tgt := 141) hx hb dX1_totalOf_70 (by decide) (by omega) (by omega) (fun c_70 => ?_) (fun c_70 => ?_)
    · obtain rfl : t = S 4 0 := by omega
      exact kk u b H locs ls Z i (lv_sub hl [0, 2, 3] rfl)
    · refine lv_aload_n hx hb dX1_totalOf_73 rfl (lv_at hl 0 rfl) ?_
      refine m_get_3 C Z dX1_totalOf_74 ?_
      refine lv_iload hx hb dX1_totalOf_77 (lv_at hl 4 rfl) ?_
      refine z_bipush hx hb dX1_totalOf_79 (by decide) ?_
      refine z_imul hx hb dX1_totalOf_81 ?_
      refine lv_aload_n hx hb dX1_totalOf_82 rfl (lv_at hl 0 rfl) ?_
      refine lv_iload_n hx hb dX1_totalOf_83 rfl (lv_at hl 1 rfl) ?_
      refine lv_aload_n hx hb dX1_totalOf_84 rfl (lv_at hl 0 rfl) ?_
      refine m_get_1 C Z dX1_totalOf_85 ?_
      refine lv_iload hx hb dX1_totalOf_88 (lv_at hl 4 rfl) ?_
      refine m_ald_1 C Z (e0 := t) (by omega) (by omega) dX1_totalOf_90 ?_
      refine g_calli (n := 2) (wr := []) (w := wM h ad d) (As := [.int (iI k), .int (iI (S 1 t))]) (rest := [.int (iI (t * 9)), .ref (ad 3)]) C Z hl.1 (km_valueIn l D d h ad S k (S 1 t) (by omega) (by omega)) (lw_V q260 q262 qs17 q20 q263) rfl rfl (by decide +kernel) rfl ⟨rfl, rfl⟩ ⟨Nat.le_of_ble_eq_true rfl, Nat.le_of_ble_eq_true rfl⟩ rfl (Nat.le_of_ble_eq_true rfl) dX1_totalOf_91 ⟨Nat.zero_le _, Nat.zero_le _⟩ (fun z1 S2 H locs hz1 Z => ?_)
      have Z : GW D _ s H locs d (wM h ad d S2) := Z
      rw [hz1.2] at Z
      obtain rfl : z1 = dg k (S 1 t) := hz1.1
      have bz1 := dg_b k (S 1 t)
      refine z_iadd hx hb dX1_totalOf_94 ?_
      refine z_iconst hx hb dX1_totalOf_95 ?_
      refine lv_aload_n hx hb dX1_totalOf_96 rfl (lv_at hl 0 rfl) ?_
      refine lv_iload_n hx hb dX1_totalOf_97 rfl (lv_at hl 1 rfl) ?_
      refine lv_aload_n hx hb dX1_totalOf_98 rfl (lv_at hl 0 rfl) ?_
      refine m_get_2 C Z dX1_totalOf_99 ?_
      refine lv_iload hx hb dX1_totalOf_102 (lv_at hl 4 rfl) ?_
      refine m_ald_2 C Z (e0 := t) (by omega) (by omega) dX1_totalOf_104 ?_
      refine g_calli (n := 2) (wr := []) (w := wM h ad d) (As := [.int (iI k), .int (iI (S 2 t))]) (rest := [.int (iI 3), .int (iI ((t * 9) + (dg k (S 1 t)))), .ref (ad 3)]) C Z hl.1 (km_valueIn l D d h ad S k (S 2 t) (by omega) (by omega)) (lw_V q260 q262 qs17 q20 q263) rfl rfl (by decide +kernel) rfl ⟨rfl, rfl⟩ ⟨Nat.le_of_ble_eq_true rfl, Nat.le_of_ble_eq_true rfl⟩ rfl (Nat.le_of_ble_eq_true rfl) dX1_totalOf_105 ⟨Nat.zero_le _, Nat.zero_le _⟩ (fun z3 S4 H locs hz3 Z => ?_)
      have Z : GW D _ s H locs d (wM h ad d S4) := Z
      rw [hz3.2] at Z
      obtain rfl : z3 = dg k (S 2 t) := hz3.1
      have bz3 := dg_b k (S 2 t)
      refine z_imul hx hb dX1_totalOf_108 ?_
      refine z_iadd hx hb dX1_totalOf_109 ?_
      refine m_ald_3 C Z (e0 := ((t * 9) + (dg k (S 1 t))) + (3 * (dg k (S 2 t)))) (by omega) (by omega) dX1_totalOf_110 ?_
      refine lv_istore (lv' := [(5, .int (iI (S 3 (((t * 9) + (dg k (S 1 t))) + (3 * (dg k (S 2 t))))))), (0, .ref h), (1, .int (iI k)), (2, .int (iI u)), (3, .int (iI b)), (4, .int (iI t))]) hx hb dX1_totalOf_111 hl (by decide) rfl (fun ls hl => ?_)
      refine lv_iload_n hx hb dX1_totalOf_113 rfl (lv_at hl 3 rfl) ?_
      refine lv_iload hx hb dX1_totalOf_114 (lv_at hl 0 rfl) ?_
      refine z_iadd hx hb dX1_totalOf_116 ?_
      refine lv_istore_n (lv' := [(2, .int (iI (u + (S 3 (((t * 9) + (dg k (S 1 t))) + (3 * (dg k (S 2 t)))))))), (5, .int (iI (S 3 (((t * 9) + (dg k (S 1 t))) + (3 * (dg k (S 2 t))))))), (0, .ref h), (1, .int (iI k)), (3, .int (iI b)), (4, .int (iI t))]) hx hb dX1_totalOf_117 rfl hl (by decide) rfl (fun ls hl => ?_)
      refine lv_iload_n hx hb dX1_totalOf_118 rfl (lv_at hl 4 rfl) ?_
      refine z_if_ne (tgt := 129) hx hb dX1_totalOf_119 (by decide) (by omega) (fun c_119 => ?_) (fun c_119 => ?_)
      · refine z_iconst hx hb dX1_totalOf_129 ?_
        refine lv_goto (tgt := 134) hx hb dX1_totalOf_130 (by decide) ?_
        refine lv_istore_n (lv' := [(3, .int (iI 1)), (2, .int (iI (u + (S 3 (((t * 9) + (dg k (S 1 t))) + (3 * (dg k (S 2 t)))))))), (5, .int (iI (S 3 (((t * 9) + (dg k (S 1 t))) + (3 * (dg k (S 2 t))))))), (0, .ref h), (1, .int (iI k)), (4, .int (iI t))]) hx hb dX1_totalOf_134 rfl hl (by decide) rfl (fun ls hl => ?_)
        refine z_iinc (lv' := [(4, .int (iI (t + 1))), (3, .int (iI 1)), (2, .int (iI (u + (S 3 (((t * 9) + (dg k (S 1 t))) + (3 * (dg k (S 2 t)))))))), (5, .int (iI (S 3 (((t * 9) + (dg k (S 1 t))) + (3 * (dg k (S 2 t))))))), (0, .ref h), (1, .int (iI k))]) hx hb dX1_totalOf_135 hl (k := 5) rfl (by decide) rfl (fun ls hl => ?_)
        refine lv_goto (tgt := 64) hx hb dX1_totalOf_138 (by decide) ?_
        have q := tl_s i bo (b' := 1) (by omega)
        refine ih (t + 1) (u + (S 3 (((t * 9) + (dg k (S 1 t))) + (3 * (dg k (S 2 t)))))) 1 H locs ls (by omega) (by omega) (by omega) Z ?_ (lv_sub hl [4, 5, 2, 1, 0] rfl)
        rw [sm_step _ h1, show 120 + 20 * (t + 1) = 120 + 20 * t + 20 by omega, ← Int.add_assoc]
        exact q
      · refine lv_iload hx hb dX1_totalOf_122 (lv_at hl 1 rfl) ?_
        refine z_bipush hx hb dX1_totalOf_124 (by decide) ?_
        refine z_icmp_ne (tgt := 133) hx hb dX1_totalOf_126 (by decide) (by omega) (by omega) (fun c_126 => ?_) (fun c_126 => ?_)
        · refine z_iconst hx hb dX1_totalOf_133 ?_
          refine lv_istore_n (lv' := [(3, .int (iI 0)), (2, .int (iI (u + (S 3 (((t * 9) + (dg k (S 1 t))) + (3 * (dg k (S 2 t)))))))), (5, .int (iI (S 3 (((t * 9) + (dg k (S 1 t))) + (3 * (dg k (S 2 t))))))), (0, .ref h), (1, .int (iI k)), (4, .int (iI t))]) hx hb dX1_totalOf_134 rfl hl (by decide) rfl (fun ls hl => ?_)
          refine z_iinc (lv' := [(4, .int (iI (t + 1))), (3, .int (iI 0)), (2, .int (iI (u + (S 3 (((t * 9) + (dg k (S 1 t))) + (3 * (dg k (S 2 t)))))))), (5, .int (iI (S 3 (((t * 9) + (dg k (S 1 t))) + (3 * (dg k (S 2 t))))))), (0, .ref h), (1, .int (iI k))]) hx hb dX1_totalOf_135 hl (k := 5) rfl (by decide) rfl (fun ls hl => ?_)
          refine lv_goto (tgt := 64) hx hb dX1_totalOf_138 (by decide) ?_
          have q := tl_s i bo (b' := 0) (by omega)
          refine ih (t + 1) (u + (S 3 (((t * 9) + (dg k (S 1 t))) + (3 * (dg k (S 2 t)))))) 0 H locs ls (by omega) (by omega) (by omega) Z ?_ (lv_sub hl [4, 5, 2, 1, 0] rfl)
          rw [sm_step _ h1, show 120 + 20 * (t + 1) = 120 + 20 * t + 20 by omega, ← Int.add_assoc]
          exact q
        · refine z_iconst hx hb dX1_totalOf_129 ?_
          refine lv_goto (tgt := 134) hx hb dX1_totalOf_130 (by decide) ?_
          refine lv_istore_n (lv' := [(3, .int (iI 1)), (2, .int (iI (u + (S 3 (((t * 9) + (dg k (S 1 t))) + (3 * (dg k (S 2 t)))))))), (5, .int (iI (S 3 (((t * 9) + (dg k (S 1 t))) + (3 * (dg k (S 2 t))))))), (0, .ref h), (1, .int (iI k)), (4, .int (iI t))]) hx hb dX1_totalOf_134 rfl hl (by decide) rfl (fun ls hl => ?_)
          refine z_iinc (lv' := [(4, .int (iI (t + 1))), (3, .int (iI 1)), (2, .int (iI (u + (S 3 (((t * 9) + (dg k (S 1 t))) + (3 * (dg k (S 2 t)))))))), (5, .int (iI (S 3 (((t * 9) + (dg k (S 1 t))) + (3 * (dg k (S 2 t))))))), (0, .ref h), (1, .int (iI k))]) hx hb dX1_totalOf_135 hl (k := 5) rfl (by decide) rfl (fun ls hl => ?_)
          refine lv_goto (tgt := 64) hx hb dX1_totalOf_138 (by decide) ?_
          have q := tl_s i bo (b' := 1) (by omega)
          refine ih (t + 1) (u + (S 3 (((t * 9) + (dg k (S 1 t))) + (3 * (dg k (S 2 t)))))) 1 H locs ls (by omega) (by omega) (by omega) Z ?_ (lv_sub hl [4, 5, 2, 1, 0] rfl)
          rw [sm_step _ h1, show 120 + 20 * (t + 1) = 120 + 20 * t + 20 by omega, ← Int.add_assoc]
          exact q
set_option maxHeartbeats 8000000 in
theorem km_totalOf (l : Launch) (D : va_G) (d : ClassId) (h : Nat) (ad : Nat → Nat) (S : St) (k : Int) (hk : 0 ≤ k ∧ k < 729) (hn : nOK (nm S)) : gMi l D d (wM h ad d) h yX1_totalOf cX1_totalOf 6 (some .int) (rmv 1) [.int (iI k)] S (fun z S' => z = tmv (tt (nm S) k) ∧ S' = S) := by
  refine g_met (by decide) (Nat.le_of_ble_eq_true rfl) ?_
  intro p e s m args below meth c C hr hlk Z ls hl
  have C : CallFix p m c cX1_totalOf 6 s args lw_all RX1 := C
  have hx := C.1
  have hb := C.2.1
  have hl : lv_has ls 6 [(0, .ref h), (1, .int (iI k))] := hl
  refine z_iconst hx hb dX1_totalOf_0 ?_
  refine lv_istore_n (lv' := [(2, .int (iI 0)), (0, .ref h), (1, .int (iI k))]) hx hb dX1_totalOf_1 rfl hl (by decide) rfl (fun ls hl => ?_)
  refine z_iconst hx hb dX1_totalOf_2 ?_
  refine lv_istore_n (lv' := [(3, .int (iI 0)), (2, .int (iI 0)), (0, .ref h), (1, .int (iI k))]) hx hb dX1_totalOf_3 rfl hl (by decide) rfl (fun ls hl => ?_)
  refine z_iconst hx hb dX1_totalOf_4 ?_
  refine lv_istore (lv' := [(4, .int (iI 0)), (3, .int (iI 0)), (2, .int (iI 0)), (0, .ref h), (1, .int (iI k))]) hx hb dX1_totalOf_5 hl (by decide) rfl (fun ls hl => ?_)
  refine Lm_tot1 C S k hk hn (fun u b H locs ls Z i1 hl => ?_) 7 0 0 0 _ _ ls (by omega) (by omega) (by omega) Z (Or.inr ⟨rfl, rfl, Int.le_refl _, Int.le_refl _⟩) (lv_sub hl [3, 4, 2, 1, 0] rfl)
  refine z_iconst hx hb dX1_totalOf_61 ?_
  refine lv_istore (lv' := [(4, .int (iI 0)), (0, .ref h), (1, .int (iI k)), (2, .int (iI u)), (3, .int (iI b))]) hx hb dX1_totalOf_62 hl (by decide) rfl (fun ls hl => ?_)
  have n1 : 0 ≤ S 4 0 ∧ S 4 0 ≤ 8 := hn.1
  refine Lm_tot2 C S k hk hn (fun u b H locs ls Z i hl => ?_) 9 0 u b _ _ ls (by omega) (by omega) (by omega) Z (by show tl u b (_ + 0) _; rw [Int.add_zero]; exact i1) (lv_sub hl [1, 2, 3, 4, 0] rfl)
  have bb : b = 1 ∨ b = 0 := by unfold tl at i; omega
  refine lv_iload_n hx hb dX1_totalOf_141 rfl (lv_at hl 2 rfl) ?_
  refine z_if_eq (tgt := 150) hx hb dX1_totalOf_142 (by decide) (by omega) (fun c_142 => ?_) (fun c_142 => ?_)
  · refine lv_iload_n hx hb dX1_totalOf_150 rfl (lv_at hl 1 rfl) ?_
    exact g_reti C hr hlk Z dX1_totalOf_151 (by
      refine ⟨?_, rfl⟩
      show _ = tmv (cp (sm (fun v => cp (aM (nm S 0 (v * 3 + dg k v)))) 6 + sm (fun t => cp (aM (nm S 4 (pl (nm S) (dg k) t)))) (S 4 0).toNat))
      have g := cp_o (sm (fun v => cp (aM (nm S 0 (v * 3 + dg k v)))) 6 + sm (fun t => cp (aM (nm S 4 (pl (nm S) (dg k) t)))) (S 4 0).toNat)
      have g2 := tmv_o (cp (sm (fun v => cp (aM (nm S 0 (v * 3 + dg k v)))) 6 + sm (fun t => cp (aM (nm S 4 (pl (nm S) (dg k) t)))) (S 4 0).toNat))
      unfold tl at i
      omega)
  · refine z_bipush hx hb dX1_totalOf_145 (by decide) ?_
    refine lv_goto (tgt := 151) hx hb dX1_totalOf_147 (by decide) ?_
    exact g_reti C hr hlk Z dX1_totalOf_151 (by
      refine ⟨?_, rfl⟩
      show _ = tmv (cp (sm (fun v => cp (aM (nm S 0 (v * 3 + dg k v)))) 6 + sm (fun t => cp (aM (nm S 4 (pl (nm S) (dg k) t)))) (S 4 0).toNat))
      have g := cp_o (sm (fun v => cp (aM (nm S 0 (v * 3 + dg k v)))) 6 + sm (fun t => cp (aM (nm S 4 (pl (nm S) (dg k) t)))) (S 4 0).toNat)
      have g2 := tmv_o (cp (sm (fun v => cp (aM (nm S 0 (v * 3 + dg k v)))) 6 + sm (fun t => cp (aM (nm S 4 (pl (nm S) (dg k) t)))) (S 4 0).toNat))
      unfold tl at i
      omega)
set_option maxHeartbeats 8000000 in
theorem Lm_work {p : Program} {l : Launch} {e : Env} {s : State} {m : MethodId} {args : Array Value} {below : List Frame} {meth : Method} {c : Code} {Q : State → Prop} {D : va_G} {A : Nat → Prop} {d : ClassId} {h : Nat} {ad : Nat → Nat} (C : CallFix p m c cX1_work 2 s args lw_all RX1) (S : St) (hn : nOK (nm S)) (kk : ∀ (T : St) (H : Heap) (locs : List Loc) (ls : Array Slot), GW D A s H locs d (wM h ad d T) → (∀ k, k ≠ 5 → T k = S k) → (∀ j, 0 ≤ j → j < 729 → T 5 j = tmv (tt (nm S) j)) → lv_has ls 2 [(0, .ref h)] → W p l e (rmv 2) s m args below meth c H locs 0 0 Q (F0 m 34 ls [])) : ∀ (n : Nat) (i : Int) (T : St) (H : Heap) (locs : List Loc) (ls : Array Slot), 0 ≤ i → i ≤ 729 → 730 ≤ i + n → GW D A s H locs d (wM h ad d T) → (∀ k, k ≠ 5 → T k = S k) → (∀ j, 0 ≤ j → j < i → T 5 j = tmv (tt (nm S) j)) → lv_has ls 2 [(0, .ref h), (1, .int (iI i))] → W p l e (rmv 2) s m args below meth c H locs 0 0 Q (F0 m 10 ls []) := by
  have hx := C.1
  have hb := C.2.1
  intro n
  induction n with
  | zero =>
    intro i T H locs ls h1 h2 h3
    exact absurd h3 (by omega)
  | succ n ih =>
    intro i T H locs ls h1 h2 h3 Z i0 i1 hl
    have en : nm T = nm S := nm_c (fun k hk => i0 k (by omega))
    have hnT : nOK (nm T) := by rw [en]; exact hn
    refine lv_iload_n hx hb dX1_work_10 rfl (lv_at hl 1 rfl) ?_
    refine z_sipush hx hb dX1_work_11 (by decide) ?_
    refine z_icmp_ge (tgt := 34) hx hb dX1_work_14 (by decide) (by omega) (by omega) (fun c_14 => ?_) (fun c_14 => ?_)
    · obtain rfl : i = 729 := by omega
      exact kk T H locs ls Z i0 i1 (lv_sub hl [0] rfl)
    · refine lv_aload_n hx hb dX1_work_17 rfl (lv_at hl 0 rfl) ?_
      refine m_get_5 C Z dX1_work_18 ?_
      refine lv_iload_n hx hb dX1_work_21 rfl (lv_at hl 1 rfl) ?_
      refine lv_aload_n hx hb dX1_work_22 rfl (lv_at hl 0 rfl) ?_
      refine lv_iload_n hx hb dX1_work_23 rfl (lv_at hl 1 rfl) ?_
      refine g_calli (n := 1) (wr := []) (w := wM h ad d) (As := [.int (iI i)]) (rest := [.int (iI i), .ref (ad 5)]) C Z hl.1 (km_totalOf l D d h ad T i (by omega) hnT) (lw_V q256 q258 qs16 q20 q259) rfl rfl (by decide +kernel) rfl ⟨rfl, rfl⟩ ⟨Nat.le_of_ble_eq_true rfl, Nat.le_of_ble_eq_true rfl⟩ rfl (Nat.le_of_ble_eq_true rfl) dX1_work_24 ⟨Nat.zero_le _, Nat.zero_le _⟩ (fun z1 S2 H locs hz1 Z => ?_)
      have Z : GW D _ s H locs d (wM h ad d S2) := Z
      rw [hz1.2] at Z
      refine m_ast_5 C Z (e0 := i) (by omega) (by omega) dX1_work_27 (fun S3 H locs eS3 Z => ?_)
      refine z_iinc (lv' := [(1, .int (iI (i + 1))), (0, .ref h)]) hx hb dX1_work_28 hl (k := 1) rfl (by decide) rfl (fun ls hl => ?_)
      refine lv_goto (tgt := 10) hx hb dX1_work_31 (by decide) ?_
      refine ih (i + 1) S3 H locs ls (by omega) (by omega) (by omega) Z (fun k hk => by rw [eS3, up_n _ _ _ _ _ hk]; exact i0 k hk) (fun j y0 y1 => ?_) (lv_sub hl [1, 0] rfl)
      rw [eS3, up_s]
      split
      · rename_i q
        rw [hz1.1, en, q]
      · exact i1 j y0 (by omega)
set_option maxHeartbeats 8000000 in
theorem km_work (l : Launch) (D : va_G) (d : ClassId) (h : Nat) (ad : Nat → Nat) (S : St) (hM : mdOK S) : gMv l D d (wM h ad d) h yX1_work cX1_work 2 (rmv 2) [] S (fun S' => frm S S' ∧ S' 6 0 = 1) := by
  refine g_met (by decide) (Nat.le_of_ble_eq_true rfl) ?_
  intro p e s m args below meth c C hr hlk Z ls hl
  have C : CallFix p m c cX1_work 2 s args lw_all RX1 := C
  have hx := C.1
  have hb := C.2.1
  have hl : lv_has ls 2 [(0, .ref h)] := hl
  obtain ⟨hn, h6, h6b⟩ := id hM
  refine lv_aload_n hx hb dX1_work_0 rfl (lv_at hl 0 rfl) ?_
  refine m_get_6 C Z dX1_work_1 ?_
  refine z_if_eq (tgt := 8) hx hb dX1_work_4 (by decide) (by omega) (fun c_4 => ?_) (fun c_4 => ?_)
  · refine z_iconst hx hb dX1_work_8 ?_
    refine lv_istore_n (lv' := [(1, .int (iI 0)), (0, .ref h)]) hx hb dX1_work_9 rfl hl (by decide) rfl (fun ls hl => ?_)
    refine Lm_work C S hn (fun T H locs ls Z i0 i1 hl => ?_) 730 0 S _ _ ls (by omega) (by omega) (by omega) Z (fun k _ => rfl) (fun j y0 y1 => by omega) (lv_sub hl [1, 0] rfl)
    refine lv_aload_n hx hb dX1_work_34 rfl (lv_at hl 0 rfl) ?_
    refine z_iconst hx hb dX1_work_35 ?_
    refine m_put_6 C Z (by omega) dX1_work_36 (fun S1 H locs eS1 Z => ?_)
    exact g_retv C hr hlk Z dX1_work_39 (by
      have u : ∀ k, k ≤ 4 → S1 k = S k := fun k hk => by rw [eS1, up_n _ _ _ _ _ (by omega), i0 k (by omega)]
      have e6 : S1 6 0 = 1 := by rw [eS1, up_e]
      refine ⟨⟨u, by rw [nm_c u]; exact hn, Or.inr e6, fun _ k x y => ?_⟩, e6⟩
      rw [nm_c u, eS1, up_n _ _ _ _ _ (by decide)]
      exact i1 k x y)
  · exact g_retv C hr hlk Z dX1_work_7 (⟨⟨fun _ _ => rfl, hM⟩, by omega⟩)
set_option maxHeartbeats 8000000 in
theorem Lm_first {p : Program} {l : Launch} {e : Env} {s : State} {m : MethodId} {args : Array Value} {below : List Frame} {meth : Method} {c : Code} {Q : State → Prop} {D : va_G} {A : Nat → Prop} {d : ClassId} {h : Nat} {ad : Nat → Nat} (C : CallFix p m c cX1_first 3 s args lw_all RX1) (S N : St) (hn : nOK N) (hF : ∀ k, 0 ≤ k → k < 729 → S 5 k = tmv (tt N k)) (kk : ∀ (b : Int) (H : Heap) (locs : List Loc) (ls : Array Slot), GW D A s H locs d (wM h ad d S) → fP (S 5) 729 b → lv_has ls 3 [(0, .ref h), (1, .int (iI b))] → W p l e (rmv 3) s m args below meth c H locs 0 0 Q (F0 m 52 ls [])) : ∀ (n : Nat) (i b : Int) (H : Heap) (locs : List Loc) (ls : Array Slot), 0 ≤ i → i ≤ 729 → 730 ≤ i + n → GW D A s H locs d (wM h ad d S) → fP (S 5) i b → lv_has ls 3 [(0, .ref h), (1, .int (iI b)), (2, .int (iI i))] → W p l e (rmv 3) s m args below meth c H locs 0 0 Q (F0 m 9 ls []) := by
  have hx := C.1
  have hb := C.2.1
  intro n
  induction n with
  | zero =>
    intro i b H locs ls h1 h2 h3
    exact absurd h3 (by omega)
  | succ n ih =>
    intro i b H locs ls h1 h2 h3 Z i0 hl
    have bb : -6 ≤ b ∧ b < 729 := by
      rcases i0 with q | q <;> omega
    have tb : 0 ≤ i → i < 729 → -6 ≤ S 5 i ∧ S 5 i ≤ 49999 := fun x y => by
      have := hF i x y
      have := tmv_o (tt N i)
      have := tt_nn hn i
      omega
    have tb2 : 0 ≤ b → -6 ≤ S 5 b ∧ S 5 b ≤ 49999 := fun x => by
      have := hF b x (by omega)
      have := tmv_o (tt N b)
      have := tt_nn hn b
      omega
    refine lv_iload_n hx hb dX1_first_9 rfl (lv_at hl 2 rfl) ?_
    refine z_sipush hx hb dX1_first_10 (by decide) ?_
    refine z_icmp_ge (tgt := 52) hx hb dX1_first_13 (by decide) (by omega) (by omega) (fun c_13 => ?_) (fun c_13 => ?_)
    · obtain rfl : i = 729 := by omega
      exact kk b H locs ls Z i0 (lv_sub hl [0, 1] rfl)
    · refine lv_aload_n hx hb dX1_first_16 rfl (lv_at hl 0 rfl) ?_
      refine m_get_5 C Z dX1_first_17 ?_
      refine lv_iload_n hx hb dX1_first_20 rfl (lv_at hl 2 rfl) ?_
      refine m_ald_5 C Z (e0 := i) (by omega) (by omega) dX1_first_21 ?_
      refine z_if_lt (tgt := 46) hx hb dX1_first_22 (by decide) (by omega) (fun c_22 => ?_) (fun c_22 => ?_)
      · refine z_iinc (lv' := [(2, .int (iI (i + 1))), (0, .ref h), (1, .int (iI b))]) hx hb dX1_first_46 hl (k := 2) rfl (by decide) rfl (fun ls hl => ?_)
        refine lv_goto (tgt := 9) hx hb dX1_first_49 (by decide) ?_
        exact ih (i + 1) b H locs ls (by omega) (by omega) (by omega) Z (fP_keep i0 (by omega)) (lv_sub hl [1, 2, 0] rfl)
      · refine lv_iload_n hx hb dX1_first_25 rfl (lv_at hl 1 rfl) ?_
        refine z_if_lt (tgt := 44) hx hb dX1_first_26 (by decide) (by omega) (fun c_26 => ?_) (fun c_26 => ?_)
        · refine lv_iload_n hx hb dX1_first_44 rfl (lv_at hl 2 rfl) ?_
          refine lv_istore_n (lv' := [(1, .int (iI i)), (0, .ref h), (2, .int (iI i))]) hx hb dX1_first_45 rfl hl (by decide) rfl (fun ls hl => ?_)
          refine z_iinc (lv' := [(2, .int (iI (i + 1))), (1, .int (iI i)), (0, .ref h)]) hx hb dX1_first_46 hl (k := 2) rfl (by decide) rfl (fun ls hl => ?_)
          refine lv_goto (tgt := 9) hx hb dX1_first_49 (by decide) ?_
          exact ih (i + 1) i H locs ls (by omega) (by omega) (by omega) Z (fP_new i0 h1 (by omega) (by omega)) (lv_sub hl [2, 1, 0] rfl)
        · refine lv_aload_n hx hb dX1_first_29 rfl (lv_at hl 0 rfl) ?_
          refine m_get_5 C Z dX1_first_30 ?_
          refine lv_iload_n hx hb dX1_first_33 rfl (lv_at hl 2 rfl) ?_
          refine m_ald_5 C Z (e0 := i) (by omega) (by omega) dX1_first_34 ?_
          refine lv_aload_n hx hb dX1_first_35 rfl (lv_at hl 0 rfl) ?_
          refine m_get_5 C Z dX1_first_36 ?_
          refine lv_iload_n hx hb dX1_first_39 rfl (lv_at hl 1 rfl) ?_
          refine m_ald_5 C Z (e0 := b) (by omega) (by omega) dX1_first_40 ?_
          refine z_icmp_ge (tgt := 46) hx hb dX1_first_41 (by decide) (by omega) (by omega) (fun c_41 => ?_) (fun c_41 => ?_)
          · refine z_iinc (lv' := [(2, .int (iI (i + 1))), (0, .ref h), (1, .int (iI b))]) hx hb dX1_first_46 hl (k := 2) rfl (by decide) rfl (fun ls hl => ?_)
            refine lv_goto (tgt := 9) hx hb dX1_first_49 (by decide) ?_
            exact ih (i + 1) b H locs ls (by omega) (by omega) (by omega) Z (fP_keep i0 (by omega)) (lv_sub hl [1, 2, 0] rfl)
          · refine lv_iload_n hx hb dX1_first_44 rfl (lv_at hl 2 rfl) ?_
            refine lv_istore_n (lv' := [(1, .int (iI i)), (0, .ref h), (2, .int (iI i))]) hx hb dX1_first_45 rfl hl (by decide) rfl (fun ls hl => ?_)
            refine z_iinc (lv' := [(2, .int (iI (i + 1))), (1, .int (iI i)), (0, .ref h)]) hx hb dX1_first_46 hl (k := 2) rfl (by decide) rfl (fun ls hl => ?_)
            refine lv_goto (tgt := 9) hx hb dX1_first_49 (by decide) ?_
            exact ih (i + 1) i H locs ls (by omega) (by omega) (by omega) Z (fP_new i0 h1 (by omega) (by omega)) (lv_sub hl [2, 1, 0] rfl)
set_option maxHeartbeats 8000000 in
theorem km_first (l : Launch) (D : va_G) (d : ClassId) (h : Nat) (ad : Nat → Nat) (S : St) (hM : mdOK S) : gMi l D d (wM h ad d) h yX1_first cX1_first 3 (some .int) (rmv 3) [] S (fun z S' => frm S S' ∧ S' 6 0 = 1 ∧ ((z = -6 ∧ noF (nm S)) ∨ (0 ≤ z ∧ isF (nm S) z ∧ S' 5 z = tt (nm S) z))) := by
  refine g_met (by decide) (Nat.le_of_ble_eq_true rfl) ?_
  intro p e s m args below meth c C hr hlk Z ls hl
  have C : CallFix p m c cX1_first 3 s args lw_all RX1 := C
  have hx := C.1
  have hb := C.2.1
  have hl : lv_has ls 3 [(0, .ref h)] := hl
  refine lv_aload_n hx hb dX1_first_0 rfl (lv_at hl 0 rfl) ?_
  refine g_callv (n := 0) (wr := []) (w := wM h ad d) (As := []) (rest := []) C Z hl.1 (km_work l D d h ad S hM) (lw_V q252 q254 qs15 q20 q255) rfl rfl (by decide +kernel) rfl ⟨rfl, rfl⟩ ⟨Nat.le_of_ble_eq_true rfl, Nat.le_of_ble_eq_true rfl⟩ rfl (Nat.le_of_ble_eq_true rfl) dX1_first_1 ⟨Nat.zero_le _, Nat.zero_le _⟩ (fun S2 H locs hz1 Z => ?_)
  have Z : GW D _ s H locs d (wM h ad d S2) := Z
  have eN : nm S2 = nm S := nm_c hz1.1.1
  have hn : nOK (nm S) := hM.1
  have hF : ∀ k, 0 ≤ k → k < 729 → S2 5 k = tmv (tt (nm S) k) := by rw [← eN]; exact hz1.1.2.2.2 hz1.2
  refine z_bipush hx hb dX1_first_4 (by decide) ?_
  refine lv_istore_n (lv' := [(1, .int (iI (-6))), (0, .ref h)]) hx hb dX1_first_6 rfl hl (by decide) rfl (fun ls hl => ?_)
  refine z_iconst hx hb dX1_first_7 ?_
  refine lv_istore_n (lv' := [(2, .int (iI 0)), (1, .int (iI (-6))), (0, .ref h)]) hx hb dX1_first_8 rfl hl (by decide) rfl (fun ls hl => ?_)
  refine Lm_first C S2 (nm S) hn hF (fun b H locs ls Z i0 hl => ?_) 730 0 (-6) _ _ ls (by omega) (by omega) (by omega) Z (Or.inl ⟨rfl, fun k x y => by omega⟩) (lv_sub hl [2, 1, 0] rfl)
  refine lv_iload_n hx hb dX1_first_52 rfl (lv_at hl 1 rfl) ?_
  exact g_reti C hr hlk Z dX1_first_53 (⟨hz1.1, hz1.2, fP_F hn hF i0⟩)
set_option maxHeartbeats 8000000 in
theorem km_least (l : Launch) (D : va_G) (d : ClassId) (h : Nat) (ad : Nat → Nat) (S : St) (hM : mdOK S) : gMi l D d (wM h ad d) h yX1_least cX1_least 2 (some .int) (rmv 4) [] S (fun z S' => frm S S' ∧ S' 6 0 = 1 ∧ ((z = -6 ∧ noF (nm S)) ∨ ∃ k0, isF (nm S) k0 ∧ z = tt (nm S) k0)) := by
  refine g_met (by decide) (Nat.le_of_ble_eq_true rfl) ?_
  intro p e s m args below meth c C hr hlk Z ls hl
  have C : CallFix p m c cX1_least 2 s args lw_all RX1 := C
  have hx := C.1
  have hb := C.2.1
  have hl : lv_has ls 2 [(0, .ref h)] := hl
  refine lv_aload_n hx hb dX1_least_0 rfl (lv_at hl 0 rfl) ?_
  refine g_calli (n := 0) (wr := []) (w := wM h ad d) (As := []) (rest := []) C Z hl.1 (km_first l D d h ad S hM) (lw_V q248 q250 qs14 q20 q251) rfl rfl (by decide +kernel) rfl ⟨rfl, rfl⟩ ⟨Nat.le_of_ble_eq_true rfl, Nat.le_of_ble_eq_true rfl⟩ rfl (Nat.le_of_ble_eq_true rfl) dX1_least_1 ⟨Nat.zero_le _, Nat.zero_le _⟩ (fun z1 S2 H locs hz1 Z => ?_)
  have Z : GW D _ s H locs d (wM h ad d S2) := Z
  have bz : z1 = -6 ∨ (0 ≤ z1 ∧ z1 < 729) := by
    rcases hz1.2.2 with q | q
    · exact Or.inl q.1
    · exact Or.inr q.2.1.1
  refine lv_istore_n (lv' := [(1, .int (iI z1)), (0, .ref h)]) hx hb dX1_least_4 rfl hl (by decide) rfl (fun ls hl => ?_)
  refine lv_iload_n hx hb dX1_least_5 rfl (lv_at hl 0 rfl) ?_
  refine z_if_ge (tgt := 14) hx hb dX1_least_6 (by decide) (by omega) (fun c_6 => ?_) (fun c_6 => ?_)
  · refine lv_aload_n hx hb dX1_least_14 rfl (lv_at hl 1 rfl) ?_
    refine m_get_5 C Z dX1_least_15 ?_
    refine lv_iload_n hx hb dX1_least_18 rfl (lv_at hl 0 rfl) ?_
    refine m_ald_5 C Z (e0 := z1) (by omega) (by omega) dX1_least_19 ?_
    exact g_reti C hr hlk Z dX1_least_20 (⟨hz1.1, hz1.2.1, by
        rcases hz1.2.2 with q | q
        · omega
        · exact Or.inr ⟨z1, q.2.1, q.2.2⟩⟩)
  · refine z_bipush hx hb dX1_least_9 (by decide) ?_
    refine lv_goto (tgt := 20) hx hb dX1_least_11 (by decide) ?_
    exact g_reti C hr hlk Z dX1_least_20 (⟨hz1.1, hz1.2.1, by
        rcases hz1.2.2 with q | q
        · exact Or.inl ⟨rfl, q.2⟩
        · omega⟩)
set_option maxHeartbeats 8000000 in
theorem km_value (l : Launch) (D : va_G) (d : ClassId) (h : Nat) (ad : Nat → Nat) (S : St) (v : Int) (rv : -2147483648 ≤ v ∧ v ≤ 2147483647) (hM : mdOK S) : gMi l D d (wM h ad d) h yX1_value cX1_value 3 (some .int) (rmv 4) [.int (iI v)] S (fun z S' => frm S S' ∧ (((v < 0 ∨ 6 ≤ v) ∧ z = -1) ∨ ((0 ≤ v ∧ v ≤ 5) ∧ ((z = -6 ∧ noF (nm S)) ∨ ∃ k0, isF (nm S) k0 ∧ z = dg k0 v)))) := by
  refine g_met (by decide) (Nat.le_of_ble_eq_true rfl) ?_
  intro p e s m args below meth c C hr hlk Z ls hl
  have C : CallFix p m c cX1_value 3 s args lw_all RX1 := C
  have hx := C.1
  have hb := C.2.1
  have hl : lv_has ls 3 [(0, .ref h), (1, .int (iI v))] := hl
  refine lv_aload_n hx hb dX1_value_0 rfl (lv_at hl 0 rfl) ?_
  refine lv_iload_n hx hb dX1_value_1 rfl (lv_at hl 1 rfl) ?_
  refine g_calli (n := 1) (wr := []) (w := wM h ad d) (As := [.int (iI v)]) (rest := []) C Z hl.1 (km_isVariable l D d h ad S v (by omega)) (lw_V q228 q230 qs13 q20 q231) rfl rfl (by decide +kernel) rfl ⟨rfl, rfl⟩ ⟨Nat.le_of_ble_eq_true rfl, Nat.le_of_ble_eq_true rfl⟩ rfl (Nat.le_of_ble_eq_true rfl) dX1_value_2 ⟨Nat.zero_le _, Nat.zero_le _⟩ (fun z1 S2 H locs hz1 Z => ?_)
  have Z : GW D _ s H locs d (wM h ad d S2) := Z
  rw [hz1.2] at Z
  have gz1 := hz1.1
  refine z_if_ne (tgt := 10) hx hb dX1_value_5 (by decide) (by omega) (fun c_5 => ?_) (fun c_5 => ?_)
  · refine lv_aload_n hx hb dX1_value_10 rfl (lv_at hl 0 rfl) ?_
    refine g_calli (n := 0) (wr := []) (w := wM h ad d) (As := []) (rest := []) C Z hl.1 (km_first l D d h ad S hM) (lw_V q248 q250 qs14 q20 q251) rfl rfl (by decide +kernel) rfl ⟨rfl, rfl⟩ ⟨Nat.le_of_ble_eq_true rfl, Nat.le_of_ble_eq_true rfl⟩ rfl (Nat.le_of_ble_eq_true rfl) dX1_value_11 ⟨Nat.zero_le _, Nat.zero_le _⟩ (fun z3 S4 H locs hz3 Z => ?_)
    have Z : GW D _ s H locs d (wM h ad d S4) := Z
    have bz : z3 = -6 ∨ (0 ≤ z3 ∧ z3 < 729) := by
      rcases hz3.2.2 with q | q
      · exact Or.inl q.1
      · exact Or.inr q.2.1.1
    refine lv_istore_n (lv' := [(2, .int (iI z3)), (0, .ref h), (1, .int (iI v))]) hx hb dX1_value_14 rfl hl (by decide) rfl (fun ls hl => ?_)
    refine lv_iload_n hx hb dX1_value_15 rfl (lv_at hl 0 rfl) ?_
    refine z_if_ge (tgt := 24) hx hb dX1_value_16 (by decide) (by omega) (fun c_16 => ?_) (fun c_16 => ?_)
    · refine lv_aload_n hx hb dX1_value_24 rfl (lv_at hl 1 rfl) ?_
      refine lv_iload_n hx hb dX1_value_25 rfl (lv_at hl 0 rfl) ?_
      refine lv_iload_n hx hb dX1_value_26 rfl (lv_at hl 2 rfl) ?_
      refine g_calli (n := 2) (wr := []) (w := wM h ad d) (As := [.int (iI z3), .int (iI v)]) (rest := []) C Z hl.1 (km_valueIn l D d h ad S4 z3 v (by omega) (by omega)) (lw_V q260 q262 qs17 q20 q263) rfl rfl (by decide +kernel) rfl ⟨rfl, rfl⟩ ⟨Nat.le_of_ble_eq_true rfl, Nat.le_of_ble_eq_true rfl⟩ rfl (Nat.le_of_ble_eq_true rfl) dX1_value_27 ⟨Nat.zero_le _, Nat.zero_le _⟩ (fun z5 S6 H locs hz5 Z => ?_)
      have Z : GW D _ s H locs d (wM h ad d S6) := Z
      rw [hz5.2] at Z
      obtain rfl : z5 = dg z3 v := hz5.1
      have bz5 := dg_b z3 v
      exact g_reti C hr hlk Z dX1_value_30 (⟨hz3.1, Or.inr ⟨by omega, by
          rcases hz3.2.2 with q | q
          · omega
          · exact Or.inr ⟨z3, q.2.1, rfl⟩⟩⟩)
    · refine z_bipush hx hb dX1_value_19 (by decide) ?_
      refine lv_goto (tgt := 30) hx hb dX1_value_21 (by decide) ?_
      exact g_reti C hr hlk Z dX1_value_30 (⟨hz3.1, Or.inr ⟨by omega, by
          rcases hz3.2.2 with q | q
          · exact Or.inl ⟨rfl, q.2⟩
          · omega⟩⟩)
  · refine z_iconst hx hb dX1_value_8 ?_
    exact g_reti C hr hlk Z dX1_value_9 (⟨⟨fun _ _ => rfl, hM⟩, Or.inl ⟨by omega, rfl⟩⟩)
set_option maxHeartbeats 8000000 in
theorem Lm_leastWith {p : Program} {l : Launch} {e : Env} {s : State} {m : MethodId} {args : Array Value} {below : List Frame} {meth : Method} {c : Code} {Q : State → Prop} {D : va_G} {A : Nat → Prop} {d : ClassId} {h : Nat} {ad : Nat → Nat} (C : CallFix p m c cX1_leastWith 6 s args lw_all RX1) (S N : St) (v a : Int) (hv : 0 ≤ v ∧ v ≤ 5) (ha : 0 ≤ a ∧ a ≤ 2) (hn : nOK N) (hF : ∀ k, 0 ≤ k → k < 729 → S 5 k = tmv (tt N k)) (kk : ∀ (r : Int) (H : Heap) (locs : List Loc) (ls : Array Slot), GW D A s H locs d (wM h ad d S) → mP (S 5) (fun k => dg k v = a) 729 r → lv_has ls 6 [(0, .ref h), (3, .int (iI r))] → W p l e (rmv 3) s m args below meth c H locs 0 0 Q (F0 m 102 ls [])) : ∀ (n : Nat) (i r : Int) (H : Heap) (locs : List Loc) (ls : Array Slot), 0 ≤ i → i ≤ 729 → 730 ≤ i + n → -6 ≤ r → r ≤ 49999 → GW D A s H locs d (wM h ad d S) → mP (S 5) (fun k => dg k v = a) i r → lv_has ls 6 [(0, .ref h), (1, .int (iI v)), (2, .int (iI a)), (3, .int (iI r)), (4, .int (iI i))] → W p l e (rmv 3) s m args below meth c H locs 0 0 Q (F0 m 32 ls []) := by
  have hx := C.1
  have hb := C.2.1
  intro n
  induction n with
  | zero =>
    intro i r H locs ls h1 h2 h3
    exact absurd h3 (by omega)
  | succ n ih =>
    intro i r H locs ls h1 h2 h3 r1 r2 Z i0 hl
    have tb : 0 ≤ i → i < 729 → -6 ≤ S 5 i ∧ S 5 i ≤ 49999 := fun x y => by
      have := hF i x y
      have := tmv_o (tt N i)
      have := tt_nn hn i
      omega
    refine lv_iload hx hb dX1_leastWith_32 (lv_at hl 4 rfl) ?_
    refine z_sipush hx hb dX1_leastWith_34 (by decide) ?_
    refine z_icmp_ge (tgt := 102) hx hb dX1_leastWith_37 (by decide) (by omega) (by omega) (fun c_37 => ?_) (fun c_37 => ?_)
    · obtain rfl : i = 729 := by omega
      exact kk r H locs ls Z i0 (lv_sub hl [0, 3] rfl)
    · refine lv_aload_n hx hb dX1_leastWith_40 rfl (lv_at hl 0 rfl) ?_
      refine m_get_5 C Z dX1_leastWith_41 ?_
      refine lv_iload hx hb dX1_leastWith_44 (lv_at hl 4 rfl) ?_
      refine m_ald_5 C Z (e0 := i) (by omega) (by omega) dX1_leastWith_46 ?_
      refine z_if_lt (tgt := 65) hx hb dX1_leastWith_47 (by decide) (by omega) (fun c_47 => ?_) (fun c_47 => ?_)
      · refine z_iconst hx hb dX1_leastWith_65 ?_
        refine lv_istore (lv' := [(5, .int (iI 0)), (0, .ref h), (1, .int (iI v)), (2, .int (iI a)), (3, .int (iI r)), (4, .int (iI i))]) hx hb dX1_leastWith_66 hl (by decide) rfl (fun ls hl => ?_)
        refine lv_iload hx hb dX1_leastWith_68 (lv_at hl 0 rfl) ?_
        refine z_if_eq (tgt := 96) hx hb dX1_leastWith_70 (by decide) (by omega) (fun c_70 => ?_) (fun c_70 => ?_)
        · refine z_iinc (lv' := [(4, .int (iI (i + 1))), (5, .int (iI 0)), (0, .ref h), (1, .int (iI v)), (2, .int (iI a)), (3, .int (iI r))]) hx hb dX1_leastWith_96 hl (k := 5) rfl (by decide) rfl (fun ls hl => ?_)
          refine lv_goto (tgt := 32) hx hb dX1_leastWith_99 (by decide) ?_
          exact ih (i + 1) r H locs ls (by omega) (by omega) (by omega) (by omega) (by omega) Z (mP_keep i0 (Or.inl (by omega))) (lv_sub hl [2, 3, 4, 5, 0] rfl)
        · omega
      · refine lv_aload_n hx hb dX1_leastWith_50 rfl (lv_at hl 0 rfl) ?_
        refine lv_iload hx hb dX1_leastWith_51 (lv_at hl 4 rfl) ?_
        refine lv_iload_n hx hb dX1_leastWith_53 rfl (lv_at hl 1 rfl) ?_
        refine g_calli (n := 2) (wr := []) (w := wM h ad d) (As := [.int (iI i), .int (iI v)]) (rest := []) C Z hl.1 (km_valueIn l D d h ad S i v (by omega) (by omega)) (lw_V q260 q262 qs17 q20 q263) rfl rfl (by decide +kernel) rfl ⟨rfl, rfl⟩ ⟨Nat.le_of_ble_eq_true rfl, Nat.le_of_ble_eq_true rfl⟩ rfl (Nat.le_of_ble_eq_true rfl) dX1_leastWith_54 ⟨Nat.zero_le _, Nat.zero_le _⟩ (fun z1 S2 H locs hz1 Z => ?_)
        have Z : GW D _ s H locs d (wM h ad d S2) := Z
        rw [hz1.2] at Z
        obtain rfl : z1 = dg i v := hz1.1
        have bz1 := dg_b i v
        refine lv_iload_n hx hb dX1_leastWith_57 rfl (lv_at hl 2 rfl) ?_
        refine z_icmp_ne (tgt := 65) hx hb dX1_leastWith_58 (by decide) (by omega) (by omega) (fun c_58 => ?_) (fun c_58 => ?_)
        · refine z_iconst hx hb dX1_leastWith_65 ?_
          refine lv_istore (lv' := [(5, .int (iI 0)), (0, .ref h), (1, .int (iI v)), (2, .int (iI a)), (3, .int (iI r)), (4, .int (iI i))]) hx hb dX1_leastWith_66 hl (by decide) rfl (fun ls hl => ?_)
          refine lv_iload hx hb dX1_leastWith_68 (lv_at hl 0 rfl) ?_
          refine z_if_eq (tgt := 96) hx hb dX1_leastWith_70 (by decide) (by omega) (fun c_70 => ?_) (fun c_70 => ?_)
          · refine z_iinc (lv' := [(4, .int (iI (i + 1))), (5, .int (iI 0)), (0, .ref h), (1, .int (iI v)), (2, .int (iI a)), (3, .int (iI r))]) hx hb dX1_leastWith_96 hl (k := 5) rfl (by decide) rfl (fun ls hl => ?_)
            refine lv_goto (tgt := 32) hx hb dX1_leastWith_99 (by decide) ?_
            exact ih (i + 1) r H locs ls (by omega) (by omega) (by omega) (by omega) (by omega) Z (mP_keep i0 (Or.inr (Or.inl c_58))) (lv_sub hl [2, 3, 4, 5, 0] rfl)
          · omega
        · refine z_iconst hx hb dX1_leastWith_61 ?_
          refine lv_goto (tgt := 66) hx hb dX1_leastWith_62 (by decide) ?_
          refine lv_istore (lv' := [(5, .int (iI 1)), (0, .ref h), (1, .int (iI v)), (2, .int (iI a)), (3, .int (iI r)), (4, .int (iI i))]) hx hb dX1_leastWith_66 hl (by decide) rfl (fun ls hl => ?_)
          refine lv_iload hx hb dX1_leastWith_68 (lv_at hl 0 rfl) ?_
          refine z_if_eq (tgt := 96) hx hb dX1_leastWith_70 (by decide) (by omega) (fun c_70 => ?_) (fun c_70 => ?_)
          · omega
          · refine lv_iload_n hx hb dX1_leastWith_73 rfl (lv_at hl 4 rfl) ?_
            refine z_if_lt (tgt := 88) hx hb dX1_leastWith_74 (by decide) (by omega) (fun c_74 => ?_) (fun c_74 => ?_)
            · refine lv_aload_n hx hb dX1_leastWith_88 rfl (lv_at hl 1 rfl) ?_
              refine m_get_5 C Z dX1_leastWith_89 ?_
              refine lv_iload hx hb dX1_leastWith_92 (lv_at hl 5 rfl) ?_
              refine m_ald_5 C Z (e0 := i) (by omega) (by omega) dX1_leastWith_94 ?_
              refine lv_istore_n (lv' := [(3, .int (iI (S 5 i))), (5, .int (iI 1)), (0, .ref h), (1, .int (iI v)), (2, .int (iI a)), (4, .int (iI i))]) hx hb dX1_leastWith_95 rfl hl (by decide) rfl (fun ls hl => ?_)
              refine z_iinc (lv' := [(4, .int (iI (i + 1))), (3, .int (iI (S 5 i))), (5, .int (iI 1)), (0, .ref h), (1, .int (iI v)), (2, .int (iI a))]) hx hb dX1_leastWith_96 hl (k := 5) rfl (by decide) rfl (fun ls hl => ?_)
              refine lv_goto (tgt := 32) hx hb dX1_leastWith_99 (by decide) ?_
              exact ih (i + 1) (S 5 i) H locs ls (by omega) (by omega) (by omega) (by omega) (by omega) Z (mP_new i0 h1 (by omega) c_58 (by omega)) (lv_sub hl [3, 4, 5, 1, 0] rfl)
            · refine lv_aload_n hx hb dX1_leastWith_77 rfl (lv_at hl 1 rfl) ?_
              refine m_get_5 C Z dX1_leastWith_78 ?_
              refine lv_iload hx hb dX1_leastWith_81 (lv_at hl 5 rfl) ?_
              refine m_ald_5 C Z (e0 := i) (by omega) (by omega) dX1_leastWith_83 ?_
              refine lv_iload_n hx hb dX1_leastWith_84 rfl (lv_at hl 4 rfl) ?_
              refine z_icmp_ge (tgt := 96) hx hb dX1_leastWith_85 (by decide) (by omega) (by omega) (fun c_85 => ?_) (fun c_85 => ?_)
              · refine z_iinc (lv' := [(4, .int (iI (i + 1))), (5, .int (iI 1)), (0, .ref h), (1, .int (iI v)), (2, .int (iI a)), (3, .int (iI r))]) hx hb dX1_leastWith_96 hl (k := 5) rfl (by decide) rfl (fun ls hl => ?_)
                refine lv_goto (tgt := 32) hx hb dX1_leastWith_99 (by decide) ?_
                exact ih (i + 1) r H locs ls (by omega) (by omega) (by omega) (by omega) (by omega) Z (mP_keep i0 (Or.inr (Or.inr (by omega)))) (lv_sub hl [2, 3, 4, 5, 0] rfl)
              · refine lv_aload_n hx hb dX1_leastWith_88 rfl (lv_at hl 1 rfl) ?_
                refine m_get_5 C Z dX1_leastWith_89 ?_
                refine lv_iload hx hb dX1_leastWith_92 (lv_at hl 5 rfl) ?_
                refine m_ald_5 C Z (e0 := i) (by omega) (by omega) dX1_leastWith_94 ?_
                refine lv_istore_n (lv' := [(3, .int (iI (S 5 i))), (5, .int (iI 1)), (0, .ref h), (1, .int (iI v)), (2, .int (iI a)), (4, .int (iI i))]) hx hb dX1_leastWith_95 rfl hl (by decide) rfl (fun ls hl => ?_)
                refine z_iinc (lv' := [(4, .int (iI (i + 1))), (3, .int (iI (S 5 i))), (5, .int (iI 1)), (0, .ref h), (1, .int (iI v)), (2, .int (iI a))]) hx hb dX1_leastWith_96 hl (k := 5) rfl (by decide) rfl (fun ls hl => ?_)
                refine lv_goto (tgt := 32) hx hb dX1_leastWith_99 (by decide) ?_
                exact ih (i + 1) (S 5 i) H locs ls (by omega) (by omega) (by omega) (by omega) (by omega) Z (mP_new i0 h1 (by omega) c_58 (by omega)) (lv_sub hl [3, 4, 5, 1, 0] rfl)
set_option maxHeartbeats 8000000 in
theorem km_leastWith (l : Launch) (D : va_G) (d : ClassId) (h : Nat) (ad : Nat → Nat) (S : St) (v : Int) (a : Int) (rv : -2147483648 ≤ v ∧ v ≤ 2147483647) (ra : -2147483648 ≤ a ∧ a ≤ 2147483647) (hM : mdOK S) : gMi l D d (wM h ad d) h yX1_leastWith cX1_leastWith 6 (some .int) (rmv 3) [.int (iI v), .int (iI a)] S (fun z S' => frm S S' ∧ (((v < 0 ∨ 6 ≤ v) ∧ z = -1) ∨ ((0 ≤ v ∧ v ≤ 5) ∧ (a < 0 ∨ 2 < a) ∧ z = -2) ∨ ((0 ≤ v ∧ v ≤ 5) ∧ (0 ≤ a ∧ a ≤ 2) ∧ isM (nm S) (fun k => dg k v = a) z))) := by
  refine g_met (by decide) (Nat.le_of_ble_eq_true rfl) ?_
  intro p e s m args below meth c C hr hlk Z ls hl
  have C : CallFix p m c cX1_leastWith 6 s args lw_all RX1 := C
  have hx := C.1
  have hb := C.2.1
  have hl : lv_has ls 6 [(0, .ref h), (1, .int (iI v)), (2, .int (iI a))] := hl
  refine lv_aload_n hx hb dX1_leastWith_0 rfl (lv_at hl 0 rfl) ?_
  refine lv_iload_n hx hb dX1_leastWith_1 rfl (lv_at hl 1 rfl) ?_
  refine g_calli (n := 1) (wr := []) (w := wM h ad d) (As := [.int (iI v)]) (rest := []) C Z hl.1 (km_isVariable l D d h ad S v (by omega)) (lw_V q228 q230 qs13 q20 q231) rfl rfl (by decide +kernel) rfl ⟨rfl, rfl⟩ ⟨Nat.le_of_ble_eq_true rfl, Nat.le_of_ble_eq_true rfl⟩ rfl (Nat.le_of_ble_eq_true rfl) dX1_leastWith_2 ⟨Nat.zero_le _, Nat.zero_le _⟩ (fun z1 S2 H locs hz1 Z => ?_)
  have Z : GW D _ s H locs d (wM h ad d S2) := Z
  rw [hz1.2] at Z
  have gz1 := hz1.1
  refine z_if_ne (tgt := 10) hx hb dX1_leastWith_5 (by decide) (by omega) (fun c_5 => ?_) (fun c_5 => ?_)
  · refine lv_iload_n hx hb dX1_leastWith_10 rfl (lv_at hl 2 rfl) ?_
    refine z_if_lt (tgt := 19) hx hb dX1_leastWith_11 (by decide) (by omega) (fun c_11 => ?_) (fun c_11 => ?_)
    · refine z_bipush hx hb dX1_leastWith_19 (by decide) ?_
      exact g_reti C hr hlk Z dX1_leastWith_21 (⟨⟨fun _ _ => rfl, hM⟩, Or.inr (Or.inl ⟨by omega, by omega, rfl⟩)⟩)
    · refine lv_iload_n hx hb dX1_leastWith_14 rfl (lv_at hl 2 rfl) ?_
      refine z_iconst hx hb dX1_leastWith_15 ?_
      refine z_icmp_le (tgt := 22) hx hb dX1_leastWith_16 (by decide) (by omega) (by omega) (fun c_16 => ?_) (fun c_16 => ?_)
      · refine lv_aload_n hx hb dX1_leastWith_22 rfl (lv_at hl 0 rfl) ?_
        refine g_callv (n := 0) (wr := []) (w := wM h ad d) (As := []) (rest := []) C Z hl.1 (km_work l D d h ad S hM) (lw_V q252 q254 qs15 q20 q255) rfl rfl (by decide +kernel) rfl ⟨rfl, rfl⟩ ⟨Nat.le_of_ble_eq_true rfl, Nat.le_of_ble_eq_true rfl⟩ rfl (Nat.le_of_ble_eq_true rfl) dX1_leastWith_23 ⟨Nat.zero_le _, Nat.zero_le _⟩ (fun S4 H locs hz3 Z => ?_)
        have Z : GW D _ s H locs d (wM h ad d S4) := Z
        have eN : nm S4 = nm S := nm_c hz3.1.1
        have hn : nOK (nm S) := hM.1
        have hF : ∀ k, 0 ≤ k → k < 729 → S4 5 k = tmv (tt (nm S) k) := by rw [← eN]; exact hz3.1.2.2.2 hz3.2
        refine z_bipush hx hb dX1_leastWith_26 (by decide) ?_
        refine lv_istore_n (lv' := [(3, .int (iI (-6))), (0, .ref h), (1, .int (iI v)), (2, .int (iI a))]) hx hb dX1_leastWith_28 rfl hl (by decide) rfl (fun ls hl => ?_)
        refine z_iconst hx hb dX1_leastWith_29 ?_
        refine lv_istore (lv' := [(4, .int (iI 0)), (3, .int (iI (-6))), (0, .ref h), (1, .int (iI v)), (2, .int (iI a))]) hx hb dX1_leastWith_30 hl (by decide) rfl (fun ls hl => ?_)
        refine Lm_leastWith C S4 (nm S) v a (by omega) (by omega) hn hF (fun r H locs ls Z i0 hl => ?_) 730 0 (-6) _ _ ls (by omega) (by omega) (by omega) (by omega) (by omega) Z (Or.inl ⟨rfl, fun k x y => by omega⟩) (lv_sub hl [2, 3, 4, 1, 0] rfl)
        refine lv_iload_n hx hb dX1_leastWith_102 rfl (lv_at hl 1 rfl) ?_
        exact g_reti C hr hlk Z dX1_leastWith_103 (⟨hz3.1, Or.inr (Or.inr ⟨by omega, by omega, mP_M hn hF i0⟩)⟩)
      · refine z_bipush hx hb dX1_leastWith_19 (by decide) ?_
        exact g_reti C hr hlk Z dX1_leastWith_21 (⟨⟨fun _ _ => rfl, hM⟩, Or.inr (Or.inl ⟨by omega, by omega, rfl⟩)⟩)
  · refine z_iconst hx hb dX1_leastWith_8 ?_
    exact g_reti C hr hlk Z dX1_leastWith_9 (⟨⟨fun _ _ => rfl, hM⟩, Or.inl ⟨by omega, rfl⟩⟩)
set_option maxHeartbeats 8000000 in
theorem Lm_upTo {p : Program} {l : Launch} {e : Env} {s : State} {m : MethodId} {args : Array Value} {below : List Frame} {meth : Method} {c : Code} {Q : State → Prop} {D : va_G} {A : Nat → Prop} {d : ClassId} {h : Nat} {ad : Nat → Nat} (C : CallFix p m c cX1_upTo 4 s args lw_all RX1) (S N : St) (b : Int) (rb : -2147483648 ≤ b ∧ b ≤ 2147483647) (hn : nOK N) (hF : ∀ k, 0 ≤ k → k < 729 → S 5 k = tmv (tt N k)) (kk : ∀ (H : Heap) (locs : List Loc) (ls : Array Slot), GW D A s H locs d (wM h ad d S) → lv_has ls 4 [(0, .ref h), (2, .int (iI (cn (fun k => 0 ≤ S 5 k ∧ S 5 k ≤ b) 729)))] → W p l e (rmv 3) s m args below meth c H locs 0 0 Q (F0 m 43 ls [])) : ∀ (n : Nat) (i u : Int) (H : Heap) (locs : List Loc) (ls : Array Slot), 0 ≤ i → i ≤ 729 → 730 ≤ i + n → u = cn (fun k => 0 ≤ S 5 k ∧ S 5 k ≤ b) i.toNat → GW D A s H locs d (wM h ad d S) → lv_has ls 4 [(0, .ref h), (1, .int (iI b)), (2, .int (iI u)), (3, .int (iI i))] → W p l e (rmv 3) s m args below meth c H locs 0 0 Q (F0 m 8 ls []) := by
  have hx := C.1
  have hb := C.2.1
  intro n
  induction n with
  | zero =>
    intro i u H locs ls h1 h2 h3
    exact absurd h3 (by omega)
  | succ n ih =>
    intro i u H locs ls h1 h2 h3 eu Z hl
    have tb : 0 ≤ i → i < 729 → -6 ≤ S 5 i ∧ S 5 i ≤ 49999 := fun x y => by
      have := hF i x y
      have := tmv_o (tt N i)
      have := tt_nn hn i
      omega
    refine lv_iload_n hx hb dX1_upTo_8 rfl (lv_at hl 3 rfl) ?_
    refine z_sipush hx hb dX1_upTo_9 (by decide) ?_
    refine z_icmp_ge (tgt := 43) hx hb dX1_upTo_12 (by decide) (by omega) (by omega) (fun c_12 => ?_) (fun c_12 => ?_)
    · obtain rfl : i = 729 := by omega
      rw [eu] at hl
      exact kk H locs ls Z (lv_sub hl [0, 2] rfl)
    · refine lv_aload_n hx hb dX1_upTo_15 rfl (lv_at hl 0 rfl) ?_
      refine m_get_5 C Z dX1_upTo_16 ?_
      refine lv_iload_n hx hb dX1_upTo_19 rfl (lv_at hl 3 rfl) ?_
      refine m_ald_5 C Z (e0 := i) (by omega) (by omega) dX1_upTo_20 ?_
      refine z_if_lt (tgt := 37) hx hb dX1_upTo_21 (by decide) (by omega) (fun c_21 => ?_) (fun c_21 => ?_)
      · refine z_iinc (lv' := [(3, .int (iI (i + 1))), (0, .ref h), (1, .int (iI b)), (2, .int (iI u))]) hx hb dX1_upTo_37 hl (k := 3) rfl (by decide) rfl (fun ls hl => ?_)
        refine lv_goto (tgt := 8) hx hb dX1_upTo_40 (by decide) ?_
        exact ih (i + 1) u H locs ls (by omega) (by omega) (by omega) (by rw [show (i + 1).toNat = i.toNat + 1 by omega, cn_0 (fun q => by rw [Int.toNat_of_nonneg h1] at q; omega), eu]) Z (lv_sub hl [1, 2, 3, 0] rfl)
      · refine lv_aload_n hx hb dX1_upTo_24 rfl (lv_at hl 0 rfl) ?_
        refine m_get_5 C Z dX1_upTo_25 ?_
        refine lv_iload_n hx hb dX1_upTo_28 rfl (lv_at hl 3 rfl) ?_
        refine m_ald_5 C Z (e0 := i) (by omega) (by omega) dX1_upTo_29 ?_
        refine lv_iload_n hx hb dX1_upTo_30 rfl (lv_at hl 1 rfl) ?_
        refine z_icmp_gt (tgt := 37) hx hb dX1_upTo_31 (by decide) (by omega) (by omega) (fun c_31 => ?_) (fun c_31 => ?_)
        · refine z_iinc (lv' := [(3, .int (iI (i + 1))), (0, .ref h), (1, .int (iI b)), (2, .int (iI u))]) hx hb dX1_upTo_37 hl (k := 3) rfl (by decide) rfl (fun ls hl => ?_)
          refine lv_goto (tgt := 8) hx hb dX1_upTo_40 (by decide) ?_
          exact ih (i + 1) u H locs ls (by omega) (by omega) (by omega) (by rw [show (i + 1).toNat = i.toNat + 1 by omega, cn_0 (fun q => by rw [Int.toNat_of_nonneg h1] at q; omega), eu]) Z (lv_sub hl [1, 2, 3, 0] rfl)
        · refine z_iinc (lv' := [(2, .int (iI (u + 1))), (0, .ref h), (1, .int (iI b)), (3, .int (iI i))]) hx hb dX1_upTo_34 hl (k := 2) rfl (by decide) rfl (fun ls hl => ?_)
          refine z_iinc (lv' := [(3, .int (iI (i + 1))), (2, .int (iI (u + 1))), (0, .ref h), (1, .int (iI b))]) hx hb dX1_upTo_37 hl (k := 3) rfl (by decide) rfl (fun ls hl => ?_)
          refine lv_goto (tgt := 8) hx hb dX1_upTo_40 (by decide) ?_
          exact ih (i + 1) (u + 1) H locs ls (by omega) (by omega) (by omega) (by rw [show (i + 1).toNat = i.toNat + 1 by omega, cn_1 ⟨by rw [Int.toNat_of_nonneg h1]; omega, by rw [Int.toNat_of_nonneg h1]; omega⟩, eu]) Z (lv_sub hl [2, 3, 1, 0] rfl)
set_option maxHeartbeats 8000000 in
theorem km_upTo (l : Launch) (D : va_G) (d : ClassId) (h : Nat) (ad : Nat → Nat) (S : St) (b : Int) (rb : -2147483648 ≤ b ∧ b ≤ 2147483647) (hM : mdOK S) : gMi l D d (wM h ad d) h yX1_upTo cX1_upTo 4 (some .int) (rmv 3) [.int (iI b)] S (fun z S' => frm S S' ∧ z = cnt (nm S) b) := by
  refine g_met (by decide) (Nat.le_of_ble_eq_true rfl) ?_
  intro p e s m args below meth c C hr hlk Z ls hl
  have C : CallFix p m c cX1_upTo 4 s args lw_all RX1 := C
  have hx := C.1
  have hb := C.2.1
  have hl : lv_has ls 4 [(0, .ref h), (1, .int (iI b))] := hl
  refine lv_aload_n hx hb dX1_upTo_0 rfl (lv_at hl 0 rfl) ?_
  refine g_callv (n := 0) (wr := []) (w := wM h ad d) (As := []) (rest := []) C Z hl.1 (km_work l D d h ad S hM) (lw_V q252 q254 qs15 q20 q255) rfl rfl (by decide +kernel) rfl ⟨rfl, rfl⟩ ⟨Nat.le_of_ble_eq_true rfl, Nat.le_of_ble_eq_true rfl⟩ rfl (Nat.le_of_ble_eq_true rfl) dX1_upTo_1 ⟨Nat.zero_le _, Nat.zero_le _⟩ (fun S2 H locs hz1 Z => ?_)
  have Z : GW D _ s H locs d (wM h ad d S2) := Z
  have eN : nm S2 = nm S := nm_c hz1.1.1
  have hn : nOK (nm S) := hM.1
  have hF : ∀ k, 0 ≤ k → k < 729 → S2 5 k = tmv (tt (nm S) k) := by rw [← eN]; exact hz1.1.2.2.2 hz1.2
  refine z_iconst hx hb dX1_upTo_4 ?_
  refine lv_istore_n (lv' := [(2, .int (iI 0)), (0, .ref h), (1, .int (iI b))]) hx hb dX1_upTo_5 rfl hl (by decide) rfl (fun ls hl => ?_)
  refine z_iconst hx hb dX1_upTo_6 ?_
  refine lv_istore_n (lv' := [(3, .int (iI 0)), (2, .int (iI 0)), (0, .ref h), (1, .int (iI b))]) hx hb dX1_upTo_7 rfl hl (by decide) rfl (fun ls hl => ?_)
  refine Lm_upTo C S2 (nm S) b rb hn hF (fun H locs ls Z hl => ?_) 730 0 0 _ _ ls (by omega) (by omega) (by omega) rfl Z (lv_sub hl [2, 3, 1, 0] rfl)
  refine lv_iload_n hx hb dX1_upTo_43 rfl (lv_at hl 1 rfl) ?_
  exact g_reti C hr hlk Z dX1_upTo_44 (⟨hz1.1, cn_F hn hF⟩)
set_option maxHeartbeats 8000000 in
theorem km_allowed (l : Launch) (D : va_G) (d : ClassId) (h : Nat) (ad : Nat → Nat) (S : St) (hM : mdOK S) : gMi l D d (wM h ad d) h yX1_allowed cX1_allowed 1 (some .int) (rmv 4) [] S (fun z S' => frm S S' ∧ z = cnt (nm S) 1000) := by
  refine g_met (by decide) (Nat.le_of_ble_eq_true rfl) ?_
  intro p e s m args below meth c C hr hlk Z ls hl
  have C : CallFix p m c cX1_allowed 1 s args lw_all RX1 := C
  have hx := C.1
  have hb := C.2.1
  have hl : lv_has ls 1 [(0, .ref h)] := hl
  refine lv_aload_n hx hb dX1_allowed_0 rfl (lv_at hl 0 rfl) ?_
  refine z_sipush hx hb dX1_allowed_1 (by decide) ?_
  refine g_calli (n := 1) (wr := []) (w := wM h ad d) (As := [.int (iI 1000)]) (rest := []) C Z hl.1 (km_upTo l D d h ad S 1000 (by omega) hM) (lw_V q277 q278 q279 q20 q280) rfl rfl (by decide +kernel) rfl ⟨rfl, rfl⟩ ⟨Nat.le_of_ble_eq_true rfl, Nat.le_of_ble_eq_true rfl⟩ rfl (Nat.le_of_ble_eq_true rfl) dX1_allowed_4 ⟨Nat.zero_le _, Nat.zero_le _⟩ (fun z1 S2 H locs hz1 Z => ?_)
  have Z : GW D _ s H locs d (wM h ad d S2) := Z
  exact g_reti C hr hlk Z dX1_allowed_7 (hz1)
set_option maxHeartbeats 8000000 in
theorem km_ties (l : Launch) (D : va_G) (d : ClassId) (h : Nat) (ad : Nat → Nat) (S : St) (hM : mdOK S) : gMi l D d (wM h ad d) h yX1_ties cX1_ties 2 (some .int) (rmv 5) [] S (fun z S' => frm S S' ∧ ((noF (nm S) ∧ z = 0) ∨ ∃ k0, isF (nm S) k0 ∧ z = cnt (nm S) (tt (nm S) k0))) := by
  refine g_met (by decide) (Nat.le_of_ble_eq_true rfl) ?_
  intro p e s m args below meth c C hr hlk Z ls hl
  have C : CallFix p m c cX1_ties 2 s args lw_all RX1 := C
  have hx := C.1
  have hb := C.2.1
  have hl : lv_has ls 2 [(0, .ref h)] := hl
  refine lv_aload_n hx hb dX1_ties_0 rfl (lv_at hl 0 rfl) ?_
  refine g_calli (n := 0) (wr := []) (w := wM h ad d) (As := []) (rest := []) C Z hl.1 (km_least l D d h ad S hM) (lw_V q276 q245 q246 q20 q247) rfl rfl (by decide +kernel) rfl ⟨rfl, rfl⟩ ⟨Nat.le_of_ble_eq_true rfl, Nat.le_of_ble_eq_true rfl⟩ rfl (Nat.le_of_ble_eq_true rfl) dX1_ties_1 ⟨Nat.zero_le _, Nat.zero_le _⟩ (fun z1 S2 H locs hz1 Z => ?_)
  have Z : GW D _ s H locs d (wM h ad d S2) := Z
  have bz : z1 = -6 ∨ (0 ≤ z1 ∧ z1 ≤ 49999) := by
    rcases hz1.2.2 with q | ⟨k0, q, e⟩
    · exact Or.inl q.1
    · have := q.2.1
      have := tt_nn hM.1 k0
      omega
  refine lv_istore_n (lv' := [(1, .int (iI z1)), (0, .ref h)]) hx hb dX1_ties_4 rfl hl (by decide) rfl (fun ls hl => ?_)
  refine lv_iload_n hx hb dX1_ties_5 rfl (lv_at hl 0 rfl) ?_
  refine z_if_ge (tgt := 13) hx hb dX1_ties_6 (by decide) (by omega) (fun c_6 => ?_) (fun c_6 => ?_)
  · refine lv_aload_n hx hb dX1_ties_13 rfl (lv_at hl 1 rfl) ?_
    refine lv_iload_n hx hb dX1_ties_14 rfl (lv_at hl 0 rfl) ?_
    refine g_calli (n := 1) (wr := []) (w := wM h ad d) (As := [.int (iI z1)]) (rest := []) C Z hl.1 (km_upTo l D d h ad S2 z1 (by omega) hz1.1.2) (lw_V q277 q278 q279 q20 q280) rfl rfl (by decide +kernel) rfl ⟨rfl, rfl⟩ ⟨Nat.le_of_ble_eq_true rfl, Nat.le_of_ble_eq_true rfl⟩ rfl (Nat.le_of_ble_eq_true rfl) dX1_ties_15 ⟨Nat.zero_le _, Nat.zero_le _⟩ (fun z3 S4 H locs hz3 Z => ?_)
    have Z : GW D _ s H locs d (wM h ad d S4) := Z
    exact g_reti C hr hlk Z dX1_ties_18 (⟨⟨fun k hk => by rw [hz3.1.1 k hk]; exact hz1.1.1 k hk, hz3.1.2⟩, by
        rcases hz1.2.2 with q | ⟨k0, q, e⟩
        · omega
        · refine Or.inr ⟨k0, q, ?_⟩
          rw [hz3.2, nm_c hz1.1.1, e]⟩)
  · refine z_iconst hx hb dX1_ties_9 ?_
    refine lv_goto (tgt := 18) hx hb dX1_ties_10 (by decide) ?_
    exact g_reti C hr hlk Z dX1_ties_18 (⟨hz1.1, by
        rcases hz1.2.2 with q | ⟨k0, q, e⟩
        · exact Or.inl ⟨q.2, rfl⟩
        · have := tt_nn hM.1 k0
          omega⟩)
set_option maxHeartbeats 8000000 in
theorem Lm_canAgree {p : Program} {l : Launch} {e : Env} {s : State} {m : MethodId} {args : Array Value} {below : List Frame} {meth : Method} {c : Code} {Q : State → Prop} {D : va_G} {A : Nat → Prop} {d : ClassId} {h : Nat} {ad : Nat → Nat} (C : CallFix p m c cX1_canAgree 5 s args lw_all RX1) (S N : St) (a b co : Int) (ha : 0 ≤ a ∧ a ≤ 5) (hbb : 0 ≤ b ∧ b ≤ 5) (hco : -6 ≤ co ∧ co ≤ 49999) (hn : nOK N) (hF : ∀ k, 0 ≤ k → k < 729 → S 5 k = tmv (tt N k)) (k1 : ∀ (H : Heap) (locs : List Loc) (ls : Array Slot), GW D A s H locs d (wM h ad d S) → (∃ k, 0 ≤ k ∧ k < 729 ∧ (0 ≤ co ∧ S 5 k = co ∧ dg k a = dg k b)) → W p l e (rmv 5) s m args below meth c H locs 0 0 Q (F0 m 66 ls [])) (k0 : ∀ (H : Heap) (locs : List Loc) (ls : Array Slot), GW D A s H locs d (wM h ad d S) → (∀ k, 0 ≤ k → k < 729 → ¬ (0 ≤ co ∧ S 5 k = co ∧ dg k a = dg k b)) → W p l e (rmv 5) s m args below meth c H locs 0 0 Q (F0 m 74 ls [])) : ∀ (n : Nat) (i : Int) (H : Heap) (locs : List Loc) (ls : Array Slot), 0 ≤ i → i ≤ 729 → 730 ≤ i + n → GW D A s H locs d (wM h ad d S) → (∀ k, 0 ≤ k → k < i → ¬ (0 ≤ co ∧ S 5 k = co ∧ dg k a = dg k b)) → lv_has ls 5 [(0, .ref h), (1, .int (iI a)), (2, .int (iI b)), (3, .int (iI co)), (4, .int (iI i))] → W p l e (rmv 5) s m args below meth c H locs 0 0 Q (F0 m 26 ls []) := by
  have hx := C.1
  have hb := C.2.1
  intro n
  induction n with
  | zero =>
    intro i H locs ls h1 h2 h3
    exact absurd h3 (by omega)
  | succ n ih =>
    intro i H locs ls h1 h2 h3 Z i0 hl
    have tb : 0 ≤ i → i < 729 → -6 ≤ S 5 i ∧ S 5 i ≤ 49999 := fun x y => by
      have := hF i x y
      have := tmv_o (tt N i)
      have := tt_nn hn i
      omega
    refine lv_iload hx hb dX1_canAgree_26 (lv_at hl 4 rfl) ?_
    refine z_sipush hx hb dX1_canAgree_28 (by decide) ?_
    refine z_icmp_ge (tgt := 74) hx hb dX1_canAgree_31 (by decide) (by omega) (by omega) (fun c_31 => ?_) (fun c_31 => ?_)
    · obtain rfl : i = 729 := by omega
      exact k0 H locs ls Z i0
    · refine lv_iload_n hx hb dX1_canAgree_34 rfl (lv_at hl 3 rfl) ?_
      refine z_if_lt (tgt := 68) hx hb dX1_canAgree_35 (by decide) (by omega) (fun c_35 => ?_) (fun c_35 => ?_)
      · refine z_iinc (lv' := [(4, .int (iI (i + 1))), (0, .ref h), (1, .int (iI a)), (2, .int (iI b)), (3, .int (iI co))]) hx hb dX1_canAgree_68 hl (k := 4) rfl (by decide) rfl (fun ls hl => ?_)
        refine lv_goto (tgt := 26) hx hb dX1_canAgree_71 (by decide) ?_
        refine ih (i + 1) H locs ls (by omega) (by omega) (by omega) Z (fun k y0 y1 y2 => ?_) (lv_sub hl [1, 2, 3, 4, 0] rfl)
        by_cases q : k = i
        · subst q
          omega
        · exact i0 k y0 (by omega) y2
      · refine lv_aload_n hx hb dX1_canAgree_38 rfl (lv_at hl 0 rfl) ?_
        refine m_get_5 C Z dX1_canAgree_39 ?_
        refine lv_iload hx hb dX1_canAgree_42 (lv_at hl 4 rfl) ?_
        refine m_ald_5 C Z (e0 := i) (by omega) (by omega) dX1_canAgree_44 ?_
        refine lv_iload_n hx hb dX1_canAgree_45 rfl (lv_at hl 3 rfl) ?_
        refine z_icmp_ne (tgt := 68) hx hb dX1_canAgree_46 (by decide) (by omega) (by omega) (fun c_46 => ?_) (fun c_46 => ?_)
        · refine z_iinc (lv' := [(4, .int (iI (i + 1))), (0, .ref h), (1, .int (iI a)), (2, .int (iI b)), (3, .int (iI co))]) hx hb dX1_canAgree_68 hl (k := 4) rfl (by decide) rfl (fun ls hl => ?_)
          refine lv_goto (tgt := 26) hx hb dX1_canAgree_71 (by decide) ?_
          refine ih (i + 1) H locs ls (by omega) (by omega) (by omega) Z (fun k y0 y1 y2 => ?_) (lv_sub hl [1, 2, 3, 4, 0] rfl)
          by_cases q : k = i
          · subst q
            omega
          · exact i0 k y0 (by omega) y2
        · refine lv_aload_n hx hb dX1_canAgree_49 rfl (lv_at hl 0 rfl) ?_
          refine lv_iload hx hb dX1_canAgree_50 (lv_at hl 4 rfl) ?_
          refine lv_iload_n hx hb dX1_canAgree_52 rfl (lv_at hl 1 rfl) ?_
          refine g_calli (n := 2) (wr := []) (w := wM h ad d) (As := [.int (iI i), .int (iI a)]) (rest := []) C Z hl.1 (km_valueIn l D d h ad S i a (by omega) (by omega)) (lw_V q260 q262 qs17 q20 q263) rfl rfl (by decide +kernel) rfl ⟨rfl, rfl⟩ ⟨Nat.le_of_ble_eq_true rfl, Nat.le_of_ble_eq_true rfl⟩ rfl (Nat.le_of_ble_eq_true rfl) dX1_canAgree_53 ⟨Nat.zero_le _, Nat.zero_le _⟩ (fun z1 S2 H locs hz1 Z => ?_)
          have Z : GW D _ s H locs d (wM h ad d S2) := Z
          rw [hz1.2] at Z
          obtain rfl : z1 = dg i a := hz1.1
          have bz1 := dg_b i a
          refine lv_aload_n hx hb dX1_canAgree_56 rfl (lv_at hl 0 rfl) ?_
          refine lv_iload hx hb dX1_canAgree_57 (lv_at hl 4 rfl) ?_
          refine lv_iload_n hx hb dX1_canAgree_59 rfl (lv_at hl 2 rfl) ?_
          refine g_calli (n := 2) (wr := []) (w := wM h ad d) (As := [.int (iI i), .int (iI b)]) (rest := [.int (iI (dg i a))]) C Z hl.1 (km_valueIn l D d h ad S i b (by omega) (by omega)) (lw_V q260 q262 qs17 q20 q263) rfl rfl (by decide +kernel) rfl ⟨rfl, rfl⟩ ⟨Nat.le_of_ble_eq_true rfl, Nat.le_of_ble_eq_true rfl⟩ rfl (Nat.le_of_ble_eq_true rfl) dX1_canAgree_60 ⟨Nat.zero_le _, Nat.zero_le _⟩ (fun z3 S4 H locs hz3 Z => ?_)
          have Z : GW D _ s H locs d (wM h ad d S4) := Z
          rw [hz3.2] at Z
          obtain rfl : z3 = dg i b := hz3.1
          have bz3 := dg_b i b
          refine z_icmp_ne (tgt := 68) hx hb dX1_canAgree_63 (by decide) (by omega) (by omega) (fun c_63 => ?_) (fun c_63 => ?_)
          · refine z_iinc (lv' := [(4, .int (iI (i + 1))), (0, .ref h), (1, .int (iI a)), (2, .int (iI b)), (3, .int (iI co))]) hx hb dX1_canAgree_68 hl (k := 4) rfl (by decide) rfl (fun ls hl => ?_)
            refine lv_goto (tgt := 26) hx hb dX1_canAgree_71 (by decide) ?_
            refine ih (i + 1) H locs ls (by omega) (by omega) (by omega) Z (fun k y0 y1 y2 => ?_) (lv_sub hl [1, 2, 3, 4, 0] rfl)
            by_cases q : k = i
            · subst q
              omega
            · exact i0 k y0 (by omega) y2
          · exact k1 H locs ls Z ⟨i, h1, by omega, by omega, by omega, by omega⟩
set_option maxHeartbeats 8000000 in
theorem km_canAgree (l : Launch) (D : va_G) (d : ClassId) (h : Nat) (ad : Nat → Nat) (S : St) (a : Int) (b : Int) (ra : -2147483648 ≤ a ∧ a ≤ 2147483647) (rb : -2147483648 ≤ b ∧ b ≤ 2147483647) (hM : mdOK S) : gMi l D d (wM h ad d) h yX1_canAgree cX1_canAgree 5 (some .boolean) (rmv 5) [.int (iI a), .int (iI b)] S (fun z S' => frm S S' ∧ (z = 0 ∨ z = 1) ∧ (z = 1 ↔ ((0 ≤ a ∧ a ≤ 5) ∧ (0 ≤ b ∧ b ≤ 5) ∧ agr (nm S) a b))) := by
  refine g_met (by decide) (Nat.le_of_ble_eq_true rfl) ?_
  intro p e s m args below meth c C hr hlk Z ls hl
  have C : CallFix p m c cX1_canAgree 5 s args lw_all RX1 := C
  have hx := C.1
  have hb := C.2.1
  have hl : lv_has ls 5 [(0, .ref h), (1, .int (iI a)), (2, .int (iI b))] := hl
  refine lv_aload_n hx hb dX1_canAgree_0 rfl (lv_at hl 0 rfl) ?_
  refine lv_iload_n hx hb dX1_canAgree_1 rfl (lv_at hl 1 rfl) ?_
  refine g_calli (n := 1) (wr := []) (w := wM h ad d) (As := [.int (iI a)]) (rest := []) C Z hl.1 (km_isVariable l D d h ad S a (by omega)) (lw_V q228 q230 qs13 q20 q231) rfl rfl (by decide +kernel) rfl ⟨rfl, rfl⟩ ⟨Nat.le_of_ble_eq_true rfl, Nat.le_of_ble_eq_true rfl⟩ rfl (Nat.le_of_ble_eq_true rfl) dX1_canAgree_2 ⟨Nat.zero_le _, Nat.zero_le _⟩ (fun z1 S2 H locs hz1 Z => ?_)
  have Z : GW D _ s H locs d (wM h ad d S2) := Z
  rw [hz1.2] at Z
  have gz1 := hz1.1
  refine z_if_eq (tgt := 16) hx hb dX1_canAgree_5 (by decide) (by omega) (fun c_5 => ?_) (fun c_5 => ?_)
  · refine z_iconst hx hb dX1_canAgree_16 ?_
    exact g_retz C hr hlk Z dX1_canAgree_17 (by omega) (⟨⟨fun _ _ => rfl, hM⟩, Or.inl rfl, ⟨fun q => by omega, fun q => by omega⟩⟩)
  · refine lv_aload_n hx hb dX1_canAgree_8 rfl (lv_at hl 0 rfl) ?_
    refine lv_iload_n hx hb dX1_canAgree_9 rfl (lv_at hl 2 rfl) ?_
    refine g_calli (n := 1) (wr := []) (w := wM h ad d) (As := [.int (iI b)]) (rest := []) C Z hl.1 (km_isVariable l D d h ad S b (by omega)) (lw_V q228 q230 qs13 q20 q231) rfl rfl (by decide +kernel) rfl ⟨rfl, rfl⟩ ⟨Nat.le_of_ble_eq_true rfl, Nat.le_of_ble_eq_true rfl⟩ rfl (Nat.le_of_ble_eq_true rfl) dX1_canAgree_10 ⟨Nat.zero_le _, Nat.zero_le _⟩ (fun z3 S4 H locs hz3 Z => ?_)
    have Z : GW D _ s H locs d (wM h ad d S4) := Z
    rw [hz3.2] at Z
    have gz3 := hz3.1
    refine z_if_ne (tgt := 18) hx hb dX1_canAgree_13 (by decide) (by omega) (fun c_13 => ?_) (fun c_13 => ?_)
    · have fa : 0 ≤ a ∧ a ≤ 5 := by omega
      have fb : 0 ≤ b ∧ b ≤ 5 := by omega
      refine lv_aload_n hx hb dX1_canAgree_18 rfl (lv_at hl 0 rfl) ?_
      refine g_calli (n := 0) (wr := []) (w := wM h ad d) (As := []) (rest := []) C Z hl.1 (km_least l D d h ad S hM) (lw_V q276 q245 q246 q20 q247) rfl rfl (by decide +kernel) rfl ⟨rfl, rfl⟩ ⟨Nat.le_of_ble_eq_true rfl, Nat.le_of_ble_eq_true rfl⟩ rfl (Nat.le_of_ble_eq_true rfl) dX1_canAgree_19 ⟨Nat.zero_le _, Nat.zero_le _⟩ (fun z5 S6 H locs hz5 Z => ?_)
      have Z : GW D _ s H locs d (wM h ad d S6) := Z
      have bz : z5 = -6 ∨ (0 ≤ z5 ∧ z5 ≤ 49999) := by
        rcases hz5.2.2 with q | ⟨k0, q, e⟩
        · exact Or.inl q.1
        · have := q.2.1
          have := tt_nn hM.1 k0
          omega
      have eN : nm S6 = nm S := nm_c hz5.1.1
      have hF : ∀ k, 0 ≤ k → k < 729 → S6 5 k = tmv (tt (nm S) k) := by rw [← eN]; exact hz5.1.2.2.2 hz5.2.1
      refine lv_istore_n (lv' := [(3, .int (iI z5)), (0, .ref h), (1, .int (iI a)), (2, .int (iI b))]) hx hb dX1_canAgree_22 rfl hl (by decide) rfl (fun ls hl => ?_)
      refine z_iconst hx hb dX1_canAgree_23 ?_
      refine lv_istore (lv' := [(4, .int (iI 0)), (3, .int (iI z5)), (0, .ref h), (1, .int (iI a)), (2, .int (iI b))]) hx hb dX1_canAgree_24 hl (by decide) rfl (fun ls hl => ?_)
      refine Lm_canAgree C S6 (nm S) a b z5 fa fb (by clear fa fb; clear hz5; omega) hM.1 hF (fun H locs ls Z ia => ?_) (fun H locs ls Z ia => ?_) 730 0 _ _ ls (by omega) (by omega) (by omega) Z (fun k x y => by omega) (lv_sub hl [2, 3, 4, 1, 0] rfl)
      · refine z_iconst hx hb dX1_canAgree_66 ?_
        exact g_retz C hr hlk Z dX1_canAgree_67 (by omega) (by
          refine ⟨hz5.1, Or.inr rfl, ⟨fun _ => ⟨fa, fb, ?_⟩, fun _ => rfl⟩⟩
          obtain ⟨k, y0, y1, y2, y3, y4⟩ := ia
          rcases hz5.2.2 with q | ⟨k0, q, e⟩
          · omega
          · have e3 := hF k y0 y1
            have e4 := tmv_o (tt (nm S) k)
            have e5 := tt_nn hM.1 k
            exact ⟨k, ⟨y0, y1⟩, by omega, fun k' x y => by have := q.2.2.1 k' x y; omega, y4⟩)
      · refine z_iconst hx hb dX1_canAgree_74 ?_
        exact g_retz C hr hlk Z dX1_canAgree_75 (by omega) (by
          refine ⟨hz5.1, Or.inl rfl, ⟨fun q => by omega, fun q => ?_⟩⟩
          obtain ⟨-, -, k, q4, q5, q6, q7⟩ := q
          have e3 := hF k q4.1 q4.2
          have e4 := tmv_o (tt (nm S) k)
          have e5 := tt_nn hM.1 k
          rcases hz5.2.2 with q | ⟨k0, q, e⟩
          · have := q.2 k q4.1 q4.2
            omega
          · have e1 := q6 k0 q.1.1 q.1.2
            have e2 := q.2.2.1 k q4.1 q4.2
            exact absurd ⟨by omega, by omega, q7⟩ (ia k q4.1 q4.2))
    · refine z_iconst hx hb dX1_canAgree_16 ?_
      exact g_retz C hr hlk Z dX1_canAgree_17 (by omega) (⟨⟨fun _ _ => rfl, hM⟩, Or.inl rfl, ⟨fun q => by omega, fun q => by omega⟩⟩)
end
section
set_option maxRecDepth 100000
/-! ===== the two objects hold the same network: what one call does to both ===== -/
def eqv (S M : St) : Prop := M 0 = S 0 ∧ M 4 0 = S 1 0 ∧ M 1 = S 2 ∧ M 2 = S 3 ∧ M 3 = S 4
def ivv (S M : St) : Prop := xOK S ∧ mdOK M ∧ eqv S M
theorem tt_e {S M : St} (h : eqv S M) (k : Int) : tt (nm M) k = tt S k := by
  obtain ⟨h0, h1, h2, h3, h4⟩ := h
  have hp : pl (nm M) (dg k) = pl S (dg k) := by
    funext i
    show i * 9 + dg k (M 1 i) + 3 * dg k (M 2 i) = i * 9 + dg k (S 2 i) + 3 * dg k (S 3 i)
    rw [h2, h3]
  unfold tt tO
  rw [hp]
  show cp (sm (fun v => cp (aM (M 0 (v * 3 + dg k v)))) 6 + sm (fun t => cp (aM (M 3 (pl S (dg k) t)))) (M 4 0).toNat) = _
  rw [h0, h1, h4]
theorem nOK_e {S M : St} (h : eqv S M) (hn : nOK S) : nOK (nm M) := by
  obtain ⟨h0, h1, h2, h3, h4⟩ := h
  obtain ⟨n1, n0, n2, n3, n4, n5⟩ := hn
  show (0 ≤ M 4 0 ∧ M 4 0 ≤ 8) ∧ (∀ j, 0 ≤ M 0 j ∧ M 0 j ≤ 20) ∧ (∀ j, 0 ≤ M 1 j ∧ M 1 j ≤ 5) ∧ (∀ j, 0 ≤ M 2 j ∧ M 2 j ≤ 5) ∧ (∀ j, 0 ≤ M 3 j ∧ M 3 j ≤ 20) ∧ (∀ t, 0 ≤ t → t < M 4 0 → M 1 t ≠ M 2 t)
  rw [h0, h1, h2, h3, h4]
  exact ⟨n1, n0, n2, n3, n4, n5⟩
theorem inv_e {S S' M' : St} (hx : xOK S) (hn : nOK S') (h8 : ∀ k, 6 ≤ k → k ≤ 8 → S' k = S k) (h5 : S' 5 0 = 0) (h6 : M' 6 0 = 0) (he : eqv S' M') : ivv S' M' := by
  obtain ⟨-, ⟨m1, m2, m3⟩, -, -⟩ := hx
  refine ⟨⟨hn, ⟨?_, ?_, ?_⟩, Or.inl h5, fun q => by omega⟩, ⟨nOK_e he hn, Or.inl h6, fun q => by omega⟩, he⟩
  · rw [h8 6 (by decide) (by decide)]; exact m1
  · rw [h8 7 (by decide) (by decide)]; exact m2
  · rw [h8 8 (by decide) (by decide)]; exact m3
theorem inv_f {S M S' M' : St} (I : ivv S M) (hx : frx S S') (hm : frm M M') : ivv S' M' := by
  obtain ⟨-, -, h0, h1, h2, h3, h4⟩ := I
  refine ⟨hx.2, hm.2, ?_⟩
  unfold eqv
  rw [hx.1 0 (by decide), hx.1 1 (by decide), hx.1 2 (by decide), hx.1 3 (by decide), hx.1 4 (by decide), hm.1 0 (by decide), hm.1 1 (by decide), hm.1 2 (by decide), hm.1 3 (by decide), hm.1 4 (by decide)]
  exact ⟨h0, h1, h2, h3, h4⟩
/-! ===== edits ===== -/
theorem J_cost {S M S' M' : St} {v a k z z' : Int} (I : ivv S M)
    (hx : ((v < 0 ∨ 6 ≤ v) ∧ z = -1 ∧ S' = S) ∨ ((0 ≤ v ∧ v ≤ 5) ∧ (a < 0 ∨ 2 < a) ∧ z = -2 ∧ S' = S) ∨ ((0 ≤ v ∧ v ≤ 5) ∧ (0 ≤ a ∧ a ≤ 2) ∧ (k < 0 ∨ 20 < k) ∧ z = -3 ∧ S' = S) ∨ ((0 ≤ v ∧ v ≤ 5) ∧ (0 ≤ a ∧ a ≤ 2) ∧ (0 ≤ k ∧ k ≤ 20) ∧ z = S 0 (v * 3 + a) ∧ S' = up (up S 0 (v * 3 + a) k) 5 0 0))
    (hm : ((v < 0 ∨ 6 ≤ v) ∧ z' = -1 ∧ M' = M) ∨ ((0 ≤ v ∧ v ≤ 5) ∧ (a < 0 ∨ 2 < a) ∧ z' = -2 ∧ M' = M) ∨ ((0 ≤ v ∧ v ≤ 5) ∧ (0 ≤ a ∧ a ≤ 2) ∧ (k < 0 ∨ 20 < k) ∧ z' = -3 ∧ M' = M) ∨ ((0 ≤ v ∧ v ≤ 5) ∧ (0 ≤ a ∧ a ≤ 2) ∧ (0 ≤ k ∧ k ≤ 20) ∧ z' = M 0 (v * 3 + a) ∧ M' = up (up M 0 (v * 3 + a) k) 6 0 0)) : z = z' ∧ ivv S' M' := by
  rcases hx with ⟨a1, a2, rfl⟩ | ⟨a0, a1, a2, rfl⟩ | ⟨a0, a1, a3, a2, rfl⟩ | ⟨a0, a1, a3, a2, a4⟩
  · rcases hm with ⟨b1, b2, rfl⟩ | ⟨b0, b1, b2, rfl⟩ | ⟨b0, b1, b3, b2, rfl⟩ | ⟨b0, b1, b3, b2, b4⟩
    · exact ⟨by omega, I⟩
    · omega
    · omega
    · omega
  · rcases hm with ⟨b1, b2, rfl⟩ | ⟨b0, b1, b2, rfl⟩ | ⟨b0, b1, b3, b2, rfl⟩ | ⟨b0, b1, b3, b2, b4⟩
    · omega
    · exact ⟨by omega, I⟩
    · omega
    · omega
  · rcases hm with ⟨b1, b2, rfl⟩ | ⟨b0, b1, b2, rfl⟩ | ⟨b0, b1, b3, b2, rfl⟩ | ⟨b0, b1, b3, b2, b4⟩
    · omega
    · omega
    · exact ⟨by omega, I⟩
    · omega
  · rcases hm with ⟨b1, b2, rfl⟩ | ⟨b0, b1, b2, rfl⟩ | ⟨b0, b1, b3, b2, rfl⟩ | ⟨b0, b1, b3, b2, b4⟩
    · omega
    · omega
    · omega
    · obtain ⟨hX, hM, h0, h1, h2, h3, h4⟩ := I
      obtain ⟨n1, n0, n2, n3, n4, n5⟩ := hX.1
      have u : ∀ j, j ≠ 0 → j ≠ 5 → S' j = S j := fun j x y => by rw [a4, up_n _ _ _ _ _ y, up_n _ _ _ _ _ x]
      have w : ∀ j, j ≠ 0 → j ≠ 6 → M' j = M j := fun j x y => by rw [b4, up_n _ _ _ _ _ y, up_n _ _ _ _ _ x]
      have u0 : ∀ j, S' 0 j = if j = v * 3 + a then k else S 0 j := fun j => by rw [a4, up_n _ _ _ _ _ (by decide), up_s]
      have w0 : ∀ j, M' 0 j = if j = v * 3 + a then k else M 0 j := fun j => by rw [b4, up_n _ _ _ _ _ (by decide), up_s]
      refine ⟨by rw [a2, b2, h0], inv_e hX ⟨?_, ?_, ?_, ?_, ?_, ?_⟩ (fun j x y => u j (by omega) (by omega)) (by rw [a4, up_e]) (by rw [b4, up_e]) ⟨?_, ?_, ?_, ?_, ?_⟩⟩
      · rw [u 1 (by decide) (by decide)]; exact n1
      · intro j
        rw [u0]
        split
        · exact a3
        · exact n0 j
      · rw [u 2 (by decide) (by decide)]; exact n2
      · rw [u 3 (by decide) (by decide)]; exact n3
      · rw [u 4 (by decide) (by decide)]; exact n4
      · rw [u 1 (by decide) (by decide), u 2 (by decide) (by decide), u 3 (by decide) (by decide)]; exact n5
      · funext j
        rw [u0, w0, h0]
      · rw [u 1 (by decide) (by decide), w 4 (by decide) (by decide)]; exact h1
      · rw [u 2 (by decide) (by decide), w 1 (by decide) (by decide)]; exact h2
      · rw [u 3 (by decide) (by decide), w 2 (by decide) (by decide)]; exact h3
      · rw [u 4 (by decide) (by decide), w 3 (by decide) (by decide)]; exact h4
theorem J_pair {S M S' M' : St} {t a k z z' : Int} (I : ivv S M)
    (hx : ((t < 0 ∨ S 1 0 ≤ t) ∧ z = -4 ∧ S' = S) ∨ ((0 ≤ t ∧ t < S 1 0) ∧ (a < 0 ∨ 8 < a) ∧ z = -2 ∧ S' = S) ∨ ((0 ≤ t ∧ t < S 1 0) ∧ (0 ≤ a ∧ a ≤ 8) ∧ (k < 0 ∨ 20 < k) ∧ z = -3 ∧ S' = S) ∨ ((0 ≤ t ∧ t < S 1 0) ∧ (0 ≤ a ∧ a ≤ 8) ∧ (0 ≤ k ∧ k ≤ 20) ∧ z = S 4 (t * 9 + a) ∧ S' = up (up S 4 (t * 9 + a) k) 5 0 0))
    (hm : ((t < 0 ∨ M 4 0 ≤ t) ∧ z' = -4 ∧ M' = M) ∨ ((0 ≤ t ∧ t < M 4 0) ∧ (a < 0 ∨ 8 < a) ∧ z' = -2 ∧ M' = M) ∨ ((0 ≤ t ∧ t < M 4 0) ∧ (0 ≤ a ∧ a ≤ 8) ∧ (k < 0 ∨ 20 < k) ∧ z' = -3 ∧ M' = M) ∨ ((0 ≤ t ∧ t < M 4 0) ∧ (0 ≤ a ∧ a ≤ 8) ∧ (0 ≤ k ∧ k ≤ 20) ∧ z' = M 3 (t * 9 + a) ∧ M' = up (up M 3 (t * 9 + a) k) 6 0 0)) : z = z' ∧ ivv S' M' := by
  have hq := I.2.2.2.1
  rcases hx with ⟨a1, a2, rfl⟩ | ⟨a0, a1, a2, rfl⟩ | ⟨a0, a1, a3, a2, rfl⟩ | ⟨a0, a1, a3, a2, a4⟩
  · rcases hm with ⟨b1, b2, rfl⟩ | ⟨b0, b1, b2, rfl⟩ | ⟨b0, b1, b3, b2, rfl⟩ | ⟨b0, b1, b3, b2, b4⟩
    · exact ⟨by omega, I⟩
    · omega
    · omega
    · omega
  · rcases hm with ⟨b1, b2, rfl⟩ | ⟨b0, b1, b2, rfl⟩ | ⟨b0, b1, b3, b2, rfl⟩ | ⟨b0, b1, b3, b2, b4⟩
    · omega
    · exact ⟨by omega, I⟩
    · omega
    · omega
  · rcases hm with ⟨b1, b2, rfl⟩ | ⟨b0, b1, b2, rfl⟩ | ⟨b0, b1, b3, b2, rfl⟩ | ⟨b0, b1, b3, b2, b4⟩
    · omega
    · omega
    · exact ⟨by omega, I⟩
    · omega
  · rcases hm with ⟨b1, b2, rfl⟩ | ⟨b0, b1, b2, rfl⟩ | ⟨b0, b1, b3, b2, rfl⟩ | ⟨b0, b1, b3, b2, b4⟩
    · omega
    · omega
    · omega
    · obtain ⟨hX, hM, h0, h1, h2, h3, h4⟩ := I
      obtain ⟨n1, n0, n2, n3, n4, n5⟩ := hX.1
      have u : ∀ j, j ≠ 4 → j ≠ 5 → S' j = S j := fun j x y => by rw [a4, up_n _ _ _ _ _ y, up_n _ _ _ _ _ x]
      have w : ∀ j, j ≠ 3 → j ≠ 6 → M' j = M j := fun j x y => by rw [b4, up_n _ _ _ _ _ y, up_n _ _ _ _ _ x]
      have u0 : ∀ j, S' 4 j = if j = t * 9 + a then k else S 4 j := fun j => by rw [a4, up_n _ _ _ _ _ (by decide), up_s]
      have w0 : ∀ j, M' 3 j = if j = t * 9 + a then k else M 3 j := fun j => by rw [b4, up_n _ _ _ _ _ (by decide), up_s]
      refine ⟨by rw [a2, b2, h4], inv_e hX ⟨?_, ?_, ?_, ?_, ?_, ?_⟩ (fun j x y => u j (by omega) (by omega)) (by rw [a4, up_e]) (by rw [b4, up_e]) ⟨?_, ?_, ?_, ?_, ?_⟩⟩
      · rw [u 1 (by decide) (by decide)]; exact n1
      · rw [u 0 (by decide) (by decide)]; exact n0
      · rw [u 2 (by decide) (by decide)]; exact n2
      · rw [u 3 (by decide) (by decide)]; exact n3
      · intro j
        rw [u0]
        split
        · exact a3
        · exact n4 j
      · rw [u 1 (by decide) (by decide), u 2 (by decide) (by decide), u 3 (by decide) (by decide)]; exact n5
      · rw [u 0 (by decide) (by decide), w 0 (by decide) (by decide)]; exact h0
      · rw [u 1 (by decide) (by decide), w 4 (by decide) (by decide)]; exact h1
      · rw [u 2 (by decide) (by decide), w 1 (by decide) (by decide)]; exact h2
      · rw [u 3 (by decide) (by decide), w 2 (by decide) (by decide)]; exact h3
      · funext j
        rw [u0, w0, h4]
theorem J_drop {S M S' M' : St} {z z' : Int} (I : ivv S M)
    (hx : (S 1 0 = 0 ∧ z = -4 ∧ S' = S) ∨ (0 < S 1 0 ∧ z = S 1 0 - 1 ∧ S' = up (up S 1 0 (S 1 0 - 1)) 5 0 0))
    (hm : (M 4 0 = 0 ∧ z' = -4 ∧ M' = M) ∨ (0 < M 4 0 ∧ z' = M 4 0 - 1 ∧ M' = up (up M 4 0 (M 4 0 - 1)) 6 0 0)) : z = z' ∧ ivv S' M' := by
  have hq := I.2.2.2.1
  rcases hx with ⟨a1, a2, rfl⟩ | ⟨a1, a2, a4⟩
  · rcases hm with ⟨b1, b2, rfl⟩ | ⟨b1, b2, b4⟩
    · exact ⟨by omega, I⟩
    · omega
  · rcases hm with ⟨b1, b2, rfl⟩ | ⟨b1, b2, b4⟩
    · omega
    · obtain ⟨hX, hM, h0, h1, h2, h3, h4⟩ := I
      obtain ⟨n1, n0, n2, n3, n4, n5⟩ := hX.1
      have u : ∀ j, j ≠ 1 → j ≠ 5 → S' j = S j := fun j x y => by rw [a4, up_n _ _ _ _ _ y, up_n _ _ _ _ _ x]
      have w : ∀ j, j ≠ 4 → j ≠ 6 → M' j = M j := fun j x y => by rw [b4, up_n _ _ _ _ _ y, up_n _ _ _ _ _ x]
      have u0 : S' 1 0 = S 1 0 - 1 := by rw [a4, up_n _ _ _ _ _ (by decide), up_e]
      have w0 : M' 4 0 = M 4 0 - 1 := by rw [b4, up_n _ _ _ _ _ (by decide), up_e]
      refine ⟨by omega, inv_e hX ⟨by omega, ?_, ?_, ?_, ?_, ?_⟩ (fun j x y => u j (by omega) (by omega)) (by rw [a4, up_e]) (by rw [b4, up_e]) ⟨?_, by omega, ?_, ?_, ?_⟩⟩
      · rw [u 0 (by decide) (by decide)]; exact n0
      · rw [u 2 (by decide) (by decide)]; exact n2
      · rw [u 3 (by decide) (by decide)]; exact n3
      · rw [u 4 (by decide) (by decide)]; exact n4
      · intro t x y
        rw [u 2 (by decide) (by decide), u 3 (by decide) (by decide)]
        exact n5 t x (by omega)
      · rw [u 0 (by decide) (by decide), w 0 (by decide) (by decide)]; exact h0
      · rw [u 2 (by decide) (by decide), w 1 (by decide) (by decide)]; exact h2
      · rw [u 3 (by decide) (by decide), w 2 (by decide) (by decide)]; exact h3
      · rw [u 4 (by decide) (by decide), w 3 (by decide) (by decide)]; exact h4
theorem J_table {S M S' M' : St} {u v z z' : Int} (I : ivv S M)
    (hx : ((u < 0 ∨ 6 ≤ u ∨ v < 0 ∨ 6 ≤ v ∨ u = v) ∧ z = -1 ∧ S' = S) ∨ ((0 ≤ u ∧ u ≤ 5 ∧ 0 ≤ v ∧ v ≤ 5 ∧ u ≠ v) ∧ S 1 0 = 8 ∧ z = -5 ∧ S' = S) ∨ ((0 ≤ u ∧ u ≤ 5 ∧ 0 ≤ v ∧ v ≤ 5 ∧ u ≠ v) ∧ S 1 0 ≤ 7 ∧ z = S 1 0 ∧ S' 1 0 = S 1 0 + 1 ∧ S' 5 0 = 0 ∧ (∀ j, S' 2 j = if j = S 1 0 then u else S 2 j) ∧ (∀ j, S' 3 j = if j = S 1 0 then v else S 3 j) ∧ (∀ j, S' 4 j = if S 1 0 * 9 ≤ j ∧ j < S 1 0 * 9 + 9 then 0 else S 4 j) ∧ (∀ k, k ≠ 1 → k ≠ 2 → k ≠ 3 → k ≠ 4 → k ≠ 5 → S' k = S k)))
    (hm : ((u < 0 ∨ 6 ≤ u ∨ v < 0 ∨ 6 ≤ v ∨ u = v) ∧ z' = -1 ∧ M' = M) ∨ ((0 ≤ u ∧ u ≤ 5 ∧ 0 ≤ v ∧ v ≤ 5 ∧ u ≠ v) ∧ M 4 0 = 8 ∧ z' = -5 ∧ M' = M) ∨ ((0 ≤ u ∧ u ≤ 5 ∧ 0 ≤ v ∧ v ≤ 5 ∧ u ≠ v) ∧ M 4 0 ≤ 7 ∧ z' = M 4 0 ∧ M' 4 0 = M 4 0 + 1 ∧ M' 6 0 = 0 ∧ (∀ j, M' 1 j = if j = M 4 0 then u else M 1 j) ∧ (∀ j, M' 2 j = if j = M 4 0 then v else M 2 j) ∧ (∀ j, M' 3 j = if M 4 0 * 9 ≤ j ∧ j < M 4 0 * 9 + 9 then 0 else M 3 j) ∧ (∀ k, k ≠ 4 → k ≠ 1 → k ≠ 2 → k ≠ 3 → k ≠ 6 → M' k = M k))) : z = z' ∧ ivv S' M' := by
  have hq := I.2.2.2.1
  rcases hx with ⟨a1, a2, rfl⟩ | ⟨a1, a3, a2, rfl⟩ | ⟨a1, a3, a2, a4, a5, a6, a7, a8, a9⟩
  · rcases hm with ⟨b1, b2, rfl⟩ | ⟨b1, b3, b2, rfl⟩ | ⟨b1, b3, b2, b4, b5, b6, b7, b8, b9⟩
    · exact ⟨by omega, I⟩
    · omega
    · omega
  · rcases hm with ⟨b1, b2, rfl⟩ | ⟨b1, b3, b2, rfl⟩ | ⟨b1, b3, b2, b4, b5, b6, b7, b8, b9⟩
    · omega
    · exact ⟨by omega, I⟩
    · omega
  · rcases hm with ⟨b1, b2, rfl⟩ | ⟨b1, b3, b2, rfl⟩ | ⟨b1, b3, b2, b4, b5, b6, b7, b8, b9⟩
    · omega
    · omega
    · obtain ⟨hX, hM, h0, h1, h2, h3, h4⟩ := I
      obtain ⟨n1, n0, n2, n3, n4, n5⟩ := hX.1
      refine ⟨by omega, inv_e hX ⟨by omega, ?_, ?_, ?_, ?_, ?_⟩ (fun j x y => a9 j (by omega) (by omega) (by omega) (by omega) (by omega)) a5 b5 ⟨?_, by omega, ?_, ?_, ?_⟩⟩
      · rw [a9 0 (by decide) (by decide) (by decide) (by decide) (by decide)]; exact n0
      · intro j
        rw [a6]
        split
        · omega
        · exact n2 j
      · intro j
        rw [a7]
        split
        · omega
        · exact n3 j
      · intro j
        rw [a8]
        split
        · omega
        · exact n4 j
      · intro t x y
        rw [a6, a7]
        by_cases q : t = S 1 0
        · rw [if_pos q, if_pos q]; exact a1.2.2.2.2
        · rw [if_neg q, if_neg q]; exact n5 t x (by omega)
      · rw [a9 0 (by decide) (by decide) (by decide) (by decide) (by decide), b9 0 (by decide) (by decide) (by decide) (by decide) (by decide)]; exact h0
      · funext j
        rw [a6, b6, h1, h2]
      · funext j
        rw [a7, b7, h1, h3]
      · funext j
        rw [a8, b8, h1, h4]
/-! ===== questions ===== -/
theorem isM_u {S : St} {P : Int → Prop} {r r' : Int} (h : isM S P r) (h' : isM S P r') : r = r' := by
  rcases h with ⟨a1, a2⟩ | ⟨a1, ⟨k, a2, a3, a4, a5⟩, a6⟩
  · rcases h' with ⟨b1, b2⟩ | ⟨b1, ⟨k', b2, b3, b4, b5⟩, b6⟩
    · omega
    · have := a2 k' b2 b3 b4
      omega
  · rcases h' with ⟨b1, b2⟩ | ⟨b1, ⟨k', b2, b3, b4, b5⟩, b6⟩
    · have := b2 k a2 a3 a4
      omega
    · have := a6 k' b2 b3 b4
      have := b6 k a2 a3 a4
      omega
theorem isF_u {S : St} {k k' : Int} (h : isF S k) (h' : isF S k') : k = k' := by
  obtain ⟨a1, a2, a3, a4⟩ := h
  obtain ⟨b1, b2, b3, b4⟩ := h'
  have e1 := a3 k' b1.1 b1.2
  have e2 := b3 k a1.1 a1.2
  rcases Int.lt_trichotomy k k' with q | q | q
  · have := b4 k a1.1 q
    omega
  · exact q
  · have := a4 k' b1.1 q
    omega
theorem noF_no {S : St} {k : Int} (h : noF S) (h' : isF S k) : False := by
  have := h k h'.1.1 h'.1.2
  have := h'.2.1
  omega
theorem J_least {S M S' M' : St} {z z' : Int} (I : ivv S M) (hx : frx S S' ∧ isM S (fun _ => True) z)
    (hm : frm M M' ∧ M' 6 0 = 1 ∧ ((z' = -6 ∧ noF (nm M)) ∨ ∃ k0, isF (nm M) k0 ∧ z' = tt (nm M) k0)) : z = z' ∧ ivv S' M' := by
  refine ⟨?_, inv_f I hx.1 hm.1⟩
  have ht : tt (nm M) = tt S := funext (tt_e I.2.2)
  have hn := nOK_e I.2.2 I.1.1
  have q : isM (nm M) (fun _ => True) z' := by
    rcases hm.2.2 with ⟨rfl, q⟩ | ⟨k0, q, rfl⟩
    · exact noF_M q
    · exact isF_M hn q
  have q2 : isM S (fun _ => True) z' := by
    unfold isM at q ⊢
    rw [ht] at q
    exact q
  exact isM_u hx.2 q2
theorem J_value {S M S' M' : St} {v z z' : Int} (I : ivv S M)
    (hx : frx S S' ∧ (((v < 0 ∨ 6 ≤ v) ∧ z = -1) ∨ ((0 ≤ v ∧ v ≤ 5) ∧ ((z = -6 ∧ noF S) ∨ ∃ k0, isF S k0 ∧ z = dg k0 v))))
    (hm : frm M M' ∧ (((v < 0 ∨ 6 ≤ v) ∧ z' = -1) ∨ ((0 ≤ v ∧ v ≤ 5) ∧ ((z' = -6 ∧ noF (nm M)) ∨ ∃ k0, isF (nm M) k0 ∧ z' = dg k0 v)))) : z = z' ∧ ivv S' M' := by
  refine ⟨?_, inv_f I hx.1 hm.1⟩
  have ht : tt (nm M) = tt S := funext (tt_e I.2.2)
  have eF : ∀ k, isF (nm M) k → isF S k := fun k q => by unfold isF at q ⊢; rw [ht] at q; exact q
  have eN : noF (nm M) → noF S := fun q => by unfold noF at q ⊢; rw [ht] at q; exact q
  rcases hx.2 with ⟨a1, a2⟩ | ⟨a1, ⟨a2, a3⟩ | ⟨k0, a2, a3⟩⟩
  · rcases hm.2 with ⟨b1, b2⟩ | ⟨b1, -⟩
    · omega
    · omega
  · rcases hm.2 with ⟨b1, b2⟩ | ⟨b1, ⟨b2, b3⟩ | ⟨k1, b2, b3⟩⟩
    · omega
    · omega
    · exact (noF_no a3 (eF _ b2)).elim
  · rcases hm.2 with ⟨b1, b2⟩ | ⟨b1, ⟨b2, b3⟩ | ⟨k1, b2, b3⟩⟩
    · omega
    · exact (noF_no (eN b3) a2).elim
    · rw [a3, b3, isF_u a2 (eF _ b2)]
theorem J_leastWith {S M S' M' : St} {v a z z' : Int} (I : ivv S M)
    (hx : frx S S' ∧ (((v < 0 ∨ 6 ≤ v) ∧ z = -1) ∨ ((0 ≤ v ∧ v ≤ 5) ∧ (a < 0 ∨ 2 < a) ∧ z = -2) ∨ ((0 ≤ v ∧ v ≤ 5) ∧ (0 ≤ a ∧ a ≤ 2) ∧ isM S (fun k => dg k v = a) z)))
    (hm : frm M M' ∧ (((v < 0 ∨ 6 ≤ v) ∧ z' = -1) ∨ ((0 ≤ v ∧ v ≤ 5) ∧ (a < 0 ∨ 2 < a) ∧ z' = -2) ∨ ((0 ≤ v ∧ v ≤ 5) ∧ (0 ≤ a ∧ a ≤ 2) ∧ isM (nm M) (fun k => dg k v = a) z'))) : z = z' ∧ ivv S' M' := by
  refine ⟨?_, inv_f I hx.1 hm.1⟩
  have ht : tt (nm M) = tt S := funext (tt_e I.2.2)
  rcases hx.2 with ⟨a1, a2⟩ | ⟨a1, a2, a3⟩ | ⟨a1, a2, a3⟩
  · rcases hm.2 with ⟨b1, b2⟩ | ⟨b1, b2, b3⟩ | ⟨b1, b2, b3⟩ <;> omega
  · rcases hm.2 with ⟨b1, b2⟩ | ⟨b1, b2, b3⟩ | ⟨b1, b2, b3⟩ <;> omega
  · rcases hm.2 with ⟨b1, b2⟩ | ⟨b1, b2, b3⟩ | ⟨b1, b2, b3⟩
    · omega
    · omega
    · refine isM_u a3 ?_
      unfold isM at b3 ⊢
      rw [ht] at b3
      exact b3
theorem cnt_e {S M : St} (h : eqv S M) (b : Int) : cnt (nm M) b = cnt S b := by
  have ht : tt (nm M) = tt S := funext (tt_e h)
  unfold cnt
  rw [ht]
theorem J_ties {S M S' M' : St} {z z' : Int} (I : ivv S M)
    (hx : frx S S' ∧ ((noF S ∧ z = 0) ∨ ∃ k0, isF S k0 ∧ z = cnt S (tt S k0)))
    (hm : frm M M' ∧ ((noF (nm M) ∧ z' = 0) ∨ ∃ k0, isF (nm M) k0 ∧ z' = cnt (nm M) (tt (nm M) k0))) : z = z' ∧ ivv S' M' := by
  refine ⟨?_, inv_f I hx.1 hm.1⟩
  have ht : tt (nm M) = tt S := funext (tt_e I.2.2)
  have eF : ∀ k, isF (nm M) k → isF S k := fun k q => by unfold isF at q ⊢; rw [ht] at q; exact q
  have eN : noF (nm M) → noF S := fun q => by unfold noF at q ⊢; rw [ht] at q; exact q
  rcases hx.2 with ⟨a2, a3⟩ | ⟨k0, a2, a3⟩
  · rcases hm.2 with ⟨b2, b3⟩ | ⟨k1, b2, b3⟩
    · omega
    · exact (noF_no a2 (eF _ b2)).elim
  · rcases hm.2 with ⟨b2, b3⟩ | ⟨k1, b2, b3⟩
    · exact (noF_no (eN b2) a2).elim
    · rw [a3, b3, isF_u a2 (eF _ b2), ht, cnt_e I.2.2]
theorem J_allowed {S M S' M' : St} {z z' : Int} (I : ivv S M) (hx : frx S S' ∧ z = cnt S 49999) (hm : frm M M' ∧ z' = cnt (nm M) 1000) : z = z' ∧ ivv S' M' := by
  refine ⟨?_, inv_f I hx.1 hm.1⟩
  rw [hx.2, hm.2, cnt_e I.2.2]
  exact cnt_all I.1.1 (by decide)
theorem J_upTo {S M S' M' : St} {v z z' : Int} (I : ivv S M) (hx : frx S S' ∧ z = cnt S v) (hm : frm M M' ∧ z' = cnt (nm M) v) : z = z' ∧ ivv S' M' := by
  refine ⟨?_, inv_f I hx.1 hm.1⟩
  rw [hx.2, hm.2, cnt_e I.2.2]
theorem J_canAgree {S M S' M' : St} {a b z z' : Int} (I : ivv S M)
    (hx : frx S S' ∧ (z = 0 ∨ z = 1) ∧ (z = 1 ↔ ((0 ≤ a ∧ a ≤ 5) ∧ (0 ≤ b ∧ b ≤ 5) ∧ agr S a b)))
    (hm : frm M M' ∧ (z' = 0 ∨ z' = 1) ∧ (z' = 1 ↔ ((0 ≤ a ∧ a ≤ 5) ∧ (0 ≤ b ∧ b ≤ 5) ∧ agr (nm M) a b))) : z = z' ∧ ivv S' M' := by
  refine ⟨?_, inv_f I hx.1 hm.1⟩
  have ht : tt (nm M) = tt S := funext (tt_e I.2.2)
  have ha : agr (nm M) a b ↔ agr S a b := by unfold agr; rw [ht]
  have q := hm.2.2
  rw [ha, ← hx.2.2] at q
  have := hx.2.1
  have := hm.2.1
  omega
end
section
set_option maxRecDepth 100000
/-! ===== constructors ===== -/
def S0 : St := fun _ _ => 0
abbrev f0X : List Value := [.null, .int (iI 0), .null, .null, .null, .int (iI 0), .int (iI 0), .null, .null, .null, .null, .null, .null, .int (iI 0), .int (iI 0), .null]
abbrev f0M : List Value := [.null, .null, .null, .null, .int (iI 0), .null, .int (iI 0)]
def iB (D : va_G) (d : ClassId) (w : (Nat → Nat) → va_W) (w0 : va_W) (sz : Nat) (u : Nat → Nat) (t : State) : Prop := va_P D vwCl (w u) t.heap ∧ va_K D vwCl [(d, .int)] t ∧ va_D (va_A w0 sz) (w u)
def iQ (D : va_G) (d : ClassId) (w : (Nat → Nat) → va_W) (w0 : va_W) (sz : Nat) : Array Value → State → Outcome → State → Prop := va_Qv (fun _ : Nat → Nat => True) (iB D d w w0 sz) (va_A w0 sz)
def iM (l : Launch) (D : va_G) (d : ClassId) (w : (Nat → Nat) → va_W) (w0 : va_W) (h : Nat) (y : MethodName) (bytes : ByteArray) (maxL : Nat) (rm : Room) (mc ms : Nat) : Prop :=
  ∀ sz : Nat, Met l y (ws_ y bytes maxL none) rm (gP D d w0 [.ref h] sz) (iQ D d w w0 sz) mc ms (va_A w0 sz)
theorem i_one {D : va_G} {cl : List vw_C} {d cA : ClassId} {s : State} (h : va_K D cl ([(d, .int)] ++ [(cA, .int)]) s) : cA = d := by
  have e1 : s.vm.findClass ("[" ++ FieldType.toString .int) = some cA := (h.2 1 _ rfl).2
  have e2 : s.vm.findClass ("[" ++ FieldType.toString .int) = some d := (h.2 0 _ rfl).2
  exact Option.some.inj (e1.symm.trans e2)
section IN
variable {p : Program} {l : Launch} {e : Env} {R : Room} {s : State} {m : MethodId} {args : Array Value} {below : List Frame} {meth : Method} {c : Code} {H : Heap} {locs : List Loc} {cells slots : Nat} {Q : State → Prop}
variable {cc : ByteArray} {pc nL : Nat} {ls : Array Slot} {rest st0 : List Value} {D : va_G} {A : Nat → Prop} {d : ClassId} {h : Nat} {own : String}
/-- a new int array beside the world w -/
theorem i_newa {w : va_W} (C : CallFix p m c cc nL s args lw_all own) (Z : GW D A s H locs d w) (N : Nat) {c1 s1 : Nat} (hn : ¬ iI N < 0) (hN : (iI N).toNatClampNeg = N) (hb : N * componentBytes .int ≤ 536870912) (hc1 : cells + 1 = c1) (hs1 : slots + N = s1) (hcR : c1 ≤ R.cells) (hsR : s1 ≤ R.slots) (hd : decode cc pc = .ok (.newarray .int, 2))
    (kk : ∀ (q : Nat) (H1 : Heap), GW D A s H1 locs d (w ++ [(q, .inl (d, N, .inl (fun _ => iI 0)))]) → W p l e R s m args below meth c H1 locs c1 s1 Q (F0 m (pc + 2) ls (.ref q :: rest))) : W p l e R s m args below meth c H locs cells slots Q (F0 m pc ls (.int (iI N) :: rest)) := by
  obtain ⟨hK, hP, hD, hS, hA⟩ := Z
  subst hc1
  subst hs1
  refine va_newa (atype := .int) (ty := .int) (N' := N) (a0 := (N, .inl (fun _ => iI 0))) C.1 C.2.1 (C.2.2.2.2 _ q78) rfl hK hP hD hS hA (fun cA => by rw [vp_cell_i, iI_0]; rfl) hn hN hb hcR hsR hd (fun q cA H1 hK1 hP hD hS => ?_)
  obtain rfl := i_one hK1
  exact kk q H1 ⟨hK, hP, hD, hS, hA⟩
/-- a call of a constructor: the object at h, as 'new' made it, becomes a whole world -/
theorem g_init {wr w0 : va_W} {w : (Nat → Nat) → va_W} {y : MethodName} {bytes : ByteArray} {maxL idx mc ms c1 s1 : Nat} {rm : Room} (C : CallFix p m c cc nL s args lw_all own) (Z : GW D A s H locs d (wr ++ w0)) (hsz : ls.size = nL)
    (hM : iM l D d w w0 h y bytes maxL rm mc ms) (cw : CallB R s args own idx y bytes maxL none (ws_ y bytes maxL none) rm mc ms 0 ∧ y.name = "<init>" ∧ (Cond.instanceMethod y).before args s = true)
    (hcat : (rest.map fun v => v.category).sum ≤ 8) (hc1 : cells + mc = c1) (hs1 : slots + ms = s1) (hcR : c1 ≤ R.cells) (hsR : s1 ≤ R.slots) (hd : decode cc pc = .ok (.invokespecial idx, 3))
    (kk : ∀ (ad : Nat → Nat) (H1 : Heap) (locs1 : List Loc), GW D A s H1 locs1 d (wr ++ w ad) → W p l e R s m args below meth c H1 locs1 c1 s1 Q (F0 m (pc + 3) ls rest)) :
    W p l e R s m args below meth c H locs cells slots Q (F0 m pc ls (.ref h :: rest)) := by
  have hFc := gw_F Z
  subst hc1
  subst hs1
  obtain ⟨hK, hP, hD, hS, hA⟩ := Z
  have hpre := gP_pre (av := [.ref h]) hK (gw_PR hP) (gw_DR hD)
  refine va_callv (va_runI (As := []) (rest := rest) C (hM H.size) cw ⟨hpre.1, hpre.2⟩ rfl rfl hsz rfl (lv_room hcat) hd ⟨hcR, hsR⟩) hS (fun q _ h => hFc q h) hFc (fun u t H1 locs1 ht hvm hw1 hB hz1 hk1 hS1 => ?_)
  obtain ⟨hP1, hK1, hD1⟩ := hB
  rw [ht] at hP1
  obtain ⟨hP2, hD2⟩ := gw_back hP hD hk1 hFc hP1 hD1
  exact kk u H1 locs1 ⟨hK, hP2, hD2, hS1, hA⟩
end IN
set_option maxHeartbeats 8000000 in
theorem kx_init (l : Launch) (D : va_G) (d : ClassId) (h : Nat) : iM l D d (fun ad => wX h ad d S0) [(h, .inr (0, f0X))] h yX0_init cX0_init 1 ({ frames := 1, cells := 11, slots := 227, locals := 40 }) 11 227 := by
  intro sz
  refine Met.ofW (cc := cX0_init) (maxL := 1) (ret := none) (by decide) rfl ?_
  intro p e s m args below meth c s₁ B hml hv
  obtain ⟨rfl, hsz, hP, hK, hD0⟩ := hv
  subst hsz
  have hts := atoms_spec (ws := ws_ yX0_init cX0_init 1 none) B.pre
  have hts : ∀ w ∈ lw_all, w.before _ s = true := fun w h => hts w (List.mem_cons_of_mem _ h)
  have hown : s.vm.findClass RX0 = some m.cls := findClass_of_methodNamed B.named
  have hin : meth.name = "<init>" := (name_of_methodNamed B.named B.method).1
  have hr := B.returns
  have hlk := B.notSynchronized
  have C : CallFix p m c cX0_init 1 s _ lw_all RX0 := ⟨B.exec, B.bytes, hml, hown, hts⟩
  have hx := C.1
  have hb := C.2.1
  have hl := lv_entry ([.ref h]) (n := 1) (Nat.le_of_ble_eq_true rfl)
  rw [lg_entry_eq]
  generalize (lg_sl ([.ref h]) ++ List.replicate (1 - (lg_sl ([.ref h])).length) Slot.unset).toArray = ls at hl ⊢
  have hl : lv_has ls 1 [(0, .ref h)] := hl
  have Z : GW D (va_A [(h, .inr (0, f0X))] s.heap.size) s s.heap [] d [(h, .inr (0, f0X))] := ⟨hK, hP, hD0.self, va_S.rf, fun q h => Or.inr h⟩
  refine lv_aload_n hx hb dX0_init_0 rfl (lv_at hl 0 rfl) ?_
  refine W.objInit hx hb hown (hts _ q26) (hts _ q27) (hts _ q28) rfl (by rw [hml]; exact hl.1) rfl dX0_init_1 (Nat.le_of_ble_eq_true rfl) (Nat.le_of_ble_eq_true rfl) ?_
  refine W.eq (g2 := F0 m 4 ls []) rfl ?_
  refine lv_aload_n hx hb dX0_init_4 rfl (lv_at hl 0 rfl) ?_
  refine z_bipush hx hb dX0_init_5 (by decide) ?_
  refine i_newa C Z 18 (by decide) (by decide) (by decide) (c1 := 1) (s1 := 18) rfl rfl (Nat.le_of_ble_eq_true rfl) (Nat.le_of_ble_eq_true rfl) dX0_init_7 (fun a0 H Z => ?_)
  have Z : GW D (va_A [(h, .inr (0, f0X))] s.heap.size) s _ _ d [(h, .inr (0, [.null, .int (iI 0), .null, .null, .null, .int (iI 0), .int (iI 0), .null, .null, .null, .null, .null, .null, .int (iI 0), .int (iI 0), .null])), (a0, .inl (d, 18, .inl (fun _ => iI 0)))] := Z
  refine va_putF (D := D) (ci := 0) (C := RX0) (T := TX0) (N := 16) (v := .ref a0) (ty := .array .int) hx hb hts in_X0 tyX0 tyX0_ok nmX0 hown Z.1 Z.2.1 Z.2.2.1 Z.2.2.2.1 0 rfl rfl 0 (by decide) (hts _ q29) (fun _ h9 => h9) rfl hin rfl (by decide +kernel) rfl rfl (Nat.le_of_ble_eq_true rfl) dX0_init_9 (fun H locs hP hD hS => ?_)
  have Z : GW D (va_A [(h, .inr (0, f0X))] s.heap.size) s H locs d [(h, .inr (0, [.ref a0, .int (iI 0), .null, .null, .null, .int (iI 0), .int (iI 0), .null, .null, .null, .null, .null, .null, .int (iI 0), .int (iI 0), .null])), (a0, .inl (d, 18, .inl (fun _ => iI 0)))] := ⟨Z.1, hP, hD, hS, Z.2.2.2.2⟩
  refine lv_aload_n hx hb dX0_init_12 rfl (lv_at hl 0 rfl) ?_
  refine z_bipush hx hb dX0_init_13 (by decide) ?_
  refine i_newa C Z 8 (by decide) (by decide) (by decide) (c1 := 2) (s1 := 26) rfl rfl (Nat.le_of_ble_eq_true rfl) (Nat.le_of_ble_eq_true rfl) dX0_init_15 (fun a2 H Z => ?_)
  have Z : GW D (va_A [(h, .inr (0, f0X))] s.heap.size) s _ _ d [(h, .inr (0, [.ref a0, .int (iI 0), .null, .null, .null, .int (iI 0), .int (iI 0), .null, .null, .null, .null, .null, .null, .int (iI 0), .int (iI 0), .null])), (a0, .inl (d, 18, .inl (fun _ => iI 0))), (a2, .inl (d, 8, .inl (fun _ => iI 0)))] := Z
  refine va_putF (D := D) (ci := 0) (C := RX0) (T := TX0) (N := 16) (v := .ref a2) (ty := .array .int) hx hb hts in_X0 tyX0 tyX0_ok nmX0 hown Z.1 Z.2.1 Z.2.2.1 Z.2.2.2.1 0 rfl rfl 2 (by decide) (hts _ q31) (fun _ h9 => h9) rfl hin rfl (by decide +kernel) rfl rfl (Nat.le_of_ble_eq_true rfl) dX0_init_17 (fun H locs hP hD hS => ?_)
  have Z : GW D (va_A [(h, .inr (0, f0X))] s.heap.size) s H locs d [(h, .inr (0, [.ref a0, .int (iI 0), .ref a2, .null, .null, .int (iI 0), .int (iI 0), .null, .null, .null, .null, .null, .null, .int (iI 0), .int (iI 0), .null])), (a0, .inl (d, 18, .inl (fun _ => iI 0))), (a2, .inl (d, 8, .inl (fun _ => iI 0)))] := ⟨Z.1, hP, hD, hS, Z.2.2.2.2⟩
  refine lv_aload_n hx hb dX0_init_20 rfl (lv_at hl 0 rfl) ?_
  refine z_bipush hx hb dX0_init_21 (by decide) ?_
  refine i_newa C Z 8 (by decide) (by decide) (by decide) (c1 := 3) (s1 := 34) rfl rfl (Nat.le_of_ble_eq_true rfl) (Nat.le_of_ble_eq_true rfl) dX0_init_23 (fun a3 H Z => ?_)
  have Z : GW D (va_A [(h, .inr (0, f0X))] s.heap.size) s _ _ d [(h, .inr (0, [.ref a0, .int (iI 0), .ref a2, .null, .null, .int (iI 0), .int (iI 0), .null, .null, .null, .null, .null, .null, .int (iI 0), .int (iI 0), .null])), (a0, .inl (d, 18, .inl (fun _ => iI 0))), (a2, .inl (d, 8, .inl (fun _ => iI 0))), (a3, .inl (d, 8, .inl (fun _ => iI 0)))] := Z
  refine va_putF (D := D) (ci := 0) (C := RX0) (T := TX0) (N := 16) (v := .ref a3) (ty := .array .int) hx hb hts in_X0 tyX0 tyX0_ok nmX0 hown Z.1 Z.2.1 Z.2.2.1 Z.2.2.2.1 0 rfl rfl 3 (by decide) (hts _ q32) (fun _ h9 => h9) rfl hin rfl (by decide +kernel) rfl rfl (Nat.le_of_ble_eq_true rfl) dX0_init_25 (fun H locs hP hD hS => ?_)
  have Z : GW D (va_A [(h, .inr (0, f0X))] s.heap.size) s H locs d [(h, .inr (0, [.ref a0, .int (iI 0), .ref a2, .ref a3, .null, .int (iI 0), .int (iI 0), .null, .null, .null, .null, .null, .null, .int (iI 0), .int (iI 0), .null])), (a0, .inl (d, 18, .inl (fun _ => iI 0))), (a2, .inl (d, 8, .inl (fun _ => iI 0))), (a3, .inl (d, 8, .inl (fun _ => iI 0)))] := ⟨Z.1, hP, hD, hS, Z.2.2.2.2⟩
  refine lv_aload_n hx hb dX0_init_28 rfl (lv_at hl 0 rfl) ?_
  refine z_bipush hx hb dX0_init_29 (by decide) ?_
  refine i_newa C Z 72 (by decide) (by decide) (by decide) (c1 := 4) (s1 := 106) rfl rfl (Nat.le_of_ble_eq_true rfl) (Nat.le_of_ble_eq_true rfl) dX0_init_31 (fun a4 H Z => ?_)
  have Z : GW D (va_A [(h, .inr (0, f0X))] s.heap.size) s _ _ d [(h, .inr (0, [.ref a0, .int (iI 0), .ref a2, .ref a3, .null, .int (iI 0), .int (iI 0), .null, .null, .null, .null, .null, .null, .int (iI 0), .int (iI 0), .null])), (a0, .inl (d, 18, .inl (fun _ => iI 0))), (a2, .inl (d, 8, .inl (fun _ => iI 0))), (a3, .inl (d, 8, .inl (fun _ => iI 0))), (a4, .inl (d, 72, .inl (fun _ => iI 0)))] := Z
  refine va_putF (D := D) (ci := 0) (C := RX0) (T := TX0) (N := 16) (v := .ref a4) (ty := .array .int) hx hb hts in_X0 tyX0 tyX0_ok nmX0 hown Z.1 Z.2.1 Z.2.2.1 Z.2.2.2.1 0 rfl rfl 4 (by decide) (hts _ q33) (fun _ h9 => h9) rfl hin rfl (by decide +kernel) rfl rfl (Nat.le_of_ble_eq_true rfl) dX0_init_33 (fun H locs hP hD hS => ?_)
  have Z : GW D (va_A [(h, .inr (0, f0X))] s.heap.size) s H locs d [(h, .inr (0, [.ref a0, .int (iI 0), .ref a2, .ref a3, .ref a4, .int (iI 0), .int (iI 0), .null, .null, .null, .null, .null, .null, .int (iI 0), .int (iI 0), .null])), (a0, .inl (d, 18, .inl (fun _ => iI 0))), (a2, .inl (d, 8, .inl (fun _ => iI 0))), (a3, .inl (d, 8, .inl (fun _ => iI 0))), (a4, .inl (d, 72, .inl (fun _ => iI 0)))] := ⟨Z.1, hP, hD, hS, Z.2.2.2.2⟩
  refine lv_aload_n hx hb dX0_init_36 rfl (lv_at hl 0 rfl) ?_
  refine z_bipush hx hb dX0_init_37 (by decide) ?_
  refine i_newa C Z 18 (by decide) (by decide) (by decide) (c1 := 5) (s1 := 124) rfl rfl (Nat.le_of_ble_eq_true rfl) (Nat.le_of_ble_eq_true rfl) dX0_init_39 (fun a7 H Z => ?_)
  have Z : GW D (va_A [(h, .inr (0, f0X))] s.heap.size) s _ _ d [(h, .inr (0, [.ref a0, .int (iI 0), .ref a2, .ref a3, .ref a4, .int (iI 0), .int (iI 0), .null, .null, .null, .null, .null, .null, .int (iI 0), .int (iI 0), .null])), (a0, .inl (d, 18, .inl (fun _ => iI 0))), (a2, .inl (d, 8, .inl (fun _ => iI 0))), (a3, .inl (d, 8, .inl (fun _ => iI 0))), (a4, .inl (d, 72, .inl (fun _ => iI 0))), (a7, .inl (d, 18, .inl (fun _ => iI 0)))] := Z
  refine va_putF (D := D) (ci := 0) (C := RX0) (T := TX0) (N := 16) (v := .ref a7) (ty := .array .int) hx hb hts in_X0 tyX0 tyX0_ok nmX0 hown Z.1 Z.2.1 Z.2.2.1 Z.2.2.2.1 0 rfl rfl 7 (by decide) (hts _ q36) (fun _ h9 => h9) rfl hin rfl (by decide +kernel) rfl rfl (Nat.le_of_ble_eq_true rfl) dX0_init_41 (fun H locs hP hD hS => ?_)
  have Z : GW D (va_A [(h, .inr (0, f0X))] s.heap.size) s H locs d [(h, .inr (0, [.ref a0, .int (iI 0), .ref a2, .ref a3, .ref a4, .int (iI 0), .int (iI 0), .ref a7, .null, .null, .null, .null, .null, .int (iI 0), .int (iI 0), .null])), (a0, .inl (d, 18, .inl (fun _ => iI 0))), (a2, .inl (d, 8, .inl (fun _ => iI 0))), (a3, .inl (d, 8, .inl (fun _ => iI 0))), (a4, .inl (d, 72, .inl (fun _ => iI 0))), (a7, .inl (d, 18, .inl (fun _ => iI 0)))] := ⟨Z.1, hP, hD, hS, Z.2.2.2.2⟩
  refine lv_aload_n hx hb dX0_init_44 rfl (lv_at hl 0 rfl) ?_
  refine z_bipush hx hb dX0_init_45 (by decide) ?_
  refine i_newa C Z 72 (by decide) (by decide) (by decide) (c1 := 6) (s1 := 196) rfl rfl (Nat.le_of_ble_eq_true rfl) (Nat.le_of_ble_eq_true rfl) dX0_init_47 (fun a8 H Z => ?_)
  have Z : GW D (va_A [(h, .inr (0, f0X))] s.heap.size) s _ _ d [(h, .inr (0, [.ref a0, .int (iI 0), .ref a2, .ref a3, .ref a4, .int (iI 0), .int (iI 0), .ref a7, .null, .null, .null, .null, .null, .int (iI 0), .int (iI 0), .null])), (a0, .inl (d, 18, .inl (fun _ => iI 0))), (a2, .inl (d, 8, .inl (fun _ => iI 0))), (a3, .inl (d, 8, .inl (fun _ => iI 0))), (a4, .inl (d, 72, .inl (fun _ => iI 0))), (a7, .inl (d, 18, .inl (fun _ => iI 0))), (a8, .inl (d, 72, .inl (fun _ => iI 0)))] := Z
  refine va_putF (D := D) (ci := 0) (C := RX0) (T := TX0) (N := 16) (v := .ref a8) (ty := .array .int) hx hb hts in_X0 tyX0 tyX0_ok nmX0 hown Z.1 Z.2.1 Z.2.2.1 Z.2.2.2.1 0 rfl rfl 8 (by decide) (hts _ q37) (fun _ h9 => h9) rfl hin rfl (by decide +kernel) rfl rfl (Nat.le_of_ble_eq_true rfl) dX0_init_49 (fun H locs hP hD hS => ?_)
  have Z : GW D (va_A [(h, .inr (0, f0X))] s.heap.size) s H locs d [(h, .inr (0, [.ref a0, .int (iI 0), .ref a2, .ref a3, .ref a4, .int (iI 0), .int (iI 0), .ref a7, .ref a8, .null, .null, .null, .null, .int (iI 0), .int (iI 0), .null])), (a0, .inl (d, 18, .inl (fun _ => iI 0))), (a2, .inl (d, 8, .inl (fun _ => iI 0))), (a3, .inl (d, 8, .inl (fun _ => iI 0))), (a4, .inl (d, 72, .inl (fun _ => iI 0))), (a7, .inl (d, 18, .inl (fun _ => iI 0))), (a8, .inl (d, 72, .inl (fun _ => iI 0)))] := ⟨Z.1, hP, hD, hS, Z.2.2.2.2⟩
  refine lv_aload_n hx hb dX0_init_52 rfl (lv_at hl 0 rfl) ?_
  refine z_bipush hx hb dX0_init_53 (by decide) ?_
  refine i_newa C Z 6 (by decide) (by decide) (by decide) (c1 := 7) (s1 := 202) rfl rfl (Nat.le_of_ble_eq_true rfl) (Nat.le_of_ble_eq_true rfl) dX0_init_55 (fun a9 H Z => ?_)
  have Z : GW D (va_A [(h, .inr (0, f0X))] s.heap.size) s _ _ d [(h, .inr (0, [.ref a0, .int (iI 0), .ref a2, .ref a3, .ref a4, .int (iI 0), .int (iI 0), .ref a7, .ref a8, .null, .null, .null, .null, .int (iI 0), .int (iI 0), .null])), (a0, .inl (d, 18, .inl (fun _ => iI 0))), (a2, .inl (d, 8, .inl (fun _ => iI 0))), (a3, .inl (d, 8, .inl (fun _ => iI 0))), (a4, .inl (d, 72, .inl (fun _ => iI 0))), (a7, .inl (d, 18, .inl (fun _ => iI 0))), (a8, .inl (d, 72, .inl (fun _ => iI 0))), (a9, .inl (d, 6, .inl (fun _ => iI 0)))] := Z
  refine va_putF (D := D) (ci := 0) (C := RX0) (T := TX0) (N := 16) (v := .ref a9) (ty := .array .int) hx hb hts in_X0 tyX0 tyX0_ok nmX0 hown Z.1 Z.2.1 Z.2.2.1 Z.2.2.2.1 0 rfl rfl 9 (by decide) (hts _ q38) (fun _ h9 => h9) rfl hin rfl (by decide +kernel) rfl rfl (Nat.le_of_ble_eq_true rfl) dX0_init_57 (fun H locs hP hD hS => ?_)
  have Z : GW D (va_A [(h, .inr (0, f0X))] s.heap.size) s H locs d [(h, .inr (0, [.ref a0, .int (iI 0), .ref a2, .ref a3, .ref a4, .int (iI 0), .int (iI 0), .ref a7, .ref a8, .ref a9, .null, .null, .null, .int (iI 0), .int (iI 0), .null])), (a0, .inl (d, 18, .inl (fun _ => iI 0))), (a2, .inl (d, 8, .inl (fun _ => iI 0))), (a3, .inl (d, 8, .inl (fun _ => iI 0))), (a4, .inl (d, 72, .inl (fun _ => iI 0))), (a7, .inl (d, 18, .inl (fun _ => iI 0))), (a8, .inl (d, 72, .inl (fun _ => iI 0))), (a9, .inl (d, 6, .inl (fun _ => iI 0)))] := ⟨Z.1, hP, hD, hS, Z.2.2.2.2⟩
  refine lv_aload_n hx hb dX0_init_60 rfl (lv_at hl 0 rfl) ?_
  refine z_bipush hx hb dX0_init_61 (by decide) ?_
  refine i_newa C Z 6 (by decide) (by decide) (by decide) (c1 := 8) (s1 := 208) rfl rfl (Nat.le_of_ble_eq_true rfl) (Nat.le_of_ble_eq_true rfl) dX0_init_63 (fun a10 H Z => ?_)
  have Z : GW D (va_A [(h, .inr (0, f0X))] s.heap.size) s _ _ d [(h, .inr (0, [.ref a0, .int (iI 0), .ref a2, .ref a3, .ref a4, .int (iI 0), .int (iI 0), .ref a7, .ref a8, .ref a9, .null, .null, .null, .int (iI 0), .int (iI 0), .null])), (a0, .inl (d, 18, .inl (fun _ => iI 0))), (a2, .inl (d, 8, .inl (fun _ => iI 0))), (a3, .inl (d, 8, .inl (fun _ => iI 0))), (a4, .inl (d, 72, .inl (fun _ => iI 0))), (a7, .inl (d, 18, .inl (fun _ => iI 0))), (a8, .inl (d, 72, .inl (fun _ => iI 0))), (a9, .inl (d, 6, .inl (fun _ => iI 0))), (a10, .inl (d, 6, .inl (fun _ => iI 0)))] := Z
  refine va_putF (D := D) (ci := 0) (C := RX0) (T := TX0) (N := 16) (v := .ref a10) (ty := .array .int) hx hb hts in_X0 tyX0 tyX0_ok nmX0 hown Z.1 Z.2.1 Z.2.2.1 Z.2.2.2.1 0 rfl rfl 10 (by decide) (hts _ q39) (fun _ h9 => h9) rfl hin rfl (by decide +kernel) rfl rfl (Nat.le_of_ble_eq_true rfl) dX0_init_65 (fun H locs hP hD hS => ?_)
  have Z : GW D (va_A [(h, .inr (0, f0X))] s.heap.size) s H locs d [(h, .inr (0, [.ref a0, .int (iI 0), .ref a2, .ref a3, .ref a4, .int (iI 0), .int (iI 0), .ref a7, .ref a8, .ref a9, .ref a10, .null, .null, .int (iI 0), .int (iI 0), .null])), (a0, .inl (d, 18, .inl (fun _ => iI 0))), (a2, .inl (d, 8, .inl (fun _ => iI 0))), (a3, .inl (d, 8, .inl (fun _ => iI 0))), (a4, .inl (d, 72, .inl (fun _ => iI 0))), (a7, .inl (d, 18, .inl (fun _ => iI 0))), (a8, .inl (d, 72, .inl (fun _ => iI 0))), (a9, .inl (d, 6, .inl (fun _ => iI 0))), (a10, .inl (d, 6, .inl (fun _ => iI 0)))] := ⟨Z.1, hP, hD, hS, Z.2.2.2.2⟩
  refine lv_aload_n hx hb dX0_init_68 rfl (lv_at hl 0 rfl) ?_
  refine z_bipush hx hb dX0_init_69 (by decide) ?_
  refine i_newa C Z 7 (by decide) (by decide) (by decide) (c1 := 9) (s1 := 215) rfl rfl (Nat.le_of_ble_eq_true rfl) (Nat.le_of_ble_eq_true rfl) dX0_init_71 (fun a11 H Z => ?_)
  have Z : GW D (va_A [(h, .inr (0, f0X))] s.heap.size) s _ _ d [(h, .inr (0, [.ref a0, .int (iI 0), .ref a2, .ref a3, .ref a4, .int (iI 0), .int (iI 0), .ref a7, .ref a8, .ref a9, .ref a10, .null, .null, .int (iI 0), .int (iI 0), .null])), (a0, .inl (d, 18, .inl (fun _ => iI 0))), (a2, .inl (d, 8, .inl (fun _ => iI 0))), (a3, .inl (d, 8, .inl (fun _ => iI 0))), (a4, .inl (d, 72, .inl (fun _ => iI 0))), (a7, .inl (d, 18, .inl (fun _ => iI 0))), (a8, .inl (d, 72, .inl (fun _ => iI 0))), (a9, .inl (d, 6, .inl (fun _ => iI 0))), (a10, .inl (d, 6, .inl (fun _ => iI 0))), (a11, .inl (d, 7, .inl (fun _ => iI 0)))] := Z
  refine va_putF (D := D) (ci := 0) (C := RX0) (T := TX0) (N := 16) (v := .ref a11) (ty := .array .int) hx hb hts in_X0 tyX0 tyX0_ok nmX0 hown Z.1 Z.2.1 Z.2.2.1 Z.2.2.2.1 0 rfl rfl 11 (by decide) (hts _ q40) (fun _ h9 => h9) rfl hin rfl (by decide +kernel) rfl rfl (Nat.le_of_ble_eq_true rfl) dX0_init_73 (fun H locs hP hD hS => ?_)
  have Z : GW D (va_A [(h, .inr (0, f0X))] s.heap.size) s H locs d [(h, .inr (0, [.ref a0, .int (iI 0), .ref a2, .ref a3, .ref a4, .int (iI 0), .int (iI 0), .ref a7, .ref a8, .ref a9, .ref a10, .ref a11, .null, .int (iI 0), .int (iI 0), .null])), (a0, .inl (d, 18, .inl (fun _ => iI 0))), (a2, .inl (d, 8, .inl (fun _ => iI 0))), (a3, .inl (d, 8, .inl (fun _ => iI 0))), (a4, .inl (d, 72, .inl (fun _ => iI 0))), (a7, .inl (d, 18, .inl (fun _ => iI 0))), (a8, .inl (d, 72, .inl (fun _ => iI 0))), (a9, .inl (d, 6, .inl (fun _ => iI 0))), (a10, .inl (d, 6, .inl (fun _ => iI 0))), (a11, .inl (d, 7, .inl (fun _ => iI 0)))] := ⟨Z.1, hP, hD, hS, Z.2.2.2.2⟩
  refine lv_aload_n hx hb dX0_init_76 rfl (lv_at hl 0 rfl) ?_
  refine z_bipush hx hb dX0_init_77 (by decide) ?_
  refine i_newa C Z 6 (by decide) (by decide) (by decide) (c1 := 10) (s1 := 221) rfl rfl (Nat.le_of_ble_eq_true rfl) (Nat.le_of_ble_eq_true rfl) dX0_init_79 (fun a12 H Z => ?_)
  have Z : GW D (va_A [(h, .inr (0, f0X))] s.heap.size) s _ _ d [(h, .inr (0, [.ref a0, .int (iI 0), .ref a2, .ref a3, .ref a4, .int (iI 0), .int (iI 0), .ref a7, .ref a8, .ref a9, .ref a10, .ref a11, .null, .int (iI 0), .int (iI 0), .null])), (a0, .inl (d, 18, .inl (fun _ => iI 0))), (a2, .inl (d, 8, .inl (fun _ => iI 0))), (a3, .inl (d, 8, .inl (fun _ => iI 0))), (a4, .inl (d, 72, .inl (fun _ => iI 0))), (a7, .inl (d, 18, .inl (fun _ => iI 0))), (a8, .inl (d, 72, .inl (fun _ => iI 0))), (a9, .inl (d, 6, .inl (fun _ => iI 0))), (a10, .inl (d, 6, .inl (fun _ => iI 0))), (a11, .inl (d, 7, .inl (fun _ => iI 0))), (a12, .inl (d, 6, .inl (fun _ => iI 0)))] := Z
  refine va_putF (D := D) (ci := 0) (C := RX0) (T := TX0) (N := 16) (v := .ref a12) (ty := .array .int) hx hb hts in_X0 tyX0 tyX0_ok nmX0 hown Z.1 Z.2.1 Z.2.2.1 Z.2.2.2.1 0 rfl rfl 12 (by decide) (hts _ q41) (fun _ h9 => h9) rfl hin rfl (by decide +kernel) rfl rfl (Nat.le_of_ble_eq_true rfl) dX0_init_81 (fun H locs hP hD hS => ?_)
  have Z : GW D (va_A [(h, .inr (0, f0X))] s.heap.size) s H locs d [(h, .inr (0, [.ref a0, .int (iI 0), .ref a2, .ref a3, .ref a4, .int (iI 0), .int (iI 0), .ref a7, .ref a8, .ref a9, .ref a10, .ref a11, .ref a12, .int (iI 0), .int (iI 0), .null])), (a0, .inl (d, 18, .inl (fun _ => iI 0))), (a2, .inl (d, 8, .inl (fun _ => iI 0))), (a3, .inl (d, 8, .inl (fun _ => iI 0))), (a4, .inl (d, 72, .inl (fun _ => iI 0))), (a7, .inl (d, 18, .inl (fun _ => iI 0))), (a8, .inl (d, 72, .inl (fun _ => iI 0))), (a9, .inl (d, 6, .inl (fun _ => iI 0))), (a10, .inl (d, 6, .inl (fun _ => iI 0))), (a11, .inl (d, 7, .inl (fun _ => iI 0))), (a12, .inl (d, 6, .inl (fun _ => iI 0)))] := ⟨Z.1, hP, hD, hS, Z.2.2.2.2⟩
  refine lv_aload_n hx hb dX0_init_84 rfl (lv_at hl 0 rfl) ?_
  refine z_bipush hx hb dX0_init_85 (by decide) ?_
  refine i_newa C Z 6 (by decide) (by decide) (by decide) (c1 := 11) (s1 := 227) rfl rfl (Nat.le_of_ble_eq_true rfl) (Nat.le_of_ble_eq_true rfl) dX0_init_87 (fun a15 H Z => ?_)
  have Z : GW D (va_A [(h, .inr (0, f0X))] s.heap.size) s _ _ d [(h, .inr (0, [.ref a0, .int (iI 0), .ref a2, .ref a3, .ref a4, .int (iI 0), .int (iI 0), .ref a7, .ref a8, .ref a9, .ref a10, .ref a11, .ref a12, .int (iI 0), .int (iI 0), .null])), (a0, .inl (d, 18, .inl (fun _ => iI 0))), (a2, .inl (d, 8, .inl (fun _ => iI 0))), (a3, .inl (d, 8, .inl (fun _ => iI 0))), (a4, .inl (d, 72, .inl (fun _ => iI 0))), (a7, .inl (d, 18, .inl (fun _ => iI 0))), (a8, .inl (d, 72, .inl (fun _ => iI 0))), (a9, .inl (d, 6, .inl (fun _ => iI 0))), (a10, .inl (d, 6, .inl (fun _ => iI 0))), (a11, .inl (d, 7, .inl (fun _ => iI 0))), (a12, .inl (d, 6, .inl (fun _ => iI 0))), (a15, .inl (d, 6, .inl (fun _ => iI 0)))] := Z
  refine va_putF (D := D) (ci := 0) (C := RX0) (T := TX0) (N := 16) (v := .ref a15) (ty := .array .int) hx hb hts in_X0 tyX0 tyX0_ok nmX0 hown Z.1 Z.2.1 Z.2.2.1 Z.2.2.2.1 0 rfl rfl 15 (by decide) (hts _ q44) (fun _ h9 => h9) rfl hin rfl (by decide +kernel) rfl rfl (Nat.le_of_ble_eq_true rfl) dX0_init_89 (fun H locs hP hD hS => ?_)
  have Z : GW D (va_A [(h, .inr (0, f0X))] s.heap.size) s H locs d [(h, .inr (0, [.ref a0, .int (iI 0), .ref a2, .ref a3, .ref a4, .int (iI 0), .int (iI 0), .ref a7, .ref a8, .ref a9, .ref a10, .ref a11, .ref a12, .int (iI 0), .int (iI 0), .ref a15])), (a0, .inl (d, 18, .inl (fun _ => iI 0))), (a2, .inl (d, 8, .inl (fun _ => iI 0))), (a3, .inl (d, 8, .inl (fun _ => iI 0))), (a4, .inl (d, 72, .inl (fun _ => iI 0))), (a7, .inl (d, 18, .inl (fun _ => iI 0))), (a8, .inl (d, 72, .inl (fun _ => iI 0))), (a9, .inl (d, 6, .inl (fun _ => iI 0))), (a10, .inl (d, 6, .inl (fun _ => iI 0))), (a11, .inl (d, 7, .inl (fun _ => iI 0))), (a12, .inl (d, 6, .inl (fun _ => iI 0))), (a15, .inl (d, 6, .inl (fun _ => iI 0)))] := ⟨Z.1, hP, hD, hS, Z.2.2.2.2⟩
  refine lv_aload_n hx hb dX0_init_92 rfl (lv_at hl 0 rfl) ?_
  refine z_iconst hx hb dX0_init_93 ?_
  refine va_put (D := D) (ci := 0) (C := RX0) (T := TX0) (N := 16) (v := .int (iI 0)) (ty := .boolean) hx hb hts in_X0 tyX0 tyX0_ok nmX0 hown Z.1 Z.2.1 Z.2.2.1 Z.2.2.2.1 0 rfl rfl 5 (by decide) (hts _ q34) (fun _ h9 => h9) rfl (by decide +kernel) (iI_z (Or.inl rfl)).1 (iI_z (Or.inl rfl)).2 (Nat.le_of_ble_eq_true rfl) dX0_init_94 (fun H locs hP hD hS => ?_)
  have Z : GW D (va_A [(h, .inr (0, f0X))] s.heap.size) s H locs d [(h, .inr (0, [.ref a0, .int (iI 0), .ref a2, .ref a3, .ref a4, .int (iI 0), .int (iI 0), .ref a7, .ref a8, .ref a9, .ref a10, .ref a11, .ref a12, .int (iI 0), .int (iI 0), .ref a15])), (a0, .inl (d, 18, .inl (fun _ => iI 0))), (a2, .inl (d, 8, .inl (fun _ => iI 0))), (a3, .inl (d, 8, .inl (fun _ => iI 0))), (a4, .inl (d, 72, .inl (fun _ => iI 0))), (a7, .inl (d, 18, .inl (fun _ => iI 0))), (a8, .inl (d, 72, .inl (fun _ => iI 0))), (a9, .inl (d, 6, .inl (fun _ => iI 0))), (a10, .inl (d, 6, .inl (fun _ => iI 0))), (a11, .inl (d, 7, .inl (fun _ => iI 0))), (a12, .inl (d, 6, .inl (fun _ => iI 0))), (a15, .inl (d, 6, .inl (fun _ => iI 0)))] := ⟨Z.1, hP, hD, hS, Z.2.2.2.2⟩
  have Z : GW D (va_A [(h, .inr (0, f0X))] s.heap.size) s H locs d (wX h (fun k => ([a0, 0, a2, a3, a4, 0, 0, a7, a8, a9, a10, a11, a12, 0, 0, a15] : List Nat).getD k 0) d S0) := Z
  exact W.vret hx hb hr (fun t ht hW => ⟨⟨fun k => ([a0, 0, a2, a3, a4, 0, 0, a7, a8, a9, a10, a11, a12, 0, 0, a15] : List Nat).getD k 0, rfl, trivial, by rw [ht]; exact Z.2.1, va_K.moved hW.alike Z.1, Z.2.2.1⟩, Z.2.2.2.1.F ht⟩) Z.2.2.2.1.2.2 dX0_init_97 hlk
set_option maxHeartbeats 8000000 in
theorem km_init (l : Launch) (D : va_G) (d : ClassId) (h : Nat) : iM l D d (fun ad => wM h ad d S0) [(h, .inr (1, f0M))] h yX1_init cX1_init 1 ({ frames := 1, cells := 5, slots := 835, locals := 40 }) 5 835 := by
  intro sz
  refine Met.ofW (cc := cX1_init) (maxL := 1) (ret := none) (by decide) rfl ?_
  intro p e s m args below meth c s₁ B hml hv
  obtain ⟨rfl, hsz, hP, hK, hD0⟩ := hv
  subst hsz
  have hts := atoms_spec (ws := ws_ yX1_init cX1_init 1 none) B.pre
  have hts : ∀ w ∈ lw_all, w.before _ s = true := fun w h => hts w (List.mem_cons_of_mem _ h)
  have hown : s.vm.findClass RX1 = some m.cls := findClass_of_methodNamed B.named
  have hin : meth.name = "<init>" := (name_of_methodNamed B.named B.method).1
  have hr := B.returns
  have hlk := B.notSynchronized
  have C : CallFix p m c cX1_init 1 s _ lw_all RX1 := ⟨B.exec, B.bytes, hml, hown, hts⟩
  have hx := C.1
  have hb := C.2.1
  have hl := lv_entry ([.ref h]) (n := 1) (Nat.le_of_ble_eq_true rfl)
  rw [lg_entry_eq]
  generalize (lg_sl ([.ref h]) ++ List.replicate (1 - (lg_sl ([.ref h])).length) Slot.unset).toArray = ls at hl ⊢
  have hl : lv_has ls 1 [(0, .ref h)] := hl
  have Z : GW D (va_A [(h, .inr (1, f0M))] s.heap.size) s s.heap [] d [(h, .inr (1, f0M))] := ⟨hK, hP, hD0.self, va_S.rf, fun q h => Or.inr h⟩
  refine lv_aload_n hx hb dX1_init_0 rfl (lv_at hl 0 rfl) ?_
  refine W.objInit hx hb hown (hts _ q201) (hts _ q27) (hts _ q28) rfl (by rw [hml]; exact hl.1) rfl dX1_init_1 (Nat.le_of_ble_eq_true rfl) (Nat.le_of_ble_eq_true rfl) ?_
  refine W.eq (g2 := F0 m 4 ls []) rfl ?_
  refine lv_aload_n hx hb dX1_init_4 rfl (lv_at hl 0 rfl) ?_
  refine z_bipush hx hb dX1_init_5 (by decide) ?_
  refine i_newa C Z 18 (by decide) (by decide) (by decide) (c1 := 1) (s1 := 18) rfl rfl (Nat.le_of_ble_eq_true rfl) (Nat.le_of_ble_eq_true rfl) dX1_init_7 (fun a0 H Z => ?_)
  have Z : GW D (va_A [(h, .inr (1, f0M))] s.heap.size) s _ _ d [(h, .inr (1, [.null, .null, .null, .null, .int (iI 0), .null, .int (iI 0)])), (a0, .inl (d, 18, .inl (fun _ => iI 0)))] := Z
  refine va_putF (D := D) (ci := 1) (C := RX1) (T := TX1) (N := 7) (v := .ref a0) (ty := .array .int) hx hb hts in_X1 tyX1 tyX1_ok nmX1 hown Z.1 Z.2.1 Z.2.2.1 Z.2.2.2.1 0 rfl rfl 0 (by decide) (hts _ q202) (fun _ h9 => h9) rfl hin rfl (by decide +kernel) rfl rfl (Nat.le_of_ble_eq_true rfl) dX1_init_9 (fun H locs hP hD hS => ?_)
  have Z : GW D (va_A [(h, .inr (1, f0M))] s.heap.size) s H locs d [(h, .inr (1, [.ref a0, .null, .null, .null, .int (iI 0), .null, .int (iI 0)])), (a0, .inl (d, 18, .inl (fun _ => iI 0)))] := ⟨Z.1, hP, hD, hS, Z.2.2.2.2⟩
  refine lv_aload_n hx hb dX1_init_12 rfl (lv_at hl 0 rfl) ?_
  refine z_bipush hx hb dX1_init_13 (by decide) ?_
  refine i_newa C Z 8 (by decide) (by decide) (by decide) (c1 := 2) (s1 := 26) rfl rfl (Nat.le_of_ble_eq_true rfl) (Nat.le_of_ble_eq_true rfl) dX1_init_15 (fun a1 H Z => ?_)
  have Z : GW D (va_A [(h, .inr (1, f0M))] s.heap.size) s _ _ d [(h, .inr (1, [.ref a0, .null, .null, .null, .int (iI 0), .null, .int (iI 0)])), (a0, .inl (d, 18, .inl (fun _ => iI 0))), (a1, .inl (d, 8, .inl (fun _ => iI 0)))] := Z
  refine va_putF (D := D) (ci := 1) (C := RX1) (T := TX1) (N := 7) (v := .ref a1) (ty := .array .int) hx hb hts in_X1 tyX1 tyX1_ok nmX1 hown Z.1 Z.2.1 Z.2.2.1 Z.2.2.2.1 0 rfl rfl 1 (by decide) (hts _ q203) (fun _ h9 => h9) rfl hin rfl (by decide +kernel) rfl rfl (Nat.le_of_ble_eq_true rfl) dX1_init_17 (fun H locs hP hD hS => ?_)
  have Z : GW D (va_A [(h, .inr (1, f0M))] s.heap.size) s H locs d [(h, .inr (1, [.ref a0, .ref a1, .null, .null, .int (iI 0), .null, .int (iI 0)])), (a0, .inl (d, 18, .inl (fun _ => iI 0))), (a1, .inl (d, 8, .inl (fun _ => iI 0)))] := ⟨Z.1, hP, hD, hS, Z.2.2.2.2⟩
  refine lv_aload_n hx hb dX1_init_20 rfl (lv_at hl 0 rfl) ?_
  refine z_bipush hx hb dX1_init_21 (by decide) ?_
  refine i_newa C Z 8 (by decide) (by decide) (by decide) (c1 := 3) (s1 := 34) rfl rfl (Nat.le_of_ble_eq_true rfl) (Nat.le_of_ble_eq_true rfl) dX1_init_23 (fun a2 H Z => ?_)
  have Z : GW D (va_A [(h, .inr (1, f0M))] s.heap.size) s _ _ d [(h, .inr (1, [.ref a0, .ref a1, .null, .null, .int (iI 0), .null, .int (iI 0)])), (a0, .inl (d, 18, .inl (fun _ => iI 0))), (a1, .inl (d, 8, .inl (fun _ => iI 0))), (a2, .inl (d, 8, .inl (fun _ => iI 0)))] := Z
  refine va_putF (D := D) (ci := 1) (C := RX1) (T := TX1) (N := 7) (v := .ref a2) (ty := .array .int) hx hb hts in_X1 tyX1 tyX1_ok nmX1 hown Z.1 Z.2.1 Z.2.2.1 Z.2.2.2.1 0 rfl rfl 2 (by decide) (hts _ q204) (fun _ h9 => h9) rfl hin rfl (by decide +kernel) rfl rfl (Nat.le_of_ble_eq_true rfl) dX1_init_25 (fun H locs hP hD hS => ?_)
  have Z : GW D (va_A [(h, .inr (1, f0M))] s.heap.size) s H locs d [(h, .inr (1, [.ref a0, .ref a1, .ref a2, .null, .int (iI 0), .null, .int (iI 0)])), (a0, .inl (d, 18, .inl (fun _ => iI 0))), (a1, .inl (d, 8, .inl (fun _ => iI 0))), (a2, .inl (d, 8, .inl (fun _ => iI 0)))] := ⟨Z.1, hP, hD, hS, Z.2.2.2.2⟩
  refine lv_aload_n hx hb dX1_init_28 rfl (lv_at hl 0 rfl) ?_
  refine z_bipush hx hb dX1_init_29 (by decide) ?_
  refine i_newa C Z 72 (by decide) (by decide) (by decide) (c1 := 4) (s1 := 106) rfl rfl (Nat.le_of_ble_eq_true rfl) (Nat.le_of_ble_eq_true rfl) dX1_init_31 (fun a3 H Z => ?_)
  have Z : GW D (va_A [(h, .inr (1, f0M))] s.heap.size) s _ _ d [(h, .inr (1, [.ref a0, .ref a1, .ref a2, .null, .int (iI 0), .null, .int (iI 0)])), (a0, .inl (d, 18, .inl (fun _ => iI 0))), (a1, .inl (d, 8, .inl (fun _ => iI 0))), (a2, .inl (d, 8, .inl (fun _ => iI 0))), (a3, .inl (d, 72, .inl (fun _ => iI 0)))] := Z
  refine va_putF (D := D) (ci := 1) (C := RX1) (T := TX1) (N := 7) (v := .ref a3) (ty := .array .int) hx hb hts in_X1 tyX1 tyX1_ok nmX1 hown Z.1 Z.2.1 Z.2.2.1 Z.2.2.2.1 0 rfl rfl 3 (by decide) (hts _ q205) (fun _ h9 => h9) rfl hin rfl (by decide +kernel) rfl rfl (Nat.le_of_ble_eq_true rfl) dX1_init_33 (fun H locs hP hD hS => ?_)
  have Z : GW D (va_A [(h, .inr (1, f0M))] s.heap.size) s H locs d [(h, .inr (1, [.ref a0, .ref a1, .ref a2, .ref a3, .int (iI 0), .null, .int (iI 0)])), (a0, .inl (d, 18, .inl (fun _ => iI 0))), (a1, .inl (d, 8, .inl (fun _ => iI 0))), (a2, .inl (d, 8, .inl (fun _ => iI 0))), (a3, .inl (d, 72, .inl (fun _ => iI 0)))] := ⟨Z.1, hP, hD, hS, Z.2.2.2.2⟩
  refine lv_aload_n hx hb dX1_init_36 rfl (lv_at hl 0 rfl) ?_
  refine z_sipush hx hb dX1_init_37 (by decide) ?_
  refine i_newa C Z 729 (by decide) (by decide) (by decide) (c1 := 5) (s1 := 835) rfl rfl (Nat.le_of_ble_eq_true rfl) (Nat.le_of_ble_eq_true rfl) dX1_init_40 (fun a5 H Z => ?_)
  have Z : GW D (va_A [(h, .inr (1, f0M))] s.heap.size) s _ _ d [(h, .inr (1, [.ref a0, .ref a1, .ref a2, .ref a3, .int (iI 0), .null, .int (iI 0)])), (a0, .inl (d, 18, .inl (fun _ => iI 0))), (a1, .inl (d, 8, .inl (fun _ => iI 0))), (a2, .inl (d, 8, .inl (fun _ => iI 0))), (a3, .inl (d, 72, .inl (fun _ => iI 0))), (a5, .inl (d, 729, .inl (fun _ => iI 0)))] := Z
  refine va_putF (D := D) (ci := 1) (C := RX1) (T := TX1) (N := 7) (v := .ref a5) (ty := .array .int) hx hb hts in_X1 tyX1 tyX1_ok nmX1 hown Z.1 Z.2.1 Z.2.2.1 Z.2.2.2.1 0 rfl rfl 5 (by decide) (hts _ q207) (fun _ h9 => h9) rfl hin rfl (by decide +kernel) rfl rfl (Nat.le_of_ble_eq_true rfl) dX1_init_42 (fun H locs hP hD hS => ?_)
  have Z : GW D (va_A [(h, .inr (1, f0M))] s.heap.size) s H locs d [(h, .inr (1, [.ref a0, .ref a1, .ref a2, .ref a3, .int (iI 0), .ref a5, .int (iI 0)])), (a0, .inl (d, 18, .inl (fun _ => iI 0))), (a1, .inl (d, 8, .inl (fun _ => iI 0))), (a2, .inl (d, 8, .inl (fun _ => iI 0))), (a3, .inl (d, 72, .inl (fun _ => iI 0))), (a5, .inl (d, 729, .inl (fun _ => iI 0)))] := ⟨Z.1, hP, hD, hS, Z.2.2.2.2⟩
  have Z : GW D (va_A [(h, .inr (1, f0M))] s.heap.size) s H locs d (wM h (fun k => ([a0, a1, a2, a3, 0, a5, 0] : List Nat).getD k 0) d S0) := Z
  exact W.vret hx hb hr (fun t ht hW => ⟨⟨fun k => ([a0, a1, a2, a3, 0, a5, 0] : List Nat).getD k 0, rfl, trivial, by rw [ht]; exact Z.2.1, va_K.moved hW.alike Z.1, Z.2.2.1⟩, Z.2.2.2.1.F ht⟩) Z.2.2.2.1.2.2 dX1_init_45 hlk
end
section
set_option maxRecDepth 100000
/-! THE CLAIM OUT OF ONE WALK OF THE LAW'S BODY. Your part is whole_start (and what it stands on); all else here is the same for every law, but numbers. -/
def R_law : String := "WeightedNetworkLaw"
def lw_P (b : Addr) (xs : List Int32) (args : Array Value) (s : State) : Prop := args = #[.ref b] ∧ s.IntsAt b xs ∧ xs.length ≤ 256 ∧ (Jvm.Cond.and given_1 narrow_1).before args s = true
def lw_Q (_ : Array Value) (s : State) (o : Outcome) (t : State) : Prop := o = .returned (some (.int 1)) ∧ Framed s o t [] 600000 7290000
def lw_Z (below : List Frame) (a : Array Value) (s : State) : State → Prop := fun t => ∃ o, t.status = .running ∧ Ended t below o ∧ lw_Q a s o t
/-- the law's own end, with 1 on the stack, nothing written that was there before, its room as the claim has it -/
theorem lw_ret {p : Program} {l : Launch} {e : Env} {s : State} {m : MethodId} {below : List Frame} {meth : Method} {c : Code} {b : Nat} (hx : p.tables.exec = Jvm.exec) (hb : c.code = code) (hr : meth.sig.returnType = ret) (hlocks : meth.locks = false) {pc : Nat} {H : Heap} {ls : Array Slot} (hdg : decode code pc = .ok (.ireturn, 1)) : W p l e room_1 s m #[Value.ref b] below meth c H [] 600000 7290000 (lw_Z below #[Value.ref b] s) (F0 m pc ls [.int 1]) := by
  intro T hT X
  obtain ⟨fs, hret, hrun, hended, hW, hframe⟩ := X.leave (v := some (.int 1)) (hlocks := hlocks) (fun h => by rw [hr] at h; cases h)
  have hmeth' : T.vm.method? m = some meth := X.method'
  refine ⟨T.setFrames fs, ?_, .returned (some (.int 1)), hrun, hended, rfl, ⟨_, rfl⟩, hW, hframe⟩
  jvm_step X.here [X.here.top, hx, hb, hdg, hmeth', hr, ret, narrow_b1]
  (try refine ⟨rfl, ?_⟩); (try refine ⟨rfl, ?_⟩)
  first | (intro acts; rw [hret _ acts rfl rfl rfl]) | rw [hret _ _ rfl rfl rfl]
  exact Steps.refl _
/-- what holds at the law's entry: the machine, the code, the tables' words (any of lw_tbl by 'hts w (by decide +kernel)'), the script of L ints xs at the cell b, what the Statement gives of the start (any of its parts by flat_of_before) -/
def lw_At (p : Program) (s : State) (m : MethodId) (meth : Method) (c : Code) (b L : Nat) (xs : Nat → Int32) : Prop :=
  p.tables.exec = Jvm.exec ∧ c.code = code ∧ meth.sig.returnType = ret ∧ c.maxLocals = 4 ∧ s.vm.findClass R_law = some m.cls ∧ (∀ w ∈ lw_tbl, w.before #[Value.ref b] s = true) ∧ va_X b L xs s s.heap ∧ b < s.heap.size ∧ meth.locks = false ∧ (Jvm.Cond.and given_1 narrow_1).before #[Value.ref b] s = true
/-! ===== the law's script at the level of Int ===== -/
def sx (xs : Nat → Int32) (k : Int) : Int := (xs k.toNat).toInt
theorem sx_r (xs : Nat → Int32) (k : Int) : -2147483648 ≤ sx xs k ∧ sx xs k ≤ 2147483647 := iI_rg _
section SX
variable {p : Program} {l : Launch} {e : Env} {R : Room} {s : State} {m : MethodId} {args : Array Value} {below : List Frame} {meth : Method} {c : Code} {H : Heap} {locs : List Loc} {cells slots : Nat} {Q : State → Prop}
variable {cc : ByteArray} {pc nL : Nat} {ls : Array Slot} {rest : List Value} {A : Nat → Prop}
theorem z_sld {b L : Nat} {xs : Nat → Int32} {w : va_W} {D : va_G} {d : ClassId} (hx : p.tables.exec = Jvm.exec) (hb : c.code = cc) (hX : va_X b L xs s s.heap) (hbl : b < s.heap.size) (hbA : ¬ A b) (Z : GW D A s H locs d w) {k : Int} (h0 : 0 ≤ k) (h1 : k < L) (hL : L ≤ 256) (hd : decode cc pc = .ok (.iaload, 1)) (kk : W p l e R s m args below meth c H locs cells slots Q (F0 m (pc + 1) ls (.int (iI (sx xs k)) :: rest))) : W p l e R s m args below meth c H locs cells slots Q (F0 m pc ls (.int (iI k) :: .ref b :: rest)) := by
  refine va_sld hx hb hX hbl hbA Z.2.2.2.1 (iI_in h0 h1 (by omega)) hd ?_
  have q : (iI k).toNatClampNeg = k.toNat := iI_c h0 (by omega)
  have q2 : iI (sx xs k) = xs (iI k).toNatClampNeg := by
    rw [q]
    exact iI_of _
  rw [← q2]
  exact kk
theorem z_slen {b L : Nat} {xs : Nat → Int32} {w : va_W} {D : va_G} {d : ClassId} (hx : p.tables.exec = Jvm.exec) (hb : c.code = cc) (hX : va_X b L xs s s.heap) (hbl : b < s.heap.size) (hbA : ¬ A b) (Z : GW D A s H locs d w) (hL : L ≤ 256) (hd : decode cc pc = .ok (.arraylength, 1)) (kk : W p l e R s m args below meth c H locs cells slots Q (F0 m (pc + 1) ls (.int (iI L) :: rest))) : W p l e R s m args below meth c H locs cells slots Q (F0 m pc ls (.ref b :: rest)) := by
  refine va_slen hx hb hX hbl hbA Z.2.2.2.1 hd ?_
  have q : iI L = Int32.ofNat L := by
    apply Int32.toInt_inj.mp
    rw [iI_t (by omega), Int32.toInt_ofNat_of_lt (by omega)]
  rw [← q]
  exact kk
end SX
theorem f0X_ok : ∀ j, j < 16 → defaultValue (tyX0 j) = vp_V f0X j := by
  intro j hj
  unfold f0X
  rw [iI_0]
  rcases (show j = 0 ∨ j = 1 ∨ j = 2 ∨ j = 3 ∨ j = 4 ∨ j = 5 ∨ j = 6 ∨ j = 7 ∨ j = 8 ∨ j = 9 ∨ j = 10 ∨ j = 11 ∨ j = 12 ∨ j = 13 ∨ j = 14 ∨ j = 15 by omega) with rfl | rfl | rfl | rfl | rfl | rfl | rfl | rfl | rfl | rfl | rfl | rfl | rfl | rfl | rfl | rfl <;> rfl
theorem f0M_ok : ∀ j, j < 7 → defaultValue (tyX1 j) = vp_V f0M j := by
  intro j hj
  unfold f0M
  rw [iI_0]
  rcases (show j = 0 ∨ j = 1 ∨ j = 2 ∨ j = 3 ∨ j = 4 ∨ j = 5 ∨ j = 6 by omega) with rfl | rfl | rfl | rfl | rfl | rfl | rfl <;> rfl
theorem nOK_0 : nOK S0 := by
  refine ⟨by decide, fun _ => by show (0 : Int) ≤ 0 ∧ (0 : Int) ≤ 20; omega, fun _ => by show (0 : Int) ≤ 0 ∧ (0 : Int) ≤ 5; omega, fun _ => by show (0 : Int) ≤ 0 ∧ (0 : Int) ≤ 5; omega, fun _ => by show (0 : Int) ≤ 0 ∧ (0 : Int) ≤ 20; omega, fun t h1 h2 => ?_⟩
  have h2 : t < 0 := h2
  omega
theorem inv_0 : ivv S0 S0 := by
  have e : eqv S0 S0 := ⟨rfl, rfl, rfl, rfl, rfl⟩
  have x : xOK S0 := by
    refine ⟨nOK_0, ⟨by decide, fun _ => by show (0 : Int) ≤ 0 ∧ (0 : Int) ≤ 100000; omega, fun _ => by show (0 : Int) ≤ 0 ∧ (0 : Int) ≤ 100000; omega⟩, Or.inl rfl, fun q => ?_⟩
    have q : (0 : Int) = 1 := q
    omega
  refine ⟨x, ⟨nOK_e e nOK_0, Or.inl rfl, fun q => ?_⟩, e⟩
  have q : (0 : Int) = 1 := q
  omega
end
section
set_option maxRecDepth 100000
set_option maxHeartbeats 8000000 in
theorem lc_cost {p : Program} {l : Launch} {e : Env} {s : State} {m : MethodId} {below : List Frame} {meth : Method} {c : Code} {H : Heap} {locs : List Loc} {Q : State → Prop} {ls : Array Slot} {D : va_G} {d : ClassId} {b L : Nat} {xs : Nat → Int32} {hx0 hm0 : Nat} {ax am : Nat → Nat} {S M : St} {i : Int} (hL : L ≤ 256) (C : CallFix p m c code 4 s #[Value.ref b] lw_all R_law) (hX : va_X b L xs s s.heap) (hbl : b < s.heap.size) (h0 : 0 ≤ i) (h1 : i + 4 ≤ L) (Z : GW D (fun q : Nat => s.heap.size ≤ q) s H locs d (wX hx0 ax d S ++ wM hm0 am d M)) (I : ivv S M) (hl : lv_has ls 4 [(0, .ref b), (1, .ref hx0), (2, .ref hm0), (3, .int (iI i))]) (kk : ∀ (S1 M1 : St) (H : Heap) (locs : List Loc), GW D (fun q : Nat => s.heap.size ≤ q) s H locs d (wX hx0 ax d S1 ++ wM hm0 am d M1) → ivv S1 M1 → W p l e room_1 s m #[Value.ref b] below meth c H locs 600000 7290000 Q (F0 m 375 ls [])) : W p l e room_1 s m #[Value.ref b] below meth c H locs 600000 7290000 Q (F0 m 92 ls []) := by
  have hx := C.1
  have hb := C.2.1
  have hbA : ¬ (fun q : Nat => s.heap.size ≤ q) b := Nat.not_le.mpr hbl
  refine lv_aload_n hx hb dL_law_92 rfl (lv_at hl 1 rfl) ?_
  refine lv_aload_n hx hb dL_law_93 rfl (lv_at hl 0 rfl) ?_
  refine lv_iload_n hx hb dL_law_94 rfl (lv_at hl 3 rfl) ?_
  refine z_iconst hx hb dL_law_95 ?_
  refine z_iadd hx hb dL_law_96 ?_
  refine z_sld (k := i + 1) hx hb hX hbl hbA Z (by omega) (by omega) hL dL_law_97 ?_
  refine lv_aload_n hx hb dL_law_98 rfl (lv_at hl 0 rfl) ?_
  refine lv_iload_n hx hb dL_law_99 rfl (lv_at hl 3 rfl) ?_
  refine z_iconst hx hb dL_law_100 ?_
  refine z_iadd hx hb dL_law_101 ?_
  refine z_sld (k := i + 2) hx hb hX hbl hbA Z (by omega) (by omega) hL dL_law_102 ?_
  refine lv_aload_n hx hb dL_law_103 rfl (lv_at hl 0 rfl) ?_
  refine lv_iload_n hx hb dL_law_104 rfl (lv_at hl 3 rfl) ?_
  refine z_iconst hx hb dL_law_105 ?_
  refine z_iadd hx hb dL_law_106 ?_
  refine z_sld (k := i + 3) hx hb hX hbl hbA Z (by omega) (by omega) hL dL_law_107 ?_
  refine g_calli (n := 3) (wr := wM hm0 am d M) (w := wX hx0 ax d) (As := [.int (iI (sx xs (i + 1))), .int (iI (sx xs (i + 2))), .int (iI (sx xs (i + 3)))]) (rest := []) C (gw_swap Z) hl.1 (kx_cost l D d hx0 ax S (sx xs (i + 1)) (sx xs (i + 2)) (sx xs (i + 3)) (sx_r _ _) (sx_r _ _) (sx_r _ _)) (lw_V q79 q80 q81 q19 q82) rfl rfl (by decide +kernel) rfl ⟨rfl, rfl⟩ ⟨Nat.le_of_ble_eq_true rfl, Nat.le_of_ble_eq_true rfl⟩ rfl (Nat.le_of_ble_eq_true rfl) dL_law_108 ⟨Nat.le_refl _, Nat.le_refl _⟩ (fun z1 S2 H locs hz1 Z => ?_)
  refine lv_aload_n hx hb dL_law_111 rfl (lv_at hl 2 rfl) ?_
  refine lv_aload_n hx hb dL_law_112 rfl (lv_at hl 0 rfl) ?_
  refine lv_iload_n hx hb dL_law_113 rfl (lv_at hl 3 rfl) ?_
  refine z_iconst hx hb dL_law_114 ?_
  refine z_iadd hx hb dL_law_115 ?_
  refine z_sld (k := i + 1) hx hb hX hbl hbA Z (by omega) (by omega) hL dL_law_116 ?_
  refine lv_aload_n hx hb dL_law_117 rfl (lv_at hl 0 rfl) ?_
  refine lv_iload_n hx hb dL_law_118 rfl (lv_at hl 3 rfl) ?_
  refine z_iconst hx hb dL_law_119 ?_
  refine z_iadd hx hb dL_law_120 ?_
  refine z_sld (k := i + 2) hx hb hX hbl hbA Z (by omega) (by omega) hL dL_law_121 ?_
  refine lv_aload_n hx hb dL_law_122 rfl (lv_at hl 0 rfl) ?_
  refine lv_iload_n hx hb dL_law_123 rfl (lv_at hl 3 rfl) ?_
  refine z_iconst hx hb dL_law_124 ?_
  refine z_iadd hx hb dL_law_125 ?_
  refine z_sld (k := i + 3) hx hb hX hbl hbA Z (by omega) (by omega) hL dL_law_126 ?_
  refine g_calli (n := 3) (wr := wX hx0 ax d S2) (w := wM hm0 am d) (As := [.int (iI (sx xs (i + 1))), .int (iI (sx xs (i + 2))), .int (iI (sx xs (i + 3)))]) (rest := [.int (iI z1)]) C (gw_swap Z) hl.1 (km_cost l D d hm0 am M (sx xs (i + 1)) (sx xs (i + 2)) (sx xs (i + 3)) (sx_r _ _) (sx_r _ _) (sx_r _ _)) (lw_V q224 q225 q226 q20 q227) rfl rfl (by decide +kernel) rfl ⟨rfl, rfl⟩ ⟨Nat.le_of_ble_eq_true rfl, Nat.le_of_ble_eq_true rfl⟩ rfl (Nat.le_of_ble_eq_true rfl) dL_law_127 ⟨Nat.le_refl _, Nat.le_refl _⟩ (fun z3 S4 H locs hz3 Z => ?_)
  obtain ⟨ez, I⟩ := J_cost I hz1 hz3
  refine lv_icmp_eq (tgt := 375) hx hb dL_law_130 (by decide) (fun _ => ?_) (fun q => ?_)
  · exact kk S2 S4 H locs Z I
  · exact absurd (by rw [ez]) q
set_option maxHeartbeats 8000000 in
theorem lc_table {p : Program} {l : Launch} {e : Env} {s : State} {m : MethodId} {below : List Frame} {meth : Method} {c : Code} {H : Heap} {locs : List Loc} {Q : State → Prop} {ls : Array Slot} {D : va_G} {d : ClassId} {b L : Nat} {xs : Nat → Int32} {hx0 hm0 : Nat} {ax am : Nat → Nat} {S M : St} {i : Int} (hL : L ≤ 256) (C : CallFix p m c code 4 s #[Value.ref b] lw_all R_law) (hX : va_X b L xs s s.heap) (hbl : b < s.heap.size) (h0 : 0 ≤ i) (h1 : i + 4 ≤ L) (Z : GW D (fun q : Nat => s.heap.size ≤ q) s H locs d (wX hx0 ax d S ++ wM hm0 am d M)) (I : ivv S M) (hl : lv_has ls 4 [(0, .ref b), (1, .ref hx0), (2, .ref hm0), (3, .int (iI i))]) (kk : ∀ (S1 M1 : St) (H : Heap) (locs : List Loc), GW D (fun q : Nat => s.heap.size ≤ q) s H locs d (wX hx0 ax d S1 ++ wM hm0 am d M1) → ivv S1 M1 → W p l e room_1 s m #[Value.ref b] below meth c H locs 600000 7290000 Q (F0 m 375 ls [])) : W p l e room_1 s m #[Value.ref b] below meth c H locs 600000 7290000 Q (F0 m 135 ls []) := by
  have hx := C.1
  have hb := C.2.1
  have hbA : ¬ (fun q : Nat => s.heap.size ≤ q) b := Nat.not_le.mpr hbl
  refine lv_aload_n hx hb dL_law_135 rfl (lv_at hl 1 rfl) ?_
  refine lv_aload_n hx hb dL_law_136 rfl (lv_at hl 0 rfl) ?_
  refine lv_iload_n hx hb dL_law_137 rfl (lv_at hl 3 rfl) ?_
  refine z_iconst hx hb dL_law_138 ?_
  refine z_iadd hx hb dL_law_139 ?_
  refine z_sld (k := i + 1) hx hb hX hbl hbA Z (by omega) (by omega) hL dL_law_140 ?_
  refine lv_aload_n hx hb dL_law_141 rfl (lv_at hl 0 rfl) ?_
  refine lv_iload_n hx hb dL_law_142 rfl (lv_at hl 3 rfl) ?_
  refine z_iconst hx hb dL_law_143 ?_
  refine z_iadd hx hb dL_law_144 ?_
  refine z_sld (k := i + 2) hx hb hX hbl hbA Z (by omega) (by omega) hL dL_law_145 ?_
  refine g_calli (n := 2) (wr := wM hm0 am d M) (w := wX hx0 ax d) (As := [.int (iI (sx xs (i + 1))), .int (iI (sx xs (i + 2)))]) (rest := []) C (gw_swap Z) hl.1 (kx_table l D d hx0 ax S (sx xs (i + 1)) (sx xs (i + 2)) (sx_r _ _) (sx_r _ _) I.1.1.1) (lw_V q89 q90 q91 q19 q92) rfl rfl (by decide +kernel) rfl ⟨rfl, rfl⟩ ⟨Nat.le_of_ble_eq_true rfl, Nat.le_of_ble_eq_true rfl⟩ rfl (Nat.le_of_ble_eq_true rfl) dL_law_146 ⟨Nat.le_refl _, Nat.le_refl _⟩ (fun z1 S2 H locs hz1 Z => ?_)
  refine lv_aload_n hx hb dL_law_149 rfl (lv_at hl 2 rfl) ?_
  refine lv_aload_n hx hb dL_law_150 rfl (lv_at hl 0 rfl) ?_
  refine lv_iload_n hx hb dL_law_151 rfl (lv_at hl 3 rfl) ?_
  refine z_iconst hx hb dL_law_152 ?_
  refine z_iadd hx hb dL_law_153 ?_
  refine z_sld (k := i + 1) hx hb hX hbl hbA Z (by omega) (by omega) hL dL_law_154 ?_
  refine lv_aload_n hx hb dL_law_155 rfl (lv_at hl 0 rfl) ?_
  refine lv_iload_n hx hb dL_law_156 rfl (lv_at hl 3 rfl) ?_
  refine z_iconst hx hb dL_law_157 ?_
  refine z_iadd hx hb dL_law_158 ?_
  refine z_sld (k := i + 2) hx hb hX hbl hbA Z (by omega) (by omega) hL dL_law_159 ?_
  refine g_calli (n := 2) (wr := wX hx0 ax d S2) (w := wM hm0 am d) (As := [.int (iI (sx xs (i + 1))), .int (iI (sx xs (i + 2)))]) (rest := [.int (iI z1)]) C (gw_swap Z) hl.1 (km_table l D d hm0 am M (sx xs (i + 1)) (sx xs (i + 2)) (sx_r _ _) (sx_r _ _) I.2.1.1.1) (lw_V q232 q233 q234 q20 q235) rfl rfl (by decide +kernel) rfl ⟨rfl, rfl⟩ ⟨Nat.le_of_ble_eq_true rfl, Nat.le_of_ble_eq_true rfl⟩ rfl (Nat.le_of_ble_eq_true rfl) dL_law_160 ⟨Nat.le_refl _, Nat.le_refl _⟩ (fun z3 S4 H locs hz3 Z => ?_)
  obtain ⟨ez, I⟩ := J_table I hz1 hz3
  refine lv_icmp_eq (tgt := 375) hx hb dL_law_163 (by decide) (fun _ => ?_) (fun q => ?_)
  · exact kk S2 S4 H locs Z I
  · exact absurd (by rw [ez]) q
set_option maxHeartbeats 8000000 in
theorem lc_pair {p : Program} {l : Launch} {e : Env} {s : State} {m : MethodId} {below : List Frame} {meth : Method} {c : Code} {H : Heap} {locs : List Loc} {Q : State → Prop} {ls : Array Slot} {D : va_G} {d : ClassId} {b L : Nat} {xs : Nat → Int32} {hx0 hm0 : Nat} {ax am : Nat → Nat} {S M : St} {i : Int} (hL : L ≤ 256) (C : CallFix p m c code 4 s #[Value.ref b] lw_all R_law) (hX : va_X b L xs s s.heap) (hbl : b < s.heap.size) (h0 : 0 ≤ i) (h1 : i + 4 ≤ L) (Z : GW D (fun q : Nat => s.heap.size ≤ q) s H locs d (wX hx0 ax d S ++ wM hm0 am d M)) (I : ivv S M) (hl : lv_has ls 4 [(0, .ref b), (1, .ref hx0), (2, .ref hm0), (3, .int (iI i))]) (kk : ∀ (S1 M1 : St) (H : Heap) (locs : List Loc), GW D (fun q : Nat => s.heap.size ≤ q) s H locs d (wX hx0 ax d S1 ++ wM hm0 am d M1) → ivv S1 M1 → W p l e room_1 s m #[Value.ref b] below meth c H locs 600000 7290000 Q (F0 m 375 ls [])) : W p l e room_1 s m #[Value.ref b] below meth c H locs 600000 7290000 Q (F0 m 168 ls []) := by
  have hx := C.1
  have hb := C.2.1
  have hbA : ¬ (fun q : Nat => s.heap.size ≤ q) b := Nat.not_le.mpr hbl
  refine lv_aload_n hx hb dL_law_168 rfl (lv_at hl 1 rfl) ?_
  refine lv_aload_n hx hb dL_law_169 rfl (lv_at hl 0 rfl) ?_
  refine lv_iload_n hx hb dL_law_170 rfl (lv_at hl 3 rfl) ?_
  refine z_iconst hx hb dL_law_171 ?_
  refine z_iadd hx hb dL_law_172 ?_
  refine z_sld (k := i + 1) hx hb hX hbl hbA Z (by omega) (by omega) hL dL_law_173 ?_
  refine lv_aload_n hx hb dL_law_174 rfl (lv_at hl 0 rfl) ?_
  refine lv_iload_n hx hb dL_law_175 rfl (lv_at hl 3 rfl) ?_
  refine z_iconst hx hb dL_law_176 ?_
  refine z_iadd hx hb dL_law_177 ?_
  refine z_sld (k := i + 2) hx hb hX hbl hbA Z (by omega) (by omega) hL dL_law_178 ?_
  refine lv_aload_n hx hb dL_law_179 rfl (lv_at hl 0 rfl) ?_
  refine lv_iload_n hx hb dL_law_180 rfl (lv_at hl 3 rfl) ?_
  refine z_iconst hx hb dL_law_181 ?_
  refine z_iadd hx hb dL_law_182 ?_
  refine z_sld (k := i + 3) hx hb hX hbl hbA Z (by omega) (by omega) hL dL_law_183 ?_
  refine g_calli (n := 3) (wr := wM hm0 am d M) (w := wX hx0 ax d) (As := [.int (iI (sx xs (i + 1))), .int (iI (sx xs (i + 2))), .int (iI (sx xs (i + 3)))]) (rest := []) C (gw_swap Z) hl.1 (kx_pair l D d hx0 ax S (sx xs (i + 1)) (sx xs (i + 2)) (sx xs (i + 3)) (sx_r _ _) (sx_r _ _) (sx_r _ _) I.1.1.1) (lw_V q93 q94 q95 q19 q96) rfl rfl (by decide +kernel) rfl ⟨rfl, rfl⟩ ⟨Nat.le_of_ble_eq_true rfl, Nat.le_of_ble_eq_true rfl⟩ rfl (Nat.le_of_ble_eq_true rfl) dL_law_184 ⟨Nat.le_refl _, Nat.le_refl _⟩ (fun z1 S2 H locs hz1 Z => ?_)
  refine lv_aload_n hx hb dL_law_187 rfl (lv_at hl 2 rfl) ?_
  refine lv_aload_n hx hb dL_law_188 rfl (lv_at hl 0 rfl) ?_
  refine lv_iload_n hx hb dL_law_189 rfl (lv_at hl 3 rfl) ?_
  refine z_iconst hx hb dL_law_190 ?_
  refine z_iadd hx hb dL_law_191 ?_
  refine z_sld (k := i + 1) hx hb hX hbl hbA Z (by omega) (by omega) hL dL_law_192 ?_
  refine lv_aload_n hx hb dL_law_193 rfl (lv_at hl 0 rfl) ?_
  refine lv_iload_n hx hb dL_law_194 rfl (lv_at hl 3 rfl) ?_
  refine z_iconst hx hb dL_law_195 ?_
  refine z_iadd hx hb dL_law_196 ?_
  refine z_sld (k := i + 2) hx hb hX hbl hbA Z (by omega) (by omega) hL dL_law_197 ?_
  refine lv_aload_n hx hb dL_law_198 rfl (lv_at hl 0 rfl) ?_
  refine lv_iload_n hx hb dL_law_199 rfl (lv_at hl 3 rfl) ?_
  refine z_iconst hx hb dL_law_200 ?_
  refine z_iadd hx hb dL_law_201 ?_
  refine z_sld (k := i + 3) hx hb hX hbl hbA Z (by omega) (by omega) hL dL_law_202 ?_
  refine g_calli (n := 3) (wr := wX hx0 ax d S2) (w := wM hm0 am d) (As := [.int (iI (sx xs (i + 1))), .int (iI (sx xs (i + 2))), .int (iI (sx xs (i + 3)))]) (rest := [.int (iI z1)]) C (gw_swap Z) hl.1 (km_pair l D d hm0 am M (sx xs (i + 1)) (sx xs (i + 2)) (sx xs (i + 3)) (sx_r _ _) (sx_r _ _) (sx_r _ _) I.2.1.1.1) (lw_V q236 q237 q238 q20 q239) rfl rfl (by decide +kernel) rfl ⟨rfl, rfl⟩ ⟨Nat.le_of_ble_eq_true rfl, Nat.le_of_ble_eq_true rfl⟩ rfl (Nat.le_of_ble_eq_true rfl) dL_law_203 ⟨Nat.le_refl _, Nat.le_refl _⟩ (fun z3 S4 H locs hz3 Z => ?_)
  obtain ⟨ez, I⟩ := J_pair I hz1 hz3
  refine lv_icmp_eq (tgt := 375) hx hb dL_law_206 (by decide) (fun _ => ?_) (fun q => ?_)
  · exact kk S2 S4 H locs Z I
  · exact absurd (by rw [ez]) q
set_option maxHeartbeats 8000000 in
theorem lc_drop {p : Program} {l : Launch} {e : Env} {s : State} {m : MethodId} {below : List Frame} {meth : Method} {c : Code} {H : Heap} {locs : List Loc} {Q : State → Prop} {ls : Array Slot} {D : va_G} {d : ClassId} {b L : Nat} {xs : Nat → Int32} {hx0 hm0 : Nat} {ax am : Nat → Nat} {S M : St} {i : Int} (hL : L ≤ 256) (C : CallFix p m c code 4 s #[Value.ref b] lw_all R_law) (hX : va_X b L xs s s.heap) (hbl : b < s.heap.size) (h0 : 0 ≤ i) (h1 : i + 4 ≤ L) (Z : GW D (fun q : Nat => s.heap.size ≤ q) s H locs d (wX hx0 ax d S ++ wM hm0 am d M)) (I : ivv S M) (hl : lv_has ls 4 [(0, .ref b), (1, .ref hx0), (2, .ref hm0), (3, .int (iI i))]) (kk : ∀ (S1 M1 : St) (H : Heap) (locs : List Loc), GW D (fun q : Nat => s.heap.size ≤ q) s H locs d (wX hx0 ax d S1 ++ wM hm0 am d M1) → ivv S1 M1 → W p l e room_1 s m #[Value.ref b] below meth c H locs 600000 7290000 Q (F0 m 375 ls [])) : W p l e room_1 s m #[Value.ref b] below meth c H locs 600000 7290000 Q (F0 m 211 ls []) := by
  have hx := C.1
  have hb := C.2.1
  have hbA : ¬ (fun q : Nat => s.heap.size ≤ q) b := Nat.not_le.mpr hbl
  refine lv_aload_n hx hb dL_law_211 rfl (lv_at hl 1 rfl) ?_
  refine g_calli (n := 0) (wr := wM hm0 am d M) (w := wX hx0 ax d) (As := []) (rest := []) C (gw_swap Z) hl.1 (kx_drop l D d hx0 ax S I.1.1.1) (lw_V q97 q98 q99 q19 q100) rfl rfl (by decide +kernel) rfl ⟨rfl, rfl⟩ ⟨Nat.le_of_ble_eq_true rfl, Nat.le_of_ble_eq_true rfl⟩ rfl (Nat.le_of_ble_eq_true rfl) dL_law_212 ⟨Nat.le_refl _, Nat.le_refl _⟩ (fun z1 S2 H locs hz1 Z => ?_)
  refine lv_aload_n hx hb dL_law_215 rfl (lv_at hl 2 rfl) ?_
  refine g_calli (n := 0) (wr := wX hx0 ax d S2) (w := wM hm0 am d) (As := []) (rest := [.int (iI z1)]) C (gw_swap Z) hl.1 (km_drop l D d hm0 am M I.2.1.1.1) (lw_V q240 q241 q242 q20 q243) rfl rfl (by decide +kernel) rfl ⟨rfl, rfl⟩ ⟨Nat.le_of_ble_eq_true rfl, Nat.le_of_ble_eq_true rfl⟩ rfl (Nat.le_of_ble_eq_true rfl) dL_law_216 ⟨Nat.le_refl _, Nat.le_refl _⟩ (fun z3 S4 H locs hz3 Z => ?_)
  obtain ⟨ez, I⟩ := J_drop I hz1 hz3
  refine lv_icmp_eq (tgt := 375) hx hb dL_law_219 (by decide) (fun _ => ?_) (fun q => ?_)
  · exact kk S2 S4 H locs Z I
  · exact absurd (by rw [ez]) q
set_option maxHeartbeats 8000000 in
theorem lc_least {p : Program} {l : Launch} {e : Env} {s : State} {m : MethodId} {below : List Frame} {meth : Method} {c : Code} {H : Heap} {locs : List Loc} {Q : State → Prop} {ls : Array Slot} {D : va_G} {d : ClassId} {b L : Nat} {xs : Nat → Int32} {hx0 hm0 : Nat} {ax am : Nat → Nat} {S M : St} {i : Int} (hL : L ≤ 256) (C : CallFix p m c code 4 s #[Value.ref b] lw_all R_law) (hX : va_X b L xs s s.heap) (hbl : b < s.heap.size) (h0 : 0 ≤ i) (h1 : i + 4 ≤ L) (Z : GW D (fun q : Nat => s.heap.size ≤ q) s H locs d (wX hx0 ax d S ++ wM hm0 am d M)) (I : ivv S M) (hl : lv_has ls 4 [(0, .ref b), (1, .ref hx0), (2, .ref hm0), (3, .int (iI i))]) (kk : ∀ (S1 M1 : St) (H : Heap) (locs : List Loc), GW D (fun q : Nat => s.heap.size ≤ q) s H locs d (wX hx0 ax d S1 ++ wM hm0 am d M1) → ivv S1 M1 → W p l e room_1 s m #[Value.ref b] below meth c H locs 600000 7290000 Q (F0 m 375 ls [])) : W p l e room_1 s m #[Value.ref b] below meth c H locs 600000 7290000 Q (F0 m 224 ls []) := by
  have hx := C.1
  have hb := C.2.1
  have hbA : ¬ (fun q : Nat => s.heap.size ≤ q) b := Nat.not_le.mpr hbl
  refine lv_aload_n hx hb dL_law_224 rfl (lv_at hl 1 rfl) ?_
  refine g_calli (n := 0) (wr := wM hm0 am d M) (w := wX hx0 ax d) (As := []) (rest := []) C (gw_swap Z) hl.1 (kx_least l D d hx0 ax S I.1) (lw_V q101 q102 q103 q19 q104) rfl rfl (by decide +kernel) rfl ⟨rfl, rfl⟩ ⟨Nat.le_of_ble_eq_true rfl, Nat.le_of_ble_eq_true rfl⟩ rfl (Nat.le_of_ble_eq_true rfl) dL_law_225 ⟨Nat.le_refl _, Nat.le_refl _⟩ (fun z1 S2 H locs hz1 Z => ?_)
  refine lv_aload_n hx hb dL_law_228 rfl (lv_at hl 2 rfl) ?_
  refine g_calli (n := 0) (wr := wX hx0 ax d S2) (w := wM hm0 am d) (As := []) (rest := [.int (iI z1)]) C (gw_swap Z) hl.1 (km_least l D d hm0 am M I.2.1) (lw_V q244 q245 q246 q20 q247) rfl rfl (by decide +kernel) rfl ⟨rfl, rfl⟩ ⟨Nat.le_of_ble_eq_true rfl, Nat.le_of_ble_eq_true rfl⟩ rfl (Nat.le_of_ble_eq_true rfl) dL_law_229 ⟨Nat.le_refl _, Nat.le_refl _⟩ (fun z3 S4 H locs hz3 Z => ?_)
  obtain ⟨ez, I⟩ := J_least I hz1 hz3
  refine lv_icmp_eq (tgt := 375) hx hb dL_law_232 (by decide) (fun _ => ?_) (fun q => ?_)
  · exact kk S2 S4 H locs Z I
  · exact absurd (by rw [ez]) q
set_option maxHeartbeats 8000000 in
theorem lc_value {p : Program} {l : Launch} {e : Env} {s : State} {m : MethodId} {below : List Frame} {meth : Method} {c : Code} {H : Heap} {locs : List Loc} {Q : State → Prop} {ls : Array Slot} {D : va_G} {d : ClassId} {b L : Nat} {xs : Nat → Int32} {hx0 hm0 : Nat} {ax am : Nat → Nat} {S M : St} {i : Int} (hL : L ≤ 256) (C : CallFix p m c code 4 s #[Value.ref b] lw_all R_law) (hX : va_X b L xs s s.heap) (hbl : b < s.heap.size) (h0 : 0 ≤ i) (h1 : i + 4 ≤ L) (Z : GW D (fun q : Nat => s.heap.size ≤ q) s H locs d (wX hx0 ax d S ++ wM hm0 am d M)) (I : ivv S M) (hl : lv_has ls 4 [(0, .ref b), (1, .ref hx0), (2, .ref hm0), (3, .int (iI i))]) (kk : ∀ (S1 M1 : St) (H : Heap) (locs : List Loc), GW D (fun q : Nat => s.heap.size ≤ q) s H locs d (wX hx0 ax d S1 ++ wM hm0 am d M1) → ivv S1 M1 → W p l e room_1 s m #[Value.ref b] below meth c H locs 600000 7290000 Q (F0 m 375 ls [])) : W p l e room_1 s m #[Value.ref b] below meth c H locs 600000 7290000 Q (F0 m 237 ls []) := by
  have hx := C.1
  have hb := C.2.1
  have hbA : ¬ (fun q : Nat => s.heap.size ≤ q) b := Nat.not_le.mpr hbl
  refine lv_aload_n hx hb dL_law_237 rfl (lv_at hl 1 rfl) ?_
  refine lv_aload_n hx hb dL_law_238 rfl (lv_at hl 0 rfl) ?_
  refine lv_iload_n hx hb dL_law_239 rfl (lv_at hl 3 rfl) ?_
  refine z_iconst hx hb dL_law_240 ?_
  refine z_iadd hx hb dL_law_241 ?_
  refine z_sld (k := i + 1) hx hb hX hbl hbA Z (by omega) (by omega) hL dL_law_242 ?_
  refine g_calli (n := 1) (wr := wM hm0 am d M) (w := wX hx0 ax d) (As := [.int (iI (sx xs (i + 1)))]) (rest := []) C (gw_swap Z) hl.1 (kx_value l D d hx0 ax S (sx xs (i + 1)) (sx_r _ _) I.1) (lw_V q168 q169 q170 q19 q171) rfl rfl (by decide +kernel) rfl ⟨rfl, rfl⟩ ⟨Nat.le_of_ble_eq_true rfl, Nat.le_of_ble_eq_true rfl⟩ rfl (Nat.le_of_ble_eq_true rfl) dL_law_243 ⟨Nat.le_refl _, Nat.le_refl _⟩ (fun z1 S2 H locs hz1 Z => ?_)
  refine lv_aload_n hx hb dL_law_246 rfl (lv_at hl 2 rfl) ?_
  refine lv_aload_n hx hb dL_law_247 rfl (lv_at hl 0 rfl) ?_
  refine lv_iload_n hx hb dL_law_248 rfl (lv_at hl 3 rfl) ?_
  refine z_iconst hx hb dL_law_249 ?_
  refine z_iadd hx hb dL_law_250 ?_
  refine z_sld (k := i + 1) hx hb hX hbl hbA Z (by omega) (by omega) hL dL_law_251 ?_
  refine g_calli (n := 1) (wr := wX hx0 ax d S2) (w := wM hm0 am d) (As := [.int (iI (sx xs (i + 1)))]) (rest := [.int (iI z1)]) C (gw_swap Z) hl.1 (km_value l D d hm0 am M (sx xs (i + 1)) (sx_r _ _) I.2.1) (lw_V q264 q265 q266 q20 q267) rfl rfl (by decide +kernel) rfl ⟨rfl, rfl⟩ ⟨Nat.le_of_ble_eq_true rfl, Nat.le_of_ble_eq_true rfl⟩ rfl (Nat.le_of_ble_eq_true rfl) dL_law_252 ⟨Nat.le_refl _, Nat.le_refl _⟩ (fun z3 S4 H locs hz3 Z => ?_)
  obtain ⟨ez, I⟩ := J_value I hz1 hz3
  refine lv_icmp_eq (tgt := 375) hx hb dL_law_255 (by decide) (fun _ => ?_) (fun q => ?_)
  · exact kk S2 S4 H locs Z I
  · exact absurd (by rw [ez]) q
set_option maxHeartbeats 8000000 in
theorem lc_leastWith {p : Program} {l : Launch} {e : Env} {s : State} {m : MethodId} {below : List Frame} {meth : Method} {c : Code} {H : Heap} {locs : List Loc} {Q : State → Prop} {ls : Array Slot} {D : va_G} {d : ClassId} {b L : Nat} {xs : Nat → Int32} {hx0 hm0 : Nat} {ax am : Nat → Nat} {S M : St} {i : Int} (hL : L ≤ 256) (C : CallFix p m c code 4 s #[Value.ref b] lw_all R_law) (hX : va_X b L xs s s.heap) (hbl : b < s.heap.size) (h0 : 0 ≤ i) (h1 : i + 4 ≤ L) (Z : GW D (fun q : Nat => s.heap.size ≤ q) s H locs d (wX hx0 ax d S ++ wM hm0 am d M)) (I : ivv S M) (hl : lv_has ls 4 [(0, .ref b), (1, .ref hx0), (2, .ref hm0), (3, .int (iI i))]) (kk : ∀ (S1 M1 : St) (H : Heap) (locs : List Loc), GW D (fun q : Nat => s.heap.size ≤ q) s H locs d (wX hx0 ax d S1 ++ wM hm0 am d M1) → ivv S1 M1 → W p l e room_1 s m #[Value.ref b] below meth c H locs 600000 7290000 Q (F0 m 375 ls [])) : W p l e room_1 s m #[Value.ref b] below meth c H locs 600000 7290000 Q (F0 m 260 ls []) := by
  have hx := C.1
  have hb := C.2.1
  have hbA : ¬ (fun q : Nat => s.heap.size ≤ q) b := Nat.not_le.mpr hbl
  refine lv_aload_n hx hb dL_law_260 rfl (lv_at hl 1 rfl) ?_
  refine lv_aload_n hx hb dL_law_261 rfl (lv_at hl 0 rfl) ?_
  refine lv_iload_n hx hb dL_law_262 rfl (lv_at hl 3 rfl) ?_
  refine z_iconst hx hb dL_law_263 ?_
  refine z_iadd hx hb dL_law_264 ?_
  refine z_sld (k := i + 1) hx hb hX hbl hbA Z (by omega) (by omega) hL dL_law_265 ?_
  refine lv_aload_n hx hb dL_law_266 rfl (lv_at hl 0 rfl) ?_
  refine lv_iload_n hx hb dL_law_267 rfl (lv_at hl 3 rfl) ?_
  refine z_iconst hx hb dL_law_268 ?_
  refine z_iadd hx hb dL_law_269 ?_
  refine z_sld (k := i + 2) hx hb hX hbl hbA Z (by omega) (by omega) hL dL_law_270 ?_
  refine g_calli (n := 2) (wr := wM hm0 am d M) (w := wX hx0 ax d) (As := [.int (iI (sx xs (i + 1))), .int (iI (sx xs (i + 2)))]) (rest := []) C (gw_swap Z) hl.1 (kx_leastWith l D d hx0 ax S (sx xs (i + 1)) (sx xs (i + 2)) (sx_r _ _) (sx_r _ _) I.1) (lw_V q172 q173 q174 q19 q175) rfl rfl (by decide +kernel) rfl ⟨rfl, rfl⟩ ⟨Nat.le_of_ble_eq_true rfl, Nat.le_of_ble_eq_true rfl⟩ rfl (Nat.le_of_ble_eq_true rfl) dL_law_271 ⟨Nat.le_refl _, Nat.le_refl _⟩ (fun z1 S2 H locs hz1 Z => ?_)
  refine lv_aload_n hx hb dL_law_274 rfl (lv_at hl 2 rfl) ?_
  refine lv_aload_n hx hb dL_law_275 rfl (lv_at hl 0 rfl) ?_
  refine lv_iload_n hx hb dL_law_276 rfl (lv_at hl 3 rfl) ?_
  refine z_iconst hx hb dL_law_277 ?_
  refine z_iadd hx hb dL_law_278 ?_
  refine z_sld (k := i + 1) hx hb hX hbl hbA Z (by omega) (by omega) hL dL_law_279 ?_
  refine lv_aload_n hx hb dL_law_280 rfl (lv_at hl 0 rfl) ?_
  refine lv_iload_n hx hb dL_law_281 rfl (lv_at hl 3 rfl) ?_
  refine z_iconst hx hb dL_law_282 ?_
  refine z_iadd hx hb dL_law_283 ?_
  refine z_sld (k := i + 2) hx hb hX hbl hbA Z (by omega) (by omega) hL dL_law_284 ?_
  refine g_calli (n := 2) (wr := wX hx0 ax d S2) (w := wM hm0 am d) (As := [.int (iI (sx xs (i + 1))), .int (iI (sx xs (i + 2)))]) (rest := [.int (iI z1)]) C (gw_swap Z) hl.1 (km_leastWith l D d hm0 am M (sx xs (i + 1)) (sx xs (i + 2)) (sx_r _ _) (sx_r _ _) I.2.1) (lw_V q268 q269 q270 q20 q271) rfl rfl (by decide +kernel) rfl ⟨rfl, rfl⟩ ⟨Nat.le_of_ble_eq_true rfl, Nat.le_of_ble_eq_true rfl⟩ rfl (Nat.le_of_ble_eq_true rfl) dL_law_285 ⟨Nat.le_refl _, Nat.le_refl _⟩ (fun z3 S4 H locs hz3 Z => ?_)
  obtain ⟨ez, I⟩ := J_leastWith I hz1 hz3
  refine lv_icmp_eq (tgt := 375) hx hb dL_law_288 (by decide) (fun _ => ?_) (fun q => ?_)
  · exact kk S2 S4 H locs Z I
  · exact absurd (by rw [ez]) q
set_option maxHeartbeats 8000000 in
theorem lc_ties {p : Program} {l : Launch} {e : Env} {s : State} {m : MethodId} {below : List Frame} {meth : Method} {c : Code} {H : Heap} {locs : List Loc} {Q : State → Prop} {ls : Array Slot} {D : va_G} {d : ClassId} {b L : Nat} {xs : Nat → Int32} {hx0 hm0 : Nat} {ax am : Nat → Nat} {S M : St} {i : Int} (hL : L ≤ 256) (C : CallFix p m c code 4 s #[Value.ref b] lw_all R_law) (hX : va_X b L xs s s.heap) (hbl : b < s.heap.size) (h0 : 0 ≤ i) (h1 : i + 4 ≤ L) (Z : GW D (fun q : Nat => s.heap.size ≤ q) s H locs d (wX hx0 ax d S ++ wM hm0 am d M)) (I : ivv S M) (hl : lv_has ls 4 [(0, .ref b), (1, .ref hx0), (2, .ref hm0), (3, .int (iI i))]) (kk : ∀ (S1 M1 : St) (H : Heap) (locs : List Loc), GW D (fun q : Nat => s.heap.size ≤ q) s H locs d (wX hx0 ax d S1 ++ wM hm0 am d M1) → ivv S1 M1 → W p l e room_1 s m #[Value.ref b] below meth c H locs 600000 7290000 Q (F0 m 375 ls [])) : W p l e room_1 s m #[Value.ref b] below meth c H locs 600000 7290000 Q (F0 m 293 ls []) := by
  have hx := C.1
  have hb := C.2.1
  have hbA : ¬ (fun q : Nat => s.heap.size ≤ q) b := Nat.not_le.mpr hbl
  refine lv_aload_n hx hb dL_law_293 rfl (lv_at hl 1 rfl) ?_
  refine g_calli (n := 0) (wr := wM hm0 am d M) (w := wX hx0 ax d) (As := []) (rest := []) C (gw_swap Z) hl.1 (kx_ties l D d hx0 ax S I.1) (lw_V q176 q177 q178 q19 q179) rfl rfl (by decide +kernel) rfl ⟨rfl, rfl⟩ ⟨Nat.le_of_ble_eq_true rfl, Nat.le_of_ble_eq_true rfl⟩ rfl (Nat.le_of_ble_eq_true rfl) dL_law_294 ⟨Nat.le_refl _, Nat.le_refl _⟩ (fun z1 S2 H locs hz1 Z => ?_)
  refine lv_aload_n hx hb dL_law_297 rfl (lv_at hl 2 rfl) ?_
  refine g_calli (n := 0) (wr := wX hx0 ax d S2) (w := wM hm0 am d) (As := []) (rest := [.int (iI z1)]) C (gw_swap Z) hl.1 (km_ties l D d hm0 am M I.2.1) (lw_V q272 q273 q274 q20 q275) rfl rfl (by decide +kernel) rfl ⟨rfl, rfl⟩ ⟨Nat.le_of_ble_eq_true rfl, Nat.le_of_ble_eq_true rfl⟩ rfl (Nat.le_of_ble_eq_true rfl) dL_law_298 ⟨Nat.le_refl _, Nat.le_refl _⟩ (fun z3 S4 H locs hz3 Z => ?_)
  obtain ⟨ez, I⟩ := J_ties I hz1 hz3
  refine lv_icmp_eq (tgt := 375) hx hb dL_law_301 (by decide) (fun _ => ?_) (fun q => ?_)
  · exact kk S2 S4 H locs Z I
  · exact absurd (by rw [ez]) q
set_option maxHeartbeats 8000000 in
theorem lc_allowed {p : Program} {l : Launch} {e : Env} {s : State} {m : MethodId} {below : List Frame} {meth : Method} {c : Code} {H : Heap} {locs : List Loc} {Q : State → Prop} {ls : Array Slot} {D : va_G} {d : ClassId} {b L : Nat} {xs : Nat → Int32} {hx0 hm0 : Nat} {ax am : Nat → Nat} {S M : St} {i : Int} (hL : L ≤ 256) (C : CallFix p m c code 4 s #[Value.ref b] lw_all R_law) (hX : va_X b L xs s s.heap) (hbl : b < s.heap.size) (h0 : 0 ≤ i) (h1 : i + 4 ≤ L) (Z : GW D (fun q : Nat => s.heap.size ≤ q) s H locs d (wX hx0 ax d S ++ wM hm0 am d M)) (I : ivv S M) (hl : lv_has ls 4 [(0, .ref b), (1, .ref hx0), (2, .ref hm0), (3, .int (iI i))]) (kk : ∀ (S1 M1 : St) (H : Heap) (locs : List Loc), GW D (fun q : Nat => s.heap.size ≤ q) s H locs d (wX hx0 ax d S1 ++ wM hm0 am d M1) → ivv S1 M1 → W p l e room_1 s m #[Value.ref b] below meth c H locs 600000 7290000 Q (F0 m 375 ls [])) : W p l e room_1 s m #[Value.ref b] below meth c H locs 600000 7290000 Q (F0 m 306 ls []) := by
  have hx := C.1
  have hb := C.2.1
  have hbA : ¬ (fun q : Nat => s.heap.size ≤ q) b := Nat.not_le.mpr hbl
  refine lv_aload_n hx hb dL_law_306 rfl (lv_at hl 1 rfl) ?_
  refine g_calli (n := 0) (wr := wM hm0 am d M) (w := wX hx0 ax d) (As := []) (rest := []) C (gw_swap Z) hl.1 (kx_allowed l D d hx0 ax S I.1) (lw_V q184 q185 q186 q19 q187) rfl rfl (by decide +kernel) rfl ⟨rfl, rfl⟩ ⟨Nat.le_of_ble_eq_true rfl, Nat.le_of_ble_eq_true rfl⟩ rfl (Nat.le_of_ble_eq_true rfl) dL_law_307 ⟨Nat.le_refl _, Nat.le_refl _⟩ (fun z1 S2 H locs hz1 Z => ?_)
  refine lv_aload_n hx hb dL_law_310 rfl (lv_at hl 2 rfl) ?_
  refine g_calli (n := 0) (wr := wX hx0 ax d S2) (w := wM hm0 am d) (As := []) (rest := [.int (iI z1)]) C (gw_swap Z) hl.1 (km_allowed l D d hm0 am M I.2.1) (lw_V q281 q282 q283 q20 q284) rfl rfl (by decide +kernel) rfl ⟨rfl, rfl⟩ ⟨Nat.le_of_ble_eq_true rfl, Nat.le_of_ble_eq_true rfl⟩ rfl (Nat.le_of_ble_eq_true rfl) dL_law_311 ⟨Nat.le_refl _, Nat.le_refl _⟩ (fun z3 S4 H locs hz3 Z => ?_)
  obtain ⟨ez, I⟩ := J_allowed I hz1 hz3
  refine lv_icmp_eq (tgt := 375) hx hb dL_law_314 (by decide) (fun _ => ?_) (fun q => ?_)
  · exact kk S2 S4 H locs Z I
  · exact absurd (by rw [ez]) q
set_option maxHeartbeats 8000000 in
theorem lc_upTo {p : Program} {l : Launch} {e : Env} {s : State} {m : MethodId} {below : List Frame} {meth : Method} {c : Code} {H : Heap} {locs : List Loc} {Q : State → Prop} {ls : Array Slot} {D : va_G} {d : ClassId} {b L : Nat} {xs : Nat → Int32} {hx0 hm0 : Nat} {ax am : Nat → Nat} {S M : St} {i : Int} (hL : L ≤ 256) (C : CallFix p m c code 4 s #[Value.ref b] lw_all R_law) (hX : va_X b L xs s s.heap) (hbl : b < s.heap.size) (h0 : 0 ≤ i) (h1 : i + 4 ≤ L) (Z : GW D (fun q : Nat => s.heap.size ≤ q) s H locs d (wX hx0 ax d S ++ wM hm0 am d M)) (I : ivv S M) (hl : lv_has ls 4 [(0, .ref b), (1, .ref hx0), (2, .ref hm0), (3, .int (iI i))]) (kk : ∀ (S1 M1 : St) (H : Heap) (locs : List Loc), GW D (fun q : Nat => s.heap.size ≤ q) s H locs d (wX hx0 ax d S1 ++ wM hm0 am d M1) → ivv S1 M1 → W p l e room_1 s m #[Value.ref b] below meth c H locs 600000 7290000 Q (F0 m 375 ls [])) : W p l e room_1 s m #[Value.ref b] below meth c H locs 600000 7290000 Q (F0 m 319 ls []) := by
  have hx := C.1
  have hb := C.2.1
  have hbA : ¬ (fun q : Nat => s.heap.size ≤ q) b := Nat.not_le.mpr hbl
  refine lv_aload_n hx hb dL_law_319 rfl (lv_at hl 1 rfl) ?_
  refine lv_aload_n hx hb dL_law_320 rfl (lv_at hl 0 rfl) ?_
  refine lv_iload_n hx hb dL_law_321 rfl (lv_at hl 3 rfl) ?_
  refine z_iconst hx hb dL_law_322 ?_
  refine z_iadd hx hb dL_law_323 ?_
  refine z_sld (k := i + 1) hx hb hX hbl hbA Z (by omega) (by omega) hL dL_law_324 ?_
  refine g_calli (n := 1) (wr := wM hm0 am d M) (w := wX hx0 ax d) (As := [.int (iI (sx xs (i + 1)))]) (rest := []) C (gw_swap Z) hl.1 (kx_upTo l D d hx0 ax S (sx xs (i + 1)) (sx_r _ _) I.1) (lw_V q188 q189 q190 q19 q191) rfl rfl (by decide +kernel) rfl ⟨rfl, rfl⟩ ⟨Nat.le_of_ble_eq_true rfl, Nat.le_of_ble_eq_true rfl⟩ rfl (Nat.le_of_ble_eq_true rfl) dL_law_325 ⟨Nat.le_refl _, Nat.le_refl _⟩ (fun z1 S2 H locs hz1 Z => ?_)
  refine lv_aload_n hx hb dL_law_328 rfl (lv_at hl 2 rfl) ?_
  refine lv_aload_n hx hb dL_law_329 rfl (lv_at hl 0 rfl) ?_
  refine lv_iload_n hx hb dL_law_330 rfl (lv_at hl 3 rfl) ?_
  refine z_iconst hx hb dL_law_331 ?_
  refine z_iadd hx hb dL_law_332 ?_
  refine z_sld (k := i + 1) hx hb hX hbl hbA Z (by omega) (by omega) hL dL_law_333 ?_
  refine g_calli (n := 1) (wr := wX hx0 ax d S2) (w := wM hm0 am d) (As := [.int (iI (sx xs (i + 1)))]) (rest := [.int (iI z1)]) C (gw_swap Z) hl.1 (km_upTo l D d hm0 am M (sx xs (i + 1)) (sx_r _ _) I.2.1) (lw_V q285 q278 q279 q20 q280) rfl rfl (by decide +kernel) rfl ⟨rfl, rfl⟩ ⟨Nat.le_of_ble_eq_true rfl, Nat.le_of_ble_eq_true rfl⟩ rfl (Nat.le_of_ble_eq_true rfl) dL_law_334 ⟨Nat.le_refl _, Nat.le_refl _⟩ (fun z3 S4 H locs hz3 Z => ?_)
  obtain ⟨ez, I⟩ := J_upTo I hz1 hz3
  refine lv_icmp_eq (tgt := 375) hx hb dL_law_337 (by decide) (fun _ => ?_) (fun q => ?_)
  · exact kk S2 S4 H locs Z I
  · exact absurd (by rw [ez]) q
set_option maxHeartbeats 8000000 in
theorem lc_canAgree {p : Program} {l : Launch} {e : Env} {s : State} {m : MethodId} {below : List Frame} {meth : Method} {c : Code} {H : Heap} {locs : List Loc} {Q : State → Prop} {ls : Array Slot} {D : va_G} {d : ClassId} {b L : Nat} {xs : Nat → Int32} {hx0 hm0 : Nat} {ax am : Nat → Nat} {S M : St} {i : Int} (hL : L ≤ 256) (C : CallFix p m c code 4 s #[Value.ref b] lw_all R_law) (hX : va_X b L xs s s.heap) (hbl : b < s.heap.size) (h0 : 0 ≤ i) (h1 : i + 4 ≤ L) (Z : GW D (fun q : Nat => s.heap.size ≤ q) s H locs d (wX hx0 ax d S ++ wM hm0 am d M)) (I : ivv S M) (hl : lv_has ls 4 [(0, .ref b), (1, .ref hx0), (2, .ref hm0), (3, .int (iI i))]) (kk : ∀ (S1 M1 : St) (H : Heap) (locs : List Loc), GW D (fun q : Nat => s.heap.size ≤ q) s H locs d (wX hx0 ax d S1 ++ wM hm0 am d M1) → ivv S1 M1 → W p l e room_1 s m #[Value.ref b] below meth c H locs 600000 7290000 Q (F0 m 375 ls [])) : W p l e room_1 s m #[Value.ref b] below meth c H locs 600000 7290000 Q (F0 m 342 ls []) := by
  have hx := C.1
  have hb := C.2.1
  have hbA : ¬ (fun q : Nat => s.heap.size ≤ q) b := Nat.not_le.mpr hbl
  refine lv_aload_n hx hb dL_law_342 rfl (lv_at hl 1 rfl) ?_
  refine lv_aload_n hx hb dL_law_343 rfl (lv_at hl 0 rfl) ?_
  refine lv_iload_n hx hb dL_law_344 rfl (lv_at hl 3 rfl) ?_
  refine z_iconst hx hb dL_law_345 ?_
  refine z_iadd hx hb dL_law_346 ?_
  refine z_sld (k := i + 1) hx hb hX hbl hbA Z (by omega) (by omega) hL dL_law_347 ?_
  refine lv_aload_n hx hb dL_law_348 rfl (lv_at hl 0 rfl) ?_
  refine lv_iload_n hx hb dL_law_349 rfl (lv_at hl 3 rfl) ?_
  refine z_iconst hx hb dL_law_350 ?_
  refine z_iadd hx hb dL_law_351 ?_
  refine z_sld (k := i + 2) hx hb hX hbl hbA Z (by omega) (by omega) hL dL_law_352 ?_
  refine g_calli (n := 2) (wr := wM hm0 am d M) (w := wX hx0 ax d) (As := [.int (iI (sx xs (i + 1))), .int (iI (sx xs (i + 2)))]) (rest := []) C (gw_swap Z) hl.1 (kx_canAgree l D d hx0 ax S (sx xs (i + 1)) (sx xs (i + 2)) (sx_r _ _) (sx_r _ _) I.1) (lw_V q192 q193 q194 q19 q195) rfl rfl (by decide +kernel) rfl ⟨rfl, rfl⟩ ⟨Nat.le_of_ble_eq_true rfl, Nat.le_of_ble_eq_true rfl⟩ rfl (Nat.le_of_ble_eq_true rfl) dL_law_353 ⟨Nat.le_refl _, Nat.le_refl _⟩ (fun z1 S2 H locs hz1 Z => ?_)
  refine lv_aload_n hx hb dL_law_356 rfl (lv_at hl 2 rfl) ?_
  refine lv_aload_n hx hb dL_law_357 rfl (lv_at hl 0 rfl) ?_
  refine lv_iload_n hx hb dL_law_358 rfl (lv_at hl 3 rfl) ?_
  refine z_iconst hx hb dL_law_359 ?_
  refine z_iadd hx hb dL_law_360 ?_
  refine z_sld (k := i + 1) hx hb hX hbl hbA Z (by omega) (by omega) hL dL_law_361 ?_
  refine lv_aload_n hx hb dL_law_362 rfl (lv_at hl 0 rfl) ?_
  refine lv_iload_n hx hb dL_law_363 rfl (lv_at hl 3 rfl) ?_
  refine z_iconst hx hb dL_law_364 ?_
  refine z_iadd hx hb dL_law_365 ?_
  refine z_sld (k := i + 2) hx hb hX hbl hbA Z (by omega) (by omega) hL dL_law_366 ?_
  refine g_calli (n := 2) (wr := wX hx0 ax d S2) (w := wM hm0 am d) (As := [.int (iI (sx xs (i + 1))), .int (iI (sx xs (i + 2)))]) (rest := [.int (iI z1)]) C (gw_swap Z) hl.1 (km_canAgree l D d hm0 am M (sx xs (i + 1)) (sx xs (i + 2)) (sx_r _ _) (sx_r _ _) I.2.1) (lw_V q286 q287 q288 q20 q289) rfl rfl (by decide +kernel) rfl ⟨rfl, rfl⟩ ⟨Nat.le_of_ble_eq_true rfl, Nat.le_of_ble_eq_true rfl⟩ rfl (Nat.le_of_ble_eq_true rfl) dL_law_367 ⟨Nat.le_refl _, Nat.le_refl _⟩ (fun z3 S4 H locs hz3 Z => ?_)
  obtain ⟨ez, I⟩ := J_canAgree I hz1 hz3
  refine lv_icmp_eq (tgt := 375) hx hb dL_law_370 (by decide) (fun _ => ?_) (fun q => ?_)
  · exact kk S2 S4 H locs Z I
  · exact absurd (by rw [ez]) q
end
section
set_option maxRecDepth 100000
set_option maxHeartbeats 8000000 in
theorem law_loop {p : Program} {l : Launch} {e : Env} {s : State} {m : MethodId} {below : List Frame} {meth : Method} {c : Code} {D : va_G} {d : ClassId} {b L : Nat} {xs : Nat → Int32} {hx0 hm0 : Nat} {ax am : Nat → Nat} (hL : L ≤ 256) (C : CallFix p m c code 4 s #[Value.ref b] lw_all R_law) (hr : meth.sig.returnType = ret) (hlk : meth.locks = false) (hX : va_X b L xs s s.heap) (hbl : b < s.heap.size) :
    ∀ (n : Nat) (i : Int) (S M : St) (H : Heap) (locs : List Loc) (ls : Array Slot), 0 ≤ i → i ≤ L → (L : Int) + 1 ≤ i + n → GW D (fun q : Nat => s.heap.size ≤ q) s H locs d (wX hx0 ax d S ++ wM hm0 am d M) → ivv S M → lv_has ls 4 [(0, .ref b), (1, .ref hx0), (2, .ref hm0), (3, .int (iI i))] → W p l e room_1 s m #[Value.ref b] below meth c H locs 600000 7290000 (lw_Z below #[Value.ref b] s) (F0 m 18 ls []) := by
  have hx := C.1
  have hb := C.2.1
  have hbA : ¬ (fun q : Nat => s.heap.size ≤ q) b := Nat.not_le.mpr hbl
  intro n
  induction n with
  | zero =>
    intro i S M H locs ls h1 h2 h3
    exact absurd h3 (by omega)
  | succ n ih =>
    intro i S M H locs ls h1 h2 h3 Z I hl
    refine lv_iload_n hx hb dL_law_18 rfl (lv_at hl 3 rfl) ?_
    refine lv_aload_n hx hb dL_law_19 rfl (lv_at hl 0 rfl) ?_
    refine z_slen hx hb hX hbl hbA Z hL dL_law_20 ?_
    refine z_iconst hx hb dL_law_21 ?_
    refine z_isub hx hb dL_law_22 ?_
    refine z_icmp_gt (tgt := 381) hx hb dL_law_23 (by decide) (by omega) (by omega) (fun c_23 => ?_) (fun c_23 => ?_)
    · refine lv_iconst (v := 1) hx hb dL_law_381 (by decide) ?_
      refine va_forget (fun q hq => Z.2.2.2.1.2.2 q hq) ?_
      exact lw_ret hx hb hr hlk dL_law_382
    · have h4 : i + 4 ≤ L := by omega
      have kk : ∀ (S1 M1 : St) (H : Heap) (locs : List Loc), GW D (fun q : Nat => s.heap.size ≤ q) s H locs d (wX hx0 ax d S1 ++ wM hm0 am d M1) → ivv S1 M1 → W p l e room_1 s m #[Value.ref b] below meth c H locs 600000 7290000 (lw_Z below #[Value.ref b] s) (F0 m 375 ls []) := by
        intro S1 M1 H locs Z I
        refine z_iinc (lv' := [(3, .int (iI (i + 4))), (0, .ref b), (1, .ref hx0), (2, .ref hm0)]) hx hb dL_law_375 hl (k := 3) rfl (by decide) rfl (fun ls hl => ?_)
        refine lv_goto (tgt := 18) hx hb dL_law_378 (by decide) ?_
        exact ih (i + 4) S1 M1 H locs ls (by omega) (by omega) (by omega) Z I (lv_sub hl [1, 2, 3, 0] rfl)
      refine lv_aload_n hx hb dL_law_26 rfl (lv_at hl 0 rfl) ?_
      refine lv_iload_n hx hb dL_law_27 rfl (lv_at hl 3 rfl) ?_
      refine z_sld (k := i) hx hb hX hbl hbA Z (by omega) (by omega) hL dL_law_28 ?_
      refine z_bipush hx hb dL_law_29 (by decide) ?_
      refine lv_iand hx hb dL_law_31 ?_
      refine lv_topi (fun sw esw => ?_)
      by_cases g : sw.toInt < 0 ∨ 10 < sw.toInt
      · refine lv_tableOut (tgt := 375) hx hb dL_law_32 g (by decide) ?_
        exact kk S M H locs Z I
      have g1 : ¬ sw.toInt < 0 := fun q => g (Or.inl q)
      have g2 : ¬ 10 < sw.toInt := fun q => g (Or.inr q)
      rcases (show sw.toInt = 0 ∨ sw.toInt = 1 ∨ sw.toInt = 2 ∨ sw.toInt = 3 ∨ sw.toInt = 4 ∨ sw.toInt = 5 ∨ sw.toInt = 6 ∨ sw.toInt = 7 ∨ sw.toInt = 8 ∨ sw.toInt = 9 ∨ sw.toInt = 10 by omega) with q | q | q | q | q | q | q | q | q | q | q
      · refine lv_tableIn (off := 60) (tgt := 92) hx hb dL_law_32 g1 g2 (by rw [q]; rfl) (by decide) ?_
        exact lc_cost hL C hX hbl h1 h4 Z I hl kk
      · refine lv_tableIn (off := 103) (tgt := 135) hx hb dL_law_32 g1 g2 (by rw [q]; rfl) (by decide) ?_
        exact lc_table hL C hX hbl h1 h4 Z I hl kk
      · refine lv_tableIn (off := 136) (tgt := 168) hx hb dL_law_32 g1 g2 (by rw [q]; rfl) (by decide) ?_
        exact lc_pair hL C hX hbl h1 h4 Z I hl kk
      · refine lv_tableIn (off := 179) (tgt := 211) hx hb dL_law_32 g1 g2 (by rw [q]; rfl) (by decide) ?_
        exact lc_drop hL C hX hbl h1 h4 Z I hl kk
      · refine lv_tableIn (off := 192) (tgt := 224) hx hb dL_law_32 g1 g2 (by rw [q]; rfl) (by decide) ?_
        exact lc_least hL C hX hbl h1 h4 Z I hl kk
      · refine lv_tableIn (off := 205) (tgt := 237) hx hb dL_law_32 g1 g2 (by rw [q]; rfl) (by decide) ?_
        exact lc_value hL C hX hbl h1 h4 Z I hl kk
      · refine lv_tableIn (off := 228) (tgt := 260) hx hb dL_law_32 g1 g2 (by rw [q]; rfl) (by decide) ?_
        exact lc_leastWith hL C hX hbl h1 h4 Z I hl kk
      · refine lv_tableIn (off := 261) (tgt := 293) hx hb dL_law_32 g1 g2 (by rw [q]; rfl) (by decide) ?_
        exact lc_ties hL C hX hbl h1 h4 Z I hl kk
      · refine lv_tableIn (off := 274) (tgt := 306) hx hb dL_law_32 g1 g2 (by rw [q]; rfl) (by decide) ?_
        exact lc_allowed hL C hX hbl h1 h4 Z I hl kk
      · refine lv_tableIn (off := 287) (tgt := 319) hx hb dL_law_32 g1 g2 (by rw [q]; rfl) (by decide) ?_
        exact lc_upTo hL C hX hbl h1 h4 Z I hl kk
      · refine lv_tableIn (off := 310) (tgt := 342) hx hb dL_law_32 g1 g2 (by rw [q]; rfl) (by decide) ?_
        exact lc_canAgree hL C hX hbl h1 h4 Z I hl kk
set_option maxHeartbeats 8000000 in
theorem whole_start {p : Program} {e : Env} {s : State} {m : MethodId} {below : List Frame} {meth : Method} {c : Code} (l : Launch) {b L : Nat} {xs : Nat → Int32} (hL : L ≤ 256) (C0 : lw_At p s m meth c b L xs) : W p l e room_1 s m #[Value.ref b] below meth c s.heap [] 0 0 (lw_Z below #[Value.ref b] s) (entryFrame m ([Value.ref b] : List Value).toArray 4) := by
  obtain ⟨hx, hb, hr, hml, hown, hts0, hX, hbl, hlocks, hgv⟩ := id C0
  have hts : ∀ w ∈ lw_all, w.before #[Value.ref b] s = true := fun w h => hts0 w (lw_all_tbl h)
  have C : CallFix p m c code 4 s #[Value.ref b] lw_all R_law := ⟨hx, hb, hml, hown, hts⟩
  have hA : ∀ q : Nat, s.heap.size ≤ q → (fun q : Nat => s.heap.size ≤ q) q := fun _ h => h
  obtain ⟨c0, iS0, hKn0⟩ := u_known (C := RX0) (T := TX0) (N := 16) (n := 16) hts in_X0 (hts _ q22)
  obtain ⟨c1, iS1, hKn1⟩ := u_known (C := RX1) (T := TX1) (N := 7) (n := 7) hts in_X1 (hts _ q197)
  obtain ⟨D, hKc⟩ : ∃ D : va_G, ∀ (k : Nat) (q : vw_C), vwCl[k]? = some q → u_Kn s q.1 q.2.1 q.2.2 (D.1 k) (D.2 k) := by
    refine ⟨(fun k => if k = 0 then c0 else c1, fun k => if k = 0 then iS0 else iS1), ?_⟩
    intro k q hq
    match k, hq with
    | 0, hq => cases hq; exact hKn0
    | 1, hq => cases hq; exact hKn1
    | k + 2, hq => simp [vwCl] at hq
  obtain ⟨d, kA, comp, hfind, hkA, hkind⟩ := Cond.arrayClass_spec (hts _ q78)
  have hK : va_K D vwCl [(d, .int)] s := by
    refine ⟨hKc, fun k q h => ?_⟩
    match k, h with
    | 0, h =>
      cases h
      exact ⟨fun n z => ⟨fun k h => (by cases h), kA, hkA, comp, hkind⟩, hfind⟩
    | k + 1, h => simp at h
  have hP : va_P D vwCl [] s.heap := fun k q h => by simp at h
  have hD : va_D (fun q : Nat => s.heap.size ≤ q) [] := ⟨fun i j p q h => by simp at h, fun k q h => by simp at h⟩
  have hS : va_S (fun q : Nat => s.heap.size ≤ q) s.heap s.heap [] := va_S.rf
  have hl := lv_entry ([.ref b]) (n := 4) (Nat.le_of_ble_eq_true rfl)
  rw [lg_entry_eq]
  generalize (lg_sl ([.ref b]) ++ List.replicate (4 - (lg_sl ([.ref b])).length) Slot.unset).toArray = ls at hl ⊢
  have hl : lv_has ls 4 [(0, .ref b)] := hl
  refine va_new (ci := 0) (fs := f0X) (C := RX0) (T := TX0) (N := 16) hx hb hts in_X0 tyX0 tyX0_ok hown (hts _ q21) (hts _ q22) (hts _ q19) hK hP hD hS hA rfl f0X_ok (Nat.le_of_ble_eq_true rfl) (Nat.le_of_ble_eq_true rfl) dL_law_0 (fun hx0 H hP hD hS => ?_)
  have Z : GW D (fun q : Nat => s.heap.size ≤ q) s H [] d ([] ++ [(hx0, .inr (0, f0X))]) := ⟨hK, hP, hD, hS, hA⟩
  refine lv_dup hx hb dL_law_3 rfl ?_
  refine g_init (w := fun ad => wX hx0 ad d S0) C Z hl.1 (kx_init l D d hx0) (cwI 0 hts (lw_meth q25) rfl rfl rfl (hts _ q19) (hts _ q23) (hts _ q24) rfl (by decide +kernel) ⟨Nat.le_of_ble_eq_true rfl, Nat.le_of_ble_eq_true rfl⟩) (Nat.le_of_ble_eq_true rfl) (c1 := 12) (s1 := 243) rfl rfl (Nat.le_of_ble_eq_true rfl) (Nat.le_of_ble_eq_true rfl) dL_law_4 (fun ax H locs Z => ?_)
  refine lv_astore_n (lv' := [(1, .ref hx0), (0, .ref b)]) hx hb dL_law_7 rfl hl (by decide) rfl (fun ls hl => ?_)
  refine va_new (ci := 1) (fs := f0M) (C := RX1) (T := TX1) (N := 7) hx hb hts in_X1 tyX1 tyX1_ok hown (hts _ q196) (hts _ q197) (hts _ q20) Z.1 Z.2.1 Z.2.2.1 Z.2.2.2.1 hA rfl f0M_ok (Nat.le_of_ble_eq_true rfl) (Nat.le_of_ble_eq_true rfl) dL_law_8 (fun hm0 H hP hD hS => ?_)
  have Z : GW D (fun q : Nat => s.heap.size ≤ q) s H locs d (wX hx0 ax d S0 ++ [(hm0, .inr (1, f0M))]) := ⟨hK, hP, hD, hS, hA⟩
  refine lv_dup hx hb dL_law_11 rfl ?_
  refine g_init (w := fun ad => wM hm0 ad d S0) C Z hl.1 (km_init l D d hm0) (cwI 0 hts (lw_meth q200) rfl rfl rfl (hts _ q20) (hts _ q198) (hts _ q199) rfl (by decide +kernel) ⟨Nat.le_of_ble_eq_true rfl, Nat.le_of_ble_eq_true rfl⟩) (Nat.le_of_ble_eq_true rfl) (c1 := 18) (s1 := 1085) rfl rfl (Nat.le_of_ble_eq_true rfl) (Nat.le_of_ble_eq_true rfl) dL_law_12 (fun am H locs Z => ?_)
  refine lv_astore_n (lv' := [(2, .ref hm0), (1, .ref hx0), (0, .ref b)]) hx hb dL_law_15 rfl hl (by decide) rfl (fun ls hl => ?_)
  refine z_iconst hx hb dL_law_16 ?_
  refine lv_istore_n (lv' := [(3, .int (iI 0)), (2, .ref hm0), (1, .ref hx0), (0, .ref b)]) hx hb dL_law_17 rfl hl (by decide) rfl (fun ls hl => ?_)
  refine W.widen (k := 600000) (n := 7290000) (Nat.le_of_ble_eq_true rfl) (Nat.le_of_ble_eq_true rfl) ?_
  exact law_loop hL C hr hlocks hX hbl (L + 1) 0 S0 S0 H locs ls (by omega) (by omega) (by omega) Z inv_0 (lv_sub hl [3, 2, 1, 0] rfl)
end
section
set_option maxRecDepth 100000
set_option maxHeartbeats 4000000 in
theorem lw_walk (l : Launch) (b : Addr) (xs : List Int32) : MetFree l x (headSpec (Jvm.Cond.code x code maxLocals ret :: tables_1) room_1) (lw_P b xs) (fun _ _ _ _ _ => True) lw_Q := by
  refine MetFree.of_bodyS (code := code) (maxLocals := maxLocals) (ret := ret) (by decide) ?_ ?_
  · intro args s m h hn
    obtain ⟨meth, c, h1, h2, h3, h4, h5, h6, -, -⟩ := Cond.code_spec hn (atoms_spec (ws := Jvm.Cond.code x code maxLocals ret :: tables_1) h _ List.mem_cons_self)
    exact ⟨meth, c, h1, h2, h3, h4, h5, h6⟩
  · intro p e s m args below meth c s₁ B hml0 hP _
    obtain ⟨rfl, hx, hbd, hgv⟩ := hP
    obtain ⟨scr, harrAt, hlist, hof, hsmall⟩ := hx
    obtain ⟨hcb, hkn, -, -⟩ := State.arrayAt?_spec harrAt
    have hown : s.vm.findClass R_law = some m.cls := findClass_of_methodNamed B.named
    have hts0 : ∀ c ∈ (Jvm.Cond.code x code maxLocals ret :: tables_1), c.before #[Value.ref b] s = true := atoms_spec (ws := Jvm.Cond.code x code maxLocals ret :: tables_1) B.pre
    have hts : ∀ w ∈ lw_tbl, w.before #[Value.ref b] s = true := k2_hts_sels lw_privs (fun w hw => hts0 w (List.mem_cons_of_mem _ hw)) lw_privs_ok
    have hml : c.maxLocals = 4 := B.maxLocals_eq (hts0 _ List.mem_cons_self)
    have X₀ : Stand p l e room_1 s m #[Value.ref b] below meth c s₁ [] 0 0 := Stand.of_body B
    have hh0 : s₁.heap = s.heap := by rw [B.state]; rfl
    have hsz : scr.slots.size = xs.length := by rw [← Array.length_toList, hlist, List.length_map]
    have hval : ∀ j : Nat, j < xs.length → scr.slots[j]? = some (.int (xs.getD j 0)) := fun j hj => by
      rw [← Array.getElem?_toList, hlist]
      simp [hj]
    have hbl : b < s.heap.size := (Array.getElem?_eq_some_iff.mp hcb).1
    have hX : va_X b xs.length (fun j => xs.getD j 0) s s.heap := ⟨scr, hcb, hof, hkn, hsz, hval⟩
    have K : W p l e room_1 s m #[Value.ref b] below meth c s₁.heap [] 0 0 (lw_Z below #[Value.ref b] s) (entryFrame m ([Value.ref b] : List Value).toArray 4) := by
      rw [hh0]
      exact whole_start l hbd ⟨B.exec, B.bytes, B.returns, hml, hown, hts, hX, hbl, B.notSynchronized, hgv⟩
    obtain ⟨t, a1, o, b1, b2, b3⟩ := K s₁ rfl X₀
    exact ⟨t, o, a1, b1, b2, b3⟩
theorem lw_pre_spec {args : Array Value} {s : State} (h : (Jvm.Cond.and given_1 narrow_1).before args s = true) (hr : rest_1_c.before args s = true) : ∃ (b : Addr) (xs : List Int32), lw_P b xs args s := by
  have hs := flat_of_before _ h
  have hq := flat_of_before _ hr
  have hc : (Cond.count 1).before args s = true := hs _ (by decide +kernel)
  have harr : (Cond.arrayOf (.arg 0) .int).before args s = true := hs _ (by decide +kernel)
  have hle : (Cond.le (.length (.arg 0)) (.int 256)).before args s = true := hs _ (by decide +kernel)
  have hlen : (Cond.isInt (.length (.arg 0))).before args s = true := hq _ (by decide +kernel)
  have hall : (Cond.all (.arg 0) (.isInt (.elem (.arg 0) (.index 0)))).before args s = true := hq _ (by decide +kernel)
  obtain ⟨b, xs, hb, hx⟩ := State.ints_of_pre rfl harr hlen hall
  have hsm : xs.length < 2 ^ 31 := hx.choose_spec.2.2.2
  have hev : (Term.length (.arg 0)).eval args s none [] s = some (.int xs.length.toInt32) := hx.length_eval hb
  have hv := Cond.le_ints hev (show (Term.int 256).eval args s none [] s = some (.int 256) from rfl)
  have hd : xs.length.toInt32 ≤ 256 := by
    simpa [Cond.before, Cond.holds, hv] using hle
  have hN : xs.length ≤ 256 := (Int32.ofNat_le_ofNat hsm (by decide)).mp (show Int32.ofNat xs.length ≤ Int32.ofNat 256 from hd)
  exact ⟨b, xs, Cond.one_arg hc (show args[0]? = some (.ref b) from hb), hx, hN, h⟩
theorem lw_comes (l : Launch) : Comes l x (Jvm.Cond.code x code maxLocals ret :: tables_1) room_1 (fun tb e args s => Calls_1 tb e args s ∧ rest_1 tb e args s ∧ Pre_1 tb e args s)
    (fun _ _ args s o t => lw_Q args s o t) := by
  intro p e ha hc hk s m args below hf hfit hheap happ hpre
  obtain ⟨b, xs, hP⟩ := lw_pre_spec hpre.2.2 hpre.2.1
  obtain ⟨k, o, h1, h2, h3, hQ⟩ := lw_walk l b xs p e ha hc hk s m args below hf ((Spec.applies_iff_loose hf).mp happ).1 hP trivial
  exact ⟨k, o, h1, h2, h3, hQ⟩
theorem lw_frame {s t : State} {o : Outcome} {args : Array Value} (h : Framed s o t [] 600000 7290000) :
    Framed s o t (fieldLocs frame_1_writes args s ++ arrayLocs frame_1_arrays args s ++ staticLocs frame_1_statics s) 600000 7290000 := h
theorem lw_limb (L : Cond) (hL : ∀ (args : Array Value) (s t : State), L.after args s (.returned (some (.int 1))) t = true) :
    ArmFor flags0 classFile x code maxLocals ret World_1 tables_1 room_1 Calls_1 rest_1 Pre_1
      (fun tb e a s o t => postC L tb e a s o t ∧ Framed s o t (fieldLocs frame_1_writes a s ++ arrayLocs frame_1_arrays a s ++ staticLocs frame_1_statics s) 600000 7290000) := by
  intro l _ _ _ p e ha hc hk s m args below hf hfit hheap happ hpre
  obtain ⟨k, o, h1, h2, h3, rfl, hF⟩ := lw_comes l p e ha hc hk s m args below hf hfit hheap happ hpre
  exact ⟨k, _, h1, h2, h3, hL args s _, lw_frame hF⟩
theorem i_vc : Claimed_1_1 ∧ Claimed_1_2 := ⟨lw_limb limb_1_1 (fun args s t => by simp [limb_1_1, Cond.after, Cond.holds, Cond.value]), lw_limb limb_1_2 (fun args s t => Cond.after_iff.mpr (by
  first | (rw [show limb_1_2 = Cond.eq .result (.int 1) from rfl, Cond.eq_ints (x := 1) (y := 1) rfl rfl]; simp; done) | (simp [limb_1_2, Cond.value, Term.eval]; done)))⟩
end
