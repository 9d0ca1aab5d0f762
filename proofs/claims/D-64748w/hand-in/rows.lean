section
-- ===== PART A: goes FIRST, ahead of the names: the tables' words, and 'selects' of the private methods out of them =====
/-- a private method of a class that the tables say can be made, by its rows of tables_1 -/
def lw_okq (q : MethodName × Nat) : Prop := (q.1.cls ≠ "java/lang/invoke/MethodHandle" ∧ q.1.cls ≠ "java/lang/invoke/VarHandle") ∧ Cond.instantiable q.1.cls q.2 ∈ tables_1 ∧ Cond.privateMethod q.1 ∈ tables_1 ∧ Cond.instanceMethod q.1 ∈ tables_1
set_option maxRecDepth 100000
theorem lw_p0 : lw_okq (⟨"StablePartition", "isState", "(I)Z"⟩, 11) := ⟨⟨by decide +kernel, by decide +kernel⟩, List.mem_of_getElem? (i := 4) rfl, List.mem_of_getElem? (i := 52) rfl, List.mem_of_getElem? (i := 53) rfl⟩
theorem lw_p1 : lw_okq (⟨"StablePartition", "change", "()V"⟩, 11) := ⟨⟨by decide +kernel, by decide +kernel⟩, List.mem_of_getElem? (i := 4) rfl, List.mem_of_getElem? (i := 56) rfl, List.mem_of_getElem? (i := 57) rfl⟩
theorem lw_p2 : lw_okq (⟨"StablePartition", "settle", "()V"⟩, 11) := ⟨⟨by decide +kernel, by decide +kernel⟩, List.mem_of_getElem? (i := 4) rfl, List.mem_of_getElem? (i := 68) rfl, List.mem_of_getElem? (i := 69) rfl⟩
theorem lw_p3 : lw_okq (⟨"StablePartition", "enqueue", "(I)V"⟩, 11) := ⟨⟨by decide +kernel, by decide +kernel⟩, List.mem_of_getElem? (i := 4) rfl, List.mem_of_getElem? (i := 72) rfl, List.mem_of_getElem? (i := 73) rfl⟩
theorem lw_p4 : lw_okq (⟨"StablePartition", "splitAll", "(II)V"⟩, 11) := ⟨⟨by decide +kernel, by decide +kernel⟩, List.mem_of_getElem? (i := 4) rfl, List.mem_of_getElem? (i := 76) rfl, List.mem_of_getElem? (i := 77) rfl⟩
theorem lw_p5 : lw_okq (⟨"StablePartition", "sourcesOf", "(II)I"⟩, 11) := ⟨⟨by decide +kernel, by decide +kernel⟩, List.mem_of_getElem? (i := 4) rfl, List.mem_of_getElem? (i := 80) rfl, List.mem_of_getElem? (i := 81) rfl⟩
theorem lw_p6 : lw_okq (⟨"StablePartition", "findLeader", "(I)V"⟩, 11) := ⟨⟨by decide +kernel, by decide +kernel⟩, List.mem_of_getElem? (i := 4) rfl, List.mem_of_getElem? (i := 84) rfl, List.mem_of_getElem? (i := 85) rfl⟩
theorem lw_p7 : lw_okq (⟨"StablePartition", "findRounds", "()V"⟩, 11) := ⟨⟨by decide +kernel, by decide +kernel⟩, List.mem_of_getElem? (i := 4) rfl, List.mem_of_getElem? (i := 104) rfl, List.mem_of_getElem? (i := 105) rfl⟩
theorem lw_p8 : lw_okq (⟨"StablePartition", "nextRound", "(I)Z"⟩, 11) := ⟨⟨by decide +kernel, by decide +kernel⟩, List.mem_of_getElem? (i := 4) rfl, List.mem_of_getElem? (i := 108) rfl, List.mem_of_getElem? (i := 109) rfl⟩
theorem lw_p9 : lw_okq (⟨"StablePartition", "alikeAfter", "(III)Z"⟩, 11) := ⟨⟨by decide +kernel, by decide +kernel⟩, List.mem_of_getElem? (i := 4) rfl, List.mem_of_getElem? (i := 112) rfl, List.mem_of_getElem? (i := 113) rfl⟩
theorem lw_p10 : lw_okq (⟨"StablePartition", "classesOf", "(II)I"⟩, 11) := ⟨⟨by decide +kernel, by decide +kernel⟩, List.mem_of_getElem? (i := 4) rfl, List.mem_of_getElem? (i := 116) rfl, List.mem_of_getElem? (i := 117) rfl⟩
theorem lw_p11 : lw_okq (⟨"StablePartition", "leadersOf", "(I)I"⟩, 11) := ⟨⟨by decide +kernel, by decide +kernel⟩, List.mem_of_getElem? (i := 4) rfl, List.mem_of_getElem? (i := 124) rfl, List.mem_of_getElem? (i := 125) rfl⟩
theorem lw_p12 : lw_okq (⟨"StablePartition", "bitsIn", "(I)I"⟩, 11) := ⟨⟨by decide +kernel, by decide +kernel⟩, List.mem_of_getElem? (i := 4) rfl, List.mem_of_getElem? (i := 132) rfl, List.mem_of_getElem? (i := 133) rfl⟩
theorem lw_p13 : lw_okq (⟨"StablePartitionModel", "isState", "(I)Z"⟩, 4) := ⟨⟨by decide +kernel, by decide +kernel⟩, List.mem_of_getElem? (i := 144) rfl, List.mem_of_getElem? (i := 168) rfl, List.mem_of_getElem? (i := 169) rfl⟩
theorem lw_p14 : lw_okq (⟨"StablePartitionModel", "settle", "()I"⟩, 4) := ⟨⟨by decide +kernel, by decide +kernel⟩, List.mem_of_getElem? (i := 144) rfl, List.mem_of_getElem? (i := 180) rfl, List.mem_of_getElem? (i := 181) rfl⟩
theorem lw_p15 : lw_okq (⟨"StablePartitionModel", "begin", "()V"⟩, 4) := ⟨⟨by decide +kernel, by decide +kernel⟩, List.mem_of_getElem? (i := 144) rfl, List.mem_of_getElem? (i := 184) rfl, List.mem_of_getElem? (i := 185) rfl⟩
def lw_privs_1 : List (MethodName × Nat) := [(⟨"StablePartition", "isState", "(I)Z"⟩, 11), (⟨"StablePartition", "change", "()V"⟩, 11), (⟨"StablePartition", "settle", "()V"⟩, 11), (⟨"StablePartition", "enqueue", "(I)V"⟩, 11), (⟨"StablePartition", "splitAll", "(II)V"⟩, 11), (⟨"StablePartition", "sourcesOf", "(II)I"⟩, 11), (⟨"StablePartition", "findLeader", "(I)V"⟩, 11), (⟨"StablePartition", "findRounds", "()V"⟩, 11), (⟨"StablePartition", "nextRound", "(I)Z"⟩, 11), (⟨"StablePartition", "alikeAfter", "(III)Z"⟩, 11), (⟨"StablePartition", "classesOf", "(II)I"⟩, 11), (⟨"StablePartition", "leadersOf", "(I)I"⟩, 11), (⟨"StablePartition", "bitsIn", "(I)I"⟩, 11), (⟨"StablePartitionModel", "isState", "(I)Z"⟩, 4), (⟨"StablePartitionModel", "settle", "()I"⟩, 4), (⟨"StablePartitionModel", "begin", "()V"⟩, 4)]
theorem lw_r1 : ∀ q ∈ lw_privs_1, lw_okq q := List.forall_mem_cons.mpr ⟨lw_p0, List.forall_mem_cons.mpr ⟨lw_p1, List.forall_mem_cons.mpr ⟨lw_p2, List.forall_mem_cons.mpr ⟨lw_p3, List.forall_mem_cons.mpr ⟨lw_p4, List.forall_mem_cons.mpr ⟨lw_p5, List.forall_mem_cons.mpr ⟨lw_p6, List.forall_mem_cons.mpr ⟨lw_p7, List.forall_mem_cons.mpr ⟨lw_p8, List.forall_mem_cons.mpr ⟨lw_p9, List.forall_mem_cons.mpr ⟨lw_p10, List.forall_mem_cons.mpr ⟨lw_p11, List.forall_mem_cons.mpr ⟨lw_p12, List.forall_mem_cons.mpr ⟨lw_p13, List.forall_mem_cons.mpr ⟨lw_p14, List.forall_mem_cons.mpr ⟨lw_p15, fun _ h => absurd h List.not_mem_nil⟩⟩⟩⟩⟩⟩⟩⟩⟩⟩⟩⟩⟩⟩⟩⟩
theorem lw_p16 : lw_okq (⟨"StablePartitionModel", "round", "()Z"⟩, 4) := ⟨⟨by decide +kernel, by decide +kernel⟩, List.mem_of_getElem? (i := 144) rfl, List.mem_of_getElem? (i := 188) rfl, List.mem_of_getElem? (i := 189) rfl⟩
theorem lw_p17 : lw_okq (⟨"StablePartitionModel", "answered", "(III)Z"⟩, 4) := ⟨⟨by decide +kernel, by decide +kernel⟩, List.mem_of_getElem? (i := 144) rfl, List.mem_of_getElem? (i := 192) rfl, List.mem_of_getElem? (i := 193) rfl⟩
theorem lw_p18 : lw_okq (⟨"StablePartitionModel", "leaderNow", "(I)I"⟩, 4) := ⟨⟨by decide +kernel, by decide +kernel⟩, List.mem_of_getElem? (i := 144) rfl, List.mem_of_getElem? (i := 204) rfl, List.mem_of_getElem? (i := 205) rfl⟩
def lw_privs_2 : List (MethodName × Nat) := [(⟨"StablePartitionModel", "round", "()Z"⟩, 4), (⟨"StablePartitionModel", "answered", "(III)Z"⟩, 4), (⟨"StablePartitionModel", "leaderNow", "(I)I"⟩, 4)]
theorem lw_r2 : ∀ q ∈ lw_privs_2, lw_okq q := List.forall_mem_cons.mpr ⟨lw_p16, List.forall_mem_cons.mpr ⟨lw_p17, List.forall_mem_cons.mpr ⟨lw_p18, fun _ h => absurd h List.not_mem_nil⟩⟩⟩
def lw_privs : List (MethodName × Nat) := lw_privs_1 ++ (lw_privs_2)
def lw_tbl : List Cond := k2_sels lw_privs ++ tables_1
theorem lw_privs_ok : ∀ q ∈ lw_privs, lw_okq q := by
  show ∀ q ∈ lw_privs_1 ++ (lw_privs_2), lw_okq q
  exact List.forall_mem_append.mpr ⟨lw_r1, lw_r2⟩
-- ===== ONE list of words for every method: the tables' words that hold all through a run =====
def lw_all : List Cond := lw_tbl.filter goodWord
/-- a word of the tables by its place: claim/WORDS.tsv -/
theorem lw_w {w : Cond} (i : Nat) (h : lw_tbl[i]? = some w) (g : goodWord w = true) : w ∈ lw_all := List.mem_filter.mpr ⟨List.mem_of_getElem? h, g⟩
theorem lw_all_tbl {w : Cond} (h : w ∈ lw_all) : w ∈ lw_tbl := (List.mem_filter.mp h).1
theorem lw_self : GoodIn lw_all lw_all := fun w h => ⟨h, good_of_word (List.mem_filter.mp h).2⟩
/-- a class's field words, by their places -/
theorem lw_in (ws : List Cond) (ps : List Nat) (hp : ws = ps.filterMap (fun i => lw_tbl[i]?)) (hg : ws.all goodWord = true) : ∀ w ∈ ws, w ∈ lw_all := by
  intro w h
  have h1 := List.all_eq_true.mp hg w h
  rw [hp] at h
  obtain ⟨i, -, hi⟩ := List.mem_filterMap.mp h
  exact lw_w i hi h1
/-- the words of a contract for the method y with code b, L locals, answer r -/
abbrev ws_ (y : MethodName) (b : ByteArray) (L : Nat) (r : Option FieldType) : List Cond := Cond.code y b L r :: lw_all
theorem lw_meth {y : MethodName} {b : ByteArray} {L : Nat} {r : Option FieldType} (h : Cond.code y b L r ∈ lw_all) : GoodIn lw_all (ws_ y b L r) := by
  intro w hw
  rcases List.mem_cons.mp hw with e | e
  · rw [e]
    exact lw_self _ h
  · exact lw_self _ e
theorem lw_app {a c : List Cond} (ha : ∀ w ∈ a, w ∈ lw_all) (hc : GoodIn lw_all c) : GoodIn lw_all (a ++ c) := by
  intro w hw
  rcases List.mem_append.mp hw with e | e
  · exact lw_self w (ha w e)
  · exact hc w e
/-- what a call through an object asks: cwV n hts (lw_V ..) -/
theorem lw_V {own : String} {idx : Nat} {C : String} {y : MethodName} {b : ByteArray} {L : Nat} {r : Option FieldType} (h1 : Cond.methodLink own idx y ∈ lw_all) (h2 : Cond.instanceMethod y ∈ lw_all) (h3 : Cond.selects C y y ∈ lw_all) (h4 : Cond.initialized C ∈ lw_all) (h5 : Cond.code y b L r ∈ lw_all) : GoodIn lw_all (wsV own idx C y (ws_ y b L r)) := by
  refine lw_app ?_ (lw_meth h5)
  intro w hw
  simp only [List.mem_cons, List.not_mem_nil, or_false] at hw
  rcases hw with e | e | e | e
  · rw [e]; exact h1
  · rw [e]; exact h2
  · rw [e]; exact h3
  · rw [e]; exact h4
/-- what a static call asks: va_cwS n hts (lw_S ..) -/
theorem lw_S {own : String} {idx : Nat} {y : MethodName} {b : ByteArray} {L : Nat} {r : Option FieldType} (h1 : Cond.methodLink own idx y ∈ lw_all) (h2 : Cond.static y ∈ lw_all) (h3 : Cond.initialized y.cls ∈ lw_all) (h4 : Cond.code y b L r ∈ lw_all) : GoodIn lw_all (va_wsS own idx y (ws_ y b L r)) := by
  refine lw_app ?_ (lw_meth h4)
  intro w hw
  simp only [List.mem_cons, List.not_mem_nil, or_false] at hw
  rcases hw with e | e | e
  · rw [e]; exact h1
  · rw [e]; exact h2
  · rw [e]; exact h3
/-- the words of a contract for a method WITH HANDLERS (hh: its table) -/
abbrev wsW_ (y : MethodName) (b : ByteArray) (L : Nat) (r : Option FieldType) (hh : List (Nat × Nat × Nat × Nat)) : List Cond := Cond.codeWith y b L r hh :: lw_all
theorem lw_methW {y : MethodName} {b : ByteArray} {L : Nat} {r : Option FieldType} {hh : List (Nat × Nat × Nat × Nat)} (h : Cond.codeWith y b L r hh ∈ lw_all) : GoodIn lw_all (wsW_ y b L r hh) := by
  intro w hw
  rcases List.mem_cons.mp hw with e | e
  · rw [e]
    exact lw_self _ h
  · exact lw_self _ e
/-- any list of words by their places (lw_in), good -/
theorem lw_good {ws : List Cond} (h : ∀ w ∈ ws, w ∈ lw_all) : GoodIn lw_all ws := fun w hw => lw_self w (h w hw)
/-- what a call of a method with handlers asks: vx_cwVW n hts (lw_VW ..), vx_cwSW n hts (lw_SW ..) -/
theorem lw_VW {own : String} {idx : Nat} {C : String} {y : MethodName} {b : ByteArray} {L : Nat} {r : Option FieldType} {hh : List (Nat × Nat × Nat × Nat)} (h1 : Cond.methodLink own idx y ∈ lw_all) (h2 : Cond.instanceMethod y ∈ lw_all) (h3 : Cond.selects C y y ∈ lw_all) (h4 : Cond.initialized C ∈ lw_all) (h5 : Cond.codeWith y b L r hh ∈ lw_all) : GoodIn lw_all (wsV own idx C y (wsW_ y b L r hh)) := by
  refine lw_app ?_ (lw_methW h5)
  intro w hw
  simp only [List.mem_cons, List.not_mem_nil, or_false] at hw
  rcases hw with e | e | e | e
  · rw [e]; exact h1
  · rw [e]; exact h2
  · rw [e]; exact h3
  · rw [e]; exact h4
theorem lw_SW {own : String} {idx : Nat} {y : MethodName} {b : ByteArray} {L : Nat} {r : Option FieldType} {hh : List (Nat × Nat × Nat × Nat)} (h1 : Cond.methodLink own idx y ∈ lw_all) (h2 : Cond.static y ∈ lw_all) (h3 : Cond.initialized y.cls ∈ lw_all) (h4 : Cond.codeWith y b L r hh ∈ lw_all) : GoodIn lw_all (va_wsS own idx y (wsW_ y b L r hh)) := by
  refine lw_app ?_ (lw_methW h4)
  intro w hw
  simp only [List.mem_cons, List.not_mem_nil, or_false] at hw
  rcases hw with e | e | e
  · rw [e]; exact h1
  · rw [e]; exact h2
  · rw [e]; exact h3
/-- a word by its place in its run of the tables -/
theorem lw_at {r : List Cond} (hr : ∀ w ∈ r, w ∈ lw_tbl) {w : Cond} (i : Nat) (h : r[i]? = some w) : w ∈ lw_tbl := hr w (List.mem_of_getElem? h)
theorem lw_g {w : Cond} (h : w ∈ lw_tbl) (g : goodWord w = true) : w ∈ lw_all := List.mem_filter.mpr ⟨h, g⟩
theorem lw_ms : ∀ w ∈ k2_sels lw_privs, w ∈ lw_tbl := fun w h => show w ∈ k2_sels lw_privs ++ tables_1 from List.mem_append_left _ h
theorem lw_m0 : ∀ w ∈ tables_1, w ∈ lw_tbl := fun w h => show w ∈ k2_sels lw_privs ++ tables_1 from List.mem_append_right (k2_sels lw_privs) h
theorem qs0 : (Cond.selects "StablePartition" ⟨"StablePartition", "isState", "(I)Z"⟩ ⟨"StablePartition", "isState", "(I)Z"⟩) ∈ lw_all := lw_g (lw_at lw_ms 0 rfl) rfl
theorem qs1 : (Cond.selects "StablePartition" ⟨"StablePartition", "change", "()V"⟩ ⟨"StablePartition", "change", "()V"⟩) ∈ lw_all := lw_g (lw_at lw_ms 1 rfl) rfl
theorem qs2 : (Cond.selects "StablePartition" ⟨"StablePartition", "settle", "()V"⟩ ⟨"StablePartition", "settle", "()V"⟩) ∈ lw_all := lw_g (lw_at lw_ms 2 rfl) rfl
theorem qs3 : (Cond.selects "StablePartition" ⟨"StablePartition", "enqueue", "(I)V"⟩ ⟨"StablePartition", "enqueue", "(I)V"⟩) ∈ lw_all := lw_g (lw_at lw_ms 3 rfl) rfl
theorem qs4 : (Cond.selects "StablePartition" ⟨"StablePartition", "splitAll", "(II)V"⟩ ⟨"StablePartition", "splitAll", "(II)V"⟩) ∈ lw_all := lw_g (lw_at lw_ms 4 rfl) rfl
theorem qs5 : (Cond.selects "StablePartition" ⟨"StablePartition", "sourcesOf", "(II)I"⟩ ⟨"StablePartition", "sourcesOf", "(II)I"⟩) ∈ lw_all := lw_g (lw_at lw_ms 5 rfl) rfl
theorem qs6 : (Cond.selects "StablePartition" ⟨"StablePartition", "findLeader", "(I)V"⟩ ⟨"StablePartition", "findLeader", "(I)V"⟩) ∈ lw_all := lw_g (lw_at lw_ms 6 rfl) rfl
theorem qs7 : (Cond.selects "StablePartition" ⟨"StablePartition", "findRounds", "()V"⟩ ⟨"StablePartition", "findRounds", "()V"⟩) ∈ lw_all := lw_g (lw_at lw_ms 7 rfl) rfl
theorem qs8 : (Cond.selects "StablePartition" ⟨"StablePartition", "nextRound", "(I)Z"⟩ ⟨"StablePartition", "nextRound", "(I)Z"⟩) ∈ lw_all := lw_g (lw_at lw_ms 8 rfl) rfl
theorem qs9 : (Cond.selects "StablePartition" ⟨"StablePartition", "alikeAfter", "(III)Z"⟩ ⟨"StablePartition", "alikeAfter", "(III)Z"⟩) ∈ lw_all := lw_g (lw_at lw_ms 9 rfl) rfl
theorem qs10 : (Cond.selects "StablePartition" ⟨"StablePartition", "classesOf", "(II)I"⟩ ⟨"StablePartition", "classesOf", "(II)I"⟩) ∈ lw_all := lw_g (lw_at lw_ms 10 rfl) rfl
theorem qs11 : (Cond.selects "StablePartition" ⟨"StablePartition", "leadersOf", "(I)I"⟩ ⟨"StablePartition", "leadersOf", "(I)I"⟩) ∈ lw_all := lw_g (lw_at lw_ms 11 rfl) rfl
theorem qs12 : (Cond.selects "StablePartition" ⟨"StablePartition", "bitsIn", "(I)I"⟩ ⟨"StablePartition", "bitsIn", "(I)I"⟩) ∈ lw_all := lw_g (lw_at lw_ms 12 rfl) rfl
theorem qs13 : (Cond.selects "StablePartitionModel" ⟨"StablePartitionModel", "isState", "(I)Z"⟩ ⟨"StablePartitionModel", "isState", "(I)Z"⟩) ∈ lw_all := lw_g (lw_at lw_ms 13 rfl) rfl
theorem qs14 : (Cond.selects "StablePartitionModel" ⟨"StablePartitionModel", "settle", "()I"⟩ ⟨"StablePartitionModel", "settle", "()I"⟩) ∈ lw_all := lw_g (lw_at lw_ms 14 rfl) rfl
theorem qs15 : (Cond.selects "StablePartitionModel" ⟨"StablePartitionModel", "begin", "()V"⟩ ⟨"StablePartitionModel", "begin", "()V"⟩) ∈ lw_all := lw_g (lw_at lw_ms 15 rfl) rfl
theorem qs16 : (Cond.selects "StablePartitionModel" ⟨"StablePartitionModel", "round", "()Z"⟩ ⟨"StablePartitionModel", "round", "()Z"⟩) ∈ lw_all := lw_g (lw_at lw_ms 16 rfl) rfl
theorem qs17 : (Cond.selects "StablePartitionModel" ⟨"StablePartitionModel", "answered", "(III)Z"⟩ ⟨"StablePartitionModel", "answered", "(III)Z"⟩) ∈ lw_all := lw_g (lw_at lw_ms 17 rfl) rfl
theorem qs18 : (Cond.selects "StablePartitionModel" ⟨"StablePartitionModel", "leaderNow", "(I)I"⟩ ⟨"StablePartitionModel", "leaderNow", "(I)I"⟩) ∈ lw_all := lw_g (lw_at lw_ms 18 rfl) rfl
/-! java/lang/Object -/
set_option maxRecDepth 100000
def RJ0 : String := "java/lang/Object"
abbrev cJ0_init : ByteArray := object_method_1_code
def yJ0_init : MethodName := ⟨RJ0, "<init>", "()V"⟩
theorem dJ0_init_0 : decode cJ0_init 0 = .ok (.return_, 1) := by decide +kernel
theorem q28 : (Jvm.Cond.instanceMethod ({ cls := "java/lang/Object", name := "<init>", desc := "()V" } : Jvm.MethodName)) ∈ lw_all := lw_g (lw_at lw_m0 9 rfl) rfl
theorem q29 : (Jvm.Cond.code ({ cls := "java/lang/Object", name := "<init>", desc := "()V" } : Jvm.MethodName) object_method_1_code (1 : Nat) (Option.none : Option Jvm.ClassFile.FieldType)) ∈ lw_all := lw_g (lw_at lw_m0 10 rfl) rfl
theorem q64 : (Jvm.Cond.arrayClass Jvm.ClassFile.FieldType.byte) ∈ lw_all := lw_g (lw_at lw_m0 45 rfl) rfl
set_option maxRecDepth 100000
theorem q65 : (Jvm.Cond.arrayClass Jvm.ClassFile.FieldType.int) ∈ lw_all := lw_g (lw_at lw_m0 46 rfl) rfl
theorem q181 : (Jvm.Cond.arrayClass Jvm.ClassFile.FieldType.boolean) ∈ lw_all := lw_g (lw_at lw_m0 162 rfl) rfl
theorem q19 : (Jvm.Cond.initialized "StablePartitionLaw") ∈ lw_all := lw_g (lw_at lw_m0 0 rfl) rfl
set_option maxRecDepth 100000
theorem q22 : (Jvm.Cond.classLink "StablePartitionLaw" (7 : Nat) "StablePartition") ∈ lw_all := lw_g (lw_at lw_m0 3 rfl) rfl
theorem q24 : (Jvm.Cond.methodLink "StablePartitionLaw" (9 : Nat) ({ cls := "StablePartition", name := "<init>", desc := "()V" } : Jvm.MethodName)) ∈ lw_all := lw_g (lw_at lw_m0 5 rfl) rfl
theorem q66 : (Jvm.Cond.methodLink "StablePartitionLaw" (13 : Nat) ({ cls := "StablePartition", name := "colour", desc := "(II)Z" } : Jvm.MethodName)) ∈ lw_all := lw_g (lw_at lw_m0 47 rfl) rfl
theorem q78 : (Jvm.Cond.methodLink "StablePartitionLaw" (18 : Nat) ({ cls := "StablePartition", name := "step", desc := "(IIIZ)Z" } : Jvm.MethodName)) ∈ lw_all := lw_g (lw_at lw_m0 59 rfl) rfl
theorem q82 : (Jvm.Cond.methodLink "StablePartitionLaw" (23 : Nat) ({ cls := "StablePartition", name := "alike", desc := "(II)Z" } : Jvm.MethodName)) ∈ lw_all := lw_g (lw_at lw_m0 63 rfl) rfl
theorem q106 : (Jvm.Cond.methodLink "StablePartitionLaw" (27 : Nat) ({ cls := "StablePartition", name := "classes", desc := "()I" } : Jvm.MethodName)) ∈ lw_all := lw_g (lw_at lw_m0 87 rfl) rfl
theorem q110 : (Jvm.Cond.methodLink "StablePartitionLaw" (32 : Nat) ({ cls := "StablePartition", name := "leader", desc := "(I)I" } : Jvm.MethodName)) ∈ lw_all := lw_g (lw_at lw_m0 91 rfl) rfl
theorem q114 : (Jvm.Cond.methodLink "StablePartitionLaw" (37 : Nat) ({ cls := "StablePartition", name := "members", desc := "(I)I" } : Jvm.MethodName)) ∈ lw_all := lw_g (lw_at lw_m0 95 rfl) rfl
theorem q118 : (Jvm.Cond.methodLink "StablePartitionLaw" (41 : Nat) ({ cls := "StablePartition", name := "told", desc := "(II)I" } : Jvm.MethodName)) ∈ lw_all := lw_g (lw_at lw_m0 99 rfl) rfl
theorem q138 : (Jvm.Cond.methodLink "StablePartitionLaw" (46 : Nat) ({ cls := "StablePartition", name := "leads", desc := "(II)I" } : Jvm.MethodName)) ∈ lw_all := lw_g (lw_at lw_m0 119 rfl) rfl
theorem q146 : (Jvm.Cond.methodLink "StablePartitionLaw" (50 : Nat) ({ cls := "StablePartition", name := "colours", desc := "()I" } : Jvm.MethodName)) ∈ lw_all := lw_g (lw_at lw_m0 127 rfl) rfl
theorem q154 : (Jvm.Cond.methodLink "StablePartitionLaw" (54 : Nat) ({ cls := "StablePartition", name := "reduce", desc := "()I" } : Jvm.MethodName)) ∈ lw_all := lw_g (lw_at lw_m0 135 rfl) rfl
theorem q158 : (Jvm.Cond.methodLink "StablePartitionLaw" (58 : Nat) ({ cls := "StablePartition", name := "rounds", desc := "()I" } : Jvm.MethodName)) ∈ lw_all := lw_g (lw_at lw_m0 139 rfl) rfl
theorem q162 : (Jvm.Cond.classLink "StablePartitionLaw" (10 : Nat) "StablePartitionModel") ∈ lw_all := lw_g (lw_at lw_m0 143 rfl) rfl
theorem q164 : (Jvm.Cond.methodLink "StablePartitionLaw" (12 : Nat) ({ cls := "StablePartitionModel", name := "<init>", desc := "()V" } : Jvm.MethodName)) ∈ lw_all := lw_g (lw_at lw_m0 145 rfl) rfl
theorem q182 : (Jvm.Cond.methodLink "StablePartitionLaw" (17 : Nat) ({ cls := "StablePartitionModel", name := "colour", desc := "(II)Z" } : Jvm.MethodName)) ∈ lw_all := lw_g (lw_at lw_m0 163 rfl) rfl
theorem q190 : (Jvm.Cond.methodLink "StablePartitionLaw" (22 : Nat) ({ cls := "StablePartitionModel", name := "step", desc := "(IIIZ)Z" } : Jvm.MethodName)) ∈ lw_all := lw_g (lw_at lw_m0 171 rfl) rfl
theorem q194 : (Jvm.Cond.methodLink "StablePartitionLaw" (26 : Nat) ({ cls := "StablePartitionModel", name := "alike", desc := "(II)Z" } : Jvm.MethodName)) ∈ lw_all := lw_g (lw_at lw_m0 175 rfl) rfl
theorem q214 : (Jvm.Cond.methodLink "StablePartitionLaw" (31 : Nat) ({ cls := "StablePartitionModel", name := "classes", desc := "()I" } : Jvm.MethodName)) ∈ lw_all := lw_g (lw_at lw_m0 195 rfl) rfl
theorem q226 : (Jvm.Cond.methodLink "StablePartitionLaw" (36 : Nat) ({ cls := "StablePartitionModel", name := "leader", desc := "(I)I" } : Jvm.MethodName)) ∈ lw_all := lw_g (lw_at lw_m0 207 rfl) rfl
theorem q227 : (Jvm.Cond.methodLink "StablePartitionLaw" (40 : Nat) ({ cls := "StablePartitionModel", name := "members", desc := "(I)I" } : Jvm.MethodName)) ∈ lw_all := lw_g (lw_at lw_m0 208 rfl) rfl
theorem q231 : (Jvm.Cond.methodLink "StablePartitionLaw" (45 : Nat) ({ cls := "StablePartitionModel", name := "told", desc := "(II)I" } : Jvm.MethodName)) ∈ lw_all := lw_g (lw_at lw_m0 212 rfl) rfl
theorem q235 : (Jvm.Cond.methodLink "StablePartitionLaw" (49 : Nat) ({ cls := "StablePartitionModel", name := "leads", desc := "(II)I" } : Jvm.MethodName)) ∈ lw_all := lw_g (lw_at lw_m0 216 rfl) rfl
theorem q239 : (Jvm.Cond.methodLink "StablePartitionLaw" (53 : Nat) ({ cls := "StablePartitionModel", name := "colours", desc := "()I" } : Jvm.MethodName)) ∈ lw_all := lw_g (lw_at lw_m0 220 rfl) rfl
theorem q243 : (Jvm.Cond.methodLink "StablePartitionLaw" (57 : Nat) ({ cls := "StablePartitionModel", name := "reduce", desc := "()I" } : Jvm.MethodName)) ∈ lw_all := lw_g (lw_at lw_m0 224 rfl) rfl
theorem q247 : (Jvm.Cond.methodLink "StablePartitionLaw" (61 : Nat) ({ cls := "StablePartitionModel", name := "rounds", desc := "()I" } : Jvm.MethodName)) ∈ lw_all := lw_g (lw_at lw_m0 228 rfl) rfl
end
section
/-! StablePartition -/
set_option maxRecDepth 100000
def RX0 : String := "StablePartition"
def TX0 : u_T := fun k => match k with
  | 0 => ("StablePartition", "colourOf", "[B", true)
  | 1 => ("StablePartition", "stepsOf", "[I", true)
  | 2 => ("StablePartition", "settled", "Z", false)
  | 3 => ("StablePartition", "blockCount", "I", false)
  | 4 => ("StablePartition", "blocks", "[I", true)
  | 5 => ("StablePartition", "waitCount", "I", false)
  | 6 => ("StablePartition", "waiting", "[I", true)
  | 7 => ("StablePartition", "leaderOf", "[B", true)
  | 8 => ("StablePartition", "toldKnown", "Z", false)
  | 9 => ("StablePartition", "roundCount", "I", false)
  | _ => ("StablePartition", "classAt", "[B", true)
def tyX0 : Nat → FieldType := fun k => match k with
  | 0 => .array .byte
  | 1 => .array .int
  | 2 => .boolean
  | 3 => .int
  | 4 => .array .int
  | 5 => .int
  | 6 => .array .int
  | 7 => .array .byte
  | 8 => .boolean
  | 9 => .int
  | _ => .array .byte
abbrev wsX00 : List Cond := u_ws RX0 TX0 11
theorem nmX0 : ∀ a, a < 11 → ∀ b, b < 11 → a ≠ b → (TX0 a).2.1 ≠ (TX0 b).2.1 := by decide +kernel
theorem tyX0_ok : ∀ k, k < 11 → parseFieldDescriptor (TX0 k).2.2.1 = some (tyX0 k) := by decide +kernel
abbrev cX0_init : ByteArray := prog_1_method_1_code
def yX0_init : MethodName := ⟨RX0, "<init>", "()V"⟩
theorem dX0_init_0 : decode cX0_init 0 = .ok (.aload_n 0, 1) := by decide +kernel
theorem dX0_init_1 : decode cX0_init 1 = .ok (.invokespecial 1, 3) := by decide +kernel
theorem dX0_init_4 : decode cX0_init 4 = .ok (.aload_n 0, 1) := by decide +kernel
theorem dX0_init_5 : decode cX0_init 5 = .ok (.bipush 10, 2) := by decide +kernel
theorem dX0_init_7 : decode cX0_init 7 = .ok (.newarray .byte, 2) := by decide +kernel
theorem dX0_init_9 : decode cX0_init 9 = .ok (.putfield 7, 3) := by decide +kernel
theorem dX0_init_12 : decode cX0_init 12 = .ok (.aload_n 0, 1) := by decide +kernel
theorem dX0_init_13 : decode cX0_init 13 = .ok (.bipush 20, 2) := by decide +kernel
theorem dX0_init_15 : decode cX0_init 15 = .ok (.newarray .int, 2) := by decide +kernel
theorem dX0_init_17 : decode cX0_init 17 = .ok (.putfield 13, 3) := by decide +kernel
theorem dX0_init_20 : decode cX0_init 20 = .ok (.aload_n 0, 1) := by decide +kernel
theorem dX0_init_21 : decode cX0_init 21 = .ok (.bipush 10, 2) := by decide +kernel
theorem dX0_init_23 : decode cX0_init 23 = .ok (.newarray .int, 2) := by decide +kernel
theorem dX0_init_25 : decode cX0_init 25 = .ok (.putfield 17, 3) := by decide +kernel
theorem dX0_init_28 : decode cX0_init 28 = .ok (.aload_n 0, 1) := by decide +kernel
theorem dX0_init_29 : decode cX0_init 29 = .ok (.bipush 40, 2) := by decide +kernel
theorem dX0_init_31 : decode cX0_init 31 = .ok (.newarray .int, 2) := by decide +kernel
theorem dX0_init_33 : decode cX0_init 33 = .ok (.putfield 20, 3) := by decide +kernel
theorem dX0_init_36 : decode cX0_init 36 = .ok (.aload_n 0, 1) := by decide +kernel
theorem dX0_init_37 : decode cX0_init 37 = .ok (.bipush 10, 2) := by decide +kernel
theorem dX0_init_39 : decode cX0_init 39 = .ok (.newarray .byte, 2) := by decide +kernel
theorem dX0_init_41 : decode cX0_init 41 = .ok (.putfield 23, 3) := by decide +kernel
theorem dX0_init_44 : decode cX0_init 44 = .ok (.aload_n 0, 1) := by decide +kernel
theorem dX0_init_45 : decode cX0_init 45 = .ok (.bipush 120, 2) := by decide +kernel
theorem dX0_init_47 : decode cX0_init 47 = .ok (.newarray .byte, 2) := by decide +kernel
theorem dX0_init_49 : decode cX0_init 49 = .ok (.putfield 26, 3) := by decide +kernel
theorem dX0_init_52 : decode cX0_init 52 = .ok (.return_, 1) := by decide +kernel
abbrev cX0_colour : ByteArray := prog_1_method_2_code
def yX0_colour : MethodName := ⟨RX0, "colour", "(II)Z"⟩
theorem dX0_colour_0 : decode cX0_colour 0 = .ok (.aload_n 0, 1) := by decide +kernel
theorem dX0_colour_1 : decode cX0_colour 1 = .ok (.iload_n 1, 1) := by decide +kernel
theorem dX0_colour_2 : decode cX0_colour 2 = .ok (.invokevirtual 29, 3) := by decide +kernel
theorem dX0_colour_5 : decode cX0_colour 5 = .ok (.ifCond .eq 12, 3) := by decide +kernel
theorem dX0_colour_8 : decode cX0_colour 8 = .ok (.iload_n 2, 1) := by decide +kernel
theorem dX0_colour_9 : decode cX0_colour 9 = .ok (.ifCond .lt 8, 3) := by decide +kernel
theorem dX0_colour_12 : decode cX0_colour 12 = .ok (.iload_n 2, 1) := by decide +kernel
theorem dX0_colour_13 : decode cX0_colour 13 = .ok (.iconst 3, 1) := by decide +kernel
theorem dX0_colour_14 : decode cX0_colour 14 = .ok (.if_icmp .le 5, 3) := by decide +kernel
theorem dX0_colour_17 : decode cX0_colour 17 = .ok (.iconst 0, 1) := by decide +kernel
theorem dX0_colour_18 : decode cX0_colour 18 = .ok (.ireturn, 1) := by decide +kernel
theorem dX0_colour_19 : decode cX0_colour 19 = .ok (.aload_n 0, 1) := by decide +kernel
theorem dX0_colour_20 : decode cX0_colour 20 = .ok (.getfield 7, 3) := by decide +kernel
theorem dX0_colour_23 : decode cX0_colour 23 = .ok (.iload_n 1, 1) := by decide +kernel
theorem dX0_colour_24 : decode cX0_colour 24 = .ok (.iload_n 2, 1) := by decide +kernel
theorem dX0_colour_25 : decode cX0_colour 25 = .ok (.i2b, 1) := by decide +kernel
theorem dX0_colour_26 : decode cX0_colour 26 = .ok (.bastore, 1) := by decide +kernel
theorem dX0_colour_27 : decode cX0_colour 27 = .ok (.aload_n 0, 1) := by decide +kernel
theorem dX0_colour_28 : decode cX0_colour 28 = .ok (.invokevirtual 33, 3) := by decide +kernel
theorem dX0_colour_31 : decode cX0_colour 31 = .ok (.iconst 1, 1) := by decide +kernel
theorem dX0_colour_32 : decode cX0_colour 32 = .ok (.ireturn, 1) := by decide +kernel
abbrev cX0_isState : ByteArray := prog_1_method_5_code
def yX0_isState : MethodName := ⟨RX0, "isState", "(I)Z"⟩
theorem dX0_isState_0 : decode cX0_isState 0 = .ok (.iload_n 1, 1) := by decide +kernel
theorem dX0_isState_1 : decode cX0_isState 1 = .ok (.ifCond .lt 13, 3) := by decide +kernel
theorem dX0_isState_4 : decode cX0_isState 4 = .ok (.iload_n 1, 1) := by decide +kernel
theorem dX0_isState_5 : decode cX0_isState 5 = .ok (.bipush 10, 2) := by decide +kernel
theorem dX0_isState_7 : decode cX0_isState 7 = .ok (.if_icmp .ge 7, 3) := by decide +kernel
theorem dX0_isState_10 : decode cX0_isState 10 = .ok (.iconst 1, 1) := by decide +kernel
theorem dX0_isState_11 : decode cX0_isState 11 = .ok (.goto 4, 3) := by decide +kernel
theorem dX0_isState_14 : decode cX0_isState 14 = .ok (.iconst 0, 1) := by decide +kernel
theorem dX0_isState_15 : decode cX0_isState 15 = .ok (.ireturn, 1) := by decide +kernel
abbrev cX0_change : ByteArray := prog_1_method_4_code
def yX0_change : MethodName := ⟨RX0, "change", "()V"⟩
theorem dX0_change_0 : decode cX0_change 0 = .ok (.aload_n 0, 1) := by decide +kernel
theorem dX0_change_1 : decode cX0_change 1 = .ok (.iconst 0, 1) := by decide +kernel
theorem dX0_change_2 : decode cX0_change 2 = .ok (.putfield 36, 3) := by decide +kernel
theorem dX0_change_5 : decode cX0_change 5 = .ok (.aload_n 0, 1) := by decide +kernel
theorem dX0_change_6 : decode cX0_change 6 = .ok (.iconst 0, 1) := by decide +kernel
theorem dX0_change_7 : decode cX0_change 7 = .ok (.putfield 40, 3) := by decide +kernel
theorem dX0_change_10 : decode cX0_change 10 = .ok (.return_, 1) := by decide +kernel
abbrev cX0_step : ByteArray := prog_1_method_3_code
def yX0_step : MethodName := ⟨RX0, "step", "(IIIZ)Z"⟩
theorem dX0_step_0 : decode cX0_step 0 = .ok (.iload_n 1, 1) := by decide +kernel
theorem dX0_step_1 : decode cX0_step 1 = .ok (.ifCond .lt 24, 3) := by decide +kernel
theorem dX0_step_4 : decode cX0_step 4 = .ok (.iload_n 1, 1) := by decide +kernel
theorem dX0_step_5 : decode cX0_step 5 = .ok (.iconst 1, 1) := by decide +kernel
theorem dX0_step_6 : decode cX0_step 6 = .ok (.if_icmp .gt 19, 3) := by decide +kernel
theorem dX0_step_9 : decode cX0_step 9 = .ok (.aload_n 0, 1) := by decide +kernel
theorem dX0_step_10 : decode cX0_step 10 = .ok (.iload_n 2, 1) := by decide +kernel
theorem dX0_step_11 : decode cX0_step 11 = .ok (.invokevirtual 29, 3) := by decide +kernel
theorem dX0_step_14 : decode cX0_step 14 = .ok (.ifCond .eq 11, 3) := by decide +kernel
theorem dX0_step_17 : decode cX0_step 17 = .ok (.aload_n 0, 1) := by decide +kernel
theorem dX0_step_18 : decode cX0_step 18 = .ok (.iload_n 3, 1) := by decide +kernel
theorem dX0_step_19 : decode cX0_step 19 = .ok (.invokevirtual 29, 3) := by decide +kernel
theorem dX0_step_22 : decode cX0_step 22 = .ok (.ifCond .ne 5, 3) := by decide +kernel
theorem dX0_step_25 : decode cX0_step 25 = .ok (.iconst 0, 1) := by decide +kernel
theorem dX0_step_26 : decode cX0_step 26 = .ok (.ireturn, 1) := by decide +kernel
theorem dX0_step_27 : decode cX0_step 27 = .ok (.iload 4, 2) := by decide +kernel
theorem dX0_step_29 : decode cX0_step 29 = .ok (.ifCond .eq 23, 3) := by decide +kernel
theorem dX0_step_32 : decode cX0_step 32 = .ok (.aload_n 0, 1) := by decide +kernel
theorem dX0_step_33 : decode cX0_step 33 = .ok (.getfield 13, 3) := by decide +kernel
theorem dX0_step_36 : decode cX0_step 36 = .ok (.bipush 10, 2) := by decide +kernel
theorem dX0_step_38 : decode cX0_step 38 = .ok (.iload_n 1, 1) := by decide +kernel
theorem dX0_step_39 : decode cX0_step 39 = .ok (.imul, 1) := by decide +kernel
theorem dX0_step_40 : decode cX0_step 40 = .ok (.iload_n 2, 1) := by decide +kernel
theorem dX0_step_41 : decode cX0_step 41 = .ok (.iadd, 1) := by decide +kernel
theorem dX0_step_42 : decode cX0_step 42 = .ok (.dup2, 1) := by decide +kernel
theorem dX0_step_43 : decode cX0_step 43 = .ok (.iaload, 1) := by decide +kernel
theorem dX0_step_44 : decode cX0_step 44 = .ok (.iconst 1, 1) := by decide +kernel
theorem dX0_step_45 : decode cX0_step 45 = .ok (.iload_n 3, 1) := by decide +kernel
theorem dX0_step_46 : decode cX0_step 46 = .ok (.ishl, 1) := by decide +kernel
theorem dX0_step_47 : decode cX0_step 47 = .ok (.ior, 1) := by decide +kernel
theorem dX0_step_48 : decode cX0_step 48 = .ok (.iastore, 1) := by decide +kernel
theorem dX0_step_49 : decode cX0_step 49 = .ok (.goto 22, 3) := by decide +kernel
theorem dX0_step_52 : decode cX0_step 52 = .ok (.aload_n 0, 1) := by decide +kernel
theorem dX0_step_53 : decode cX0_step 53 = .ok (.getfield 13, 3) := by decide +kernel
theorem dX0_step_56 : decode cX0_step 56 = .ok (.bipush 10, 2) := by decide +kernel
theorem dX0_step_58 : decode cX0_step 58 = .ok (.iload_n 1, 1) := by decide +kernel
theorem dX0_step_59 : decode cX0_step 59 = .ok (.imul, 1) := by decide +kernel
theorem dX0_step_60 : decode cX0_step 60 = .ok (.iload_n 2, 1) := by decide +kernel
theorem dX0_step_61 : decode cX0_step 61 = .ok (.iadd, 1) := by decide +kernel
theorem dX0_step_62 : decode cX0_step 62 = .ok (.dup2, 1) := by decide +kernel
theorem dX0_step_63 : decode cX0_step 63 = .ok (.iaload, 1) := by decide +kernel
theorem dX0_step_64 : decode cX0_step 64 = .ok (.iconst 1, 1) := by decide +kernel
theorem dX0_step_65 : decode cX0_step 65 = .ok (.iload_n 3, 1) := by decide +kernel
theorem dX0_step_66 : decode cX0_step 66 = .ok (.ishl, 1) := by decide +kernel
theorem dX0_step_67 : decode cX0_step 67 = .ok (.iconst (-1), 1) := by decide +kernel
theorem dX0_step_68 : decode cX0_step 68 = .ok (.ixor, 1) := by decide +kernel
theorem dX0_step_69 : decode cX0_step 69 = .ok (.iand, 1) := by decide +kernel
theorem dX0_step_70 : decode cX0_step 70 = .ok (.iastore, 1) := by decide +kernel
theorem dX0_step_71 : decode cX0_step 71 = .ok (.aload_n 0, 1) := by decide +kernel
theorem dX0_step_72 : decode cX0_step 72 = .ok (.invokevirtual 33, 3) := by decide +kernel
theorem dX0_step_75 : decode cX0_step 75 = .ok (.iconst 1, 1) := by decide +kernel
theorem dX0_step_76 : decode cX0_step 76 = .ok (.ireturn, 1) := by decide +kernel
abbrev cX0_alike : ByteArray := prog_1_method_6_code
def yX0_alike : MethodName := ⟨RX0, "alike", "(II)Z"⟩
theorem dX0_alike_0 : decode cX0_alike 0 = .ok (.aload_n 0, 1) := by decide +kernel
theorem dX0_alike_1 : decode cX0_alike 1 = .ok (.iload_n 1, 1) := by decide +kernel
theorem dX0_alike_2 : decode cX0_alike 2 = .ok (.invokevirtual 29, 3) := by decide +kernel
theorem dX0_alike_5 : decode cX0_alike 5 = .ok (.ifCond .eq 11, 3) := by decide +kernel
theorem dX0_alike_8 : decode cX0_alike 8 = .ok (.aload_n 0, 1) := by decide +kernel
theorem dX0_alike_9 : decode cX0_alike 9 = .ok (.iload_n 2, 1) := by decide +kernel
theorem dX0_alike_10 : decode cX0_alike 10 = .ok (.invokevirtual 29, 3) := by decide +kernel
theorem dX0_alike_13 : decode cX0_alike 13 = .ok (.ifCond .ne 5, 3) := by decide +kernel
theorem dX0_alike_16 : decode cX0_alike 16 = .ok (.iconst 0, 1) := by decide +kernel
theorem dX0_alike_17 : decode cX0_alike 17 = .ok (.ireturn, 1) := by decide +kernel
theorem dX0_alike_18 : decode cX0_alike 18 = .ok (.aload_n 0, 1) := by decide +kernel
theorem dX0_alike_19 : decode cX0_alike 19 = .ok (.invokevirtual 43, 3) := by decide +kernel
theorem dX0_alike_22 : decode cX0_alike 22 = .ok (.aload_n 0, 1) := by decide +kernel
theorem dX0_alike_23 : decode cX0_alike 23 = .ok (.getfield 23, 3) := by decide +kernel
theorem dX0_alike_26 : decode cX0_alike 26 = .ok (.iload_n 1, 1) := by decide +kernel
theorem dX0_alike_27 : decode cX0_alike 27 = .ok (.baload, 1) := by decide +kernel
theorem dX0_alike_28 : decode cX0_alike 28 = .ok (.aload_n 0, 1) := by decide +kernel
theorem dX0_alike_29 : decode cX0_alike 29 = .ok (.getfield 23, 3) := by decide +kernel
theorem dX0_alike_32 : decode cX0_alike 32 = .ok (.iload_n 2, 1) := by decide +kernel
theorem dX0_alike_33 : decode cX0_alike 33 = .ok (.baload, 1) := by decide +kernel
theorem dX0_alike_34 : decode cX0_alike 34 = .ok (.if_icmp .ne 7, 3) := by decide +kernel
theorem dX0_alike_37 : decode cX0_alike 37 = .ok (.iconst 1, 1) := by decide +kernel
theorem dX0_alike_38 : decode cX0_alike 38 = .ok (.goto 4, 3) := by decide +kernel
theorem dX0_alike_41 : decode cX0_alike 41 = .ok (.iconst 0, 1) := by decide +kernel
theorem dX0_alike_42 : decode cX0_alike 42 = .ok (.ireturn, 1) := by decide +kernel
abbrev cX0_settle : ByteArray := prog_1_method_18_code
def yX0_settle : MethodName := ⟨RX0, "settle", "()V"⟩
theorem dX0_settle_0 : decode cX0_settle 0 = .ok (.aload_n 0, 1) := by decide +kernel
theorem dX0_settle_1 : decode cX0_settle 1 = .ok (.getfield 36, 3) := by decide +kernel
theorem dX0_settle_4 : decode cX0_settle 4 = .ok (.ifCond .eq 4, 3) := by decide +kernel
theorem dX0_settle_7 : decode cX0_settle 7 = .ok (.return_, 1) := by decide +kernel
theorem dX0_settle_8 : decode cX0_settle 8 = .ok (.aload_n 0, 1) := by decide +kernel
theorem dX0_settle_9 : decode cX0_settle 9 = .ok (.iconst 1, 1) := by decide +kernel
theorem dX0_settle_10 : decode cX0_settle 10 = .ok (.putfield 36, 3) := by decide +kernel
theorem dX0_settle_13 : decode cX0_settle 13 = .ok (.aload_n 0, 1) := by decide +kernel
theorem dX0_settle_14 : decode cX0_settle 14 = .ok (.iconst 0, 1) := by decide +kernel
theorem dX0_settle_15 : decode cX0_settle 15 = .ok (.putfield 46, 3) := by decide +kernel
theorem dX0_settle_18 : decode cX0_settle 18 = .ok (.aload_n 0, 1) := by decide +kernel
theorem dX0_settle_19 : decode cX0_settle 19 = .ok (.iconst 0, 1) := by decide +kernel
theorem dX0_settle_20 : decode cX0_settle 20 = .ok (.putfield 63, 3) := by decide +kernel
theorem dX0_settle_23 : decode cX0_settle 23 = .ok (.iconst 0, 1) := by decide +kernel
theorem dX0_settle_24 : decode cX0_settle 24 = .ok (.istore_n 1, 1) := by decide +kernel
theorem dX0_settle_25 : decode cX0_settle 25 = .ok (.iload_n 1, 1) := by decide +kernel
theorem dX0_settle_26 : decode cX0_settle 26 = .ok (.iconst 4, 1) := by decide +kernel
theorem dX0_settle_27 : decode cX0_settle 27 = .ok (.if_icmp .ge 73, 3) := by decide +kernel
theorem dX0_settle_30 : decode cX0_settle 30 = .ok (.iconst 0, 1) := by decide +kernel
theorem dX0_settle_31 : decode cX0_settle 31 = .ok (.istore_n 2, 1) := by decide +kernel
theorem dX0_settle_32 : decode cX0_settle 32 = .ok (.iconst 0, 1) := by decide +kernel
theorem dX0_settle_33 : decode cX0_settle 33 = .ok (.istore_n 3, 1) := by decide +kernel
theorem dX0_settle_34 : decode cX0_settle 34 = .ok (.iload_n 3, 1) := by decide +kernel
theorem dX0_settle_35 : decode cX0_settle 35 = .ok (.bipush 10, 2) := by decide +kernel
theorem dX0_settle_37 : decode cX0_settle 37 = .ok (.if_icmp .ge 25, 3) := by decide +kernel
theorem dX0_settle_40 : decode cX0_settle 40 = .ok (.aload_n 0, 1) := by decide +kernel
theorem dX0_settle_41 : decode cX0_settle 41 = .ok (.getfield 7, 3) := by decide +kernel
theorem dX0_settle_44 : decode cX0_settle 44 = .ok (.iload_n 3, 1) := by decide +kernel
theorem dX0_settle_45 : decode cX0_settle 45 = .ok (.baload, 1) := by decide +kernel
theorem dX0_settle_46 : decode cX0_settle 46 = .ok (.iload_n 1, 1) := by decide +kernel
theorem dX0_settle_47 : decode cX0_settle 47 = .ok (.if_icmp .ne 9, 3) := by decide +kernel
theorem dX0_settle_50 : decode cX0_settle 50 = .ok (.iload_n 2, 1) := by decide +kernel
theorem dX0_settle_51 : decode cX0_settle 51 = .ok (.iconst 1, 1) := by decide +kernel
theorem dX0_settle_52 : decode cX0_settle 52 = .ok (.iload_n 3, 1) := by decide +kernel
theorem dX0_settle_53 : decode cX0_settle 53 = .ok (.ishl, 1) := by decide +kernel
theorem dX0_settle_54 : decode cX0_settle 54 = .ok (.ior, 1) := by decide +kernel
theorem dX0_settle_55 : decode cX0_settle 55 = .ok (.istore_n 2, 1) := by decide +kernel
theorem dX0_settle_56 : decode cX0_settle 56 = .ok (.iinc 3 1, 3) := by decide +kernel
theorem dX0_settle_59 : decode cX0_settle 59 = .ok (.goto (-25), 3) := by decide +kernel
theorem dX0_settle_62 : decode cX0_settle 62 = .ok (.iload_n 2, 1) := by decide +kernel
theorem dX0_settle_63 : decode cX0_settle 63 = .ok (.ifCond .ne 6, 3) := by decide +kernel
theorem dX0_settle_66 : decode cX0_settle 66 = .ok (.goto 28, 3) := by decide +kernel
theorem dX0_settle_69 : decode cX0_settle 69 = .ok (.aload_n 0, 1) := by decide +kernel
theorem dX0_settle_70 : decode cX0_settle 70 = .ok (.getfield 17, 3) := by decide +kernel
theorem dX0_settle_73 : decode cX0_settle 73 = .ok (.aload_n 0, 1) := by decide +kernel
theorem dX0_settle_74 : decode cX0_settle 74 = .ok (.getfield 46, 3) := by decide +kernel
theorem dX0_settle_77 : decode cX0_settle 77 = .ok (.iload_n 2, 1) := by decide +kernel
theorem dX0_settle_78 : decode cX0_settle 78 = .ok (.iastore, 1) := by decide +kernel
theorem dX0_settle_79 : decode cX0_settle 79 = .ok (.aload_n 0, 1) := by decide +kernel
theorem dX0_settle_80 : decode cX0_settle 80 = .ok (.dup, 1) := by decide +kernel
theorem dX0_settle_81 : decode cX0_settle 81 = .ok (.getfield 46, 3) := by decide +kernel
theorem dX0_settle_84 : decode cX0_settle 84 = .ok (.iconst 1, 1) := by decide +kernel
theorem dX0_settle_85 : decode cX0_settle 85 = .ok (.iadd, 1) := by decide +kernel
theorem dX0_settle_86 : decode cX0_settle 86 = .ok (.putfield 46, 3) := by decide +kernel
theorem dX0_settle_89 : decode cX0_settle 89 = .ok (.aload_n 0, 1) := by decide +kernel
theorem dX0_settle_90 : decode cX0_settle 90 = .ok (.iload_n 2, 1) := by decide +kernel
theorem dX0_settle_91 : decode cX0_settle 91 = .ok (.invokevirtual 66, 3) := by decide +kernel
theorem dX0_settle_94 : decode cX0_settle 94 = .ok (.iinc 1 1, 3) := by decide +kernel
theorem dX0_settle_97 : decode cX0_settle 97 = .ok (.goto (-72), 3) := by decide +kernel
theorem dX0_settle_100 : decode cX0_settle 100 = .ok (.aload_n 0, 1) := by decide +kernel
theorem dX0_settle_101 : decode cX0_settle 101 = .ok (.getfield 63, 3) := by decide +kernel
theorem dX0_settle_104 : decode cX0_settle 104 = .ok (.ifCond .le 38, 3) := by decide +kernel
theorem dX0_settle_107 : decode cX0_settle 107 = .ok (.aload_n 0, 1) := by decide +kernel
theorem dX0_settle_108 : decode cX0_settle 108 = .ok (.dup, 1) := by decide +kernel
theorem dX0_settle_109 : decode cX0_settle 109 = .ok (.getfield 63, 3) := by decide +kernel
theorem dX0_settle_112 : decode cX0_settle 112 = .ok (.iconst 1, 1) := by decide +kernel
theorem dX0_settle_113 : decode cX0_settle 113 = .ok (.isub, 1) := by decide +kernel
theorem dX0_settle_114 : decode cX0_settle 114 = .ok (.putfield 63, 3) := by decide +kernel
theorem dX0_settle_117 : decode cX0_settle 117 = .ok (.aload_n 0, 1) := by decide +kernel
theorem dX0_settle_118 : decode cX0_settle 118 = .ok (.getfield 20, 3) := by decide +kernel
theorem dX0_settle_121 : decode cX0_settle 121 = .ok (.aload_n 0, 1) := by decide +kernel
theorem dX0_settle_122 : decode cX0_settle 122 = .ok (.getfield 63, 3) := by decide +kernel
theorem dX0_settle_125 : decode cX0_settle 125 = .ok (.iaload, 1) := by decide +kernel
theorem dX0_settle_126 : decode cX0_settle 126 = .ok (.istore_n 1, 1) := by decide +kernel
theorem dX0_settle_127 : decode cX0_settle 127 = .ok (.aload_n 0, 1) := by decide +kernel
theorem dX0_settle_128 : decode cX0_settle 128 = .ok (.iload_n 1, 1) := by decide +kernel
theorem dX0_settle_129 : decode cX0_settle 129 = .ok (.iconst 0, 1) := by decide +kernel
theorem dX0_settle_130 : decode cX0_settle 130 = .ok (.invokevirtual 70, 3) := by decide +kernel
theorem dX0_settle_133 : decode cX0_settle 133 = .ok (.aload_n 0, 1) := by decide +kernel
theorem dX0_settle_134 : decode cX0_settle 134 = .ok (.iload_n 1, 1) := by decide +kernel
theorem dX0_settle_135 : decode cX0_settle 135 = .ok (.iconst 1, 1) := by decide +kernel
theorem dX0_settle_136 : decode cX0_settle 136 = .ok (.invokevirtual 70, 3) := by decide +kernel
theorem dX0_settle_139 : decode cX0_settle 139 = .ok (.goto (-39), 3) := by decide +kernel
theorem dX0_settle_142 : decode cX0_settle 142 = .ok (.iconst 0, 1) := by decide +kernel
theorem dX0_settle_143 : decode cX0_settle 143 = .ok (.istore_n 1, 1) := by decide +kernel
theorem dX0_settle_144 : decode cX0_settle 144 = .ok (.iload_n 1, 1) := by decide +kernel
theorem dX0_settle_145 : decode cX0_settle 145 = .ok (.bipush 10, 2) := by decide +kernel
theorem dX0_settle_147 : decode cX0_settle 147 = .ok (.if_icmp .ge 14, 3) := by decide +kernel
theorem dX0_settle_150 : decode cX0_settle 150 = .ok (.aload_n 0, 1) := by decide +kernel
theorem dX0_settle_151 : decode cX0_settle 151 = .ok (.iload_n 1, 1) := by decide +kernel
theorem dX0_settle_152 : decode cX0_settle 152 = .ok (.invokevirtual 74, 3) := by decide +kernel
theorem dX0_settle_155 : decode cX0_settle 155 = .ok (.iinc 1 1, 3) := by decide +kernel
theorem dX0_settle_158 : decode cX0_settle 158 = .ok (.goto (-14), 3) := by decide +kernel
theorem dX0_settle_161 : decode cX0_settle 161 = .ok (.return_, 1) := by decide +kernel
abbrev cX0_enqueue : ByteArray := prog_1_method_17_code
def yX0_enqueue : MethodName := ⟨RX0, "enqueue", "(I)V"⟩
theorem dX0_enqueue_0 : decode cX0_enqueue 0 = .ok (.aload_n 0, 1) := by decide +kernel
theorem dX0_enqueue_1 : decode cX0_enqueue 1 = .ok (.getfield 20, 3) := by decide +kernel
theorem dX0_enqueue_4 : decode cX0_enqueue 4 = .ok (.aload_n 0, 1) := by decide +kernel
theorem dX0_enqueue_5 : decode cX0_enqueue 5 = .ok (.getfield 63, 3) := by decide +kernel
theorem dX0_enqueue_8 : decode cX0_enqueue 8 = .ok (.iload_n 1, 1) := by decide +kernel
theorem dX0_enqueue_9 : decode cX0_enqueue 9 = .ok (.iastore, 1) := by decide +kernel
theorem dX0_enqueue_10 : decode cX0_enqueue 10 = .ok (.aload_n 0, 1) := by decide +kernel
theorem dX0_enqueue_11 : decode cX0_enqueue 11 = .ok (.dup, 1) := by decide +kernel
theorem dX0_enqueue_12 : decode cX0_enqueue 12 = .ok (.getfield 63, 3) := by decide +kernel
theorem dX0_enqueue_15 : decode cX0_enqueue 15 = .ok (.iconst 1, 1) := by decide +kernel
theorem dX0_enqueue_16 : decode cX0_enqueue 16 = .ok (.iadd, 1) := by decide +kernel
theorem dX0_enqueue_17 : decode cX0_enqueue 17 = .ok (.putfield 63, 3) := by decide +kernel
theorem dX0_enqueue_20 : decode cX0_enqueue 20 = .ok (.return_, 1) := by decide +kernel
end
section
set_option maxRecDepth 100000
abbrev cX0_splitAll : ByteArray := prog_1_method_20_code
def yX0_splitAll : MethodName := ⟨RX0, "splitAll", "(II)V"⟩
theorem dX0_splitAll_0 : decode cX0_splitAll 0 = .ok (.aload_n 0, 1) := by decide +kernel
theorem dX0_splitAll_1 : decode cX0_splitAll 1 = .ok (.iload_n 1, 1) := by decide +kernel
theorem dX0_splitAll_2 : decode cX0_splitAll 2 = .ok (.iload_n 2, 1) := by decide +kernel
theorem dX0_splitAll_3 : decode cX0_splitAll 3 = .ok (.invokevirtual 77, 3) := by decide +kernel
theorem dX0_splitAll_6 : decode cX0_splitAll 6 = .ok (.istore_n 3, 1) := by decide +kernel
theorem dX0_splitAll_7 : decode cX0_splitAll 7 = .ok (.aload_n 0, 1) := by decide +kernel
theorem dX0_splitAll_8 : decode cX0_splitAll 8 = .ok (.getfield 46, 3) := by decide +kernel
theorem dX0_splitAll_11 : decode cX0_splitAll 11 = .ok (.istore 4, 2) := by decide +kernel
theorem dX0_splitAll_13 : decode cX0_splitAll 13 = .ok (.iconst 0, 1) := by decide +kernel
theorem dX0_splitAll_14 : decode cX0_splitAll 14 = .ok (.istore 5, 2) := by decide +kernel
theorem dX0_splitAll_16 : decode cX0_splitAll 16 = .ok (.iload 5, 2) := by decide +kernel
theorem dX0_splitAll_18 : decode cX0_splitAll 18 = .ok (.iload 4, 2) := by decide +kernel
theorem dX0_splitAll_20 : decode cX0_splitAll 20 = .ok (.if_icmp .ge 88, 3) := by decide +kernel
theorem dX0_splitAll_23 : decode cX0_splitAll 23 = .ok (.aload_n 0, 1) := by decide +kernel
theorem dX0_splitAll_24 : decode cX0_splitAll 24 = .ok (.getfield 17, 3) := by decide +kernel
theorem dX0_splitAll_27 : decode cX0_splitAll 27 = .ok (.iload 5, 2) := by decide +kernel
theorem dX0_splitAll_29 : decode cX0_splitAll 29 = .ok (.iaload, 1) := by decide +kernel
theorem dX0_splitAll_30 : decode cX0_splitAll 30 = .ok (.iload_n 3, 1) := by decide +kernel
theorem dX0_splitAll_31 : decode cX0_splitAll 31 = .ok (.iand, 1) := by decide +kernel
theorem dX0_splitAll_32 : decode cX0_splitAll 32 = .ok (.istore 6, 2) := by decide +kernel
theorem dX0_splitAll_34 : decode cX0_splitAll 34 = .ok (.aload_n 0, 1) := by decide +kernel
theorem dX0_splitAll_35 : decode cX0_splitAll 35 = .ok (.getfield 17, 3) := by decide +kernel
theorem dX0_splitAll_38 : decode cX0_splitAll 38 = .ok (.iload 5, 2) := by decide +kernel
theorem dX0_splitAll_40 : decode cX0_splitAll 40 = .ok (.iaload, 1) := by decide +kernel
theorem dX0_splitAll_41 : decode cX0_splitAll 41 = .ok (.iload_n 3, 1) := by decide +kernel
theorem dX0_splitAll_42 : decode cX0_splitAll 42 = .ok (.iconst (-1), 1) := by decide +kernel
theorem dX0_splitAll_43 : decode cX0_splitAll 43 = .ok (.ixor, 1) := by decide +kernel
theorem dX0_splitAll_44 : decode cX0_splitAll 44 = .ok (.iand, 1) := by decide +kernel
theorem dX0_splitAll_45 : decode cX0_splitAll 45 = .ok (.istore 7, 2) := by decide +kernel
theorem dX0_splitAll_47 : decode cX0_splitAll 47 = .ok (.iload 6, 2) := by decide +kernel
theorem dX0_splitAll_49 : decode cX0_splitAll 49 = .ok (.ifCond .eq 53, 3) := by decide +kernel
theorem dX0_splitAll_52 : decode cX0_splitAll 52 = .ok (.iload 7, 2) := by decide +kernel
theorem dX0_splitAll_54 : decode cX0_splitAll 54 = .ok (.ifCond .ne 6, 3) := by decide +kernel
theorem dX0_splitAll_57 : decode cX0_splitAll 57 = .ok (.goto 45, 3) := by decide +kernel
theorem dX0_splitAll_60 : decode cX0_splitAll 60 = .ok (.aload_n 0, 1) := by decide +kernel
theorem dX0_splitAll_61 : decode cX0_splitAll 61 = .ok (.getfield 17, 3) := by decide +kernel
theorem dX0_splitAll_64 : decode cX0_splitAll 64 = .ok (.iload 5, 2) := by decide +kernel
theorem dX0_splitAll_66 : decode cX0_splitAll 66 = .ok (.iload 6, 2) := by decide +kernel
theorem dX0_splitAll_68 : decode cX0_splitAll 68 = .ok (.iastore, 1) := by decide +kernel
theorem dX0_splitAll_69 : decode cX0_splitAll 69 = .ok (.aload_n 0, 1) := by decide +kernel
theorem dX0_splitAll_70 : decode cX0_splitAll 70 = .ok (.getfield 17, 3) := by decide +kernel
theorem dX0_splitAll_73 : decode cX0_splitAll 73 = .ok (.aload_n 0, 1) := by decide +kernel
theorem dX0_splitAll_74 : decode cX0_splitAll 74 = .ok (.getfield 46, 3) := by decide +kernel
theorem dX0_splitAll_77 : decode cX0_splitAll 77 = .ok (.iload 7, 2) := by decide +kernel
theorem dX0_splitAll_79 : decode cX0_splitAll 79 = .ok (.iastore, 1) := by decide +kernel
theorem dX0_splitAll_80 : decode cX0_splitAll 80 = .ok (.aload_n 0, 1) := by decide +kernel
theorem dX0_splitAll_81 : decode cX0_splitAll 81 = .ok (.dup, 1) := by decide +kernel
theorem dX0_splitAll_82 : decode cX0_splitAll 82 = .ok (.getfield 46, 3) := by decide +kernel
theorem dX0_splitAll_85 : decode cX0_splitAll 85 = .ok (.iconst 1, 1) := by decide +kernel
theorem dX0_splitAll_86 : decode cX0_splitAll 86 = .ok (.iadd, 1) := by decide +kernel
theorem dX0_splitAll_87 : decode cX0_splitAll 87 = .ok (.putfield 46, 3) := by decide +kernel
theorem dX0_splitAll_90 : decode cX0_splitAll 90 = .ok (.aload_n 0, 1) := by decide +kernel
theorem dX0_splitAll_91 : decode cX0_splitAll 91 = .ok (.iload 6, 2) := by decide +kernel
theorem dX0_splitAll_93 : decode cX0_splitAll 93 = .ok (.invokevirtual 66, 3) := by decide +kernel
theorem dX0_splitAll_96 : decode cX0_splitAll 96 = .ok (.aload_n 0, 1) := by decide +kernel
theorem dX0_splitAll_97 : decode cX0_splitAll 97 = .ok (.iload 7, 2) := by decide +kernel
theorem dX0_splitAll_99 : decode cX0_splitAll 99 = .ok (.invokevirtual 66, 3) := by decide +kernel
theorem dX0_splitAll_102 : decode cX0_splitAll 102 = .ok (.iinc 5 1, 3) := by decide +kernel
theorem dX0_splitAll_105 : decode cX0_splitAll 105 = .ok (.goto (-89), 3) := by decide +kernel
theorem dX0_splitAll_108 : decode cX0_splitAll 108 = .ok (.return_, 1) := by decide +kernel
abbrev cX0_sourcesOf : ByteArray := prog_1_method_19_code
def yX0_sourcesOf : MethodName := ⟨RX0, "sourcesOf", "(II)I"⟩
theorem dX0_sourcesOf_0 : decode cX0_sourcesOf 0 = .ok (.iconst 0, 1) := by decide +kernel
theorem dX0_sourcesOf_1 : decode cX0_sourcesOf 1 = .ok (.istore_n 3, 1) := by decide +kernel
theorem dX0_sourcesOf_2 : decode cX0_sourcesOf 2 = .ok (.iconst 0, 1) := by decide +kernel
theorem dX0_sourcesOf_3 : decode cX0_sourcesOf 3 = .ok (.istore 4, 2) := by decide +kernel
theorem dX0_sourcesOf_5 : decode cX0_sourcesOf 5 = .ok (.iload 4, 2) := by decide +kernel
theorem dX0_sourcesOf_7 : decode cX0_sourcesOf 7 = .ok (.bipush 10, 2) := by decide +kernel
theorem dX0_sourcesOf_9 : decode cX0_sourcesOf 9 = .ok (.if_icmp .ge 33, 3) := by decide +kernel
theorem dX0_sourcesOf_12 : decode cX0_sourcesOf 12 = .ok (.aload_n 0, 1) := by decide +kernel
theorem dX0_sourcesOf_13 : decode cX0_sourcesOf 13 = .ok (.getfield 13, 3) := by decide +kernel
theorem dX0_sourcesOf_16 : decode cX0_sourcesOf 16 = .ok (.bipush 10, 2) := by decide +kernel
theorem dX0_sourcesOf_18 : decode cX0_sourcesOf 18 = .ok (.iload_n 2, 1) := by decide +kernel
theorem dX0_sourcesOf_19 : decode cX0_sourcesOf 19 = .ok (.imul, 1) := by decide +kernel
theorem dX0_sourcesOf_20 : decode cX0_sourcesOf 20 = .ok (.iload 4, 2) := by decide +kernel
theorem dX0_sourcesOf_22 : decode cX0_sourcesOf 22 = .ok (.iadd, 1) := by decide +kernel
theorem dX0_sourcesOf_23 : decode cX0_sourcesOf 23 = .ok (.iaload, 1) := by decide +kernel
theorem dX0_sourcesOf_24 : decode cX0_sourcesOf 24 = .ok (.iload_n 1, 1) := by decide +kernel
theorem dX0_sourcesOf_25 : decode cX0_sourcesOf 25 = .ok (.iand, 1) := by decide +kernel
theorem dX0_sourcesOf_26 : decode cX0_sourcesOf 26 = .ok (.ifCond .eq 10, 3) := by decide +kernel
theorem dX0_sourcesOf_29 : decode cX0_sourcesOf 29 = .ok (.iload_n 3, 1) := by decide +kernel
theorem dX0_sourcesOf_30 : decode cX0_sourcesOf 30 = .ok (.iconst 1, 1) := by decide +kernel
theorem dX0_sourcesOf_31 : decode cX0_sourcesOf 31 = .ok (.iload 4, 2) := by decide +kernel
theorem dX0_sourcesOf_33 : decode cX0_sourcesOf 33 = .ok (.ishl, 1) := by decide +kernel
theorem dX0_sourcesOf_34 : decode cX0_sourcesOf 34 = .ok (.ior, 1) := by decide +kernel
theorem dX0_sourcesOf_35 : decode cX0_sourcesOf 35 = .ok (.istore_n 3, 1) := by decide +kernel
theorem dX0_sourcesOf_36 : decode cX0_sourcesOf 36 = .ok (.iinc 4 1, 3) := by decide +kernel
theorem dX0_sourcesOf_39 : decode cX0_sourcesOf 39 = .ok (.goto (-34), 3) := by decide +kernel
theorem dX0_sourcesOf_42 : decode cX0_sourcesOf 42 = .ok (.iload_n 3, 1) := by decide +kernel
theorem dX0_sourcesOf_43 : decode cX0_sourcesOf 43 = .ok (.ireturn, 1) := by decide +kernel
abbrev cX0_findLeader : ByteArray := prog_1_method_21_code
def yX0_findLeader : MethodName := ⟨RX0, "findLeader", "(I)V"⟩
theorem dX0_findLeader_0 : decode cX0_findLeader 0 = .ok (.iconst 0, 1) := by decide +kernel
theorem dX0_findLeader_1 : decode cX0_findLeader 1 = .ok (.istore_n 2, 1) := by decide +kernel
theorem dX0_findLeader_2 : decode cX0_findLeader 2 = .ok (.iload_n 2, 1) := by decide +kernel
theorem dX0_findLeader_3 : decode cX0_findLeader 3 = .ok (.aload_n 0, 1) := by decide +kernel
theorem dX0_findLeader_4 : decode cX0_findLeader 4 = .ok (.getfield 46, 3) := by decide +kernel
theorem dX0_findLeader_7 : decode cX0_findLeader 7 = .ok (.if_icmp .ge 54, 3) := by decide +kernel
theorem dX0_findLeader_10 : decode cX0_findLeader 10 = .ok (.aload_n 0, 1) := by decide +kernel
theorem dX0_findLeader_11 : decode cX0_findLeader 11 = .ok (.getfield 17, 3) := by decide +kernel
theorem dX0_findLeader_14 : decode cX0_findLeader 14 = .ok (.iload_n 2, 1) := by decide +kernel
theorem dX0_findLeader_15 : decode cX0_findLeader 15 = .ok (.iaload, 1) := by decide +kernel
theorem dX0_findLeader_16 : decode cX0_findLeader 16 = .ok (.iload_n 1, 1) := by decide +kernel
theorem dX0_findLeader_17 : decode cX0_findLeader 17 = .ok (.ishr, 1) := by decide +kernel
theorem dX0_findLeader_18 : decode cX0_findLeader 18 = .ok (.iconst 1, 1) := by decide +kernel
theorem dX0_findLeader_19 : decode cX0_findLeader 19 = .ok (.iand, 1) := by decide +kernel
theorem dX0_findLeader_20 : decode cX0_findLeader 20 = .ok (.ifCond .ne 6, 3) := by decide +kernel
theorem dX0_findLeader_23 : decode cX0_findLeader 23 = .ok (.goto 32, 3) := by decide +kernel
theorem dX0_findLeader_26 : decode cX0_findLeader 26 = .ok (.iconst 0, 1) := by decide +kernel
theorem dX0_findLeader_27 : decode cX0_findLeader 27 = .ok (.istore_n 3, 1) := by decide +kernel
theorem dX0_findLeader_28 : decode cX0_findLeader 28 = .ok (.aload_n 0, 1) := by decide +kernel
theorem dX0_findLeader_29 : decode cX0_findLeader 29 = .ok (.getfield 17, 3) := by decide +kernel
theorem dX0_findLeader_32 : decode cX0_findLeader 32 = .ok (.iload_n 2, 1) := by decide +kernel
theorem dX0_findLeader_33 : decode cX0_findLeader 33 = .ok (.iaload, 1) := by decide +kernel
theorem dX0_findLeader_34 : decode cX0_findLeader 34 = .ok (.iload_n 3, 1) := by decide +kernel
theorem dX0_findLeader_35 : decode cX0_findLeader 35 = .ok (.ishr, 1) := by decide +kernel
theorem dX0_findLeader_36 : decode cX0_findLeader 36 = .ok (.iconst 1, 1) := by decide +kernel
theorem dX0_findLeader_37 : decode cX0_findLeader 37 = .ok (.iand, 1) := by decide +kernel
theorem dX0_findLeader_38 : decode cX0_findLeader 38 = .ok (.ifCond .ne 9, 3) := by decide +kernel
theorem dX0_findLeader_41 : decode cX0_findLeader 41 = .ok (.iinc 3 1, 3) := by decide +kernel
theorem dX0_findLeader_44 : decode cX0_findLeader 44 = .ok (.goto (-16), 3) := by decide +kernel
theorem dX0_findLeader_47 : decode cX0_findLeader 47 = .ok (.aload_n 0, 1) := by decide +kernel
theorem dX0_findLeader_48 : decode cX0_findLeader 48 = .ok (.getfield 23, 3) := by decide +kernel
theorem dX0_findLeader_51 : decode cX0_findLeader 51 = .ok (.iload_n 1, 1) := by decide +kernel
theorem dX0_findLeader_52 : decode cX0_findLeader 52 = .ok (.iload_n 3, 1) := by decide +kernel
theorem dX0_findLeader_53 : decode cX0_findLeader 53 = .ok (.i2b, 1) := by decide +kernel
theorem dX0_findLeader_54 : decode cX0_findLeader 54 = .ok (.bastore, 1) := by decide +kernel
theorem dX0_findLeader_55 : decode cX0_findLeader 55 = .ok (.iinc 2 1, 3) := by decide +kernel
theorem dX0_findLeader_58 : decode cX0_findLeader 58 = .ok (.goto (-56), 3) := by decide +kernel
theorem dX0_findLeader_61 : decode cX0_findLeader 61 = .ok (.return_, 1) := by decide +kernel
abbrev cX0_classes : ByteArray := prog_1_method_7_code
def yX0_classes : MethodName := ⟨RX0, "classes", "()I"⟩
theorem dX0_classes_0 : decode cX0_classes 0 = .ok (.aload_n 0, 1) := by decide +kernel
theorem dX0_classes_1 : decode cX0_classes 1 = .ok (.invokevirtual 43, 3) := by decide +kernel
theorem dX0_classes_4 : decode cX0_classes 4 = .ok (.aload_n 0, 1) := by decide +kernel
theorem dX0_classes_5 : decode cX0_classes 5 = .ok (.getfield 46, 3) := by decide +kernel
theorem dX0_classes_8 : decode cX0_classes 8 = .ok (.ireturn, 1) := by decide +kernel
abbrev cX0_leader : ByteArray := prog_1_method_8_code
def yX0_leader : MethodName := ⟨RX0, "leader", "(I)I"⟩
theorem dX0_leader_0 : decode cX0_leader 0 = .ok (.aload_n 0, 1) := by decide +kernel
theorem dX0_leader_1 : decode cX0_leader 1 = .ok (.iload_n 1, 1) := by decide +kernel
theorem dX0_leader_2 : decode cX0_leader 2 = .ok (.invokevirtual 29, 3) := by decide +kernel
theorem dX0_leader_5 : decode cX0_leader 5 = .ok (.ifCond .ne 5, 3) := by decide +kernel
theorem dX0_leader_8 : decode cX0_leader 8 = .ok (.iconst (-1), 1) := by decide +kernel
theorem dX0_leader_9 : decode cX0_leader 9 = .ok (.ireturn, 1) := by decide +kernel
theorem dX0_leader_10 : decode cX0_leader 10 = .ok (.aload_n 0, 1) := by decide +kernel
theorem dX0_leader_11 : decode cX0_leader 11 = .ok (.invokevirtual 43, 3) := by decide +kernel
theorem dX0_leader_14 : decode cX0_leader 14 = .ok (.aload_n 0, 1) := by decide +kernel
theorem dX0_leader_15 : decode cX0_leader 15 = .ok (.getfield 23, 3) := by decide +kernel
theorem dX0_leader_18 : decode cX0_leader 18 = .ok (.iload_n 1, 1) := by decide +kernel
theorem dX0_leader_19 : decode cX0_leader 19 = .ok (.baload, 1) := by decide +kernel
theorem dX0_leader_20 : decode cX0_leader 20 = .ok (.ireturn, 1) := by decide +kernel
abbrev cX0_members : ByteArray := prog_1_method_9_code
def yX0_members : MethodName := ⟨RX0, "members", "(I)I"⟩
theorem dX0_members_0 : decode cX0_members 0 = .ok (.aload_n 0, 1) := by decide +kernel
theorem dX0_members_1 : decode cX0_members 1 = .ok (.iload_n 1, 1) := by decide +kernel
theorem dX0_members_2 : decode cX0_members 2 = .ok (.invokevirtual 29, 3) := by decide +kernel
theorem dX0_members_5 : decode cX0_members 5 = .ok (.ifCond .ne 5, 3) := by decide +kernel
theorem dX0_members_8 : decode cX0_members 8 = .ok (.iconst (-1), 1) := by decide +kernel
theorem dX0_members_9 : decode cX0_members 9 = .ok (.ireturn, 1) := by decide +kernel
theorem dX0_members_10 : decode cX0_members 10 = .ok (.aload_n 0, 1) := by decide +kernel
theorem dX0_members_11 : decode cX0_members 11 = .ok (.invokevirtual 43, 3) := by decide +kernel
theorem dX0_members_14 : decode cX0_members 14 = .ok (.iconst 0, 1) := by decide +kernel
theorem dX0_members_15 : decode cX0_members 15 = .ok (.istore_n 2, 1) := by decide +kernel
theorem dX0_members_16 : decode cX0_members 16 = .ok (.iconst 0, 1) := by decide +kernel
theorem dX0_members_17 : decode cX0_members 17 = .ok (.istore_n 3, 1) := by decide +kernel
theorem dX0_members_18 : decode cX0_members 18 = .ok (.iload_n 3, 1) := by decide +kernel
theorem dX0_members_19 : decode cX0_members 19 = .ok (.bipush 10, 2) := by decide +kernel
theorem dX0_members_21 : decode cX0_members 21 = .ok (.if_icmp .ge 30, 3) := by decide +kernel
theorem dX0_members_24 : decode cX0_members 24 = .ok (.aload_n 0, 1) := by decide +kernel
theorem dX0_members_25 : decode cX0_members 25 = .ok (.getfield 23, 3) := by decide +kernel
theorem dX0_members_28 : decode cX0_members 28 = .ok (.iload_n 3, 1) := by decide +kernel
theorem dX0_members_29 : decode cX0_members 29 = .ok (.baload, 1) := by decide +kernel
theorem dX0_members_30 : decode cX0_members 30 = .ok (.aload_n 0, 1) := by decide +kernel
theorem dX0_members_31 : decode cX0_members 31 = .ok (.getfield 23, 3) := by decide +kernel
theorem dX0_members_34 : decode cX0_members 34 = .ok (.iload_n 1, 1) := by decide +kernel
theorem dX0_members_35 : decode cX0_members 35 = .ok (.baload, 1) := by decide +kernel
theorem dX0_members_36 : decode cX0_members 36 = .ok (.if_icmp .ne 9, 3) := by decide +kernel
theorem dX0_members_39 : decode cX0_members 39 = .ok (.iload_n 2, 1) := by decide +kernel
theorem dX0_members_40 : decode cX0_members 40 = .ok (.iconst 1, 1) := by decide +kernel
theorem dX0_members_41 : decode cX0_members 41 = .ok (.iload_n 3, 1) := by decide +kernel
theorem dX0_members_42 : decode cX0_members 42 = .ok (.ishl, 1) := by decide +kernel
theorem dX0_members_43 : decode cX0_members 43 = .ok (.ior, 1) := by decide +kernel
theorem dX0_members_44 : decode cX0_members 44 = .ok (.istore_n 2, 1) := by decide +kernel
theorem dX0_members_45 : decode cX0_members 45 = .ok (.iinc 3 1, 3) := by decide +kernel
theorem dX0_members_48 : decode cX0_members 48 = .ok (.goto (-30), 3) := by decide +kernel
theorem dX0_members_51 : decode cX0_members 51 = .ok (.iload_n 2, 1) := by decide +kernel
theorem dX0_members_52 : decode cX0_members 52 = .ok (.ireturn, 1) := by decide +kernel
abbrev cX0_told : ByteArray := prog_1_method_10_code
def yX0_told : MethodName := ⟨RX0, "told", "(II)I"⟩
theorem dX0_told_0 : decode cX0_told 0 = .ok (.aload_n 0, 1) := by decide +kernel
theorem dX0_told_1 : decode cX0_told 1 = .ok (.iload_n 1, 1) := by decide +kernel
theorem dX0_told_2 : decode cX0_told 2 = .ok (.invokevirtual 29, 3) := by decide +kernel
theorem dX0_told_5 : decode cX0_told 5 = .ok (.ifCond .eq 11, 3) := by decide +kernel
theorem dX0_told_8 : decode cX0_told 8 = .ok (.aload_n 0, 1) := by decide +kernel
theorem dX0_told_9 : decode cX0_told 9 = .ok (.iload_n 2, 1) := by decide +kernel
theorem dX0_told_10 : decode cX0_told 10 = .ok (.invokevirtual 29, 3) := by decide +kernel
theorem dX0_told_13 : decode cX0_told 13 = .ok (.ifCond .ne 5, 3) := by decide +kernel
theorem dX0_told_16 : decode cX0_told 16 = .ok (.iconst (-1), 1) := by decide +kernel
theorem dX0_told_17 : decode cX0_told 17 = .ok (.ireturn, 1) := by decide +kernel
theorem dX0_told_18 : decode cX0_told 18 = .ok (.aload_n 0, 1) := by decide +kernel
theorem dX0_told_19 : decode cX0_told 19 = .ok (.invokevirtual 50, 3) := by decide +kernel
theorem dX0_told_22 : decode cX0_told 22 = .ok (.iconst 0, 1) := by decide +kernel
theorem dX0_told_23 : decode cX0_told 23 = .ok (.istore_n 3, 1) := by decide +kernel
theorem dX0_told_24 : decode cX0_told 24 = .ok (.iload_n 3, 1) := by decide +kernel
theorem dX0_told_25 : decode cX0_told 25 = .ok (.aload_n 0, 1) := by decide +kernel
theorem dX0_told_26 : decode cX0_told 26 = .ok (.getfield 53, 3) := by decide +kernel
theorem dX0_told_29 : decode cX0_told 29 = .ok (.if_icmp .gt 36, 3) := by decide +kernel
theorem dX0_told_32 : decode cX0_told 32 = .ok (.aload_n 0, 1) := by decide +kernel
theorem dX0_told_33 : decode cX0_told 33 = .ok (.getfield 26, 3) := by decide +kernel
theorem dX0_told_36 : decode cX0_told 36 = .ok (.bipush 10, 2) := by decide +kernel
theorem dX0_told_38 : decode cX0_told 38 = .ok (.iload_n 3, 1) := by decide +kernel
theorem dX0_told_39 : decode cX0_told 39 = .ok (.imul, 1) := by decide +kernel
theorem dX0_told_40 : decode cX0_told 40 = .ok (.iload_n 1, 1) := by decide +kernel
theorem dX0_told_41 : decode cX0_told 41 = .ok (.iadd, 1) := by decide +kernel
theorem dX0_told_42 : decode cX0_told 42 = .ok (.baload, 1) := by decide +kernel
theorem dX0_told_43 : decode cX0_told 43 = .ok (.aload_n 0, 1) := by decide +kernel
theorem dX0_told_44 : decode cX0_told 44 = .ok (.getfield 26, 3) := by decide +kernel
theorem dX0_told_47 : decode cX0_told 47 = .ok (.bipush 10, 2) := by decide +kernel
theorem dX0_told_49 : decode cX0_told 49 = .ok (.iload_n 3, 1) := by decide +kernel
theorem dX0_told_50 : decode cX0_told 50 = .ok (.imul, 1) := by decide +kernel
theorem dX0_told_51 : decode cX0_told 51 = .ok (.iload_n 2, 1) := by decide +kernel
theorem dX0_told_52 : decode cX0_told 52 = .ok (.iadd, 1) := by decide +kernel
theorem dX0_told_53 : decode cX0_told 53 = .ok (.baload, 1) := by decide +kernel
theorem dX0_told_54 : decode cX0_told 54 = .ok (.if_icmp .eq 5, 3) := by decide +kernel
theorem dX0_told_57 : decode cX0_told 57 = .ok (.iload_n 3, 1) := by decide +kernel
theorem dX0_told_58 : decode cX0_told 58 = .ok (.ireturn, 1) := by decide +kernel
theorem dX0_told_59 : decode cX0_told 59 = .ok (.iinc 3 1, 3) := by decide +kernel
theorem dX0_told_62 : decode cX0_told 62 = .ok (.goto (-38), 3) := by decide +kernel
theorem dX0_told_65 : decode cX0_told 65 = .ok (.bipush (-2), 2) := by decide +kernel
theorem dX0_told_67 : decode cX0_told 67 = .ok (.ireturn, 1) := by decide +kernel
abbrev cX0_findRounds : ByteArray := prog_1_method_22_code
def yX0_findRounds : MethodName := ⟨RX0, "findRounds", "()V"⟩
theorem dX0_findRounds_0 : decode cX0_findRounds 0 = .ok (.aload_n 0, 1) := by decide +kernel
theorem dX0_findRounds_1 : decode cX0_findRounds 1 = .ok (.getfield 40, 3) := by decide +kernel
theorem dX0_findRounds_4 : decode cX0_findRounds 4 = .ok (.ifCond .eq 4, 3) := by decide +kernel
theorem dX0_findRounds_7 : decode cX0_findRounds 7 = .ok (.return_, 1) := by decide +kernel
theorem dX0_findRounds_8 : decode cX0_findRounds 8 = .ok (.aload_n 0, 1) := by decide +kernel
theorem dX0_findRounds_9 : decode cX0_findRounds 9 = .ok (.iconst 1, 1) := by decide +kernel
theorem dX0_findRounds_10 : decode cX0_findRounds 10 = .ok (.putfield 40, 3) := by decide +kernel
theorem dX0_findRounds_13 : decode cX0_findRounds 13 = .ok (.iconst 0, 1) := by decide +kernel
theorem dX0_findRounds_14 : decode cX0_findRounds 14 = .ok (.istore_n 1, 1) := by decide +kernel
theorem dX0_findRounds_15 : decode cX0_findRounds 15 = .ok (.iload_n 1, 1) := by decide +kernel
theorem dX0_findRounds_16 : decode cX0_findRounds 16 = .ok (.bipush 10, 2) := by decide +kernel
theorem dX0_findRounds_18 : decode cX0_findRounds 18 = .ok (.if_icmp .ge 40, 3) := by decide +kernel
theorem dX0_findRounds_21 : decode cX0_findRounds 21 = .ok (.iconst 0, 1) := by decide +kernel
theorem dX0_findRounds_22 : decode cX0_findRounds 22 = .ok (.istore_n 2, 1) := by decide +kernel
theorem dX0_findRounds_23 : decode cX0_findRounds 23 = .ok (.aload_n 0, 1) := by decide +kernel
theorem dX0_findRounds_24 : decode cX0_findRounds 24 = .ok (.getfield 7, 3) := by decide +kernel
theorem dX0_findRounds_27 : decode cX0_findRounds 27 = .ok (.iload_n 2, 1) := by decide +kernel
theorem dX0_findRounds_28 : decode cX0_findRounds 28 = .ok (.baload, 1) := by decide +kernel
theorem dX0_findRounds_29 : decode cX0_findRounds 29 = .ok (.aload_n 0, 1) := by decide +kernel
theorem dX0_findRounds_30 : decode cX0_findRounds 30 = .ok (.getfield 7, 3) := by decide +kernel
theorem dX0_findRounds_33 : decode cX0_findRounds 33 = .ok (.iload_n 1, 1) := by decide +kernel
theorem dX0_findRounds_34 : decode cX0_findRounds 34 = .ok (.baload, 1) := by decide +kernel
theorem dX0_findRounds_35 : decode cX0_findRounds 35 = .ok (.if_icmp .eq 9, 3) := by decide +kernel
theorem dX0_findRounds_38 : decode cX0_findRounds 38 = .ok (.iinc 2 1, 3) := by decide +kernel
theorem dX0_findRounds_41 : decode cX0_findRounds 41 = .ok (.goto (-18), 3) := by decide +kernel
theorem dX0_findRounds_44 : decode cX0_findRounds 44 = .ok (.aload_n 0, 1) := by decide +kernel
theorem dX0_findRounds_45 : decode cX0_findRounds 45 = .ok (.getfield 26, 3) := by decide +kernel
theorem dX0_findRounds_48 : decode cX0_findRounds 48 = .ok (.iload_n 1, 1) := by decide +kernel
theorem dX0_findRounds_49 : decode cX0_findRounds 49 = .ok (.iload_n 2, 1) := by decide +kernel
theorem dX0_findRounds_50 : decode cX0_findRounds 50 = .ok (.i2b, 1) := by decide +kernel
theorem dX0_findRounds_51 : decode cX0_findRounds 51 = .ok (.bastore, 1) := by decide +kernel
theorem dX0_findRounds_52 : decode cX0_findRounds 52 = .ok (.iinc 1 1, 3) := by decide +kernel
theorem dX0_findRounds_55 : decode cX0_findRounds 55 = .ok (.goto (-40), 3) := by decide +kernel
theorem dX0_findRounds_58 : decode cX0_findRounds 58 = .ok (.aload_n 0, 1) := by decide +kernel
theorem dX0_findRounds_59 : decode cX0_findRounds 59 = .ok (.iconst 0, 1) := by decide +kernel
theorem dX0_findRounds_60 : decode cX0_findRounds 60 = .ok (.putfield 53, 3) := by decide +kernel
theorem dX0_findRounds_63 : decode cX0_findRounds 63 = .ok (.aload_n 0, 1) := by decide +kernel
theorem dX0_findRounds_64 : decode cX0_findRounds 64 = .ok (.aload_n 0, 1) := by decide +kernel
theorem dX0_findRounds_65 : decode cX0_findRounds 65 = .ok (.getfield 53, 3) := by decide +kernel
theorem dX0_findRounds_68 : decode cX0_findRounds 68 = .ok (.invokevirtual 81, 3) := by decide +kernel
theorem dX0_findRounds_71 : decode cX0_findRounds 71 = .ok (.ifCond .eq 16, 3) := by decide +kernel
theorem dX0_findRounds_74 : decode cX0_findRounds 74 = .ok (.aload_n 0, 1) := by decide +kernel
theorem dX0_findRounds_75 : decode cX0_findRounds 75 = .ok (.dup, 1) := by decide +kernel
theorem dX0_findRounds_76 : decode cX0_findRounds 76 = .ok (.getfield 53, 3) := by decide +kernel
theorem dX0_findRounds_79 : decode cX0_findRounds 79 = .ok (.iconst 1, 1) := by decide +kernel
theorem dX0_findRounds_80 : decode cX0_findRounds 80 = .ok (.iadd, 1) := by decide +kernel
theorem dX0_findRounds_81 : decode cX0_findRounds 81 = .ok (.putfield 53, 3) := by decide +kernel
theorem dX0_findRounds_84 : decode cX0_findRounds 84 = .ok (.goto (-21), 3) := by decide +kernel
theorem dX0_findRounds_87 : decode cX0_findRounds 87 = .ok (.return_, 1) := by decide +kernel
end
section
set_option maxRecDepth 100000
abbrev cX0_nextRound : ByteArray := prog_1_method_23_code
def yX0_nextRound : MethodName := ⟨RX0, "nextRound", "(I)Z"⟩
theorem dX0_nextRound_0 : decode cX0_nextRound 0 = .ok (.iconst 0, 1) := by decide +kernel
theorem dX0_nextRound_1 : decode cX0_nextRound 1 = .ok (.istore_n 2, 1) := by decide +kernel
theorem dX0_nextRound_2 : decode cX0_nextRound 2 = .ok (.iconst 0, 1) := by decide +kernel
theorem dX0_nextRound_3 : decode cX0_nextRound 3 = .ok (.istore_n 3, 1) := by decide +kernel
theorem dX0_nextRound_4 : decode cX0_nextRound 4 = .ok (.iload_n 3, 1) := by decide +kernel
theorem dX0_nextRound_5 : decode cX0_nextRound 5 = .ok (.bipush 10, 2) := by decide +kernel
theorem dX0_nextRound_7 : decode cX0_nextRound 7 = .ok (.if_icmp .ge 70, 3) := by decide +kernel
theorem dX0_nextRound_10 : decode cX0_nextRound 10 = .ok (.iconst 0, 1) := by decide +kernel
theorem dX0_nextRound_11 : decode cX0_nextRound 11 = .ok (.istore 4, 2) := by decide +kernel
theorem dX0_nextRound_13 : decode cX0_nextRound 13 = .ok (.iload 4, 2) := by decide +kernel
theorem dX0_nextRound_15 : decode cX0_nextRound 15 = .ok (.iload_n 3, 1) := by decide +kernel
theorem dX0_nextRound_16 : decode cX0_nextRound 16 = .ok (.if_icmp .ge 20, 3) := by decide +kernel
theorem dX0_nextRound_19 : decode cX0_nextRound 19 = .ok (.aload_n 0, 1) := by decide +kernel
theorem dX0_nextRound_20 : decode cX0_nextRound 20 = .ok (.iload_n 1, 1) := by decide +kernel
theorem dX0_nextRound_21 : decode cX0_nextRound 21 = .ok (.iload_n 3, 1) := by decide +kernel
theorem dX0_nextRound_22 : decode cX0_nextRound 22 = .ok (.iload 4, 2) := by decide +kernel
theorem dX0_nextRound_24 : decode cX0_nextRound 24 = .ok (.invokevirtual 84, 3) := by decide +kernel
theorem dX0_nextRound_27 : decode cX0_nextRound 27 = .ok (.ifCond .ne 9, 3) := by decide +kernel
theorem dX0_nextRound_30 : decode cX0_nextRound 30 = .ok (.iinc 4 1, 3) := by decide +kernel
theorem dX0_nextRound_33 : decode cX0_nextRound 33 = .ok (.goto (-20), 3) := by decide +kernel
theorem dX0_nextRound_36 : decode cX0_nextRound 36 = .ok (.aload_n 0, 1) := by decide +kernel
theorem dX0_nextRound_37 : decode cX0_nextRound 37 = .ok (.getfield 26, 3) := by decide +kernel
theorem dX0_nextRound_40 : decode cX0_nextRound 40 = .ok (.bipush 10, 2) := by decide +kernel
theorem dX0_nextRound_42 : decode cX0_nextRound 42 = .ok (.iload_n 1, 1) := by decide +kernel
theorem dX0_nextRound_43 : decode cX0_nextRound 43 = .ok (.imul, 1) := by decide +kernel
theorem dX0_nextRound_44 : decode cX0_nextRound 44 = .ok (.bipush 10, 2) := by decide +kernel
theorem dX0_nextRound_46 : decode cX0_nextRound 46 = .ok (.iadd, 1) := by decide +kernel
theorem dX0_nextRound_47 : decode cX0_nextRound 47 = .ok (.iload_n 3, 1) := by decide +kernel
theorem dX0_nextRound_48 : decode cX0_nextRound 48 = .ok (.iadd, 1) := by decide +kernel
theorem dX0_nextRound_49 : decode cX0_nextRound 49 = .ok (.iload 4, 2) := by decide +kernel
theorem dX0_nextRound_51 : decode cX0_nextRound 51 = .ok (.i2b, 1) := by decide +kernel
theorem dX0_nextRound_52 : decode cX0_nextRound 52 = .ok (.bastore, 1) := by decide +kernel
theorem dX0_nextRound_53 : decode cX0_nextRound 53 = .ok (.aload_n 0, 1) := by decide +kernel
theorem dX0_nextRound_54 : decode cX0_nextRound 54 = .ok (.getfield 26, 3) := by decide +kernel
theorem dX0_nextRound_57 : decode cX0_nextRound 57 = .ok (.bipush 10, 2) := by decide +kernel
theorem dX0_nextRound_59 : decode cX0_nextRound 59 = .ok (.iload_n 1, 1) := by decide +kernel
theorem dX0_nextRound_60 : decode cX0_nextRound 60 = .ok (.imul, 1) := by decide +kernel
theorem dX0_nextRound_61 : decode cX0_nextRound 61 = .ok (.iload_n 3, 1) := by decide +kernel
theorem dX0_nextRound_62 : decode cX0_nextRound 62 = .ok (.iadd, 1) := by decide +kernel
theorem dX0_nextRound_63 : decode cX0_nextRound 63 = .ok (.baload, 1) := by decide +kernel
theorem dX0_nextRound_64 : decode cX0_nextRound 64 = .ok (.iload 4, 2) := by decide +kernel
theorem dX0_nextRound_66 : decode cX0_nextRound 66 = .ok (.if_icmp .eq 5, 3) := by decide +kernel
theorem dX0_nextRound_69 : decode cX0_nextRound 69 = .ok (.iconst 1, 1) := by decide +kernel
theorem dX0_nextRound_70 : decode cX0_nextRound 70 = .ok (.istore_n 2, 1) := by decide +kernel
theorem dX0_nextRound_71 : decode cX0_nextRound 71 = .ok (.iinc 3 1, 3) := by decide +kernel
theorem dX0_nextRound_74 : decode cX0_nextRound 74 = .ok (.goto (-70), 3) := by decide +kernel
theorem dX0_nextRound_77 : decode cX0_nextRound 77 = .ok (.iload_n 2, 1) := by decide +kernel
theorem dX0_nextRound_78 : decode cX0_nextRound 78 = .ok (.ireturn, 1) := by decide +kernel
abbrev cX0_alikeAfter : ByteArray := prog_1_method_24_code
def yX0_alikeAfter : MethodName := ⟨RX0, "alikeAfter", "(III)Z"⟩
theorem dX0_alikeAfter_0 : decode cX0_alikeAfter 0 = .ok (.aload_n 0, 1) := by decide +kernel
theorem dX0_alikeAfter_1 : decode cX0_alikeAfter 1 = .ok (.getfield 26, 3) := by decide +kernel
theorem dX0_alikeAfter_4 : decode cX0_alikeAfter 4 = .ok (.bipush 10, 2) := by decide +kernel
theorem dX0_alikeAfter_6 : decode cX0_alikeAfter 6 = .ok (.iload_n 1, 1) := by decide +kernel
theorem dX0_alikeAfter_7 : decode cX0_alikeAfter 7 = .ok (.imul, 1) := by decide +kernel
theorem dX0_alikeAfter_8 : decode cX0_alikeAfter 8 = .ok (.iload_n 2, 1) := by decide +kernel
theorem dX0_alikeAfter_9 : decode cX0_alikeAfter 9 = .ok (.iadd, 1) := by decide +kernel
theorem dX0_alikeAfter_10 : decode cX0_alikeAfter 10 = .ok (.baload, 1) := by decide +kernel
theorem dX0_alikeAfter_11 : decode cX0_alikeAfter 11 = .ok (.aload_n 0, 1) := by decide +kernel
theorem dX0_alikeAfter_12 : decode cX0_alikeAfter 12 = .ok (.getfield 26, 3) := by decide +kernel
theorem dX0_alikeAfter_15 : decode cX0_alikeAfter 15 = .ok (.bipush 10, 2) := by decide +kernel
theorem dX0_alikeAfter_17 : decode cX0_alikeAfter 17 = .ok (.iload_n 1, 1) := by decide +kernel
theorem dX0_alikeAfter_18 : decode cX0_alikeAfter 18 = .ok (.imul, 1) := by decide +kernel
theorem dX0_alikeAfter_19 : decode cX0_alikeAfter 19 = .ok (.iload_n 3, 1) := by decide +kernel
theorem dX0_alikeAfter_20 : decode cX0_alikeAfter 20 = .ok (.iadd, 1) := by decide +kernel
theorem dX0_alikeAfter_21 : decode cX0_alikeAfter 21 = .ok (.baload, 1) := by decide +kernel
theorem dX0_alikeAfter_22 : decode cX0_alikeAfter 22 = .ok (.if_icmp .eq 5, 3) := by decide +kernel
theorem dX0_alikeAfter_25 : decode cX0_alikeAfter 25 = .ok (.iconst 0, 1) := by decide +kernel
theorem dX0_alikeAfter_26 : decode cX0_alikeAfter 26 = .ok (.ireturn, 1) := by decide +kernel
theorem dX0_alikeAfter_27 : decode cX0_alikeAfter 27 = .ok (.iconst 0, 1) := by decide +kernel
theorem dX0_alikeAfter_28 : decode cX0_alikeAfter 28 = .ok (.istore 4, 2) := by decide +kernel
theorem dX0_alikeAfter_30 : decode cX0_alikeAfter 30 = .ok (.iload 4, 2) := by decide +kernel
theorem dX0_alikeAfter_32 : decode cX0_alikeAfter 32 = .ok (.iconst 2, 1) := by decide +kernel
theorem dX0_alikeAfter_33 : decode cX0_alikeAfter 33 = .ok (.if_icmp .ge 56, 3) := by decide +kernel
theorem dX0_alikeAfter_36 : decode cX0_alikeAfter 36 = .ok (.aload_n 0, 1) := by decide +kernel
theorem dX0_alikeAfter_37 : decode cX0_alikeAfter 37 = .ok (.iload_n 1, 1) := by decide +kernel
theorem dX0_alikeAfter_38 : decode cX0_alikeAfter 38 = .ok (.aload_n 0, 1) := by decide +kernel
theorem dX0_alikeAfter_39 : decode cX0_alikeAfter 39 = .ok (.getfield 13, 3) := by decide +kernel
theorem dX0_alikeAfter_42 : decode cX0_alikeAfter 42 = .ok (.bipush 10, 2) := by decide +kernel
theorem dX0_alikeAfter_44 : decode cX0_alikeAfter 44 = .ok (.iload 4, 2) := by decide +kernel
theorem dX0_alikeAfter_46 : decode cX0_alikeAfter 46 = .ok (.imul, 1) := by decide +kernel
theorem dX0_alikeAfter_47 : decode cX0_alikeAfter 47 = .ok (.iload_n 2, 1) := by decide +kernel
theorem dX0_alikeAfter_48 : decode cX0_alikeAfter 48 = .ok (.iadd, 1) := by decide +kernel
theorem dX0_alikeAfter_49 : decode cX0_alikeAfter 49 = .ok (.iaload, 1) := by decide +kernel
theorem dX0_alikeAfter_50 : decode cX0_alikeAfter 50 = .ok (.invokevirtual 88, 3) := by decide +kernel
theorem dX0_alikeAfter_53 : decode cX0_alikeAfter 53 = .ok (.istore 5, 2) := by decide +kernel
theorem dX0_alikeAfter_55 : decode cX0_alikeAfter 55 = .ok (.aload_n 0, 1) := by decide +kernel
theorem dX0_alikeAfter_56 : decode cX0_alikeAfter 56 = .ok (.iload_n 1, 1) := by decide +kernel
theorem dX0_alikeAfter_57 : decode cX0_alikeAfter 57 = .ok (.aload_n 0, 1) := by decide +kernel
theorem dX0_alikeAfter_58 : decode cX0_alikeAfter 58 = .ok (.getfield 13, 3) := by decide +kernel
theorem dX0_alikeAfter_61 : decode cX0_alikeAfter 61 = .ok (.bipush 10, 2) := by decide +kernel
theorem dX0_alikeAfter_63 : decode cX0_alikeAfter 63 = .ok (.iload 4, 2) := by decide +kernel
theorem dX0_alikeAfter_65 : decode cX0_alikeAfter 65 = .ok (.imul, 1) := by decide +kernel
theorem dX0_alikeAfter_66 : decode cX0_alikeAfter 66 = .ok (.iload_n 3, 1) := by decide +kernel
theorem dX0_alikeAfter_67 : decode cX0_alikeAfter 67 = .ok (.iadd, 1) := by decide +kernel
theorem dX0_alikeAfter_68 : decode cX0_alikeAfter 68 = .ok (.iaload, 1) := by decide +kernel
theorem dX0_alikeAfter_69 : decode cX0_alikeAfter 69 = .ok (.invokevirtual 88, 3) := by decide +kernel
theorem dX0_alikeAfter_72 : decode cX0_alikeAfter 72 = .ok (.istore 6, 2) := by decide +kernel
theorem dX0_alikeAfter_74 : decode cX0_alikeAfter 74 = .ok (.iload 5, 2) := by decide +kernel
theorem dX0_alikeAfter_76 : decode cX0_alikeAfter 76 = .ok (.iload 6, 2) := by decide +kernel
theorem dX0_alikeAfter_78 : decode cX0_alikeAfter 78 = .ok (.if_icmp .eq 5, 3) := by decide +kernel
theorem dX0_alikeAfter_81 : decode cX0_alikeAfter 81 = .ok (.iconst 0, 1) := by decide +kernel
theorem dX0_alikeAfter_82 : decode cX0_alikeAfter 82 = .ok (.ireturn, 1) := by decide +kernel
theorem dX0_alikeAfter_83 : decode cX0_alikeAfter 83 = .ok (.iinc 4 1, 3) := by decide +kernel
theorem dX0_alikeAfter_86 : decode cX0_alikeAfter 86 = .ok (.goto (-56), 3) := by decide +kernel
theorem dX0_alikeAfter_89 : decode cX0_alikeAfter 89 = .ok (.iconst 1, 1) := by decide +kernel
theorem dX0_alikeAfter_90 : decode cX0_alikeAfter 90 = .ok (.ireturn, 1) := by decide +kernel
abbrev cX0_classesOf : ByteArray := prog_1_method_25_code
def yX0_classesOf : MethodName := ⟨RX0, "classesOf", "(II)I"⟩
theorem dX0_classesOf_0 : decode cX0_classesOf 0 = .ok (.iconst 0, 1) := by decide +kernel
theorem dX0_classesOf_1 : decode cX0_classesOf 1 = .ok (.istore_n 3, 1) := by decide +kernel
theorem dX0_classesOf_2 : decode cX0_classesOf 2 = .ok (.iconst 0, 1) := by decide +kernel
theorem dX0_classesOf_3 : decode cX0_classesOf 3 = .ok (.istore 4, 2) := by decide +kernel
theorem dX0_classesOf_5 : decode cX0_classesOf 5 = .ok (.iload 4, 2) := by decide +kernel
theorem dX0_classesOf_7 : decode cX0_classesOf 7 = .ok (.bipush 10, 2) := by decide +kernel
theorem dX0_classesOf_9 : decode cX0_classesOf 9 = .ok (.if_icmp .ge 35, 3) := by decide +kernel
theorem dX0_classesOf_12 : decode cX0_classesOf 12 = .ok (.iload_n 2, 1) := by decide +kernel
theorem dX0_classesOf_13 : decode cX0_classesOf 13 = .ok (.iload 4, 2) := by decide +kernel
theorem dX0_classesOf_15 : decode cX0_classesOf 15 = .ok (.ishr, 1) := by decide +kernel
theorem dX0_classesOf_16 : decode cX0_classesOf 16 = .ok (.iconst 1, 1) := by decide +kernel
theorem dX0_classesOf_17 : decode cX0_classesOf 17 = .ok (.iand, 1) := by decide +kernel
theorem dX0_classesOf_18 : decode cX0_classesOf 18 = .ok (.ifCond .eq 20, 3) := by decide +kernel
theorem dX0_classesOf_21 : decode cX0_classesOf 21 = .ok (.iload_n 3, 1) := by decide +kernel
theorem dX0_classesOf_22 : decode cX0_classesOf 22 = .ok (.iconst 1, 1) := by decide +kernel
theorem dX0_classesOf_23 : decode cX0_classesOf 23 = .ok (.aload_n 0, 1) := by decide +kernel
theorem dX0_classesOf_24 : decode cX0_classesOf 24 = .ok (.getfield 26, 3) := by decide +kernel
theorem dX0_classesOf_27 : decode cX0_classesOf 27 = .ok (.bipush 10, 2) := by decide +kernel
theorem dX0_classesOf_29 : decode cX0_classesOf 29 = .ok (.iload_n 1, 1) := by decide +kernel
theorem dX0_classesOf_30 : decode cX0_classesOf 30 = .ok (.imul, 1) := by decide +kernel
theorem dX0_classesOf_31 : decode cX0_classesOf 31 = .ok (.iload 4, 2) := by decide +kernel
theorem dX0_classesOf_33 : decode cX0_classesOf 33 = .ok (.iadd, 1) := by decide +kernel
theorem dX0_classesOf_34 : decode cX0_classesOf 34 = .ok (.baload, 1) := by decide +kernel
theorem dX0_classesOf_35 : decode cX0_classesOf 35 = .ok (.ishl, 1) := by decide +kernel
theorem dX0_classesOf_36 : decode cX0_classesOf 36 = .ok (.ior, 1) := by decide +kernel
theorem dX0_classesOf_37 : decode cX0_classesOf 37 = .ok (.istore_n 3, 1) := by decide +kernel
theorem dX0_classesOf_38 : decode cX0_classesOf 38 = .ok (.iinc 4 1, 3) := by decide +kernel
theorem dX0_classesOf_41 : decode cX0_classesOf 41 = .ok (.goto (-36), 3) := by decide +kernel
theorem dX0_classesOf_44 : decode cX0_classesOf 44 = .ok (.iload_n 3, 1) := by decide +kernel
theorem dX0_classesOf_45 : decode cX0_classesOf 45 = .ok (.ireturn, 1) := by decide +kernel
abbrev cX0_leads : ByteArray := prog_1_method_11_code
def yX0_leads : MethodName := ⟨RX0, "leads", "(II)I"⟩
theorem dX0_leads_0 : decode cX0_leads 0 = .ok (.iload_n 1, 1) := by decide +kernel
theorem dX0_leads_1 : decode cX0_leads 1 = .ok (.ifCond .lt 16, 3) := by decide +kernel
theorem dX0_leads_4 : decode cX0_leads 4 = .ok (.iload_n 1, 1) := by decide +kernel
theorem dX0_leads_5 : decode cX0_leads 5 = .ok (.iconst 1, 1) := by decide +kernel
theorem dX0_leads_6 : decode cX0_leads 6 = .ok (.if_icmp .gt 11, 3) := by decide +kernel
theorem dX0_leads_9 : decode cX0_leads 9 = .ok (.aload_n 0, 1) := by decide +kernel
theorem dX0_leads_10 : decode cX0_leads 10 = .ok (.iload_n 2, 1) := by decide +kernel
theorem dX0_leads_11 : decode cX0_leads 11 = .ok (.invokevirtual 29, 3) := by decide +kernel
theorem dX0_leads_14 : decode cX0_leads 14 = .ok (.ifCond .ne 5, 3) := by decide +kernel
theorem dX0_leads_17 : decode cX0_leads 17 = .ok (.iconst (-1), 1) := by decide +kernel
theorem dX0_leads_18 : decode cX0_leads 18 = .ok (.ireturn, 1) := by decide +kernel
theorem dX0_leads_19 : decode cX0_leads 19 = .ok (.aload_n 0, 1) := by decide +kernel
theorem dX0_leads_20 : decode cX0_leads 20 = .ok (.invokevirtual 43, 3) := by decide +kernel
theorem dX0_leads_23 : decode cX0_leads 23 = .ok (.aload_n 0, 1) := by decide +kernel
theorem dX0_leads_24 : decode cX0_leads 24 = .ok (.aload_n 0, 1) := by decide +kernel
theorem dX0_leads_25 : decode cX0_leads 25 = .ok (.getfield 13, 3) := by decide +kernel
theorem dX0_leads_28 : decode cX0_leads 28 = .ok (.bipush 10, 2) := by decide +kernel
theorem dX0_leads_30 : decode cX0_leads 30 = .ok (.iload_n 1, 1) := by decide +kernel
theorem dX0_leads_31 : decode cX0_leads 31 = .ok (.imul, 1) := by decide +kernel
theorem dX0_leads_32 : decode cX0_leads 32 = .ok (.iload_n 2, 1) := by decide +kernel
theorem dX0_leads_33 : decode cX0_leads 33 = .ok (.iadd, 1) := by decide +kernel
theorem dX0_leads_34 : decode cX0_leads 34 = .ok (.iaload, 1) := by decide +kernel
theorem dX0_leads_35 : decode cX0_leads 35 = .ok (.invokevirtual 56, 3) := by decide +kernel
theorem dX0_leads_38 : decode cX0_leads 38 = .ok (.ireturn, 1) := by decide +kernel
abbrev cX0_leadersOf : ByteArray := prog_1_method_16_code
def yX0_leadersOf : MethodName := ⟨RX0, "leadersOf", "(I)I"⟩
theorem dX0_leadersOf_0 : decode cX0_leadersOf 0 = .ok (.iconst 0, 1) := by decide +kernel
theorem dX0_leadersOf_1 : decode cX0_leadersOf 1 = .ok (.istore_n 2, 1) := by decide +kernel
theorem dX0_leadersOf_2 : decode cX0_leadersOf 2 = .ok (.iconst 0, 1) := by decide +kernel
theorem dX0_leadersOf_3 : decode cX0_leadersOf 3 = .ok (.istore_n 3, 1) := by decide +kernel
theorem dX0_leadersOf_4 : decode cX0_leadersOf 4 = .ok (.iload_n 3, 1) := by decide +kernel
theorem dX0_leadersOf_5 : decode cX0_leadersOf 5 = .ok (.bipush 10, 2) := by decide +kernel
theorem dX0_leadersOf_7 : decode cX0_leadersOf 7 = .ok (.if_icmp .ge 28, 3) := by decide +kernel
theorem dX0_leadersOf_10 : decode cX0_leadersOf 10 = .ok (.iload_n 1, 1) := by decide +kernel
theorem dX0_leadersOf_11 : decode cX0_leadersOf 11 = .ok (.iload_n 3, 1) := by decide +kernel
theorem dX0_leadersOf_12 : decode cX0_leadersOf 12 = .ok (.ishr, 1) := by decide +kernel
theorem dX0_leadersOf_13 : decode cX0_leadersOf 13 = .ok (.iconst 1, 1) := by decide +kernel
theorem dX0_leadersOf_14 : decode cX0_leadersOf 14 = .ok (.iand, 1) := by decide +kernel
theorem dX0_leadersOf_15 : decode cX0_leadersOf 15 = .ok (.ifCond .eq 14, 3) := by decide +kernel
theorem dX0_leadersOf_18 : decode cX0_leadersOf 18 = .ok (.iload_n 2, 1) := by decide +kernel
theorem dX0_leadersOf_19 : decode cX0_leadersOf 19 = .ok (.iconst 1, 1) := by decide +kernel
theorem dX0_leadersOf_20 : decode cX0_leadersOf 20 = .ok (.aload_n 0, 1) := by decide +kernel
theorem dX0_leadersOf_21 : decode cX0_leadersOf 21 = .ok (.getfield 23, 3) := by decide +kernel
theorem dX0_leadersOf_24 : decode cX0_leadersOf 24 = .ok (.iload_n 3, 1) := by decide +kernel
theorem dX0_leadersOf_25 : decode cX0_leadersOf 25 = .ok (.baload, 1) := by decide +kernel
theorem dX0_leadersOf_26 : decode cX0_leadersOf 26 = .ok (.ishl, 1) := by decide +kernel
theorem dX0_leadersOf_27 : decode cX0_leadersOf 27 = .ok (.ior, 1) := by decide +kernel
theorem dX0_leadersOf_28 : decode cX0_leadersOf 28 = .ok (.istore_n 2, 1) := by decide +kernel
theorem dX0_leadersOf_29 : decode cX0_leadersOf 29 = .ok (.iinc 3 1, 3) := by decide +kernel
theorem dX0_leadersOf_32 : decode cX0_leadersOf 32 = .ok (.goto (-28), 3) := by decide +kernel
theorem dX0_leadersOf_35 : decode cX0_leadersOf 35 = .ok (.iload_n 2, 1) := by decide +kernel
theorem dX0_leadersOf_36 : decode cX0_leadersOf 36 = .ok (.ireturn, 1) := by decide +kernel
abbrev cX0_colours : ByteArray := prog_1_method_12_code
def yX0_colours : MethodName := ⟨RX0, "colours", "()I"⟩
theorem dX0_colours_0 : decode cX0_colours 0 = .ok (.iconst 0, 1) := by decide +kernel
theorem dX0_colours_1 : decode cX0_colours 1 = .ok (.istore_n 1, 1) := by decide +kernel
theorem dX0_colours_2 : decode cX0_colours 2 = .ok (.iconst 0, 1) := by decide +kernel
theorem dX0_colours_3 : decode cX0_colours 3 = .ok (.istore_n 2, 1) := by decide +kernel
theorem dX0_colours_4 : decode cX0_colours 4 = .ok (.iload_n 2, 1) := by decide +kernel
theorem dX0_colours_5 : decode cX0_colours 5 = .ok (.bipush 10, 2) := by decide +kernel
theorem dX0_colours_7 : decode cX0_colours 7 = .ok (.if_icmp .ge 20, 3) := by decide +kernel
theorem dX0_colours_10 : decode cX0_colours 10 = .ok (.iload_n 1, 1) := by decide +kernel
theorem dX0_colours_11 : decode cX0_colours 11 = .ok (.iconst 1, 1) := by decide +kernel
theorem dX0_colours_12 : decode cX0_colours 12 = .ok (.aload_n 0, 1) := by decide +kernel
theorem dX0_colours_13 : decode cX0_colours 13 = .ok (.getfield 7, 3) := by decide +kernel
theorem dX0_colours_16 : decode cX0_colours 16 = .ok (.iload_n 2, 1) := by decide +kernel
theorem dX0_colours_17 : decode cX0_colours 17 = .ok (.baload, 1) := by decide +kernel
theorem dX0_colours_18 : decode cX0_colours 18 = .ok (.ishl, 1) := by decide +kernel
theorem dX0_colours_19 : decode cX0_colours 19 = .ok (.ior, 1) := by decide +kernel
theorem dX0_colours_20 : decode cX0_colours 20 = .ok (.istore_n 1, 1) := by decide +kernel
theorem dX0_colours_21 : decode cX0_colours 21 = .ok (.iinc 2 1, 3) := by decide +kernel
theorem dX0_colours_24 : decode cX0_colours 24 = .ok (.goto (-20), 3) := by decide +kernel
theorem dX0_colours_27 : decode cX0_colours 27 = .ok (.aload_n 0, 1) := by decide +kernel
theorem dX0_colours_28 : decode cX0_colours 28 = .ok (.iload_n 1, 1) := by decide +kernel
theorem dX0_colours_29 : decode cX0_colours 29 = .ok (.invokevirtual 60, 3) := by decide +kernel
theorem dX0_colours_32 : decode cX0_colours 32 = .ok (.ireturn, 1) := by decide +kernel
abbrev cX0_bitsIn : ByteArray := prog_1_method_15_code
def yX0_bitsIn : MethodName := ⟨RX0, "bitsIn", "(I)I"⟩
theorem dX0_bitsIn_0 : decode cX0_bitsIn 0 = .ok (.iconst 0, 1) := by decide +kernel
theorem dX0_bitsIn_1 : decode cX0_bitsIn 1 = .ok (.istore_n 2, 1) := by decide +kernel
theorem dX0_bitsIn_2 : decode cX0_bitsIn 2 = .ok (.iconst 0, 1) := by decide +kernel
theorem dX0_bitsIn_3 : decode cX0_bitsIn 3 = .ok (.istore_n 3, 1) := by decide +kernel
theorem dX0_bitsIn_4 : decode cX0_bitsIn 4 = .ok (.iload_n 3, 1) := by decide +kernel
theorem dX0_bitsIn_5 : decode cX0_bitsIn 5 = .ok (.bipush 10, 2) := by decide +kernel
theorem dX0_bitsIn_7 : decode cX0_bitsIn 7 = .ok (.if_icmp .ge 17, 3) := by decide +kernel
theorem dX0_bitsIn_10 : decode cX0_bitsIn 10 = .ok (.iload_n 2, 1) := by decide +kernel
theorem dX0_bitsIn_11 : decode cX0_bitsIn 11 = .ok (.iload_n 1, 1) := by decide +kernel
theorem dX0_bitsIn_12 : decode cX0_bitsIn 12 = .ok (.iload_n 3, 1) := by decide +kernel
theorem dX0_bitsIn_13 : decode cX0_bitsIn 13 = .ok (.ishr, 1) := by decide +kernel
theorem dX0_bitsIn_14 : decode cX0_bitsIn 14 = .ok (.iconst 1, 1) := by decide +kernel
theorem dX0_bitsIn_15 : decode cX0_bitsIn 15 = .ok (.iand, 1) := by decide +kernel
theorem dX0_bitsIn_16 : decode cX0_bitsIn 16 = .ok (.iadd, 1) := by decide +kernel
theorem dX0_bitsIn_17 : decode cX0_bitsIn 17 = .ok (.istore_n 2, 1) := by decide +kernel
theorem dX0_bitsIn_18 : decode cX0_bitsIn 18 = .ok (.iinc 3 1, 3) := by decide +kernel
theorem dX0_bitsIn_21 : decode cX0_bitsIn 21 = .ok (.goto (-17), 3) := by decide +kernel
theorem dX0_bitsIn_24 : decode cX0_bitsIn 24 = .ok (.iload_n 2, 1) := by decide +kernel
theorem dX0_bitsIn_25 : decode cX0_bitsIn 25 = .ok (.ireturn, 1) := by decide +kernel
abbrev cX0_reduce : ByteArray := prog_1_method_13_code
def yX0_reduce : MethodName := ⟨RX0, "reduce", "()I"⟩
theorem dX0_reduce_0 : decode cX0_reduce 0 = .ok (.aload_n 0, 1) := by decide +kernel
theorem dX0_reduce_1 : decode cX0_reduce 1 = .ok (.invokevirtual 43, 3) := by decide +kernel
theorem dX0_reduce_4 : decode cX0_reduce 4 = .ok (.iconst 0, 1) := by decide +kernel
theorem dX0_reduce_5 : decode cX0_reduce 5 = .ok (.istore_n 1, 1) := by decide +kernel
theorem dX0_reduce_6 : decode cX0_reduce 6 = .ok (.iconst 0, 1) := by decide +kernel
theorem dX0_reduce_7 : decode cX0_reduce 7 = .ok (.istore_n 2, 1) := by decide +kernel
theorem dX0_reduce_8 : decode cX0_reduce 8 = .ok (.iload_n 2, 1) := by decide +kernel
theorem dX0_reduce_9 : decode cX0_reduce 9 = .ok (.bipush 20, 2) := by decide +kernel
theorem dX0_reduce_11 : decode cX0_reduce 11 = .ok (.if_icmp .ge 38, 3) := by decide +kernel
theorem dX0_reduce_14 : decode cX0_reduce 14 = .ok (.aload_n 0, 1) := by decide +kernel
theorem dX0_reduce_15 : decode cX0_reduce 15 = .ok (.getfield 13, 3) := by decide +kernel
theorem dX0_reduce_18 : decode cX0_reduce 18 = .ok (.iload_n 2, 1) := by decide +kernel
theorem dX0_reduce_19 : decode cX0_reduce 19 = .ok (.aload_n 0, 1) := by decide +kernel
theorem dX0_reduce_20 : decode cX0_reduce 20 = .ok (.aload_n 0, 1) := by decide +kernel
theorem dX0_reduce_21 : decode cX0_reduce 21 = .ok (.getfield 13, 3) := by decide +kernel
theorem dX0_reduce_24 : decode cX0_reduce 24 = .ok (.iload_n 2, 1) := by decide +kernel
theorem dX0_reduce_25 : decode cX0_reduce 25 = .ok (.iaload, 1) := by decide +kernel
theorem dX0_reduce_26 : decode cX0_reduce 26 = .ok (.invokevirtual 56, 3) := by decide +kernel
theorem dX0_reduce_29 : decode cX0_reduce 29 = .ok (.iastore, 1) := by decide +kernel
theorem dX0_reduce_30 : decode cX0_reduce 30 = .ok (.iload_n 1, 1) := by decide +kernel
theorem dX0_reduce_31 : decode cX0_reduce 31 = .ok (.aload_n 0, 1) := by decide +kernel
theorem dX0_reduce_32 : decode cX0_reduce 32 = .ok (.aload_n 0, 1) := by decide +kernel
theorem dX0_reduce_33 : decode cX0_reduce 33 = .ok (.getfield 13, 3) := by decide +kernel
theorem dX0_reduce_36 : decode cX0_reduce 36 = .ok (.iload_n 2, 1) := by decide +kernel
theorem dX0_reduce_37 : decode cX0_reduce 37 = .ok (.iaload, 1) := by decide +kernel
theorem dX0_reduce_38 : decode cX0_reduce 38 = .ok (.invokevirtual 60, 3) := by decide +kernel
theorem dX0_reduce_41 : decode cX0_reduce 41 = .ok (.iadd, 1) := by decide +kernel
theorem dX0_reduce_42 : decode cX0_reduce 42 = .ok (.istore_n 1, 1) := by decide +kernel
theorem dX0_reduce_43 : decode cX0_reduce 43 = .ok (.iinc 2 1, 3) := by decide +kernel
theorem dX0_reduce_46 : decode cX0_reduce 46 = .ok (.goto (-38), 3) := by decide +kernel
theorem dX0_reduce_49 : decode cX0_reduce 49 = .ok (.aload_n 0, 1) := by decide +kernel
theorem dX0_reduce_50 : decode cX0_reduce 50 = .ok (.invokevirtual 33, 3) := by decide +kernel
theorem dX0_reduce_53 : decode cX0_reduce 53 = .ok (.iload_n 1, 1) := by decide +kernel
theorem dX0_reduce_54 : decode cX0_reduce 54 = .ok (.ireturn, 1) := by decide +kernel
abbrev cX0_rounds : ByteArray := prog_1_method_14_code
def yX0_rounds : MethodName := ⟨RX0, "rounds", "()I"⟩
theorem dX0_rounds_0 : decode cX0_rounds 0 = .ok (.aload_n 0, 1) := by decide +kernel
theorem dX0_rounds_1 : decode cX0_rounds 1 = .ok (.invokevirtual 50, 3) := by decide +kernel
theorem dX0_rounds_4 : decode cX0_rounds 4 = .ok (.aload_n 0, 1) := by decide +kernel
theorem dX0_rounds_5 : decode cX0_rounds 5 = .ok (.getfield 53, 3) := by decide +kernel
theorem dX0_rounds_8 : decode cX0_rounds 8 = .ok (.ireturn, 1) := by decide +kernel
theorem q20 : (Jvm.Cond.initialized "StablePartition") ∈ lw_all := lw_g (lw_at lw_m0 1 rfl) rfl
theorem q23 : (Jvm.Cond.instantiable "StablePartition" (11 : Nat)) ∈ lw_all := lw_g (lw_at lw_m0 4 rfl) rfl
theorem q25 : (Jvm.Cond.instanceMethod ({ cls := "StablePartition", name := "<init>", desc := "()V" } : Jvm.MethodName)) ∈ lw_all := lw_g (lw_at lw_m0 6 rfl) rfl
theorem q26 : (Jvm.Cond.code ({ cls := "StablePartition", name := "<init>", desc := "()V" } : Jvm.MethodName) prog_1_method_1_code (1 : Nat) (Option.none : Option Jvm.ClassFile.FieldType)) ∈ lw_all := lw_g (lw_at lw_m0 7 rfl) rfl
theorem q27 : (Jvm.Cond.methodLink "StablePartition" (1 : Nat) ({ cls := "java/lang/Object", name := "<init>", desc := "()V" } : Jvm.MethodName)) ∈ lw_all := lw_g (lw_at lw_m0 8 rfl) rfl
theorem q30 : (Jvm.Cond.fieldLink "StablePartition" (7 : Nat) "StablePartition" "colourOf" "[B") ∈ lw_all := lw_g (lw_at lw_m0 11 rfl) rfl
theorem q31 : (Jvm.Cond.fieldLink "StablePartition" (13 : Nat) "StablePartition" "stepsOf" "[I") ∈ lw_all := lw_g (lw_at lw_m0 12 rfl) rfl
theorem q32 : (Jvm.Cond.fieldLink "StablePartition" (36 : Nat) "StablePartition" "settled" "Z") ∈ lw_all := lw_g (lw_at lw_m0 13 rfl) rfl
theorem q33 : (Jvm.Cond.fieldLink "StablePartition" (46 : Nat) "StablePartition" "blockCount" "I") ∈ lw_all := lw_g (lw_at lw_m0 14 rfl) rfl
theorem q34 : (Jvm.Cond.fieldLink "StablePartition" (17 : Nat) "StablePartition" "blocks" "[I") ∈ lw_all := lw_g (lw_at lw_m0 15 rfl) rfl
theorem q35 : (Jvm.Cond.fieldLink "StablePartition" (63 : Nat) "StablePartition" "waitCount" "I") ∈ lw_all := lw_g (lw_at lw_m0 16 rfl) rfl
theorem q36 : (Jvm.Cond.fieldLink "StablePartition" (20 : Nat) "StablePartition" "waiting" "[I") ∈ lw_all := lw_g (lw_at lw_m0 17 rfl) rfl
theorem q37 : (Jvm.Cond.fieldLink "StablePartition" (23 : Nat) "StablePartition" "leaderOf" "[B") ∈ lw_all := lw_g (lw_at lw_m0 18 rfl) rfl
theorem q38 : (Jvm.Cond.fieldLink "StablePartition" (40 : Nat) "StablePartition" "toldKnown" "Z") ∈ lw_all := lw_g (lw_at lw_m0 19 rfl) rfl
theorem q39 : (Jvm.Cond.fieldLink "StablePartition" (53 : Nat) "StablePartition" "roundCount" "I") ∈ lw_all := lw_g (lw_at lw_m0 20 rfl) rfl
theorem q40 : (Jvm.Cond.fieldLink "StablePartition" (26 : Nat) "StablePartition" "classAt" "[B") ∈ lw_all := lw_g (lw_at lw_m0 21 rfl) rfl
theorem q41 : (Jvm.Cond.laysFinal "StablePartition" "StablePartition" "colourOf" "[B") ∈ lw_all := lw_g (lw_at lw_m0 22 rfl) rfl
theorem q42 : (Jvm.Cond.soleField "StablePartition" "colourOf") ∈ lw_all := lw_g (lw_at lw_m0 23 rfl) rfl
theorem q43 : (Jvm.Cond.laysFinal "StablePartition" "StablePartition" "stepsOf" "[I") ∈ lw_all := lw_g (lw_at lw_m0 24 rfl) rfl
theorem q44 : (Jvm.Cond.soleField "StablePartition" "stepsOf") ∈ lw_all := lw_g (lw_at lw_m0 25 rfl) rfl
theorem q45 : (Jvm.Cond.lays "StablePartition" "StablePartition" "settled" "Z") ∈ lw_all := lw_g (lw_at lw_m0 26 rfl) rfl
theorem q46 : (Jvm.Cond.soleField "StablePartition" "settled") ∈ lw_all := lw_g (lw_at lw_m0 27 rfl) rfl
theorem q47 : (Jvm.Cond.lays "StablePartition" "StablePartition" "blockCount" "I") ∈ lw_all := lw_g (lw_at lw_m0 28 rfl) rfl
theorem q48 : (Jvm.Cond.soleField "StablePartition" "blockCount") ∈ lw_all := lw_g (lw_at lw_m0 29 rfl) rfl
theorem q49 : (Jvm.Cond.laysFinal "StablePartition" "StablePartition" "blocks" "[I") ∈ lw_all := lw_g (lw_at lw_m0 30 rfl) rfl
theorem q50 : (Jvm.Cond.soleField "StablePartition" "blocks") ∈ lw_all := lw_g (lw_at lw_m0 31 rfl) rfl
theorem q51 : (Jvm.Cond.lays "StablePartition" "StablePartition" "waitCount" "I") ∈ lw_all := lw_g (lw_at lw_m0 32 rfl) rfl
theorem q52 : (Jvm.Cond.soleField "StablePartition" "waitCount") ∈ lw_all := lw_g (lw_at lw_m0 33 rfl) rfl
theorem q53 : (Jvm.Cond.laysFinal "StablePartition" "StablePartition" "waiting" "[I") ∈ lw_all := lw_g (lw_at lw_m0 34 rfl) rfl
theorem q54 : (Jvm.Cond.soleField "StablePartition" "waiting") ∈ lw_all := lw_g (lw_at lw_m0 35 rfl) rfl
theorem q55 : (Jvm.Cond.laysFinal "StablePartition" "StablePartition" "leaderOf" "[B") ∈ lw_all := lw_g (lw_at lw_m0 36 rfl) rfl
theorem q56 : (Jvm.Cond.soleField "StablePartition" "leaderOf") ∈ lw_all := lw_g (lw_at lw_m0 37 rfl) rfl
theorem q57 : (Jvm.Cond.lays "StablePartition" "StablePartition" "toldKnown" "Z") ∈ lw_all := lw_g (lw_at lw_m0 38 rfl) rfl
theorem q58 : (Jvm.Cond.soleField "StablePartition" "toldKnown") ∈ lw_all := lw_g (lw_at lw_m0 39 rfl) rfl
theorem q59 : (Jvm.Cond.lays "StablePartition" "StablePartition" "roundCount" "I") ∈ lw_all := lw_g (lw_at lw_m0 40 rfl) rfl
theorem q60 : (Jvm.Cond.soleField "StablePartition" "roundCount") ∈ lw_all := lw_g (lw_at lw_m0 41 rfl) rfl
theorem q61 : (Jvm.Cond.laysFinal "StablePartition" "StablePartition" "classAt" "[B") ∈ lw_all := lw_g (lw_at lw_m0 42 rfl) rfl
theorem q62 : (Jvm.Cond.soleField "StablePartition" "classAt") ∈ lw_all := lw_g (lw_at lw_m0 43 rfl) rfl
theorem q63 : (Jvm.Cond.superclass "StablePartition" "java/lang/Object") ∈ lw_all := lw_g (lw_at lw_m0 44 rfl) rfl
theorem q67 : (Jvm.Cond.instanceMethod ({ cls := "StablePartition", name := "colour", desc := "(II)Z" } : Jvm.MethodName)) ∈ lw_all := lw_g (lw_at lw_m0 48 rfl) rfl
theorem q68 : (Jvm.Cond.selects "StablePartition" ({ cls := "StablePartition", name := "colour", desc := "(II)Z" } : Jvm.MethodName) ({ cls := "StablePartition", name := "colour", desc := "(II)Z" } : Jvm.MethodName)) ∈ lw_all := lw_g (lw_at lw_m0 49 rfl) rfl
theorem q69 : (Jvm.Cond.code ({ cls := "StablePartition", name := "colour", desc := "(II)Z" } : Jvm.MethodName) prog_1_method_2_code (3 : Nat) (Option.some Jvm.ClassFile.FieldType.boolean)) ∈ lw_all := lw_g (lw_at lw_m0 50 rfl) rfl
theorem q70 : (Jvm.Cond.methodLink "StablePartition" (29 : Nat) ({ cls := "StablePartition", name := "isState", desc := "(I)Z" } : Jvm.MethodName)) ∈ lw_all := lw_g (lw_at lw_m0 51 rfl) rfl
theorem q71 : (Jvm.Cond.privateMethod ({ cls := "StablePartition", name := "isState", desc := "(I)Z" } : Jvm.MethodName)) ∈ lw_tbl := lw_at lw_m0 52 rfl
theorem q72 : (Jvm.Cond.instanceMethod ({ cls := "StablePartition", name := "isState", desc := "(I)Z" } : Jvm.MethodName)) ∈ lw_all := lw_g (lw_at lw_m0 53 rfl) rfl
theorem q73 : (Jvm.Cond.code ({ cls := "StablePartition", name := "isState", desc := "(I)Z" } : Jvm.MethodName) prog_1_method_5_code (2 : Nat) (Option.some Jvm.ClassFile.FieldType.boolean)) ∈ lw_all := lw_g (lw_at lw_m0 54 rfl) rfl
theorem q74 : (Jvm.Cond.methodLink "StablePartition" (33 : Nat) ({ cls := "StablePartition", name := "change", desc := "()V" } : Jvm.MethodName)) ∈ lw_all := lw_g (lw_at lw_m0 55 rfl) rfl
theorem q75 : (Jvm.Cond.privateMethod ({ cls := "StablePartition", name := "change", desc := "()V" } : Jvm.MethodName)) ∈ lw_tbl := lw_at lw_m0 56 rfl
theorem q76 : (Jvm.Cond.instanceMethod ({ cls := "StablePartition", name := "change", desc := "()V" } : Jvm.MethodName)) ∈ lw_all := lw_g (lw_at lw_m0 57 rfl) rfl
theorem q77 : (Jvm.Cond.code ({ cls := "StablePartition", name := "change", desc := "()V" } : Jvm.MethodName) prog_1_method_4_code (1 : Nat) (Option.none : Option Jvm.ClassFile.FieldType)) ∈ lw_all := lw_g (lw_at lw_m0 58 rfl) rfl
theorem q79 : (Jvm.Cond.instanceMethod ({ cls := "StablePartition", name := "step", desc := "(IIIZ)Z" } : Jvm.MethodName)) ∈ lw_all := lw_g (lw_at lw_m0 60 rfl) rfl
theorem q80 : (Jvm.Cond.selects "StablePartition" ({ cls := "StablePartition", name := "step", desc := "(IIIZ)Z" } : Jvm.MethodName) ({ cls := "StablePartition", name := "step", desc := "(IIIZ)Z" } : Jvm.MethodName)) ∈ lw_all := lw_g (lw_at lw_m0 61 rfl) rfl
theorem q81 : (Jvm.Cond.code ({ cls := "StablePartition", name := "step", desc := "(IIIZ)Z" } : Jvm.MethodName) prog_1_method_3_code (5 : Nat) (Option.some Jvm.ClassFile.FieldType.boolean)) ∈ lw_all := lw_g (lw_at lw_m0 62 rfl) rfl
theorem q83 : (Jvm.Cond.instanceMethod ({ cls := "StablePartition", name := "alike", desc := "(II)Z" } : Jvm.MethodName)) ∈ lw_all := lw_g (lw_at lw_m0 64 rfl) rfl
theorem q84 : (Jvm.Cond.selects "StablePartition" ({ cls := "StablePartition", name := "alike", desc := "(II)Z" } : Jvm.MethodName) ({ cls := "StablePartition", name := "alike", desc := "(II)Z" } : Jvm.MethodName)) ∈ lw_all := lw_g (lw_at lw_m0 65 rfl) rfl
theorem q85 : (Jvm.Cond.code ({ cls := "StablePartition", name := "alike", desc := "(II)Z" } : Jvm.MethodName) prog_1_method_6_code (3 : Nat) (Option.some Jvm.ClassFile.FieldType.boolean)) ∈ lw_all := lw_g (lw_at lw_m0 66 rfl) rfl
theorem q86 : (Jvm.Cond.methodLink "StablePartition" (43 : Nat) ({ cls := "StablePartition", name := "settle", desc := "()V" } : Jvm.MethodName)) ∈ lw_all := lw_g (lw_at lw_m0 67 rfl) rfl
theorem q87 : (Jvm.Cond.privateMethod ({ cls := "StablePartition", name := "settle", desc := "()V" } : Jvm.MethodName)) ∈ lw_tbl := lw_at lw_m0 68 rfl
theorem q88 : (Jvm.Cond.instanceMethod ({ cls := "StablePartition", name := "settle", desc := "()V" } : Jvm.MethodName)) ∈ lw_all := lw_g (lw_at lw_m0 69 rfl) rfl
theorem q89 : (Jvm.Cond.code ({ cls := "StablePartition", name := "settle", desc := "()V" } : Jvm.MethodName) prog_1_method_18_code (4 : Nat) (Option.none : Option Jvm.ClassFile.FieldType)) ∈ lw_all := lw_g (lw_at lw_m0 70 rfl) rfl
theorem q90 : (Jvm.Cond.methodLink "StablePartition" (66 : Nat) ({ cls := "StablePartition", name := "enqueue", desc := "(I)V" } : Jvm.MethodName)) ∈ lw_all := lw_g (lw_at lw_m0 71 rfl) rfl
theorem q91 : (Jvm.Cond.privateMethod ({ cls := "StablePartition", name := "enqueue", desc := "(I)V" } : Jvm.MethodName)) ∈ lw_tbl := lw_at lw_m0 72 rfl
theorem q92 : (Jvm.Cond.instanceMethod ({ cls := "StablePartition", name := "enqueue", desc := "(I)V" } : Jvm.MethodName)) ∈ lw_all := lw_g (lw_at lw_m0 73 rfl) rfl
theorem q93 : (Jvm.Cond.code ({ cls := "StablePartition", name := "enqueue", desc := "(I)V" } : Jvm.MethodName) prog_1_method_17_code (2 : Nat) (Option.none : Option Jvm.ClassFile.FieldType)) ∈ lw_all := lw_g (lw_at lw_m0 74 rfl) rfl
theorem q94 : (Jvm.Cond.methodLink "StablePartition" (70 : Nat) ({ cls := "StablePartition", name := "splitAll", desc := "(II)V" } : Jvm.MethodName)) ∈ lw_all := lw_g (lw_at lw_m0 75 rfl) rfl
theorem q95 : (Jvm.Cond.privateMethod ({ cls := "StablePartition", name := "splitAll", desc := "(II)V" } : Jvm.MethodName)) ∈ lw_tbl := lw_at lw_m0 76 rfl
theorem q96 : (Jvm.Cond.instanceMethod ({ cls := "StablePartition", name := "splitAll", desc := "(II)V" } : Jvm.MethodName)) ∈ lw_all := lw_g (lw_at lw_m0 77 rfl) rfl
theorem q97 : (Jvm.Cond.code ({ cls := "StablePartition", name := "splitAll", desc := "(II)V" } : Jvm.MethodName) prog_1_method_20_code (8 : Nat) (Option.none : Option Jvm.ClassFile.FieldType)) ∈ lw_all := lw_g (lw_at lw_m0 78 rfl) rfl
theorem q98 : (Jvm.Cond.methodLink "StablePartition" (77 : Nat) ({ cls := "StablePartition", name := "sourcesOf", desc := "(II)I" } : Jvm.MethodName)) ∈ lw_all := lw_g (lw_at lw_m0 79 rfl) rfl
theorem q99 : (Jvm.Cond.privateMethod ({ cls := "StablePartition", name := "sourcesOf", desc := "(II)I" } : Jvm.MethodName)) ∈ lw_tbl := lw_at lw_m0 80 rfl
theorem q100 : (Jvm.Cond.instanceMethod ({ cls := "StablePartition", name := "sourcesOf", desc := "(II)I" } : Jvm.MethodName)) ∈ lw_all := lw_g (lw_at lw_m0 81 rfl) rfl
theorem q101 : (Jvm.Cond.code ({ cls := "StablePartition", name := "sourcesOf", desc := "(II)I" } : Jvm.MethodName) prog_1_method_19_code (5 : Nat) (Option.some Jvm.ClassFile.FieldType.int)) ∈ lw_all := lw_g (lw_at lw_m0 82 rfl) rfl
theorem q102 : (Jvm.Cond.methodLink "StablePartition" (74 : Nat) ({ cls := "StablePartition", name := "findLeader", desc := "(I)V" } : Jvm.MethodName)) ∈ lw_all := lw_g (lw_at lw_m0 83 rfl) rfl
theorem q103 : (Jvm.Cond.privateMethod ({ cls := "StablePartition", name := "findLeader", desc := "(I)V" } : Jvm.MethodName)) ∈ lw_tbl := lw_at lw_m0 84 rfl
theorem q104 : (Jvm.Cond.instanceMethod ({ cls := "StablePartition", name := "findLeader", desc := "(I)V" } : Jvm.MethodName)) ∈ lw_all := lw_g (lw_at lw_m0 85 rfl) rfl
theorem q105 : (Jvm.Cond.code ({ cls := "StablePartition", name := "findLeader", desc := "(I)V" } : Jvm.MethodName) prog_1_method_21_code (4 : Nat) (Option.none : Option Jvm.ClassFile.FieldType)) ∈ lw_all := lw_g (lw_at lw_m0 86 rfl) rfl
theorem q107 : (Jvm.Cond.instanceMethod ({ cls := "StablePartition", name := "classes", desc := "()I" } : Jvm.MethodName)) ∈ lw_all := lw_g (lw_at lw_m0 88 rfl) rfl
theorem q108 : (Jvm.Cond.selects "StablePartition" ({ cls := "StablePartition", name := "classes", desc := "()I" } : Jvm.MethodName) ({ cls := "StablePartition", name := "classes", desc := "()I" } : Jvm.MethodName)) ∈ lw_all := lw_g (lw_at lw_m0 89 rfl) rfl
theorem q109 : (Jvm.Cond.code ({ cls := "StablePartition", name := "classes", desc := "()I" } : Jvm.MethodName) prog_1_method_7_code (1 : Nat) (Option.some Jvm.ClassFile.FieldType.int)) ∈ lw_all := lw_g (lw_at lw_m0 90 rfl) rfl
theorem q111 : (Jvm.Cond.instanceMethod ({ cls := "StablePartition", name := "leader", desc := "(I)I" } : Jvm.MethodName)) ∈ lw_all := lw_g (lw_at lw_m0 92 rfl) rfl
theorem q112 : (Jvm.Cond.selects "StablePartition" ({ cls := "StablePartition", name := "leader", desc := "(I)I" } : Jvm.MethodName) ({ cls := "StablePartition", name := "leader", desc := "(I)I" } : Jvm.MethodName)) ∈ lw_all := lw_g (lw_at lw_m0 93 rfl) rfl
theorem q113 : (Jvm.Cond.code ({ cls := "StablePartition", name := "leader", desc := "(I)I" } : Jvm.MethodName) prog_1_method_8_code (2 : Nat) (Option.some Jvm.ClassFile.FieldType.int)) ∈ lw_all := lw_g (lw_at lw_m0 94 rfl) rfl
theorem q115 : (Jvm.Cond.instanceMethod ({ cls := "StablePartition", name := "members", desc := "(I)I" } : Jvm.MethodName)) ∈ lw_all := lw_g (lw_at lw_m0 96 rfl) rfl
theorem q116 : (Jvm.Cond.selects "StablePartition" ({ cls := "StablePartition", name := "members", desc := "(I)I" } : Jvm.MethodName) ({ cls := "StablePartition", name := "members", desc := "(I)I" } : Jvm.MethodName)) ∈ lw_all := lw_g (lw_at lw_m0 97 rfl) rfl
theorem q117 : (Jvm.Cond.code ({ cls := "StablePartition", name := "members", desc := "(I)I" } : Jvm.MethodName) prog_1_method_9_code (4 : Nat) (Option.some Jvm.ClassFile.FieldType.int)) ∈ lw_all := lw_g (lw_at lw_m0 98 rfl) rfl
theorem q119 : (Jvm.Cond.instanceMethod ({ cls := "StablePartition", name := "told", desc := "(II)I" } : Jvm.MethodName)) ∈ lw_all := lw_g (lw_at lw_m0 100 rfl) rfl
theorem q120 : (Jvm.Cond.selects "StablePartition" ({ cls := "StablePartition", name := "told", desc := "(II)I" } : Jvm.MethodName) ({ cls := "StablePartition", name := "told", desc := "(II)I" } : Jvm.MethodName)) ∈ lw_all := lw_g (lw_at lw_m0 101 rfl) rfl
theorem q121 : (Jvm.Cond.code ({ cls := "StablePartition", name := "told", desc := "(II)I" } : Jvm.MethodName) prog_1_method_10_code (4 : Nat) (Option.some Jvm.ClassFile.FieldType.int)) ∈ lw_all := lw_g (lw_at lw_m0 102 rfl) rfl
theorem q122 : (Jvm.Cond.methodLink "StablePartition" (50 : Nat) ({ cls := "StablePartition", name := "findRounds", desc := "()V" } : Jvm.MethodName)) ∈ lw_all := lw_g (lw_at lw_m0 103 rfl) rfl
theorem q123 : (Jvm.Cond.privateMethod ({ cls := "StablePartition", name := "findRounds", desc := "()V" } : Jvm.MethodName)) ∈ lw_tbl := lw_at lw_m0 104 rfl
theorem q124 : (Jvm.Cond.instanceMethod ({ cls := "StablePartition", name := "findRounds", desc := "()V" } : Jvm.MethodName)) ∈ lw_all := lw_g (lw_at lw_m0 105 rfl) rfl
theorem q125 : (Jvm.Cond.code ({ cls := "StablePartition", name := "findRounds", desc := "()V" } : Jvm.MethodName) prog_1_method_22_code (3 : Nat) (Option.none : Option Jvm.ClassFile.FieldType)) ∈ lw_all := lw_g (lw_at lw_m0 106 rfl) rfl
theorem q126 : (Jvm.Cond.methodLink "StablePartition" (81 : Nat) ({ cls := "StablePartition", name := "nextRound", desc := "(I)Z" } : Jvm.MethodName)) ∈ lw_all := lw_g (lw_at lw_m0 107 rfl) rfl
theorem q127 : (Jvm.Cond.privateMethod ({ cls := "StablePartition", name := "nextRound", desc := "(I)Z" } : Jvm.MethodName)) ∈ lw_tbl := lw_at lw_m0 108 rfl
theorem q128 : (Jvm.Cond.instanceMethod ({ cls := "StablePartition", name := "nextRound", desc := "(I)Z" } : Jvm.MethodName)) ∈ lw_all := lw_g (lw_at lw_m0 109 rfl) rfl
theorem q129 : (Jvm.Cond.code ({ cls := "StablePartition", name := "nextRound", desc := "(I)Z" } : Jvm.MethodName) prog_1_method_23_code (5 : Nat) (Option.some Jvm.ClassFile.FieldType.boolean)) ∈ lw_all := lw_g (lw_at lw_m0 110 rfl) rfl
theorem q130 : (Jvm.Cond.methodLink "StablePartition" (84 : Nat) ({ cls := "StablePartition", name := "alikeAfter", desc := "(III)Z" } : Jvm.MethodName)) ∈ lw_all := lw_g (lw_at lw_m0 111 rfl) rfl
theorem q131 : (Jvm.Cond.privateMethod ({ cls := "StablePartition", name := "alikeAfter", desc := "(III)Z" } : Jvm.MethodName)) ∈ lw_tbl := lw_at lw_m0 112 rfl
theorem q132 : (Jvm.Cond.instanceMethod ({ cls := "StablePartition", name := "alikeAfter", desc := "(III)Z" } : Jvm.MethodName)) ∈ lw_all := lw_g (lw_at lw_m0 113 rfl) rfl
theorem q133 : (Jvm.Cond.code ({ cls := "StablePartition", name := "alikeAfter", desc := "(III)Z" } : Jvm.MethodName) prog_1_method_24_code (7 : Nat) (Option.some Jvm.ClassFile.FieldType.boolean)) ∈ lw_all := lw_g (lw_at lw_m0 114 rfl) rfl
theorem q134 : (Jvm.Cond.methodLink "StablePartition" (88 : Nat) ({ cls := "StablePartition", name := "classesOf", desc := "(II)I" } : Jvm.MethodName)) ∈ lw_all := lw_g (lw_at lw_m0 115 rfl) rfl
theorem q135 : (Jvm.Cond.privateMethod ({ cls := "StablePartition", name := "classesOf", desc := "(II)I" } : Jvm.MethodName)) ∈ lw_tbl := lw_at lw_m0 116 rfl
theorem q136 : (Jvm.Cond.instanceMethod ({ cls := "StablePartition", name := "classesOf", desc := "(II)I" } : Jvm.MethodName)) ∈ lw_all := lw_g (lw_at lw_m0 117 rfl) rfl
theorem q137 : (Jvm.Cond.code ({ cls := "StablePartition", name := "classesOf", desc := "(II)I" } : Jvm.MethodName) prog_1_method_25_code (5 : Nat) (Option.some Jvm.ClassFile.FieldType.int)) ∈ lw_all := lw_g (lw_at lw_m0 118 rfl) rfl
theorem q139 : (Jvm.Cond.instanceMethod ({ cls := "StablePartition", name := "leads", desc := "(II)I" } : Jvm.MethodName)) ∈ lw_all := lw_g (lw_at lw_m0 120 rfl) rfl
theorem q140 : (Jvm.Cond.selects "StablePartition" ({ cls := "StablePartition", name := "leads", desc := "(II)I" } : Jvm.MethodName) ({ cls := "StablePartition", name := "leads", desc := "(II)I" } : Jvm.MethodName)) ∈ lw_all := lw_g (lw_at lw_m0 121 rfl) rfl
theorem q141 : (Jvm.Cond.code ({ cls := "StablePartition", name := "leads", desc := "(II)I" } : Jvm.MethodName) prog_1_method_11_code (3 : Nat) (Option.some Jvm.ClassFile.FieldType.int)) ∈ lw_all := lw_g (lw_at lw_m0 122 rfl) rfl
theorem q142 : (Jvm.Cond.methodLink "StablePartition" (56 : Nat) ({ cls := "StablePartition", name := "leadersOf", desc := "(I)I" } : Jvm.MethodName)) ∈ lw_all := lw_g (lw_at lw_m0 123 rfl) rfl
theorem q143 : (Jvm.Cond.privateMethod ({ cls := "StablePartition", name := "leadersOf", desc := "(I)I" } : Jvm.MethodName)) ∈ lw_tbl := lw_at lw_m0 124 rfl
theorem q144 : (Jvm.Cond.instanceMethod ({ cls := "StablePartition", name := "leadersOf", desc := "(I)I" } : Jvm.MethodName)) ∈ lw_all := lw_g (lw_at lw_m0 125 rfl) rfl
theorem q145 : (Jvm.Cond.code ({ cls := "StablePartition", name := "leadersOf", desc := "(I)I" } : Jvm.MethodName) prog_1_method_16_code (4 : Nat) (Option.some Jvm.ClassFile.FieldType.int)) ∈ lw_all := lw_g (lw_at lw_m0 126 rfl) rfl
theorem q147 : (Jvm.Cond.instanceMethod ({ cls := "StablePartition", name := "colours", desc := "()I" } : Jvm.MethodName)) ∈ lw_all := lw_g (lw_at lw_m0 128 rfl) rfl
theorem q148 : (Jvm.Cond.selects "StablePartition" ({ cls := "StablePartition", name := "colours", desc := "()I" } : Jvm.MethodName) ({ cls := "StablePartition", name := "colours", desc := "()I" } : Jvm.MethodName)) ∈ lw_all := lw_g (lw_at lw_m0 129 rfl) rfl
theorem q149 : (Jvm.Cond.code ({ cls := "StablePartition", name := "colours", desc := "()I" } : Jvm.MethodName) prog_1_method_12_code (3 : Nat) (Option.some Jvm.ClassFile.FieldType.int)) ∈ lw_all := lw_g (lw_at lw_m0 130 rfl) rfl
theorem q150 : (Jvm.Cond.methodLink "StablePartition" (60 : Nat) ({ cls := "StablePartition", name := "bitsIn", desc := "(I)I" } : Jvm.MethodName)) ∈ lw_all := lw_g (lw_at lw_m0 131 rfl) rfl
theorem q151 : (Jvm.Cond.privateMethod ({ cls := "StablePartition", name := "bitsIn", desc := "(I)I" } : Jvm.MethodName)) ∈ lw_tbl := lw_at lw_m0 132 rfl
theorem q152 : (Jvm.Cond.instanceMethod ({ cls := "StablePartition", name := "bitsIn", desc := "(I)I" } : Jvm.MethodName)) ∈ lw_all := lw_g (lw_at lw_m0 133 rfl) rfl
theorem q153 : (Jvm.Cond.code ({ cls := "StablePartition", name := "bitsIn", desc := "(I)I" } : Jvm.MethodName) prog_1_method_15_code (4 : Nat) (Option.some Jvm.ClassFile.FieldType.int)) ∈ lw_all := lw_g (lw_at lw_m0 134 rfl) rfl
theorem q155 : (Jvm.Cond.instanceMethod ({ cls := "StablePartition", name := "reduce", desc := "()I" } : Jvm.MethodName)) ∈ lw_all := lw_g (lw_at lw_m0 136 rfl) rfl
theorem q156 : (Jvm.Cond.selects "StablePartition" ({ cls := "StablePartition", name := "reduce", desc := "()I" } : Jvm.MethodName) ({ cls := "StablePartition", name := "reduce", desc := "()I" } : Jvm.MethodName)) ∈ lw_all := lw_g (lw_at lw_m0 137 rfl) rfl
theorem q157 : (Jvm.Cond.code ({ cls := "StablePartition", name := "reduce", desc := "()I" } : Jvm.MethodName) prog_1_method_13_code (3 : Nat) (Option.some Jvm.ClassFile.FieldType.int)) ∈ lw_all := lw_g (lw_at lw_m0 138 rfl) rfl
theorem q159 : (Jvm.Cond.instanceMethod ({ cls := "StablePartition", name := "rounds", desc := "()I" } : Jvm.MethodName)) ∈ lw_all := lw_g (lw_at lw_m0 140 rfl) rfl
theorem q160 : (Jvm.Cond.selects "StablePartition" ({ cls := "StablePartition", name := "rounds", desc := "()I" } : Jvm.MethodName) ({ cls := "StablePartition", name := "rounds", desc := "()I" } : Jvm.MethodName)) ∈ lw_all := lw_g (lw_at lw_m0 141 rfl) rfl
theorem q161 : (Jvm.Cond.code ({ cls := "StablePartition", name := "rounds", desc := "()I" } : Jvm.MethodName) prog_1_method_14_code (1 : Nat) (Option.some Jvm.ClassFile.FieldType.int)) ∈ lw_all := lw_g (lw_at lw_m0 142 rfl) rfl
theorem in_X0 : ∀ w ∈ wsX00, w ∈ lw_all := lw_in wsX00 [41, 43, 45, 47, 49, 51, 53, 55, 57, 59, 61] (by decide +kernel) (by decide +kernel)
end
section
/-! StablePartitionModel -/
set_option maxRecDepth 100000
def RX1 : String := "StablePartitionModel"
def TX1 : u_T := fun k => match k with
  | 0 => ("StablePartitionModel", "colours", "[I", true)
  | 1 => ("StablePartitionModel", "steps", "[Z", true)
  | 2 => ("StablePartitionModel", "now", "[Z", true)
  | _ => ("StablePartitionModel", "after", "[Z", true)
def tyX1 : Nat → FieldType := fun k => match k with
  | 0 => .array .int
  | 1 => .array .boolean
  | 2 => .array .boolean
  | _ => .array .boolean
abbrev wsX10 : List Cond := u_ws RX1 TX1 4
theorem nmX1 : ∀ a, a < 4 → ∀ b, b < 4 → a ≠ b → (TX1 a).2.1 ≠ (TX1 b).2.1 := by decide +kernel
theorem tyX1_ok : ∀ k, k < 4 → parseFieldDescriptor (TX1 k).2.2.1 = some (tyX1 k) := by decide +kernel
abbrev cX1_init : ByteArray := prog_3_method_1_code
def yX1_init : MethodName := ⟨RX1, "<init>", "()V"⟩
theorem dX1_init_0 : decode cX1_init 0 = .ok (.aload_n 0, 1) := by decide +kernel
theorem dX1_init_1 : decode cX1_init 1 = .ok (.invokespecial 1, 3) := by decide +kernel
theorem dX1_init_4 : decode cX1_init 4 = .ok (.aload_n 0, 1) := by decide +kernel
theorem dX1_init_5 : decode cX1_init 5 = .ok (.bipush 10, 2) := by decide +kernel
theorem dX1_init_7 : decode cX1_init 7 = .ok (.newarray .int, 2) := by decide +kernel
theorem dX1_init_9 : decode cX1_init 9 = .ok (.putfield 7, 3) := by decide +kernel
theorem dX1_init_12 : decode cX1_init 12 = .ok (.aload_n 0, 1) := by decide +kernel
theorem dX1_init_13 : decode cX1_init 13 = .ok (.sipush 200, 3) := by decide +kernel
theorem dX1_init_16 : decode cX1_init 16 = .ok (.newarray .boolean, 2) := by decide +kernel
theorem dX1_init_18 : decode cX1_init 18 = .ok (.putfield 13, 3) := by decide +kernel
theorem dX1_init_21 : decode cX1_init 21 = .ok (.aload_n 0, 1) := by decide +kernel
theorem dX1_init_22 : decode cX1_init 22 = .ok (.bipush 100, 2) := by decide +kernel
theorem dX1_init_24 : decode cX1_init 24 = .ok (.newarray .boolean, 2) := by decide +kernel
theorem dX1_init_26 : decode cX1_init 26 = .ok (.putfield 17, 3) := by decide +kernel
theorem dX1_init_29 : decode cX1_init 29 = .ok (.aload_n 0, 1) := by decide +kernel
theorem dX1_init_30 : decode cX1_init 30 = .ok (.bipush 100, 2) := by decide +kernel
theorem dX1_init_32 : decode cX1_init 32 = .ok (.newarray .boolean, 2) := by decide +kernel
theorem dX1_init_34 : decode cX1_init 34 = .ok (.putfield 20, 3) := by decide +kernel
theorem dX1_init_37 : decode cX1_init 37 = .ok (.return_, 1) := by decide +kernel
abbrev cX1_colour : ByteArray := prog_3_method_3_code
def yX1_colour : MethodName := ⟨RX1, "colour", "(II)Z"⟩
theorem dX1_colour_0 : decode cX1_colour 0 = .ok (.aload_n 0, 1) := by decide +kernel
theorem dX1_colour_1 : decode cX1_colour 1 = .ok (.iload_n 1, 1) := by decide +kernel
theorem dX1_colour_2 : decode cX1_colour 2 = .ok (.invokevirtual 23, 3) := by decide +kernel
theorem dX1_colour_5 : decode cX1_colour 5 = .ok (.ifCond .eq 12, 3) := by decide +kernel
theorem dX1_colour_8 : decode cX1_colour 8 = .ok (.iload_n 2, 1) := by decide +kernel
theorem dX1_colour_9 : decode cX1_colour 9 = .ok (.ifCond .lt 8, 3) := by decide +kernel
theorem dX1_colour_12 : decode cX1_colour 12 = .ok (.iload_n 2, 1) := by decide +kernel
theorem dX1_colour_13 : decode cX1_colour 13 = .ok (.iconst 3, 1) := by decide +kernel
theorem dX1_colour_14 : decode cX1_colour 14 = .ok (.if_icmp .le 5, 3) := by decide +kernel
theorem dX1_colour_17 : decode cX1_colour 17 = .ok (.iconst 0, 1) := by decide +kernel
theorem dX1_colour_18 : decode cX1_colour 18 = .ok (.ireturn, 1) := by decide +kernel
theorem dX1_colour_19 : decode cX1_colour 19 = .ok (.aload_n 0, 1) := by decide +kernel
theorem dX1_colour_20 : decode cX1_colour 20 = .ok (.getfield 7, 3) := by decide +kernel
theorem dX1_colour_23 : decode cX1_colour 23 = .ok (.iload_n 1, 1) := by decide +kernel
theorem dX1_colour_24 : decode cX1_colour 24 = .ok (.iload_n 2, 1) := by decide +kernel
theorem dX1_colour_25 : decode cX1_colour 25 = .ok (.iastore, 1) := by decide +kernel
theorem dX1_colour_26 : decode cX1_colour 26 = .ok (.iconst 1, 1) := by decide +kernel
theorem dX1_colour_27 : decode cX1_colour 27 = .ok (.ireturn, 1) := by decide +kernel
abbrev cX1_isState : ByteArray := prog_3_method_2_code
def yX1_isState : MethodName := ⟨RX1, "isState", "(I)Z"⟩
theorem dX1_isState_0 : decode cX1_isState 0 = .ok (.iload_n 1, 1) := by decide +kernel
theorem dX1_isState_1 : decode cX1_isState 1 = .ok (.ifCond .lt 13, 3) := by decide +kernel
theorem dX1_isState_4 : decode cX1_isState 4 = .ok (.iload_n 1, 1) := by decide +kernel
theorem dX1_isState_5 : decode cX1_isState 5 = .ok (.bipush 10, 2) := by decide +kernel
theorem dX1_isState_7 : decode cX1_isState 7 = .ok (.if_icmp .ge 7, 3) := by decide +kernel
theorem dX1_isState_10 : decode cX1_isState 10 = .ok (.iconst 1, 1) := by decide +kernel
theorem dX1_isState_11 : decode cX1_isState 11 = .ok (.goto 4, 3) := by decide +kernel
theorem dX1_isState_14 : decode cX1_isState 14 = .ok (.iconst 0, 1) := by decide +kernel
theorem dX1_isState_15 : decode cX1_isState 15 = .ok (.ireturn, 1) := by decide +kernel
abbrev cX1_step : ByteArray := prog_3_method_4_code
def yX1_step : MethodName := ⟨RX1, "step", "(IIIZ)Z"⟩
theorem dX1_step_0 : decode cX1_step 0 = .ok (.iload_n 1, 1) := by decide +kernel
theorem dX1_step_1 : decode cX1_step 1 = .ok (.ifCond .lt 24, 3) := by decide +kernel
theorem dX1_step_4 : decode cX1_step 4 = .ok (.iload_n 1, 1) := by decide +kernel
theorem dX1_step_5 : decode cX1_step 5 = .ok (.iconst 1, 1) := by decide +kernel
theorem dX1_step_6 : decode cX1_step 6 = .ok (.if_icmp .gt 19, 3) := by decide +kernel
theorem dX1_step_9 : decode cX1_step 9 = .ok (.aload_n 0, 1) := by decide +kernel
theorem dX1_step_10 : decode cX1_step 10 = .ok (.iload_n 2, 1) := by decide +kernel
theorem dX1_step_11 : decode cX1_step 11 = .ok (.invokevirtual 23, 3) := by decide +kernel
theorem dX1_step_14 : decode cX1_step 14 = .ok (.ifCond .eq 11, 3) := by decide +kernel
theorem dX1_step_17 : decode cX1_step 17 = .ok (.aload_n 0, 1) := by decide +kernel
theorem dX1_step_18 : decode cX1_step 18 = .ok (.iload_n 3, 1) := by decide +kernel
theorem dX1_step_19 : decode cX1_step 19 = .ok (.invokevirtual 23, 3) := by decide +kernel
theorem dX1_step_22 : decode cX1_step 22 = .ok (.ifCond .ne 5, 3) := by decide +kernel
theorem dX1_step_25 : decode cX1_step 25 = .ok (.iconst 0, 1) := by decide +kernel
theorem dX1_step_26 : decode cX1_step 26 = .ok (.ireturn, 1) := by decide +kernel
theorem dX1_step_27 : decode cX1_step 27 = .ok (.aload_n 0, 1) := by decide +kernel
theorem dX1_step_28 : decode cX1_step 28 = .ok (.getfield 13, 3) := by decide +kernel
theorem dX1_step_31 : decode cX1_step 31 = .ok (.iload_n 1, 1) := by decide +kernel
theorem dX1_step_32 : decode cX1_step 32 = .ok (.bipush 100, 2) := by decide +kernel
theorem dX1_step_34 : decode cX1_step 34 = .ok (.imul, 1) := by decide +kernel
theorem dX1_step_35 : decode cX1_step 35 = .ok (.iload_n 2, 1) := by decide +kernel
theorem dX1_step_36 : decode cX1_step 36 = .ok (.bipush 10, 2) := by decide +kernel
theorem dX1_step_38 : decode cX1_step 38 = .ok (.imul, 1) := by decide +kernel
theorem dX1_step_39 : decode cX1_step 39 = .ok (.iadd, 1) := by decide +kernel
theorem dX1_step_40 : decode cX1_step 40 = .ok (.iload_n 3, 1) := by decide +kernel
theorem dX1_step_41 : decode cX1_step 41 = .ok (.iadd, 1) := by decide +kernel
theorem dX1_step_42 : decode cX1_step 42 = .ok (.iload 4, 2) := by decide +kernel
theorem dX1_step_44 : decode cX1_step 44 = .ok (.bastore, 1) := by decide +kernel
theorem dX1_step_45 : decode cX1_step 45 = .ok (.iconst 1, 1) := by decide +kernel
theorem dX1_step_46 : decode cX1_step 46 = .ok (.ireturn, 1) := by decide +kernel
abbrev cX1_alike : ByteArray := prog_3_method_9_code
def yX1_alike : MethodName := ⟨RX1, "alike", "(II)Z"⟩
theorem dX1_alike_0 : decode cX1_alike 0 = .ok (.aload_n 0, 1) := by decide +kernel
theorem dX1_alike_1 : decode cX1_alike 1 = .ok (.iload_n 1, 1) := by decide +kernel
theorem dX1_alike_2 : decode cX1_alike 2 = .ok (.invokevirtual 23, 3) := by decide +kernel
theorem dX1_alike_5 : decode cX1_alike 5 = .ok (.ifCond .eq 11, 3) := by decide +kernel
theorem dX1_alike_8 : decode cX1_alike 8 = .ok (.aload_n 0, 1) := by decide +kernel
theorem dX1_alike_9 : decode cX1_alike 9 = .ok (.iload_n 2, 1) := by decide +kernel
theorem dX1_alike_10 : decode cX1_alike 10 = .ok (.invokevirtual 23, 3) := by decide +kernel
theorem dX1_alike_13 : decode cX1_alike 13 = .ok (.ifCond .ne 5, 3) := by decide +kernel
theorem dX1_alike_16 : decode cX1_alike 16 = .ok (.iconst 0, 1) := by decide +kernel
theorem dX1_alike_17 : decode cX1_alike 17 = .ok (.ireturn, 1) := by decide +kernel
theorem dX1_alike_18 : decode cX1_alike 18 = .ok (.aload_n 0, 1) := by decide +kernel
theorem dX1_alike_19 : decode cX1_alike 19 = .ok (.invokevirtual 38, 3) := by decide +kernel
theorem dX1_alike_22 : decode cX1_alike 22 = .ok (.pop, 1) := by decide +kernel
theorem dX1_alike_23 : decode cX1_alike 23 = .ok (.aload_n 0, 1) := by decide +kernel
theorem dX1_alike_24 : decode cX1_alike 24 = .ok (.getfield 17, 3) := by decide +kernel
theorem dX1_alike_27 : decode cX1_alike 27 = .ok (.iload_n 1, 1) := by decide +kernel
theorem dX1_alike_28 : decode cX1_alike 28 = .ok (.bipush 10, 2) := by decide +kernel
theorem dX1_alike_30 : decode cX1_alike 30 = .ok (.imul, 1) := by decide +kernel
theorem dX1_alike_31 : decode cX1_alike 31 = .ok (.iload_n 2, 1) := by decide +kernel
theorem dX1_alike_32 : decode cX1_alike 32 = .ok (.iadd, 1) := by decide +kernel
theorem dX1_alike_33 : decode cX1_alike 33 = .ok (.baload, 1) := by decide +kernel
theorem dX1_alike_34 : decode cX1_alike 34 = .ok (.ireturn, 1) := by decide +kernel
abbrev cX1_settle : ByteArray := prog_3_method_8_code
def yX1_settle : MethodName := ⟨RX1, "settle", "()I"⟩
theorem dX1_settle_0 : decode cX1_settle 0 = .ok (.iconst 0, 1) := by decide +kernel
theorem dX1_settle_1 : decode cX1_settle 1 = .ok (.istore_n 1, 1) := by decide +kernel
theorem dX1_settle_2 : decode cX1_settle 2 = .ok (.aload_n 0, 1) := by decide +kernel
theorem dX1_settle_3 : decode cX1_settle 3 = .ok (.invokevirtual 31, 3) := by decide +kernel
theorem dX1_settle_6 : decode cX1_settle 6 = .ok (.iload_n 1, 1) := by decide +kernel
theorem dX1_settle_7 : decode cX1_settle 7 = .ok (.bipush 100, 2) := by decide +kernel
theorem dX1_settle_9 : decode cX1_settle 9 = .ok (.if_icmp .ge 16, 3) := by decide +kernel
theorem dX1_settle_12 : decode cX1_settle 12 = .ok (.aload_n 0, 1) := by decide +kernel
theorem dX1_settle_13 : decode cX1_settle 13 = .ok (.invokevirtual 34, 3) := by decide +kernel
theorem dX1_settle_16 : decode cX1_settle 16 = .ok (.ifCond .eq 9, 3) := by decide +kernel
theorem dX1_settle_19 : decode cX1_settle 19 = .ok (.iinc 1 1, 3) := by decide +kernel
theorem dX1_settle_22 : decode cX1_settle 22 = .ok (.goto (-16), 3) := by decide +kernel
theorem dX1_settle_25 : decode cX1_settle 25 = .ok (.iload_n 1, 1) := by decide +kernel
theorem dX1_settle_26 : decode cX1_settle 26 = .ok (.ireturn, 1) := by decide +kernel
abbrev cX1_begin : ByteArray := prog_3_method_5_code
def yX1_begin : MethodName := ⟨RX1, "begin", "()V"⟩
theorem dX1_begin_0 : decode cX1_begin 0 = .ok (.iconst 0, 1) := by decide +kernel
theorem dX1_begin_1 : decode cX1_begin 1 = .ok (.istore_n 1, 1) := by decide +kernel
theorem dX1_begin_2 : decode cX1_begin 2 = .ok (.iload_n 1, 1) := by decide +kernel
theorem dX1_begin_3 : decode cX1_begin 3 = .ok (.bipush 100, 2) := by decide +kernel
theorem dX1_begin_5 : decode cX1_begin 5 = .ok (.if_icmp .ge 41, 3) := by decide +kernel
theorem dX1_begin_8 : decode cX1_begin 8 = .ok (.aload_n 0, 1) := by decide +kernel
theorem dX1_begin_9 : decode cX1_begin 9 = .ok (.getfield 17, 3) := by decide +kernel
theorem dX1_begin_12 : decode cX1_begin 12 = .ok (.iload_n 1, 1) := by decide +kernel
theorem dX1_begin_13 : decode cX1_begin 13 = .ok (.aload_n 0, 1) := by decide +kernel
theorem dX1_begin_14 : decode cX1_begin 14 = .ok (.getfield 7, 3) := by decide +kernel
theorem dX1_begin_17 : decode cX1_begin 17 = .ok (.iload_n 1, 1) := by decide +kernel
theorem dX1_begin_18 : decode cX1_begin 18 = .ok (.bipush 10, 2) := by decide +kernel
theorem dX1_begin_20 : decode cX1_begin 20 = .ok (.idiv, 1) := by decide +kernel
theorem dX1_begin_21 : decode cX1_begin 21 = .ok (.iaload, 1) := by decide +kernel
theorem dX1_begin_22 : decode cX1_begin 22 = .ok (.aload_n 0, 1) := by decide +kernel
theorem dX1_begin_23 : decode cX1_begin 23 = .ok (.getfield 7, 3) := by decide +kernel
theorem dX1_begin_26 : decode cX1_begin 26 = .ok (.iload_n 1, 1) := by decide +kernel
theorem dX1_begin_27 : decode cX1_begin 27 = .ok (.bipush 10, 2) := by decide +kernel
theorem dX1_begin_29 : decode cX1_begin 29 = .ok (.irem, 1) := by decide +kernel
theorem dX1_begin_30 : decode cX1_begin 30 = .ok (.iaload, 1) := by decide +kernel
theorem dX1_begin_31 : decode cX1_begin 31 = .ok (.if_icmp .ne 7, 3) := by decide +kernel
theorem dX1_begin_34 : decode cX1_begin 34 = .ok (.iconst 1, 1) := by decide +kernel
theorem dX1_begin_35 : decode cX1_begin 35 = .ok (.goto 4, 3) := by decide +kernel
theorem dX1_begin_38 : decode cX1_begin 38 = .ok (.iconst 0, 1) := by decide +kernel
theorem dX1_begin_39 : decode cX1_begin 39 = .ok (.bastore, 1) := by decide +kernel
theorem dX1_begin_40 : decode cX1_begin 40 = .ok (.iinc 1 1, 3) := by decide +kernel
theorem dX1_begin_43 : decode cX1_begin 43 = .ok (.goto (-41), 3) := by decide +kernel
theorem dX1_begin_46 : decode cX1_begin 46 = .ok (.return_, 1) := by decide +kernel
abbrev cX1_round : ByteArray := prog_3_method_7_code
def yX1_round : MethodName := ⟨RX1, "round", "()Z"⟩
theorem dX1_round_0 : decode cX1_round 0 = .ok (.iconst 0, 1) := by decide +kernel
theorem dX1_round_1 : decode cX1_round 1 = .ok (.istore_n 1, 1) := by decide +kernel
theorem dX1_round_2 : decode cX1_round 2 = .ok (.iconst 0, 1) := by decide +kernel
theorem dX1_round_3 : decode cX1_round 3 = .ok (.istore_n 2, 1) := by decide +kernel
theorem dX1_round_4 : decode cX1_round 4 = .ok (.iload_n 2, 1) := by decide +kernel
theorem dX1_round_5 : decode cX1_round 5 = .ok (.bipush 100, 2) := by decide +kernel
theorem dX1_round_7 : decode cX1_round 7 = .ok (.if_icmp .ge 101, 3) := by decide +kernel
theorem dX1_round_10 : decode cX1_round 10 = .ok (.iload_n 2, 1) := by decide +kernel
theorem dX1_round_11 : decode cX1_round 11 = .ok (.bipush 10, 2) := by decide +kernel
theorem dX1_round_13 : decode cX1_round 13 = .ok (.idiv, 1) := by decide +kernel
theorem dX1_round_14 : decode cX1_round 14 = .ok (.istore_n 3, 1) := by decide +kernel
theorem dX1_round_15 : decode cX1_round 15 = .ok (.iload_n 2, 1) := by decide +kernel
theorem dX1_round_16 : decode cX1_round 16 = .ok (.bipush 10, 2) := by decide +kernel
theorem dX1_round_18 : decode cX1_round 18 = .ok (.irem, 1) := by decide +kernel
theorem dX1_round_19 : decode cX1_round 19 = .ok (.istore 4, 2) := by decide +kernel
theorem dX1_round_21 : decode cX1_round 21 = .ok (.aload_n 0, 1) := by decide +kernel
theorem dX1_round_22 : decode cX1_round 22 = .ok (.getfield 20, 3) := by decide +kernel
theorem dX1_round_25 : decode cX1_round 25 = .ok (.iload_n 2, 1) := by decide +kernel
theorem dX1_round_26 : decode cX1_round 26 = .ok (.aload_n 0, 1) := by decide +kernel
theorem dX1_round_27 : decode cX1_round 27 = .ok (.getfield 17, 3) := by decide +kernel
theorem dX1_round_30 : decode cX1_round 30 = .ok (.iload_n 2, 1) := by decide +kernel
theorem dX1_round_31 : decode cX1_round 31 = .ok (.baload, 1) := by decide +kernel
theorem dX1_round_32 : decode cX1_round 32 = .ok (.ifCond .eq 51, 3) := by decide +kernel
theorem dX1_round_35 : decode cX1_round 35 = .ok (.aload_n 0, 1) := by decide +kernel
theorem dX1_round_36 : decode cX1_round 36 = .ok (.iconst 0, 1) := by decide +kernel
theorem dX1_round_37 : decode cX1_round 37 = .ok (.iload_n 3, 1) := by decide +kernel
theorem dX1_round_38 : decode cX1_round 38 = .ok (.iload 4, 2) := by decide +kernel
theorem dX1_round_40 : decode cX1_round 40 = .ok (.invokevirtual 27, 3) := by decide +kernel
theorem dX1_round_43 : decode cX1_round 43 = .ok (.ifCond .eq 40, 3) := by decide +kernel
theorem dX1_round_46 : decode cX1_round 46 = .ok (.aload_n 0, 1) := by decide +kernel
theorem dX1_round_47 : decode cX1_round 47 = .ok (.iconst 0, 1) := by decide +kernel
theorem dX1_round_48 : decode cX1_round 48 = .ok (.iload 4, 2) := by decide +kernel
theorem dX1_round_50 : decode cX1_round 50 = .ok (.iload_n 3, 1) := by decide +kernel
theorem dX1_round_51 : decode cX1_round 51 = .ok (.invokevirtual 27, 3) := by decide +kernel
theorem dX1_round_54 : decode cX1_round 54 = .ok (.ifCond .eq 29, 3) := by decide +kernel
theorem dX1_round_57 : decode cX1_round 57 = .ok (.aload_n 0, 1) := by decide +kernel
theorem dX1_round_58 : decode cX1_round 58 = .ok (.iconst 1, 1) := by decide +kernel
theorem dX1_round_59 : decode cX1_round 59 = .ok (.iload_n 3, 1) := by decide +kernel
theorem dX1_round_60 : decode cX1_round 60 = .ok (.iload 4, 2) := by decide +kernel
theorem dX1_round_62 : decode cX1_round 62 = .ok (.invokevirtual 27, 3) := by decide +kernel
theorem dX1_round_65 : decode cX1_round 65 = .ok (.ifCond .eq 18, 3) := by decide +kernel
theorem dX1_round_68 : decode cX1_round 68 = .ok (.aload_n 0, 1) := by decide +kernel
theorem dX1_round_69 : decode cX1_round 69 = .ok (.iconst 1, 1) := by decide +kernel
theorem dX1_round_70 : decode cX1_round 70 = .ok (.iload 4, 2) := by decide +kernel
theorem dX1_round_72 : decode cX1_round 72 = .ok (.iload_n 3, 1) := by decide +kernel
theorem dX1_round_73 : decode cX1_round 73 = .ok (.invokevirtual 27, 3) := by decide +kernel
theorem dX1_round_76 : decode cX1_round 76 = .ok (.ifCond .eq 7, 3) := by decide +kernel
theorem dX1_round_79 : decode cX1_round 79 = .ok (.iconst 1, 1) := by decide +kernel
theorem dX1_round_80 : decode cX1_round 80 = .ok (.goto 4, 3) := by decide +kernel
theorem dX1_round_83 : decode cX1_round 83 = .ok (.iconst 0, 1) := by decide +kernel
theorem dX1_round_84 : decode cX1_round 84 = .ok (.bastore, 1) := by decide +kernel
theorem dX1_round_85 : decode cX1_round 85 = .ok (.aload_n 0, 1) := by decide +kernel
theorem dX1_round_86 : decode cX1_round 86 = .ok (.getfield 20, 3) := by decide +kernel
theorem dX1_round_89 : decode cX1_round 89 = .ok (.iload_n 2, 1) := by decide +kernel
theorem dX1_round_90 : decode cX1_round 90 = .ok (.baload, 1) := by decide +kernel
theorem dX1_round_91 : decode cX1_round 91 = .ok (.aload_n 0, 1) := by decide +kernel
theorem dX1_round_92 : decode cX1_round 92 = .ok (.getfield 17, 3) := by decide +kernel
theorem dX1_round_95 : decode cX1_round 95 = .ok (.iload_n 2, 1) := by decide +kernel
theorem dX1_round_96 : decode cX1_round 96 = .ok (.baload, 1) := by decide +kernel
theorem dX1_round_97 : decode cX1_round 97 = .ok (.if_icmp .eq 5, 3) := by decide +kernel
theorem dX1_round_100 : decode cX1_round 100 = .ok (.iconst 1, 1) := by decide +kernel
theorem dX1_round_101 : decode cX1_round 101 = .ok (.istore_n 1, 1) := by decide +kernel
theorem dX1_round_102 : decode cX1_round 102 = .ok (.iinc 2 1, 3) := by decide +kernel
theorem dX1_round_105 : decode cX1_round 105 = .ok (.goto (-101), 3) := by decide +kernel
theorem dX1_round_108 : decode cX1_round 108 = .ok (.iconst 0, 1) := by decide +kernel
theorem dX1_round_109 : decode cX1_round 109 = .ok (.istore_n 2, 1) := by decide +kernel
theorem dX1_round_110 : decode cX1_round 110 = .ok (.iload_n 2, 1) := by decide +kernel
theorem dX1_round_111 : decode cX1_round 111 = .ok (.bipush 100, 2) := by decide +kernel
theorem dX1_round_113 : decode cX1_round 113 = .ok (.if_icmp .ge 21, 3) := by decide +kernel
theorem dX1_round_116 : decode cX1_round 116 = .ok (.aload_n 0, 1) := by decide +kernel
theorem dX1_round_117 : decode cX1_round 117 = .ok (.getfield 17, 3) := by decide +kernel
theorem dX1_round_120 : decode cX1_round 120 = .ok (.iload_n 2, 1) := by decide +kernel
theorem dX1_round_121 : decode cX1_round 121 = .ok (.aload_n 0, 1) := by decide +kernel
theorem dX1_round_122 : decode cX1_round 122 = .ok (.getfield 20, 3) := by decide +kernel
theorem dX1_round_125 : decode cX1_round 125 = .ok (.iload_n 2, 1) := by decide +kernel
theorem dX1_round_126 : decode cX1_round 126 = .ok (.baload, 1) := by decide +kernel
theorem dX1_round_127 : decode cX1_round 127 = .ok (.bastore, 1) := by decide +kernel
theorem dX1_round_128 : decode cX1_round 128 = .ok (.iinc 2 1, 3) := by decide +kernel
theorem dX1_round_131 : decode cX1_round 131 = .ok (.goto (-21), 3) := by decide +kernel
theorem dX1_round_134 : decode cX1_round 134 = .ok (.iload_n 1, 1) := by decide +kernel
theorem dX1_round_135 : decode cX1_round 135 = .ok (.ireturn, 1) := by decide +kernel
abbrev cX1_answered : ByteArray := prog_3_method_6_code
def yX1_answered : MethodName := ⟨RX1, "answered", "(III)Z"⟩
theorem dX1_answered_0 : decode cX1_answered 0 = .ok (.iconst 0, 1) := by decide +kernel
theorem dX1_answered_1 : decode cX1_answered 1 = .ok (.istore 4, 2) := by decide +kernel
theorem dX1_answered_3 : decode cX1_answered 3 = .ok (.iload 4, 2) := by decide +kernel
theorem dX1_answered_5 : decode cX1_answered 5 = .ok (.bipush 10, 2) := by decide +kernel
theorem dX1_answered_7 : decode cX1_answered 7 = .ok (.if_icmp .ge 107, 3) := by decide +kernel
theorem dX1_answered_10 : decode cX1_answered 10 = .ok (.aload_n 0, 1) := by decide +kernel
theorem dX1_answered_11 : decode cX1_answered 11 = .ok (.getfield 13, 3) := by decide +kernel
theorem dX1_answered_14 : decode cX1_answered 14 = .ok (.iload_n 1, 1) := by decide +kernel
theorem dX1_answered_15 : decode cX1_answered 15 = .ok (.bipush 100, 2) := by decide +kernel
theorem dX1_answered_17 : decode cX1_answered 17 = .ok (.imul, 1) := by decide +kernel
theorem dX1_answered_18 : decode cX1_answered 18 = .ok (.iload_n 2, 1) := by decide +kernel
theorem dX1_answered_19 : decode cX1_answered 19 = .ok (.bipush 10, 2) := by decide +kernel
theorem dX1_answered_21 : decode cX1_answered 21 = .ok (.imul, 1) := by decide +kernel
theorem dX1_answered_22 : decode cX1_answered 22 = .ok (.iadd, 1) := by decide +kernel
theorem dX1_answered_23 : decode cX1_answered 23 = .ok (.iload 4, 2) := by decide +kernel
theorem dX1_answered_25 : decode cX1_answered 25 = .ok (.iadd, 1) := by decide +kernel
theorem dX1_answered_26 : decode cX1_answered 26 = .ok (.baload, 1) := by decide +kernel
theorem dX1_answered_27 : decode cX1_answered 27 = .ok (.ifCond .ne 7, 3) := by decide +kernel
theorem dX1_answered_30 : decode cX1_answered 30 = .ok (.iconst 1, 1) := by decide +kernel
theorem dX1_answered_31 : decode cX1_answered 31 = .ok (.goto 4, 3) := by decide +kernel
theorem dX1_answered_34 : decode cX1_answered 34 = .ok (.iconst 0, 1) := by decide +kernel
theorem dX1_answered_35 : decode cX1_answered 35 = .ok (.istore 5, 2) := by decide +kernel
theorem dX1_answered_37 : decode cX1_answered 37 = .ok (.iconst 0, 1) := by decide +kernel
theorem dX1_answered_38 : decode cX1_answered 38 = .ok (.istore 6, 2) := by decide +kernel
theorem dX1_answered_40 : decode cX1_answered 40 = .ok (.iload 6, 2) := by decide +kernel
theorem dX1_answered_42 : decode cX1_answered 42 = .ok (.bipush 10, 2) := by decide +kernel
theorem dX1_answered_44 : decode cX1_answered 44 = .ok (.if_icmp .ge 57, 3) := by decide +kernel
theorem dX1_answered_47 : decode cX1_answered 47 = .ok (.iload 5, 2) := by decide +kernel
theorem dX1_answered_49 : decode cX1_answered 49 = .ok (.ifCond .ne 39, 3) := by decide +kernel
theorem dX1_answered_52 : decode cX1_answered 52 = .ok (.aload_n 0, 1) := by decide +kernel
theorem dX1_answered_53 : decode cX1_answered 53 = .ok (.getfield 13, 3) := by decide +kernel
theorem dX1_answered_56 : decode cX1_answered 56 = .ok (.iload_n 1, 1) := by decide +kernel
theorem dX1_answered_57 : decode cX1_answered 57 = .ok (.bipush 100, 2) := by decide +kernel
theorem dX1_answered_59 : decode cX1_answered 59 = .ok (.imul, 1) := by decide +kernel
theorem dX1_answered_60 : decode cX1_answered 60 = .ok (.iload_n 3, 1) := by decide +kernel
theorem dX1_answered_61 : decode cX1_answered 61 = .ok (.bipush 10, 2) := by decide +kernel
theorem dX1_answered_63 : decode cX1_answered 63 = .ok (.imul, 1) := by decide +kernel
theorem dX1_answered_64 : decode cX1_answered 64 = .ok (.iadd, 1) := by decide +kernel
theorem dX1_answered_65 : decode cX1_answered 65 = .ok (.iload 6, 2) := by decide +kernel
theorem dX1_answered_67 : decode cX1_answered 67 = .ok (.iadd, 1) := by decide +kernel
theorem dX1_answered_68 : decode cX1_answered 68 = .ok (.baload, 1) := by decide +kernel
theorem dX1_answered_69 : decode cX1_answered 69 = .ok (.ifCond .eq 23, 3) := by decide +kernel
theorem dX1_answered_72 : decode cX1_answered 72 = .ok (.aload_n 0, 1) := by decide +kernel
theorem dX1_answered_73 : decode cX1_answered 73 = .ok (.getfield 17, 3) := by decide +kernel
theorem dX1_answered_76 : decode cX1_answered 76 = .ok (.iload 4, 2) := by decide +kernel
theorem dX1_answered_78 : decode cX1_answered 78 = .ok (.bipush 10, 2) := by decide +kernel
theorem dX1_answered_80 : decode cX1_answered 80 = .ok (.imul, 1) := by decide +kernel
theorem dX1_answered_81 : decode cX1_answered 81 = .ok (.iload 6, 2) := by decide +kernel
theorem dX1_answered_83 : decode cX1_answered 83 = .ok (.iadd, 1) := by decide +kernel
theorem dX1_answered_84 : decode cX1_answered 84 = .ok (.baload, 1) := by decide +kernel
theorem dX1_answered_85 : decode cX1_answered 85 = .ok (.ifCond .eq 7, 3) := by decide +kernel
theorem dX1_answered_88 : decode cX1_answered 88 = .ok (.iconst 1, 1) := by decide +kernel
theorem dX1_answered_89 : decode cX1_answered 89 = .ok (.goto 4, 3) := by decide +kernel
theorem dX1_answered_92 : decode cX1_answered 92 = .ok (.iconst 0, 1) := by decide +kernel
theorem dX1_answered_93 : decode cX1_answered 93 = .ok (.istore 5, 2) := by decide +kernel
theorem dX1_answered_95 : decode cX1_answered 95 = .ok (.iinc 6 1, 3) := by decide +kernel
theorem dX1_answered_98 : decode cX1_answered 98 = .ok (.goto (-58), 3) := by decide +kernel
theorem dX1_answered_101 : decode cX1_answered 101 = .ok (.iload 5, 2) := by decide +kernel
theorem dX1_answered_103 : decode cX1_answered 103 = .ok (.ifCond .ne 5, 3) := by decide +kernel
theorem dX1_answered_106 : decode cX1_answered 106 = .ok (.iconst 0, 1) := by decide +kernel
theorem dX1_answered_107 : decode cX1_answered 107 = .ok (.ireturn, 1) := by decide +kernel
theorem dX1_answered_108 : decode cX1_answered 108 = .ok (.iinc 4 1, 3) := by decide +kernel
theorem dX1_answered_111 : decode cX1_answered 111 = .ok (.goto (-108), 3) := by decide +kernel
theorem dX1_answered_114 : decode cX1_answered 114 = .ok (.iconst 1, 1) := by decide +kernel
theorem dX1_answered_115 : decode cX1_answered 115 = .ok (.ireturn, 1) := by decide +kernel
end
section
set_option maxRecDepth 100000
abbrev cX1_classes : ByteArray := prog_3_method_10_code
def yX1_classes : MethodName := ⟨RX1, "classes", "()I"⟩
theorem dX1_classes_0 : decode cX1_classes 0 = .ok (.iconst 0, 1) := by decide +kernel
theorem dX1_classes_1 : decode cX1_classes 1 = .ok (.istore_n 1, 1) := by decide +kernel
theorem dX1_classes_2 : decode cX1_classes 2 = .ok (.iconst 0, 1) := by decide +kernel
theorem dX1_classes_3 : decode cX1_classes 3 = .ok (.istore_n 2, 1) := by decide +kernel
theorem dX1_classes_4 : decode cX1_classes 4 = .ok (.iload_n 2, 1) := by decide +kernel
theorem dX1_classes_5 : decode cX1_classes 5 = .ok (.bipush 10, 2) := by decide +kernel
theorem dX1_classes_7 : decode cX1_classes 7 = .ok (.if_icmp .ge 21, 3) := by decide +kernel
theorem dX1_classes_10 : decode cX1_classes 10 = .ok (.aload_n 0, 1) := by decide +kernel
theorem dX1_classes_11 : decode cX1_classes 11 = .ok (.iload_n 2, 1) := by decide +kernel
theorem dX1_classes_12 : decode cX1_classes 12 = .ok (.invokevirtual 42, 3) := by decide +kernel
theorem dX1_classes_15 : decode cX1_classes 15 = .ok (.iload_n 2, 1) := by decide +kernel
theorem dX1_classes_16 : decode cX1_classes 16 = .ok (.if_icmp .ne 6, 3) := by decide +kernel
theorem dX1_classes_19 : decode cX1_classes 19 = .ok (.iinc 1 1, 3) := by decide +kernel
theorem dX1_classes_22 : decode cX1_classes 22 = .ok (.iinc 2 1, 3) := by decide +kernel
theorem dX1_classes_25 : decode cX1_classes 25 = .ok (.goto (-21), 3) := by decide +kernel
theorem dX1_classes_28 : decode cX1_classes 28 = .ok (.iload_n 1, 1) := by decide +kernel
theorem dX1_classes_29 : decode cX1_classes 29 = .ok (.ireturn, 1) := by decide +kernel
abbrev cX1_leader : ByteArray := prog_3_method_11_code
def yX1_leader : MethodName := ⟨RX1, "leader", "(I)I"⟩
theorem dX1_leader_0 : decode cX1_leader 0 = .ok (.aload_n 0, 1) := by decide +kernel
theorem dX1_leader_1 : decode cX1_leader 1 = .ok (.iload_n 1, 1) := by decide +kernel
theorem dX1_leader_2 : decode cX1_leader 2 = .ok (.invokevirtual 23, 3) := by decide +kernel
theorem dX1_leader_5 : decode cX1_leader 5 = .ok (.ifCond .ne 5, 3) := by decide +kernel
theorem dX1_leader_8 : decode cX1_leader 8 = .ok (.iconst (-1), 1) := by decide +kernel
theorem dX1_leader_9 : decode cX1_leader 9 = .ok (.ireturn, 1) := by decide +kernel
theorem dX1_leader_10 : decode cX1_leader 10 = .ok (.aload_n 0, 1) := by decide +kernel
theorem dX1_leader_11 : decode cX1_leader 11 = .ok (.invokevirtual 38, 3) := by decide +kernel
theorem dX1_leader_14 : decode cX1_leader 14 = .ok (.pop, 1) := by decide +kernel
theorem dX1_leader_15 : decode cX1_leader 15 = .ok (.aload_n 0, 1) := by decide +kernel
theorem dX1_leader_16 : decode cX1_leader 16 = .ok (.iload_n 1, 1) := by decide +kernel
theorem dX1_leader_17 : decode cX1_leader 17 = .ok (.invokevirtual 46, 3) := by decide +kernel
theorem dX1_leader_20 : decode cX1_leader 20 = .ok (.ireturn, 1) := by decide +kernel
abbrev cX1_leaderNow : ByteArray := prog_3_method_12_code
def yX1_leaderNow : MethodName := ⟨RX1, "leaderNow", "(I)I"⟩
theorem dX1_leaderNow_0 : decode cX1_leaderNow 0 = .ok (.iconst 0, 1) := by decide +kernel
theorem dX1_leaderNow_1 : decode cX1_leaderNow 1 = .ok (.istore_n 2, 1) := by decide +kernel
theorem dX1_leaderNow_2 : decode cX1_leaderNow 2 = .ok (.iload_n 2, 1) := by decide +kernel
theorem dX1_leaderNow_3 : decode cX1_leaderNow 3 = .ok (.iload_n 1, 1) := by decide +kernel
theorem dX1_leaderNow_4 : decode cX1_leaderNow 4 = .ok (.if_icmp .ge 23, 3) := by decide +kernel
theorem dX1_leaderNow_7 : decode cX1_leaderNow 7 = .ok (.aload_n 0, 1) := by decide +kernel
theorem dX1_leaderNow_8 : decode cX1_leaderNow 8 = .ok (.getfield 17, 3) := by decide +kernel
theorem dX1_leaderNow_11 : decode cX1_leaderNow 11 = .ok (.iload_n 1, 1) := by decide +kernel
theorem dX1_leaderNow_12 : decode cX1_leaderNow 12 = .ok (.bipush 10, 2) := by decide +kernel
theorem dX1_leaderNow_14 : decode cX1_leaderNow 14 = .ok (.imul, 1) := by decide +kernel
theorem dX1_leaderNow_15 : decode cX1_leaderNow 15 = .ok (.iload_n 2, 1) := by decide +kernel
theorem dX1_leaderNow_16 : decode cX1_leaderNow 16 = .ok (.iadd, 1) := by decide +kernel
theorem dX1_leaderNow_17 : decode cX1_leaderNow 17 = .ok (.baload, 1) := by decide +kernel
theorem dX1_leaderNow_18 : decode cX1_leaderNow 18 = .ok (.ifCond .ne 9, 3) := by decide +kernel
theorem dX1_leaderNow_21 : decode cX1_leaderNow 21 = .ok (.iinc 2 1, 3) := by decide +kernel
theorem dX1_leaderNow_24 : decode cX1_leaderNow 24 = .ok (.goto (-22), 3) := by decide +kernel
theorem dX1_leaderNow_27 : decode cX1_leaderNow 27 = .ok (.iload_n 2, 1) := by decide +kernel
theorem dX1_leaderNow_28 : decode cX1_leaderNow 28 = .ok (.ireturn, 1) := by decide +kernel
abbrev cX1_members : ByteArray := prog_3_method_13_code
def yX1_members : MethodName := ⟨RX1, "members", "(I)I"⟩
theorem dX1_members_0 : decode cX1_members 0 = .ok (.aload_n 0, 1) := by decide +kernel
theorem dX1_members_1 : decode cX1_members 1 = .ok (.iload_n 1, 1) := by decide +kernel
theorem dX1_members_2 : decode cX1_members 2 = .ok (.invokevirtual 23, 3) := by decide +kernel
theorem dX1_members_5 : decode cX1_members 5 = .ok (.ifCond .ne 5, 3) := by decide +kernel
theorem dX1_members_8 : decode cX1_members 8 = .ok (.iconst (-1), 1) := by decide +kernel
theorem dX1_members_9 : decode cX1_members 9 = .ok (.ireturn, 1) := by decide +kernel
theorem dX1_members_10 : decode cX1_members 10 = .ok (.iconst 0, 1) := by decide +kernel
theorem dX1_members_11 : decode cX1_members 11 = .ok (.istore_n 2, 1) := by decide +kernel
theorem dX1_members_12 : decode cX1_members 12 = .ok (.aload_n 0, 1) := by decide +kernel
theorem dX1_members_13 : decode cX1_members 13 = .ok (.invokevirtual 38, 3) := by decide +kernel
theorem dX1_members_16 : decode cX1_members 16 = .ok (.pop, 1) := by decide +kernel
theorem dX1_members_17 : decode cX1_members 17 = .ok (.iconst 0, 1) := by decide +kernel
theorem dX1_members_18 : decode cX1_members 18 = .ok (.istore_n 3, 1) := by decide +kernel
theorem dX1_members_19 : decode cX1_members 19 = .ok (.iload_n 3, 1) := by decide +kernel
theorem dX1_members_20 : decode cX1_members 20 = .ok (.bipush 10, 2) := by decide +kernel
theorem dX1_members_22 : decode cX1_members 22 = .ok (.if_icmp .ge 29, 3) := by decide +kernel
theorem dX1_members_25 : decode cX1_members 25 = .ok (.aload_n 0, 1) := by decide +kernel
theorem dX1_members_26 : decode cX1_members 26 = .ok (.getfield 17, 3) := by decide +kernel
theorem dX1_members_29 : decode cX1_members 29 = .ok (.iload_n 1, 1) := by decide +kernel
theorem dX1_members_30 : decode cX1_members 30 = .ok (.bipush 10, 2) := by decide +kernel
theorem dX1_members_32 : decode cX1_members 32 = .ok (.imul, 1) := by decide +kernel
theorem dX1_members_33 : decode cX1_members 33 = .ok (.iload_n 3, 1) := by decide +kernel
theorem dX1_members_34 : decode cX1_members 34 = .ok (.iadd, 1) := by decide +kernel
theorem dX1_members_35 : decode cX1_members 35 = .ok (.baload, 1) := by decide +kernel
theorem dX1_members_36 : decode cX1_members 36 = .ok (.ifCond .eq 9, 3) := by decide +kernel
theorem dX1_members_39 : decode cX1_members 39 = .ok (.iload_n 2, 1) := by decide +kernel
theorem dX1_members_40 : decode cX1_members 40 = .ok (.iconst 1, 1) := by decide +kernel
theorem dX1_members_41 : decode cX1_members 41 = .ok (.iload_n 3, 1) := by decide +kernel
theorem dX1_members_42 : decode cX1_members 42 = .ok (.ishl, 1) := by decide +kernel
theorem dX1_members_43 : decode cX1_members 43 = .ok (.ior, 1) := by decide +kernel
theorem dX1_members_44 : decode cX1_members 44 = .ok (.istore_n 2, 1) := by decide +kernel
theorem dX1_members_45 : decode cX1_members 45 = .ok (.iinc 3 1, 3) := by decide +kernel
theorem dX1_members_48 : decode cX1_members 48 = .ok (.goto (-29), 3) := by decide +kernel
theorem dX1_members_51 : decode cX1_members 51 = .ok (.iload_n 2, 1) := by decide +kernel
theorem dX1_members_52 : decode cX1_members 52 = .ok (.ireturn, 1) := by decide +kernel
abbrev cX1_told : ByteArray := prog_3_method_14_code
def yX1_told : MethodName := ⟨RX1, "told", "(II)I"⟩
theorem dX1_told_0 : decode cX1_told 0 = .ok (.aload_n 0, 1) := by decide +kernel
theorem dX1_told_1 : decode cX1_told 1 = .ok (.iload_n 1, 1) := by decide +kernel
theorem dX1_told_2 : decode cX1_told 2 = .ok (.invokevirtual 23, 3) := by decide +kernel
theorem dX1_told_5 : decode cX1_told 5 = .ok (.ifCond .eq 11, 3) := by decide +kernel
theorem dX1_told_8 : decode cX1_told 8 = .ok (.aload_n 0, 1) := by decide +kernel
theorem dX1_told_9 : decode cX1_told 9 = .ok (.iload_n 2, 1) := by decide +kernel
theorem dX1_told_10 : decode cX1_told 10 = .ok (.invokevirtual 23, 3) := by decide +kernel
theorem dX1_told_13 : decode cX1_told 13 = .ok (.ifCond .ne 5, 3) := by decide +kernel
theorem dX1_told_16 : decode cX1_told 16 = .ok (.iconst (-1), 1) := by decide +kernel
theorem dX1_told_17 : decode cX1_told 17 = .ok (.ireturn, 1) := by decide +kernel
theorem dX1_told_18 : decode cX1_told 18 = .ok (.iconst 0, 1) := by decide +kernel
theorem dX1_told_19 : decode cX1_told 19 = .ok (.istore_n 3, 1) := by decide +kernel
theorem dX1_told_20 : decode cX1_told 20 = .ok (.aload_n 0, 1) := by decide +kernel
theorem dX1_told_21 : decode cX1_told 21 = .ok (.invokevirtual 31, 3) := by decide +kernel
theorem dX1_told_24 : decode cX1_told 24 = .ok (.aload_n 0, 1) := by decide +kernel
theorem dX1_told_25 : decode cX1_told 25 = .ok (.getfield 17, 3) := by decide +kernel
theorem dX1_told_28 : decode cX1_told 28 = .ok (.iload_n 1, 1) := by decide +kernel
theorem dX1_told_29 : decode cX1_told 29 = .ok (.bipush 10, 2) := by decide +kernel
theorem dX1_told_31 : decode cX1_told 31 = .ok (.imul, 1) := by decide +kernel
theorem dX1_told_32 : decode cX1_told 32 = .ok (.iload_n 2, 1) := by decide +kernel
theorem dX1_told_33 : decode cX1_told 33 = .ok (.iadd, 1) := by decide +kernel
theorem dX1_told_34 : decode cX1_told 34 = .ok (.baload, 1) := by decide +kernel
theorem dX1_told_35 : decode cX1_told 35 = .ok (.ifCond .eq 19, 3) := by decide +kernel
theorem dX1_told_38 : decode cX1_told 38 = .ok (.aload_n 0, 1) := by decide +kernel
theorem dX1_told_39 : decode cX1_told 39 = .ok (.invokevirtual 34, 3) := by decide +kernel
theorem dX1_told_42 : decode cX1_told 42 = .ok (.ifCond .ne 6, 3) := by decide +kernel
theorem dX1_told_45 : decode cX1_told 45 = .ok (.bipush (-2), 2) := by decide +kernel
theorem dX1_told_47 : decode cX1_told 47 = .ok (.ireturn, 1) := by decide +kernel
theorem dX1_told_48 : decode cX1_told 48 = .ok (.iinc 3 1, 3) := by decide +kernel
theorem dX1_told_51 : decode cX1_told 51 = .ok (.goto (-27), 3) := by decide +kernel
theorem dX1_told_54 : decode cX1_told 54 = .ok (.iload_n 3, 1) := by decide +kernel
theorem dX1_told_55 : decode cX1_told 55 = .ok (.ireturn, 1) := by decide +kernel
abbrev cX1_leads : ByteArray := prog_3_method_15_code
def yX1_leads : MethodName := ⟨RX1, "leads", "(II)I"⟩
theorem dX1_leads_0 : decode cX1_leads 0 = .ok (.iload_n 1, 1) := by decide +kernel
theorem dX1_leads_1 : decode cX1_leads 1 = .ok (.ifCond .lt 16, 3) := by decide +kernel
theorem dX1_leads_4 : decode cX1_leads 4 = .ok (.iload_n 1, 1) := by decide +kernel
theorem dX1_leads_5 : decode cX1_leads 5 = .ok (.iconst 1, 1) := by decide +kernel
theorem dX1_leads_6 : decode cX1_leads 6 = .ok (.if_icmp .gt 11, 3) := by decide +kernel
theorem dX1_leads_9 : decode cX1_leads 9 = .ok (.aload_n 0, 1) := by decide +kernel
theorem dX1_leads_10 : decode cX1_leads 10 = .ok (.iload_n 2, 1) := by decide +kernel
theorem dX1_leads_11 : decode cX1_leads 11 = .ok (.invokevirtual 23, 3) := by decide +kernel
theorem dX1_leads_14 : decode cX1_leads 14 = .ok (.ifCond .ne 5, 3) := by decide +kernel
theorem dX1_leads_17 : decode cX1_leads 17 = .ok (.iconst (-1), 1) := by decide +kernel
theorem dX1_leads_18 : decode cX1_leads 18 = .ok (.ireturn, 1) := by decide +kernel
theorem dX1_leads_19 : decode cX1_leads 19 = .ok (.iconst 0, 1) := by decide +kernel
theorem dX1_leads_20 : decode cX1_leads 20 = .ok (.istore_n 3, 1) := by decide +kernel
theorem dX1_leads_21 : decode cX1_leads 21 = .ok (.aload_n 0, 1) := by decide +kernel
theorem dX1_leads_22 : decode cX1_leads 22 = .ok (.invokevirtual 38, 3) := by decide +kernel
theorem dX1_leads_25 : decode cX1_leads 25 = .ok (.pop, 1) := by decide +kernel
theorem dX1_leads_26 : decode cX1_leads 26 = .ok (.iconst 0, 1) := by decide +kernel
theorem dX1_leads_27 : decode cX1_leads 27 = .ok (.istore 4, 2) := by decide +kernel
theorem dX1_leads_29 : decode cX1_leads 29 = .ok (.iload 4, 2) := by decide +kernel
theorem dX1_leads_31 : decode cX1_leads 31 = .ok (.bipush 10, 2) := by decide +kernel
theorem dX1_leads_33 : decode cX1_leads 33 = .ok (.if_icmp .ge 40, 3) := by decide +kernel
theorem dX1_leads_36 : decode cX1_leads 36 = .ok (.aload_n 0, 1) := by decide +kernel
theorem dX1_leads_37 : decode cX1_leads 37 = .ok (.getfield 13, 3) := by decide +kernel
theorem dX1_leads_40 : decode cX1_leads 40 = .ok (.iload_n 1, 1) := by decide +kernel
theorem dX1_leads_41 : decode cX1_leads 41 = .ok (.bipush 100, 2) := by decide +kernel
theorem dX1_leads_43 : decode cX1_leads 43 = .ok (.imul, 1) := by decide +kernel
theorem dX1_leads_44 : decode cX1_leads 44 = .ok (.iload_n 2, 1) := by decide +kernel
theorem dX1_leads_45 : decode cX1_leads 45 = .ok (.bipush 10, 2) := by decide +kernel
theorem dX1_leads_47 : decode cX1_leads 47 = .ok (.imul, 1) := by decide +kernel
theorem dX1_leads_48 : decode cX1_leads 48 = .ok (.iadd, 1) := by decide +kernel
theorem dX1_leads_49 : decode cX1_leads 49 = .ok (.iload 4, 2) := by decide +kernel
theorem dX1_leads_51 : decode cX1_leads 51 = .ok (.iadd, 1) := by decide +kernel
theorem dX1_leads_52 : decode cX1_leads 52 = .ok (.baload, 1) := by decide +kernel
theorem dX1_leads_53 : decode cX1_leads 53 = .ok (.ifCond .eq 14, 3) := by decide +kernel
theorem dX1_leads_56 : decode cX1_leads 56 = .ok (.iload_n 3, 1) := by decide +kernel
theorem dX1_leads_57 : decode cX1_leads 57 = .ok (.iconst 1, 1) := by decide +kernel
theorem dX1_leads_58 : decode cX1_leads 58 = .ok (.aload_n 0, 1) := by decide +kernel
theorem dX1_leads_59 : decode cX1_leads 59 = .ok (.iload 4, 2) := by decide +kernel
theorem dX1_leads_61 : decode cX1_leads 61 = .ok (.invokevirtual 46, 3) := by decide +kernel
theorem dX1_leads_64 : decode cX1_leads 64 = .ok (.ishl, 1) := by decide +kernel
theorem dX1_leads_65 : decode cX1_leads 65 = .ok (.ior, 1) := by decide +kernel
theorem dX1_leads_66 : decode cX1_leads 66 = .ok (.istore_n 3, 1) := by decide +kernel
theorem dX1_leads_67 : decode cX1_leads 67 = .ok (.iinc 4 1, 3) := by decide +kernel
theorem dX1_leads_70 : decode cX1_leads 70 = .ok (.goto (-41), 3) := by decide +kernel
theorem dX1_leads_73 : decode cX1_leads 73 = .ok (.iload_n 3, 1) := by decide +kernel
theorem dX1_leads_74 : decode cX1_leads 74 = .ok (.ireturn, 1) := by decide +kernel
abbrev cX1_colours : ByteArray := prog_3_method_16_code
def yX1_colours : MethodName := ⟨RX1, "colours", "()I"⟩
theorem dX1_colours_0 : decode cX1_colours 0 = .ok (.iconst 0, 1) := by decide +kernel
theorem dX1_colours_1 : decode cX1_colours 1 = .ok (.istore_n 1, 1) := by decide +kernel
theorem dX1_colours_2 : decode cX1_colours 2 = .ok (.iconst 0, 1) := by decide +kernel
theorem dX1_colours_3 : decode cX1_colours 3 = .ok (.istore_n 2, 1) := by decide +kernel
theorem dX1_colours_4 : decode cX1_colours 4 = .ok (.iload_n 2, 1) := by decide +kernel
theorem dX1_colours_5 : decode cX1_colours 5 = .ok (.bipush 10, 2) := by decide +kernel
theorem dX1_colours_7 : decode cX1_colours 7 = .ok (.if_icmp .ge 20, 3) := by decide +kernel
theorem dX1_colours_10 : decode cX1_colours 10 = .ok (.iload_n 1, 1) := by decide +kernel
theorem dX1_colours_11 : decode cX1_colours 11 = .ok (.iconst 1, 1) := by decide +kernel
theorem dX1_colours_12 : decode cX1_colours 12 = .ok (.aload_n 0, 1) := by decide +kernel
theorem dX1_colours_13 : decode cX1_colours 13 = .ok (.getfield 7, 3) := by decide +kernel
theorem dX1_colours_16 : decode cX1_colours 16 = .ok (.iload_n 2, 1) := by decide +kernel
theorem dX1_colours_17 : decode cX1_colours 17 = .ok (.iaload, 1) := by decide +kernel
theorem dX1_colours_18 : decode cX1_colours 18 = .ok (.ishl, 1) := by decide +kernel
theorem dX1_colours_19 : decode cX1_colours 19 = .ok (.ior, 1) := by decide +kernel
theorem dX1_colours_20 : decode cX1_colours 20 = .ok (.istore_n 1, 1) := by decide +kernel
theorem dX1_colours_21 : decode cX1_colours 21 = .ok (.iinc 2 1, 3) := by decide +kernel
theorem dX1_colours_24 : decode cX1_colours 24 = .ok (.goto (-20), 3) := by decide +kernel
theorem dX1_colours_27 : decode cX1_colours 27 = .ok (.iload_n 1, 1) := by decide +kernel
theorem dX1_colours_28 : decode cX1_colours 28 = .ok (.iconst 1, 1) := by decide +kernel
theorem dX1_colours_29 : decode cX1_colours 29 = .ok (.iand, 1) := by decide +kernel
theorem dX1_colours_30 : decode cX1_colours 30 = .ok (.iload_n 1, 1) := by decide +kernel
theorem dX1_colours_31 : decode cX1_colours 31 = .ok (.iconst 1, 1) := by decide +kernel
theorem dX1_colours_32 : decode cX1_colours 32 = .ok (.ishr, 1) := by decide +kernel
theorem dX1_colours_33 : decode cX1_colours 33 = .ok (.iconst 1, 1) := by decide +kernel
theorem dX1_colours_34 : decode cX1_colours 34 = .ok (.iand, 1) := by decide +kernel
theorem dX1_colours_35 : decode cX1_colours 35 = .ok (.iadd, 1) := by decide +kernel
theorem dX1_colours_36 : decode cX1_colours 36 = .ok (.iload_n 1, 1) := by decide +kernel
theorem dX1_colours_37 : decode cX1_colours 37 = .ok (.iconst 2, 1) := by decide +kernel
theorem dX1_colours_38 : decode cX1_colours 38 = .ok (.ishr, 1) := by decide +kernel
theorem dX1_colours_39 : decode cX1_colours 39 = .ok (.iconst 1, 1) := by decide +kernel
theorem dX1_colours_40 : decode cX1_colours 40 = .ok (.iand, 1) := by decide +kernel
theorem dX1_colours_41 : decode cX1_colours 41 = .ok (.iadd, 1) := by decide +kernel
theorem dX1_colours_42 : decode cX1_colours 42 = .ok (.iload_n 1, 1) := by decide +kernel
theorem dX1_colours_43 : decode cX1_colours 43 = .ok (.iconst 3, 1) := by decide +kernel
theorem dX1_colours_44 : decode cX1_colours 44 = .ok (.ishr, 1) := by decide +kernel
theorem dX1_colours_45 : decode cX1_colours 45 = .ok (.iconst 1, 1) := by decide +kernel
theorem dX1_colours_46 : decode cX1_colours 46 = .ok (.iand, 1) := by decide +kernel
theorem dX1_colours_47 : decode cX1_colours 47 = .ok (.iadd, 1) := by decide +kernel
theorem dX1_colours_48 : decode cX1_colours 48 = .ok (.ireturn, 1) := by decide +kernel
abbrev cX1_reduce : ByteArray := prog_3_method_17_code
def yX1_reduce : MethodName := ⟨RX1, "reduce", "()I"⟩
theorem dX1_reduce_0 : decode cX1_reduce 0 = .ok (.iconst 0, 1) := by decide +kernel
theorem dX1_reduce_1 : decode cX1_reduce 1 = .ok (.istore_n 1, 1) := by decide +kernel
theorem dX1_reduce_2 : decode cX1_reduce 2 = .ok (.aload_n 0, 1) := by decide +kernel
theorem dX1_reduce_3 : decode cX1_reduce 3 = .ok (.invokevirtual 38, 3) := by decide +kernel
theorem dX1_reduce_6 : decode cX1_reduce 6 = .ok (.pop, 1) := by decide +kernel
theorem dX1_reduce_7 : decode cX1_reduce 7 = .ok (.iconst 0, 1) := by decide +kernel
theorem dX1_reduce_8 : decode cX1_reduce 8 = .ok (.istore_n 2, 1) := by decide +kernel
theorem dX1_reduce_9 : decode cX1_reduce 9 = .ok (.iload_n 2, 1) := by decide +kernel
theorem dX1_reduce_10 : decode cX1_reduce 10 = .ok (.bipush 20, 2) := by decide +kernel
theorem dX1_reduce_12 : decode cX1_reduce 12 = .ok (.if_icmp .ge 104, 3) := by decide +kernel
theorem dX1_reduce_15 : decode cX1_reduce 15 = .ok (.iconst 0, 1) := by decide +kernel
theorem dX1_reduce_16 : decode cX1_reduce 16 = .ok (.istore_n 3, 1) := by decide +kernel
theorem dX1_reduce_17 : decode cX1_reduce 17 = .ok (.iconst 0, 1) := by decide +kernel
theorem dX1_reduce_18 : decode cX1_reduce 18 = .ok (.istore 4, 2) := by decide +kernel
theorem dX1_reduce_20 : decode cX1_reduce 20 = .ok (.iload 4, 2) := by decide +kernel
theorem dX1_reduce_22 : decode cX1_reduce 22 = .ok (.bipush 10, 2) := by decide +kernel
theorem dX1_reduce_24 : decode cX1_reduce 24 = .ok (.if_icmp .ge 35, 3) := by decide +kernel
theorem dX1_reduce_27 : decode cX1_reduce 27 = .ok (.aload_n 0, 1) := by decide +kernel
theorem dX1_reduce_28 : decode cX1_reduce 28 = .ok (.getfield 13, 3) := by decide +kernel
theorem dX1_reduce_31 : decode cX1_reduce 31 = .ok (.iload_n 2, 1) := by decide +kernel
theorem dX1_reduce_32 : decode cX1_reduce 32 = .ok (.bipush 10, 2) := by decide +kernel
theorem dX1_reduce_34 : decode cX1_reduce 34 = .ok (.imul, 1) := by decide +kernel
theorem dX1_reduce_35 : decode cX1_reduce 35 = .ok (.iload 4, 2) := by decide +kernel
theorem dX1_reduce_37 : decode cX1_reduce 37 = .ok (.iadd, 1) := by decide +kernel
theorem dX1_reduce_38 : decode cX1_reduce 38 = .ok (.baload, 1) := by decide +kernel
theorem dX1_reduce_39 : decode cX1_reduce 39 = .ok (.ifCond .eq 14, 3) := by decide +kernel
theorem dX1_reduce_42 : decode cX1_reduce 42 = .ok (.iload_n 3, 1) := by decide +kernel
theorem dX1_reduce_43 : decode cX1_reduce 43 = .ok (.iconst 1, 1) := by decide +kernel
theorem dX1_reduce_44 : decode cX1_reduce 44 = .ok (.aload_n 0, 1) := by decide +kernel
theorem dX1_reduce_45 : decode cX1_reduce 45 = .ok (.iload 4, 2) := by decide +kernel
theorem dX1_reduce_47 : decode cX1_reduce 47 = .ok (.invokevirtual 46, 3) := by decide +kernel
theorem dX1_reduce_50 : decode cX1_reduce 50 = .ok (.ishl, 1) := by decide +kernel
theorem dX1_reduce_51 : decode cX1_reduce 51 = .ok (.ior, 1) := by decide +kernel
theorem dX1_reduce_52 : decode cX1_reduce 52 = .ok (.istore_n 3, 1) := by decide +kernel
theorem dX1_reduce_53 : decode cX1_reduce 53 = .ok (.iinc 4 1, 3) := by decide +kernel
theorem dX1_reduce_56 : decode cX1_reduce 56 = .ok (.goto (-36), 3) := by decide +kernel
theorem dX1_reduce_59 : decode cX1_reduce 59 = .ok (.iconst 0, 1) := by decide +kernel
theorem dX1_reduce_60 : decode cX1_reduce 60 = .ok (.istore 4, 2) := by decide +kernel
theorem dX1_reduce_62 : decode cX1_reduce 62 = .ok (.iload 4, 2) := by decide +kernel
theorem dX1_reduce_64 : decode cX1_reduce 64 = .ok (.bipush 10, 2) := by decide +kernel
theorem dX1_reduce_66 : decode cX1_reduce 66 = .ok (.if_icmp .ge 44, 3) := by decide +kernel
theorem dX1_reduce_69 : decode cX1_reduce 69 = .ok (.aload_n 0, 1) := by decide +kernel
theorem dX1_reduce_70 : decode cX1_reduce 70 = .ok (.getfield 13, 3) := by decide +kernel
theorem dX1_reduce_73 : decode cX1_reduce 73 = .ok (.iload_n 2, 1) := by decide +kernel
theorem dX1_reduce_74 : decode cX1_reduce 74 = .ok (.bipush 10, 2) := by decide +kernel
theorem dX1_reduce_76 : decode cX1_reduce 76 = .ok (.imul, 1) := by decide +kernel
theorem dX1_reduce_77 : decode cX1_reduce 77 = .ok (.iload 4, 2) := by decide +kernel
theorem dX1_reduce_79 : decode cX1_reduce 79 = .ok (.iadd, 1) := by decide +kernel
theorem dX1_reduce_80 : decode cX1_reduce 80 = .ok (.iload_n 3, 1) := by decide +kernel
theorem dX1_reduce_81 : decode cX1_reduce 81 = .ok (.iload 4, 2) := by decide +kernel
theorem dX1_reduce_83 : decode cX1_reduce 83 = .ok (.ishr, 1) := by decide +kernel
theorem dX1_reduce_84 : decode cX1_reduce 84 = .ok (.iconst 1, 1) := by decide +kernel
theorem dX1_reduce_85 : decode cX1_reduce 85 = .ok (.iand, 1) := by decide +kernel
theorem dX1_reduce_86 : decode cX1_reduce 86 = .ok (.ifCond .eq 7, 3) := by decide +kernel
theorem dX1_reduce_89 : decode cX1_reduce 89 = .ok (.iconst 1, 1) := by decide +kernel
theorem dX1_reduce_90 : decode cX1_reduce 90 = .ok (.goto 4, 3) := by decide +kernel
theorem dX1_reduce_93 : decode cX1_reduce 93 = .ok (.iconst 0, 1) := by decide +kernel
theorem dX1_reduce_94 : decode cX1_reduce 94 = .ok (.bastore, 1) := by decide +kernel
theorem dX1_reduce_95 : decode cX1_reduce 95 = .ok (.iload_n 1, 1) := by decide +kernel
theorem dX1_reduce_96 : decode cX1_reduce 96 = .ok (.iload_n 3, 1) := by decide +kernel
theorem dX1_reduce_97 : decode cX1_reduce 97 = .ok (.iload 4, 2) := by decide +kernel
theorem dX1_reduce_99 : decode cX1_reduce 99 = .ok (.ishr, 1) := by decide +kernel
theorem dX1_reduce_100 : decode cX1_reduce 100 = .ok (.iconst 1, 1) := by decide +kernel
theorem dX1_reduce_101 : decode cX1_reduce 101 = .ok (.iand, 1) := by decide +kernel
theorem dX1_reduce_102 : decode cX1_reduce 102 = .ok (.iadd, 1) := by decide +kernel
theorem dX1_reduce_103 : decode cX1_reduce 103 = .ok (.istore_n 1, 1) := by decide +kernel
theorem dX1_reduce_104 : decode cX1_reduce 104 = .ok (.iinc 4 1, 3) := by decide +kernel
theorem dX1_reduce_107 : decode cX1_reduce 107 = .ok (.goto (-45), 3) := by decide +kernel
theorem dX1_reduce_110 : decode cX1_reduce 110 = .ok (.iinc 2 1, 3) := by decide +kernel
theorem dX1_reduce_113 : decode cX1_reduce 113 = .ok (.goto (-104), 3) := by decide +kernel
theorem dX1_reduce_116 : decode cX1_reduce 116 = .ok (.iload_n 1, 1) := by decide +kernel
theorem dX1_reduce_117 : decode cX1_reduce 117 = .ok (.ireturn, 1) := by decide +kernel
abbrev cX1_rounds : ByteArray := prog_3_method_18_code
def yX1_rounds : MethodName := ⟨RX1, "rounds", "()I"⟩
theorem dX1_rounds_0 : decode cX1_rounds 0 = .ok (.aload_n 0, 1) := by decide +kernel
theorem dX1_rounds_1 : decode cX1_rounds 1 = .ok (.invokevirtual 38, 3) := by decide +kernel
theorem dX1_rounds_4 : decode cX1_rounds 4 = .ok (.ireturn, 1) := by decide +kernel
theorem q21 : (Jvm.Cond.initialized "StablePartitionModel") ∈ lw_all := lw_g (lw_at lw_m0 2 rfl) rfl
theorem q163 : (Jvm.Cond.instantiable "StablePartitionModel" (4 : Nat)) ∈ lw_all := lw_g (lw_at lw_m0 144 rfl) rfl
theorem q165 : (Jvm.Cond.instanceMethod ({ cls := "StablePartitionModel", name := "<init>", desc := "()V" } : Jvm.MethodName)) ∈ lw_all := lw_g (lw_at lw_m0 146 rfl) rfl
theorem q166 : (Jvm.Cond.code ({ cls := "StablePartitionModel", name := "<init>", desc := "()V" } : Jvm.MethodName) prog_3_method_1_code (1 : Nat) (Option.none : Option Jvm.ClassFile.FieldType)) ∈ lw_all := lw_g (lw_at lw_m0 147 rfl) rfl
theorem q167 : (Jvm.Cond.methodLink "StablePartitionModel" (1 : Nat) ({ cls := "java/lang/Object", name := "<init>", desc := "()V" } : Jvm.MethodName)) ∈ lw_all := lw_g (lw_at lw_m0 148 rfl) rfl
theorem q168 : (Jvm.Cond.fieldLink "StablePartitionModel" (7 : Nat) "StablePartitionModel" "colours" "[I") ∈ lw_all := lw_g (lw_at lw_m0 149 rfl) rfl
theorem q169 : (Jvm.Cond.fieldLink "StablePartitionModel" (13 : Nat) "StablePartitionModel" "steps" "[Z") ∈ lw_all := lw_g (lw_at lw_m0 150 rfl) rfl
theorem q170 : (Jvm.Cond.fieldLink "StablePartitionModel" (17 : Nat) "StablePartitionModel" "now" "[Z") ∈ lw_all := lw_g (lw_at lw_m0 151 rfl) rfl
theorem q171 : (Jvm.Cond.fieldLink "StablePartitionModel" (20 : Nat) "StablePartitionModel" "after" "[Z") ∈ lw_all := lw_g (lw_at lw_m0 152 rfl) rfl
theorem q172 : (Jvm.Cond.laysFinal "StablePartitionModel" "StablePartitionModel" "colours" "[I") ∈ lw_all := lw_g (lw_at lw_m0 153 rfl) rfl
theorem q173 : (Jvm.Cond.soleField "StablePartitionModel" "colours") ∈ lw_all := lw_g (lw_at lw_m0 154 rfl) rfl
theorem q174 : (Jvm.Cond.laysFinal "StablePartitionModel" "StablePartitionModel" "steps" "[Z") ∈ lw_all := lw_g (lw_at lw_m0 155 rfl) rfl
theorem q175 : (Jvm.Cond.soleField "StablePartitionModel" "steps") ∈ lw_all := lw_g (lw_at lw_m0 156 rfl) rfl
theorem q176 : (Jvm.Cond.laysFinal "StablePartitionModel" "StablePartitionModel" "now" "[Z") ∈ lw_all := lw_g (lw_at lw_m0 157 rfl) rfl
theorem q177 : (Jvm.Cond.soleField "StablePartitionModel" "now") ∈ lw_all := lw_g (lw_at lw_m0 158 rfl) rfl
theorem q178 : (Jvm.Cond.laysFinal "StablePartitionModel" "StablePartitionModel" "after" "[Z") ∈ lw_all := lw_g (lw_at lw_m0 159 rfl) rfl
theorem q179 : (Jvm.Cond.soleField "StablePartitionModel" "after") ∈ lw_all := lw_g (lw_at lw_m0 160 rfl) rfl
theorem q180 : (Jvm.Cond.superclass "StablePartitionModel" "java/lang/Object") ∈ lw_all := lw_g (lw_at lw_m0 161 rfl) rfl
theorem q183 : (Jvm.Cond.instanceMethod ({ cls := "StablePartitionModel", name := "colour", desc := "(II)Z" } : Jvm.MethodName)) ∈ lw_all := lw_g (lw_at lw_m0 164 rfl) rfl
theorem q184 : (Jvm.Cond.selects "StablePartitionModel" ({ cls := "StablePartitionModel", name := "colour", desc := "(II)Z" } : Jvm.MethodName) ({ cls := "StablePartitionModel", name := "colour", desc := "(II)Z" } : Jvm.MethodName)) ∈ lw_all := lw_g (lw_at lw_m0 165 rfl) rfl
theorem q185 : (Jvm.Cond.code ({ cls := "StablePartitionModel", name := "colour", desc := "(II)Z" } : Jvm.MethodName) prog_3_method_3_code (3 : Nat) (Option.some Jvm.ClassFile.FieldType.boolean)) ∈ lw_all := lw_g (lw_at lw_m0 166 rfl) rfl
theorem q186 : (Jvm.Cond.methodLink "StablePartitionModel" (23 : Nat) ({ cls := "StablePartitionModel", name := "isState", desc := "(I)Z" } : Jvm.MethodName)) ∈ lw_all := lw_g (lw_at lw_m0 167 rfl) rfl
theorem q187 : (Jvm.Cond.privateMethod ({ cls := "StablePartitionModel", name := "isState", desc := "(I)Z" } : Jvm.MethodName)) ∈ lw_tbl := lw_at lw_m0 168 rfl
theorem q188 : (Jvm.Cond.instanceMethod ({ cls := "StablePartitionModel", name := "isState", desc := "(I)Z" } : Jvm.MethodName)) ∈ lw_all := lw_g (lw_at lw_m0 169 rfl) rfl
theorem q189 : (Jvm.Cond.code ({ cls := "StablePartitionModel", name := "isState", desc := "(I)Z" } : Jvm.MethodName) prog_3_method_2_code (2 : Nat) (Option.some Jvm.ClassFile.FieldType.boolean)) ∈ lw_all := lw_g (lw_at lw_m0 170 rfl) rfl
theorem q191 : (Jvm.Cond.instanceMethod ({ cls := "StablePartitionModel", name := "step", desc := "(IIIZ)Z" } : Jvm.MethodName)) ∈ lw_all := lw_g (lw_at lw_m0 172 rfl) rfl
theorem q192 : (Jvm.Cond.selects "StablePartitionModel" ({ cls := "StablePartitionModel", name := "step", desc := "(IIIZ)Z" } : Jvm.MethodName) ({ cls := "StablePartitionModel", name := "step", desc := "(IIIZ)Z" } : Jvm.MethodName)) ∈ lw_all := lw_g (lw_at lw_m0 173 rfl) rfl
theorem q193 : (Jvm.Cond.code ({ cls := "StablePartitionModel", name := "step", desc := "(IIIZ)Z" } : Jvm.MethodName) prog_3_method_4_code (5 : Nat) (Option.some Jvm.ClassFile.FieldType.boolean)) ∈ lw_all := lw_g (lw_at lw_m0 174 rfl) rfl
theorem q195 : (Jvm.Cond.instanceMethod ({ cls := "StablePartitionModel", name := "alike", desc := "(II)Z" } : Jvm.MethodName)) ∈ lw_all := lw_g (lw_at lw_m0 176 rfl) rfl
theorem q196 : (Jvm.Cond.selects "StablePartitionModel" ({ cls := "StablePartitionModel", name := "alike", desc := "(II)Z" } : Jvm.MethodName) ({ cls := "StablePartitionModel", name := "alike", desc := "(II)Z" } : Jvm.MethodName)) ∈ lw_all := lw_g (lw_at lw_m0 177 rfl) rfl
theorem q197 : (Jvm.Cond.code ({ cls := "StablePartitionModel", name := "alike", desc := "(II)Z" } : Jvm.MethodName) prog_3_method_9_code (3 : Nat) (Option.some Jvm.ClassFile.FieldType.boolean)) ∈ lw_all := lw_g (lw_at lw_m0 178 rfl) rfl
theorem q198 : (Jvm.Cond.methodLink "StablePartitionModel" (38 : Nat) ({ cls := "StablePartitionModel", name := "settle", desc := "()I" } : Jvm.MethodName)) ∈ lw_all := lw_g (lw_at lw_m0 179 rfl) rfl
theorem q199 : (Jvm.Cond.privateMethod ({ cls := "StablePartitionModel", name := "settle", desc := "()I" } : Jvm.MethodName)) ∈ lw_tbl := lw_at lw_m0 180 rfl
theorem q200 : (Jvm.Cond.instanceMethod ({ cls := "StablePartitionModel", name := "settle", desc := "()I" } : Jvm.MethodName)) ∈ lw_all := lw_g (lw_at lw_m0 181 rfl) rfl
theorem q201 : (Jvm.Cond.code ({ cls := "StablePartitionModel", name := "settle", desc := "()I" } : Jvm.MethodName) prog_3_method_8_code (2 : Nat) (Option.some Jvm.ClassFile.FieldType.int)) ∈ lw_all := lw_g (lw_at lw_m0 182 rfl) rfl
theorem q202 : (Jvm.Cond.methodLink "StablePartitionModel" (31 : Nat) ({ cls := "StablePartitionModel", name := "begin", desc := "()V" } : Jvm.MethodName)) ∈ lw_all := lw_g (lw_at lw_m0 183 rfl) rfl
theorem q203 : (Jvm.Cond.privateMethod ({ cls := "StablePartitionModel", name := "begin", desc := "()V" } : Jvm.MethodName)) ∈ lw_tbl := lw_at lw_m0 184 rfl
theorem q204 : (Jvm.Cond.instanceMethod ({ cls := "StablePartitionModel", name := "begin", desc := "()V" } : Jvm.MethodName)) ∈ lw_all := lw_g (lw_at lw_m0 185 rfl) rfl
theorem q205 : (Jvm.Cond.code ({ cls := "StablePartitionModel", name := "begin", desc := "()V" } : Jvm.MethodName) prog_3_method_5_code (2 : Nat) (Option.none : Option Jvm.ClassFile.FieldType)) ∈ lw_all := lw_g (lw_at lw_m0 186 rfl) rfl
theorem q206 : (Jvm.Cond.methodLink "StablePartitionModel" (34 : Nat) ({ cls := "StablePartitionModel", name := "round", desc := "()Z" } : Jvm.MethodName)) ∈ lw_all := lw_g (lw_at lw_m0 187 rfl) rfl
theorem q207 : (Jvm.Cond.privateMethod ({ cls := "StablePartitionModel", name := "round", desc := "()Z" } : Jvm.MethodName)) ∈ lw_tbl := lw_at lw_m0 188 rfl
theorem q208 : (Jvm.Cond.instanceMethod ({ cls := "StablePartitionModel", name := "round", desc := "()Z" } : Jvm.MethodName)) ∈ lw_all := lw_g (lw_at lw_m0 189 rfl) rfl
theorem q209 : (Jvm.Cond.code ({ cls := "StablePartitionModel", name := "round", desc := "()Z" } : Jvm.MethodName) prog_3_method_7_code (5 : Nat) (Option.some Jvm.ClassFile.FieldType.boolean)) ∈ lw_all := lw_g (lw_at lw_m0 190 rfl) rfl
theorem q210 : (Jvm.Cond.methodLink "StablePartitionModel" (27 : Nat) ({ cls := "StablePartitionModel", name := "answered", desc := "(III)Z" } : Jvm.MethodName)) ∈ lw_all := lw_g (lw_at lw_m0 191 rfl) rfl
theorem q211 : (Jvm.Cond.privateMethod ({ cls := "StablePartitionModel", name := "answered", desc := "(III)Z" } : Jvm.MethodName)) ∈ lw_tbl := lw_at lw_m0 192 rfl
theorem q212 : (Jvm.Cond.instanceMethod ({ cls := "StablePartitionModel", name := "answered", desc := "(III)Z" } : Jvm.MethodName)) ∈ lw_all := lw_g (lw_at lw_m0 193 rfl) rfl
theorem q213 : (Jvm.Cond.code ({ cls := "StablePartitionModel", name := "answered", desc := "(III)Z" } : Jvm.MethodName) prog_3_method_6_code (7 : Nat) (Option.some Jvm.ClassFile.FieldType.boolean)) ∈ lw_all := lw_g (lw_at lw_m0 194 rfl) rfl
theorem q215 : (Jvm.Cond.instanceMethod ({ cls := "StablePartitionModel", name := "classes", desc := "()I" } : Jvm.MethodName)) ∈ lw_all := lw_g (lw_at lw_m0 196 rfl) rfl
theorem q216 : (Jvm.Cond.selects "StablePartitionModel" ({ cls := "StablePartitionModel", name := "classes", desc := "()I" } : Jvm.MethodName) ({ cls := "StablePartitionModel", name := "classes", desc := "()I" } : Jvm.MethodName)) ∈ lw_all := lw_g (lw_at lw_m0 197 rfl) rfl
theorem q217 : (Jvm.Cond.code ({ cls := "StablePartitionModel", name := "classes", desc := "()I" } : Jvm.MethodName) prog_3_method_10_code (3 : Nat) (Option.some Jvm.ClassFile.FieldType.int)) ∈ lw_all := lw_g (lw_at lw_m0 198 rfl) rfl
theorem q218 : (Jvm.Cond.methodLink "StablePartitionModel" (42 : Nat) ({ cls := "StablePartitionModel", name := "leader", desc := "(I)I" } : Jvm.MethodName)) ∈ lw_all := lw_g (lw_at lw_m0 199 rfl) rfl
theorem q219 : (Jvm.Cond.instanceMethod ({ cls := "StablePartitionModel", name := "leader", desc := "(I)I" } : Jvm.MethodName)) ∈ lw_all := lw_g (lw_at lw_m0 200 rfl) rfl
theorem q220 : (Jvm.Cond.selects "StablePartitionModel" ({ cls := "StablePartitionModel", name := "leader", desc := "(I)I" } : Jvm.MethodName) ({ cls := "StablePartitionModel", name := "leader", desc := "(I)I" } : Jvm.MethodName)) ∈ lw_all := lw_g (lw_at lw_m0 201 rfl) rfl
theorem q221 : (Jvm.Cond.code ({ cls := "StablePartitionModel", name := "leader", desc := "(I)I" } : Jvm.MethodName) prog_3_method_11_code (2 : Nat) (Option.some Jvm.ClassFile.FieldType.int)) ∈ lw_all := lw_g (lw_at lw_m0 202 rfl) rfl
theorem q222 : (Jvm.Cond.methodLink "StablePartitionModel" (46 : Nat) ({ cls := "StablePartitionModel", name := "leaderNow", desc := "(I)I" } : Jvm.MethodName)) ∈ lw_all := lw_g (lw_at lw_m0 203 rfl) rfl
theorem q223 : (Jvm.Cond.privateMethod ({ cls := "StablePartitionModel", name := "leaderNow", desc := "(I)I" } : Jvm.MethodName)) ∈ lw_tbl := lw_at lw_m0 204 rfl
theorem q224 : (Jvm.Cond.instanceMethod ({ cls := "StablePartitionModel", name := "leaderNow", desc := "(I)I" } : Jvm.MethodName)) ∈ lw_all := lw_g (lw_at lw_m0 205 rfl) rfl
theorem q225 : (Jvm.Cond.code ({ cls := "StablePartitionModel", name := "leaderNow", desc := "(I)I" } : Jvm.MethodName) prog_3_method_12_code (3 : Nat) (Option.some Jvm.ClassFile.FieldType.int)) ∈ lw_all := lw_g (lw_at lw_m0 206 rfl) rfl
theorem q228 : (Jvm.Cond.instanceMethod ({ cls := "StablePartitionModel", name := "members", desc := "(I)I" } : Jvm.MethodName)) ∈ lw_all := lw_g (lw_at lw_m0 209 rfl) rfl
theorem q229 : (Jvm.Cond.selects "StablePartitionModel" ({ cls := "StablePartitionModel", name := "members", desc := "(I)I" } : Jvm.MethodName) ({ cls := "StablePartitionModel", name := "members", desc := "(I)I" } : Jvm.MethodName)) ∈ lw_all := lw_g (lw_at lw_m0 210 rfl) rfl
theorem q230 : (Jvm.Cond.code ({ cls := "StablePartitionModel", name := "members", desc := "(I)I" } : Jvm.MethodName) prog_3_method_13_code (4 : Nat) (Option.some Jvm.ClassFile.FieldType.int)) ∈ lw_all := lw_g (lw_at lw_m0 211 rfl) rfl
theorem q232 : (Jvm.Cond.instanceMethod ({ cls := "StablePartitionModel", name := "told", desc := "(II)I" } : Jvm.MethodName)) ∈ lw_all := lw_g (lw_at lw_m0 213 rfl) rfl
theorem q233 : (Jvm.Cond.selects "StablePartitionModel" ({ cls := "StablePartitionModel", name := "told", desc := "(II)I" } : Jvm.MethodName) ({ cls := "StablePartitionModel", name := "told", desc := "(II)I" } : Jvm.MethodName)) ∈ lw_all := lw_g (lw_at lw_m0 214 rfl) rfl
theorem q234 : (Jvm.Cond.code ({ cls := "StablePartitionModel", name := "told", desc := "(II)I" } : Jvm.MethodName) prog_3_method_14_code (4 : Nat) (Option.some Jvm.ClassFile.FieldType.int)) ∈ lw_all := lw_g (lw_at lw_m0 215 rfl) rfl
theorem q236 : (Jvm.Cond.instanceMethod ({ cls := "StablePartitionModel", name := "leads", desc := "(II)I" } : Jvm.MethodName)) ∈ lw_all := lw_g (lw_at lw_m0 217 rfl) rfl
theorem q237 : (Jvm.Cond.selects "StablePartitionModel" ({ cls := "StablePartitionModel", name := "leads", desc := "(II)I" } : Jvm.MethodName) ({ cls := "StablePartitionModel", name := "leads", desc := "(II)I" } : Jvm.MethodName)) ∈ lw_all := lw_g (lw_at lw_m0 218 rfl) rfl
theorem q238 : (Jvm.Cond.code ({ cls := "StablePartitionModel", name := "leads", desc := "(II)I" } : Jvm.MethodName) prog_3_method_15_code (5 : Nat) (Option.some Jvm.ClassFile.FieldType.int)) ∈ lw_all := lw_g (lw_at lw_m0 219 rfl) rfl
theorem q240 : (Jvm.Cond.instanceMethod ({ cls := "StablePartitionModel", name := "colours", desc := "()I" } : Jvm.MethodName)) ∈ lw_all := lw_g (lw_at lw_m0 221 rfl) rfl
theorem q241 : (Jvm.Cond.selects "StablePartitionModel" ({ cls := "StablePartitionModel", name := "colours", desc := "()I" } : Jvm.MethodName) ({ cls := "StablePartitionModel", name := "colours", desc := "()I" } : Jvm.MethodName)) ∈ lw_all := lw_g (lw_at lw_m0 222 rfl) rfl
theorem q242 : (Jvm.Cond.code ({ cls := "StablePartitionModel", name := "colours", desc := "()I" } : Jvm.MethodName) prog_3_method_16_code (3 : Nat) (Option.some Jvm.ClassFile.FieldType.int)) ∈ lw_all := lw_g (lw_at lw_m0 223 rfl) rfl
theorem q244 : (Jvm.Cond.instanceMethod ({ cls := "StablePartitionModel", name := "reduce", desc := "()I" } : Jvm.MethodName)) ∈ lw_all := lw_g (lw_at lw_m0 225 rfl) rfl
theorem q245 : (Jvm.Cond.selects "StablePartitionModel" ({ cls := "StablePartitionModel", name := "reduce", desc := "()I" } : Jvm.MethodName) ({ cls := "StablePartitionModel", name := "reduce", desc := "()I" } : Jvm.MethodName)) ∈ lw_all := lw_g (lw_at lw_m0 226 rfl) rfl
theorem q246 : (Jvm.Cond.code ({ cls := "StablePartitionModel", name := "reduce", desc := "()I" } : Jvm.MethodName) prog_3_method_17_code (5 : Nat) (Option.some Jvm.ClassFile.FieldType.int)) ∈ lw_all := lw_g (lw_at lw_m0 227 rfl) rfl
theorem q248 : (Jvm.Cond.instanceMethod ({ cls := "StablePartitionModel", name := "rounds", desc := "()I" } : Jvm.MethodName)) ∈ lw_all := lw_g (lw_at lw_m0 229 rfl) rfl
theorem q249 : (Jvm.Cond.selects "StablePartitionModel" ({ cls := "StablePartitionModel", name := "rounds", desc := "()I" } : Jvm.MethodName) ({ cls := "StablePartitionModel", name := "rounds", desc := "()I" } : Jvm.MethodName)) ∈ lw_all := lw_g (lw_at lw_m0 230 rfl) rfl
theorem q250 : (Jvm.Cond.code ({ cls := "StablePartitionModel", name := "rounds", desc := "()I" } : Jvm.MethodName) prog_3_method_18_code (1 : Nat) (Option.some Jvm.ClassFile.FieldType.int)) ∈ lw_all := lw_g (lw_at lw_m0 231 rfl) rfl
theorem in_X1 : ∀ w ∈ wsX10, w ∈ lw_all := lw_in wsX10 [172, 174, 176, 178] (by decide +kernel) (by decide +kernel)
end
section
/-! the law's own entry -/
set_option maxRecDepth 100000
abbrev cL_law : ByteArray := code
theorem dL_law_0 : decode cL_law 0 = .ok (.new 7, 3) := by decide +kernel
theorem dL_law_3 : decode cL_law 3 = .ok (.dup, 1) := by decide +kernel
theorem dL_law_4 : decode cL_law 4 = .ok (.invokespecial 9, 3) := by decide +kernel
theorem dL_law_7 : decode cL_law 7 = .ok (.astore_n 1, 1) := by decide +kernel
theorem dL_law_8 : decode cL_law 8 = .ok (.new 10, 3) := by decide +kernel
theorem dL_law_11 : decode cL_law 11 = .ok (.dup, 1) := by decide +kernel
theorem dL_law_12 : decode cL_law 12 = .ok (.invokespecial 12, 3) := by decide +kernel
theorem dL_law_15 : decode cL_law 15 = .ok (.astore_n 2, 1) := by decide +kernel
theorem dL_law_16 : decode cL_law 16 = .ok (.iconst 0, 1) := by decide +kernel
theorem dL_law_17 : decode cL_law 17 = .ok (.istore_n 3, 1) := by decide +kernel
theorem dL_law_18 : decode cL_law 18 = .ok (.iload_n 3, 1) := by decide +kernel
theorem dL_law_19 : decode cL_law 19 = .ok (.aload_n 0, 1) := by decide +kernel
theorem dL_law_20 : decode cL_law 20 = .ok (.arraylength, 1) := by decide +kernel
theorem dL_law_21 : decode cL_law 21 = .ok (.iconst 5, 1) := by decide +kernel
theorem dL_law_22 : decode cL_law 22 = .ok (.isub, 1) := by decide +kernel
theorem dL_law_23 : decode cL_law 23 = .ok (.if_icmp .gt 374, 3) := by decide +kernel
theorem dL_law_26 : decode cL_law 26 = .ok (.aload_n 0, 1) := by decide +kernel
theorem dL_law_27 : decode cL_law 27 = .ok (.iload_n 3, 1) := by decide +kernel
theorem dL_law_28 : decode cL_law 28 = .ok (.iaload, 1) := by decide +kernel
theorem dL_law_29 : decode cL_law 29 = .ok (.bipush 15, 2) := by decide +kernel
theorem dL_law_31 : decode cL_law 31 = .ok (.iand, 1) := by decide +kernel
theorem dL_law_32 : decode cL_law 32 = .ok (.tableswitch 359 0 10 #[60, 93, 162, 195, 208, 231, 254, 287, 320, 333, 346], 60) := by decide +kernel
theorem dL_law_92 : decode cL_law 92 = .ok (.aload_n 1, 1) := by decide +kernel
theorem dL_law_93 : decode cL_law 93 = .ok (.aload_n 0, 1) := by decide +kernel
theorem dL_law_94 : decode cL_law 94 = .ok (.iload_n 3, 1) := by decide +kernel
theorem dL_law_95 : decode cL_law 95 = .ok (.iconst 1, 1) := by decide +kernel
theorem dL_law_96 : decode cL_law 96 = .ok (.iadd, 1) := by decide +kernel
theorem dL_law_97 : decode cL_law 97 = .ok (.iaload, 1) := by decide +kernel
theorem dL_law_98 : decode cL_law 98 = .ok (.aload_n 0, 1) := by decide +kernel
theorem dL_law_99 : decode cL_law 99 = .ok (.iload_n 3, 1) := by decide +kernel
theorem dL_law_100 : decode cL_law 100 = .ok (.iconst 2, 1) := by decide +kernel
theorem dL_law_101 : decode cL_law 101 = .ok (.iadd, 1) := by decide +kernel
theorem dL_law_102 : decode cL_law 102 = .ok (.iaload, 1) := by decide +kernel
theorem dL_law_103 : decode cL_law 103 = .ok (.invokevirtual 13, 3) := by decide +kernel
theorem dL_law_106 : decode cL_law 106 = .ok (.aload_n 2, 1) := by decide +kernel
theorem dL_law_107 : decode cL_law 107 = .ok (.aload_n 0, 1) := by decide +kernel
theorem dL_law_108 : decode cL_law 108 = .ok (.iload_n 3, 1) := by decide +kernel
theorem dL_law_109 : decode cL_law 109 = .ok (.iconst 1, 1) := by decide +kernel
theorem dL_law_110 : decode cL_law 110 = .ok (.iadd, 1) := by decide +kernel
theorem dL_law_111 : decode cL_law 111 = .ok (.iaload, 1) := by decide +kernel
theorem dL_law_112 : decode cL_law 112 = .ok (.aload_n 0, 1) := by decide +kernel
theorem dL_law_113 : decode cL_law 113 = .ok (.iload_n 3, 1) := by decide +kernel
theorem dL_law_114 : decode cL_law 114 = .ok (.iconst 2, 1) := by decide +kernel
theorem dL_law_115 : decode cL_law 115 = .ok (.iadd, 1) := by decide +kernel
theorem dL_law_116 : decode cL_law 116 = .ok (.iaload, 1) := by decide +kernel
theorem dL_law_117 : decode cL_law 117 = .ok (.invokevirtual 17, 3) := by decide +kernel
theorem dL_law_120 : decode cL_law 120 = .ok (.if_icmp .eq 271, 3) := by decide +kernel
theorem dL_law_123 : decode cL_law 123 = .ok (.iconst 0, 1) := by decide +kernel
theorem dL_law_124 : decode cL_law 124 = .ok (.ireturn, 1) := by decide +kernel
theorem dL_law_125 : decode cL_law 125 = .ok (.aload_n 1, 1) := by decide +kernel
theorem dL_law_126 : decode cL_law 126 = .ok (.aload_n 0, 1) := by decide +kernel
theorem dL_law_127 : decode cL_law 127 = .ok (.iload_n 3, 1) := by decide +kernel
theorem dL_law_128 : decode cL_law 128 = .ok (.iconst 1, 1) := by decide +kernel
theorem dL_law_129 : decode cL_law 129 = .ok (.iadd, 1) := by decide +kernel
theorem dL_law_130 : decode cL_law 130 = .ok (.iaload, 1) := by decide +kernel
theorem dL_law_131 : decode cL_law 131 = .ok (.aload_n 0, 1) := by decide +kernel
theorem dL_law_132 : decode cL_law 132 = .ok (.iload_n 3, 1) := by decide +kernel
theorem dL_law_133 : decode cL_law 133 = .ok (.iconst 2, 1) := by decide +kernel
theorem dL_law_134 : decode cL_law 134 = .ok (.iadd, 1) := by decide +kernel
theorem dL_law_135 : decode cL_law 135 = .ok (.iaload, 1) := by decide +kernel
theorem dL_law_136 : decode cL_law 136 = .ok (.aload_n 0, 1) := by decide +kernel
theorem dL_law_137 : decode cL_law 137 = .ok (.iload_n 3, 1) := by decide +kernel
theorem dL_law_138 : decode cL_law 138 = .ok (.iconst 3, 1) := by decide +kernel
theorem dL_law_139 : decode cL_law 139 = .ok (.iadd, 1) := by decide +kernel
theorem dL_law_140 : decode cL_law 140 = .ok (.iaload, 1) := by decide +kernel
theorem dL_law_141 : decode cL_law 141 = .ok (.aload_n 0, 1) := by decide +kernel
theorem dL_law_142 : decode cL_law 142 = .ok (.iload_n 3, 1) := by decide +kernel
theorem dL_law_143 : decode cL_law 143 = .ok (.iconst 4, 1) := by decide +kernel
theorem dL_law_144 : decode cL_law 144 = .ok (.iadd, 1) := by decide +kernel
theorem dL_law_145 : decode cL_law 145 = .ok (.iaload, 1) := by decide +kernel
theorem dL_law_146 : decode cL_law 146 = .ok (.ifCond .eq 7, 3) := by decide +kernel
theorem dL_law_149 : decode cL_law 149 = .ok (.iconst 1, 1) := by decide +kernel
theorem dL_law_150 : decode cL_law 150 = .ok (.goto 4, 3) := by decide +kernel
theorem dL_law_153 : decode cL_law 153 = .ok (.iconst 0, 1) := by decide +kernel
theorem dL_law_154 : decode cL_law 154 = .ok (.invokevirtual 18, 3) := by decide +kernel
theorem dL_law_157 : decode cL_law 157 = .ok (.aload_n 2, 1) := by decide +kernel
theorem dL_law_158 : decode cL_law 158 = .ok (.aload_n 0, 1) := by decide +kernel
theorem dL_law_159 : decode cL_law 159 = .ok (.iload_n 3, 1) := by decide +kernel
theorem dL_law_160 : decode cL_law 160 = .ok (.iconst 1, 1) := by decide +kernel
theorem dL_law_161 : decode cL_law 161 = .ok (.iadd, 1) := by decide +kernel
theorem dL_law_162 : decode cL_law 162 = .ok (.iaload, 1) := by decide +kernel
theorem dL_law_163 : decode cL_law 163 = .ok (.aload_n 0, 1) := by decide +kernel
theorem dL_law_164 : decode cL_law 164 = .ok (.iload_n 3, 1) := by decide +kernel
theorem dL_law_165 : decode cL_law 165 = .ok (.iconst 2, 1) := by decide +kernel
theorem dL_law_166 : decode cL_law 166 = .ok (.iadd, 1) := by decide +kernel
theorem dL_law_167 : decode cL_law 167 = .ok (.iaload, 1) := by decide +kernel
theorem dL_law_168 : decode cL_law 168 = .ok (.aload_n 0, 1) := by decide +kernel
theorem dL_law_169 : decode cL_law 169 = .ok (.iload_n 3, 1) := by decide +kernel
theorem dL_law_170 : decode cL_law 170 = .ok (.iconst 3, 1) := by decide +kernel
theorem dL_law_171 : decode cL_law 171 = .ok (.iadd, 1) := by decide +kernel
theorem dL_law_172 : decode cL_law 172 = .ok (.iaload, 1) := by decide +kernel
theorem dL_law_173 : decode cL_law 173 = .ok (.aload_n 0, 1) := by decide +kernel
theorem dL_law_174 : decode cL_law 174 = .ok (.iload_n 3, 1) := by decide +kernel
theorem dL_law_175 : decode cL_law 175 = .ok (.iconst 4, 1) := by decide +kernel
theorem dL_law_176 : decode cL_law 176 = .ok (.iadd, 1) := by decide +kernel
theorem dL_law_177 : decode cL_law 177 = .ok (.iaload, 1) := by decide +kernel
theorem dL_law_178 : decode cL_law 178 = .ok (.ifCond .eq 7, 3) := by decide +kernel
theorem dL_law_181 : decode cL_law 181 = .ok (.iconst 1, 1) := by decide +kernel
theorem dL_law_182 : decode cL_law 182 = .ok (.goto 4, 3) := by decide +kernel
theorem dL_law_185 : decode cL_law 185 = .ok (.iconst 0, 1) := by decide +kernel
theorem dL_law_186 : decode cL_law 186 = .ok (.invokevirtual 22, 3) := by decide +kernel
theorem dL_law_189 : decode cL_law 189 = .ok (.if_icmp .eq 202, 3) := by decide +kernel
theorem dL_law_192 : decode cL_law 192 = .ok (.iconst 0, 1) := by decide +kernel
theorem dL_law_193 : decode cL_law 193 = .ok (.ireturn, 1) := by decide +kernel
theorem dL_law_194 : decode cL_law 194 = .ok (.aload_n 1, 1) := by decide +kernel
theorem dL_law_195 : decode cL_law 195 = .ok (.aload_n 0, 1) := by decide +kernel
theorem dL_law_196 : decode cL_law 196 = .ok (.iload_n 3, 1) := by decide +kernel
theorem dL_law_197 : decode cL_law 197 = .ok (.iconst 1, 1) := by decide +kernel
theorem dL_law_198 : decode cL_law 198 = .ok (.iadd, 1) := by decide +kernel
theorem dL_law_199 : decode cL_law 199 = .ok (.iaload, 1) := by decide +kernel
theorem dL_law_200 : decode cL_law 200 = .ok (.aload_n 0, 1) := by decide +kernel
theorem dL_law_201 : decode cL_law 201 = .ok (.iload_n 3, 1) := by decide +kernel
theorem dL_law_202 : decode cL_law 202 = .ok (.iconst 2, 1) := by decide +kernel
theorem dL_law_203 : decode cL_law 203 = .ok (.iadd, 1) := by decide +kernel
theorem dL_law_204 : decode cL_law 204 = .ok (.iaload, 1) := by decide +kernel
theorem dL_law_205 : decode cL_law 205 = .ok (.invokevirtual 23, 3) := by decide +kernel
theorem dL_law_208 : decode cL_law 208 = .ok (.aload_n 2, 1) := by decide +kernel
theorem dL_law_209 : decode cL_law 209 = .ok (.aload_n 0, 1) := by decide +kernel
theorem dL_law_210 : decode cL_law 210 = .ok (.iload_n 3, 1) := by decide +kernel
theorem dL_law_211 : decode cL_law 211 = .ok (.iconst 1, 1) := by decide +kernel
theorem dL_law_212 : decode cL_law 212 = .ok (.iadd, 1) := by decide +kernel
theorem dL_law_213 : decode cL_law 213 = .ok (.iaload, 1) := by decide +kernel
theorem dL_law_214 : decode cL_law 214 = .ok (.aload_n 0, 1) := by decide +kernel
theorem dL_law_215 : decode cL_law 215 = .ok (.iload_n 3, 1) := by decide +kernel
end
section
set_option maxRecDepth 100000
theorem dL_law_216 : decode cL_law 216 = .ok (.iconst 2, 1) := by decide +kernel
theorem dL_law_217 : decode cL_law 217 = .ok (.iadd, 1) := by decide +kernel
theorem dL_law_218 : decode cL_law 218 = .ok (.iaload, 1) := by decide +kernel
theorem dL_law_219 : decode cL_law 219 = .ok (.invokevirtual 26, 3) := by decide +kernel
theorem dL_law_222 : decode cL_law 222 = .ok (.if_icmp .eq 169, 3) := by decide +kernel
theorem dL_law_225 : decode cL_law 225 = .ok (.iconst 0, 1) := by decide +kernel
theorem dL_law_226 : decode cL_law 226 = .ok (.ireturn, 1) := by decide +kernel
theorem dL_law_227 : decode cL_law 227 = .ok (.aload_n 1, 1) := by decide +kernel
theorem dL_law_228 : decode cL_law 228 = .ok (.invokevirtual 27, 3) := by decide +kernel
theorem dL_law_231 : decode cL_law 231 = .ok (.aload_n 2, 1) := by decide +kernel
theorem dL_law_232 : decode cL_law 232 = .ok (.invokevirtual 31, 3) := by decide +kernel
theorem dL_law_235 : decode cL_law 235 = .ok (.if_icmp .eq 156, 3) := by decide +kernel
theorem dL_law_238 : decode cL_law 238 = .ok (.iconst 0, 1) := by decide +kernel
theorem dL_law_239 : decode cL_law 239 = .ok (.ireturn, 1) := by decide +kernel
theorem dL_law_240 : decode cL_law 240 = .ok (.aload_n 1, 1) := by decide +kernel
theorem dL_law_241 : decode cL_law 241 = .ok (.aload_n 0, 1) := by decide +kernel
theorem dL_law_242 : decode cL_law 242 = .ok (.iload_n 3, 1) := by decide +kernel
theorem dL_law_243 : decode cL_law 243 = .ok (.iconst 1, 1) := by decide +kernel
theorem dL_law_244 : decode cL_law 244 = .ok (.iadd, 1) := by decide +kernel
theorem dL_law_245 : decode cL_law 245 = .ok (.iaload, 1) := by decide +kernel
theorem dL_law_246 : decode cL_law 246 = .ok (.invokevirtual 32, 3) := by decide +kernel
theorem dL_law_249 : decode cL_law 249 = .ok (.aload_n 2, 1) := by decide +kernel
theorem dL_law_250 : decode cL_law 250 = .ok (.aload_n 0, 1) := by decide +kernel
theorem dL_law_251 : decode cL_law 251 = .ok (.iload_n 3, 1) := by decide +kernel
theorem dL_law_252 : decode cL_law 252 = .ok (.iconst 1, 1) := by decide +kernel
theorem dL_law_253 : decode cL_law 253 = .ok (.iadd, 1) := by decide +kernel
theorem dL_law_254 : decode cL_law 254 = .ok (.iaload, 1) := by decide +kernel
theorem dL_law_255 : decode cL_law 255 = .ok (.invokevirtual 36, 3) := by decide +kernel
theorem dL_law_258 : decode cL_law 258 = .ok (.if_icmp .eq 133, 3) := by decide +kernel
theorem dL_law_261 : decode cL_law 261 = .ok (.iconst 0, 1) := by decide +kernel
theorem dL_law_262 : decode cL_law 262 = .ok (.ireturn, 1) := by decide +kernel
theorem dL_law_263 : decode cL_law 263 = .ok (.aload_n 1, 1) := by decide +kernel
theorem dL_law_264 : decode cL_law 264 = .ok (.aload_n 0, 1) := by decide +kernel
theorem dL_law_265 : decode cL_law 265 = .ok (.iload_n 3, 1) := by decide +kernel
theorem dL_law_266 : decode cL_law 266 = .ok (.iconst 1, 1) := by decide +kernel
theorem dL_law_267 : decode cL_law 267 = .ok (.iadd, 1) := by decide +kernel
theorem dL_law_268 : decode cL_law 268 = .ok (.iaload, 1) := by decide +kernel
theorem dL_law_269 : decode cL_law 269 = .ok (.invokevirtual 37, 3) := by decide +kernel
theorem dL_law_272 : decode cL_law 272 = .ok (.aload_n 2, 1) := by decide +kernel
theorem dL_law_273 : decode cL_law 273 = .ok (.aload_n 0, 1) := by decide +kernel
theorem dL_law_274 : decode cL_law 274 = .ok (.iload_n 3, 1) := by decide +kernel
theorem dL_law_275 : decode cL_law 275 = .ok (.iconst 1, 1) := by decide +kernel
theorem dL_law_276 : decode cL_law 276 = .ok (.iadd, 1) := by decide +kernel
theorem dL_law_277 : decode cL_law 277 = .ok (.iaload, 1) := by decide +kernel
theorem dL_law_278 : decode cL_law 278 = .ok (.invokevirtual 40, 3) := by decide +kernel
theorem dL_law_281 : decode cL_law 281 = .ok (.if_icmp .eq 110, 3) := by decide +kernel
theorem dL_law_284 : decode cL_law 284 = .ok (.iconst 0, 1) := by decide +kernel
theorem dL_law_285 : decode cL_law 285 = .ok (.ireturn, 1) := by decide +kernel
theorem dL_law_286 : decode cL_law 286 = .ok (.aload_n 1, 1) := by decide +kernel
theorem dL_law_287 : decode cL_law 287 = .ok (.aload_n 0, 1) := by decide +kernel
theorem dL_law_288 : decode cL_law 288 = .ok (.iload_n 3, 1) := by decide +kernel
theorem dL_law_289 : decode cL_law 289 = .ok (.iconst 1, 1) := by decide +kernel
theorem dL_law_290 : decode cL_law 290 = .ok (.iadd, 1) := by decide +kernel
theorem dL_law_291 : decode cL_law 291 = .ok (.iaload, 1) := by decide +kernel
theorem dL_law_292 : decode cL_law 292 = .ok (.aload_n 0, 1) := by decide +kernel
theorem dL_law_293 : decode cL_law 293 = .ok (.iload_n 3, 1) := by decide +kernel
theorem dL_law_294 : decode cL_law 294 = .ok (.iconst 2, 1) := by decide +kernel
theorem dL_law_295 : decode cL_law 295 = .ok (.iadd, 1) := by decide +kernel
theorem dL_law_296 : decode cL_law 296 = .ok (.iaload, 1) := by decide +kernel
theorem dL_law_297 : decode cL_law 297 = .ok (.invokevirtual 41, 3) := by decide +kernel
theorem dL_law_300 : decode cL_law 300 = .ok (.aload_n 2, 1) := by decide +kernel
theorem dL_law_301 : decode cL_law 301 = .ok (.aload_n 0, 1) := by decide +kernel
theorem dL_law_302 : decode cL_law 302 = .ok (.iload_n 3, 1) := by decide +kernel
theorem dL_law_303 : decode cL_law 303 = .ok (.iconst 1, 1) := by decide +kernel
theorem dL_law_304 : decode cL_law 304 = .ok (.iadd, 1) := by decide +kernel
theorem dL_law_305 : decode cL_law 305 = .ok (.iaload, 1) := by decide +kernel
theorem dL_law_306 : decode cL_law 306 = .ok (.aload_n 0, 1) := by decide +kernel
theorem dL_law_307 : decode cL_law 307 = .ok (.iload_n 3, 1) := by decide +kernel
theorem dL_law_308 : decode cL_law 308 = .ok (.iconst 2, 1) := by decide +kernel
theorem dL_law_309 : decode cL_law 309 = .ok (.iadd, 1) := by decide +kernel
theorem dL_law_310 : decode cL_law 310 = .ok (.iaload, 1) := by decide +kernel
theorem dL_law_311 : decode cL_law 311 = .ok (.invokevirtual 45, 3) := by decide +kernel
theorem dL_law_314 : decode cL_law 314 = .ok (.if_icmp .eq 77, 3) := by decide +kernel
theorem dL_law_317 : decode cL_law 317 = .ok (.iconst 0, 1) := by decide +kernel
theorem dL_law_318 : decode cL_law 318 = .ok (.ireturn, 1) := by decide +kernel
theorem dL_law_319 : decode cL_law 319 = .ok (.aload_n 1, 1) := by decide +kernel
theorem dL_law_320 : decode cL_law 320 = .ok (.aload_n 0, 1) := by decide +kernel
theorem dL_law_321 : decode cL_law 321 = .ok (.iload_n 3, 1) := by decide +kernel
theorem dL_law_322 : decode cL_law 322 = .ok (.iconst 1, 1) := by decide +kernel
theorem dL_law_323 : decode cL_law 323 = .ok (.iadd, 1) := by decide +kernel
theorem dL_law_324 : decode cL_law 324 = .ok (.iaload, 1) := by decide +kernel
theorem dL_law_325 : decode cL_law 325 = .ok (.aload_n 0, 1) := by decide +kernel
theorem dL_law_326 : decode cL_law 326 = .ok (.iload_n 3, 1) := by decide +kernel
theorem dL_law_327 : decode cL_law 327 = .ok (.iconst 2, 1) := by decide +kernel
theorem dL_law_328 : decode cL_law 328 = .ok (.iadd, 1) := by decide +kernel
theorem dL_law_329 : decode cL_law 329 = .ok (.iaload, 1) := by decide +kernel
theorem dL_law_330 : decode cL_law 330 = .ok (.invokevirtual 46, 3) := by decide +kernel
theorem dL_law_333 : decode cL_law 333 = .ok (.aload_n 2, 1) := by decide +kernel
theorem dL_law_334 : decode cL_law 334 = .ok (.aload_n 0, 1) := by decide +kernel
theorem dL_law_335 : decode cL_law 335 = .ok (.iload_n 3, 1) := by decide +kernel
theorem dL_law_336 : decode cL_law 336 = .ok (.iconst 1, 1) := by decide +kernel
theorem dL_law_337 : decode cL_law 337 = .ok (.iadd, 1) := by decide +kernel
theorem dL_law_338 : decode cL_law 338 = .ok (.iaload, 1) := by decide +kernel
theorem dL_law_339 : decode cL_law 339 = .ok (.aload_n 0, 1) := by decide +kernel
theorem dL_law_340 : decode cL_law 340 = .ok (.iload_n 3, 1) := by decide +kernel
theorem dL_law_341 : decode cL_law 341 = .ok (.iconst 2, 1) := by decide +kernel
theorem dL_law_342 : decode cL_law 342 = .ok (.iadd, 1) := by decide +kernel
theorem dL_law_343 : decode cL_law 343 = .ok (.iaload, 1) := by decide +kernel
theorem dL_law_344 : decode cL_law 344 = .ok (.invokevirtual 49, 3) := by decide +kernel
theorem dL_law_347 : decode cL_law 347 = .ok (.if_icmp .eq 44, 3) := by decide +kernel
theorem dL_law_350 : decode cL_law 350 = .ok (.iconst 0, 1) := by decide +kernel
theorem dL_law_351 : decode cL_law 351 = .ok (.ireturn, 1) := by decide +kernel
theorem dL_law_352 : decode cL_law 352 = .ok (.aload_n 1, 1) := by decide +kernel
theorem dL_law_353 : decode cL_law 353 = .ok (.invokevirtual 50, 3) := by decide +kernel
theorem dL_law_356 : decode cL_law 356 = .ok (.aload_n 2, 1) := by decide +kernel
theorem dL_law_357 : decode cL_law 357 = .ok (.invokevirtual 53, 3) := by decide +kernel
theorem dL_law_360 : decode cL_law 360 = .ok (.if_icmp .eq 31, 3) := by decide +kernel
theorem dL_law_363 : decode cL_law 363 = .ok (.iconst 0, 1) := by decide +kernel
theorem dL_law_364 : decode cL_law 364 = .ok (.ireturn, 1) := by decide +kernel
theorem dL_law_365 : decode cL_law 365 = .ok (.aload_n 1, 1) := by decide +kernel
theorem dL_law_366 : decode cL_law 366 = .ok (.invokevirtual 54, 3) := by decide +kernel
theorem dL_law_369 : decode cL_law 369 = .ok (.aload_n 2, 1) := by decide +kernel
theorem dL_law_370 : decode cL_law 370 = .ok (.invokevirtual 57, 3) := by decide +kernel
theorem dL_law_373 : decode cL_law 373 = .ok (.if_icmp .eq 18, 3) := by decide +kernel
theorem dL_law_376 : decode cL_law 376 = .ok (.iconst 0, 1) := by decide +kernel
theorem dL_law_377 : decode cL_law 377 = .ok (.ireturn, 1) := by decide +kernel
theorem dL_law_378 : decode cL_law 378 = .ok (.aload_n 1, 1) := by decide +kernel
theorem dL_law_379 : decode cL_law 379 = .ok (.invokevirtual 58, 3) := by decide +kernel
theorem dL_law_382 : decode cL_law 382 = .ok (.aload_n 2, 1) := by decide +kernel
theorem dL_law_383 : decode cL_law 383 = .ok (.invokevirtual 61, 3) := by decide +kernel
theorem dL_law_386 : decode cL_law 386 = .ok (.if_icmp .eq 5, 3) := by decide +kernel
theorem dL_law_389 : decode cL_law 389 = .ok (.iconst 0, 1) := by decide +kernel
theorem dL_law_390 : decode cL_law 390 = .ok (.ireturn, 1) := by decide +kernel
theorem dL_law_391 : decode cL_law 391 = .ok (.iinc 3 5, 3) := by decide +kernel
theorem dL_law_394 : decode cL_law 394 = .ok (.goto (-376), 3) := by decide +kernel
theorem dL_law_397 : decode cL_law 397 = .ok (.iconst 1, 1) := by decide +kernel
theorem dL_law_398 : decode cL_law 398 = .ok (.ireturn, 1) := by decide +kernel
end
section
/-! THE PLAIN LAW, 1: bounded searches, masks, counts, the relation round by round -/
set_option maxRecDepth 20000
def sp_all (p : Nat → Bool) : Nat → Bool
  | 0 => true
  | n + 1 => sp_all p n && p n
def sp_any (p : Nat → Bool) : Nat → Bool
  | 0 => false
  | n + 1 => sp_any p n || p n
/-- the mask of the places f s, s < n with p s -/
def sp_img (p : Nat → Bool) (f : Nat → Nat) : Nat → Nat
  | 0 => 0
  | n + 1 => if p n = true then sp_img p f n ||| 2 ^ f n else sp_img p f n
def sp_pop (x : Nat) : Nat → Nat
  | 0 => 0
  | n + 1 => sp_pop x n + (x >>> n &&& 1)
def sp_cnt (p : Nat → Bool) : Nat → Nat
  | 0 => 0
  | n + 1 => sp_cnt p n + (p n).toNat
/-- the first t < n with p t, or n -/
def sp_fst (p : Nat → Bool) : Nat → Nat
  | 0 => 0
  | n + 1 => if sp_fst p n < n then sp_fst p n else if p n = true then n else n + 1
theorem sp_all_iff (p : Nat → Bool) (n : Nat) : sp_all p n = true ↔ ∀ i, i < n → p i = true := by
  induction n with
  | zero => simp [sp_all]
  | succ n ih =>
    simp only [sp_all, Bool.and_eq_true, ih]
    constructor
    · intro h i hi
      by_cases e : i = n
      · rw [e]; exact h.2
      · exact h.1 i (by omega)
    · intro h
      exact ⟨fun i hi => h i (by omega), h n (by omega)⟩
theorem sp_any_iff (p : Nat → Bool) (n : Nat) : sp_any p n = true ↔ ∃ i, i < n ∧ p i = true := by
  induction n with
  | zero => simp [sp_any]
  | succ n ih =>
    simp only [sp_any, Bool.or_eq_true, ih]
    constructor
    · rintro (⟨i, h1, h2⟩ | h)
      · exact ⟨i, by omega, h2⟩
      · exact ⟨n, by omega, h⟩
    · rintro ⟨i, h1, h2⟩
      by_cases e : i = n
      · rw [e] at h2; exact Or.inr h2
      · exact Or.inl ⟨i, by omega, h2⟩
theorem sp_any_no (p : Nat → Bool) (n : Nat) : sp_any p n = false ↔ ∀ i, i < n → p i = false := by
  constructor
  · intro h i hi
    cases hp : p i with
    | false => rfl
    | true => rw [(sp_any_iff p n).mpr ⟨i, hi, hp⟩] at h; exact h
  · intro h
    cases hp : sp_any p n with
    | false => rfl
    | true =>
      obtain ⟨i, h1, h2⟩ := (sp_any_iff p n).mp hp
      rw [h i h1] at h2
      exact absurd h2 (by decide)
theorem sp_any_congr {p q : Nat → Bool} {n : Nat} (h : ∀ i, i < n → p i = q i) : sp_any p n = sp_any q n := by
  induction n with
  | zero => rfl
  | succ n ih => simp only [sp_any]; rw [ih (fun i hi => h i (by omega)), h n (by omega)]
theorem sp_all_congr {p q : Nat → Bool} {n : Nat} (h : ∀ i, i < n → p i = q i) : sp_all p n = sp_all q n := by
  induction n with
  | zero => rfl
  | succ n ih => simp only [sp_all]; rw [ih (fun i hi => h i (by omega)), h n (by omega)]
theorem sp_img_bit (p : Nat → Bool) (f : Nat → Nat) (n i : Nat) : (sp_img p f n).testBit i = true ↔ ∃ s, s < n ∧ p s = true ∧ f s = i := by
  induction n with
  | zero => simp [sp_img]
  | succ n ih =>
    by_cases h : p n = true
    · rw [show sp_img p f (n + 1) = sp_img p f n ||| 2 ^ f n from if_pos h, Nat.testBit_or, Bool.or_eq_true, ih, Nat.testBit_two_pow, decide_eq_true_eq]
      constructor
      · rintro (⟨s, h1, h2, h3⟩ | h1)
        · exact ⟨s, by omega, h2, h3⟩
        · exact ⟨n, by omega, h, h1⟩
      · rintro ⟨s, h1, h2, h3⟩
        by_cases hs : s = n
        · rw [hs] at h3; exact Or.inr h3
        · exact Or.inl ⟨s, by omega, h2, h3⟩
    · rw [show sp_img p f (n + 1) = sp_img p f n from if_neg h, ih]
      constructor
      · rintro ⟨s, h1, h2, h3⟩
        exact ⟨s, by omega, h2, h3⟩
      · rintro ⟨s, h1, h2, h3⟩
        by_cases hs : s = n
        · rw [hs] at h2; exact absurd h2 h
        · exact ⟨s, by omega, h2, h3⟩
theorem sp_img_lt {p : Nat → Bool} {f : Nat → Nat} {n d : Nat} (h : ∀ s, s < n → p s = true → f s < d) : sp_img p f n < 2 ^ d := by
  refine Nat.lt_pow_two_of_testBit _ (fun i hi => ?_)
  cases hb : (sp_img p f n).testBit i with
  | false => rfl
  | true =>
    obtain ⟨s, h1, h2, h3⟩ := (sp_img_bit p f n i).mp hb
    have := h s h1 h2
    omega
theorem sp_img_congr {p q : Nat → Bool} {f g : Nat → Nat} {n : Nat} (h : ∀ s, s < n → p s = q s) (h2 : ∀ s, s < n → f s = g s) : sp_img p f n = sp_img q g n := by
  induction n with
  | zero => rfl
  | succ n ih => simp only [sp_img]; rw [ih (fun i hi => h i (by omega)) (fun i hi => h2 i (by omega)), h n (by omega), h2 n (by omega)]
/-- a mask that is built by the places themselves -/
theorem sp_msk_bit (p : Nat → Bool) (n i : Nat) : (sp_img p (fun s => s) n).testBit i = true ↔ i < n ∧ p i = true := by
  rw [sp_img_bit]
  constructor
  · rintro ⟨s, h1, h2, h3⟩
    have h3 : s = i := h3
    rw [← h3]; exact ⟨h1, h2⟩
  · rintro ⟨h1, h2⟩
    exact ⟨i, h1, h2, rfl⟩
theorem sp_fst_le (p : Nat → Bool) (n : Nat) : sp_fst p n ≤ n := by
  induction n with
  | zero => exact Nat.le_refl 0
  | succ n ih => simp only [sp_fst]; split <;> (try split) <;> omega
theorem sp_fst_no {p : Nat → Bool} {n : Nat} : ∀ j, j < sp_fst p n → p j = false := by
  induction n with
  | zero => intro j h; exact absurd h (Nat.not_lt_zero j)
  | succ n ih =>
    have hle := sp_fst_le p n
    intro j h
    simp only [sp_fst] at h
    by_cases h1 : sp_fst p n < n
    · rw [if_pos h1] at h; exact ih j h
    · rw [if_neg h1] at h
      by_cases h2 : p n = true
      · rw [if_pos h2] at h; exact ih j (by omega)
      · rw [if_neg h2] at h
        by_cases e : j = n
        · rw [e]; simpa using h2
        · exact ih j (by omega)
theorem sp_fst_yes {p : Nat → Bool} {n : Nat} : sp_fst p n < n → p (sp_fst p n) = true := by
  induction n with
  | zero => intro h; exact absurd h (Nat.not_lt_zero _)
  | succ n ih =>
    have hle := sp_fst_le p n
    intro h
    simp only [sp_fst] at h ⊢
    by_cases h1 : sp_fst p n < n
    · rw [if_pos h1] at h ⊢; exact ih h1
    · rw [if_neg h1] at h ⊢
      by_cases h2 : p n = true
      · rw [if_pos h2]; exact h2
      · rw [if_neg h2] at h; omega
theorem sp_fst_eq {p : Nat → Bool} {n t : Nat} (h1 : t ≤ n) (h2 : ∀ j, j < t → p j = false) (h3 : t < n → p t = true) : sp_fst p n = t := by
  rcases Nat.lt_trichotomy (sp_fst p n) t with h | h | h
  · have a := sp_fst_yes (p := p) (n := n) (by omega)
    rw [h2 _ h] at a
    exact absurd a (by decide)
  · exact h
  · have a := sp_fst_no (p := p) (n := n) t h
    have b := sp_fst_le p n
    rw [h3 (by omega)] at a
    exact absurd a (by decide)
theorem sp_fst_congr {p q : Nat → Bool} {n : Nat} (h : ∀ j, j < n → p j = q j) : sp_fst p n = sp_fst q n := by
  have b := sp_fst_le q n
  exact sp_fst_eq b (fun j hj => by rw [h j (by omega)]; exact sp_fst_no j hj) (fun hl => by rw [h _ hl]; exact sp_fst_yes hl)
theorem sp_cnt_le (p : Nat → Bool) (n : Nat) : sp_cnt p n ≤ n := by
  induction n with
  | zero => exact Nat.le_refl 0
  | succ n ih =>
    have := Bool.toNat_le (p n)
    simp only [sp_cnt]; omega
theorem sp_cnt_congr {p q : Nat → Bool} {n : Nat} (h : ∀ j, j < n → p j = q j) : sp_cnt p n = sp_cnt q n := by
  induction n with
  | zero => rfl
  | succ n ih => simp only [sp_cnt]; rw [ih (fun i hi => h i (by omega)), h n (by omega)]
theorem sp_tn {a b : Bool} (h : a = true → b = true) : a.toNat ≤ b.toNat := by
  cases a with
  | false => exact Nat.zero_le _
  | true => rw [h rfl]; exact Nat.le_refl _
theorem sp_cnt_mono {p q : Nat → Bool} {n : Nat} (h : ∀ j, j < n → p j = true → q j = true) : sp_cnt p n ≤ sp_cnt q n := by
  induction n with
  | zero => exact Nat.le_refl 0
  | succ n ih =>
    have a := ih (fun i hi => h i (by omega))
    have b := sp_tn (h n (by omega))
    simp only [sp_cnt]; omega
theorem sp_cnt_lt {p q : Nat → Bool} {n i : Nat} (h : ∀ j, j < n → p j = true → q j = true) (hi : i < n) (h1 : p i = false) (h2 : q i = true) : sp_cnt p n < sp_cnt q n := by
  induction n with
  | zero => exact absurd hi (Nat.not_lt_zero i)
  | succ n ih =>
    simp only [sp_cnt]
    by_cases e : i = n
    · have a := sp_cnt_mono (p := p) (q := q) (n := n) (fun i hi => h i (by omega))
      rw [e] at h1 h2
      rw [h1, h2]
      simp only [Bool.toNat_false, Bool.toNat_true]
      omega
    · have a := ih (fun i hi => h i (by omega)) (by omega)
      have b := sp_tn (h n (by omega))
      omega
theorem sp_cnt_ins {p q : Nat → Bool} {n i : Nat} (h : ∀ j, j < n → j ≠ i → q j = p j) (hi : i < n) (h1 : p i = false) (h2 : q i = true) : sp_cnt q n = sp_cnt p n + 1 := by
  induction n with
  | zero => exact absurd hi (Nat.not_lt_zero i)
  | succ n ih =>
    simp only [sp_cnt]
    by_cases e : i = n
    · have a := sp_cnt_congr (p := q) (q := p) (n := n) (fun j hj => h j (by omega) (by omega))
      rw [e] at h1 h2
      rw [h1, h2, a]
      simp only [Bool.toNat_false, Bool.toNat_true]
    · have a := ih (fun j hj => h j (by omega)) (by omega)
      rw [a, h n (by omega) (by omega)]
      omega
/-- the image of m different places below n has m members -/
theorem sp_cnt_img {f : Nat → Nat} {n m : Nat} (h : ∀ i, i < m → f i < n) (hj : ∀ i j, i < m → j < m → f i = f j → i = j) : sp_cnt (fun s => sp_any (fun i => f i == s) m) n = m := by
  induction m with
  | zero =>
    have : ∀ n, sp_cnt (fun _ => false) n = 0 := by
      intro n
      induction n with
      | zero => rfl
      | succ n ih => simp only [sp_cnt, ih, Bool.toNat_false]
    exact this n
  | succ m ih =>
    have a := ih (fun i hi => h i (by omega)) (fun i j hi hj2 e => hj i j (by omega) (by omega) e)
    have hno : sp_any (fun i => f i == f m) m = false := by
      rw [sp_any_no]
      intro i hi
      cases hb : (f i == f m) with
      | false => rfl
      | true =>
        have := hj i m (by omega) (by omega) (by simpa using hb)
        omega
    have b := sp_cnt_ins (p := fun s => sp_any (fun i => f i == s) m) (q := fun s => sp_any (fun i => f i == s) (m + 1)) (n := n) (i := f m) (fun j _ hne => by
      show (sp_any (fun i => f i == j) m || (f m == j)) = sp_any (fun i => f i == j) m
      rw [show (f m == j) = false from by simp; omega, Bool.or_false]) (h m (by omega)) hno (by
      show (sp_any (fun i => f i == f m) m || (f m == f m)) = true
      simp)
    rw [b, a]
theorem sp_pig {f : Nat → Nat} {n m : Nat} (h : ∀ i, i < m → f i < n) (hj : ∀ i j, i < m → j < m → f i = f j → i = j) : m ≤ n := by
  rw [← sp_cnt_img h hj]
  exact sp_cnt_le _ n
-- ===== the relation =====
/-- every step of S is answered by one of T to a state that r ties to it -/
def sp_ans (S T : Nat → Bool) (r : Nat → Nat → Bool) : Bool := sp_all (fun a => !S a || sp_any (fun b => T b && r a b) 10) 10
theorem sp_ans_iff {S T : Nat → Bool} {r : Nat → Nat → Bool} : sp_ans S T r = true ↔ ∀ a, a < 10 → S a = true → ∃ b, b < 10 ∧ T b = true ∧ r a b = true := by
  unfold sp_ans
  rw [sp_all_iff]
  constructor
  · intro h a ha hS
    have h1 : (!S a || sp_any (fun b => T b && r a b) 10) = true := h a ha
    rw [hS, Bool.not_true, Bool.false_or] at h1
    obtain ⟨b, h2, h3⟩ := (sp_any_iff _ _).mp h1
    rw [Bool.and_eq_true] at h3
    exact ⟨b, h2, h3.1, h3.2⟩
  · intro h a ha
    show (!S a || sp_any (fun b => T b && r a b) 10) = true
    by_cases hS : S a = true
    · obtain ⟨b, h1, h2, h3⟩ := h a ha hS
      have h4 : sp_any (fun b => T b && r a b) 10 = true := (sp_any_iff _ _).mpr ⟨b, h1, by show (T b && r a b) = true; rw [h2, h3]; rfl⟩
      rw [h4, Bool.or_true]
    · rw [Bool.not_eq_true] at hS
      rw [hS]; rfl
def sp_nx (e : Nat → Nat → Nat → Bool) (r : Nat → Nat → Bool) (s t : Nat) : Bool :=
  r s t && sp_ans (e 0 s) (e 0 t) r && sp_ans (e 0 t) (e 0 s) r && sp_ans (e 1 s) (e 1 t) r && sp_ans (e 1 t) (e 1 s) r
theorem sp_nx_iff {e : Nat → Nat → Nat → Bool} {r : Nat → Nat → Bool} {s t : Nat} : sp_nx e r s t = true ↔ r s t = true ∧ ∀ o, o < 2 → sp_ans (e o s) (e o t) r = true ∧ sp_ans (e o t) (e o s) r = true := by
  unfold sp_nx
  simp only [Bool.and_eq_true]
  constructor
  · rintro ⟨⟨⟨⟨h, h1⟩, h2⟩, h3⟩, h4⟩
    refine ⟨h, fun o ho => ?_⟩
    rcases (show o = 0 ∨ o = 1 by omega) with rfl | rfl
    · exact ⟨h1, h2⟩
    · exact ⟨h3, h4⟩
  · rintro ⟨h, h1⟩
    exact ⟨⟨⟨⟨h, (h1 0 (by omega)).1⟩, (h1 0 (by omega)).2⟩, (h1 1 (by omega)).1⟩, (h1 1 (by omega)).2⟩
theorem sp_ans_congr {S S' T T' : Nat → Bool} {r r' : Nat → Nat → Bool} (hS : ∀ a, a < 10 → S a = S' a) (hT : ∀ a, a < 10 → T a = T' a) (hr : ∀ a b, a < 10 → b < 10 → r a b = r' a b) : sp_ans S T r = sp_ans S' T' r' := by
  unfold sp_ans
  refine sp_all_congr (fun a ha => ?_)
  rw [hS a ha]
  congr 1
  exact sp_any_congr (fun b hb => by rw [hT b hb, hr a b ha hb])
theorem sp_nx_congr {e e' : Nat → Nat → Nat → Bool} {r r' : Nat → Nat → Bool} {s t : Nat} (hs : s < 10) (ht : t < 10) (he : ∀ o a b, o < 2 → a < 10 → b < 10 → e o a b = e' o a b) (hr : ∀ a b, a < 10 → b < 10 → r a b = r' a b) : sp_nx e r s t = sp_nx e' r' s t := by
  unfold sp_nx
  rw [hr s t hs ht, sp_ans_congr (fun a ha => he 0 s a (by omega) hs ha) (fun a ha => he 0 t a (by omega) ht ha) hr, sp_ans_congr (fun a ha => he 0 t a (by omega) ht ha) (fun a ha => he 0 s a (by omega) hs ha) hr, sp_ans_congr (fun a ha => he 1 s a (by omega) hs ha) (fun a ha => he 1 t a (by omega) ht ha) hr, sp_ans_congr (fun a ha => he 1 t a (by omega) ht ha) (fun a ha => he 1 s a (by omega) hs ha) hr]
def sp_e (st : Nat → Nat) (o s a : Nat) : Bool := (st (10 * o + s)).testBit a
/-- alike after k rounds -/
def sp_R (co st : Nat → Nat) : Nat → Nat → Nat → Bool
  | 0 => fun s t => decide (co s = co t)
  | k + 1 => sp_nx (sp_e st) (sp_R co st k)
theorem sp_R_0 (co st : Nat → Nat) (s t : Nat) : sp_R co st 0 s t = decide (co s = co t) := rfl
theorem sp_R_s (co st : Nat → Nat) (k s t : Nat) : sp_R co st (k + 1) s t = sp_nx (sp_e st) (sp_R co st k) s t := rfl
theorem sp_R_refl (co st : Nat → Nat) (k : Nat) : ∀ s, sp_R co st k s s = true := by
  induction k with
  | zero => intro s; rw [sp_R_0]; exact decide_eq_true rfl
  | succ k ih =>
    intro s
    rw [sp_R_s]
    refine sp_nx_iff.mpr ⟨ih s, fun o _ => ?_⟩
    have h : sp_ans (sp_e st o s) (sp_e st o s) (sp_R co st k) = true := sp_ans_iff.mpr (fun a ha hS => ⟨a, ha, hS, ih a⟩)
    exact ⟨h, h⟩
theorem sp_R_symm {co st : Nat → Nat} {k : Nat} : ∀ {s t : Nat}, sp_R co st k s t = true → sp_R co st k t s = true := by
  induction k with
  | zero => intro s t h; rw [sp_R_0] at h ⊢; exact decide_eq_true (of_decide_eq_true h).symm
  | succ k ih =>
    intro s t h
    rw [sp_R_s] at h ⊢
    obtain ⟨h1, h2⟩ := sp_nx_iff.mp h
    exact sp_nx_iff.mpr ⟨ih h1, fun o ho => ⟨(h2 o ho).2, (h2 o ho).1⟩⟩
theorem sp_ans_trans {S T V : Nat → Bool} {r : Nat → Nat → Bool} (hr : ∀ a b d, r a b = true → r b d = true → r a d = true) (h1 : sp_ans S T r = true) (h2 : sp_ans T V r = true) : sp_ans S V r = true := by
  rw [sp_ans_iff] at h1 h2 ⊢
  intro a ha hS
  obtain ⟨b, hb, hT, hab⟩ := h1 a ha hS
  obtain ⟨d, hd, hV, hbd⟩ := h2 b hb hT
  exact ⟨d, hd, hV, hr a b d hab hbd⟩
theorem sp_R_trans {co st : Nat → Nat} {k : Nat} : ∀ {s t v : Nat}, sp_R co st k s t = true → sp_R co st k t v = true → sp_R co st k s v = true := by
  induction k with
  | zero => intro s t v h h'; rw [sp_R_0] at h h' ⊢; exact decide_eq_true ((of_decide_eq_true h).trans (of_decide_eq_true h'))
  | succ k ih =>
    intro s t v h h'
    rw [sp_R_s] at h h' ⊢
    obtain ⟨h1, h2⟩ := sp_nx_iff.mp h
    obtain ⟨h3, h4⟩ := sp_nx_iff.mp h'
    exact sp_nx_iff.mpr ⟨ih h1 h3, fun o ho => ⟨sp_ans_trans (fun a b d => ih) (h2 o ho).1 (h4 o ho).1, sp_ans_trans (fun a b d => ih) (h4 o ho).2 (h2 o ho).2⟩⟩
theorem sp_R_le {co st : Nat → Nat} {i j s t : Nat} (h : i ≤ j) : sp_R co st j s t = true → sp_R co st i s t = true := by
  induction h with
  | refl => exact id
  | step _ ih =>
    intro hh
    rw [sp_R_s] at hh
    exact ih (sp_nx_iff.mp hh).1
/-- the round after k tells no more -/
def sp_eq (co st : Nat → Nat) (k : Nat) : Bool := sp_all (fun p => sp_R co st (k + 1) (p / 10) (p % 10) == sp_R co st k (p / 10) (p % 10)) 100
theorem sp_eq_iff {co st : Nat → Nat} {k : Nat} : sp_eq co st k = true ↔ ∀ s t, s < 10 → t < 10 → sp_R co st (k + 1) s t = sp_R co st k s t := by
  unfold sp_eq
  rw [sp_all_iff]
  constructor
  · intro h s t hs ht
    have a : (sp_R co st (k + 1) ((s * 10 + t) / 10) ((s * 10 + t) % 10) == sp_R co st k ((s * 10 + t) / 10) ((s * 10 + t) % 10)) = true := h (s * 10 + t) (by omega)
    rw [show (s * 10 + t) / 10 = s by omega, show (s * 10 + t) % 10 = t by omega] at a
    exact eq_of_beq a
  · intro h p hp
    show (sp_R co st (k + 1) (p / 10) (p % 10) == sp_R co st k (p / 10) (p % 10)) = true
    rw [h (p / 10) (p % 10) (by omega) (by omega)]
    exact beq_self_eq_true _
theorem sp_eq_up {co st : Nat → Nat} {k j : Nat} (h : sp_eq co st k = true) (hj : k ≤ j) : ∀ s t, s < 10 → t < 10 → sp_R co st j s t = sp_R co st k s t := by
  induction hj with
  | refl => intro s t _ _; rfl
  | step _ ih =>
    intro s t hs ht
    rw [sp_R_s, sp_nx_congr hs ht (fun o a b _ _ _ => rfl) (fun a b ha hb => ih a b ha hb), ← sp_R_s]
    exact sp_eq_iff.mp h s t hs ht
-- ===== leaders =====
def sp_ld (r : Nat → Nat → Bool) (s : Nat) : Nat := sp_fst (fun t => r s t) s
theorem sp_ld_le (r : Nat → Nat → Bool) (s : Nat) : sp_ld r s ≤ s := sp_fst_le _ _
theorem sp_ld_no {r : Nat → Nat → Bool} {s t : Nat} (h : t < sp_ld r s) : r s t = false := sp_fst_no (p := fun t => r s t) t h
theorem sp_ld_r {r : Nat → Nat → Bool} (hr : ∀ s, r s s = true) (s : Nat) : r s (sp_ld r s) = true := by
  by_cases h : sp_ld r s < s
  · exact sp_fst_yes (p := fun t => r s t) h
  · have := sp_ld_le r s
    rw [show sp_ld r s = s by omega]
    exact hr s
theorem sp_ld_congr {r r' : Nat → Nat → Bool} {s : Nat} (h : ∀ t, t < s → r s t = r' s t) : sp_ld r s = sp_ld r' s := sp_fst_congr h
theorem sp_ld_iff {r : Nat → Nat → Bool} (h0 : ∀ s, r s s = true) (h1 : ∀ s t, r s t = true → r t s = true) (h2 : ∀ s t v, r s t = true → r t v = true → r s v = true) (s t : Nat) : r s t = true ↔ sp_ld r s = sp_ld r t := by
  have a := sp_ld_r h0 s
  have b := sp_ld_r h0 t
  constructor
  · intro h
    rcases Nat.lt_trichotomy (sp_ld r s) (sp_ld r t) with q | q | q
    · have d := h2 t s _ (h1 s t h) a
      rw [sp_ld_no q] at d
      exact absurd d (by decide)
    · exact q
    · have d := h2 s t _ h b
      rw [sp_ld_no q] at d
      exact absurd d (by decide)
  · intro h
    rw [h] at a
    exact h2 s _ t a (h1 _ _ b)
theorem sp_ld_ld {r : Nat → Nat → Bool} (h0 : ∀ s, r s s = true) (h1 : ∀ s t, r s t = true → r t s = true) (h2 : ∀ s t v, r s t = true → r t v = true → r s v = true) (s : Nat) : sp_ld r (sp_ld r s) = sp_ld r s :=
  ((sp_ld_iff h0 h1 h2 s (sp_ld r s)).mp (sp_ld_r h0 s)).symm
abbrev sp_L (co st : Nat → Nat) (k s : Nat) : Nat := sp_ld (sp_R co st k) s
theorem sp_L_iff (co st : Nat → Nat) (k s t : Nat) : sp_R co st k s t = true ↔ sp_L co st k s = sp_L co st k t :=
  sp_ld_iff (sp_R_refl co st k) (fun _ _ => sp_R_symm) (fun _ _ _ => sp_R_trans) s t
theorem sp_L_r (co st : Nat → Nat) (k s : Nat) : sp_R co st k s (sp_L co st k s) = true := sp_ld_r (sp_R_refl co st k) s
theorem sp_L_L (co st : Nat → Nat) (k s : Nat) : sp_L co st k (sp_L co st k s) = sp_L co st k s :=
  sp_ld_ld (sp_R_refl co st k) (fun _ _ => sp_R_symm) (fun _ _ _ => sp_R_trans) s
theorem sp_L_lt (co st : Nat → Nat) (k : Nat) {s : Nat} (h : s < 10) : sp_L co st k s < 10 := Nat.lt_of_le_of_lt (sp_ld_le _ s) h
theorem sp_R_dec (co st : Nat → Nat) (k s t : Nat) : sp_R co st k s t = decide (sp_L co st k s = sp_L co st k t) := by
  rw [Bool.eq_iff_iff, decide_eq_true_eq]
  exact sp_L_iff co st k s t
def sp_nl (co st : Nat → Nat) (k : Nat) : Nat := sp_cnt (fun s => sp_L co st k s == s) 10
theorem sp_nl_lt {co st : Nat → Nat} {k : Nat} (h : sp_eq co st k = false) : sp_nl co st k < sp_nl co st (k + 1) := by
  have hex : ∃ s t, s < 10 ∧ t < 10 ∧ sp_R co st k s t = true ∧ sp_R co st (k + 1) s t = false := by
    refine Classical.byContradiction fun hn => ?_
    have : sp_eq co st k = true := sp_eq_iff.mpr fun s t hs ht => by
      cases h1 : sp_R co st (k + 1) s t with
      | true => exact (sp_R_le (Nat.le_succ k) h1).symm
      | false =>
        cases h2 : sp_R co st k s t with
        | false => rfl
        | true => exact absurd ⟨s, t, hs, ht, h2, h1⟩ hn
    rw [this] at h
    exact absurd h (by decide)
  obtain ⟨s, t, hs, ht, h1, h2⟩ := hex
  have hm : sp_R co st k s (sp_L co st k s) = true := sp_L_r co st k s
  have htm : sp_R co st k t (sp_L co st k s) = true := sp_R_trans (sp_R_symm h1) hm
  have hx : ∃ x, x < 10 ∧ sp_R co st k x (sp_L co st k s) = true ∧ sp_R co st (k + 1) x (sp_L co st k s) = false := by
    cases h3 : sp_R co st (k + 1) s (sp_L co st k s) with
    | false => exact ⟨s, hs, hm, h3⟩
    | true =>
      cases h4 : sp_R co st (k + 1) t (sp_L co st k s) with
      | false => exact ⟨t, ht, htm, h4⟩
      | true =>
        rw [sp_R_trans h3 (sp_R_symm h4)] at h2
        exact absurd h2 (by decide)
  obtain ⟨x, hx10, hxm, hxn⟩ := hx
  unfold sp_nl
  refine sp_cnt_lt (i := sp_L co st (k + 1) x) (fun j hj hl => ?_) (sp_L_lt co st (k + 1) hx10) ?_ ?_
  · have hl : sp_L co st k j = j := eq_of_beq hl
    show (sp_L co st (k + 1) j == j) = true
    rw [beq_iff_eq]
    refine sp_fst_eq (Nat.le_refl j) (fun t ht => ?_) (fun h => absurd h (Nat.lt_irrefl j))
    show sp_R co st (k + 1) j t = false
    cases h5 : sp_R co st (k + 1) j t with
    | false => rfl
    | true =>
      have h6 := sp_R_le (Nat.le_succ k) h5
      rw [sp_ld_no (r := sp_R co st k) (s := j) (t := t) (by rw [show sp_ld (sp_R co st k) j = j from hl]; exact ht)] at h6
      exact absurd h6 (by decide)
  · cases h5 : (sp_L co st k (sp_L co st (k + 1) x) == sp_L co st (k + 1) x) with
    | false => rfl
    | true =>
      have h6 : sp_L co st k (sp_L co st (k + 1) x) = sp_L co st (k + 1) x := eq_of_beq h5
      have h7 : sp_R co st (k + 1) x (sp_L co st (k + 1) x) = true := sp_L_r co st (k + 1) x
      have h8 := (sp_L_iff co st k _ _).mp (sp_R_le (Nat.le_succ k) h7)
      have h9 := (sp_L_iff co st k _ _).mp hxm
      rw [sp_L_L] at h9
      rw [h6] at h8
      rw [← h8, h9, hxn] at h7
      exact absurd h7 (by decide)
  · show (sp_L co st (k + 1) (sp_L co st (k + 1) x) == sp_L co st (k + 1) x) = true
    rw [sp_L_L]
    exact beq_self_eq_true _
/-- a value that is never unfolded -/
noncomputable def sp_hide (x : Nat) : Nat := Classical.choose (⟨x, rfl⟩ : ∃ y : Nat, y = x)
theorem sp_hide_eq (x : Nat) : sp_hide x = x := Classical.choose_spec (⟨x, rfl⟩ : ∃ y : Nat, y = x)
/-- how many rounds tell more -/
noncomputable def sp_N (co st : Nat → Nat) : Nat := sp_hide (sp_fst (sp_eq co st) 10)
theorem sp_N_def (co st : Nat → Nat) : sp_N co st = sp_fst (sp_eq co st) 10 := sp_hide_eq _
theorem sp_N_no {co st : Nat → Nat} {j : Nat} (h : j < sp_N co st) : sp_eq co st j = false := by
  rw [sp_N_def] at h
  exact sp_fst_no j h
theorem sp_N_lt (co st : Nat → Nat) : sp_N co st < 10 := by
  refine Nat.lt_of_le_of_ne (by rw [sp_N_def]; exact sp_fst_le _ _) fun h => ?_
  have key : ∀ j, j ≤ 10 → j + 1 ≤ sp_nl co st j := by
    intro j
    induction j with
    | zero =>
      intro _
      have a := sp_cnt_lt (p := fun _ => false) (q := fun s => sp_L co st 0 s == s) (n := 10) (i := 0) (fun j _ h => absurd h (by decide)) (by decide) rfl (by
        have := sp_ld_le (sp_R co st 0) 0
        show (sp_L co st 0 0 == 0) = true
        rw [beq_iff_eq]; exact Nat.le_zero.mp this)
      unfold sp_nl
      omega
    | succ j ih =>
      intro hj
      have a := sp_nl_lt (co := co) (st := st) (k := j) (sp_N_no (by rw [h]; omega))
      have b := ih (by omega)
      omega
  have a := key 10 (by omega)
  have b := sp_cnt_le (fun s => sp_L co st 10 s == s) 10
  unfold sp_nl at a
  omega
theorem sp_N_eq (co st : Nat → Nat) : sp_eq co st (sp_N co st) = true := by
  have h := sp_N_lt co st
  rw [sp_N_def] at h ⊢
  exact sp_fst_yes h
theorem sp_N_of {co st : Nat → Nat} {k : Nat} (h1 : ∀ j, j < k → sp_eq co st j = false) (h2 : sp_eq co st k = true) : sp_N co st = k := by
  rcases Nat.lt_trichotomy (sp_N co st) k with h | h | h
  · have a := sp_N_eq co st
    rw [h1 _ h] at a
    exact absurd a (by decide)
  · exact h
  · rw [sp_N_no h] at h2
    exact absurd h2 (by decide)
/-- alike for good -/
noncomputable abbrev sp_F (co st : Nat → Nat) : Nat → Nat → Bool := sp_R co st (sp_N co st)
noncomputable abbrev sp_LD (co st : Nat → Nat) (s : Nat) : Nat := sp_L co st (sp_N co st) s
noncomputable def sp_NC (co st : Nat → Nat) : Nat := sp_hide (sp_nl co st (sp_N co st))
theorem sp_NC_def (co st : Nat → Nat) : sp_NC co st = sp_nl co st (sp_N co st) := sp_hide_eq _
theorem sp_F_bis {co st : Nat → Nat} {s t o a : Nat} (hs : s < 10) (ht : t < 10) (h : sp_F co st s t = true) (ho : o < 2) (ha : a < 10) (he : sp_e st o s a = true) : ∃ b, b < 10 ∧ sp_e st o t b = true ∧ sp_F co st a b = true := by
  have h1 := sp_eq_iff.mp (sp_N_eq co st) s t hs ht
  have h2 : sp_R co st (sp_N co st + 1) s t = true := by rw [h1]; exact h
  rw [sp_R_s] at h2
  exact sp_ans_iff.mp ((sp_nx_iff.mp h2).2 o ho).1 a ha he
theorem sp_F_co {co st : Nat → Nat} {s t : Nat} (h : sp_F co st s t = true) : co s = co t := by
  have h1 := sp_R_le (Nat.zero_le (sp_N co st)) h
  rw [sp_R_0] at h1
  exact of_decide_eq_true h1
-- ===== a round by the names of the parts =====
theorem sp_img_ans {r : Nat → Nat → Bool} (hr : ∀ s t, r s t = true ↔ sp_ld r s = sp_ld r t) (S T : Nat → Bool) : sp_img S (sp_ld r) 10 = sp_img T (sp_ld r) 10 ↔ sp_ans S T r = true ∧ sp_ans T S r = true := by
  have one : ∀ {S T : Nat → Bool}, sp_img S (sp_ld r) 10 = sp_img T (sp_ld r) 10 → sp_ans S T r = true := by
    intro S T h
    rw [sp_ans_iff]
    intro a ha hS
    have h1 := (sp_img_bit S (sp_ld r) 10 (sp_ld r a)).mpr ⟨a, ha, hS, rfl⟩
    rw [h] at h1
    obtain ⟨b, hb, hT, hl⟩ := (sp_img_bit _ _ _ _).mp h1
    exact ⟨b, hb, hT, (hr a b).mpr hl.symm⟩
  have two : ∀ {S T : Nat → Bool}, sp_ans S T r = true → ∀ i, (sp_img S (sp_ld r) 10).testBit i = true → (sp_img T (sp_ld r) 10).testBit i = true := by
    intro S T h i hi
    obtain ⟨a, ha, hS, hl⟩ := (sp_img_bit _ _ _ _).mp hi
    obtain ⟨b, hb, hT, hab⟩ := sp_ans_iff.mp h a ha hS
    exact (sp_img_bit _ _ _ _).mpr ⟨b, hb, hT, by rw [← hl]; exact ((hr a b).mp hab).symm⟩
  constructor
  · intro h
    exact ⟨one h, one h.symm⟩
  · rintro ⟨h1, h2⟩
    refine Nat.eq_of_testBit_eq (fun i => ?_)
    rw [Bool.eq_iff_iff]
    exact ⟨two h1 i, two h2 i⟩
theorem sp_R_img (co st : Nat → Nat) (k s t : Nat) : sp_R co st (k + 1) s t = (decide (sp_L co st k s = sp_L co st k t) && (decide (sp_img (sp_e st 0 s) (sp_L co st k) 10 = sp_img (sp_e st 0 t) (sp_L co st k) 10) && decide (sp_img (sp_e st 1 s) (sp_L co st k) 10 = sp_img (sp_e st 1 t) (sp_L co st k) 10))) := by
  rw [Bool.eq_iff_iff, sp_R_s, sp_nx_iff]
  simp only [Bool.and_eq_true, decide_eq_true_eq]
  rw [sp_L_iff]
  have hi := fun S T => sp_img_ans (r := sp_R co st k) (sp_L_iff co st k) S T
  constructor
  · rintro ⟨h1, h2⟩
    exact ⟨h1, (hi _ _).mpr (h2 0 (by omega)), (hi _ _).mpr (h2 1 (by omega))⟩
  · rintro ⟨h1, h2, h3⟩
    refine ⟨h1, fun o ho => ?_⟩
    rcases (show o = 0 ∨ o = 1 by omega) with rfl | rfl
    · exact (hi _ _).mp h2
    · exact (hi _ _).mp h3
theorem sp_more (co st : Nat → Nat) (k : Nat) : sp_any (fun s => decide (sp_L co st k s ≠ sp_L co st (k + 1) s)) 10 = !sp_eq co st k := by
  cases h : sp_eq co st k with
  | true =>
    show _ = false
    rw [sp_any_no]
    intro s hs
    rw [decide_eq_false_iff_not, Decidable.not_not]
    exact sp_ld_congr (fun t ht => (sp_eq_iff.mp h s t hs (by omega)).symm)
  | false =>
    show _ = true
    cases h2 : sp_any (fun s => decide (sp_L co st k s ≠ sp_L co st (k + 1) s)) 10 with
    | true => rfl
    | false =>
      rw [sp_any_no] at h2
      have : sp_eq co st k = true := sp_eq_iff.mpr fun s t hs ht => by
        have a := h2 s hs
        have b := h2 t ht
        rw [decide_eq_false_iff_not, Decidable.not_not] at a b
        rw [sp_R_dec, sp_R_dec, a, b]
      rw [this] at h
      exact absurd h (by decide)
/-- when two states are told apart, or -2 -/
noncomputable def sp_told (co st : Nat → Nat) (s t : Nat) : Int32 := if sp_fst (fun k => !sp_R co st k s t) (sp_N co st + 1) < sp_N co st + 1 then nI (sp_fst (fun k => !sp_R co st k s t) (sp_N co st + 1)) else -2
theorem sp_told_at {co st : Nat → Nat} {s t k : Nat} (hk : k ≤ sp_N co st) (h1 : ∀ j, j < k → sp_R co st j s t = true) (h2 : sp_R co st k s t = false) : sp_told co st s t = nI k := by
  have e : sp_fst (fun k => !sp_R co st k s t) (sp_N co st + 1) = k := sp_fst_eq (by omega) (fun j hj => by show (!sp_R co st j s t) = false; rw [h1 j hj]; rfl) (fun _ => by show (!sp_R co st k s t) = true; rw [h2]; rfl)
  unfold sp_told
  rw [e, if_pos (by omega)]
theorem sp_told_no {co st : Nat → Nat} {s t : Nat} (h : ∀ j, j ≤ sp_N co st → sp_R co st j s t = true) : sp_told co st s t = -2 := by
  have e : sp_fst (fun k => !sp_R co st k s t) (sp_N co st + 1) = sp_N co st + 1 := sp_fst_eq (by omega) (fun j hj => by show (!sp_R co st j s t) = false; rw [h j (by omega)]; rfl) (fun hh => absurd hh (by omega))
  unfold sp_told
  rw [e, if_neg (by omega)]
end
section
/-! THE PLAIN LAW, 2: splitting blocks until none waits ends in the parts of sp_F -/
set_option maxRecDepth 20000
theorem sp_up_s {α : Type} (f : Nat → α) (k : Nat) (v : α) : va_up f k v k = v := by unfold va_up; exact if_pos rfl
theorem sp_up_n {α : Type} (f : Nat → α) {k j : Nat} (v : α) (h : j ≠ k) : va_up f k v j = f j := by unfold va_up; exact if_neg h
theorem sp_b10 {x i : Nat} (h : x < 1024) (hb : x.testBit i = true) : i < 10 := by
  refine Nat.lt_of_not_le fun hi => ?_
  have h1 : x < 2 ^ i := Nat.lt_of_lt_of_le h (show 2 ^ 10 ≤ 2 ^ i from Nat.pow_le_pow_right (by decide) hi)
  rw [Nat.testBit_lt_two_pow h1] at hb
  exact absurd hb (by decide)
theorem sp_ne0 {x : Nat} (h : x ≠ 0) : ∃ i, x.testBit i = true := Nat.exists_testBit_of_ne_zero h
theorem sp_ne0_of {x i : Nat} (h : x.testBit i = true) : x ≠ 0 := by
  intro e
  rw [e, Nat.zero_testBit] at h
  exact absurd h (by decide)
/-- x without y (as x & ~y on 32 bits) -/
def sp_dif (x y : Nat) : Nat := x &&& (y ^^^ 4294967295)
theorem sp_dif_le (x y : Nat) : sp_dif x y ≤ x := Nat.and_le_left
theorem sp_dif_bit {x y : Nat} (h : x < 1024) (i : Nat) : (sp_dif x y).testBit i = true ↔ x.testBit i = true ∧ y.testBit i = false := by
  unfold sp_dif
  rw [Nat.testBit_and, Nat.testBit_xor, show (4294967295 : Nat) = 2 ^ 32 - 1 from rfl, Nat.testBit_two_pow_sub_one, Bool.and_eq_true]
  constructor
  · rintro ⟨h1, h2⟩
    have hi := sp_b10 h h1
    rw [decide_eq_true (show i < 32 by omega)] at h2
    exact ⟨h1, by simpa using h2⟩
  · rintro ⟨h1, h2⟩
    have hi := sp_b10 h h1
    rw [decide_eq_true (show i < 32 by omega), h2]
    exact ⟨h1, rfl⟩
theorem sp_and_bit (x y i : Nat) : (x &&& y).testBit i = true ↔ x.testBit i = true ∧ y.testBit i = true := by
  rw [Nat.testBit_and, Bool.and_eq_true]
theorem sp_and_lt {x y : Nat} (h : x < 1024) : x &&& y < 1024 := Nat.lt_of_le_of_lt Nat.and_le_left h
/-- a step of the sort o from s into the set X -/
def sp_pre (st : Nat → Nat) (o s X : Nat) : Bool := st (10 * o + s) &&& X != 0
theorem sp_pre_iff {st : Nat → Nat} {o s X : Nat} : sp_pre st o s X = true ↔ ∃ a, sp_e st o s a = true ∧ X.testBit a = true := by
  unfold sp_pre sp_e
  rw [bne_iff_ne]
  constructor
  · intro h
    obtain ⟨i, hi⟩ := sp_ne0 h
    exact ⟨i, (sp_and_bit _ _ _).mp hi⟩
  · rintro ⟨a, h1, h2⟩
    exact sp_ne0_of ((sp_and_bit _ _ a).mpr ⟨h1, h2⟩)
abbrev sp_src (st : Nat → Nat) (X o : Nat) : Nat := sp_img (fun s => sp_pre st o s X) (fun s => s) 10
theorem sp_src_bit (st : Nat → Nat) (X o i : Nat) : (sp_src st X o).testBit i = true ↔ i < 10 ∧ sp_pre st o i X = true := sp_msk_bit _ _ _
/-- a union of parts of sp_F -/
def sp_cl (co st : Nat → Nat) (X : Nat) : Prop := ∀ s t, s < 10 → t < 10 → sp_F co st s t = true → X.testBit s = true → X.testBit t = true
theorem sp_cl_src {co st : Nat → Nat} {X o : Nat} (hX : X < 1024) (ho : o < 2) (h : sp_cl co st X) : sp_cl co st (sp_src st X o) := by
  intro s t hs ht hF hb
  rw [sp_src_bit] at hb ⊢
  refine ⟨ht, ?_⟩
  obtain ⟨a, h1, h2⟩ := sp_pre_iff.mp hb.2
  have ha := sp_b10 hX h2
  obtain ⟨b, hb1, hb2, hb3⟩ := sp_F_bis hs ht hF ho ha h1
  exact sp_pre_iff.mpr ⟨b, hb2, h a b ha hb1 hb3 h2⟩
def sp_stb (st : Nat → Nat) (B : Nat → Nat) (m X : Nat) : Prop := ∀ o i s t, o < 2 → i < m → (B i).testBit s = true → (B i).testBit t = true → sp_pre st o s X = sp_pre st o t X
/-- the blocks B 0 .. B (m-1) and the waiting ones W 0 .. W (w-1); al: blocks that are being used now -/
def sp_PI (co st : Nat → Nat) (al : Nat → Prop) (B : Nat → Nat) (m : Nat) (V : Nat → Nat) (w : Nat) : Prop :=
  (∀ i, i < m → B i < 1024) ∧ (∀ s, s < 10 → ∃ i, i < m ∧ (B i).testBit s = true) ∧
  (∀ i j s, i < m → j < m → (B i).testBit s = true → (B j).testBit s = true → i = j) ∧ (∀ i, i < m → B i ≠ 0) ∧
  (∀ i s t, i < m → (B i).testBit s = true → (B i).testBit t = true → co s = co t) ∧ (∀ i, i < m → sp_cl co st (B i)) ∧
  (∀ j, j < w → V j < 1024 ∧ sp_cl co st (V j)) ∧ (∀ i, i < m → (∃ j, j < w ∧ V j = B i) ∨ al (B i) ∨ sp_stb st B m (B i)) ∧ w ≤ 2 * m
theorem sp_blocks {B : Nat → Nat} {m : Nat} (h1 : ∀ i, i < m → B i < 1024) (h2 : ∀ i, i < m → B i ≠ 0) (h3 : ∀ i j s, i < m → j < m → (B i).testBit s = true → (B j).testBit s = true → i = j) : m ≤ 10 := by
  have hb : ∀ i, i < m → sp_fst (fun t => (B i).testBit t) 10 < 10 ∧ (B i).testBit (sp_fst (fun t => (B i).testBit t) 10) = true := by
    intro i hi
    obtain ⟨t, ht⟩ := sp_ne0 (h2 i hi)
    have ht10 := sp_b10 (h1 i hi) ht
    have hle := sp_fst_le (fun t => (B i).testBit t) 10
    have hl : sp_fst (fun t => (B i).testBit t) 10 < 10 := by
      refine Nat.lt_of_not_le fun hh => ?_
      have a := sp_fst_no (p := fun t => (B i).testBit t) (n := 10) t (by omega)
      have a : (B i).testBit t = false := a
      rw [ht] at a
      exact absurd a (by decide)
    exact ⟨hl, sp_fst_yes (p := fun t => (B i).testBit t) hl⟩
  refine sp_pig (f := fun i => sp_fst (fun t => (B i).testBit t) 10) (fun i hi => (hb i hi).1) (fun i j hi hj e => ?_)
  have e : sp_fst (fun t => (B i).testBit t) 10 = sp_fst (fun t => (B j).testBit t) 10 := e
  have a := (hb i hi).2
  have b := (hb j hj).2
  rw [e] at a
  exact h3 i j _ hi hj a b
theorem sp_PI_m {co st : Nat → Nat} {al : Nat → Prop} {B V : Nat → Nat} {m w : Nat} (h : sp_PI co st al B m V w) : m ≤ 10 :=
  sp_blocks h.1 h.2.2.2.1 h.2.2.1
/-- the blocks behind a split of the block b by the set Y -/
abbrev sp_B2 (B : Nat → Nat) (m b Y : Nat) : Nat → Nat := va_up (va_up B b (B b &&& Y)) m (sp_dif (B b) Y)
theorem sp_B2_bit {B : Nat → Nat} {m b Y : Nat} (hb : b < m) (h1 : ∀ i, i < m → B i < 1024) (i s : Nat) (hi : i < m + 1) : (sp_B2 B m b Y i).testBit s = true ↔ (B (if i = m then b else i)).testBit s = true ∧ (i = m → Y.testBit s = false) ∧ (i = b → Y.testBit s = true) := by
  by_cases e : i = m
  · rw [if_pos e, e]
    unfold sp_B2
    rw [sp_up_s, sp_dif_bit (h1 b hb)]
    constructor
    · rintro ⟨q1, q2⟩
      exact ⟨q1, fun _ => q2, fun q => by omega⟩
    · rintro ⟨q1, q2, -⟩
      exact ⟨q1, q2 rfl⟩
  · rw [if_neg e]
    unfold sp_B2
    rw [sp_up_n _ _ e]
    by_cases e2 : i = b
    · rw [e2, sp_up_s, sp_and_bit]
      constructor
      · rintro ⟨q1, q2⟩
        exact ⟨q1, fun q => by omega, fun _ => q2⟩
      · rintro ⟨q1, -, q2⟩
        exact ⟨q1, q2 rfl⟩
    · rw [sp_up_n _ _ e2]
      constructor
      · intro q
        exact ⟨q, fun q => absurd q e, fun q => absurd q e2⟩
      · rintro ⟨q, -, -⟩
        exact q
theorem sp_B2_lt {B : Nat → Nat} {m b Y : Nat} (hb : b < m) (h1 : ∀ i, i < m → B i < 1024) (i : Nat) (hi : i < m + 1) : sp_B2 B m b Y i < 1024 := by
  unfold sp_B2
  by_cases e : i = m
  · rw [e, sp_up_s]
    exact Nat.lt_of_le_of_lt (sp_dif_le _ _) (h1 b hb)
  · rw [sp_up_n _ _ e]
    by_cases e2 : i = b
    · rw [e2, sp_up_s]
      exact sp_and_lt (h1 b hb)
    · rw [sp_up_n _ _ e2]
      exact h1 i (by omega)
theorem sp_B2_ne {B : Nat → Nat} {m b Y : Nat} (hb : b < m) (h1 : ∀ i, i < m → B i ≠ 0) (hin : B b &&& Y ≠ 0) (hout : sp_dif (B b) Y ≠ 0) (i : Nat) (hi : i < m + 1) : sp_B2 B m b Y i ≠ 0 := by
  unfold sp_B2
  by_cases e : i = m
  · rw [e, sp_up_s]; exact hout
  · rw [sp_up_n _ _ e]
    by_cases e2 : i = b
    · rw [e2, sp_up_s]; exact hin
    · rw [sp_up_n _ _ e2]
      exact h1 i (by omega)
theorem sp_B2_dis {B : Nat → Nat} {m b Y : Nat} (hb : b < m) (h1 : ∀ i, i < m → B i < 1024) (h3 : ∀ i j s, i < m → j < m → (B i).testBit s = true → (B j).testBit s = true → i = j) (i j s : Nat) (hi : i < m + 1) (hj : j < m + 1) (hs : (sp_B2 B m b Y i).testBit s = true) (ht : (sp_B2 B m b Y j).testBit s = true) : i = j := by
  obtain ⟨p1, p2, p3⟩ := (sp_B2_bit hb h1 i s hi).mp hs
  obtain ⟨q1, q2, q3⟩ := (sp_B2_bit hb h1 j s hj).mp ht
  by_cases e : i = m <;> by_cases f : j = m
  · omega
  · rw [if_pos e] at p1
    rw [if_neg f] at q1
    have g := h3 b j s hb (by omega) p1 q1
    have a := p2 e
    rw [q3 g.symm] at a
    exact absurd a (by decide)
  · rw [if_neg e] at p1
    rw [if_pos f] at q1
    have g := h3 i b s (by omega) hb p1 q1
    have a := q2 f
    rw [p3 g] at a
    exact absurd a (by decide)
  · rw [if_neg e] at p1
    rw [if_neg f] at q1
    exact h3 i j s (by omega) (by omega) p1 q1
theorem sp_PI_m2 {co st : Nat → Nat} {al : Nat → Prop} {B V : Nat → Nat} {m w b Y : Nat} (h : sp_PI co st al B m V w) (hb : b < m) (hin : B b &&& Y ≠ 0) (hout : sp_dif (B b) Y ≠ 0) : m + 1 ≤ 10 :=
  sp_blocks (sp_B2_lt (Y := Y) hb h.1) (sp_B2_ne hb h.2.2.2.1 hin hout) (sp_B2_dis hb h.1 h.2.2.1)
theorem sp_PI_split {co st : Nat → Nat} {al : Nat → Prop} {B V : Nat → Nat} {m w b Y : Nat} (h : sp_PI co st al B m V w) (hb : b < m) (hY : sp_cl co st Y) (hin : B b &&& Y ≠ 0) (hout : sp_dif (B b) Y ≠ 0) :
    sp_PI co st al (sp_B2 B m b Y) (m + 1) (va_up (va_up V w (B b &&& Y)) (w + 1) (sp_dif (B b) Y)) (w + 2) := by
  obtain ⟨h1, h2, h3, h4, h5, h6, h7, h8, h9⟩ := h
  have hcin : sp_cl co st (B b &&& Y) := by
    intro s t hs ht hF hx
    rw [sp_and_bit] at hx ⊢
    exact ⟨h6 b hb s t hs ht hF hx.1, hY s t hs ht hF hx.2⟩
  have hcout : sp_cl co st (sp_dif (B b) Y) := by
    intro s t hs ht hF hx
    rw [sp_dif_bit (h1 b hb)] at hx ⊢
    refine ⟨h6 b hb s t hs ht hF hx.1, ?_⟩
    cases hy : Y.testBit t with
    | false => rfl
    | true =>
      have a := hY t s ht hs (sp_R_symm hF) hy
      rw [hx.2] at a
      exact absurd a (by decide)
  have hpa : ∀ i, i < m + 1 → (if i = m then b else i) < m := by
    intro i hi
    by_cases e : i = m
    · rw [if_pos e]; exact hb
    · rw [if_neg e]; omega
  refine ⟨sp_B2_lt hb h1, ?_, sp_B2_dis hb h1 h3, sp_B2_ne hb h4 hin hout, ?_, ?_, ?_, ?_, by omega⟩
  · intro s hs
    obtain ⟨i, hi, hx⟩ := h2 s hs
    by_cases e : i = b
    · cases hy : Y.testBit s with
      | true => exact ⟨b, by omega, (sp_B2_bit hb h1 b s (by omega)).mpr ⟨by rw [if_neg (by omega), ← e]; exact hx, fun q => by omega, fun _ => hy⟩⟩
      | false => exact ⟨m, by omega, (sp_B2_bit hb h1 m s (by omega)).mpr ⟨by rw [if_pos rfl, ← e]; exact hx, fun _ => hy, fun q => by omega⟩⟩
    · exact ⟨i, by omega, (sp_B2_bit hb h1 i s (by omega)).mpr ⟨by rw [if_neg (by omega)]; exact hx, fun q => by omega, fun q => absurd q e⟩⟩
  · intro i s t hi hs ht
    exact h5 _ s t (hpa i hi) ((sp_B2_bit hb h1 i s hi).mp hs).1 ((sp_B2_bit hb h1 i t hi).mp ht).1
  · intro i hi
    unfold sp_B2
    by_cases e : i = m
    · rw [e, sp_up_s]; exact hcout
    · rw [sp_up_n _ _ e]
      by_cases e2 : i = b
      · rw [e2, sp_up_s]; exact hcin
      · rw [sp_up_n _ _ e2]
        exact h6 i (by omega)
  · intro j hj
    by_cases e : j = w + 1
    · rw [e, sp_up_s]
      exact ⟨Nat.lt_of_le_of_lt (sp_dif_le _ _) (h1 b hb), hcout⟩
    · rw [sp_up_n _ _ e]
      by_cases e2 : j = w
      · rw [e2, sp_up_s]
        exact ⟨sp_and_lt (h1 b hb), hcin⟩
      · rw [sp_up_n _ _ e2]
        exact h7 j (by omega)
  · intro i hi
    by_cases e : i = m
    · refine Or.inl ⟨w + 1, by omega, ?_⟩
      rw [sp_up_s, e]
      unfold sp_B2
      rw [sp_up_s]
    · by_cases e2 : i = b
      · refine Or.inl ⟨w, by omega, ?_⟩
        rw [sp_up_n _ _ (by omega), sp_up_s]
        unfold sp_B2
        rw [sp_up_n _ _ e, e2, sp_up_s]
      · have hi' : i < m := by omega
        have hB : sp_B2 B m b Y i = B i := by unfold sp_B2; rw [sp_up_n _ _ e, sp_up_n _ _ e2]
        rw [hB]
        rcases h8 i hi' with ⟨j, q1, q2⟩ | q | q
        · refine Or.inl ⟨j, by omega, ?_⟩
          rw [sp_up_n _ _ (by omega), sp_up_n _ _ (by omega)]
          exact q2
        · exact Or.inr (Or.inl q)
        · refine Or.inr (Or.inr ?_)
          intro o i2 s t ho hi2 hs ht
          exact q o _ s t ho (hpa i2 hi2) ((sp_B2_bit hb h1 i2 s hi2).mp hs).1 ((sp_B2_bit hb h1 i2 t hi2).mp ht).1
/-- blocks 0 .. b-1 and those from n on lie wholly in Y or wholly outside -/
def sp_uni (B : Nat → Nat) (m b n Y : Nat) : Prop := ∀ i s t, i < m → (i < b ∨ n ≤ i) → (B i).testBit s = true → (B i).testBit t = true → Y.testBit s = Y.testBit t
theorem sp_uni_split {B : Nat → Nat} {m b n Y : Nat} (hb : b < m) (hn : n ≤ m) (h1 : ∀ i, i < m → B i < 1024) (h : sp_uni B m b n Y) : sp_uni (sp_B2 B m b Y) (m + 1) (b + 1) n Y := by
  intro i s t hi hc hs ht
  obtain ⟨p1, p2, p3⟩ := (sp_B2_bit hb h1 i s hi).mp hs
  obtain ⟨q1, q2, q3⟩ := (sp_B2_bit hb h1 i t hi).mp ht
  by_cases e : i = m
  · rw [p2 e, q2 e]
  · by_cases e2 : i = b
    · rw [p3 e2, q3 e2]
    · rw [if_neg e] at p1 q1
      exact h i s t (by omega) (by omega) p1 q1
theorem sp_uni_skip {B : Nat → Nat} {m b n Y : Nat} (hb : b < m) (h1 : ∀ i, i < m → B i < 1024) (h : sp_uni B m b n Y) (hz : B b &&& Y = 0 ∨ sp_dif (B b) Y = 0) : sp_uni B m (b + 1) n Y := by
  intro i s t hi hc hs ht
  by_cases e : i = b
  · rw [e] at hs ht
    have key : ∀ x, (B b).testBit x = true → Y.testBit x = decide (B b &&& Y ≠ 0) := by
      intro x hx
      by_cases h0 : B b &&& Y = 0
      · rw [decide_eq_false (fun q => q h0)]
        cases hy : Y.testBit x with
        | false => rfl
        | true => exact absurd h0 (sp_ne0_of ((sp_and_bit _ _ x).mpr ⟨hx, hy⟩))
      · rw [decide_eq_true h0]
        have hz2 := hz.resolve_left h0
        cases hy : Y.testBit x with
        | true => rfl
        | false => exact absurd hz2 (sp_ne0_of ((sp_dif_bit (h1 b hb) x).mpr ⟨hx, hy⟩))
    rw [key s hs, key t ht]
  · exact h i s t hi (by omega) hs ht
/-- every block lies in an old one -/
def sp_sub (B2 : Nat → Nat) (m2 : Nat) (B : Nat → Nat) (m : Nat) : Prop := ∀ i, i < m2 → ∃ j, j < m ∧ ∀ s, (B2 i).testBit s = true → (B j).testBit s = true
theorem sp_sub_rf (B : Nat → Nat) (m : Nat) : sp_sub B m B m := fun i hi => ⟨i, hi, fun _ h => h⟩
theorem sp_sub_split {B0 B : Nat → Nat} {m0 m b Y : Nat} (hb : b < m) (h1 : ∀ i, i < m → B i < 1024) (h : sp_sub B m B0 m0) : sp_sub (sp_B2 B m b Y) (m + 1) B0 m0 := by
  intro i hi
  have hpa : (if i = m then b else i) < m := by
    by_cases e : i = m
    · rw [if_pos e]; exact hb
    · rw [if_neg e]; omega
  obtain ⟨j, hj, hk⟩ := h _ hpa
  exact ⟨j, hj, fun s hs => hk s ((sp_B2_bit hb h1 i s hi).mp hs).1⟩
/-- all blocks alike as to steps of the sort o into X -/
def sp_un (st B : Nat → Nat) (m o X : Nat) : Prop := ∀ i s t, i < m → (B i).testBit s = true → (B i).testBit t = true → sp_pre st o s X = sp_pre st o t X
theorem sp_un_of {st B : Nat → Nat} {m n o X : Nat} (h1 : ∀ i, i < m → B i < 1024) (h : sp_uni B m n n (sp_src st X o)) : sp_un st B m o X := by
  intro i s t hi hs ht
  have hs10 := sp_b10 (h1 i hi) hs
  have ht10 := sp_b10 (h1 i hi) ht
  have a := h i s t hi (by omega) hs ht
  rw [Bool.eq_iff_iff, sp_src_bit, sp_src_bit] at a
  rw [Bool.eq_iff_iff]
  exact ⟨fun q => (a.mp ⟨hs10, q⟩).2, fun q => (a.mpr ⟨ht10, q⟩).2⟩
theorem sp_un_sub {st B B2 : Nat → Nat} {m m2 o X : Nat} (h : sp_un st B m o X) (hs : sp_sub B2 m2 B m) : sp_un st B2 m2 o X := by
  intro i s t hi h1 h2
  obtain ⟨j, hj, hk⟩ := hs i hi
  exact h j s t hj (hk s h1) (hk t h2)
/-- a block is taken off -/
theorem sp_PI_pop {co st : Nat → Nat} {B V : Nat → Nat} {m w : Nat} (h : sp_PI co st (fun _ => False) B m V (w + 1)) : sp_PI co st (fun X => X = V w) B m V w := by
  obtain ⟨h1, h2, h3, h4, h5, h6, h7, h8, h9⟩ := h
  refine ⟨h1, h2, h3, h4, h5, h6, fun j hj => h7 j (by omega), ?_, by omega⟩
  intro i hi
  rcases h8 i hi with ⟨j, q1, q2⟩ | q | q
  · by_cases e : j = w
    · exact Or.inr (Or.inl (by rw [← q2, e]))
    · exact Or.inl ⟨j, by omega, q2⟩
  · exact q.elim
  · exact Or.inr (Or.inr q)
theorem sp_PI_done {co st : Nat → Nat} {B V : Nat → Nat} {m w X : Nat} (h : sp_PI co st (fun Z => Z = X) B m V w) (h0 : sp_un st B m 0 X) (h1 : sp_un st B m 1 X) : sp_PI co st (fun _ => False) B m V w := by
  obtain ⟨g1, g2, g3, g4, g5, g6, g7, g8, g9⟩ := h
  refine ⟨g1, g2, g3, g4, g5, g6, g7, ?_, g9⟩
  intro i hi
  rcases g8 i hi with q | q | q
  · exact Or.inl q
  · refine Or.inr (Or.inr ?_)
    intro o j s t ho hj hs ht
    have q : B i = X := q
    rw [q]
    rcases (show o = 0 ∨ o = 1 by omega) with rfl | rfl
    · exact h0 j s t hj hs ht
    · exact h1 j s t hj hs ht
  · exact Or.inr (Or.inr q)
/-- none waits: the blocks are the parts of sp_F -/
theorem sp_PI_end {co st : Nat → Nat} {B V : Nat → Nat} {m : Nat} (h : sp_PI co st (fun _ => False) B m V 0) {i s t : Nat} (hi : i < m) (hs : (B i).testBit s = true) (ht : t < 10) : (B i).testBit t = sp_F co st s t := by
  obtain ⟨g1, g2, g3, g4, g5, g6, g7, g8, g9⟩ := h
  have hst : ∀ j, j < m → sp_stb st B m (B j) := by
    intro j hj
    rcases g8 j hj with ⟨q, q1, -⟩ | q | q
    · exact absurd q1 (Nat.not_lt_zero q)
    · exact q.elim
    · exact q
  have key : ∀ k j s t, j < m → (B j).testBit s = true → (B j).testBit t = true → sp_R co st k s t = true := by
    intro k
    induction k with
    | zero => intro j s t hj hs ht; rw [sp_R_0]; exact decide_eq_true (g5 j s t hj hs ht)
    | succ k ih =>
      have half : ∀ j s t o, j < m → o < 2 → (B j).testBit s = true → (B j).testBit t = true → sp_ans (sp_e st o s) (sp_e st o t) (sp_R co st k) = true := by
        intro j s t o hj ho hs ht
        rw [sp_ans_iff]
        intro a ha he
        obtain ⟨q, hq, hqa⟩ := g2 a ha
        have p1 : sp_pre st o s (B q) = true := sp_pre_iff.mpr ⟨a, he, hqa⟩
        rw [hst q hq o j s t ho hj hs ht] at p1
        obtain ⟨b, hb1, hb2⟩ := sp_pre_iff.mp p1
        exact ⟨b, sp_b10 (g1 q hq) hb2, hb1, ih q a b hq hqa hb2⟩
      intro j s t hj hs ht
      rw [sp_R_s]
      exact sp_nx_iff.mpr ⟨ih j s t hj hs ht, fun o ho => ⟨half j s t o hj ho hs ht, half j t s o hj ho ht hs⟩⟩
  rw [Bool.eq_iff_iff]
  exact ⟨fun q => key _ i s t hi hs q, fun q => g6 i hi s t (sp_b10 (g1 i hi) hs) ht q hs⟩
theorem sp_PI_ld {co st : Nat → Nat} {B V : Nat → Nat} {m : Nat} (h : sp_PI co st (fun _ => False) B m V 0) {i s : Nat} (hi : i < m) (hs : (B i).testBit s = true) : sp_fst (fun t => (B i).testBit t) 10 = sp_LD co st s := by
  have hs10 := sp_b10 (h.1 i hi) hs
  have hle : sp_LD co st s ≤ s := sp_ld_le _ s
  refine sp_fst_eq (by omega) (fun j hj => ?_) (fun hl => ?_)
  · show (B i).testBit j = false
    rw [sp_PI_end h hi hs (by omega)]
    exact sp_ld_no hj
  · show (B i).testBit (sp_LD co st s) = true
    rw [sp_PI_end h hi hs hl]
    exact sp_L_r co st _ s
theorem sp_PI_nc {co st : Nat → Nat} {B V : Nat → Nat} {m : Nat} (h : sp_PI co st (fun _ => False) B m V 0) : m = sp_NC co st := by
  have hb : ∀ i, i < m → ∃ s, (B i).testBit s = true ∧ sp_fst (fun t => (B i).testBit t) 10 = sp_LD co st s := by
    intro i hi
    obtain ⟨s, hs⟩ := sp_ne0 (h.2.2.2.1 i hi)
    exact ⟨s, hs, sp_PI_ld h hi hs⟩
  have h1 := sp_cnt_img (f := fun i => sp_fst (fun t => (B i).testBit t) 10) (n := 10) (m := m) (fun i hi => by
      obtain ⟨s, hs, e⟩ := hb i hi
      show sp_fst (fun t => (B i).testBit t) 10 < 10
      rw [e]
      exact sp_L_lt co st _ (sp_b10 (h.1 i hi) hs)) (fun i j hi hj e => by
      obtain ⟨s, hs, e1⟩ := hb i hi
      obtain ⟨t, ht, e2⟩ := hb j hj
      have e : sp_fst (fun t => (B i).testBit t) 10 = sp_fst (fun t => (B j).testBit t) 10 := e
      rw [e1, e2] at e
      have hF : sp_F co st s t = true := (sp_L_iff co st _ s t).mpr e
      have ht10 := sp_b10 (h.1 j hj) ht
      rw [← sp_PI_end h hi hs ht10] at hF
      exact h.2.2.1 i j t hi hj hF ht)
  rw [sp_NC_def]
  unfold sp_nl
  rw [← h1]
  refine sp_cnt_congr (fun s hs => ?_)
  show sp_any (fun i => sp_fst (fun t => (B i).testBit t) 10 == s) m = (sp_LD co st s == s)
  rw [Bool.eq_iff_iff, sp_any_iff, beq_iff_eq]
  constructor
  · rintro ⟨i, hi, e⟩
    obtain ⟨t, ht, e1⟩ := hb i hi
    have e : sp_fst (fun t => (B i).testBit t) 10 = s := eq_of_beq e
    rw [e1] at e
    rw [← e]
    exact sp_L_L co st _ t
  · intro e
    obtain ⟨i, hi, hx⟩ := h.2.1 s hs
    exact ⟨i, hi, by rw [sp_PI_ld h hi hx, beq_iff_eq]; exact e⟩
-- ===== the blocks of one colour =====
def sp_CI (co : Nat → Nat) (B : Nat → Nat) (m : Nat) (V : Nat → Nat) (w k : Nat) : Prop :=
  w = m ∧ m ≤ k ∧ (∀ j, j < m → V j = B j) ∧ (∀ i, i < m → B i < 1024 ∧ B i ≠ 0 ∧ ∃ q, q < k ∧ ∀ s, (B i).testBit s = true → co s = q) ∧
  (∀ i, i < m → ∀ s t, s < 10 → t < 10 → co s = co t → (B i).testBit s = true → (B i).testBit t = true) ∧ (∀ s, s < 10 → co s < k → ∃ i, i < m ∧ (B i).testBit s = true) ∧
  (∀ i j s, i < m → j < m → (B i).testBit s = true → (B j).testBit s = true → i = j)
theorem sp_CI_0 (co B V : Nat → Nat) : sp_CI co B 0 V 0 0 := ⟨rfl, Nat.le_refl 0, fun j h => absurd h (Nat.not_lt_zero j), fun j h => absurd h (Nat.not_lt_zero j), fun j h => absurd h (Nat.not_lt_zero j), fun s _ h => absurd h (Nat.not_lt_zero _), fun i j s h => absurd h (Nat.not_lt_zero i)⟩
abbrev sp_col (co : Nat → Nat) (k : Nat) : Nat := sp_img (fun s => co s == k) (fun s => s) 10
theorem sp_col_bit (co : Nat → Nat) (k s : Nat) : (sp_col co k).testBit s = true ↔ s < 10 ∧ co s = k := by
  rw [sp_msk_bit, beq_iff_eq]
theorem sp_CI_skip {co B V : Nat → Nat} {m w k : Nat} (h : sp_CI co B m V w k) (hz : sp_col co k = 0) : sp_CI co B m V w (k + 1) := by
  obtain ⟨g1, g2, g3, g4, g5, g6, g7⟩ := h
  refine ⟨g1, by omega, g3, fun i hi => ?_, g5, fun s hs hk => ?_, g7⟩
  · obtain ⟨a, b, q, hq, hh⟩ := g4 i hi
    exact ⟨a, b, q, by omega, hh⟩
  · by_cases e : co s = k
    · exact absurd hz (sp_ne0_of ((sp_col_bit co k s).mpr ⟨hs, e⟩))
    · exact g6 s hs (by omega)
theorem sp_CI_add {co B V : Nat → Nat} {m w k : Nat} (h : sp_CI co B m V w k) (hz : sp_col co k ≠ 0) : sp_CI co (va_up B m (sp_col co k)) (m + 1) (va_up V w (sp_col co k)) (w + 1) (k + 1) := by
  obtain ⟨g1, g2, g3, g4, g5, g6, g7⟩ := h
  subst g1
  have hold : ∀ (F : Nat → Nat) i, i < w → va_up F w (sp_col co k) i = F i := fun F i hi => sp_up_n _ _ (by omega)
  have hdis : ∀ i s, i < w → (B i).testBit s = true → (sp_col co k).testBit s = true → False := by
    intro i s hi hs ht
    obtain ⟨-, -, q, hq, hh⟩ := g4 i hi
    have a := hh s hs
    have b := ((sp_col_bit co k s).mp ht).2
    omega
  refine ⟨rfl, by omega, fun j hj => ?_, fun i hi => ?_, fun i hi s t hs ht e hx => ?_, fun s hs hk => ?_, fun i j s hi hj hs ht => ?_⟩
  · by_cases e : j = w
    · rw [e, sp_up_s, sp_up_s]
    · rw [hold V j (by omega), hold B j (by omega)]; exact g3 j (by omega)
  · by_cases e : i = w
    · rw [e, sp_up_s]
      exact ⟨sp_img_lt (d := 10) (fun s hs _ => hs), hz, k, by omega, fun s hs => ((sp_col_bit co k s).mp hs).2⟩
    · rw [hold B i (by omega)]
      obtain ⟨a, b, q, hq, hh⟩ := g4 i (by omega)
      exact ⟨a, b, q, by omega, hh⟩
  · by_cases e2 : i = w
    · rw [e2, sp_up_s] at hx ⊢
      rw [sp_col_bit] at hx ⊢
      exact ⟨ht, by rw [← e]; exact hx.2⟩
    · rw [hold B i (by omega)] at hx ⊢
      exact g5 i (by omega) s t hs ht e hx
  · by_cases e : co s = k
    · exact ⟨w, by omega, by rw [sp_up_s]; exact (sp_col_bit co k s).mpr ⟨hs, e⟩⟩
    · obtain ⟨i, hi, hx⟩ := g6 s hs (by omega)
      exact ⟨i, by omega, by rw [hold B i hi]; exact hx⟩
  · by_cases e : i = w <;> by_cases f : j = w
    · omega
    · rw [e, sp_up_s] at hs
      rw [hold B j (by omega)] at ht
      exact (hdis j s (by omega) ht hs).elim
    · rw [f, sp_up_s] at ht
      rw [hold B i (by omega)] at hs
      exact (hdis i s (by omega) hs ht).elim
    · rw [hold B i (by omega)] at hs
      rw [hold B j (by omega)] at ht
      exact g7 i j s (by omega) (by omega) hs ht
theorem sp_CI_end {co st B V : Nat → Nat} {m w : Nat} (h : sp_CI co B m V w 4) (hc : ∀ s, s < 10 → co s < 4) : sp_PI co st (fun _ => False) B m V w := by
  obtain ⟨g1, g2, g3, g4, g5, g6, g7⟩ := h
  subst g1
  have hcl : ∀ i, i < w → sp_cl co st (B i) := fun i hi s t hs ht hF hx => g5 i hi s t hs ht (sp_F_co hF) hx
  refine ⟨fun i hi => (g4 i hi).1, fun s hs => g6 s hs (hc s hs), g7, fun i hi => (g4 i hi).2.1, fun i s t hi hs ht => ?_, hcl, fun j hj => ?_, fun i hi => Or.inl ⟨i, hi, g3 i hi⟩, by omega⟩
  · obtain ⟨-, -, q, -, hh⟩ := g4 i hi
    rw [hh s hs, hh t ht]
  · rw [g3 j hj]
    exact ⟨(g4 j hj).1, hcl j hj⟩
-- ===== what the component keeps between calls =====
def sp_XI (co st : Nat → Nat) (sd bc : Nat) (le : Nat → Nat) (tk rc : Nat) (ca : Nat → Nat) : Prop :=
  (∀ s, s < 10 → co s < 4) ∧ (∀ a, a < 20 → st a < 1024) ∧ (sd = 0 ∨ (sd = 1 ∧ bc = sp_NC co st ∧ ∀ s, s < 10 → le s = sp_LD co st s)) ∧
  (tk = 0 ∨ (tk = 1 ∧ rc = sp_N co st ∧ ∀ k s, k ≤ sp_N co st → s < 10 → ca (10 * k + s) = sp_L co st k s))
/-- the reference's arrays hold the same colours and steps -/
def sp_Rel (co st : Nat → Nat) (mc : Nat → Nat) (ms : Nat → Bool) : Prop := (∀ s, s < 10 → mc s = co s) ∧ ∀ o s a, o < 2 → s < 10 → a < 10 → ms (o * 100 + s * 10 + a) = sp_e st o s a
end
section
/-! ROWS AT THE LEVEL OF NATURAL NUMBERS, and the shape of the contracts -/
set_option maxRecDepth 20000
theorem nx_and (a b : Nat) : nI a &&& nI b = nI (a &&& b) := by
  apply Int32.toBitVec_inj.1
  show BitVec.ofNat 32 a &&& BitVec.ofNat 32 b = BitVec.ofNat 32 (a &&& b)
  apply BitVec.eq_of_getLsbD_eq
  intro i hi
  simp [hi]
theorem nx_xor (a b : Nat) : nI a ^^^ nI b = nI (a ^^^ b) := by
  apply Int32.toBitVec_inj.1
  show BitVec.ofNat 32 a ^^^ BitVec.ofNat 32 b = BitVec.ofNat 32 (a ^^^ b)
  apply BitVec.eq_of_getLsbD_eq
  intro i hi
  simp [hi]
theorem nx_or (a b : Nat) : nI a ||| nI b = nI (a ||| b) := by
  apply Int32.toBitVec_inj.1
  show BitVec.ofNat 32 a ||| BitVec.ofNat 32 b = BitVec.ofNat 32 (a ||| b)
  apply BitVec.eq_of_getLsbD_eq
  intro i hi
  simp [hi]
theorem s_l : ∀ n, n < 32 → ((nI n &&& 31).toBitVec.smod 32).toNat = n := by decide +kernel
theorem sp_shl {k : Nat} (h : k < 31) : nI 1 <<< (nI k &&& 31) = nI (2 ^ k) := by
  have h2 : 2 ^ k < 2 ^ 32 := Nat.pow_lt_pow_right (by decide) (by omega)
  rw [pk_shlN _ k (s_l k (by omega)) (by rw [Nat.one_mul]; exact h2), Nat.one_mul]
theorem sp_shr {n k : Nat} (hn : n < 2 ^ 31) (hk : k < 32) : nI n >>> (nI k &&& 31) = nI (n >>> k) := by
  rw [pk_shrN hn _ k (s_l k hk), Nat.shiftRight_eq_div_pow]
theorem sp_tb1 (n k : Nat) : n >>> k &&& 1 = (n.testBit k).toNat := by
  have h : n.testBit k = (1 &&& (n >>> k) != 0) := rfl
  have h2 : n >>> k &&& 1 = n >>> k % 2 := Nat.and_one_is_mod _
  rw [h, Nat.and_comm 1, h2]
  rcases Nat.mod_two_eq_zero_or_one (n >>> k) with e | e <;> rw [e] <;> rfl
theorem sp_tb (n k : Nat) : n >>> k &&& 1 = 0 ↔ n.testBit k = false := by
  rw [sp_tb1]
  cases n.testBit k <;> simp
theorem sp_tbn (n k : Nat) : n >>> k &&& 1 ≠ 0 ↔ n.testBit k = true := by
  rw [sp_tb1]
  cases n.testBit k <;> simp
theorem sp_i8 : ∀ n, n < 128 → (nI n).toInt8.toInt32 = nI n := by decide +kernel
theorem sp_nb {n : Nat} (h : n < 128) : vp_nar .byte (nI n) = nI n := by rw [vp_nar_byte, sp_i8 n h]
theorem sp_nz (b : Bool) : vp_nar .boolean (nI b.toNat) = nI b.toNat := by cases b <;> decide +kernel
theorem sp_nzr (b : Bool) : narrow .boolean (.int (nI b.toNat)) = .int (nI b.toNat) := by cases b <;> rfl
theorem sp_updN (f : Nat → Nat) {i : Nat} (h : i < 2 ^ 31) (v : Nat) : upd (fun j => nI (f j)) (nI i).toNatClampNeg (nI v) = fun j => nI (va_up f i v j) := by
  rw [nI_clamp h]
  funext j
  unfold upd va_up
  by_cases e : j = i
  · rw [if_pos e, if_pos e]
  · rw [if_neg e, if_neg e]
theorem sp_updZ (f : Nat → Bool) {i : Nat} (h : i < 2 ^ 31) (v : Bool) : upd (fun j => nI (f j).toNat) (nI i).toNatClampNeg (nI v.toNat) = fun j => nI (va_up f i v j).toNat := by
  rw [nI_clamp h]
  funext j
  unfold upd va_up
  by_cases e : j = i
  · rw [if_pos e, if_pos e]
  · rw [if_neg e, if_neg e]
/-- is x one of 0 .. n-1 -/
def sp_ok (x : Int32) (n : Nat) : Bool := decide (0 ≤ x.toInt) && decide (x.toInt < n)
theorem sp_ok_nI {j n : Nat} (hj : j < n) (hn : n < 2 ^ 31) : sp_ok (nI j) n = true := by
  unfold sp_ok
  rw [nI_toInt (by omega), decide_eq_true (show (0 : Int) ≤ (j : Int) by omega), decide_eq_true (show (j : Int) < (n : Int) by omega)]
  rfl
theorem sp_ok_of {x : Int32} {n : Nat} (h : sp_ok x n = true) (hn : n < 2 ^ 31) : ∃ j, j < n ∧ x = nI j := by
  unfold sp_ok at h
  rw [Bool.and_eq_true, decide_eq_true_eq, decide_eq_true_eq] at h
  obtain ⟨j, h1, h2⟩ := vp_in_of (vp_in_iff.mpr h) hn
  exact ⟨j, h1, h2⟩
theorem sp_ok_neg {x : Int32} {n : Nat} (h : x < 0) : sp_ok x n = false := by
  unfold sp_ok
  have h1 : x.toInt < 0 := by
    have := Int32.lt_iff_toInt_lt.mp h
    simpa using this
  rw [decide_eq_false (show ¬ 0 ≤ x.toInt by omega)]
  rfl
theorem sp_ok_big {x : Int32} {n : Nat} (hn : n < 2 ^ 31) (h : nI n ≤ x) : sp_ok x n = false := by
  unfold sp_ok
  have h1 := Int32.le_iff_toInt_le.mp h
  rw [nI_toInt hn] at h1
  rw [decide_eq_false (show ¬ x.toInt < n by omega), Bool.and_false]
theorem sp_ok_in {x : Int32} {n : Nat} (hn : n < 2 ^ 31) (h0 : ¬ x < 0) (h : ¬ nI n ≤ x) : sp_ok x n = true := by
  rcases pk_ix x hn with q | q | ⟨j, h1, h2⟩
  · exact absurd q h0
  · exact absurd q h
  · rw [h2]; exact sp_ok_nI h1 hn
section WP
variable {p : Program} {l : Launch} {e : Env} {R : Room} {s : State} {m : MethodId} {args : Array Value} {below : List Frame} {meth : Method} {c : Code} {H : Heap} {locs : List Loc} {cells slots : Nat} {Q : State → Prop}
variable {cc : ByteArray} {pc : Nat} {ls : Array Slot} {rest : List Value}
theorem wp_to {x : Int32} (y : Int32) (h : x = y) (k : W p l e R s m args below meth c H locs cells slots Q (F0 m pc ls (.int y :: rest))) : W p l e R s m args below meth c H locs cells slots Q (F0 m pc ls (.int x :: rest)) := by
  rw [h]; exact k
theorem wp_add {a b : Nat} (hx : p.tables.exec = Jvm.exec) (hb : c.code = cc) (hdg : decode cc pc = .ok (.iadd, 1)) (k : W p l e R s m args below meth c H locs cells slots Q (F0 m (pc + 1) ls (.int (nI (a + b)) :: rest))) : W p l e R s m args below meth c H locs cells slots Q (F0 m pc ls (.int (nI b) :: .int (nI a) :: rest)) :=
  lv_iadd hx hb hdg (by rw [nI_add]; exact k)
theorem wp_mul {a b : Nat} (hx : p.tables.exec = Jvm.exec) (hb : c.code = cc) (hdg : decode cc pc = .ok (.imul, 1)) (k : W p l e R s m args below meth c H locs cells slots Q (F0 m (pc + 1) ls (.int (nI (a * b)) :: rest))) : W p l e R s m args below meth c H locs cells slots Q (F0 m pc ls (.int (nI b) :: .int (nI a) :: rest)) :=
  lv_imul hx hb hdg (by rw [pk_mul]; exact k)
theorem wp_sub {a b : Nat} (hx : p.tables.exec = Jvm.exec) (hb : c.code = cc) (h : b ≤ a) (hdg : decode cc pc = .ok (.isub, 1)) (k : W p l e R s m args below meth c H locs cells slots Q (F0 m (pc + 1) ls (.int (nI (a - b)) :: rest))) : W p l e R s m args below meth c H locs cells slots Q (F0 m pc ls (.int (nI b) :: .int (nI a) :: rest)) :=
  lv_isub hx hb hdg (by rw [pk_sub h]; exact k)
theorem wp_and {a b : Nat} (hx : p.tables.exec = Jvm.exec) (hb : c.code = cc) (hdg : decode cc pc = .ok (.iand, 1)) (k : W p l e R s m args below meth c H locs cells slots Q (F0 m (pc + 1) ls (.int (nI (a &&& b)) :: rest))) : W p l e R s m args below meth c H locs cells slots Q (F0 m pc ls (.int (nI b) :: .int (nI a) :: rest)) :=
  lv_iand hx hb hdg (by rw [nx_and]; exact k)
theorem wp_or {a b : Nat} (hx : p.tables.exec = Jvm.exec) (hb : c.code = cc) (hdg : decode cc pc = .ok (.ior, 1)) (k : W p l e R s m args below meth c H locs cells slots Q (F0 m (pc + 1) ls (.int (nI (a ||| b)) :: rest))) : W p l e R s m args below meth c H locs cells slots Q (F0 m pc ls (.int (nI b) :: .int (nI a) :: rest)) :=
  lv_ior hx hb hdg (by rw [nx_or]; exact k)
theorem wp_xor {a b : Nat} (hx : p.tables.exec = Jvm.exec) (hb : c.code = cc) (hdg : decode cc pc = .ok (.ixor, 1)) (k : W p l e R s m args below meth c H locs cells slots Q (F0 m (pc + 1) ls (.int (nI (a ^^^ b)) :: rest))) : W p l e R s m args below meth c H locs cells slots Q (F0 m pc ls (.int (nI b) :: .int (nI a) :: rest)) :=
  lv_ixor hx hb hdg (by rw [nx_xor]; exact k)
/-- behind 'iconst_m1, ixor': a & ~y -/
theorem wp_dif {a y : Nat} (hx : p.tables.exec = Jvm.exec) (hb : c.code = cc) (hdg : decode cc pc = .ok (.iand, 1)) (k : W p l e R s m args below meth c H locs cells slots Q (F0 m (pc + 1) ls (.int (nI (sp_dif a y)) :: rest))) : W p l e R s m args below meth c H locs cells slots Q (F0 m pc ls (.int (nI (y ^^^ 4294967295)) :: .int (nI a) :: rest)) :=
  wp_and hx hb hdg k
/-- 1 << k -/
theorem wp_shl {k : Nat} (hx : p.tables.exec = Jvm.exec) (hb : c.code = cc) (h : k < 31) (hdg : decode cc pc = .ok (.ishl, 1)) (kk : W p l e R s m args below meth c H locs cells slots Q (F0 m (pc + 1) ls (.int (nI (2 ^ k)) :: rest))) : W p l e R s m args below meth c H locs cells slots Q (F0 m pc ls (.int (nI k) :: .int (nI 1) :: rest)) :=
  lv_ishl hx hb hdg (by rw [sp_shl h]; exact kk)
theorem wp_shr {n k : Nat} (hx : p.tables.exec = Jvm.exec) (hb : c.code = cc) (hn : n < 2147483648) (h : k < 32) (hdg : decode cc pc = .ok (.ishr, 1)) (kk : W p l e R s m args below meth c H locs cells slots Q (F0 m (pc + 1) ls (.int (nI (n >>> k)) :: rest))) : W p l e R s m args below meth c H locs cells slots Q (F0 m pc ls (.int (nI k) :: .int (nI n) :: rest)) :=
  lv_ishr hx hb hdg (by rw [sp_shr hn h]; exact kk)
theorem wp_div {a d : Nat} (hx : p.tables.exec = Jvm.exec) (hb : c.code = cc) (ha : a < 2147483648) (h0 : 0 < d) (hd : d < 2147483648) (hdg : decode cc pc = .ok (.idiv, 1)) (kk : W p l e R s m args below meth c H locs cells slots Q (F0 m (pc + 1) ls (.int (nI (a / d)) :: rest))) : W p l e R s m args below meth c H locs cells slots Q (F0 m pc ls (.int (nI d) :: .int (nI a) :: rest)) :=
  lv_idiv hx hb hdg (nI_ne0 h0 hd) (by rw [pk_div ha h0 hd]; exact kk)
theorem wp_rem {a d : Nat} (hx : p.tables.exec = Jvm.exec) (hb : c.code = cc) (ha : a < 2147483648) (h0 : 0 < d) (hd : d < 2147483648) (hdg : decode cc pc = .ok (.irem, 1)) (kk : W p l e R s m args below meth c H locs cells slots Q (F0 m (pc + 1) ls (.int (nI (a % d)) :: rest))) : W p l e R s m args below meth c H locs cells slots Q (F0 m pc ls (.int (nI d) :: .int (nI a) :: rest)) :=
  lv_irem hx hb hdg (nI_ne0 h0 hd) (by rw [pk_rem ha h0 hd]; exact kk)
theorem wp_ge {a b : Nat} {off : Int} {tgt : Nat} (hx : p.tables.exec = Jvm.exec) (hb : c.code = cc) (ha : a < 2147483648) (hb2 : b < 2147483648) (hdg : decode cc pc = .ok (.if_icmp .ge off, 3)) (ht : (pc : Int) + off = (tgt : Int)) (kt : b ≤ a → W p l e R s m args below meth c H locs cells slots Q (F0 m tgt ls rest)) (kf : a < b → W p l e R s m args below meth c H locs cells slots Q (F0 m (pc + 3) ls rest)) : W p l e R s m args below meth c H locs cells slots Q (F0 m pc ls (.int (nI b) :: .int (nI a) :: rest)) :=
  lv_icmp_ge hx hb hdg ht (fun h => kt ((nI_leI hb2 ha).mp h)) (fun h => kf (Nat.lt_of_not_le fun q => h ((nI_leI hb2 ha).mpr q)))
theorem wp_gt {a b : Nat} {off : Int} {tgt : Nat} (hx : p.tables.exec = Jvm.exec) (hb : c.code = cc) (ha : a < 2147483648) (hb2 : b < 2147483648) (hdg : decode cc pc = .ok (.if_icmp .gt off, 3)) (ht : (pc : Int) + off = (tgt : Int)) (kt : b < a → W p l e R s m args below meth c H locs cells slots Q (F0 m tgt ls rest)) (kf : a ≤ b → W p l e R s m args below meth c H locs cells slots Q (F0 m (pc + 3) ls rest)) : W p l e R s m args below meth c H locs cells slots Q (F0 m pc ls (.int (nI b) :: .int (nI a) :: rest)) :=
  lv_icmp_gt hx hb hdg ht (fun h => kt ((nI_ltI hb2 ha).mp h)) (fun h => kf (Nat.le_of_not_lt fun q => h ((nI_ltI hb2 ha).mpr q)))
theorem wp_eq {a b : Nat} {off : Int} {tgt : Nat} (hx : p.tables.exec = Jvm.exec) (hb : c.code = cc) (ha : a < 2147483648) (hb2 : b < 2147483648) (hdg : decode cc pc = .ok (.if_icmp .eq off, 3)) (ht : (pc : Int) + off = (tgt : Int)) (kt : a = b → W p l e R s m args below meth c H locs cells slots Q (F0 m tgt ls rest)) (kf : a ≠ b → W p l e R s m args below meth c H locs cells slots Q (F0 m (pc + 3) ls rest)) : W p l e R s m args below meth c H locs cells slots Q (F0 m pc ls (.int (nI b) :: .int (nI a) :: rest)) :=
  lv_icmp_eq hx hb hdg ht (fun h => kt ((nI_eq ha hb2).mp h)) (fun h => kf (fun q => h ((nI_eq ha hb2).mpr q)))
theorem wp_ne {a b : Nat} {off : Int} {tgt : Nat} (hx : p.tables.exec = Jvm.exec) (hb : c.code = cc) (ha : a < 2147483648) (hb2 : b < 2147483648) (hdg : decode cc pc = .ok (.if_icmp .ne off, 3)) (ht : (pc : Int) + off = (tgt : Int)) (kt : a ≠ b → W p l e R s m args below meth c H locs cells slots Q (F0 m tgt ls rest)) (kf : a = b → W p l e R s m args below meth c H locs cells slots Q (F0 m (pc + 3) ls rest)) : W p l e R s m args below meth c H locs cells slots Q (F0 m pc ls (.int (nI b) :: .int (nI a) :: rest)) :=
  lv_icmp_ne hx hb hdg ht (fun h => kt (fun q => h ((nI_eq ha hb2).mpr q))) (fun h => kf ((nI_eq ha hb2).mp h))
theorem wp_ifeq {a : Nat} {off : Int} {tgt : Nat} (hx : p.tables.exec = Jvm.exec) (hb : c.code = cc) (ha : a < 2147483648) (hdg : decode cc pc = .ok (.ifCond .eq off, 3)) (ht : (pc : Int) + off = (tgt : Int)) (kt : a = 0 → W p l e R s m args below meth c H locs cells slots Q (F0 m tgt ls rest)) (kf : a ≠ 0 → W p l e R s m args below meth c H locs cells slots Q (F0 m (pc + 3) ls rest)) : W p l e R s m args below meth c H locs cells slots Q (F0 m pc ls (.int (nI a) :: rest)) :=
  lv_if_eq hx hb hdg ht (fun h => kt ((nI_eq (b := 0) ha (by decide)).mp h)) (fun h => kf (fun q => h ((nI_eq (b := 0) ha (by decide)).mpr q)))
theorem wp_ifne {a : Nat} {off : Int} {tgt : Nat} (hx : p.tables.exec = Jvm.exec) (hb : c.code = cc) (ha : a < 2147483648) (hdg : decode cc pc = .ok (.ifCond .ne off, 3)) (ht : (pc : Int) + off = (tgt : Int)) (kt : a ≠ 0 → W p l e R s m args below meth c H locs cells slots Q (F0 m tgt ls rest)) (kf : a = 0 → W p l e R s m args below meth c H locs cells slots Q (F0 m (pc + 3) ls rest)) : W p l e R s m args below meth c H locs cells slots Q (F0 m pc ls (.int (nI a) :: rest)) :=
  lv_if_ne hx hb hdg ht (fun h => kt (fun q => h ((nI_eq (b := 0) ha (by decide)).mpr q))) (fun h => kf ((nI_eq (b := 0) ha (by decide)).mp h))
theorem wp_ifle {a : Nat} {off : Int} {tgt : Nat} (hx : p.tables.exec = Jvm.exec) (hb : c.code = cc) (ha : a < 2147483648) (hdg : decode cc pc = .ok (.ifCond .le off, 3)) (ht : (pc : Int) + off = (tgt : Int)) (kt : a = 0 → W p l e R s m args below meth c H locs cells slots Q (F0 m tgt ls rest)) (kf : 0 < a → W p l e R s m args below meth c H locs cells slots Q (F0 m (pc + 3) ls rest)) : W p l e R s m args below meth c H locs cells slots Q (F0 m pc ls (.int (nI a) :: rest)) :=
  lv_if_le hx hb hdg ht (fun h => kt (Nat.le_zero.mp ((nI_leI (b := 0) ha (by decide)).mp h))) (fun h => kf (Nat.pos_of_ne_zero fun q => h ((nI_leI (b := 0) ha (by decide)).mpr (Nat.le_of_eq q))))
theorem wp_ifeqB {a : Bool} {off : Int} {tgt : Nat} (hx : p.tables.exec = Jvm.exec) (hb : c.code = cc) (hdg : decode cc pc = .ok (.ifCond .eq off, 3)) (ht : (pc : Int) + off = (tgt : Int)) (kt : a = false → W p l e R s m args below meth c H locs cells slots Q (F0 m tgt ls rest)) (kf : a = true → W p l e R s m args below meth c H locs cells slots Q (F0 m (pc + 3) ls rest)) : W p l e R s m args below meth c H locs cells slots Q (F0 m pc ls (.int (nI a.toNat) :: rest)) :=
  wp_ifeq hx hb (by cases a <;> decide) hdg ht (fun h => kt (by cases a with | false => rfl | true => exact absurd h (by decide))) (fun h => kf (by cases a with | false => exact absurd rfl h | true => rfl))
theorem wp_ifneB {a : Bool} {off : Int} {tgt : Nat} (hx : p.tables.exec = Jvm.exec) (hb : c.code = cc) (hdg : decode cc pc = .ok (.ifCond .ne off, 3)) (ht : (pc : Int) + off = (tgt : Int)) (kt : a = true → W p l e R s m args below meth c H locs cells slots Q (F0 m tgt ls rest)) (kf : a = false → W p l e R s m args below meth c H locs cells slots Q (F0 m (pc + 3) ls rest)) : W p l e R s m args below meth c H locs cells slots Q (F0 m pc ls (.int (nI a.toNat) :: rest)) :=
  wp_ifne hx hb (by cases a <;> decide) hdg ht (fun h => kt (by cases a with | false => exact absurd rfl h | true => rfl)) (fun h => kf (by cases a with | false => rfl | true => exact absurd h (by decide)))
end WP
abbrev vwCl : List vw_C := [(RX0, TX0, 11), (RX1, TX1, 4)]
section WA
variable {p : Program} {l : Launch} {e : Env} {R : Room} {s : State} {m : MethodId} {args : Array Value} {below : List Frame} {meth : Method} {c : Code} {H : Heap} {locs : List Loc} {cells slots : Nat} {Q : State → Prop}
variable {cc : ByteArray} {nL pc : Nat} {ls : Array Slot} {rest : List Value} {D : va_G} {A : Nat → Prop} {a : Nat} {tys : List (ClassId × FieldType)} {ws : va_W} {H0 : Heap} {own : String}
theorem x_get (S : CallFix p m c cc nL s args lw_all RX0) (hK : va_K D vwCl tys s) (hP : va_P D vwCl ws H) {fs : List Value} (he : ws[0]? = some (a, .inr (0, fs))) (k : Nat) (hk : k < 11) {index : Nat} (hq : Cond.fieldLink RX0 index RX0 (TX0 k).2.1 (TX0 k).2.2.1 ∈ lw_all) (hT : (TX0 k).1 = RX0) {v : Value} (hv : fs[k]? = some v) (hdg : decode cc pc = .ok (.getfield index, 3)) (kk : W p l e R s m args below meth c H locs cells slots Q (F0 m (pc + 3) ls (v :: rest))) : W p l e R s m args below meth c H locs cells slots Q (F0 m pc ls (.ref a :: rest)) :=
  va_get (ci := 0) (C := RX0) (T := TX0) (N := 11) S.1 S.2.1 S.2.2.2.2 in_X0 S.2.2.2.1 hK hP 0 he rfl k hk (S.2.2.2.2 _ hq) (by rw [hT]; exact fun _ h => h) hv hdg kk
theorem m_get (S : CallFix p m c cc nL s args lw_all RX1) (hK : va_K D vwCl tys s) (hP : va_P D vwCl ws H) {fs : List Value} (he : ws[0]? = some (a, .inr (1, fs))) (k : Nat) (hk : k < 4) {index : Nat} (hq : Cond.fieldLink RX1 index RX1 (TX1 k).2.1 (TX1 k).2.2.1 ∈ lw_all) (hT : (TX1 k).1 = RX1) {v : Value} (hv : fs[k]? = some v) (hdg : decode cc pc = .ok (.getfield index, 3)) (kk : W p l e R s m args below meth c H locs cells slots Q (F0 m (pc + 3) ls (v :: rest))) : W p l e R s m args below meth c H locs cells slots Q (F0 m pc ls (.ref a :: rest)) :=
  va_get (ci := 1) (C := RX1) (T := TX1) (N := 4) S.1 S.2.1 S.2.2.2.2 in_X1 S.2.2.2.1 hK hP 0 he rfl k hk (S.2.2.2.2 _ hq) (by rw [hT]; exact fun _ h => h) hv hdg kk
theorem x_put (S : CallFix p m c cc nL s args lw_all RX0) (hK : va_K D vwCl tys s) (hP : va_P D vwCl ws H) (hD : va_D A ws) (hS : va_S A H0 H locs) {fs : List Value} (he : ws[0]? = some (a, .inr (0, fs))) (k : Nat) (hk : k < 11) {index : Nat} (hq : Cond.fieldLink RX0 index RX0 (TX0 k).2.1 (TX0 k).2.2.1 ∈ lw_all) (hT : (TX0 k).1 = RX0) (hfin : (TX0 k).2.2.2 = false) {v : Value} (hn : narrow (tyX0 k) v = v) (hfit : fits (tyX0 k) v = true) (hl : k < fs.length) (hdg : decode cc pc = .ok (.putfield index, 3))
    (kk : ∀ (H1 : Heap) (locs1 : List Loc), va_P D vwCl (ws.set 0 (a, .inr (0, fs.set k v))) H1 → va_D A (ws.set 0 (a, .inr (0, fs.set k v))) → va_S A H0 H1 locs1 → W p l e R s m args below meth c H1 locs1 cells slots Q (F0 m (pc + 3) ls rest)) : W p l e R s m args below meth c H locs cells slots Q (F0 m pc ls (v :: .ref a :: rest)) :=
  va_put (ci := 0) (C := RX0) (T := TX0) (N := 11) S.1 S.2.1 S.2.2.2.2 in_X0 tyX0 tyX0_ok nmX0 S.2.2.2.1 hK hP hD hS 0 he rfl k hk (S.2.2.2.2 _ hq) (by rw [hT]; exact fun _ h => h) hfin (tyX0_ok k hk) hn hfit hl hdg kk
theorem g_ild (S : CallFix p m c cc nL s args lw_all own) (hK : va_K D vwCl tys s) (hP : va_P D vwCl ws H) (q0 t0 : Nat) {cA : ClassId} {n : Nat} {f : Nat → Nat} (ha : ws[q0]? = some (a, .inl (cA, n, .inl (fun j => nI (f j))))) (ht : tys[t0]? = some (cA, .int)) {i : Nat} (hi : i < n) (hn : n < 2147483648) (hdg : decode cc pc = .ok (.iaload, 1)) (kk : W p l e R s m args below meth c H locs cells slots Q (F0 m (pc + 1) ls (.int (nI (f i)) :: rest))) : W p l e R s m args below meth c H locs cells slots Q (F0 m pc ls (.int (nI i) :: .ref a :: rest)) := by
  refine va_iald S.1 S.2.1 hK hP q0 t0 ha ht (vp_in_nI hi hn) hdg ?_
  rw [nI_clamp (show i < 2 ^ 31 by omega)]
  exact kk
theorem g_bld (S : CallFix p m c cc nL s args lw_all own) (hK : va_K D vwCl tys s) (hP : va_P D vwCl ws H) (q0 t0 : Nat) {cA : ClassId} {n : Nat} {f : Nat → Nat} (ha : ws[q0]? = some (a, .inl (cA, n, .inl (fun j => nI (f j))))) (ht : tys[t0]? = some (cA, .byte)) {i : Nat} (hi : i < n) (hn : n < 2147483648) (hdg : decode cc pc = .ok (.baload, 1)) (kk : W p l e R s m args below meth c H locs cells slots Q (F0 m (pc + 1) ls (.int (nI (f i)) :: rest))) : W p l e R s m args below meth c H locs cells slots Q (F0 m pc ls (.int (nI i) :: .ref a :: rest)) := by
  refine va_bald S.1 S.2.1 hK hP q0 t0 ha ht (vp_in_nI hi hn) hdg ?_
  rw [nI_clamp (show i < 2 ^ 31 by omega)]
  exact kk
theorem g_zld (S : CallFix p m c cc nL s args lw_all own) (hK : va_K D vwCl tys s) (hP : va_P D vwCl ws H) (q0 t0 : Nat) {cA : ClassId} {n : Nat} {f : Nat → Bool} (ha : ws[q0]? = some (a, .inl (cA, n, .inl (fun j => nI (f j).toNat)))) (ht : tys[t0]? = some (cA, .boolean)) {i : Nat} (hi : i < n) (hn : n < 2147483648) (hdg : decode cc pc = .ok (.baload, 1)) (kk : W p l e R s m args below meth c H locs cells slots Q (F0 m (pc + 1) ls (.int (nI (f i).toNat) :: rest))) : W p l e R s m args below meth c H locs cells slots Q (F0 m pc ls (.int (nI i) :: .ref a :: rest)) := by
  refine va_zald S.1 S.2.1 hK hP q0 t0 ha ht (vp_in_nI hi hn) hdg ?_
  rw [nI_clamp (show i < 2 ^ 31 by omega)]
  exact kk
theorem g_ist (S : CallFix p m c cc nL s args lw_all own) (hK : va_K D vwCl tys s) (hP : va_P D vwCl ws H) (hD : va_D A ws) (hS : va_S A H0 H locs) (q0 t0 : Nat) {cA : ClassId} {n : Nat} {f : Nat → Nat} (ha : ws[q0]? = some (a, .inl (cA, n, .inl (fun j => nI (f j))))) (ht : tys[t0]? = some (cA, .int)) {i v : Nat} (hi : i < n) (hn : n < 2147483648) (hdg : decode cc pc = .ok (.iastore, 1))
    (kk : ∀ (H1 : Heap) (locs1 : List Loc), va_P D vwCl (ws.set q0 (a, .inl (cA, n, .inl (fun j => nI (va_up f i v j))))) H1 → va_D A (ws.set q0 (a, .inl (cA, n, .inl (fun j => nI (va_up f i v j))))) → va_S A H0 H1 locs1 → W p l e R s m args below meth c H1 locs1 cells slots Q (F0 m (pc + 1) ls rest)) : W p l e R s m args below meth c H locs cells slots Q (F0 m pc ls (.int (nI v) :: .int (nI i) :: .ref a :: rest)) := by
  refine va_iast S.1 S.2.1 hK hP hD hS q0 t0 ha ht (vp_in_nI hi hn) hdg ?_
  rw [sp_updN f (show i < 2 ^ 31 by omega) v]
  exact kk
theorem g_bst (S : CallFix p m c cc nL s args lw_all own) (hK : va_K D vwCl tys s) (hP : va_P D vwCl ws H) (hD : va_D A ws) (hS : va_S A H0 H locs) (q0 t0 : Nat) {cA : ClassId} {n : Nat} {f : Nat → Nat} (ha : ws[q0]? = some (a, .inl (cA, n, .inl (fun j => nI (f j))))) (ht : tys[t0]? = some (cA, .byte)) {i v : Nat} (hi : i < n) (hn : n < 2147483648) (hv : v < 128) (hdg : decode cc pc = .ok (.bastore, 1))
    (kk : ∀ (H1 : Heap) (locs1 : List Loc), va_P D vwCl (ws.set q0 (a, .inl (cA, n, .inl (fun j => nI (va_up f i v j))))) H1 → va_D A (ws.set q0 (a, .inl (cA, n, .inl (fun j => nI (va_up f i v j))))) → va_S A H0 H1 locs1 → W p l e R s m args below meth c H1 locs1 cells slots Q (F0 m (pc + 1) ls rest)) : W p l e R s m args below meth c H locs cells slots Q (F0 m pc ls (.int (nI v) :: .int (nI i) :: .ref a :: rest)) := by
  refine va_bast S.1 S.2.1 hK hP hD hS q0 t0 ha ht (vp_in_nI hi hn) hdg ?_
  rw [sp_nb hv, sp_updN f (show i < 2 ^ 31 by omega) v]
  exact kk
theorem g_zst (S : CallFix p m c cc nL s args lw_all own) (hK : va_K D vwCl tys s) (hP : va_P D vwCl ws H) (hD : va_D A ws) (hS : va_S A H0 H locs) (q0 t0 : Nat) {cA : ClassId} {n : Nat} {f : Nat → Bool} (ha : ws[q0]? = some (a, .inl (cA, n, .inl (fun j => nI (f j).toNat)))) (ht : tys[t0]? = some (cA, .boolean)) {i : Nat} {v : Bool} (hi : i < n) (hn : n < 2147483648) (hdg : decode cc pc = .ok (.bastore, 1))
    (kk : ∀ (H1 : Heap) (locs1 : List Loc), va_P D vwCl (ws.set q0 (a, .inl (cA, n, .inl (fun j => nI (va_up f i v j).toNat)))) H1 → va_D A (ws.set q0 (a, .inl (cA, n, .inl (fun j => nI (va_up f i v j).toNat)))) → va_S A H0 H1 locs1 → W p l e R s m args below meth c H1 locs1 cells slots Q (F0 m (pc + 1) ls rest)) : W p l e R s m args below meth c H locs cells slots Q (F0 m pc ls (.int (nI v.toNat) :: .int (nI i) :: .ref a :: rest)) := by
  refine va_zast S.1 S.2.1 hK hP hD hS q0 t0 ha ht (vp_in_nI hi hn) hdg ?_
  rw [sp_nz v, sp_updZ f (show i < 2 ^ 31 by omega) v]
  exact kk
end WA
-- ===== contracts: the whole world of one object, before and behind =====
abbrev gP (D : va_G) (tys : List (ClassId × FieldType)) (w : va_W) (sz : Nat) : State → Prop := fun U => U.heap.size = sz ∧ va_P D vwCl w U.heap ∧ va_K D vwCl tys U ∧ va_D (fun _ => True) w
abbrev gB (D : va_G) (tys : List (ClassId × FieldType)) {σ : Type} (wf : σ → va_W) (A : Nat → Prop) (v : σ) (t : State) : Prop := va_P D vwCl (wf v) t.heap ∧ va_K D vwCl tys t ∧ va_D A (wf v)
/-- y, called with av in the world wf u, returns an int r, and the world is wf v, with post r v -/
def MetI (l : Launch) (D : va_G) (tys : List (ClassId × FieldType)) {σ : Type} (wf : σ → va_W) (y : MethodName) (ws : List Cond) (rm : Room) (av : List Value) (u : σ) (post : Int32 → σ → Prop) : Prop :=
  ∀ sz : Nat, Met l y ws rm (va_Pc av (gP D tys (wf u) sz)) (va_Qi post (gB D tys wf (va_A (wf u) sz)) (va_A (wf u) sz)) 0 0 (va_A (wf u) sz)
def MetV (l : Launch) (D : va_G) (tys : List (ClassId × FieldType)) {σ : Type} (wf : σ → va_W) (y : MethodName) (ws : List Cond) (rm : Room) (av : List Value) (u : σ) (post : σ → Prop) : Prop :=
  ∀ sz : Nat, Met l y ws rm (va_Pc av (gP D tys (wf u) sz)) (va_Qv post (gB D tys wf (va_A (wf u) sz)) (va_A (wf u) sz)) 0 0 (va_A (wf u) sz)
/-- a method that answers an int or a boolean, from its entry -/
theorem gi_start {l : Launch} {D : va_G} {tys : List (ClassId × FieldType)} {σ : Type} {wf : σ → va_W} {y : MethodName} {cc : ByteArray} {nL : Nat} {ty : FieldType} {rm : Room} {av : List Value} {u : σ} {post : Int32 → σ → Prop} (hy : plainName y.cls = true) (hlen : (lg_sl av).length ≤ nL)
    (body : ∀ (p : Program) (e : Env) (s : State) (m : MethodId) (as : Array Value) (below : List Frame) (meth : Method) (c : Code) (A : Nat → Prop) (Q : State → Prop), CallFix p m c cc nL s as lw_all y.cls → (∀ q : Nat, s.heap.size ≤ q → A q) → va_K D vwCl tys s →
      (∀ (v : Int32) (z : σ) (H : Heap) (locs : List Loc) (ls : Array Slot) (pc : Nat), decode cc pc = .ok (.ireturn, 1) → narrow ty (.int v) = .int v → va_P D vwCl (wf z) H → va_D A (wf z) → va_S A s.heap H locs → post v z → W p l e rm s m as below meth c H locs 0 0 Q (F0 m pc ls [.int v])) →
      ∀ (H : Heap) (locs : List Loc), va_P D vwCl (wf u) H → va_D A (wf u) → va_S A s.heap H locs → ∀ ls : Array Slot, lv_has ls nL (lv_args 0 av) → W p l e rm s m as below meth c H locs 0 0 Q (F0 m 0 ls [])) :
    MetI l D tys wf y (ws_ y cc nL (some ty)) rm av u post := by
  intro sz
  refine Met.ofW (cc := cc) (maxL := nL) (ret := some ty) hy rfl ?_
  intro p e s m args below meth c s₁ B hml hv
  obtain ⟨rfl, hsz, hP, hK, hD0⟩ := hv
  have hts := atoms_spec (ws := ws_ y cc nL (some ty)) B.pre
  have hts : ∀ w ∈ lw_all, w.before _ s = true := fun w h => hts w (List.mem_cons_of_mem _ h)
  have hr := B.returns
  have hlk := B.notSynchronized
  subst hsz
  have hD := hD0.self (sz := s.heap.size)
  generalize hAe : va_A (wf u) s.heap.size = A at hD ⊢
  have hA : ∀ q : Nat, s.heap.size ≤ q → A q := fun q h => by rw [← hAe]; exact Or.inr h
  have hl := lv_entry av (n := nL) hlen
  rw [lg_entry_eq]
  generalize (lg_sl av ++ List.replicate (nL - (lg_sl av).length) Slot.unset).toArray = ls at hl ⊢
  refine body p e s m av.toArray below meth c A _ ⟨B.exec, B.bytes, hml, findClass_of_methodNamed B.named, hts⟩ hA hK ?_ s.heap [] hP hD va_S.rf ls hl
  intro v z H locs ls pc hdg hn hP hD hS hq
  exact W.zret (hlocks := hlk) B.exec B.bytes hr hn (fun t ht hW => ⟨⟨v, z, rfl, hq, by rw [ht]; exact hP, va_K.moved hW.alike hK, hD⟩, hS.F ht⟩) hS.2.2 hdg
/-- a method without an answer, from its entry -/
theorem gv_start {l : Launch} {D : va_G} {tys : List (ClassId × FieldType)} {σ : Type} {wf : σ → va_W} {y : MethodName} {cc : ByteArray} {nL : Nat} {rm : Room} {av : List Value} {u : σ} {post : σ → Prop} (hy : plainName y.cls = true) (hlen : (lg_sl av).length ≤ nL)
    (body : ∀ (p : Program) (e : Env) (s : State) (m : MethodId) (as : Array Value) (below : List Frame) (meth : Method) (c : Code) (A : Nat → Prop) (Q : State → Prop), CallFix p m c cc nL s as lw_all y.cls → (∀ q : Nat, s.heap.size ≤ q → A q) → va_K D vwCl tys s →
      (∀ (z : σ) (H : Heap) (locs : List Loc) (ls : Array Slot) (pc : Nat), decode cc pc = .ok (.return_, 1) → va_P D vwCl (wf z) H → va_D A (wf z) → va_S A s.heap H locs → post z → W p l e rm s m as below meth c H locs 0 0 Q (F0 m pc ls [])) →
      ∀ (H : Heap) (locs : List Loc), va_P D vwCl (wf u) H → va_D A (wf u) → va_S A s.heap H locs → ∀ ls : Array Slot, lv_has ls nL (lv_args 0 av) → W p l e rm s m as below meth c H locs 0 0 Q (F0 m 0 ls [])) :
    MetV l D tys wf y (ws_ y cc nL none) rm av u post := by
  intro sz
  refine Met.ofW (cc := cc) (maxL := nL) (ret := none) hy rfl ?_
  intro p e s m args below meth c s₁ B hml hv
  obtain ⟨rfl, hsz, hP, hK, hD0⟩ := hv
  have hts := atoms_spec (ws := ws_ y cc nL none) B.pre
  have hts : ∀ w ∈ lw_all, w.before _ s = true := fun w h => hts w (List.mem_cons_of_mem _ h)
  have hr := B.returns
  have hlk := B.notSynchronized
  subst hsz
  have hD := hD0.self (sz := s.heap.size)
  generalize hAe : va_A (wf u) s.heap.size = A at hD ⊢
  have hA : ∀ q : Nat, s.heap.size ≤ q → A q := fun q h => by rw [← hAe]; exact Or.inr h
  have hl := lv_entry av (n := nL) hlen
  rw [lg_entry_eq]
  generalize (lg_sl av ++ List.replicate (nL - (lg_sl av).length) Slot.unset).toArray = ls at hl ⊢
  refine body p e s m av.toArray below meth c A _ ⟨B.exec, B.bytes, hml, findClass_of_methodNamed B.named, hts⟩ hA hK ?_ s.heap [] hP hD va_S.rf ls hl
  intro z H locs ls pc hdg hP hD hS hq
  exact W.vret (hlocks := hlk) B.exec B.bytes hr (fun t ht hW => ⟨⟨z, rfl, hq, by rw [ht]; exact hP, va_K.moved hW.alike hK, hD⟩, hS.F ht⟩) hS.2.2 hdg
section WC
variable {p : Program} {l : Launch} {e : Env} {R : Room} {s : State} {m : MethodId} {args : Array Value} {below : List Frame} {meth : Method} {c : Code} {H : Heap} {locs : List Loc} {cells slots : Nat} {Q : State → Prop}
variable {cc bytes : ByteArray} {nL maxL n index pc : Nat} {ls : Array Slot} {D : va_G} {A : Nat → Prop} {a ci : Nat} {tys : List (ClassId × FieldType)} {own C : String} {T : u_T} {N : Nat} {σ : Type} {wf : σ → va_W} {u : σ} {y : MethodName} {ws : List Cond} {rm : Room} {ret : Option FieldType}
theorem gw_free (hA : ∀ q : Nat, s.heap.size ≤ q → A q) {w : va_W} (hD : va_D A w) (hS : va_S A s.heap H locs) : ∀ q, va_A w H.size q → A q := by
  intro q h
  rcases h with ⟨k, e, h⟩ | h
  · exact hD.2 k (q, e) h
  · exact hA q (Nat.le_trans hS.1 h)
/-- a call of a method of the same object, with its whole world -/
theorem gi_call {post : Int32 → σ → Prop} (S : CallFix p m c cc nL s args lw_all own) (As rest : List Value) (hM : MetI l D tys wf y ws rm (.ref a :: As) u post) (cw : CallW R s args own C index y bytes maxL ret ws rm 0 0 n) {fs : List Value} (hc : vwCl[ci]? = some (C, T, N)) (he : (wf u)[0]? = some (a, .inr (ci, fs)))
    (hK : va_K D vwCl tys s) (hP : va_P D vwCl (wf u) H) (hD : va_D A (wf u)) (hS : va_S A s.heap H locs) (hA : ∀ q : Nat, s.heap.size ≤ q → A q) {st0 : List Value} (hst : st0 = As.reverse ++ .ref a :: rest) (hn : As.length = n) (hsize : ls.size = nL) (hW : (rest.map fun v => v.category).sum ≤ 8) (hdg : decode cc pc = .ok (.invokevirtual index, 3)) (hf : cells ≤ R.cells ∧ slots ≤ R.slots)
    (kk : ∀ (r : Int32) (v : σ) (H1 : Heap) (locs1 : List Loc), post r v → va_P D vwCl (wf v) H1 → va_D A (wf v) → va_S A s.heap H1 locs1 → W p l e R s m args below meth c H1 locs1 cells slots Q (F0 m (pc + 3) ls (.int r :: rest))) : W p l e R s m args below meth c H locs cells slots Q (F0 m pc ls st0) := by
  have hF := gw_free (s := s) hA hD hS
  refine va_calli (mc := 0) (ms := 0) (va_runV (As := As) (rest := rest) S (hM H.size) cw ⟨fun a U g mk q => ?_, va_recv hK hP hc he, fun U hU hW => ⟨rfl, by rw [hU], by rw [hU]; exact hP, va_K.moved hW.alike hK, hD.weaken (fun _ _ _ _ => trivial)⟩⟩ rfl hn hsize hst (lv_room hW) hdg hf) hS (fun q _ h => hF q h) hF (fun r v t H1 locs1 ht hvm hw hB hz1 hk1 hS1 => ?_)
  · obtain ⟨q0, q1, qP, qK, qD⟩ := q
    exact ⟨q0, q1, qP, va_K.moved (u := U) (U := U.calling g mk a) (Vm.Alike.refl U.vm) qK, qD⟩
  · obtain ⟨hP1, hK1, hD1⟩ := hB
    rw [ht] at hP1
    exact kk r v H1 locs1 hw hP1 (hD1.weaken (fun k q _ h => hF q.1 h)) hS1
theorem gv_call {post : σ → Prop} (S : CallFix p m c cc nL s args lw_all own) (As rest : List Value) (hM : MetV l D tys wf y ws rm (.ref a :: As) u post) (cw : CallW R s args own C index y bytes maxL ret ws rm 0 0 n) {fs : List Value} (hc : vwCl[ci]? = some (C, T, N)) (he : (wf u)[0]? = some (a, .inr (ci, fs)))
    (hK : va_K D vwCl tys s) (hP : va_P D vwCl (wf u) H) (hD : va_D A (wf u)) (hS : va_S A s.heap H locs) (hA : ∀ q : Nat, s.heap.size ≤ q → A q) {st0 : List Value} (hst : st0 = As.reverse ++ .ref a :: rest) (hn : As.length = n) (hsize : ls.size = nL) (hW : (rest.map fun v => v.category).sum ≤ 8) (hdg : decode cc pc = .ok (.invokevirtual index, 3)) (hf : cells ≤ R.cells ∧ slots ≤ R.slots)
    (kk : ∀ (v : σ) (H1 : Heap) (locs1 : List Loc), post v → va_P D vwCl (wf v) H1 → va_D A (wf v) → va_S A s.heap H1 locs1 → W p l e R s m args below meth c H1 locs1 cells slots Q (F0 m (pc + 3) ls rest)) : W p l e R s m args below meth c H locs cells slots Q (F0 m pc ls st0) := by
  have hF := gw_free (s := s) hA hD hS
  refine va_callv (mc := 0) (ms := 0) (va_runV (As := As) (rest := rest) S (hM H.size) cw ⟨fun a U g mk q => ?_, va_recv hK hP hc he, fun U hU hW => ⟨rfl, by rw [hU], by rw [hU]; exact hP, va_K.moved hW.alike hK, hD.weaken (fun _ _ _ _ => trivial)⟩⟩ rfl hn hsize hst (lv_room hW) hdg hf) hS (fun q _ h => hF q h) hF (fun v t H1 locs1 ht hvm hw hB hz1 hk1 hS1 => ?_)
  · obtain ⟨q0, q1, qP, qK, qD⟩ := q
    exact ⟨q0, q1, qP, va_K.moved (u := U) (U := U.calling g mk a) (Vm.Alike.refl U.vm) qK, qD⟩
  · obtain ⟨hP1, hK1, hD1⟩ := hB
    rw [ht] at hP1
    exact kk v H1 locs1 hw hP1 (hD1.weaken (fun k q _ h => hF q.1 h)) hS1
end WC
-- ===== the two objects' worlds =====
/-- the component: colours, steps, settled, blockCount, blocks, waitCount, waiting, leaders, toldKnown, roundCount, parts by round -/
abbrev SX : Type := (Nat → Nat) × (Nat → Nat) × Nat × Nat × (Nat → Nat) × Nat × (Nat → Nat) × (Nat → Nat) × Nat × Nat × (Nat → Nat)
abbrev wXs (ad : Nat → Nat) (dd : Nat → ClassId) (co st : Nat → Nat) (sd bc : Nat) (bl : Nat → Nat) (wc : Nat) (wa le : Nat → Nat) (tk rc : Nat) (ca : Nat → Nat) : va_W :=
  [(ad 0, .inr (0, [.ref (ad 1), .ref (ad 2), .int (nI sd), .int (nI bc), .ref (ad 3), .int (nI wc), .ref (ad 4), .ref (ad 5), .int (nI tk), .int (nI rc), .ref (ad 6)])), (ad 1, .inl (dd 1, 10, .inl (fun j => nI (co j)))), (ad 2, .inl (dd 2, 20, .inl (fun j => nI (st j)))), (ad 3, .inl (dd 3, 10, .inl (fun j => nI (bl j)))), (ad 4, .inl (dd 4, 40, .inl (fun j => nI (wa j)))), (ad 5, .inl (dd 5, 10, .inl (fun j => nI (le j)))), (ad 6, .inl (dd 6, 120, .inl (fun j => nI (ca j))))]
abbrev wX (ad : Nat → Nat) (dd : Nat → ClassId) (u : SX) : va_W := match u with
  | (co, st, sd, bc, bl, wc, wa, le, tk, rc, ca) => wXs ad dd co st sd bc bl wc wa le tk rc ca
abbrev tX (dd : Nat → ClassId) : List (ClassId × FieldType) := [(dd 1, .byte), (dd 2, .int), (dd 3, .int), (dd 4, .int), (dd 5, .byte), (dd 6, .byte)]
/-- the reference: colours, steps, now, after -/
abbrev SM : Type := (Nat → Nat) × (Nat → Bool) × (Nat → Bool) × (Nat → Bool)
abbrev wMs (ad : Nat → Nat) (dd : Nat → ClassId) (mc : Nat → Nat) (ms nw af : Nat → Bool) : va_W :=
  [(ad 0, .inr (1, [.ref (ad 1), .ref (ad 2), .ref (ad 3), .ref (ad 4)])), (ad 1, .inl (dd 1, 10, .inl (fun j => nI (mc j)))), (ad 2, .inl (dd 2, 200, .inl (fun j => nI (ms j).toNat))), (ad 3, .inl (dd 3, 100, .inl (fun j => nI (nw j).toNat))), (ad 4, .inl (dd 4, 100, .inl (fun j => nI (af j).toNat)))]
abbrev wM (ad : Nat → Nat) (dd : Nat → ClassId) (u : SM) : va_W := match u with
  | (mc, ms, nw, af) => wMs ad dd mc ms nw af
abbrev tM (dd : Nat → ClassId) : List (ClassId × FieldType) := [(dd 1, .int), (dd 2, .boolean), (dd 3, .boolean), (dd 4, .boolean)]
end
section
/-! THE PLAIN LAW, 3: what the public methods answer, as functions of the colours, the steps and the arguments -/
set_option maxRecDepth 20000
/-- the component's world, with the colours co and the steps st, is in order -/
def sp_XV (co st : Nat → Nat) (v : SX) : Prop := ∃ sd bc bl wc wa le tk rc ca, v = (co, st, sd, bc, bl, wc, wa, le, tk, rc, ca) ∧ sp_XI co st sd bc le tk rc ca
theorem sp_XI_set {co st le le1 ca : Nat → Nat} {sd bc tk rc : Nat} (h : sp_XI co st sd bc le tk rc ca) (hl : ∀ s, s < 10 → le1 s = sp_LD co st s) : sp_XI co st 1 (sp_NC co st) le1 tk rc ca :=
  ⟨h.1, h.2.1, Or.inr ⟨rfl, rfl, hl⟩, h.2.2.2⟩
theorem sp_XI_told {co st le ca ca1 : Nat → Nat} {sd bc tk rc : Nat} (h : sp_XI co st sd bc le tk rc ca) (hc : ∀ k s, k ≤ sp_N co st → s < 10 → ca1 (10 * k + s) = sp_L co st k s) : sp_XI co st sd bc le 1 (sp_N co st) ca1 :=
  ⟨h.1, h.2.1, h.2.2.1, Or.inr ⟨rfl, rfl, hc⟩⟩
theorem sp_XI_new {co st le ca : Nat → Nat} {bc rc : Nat} (h1 : ∀ s, s < 10 → co s < 4) (h2 : ∀ a, a < 20 → st a < 1024) : sp_XI co st 0 bc le 0 rc ca :=
  ⟨h1, h2, Or.inl rfl, Or.inl rfl⟩
theorem sp_ok_gt {x : Int32} {n : Nat} (hn : n + 1 < 2 ^ 31) (h : nI n < x) : sp_ok x (n + 1) = false := by
  refine sp_ok_big hn ?_
  have h1 := Int32.lt_iff_toInt_lt.mp h
  rw [nI_toInt (show n < 2 ^ 31 by omega)] at h1
  refine Int32.le_iff_toInt_le.mpr ?_
  rw [nI_toInt hn]
  omega
theorem sp_ok_ngt {x : Int32} {n : Nat} (hn : n + 1 < 2 ^ 31) (h0 : ¬ x < 0) (h : ¬ nI n < x) : sp_ok x (n + 1) = true := by
  refine sp_ok_in hn h0 fun q => h ?_
  have h1 := Int32.le_iff_toInt_le.mp q
  rw [nI_toInt hn] at h1
  refine Int32.lt_iff_toInt_lt.mpr ?_
  rw [nI_toInt (show n < 2 ^ 31 by omega)]
  omega
theorem sp_cl9 {j : Nat} (h : j < 10) : (nI j).toNatClampNeg = j := nI_clamp (by omega)
theorem sp_ok9 {j : Nat} (h : j < 10) : sp_ok (nI j) 10 = true := sp_ok_nI h (by decide)
theorem sp_ok4 {j : Nat} (h : j < 4) : sp_ok (nI j) 4 = true := sp_ok_nI h (by decide)
theorem sp_ok2 {j : Nat} (h : j < 2) : sp_ok (nI j) 2 = true := sp_ok_nI h (by decide)
-- ===== colour, step =====
def sp_colU (co : Nat → Nat) (x y : Int32) : Nat → Nat := if (sp_ok x 10 && sp_ok y 4) = true then va_up co x.toNatClampNeg y.toNatClampNeg else co
def sp_stU (st : Nat → Nat) (o x y : Int32) (th : Bool) : Nat → Nat := if (sp_ok o 2 && sp_ok x 10 && sp_ok y 10) = true then va_up st (10 * o.toNatClampNeg + x.toNatClampNeg) (if th = true then st (10 * o.toNatClampNeg + x.toNatClampNeg) ||| 2 ^ y.toNatClampNeg else sp_dif (st (10 * o.toNatClampNeg + x.toNatClampNeg)) (2 ^ y.toNatClampNeg)) else st
theorem sp_colU_ok (co : Nat → Nat) {j q : Nat} (hj : j < 10) (hq : q < 4) : sp_colU co (nI j) (nI q) = va_up co j q := by
  unfold sp_colU
  rw [sp_ok9 hj, sp_ok4 hq, sp_cl9 hj, sp_cl9 (show q < 10 by omega)]
  rfl
theorem sp_colU_no (co : Nat → Nat) {x y : Int32} (h : (sp_ok x 10 && sp_ok y 4) = false) : sp_colU co x y = co := by
  unfold sp_colU
  rw [h]; rfl
theorem sp_stU_ok (st : Nat → Nat) {o j t : Nat} (ho : o < 2) (hj : j < 10) (ht : t < 10) (th : Bool) : sp_stU st (nI o) (nI j) (nI t) th = va_up st (10 * o + j) (if th = true then st (10 * o + j) ||| 2 ^ t else sp_dif (st (10 * o + j)) (2 ^ t)) := by
  unfold sp_stU
  rw [sp_ok2 ho, sp_ok9 hj, sp_ok9 ht, sp_cl9 hj, sp_cl9 ht, sp_cl9 (show o < 10 by omega)]
  rfl
theorem sp_stU_no (st : Nat → Nat) {o x y : Int32} (th : Bool) (h : (sp_ok o 2 && sp_ok x 10 && sp_ok y 10) = false) : sp_stU st o x y th = st := by
  unfold sp_stU
  rw [h]; rfl
theorem sp_up_lt {f : Nat → Nat} {n d i v : Nat} (h : ∀ a, a < n → f a < d) (hv : v < d) : ∀ a, a < n → va_up f i v a < d := by
  intro a ha
  by_cases e : a = i
  · rw [e, sp_up_s]; exact hv
  · rw [sp_up_n _ _ e]; exact h a ha
theorem sp_or_lt {x t : Nat} (h : x < 1024) (ht : t < 10) : x ||| 2 ^ t < 1024 := Nat.or_lt_two_pow (n := 10) h (Nat.pow_lt_pow_right (by decide) ht)
theorem sp_or_bit (x t i : Nat) : (x ||| 2 ^ t).testBit i = (x.testBit i || decide (t = i)) := by rw [Nat.testBit_or, Nat.testBit_two_pow]
theorem sp_dif_bit2 {x : Nat} (h : x < 1024) (t i : Nat) : (sp_dif x (2 ^ t)).testBit i = (x.testBit i && !decide (t = i)) := by
  rw [Bool.eq_iff_iff, sp_dif_bit h, Nat.testBit_two_pow, Bool.and_eq_true]
  cases decide (t = i) <;> simp
-- ===== the answers =====
noncomputable def sp_aAlike (co st : Nat → Nat) (x y : Int32) : Int32 := nI (sp_ok x 10 && sp_ok y 10 && sp_F co st x.toNatClampNeg y.toNatClampNeg).toNat
noncomputable def sp_aLeader (co st : Nat → Nat) (x : Int32) : Int32 := if sp_ok x 10 = true then nI (sp_LD co st x.toNatClampNeg) else -1
noncomputable def sp_aMembers (co st : Nat → Nat) (x : Int32) : Int32 := if sp_ok x 10 = true then nI (sp_img (fun t => sp_F co st x.toNatClampNeg t) (fun s => s) 10) else -1
noncomputable def sp_aTold (co st : Nat → Nat) (x y : Int32) : Int32 := if (sp_ok x 10 && sp_ok y 10) = true then sp_told co st x.toNatClampNeg y.toNatClampNeg else -1
noncomputable def sp_aLeads (co st : Nat → Nat) (o x : Int32) : Int32 := if (sp_ok o 2 && sp_ok x 10) = true then nI (sp_img (sp_e st o.toNatClampNeg x.toNatClampNeg) (sp_LD co st) 10) else -1
def sp_aColours (co : Nat → Nat) : Int32 := nI (sp_pop (sp_img (fun _ => true) co 10) 10)
/-- the steps with their targets' leaders in place of them -/
noncomputable def sp_rd (co st : Nat → Nat) (a : Nat) : Nat := sp_img (fun s => (st a).testBit s) (sp_LD co st) 10
def sp_tot (f : Nat → Nat) : Nat → Nat
  | 0 => 0
  | n + 1 => sp_tot f n + sp_pop (f n) 10
theorem sp_rd_lt (co st : Nat → Nat) (a : Nat) : sp_rd co st a < 1024 := sp_img_lt (d := 10) (fun s hs _ => sp_L_lt co st _ hs)
theorem sp_aAlike_ok (co st : Nat → Nat) {i j : Nat} (hi : i < 10) (hj : j < 10) : sp_aAlike co st (nI i) (nI j) = nI (sp_F co st i j).toNat := by
  unfold sp_aAlike
  rw [sp_ok9 hi, sp_ok9 hj, sp_cl9 hi, sp_cl9 hj]; rfl
theorem sp_aAlike_no (co st : Nat → Nat) {x y : Int32} (h : (sp_ok x 10 && sp_ok y 10) = false) : sp_aAlike co st x y = nI 0 := by
  unfold sp_aAlike
  rw [h]; rfl
theorem sp_aLeader_ok (co st : Nat → Nat) {i : Nat} (hi : i < 10) : sp_aLeader co st (nI i) = nI (sp_LD co st i) := by
  unfold sp_aLeader
  rw [sp_ok9 hi, sp_cl9 hi]; rfl
theorem sp_aLeader_no (co st : Nat → Nat) {x : Int32} (h : sp_ok x 10 = false) : sp_aLeader co st x = -1 := by
  unfold sp_aLeader
  rw [h]; rfl
theorem sp_aMembers_ok (co st : Nat → Nat) {i : Nat} (hi : i < 10) : sp_aMembers co st (nI i) = nI (sp_img (fun t => sp_F co st i t) (fun s => s) 10) := by
  unfold sp_aMembers
  rw [sp_ok9 hi, sp_cl9 hi]; rfl
theorem sp_aMembers_no (co st : Nat → Nat) {x : Int32} (h : sp_ok x 10 = false) : sp_aMembers co st x = -1 := by
  unfold sp_aMembers
  rw [h]; rfl
theorem sp_aTold_ok (co st : Nat → Nat) {i j : Nat} (hi : i < 10) (hj : j < 10) : sp_aTold co st (nI i) (nI j) = sp_told co st i j := by
  unfold sp_aTold
  rw [sp_ok9 hi, sp_ok9 hj, sp_cl9 hi, sp_cl9 hj]; rfl
theorem sp_aTold_no (co st : Nat → Nat) {x y : Int32} (h : (sp_ok x 10 && sp_ok y 10) = false) : sp_aTold co st x y = -1 := by
  unfold sp_aTold
  rw [h]; rfl
theorem sp_aLeads_ok (co st : Nat → Nat) {o i : Nat} (ho : o < 2) (hi : i < 10) : sp_aLeads co st (nI o) (nI i) = nI (sp_img (sp_e st o i) (sp_LD co st) 10) := by
  unfold sp_aLeads
  rw [sp_ok2 ho, sp_ok9 hi, sp_cl9 hi, sp_cl9 (show o < 10 by omega)]; rfl
theorem sp_aLeads_no (co st : Nat → Nat) {o x : Int32} (h : (sp_ok o 2 && sp_ok x 10) = false) : sp_aLeads co st o x = -1 := by
  unfold sp_aLeads
  rw [h]; rfl
end
section
/-! THE PLAIN LAW, 4: rows for the reference -/
set_option maxRecDepth 20000
section WB
variable {p : Program} {l : Launch} {e : Env} {R : Room} {s : State} {m : MethodId} {args : Array Value} {below : List Frame} {meth : Method} {c : Code} {H : Heap} {locs : List Loc} {cells slots : Nat} {Q : State → Prop}
variable {cc : ByteArray} {pc : Nat} {ls : Array Slot} {rest : List Value}
theorem wp_eqB {a b : Bool} {off : Int} {tgt : Nat} (hx : p.tables.exec = Jvm.exec) (hb : c.code = cc) (hdg : decode cc pc = .ok (.if_icmp .eq off, 3)) (ht : (pc : Int) + off = (tgt : Int)) (kt : a = b → W p l e R s m args below meth c H locs cells slots Q (F0 m tgt ls rest)) (kf : a ≠ b → W p l e R s m args below meth c H locs cells slots Q (F0 m (pc + 3) ls rest)) : W p l e R s m args below meth c H locs cells slots Q (F0 m pc ls (.int (nI b.toNat) :: .int (nI a.toNat) :: rest)) :=
  wp_eq hx hb (by cases a <;> decide) (by cases b <;> decide) hdg ht (fun h => kt (by revert h; cases a <;> cases b <;> decide)) (fun h => kf (fun q => h (by rw [q])))
theorem wp_toB {x : Bool} (y : Bool) (h : x = y) (k : W p l e R s m args below meth c H locs cells slots Q (F0 m pc ls (.int (nI y.toNat) :: rest))) : W p l e R s m args below meth c H locs cells slots Q (F0 m pc ls (.int (nI x.toNat) :: rest)) := by
  rw [h]; exact k
end WB
theorem sp_fnd {z fb : Bool} {f : Nat → Bool} {b : Nat} (h : fb = (z || sp_any f b)) : (z || sp_any f (b + 1)) = (fb || f b) := by
  show (z || (sp_any f b || f b)) = _
  rw [h, Bool.or_assoc]
theorem sp_anyall (f g : Nat → Bool) (n : Nat) : sp_any (fun q => f q != g q) n = !sp_all (fun q => f q == g q) n := by
  induction n with
  | zero => rfl
  | succ n ih =>
    show (sp_any (fun q => f q != g q) n || (f n != g n)) = !(sp_all (fun q => f q == g q) n && (f n == g n))
    rw [ih, Bool.not_and]
    rfl
theorem sp_cnt_yes {p : Nat → Bool} {n : Nat} (h : p n = true) : sp_cnt p (n + 1) = sp_cnt p n + 1 := by
  show sp_cnt p n + (p n).toNat = _
  rw [h]; rfl
theorem sp_cnt_no {p : Nat → Bool} {n : Nat} (h : p n = false) : sp_cnt p (n + 1) = sp_cnt p n := by
  show sp_cnt p n + (p n).toNat = _
  rw [h]; rfl
theorem sp_pop16 : ∀ x, x < 16 → sp_pop x 10 = (x &&& 1) + (x >>> 1 &&& 1) + (x >>> 2 &&& 1) + (x >>> 3 &&& 1) := by decide +kernel
def sp_msU (ms : Nat → Bool) (o x y : Int32) (th : Bool) : Nat → Bool := if (sp_ok o 2 && sp_ok x 10 && sp_ok y 10) = true then va_up ms (o.toNatClampNeg * 100 + x.toNatClampNeg * 10 + y.toNatClampNeg) th else ms
theorem sp_msU_ok (ms : Nat → Bool) {o j t : Nat} (ho : o < 2) (hj : j < 10) (ht : t < 10) (th : Bool) : sp_msU ms (nI o) (nI j) (nI t) th = va_up ms (o * 100 + j * 10 + t) th := by
  unfold sp_msU
  rw [sp_ok2 ho, sp_ok9 hj, sp_ok9 ht, sp_cl9 hj, sp_cl9 ht, sp_cl9 (show o < 10 by omega)]
  rfl
theorem sp_msU_no (ms : Nat → Bool) {o x y : Int32} (th : Bool) (h : (sp_ok o 2 && sp_ok x 10 && sp_ok y 10) = false) : sp_msU ms o x y th = ms := by
  unfold sp_msU
  rw [h]; rfl
theorem sp_Rel_col {co st mc : Nat → Nat} {ms : Nat → Bool} (h : sp_Rel co st mc ms) (x y : Int32) : sp_Rel (sp_colU co x y) st (sp_colU mc x y) ms := by
  refine ⟨fun s hs => ?_, h.2⟩
  cases hq : (sp_ok x 10 && sp_ok y 4) with
  | false => rw [sp_colU_no co hq, sp_colU_no mc hq]; exact h.1 s hs
  | true =>
    unfold sp_colU
    rw [hq, if_pos rfl, if_pos rfl]
    by_cases e : s = x.toNatClampNeg
    · rw [e, sp_up_s, sp_up_s]
    · rw [sp_up_n _ _ e, sp_up_n _ _ e]; exact h.1 s hs
theorem sp_Rel_step {co st mc : Nat → Nat} {ms : Nat → Bool} (h : sp_Rel co st mc ms) (hst : ∀ a, a < 20 → st a < 1024) (o x y : Int32) (th : Bool) : sp_Rel co (sp_stU st o x y th) mc (sp_msU ms o x y th) := by
  refine ⟨h.1, fun q s a hq hs ha => ?_⟩
  cases hk : (sp_ok o 2 && sp_ok x 10 && sp_ok y 10) with
  | false => rw [sp_stU_no st th hk, sp_msU_no ms th hk]; exact h.2 q s a hq hs ha
  | true =>
    rw [Bool.and_eq_true, Bool.and_eq_true] at hk
    obtain ⟨o', ho', rfl⟩ := sp_ok_of hk.1.1 (show 2 < 2 ^ 31 by decide)
    obtain ⟨i, hi, rfl⟩ := sp_ok_of hk.1.2 (show 10 < 2 ^ 31 by decide)
    obtain ⟨j, hj, rfl⟩ := sp_ok_of hk.2 (show 10 < 2 ^ 31 by decide)
    rw [sp_stU_ok st ho' hi hj, sp_msU_ok ms ho' hi hj]
    have h0 := h.2 q s a hq hs ha
    by_cases e : 10 * q + s = 10 * o' + i
    · have eq : q = o' := by omega
      have es : s = i := by omega
      subst eq
      subst es
      have hb := hst (10 * q + s) (by omega)
      unfold sp_e at h0 ⊢
      rw [sp_up_s]
      by_cases e2 : a = j
      · rw [e2, sp_up_s]
        cases th with
        | true =>
          rw [if_pos rfl, sp_or_bit, decide_eq_true rfl, Bool.or_true]
        | false =>
          rw [if_neg (by decide), sp_dif_bit2 hb, decide_eq_true rfl]
          cases (st (10 * q + s)).testBit j <;> rfl
      · rw [sp_up_n _ _ (by omega), h0]
        cases th with
        | true => rw [if_pos rfl, sp_or_bit, decide_eq_false (fun z => e2 z.symm), Bool.or_false]
        | false =>
          rw [if_neg (by decide), sp_dif_bit2 hb, decide_eq_false (fun z => e2 z.symm)]
          cases (st (10 * q + s)).testBit a <;> rfl
    · unfold sp_e at h0 ⊢
      rw [sp_up_n _ _ e, sp_up_n _ _ (by omega)]
      exact h0
theorem sp_Rel2 {co st mc : Nat → Nat} {ms : Nat → Bool} (h : sp_Rel co st mc ms) {a t : Nat} (ha : a < 20) (ht : t < 10) : ms (a * 10 + t) = (st a).testBit t := by
  have h0 := h.2 (a / 10) (a % 10) t (by omega) (by omega) ht
  rw [show a / 10 * 100 + a % 10 * 10 + t = a * 10 + t by omega] at h0
  rw [h0]
  unfold sp_e
  rw [show 10 * (a / 10) + a % 10 = a by omega]
theorem sp_Rel_red {co st st1 mc : Nat → Nat} {ms ms1 : Nat → Bool} (h : sp_Rel co st mc ms) (h1 : ∀ a, a < 20 → st1 a = sp_rd co st a) (h2 : ∀ a t, a < 20 → t < 10 → ms1 (a * 10 + t) = (sp_rd co st a).testBit t) : sp_Rel co st1 mc ms1 := by
  refine ⟨h.1, fun o s a ho hs ha => ?_⟩
  unfold sp_e
  rw [h1 _ (by omega), ← h2 _ a (by omega) ha]
  congr 1
  omega
end
section
/-! WALKS, 1: the component's leaf methods (printed by gen/gen1.py) -/
theorem sp_inc (i : Nat) : nI i + Int32.ofInt 1 = nI (i + 1) := nI_1 i
theorem sp_and1 (y : Nat) : y &&& 1 < 2147483648 := by rw [Nat.and_one_is_mod]; omega
theorem sp_img_no {p : Nat → Bool} {f : Nat → Nat} {n : Nat} (h : p n = false) : sp_img p f (n + 1) = sp_img p f n := by
  show (if p n = true then sp_img p f n ||| 2 ^ f n else sp_img p f n) = _
  rw [h]; rfl
theorem sp_img_yes {p : Nat → Bool} {f : Nat → Nat} {n : Nat} (h : p n = true) : sp_img p f (n + 1) = sp_img p f n ||| 2 ^ f n := by
  show (if p n = true then sp_img p f n ||| 2 ^ f n else sp_img p f n) = _
  rw [h]; rfl
set_option maxHeartbeats 4000000 in
set_option maxRecDepth 100000 in
theorem mx_isState (l : Launch) (D : va_G) (ad : Nat → Nat) (dd : Nat → ClassId) (co st : Nat → Nat) (sd bc : Nat) (bl : Nat → Nat) (wc : Nat) (wa le : Nat → Nat) (tk rc : Nat) (ca : Nat → Nat) (x : Int32) : MetI l D (tX dd) (wX ad dd) yX0_isState (ws_ yX0_isState cX0_isState 2 (some .boolean)) ({ frames := 0, cells := 0, slots := 0, locals := 0 } : Room) [.ref (ad 0), .int x] (co, st, sd, bc, bl, wc, wa, le, tk, rc, ca) (fun r v => v = (co, st, sd, bc, bl, wc, wa, le, tk, rc, ca) ∧ r = nI (sp_ok x 10).toNat) := by
  refine gi_start (by decide) (Nat.le_of_ble_eq_true rfl) ?_
  intro p e s m as below meth c A Q S hA hK ret H locs hP hD hS ls hl
  have hx := S.1
  have hb := S.2.1
  have S : CallFix p m c cX0_isState 2 s as lw_all RX0 := S
  have hP : va_P D vwCl (wXs ad dd co st sd bc bl wc wa le tk rc ca) H := hP
  have hD : va_D A (wXs ad dd co st sd bc bl wc wa le tk rc ca) := hD
  have hl : lv_has ls 2 [(0, .ref (ad 0)), (1, .int x)] := hl
  refine lv_iload_n hx hb dX0_isState_0 rfl (lv_at hl 1 rfl) ?_
  refine lv_if_lt (tgt := 14) hx hb dX0_isState_1 (by decide) (fun h => ?_) (fun h => ?_)
  · refine lv_iconst (v := nI 0) hx hb dX0_isState_14 (by decide) ?_
    exact ret ((nI 0)) (co, st, sd, bc, bl, wc, wa, le, tk, rc, ca) H locs ls _ dX0_isState_15 rfl hP hD hS (⟨rfl, by rw [sp_ok_neg h]; rfl⟩)
  · refine lv_iload_n hx hb dX0_isState_4 rfl (lv_at hl 1 rfl) ?_
    refine lv_bipush (v := nI 10) hx hb dX0_isState_5 (by decide) ?_
    refine lv_icmp_ge (tgt := 14) hx hb dX0_isState_7 (by decide) (fun h2 => ?_) (fun h2 => ?_)
    · refine lv_iconst (v := nI 0) hx hb dX0_isState_14 (by decide) ?_
      exact ret ((nI 0)) (co, st, sd, bc, bl, wc, wa, le, tk, rc, ca) H locs ls _ dX0_isState_15 rfl hP hD hS (⟨rfl, by rw [sp_ok_big (by decide) h2]; rfl⟩)
    · refine lv_iconst (v := nI 1) hx hb dX0_isState_10 (by decide) ?_
      refine lv_goto (tgt := 15) hx hb dX0_isState_11 (by decide) ?_
      exact ret ((nI 1)) (co, st, sd, bc, bl, wc, wa, le, tk, rc, ca) H locs ls _ dX0_isState_15 rfl hP hD hS (⟨rfl, by rw [sp_ok_in (by decide) h h2]; rfl⟩)
set_option maxHeartbeats 4000000 in
set_option maxRecDepth 100000 in
theorem mx_change (l : Launch) (D : va_G) (ad : Nat → Nat) (dd : Nat → ClassId) (co st : Nat → Nat) (sd bc : Nat) (bl : Nat → Nat) (wc : Nat) (wa le : Nat → Nat) (tk rc : Nat) (ca : Nat → Nat) : MetV l D (tX dd) (wX ad dd) yX0_change (ws_ yX0_change cX0_change 1 none) ({ frames := 0, cells := 0, slots := 0, locals := 0 } : Room) [.ref (ad 0)] (co, st, sd, bc, bl, wc, wa, le, tk, rc, ca) (fun v => v = (co, st, 0, bc, bl, wc, wa, le, 0, rc, ca)) := by
  refine gv_start (by decide) (Nat.le_of_ble_eq_true rfl) ?_
  intro p e s m as below meth c A Q S hA hK ret H locs hP hD hS ls hl
  have hx := S.1
  have hb := S.2.1
  have S : CallFix p m c cX0_change 1 s as lw_all RX0 := S
  have hP : va_P D vwCl (wXs ad dd co st sd bc bl wc wa le tk rc ca) H := hP
  have hD : va_D A (wXs ad dd co st sd bc bl wc wa le tk rc ca) := hD
  have hl : lv_has ls 1 [(0, .ref (ad 0))] := hl
  refine lv_aload_n hx hb dX0_change_0 rfl (lv_at hl 0 rfl) ?_
  refine lv_iconst (v := nI 0) hx hb dX0_change_1 (by decide) ?_
  refine x_put S hK hP hD hS rfl 2 (by decide) q32 rfl rfl rfl rfl (Nat.le_of_ble_eq_true rfl) dX0_change_2 (fun H locs hP hD hS => ?_)
  have hP : va_P D vwCl (wXs ad dd co st 0 bc bl wc wa le tk rc ca) H := hP
  have hD : va_D A (wXs ad dd co st 0 bc bl wc wa le tk rc ca) := hD
  refine lv_aload_n hx hb dX0_change_5 rfl (lv_at hl 0 rfl) ?_
  refine lv_iconst (v := nI 0) hx hb dX0_change_6 (by decide) ?_
  refine x_put S hK hP hD hS rfl 8 (by decide) q38 rfl rfl rfl rfl (Nat.le_of_ble_eq_true rfl) dX0_change_7 (fun H locs hP hD hS => ?_)
  have hP : va_P D vwCl (wXs ad dd co st 0 bc bl wc wa le 0 rc ca) H := hP
  have hD : va_D A (wXs ad dd co st 0 bc bl wc wa le 0 rc ca) := hD
  exact ret (co, st, 0, bc, bl, wc, wa, le, 0, rc, ca) H locs ls _ dX0_change_10 hP hD hS (rfl)
set_option maxHeartbeats 4000000 in
set_option maxRecDepth 100000 in
theorem mx_enqueue (l : Launch) (D : va_G) (ad : Nat → Nat) (dd : Nat → ClassId) (co st : Nat → Nat) (sd bc : Nat) (bl : Nat → Nat) (wc : Nat) (wa le : Nat → Nat) (tk rc : Nat) (ca : Nat → Nat) (b : Nat) (hw : wc < 40) : MetV l D (tX dd) (wX ad dd) yX0_enqueue (ws_ yX0_enqueue cX0_enqueue 2 none) ({ frames := 0, cells := 0, slots := 0, locals := 0 } : Room) [.ref (ad 0), .int (nI b)] (co, st, sd, bc, bl, wc, wa, le, tk, rc, ca) (fun v => v = (co, st, sd, bc, bl, wc + 1, va_up wa wc b, le, tk, rc, ca)) := by
  refine gv_start (by decide) (Nat.le_of_ble_eq_true rfl) ?_
  intro p e s m as below meth c A Q S hA hK ret H locs hP hD hS ls hl
  have hx := S.1
  have hb := S.2.1
  have S : CallFix p m c cX0_enqueue 2 s as lw_all RX0 := S
  have hP : va_P D vwCl (wXs ad dd co st sd bc bl wc wa le tk rc ca) H := hP
  have hD : va_D A (wXs ad dd co st sd bc bl wc wa le tk rc ca) := hD
  have hl : lv_has ls 2 [(0, .ref (ad 0)), (1, .int (nI b))] := hl
  refine lv_aload_n hx hb dX0_enqueue_0 rfl (lv_at hl 0 rfl) ?_
  refine x_get S hK hP rfl 6 (by decide) q36 rfl rfl dX0_enqueue_1 ?_
  refine lv_aload_n hx hb dX0_enqueue_4 rfl (lv_at hl 0 rfl) ?_
  refine x_get S hK hP rfl 5 (by decide) q35 rfl rfl dX0_enqueue_5 ?_
  refine lv_iload_n hx hb dX0_enqueue_8 rfl (lv_at hl 1 rfl) ?_
  refine g_ist S hK hP hD hS 4 3 rfl rfl (by omega) (by decide) dX0_enqueue_9 (fun H locs hP hD hS => ?_)
  have hP : va_P D vwCl (wXs ad dd co st sd bc bl wc (va_up wa wc b) le tk rc ca) H := hP
  have hD : va_D A (wXs ad dd co st sd bc bl wc (va_up wa wc b) le tk rc ca) := hD
  refine lv_aload_n hx hb dX0_enqueue_10 rfl (lv_at hl 0 rfl) ?_
  refine lv_dup hx hb dX0_enqueue_11 rfl ?_
  refine x_get S hK hP rfl 5 (by decide) q35 rfl rfl dX0_enqueue_12 ?_
  refine lv_iconst (v := nI 1) hx hb dX0_enqueue_15 (by decide) ?_
  refine wp_add hx hb dX0_enqueue_16 ?_
  refine x_put S hK hP hD hS rfl 5 (by decide) q35 rfl rfl rfl rfl (Nat.le_of_ble_eq_true rfl) dX0_enqueue_17 (fun H locs hP hD hS => ?_)
  have hP : va_P D vwCl (wXs ad dd co st sd bc bl (wc + 1) (va_up wa wc b) le tk rc ca) H := hP
  have hD : va_D A (wXs ad dd co st sd bc bl (wc + 1) (va_up wa wc b) le tk rc ca) := hD
  exact ret (co, st, sd, bc, bl, wc + 1, va_up wa wc b, le, tk, rc, ca) H locs ls _ dX0_enqueue_20 hP hD hS (rfl)
set_option maxHeartbeats 4000000 in
set_option maxRecDepth 100000 in
theorem mx_bitsIn (l : Launch) (D : va_G) (ad : Nat → Nat) (dd : Nat → ClassId) (co st : Nat → Nat) (sd bc : Nat) (bl : Nat → Nat) (wc : Nat) (wa le : Nat → Nat) (tk rc : Nat) (ca : Nat → Nat) (x : Nat) (hx31 : x < 2147483648) : MetI l D (tX dd) (wX ad dd) yX0_bitsIn (ws_ yX0_bitsIn cX0_bitsIn 4 (some .int)) ({ frames := 0, cells := 0, slots := 0, locals := 0 } : Room) [.ref (ad 0), .int (nI x)] (co, st, sd, bc, bl, wc, wa, le, tk, rc, ca) (fun r v => v = (co, st, sd, bc, bl, wc, wa, le, tk, rc, ca) ∧ r = nI (sp_pop x 10)) := by
  refine gi_start (by decide) (Nat.le_of_ble_eq_true rfl) ?_
  intro p e s m as below meth c A Q S hA hK ret H locs hP hD hS ls hl
  have hx := S.1
  have hb := S.2.1
  have S : CallFix p m c cX0_bitsIn 4 s as lw_all RX0 := S
  have hP : va_P D vwCl (wXs ad dd co st sd bc bl wc wa le tk rc ca) H := hP
  have hD : va_D A (wXs ad dd co st sd bc bl wc wa le tk rc ca) := hD
  have hl : lv_has ls 4 [(0, .ref (ad 0)), (1, .int (nI x))] := hl
  have loop : ∀ (n i : Nat), i ≤ 10 → 10 < i + n → ∀ ls : Array Slot, lv_has ls 4 [(0, .ref (ad 0)), (1, .int (nI x)), (2, .int (nI (sp_pop x i))), (3, .int (nI i))] → W p l e ({ frames := 0, cells := 0, slots := 0, locals := 0 } : Room) s m as below meth c H locs 0 0 Q (F0 m 4 ls []) := by
    intro n
    induction n with
    | zero => intro i h1 h2; omega
    | succ n ih =>
      intro i hi hn ls hl
      refine lv_iload_n hx hb dX0_bitsIn_4 rfl (lv_at hl 3 rfl) ?_
      refine lv_bipush (v := nI 10) hx hb dX0_bitsIn_5 (by decide) ?_
      refine wp_ge (tgt := 24) hx hb (by omega) (by omega) dX0_bitsIn_7 (by decide) (fun hc => ?_) (fun hc => ?_)
      · have hi10 : i = 10 := by omega
        refine lv_iload_n hx hb dX0_bitsIn_24 rfl (lv_at hl 2 rfl) ?_
        exact ret ((nI (sp_pop x i))) (co, st, sd, bc, bl, wc, wa, le, tk, rc, ca) H locs ls _ dX0_bitsIn_25 rfl hP hD hS (⟨rfl, by rw [hi10]⟩)
      · refine lv_iload_n hx hb dX0_bitsIn_10 rfl (lv_at hl 2 rfl) ?_
        refine lv_iload_n hx hb dX0_bitsIn_11 rfl (lv_at hl 1 rfl) ?_
        refine lv_iload_n hx hb dX0_bitsIn_12 rfl (lv_at hl 3 rfl) ?_
        refine wp_shr hx hb (by omega) (by omega) dX0_bitsIn_13 ?_
        refine lv_iconst (v := nI 1) hx hb dX0_bitsIn_14 (by decide) ?_
        refine wp_and hx hb dX0_bitsIn_15 ?_
        refine wp_add hx hb dX0_bitsIn_16 ?_
        refine lv_istore_n (lv' := [(2, .int (nI ((sp_pop x i) + ((x >>> i) &&& 1)))), (0, .ref (ad 0)), (1, .int (nI x)), (3, .int (nI i))]) hx hb dX0_bitsIn_17 rfl hl (by decide) rfl (fun ls hl => ?_)
        refine lv_iinc (v := nI (i + 1)) (lv' := [(3, .int (nI (i + 1))), (2, .int (nI ((sp_pop x i) + ((x >>> i) &&& 1)))), (0, .ref (ad 0)), (1, .int (nI x))]) hx hb dX0_bitsIn_18 hl (k := 3) rfl (sp_inc _) (by decide) rfl (fun ls hl => ?_)
        refine lv_goto (tgt := 4) hx hb dX0_bitsIn_21 (by decide) ?_
        exact ih (i + 1) (by omega) (by omega) ls (lv_sub hl [2, 3, 1, 0] rfl)
  refine lv_iconst (v := nI 0) hx hb dX0_bitsIn_0 (by decide) ?_
  refine lv_istore_n (lv' := [(2, .int (nI 0)), (0, .ref (ad 0)), (1, .int (nI x))]) hx hb dX0_bitsIn_1 rfl hl (by decide) rfl (fun ls hl => ?_)
  refine lv_iconst (v := nI 0) hx hb dX0_bitsIn_2 (by decide) ?_
  refine lv_istore_n (lv' := [(3, .int (nI 0)), (2, .int (nI 0)), (0, .ref (ad 0)), (1, .int (nI x))]) hx hb dX0_bitsIn_3 rfl hl (by decide) rfl (fun ls hl => ?_)
  exact loop 11 0 (by omega) (by omega) ls (lv_sub hl [2, 3, 1, 0] rfl)
set_option maxHeartbeats 4000000 in
set_option maxRecDepth 100000 in
theorem mx_leadersOf (l : Launch) (D : va_G) (ad : Nat → Nat) (dd : Nat → ClassId) (co st : Nat → Nat) (sd bc : Nat) (bl : Nat → Nat) (wc : Nat) (wa le : Nat → Nat) (tk rc : Nat) (ca : Nat → Nat) (x : Nat) (hx31 : x < 2147483648) (hle : ∀ s, s < 10 → le s < 10) : MetI l D (tX dd) (wX ad dd) yX0_leadersOf (ws_ yX0_leadersOf cX0_leadersOf 4 (some .int)) ({ frames := 0, cells := 0, slots := 0, locals := 0 } : Room) [.ref (ad 0), .int (nI x)] (co, st, sd, bc, bl, wc, wa, le, tk, rc, ca) (fun r v => v = (co, st, sd, bc, bl, wc, wa, le, tk, rc, ca) ∧ r = nI (sp_img (fun s => x.testBit s) le 10)) := by
  refine gi_start (by decide) (Nat.le_of_ble_eq_true rfl) ?_
  intro p e s m as below meth c A Q S hA hK ret H locs hP hD hS ls hl
  have hx := S.1
  have hb := S.2.1
  have S : CallFix p m c cX0_leadersOf 4 s as lw_all RX0 := S
  have hP : va_P D vwCl (wXs ad dd co st sd bc bl wc wa le tk rc ca) H := hP
  have hD : va_D A (wXs ad dd co st sd bc bl wc wa le tk rc ca) := hD
  have hl : lv_has ls 4 [(0, .ref (ad 0)), (1, .int (nI x))] := hl
  have loop : ∀ (n i : Nat), i ≤ 10 → 10 < i + n → ∀ ls : Array Slot, lv_has ls 4 [(0, .ref (ad 0)), (1, .int (nI x)), (2, .int (nI (sp_img (fun s => x.testBit s) le i))), (3, .int (nI i))] → W p l e ({ frames := 0, cells := 0, slots := 0, locals := 0 } : Room) s m as below meth c H locs 0 0 Q (F0 m 4 ls []) := by
    intro n
    induction n with
    | zero => intro i h1 h2; omega
    | succ n ih =>
      intro i hi hn ls hl
      refine lv_iload_n hx hb dX0_leadersOf_4 rfl (lv_at hl 3 rfl) ?_
      refine lv_bipush (v := nI 10) hx hb dX0_leadersOf_5 (by decide) ?_
      refine wp_ge (tgt := 35) hx hb (by omega) (by omega) dX0_leadersOf_7 (by decide) (fun hc => ?_) (fun hc => ?_)
      · have hi10 : i = 10 := by omega
        refine lv_iload_n hx hb dX0_leadersOf_35 rfl (lv_at hl 2 rfl) ?_
        exact ret ((nI (sp_img (fun s => x.testBit s) le i))) (co, st, sd, bc, bl, wc, wa, le, tk, rc, ca) H locs ls _ dX0_leadersOf_36 rfl hP hD hS (⟨rfl, by rw [hi10]⟩)
      · refine lv_iload_n hx hb dX0_leadersOf_10 rfl (lv_at hl 1 rfl) ?_
        refine lv_iload_n hx hb dX0_leadersOf_11 rfl (lv_at hl 3 rfl) ?_
        refine wp_shr hx hb (by omega) (by omega) dX0_leadersOf_12 ?_
        refine lv_iconst (v := nI 1) hx hb dX0_leadersOf_13 (by decide) ?_
        refine wp_and hx hb dX0_leadersOf_14 ?_
        refine wp_ifeq (tgt := 29) hx hb (sp_and1 _) dX0_leadersOf_15 (by decide) (fun h => ?_) (fun h => ?_)
        · refine lv_iinc (v := nI (i + 1)) (lv' := [(3, .int (nI (i + 1))), (0, .ref (ad 0)), (1, .int (nI x)), (2, .int (nI (sp_img (fun s => x.testBit s) le i)))]) hx hb dX0_leadersOf_29 hl (k := 3) rfl (sp_inc _) (by decide) rfl (fun ls hl => ?_)
          refine lv_goto (tgt := 4) hx hb dX0_leadersOf_32 (by decide) ?_
          exact ih (i + 1) (by omega) (by omega) ls (by rw [sp_img_no ((sp_tb x i).mp h)]; exact lv_sub hl [1, 2, 3, 0] rfl)
        · refine lv_iload_n hx hb dX0_leadersOf_18 rfl (lv_at hl 2 rfl) ?_
          refine lv_iconst (v := nI 1) hx hb dX0_leadersOf_19 (by decide) ?_
          refine lv_aload_n hx hb dX0_leadersOf_20 rfl (lv_at hl 0 rfl) ?_
          refine x_get S hK hP rfl 7 (by decide) q37 rfl rfl dX0_leadersOf_21 ?_
          refine lv_iload_n hx hb dX0_leadersOf_24 rfl (lv_at hl 3 rfl) ?_
          refine g_bld S hK hP 5 4 rfl rfl (by omega) (by decide) dX0_leadersOf_25 ?_
          refine wp_shl hx hb (by have := hle i (by omega); omega) dX0_leadersOf_26 ?_
          refine wp_or hx hb dX0_leadersOf_27 ?_
          refine lv_istore_n (lv' := [(2, .int (nI ((sp_img (fun s => x.testBit s) le i) ||| (2 ^ (le i))))), (0, .ref (ad 0)), (1, .int (nI x)), (3, .int (nI i))]) hx hb dX0_leadersOf_28 rfl hl (by decide) rfl (fun ls hl => ?_)
          refine lv_iinc (v := nI (i + 1)) (lv' := [(3, .int (nI (i + 1))), (2, .int (nI ((sp_img (fun s => x.testBit s) le i) ||| (2 ^ (le i))))), (0, .ref (ad 0)), (1, .int (nI x))]) hx hb dX0_leadersOf_29 hl (k := 3) rfl (sp_inc _) (by decide) rfl (fun ls hl => ?_)
          refine lv_goto (tgt := 4) hx hb dX0_leadersOf_32 (by decide) ?_
          exact ih (i + 1) (by omega) (by omega) ls (by rw [sp_img_yes ((sp_tbn x i).mp h)]; exact lv_sub hl [2, 3, 1, 0] rfl)
  refine lv_iconst (v := nI 0) hx hb dX0_leadersOf_0 (by decide) ?_
  refine lv_istore_n (lv' := [(2, .int (nI 0)), (0, .ref (ad 0)), (1, .int (nI x))]) hx hb dX0_leadersOf_1 rfl hl (by decide) rfl (fun ls hl => ?_)
  refine lv_iconst (v := nI 0) hx hb dX0_leadersOf_2 (by decide) ?_
  refine lv_istore_n (lv' := [(3, .int (nI 0)), (2, .int (nI 0)), (0, .ref (ad 0)), (1, .int (nI x))]) hx hb dX0_leadersOf_3 rfl hl (by decide) rfl (fun ls hl => ?_)
  exact loop 11 0 (by omega) (by omega) ls (lv_sub hl [2, 3, 1, 0] rfl)
set_option maxHeartbeats 4000000 in
set_option maxRecDepth 100000 in
theorem mx_sourcesOf (l : Launch) (D : va_G) (ad : Nat → Nat) (dd : Nat → ClassId) (co st : Nat → Nat) (sd bc : Nat) (bl : Nat → Nat) (wc : Nat) (wa le : Nat → Nat) (tk rc : Nat) (ca : Nat → Nat) (X o : Nat) (ho : o < 2) (hst : ∀ a, a < 20 → st a < 1024) : MetI l D (tX dd) (wX ad dd) yX0_sourcesOf (ws_ yX0_sourcesOf cX0_sourcesOf 5 (some .int)) ({ frames := 0, cells := 0, slots := 0, locals := 0 } : Room) [.ref (ad 0), .int (nI X), .int (nI o)] (co, st, sd, bc, bl, wc, wa, le, tk, rc, ca) (fun r v => v = (co, st, sd, bc, bl, wc, wa, le, tk, rc, ca) ∧ r = nI (sp_src st X o)) := by
  refine gi_start (by decide) (Nat.le_of_ble_eq_true rfl) ?_
  intro p e s m as below meth c A Q S hA hK ret H locs hP hD hS ls hl
  have hx := S.1
  have hb := S.2.1
  have S : CallFix p m c cX0_sourcesOf 5 s as lw_all RX0 := S
  have hP : va_P D vwCl (wXs ad dd co st sd bc bl wc wa le tk rc ca) H := hP
  have hD : va_D A (wXs ad dd co st sd bc bl wc wa le tk rc ca) := hD
  have hl : lv_has ls 5 [(0, .ref (ad 0)), (1, .int (nI X)), (2, .int (nI o))] := hl
  have loop : ∀ (n i : Nat), i ≤ 10 → 10 < i + n → ∀ ls : Array Slot, lv_has ls 5 [(0, .ref (ad 0)), (1, .int (nI X)), (2, .int (nI o)), (3, .int (nI (sp_img (fun s => sp_pre st o s X) (fun s => s) i))), (4, .int (nI i))] → W p l e ({ frames := 0, cells := 0, slots := 0, locals := 0 } : Room) s m as below meth c H locs 0 0 Q (F0 m 5 ls []) := by
    intro n
    induction n with
    | zero => intro i h1 h2; omega
    | succ n ih =>
      intro i hi hn ls hl
      refine lv_iload hx hb dX0_sourcesOf_5 (lv_at hl 4 rfl) ?_
      refine lv_bipush (v := nI 10) hx hb dX0_sourcesOf_7 (by decide) ?_
      refine wp_ge (tgt := 42) hx hb (by omega) (by omega) dX0_sourcesOf_9 (by decide) (fun hc => ?_) (fun hc => ?_)
      · have hi10 : i = 10 := by omega
        refine lv_iload_n hx hb dX0_sourcesOf_42 rfl (lv_at hl 3 rfl) ?_
        exact ret ((nI (sp_img (fun s => sp_pre st o s X) (fun s => s) i))) (co, st, sd, bc, bl, wc, wa, le, tk, rc, ca) H locs ls _ dX0_sourcesOf_43 rfl hP hD hS (⟨rfl, by rw [hi10]⟩)
      · refine lv_aload_n hx hb dX0_sourcesOf_12 rfl (lv_at hl 0 rfl) ?_
        refine x_get S hK hP rfl 1 (by decide) q31 rfl rfl dX0_sourcesOf_13 ?_
        refine lv_bipush (v := nI 10) hx hb dX0_sourcesOf_16 (by decide) ?_
        refine lv_iload_n hx hb dX0_sourcesOf_18 rfl (lv_at hl 2 rfl) ?_
        refine wp_mul hx hb dX0_sourcesOf_19 ?_
        refine lv_iload hx hb dX0_sourcesOf_20 (lv_at hl 4 rfl) ?_
        refine wp_add hx hb dX0_sourcesOf_22 ?_
        refine g_ild S hK hP 2 1 rfl rfl (by omega) (by decide) dX0_sourcesOf_23 ?_
        refine lv_iload_n hx hb dX0_sourcesOf_24 rfl (lv_at hl 1 rfl) ?_
        refine wp_and hx hb dX0_sourcesOf_25 ?_
        refine wp_ifeq (tgt := 36) hx hb (Nat.lt_of_le_of_lt Nat.and_le_left (Nat.lt_of_lt_of_le (hst _ (by omega)) (by decide))) dX0_sourcesOf_26 (by decide) (fun h => ?_) (fun h => ?_)
        · refine lv_iinc (v := nI (i + 1)) (lv' := [(4, .int (nI (i + 1))), (0, .ref (ad 0)), (1, .int (nI X)), (2, .int (nI o)), (3, .int (nI (sp_img (fun s => sp_pre st o s X) (fun s => s) i)))]) hx hb dX0_sourcesOf_36 hl (k := 4) rfl (sp_inc _) (by decide) rfl (fun ls hl => ?_)
          refine lv_goto (tgt := 5) hx hb dX0_sourcesOf_39 (by decide) ?_
          exact ih (i + 1) (by omega) (by omega) ls (by rw [sp_img_no (p := fun s => sp_pre st o s X) (by show (st (10 * o + i) &&& X != 0) = false; rw [h]; rfl)]; exact lv_sub hl [1, 2, 3, 4, 0] rfl)
        · refine lv_iload_n hx hb dX0_sourcesOf_29 rfl (lv_at hl 3 rfl) ?_
          refine lv_iconst (v := nI 1) hx hb dX0_sourcesOf_30 (by decide) ?_
          refine lv_iload hx hb dX0_sourcesOf_31 (lv_at hl 4 rfl) ?_
          refine wp_shl hx hb (by omega) dX0_sourcesOf_33 ?_
          refine wp_or hx hb dX0_sourcesOf_34 ?_
          refine lv_istore_n (lv' := [(3, .int (nI ((sp_img (fun s => sp_pre st o s X) (fun s => s) i) ||| (2 ^ i)))), (0, .ref (ad 0)), (1, .int (nI X)), (2, .int (nI o)), (4, .int (nI i))]) hx hb dX0_sourcesOf_35 rfl hl (by decide) rfl (fun ls hl => ?_)
          refine lv_iinc (v := nI (i + 1)) (lv' := [(4, .int (nI (i + 1))), (3, .int (nI ((sp_img (fun s => sp_pre st o s X) (fun s => s) i) ||| (2 ^ i)))), (0, .ref (ad 0)), (1, .int (nI X)), (2, .int (nI o))]) hx hb dX0_sourcesOf_36 hl (k := 4) rfl (sp_inc _) (by decide) rfl (fun ls hl => ?_)
          refine lv_goto (tgt := 5) hx hb dX0_sourcesOf_39 (by decide) ?_
          exact ih (i + 1) (by omega) (by omega) ls (by rw [sp_img_yes (p := fun s => sp_pre st o s X) (bne_iff_ne.mpr h)]; exact lv_sub hl [2, 3, 4, 1, 0] rfl)
  refine lv_iconst (v := nI 0) hx hb dX0_sourcesOf_0 (by decide) ?_
  refine lv_istore_n (lv' := [(3, .int (nI 0)), (0, .ref (ad 0)), (1, .int (nI X)), (2, .int (nI o))]) hx hb dX0_sourcesOf_1 rfl hl (by decide) rfl (fun ls hl => ?_)
  refine lv_iconst (v := nI 0) hx hb dX0_sourcesOf_2 (by decide) ?_
  refine lv_istore (lv' := [(4, .int (nI 0)), (3, .int (nI 0)), (0, .ref (ad 0)), (1, .int (nI X)), (2, .int (nI o))]) hx hb dX0_sourcesOf_3 hl (by decide) rfl (fun ls hl => ?_)
  exact loop 11 0 (by omega) (by omega) ls (lv_sub hl [2, 3, 4, 1, 0] rfl)
set_option maxHeartbeats 4000000 in
set_option maxRecDepth 100000 in
theorem mx_classesOf (l : Launch) (D : va_G) (ad : Nat → Nat) (dd : Nat → ClassId) (co st : Nat → Nat) (sd bc : Nat) (bl : Nat → Nat) (wc : Nat) (wa le : Nat → Nat) (tk rc : Nat) (ca : Nat → Nat) (k x : Nat) (hk : k < 12) (hx31 : x < 2147483648) (hca : ∀ s, s < 10 → ca (10 * k + s) < 10) : MetI l D (tX dd) (wX ad dd) yX0_classesOf (ws_ yX0_classesOf cX0_classesOf 5 (some .int)) ({ frames := 0, cells := 0, slots := 0, locals := 0 } : Room) [.ref (ad 0), .int (nI k), .int (nI x)] (co, st, sd, bc, bl, wc, wa, le, tk, rc, ca) (fun r v => v = (co, st, sd, bc, bl, wc, wa, le, tk, rc, ca) ∧ r = nI (sp_img (fun s => x.testBit s) (fun s => ca (10 * k + s)) 10)) := by
  refine gi_start (by decide) (Nat.le_of_ble_eq_true rfl) ?_
  intro p e s m as below meth c A Q S hA hK ret H locs hP hD hS ls hl
  have hx := S.1
  have hb := S.2.1
  have S : CallFix p m c cX0_classesOf 5 s as lw_all RX0 := S
  have hP : va_P D vwCl (wXs ad dd co st sd bc bl wc wa le tk rc ca) H := hP
  have hD : va_D A (wXs ad dd co st sd bc bl wc wa le tk rc ca) := hD
  have hl : lv_has ls 5 [(0, .ref (ad 0)), (1, .int (nI k)), (2, .int (nI x))] := hl
  have loop : ∀ (n i : Nat), i ≤ 10 → 10 < i + n → ∀ ls : Array Slot, lv_has ls 5 [(0, .ref (ad 0)), (1, .int (nI k)), (2, .int (nI x)), (3, .int (nI (sp_img (fun s => x.testBit s) (fun s => ca (10 * k + s)) i))), (4, .int (nI i))] → W p l e ({ frames := 0, cells := 0, slots := 0, locals := 0 } : Room) s m as below meth c H locs 0 0 Q (F0 m 5 ls []) := by
    intro n
    induction n with
    | zero => intro i h1 h2; omega
    | succ n ih =>
      intro i hi hn ls hl
      refine lv_iload hx hb dX0_classesOf_5 (lv_at hl 4 rfl) ?_
      refine lv_bipush (v := nI 10) hx hb dX0_classesOf_7 (by decide) ?_
      refine wp_ge (tgt := 44) hx hb (by omega) (by omega) dX0_classesOf_9 (by decide) (fun hc => ?_) (fun hc => ?_)
      · have hi10 : i = 10 := by omega
        refine lv_iload_n hx hb dX0_classesOf_44 rfl (lv_at hl 3 rfl) ?_
        exact ret ((nI (sp_img (fun s => x.testBit s) (fun s => ca (10 * k + s)) i))) (co, st, sd, bc, bl, wc, wa, le, tk, rc, ca) H locs ls _ dX0_classesOf_45 rfl hP hD hS (⟨rfl, by rw [hi10]⟩)
      · refine lv_iload_n hx hb dX0_classesOf_12 rfl (lv_at hl 2 rfl) ?_
        refine lv_iload hx hb dX0_classesOf_13 (lv_at hl 4 rfl) ?_
        refine wp_shr hx hb (by omega) (by omega) dX0_classesOf_15 ?_
        refine lv_iconst (v := nI 1) hx hb dX0_classesOf_16 (by decide) ?_
        refine wp_and hx hb dX0_classesOf_17 ?_
        refine wp_ifeq (tgt := 38) hx hb (sp_and1 _) dX0_classesOf_18 (by decide) (fun h => ?_) (fun h => ?_)
        · refine lv_iinc (v := nI (i + 1)) (lv' := [(4, .int (nI (i + 1))), (0, .ref (ad 0)), (1, .int (nI k)), (2, .int (nI x)), (3, .int (nI (sp_img (fun s => x.testBit s) (fun s => ca (10 * k + s)) i)))]) hx hb dX0_classesOf_38 hl (k := 4) rfl (sp_inc _) (by decide) rfl (fun ls hl => ?_)
          refine lv_goto (tgt := 5) hx hb dX0_classesOf_41 (by decide) ?_
          exact ih (i + 1) (by omega) (by omega) ls (by rw [sp_img_no ((sp_tb x i).mp h)]; exact lv_sub hl [1, 2, 3, 4, 0] rfl)
        · refine lv_iload_n hx hb dX0_classesOf_21 rfl (lv_at hl 3 rfl) ?_
          refine lv_iconst (v := nI 1) hx hb dX0_classesOf_22 (by decide) ?_
          refine lv_aload_n hx hb dX0_classesOf_23 rfl (lv_at hl 0 rfl) ?_
          refine x_get S hK hP rfl 10 (by decide) q40 rfl rfl dX0_classesOf_24 ?_
          refine lv_bipush (v := nI 10) hx hb dX0_classesOf_27 (by decide) ?_
          refine lv_iload_n hx hb dX0_classesOf_29 rfl (lv_at hl 1 rfl) ?_
          refine wp_mul hx hb dX0_classesOf_30 ?_
          refine lv_iload hx hb dX0_classesOf_31 (lv_at hl 4 rfl) ?_
          refine wp_add hx hb dX0_classesOf_33 ?_
          refine g_bld S hK hP 6 5 rfl rfl (by omega) (by decide) dX0_classesOf_34 ?_
          refine wp_shl hx hb (by have := hca i (by omega); omega) dX0_classesOf_35 ?_
          refine wp_or hx hb dX0_classesOf_36 ?_
          refine lv_istore_n (lv' := [(3, .int (nI ((sp_img (fun s => x.testBit s) (fun s => ca (10 * k + s)) i) ||| (2 ^ (ca ((10 * k) + i)))))), (0, .ref (ad 0)), (1, .int (nI k)), (2, .int (nI x)), (4, .int (nI i))]) hx hb dX0_classesOf_37 rfl hl (by decide) rfl (fun ls hl => ?_)
          refine lv_iinc (v := nI (i + 1)) (lv' := [(4, .int (nI (i + 1))), (3, .int (nI ((sp_img (fun s => x.testBit s) (fun s => ca (10 * k + s)) i) ||| (2 ^ (ca ((10 * k) + i)))))), (0, .ref (ad 0)), (1, .int (nI k)), (2, .int (nI x))]) hx hb dX0_classesOf_38 hl (k := 4) rfl (sp_inc _) (by decide) rfl (fun ls hl => ?_)
          refine lv_goto (tgt := 5) hx hb dX0_classesOf_41 (by decide) ?_
          exact ih (i + 1) (by omega) (by omega) ls (by rw [sp_img_yes ((sp_tbn x i).mp h)]; exact lv_sub hl [2, 3, 4, 1, 0] rfl)
  refine lv_iconst (v := nI 0) hx hb dX0_classesOf_0 (by decide) ?_
  refine lv_istore_n (lv' := [(3, .int (nI 0)), (0, .ref (ad 0)), (1, .int (nI k)), (2, .int (nI x))]) hx hb dX0_classesOf_1 rfl hl (by decide) rfl (fun ls hl => ?_)
  refine lv_iconst (v := nI 0) hx hb dX0_classesOf_2 (by decide) ?_
  refine lv_istore (lv' := [(4, .int (nI 0)), (3, .int (nI 0)), (0, .ref (ad 0)), (1, .int (nI k)), (2, .int (nI x))]) hx hb dX0_classesOf_3 hl (by decide) rfl (fun ls hl => ?_)
  exact loop 11 0 (by omega) (by omega) ls (lv_sub hl [2, 3, 4, 1, 0] rfl)
end
section
/-! WALKS, 2: rounds (printed by gen/gen2.py) -/
theorem sp_R_iff2 (co st : Nat → Nat) (k s t : Nat) : sp_R co st (k + 1) s t = true ↔ sp_L co st k s = sp_L co st k t ∧ ∀ o, o < 2 → sp_img (sp_e st o s) (sp_L co st k) 10 = sp_img (sp_e st o t) (sp_L co st k) 10 := by
  rw [sp_R_img]
  simp only [Bool.and_eq_true, decide_eq_true_eq]
  constructor
  · rintro ⟨h1, h2, h3⟩
    refine ⟨h1, fun o ho => ?_⟩
    rcases (show o = 0 ∨ o = 1 by omega) with rfl | rfl
    · exact h2
    · exact h3
  · rintro ⟨h1, h2⟩
    exact ⟨h1, h2 0 (by omega), h2 1 (by omega)⟩
theorem sp_R_no2 {co st : Nat → Nat} {k s t : Nat} (h : ¬ (sp_L co st k s = sp_L co st k t ∧ ∀ o, o < 2 → sp_img (sp_e st o s) (sp_L co st k) 10 = sp_img (sp_e st o t) (sp_L co st k) 10)) : sp_R co st (k + 1) s t = false := by
  cases h2 : sp_R co st (k + 1) s t with
  | false => rfl
  | true => exact absurd ((sp_R_iff2 co st k s t).mp h2) h
theorem sp_L_of {co st : Nat → Nat} {k s t : Nat} (h1 : t ≤ s) (h2 : ∀ j, j < t → sp_R co st k s j = false) (h3 : t < s → sp_R co st k s t = true) : t = sp_L co st k s :=
  (sp_fst_eq (p := fun j => sp_R co st k s j) h1 h2 h3).symm
set_option maxHeartbeats 4000000 in
set_option maxRecDepth 100000 in
theorem mx_alikeAfter (l : Launch) (D : va_G) (ad : Nat → Nat) (dd : Nat → ClassId) (co st : Nat → Nat) (sd bc : Nat) (bl : Nat → Nat) (wc : Nat) (wa le : Nat → Nat) (tk rc : Nat) (ca : Nat → Nat) (k s0 t0 : Nat) (hk : k < 11) (hs : s0 < 10) (ht : t0 < 10) (hst : ∀ a, a < 20 → st a < 1024) (hca : ∀ j, j < 10 → ca (10 * k + j) = sp_L co st k j) : MetI l D (tX dd) (wX ad dd) yX0_alikeAfter (ws_ yX0_alikeAfter cX0_alikeAfter 7 (some .boolean)) ({ frames := 1, cells := 0, slots := 0, locals := 24 } : Room) [.ref (ad 0), .int (nI k), .int (nI s0), .int (nI t0)] (co, st, sd, bc, bl, wc, wa, le, tk, rc, ca) (fun r v => v = (co, st, sd, bc, bl, wc, wa, le, tk, rc, ca) ∧ r = nI (sp_R co st (k + 1) s0 t0).toNat) := by
  refine gi_start (by decide) (Nat.le_of_ble_eq_true rfl) ?_
  intro p e s m as below meth c A Q S hA hK ret H locs hP hD hS ls hl
  have hx := S.1
  have hb := S.2.1
  have S : CallFix p m c cX0_alikeAfter 7 s as lw_all RX0 := S
  have hP : va_P D vwCl (wXs ad dd co st sd bc bl wc wa le tk rc ca) H := hP
  have hD : va_D A (wXs ad dd co st sd bc bl wc wa le tk rc ca) := hD
  have hl : lv_has ls 7 [(0, .ref (ad 0)), (1, .int (nI k)), (2, .int (nI s0)), (3, .int (nI t0))] := hl
  have hlt : ∀ j, j < 10 → ca (10 * k + j) < 10 := fun j hj => by rw [hca j hj]; exact sp_L_lt co st k hj
  have hi31 : ∀ y : Nat, sp_img (fun z => y.testBit z) (fun z => ca (10 * k + z)) 10 < 2147483648 := fun y => Nat.lt_of_lt_of_le (sp_img_lt (d := 10) (fun z hz _ => hlt z hz)) (by decide)
  have hcv : ∀ o z, sp_img (fun j => (st (10 * o + z)).testBit j) (fun j => ca (10 * k + j)) 10 = sp_img (sp_e st o z) (sp_L co st k) 10 := fun o z => sp_img_congr (fun _ _ => rfl) hca
  have h31 : ∀ a, a < 20 → st a < 2147483648 := fun a ha => Nat.lt_of_lt_of_le (hst a ha) (by decide)
  refine lv_aload_n hx hb dX0_alikeAfter_0 rfl (lv_at hl 0 rfl) ?_
  refine x_get S hK hP rfl 10 (by decide) q40 rfl rfl dX0_alikeAfter_1 ?_
  refine lv_bipush (v := nI 10) hx hb dX0_alikeAfter_4 (by decide) ?_
  refine lv_iload_n hx hb dX0_alikeAfter_6 rfl (lv_at hl 1 rfl) ?_
  refine wp_mul hx hb dX0_alikeAfter_7 ?_
  refine lv_iload_n hx hb dX0_alikeAfter_8 rfl (lv_at hl 2 rfl) ?_
  refine wp_add hx hb dX0_alikeAfter_9 ?_
  refine g_bld S hK hP 6 5 rfl rfl (by omega) (by decide) dX0_alikeAfter_10 ?_
  refine lv_aload_n hx hb dX0_alikeAfter_11 rfl (lv_at hl 0 rfl) ?_
  refine x_get S hK hP rfl 10 (by decide) q40 rfl rfl dX0_alikeAfter_12 ?_
  refine lv_bipush (v := nI 10) hx hb dX0_alikeAfter_15 (by decide) ?_
  refine lv_iload_n hx hb dX0_alikeAfter_17 rfl (lv_at hl 1 rfl) ?_
  refine wp_mul hx hb dX0_alikeAfter_18 ?_
  refine lv_iload_n hx hb dX0_alikeAfter_19 rfl (lv_at hl 3 rfl) ?_
  refine wp_add hx hb dX0_alikeAfter_20 ?_
  refine g_bld S hK hP 6 5 rfl rfl (by omega) (by decide) dX0_alikeAfter_21 ?_
  refine wp_eq (tgt := 27) hx hb (by have := hlt s0 hs; omega) (by have := hlt t0 ht; omega) dX0_alikeAfter_22 (by decide) (fun h => ?_) (fun h => ?_)
  · have loop : ∀ (n o : Nat), o ≤ 2 → 2 < o + n → (∀ q, q < o → sp_img (sp_e st q s0) (sp_L co st k) 10 = sp_img (sp_e st q t0) (sp_L co st k) 10) → ∀ (H : Heap) (locs : List Loc), va_P D vwCl (wXs ad dd co st sd bc bl wc wa le tk rc ca) H → va_D A (wXs ad dd co st sd bc bl wc wa le tk rc ca) → va_S A s.heap H locs → ∀ ls : Array Slot, lv_has ls 7 [(0, .ref (ad 0)), (1, .int (nI k)), (2, .int (nI s0)), (3, .int (nI t0)), (4, .int (nI o))] → W p l e ({ frames := 1, cells := 0, slots := 0, locals := 24 } : Room) s m as below meth c H locs 0 0 Q (F0 m 30 ls []) := by
      intro n
      induction n with
      | zero => intro o h1 h2; omega
      | succ n ih =>
        intro o ho hn hall H locs hP hD hS ls hl
        refine lv_iload hx hb dX0_alikeAfter_30 (lv_at hl 4 rfl) ?_
        refine lv_iconst (v := nI 2) hx hb dX0_alikeAfter_32 (by decide) ?_
        refine wp_ge (tgt := 89) hx hb (by omega) (by omega) dX0_alikeAfter_33 (by decide) (fun hc => ?_) (fun hc => ?_)
        · refine lv_iconst (v := nI 1) hx hb dX0_alikeAfter_89 (by decide) ?_
          exact ret ((nI 1)) (co, st, sd, bc, bl, wc, wa, le, tk, rc, ca) H locs ls _ dX0_alikeAfter_90 rfl hP hD hS (⟨rfl, by rw [(sp_R_iff2 co st k s0 t0).mpr ⟨by rw [← hca s0 hs, ← hca t0 ht]; exact h, fun q hq => hall q (by omega)⟩]; rfl⟩)
        · refine lv_aload_n hx hb dX0_alikeAfter_36 rfl (lv_at hl 0 rfl) ?_
          refine lv_iload_n hx hb dX0_alikeAfter_37 rfl (lv_at hl 1 rfl) ?_
          refine lv_aload_n hx hb dX0_alikeAfter_38 rfl (lv_at hl 0 rfl) ?_
          refine x_get S hK hP rfl 1 (by decide) q31 rfl rfl dX0_alikeAfter_39 ?_
          refine lv_bipush (v := nI 10) hx hb dX0_alikeAfter_42 (by decide) ?_
          refine lv_iload hx hb dX0_alikeAfter_44 (lv_at hl 4 rfl) ?_
          refine wp_mul hx hb dX0_alikeAfter_46 ?_
          refine lv_iload_n hx hb dX0_alikeAfter_47 rfl (lv_at hl 2 rfl) ?_
          refine wp_add hx hb dX0_alikeAfter_48 ?_
          refine g_ild S hK hP 2 1 rfl rfl (by omega) (by decide) dX0_alikeAfter_49 ?_
          refine gi_call S [.int (nI k), .int (nI (st ((10 * o) + s0)))] [] (mx_classesOf l D ad dd co st sd bc bl wc wa le tk rc ca k (st (10 * o + s0)) (by omega) (h31 _ (by omega)) hlt) (cwV 2 S.2.2.2.2 (lw_V q134 q136 qs10 q20 q137) rfl rfl rfl (by decide +kernel) ⟨Nat.le_of_ble_eq_true rfl, Nat.le_of_ble_eq_true rfl⟩) rfl rfl hK hP hD hS hA rfl rfl hl.1 (Nat.le_of_ble_eq_true rfl) dX0_alikeAfter_50 ⟨Nat.zero_le _, Nat.zero_le _⟩ (fun r v H locs hw hP hD hS => ?_)
          obtain ⟨rfl, rfl⟩ := hw
          have hP : va_P D vwCl (wXs ad dd co st sd bc bl wc wa le tk rc ca) H := hP
          have hD : va_D A (wXs ad dd co st sd bc bl wc wa le tk rc ca) := hD
          refine lv_istore (lv' := [(5, .int (nI (sp_img (fun z => (st (10 * o + s0)).testBit z) (fun z => ca (10 * k + z)) 10))), (0, .ref (ad 0)), (1, .int (nI k)), (2, .int (nI s0)), (3, .int (nI t0)), (4, .int (nI o))]) hx hb dX0_alikeAfter_53 hl (by decide) rfl (fun ls hl => ?_)
          refine lv_aload_n hx hb dX0_alikeAfter_55 rfl (lv_at hl 1 rfl) ?_
          refine lv_iload_n hx hb dX0_alikeAfter_56 rfl (lv_at hl 2 rfl) ?_
          refine lv_aload_n hx hb dX0_alikeAfter_57 rfl (lv_at hl 1 rfl) ?_
          refine x_get S hK hP rfl 1 (by decide) q31 rfl rfl dX0_alikeAfter_58 ?_
          refine lv_bipush (v := nI 10) hx hb dX0_alikeAfter_61 (by decide) ?_
          refine lv_iload hx hb dX0_alikeAfter_63 (lv_at hl 5 rfl) ?_
          refine wp_mul hx hb dX0_alikeAfter_65 ?_
          refine lv_iload_n hx hb dX0_alikeAfter_66 rfl (lv_at hl 4 rfl) ?_
          refine wp_add hx hb dX0_alikeAfter_67 ?_
          refine g_ild S hK hP 2 1 rfl rfl (by omega) (by decide) dX0_alikeAfter_68 ?_
          refine gi_call S [.int (nI k), .int (nI (st ((10 * o) + t0)))] [] (mx_classesOf l D ad dd co st sd bc bl wc wa le tk rc ca k (st (10 * o + t0)) (by omega) (h31 _ (by omega)) hlt) (cwV 2 S.2.2.2.2 (lw_V q134 q136 qs10 q20 q137) rfl rfl rfl (by decide +kernel) ⟨Nat.le_of_ble_eq_true rfl, Nat.le_of_ble_eq_true rfl⟩) rfl rfl hK hP hD hS hA rfl rfl hl.1 (Nat.le_of_ble_eq_true rfl) dX0_alikeAfter_69 ⟨Nat.zero_le _, Nat.zero_le _⟩ (fun r v H locs hw hP hD hS => ?_)
          obtain ⟨rfl, rfl⟩ := hw
          have hP : va_P D vwCl (wXs ad dd co st sd bc bl wc wa le tk rc ca) H := hP
          have hD : va_D A (wXs ad dd co st sd bc bl wc wa le tk rc ca) := hD
          refine lv_istore (lv' := [(6, .int (nI (sp_img (fun z => (st (10 * o + t0)).testBit z) (fun z => ca (10 * k + z)) 10))), (5, .int (nI (sp_img (fun z => (st (10 * o + s0)).testBit z) (fun z => ca (10 * k + z)) 10))), (0, .ref (ad 0)), (1, .int (nI k)), (2, .int (nI s0)), (3, .int (nI t0)), (4, .int (nI o))]) hx hb dX0_alikeAfter_72 hl (by decide) rfl (fun ls hl => ?_)
          refine lv_iload hx hb dX0_alikeAfter_74 (lv_at hl 1 rfl) ?_
          refine lv_iload hx hb dX0_alikeAfter_76 (lv_at hl 0 rfl) ?_
          refine wp_eq (tgt := 83) hx hb (hi31 _) (hi31 _) dX0_alikeAfter_78 (by decide) (fun h3 => ?_) (fun h3 => ?_)
          · refine lv_iinc (v := nI (o + 1)) (lv' := [(4, .int (nI (o + 1))), (6, .int (nI (sp_img (fun z => (st (10 * o + t0)).testBit z) (fun z => ca (10 * k + z)) 10))), (5, .int (nI (sp_img (fun z => (st (10 * o + s0)).testBit z) (fun z => ca (10 * k + z)) 10))), (0, .ref (ad 0)), (1, .int (nI k)), (2, .int (nI s0)), (3, .int (nI t0))]) hx hb dX0_alikeAfter_83 hl (k := 6) rfl (sp_inc _) (by decide) rfl (fun ls hl => ?_)
            refine lv_goto (tgt := 30) hx hb dX0_alikeAfter_86 (by decide) ?_
            exact ih (o + 1) (by omega) (by omega) (fun q hq => if e : q = o then (by rw [e, ← hcv, ← hcv]; exact h3) else (by exact hall q (by omega))) H locs hP hD hS ls (lv_sub hl [3, 4, 5, 6, 0] rfl)
          · refine lv_iconst (v := nI 0) hx hb dX0_alikeAfter_81 (by decide) ?_
            exact ret ((nI 0)) (co, st, sd, bc, bl, wc, wa, le, tk, rc, ca) H locs ls _ dX0_alikeAfter_82 rfl hP hD hS (⟨rfl, by rw [sp_R_no2 (fun q => h3 (by rw [hcv, hcv]; exact q.2 o (by omega)))]; rfl⟩)
    refine lv_iconst (v := nI 0) hx hb dX0_alikeAfter_27 (by decide) ?_
    refine lv_istore (lv' := [(4, .int (nI 0)), (0, .ref (ad 0)), (1, .int (nI k)), (2, .int (nI s0)), (3, .int (nI t0))]) hx hb dX0_alikeAfter_28 hl (by decide) rfl (fun ls hl => ?_)
    exact loop 3 0 (by omega) (by omega) (fun q hq => absurd hq (Nat.not_lt_zero q)) H locs hP hD hS ls (lv_sub hl [1, 2, 3, 4, 0] rfl)
  · refine lv_iconst (v := nI 0) hx hb dX0_alikeAfter_25 (by decide) ?_
    exact ret ((nI 0)) (co, st, sd, bc, bl, wc, wa, le, tk, rc, ca) H locs ls _ dX0_alikeAfter_26 rfl hP hD hS (⟨rfl, by rw [sp_R_no2 (fun q => h (by rw [hca s0 hs, hca t0 ht]; exact q.1))]; rfl⟩)
set_option maxHeartbeats 4000000 in
set_option maxRecDepth 100000 in
theorem mx_nextRound (l : Launch) (D : va_G) (ad : Nat → Nat) (dd : Nat → ClassId) (co st : Nat → Nat) (sd bc : Nat) (bl : Nat → Nat) (wc : Nat) (wa le : Nat → Nat) (tk rc : Nat) (ca : Nat → Nat) (k : Nat) (hk : k < 11) (hst : ∀ a, a < 20 → st a < 1024) (hca : ∀ j, j < 10 → ca (10 * k + j) = sp_L co st k j) : MetI l D (tX dd) (wX ad dd) yX0_nextRound (ws_ yX0_nextRound cX0_nextRound 5 (some .boolean)) ({ frames := 2, cells := 0, slots := 0, locals := 50 } : Room) [.ref (ad 0), .int (nI k)] (co, st, sd, bc, bl, wc, wa, le, tk, rc, ca) (fun r v => ∃ ca1, v = (co, st, sd, bc, bl, wc, wa, le, tk, rc, ca1) ∧ (∀ j, j < 10 * k + 10 → ca1 j = ca j) ∧ (∀ j, j < 10 → ca1 (10 * k + 10 + j) = sp_L co st (k + 1) j) ∧ r = nI (!sp_eq co st k).toNat) := by
  refine gi_start (by decide) (Nat.le_of_ble_eq_true rfl) ?_
  intro p e s m as below meth c A Q S hA hK ret H locs hP hD hS ls hl
  have hx := S.1
  have hb := S.2.1
  have S : CallFix p m c cX0_nextRound 5 s as lw_all RX0 := S
  have hP : va_P D vwCl (wXs ad dd co st sd bc bl wc wa le tk rc ca) H := hP
  have hD : va_D A (wXs ad dd co st sd bc bl wc wa le tk rc ca) := hD
  have hl : lv_has ls 5 [(0, .ref (ad 0)), (1, .int (nI k))] := hl
  have loop : ∀ (n i : Nat) (ca1 : Nat → Nat) (mo : Bool), i ≤ 10 → 10 < i + n → (∀ j, j < 10 * k + 10 → ca1 j = ca j) → (∀ j, j < i → ca1 (10 * k + 10 + j) = sp_L co st (k + 1) j) → mo = sp_any (fun j => decide (sp_L co st k j ≠ sp_L co st (k + 1) j)) i → ∀ (H : Heap) (locs : List Loc), va_P D vwCl (wXs ad dd co st sd bc bl wc wa le tk rc ca1) H → va_D A (wXs ad dd co st sd bc bl wc wa le tk rc ca1) → va_S A s.heap H locs → ∀ ls : Array Slot, lv_has ls 5 [(0, .ref (ad 0)), (1, .int (nI k)), (2, .int (nI mo.toNat)), (3, .int (nI i))] → W p l e ({ frames := 2, cells := 0, slots := 0, locals := 50 } : Room) s m as below meth c H locs 0 0 Q (F0 m 4 ls []) := by
    intro n
    induction n with
    | zero => intro i _ _ h1 h2; omega
    | succ n ih =>
      intro i ca1 mo hi hn h1 h2 hmo H locs hP hD hS ls hl
      refine lv_iload_n hx hb dX0_nextRound_4 rfl (lv_at hl 3 rfl) ?_
      refine lv_bipush (v := nI 10) hx hb dX0_nextRound_5 (by decide) ?_
      refine wp_ge (tgt := 77) hx hb (by omega) (by omega) dX0_nextRound_7 (by decide) (fun hc => ?_) (fun hc => ?_)
      · have hi10 : i = 10 := by omega
        subst hi10
        refine lv_iload_n hx hb dX0_nextRound_77 rfl (lv_at hl 2 rfl) ?_
        exact ret ((nI mo.toNat)) (co, st, sd, bc, bl, wc, wa, le, tk, rc, ca1) H locs ls _ dX0_nextRound_78 (sp_nzr _) hP hD hS (⟨ca1, rfl, h1, h2, by rw [hmo, sp_more]⟩)
      · have hca1 : ∀ j, j < 10 → ca1 (10 * k + j) = sp_L co st k j := fun j hj => by rw [h1 _ (by omega)]; exact hca j hj
        have hlk := sp_L_lt co st k (show i < 10 from hc)
        have join : ∀ t : Nat, t = sp_L co st (k + 1) i → ∀ (H : Heap) (locs : List Loc), va_P D vwCl (wXs ad dd co st sd bc bl wc wa le tk rc ca1) H → va_D A (wXs ad dd co st sd bc bl wc wa le tk rc ca1) → va_S A s.heap H locs → ∀ ls : Array Slot, lv_has ls 5 [(0, .ref (ad 0)), (1, .int (nI k)), (2, .int (nI mo.toNat)), (3, .int (nI i)), (4, .int (nI t))] → W p l e ({ frames := 2, cells := 0, slots := 0, locals := 50 } : Room) s m as below meth c H locs 0 0 Q (F0 m 36 ls []) := by
          intro t et H locs hP hD hS ls hl
          have hl1 := sp_L_lt co st (k + 1) (show i < 10 from hc)
          refine lv_aload_n hx hb dX0_nextRound_36 rfl (lv_at hl 0 rfl) ?_
          refine x_get S hK hP rfl 10 (by decide) q40 rfl rfl dX0_nextRound_37 ?_
          refine lv_bipush (v := nI 10) hx hb dX0_nextRound_40 (by decide) ?_
          refine lv_iload_n hx hb dX0_nextRound_42 rfl (lv_at hl 1 rfl) ?_
          refine wp_mul hx hb dX0_nextRound_43 ?_
          refine lv_bipush (v := nI 10) hx hb dX0_nextRound_44 (by decide) ?_
          refine wp_add hx hb dX0_nextRound_46 ?_
          refine lv_iload_n hx hb dX0_nextRound_47 rfl (lv_at hl 3 rfl) ?_
          refine wp_add hx hb dX0_nextRound_48 ?_
          refine lv_iload hx hb dX0_nextRound_49 (lv_at hl 4 rfl) ?_
          refine lv_i2b (v := nI t) hx hb dX0_nextRound_51 (sp_i8 _ (by omega)) ?_
          refine g_bst S hK hP hD hS 6 5 rfl rfl (by omega) (by decide) (by omega) dX0_nextRound_52 (fun H locs hP hD hS => ?_)
          have hP : va_P D vwCl (wXs ad dd co st sd bc bl wc wa le tk rc (va_up ca1 (((10 * k) + 10) + i) t)) H := hP
          have hD : va_D A (wXs ad dd co st sd bc bl wc wa le tk rc (va_up ca1 (((10 * k) + 10) + i) t)) := hD
          refine lv_aload_n hx hb dX0_nextRound_53 rfl (lv_at hl 0 rfl) ?_
          refine x_get S hK hP rfl 10 (by decide) q40 rfl rfl dX0_nextRound_54 ?_
          refine lv_bipush (v := nI 10) hx hb dX0_nextRound_57 (by decide) ?_
          refine lv_iload_n hx hb dX0_nextRound_59 rfl (lv_at hl 1 rfl) ?_
          refine wp_mul hx hb dX0_nextRound_60 ?_
          refine lv_iload_n hx hb dX0_nextRound_61 rfl (lv_at hl 3 rfl) ?_
          refine wp_add hx hb dX0_nextRound_62 ?_
          refine g_bld S hK hP 6 5 rfl rfl (by omega) (by decide) dX0_nextRound_63 ?_
          refine wp_to (nI (sp_L co st k i)) (congrArg nI ((sp_up_n _ _ (by omega)).trans (hca1 i hc))) ?_
          refine lv_iload hx hb dX0_nextRound_64 (lv_at hl 4 rfl) ?_
          refine wp_eq (tgt := 71) hx hb (by omega) (by omega) dX0_nextRound_66 (by decide) (fun h3 => ?_) (fun h3 => ?_)
          · refine lv_iinc (v := nI (i + 1)) (lv' := [(3, .int (nI (i + 1))), (0, .ref (ad 0)), (1, .int (nI k)), (2, .int (nI mo.toNat)), (4, .int (nI t))]) hx hb dX0_nextRound_71 hl (k := 3) rfl (sp_inc _) (by decide) rfl (fun ls hl => ?_)
            refine lv_goto (tgt := 4) hx hb dX0_nextRound_74 (by decide) ?_
            exact ih (i + 1) _ mo (by omega) (by omega) (fun j hj => by rw [sp_up_n _ _ (by omega)]; exact h1 j hj) (fun j hj => if e : j = i then (by rw [e, sp_up_s]; exact et) else (by rw [sp_up_n _ _ (by omega)]; exact h2 j (by omega))) (by show mo = (sp_any _ i || decide _); rw [← hmo, decide_eq_false (fun q => q (h3.trans et)), Bool.or_false]) H locs hP hD hS ls (lv_sub hl [1, 2, 3, 0] rfl)
          · refine lv_iconst (v := nI 1) hx hb dX0_nextRound_69 (by decide) ?_
            refine W.eq (g2 := F0 m 70 ls [.int (nI true.toNat)]) rfl ?_
            refine lv_istore_n (lv' := [(2, .int (nI true.toNat)), (0, .ref (ad 0)), (1, .int (nI k)), (3, .int (nI i)), (4, .int (nI t))]) hx hb dX0_nextRound_70 rfl hl (by decide) rfl (fun ls hl => ?_)
            refine lv_iinc (v := nI (i + 1)) (lv' := [(3, .int (nI (i + 1))), (2, .int (nI true.toNat)), (0, .ref (ad 0)), (1, .int (nI k)), (4, .int (nI t))]) hx hb dX0_nextRound_71 hl (k := 3) rfl (sp_inc _) (by decide) rfl (fun ls hl => ?_)
            refine lv_goto (tgt := 4) hx hb dX0_nextRound_74 (by decide) ?_
            exact ih (i + 1) _ true (by omega) (by omega) (fun j hj => by rw [sp_up_n _ _ (by omega)]; exact h1 j hj) (fun j hj => if e : j = i then (by rw [e, sp_up_s]; exact et) else (by rw [sp_up_n _ _ (by omega)]; exact h2 j (by omega))) (by show true = (sp_any _ i || decide _); rw [decide_eq_true (show sp_L co st k i ≠ sp_L co st (k + 1) i from fun q => h3 (q.trans et.symm)), Bool.or_true]) H locs hP hD hS ls (lv_sub hl [2, 3, 1, 0] rfl)
        have inner : ∀ (n2 t : Nat), t ≤ i → i < t + n2 → (∀ j, j < t → sp_R co st (k + 1) i j = false) → ∀ (H : Heap) (locs : List Loc), va_P D vwCl (wXs ad dd co st sd bc bl wc wa le tk rc ca1) H → va_D A (wXs ad dd co st sd bc bl wc wa le tk rc ca1) → va_S A s.heap H locs → ∀ ls : Array Slot, lv_has ls 5 [(0, .ref (ad 0)), (1, .int (nI k)), (2, .int (nI mo.toNat)), (3, .int (nI i)), (4, .int (nI t))] → W p l e ({ frames := 2, cells := 0, slots := 0, locals := 50 } : Room) s m as below meth c H locs 0 0 Q (F0 m 13 ls []) := by
          intro n2
          induction n2 with
          | zero => intro t q1 q2; omega
          | succ n2 ih2 =>
            intro t ht hn2 hall H locs hP hD hS ls hl
            refine lv_iload hx hb dX0_nextRound_13 (lv_at hl 4 rfl) ?_
            refine lv_iload_n hx hb dX0_nextRound_15 rfl (lv_at hl 3 rfl) ?_
            refine wp_ge (tgt := 36) hx hb (by omega) (by omega) dX0_nextRound_16 (by decide) (fun h3 => ?_) (fun h3 => ?_)
            · exact join t (sp_L_of ht hall (fun q => by omega)) H locs hP hD hS ls hl
            · refine lv_aload_n hx hb dX0_nextRound_19 rfl (lv_at hl 0 rfl) ?_
              refine lv_iload_n hx hb dX0_nextRound_20 rfl (lv_at hl 1 rfl) ?_
              refine lv_iload_n hx hb dX0_nextRound_21 rfl (lv_at hl 3 rfl) ?_
              refine lv_iload hx hb dX0_nextRound_22 (lv_at hl 4 rfl) ?_
              refine gi_call S [.int (nI k), .int (nI i), .int (nI t)] [] (mx_alikeAfter l D ad dd co st sd bc bl wc wa le tk rc ca1 k i t hk hc (by omega) hst hca1) (cwV 3 S.2.2.2.2 (lw_V q130 q132 qs9 q20 q133) rfl rfl rfl (by decide +kernel) ⟨Nat.le_of_ble_eq_true rfl, Nat.le_of_ble_eq_true rfl⟩) rfl rfl hK hP hD hS hA rfl rfl hl.1 (Nat.le_of_ble_eq_true rfl) dX0_nextRound_24 ⟨Nat.zero_le _, Nat.zero_le _⟩ (fun r v H locs hw hP hD hS => ?_)
              obtain ⟨rfl, rfl⟩ := hw
              have hP : va_P D vwCl (wXs ad dd co st sd bc bl wc wa le tk rc ca1) H := hP
              have hD : va_D A (wXs ad dd co st sd bc bl wc wa le tk rc ca1) := hD
              refine wp_ifneB (tgt := 36) hx hb dX0_nextRound_27 (by decide) (fun h4 => ?_) (fun h4 => ?_)
              · exact join t (sp_L_of ht hall (fun _ => h4)) H locs hP hD hS ls hl
              · refine lv_iinc (v := nI (t + 1)) (lv' := [(4, .int (nI (t + 1))), (0, .ref (ad 0)), (1, .int (nI k)), (2, .int (nI mo.toNat)), (3, .int (nI i))]) hx hb dX0_nextRound_30 hl (k := 4) rfl (sp_inc _) (by decide) rfl (fun ls hl => ?_)
                refine lv_goto (tgt := 13) hx hb dX0_nextRound_33 (by decide) ?_
                exact ih2 (t + 1) (by omega) (by omega) (fun j hj => if q : j = t then (by rw [q]; exact h4) else (by exact hall j (by omega))) H locs hP hD hS ls (lv_sub hl [1, 2, 3, 4, 0] rfl)
        refine lv_iconst (v := nI 0) hx hb dX0_nextRound_10 (by decide) ?_
        refine lv_istore (lv' := [(4, .int (nI 0)), (0, .ref (ad 0)), (1, .int (nI k)), (2, .int (nI mo.toNat)), (3, .int (nI i))]) hx hb dX0_nextRound_11 hl (by decide) rfl (fun ls hl => ?_)
        exact inner (i + 1) 0 (by omega) (by omega) (fun j hj => absurd hj (Nat.not_lt_zero j)) H locs hP hD hS ls (lv_sub hl [1, 2, 3, 4, 0] rfl)
  refine lv_iconst (v := nI 0) hx hb dX0_nextRound_0 (by decide) ?_
  refine W.eq (g2 := F0 m 1 ls [.int (nI false.toNat)]) rfl ?_
  refine lv_istore_n (lv' := [(2, .int (nI false.toNat)), (0, .ref (ad 0)), (1, .int (nI k))]) hx hb dX0_nextRound_1 rfl hl (by decide) rfl (fun ls hl => ?_)
  refine lv_iconst (v := nI 0) hx hb dX0_nextRound_2 (by decide) ?_
  refine lv_istore_n (lv' := [(3, .int (nI 0)), (2, .int (nI false.toNat)), (0, .ref (ad 0)), (1, .int (nI k))]) hx hb dX0_nextRound_3 rfl hl (by decide) rfl (fun ls hl => ?_)
  exact loop 11 0 ca false (by omega) (by omega) (fun _ _ => rfl) (fun j hj => absurd hj (Nat.not_lt_zero j)) rfl H locs hP hD hS ls (lv_sub hl [2, 3, 1, 0] rfl)
set_option maxHeartbeats 4000000 in
set_option maxRecDepth 100000 in
theorem mx_findRounds (l : Launch) (D : va_G) (ad : Nat → Nat) (dd : Nat → ClassId) (co st : Nat → Nat) (sd bc : Nat) (bl : Nat → Nat) (wc : Nat) (wa le : Nat → Nat) (tk rc : Nat) (ca : Nat → Nat) (hXI : sp_XI co st sd bc le tk rc ca) : MetV l D (tX dd) (wX ad dd) yX0_findRounds (ws_ yX0_findRounds cX0_findRounds 3 none) ({ frames := 3, cells := 0, slots := 0, locals := 74 } : Room) [.ref (ad 0)] (co, st, sd, bc, bl, wc, wa, le, tk, rc, ca) (fun v => ∃ ca1, v = (co, st, sd, bc, bl, wc, wa, le, 1, sp_N co st, ca1) ∧ ∀ k s, k ≤ sp_N co st → s < 10 → ca1 (10 * k + s) = sp_L co st k s) := by
  refine gv_start (by decide) (Nat.le_of_ble_eq_true rfl) ?_
  intro p e s m as below meth c A Q S hA hK ret H locs hP hD hS ls hl
  have hx := S.1
  have hb := S.2.1
  have S : CallFix p m c cX0_findRounds 3 s as lw_all RX0 := S
  have hP : va_P D vwCl (wXs ad dd co st sd bc bl wc wa le tk rc ca) H := hP
  have hD : va_D A (wXs ad dd co st sd bc bl wc wa le tk rc ca) := hD
  have hl : lv_has ls 3 [(0, .ref (ad 0))] := hl
  obtain ⟨hc4, hst, -, htk⟩ := hXI
  have htk1 : tk < 2 := by rcases htk with q | q <;> omega
  refine lv_aload_n hx hb dX0_findRounds_0 rfl (lv_at hl 0 rfl) ?_
  refine x_get S hK hP rfl 8 (by decide) q38 rfl rfl dX0_findRounds_1 ?_
  refine wp_ifeq (tgt := 8) hx hb (by omega) dX0_findRounds_4 (by decide) (fun h => ?_) (fun h => ?_)
  · have hc31 : ∀ j, j < 10 → co j < 2147483648 := fun j hj => Nat.lt_of_lt_of_le (hc4 j hj) (by decide)
    have rounds : ∀ (n k : Nat) (ca1 : Nat → Nat), k ≤ sp_N co st → sp_N co st < k + n → (∀ j z, j ≤ k → z < 10 → ca1 (10 * j + z) = sp_L co st j z) → ∀ (H : Heap) (locs : List Loc), va_P D vwCl (wXs ad dd co st sd bc bl wc wa le 1 k ca1) H → va_D A (wXs ad dd co st sd bc bl wc wa le 1 k ca1) → va_S A s.heap H locs → ∀ ls : Array Slot, lv_has ls 3 [(0, .ref (ad 0))] → W p l e ({ frames := 3, cells := 0, slots := 0, locals := 74 } : Room) s m as below meth c H locs 0 0 Q (F0 m 63 ls []) := by
      intro n
      induction n with
      | zero => intro k _ q1 q2; omega
      | succ n ih =>
        intro k ca1 hkN hn hall H locs hP hD hS ls hl
        have hN := sp_N_lt co st
        refine lv_aload_n hx hb dX0_findRounds_63 rfl (lv_at hl 0 rfl) ?_
        refine lv_aload_n hx hb dX0_findRounds_64 rfl (lv_at hl 0 rfl) ?_
        refine x_get S hK hP rfl 9 (by decide) q39 rfl rfl dX0_findRounds_65 ?_
        refine gi_call S [.int (nI k)] [] (mx_nextRound l D ad dd co st sd bc bl wc wa le 1 k ca1 k (by omega) hst (fun j hj => hall k j (Nat.le_refl k) hj)) (cwV 1 S.2.2.2.2 (lw_V q126 q128 qs8 q20 q129) rfl rfl rfl (by decide +kernel) ⟨Nat.le_of_ble_eq_true rfl, Nat.le_of_ble_eq_true rfl⟩) rfl rfl hK hP hD hS hA rfl rfl hl.1 (Nat.le_of_ble_eq_true rfl) dX0_findRounds_68 ⟨Nat.zero_le _, Nat.zero_le _⟩ (fun r v H locs hw hP hD hS => ?_)
        obtain ⟨ca2, rfl, g1, g2, rfl⟩ := hw
        have hP : va_P D vwCl (wXs ad dd co st sd bc bl wc wa le 1 k ca2) H := hP
        have hD : va_D A (wXs ad dd co st sd bc bl wc wa le 1 k ca2) := hD
        refine wp_ifeqB (tgt := 87) hx hb dX0_findRounds_71 (by decide) (fun h2 => ?_) (fun h2 => ?_)
        · have hk2 : k = sp_N co st := by
            rcases Nat.lt_or_ge k (sp_N co st) with q | q
            · rw [sp_N_no q] at h2; exact absurd h2 (by decide)
            · omega
          subst hk2
          exact ret (co, st, sd, bc, bl, wc, wa, le, 1, sp_N co st, ca2) H locs ls _ dX0_findRounds_87 hP hD hS (⟨ca2, rfl, fun j z hj hz => by rw [g1 _ (by omega)]; exact hall j z hj hz⟩)
        · have hne : k ≠ sp_N co st := fun q => by rw [q, sp_N_eq] at h2; exact absurd h2 (by decide)
          refine lv_aload_n hx hb dX0_findRounds_74 rfl (lv_at hl 0 rfl) ?_
          refine lv_dup hx hb dX0_findRounds_75 rfl ?_
          refine x_get S hK hP rfl 9 (by decide) q39 rfl rfl dX0_findRounds_76 ?_
          refine lv_iconst (v := nI 1) hx hb dX0_findRounds_79 (by decide) ?_
          refine wp_add hx hb dX0_findRounds_80 ?_
          refine x_put S hK hP hD hS rfl 9 (by decide) q39 rfl rfl rfl rfl (Nat.le_of_ble_eq_true rfl) dX0_findRounds_81 (fun H locs hP hD hS => ?_)
          have hP : va_P D vwCl (wXs ad dd co st sd bc bl wc wa le 1 (k + 1) ca2) H := hP
          have hD : va_D A (wXs ad dd co st sd bc bl wc wa le 1 (k + 1) ca2) := hD
          refine lv_goto (tgt := 63) hx hb dX0_findRounds_84 (by decide) ?_
          exact ih (k + 1) ca2 (by omega) (by omega) (fun j z hj hz => if q : j = k + 1 then (by rw [q]; exact g2 z hz) else (by rw [g1 _ (by omega)]; exact hall j z (by omega) hz)) H locs hP hD hS ls hl
    have loop : ∀ (n i : Nat) (ca1 : Nat → Nat), i ≤ 10 → 10 < i + n → (∀ j, j < i → ca1 j = sp_L co st 0 j) → ∀ (H : Heap) (locs : List Loc), va_P D vwCl (wXs ad dd co st sd bc bl wc wa le 1 rc ca1) H → va_D A (wXs ad dd co st sd bc bl wc wa le 1 rc ca1) → va_S A s.heap H locs → ∀ ls : Array Slot, lv_has ls 3 [(0, .ref (ad 0)), (1, .int (nI i))] → W p l e ({ frames := 3, cells := 0, slots := 0, locals := 74 } : Room) s m as below meth c H locs 0 0 Q (F0 m 15 ls []) := by
      intro n
      induction n with
      | zero => intro i _ q1 q2; omega
      | succ n ih =>
        intro i ca1 hi hn hall H locs hP hD hS ls hl
        refine lv_iload_n hx hb dX0_findRounds_15 rfl (lv_at hl 1 rfl) ?_
        refine lv_bipush (v := nI 10) hx hb dX0_findRounds_16 (by decide) ?_
        refine wp_ge (tgt := 58) hx hb (by omega) (by omega) dX0_findRounds_18 (by decide) (fun hc => ?_) (fun hc => ?_)
        · refine lv_aload_n hx hb dX0_findRounds_58 rfl (lv_at hl 0 rfl) ?_
          refine lv_iconst (v := nI 0) hx hb dX0_findRounds_59 (by decide) ?_
          refine x_put S hK hP hD hS rfl 9 (by decide) q39 rfl rfl rfl rfl (Nat.le_of_ble_eq_true rfl) dX0_findRounds_60 (fun H locs hP hD hS => ?_)
          have hP : va_P D vwCl (wXs ad dd co st sd bc bl wc wa le 1 0 ca1) H := hP
          have hD : va_D A (wXs ad dd co st sd bc bl wc wa le 1 0 ca1) := hD
          exact rounds (sp_N co st + 1) 0 ca1 (by omega) (by omega) (fun j z hj hz => by rw [show j = 0 by omega, show 10 * 0 + z = z by omega]; exact hall z (by omega)) H locs hP hD hS ls (lv_sub hl [0] rfl)
        · have inner : ∀ (n2 t : Nat), t ≤ i → i < t + n2 → (∀ j, j < t → co j ≠ co i) → ∀ (H : Heap) (locs : List Loc), va_P D vwCl (wXs ad dd co st sd bc bl wc wa le 1 rc ca1) H → va_D A (wXs ad dd co st sd bc bl wc wa le 1 rc ca1) → va_S A s.heap H locs → ∀ ls : Array Slot, lv_has ls 3 [(0, .ref (ad 0)), (1, .int (nI i)), (2, .int (nI t))] → W p l e ({ frames := 3, cells := 0, slots := 0, locals := 74 } : Room) s m as below meth c H locs 0 0 Q (F0 m 23 ls []) := by
            intro n2
            induction n2 with
            | zero => intro t q1 q2; omega
            | succ n2 ih2 =>
              intro t ht hn2 hne H locs hP hD hS ls hl
              refine lv_aload_n hx hb dX0_findRounds_23 rfl (lv_at hl 0 rfl) ?_
              refine x_get S hK hP rfl 0 (by decide) q30 rfl rfl dX0_findRounds_24 ?_
              refine lv_iload_n hx hb dX0_findRounds_27 rfl (lv_at hl 2 rfl) ?_
              refine g_bld S hK hP 1 0 rfl rfl (by omega) (by decide) dX0_findRounds_28 ?_
              refine lv_aload_n hx hb dX0_findRounds_29 rfl (lv_at hl 0 rfl) ?_
              refine x_get S hK hP rfl 0 (by decide) q30 rfl rfl dX0_findRounds_30 ?_
              refine lv_iload_n hx hb dX0_findRounds_33 rfl (lv_at hl 1 rfl) ?_
              refine g_bld S hK hP 1 0 rfl rfl (by omega) (by decide) dX0_findRounds_34 ?_
              refine wp_eq (tgt := 44) hx hb (hc31 _ (by omega)) (hc31 _ (by omega)) dX0_findRounds_35 (by decide) (fun h3 => ?_) (fun h3 => ?_)
              · have et : t = sp_L co st 0 i := sp_L_of ht (fun q hq => by rw [sp_R_0, decide_eq_false (fun z => hne q hq z.symm)]) (fun _ => by rw [sp_R_0, decide_eq_true h3.symm])
                refine lv_aload_n hx hb dX0_findRounds_44 rfl (lv_at hl 0 rfl) ?_
                refine x_get S hK hP rfl 10 (by decide) q40 rfl rfl dX0_findRounds_45 ?_
                refine lv_iload_n hx hb dX0_findRounds_48 rfl (lv_at hl 1 rfl) ?_
                refine lv_iload_n hx hb dX0_findRounds_49 rfl (lv_at hl 2 rfl) ?_
                refine lv_i2b (v := nI t) hx hb dX0_findRounds_50 (sp_i8 _ (by omega)) ?_
                refine g_bst S hK hP hD hS 6 5 rfl rfl (by omega) (by decide) (by omega) dX0_findRounds_51 (fun H locs hP hD hS => ?_)
                have hP : va_P D vwCl (wXs ad dd co st sd bc bl wc wa le 1 rc (va_up ca1 i t)) H := hP
                have hD : va_D A (wXs ad dd co st sd bc bl wc wa le 1 rc (va_up ca1 i t)) := hD
                refine lv_iinc (v := nI (i + 1)) (lv' := [(1, .int (nI (i + 1))), (0, .ref (ad 0)), (2, .int (nI t))]) hx hb dX0_findRounds_52 hl (k := 1) rfl (sp_inc _) (by decide) rfl (fun ls hl => ?_)
                refine lv_goto (tgt := 15) hx hb dX0_findRounds_55 (by decide) ?_
                exact ih (i + 1) _ (by omega) (by omega) (fun q hq => if z : q = i then (by rw [z, sp_up_s]; exact et) else (by rw [sp_up_n _ _ z]; exact hall q (by omega))) H locs hP hD hS ls (lv_sub hl [1, 0] rfl)
              · have hti : t ≠ i := fun q => h3 (by rw [q])
                refine lv_iinc (v := nI (t + 1)) (lv' := [(2, .int (nI (t + 1))), (0, .ref (ad 0)), (1, .int (nI i))]) hx hb dX0_findRounds_38 hl (k := 2) rfl (sp_inc _) (by decide) rfl (fun ls hl => ?_)
                refine lv_goto (tgt := 23) hx hb dX0_findRounds_41 (by decide) ?_
                exact ih2 (t + 1) (by omega) (by omega) (fun q hq => if z : q = t then (by rw [z]; exact h3) else (by exact hne q (by omega))) H locs hP hD hS ls (lv_sub hl [1, 2, 0] rfl)
          refine lv_iconst (v := nI 0) hx hb dX0_findRounds_21 (by decide) ?_
          refine lv_istore_n (lv' := [(2, .int (nI 0)), (0, .ref (ad 0)), (1, .int (nI i))]) hx hb dX0_findRounds_22 rfl hl (by decide) rfl (fun ls hl => ?_)
          exact inner (i + 1) 0 (by omega) (by omega) (fun j hj => absurd hj (Nat.not_lt_zero j)) H locs hP hD hS ls (lv_sub hl [1, 2, 0] rfl)
    refine lv_aload_n hx hb dX0_findRounds_8 rfl (lv_at hl 0 rfl) ?_
    refine lv_iconst (v := nI 1) hx hb dX0_findRounds_9 (by decide) ?_
    refine x_put S hK hP hD hS rfl 8 (by decide) q38 rfl rfl rfl rfl (Nat.le_of_ble_eq_true rfl) dX0_findRounds_10 (fun H locs hP hD hS => ?_)
    have hP : va_P D vwCl (wXs ad dd co st sd bc bl wc wa le 1 rc ca) H := hP
    have hD : va_D A (wXs ad dd co st sd bc bl wc wa le 1 rc ca) := hD
    refine lv_iconst (v := nI 0) hx hb dX0_findRounds_13 (by decide) ?_
    refine lv_istore_n (lv' := [(1, .int (nI 0)), (0, .ref (ad 0))]) hx hb dX0_findRounds_14 rfl hl (by decide) rfl (fun ls hl => ?_)
    exact loop 11 0 ca (by omega) (by omega) (fun j hj => absurd hj (Nat.not_lt_zero j)) H locs hP hD hS ls (lv_sub hl [1, 0] rfl)
  · obtain ⟨e1, e2, e3⟩ := htk.resolve_left h
    subst e1
    subst e2
    exact ret (co, st, sd, bc, bl, wc, wa, le, 1, sp_N co st, ca) H locs ls _ dX0_findRounds_7 hP hD hS (⟨ca, rfl, e3⟩)
end
section
/-! WALKS, 3: blocks (printed by gen/gen3.py) -/
set_option maxHeartbeats 4000000 in
set_option maxRecDepth 100000 in
theorem mx_splitAll (l : Launch) (D : va_G) (ad : Nat → Nat) (dd : Nat → ClassId) (co st : Nat → Nat) (sd bc : Nat) (bl : Nat → Nat) (wc : Nat) (wa le : Nat → Nat) (tk rc : Nat) (ca : Nat → Nat) (X o : Nat) (ho : o < 2) (hst : ∀ a, a < 20 → st a < 1024) (hX : X < 1024) (hcl : sp_cl co st X) (hPI : sp_PI co st (fun Z => Z = X) bl bc wa wc) : MetV l D (tX dd) (wX ad dd) yX0_splitAll (ws_ yX0_splitAll cX0_splitAll 8 none) ({ frames := 1, cells := 0, slots := 0, locals := 24 } : Room) [.ref (ad 0), .int (nI X), .int (nI o)] (co, st, sd, bc, bl, wc, wa, le, tk, rc, ca) (fun v => ∃ bl1 bc1 wa1 wc1, v = (co, st, sd, bc1, bl1, wc1, wa1, le, tk, rc, ca) ∧ sp_PI co st (fun Z => Z = X) bl1 bc1 wa1 wc1 ∧ sp_sub bl1 bc1 bl bc ∧ sp_un st bl1 bc1 o X ∧ wc1 + 2 * bc = wc + 2 * bc1) := by
  refine gv_start (by decide) (Nat.le_of_ble_eq_true rfl) ?_
  intro p e s m as below meth c A Q S hA hK ret H locs hP hD hS ls hl
  have hx := S.1
  have hb := S.2.1
  have S : CallFix p m c cX0_splitAll 8 s as lw_all RX0 := S
  have hP : va_P D vwCl (wXs ad dd co st sd bc bl wc wa le tk rc ca) H := hP
  have hD : va_D A (wXs ad dd co st sd bc bl wc wa le tk rc ca) := hD
  have hl : lv_has ls 8 [(0, .ref (ad 0)), (1, .int (nI X)), (2, .int (nI o))] := hl
  have hm0 := sp_PI_m hPI
  obtain ⟨Y, hYe⟩ : ∃ Y, Y = sp_src st X o := ⟨_, rfl⟩
  have hYc : sp_cl co st Y := by rw [hYe]; exact sp_cl_src hX ho hcl
  have loop : ∀ (n b : Nat) (bl1 : Nat → Nat) (bc1 : Nat) (wa1 : Nat → Nat) (wc1 : Nat), b ≤ bc → bc < b + n → sp_PI co st (fun Z => Z = X) bl1 bc1 wa1 wc1 → sp_sub bl1 bc1 bl bc → sp_uni bl1 bc1 b bc Y → bc ≤ bc1 → wc1 + 2 * bc = wc + 2 * bc1 → ∀ (H : Heap) (locs : List Loc), va_P D vwCl (wXs ad dd co st sd bc1 bl1 wc1 wa1 le tk rc ca) H → va_D A (wXs ad dd co st sd bc1 bl1 wc1 wa1 le tk rc ca) → va_S A s.heap H locs → ∀ ls : Array Slot, lv_has ls 8 [(0, .ref (ad 0)), (1, .int (nI X)), (2, .int (nI o)), (3, .int (nI Y)), (4, .int (nI bc)), (5, .int (nI b))] → W p l e ({ frames := 1, cells := 0, slots := 0, locals := 24 } : Room) s m as below meth c H locs 0 0 Q (F0 m 16 ls []) := by
    intro n
    induction n with
    | zero => intro b _ _ _ _ q1 q2; omega
    | succ n ih =>
      intro b bl1 bc1 wa1 wc1 hbb0 hn hPI1 hsub huni hle hcnt H locs hP hD hS ls hl
      have hm1 := sp_PI_m hPI1
      have hw1 : wc1 ≤ 2 * bc1 := hPI1.2.2.2.2.2.2.2.2
      refine lv_iload hx hb dX0_splitAll_16 (lv_at hl 5 rfl) ?_
      refine lv_iload hx hb dX0_splitAll_18 (lv_at hl 4 rfl) ?_
      refine wp_ge (tgt := 108) hx hb (by omega) (by omega) dX0_splitAll_20 (by decide) (fun hc => ?_) (fun hc => ?_)
      · have hbb : b = bc := by omega
        rw [hbb] at huni
        exact ret (co, st, sd, bc1, bl1, wc1, wa1, le, tk, rc, ca) H locs ls _ dX0_splitAll_108 hP hD hS (⟨bl1, bc1, wa1, wc1, rfl, hPI1, hsub, sp_un_of hPI1.1 (by rw [← hYe]; exact huni), hcnt⟩)
      · have hb1 : b < bc1 := by omega
        have hlt := hPI1.1 b hb1
        refine lv_aload_n hx hb dX0_splitAll_23 rfl (lv_at hl 0 rfl) ?_
        refine x_get S hK hP rfl 4 (by decide) q34 rfl rfl dX0_splitAll_24 ?_
        refine lv_iload hx hb dX0_splitAll_27 (lv_at hl 5 rfl) ?_
        refine g_ild S hK hP 3 2 rfl rfl (by omega) (by decide) dX0_splitAll_29 ?_
        refine lv_iload_n hx hb dX0_splitAll_30 rfl (lv_at hl 3 rfl) ?_
        refine wp_and hx hb dX0_splitAll_31 ?_
        refine lv_istore (lv' := [(6, .int (nI ((bl1 b) &&& Y))), (0, .ref (ad 0)), (1, .int (nI X)), (2, .int (nI o)), (3, .int (nI Y)), (4, .int (nI bc)), (5, .int (nI b))]) hx hb dX0_splitAll_32 hl (by decide) rfl (fun ls hl => ?_)
        refine lv_aload_n hx hb dX0_splitAll_34 rfl (lv_at hl 1 rfl) ?_
        refine x_get S hK hP rfl 4 (by decide) q34 rfl rfl dX0_splitAll_35 ?_
        refine lv_iload hx hb dX0_splitAll_38 (lv_at hl 6 rfl) ?_
        refine g_ild S hK hP 3 2 rfl rfl (by omega) (by decide) dX0_splitAll_40 ?_
        refine lv_iload_n hx hb dX0_splitAll_41 rfl (lv_at hl 4 rfl) ?_
        refine lv_iconst (v := nI 4294967295) hx hb dX0_splitAll_42 (by decide) ?_
        refine wp_xor hx hb dX0_splitAll_43 ?_
        refine wp_dif hx hb dX0_splitAll_44 ?_
        refine lv_istore (lv' := [(7, .int (nI (sp_dif (bl1 b) Y))), (6, .int (nI ((bl1 b) &&& Y))), (0, .ref (ad 0)), (1, .int (nI X)), (2, .int (nI o)), (3, .int (nI Y)), (4, .int (nI bc)), (5, .int (nI b))]) hx hb dX0_splitAll_45 hl (by decide) rfl (fun ls hl => ?_)
        refine lv_iload hx hb dX0_splitAll_47 (lv_at hl 1 rfl) ?_
        refine wp_ifeq (tgt := 102) hx hb (Nat.lt_of_le_of_lt Nat.and_le_left (by omega)) dX0_splitAll_49 (by decide) (fun h2 => ?_) (fun h2 => ?_)
        · refine lv_iinc (v := nI (b + 1)) (lv' := [(5, .int (nI (b + 1))), (7, .int (nI (sp_dif (bl1 b) Y))), (6, .int (nI ((bl1 b) &&& Y))), (0, .ref (ad 0)), (1, .int (nI X)), (2, .int (nI o)), (3, .int (nI Y)), (4, .int (nI bc))]) hx hb dX0_splitAll_102 hl (k := 7) rfl (sp_inc _) (by decide) rfl (fun ls hl => ?_)
          refine lv_goto (tgt := 16) hx hb dX0_splitAll_105 (by decide) ?_
          exact ih (b + 1) bl1 bc1 wa1 wc1 (by omega) (by omega) hPI1 hsub (sp_uni_skip hb1 hPI1.1 huni (Or.inl h2)) hle hcnt H locs hP hD hS ls (lv_sub hl [3, 4, 5, 6, 7, 0] rfl)
        · refine lv_iload hx hb dX0_splitAll_52 (lv_at hl 0 rfl) ?_
          refine wp_ifne (tgt := 60) hx hb (Nat.lt_of_le_of_lt (sp_dif_le _ _) (by omega)) dX0_splitAll_54 (by decide) (fun h3 => ?_) (fun h3 => ?_)
          · have hm2 := sp_PI_m2 hPI1 hb1 h2 h3
            refine lv_aload_n hx hb dX0_splitAll_60 rfl (lv_at hl 2 rfl) ?_
            refine x_get S hK hP rfl 4 (by decide) q34 rfl rfl dX0_splitAll_61 ?_
            refine lv_iload hx hb dX0_splitAll_64 (lv_at hl 7 rfl) ?_
            refine lv_iload hx hb dX0_splitAll_66 (lv_at hl 1 rfl) ?_
            refine g_ist S hK hP hD hS 3 2 rfl rfl (by omega) (by decide) dX0_splitAll_68 (fun H locs hP hD hS => ?_)
            have hP : va_P D vwCl (wXs ad dd co st sd bc1 (va_up bl1 b ((bl1 b) &&& Y)) wc1 wa1 le tk rc ca) H := hP
            have hD : va_D A (wXs ad dd co st sd bc1 (va_up bl1 b ((bl1 b) &&& Y)) wc1 wa1 le tk rc ca) := hD
            refine lv_aload_n hx hb dX0_splitAll_69 rfl (lv_at hl 2 rfl) ?_
            refine x_get S hK hP rfl 4 (by decide) q34 rfl rfl dX0_splitAll_70 ?_
            refine lv_aload_n hx hb dX0_splitAll_73 rfl (lv_at hl 2 rfl) ?_
            refine x_get S hK hP rfl 3 (by decide) q33 rfl rfl dX0_splitAll_74 ?_
            refine lv_iload hx hb dX0_splitAll_77 (lv_at hl 0 rfl) ?_
            refine g_ist S hK hP hD hS 3 2 rfl rfl (by omega) (by decide) dX0_splitAll_79 (fun H locs hP hD hS => ?_)
            have hP : va_P D vwCl (wXs ad dd co st sd bc1 (va_up (va_up bl1 b ((bl1 b) &&& Y)) bc1 (sp_dif (bl1 b) Y)) wc1 wa1 le tk rc ca) H := hP
            have hD : va_D A (wXs ad dd co st sd bc1 (va_up (va_up bl1 b ((bl1 b) &&& Y)) bc1 (sp_dif (bl1 b) Y)) wc1 wa1 le tk rc ca) := hD
            refine lv_aload_n hx hb dX0_splitAll_80 rfl (lv_at hl 2 rfl) ?_
            refine lv_dup hx hb dX0_splitAll_81 rfl ?_
            refine x_get S hK hP rfl 3 (by decide) q33 rfl rfl dX0_splitAll_82 ?_
            refine lv_iconst (v := nI 1) hx hb dX0_splitAll_85 (by decide) ?_
            refine wp_add hx hb dX0_splitAll_86 ?_
            refine x_put S hK hP hD hS rfl 3 (by decide) q33 rfl rfl rfl rfl (Nat.le_of_ble_eq_true rfl) dX0_splitAll_87 (fun H locs hP hD hS => ?_)
            have hP : va_P D vwCl (wXs ad dd co st sd (bc1 + 1) (va_up (va_up bl1 b ((bl1 b) &&& Y)) bc1 (sp_dif (bl1 b) Y)) wc1 wa1 le tk rc ca) H := hP
            have hD : va_D A (wXs ad dd co st sd (bc1 + 1) (va_up (va_up bl1 b ((bl1 b) &&& Y)) bc1 (sp_dif (bl1 b) Y)) wc1 wa1 le tk rc ca) := hD
            refine lv_aload_n hx hb dX0_splitAll_90 rfl (lv_at hl 2 rfl) ?_
            refine lv_iload hx hb dX0_splitAll_91 (lv_at hl 1 rfl) ?_
            refine gv_call S [.int (nI ((bl1 b) &&& Y))] [] (mx_enqueue l D ad dd co st sd (bc1 + 1) (va_up (va_up bl1 b ((bl1 b) &&& Y)) bc1 (sp_dif (bl1 b) Y)) wc1 wa1 le tk rc ca (bl1 b &&& Y) (by omega)) (cwV 1 S.2.2.2.2 (lw_V q90 q92 qs3 q20 q93) rfl rfl rfl (by decide +kernel) ⟨Nat.le_of_ble_eq_true rfl, Nat.le_of_ble_eq_true rfl⟩) rfl rfl hK hP hD hS hA rfl rfl hl.1 (Nat.le_of_ble_eq_true rfl) dX0_splitAll_93 ⟨Nat.zero_le _, Nat.zero_le _⟩ (fun v H locs hw hP hD hS => ?_)
            obtain rfl := hw
            have hP : va_P D vwCl (wXs ad dd co st sd (bc1 + 1) (va_up (va_up bl1 b ((bl1 b) &&& Y)) bc1 (sp_dif (bl1 b) Y)) (wc1 + 1) (va_up wa1 wc1 (bl1 b &&& Y)) le tk rc ca) H := hP
            have hD : va_D A (wXs ad dd co st sd (bc1 + 1) (va_up (va_up bl1 b ((bl1 b) &&& Y)) bc1 (sp_dif (bl1 b) Y)) (wc1 + 1) (va_up wa1 wc1 (bl1 b &&& Y)) le tk rc ca) := hD
            refine lv_aload_n hx hb dX0_splitAll_96 rfl (lv_at hl 2 rfl) ?_
            refine lv_iload hx hb dX0_splitAll_97 (lv_at hl 0 rfl) ?_
            refine gv_call S [.int (nI (sp_dif (bl1 b) Y))] [] (mx_enqueue l D ad dd co st sd (bc1 + 1) (va_up (va_up bl1 b ((bl1 b) &&& Y)) bc1 (sp_dif (bl1 b) Y)) (wc1 + 1) (va_up wa1 wc1 (bl1 b &&& Y)) le tk rc ca (sp_dif (bl1 b) Y) (by omega)) (cwV 1 S.2.2.2.2 (lw_V q90 q92 qs3 q20 q93) rfl rfl rfl (by decide +kernel) ⟨Nat.le_of_ble_eq_true rfl, Nat.le_of_ble_eq_true rfl⟩) rfl rfl hK hP hD hS hA rfl rfl hl.1 (Nat.le_of_ble_eq_true rfl) dX0_splitAll_99 ⟨Nat.zero_le _, Nat.zero_le _⟩ (fun v H locs hw hP hD hS => ?_)
            obtain rfl := hw
            have hP : va_P D vwCl (wXs ad dd co st sd (bc1 + 1) (va_up (va_up bl1 b ((bl1 b) &&& Y)) bc1 (sp_dif (bl1 b) Y)) (wc1 + 1 + 1) (va_up (va_up wa1 wc1 (bl1 b &&& Y)) (wc1 + 1) (sp_dif (bl1 b) Y)) le tk rc ca) H := hP
            have hD : va_D A (wXs ad dd co st sd (bc1 + 1) (va_up (va_up bl1 b ((bl1 b) &&& Y)) bc1 (sp_dif (bl1 b) Y)) (wc1 + 1 + 1) (va_up (va_up wa1 wc1 (bl1 b &&& Y)) (wc1 + 1) (sp_dif (bl1 b) Y)) le tk rc ca) := hD
            refine lv_iinc (v := nI (b + 1)) (lv' := [(5, .int (nI (b + 1))), (7, .int (nI (sp_dif (bl1 b) Y))), (6, .int (nI ((bl1 b) &&& Y))), (0, .ref (ad 0)), (1, .int (nI X)), (2, .int (nI o)), (3, .int (nI Y)), (4, .int (nI bc))]) hx hb dX0_splitAll_102 hl (k := 7) rfl (sp_inc _) (by decide) rfl (fun ls hl => ?_)
            refine lv_goto (tgt := 16) hx hb dX0_splitAll_105 (by decide) ?_
            exact ih (b + 1) _ _ _ _ (by omega) (by omega) (sp_PI_split hPI1 hb1 hYc h2 h3) (sp_sub_split hb1 hPI1.1 hsub) (sp_uni_split hb1 hle hPI1.1 huni) (by omega) (by omega) H locs hP hD hS ls (lv_sub hl [3, 4, 5, 6, 7, 0] rfl)
          · refine lv_goto (tgt := 102) hx hb dX0_splitAll_57 (by decide) ?_
            refine lv_iinc (v := nI (b + 1)) (lv' := [(5, .int (nI (b + 1))), (7, .int (nI (sp_dif (bl1 b) Y))), (6, .int (nI ((bl1 b) &&& Y))), (0, .ref (ad 0)), (1, .int (nI X)), (2, .int (nI o)), (3, .int (nI Y)), (4, .int (nI bc))]) hx hb dX0_splitAll_102 hl (k := 7) rfl (sp_inc _) (by decide) rfl (fun ls hl => ?_)
            refine lv_goto (tgt := 16) hx hb dX0_splitAll_105 (by decide) ?_
            exact ih (b + 1) bl1 bc1 wa1 wc1 (by omega) (by omega) hPI1 hsub (sp_uni_skip hb1 hPI1.1 huni (Or.inr h3)) hle hcnt H locs hP hD hS ls (lv_sub hl [3, 4, 5, 6, 7, 0] rfl)
  refine lv_aload_n hx hb dX0_splitAll_0 rfl (lv_at hl 0 rfl) ?_
  refine lv_iload_n hx hb dX0_splitAll_1 rfl (lv_at hl 1 rfl) ?_
  refine lv_iload_n hx hb dX0_splitAll_2 rfl (lv_at hl 2 rfl) ?_
  refine gi_call S [.int (nI X), .int (nI o)] [] (mx_sourcesOf l D ad dd co st sd bc bl wc wa le tk rc ca X o ho hst) (cwV 2 S.2.2.2.2 (lw_V q98 q100 qs5 q20 q101) rfl rfl rfl (by decide +kernel) ⟨Nat.le_of_ble_eq_true rfl, Nat.le_of_ble_eq_true rfl⟩) rfl rfl hK hP hD hS hA rfl rfl hl.1 (Nat.le_of_ble_eq_true rfl) dX0_splitAll_3 ⟨Nat.zero_le _, Nat.zero_le _⟩ (fun r v H locs hw hP hD hS => ?_)
  obtain ⟨rfl, rfl⟩ := hw
  have hP : va_P D vwCl (wXs ad dd co st sd bc bl wc wa le tk rc ca) H := hP
  have hD : va_D A (wXs ad dd co st sd bc bl wc wa le tk rc ca) := hD
  rw [← hYe]
  refine lv_istore_n (lv' := [(3, .int (nI Y)), (0, .ref (ad 0)), (1, .int (nI X)), (2, .int (nI o))]) hx hb dX0_splitAll_6 rfl hl (by decide) rfl (fun ls hl => ?_)
  refine lv_aload_n hx hb dX0_splitAll_7 rfl (lv_at hl 1 rfl) ?_
  refine x_get S hK hP rfl 3 (by decide) q33 rfl rfl dX0_splitAll_8 ?_
  refine lv_istore (lv' := [(4, .int (nI bc)), (3, .int (nI Y)), (0, .ref (ad 0)), (1, .int (nI X)), (2, .int (nI o))]) hx hb dX0_splitAll_11 hl (by decide) rfl (fun ls hl => ?_)
  refine lv_iconst (v := nI 0) hx hb dX0_splitAll_13 (by decide) ?_
  refine lv_istore (lv' := [(5, .int (nI 0)), (4, .int (nI bc)), (3, .int (nI Y)), (0, .ref (ad 0)), (1, .int (nI X)), (2, .int (nI o))]) hx hb dX0_splitAll_14 hl (by decide) rfl (fun ls hl => ?_)
  exact loop (bc + 1) 0 bl bc wa wc (by omega) (by omega) hPI (sp_sub_rf bl bc) (fun i s t hi hc hs ht => absurd hc (by omega)) (Nat.le_refl bc) rfl H locs hP hD hS ls (lv_sub hl [3, 4, 5, 2, 1, 0] rfl)
set_option maxHeartbeats 4000000 in
set_option maxRecDepth 100000 in
theorem mx_findLeader (l : Launch) (D : va_G) (ad : Nat → Nat) (dd : Nat → ClassId) (co st : Nat → Nat) (sd bc : Nat) (bl : Nat → Nat) (wc : Nat) (wa le : Nat → Nat) (tk rc : Nat) (ca : Nat → Nat) (s0 i0 : Nat) (hs : s0 < 10) (hi0 : i0 < bc) (hbit : (bl i0).testBit s0 = true) (huq : ∀ i, i < bc → (bl i).testBit s0 = true → i = i0) (hbl : ∀ i, i < bc → bl i < 1024) (hbc : bc ≤ 10) : MetV l D (tX dd) (wX ad dd) yX0_findLeader (ws_ yX0_findLeader cX0_findLeader 4 none) ({ frames := 0, cells := 0, slots := 0, locals := 0 } : Room) [.ref (ad 0), .int (nI s0)] (co, st, sd, bc, bl, wc, wa, le, tk, rc, ca) (fun v => v = (co, st, sd, bc, bl, wc, wa, va_up le s0 (sp_fst (fun t => (bl i0).testBit t) 10), tk, rc, ca)) := by
  refine gv_start (by decide) (Nat.le_of_ble_eq_true rfl) ?_
  intro p e s m as below meth c A Q S hA hK ret H locs hP hD hS ls hl
  have hx := S.1
  have hb := S.2.1
  have S : CallFix p m c cX0_findLeader 4 s as lw_all RX0 := S
  have hP : va_P D vwCl (wXs ad dd co st sd bc bl wc wa le tk rc ca) H := hP
  have hD : va_D A (wXs ad dd co st sd bc bl wc wa le tk rc ca) := hD
  have hl : lv_has ls 4 [(0, .ref (ad 0)), (1, .int (nI s0))] := hl
  have loop : ∀ (n b : Nat) (le1 : Nat → Nat), b ≤ bc → bc < b + n → ((b ≤ i0 ∧ le1 = le) ∨ (i0 < b ∧ le1 = va_up le s0 (sp_fst (fun t => (bl i0).testBit t) 10))) → ∀ (H : Heap) (locs : List Loc), va_P D vwCl (wXs ad dd co st sd bc bl wc wa le1 tk rc ca) H → va_D A (wXs ad dd co st sd bc bl wc wa le1 tk rc ca) → va_S A s.heap H locs → ∀ ls : Array Slot, lv_has ls 4 [(0, .ref (ad 0)), (1, .int (nI s0)), (2, .int (nI b))] → W p l e ({ frames := 0, cells := 0, slots := 0, locals := 0 } : Room) s m as below meth c H locs 0 0 Q (F0 m 2 ls []) := by
    intro n
    induction n with
    | zero => intro b _ q1 q2; omega
    | succ n ih =>
      intro b le1 hbb0 hn hor H locs hP hD hS ls hl
      refine lv_iload_n hx hb dX0_findLeader_2 rfl (lv_at hl 2 rfl) ?_
      refine lv_aload_n hx hb dX0_findLeader_3 rfl (lv_at hl 0 rfl) ?_
      refine x_get S hK hP rfl 3 (by decide) q33 rfl rfl dX0_findLeader_4 ?_
      refine wp_ge (tgt := 61) hx hb (by omega) (by omega) dX0_findLeader_7 (by decide) (fun hc => ?_) (fun hc => ?_)
      · have hq : le1 = va_up le s0 (sp_fst (fun t => (bl i0).testBit t) 10) := by exact hor.elim (fun q => absurd q.1 (by omega)) (fun q => q.2)
        exact ret (co, st, sd, bc, bl, wc, wa, le1, tk, rc, ca) H locs ls _ dX0_findLeader_61 hP hD hS (by rw [hq])
      · have hlt := hbl b hc
        refine lv_aload_n hx hb dX0_findLeader_10 rfl (lv_at hl 0 rfl) ?_
        refine x_get S hK hP rfl 4 (by decide) q34 rfl rfl dX0_findLeader_11 ?_
        refine lv_iload_n hx hb dX0_findLeader_14 rfl (lv_at hl 2 rfl) ?_
        refine g_ild S hK hP 3 2 rfl rfl (by omega) (by decide) dX0_findLeader_15 ?_
        refine lv_iload_n hx hb dX0_findLeader_16 rfl (lv_at hl 1 rfl) ?_
        refine wp_shr hx hb (by omega) (by omega) dX0_findLeader_17 ?_
        refine lv_iconst (v := nI 1) hx hb dX0_findLeader_18 (by decide) ?_
        refine wp_and hx hb dX0_findLeader_19 ?_
        refine wp_ifne (tgt := 26) hx hb (sp_and1 _) dX0_findLeader_20 (by decide) (fun h2 => ?_) (fun h2 => ?_)
        · have hb2 : (bl b).testBit s0 = true := (sp_tbn _ _).mp h2
          have hbi : b = i0 := huq b hc hb2
          have hle : le1 = le := hor.elim (fun q => q.2) (fun q => absurd q.1 (by omega))
          have inner : ∀ (n2 t : Nat), t ≤ s0 → s0 < t + n2 → (∀ j, j < t → (bl b).testBit j = false) → ∀ (H : Heap) (locs : List Loc), va_P D vwCl (wXs ad dd co st sd bc bl wc wa le1 tk rc ca) H → va_D A (wXs ad dd co st sd bc bl wc wa le1 tk rc ca) → va_S A s.heap H locs → ∀ ls : Array Slot, lv_has ls 4 [(0, .ref (ad 0)), (1, .int (nI s0)), (2, .int (nI b)), (3, .int (nI t))] → W p l e ({ frames := 0, cells := 0, slots := 0, locals := 0 } : Room) s m as below meth c H locs 0 0 Q (F0 m 28 ls []) := by
            intro n2
            induction n2 with
            | zero => intro t q1 q2; omega
            | succ n2 ih2 =>
              intro t ht hn2 hall H locs hP hD hS ls hl
              refine lv_aload_n hx hb dX0_findLeader_28 rfl (lv_at hl 0 rfl) ?_
              refine x_get S hK hP rfl 4 (by decide) q34 rfl rfl dX0_findLeader_29 ?_
              refine lv_iload_n hx hb dX0_findLeader_32 rfl (lv_at hl 2 rfl) ?_
              refine g_ild S hK hP 3 2 rfl rfl (by omega) (by decide) dX0_findLeader_33 ?_
              refine lv_iload_n hx hb dX0_findLeader_34 rfl (lv_at hl 3 rfl) ?_
              refine wp_shr hx hb (by omega) (by omega) dX0_findLeader_35 ?_
              refine lv_iconst (v := nI 1) hx hb dX0_findLeader_36 (by decide) ?_
              refine wp_and hx hb dX0_findLeader_37 ?_
              refine wp_ifne (tgt := 47) hx hb (sp_and1 _) dX0_findLeader_38 (by decide) (fun h3 => ?_) (fun h3 => ?_)
              · have et : sp_fst (fun t => (bl i0).testBit t) 10 = t := by rw [← hbi]; exact sp_fst_eq (by omega) hall (fun _ => (sp_tbn _ _).mp h3)
                refine lv_aload_n hx hb dX0_findLeader_47 rfl (lv_at hl 0 rfl) ?_
                refine x_get S hK hP rfl 7 (by decide) q37 rfl rfl dX0_findLeader_48 ?_
                refine lv_iload_n hx hb dX0_findLeader_51 rfl (lv_at hl 1 rfl) ?_
                refine lv_iload_n hx hb dX0_findLeader_52 rfl (lv_at hl 3 rfl) ?_
                refine lv_i2b (v := nI t) hx hb dX0_findLeader_53 (sp_i8 _ (by omega)) ?_
                refine g_bst S hK hP hD hS 5 4 rfl rfl (by omega) (by decide) (by omega) dX0_findLeader_54 (fun H locs hP hD hS => ?_)
                have hP : va_P D vwCl (wXs ad dd co st sd bc bl wc wa (va_up le1 s0 t) tk rc ca) H := hP
                have hD : va_D A (wXs ad dd co st sd bc bl wc wa (va_up le1 s0 t) tk rc ca) := hD
                refine lv_iinc (v := nI (b + 1)) (lv' := [(2, .int (nI (b + 1))), (0, .ref (ad 0)), (1, .int (nI s0)), (3, .int (nI t))]) hx hb dX0_findLeader_55 hl (k := 2) rfl (sp_inc _) (by decide) rfl (fun ls hl => ?_)
                refine lv_goto (tgt := 2) hx hb dX0_findLeader_58 (by decide) ?_
                exact ih (b + 1) _ (by omega) (by omega) (Or.inr ⟨by omega, by rw [et, hle]⟩) H locs hP hD hS ls (lv_sub hl [1, 2, 0] rfl)
              · have hf3 := (sp_tb _ _).mp h3
                have hts : t ≠ s0 := fun q => by rw [q, hb2] at hf3; exact absurd hf3 (by decide)
                refine lv_iinc (v := nI (t + 1)) (lv' := [(3, .int (nI (t + 1))), (0, .ref (ad 0)), (1, .int (nI s0)), (2, .int (nI b))]) hx hb dX0_findLeader_41 hl (k := 3) rfl (sp_inc _) (by decide) rfl (fun ls hl => ?_)
                refine lv_goto (tgt := 28) hx hb dX0_findLeader_44 (by decide) ?_
                exact ih2 (t + 1) (by omega) (by omega) (lt_s hall hf3) H locs hP hD hS ls (lv_sub hl [1, 2, 3, 0] rfl)
          refine lv_iconst (v := nI 0) hx hb dX0_findLeader_26 (by decide) ?_
          refine lv_istore_n (lv' := [(3, .int (nI 0)), (0, .ref (ad 0)), (1, .int (nI s0)), (2, .int (nI b))]) hx hb dX0_findLeader_27 rfl hl (by decide) rfl (fun ls hl => ?_)
          exact inner (s0 + 1) 0 (by omega) (by omega) lt_0 H locs hP hD hS ls (lv_sub hl [1, 2, 3, 0] rfl)
        · have hf2 := (sp_tb _ _).mp h2
          have hne : b ≠ i0 := fun q => by rw [q, hbit] at hf2; exact absurd hf2 (by decide)
          refine lv_goto (tgt := 55) hx hb dX0_findLeader_23 (by decide) ?_
          refine lv_iinc (v := nI (b + 1)) (lv' := [(2, .int (nI (b + 1))), (0, .ref (ad 0)), (1, .int (nI s0))]) hx hb dX0_findLeader_55 hl (k := 2) rfl (sp_inc _) (by decide) rfl (fun ls hl => ?_)
          refine lv_goto (tgt := 2) hx hb dX0_findLeader_58 (by decide) ?_
          exact ih (b + 1) le1 (by omega) (by omega) (hor.elim (fun q => Or.inl ⟨by omega, q.2⟩) (fun q => Or.inr ⟨by omega, q.2⟩)) H locs hP hD hS ls (lv_sub hl [1, 2, 0] rfl)
  refine lv_iconst (v := nI 0) hx hb dX0_findLeader_0 (by decide) ?_
  refine lv_istore_n (lv' := [(2, .int (nI 0)), (0, .ref (ad 0)), (1, .int (nI s0))]) hx hb dX0_findLeader_1 rfl hl (by decide) rfl (fun ls hl => ?_)
  exact loop (bc + 1) 0 le (by omega) (by omega) (Or.inl ⟨by omega, rfl⟩) H locs hP hD hS ls (lv_sub hl [1, 2, 0] rfl)
set_option maxHeartbeats 4000000 in
set_option maxRecDepth 100000 in
theorem mx_settle (l : Launch) (D : va_G) (ad : Nat → Nat) (dd : Nat → ClassId) (co st : Nat → Nat) (sd bc : Nat) (bl : Nat → Nat) (wc : Nat) (wa le : Nat → Nat) (tk rc : Nat) (ca : Nat → Nat) (hXI : sp_XI co st sd bc le tk rc ca) : MetV l D (tX dd) (wX ad dd) yX0_settle (ws_ yX0_settle cX0_settle 4 none) ({ frames := 2, cells := 0, slots := 0, locals := 51 } : Room) [.ref (ad 0)] (co, st, sd, bc, bl, wc, wa, le, tk, rc, ca) (fun v => ∃ bl1 wc1 wa1 le1, v = (co, st, 1, sp_NC co st, bl1, wc1, wa1, le1, tk, rc, ca) ∧ ∀ s, s < 10 → le1 s = sp_LD co st s) := by
  refine gv_start (by decide) (Nat.le_of_ble_eq_true rfl) ?_
  intro p e s m as below meth c A Q S hA hK ret H locs hP hD hS ls hl
  have hx := S.1
  have hb := S.2.1
  have S : CallFix p m c cX0_settle 4 s as lw_all RX0 := S
  have hP : va_P D vwCl (wXs ad dd co st sd bc bl wc wa le tk rc ca) H := hP
  have hD : va_D A (wXs ad dd co st sd bc bl wc wa le tk rc ca) := hD
  have hl : lv_has ls 4 [(0, .ref (ad 0))] := hl
  obtain ⟨hc4, hst, hsd, -⟩ := hXI
  have hsd1 : sd < 2 := by rcases hsd with q | q <;> omega
  have hc31 : ∀ j, j < 10 → co j < 2147483648 := fun j hj => Nat.lt_of_lt_of_le (hc4 j hj) (by decide)
  refine lv_aload_n hx hb dX0_settle_0 rfl (lv_at hl 0 rfl) ?_
  refine x_get S hK hP rfl 2 (by decide) q32 rfl rfl dX0_settle_1 ?_
  refine wp_ifeq (tgt := 8) hx hb (by omega) dX0_settle_4 (by decide) (fun h => ?_) (fun h => ?_)
  · have leaders : ∀ (bl1 : Nat → Nat) (bc1 : Nat) (wa1 : Nat → Nat), sp_PI co st (fun _ => False) bl1 bc1 wa1 0 → ∀ (n i : Nat) (le1 : Nat → Nat), i ≤ 10 → 10 < i + n → (∀ j, j < i → le1 j = sp_LD co st j) → ∀ (H : Heap) (locs : List Loc), va_P D vwCl (wXs ad dd co st 1 bc1 bl1 0 wa1 le1 tk rc ca) H → va_D A (wXs ad dd co st 1 bc1 bl1 0 wa1 le1 tk rc ca) → va_S A s.heap H locs → ∀ ls : Array Slot, lv_has ls 4 [(0, .ref (ad 0)), (1, .int (nI i))] → W p l e ({ frames := 2, cells := 0, slots := 0, locals := 51 } : Room) s m as below meth c H locs 0 0 Q (F0 m 144 ls []) := by
      intro bl1 bc1 wa1 hPI n
      have hm1 := sp_PI_m hPI
      induction n with
      | zero => intro i _ q1 q2; omega
      | succ n ih =>
        intro i le1 hi hn hall H locs hP hD hS ls hl
        refine lv_iload_n hx hb dX0_settle_144 rfl (lv_at hl 1 rfl) ?_
        refine lv_bipush (v := nI 10) hx hb dX0_settle_145 (by decide) ?_
        refine wp_ge (tgt := 161) hx hb (by omega) (by omega) dX0_settle_147 (by decide) (fun hc => ?_) (fun hc => ?_)
        · have hnc := sp_PI_nc hPI
          rw [hnc] at hP hD
          exact ret (co, st, 1, sp_NC co st, bl1, 0, wa1, le1, tk, rc, ca) H locs ls _ dX0_settle_161 hP hD hS (⟨bl1, 0, wa1, le1, rfl, fun j hj => hall j (by omega)⟩)
        · obtain ⟨i0, hi0, hb0⟩ := hPI.2.1 i hc
          refine lv_aload_n hx hb dX0_settle_150 rfl (lv_at hl 0 rfl) ?_
          refine lv_iload_n hx hb dX0_settle_151 rfl (lv_at hl 1 rfl) ?_
          refine gv_call S [.int (nI i)] [] (mx_findLeader l D ad dd co st 1 bc1 bl1 0 wa1 le1 tk rc ca i i0 hc hi0 hb0 (fun j hj hx => hPI.2.2.1 j i0 i hj hi0 hx hb0) hPI.1 hm1) (cwV 1 S.2.2.2.2 (lw_V q102 q104 qs6 q20 q105) rfl rfl rfl (by decide +kernel) ⟨Nat.le_of_ble_eq_true rfl, Nat.le_of_ble_eq_true rfl⟩) rfl rfl hK hP hD hS hA rfl rfl hl.1 (Nat.le_of_ble_eq_true rfl) dX0_settle_152 ⟨Nat.zero_le _, Nat.zero_le _⟩ (fun v H locs hw hP hD hS => ?_)
          obtain rfl := hw
          have hP : va_P D vwCl (wXs ad dd co st 1 bc1 bl1 0 wa1 (va_up le1 i (sp_fst (fun t => (bl1 i0).testBit t) 10)) tk rc ca) H := hP
          have hD : va_D A (wXs ad dd co st 1 bc1 bl1 0 wa1 (va_up le1 i (sp_fst (fun t => (bl1 i0).testBit t) 10)) tk rc ca) := hD
          refine lv_iinc (v := nI (i + 1)) (lv' := [(1, .int (nI (i + 1))), (0, .ref (ad 0))]) hx hb dX0_settle_155 hl (k := 1) rfl (sp_inc _) (by decide) rfl (fun ls hl => ?_)
          refine lv_goto (tgt := 144) hx hb dX0_settle_158 (by decide) ?_
          exact ih (i + 1) _ (by omega) (by omega) (fun q hq => if z : q = i then (by rw [z, sp_up_s]; exact sp_PI_ld hPI hi0 hb0) else (by rw [sp_up_n _ _ z]; exact hall q (by omega))) H locs hP hD hS ls (lv_sub hl [1, 0] rfl)
    have main : ∀ (n : Nat) (bl1 : Nat → Nat) (bc1 : Nat) (wa1 : Nat → Nat) (wc1 : Nat), wc1 + 2 * (10 - bc1) < n → sp_PI co st (fun _ => False) bl1 bc1 wa1 wc1 → ∀ (H : Heap) (locs : List Loc), va_P D vwCl (wXs ad dd co st 1 bc1 bl1 wc1 wa1 le tk rc ca) H → va_D A (wXs ad dd co st 1 bc1 bl1 wc1 wa1 le tk rc ca) → va_S A s.heap H locs → ∀ ls : Array Slot, lv_has ls 4 [(0, .ref (ad 0))] → W p l e ({ frames := 2, cells := 0, slots := 0, locals := 51 } : Room) s m as below meth c H locs 0 0 Q (F0 m 100 ls []) := by
      intro n
      induction n with
      | zero => intro _ _ _ _ q1; omega
      | succ n ih =>
        intro bl1 bc1 wa1 wc1 hn hPI H locs hP hD hS ls hl
        have hm1 := sp_PI_m hPI
        have hw1 : wc1 ≤ 2 * bc1 := hPI.2.2.2.2.2.2.2.2
        refine lv_aload_n hx hb dX0_settle_100 rfl (lv_at hl 0 rfl) ?_
        refine x_get S hK hP rfl 5 (by decide) q35 rfl rfl dX0_settle_101 ?_
        refine wp_ifle (tgt := 142) hx hb (by omega) dX0_settle_104 (by decide) (fun hc => ?_) (fun hc => ?_)
        · subst hc
          refine lv_iconst (v := nI 0) hx hb dX0_settle_142 (by decide) ?_
          refine lv_istore_n (lv' := [(1, .int (nI 0)), (0, .ref (ad 0))]) hx hb dX0_settle_143 rfl hl (by decide) rfl (fun ls hl => ?_)
          exact leaders bl1 bc1 wa1 hPI 11 0 le (by omega) (by omega) lt_0 H locs hP hD hS ls (lv_sub hl [1, 0] rfl)
        · obtain ⟨w, rfl⟩ : ∃ w, wc1 = w + 1 := ⟨wc1 - 1, by omega⟩
          have hpop := sp_PI_pop hPI
          obtain ⟨hX, hXc⟩ := hPI.2.2.2.2.2.2.1 w (by omega)
          refine lv_aload_n hx hb dX0_settle_107 rfl (lv_at hl 0 rfl) ?_
          refine lv_dup hx hb dX0_settle_108 rfl ?_
          refine x_get S hK hP rfl 5 (by decide) q35 rfl rfl dX0_settle_109 ?_
          refine lv_iconst (v := nI 1) hx hb dX0_settle_112 (by decide) ?_
          refine wp_sub hx hb (by omega) dX0_settle_113 ?_
          refine wp_to (nI (w)) (congrArg nI (Nat.add_sub_cancel w 1)) ?_
          refine x_put S hK hP hD hS rfl 5 (by decide) q35 rfl rfl rfl rfl (Nat.le_of_ble_eq_true rfl) dX0_settle_114 (fun H locs hP hD hS => ?_)
          have hP : va_P D vwCl (wXs ad dd co st 1 bc1 bl1 w wa1 le tk rc ca) H := hP
          have hD : va_D A (wXs ad dd co st 1 bc1 bl1 w wa1 le tk rc ca) := hD
          refine lv_aload_n hx hb dX0_settle_117 rfl (lv_at hl 0 rfl) ?_
          refine x_get S hK hP rfl 6 (by decide) q36 rfl rfl dX0_settle_118 ?_
          refine lv_aload_n hx hb dX0_settle_121 rfl (lv_at hl 0 rfl) ?_
          refine x_get S hK hP rfl 5 (by decide) q35 rfl rfl dX0_settle_122 ?_
          refine g_ild S hK hP 4 3 rfl rfl (by omega) (by decide) dX0_settle_125 ?_
          refine lv_istore_n (lv' := [(1, .int (nI (wa1 w))), (0, .ref (ad 0))]) hx hb dX0_settle_126 rfl hl (by decide) rfl (fun ls hl => ?_)
          refine lv_aload_n hx hb dX0_settle_127 rfl (lv_at hl 1 rfl) ?_
          refine lv_iload_n hx hb dX0_settle_128 rfl (lv_at hl 0 rfl) ?_
          refine lv_iconst (v := nI 0) hx hb dX0_settle_129 (by decide) ?_
          refine gv_call S [.int (nI (wa1 w)), .int (nI 0)] [] (mx_splitAll l D ad dd co st 1 bc1 bl1 w wa1 le tk rc ca (wa1 w) 0 (by decide) hst hX hXc hpop) (cwV 2 S.2.2.2.2 (lw_V q94 q96 qs4 q20 q97) rfl rfl rfl (by decide +kernel) ⟨Nat.le_of_ble_eq_true rfl, Nat.le_of_ble_eq_true rfl⟩) rfl rfl hK hP hD hS hA rfl rfl hl.1 (Nat.le_of_ble_eq_true rfl) dX0_settle_130 ⟨Nat.zero_le _, Nat.zero_le _⟩ (fun v H locs hw hP hD hS => ?_)
          obtain ⟨bl2, bc2, wa2, wc2, rfl, g2, gs2, gu2, ge2⟩ := hw
          have hP : va_P D vwCl (wXs ad dd co st 1 bc2 bl2 wc2 wa2 le tk rc ca) H := hP
          have hD : va_D A (wXs ad dd co st 1 bc2 bl2 wc2 wa2 le tk rc ca) := hD
          refine lv_aload_n hx hb dX0_settle_133 rfl (lv_at hl 1 rfl) ?_
          refine lv_iload_n hx hb dX0_settle_134 rfl (lv_at hl 0 rfl) ?_
          refine lv_iconst (v := nI 1) hx hb dX0_settle_135 (by decide) ?_
          refine gv_call S [.int (nI (wa1 w)), .int (nI 1)] [] (mx_splitAll l D ad dd co st 1 bc2 bl2 wc2 wa2 le tk rc ca (wa1 w) 1 (by decide) hst hX hXc g2) (cwV 2 S.2.2.2.2 (lw_V q94 q96 qs4 q20 q97) rfl rfl rfl (by decide +kernel) ⟨Nat.le_of_ble_eq_true rfl, Nat.le_of_ble_eq_true rfl⟩) rfl rfl hK hP hD hS hA rfl rfl hl.1 (Nat.le_of_ble_eq_true rfl) dX0_settle_136 ⟨Nat.zero_le _, Nat.zero_le _⟩ (fun v H locs hw hP hD hS => ?_)
          obtain ⟨bl3, bc3, wa3, wc3, rfl, g3, gs3, gu3, ge3⟩ := hw
          have hP : va_P D vwCl (wXs ad dd co st 1 bc3 bl3 wc3 wa3 le tk rc ca) H := hP
          have hD : va_D A (wXs ad dd co st 1 bc3 bl3 wc3 wa3 le tk rc ca) := hD
          have hm2 := sp_PI_m g2
          have hm3 := sp_PI_m g3
          refine lv_goto (tgt := 100) hx hb dX0_settle_139 (by decide) ?_
          exact ih bl3 bc3 wa3 wc3 (by omega) (sp_PI_done g3 (sp_un_sub gu2 gs3) gu3) H locs hP hD hS ls (lv_sub hl [1] rfl)
    have colours : ∀ (n k : Nat) (bl1 : Nat → Nat) (bc1 : Nat) (wa1 : Nat → Nat) (wc1 : Nat), k ≤ 4 → 4 < k + n → sp_CI co bl1 bc1 wa1 wc1 k → ∀ (H : Heap) (locs : List Loc), va_P D vwCl (wXs ad dd co st 1 bc1 bl1 wc1 wa1 le tk rc ca) H → va_D A (wXs ad dd co st 1 bc1 bl1 wc1 wa1 le tk rc ca) → va_S A s.heap H locs → ∀ ls : Array Slot, lv_has ls 4 [(0, .ref (ad 0)), (1, .int (nI k))] → W p l e ({ frames := 2, cells := 0, slots := 0, locals := 51 } : Room) s m as below meth c H locs 0 0 Q (F0 m 25 ls []) := by
      intro n
      induction n with
      | zero => intro k _ _ _ _ q1 q2; omega
      | succ n ih =>
        intro k bl1 bc1 wa1 wc1 hk hn hCI H locs hP hD hS ls hl
        have hw1 : wc1 = bc1 := hCI.1
        have hbk : bc1 ≤ k := hCI.2.1
        refine lv_iload_n hx hb dX0_settle_25 rfl (lv_at hl 1 rfl) ?_
        refine lv_iconst (v := nI 4) hx hb dX0_settle_26 (by decide) ?_
        refine wp_ge (tgt := 100) hx hb (by omega) (by omega) dX0_settle_27 (by decide) (fun hc => ?_) (fun hc => ?_)
        · have hk4 : k = 4 := by omega
          rw [hk4] at hCI
          exact main (wc1 + 2 * (10 - bc1) + 1) bl1 bc1 wa1 wc1 (by omega) (sp_CI_end hCI hc4) H locs hP hD hS ls (lv_sub hl [0] rfl)
        · have inner : ∀ (n2 i : Nat), i ≤ 10 → 10 < i + n2 → ∀ ls : Array Slot, lv_has ls 4 [(0, .ref (ad 0)), (1, .int (nI k)), (2, .int (nI (sp_img (fun s => co s == k) (fun s => s) i))), (3, .int (nI i))] → W p l e ({ frames := 2, cells := 0, slots := 0, locals := 51 } : Room) s m as below meth c H locs 0 0 Q (F0 m 34 ls []) := by
            intro n2
            induction n2 with
            | zero => intro i q1 q2; omega
            | succ n2 ih2 =>
              intro i hi hn2 ls hl
              refine lv_iload_n hx hb dX0_settle_34 rfl (lv_at hl 3 rfl) ?_
              refine lv_bipush (v := nI 10) hx hb dX0_settle_35 (by decide) ?_
              refine wp_ge (tgt := 62) hx hb (by omega) (by omega) dX0_settle_37 (by decide) (fun h3 => ?_) (fun h3 => ?_)
              · have hi10 : i = 10 := by omega
                rw [hi10] at hl
                have hcb : sp_col co k < 1024 := sp_img_lt (d := 10) (fun s hs _ => hs)
                have hl : lv_has ls 4 [(0, .ref (ad 0)), (1, .int (nI k)), (2, .int (nI (sp_col co k)))] := lv_sub hl [0, 1, 2] rfl
                refine lv_iload_n hx hb dX0_settle_62 rfl (lv_at hl 2 rfl) ?_
                refine wp_ifne (tgt := 69) hx hb (by omega) dX0_settle_63 (by decide) (fun h4 => ?_) (fun h4 => ?_)
                · refine lv_aload_n hx hb dX0_settle_69 rfl (lv_at hl 0 rfl) ?_
                  refine x_get S hK hP rfl 4 (by decide) q34 rfl rfl dX0_settle_70 ?_
                  refine lv_aload_n hx hb dX0_settle_73 rfl (lv_at hl 0 rfl) ?_
                  refine x_get S hK hP rfl 3 (by decide) q33 rfl rfl dX0_settle_74 ?_
                  refine lv_iload_n hx hb dX0_settle_77 rfl (lv_at hl 2 rfl) ?_
                  refine g_ist S hK hP hD hS 3 2 rfl rfl (by omega) (by decide) dX0_settle_78 (fun H locs hP hD hS => ?_)
                  have hP : va_P D vwCl (wXs ad dd co st 1 bc1 (va_up bl1 bc1 (sp_col co k)) wc1 wa1 le tk rc ca) H := hP
                  have hD : va_D A (wXs ad dd co st 1 bc1 (va_up bl1 bc1 (sp_col co k)) wc1 wa1 le tk rc ca) := hD
                  refine lv_aload_n hx hb dX0_settle_79 rfl (lv_at hl 0 rfl) ?_
                  refine lv_dup hx hb dX0_settle_80 rfl ?_
                  refine x_get S hK hP rfl 3 (by decide) q33 rfl rfl dX0_settle_81 ?_
                  refine lv_iconst (v := nI 1) hx hb dX0_settle_84 (by decide) ?_
                  refine wp_add hx hb dX0_settle_85 ?_
                  refine x_put S hK hP hD hS rfl 3 (by decide) q33 rfl rfl rfl rfl (Nat.le_of_ble_eq_true rfl) dX0_settle_86 (fun H locs hP hD hS => ?_)
                  have hP : va_P D vwCl (wXs ad dd co st 1 (bc1 + 1) (va_up bl1 bc1 (sp_col co k)) wc1 wa1 le tk rc ca) H := hP
                  have hD : va_D A (wXs ad dd co st 1 (bc1 + 1) (va_up bl1 bc1 (sp_col co k)) wc1 wa1 le tk rc ca) := hD
                  refine lv_aload_n hx hb dX0_settle_89 rfl (lv_at hl 0 rfl) ?_
                  refine lv_iload_n hx hb dX0_settle_90 rfl (lv_at hl 2 rfl) ?_
                  refine gv_call S [.int (nI (sp_col co k))] [] (mx_enqueue l D ad dd co st 1 (bc1 + 1) (va_up bl1 bc1 (sp_col co k)) wc1 wa1 le tk rc ca (sp_col co k) (by omega)) (cwV 1 S.2.2.2.2 (lw_V q90 q92 qs3 q20 q93) rfl rfl rfl (by decide +kernel) ⟨Nat.le_of_ble_eq_true rfl, Nat.le_of_ble_eq_true rfl⟩) rfl rfl hK hP hD hS hA rfl rfl hl.1 (Nat.le_of_ble_eq_true rfl) dX0_settle_91 ⟨Nat.zero_le _, Nat.zero_le _⟩ (fun v H locs hw hP hD hS => ?_)
                  obtain rfl := hw
                  have hP : va_P D vwCl (wXs ad dd co st 1 (bc1 + 1) (va_up bl1 bc1 (sp_col co k)) (wc1 + 1) (va_up wa1 wc1 (sp_col co k)) le tk rc ca) H := hP
                  have hD : va_D A (wXs ad dd co st 1 (bc1 + 1) (va_up bl1 bc1 (sp_col co k)) (wc1 + 1) (va_up wa1 wc1 (sp_col co k)) le tk rc ca) := hD
                  refine lv_iinc (v := nI (k + 1)) (lv' := [(1, .int (nI (k + 1))), (0, .ref (ad 0)), (2, .int (nI (sp_col co k)))]) hx hb dX0_settle_94 hl (k := 1) rfl (sp_inc _) (by decide) rfl (fun ls hl => ?_)
                  refine lv_goto (tgt := 25) hx hb dX0_settle_97 (by decide) ?_
                  exact ih (k + 1) _ _ _ _ (by omega) (by omega) (sp_CI_add hCI h4) H locs hP hD hS ls (lv_sub hl [1, 0] rfl)
                · refine lv_goto (tgt := 94) hx hb dX0_settle_66 (by decide) ?_
                  refine lv_iinc (v := nI (k + 1)) (lv' := [(1, .int (nI (k + 1))), (0, .ref (ad 0)), (2, .int (nI (sp_col co k)))]) hx hb dX0_settle_94 hl (k := 1) rfl (sp_inc _) (by decide) rfl (fun ls hl => ?_)
                  refine lv_goto (tgt := 25) hx hb dX0_settle_97 (by decide) ?_
                  exact ih (k + 1) bl1 bc1 wa1 wc1 (by omega) (by omega) (sp_CI_skip hCI h4) H locs hP hD hS ls (lv_sub hl [1, 0] rfl)
              · refine lv_aload_n hx hb dX0_settle_40 rfl (lv_at hl 0 rfl) ?_
                refine x_get S hK hP rfl 0 (by decide) q30 rfl rfl dX0_settle_41 ?_
                refine lv_iload_n hx hb dX0_settle_44 rfl (lv_at hl 3 rfl) ?_
                refine g_bld S hK hP 1 0 rfl rfl (by omega) (by decide) dX0_settle_45 ?_
                refine lv_iload_n hx hb dX0_settle_46 rfl (lv_at hl 1 rfl) ?_
                refine wp_ne (tgt := 56) hx hb (hc31 _ (by omega)) (by omega) dX0_settle_47 (by decide) (fun h4 => ?_) (fun h4 => ?_)
                · refine lv_iinc (v := nI (i + 1)) (lv' := [(3, .int (nI (i + 1))), (0, .ref (ad 0)), (1, .int (nI k)), (2, .int (nI (sp_img (fun s => co s == k) (fun s => s) i)))]) hx hb dX0_settle_56 hl (k := 3) rfl (sp_inc _) (by decide) rfl (fun ls hl => ?_)
                  refine lv_goto (tgt := 34) hx hb dX0_settle_59 (by decide) ?_
                  exact ih2 (i + 1) (by omega) (by omega) ls (by rw [sp_img_no (p := fun s => co s == k) (beq_eq_false_iff_ne.mpr h4)]; exact lv_sub hl [1, 2, 3, 0] rfl)
                · refine lv_iload_n hx hb dX0_settle_50 rfl (lv_at hl 2 rfl) ?_
                  refine lv_iconst (v := nI 1) hx hb dX0_settle_51 (by decide) ?_
                  refine lv_iload_n hx hb dX0_settle_52 rfl (lv_at hl 3 rfl) ?_
                  refine wp_shl hx hb (by omega) dX0_settle_53 ?_
                  refine wp_or hx hb dX0_settle_54 ?_
                  refine lv_istore_n (lv' := [(2, .int (nI ((sp_img (fun s => co s == k) (fun s => s) i) ||| (2 ^ i)))), (0, .ref (ad 0)), (1, .int (nI k)), (3, .int (nI i))]) hx hb dX0_settle_55 rfl hl (by decide) rfl (fun ls hl => ?_)
                  refine lv_iinc (v := nI (i + 1)) (lv' := [(3, .int (nI (i + 1))), (2, .int (nI ((sp_img (fun s => co s == k) (fun s => s) i) ||| (2 ^ i)))), (0, .ref (ad 0)), (1, .int (nI k))]) hx hb dX0_settle_56 hl (k := 3) rfl (sp_inc _) (by decide) rfl (fun ls hl => ?_)
                  refine lv_goto (tgt := 34) hx hb dX0_settle_59 (by decide) ?_
                  exact ih2 (i + 1) (by omega) (by omega) ls (by rw [sp_img_yes (p := fun s => co s == k) (beq_iff_eq.mpr h4)]; exact lv_sub hl [2, 3, 1, 0] rfl)
          refine lv_iconst (v := nI 0) hx hb dX0_settle_30 (by decide) ?_
          refine lv_istore_n (lv' := [(2, .int (nI 0)), (0, .ref (ad 0)), (1, .int (nI k))]) hx hb dX0_settle_31 rfl hl (by decide) rfl (fun ls hl => ?_)
          refine lv_iconst (v := nI 0) hx hb dX0_settle_32 (by decide) ?_
          refine lv_istore_n (lv' := [(3, .int (nI 0)), (2, .int (nI 0)), (0, .ref (ad 0)), (1, .int (nI k))]) hx hb dX0_settle_33 rfl hl (by decide) rfl (fun ls hl => ?_)
          exact inner 11 0 (by omega) (by omega) ls (lv_sub hl [2, 3, 1, 0] rfl)
    refine lv_aload_n hx hb dX0_settle_8 rfl (lv_at hl 0 rfl) ?_
    refine lv_iconst (v := nI 1) hx hb dX0_settle_9 (by decide) ?_
    refine x_put S hK hP hD hS rfl 2 (by decide) q32 rfl rfl rfl rfl (Nat.le_of_ble_eq_true rfl) dX0_settle_10 (fun H locs hP hD hS => ?_)
    have hP : va_P D vwCl (wXs ad dd co st 1 bc bl wc wa le tk rc ca) H := hP
    have hD : va_D A (wXs ad dd co st 1 bc bl wc wa le tk rc ca) := hD
    refine lv_aload_n hx hb dX0_settle_13 rfl (lv_at hl 0 rfl) ?_
    refine lv_iconst (v := nI 0) hx hb dX0_settle_14 (by decide) ?_
    refine x_put S hK hP hD hS rfl 3 (by decide) q33 rfl rfl rfl rfl (Nat.le_of_ble_eq_true rfl) dX0_settle_15 (fun H locs hP hD hS => ?_)
    have hP : va_P D vwCl (wXs ad dd co st 1 0 bl wc wa le tk rc ca) H := hP
    have hD : va_D A (wXs ad dd co st 1 0 bl wc wa le tk rc ca) := hD
    refine lv_aload_n hx hb dX0_settle_18 rfl (lv_at hl 0 rfl) ?_
    refine lv_iconst (v := nI 0) hx hb dX0_settle_19 (by decide) ?_
    refine x_put S hK hP hD hS rfl 5 (by decide) q35 rfl rfl rfl rfl (Nat.le_of_ble_eq_true rfl) dX0_settle_20 (fun H locs hP hD hS => ?_)
    have hP : va_P D vwCl (wXs ad dd co st 1 0 bl 0 wa le tk rc ca) H := hP
    have hD : va_D A (wXs ad dd co st 1 0 bl 0 wa le tk rc ca) := hD
    refine lv_iconst (v := nI 0) hx hb dX0_settle_23 (by decide) ?_
    refine lv_istore_n (lv' := [(1, .int (nI 0)), (0, .ref (ad 0))]) hx hb dX0_settle_24 rfl hl (by decide) rfl (fun ls hl => ?_)
    exact colours 5 0 bl 0 wa 0 (by omega) (by omega) (sp_CI_0 co bl wa) H locs hP hD hS ls (lv_sub hl [1, 0] rfl)
  · obtain ⟨e1, e2, e3⟩ := hsd.resolve_left h
    subst e1
    subst e2
    exact ret (co, st, 1, sp_NC co st, bl, wc, wa, le, tk, rc, ca) H locs ls _ dX0_settle_7 hP hD hS (⟨bl, wc, wa, le, rfl, e3⟩)
end
section
/-! WALKS, 4: the component's public methods (printed by gen/gen4.py) -/
set_option maxHeartbeats 4000000 in
set_option maxRecDepth 100000 in
theorem mx_classes (l : Launch) (D : va_G) (ad : Nat → Nat) (dd : Nat → ClassId) (co st : Nat → Nat) (sd bc : Nat) (bl : Nat → Nat) (wc : Nat) (wa le : Nat → Nat) (tk rc : Nat) (ca : Nat → Nat) (hXI : sp_XI co st sd bc le tk rc ca) : MetI l D (tX dd) (wX ad dd) yX0_classes (ws_ yX0_classes cX0_classes 1 (some .int)) ({ frames := 3, cells := 0, slots := 0, locals := 74 } : Room) [.ref (ad 0)] (co, st, sd, bc, bl, wc, wa, le, tk, rc, ca) (fun r v => sp_XV co st v ∧ r = nI (sp_NC co st)) := by
  refine gi_start (by decide) (Nat.le_of_ble_eq_true rfl) ?_
  intro p e s m as below meth c A Q S hA hK ret H locs hP hD hS ls hl
  have hx := S.1
  have hb := S.2.1
  have S : CallFix p m c cX0_classes 1 s as lw_all RX0 := S
  have hP : va_P D vwCl (wXs ad dd co st sd bc bl wc wa le tk rc ca) H := hP
  have hD : va_D A (wXs ad dd co st sd bc bl wc wa le tk rc ca) := hD
  have hl : lv_has ls 1 [(0, .ref (ad 0))] := hl
  refine lv_aload_n hx hb dX0_classes_0 rfl (lv_at hl 0 rfl) ?_
  refine gv_call S [] [] (mx_settle l D ad dd co st sd bc bl wc wa le tk rc ca hXI) (cwV 0 S.2.2.2.2 (lw_V q86 q88 qs2 q20 q89) rfl rfl rfl (by decide +kernel) ⟨Nat.le_of_ble_eq_true rfl, Nat.le_of_ble_eq_true rfl⟩) rfl rfl hK hP hD hS hA rfl rfl hl.1 (Nat.le_of_ble_eq_true rfl) dX0_classes_1 ⟨Nat.zero_le _, Nat.zero_le _⟩ (fun v H locs hw hP hD hS => ?_)
  obtain ⟨bl1, wc1, wa1, le1, rfl, hle⟩ := hw
  have hP : va_P D vwCl (wXs ad dd co st 1 (sp_NC co st) bl1 wc1 wa1 le1 tk rc ca) H := hP
  have hD : va_D A (wXs ad dd co st 1 (sp_NC co st) bl1 wc1 wa1 le1 tk rc ca) := hD
  refine lv_aload_n hx hb dX0_classes_4 rfl (lv_at hl 0 rfl) ?_
  refine x_get S hK hP rfl 3 (by decide) q33 rfl rfl dX0_classes_5 ?_
  exact ret ((nI (sp_NC co st))) (co, st, 1, sp_NC co st, bl1, wc1, wa1, le1, tk, rc, ca) H locs ls _ dX0_classes_8 rfl hP hD hS (⟨⟨1, sp_NC co st, bl1, wc1, wa1, le1, tk, rc, ca, rfl, sp_XI_set hXI hle⟩, rfl⟩)
set_option maxHeartbeats 4000000 in
set_option maxRecDepth 100000 in
theorem mx_rounds (l : Launch) (D : va_G) (ad : Nat → Nat) (dd : Nat → ClassId) (co st : Nat → Nat) (sd bc : Nat) (bl : Nat → Nat) (wc : Nat) (wa le : Nat → Nat) (tk rc : Nat) (ca : Nat → Nat) (hXI : sp_XI co st sd bc le tk rc ca) : MetI l D (tX dd) (wX ad dd) yX0_rounds (ws_ yX0_rounds cX0_rounds 1 (some .int)) ({ frames := 4, cells := 0, slots := 0, locals := 96 } : Room) [.ref (ad 0)] (co, st, sd, bc, bl, wc, wa, le, tk, rc, ca) (fun r v => sp_XV co st v ∧ r = nI (sp_N co st)) := by
  refine gi_start (by decide) (Nat.le_of_ble_eq_true rfl) ?_
  intro p e s m as below meth c A Q S hA hK ret H locs hP hD hS ls hl
  have hx := S.1
  have hb := S.2.1
  have S : CallFix p m c cX0_rounds 1 s as lw_all RX0 := S
  have hP : va_P D vwCl (wXs ad dd co st sd bc bl wc wa le tk rc ca) H := hP
  have hD : va_D A (wXs ad dd co st sd bc bl wc wa le tk rc ca) := hD
  have hl : lv_has ls 1 [(0, .ref (ad 0))] := hl
  refine lv_aload_n hx hb dX0_rounds_0 rfl (lv_at hl 0 rfl) ?_
  refine gv_call S [] [] (mx_findRounds l D ad dd co st sd bc bl wc wa le tk rc ca hXI) (cwV 0 S.2.2.2.2 (lw_V q122 q124 qs7 q20 q125) rfl rfl rfl (by decide +kernel) ⟨Nat.le_of_ble_eq_true rfl, Nat.le_of_ble_eq_true rfl⟩) rfl rfl hK hP hD hS hA rfl rfl hl.1 (Nat.le_of_ble_eq_true rfl) dX0_rounds_1 ⟨Nat.zero_le _, Nat.zero_le _⟩ (fun v H locs hw hP hD hS => ?_)
  obtain ⟨ca1, rfl, hca⟩ := hw
  have hP : va_P D vwCl (wXs ad dd co st sd bc bl wc wa le 1 (sp_N co st) ca1) H := hP
  have hD : va_D A (wXs ad dd co st sd bc bl wc wa le 1 (sp_N co st) ca1) := hD
  refine lv_aload_n hx hb dX0_rounds_4 rfl (lv_at hl 0 rfl) ?_
  refine x_get S hK hP rfl 9 (by decide) q39 rfl rfl dX0_rounds_5 ?_
  exact ret ((nI (sp_N co st))) (co, st, sd, bc, bl, wc, wa, le, 1, sp_N co st, ca1) H locs ls _ dX0_rounds_8 rfl hP hD hS (⟨⟨sd, bc, bl, wc, wa, le, 1, sp_N co st, ca1, rfl, sp_XI_told hXI hca⟩, rfl⟩)
set_option maxHeartbeats 4000000 in
set_option maxRecDepth 100000 in
theorem mx_leader (l : Launch) (D : va_G) (ad : Nat → Nat) (dd : Nat → ClassId) (co st : Nat → Nat) (sd bc : Nat) (bl : Nat → Nat) (wc : Nat) (wa le : Nat → Nat) (tk rc : Nat) (ca : Nat → Nat) (x : Int32) (hXI : sp_XI co st sd bc le tk rc ca) : MetI l D (tX dd) (wX ad dd) yX0_leader (ws_ yX0_leader cX0_leader 2 (some .int)) ({ frames := 3, cells := 0, slots := 0, locals := 74 } : Room) [.ref (ad 0), .int x] (co, st, sd, bc, bl, wc, wa, le, tk, rc, ca) (fun r v => sp_XV co st v ∧ r = sp_aLeader co st x) := by
  refine gi_start (by decide) (Nat.le_of_ble_eq_true rfl) ?_
  intro p e s m as below meth c A Q S hA hK ret H locs hP hD hS ls hl
  have hx := S.1
  have hb := S.2.1
  have S : CallFix p m c cX0_leader 2 s as lw_all RX0 := S
  have hP : va_P D vwCl (wXs ad dd co st sd bc bl wc wa le tk rc ca) H := hP
  have hD : va_D A (wXs ad dd co st sd bc bl wc wa le tk rc ca) := hD
  have hl : lv_has ls 2 [(0, .ref (ad 0)), (1, .int x)] := hl
  refine lv_aload_n hx hb dX0_leader_0 rfl (lv_at hl 0 rfl) ?_
  refine lv_iload_n hx hb dX0_leader_1 rfl (lv_at hl 1 rfl) ?_
  refine gi_call S [.int x] [] (mx_isState l D ad dd co st sd bc bl wc wa le tk rc ca x) (cwV 1 S.2.2.2.2 (lw_V q70 q72 qs0 q20 q73) rfl rfl rfl (by decide +kernel) ⟨Nat.le_of_ble_eq_true rfl, Nat.le_of_ble_eq_true rfl⟩) rfl rfl hK hP hD hS hA rfl rfl hl.1 (Nat.le_of_ble_eq_true rfl) dX0_leader_2 ⟨Nat.zero_le _, Nat.zero_le _⟩ (fun r v H locs hw hP hD hS => ?_)
  obtain ⟨rfl, rfl⟩ := hw
  have hP : va_P D vwCl (wXs ad dd co st sd bc bl wc wa le tk rc ca) H := hP
  have hD : va_D A (wXs ad dd co st sd bc bl wc wa le tk rc ca) := hD
  refine wp_ifneB (tgt := 10) hx hb dX0_leader_5 (by decide) (fun h => ?_) (fun h => ?_)
  · obtain ⟨j, hj, rfl⟩ := sp_ok_of h (show 10 < 2 ^ 31 by decide)
    refine lv_aload_n hx hb dX0_leader_10 rfl (lv_at hl 0 rfl) ?_
    refine gv_call S [] [] (mx_settle l D ad dd co st sd bc bl wc wa le tk rc ca hXI) (cwV 0 S.2.2.2.2 (lw_V q86 q88 qs2 q20 q89) rfl rfl rfl (by decide +kernel) ⟨Nat.le_of_ble_eq_true rfl, Nat.le_of_ble_eq_true rfl⟩) rfl rfl hK hP hD hS hA rfl rfl hl.1 (Nat.le_of_ble_eq_true rfl) dX0_leader_11 ⟨Nat.zero_le _, Nat.zero_le _⟩ (fun v H locs hw hP hD hS => ?_)
    obtain ⟨bl1, wc1, wa1, le1, rfl, hle⟩ := hw
    have hP : va_P D vwCl (wXs ad dd co st 1 (sp_NC co st) bl1 wc1 wa1 le1 tk rc ca) H := hP
    have hD : va_D A (wXs ad dd co st 1 (sp_NC co st) bl1 wc1 wa1 le1 tk rc ca) := hD
    refine lv_aload_n hx hb dX0_leader_14 rfl (lv_at hl 0 rfl) ?_
    refine x_get S hK hP rfl 7 (by decide) q37 rfl rfl dX0_leader_15 ?_
    refine lv_iload_n hx hb dX0_leader_18 rfl (lv_at hl 1 rfl) ?_
    refine g_bld S hK hP 5 4 rfl rfl (by omega) (by decide) dX0_leader_19 ?_
    exact ret ((nI (le1 j))) (co, st, 1, sp_NC co st, bl1, wc1, wa1, le1, tk, rc, ca) H locs ls _ dX0_leader_20 rfl hP hD hS (⟨⟨1, sp_NC co st, bl1, wc1, wa1, le1, tk, rc, ca, rfl, sp_XI_set hXI hle⟩, by rw [sp_aLeader_ok co st hj, hle j hj]⟩)
  · refine lv_iconst (v := -1) hx hb dX0_leader_8 (by decide) ?_
    exact ret ((-1)) (co, st, sd, bc, bl, wc, wa, le, tk, rc, ca) H locs ls _ dX0_leader_9 rfl hP hD hS (⟨⟨sd, bc, bl, wc, wa, le, tk, rc, ca, rfl, hXI⟩, (sp_aLeader_no co st h).symm⟩)
set_option maxHeartbeats 4000000 in
set_option maxRecDepth 100000 in
theorem mx_alike (l : Launch) (D : va_G) (ad : Nat → Nat) (dd : Nat → ClassId) (co st : Nat → Nat) (sd bc : Nat) (bl : Nat → Nat) (wc : Nat) (wa le : Nat → Nat) (tk rc : Nat) (ca : Nat → Nat) (x y : Int32) (hXI : sp_XI co st sd bc le tk rc ca) : MetI l D (tX dd) (wX ad dd) yX0_alike (ws_ yX0_alike cX0_alike 3 (some .boolean)) ({ frames := 3, cells := 0, slots := 0, locals := 74 } : Room) [.ref (ad 0), .int x, .int y] (co, st, sd, bc, bl, wc, wa, le, tk, rc, ca) (fun r v => sp_XV co st v ∧ r = sp_aAlike co st x y) := by
  refine gi_start (by decide) (Nat.le_of_ble_eq_true rfl) ?_
  intro p e s m as below meth c A Q S hA hK ret H locs hP hD hS ls hl
  have hx := S.1
  have hb := S.2.1
  have S : CallFix p m c cX0_alike 3 s as lw_all RX0 := S
  have hP : va_P D vwCl (wXs ad dd co st sd bc bl wc wa le tk rc ca) H := hP
  have hD : va_D A (wXs ad dd co st sd bc bl wc wa le tk rc ca) := hD
  have hl : lv_has ls 3 [(0, .ref (ad 0)), (1, .int x), (2, .int y)] := hl
  refine lv_aload_n hx hb dX0_alike_0 rfl (lv_at hl 0 rfl) ?_
  refine lv_iload_n hx hb dX0_alike_1 rfl (lv_at hl 1 rfl) ?_
  refine gi_call S [.int x] [] (mx_isState l D ad dd co st sd bc bl wc wa le tk rc ca x) (cwV 1 S.2.2.2.2 (lw_V q70 q72 qs0 q20 q73) rfl rfl rfl (by decide +kernel) ⟨Nat.le_of_ble_eq_true rfl, Nat.le_of_ble_eq_true rfl⟩) rfl rfl hK hP hD hS hA rfl rfl hl.1 (Nat.le_of_ble_eq_true rfl) dX0_alike_2 ⟨Nat.zero_le _, Nat.zero_le _⟩ (fun r v H locs hw hP hD hS => ?_)
  obtain ⟨rfl, rfl⟩ := hw
  have hP : va_P D vwCl (wXs ad dd co st sd bc bl wc wa le tk rc ca) H := hP
  have hD : va_D A (wXs ad dd co st sd bc bl wc wa le tk rc ca) := hD
  refine wp_ifeqB (tgt := 16) hx hb dX0_alike_5 (by decide) (fun h => ?_) (fun h => ?_)
  · refine lv_iconst (v := nI 0) hx hb dX0_alike_16 (by decide) ?_
    exact ret ((nI 0)) (co, st, sd, bc, bl, wc, wa, le, tk, rc, ca) H locs ls _ dX0_alike_17 rfl hP hD hS (⟨⟨sd, bc, bl, wc, wa, le, tk, rc, ca, rfl, hXI⟩, (sp_aAlike_no co st (by rw [h]; rfl)).symm⟩)
  · refine lv_aload_n hx hb dX0_alike_8 rfl (lv_at hl 0 rfl) ?_
    refine lv_iload_n hx hb dX0_alike_9 rfl (lv_at hl 2 rfl) ?_
    refine gi_call S [.int y] [] (mx_isState l D ad dd co st sd bc bl wc wa le tk rc ca y) (cwV 1 S.2.2.2.2 (lw_V q70 q72 qs0 q20 q73) rfl rfl rfl (by decide +kernel) ⟨Nat.le_of_ble_eq_true rfl, Nat.le_of_ble_eq_true rfl⟩) rfl rfl hK hP hD hS hA rfl rfl hl.1 (Nat.le_of_ble_eq_true rfl) dX0_alike_10 ⟨Nat.zero_le _, Nat.zero_le _⟩ (fun r v H locs hw hP hD hS => ?_)
    obtain ⟨rfl, rfl⟩ := hw
    have hP : va_P D vwCl (wXs ad dd co st sd bc bl wc wa le tk rc ca) H := hP
    have hD : va_D A (wXs ad dd co st sd bc bl wc wa le tk rc ca) := hD
    refine wp_ifneB (tgt := 18) hx hb dX0_alike_13 (by decide) (fun h2 => ?_) (fun h2 => ?_)
    · obtain ⟨i, hi, rfl⟩ := sp_ok_of h (show 10 < 2 ^ 31 by decide)
      obtain ⟨j, hj, rfl⟩ := sp_ok_of h2 (show 10 < 2 ^ 31 by decide)
      refine lv_aload_n hx hb dX0_alike_18 rfl (lv_at hl 0 rfl) ?_
      refine gv_call S [] [] (mx_settle l D ad dd co st sd bc bl wc wa le tk rc ca hXI) (cwV 0 S.2.2.2.2 (lw_V q86 q88 qs2 q20 q89) rfl rfl rfl (by decide +kernel) ⟨Nat.le_of_ble_eq_true rfl, Nat.le_of_ble_eq_true rfl⟩) rfl rfl hK hP hD hS hA rfl rfl hl.1 (Nat.le_of_ble_eq_true rfl) dX0_alike_19 ⟨Nat.zero_le _, Nat.zero_le _⟩ (fun v H locs hw hP hD hS => ?_)
      obtain ⟨bl1, wc1, wa1, le1, rfl, hle⟩ := hw
      have hP : va_P D vwCl (wXs ad dd co st 1 (sp_NC co st) bl1 wc1 wa1 le1 tk rc ca) H := hP
      have hD : va_D A (wXs ad dd co st 1 (sp_NC co st) bl1 wc1 wa1 le1 tk rc ca) := hD
      have hlt : ∀ z, z < 10 → le1 z < 10 := fun z hz => by rw [hle z hz]; exact sp_L_lt co st _ hz
      have hF : sp_F co st i j = decide (le1 i = le1 j) := by rw [show sp_F co st i j = decide (sp_LD co st i = sp_LD co st j) from sp_R_dec co st _ i j, hle i hi, hle j hj]
      refine lv_aload_n hx hb dX0_alike_22 rfl (lv_at hl 0 rfl) ?_
      refine x_get S hK hP rfl 7 (by decide) q37 rfl rfl dX0_alike_23 ?_
      refine lv_iload_n hx hb dX0_alike_26 rfl (lv_at hl 1 rfl) ?_
      refine g_bld S hK hP 5 4 rfl rfl (by omega) (by decide) dX0_alike_27 ?_
      refine lv_aload_n hx hb dX0_alike_28 rfl (lv_at hl 0 rfl) ?_
      refine x_get S hK hP rfl 7 (by decide) q37 rfl rfl dX0_alike_29 ?_
      refine lv_iload_n hx hb dX0_alike_32 rfl (lv_at hl 2 rfl) ?_
      refine g_bld S hK hP 5 4 rfl rfl (by omega) (by decide) dX0_alike_33 ?_
      refine wp_ne (tgt := 41) hx hb (by have := hlt i hi; omega) (by have := hlt j hj; omega) dX0_alike_34 (by decide) (fun h3 => ?_) (fun h3 => ?_)
      · refine lv_iconst (v := nI 0) hx hb dX0_alike_41 (by decide) ?_
        exact ret ((nI 0)) (co, st, 1, sp_NC co st, bl1, wc1, wa1, le1, tk, rc, ca) H locs ls _ dX0_alike_42 rfl hP hD hS (⟨⟨1, sp_NC co st, bl1, wc1, wa1, le1, tk, rc, ca, rfl, sp_XI_set hXI hle⟩, by rw [sp_aAlike_ok co st hi hj, hF, decide_eq_false h3]; rfl⟩)
      · refine lv_iconst (v := nI 1) hx hb dX0_alike_37 (by decide) ?_
        refine lv_goto (tgt := 42) hx hb dX0_alike_38 (by decide) ?_
        exact ret ((nI 1)) (co, st, 1, sp_NC co st, bl1, wc1, wa1, le1, tk, rc, ca) H locs ls _ dX0_alike_42 rfl hP hD hS (⟨⟨1, sp_NC co st, bl1, wc1, wa1, le1, tk, rc, ca, rfl, sp_XI_set hXI hle⟩, by rw [sp_aAlike_ok co st hi hj, hF, decide_eq_true h3]; rfl⟩)
    · refine lv_iconst (v := nI 0) hx hb dX0_alike_16 (by decide) ?_
      exact ret ((nI 0)) (co, st, sd, bc, bl, wc, wa, le, tk, rc, ca) H locs ls _ dX0_alike_17 rfl hP hD hS (⟨⟨sd, bc, bl, wc, wa, le, tk, rc, ca, rfl, hXI⟩, (sp_aAlike_no co st (by rw [h, h2]; rfl)).symm⟩)
set_option maxHeartbeats 4000000 in
set_option maxRecDepth 100000 in
theorem mx_members (l : Launch) (D : va_G) (ad : Nat → Nat) (dd : Nat → ClassId) (co st : Nat → Nat) (sd bc : Nat) (bl : Nat → Nat) (wc : Nat) (wa le : Nat → Nat) (tk rc : Nat) (ca : Nat → Nat) (x : Int32) (hXI : sp_XI co st sd bc le tk rc ca) : MetI l D (tX dd) (wX ad dd) yX0_members (ws_ yX0_members cX0_members 4 (some .int)) ({ frames := 3, cells := 0, slots := 0, locals := 74 } : Room) [.ref (ad 0), .int x] (co, st, sd, bc, bl, wc, wa, le, tk, rc, ca) (fun r v => sp_XV co st v ∧ r = sp_aMembers co st x) := by
  refine gi_start (by decide) (Nat.le_of_ble_eq_true rfl) ?_
  intro p e s m as below meth c A Q S hA hK ret H locs hP hD hS ls hl
  have hx := S.1
  have hb := S.2.1
  have S : CallFix p m c cX0_members 4 s as lw_all RX0 := S
  have hP : va_P D vwCl (wXs ad dd co st sd bc bl wc wa le tk rc ca) H := hP
  have hD : va_D A (wXs ad dd co st sd bc bl wc wa le tk rc ca) := hD
  have hl : lv_has ls 4 [(0, .ref (ad 0)), (1, .int x)] := hl
  refine lv_aload_n hx hb dX0_members_0 rfl (lv_at hl 0 rfl) ?_
  refine lv_iload_n hx hb dX0_members_1 rfl (lv_at hl 1 rfl) ?_
  refine gi_call S [.int x] [] (mx_isState l D ad dd co st sd bc bl wc wa le tk rc ca x) (cwV 1 S.2.2.2.2 (lw_V q70 q72 qs0 q20 q73) rfl rfl rfl (by decide +kernel) ⟨Nat.le_of_ble_eq_true rfl, Nat.le_of_ble_eq_true rfl⟩) rfl rfl hK hP hD hS hA rfl rfl hl.1 (Nat.le_of_ble_eq_true rfl) dX0_members_2 ⟨Nat.zero_le _, Nat.zero_le _⟩ (fun r v H locs hw hP hD hS => ?_)
  obtain ⟨rfl, rfl⟩ := hw
  have hP : va_P D vwCl (wXs ad dd co st sd bc bl wc wa le tk rc ca) H := hP
  have hD : va_D A (wXs ad dd co st sd bc bl wc wa le tk rc ca) := hD
  refine wp_ifneB (tgt := 10) hx hb dX0_members_5 (by decide) (fun h => ?_) (fun h => ?_)
  · obtain ⟨j, hj, rfl⟩ := sp_ok_of h (show 10 < 2 ^ 31 by decide)
    refine lv_aload_n hx hb dX0_members_10 rfl (lv_at hl 0 rfl) ?_
    refine gv_call S [] [] (mx_settle l D ad dd co st sd bc bl wc wa le tk rc ca hXI) (cwV 0 S.2.2.2.2 (lw_V q86 q88 qs2 q20 q89) rfl rfl rfl (by decide +kernel) ⟨Nat.le_of_ble_eq_true rfl, Nat.le_of_ble_eq_true rfl⟩) rfl rfl hK hP hD hS hA rfl rfl hl.1 (Nat.le_of_ble_eq_true rfl) dX0_members_11 ⟨Nat.zero_le _, Nat.zero_le _⟩ (fun v H locs hw hP hD hS => ?_)
    obtain ⟨bl1, wc1, wa1, le1, rfl, hle⟩ := hw
    have hP : va_P D vwCl (wXs ad dd co st 1 (sp_NC co st) bl1 wc1 wa1 le1 tk rc ca) H := hP
    have hD : va_D A (wXs ad dd co st 1 (sp_NC co st) bl1 wc1 wa1 le1 tk rc ca) := hD
    have hlt : ∀ z, z < 10 → le1 z < 10 := fun z hz => by rw [hle z hz]; exact sp_L_lt co st _ hz
    have hF : ∀ z, z < 10 → sp_F co st j z = decide (le1 z = le1 j) := fun z hz => by rw [show sp_F co st j z = decide (sp_LD co st j = sp_LD co st z) from sp_R_dec co st _ j z, hle z hz, hle j hj]; exact decide_eq_decide.mpr eq_comm
    have loop : ∀ (n i : Nat), i ≤ 10 → 10 < i + n → ∀ ls : Array Slot, lv_has ls 4 [(0, .ref (ad 0)), (1, .int (nI j)), (2, .int (nI (sp_img (fun t => sp_F co st j t) (fun s => s) i))), (3, .int (nI i))] → W p l e ({ frames := 3, cells := 0, slots := 0, locals := 74 } : Room) s m as below meth c H locs 0 0 Q (F0 m 18 ls []) := by
      intro n
      induction n with
      | zero => intro i h1 h2; omega
      | succ n ih =>
        intro i hi hn ls hl
        refine lv_iload_n hx hb dX0_members_18 rfl (lv_at hl 3 rfl) ?_
        refine lv_bipush (v := nI 10) hx hb dX0_members_19 (by decide) ?_
        refine wp_ge (tgt := 51) hx hb (by omega) (by omega) dX0_members_21 (by decide) (fun hc => ?_) (fun hc => ?_)
        · have hi10 : i = 10 := by omega
          refine lv_iload_n hx hb dX0_members_51 rfl (lv_at hl 2 rfl) ?_
          exact ret ((nI (sp_img (fun t => sp_F co st j t) (fun s => s) i))) (co, st, 1, sp_NC co st, bl1, wc1, wa1, le1, tk, rc, ca) H locs ls _ dX0_members_52 rfl hP hD hS (⟨⟨1, sp_NC co st, bl1, wc1, wa1, le1, tk, rc, ca, rfl, sp_XI_set hXI hle⟩, by rw [sp_aMembers_ok co st hj, hi10]⟩)
        · refine lv_aload_n hx hb dX0_members_24 rfl (lv_at hl 0 rfl) ?_
          refine x_get S hK hP rfl 7 (by decide) q37 rfl rfl dX0_members_25 ?_
          refine lv_iload_n hx hb dX0_members_28 rfl (lv_at hl 3 rfl) ?_
          refine g_bld S hK hP 5 4 rfl rfl (by omega) (by decide) dX0_members_29 ?_
          refine lv_aload_n hx hb dX0_members_30 rfl (lv_at hl 0 rfl) ?_
          refine x_get S hK hP rfl 7 (by decide) q37 rfl rfl dX0_members_31 ?_
          refine lv_iload_n hx hb dX0_members_34 rfl (lv_at hl 1 rfl) ?_
          refine g_bld S hK hP 5 4 rfl rfl (by omega) (by decide) dX0_members_35 ?_
          refine wp_ne (tgt := 45) hx hb (by have := hlt i hc; omega) (by have := hlt j hj; omega) dX0_members_36 (by decide) (fun h3 => ?_) (fun h3 => ?_)
          · refine lv_iinc (v := nI (i + 1)) (lv' := [(3, .int (nI (i + 1))), (0, .ref (ad 0)), (1, .int (nI j)), (2, .int (nI (sp_img (fun t => sp_F co st j t) (fun s => s) i)))]) hx hb dX0_members_45 hl (k := 3) rfl (sp_inc _) (by decide) rfl (fun ls hl => ?_)
            refine lv_goto (tgt := 18) hx hb dX0_members_48 (by decide) ?_
            exact ih (i + 1) (by omega) (by omega) ls (by rw [sp_img_no (show sp_F co st j i = false by rw [hF i hc]; exact decide_eq_false h3)]; exact lv_sub hl [1, 2, 3, 0] rfl)
          · refine lv_iload_n hx hb dX0_members_39 rfl (lv_at hl 2 rfl) ?_
            refine lv_iconst (v := nI 1) hx hb dX0_members_40 (by decide) ?_
            refine lv_iload_n hx hb dX0_members_41 rfl (lv_at hl 3 rfl) ?_
            refine wp_shl hx hb (by omega) dX0_members_42 ?_
            refine wp_or hx hb dX0_members_43 ?_
            refine lv_istore_n (lv' := [(2, .int (nI ((sp_img (fun t => sp_F co st j t) (fun s => s) i) ||| (2 ^ i)))), (0, .ref (ad 0)), (1, .int (nI j)), (3, .int (nI i))]) hx hb dX0_members_44 rfl hl (by decide) rfl (fun ls hl => ?_)
            refine lv_iinc (v := nI (i + 1)) (lv' := [(3, .int (nI (i + 1))), (2, .int (nI ((sp_img (fun t => sp_F co st j t) (fun s => s) i) ||| (2 ^ i)))), (0, .ref (ad 0)), (1, .int (nI j))]) hx hb dX0_members_45 hl (k := 3) rfl (sp_inc _) (by decide) rfl (fun ls hl => ?_)
            refine lv_goto (tgt := 18) hx hb dX0_members_48 (by decide) ?_
            exact ih (i + 1) (by omega) (by omega) ls (by rw [sp_img_yes (show sp_F co st j i = true by rw [hF i hc]; exact decide_eq_true h3)]; exact lv_sub hl [2, 3, 1, 0] rfl)
    refine lv_iconst (v := nI 0) hx hb dX0_members_14 (by decide) ?_
    refine lv_istore_n (lv' := [(2, .int (nI 0)), (0, .ref (ad 0)), (1, .int (nI j))]) hx hb dX0_members_15 rfl hl (by decide) rfl (fun ls hl => ?_)
    refine lv_iconst (v := nI 0) hx hb dX0_members_16 (by decide) ?_
    refine lv_istore_n (lv' := [(3, .int (nI 0)), (2, .int (nI 0)), (0, .ref (ad 0)), (1, .int (nI j))]) hx hb dX0_members_17 rfl hl (by decide) rfl (fun ls hl => ?_)
    exact loop 11 0 (by omega) (by omega) ls (lv_sub hl [2, 3, 1, 0] rfl)
  · refine lv_iconst (v := -1) hx hb dX0_members_8 (by decide) ?_
    exact ret ((-1)) (co, st, sd, bc, bl, wc, wa, le, tk, rc, ca) H locs ls _ dX0_members_9 rfl hP hD hS (⟨⟨sd, bc, bl, wc, wa, le, tk, rc, ca, rfl, hXI⟩, (sp_aMembers_no co st h).symm⟩)
set_option maxHeartbeats 4000000 in
set_option maxRecDepth 100000 in
theorem mx_told (l : Launch) (D : va_G) (ad : Nat → Nat) (dd : Nat → ClassId) (co st : Nat → Nat) (sd bc : Nat) (bl : Nat → Nat) (wc : Nat) (wa le : Nat → Nat) (tk rc : Nat) (ca : Nat → Nat) (x y : Int32) (hXI : sp_XI co st sd bc le tk rc ca) : MetI l D (tX dd) (wX ad dd) yX0_told (ws_ yX0_told cX0_told 4 (some .int)) ({ frames := 4, cells := 0, slots := 0, locals := 96 } : Room) [.ref (ad 0), .int x, .int y] (co, st, sd, bc, bl, wc, wa, le, tk, rc, ca) (fun r v => sp_XV co st v ∧ r = sp_aTold co st x y) := by
  refine gi_start (by decide) (Nat.le_of_ble_eq_true rfl) ?_
  intro p e s m as below meth c A Q S hA hK ret H locs hP hD hS ls hl
  have hx := S.1
  have hb := S.2.1
  have S : CallFix p m c cX0_told 4 s as lw_all RX0 := S
  have hP : va_P D vwCl (wXs ad dd co st sd bc bl wc wa le tk rc ca) H := hP
  have hD : va_D A (wXs ad dd co st sd bc bl wc wa le tk rc ca) := hD
  have hl : lv_has ls 4 [(0, .ref (ad 0)), (1, .int x), (2, .int y)] := hl
  refine lv_aload_n hx hb dX0_told_0 rfl (lv_at hl 0 rfl) ?_
  refine lv_iload_n hx hb dX0_told_1 rfl (lv_at hl 1 rfl) ?_
  refine gi_call S [.int x] [] (mx_isState l D ad dd co st sd bc bl wc wa le tk rc ca x) (cwV 1 S.2.2.2.2 (lw_V q70 q72 qs0 q20 q73) rfl rfl rfl (by decide +kernel) ⟨Nat.le_of_ble_eq_true rfl, Nat.le_of_ble_eq_true rfl⟩) rfl rfl hK hP hD hS hA rfl rfl hl.1 (Nat.le_of_ble_eq_true rfl) dX0_told_2 ⟨Nat.zero_le _, Nat.zero_le _⟩ (fun r v H locs hw hP hD hS => ?_)
  obtain ⟨rfl, rfl⟩ := hw
  have hP : va_P D vwCl (wXs ad dd co st sd bc bl wc wa le tk rc ca) H := hP
  have hD : va_D A (wXs ad dd co st sd bc bl wc wa le tk rc ca) := hD
  refine wp_ifeqB (tgt := 16) hx hb dX0_told_5 (by decide) (fun h => ?_) (fun h => ?_)
  · refine lv_iconst (v := -1) hx hb dX0_told_16 (by decide) ?_
    exact ret ((-1)) (co, st, sd, bc, bl, wc, wa, le, tk, rc, ca) H locs ls _ dX0_told_17 rfl hP hD hS (⟨⟨sd, bc, bl, wc, wa, le, tk, rc, ca, rfl, hXI⟩, (sp_aTold_no co st (by rw [h]; rfl)).symm⟩)
  · refine lv_aload_n hx hb dX0_told_8 rfl (lv_at hl 0 rfl) ?_
    refine lv_iload_n hx hb dX0_told_9 rfl (lv_at hl 2 rfl) ?_
    refine gi_call S [.int y] [] (mx_isState l D ad dd co st sd bc bl wc wa le tk rc ca y) (cwV 1 S.2.2.2.2 (lw_V q70 q72 qs0 q20 q73) rfl rfl rfl (by decide +kernel) ⟨Nat.le_of_ble_eq_true rfl, Nat.le_of_ble_eq_true rfl⟩) rfl rfl hK hP hD hS hA rfl rfl hl.1 (Nat.le_of_ble_eq_true rfl) dX0_told_10 ⟨Nat.zero_le _, Nat.zero_le _⟩ (fun r v H locs hw hP hD hS => ?_)
    obtain ⟨rfl, rfl⟩ := hw
    have hP : va_P D vwCl (wXs ad dd co st sd bc bl wc wa le tk rc ca) H := hP
    have hD : va_D A (wXs ad dd co st sd bc bl wc wa le tk rc ca) := hD
    refine wp_ifneB (tgt := 18) hx hb dX0_told_13 (by decide) (fun h2 => ?_) (fun h2 => ?_)
    · obtain ⟨i, hi, rfl⟩ := sp_ok_of h (show 10 < 2 ^ 31 by decide)
      obtain ⟨j, hj, rfl⟩ := sp_ok_of h2 (show 10 < 2 ^ 31 by decide)
      refine lv_aload_n hx hb dX0_told_18 rfl (lv_at hl 0 rfl) ?_
      refine gv_call S [] [] (mx_findRounds l D ad dd co st sd bc bl wc wa le tk rc ca hXI) (cwV 0 S.2.2.2.2 (lw_V q122 q124 qs7 q20 q125) rfl rfl rfl (by decide +kernel) ⟨Nat.le_of_ble_eq_true rfl, Nat.le_of_ble_eq_true rfl⟩) rfl rfl hK hP hD hS hA rfl rfl hl.1 (Nat.le_of_ble_eq_true rfl) dX0_told_19 ⟨Nat.zero_le _, Nat.zero_le _⟩ (fun v H locs hw hP hD hS => ?_)
      obtain ⟨ca1, rfl, hca⟩ := hw
      have hP : va_P D vwCl (wXs ad dd co st sd bc bl wc wa le 1 (sp_N co st) ca1) H := hP
      have hD : va_D A (wXs ad dd co st sd bc bl wc wa le 1 (sp_N co st) ca1) := hD
      have hN := sp_N_lt co st
      have hlt : ∀ k z, k ≤ sp_N co st → z < 10 → ca1 (10 * k + z) < 10 := fun k z hk hz => by rw [hca k z hk hz]; exact sp_L_lt co st _ hz
      have loop : ∀ (n k : Nat), k ≤ sp_N co st + 1 → sp_N co st + 1 < k + n → (∀ z, z < k → sp_R co st z i j = true) → ∀ ls : Array Slot, lv_has ls 4 [(0, .ref (ad 0)), (1, .int (nI i)), (2, .int (nI j)), (3, .int (nI k))] → W p l e ({ frames := 4, cells := 0, slots := 0, locals := 96 } : Room) s m as below meth c H locs 0 0 Q (F0 m 24 ls []) := by
        intro n
        induction n with
        | zero => intro k h1 h2; omega
        | succ n ih =>
          intro k hk hn hall ls hl
          refine lv_iload_n hx hb dX0_told_24 rfl (lv_at hl 3 rfl) ?_
          refine lv_aload_n hx hb dX0_told_25 rfl (lv_at hl 0 rfl) ?_
          refine x_get S hK hP rfl 9 (by decide) q39 rfl rfl dX0_told_26 ?_
          refine wp_gt (tgt := 65) hx hb (by omega) (by omega) dX0_told_29 (by decide) (fun hc => ?_) (fun hc => ?_)
          · refine lv_bipush (v := -2) hx hb dX0_told_65 (by decide) ?_
            exact ret ((-2)) (co, st, sd, bc, bl, wc, wa, le, 1, sp_N co st, ca1) H locs ls _ dX0_told_67 rfl hP hD hS (⟨⟨sd, bc, bl, wc, wa, le, 1, sp_N co st, ca1, rfl, sp_XI_told hXI hca⟩, by rw [sp_aTold_ok co st hi hj]; exact (sp_told_no (fun z hz => hall z (by omega))).symm⟩)
          · refine lv_aload_n hx hb dX0_told_32 rfl (lv_at hl 0 rfl) ?_
            refine x_get S hK hP rfl 10 (by decide) q40 rfl rfl dX0_told_33 ?_
            refine lv_bipush (v := nI 10) hx hb dX0_told_36 (by decide) ?_
            refine lv_iload_n hx hb dX0_told_38 rfl (lv_at hl 3 rfl) ?_
            refine wp_mul hx hb dX0_told_39 ?_
            refine lv_iload_n hx hb dX0_told_40 rfl (lv_at hl 1 rfl) ?_
            refine wp_add hx hb dX0_told_41 ?_
            refine g_bld S hK hP 6 5 rfl rfl (by omega) (by decide) dX0_told_42 ?_
            refine lv_aload_n hx hb dX0_told_43 rfl (lv_at hl 0 rfl) ?_
            refine x_get S hK hP rfl 10 (by decide) q40 rfl rfl dX0_told_44 ?_
            refine lv_bipush (v := nI 10) hx hb dX0_told_47 (by decide) ?_
            refine lv_iload_n hx hb dX0_told_49 rfl (lv_at hl 3 rfl) ?_
            refine wp_mul hx hb dX0_told_50 ?_
            refine lv_iload_n hx hb dX0_told_51 rfl (lv_at hl 2 rfl) ?_
            refine wp_add hx hb dX0_told_52 ?_
            refine g_bld S hK hP 6 5 rfl rfl (by omega) (by decide) dX0_told_53 ?_
            refine wp_eq (tgt := 59) hx hb (by have := hlt k i hc hi; omega) (by have := hlt k j hc hj; omega) dX0_told_54 (by decide) (fun h3 => ?_) (fun h3 => ?_)
            · refine lv_iinc (v := nI (k + 1)) (lv' := [(3, .int (nI (k + 1))), (0, .ref (ad 0)), (1, .int (nI i)), (2, .int (nI j))]) hx hb dX0_told_59 hl (k := 3) rfl (sp_inc _) (by decide) rfl (fun ls hl => ?_)
              refine lv_goto (tgt := 24) hx hb dX0_told_62 (by decide) ?_
              exact ih (k + 1) (by omega) (by omega) (lt_s hall ((sp_L_iff co st k i j).mpr (by rw [← hca k i hc hi, ← hca k j hc hj]; exact h3))) ls (lv_sub hl [1, 2, 3, 0] rfl)
            · refine lv_iload_n hx hb dX0_told_57 rfl (lv_at hl 3 rfl) ?_
              exact ret ((nI k)) (co, st, sd, bc, bl, wc, wa, le, 1, sp_N co st, ca1) H locs ls _ dX0_told_58 rfl hP hD hS (⟨⟨sd, bc, bl, wc, wa, le, 1, sp_N co st, ca1, rfl, sp_XI_told hXI hca⟩, by rw [sp_aTold_ok co st hi hj]; exact (sp_told_at hc hall (by rw [sp_R_dec, ← hca k i hc hi, ← hca k j hc hj]; exact decide_eq_false h3)).symm⟩)
      refine lv_iconst (v := nI 0) hx hb dX0_told_22 (by decide) ?_
      refine lv_istore_n (lv' := [(3, .int (nI 0)), (0, .ref (ad 0)), (1, .int (nI i)), (2, .int (nI j))]) hx hb dX0_told_23 rfl hl (by decide) rfl (fun ls hl => ?_)
      exact loop (sp_N co st + 2) 0 (by omega) (by omega) lt_0 ls (lv_sub hl [1, 2, 3, 0] rfl)
    · refine lv_iconst (v := -1) hx hb dX0_told_16 (by decide) ?_
      exact ret ((-1)) (co, st, sd, bc, bl, wc, wa, le, tk, rc, ca) H locs ls _ dX0_told_17 rfl hP hD hS (⟨⟨sd, bc, bl, wc, wa, le, tk, rc, ca, rfl, hXI⟩, (sp_aTold_no co st (by rw [h, h2]; rfl)).symm⟩)
set_option maxHeartbeats 4000000 in
set_option maxRecDepth 100000 in
theorem mx_leads (l : Launch) (D : va_G) (ad : Nat → Nat) (dd : Nat → ClassId) (co st : Nat → Nat) (sd bc : Nat) (bl : Nat → Nat) (wc : Nat) (wa le : Nat → Nat) (tk rc : Nat) (ca : Nat → Nat) (o x : Int32) (hXI : sp_XI co st sd bc le tk rc ca) : MetI l D (tX dd) (wX ad dd) yX0_leads (ws_ yX0_leads cX0_leads 3 (some .int)) ({ frames := 3, cells := 0, slots := 0, locals := 74 } : Room) [.ref (ad 0), .int o, .int x] (co, st, sd, bc, bl, wc, wa, le, tk, rc, ca) (fun r v => sp_XV co st v ∧ r = sp_aLeads co st o x) := by
  refine gi_start (by decide) (Nat.le_of_ble_eq_true rfl) ?_
  intro p e s m as below meth c A Q S hA hK ret H locs hP hD hS ls hl
  have hx := S.1
  have hb := S.2.1
  have S : CallFix p m c cX0_leads 3 s as lw_all RX0 := S
  have hP : va_P D vwCl (wXs ad dd co st sd bc bl wc wa le tk rc ca) H := hP
  have hD : va_D A (wXs ad dd co st sd bc bl wc wa le tk rc ca) := hD
  have hl : lv_has ls 3 [(0, .ref (ad 0)), (1, .int o), (2, .int x)] := hl
  refine lv_iload_n hx hb dX0_leads_0 rfl (lv_at hl 1 rfl) ?_
  refine lv_if_lt (tgt := 17) hx hb dX0_leads_1 (by decide) (fun g => ?_) (fun g => ?_)
  · refine lv_iconst (v := -1) hx hb dX0_leads_17 (by decide) ?_
    exact ret ((-1)) (co, st, sd, bc, bl, wc, wa, le, tk, rc, ca) H locs ls _ dX0_leads_18 rfl hP hD hS (⟨⟨sd, bc, bl, wc, wa, le, tk, rc, ca, rfl, hXI⟩, (sp_aLeads_no co st (by rw [sp_ok_neg g]; rfl)).symm⟩)
  · refine lv_iload_n hx hb dX0_leads_4 rfl (lv_at hl 1 rfl) ?_
    refine lv_iconst (v := nI 1) hx hb dX0_leads_5 (by decide) ?_
    refine lv_icmp_gt (tgt := 17) hx hb dX0_leads_6 (by decide) (fun g2 => ?_) (fun g2 => ?_)
    · refine lv_iconst (v := -1) hx hb dX0_leads_17 (by decide) ?_
      exact ret ((-1)) (co, st, sd, bc, bl, wc, wa, le, tk, rc, ca) H locs ls _ dX0_leads_18 rfl hP hD hS (⟨⟨sd, bc, bl, wc, wa, le, tk, rc, ca, rfl, hXI⟩, (sp_aLeads_no co st (by rw [sp_ok_gt (n := 1) (by decide) g2]; rfl)).symm⟩)
    · have hok := sp_ok_ngt (n := 1) (by decide) g g2
      refine lv_aload_n hx hb dX0_leads_9 rfl (lv_at hl 0 rfl) ?_
      refine lv_iload_n hx hb dX0_leads_10 rfl (lv_at hl 2 rfl) ?_
      refine gi_call S [.int x] [] (mx_isState l D ad dd co st sd bc bl wc wa le tk rc ca x) (cwV 1 S.2.2.2.2 (lw_V q70 q72 qs0 q20 q73) rfl rfl rfl (by decide +kernel) ⟨Nat.le_of_ble_eq_true rfl, Nat.le_of_ble_eq_true rfl⟩) rfl rfl hK hP hD hS hA rfl rfl hl.1 (Nat.le_of_ble_eq_true rfl) dX0_leads_11 ⟨Nat.zero_le _, Nat.zero_le _⟩ (fun r v H locs hw hP hD hS => ?_)
      obtain ⟨rfl, rfl⟩ := hw
      have hP : va_P D vwCl (wXs ad dd co st sd bc bl wc wa le tk rc ca) H := hP
      have hD : va_D A (wXs ad dd co st sd bc bl wc wa le tk rc ca) := hD
      refine wp_ifneB (tgt := 19) hx hb dX0_leads_14 (by decide) (fun h => ?_) (fun h => ?_)
      · obtain ⟨q, hq, rfl⟩ := sp_ok_of hok (show 2 < 2 ^ 31 by decide)
        obtain ⟨j, hj, rfl⟩ := sp_ok_of h (show 10 < 2 ^ 31 by decide)
        refine lv_aload_n hx hb dX0_leads_19 rfl (lv_at hl 0 rfl) ?_
        refine gv_call S [] [] (mx_settle l D ad dd co st sd bc bl wc wa le tk rc ca hXI) (cwV 0 S.2.2.2.2 (lw_V q86 q88 qs2 q20 q89) rfl rfl rfl (by decide +kernel) ⟨Nat.le_of_ble_eq_true rfl, Nat.le_of_ble_eq_true rfl⟩) rfl rfl hK hP hD hS hA rfl rfl hl.1 (Nat.le_of_ble_eq_true rfl) dX0_leads_20 ⟨Nat.zero_le _, Nat.zero_le _⟩ (fun v H locs hw hP hD hS => ?_)
        obtain ⟨bl1, wc1, wa1, le1, rfl, hle⟩ := hw
        have hP : va_P D vwCl (wXs ad dd co st 1 (sp_NC co st) bl1 wc1 wa1 le1 tk rc ca) H := hP
        have hD : va_D A (wXs ad dd co st 1 (sp_NC co st) bl1 wc1 wa1 le1 tk rc ca) := hD
        have hlt : ∀ z, z < 10 → le1 z < 10 := fun z hz => by rw [hle z hz]; exact sp_L_lt co st _ hz
        refine lv_aload_n hx hb dX0_leads_23 rfl (lv_at hl 0 rfl) ?_
        refine lv_aload_n hx hb dX0_leads_24 rfl (lv_at hl 0 rfl) ?_
        refine x_get S hK hP rfl 1 (by decide) q31 rfl rfl dX0_leads_25 ?_
        refine lv_bipush (v := nI 10) hx hb dX0_leads_28 (by decide) ?_
        refine lv_iload_n hx hb dX0_leads_30 rfl (lv_at hl 1 rfl) ?_
        refine wp_mul hx hb dX0_leads_31 ?_
        refine lv_iload_n hx hb dX0_leads_32 rfl (lv_at hl 2 rfl) ?_
        refine wp_add hx hb dX0_leads_33 ?_
        refine g_ild S hK hP 2 1 rfl rfl (by omega) (by decide) dX0_leads_34 ?_
        refine gi_call S [.int (nI (st ((10 * q) + j)))] [] (mx_leadersOf l D ad dd co st 1 (sp_NC co st) bl1 wc1 wa1 le1 tk rc ca (st (10 * q + j)) (Nat.lt_of_lt_of_le (hXI.2.1 _ (by omega)) (by decide)) hlt) (cwV 1 S.2.2.2.2 (lw_V q142 q144 qs11 q20 q145) rfl rfl rfl (by decide +kernel) ⟨Nat.le_of_ble_eq_true rfl, Nat.le_of_ble_eq_true rfl⟩) rfl rfl hK hP hD hS hA rfl rfl hl.1 (Nat.le_of_ble_eq_true rfl) dX0_leads_35 ⟨Nat.zero_le _, Nat.zero_le _⟩ (fun r v H locs hw hP hD hS => ?_)
        obtain ⟨rfl, rfl⟩ := hw
        have hP : va_P D vwCl (wXs ad dd co st 1 (sp_NC co st) bl1 wc1 wa1 le1 tk rc ca) H := hP
        have hD : va_D A (wXs ad dd co st 1 (sp_NC co st) bl1 wc1 wa1 le1 tk rc ca) := hD
        exact ret ((nI (sp_img (fun z => (st (10 * q + j)).testBit z) le1 10))) (co, st, 1, sp_NC co st, bl1, wc1, wa1, le1, tk, rc, ca) H locs ls _ dX0_leads_38 rfl hP hD hS (⟨⟨1, sp_NC co st, bl1, wc1, wa1, le1, tk, rc, ca, rfl, sp_XI_set hXI hle⟩, by rw [sp_aLeads_ok co st hq hj]; exact congrArg nI (sp_img_congr (fun _ _ => rfl) hle)⟩)
      · refine lv_iconst (v := -1) hx hb dX0_leads_17 (by decide) ?_
        exact ret ((-1)) (co, st, sd, bc, bl, wc, wa, le, tk, rc, ca) H locs ls _ dX0_leads_18 rfl hP hD hS (⟨⟨sd, bc, bl, wc, wa, le, tk, rc, ca, rfl, hXI⟩, (sp_aLeads_no co st (by rw [h, Bool.and_false])).symm⟩)
set_option maxHeartbeats 4000000 in
set_option maxRecDepth 100000 in
theorem mx_colours (l : Launch) (D : va_G) (ad : Nat → Nat) (dd : Nat → ClassId) (co st : Nat → Nat) (sd bc : Nat) (bl : Nat → Nat) (wc : Nat) (wa le : Nat → Nat) (tk rc : Nat) (ca : Nat → Nat) (hXI : sp_XI co st sd bc le tk rc ca) : MetI l D (tX dd) (wX ad dd) yX0_colours (ws_ yX0_colours cX0_colours 3 (some .int)) ({ frames := 1, cells := 0, slots := 0, locals := 23 } : Room) [.ref (ad 0)] (co, st, sd, bc, bl, wc, wa, le, tk, rc, ca) (fun r v => sp_XV co st v ∧ r = sp_aColours co) := by
  refine gi_start (by decide) (Nat.le_of_ble_eq_true rfl) ?_
  intro p e s m as below meth c A Q S hA hK ret H locs hP hD hS ls hl
  have hx := S.1
  have hb := S.2.1
  have S : CallFix p m c cX0_colours 3 s as lw_all RX0 := S
  have hP : va_P D vwCl (wXs ad dd co st sd bc bl wc wa le tk rc ca) H := hP
  have hD : va_D A (wXs ad dd co st sd bc bl wc wa le tk rc ca) := hD
  have hl : lv_has ls 3 [(0, .ref (ad 0))] := hl
  have loop : ∀ (n i : Nat), i ≤ 10 → 10 < i + n → ∀ ls : Array Slot, lv_has ls 3 [(0, .ref (ad 0)), (1, .int (nI (sp_img (fun _ => true) co i))), (2, .int (nI i))] → W p l e ({ frames := 1, cells := 0, slots := 0, locals := 23 } : Room) s m as below meth c H locs 0 0 Q (F0 m 4 ls []) := by
    intro n
    induction n with
    | zero => intro i h1 h2; omega
    | succ n ih =>
      intro i hi hn ls hl
      refine lv_iload_n hx hb dX0_colours_4 rfl (lv_at hl 2 rfl) ?_
      refine lv_bipush (v := nI 10) hx hb dX0_colours_5 (by decide) ?_
      refine wp_ge (tgt := 27) hx hb (by omega) (by omega) dX0_colours_7 (by decide) (fun hc => ?_) (fun hc => ?_)
      · have hi10 : i = 10 := by omega
        rw [hi10] at hl
        refine lv_aload_n hx hb dX0_colours_27 rfl (lv_at hl 0 rfl) ?_
        refine lv_iload_n hx hb dX0_colours_28 rfl (lv_at hl 1 rfl) ?_
        refine gi_call S [.int (nI (sp_img (fun _ => true) co 10))] [] (mx_bitsIn l D ad dd co st sd bc bl wc wa le tk rc ca (sp_img (fun _ => true) co 10) (Nat.lt_of_lt_of_le (sp_img_lt (d := 4) (fun s hs _ => hXI.1 s hs)) (by decide))) (cwV 1 S.2.2.2.2 (lw_V q150 q152 qs12 q20 q153) rfl rfl rfl (by decide +kernel) ⟨Nat.le_of_ble_eq_true rfl, Nat.le_of_ble_eq_true rfl⟩) rfl rfl hK hP hD hS hA rfl rfl hl.1 (Nat.le_of_ble_eq_true rfl) dX0_colours_29 ⟨Nat.zero_le _, Nat.zero_le _⟩ (fun r v H locs hw hP hD hS => ?_)
        obtain ⟨rfl, rfl⟩ := hw
        have hP : va_P D vwCl (wXs ad dd co st sd bc bl wc wa le tk rc ca) H := hP
        have hD : va_D A (wXs ad dd co st sd bc bl wc wa le tk rc ca) := hD
        exact ret ((nI (sp_pop (sp_img (fun _ => true) co 10) 10))) (co, st, sd, bc, bl, wc, wa, le, tk, rc, ca) H locs ls _ dX0_colours_32 rfl hP hD hS (⟨⟨sd, bc, bl, wc, wa, le, tk, rc, ca, rfl, hXI⟩, rfl⟩)
      · refine lv_iload_n hx hb dX0_colours_10 rfl (lv_at hl 1 rfl) ?_
        refine lv_iconst (v := nI 1) hx hb dX0_colours_11 (by decide) ?_
        refine lv_aload_n hx hb dX0_colours_12 rfl (lv_at hl 0 rfl) ?_
        refine x_get S hK hP rfl 0 (by decide) q30 rfl rfl dX0_colours_13 ?_
        refine lv_iload_n hx hb dX0_colours_16 rfl (lv_at hl 2 rfl) ?_
        refine g_bld S hK hP 1 0 rfl rfl (by omega) (by decide) dX0_colours_17 ?_
        refine wp_shl hx hb (by have := hXI.1 i hc; omega) dX0_colours_18 ?_
        refine wp_or hx hb dX0_colours_19 ?_
        refine lv_istore_n (lv' := [(1, .int (nI ((sp_img (fun _ => true) co i) ||| (2 ^ (co i))))), (0, .ref (ad 0)), (2, .int (nI i))]) hx hb dX0_colours_20 rfl hl (by decide) rfl (fun ls hl => ?_)
        refine lv_iinc (v := nI (i + 1)) (lv' := [(2, .int (nI (i + 1))), (1, .int (nI ((sp_img (fun _ => true) co i) ||| (2 ^ (co i))))), (0, .ref (ad 0))]) hx hb dX0_colours_21 hl (k := 2) rfl (sp_inc _) (by decide) rfl (fun ls hl => ?_)
        refine lv_goto (tgt := 4) hx hb dX0_colours_24 (by decide) ?_
        exact ih (i + 1) (by omega) (by omega) ls (by rw [sp_img_yes (p := fun _ => true) rfl]; exact lv_sub hl [2, 1, 0] rfl)
  refine lv_iconst (v := nI 0) hx hb dX0_colours_0 (by decide) ?_
  refine lv_istore_n (lv' := [(1, .int (nI 0)), (0, .ref (ad 0))]) hx hb dX0_colours_1 rfl hl (by decide) rfl (fun ls hl => ?_)
  refine lv_iconst (v := nI 0) hx hb dX0_colours_2 (by decide) ?_
  refine lv_istore_n (lv' := [(2, .int (nI 0)), (1, .int (nI 0)), (0, .ref (ad 0))]) hx hb dX0_colours_3 rfl hl (by decide) rfl (fun ls hl => ?_)
  exact loop 11 0 (by omega) (by omega) ls (lv_sub hl [2, 1, 0] rfl)
set_option maxHeartbeats 4000000 in
set_option maxRecDepth 100000 in
theorem mx_reduce (l : Launch) (D : va_G) (ad : Nat → Nat) (dd : Nat → ClassId) (co st : Nat → Nat) (sd bc : Nat) (bl : Nat → Nat) (wc : Nat) (wa le : Nat → Nat) (tk rc : Nat) (ca : Nat → Nat) (hXI : sp_XI co st sd bc le tk rc ca) : MetI l D (tX dd) (wX ad dd) yX0_reduce (ws_ yX0_reduce cX0_reduce 3 (some .int)) ({ frames := 3, cells := 0, slots := 0, locals := 74 } : Room) [.ref (ad 0)] (co, st, sd, bc, bl, wc, wa, le, tk, rc, ca) (fun r v => (∃ st1, (∀ a, a < 20 → st1 a = sp_rd co st a) ∧ sp_XV co st1 v) ∧ r = nI (sp_tot (sp_rd co st) 20)) := by
  refine gi_start (by decide) (Nat.le_of_ble_eq_true rfl) ?_
  intro p e s m as below meth c A Q S hA hK ret H locs hP hD hS ls hl
  have hx := S.1
  have hb := S.2.1
  have S : CallFix p m c cX0_reduce 3 s as lw_all RX0 := S
  have hP : va_P D vwCl (wXs ad dd co st sd bc bl wc wa le tk rc ca) H := hP
  have hD : va_D A (wXs ad dd co st sd bc bl wc wa le tk rc ca) := hD
  have hl : lv_has ls 3 [(0, .ref (ad 0))] := hl
  refine lv_aload_n hx hb dX0_reduce_0 rfl (lv_at hl 0 rfl) ?_
  refine gv_call S [] [] (mx_settle l D ad dd co st sd bc bl wc wa le tk rc ca hXI) (cwV 0 S.2.2.2.2 (lw_V q86 q88 qs2 q20 q89) rfl rfl rfl (by decide +kernel) ⟨Nat.le_of_ble_eq_true rfl, Nat.le_of_ble_eq_true rfl⟩) rfl rfl hK hP hD hS hA rfl rfl hl.1 (Nat.le_of_ble_eq_true rfl) dX0_reduce_1 ⟨Nat.zero_le _, Nat.zero_le _⟩ (fun v H locs hw hP hD hS => ?_)
  obtain ⟨bl1, wc1, wa1, le1, rfl, hle⟩ := hw
  have hP : va_P D vwCl (wXs ad dd co st 1 (sp_NC co st) bl1 wc1 wa1 le1 tk rc ca) H := hP
  have hD : va_D A (wXs ad dd co st 1 (sp_NC co st) bl1 wc1 wa1 le1 tk rc ca) := hD
  have hlt : ∀ z, z < 10 → le1 z < 10 := fun z hz => by rw [hle z hz]; exact sp_L_lt co st _ hz
  have loop : ∀ (n i : Nat) (st1 : Nat → Nat), i ≤ 20 → 20 < i + n → (∀ a, a < i → st1 a = sp_rd co st a) → (∀ a, i ≤ a → st1 a = st a) → ∀ (H : Heap) (locs : List Loc), va_P D vwCl (wXs ad dd co st1 1 (sp_NC co st) bl1 wc1 wa1 le1 tk rc ca) H → va_D A (wXs ad dd co st1 1 (sp_NC co st) bl1 wc1 wa1 le1 tk rc ca) → va_S A s.heap H locs → ∀ ls : Array Slot, lv_has ls 3 [(0, .ref (ad 0)), (1, .int (nI (sp_tot (sp_rd co st) i))), (2, .int (nI i))] → W p l e ({ frames := 3, cells := 0, slots := 0, locals := 74 } : Room) s m as below meth c H locs 0 0 Q (F0 m 8 ls []) := by
    intro n
    induction n with
    | zero => intro i _ h1 h2; omega
    | succ n ih =>
      intro i st1 hi hn hlo hhi H locs hP hD hS ls hl
      refine lv_iload_n hx hb dX0_reduce_8 rfl (lv_at hl 2 rfl) ?_
      refine lv_bipush (v := nI 20) hx hb dX0_reduce_9 (by decide) ?_
      refine wp_ge (tgt := 49) hx hb (by omega) (by omega) dX0_reduce_11 (by decide) (fun hc => ?_) (fun hc => ?_)
      · have hi20 : i = 20 := by omega
        rw [hi20] at hl hlo
        refine lv_aload_n hx hb dX0_reduce_49 rfl (lv_at hl 0 rfl) ?_
        refine gv_call S [] [] (mx_change l D ad dd co st1 1 (sp_NC co st) bl1 wc1 wa1 le1 tk rc ca) (cwV 0 S.2.2.2.2 (lw_V q74 q76 qs1 q20 q77) rfl rfl rfl (by decide +kernel) ⟨Nat.le_of_ble_eq_true rfl, Nat.le_of_ble_eq_true rfl⟩) rfl rfl hK hP hD hS hA rfl rfl hl.1 (Nat.le_of_ble_eq_true rfl) dX0_reduce_50 ⟨Nat.zero_le _, Nat.zero_le _⟩ (fun v H locs hw hP hD hS => ?_)
        obtain rfl := hw
        have hP : va_P D vwCl (wXs ad dd co st1 0 (sp_NC co st) bl1 wc1 wa1 le1 0 rc ca) H := hP
        have hD : va_D A (wXs ad dd co st1 0 (sp_NC co st) bl1 wc1 wa1 le1 0 rc ca) := hD
        refine lv_iload_n hx hb dX0_reduce_53 rfl (lv_at hl 1 rfl) ?_
        exact ret ((nI (sp_tot (sp_rd co st) 20))) (co, st1, 0, sp_NC co st, bl1, wc1, wa1, le1, 0, rc, ca) H locs ls _ dX0_reduce_54 rfl hP hD hS (⟨⟨st1, hlo, 0, sp_NC co st, bl1, wc1, wa1, le1, 0, rc, ca, rfl, sp_XI_new hXI.1 (fun a ha => by rw [hlo a ha]; exact sp_rd_lt co st a)⟩, rfl⟩)
      · refine lv_aload_n hx hb dX0_reduce_14 rfl (lv_at hl 0 rfl) ?_
        refine x_get S hK hP rfl 1 (by decide) q31 rfl rfl dX0_reduce_15 ?_
        refine lv_iload_n hx hb dX0_reduce_18 rfl (lv_at hl 2 rfl) ?_
        refine lv_aload_n hx hb dX0_reduce_19 rfl (lv_at hl 0 rfl) ?_
        refine lv_aload_n hx hb dX0_reduce_20 rfl (lv_at hl 0 rfl) ?_
        refine x_get S hK hP rfl 1 (by decide) q31 rfl rfl dX0_reduce_21 ?_
        refine lv_iload_n hx hb dX0_reduce_24 rfl (lv_at hl 2 rfl) ?_
        refine g_ild S hK hP 2 1 rfl rfl (by omega) (by decide) dX0_reduce_25 ?_
        have hst1 : st1 i = st i := hhi i (Nat.le_refl i)
        have hsti := hXI.2.1 i hc
        refine gi_call S [.int (nI (st1 i))] [.int (nI i), .ref (ad 2)] (mx_leadersOf l D ad dd co st1 1 (sp_NC co st) bl1 wc1 wa1 le1 tk rc ca (st1 i) (by omega) hlt) (cwV 1 S.2.2.2.2 (lw_V q142 q144 qs11 q20 q145) rfl rfl rfl (by decide +kernel) ⟨Nat.le_of_ble_eq_true rfl, Nat.le_of_ble_eq_true rfl⟩) rfl rfl hK hP hD hS hA rfl rfl hl.1 (Nat.le_of_ble_eq_true rfl) dX0_reduce_26 ⟨Nat.zero_le _, Nat.zero_le _⟩ (fun r v H locs hw hP hD hS => ?_)
        obtain ⟨rfl, rfl⟩ := hw
        have hP : va_P D vwCl (wXs ad dd co st1 1 (sp_NC co st) bl1 wc1 wa1 le1 tk rc ca) H := hP
        have hD : va_D A (wXs ad dd co st1 1 (sp_NC co st) bl1 wc1 wa1 le1 tk rc ca) := hD
        refine wp_to (nI (sp_rd co st i)) (congrArg nI (by rw [hst1]; exact sp_img_congr (fun _ _ => rfl) hle)) ?_
        refine g_ist S hK hP hD hS 2 1 rfl rfl (by omega) (by decide) dX0_reduce_29 (fun H locs hP hD hS => ?_)
        have hP : va_P D vwCl (wXs ad dd co (va_up st1 i (sp_rd co st i)) 1 (sp_NC co st) bl1 wc1 wa1 le1 tk rc ca) H := hP
        have hD : va_D A (wXs ad dd co (va_up st1 i (sp_rd co st i)) 1 (sp_NC co st) bl1 wc1 wa1 le1 tk rc ca) := hD
        refine lv_iload_n hx hb dX0_reduce_30 rfl (lv_at hl 1 rfl) ?_
        refine lv_aload_n hx hb dX0_reduce_31 rfl (lv_at hl 0 rfl) ?_
        refine lv_aload_n hx hb dX0_reduce_32 rfl (lv_at hl 0 rfl) ?_
        refine x_get S hK hP rfl 1 (by decide) q31 rfl rfl dX0_reduce_33 ?_
        refine lv_iload_n hx hb dX0_reduce_36 rfl (lv_at hl 2 rfl) ?_
        refine g_ild S hK hP 2 1 rfl rfl (by omega) (by decide) dX0_reduce_37 ?_
        refine wp_to (nI (sp_rd co st i)) (congrArg nI (sp_up_s _ _ _)) ?_
        refine gi_call S [.int (nI (sp_rd co st i))] [.int (nI (sp_tot (sp_rd co st) i))] (mx_bitsIn l D ad dd co (va_up st1 i (sp_rd co st i)) 1 (sp_NC co st) bl1 wc1 wa1 le1 tk rc ca (sp_rd co st i) (Nat.lt_of_lt_of_le (sp_rd_lt co st i) (by decide))) (cwV 1 S.2.2.2.2 (lw_V q150 q152 qs12 q20 q153) rfl rfl rfl (by decide +kernel) ⟨Nat.le_of_ble_eq_true rfl, Nat.le_of_ble_eq_true rfl⟩) rfl rfl hK hP hD hS hA rfl rfl hl.1 (Nat.le_of_ble_eq_true rfl) dX0_reduce_38 ⟨Nat.zero_le _, Nat.zero_le _⟩ (fun r v H locs hw hP hD hS => ?_)
        obtain ⟨rfl, rfl⟩ := hw
        have hP : va_P D vwCl (wXs ad dd co (va_up st1 i (sp_rd co st i)) 1 (sp_NC co st) bl1 wc1 wa1 le1 tk rc ca) H := hP
        have hD : va_D A (wXs ad dd co (va_up st1 i (sp_rd co st i)) 1 (sp_NC co st) bl1 wc1 wa1 le1 tk rc ca) := hD
        refine wp_add hx hb dX0_reduce_41 ?_
        refine lv_istore_n (lv' := [(1, .int (nI ((sp_tot (sp_rd co st) i) + (sp_pop (sp_rd co st i) 10)))), (0, .ref (ad 0)), (2, .int (nI i))]) hx hb dX0_reduce_42 rfl hl (by decide) rfl (fun ls hl => ?_)
        refine lv_iinc (v := nI (i + 1)) (lv' := [(2, .int (nI (i + 1))), (1, .int (nI ((sp_tot (sp_rd co st) i) + (sp_pop (sp_rd co st i) 10)))), (0, .ref (ad 0))]) hx hb dX0_reduce_43 hl (k := 2) rfl (sp_inc _) (by decide) rfl (fun ls hl => ?_)
        refine lv_goto (tgt := 8) hx hb dX0_reduce_46 (by decide) ?_
        exact ih (i + 1) _ (by omega) (by omega) (fun a ha => if z : a = i then (by rw [z, sp_up_s]) else (by rw [sp_up_n _ _ z]; exact hlo a (by omega))) (fun a ha => by rw [sp_up_n _ _ (by omega)]; exact hhi a (by omega)) H locs hP hD hS ls (lv_sub hl [2, 1, 0] rfl)
  refine lv_iconst (v := nI 0) hx hb dX0_reduce_4 (by decide) ?_
  refine lv_istore_n (lv' := [(1, .int (nI 0)), (0, .ref (ad 0))]) hx hb dX0_reduce_5 rfl hl (by decide) rfl (fun ls hl => ?_)
  refine lv_iconst (v := nI 0) hx hb dX0_reduce_6 (by decide) ?_
  refine lv_istore_n (lv' := [(2, .int (nI 0)), (1, .int (nI 0)), (0, .ref (ad 0))]) hx hb dX0_reduce_7 rfl hl (by decide) rfl (fun ls hl => ?_)
  exact loop 21 0 st (by omega) (by omega) lt_0 (fun _ _ => rfl) H locs hP hD hS ls (lv_sub hl [2, 1, 0] rfl)
set_option maxHeartbeats 4000000 in
set_option maxRecDepth 100000 in
theorem mx_colour (l : Launch) (D : va_G) (ad : Nat → Nat) (dd : Nat → ClassId) (co st : Nat → Nat) (sd bc : Nat) (bl : Nat → Nat) (wc : Nat) (wa le : Nat → Nat) (tk rc : Nat) (ca : Nat → Nat) (x y : Int32) (hXI : sp_XI co st sd bc le tk rc ca) : MetI l D (tX dd) (wX ad dd) yX0_colour (ws_ yX0_colour cX0_colour 3 (some .boolean)) ({ frames := 1, cells := 0, slots := 0, locals := 21 } : Room) [.ref (ad 0), .int x, .int y] (co, st, sd, bc, bl, wc, wa, le, tk, rc, ca) (fun r v => sp_XV (sp_colU co x y) st v ∧ r = nI (sp_ok x 10 && sp_ok y 4).toNat) := by
  refine gi_start (by decide) (Nat.le_of_ble_eq_true rfl) ?_
  intro p e s m as below meth c A Q S hA hK ret H locs hP hD hS ls hl
  have hx := S.1
  have hb := S.2.1
  have S : CallFix p m c cX0_colour 3 s as lw_all RX0 := S
  have hP : va_P D vwCl (wXs ad dd co st sd bc bl wc wa le tk rc ca) H := hP
  have hD : va_D A (wXs ad dd co st sd bc bl wc wa le tk rc ca) := hD
  have hl : lv_has ls 3 [(0, .ref (ad 0)), (1, .int x), (2, .int y)] := hl
  refine lv_aload_n hx hb dX0_colour_0 rfl (lv_at hl 0 rfl) ?_
  refine lv_iload_n hx hb dX0_colour_1 rfl (lv_at hl 1 rfl) ?_
  refine gi_call S [.int x] [] (mx_isState l D ad dd co st sd bc bl wc wa le tk rc ca x) (cwV 1 S.2.2.2.2 (lw_V q70 q72 qs0 q20 q73) rfl rfl rfl (by decide +kernel) ⟨Nat.le_of_ble_eq_true rfl, Nat.le_of_ble_eq_true rfl⟩) rfl rfl hK hP hD hS hA rfl rfl hl.1 (Nat.le_of_ble_eq_true rfl) dX0_colour_2 ⟨Nat.zero_le _, Nat.zero_le _⟩ (fun r v H locs hw hP hD hS => ?_)
  obtain ⟨rfl, rfl⟩ := hw
  have hP : va_P D vwCl (wXs ad dd co st sd bc bl wc wa le tk rc ca) H := hP
  have hD : va_D A (wXs ad dd co st sd bc bl wc wa le tk rc ca) := hD
  refine wp_ifeqB (tgt := 17) hx hb dX0_colour_5 (by decide) (fun h => ?_) (fun h => ?_)
  · refine lv_iconst (v := nI 0) hx hb dX0_colour_17 (by decide) ?_
    exact ret ((nI 0)) (co, st, sd, bc, bl, wc, wa, le, tk, rc, ca) H locs ls _ dX0_colour_18 rfl hP hD hS (⟨by rw [sp_colU_no co (by rw [h]; rfl)]; exact ⟨sd, bc, bl, wc, wa, le, tk, rc, ca, rfl, hXI⟩, by rw [h]; rfl⟩)
  · refine lv_iload_n hx hb dX0_colour_8 rfl (lv_at hl 2 rfl) ?_
    refine lv_if_lt (tgt := 17) hx hb dX0_colour_9 (by decide) (fun h2 => ?_) (fun h2 => ?_)
    · refine lv_iconst (v := nI 0) hx hb dX0_colour_17 (by decide) ?_
      exact ret ((nI 0)) (co, st, sd, bc, bl, wc, wa, le, tk, rc, ca) H locs ls _ dX0_colour_18 rfl hP hD hS (⟨by rw [sp_colU_no co (by rw [sp_ok_neg h2, Bool.and_false])]; exact ⟨sd, bc, bl, wc, wa, le, tk, rc, ca, rfl, hXI⟩, by rw [sp_ok_neg h2, Bool.and_false]; rfl⟩)
    · refine lv_iload_n hx hb dX0_colour_12 rfl (lv_at hl 2 rfl) ?_
      refine lv_iconst (v := nI 3) hx hb dX0_colour_13 (by decide) ?_
      refine lv_icmp_le (tgt := 19) hx hb dX0_colour_14 (by decide) (fun h3 => ?_) (fun h3 => ?_)
      · have hok := sp_ok_ngt (n := 3) (by decide) h2 (fun q => Int32.lt_irrefl (Int32.lt_of_lt_of_le q h3))
        obtain ⟨j, hj, rfl⟩ := sp_ok_of h (show 10 < 2 ^ 31 by decide)
        obtain ⟨q, hq, rfl⟩ := sp_ok_of hok (show 4 < 2 ^ 31 by decide)
        refine lv_aload_n hx hb dX0_colour_19 rfl (lv_at hl 0 rfl) ?_
        refine x_get S hK hP rfl 0 (by decide) q30 rfl rfl dX0_colour_20 ?_
        refine lv_iload_n hx hb dX0_colour_23 rfl (lv_at hl 1 rfl) ?_
        refine lv_iload_n hx hb dX0_colour_24 rfl (lv_at hl 2 rfl) ?_
        refine lv_i2b (v := nI q) hx hb dX0_colour_25 (sp_i8 _ (by omega)) ?_
        refine g_bst S hK hP hD hS 1 0 rfl rfl (by omega) (by decide) (by omega) dX0_colour_26 (fun H locs hP hD hS => ?_)
        have hP : va_P D vwCl (wXs ad dd (va_up co j q) st sd bc bl wc wa le tk rc ca) H := hP
        have hD : va_D A (wXs ad dd (va_up co j q) st sd bc bl wc wa le tk rc ca) := hD
        refine lv_aload_n hx hb dX0_colour_27 rfl (lv_at hl 0 rfl) ?_
        refine gv_call S [] [] (mx_change l D ad dd (va_up co j q) st sd bc bl wc wa le tk rc ca) (cwV 0 S.2.2.2.2 (lw_V q74 q76 qs1 q20 q77) rfl rfl rfl (by decide +kernel) ⟨Nat.le_of_ble_eq_true rfl, Nat.le_of_ble_eq_true rfl⟩) rfl rfl hK hP hD hS hA rfl rfl hl.1 (Nat.le_of_ble_eq_true rfl) dX0_colour_28 ⟨Nat.zero_le _, Nat.zero_le _⟩ (fun v H locs hw hP hD hS => ?_)
        obtain rfl := hw
        have hP : va_P D vwCl (wXs ad dd (va_up co j q) st 0 bc bl wc wa le 0 rc ca) H := hP
        have hD : va_D A (wXs ad dd (va_up co j q) st 0 bc bl wc wa le 0 rc ca) := hD
        refine lv_iconst (v := nI 1) hx hb dX0_colour_31 (by decide) ?_
        exact ret ((nI 1)) (va_up co j q, st, 0, bc, bl, wc, wa, le, 0, rc, ca) H locs ls _ dX0_colour_32 rfl hP hD hS (⟨by rw [sp_colU_ok co hj hq]; exact ⟨0, bc, bl, wc, wa, le, 0, rc, ca, rfl, sp_XI_new (sp_up_lt hXI.1 hq) hXI.2.1⟩, by rw [sp_ok9 hj, sp_ok4 hq]; rfl⟩)
      · have hbad := sp_ok_gt (n := 3) (x := y) (by decide) (Int32.not_le.mp h3)
        refine lv_iconst (v := nI 0) hx hb dX0_colour_17 (by decide) ?_
        exact ret ((nI 0)) (co, st, sd, bc, bl, wc, wa, le, tk, rc, ca) H locs ls _ dX0_colour_18 rfl hP hD hS (⟨by rw [sp_colU_no co (by rw [hbad, Bool.and_false])]; exact ⟨sd, bc, bl, wc, wa, le, tk, rc, ca, rfl, hXI⟩, by rw [hbad, Bool.and_false]; rfl⟩)
set_option maxHeartbeats 4000000 in
set_option maxRecDepth 100000 in
theorem mx_step (l : Launch) (D : va_G) (ad : Nat → Nat) (dd : Nat → ClassId) (co st : Nat → Nat) (sd bc : Nat) (bl : Nat → Nat) (wc : Nat) (wa le : Nat → Nat) (tk rc : Nat) (ca : Nat → Nat) (o x y : Int32) (th : Bool) (hXI : sp_XI co st sd bc le tk rc ca) : MetI l D (tX dd) (wX ad dd) yX0_step (ws_ yX0_step cX0_step 5 (some .boolean)) ({ frames := 1, cells := 0, slots := 0, locals := 21 } : Room) [.ref (ad 0), .int o, .int x, .int y, .int (nI th.toNat)] (co, st, sd, bc, bl, wc, wa, le, tk, rc, ca) (fun r v => sp_XV co (sp_stU st o x y th) v ∧ r = nI (sp_ok o 2 && sp_ok x 10 && sp_ok y 10).toNat) := by
  refine gi_start (by decide) (Nat.le_of_ble_eq_true rfl) ?_
  intro p e s m as below meth c A Q S hA hK ret H locs hP hD hS ls hl
  have hx := S.1
  have hb := S.2.1
  have S : CallFix p m c cX0_step 5 s as lw_all RX0 := S
  have hP : va_P D vwCl (wXs ad dd co st sd bc bl wc wa le tk rc ca) H := hP
  have hD : va_D A (wXs ad dd co st sd bc bl wc wa le tk rc ca) := hD
  have hl : lv_has ls 5 [(0, .ref (ad 0)), (1, .int o), (2, .int x), (3, .int y), (4, .int (nI th.toNat))] := hl
  refine lv_iload_n hx hb dX0_step_0 rfl (lv_at hl 1 rfl) ?_
  refine lv_if_lt (tgt := 25) hx hb dX0_step_1 (by decide) (fun g => ?_) (fun g => ?_)
  · refine lv_iconst (v := nI 0) hx hb dX0_step_25 (by decide) ?_
    exact ret ((nI 0)) (co, st, sd, bc, bl, wc, wa, le, tk, rc, ca) H locs ls _ dX0_step_26 rfl hP hD hS (⟨by rw [sp_stU_no st th (by rw [sp_ok_neg g, Bool.false_and, Bool.false_and])]; exact ⟨sd, bc, bl, wc, wa, le, tk, rc, ca, rfl, hXI⟩, by rw [sp_ok_neg g, Bool.false_and, Bool.false_and]; rfl⟩)
  · refine lv_iload_n hx hb dX0_step_4 rfl (lv_at hl 1 rfl) ?_
    refine lv_iconst (v := nI 1) hx hb dX0_step_5 (by decide) ?_
    refine lv_icmp_gt (tgt := 25) hx hb dX0_step_6 (by decide) (fun g2 => ?_) (fun g2 => ?_)
    · refine lv_iconst (v := nI 0) hx hb dX0_step_25 (by decide) ?_
      exact ret ((nI 0)) (co, st, sd, bc, bl, wc, wa, le, tk, rc, ca) H locs ls _ dX0_step_26 rfl hP hD hS (⟨by rw [sp_stU_no st th (by rw [sp_ok_gt (n := 1) (by decide) g2, Bool.false_and, Bool.false_and])]; exact ⟨sd, bc, bl, wc, wa, le, tk, rc, ca, rfl, hXI⟩, by rw [sp_ok_gt (n := 1) (by decide) g2, Bool.false_and, Bool.false_and]; rfl⟩)
    · have hok := sp_ok_ngt (n := 1) (by decide) g g2
      refine lv_aload_n hx hb dX0_step_9 rfl (lv_at hl 0 rfl) ?_
      refine lv_iload_n hx hb dX0_step_10 rfl (lv_at hl 2 rfl) ?_
      refine gi_call S [.int x] [] (mx_isState l D ad dd co st sd bc bl wc wa le tk rc ca x) (cwV 1 S.2.2.2.2 (lw_V q70 q72 qs0 q20 q73) rfl rfl rfl (by decide +kernel) ⟨Nat.le_of_ble_eq_true rfl, Nat.le_of_ble_eq_true rfl⟩) rfl rfl hK hP hD hS hA rfl rfl hl.1 (Nat.le_of_ble_eq_true rfl) dX0_step_11 ⟨Nat.zero_le _, Nat.zero_le _⟩ (fun r v H locs hw hP hD hS => ?_)
      obtain ⟨rfl, rfl⟩ := hw
      have hP : va_P D vwCl (wXs ad dd co st sd bc bl wc wa le tk rc ca) H := hP
      have hD : va_D A (wXs ad dd co st sd bc bl wc wa le tk rc ca) := hD
      refine wp_ifeqB (tgt := 25) hx hb dX0_step_14 (by decide) (fun h => ?_) (fun h => ?_)
      · refine lv_iconst (v := nI 0) hx hb dX0_step_25 (by decide) ?_
        exact ret ((nI 0)) (co, st, sd, bc, bl, wc, wa, le, tk, rc, ca) H locs ls _ dX0_step_26 rfl hP hD hS (⟨by rw [sp_stU_no st th (by rw [h, Bool.and_false, Bool.false_and])]; exact ⟨sd, bc, bl, wc, wa, le, tk, rc, ca, rfl, hXI⟩, by rw [h, Bool.and_false, Bool.false_and]; rfl⟩)
      · refine lv_aload_n hx hb dX0_step_17 rfl (lv_at hl 0 rfl) ?_
        refine lv_iload_n hx hb dX0_step_18 rfl (lv_at hl 3 rfl) ?_
        refine gi_call S [.int y] [] (mx_isState l D ad dd co st sd bc bl wc wa le tk rc ca y) (cwV 1 S.2.2.2.2 (lw_V q70 q72 qs0 q20 q73) rfl rfl rfl (by decide +kernel) ⟨Nat.le_of_ble_eq_true rfl, Nat.le_of_ble_eq_true rfl⟩) rfl rfl hK hP hD hS hA rfl rfl hl.1 (Nat.le_of_ble_eq_true rfl) dX0_step_19 ⟨Nat.zero_le _, Nat.zero_le _⟩ (fun r v H locs hw hP hD hS => ?_)
        obtain ⟨rfl, rfl⟩ := hw
        have hP : va_P D vwCl (wXs ad dd co st sd bc bl wc wa le tk rc ca) H := hP
        have hD : va_D A (wXs ad dd co st sd bc bl wc wa le tk rc ca) := hD
        refine wp_ifneB (tgt := 27) hx hb dX0_step_22 (by decide) (fun h2 => ?_) (fun h2 => ?_)
        · obtain ⟨q, hq, rfl⟩ := sp_ok_of hok (show 2 < 2 ^ 31 by decide)
          obtain ⟨i, hi, rfl⟩ := sp_ok_of h (show 10 < 2 ^ 31 by decide)
          obtain ⟨j, hj, rfl⟩ := sp_ok_of h2 (show 10 < 2 ^ 31 by decide)
          have hsti := hXI.2.1 (10 * q + i) (by omega)
          refine lv_iload hx hb dX0_step_27 (lv_at hl 4 rfl) ?_
          refine wp_ifeqB (tgt := 52) hx hb dX0_step_29 (by decide) (fun h5 => ?_) (fun h5 => ?_)
          · subst h5
            refine lv_aload_n hx hb dX0_step_52 rfl (lv_at hl 0 rfl) ?_
            refine x_get S hK hP rfl 1 (by decide) q31 rfl rfl dX0_step_53 ?_
            refine lv_bipush (v := nI 10) hx hb dX0_step_56 (by decide) ?_
            refine lv_iload_n hx hb dX0_step_58 rfl (lv_at hl 1 rfl) ?_
            refine wp_mul hx hb dX0_step_59 ?_
            refine lv_iload_n hx hb dX0_step_60 rfl (lv_at hl 2 rfl) ?_
            refine wp_add hx hb dX0_step_61 ?_
            refine lv_dup2_11 hx hb dX0_step_62 rfl rfl ?_
            refine g_ild S hK hP 2 1 rfl rfl (by omega) (by decide) dX0_step_63 ?_
            refine lv_iconst (v := nI 1) hx hb dX0_step_64 (by decide) ?_
            refine lv_iload_n hx hb dX0_step_65 rfl (lv_at hl 3 rfl) ?_
            refine wp_shl hx hb (by omega) dX0_step_66 ?_
            refine lv_iconst (v := nI 4294967295) hx hb dX0_step_67 (by decide) ?_
            refine wp_xor hx hb dX0_step_68 ?_
            refine wp_dif hx hb dX0_step_69 ?_
            refine g_ist S hK hP hD hS 2 1 rfl rfl (by omega) (by decide) dX0_step_70 (fun H locs hP hD hS => ?_)
            have hP : va_P D vwCl (wXs ad dd co (va_up st ((10 * q) + i) (sp_dif (st ((10 * q) + i)) (2 ^ j))) sd bc bl wc wa le tk rc ca) H := hP
            have hD : va_D A (wXs ad dd co (va_up st ((10 * q) + i) (sp_dif (st ((10 * q) + i)) (2 ^ j))) sd bc bl wc wa le tk rc ca) := hD
            refine lv_aload_n hx hb dX0_step_71 rfl (lv_at hl 0 rfl) ?_
            refine gv_call S [] [] (mx_change l D ad dd co (va_up st ((10 * q) + i) (sp_dif (st ((10 * q) + i)) (2 ^ j))) sd bc bl wc wa le tk rc ca) (cwV 0 S.2.2.2.2 (lw_V q74 q76 qs1 q20 q77) rfl rfl rfl (by decide +kernel) ⟨Nat.le_of_ble_eq_true rfl, Nat.le_of_ble_eq_true rfl⟩) rfl rfl hK hP hD hS hA rfl rfl hl.1 (Nat.le_of_ble_eq_true rfl) dX0_step_72 ⟨Nat.zero_le _, Nat.zero_le _⟩ (fun v H locs hw hP hD hS => ?_)
            obtain rfl := hw
            have hP : va_P D vwCl (wXs ad dd co (va_up st ((10 * q) + i) (sp_dif (st ((10 * q) + i)) (2 ^ j))) 0 bc bl wc wa le 0 rc ca) H := hP
            have hD : va_D A (wXs ad dd co (va_up st ((10 * q) + i) (sp_dif (st ((10 * q) + i)) (2 ^ j))) 0 bc bl wc wa le 0 rc ca) := hD
            refine lv_iconst (v := nI 1) hx hb dX0_step_75 (by decide) ?_
            exact ret ((nI 1)) (co, va_up st ((10 * q) + i) (sp_dif (st ((10 * q) + i)) (2 ^ j)), 0, bc, bl, wc, wa, le, 0, rc, ca) H locs ls _ dX0_step_76 rfl hP hD hS (⟨by rw [sp_stU_ok st hq hi hj]; exact ⟨0, bc, bl, wc, wa, le, 0, rc, ca, rfl, sp_XI_new hXI.1 (sp_up_lt hXI.2.1 (Nat.lt_of_le_of_lt (sp_dif_le _ _) hsti))⟩, by rw [sp_ok2 hq, sp_ok9 hi, sp_ok9 hj]; rfl⟩)
          · subst h5
            refine lv_aload_n hx hb dX0_step_32 rfl (lv_at hl 0 rfl) ?_
            refine x_get S hK hP rfl 1 (by decide) q31 rfl rfl dX0_step_33 ?_
            refine lv_bipush (v := nI 10) hx hb dX0_step_36 (by decide) ?_
            refine lv_iload_n hx hb dX0_step_38 rfl (lv_at hl 1 rfl) ?_
            refine wp_mul hx hb dX0_step_39 ?_
            refine lv_iload_n hx hb dX0_step_40 rfl (lv_at hl 2 rfl) ?_
            refine wp_add hx hb dX0_step_41 ?_
            refine lv_dup2_11 hx hb dX0_step_42 rfl rfl ?_
            refine g_ild S hK hP 2 1 rfl rfl (by omega) (by decide) dX0_step_43 ?_
            refine lv_iconst (v := nI 1) hx hb dX0_step_44 (by decide) ?_
            refine lv_iload_n hx hb dX0_step_45 rfl (lv_at hl 3 rfl) ?_
            refine wp_shl hx hb (by omega) dX0_step_46 ?_
            refine wp_or hx hb dX0_step_47 ?_
            refine g_ist S hK hP hD hS 2 1 rfl rfl (by omega) (by decide) dX0_step_48 (fun H locs hP hD hS => ?_)
            have hP : va_P D vwCl (wXs ad dd co (va_up st ((10 * q) + i) ((st ((10 * q) + i)) ||| (2 ^ j))) sd bc bl wc wa le tk rc ca) H := hP
            have hD : va_D A (wXs ad dd co (va_up st ((10 * q) + i) ((st ((10 * q) + i)) ||| (2 ^ j))) sd bc bl wc wa le tk rc ca) := hD
            refine lv_goto (tgt := 71) hx hb dX0_step_49 (by decide) ?_
            refine lv_aload_n hx hb dX0_step_71 rfl (lv_at hl 0 rfl) ?_
            refine gv_call S [] [] (mx_change l D ad dd co (va_up st ((10 * q) + i) ((st ((10 * q) + i)) ||| (2 ^ j))) sd bc bl wc wa le tk rc ca) (cwV 0 S.2.2.2.2 (lw_V q74 q76 qs1 q20 q77) rfl rfl rfl (by decide +kernel) ⟨Nat.le_of_ble_eq_true rfl, Nat.le_of_ble_eq_true rfl⟩) rfl rfl hK hP hD hS hA rfl rfl hl.1 (Nat.le_of_ble_eq_true rfl) dX0_step_72 ⟨Nat.zero_le _, Nat.zero_le _⟩ (fun v H locs hw hP hD hS => ?_)
            obtain rfl := hw
            have hP : va_P D vwCl (wXs ad dd co (va_up st ((10 * q) + i) ((st ((10 * q) + i)) ||| (2 ^ j))) 0 bc bl wc wa le 0 rc ca) H := hP
            have hD : va_D A (wXs ad dd co (va_up st ((10 * q) + i) ((st ((10 * q) + i)) ||| (2 ^ j))) 0 bc bl wc wa le 0 rc ca) := hD
            refine lv_iconst (v := nI 1) hx hb dX0_step_75 (by decide) ?_
            exact ret ((nI 1)) (co, va_up st ((10 * q) + i) ((st ((10 * q) + i)) ||| (2 ^ j)), 0, bc, bl, wc, wa, le, 0, rc, ca) H locs ls _ dX0_step_76 rfl hP hD hS (⟨by rw [sp_stU_ok st hq hi hj]; exact ⟨0, bc, bl, wc, wa, le, 0, rc, ca, rfl, sp_XI_new hXI.1 (sp_up_lt hXI.2.1 (sp_or_lt hsti hj))⟩, by rw [sp_ok2 hq, sp_ok9 hi, sp_ok9 hj]; rfl⟩)
        · refine lv_iconst (v := nI 0) hx hb dX0_step_25 (by decide) ?_
          exact ret ((nI 0)) (co, st, sd, bc, bl, wc, wa, le, tk, rc, ca) H locs ls _ dX0_step_26 rfl hP hD hS (⟨by rw [sp_stU_no st th (by rw [h2, Bool.and_false])]; exact ⟨sd, bc, bl, wc, wa, le, tk, rc, ca, rfl, hXI⟩, by rw [h2, Bool.and_false]; rfl⟩)
end
section
/-! WALKS, 5: the reference's inner methods (printed by gen/gen5.py) -/
set_option maxHeartbeats 4000000 in
set_option maxRecDepth 100000 in
theorem mm_isState (l : Launch) (D : va_G) (ad : Nat → Nat) (dd : Nat → ClassId) (mc : Nat → Nat) (ms nw af : Nat → Bool) (x : Int32) : MetI l D (tM dd) (wM ad dd) yX1_isState (ws_ yX1_isState cX1_isState 2 (some .boolean)) ({ frames := 0, cells := 0, slots := 0, locals := 0 } : Room) [.ref (ad 0), .int x] (mc, ms, nw, af) (fun r v => v = (mc, ms, nw, af) ∧ r = nI (sp_ok x 10).toNat) := by
  refine gi_start (by decide) (Nat.le_of_ble_eq_true rfl) ?_
  intro p e s m as below meth c A Q S hA hK ret H locs hP hD hS ls hl
  have hx := S.1
  have hb := S.2.1
  have S : CallFix p m c cX1_isState 2 s as lw_all RX1 := S
  have hP : va_P D vwCl (wMs ad dd mc ms nw af) H := hP
  have hD : va_D A (wMs ad dd mc ms nw af) := hD
  have hl : lv_has ls 2 [(0, .ref (ad 0)), (1, .int x)] := hl
  refine lv_iload_n hx hb dX1_isState_0 rfl (lv_at hl 1 rfl) ?_
  refine lv_if_lt (tgt := 14) hx hb dX1_isState_1 (by decide) (fun h => ?_) (fun h => ?_)
  · refine lv_iconst (v := nI 0) hx hb dX1_isState_14 (by decide) ?_
    exact ret ((nI 0)) (mc, ms, nw, af) H locs ls _ dX1_isState_15 rfl hP hD hS (⟨rfl, by rw [sp_ok_neg h]; rfl⟩)
  · refine lv_iload_n hx hb dX1_isState_4 rfl (lv_at hl 1 rfl) ?_
    refine lv_bipush (v := nI 10) hx hb dX1_isState_5 (by decide) ?_
    refine lv_icmp_ge (tgt := 14) hx hb dX1_isState_7 (by decide) (fun h2 => ?_) (fun h2 => ?_)
    · refine lv_iconst (v := nI 0) hx hb dX1_isState_14 (by decide) ?_
      exact ret ((nI 0)) (mc, ms, nw, af) H locs ls _ dX1_isState_15 rfl hP hD hS (⟨rfl, by rw [sp_ok_big (by decide) h2]; rfl⟩)
    · refine lv_iconst (v := nI 1) hx hb dX1_isState_10 (by decide) ?_
      refine lv_goto (tgt := 15) hx hb dX1_isState_11 (by decide) ?_
      exact ret ((nI 1)) (mc, ms, nw, af) H locs ls _ dX1_isState_15 rfl hP hD hS (⟨rfl, by rw [sp_ok_in (by decide) h h2]; rfl⟩)
set_option maxHeartbeats 4000000 in
set_option maxRecDepth 100000 in
theorem mm_colour (l : Launch) (D : va_G) (ad : Nat → Nat) (dd : Nat → ClassId) (mc : Nat → Nat) (ms nw af : Nat → Bool) (x y : Int32) : MetI l D (tM dd) (wM ad dd) yX1_colour (ws_ yX1_colour cX1_colour 3 (some .boolean)) ({ frames := 1, cells := 0, slots := 0, locals := 21 } : Room) [.ref (ad 0), .int x, .int y] (mc, ms, nw, af) (fun r v => v = (sp_colU mc x y, ms, nw, af) ∧ r = nI (sp_ok x 10 && sp_ok y 4).toNat) := by
  refine gi_start (by decide) (Nat.le_of_ble_eq_true rfl) ?_
  intro p e s m as below meth c A Q S hA hK ret H locs hP hD hS ls hl
  have hx := S.1
  have hb := S.2.1
  have S : CallFix p m c cX1_colour 3 s as lw_all RX1 := S
  have hP : va_P D vwCl (wMs ad dd mc ms nw af) H := hP
  have hD : va_D A (wMs ad dd mc ms nw af) := hD
  have hl : lv_has ls 3 [(0, .ref (ad 0)), (1, .int x), (2, .int y)] := hl
  refine lv_aload_n hx hb dX1_colour_0 rfl (lv_at hl 0 rfl) ?_
  refine lv_iload_n hx hb dX1_colour_1 rfl (lv_at hl 1 rfl) ?_
  refine gi_call S [.int x] [] (mm_isState l D ad dd mc ms nw af x) (cwV 1 S.2.2.2.2 (lw_V q186 q188 qs13 q21 q189) rfl rfl rfl (by decide +kernel) ⟨Nat.le_of_ble_eq_true rfl, Nat.le_of_ble_eq_true rfl⟩) rfl rfl hK hP hD hS hA rfl rfl hl.1 (Nat.le_of_ble_eq_true rfl) dX1_colour_2 ⟨Nat.zero_le _, Nat.zero_le _⟩ (fun r v H locs hw hP hD hS => ?_)
  obtain ⟨rfl, rfl⟩ := hw
  have hP : va_P D vwCl (wMs ad dd mc ms nw af) H := hP
  have hD : va_D A (wMs ad dd mc ms nw af) := hD
  refine wp_ifeqB (tgt := 17) hx hb dX1_colour_5 (by decide) (fun h => ?_) (fun h => ?_)
  · refine lv_iconst (v := nI 0) hx hb dX1_colour_17 (by decide) ?_
    exact ret ((nI 0)) (mc, ms, nw, af) H locs ls _ dX1_colour_18 rfl hP hD hS (⟨by rw [sp_colU_no mc (by rw [h]; rfl)], by rw [h]; rfl⟩)
  · refine lv_iload_n hx hb dX1_colour_8 rfl (lv_at hl 2 rfl) ?_
    refine lv_if_lt (tgt := 17) hx hb dX1_colour_9 (by decide) (fun h2 => ?_) (fun h2 => ?_)
    · refine lv_iconst (v := nI 0) hx hb dX1_colour_17 (by decide) ?_
      exact ret ((nI 0)) (mc, ms, nw, af) H locs ls _ dX1_colour_18 rfl hP hD hS (⟨by rw [sp_colU_no mc (by rw [sp_ok_neg h2, Bool.and_false])], by rw [sp_ok_neg h2, Bool.and_false]; rfl⟩)
    · refine lv_iload_n hx hb dX1_colour_12 rfl (lv_at hl 2 rfl) ?_
      refine lv_iconst (v := nI 3) hx hb dX1_colour_13 (by decide) ?_
      refine lv_icmp_le (tgt := 19) hx hb dX1_colour_14 (by decide) (fun h3 => ?_) (fun h3 => ?_)
      · have hok := sp_ok_ngt (n := 3) (by decide) h2 (fun q => Int32.lt_irrefl (Int32.lt_of_lt_of_le q h3))
        obtain ⟨j, hj, rfl⟩ := sp_ok_of h (show 10 < 2 ^ 31 by decide)
        obtain ⟨q, hq, rfl⟩ := sp_ok_of hok (show 4 < 2 ^ 31 by decide)
        refine lv_aload_n hx hb dX1_colour_19 rfl (lv_at hl 0 rfl) ?_
        refine m_get S hK hP rfl 0 (by decide) q168 rfl rfl dX1_colour_20 ?_
        refine lv_iload_n hx hb dX1_colour_23 rfl (lv_at hl 1 rfl) ?_
        refine lv_iload_n hx hb dX1_colour_24 rfl (lv_at hl 2 rfl) ?_
        refine g_ist S hK hP hD hS 1 0 rfl rfl (by omega) (by decide) dX1_colour_25 (fun H locs hP hD hS => ?_)
        have hP : va_P D vwCl (wMs ad dd (va_up mc j q) ms nw af) H := hP
        have hD : va_D A (wMs ad dd (va_up mc j q) ms nw af) := hD
        refine lv_iconst (v := nI 1) hx hb dX1_colour_26 (by decide) ?_
        exact ret ((nI 1)) (va_up mc j q, ms, nw, af) H locs ls _ dX1_colour_27 rfl hP hD hS (⟨by rw [sp_colU_ok mc hj hq], by rw [sp_ok9 hj, sp_ok4 hq]; rfl⟩)
      · have hbad := sp_ok_gt (n := 3) (x := y) (by decide) (Int32.not_le.mp h3)
        refine lv_iconst (v := nI 0) hx hb dX1_colour_17 (by decide) ?_
        exact ret ((nI 0)) (mc, ms, nw, af) H locs ls _ dX1_colour_18 rfl hP hD hS (⟨by rw [sp_colU_no mc (by rw [hbad, Bool.and_false])], by rw [hbad, Bool.and_false]; rfl⟩)
set_option maxHeartbeats 4000000 in
set_option maxRecDepth 100000 in
theorem mm_step (l : Launch) (D : va_G) (ad : Nat → Nat) (dd : Nat → ClassId) (mc : Nat → Nat) (ms nw af : Nat → Bool) (o x y : Int32) (th : Bool) : MetI l D (tM dd) (wM ad dd) yX1_step (ws_ yX1_step cX1_step 5 (some .boolean)) ({ frames := 1, cells := 0, slots := 0, locals := 21 } : Room) [.ref (ad 0), .int o, .int x, .int y, .int (nI th.toNat)] (mc, ms, nw, af) (fun r v => v = (mc, sp_msU ms o x y th, nw, af) ∧ r = nI (sp_ok o 2 && sp_ok x 10 && sp_ok y 10).toNat) := by
  refine gi_start (by decide) (Nat.le_of_ble_eq_true rfl) ?_
  intro p e s m as below meth c A Q S hA hK ret H locs hP hD hS ls hl
  have hx := S.1
  have hb := S.2.1
  have S : CallFix p m c cX1_step 5 s as lw_all RX1 := S
  have hP : va_P D vwCl (wMs ad dd mc ms nw af) H := hP
  have hD : va_D A (wMs ad dd mc ms nw af) := hD
  have hl : lv_has ls 5 [(0, .ref (ad 0)), (1, .int o), (2, .int x), (3, .int y), (4, .int (nI th.toNat))] := hl
  refine lv_iload_n hx hb dX1_step_0 rfl (lv_at hl 1 rfl) ?_
  refine lv_if_lt (tgt := 25) hx hb dX1_step_1 (by decide) (fun g => ?_) (fun g => ?_)
  · refine lv_iconst (v := nI 0) hx hb dX1_step_25 (by decide) ?_
    exact ret ((nI 0)) (mc, ms, nw, af) H locs ls _ dX1_step_26 rfl hP hD hS (⟨by rw [sp_msU_no ms th (by rw [sp_ok_neg g, Bool.false_and, Bool.false_and])], by rw [sp_ok_neg g, Bool.false_and, Bool.false_and]; rfl⟩)
  · refine lv_iload_n hx hb dX1_step_4 rfl (lv_at hl 1 rfl) ?_
    refine lv_iconst (v := nI 1) hx hb dX1_step_5 (by decide) ?_
    refine lv_icmp_gt (tgt := 25) hx hb dX1_step_6 (by decide) (fun g2 => ?_) (fun g2 => ?_)
    · refine lv_iconst (v := nI 0) hx hb dX1_step_25 (by decide) ?_
      exact ret ((nI 0)) (mc, ms, nw, af) H locs ls _ dX1_step_26 rfl hP hD hS (⟨by rw [sp_msU_no ms th (by rw [sp_ok_gt (n := 1) (by decide) g2, Bool.false_and, Bool.false_and])], by rw [sp_ok_gt (n := 1) (by decide) g2, Bool.false_and, Bool.false_and]; rfl⟩)
    · have hok := sp_ok_ngt (n := 1) (by decide) g g2
      refine lv_aload_n hx hb dX1_step_9 rfl (lv_at hl 0 rfl) ?_
      refine lv_iload_n hx hb dX1_step_10 rfl (lv_at hl 2 rfl) ?_
      refine gi_call S [.int x] [] (mm_isState l D ad dd mc ms nw af x) (cwV 1 S.2.2.2.2 (lw_V q186 q188 qs13 q21 q189) rfl rfl rfl (by decide +kernel) ⟨Nat.le_of_ble_eq_true rfl, Nat.le_of_ble_eq_true rfl⟩) rfl rfl hK hP hD hS hA rfl rfl hl.1 (Nat.le_of_ble_eq_true rfl) dX1_step_11 ⟨Nat.zero_le _, Nat.zero_le _⟩ (fun r v H locs hw hP hD hS => ?_)
      obtain ⟨rfl, rfl⟩ := hw
      have hP : va_P D vwCl (wMs ad dd mc ms nw af) H := hP
      have hD : va_D A (wMs ad dd mc ms nw af) := hD
      refine wp_ifeqB (tgt := 25) hx hb dX1_step_14 (by decide) (fun h => ?_) (fun h => ?_)
      · refine lv_iconst (v := nI 0) hx hb dX1_step_25 (by decide) ?_
        exact ret ((nI 0)) (mc, ms, nw, af) H locs ls _ dX1_step_26 rfl hP hD hS (⟨by rw [sp_msU_no ms th (by rw [h, Bool.and_false, Bool.false_and])], by rw [h, Bool.and_false, Bool.false_and]; rfl⟩)
      · refine lv_aload_n hx hb dX1_step_17 rfl (lv_at hl 0 rfl) ?_
        refine lv_iload_n hx hb dX1_step_18 rfl (lv_at hl 3 rfl) ?_
        refine gi_call S [.int y] [] (mm_isState l D ad dd mc ms nw af y) (cwV 1 S.2.2.2.2 (lw_V q186 q188 qs13 q21 q189) rfl rfl rfl (by decide +kernel) ⟨Nat.le_of_ble_eq_true rfl, Nat.le_of_ble_eq_true rfl⟩) rfl rfl hK hP hD hS hA rfl rfl hl.1 (Nat.le_of_ble_eq_true rfl) dX1_step_19 ⟨Nat.zero_le _, Nat.zero_le _⟩ (fun r v H locs hw hP hD hS => ?_)
        obtain ⟨rfl, rfl⟩ := hw
        have hP : va_P D vwCl (wMs ad dd mc ms nw af) H := hP
        have hD : va_D A (wMs ad dd mc ms nw af) := hD
        refine wp_ifneB (tgt := 27) hx hb dX1_step_22 (by decide) (fun h2 => ?_) (fun h2 => ?_)
        · obtain ⟨q, hq, rfl⟩ := sp_ok_of hok (show 2 < 2 ^ 31 by decide)
          obtain ⟨i, hi, rfl⟩ := sp_ok_of h (show 10 < 2 ^ 31 by decide)
          obtain ⟨j, hj, rfl⟩ := sp_ok_of h2 (show 10 < 2 ^ 31 by decide)
          refine lv_aload_n hx hb dX1_step_27 rfl (lv_at hl 0 rfl) ?_
          refine m_get S hK hP rfl 1 (by decide) q169 rfl rfl dX1_step_28 ?_
          refine lv_iload_n hx hb dX1_step_31 rfl (lv_at hl 1 rfl) ?_
          refine lv_bipush (v := nI 100) hx hb dX1_step_32 (by decide) ?_
          refine wp_mul hx hb dX1_step_34 ?_
          refine lv_iload_n hx hb dX1_step_35 rfl (lv_at hl 2 rfl) ?_
          refine lv_bipush (v := nI 10) hx hb dX1_step_36 (by decide) ?_
          refine wp_mul hx hb dX1_step_38 ?_
          refine wp_add hx hb dX1_step_39 ?_
          refine lv_iload_n hx hb dX1_step_40 rfl (lv_at hl 3 rfl) ?_
          refine wp_add hx hb dX1_step_41 ?_
          refine lv_iload hx hb dX1_step_42 (lv_at hl 4 rfl) ?_
          refine g_zst S hK hP hD hS 2 1 rfl rfl (by omega) (by decide) dX1_step_44 (fun H locs hP hD hS => ?_)
          have hP : va_P D vwCl (wMs ad dd mc (va_up ms (((q * 100) + (i * 10)) + j) th) nw af) H := hP
          have hD : va_D A (wMs ad dd mc (va_up ms (((q * 100) + (i * 10)) + j) th) nw af) := hD
          refine lv_iconst (v := nI 1) hx hb dX1_step_45 (by decide) ?_
          exact ret ((nI 1)) (mc, va_up ms (((q * 100) + (i * 10)) + j) th, nw, af) H locs ls _ dX1_step_46 rfl hP hD hS (⟨by rw [sp_msU_ok ms hq hi hj], by rw [sp_ok2 hq, sp_ok9 hi, sp_ok9 hj]; rfl⟩)
        · refine lv_iconst (v := nI 0) hx hb dX1_step_25 (by decide) ?_
          exact ret ((nI 0)) (mc, ms, nw, af) H locs ls _ dX1_step_26 rfl hP hD hS (⟨by rw [sp_msU_no ms th (by rw [h2, Bool.and_false])], by rw [h2, Bool.and_false]; rfl⟩)
set_option maxHeartbeats 4000000 in
set_option maxRecDepth 100000 in
theorem mm_begin (l : Launch) (D : va_G) (ad : Nat → Nat) (dd : Nat → ClassId) (mc : Nat → Nat) (ms nw af : Nat → Bool) (co st : Nat → Nat) (hRel : sp_Rel co st mc ms) (hc4 : ∀ s, s < 10 → co s < 4) : MetV l D (tM dd) (wM ad dd) yX1_begin (ws_ yX1_begin cX1_begin 2 none) ({ frames := 0, cells := 0, slots := 0, locals := 0 } : Room) [.ref (ad 0)] (mc, ms, nw, af) (fun v => ∃ nw1, v = (mc, ms, nw1, af) ∧ ∀ q, q < 100 → nw1 q = sp_R co st 0 (q / 10) (q % 10)) := by
  refine gv_start (by decide) (Nat.le_of_ble_eq_true rfl) ?_
  intro p e s m as below meth c A Q S hA hK ret H locs hP hD hS ls hl
  have hx := S.1
  have hb := S.2.1
  have S : CallFix p m c cX1_begin 2 s as lw_all RX1 := S
  have hP : va_P D vwCl (wMs ad dd mc ms nw af) H := hP
  have hD : va_D A (wMs ad dd mc ms nw af) := hD
  have hl : lv_has ls 2 [(0, .ref (ad 0))] := hl
  have hm4 : ∀ s, s < 10 → mc s < 2147483648 := fun s hs => by rw [hRel.1 s hs]; exact Nat.lt_of_lt_of_le (hc4 s hs) (by decide)
  have loop : ∀ (n i : Nat) (nw1 : Nat → Bool), i ≤ 100 → 100 < i + n → (∀ q, q < i → nw1 q = sp_R co st 0 (q / 10) (q % 10)) → ∀ (H : Heap) (locs : List Loc), va_P D vwCl (wMs ad dd mc ms nw1 af) H → va_D A (wMs ad dd mc ms nw1 af) → va_S A s.heap H locs → ∀ ls : Array Slot, lv_has ls 2 [(0, .ref (ad 0)), (1, .int (nI i))] → W p l e ({ frames := 0, cells := 0, slots := 0, locals := 0 } : Room) s m as below meth c H locs 0 0 Q (F0 m 2 ls []) := by
    intro n
    induction n with
    | zero => intro i _ q1 q2; omega
    | succ n ih =>
      intro i nw1 hi hn hall H locs hP hD hS ls hl
      refine lv_iload_n hx hb dX1_begin_2 rfl (lv_at hl 1 rfl) ?_
      refine lv_bipush (v := nI 100) hx hb dX1_begin_3 (by decide) ?_
      refine wp_ge (tgt := 46) hx hb (by omega) (by omega) dX1_begin_5 (by decide) (fun hc => ?_) (fun hc => ?_)
      · exact ret (mc, ms, nw1, af) H locs ls _ dX1_begin_46 hP hD hS (⟨nw1, rfl, fun q hq => hall q (by omega)⟩)
      · refine lv_aload_n hx hb dX1_begin_8 rfl (lv_at hl 0 rfl) ?_
        refine m_get S hK hP rfl 2 (by decide) q170 rfl rfl dX1_begin_9 ?_
        refine lv_iload_n hx hb dX1_begin_12 rfl (lv_at hl 1 rfl) ?_
        refine lv_aload_n hx hb dX1_begin_13 rfl (lv_at hl 0 rfl) ?_
        refine m_get S hK hP rfl 0 (by decide) q168 rfl rfl dX1_begin_14 ?_
        refine lv_iload_n hx hb dX1_begin_17 rfl (lv_at hl 1 rfl) ?_
        refine lv_bipush (v := nI 10) hx hb dX1_begin_18 (by decide) ?_
        refine wp_div hx hb (by omega) (by omega) (by omega) dX1_begin_20 ?_
        refine g_ild S hK hP 1 0 rfl rfl (by omega) (by decide) dX1_begin_21 ?_
        refine lv_aload_n hx hb dX1_begin_22 rfl (lv_at hl 0 rfl) ?_
        refine m_get S hK hP rfl 0 (by decide) q168 rfl rfl dX1_begin_23 ?_
        refine lv_iload_n hx hb dX1_begin_26 rfl (lv_at hl 1 rfl) ?_
        refine lv_bipush (v := nI 10) hx hb dX1_begin_27 (by decide) ?_
        refine wp_rem hx hb (by omega) (by omega) (by omega) dX1_begin_29 ?_
        refine g_ild S hK hP 1 0 rfl rfl (by omega) (by decide) dX1_begin_30 ?_
        refine wp_ne (tgt := 38) hx hb (hm4 _ (by omega)) (hm4 _ (by omega)) dX1_begin_31 (by decide) (fun h2 => ?_) (fun h2 => ?_)
        · refine lv_iconst (v := nI 0) hx hb dX1_begin_38 (by decide) ?_
          refine W.eq (g2 := F0 m 39 ls [.int (nI false.toNat), .int (nI i), .ref (ad 3)]) rfl ?_
          refine g_zst S hK hP hD hS 3 2 rfl rfl (by omega) (by decide) dX1_begin_39 (fun H locs hP hD hS => ?_)
          have hP : va_P D vwCl (wMs ad dd mc ms (va_up nw1 i false) af) H := hP
          have hD : va_D A (wMs ad dd mc ms (va_up nw1 i false) af) := hD
          refine lv_iinc (v := nI (i + 1)) (lv' := [(1, .int (nI (i + 1))), (0, .ref (ad 0))]) hx hb dX1_begin_40 hl (k := 1) rfl (sp_inc _) (by decide) rfl (fun ls hl => ?_)
          refine lv_goto (tgt := 2) hx hb dX1_begin_43 (by decide) ?_
          exact ih (i + 1) _ (by omega) (by omega) (fun q hq => if z : q = i then (by rw [z, sp_up_s, sp_R_0, ← hRel.1 _ (show i / 10 < 10 by omega), ← hRel.1 _ (show i % 10 < 10 by omega)]; exact (decide_eq_false h2).symm) else (by rw [sp_up_n _ _ z]; exact hall q (by omega))) H locs hP hD hS ls (lv_sub hl [1, 0] rfl)
        · refine lv_iconst (v := nI 1) hx hb dX1_begin_34 (by decide) ?_
          refine W.eq (g2 := F0 m 35 ls [.int (nI true.toNat), .int (nI i), .ref (ad 3)]) rfl ?_
          refine lv_goto (tgt := 39) hx hb dX1_begin_35 (by decide) ?_
          refine g_zst S hK hP hD hS 3 2 rfl rfl (by omega) (by decide) dX1_begin_39 (fun H locs hP hD hS => ?_)
          have hP : va_P D vwCl (wMs ad dd mc ms (va_up nw1 i true) af) H := hP
          have hD : va_D A (wMs ad dd mc ms (va_up nw1 i true) af) := hD
          refine lv_iinc (v := nI (i + 1)) (lv' := [(1, .int (nI (i + 1))), (0, .ref (ad 0))]) hx hb dX1_begin_40 hl (k := 1) rfl (sp_inc _) (by decide) rfl (fun ls hl => ?_)
          refine lv_goto (tgt := 2) hx hb dX1_begin_43 (by decide) ?_
          exact ih (i + 1) _ (by omega) (by omega) (fun q hq => if z : q = i then (by rw [z, sp_up_s, sp_R_0, ← hRel.1 _ (show i / 10 < 10 by omega), ← hRel.1 _ (show i % 10 < 10 by omega)]; exact (decide_eq_true h2).symm) else (by rw [sp_up_n _ _ z]; exact hall q (by omega))) H locs hP hD hS ls (lv_sub hl [1, 0] rfl)
  refine lv_iconst (v := nI 0) hx hb dX1_begin_0 (by decide) ?_
  refine lv_istore_n (lv' := [(1, .int (nI 0)), (0, .ref (ad 0))]) hx hb dX1_begin_1 rfl hl (by decide) rfl (fun ls hl => ?_)
  exact loop 101 0 nw (by omega) (by omega) lt_0 H locs hP hD hS ls (lv_sub hl [1, 0] rfl)
set_option maxHeartbeats 4000000 in
set_option maxRecDepth 100000 in
theorem mm_answered (l : Launch) (D : va_G) (ad : Nat → Nat) (dd : Nat → ClassId) (mc : Nat → Nat) (ms nw af : Nat → Bool) (o s0 t0 : Nat) (ho : o < 2) (hs : s0 < 10) (ht : t0 < 10) : MetI l D (tM dd) (wM ad dd) yX1_answered (ws_ yX1_answered cX1_answered 7 (some .boolean)) ({ frames := 0, cells := 0, slots := 0, locals := 0 } : Room) [.ref (ad 0), .int (nI o), .int (nI s0), .int (nI t0)] (mc, ms, nw, af) (fun r v => v = (mc, ms, nw, af) ∧ r = nI (sp_ans (fun z => ms (o * 100 + s0 * 10 + z)) (fun z => ms (o * 100 + t0 * 10 + z)) (fun x z => nw (x * 10 + z))).toNat) := by
  refine gi_start (by decide) (Nat.le_of_ble_eq_true rfl) ?_
  intro p e s m as below meth c A Q S hA hK ret H locs hP hD hS ls hl
  have hx := S.1
  have hb := S.2.1
  have S : CallFix p m c cX1_answered 7 s as lw_all RX1 := S
  have hP : va_P D vwCl (wMs ad dd mc ms nw af) H := hP
  have hD : va_D A (wMs ad dd mc ms nw af) := hD
  have hl : lv_has ls 7 [(0, .ref (ad 0)), (1, .int (nI o)), (2, .int (nI s0)), (3, .int (nI t0))] := hl
  have loop : ∀ (n a : Nat), a ≤ 10 → 10 < a + n → (∀ q, q < a → (!ms (o * 100 + s0 * 10 + q) || sp_any (fun z => ms (o * 100 + t0 * 10 + z) && nw (q * 10 + z)) 10) = true) → ∀ ls : Array Slot, lv_has ls 7 [(0, .ref (ad 0)), (1, .int (nI o)), (2, .int (nI s0)), (3, .int (nI t0)), (4, .int (nI a))] → W p l e ({ frames := 0, cells := 0, slots := 0, locals := 0 } : Room) s m as below meth c H locs 0 0 Q (F0 m 3 ls []) := by
    intro n
    induction n with
    | zero => intro a q1 q2; omega
    | succ n ih =>
      intro a ha hn hall ls hl
      refine lv_iload hx hb dX1_answered_3 (lv_at hl 4 rfl) ?_
      refine lv_bipush (v := nI 10) hx hb dX1_answered_5 (by decide) ?_
      refine wp_ge (tgt := 114) hx hb (by omega) (by omega) dX1_answered_7 (by decide) (fun hc => ?_) (fun hc => ?_)
      · have ha10 : a = 10 := by omega
        rw [ha10] at hall
        refine lv_iconst (v := nI 1) hx hb dX1_answered_114 (by decide) ?_
        exact ret ((nI 1)) (mc, ms, nw, af) H locs ls _ dX1_answered_115 rfl hP hD hS (⟨rfl, by rw [show sp_ans (fun z => ms (o * 100 + s0 * 10 + z)) (fun z => ms (o * 100 + t0 * 10 + z)) (fun x z => nw (x * 10 + z)) = true from (sp_all_iff _ _).mpr hall]; rfl⟩)
      · have inner : ∀ (n2 b : Nat) (fb : Bool), b ≤ 10 → 10 < b + n2 → fb = (!ms (o * 100 + s0 * 10 + a) || sp_any (fun z => ms (o * 100 + t0 * 10 + z) && nw (a * 10 + z)) b) → ∀ ls : Array Slot, lv_has ls 7 [(0, .ref (ad 0)), (1, .int (nI o)), (2, .int (nI s0)), (3, .int (nI t0)), (4, .int (nI a)), (5, .int (nI fb.toNat)), (6, .int (nI b))] → W p l e ({ frames := 0, cells := 0, slots := 0, locals := 0 } : Room) s m as below meth c H locs 0 0 Q (F0 m 40 ls []) := by
          intro n2
          induction n2 with
          | zero => intro b _ q1 q2; omega
          | succ n2 ih2 =>
            intro b fb hb1 hn2 hfb ls hl
            refine lv_iload hx hb dX1_answered_40 (lv_at hl 6 rfl) ?_
            refine lv_bipush (v := nI 10) hx hb dX1_answered_42 (by decide) ?_
            refine wp_ge (tgt := 101) hx hb (by omega) (by omega) dX1_answered_44 (by decide) (fun h2 => ?_) (fun h2 => ?_)
            · have hb10 : b = 10 := by omega
              rw [hb10] at hfb
              refine lv_iload hx hb dX1_answered_101 (lv_at hl 5 rfl) ?_
              refine wp_ifneB (tgt := 108) hx hb dX1_answered_103 (by decide) (fun h3 => ?_) (fun h3 => ?_)
              · refine lv_iinc (v := nI (a + 1)) (lv' := [(4, .int (nI (a + 1))), (0, .ref (ad 0)), (1, .int (nI o)), (2, .int (nI s0)), (3, .int (nI t0)), (5, .int (nI fb.toNat)), (6, .int (nI b))]) hx hb dX1_answered_108 hl (k := 4) rfl (sp_inc _) (by decide) rfl (fun ls hl => ?_)
                refine lv_goto (tgt := 3) hx hb dX1_answered_111 (by decide) ?_
                exact ih (a + 1) (by omega) (by omega) (lt_s hall (by rw [← hfb]; exact h3)) ls (lv_sub hl [1, 2, 3, 4, 0] rfl)
              · refine lv_iconst (v := nI 0) hx hb dX1_answered_106 (by decide) ?_
                have hno : sp_ans (fun z => ms (o * 100 + s0 * 10 + z)) (fun z => ms (o * 100 + t0 * 10 + z)) (fun x z => nw (x * 10 + z)) = false := by
                  cases hq : sp_ans (fun z => ms (o * 100 + s0 * 10 + z)) (fun z => ms (o * 100 + t0 * 10 + z)) (fun x z => nw (x * 10 + z)) with
                  | false => rfl
                  | true =>
                    have q := (sp_all_iff _ _).mp hq a hc
                    have q : (!ms (o * 100 + s0 * 10 + a) || sp_any (fun z => ms (o * 100 + t0 * 10 + z) && nw (a * 10 + z)) 10) = true := q
                    rw [← hfb, h3] at q
                    exact absurd q (by decide)
                exact ret ((nI 0)) (mc, ms, nw, af) H locs ls _ dX1_answered_107 rfl hP hD hS (⟨rfl, by rw [hno]; rfl⟩)
            · refine lv_iload hx hb dX1_answered_47 (lv_at hl 5 rfl) ?_
              refine wp_ifneB (tgt := 88) hx hb dX1_answered_49 (by decide) (fun h3 => ?_) (fun h3 => ?_)
              · refine lv_iconst (v := nI 1) hx hb dX1_answered_88 (by decide) ?_
                refine W.eq (g2 := F0 m 89 ls [.int (nI true.toNat)]) rfl ?_
                refine lv_goto (tgt := 93) hx hb dX1_answered_89 (by decide) ?_
                refine lv_istore (lv' := [(5, .int (nI true.toNat)), (0, .ref (ad 0)), (1, .int (nI o)), (2, .int (nI s0)), (3, .int (nI t0)), (4, .int (nI a)), (6, .int (nI b))]) hx hb dX1_answered_93 hl (by decide) rfl (fun ls hl => ?_)
                refine lv_iinc (v := nI (b + 1)) (lv' := [(6, .int (nI (b + 1))), (5, .int (nI true.toNat)), (0, .ref (ad 0)), (1, .int (nI o)), (2, .int (nI s0)), (3, .int (nI t0)), (4, .int (nI a))]) hx hb dX1_answered_95 hl (k := 6) rfl (sp_inc _) (by decide) rfl (fun ls hl => ?_)
                refine lv_goto (tgt := 40) hx hb dX1_answered_98 (by decide) ?_
                exact ih2 (b + 1) true (by omega) (by omega) (by rw [sp_fnd hfb, h3, Bool.true_or]) ls (lv_sub hl [2, 3, 4, 5, 6, 1, 0] rfl)
              · refine lv_aload_n hx hb dX1_answered_52 rfl (lv_at hl 0 rfl) ?_
                refine m_get S hK hP rfl 1 (by decide) q169 rfl rfl dX1_answered_53 ?_
                refine lv_iload_n hx hb dX1_answered_56 rfl (lv_at hl 1 rfl) ?_
                refine lv_bipush (v := nI 100) hx hb dX1_answered_57 (by decide) ?_
                refine wp_mul hx hb dX1_answered_59 ?_
                refine lv_iload_n hx hb dX1_answered_60 rfl (lv_at hl 3 rfl) ?_
                refine lv_bipush (v := nI 10) hx hb dX1_answered_61 (by decide) ?_
                refine wp_mul hx hb dX1_answered_63 ?_
                refine wp_add hx hb dX1_answered_64 ?_
                refine lv_iload hx hb dX1_answered_65 (lv_at hl 6 rfl) ?_
                refine wp_add hx hb dX1_answered_67 ?_
                refine g_zld S hK hP 2 1 rfl rfl (by omega) (by decide) dX1_answered_68 ?_
                refine wp_ifeqB (tgt := 92) hx hb dX1_answered_69 (by decide) (fun h4 => ?_) (fun h4 => ?_)
                · refine lv_iconst (v := nI 0) hx hb dX1_answered_92 (by decide) ?_
                  refine W.eq (g2 := F0 m 93 ls [.int (nI false.toNat)]) rfl ?_
                  refine lv_istore (lv' := [(5, .int (nI false.toNat)), (0, .ref (ad 0)), (1, .int (nI o)), (2, .int (nI s0)), (3, .int (nI t0)), (4, .int (nI a)), (6, .int (nI b))]) hx hb dX1_answered_93 hl (by decide) rfl (fun ls hl => ?_)
                  refine lv_iinc (v := nI (b + 1)) (lv' := [(6, .int (nI (b + 1))), (5, .int (nI false.toNat)), (0, .ref (ad 0)), (1, .int (nI o)), (2, .int (nI s0)), (3, .int (nI t0)), (4, .int (nI a))]) hx hb dX1_answered_95 hl (k := 6) rfl (sp_inc _) (by decide) rfl (fun ls hl => ?_)
                  refine lv_goto (tgt := 40) hx hb dX1_answered_98 (by decide) ?_
                  exact ih2 (b + 1) false (by omega) (by omega) (by rw [sp_fnd hfb, h3, Bool.false_or, h4, Bool.false_and]) ls (lv_sub hl [2, 3, 4, 5, 6, 1, 0] rfl)
                · refine lv_aload_n hx hb dX1_answered_72 rfl (lv_at hl 0 rfl) ?_
                  refine m_get S hK hP rfl 2 (by decide) q170 rfl rfl dX1_answered_73 ?_
                  refine lv_iload hx hb dX1_answered_76 (lv_at hl 4 rfl) ?_
                  refine lv_bipush (v := nI 10) hx hb dX1_answered_78 (by decide) ?_
                  refine wp_mul hx hb dX1_answered_80 ?_
                  refine lv_iload hx hb dX1_answered_81 (lv_at hl 6 rfl) ?_
                  refine wp_add hx hb dX1_answered_83 ?_
                  refine g_zld S hK hP 3 2 rfl rfl (by omega) (by decide) dX1_answered_84 ?_
                  refine wp_ifeqB (tgt := 92) hx hb dX1_answered_85 (by decide) (fun h5 => ?_) (fun h5 => ?_)
                  · refine lv_iconst (v := nI 0) hx hb dX1_answered_92 (by decide) ?_
                    refine W.eq (g2 := F0 m 93 ls [.int (nI false.toNat)]) rfl ?_
                    refine lv_istore (lv' := [(5, .int (nI false.toNat)), (0, .ref (ad 0)), (1, .int (nI o)), (2, .int (nI s0)), (3, .int (nI t0)), (4, .int (nI a)), (6, .int (nI b))]) hx hb dX1_answered_93 hl (by decide) rfl (fun ls hl => ?_)
                    refine lv_iinc (v := nI (b + 1)) (lv' := [(6, .int (nI (b + 1))), (5, .int (nI false.toNat)), (0, .ref (ad 0)), (1, .int (nI o)), (2, .int (nI s0)), (3, .int (nI t0)), (4, .int (nI a))]) hx hb dX1_answered_95 hl (k := 6) rfl (sp_inc _) (by decide) rfl (fun ls hl => ?_)
                    refine lv_goto (tgt := 40) hx hb dX1_answered_98 (by decide) ?_
                    exact ih2 (b + 1) false (by omega) (by omega) (by rw [sp_fnd hfb, h3, Bool.false_or, h4, h5, Bool.and_false]) ls (lv_sub hl [2, 3, 4, 5, 6, 1, 0] rfl)
                  · refine lv_iconst (v := nI 1) hx hb dX1_answered_88 (by decide) ?_
                    refine W.eq (g2 := F0 m 89 ls [.int (nI true.toNat)]) rfl ?_
                    refine lv_goto (tgt := 93) hx hb dX1_answered_89 (by decide) ?_
                    refine lv_istore (lv' := [(5, .int (nI true.toNat)), (0, .ref (ad 0)), (1, .int (nI o)), (2, .int (nI s0)), (3, .int (nI t0)), (4, .int (nI a)), (6, .int (nI b))]) hx hb dX1_answered_93 hl (by decide) rfl (fun ls hl => ?_)
                    refine lv_iinc (v := nI (b + 1)) (lv' := [(6, .int (nI (b + 1))), (5, .int (nI true.toNat)), (0, .ref (ad 0)), (1, .int (nI o)), (2, .int (nI s0)), (3, .int (nI t0)), (4, .int (nI a))]) hx hb dX1_answered_95 hl (k := 6) rfl (sp_inc _) (by decide) rfl (fun ls hl => ?_)
                    refine lv_goto (tgt := 40) hx hb dX1_answered_98 (by decide) ?_
                    exact ih2 (b + 1) true (by omega) (by omega) (by rw [sp_fnd hfb, h3, Bool.false_or, h4, h5, Bool.and_true]) ls (lv_sub hl [2, 3, 4, 5, 6, 1, 0] rfl)
        refine lv_aload_n hx hb dX1_answered_10 rfl (lv_at hl 0 rfl) ?_
        refine m_get S hK hP rfl 1 (by decide) q169 rfl rfl dX1_answered_11 ?_
        refine lv_iload_n hx hb dX1_answered_14 rfl (lv_at hl 1 rfl) ?_
        refine lv_bipush (v := nI 100) hx hb dX1_answered_15 (by decide) ?_
        refine wp_mul hx hb dX1_answered_17 ?_
        refine lv_iload_n hx hb dX1_answered_18 rfl (lv_at hl 2 rfl) ?_
        refine lv_bipush (v := nI 10) hx hb dX1_answered_19 (by decide) ?_
        refine wp_mul hx hb dX1_answered_21 ?_
        refine wp_add hx hb dX1_answered_22 ?_
        refine lv_iload hx hb dX1_answered_23 (lv_at hl 4 rfl) ?_
        refine wp_add hx hb dX1_answered_25 ?_
        refine g_zld S hK hP 2 1 rfl rfl (by omega) (by decide) dX1_answered_26 ?_
        refine wp_ifneB (tgt := 34) hx hb dX1_answered_27 (by decide) (fun h2 => ?_) (fun h2 => ?_)
        · refine lv_iconst (v := nI 0) hx hb dX1_answered_34 (by decide) ?_
          refine W.eq (g2 := F0 m 35 ls [.int (nI false.toNat)]) rfl ?_
          refine lv_istore (lv' := [(5, .int (nI false.toNat)), (0, .ref (ad 0)), (1, .int (nI o)), (2, .int (nI s0)), (3, .int (nI t0)), (4, .int (nI a))]) hx hb dX1_answered_35 hl (by decide) rfl (fun ls hl => ?_)
          refine lv_iconst (v := nI 0) hx hb dX1_answered_37 (by decide) ?_
          refine lv_istore (lv' := [(6, .int (nI 0)), (5, .int (nI false.toNat)), (0, .ref (ad 0)), (1, .int (nI o)), (2, .int (nI s0)), (3, .int (nI t0)), (4, .int (nI a))]) hx hb dX1_answered_38 hl (by decide) rfl (fun ls hl => ?_)
          exact inner 11 0 false (by omega) (by omega) (by rw [h2]; rfl) ls (lv_sub hl [2, 3, 4, 5, 6, 1, 0] rfl)
        · refine lv_iconst (v := nI 1) hx hb dX1_answered_30 (by decide) ?_
          refine W.eq (g2 := F0 m 31 ls [.int (nI true.toNat)]) rfl ?_
          refine lv_goto (tgt := 35) hx hb dX1_answered_31 (by decide) ?_
          refine lv_istore (lv' := [(5, .int (nI true.toNat)), (0, .ref (ad 0)), (1, .int (nI o)), (2, .int (nI s0)), (3, .int (nI t0)), (4, .int (nI a))]) hx hb dX1_answered_35 hl (by decide) rfl (fun ls hl => ?_)
          refine lv_iconst (v := nI 0) hx hb dX1_answered_37 (by decide) ?_
          refine lv_istore (lv' := [(6, .int (nI 0)), (5, .int (nI true.toNat)), (0, .ref (ad 0)), (1, .int (nI o)), (2, .int (nI s0)), (3, .int (nI t0)), (4, .int (nI a))]) hx hb dX1_answered_38 hl (by decide) rfl (fun ls hl => ?_)
          exact inner 11 0 true (by omega) (by omega) (by rw [h2]; rfl) ls (lv_sub hl [2, 3, 4, 5, 6, 1, 0] rfl)
  refine lv_iconst (v := nI 0) hx hb dX1_answered_0 (by decide) ?_
  refine lv_istore (lv' := [(4, .int (nI 0)), (0, .ref (ad 0)), (1, .int (nI o)), (2, .int (nI s0)), (3, .int (nI t0))]) hx hb dX1_answered_1 hl (by decide) rfl (fun ls hl => ?_)
  exact loop 11 0 (by omega) (by omega) lt_0 ls (lv_sub hl [1, 2, 3, 4, 0] rfl)
set_option maxHeartbeats 4000000 in
set_option maxRecDepth 100000 in
theorem mm_round (l : Launch) (D : va_G) (ad : Nat → Nat) (dd : Nat → ClassId) (mc : Nat → Nat) (ms nw af : Nat → Bool) (co st : Nat → Nat) (k : Nat) (hRel : sp_Rel co st mc ms) (hnw : ∀ q, q < 100 → nw q = sp_R co st k (q / 10) (q % 10)) : MetI l D (tM dd) (wM ad dd) yX1_round (ws_ yX1_round cX1_round 5 (some .boolean)) ({ frames := 1, cells := 0, slots := 0, locals := 26 } : Room) [.ref (ad 0)] (mc, ms, nw, af) (fun r v => ∃ nw1 af1, v = (mc, ms, nw1, af1) ∧ (∀ q, q < 100 → nw1 q = sp_R co st (k + 1) (q / 10) (q % 10)) ∧ r = nI (!sp_eq co st k).toNat) := by
  refine gi_start (by decide) (Nat.le_of_ble_eq_true rfl) ?_
  intro p e s m as below meth c A Q S hA hK ret H locs hP hD hS ls hl
  have hx := S.1
  have hb := S.2.1
  have S : CallFix p m c cX1_round 5 s as lw_all RX1 := S
  have hP : va_P D vwCl (wMs ad dd mc ms nw af) H := hP
  have hD : va_D A (wMs ad dd mc ms nw af) := hD
  have hl : lv_has ls 5 [(0, .ref (ad 0))] := hl
  have copy : ∀ (ch : Bool) (af1 : Nat → Bool), ch = (!sp_eq co st k) → (∀ q, q < 100 → af1 q = sp_R co st (k + 1) (q / 10) (q % 10)) → ∀ (n i : Nat) (nw1 : Nat → Bool), i ≤ 100 → 100 < i + n → (∀ q, q < i → nw1 q = sp_R co st (k + 1) (q / 10) (q % 10)) → ∀ (H : Heap) (locs : List Loc), va_P D vwCl (wMs ad dd mc ms nw1 af1) H → va_D A (wMs ad dd mc ms nw1 af1) → va_S A s.heap H locs → ∀ ls : Array Slot, lv_has ls 5 [(0, .ref (ad 0)), (1, .int (nI ch.toNat)), (2, .int (nI i))] → W p l e ({ frames := 1, cells := 0, slots := 0, locals := 26 } : Room) s m as below meth c H locs 0 0 Q (F0 m 110 ls []) := by
    intro ch af1 hch haf n
    induction n with
    | zero => intro i _ q1 q2; omega
    | succ n ih =>
      intro i nw1 hi hn hall H locs hP hD hS ls hl
      refine lv_iload_n hx hb dX1_round_110 rfl (lv_at hl 2 rfl) ?_
      refine lv_bipush (v := nI 100) hx hb dX1_round_111 (by decide) ?_
      refine wp_ge (tgt := 134) hx hb (by omega) (by omega) dX1_round_113 (by decide) (fun hc => ?_) (fun hc => ?_)
      · refine lv_iload_n hx hb dX1_round_134 rfl (lv_at hl 1 rfl) ?_
        exact ret ((nI ch.toNat)) (mc, ms, nw1, af1) H locs ls _ dX1_round_135 (sp_nzr _) hP hD hS (⟨nw1, af1, rfl, fun q hq => hall q (by omega), by rw [hch]⟩)
      · refine lv_aload_n hx hb dX1_round_116 rfl (lv_at hl 0 rfl) ?_
        refine m_get S hK hP rfl 2 (by decide) q170 rfl rfl dX1_round_117 ?_
        refine lv_iload_n hx hb dX1_round_120 rfl (lv_at hl 2 rfl) ?_
        refine lv_aload_n hx hb dX1_round_121 rfl (lv_at hl 0 rfl) ?_
        refine m_get S hK hP rfl 3 (by decide) q171 rfl rfl dX1_round_122 ?_
        refine lv_iload_n hx hb dX1_round_125 rfl (lv_at hl 2 rfl) ?_
        refine g_zld S hK hP 4 3 rfl rfl (by omega) (by decide) dX1_round_126 ?_
        refine g_zst S hK hP hD hS 3 2 rfl rfl (by omega) (by decide) dX1_round_127 (fun H locs hP hD hS => ?_)
        have hP : va_P D vwCl (wMs ad dd mc ms (va_up nw1 i (af1 i)) af1) H := hP
        have hD : va_D A (wMs ad dd mc ms (va_up nw1 i (af1 i)) af1) := hD
        refine lv_iinc (v := nI (i + 1)) (lv' := [(2, .int (nI (i + 1))), (0, .ref (ad 0)), (1, .int (nI ch.toNat))]) hx hb dX1_round_128 hl (k := 2) rfl (sp_inc _) (by decide) rfl (fun ls hl => ?_)
        refine lv_goto (tgt := 110) hx hb dX1_round_131 (by decide) ?_
        exact ih (i + 1) _ (by omega) (by omega) (fun q hq => if z : q = i then (by rw [z, sp_up_s]; exact haf i hc) else (by rw [sp_up_n _ _ z]; exact hall q (by omega))) H locs hP hD hS ls (lv_sub hl [1, 2, 0] rfl)
  have loop : ∀ (n i : Nat) (ch : Bool) (af1 : Nat → Bool), i ≤ 100 → 100 < i + n → ch = sp_any (fun q => sp_R co st (k + 1) (q / 10) (q % 10) != sp_R co st k (q / 10) (q % 10)) i → (∀ q, q < i → af1 q = sp_R co st (k + 1) (q / 10) (q % 10)) → ∀ (H : Heap) (locs : List Loc), va_P D vwCl (wMs ad dd mc ms nw af1) H → va_D A (wMs ad dd mc ms nw af1) → va_S A s.heap H locs → ∀ ls : Array Slot, lv_has ls 5 [(0, .ref (ad 0)), (1, .int (nI ch.toNat)), (2, .int (nI i))] → W p l e ({ frames := 1, cells := 0, slots := 0, locals := 26 } : Room) s m as below meth c H locs 0 0 Q (F0 m 4 ls []) := by
    intro n
    induction n with
    | zero => intro i _ _ q1 q2; omega
    | succ n ih =>
      intro i ch af1 hi hn hch hall H locs hP hD hS ls hl
      refine lv_iload_n hx hb dX1_round_4 rfl (lv_at hl 2 rfl) ?_
      refine lv_bipush (v := nI 100) hx hb dX1_round_5 (by decide) ?_
      refine wp_ge (tgt := 108) hx hb (by omega) (by omega) dX1_round_7 (by decide) (fun hc => ?_) (fun hc => ?_)
      · have hi100 : i = 100 := by omega
        rw [hi100] at hch hall
        refine lv_iconst (v := nI 0) hx hb dX1_round_108 (by decide) ?_
        refine lv_istore_n (lv' := [(2, .int (nI 0)), (0, .ref (ad 0)), (1, .int (nI ch.toNat))]) hx hb dX1_round_109 rfl hl (by decide) rfl (fun ls hl => ?_)
        exact copy ch af1 (by rw [hch, sp_anyall]; rfl) hall 101 0 nw (by omega) (by omega) lt_0 H locs hP hD hS ls (lv_sub hl [1, 2, 0] rfl)
      · have hni : nw (i / 10 * 10 + i % 10) = nw i := by rw [show i / 10 * 10 + i % 10 = i by omega]
        have hnx : sp_R co st (k + 1) (i / 10) (i % 10) = (nw (i / 10 * 10 + i % 10) && sp_ans (fun z => ms (0 * 100 + (i / 10) * 10 + z)) (fun z => ms (0 * 100 + (i % 10) * 10 + z)) (fun x z => nw (x * 10 + z)) && sp_ans (fun z => ms (0 * 100 + (i % 10) * 10 + z)) (fun z => ms (0 * 100 + (i / 10) * 10 + z)) (fun x z => nw (x * 10 + z)) && sp_ans (fun z => ms (1 * 100 + (i / 10) * 10 + z)) (fun z => ms (1 * 100 + (i % 10) * 10 + z)) (fun x z => nw (x * 10 + z)) && sp_ans (fun z => ms (1 * 100 + (i % 10) * 10 + z)) (fun z => ms (1 * 100 + (i / 10) * 10 + z)) (fun x z => nw (x * 10 + z))) := by
          rw [sp_R_s]
          exact sp_nx_congr (e' := fun o s a => ms (o * 100 + s * 10 + a)) (r' := fun a b => nw (a * 10 + b)) (by omega) (by omega) (fun o a b ho ha hb => (hRel.2 o a b ho ha hb).symm) (fun a b ha hb => by show _ = nw (a * 10 + b); rw [hnw _ (by omega), show (a * 10 + b) / 10 = a by omega, show (a * 10 + b) % 10 = b by omega])
        rw [hni] at hnx
        have join : ∀ bv : Bool, bv = sp_R co st (k + 1) (i / 10) (i % 10) → ∀ (H : Heap) (locs : List Loc), va_P D vwCl (wMs ad dd mc ms nw af1) H → va_D A (wMs ad dd mc ms nw af1) → va_S A s.heap H locs → ∀ ls : Array Slot, lv_has ls 5 [(0, .ref (ad 0)), (1, .int (nI ch.toNat)), (2, .int (nI i))] → W p l e ({ frames := 1, cells := 0, slots := 0, locals := 26 } : Room) s m as below meth c H locs 0 0 Q (F0 m 84 ls [.int (nI bv.toNat), .int (nI i), .ref (ad 4)]) := by
          intro bv ebv H locs hP hD hS ls hl
          refine g_zst S hK hP hD hS 4 3 rfl rfl (by omega) (by decide) dX1_round_84 (fun H locs hP hD hS => ?_)
          have hP : va_P D vwCl (wMs ad dd mc ms nw (va_up af1 i bv)) H := hP
          have hD : va_D A (wMs ad dd mc ms nw (va_up af1 i bv)) := hD
          refine lv_aload_n hx hb dX1_round_85 rfl (lv_at hl 0 rfl) ?_
          refine m_get S hK hP rfl 3 (by decide) q171 rfl rfl dX1_round_86 ?_
          refine lv_iload_n hx hb dX1_round_89 rfl (lv_at hl 2 rfl) ?_
          refine g_zld S hK hP 4 3 rfl rfl (by omega) (by decide) dX1_round_90 ?_
          refine wp_toB (bv) (sp_up_s _ _ _) ?_
          refine lv_aload_n hx hb dX1_round_91 rfl (lv_at hl 0 rfl) ?_
          refine m_get S hK hP rfl 2 (by decide) q170 rfl rfl dX1_round_92 ?_
          refine lv_iload_n hx hb dX1_round_95 rfl (lv_at hl 2 rfl) ?_
          refine g_zld S hK hP 3 2 rfl rfl (by omega) (by decide) dX1_round_96 ?_
          refine wp_eqB (tgt := 102) hx hb dX1_round_97 (by decide) (fun h3 => ?_) (fun h3 => ?_)
          · refine lv_iinc (v := nI (i + 1)) (lv' := [(2, .int (nI (i + 1))), (0, .ref (ad 0)), (1, .int (nI ch.toNat))]) hx hb dX1_round_102 hl (k := 2) rfl (sp_inc _) (by decide) rfl (fun ls hl => ?_)
            refine lv_goto (tgt := 4) hx hb dX1_round_105 (by decide) ?_
            exact ih (i + 1) ch _ (by omega) (by omega) (by show ch = (sp_any _ i || (sp_R co st (k + 1) (i / 10) (i % 10) != sp_R co st k (i / 10) (i % 10))); rw [← ebv, ← hnw i hc, ← hch, bne_eq_false_iff_eq.mpr h3, Bool.or_false]) (fun q hq => if z : q = i then (by rw [z, sp_up_s]; exact ebv) else (by rw [sp_up_n _ _ z]; exact hall q (by omega))) H locs hP hD hS ls (lv_sub hl [1, 2, 0] rfl)
          · refine lv_iconst (v := nI 1) hx hb dX1_round_100 (by decide) ?_
            refine W.eq (g2 := F0 m 101 ls [.int (nI true.toNat)]) rfl ?_
            refine lv_istore_n (lv' := [(1, .int (nI true.toNat)), (0, .ref (ad 0)), (2, .int (nI i))]) hx hb dX1_round_101 rfl hl (by decide) rfl (fun ls hl => ?_)
            refine lv_iinc (v := nI (i + 1)) (lv' := [(2, .int (nI (i + 1))), (1, .int (nI true.toNat)), (0, .ref (ad 0))]) hx hb dX1_round_102 hl (k := 2) rfl (sp_inc _) (by decide) rfl (fun ls hl => ?_)
            refine lv_goto (tgt := 4) hx hb dX1_round_105 (by decide) ?_
            exact ih (i + 1) true _ (by omega) (by omega) (by show true = (sp_any _ i || (sp_R co st (k + 1) (i / 10) (i % 10) != sp_R co st k (i / 10) (i % 10))); rw [← ebv, ← hnw i hc, bne_iff_ne.mpr h3, Bool.or_true]) (fun q hq => if z : q = i then (by rw [z, sp_up_s]; exact ebv) else (by rw [sp_up_n _ _ z]; exact hall q (by omega))) H locs hP hD hS ls (lv_sub hl [2, 1, 0] rfl)
        refine lv_iload_n hx hb dX1_round_10 rfl (lv_at hl 2 rfl) ?_
        refine lv_bipush (v := nI 10) hx hb dX1_round_11 (by decide) ?_
        refine wp_div hx hb (by omega) (by omega) (by omega) dX1_round_13 ?_
        refine lv_istore_n (lv' := [(3, .int (nI (i / 10))), (0, .ref (ad 0)), (1, .int (nI ch.toNat)), (2, .int (nI i))]) hx hb dX1_round_14 rfl hl (by decide) rfl (fun ls hl => ?_)
        refine lv_iload_n hx hb dX1_round_15 rfl (lv_at hl 3 rfl) ?_
        refine lv_bipush (v := nI 10) hx hb dX1_round_16 (by decide) ?_
        refine wp_rem hx hb (by omega) (by omega) (by omega) dX1_round_18 ?_
        refine lv_istore (lv' := [(4, .int (nI (i % 10))), (3, .int (nI (i / 10))), (0, .ref (ad 0)), (1, .int (nI ch.toNat)), (2, .int (nI i))]) hx hb dX1_round_19 hl (by decide) rfl (fun ls hl => ?_)
        refine lv_aload_n hx hb dX1_round_21 rfl (lv_at hl 2 rfl) ?_
        refine m_get S hK hP rfl 3 (by decide) q171 rfl rfl dX1_round_22 ?_
        refine lv_iload_n hx hb dX1_round_25 rfl (lv_at hl 4 rfl) ?_
        refine lv_aload_n hx hb dX1_round_26 rfl (lv_at hl 2 rfl) ?_
        refine m_get S hK hP rfl 2 (by decide) q170 rfl rfl dX1_round_27 ?_
        refine lv_iload_n hx hb dX1_round_30 rfl (lv_at hl 4 rfl) ?_
        refine g_zld S hK hP 3 2 rfl rfl (by omega) (by decide) dX1_round_31 ?_
        refine wp_ifeqB (tgt := 83) hx hb dX1_round_32 (by decide) (fun h0 => ?_) (fun h0 => ?_)
        · refine lv_iconst (v := nI 0) hx hb dX1_round_83 (by decide) ?_
          refine W.eq (g2 := F0 m 84 ls [.int (nI false.toNat), .int (nI i), .ref (ad 4)]) rfl ?_
          exact join false (by rw [hnx, h0]; rfl) H locs hP hD hS ls (lv_sub hl [2, 3, 4] rfl)
        · refine lv_aload_n hx hb dX1_round_35 rfl (lv_at hl 2 rfl) ?_
          refine lv_iconst (v := nI 0) hx hb dX1_round_36 (by decide) ?_
          refine lv_iload_n hx hb dX1_round_37 rfl (lv_at hl 1 rfl) ?_
          refine lv_iload hx hb dX1_round_38 (lv_at hl 0 rfl) ?_
          refine gi_call S [.int (nI 0), .int (nI (i / 10)), .int (nI (i % 10))] [.int (nI i), .ref (ad 4)] (mm_answered l D ad dd mc ms nw af1 0 (i / 10) (i % 10) (by decide) (by omega) (by omega)) (cwV 3 S.2.2.2.2 (lw_V q210 q212 qs17 q21 q213) rfl rfl rfl (by decide +kernel) ⟨Nat.le_of_ble_eq_true rfl, Nat.le_of_ble_eq_true rfl⟩) rfl rfl hK hP hD hS hA rfl rfl hl.1 (Nat.le_of_ble_eq_true rfl) dX1_round_40 ⟨Nat.zero_le _, Nat.zero_le _⟩ (fun r v H locs hw hP hD hS => ?_)
          obtain ⟨rfl, rfl⟩ := hw
          have hP : va_P D vwCl (wMs ad dd mc ms nw af1) H := hP
          have hD : va_D A (wMs ad dd mc ms nw af1) := hD
          refine wp_ifeqB (tgt := 83) hx hb dX1_round_43 (by decide) (fun h1 => ?_) (fun h1 => ?_)
          · refine lv_iconst (v := nI 0) hx hb dX1_round_83 (by decide) ?_
            refine W.eq (g2 := F0 m 84 ls [.int (nI false.toNat), .int (nI i), .ref (ad 4)]) rfl ?_
            exact join false (by rw [hnx, h0, h1]; rfl) H locs hP hD hS ls (lv_sub hl [2, 3, 4] rfl)
          · refine lv_aload_n hx hb dX1_round_46 rfl (lv_at hl 2 rfl) ?_
            refine lv_iconst (v := nI 0) hx hb dX1_round_47 (by decide) ?_
            refine lv_iload hx hb dX1_round_48 (lv_at hl 0 rfl) ?_
            refine lv_iload_n hx hb dX1_round_50 rfl (lv_at hl 1 rfl) ?_
            refine gi_call S [.int (nI 0), .int (nI (i % 10)), .int (nI (i / 10))] [.int (nI i), .ref (ad 4)] (mm_answered l D ad dd mc ms nw af1 0 (i % 10) (i / 10) (by decide) (by omega) (by omega)) (cwV 3 S.2.2.2.2 (lw_V q210 q212 qs17 q21 q213) rfl rfl rfl (by decide +kernel) ⟨Nat.le_of_ble_eq_true rfl, Nat.le_of_ble_eq_true rfl⟩) rfl rfl hK hP hD hS hA rfl rfl hl.1 (Nat.le_of_ble_eq_true rfl) dX1_round_51 ⟨Nat.zero_le _, Nat.zero_le _⟩ (fun r v H locs hw hP hD hS => ?_)
            obtain ⟨rfl, rfl⟩ := hw
            have hP : va_P D vwCl (wMs ad dd mc ms nw af1) H := hP
            have hD : va_D A (wMs ad dd mc ms nw af1) := hD
            refine wp_ifeqB (tgt := 83) hx hb dX1_round_54 (by decide) (fun h2 => ?_) (fun h2 => ?_)
            · refine lv_iconst (v := nI 0) hx hb dX1_round_83 (by decide) ?_
              refine W.eq (g2 := F0 m 84 ls [.int (nI false.toNat), .int (nI i), .ref (ad 4)]) rfl ?_
              exact join false (by rw [hnx, h0, h1, h2]; rfl) H locs hP hD hS ls (lv_sub hl [2, 3, 4] rfl)
            · refine lv_aload_n hx hb dX1_round_57 rfl (lv_at hl 2 rfl) ?_
              refine lv_iconst (v := nI 1) hx hb dX1_round_58 (by decide) ?_
              refine lv_iload_n hx hb dX1_round_59 rfl (lv_at hl 1 rfl) ?_
              refine lv_iload hx hb dX1_round_60 (lv_at hl 0 rfl) ?_
              refine gi_call S [.int (nI 1), .int (nI (i / 10)), .int (nI (i % 10))] [.int (nI i), .ref (ad 4)] (mm_answered l D ad dd mc ms nw af1 1 (i / 10) (i % 10) (by decide) (by omega) (by omega)) (cwV 3 S.2.2.2.2 (lw_V q210 q212 qs17 q21 q213) rfl rfl rfl (by decide +kernel) ⟨Nat.le_of_ble_eq_true rfl, Nat.le_of_ble_eq_true rfl⟩) rfl rfl hK hP hD hS hA rfl rfl hl.1 (Nat.le_of_ble_eq_true rfl) dX1_round_62 ⟨Nat.zero_le _, Nat.zero_le _⟩ (fun r v H locs hw hP hD hS => ?_)
              obtain ⟨rfl, rfl⟩ := hw
              have hP : va_P D vwCl (wMs ad dd mc ms nw af1) H := hP
              have hD : va_D A (wMs ad dd mc ms nw af1) := hD
              refine wp_ifeqB (tgt := 83) hx hb dX1_round_65 (by decide) (fun h3 => ?_) (fun h3 => ?_)
              · refine lv_iconst (v := nI 0) hx hb dX1_round_83 (by decide) ?_
                refine W.eq (g2 := F0 m 84 ls [.int (nI false.toNat), .int (nI i), .ref (ad 4)]) rfl ?_
                exact join false (by rw [hnx, h0, h1, h2, h3]; rfl) H locs hP hD hS ls (lv_sub hl [2, 3, 4] rfl)
              · refine lv_aload_n hx hb dX1_round_68 rfl (lv_at hl 2 rfl) ?_
                refine lv_iconst (v := nI 1) hx hb dX1_round_69 (by decide) ?_
                refine lv_iload hx hb dX1_round_70 (lv_at hl 0 rfl) ?_
                refine lv_iload_n hx hb dX1_round_72 rfl (lv_at hl 1 rfl) ?_
                refine gi_call S [.int (nI 1), .int (nI (i % 10)), .int (nI (i / 10))] [.int (nI i), .ref (ad 4)] (mm_answered l D ad dd mc ms nw af1 1 (i % 10) (i / 10) (by decide) (by omega) (by omega)) (cwV 3 S.2.2.2.2 (lw_V q210 q212 qs17 q21 q213) rfl rfl rfl (by decide +kernel) ⟨Nat.le_of_ble_eq_true rfl, Nat.le_of_ble_eq_true rfl⟩) rfl rfl hK hP hD hS hA rfl rfl hl.1 (Nat.le_of_ble_eq_true rfl) dX1_round_73 ⟨Nat.zero_le _, Nat.zero_le _⟩ (fun r v H locs hw hP hD hS => ?_)
                obtain ⟨rfl, rfl⟩ := hw
                have hP : va_P D vwCl (wMs ad dd mc ms nw af1) H := hP
                have hD : va_D A (wMs ad dd mc ms nw af1) := hD
                refine wp_ifeqB (tgt := 83) hx hb dX1_round_76 (by decide) (fun h4 => ?_) (fun h4 => ?_)
                · refine lv_iconst (v := nI 0) hx hb dX1_round_83 (by decide) ?_
                  refine W.eq (g2 := F0 m 84 ls [.int (nI false.toNat), .int (nI i), .ref (ad 4)]) rfl ?_
                  exact join false (by rw [hnx, h0, h1, h2, h3, h4]; rfl) H locs hP hD hS ls (lv_sub hl [2, 3, 4] rfl)
                · refine lv_iconst (v := nI 1) hx hb dX1_round_79 (by decide) ?_
                  refine W.eq (g2 := F0 m 80 ls [.int (nI true.toNat), .int (nI i), .ref (ad 4)]) rfl ?_
                  refine lv_goto (tgt := 84) hx hb dX1_round_80 (by decide) ?_
                  exact join true (by rw [hnx, h0, h1, h2, h3, h4]; rfl) H locs hP hD hS ls (lv_sub hl [2, 3, 4] rfl)
  refine lv_iconst (v := nI 0) hx hb dX1_round_0 (by decide) ?_
  refine W.eq (g2 := F0 m 1 ls [.int (nI false.toNat)]) rfl ?_
  refine lv_istore_n (lv' := [(1, .int (nI false.toNat)), (0, .ref (ad 0))]) hx hb dX1_round_1 rfl hl (by decide) rfl (fun ls hl => ?_)
  refine lv_iconst (v := nI 0) hx hb dX1_round_2 (by decide) ?_
  refine lv_istore_n (lv' := [(2, .int (nI 0)), (1, .int (nI false.toNat)), (0, .ref (ad 0))]) hx hb dX1_round_3 rfl hl (by decide) rfl (fun ls hl => ?_)
  exact loop 101 0 false af (by omega) (by omega) rfl lt_0 H locs hP hD hS ls (lv_sub hl [2, 1, 0] rfl)
set_option maxHeartbeats 4000000 in
set_option maxRecDepth 100000 in
theorem mm_settle (l : Launch) (D : va_G) (ad : Nat → Nat) (dd : Nat → ClassId) (mc : Nat → Nat) (ms nw af : Nat → Bool) (co st : Nat → Nat) (hRel : sp_Rel co st mc ms) (hc4 : ∀ s, s < 10 → co s < 4) : MetI l D (tM dd) (wM ad dd) yX1_settle (ws_ yX1_settle cX1_settle 2 (some .int)) ({ frames := 2, cells := 0, slots := 0, locals := 50 } : Room) [.ref (ad 0)] (mc, ms, nw, af) (fun r v => ∃ nw1 af1, v = (mc, ms, nw1, af1) ∧ (∀ q, q < 100 → nw1 q = sp_F co st (q / 10) (q % 10)) ∧ r = nI (sp_N co st)) := by
  refine gi_start (by decide) (Nat.le_of_ble_eq_true rfl) ?_
  intro p e s m as below meth c A Q S hA hK ret H locs hP hD hS ls hl
  have hx := S.1
  have hb := S.2.1
  have S : CallFix p m c cX1_settle 2 s as lw_all RX1 := S
  have hP : va_P D vwCl (wMs ad dd mc ms nw af) H := hP
  have hD : va_D A (wMs ad dd mc ms nw af) := hD
  have hl : lv_has ls 2 [(0, .ref (ad 0))] := hl
  have hN := sp_N_lt co st
  have loop : ∀ (n k : Nat) (nw1 af1 : Nat → Bool), k ≤ sp_N co st → sp_N co st < k + n → (∀ q, q < 100 → nw1 q = sp_R co st k (q / 10) (q % 10)) → ∀ (H : Heap) (locs : List Loc), va_P D vwCl (wMs ad dd mc ms nw1 af1) H → va_D A (wMs ad dd mc ms nw1 af1) → va_S A s.heap H locs → ∀ ls : Array Slot, lv_has ls 2 [(0, .ref (ad 0)), (1, .int (nI k))] → W p l e ({ frames := 2, cells := 0, slots := 0, locals := 50 } : Room) s m as below meth c H locs 0 0 Q (F0 m 6 ls []) := by
    intro n
    induction n with
    | zero => intro k _ _ q1 q2; omega
    | succ n ih =>
      intro k nw1 af1 hk hn hall H locs hP hD hS ls hl
      refine lv_iload_n hx hb dX1_settle_6 rfl (lv_at hl 1 rfl) ?_
      refine lv_bipush (v := nI 100) hx hb dX1_settle_7 (by decide) ?_
      refine wp_ge (tgt := 25) hx hb (by omega) (by omega) dX1_settle_9 (by decide) (fun hc => ?_) (fun hc => ?_)
      · exact absurd hc (by omega)
      · refine lv_aload_n hx hb dX1_settle_12 rfl (lv_at hl 0 rfl) ?_
        refine gi_call S [] [] (mm_round l D ad dd mc ms nw1 af1 co st k hRel hall) (cwV 0 S.2.2.2.2 (lw_V q206 q208 qs16 q21 q209) rfl rfl rfl (by decide +kernel) ⟨Nat.le_of_ble_eq_true rfl, Nat.le_of_ble_eq_true rfl⟩) rfl rfl hK hP hD hS hA rfl rfl hl.1 (Nat.le_of_ble_eq_true rfl) dX1_settle_13 ⟨Nat.zero_le _, Nat.zero_le _⟩ (fun r v H locs hw hP hD hS => ?_)
        obtain ⟨nw2, af2, rfl, hall2, rfl⟩ := hw
        have hP : va_P D vwCl (wMs ad dd mc ms nw2 af2) H := hP
        have hD : va_D A (wMs ad dd mc ms nw2 af2) := hD
        refine wp_ifeqB (tgt := 25) hx hb dX1_settle_16 (by decide) (fun h2 => ?_) (fun h2 => ?_)
        · have he : sp_eq co st k = true := by cases hq : sp_eq co st k with | true => rfl | false => rw [hq] at h2; exact absurd h2 (by decide)
          have hkN : k = sp_N co st := by
            rcases Nat.lt_or_ge k (sp_N co st) with q | q
            · rw [sp_N_no q] at he; exact absurd he (by decide)
            · omega
          refine lv_iload_n hx hb dX1_settle_25 rfl (lv_at hl 1 rfl) ?_
          exact ret ((nI k)) (mc, ms, nw2, af2) H locs ls _ dX1_settle_26 rfl hP hD hS (⟨nw2, af2, rfl, fun q hq => by rw [hall2 q hq, sp_eq_iff.mp he _ _ (by omega) (by omega), hkN], by rw [hkN]⟩)
        · have hne : k ≠ sp_N co st := fun q => by rw [q, sp_N_eq] at h2; exact absurd h2 (by decide)
          refine lv_iinc (v := nI (k + 1)) (lv' := [(1, .int (nI (k + 1))), (0, .ref (ad 0))]) hx hb dX1_settle_19 hl (k := 1) rfl (sp_inc _) (by decide) rfl (fun ls hl => ?_)
          refine lv_goto (tgt := 6) hx hb dX1_settle_22 (by decide) ?_
          exact ih (k + 1) nw2 af2 (by omega) (by omega) hall2 H locs hP hD hS ls (lv_sub hl [1, 0] rfl)
  refine lv_iconst (v := nI 0) hx hb dX1_settle_0 (by decide) ?_
  refine lv_istore_n (lv' := [(1, .int (nI 0)), (0, .ref (ad 0))]) hx hb dX1_settle_1 rfl hl (by decide) rfl (fun ls hl => ?_)
  refine lv_aload_n hx hb dX1_settle_2 rfl (lv_at hl 1 rfl) ?_
  refine gv_call S [] [] (mm_begin l D ad dd mc ms nw af co st hRel hc4) (cwV 0 S.2.2.2.2 (lw_V q202 q204 qs15 q21 q205) rfl rfl rfl (by decide +kernel) ⟨Nat.le_of_ble_eq_true rfl, Nat.le_of_ble_eq_true rfl⟩) rfl rfl hK hP hD hS hA rfl rfl hl.1 (Nat.le_of_ble_eq_true rfl) dX1_settle_3 ⟨Nat.zero_le _, Nat.zero_le _⟩ (fun v H locs hw hP hD hS => ?_)
  obtain ⟨nw1, rfl, hall⟩ := hw
  have hP : va_P D vwCl (wMs ad dd mc ms nw1 af) H := hP
  have hD : va_D A (wMs ad dd mc ms nw1 af) := hD
  exact loop (sp_N co st + 1) 0 nw1 af (by omega) (by omega) hall H locs hP hD hS ls (lv_sub hl [1, 0] rfl)
set_option maxHeartbeats 4000000 in
set_option maxRecDepth 100000 in
theorem mm_leaderNow (l : Launch) (D : va_G) (ad : Nat → Nat) (dd : Nat → ClassId) (mc : Nat → Nat) (ms nw af : Nat → Bool) (co st : Nat → Nat) (s0 : Nat) (hs : s0 < 10) (hnw : ∀ q, q < 100 → nw q = sp_F co st (q / 10) (q % 10)) : MetI l D (tM dd) (wM ad dd) yX1_leaderNow (ws_ yX1_leaderNow cX1_leaderNow 3 (some .int)) ({ frames := 0, cells := 0, slots := 0, locals := 0 } : Room) [.ref (ad 0), .int (nI s0)] (mc, ms, nw, af) (fun r v => v = (mc, ms, nw, af) ∧ r = nI (sp_LD co st s0)) := by
  refine gi_start (by decide) (Nat.le_of_ble_eq_true rfl) ?_
  intro p e s m as below meth c A Q S hA hK ret H locs hP hD hS ls hl
  have hx := S.1
  have hb := S.2.1
  have S : CallFix p m c cX1_leaderNow 3 s as lw_all RX1 := S
  have hP : va_P D vwCl (wMs ad dd mc ms nw af) H := hP
  have hD : va_D A (wMs ad dd mc ms nw af) := hD
  have hl : lv_has ls 3 [(0, .ref (ad 0)), (1, .int (nI s0))] := hl
  have loop : ∀ (n t : Nat), t ≤ s0 → s0 < t + n → (∀ j, j < t → sp_F co st s0 j = false) → ∀ ls : Array Slot, lv_has ls 3 [(0, .ref (ad 0)), (1, .int (nI s0)), (2, .int (nI t))] → W p l e ({ frames := 0, cells := 0, slots := 0, locals := 0 } : Room) s m as below meth c H locs 0 0 Q (F0 m 2 ls []) := by
    intro n
    induction n with
    | zero => intro t q1 q2; omega
    | succ n ih =>
      intro t ht hn hall ls hl
      refine lv_iload_n hx hb dX1_leaderNow_2 rfl (lv_at hl 2 rfl) ?_
      refine lv_iload_n hx hb dX1_leaderNow_3 rfl (lv_at hl 1 rfl) ?_
      refine wp_ge (tgt := 27) hx hb (by omega) (by omega) dX1_leaderNow_4 (by decide) (fun hc => ?_) (fun hc => ?_)
      · refine lv_iload_n hx hb dX1_leaderNow_27 rfl (lv_at hl 2 rfl) ?_
        exact ret ((nI t)) (mc, ms, nw, af) H locs ls _ dX1_leaderNow_28 rfl hP hD hS (⟨rfl, congrArg nI (sp_L_of ht hall (fun q => by omega))⟩)
      · refine lv_aload_n hx hb dX1_leaderNow_7 rfl (lv_at hl 0 rfl) ?_
        refine m_get S hK hP rfl 2 (by decide) q170 rfl rfl dX1_leaderNow_8 ?_
        refine lv_iload_n hx hb dX1_leaderNow_11 rfl (lv_at hl 1 rfl) ?_
        refine lv_bipush (v := nI 10) hx hb dX1_leaderNow_12 (by decide) ?_
        refine wp_mul hx hb dX1_leaderNow_14 ?_
        refine lv_iload_n hx hb dX1_leaderNow_15 rfl (lv_at hl 2 rfl) ?_
        refine wp_add hx hb dX1_leaderNow_16 ?_
        refine g_zld S hK hP 3 2 rfl rfl (by omega) (by decide) dX1_leaderNow_17 ?_
        refine wp_toB (sp_F co st s0 t) (by rw [hnw _ (by omega), show (s0 * 10 + t) / 10 = s0 by omega, show (s0 * 10 + t) % 10 = t by omega]) ?_
        refine wp_ifneB (tgt := 27) hx hb dX1_leaderNow_18 (by decide) (fun h2 => ?_) (fun h2 => ?_)
        · refine lv_iload_n hx hb dX1_leaderNow_27 rfl (lv_at hl 2 rfl) ?_
          exact ret ((nI t)) (mc, ms, nw, af) H locs ls _ dX1_leaderNow_28 rfl hP hD hS (⟨rfl, congrArg nI (sp_L_of ht hall (fun _ => h2))⟩)
        · refine lv_iinc (v := nI (t + 1)) (lv' := [(2, .int (nI (t + 1))), (0, .ref (ad 0)), (1, .int (nI s0))]) hx hb dX1_leaderNow_21 hl (k := 2) rfl (sp_inc _) (by decide) rfl (fun ls hl => ?_)
          refine lv_goto (tgt := 2) hx hb dX1_leaderNow_24 (by decide) ?_
          exact ih (t + 1) (by omega) (by omega) (lt_s hall h2) ls (lv_sub hl [1, 2, 0] rfl)
  refine lv_iconst (v := nI 0) hx hb dX1_leaderNow_0 (by decide) ?_
  refine lv_istore_n (lv' := [(2, .int (nI 0)), (0, .ref (ad 0)), (1, .int (nI s0))]) hx hb dX1_leaderNow_1 rfl hl (by decide) rfl (fun ls hl => ?_)
  exact loop (s0 + 1) 0 (by omega) (by omega) lt_0 ls (lv_sub hl [1, 2, 0] rfl)
end
section
/-! WALKS, 6: the reference's public methods (printed by gen/gen6.py) -/
set_option maxHeartbeats 4000000 in
set_option maxRecDepth 100000 in
theorem mm_rounds (l : Launch) (D : va_G) (ad : Nat → Nat) (dd : Nat → ClassId) (mc : Nat → Nat) (ms nw af : Nat → Bool) (co st : Nat → Nat) (hRel : sp_Rel co st mc ms) (hc4 : ∀ s, s < 10 → co s < 4) : MetI l D (tM dd) (wM ad dd) yX1_rounds (ws_ yX1_rounds cX1_rounds 1 (some .int)) ({ frames := 3, cells := 0, slots := 0, locals := 71 } : Room) [.ref (ad 0)] (mc, ms, nw, af) (fun r v => ∃ nw1 af1, v = (mc, ms, nw1, af1) ∧ r = nI (sp_N co st)) := by
  refine gi_start (by decide) (Nat.le_of_ble_eq_true rfl) ?_
  intro p e s m as below meth c A Q S hA hK ret H locs hP hD hS ls hl
  have hx := S.1
  have hb := S.2.1
  have S : CallFix p m c cX1_rounds 1 s as lw_all RX1 := S
  have hP : va_P D vwCl (wMs ad dd mc ms nw af) H := hP
  have hD : va_D A (wMs ad dd mc ms nw af) := hD
  have hl : lv_has ls 1 [(0, .ref (ad 0))] := hl
  refine lv_aload_n hx hb dX1_rounds_0 rfl (lv_at hl 0 rfl) ?_
  refine gi_call S [] [] (mm_settle l D ad dd mc ms nw af co st hRel hc4) (cwV 0 S.2.2.2.2 (lw_V q198 q200 qs14 q21 q201) rfl rfl rfl (by decide +kernel) ⟨Nat.le_of_ble_eq_true rfl, Nat.le_of_ble_eq_true rfl⟩) rfl rfl hK hP hD hS hA rfl rfl hl.1 (Nat.le_of_ble_eq_true rfl) dX1_rounds_1 ⟨Nat.zero_le _, Nat.zero_le _⟩ (fun r v H locs hw hP hD hS => ?_)
  obtain ⟨nw1, af1, rfl, hnw, rfl⟩ := hw
  have hP : va_P D vwCl (wMs ad dd mc ms nw1 af1) H := hP
  have hD : va_D A (wMs ad dd mc ms nw1 af1) := hD
  have hF : ∀ a b, a < 10 → b < 10 → nw1 (a * 10 + b) = sp_F co st a b := fun a b ha hb => by rw [hnw _ (by omega), show (a * 10 + b) / 10 = a by omega, show (a * 10 + b) % 10 = b by omega]
  exact ret ((nI (sp_N co st))) (mc, ms, nw1, af1) H locs ls _ dX1_rounds_4 rfl hP hD hS (⟨nw1, af1, rfl, rfl⟩)
set_option maxHeartbeats 4000000 in
set_option maxRecDepth 100000 in
theorem mm_leader (l : Launch) (D : va_G) (ad : Nat → Nat) (dd : Nat → ClassId) (mc : Nat → Nat) (ms nw af : Nat → Bool) (co st : Nat → Nat) (x : Int32) (hRel : sp_Rel co st mc ms) (hc4 : ∀ s, s < 10 → co s < 4) : MetI l D (tM dd) (wM ad dd) yX1_leader (ws_ yX1_leader cX1_leader 2 (some .int)) ({ frames := 3, cells := 0, slots := 0, locals := 71 } : Room) [.ref (ad 0), .int x] (mc, ms, nw, af) (fun r v => ∃ nw1 af1, v = (mc, ms, nw1, af1) ∧ r = sp_aLeader co st x) := by
  refine gi_start (by decide) (Nat.le_of_ble_eq_true rfl) ?_
  intro p e s m as below meth c A Q S hA hK ret H locs hP hD hS ls hl
  have hx := S.1
  have hb := S.2.1
  have S : CallFix p m c cX1_leader 2 s as lw_all RX1 := S
  have hP : va_P D vwCl (wMs ad dd mc ms nw af) H := hP
  have hD : va_D A (wMs ad dd mc ms nw af) := hD
  have hl : lv_has ls 2 [(0, .ref (ad 0)), (1, .int x)] := hl
  refine lv_aload_n hx hb dX1_leader_0 rfl (lv_at hl 0 rfl) ?_
  refine lv_iload_n hx hb dX1_leader_1 rfl (lv_at hl 1 rfl) ?_
  refine gi_call S [.int x] [] (mm_isState l D ad dd mc ms nw af x) (cwV 1 S.2.2.2.2 (lw_V q186 q188 qs13 q21 q189) rfl rfl rfl (by decide +kernel) ⟨Nat.le_of_ble_eq_true rfl, Nat.le_of_ble_eq_true rfl⟩) rfl rfl hK hP hD hS hA rfl rfl hl.1 (Nat.le_of_ble_eq_true rfl) dX1_leader_2 ⟨Nat.zero_le _, Nat.zero_le _⟩ (fun r v H locs hw hP hD hS => ?_)
  obtain ⟨rfl, rfl⟩ := hw
  have hP : va_P D vwCl (wMs ad dd mc ms nw af) H := hP
  have hD : va_D A (wMs ad dd mc ms nw af) := hD
  refine wp_ifneB (tgt := 10) hx hb dX1_leader_5 (by decide) (fun h => ?_) (fun h => ?_)
  · obtain ⟨j, hj, rfl⟩ := sp_ok_of h (show 10 < 2 ^ 31 by decide)
    refine lv_aload_n hx hb dX1_leader_10 rfl (lv_at hl 0 rfl) ?_
    refine gi_call S [] [] (mm_settle l D ad dd mc ms nw af co st hRel hc4) (cwV 0 S.2.2.2.2 (lw_V q198 q200 qs14 q21 q201) rfl rfl rfl (by decide +kernel) ⟨Nat.le_of_ble_eq_true rfl, Nat.le_of_ble_eq_true rfl⟩) rfl rfl hK hP hD hS hA rfl rfl hl.1 (Nat.le_of_ble_eq_true rfl) dX1_leader_11 ⟨Nat.zero_le _, Nat.zero_le _⟩ (fun r v H locs hw hP hD hS => ?_)
    obtain ⟨nw1, af1, rfl, hnw, rfl⟩ := hw
    have hP : va_P D vwCl (wMs ad dd mc ms nw1 af1) H := hP
    have hD : va_D A (wMs ad dd mc ms nw1 af1) := hD
    have hF : ∀ a b, a < 10 → b < 10 → nw1 (a * 10 + b) = sp_F co st a b := fun a b ha hb => by rw [hnw _ (by omega), show (a * 10 + b) / 10 = a by omega, show (a * 10 + b) % 10 = b by omega]
    refine lv_pop hx hb dX1_leader_14 rfl ?_
    refine lv_aload_n hx hb dX1_leader_15 rfl (lv_at hl 0 rfl) ?_
    refine lv_iload_n hx hb dX1_leader_16 rfl (lv_at hl 1 rfl) ?_
    refine gi_call S [.int (nI j)] [] (mm_leaderNow l D ad dd mc ms nw1 af1 co st j hj hnw) (cwV 1 S.2.2.2.2 (lw_V q222 q224 qs18 q21 q225) rfl rfl rfl (by decide +kernel) ⟨Nat.le_of_ble_eq_true rfl, Nat.le_of_ble_eq_true rfl⟩) rfl rfl hK hP hD hS hA rfl rfl hl.1 (Nat.le_of_ble_eq_true rfl) dX1_leader_17 ⟨Nat.zero_le _, Nat.zero_le _⟩ (fun r v H locs hw hP hD hS => ?_)
    obtain ⟨rfl, rfl⟩ := hw
    have hP : va_P D vwCl (wMs ad dd mc ms nw1 af1) H := hP
    have hD : va_D A (wMs ad dd mc ms nw1 af1) := hD
    exact ret ((nI (sp_LD co st j))) (mc, ms, nw1, af1) H locs ls _ dX1_leader_20 rfl hP hD hS (⟨nw1, af1, rfl, (sp_aLeader_ok co st hj).symm⟩)
  · refine lv_iconst (v := -1) hx hb dX1_leader_8 (by decide) ?_
    exact ret ((-1)) (mc, ms, nw, af) H locs ls _ dX1_leader_9 rfl hP hD hS (⟨nw, af, rfl, (sp_aLeader_no co st h).symm⟩)
set_option maxHeartbeats 4000000 in
set_option maxRecDepth 100000 in
theorem mm_classes (l : Launch) (D : va_G) (ad : Nat → Nat) (dd : Nat → ClassId) (mc : Nat → Nat) (ms nw af : Nat → Bool) (co st : Nat → Nat) (hRel : sp_Rel co st mc ms) (hc4 : ∀ s, s < 10 → co s < 4) : MetI l D (tM dd) (wM ad dd) yX1_classes (ws_ yX1_classes cX1_classes 3 (some .int)) ({ frames := 4, cells := 0, slots := 0, locals := 92 } : Room) [.ref (ad 0)] (mc, ms, nw, af) (fun r v => ∃ nw1 af1, v = (mc, ms, nw1, af1) ∧ r = nI (sp_NC co st)) := by
  refine gi_start (by decide) (Nat.le_of_ble_eq_true rfl) ?_
  intro p e s m as below meth c A Q S hA hK ret H locs hP hD hS ls hl
  have hx := S.1
  have hb := S.2.1
  have S : CallFix p m c cX1_classes 3 s as lw_all RX1 := S
  have hP : va_P D vwCl (wMs ad dd mc ms nw af) H := hP
  have hD : va_D A (wMs ad dd mc ms nw af) := hD
  have hl : lv_has ls 3 [(0, .ref (ad 0))] := hl
  have loop : ∀ (n i : Nat) (nw1 af1 : Nat → Bool), i ≤ 10 → 10 < i + n → ∀ (H : Heap) (locs : List Loc), va_P D vwCl (wMs ad dd mc ms nw1 af1) H → va_D A (wMs ad dd mc ms nw1 af1) → va_S A s.heap H locs → ∀ ls : Array Slot, lv_has ls 3 [(0, .ref (ad 0)), (1, .int (nI (sp_cnt (fun s => sp_LD co st s == s) i))), (2, .int (nI i))] → W p l e ({ frames := 4, cells := 0, slots := 0, locals := 92 } : Room) s m as below meth c H locs 0 0 Q (F0 m 4 ls []) := by
    intro n
    induction n with
    | zero => intro i _ _ h1 h2; omega
    | succ n ih =>
      intro i nw1 af1 hi hn H locs hP hD hS ls hl
      refine lv_iload_n hx hb dX1_classes_4 rfl (lv_at hl 2 rfl) ?_
      refine lv_bipush (v := nI 10) hx hb dX1_classes_5 (by decide) ?_
      refine wp_ge (tgt := 28) hx hb (by omega) (by omega) dX1_classes_7 (by decide) (fun hc => ?_) (fun hc => ?_)
      · have hi10 : i = 10 := by omega
        refine lv_iload_n hx hb dX1_classes_28 rfl (lv_at hl 1 rfl) ?_
        exact ret ((nI (sp_cnt (fun s => sp_LD co st s == s) i))) (mc, ms, nw1, af1) H locs ls _ dX1_classes_29 rfl hP hD hS (⟨nw1, af1, rfl, by rw [hi10, sp_NC_def]; rfl⟩)
      · have hlt : sp_LD co st i < 10 := sp_L_lt co st (sp_N co st) hc
        refine lv_aload_n hx hb dX1_classes_10 rfl (lv_at hl 0 rfl) ?_
        refine lv_iload_n hx hb dX1_classes_11 rfl (lv_at hl 2 rfl) ?_
        refine gi_call S [.int (nI i)] [] (mm_leader l D ad dd mc ms nw1 af1 co st (nI i) hRel hc4) (cwV 1 S.2.2.2.2 (lw_V q218 q219 q220 q21 q221) rfl rfl rfl (by decide +kernel) ⟨Nat.le_of_ble_eq_true rfl, Nat.le_of_ble_eq_true rfl⟩) rfl rfl hK hP hD hS hA rfl rfl hl.1 (Nat.le_of_ble_eq_true rfl) dX1_classes_12 ⟨Nat.zero_le _, Nat.zero_le _⟩ (fun r v H locs hw hP hD hS => ?_)
        obtain ⟨nw2, af2, rfl, rfl⟩ := hw
        have hP : va_P D vwCl (wMs ad dd mc ms nw2 af2) H := hP
        have hD : va_D A (wMs ad dd mc ms nw2 af2) := hD
        refine wp_to (nI (sp_LD co st i)) (sp_aLeader_ok co st hc) ?_
        refine lv_iload_n hx hb dX1_classes_15 rfl (lv_at hl 2 rfl) ?_
        refine wp_ne (tgt := 22) hx hb (by omega) (by omega) dX1_classes_16 (by decide) (fun h2 => ?_) (fun h2 => ?_)
        · refine lv_iinc (v := nI (i + 1)) (lv' := [(2, .int (nI (i + 1))), (0, .ref (ad 0)), (1, .int (nI (sp_cnt (fun s => sp_LD co st s == s) i)))]) hx hb dX1_classes_22 hl (k := 2) rfl (sp_inc _) (by decide) rfl (fun ls hl => ?_)
          refine lv_goto (tgt := 4) hx hb dX1_classes_25 (by decide) ?_
          exact ih (i + 1) nw2 af2 (by omega) (by omega) H locs hP hD hS ls (by rw [sp_cnt_no (p := fun s => sp_LD co st s == s) (show (sp_LD co st i == i) = false from beq_eq_false_iff_ne.mpr h2)]; exact lv_sub hl [1, 2, 0] rfl)
        · refine lv_iinc (v := nI ((sp_cnt (fun s => sp_LD co st s == s) i) + 1)) (lv' := [(1, .int (nI ((sp_cnt (fun s => sp_LD co st s == s) i) + 1))), (0, .ref (ad 0)), (2, .int (nI i))]) hx hb dX1_classes_19 hl (k := 1) rfl (sp_inc _) (by decide) rfl (fun ls hl => ?_)
          refine lv_iinc (v := nI (i + 1)) (lv' := [(2, .int (nI (i + 1))), (1, .int (nI ((sp_cnt (fun s => sp_LD co st s == s) i) + 1))), (0, .ref (ad 0))]) hx hb dX1_classes_22 hl (k := 2) rfl (sp_inc _) (by decide) rfl (fun ls hl => ?_)
          refine lv_goto (tgt := 4) hx hb dX1_classes_25 (by decide) ?_
          exact ih (i + 1) nw2 af2 (by omega) (by omega) H locs hP hD hS ls (by rw [sp_cnt_yes (p := fun s => sp_LD co st s == s) (show (sp_LD co st i == i) = true from beq_iff_eq.mpr h2)]; exact lv_sub hl [2, 1, 0] rfl)
  refine lv_iconst (v := nI 0) hx hb dX1_classes_0 (by decide) ?_
  refine lv_istore_n (lv' := [(1, .int (nI 0)), (0, .ref (ad 0))]) hx hb dX1_classes_1 rfl hl (by decide) rfl (fun ls hl => ?_)
  refine lv_iconst (v := nI 0) hx hb dX1_classes_2 (by decide) ?_
  refine lv_istore_n (lv' := [(2, .int (nI 0)), (1, .int (nI 0)), (0, .ref (ad 0))]) hx hb dX1_classes_3 rfl hl (by decide) rfl (fun ls hl => ?_)
  exact loop 11 0 nw af (by omega) (by omega) H locs hP hD hS ls (lv_sub hl [2, 1, 0] rfl)
set_option maxHeartbeats 4000000 in
set_option maxRecDepth 100000 in
theorem mm_alike (l : Launch) (D : va_G) (ad : Nat → Nat) (dd : Nat → ClassId) (mc : Nat → Nat) (ms nw af : Nat → Bool) (co st : Nat → Nat) (x y : Int32) (hRel : sp_Rel co st mc ms) (hc4 : ∀ s, s < 10 → co s < 4) : MetI l D (tM dd) (wM ad dd) yX1_alike (ws_ yX1_alike cX1_alike 3 (some .boolean)) ({ frames := 3, cells := 0, slots := 0, locals := 71 } : Room) [.ref (ad 0), .int x, .int y] (mc, ms, nw, af) (fun r v => ∃ nw1 af1, v = (mc, ms, nw1, af1) ∧ r = sp_aAlike co st x y) := by
  refine gi_start (by decide) (Nat.le_of_ble_eq_true rfl) ?_
  intro p e s m as below meth c A Q S hA hK ret H locs hP hD hS ls hl
  have hx := S.1
  have hb := S.2.1
  have S : CallFix p m c cX1_alike 3 s as lw_all RX1 := S
  have hP : va_P D vwCl (wMs ad dd mc ms nw af) H := hP
  have hD : va_D A (wMs ad dd mc ms nw af) := hD
  have hl : lv_has ls 3 [(0, .ref (ad 0)), (1, .int x), (2, .int y)] := hl
  refine lv_aload_n hx hb dX1_alike_0 rfl (lv_at hl 0 rfl) ?_
  refine lv_iload_n hx hb dX1_alike_1 rfl (lv_at hl 1 rfl) ?_
  refine gi_call S [.int x] [] (mm_isState l D ad dd mc ms nw af x) (cwV 1 S.2.2.2.2 (lw_V q186 q188 qs13 q21 q189) rfl rfl rfl (by decide +kernel) ⟨Nat.le_of_ble_eq_true rfl, Nat.le_of_ble_eq_true rfl⟩) rfl rfl hK hP hD hS hA rfl rfl hl.1 (Nat.le_of_ble_eq_true rfl) dX1_alike_2 ⟨Nat.zero_le _, Nat.zero_le _⟩ (fun r v H locs hw hP hD hS => ?_)
  obtain ⟨rfl, rfl⟩ := hw
  have hP : va_P D vwCl (wMs ad dd mc ms nw af) H := hP
  have hD : va_D A (wMs ad dd mc ms nw af) := hD
  refine wp_ifeqB (tgt := 16) hx hb dX1_alike_5 (by decide) (fun h => ?_) (fun h => ?_)
  · refine lv_iconst (v := nI 0) hx hb dX1_alike_16 (by decide) ?_
    exact ret ((nI 0)) (mc, ms, nw, af) H locs ls _ dX1_alike_17 rfl hP hD hS (⟨nw, af, rfl, (sp_aAlike_no co st (by rw [h]; rfl)).symm⟩)
  · refine lv_aload_n hx hb dX1_alike_8 rfl (lv_at hl 0 rfl) ?_
    refine lv_iload_n hx hb dX1_alike_9 rfl (lv_at hl 2 rfl) ?_
    refine gi_call S [.int y] [] (mm_isState l D ad dd mc ms nw af y) (cwV 1 S.2.2.2.2 (lw_V q186 q188 qs13 q21 q189) rfl rfl rfl (by decide +kernel) ⟨Nat.le_of_ble_eq_true rfl, Nat.le_of_ble_eq_true rfl⟩) rfl rfl hK hP hD hS hA rfl rfl hl.1 (Nat.le_of_ble_eq_true rfl) dX1_alike_10 ⟨Nat.zero_le _, Nat.zero_le _⟩ (fun r v H locs hw hP hD hS => ?_)
    obtain ⟨rfl, rfl⟩ := hw
    have hP : va_P D vwCl (wMs ad dd mc ms nw af) H := hP
    have hD : va_D A (wMs ad dd mc ms nw af) := hD
    refine wp_ifneB (tgt := 18) hx hb dX1_alike_13 (by decide) (fun h2 => ?_) (fun h2 => ?_)
    · obtain ⟨i, hi, rfl⟩ := sp_ok_of h (show 10 < 2 ^ 31 by decide)
      obtain ⟨j, hj, rfl⟩ := sp_ok_of h2 (show 10 < 2 ^ 31 by decide)
      refine lv_aload_n hx hb dX1_alike_18 rfl (lv_at hl 0 rfl) ?_
      refine gi_call S [] [] (mm_settle l D ad dd mc ms nw af co st hRel hc4) (cwV 0 S.2.2.2.2 (lw_V q198 q200 qs14 q21 q201) rfl rfl rfl (by decide +kernel) ⟨Nat.le_of_ble_eq_true rfl, Nat.le_of_ble_eq_true rfl⟩) rfl rfl hK hP hD hS hA rfl rfl hl.1 (Nat.le_of_ble_eq_true rfl) dX1_alike_19 ⟨Nat.zero_le _, Nat.zero_le _⟩ (fun r v H locs hw hP hD hS => ?_)
      obtain ⟨nw1, af1, rfl, hnw, rfl⟩ := hw
      have hP : va_P D vwCl (wMs ad dd mc ms nw1 af1) H := hP
      have hD : va_D A (wMs ad dd mc ms nw1 af1) := hD
      have hF : ∀ a b, a < 10 → b < 10 → nw1 (a * 10 + b) = sp_F co st a b := fun a b ha hb => by rw [hnw _ (by omega), show (a * 10 + b) / 10 = a by omega, show (a * 10 + b) % 10 = b by omega]
      refine lv_pop hx hb dX1_alike_22 rfl ?_
      refine lv_aload_n hx hb dX1_alike_23 rfl (lv_at hl 0 rfl) ?_
      refine m_get S hK hP rfl 2 (by decide) q170 rfl rfl dX1_alike_24 ?_
      refine lv_iload_n hx hb dX1_alike_27 rfl (lv_at hl 1 rfl) ?_
      refine lv_bipush (v := nI 10) hx hb dX1_alike_28 (by decide) ?_
      refine wp_mul hx hb dX1_alike_30 ?_
      refine lv_iload_n hx hb dX1_alike_31 rfl (lv_at hl 2 rfl) ?_
      refine wp_add hx hb dX1_alike_32 ?_
      refine g_zld S hK hP 3 2 rfl rfl (by omega) (by decide) dX1_alike_33 ?_
      refine wp_toB (sp_F co st i j) (hF i j hi hj) ?_
      exact ret ((nI (sp_F co st i j).toNat)) (mc, ms, nw1, af1) H locs ls _ dX1_alike_34 (sp_nzr _) hP hD hS (⟨nw1, af1, rfl, (sp_aAlike_ok co st hi hj).symm⟩)
    · refine lv_iconst (v := nI 0) hx hb dX1_alike_16 (by decide) ?_
      exact ret ((nI 0)) (mc, ms, nw, af) H locs ls _ dX1_alike_17 rfl hP hD hS (⟨nw, af, rfl, (sp_aAlike_no co st (by rw [h, h2]; rfl)).symm⟩)
set_option maxHeartbeats 4000000 in
set_option maxRecDepth 100000 in
theorem mm_members (l : Launch) (D : va_G) (ad : Nat → Nat) (dd : Nat → ClassId) (mc : Nat → Nat) (ms nw af : Nat → Bool) (co st : Nat → Nat) (x : Int32) (hRel : sp_Rel co st mc ms) (hc4 : ∀ s, s < 10 → co s < 4) : MetI l D (tM dd) (wM ad dd) yX1_members (ws_ yX1_members cX1_members 4 (some .int)) ({ frames := 3, cells := 0, slots := 0, locals := 71 } : Room) [.ref (ad 0), .int x] (mc, ms, nw, af) (fun r v => ∃ nw1 af1, v = (mc, ms, nw1, af1) ∧ r = sp_aMembers co st x) := by
  refine gi_start (by decide) (Nat.le_of_ble_eq_true rfl) ?_
  intro p e s m as below meth c A Q S hA hK ret H locs hP hD hS ls hl
  have hx := S.1
  have hb := S.2.1
  have S : CallFix p m c cX1_members 4 s as lw_all RX1 := S
  have hP : va_P D vwCl (wMs ad dd mc ms nw af) H := hP
  have hD : va_D A (wMs ad dd mc ms nw af) := hD
  have hl : lv_has ls 4 [(0, .ref (ad 0)), (1, .int x)] := hl
  refine lv_aload_n hx hb dX1_members_0 rfl (lv_at hl 0 rfl) ?_
  refine lv_iload_n hx hb dX1_members_1 rfl (lv_at hl 1 rfl) ?_
  refine gi_call S [.int x] [] (mm_isState l D ad dd mc ms nw af x) (cwV 1 S.2.2.2.2 (lw_V q186 q188 qs13 q21 q189) rfl rfl rfl (by decide +kernel) ⟨Nat.le_of_ble_eq_true rfl, Nat.le_of_ble_eq_true rfl⟩) rfl rfl hK hP hD hS hA rfl rfl hl.1 (Nat.le_of_ble_eq_true rfl) dX1_members_2 ⟨Nat.zero_le _, Nat.zero_le _⟩ (fun r v H locs hw hP hD hS => ?_)
  obtain ⟨rfl, rfl⟩ := hw
  have hP : va_P D vwCl (wMs ad dd mc ms nw af) H := hP
  have hD : va_D A (wMs ad dd mc ms nw af) := hD
  refine wp_ifneB (tgt := 10) hx hb dX1_members_5 (by decide) (fun h => ?_) (fun h => ?_)
  · obtain ⟨j, hj, rfl⟩ := sp_ok_of h (show 10 < 2 ^ 31 by decide)
    refine lv_iconst (v := nI 0) hx hb dX1_members_10 (by decide) ?_
    refine lv_istore_n (lv' := [(2, .int (nI 0)), (0, .ref (ad 0)), (1, .int (nI j))]) hx hb dX1_members_11 rfl hl (by decide) rfl (fun ls hl => ?_)
    refine lv_aload_n hx hb dX1_members_12 rfl (lv_at hl 1 rfl) ?_
    refine gi_call S [] [] (mm_settle l D ad dd mc ms nw af co st hRel hc4) (cwV 0 S.2.2.2.2 (lw_V q198 q200 qs14 q21 q201) rfl rfl rfl (by decide +kernel) ⟨Nat.le_of_ble_eq_true rfl, Nat.le_of_ble_eq_true rfl⟩) rfl rfl hK hP hD hS hA rfl rfl hl.1 (Nat.le_of_ble_eq_true rfl) dX1_members_13 ⟨Nat.zero_le _, Nat.zero_le _⟩ (fun r v H locs hw hP hD hS => ?_)
    obtain ⟨nw1, af1, rfl, hnw, rfl⟩ := hw
    have hP : va_P D vwCl (wMs ad dd mc ms nw1 af1) H := hP
    have hD : va_D A (wMs ad dd mc ms nw1 af1) := hD
    have hF : ∀ a b, a < 10 → b < 10 → nw1 (a * 10 + b) = sp_F co st a b := fun a b ha hb => by rw [hnw _ (by omega), show (a * 10 + b) / 10 = a by omega, show (a * 10 + b) % 10 = b by omega]
    have loop : ∀ (n i : Nat), i ≤ 10 → 10 < i + n → ∀ ls : Array Slot, lv_has ls 4 [(0, .ref (ad 0)), (1, .int (nI j)), (2, .int (nI (sp_img (fun t => sp_F co st j t) (fun s => s) i))), (3, .int (nI i))] → W p l e ({ frames := 3, cells := 0, slots := 0, locals := 71 } : Room) s m as below meth c H locs 0 0 Q (F0 m 19 ls []) := by
      intro n
      induction n with
      | zero => intro i h1 h2; omega
      | succ n ih =>
        intro i hi hn ls hl
        refine lv_iload_n hx hb dX1_members_19 rfl (lv_at hl 3 rfl) ?_
        refine lv_bipush (v := nI 10) hx hb dX1_members_20 (by decide) ?_
        refine wp_ge (tgt := 51) hx hb (by omega) (by omega) dX1_members_22 (by decide) (fun hc => ?_) (fun hc => ?_)
        · have hi10 : i = 10 := by omega
          refine lv_iload_n hx hb dX1_members_51 rfl (lv_at hl 2 rfl) ?_
          exact ret ((nI (sp_img (fun t => sp_F co st j t) (fun s => s) i))) (mc, ms, nw1, af1) H locs ls _ dX1_members_52 rfl hP hD hS (⟨nw1, af1, rfl, by rw [sp_aMembers_ok co st hj, hi10]⟩)
        · refine lv_aload_n hx hb dX1_members_25 rfl (lv_at hl 0 rfl) ?_
          refine m_get S hK hP rfl 2 (by decide) q170 rfl rfl dX1_members_26 ?_
          refine lv_iload_n hx hb dX1_members_29 rfl (lv_at hl 1 rfl) ?_
          refine lv_bipush (v := nI 10) hx hb dX1_members_30 (by decide) ?_
          refine wp_mul hx hb dX1_members_32 ?_
          refine lv_iload_n hx hb dX1_members_33 rfl (lv_at hl 3 rfl) ?_
          refine wp_add hx hb dX1_members_34 ?_
          refine g_zld S hK hP 3 2 rfl rfl (by omega) (by decide) dX1_members_35 ?_
          refine wp_toB (sp_F co st j i) (hF j i hj hc) ?_
          refine wp_ifeqB (tgt := 45) hx hb dX1_members_36 (by decide) (fun h3 => ?_) (fun h3 => ?_)
          · refine lv_iinc (v := nI (i + 1)) (lv' := [(3, .int (nI (i + 1))), (0, .ref (ad 0)), (1, .int (nI j)), (2, .int (nI (sp_img (fun t => sp_F co st j t) (fun s => s) i)))]) hx hb dX1_members_45 hl (k := 3) rfl (sp_inc _) (by decide) rfl (fun ls hl => ?_)
            refine lv_goto (tgt := 19) hx hb dX1_members_48 (by decide) ?_
            exact ih (i + 1) (by omega) (by omega) ls (by rw [sp_img_no (p := fun t => sp_F co st j t) h3]; exact lv_sub hl [1, 2, 3, 0] rfl)
          · refine lv_iload_n hx hb dX1_members_39 rfl (lv_at hl 2 rfl) ?_
            refine lv_iconst (v := nI 1) hx hb dX1_members_40 (by decide) ?_
            refine lv_iload_n hx hb dX1_members_41 rfl (lv_at hl 3 rfl) ?_
            refine wp_shl hx hb (by omega) dX1_members_42 ?_
            refine wp_or hx hb dX1_members_43 ?_
            refine lv_istore_n (lv' := [(2, .int (nI ((sp_img (fun t => sp_F co st j t) (fun s => s) i) ||| (2 ^ i)))), (0, .ref (ad 0)), (1, .int (nI j)), (3, .int (nI i))]) hx hb dX1_members_44 rfl hl (by decide) rfl (fun ls hl => ?_)
            refine lv_iinc (v := nI (i + 1)) (lv' := [(3, .int (nI (i + 1))), (2, .int (nI ((sp_img (fun t => sp_F co st j t) (fun s => s) i) ||| (2 ^ i)))), (0, .ref (ad 0)), (1, .int (nI j))]) hx hb dX1_members_45 hl (k := 3) rfl (sp_inc _) (by decide) rfl (fun ls hl => ?_)
            refine lv_goto (tgt := 19) hx hb dX1_members_48 (by decide) ?_
            exact ih (i + 1) (by omega) (by omega) ls (by rw [sp_img_yes (p := fun t => sp_F co st j t) h3]; exact lv_sub hl [2, 3, 1, 0] rfl)
    refine lv_pop hx hb dX1_members_16 rfl ?_
    refine lv_iconst (v := nI 0) hx hb dX1_members_17 (by decide) ?_
    refine lv_istore_n (lv' := [(3, .int (nI 0)), (2, .int (nI 0)), (0, .ref (ad 0)), (1, .int (nI j))]) hx hb dX1_members_18 rfl hl (by decide) rfl (fun ls hl => ?_)
    exact loop 11 0 (by omega) (by omega) ls (lv_sub hl [2, 3, 1, 0] rfl)
  · refine lv_iconst (v := -1) hx hb dX1_members_8 (by decide) ?_
    exact ret ((-1)) (mc, ms, nw, af) H locs ls _ dX1_members_9 rfl hP hD hS (⟨nw, af, rfl, (sp_aMembers_no co st h).symm⟩)
set_option maxHeartbeats 4000000 in
set_option maxRecDepth 100000 in
theorem mm_told (l : Launch) (D : va_G) (ad : Nat → Nat) (dd : Nat → ClassId) (mc : Nat → Nat) (ms nw af : Nat → Bool) (co st : Nat → Nat) (x y : Int32) (hRel : sp_Rel co st mc ms) (hc4 : ∀ s, s < 10 → co s < 4) : MetI l D (tM dd) (wM ad dd) yX1_told (ws_ yX1_told cX1_told 4 (some .int)) ({ frames := 2, cells := 0, slots := 0, locals := 50 } : Room) [.ref (ad 0), .int x, .int y] (mc, ms, nw, af) (fun r v => ∃ nw1 af1, v = (mc, ms, nw1, af1) ∧ r = sp_aTold co st x y) := by
  refine gi_start (by decide) (Nat.le_of_ble_eq_true rfl) ?_
  intro p e s m as below meth c A Q S hA hK ret H locs hP hD hS ls hl
  have hx := S.1
  have hb := S.2.1
  have S : CallFix p m c cX1_told 4 s as lw_all RX1 := S
  have hP : va_P D vwCl (wMs ad dd mc ms nw af) H := hP
  have hD : va_D A (wMs ad dd mc ms nw af) := hD
  have hl : lv_has ls 4 [(0, .ref (ad 0)), (1, .int x), (2, .int y)] := hl
  refine lv_aload_n hx hb dX1_told_0 rfl (lv_at hl 0 rfl) ?_
  refine lv_iload_n hx hb dX1_told_1 rfl (lv_at hl 1 rfl) ?_
  refine gi_call S [.int x] [] (mm_isState l D ad dd mc ms nw af x) (cwV 1 S.2.2.2.2 (lw_V q186 q188 qs13 q21 q189) rfl rfl rfl (by decide +kernel) ⟨Nat.le_of_ble_eq_true rfl, Nat.le_of_ble_eq_true rfl⟩) rfl rfl hK hP hD hS hA rfl rfl hl.1 (Nat.le_of_ble_eq_true rfl) dX1_told_2 ⟨Nat.zero_le _, Nat.zero_le _⟩ (fun r v H locs hw hP hD hS => ?_)
  obtain ⟨rfl, rfl⟩ := hw
  have hP : va_P D vwCl (wMs ad dd mc ms nw af) H := hP
  have hD : va_D A (wMs ad dd mc ms nw af) := hD
  refine wp_ifeqB (tgt := 16) hx hb dX1_told_5 (by decide) (fun h => ?_) (fun h => ?_)
  · refine lv_iconst (v := -1) hx hb dX1_told_16 (by decide) ?_
    exact ret ((-1)) (mc, ms, nw, af) H locs ls _ dX1_told_17 rfl hP hD hS (⟨nw, af, rfl, (sp_aTold_no co st (by rw [h]; rfl)).symm⟩)
  · refine lv_aload_n hx hb dX1_told_8 rfl (lv_at hl 0 rfl) ?_
    refine lv_iload_n hx hb dX1_told_9 rfl (lv_at hl 2 rfl) ?_
    refine gi_call S [.int y] [] (mm_isState l D ad dd mc ms nw af y) (cwV 1 S.2.2.2.2 (lw_V q186 q188 qs13 q21 q189) rfl rfl rfl (by decide +kernel) ⟨Nat.le_of_ble_eq_true rfl, Nat.le_of_ble_eq_true rfl⟩) rfl rfl hK hP hD hS hA rfl rfl hl.1 (Nat.le_of_ble_eq_true rfl) dX1_told_10 ⟨Nat.zero_le _, Nat.zero_le _⟩ (fun r v H locs hw hP hD hS => ?_)
    obtain ⟨rfl, rfl⟩ := hw
    have hP : va_P D vwCl (wMs ad dd mc ms nw af) H := hP
    have hD : va_D A (wMs ad dd mc ms nw af) := hD
    refine wp_ifneB (tgt := 18) hx hb dX1_told_13 (by decide) (fun h2 => ?_) (fun h2 => ?_)
    · obtain ⟨i, hi, rfl⟩ := sp_ok_of h (show 10 < 2 ^ 31 by decide)
      obtain ⟨j, hj, rfl⟩ := sp_ok_of h2 (show 10 < 2 ^ 31 by decide)
      have hN := sp_N_lt co st
      have loop : ∀ (n k : Nat) (nw1 af1 : Nat → Bool), k ≤ sp_N co st → sp_N co st < k + n → (∀ z, z < k → sp_R co st z i j = true) → (∀ q, q < 100 → nw1 q = sp_R co st k (q / 10) (q % 10)) → ∀ (H : Heap) (locs : List Loc), va_P D vwCl (wMs ad dd mc ms nw1 af1) H → va_D A (wMs ad dd mc ms nw1 af1) → va_S A s.heap H locs → ∀ ls : Array Slot, lv_has ls 4 [(0, .ref (ad 0)), (1, .int (nI i)), (2, .int (nI j)), (3, .int (nI k))] → W p l e ({ frames := 2, cells := 0, slots := 0, locals := 50 } : Room) s m as below meth c H locs 0 0 Q (F0 m 24 ls []) := by
        intro n
        induction n with
        | zero => intro k _ _ h1 h2; omega
        | succ n ih =>
          intro k nw1 af1 hk hn hall hnw H locs hP hD hS ls hl
          refine lv_aload_n hx hb dX1_told_24 rfl (lv_at hl 0 rfl) ?_
          refine m_get S hK hP rfl 2 (by decide) q170 rfl rfl dX1_told_25 ?_
          refine lv_iload_n hx hb dX1_told_28 rfl (lv_at hl 1 rfl) ?_
          refine lv_bipush (v := nI 10) hx hb dX1_told_29 (by decide) ?_
          refine wp_mul hx hb dX1_told_31 ?_
          refine lv_iload_n hx hb dX1_told_32 rfl (lv_at hl 2 rfl) ?_
          refine wp_add hx hb dX1_told_33 ?_
          refine g_zld S hK hP 3 2 rfl rfl (by omega) (by decide) dX1_told_34 ?_
          refine wp_toB (sp_R co st k i j) (by rw [hnw _ (by omega), show (i * 10 + j) / 10 = i by omega, show (i * 10 + j) % 10 = j by omega]) ?_
          refine wp_ifeqB (tgt := 54) hx hb dX1_told_35 (by decide) (fun h3 => ?_) (fun h3 => ?_)
          · refine lv_iload_n hx hb dX1_told_54 rfl (lv_at hl 3 rfl) ?_
            exact ret ((nI k)) (mc, ms, nw1, af1) H locs ls _ dX1_told_55 rfl hP hD hS (⟨nw1, af1, rfl, by rw [sp_aTold_ok co st hi hj]; exact (sp_told_at hk hall h3).symm⟩)
          · refine lv_aload_n hx hb dX1_told_38 rfl (lv_at hl 0 rfl) ?_
            refine gi_call S [] [] (mm_round l D ad dd mc ms nw1 af1 co st k hRel hnw) (cwV 0 S.2.2.2.2 (lw_V q206 q208 qs16 q21 q209) rfl rfl rfl (by decide +kernel) ⟨Nat.le_of_ble_eq_true rfl, Nat.le_of_ble_eq_true rfl⟩) rfl rfl hK hP hD hS hA rfl rfl hl.1 (Nat.le_of_ble_eq_true rfl) dX1_told_39 ⟨Nat.zero_le _, Nat.zero_le _⟩ (fun r v H locs hw hP hD hS => ?_)
            obtain ⟨nw2, af2, rfl, hnw2, rfl⟩ := hw
            have hP : va_P D vwCl (wMs ad dd mc ms nw2 af2) H := hP
            have hD : va_D A (wMs ad dd mc ms nw2 af2) := hD
            refine wp_ifneB (tgt := 48) hx hb dX1_told_42 (by decide) (fun h4 => ?_) (fun h4 => ?_)
            · have hne : k ≠ sp_N co st := fun q => by rw [q, sp_N_eq] at h4; exact absurd h4 (by decide)
              refine lv_iinc (v := nI (k + 1)) (lv' := [(3, .int (nI (k + 1))), (0, .ref (ad 0)), (1, .int (nI i)), (2, .int (nI j))]) hx hb dX1_told_48 hl (k := 3) rfl (sp_inc _) (by decide) rfl (fun ls hl => ?_)
              refine lv_goto (tgt := 24) hx hb dX1_told_51 (by decide) ?_
              exact ih (k + 1) nw2 af2 (by omega) (by omega) (lt_s hall h3) hnw2 H locs hP hD hS ls (lv_sub hl [1, 2, 3, 0] rfl)
            · have hkN : k = sp_N co st := by
                rcases Nat.lt_or_ge k (sp_N co st) with q | q
                · rw [sp_N_no q] at h4; exact absurd h4 (by decide)
                · omega
              refine lv_bipush (v := -2) hx hb dX1_told_45 (by decide) ?_
              exact ret ((-2)) (mc, ms, nw2, af2) H locs ls _ dX1_told_47 rfl hP hD hS (⟨nw2, af2, rfl, by rw [sp_aTold_ok co st hi hj]; exact (sp_told_no (fun z hz => lt_s hall h3 z (by omega))).symm⟩)
      refine lv_iconst (v := nI 0) hx hb dX1_told_18 (by decide) ?_
      refine lv_istore_n (lv' := [(3, .int (nI 0)), (0, .ref (ad 0)), (1, .int (nI i)), (2, .int (nI j))]) hx hb dX1_told_19 rfl hl (by decide) rfl (fun ls hl => ?_)
      refine lv_aload_n hx hb dX1_told_20 rfl (lv_at hl 1 rfl) ?_
      refine gv_call S [] [] (mm_begin l D ad dd mc ms nw af co st hRel hc4) (cwV 0 S.2.2.2.2 (lw_V q202 q204 qs15 q21 q205) rfl rfl rfl (by decide +kernel) ⟨Nat.le_of_ble_eq_true rfl, Nat.le_of_ble_eq_true rfl⟩) rfl rfl hK hP hD hS hA rfl rfl hl.1 (Nat.le_of_ble_eq_true rfl) dX1_told_21 ⟨Nat.zero_le _, Nat.zero_le _⟩ (fun v H locs hw hP hD hS => ?_)
      obtain ⟨nw1, rfl, hnw⟩ := hw
      have hP : va_P D vwCl (wMs ad dd mc ms nw1 af) H := hP
      have hD : va_D A (wMs ad dd mc ms nw1 af) := hD
      exact loop (sp_N co st + 1) 0 nw1 af (by omega) (by omega) lt_0 hnw H locs hP hD hS ls (lv_sub hl [1, 2, 3, 0] rfl)
    · refine lv_iconst (v := -1) hx hb dX1_told_16 (by decide) ?_
      exact ret ((-1)) (mc, ms, nw, af) H locs ls _ dX1_told_17 rfl hP hD hS (⟨nw, af, rfl, (sp_aTold_no co st (by rw [h, h2]; rfl)).symm⟩)
set_option maxHeartbeats 4000000 in
set_option maxRecDepth 100000 in
theorem mm_leads (l : Launch) (D : va_G) (ad : Nat → Nat) (dd : Nat → ClassId) (mc : Nat → Nat) (ms nw af : Nat → Bool) (co st : Nat → Nat) (o x : Int32) (hRel : sp_Rel co st mc ms) (hc4 : ∀ s, s < 10 → co s < 4) : MetI l D (tM dd) (wM ad dd) yX1_leads (ws_ yX1_leads cX1_leads 5 (some .int)) ({ frames := 3, cells := 0, slots := 0, locals := 71 } : Room) [.ref (ad 0), .int o, .int x] (mc, ms, nw, af) (fun r v => ∃ nw1 af1, v = (mc, ms, nw1, af1) ∧ r = sp_aLeads co st o x) := by
  refine gi_start (by decide) (Nat.le_of_ble_eq_true rfl) ?_
  intro p e s m as below meth c A Q S hA hK ret H locs hP hD hS ls hl
  have hx := S.1
  have hb := S.2.1
  have S : CallFix p m c cX1_leads 5 s as lw_all RX1 := S
  have hP : va_P D vwCl (wMs ad dd mc ms nw af) H := hP
  have hD : va_D A (wMs ad dd mc ms nw af) := hD
  have hl : lv_has ls 5 [(0, .ref (ad 0)), (1, .int o), (2, .int x)] := hl
  refine lv_iload_n hx hb dX1_leads_0 rfl (lv_at hl 1 rfl) ?_
  refine lv_if_lt (tgt := 17) hx hb dX1_leads_1 (by decide) (fun g => ?_) (fun g => ?_)
  · refine lv_iconst (v := -1) hx hb dX1_leads_17 (by decide) ?_
    exact ret ((-1)) (mc, ms, nw, af) H locs ls _ dX1_leads_18 rfl hP hD hS (⟨nw, af, rfl, (sp_aLeads_no co st (by rw [sp_ok_neg g]; rfl)).symm⟩)
  · refine lv_iload_n hx hb dX1_leads_4 rfl (lv_at hl 1 rfl) ?_
    refine lv_iconst (v := nI 1) hx hb dX1_leads_5 (by decide) ?_
    refine lv_icmp_gt (tgt := 17) hx hb dX1_leads_6 (by decide) (fun g2 => ?_) (fun g2 => ?_)
    · refine lv_iconst (v := -1) hx hb dX1_leads_17 (by decide) ?_
      exact ret ((-1)) (mc, ms, nw, af) H locs ls _ dX1_leads_18 rfl hP hD hS (⟨nw, af, rfl, (sp_aLeads_no co st (by rw [sp_ok_gt (n := 1) (by decide) g2]; rfl)).symm⟩)
    · have hok := sp_ok_ngt (n := 1) (by decide) g g2
      refine lv_aload_n hx hb dX1_leads_9 rfl (lv_at hl 0 rfl) ?_
      refine lv_iload_n hx hb dX1_leads_10 rfl (lv_at hl 2 rfl) ?_
      refine gi_call S [.int x] [] (mm_isState l D ad dd mc ms nw af x) (cwV 1 S.2.2.2.2 (lw_V q186 q188 qs13 q21 q189) rfl rfl rfl (by decide +kernel) ⟨Nat.le_of_ble_eq_true rfl, Nat.le_of_ble_eq_true rfl⟩) rfl rfl hK hP hD hS hA rfl rfl hl.1 (Nat.le_of_ble_eq_true rfl) dX1_leads_11 ⟨Nat.zero_le _, Nat.zero_le _⟩ (fun r v H locs hw hP hD hS => ?_)
      obtain ⟨rfl, rfl⟩ := hw
      have hP : va_P D vwCl (wMs ad dd mc ms nw af) H := hP
      have hD : va_D A (wMs ad dd mc ms nw af) := hD
      refine wp_ifneB (tgt := 19) hx hb dX1_leads_14 (by decide) (fun h => ?_) (fun h => ?_)
      · obtain ⟨q, hq, rfl⟩ := sp_ok_of hok (show 2 < 2 ^ 31 by decide)
        obtain ⟨j, hj, rfl⟩ := sp_ok_of h (show 10 < 2 ^ 31 by decide)
        refine lv_iconst (v := nI 0) hx hb dX1_leads_19 (by decide) ?_
        refine lv_istore_n (lv' := [(3, .int (nI 0)), (0, .ref (ad 0)), (1, .int (nI q)), (2, .int (nI j))]) hx hb dX1_leads_20 rfl hl (by decide) rfl (fun ls hl => ?_)
        refine lv_aload_n hx hb dX1_leads_21 rfl (lv_at hl 1 rfl) ?_
        refine gi_call S [] [] (mm_settle l D ad dd mc ms nw af co st hRel hc4) (cwV 0 S.2.2.2.2 (lw_V q198 q200 qs14 q21 q201) rfl rfl rfl (by decide +kernel) ⟨Nat.le_of_ble_eq_true rfl, Nat.le_of_ble_eq_true rfl⟩) rfl rfl hK hP hD hS hA rfl rfl hl.1 (Nat.le_of_ble_eq_true rfl) dX1_leads_22 ⟨Nat.zero_le _, Nat.zero_le _⟩ (fun r v H locs hw hP hD hS => ?_)
        obtain ⟨nw1, af1, rfl, hnw, rfl⟩ := hw
        have hP : va_P D vwCl (wMs ad dd mc ms nw1 af1) H := hP
        have hD : va_D A (wMs ad dd mc ms nw1 af1) := hD
        have hF : ∀ a b, a < 10 → b < 10 → nw1 (a * 10 + b) = sp_F co st a b := fun a b ha hb => by rw [hnw _ (by omega), show (a * 10 + b) / 10 = a by omega, show (a * 10 + b) % 10 = b by omega]
        have loop : ∀ (n i : Nat), i ≤ 10 → 10 < i + n → ∀ (H : Heap) (locs : List Loc), va_P D vwCl (wMs ad dd mc ms nw1 af1) H → va_D A (wMs ad dd mc ms nw1 af1) → va_S A s.heap H locs → ∀ ls : Array Slot, lv_has ls 5 [(0, .ref (ad 0)), (1, .int (nI q)), (2, .int (nI j)), (3, .int (nI (sp_img (sp_e st q j) (sp_LD co st) i))), (4, .int (nI i))] → W p l e ({ frames := 3, cells := 0, slots := 0, locals := 71 } : Room) s m as below meth c H locs 0 0 Q (F0 m 29 ls []) := by
          intro n
          induction n with
          | zero => intro i h1 h2; omega
          | succ n ih =>
            intro i hi hn H locs hP hD hS ls hl
            refine lv_iload hx hb dX1_leads_29 (lv_at hl 4 rfl) ?_
            refine lv_bipush (v := nI 10) hx hb dX1_leads_31 (by decide) ?_
            refine wp_ge (tgt := 73) hx hb (by omega) (by omega) dX1_leads_33 (by decide) (fun hc => ?_) (fun hc => ?_)
            · have hi10 : i = 10 := by omega
              refine lv_iload_n hx hb dX1_leads_73 rfl (lv_at hl 3 rfl) ?_
              exact ret ((nI (sp_img (sp_e st q j) (sp_LD co st) i))) (mc, ms, nw1, af1) H locs ls _ dX1_leads_74 rfl hP hD hS (⟨nw1, af1, rfl, by rw [sp_aLeads_ok co st hq hj, hi10]⟩)
            · have hlt : sp_LD co st i < 10 := sp_L_lt co st (sp_N co st) hc
              refine lv_aload_n hx hb dX1_leads_36 rfl (lv_at hl 0 rfl) ?_
              refine m_get S hK hP rfl 1 (by decide) q169 rfl rfl dX1_leads_37 ?_
              refine lv_iload_n hx hb dX1_leads_40 rfl (lv_at hl 1 rfl) ?_
              refine lv_bipush (v := nI 100) hx hb dX1_leads_41 (by decide) ?_
              refine wp_mul hx hb dX1_leads_43 ?_
              refine lv_iload_n hx hb dX1_leads_44 rfl (lv_at hl 2 rfl) ?_
              refine lv_bipush (v := nI 10) hx hb dX1_leads_45 (by decide) ?_
              refine wp_mul hx hb dX1_leads_47 ?_
              refine wp_add hx hb dX1_leads_48 ?_
              refine lv_iload hx hb dX1_leads_49 (lv_at hl 4 rfl) ?_
              refine wp_add hx hb dX1_leads_51 ?_
              refine g_zld S hK hP 2 1 rfl rfl (by omega) (by decide) dX1_leads_52 ?_
              refine wp_toB (sp_e st q j i) (hRel.2 q j i hq hj hc) ?_
              refine wp_ifeqB (tgt := 67) hx hb dX1_leads_53 (by decide) (fun h5 => ?_) (fun h5 => ?_)
              · refine lv_iinc (v := nI (i + 1)) (lv' := [(4, .int (nI (i + 1))), (0, .ref (ad 0)), (1, .int (nI q)), (2, .int (nI j)), (3, .int (nI (sp_img (sp_e st q j) (sp_LD co st) i)))]) hx hb dX1_leads_67 hl (k := 4) rfl (sp_inc _) (by decide) rfl (fun ls hl => ?_)
                refine lv_goto (tgt := 29) hx hb dX1_leads_70 (by decide) ?_
                exact ih (i + 1) (by omega) (by omega) H locs hP hD hS ls (by rw [sp_img_no h5]; exact lv_sub hl [1, 2, 3, 4, 0] rfl)
              · refine lv_iload_n hx hb dX1_leads_56 rfl (lv_at hl 3 rfl) ?_
                refine lv_iconst (v := nI 1) hx hb dX1_leads_57 (by decide) ?_
                refine lv_aload_n hx hb dX1_leads_58 rfl (lv_at hl 0 rfl) ?_
                refine lv_iload hx hb dX1_leads_59 (lv_at hl 4 rfl) ?_
                refine gi_call S [.int (nI i)] [.int (nI 1), .int (nI (sp_img (sp_e st q j) (sp_LD co st) i))] (mm_leaderNow l D ad dd mc ms nw1 af1 co st i hc hnw) (cwV 1 S.2.2.2.2 (lw_V q222 q224 qs18 q21 q225) rfl rfl rfl (by decide +kernel) ⟨Nat.le_of_ble_eq_true rfl, Nat.le_of_ble_eq_true rfl⟩) rfl rfl hK hP hD hS hA rfl rfl hl.1 (Nat.le_of_ble_eq_true rfl) dX1_leads_61 ⟨Nat.zero_le _, Nat.zero_le _⟩ (fun r v H locs hw hP hD hS => ?_)
                obtain ⟨rfl, rfl⟩ := hw
                have hP : va_P D vwCl (wMs ad dd mc ms nw1 af1) H := hP
                have hD : va_D A (wMs ad dd mc ms nw1 af1) := hD
                refine wp_shl hx hb (by omega) dX1_leads_64 ?_
                refine wp_or hx hb dX1_leads_65 ?_
                refine lv_istore_n (lv' := [(3, .int (nI ((sp_img (sp_e st q j) (sp_LD co st) i) ||| (2 ^ (sp_LD co st i))))), (0, .ref (ad 0)), (1, .int (nI q)), (2, .int (nI j)), (4, .int (nI i))]) hx hb dX1_leads_66 rfl hl (by decide) rfl (fun ls hl => ?_)
                refine lv_iinc (v := nI (i + 1)) (lv' := [(4, .int (nI (i + 1))), (3, .int (nI ((sp_img (sp_e st q j) (sp_LD co st) i) ||| (2 ^ (sp_LD co st i))))), (0, .ref (ad 0)), (1, .int (nI q)), (2, .int (nI j))]) hx hb dX1_leads_67 hl (k := 4) rfl (sp_inc _) (by decide) rfl (fun ls hl => ?_)
                refine lv_goto (tgt := 29) hx hb dX1_leads_70 (by decide) ?_
                exact ih (i + 1) (by omega) (by omega) H locs hP hD hS ls (by rw [sp_img_yes h5]; exact lv_sub hl [2, 3, 4, 1, 0] rfl)
        refine lv_pop hx hb dX1_leads_25 rfl ?_
        refine lv_iconst (v := nI 0) hx hb dX1_leads_26 (by decide) ?_
        refine lv_istore (lv' := [(4, .int (nI 0)), (3, .int (nI 0)), (0, .ref (ad 0)), (1, .int (nI q)), (2, .int (nI j))]) hx hb dX1_leads_27 hl (by decide) rfl (fun ls hl => ?_)
        exact loop 11 0 (by omega) (by omega) H locs hP hD hS ls (lv_sub hl [2, 3, 4, 1, 0] rfl)
      · refine lv_iconst (v := -1) hx hb dX1_leads_17 (by decide) ?_
        exact ret ((-1)) (mc, ms, nw, af) H locs ls _ dX1_leads_18 rfl hP hD hS (⟨nw, af, rfl, (sp_aLeads_no co st (by rw [h, Bool.and_false])).symm⟩)
set_option maxHeartbeats 4000000 in
set_option maxRecDepth 100000 in
theorem mm_colours (l : Launch) (D : va_G) (ad : Nat → Nat) (dd : Nat → ClassId) (mc : Nat → Nat) (ms nw af : Nat → Bool) (co st : Nat → Nat) (hRel : sp_Rel co st mc ms) (hc4 : ∀ s, s < 10 → co s < 4) : MetI l D (tM dd) (wM ad dd) yX1_colours (ws_ yX1_colours cX1_colours 3 (some .int)) ({ frames := 0, cells := 0, slots := 0, locals := 0 } : Room) [.ref (ad 0)] (mc, ms, nw, af) (fun r v => v = (mc, ms, nw, af) ∧ r = sp_aColours co) := by
  refine gi_start (by decide) (Nat.le_of_ble_eq_true rfl) ?_
  intro p e s m as below meth c A Q S hA hK ret H locs hP hD hS ls hl
  have hx := S.1
  have hb := S.2.1
  have S : CallFix p m c cX1_colours 3 s as lw_all RX1 := S
  have hP : va_P D vwCl (wMs ad dd mc ms nw af) H := hP
  have hD : va_D A (wMs ad dd mc ms nw af) := hD
  have hl : lv_has ls 3 [(0, .ref (ad 0))] := hl
  have loop : ∀ (n i : Nat), i ≤ 10 → 10 < i + n → ∀ ls : Array Slot, lv_has ls 3 [(0, .ref (ad 0)), (1, .int (nI (sp_img (fun _ => true) co i))), (2, .int (nI i))] → W p l e ({ frames := 0, cells := 0, slots := 0, locals := 0 } : Room) s m as below meth c H locs 0 0 Q (F0 m 4 ls []) := by
    intro n
    induction n with
    | zero => intro i h1 h2; omega
    | succ n ih =>
      intro i hi hn ls hl
      refine lv_iload_n hx hb dX1_colours_4 rfl (lv_at hl 2 rfl) ?_
      refine lv_bipush (v := nI 10) hx hb dX1_colours_5 (by decide) ?_
      refine wp_ge (tgt := 27) hx hb (by omega) (by omega) dX1_colours_7 (by decide) (fun hc => ?_) (fun hc => ?_)
      · have hi10 : i = 10 := by omega
        rw [hi10] at hl
        have h16 : sp_img (fun _ => true) co 10 < 16 := sp_img_lt (d := 4) (fun s hs _ => hc4 s hs)
        refine lv_iload_n hx hb dX1_colours_27 rfl (lv_at hl 1 rfl) ?_
        refine lv_iconst (v := nI 1) hx hb dX1_colours_28 (by decide) ?_
        refine wp_and hx hb dX1_colours_29 ?_
        refine lv_iload_n hx hb dX1_colours_30 rfl (lv_at hl 1 rfl) ?_
        refine lv_iconst (v := nI 1) hx hb dX1_colours_31 (by decide) ?_
        refine wp_shr hx hb (by omega) (by omega) dX1_colours_32 ?_
        refine lv_iconst (v := nI 1) hx hb dX1_colours_33 (by decide) ?_
        refine wp_and hx hb dX1_colours_34 ?_
        refine wp_add hx hb dX1_colours_35 ?_
        refine lv_iload_n hx hb dX1_colours_36 rfl (lv_at hl 1 rfl) ?_
        refine lv_iconst (v := nI 2) hx hb dX1_colours_37 (by decide) ?_
        refine wp_shr hx hb (by omega) (by omega) dX1_colours_38 ?_
        refine lv_iconst (v := nI 1) hx hb dX1_colours_39 (by decide) ?_
        refine wp_and hx hb dX1_colours_40 ?_
        refine wp_add hx hb dX1_colours_41 ?_
        refine lv_iload_n hx hb dX1_colours_42 rfl (lv_at hl 1 rfl) ?_
        refine lv_iconst (v := nI 3) hx hb dX1_colours_43 (by decide) ?_
        refine wp_shr hx hb (by omega) (by omega) dX1_colours_44 ?_
        refine lv_iconst (v := nI 1) hx hb dX1_colours_45 (by decide) ?_
        refine wp_and hx hb dX1_colours_46 ?_
        refine wp_add hx hb dX1_colours_47 ?_
        exact ret ((nI (((((sp_img (fun _ => true) co 10) &&& 1) + (((sp_img (fun _ => true) co 10) >>> 1) &&& 1)) + (((sp_img (fun _ => true) co 10) >>> 2) &&& 1)) + (((sp_img (fun _ => true) co 10) >>> 3) &&& 1)))) (mc, ms, nw, af) H locs ls _ dX1_colours_48 rfl hP hD hS (⟨rfl, congrArg nI (sp_pop16 _ h16).symm⟩)
      · have hci := hc4 i hc
        refine lv_iload_n hx hb dX1_colours_10 rfl (lv_at hl 1 rfl) ?_
        refine lv_iconst (v := nI 1) hx hb dX1_colours_11 (by decide) ?_
        refine lv_aload_n hx hb dX1_colours_12 rfl (lv_at hl 0 rfl) ?_
        refine m_get S hK hP rfl 0 (by decide) q168 rfl rfl dX1_colours_13 ?_
        refine lv_iload_n hx hb dX1_colours_16 rfl (lv_at hl 2 rfl) ?_
        refine g_ild S hK hP 1 0 rfl rfl (by omega) (by decide) dX1_colours_17 ?_
        refine wp_to (nI (co i)) (congrArg nI (hRel.1 i hc)) ?_
        refine wp_shl hx hb (by omega) dX1_colours_18 ?_
        refine wp_or hx hb dX1_colours_19 ?_
        refine lv_istore_n (lv' := [(1, .int (nI ((sp_img (fun _ => true) co i) ||| (2 ^ (co i))))), (0, .ref (ad 0)), (2, .int (nI i))]) hx hb dX1_colours_20 rfl hl (by decide) rfl (fun ls hl => ?_)
        refine lv_iinc (v := nI (i + 1)) (lv' := [(2, .int (nI (i + 1))), (1, .int (nI ((sp_img (fun _ => true) co i) ||| (2 ^ (co i))))), (0, .ref (ad 0))]) hx hb dX1_colours_21 hl (k := 2) rfl (sp_inc _) (by decide) rfl (fun ls hl => ?_)
        refine lv_goto (tgt := 4) hx hb dX1_colours_24 (by decide) ?_
        exact ih (i + 1) (by omega) (by omega) ls (by rw [sp_img_yes (p := fun _ => true) rfl]; exact lv_sub hl [2, 1, 0] rfl)
  refine lv_iconst (v := nI 0) hx hb dX1_colours_0 (by decide) ?_
  refine lv_istore_n (lv' := [(1, .int (nI 0)), (0, .ref (ad 0))]) hx hb dX1_colours_1 rfl hl (by decide) rfl (fun ls hl => ?_)
  refine lv_iconst (v := nI 0) hx hb dX1_colours_2 (by decide) ?_
  refine lv_istore_n (lv' := [(2, .int (nI 0)), (1, .int (nI 0)), (0, .ref (ad 0))]) hx hb dX1_colours_3 rfl hl (by decide) rfl (fun ls hl => ?_)
  exact loop 11 0 (by omega) (by omega) ls (lv_sub hl [2, 1, 0] rfl)
set_option maxHeartbeats 4000000 in
set_option maxRecDepth 100000 in
theorem mm_reduce (l : Launch) (D : va_G) (ad : Nat → Nat) (dd : Nat → ClassId) (mc : Nat → Nat) (ms nw af : Nat → Bool) (co st : Nat → Nat) (hRel : sp_Rel co st mc ms) (hc4 : ∀ s, s < 10 → co s < 4) : MetI l D (tM dd) (wM ad dd) yX1_reduce (ws_ yX1_reduce cX1_reduce 5 (some .int)) ({ frames := 3, cells := 0, slots := 0, locals := 71 } : Room) [.ref (ad 0)] (mc, ms, nw, af) (fun r v => (∃ ms1 nw1 af1, v = (mc, ms1, nw1, af1) ∧ ∀ a t, a < 20 → t < 10 → ms1 (a * 10 + t) = (sp_rd co st a).testBit t) ∧ r = nI (sp_tot (sp_rd co st) 20)) := by
  refine gi_start (by decide) (Nat.le_of_ble_eq_true rfl) ?_
  intro p e s m as below meth c A Q S hA hK ret H locs hP hD hS ls hl
  have hx := S.1
  have hb := S.2.1
  have S : CallFix p m c cX1_reduce 5 s as lw_all RX1 := S
  have hP : va_P D vwCl (wMs ad dd mc ms nw af) H := hP
  have hD : va_D A (wMs ad dd mc ms nw af) := hD
  have hl : lv_has ls 5 [(0, .ref (ad 0))] := hl
  refine lv_iconst (v := nI 0) hx hb dX1_reduce_0 (by decide) ?_
  refine lv_istore_n (lv' := [(1, .int (nI 0)), (0, .ref (ad 0))]) hx hb dX1_reduce_1 rfl hl (by decide) rfl (fun ls hl => ?_)
  refine lv_aload_n hx hb dX1_reduce_2 rfl (lv_at hl 1 rfl) ?_
  refine gi_call S [] [] (mm_settle l D ad dd mc ms nw af co st hRel hc4) (cwV 0 S.2.2.2.2 (lw_V q198 q200 qs14 q21 q201) rfl rfl rfl (by decide +kernel) ⟨Nat.le_of_ble_eq_true rfl, Nat.le_of_ble_eq_true rfl⟩) rfl rfl hK hP hD hS hA rfl rfl hl.1 (Nat.le_of_ble_eq_true rfl) dX1_reduce_3 ⟨Nat.zero_le _, Nat.zero_le _⟩ (fun r v H locs hw hP hD hS => ?_)
  obtain ⟨nw1, af1, rfl, hnw, rfl⟩ := hw
  have hP : va_P D vwCl (wMs ad dd mc ms nw1 af1) H := hP
  have hD : va_D A (wMs ad dd mc ms nw1 af1) := hD
  have hF : ∀ a b, a < 10 → b < 10 → nw1 (a * 10 + b) = sp_F co st a b := fun a b ha hb => by rw [hnw _ (by omega), show (a * 10 + b) / 10 = a by omega, show (a * 10 + b) % 10 = b by omega]
  have loop : ∀ (n i : Nat) (ms1 : Nat → Bool), i ≤ 20 → 20 < i + n → (∀ a t, a < i → t < 10 → ms1 (a * 10 + t) = (sp_rd co st a).testBit t) → (∀ q, i * 10 ≤ q → ms1 q = ms q) → ∀ (H : Heap) (locs : List Loc), va_P D vwCl (wMs ad dd mc ms1 nw1 af1) H → va_D A (wMs ad dd mc ms1 nw1 af1) → va_S A s.heap H locs → ∀ ls : Array Slot, lv_has ls 5 [(0, .ref (ad 0)), (1, .int (nI (sp_tot (sp_rd co st) i))), (2, .int (nI i))] → W p l e ({ frames := 3, cells := 0, slots := 0, locals := 71 } : Room) s m as below meth c H locs 0 0 Q (F0 m 9 ls []) := by
    intro n
    induction n with
    | zero => intro i _ h1 h2; omega
    | succ n ih =>
      intro i ms1 hi hn hlo hhi H locs hP hD hS ls hl
      refine lv_iload_n hx hb dX1_reduce_9 rfl (lv_at hl 2 rfl) ?_
      refine lv_bipush (v := nI 20) hx hb dX1_reduce_10 (by decide) ?_
      refine wp_ge (tgt := 116) hx hb (by omega) (by omega) dX1_reduce_12 (by decide) (fun hc => ?_) (fun hc => ?_)
      · have hi20 : i = 20 := by omega
        rw [hi20] at hl hlo
        refine lv_iload_n hx hb dX1_reduce_116 rfl (lv_at hl 1 rfl) ?_
        exact ret ((nI (sp_tot (sp_rd co st) 20))) (mc, ms1, nw1, af1) H locs ls _ dX1_reduce_117 rfl hP hD hS (⟨⟨ms1, nw1, af1, rfl, hlo⟩, rfl⟩)
      · have hrd := sp_rd_lt co st i
        have put : ∀ (n2 t : Nat) (ms2 : Nat → Bool), t ≤ 10 → 10 < t + n2 → (∀ z, z < t → ms2 (i * 10 + z) = (sp_rd co st i).testBit z) → (∀ q, q < i * 10 ∨ i * 10 + t ≤ q → ms2 q = ms1 q) → ∀ (H : Heap) (locs : List Loc), va_P D vwCl (wMs ad dd mc ms2 nw1 af1) H → va_D A (wMs ad dd mc ms2 nw1 af1) → va_S A s.heap H locs → ∀ ls : Array Slot, lv_has ls 5 [(0, .ref (ad 0)), (1, .int (nI (sp_tot (sp_rd co st) i + sp_pop (sp_rd co st i) t))), (2, .int (nI i)), (3, .int (nI (sp_rd co st i))), (4, .int (nI t))] → W p l e ({ frames := 3, cells := 0, slots := 0, locals := 71 } : Room) s m as below meth c H locs 0 0 Q (F0 m 62 ls []) := by
          intro n2
          induction n2 with
          | zero => intro t _ q1 q2; omega
          | succ n2 ih2 =>
            intro t ms2 ht hn2 hin hout H locs hP hD hS ls hl
            refine lv_iload hx hb dX1_reduce_62 (lv_at hl 4 rfl) ?_
            refine lv_bipush (v := nI 10) hx hb dX1_reduce_64 (by decide) ?_
            refine wp_ge (tgt := 110) hx hb (by omega) (by omega) dX1_reduce_66 (by decide) (fun h3 => ?_) (fun h3 => ?_)
            · have ht10 : t = 10 := by omega
              rw [ht10] at hl hin hout
              refine lv_iinc (v := nI (i + 1)) (lv' := [(2, .int (nI (i + 1))), (0, .ref (ad 0)), (1, .int (nI (sp_tot (sp_rd co st) i + sp_pop (sp_rd co st i) 10))), (3, .int (nI (sp_rd co st i))), (4, .int (nI 10))]) hx hb dX1_reduce_110 hl (k := 2) rfl (sp_inc _) (by decide) rfl (fun ls hl => ?_)
              refine lv_goto (tgt := 9) hx hb dX1_reduce_113 (by decide) ?_
              exact ih (i + 1) ms2 (by omega) (by omega) (fun a t ha ht => if z : a = i then (by rw [z]; exact hin t ht) else (by rw [hout _ (by omega)]; exact hlo a t (by omega) ht)) (fun q hq => by rw [hout q (by omega)]; exact hhi q (by omega)) H locs hP hD hS ls (lv_sub hl [1, 2, 0] rfl)
            · refine lv_aload_n hx hb dX1_reduce_69 rfl (lv_at hl 0 rfl) ?_
              refine m_get S hK hP rfl 1 (by decide) q169 rfl rfl dX1_reduce_70 ?_
              refine lv_iload_n hx hb dX1_reduce_73 rfl (lv_at hl 2 rfl) ?_
              refine lv_bipush (v := nI 10) hx hb dX1_reduce_74 (by decide) ?_
              refine wp_mul hx hb dX1_reduce_76 ?_
              refine lv_iload hx hb dX1_reduce_77 (lv_at hl 4 rfl) ?_
              refine wp_add hx hb dX1_reduce_79 ?_
              refine lv_iload_n hx hb dX1_reduce_80 rfl (lv_at hl 3 rfl) ?_
              refine lv_iload hx hb dX1_reduce_81 (lv_at hl 4 rfl) ?_
              refine wp_shr hx hb (by omega) (by omega) dX1_reduce_83 ?_
              refine lv_iconst (v := nI 1) hx hb dX1_reduce_84 (by decide) ?_
              refine wp_and hx hb dX1_reduce_85 ?_
              refine wp_ifeq (tgt := 93) hx hb (sp_and1 _) dX1_reduce_86 (by decide) (fun h4 => ?_) (fun h4 => ?_)
              · refine lv_iconst (v := nI 0) hx hb dX1_reduce_93 (by decide) ?_
                refine W.eq (g2 := F0 m 94 ls [.int (nI false.toNat), .int (nI ((i * 10) + t)), .ref (ad 2)]) rfl ?_
                refine g_zst S hK hP hD hS 2 1 rfl rfl (by omega) (by decide) dX1_reduce_94 (fun H locs hP hD hS => ?_)
                have hP : va_P D vwCl (wMs ad dd mc (va_up ms2 ((i * 10) + t) false) nw1 af1) H := hP
                have hD : va_D A (wMs ad dd mc (va_up ms2 ((i * 10) + t) false) nw1 af1) := hD
                refine lv_iload_n hx hb dX1_reduce_95 rfl (lv_at hl 1 rfl) ?_
                refine lv_iload_n hx hb dX1_reduce_96 rfl (lv_at hl 3 rfl) ?_
                refine lv_iload hx hb dX1_reduce_97 (lv_at hl 4 rfl) ?_
                refine wp_shr hx hb (by omega) (by omega) dX1_reduce_99 ?_
                refine lv_iconst (v := nI 1) hx hb dX1_reduce_100 (by decide) ?_
                refine wp_and hx hb dX1_reduce_101 ?_
                refine wp_add hx hb dX1_reduce_102 ?_
                refine wp_to (nI (sp_tot (sp_rd co st) i + sp_pop (sp_rd co st i) (t + 1))) (congrArg nI (Nat.add_assoc _ _ _)) ?_
                refine lv_istore_n (lv' := [(1, .int (nI (sp_tot (sp_rd co st) i + sp_pop (sp_rd co st i) (t + 1)))), (0, .ref (ad 0)), (2, .int (nI i)), (3, .int (nI (sp_rd co st i))), (4, .int (nI t))]) hx hb dX1_reduce_103 rfl hl (by decide) rfl (fun ls hl => ?_)
                refine lv_iinc (v := nI (t + 1)) (lv' := [(4, .int (nI (t + 1))), (1, .int (nI (sp_tot (sp_rd co st) i + sp_pop (sp_rd co st i) (t + 1)))), (0, .ref (ad 0)), (2, .int (nI i)), (3, .int (nI (sp_rd co st i)))]) hx hb dX1_reduce_104 hl (k := 4) rfl (sp_inc _) (by decide) rfl (fun ls hl => ?_)
                refine lv_goto (tgt := 62) hx hb dX1_reduce_107 (by decide) ?_
                exact ih2 (t + 1) _ (by omega) (by omega) (fun z hz => if y : z = t then (by rw [y, sp_up_s]; exact ((sp_tb _ _).mp h4).symm) else (by rw [sp_up_n _ _ (by omega)]; exact hin z (by omega))) (fun q hq => by rw [sp_up_n _ _ (by omega)]; exact hout q (by omega)) H locs hP hD hS ls (lv_sub hl [2, 1, 3, 4, 0] rfl)
              · refine lv_iconst (v := nI 1) hx hb dX1_reduce_89 (by decide) ?_
                refine W.eq (g2 := F0 m 90 ls [.int (nI true.toNat), .int (nI ((i * 10) + t)), .ref (ad 2)]) rfl ?_
                refine lv_goto (tgt := 94) hx hb dX1_reduce_90 (by decide) ?_
                refine g_zst S hK hP hD hS 2 1 rfl rfl (by omega) (by decide) dX1_reduce_94 (fun H locs hP hD hS => ?_)
                have hP : va_P D vwCl (wMs ad dd mc (va_up ms2 ((i * 10) + t) true) nw1 af1) H := hP
                have hD : va_D A (wMs ad dd mc (va_up ms2 ((i * 10) + t) true) nw1 af1) := hD
                refine lv_iload_n hx hb dX1_reduce_95 rfl (lv_at hl 1 rfl) ?_
                refine lv_iload_n hx hb dX1_reduce_96 rfl (lv_at hl 3 rfl) ?_
                refine lv_iload hx hb dX1_reduce_97 (lv_at hl 4 rfl) ?_
                refine wp_shr hx hb (by omega) (by omega) dX1_reduce_99 ?_
                refine lv_iconst (v := nI 1) hx hb dX1_reduce_100 (by decide) ?_
                refine wp_and hx hb dX1_reduce_101 ?_
                refine wp_add hx hb dX1_reduce_102 ?_
                refine wp_to (nI (sp_tot (sp_rd co st) i + sp_pop (sp_rd co st i) (t + 1))) (congrArg nI (Nat.add_assoc _ _ _)) ?_
                refine lv_istore_n (lv' := [(1, .int (nI (sp_tot (sp_rd co st) i + sp_pop (sp_rd co st i) (t + 1)))), (0, .ref (ad 0)), (2, .int (nI i)), (3, .int (nI (sp_rd co st i))), (4, .int (nI t))]) hx hb dX1_reduce_103 rfl hl (by decide) rfl (fun ls hl => ?_)
                refine lv_iinc (v := nI (t + 1)) (lv' := [(4, .int (nI (t + 1))), (1, .int (nI (sp_tot (sp_rd co st) i + sp_pop (sp_rd co st i) (t + 1)))), (0, .ref (ad 0)), (2, .int (nI i)), (3, .int (nI (sp_rd co st i)))]) hx hb dX1_reduce_104 hl (k := 4) rfl (sp_inc _) (by decide) rfl (fun ls hl => ?_)
                refine lv_goto (tgt := 62) hx hb dX1_reduce_107 (by decide) ?_
                exact ih2 (t + 1) _ (by omega) (by omega) (fun z hz => if y : z = t then (by rw [y, sp_up_s]; exact ((sp_tbn _ _).mp h4).symm) else (by rw [sp_up_n _ _ (by omega)]; exact hin z (by omega))) (fun q hq => by rw [sp_up_n _ _ (by omega)]; exact hout q (by omega)) H locs hP hD hS ls (lv_sub hl [2, 1, 3, 4, 0] rfl)
        have get : ∀ (n2 t : Nat), t ≤ 10 → 10 < t + n2 → ∀ (H : Heap) (locs : List Loc), va_P D vwCl (wMs ad dd mc ms1 nw1 af1) H → va_D A (wMs ad dd mc ms1 nw1 af1) → va_S A s.heap H locs → ∀ ls : Array Slot, lv_has ls 5 [(0, .ref (ad 0)), (1, .int (nI (sp_tot (sp_rd co st) i))), (2, .int (nI i)), (3, .int (nI (sp_img (fun z => (st i).testBit z) (sp_LD co st) t))), (4, .int (nI t))] → W p l e ({ frames := 3, cells := 0, slots := 0, locals := 71 } : Room) s m as below meth c H locs 0 0 Q (F0 m 20 ls []) := by
          intro n2
          induction n2 with
          | zero => intro t q1 q2; omega
          | succ n2 ih2 =>
            intro t ht hn2 H locs hP hD hS ls hl
            refine lv_iload hx hb dX1_reduce_20 (lv_at hl 4 rfl) ?_
            refine lv_bipush (v := nI 10) hx hb dX1_reduce_22 (by decide) ?_
            refine wp_ge (tgt := 59) hx hb (by omega) (by omega) dX1_reduce_24 (by decide) (fun h3 => ?_) (fun h3 => ?_)
            · have ht10 : t = 10 := by omega
              rw [ht10] at hl
              have hl : lv_has ls 5 [(0, .ref (ad 0)), (1, .int (nI (sp_tot (sp_rd co st) i))), (2, .int (nI i)), (3, .int (nI (sp_rd co st i))), (4, .int (nI 10))] := hl
              refine lv_iconst (v := nI 0) hx hb dX1_reduce_59 (by decide) ?_
              refine lv_istore (lv' := [(4, .int (nI 0)), (0, .ref (ad 0)), (1, .int (nI (sp_tot (sp_rd co st) i))), (2, .int (nI i)), (3, .int (nI (sp_rd co st i)))]) hx hb dX1_reduce_60 hl (by decide) rfl (fun ls hl => ?_)
              exact put 11 0 ms1 (by omega) (by omega) lt_0 (fun _ _ => rfl) H locs hP hD hS ls (lv_sub hl [1, 2, 3, 4, 0] rfl)
            · have hlt : sp_LD co st t < 10 := sp_L_lt co st (sp_N co st) h3
              refine lv_aload_n hx hb dX1_reduce_27 rfl (lv_at hl 0 rfl) ?_
              refine m_get S hK hP rfl 1 (by decide) q169 rfl rfl dX1_reduce_28 ?_
              refine lv_iload_n hx hb dX1_reduce_31 rfl (lv_at hl 2 rfl) ?_
              refine lv_bipush (v := nI 10) hx hb dX1_reduce_32 (by decide) ?_
              refine wp_mul hx hb dX1_reduce_34 ?_
              refine lv_iload hx hb dX1_reduce_35 (lv_at hl 4 rfl) ?_
              refine wp_add hx hb dX1_reduce_37 ?_
              refine g_zld S hK hP 2 1 rfl rfl (by omega) (by decide) dX1_reduce_38 ?_
              refine wp_toB ((st i).testBit t) (by rw [hhi _ (by omega)]; exact sp_Rel2 hRel hc h3) ?_
              refine wp_ifeqB (tgt := 53) hx hb dX1_reduce_39 (by decide) (fun h4 => ?_) (fun h4 => ?_)
              · refine lv_iinc (v := nI (t + 1)) (lv' := [(4, .int (nI (t + 1))), (0, .ref (ad 0)), (1, .int (nI (sp_tot (sp_rd co st) i))), (2, .int (nI i)), (3, .int (nI (sp_img (fun z => (st i).testBit z) (sp_LD co st) t)))]) hx hb dX1_reduce_53 hl (k := 4) rfl (sp_inc _) (by decide) rfl (fun ls hl => ?_)
                refine lv_goto (tgt := 20) hx hb dX1_reduce_56 (by decide) ?_
                exact ih2 (t + 1) (by omega) (by omega) H locs hP hD hS ls (by rw [sp_img_no (p := fun z => (st i).testBit z) h4]; exact lv_sub hl [1, 2, 3, 4, 0] rfl)
              · refine lv_iload_n hx hb dX1_reduce_42 rfl (lv_at hl 3 rfl) ?_
                refine lv_iconst (v := nI 1) hx hb dX1_reduce_43 (by decide) ?_
                refine lv_aload_n hx hb dX1_reduce_44 rfl (lv_at hl 0 rfl) ?_
                refine lv_iload hx hb dX1_reduce_45 (lv_at hl 4 rfl) ?_
                refine gi_call S [.int (nI t)] [.int (nI 1), .int (nI (sp_img (fun z => (st i).testBit z) (sp_LD co st) t))] (mm_leaderNow l D ad dd mc ms1 nw1 af1 co st t h3 hnw) (cwV 1 S.2.2.2.2 (lw_V q222 q224 qs18 q21 q225) rfl rfl rfl (by decide +kernel) ⟨Nat.le_of_ble_eq_true rfl, Nat.le_of_ble_eq_true rfl⟩) rfl rfl hK hP hD hS hA rfl rfl hl.1 (Nat.le_of_ble_eq_true rfl) dX1_reduce_47 ⟨Nat.zero_le _, Nat.zero_le _⟩ (fun r v H locs hw hP hD hS => ?_)
                obtain ⟨rfl, rfl⟩ := hw
                have hP : va_P D vwCl (wMs ad dd mc ms1 nw1 af1) H := hP
                have hD : va_D A (wMs ad dd mc ms1 nw1 af1) := hD
                refine wp_shl hx hb (by omega) dX1_reduce_50 ?_
                refine wp_or hx hb dX1_reduce_51 ?_
                refine lv_istore_n (lv' := [(3, .int (nI ((sp_img (fun z => (st i).testBit z) (sp_LD co st) t) ||| (2 ^ (sp_LD co st t))))), (0, .ref (ad 0)), (1, .int (nI (sp_tot (sp_rd co st) i))), (2, .int (nI i)), (4, .int (nI t))]) hx hb dX1_reduce_52 rfl hl (by decide) rfl (fun ls hl => ?_)
                refine lv_iinc (v := nI (t + 1)) (lv' := [(4, .int (nI (t + 1))), (3, .int (nI ((sp_img (fun z => (st i).testBit z) (sp_LD co st) t) ||| (2 ^ (sp_LD co st t))))), (0, .ref (ad 0)), (1, .int (nI (sp_tot (sp_rd co st) i))), (2, .int (nI i))]) hx hb dX1_reduce_53 hl (k := 4) rfl (sp_inc _) (by decide) rfl (fun ls hl => ?_)
                refine lv_goto (tgt := 20) hx hb dX1_reduce_56 (by decide) ?_
                exact ih2 (t + 1) (by omega) (by omega) H locs hP hD hS ls (by rw [sp_img_yes (p := fun z => (st i).testBit z) h4]; exact lv_sub hl [2, 3, 4, 1, 0] rfl)
        refine lv_iconst (v := nI 0) hx hb dX1_reduce_15 (by decide) ?_
        refine lv_istore_n (lv' := [(3, .int (nI 0)), (0, .ref (ad 0)), (1, .int (nI (sp_tot (sp_rd co st) i))), (2, .int (nI i))]) hx hb dX1_reduce_16 rfl hl (by decide) rfl (fun ls hl => ?_)
        refine lv_iconst (v := nI 0) hx hb dX1_reduce_17 (by decide) ?_
        refine lv_istore (lv' := [(4, .int (nI 0)), (3, .int (nI 0)), (0, .ref (ad 0)), (1, .int (nI (sp_tot (sp_rd co st) i))), (2, .int (nI i))]) hx hb dX1_reduce_18 hl (by decide) rfl (fun ls hl => ?_)
        exact get 11 0 (by omega) (by omega) H locs hP hD hS ls (lv_sub hl [2, 3, 4, 1, 0] rfl)
  refine lv_pop hx hb dX1_reduce_6 rfl ?_
  refine lv_iconst (v := nI 0) hx hb dX1_reduce_7 (by decide) ?_
  refine lv_istore_n (lv' := [(2, .int (nI 0)), (1, .int (nI 0)), (0, .ref (ad 0))]) hx hb dX1_reduce_8 rfl hl (by decide) rfl (fun ls hl => ?_)
  exact loop 21 0 ms (by omega) (by omega) (fun a t ha => absurd ha (Nat.not_lt_zero a)) (fun _ _ => rfl) H locs hP hD hS ls (lv_sub hl [2, 1, 0] rfl)
end
section
/-! WALKS, 7: the constructors (printed by gen/gen7.py) -/
def sp_pk {α : Type} (a b c d e f g : α) : Nat → α
  | 0 => a
  | 1 => b
  | 2 => c
  | 3 => d
  | 4 => e
  | 5 => f
  | _ => g
abbrev sp_z : Nat → Nat := fun _ => 0
abbrev sp_zb : Nat → Bool := fun _ => false
/-- a new component: its fields before the constructor -/
abbrev wX0 (h0 : Nat) : va_W := [(h0, .inr (0, [.null, .null, .int (nI 0), .int (nI 0), .null, .int (nI 0), .null, .null, .int (nI 0), .int (nI 0), .null]))]
abbrev wM0 (h0 : Nat) : va_W := [(h0, .inr (1, [.null, .null, .null, .null]))]
set_option maxHeartbeats 4000000 in
set_option maxRecDepth 100000 in
theorem mx_init (l : Launch) (D : va_G) (h0 sz : Nat) : Met l yX0_init (ws_ yX0_init cX0_init 1 none) ({ frames := 1, cells := 6, slots := 210, locals := 12 } : Room) (va_Pc [.ref h0] (gP D [] (wX0 h0) sz)) (va_Qv (fun u : (Nat → Nat) × (Nat → ClassId) => u.1 0 = h0) (fun (u : (Nat → Nat) × (Nat → ClassId)) (t : State) => va_P D vwCl (wXs u.1 u.2 sp_z sp_z 0 0 sp_z 0 sp_z sp_z 0 0 sp_z) t.heap ∧ va_K D vwCl (tX u.2) t ∧ va_D (va_A (wX0 h0) sz) (wXs u.1 u.2 sp_z sp_z 0 0 sp_z 0 sp_z sp_z 0 0 sp_z)) (va_A (wX0 h0) sz)) 6 210 (va_A (wX0 h0) sz) := by
  refine Met.ofW (cc := cX0_init) (maxL := 1) (ret := none) (by decide) rfl ?_
  intro p e s m args below meth c s₁ B hml hv
  obtain ⟨rfl, hsz, hP, hK, hD0⟩ := hv
  have hx := B.exec
  have hb := B.bytes
  have hr := B.returns
  have hts := atoms_spec (ws := ws_ yX0_init cX0_init 1 none) B.pre
  have hts : ∀ w ∈ lw_all, w.before _ s = true := fun w h => hts w (List.mem_cons_of_mem _ h)
  have hown : s.vm.findClass RX0 = some m.cls := findClass_of_methodNamed B.named
  have hlocks := B.notSynchronized
  have hin : meth.name = "<init>" := (name_of_methodNamed B.named B.method).1
  subst hsz
  have hD := hD0.self (sz := s.heap.size)
  generalize hAe : va_A (wX0 h0) s.heap.size = A at hD ⊢
  have hA : ∀ q : Nat, s.heap.size ≤ q → A q := fun q h => by rw [← hAe]; exact Or.inr h
  have hS : va_S A s.heap s.heap [] := va_S.rf
  have hl := lv_entry ([.ref h0]) (n := 1) (Nat.le_of_ble_eq_true rfl)
  rw [lg_entry_eq]
  generalize (lg_sl ([.ref h0]) ++ List.replicate (1 - (lg_sl ([.ref h0])).length) Slot.unset).toArray = ls at hl ⊢
  have hl : lv_has ls 1 [(0, .ref h0)] := hl
  refine lv_aload_n hx hb dX0_init_0 rfl (lv_at hl 0 rfl) ?_
  refine W.objInit hx hb hown (hts _ q27) (hts _ q28) (hts _ q29) rfl (by rw [hml]; exact hl.1) rfl dX0_init_1 (Nat.le_of_ble_eq_true rfl) (Nat.le_of_ble_eq_true rfl) ?_
  refine W.eq (g2 := F0 m 4 ls []) rfl ?_
  refine lv_aload_n hx hb dX0_init_4 rfl (lv_at hl 0 rfl) ?_
  refine lv_bipush (v := nI 10) hx hb dX0_init_5 (by decide) ?_
  refine va_newa (atype := .byte) (ty := .byte) (N' := 10) (a0 := (10, .inl (fun j => nI (sp_z j)))) hx hb (hts _ q64) rfl hK hP hD hS hA (fun _ => rfl) (by decide) (by decide) (by decide) (Nat.le_of_ble_eq_true rfl) (Nat.le_of_ble_eq_true rfl) dX0_init_7 (fun q1 d1 H hK hP hD hS => ?_)
  have hP : va_P D vwCl [(h0, .inr (0, [.null, .null, .int (nI 0), .int (nI 0), .null, .int (nI 0), .null, .null, .int (nI 0), .int (nI 0), .null])), (q1, .inl (d1, 10, .inl (fun j => nI (sp_z j))))] H := hP
  have hD : va_D A [(h0, .inr (0, [.null, .null, .int (nI 0), .int (nI 0), .null, .int (nI 0), .null, .null, .int (nI 0), .int (nI 0), .null])), (q1, .inl (d1, 10, .inl (fun j => nI (sp_z j))))] := hD
  have hK : va_K D vwCl [(d1, .byte)] s := hK
  refine W.widen (k := 1) (n := 10) (by omega) (by omega) ?_
  refine va_putF (D := D) (ci := 0) (v := .ref q1) (ty := .array .byte) (C := RX0) (T := TX0) (N := 11) hx hb hts in_X0 tyX0 tyX0_ok nmX0 hown hK hP hD hS 0 rfl rfl 0 (by decide) (hts _ q30) (fun _ h9 => h9) rfl hin rfl (by decide +kernel) rfl rfl (Nat.le_of_ble_eq_true rfl) dX0_init_9 (fun H locs hP hD hS => ?_)
  have hP : va_P D vwCl [(h0, .inr (0, [.ref q1, .null, .int (nI 0), .int (nI 0), .null, .int (nI 0), .null, .null, .int (nI 0), .int (nI 0), .null])), (q1, .inl (d1, 10, .inl (fun j => nI (sp_z j))))] H := hP
  have hD : va_D A [(h0, .inr (0, [.ref q1, .null, .int (nI 0), .int (nI 0), .null, .int (nI 0), .null, .null, .int (nI 0), .int (nI 0), .null])), (q1, .inl (d1, 10, .inl (fun j => nI (sp_z j))))] := hD
  refine lv_aload_n hx hb dX0_init_12 rfl (lv_at hl 0 rfl) ?_
  refine lv_bipush (v := nI 20) hx hb dX0_init_13 (by decide) ?_
  refine va_newa (atype := .int) (ty := .int) (N' := 20) (a0 := (20, .inl (fun j => nI (sp_z j)))) hx hb (hts _ q65) rfl hK hP hD hS hA (fun _ => rfl) (by decide) (by decide) (by decide) (Nat.le_of_ble_eq_true rfl) (Nat.le_of_ble_eq_true rfl) dX0_init_15 (fun q2 d2 H hK hP hD hS => ?_)
  have hP : va_P D vwCl [(h0, .inr (0, [.ref q1, .null, .int (nI 0), .int (nI 0), .null, .int (nI 0), .null, .null, .int (nI 0), .int (nI 0), .null])), (q1, .inl (d1, 10, .inl (fun j => nI (sp_z j)))), (q2, .inl (d2, 20, .inl (fun j => nI (sp_z j))))] H := hP
  have hD : va_D A [(h0, .inr (0, [.ref q1, .null, .int (nI 0), .int (nI 0), .null, .int (nI 0), .null, .null, .int (nI 0), .int (nI 0), .null])), (q1, .inl (d1, 10, .inl (fun j => nI (sp_z j)))), (q2, .inl (d2, 20, .inl (fun j => nI (sp_z j))))] := hD
  have hK : va_K D vwCl [(d1, .byte), (d2, .int)] s := hK
  refine W.widen (k := 2) (n := 30) (by omega) (by omega) ?_
  refine va_putF (D := D) (ci := 0) (v := .ref q2) (ty := .array .int) (C := RX0) (T := TX0) (N := 11) hx hb hts in_X0 tyX0 tyX0_ok nmX0 hown hK hP hD hS 0 rfl rfl 1 (by decide) (hts _ q31) (fun _ h9 => h9) rfl hin rfl (by decide +kernel) rfl rfl (Nat.le_of_ble_eq_true rfl) dX0_init_17 (fun H locs hP hD hS => ?_)
  have hP : va_P D vwCl [(h0, .inr (0, [.ref q1, .ref q2, .int (nI 0), .int (nI 0), .null, .int (nI 0), .null, .null, .int (nI 0), .int (nI 0), .null])), (q1, .inl (d1, 10, .inl (fun j => nI (sp_z j)))), (q2, .inl (d2, 20, .inl (fun j => nI (sp_z j))))] H := hP
  have hD : va_D A [(h0, .inr (0, [.ref q1, .ref q2, .int (nI 0), .int (nI 0), .null, .int (nI 0), .null, .null, .int (nI 0), .int (nI 0), .null])), (q1, .inl (d1, 10, .inl (fun j => nI (sp_z j)))), (q2, .inl (d2, 20, .inl (fun j => nI (sp_z j))))] := hD
  refine lv_aload_n hx hb dX0_init_20 rfl (lv_at hl 0 rfl) ?_
  refine lv_bipush (v := nI 10) hx hb dX0_init_21 (by decide) ?_
  refine va_newa (atype := .int) (ty := .int) (N' := 10) (a0 := (10, .inl (fun j => nI (sp_z j)))) hx hb (hts _ q65) rfl hK hP hD hS hA (fun _ => rfl) (by decide) (by decide) (by decide) (Nat.le_of_ble_eq_true rfl) (Nat.le_of_ble_eq_true rfl) dX0_init_23 (fun q3 d3 H hK hP hD hS => ?_)
  have hP : va_P D vwCl [(h0, .inr (0, [.ref q1, .ref q2, .int (nI 0), .int (nI 0), .null, .int (nI 0), .null, .null, .int (nI 0), .int (nI 0), .null])), (q1, .inl (d1, 10, .inl (fun j => nI (sp_z j)))), (q2, .inl (d2, 20, .inl (fun j => nI (sp_z j)))), (q3, .inl (d3, 10, .inl (fun j => nI (sp_z j))))] H := hP
  have hD : va_D A [(h0, .inr (0, [.ref q1, .ref q2, .int (nI 0), .int (nI 0), .null, .int (nI 0), .null, .null, .int (nI 0), .int (nI 0), .null])), (q1, .inl (d1, 10, .inl (fun j => nI (sp_z j)))), (q2, .inl (d2, 20, .inl (fun j => nI (sp_z j)))), (q3, .inl (d3, 10, .inl (fun j => nI (sp_z j))))] := hD
  have hK : va_K D vwCl [(d1, .byte), (d2, .int), (d3, .int)] s := hK
  refine W.widen (k := 3) (n := 40) (by omega) (by omega) ?_
  refine va_putF (D := D) (ci := 0) (v := .ref q3) (ty := .array .int) (C := RX0) (T := TX0) (N := 11) hx hb hts in_X0 tyX0 tyX0_ok nmX0 hown hK hP hD hS 0 rfl rfl 4 (by decide) (hts _ q34) (fun _ h9 => h9) rfl hin rfl (by decide +kernel) rfl rfl (Nat.le_of_ble_eq_true rfl) dX0_init_25 (fun H locs hP hD hS => ?_)
  have hP : va_P D vwCl [(h0, .inr (0, [.ref q1, .ref q2, .int (nI 0), .int (nI 0), .ref q3, .int (nI 0), .null, .null, .int (nI 0), .int (nI 0), .null])), (q1, .inl (d1, 10, .inl (fun j => nI (sp_z j)))), (q2, .inl (d2, 20, .inl (fun j => nI (sp_z j)))), (q3, .inl (d3, 10, .inl (fun j => nI (sp_z j))))] H := hP
  have hD : va_D A [(h0, .inr (0, [.ref q1, .ref q2, .int (nI 0), .int (nI 0), .ref q3, .int (nI 0), .null, .null, .int (nI 0), .int (nI 0), .null])), (q1, .inl (d1, 10, .inl (fun j => nI (sp_z j)))), (q2, .inl (d2, 20, .inl (fun j => nI (sp_z j)))), (q3, .inl (d3, 10, .inl (fun j => nI (sp_z j))))] := hD
  refine lv_aload_n hx hb dX0_init_28 rfl (lv_at hl 0 rfl) ?_
  refine lv_bipush (v := nI 40) hx hb dX0_init_29 (by decide) ?_
  refine va_newa (atype := .int) (ty := .int) (N' := 40) (a0 := (40, .inl (fun j => nI (sp_z j)))) hx hb (hts _ q65) rfl hK hP hD hS hA (fun _ => rfl) (by decide) (by decide) (by decide) (Nat.le_of_ble_eq_true rfl) (Nat.le_of_ble_eq_true rfl) dX0_init_31 (fun q4 d4 H hK hP hD hS => ?_)
  have hP : va_P D vwCl [(h0, .inr (0, [.ref q1, .ref q2, .int (nI 0), .int (nI 0), .ref q3, .int (nI 0), .null, .null, .int (nI 0), .int (nI 0), .null])), (q1, .inl (d1, 10, .inl (fun j => nI (sp_z j)))), (q2, .inl (d2, 20, .inl (fun j => nI (sp_z j)))), (q3, .inl (d3, 10, .inl (fun j => nI (sp_z j)))), (q4, .inl (d4, 40, .inl (fun j => nI (sp_z j))))] H := hP
  have hD : va_D A [(h0, .inr (0, [.ref q1, .ref q2, .int (nI 0), .int (nI 0), .ref q3, .int (nI 0), .null, .null, .int (nI 0), .int (nI 0), .null])), (q1, .inl (d1, 10, .inl (fun j => nI (sp_z j)))), (q2, .inl (d2, 20, .inl (fun j => nI (sp_z j)))), (q3, .inl (d3, 10, .inl (fun j => nI (sp_z j)))), (q4, .inl (d4, 40, .inl (fun j => nI (sp_z j))))] := hD
  have hK : va_K D vwCl [(d1, .byte), (d2, .int), (d3, .int), (d4, .int)] s := hK
  refine W.widen (k := 4) (n := 80) (by omega) (by omega) ?_
  refine va_putF (D := D) (ci := 0) (v := .ref q4) (ty := .array .int) (C := RX0) (T := TX0) (N := 11) hx hb hts in_X0 tyX0 tyX0_ok nmX0 hown hK hP hD hS 0 rfl rfl 6 (by decide) (hts _ q36) (fun _ h9 => h9) rfl hin rfl (by decide +kernel) rfl rfl (Nat.le_of_ble_eq_true rfl) dX0_init_33 (fun H locs hP hD hS => ?_)
  have hP : va_P D vwCl [(h0, .inr (0, [.ref q1, .ref q2, .int (nI 0), .int (nI 0), .ref q3, .int (nI 0), .ref q4, .null, .int (nI 0), .int (nI 0), .null])), (q1, .inl (d1, 10, .inl (fun j => nI (sp_z j)))), (q2, .inl (d2, 20, .inl (fun j => nI (sp_z j)))), (q3, .inl (d3, 10, .inl (fun j => nI (sp_z j)))), (q4, .inl (d4, 40, .inl (fun j => nI (sp_z j))))] H := hP
  have hD : va_D A [(h0, .inr (0, [.ref q1, .ref q2, .int (nI 0), .int (nI 0), .ref q3, .int (nI 0), .ref q4, .null, .int (nI 0), .int (nI 0), .null])), (q1, .inl (d1, 10, .inl (fun j => nI (sp_z j)))), (q2, .inl (d2, 20, .inl (fun j => nI (sp_z j)))), (q3, .inl (d3, 10, .inl (fun j => nI (sp_z j)))), (q4, .inl (d4, 40, .inl (fun j => nI (sp_z j))))] := hD
  refine lv_aload_n hx hb dX0_init_36 rfl (lv_at hl 0 rfl) ?_
  refine lv_bipush (v := nI 10) hx hb dX0_init_37 (by decide) ?_
  refine va_newa (atype := .byte) (ty := .byte) (N' := 10) (a0 := (10, .inl (fun j => nI (sp_z j)))) hx hb (hts _ q64) rfl hK hP hD hS hA (fun _ => rfl) (by decide) (by decide) (by decide) (Nat.le_of_ble_eq_true rfl) (Nat.le_of_ble_eq_true rfl) dX0_init_39 (fun q5 d5 H hK hP hD hS => ?_)
  have hP : va_P D vwCl [(h0, .inr (0, [.ref q1, .ref q2, .int (nI 0), .int (nI 0), .ref q3, .int (nI 0), .ref q4, .null, .int (nI 0), .int (nI 0), .null])), (q1, .inl (d1, 10, .inl (fun j => nI (sp_z j)))), (q2, .inl (d2, 20, .inl (fun j => nI (sp_z j)))), (q3, .inl (d3, 10, .inl (fun j => nI (sp_z j)))), (q4, .inl (d4, 40, .inl (fun j => nI (sp_z j)))), (q5, .inl (d5, 10, .inl (fun j => nI (sp_z j))))] H := hP
  have hD : va_D A [(h0, .inr (0, [.ref q1, .ref q2, .int (nI 0), .int (nI 0), .ref q3, .int (nI 0), .ref q4, .null, .int (nI 0), .int (nI 0), .null])), (q1, .inl (d1, 10, .inl (fun j => nI (sp_z j)))), (q2, .inl (d2, 20, .inl (fun j => nI (sp_z j)))), (q3, .inl (d3, 10, .inl (fun j => nI (sp_z j)))), (q4, .inl (d4, 40, .inl (fun j => nI (sp_z j)))), (q5, .inl (d5, 10, .inl (fun j => nI (sp_z j))))] := hD
  have hK : va_K D vwCl [(d1, .byte), (d2, .int), (d3, .int), (d4, .int), (d5, .byte)] s := hK
  refine W.widen (k := 5) (n := 90) (by omega) (by omega) ?_
  refine va_putF (D := D) (ci := 0) (v := .ref q5) (ty := .array .byte) (C := RX0) (T := TX0) (N := 11) hx hb hts in_X0 tyX0 tyX0_ok nmX0 hown hK hP hD hS 0 rfl rfl 7 (by decide) (hts _ q37) (fun _ h9 => h9) rfl hin rfl (by decide +kernel) rfl rfl (Nat.le_of_ble_eq_true rfl) dX0_init_41 (fun H locs hP hD hS => ?_)
  have hP : va_P D vwCl [(h0, .inr (0, [.ref q1, .ref q2, .int (nI 0), .int (nI 0), .ref q3, .int (nI 0), .ref q4, .ref q5, .int (nI 0), .int (nI 0), .null])), (q1, .inl (d1, 10, .inl (fun j => nI (sp_z j)))), (q2, .inl (d2, 20, .inl (fun j => nI (sp_z j)))), (q3, .inl (d3, 10, .inl (fun j => nI (sp_z j)))), (q4, .inl (d4, 40, .inl (fun j => nI (sp_z j)))), (q5, .inl (d5, 10, .inl (fun j => nI (sp_z j))))] H := hP
  have hD : va_D A [(h0, .inr (0, [.ref q1, .ref q2, .int (nI 0), .int (nI 0), .ref q3, .int (nI 0), .ref q4, .ref q5, .int (nI 0), .int (nI 0), .null])), (q1, .inl (d1, 10, .inl (fun j => nI (sp_z j)))), (q2, .inl (d2, 20, .inl (fun j => nI (sp_z j)))), (q3, .inl (d3, 10, .inl (fun j => nI (sp_z j)))), (q4, .inl (d4, 40, .inl (fun j => nI (sp_z j)))), (q5, .inl (d5, 10, .inl (fun j => nI (sp_z j))))] := hD
  refine lv_aload_n hx hb dX0_init_44 rfl (lv_at hl 0 rfl) ?_
  refine lv_bipush (v := nI 120) hx hb dX0_init_45 (by decide) ?_
  refine va_newa (atype := .byte) (ty := .byte) (N' := 120) (a0 := (120, .inl (fun j => nI (sp_z j)))) hx hb (hts _ q64) rfl hK hP hD hS hA (fun _ => rfl) (by decide) (by decide) (by decide) (Nat.le_of_ble_eq_true rfl) (Nat.le_of_ble_eq_true rfl) dX0_init_47 (fun q6 d6 H hK hP hD hS => ?_)
  have hP : va_P D vwCl [(h0, .inr (0, [.ref q1, .ref q2, .int (nI 0), .int (nI 0), .ref q3, .int (nI 0), .ref q4, .ref q5, .int (nI 0), .int (nI 0), .null])), (q1, .inl (d1, 10, .inl (fun j => nI (sp_z j)))), (q2, .inl (d2, 20, .inl (fun j => nI (sp_z j)))), (q3, .inl (d3, 10, .inl (fun j => nI (sp_z j)))), (q4, .inl (d4, 40, .inl (fun j => nI (sp_z j)))), (q5, .inl (d5, 10, .inl (fun j => nI (sp_z j)))), (q6, .inl (d6, 120, .inl (fun j => nI (sp_z j))))] H := hP
  have hD : va_D A [(h0, .inr (0, [.ref q1, .ref q2, .int (nI 0), .int (nI 0), .ref q3, .int (nI 0), .ref q4, .ref q5, .int (nI 0), .int (nI 0), .null])), (q1, .inl (d1, 10, .inl (fun j => nI (sp_z j)))), (q2, .inl (d2, 20, .inl (fun j => nI (sp_z j)))), (q3, .inl (d3, 10, .inl (fun j => nI (sp_z j)))), (q4, .inl (d4, 40, .inl (fun j => nI (sp_z j)))), (q5, .inl (d5, 10, .inl (fun j => nI (sp_z j)))), (q6, .inl (d6, 120, .inl (fun j => nI (sp_z j))))] := hD
  have hK : va_K D vwCl [(d1, .byte), (d2, .int), (d3, .int), (d4, .int), (d5, .byte), (d6, .byte)] s := hK
  refine W.widen (k := 6) (n := 210) (by omega) (by omega) ?_
  refine va_putF (D := D) (ci := 0) (v := .ref q6) (ty := .array .byte) (C := RX0) (T := TX0) (N := 11) hx hb hts in_X0 tyX0 tyX0_ok nmX0 hown hK hP hD hS 0 rfl rfl 10 (by decide) (hts _ q40) (fun _ h9 => h9) rfl hin rfl (by decide +kernel) rfl rfl (Nat.le_of_ble_eq_true rfl) dX0_init_49 (fun H locs hP hD hS => ?_)
  have hP : va_P D vwCl [(h0, .inr (0, [.ref q1, .ref q2, .int (nI 0), .int (nI 0), .ref q3, .int (nI 0), .ref q4, .ref q5, .int (nI 0), .int (nI 0), .ref q6])), (q1, .inl (d1, 10, .inl (fun j => nI (sp_z j)))), (q2, .inl (d2, 20, .inl (fun j => nI (sp_z j)))), (q3, .inl (d3, 10, .inl (fun j => nI (sp_z j)))), (q4, .inl (d4, 40, .inl (fun j => nI (sp_z j)))), (q5, .inl (d5, 10, .inl (fun j => nI (sp_z j)))), (q6, .inl (d6, 120, .inl (fun j => nI (sp_z j))))] H := hP
  have hD : va_D A [(h0, .inr (0, [.ref q1, .ref q2, .int (nI 0), .int (nI 0), .ref q3, .int (nI 0), .ref q4, .ref q5, .int (nI 0), .int (nI 0), .ref q6])), (q1, .inl (d1, 10, .inl (fun j => nI (sp_z j)))), (q2, .inl (d2, 20, .inl (fun j => nI (sp_z j)))), (q3, .inl (d3, 10, .inl (fun j => nI (sp_z j)))), (q4, .inl (d4, 40, .inl (fun j => nI (sp_z j)))), (q5, .inl (d5, 10, .inl (fun j => nI (sp_z j)))), (q6, .inl (d6, 120, .inl (fun j => nI (sp_z j))))] := hD
  exact W.vret hx hb hr (fun t ht hW => ⟨⟨(sp_pk h0 q1 q2 q3 q4 q5 q6, sp_pk d1 d1 d2 d3 d4 d5 d6), rfl, rfl, by rw [ht]; exact hP, va_K.moved hW.alike hK, hD⟩, hS.F ht⟩) hS.2.2 dX0_init_52
set_option maxHeartbeats 4000000 in
set_option maxRecDepth 100000 in
theorem mm_init (l : Launch) (D : va_G) (h0 sz : Nat) : Met l yX1_init (ws_ yX1_init cX1_init 1 none) ({ frames := 1, cells := 4, slots := 410, locals := 12 } : Room) (va_Pc [.ref h0] (gP D [] (wM0 h0) sz)) (va_Qv (fun u : (Nat → Nat) × (Nat → ClassId) => u.1 0 = h0) (fun (u : (Nat → Nat) × (Nat → ClassId)) (t : State) => va_P D vwCl (wMs u.1 u.2 sp_z sp_zb sp_zb sp_zb) t.heap ∧ va_K D vwCl (tM u.2) t ∧ va_D (va_A (wM0 h0) sz) (wMs u.1 u.2 sp_z sp_zb sp_zb sp_zb)) (va_A (wM0 h0) sz)) 4 410 (va_A (wM0 h0) sz) := by
  refine Met.ofW (cc := cX1_init) (maxL := 1) (ret := none) (by decide) rfl ?_
  intro p e s m args below meth c s₁ B hml hv
  obtain ⟨rfl, hsz, hP, hK, hD0⟩ := hv
  have hx := B.exec
  have hb := B.bytes
  have hr := B.returns
  have hts := atoms_spec (ws := ws_ yX1_init cX1_init 1 none) B.pre
  have hts : ∀ w ∈ lw_all, w.before _ s = true := fun w h => hts w (List.mem_cons_of_mem _ h)
  have hown : s.vm.findClass RX1 = some m.cls := findClass_of_methodNamed B.named
  have hlocks := B.notSynchronized
  have hin : meth.name = "<init>" := (name_of_methodNamed B.named B.method).1
  subst hsz
  have hD := hD0.self (sz := s.heap.size)
  generalize hAe : va_A (wM0 h0) s.heap.size = A at hD ⊢
  have hA : ∀ q : Nat, s.heap.size ≤ q → A q := fun q h => by rw [← hAe]; exact Or.inr h
  have hS : va_S A s.heap s.heap [] := va_S.rf
  have hl := lv_entry ([.ref h0]) (n := 1) (Nat.le_of_ble_eq_true rfl)
  rw [lg_entry_eq]
  generalize (lg_sl ([.ref h0]) ++ List.replicate (1 - (lg_sl ([.ref h0])).length) Slot.unset).toArray = ls at hl ⊢
  have hl : lv_has ls 1 [(0, .ref h0)] := hl
  refine lv_aload_n hx hb dX1_init_0 rfl (lv_at hl 0 rfl) ?_
  refine W.objInit hx hb hown (hts _ q167) (hts _ q28) (hts _ q29) rfl (by rw [hml]; exact hl.1) rfl dX1_init_1 (Nat.le_of_ble_eq_true rfl) (Nat.le_of_ble_eq_true rfl) ?_
  refine W.eq (g2 := F0 m 4 ls []) rfl ?_
  refine lv_aload_n hx hb dX1_init_4 rfl (lv_at hl 0 rfl) ?_
  refine lv_bipush (v := nI 10) hx hb dX1_init_5 (by decide) ?_
  refine va_newa (atype := .int) (ty := .int) (N' := 10) (a0 := (10, .inl (fun j => nI (sp_z j)))) hx hb (hts _ q65) rfl hK hP hD hS hA (fun _ => rfl) (by decide) (by decide) (by decide) (Nat.le_of_ble_eq_true rfl) (Nat.le_of_ble_eq_true rfl) dX1_init_7 (fun q1 d1 H hK hP hD hS => ?_)
  have hP : va_P D vwCl [(h0, .inr (1, [.null, .null, .null, .null])), (q1, .inl (d1, 10, .inl (fun j => nI (sp_z j))))] H := hP
  have hD : va_D A [(h0, .inr (1, [.null, .null, .null, .null])), (q1, .inl (d1, 10, .inl (fun j => nI (sp_z j))))] := hD
  have hK : va_K D vwCl [(d1, .int)] s := hK
  refine W.widen (k := 1) (n := 10) (by omega) (by omega) ?_
  refine va_putF (D := D) (ci := 1) (v := .ref q1) (ty := .array .int) (C := RX1) (T := TX1) (N := 4) hx hb hts in_X1 tyX1 tyX1_ok nmX1 hown hK hP hD hS 0 rfl rfl 0 (by decide) (hts _ q168) (fun _ h9 => h9) rfl hin rfl (by decide +kernel) rfl rfl (Nat.le_of_ble_eq_true rfl) dX1_init_9 (fun H locs hP hD hS => ?_)
  have hP : va_P D vwCl [(h0, .inr (1, [.ref q1, .null, .null, .null])), (q1, .inl (d1, 10, .inl (fun j => nI (sp_z j))))] H := hP
  have hD : va_D A [(h0, .inr (1, [.ref q1, .null, .null, .null])), (q1, .inl (d1, 10, .inl (fun j => nI (sp_z j))))] := hD
  refine lv_aload_n hx hb dX1_init_12 rfl (lv_at hl 0 rfl) ?_
  refine lv_sipush (v := nI 200) hx hb dX1_init_13 (by decide) ?_
  refine va_newa (atype := .boolean) (ty := .boolean) (N' := 200) (a0 := (200, .inl (fun j => nI (sp_zb j).toNat))) hx hb (hts _ q181) rfl hK hP hD hS hA (fun _ => rfl) (by decide) (by decide) (by decide) (Nat.le_of_ble_eq_true rfl) (Nat.le_of_ble_eq_true rfl) dX1_init_16 (fun q2 d2 H hK hP hD hS => ?_)
  have hP : va_P D vwCl [(h0, .inr (1, [.ref q1, .null, .null, .null])), (q1, .inl (d1, 10, .inl (fun j => nI (sp_z j)))), (q2, .inl (d2, 200, .inl (fun j => nI (sp_zb j).toNat)))] H := hP
  have hD : va_D A [(h0, .inr (1, [.ref q1, .null, .null, .null])), (q1, .inl (d1, 10, .inl (fun j => nI (sp_z j)))), (q2, .inl (d2, 200, .inl (fun j => nI (sp_zb j).toNat)))] := hD
  have hK : va_K D vwCl [(d1, .int), (d2, .boolean)] s := hK
  refine W.widen (k := 2) (n := 210) (by omega) (by omega) ?_
  refine va_putF (D := D) (ci := 1) (v := .ref q2) (ty := .array .boolean) (C := RX1) (T := TX1) (N := 4) hx hb hts in_X1 tyX1 tyX1_ok nmX1 hown hK hP hD hS 0 rfl rfl 1 (by decide) (hts _ q169) (fun _ h9 => h9) rfl hin rfl (by decide +kernel) rfl rfl (Nat.le_of_ble_eq_true rfl) dX1_init_18 (fun H locs hP hD hS => ?_)
  have hP : va_P D vwCl [(h0, .inr (1, [.ref q1, .ref q2, .null, .null])), (q1, .inl (d1, 10, .inl (fun j => nI (sp_z j)))), (q2, .inl (d2, 200, .inl (fun j => nI (sp_zb j).toNat)))] H := hP
  have hD : va_D A [(h0, .inr (1, [.ref q1, .ref q2, .null, .null])), (q1, .inl (d1, 10, .inl (fun j => nI (sp_z j)))), (q2, .inl (d2, 200, .inl (fun j => nI (sp_zb j).toNat)))] := hD
  refine lv_aload_n hx hb dX1_init_21 rfl (lv_at hl 0 rfl) ?_
  refine lv_bipush (v := nI 100) hx hb dX1_init_22 (by decide) ?_
  refine va_newa (atype := .boolean) (ty := .boolean) (N' := 100) (a0 := (100, .inl (fun j => nI (sp_zb j).toNat))) hx hb (hts _ q181) rfl hK hP hD hS hA (fun _ => rfl) (by decide) (by decide) (by decide) (Nat.le_of_ble_eq_true rfl) (Nat.le_of_ble_eq_true rfl) dX1_init_24 (fun q3 d3 H hK hP hD hS => ?_)
  have hP : va_P D vwCl [(h0, .inr (1, [.ref q1, .ref q2, .null, .null])), (q1, .inl (d1, 10, .inl (fun j => nI (sp_z j)))), (q2, .inl (d2, 200, .inl (fun j => nI (sp_zb j).toNat))), (q3, .inl (d3, 100, .inl (fun j => nI (sp_zb j).toNat)))] H := hP
  have hD : va_D A [(h0, .inr (1, [.ref q1, .ref q2, .null, .null])), (q1, .inl (d1, 10, .inl (fun j => nI (sp_z j)))), (q2, .inl (d2, 200, .inl (fun j => nI (sp_zb j).toNat))), (q3, .inl (d3, 100, .inl (fun j => nI (sp_zb j).toNat)))] := hD
  have hK : va_K D vwCl [(d1, .int), (d2, .boolean), (d3, .boolean)] s := hK
  refine W.widen (k := 3) (n := 310) (by omega) (by omega) ?_
  refine va_putF (D := D) (ci := 1) (v := .ref q3) (ty := .array .boolean) (C := RX1) (T := TX1) (N := 4) hx hb hts in_X1 tyX1 tyX1_ok nmX1 hown hK hP hD hS 0 rfl rfl 2 (by decide) (hts _ q170) (fun _ h9 => h9) rfl hin rfl (by decide +kernel) rfl rfl (Nat.le_of_ble_eq_true rfl) dX1_init_26 (fun H locs hP hD hS => ?_)
  have hP : va_P D vwCl [(h0, .inr (1, [.ref q1, .ref q2, .ref q3, .null])), (q1, .inl (d1, 10, .inl (fun j => nI (sp_z j)))), (q2, .inl (d2, 200, .inl (fun j => nI (sp_zb j).toNat))), (q3, .inl (d3, 100, .inl (fun j => nI (sp_zb j).toNat)))] H := hP
  have hD : va_D A [(h0, .inr (1, [.ref q1, .ref q2, .ref q3, .null])), (q1, .inl (d1, 10, .inl (fun j => nI (sp_z j)))), (q2, .inl (d2, 200, .inl (fun j => nI (sp_zb j).toNat))), (q3, .inl (d3, 100, .inl (fun j => nI (sp_zb j).toNat)))] := hD
  refine lv_aload_n hx hb dX1_init_29 rfl (lv_at hl 0 rfl) ?_
  refine lv_bipush (v := nI 100) hx hb dX1_init_30 (by decide) ?_
  refine va_newa (atype := .boolean) (ty := .boolean) (N' := 100) (a0 := (100, .inl (fun j => nI (sp_zb j).toNat))) hx hb (hts _ q181) rfl hK hP hD hS hA (fun _ => rfl) (by decide) (by decide) (by decide) (Nat.le_of_ble_eq_true rfl) (Nat.le_of_ble_eq_true rfl) dX1_init_32 (fun q4 d4 H hK hP hD hS => ?_)
  have hP : va_P D vwCl [(h0, .inr (1, [.ref q1, .ref q2, .ref q3, .null])), (q1, .inl (d1, 10, .inl (fun j => nI (sp_z j)))), (q2, .inl (d2, 200, .inl (fun j => nI (sp_zb j).toNat))), (q3, .inl (d3, 100, .inl (fun j => nI (sp_zb j).toNat))), (q4, .inl (d4, 100, .inl (fun j => nI (sp_zb j).toNat)))] H := hP
  have hD : va_D A [(h0, .inr (1, [.ref q1, .ref q2, .ref q3, .null])), (q1, .inl (d1, 10, .inl (fun j => nI (sp_z j)))), (q2, .inl (d2, 200, .inl (fun j => nI (sp_zb j).toNat))), (q3, .inl (d3, 100, .inl (fun j => nI (sp_zb j).toNat))), (q4, .inl (d4, 100, .inl (fun j => nI (sp_zb j).toNat)))] := hD
  have hK : va_K D vwCl [(d1, .int), (d2, .boolean), (d3, .boolean), (d4, .boolean)] s := hK
  refine W.widen (k := 4) (n := 410) (by omega) (by omega) ?_
  refine va_putF (D := D) (ci := 1) (v := .ref q4) (ty := .array .boolean) (C := RX1) (T := TX1) (N := 4) hx hb hts in_X1 tyX1 tyX1_ok nmX1 hown hK hP hD hS 0 rfl rfl 3 (by decide) (hts _ q171) (fun _ h9 => h9) rfl hin rfl (by decide +kernel) rfl rfl (Nat.le_of_ble_eq_true rfl) dX1_init_34 (fun H locs hP hD hS => ?_)
  have hP : va_P D vwCl [(h0, .inr (1, [.ref q1, .ref q2, .ref q3, .ref q4])), (q1, .inl (d1, 10, .inl (fun j => nI (sp_z j)))), (q2, .inl (d2, 200, .inl (fun j => nI (sp_zb j).toNat))), (q3, .inl (d3, 100, .inl (fun j => nI (sp_zb j).toNat))), (q4, .inl (d4, 100, .inl (fun j => nI (sp_zb j).toNat)))] H := hP
  have hD : va_D A [(h0, .inr (1, [.ref q1, .ref q2, .ref q3, .ref q4])), (q1, .inl (d1, 10, .inl (fun j => nI (sp_z j)))), (q2, .inl (d2, 200, .inl (fun j => nI (sp_zb j).toNat))), (q3, .inl (d3, 100, .inl (fun j => nI (sp_zb j).toNat))), (q4, .inl (d4, 100, .inl (fun j => nI (sp_zb j).toNat)))] := hD
  exact W.vret hx hb hr (fun t ht hW => ⟨⟨(sp_pk h0 q1 q2 q3 q4 q4 q4, sp_pk d1 d1 d2 d3 d4 d4 d4), rfl, rfl, by rw [ht]; exact hP, va_K.moved hW.alike hK, hD⟩, hS.F ht⟩) hS.2.2 dX1_init_37
end
section
/-! THE CLAIM OUT OF ONE WALK OF THE LAW'S BODY. Your part is whole_start (and what it stands on); all else here is the same for every law, but numbers. -/
def R_law : String := "StablePartitionLaw"
def lw_P (b : Addr) (xs : List Int32) (args : Array Value) (s : State) : Prop := args = #[.ref b] ∧ s.IntsAt b xs ∧ xs.length ≤ 320 ∧ (Jvm.Cond.and given_1 narrow_1).before args s = true
def lw_Q (_ : Array Value) (s : State) (o : Outcome) (t : State) : Prop := o = .returned (some (.int 1)) ∧ Framed s o t [] 600000 7290000
def lw_Z (below : List Frame) (a : Array Value) (s : State) : State → Prop := fun t => ∃ o, t.status = .running ∧ Ended t below o ∧ lw_Q a s o t
/-- the law's own end, with 1 on the stack, nothing written that was there before, its room as the claim has it -/
theorem lw_ret {p : Program} {l : Launch} {e : Env} {s : State} {m : MethodId} {below : List Frame} {meth : Method} {c : Code} {b : Nat} (hx : p.tables.exec = Jvm.exec) (hb : c.code = code) (hr : meth.sig.returnType = ret) (hlocks : meth.locks = false) {pc : Nat} {H : Heap} {ls : Array Slot} (hdg : decode code pc = .ok (.ireturn, 1)) : W p l e room_1 s m #[Value.ref b] below meth c H [] 600000 7290000 (lw_Z below #[Value.ref b] s) (F0 m pc ls [.int 1]) := by
  intro T hT X
  obtain ⟨fs, hret, hrun, hended, hW, hframe⟩ := X.leave (v := some (.int 1)) (hlocks := hlocks) (fun h => by rw [hr] at h; cases h)
  have hmeth' : T.vm.method? m = some meth := X.method'
  refine ⟨T.setFrames fs, ?_, .returned (some (.int 1)), hrun, hended, rfl, ⟨_, rfl⟩, hW, hframe⟩
  jvm_step X.here [X.here.top, hx, hb, hdg, hmeth', hr, ret, narrow_b1]
  (try refine ⟨rfl, ?_⟩); (try refine ⟨rfl, ?_⟩)
  first | (intro acts; rw [hret _ acts rfl rfl rfl]) | rw [hret _ _ rfl rfl rfl]
  exact Steps.refl _
/-- what holds at the law's entry: the machine, the code, the tables' words (any of lw_tbl by 'hts w (by decide +kernel)'), the script of L ints xs at the cell b, what the Statement gives of the start (any of its parts by flat_of_before) -/
def lw_At (p : Program) (s : State) (m : MethodId) (meth : Method) (c : Code) (b L : Nat) (xs : Nat → Int32) : Prop :=
  p.tables.exec = Jvm.exec ∧ c.code = code ∧ meth.sig.returnType = ret ∧ c.maxLocals = 4 ∧ s.vm.findClass R_law = some m.cls ∧ (∀ w ∈ lw_tbl, w.before #[Value.ref b] s = true) ∧ va_X b L xs s s.heap ∧ b < s.heap.size ∧ meth.locks = false ∧ (Jvm.Cond.and given_1 narrow_1).before #[Value.ref b] s = true
theorem sp_inc5 (i : Nat) : nI i + Int32.ofInt 5 = nI (i + 5) := nI_add i 5
theorem sp_lim {L i : Nat} (hL : L < 2 ^ 30) (hi : i < 2 ^ 30) : nI L - nI 5 < nI i ↔ L < i + 5 := by
  rw [Int32.lt_iff_toInt_lt, pk_sub_toInt hL (by decide), nI_toInt (show i < 2 ^ 31 by omega)]
  omega
theorem sp_apart {A : Nat → Prop} {w1 w2 : va_W} (h : va_D A (w1 ++ w2)) : ∀ (i j : Nat) (x y : Nat × va_E), w2[i]? = some x → w1[j]? = some y → x.1 ≠ y.1 := by
  intro i j x y h1 h2 e
  have hj := (List.getElem?_eq_some_iff.mp h2).1
  have h3 := h.1 (w1.length + i) j x y (by rw [List.getElem?_append_right (by omega), Nat.add_sub_cancel_left]; exact h1) (by rw [List.getElem?_append_left hj]; exact h2) e
  omega
/-- between two calls of the law: the component is in order, and the reference holds the same colours and steps -/
def sp_LI (u : SX) (z : SM) : Prop := ∃ co st mc ms nw af, sp_XV co st u ∧ z = (mc, ms, nw, af) ∧ sp_Rel co st mc ms
section WL
variable {p : Program} {l : Launch} {e : Env} {R : Room} {s : State} {m : MethodId} {args : Array Value} {below : List Frame} {meth : Method} {c : Code} {H : Heap} {locs : List Loc} {cells slots : Nat} {Q : State → Prop}
variable {cc bytes : ByteArray} {nL maxL n index pc : Nat} {ls : Array Slot} {rest : List Value} {D : va_G} {A : Nat → Prop} {a ci : Nat} {tys : List (ClassId × FieldType)} {own C : String} {T : u_T} {N : Nat} {σ : Type} {wf : σ → va_W} {u : σ} {y : MethodName} {ws : List Cond} {rm : Room} {ret : Option FieldType} {H0 : Heap}
theorem gl_sld (hx : p.tables.exec = Jvm.exec) (hb : c.code = cc) {b L : Nat} {xs : Nat → Int32} (hX : va_X b L xs s H0) (hbl : b < H0.size) (hbA : ¬ A b) (hS : va_S A H0 H locs) {i : Nat} (hi : i < L) (hL : L < 2147483648) (hdg : decode cc pc = .ok (.iaload, 1)) (kk : W p l e R s m args below meth c H locs cells slots Q (F0 m (pc + 1) ls (.int (xs i) :: rest))) : W p l e R s m args below meth c H locs cells slots Q (F0 m pc ls (.int (nI i) :: .ref b :: rest)) := by
  refine va_sld hx hb hX hbl hbA hS (vp_in_nI hi hL) hdg ?_
  rw [nI_clamp (show i < 2 ^ 31 by omega)]
  exact kk
/-- a call of one of two objects: the other's cells (wr) stay -/
theorem gl_call {post : Int32 → σ → Prop} (S : CallFix p m c cc nL s args lw_all own) (As rest : List Value) (hM : MetI l D tys wf y ws rm (.ref a :: As) u post) (cw : CallW R s args own C index y bytes maxL ret ws rm 0 0 n) {fs : List Value} (hc : vwCl[ci]? = some (C, T, N)) (he : (wf u)[0]? = some (a, .inr (ci, fs)))
    (hK : va_K D vwCl tys s) (hP : va_P D vwCl (wf u) H) (hD : va_D A (wf u)) {wr : va_W} (hPr : va_P D vwCl wr H) (hap : ∀ (i j : Nat) (x y : Nat × va_E), wr[i]? = some x → (wf u)[j]? = some y → x.1 ≠ y.1) (hS : va_S A s.heap H locs) (hA : ∀ q : Nat, s.heap.size ≤ q → A q) {st0 : List Value} (hst : st0 = As.reverse ++ .ref a :: rest) (hn : As.length = n) (hsize : ls.size = nL) (hW : (rest.map fun v => v.category).sum ≤ 8) (hdg : decode cc pc = .ok (.invokevirtual index, 3)) (hf : cells ≤ R.cells ∧ slots ≤ R.slots)
    (kk : ∀ (r : Int32) (v : σ) (H1 : Heap) (locs1 : List Loc), post r v → va_P D vwCl (wf v) H1 → va_D A (wf v) → va_P D vwCl wr H1 → (∀ (i j : Nat) (x y : Nat × va_E), wr[i]? = some x → (wf v)[j]? = some y → x.1 ≠ y.1) → va_S A s.heap H1 locs1 → W p l e R s m args below meth c H1 locs1 cells slots Q (F0 m (pc + 3) ls (.int r :: rest))) : W p l e R s m args below meth c H locs cells slots Q (F0 m pc ls st0) := by
  have hF := gw_free (s := s) hA hD hS
  have hnot : ∀ (k : Nat) (q : Nat × va_E), wr[k]? = some q → q.1 < H.size ∧ ¬ va_A (wf u) H.size q.1 := by
    intro k q hq
    have hl := (hPr k q hq).lt
    refine ⟨hl, fun h => ?_⟩
    rcases h with ⟨j, e, h⟩ | h
    · exact hap k j q (q.1, e) hq h rfl
    · omega
  refine va_calli (mc := 0) (ms := 0) (va_runV (As := As) (rest := rest) S (hM H.size) cw ⟨fun a U g mk q => ?_, va_recv hK hP hc he, fun U hU hW => ⟨rfl, by rw [hU], by rw [hU]; exact hP, va_K.moved hW.alike hK, hD.weaken (fun _ _ _ _ => trivial)⟩⟩ rfl hn hsize hst (lv_room hW) hdg hf) hS (fun q _ h => hF q h) hF (fun r v t H1 locs1 ht hvm hw hB hz1 hk1 hS1 => ?_)
  · obtain ⟨q0, q1, qP, qK, qD⟩ := q
    exact ⟨q0, q1, qP, va_K.moved (u := U) (U := U.calling g mk a) (Vm.Alike.refl U.vm) qK, qD⟩
  · obtain ⟨hP1, hK1, hD1⟩ := hB
    rw [ht] at hP1
    exact kk r v H1 locs1 hw hP1 (hD1.weaken (fun k q _ h => hF q.1 h)) (fun k q hq => (hPr k q hq).kept (hk1 q.1 (hnot k q hq).1 (hnot k q hq).2)) (fun i j x y hx hy e => (hnot i x hx).2 (by rw [e]; exact hD1.2 j y hy)) hS1
end WL
end
section
/-! THE LAW'S LOOP (printed by gen/gen8.py) -/
set_option maxHeartbeats 8000000 in
set_option maxRecDepth 100000 in
/-- at the loop's head, with i ints read -/
theorem law_loop {p : Program} {l : Launch} {e : Env} {s : State} {m : MethodId} {below : List Frame} {meth : Method} {c : Code} {D : va_G} {ad am : Nat → Nat} {dd dm : Nat → ClassId} {b L : Nat} {xs : Nat → Int32} (hL : L ≤ 320) (C0 : lw_At p s m meth c b L xs) (hKX : va_K D vwCl (tX dd) s) (hKM : va_K D vwCl (tM dm) s) :
    ∀ (n i : Nat) (u : SX) (z : SM), i ≤ L → L < i + n → sp_LI u z → ∀ (H : Heap) (locs : List Loc), va_P D vwCl (wX ad dd u) H → va_D (fun q : Nat => s.heap.size ≤ q) (wX ad dd u) → va_P D vwCl (wM am dm z) H → va_D (fun q : Nat => s.heap.size ≤ q) (wM am dm z) → (∀ (i j : Nat) (x y : Nat × va_E), (wM am dm z)[i]? = some x → (wX ad dd u)[j]? = some y → x.1 ≠ y.1) → va_S (fun q : Nat => s.heap.size ≤ q) s.heap H locs → ∀ ls : Array Slot, lv_has ls 4 [(0, .ref b), (1, .ref (ad 0)), (2, .ref (am 0)), (3, .int (nI i))] → W p l e room_1 s m #[Value.ref b] below meth c H locs 12 635 (lw_Z below #[Value.ref b] s) (F0 m 18 ls []) := by
  obtain ⟨hx, hb, hr, hml, hown, hts0, hX, hbl, hlocks, hgv⟩ := C0
  have hts : ∀ w ∈ lw_all, w.before #[Value.ref b] s = true := fun w h => hts0 w (lw_all_tbl h)
  have S : CallFix p m c code 4 s #[Value.ref b] lw_all R_law := ⟨hx, hb, hml, hown, hts⟩
  have hA : ∀ q : Nat, s.heap.size ≤ q → (fun q : Nat => s.heap.size ≤ q) q := fun _ h => h
  have hbA : ¬ (fun q : Nat => s.heap.size ≤ q) b := Nat.not_le.mpr hbl
  intro n
  induction n with
  | zero => intro i u z h1 h2; omega
  | succ n ih =>
    intro i u z hi hn hLI H locs hPX hDX hPM hDM hap hS ls hl
    have tail : i + 5 ≤ L → ∀ (u : SX) (z : SM), sp_LI u z → ∀ (H : Heap) (locs : List Loc), va_P D vwCl (wX ad dd u) H → va_D (fun q : Nat => s.heap.size ≤ q) (wX ad dd u) → va_P D vwCl (wM am dm z) H → va_D (fun q : Nat => s.heap.size ≤ q) (wM am dm z) → (∀ (i j : Nat) (x y : Nat × va_E), (wM am dm z)[i]? = some x → (wX ad dd u)[j]? = some y → x.1 ≠ y.1) → va_S (fun q : Nat => s.heap.size ≤ q) s.heap H locs → ∀ ls : Array Slot, lv_has ls 4 [(0, .ref b), (1, .ref (ad 0)), (2, .ref (am 0)), (3, .int (nI i))] → W p l e room_1 s m #[Value.ref b] below meth c H locs 12 635 (lw_Z below #[Value.ref b] s) (F0 m 391 ls []) := by
      intro hi5 u z hLI H locs hPX hDX hPM hDM hap hS ls hl
      refine lv_iinc (v := nI (i + 5)) (lv' := [(3, .int (nI (i + 5))), (0, .ref b), (1, .ref (ad 0)), (2, .ref (am 0))]) hx hb dL_law_391 hl (k := 3) rfl (sp_inc5 i) (by decide) rfl (fun ls hl => ?_)
      refine lv_goto (tgt := 18) hx hb dL_law_394 (by decide) ?_
      exact ih (i + 5) u z hi5 (by omega) hLI H locs hPX hDX hPM hDM hap hS ls (lv_sub hl [1, 2, 3, 0] rfl)
    obtain ⟨co, st, mc, ms, nw, af, ⟨sd, bc, bl, wc, wa, le, tk, rc, ca, rfl, hXI⟩, rfl, hRel⟩ := id hLI
    have hc4 := hXI.1
    refine lv_iload_n hx hb dL_law_18 rfl (lv_at hl 3 rfl) ?_
    refine lv_aload_n hx hb dL_law_19 rfl (lv_at hl 0 rfl) ?_
    refine va_slen hx hb hX hbl hbA hS dL_law_20 ?_
    refine W.eq (g2 := F0 m 21 ls [.int (nI L), .int (nI i)]) rfl ?_
    refine lv_iconst (v := nI 5) hx hb dL_law_21 (by decide) ?_
    refine lv_isub hx hb dL_law_22 ?_
    refine lv_icmp_gt (tgt := 397) hx hb dL_law_23 (by decide) (fun hc => ?_) (fun hc => ?_)
    · refine lv_iconst (v := 1) hx hb dL_law_397 (by decide) ?_
      refine va_forget (fun q hq => hS.2.2 q hq) ?_
      refine W.widen (k := 600000) (n := 7290000) (by decide) (by decide) ?_
      exact lw_ret hx hb hr hlocks dL_law_398
    · have hi5 : i + 5 ≤ L := Nat.le_of_not_lt (fun q => hc ((sp_lim (by omega) (by omega)).mpr q))
      have tail := tail hi5
      refine lv_aload_n hx hb dL_law_26 rfl (lv_at hl 0 rfl) ?_
      refine lv_iload_n hx hb dL_law_27 rfl (lv_at hl 3 rfl) ?_
      refine gl_sld hx hb hX hbl hbA hS (by omega) (by omega) dL_law_28 ?_
      refine lv_bipush (v := nI 15) hx hb dL_law_29 (by decide) ?_
      refine lv_iand hx hb dL_law_31 ?_
      obtain ⟨w, hw, ew⟩ := pk_andE (xs i) (m := nI 15) 4 rfl
      refine wp_to (nI w) ew ?_
      rcases (show w = 0 ∨ w = 1 ∨ w = 2 ∨ w = 3 ∨ w = 4 ∨ w = 5 ∨ w = 6 ∨ w = 7 ∨ w = 8 ∨ w = 9 ∨ w = 10 ∨ 11 ≤ w by omega) with rfl | rfl | rfl | rfl | rfl | rfl | rfl | rfl | rfl | rfl | rfl | hw11
      · refine lv_tableIn (tgt := 92) hx hb dL_law_32 (by decide) (by decide) rfl (by decide) ?_
        refine lv_aload_n hx hb dL_law_92 rfl (lv_at hl 1 rfl) ?_
        refine lv_aload_n hx hb dL_law_93 rfl (lv_at hl 0 rfl) ?_
        refine lv_iload_n hx hb dL_law_94 rfl (lv_at hl 3 rfl) ?_
        refine lv_iconst (v := nI 1) hx hb dL_law_95 (by decide) ?_
        refine wp_add hx hb dL_law_96 ?_
        refine gl_sld hx hb hX hbl hbA hS (by omega) (by omega) dL_law_97 ?_
        refine lv_aload_n hx hb dL_law_98 rfl (lv_at hl 0 rfl) ?_
        refine lv_iload_n hx hb dL_law_99 rfl (lv_at hl 3 rfl) ?_
        refine lv_iconst (v := nI 2) hx hb dL_law_100 (by decide) ?_
        refine wp_add hx hb dL_law_101 ?_
        refine gl_sld hx hb hX hbl hbA hS (by omega) (by omega) dL_law_102 ?_
        refine gl_call S [.int (xs (i + 1)), .int (xs (i + 2))] [] (mx_colour l D ad dd co st sd bc bl wc wa le tk rc ca (xs (i + 1)) (xs (i + 2)) hXI) (cwV 2 S.2.2.2.2 (lw_V q66 q67 q68 q20 q69) rfl rfl rfl (by decide +kernel) ⟨Nat.le_of_ble_eq_true rfl, Nat.le_of_ble_eq_true rfl⟩) rfl rfl hKX hPX hDX hPM hap hS hA rfl rfl hl.1 (Nat.le_of_ble_eq_true rfl) dL_law_103 ⟨Nat.le_of_ble_eq_true rfl, Nat.le_of_ble_eq_true rfl⟩ (fun r1 v1 H locs hw1 hPX hDX hPM hap hS => ?_)
        refine lv_aload_n hx hb dL_law_106 rfl (lv_at hl 2 rfl) ?_
        refine lv_aload_n hx hb dL_law_107 rfl (lv_at hl 0 rfl) ?_
        refine lv_iload_n hx hb dL_law_108 rfl (lv_at hl 3 rfl) ?_
        refine lv_iconst (v := nI 1) hx hb dL_law_109 (by decide) ?_
        refine wp_add hx hb dL_law_110 ?_
        refine gl_sld hx hb hX hbl hbA hS (by omega) (by omega) dL_law_111 ?_
        refine lv_aload_n hx hb dL_law_112 rfl (lv_at hl 0 rfl) ?_
        refine lv_iload_n hx hb dL_law_113 rfl (lv_at hl 3 rfl) ?_
        refine lv_iconst (v := nI 2) hx hb dL_law_114 (by decide) ?_
        refine wp_add hx hb dL_law_115 ?_
        refine gl_sld hx hb hX hbl hbA hS (by omega) (by omega) dL_law_116 ?_
        refine gl_call S [.int (xs (i + 1)), .int (xs (i + 2))] [.int r1] (mm_colour l D am dm mc ms nw af (xs (i + 1)) (xs (i + 2))) (cwV 2 S.2.2.2.2 (lw_V q182 q183 q184 q21 q185) rfl rfl rfl (by decide +kernel) ⟨Nat.le_of_ble_eq_true rfl, Nat.le_of_ble_eq_true rfl⟩) rfl rfl hKM hPM hDM hPX (fun i j x y h1 h2 e => hap j i y x h2 h1 e.symm) hS hA rfl rfl hl.1 (Nat.le_of_ble_eq_true rfl) dL_law_117 ⟨Nat.le_of_ble_eq_true rfl, Nat.le_of_ble_eq_true rfl⟩ (fun r2 z1 H locs hw2 hPM hDM hPX hap0 hS => ?_)
        have hap := fun i j x y h1 h2 e => hap0 j i y x h2 h1 (Eq.symm e)
        refine lv_icmp_eq (tgt := 391) hx hb dL_law_120 (by decide) (fun _ => ?_) (fun hne => absurd (hw1.2.trans hw2.2.symm) hne)
        exact tail v1 z1 (⟨_, st, _, ms, nw, af, hw1.1, hw2.1, sp_Rel_col hRel _ _⟩) H locs hPX hDX hPM hDM hap hS ls hl
      · refine lv_tableIn (tgt := 125) hx hb dL_law_32 (by decide) (by decide) rfl (by decide) ?_
        by_cases hz : xs (i + 4) = 0
        · refine lv_aload_n hx hb dL_law_125 rfl (lv_at hl 1 rfl) ?_
          refine lv_aload_n hx hb dL_law_126 rfl (lv_at hl 0 rfl) ?_
          refine lv_iload_n hx hb dL_law_127 rfl (lv_at hl 3 rfl) ?_
          refine lv_iconst (v := nI 1) hx hb dL_law_128 (by decide) ?_
          refine wp_add hx hb dL_law_129 ?_
          refine gl_sld hx hb hX hbl hbA hS (by omega) (by omega) dL_law_130 ?_
          refine lv_aload_n hx hb dL_law_131 rfl (lv_at hl 0 rfl) ?_
          refine lv_iload_n hx hb dL_law_132 rfl (lv_at hl 3 rfl) ?_
          refine lv_iconst (v := nI 2) hx hb dL_law_133 (by decide) ?_
          refine wp_add hx hb dL_law_134 ?_
          refine gl_sld hx hb hX hbl hbA hS (by omega) (by omega) dL_law_135 ?_
          refine lv_aload_n hx hb dL_law_136 rfl (lv_at hl 0 rfl) ?_
          refine lv_iload_n hx hb dL_law_137 rfl (lv_at hl 3 rfl) ?_
          refine lv_iconst (v := nI 3) hx hb dL_law_138 (by decide) ?_
          refine wp_add hx hb dL_law_139 ?_
          refine gl_sld hx hb hX hbl hbA hS (by omega) (by omega) dL_law_140 ?_
          refine lv_aload_n hx hb dL_law_141 rfl (lv_at hl 0 rfl) ?_
          refine lv_iload_n hx hb dL_law_142 rfl (lv_at hl 3 rfl) ?_
          refine lv_iconst (v := nI 4) hx hb dL_law_143 (by decide) ?_
          refine wp_add hx hb dL_law_144 ?_
          refine gl_sld hx hb hX hbl hbA hS (by omega) (by omega) dL_law_145 ?_
          refine lv_if_eq (tgt := 153) hx hb dL_law_146 (by decide) (fun h1 => ?_) (fun h1 => ?_)
          · refine lv_iconst (v := nI 0) hx hb dL_law_153 (by decide) ?_
            refine W.eq (g2 := F0 m 154 ls [.int (nI false.toNat), .int (xs (i + 3)), .int (xs (i + 2)), .int (xs (i + 1)), .ref (ad 0)]) rfl ?_
            refine gl_call S [.int (xs (i + 1)), .int (xs (i + 2)), .int (xs (i + 3)), .int (nI false.toNat)] [] (mx_step l D ad dd co st sd bc bl wc wa le tk rc ca (xs (i + 1)) (xs (i + 2)) (xs (i + 3)) false hXI) (cwV 4 S.2.2.2.2 (lw_V q78 q79 q80 q20 q81) rfl rfl rfl (by decide +kernel) ⟨Nat.le_of_ble_eq_true rfl, Nat.le_of_ble_eq_true rfl⟩) rfl rfl hKX hPX hDX hPM hap hS hA rfl rfl hl.1 (Nat.le_of_ble_eq_true rfl) dL_law_154 ⟨Nat.le_of_ble_eq_true rfl, Nat.le_of_ble_eq_true rfl⟩ (fun r1 v1 H locs hw1 hPX hDX hPM hap hS => ?_)
            refine lv_aload_n hx hb dL_law_157 rfl (lv_at hl 2 rfl) ?_
            refine lv_aload_n hx hb dL_law_158 rfl (lv_at hl 0 rfl) ?_
            refine lv_iload_n hx hb dL_law_159 rfl (lv_at hl 3 rfl) ?_
            refine lv_iconst (v := nI 1) hx hb dL_law_160 (by decide) ?_
            refine wp_add hx hb dL_law_161 ?_
            refine gl_sld hx hb hX hbl hbA hS (by omega) (by omega) dL_law_162 ?_
            refine lv_aload_n hx hb dL_law_163 rfl (lv_at hl 0 rfl) ?_
            refine lv_iload_n hx hb dL_law_164 rfl (lv_at hl 3 rfl) ?_
            refine lv_iconst (v := nI 2) hx hb dL_law_165 (by decide) ?_
            refine wp_add hx hb dL_law_166 ?_
            refine gl_sld hx hb hX hbl hbA hS (by omega) (by omega) dL_law_167 ?_
            refine lv_aload_n hx hb dL_law_168 rfl (lv_at hl 0 rfl) ?_
            refine lv_iload_n hx hb dL_law_169 rfl (lv_at hl 3 rfl) ?_
            refine lv_iconst (v := nI 3) hx hb dL_law_170 (by decide) ?_
            refine wp_add hx hb dL_law_171 ?_
            refine gl_sld hx hb hX hbl hbA hS (by omega) (by omega) dL_law_172 ?_
            refine lv_aload_n hx hb dL_law_173 rfl (lv_at hl 0 rfl) ?_
            refine lv_iload_n hx hb dL_law_174 rfl (lv_at hl 3 rfl) ?_
            refine lv_iconst (v := nI 4) hx hb dL_law_175 (by decide) ?_
            refine wp_add hx hb dL_law_176 ?_
            refine gl_sld hx hb hX hbl hbA hS (by omega) (by omega) dL_law_177 ?_
            refine lv_if_eq (tgt := 185) hx hb dL_law_178 (by decide) (fun h2 => ?_) (fun h2 => ?_)
            · refine lv_iconst (v := nI 0) hx hb dL_law_185 (by decide) ?_
              refine W.eq (g2 := F0 m 186 ls [.int (nI false.toNat), .int (xs (i + 3)), .int (xs (i + 2)), .int (xs (i + 1)), .ref (am 0), .int r1]) rfl ?_
              refine gl_call S [.int (xs (i + 1)), .int (xs (i + 2)), .int (xs (i + 3)), .int (nI false.toNat)] [.int r1] (mm_step l D am dm mc ms nw af (xs (i + 1)) (xs (i + 2)) (xs (i + 3)) false) (cwV 4 S.2.2.2.2 (lw_V q190 q191 q192 q21 q193) rfl rfl rfl (by decide +kernel) ⟨Nat.le_of_ble_eq_true rfl, Nat.le_of_ble_eq_true rfl⟩) rfl rfl hKM hPM hDM hPX (fun i j x y h1 h2 e => hap j i y x h2 h1 e.symm) hS hA rfl rfl hl.1 (Nat.le_of_ble_eq_true rfl) dL_law_186 ⟨Nat.le_of_ble_eq_true rfl, Nat.le_of_ble_eq_true rfl⟩ (fun r2 z1 H locs hw2 hPM hDM hPX hap0 hS => ?_)
              have hap := fun i j x y h1 h2 e => hap0 j i y x h2 h1 (Eq.symm e)
              refine lv_icmp_eq (tgt := 391) hx hb dL_law_189 (by decide) (fun _ => ?_) (fun hne => absurd (hw1.2.trans hw2.2.symm) hne)
              exact tail v1 z1 (⟨co, _, mc, _, nw, af, hw1.1, hw2.1, sp_Rel_step hRel hXI.2.1 _ _ _ _⟩) H locs hPX hDX hPM hDM hap hS ls hl
            · exact absurd hz h2
          · exact absurd hz h1
        · refine lv_aload_n hx hb dL_law_125 rfl (lv_at hl 1 rfl) ?_
          refine lv_aload_n hx hb dL_law_126 rfl (lv_at hl 0 rfl) ?_
          refine lv_iload_n hx hb dL_law_127 rfl (lv_at hl 3 rfl) ?_
          refine lv_iconst (v := nI 1) hx hb dL_law_128 (by decide) ?_
          refine wp_add hx hb dL_law_129 ?_
          refine gl_sld hx hb hX hbl hbA hS (by omega) (by omega) dL_law_130 ?_
          refine lv_aload_n hx hb dL_law_131 rfl (lv_at hl 0 rfl) ?_
          refine lv_iload_n hx hb dL_law_132 rfl (lv_at hl 3 rfl) ?_
          refine lv_iconst (v := nI 2) hx hb dL_law_133 (by decide) ?_
          refine wp_add hx hb dL_law_134 ?_
          refine gl_sld hx hb hX hbl hbA hS (by omega) (by omega) dL_law_135 ?_
          refine lv_aload_n hx hb dL_law_136 rfl (lv_at hl 0 rfl) ?_
          refine lv_iload_n hx hb dL_law_137 rfl (lv_at hl 3 rfl) ?_
          refine lv_iconst (v := nI 3) hx hb dL_law_138 (by decide) ?_
          refine wp_add hx hb dL_law_139 ?_
          refine gl_sld hx hb hX hbl hbA hS (by omega) (by omega) dL_law_140 ?_
          refine lv_aload_n hx hb dL_law_141 rfl (lv_at hl 0 rfl) ?_
          refine lv_iload_n hx hb dL_law_142 rfl (lv_at hl 3 rfl) ?_
          refine lv_iconst (v := nI 4) hx hb dL_law_143 (by decide) ?_
          refine wp_add hx hb dL_law_144 ?_
          refine gl_sld hx hb hX hbl hbA hS (by omega) (by omega) dL_law_145 ?_
          refine lv_if_eq (tgt := 153) hx hb dL_law_146 (by decide) (fun h1 => ?_) (fun h1 => ?_)
          · exact absurd h1 hz
          · refine lv_iconst (v := nI 1) hx hb dL_law_149 (by decide) ?_
            refine W.eq (g2 := F0 m 150 ls [.int (nI true.toNat), .int (xs (i + 3)), .int (xs (i + 2)), .int (xs (i + 1)), .ref (ad 0)]) rfl ?_
            refine lv_goto (tgt := 154) hx hb dL_law_150 (by decide) ?_
            refine gl_call S [.int (xs (i + 1)), .int (xs (i + 2)), .int (xs (i + 3)), .int (nI true.toNat)] [] (mx_step l D ad dd co st sd bc bl wc wa le tk rc ca (xs (i + 1)) (xs (i + 2)) (xs (i + 3)) true hXI) (cwV 4 S.2.2.2.2 (lw_V q78 q79 q80 q20 q81) rfl rfl rfl (by decide +kernel) ⟨Nat.le_of_ble_eq_true rfl, Nat.le_of_ble_eq_true rfl⟩) rfl rfl hKX hPX hDX hPM hap hS hA rfl rfl hl.1 (Nat.le_of_ble_eq_true rfl) dL_law_154 ⟨Nat.le_of_ble_eq_true rfl, Nat.le_of_ble_eq_true rfl⟩ (fun r1 v1 H locs hw1 hPX hDX hPM hap hS => ?_)
            refine lv_aload_n hx hb dL_law_157 rfl (lv_at hl 2 rfl) ?_
            refine lv_aload_n hx hb dL_law_158 rfl (lv_at hl 0 rfl) ?_
            refine lv_iload_n hx hb dL_law_159 rfl (lv_at hl 3 rfl) ?_
            refine lv_iconst (v := nI 1) hx hb dL_law_160 (by decide) ?_
            refine wp_add hx hb dL_law_161 ?_
            refine gl_sld hx hb hX hbl hbA hS (by omega) (by omega) dL_law_162 ?_
            refine lv_aload_n hx hb dL_law_163 rfl (lv_at hl 0 rfl) ?_
            refine lv_iload_n hx hb dL_law_164 rfl (lv_at hl 3 rfl) ?_
            refine lv_iconst (v := nI 2) hx hb dL_law_165 (by decide) ?_
            refine wp_add hx hb dL_law_166 ?_
            refine gl_sld hx hb hX hbl hbA hS (by omega) (by omega) dL_law_167 ?_
            refine lv_aload_n hx hb dL_law_168 rfl (lv_at hl 0 rfl) ?_
            refine lv_iload_n hx hb dL_law_169 rfl (lv_at hl 3 rfl) ?_
            refine lv_iconst (v := nI 3) hx hb dL_law_170 (by decide) ?_
            refine wp_add hx hb dL_law_171 ?_
            refine gl_sld hx hb hX hbl hbA hS (by omega) (by omega) dL_law_172 ?_
            refine lv_aload_n hx hb dL_law_173 rfl (lv_at hl 0 rfl) ?_
            refine lv_iload_n hx hb dL_law_174 rfl (lv_at hl 3 rfl) ?_
            refine lv_iconst (v := nI 4) hx hb dL_law_175 (by decide) ?_
            refine wp_add hx hb dL_law_176 ?_
            refine gl_sld hx hb hX hbl hbA hS (by omega) (by omega) dL_law_177 ?_
            refine lv_if_eq (tgt := 185) hx hb dL_law_178 (by decide) (fun h2 => ?_) (fun h2 => ?_)
            · exact absurd h2 hz
            · refine lv_iconst (v := nI 1) hx hb dL_law_181 (by decide) ?_
              refine W.eq (g2 := F0 m 182 ls [.int (nI true.toNat), .int (xs (i + 3)), .int (xs (i + 2)), .int (xs (i + 1)), .ref (am 0), .int r1]) rfl ?_
              refine lv_goto (tgt := 186) hx hb dL_law_182 (by decide) ?_
              refine gl_call S [.int (xs (i + 1)), .int (xs (i + 2)), .int (xs (i + 3)), .int (nI true.toNat)] [.int r1] (mm_step l D am dm mc ms nw af (xs (i + 1)) (xs (i + 2)) (xs (i + 3)) true) (cwV 4 S.2.2.2.2 (lw_V q190 q191 q192 q21 q193) rfl rfl rfl (by decide +kernel) ⟨Nat.le_of_ble_eq_true rfl, Nat.le_of_ble_eq_true rfl⟩) rfl rfl hKM hPM hDM hPX (fun i j x y h1 h2 e => hap j i y x h2 h1 e.symm) hS hA rfl rfl hl.1 (Nat.le_of_ble_eq_true rfl) dL_law_186 ⟨Nat.le_of_ble_eq_true rfl, Nat.le_of_ble_eq_true rfl⟩ (fun r2 z1 H locs hw2 hPM hDM hPX hap0 hS => ?_)
              have hap := fun i j x y h1 h2 e => hap0 j i y x h2 h1 (Eq.symm e)
              refine lv_icmp_eq (tgt := 391) hx hb dL_law_189 (by decide) (fun _ => ?_) (fun hne => absurd (hw1.2.trans hw2.2.symm) hne)
              exact tail v1 z1 (⟨co, _, mc, _, nw, af, hw1.1, hw2.1, sp_Rel_step hRel hXI.2.1 _ _ _ _⟩) H locs hPX hDX hPM hDM hap hS ls hl
      · refine lv_tableIn (tgt := 194) hx hb dL_law_32 (by decide) (by decide) rfl (by decide) ?_
        refine lv_aload_n hx hb dL_law_194 rfl (lv_at hl 1 rfl) ?_
        refine lv_aload_n hx hb dL_law_195 rfl (lv_at hl 0 rfl) ?_
        refine lv_iload_n hx hb dL_law_196 rfl (lv_at hl 3 rfl) ?_
        refine lv_iconst (v := nI 1) hx hb dL_law_197 (by decide) ?_
        refine wp_add hx hb dL_law_198 ?_
        refine gl_sld hx hb hX hbl hbA hS (by omega) (by omega) dL_law_199 ?_
        refine lv_aload_n hx hb dL_law_200 rfl (lv_at hl 0 rfl) ?_
        refine lv_iload_n hx hb dL_law_201 rfl (lv_at hl 3 rfl) ?_
        refine lv_iconst (v := nI 2) hx hb dL_law_202 (by decide) ?_
        refine wp_add hx hb dL_law_203 ?_
        refine gl_sld hx hb hX hbl hbA hS (by omega) (by omega) dL_law_204 ?_
        refine gl_call S [.int (xs (i + 1)), .int (xs (i + 2))] [] (mx_alike l D ad dd co st sd bc bl wc wa le tk rc ca (xs (i + 1)) (xs (i + 2)) hXI) (cwV 2 S.2.2.2.2 (lw_V q82 q83 q84 q20 q85) rfl rfl rfl (by decide +kernel) ⟨Nat.le_of_ble_eq_true rfl, Nat.le_of_ble_eq_true rfl⟩) rfl rfl hKX hPX hDX hPM hap hS hA rfl rfl hl.1 (Nat.le_of_ble_eq_true rfl) dL_law_205 ⟨Nat.le_of_ble_eq_true rfl, Nat.le_of_ble_eq_true rfl⟩ (fun r1 v1 H locs hw1 hPX hDX hPM hap hS => ?_)
        refine lv_aload_n hx hb dL_law_208 rfl (lv_at hl 2 rfl) ?_
        refine lv_aload_n hx hb dL_law_209 rfl (lv_at hl 0 rfl) ?_
        refine lv_iload_n hx hb dL_law_210 rfl (lv_at hl 3 rfl) ?_
        refine lv_iconst (v := nI 1) hx hb dL_law_211 (by decide) ?_
        refine wp_add hx hb dL_law_212 ?_
        refine gl_sld hx hb hX hbl hbA hS (by omega) (by omega) dL_law_213 ?_
        refine lv_aload_n hx hb dL_law_214 rfl (lv_at hl 0 rfl) ?_
        refine lv_iload_n hx hb dL_law_215 rfl (lv_at hl 3 rfl) ?_
        refine lv_iconst (v := nI 2) hx hb dL_law_216 (by decide) ?_
        refine wp_add hx hb dL_law_217 ?_
        refine gl_sld hx hb hX hbl hbA hS (by omega) (by omega) dL_law_218 ?_
        refine gl_call S [.int (xs (i + 1)), .int (xs (i + 2))] [.int r1] (mm_alike l D am dm mc ms nw af co st (xs (i + 1)) (xs (i + 2)) hRel hc4) (cwV 2 S.2.2.2.2 (lw_V q194 q195 q196 q21 q197) rfl rfl rfl (by decide +kernel) ⟨Nat.le_of_ble_eq_true rfl, Nat.le_of_ble_eq_true rfl⟩) rfl rfl hKM hPM hDM hPX (fun i j x y h1 h2 e => hap j i y x h2 h1 e.symm) hS hA rfl rfl hl.1 (Nat.le_of_ble_eq_true rfl) dL_law_219 ⟨Nat.le_of_ble_eq_true rfl, Nat.le_of_ble_eq_true rfl⟩ (fun r2 z1 H locs hw2 hPM hDM hPX hap0 hS => ?_)
        have hap := fun i j x y h1 h2 e => hap0 j i y x h2 h1 (Eq.symm e)
        obtain ⟨nw1, af1, e1, e2⟩ := hw2
        refine lv_icmp_eq (tgt := 391) hx hb dL_law_222 (by decide) (fun _ => ?_) (fun hne => absurd (hw1.2.trans e2.symm) hne)
        exact tail v1 z1 (⟨co, st, mc, ms, nw1, af1, hw1.1, e1, hRel⟩) H locs hPX hDX hPM hDM hap hS ls hl
      · refine lv_tableIn (tgt := 227) hx hb dL_law_32 (by decide) (by decide) rfl (by decide) ?_
        refine lv_aload_n hx hb dL_law_227 rfl (lv_at hl 1 rfl) ?_
        refine gl_call S [] [] (mx_classes l D ad dd co st sd bc bl wc wa le tk rc ca hXI) (cwV 0 S.2.2.2.2 (lw_V q106 q107 q108 q20 q109) rfl rfl rfl (by decide +kernel) ⟨Nat.le_of_ble_eq_true rfl, Nat.le_of_ble_eq_true rfl⟩) rfl rfl hKX hPX hDX hPM hap hS hA rfl rfl hl.1 (Nat.le_of_ble_eq_true rfl) dL_law_228 ⟨Nat.le_of_ble_eq_true rfl, Nat.le_of_ble_eq_true rfl⟩ (fun r1 v1 H locs hw1 hPX hDX hPM hap hS => ?_)
        refine lv_aload_n hx hb dL_law_231 rfl (lv_at hl 2 rfl) ?_
        refine gl_call S [] [.int r1] (mm_classes l D am dm mc ms nw af co st hRel hc4) (cwV 0 S.2.2.2.2 (lw_V q214 q215 q216 q21 q217) rfl rfl rfl (by decide +kernel) ⟨Nat.le_of_ble_eq_true rfl, Nat.le_of_ble_eq_true rfl⟩) rfl rfl hKM hPM hDM hPX (fun i j x y h1 h2 e => hap j i y x h2 h1 e.symm) hS hA rfl rfl hl.1 (Nat.le_of_ble_eq_true rfl) dL_law_232 ⟨Nat.le_of_ble_eq_true rfl, Nat.le_of_ble_eq_true rfl⟩ (fun r2 z1 H locs hw2 hPM hDM hPX hap0 hS => ?_)
        have hap := fun i j x y h1 h2 e => hap0 j i y x h2 h1 (Eq.symm e)
        obtain ⟨nw1, af1, e1, e2⟩ := hw2
        refine lv_icmp_eq (tgt := 391) hx hb dL_law_235 (by decide) (fun _ => ?_) (fun hne => absurd (hw1.2.trans e2.symm) hne)
        exact tail v1 z1 (⟨co, st, mc, ms, nw1, af1, hw1.1, e1, hRel⟩) H locs hPX hDX hPM hDM hap hS ls hl
      · refine lv_tableIn (tgt := 240) hx hb dL_law_32 (by decide) (by decide) rfl (by decide) ?_
        refine lv_aload_n hx hb dL_law_240 rfl (lv_at hl 1 rfl) ?_
        refine lv_aload_n hx hb dL_law_241 rfl (lv_at hl 0 rfl) ?_
        refine lv_iload_n hx hb dL_law_242 rfl (lv_at hl 3 rfl) ?_
        refine lv_iconst (v := nI 1) hx hb dL_law_243 (by decide) ?_
        refine wp_add hx hb dL_law_244 ?_
        refine gl_sld hx hb hX hbl hbA hS (by omega) (by omega) dL_law_245 ?_
        refine gl_call S [.int (xs (i + 1))] [] (mx_leader l D ad dd co st sd bc bl wc wa le tk rc ca (xs (i + 1)) hXI) (cwV 1 S.2.2.2.2 (lw_V q110 q111 q112 q20 q113) rfl rfl rfl (by decide +kernel) ⟨Nat.le_of_ble_eq_true rfl, Nat.le_of_ble_eq_true rfl⟩) rfl rfl hKX hPX hDX hPM hap hS hA rfl rfl hl.1 (Nat.le_of_ble_eq_true rfl) dL_law_246 ⟨Nat.le_of_ble_eq_true rfl, Nat.le_of_ble_eq_true rfl⟩ (fun r1 v1 H locs hw1 hPX hDX hPM hap hS => ?_)
        refine lv_aload_n hx hb dL_law_249 rfl (lv_at hl 2 rfl) ?_
        refine lv_aload_n hx hb dL_law_250 rfl (lv_at hl 0 rfl) ?_
        refine lv_iload_n hx hb dL_law_251 rfl (lv_at hl 3 rfl) ?_
        refine lv_iconst (v := nI 1) hx hb dL_law_252 (by decide) ?_
        refine wp_add hx hb dL_law_253 ?_
        refine gl_sld hx hb hX hbl hbA hS (by omega) (by omega) dL_law_254 ?_
        refine gl_call S [.int (xs (i + 1))] [.int r1] (mm_leader l D am dm mc ms nw af co st (xs (i + 1)) hRel hc4) (cwV 1 S.2.2.2.2 (lw_V q226 q219 q220 q21 q221) rfl rfl rfl (by decide +kernel) ⟨Nat.le_of_ble_eq_true rfl, Nat.le_of_ble_eq_true rfl⟩) rfl rfl hKM hPM hDM hPX (fun i j x y h1 h2 e => hap j i y x h2 h1 e.symm) hS hA rfl rfl hl.1 (Nat.le_of_ble_eq_true rfl) dL_law_255 ⟨Nat.le_of_ble_eq_true rfl, Nat.le_of_ble_eq_true rfl⟩ (fun r2 z1 H locs hw2 hPM hDM hPX hap0 hS => ?_)
        have hap := fun i j x y h1 h2 e => hap0 j i y x h2 h1 (Eq.symm e)
        obtain ⟨nw1, af1, e1, e2⟩ := hw2
        refine lv_icmp_eq (tgt := 391) hx hb dL_law_258 (by decide) (fun _ => ?_) (fun hne => absurd (hw1.2.trans e2.symm) hne)
        exact tail v1 z1 (⟨co, st, mc, ms, nw1, af1, hw1.1, e1, hRel⟩) H locs hPX hDX hPM hDM hap hS ls hl
      · refine lv_tableIn (tgt := 263) hx hb dL_law_32 (by decide) (by decide) rfl (by decide) ?_
        refine lv_aload_n hx hb dL_law_263 rfl (lv_at hl 1 rfl) ?_
        refine lv_aload_n hx hb dL_law_264 rfl (lv_at hl 0 rfl) ?_
        refine lv_iload_n hx hb dL_law_265 rfl (lv_at hl 3 rfl) ?_
        refine lv_iconst (v := nI 1) hx hb dL_law_266 (by decide) ?_
        refine wp_add hx hb dL_law_267 ?_
        refine gl_sld hx hb hX hbl hbA hS (by omega) (by omega) dL_law_268 ?_
        refine gl_call S [.int (xs (i + 1))] [] (mx_members l D ad dd co st sd bc bl wc wa le tk rc ca (xs (i + 1)) hXI) (cwV 1 S.2.2.2.2 (lw_V q114 q115 q116 q20 q117) rfl rfl rfl (by decide +kernel) ⟨Nat.le_of_ble_eq_true rfl, Nat.le_of_ble_eq_true rfl⟩) rfl rfl hKX hPX hDX hPM hap hS hA rfl rfl hl.1 (Nat.le_of_ble_eq_true rfl) dL_law_269 ⟨Nat.le_of_ble_eq_true rfl, Nat.le_of_ble_eq_true rfl⟩ (fun r1 v1 H locs hw1 hPX hDX hPM hap hS => ?_)
        refine lv_aload_n hx hb dL_law_272 rfl (lv_at hl 2 rfl) ?_
        refine lv_aload_n hx hb dL_law_273 rfl (lv_at hl 0 rfl) ?_
        refine lv_iload_n hx hb dL_law_274 rfl (lv_at hl 3 rfl) ?_
        refine lv_iconst (v := nI 1) hx hb dL_law_275 (by decide) ?_
        refine wp_add hx hb dL_law_276 ?_
        refine gl_sld hx hb hX hbl hbA hS (by omega) (by omega) dL_law_277 ?_
        refine gl_call S [.int (xs (i + 1))] [.int r1] (mm_members l D am dm mc ms nw af co st (xs (i + 1)) hRel hc4) (cwV 1 S.2.2.2.2 (lw_V q227 q228 q229 q21 q230) rfl rfl rfl (by decide +kernel) ⟨Nat.le_of_ble_eq_true rfl, Nat.le_of_ble_eq_true rfl⟩) rfl rfl hKM hPM hDM hPX (fun i j x y h1 h2 e => hap j i y x h2 h1 e.symm) hS hA rfl rfl hl.1 (Nat.le_of_ble_eq_true rfl) dL_law_278 ⟨Nat.le_of_ble_eq_true rfl, Nat.le_of_ble_eq_true rfl⟩ (fun r2 z1 H locs hw2 hPM hDM hPX hap0 hS => ?_)
        have hap := fun i j x y h1 h2 e => hap0 j i y x h2 h1 (Eq.symm e)
        obtain ⟨nw1, af1, e1, e2⟩ := hw2
        refine lv_icmp_eq (tgt := 391) hx hb dL_law_281 (by decide) (fun _ => ?_) (fun hne => absurd (hw1.2.trans e2.symm) hne)
        exact tail v1 z1 (⟨co, st, mc, ms, nw1, af1, hw1.1, e1, hRel⟩) H locs hPX hDX hPM hDM hap hS ls hl
      · refine lv_tableIn (tgt := 286) hx hb dL_law_32 (by decide) (by decide) rfl (by decide) ?_
        refine lv_aload_n hx hb dL_law_286 rfl (lv_at hl 1 rfl) ?_
        refine lv_aload_n hx hb dL_law_287 rfl (lv_at hl 0 rfl) ?_
        refine lv_iload_n hx hb dL_law_288 rfl (lv_at hl 3 rfl) ?_
        refine lv_iconst (v := nI 1) hx hb dL_law_289 (by decide) ?_
        refine wp_add hx hb dL_law_290 ?_
        refine gl_sld hx hb hX hbl hbA hS (by omega) (by omega) dL_law_291 ?_
        refine lv_aload_n hx hb dL_law_292 rfl (lv_at hl 0 rfl) ?_
        refine lv_iload_n hx hb dL_law_293 rfl (lv_at hl 3 rfl) ?_
        refine lv_iconst (v := nI 2) hx hb dL_law_294 (by decide) ?_
        refine wp_add hx hb dL_law_295 ?_
        refine gl_sld hx hb hX hbl hbA hS (by omega) (by omega) dL_law_296 ?_
        refine gl_call S [.int (xs (i + 1)), .int (xs (i + 2))] [] (mx_told l D ad dd co st sd bc bl wc wa le tk rc ca (xs (i + 1)) (xs (i + 2)) hXI) (cwV 2 S.2.2.2.2 (lw_V q118 q119 q120 q20 q121) rfl rfl rfl (by decide +kernel) ⟨Nat.le_of_ble_eq_true rfl, Nat.le_of_ble_eq_true rfl⟩) rfl rfl hKX hPX hDX hPM hap hS hA rfl rfl hl.1 (Nat.le_of_ble_eq_true rfl) dL_law_297 ⟨Nat.le_of_ble_eq_true rfl, Nat.le_of_ble_eq_true rfl⟩ (fun r1 v1 H locs hw1 hPX hDX hPM hap hS => ?_)
        refine lv_aload_n hx hb dL_law_300 rfl (lv_at hl 2 rfl) ?_
        refine lv_aload_n hx hb dL_law_301 rfl (lv_at hl 0 rfl) ?_
        refine lv_iload_n hx hb dL_law_302 rfl (lv_at hl 3 rfl) ?_
        refine lv_iconst (v := nI 1) hx hb dL_law_303 (by decide) ?_
        refine wp_add hx hb dL_law_304 ?_
        refine gl_sld hx hb hX hbl hbA hS (by omega) (by omega) dL_law_305 ?_
        refine lv_aload_n hx hb dL_law_306 rfl (lv_at hl 0 rfl) ?_
        refine lv_iload_n hx hb dL_law_307 rfl (lv_at hl 3 rfl) ?_
        refine lv_iconst (v := nI 2) hx hb dL_law_308 (by decide) ?_
        refine wp_add hx hb dL_law_309 ?_
        refine gl_sld hx hb hX hbl hbA hS (by omega) (by omega) dL_law_310 ?_
        refine gl_call S [.int (xs (i + 1)), .int (xs (i + 2))] [.int r1] (mm_told l D am dm mc ms nw af co st (xs (i + 1)) (xs (i + 2)) hRel hc4) (cwV 2 S.2.2.2.2 (lw_V q231 q232 q233 q21 q234) rfl rfl rfl (by decide +kernel) ⟨Nat.le_of_ble_eq_true rfl, Nat.le_of_ble_eq_true rfl⟩) rfl rfl hKM hPM hDM hPX (fun i j x y h1 h2 e => hap j i y x h2 h1 e.symm) hS hA rfl rfl hl.1 (Nat.le_of_ble_eq_true rfl) dL_law_311 ⟨Nat.le_of_ble_eq_true rfl, Nat.le_of_ble_eq_true rfl⟩ (fun r2 z1 H locs hw2 hPM hDM hPX hap0 hS => ?_)
        have hap := fun i j x y h1 h2 e => hap0 j i y x h2 h1 (Eq.symm e)
        obtain ⟨nw1, af1, e1, e2⟩ := hw2
        refine lv_icmp_eq (tgt := 391) hx hb dL_law_314 (by decide) (fun _ => ?_) (fun hne => absurd (hw1.2.trans e2.symm) hne)
        exact tail v1 z1 (⟨co, st, mc, ms, nw1, af1, hw1.1, e1, hRel⟩) H locs hPX hDX hPM hDM hap hS ls hl
      · refine lv_tableIn (tgt := 319) hx hb dL_law_32 (by decide) (by decide) rfl (by decide) ?_
        refine lv_aload_n hx hb dL_law_319 rfl (lv_at hl 1 rfl) ?_
        refine lv_aload_n hx hb dL_law_320 rfl (lv_at hl 0 rfl) ?_
        refine lv_iload_n hx hb dL_law_321 rfl (lv_at hl 3 rfl) ?_
        refine lv_iconst (v := nI 1) hx hb dL_law_322 (by decide) ?_
        refine wp_add hx hb dL_law_323 ?_
        refine gl_sld hx hb hX hbl hbA hS (by omega) (by omega) dL_law_324 ?_
        refine lv_aload_n hx hb dL_law_325 rfl (lv_at hl 0 rfl) ?_
        refine lv_iload_n hx hb dL_law_326 rfl (lv_at hl 3 rfl) ?_
        refine lv_iconst (v := nI 2) hx hb dL_law_327 (by decide) ?_
        refine wp_add hx hb dL_law_328 ?_
        refine gl_sld hx hb hX hbl hbA hS (by omega) (by omega) dL_law_329 ?_
        refine gl_call S [.int (xs (i + 1)), .int (xs (i + 2))] [] (mx_leads l D ad dd co st sd bc bl wc wa le tk rc ca (xs (i + 1)) (xs (i + 2)) hXI) (cwV 2 S.2.2.2.2 (lw_V q138 q139 q140 q20 q141) rfl rfl rfl (by decide +kernel) ⟨Nat.le_of_ble_eq_true rfl, Nat.le_of_ble_eq_true rfl⟩) rfl rfl hKX hPX hDX hPM hap hS hA rfl rfl hl.1 (Nat.le_of_ble_eq_true rfl) dL_law_330 ⟨Nat.le_of_ble_eq_true rfl, Nat.le_of_ble_eq_true rfl⟩ (fun r1 v1 H locs hw1 hPX hDX hPM hap hS => ?_)
        refine lv_aload_n hx hb dL_law_333 rfl (lv_at hl 2 rfl) ?_
        refine lv_aload_n hx hb dL_law_334 rfl (lv_at hl 0 rfl) ?_
        refine lv_iload_n hx hb dL_law_335 rfl (lv_at hl 3 rfl) ?_
        refine lv_iconst (v := nI 1) hx hb dL_law_336 (by decide) ?_
        refine wp_add hx hb dL_law_337 ?_
        refine gl_sld hx hb hX hbl hbA hS (by omega) (by omega) dL_law_338 ?_
        refine lv_aload_n hx hb dL_law_339 rfl (lv_at hl 0 rfl) ?_
        refine lv_iload_n hx hb dL_law_340 rfl (lv_at hl 3 rfl) ?_
        refine lv_iconst (v := nI 2) hx hb dL_law_341 (by decide) ?_
        refine wp_add hx hb dL_law_342 ?_
        refine gl_sld hx hb hX hbl hbA hS (by omega) (by omega) dL_law_343 ?_
        refine gl_call S [.int (xs (i + 1)), .int (xs (i + 2))] [.int r1] (mm_leads l D am dm mc ms nw af co st (xs (i + 1)) (xs (i + 2)) hRel hc4) (cwV 2 S.2.2.2.2 (lw_V q235 q236 q237 q21 q238) rfl rfl rfl (by decide +kernel) ⟨Nat.le_of_ble_eq_true rfl, Nat.le_of_ble_eq_true rfl⟩) rfl rfl hKM hPM hDM hPX (fun i j x y h1 h2 e => hap j i y x h2 h1 e.symm) hS hA rfl rfl hl.1 (Nat.le_of_ble_eq_true rfl) dL_law_344 ⟨Nat.le_of_ble_eq_true rfl, Nat.le_of_ble_eq_true rfl⟩ (fun r2 z1 H locs hw2 hPM hDM hPX hap0 hS => ?_)
        have hap := fun i j x y h1 h2 e => hap0 j i y x h2 h1 (Eq.symm e)
        obtain ⟨nw1, af1, e1, e2⟩ := hw2
        refine lv_icmp_eq (tgt := 391) hx hb dL_law_347 (by decide) (fun _ => ?_) (fun hne => absurd (hw1.2.trans e2.symm) hne)
        exact tail v1 z1 (⟨co, st, mc, ms, nw1, af1, hw1.1, e1, hRel⟩) H locs hPX hDX hPM hDM hap hS ls hl
      · refine lv_tableIn (tgt := 352) hx hb dL_law_32 (by decide) (by decide) rfl (by decide) ?_
        refine lv_aload_n hx hb dL_law_352 rfl (lv_at hl 1 rfl) ?_
        refine gl_call S [] [] (mx_colours l D ad dd co st sd bc bl wc wa le tk rc ca hXI) (cwV 0 S.2.2.2.2 (lw_V q146 q147 q148 q20 q149) rfl rfl rfl (by decide +kernel) ⟨Nat.le_of_ble_eq_true rfl, Nat.le_of_ble_eq_true rfl⟩) rfl rfl hKX hPX hDX hPM hap hS hA rfl rfl hl.1 (Nat.le_of_ble_eq_true rfl) dL_law_353 ⟨Nat.le_of_ble_eq_true rfl, Nat.le_of_ble_eq_true rfl⟩ (fun r1 v1 H locs hw1 hPX hDX hPM hap hS => ?_)
        refine lv_aload_n hx hb dL_law_356 rfl (lv_at hl 2 rfl) ?_
        refine gl_call S [] [.int r1] (mm_colours l D am dm mc ms nw af co st hRel hc4) (cwV 0 S.2.2.2.2 (lw_V q239 q240 q241 q21 q242) rfl rfl rfl (by decide +kernel) ⟨Nat.le_of_ble_eq_true rfl, Nat.le_of_ble_eq_true rfl⟩) rfl rfl hKM hPM hDM hPX (fun i j x y h1 h2 e => hap j i y x h2 h1 e.symm) hS hA rfl rfl hl.1 (Nat.le_of_ble_eq_true rfl) dL_law_357 ⟨Nat.le_of_ble_eq_true rfl, Nat.le_of_ble_eq_true rfl⟩ (fun r2 z1 H locs hw2 hPM hDM hPX hap0 hS => ?_)
        have hap := fun i j x y h1 h2 e => hap0 j i y x h2 h1 (Eq.symm e)
        refine lv_icmp_eq (tgt := 391) hx hb dL_law_360 (by decide) (fun _ => ?_) (fun hne => absurd (hw1.2.trans hw2.2.symm) hne)
        exact tail v1 z1 (⟨co, st, mc, ms, nw, af, hw1.1, hw2.1, hRel⟩) H locs hPX hDX hPM hDM hap hS ls hl
      · refine lv_tableIn (tgt := 365) hx hb dL_law_32 (by decide) (by decide) rfl (by decide) ?_
        refine lv_aload_n hx hb dL_law_365 rfl (lv_at hl 1 rfl) ?_
        refine gl_call S [] [] (mx_reduce l D ad dd co st sd bc bl wc wa le tk rc ca hXI) (cwV 0 S.2.2.2.2 (lw_V q154 q155 q156 q20 q157) rfl rfl rfl (by decide +kernel) ⟨Nat.le_of_ble_eq_true rfl, Nat.le_of_ble_eq_true rfl⟩) rfl rfl hKX hPX hDX hPM hap hS hA rfl rfl hl.1 (Nat.le_of_ble_eq_true rfl) dL_law_366 ⟨Nat.le_of_ble_eq_true rfl, Nat.le_of_ble_eq_true rfl⟩ (fun r1 v1 H locs hw1 hPX hDX hPM hap hS => ?_)
        refine lv_aload_n hx hb dL_law_369 rfl (lv_at hl 2 rfl) ?_
        refine gl_call S [] [.int r1] (mm_reduce l D am dm mc ms nw af co st hRel hc4) (cwV 0 S.2.2.2.2 (lw_V q243 q244 q245 q21 q246) rfl rfl rfl (by decide +kernel) ⟨Nat.le_of_ble_eq_true rfl, Nat.le_of_ble_eq_true rfl⟩) rfl rfl hKM hPM hDM hPX (fun i j x y h1 h2 e => hap j i y x h2 h1 e.symm) hS hA rfl rfl hl.1 (Nat.le_of_ble_eq_true rfl) dL_law_370 ⟨Nat.le_of_ble_eq_true rfl, Nat.le_of_ble_eq_true rfl⟩ (fun r2 z1 H locs hw2 hPM hDM hPX hap0 hS => ?_)
        have hap := fun i j x y h1 h2 e => hap0 j i y x h2 h1 (Eq.symm e)
        obtain ⟨⟨st1, g1, g2⟩, g3⟩ := hw1
        obtain ⟨⟨ms1, nw1, af1, g4, g5⟩, g6⟩ := hw2
        refine lv_icmp_eq (tgt := 391) hx hb dL_law_373 (by decide) (fun _ => ?_) (fun hne => absurd (g3.trans g6.symm) hne)
        exact tail v1 z1 (⟨co, st1, mc, ms1, nw1, af1, g2, g4, sp_Rel_red hRel g1 g5⟩) H locs hPX hDX hPM hDM hap hS ls hl
      · refine lv_tableIn (tgt := 378) hx hb dL_law_32 (by decide) (by decide) rfl (by decide) ?_
        refine lv_aload_n hx hb dL_law_378 rfl (lv_at hl 1 rfl) ?_
        refine gl_call S [] [] (mx_rounds l D ad dd co st sd bc bl wc wa le tk rc ca hXI) (cwV 0 S.2.2.2.2 (lw_V q158 q159 q160 q20 q161) rfl rfl rfl (by decide +kernel) ⟨Nat.le_of_ble_eq_true rfl, Nat.le_of_ble_eq_true rfl⟩) rfl rfl hKX hPX hDX hPM hap hS hA rfl rfl hl.1 (Nat.le_of_ble_eq_true rfl) dL_law_379 ⟨Nat.le_of_ble_eq_true rfl, Nat.le_of_ble_eq_true rfl⟩ (fun r1 v1 H locs hw1 hPX hDX hPM hap hS => ?_)
        refine lv_aload_n hx hb dL_law_382 rfl (lv_at hl 2 rfl) ?_
        refine gl_call S [] [.int r1] (mm_rounds l D am dm mc ms nw af co st hRel hc4) (cwV 0 S.2.2.2.2 (lw_V q247 q248 q249 q21 q250) rfl rfl rfl (by decide +kernel) ⟨Nat.le_of_ble_eq_true rfl, Nat.le_of_ble_eq_true rfl⟩) rfl rfl hKM hPM hDM hPX (fun i j x y h1 h2 e => hap j i y x h2 h1 e.symm) hS hA rfl rfl hl.1 (Nat.le_of_ble_eq_true rfl) dL_law_383 ⟨Nat.le_of_ble_eq_true rfl, Nat.le_of_ble_eq_true rfl⟩ (fun r2 z1 H locs hw2 hPM hDM hPX hap0 hS => ?_)
        have hap := fun i j x y h1 h2 e => hap0 j i y x h2 h1 (Eq.symm e)
        obtain ⟨nw1, af1, e1, e2⟩ := hw2
        refine lv_icmp_eq (tgt := 391) hx hb dL_law_386 (by decide) (fun _ => ?_) (fun hne => absurd (hw1.2.trans e2.symm) hne)
        exact tail v1 z1 (⟨co, st, mc, ms, nw1, af1, hw1.1, e1, hRel⟩) H locs hPX hDX hPM hDM hap hS ls hl
      · refine lv_tableOut (tgt := 391) hx hb dL_law_32 (Or.inr (by rw [nI_toInt (show w < 2 ^ 31 by omega)]; omega)) (by decide) ?_
        exact tail _ _ hLI H locs hPX hDX hPM hDM hap hS ls hl
end
section
/-! THE LAW FROM ITS ENTRY, and the claim -/
set_option maxHeartbeats 8000000 in
set_option maxRecDepth 100000 in
theorem whole_start {p : Program} {e : Env} {s : State} {m : MethodId} {below : List Frame} {meth : Method} {c : Code} (l : Launch) {b L : Nat} {xs : Nat → Int32} (hL : L ≤ 320) (C0 : lw_At p s m meth c b L xs) : W p l e room_1 s m #[Value.ref b] below meth c s.heap [] 0 0 (lw_Z below #[Value.ref b] s) (entryFrame m ([Value.ref b] : List Value).toArray 4) := by
  obtain ⟨hx, hb, hr, hml, hown, hts0, hX, hbl, hlocks, hgv⟩ := id C0
  have hts : ∀ w ∈ lw_all, w.before #[Value.ref b] s = true := fun w h => hts0 w (lw_all_tbl h)
  have hA : ∀ q : Nat, s.heap.size ≤ q → (fun q : Nat => s.heap.size ≤ q) q := fun _ h => h
  obtain ⟨c0, iS0, hKn0⟩ := u_known (C := RX0) (T := TX0) (N := 11) (n := 11) hts0 (fun w h => lw_all_tbl (in_X0 w h)) (hts _ q23)
  obtain ⟨c1, iS1, hKn1⟩ := u_known (C := RX1) (T := TX1) (N := 4) (n := 4) hts0 (fun w h => lw_all_tbl (in_X1 w h)) (hts _ q163)
  obtain ⟨D, hKc⟩ : ∃ D : va_G, ∀ (k : Nat) (q : vw_C), vwCl[k]? = some q → u_Kn s q.1 q.2.1 q.2.2 (D.1 k) (D.2 k) := by
    refine ⟨(fun k => if k = 0 then c0 else c1, fun k => if k = 0 then iS0 else iS1), ?_⟩
    intro k q hq
    match k, hq with
    | 0, hq => cases hq; exact hKn0
    | 1, hq => cases hq; exact hKn1
    | k + 2, hq => simp [vwCl] at hq
  have hS : va_S (fun q : Nat => s.heap.size ≤ q) s.heap s.heap [] := va_S.rf
  have hK : va_K D vwCl [] s := ⟨hKc, fun k q h => by simp at h⟩
  have hP : va_P D vwCl [] s.heap := fun k q h => by simp at h
  have hD : va_D (fun q : Nat => s.heap.size ≤ q) [] := ⟨fun i j p q h => by simp at h, fun k q h => by simp at h⟩
  have hl := lv_entry ([.ref b]) (n := 4) (Nat.le_of_ble_eq_true rfl)
  rw [lg_entry_eq]
  generalize (lg_sl ([.ref b]) ++ List.replicate (4 - (lg_sl ([.ref b])).length) Slot.unset).toArray = ls at hl ⊢
  have hl : lv_has ls 4 [(0, .ref b)] := hl
  refine va_new (ci := 0) (fs := [.null, .null, .int (nI 0), .int (nI 0), .null, .int (nI 0), .null, .null, .int (nI 0), .int (nI 0), .null]) (C := RX0) (T := TX0) (N := 11) hx hb hts in_X0 tyX0 tyX0_ok hown (hts _ q22) (hts _ q23) (hts _ q20) hK hP hD hS hA rfl (fun j hj => by rcases (show j = 0 ∨ j = 1 ∨ j = 2 ∨ j = 3 ∨ j = 4 ∨ j = 5 ∨ j = 6 ∨ j = 7 ∨ j = 8 ∨ j = 9 ∨ j = 10 by omega) with rfl | rfl | rfl | rfl | rfl | rfl | rfl | rfl | rfl | rfl | rfl <;> rfl) (Nat.le_of_ble_eq_true rfl) (Nat.le_of_ble_eq_true rfl) dL_law_0 (fun x0 H hP hD hS => ?_)
  have hP : va_P D vwCl (wX0 x0) H := hP
  have hD : va_D (fun q : Nat => s.heap.size ≤ q) (wX0 x0) := hD
  refine W.widen (k := 1) (n := 11) (by omega) (by omega) ?_
  refine lv_dup hx hb dL_law_3 rfl ?_
  have hFc := gw_free (s := s) hA hD hS
  refine va_callv (va_runI (As := []) (rest := [.ref x0]) ⟨hx, hb, hml, hown, hts⟩ (mx_init l D x0 H.size) (cwI 0 hts (lw_meth q26) rfl rfl rfl (hts _ q20) (hts _ q24) (hts _ q25) rfl (by decide +kernel) ⟨Nat.le_of_ble_eq_true rfl, Nat.le_of_ble_eq_true rfl⟩) ⟨fun a U g mk q => by obtain ⟨q0, q1, qP, qK, qD⟩ := q; exact ⟨q0, q1, qP, va_K.moved (u := U) (U := U.calling g mk a) (Vm.Alike.refl U.vm) qK, qD⟩, fun U hU hW => ⟨rfl, by rw [hU], by rw [hU]; exact hP, va_K.moved hW.alike hK, hD.weaken (fun _ _ _ _ => trivial)⟩⟩ rfl rfl hl.1 rfl (lv_room (Nat.le_of_ble_eq_true rfl)) dL_law_4 ⟨Nat.le_of_ble_eq_true rfl, Nat.le_of_ble_eq_true rfl⟩) hS (fun q _ h => hFc q h) hFc (fun u t H1 locs ht hvm hw hB hz1 hk1 hS => ?_)
  obtain ⟨ad, dd⟩ := u
  have had : ad 0 = x0 := hw
  obtain ⟨hP1, hK1, hD1⟩ := hB
  rw [ht] at hP1
  have hKX : va_K D vwCl (tX dd) s := va_K.moved hvm.symm hK1
  have hPX : va_P D vwCl (wXs ad dd sp_z sp_z 0 0 sp_z 0 sp_z sp_z 0 0 sp_z) H1 := hP1
  have hDX : va_D (fun q : Nat => s.heap.size ≤ q) (wXs ad dd sp_z sp_z 0 0 sp_z 0 sp_z sp_z 0 0 sp_z) := hD1.weaken (fun k q _ h => hFc q.1 h)
  subst had
  refine W.widen (k := 7) (n := 221) (by omega) (by omega) ?_
  refine lv_astore_n (lv' := [(1, .ref (ad 0)), (0, .ref b)]) hx hb dL_law_7 rfl hl (by decide) rfl (fun ls hl => ?_)
  refine va_new (ci := 1) (fs := [.null, .null, .null, .null]) (C := RX1) (T := TX1) (N := 4) hx hb hts in_X1 tyX1 tyX1_ok hown (hts _ q162) (hts _ q163) (hts _ q21) hKX hPX hDX hS hA rfl (fun j hj => by rcases (show j = 0 ∨ j = 1 ∨ j = 2 ∨ j = 3 by omega) with rfl | rfl | rfl | rfl <;> rfl) (Nat.le_of_ble_eq_true rfl) (Nat.le_of_ble_eq_true rfl) dL_law_8 (fun m0 H hP hD hS => ?_)
  refine W.widen (k := 8) (n := 225) (by omega) (by omega) ?_
  refine lv_dup hx hb dL_law_11 rfl ?_
  have hPc := hP.sub (ws' := wM0 m0) [7] rfl
  have hDc := hD.sub (ws' := wM0 m0) [7] (by decide) rfl
  have hKc2 := hKX.sub (tys' := []) [] rfl
  have hFc := gw_free (s := s) hA hDc hS
  refine va_callv (va_runI (As := []) (rest := [.ref m0]) ⟨hx, hb, hml, hown, hts⟩ (mm_init l D m0 H.size) (cwI 0 hts (lw_meth q166) rfl rfl rfl (hts _ q21) (hts _ q164) (hts _ q165) rfl (by decide +kernel) ⟨Nat.le_of_ble_eq_true rfl, Nat.le_of_ble_eq_true rfl⟩) ⟨fun a U g mk q => by obtain ⟨q0, q1, qP, qK, qD⟩ := q; exact ⟨q0, q1, qP, va_K.moved (u := U) (U := U.calling g mk a) (Vm.Alike.refl U.vm) qK, qD⟩, fun U hU hW => ⟨rfl, by rw [hU], by rw [hU]; exact hPc, va_K.moved hW.alike hKc2, hDc.weaken (fun _ _ _ _ => trivial)⟩⟩ rfl rfl hl.1 rfl (lv_room (Nat.le_of_ble_eq_true rfl)) dL_law_12 ⟨Nat.le_of_ble_eq_true rfl, Nat.le_of_ble_eq_true rfl⟩) hS (fun q _ h => hFc q h) hFc (fun u t H1 locs ht hvm hw hB hz1 hk1 hS => ?_)
  obtain ⟨am, dm⟩ := u
  have had2 : am 0 = m0 := hw
  obtain ⟨hP1, hK1, hD1⟩ := hB
  rw [ht] at hP1
  have hKM : va_K D vwCl (tM dm) s := va_K.moved hvm.symm hK1
  obtain ⟨hPj, hDj⟩ := va_join (wr := wXs ad dd sp_z sp_z 0 0 sp_z 0 sp_z sp_z 0 0 sp_z) (w1 := wMs am dm sp_z sp_zb sp_zb sp_zb) hP hD [7] [0, 1, 2, 3, 4, 5, 6] rfl rfl (by decide) (by decide) hk1 hFc hP1 hD1
  subst had2
  refine W.widen (k := 12) (n := 635) (by omega) (by omega) ?_
  refine lv_astore_n (lv' := [(2, .ref (am 0)), (1, .ref (ad 0)), (0, .ref b)]) hx hb dL_law_15 rfl hl (by decide) rfl (fun ls hl => ?_)
  refine lv_iconst (v := nI 0) hx hb dL_law_16 (by decide) ?_
  refine lv_istore_n (lv' := [(3, .int (nI 0)), (2, .ref (am 0)), (1, .ref (ad 0)), (0, .ref b)]) hx hb dL_law_17 rfl hl (by decide) rfl (fun ls hl => ?_)
  have hLI : sp_LI (sp_z, sp_z, 0, 0, sp_z, 0, sp_z, sp_z, 0, 0, sp_z) (sp_z, sp_zb, sp_zb, sp_zb) := ⟨sp_z, sp_z, sp_z, sp_zb, sp_zb, sp_zb, ⟨0, 0, sp_z, 0, sp_z, sp_z, 0, 0, sp_z, rfl, sp_XI_new (fun _ _ => (show (0 : Nat) < 4 by decide)) (fun _ _ => (show (0 : Nat) < 1024 by decide))⟩, rfl, ⟨fun _ _ => rfl, fun o s a _ _ _ => (Nat.zero_testBit a).symm⟩⟩
  exact law_loop hL C0 hKX hKM (L + 1) 0 _ _ (Nat.zero_le L) (by omega) hLI H1 locs (hPj.sub [0, 1, 2, 3, 4, 5, 6] rfl) (hDj.sub [0, 1, 2, 3, 4, 5, 6] (by decide) rfl) (hPj.sub [7, 8, 9, 10, 11] rfl) (hDj.sub [7, 8, 9, 10, 11] (by decide) rfl) (sp_apart hDj) hS ls (lv_sub hl [3, 2, 1, 0] rfl)
set_option maxHeartbeats 4000000 in
theorem lw_walk (l : Launch) (b : Addr) (xs : List Int32) : MetFree l x (headSpec (Jvm.Cond.code x code maxLocals ret :: tables_1) room_1) (lw_P b xs) (fun _ _ _ _ _ => True) lw_Q := by
  refine MetFree.of_bodyS (code := code) (maxLocals := maxLocals) (ret := ret) (by decide) ?_ ?_
  · intro args s m h hn
    obtain ⟨meth, c, h1, h2, h3, h4, h5, h6, -, -⟩ := Cond.code_spec hn (atoms_spec (ws := Jvm.Cond.code x code maxLocals ret :: tables_1) h _ List.mem_cons_self)
    exact ⟨meth, c, h1, h2, h3, h4, h5, h6⟩
  · intro p e s m args below meth c s₁ B hml0 hP _
    obtain ⟨rfl, hx, hbd, hgv⟩ := hP
    obtain ⟨scr, harrAt, hlist, hof, hsmall⟩ := hx
    obtain ⟨hcb, hkn, -, -⟩ := State.arrayAt?_spec harrAt
    have hown : s.vm.findClass R_law = some m.cls := findClass_of_methodNamed B.named
    have hts0 : ∀ c ∈ (Jvm.Cond.code x code maxLocals ret :: tables_1), c.before #[Value.ref b] s = true := atoms_spec (ws := Jvm.Cond.code x code maxLocals ret :: tables_1) B.pre
    have hts : ∀ w ∈ lw_tbl, w.before #[Value.ref b] s = true := k2_hts_sels lw_privs (fun w hw => hts0 w (List.mem_cons_of_mem _ hw)) lw_privs_ok
    have hml : c.maxLocals = 4 := B.maxLocals_eq (hts0 _ List.mem_cons_self)
    have X₀ : Stand p l e room_1 s m #[Value.ref b] below meth c s₁ [] 0 0 := Stand.of_body B
    have hh0 : s₁.heap = s.heap := by rw [B.state]; rfl
    have hsz : scr.slots.size = xs.length := by rw [← Array.length_toList, hlist, List.length_map]
    have hval : ∀ j : Nat, j < xs.length → scr.slots[j]? = some (.int (xs.getD j 0)) := fun j hj => by
      rw [← Array.getElem?_toList, hlist]
      simp [hj]
    have hbl : b < s.heap.size := (Array.getElem?_eq_some_iff.mp hcb).1
    have hX : va_X b xs.length (fun j => xs.getD j 0) s s.heap := ⟨scr, hcb, hof, hkn, hsz, hval⟩
    have K : W p l e room_1 s m #[Value.ref b] below meth c s₁.heap [] 0 0 (lw_Z below #[Value.ref b] s) (entryFrame m ([Value.ref b] : List Value).toArray 4) := by
      rw [hh0]
      exact whole_start l hbd ⟨B.exec, B.bytes, B.returns, hml, hown, hts, hX, hbl, B.notSynchronized, hgv⟩
    obtain ⟨t, a1, o, b1, b2, b3⟩ := K s₁ rfl X₀
    exact ⟨t, o, a1, b1, b2, b3⟩
theorem lw_pre_spec {args : Array Value} {s : State} (h : (Jvm.Cond.and given_1 narrow_1).before args s = true) (hr : rest_1_c.before args s = true) : ∃ (b : Addr) (xs : List Int32), lw_P b xs args s := by
  have hs := flat_of_before _ h
  have hq := flat_of_before _ hr
  have hc : (Cond.count 1).before args s = true := hs _ (by decide +kernel)
  have harr : (Cond.arrayOf (.arg 0) .int).before args s = true := hs _ (by decide +kernel)
  have hle : (Cond.le (.length (.arg 0)) (.int 320)).before args s = true := hs _ (by decide +kernel)
  have hlen : (Cond.isInt (.length (.arg 0))).before args s = true := hq _ (by decide +kernel)
  have hall : (Cond.all (.arg 0) (.isInt (.elem (.arg 0) (.index 0)))).before args s = true := hq _ (by decide +kernel)
  obtain ⟨b, xs, hb, hx⟩ := State.ints_of_pre rfl harr hlen hall
  have hsm : xs.length < 2 ^ 31 := hx.choose_spec.2.2.2
  have hev : (Term.length (.arg 0)).eval args s none [] s = some (.int xs.length.toInt32) := hx.length_eval hb
  have hv := Cond.le_ints hev (show (Term.int 320).eval args s none [] s = some (.int 320) from rfl)
  have hd : xs.length.toInt32 ≤ 320 := by
    simpa [Cond.before, Cond.holds, hv] using hle
  have hN : xs.length ≤ 320 := (Int32.ofNat_le_ofNat hsm (by decide)).mp (show Int32.ofNat xs.length ≤ Int32.ofNat 320 from hd)
  exact ⟨b, xs, Cond.one_arg hc (show args[0]? = some (.ref b) from hb), hx, hN, h⟩
theorem lw_comes (l : Launch) : Comes l x (Jvm.Cond.code x code maxLocals ret :: tables_1) room_1 (fun tb e args s => Calls_1 tb e args s ∧ rest_1 tb e args s ∧ Pre_1 tb e args s)
    (fun _ _ args s o t => lw_Q args s o t) := by
  intro p e ha hc hk s m args below hf hfit hheap happ hpre
  obtain ⟨b, xs, hP⟩ := lw_pre_spec hpre.2.2 hpre.2.1
  obtain ⟨k, o, h1, h2, h3, hQ⟩ := lw_walk l b xs p e ha hc hk s m args below hf ((Spec.applies_iff_loose hf).mp happ).1 hP trivial
  exact ⟨k, o, h1, h2, h3, hQ⟩
theorem lw_frame {s t : State} {o : Outcome} {args : Array Value} (h : Framed s o t [] 600000 7290000) :
    Framed s o t (fieldLocs frame_1_writes args s ++ arrayLocs frame_1_arrays args s ++ staticLocs frame_1_statics s) 600000 7290000 := h
theorem lw_limb (L : Cond) (hL : ∀ (args : Array Value) (s t : State), L.after args s (.returned (some (.int 1))) t = true) :
    ArmFor flags0 classFile x code maxLocals ret World_1 tables_1 room_1 Calls_1 rest_1 Pre_1
      (fun tb e a s o t => postC L tb e a s o t ∧ Framed s o t (fieldLocs frame_1_writes a s ++ arrayLocs frame_1_arrays a s ++ staticLocs frame_1_statics s) 600000 7290000) := by
  intro l _ _ _ p e ha hc hk s m args below hf hfit hheap happ hpre
  obtain ⟨k, o, h1, h2, h3, rfl, hF⟩ := lw_comes l p e ha hc hk s m args below hf hfit hheap happ hpre
  exact ⟨k, _, h1, h2, h3, hL args s _, lw_frame hF⟩
theorem i_vc : Claimed_1_1 ∧ Claimed_1_2 := ⟨lw_limb limb_1_1 (fun args s t => by simp [limb_1_1, Cond.after, Cond.holds, Cond.value]), lw_limb limb_1_2 (fun args s t => Cond.after_iff.mpr (by
  first | (rw [show limb_1_2 = Cond.eq .result (.int 1) from rfl, Cond.eq_ints (x := 1) (y := 1) rfl rfl]; simp; done) | (simp [limb_1_2, Cond.value, Term.eval]; done)))⟩
end
