section
-- ===== PART A: goes FIRST, ahead of the names: the tables' words, and 'selects' of the private methods out of them =====
/-- a private method of a class that the tables say can be made, by its rows of tables_1 -/
def lw_okq (q : MethodName × Nat) : Prop := (q.1.cls ≠ "java/lang/invoke/MethodHandle" ∧ q.1.cls ≠ "java/lang/invoke/VarHandle") ∧ Cond.instantiable q.1.cls q.2 ∈ tables_1 ∧ Cond.privateMethod q.1 ∈ tables_1 ∧ Cond.instanceMethod q.1 ∈ tables_1
set_option maxRecDepth 100000
theorem lw_t1 {w : Cond} (h : w ∈ tables_1_1) : w ∈ tables_1 := List.mem_append_left _ h
theorem lw_t2 {w : Cond} (h : w ∈ tables_1_2) : w ∈ tables_1 := List.mem_append_right _ h
theorem lw_p0 : lw_okq (⟨"ChunkCluster", "upSet", "()I"⟩, 11) := ⟨⟨by decide +kernel, by decide +kernel⟩, lw_t1 (List.mem_of_getElem? (i := 4) rfl), lw_t1 (List.mem_of_getElem? (i := 55) rfl), lw_t1 (List.mem_of_getElem? (i := 56) rfl)⟩
theorem lw_p1 : lw_okq (⟨"ChunkCluster", "newVersion", "(I)V"⟩, 11) := ⟨⟨by decide +kernel, by decide +kernel⟩, lw_t1 (List.mem_of_getElem? (i := 4) rfl), lw_t1 (List.mem_of_getElem? (i := 59) rfl), lw_t1 (List.mem_of_getElem? (i := 60) rfl)⟩
theorem lw_p2 : lw_okq (⟨"ChunkCluster", "firstOf", "(I)I"⟩, 11) := ⟨⟨by decide +kernel, by decide +kernel⟩, lw_t1 (List.mem_of_getElem? (i := 4) rfl), lw_t1 (List.mem_of_getElem? (i := 63) rfl), lw_t1 (List.mem_of_getElem? (i := 64) rfl)⟩
theorem lw_p3 : lw_okq (⟨"ChunkCluster", "loadOf", "(I)I"⟩, 11) := ⟨⟨by decide +kernel, by decide +kernel⟩, lw_t1 (List.mem_of_getElem? (i := 4) rfl), lw_t1 (List.mem_of_getElem? (i := 67) rfl), lw_t1 (List.mem_of_getElem? (i := 68) rfl)⟩
theorem lw_p4 : lw_okq (⟨"ChunkCluster", "current", "(II)Z"⟩, 11) := ⟨⟨by decide +kernel, by decide +kernel⟩, lw_t1 (List.mem_of_getElem? (i := 4) rfl), lw_t1 (List.mem_of_getElem? (i := 71) rfl), lw_t1 (List.mem_of_getElem? (i := 72) rfl)⟩
theorem lw_p5 : lw_okq (⟨"ChunkCluster", "sumOf", "(I)I"⟩, 11) := ⟨⟨by decide +kernel, by decide +kernel⟩, lw_t1 (List.mem_of_getElem? (i := 4) rfl), lw_t1 (List.mem_of_getElem? (i := 75) rfl), lw_t1 (List.mem_of_getElem? (i := 76) rfl)⟩
theorem lw_p6 : lw_okq (⟨"ChunkCluster", "newReplica", "(II)I"⟩, 11) := ⟨⟨by decide +kernel, by decide +kernel⟩, lw_t1 (List.mem_of_getElem? (i := 4) rfl), lw_t1 (List.mem_of_getElem? (i := 80) rfl), lw_t1 (List.mem_of_getElem? (i := 81) rfl)⟩
theorem lw_p7 : lw_okq (⟨"ChunkCluster", "letGo", "(II)V"⟩, 11) := ⟨⟨by decide +kernel, by decide +kernel⟩, lw_t1 (List.mem_of_getElem? (i := 4) rfl), lw_t1 (List.mem_of_getElem? (i := 84) rfl), lw_t1 (List.mem_of_getElem? (i := 85) rfl)⟩
theorem lw_p8 : lw_okq (⟨"ChunkCluster", "freeBlock", "(I)I"⟩, 11) := ⟨⟨by decide +kernel, by decide +kernel⟩, lw_t1 (List.mem_of_getElem? (i := 4) rfl), lw_t1 (List.mem_of_getElem? (i := 88) rfl), lw_t1 (List.mem_of_getElem? (i := 89) rfl)⟩
theorem lw_p9 : lw_okq (⟨"ChunkCluster", "refusal", "(I)I"⟩, 11) := ⟨⟨by decide +kernel, by decide +kernel⟩, lw_t1 (List.mem_of_getElem? (i := 4) rfl), lw_t1 (List.mem_of_getElem? (i := 100) rfl), lw_t1 (List.mem_of_getElem? (i := 101) rfl)⟩
theorem lw_p10 : lw_okq (⟨"ChunkCluster", "source", "(I)I"⟩, 11) := ⟨⟨by decide +kernel, by decide +kernel⟩, lw_t1 (List.mem_of_getElem? (i := 4) rfl), lw_t1 (List.mem_of_getElem? (i := 104) rfl), lw_t1 (List.mem_of_getElem? (i := 105) rfl)⟩
theorem lw_p11 : lw_okq (⟨"ChunkCluster", "mutate", "(III)I"⟩, 11) := ⟨⟨by decide +kernel, by decide +kernel⟩, lw_t1 (List.mem_of_getElem? (i := 4) rfl), lw_t1 (List.mem_of_getElem? (i := 108) rfl), lw_t1 (List.mem_of_getElem? (i := 109) rfl)⟩
theorem lw_p12 : lw_okq (⟨"ChunkCluster", "currentSet", "(I)I"⟩, 11) := ⟨⟨by decide +kernel, by decide +kernel⟩, lw_t1 (List.mem_of_getElem? (i := 4) rfl), lw_t1 (List.mem_of_getElem? (i := 112) rfl), lw_t1 (List.mem_of_getElem? (i := 113) rfl)⟩
theorem lw_p13 : lw_okq (⟨"ChunkCluster", "ownBlock", "(II)I"⟩, 11) := ⟨⟨by decide +kernel, by decide +kernel⟩, lw_t1 (List.mem_of_getElem? (i := 4) rfl), lw_t1 (List.mem_of_getElem? (i := 116) rfl), lw_t1 (List.mem_of_getElem? (i := 117) rfl)⟩
theorem lw_p14 : lw_okq (⟨"ChunkCluster", "copyBlock", "(II)V"⟩, 11) := ⟨⟨by decide +kernel, by decide +kernel⟩, lw_t1 (List.mem_of_getElem? (i := 4) rfl), lw_t1 (List.mem_of_getElem? (i := 120) rfl), lw_t1 (List.mem_of_getElem? (i := 121) rfl)⟩
theorem lw_p15 : lw_okq (⟨"ChunkCluster", "healFile", "(I)I"⟩, 11) := ⟨⟨by decide +kernel, by decide +kernel⟩, lw_t1 (List.mem_of_getElem? (i := 4) rfl), lw_t1 (List.mem_of_getElem? (i := 158) rfl), lw_t1 (List.mem_of_getElem? (i := 159) rfl)⟩
def lw_privs_1 : List (MethodName × Nat) := [(⟨"ChunkCluster", "upSet", "()I"⟩, 11), (⟨"ChunkCluster", "newVersion", "(I)V"⟩, 11), (⟨"ChunkCluster", "firstOf", "(I)I"⟩, 11), (⟨"ChunkCluster", "loadOf", "(I)I"⟩, 11), (⟨"ChunkCluster", "current", "(II)Z"⟩, 11), (⟨"ChunkCluster", "sumOf", "(I)I"⟩, 11), (⟨"ChunkCluster", "newReplica", "(II)I"⟩, 11), (⟨"ChunkCluster", "letGo", "(II)V"⟩, 11), (⟨"ChunkCluster", "freeBlock", "(I)I"⟩, 11), (⟨"ChunkCluster", "refusal", "(I)I"⟩, 11), (⟨"ChunkCluster", "source", "(I)I"⟩, 11), (⟨"ChunkCluster", "mutate", "(III)I"⟩, 11), (⟨"ChunkCluster", "currentSet", "(I)I"⟩, 11), (⟨"ChunkCluster", "ownBlock", "(II)I"⟩, 11), (⟨"ChunkCluster", "copyBlock", "(II)V"⟩, 11), (⟨"ChunkCluster", "healFile", "(I)I"⟩, 11)]
theorem lw_r1 : ∀ q ∈ lw_privs_1, lw_okq q := List.forall_mem_cons.mpr ⟨lw_p0, List.forall_mem_cons.mpr ⟨lw_p1, List.forall_mem_cons.mpr ⟨lw_p2, List.forall_mem_cons.mpr ⟨lw_p3, List.forall_mem_cons.mpr ⟨lw_p4, List.forall_mem_cons.mpr ⟨lw_p5, List.forall_mem_cons.mpr ⟨lw_p6, List.forall_mem_cons.mpr ⟨lw_p7, List.forall_mem_cons.mpr ⟨lw_p8, List.forall_mem_cons.mpr ⟨lw_p9, List.forall_mem_cons.mpr ⟨lw_p10, List.forall_mem_cons.mpr ⟨lw_p11, List.forall_mem_cons.mpr ⟨lw_p12, List.forall_mem_cons.mpr ⟨lw_p13, List.forall_mem_cons.mpr ⟨lw_p14, List.forall_mem_cons.mpr ⟨lw_p15, fun _ h => absurd h List.not_mem_nil⟩⟩⟩⟩⟩⟩⟩⟩⟩⟩⟩⟩⟩⟩⟩⟩
theorem lw_p16 : lw_okq (⟨"ChunkClusterModel", "isFile", "(I)Z"⟩, 6) := ⟨⟨by decide +kernel, by decide +kernel⟩, lw_t1 (List.mem_of_getElem? (i := 177) rfl), lw_t1 (List.mem_of_getElem? (i := 206) rfl), lw_t1 (List.mem_of_getElem? (i := 207) rfl)⟩
theorem lw_p17 : lw_okq (⟨"ChunkClusterModel", "nextServer", "(I)I"⟩, 6) := ⟨⟨by decide +kernel, by decide +kernel⟩, lw_t1 (List.mem_of_getElem? (i := 177) rfl), lw_t1 (List.mem_of_getElem? (i := 210) rfl), lw_t1 (List.mem_of_getElem? (i := 211) rfl)⟩
theorem lw_p18 : lw_okq (⟨"ChunkClusterModel", "load", "(I)I"⟩, 6) := ⟨⟨by decide +kernel, by decide +kernel⟩, lw_t1 (List.mem_of_getElem? (i := 177) rfl), lw_t1 (List.mem_of_getElem? (i := 214) rfl), lw_t1 (List.mem_of_getElem? (i := 215) rfl)⟩
theorem lw_p19 : lw_okq (⟨"ChunkClusterModel", "fill", "(I)I"⟩, 6) := ⟨⟨by decide +kernel, by decide +kernel⟩, lw_t1 (List.mem_of_getElem? (i := 177) rfl), lw_t1 (List.mem_of_getElem? (i := 218) rfl), lw_t1 (List.mem_of_getElem? (i := 219) rfl)⟩
theorem lw_p20 : lw_okq (⟨"ChunkClusterModel", "holders", "(IZ)I"⟩, 6) := ⟨⟨by decide +kernel, by decide +kernel⟩, lw_t1 (List.mem_of_getElem? (i := 177) rfl), lw_t1 (List.mem_of_getElem? (i := 222) rfl), lw_t1 (List.mem_of_getElem? (i := 223) rfl)⟩
theorem lw_p21 : lw_okq (⟨"ChunkClusterModel", "refusal", "(I)I"⟩, 6) := ⟨⟨by decide +kernel, by decide +kernel⟩, lw_t1 (List.mem_of_getElem? (i := 177) rfl), lw_t1 (List.mem_of_getElem? (i := 234) rfl), lw_t1 (List.mem_of_getElem? (i := 235) rfl)⟩
theorem lw_p22 : lw_okq (⟨"ChunkClusterModel", "isServer", "(I)Z"⟩, 6) := ⟨⟨by decide +kernel, by decide +kernel⟩, lw_t1 (List.mem_of_getElem? (i := 177) rfl), lw_t2 (List.mem_of_getElem? (i := 11) rfl), lw_t2 (List.mem_of_getElem? (i := 12) rfl)⟩
def lw_privs_2 : List (MethodName × Nat) := [(⟨"ChunkClusterModel", "isFile", "(I)Z"⟩, 6), (⟨"ChunkClusterModel", "nextServer", "(I)I"⟩, 6), (⟨"ChunkClusterModel", "load", "(I)I"⟩, 6), (⟨"ChunkClusterModel", "fill", "(I)I"⟩, 6), (⟨"ChunkClusterModel", "holders", "(IZ)I"⟩, 6), (⟨"ChunkClusterModel", "refusal", "(I)I"⟩, 6), (⟨"ChunkClusterModel", "isServer", "(I)Z"⟩, 6)]
theorem lw_r2 : ∀ q ∈ lw_privs_2, lw_okq q := List.forall_mem_cons.mpr ⟨lw_p16, List.forall_mem_cons.mpr ⟨lw_p17, List.forall_mem_cons.mpr ⟨lw_p18, List.forall_mem_cons.mpr ⟨lw_p19, List.forall_mem_cons.mpr ⟨lw_p20, List.forall_mem_cons.mpr ⟨lw_p21, List.forall_mem_cons.mpr ⟨lw_p22, fun _ h => absurd h List.not_mem_nil⟩⟩⟩⟩⟩⟩⟩
def lw_privs : List (MethodName × Nat) := lw_privs_1 ++ (lw_privs_2)
def lw_tbl : List Cond := k2_sels lw_privs ++ tables_1
theorem lw_privs_ok : ∀ q ∈ lw_privs, lw_okq q := by
  show ∀ q ∈ lw_privs_1 ++ (lw_privs_2), lw_okq q
  exact List.forall_mem_append.mpr ⟨lw_r1, lw_r2⟩
-- ===== ONE list of words for every method: the tables' words that hold all through a run =====
def lw_all : List Cond := lw_tbl.filter goodWord
/-- a word of the tables by its place: claim/WORDS.tsv -/
theorem lw_w {w : Cond} (i : Nat) (h : lw_tbl[i]? = some w) (g : goodWord w = true) : w ∈ lw_all := List.mem_filter.mpr ⟨List.mem_of_getElem? h, g⟩
theorem lw_all_tbl {w : Cond} (h : w ∈ lw_all) : w ∈ lw_tbl := (List.mem_filter.mp h).1
theorem lw_self : GoodIn lw_all lw_all := fun w h => ⟨h, good_of_word (List.mem_filter.mp h).2⟩
/-- a class's field words, by their places -/
theorem lw_in (ws : List Cond) (ps : List Nat) (hp : ws = ps.filterMap (fun i => lw_tbl[i]?)) (hg : ws.all goodWord = true) : ∀ w ∈ ws, w ∈ lw_all := by
  intro w h
  have h1 := List.all_eq_true.mp hg w h
  rw [hp] at h
  obtain ⟨i, -, hi⟩ := List.mem_filterMap.mp h
  exact lw_w i hi h1
/-- the words of a contract for the method y with code b, L locals, answer r -/
abbrev ws_ (y : MethodName) (b : ByteArray) (L : Nat) (r : Option FieldType) : List Cond := Cond.code y b L r :: lw_all
theorem lw_meth {y : MethodName} {b : ByteArray} {L : Nat} {r : Option FieldType} (h : Cond.code y b L r ∈ lw_all) : GoodIn lw_all (ws_ y b L r) := by
  intro w hw
  rcases List.mem_cons.mp hw with e | e
  · rw [e]
    exact lw_self _ h
  · exact lw_self _ e
theorem lw_app {a c : List Cond} (ha : ∀ w ∈ a, w ∈ lw_all) (hc : GoodIn lw_all c) : GoodIn lw_all (a ++ c) := by
  intro w hw
  rcases List.mem_append.mp hw with e | e
  · exact lw_self w (ha w e)
  · exact hc w e
/-- what a call through an object asks: cwV n hts (lw_V ..) -/
theorem lw_V {own : String} {idx : Nat} {C : String} {y : MethodName} {b : ByteArray} {L : Nat} {r : Option FieldType} (h1 : Cond.methodLink own idx y ∈ lw_all) (h2 : Cond.instanceMethod y ∈ lw_all) (h3 : Cond.selects C y y ∈ lw_all) (h4 : Cond.initialized C ∈ lw_all) (h5 : Cond.code y b L r ∈ lw_all) : GoodIn lw_all (wsV own idx C y (ws_ y b L r)) := by
  refine lw_app ?_ (lw_meth h5)
  intro w hw
  simp only [List.mem_cons, List.not_mem_nil, or_false] at hw
  rcases hw with e | e | e | e
  · rw [e]; exact h1
  · rw [e]; exact h2
  · rw [e]; exact h3
  · rw [e]; exact h4
/-- what a static call asks: va_cwS n hts (lw_S ..) -/
theorem lw_S {own : String} {idx : Nat} {y : MethodName} {b : ByteArray} {L : Nat} {r : Option FieldType} (h1 : Cond.methodLink own idx y ∈ lw_all) (h2 : Cond.static y ∈ lw_all) (h3 : Cond.initialized y.cls ∈ lw_all) (h4 : Cond.code y b L r ∈ lw_all) : GoodIn lw_all (va_wsS own idx y (ws_ y b L r)) := by
  refine lw_app ?_ (lw_meth h4)
  intro w hw
  simp only [List.mem_cons, List.not_mem_nil, or_false] at hw
  rcases hw with e | e | e
  · rw [e]; exact h1
  · rw [e]; exact h2
  · rw [e]; exact h3
/-- the words of a contract for a method WITH HANDLERS (hh: its table) -/
abbrev wsW_ (y : MethodName) (b : ByteArray) (L : Nat) (r : Option FieldType) (hh : List (Nat × Nat × Nat × Nat)) : List Cond := Cond.codeWith y b L r hh :: lw_all
theorem lw_methW {y : MethodName} {b : ByteArray} {L : Nat} {r : Option FieldType} {hh : List (Nat × Nat × Nat × Nat)} (h : Cond.codeWith y b L r hh ∈ lw_all) : GoodIn lw_all (wsW_ y b L r hh) := by
  intro w hw
  rcases List.mem_cons.mp hw with e | e
  · rw [e]
    exact lw_self _ h
  · exact lw_self _ e
/-- any list of words by their places (lw_in), good -/
theorem lw_good {ws : List Cond} (h : ∀ w ∈ ws, w ∈ lw_all) : GoodIn lw_all ws := fun w hw => lw_self w (h w hw)
/-- what a call of a method with handlers asks: vx_cwVW n hts (lw_VW ..), vx_cwSW n hts (lw_SW ..) -/
theorem lw_VW {own : String} {idx : Nat} {C : String} {y : MethodName} {b : ByteArray} {L : Nat} {r : Option FieldType} {hh : List (Nat × Nat × Nat × Nat)} (h1 : Cond.methodLink own idx y ∈ lw_all) (h2 : Cond.instanceMethod y ∈ lw_all) (h3 : Cond.selects C y y ∈ lw_all) (h4 : Cond.initialized C ∈ lw_all) (h5 : Cond.codeWith y b L r hh ∈ lw_all) : GoodIn lw_all (wsV own idx C y (wsW_ y b L r hh)) := by
  refine lw_app ?_ (lw_methW h5)
  intro w hw
  simp only [List.mem_cons, List.not_mem_nil, or_false] at hw
  rcases hw with e | e | e | e
  · rw [e]; exact h1
  · rw [e]; exact h2
  · rw [e]; exact h3
  · rw [e]; exact h4
theorem lw_SW {own : String} {idx : Nat} {y : MethodName} {b : ByteArray} {L : Nat} {r : Option FieldType} {hh : List (Nat × Nat × Nat × Nat)} (h1 : Cond.methodLink own idx y ∈ lw_all) (h2 : Cond.static y ∈ lw_all) (h3 : Cond.initialized y.cls ∈ lw_all) (h4 : Cond.codeWith y b L r hh ∈ lw_all) : GoodIn lw_all (va_wsS own idx y (wsW_ y b L r hh)) := by
  refine lw_app ?_ (lw_methW h4)
  intro w hw
  simp only [List.mem_cons, List.not_mem_nil, or_false] at hw
  rcases hw with e | e | e
  · rw [e]; exact h1
  · rw [e]; exact h2
  · rw [e]; exact h3
/-- a word by its place in its run of the tables -/
theorem lw_at {r : List Cond} (hr : ∀ w ∈ r, w ∈ lw_tbl) {w : Cond} (i : Nat) (h : r[i]? = some w) : w ∈ lw_tbl := hr w (List.mem_of_getElem? h)
theorem lw_g {w : Cond} (h : w ∈ lw_tbl) (g : goodWord w = true) : w ∈ lw_all := List.mem_filter.mpr ⟨h, g⟩
theorem lw_ms : ∀ w ∈ k2_sels lw_privs, w ∈ lw_tbl := fun w h => show w ∈ k2_sels lw_privs ++ tables_1 from List.mem_append_left _ h
theorem lw_m1 : ∀ w ∈ tables_1_1, w ∈ lw_tbl := fun w h => show w ∈ k2_sels lw_privs ++ tables_1 from List.mem_append_right (k2_sels lw_privs) (show w ∈ tables_1 from List.mem_append_left _ h)
theorem lw_m2 : ∀ w ∈ tables_1_2, w ∈ lw_tbl := fun w h => show w ∈ k2_sels lw_privs ++ tables_1 from List.mem_append_right (k2_sels lw_privs) (show w ∈ tables_1 from List.mem_append_right _ h)
theorem qs0 : (Cond.selects "ChunkCluster" ⟨"ChunkCluster", "upSet", "()I"⟩ ⟨"ChunkCluster", "upSet", "()I"⟩) ∈ lw_all := lw_g (lw_at lw_ms 0 rfl) rfl
theorem qs1 : (Cond.selects "ChunkCluster" ⟨"ChunkCluster", "newVersion", "(I)V"⟩ ⟨"ChunkCluster", "newVersion", "(I)V"⟩) ∈ lw_all := lw_g (lw_at lw_ms 1 rfl) rfl
theorem qs2 : (Cond.selects "ChunkCluster" ⟨"ChunkCluster", "firstOf", "(I)I"⟩ ⟨"ChunkCluster", "firstOf", "(I)I"⟩) ∈ lw_all := lw_g (lw_at lw_ms 2 rfl) rfl
theorem qs3 : (Cond.selects "ChunkCluster" ⟨"ChunkCluster", "loadOf", "(I)I"⟩ ⟨"ChunkCluster", "loadOf", "(I)I"⟩) ∈ lw_all := lw_g (lw_at lw_ms 3 rfl) rfl
theorem qs4 : (Cond.selects "ChunkCluster" ⟨"ChunkCluster", "current", "(II)Z"⟩ ⟨"ChunkCluster", "current", "(II)Z"⟩) ∈ lw_all := lw_g (lw_at lw_ms 4 rfl) rfl
theorem qs5 : (Cond.selects "ChunkCluster" ⟨"ChunkCluster", "sumOf", "(I)I"⟩ ⟨"ChunkCluster", "sumOf", "(I)I"⟩) ∈ lw_all := lw_g (lw_at lw_ms 5 rfl) rfl
theorem qs6 : (Cond.selects "ChunkCluster" ⟨"ChunkCluster", "newReplica", "(II)I"⟩ ⟨"ChunkCluster", "newReplica", "(II)I"⟩) ∈ lw_all := lw_g (lw_at lw_ms 6 rfl) rfl
theorem qs7 : (Cond.selects "ChunkCluster" ⟨"ChunkCluster", "letGo", "(II)V"⟩ ⟨"ChunkCluster", "letGo", "(II)V"⟩) ∈ lw_all := lw_g (lw_at lw_ms 7 rfl) rfl
theorem qs8 : (Cond.selects "ChunkCluster" ⟨"ChunkCluster", "freeBlock", "(I)I"⟩ ⟨"ChunkCluster", "freeBlock", "(I)I"⟩) ∈ lw_all := lw_g (lw_at lw_ms 8 rfl) rfl
theorem qs9 : (Cond.selects "ChunkCluster" ⟨"ChunkCluster", "refusal", "(I)I"⟩ ⟨"ChunkCluster", "refusal", "(I)I"⟩) ∈ lw_all := lw_g (lw_at lw_ms 9 rfl) rfl
theorem qs10 : (Cond.selects "ChunkCluster" ⟨"ChunkCluster", "source", "(I)I"⟩ ⟨"ChunkCluster", "source", "(I)I"⟩) ∈ lw_all := lw_g (lw_at lw_ms 10 rfl) rfl
theorem qs11 : (Cond.selects "ChunkCluster" ⟨"ChunkCluster", "mutate", "(III)I"⟩ ⟨"ChunkCluster", "mutate", "(III)I"⟩) ∈ lw_all := lw_g (lw_at lw_ms 11 rfl) rfl
theorem qs12 : (Cond.selects "ChunkCluster" ⟨"ChunkCluster", "currentSet", "(I)I"⟩ ⟨"ChunkCluster", "currentSet", "(I)I"⟩) ∈ lw_all := lw_g (lw_at lw_ms 12 rfl) rfl
theorem qs13 : (Cond.selects "ChunkCluster" ⟨"ChunkCluster", "ownBlock", "(II)I"⟩ ⟨"ChunkCluster", "ownBlock", "(II)I"⟩) ∈ lw_all := lw_g (lw_at lw_ms 13 rfl) rfl
theorem qs14 : (Cond.selects "ChunkCluster" ⟨"ChunkCluster", "copyBlock", "(II)V"⟩ ⟨"ChunkCluster", "copyBlock", "(II)V"⟩) ∈ lw_all := lw_g (lw_at lw_ms 14 rfl) rfl
theorem qs15 : (Cond.selects "ChunkCluster" ⟨"ChunkCluster", "healFile", "(I)I"⟩ ⟨"ChunkCluster", "healFile", "(I)I"⟩) ∈ lw_all := lw_g (lw_at lw_ms 15 rfl) rfl
theorem qs16 : (Cond.selects "ChunkClusterModel" ⟨"ChunkClusterModel", "isFile", "(I)Z"⟩ ⟨"ChunkClusterModel", "isFile", "(I)Z"⟩) ∈ lw_all := lw_g (lw_at lw_ms 16 rfl) rfl
theorem qs17 : (Cond.selects "ChunkClusterModel" ⟨"ChunkClusterModel", "nextServer", "(I)I"⟩ ⟨"ChunkClusterModel", "nextServer", "(I)I"⟩) ∈ lw_all := lw_g (lw_at lw_ms 17 rfl) rfl
theorem qs18 : (Cond.selects "ChunkClusterModel" ⟨"ChunkClusterModel", "load", "(I)I"⟩ ⟨"ChunkClusterModel", "load", "(I)I"⟩) ∈ lw_all := lw_g (lw_at lw_ms 18 rfl) rfl
theorem qs19 : (Cond.selects "ChunkClusterModel" ⟨"ChunkClusterModel", "fill", "(I)I"⟩ ⟨"ChunkClusterModel", "fill", "(I)I"⟩) ∈ lw_all := lw_g (lw_at lw_ms 19 rfl) rfl
theorem qs20 : (Cond.selects "ChunkClusterModel" ⟨"ChunkClusterModel", "holders", "(IZ)I"⟩ ⟨"ChunkClusterModel", "holders", "(IZ)I"⟩) ∈ lw_all := lw_g (lw_at lw_ms 20 rfl) rfl
theorem qs21 : (Cond.selects "ChunkClusterModel" ⟨"ChunkClusterModel", "refusal", "(I)I"⟩ ⟨"ChunkClusterModel", "refusal", "(I)I"⟩) ∈ lw_all := lw_g (lw_at lw_ms 21 rfl) rfl
theorem qs22 : (Cond.selects "ChunkClusterModel" ⟨"ChunkClusterModel", "isServer", "(I)Z"⟩ ⟨"ChunkClusterModel", "isServer", "(I)Z"⟩) ∈ lw_all := lw_g (lw_at lw_ms 22 rfl) rfl
-- ===== end of PART A; then your names; then what follows =====
end
section
set_option maxRecDepth 100000
/-! java/lang/Object -/
def RJ0 : String := "java/lang/Object"
abbrev cJ0_init : ByteArray := object_method_1_code
def yJ0_init : MethodName := ⟨RJ0, "<init>", "()V"⟩
theorem q32 : (Jvm.Cond.instanceMethod ({ cls := "java/lang/Object", name := "<init>", desc := "()V" } : Jvm.MethodName)) ∈ lw_all := lw_g (lw_at lw_m1 9 rfl) rfl
theorem q33 : (Jvm.Cond.code ({ cls := "java/lang/Object", name := "<init>", desc := "()V" } : Jvm.MethodName) object_method_1_code (1 : Nat) (Option.none : Option Jvm.ClassFile.FieldType)) ∈ lw_all := lw_g (lw_at lw_m1 10 rfl) rfl
/-! ChunkClusterLaw -/
def RX0 : String := "ChunkClusterLaw"
abbrev cX0_cell : ByteArray := method_2_code
def yX0_cell : MethodName := ⟨RX0, "cell", "([II)I"⟩
theorem q23 : (Jvm.Cond.initialized "ChunkClusterLaw") ∈ lw_all := lw_g (lw_at lw_m1 0 rfl) rfl
theorem q26 : (Jvm.Cond.classLink "ChunkClusterLaw" (7 : Nat) "ChunkCluster") ∈ lw_all := lw_g (lw_at lw_m1 3 rfl) rfl
theorem q28 : (Jvm.Cond.methodLink "ChunkClusterLaw" (15 : Nat) ({ cls := "ChunkCluster", name := "<init>", desc := "(I)V" } : Jvm.MethodName)) ∈ lw_all := lw_g (lw_at lw_m1 5 rfl) rfl
theorem q70 : (Jvm.Cond.methodLink "ChunkClusterLaw" (21 : Nat) ({ cls := "ChunkCluster", name := "create", desc := "(I)I" } : Jvm.MethodName)) ∈ lw_all := lw_g (lw_at lw_m1 47 rfl) rfl
theorem q114 : (Jvm.Cond.methodLink "ChunkClusterLaw" (26 : Nat) ({ cls := "ChunkCluster", name := "remove", desc := "(I)I" } : Jvm.MethodName)) ∈ lw_all := lw_g (lw_at lw_m1 91 rfl) rfl
theorem q118 : (Jvm.Cond.methodLink "ChunkClusterLaw" (30 : Nat) ({ cls := "ChunkCluster", name := "write", desc := "(III)I" } : Jvm.MethodName)) ∈ lw_all := lw_g (lw_at lw_m1 95 rfl) rfl
theorem q149 : (Jvm.Cond.methodLink "ChunkClusterLaw" (35 : Nat) ({ cls := "ChunkCluster", name := "append", desc := "(II)I" } : Jvm.MethodName)) ∈ lw_all := lw_g (lw_at lw_m1 126 rfl) rfl
theorem q153 : (Jvm.Cond.methodLink "ChunkClusterLaw" (40 : Nat) ({ cls := "ChunkCluster", name := "snapshot", desc := "(II)I" } : Jvm.MethodName)) ∈ lw_all := lw_g (lw_at lw_m1 130 rfl) rfl
theorem q157 : (Jvm.Cond.methodLink "ChunkClusterLaw" (44 : Nat) ({ cls := "ChunkCluster", name := "crash", desc := "(I)I" } : Jvm.MethodName)) ∈ lw_all := lw_g (lw_at lw_m1 134 rfl) rfl
theorem q164 : (Jvm.Cond.methodLink "ChunkClusterLaw" (48 : Nat) ({ cls := "ChunkCluster", name := "restart", desc := "(I)I" } : Jvm.MethodName)) ∈ lw_all := lw_g (lw_at lw_m1 141 rfl) rfl
theorem q168 : (Jvm.Cond.methodLink "ChunkClusterLaw" (52 : Nat) ({ cls := "ChunkCluster", name := "loseDisk", desc := "(I)I" } : Jvm.MethodName)) ∈ lw_all := lw_g (lw_at lw_m1 145 rfl) rfl
theorem q172 : (Jvm.Cond.methodLink "ChunkClusterLaw" (56 : Nat) ({ cls := "ChunkCluster", name := "damage", desc := "(II)I" } : Jvm.MethodName)) ∈ lw_all := lw_g (lw_at lw_m1 149 rfl) rfl
theorem q176 : (Jvm.Cond.methodLink "ChunkClusterLaw" (60 : Nat) ({ cls := "ChunkCluster", name := "heal", desc := "()I" } : Jvm.MethodName)) ∈ lw_all := lw_g (lw_at lw_m1 153 rfl) rfl
theorem q184 : (Jvm.Cond.methodLink "ChunkClusterLaw" (65 : Nat) ({ cls := "ChunkCluster", name := "read", desc := "(II)I" } : Jvm.MethodName)) ∈ lw_all := lw_g (lw_at lw_m1 161 rfl) rfl
theorem q188 : (Jvm.Cond.methodLink "ChunkClusterLaw" (69 : Nat) ({ cls := "ChunkCluster", name := "length", desc := "(I)I" } : Jvm.MethodName)) ∈ lw_all := lw_g (lw_at lw_m1 165 rfl) rfl
theorem q192 : (Jvm.Cond.methodLink "ChunkClusterLaw" (73 : Nat) ({ cls := "ChunkCluster", name := "replicas", desc := "(I)I" } : Jvm.MethodName)) ∈ lw_all := lw_g (lw_at lw_m1 169 rfl) rfl
theorem q196 : (Jvm.Cond.methodLink "ChunkClusterLaw" (9 : Nat) ({ cls := "ChunkClusterLaw", name := "cell", desc := "([II)I" } : Jvm.MethodName)) ∈ lw_all := lw_g (lw_at lw_m1 173 rfl) rfl
theorem q197 : (Jvm.Cond.static ({ cls := "ChunkClusterLaw", name := "cell", desc := "([II)I" } : Jvm.MethodName)) ∈ lw_all := lw_g (lw_at lw_m1 174 rfl) rfl
theorem q198 : (Jvm.Cond.code ({ cls := "ChunkClusterLaw", name := "cell", desc := "([II)I" } : Jvm.MethodName) method_2_code (2 : Nat) (Option.some Jvm.ClassFile.FieldType.int)) ∈ lw_all := lw_g (lw_at lw_m1 175 rfl) rfl
theorem q199 : (Jvm.Cond.classLink "ChunkClusterLaw" (18 : Nat) "ChunkClusterModel") ∈ lw_all := lw_g (lw_at lw_m1 176 rfl) rfl
theorem q201 : (Jvm.Cond.methodLink "ChunkClusterLaw" (20 : Nat) ({ cls := "ChunkClusterModel", name := "<init>", desc := "(I)V" } : Jvm.MethodName)) ∈ lw_all := lw_g (lw_at lw_m1 178 rfl) rfl
theorem q224 : (Jvm.Cond.methodLink "ChunkClusterLaw" (25 : Nat) ({ cls := "ChunkClusterModel", name := "create", desc := "(I)I" } : Jvm.MethodName)) ∈ lw_all := lw_g (lw_at lw_m1 201 rfl) rfl
theorem q248 : (Jvm.Cond.methodLink "ChunkClusterLaw" (29 : Nat) ({ cls := "ChunkClusterModel", name := "remove", desc := "(I)I" } : Jvm.MethodName)) ∈ lw_all := lw_g (lw_at lw_m1 225 rfl) rfl
theorem q252 : (Jvm.Cond.methodLink "ChunkClusterLaw" (34 : Nat) ({ cls := "ChunkClusterModel", name := "write", desc := "(III)I" } : Jvm.MethodName)) ∈ lw_all := lw_g (lw_at lw_m1 229 rfl) rfl
theorem q260 : (Jvm.Cond.methodLink "ChunkClusterLaw" (39 : Nat) ({ cls := "ChunkClusterModel", name := "append", desc := "(II)I" } : Jvm.MethodName)) ∈ lw_all := lw_g (lw_at lw_m1 237 rfl) rfl
theorem q265 : (Jvm.Cond.methodLink "ChunkClusterLaw" (43 : Nat) ({ cls := "ChunkClusterModel", name := "snapshot", desc := "(II)I" } : Jvm.MethodName)) ∈ lw_all := lw_g (lw_at lw_m2 2 rfl) rfl
theorem q269 : (Jvm.Cond.methodLink "ChunkClusterLaw" (47 : Nat) ({ cls := "ChunkClusterModel", name := "crash", desc := "(I)I" } : Jvm.MethodName)) ∈ lw_all := lw_g (lw_at lw_m2 6 rfl) rfl
theorem q277 : (Jvm.Cond.methodLink "ChunkClusterLaw" (51 : Nat) ({ cls := "ChunkClusterModel", name := "restart", desc := "(I)I" } : Jvm.MethodName)) ∈ lw_all := lw_g (lw_at lw_m2 14 rfl) rfl
theorem q281 : (Jvm.Cond.methodLink "ChunkClusterLaw" (55 : Nat) ({ cls := "ChunkClusterModel", name := "loseDisk", desc := "(I)I" } : Jvm.MethodName)) ∈ lw_all := lw_g (lw_at lw_m2 18 rfl) rfl
theorem q285 : (Jvm.Cond.methodLink "ChunkClusterLaw" (59 : Nat) ({ cls := "ChunkClusterModel", name := "damage", desc := "(II)I" } : Jvm.MethodName)) ∈ lw_all := lw_g (lw_at lw_m2 22 rfl) rfl
theorem q289 : (Jvm.Cond.methodLink "ChunkClusterLaw" (64 : Nat) ({ cls := "ChunkClusterModel", name := "heal", desc := "()I" } : Jvm.MethodName)) ∈ lw_all := lw_g (lw_at lw_m2 26 rfl) rfl
theorem q293 : (Jvm.Cond.methodLink "ChunkClusterLaw" (68 : Nat) ({ cls := "ChunkClusterModel", name := "read", desc := "(II)I" } : Jvm.MethodName)) ∈ lw_all := lw_g (lw_at lw_m2 30 rfl) rfl
theorem q297 : (Jvm.Cond.methodLink "ChunkClusterLaw" (72 : Nat) ({ cls := "ChunkClusterModel", name := "length", desc := "(I)I" } : Jvm.MethodName)) ∈ lw_all := lw_g (lw_at lw_m2 34 rfl) rfl
theorem q301 : (Jvm.Cond.methodLink "ChunkClusterLaw" (76 : Nat) ({ cls := "ChunkClusterModel", name := "replicas", desc := "(I)I" } : Jvm.MethodName)) ∈ lw_all := lw_g (lw_at lw_m2 38 rfl) rfl
/-! ChunkCluster -/
def RX1 : String := "ChunkCluster"
def TX1 : u_T := fun k => match k with
  | 0 => ("ChunkCluster", "copies", "I", true)
  | 1 => ("ChunkCluster", "up", "[Z", true)
  | 2 => ("ChunkCluster", "exists", "[Z", true)
  | 3 => ("ChunkCluster", "version", "[I", true)
  | 4 => ("ChunkCluster", "lastVersion", "I", false)
  | 5 => ("ChunkCluster", "blockOf", "[I", true)
  | 6 => ("ChunkCluster", "versionOf", "[I", true)
  | 7 => ("ChunkCluster", "cells", "[I", true)
  | 8 => ("ChunkCluster", "lengthOf", "[I", true)
  | 9 => ("ChunkCluster", "check", "[I", true)
  | _ => ("ChunkCluster", "holders", "[I", true)
def tyX1 : Nat → FieldType := fun k => match k with
  | 0 => .int
  | 1 => .array .boolean
  | 2 => .array .boolean
  | 3 => .array .int
  | 4 => .int
  | 5 => .array .int
  | 6 => .array .int
  | 7 => .array .int
  | 8 => .array .int
  | 9 => .array .int
  | _ => .array .int
abbrev wsX10 : List Cond := u_ws RX1 TX1 11
theorem nmX1 : ∀ a, a < 11 → ∀ b, b < 11 → a ≠ b → (TX1 a).2.1 ≠ (TX1 b).2.1 := by decide +kernel
theorem tyX1_ok : ∀ k, k < 11 → parseFieldDescriptor (TX1 k).2.2.1 = some (tyX1 k) := by decide +kernel
abbrev cX1_init : ByteArray := prog_1_method_1_code
def yX1_init : MethodName := ⟨RX1, "<init>", "(I)V"⟩
abbrev cX1_create : ByteArray := prog_1_method_18_code
def yX1_create : MethodName := ⟨RX1, "create", "(I)I"⟩
abbrev cX1_badFile : ByteArray := prog_1_method_3_code
def yX1_badFile : MethodName := ⟨RX1, "badFile", "(I)Z"⟩
abbrev cX1_upSet : ByteArray := prog_1_method_12_code
def yX1_upSet : MethodName := ⟨RX1, "upSet", "()I"⟩
abbrev cX1_newVersion : ByteArray := prog_1_method_17_code
def yX1_newVersion : MethodName := ⟨RX1, "newVersion", "(I)V"⟩
abbrev cX1_firstOf : ByteArray := prog_1_method_16_code
def yX1_firstOf : MethodName := ⟨RX1, "firstOf", "(I)I"⟩
abbrev cX1_loadOf : ByteArray := prog_1_method_15_code
def yX1_loadOf : MethodName := ⟨RX1, "loadOf", "(I)I"⟩
abbrev cX1_current : ByteArray := prog_1_method_10_code
def yX1_current : MethodName := ⟨RX1, "current", "(II)Z"⟩
abbrev cX1_sumOf : ByteArray := prog_1_method_4_code
def yX1_sumOf : MethodName := ⟨RX1, "sumOf", "(I)I"⟩
abbrev cX1_newReplica : ByteArray := prog_1_method_9_code
def yX1_newReplica : MethodName := ⟨RX1, "newReplica", "(II)I"⟩
abbrev cX1_letGo : ByteArray := prog_1_method_5_code
def yX1_letGo : MethodName := ⟨RX1, "letGo", "(II)V"⟩
abbrev cX1_freeBlock : ByteArray := prog_1_method_6_code
def yX1_freeBlock : MethodName := ⟨RX1, "freeBlock", "(I)I"⟩
abbrev cX1_remove : ByteArray := prog_1_method_19_code
def yX1_remove : MethodName := ⟨RX1, "remove", "(I)I"⟩
abbrev cX1_write : ByteArray := prog_1_method_22_code
def yX1_write : MethodName := ⟨RX1, "write", "(III)I"⟩
abbrev cX1_refusal : ByteArray := prog_1_method_20_code
def yX1_refusal : MethodName := ⟨RX1, "refusal", "(I)I"⟩
abbrev cX1_source : ByteArray := prog_1_method_14_code
def yX1_source : MethodName := ⟨RX1, "source", "(I)I"⟩
abbrev cX1_mutate : ByteArray := prog_1_method_21_code
def yX1_mutate : MethodName := ⟨RX1, "mutate", "(III)I"⟩
abbrev cX1_currentSet : ByteArray := prog_1_method_11_code
def yX1_currentSet : MethodName := ⟨RX1, "currentSet", "(I)I"⟩
abbrev cX1_ownBlock : ByteArray := prog_1_method_7_code
def yX1_ownBlock : MethodName := ⟨RX1, "ownBlock", "(II)I"⟩
abbrev cX1_copyBlock : ByteArray := prog_1_method_8_code
def yX1_copyBlock : MethodName := ⟨RX1, "copyBlock", "(II)V"⟩
abbrev cX1_bits : ByteArray := prog_1_method_13_code
def yX1_bits : MethodName := ⟨RX1, "bits", "(I)I"⟩
abbrev cX1_append : ByteArray := prog_1_method_23_code
def yX1_append : MethodName := ⟨RX1, "append", "(II)I"⟩
abbrev cX1_snapshot : ByteArray := prog_1_method_24_code
def yX1_snapshot : MethodName := ⟨RX1, "snapshot", "(II)I"⟩
abbrev cX1_crash : ByteArray := prog_1_method_25_code
def yX1_crash : MethodName := ⟨RX1, "crash", "(I)I"⟩
abbrev cX1_badServer : ByteArray := prog_1_method_2_code
def yX1_badServer : MethodName := ⟨RX1, "badServer", "(I)Z"⟩
abbrev cX1_restart : ByteArray := prog_1_method_26_code
def yX1_restart : MethodName := ⟨RX1, "restart", "(I)I"⟩
abbrev cX1_loseDisk : ByteArray := prog_1_method_27_code
def yX1_loseDisk : MethodName := ⟨RX1, "loseDisk", "(I)I"⟩
abbrev cX1_damage : ByteArray := prog_1_method_28_code
def yX1_damage : MethodName := ⟨RX1, "damage", "(II)I"⟩
abbrev cX1_heal : ByteArray := prog_1_method_30_code
def yX1_heal : MethodName := ⟨RX1, "heal", "()I"⟩
abbrev cX1_healFile : ByteArray := prog_1_method_29_code
def yX1_healFile : MethodName := ⟨RX1, "healFile", "(I)I"⟩
abbrev cX1_read : ByteArray := prog_1_method_31_code
def yX1_read : MethodName := ⟨RX1, "read", "(II)I"⟩
abbrev cX1_length : ByteArray := prog_1_method_32_code
def yX1_length : MethodName := ⟨RX1, "length", "(I)I"⟩
abbrev cX1_replicas : ByteArray := prog_1_method_33_code
def yX1_replicas : MethodName := ⟨RX1, "replicas", "(I)I"⟩
theorem q24 : (Jvm.Cond.initialized "ChunkCluster") ∈ lw_all := lw_g (lw_at lw_m1 1 rfl) rfl
theorem q27 : (Jvm.Cond.instantiable "ChunkCluster" (11 : Nat)) ∈ lw_all := lw_g (lw_at lw_m1 4 rfl) rfl
theorem q29 : (Jvm.Cond.instanceMethod ({ cls := "ChunkCluster", name := "<init>", desc := "(I)V" } : Jvm.MethodName)) ∈ lw_all := lw_g (lw_at lw_m1 6 rfl) rfl
theorem q30 : (Jvm.Cond.code ({ cls := "ChunkCluster", name := "<init>", desc := "(I)V" } : Jvm.MethodName) prog_1_method_1_code (4 : Nat) (Option.none : Option Jvm.ClassFile.FieldType)) ∈ lw_all := lw_g (lw_at lw_m1 7 rfl) rfl
theorem q31 : (Jvm.Cond.methodLink "ChunkCluster" (1 : Nat) ({ cls := "java/lang/Object", name := "<init>", desc := "()V" } : Jvm.MethodName)) ∈ lw_all := lw_g (lw_at lw_m1 8 rfl) rfl
theorem q34 : (Jvm.Cond.fieldLink "ChunkCluster" (38 : Nat) "ChunkCluster" "copies" "I") ∈ lw_all := lw_g (lw_at lw_m1 11 rfl) rfl
theorem q35 : (Jvm.Cond.fieldLink "ChunkCluster" (7 : Nat) "ChunkCluster" "up" "[Z") ∈ lw_all := lw_g (lw_at lw_m1 12 rfl) rfl
theorem q36 : (Jvm.Cond.fieldLink "ChunkCluster" (13 : Nat) "ChunkCluster" "exists" "[Z") ∈ lw_all := lw_g (lw_at lw_m1 13 rfl) rfl
theorem q37 : (Jvm.Cond.fieldLink "ChunkCluster" (16 : Nat) "ChunkCluster" "version" "[I") ∈ lw_all := lw_g (lw_at lw_m1 14 rfl) rfl
theorem q38 : (Jvm.Cond.fieldLink "ChunkCluster" (64 : Nat) "ChunkCluster" "lastVersion" "I") ∈ lw_all := lw_g (lw_at lw_m1 15 rfl) rfl
theorem q39 : (Jvm.Cond.fieldLink "ChunkCluster" (20 : Nat) "ChunkCluster" "blockOf" "[I") ∈ lw_all := lw_g (lw_at lw_m1 16 rfl) rfl
theorem q40 : (Jvm.Cond.fieldLink "ChunkCluster" (23 : Nat) "ChunkCluster" "versionOf" "[I") ∈ lw_all := lw_g (lw_at lw_m1 17 rfl) rfl
theorem q41 : (Jvm.Cond.fieldLink "ChunkCluster" (26 : Nat) "ChunkCluster" "cells" "[I") ∈ lw_all := lw_g (lw_at lw_m1 18 rfl) rfl
theorem q42 : (Jvm.Cond.fieldLink "ChunkCluster" (29 : Nat) "ChunkCluster" "lengthOf" "[I") ∈ lw_all := lw_g (lw_at lw_m1 19 rfl) rfl
theorem q43 : (Jvm.Cond.fieldLink "ChunkCluster" (32 : Nat) "ChunkCluster" "check" "[I") ∈ lw_all := lw_g (lw_at lw_m1 20 rfl) rfl
theorem q44 : (Jvm.Cond.fieldLink "ChunkCluster" (35 : Nat) "ChunkCluster" "holders" "[I") ∈ lw_all := lw_g (lw_at lw_m1 21 rfl) rfl
theorem q45 : (Jvm.Cond.laysFinal "ChunkCluster" "ChunkCluster" "copies" "I") ∈ lw_all := lw_g (lw_at lw_m1 22 rfl) rfl
theorem q46 : (Jvm.Cond.soleField "ChunkCluster" "copies") ∈ lw_all := lw_g (lw_at lw_m1 23 rfl) rfl
theorem q47 : (Jvm.Cond.laysFinal "ChunkCluster" "ChunkCluster" "up" "[Z") ∈ lw_all := lw_g (lw_at lw_m1 24 rfl) rfl
theorem q48 : (Jvm.Cond.soleField "ChunkCluster" "up") ∈ lw_all := lw_g (lw_at lw_m1 25 rfl) rfl
theorem q49 : (Jvm.Cond.laysFinal "ChunkCluster" "ChunkCluster" "exists" "[Z") ∈ lw_all := lw_g (lw_at lw_m1 26 rfl) rfl
theorem q50 : (Jvm.Cond.soleField "ChunkCluster" "exists") ∈ lw_all := lw_g (lw_at lw_m1 27 rfl) rfl
theorem q51 : (Jvm.Cond.laysFinal "ChunkCluster" "ChunkCluster" "version" "[I") ∈ lw_all := lw_g (lw_at lw_m1 28 rfl) rfl
theorem q52 : (Jvm.Cond.soleField "ChunkCluster" "version") ∈ lw_all := lw_g (lw_at lw_m1 29 rfl) rfl
theorem q53 : (Jvm.Cond.lays "ChunkCluster" "ChunkCluster" "lastVersion" "I") ∈ lw_all := lw_g (lw_at lw_m1 30 rfl) rfl
theorem q54 : (Jvm.Cond.soleField "ChunkCluster" "lastVersion") ∈ lw_all := lw_g (lw_at lw_m1 31 rfl) rfl
theorem q55 : (Jvm.Cond.laysFinal "ChunkCluster" "ChunkCluster" "blockOf" "[I") ∈ lw_all := lw_g (lw_at lw_m1 32 rfl) rfl
theorem q56 : (Jvm.Cond.soleField "ChunkCluster" "blockOf") ∈ lw_all := lw_g (lw_at lw_m1 33 rfl) rfl
theorem q57 : (Jvm.Cond.laysFinal "ChunkCluster" "ChunkCluster" "versionOf" "[I") ∈ lw_all := lw_g (lw_at lw_m1 34 rfl) rfl
theorem q58 : (Jvm.Cond.soleField "ChunkCluster" "versionOf") ∈ lw_all := lw_g (lw_at lw_m1 35 rfl) rfl
theorem q59 : (Jvm.Cond.laysFinal "ChunkCluster" "ChunkCluster" "cells" "[I") ∈ lw_all := lw_g (lw_at lw_m1 36 rfl) rfl
theorem q60 : (Jvm.Cond.soleField "ChunkCluster" "cells") ∈ lw_all := lw_g (lw_at lw_m1 37 rfl) rfl
theorem q61 : (Jvm.Cond.laysFinal "ChunkCluster" "ChunkCluster" "lengthOf" "[I") ∈ lw_all := lw_g (lw_at lw_m1 38 rfl) rfl
theorem q62 : (Jvm.Cond.soleField "ChunkCluster" "lengthOf") ∈ lw_all := lw_g (lw_at lw_m1 39 rfl) rfl
theorem q63 : (Jvm.Cond.laysFinal "ChunkCluster" "ChunkCluster" "check" "[I") ∈ lw_all := lw_g (lw_at lw_m1 40 rfl) rfl
theorem q64 : (Jvm.Cond.soleField "ChunkCluster" "check") ∈ lw_all := lw_g (lw_at lw_m1 41 rfl) rfl
theorem q65 : (Jvm.Cond.laysFinal "ChunkCluster" "ChunkCluster" "holders" "[I") ∈ lw_all := lw_g (lw_at lw_m1 42 rfl) rfl
theorem q66 : (Jvm.Cond.soleField "ChunkCluster" "holders") ∈ lw_all := lw_g (lw_at lw_m1 43 rfl) rfl
theorem q67 : (Jvm.Cond.superclass "ChunkCluster" "java/lang/Object") ∈ lw_all := lw_g (lw_at lw_m1 44 rfl) rfl
theorem q71 : (Jvm.Cond.instanceMethod ({ cls := "ChunkCluster", name := "create", desc := "(I)I" } : Jvm.MethodName)) ∈ lw_all := lw_g (lw_at lw_m1 48 rfl) rfl
theorem q72 : (Jvm.Cond.selects "ChunkCluster" ({ cls := "ChunkCluster", name := "create", desc := "(I)I" } : Jvm.MethodName) ({ cls := "ChunkCluster", name := "create", desc := "(I)I" } : Jvm.MethodName)) ∈ lw_all := lw_g (lw_at lw_m1 49 rfl) rfl
theorem q73 : (Jvm.Cond.code ({ cls := "ChunkCluster", name := "create", desc := "(I)I" } : Jvm.MethodName) prog_1_method_18_code (8 : Nat) (Option.some Jvm.ClassFile.FieldType.int)) ∈ lw_all := lw_g (lw_at lw_m1 50 rfl) rfl
theorem q74 : (Jvm.Cond.methodLink "ChunkCluster" (67 : Nat) ({ cls := "ChunkCluster", name := "badFile", desc := "(I)Z" } : Jvm.MethodName)) ∈ lw_all := lw_g (lw_at lw_m1 51 rfl) rfl
theorem q75 : (Jvm.Cond.static ({ cls := "ChunkCluster", name := "badFile", desc := "(I)Z" } : Jvm.MethodName)) ∈ lw_all := lw_g (lw_at lw_m1 52 rfl) rfl
theorem q76 : (Jvm.Cond.code ({ cls := "ChunkCluster", name := "badFile", desc := "(I)Z" } : Jvm.MethodName) prog_1_method_3_code (1 : Nat) (Option.some Jvm.ClassFile.FieldType.boolean)) ∈ lw_all := lw_g (lw_at lw_m1 53 rfl) rfl
theorem q77 : (Jvm.Cond.methodLink "ChunkCluster" (71 : Nat) ({ cls := "ChunkCluster", name := "upSet", desc := "()I" } : Jvm.MethodName)) ∈ lw_all := lw_g (lw_at lw_m1 54 rfl) rfl
theorem q78 : (Jvm.Cond.privateMethod ({ cls := "ChunkCluster", name := "upSet", desc := "()I" } : Jvm.MethodName)) ∈ lw_tbl := lw_at lw_m1 55 rfl
theorem q79 : (Jvm.Cond.instanceMethod ({ cls := "ChunkCluster", name := "upSet", desc := "()I" } : Jvm.MethodName)) ∈ lw_all := lw_g (lw_at lw_m1 56 rfl) rfl
theorem q80 : (Jvm.Cond.code ({ cls := "ChunkCluster", name := "upSet", desc := "()I" } : Jvm.MethodName) prog_1_method_12_code (3 : Nat) (Option.some Jvm.ClassFile.FieldType.int)) ∈ lw_all := lw_g (lw_at lw_m1 57 rfl) rfl
theorem q81 : (Jvm.Cond.methodLink "ChunkCluster" (75 : Nat) ({ cls := "ChunkCluster", name := "newVersion", desc := "(I)V" } : Jvm.MethodName)) ∈ lw_all := lw_g (lw_at lw_m1 58 rfl) rfl
theorem q82 : (Jvm.Cond.privateMethod ({ cls := "ChunkCluster", name := "newVersion", desc := "(I)V" } : Jvm.MethodName)) ∈ lw_tbl := lw_at lw_m1 59 rfl
theorem q83 : (Jvm.Cond.instanceMethod ({ cls := "ChunkCluster", name := "newVersion", desc := "(I)V" } : Jvm.MethodName)) ∈ lw_all := lw_g (lw_at lw_m1 60 rfl) rfl
theorem q84 : (Jvm.Cond.code ({ cls := "ChunkCluster", name := "newVersion", desc := "(I)V" } : Jvm.MethodName) prog_1_method_17_code (2 : Nat) (Option.none : Option Jvm.ClassFile.FieldType)) ∈ lw_all := lw_g (lw_at lw_m1 61 rfl) rfl
theorem q85 : (Jvm.Cond.methodLink "ChunkCluster" (79 : Nat) ({ cls := "ChunkCluster", name := "firstOf", desc := "(I)I" } : Jvm.MethodName)) ∈ lw_all := lw_g (lw_at lw_m1 62 rfl) rfl
theorem q86 : (Jvm.Cond.privateMethod ({ cls := "ChunkCluster", name := "firstOf", desc := "(I)I" } : Jvm.MethodName)) ∈ lw_tbl := lw_at lw_m1 63 rfl
theorem q87 : (Jvm.Cond.instanceMethod ({ cls := "ChunkCluster", name := "firstOf", desc := "(I)I" } : Jvm.MethodName)) ∈ lw_all := lw_g (lw_at lw_m1 64 rfl) rfl
theorem q88 : (Jvm.Cond.code ({ cls := "ChunkCluster", name := "firstOf", desc := "(I)I" } : Jvm.MethodName) prog_1_method_16_code (6 : Nat) (Option.some Jvm.ClassFile.FieldType.int)) ∈ lw_all := lw_g (lw_at lw_m1 65 rfl) rfl
theorem q89 : (Jvm.Cond.methodLink "ChunkCluster" (61 : Nat) ({ cls := "ChunkCluster", name := "loadOf", desc := "(I)I" } : Jvm.MethodName)) ∈ lw_all := lw_g (lw_at lw_m1 66 rfl) rfl
theorem q90 : (Jvm.Cond.privateMethod ({ cls := "ChunkCluster", name := "loadOf", desc := "(I)I" } : Jvm.MethodName)) ∈ lw_tbl := lw_at lw_m1 67 rfl
theorem q91 : (Jvm.Cond.instanceMethod ({ cls := "ChunkCluster", name := "loadOf", desc := "(I)I" } : Jvm.MethodName)) ∈ lw_all := lw_g (lw_at lw_m1 68 rfl) rfl
theorem q92 : (Jvm.Cond.code ({ cls := "ChunkCluster", name := "loadOf", desc := "(I)I" } : Jvm.MethodName) prog_1_method_15_code (5 : Nat) (Option.some Jvm.ClassFile.FieldType.int)) ∈ lw_all := lw_g (lw_at lw_m1 69 rfl) rfl
theorem q93 : (Jvm.Cond.methodLink "ChunkCluster" (57 : Nat) ({ cls := "ChunkCluster", name := "current", desc := "(II)Z" } : Jvm.MethodName)) ∈ lw_all := lw_g (lw_at lw_m1 70 rfl) rfl
theorem q94 : (Jvm.Cond.privateMethod ({ cls := "ChunkCluster", name := "current", desc := "(II)Z" } : Jvm.MethodName)) ∈ lw_tbl := lw_at lw_m1 71 rfl
theorem q95 : (Jvm.Cond.instanceMethod ({ cls := "ChunkCluster", name := "current", desc := "(II)Z" } : Jvm.MethodName)) ∈ lw_all := lw_g (lw_at lw_m1 72 rfl) rfl
theorem q96 : (Jvm.Cond.code ({ cls := "ChunkCluster", name := "current", desc := "(II)Z" } : Jvm.MethodName) prog_1_method_10_code (5 : Nat) (Option.some Jvm.ClassFile.FieldType.boolean)) ∈ lw_all := lw_g (lw_at lw_m1 73 rfl) rfl
theorem q97 : (Jvm.Cond.methodLink "ChunkCluster" (54 : Nat) ({ cls := "ChunkCluster", name := "sumOf", desc := "(I)I" } : Jvm.MethodName)) ∈ lw_all := lw_g (lw_at lw_m1 74 rfl) rfl
theorem q98 : (Jvm.Cond.privateMethod ({ cls := "ChunkCluster", name := "sumOf", desc := "(I)I" } : Jvm.MethodName)) ∈ lw_tbl := lw_at lw_m1 75 rfl
theorem q99 : (Jvm.Cond.instanceMethod ({ cls := "ChunkCluster", name := "sumOf", desc := "(I)I" } : Jvm.MethodName)) ∈ lw_all := lw_g (lw_at lw_m1 76 rfl) rfl
theorem q100 : (Jvm.Cond.code ({ cls := "ChunkCluster", name := "sumOf", desc := "(I)I" } : Jvm.MethodName) prog_1_method_4_code (4 : Nat) (Option.some Jvm.ClassFile.FieldType.int)) ∈ lw_all := lw_g (lw_at lw_m1 77 rfl) rfl
theorem q101 : (Jvm.Cond.constant "ChunkCluster" (42 : Nat) (16777619 : Int32)) ∈ lw_all := lw_g (lw_at lw_m1 78 rfl) rfl
theorem q102 : (Jvm.Cond.methodLink "ChunkCluster" (82 : Nat) ({ cls := "ChunkCluster", name := "newReplica", desc := "(II)I" } : Jvm.MethodName)) ∈ lw_all := lw_g (lw_at lw_m1 79 rfl) rfl
theorem q103 : (Jvm.Cond.privateMethod ({ cls := "ChunkCluster", name := "newReplica", desc := "(II)I" } : Jvm.MethodName)) ∈ lw_tbl := lw_at lw_m1 80 rfl
theorem q104 : (Jvm.Cond.instanceMethod ({ cls := "ChunkCluster", name := "newReplica", desc := "(II)I" } : Jvm.MethodName)) ∈ lw_all := lw_g (lw_at lw_m1 81 rfl) rfl
theorem q105 : (Jvm.Cond.code ({ cls := "ChunkCluster", name := "newReplica", desc := "(II)I" } : Jvm.MethodName) prog_1_method_9_code (4 : Nat) (Option.some Jvm.ClassFile.FieldType.int)) ∈ lw_all := lw_g (lw_at lw_m1 82 rfl) rfl
theorem q106 : (Jvm.Cond.methodLink "ChunkCluster" (51 : Nat) ({ cls := "ChunkCluster", name := "letGo", desc := "(II)V" } : Jvm.MethodName)) ∈ lw_all := lw_g (lw_at lw_m1 83 rfl) rfl
theorem q107 : (Jvm.Cond.privateMethod ({ cls := "ChunkCluster", name := "letGo", desc := "(II)V" } : Jvm.MethodName)) ∈ lw_tbl := lw_at lw_m1 84 rfl
theorem q108 : (Jvm.Cond.instanceMethod ({ cls := "ChunkCluster", name := "letGo", desc := "(II)V" } : Jvm.MethodName)) ∈ lw_all := lw_g (lw_at lw_m1 85 rfl) rfl
theorem q109 : (Jvm.Cond.code ({ cls := "ChunkCluster", name := "letGo", desc := "(II)V" } : Jvm.MethodName) prog_1_method_5_code (4 : Nat) (Option.none : Option Jvm.ClassFile.FieldType)) ∈ lw_all := lw_g (lw_at lw_m1 86 rfl) rfl
theorem q110 : (Jvm.Cond.methodLink "ChunkCluster" (43 : Nat) ({ cls := "ChunkCluster", name := "freeBlock", desc := "(I)I" } : Jvm.MethodName)) ∈ lw_all := lw_g (lw_at lw_m1 87 rfl) rfl
theorem q111 : (Jvm.Cond.privateMethod ({ cls := "ChunkCluster", name := "freeBlock", desc := "(I)I" } : Jvm.MethodName)) ∈ lw_tbl := lw_at lw_m1 88 rfl
theorem q112 : (Jvm.Cond.instanceMethod ({ cls := "ChunkCluster", name := "freeBlock", desc := "(I)I" } : Jvm.MethodName)) ∈ lw_all := lw_g (lw_at lw_m1 89 rfl) rfl
theorem q113 : (Jvm.Cond.code ({ cls := "ChunkCluster", name := "freeBlock", desc := "(I)I" } : Jvm.MethodName) prog_1_method_6_code (3 : Nat) (Option.some Jvm.ClassFile.FieldType.int)) ∈ lw_all := lw_g (lw_at lw_m1 90 rfl) rfl
theorem q115 : (Jvm.Cond.instanceMethod ({ cls := "ChunkCluster", name := "remove", desc := "(I)I" } : Jvm.MethodName)) ∈ lw_all := lw_g (lw_at lw_m1 92 rfl) rfl
theorem q116 : (Jvm.Cond.selects "ChunkCluster" ({ cls := "ChunkCluster", name := "remove", desc := "(I)I" } : Jvm.MethodName) ({ cls := "ChunkCluster", name := "remove", desc := "(I)I" } : Jvm.MethodName)) ∈ lw_all := lw_g (lw_at lw_m1 93 rfl) rfl
theorem q117 : (Jvm.Cond.code ({ cls := "ChunkCluster", name := "remove", desc := "(I)I" } : Jvm.MethodName) prog_1_method_19_code (3 : Nat) (Option.some Jvm.ClassFile.FieldType.int)) ∈ lw_all := lw_g (lw_at lw_m1 94 rfl) rfl
theorem q119 : (Jvm.Cond.instanceMethod ({ cls := "ChunkCluster", name := "write", desc := "(III)I" } : Jvm.MethodName)) ∈ lw_all := lw_g (lw_at lw_m1 96 rfl) rfl
theorem q120 : (Jvm.Cond.selects "ChunkCluster" ({ cls := "ChunkCluster", name := "write", desc := "(III)I" } : Jvm.MethodName) ({ cls := "ChunkCluster", name := "write", desc := "(III)I" } : Jvm.MethodName)) ∈ lw_all := lw_g (lw_at lw_m1 97 rfl) rfl
theorem q121 : (Jvm.Cond.code ({ cls := "ChunkCluster", name := "write", desc := "(III)I" } : Jvm.MethodName) prog_1_method_22_code (5 : Nat) (Option.some Jvm.ClassFile.FieldType.int)) ∈ lw_all := lw_g (lw_at lw_m1 98 rfl) rfl
theorem q122 : (Jvm.Cond.methodLink "ChunkCluster" (98 : Nat) ({ cls := "ChunkCluster", name := "refusal", desc := "(I)I" } : Jvm.MethodName)) ∈ lw_all := lw_g (lw_at lw_m1 99 rfl) rfl
theorem q123 : (Jvm.Cond.privateMethod ({ cls := "ChunkCluster", name := "refusal", desc := "(I)I" } : Jvm.MethodName)) ∈ lw_tbl := lw_at lw_m1 100 rfl
theorem q124 : (Jvm.Cond.instanceMethod ({ cls := "ChunkCluster", name := "refusal", desc := "(I)I" } : Jvm.MethodName)) ∈ lw_all := lw_g (lw_at lw_m1 101 rfl) rfl
theorem q125 : (Jvm.Cond.code ({ cls := "ChunkCluster", name := "refusal", desc := "(I)I" } : Jvm.MethodName) prog_1_method_20_code (3 : Nat) (Option.some Jvm.ClassFile.FieldType.int)) ∈ lw_all := lw_g (lw_at lw_m1 102 rfl) rfl
theorem q126 : (Jvm.Cond.methodLink "ChunkCluster" (86 : Nat) ({ cls := "ChunkCluster", name := "source", desc := "(I)I" } : Jvm.MethodName)) ∈ lw_all := lw_g (lw_at lw_m1 103 rfl) rfl
theorem q127 : (Jvm.Cond.privateMethod ({ cls := "ChunkCluster", name := "source", desc := "(I)I" } : Jvm.MethodName)) ∈ lw_tbl := lw_at lw_m1 104 rfl
theorem q128 : (Jvm.Cond.instanceMethod ({ cls := "ChunkCluster", name := "source", desc := "(I)I" } : Jvm.MethodName)) ∈ lw_all := lw_g (lw_at lw_m1 105 rfl) rfl
theorem q129 : (Jvm.Cond.code ({ cls := "ChunkCluster", name := "source", desc := "(I)I" } : Jvm.MethodName) prog_1_method_14_code (4 : Nat) (Option.some Jvm.ClassFile.FieldType.int)) ∈ lw_all := lw_g (lw_at lw_m1 106 rfl) rfl
theorem q130 : (Jvm.Cond.methodLink "ChunkCluster" (101 : Nat) ({ cls := "ChunkCluster", name := "mutate", desc := "(III)I" } : Jvm.MethodName)) ∈ lw_all := lw_g (lw_at lw_m1 107 rfl) rfl
theorem q131 : (Jvm.Cond.privateMethod ({ cls := "ChunkCluster", name := "mutate", desc := "(III)I" } : Jvm.MethodName)) ∈ lw_tbl := lw_at lw_m1 108 rfl
theorem q132 : (Jvm.Cond.instanceMethod ({ cls := "ChunkCluster", name := "mutate", desc := "(III)I" } : Jvm.MethodName)) ∈ lw_all := lw_g (lw_at lw_m1 109 rfl) rfl
theorem q133 : (Jvm.Cond.code ({ cls := "ChunkCluster", name := "mutate", desc := "(III)I" } : Jvm.MethodName) prog_1_method_21_code (8 : Nat) (Option.some Jvm.ClassFile.FieldType.int)) ∈ lw_all := lw_g (lw_at lw_m1 110 rfl) rfl
theorem q134 : (Jvm.Cond.methodLink "ChunkCluster" (89 : Nat) ({ cls := "ChunkCluster", name := "currentSet", desc := "(I)I" } : Jvm.MethodName)) ∈ lw_all := lw_g (lw_at lw_m1 111 rfl) rfl
theorem q135 : (Jvm.Cond.privateMethod ({ cls := "ChunkCluster", name := "currentSet", desc := "(I)I" } : Jvm.MethodName)) ∈ lw_tbl := lw_at lw_m1 112 rfl
theorem q136 : (Jvm.Cond.instanceMethod ({ cls := "ChunkCluster", name := "currentSet", desc := "(I)I" } : Jvm.MethodName)) ∈ lw_all := lw_g (lw_at lw_m1 113 rfl) rfl
theorem q137 : (Jvm.Cond.code ({ cls := "ChunkCluster", name := "currentSet", desc := "(I)I" } : Jvm.MethodName) prog_1_method_11_code (5 : Nat) (Option.some Jvm.ClassFile.FieldType.int)) ∈ lw_all := lw_g (lw_at lw_m1 114 rfl) rfl
theorem q138 : (Jvm.Cond.methodLink "ChunkCluster" (92 : Nat) ({ cls := "ChunkCluster", name := "ownBlock", desc := "(II)I" } : Jvm.MethodName)) ∈ lw_all := lw_g (lw_at lw_m1 115 rfl) rfl
theorem q139 : (Jvm.Cond.privateMethod ({ cls := "ChunkCluster", name := "ownBlock", desc := "(II)I" } : Jvm.MethodName)) ∈ lw_tbl := lw_at lw_m1 116 rfl
theorem q140 : (Jvm.Cond.instanceMethod ({ cls := "ChunkCluster", name := "ownBlock", desc := "(II)I" } : Jvm.MethodName)) ∈ lw_all := lw_g (lw_at lw_m1 117 rfl) rfl
theorem q141 : (Jvm.Cond.code ({ cls := "ChunkCluster", name := "ownBlock", desc := "(II)I" } : Jvm.MethodName) prog_1_method_7_code (5 : Nat) (Option.some Jvm.ClassFile.FieldType.int)) ∈ lw_all := lw_g (lw_at lw_m1 118 rfl) rfl
theorem q142 : (Jvm.Cond.methodLink "ChunkCluster" (47 : Nat) ({ cls := "ChunkCluster", name := "copyBlock", desc := "(II)V" } : Jvm.MethodName)) ∈ lw_all := lw_g (lw_at lw_m1 119 rfl) rfl
theorem q143 : (Jvm.Cond.privateMethod ({ cls := "ChunkCluster", name := "copyBlock", desc := "(II)V" } : Jvm.MethodName)) ∈ lw_tbl := lw_at lw_m1 120 rfl
theorem q144 : (Jvm.Cond.instanceMethod ({ cls := "ChunkCluster", name := "copyBlock", desc := "(II)V" } : Jvm.MethodName)) ∈ lw_all := lw_g (lw_at lw_m1 121 rfl) rfl
theorem q145 : (Jvm.Cond.code ({ cls := "ChunkCluster", name := "copyBlock", desc := "(II)V" } : Jvm.MethodName) prog_1_method_8_code (4 : Nat) (Option.none : Option Jvm.ClassFile.FieldType)) ∈ lw_all := lw_g (lw_at lw_m1 122 rfl) rfl
theorem q146 : (Jvm.Cond.methodLink "ChunkCluster" (95 : Nat) ({ cls := "ChunkCluster", name := "bits", desc := "(I)I" } : Jvm.MethodName)) ∈ lw_all := lw_g (lw_at lw_m1 123 rfl) rfl
theorem q147 : (Jvm.Cond.static ({ cls := "ChunkCluster", name := "bits", desc := "(I)I" } : Jvm.MethodName)) ∈ lw_all := lw_g (lw_at lw_m1 124 rfl) rfl
theorem q148 : (Jvm.Cond.code ({ cls := "ChunkCluster", name := "bits", desc := "(I)I" } : Jvm.MethodName) prog_1_method_13_code (3 : Nat) (Option.some Jvm.ClassFile.FieldType.int)) ∈ lw_all := lw_g (lw_at lw_m1 125 rfl) rfl
theorem q150 : (Jvm.Cond.instanceMethod ({ cls := "ChunkCluster", name := "append", desc := "(II)I" } : Jvm.MethodName)) ∈ lw_all := lw_g (lw_at lw_m1 127 rfl) rfl
theorem q151 : (Jvm.Cond.selects "ChunkCluster" ({ cls := "ChunkCluster", name := "append", desc := "(II)I" } : Jvm.MethodName) ({ cls := "ChunkCluster", name := "append", desc := "(II)I" } : Jvm.MethodName)) ∈ lw_all := lw_g (lw_at lw_m1 128 rfl) rfl
theorem q152 : (Jvm.Cond.code ({ cls := "ChunkCluster", name := "append", desc := "(II)I" } : Jvm.MethodName) prog_1_method_23_code (6 : Nat) (Option.some Jvm.ClassFile.FieldType.int)) ∈ lw_all := lw_g (lw_at lw_m1 129 rfl) rfl
theorem q154 : (Jvm.Cond.instanceMethod ({ cls := "ChunkCluster", name := "snapshot", desc := "(II)I" } : Jvm.MethodName)) ∈ lw_all := lw_g (lw_at lw_m1 131 rfl) rfl
theorem q155 : (Jvm.Cond.selects "ChunkCluster" ({ cls := "ChunkCluster", name := "snapshot", desc := "(II)I" } : Jvm.MethodName) ({ cls := "ChunkCluster", name := "snapshot", desc := "(II)I" } : Jvm.MethodName)) ∈ lw_all := lw_g (lw_at lw_m1 132 rfl) rfl
theorem q156 : (Jvm.Cond.code ({ cls := "ChunkCluster", name := "snapshot", desc := "(II)I" } : Jvm.MethodName) prog_1_method_24_code (7 : Nat) (Option.some Jvm.ClassFile.FieldType.int)) ∈ lw_all := lw_g (lw_at lw_m1 133 rfl) rfl
theorem q158 : (Jvm.Cond.instanceMethod ({ cls := "ChunkCluster", name := "crash", desc := "(I)I" } : Jvm.MethodName)) ∈ lw_all := lw_g (lw_at lw_m1 135 rfl) rfl
theorem q159 : (Jvm.Cond.selects "ChunkCluster" ({ cls := "ChunkCluster", name := "crash", desc := "(I)I" } : Jvm.MethodName) ({ cls := "ChunkCluster", name := "crash", desc := "(I)I" } : Jvm.MethodName)) ∈ lw_all := lw_g (lw_at lw_m1 136 rfl) rfl
theorem q160 : (Jvm.Cond.code ({ cls := "ChunkCluster", name := "crash", desc := "(I)I" } : Jvm.MethodName) prog_1_method_25_code (3 : Nat) (Option.some Jvm.ClassFile.FieldType.int)) ∈ lw_all := lw_g (lw_at lw_m1 137 rfl) rfl
theorem q161 : (Jvm.Cond.methodLink "ChunkCluster" (105 : Nat) ({ cls := "ChunkCluster", name := "badServer", desc := "(I)Z" } : Jvm.MethodName)) ∈ lw_all := lw_g (lw_at lw_m1 138 rfl) rfl
theorem q162 : (Jvm.Cond.static ({ cls := "ChunkCluster", name := "badServer", desc := "(I)Z" } : Jvm.MethodName)) ∈ lw_all := lw_g (lw_at lw_m1 139 rfl) rfl
theorem q163 : (Jvm.Cond.code ({ cls := "ChunkCluster", name := "badServer", desc := "(I)Z" } : Jvm.MethodName) prog_1_method_2_code (1 : Nat) (Option.some Jvm.ClassFile.FieldType.boolean)) ∈ lw_all := lw_g (lw_at lw_m1 140 rfl) rfl
theorem q165 : (Jvm.Cond.instanceMethod ({ cls := "ChunkCluster", name := "restart", desc := "(I)I" } : Jvm.MethodName)) ∈ lw_all := lw_g (lw_at lw_m1 142 rfl) rfl
theorem q166 : (Jvm.Cond.selects "ChunkCluster" ({ cls := "ChunkCluster", name := "restart", desc := "(I)I" } : Jvm.MethodName) ({ cls := "ChunkCluster", name := "restart", desc := "(I)I" } : Jvm.MethodName)) ∈ lw_all := lw_g (lw_at lw_m1 143 rfl) rfl
theorem q167 : (Jvm.Cond.code ({ cls := "ChunkCluster", name := "restart", desc := "(I)I" } : Jvm.MethodName) prog_1_method_26_code (4 : Nat) (Option.some Jvm.ClassFile.FieldType.int)) ∈ lw_all := lw_g (lw_at lw_m1 144 rfl) rfl
theorem q169 : (Jvm.Cond.instanceMethod ({ cls := "ChunkCluster", name := "loseDisk", desc := "(I)I" } : Jvm.MethodName)) ∈ lw_all := lw_g (lw_at lw_m1 146 rfl) rfl
theorem q170 : (Jvm.Cond.selects "ChunkCluster" ({ cls := "ChunkCluster", name := "loseDisk", desc := "(I)I" } : Jvm.MethodName) ({ cls := "ChunkCluster", name := "loseDisk", desc := "(I)I" } : Jvm.MethodName)) ∈ lw_all := lw_g (lw_at lw_m1 147 rfl) rfl
theorem q171 : (Jvm.Cond.code ({ cls := "ChunkCluster", name := "loseDisk", desc := "(I)I" } : Jvm.MethodName) prog_1_method_27_code (4 : Nat) (Option.some Jvm.ClassFile.FieldType.int)) ∈ lw_all := lw_g (lw_at lw_m1 148 rfl) rfl
theorem q173 : (Jvm.Cond.instanceMethod ({ cls := "ChunkCluster", name := "damage", desc := "(II)I" } : Jvm.MethodName)) ∈ lw_all := lw_g (lw_at lw_m1 150 rfl) rfl
theorem q174 : (Jvm.Cond.selects "ChunkCluster" ({ cls := "ChunkCluster", name := "damage", desc := "(II)I" } : Jvm.MethodName) ({ cls := "ChunkCluster", name := "damage", desc := "(II)I" } : Jvm.MethodName)) ∈ lw_all := lw_g (lw_at lw_m1 151 rfl) rfl
theorem q175 : (Jvm.Cond.code ({ cls := "ChunkCluster", name := "damage", desc := "(II)I" } : Jvm.MethodName) prog_1_method_28_code (5 : Nat) (Option.some Jvm.ClassFile.FieldType.int)) ∈ lw_all := lw_g (lw_at lw_m1 152 rfl) rfl
theorem q177 : (Jvm.Cond.instanceMethod ({ cls := "ChunkCluster", name := "heal", desc := "()I" } : Jvm.MethodName)) ∈ lw_all := lw_g (lw_at lw_m1 154 rfl) rfl
theorem q178 : (Jvm.Cond.selects "ChunkCluster" ({ cls := "ChunkCluster", name := "heal", desc := "()I" } : Jvm.MethodName) ({ cls := "ChunkCluster", name := "heal", desc := "()I" } : Jvm.MethodName)) ∈ lw_all := lw_g (lw_at lw_m1 155 rfl) rfl
theorem q179 : (Jvm.Cond.code ({ cls := "ChunkCluster", name := "heal", desc := "()I" } : Jvm.MethodName) prog_1_method_30_code (3 : Nat) (Option.some Jvm.ClassFile.FieldType.int)) ∈ lw_all := lw_g (lw_at lw_m1 156 rfl) rfl
theorem q180 : (Jvm.Cond.methodLink "ChunkCluster" (108 : Nat) ({ cls := "ChunkCluster", name := "healFile", desc := "(I)I" } : Jvm.MethodName)) ∈ lw_all := lw_g (lw_at lw_m1 157 rfl) rfl
theorem q181 : (Jvm.Cond.privateMethod ({ cls := "ChunkCluster", name := "healFile", desc := "(I)I" } : Jvm.MethodName)) ∈ lw_tbl := lw_at lw_m1 158 rfl
theorem q182 : (Jvm.Cond.instanceMethod ({ cls := "ChunkCluster", name := "healFile", desc := "(I)I" } : Jvm.MethodName)) ∈ lw_all := lw_g (lw_at lw_m1 159 rfl) rfl
theorem q183 : (Jvm.Cond.code ({ cls := "ChunkCluster", name := "healFile", desc := "(I)I" } : Jvm.MethodName) prog_1_method_29_code (10 : Nat) (Option.some Jvm.ClassFile.FieldType.int)) ∈ lw_all := lw_g (lw_at lw_m1 160 rfl) rfl
theorem q185 : (Jvm.Cond.instanceMethod ({ cls := "ChunkCluster", name := "read", desc := "(II)I" } : Jvm.MethodName)) ∈ lw_all := lw_g (lw_at lw_m1 162 rfl) rfl
theorem q186 : (Jvm.Cond.selects "ChunkCluster" ({ cls := "ChunkCluster", name := "read", desc := "(II)I" } : Jvm.MethodName) ({ cls := "ChunkCluster", name := "read", desc := "(II)I" } : Jvm.MethodName)) ∈ lw_all := lw_g (lw_at lw_m1 163 rfl) rfl
theorem q187 : (Jvm.Cond.code ({ cls := "ChunkCluster", name := "read", desc := "(II)I" } : Jvm.MethodName) prog_1_method_31_code (5 : Nat) (Option.some Jvm.ClassFile.FieldType.int)) ∈ lw_all := lw_g (lw_at lw_m1 164 rfl) rfl
theorem q189 : (Jvm.Cond.instanceMethod ({ cls := "ChunkCluster", name := "length", desc := "(I)I" } : Jvm.MethodName)) ∈ lw_all := lw_g (lw_at lw_m1 166 rfl) rfl
theorem q190 : (Jvm.Cond.selects "ChunkCluster" ({ cls := "ChunkCluster", name := "length", desc := "(I)I" } : Jvm.MethodName) ({ cls := "ChunkCluster", name := "length", desc := "(I)I" } : Jvm.MethodName)) ∈ lw_all := lw_g (lw_at lw_m1 167 rfl) rfl
theorem q191 : (Jvm.Cond.code ({ cls := "ChunkCluster", name := "length", desc := "(I)I" } : Jvm.MethodName) prog_1_method_32_code (4 : Nat) (Option.some Jvm.ClassFile.FieldType.int)) ∈ lw_all := lw_g (lw_at lw_m1 168 rfl) rfl
theorem q193 : (Jvm.Cond.instanceMethod ({ cls := "ChunkCluster", name := "replicas", desc := "(I)I" } : Jvm.MethodName)) ∈ lw_all := lw_g (lw_at lw_m1 170 rfl) rfl
theorem q194 : (Jvm.Cond.selects "ChunkCluster" ({ cls := "ChunkCluster", name := "replicas", desc := "(I)I" } : Jvm.MethodName) ({ cls := "ChunkCluster", name := "replicas", desc := "(I)I" } : Jvm.MethodName)) ∈ lw_all := lw_g (lw_at lw_m1 171 rfl) rfl
theorem q195 : (Jvm.Cond.code ({ cls := "ChunkCluster", name := "replicas", desc := "(I)I" } : Jvm.MethodName) prog_1_method_33_code (2 : Nat) (Option.some Jvm.ClassFile.FieldType.int)) ∈ lw_all := lw_g (lw_at lw_m1 172 rfl) rfl
theorem in_X1 : ∀ w ∈ wsX10, w ∈ lw_all := lw_in wsX10 [45, 47, 49, 51, 53, 55, 57, 59, 61, 63, 65] (by decide +kernel) (by decide +kernel)
/-! ChunkClusterModel -/
def RX2 : String := "ChunkClusterModel"
def TX2 : u_T := fun k => match k with
  | 0 => ("ChunkClusterModel", "wanted", "I", true)
  | 1 => ("ChunkClusterModel", "down", "[Z", true)
  | 2 => ("ChunkClusterModel", "exists", "[Z", true)
  | 3 => ("ChunkClusterModel", "lengths", "[I", true)
  | 4 => ("ChunkClusterModel", "cells", "[I", true)
  | _ => ("ChunkClusterModel", "current", "[Z", true)
def tyX2 : Nat → FieldType := fun k => match k with
  | 0 => .int
  | 1 => .array .boolean
  | 2 => .array .boolean
  | 3 => .array .int
  | 4 => .array .int
  | _ => .array .boolean
abbrev wsX20 : List Cond := u_ws RX2 TX2 6
theorem nmX2 : ∀ a, a < 6 → ∀ b, b < 6 → a ≠ b → (TX2 a).2.1 ≠ (TX2 b).2.1 := by decide +kernel
theorem tyX2_ok : ∀ k, k < 6 → parseFieldDescriptor (TX2 k).2.2.1 = some (tyX2 k) := by decide +kernel
abbrev cX2_init : ByteArray := prog_3_method_1_code
def yX2_init : MethodName := ⟨RX2, "<init>", "(I)V"⟩
abbrev cX2_create : ByteArray := prog_3_method_8_code
def yX2_create : MethodName := ⟨RX2, "create", "(I)I"⟩
abbrev cX2_isFile : ByteArray := prog_3_method_2_code
def yX2_isFile : MethodName := ⟨RX2, "isFile", "(I)Z"⟩
abbrev cX2_nextServer : ByteArray := prog_3_method_6_code
def yX2_nextServer : MethodName := ⟨RX2, "nextServer", "(I)I"⟩
abbrev cX2_load : ByteArray := prog_3_method_4_code
def yX2_load : MethodName := ⟨RX2, "load", "(I)I"⟩
abbrev cX2_fill : ByteArray := prog_3_method_7_code
def yX2_fill : MethodName := ⟨RX2, "fill", "(I)I"⟩
abbrev cX2_holders : ByteArray := prog_3_method_5_code
def yX2_holders : MethodName := ⟨RX2, "holders", "(IZ)I"⟩
abbrev cX2_remove : ByteArray := prog_3_method_9_code
def yX2_remove : MethodName := ⟨RX2, "remove", "(I)I"⟩
abbrev cX2_write : ByteArray := prog_3_method_11_code
def yX2_write : MethodName := ⟨RX2, "write", "(III)I"⟩
abbrev cX2_refusal : ByteArray := prog_3_method_10_code
def yX2_refusal : MethodName := ⟨RX2, "refusal", "(I)I"⟩
abbrev cX2_append : ByteArray := prog_3_method_12_code
def yX2_append : MethodName := ⟨RX2, "append", "(II)I"⟩
abbrev cX2_snapshot : ByteArray := prog_3_method_13_code
def yX2_snapshot : MethodName := ⟨RX2, "snapshot", "(II)I"⟩
abbrev cX2_crash : ByteArray := prog_3_method_14_code
def yX2_crash : MethodName := ⟨RX2, "crash", "(I)I"⟩
abbrev cX2_isServer : ByteArray := prog_3_method_3_code
def yX2_isServer : MethodName := ⟨RX2, "isServer", "(I)Z"⟩
abbrev cX2_restart : ByteArray := prog_3_method_15_code
def yX2_restart : MethodName := ⟨RX2, "restart", "(I)I"⟩
abbrev cX2_loseDisk : ByteArray := prog_3_method_16_code
def yX2_loseDisk : MethodName := ⟨RX2, "loseDisk", "(I)I"⟩
abbrev cX2_damage : ByteArray := prog_3_method_17_code
def yX2_damage : MethodName := ⟨RX2, "damage", "(II)I"⟩
abbrev cX2_heal : ByteArray := prog_3_method_18_code
def yX2_heal : MethodName := ⟨RX2, "heal", "()I"⟩
abbrev cX2_read : ByteArray := prog_3_method_19_code
def yX2_read : MethodName := ⟨RX2, "read", "(II)I"⟩
abbrev cX2_length : ByteArray := prog_3_method_20_code
def yX2_length : MethodName := ⟨RX2, "length", "(I)I"⟩
abbrev cX2_replicas : ByteArray := prog_3_method_21_code
def yX2_replicas : MethodName := ⟨RX2, "replicas", "(I)I"⟩
theorem q25 : (Jvm.Cond.initialized "ChunkClusterModel") ∈ lw_all := lw_g (lw_at lw_m1 2 rfl) rfl
theorem q200 : (Jvm.Cond.instantiable "ChunkClusterModel" (6 : Nat)) ∈ lw_all := lw_g (lw_at lw_m1 177 rfl) rfl
theorem q202 : (Jvm.Cond.instanceMethod ({ cls := "ChunkClusterModel", name := "<init>", desc := "(I)V" } : Jvm.MethodName)) ∈ lw_all := lw_g (lw_at lw_m1 179 rfl) rfl
theorem q203 : (Jvm.Cond.code ({ cls := "ChunkClusterModel", name := "<init>", desc := "(I)V" } : Jvm.MethodName) prog_3_method_1_code (2 : Nat) (Option.none : Option Jvm.ClassFile.FieldType)) ∈ lw_all := lw_g (lw_at lw_m1 180 rfl) rfl
theorem q204 : (Jvm.Cond.methodLink "ChunkClusterModel" (1 : Nat) ({ cls := "java/lang/Object", name := "<init>", desc := "()V" } : Jvm.MethodName)) ∈ lw_all := lw_g (lw_at lw_m1 181 rfl) rfl
theorem q205 : (Jvm.Cond.fieldLink "ChunkClusterModel" (26 : Nat) "ChunkClusterModel" "wanted" "I") ∈ lw_all := lw_g (lw_at lw_m1 182 rfl) rfl
theorem q206 : (Jvm.Cond.fieldLink "ChunkClusterModel" (7 : Nat) "ChunkClusterModel" "down" "[Z") ∈ lw_all := lw_g (lw_at lw_m1 183 rfl) rfl
theorem q207 : (Jvm.Cond.fieldLink "ChunkClusterModel" (13 : Nat) "ChunkClusterModel" "exists" "[Z") ∈ lw_all := lw_g (lw_at lw_m1 184 rfl) rfl
theorem q208 : (Jvm.Cond.fieldLink "ChunkClusterModel" (16 : Nat) "ChunkClusterModel" "lengths" "[I") ∈ lw_all := lw_g (lw_at lw_m1 185 rfl) rfl
theorem q209 : (Jvm.Cond.fieldLink "ChunkClusterModel" (20 : Nat) "ChunkClusterModel" "cells" "[I") ∈ lw_all := lw_g (lw_at lw_m1 186 rfl) rfl
theorem q210 : (Jvm.Cond.fieldLink "ChunkClusterModel" (23 : Nat) "ChunkClusterModel" "current" "[Z") ∈ lw_all := lw_g (lw_at lw_m1 187 rfl) rfl
theorem q211 : (Jvm.Cond.laysFinal "ChunkClusterModel" "ChunkClusterModel" "wanted" "I") ∈ lw_all := lw_g (lw_at lw_m1 188 rfl) rfl
theorem q212 : (Jvm.Cond.soleField "ChunkClusterModel" "wanted") ∈ lw_all := lw_g (lw_at lw_m1 189 rfl) rfl
theorem q213 : (Jvm.Cond.laysFinal "ChunkClusterModel" "ChunkClusterModel" "down" "[Z") ∈ lw_all := lw_g (lw_at lw_m1 190 rfl) rfl
theorem q214 : (Jvm.Cond.soleField "ChunkClusterModel" "down") ∈ lw_all := lw_g (lw_at lw_m1 191 rfl) rfl
theorem q215 : (Jvm.Cond.laysFinal "ChunkClusterModel" "ChunkClusterModel" "exists" "[Z") ∈ lw_all := lw_g (lw_at lw_m1 192 rfl) rfl
theorem q216 : (Jvm.Cond.soleField "ChunkClusterModel" "exists") ∈ lw_all := lw_g (lw_at lw_m1 193 rfl) rfl
theorem q217 : (Jvm.Cond.laysFinal "ChunkClusterModel" "ChunkClusterModel" "lengths" "[I") ∈ lw_all := lw_g (lw_at lw_m1 194 rfl) rfl
theorem q218 : (Jvm.Cond.soleField "ChunkClusterModel" "lengths") ∈ lw_all := lw_g (lw_at lw_m1 195 rfl) rfl
theorem q219 : (Jvm.Cond.laysFinal "ChunkClusterModel" "ChunkClusterModel" "cells" "[I") ∈ lw_all := lw_g (lw_at lw_m1 196 rfl) rfl
theorem q220 : (Jvm.Cond.soleField "ChunkClusterModel" "cells") ∈ lw_all := lw_g (lw_at lw_m1 197 rfl) rfl
theorem q221 : (Jvm.Cond.laysFinal "ChunkClusterModel" "ChunkClusterModel" "current" "[Z") ∈ lw_all := lw_g (lw_at lw_m1 198 rfl) rfl
theorem q222 : (Jvm.Cond.soleField "ChunkClusterModel" "current") ∈ lw_all := lw_g (lw_at lw_m1 199 rfl) rfl
theorem q223 : (Jvm.Cond.superclass "ChunkClusterModel" "java/lang/Object") ∈ lw_all := lw_g (lw_at lw_m1 200 rfl) rfl
theorem q225 : (Jvm.Cond.instanceMethod ({ cls := "ChunkClusterModel", name := "create", desc := "(I)I" } : Jvm.MethodName)) ∈ lw_all := lw_g (lw_at lw_m1 202 rfl) rfl
theorem q226 : (Jvm.Cond.selects "ChunkClusterModel" ({ cls := "ChunkClusterModel", name := "create", desc := "(I)I" } : Jvm.MethodName) ({ cls := "ChunkClusterModel", name := "create", desc := "(I)I" } : Jvm.MethodName)) ∈ lw_all := lw_g (lw_at lw_m1 203 rfl) rfl
theorem q227 : (Jvm.Cond.code ({ cls := "ChunkClusterModel", name := "create", desc := "(I)I" } : Jvm.MethodName) prog_3_method_8_code (3 : Nat) (Option.some Jvm.ClassFile.FieldType.int)) ∈ lw_all := lw_g (lw_at lw_m1 204 rfl) rfl
theorem q228 : (Jvm.Cond.methodLink "ChunkClusterModel" (41 : Nat) ({ cls := "ChunkClusterModel", name := "isFile", desc := "(I)Z" } : Jvm.MethodName)) ∈ lw_all := lw_g (lw_at lw_m1 205 rfl) rfl
theorem q229 : (Jvm.Cond.privateMethod ({ cls := "ChunkClusterModel", name := "isFile", desc := "(I)Z" } : Jvm.MethodName)) ∈ lw_tbl := lw_at lw_m1 206 rfl
theorem q230 : (Jvm.Cond.instanceMethod ({ cls := "ChunkClusterModel", name := "isFile", desc := "(I)Z" } : Jvm.MethodName)) ∈ lw_all := lw_g (lw_at lw_m1 207 rfl) rfl
theorem q231 : (Jvm.Cond.code ({ cls := "ChunkClusterModel", name := "isFile", desc := "(I)Z" } : Jvm.MethodName) prog_3_method_2_code (2 : Nat) (Option.some Jvm.ClassFile.FieldType.boolean)) ∈ lw_all := lw_g (lw_at lw_m1 208 rfl) rfl
theorem q232 : (Jvm.Cond.methodLink "ChunkClusterModel" (34 : Nat) ({ cls := "ChunkClusterModel", name := "nextServer", desc := "(I)I" } : Jvm.MethodName)) ∈ lw_all := lw_g (lw_at lw_m1 209 rfl) rfl
theorem q233 : (Jvm.Cond.privateMethod ({ cls := "ChunkClusterModel", name := "nextServer", desc := "(I)I" } : Jvm.MethodName)) ∈ lw_tbl := lw_at lw_m1 210 rfl
theorem q234 : (Jvm.Cond.instanceMethod ({ cls := "ChunkClusterModel", name := "nextServer", desc := "(I)I" } : Jvm.MethodName)) ∈ lw_all := lw_g (lw_at lw_m1 211 rfl) rfl
theorem q235 : (Jvm.Cond.code ({ cls := "ChunkClusterModel", name := "nextServer", desc := "(I)I" } : Jvm.MethodName) prog_3_method_6_code (5 : Nat) (Option.some Jvm.ClassFile.FieldType.int)) ∈ lw_all := lw_g (lw_at lw_m1 212 rfl) rfl
theorem q236 : (Jvm.Cond.methodLink "ChunkClusterModel" (30 : Nat) ({ cls := "ChunkClusterModel", name := "load", desc := "(I)I" } : Jvm.MethodName)) ∈ lw_all := lw_g (lw_at lw_m1 213 rfl) rfl
theorem q237 : (Jvm.Cond.privateMethod ({ cls := "ChunkClusterModel", name := "load", desc := "(I)I" } : Jvm.MethodName)) ∈ lw_tbl := lw_at lw_m1 214 rfl
theorem q238 : (Jvm.Cond.instanceMethod ({ cls := "ChunkClusterModel", name := "load", desc := "(I)I" } : Jvm.MethodName)) ∈ lw_all := lw_g (lw_at lw_m1 215 rfl) rfl
theorem q239 : (Jvm.Cond.code ({ cls := "ChunkClusterModel", name := "load", desc := "(I)I" } : Jvm.MethodName) prog_3_method_4_code (4 : Nat) (Option.some Jvm.ClassFile.FieldType.int)) ∈ lw_all := lw_g (lw_at lw_m1 216 rfl) rfl
theorem q240 : (Jvm.Cond.methodLink "ChunkClusterModel" (45 : Nat) ({ cls := "ChunkClusterModel", name := "fill", desc := "(I)I" } : Jvm.MethodName)) ∈ lw_all := lw_g (lw_at lw_m1 217 rfl) rfl
theorem q241 : (Jvm.Cond.privateMethod ({ cls := "ChunkClusterModel", name := "fill", desc := "(I)I" } : Jvm.MethodName)) ∈ lw_tbl := lw_at lw_m1 218 rfl
theorem q242 : (Jvm.Cond.instanceMethod ({ cls := "ChunkClusterModel", name := "fill", desc := "(I)I" } : Jvm.MethodName)) ∈ lw_all := lw_g (lw_at lw_m1 219 rfl) rfl
theorem q243 : (Jvm.Cond.code ({ cls := "ChunkClusterModel", name := "fill", desc := "(I)I" } : Jvm.MethodName) prog_3_method_7_code (5 : Nat) (Option.some Jvm.ClassFile.FieldType.int)) ∈ lw_all := lw_g (lw_at lw_m1 220 rfl) rfl
theorem q244 : (Jvm.Cond.methodLink "ChunkClusterModel" (37 : Nat) ({ cls := "ChunkClusterModel", name := "holders", desc := "(IZ)I" } : Jvm.MethodName)) ∈ lw_all := lw_g (lw_at lw_m1 221 rfl) rfl
theorem q245 : (Jvm.Cond.privateMethod ({ cls := "ChunkClusterModel", name := "holders", desc := "(IZ)I" } : Jvm.MethodName)) ∈ lw_tbl := lw_at lw_m1 222 rfl
theorem q246 : (Jvm.Cond.instanceMethod ({ cls := "ChunkClusterModel", name := "holders", desc := "(IZ)I" } : Jvm.MethodName)) ∈ lw_all := lw_g (lw_at lw_m1 223 rfl) rfl
theorem q247 : (Jvm.Cond.code ({ cls := "ChunkClusterModel", name := "holders", desc := "(IZ)I" } : Jvm.MethodName) prog_3_method_5_code (5 : Nat) (Option.some Jvm.ClassFile.FieldType.int)) ∈ lw_all := lw_g (lw_at lw_m1 224 rfl) rfl
theorem q249 : (Jvm.Cond.instanceMethod ({ cls := "ChunkClusterModel", name := "remove", desc := "(I)I" } : Jvm.MethodName)) ∈ lw_all := lw_g (lw_at lw_m1 226 rfl) rfl
theorem q250 : (Jvm.Cond.selects "ChunkClusterModel" ({ cls := "ChunkClusterModel", name := "remove", desc := "(I)I" } : Jvm.MethodName) ({ cls := "ChunkClusterModel", name := "remove", desc := "(I)I" } : Jvm.MethodName)) ∈ lw_all := lw_g (lw_at lw_m1 227 rfl) rfl
theorem q251 : (Jvm.Cond.code ({ cls := "ChunkClusterModel", name := "remove", desc := "(I)I" } : Jvm.MethodName) prog_3_method_9_code (3 : Nat) (Option.some Jvm.ClassFile.FieldType.int)) ∈ lw_all := lw_g (lw_at lw_m1 228 rfl) rfl
theorem q253 : (Jvm.Cond.instanceMethod ({ cls := "ChunkClusterModel", name := "write", desc := "(III)I" } : Jvm.MethodName)) ∈ lw_all := lw_g (lw_at lw_m1 230 rfl) rfl
theorem q254 : (Jvm.Cond.selects "ChunkClusterModel" ({ cls := "ChunkClusterModel", name := "write", desc := "(III)I" } : Jvm.MethodName) ({ cls := "ChunkClusterModel", name := "write", desc := "(III)I" } : Jvm.MethodName)) ∈ lw_all := lw_g (lw_at lw_m1 231 rfl) rfl
theorem q255 : (Jvm.Cond.code ({ cls := "ChunkClusterModel", name := "write", desc := "(III)I" } : Jvm.MethodName) prog_3_method_11_code (6 : Nat) (Option.some Jvm.ClassFile.FieldType.int)) ∈ lw_all := lw_g (lw_at lw_m1 232 rfl) rfl
theorem q256 : (Jvm.Cond.methodLink "ChunkClusterModel" (48 : Nat) ({ cls := "ChunkClusterModel", name := "refusal", desc := "(I)I" } : Jvm.MethodName)) ∈ lw_all := lw_g (lw_at lw_m1 233 rfl) rfl
theorem q257 : (Jvm.Cond.privateMethod ({ cls := "ChunkClusterModel", name := "refusal", desc := "(I)I" } : Jvm.MethodName)) ∈ lw_tbl := lw_at lw_m1 234 rfl
theorem q258 : (Jvm.Cond.instanceMethod ({ cls := "ChunkClusterModel", name := "refusal", desc := "(I)I" } : Jvm.MethodName)) ∈ lw_all := lw_g (lw_at lw_m1 235 rfl) rfl
theorem q259 : (Jvm.Cond.code ({ cls := "ChunkClusterModel", name := "refusal", desc := "(I)I" } : Jvm.MethodName) prog_3_method_10_code (2 : Nat) (Option.some Jvm.ClassFile.FieldType.int)) ∈ lw_all := lw_g (lw_at lw_m1 236 rfl) rfl
theorem q261 : (Jvm.Cond.instanceMethod ({ cls := "ChunkClusterModel", name := "append", desc := "(II)I" } : Jvm.MethodName)) ∈ lw_all := lw_g (lw_at lw_m1 238 rfl) rfl
theorem q262 : (Jvm.Cond.selects "ChunkClusterModel" ({ cls := "ChunkClusterModel", name := "append", desc := "(II)I" } : Jvm.MethodName) ({ cls := "ChunkClusterModel", name := "append", desc := "(II)I" } : Jvm.MethodName)) ∈ lw_all := lw_g (lw_at lw_m1 239 rfl) rfl
theorem q263 : (Jvm.Cond.code ({ cls := "ChunkClusterModel", name := "append", desc := "(II)I" } : Jvm.MethodName) prog_3_method_12_code (5 : Nat) (Option.some Jvm.ClassFile.FieldType.int)) ∈ lw_all := lw_g (lw_at lw_m2 0 rfl) rfl
theorem q264 : (Jvm.Cond.methodLink "ChunkClusterModel" (51 : Nat) ({ cls := "ChunkClusterModel", name := "write", desc := "(III)I" } : Jvm.MethodName)) ∈ lw_all := lw_g (lw_at lw_m2 1 rfl) rfl
theorem q266 : (Jvm.Cond.instanceMethod ({ cls := "ChunkClusterModel", name := "snapshot", desc := "(II)I" } : Jvm.MethodName)) ∈ lw_all := lw_g (lw_at lw_m2 3 rfl) rfl
theorem q267 : (Jvm.Cond.selects "ChunkClusterModel" ({ cls := "ChunkClusterModel", name := "snapshot", desc := "(II)I" } : Jvm.MethodName) ({ cls := "ChunkClusterModel", name := "snapshot", desc := "(II)I" } : Jvm.MethodName)) ∈ lw_all := lw_g (lw_at lw_m2 4 rfl) rfl
theorem q268 : (Jvm.Cond.code ({ cls := "ChunkClusterModel", name := "snapshot", desc := "(II)I" } : Jvm.MethodName) prog_3_method_13_code (4 : Nat) (Option.some Jvm.ClassFile.FieldType.int)) ∈ lw_all := lw_g (lw_at lw_m2 5 rfl) rfl
theorem q270 : (Jvm.Cond.instanceMethod ({ cls := "ChunkClusterModel", name := "crash", desc := "(I)I" } : Jvm.MethodName)) ∈ lw_all := lw_g (lw_at lw_m2 7 rfl) rfl
theorem q271 : (Jvm.Cond.selects "ChunkClusterModel" ({ cls := "ChunkClusterModel", name := "crash", desc := "(I)I" } : Jvm.MethodName) ({ cls := "ChunkClusterModel", name := "crash", desc := "(I)I" } : Jvm.MethodName)) ∈ lw_all := lw_g (lw_at lw_m2 8 rfl) rfl
theorem q272 : (Jvm.Cond.code ({ cls := "ChunkClusterModel", name := "crash", desc := "(I)I" } : Jvm.MethodName) prog_3_method_14_code (3 : Nat) (Option.some Jvm.ClassFile.FieldType.int)) ∈ lw_all := lw_g (lw_at lw_m2 9 rfl) rfl
theorem q273 : (Jvm.Cond.methodLink "ChunkClusterModel" (55 : Nat) ({ cls := "ChunkClusterModel", name := "isServer", desc := "(I)Z" } : Jvm.MethodName)) ∈ lw_all := lw_g (lw_at lw_m2 10 rfl) rfl
theorem q274 : (Jvm.Cond.privateMethod ({ cls := "ChunkClusterModel", name := "isServer", desc := "(I)Z" } : Jvm.MethodName)) ∈ lw_tbl := lw_at lw_m2 11 rfl
theorem q275 : (Jvm.Cond.instanceMethod ({ cls := "ChunkClusterModel", name := "isServer", desc := "(I)Z" } : Jvm.MethodName)) ∈ lw_all := lw_g (lw_at lw_m2 12 rfl) rfl
theorem q276 : (Jvm.Cond.code ({ cls := "ChunkClusterModel", name := "isServer", desc := "(I)Z" } : Jvm.MethodName) prog_3_method_3_code (2 : Nat) (Option.some Jvm.ClassFile.FieldType.boolean)) ∈ lw_all := lw_g (lw_at lw_m2 13 rfl) rfl
theorem q278 : (Jvm.Cond.instanceMethod ({ cls := "ChunkClusterModel", name := "restart", desc := "(I)I" } : Jvm.MethodName)) ∈ lw_all := lw_g (lw_at lw_m2 15 rfl) rfl
theorem q279 : (Jvm.Cond.selects "ChunkClusterModel" ({ cls := "ChunkClusterModel", name := "restart", desc := "(I)I" } : Jvm.MethodName) ({ cls := "ChunkClusterModel", name := "restart", desc := "(I)I" } : Jvm.MethodName)) ∈ lw_all := lw_g (lw_at lw_m2 16 rfl) rfl
theorem q280 : (Jvm.Cond.code ({ cls := "ChunkClusterModel", name := "restart", desc := "(I)I" } : Jvm.MethodName) prog_3_method_15_code (3 : Nat) (Option.some Jvm.ClassFile.FieldType.int)) ∈ lw_all := lw_g (lw_at lw_m2 17 rfl) rfl
theorem q282 : (Jvm.Cond.instanceMethod ({ cls := "ChunkClusterModel", name := "loseDisk", desc := "(I)I" } : Jvm.MethodName)) ∈ lw_all := lw_g (lw_at lw_m2 19 rfl) rfl
theorem q283 : (Jvm.Cond.selects "ChunkClusterModel" ({ cls := "ChunkClusterModel", name := "loseDisk", desc := "(I)I" } : Jvm.MethodName) ({ cls := "ChunkClusterModel", name := "loseDisk", desc := "(I)I" } : Jvm.MethodName)) ∈ lw_all := lw_g (lw_at lw_m2 20 rfl) rfl
theorem q284 : (Jvm.Cond.code ({ cls := "ChunkClusterModel", name := "loseDisk", desc := "(I)I" } : Jvm.MethodName) prog_3_method_16_code (4 : Nat) (Option.some Jvm.ClassFile.FieldType.int)) ∈ lw_all := lw_g (lw_at lw_m2 21 rfl) rfl
theorem q286 : (Jvm.Cond.instanceMethod ({ cls := "ChunkClusterModel", name := "damage", desc := "(II)I" } : Jvm.MethodName)) ∈ lw_all := lw_g (lw_at lw_m2 23 rfl) rfl
theorem q287 : (Jvm.Cond.selects "ChunkClusterModel" ({ cls := "ChunkClusterModel", name := "damage", desc := "(II)I" } : Jvm.MethodName) ({ cls := "ChunkClusterModel", name := "damage", desc := "(II)I" } : Jvm.MethodName)) ∈ lw_all := lw_g (lw_at lw_m2 24 rfl) rfl
theorem q288 : (Jvm.Cond.code ({ cls := "ChunkClusterModel", name := "damage", desc := "(II)I" } : Jvm.MethodName) prog_3_method_17_code (4 : Nat) (Option.some Jvm.ClassFile.FieldType.int)) ∈ lw_all := lw_g (lw_at lw_m2 25 rfl) rfl
theorem q290 : (Jvm.Cond.instanceMethod ({ cls := "ChunkClusterModel", name := "heal", desc := "()I" } : Jvm.MethodName)) ∈ lw_all := lw_g (lw_at lw_m2 27 rfl) rfl
theorem q291 : (Jvm.Cond.selects "ChunkClusterModel" ({ cls := "ChunkClusterModel", name := "heal", desc := "()I" } : Jvm.MethodName) ({ cls := "ChunkClusterModel", name := "heal", desc := "()I" } : Jvm.MethodName)) ∈ lw_all := lw_g (lw_at lw_m2 28 rfl) rfl
theorem q292 : (Jvm.Cond.code ({ cls := "ChunkClusterModel", name := "heal", desc := "()I" } : Jvm.MethodName) prog_3_method_18_code (3 : Nat) (Option.some Jvm.ClassFile.FieldType.int)) ∈ lw_all := lw_g (lw_at lw_m2 29 rfl) rfl
theorem q294 : (Jvm.Cond.instanceMethod ({ cls := "ChunkClusterModel", name := "read", desc := "(II)I" } : Jvm.MethodName)) ∈ lw_all := lw_g (lw_at lw_m2 31 rfl) rfl
theorem q295 : (Jvm.Cond.selects "ChunkClusterModel" ({ cls := "ChunkClusterModel", name := "read", desc := "(II)I" } : Jvm.MethodName) ({ cls := "ChunkClusterModel", name := "read", desc := "(II)I" } : Jvm.MethodName)) ∈ lw_all := lw_g (lw_at lw_m2 32 rfl) rfl
theorem q296 : (Jvm.Cond.code ({ cls := "ChunkClusterModel", name := "read", desc := "(II)I" } : Jvm.MethodName) prog_3_method_19_code (4 : Nat) (Option.some Jvm.ClassFile.FieldType.int)) ∈ lw_all := lw_g (lw_at lw_m2 33 rfl) rfl
theorem q298 : (Jvm.Cond.instanceMethod ({ cls := "ChunkClusterModel", name := "length", desc := "(I)I" } : Jvm.MethodName)) ∈ lw_all := lw_g (lw_at lw_m2 35 rfl) rfl
theorem q299 : (Jvm.Cond.selects "ChunkClusterModel" ({ cls := "ChunkClusterModel", name := "length", desc := "(I)I" } : Jvm.MethodName) ({ cls := "ChunkClusterModel", name := "length", desc := "(I)I" } : Jvm.MethodName)) ∈ lw_all := lw_g (lw_at lw_m2 36 rfl) rfl
theorem q300 : (Jvm.Cond.code ({ cls := "ChunkClusterModel", name := "length", desc := "(I)I" } : Jvm.MethodName) prog_3_method_20_code (3 : Nat) (Option.some Jvm.ClassFile.FieldType.int)) ∈ lw_all := lw_g (lw_at lw_m2 37 rfl) rfl
theorem q302 : (Jvm.Cond.instanceMethod ({ cls := "ChunkClusterModel", name := "replicas", desc := "(I)I" } : Jvm.MethodName)) ∈ lw_all := lw_g (lw_at lw_m2 39 rfl) rfl
theorem q303 : (Jvm.Cond.selects "ChunkClusterModel" ({ cls := "ChunkClusterModel", name := "replicas", desc := "(I)I" } : Jvm.MethodName) ({ cls := "ChunkClusterModel", name := "replicas", desc := "(I)I" } : Jvm.MethodName)) ∈ lw_all := lw_g (lw_at lw_m2 40 rfl) rfl
theorem q304 : (Jvm.Cond.code ({ cls := "ChunkClusterModel", name := "replicas", desc := "(I)I" } : Jvm.MethodName) prog_3_method_21_code (4 : Nat) (Option.some Jvm.ClassFile.FieldType.int)) ∈ lw_all := lw_g (lw_at lw_m2 41 rfl) rfl
theorem in_X2 : ∀ w ∈ wsX20, w ∈ lw_all := lw_in wsX20 [211, 213, 215, 217, 219, 221] (by decide +kernel) (by decide +kernel)
theorem q68 : (Jvm.Cond.arrayClass Jvm.ClassFile.FieldType.boolean) ∈ lw_all := lw_g (lw_at lw_m1 45 rfl) rfl
theorem q69 : (Jvm.Cond.arrayClass Jvm.ClassFile.FieldType.int) ∈ lw_all := lw_g (lw_at lw_m1 46 rfl) rfl
/-! the law's own entry -/
abbrev cL_law : ByteArray := code
end
section
set_option maxRecDepth 100000
theorem dX1_init_0 : decode cX1_init 0 = .ok (.aload_n 0, 1) := by decide +kernel
theorem dX1_init_1 : decode cX1_init 1 = .ok (.invokespecial 1, 3) := by decide +kernel
theorem dX1_init_4 : decode cX1_init 4 = .ok (.aload_n 0, 1) := by decide +kernel
theorem dX1_init_5 : decode cX1_init 5 = .ok (.iconst 5, 1) := by decide +kernel
theorem dX1_init_6 : decode cX1_init 6 = .ok (.newarray .boolean, 2) := by decide +kernel
theorem dX1_init_8 : decode cX1_init 8 = .ok (.putfield 7, 3) := by decide +kernel
theorem dX1_init_11 : decode cX1_init 11 = .ok (.aload_n 0, 1) := by decide +kernel
theorem dX1_init_12 : decode cX1_init 12 = .ok (.iconst 4, 1) := by decide +kernel
theorem dX1_init_13 : decode cX1_init 13 = .ok (.newarray .boolean, 2) := by decide +kernel
theorem dX1_init_15 : decode cX1_init 15 = .ok (.putfield 13, 3) := by decide +kernel
theorem dX1_init_18 : decode cX1_init 18 = .ok (.aload_n 0, 1) := by decide +kernel
theorem dX1_init_19 : decode cX1_init 19 = .ok (.iconst 4, 1) := by decide +kernel
theorem dX1_init_20 : decode cX1_init 20 = .ok (.newarray .int, 2) := by decide +kernel
theorem dX1_init_22 : decode cX1_init 22 = .ok (.putfield 16, 3) := by decide +kernel
theorem dX1_init_25 : decode cX1_init 25 = .ok (.aload_n 0, 1) := by decide +kernel
theorem dX1_init_26 : decode cX1_init 26 = .ok (.bipush 20, 2) := by decide +kernel
theorem dX1_init_28 : decode cX1_init 28 = .ok (.newarray .int, 2) := by decide +kernel
theorem dX1_init_30 : decode cX1_init 30 = .ok (.putfield 20, 3) := by decide +kernel
theorem dX1_init_33 : decode cX1_init 33 = .ok (.aload_n 0, 1) := by decide +kernel
theorem dX1_init_34 : decode cX1_init 34 = .ok (.bipush 20, 2) := by decide +kernel
theorem dX1_init_36 : decode cX1_init 36 = .ok (.newarray .int, 2) := by decide +kernel
theorem dX1_init_38 : decode cX1_init 38 = .ok (.putfield 23, 3) := by decide +kernel
theorem dX1_init_41 : decode cX1_init 41 = .ok (.aload_n 0, 1) := by decide +kernel
theorem dX1_init_42 : decode cX1_init 42 = .ok (.bipush 120, 2) := by decide +kernel
theorem dX1_init_44 : decode cX1_init 44 = .ok (.newarray .int, 2) := by decide +kernel
theorem dX1_init_46 : decode cX1_init 46 = .ok (.putfield 26, 3) := by decide +kernel
theorem dX1_init_49 : decode cX1_init 49 = .ok (.aload_n 0, 1) := by decide +kernel
theorem dX1_init_50 : decode cX1_init 50 = .ok (.bipush 20, 2) := by decide +kernel
theorem dX1_init_52 : decode cX1_init 52 = .ok (.newarray .int, 2) := by decide +kernel
theorem dX1_init_54 : decode cX1_init 54 = .ok (.putfield 29, 3) := by decide +kernel
theorem dX1_init_57 : decode cX1_init 57 = .ok (.aload_n 0, 1) := by decide +kernel
theorem dX1_init_58 : decode cX1_init 58 = .ok (.bipush 20, 2) := by decide +kernel
theorem dX1_init_60 : decode cX1_init 60 = .ok (.newarray .int, 2) := by decide +kernel
theorem dX1_init_62 : decode cX1_init 62 = .ok (.putfield 32, 3) := by decide +kernel
theorem dX1_init_65 : decode cX1_init 65 = .ok (.aload_n 0, 1) := by decide +kernel
theorem dX1_init_66 : decode cX1_init 66 = .ok (.bipush 20, 2) := by decide +kernel
theorem dX1_init_68 : decode cX1_init 68 = .ok (.newarray .int, 2) := by decide +kernel
theorem dX1_init_70 : decode cX1_init 70 = .ok (.putfield 35, 3) := by decide +kernel
theorem dX1_init_73 : decode cX1_init 73 = .ok (.iload_n 1, 1) := by decide +kernel
theorem dX1_init_74 : decode cX1_init 74 = .ok (.istore_n 2, 1) := by decide +kernel
theorem dX1_init_75 : decode cX1_init 75 = .ok (.iload_n 2, 1) := by decide +kernel
theorem dX1_init_76 : decode cX1_init 76 = .ok (.iconst 1, 1) := by decide +kernel
theorem dX1_init_77 : decode cX1_init 77 = .ok (.if_icmp .ge 5, 3) := by decide +kernel
theorem dX1_init_80 : decode cX1_init 80 = .ok (.iconst 1, 1) := by decide +kernel
theorem dX1_init_81 : decode cX1_init 81 = .ok (.istore_n 2, 1) := by decide +kernel
theorem dX1_init_82 : decode cX1_init 82 = .ok (.iload_n 2, 1) := by decide +kernel
theorem dX1_init_83 : decode cX1_init 83 = .ok (.iconst 3, 1) := by decide +kernel
theorem dX1_init_84 : decode cX1_init 84 = .ok (.if_icmp .le 5, 3) := by decide +kernel
theorem dX1_init_87 : decode cX1_init 87 = .ok (.iconst 3, 1) := by decide +kernel
theorem dX1_init_88 : decode cX1_init 88 = .ok (.istore_n 2, 1) := by decide +kernel
theorem dX1_init_89 : decode cX1_init 89 = .ok (.aload_n 0, 1) := by decide +kernel
theorem dX1_init_90 : decode cX1_init 90 = .ok (.iload_n 2, 1) := by decide +kernel
theorem dX1_init_91 : decode cX1_init 91 = .ok (.putfield 38, 3) := by decide +kernel
theorem dX1_init_94 : decode cX1_init 94 = .ok (.iconst 0, 1) := by decide +kernel
theorem dX1_init_95 : decode cX1_init 95 = .ok (.istore_n 3, 1) := by decide +kernel
theorem dX1_init_96 : decode cX1_init 96 = .ok (.iload_n 3, 1) := by decide +kernel
theorem dX1_init_97 : decode cX1_init 97 = .ok (.iconst 5, 1) := by decide +kernel
theorem dX1_init_98 : decode cX1_init 98 = .ok (.if_icmp .ge 16, 3) := by decide +kernel
theorem dX1_init_101 : decode cX1_init 101 = .ok (.aload_n 0, 1) := by decide +kernel
theorem dX1_init_102 : decode cX1_init 102 = .ok (.getfield 7, 3) := by decide +kernel
theorem dX1_init_105 : decode cX1_init 105 = .ok (.iload_n 3, 1) := by decide +kernel
theorem dX1_init_106 : decode cX1_init 106 = .ok (.iconst 1, 1) := by decide +kernel
theorem dX1_init_107 : decode cX1_init 107 = .ok (.bastore, 1) := by decide +kernel
theorem dX1_init_108 : decode cX1_init 108 = .ok (.iinc 3 1, 3) := by decide +kernel
theorem dX1_init_111 : decode cX1_init 111 = .ok (.goto (-15), 3) := by decide +kernel
theorem dX1_init_114 : decode cX1_init 114 = .ok (.iconst 0, 1) := by decide +kernel
theorem dX1_init_115 : decode cX1_init 115 = .ok (.istore_n 3, 1) := by decide +kernel
theorem dX1_init_116 : decode cX1_init 116 = .ok (.iload_n 3, 1) := by decide +kernel
theorem dX1_init_117 : decode cX1_init 117 = .ok (.bipush 20, 2) := by decide +kernel
theorem dX1_init_119 : decode cX1_init 119 = .ok (.if_icmp .ge 16, 3) := by decide +kernel
theorem dX1_init_122 : decode cX1_init 122 = .ok (.aload_n 0, 1) := by decide +kernel
theorem dX1_init_123 : decode cX1_init 123 = .ok (.getfield 20, 3) := by decide +kernel
theorem dX1_init_126 : decode cX1_init 126 = .ok (.iload_n 3, 1) := by decide +kernel
theorem dX1_init_127 : decode cX1_init 127 = .ok (.iconst (-1), 1) := by decide +kernel
theorem dX1_init_128 : decode cX1_init 128 = .ok (.iastore, 1) := by decide +kernel
theorem dX1_init_129 : decode cX1_init 129 = .ok (.iinc 3 1, 3) := by decide +kernel
theorem dX1_init_132 : decode cX1_init 132 = .ok (.goto (-16), 3) := by decide +kernel
theorem dX1_init_135 : decode cX1_init 135 = .ok (.return_, 1) := by decide +kernel
theorem dX1_create_0 : decode cX1_create 0 = .ok (.iload_n 1, 1) := by decide +kernel
theorem dX1_create_1 : decode cX1_create 1 = .ok (.invokestatic 67, 3) := by decide +kernel
theorem dX1_create_4 : decode cX1_create 4 = .ok (.ifCond .eq 5, 3) := by decide +kernel
theorem dX1_create_7 : decode cX1_create 7 = .ok (.iconst (-1), 1) := by decide +kernel
theorem dX1_create_8 : decode cX1_create 8 = .ok (.ireturn, 1) := by decide +kernel
theorem dX1_create_9 : decode cX1_create 9 = .ok (.aload_n 0, 1) := by decide +kernel
theorem dX1_create_10 : decode cX1_create 10 = .ok (.getfield 13, 3) := by decide +kernel
theorem dX1_create_13 : decode cX1_create 13 = .ok (.iload_n 1, 1) := by decide +kernel
theorem dX1_create_14 : decode cX1_create 14 = .ok (.baload, 1) := by decide +kernel
theorem dX1_create_15 : decode cX1_create 15 = .ok (.ifCond .eq 6, 3) := by decide +kernel
theorem dX1_create_18 : decode cX1_create 18 = .ok (.bipush (-2), 2) := by decide +kernel
theorem dX1_create_20 : decode cX1_create 20 = .ok (.ireturn, 1) := by decide +kernel
theorem dX1_create_21 : decode cX1_create 21 = .ok (.aload_n 0, 1) := by decide +kernel
theorem dX1_create_22 : decode cX1_create 22 = .ok (.invokevirtual 71, 3) := by decide +kernel
theorem dX1_create_25 : decode cX1_create 25 = .ok (.istore_n 2, 1) := by decide +kernel
theorem dX1_create_26 : decode cX1_create 26 = .ok (.iload_n 2, 1) := by decide +kernel
theorem dX1_create_27 : decode cX1_create 27 = .ok (.ifCond .ne 6, 3) := by decide +kernel
theorem dX1_create_30 : decode cX1_create 30 = .ok (.bipush (-4), 2) := by decide +kernel
theorem dX1_create_32 : decode cX1_create 32 = .ok (.ireturn, 1) := by decide +kernel
theorem dX1_create_33 : decode cX1_create 33 = .ok (.aload_n 0, 1) := by decide +kernel
theorem dX1_create_34 : decode cX1_create 34 = .ok (.getfield 13, 3) := by decide +kernel
theorem dX1_create_37 : decode cX1_create 37 = .ok (.iload_n 1, 1) := by decide +kernel
theorem dX1_create_38 : decode cX1_create 38 = .ok (.iconst 1, 1) := by decide +kernel
theorem dX1_create_39 : decode cX1_create 39 = .ok (.bastore, 1) := by decide +kernel
theorem dX1_create_40 : decode cX1_create 40 = .ok (.aload_n 0, 1) := by decide +kernel
theorem dX1_create_41 : decode cX1_create 41 = .ok (.iload_n 1, 1) := by decide +kernel
theorem dX1_create_42 : decode cX1_create 42 = .ok (.invokevirtual 75, 3) := by decide +kernel
theorem dX1_create_45 : decode cX1_create 45 = .ok (.iconst 0, 1) := by decide +kernel
theorem dX1_create_46 : decode cX1_create 46 = .ok (.istore_n 3, 1) := by decide +kernel
theorem dX1_create_47 : decode cX1_create 47 = .ok (.iconst 0, 1) := by decide +kernel
theorem dX1_create_48 : decode cX1_create 48 = .ok (.istore 4, 2) := by decide +kernel
theorem dX1_create_50 : decode cX1_create 50 = .ok (.iload 4, 2) := by decide +kernel
theorem dX1_create_52 : decode cX1_create 52 = .ok (.aload_n 0, 1) := by decide +kernel
theorem dX1_create_53 : decode cX1_create 53 = .ok (.getfield 38, 3) := by decide +kernel
theorem dX1_create_56 : decode cX1_create 56 = .ok (.if_icmp .ge 92, 3) := by decide +kernel
theorem dX1_create_59 : decode cX1_create 59 = .ok (.iload_n 2, 1) := by decide +kernel
theorem dX1_create_60 : decode cX1_create 60 = .ok (.ifCond .eq 88, 3) := by decide +kernel
theorem dX1_create_63 : decode cX1_create 63 = .ok (.aload_n 0, 1) := by decide +kernel
theorem dX1_create_64 : decode cX1_create 64 = .ok (.iload_n 2, 1) := by decide +kernel
theorem dX1_create_65 : decode cX1_create 65 = .ok (.invokevirtual 79, 3) := by decide +kernel
theorem dX1_create_68 : decode cX1_create 68 = .ok (.istore 5, 2) := by decide +kernel
theorem dX1_create_70 : decode cX1_create 70 = .ok (.iload_n 2, 1) := by decide +kernel
theorem dX1_create_71 : decode cX1_create 71 = .ok (.iconst 1, 1) := by decide +kernel
theorem dX1_create_72 : decode cX1_create 72 = .ok (.iload 5, 2) := by decide +kernel
theorem dX1_create_74 : decode cX1_create 74 = .ok (.ishl, 1) := by decide +kernel
theorem dX1_create_75 : decode cX1_create 75 = .ok (.iconst (-1), 1) := by decide +kernel
theorem dX1_create_76 : decode cX1_create 76 = .ok (.ixor, 1) := by decide +kernel
theorem dX1_create_77 : decode cX1_create 77 = .ok (.iand, 1) := by decide +kernel
theorem dX1_create_78 : decode cX1_create 78 = .ok (.istore_n 2, 1) := by decide +kernel
theorem dX1_create_79 : decode cX1_create 79 = .ok (.aload_n 0, 1) := by decide +kernel
theorem dX1_create_80 : decode cX1_create 80 = .ok (.iload 5, 2) := by decide +kernel
theorem dX1_create_82 : decode cX1_create 82 = .ok (.iload_n 1, 1) := by decide +kernel
theorem dX1_create_83 : decode cX1_create 83 = .ok (.invokevirtual 82, 3) := by decide +kernel
theorem dX1_create_86 : decode cX1_create 86 = .ok (.istore 6, 2) := by decide +kernel
theorem dX1_create_88 : decode cX1_create 88 = .ok (.iconst 0, 1) := by decide +kernel
theorem dX1_create_89 : decode cX1_create 89 = .ok (.istore 7, 2) := by decide +kernel
theorem dX1_create_91 : decode cX1_create 91 = .ok (.iload 7, 2) := by decide +kernel
theorem dX1_create_93 : decode cX1_create 93 = .ok (.bipush 6, 2) := by decide +kernel
theorem dX1_create_95 : decode cX1_create 95 = .ok (.if_icmp .ge 23, 3) := by decide +kernel
theorem dX1_create_98 : decode cX1_create 98 = .ok (.aload_n 0, 1) := by decide +kernel
theorem dX1_create_99 : decode cX1_create 99 = .ok (.getfield 26, 3) := by decide +kernel
theorem dX1_create_102 : decode cX1_create 102 = .ok (.iload 6, 2) := by decide +kernel
theorem dX1_create_104 : decode cX1_create 104 = .ok (.bipush 6, 2) := by decide +kernel
theorem dX1_create_106 : decode cX1_create 106 = .ok (.imul, 1) := by decide +kernel
theorem dX1_create_107 : decode cX1_create 107 = .ok (.iload 7, 2) := by decide +kernel
theorem dX1_create_109 : decode cX1_create 109 = .ok (.iadd, 1) := by decide +kernel
theorem dX1_create_110 : decode cX1_create 110 = .ok (.iconst 0, 1) := by decide +kernel
theorem dX1_create_111 : decode cX1_create 111 = .ok (.iastore, 1) := by decide +kernel
theorem dX1_create_112 : decode cX1_create 112 = .ok (.iinc 7 1, 3) := by decide +kernel
theorem dX1_create_115 : decode cX1_create 115 = .ok (.goto (-24), 3) := by decide +kernel
theorem dX1_create_118 : decode cX1_create 118 = .ok (.aload_n 0, 1) := by decide +kernel
theorem dX1_create_119 : decode cX1_create 119 = .ok (.getfield 29, 3) := by decide +kernel
theorem dX1_create_122 : decode cX1_create 122 = .ok (.iload 6, 2) := by decide +kernel
theorem dX1_create_124 : decode cX1_create 124 = .ok (.iconst 0, 1) := by decide +kernel
theorem dX1_create_125 : decode cX1_create 125 = .ok (.iastore, 1) := by decide +kernel
theorem dX1_create_126 : decode cX1_create 126 = .ok (.aload_n 0, 1) := by decide +kernel
theorem dX1_create_127 : decode cX1_create 127 = .ok (.getfield 32, 3) := by decide +kernel
theorem dX1_create_130 : decode cX1_create 130 = .ok (.iload 6, 2) := by decide +kernel
theorem dX1_create_132 : decode cX1_create 132 = .ok (.aload_n 0, 1) := by decide +kernel
theorem dX1_create_133 : decode cX1_create 133 = .ok (.iload 6, 2) := by decide +kernel
theorem dX1_create_135 : decode cX1_create 135 = .ok (.invokevirtual 54, 3) := by decide +kernel
theorem dX1_create_138 : decode cX1_create 138 = .ok (.iastore, 1) := by decide +kernel
theorem dX1_create_139 : decode cX1_create 139 = .ok (.iinc 3 1, 3) := by decide +kernel
theorem dX1_create_142 : decode cX1_create 142 = .ok (.iinc 4 1, 3) := by decide +kernel
theorem dX1_create_145 : decode cX1_create 145 = .ok (.goto (-95), 3) := by decide +kernel
theorem dX1_create_148 : decode cX1_create 148 = .ok (.iload_n 3, 1) := by decide +kernel
theorem dX1_create_149 : decode cX1_create 149 = .ok (.ireturn, 1) := by decide +kernel
theorem dX1_badFile_0 : decode cX1_badFile 0 = .ok (.iload_n 0, 1) := by decide +kernel
theorem dX1_badFile_1 : decode cX1_badFile 1 = .ok (.ifCond .lt 8, 3) := by decide +kernel
theorem dX1_badFile_4 : decode cX1_badFile 4 = .ok (.iload_n 0, 1) := by decide +kernel
theorem dX1_badFile_5 : decode cX1_badFile 5 = .ok (.iconst 4, 1) := by decide +kernel
theorem dX1_badFile_6 : decode cX1_badFile 6 = .ok (.if_icmp .lt 7, 3) := by decide +kernel
theorem dX1_badFile_9 : decode cX1_badFile 9 = .ok (.iconst 1, 1) := by decide +kernel
theorem dX1_badFile_10 : decode cX1_badFile 10 = .ok (.goto 4, 3) := by decide +kernel
theorem dX1_badFile_13 : decode cX1_badFile 13 = .ok (.iconst 0, 1) := by decide +kernel
theorem dX1_badFile_14 : decode cX1_badFile 14 = .ok (.ireturn, 1) := by decide +kernel
theorem dX1_upSet_0 : decode cX1_upSet 0 = .ok (.iconst 0, 1) := by decide +kernel
theorem dX1_upSet_1 : decode cX1_upSet 1 = .ok (.istore_n 1, 1) := by decide +kernel
theorem dX1_upSet_2 : decode cX1_upSet 2 = .ok (.iconst 0, 1) := by decide +kernel
theorem dX1_upSet_3 : decode cX1_upSet 3 = .ok (.istore_n 2, 1) := by decide +kernel
theorem dX1_upSet_4 : decode cX1_upSet 4 = .ok (.iload_n 2, 1) := by decide +kernel
theorem dX1_upSet_5 : decode cX1_upSet 5 = .ok (.iconst 5, 1) := by decide +kernel
theorem dX1_upSet_6 : decode cX1_upSet 6 = .ok (.if_icmp .ge 24, 3) := by decide +kernel
theorem dX1_upSet_9 : decode cX1_upSet 9 = .ok (.aload_n 0, 1) := by decide +kernel
theorem dX1_upSet_10 : decode cX1_upSet 10 = .ok (.getfield 7, 3) := by decide +kernel
theorem dX1_upSet_13 : decode cX1_upSet 13 = .ok (.iload_n 2, 1) := by decide +kernel
theorem dX1_upSet_14 : decode cX1_upSet 14 = .ok (.baload, 1) := by decide +kernel
theorem dX1_upSet_15 : decode cX1_upSet 15 = .ok (.ifCond .eq 9, 3) := by decide +kernel
theorem dX1_upSet_18 : decode cX1_upSet 18 = .ok (.iload_n 1, 1) := by decide +kernel
theorem dX1_upSet_19 : decode cX1_upSet 19 = .ok (.iconst 1, 1) := by decide +kernel
theorem dX1_upSet_20 : decode cX1_upSet 20 = .ok (.iload_n 2, 1) := by decide +kernel
theorem dX1_upSet_21 : decode cX1_upSet 21 = .ok (.ishl, 1) := by decide +kernel
theorem dX1_upSet_22 : decode cX1_upSet 22 = .ok (.ior, 1) := by decide +kernel
theorem dX1_upSet_23 : decode cX1_upSet 23 = .ok (.istore_n 1, 1) := by decide +kernel
theorem dX1_upSet_24 : decode cX1_upSet 24 = .ok (.iinc 2 1, 3) := by decide +kernel
theorem dX1_upSet_27 : decode cX1_upSet 27 = .ok (.goto (-23), 3) := by decide +kernel
theorem dX1_upSet_30 : decode cX1_upSet 30 = .ok (.iload_n 1, 1) := by decide +kernel
theorem dX1_upSet_31 : decode cX1_upSet 31 = .ok (.ireturn, 1) := by decide +kernel
theorem dX1_newVersion_0 : decode cX1_newVersion 0 = .ok (.aload_n 0, 1) := by decide +kernel
theorem dX1_newVersion_1 : decode cX1_newVersion 1 = .ok (.dup, 1) := by decide +kernel
theorem dX1_newVersion_2 : decode cX1_newVersion 2 = .ok (.getfield 64, 3) := by decide +kernel
theorem dX1_newVersion_5 : decode cX1_newVersion 5 = .ok (.iconst 1, 1) := by decide +kernel
theorem dX1_newVersion_6 : decode cX1_newVersion 6 = .ok (.iadd, 1) := by decide +kernel
theorem dX1_newVersion_7 : decode cX1_newVersion 7 = .ok (.putfield 64, 3) := by decide +kernel
theorem dX1_newVersion_10 : decode cX1_newVersion 10 = .ok (.aload_n 0, 1) := by decide +kernel
theorem dX1_newVersion_11 : decode cX1_newVersion 11 = .ok (.getfield 16, 3) := by decide +kernel
theorem dX1_newVersion_14 : decode cX1_newVersion 14 = .ok (.iload_n 1, 1) := by decide +kernel
theorem dX1_newVersion_15 : decode cX1_newVersion 15 = .ok (.aload_n 0, 1) := by decide +kernel
theorem dX1_newVersion_16 : decode cX1_newVersion 16 = .ok (.getfield 64, 3) := by decide +kernel
theorem dX1_newVersion_19 : decode cX1_newVersion 19 = .ok (.iastore, 1) := by decide +kernel
theorem dX1_newVersion_20 : decode cX1_newVersion 20 = .ok (.return_, 1) := by decide +kernel
theorem dX1_firstOf_0 : decode cX1_firstOf 0 = .ok (.iconst (-1), 1) := by decide +kernel
theorem dX1_firstOf_1 : decode cX1_firstOf 1 = .ok (.istore_n 2, 1) := by decide +kernel
theorem dX1_firstOf_2 : decode cX1_firstOf 2 = .ok (.iconst 0, 1) := by decide +kernel
theorem dX1_firstOf_3 : decode cX1_firstOf 3 = .ok (.istore_n 3, 1) := by decide +kernel
theorem dX1_firstOf_4 : decode cX1_firstOf 4 = .ok (.iconst 0, 1) := by decide +kernel
theorem dX1_firstOf_5 : decode cX1_firstOf 5 = .ok (.istore 4, 2) := by decide +kernel
theorem dX1_firstOf_7 : decode cX1_firstOf 7 = .ok (.iload 4, 2) := by decide +kernel
theorem dX1_firstOf_9 : decode cX1_firstOf 9 = .ok (.iconst 5, 1) := by decide +kernel
theorem dX1_firstOf_10 : decode cX1_firstOf 10 = .ok (.if_icmp .ge 43, 3) := by decide +kernel
theorem dX1_firstOf_13 : decode cX1_firstOf 13 = .ok (.iload_n 1, 1) := by decide +kernel
theorem dX1_firstOf_14 : decode cX1_firstOf 14 = .ok (.iload 4, 2) := by decide +kernel
theorem dX1_firstOf_16 : decode cX1_firstOf 16 = .ok (.ishr, 1) := by decide +kernel
theorem dX1_firstOf_17 : decode cX1_firstOf 17 = .ok (.iconst 1, 1) := by decide +kernel
theorem dX1_firstOf_18 : decode cX1_firstOf 18 = .ok (.iand, 1) := by decide +kernel
theorem dX1_firstOf_19 : decode cX1_firstOf 19 = .ok (.iconst 1, 1) := by decide +kernel
theorem dX1_firstOf_20 : decode cX1_firstOf 20 = .ok (.if_icmp .ne 27, 3) := by decide +kernel
theorem dX1_firstOf_23 : decode cX1_firstOf 23 = .ok (.aload_n 0, 1) := by decide +kernel
theorem dX1_firstOf_24 : decode cX1_firstOf 24 = .ok (.iload 4, 2) := by decide +kernel
theorem dX1_firstOf_26 : decode cX1_firstOf 26 = .ok (.invokevirtual 61, 3) := by decide +kernel
theorem dX1_firstOf_29 : decode cX1_firstOf 29 = .ok (.istore 5, 2) := by decide +kernel
theorem dX1_firstOf_31 : decode cX1_firstOf 31 = .ok (.iload_n 2, 1) := by decide +kernel
theorem dX1_firstOf_32 : decode cX1_firstOf 32 = .ok (.ifCond .lt 9, 3) := by decide +kernel
theorem dX1_firstOf_35 : decode cX1_firstOf 35 = .ok (.iload 5, 2) := by decide +kernel
theorem dX1_firstOf_37 : decode cX1_firstOf 37 = .ok (.iload_n 3, 1) := by decide +kernel
theorem dX1_firstOf_38 : decode cX1_firstOf 38 = .ok (.if_icmp .ge 9, 3) := by decide +kernel
theorem dX1_firstOf_41 : decode cX1_firstOf 41 = .ok (.iload 4, 2) := by decide +kernel
theorem dX1_firstOf_43 : decode cX1_firstOf 43 = .ok (.istore_n 2, 1) := by decide +kernel
theorem dX1_firstOf_44 : decode cX1_firstOf 44 = .ok (.iload 5, 2) := by decide +kernel
theorem dX1_firstOf_46 : decode cX1_firstOf 46 = .ok (.istore_n 3, 1) := by decide +kernel
theorem dX1_firstOf_47 : decode cX1_firstOf 47 = .ok (.iinc 4 1, 3) := by decide +kernel
theorem dX1_firstOf_50 : decode cX1_firstOf 50 = .ok (.goto (-43), 3) := by decide +kernel
theorem dX1_firstOf_53 : decode cX1_firstOf 53 = .ok (.iload_n 2, 1) := by decide +kernel
theorem dX1_firstOf_54 : decode cX1_firstOf 54 = .ok (.ireturn, 1) := by decide +kernel
theorem dX1_loadOf_0 : decode cX1_loadOf 0 = .ok (.iconst 0, 1) := by decide +kernel
theorem dX1_loadOf_1 : decode cX1_loadOf 1 = .ok (.istore_n 2, 1) := by decide +kernel
theorem dX1_loadOf_2 : decode cX1_loadOf 2 = .ok (.iconst 0, 1) := by decide +kernel
theorem dX1_loadOf_3 : decode cX1_loadOf 3 = .ok (.istore_n 3, 1) := by decide +kernel
theorem dX1_loadOf_4 : decode cX1_loadOf 4 = .ok (.iload_n 3, 1) := by decide +kernel
theorem dX1_loadOf_5 : decode cX1_loadOf 5 = .ok (.iconst 4, 1) := by decide +kernel
theorem dX1_loadOf_6 : decode cX1_loadOf 6 = .ok (.if_icmp .ge 25, 3) := by decide +kernel
theorem dX1_loadOf_9 : decode cX1_loadOf 9 = .ok (.aload_n 0, 1) := by decide +kernel
theorem dX1_loadOf_10 : decode cX1_loadOf 10 = .ok (.iload_n 1, 1) := by decide +kernel
theorem dX1_loadOf_11 : decode cX1_loadOf 11 = .ok (.iload_n 3, 1) := by decide +kernel
theorem dX1_loadOf_12 : decode cX1_loadOf 12 = .ok (.invokevirtual 57, 3) := by decide +kernel
theorem dX1_loadOf_15 : decode cX1_loadOf 15 = .ok (.istore 4, 2) := by decide +kernel
theorem dX1_loadOf_17 : decode cX1_loadOf 17 = .ok (.iload 4, 2) := by decide +kernel
theorem dX1_loadOf_19 : decode cX1_loadOf 19 = .ok (.ifCond .eq 6, 3) := by decide +kernel
theorem dX1_loadOf_22 : decode cX1_loadOf 22 = .ok (.iinc 2 1, 3) := by decide +kernel
theorem dX1_loadOf_25 : decode cX1_loadOf 25 = .ok (.iinc 3 1, 3) := by decide +kernel
theorem dX1_loadOf_28 : decode cX1_loadOf 28 = .ok (.goto (-24), 3) := by decide +kernel
theorem dX1_loadOf_31 : decode cX1_loadOf 31 = .ok (.iload_n 2, 1) := by decide +kernel
theorem dX1_loadOf_32 : decode cX1_loadOf 32 = .ok (.ireturn, 1) := by decide +kernel
theorem dX1_current_0 : decode cX1_current 0 = .ok (.aload_n 0, 1) := by decide +kernel
theorem dX1_current_1 : decode cX1_current 1 = .ok (.getfield 20, 3) := by decide +kernel
theorem dX1_current_4 : decode cX1_current 4 = .ok (.iload_n 1, 1) := by decide +kernel
theorem dX1_current_5 : decode cX1_current 5 = .ok (.iconst 4, 1) := by decide +kernel
theorem dX1_current_6 : decode cX1_current 6 = .ok (.imul, 1) := by decide +kernel
theorem dX1_current_7 : decode cX1_current 7 = .ok (.iload_n 2, 1) := by decide +kernel
theorem dX1_current_8 : decode cX1_current 8 = .ok (.iadd, 1) := by decide +kernel
theorem dX1_current_9 : decode cX1_current 9 = .ok (.iaload, 1) := by decide +kernel
theorem dX1_current_10 : decode cX1_current 10 = .ok (.istore_n 3, 1) := by decide +kernel
theorem dX1_current_11 : decode cX1_current 11 = .ok (.iload_n 3, 1) := by decide +kernel
theorem dX1_current_12 : decode cX1_current 12 = .ok (.ifCond .lt 31, 3) := by decide +kernel
theorem dX1_current_15 : decode cX1_current 15 = .ok (.aload_n 0, 1) := by decide +kernel
theorem dX1_current_16 : decode cX1_current 16 = .ok (.getfield 13, 3) := by decide +kernel
theorem dX1_current_19 : decode cX1_current 19 = .ok (.iload_n 2, 1) := by decide +kernel
theorem dX1_current_20 : decode cX1_current 20 = .ok (.baload, 1) := by decide +kernel
theorem dX1_current_21 : decode cX1_current 21 = .ok (.ifCond .eq 22, 3) := by decide +kernel
theorem dX1_current_24 : decode cX1_current 24 = .ok (.aload_n 0, 1) := by decide +kernel
theorem dX1_current_25 : decode cX1_current 25 = .ok (.getfield 23, 3) := by decide +kernel
theorem dX1_current_28 : decode cX1_current 28 = .ok (.iload_n 1, 1) := by decide +kernel
theorem dX1_current_29 : decode cX1_current 29 = .ok (.iconst 4, 1) := by decide +kernel
theorem dX1_current_30 : decode cX1_current 30 = .ok (.imul, 1) := by decide +kernel
theorem dX1_current_31 : decode cX1_current 31 = .ok (.iload_n 2, 1) := by decide +kernel
theorem dX1_current_32 : decode cX1_current 32 = .ok (.iadd, 1) := by decide +kernel
theorem dX1_current_33 : decode cX1_current 33 = .ok (.iaload, 1) := by decide +kernel
theorem dX1_current_34 : decode cX1_current 34 = .ok (.aload_n 0, 1) := by decide +kernel
theorem dX1_current_35 : decode cX1_current 35 = .ok (.getfield 16, 3) := by decide +kernel
theorem dX1_current_38 : decode cX1_current 38 = .ok (.iload_n 2, 1) := by decide +kernel
theorem dX1_current_39 : decode cX1_current 39 = .ok (.iaload, 1) := by decide +kernel
theorem dX1_current_40 : decode cX1_current 40 = .ok (.if_icmp .eq 5, 3) := by decide +kernel
theorem dX1_current_43 : decode cX1_current 43 = .ok (.iconst 0, 1) := by decide +kernel
theorem dX1_current_44 : decode cX1_current 44 = .ok (.ireturn, 1) := by decide +kernel
theorem dX1_current_45 : decode cX1_current 45 = .ok (.aload_n 0, 1) := by decide +kernel
theorem dX1_current_46 : decode cX1_current 46 = .ok (.iload_n 3, 1) := by decide +kernel
theorem dX1_current_47 : decode cX1_current 47 = .ok (.invokevirtual 54, 3) := by decide +kernel
theorem dX1_current_50 : decode cX1_current 50 = .ok (.istore 4, 2) := by decide +kernel
theorem dX1_current_52 : decode cX1_current 52 = .ok (.iload 4, 2) := by decide +kernel
theorem dX1_current_54 : decode cX1_current 54 = .ok (.aload_n 0, 1) := by decide +kernel
theorem dX1_current_55 : decode cX1_current 55 = .ok (.getfield 32, 3) := by decide +kernel
theorem dX1_current_58 : decode cX1_current 58 = .ok (.iload_n 3, 1) := by decide +kernel
theorem dX1_current_59 : decode cX1_current 59 = .ok (.iaload, 1) := by decide +kernel
theorem dX1_current_60 : decode cX1_current 60 = .ok (.if_icmp .ne 7, 3) := by decide +kernel
theorem dX1_current_63 : decode cX1_current 63 = .ok (.iconst 1, 1) := by decide +kernel
theorem dX1_current_64 : decode cX1_current 64 = .ok (.goto 4, 3) := by decide +kernel
theorem dX1_current_67 : decode cX1_current 67 = .ok (.iconst 0, 1) := by decide +kernel
theorem dX1_current_68 : decode cX1_current 68 = .ok (.ireturn, 1) := by decide +kernel
theorem dX1_sumOf_0 : decode cX1_sumOf 0 = .ok (.bipush 29, 2) := by decide +kernel
theorem dX1_sumOf_2 : decode cX1_sumOf 2 = .ok (.aload_n 0, 1) := by decide +kernel
theorem dX1_sumOf_3 : decode cX1_sumOf 3 = .ok (.getfield 29, 3) := by decide +kernel
theorem dX1_sumOf_6 : decode cX1_sumOf 6 = .ok (.iload_n 1, 1) := by decide +kernel
theorem dX1_sumOf_7 : decode cX1_sumOf 7 = .ok (.iaload, 1) := by decide +kernel
theorem dX1_sumOf_8 : decode cX1_sumOf 8 = .ok (.iadd, 1) := by decide +kernel
theorem dX1_sumOf_9 : decode cX1_sumOf 9 = .ok (.istore_n 2, 1) := by decide +kernel
theorem dX1_sumOf_10 : decode cX1_sumOf 10 = .ok (.iconst 0, 1) := by decide +kernel
theorem dX1_sumOf_11 : decode cX1_sumOf 11 = .ok (.istore_n 3, 1) := by decide +kernel
theorem dX1_sumOf_12 : decode cX1_sumOf 12 = .ok (.iload_n 3, 1) := by decide +kernel
theorem dX1_sumOf_13 : decode cX1_sumOf 13 = .ok (.bipush 6, 2) := by decide +kernel
theorem dX1_sumOf_15 : decode cX1_sumOf 15 = .ok (.if_icmp .ge 26, 3) := by decide +kernel
theorem dX1_sumOf_18 : decode cX1_sumOf 18 = .ok (.iload_n 2, 1) := by decide +kernel
theorem dX1_sumOf_19 : decode cX1_sumOf 19 = .ok (.ldc 42, 2) := by decide +kernel
theorem dX1_sumOf_21 : decode cX1_sumOf 21 = .ok (.imul, 1) := by decide +kernel
theorem dX1_sumOf_22 : decode cX1_sumOf 22 = .ok (.aload_n 0, 1) := by decide +kernel
theorem dX1_sumOf_23 : decode cX1_sumOf 23 = .ok (.getfield 26, 3) := by decide +kernel
theorem dX1_sumOf_26 : decode cX1_sumOf 26 = .ok (.iload_n 1, 1) := by decide +kernel
theorem dX1_sumOf_27 : decode cX1_sumOf 27 = .ok (.bipush 6, 2) := by decide +kernel
theorem dX1_sumOf_29 : decode cX1_sumOf 29 = .ok (.imul, 1) := by decide +kernel
theorem dX1_sumOf_30 : decode cX1_sumOf 30 = .ok (.iload_n 3, 1) := by decide +kernel
theorem dX1_sumOf_31 : decode cX1_sumOf 31 = .ok (.iadd, 1) := by decide +kernel
theorem dX1_sumOf_32 : decode cX1_sumOf 32 = .ok (.iaload, 1) := by decide +kernel
theorem dX1_sumOf_33 : decode cX1_sumOf 33 = .ok (.iadd, 1) := by decide +kernel
theorem dX1_sumOf_34 : decode cX1_sumOf 34 = .ok (.istore_n 2, 1) := by decide +kernel
theorem dX1_sumOf_35 : decode cX1_sumOf 35 = .ok (.iinc 3 1, 3) := by decide +kernel
theorem dX1_sumOf_38 : decode cX1_sumOf 38 = .ok (.goto (-26), 3) := by decide +kernel
theorem dX1_sumOf_41 : decode cX1_sumOf 41 = .ok (.iload_n 2, 1) := by decide +kernel
theorem dX1_sumOf_42 : decode cX1_sumOf 42 = .ok (.ireturn, 1) := by decide +kernel
theorem dX1_newReplica_0 : decode cX1_newReplica 0 = .ok (.aload_n 0, 1) := by decide +kernel
theorem dX1_newReplica_1 : decode cX1_newReplica 1 = .ok (.iload_n 1, 1) := by decide +kernel
theorem dX1_newReplica_2 : decode cX1_newReplica 2 = .ok (.iload_n 2, 1) := by decide +kernel
theorem dX1_newReplica_3 : decode cX1_newReplica 3 = .ok (.invokevirtual 51, 3) := by decide +kernel
theorem dX1_newReplica_6 : decode cX1_newReplica 6 = .ok (.aload_n 0, 1) := by decide +kernel
theorem dX1_newReplica_7 : decode cX1_newReplica 7 = .ok (.iload_n 1, 1) := by decide +kernel
theorem dX1_newReplica_8 : decode cX1_newReplica 8 = .ok (.invokevirtual 43, 3) := by decide +kernel
theorem dX1_newReplica_11 : decode cX1_newReplica 11 = .ok (.istore_n 3, 1) := by decide +kernel
theorem dX1_newReplica_12 : decode cX1_newReplica 12 = .ok (.aload_n 0, 1) := by decide +kernel
theorem dX1_newReplica_13 : decode cX1_newReplica 13 = .ok (.getfield 35, 3) := by decide +kernel
theorem dX1_newReplica_16 : decode cX1_newReplica 16 = .ok (.iload_n 3, 1) := by decide +kernel
theorem dX1_newReplica_17 : decode cX1_newReplica 17 = .ok (.iconst 1, 1) := by decide +kernel
theorem dX1_newReplica_18 : decode cX1_newReplica 18 = .ok (.iastore, 1) := by decide +kernel
theorem dX1_newReplica_19 : decode cX1_newReplica 19 = .ok (.aload_n 0, 1) := by decide +kernel
theorem dX1_newReplica_20 : decode cX1_newReplica 20 = .ok (.getfield 20, 3) := by decide +kernel
theorem dX1_newReplica_23 : decode cX1_newReplica 23 = .ok (.iload_n 1, 1) := by decide +kernel
theorem dX1_newReplica_24 : decode cX1_newReplica 24 = .ok (.iconst 4, 1) := by decide +kernel
theorem dX1_newReplica_25 : decode cX1_newReplica 25 = .ok (.imul, 1) := by decide +kernel
theorem dX1_newReplica_26 : decode cX1_newReplica 26 = .ok (.iload_n 2, 1) := by decide +kernel
theorem dX1_newReplica_27 : decode cX1_newReplica 27 = .ok (.iadd, 1) := by decide +kernel
theorem dX1_newReplica_28 : decode cX1_newReplica 28 = .ok (.iload_n 3, 1) := by decide +kernel
theorem dX1_newReplica_29 : decode cX1_newReplica 29 = .ok (.iastore, 1) := by decide +kernel
theorem dX1_newReplica_30 : decode cX1_newReplica 30 = .ok (.aload_n 0, 1) := by decide +kernel
theorem dX1_newReplica_31 : decode cX1_newReplica 31 = .ok (.getfield 23, 3) := by decide +kernel
theorem dX1_newReplica_34 : decode cX1_newReplica 34 = .ok (.iload_n 1, 1) := by decide +kernel
theorem dX1_newReplica_35 : decode cX1_newReplica 35 = .ok (.iconst 4, 1) := by decide +kernel
theorem dX1_newReplica_36 : decode cX1_newReplica 36 = .ok (.imul, 1) := by decide +kernel
theorem dX1_newReplica_37 : decode cX1_newReplica 37 = .ok (.iload_n 2, 1) := by decide +kernel
theorem dX1_newReplica_38 : decode cX1_newReplica 38 = .ok (.iadd, 1) := by decide +kernel
theorem dX1_newReplica_39 : decode cX1_newReplica 39 = .ok (.aload_n 0, 1) := by decide +kernel
theorem dX1_newReplica_40 : decode cX1_newReplica 40 = .ok (.getfield 16, 3) := by decide +kernel
theorem dX1_newReplica_43 : decode cX1_newReplica 43 = .ok (.iload_n 2, 1) := by decide +kernel
theorem dX1_newReplica_44 : decode cX1_newReplica 44 = .ok (.iaload, 1) := by decide +kernel
theorem dX1_newReplica_45 : decode cX1_newReplica 45 = .ok (.iastore, 1) := by decide +kernel
theorem dX1_newReplica_46 : decode cX1_newReplica 46 = .ok (.iload_n 3, 1) := by decide +kernel
theorem dX1_newReplica_47 : decode cX1_newReplica 47 = .ok (.ireturn, 1) := by decide +kernel
theorem dX1_letGo_0 : decode cX1_letGo 0 = .ok (.aload_n 0, 1) := by decide +kernel
theorem dX1_letGo_1 : decode cX1_letGo 1 = .ok (.getfield 20, 3) := by decide +kernel
theorem dX1_letGo_4 : decode cX1_letGo 4 = .ok (.iload_n 1, 1) := by decide +kernel
theorem dX1_letGo_5 : decode cX1_letGo 5 = .ok (.iconst 4, 1) := by decide +kernel
theorem dX1_letGo_6 : decode cX1_letGo 6 = .ok (.imul, 1) := by decide +kernel
theorem dX1_letGo_7 : decode cX1_letGo 7 = .ok (.iload_n 2, 1) := by decide +kernel
theorem dX1_letGo_8 : decode cX1_letGo 8 = .ok (.iadd, 1) := by decide +kernel
theorem dX1_letGo_9 : decode cX1_letGo 9 = .ok (.iaload, 1) := by decide +kernel
theorem dX1_letGo_10 : decode cX1_letGo 10 = .ok (.istore_n 3, 1) := by decide +kernel
theorem dX1_letGo_11 : decode cX1_letGo 11 = .ok (.iload_n 3, 1) := by decide +kernel
theorem dX1_letGo_12 : decode cX1_letGo 12 = .ok (.ifCond .lt 13, 3) := by decide +kernel
theorem dX1_letGo_15 : decode cX1_letGo 15 = .ok (.aload_n 0, 1) := by decide +kernel
theorem dX1_letGo_16 : decode cX1_letGo 16 = .ok (.getfield 35, 3) := by decide +kernel
theorem dX1_letGo_19 : decode cX1_letGo 19 = .ok (.iload_n 3, 1) := by decide +kernel
theorem dX1_letGo_20 : decode cX1_letGo 20 = .ok (.dup2, 1) := by decide +kernel
theorem dX1_letGo_21 : decode cX1_letGo 21 = .ok (.iaload, 1) := by decide +kernel
theorem dX1_letGo_22 : decode cX1_letGo 22 = .ok (.iconst 1, 1) := by decide +kernel
theorem dX1_letGo_23 : decode cX1_letGo 23 = .ok (.isub, 1) := by decide +kernel
theorem dX1_letGo_24 : decode cX1_letGo 24 = .ok (.iastore, 1) := by decide +kernel
theorem dX1_letGo_25 : decode cX1_letGo 25 = .ok (.aload_n 0, 1) := by decide +kernel
theorem dX1_letGo_26 : decode cX1_letGo 26 = .ok (.getfield 20, 3) := by decide +kernel
theorem dX1_letGo_29 : decode cX1_letGo 29 = .ok (.iload_n 1, 1) := by decide +kernel
theorem dX1_letGo_30 : decode cX1_letGo 30 = .ok (.iconst 4, 1) := by decide +kernel
theorem dX1_letGo_31 : decode cX1_letGo 31 = .ok (.imul, 1) := by decide +kernel
theorem dX1_letGo_32 : decode cX1_letGo 32 = .ok (.iload_n 2, 1) := by decide +kernel
theorem dX1_letGo_33 : decode cX1_letGo 33 = .ok (.iadd, 1) := by decide +kernel
theorem dX1_letGo_34 : decode cX1_letGo 34 = .ok (.iconst (-1), 1) := by decide +kernel
theorem dX1_letGo_35 : decode cX1_letGo 35 = .ok (.iastore, 1) := by decide +kernel
theorem dX1_letGo_36 : decode cX1_letGo 36 = .ok (.return_, 1) := by decide +kernel
theorem dX1_freeBlock_0 : decode cX1_freeBlock 0 = .ok (.iload_n 1, 1) := by decide +kernel
theorem dX1_freeBlock_1 : decode cX1_freeBlock 1 = .ok (.iconst 4, 1) := by decide +kernel
theorem dX1_freeBlock_2 : decode cX1_freeBlock 2 = .ok (.imul, 1) := by decide +kernel
theorem dX1_freeBlock_3 : decode cX1_freeBlock 3 = .ok (.istore_n 2, 1) := by decide +kernel
theorem dX1_freeBlock_4 : decode cX1_freeBlock 4 = .ok (.iload_n 2, 1) := by decide +kernel
theorem dX1_freeBlock_5 : decode cX1_freeBlock 5 = .ok (.iload_n 1, 1) := by decide +kernel
theorem dX1_freeBlock_6 : decode cX1_freeBlock 6 = .ok (.iconst 4, 1) := by decide +kernel
theorem dX1_freeBlock_7 : decode cX1_freeBlock 7 = .ok (.imul, 1) := by decide +kernel
theorem dX1_freeBlock_8 : decode cX1_freeBlock 8 = .ok (.iconst 4, 1) := by decide +kernel
theorem dX1_freeBlock_9 : decode cX1_freeBlock 9 = .ok (.iadd, 1) := by decide +kernel
theorem dX1_freeBlock_10 : decode cX1_freeBlock 10 = .ok (.iconst 1, 1) := by decide +kernel
theorem dX1_freeBlock_11 : decode cX1_freeBlock 11 = .ok (.isub, 1) := by decide +kernel
theorem dX1_freeBlock_12 : decode cX1_freeBlock 12 = .ok (.if_icmp .ge 18, 3) := by decide +kernel
theorem dX1_freeBlock_15 : decode cX1_freeBlock 15 = .ok (.aload_n 0, 1) := by decide +kernel
theorem dX1_freeBlock_16 : decode cX1_freeBlock 16 = .ok (.getfield 35, 3) := by decide +kernel
theorem dX1_freeBlock_19 : decode cX1_freeBlock 19 = .ok (.iload_n 2, 1) := by decide +kernel
theorem dX1_freeBlock_20 : decode cX1_freeBlock 20 = .ok (.iaload, 1) := by decide +kernel
theorem dX1_freeBlock_21 : decode cX1_freeBlock 21 = .ok (.ifCond .le 9, 3) := by decide +kernel
theorem dX1_freeBlock_24 : decode cX1_freeBlock 24 = .ok (.iinc 2 1, 3) := by decide +kernel
theorem dX1_freeBlock_27 : decode cX1_freeBlock 27 = .ok (.goto (-23), 3) := by decide +kernel
end
section
set_option maxRecDepth 100000
theorem dX1_freeBlock_30 : decode cX1_freeBlock 30 = .ok (.iload_n 2, 1) := by decide +kernel
theorem dX1_freeBlock_31 : decode cX1_freeBlock 31 = .ok (.ireturn, 1) := by decide +kernel
theorem dX1_remove_0 : decode cX1_remove 0 = .ok (.iload_n 1, 1) := by decide +kernel
theorem dX1_remove_1 : decode cX1_remove 1 = .ok (.invokestatic 67, 3) := by decide +kernel
theorem dX1_remove_4 : decode cX1_remove 4 = .ok (.ifCond .eq 5, 3) := by decide +kernel
theorem dX1_remove_7 : decode cX1_remove 7 = .ok (.iconst (-1), 1) := by decide +kernel
theorem dX1_remove_8 : decode cX1_remove 8 = .ok (.ireturn, 1) := by decide +kernel
theorem dX1_remove_9 : decode cX1_remove 9 = .ok (.aload_n 0, 1) := by decide +kernel
theorem dX1_remove_10 : decode cX1_remove 10 = .ok (.getfield 13, 3) := by decide +kernel
theorem dX1_remove_13 : decode cX1_remove 13 = .ok (.iload_n 1, 1) := by decide +kernel
theorem dX1_remove_14 : decode cX1_remove 14 = .ok (.baload, 1) := by decide +kernel
theorem dX1_remove_15 : decode cX1_remove 15 = .ok (.ifCond .ne 6, 3) := by decide +kernel
theorem dX1_remove_18 : decode cX1_remove 18 = .ok (.bipush (-3), 2) := by decide +kernel
theorem dX1_remove_20 : decode cX1_remove 20 = .ok (.ireturn, 1) := by decide +kernel
theorem dX1_remove_21 : decode cX1_remove 21 = .ok (.aload_n 0, 1) := by decide +kernel
theorem dX1_remove_22 : decode cX1_remove 22 = .ok (.getfield 13, 3) := by decide +kernel
theorem dX1_remove_25 : decode cX1_remove 25 = .ok (.iload_n 1, 1) := by decide +kernel
theorem dX1_remove_26 : decode cX1_remove 26 = .ok (.iconst 0, 1) := by decide +kernel
theorem dX1_remove_27 : decode cX1_remove 27 = .ok (.bastore, 1) := by decide +kernel
theorem dX1_remove_28 : decode cX1_remove 28 = .ok (.iconst 0, 1) := by decide +kernel
theorem dX1_remove_29 : decode cX1_remove 29 = .ok (.istore_n 2, 1) := by decide +kernel
theorem dX1_remove_30 : decode cX1_remove 30 = .ok (.iload_n 2, 1) := by decide +kernel
theorem dX1_remove_31 : decode cX1_remove 31 = .ok (.iconst 5, 1) := by decide +kernel
theorem dX1_remove_32 : decode cX1_remove 32 = .ok (.if_icmp .ge 24, 3) := by decide +kernel
theorem dX1_remove_35 : decode cX1_remove 35 = .ok (.aload_n 0, 1) := by decide +kernel
theorem dX1_remove_36 : decode cX1_remove 36 = .ok (.getfield 7, 3) := by decide +kernel
theorem dX1_remove_39 : decode cX1_remove 39 = .ok (.iload_n 2, 1) := by decide +kernel
theorem dX1_remove_40 : decode cX1_remove 40 = .ok (.baload, 1) := by decide +kernel
theorem dX1_remove_41 : decode cX1_remove 41 = .ok (.ifCond .eq 9, 3) := by decide +kernel
theorem dX1_remove_44 : decode cX1_remove 44 = .ok (.aload_n 0, 1) := by decide +kernel
theorem dX1_remove_45 : decode cX1_remove 45 = .ok (.iload_n 2, 1) := by decide +kernel
theorem dX1_remove_46 : decode cX1_remove 46 = .ok (.iload_n 1, 1) := by decide +kernel
theorem dX1_remove_47 : decode cX1_remove 47 = .ok (.invokevirtual 51, 3) := by decide +kernel
theorem dX1_remove_50 : decode cX1_remove 50 = .ok (.iinc 2 1, 3) := by decide +kernel
theorem dX1_remove_53 : decode cX1_remove 53 = .ok (.goto (-23), 3) := by decide +kernel
theorem dX1_remove_56 : decode cX1_remove 56 = .ok (.iconst 0, 1) := by decide +kernel
theorem dX1_remove_57 : decode cX1_remove 57 = .ok (.ireturn, 1) := by decide +kernel
theorem dX1_write_0 : decode cX1_write 0 = .ok (.aload_n 0, 1) := by decide +kernel
theorem dX1_write_1 : decode cX1_write 1 = .ok (.iload_n 1, 1) := by decide +kernel
theorem dX1_write_2 : decode cX1_write 2 = .ok (.invokevirtual 98, 3) := by decide +kernel
theorem dX1_write_5 : decode cX1_write 5 = .ok (.istore 4, 2) := by decide +kernel
theorem dX1_write_7 : decode cX1_write 7 = .ok (.iload 4, 2) := by decide +kernel
theorem dX1_write_9 : decode cX1_write 9 = .ok (.ifCond .eq 6, 3) := by decide +kernel
theorem dX1_write_12 : decode cX1_write 12 = .ok (.iload 4, 2) := by decide +kernel
theorem dX1_write_14 : decode cX1_write 14 = .ok (.ireturn, 1) := by decide +kernel
theorem dX1_write_15 : decode cX1_write 15 = .ok (.iload_n 2, 1) := by decide +kernel
theorem dX1_write_16 : decode cX1_write 16 = .ok (.ifCond .lt 9, 3) := by decide +kernel
theorem dX1_write_19 : decode cX1_write 19 = .ok (.iload_n 2, 1) := by decide +kernel
theorem dX1_write_20 : decode cX1_write 20 = .ok (.bipush 6, 2) := by decide +kernel
theorem dX1_write_22 : decode cX1_write 22 = .ok (.if_icmp .lt 6, 3) := by decide +kernel
theorem dX1_write_25 : decode cX1_write 25 = .ok (.bipush (-6), 2) := by decide +kernel
theorem dX1_write_27 : decode cX1_write 27 = .ok (.ireturn, 1) := by decide +kernel
theorem dX1_write_28 : decode cX1_write 28 = .ok (.aload_n 0, 1) := by decide +kernel
theorem dX1_write_29 : decode cX1_write 29 = .ok (.iload_n 1, 1) := by decide +kernel
theorem dX1_write_30 : decode cX1_write 30 = .ok (.iload_n 2, 1) := by decide +kernel
theorem dX1_write_31 : decode cX1_write 31 = .ok (.iload_n 3, 1) := by decide +kernel
theorem dX1_write_32 : decode cX1_write 32 = .ok (.invokevirtual 101, 3) := by decide +kernel
theorem dX1_write_35 : decode cX1_write 35 = .ok (.ireturn, 1) := by decide +kernel
theorem dX1_refusal_0 : decode cX1_refusal 0 = .ok (.iload_n 1, 1) := by decide +kernel
theorem dX1_refusal_1 : decode cX1_refusal 1 = .ok (.invokestatic 67, 3) := by decide +kernel
theorem dX1_refusal_4 : decode cX1_refusal 4 = .ok (.ifCond .eq 5, 3) := by decide +kernel
theorem dX1_refusal_7 : decode cX1_refusal 7 = .ok (.iconst (-1), 1) := by decide +kernel
theorem dX1_refusal_8 : decode cX1_refusal 8 = .ok (.ireturn, 1) := by decide +kernel
theorem dX1_refusal_9 : decode cX1_refusal 9 = .ok (.aload_n 0, 1) := by decide +kernel
theorem dX1_refusal_10 : decode cX1_refusal 10 = .ok (.getfield 13, 3) := by decide +kernel
theorem dX1_refusal_13 : decode cX1_refusal 13 = .ok (.iload_n 1, 1) := by decide +kernel
theorem dX1_refusal_14 : decode cX1_refusal 14 = .ok (.baload, 1) := by decide +kernel
theorem dX1_refusal_15 : decode cX1_refusal 15 = .ok (.ifCond .ne 6, 3) := by decide +kernel
theorem dX1_refusal_18 : decode cX1_refusal 18 = .ok (.bipush (-3), 2) := by decide +kernel
theorem dX1_refusal_20 : decode cX1_refusal 20 = .ok (.ireturn, 1) := by decide +kernel
theorem dX1_refusal_21 : decode cX1_refusal 21 = .ok (.aload_n 0, 1) := by decide +kernel
theorem dX1_refusal_22 : decode cX1_refusal 22 = .ok (.iload_n 1, 1) := by decide +kernel
theorem dX1_refusal_23 : decode cX1_refusal 23 = .ok (.invokevirtual 86, 3) := by decide +kernel
theorem dX1_refusal_26 : decode cX1_refusal 26 = .ok (.istore_n 2, 1) := by decide +kernel
theorem dX1_refusal_27 : decode cX1_refusal 27 = .ok (.iload_n 2, 1) := by decide +kernel
theorem dX1_refusal_28 : decode cX1_refusal 28 = .ok (.ifCond .ge 8, 3) := by decide +kernel
theorem dX1_refusal_31 : decode cX1_refusal 31 = .ok (.bipush (-5), 2) := by decide +kernel
theorem dX1_refusal_33 : decode cX1_refusal 33 = .ok (.goto 4, 3) := by decide +kernel
theorem dX1_refusal_36 : decode cX1_refusal 36 = .ok (.iconst 0, 1) := by decide +kernel
theorem dX1_refusal_37 : decode cX1_refusal 37 = .ok (.ireturn, 1) := by decide +kernel
theorem dX1_source_0 : decode cX1_source 0 = .ok (.iconst 0, 1) := by decide +kernel
theorem dX1_source_1 : decode cX1_source 1 = .ok (.istore_n 2, 1) := by decide +kernel
theorem dX1_source_2 : decode cX1_source 2 = .ok (.iload_n 2, 1) := by decide +kernel
theorem dX1_source_3 : decode cX1_source 3 = .ok (.iconst 5, 1) := by decide +kernel
theorem dX1_source_4 : decode cX1_source 4 = .ok (.if_icmp .ge 31, 3) := by decide +kernel
theorem dX1_source_7 : decode cX1_source 7 = .ok (.aload_n 0, 1) := by decide +kernel
theorem dX1_source_8 : decode cX1_source 8 = .ok (.getfield 7, 3) := by decide +kernel
theorem dX1_source_11 : decode cX1_source 11 = .ok (.iload_n 2, 1) := by decide +kernel
theorem dX1_source_12 : decode cX1_source 12 = .ok (.baload, 1) := by decide +kernel
theorem dX1_source_13 : decode cX1_source 13 = .ok (.ifCond .eq 16, 3) := by decide +kernel
theorem dX1_source_16 : decode cX1_source 16 = .ok (.aload_n 0, 1) := by decide +kernel
theorem dX1_source_17 : decode cX1_source 17 = .ok (.iload_n 2, 1) := by decide +kernel
theorem dX1_source_18 : decode cX1_source 18 = .ok (.iload_n 1, 1) := by decide +kernel
theorem dX1_source_19 : decode cX1_source 19 = .ok (.invokevirtual 57, 3) := by decide +kernel
theorem dX1_source_22 : decode cX1_source 22 = .ok (.istore_n 3, 1) := by decide +kernel
theorem dX1_source_23 : decode cX1_source 23 = .ok (.iload_n 3, 1) := by decide +kernel
theorem dX1_source_24 : decode cX1_source 24 = .ok (.ifCond .eq 5, 3) := by decide +kernel
theorem dX1_source_27 : decode cX1_source 27 = .ok (.iload_n 2, 1) := by decide +kernel
theorem dX1_source_28 : decode cX1_source 28 = .ok (.ireturn, 1) := by decide +kernel
theorem dX1_source_29 : decode cX1_source 29 = .ok (.iinc 2 1, 3) := by decide +kernel
theorem dX1_source_32 : decode cX1_source 32 = .ok (.goto (-30), 3) := by decide +kernel
theorem dX1_source_35 : decode cX1_source 35 = .ok (.iconst (-1), 1) := by decide +kernel
theorem dX1_source_36 : decode cX1_source 36 = .ok (.ireturn, 1) := by decide +kernel
theorem dX1_mutate_0 : decode cX1_mutate 0 = .ok (.aload_n 0, 1) := by decide +kernel
theorem dX1_mutate_1 : decode cX1_mutate 1 = .ok (.iload_n 1, 1) := by decide +kernel
theorem dX1_mutate_2 : decode cX1_mutate 2 = .ok (.invokevirtual 89, 3) := by decide +kernel
theorem dX1_mutate_5 : decode cX1_mutate 5 = .ok (.istore 4, 2) := by decide +kernel
theorem dX1_mutate_7 : decode cX1_mutate 7 = .ok (.iload 4, 2) := by decide +kernel
theorem dX1_mutate_9 : decode cX1_mutate 9 = .ok (.aload_n 0, 1) := by decide +kernel
theorem dX1_mutate_10 : decode cX1_mutate 10 = .ok (.invokevirtual 71, 3) := by decide +kernel
theorem dX1_mutate_13 : decode cX1_mutate 13 = .ok (.iand, 1) := by decide +kernel
theorem dX1_mutate_14 : decode cX1_mutate 14 = .ok (.istore 5, 2) := by decide +kernel
theorem dX1_mutate_16 : decode cX1_mutate 16 = .ok (.iload 5, 2) := by decide +kernel
theorem dX1_mutate_18 : decode cX1_mutate 18 = .ok (.iload 4, 2) := by decide +kernel
theorem dX1_mutate_20 : decode cX1_mutate 20 = .ok (.if_icmp .eq 51, 3) := by decide +kernel
theorem dX1_mutate_23 : decode cX1_mutate 23 = .ok (.aload_n 0, 1) := by decide +kernel
theorem dX1_mutate_24 : decode cX1_mutate 24 = .ok (.iload_n 1, 1) := by decide +kernel
theorem dX1_mutate_25 : decode cX1_mutate 25 = .ok (.invokevirtual 75, 3) := by decide +kernel
theorem dX1_mutate_28 : decode cX1_mutate 28 = .ok (.iconst 0, 1) := by decide +kernel
theorem dX1_mutate_29 : decode cX1_mutate 29 = .ok (.istore 6, 2) := by decide +kernel
theorem dX1_mutate_31 : decode cX1_mutate 31 = .ok (.iload 6, 2) := by decide +kernel
theorem dX1_mutate_33 : decode cX1_mutate 33 = .ok (.iconst 5, 1) := by decide +kernel
theorem dX1_mutate_34 : decode cX1_mutate 34 = .ok (.if_icmp .ge 37, 3) := by decide +kernel
theorem dX1_mutate_37 : decode cX1_mutate 37 = .ok (.iload 5, 2) := by decide +kernel
theorem dX1_mutate_39 : decode cX1_mutate 39 = .ok (.iload 6, 2) := by decide +kernel
theorem dX1_mutate_41 : decode cX1_mutate 41 = .ok (.ishr, 1) := by decide +kernel
theorem dX1_mutate_42 : decode cX1_mutate 42 = .ok (.iconst 1, 1) := by decide +kernel
theorem dX1_mutate_43 : decode cX1_mutate 43 = .ok (.iand, 1) := by decide +kernel
theorem dX1_mutate_44 : decode cX1_mutate 44 = .ok (.iconst 1, 1) := by decide +kernel
theorem dX1_mutate_45 : decode cX1_mutate 45 = .ok (.if_icmp .ne 20, 3) := by decide +kernel
theorem dX1_mutate_48 : decode cX1_mutate 48 = .ok (.aload_n 0, 1) := by decide +kernel
theorem dX1_mutate_49 : decode cX1_mutate 49 = .ok (.getfield 23, 3) := by decide +kernel
theorem dX1_mutate_52 : decode cX1_mutate 52 = .ok (.iload 6, 2) := by decide +kernel
theorem dX1_mutate_54 : decode cX1_mutate 54 = .ok (.iconst 4, 1) := by decide +kernel
theorem dX1_mutate_55 : decode cX1_mutate 55 = .ok (.imul, 1) := by decide +kernel
theorem dX1_mutate_56 : decode cX1_mutate 56 = .ok (.iload_n 1, 1) := by decide +kernel
theorem dX1_mutate_57 : decode cX1_mutate 57 = .ok (.iadd, 1) := by decide +kernel
theorem dX1_mutate_58 : decode cX1_mutate 58 = .ok (.aload_n 0, 1) := by decide +kernel
theorem dX1_mutate_59 : decode cX1_mutate 59 = .ok (.getfield 16, 3) := by decide +kernel
theorem dX1_mutate_62 : decode cX1_mutate 62 = .ok (.iload_n 1, 1) := by decide +kernel
theorem dX1_mutate_63 : decode cX1_mutate 63 = .ok (.iaload, 1) := by decide +kernel
theorem dX1_mutate_64 : decode cX1_mutate 64 = .ok (.iastore, 1) := by decide +kernel
theorem dX1_mutate_65 : decode cX1_mutate 65 = .ok (.iinc 6 1, 3) := by decide +kernel
theorem dX1_mutate_68 : decode cX1_mutate 68 = .ok (.goto (-37), 3) := by decide +kernel
theorem dX1_mutate_71 : decode cX1_mutate 71 = .ok (.iconst 0, 1) := by decide +kernel
theorem dX1_mutate_72 : decode cX1_mutate 72 = .ok (.istore 6, 2) := by decide +kernel
theorem dX1_mutate_74 : decode cX1_mutate 74 = .ok (.iload 6, 2) := by decide +kernel
theorem dX1_mutate_76 : decode cX1_mutate 76 = .ok (.iconst 5, 1) := by decide +kernel
theorem dX1_mutate_77 : decode cX1_mutate 77 = .ok (.if_icmp .ge 78, 3) := by decide +kernel
theorem dX1_mutate_80 : decode cX1_mutate 80 = .ok (.iload 5, 2) := by decide +kernel
theorem dX1_mutate_82 : decode cX1_mutate 82 = .ok (.iload 6, 2) := by decide +kernel
theorem dX1_mutate_84 : decode cX1_mutate 84 = .ok (.ishr, 1) := by decide +kernel
theorem dX1_mutate_85 : decode cX1_mutate 85 = .ok (.iconst 1, 1) := by decide +kernel
theorem dX1_mutate_86 : decode cX1_mutate 86 = .ok (.iand, 1) := by decide +kernel
theorem dX1_mutate_87 : decode cX1_mutate 87 = .ok (.iconst 1, 1) := by decide +kernel
theorem dX1_mutate_88 : decode cX1_mutate 88 = .ok (.if_icmp .ne 61, 3) := by decide +kernel
theorem dX1_mutate_91 : decode cX1_mutate 91 = .ok (.aload_n 0, 1) := by decide +kernel
theorem dX1_mutate_92 : decode cX1_mutate 92 = .ok (.iload 6, 2) := by decide +kernel
theorem dX1_mutate_94 : decode cX1_mutate 94 = .ok (.iload_n 1, 1) := by decide +kernel
theorem dX1_mutate_95 : decode cX1_mutate 95 = .ok (.invokevirtual 92, 3) := by decide +kernel
theorem dX1_mutate_98 : decode cX1_mutate 98 = .ok (.istore 7, 2) := by decide +kernel
theorem dX1_mutate_100 : decode cX1_mutate 100 = .ok (.aload_n 0, 1) := by decide +kernel
theorem dX1_mutate_101 : decode cX1_mutate 101 = .ok (.getfield 26, 3) := by decide +kernel
theorem dX1_mutate_104 : decode cX1_mutate 104 = .ok (.iload 7, 2) := by decide +kernel
theorem dX1_mutate_106 : decode cX1_mutate 106 = .ok (.bipush 6, 2) := by decide +kernel
theorem dX1_mutate_108 : decode cX1_mutate 108 = .ok (.imul, 1) := by decide +kernel
theorem dX1_mutate_109 : decode cX1_mutate 109 = .ok (.iload_n 2, 1) := by decide +kernel
theorem dX1_mutate_110 : decode cX1_mutate 110 = .ok (.iadd, 1) := by decide +kernel
theorem dX1_mutate_111 : decode cX1_mutate 111 = .ok (.iload_n 3, 1) := by decide +kernel
theorem dX1_mutate_112 : decode cX1_mutate 112 = .ok (.iastore, 1) := by decide +kernel
theorem dX1_mutate_113 : decode cX1_mutate 113 = .ok (.aload_n 0, 1) := by decide +kernel
theorem dX1_mutate_114 : decode cX1_mutate 114 = .ok (.getfield 29, 3) := by decide +kernel
theorem dX1_mutate_117 : decode cX1_mutate 117 = .ok (.iload 7, 2) := by decide +kernel
theorem dX1_mutate_119 : decode cX1_mutate 119 = .ok (.iaload, 1) := by decide +kernel
theorem dX1_mutate_120 : decode cX1_mutate 120 = .ok (.iload_n 2, 1) := by decide +kernel
theorem dX1_mutate_121 : decode cX1_mutate 121 = .ok (.iconst 1, 1) := by decide +kernel
theorem dX1_mutate_122 : decode cX1_mutate 122 = .ok (.iadd, 1) := by decide +kernel
theorem dX1_mutate_123 : decode cX1_mutate 123 = .ok (.if_icmp .ge 13, 3) := by decide +kernel
theorem dX1_mutate_126 : decode cX1_mutate 126 = .ok (.aload_n 0, 1) := by decide +kernel
theorem dX1_mutate_127 : decode cX1_mutate 127 = .ok (.getfield 29, 3) := by decide +kernel
theorem dX1_mutate_130 : decode cX1_mutate 130 = .ok (.iload 7, 2) := by decide +kernel
theorem dX1_mutate_132 : decode cX1_mutate 132 = .ok (.iload_n 2, 1) := by decide +kernel
theorem dX1_mutate_133 : decode cX1_mutate 133 = .ok (.iconst 1, 1) := by decide +kernel
theorem dX1_mutate_134 : decode cX1_mutate 134 = .ok (.iadd, 1) := by decide +kernel
theorem dX1_mutate_135 : decode cX1_mutate 135 = .ok (.iastore, 1) := by decide +kernel
theorem dX1_mutate_136 : decode cX1_mutate 136 = .ok (.aload_n 0, 1) := by decide +kernel
theorem dX1_mutate_137 : decode cX1_mutate 137 = .ok (.getfield 32, 3) := by decide +kernel
theorem dX1_mutate_140 : decode cX1_mutate 140 = .ok (.iload 7, 2) := by decide +kernel
theorem dX1_mutate_142 : decode cX1_mutate 142 = .ok (.aload_n 0, 1) := by decide +kernel
theorem dX1_mutate_143 : decode cX1_mutate 143 = .ok (.iload 7, 2) := by decide +kernel
theorem dX1_mutate_145 : decode cX1_mutate 145 = .ok (.invokevirtual 54, 3) := by decide +kernel
theorem dX1_mutate_148 : decode cX1_mutate 148 = .ok (.iastore, 1) := by decide +kernel
theorem dX1_mutate_149 : decode cX1_mutate 149 = .ok (.iinc 6 1, 3) := by decide +kernel
theorem dX1_mutate_152 : decode cX1_mutate 152 = .ok (.goto (-78), 3) := by decide +kernel
theorem dX1_mutate_155 : decode cX1_mutate 155 = .ok (.iload 5, 2) := by decide +kernel
theorem dX1_mutate_157 : decode cX1_mutate 157 = .ok (.invokestatic 95, 3) := by decide +kernel
theorem dX1_mutate_160 : decode cX1_mutate 160 = .ok (.ireturn, 1) := by decide +kernel
theorem dX1_currentSet_0 : decode cX1_currentSet 0 = .ok (.iconst 0, 1) := by decide +kernel
theorem dX1_currentSet_1 : decode cX1_currentSet 1 = .ok (.istore_n 2, 1) := by decide +kernel
theorem dX1_currentSet_2 : decode cX1_currentSet 2 = .ok (.iconst 0, 1) := by decide +kernel
theorem dX1_currentSet_3 : decode cX1_currentSet 3 = .ok (.istore_n 3, 1) := by decide +kernel
theorem dX1_currentSet_4 : decode cX1_currentSet 4 = .ok (.iload_n 3, 1) := by decide +kernel
theorem dX1_currentSet_5 : decode cX1_currentSet 5 = .ok (.iconst 5, 1) := by decide +kernel
theorem dX1_currentSet_6 : decode cX1_currentSet 6 = .ok (.if_icmp .ge 28, 3) := by decide +kernel
theorem dX1_currentSet_9 : decode cX1_currentSet 9 = .ok (.aload_n 0, 1) := by decide +kernel
theorem dX1_currentSet_10 : decode cX1_currentSet 10 = .ok (.iload_n 3, 1) := by decide +kernel
theorem dX1_currentSet_11 : decode cX1_currentSet 11 = .ok (.iload_n 1, 1) := by decide +kernel
theorem dX1_currentSet_12 : decode cX1_currentSet 12 = .ok (.invokevirtual 57, 3) := by decide +kernel
theorem dX1_currentSet_15 : decode cX1_currentSet 15 = .ok (.istore 4, 2) := by decide +kernel
theorem dX1_currentSet_17 : decode cX1_currentSet 17 = .ok (.iload 4, 2) := by decide +kernel
theorem dX1_currentSet_19 : decode cX1_currentSet 19 = .ok (.ifCond .eq 9, 3) := by decide +kernel
theorem dX1_currentSet_22 : decode cX1_currentSet 22 = .ok (.iload_n 2, 1) := by decide +kernel
theorem dX1_currentSet_23 : decode cX1_currentSet 23 = .ok (.iconst 1, 1) := by decide +kernel
theorem dX1_currentSet_24 : decode cX1_currentSet 24 = .ok (.iload_n 3, 1) := by decide +kernel
theorem dX1_currentSet_25 : decode cX1_currentSet 25 = .ok (.ishl, 1) := by decide +kernel
theorem dX1_currentSet_26 : decode cX1_currentSet 26 = .ok (.ior, 1) := by decide +kernel
theorem dX1_currentSet_27 : decode cX1_currentSet 27 = .ok (.istore_n 2, 1) := by decide +kernel
theorem dX1_currentSet_28 : decode cX1_currentSet 28 = .ok (.iinc 3 1, 3) := by decide +kernel
theorem dX1_currentSet_31 : decode cX1_currentSet 31 = .ok (.goto (-27), 3) := by decide +kernel
theorem dX1_currentSet_34 : decode cX1_currentSet 34 = .ok (.iload_n 2, 1) := by decide +kernel
theorem dX1_currentSet_35 : decode cX1_currentSet 35 = .ok (.ireturn, 1) := by decide +kernel
theorem dX1_ownBlock_0 : decode cX1_ownBlock 0 = .ok (.aload_n 0, 1) := by decide +kernel
theorem dX1_ownBlock_1 : decode cX1_ownBlock 1 = .ok (.getfield 20, 3) := by decide +kernel
theorem dX1_ownBlock_4 : decode cX1_ownBlock 4 = .ok (.iload_n 1, 1) := by decide +kernel
theorem dX1_ownBlock_5 : decode cX1_ownBlock 5 = .ok (.iconst 4, 1) := by decide +kernel
theorem dX1_ownBlock_6 : decode cX1_ownBlock 6 = .ok (.imul, 1) := by decide +kernel
theorem dX1_ownBlock_7 : decode cX1_ownBlock 7 = .ok (.iload_n 2, 1) := by decide +kernel
theorem dX1_ownBlock_8 : decode cX1_ownBlock 8 = .ok (.iadd, 1) := by decide +kernel
theorem dX1_ownBlock_9 : decode cX1_ownBlock 9 = .ok (.iaload, 1) := by decide +kernel
theorem dX1_ownBlock_10 : decode cX1_ownBlock 10 = .ok (.istore_n 3, 1) := by decide +kernel
theorem dX1_ownBlock_11 : decode cX1_ownBlock 11 = .ok (.aload_n 0, 1) := by decide +kernel
theorem dX1_ownBlock_12 : decode cX1_ownBlock 12 = .ok (.getfield 35, 3) := by decide +kernel
theorem dX1_ownBlock_15 : decode cX1_ownBlock 15 = .ok (.iload_n 3, 1) := by decide +kernel
theorem dX1_ownBlock_16 : decode cX1_ownBlock 16 = .ok (.iaload, 1) := by decide +kernel
theorem dX1_ownBlock_17 : decode cX1_ownBlock 17 = .ok (.iconst 1, 1) := by decide +kernel
theorem dX1_ownBlock_18 : decode cX1_ownBlock 18 = .ok (.if_icmp .ne 5, 3) := by decide +kernel
theorem dX1_ownBlock_21 : decode cX1_ownBlock 21 = .ok (.iload_n 3, 1) := by decide +kernel
theorem dX1_ownBlock_22 : decode cX1_ownBlock 22 = .ok (.ireturn, 1) := by decide +kernel
theorem dX1_ownBlock_23 : decode cX1_ownBlock 23 = .ok (.aload_n 0, 1) := by decide +kernel
theorem dX1_ownBlock_24 : decode cX1_ownBlock 24 = .ok (.iload_n 1, 1) := by decide +kernel
theorem dX1_ownBlock_25 : decode cX1_ownBlock 25 = .ok (.invokevirtual 43, 3) := by decide +kernel
theorem dX1_ownBlock_28 : decode cX1_ownBlock 28 = .ok (.istore 4, 2) := by decide +kernel
theorem dX1_ownBlock_30 : decode cX1_ownBlock 30 = .ok (.aload_n 0, 1) := by decide +kernel
theorem dX1_ownBlock_31 : decode cX1_ownBlock 31 = .ok (.iload_n 3, 1) := by decide +kernel
theorem dX1_ownBlock_32 : decode cX1_ownBlock 32 = .ok (.iload 4, 2) := by decide +kernel
theorem dX1_ownBlock_34 : decode cX1_ownBlock 34 = .ok (.invokevirtual 47, 3) := by decide +kernel
theorem dX1_ownBlock_37 : decode cX1_ownBlock 37 = .ok (.aload_n 0, 1) := by decide +kernel
theorem dX1_ownBlock_38 : decode cX1_ownBlock 38 = .ok (.getfield 35, 3) := by decide +kernel
theorem dX1_ownBlock_41 : decode cX1_ownBlock 41 = .ok (.iload_n 3, 1) := by decide +kernel
theorem dX1_ownBlock_42 : decode cX1_ownBlock 42 = .ok (.dup2, 1) := by decide +kernel
theorem dX1_ownBlock_43 : decode cX1_ownBlock 43 = .ok (.iaload, 1) := by decide +kernel
theorem dX1_ownBlock_44 : decode cX1_ownBlock 44 = .ok (.iconst 1, 1) := by decide +kernel
theorem dX1_ownBlock_45 : decode cX1_ownBlock 45 = .ok (.isub, 1) := by decide +kernel
theorem dX1_ownBlock_46 : decode cX1_ownBlock 46 = .ok (.iastore, 1) := by decide +kernel
theorem dX1_ownBlock_47 : decode cX1_ownBlock 47 = .ok (.aload_n 0, 1) := by decide +kernel
theorem dX1_ownBlock_48 : decode cX1_ownBlock 48 = .ok (.getfield 35, 3) := by decide +kernel
theorem dX1_ownBlock_51 : decode cX1_ownBlock 51 = .ok (.iload 4, 2) := by decide +kernel
theorem dX1_ownBlock_53 : decode cX1_ownBlock 53 = .ok (.iconst 1, 1) := by decide +kernel
theorem dX1_ownBlock_54 : decode cX1_ownBlock 54 = .ok (.iastore, 1) := by decide +kernel
theorem dX1_ownBlock_55 : decode cX1_ownBlock 55 = .ok (.aload_n 0, 1) := by decide +kernel
theorem dX1_ownBlock_56 : decode cX1_ownBlock 56 = .ok (.getfield 20, 3) := by decide +kernel
theorem dX1_ownBlock_59 : decode cX1_ownBlock 59 = .ok (.iload_n 1, 1) := by decide +kernel
theorem dX1_ownBlock_60 : decode cX1_ownBlock 60 = .ok (.iconst 4, 1) := by decide +kernel
theorem dX1_ownBlock_61 : decode cX1_ownBlock 61 = .ok (.imul, 1) := by decide +kernel
theorem dX1_ownBlock_62 : decode cX1_ownBlock 62 = .ok (.iload_n 2, 1) := by decide +kernel
theorem dX1_ownBlock_63 : decode cX1_ownBlock 63 = .ok (.iadd, 1) := by decide +kernel
theorem dX1_ownBlock_64 : decode cX1_ownBlock 64 = .ok (.iload 4, 2) := by decide +kernel
theorem dX1_ownBlock_66 : decode cX1_ownBlock 66 = .ok (.iastore, 1) := by decide +kernel
theorem dX1_ownBlock_67 : decode cX1_ownBlock 67 = .ok (.iload 4, 2) := by decide +kernel
theorem dX1_ownBlock_69 : decode cX1_ownBlock 69 = .ok (.ireturn, 1) := by decide +kernel
theorem dX1_copyBlock_0 : decode cX1_copyBlock 0 = .ok (.iconst 0, 1) := by decide +kernel
theorem dX1_copyBlock_1 : decode cX1_copyBlock 1 = .ok (.istore_n 3, 1) := by decide +kernel
theorem dX1_copyBlock_2 : decode cX1_copyBlock 2 = .ok (.iload_n 3, 1) := by decide +kernel
theorem dX1_copyBlock_3 : decode cX1_copyBlock 3 = .ok (.bipush 6, 2) := by decide +kernel
theorem dX1_copyBlock_5 : decode cX1_copyBlock 5 = .ok (.if_icmp .ge 31, 3) := by decide +kernel
theorem dX1_copyBlock_8 : decode cX1_copyBlock 8 = .ok (.aload_n 0, 1) := by decide +kernel
theorem dX1_copyBlock_9 : decode cX1_copyBlock 9 = .ok (.getfield 26, 3) := by decide +kernel
theorem dX1_copyBlock_12 : decode cX1_copyBlock 12 = .ok (.iload_n 2, 1) := by decide +kernel
theorem dX1_copyBlock_13 : decode cX1_copyBlock 13 = .ok (.bipush 6, 2) := by decide +kernel
theorem dX1_copyBlock_15 : decode cX1_copyBlock 15 = .ok (.imul, 1) := by decide +kernel
theorem dX1_copyBlock_16 : decode cX1_copyBlock 16 = .ok (.iload_n 3, 1) := by decide +kernel
theorem dX1_copyBlock_17 : decode cX1_copyBlock 17 = .ok (.iadd, 1) := by decide +kernel
theorem dX1_copyBlock_18 : decode cX1_copyBlock 18 = .ok (.aload_n 0, 1) := by decide +kernel
theorem dX1_copyBlock_19 : decode cX1_copyBlock 19 = .ok (.getfield 26, 3) := by decide +kernel
theorem dX1_copyBlock_22 : decode cX1_copyBlock 22 = .ok (.iload_n 1, 1) := by decide +kernel
theorem dX1_copyBlock_23 : decode cX1_copyBlock 23 = .ok (.bipush 6, 2) := by decide +kernel
theorem dX1_copyBlock_25 : decode cX1_copyBlock 25 = .ok (.imul, 1) := by decide +kernel
theorem dX1_copyBlock_26 : decode cX1_copyBlock 26 = .ok (.iload_n 3, 1) := by decide +kernel
theorem dX1_copyBlock_27 : decode cX1_copyBlock 27 = .ok (.iadd, 1) := by decide +kernel
theorem dX1_copyBlock_28 : decode cX1_copyBlock 28 = .ok (.iaload, 1) := by decide +kernel
theorem dX1_copyBlock_29 : decode cX1_copyBlock 29 = .ok (.iastore, 1) := by decide +kernel
theorem dX1_copyBlock_30 : decode cX1_copyBlock 30 = .ok (.iinc 3 1, 3) := by decide +kernel
theorem dX1_copyBlock_33 : decode cX1_copyBlock 33 = .ok (.goto (-31), 3) := by decide +kernel
theorem dX1_copyBlock_36 : decode cX1_copyBlock 36 = .ok (.aload_n 0, 1) := by decide +kernel
theorem dX1_copyBlock_37 : decode cX1_copyBlock 37 = .ok (.getfield 29, 3) := by decide +kernel
theorem dX1_copyBlock_40 : decode cX1_copyBlock 40 = .ok (.iload_n 2, 1) := by decide +kernel
theorem dX1_copyBlock_41 : decode cX1_copyBlock 41 = .ok (.aload_n 0, 1) := by decide +kernel
theorem dX1_copyBlock_42 : decode cX1_copyBlock 42 = .ok (.getfield 29, 3) := by decide +kernel
theorem dX1_copyBlock_45 : decode cX1_copyBlock 45 = .ok (.iload_n 1, 1) := by decide +kernel
theorem dX1_copyBlock_46 : decode cX1_copyBlock 46 = .ok (.iaload, 1) := by decide +kernel
theorem dX1_copyBlock_47 : decode cX1_copyBlock 47 = .ok (.iastore, 1) := by decide +kernel
theorem dX1_copyBlock_48 : decode cX1_copyBlock 48 = .ok (.aload_n 0, 1) := by decide +kernel
theorem dX1_copyBlock_49 : decode cX1_copyBlock 49 = .ok (.getfield 32, 3) := by decide +kernel
theorem dX1_copyBlock_52 : decode cX1_copyBlock 52 = .ok (.iload_n 2, 1) := by decide +kernel
theorem dX1_copyBlock_53 : decode cX1_copyBlock 53 = .ok (.aload_n 0, 1) := by decide +kernel
theorem dX1_copyBlock_54 : decode cX1_copyBlock 54 = .ok (.getfield 32, 3) := by decide +kernel
theorem dX1_copyBlock_57 : decode cX1_copyBlock 57 = .ok (.iload_n 1, 1) := by decide +kernel
theorem dX1_copyBlock_58 : decode cX1_copyBlock 58 = .ok (.iaload, 1) := by decide +kernel
theorem dX1_copyBlock_59 : decode cX1_copyBlock 59 = .ok (.iastore, 1) := by decide +kernel
theorem dX1_copyBlock_60 : decode cX1_copyBlock 60 = .ok (.return_, 1) := by decide +kernel
theorem dX1_bits_0 : decode cX1_bits 0 = .ok (.iconst 0, 1) := by decide +kernel
theorem dX1_bits_1 : decode cX1_bits 1 = .ok (.istore_n 1, 1) := by decide +kernel
theorem dX1_bits_2 : decode cX1_bits 2 = .ok (.iconst 0, 1) := by decide +kernel
theorem dX1_bits_3 : decode cX1_bits 3 = .ok (.istore_n 2, 1) := by decide +kernel
theorem dX1_bits_4 : decode cX1_bits 4 = .ok (.iload_n 2, 1) := by decide +kernel
theorem dX1_bits_5 : decode cX1_bits 5 = .ok (.iconst 5, 1) := by decide +kernel
theorem dX1_bits_6 : decode cX1_bits 6 = .ok (.if_icmp .ge 17, 3) := by decide +kernel
theorem dX1_bits_9 : decode cX1_bits 9 = .ok (.iload_n 1, 1) := by decide +kernel
theorem dX1_bits_10 : decode cX1_bits 10 = .ok (.iload_n 0, 1) := by decide +kernel
theorem dX1_bits_11 : decode cX1_bits 11 = .ok (.iload_n 2, 1) := by decide +kernel
theorem dX1_bits_12 : decode cX1_bits 12 = .ok (.ishr, 1) := by decide +kernel
theorem dX1_bits_13 : decode cX1_bits 13 = .ok (.iconst 1, 1) := by decide +kernel
theorem dX1_bits_14 : decode cX1_bits 14 = .ok (.iand, 1) := by decide +kernel
theorem dX1_bits_15 : decode cX1_bits 15 = .ok (.iadd, 1) := by decide +kernel
theorem dX1_bits_16 : decode cX1_bits 16 = .ok (.istore_n 1, 1) := by decide +kernel
theorem dX1_bits_17 : decode cX1_bits 17 = .ok (.iinc 2 1, 3) := by decide +kernel
theorem dX1_bits_20 : decode cX1_bits 20 = .ok (.goto (-16), 3) := by decide +kernel
theorem dX1_bits_23 : decode cX1_bits 23 = .ok (.iload_n 1, 1) := by decide +kernel
theorem dX1_bits_24 : decode cX1_bits 24 = .ok (.ireturn, 1) := by decide +kernel
theorem dX1_append_0 : decode cX1_append 0 = .ok (.aload_n 0, 1) := by decide +kernel
theorem dX1_append_1 : decode cX1_append 1 = .ok (.iload_n 1, 1) := by decide +kernel
theorem dX1_append_2 : decode cX1_append 2 = .ok (.invokevirtual 98, 3) := by decide +kernel
theorem dX1_append_5 : decode cX1_append 5 = .ok (.istore_n 3, 1) := by decide +kernel
theorem dX1_append_6 : decode cX1_append 6 = .ok (.iload_n 3, 1) := by decide +kernel
theorem dX1_append_7 : decode cX1_append 7 = .ok (.ifCond .eq 5, 3) := by decide +kernel
theorem dX1_append_10 : decode cX1_append 10 = .ok (.iload_n 3, 1) := by decide +kernel
theorem dX1_append_11 : decode cX1_append 11 = .ok (.ireturn, 1) := by decide +kernel
theorem dX1_append_12 : decode cX1_append 12 = .ok (.aload_n 0, 1) := by decide +kernel
theorem dX1_append_13 : decode cX1_append 13 = .ok (.iload_n 1, 1) := by decide +kernel
theorem dX1_append_14 : decode cX1_append 14 = .ok (.invokevirtual 86, 3) := by decide +kernel
theorem dX1_append_17 : decode cX1_append 17 = .ok (.istore 4, 2) := by decide +kernel
theorem dX1_append_19 : decode cX1_append 19 = .ok (.aload_n 0, 1) := by decide +kernel
theorem dX1_append_20 : decode cX1_append 20 = .ok (.getfield 29, 3) := by decide +kernel
theorem dX1_append_23 : decode cX1_append 23 = .ok (.aload_n 0, 1) := by decide +kernel
theorem dX1_append_24 : decode cX1_append 24 = .ok (.getfield 20, 3) := by decide +kernel
theorem dX1_append_27 : decode cX1_append 27 = .ok (.iload 4, 2) := by decide +kernel
theorem dX1_append_29 : decode cX1_append 29 = .ok (.iconst 4, 1) := by decide +kernel
theorem dX1_append_30 : decode cX1_append 30 = .ok (.imul, 1) := by decide +kernel
theorem dX1_append_31 : decode cX1_append 31 = .ok (.iload_n 1, 1) := by decide +kernel
theorem dX1_append_32 : decode cX1_append 32 = .ok (.iadd, 1) := by decide +kernel
theorem dX1_append_33 : decode cX1_append 33 = .ok (.iaload, 1) := by decide +kernel
theorem dX1_append_34 : decode cX1_append 34 = .ok (.iaload, 1) := by decide +kernel
theorem dX1_append_35 : decode cX1_append 35 = .ok (.istore 5, 2) := by decide +kernel
theorem dX1_append_37 : decode cX1_append 37 = .ok (.iload 5, 2) := by decide +kernel
theorem dX1_append_39 : decode cX1_append 39 = .ok (.bipush 6, 2) := by decide +kernel
theorem dX1_append_41 : decode cX1_append 41 = .ok (.if_icmp .lt 6, 3) := by decide +kernel
theorem dX1_append_44 : decode cX1_append 44 = .ok (.bipush (-7), 2) := by decide +kernel
theorem dX1_append_46 : decode cX1_append 46 = .ok (.ireturn, 1) := by decide +kernel
theorem dX1_append_47 : decode cX1_append 47 = .ok (.aload_n 0, 1) := by decide +kernel
theorem dX1_append_48 : decode cX1_append 48 = .ok (.iload_n 1, 1) := by decide +kernel
theorem dX1_append_49 : decode cX1_append 49 = .ok (.iload 5, 2) := by decide +kernel
theorem dX1_append_51 : decode cX1_append 51 = .ok (.iload_n 2, 1) := by decide +kernel
theorem dX1_append_52 : decode cX1_append 52 = .ok (.invokevirtual 101, 3) := by decide +kernel
theorem dX1_append_55 : decode cX1_append 55 = .ok (.pop, 1) := by decide +kernel
theorem dX1_append_56 : decode cX1_append 56 = .ok (.iload 5, 2) := by decide +kernel
theorem dX1_append_58 : decode cX1_append 58 = .ok (.ireturn, 1) := by decide +kernel
theorem dX1_snapshot_0 : decode cX1_snapshot 0 = .ok (.iload_n 1, 1) := by decide +kernel
theorem dX1_snapshot_1 : decode cX1_snapshot 1 = .ok (.invokestatic 67, 3) := by decide +kernel
theorem dX1_snapshot_4 : decode cX1_snapshot 4 = .ok (.ifCond .ne 10, 3) := by decide +kernel
theorem dX1_snapshot_7 : decode cX1_snapshot 7 = .ok (.iload_n 2, 1) := by decide +kernel
theorem dX1_snapshot_8 : decode cX1_snapshot 8 = .ok (.invokestatic 67, 3) := by decide +kernel
theorem dX1_snapshot_11 : decode cX1_snapshot 11 = .ok (.ifCond .eq 5, 3) := by decide +kernel
theorem dX1_snapshot_14 : decode cX1_snapshot 14 = .ok (.iconst (-1), 1) := by decide +kernel
theorem dX1_snapshot_15 : decode cX1_snapshot 15 = .ok (.ireturn, 1) := by decide +kernel
theorem dX1_snapshot_16 : decode cX1_snapshot 16 = .ok (.aload_n 0, 1) := by decide +kernel
theorem dX1_snapshot_17 : decode cX1_snapshot 17 = .ok (.getfield 13, 3) := by decide +kernel
theorem dX1_snapshot_20 : decode cX1_snapshot 20 = .ok (.iload_n 1, 1) := by decide +kernel
theorem dX1_snapshot_21 : decode cX1_snapshot 21 = .ok (.baload, 1) := by decide +kernel
theorem dX1_snapshot_22 : decode cX1_snapshot 22 = .ok (.ifCond .ne 6, 3) := by decide +kernel
theorem dX1_snapshot_25 : decode cX1_snapshot 25 = .ok (.bipush (-3), 2) := by decide +kernel
theorem dX1_snapshot_27 : decode cX1_snapshot 27 = .ok (.ireturn, 1) := by decide +kernel
theorem dX1_snapshot_28 : decode cX1_snapshot 28 = .ok (.aload_n 0, 1) := by decide +kernel
theorem dX1_snapshot_29 : decode cX1_snapshot 29 = .ok (.getfield 13, 3) := by decide +kernel
theorem dX1_snapshot_32 : decode cX1_snapshot 32 = .ok (.iload_n 2, 1) := by decide +kernel
theorem dX1_snapshot_33 : decode cX1_snapshot 33 = .ok (.baload, 1) := by decide +kernel
theorem dX1_snapshot_34 : decode cX1_snapshot 34 = .ok (.ifCond .eq 6, 3) := by decide +kernel
theorem dX1_snapshot_37 : decode cX1_snapshot 37 = .ok (.bipush (-2), 2) := by decide +kernel
theorem dX1_snapshot_39 : decode cX1_snapshot 39 = .ok (.ireturn, 1) := by decide +kernel
theorem dX1_snapshot_40 : decode cX1_snapshot 40 = .ok (.aload_n 0, 1) := by decide +kernel
theorem dX1_snapshot_41 : decode cX1_snapshot 41 = .ok (.iload_n 1, 1) := by decide +kernel
theorem dX1_snapshot_42 : decode cX1_snapshot 42 = .ok (.invokevirtual 86, 3) := by decide +kernel
theorem dX1_snapshot_45 : decode cX1_snapshot 45 = .ok (.istore_n 3, 1) := by decide +kernel
theorem dX1_snapshot_46 : decode cX1_snapshot 46 = .ok (.iload_n 3, 1) := by decide +kernel
theorem dX1_snapshot_47 : decode cX1_snapshot 47 = .ok (.ifCond .ge 6, 3) := by decide +kernel
theorem dX1_snapshot_50 : decode cX1_snapshot 50 = .ok (.bipush (-5), 2) := by decide +kernel
theorem dX1_snapshot_52 : decode cX1_snapshot 52 = .ok (.ireturn, 1) := by decide +kernel
theorem dX1_snapshot_53 : decode cX1_snapshot 53 = .ok (.aload_n 0, 1) := by decide +kernel
theorem dX1_snapshot_54 : decode cX1_snapshot 54 = .ok (.iload_n 1, 1) := by decide +kernel
theorem dX1_snapshot_55 : decode cX1_snapshot 55 = .ok (.invokevirtual 89, 3) := by decide +kernel
theorem dX1_snapshot_58 : decode cX1_snapshot 58 = .ok (.istore 4, 2) := by decide +kernel
theorem dX1_snapshot_60 : decode cX1_snapshot 60 = .ok (.aload_n 0, 1) := by decide +kernel
theorem dX1_snapshot_61 : decode cX1_snapshot 61 = .ok (.getfield 13, 3) := by decide +kernel
theorem dX1_snapshot_64 : decode cX1_snapshot 64 = .ok (.iload_n 2, 1) := by decide +kernel
theorem dX1_snapshot_65 : decode cX1_snapshot 65 = .ok (.iconst 1, 1) := by decide +kernel
theorem dX1_snapshot_66 : decode cX1_snapshot 66 = .ok (.bastore, 1) := by decide +kernel
theorem dX1_snapshot_67 : decode cX1_snapshot 67 = .ok (.aload_n 0, 1) := by decide +kernel
theorem dX1_snapshot_68 : decode cX1_snapshot 68 = .ok (.iload_n 2, 1) := by decide +kernel
theorem dX1_snapshot_69 : decode cX1_snapshot 69 = .ok (.invokevirtual 75, 3) := by decide +kernel
theorem dX1_snapshot_72 : decode cX1_snapshot 72 = .ok (.iconst 0, 1) := by decide +kernel
theorem dX1_snapshot_73 : decode cX1_snapshot 73 = .ok (.istore 5, 2) := by decide +kernel
theorem dX1_snapshot_75 : decode cX1_snapshot 75 = .ok (.iload 5, 2) := by decide +kernel
theorem dX1_snapshot_77 : decode cX1_snapshot 77 = .ok (.iconst 5, 1) := by decide +kernel
theorem dX1_snapshot_78 : decode cX1_snapshot 78 = .ok (.if_icmp .ge 81, 3) := by decide +kernel
theorem dX1_snapshot_81 : decode cX1_snapshot 81 = .ok (.iload 4, 2) := by decide +kernel
theorem dX1_snapshot_83 : decode cX1_snapshot 83 = .ok (.iload 5, 2) := by decide +kernel
theorem dX1_snapshot_85 : decode cX1_snapshot 85 = .ok (.ishr, 1) := by decide +kernel
theorem dX1_snapshot_86 : decode cX1_snapshot 86 = .ok (.iconst 1, 1) := by decide +kernel
theorem dX1_snapshot_87 : decode cX1_snapshot 87 = .ok (.iand, 1) := by decide +kernel
theorem dX1_snapshot_88 : decode cX1_snapshot 88 = .ok (.iconst 1, 1) := by decide +kernel
theorem dX1_snapshot_89 : decode cX1_snapshot 89 = .ok (.if_icmp .ne 64, 3) := by decide +kernel
end
section
set_option maxRecDepth 100000
theorem dX1_snapshot_92 : decode cX1_snapshot 92 = .ok (.aload_n 0, 1) := by decide +kernel
theorem dX1_snapshot_93 : decode cX1_snapshot 93 = .ok (.iload 5, 2) := by decide +kernel
theorem dX1_snapshot_95 : decode cX1_snapshot 95 = .ok (.iload_n 2, 1) := by decide +kernel
theorem dX1_snapshot_96 : decode cX1_snapshot 96 = .ok (.invokevirtual 51, 3) := by decide +kernel
theorem dX1_snapshot_99 : decode cX1_snapshot 99 = .ok (.aload_n 0, 1) := by decide +kernel
theorem dX1_snapshot_100 : decode cX1_snapshot 100 = .ok (.getfield 20, 3) := by decide +kernel
theorem dX1_snapshot_103 : decode cX1_snapshot 103 = .ok (.iload 5, 2) := by decide +kernel
theorem dX1_snapshot_105 : decode cX1_snapshot 105 = .ok (.iconst 4, 1) := by decide +kernel
theorem dX1_snapshot_106 : decode cX1_snapshot 106 = .ok (.imul, 1) := by decide +kernel
theorem dX1_snapshot_107 : decode cX1_snapshot 107 = .ok (.iload_n 1, 1) := by decide +kernel
theorem dX1_snapshot_108 : decode cX1_snapshot 108 = .ok (.iadd, 1) := by decide +kernel
theorem dX1_snapshot_109 : decode cX1_snapshot 109 = .ok (.iaload, 1) := by decide +kernel
theorem dX1_snapshot_110 : decode cX1_snapshot 110 = .ok (.istore 6, 2) := by decide +kernel
theorem dX1_snapshot_112 : decode cX1_snapshot 112 = .ok (.aload_n 0, 1) := by decide +kernel
theorem dX1_snapshot_113 : decode cX1_snapshot 113 = .ok (.getfield 35, 3) := by decide +kernel
theorem dX1_snapshot_116 : decode cX1_snapshot 116 = .ok (.iload 6, 2) := by decide +kernel
theorem dX1_snapshot_118 : decode cX1_snapshot 118 = .ok (.dup2, 1) := by decide +kernel
theorem dX1_snapshot_119 : decode cX1_snapshot 119 = .ok (.iaload, 1) := by decide +kernel
theorem dX1_snapshot_120 : decode cX1_snapshot 120 = .ok (.iconst 1, 1) := by decide +kernel
theorem dX1_snapshot_121 : decode cX1_snapshot 121 = .ok (.iadd, 1) := by decide +kernel
theorem dX1_snapshot_122 : decode cX1_snapshot 122 = .ok (.iastore, 1) := by decide +kernel
theorem dX1_snapshot_123 : decode cX1_snapshot 123 = .ok (.aload_n 0, 1) := by decide +kernel
theorem dX1_snapshot_124 : decode cX1_snapshot 124 = .ok (.getfield 20, 3) := by decide +kernel
theorem dX1_snapshot_127 : decode cX1_snapshot 127 = .ok (.iload 5, 2) := by decide +kernel
theorem dX1_snapshot_129 : decode cX1_snapshot 129 = .ok (.iconst 4, 1) := by decide +kernel
theorem dX1_snapshot_130 : decode cX1_snapshot 130 = .ok (.imul, 1) := by decide +kernel
theorem dX1_snapshot_131 : decode cX1_snapshot 131 = .ok (.iload_n 2, 1) := by decide +kernel
theorem dX1_snapshot_132 : decode cX1_snapshot 132 = .ok (.iadd, 1) := by decide +kernel
theorem dX1_snapshot_133 : decode cX1_snapshot 133 = .ok (.iload 6, 2) := by decide +kernel
theorem dX1_snapshot_135 : decode cX1_snapshot 135 = .ok (.iastore, 1) := by decide +kernel
theorem dX1_snapshot_136 : decode cX1_snapshot 136 = .ok (.aload_n 0, 1) := by decide +kernel
theorem dX1_snapshot_137 : decode cX1_snapshot 137 = .ok (.getfield 23, 3) := by decide +kernel
theorem dX1_snapshot_140 : decode cX1_snapshot 140 = .ok (.iload 5, 2) := by decide +kernel
theorem dX1_snapshot_142 : decode cX1_snapshot 142 = .ok (.iconst 4, 1) := by decide +kernel
theorem dX1_snapshot_143 : decode cX1_snapshot 143 = .ok (.imul, 1) := by decide +kernel
theorem dX1_snapshot_144 : decode cX1_snapshot 144 = .ok (.iload_n 2, 1) := by decide +kernel
theorem dX1_snapshot_145 : decode cX1_snapshot 145 = .ok (.iadd, 1) := by decide +kernel
theorem dX1_snapshot_146 : decode cX1_snapshot 146 = .ok (.aload_n 0, 1) := by decide +kernel
theorem dX1_snapshot_147 : decode cX1_snapshot 147 = .ok (.getfield 16, 3) := by decide +kernel
theorem dX1_snapshot_150 : decode cX1_snapshot 150 = .ok (.iload_n 2, 1) := by decide +kernel
theorem dX1_snapshot_151 : decode cX1_snapshot 151 = .ok (.iaload, 1) := by decide +kernel
theorem dX1_snapshot_152 : decode cX1_snapshot 152 = .ok (.iastore, 1) := by decide +kernel
theorem dX1_snapshot_153 : decode cX1_snapshot 153 = .ok (.iinc 5 1, 3) := by decide +kernel
theorem dX1_snapshot_156 : decode cX1_snapshot 156 = .ok (.goto (-81), 3) := by decide +kernel
theorem dX1_snapshot_159 : decode cX1_snapshot 159 = .ok (.iload 4, 2) := by decide +kernel
theorem dX1_snapshot_161 : decode cX1_snapshot 161 = .ok (.invokestatic 95, 3) := by decide +kernel
theorem dX1_snapshot_164 : decode cX1_snapshot 164 = .ok (.ireturn, 1) := by decide +kernel
theorem dX1_crash_0 : decode cX1_crash 0 = .ok (.iload_n 1, 1) := by decide +kernel
theorem dX1_crash_1 : decode cX1_crash 1 = .ok (.invokestatic 105, 3) := by decide +kernel
theorem dX1_crash_4 : decode cX1_crash 4 = .ok (.ifCond .eq 5, 3) := by decide +kernel
theorem dX1_crash_7 : decode cX1_crash 7 = .ok (.iconst (-1), 1) := by decide +kernel
theorem dX1_crash_8 : decode cX1_crash 8 = .ok (.ireturn, 1) := by decide +kernel
theorem dX1_crash_9 : decode cX1_crash 9 = .ok (.aload_n 0, 1) := by decide +kernel
theorem dX1_crash_10 : decode cX1_crash 10 = .ok (.getfield 7, 3) := by decide +kernel
theorem dX1_crash_13 : decode cX1_crash 13 = .ok (.iload_n 1, 1) := by decide +kernel
theorem dX1_crash_14 : decode cX1_crash 14 = .ok (.baload, 1) := by decide +kernel
theorem dX1_crash_15 : decode cX1_crash 15 = .ok (.ifCond .eq 7, 3) := by decide +kernel
theorem dX1_crash_18 : decode cX1_crash 18 = .ok (.iconst 1, 1) := by decide +kernel
theorem dX1_crash_19 : decode cX1_crash 19 = .ok (.goto 4, 3) := by decide +kernel
theorem dX1_crash_22 : decode cX1_crash 22 = .ok (.iconst 0, 1) := by decide +kernel
theorem dX1_crash_23 : decode cX1_crash 23 = .ok (.istore_n 2, 1) := by decide +kernel
theorem dX1_crash_24 : decode cX1_crash 24 = .ok (.aload_n 0, 1) := by decide +kernel
theorem dX1_crash_25 : decode cX1_crash 25 = .ok (.getfield 7, 3) := by decide +kernel
theorem dX1_crash_28 : decode cX1_crash 28 = .ok (.iload_n 1, 1) := by decide +kernel
theorem dX1_crash_29 : decode cX1_crash 29 = .ok (.iconst 0, 1) := by decide +kernel
theorem dX1_crash_30 : decode cX1_crash 30 = .ok (.bastore, 1) := by decide +kernel
theorem dX1_crash_31 : decode cX1_crash 31 = .ok (.iload_n 2, 1) := by decide +kernel
theorem dX1_crash_32 : decode cX1_crash 32 = .ok (.ireturn, 1) := by decide +kernel
theorem dX1_badServer_0 : decode cX1_badServer 0 = .ok (.iload_n 0, 1) := by decide +kernel
theorem dX1_badServer_1 : decode cX1_badServer 1 = .ok (.ifCond .lt 8, 3) := by decide +kernel
theorem dX1_badServer_4 : decode cX1_badServer 4 = .ok (.iload_n 0, 1) := by decide +kernel
theorem dX1_badServer_5 : decode cX1_badServer 5 = .ok (.iconst 5, 1) := by decide +kernel
theorem dX1_badServer_6 : decode cX1_badServer 6 = .ok (.if_icmp .lt 7, 3) := by decide +kernel
theorem dX1_badServer_9 : decode cX1_badServer 9 = .ok (.iconst 1, 1) := by decide +kernel
theorem dX1_badServer_10 : decode cX1_badServer 10 = .ok (.goto 4, 3) := by decide +kernel
theorem dX1_badServer_13 : decode cX1_badServer 13 = .ok (.iconst 0, 1) := by decide +kernel
theorem dX1_badServer_14 : decode cX1_badServer 14 = .ok (.ireturn, 1) := by decide +kernel
theorem dX1_restart_0 : decode cX1_restart 0 = .ok (.iload_n 1, 1) := by decide +kernel
theorem dX1_restart_1 : decode cX1_restart 1 = .ok (.invokestatic 105, 3) := by decide +kernel
theorem dX1_restart_4 : decode cX1_restart 4 = .ok (.ifCond .eq 5, 3) := by decide +kernel
theorem dX1_restart_7 : decode cX1_restart 7 = .ok (.iconst (-1), 1) := by decide +kernel
theorem dX1_restart_8 : decode cX1_restart 8 = .ok (.ireturn, 1) := by decide +kernel
theorem dX1_restart_9 : decode cX1_restart 9 = .ok (.aload_n 0, 1) := by decide +kernel
theorem dX1_restart_10 : decode cX1_restart 10 = .ok (.getfield 7, 3) := by decide +kernel
theorem dX1_restart_13 : decode cX1_restart 13 = .ok (.iload_n 1, 1) := by decide +kernel
theorem dX1_restart_14 : decode cX1_restart 14 = .ok (.baload, 1) := by decide +kernel
theorem dX1_restart_15 : decode cX1_restart 15 = .ok (.ifCond .eq 7, 3) := by decide +kernel
theorem dX1_restart_18 : decode cX1_restart 18 = .ok (.iconst 0, 1) := by decide +kernel
theorem dX1_restart_19 : decode cX1_restart 19 = .ok (.goto 4, 3) := by decide +kernel
theorem dX1_restart_22 : decode cX1_restart 22 = .ok (.iconst 1, 1) := by decide +kernel
theorem dX1_restart_23 : decode cX1_restart 23 = .ok (.istore_n 2, 1) := by decide +kernel
theorem dX1_restart_24 : decode cX1_restart 24 = .ok (.aload_n 0, 1) := by decide +kernel
theorem dX1_restart_25 : decode cX1_restart 25 = .ok (.getfield 7, 3) := by decide +kernel
theorem dX1_restart_28 : decode cX1_restart 28 = .ok (.iload_n 1, 1) := by decide +kernel
theorem dX1_restart_29 : decode cX1_restart 29 = .ok (.iconst 1, 1) := by decide +kernel
theorem dX1_restart_30 : decode cX1_restart 30 = .ok (.bastore, 1) := by decide +kernel
theorem dX1_restart_31 : decode cX1_restart 31 = .ok (.iconst 0, 1) := by decide +kernel
theorem dX1_restart_32 : decode cX1_restart 32 = .ok (.istore_n 3, 1) := by decide +kernel
theorem dX1_restart_33 : decode cX1_restart 33 = .ok (.iload_n 3, 1) := by decide +kernel
theorem dX1_restart_34 : decode cX1_restart 34 = .ok (.iconst 4, 1) := by decide +kernel
theorem dX1_restart_35 : decode cX1_restart 35 = .ok (.if_icmp .ge 43, 3) := by decide +kernel
theorem dX1_restart_38 : decode cX1_restart 38 = .ok (.aload_n 0, 1) := by decide +kernel
theorem dX1_restart_39 : decode cX1_restart 39 = .ok (.getfield 13, 3) := by decide +kernel
theorem dX1_restart_42 : decode cX1_restart 42 = .ok (.iload_n 3, 1) := by decide +kernel
theorem dX1_restart_43 : decode cX1_restart 43 = .ok (.baload, 1) := by decide +kernel
theorem dX1_restart_44 : decode cX1_restart 44 = .ok (.ifCond .eq 22, 3) := by decide +kernel
theorem dX1_restart_47 : decode cX1_restart 47 = .ok (.aload_n 0, 1) := by decide +kernel
theorem dX1_restart_48 : decode cX1_restart 48 = .ok (.getfield 23, 3) := by decide +kernel
theorem dX1_restart_51 : decode cX1_restart 51 = .ok (.iload_n 1, 1) := by decide +kernel
theorem dX1_restart_52 : decode cX1_restart 52 = .ok (.iconst 4, 1) := by decide +kernel
theorem dX1_restart_53 : decode cX1_restart 53 = .ok (.imul, 1) := by decide +kernel
theorem dX1_restart_54 : decode cX1_restart 54 = .ok (.iload_n 3, 1) := by decide +kernel
theorem dX1_restart_55 : decode cX1_restart 55 = .ok (.iadd, 1) := by decide +kernel
theorem dX1_restart_56 : decode cX1_restart 56 = .ok (.iaload, 1) := by decide +kernel
theorem dX1_restart_57 : decode cX1_restart 57 = .ok (.aload_n 0, 1) := by decide +kernel
theorem dX1_restart_58 : decode cX1_restart 58 = .ok (.getfield 16, 3) := by decide +kernel
theorem dX1_restart_61 : decode cX1_restart 61 = .ok (.iload_n 3, 1) := by decide +kernel
theorem dX1_restart_62 : decode cX1_restart 62 = .ok (.iaload, 1) := by decide +kernel
theorem dX1_restart_63 : decode cX1_restart 63 = .ok (.if_icmp .eq 9, 3) := by decide +kernel
theorem dX1_restart_66 : decode cX1_restart 66 = .ok (.aload_n 0, 1) := by decide +kernel
theorem dX1_restart_67 : decode cX1_restart 67 = .ok (.iload_n 1, 1) := by decide +kernel
theorem dX1_restart_68 : decode cX1_restart 68 = .ok (.iload_n 3, 1) := by decide +kernel
theorem dX1_restart_69 : decode cX1_restart 69 = .ok (.invokevirtual 51, 3) := by decide +kernel
theorem dX1_restart_72 : decode cX1_restart 72 = .ok (.iinc 3 1, 3) := by decide +kernel
theorem dX1_restart_75 : decode cX1_restart 75 = .ok (.goto (-42), 3) := by decide +kernel
theorem dX1_restart_78 : decode cX1_restart 78 = .ok (.iload_n 2, 1) := by decide +kernel
theorem dX1_restart_79 : decode cX1_restart 79 = .ok (.ireturn, 1) := by decide +kernel
theorem dX1_loseDisk_0 : decode cX1_loseDisk 0 = .ok (.iload_n 1, 1) := by decide +kernel
theorem dX1_loseDisk_1 : decode cX1_loseDisk 1 = .ok (.invokestatic 105, 3) := by decide +kernel
theorem dX1_loseDisk_4 : decode cX1_loseDisk 4 = .ok (.ifCond .eq 5, 3) := by decide +kernel
theorem dX1_loseDisk_7 : decode cX1_loseDisk 7 = .ok (.iconst (-1), 1) := by decide +kernel
theorem dX1_loseDisk_8 : decode cX1_loseDisk 8 = .ok (.ireturn, 1) := by decide +kernel
theorem dX1_loseDisk_9 : decode cX1_loseDisk 9 = .ok (.aload_n 0, 1) := by decide +kernel
theorem dX1_loseDisk_10 : decode cX1_loseDisk 10 = .ok (.iload_n 1, 1) := by decide +kernel
theorem dX1_loseDisk_11 : decode cX1_loseDisk 11 = .ok (.invokevirtual 61, 3) := by decide +kernel
theorem dX1_loseDisk_14 : decode cX1_loseDisk 14 = .ok (.istore_n 2, 1) := by decide +kernel
theorem dX1_loseDisk_15 : decode cX1_loseDisk 15 = .ok (.iconst 0, 1) := by decide +kernel
theorem dX1_loseDisk_16 : decode cX1_loseDisk 16 = .ok (.istore_n 3, 1) := by decide +kernel
theorem dX1_loseDisk_17 : decode cX1_loseDisk 17 = .ok (.iload_n 3, 1) := by decide +kernel
theorem dX1_loseDisk_18 : decode cX1_loseDisk 18 = .ok (.iconst 4, 1) := by decide +kernel
theorem dX1_loseDisk_19 : decode cX1_loseDisk 19 = .ok (.if_icmp .ge 15, 3) := by decide +kernel
theorem dX1_loseDisk_22 : decode cX1_loseDisk 22 = .ok (.aload_n 0, 1) := by decide +kernel
theorem dX1_loseDisk_23 : decode cX1_loseDisk 23 = .ok (.iload_n 1, 1) := by decide +kernel
theorem dX1_loseDisk_24 : decode cX1_loseDisk 24 = .ok (.iload_n 3, 1) := by decide +kernel
theorem dX1_loseDisk_25 : decode cX1_loseDisk 25 = .ok (.invokevirtual 51, 3) := by decide +kernel
theorem dX1_loseDisk_28 : decode cX1_loseDisk 28 = .ok (.iinc 3 1, 3) := by decide +kernel
theorem dX1_loseDisk_31 : decode cX1_loseDisk 31 = .ok (.goto (-14), 3) := by decide +kernel
theorem dX1_loseDisk_34 : decode cX1_loseDisk 34 = .ok (.iload_n 2, 1) := by decide +kernel
theorem dX1_loseDisk_35 : decode cX1_loseDisk 35 = .ok (.ireturn, 1) := by decide +kernel
theorem dX1_damage_0 : decode cX1_damage 0 = .ok (.iload_n 1, 1) := by decide +kernel
theorem dX1_damage_1 : decode cX1_damage 1 = .ok (.invokestatic 105, 3) := by decide +kernel
theorem dX1_damage_4 : decode cX1_damage 4 = .ok (.ifCond .ne 10, 3) := by decide +kernel
theorem dX1_damage_7 : decode cX1_damage 7 = .ok (.iload_n 2, 1) := by decide +kernel
theorem dX1_damage_8 : decode cX1_damage 8 = .ok (.invokestatic 67, 3) := by decide +kernel
theorem dX1_damage_11 : decode cX1_damage 11 = .ok (.ifCond .eq 5, 3) := by decide +kernel
theorem dX1_damage_14 : decode cX1_damage 14 = .ok (.iconst (-1), 1) := by decide +kernel
theorem dX1_damage_15 : decode cX1_damage 15 = .ok (.ireturn, 1) := by decide +kernel
theorem dX1_damage_16 : decode cX1_damage 16 = .ok (.aload_n 0, 1) := by decide +kernel
theorem dX1_damage_17 : decode cX1_damage 17 = .ok (.getfield 13, 3) := by decide +kernel
theorem dX1_damage_20 : decode cX1_damage 20 = .ok (.iload_n 2, 1) := by decide +kernel
theorem dX1_damage_21 : decode cX1_damage 21 = .ok (.baload, 1) := by decide +kernel
theorem dX1_damage_22 : decode cX1_damage 22 = .ok (.ifCond .ne 6, 3) := by decide +kernel
theorem dX1_damage_25 : decode cX1_damage 25 = .ok (.bipush (-3), 2) := by decide +kernel
theorem dX1_damage_27 : decode cX1_damage 27 = .ok (.ireturn, 1) := by decide +kernel
theorem dX1_damage_28 : decode cX1_damage 28 = .ok (.aload_n 0, 1) := by decide +kernel
theorem dX1_damage_29 : decode cX1_damage 29 = .ok (.iload_n 1, 1) := by decide +kernel
theorem dX1_damage_30 : decode cX1_damage 30 = .ok (.iload_n 2, 1) := by decide +kernel
theorem dX1_damage_31 : decode cX1_damage 31 = .ok (.invokevirtual 57, 3) := by decide +kernel
theorem dX1_damage_34 : decode cX1_damage 34 = .ok (.istore_n 3, 1) := by decide +kernel
theorem dX1_damage_35 : decode cX1_damage 35 = .ok (.iload_n 3, 1) := by decide +kernel
theorem dX1_damage_36 : decode cX1_damage 36 = .ok (.ifCond .ne 5, 3) := by decide +kernel
theorem dX1_damage_39 : decode cX1_damage 39 = .ok (.iconst 0, 1) := by decide +kernel
theorem dX1_damage_40 : decode cX1_damage 40 = .ok (.ireturn, 1) := by decide +kernel
theorem dX1_damage_41 : decode cX1_damage 41 = .ok (.aload_n 0, 1) := by decide +kernel
theorem dX1_damage_42 : decode cX1_damage 42 = .ok (.iload_n 1, 1) := by decide +kernel
theorem dX1_damage_43 : decode cX1_damage 43 = .ok (.iload_n 2, 1) := by decide +kernel
theorem dX1_damage_44 : decode cX1_damage 44 = .ok (.invokevirtual 92, 3) := by decide +kernel
theorem dX1_damage_47 : decode cX1_damage 47 = .ok (.istore 4, 2) := by decide +kernel
theorem dX1_damage_49 : decode cX1_damage 49 = .ok (.aload_n 0, 1) := by decide +kernel
theorem dX1_damage_50 : decode cX1_damage 50 = .ok (.getfield 26, 3) := by decide +kernel
theorem dX1_damage_53 : decode cX1_damage 53 = .ok (.iload 4, 2) := by decide +kernel
theorem dX1_damage_55 : decode cX1_damage 55 = .ok (.bipush 6, 2) := by decide +kernel
theorem dX1_damage_57 : decode cX1_damage 57 = .ok (.imul, 1) := by decide +kernel
theorem dX1_damage_58 : decode cX1_damage 58 = .ok (.dup2, 1) := by decide +kernel
theorem dX1_damage_59 : decode cX1_damage 59 = .ok (.iaload, 1) := by decide +kernel
theorem dX1_damage_60 : decode cX1_damage 60 = .ok (.iconst 1, 1) := by decide +kernel
theorem dX1_damage_61 : decode cX1_damage 61 = .ok (.ixor, 1) := by decide +kernel
theorem dX1_damage_62 : decode cX1_damage 62 = .ok (.iastore, 1) := by decide +kernel
theorem dX1_damage_63 : decode cX1_damage 63 = .ok (.iconst 1, 1) := by decide +kernel
theorem dX1_damage_64 : decode cX1_damage 64 = .ok (.ireturn, 1) := by decide +kernel
theorem dX1_heal_0 : decode cX1_heal 0 = .ok (.iconst 0, 1) := by decide +kernel
theorem dX1_heal_1 : decode cX1_heal 1 = .ok (.istore_n 1, 1) := by decide +kernel
theorem dX1_heal_2 : decode cX1_heal 2 = .ok (.iconst 0, 1) := by decide +kernel
theorem dX1_heal_3 : decode cX1_heal 3 = .ok (.istore_n 2, 1) := by decide +kernel
theorem dX1_heal_4 : decode cX1_heal 4 = .ok (.iload_n 2, 1) := by decide +kernel
theorem dX1_heal_5 : decode cX1_heal 5 = .ok (.iconst 4, 1) := by decide +kernel
theorem dX1_heal_6 : decode cX1_heal 6 = .ok (.if_icmp .ge 26, 3) := by decide +kernel
theorem dX1_heal_9 : decode cX1_heal 9 = .ok (.aload_n 0, 1) := by decide +kernel
theorem dX1_heal_10 : decode cX1_heal 10 = .ok (.getfield 13, 3) := by decide +kernel
theorem dX1_heal_13 : decode cX1_heal 13 = .ok (.iload_n 2, 1) := by decide +kernel
theorem dX1_heal_14 : decode cX1_heal 14 = .ok (.baload, 1) := by decide +kernel
theorem dX1_heal_15 : decode cX1_heal 15 = .ok (.ifCond .eq 11, 3) := by decide +kernel
theorem dX1_heal_18 : decode cX1_heal 18 = .ok (.iload_n 1, 1) := by decide +kernel
theorem dX1_heal_19 : decode cX1_heal 19 = .ok (.aload_n 0, 1) := by decide +kernel
theorem dX1_heal_20 : decode cX1_heal 20 = .ok (.iload_n 2, 1) := by decide +kernel
theorem dX1_heal_21 : decode cX1_heal 21 = .ok (.invokevirtual 108, 3) := by decide +kernel
theorem dX1_heal_24 : decode cX1_heal 24 = .ok (.iadd, 1) := by decide +kernel
theorem dX1_heal_25 : decode cX1_heal 25 = .ok (.istore_n 1, 1) := by decide +kernel
theorem dX1_heal_26 : decode cX1_heal 26 = .ok (.iinc 2 1, 3) := by decide +kernel
theorem dX1_heal_29 : decode cX1_heal 29 = .ok (.goto (-25), 3) := by decide +kernel
theorem dX1_heal_32 : decode cX1_heal 32 = .ok (.iload_n 1, 1) := by decide +kernel
theorem dX1_heal_33 : decode cX1_heal 33 = .ok (.ireturn, 1) := by decide +kernel
theorem dX1_healFile_0 : decode cX1_healFile 0 = .ok (.aload_n 0, 1) := by decide +kernel
theorem dX1_healFile_1 : decode cX1_healFile 1 = .ok (.iload_n 1, 1) := by decide +kernel
theorem dX1_healFile_2 : decode cX1_healFile 2 = .ok (.invokevirtual 86, 3) := by decide +kernel
theorem dX1_healFile_5 : decode cX1_healFile 5 = .ok (.istore_n 2, 1) := by decide +kernel
theorem dX1_healFile_6 : decode cX1_healFile 6 = .ok (.iload_n 2, 1) := by decide +kernel
theorem dX1_healFile_7 : decode cX1_healFile 7 = .ok (.ifCond .ge 5, 3) := by decide +kernel
theorem dX1_healFile_10 : decode cX1_healFile 10 = .ok (.iconst 0, 1) := by decide +kernel
theorem dX1_healFile_11 : decode cX1_healFile 11 = .ok (.ireturn, 1) := by decide +kernel
theorem dX1_healFile_12 : decode cX1_healFile 12 = .ok (.iconst 0, 1) := by decide +kernel
theorem dX1_healFile_13 : decode cX1_healFile 13 = .ok (.istore_n 3, 1) := by decide +kernel
theorem dX1_healFile_14 : decode cX1_healFile 14 = .ok (.iconst 0, 1) := by decide +kernel
theorem dX1_healFile_15 : decode cX1_healFile 15 = .ok (.istore 4, 2) := by decide +kernel
theorem dX1_healFile_17 : decode cX1_healFile 17 = .ok (.iload 4, 2) := by decide +kernel
theorem dX1_healFile_19 : decode cX1_healFile 19 = .ok (.aload_n 0, 1) := by decide +kernel
theorem dX1_healFile_20 : decode cX1_healFile 20 = .ok (.getfield 38, 3) := by decide +kernel
theorem dX1_healFile_23 : decode cX1_healFile 23 = .ok (.if_icmp .ge 87, 3) := by decide +kernel
theorem dX1_healFile_26 : decode cX1_healFile 26 = .ok (.aload_n 0, 1) := by decide +kernel
theorem dX1_healFile_27 : decode cX1_healFile 27 = .ok (.invokevirtual 71, 3) := by decide +kernel
theorem dX1_healFile_30 : decode cX1_healFile 30 = .ok (.istore 5, 2) := by decide +kernel
theorem dX1_healFile_32 : decode cX1_healFile 32 = .ok (.aload_n 0, 1) := by decide +kernel
theorem dX1_healFile_33 : decode cX1_healFile 33 = .ok (.iload_n 1, 1) := by decide +kernel
theorem dX1_healFile_34 : decode cX1_healFile 34 = .ok (.invokevirtual 89, 3) := by decide +kernel
theorem dX1_healFile_37 : decode cX1_healFile 37 = .ok (.istore 6, 2) := by decide +kernel
theorem dX1_healFile_39 : decode cX1_healFile 39 = .ok (.aload_n 0, 1) := by decide +kernel
theorem dX1_healFile_40 : decode cX1_healFile 40 = .ok (.iload 5, 2) := by decide +kernel
theorem dX1_healFile_42 : decode cX1_healFile 42 = .ok (.iload 6, 2) := by decide +kernel
theorem dX1_healFile_44 : decode cX1_healFile 44 = .ok (.iconst (-1), 1) := by decide +kernel
theorem dX1_healFile_45 : decode cX1_healFile 45 = .ok (.ixor, 1) := by decide +kernel
theorem dX1_healFile_46 : decode cX1_healFile 46 = .ok (.iand, 1) := by decide +kernel
theorem dX1_healFile_47 : decode cX1_healFile 47 = .ok (.invokevirtual 79, 3) := by decide +kernel
theorem dX1_healFile_50 : decode cX1_healFile 50 = .ok (.istore 7, 2) := by decide +kernel
theorem dX1_healFile_52 : decode cX1_healFile 52 = .ok (.iload 5, 2) := by decide +kernel
theorem dX1_healFile_54 : decode cX1_healFile 54 = .ok (.iload 6, 2) := by decide +kernel
theorem dX1_healFile_56 : decode cX1_healFile 56 = .ok (.iand, 1) := by decide +kernel
theorem dX1_healFile_57 : decode cX1_healFile 57 = .ok (.invokestatic 95, 3) := by decide +kernel
theorem dX1_healFile_60 : decode cX1_healFile 60 = .ok (.istore 8, 2) := by decide +kernel
theorem dX1_healFile_62 : decode cX1_healFile 62 = .ok (.iload 8, 2) := by decide +kernel
theorem dX1_healFile_64 : decode cX1_healFile 64 = .ok (.aload_n 0, 1) := by decide +kernel
theorem dX1_healFile_65 : decode cX1_healFile 65 = .ok (.getfield 38, 3) := by decide +kernel
theorem dX1_healFile_68 : decode cX1_healFile 68 = .ok (.if_icmp .ge 36, 3) := by decide +kernel
theorem dX1_healFile_71 : decode cX1_healFile 71 = .ok (.iload 7, 2) := by decide +kernel
theorem dX1_healFile_73 : decode cX1_healFile 73 = .ok (.ifCond .lt 31, 3) := by decide +kernel
theorem dX1_healFile_76 : decode cX1_healFile 76 = .ok (.aload_n 0, 1) := by decide +kernel
theorem dX1_healFile_77 : decode cX1_healFile 77 = .ok (.iload 7, 2) := by decide +kernel
theorem dX1_healFile_79 : decode cX1_healFile 79 = .ok (.iload_n 1, 1) := by decide +kernel
theorem dX1_healFile_80 : decode cX1_healFile 80 = .ok (.invokevirtual 82, 3) := by decide +kernel
theorem dX1_healFile_83 : decode cX1_healFile 83 = .ok (.istore 9, 2) := by decide +kernel
theorem dX1_healFile_85 : decode cX1_healFile 85 = .ok (.aload_n 0, 1) := by decide +kernel
theorem dX1_healFile_86 : decode cX1_healFile 86 = .ok (.aload_n 0, 1) := by decide +kernel
theorem dX1_healFile_87 : decode cX1_healFile 87 = .ok (.getfield 20, 3) := by decide +kernel
theorem dX1_healFile_90 : decode cX1_healFile 90 = .ok (.iload_n 2, 1) := by decide +kernel
theorem dX1_healFile_91 : decode cX1_healFile 91 = .ok (.iconst 4, 1) := by decide +kernel
theorem dX1_healFile_92 : decode cX1_healFile 92 = .ok (.imul, 1) := by decide +kernel
theorem dX1_healFile_93 : decode cX1_healFile 93 = .ok (.iload_n 1, 1) := by decide +kernel
theorem dX1_healFile_94 : decode cX1_healFile 94 = .ok (.iadd, 1) := by decide +kernel
theorem dX1_healFile_95 : decode cX1_healFile 95 = .ok (.iaload, 1) := by decide +kernel
theorem dX1_healFile_96 : decode cX1_healFile 96 = .ok (.iload 9, 2) := by decide +kernel
theorem dX1_healFile_98 : decode cX1_healFile 98 = .ok (.invokevirtual 47, 3) := by decide +kernel
theorem dX1_healFile_101 : decode cX1_healFile 101 = .ok (.iinc 3 1, 3) := by decide +kernel
theorem dX1_healFile_104 : decode cX1_healFile 104 = .ok (.iinc 4 1, 3) := by decide +kernel
theorem dX1_healFile_107 : decode cX1_healFile 107 = .ok (.goto (-90), 3) := by decide +kernel
theorem dX1_healFile_110 : decode cX1_healFile 110 = .ok (.iload_n 3, 1) := by decide +kernel
theorem dX1_healFile_111 : decode cX1_healFile 111 = .ok (.ireturn, 1) := by decide +kernel
theorem dX1_read_0 : decode cX1_read 0 = .ok (.aload_n 0, 1) := by decide +kernel
theorem dX1_read_1 : decode cX1_read 1 = .ok (.iload_n 1, 1) := by decide +kernel
theorem dX1_read_2 : decode cX1_read 2 = .ok (.invokevirtual 98, 3) := by decide +kernel
theorem dX1_read_5 : decode cX1_read 5 = .ok (.istore_n 3, 1) := by decide +kernel
theorem dX1_read_6 : decode cX1_read 6 = .ok (.iload_n 3, 1) := by decide +kernel
theorem dX1_read_7 : decode cX1_read 7 = .ok (.ifCond .eq 5, 3) := by decide +kernel
theorem dX1_read_10 : decode cX1_read 10 = .ok (.iload_n 3, 1) := by decide +kernel
theorem dX1_read_11 : decode cX1_read 11 = .ok (.ireturn, 1) := by decide +kernel
theorem dX1_read_12 : decode cX1_read 12 = .ok (.iload_n 2, 1) := by decide +kernel
theorem dX1_read_13 : decode cX1_read 13 = .ok (.ifCond .lt 9, 3) := by decide +kernel
theorem dX1_read_16 : decode cX1_read 16 = .ok (.iload_n 2, 1) := by decide +kernel
theorem dX1_read_17 : decode cX1_read 17 = .ok (.bipush 6, 2) := by decide +kernel
theorem dX1_read_19 : decode cX1_read 19 = .ok (.if_icmp .lt 6, 3) := by decide +kernel
theorem dX1_read_22 : decode cX1_read 22 = .ok (.bipush (-6), 2) := by decide +kernel
theorem dX1_read_24 : decode cX1_read 24 = .ok (.ireturn, 1) := by decide +kernel
theorem dX1_read_25 : decode cX1_read 25 = .ok (.aload_n 0, 1) := by decide +kernel
theorem dX1_read_26 : decode cX1_read 26 = .ok (.iload_n 1, 1) := by decide +kernel
theorem dX1_read_27 : decode cX1_read 27 = .ok (.invokevirtual 86, 3) := by decide +kernel
theorem dX1_read_30 : decode cX1_read 30 = .ok (.istore 4, 2) := by decide +kernel
theorem dX1_read_32 : decode cX1_read 32 = .ok (.aload_n 0, 1) := by decide +kernel
theorem dX1_read_33 : decode cX1_read 33 = .ok (.getfield 26, 3) := by decide +kernel
theorem dX1_read_36 : decode cX1_read 36 = .ok (.aload_n 0, 1) := by decide +kernel
theorem dX1_read_37 : decode cX1_read 37 = .ok (.getfield 20, 3) := by decide +kernel
theorem dX1_read_40 : decode cX1_read 40 = .ok (.iload 4, 2) := by decide +kernel
theorem dX1_read_42 : decode cX1_read 42 = .ok (.iconst 4, 1) := by decide +kernel
theorem dX1_read_43 : decode cX1_read 43 = .ok (.imul, 1) := by decide +kernel
theorem dX1_read_44 : decode cX1_read 44 = .ok (.iload_n 1, 1) := by decide +kernel
theorem dX1_read_45 : decode cX1_read 45 = .ok (.iadd, 1) := by decide +kernel
theorem dX1_read_46 : decode cX1_read 46 = .ok (.iaload, 1) := by decide +kernel
theorem dX1_read_47 : decode cX1_read 47 = .ok (.bipush 6, 2) := by decide +kernel
theorem dX1_read_49 : decode cX1_read 49 = .ok (.imul, 1) := by decide +kernel
theorem dX1_read_50 : decode cX1_read 50 = .ok (.iload_n 2, 1) := by decide +kernel
theorem dX1_read_51 : decode cX1_read 51 = .ok (.iadd, 1) := by decide +kernel
theorem dX1_read_52 : decode cX1_read 52 = .ok (.iaload, 1) := by decide +kernel
theorem dX1_read_53 : decode cX1_read 53 = .ok (.ireturn, 1) := by decide +kernel
theorem dX1_length_0 : decode cX1_length 0 = .ok (.aload_n 0, 1) := by decide +kernel
theorem dX1_length_1 : decode cX1_length 1 = .ok (.iload_n 1, 1) := by decide +kernel
theorem dX1_length_2 : decode cX1_length 2 = .ok (.invokevirtual 98, 3) := by decide +kernel
theorem dX1_length_5 : decode cX1_length 5 = .ok (.istore_n 2, 1) := by decide +kernel
theorem dX1_length_6 : decode cX1_length 6 = .ok (.iload_n 2, 1) := by decide +kernel
theorem dX1_length_7 : decode cX1_length 7 = .ok (.ifCond .eq 5, 3) := by decide +kernel
theorem dX1_length_10 : decode cX1_length 10 = .ok (.iload_n 2, 1) := by decide +kernel
theorem dX1_length_11 : decode cX1_length 11 = .ok (.ireturn, 1) := by decide +kernel
theorem dX1_length_12 : decode cX1_length 12 = .ok (.aload_n 0, 1) := by decide +kernel
theorem dX1_length_13 : decode cX1_length 13 = .ok (.iload_n 1, 1) := by decide +kernel
theorem dX1_length_14 : decode cX1_length 14 = .ok (.invokevirtual 86, 3) := by decide +kernel
theorem dX1_length_17 : decode cX1_length 17 = .ok (.istore_n 3, 1) := by decide +kernel
theorem dX1_length_18 : decode cX1_length 18 = .ok (.aload_n 0, 1) := by decide +kernel
theorem dX1_length_19 : decode cX1_length 19 = .ok (.getfield 29, 3) := by decide +kernel
theorem dX1_length_22 : decode cX1_length 22 = .ok (.aload_n 0, 1) := by decide +kernel
theorem dX1_length_23 : decode cX1_length 23 = .ok (.getfield 20, 3) := by decide +kernel
theorem dX1_length_26 : decode cX1_length 26 = .ok (.iload_n 3, 1) := by decide +kernel
theorem dX1_length_27 : decode cX1_length 27 = .ok (.iconst 4, 1) := by decide +kernel
theorem dX1_length_28 : decode cX1_length 28 = .ok (.imul, 1) := by decide +kernel
theorem dX1_length_29 : decode cX1_length 29 = .ok (.iload_n 1, 1) := by decide +kernel
theorem dX1_length_30 : decode cX1_length 30 = .ok (.iadd, 1) := by decide +kernel
theorem dX1_length_31 : decode cX1_length 31 = .ok (.iaload, 1) := by decide +kernel
theorem dX1_length_32 : decode cX1_length 32 = .ok (.iaload, 1) := by decide +kernel
theorem dX1_length_33 : decode cX1_length 33 = .ok (.ireturn, 1) := by decide +kernel
theorem dX1_replicas_0 : decode cX1_replicas 0 = .ok (.iload_n 1, 1) := by decide +kernel
theorem dX1_replicas_1 : decode cX1_replicas 1 = .ok (.invokestatic 67, 3) := by decide +kernel
theorem dX1_replicas_4 : decode cX1_replicas 4 = .ok (.ifCond .eq 5, 3) := by decide +kernel
theorem dX1_replicas_7 : decode cX1_replicas 7 = .ok (.iconst (-1), 1) := by decide +kernel
theorem dX1_replicas_8 : decode cX1_replicas 8 = .ok (.ireturn, 1) := by decide +kernel
theorem dX1_replicas_9 : decode cX1_replicas 9 = .ok (.aload_n 0, 1) := by decide +kernel
theorem dX1_replicas_10 : decode cX1_replicas 10 = .ok (.getfield 13, 3) := by decide +kernel
theorem dX1_replicas_13 : decode cX1_replicas 13 = .ok (.iload_n 1, 1) := by decide +kernel
theorem dX1_replicas_14 : decode cX1_replicas 14 = .ok (.baload, 1) := by decide +kernel
theorem dX1_replicas_15 : decode cX1_replicas 15 = .ok (.ifCond .ne 6, 3) := by decide +kernel
theorem dX1_replicas_18 : decode cX1_replicas 18 = .ok (.bipush (-3), 2) := by decide +kernel
theorem dX1_replicas_20 : decode cX1_replicas 20 = .ok (.ireturn, 1) := by decide +kernel
theorem dX1_replicas_21 : decode cX1_replicas 21 = .ok (.aload_n 0, 1) := by decide +kernel
theorem dX1_replicas_22 : decode cX1_replicas 22 = .ok (.iload_n 1, 1) := by decide +kernel
theorem dX1_replicas_23 : decode cX1_replicas 23 = .ok (.invokevirtual 89, 3) := by decide +kernel
theorem dX1_replicas_26 : decode cX1_replicas 26 = .ok (.ireturn, 1) := by decide +kernel
end
section
set_option maxRecDepth 100000
theorem dJ0_init_0 : decode cJ0_init 0 = .ok (.return_, 1) := by decide +kernel
theorem dX0_cell_0 : decode cX0_cell 0 = .ok (.iload_n 1, 1) := by decide +kernel
theorem dX0_cell_1 : decode cX0_cell 1 = .ok (.aload_n 0, 1) := by decide +kernel
theorem dX0_cell_2 : decode cX0_cell 2 = .ok (.arraylength, 1) := by decide +kernel
theorem dX0_cell_3 : decode cX0_cell 3 = .ok (.if_icmp .ge 9, 3) := by decide +kernel
theorem dX0_cell_6 : decode cX0_cell 6 = .ok (.aload_n 0, 1) := by decide +kernel
theorem dX0_cell_7 : decode cX0_cell 7 = .ok (.iload_n 1, 1) := by decide +kernel
theorem dX0_cell_8 : decode cX0_cell 8 = .ok (.iaload, 1) := by decide +kernel
theorem dX0_cell_9 : decode cX0_cell 9 = .ok (.goto 4, 3) := by decide +kernel
theorem dX0_cell_12 : decode cX0_cell 12 = .ok (.iconst 0, 1) := by decide +kernel
theorem dX0_cell_13 : decode cX0_cell 13 = .ok (.ireturn, 1) := by decide +kernel
theorem dL_law_0 : decode cL_law 0 = .ok (.new 7, 3) := by decide +kernel
theorem dL_law_3 : decode cL_law 3 = .ok (.dup, 1) := by decide +kernel
theorem dL_law_4 : decode cL_law 4 = .ok (.aload_n 0, 1) := by decide +kernel
theorem dL_law_5 : decode cL_law 5 = .ok (.iconst 0, 1) := by decide +kernel
theorem dL_law_6 : decode cL_law 6 = .ok (.invokestatic 9, 3) := by decide +kernel
theorem dL_law_9 : decode cL_law 9 = .ok (.invokespecial 15, 3) := by decide +kernel
theorem dL_law_12 : decode cL_law 12 = .ok (.astore_n 1, 1) := by decide +kernel
theorem dL_law_13 : decode cL_law 13 = .ok (.new 18, 3) := by decide +kernel
theorem dL_law_16 : decode cL_law 16 = .ok (.dup, 1) := by decide +kernel
theorem dL_law_17 : decode cL_law 17 = .ok (.aload_n 0, 1) := by decide +kernel
theorem dL_law_18 : decode cL_law 18 = .ok (.iconst 0, 1) := by decide +kernel
theorem dL_law_19 : decode cL_law 19 = .ok (.invokestatic 9, 3) := by decide +kernel
theorem dL_law_22 : decode cL_law 22 = .ok (.invokespecial 20, 3) := by decide +kernel
theorem dL_law_25 : decode cL_law 25 = .ok (.astore_n 2, 1) := by decide +kernel
theorem dL_law_26 : decode cL_law 26 = .ok (.iconst 1, 1) := by decide +kernel
theorem dL_law_27 : decode cL_law 27 = .ok (.istore_n 3, 1) := by decide +kernel
theorem dL_law_28 : decode cL_law 28 = .ok (.iload_n 3, 1) := by decide +kernel
theorem dL_law_29 : decode cL_law 29 = .ok (.aload_n 0, 1) := by decide +kernel
theorem dL_law_30 : decode cL_law 30 = .ok (.arraylength, 1) := by decide +kernel
theorem dL_law_31 : decode cL_law 31 = .ok (.iconst 4, 1) := by decide +kernel
theorem dL_law_32 : decode cL_law 32 = .ok (.isub, 1) := by decide +kernel
theorem dL_law_33 : decode cL_law 33 = .ok (.if_icmp .gt 430, 3) := by decide +kernel
theorem dL_law_36 : decode cL_law 36 = .ok (.aload_n 0, 1) := by decide +kernel
theorem dL_law_37 : decode cL_law 37 = .ok (.iload_n 3, 1) := by decide +kernel
theorem dL_law_38 : decode cL_law 38 = .ok (.iaload, 1) := by decide +kernel
theorem dL_law_39 : decode cL_law 39 = .ok (.bipush 15, 2) := by decide +kernel
theorem dL_law_41 : decode cL_law 41 = .ok (.iand, 1) := by decide +kernel
theorem dL_law_42 : decode cL_law 42 = .ok (.tableswitch 415 0 12 #[66, 89, 112, 155, 188, 221, 244, 267, 290, 323, 336, 369, 392], 66) := by decide +kernel
theorem dL_law_108 : decode cL_law 108 = .ok (.aload_n 1, 1) := by decide +kernel
theorem dL_law_109 : decode cL_law 109 = .ok (.aload_n 0, 1) := by decide +kernel
theorem dL_law_110 : decode cL_law 110 = .ok (.iload_n 3, 1) := by decide +kernel
theorem dL_law_111 : decode cL_law 111 = .ok (.iconst 1, 1) := by decide +kernel
theorem dL_law_112 : decode cL_law 112 = .ok (.iadd, 1) := by decide +kernel
theorem dL_law_113 : decode cL_law 113 = .ok (.iaload, 1) := by decide +kernel
theorem dL_law_114 : decode cL_law 114 = .ok (.invokevirtual 21, 3) := by decide +kernel
theorem dL_law_117 : decode cL_law 117 = .ok (.aload_n 2, 1) := by decide +kernel
theorem dL_law_118 : decode cL_law 118 = .ok (.aload_n 0, 1) := by decide +kernel
theorem dL_law_119 : decode cL_law 119 = .ok (.iload_n 3, 1) := by decide +kernel
theorem dL_law_120 : decode cL_law 120 = .ok (.iconst 1, 1) := by decide +kernel
theorem dL_law_121 : decode cL_law 121 = .ok (.iadd, 1) := by decide +kernel
theorem dL_law_122 : decode cL_law 122 = .ok (.iaload, 1) := by decide +kernel
theorem dL_law_123 : decode cL_law 123 = .ok (.invokevirtual 25, 3) := by decide +kernel
theorem dL_law_126 : decode cL_law 126 = .ok (.if_icmp .eq 331, 3) := by decide +kernel
theorem dL_law_129 : decode cL_law 129 = .ok (.iconst 0, 1) := by decide +kernel
theorem dL_law_130 : decode cL_law 130 = .ok (.ireturn, 1) := by decide +kernel
theorem dL_law_131 : decode cL_law 131 = .ok (.aload_n 1, 1) := by decide +kernel
theorem dL_law_132 : decode cL_law 132 = .ok (.aload_n 0, 1) := by decide +kernel
theorem dL_law_133 : decode cL_law 133 = .ok (.iload_n 3, 1) := by decide +kernel
theorem dL_law_134 : decode cL_law 134 = .ok (.iconst 1, 1) := by decide +kernel
theorem dL_law_135 : decode cL_law 135 = .ok (.iadd, 1) := by decide +kernel
theorem dL_law_136 : decode cL_law 136 = .ok (.iaload, 1) := by decide +kernel
theorem dL_law_137 : decode cL_law 137 = .ok (.invokevirtual 26, 3) := by decide +kernel
theorem dL_law_140 : decode cL_law 140 = .ok (.aload_n 2, 1) := by decide +kernel
theorem dL_law_141 : decode cL_law 141 = .ok (.aload_n 0, 1) := by decide +kernel
theorem dL_law_142 : decode cL_law 142 = .ok (.iload_n 3, 1) := by decide +kernel
theorem dL_law_143 : decode cL_law 143 = .ok (.iconst 1, 1) := by decide +kernel
theorem dL_law_144 : decode cL_law 144 = .ok (.iadd, 1) := by decide +kernel
theorem dL_law_145 : decode cL_law 145 = .ok (.iaload, 1) := by decide +kernel
theorem dL_law_146 : decode cL_law 146 = .ok (.invokevirtual 29, 3) := by decide +kernel
theorem dL_law_149 : decode cL_law 149 = .ok (.if_icmp .eq 308, 3) := by decide +kernel
theorem dL_law_152 : decode cL_law 152 = .ok (.iconst 0, 1) := by decide +kernel
theorem dL_law_153 : decode cL_law 153 = .ok (.ireturn, 1) := by decide +kernel
theorem dL_law_154 : decode cL_law 154 = .ok (.aload_n 1, 1) := by decide +kernel
theorem dL_law_155 : decode cL_law 155 = .ok (.aload_n 0, 1) := by decide +kernel
theorem dL_law_156 : decode cL_law 156 = .ok (.iload_n 3, 1) := by decide +kernel
theorem dL_law_157 : decode cL_law 157 = .ok (.iconst 1, 1) := by decide +kernel
theorem dL_law_158 : decode cL_law 158 = .ok (.iadd, 1) := by decide +kernel
theorem dL_law_159 : decode cL_law 159 = .ok (.iaload, 1) := by decide +kernel
theorem dL_law_160 : decode cL_law 160 = .ok (.aload_n 0, 1) := by decide +kernel
theorem dL_law_161 : decode cL_law 161 = .ok (.iload_n 3, 1) := by decide +kernel
theorem dL_law_162 : decode cL_law 162 = .ok (.iconst 2, 1) := by decide +kernel
theorem dL_law_163 : decode cL_law 163 = .ok (.iadd, 1) := by decide +kernel
theorem dL_law_164 : decode cL_law 164 = .ok (.iaload, 1) := by decide +kernel
theorem dL_law_165 : decode cL_law 165 = .ok (.aload_n 0, 1) := by decide +kernel
theorem dL_law_166 : decode cL_law 166 = .ok (.iload_n 3, 1) := by decide +kernel
theorem dL_law_167 : decode cL_law 167 = .ok (.iconst 3, 1) := by decide +kernel
theorem dL_law_168 : decode cL_law 168 = .ok (.iadd, 1) := by decide +kernel
theorem dL_law_169 : decode cL_law 169 = .ok (.iaload, 1) := by decide +kernel
theorem dL_law_170 : decode cL_law 170 = .ok (.invokevirtual 30, 3) := by decide +kernel
theorem dL_law_173 : decode cL_law 173 = .ok (.aload_n 2, 1) := by decide +kernel
theorem dL_law_174 : decode cL_law 174 = .ok (.aload_n 0, 1) := by decide +kernel
theorem dL_law_175 : decode cL_law 175 = .ok (.iload_n 3, 1) := by decide +kernel
theorem dL_law_176 : decode cL_law 176 = .ok (.iconst 1, 1) := by decide +kernel
theorem dL_law_177 : decode cL_law 177 = .ok (.iadd, 1) := by decide +kernel
theorem dL_law_178 : decode cL_law 178 = .ok (.iaload, 1) := by decide +kernel
theorem dL_law_179 : decode cL_law 179 = .ok (.aload_n 0, 1) := by decide +kernel
theorem dL_law_180 : decode cL_law 180 = .ok (.iload_n 3, 1) := by decide +kernel
theorem dL_law_181 : decode cL_law 181 = .ok (.iconst 2, 1) := by decide +kernel
theorem dL_law_182 : decode cL_law 182 = .ok (.iadd, 1) := by decide +kernel
theorem dL_law_183 : decode cL_law 183 = .ok (.iaload, 1) := by decide +kernel
theorem dL_law_184 : decode cL_law 184 = .ok (.aload_n 0, 1) := by decide +kernel
theorem dL_law_185 : decode cL_law 185 = .ok (.iload_n 3, 1) := by decide +kernel
theorem dL_law_186 : decode cL_law 186 = .ok (.iconst 3, 1) := by decide +kernel
theorem dL_law_187 : decode cL_law 187 = .ok (.iadd, 1) := by decide +kernel
theorem dL_law_188 : decode cL_law 188 = .ok (.iaload, 1) := by decide +kernel
theorem dL_law_189 : decode cL_law 189 = .ok (.invokevirtual 34, 3) := by decide +kernel
theorem dL_law_192 : decode cL_law 192 = .ok (.if_icmp .eq 265, 3) := by decide +kernel
theorem dL_law_195 : decode cL_law 195 = .ok (.iconst 0, 1) := by decide +kernel
theorem dL_law_196 : decode cL_law 196 = .ok (.ireturn, 1) := by decide +kernel
theorem dL_law_197 : decode cL_law 197 = .ok (.aload_n 1, 1) := by decide +kernel
theorem dL_law_198 : decode cL_law 198 = .ok (.aload_n 0, 1) := by decide +kernel
theorem dL_law_199 : decode cL_law 199 = .ok (.iload_n 3, 1) := by decide +kernel
theorem dL_law_200 : decode cL_law 200 = .ok (.iconst 1, 1) := by decide +kernel
theorem dL_law_201 : decode cL_law 201 = .ok (.iadd, 1) := by decide +kernel
theorem dL_law_202 : decode cL_law 202 = .ok (.iaload, 1) := by decide +kernel
theorem dL_law_203 : decode cL_law 203 = .ok (.aload_n 0, 1) := by decide +kernel
theorem dL_law_204 : decode cL_law 204 = .ok (.iload_n 3, 1) := by decide +kernel
theorem dL_law_205 : decode cL_law 205 = .ok (.iconst 2, 1) := by decide +kernel
theorem dL_law_206 : decode cL_law 206 = .ok (.iadd, 1) := by decide +kernel
theorem dL_law_207 : decode cL_law 207 = .ok (.iaload, 1) := by decide +kernel
theorem dL_law_208 : decode cL_law 208 = .ok (.invokevirtual 35, 3) := by decide +kernel
theorem dL_law_211 : decode cL_law 211 = .ok (.aload_n 2, 1) := by decide +kernel
theorem dL_law_212 : decode cL_law 212 = .ok (.aload_n 0, 1) := by decide +kernel
theorem dL_law_213 : decode cL_law 213 = .ok (.iload_n 3, 1) := by decide +kernel
theorem dL_law_214 : decode cL_law 214 = .ok (.iconst 1, 1) := by decide +kernel
theorem dL_law_215 : decode cL_law 215 = .ok (.iadd, 1) := by decide +kernel
theorem dL_law_216 : decode cL_law 216 = .ok (.iaload, 1) := by decide +kernel
theorem dL_law_217 : decode cL_law 217 = .ok (.aload_n 0, 1) := by decide +kernel
theorem dL_law_218 : decode cL_law 218 = .ok (.iload_n 3, 1) := by decide +kernel
theorem dL_law_219 : decode cL_law 219 = .ok (.iconst 2, 1) := by decide +kernel
theorem dL_law_220 : decode cL_law 220 = .ok (.iadd, 1) := by decide +kernel
theorem dL_law_221 : decode cL_law 221 = .ok (.iaload, 1) := by decide +kernel
theorem dL_law_222 : decode cL_law 222 = .ok (.invokevirtual 39, 3) := by decide +kernel
theorem dL_law_225 : decode cL_law 225 = .ok (.if_icmp .eq 232, 3) := by decide +kernel
theorem dL_law_228 : decode cL_law 228 = .ok (.iconst 0, 1) := by decide +kernel
theorem dL_law_229 : decode cL_law 229 = .ok (.ireturn, 1) := by decide +kernel
theorem dL_law_230 : decode cL_law 230 = .ok (.aload_n 1, 1) := by decide +kernel
theorem dL_law_231 : decode cL_law 231 = .ok (.aload_n 0, 1) := by decide +kernel
theorem dL_law_232 : decode cL_law 232 = .ok (.iload_n 3, 1) := by decide +kernel
theorem dL_law_233 : decode cL_law 233 = .ok (.iconst 1, 1) := by decide +kernel
theorem dL_law_234 : decode cL_law 234 = .ok (.iadd, 1) := by decide +kernel
theorem dL_law_235 : decode cL_law 235 = .ok (.iaload, 1) := by decide +kernel
theorem dL_law_236 : decode cL_law 236 = .ok (.aload_n 0, 1) := by decide +kernel
theorem dL_law_237 : decode cL_law 237 = .ok (.iload_n 3, 1) := by decide +kernel
theorem dL_law_238 : decode cL_law 238 = .ok (.iconst 2, 1) := by decide +kernel
theorem dL_law_239 : decode cL_law 239 = .ok (.iadd, 1) := by decide +kernel
theorem dL_law_240 : decode cL_law 240 = .ok (.iaload, 1) := by decide +kernel
theorem dL_law_241 : decode cL_law 241 = .ok (.invokevirtual 40, 3) := by decide +kernel
theorem dL_law_244 : decode cL_law 244 = .ok (.aload_n 2, 1) := by decide +kernel
theorem dL_law_245 : decode cL_law 245 = .ok (.aload_n 0, 1) := by decide +kernel
theorem dL_law_246 : decode cL_law 246 = .ok (.iload_n 3, 1) := by decide +kernel
theorem dL_law_247 : decode cL_law 247 = .ok (.iconst 1, 1) := by decide +kernel
theorem dL_law_248 : decode cL_law 248 = .ok (.iadd, 1) := by decide +kernel
theorem dL_law_249 : decode cL_law 249 = .ok (.iaload, 1) := by decide +kernel
theorem dL_law_250 : decode cL_law 250 = .ok (.aload_n 0, 1) := by decide +kernel
theorem dL_law_251 : decode cL_law 251 = .ok (.iload_n 3, 1) := by decide +kernel
theorem dL_law_252 : decode cL_law 252 = .ok (.iconst 2, 1) := by decide +kernel
theorem dL_law_253 : decode cL_law 253 = .ok (.iadd, 1) := by decide +kernel
theorem dL_law_254 : decode cL_law 254 = .ok (.iaload, 1) := by decide +kernel
theorem dL_law_255 : decode cL_law 255 = .ok (.invokevirtual 43, 3) := by decide +kernel
theorem dL_law_258 : decode cL_law 258 = .ok (.if_icmp .eq 199, 3) := by decide +kernel
theorem dL_law_261 : decode cL_law 261 = .ok (.iconst 0, 1) := by decide +kernel
theorem dL_law_262 : decode cL_law 262 = .ok (.ireturn, 1) := by decide +kernel
theorem dL_law_263 : decode cL_law 263 = .ok (.aload_n 1, 1) := by decide +kernel
theorem dL_law_264 : decode cL_law 264 = .ok (.aload_n 0, 1) := by decide +kernel
theorem dL_law_265 : decode cL_law 265 = .ok (.iload_n 3, 1) := by decide +kernel
theorem dL_law_266 : decode cL_law 266 = .ok (.iconst 1, 1) := by decide +kernel
theorem dL_law_267 : decode cL_law 267 = .ok (.iadd, 1) := by decide +kernel
theorem dL_law_268 : decode cL_law 268 = .ok (.iaload, 1) := by decide +kernel
theorem dL_law_269 : decode cL_law 269 = .ok (.invokevirtual 44, 3) := by decide +kernel
theorem dL_law_272 : decode cL_law 272 = .ok (.aload_n 2, 1) := by decide +kernel
theorem dL_law_273 : decode cL_law 273 = .ok (.aload_n 0, 1) := by decide +kernel
theorem dL_law_274 : decode cL_law 274 = .ok (.iload_n 3, 1) := by decide +kernel
theorem dL_law_275 : decode cL_law 275 = .ok (.iconst 1, 1) := by decide +kernel
theorem dL_law_276 : decode cL_law 276 = .ok (.iadd, 1) := by decide +kernel
theorem dL_law_277 : decode cL_law 277 = .ok (.iaload, 1) := by decide +kernel
theorem dL_law_278 : decode cL_law 278 = .ok (.invokevirtual 47, 3) := by decide +kernel
theorem dL_law_281 : decode cL_law 281 = .ok (.if_icmp .eq 176, 3) := by decide +kernel
theorem dL_law_284 : decode cL_law 284 = .ok (.iconst 0, 1) := by decide +kernel
theorem dL_law_285 : decode cL_law 285 = .ok (.ireturn, 1) := by decide +kernel
theorem dL_law_286 : decode cL_law 286 = .ok (.aload_n 1, 1) := by decide +kernel
theorem dL_law_287 : decode cL_law 287 = .ok (.aload_n 0, 1) := by decide +kernel
theorem dL_law_288 : decode cL_law 288 = .ok (.iload_n 3, 1) := by decide +kernel
theorem dL_law_289 : decode cL_law 289 = .ok (.iconst 1, 1) := by decide +kernel
theorem dL_law_290 : decode cL_law 290 = .ok (.iadd, 1) := by decide +kernel
theorem dL_law_291 : decode cL_law 291 = .ok (.iaload, 1) := by decide +kernel
theorem dL_law_292 : decode cL_law 292 = .ok (.invokevirtual 48, 3) := by decide +kernel
theorem dL_law_295 : decode cL_law 295 = .ok (.aload_n 2, 1) := by decide +kernel
theorem dL_law_296 : decode cL_law 296 = .ok (.aload_n 0, 1) := by decide +kernel
theorem dL_law_297 : decode cL_law 297 = .ok (.iload_n 3, 1) := by decide +kernel
theorem dL_law_298 : decode cL_law 298 = .ok (.iconst 1, 1) := by decide +kernel
theorem dL_law_299 : decode cL_law 299 = .ok (.iadd, 1) := by decide +kernel
theorem dL_law_300 : decode cL_law 300 = .ok (.iaload, 1) := by decide +kernel
theorem dL_law_301 : decode cL_law 301 = .ok (.invokevirtual 51, 3) := by decide +kernel
theorem dL_law_304 : decode cL_law 304 = .ok (.if_icmp .eq 153, 3) := by decide +kernel
theorem dL_law_307 : decode cL_law 307 = .ok (.iconst 0, 1) := by decide +kernel
theorem dL_law_308 : decode cL_law 308 = .ok (.ireturn, 1) := by decide +kernel
theorem dL_law_309 : decode cL_law 309 = .ok (.aload_n 1, 1) := by decide +kernel
theorem dL_law_310 : decode cL_law 310 = .ok (.aload_n 0, 1) := by decide +kernel
theorem dL_law_311 : decode cL_law 311 = .ok (.iload_n 3, 1) := by decide +kernel
theorem dL_law_312 : decode cL_law 312 = .ok (.iconst 1, 1) := by decide +kernel
theorem dL_law_313 : decode cL_law 313 = .ok (.iadd, 1) := by decide +kernel
theorem dL_law_314 : decode cL_law 314 = .ok (.iaload, 1) := by decide +kernel
theorem dL_law_315 : decode cL_law 315 = .ok (.invokevirtual 52, 3) := by decide +kernel
theorem dL_law_318 : decode cL_law 318 = .ok (.aload_n 2, 1) := by decide +kernel
theorem dL_law_319 : decode cL_law 319 = .ok (.aload_n 0, 1) := by decide +kernel
theorem dL_law_320 : decode cL_law 320 = .ok (.iload_n 3, 1) := by decide +kernel
theorem dL_law_321 : decode cL_law 321 = .ok (.iconst 1, 1) := by decide +kernel
theorem dL_law_322 : decode cL_law 322 = .ok (.iadd, 1) := by decide +kernel
theorem dL_law_323 : decode cL_law 323 = .ok (.iaload, 1) := by decide +kernel
theorem dL_law_324 : decode cL_law 324 = .ok (.invokevirtual 55, 3) := by decide +kernel
theorem dL_law_327 : decode cL_law 327 = .ok (.if_icmp .eq 130, 3) := by decide +kernel
theorem dL_law_330 : decode cL_law 330 = .ok (.iconst 0, 1) := by decide +kernel
theorem dL_law_331 : decode cL_law 331 = .ok (.ireturn, 1) := by decide +kernel
theorem dL_law_332 : decode cL_law 332 = .ok (.aload_n 1, 1) := by decide +kernel
theorem dL_law_333 : decode cL_law 333 = .ok (.aload_n 0, 1) := by decide +kernel
theorem dL_law_334 : decode cL_law 334 = .ok (.iload_n 3, 1) := by decide +kernel
theorem dL_law_335 : decode cL_law 335 = .ok (.iconst 1, 1) := by decide +kernel
theorem dL_law_336 : decode cL_law 336 = .ok (.iadd, 1) := by decide +kernel
theorem dL_law_337 : decode cL_law 337 = .ok (.iaload, 1) := by decide +kernel
theorem dL_law_338 : decode cL_law 338 = .ok (.aload_n 0, 1) := by decide +kernel
theorem dL_law_339 : decode cL_law 339 = .ok (.iload_n 3, 1) := by decide +kernel
theorem dL_law_340 : decode cL_law 340 = .ok (.iconst 2, 1) := by decide +kernel
theorem dL_law_341 : decode cL_law 341 = .ok (.iadd, 1) := by decide +kernel
theorem dL_law_342 : decode cL_law 342 = .ok (.iaload, 1) := by decide +kernel
theorem dL_law_343 : decode cL_law 343 = .ok (.invokevirtual 56, 3) := by decide +kernel
theorem dL_law_346 : decode cL_law 346 = .ok (.aload_n 2, 1) := by decide +kernel
theorem dL_law_347 : decode cL_law 347 = .ok (.aload_n 0, 1) := by decide +kernel
theorem dL_law_348 : decode cL_law 348 = .ok (.iload_n 3, 1) := by decide +kernel
theorem dL_law_349 : decode cL_law 349 = .ok (.iconst 1, 1) := by decide +kernel
theorem dL_law_350 : decode cL_law 350 = .ok (.iadd, 1) := by decide +kernel
theorem dL_law_351 : decode cL_law 351 = .ok (.iaload, 1) := by decide +kernel
theorem dL_law_352 : decode cL_law 352 = .ok (.aload_n 0, 1) := by decide +kernel
theorem dL_law_353 : decode cL_law 353 = .ok (.iload_n 3, 1) := by decide +kernel
theorem dL_law_354 : decode cL_law 354 = .ok (.iconst 2, 1) := by decide +kernel
theorem dL_law_355 : decode cL_law 355 = .ok (.iadd, 1) := by decide +kernel
theorem dL_law_356 : decode cL_law 356 = .ok (.iaload, 1) := by decide +kernel
theorem dL_law_357 : decode cL_law 357 = .ok (.invokevirtual 59, 3) := by decide +kernel
theorem dL_law_360 : decode cL_law 360 = .ok (.if_icmp .eq 97, 3) := by decide +kernel
theorem dL_law_363 : decode cL_law 363 = .ok (.iconst 0, 1) := by decide +kernel
theorem dL_law_364 : decode cL_law 364 = .ok (.ireturn, 1) := by decide +kernel
theorem dL_law_365 : decode cL_law 365 = .ok (.aload_n 1, 1) := by decide +kernel
theorem dL_law_366 : decode cL_law 366 = .ok (.invokevirtual 60, 3) := by decide +kernel
theorem dL_law_369 : decode cL_law 369 = .ok (.aload_n 2, 1) := by decide +kernel
theorem dL_law_370 : decode cL_law 370 = .ok (.invokevirtual 64, 3) := by decide +kernel
theorem dL_law_373 : decode cL_law 373 = .ok (.if_icmp .eq 84, 3) := by decide +kernel
theorem dL_law_376 : decode cL_law 376 = .ok (.iconst 0, 1) := by decide +kernel
theorem dL_law_377 : decode cL_law 377 = .ok (.ireturn, 1) := by decide +kernel
theorem dL_law_378 : decode cL_law 378 = .ok (.aload_n 1, 1) := by decide +kernel
theorem dL_law_379 : decode cL_law 379 = .ok (.aload_n 0, 1) := by decide +kernel
theorem dL_law_380 : decode cL_law 380 = .ok (.iload_n 3, 1) := by decide +kernel
theorem dL_law_381 : decode cL_law 381 = .ok (.iconst 1, 1) := by decide +kernel
theorem dL_law_382 : decode cL_law 382 = .ok (.iadd, 1) := by decide +kernel
theorem dL_law_383 : decode cL_law 383 = .ok (.iaload, 1) := by decide +kernel
theorem dL_law_384 : decode cL_law 384 = .ok (.aload_n 0, 1) := by decide +kernel
theorem dL_law_385 : decode cL_law 385 = .ok (.iload_n 3, 1) := by decide +kernel
theorem dL_law_386 : decode cL_law 386 = .ok (.iconst 2, 1) := by decide +kernel
theorem dL_law_387 : decode cL_law 387 = .ok (.iadd, 1) := by decide +kernel
theorem dL_law_388 : decode cL_law 388 = .ok (.iaload, 1) := by decide +kernel
theorem dL_law_389 : decode cL_law 389 = .ok (.invokevirtual 65, 3) := by decide +kernel
theorem dL_law_392 : decode cL_law 392 = .ok (.aload_n 2, 1) := by decide +kernel
theorem dL_law_393 : decode cL_law 393 = .ok (.aload_n 0, 1) := by decide +kernel
theorem dL_law_394 : decode cL_law 394 = .ok (.iload_n 3, 1) := by decide +kernel
theorem dL_law_395 : decode cL_law 395 = .ok (.iconst 1, 1) := by decide +kernel
theorem dL_law_396 : decode cL_law 396 = .ok (.iadd, 1) := by decide +kernel
theorem dL_law_397 : decode cL_law 397 = .ok (.iaload, 1) := by decide +kernel
theorem dL_law_398 : decode cL_law 398 = .ok (.aload_n 0, 1) := by decide +kernel
theorem dL_law_399 : decode cL_law 399 = .ok (.iload_n 3, 1) := by decide +kernel
theorem dL_law_400 : decode cL_law 400 = .ok (.iconst 2, 1) := by decide +kernel
theorem dL_law_401 : decode cL_law 401 = .ok (.iadd, 1) := by decide +kernel
theorem dL_law_402 : decode cL_law 402 = .ok (.iaload, 1) := by decide +kernel
theorem dL_law_403 : decode cL_law 403 = .ok (.invokevirtual 68, 3) := by decide +kernel
theorem dL_law_406 : decode cL_law 406 = .ok (.if_icmp .eq 51, 3) := by decide +kernel
theorem dL_law_409 : decode cL_law 409 = .ok (.iconst 0, 1) := by decide +kernel
theorem dL_law_410 : decode cL_law 410 = .ok (.ireturn, 1) := by decide +kernel
theorem dL_law_411 : decode cL_law 411 = .ok (.aload_n 1, 1) := by decide +kernel
theorem dL_law_412 : decode cL_law 412 = .ok (.aload_n 0, 1) := by decide +kernel
theorem dL_law_413 : decode cL_law 413 = .ok (.iload_n 3, 1) := by decide +kernel
theorem dL_law_414 : decode cL_law 414 = .ok (.iconst 1, 1) := by decide +kernel
theorem dL_law_415 : decode cL_law 415 = .ok (.iadd, 1) := by decide +kernel
theorem dL_law_416 : decode cL_law 416 = .ok (.iaload, 1) := by decide +kernel
theorem dL_law_417 : decode cL_law 417 = .ok (.invokevirtual 69, 3) := by decide +kernel
theorem dL_law_420 : decode cL_law 420 = .ok (.aload_n 2, 1) := by decide +kernel
theorem dL_law_421 : decode cL_law 421 = .ok (.aload_n 0, 1) := by decide +kernel
theorem dL_law_422 : decode cL_law 422 = .ok (.iload_n 3, 1) := by decide +kernel
theorem dL_law_423 : decode cL_law 423 = .ok (.iconst 1, 1) := by decide +kernel
theorem dL_law_424 : decode cL_law 424 = .ok (.iadd, 1) := by decide +kernel
theorem dL_law_425 : decode cL_law 425 = .ok (.iaload, 1) := by decide +kernel
theorem dL_law_426 : decode cL_law 426 = .ok (.invokevirtual 72, 3) := by decide +kernel
theorem dL_law_429 : decode cL_law 429 = .ok (.if_icmp .eq 28, 3) := by decide +kernel
theorem dL_law_432 : decode cL_law 432 = .ok (.iconst 0, 1) := by decide +kernel
theorem dL_law_433 : decode cL_law 433 = .ok (.ireturn, 1) := by decide +kernel
theorem dL_law_434 : decode cL_law 434 = .ok (.aload_n 1, 1) := by decide +kernel
theorem dL_law_435 : decode cL_law 435 = .ok (.aload_n 0, 1) := by decide +kernel
theorem dL_law_436 : decode cL_law 436 = .ok (.iload_n 3, 1) := by decide +kernel
theorem dL_law_437 : decode cL_law 437 = .ok (.iconst 1, 1) := by decide +kernel
theorem dL_law_438 : decode cL_law 438 = .ok (.iadd, 1) := by decide +kernel
theorem dL_law_439 : decode cL_law 439 = .ok (.iaload, 1) := by decide +kernel
theorem dL_law_440 : decode cL_law 440 = .ok (.invokevirtual 73, 3) := by decide +kernel
theorem dL_law_443 : decode cL_law 443 = .ok (.aload_n 2, 1) := by decide +kernel
theorem dL_law_444 : decode cL_law 444 = .ok (.aload_n 0, 1) := by decide +kernel
theorem dL_law_445 : decode cL_law 445 = .ok (.iload_n 3, 1) := by decide +kernel
theorem dL_law_446 : decode cL_law 446 = .ok (.iconst 1, 1) := by decide +kernel
theorem dL_law_447 : decode cL_law 447 = .ok (.iadd, 1) := by decide +kernel
theorem dL_law_448 : decode cL_law 448 = .ok (.iaload, 1) := by decide +kernel
theorem dL_law_449 : decode cL_law 449 = .ok (.invokevirtual 76, 3) := by decide +kernel
theorem dL_law_452 : decode cL_law 452 = .ok (.if_icmp .eq 5, 3) := by decide +kernel
theorem dL_law_455 : decode cL_law 455 = .ok (.iconst 0, 1) := by decide +kernel
theorem dL_law_456 : decode cL_law 456 = .ok (.ireturn, 1) := by decide +kernel
theorem dL_law_457 : decode cL_law 457 = .ok (.iinc 3 4, 3) := by decide +kernel
theorem dL_law_460 : decode cL_law 460 = .ok (.goto (-432), 3) := by decide +kernel
theorem dL_law_463 : decode cL_law 463 = .ok (.iconst 1, 1) := by decide +kernel
theorem dL_law_464 : decode cL_law 464 = .ok (.ireturn, 1) := by decide +kernel
end
section
set_option maxRecDepth 100000
theorem dX2_init_0 : decode cX2_init 0 = .ok (.aload_n 0, 1) := by decide +kernel
theorem dX2_init_1 : decode cX2_init 1 = .ok (.invokespecial 1, 3) := by decide +kernel
theorem dX2_init_4 : decode cX2_init 4 = .ok (.aload_n 0, 1) := by decide +kernel
theorem dX2_init_5 : decode cX2_init 5 = .ok (.iconst 5, 1) := by decide +kernel
theorem dX2_init_6 : decode cX2_init 6 = .ok (.newarray .boolean, 2) := by decide +kernel
theorem dX2_init_8 : decode cX2_init 8 = .ok (.putfield 7, 3) := by decide +kernel
theorem dX2_init_11 : decode cX2_init 11 = .ok (.aload_n 0, 1) := by decide +kernel
theorem dX2_init_12 : decode cX2_init 12 = .ok (.iconst 4, 1) := by decide +kernel
theorem dX2_init_13 : decode cX2_init 13 = .ok (.newarray .boolean, 2) := by decide +kernel
theorem dX2_init_15 : decode cX2_init 15 = .ok (.putfield 13, 3) := by decide +kernel
theorem dX2_init_18 : decode cX2_init 18 = .ok (.aload_n 0, 1) := by decide +kernel
theorem dX2_init_19 : decode cX2_init 19 = .ok (.iconst 4, 1) := by decide +kernel
theorem dX2_init_20 : decode cX2_init 20 = .ok (.newarray .int, 2) := by decide +kernel
theorem dX2_init_22 : decode cX2_init 22 = .ok (.putfield 16, 3) := by decide +kernel
theorem dX2_init_25 : decode cX2_init 25 = .ok (.aload_n 0, 1) := by decide +kernel
theorem dX2_init_26 : decode cX2_init 26 = .ok (.bipush 24, 2) := by decide +kernel
theorem dX2_init_28 : decode cX2_init 28 = .ok (.newarray .int, 2) := by decide +kernel
theorem dX2_init_30 : decode cX2_init 30 = .ok (.putfield 20, 3) := by decide +kernel
theorem dX2_init_33 : decode cX2_init 33 = .ok (.aload_n 0, 1) := by decide +kernel
theorem dX2_init_34 : decode cX2_init 34 = .ok (.bipush 20, 2) := by decide +kernel
theorem dX2_init_36 : decode cX2_init 36 = .ok (.newarray .boolean, 2) := by decide +kernel
theorem dX2_init_38 : decode cX2_init 38 = .ok (.putfield 23, 3) := by decide +kernel
theorem dX2_init_41 : decode cX2_init 41 = .ok (.aload_n 0, 1) := by decide +kernel
theorem dX2_init_42 : decode cX2_init 42 = .ok (.iload_n 1, 1) := by decide +kernel
theorem dX2_init_43 : decode cX2_init 43 = .ok (.iconst 1, 1) := by decide +kernel
theorem dX2_init_44 : decode cX2_init 44 = .ok (.if_icmp .ge 7, 3) := by decide +kernel
theorem dX2_init_47 : decode cX2_init 47 = .ok (.iconst 1, 1) := by decide +kernel
theorem dX2_init_48 : decode cX2_init 48 = .ok (.goto 13, 3) := by decide +kernel
theorem dX2_init_51 : decode cX2_init 51 = .ok (.iload_n 1, 1) := by decide +kernel
theorem dX2_init_52 : decode cX2_init 52 = .ok (.iconst 3, 1) := by decide +kernel
theorem dX2_init_53 : decode cX2_init 53 = .ok (.if_icmp .le 7, 3) := by decide +kernel
theorem dX2_init_56 : decode cX2_init 56 = .ok (.iconst 3, 1) := by decide +kernel
theorem dX2_init_57 : decode cX2_init 57 = .ok (.goto 4, 3) := by decide +kernel
theorem dX2_init_60 : decode cX2_init 60 = .ok (.iload_n 1, 1) := by decide +kernel
theorem dX2_init_61 : decode cX2_init 61 = .ok (.putfield 26, 3) := by decide +kernel
theorem dX2_init_64 : decode cX2_init 64 = .ok (.return_, 1) := by decide +kernel
theorem dX2_create_0 : decode cX2_create 0 = .ok (.aload_n 0, 1) := by decide +kernel
theorem dX2_create_1 : decode cX2_create 1 = .ok (.iload_n 1, 1) := by decide +kernel
theorem dX2_create_2 : decode cX2_create 2 = .ok (.invokevirtual 41, 3) := by decide +kernel
theorem dX2_create_5 : decode cX2_create 5 = .ok (.ifCond .ne 5, 3) := by decide +kernel
theorem dX2_create_8 : decode cX2_create 8 = .ok (.iconst (-1), 1) := by decide +kernel
theorem dX2_create_9 : decode cX2_create 9 = .ok (.ireturn, 1) := by decide +kernel
theorem dX2_create_10 : decode cX2_create 10 = .ok (.aload_n 0, 1) := by decide +kernel
theorem dX2_create_11 : decode cX2_create 11 = .ok (.getfield 13, 3) := by decide +kernel
theorem dX2_create_14 : decode cX2_create 14 = .ok (.iload_n 1, 1) := by decide +kernel
theorem dX2_create_15 : decode cX2_create 15 = .ok (.baload, 1) := by decide +kernel
theorem dX2_create_16 : decode cX2_create 16 = .ok (.ifCond .eq 6, 3) := by decide +kernel
theorem dX2_create_19 : decode cX2_create 19 = .ok (.bipush (-2), 2) := by decide +kernel
theorem dX2_create_21 : decode cX2_create 21 = .ok (.ireturn, 1) := by decide +kernel
theorem dX2_create_22 : decode cX2_create 22 = .ok (.iconst 0, 1) := by decide +kernel
theorem dX2_create_23 : decode cX2_create 23 = .ok (.istore_n 2, 1) := by decide +kernel
theorem dX2_create_24 : decode cX2_create 24 = .ok (.iload_n 2, 1) := by decide +kernel
theorem dX2_create_25 : decode cX2_create 25 = .ok (.iconst 5, 1) := by decide +kernel
theorem dX2_create_26 : decode cX2_create 26 = .ok (.if_icmp .ge 20, 3) := by decide +kernel
theorem dX2_create_29 : decode cX2_create 29 = .ok (.aload_n 0, 1) := by decide +kernel
theorem dX2_create_30 : decode cX2_create 30 = .ok (.getfield 23, 3) := by decide +kernel
theorem dX2_create_33 : decode cX2_create 33 = .ok (.iload_n 1, 1) := by decide +kernel
theorem dX2_create_34 : decode cX2_create 34 = .ok (.iconst 5, 1) := by decide +kernel
theorem dX2_create_35 : decode cX2_create 35 = .ok (.imul, 1) := by decide +kernel
theorem dX2_create_36 : decode cX2_create 36 = .ok (.iload_n 2, 1) := by decide +kernel
theorem dX2_create_37 : decode cX2_create 37 = .ok (.iadd, 1) := by decide +kernel
theorem dX2_create_38 : decode cX2_create 38 = .ok (.iconst 0, 1) := by decide +kernel
theorem dX2_create_39 : decode cX2_create 39 = .ok (.bastore, 1) := by decide +kernel
theorem dX2_create_40 : decode cX2_create 40 = .ok (.iinc 2 1, 3) := by decide +kernel
theorem dX2_create_43 : decode cX2_create 43 = .ok (.goto (-19), 3) := by decide +kernel
theorem dX2_create_46 : decode cX2_create 46 = .ok (.aload_n 0, 1) := by decide +kernel
theorem dX2_create_47 : decode cX2_create 47 = .ok (.iload_n 1, 1) := by decide +kernel
theorem dX2_create_48 : decode cX2_create 48 = .ok (.invokevirtual 34, 3) := by decide +kernel
theorem dX2_create_51 : decode cX2_create 51 = .ok (.ifCond .ge 6, 3) := by decide +kernel
theorem dX2_create_54 : decode cX2_create 54 = .ok (.bipush (-4), 2) := by decide +kernel
theorem dX2_create_56 : decode cX2_create 56 = .ok (.ireturn, 1) := by decide +kernel
theorem dX2_create_57 : decode cX2_create 57 = .ok (.aload_n 0, 1) := by decide +kernel
theorem dX2_create_58 : decode cX2_create 58 = .ok (.getfield 13, 3) := by decide +kernel
theorem dX2_create_61 : decode cX2_create 61 = .ok (.iload_n 1, 1) := by decide +kernel
theorem dX2_create_62 : decode cX2_create 62 = .ok (.iconst 1, 1) := by decide +kernel
theorem dX2_create_63 : decode cX2_create 63 = .ok (.bastore, 1) := by decide +kernel
theorem dX2_create_64 : decode cX2_create 64 = .ok (.aload_n 0, 1) := by decide +kernel
theorem dX2_create_65 : decode cX2_create 65 = .ok (.getfield 16, 3) := by decide +kernel
theorem dX2_create_68 : decode cX2_create 68 = .ok (.iload_n 1, 1) := by decide +kernel
theorem dX2_create_69 : decode cX2_create 69 = .ok (.iconst 0, 1) := by decide +kernel
theorem dX2_create_70 : decode cX2_create 70 = .ok (.iastore, 1) := by decide +kernel
theorem dX2_create_71 : decode cX2_create 71 = .ok (.iconst 0, 1) := by decide +kernel
theorem dX2_create_72 : decode cX2_create 72 = .ok (.istore_n 2, 1) := by decide +kernel
theorem dX2_create_73 : decode cX2_create 73 = .ok (.iload_n 2, 1) := by decide +kernel
theorem dX2_create_74 : decode cX2_create 74 = .ok (.bipush 6, 2) := by decide +kernel
theorem dX2_create_76 : decode cX2_create 76 = .ok (.if_icmp .ge 21, 3) := by decide +kernel
theorem dX2_create_79 : decode cX2_create 79 = .ok (.aload_n 0, 1) := by decide +kernel
theorem dX2_create_80 : decode cX2_create 80 = .ok (.getfield 20, 3) := by decide +kernel
theorem dX2_create_83 : decode cX2_create 83 = .ok (.iload_n 1, 1) := by decide +kernel
theorem dX2_create_84 : decode cX2_create 84 = .ok (.bipush 6, 2) := by decide +kernel
theorem dX2_create_86 : decode cX2_create 86 = .ok (.imul, 1) := by decide +kernel
theorem dX2_create_87 : decode cX2_create 87 = .ok (.iload_n 2, 1) := by decide +kernel
theorem dX2_create_88 : decode cX2_create 88 = .ok (.iadd, 1) := by decide +kernel
theorem dX2_create_89 : decode cX2_create 89 = .ok (.iconst 0, 1) := by decide +kernel
theorem dX2_create_90 : decode cX2_create 90 = .ok (.iastore, 1) := by decide +kernel
theorem dX2_create_91 : decode cX2_create 91 = .ok (.iinc 2 1, 3) := by decide +kernel
theorem dX2_create_94 : decode cX2_create 94 = .ok (.goto (-21), 3) := by decide +kernel
theorem dX2_create_97 : decode cX2_create 97 = .ok (.aload_n 0, 1) := by decide +kernel
theorem dX2_create_98 : decode cX2_create 98 = .ok (.iload_n 1, 1) := by decide +kernel
theorem dX2_create_99 : decode cX2_create 99 = .ok (.invokevirtual 45, 3) := by decide +kernel
theorem dX2_create_102 : decode cX2_create 102 = .ok (.ireturn, 1) := by decide +kernel
theorem dX2_isFile_0 : decode cX2_isFile 0 = .ok (.iload_n 1, 1) := by decide +kernel
theorem dX2_isFile_1 : decode cX2_isFile 1 = .ok (.ifCond .lt 12, 3) := by decide +kernel
theorem dX2_isFile_4 : decode cX2_isFile 4 = .ok (.iload_n 1, 1) := by decide +kernel
theorem dX2_isFile_5 : decode cX2_isFile 5 = .ok (.iconst 4, 1) := by decide +kernel
theorem dX2_isFile_6 : decode cX2_isFile 6 = .ok (.if_icmp .ge 7, 3) := by decide +kernel
theorem dX2_isFile_9 : decode cX2_isFile 9 = .ok (.iconst 1, 1) := by decide +kernel
theorem dX2_isFile_10 : decode cX2_isFile 10 = .ok (.goto 4, 3) := by decide +kernel
theorem dX2_isFile_13 : decode cX2_isFile 13 = .ok (.iconst 0, 1) := by decide +kernel
theorem dX2_isFile_14 : decode cX2_isFile 14 = .ok (.ireturn, 1) := by decide +kernel
theorem dX2_nextServer_0 : decode cX2_nextServer 0 = .ok (.iconst (-1), 1) := by decide +kernel
theorem dX2_nextServer_1 : decode cX2_nextServer 1 = .ok (.istore_n 2, 1) := by decide +kernel
theorem dX2_nextServer_2 : decode cX2_nextServer 2 = .ok (.iconst 0, 1) := by decide +kernel
theorem dX2_nextServer_3 : decode cX2_nextServer 3 = .ok (.istore_n 3, 1) := by decide +kernel
theorem dX2_nextServer_4 : decode cX2_nextServer 4 = .ok (.iload_n 3, 1) := by decide +kernel
theorem dX2_nextServer_5 : decode cX2_nextServer 5 = .ok (.iconst 5, 1) := by decide +kernel
theorem dX2_nextServer_6 : decode cX2_nextServer 6 = .ok (.if_icmp .ge 62, 3) := by decide +kernel
theorem dX2_nextServer_9 : decode cX2_nextServer 9 = .ok (.aload_n 0, 1) := by decide +kernel
theorem dX2_nextServer_10 : decode cX2_nextServer 10 = .ok (.getfield 7, 3) := by decide +kernel
theorem dX2_nextServer_13 : decode cX2_nextServer 13 = .ok (.iload_n 3, 1) := by decide +kernel
theorem dX2_nextServer_14 : decode cX2_nextServer 14 = .ok (.baload, 1) := by decide +kernel
theorem dX2_nextServer_15 : decode cX2_nextServer 15 = .ok (.ifCond .ne 20, 3) := by decide +kernel
theorem dX2_nextServer_18 : decode cX2_nextServer 18 = .ok (.aload_n 0, 1) := by decide +kernel
theorem dX2_nextServer_19 : decode cX2_nextServer 19 = .ok (.getfield 23, 3) := by decide +kernel
theorem dX2_nextServer_22 : decode cX2_nextServer 22 = .ok (.iload_n 1, 1) := by decide +kernel
theorem dX2_nextServer_23 : decode cX2_nextServer 23 = .ok (.iconst 5, 1) := by decide +kernel
theorem dX2_nextServer_24 : decode cX2_nextServer 24 = .ok (.imul, 1) := by decide +kernel
theorem dX2_nextServer_25 : decode cX2_nextServer 25 = .ok (.iload_n 3, 1) := by decide +kernel
theorem dX2_nextServer_26 : decode cX2_nextServer 26 = .ok (.iadd, 1) := by decide +kernel
theorem dX2_nextServer_27 : decode cX2_nextServer 27 = .ok (.baload, 1) := by decide +kernel
theorem dX2_nextServer_28 : decode cX2_nextServer 28 = .ok (.ifCond .ne 7, 3) := by decide +kernel
theorem dX2_nextServer_31 : decode cX2_nextServer 31 = .ok (.iconst 1, 1) := by decide +kernel
theorem dX2_nextServer_32 : decode cX2_nextServer 32 = .ok (.goto 4, 3) := by decide +kernel
theorem dX2_nextServer_35 : decode cX2_nextServer 35 = .ok (.iconst 0, 1) := by decide +kernel
theorem dX2_nextServer_36 : decode cX2_nextServer 36 = .ok (.istore 4, 2) := by decide +kernel
theorem dX2_nextServer_38 : decode cX2_nextServer 38 = .ok (.iload 4, 2) := by decide +kernel
theorem dX2_nextServer_40 : decode cX2_nextServer 40 = .ok (.ifCond .eq 22, 3) := by decide +kernel
theorem dX2_nextServer_43 : decode cX2_nextServer 43 = .ok (.iload_n 2, 1) := by decide +kernel
theorem dX2_nextServer_44 : decode cX2_nextServer 44 = .ok (.ifCond .lt 16, 3) := by decide +kernel
theorem dX2_nextServer_47 : decode cX2_nextServer 47 = .ok (.aload_n 0, 1) := by decide +kernel
theorem dX2_nextServer_48 : decode cX2_nextServer 48 = .ok (.iload_n 3, 1) := by decide +kernel
theorem dX2_nextServer_49 : decode cX2_nextServer 49 = .ok (.invokevirtual 30, 3) := by decide +kernel
theorem dX2_nextServer_52 : decode cX2_nextServer 52 = .ok (.aload_n 0, 1) := by decide +kernel
theorem dX2_nextServer_53 : decode cX2_nextServer 53 = .ok (.iload_n 2, 1) := by decide +kernel
theorem dX2_nextServer_54 : decode cX2_nextServer 54 = .ok (.invokevirtual 30, 3) := by decide +kernel
theorem dX2_nextServer_57 : decode cX2_nextServer 57 = .ok (.if_icmp .ge 5, 3) := by decide +kernel
theorem dX2_nextServer_60 : decode cX2_nextServer 60 = .ok (.iload_n 3, 1) := by decide +kernel
theorem dX2_nextServer_61 : decode cX2_nextServer 61 = .ok (.istore_n 2, 1) := by decide +kernel
theorem dX2_nextServer_62 : decode cX2_nextServer 62 = .ok (.iinc 3 1, 3) := by decide +kernel
theorem dX2_nextServer_65 : decode cX2_nextServer 65 = .ok (.goto (-61), 3) := by decide +kernel
theorem dX2_nextServer_68 : decode cX2_nextServer 68 = .ok (.iload_n 2, 1) := by decide +kernel
theorem dX2_nextServer_69 : decode cX2_nextServer 69 = .ok (.ireturn, 1) := by decide +kernel
theorem dX2_load_0 : decode cX2_load 0 = .ok (.iconst 0, 1) := by decide +kernel
theorem dX2_load_1 : decode cX2_load 1 = .ok (.istore_n 2, 1) := by decide +kernel
theorem dX2_load_2 : decode cX2_load 2 = .ok (.iconst 0, 1) := by decide +kernel
theorem dX2_load_3 : decode cX2_load 3 = .ok (.istore_n 3, 1) := by decide +kernel
theorem dX2_load_4 : decode cX2_load 4 = .ok (.iload_n 3, 1) := by decide +kernel
theorem dX2_load_5 : decode cX2_load 5 = .ok (.iconst 4, 1) := by decide +kernel
theorem dX2_load_6 : decode cX2_load 6 = .ok (.if_icmp .ge 25, 3) := by decide +kernel
theorem dX2_load_9 : decode cX2_load 9 = .ok (.aload_n 0, 1) := by decide +kernel
theorem dX2_load_10 : decode cX2_load 10 = .ok (.getfield 23, 3) := by decide +kernel
theorem dX2_load_13 : decode cX2_load 13 = .ok (.iload_n 3, 1) := by decide +kernel
theorem dX2_load_14 : decode cX2_load 14 = .ok (.iconst 5, 1) := by decide +kernel
theorem dX2_load_15 : decode cX2_load 15 = .ok (.imul, 1) := by decide +kernel
theorem dX2_load_16 : decode cX2_load 16 = .ok (.iload_n 1, 1) := by decide +kernel
theorem dX2_load_17 : decode cX2_load 17 = .ok (.iadd, 1) := by decide +kernel
theorem dX2_load_18 : decode cX2_load 18 = .ok (.baload, 1) := by decide +kernel
theorem dX2_load_19 : decode cX2_load 19 = .ok (.ifCond .eq 6, 3) := by decide +kernel
theorem dX2_load_22 : decode cX2_load 22 = .ok (.iinc 2 1, 3) := by decide +kernel
theorem dX2_load_25 : decode cX2_load 25 = .ok (.iinc 3 1, 3) := by decide +kernel
theorem dX2_load_28 : decode cX2_load 28 = .ok (.goto (-24), 3) := by decide +kernel
theorem dX2_load_31 : decode cX2_load 31 = .ok (.iload_n 2, 1) := by decide +kernel
theorem dX2_load_32 : decode cX2_load 32 = .ok (.ireturn, 1) := by decide +kernel
theorem dX2_fill_0 : decode cX2_fill 0 = .ok (.iconst 0, 1) := by decide +kernel
theorem dX2_fill_1 : decode cX2_fill 1 = .ok (.istore_n 2, 1) := by decide +kernel
theorem dX2_fill_2 : decode cX2_fill 2 = .ok (.iconst 0, 1) := by decide +kernel
theorem dX2_fill_3 : decode cX2_fill 3 = .ok (.istore_n 3, 1) := by decide +kernel
theorem dX2_fill_4 : decode cX2_fill 4 = .ok (.iload_n 3, 1) := by decide +kernel
theorem dX2_fill_5 : decode cX2_fill 5 = .ok (.iconst 5, 1) := by decide +kernel
theorem dX2_fill_6 : decode cX2_fill 6 = .ok (.if_icmp .ge 49, 3) := by decide +kernel
theorem dX2_fill_9 : decode cX2_fill 9 = .ok (.aload_n 0, 1) := by decide +kernel
theorem dX2_fill_10 : decode cX2_fill 10 = .ok (.iload_n 1, 1) := by decide +kernel
theorem dX2_fill_11 : decode cX2_fill 11 = .ok (.invokevirtual 34, 3) := by decide +kernel
theorem dX2_fill_14 : decode cX2_fill 14 = .ok (.istore 4, 2) := by decide +kernel
theorem dX2_fill_16 : decode cX2_fill 16 = .ok (.iload 4, 2) := by decide +kernel
theorem dX2_fill_18 : decode cX2_fill 18 = .ok (.ifCond .lt 31, 3) := by decide +kernel
theorem dX2_fill_21 : decode cX2_fill 21 = .ok (.aload_n 0, 1) := by decide +kernel
theorem dX2_fill_22 : decode cX2_fill 22 = .ok (.iload_n 1, 1) := by decide +kernel
theorem dX2_fill_23 : decode cX2_fill 23 = .ok (.iconst 1, 1) := by decide +kernel
theorem dX2_fill_24 : decode cX2_fill 24 = .ok (.invokevirtual 37, 3) := by decide +kernel
theorem dX2_fill_27 : decode cX2_fill 27 = .ok (.aload_n 0, 1) := by decide +kernel
theorem dX2_fill_28 : decode cX2_fill 28 = .ok (.getfield 26, 3) := by decide +kernel
theorem dX2_fill_31 : decode cX2_fill 31 = .ok (.if_icmp .ge 18, 3) := by decide +kernel
theorem dX2_fill_34 : decode cX2_fill 34 = .ok (.aload_n 0, 1) := by decide +kernel
theorem dX2_fill_35 : decode cX2_fill 35 = .ok (.getfield 23, 3) := by decide +kernel
theorem dX2_fill_38 : decode cX2_fill 38 = .ok (.iload_n 1, 1) := by decide +kernel
theorem dX2_fill_39 : decode cX2_fill 39 = .ok (.iconst 5, 1) := by decide +kernel
theorem dX2_fill_40 : decode cX2_fill 40 = .ok (.imul, 1) := by decide +kernel
theorem dX2_fill_41 : decode cX2_fill 41 = .ok (.iload 4, 2) := by decide +kernel
theorem dX2_fill_43 : decode cX2_fill 43 = .ok (.iadd, 1) := by decide +kernel
theorem dX2_fill_44 : decode cX2_fill 44 = .ok (.iconst 1, 1) := by decide +kernel
theorem dX2_fill_45 : decode cX2_fill 45 = .ok (.bastore, 1) := by decide +kernel
theorem dX2_fill_46 : decode cX2_fill 46 = .ok (.iinc 2 1, 3) := by decide +kernel
theorem dX2_fill_49 : decode cX2_fill 49 = .ok (.iinc 3 1, 3) := by decide +kernel
theorem dX2_fill_52 : decode cX2_fill 52 = .ok (.goto (-48), 3) := by decide +kernel
theorem dX2_fill_55 : decode cX2_fill 55 = .ok (.iload_n 2, 1) := by decide +kernel
theorem dX2_fill_56 : decode cX2_fill 56 = .ok (.ireturn, 1) := by decide +kernel
theorem dX2_holders_0 : decode cX2_holders 0 = .ok (.iconst 0, 1) := by decide +kernel
theorem dX2_holders_1 : decode cX2_holders 1 = .ok (.istore_n 3, 1) := by decide +kernel
theorem dX2_holders_2 : decode cX2_holders 2 = .ok (.iconst 0, 1) := by decide +kernel
theorem dX2_holders_3 : decode cX2_holders 3 = .ok (.istore 4, 2) := by decide +kernel
theorem dX2_holders_5 : decode cX2_holders 5 = .ok (.iload 4, 2) := by decide +kernel
theorem dX2_holders_7 : decode cX2_holders 7 = .ok (.iconst 5, 1) := by decide +kernel
theorem dX2_holders_8 : decode cX2_holders 8 = .ok (.if_icmp .ge 40, 3) := by decide +kernel
theorem dX2_holders_11 : decode cX2_holders 11 = .ok (.aload_n 0, 1) := by decide +kernel
theorem dX2_holders_12 : decode cX2_holders 12 = .ok (.getfield 23, 3) := by decide +kernel
theorem dX2_holders_15 : decode cX2_holders 15 = .ok (.iload_n 1, 1) := by decide +kernel
theorem dX2_holders_16 : decode cX2_holders 16 = .ok (.iconst 5, 1) := by decide +kernel
theorem dX2_holders_17 : decode cX2_holders 17 = .ok (.imul, 1) := by decide +kernel
theorem dX2_holders_18 : decode cX2_holders 18 = .ok (.iload 4, 2) := by decide +kernel
theorem dX2_holders_20 : decode cX2_holders 20 = .ok (.iadd, 1) := by decide +kernel
theorem dX2_holders_21 : decode cX2_holders 21 = .ok (.baload, 1) := by decide +kernel
theorem dX2_holders_22 : decode cX2_holders 22 = .ok (.ifCond .eq 20, 3) := by decide +kernel
theorem dX2_holders_25 : decode cX2_holders 25 = .ok (.iload_n 2, 1) := by decide +kernel
theorem dX2_holders_26 : decode cX2_holders 26 = .ok (.ifCond .eq 13, 3) := by decide +kernel
theorem dX2_holders_29 : decode cX2_holders 29 = .ok (.aload_n 0, 1) := by decide +kernel
theorem dX2_holders_30 : decode cX2_holders 30 = .ok (.getfield 7, 3) := by decide +kernel
theorem dX2_holders_33 : decode cX2_holders 33 = .ok (.iload 4, 2) := by decide +kernel
theorem dX2_holders_35 : decode cX2_holders 35 = .ok (.baload, 1) := by decide +kernel
theorem dX2_holders_36 : decode cX2_holders 36 = .ok (.ifCond .ne 6, 3) := by decide +kernel
theorem dX2_holders_39 : decode cX2_holders 39 = .ok (.iinc 3 1, 3) := by decide +kernel
theorem dX2_holders_42 : decode cX2_holders 42 = .ok (.iinc 4 1, 3) := by decide +kernel
theorem dX2_holders_45 : decode cX2_holders 45 = .ok (.goto (-40), 3) := by decide +kernel
theorem dX2_holders_48 : decode cX2_holders 48 = .ok (.iload_n 3, 1) := by decide +kernel
theorem dX2_holders_49 : decode cX2_holders 49 = .ok (.ireturn, 1) := by decide +kernel
theorem dX2_remove_0 : decode cX2_remove 0 = .ok (.aload_n 0, 1) := by decide +kernel
theorem dX2_remove_1 : decode cX2_remove 1 = .ok (.iload_n 1, 1) := by decide +kernel
theorem dX2_remove_2 : decode cX2_remove 2 = .ok (.invokevirtual 41, 3) := by decide +kernel
theorem dX2_remove_5 : decode cX2_remove 5 = .ok (.ifCond .ne 5, 3) := by decide +kernel
theorem dX2_remove_8 : decode cX2_remove 8 = .ok (.iconst (-1), 1) := by decide +kernel
theorem dX2_remove_9 : decode cX2_remove 9 = .ok (.ireturn, 1) := by decide +kernel
theorem dX2_remove_10 : decode cX2_remove 10 = .ok (.aload_n 0, 1) := by decide +kernel
theorem dX2_remove_11 : decode cX2_remove 11 = .ok (.getfield 13, 3) := by decide +kernel
theorem dX2_remove_14 : decode cX2_remove 14 = .ok (.iload_n 1, 1) := by decide +kernel
theorem dX2_remove_15 : decode cX2_remove 15 = .ok (.baload, 1) := by decide +kernel
theorem dX2_remove_16 : decode cX2_remove 16 = .ok (.ifCond .ne 6, 3) := by decide +kernel
theorem dX2_remove_19 : decode cX2_remove 19 = .ok (.bipush (-3), 2) := by decide +kernel
theorem dX2_remove_21 : decode cX2_remove 21 = .ok (.ireturn, 1) := by decide +kernel
theorem dX2_remove_22 : decode cX2_remove 22 = .ok (.aload_n 0, 1) := by decide +kernel
theorem dX2_remove_23 : decode cX2_remove 23 = .ok (.getfield 13, 3) := by decide +kernel
theorem dX2_remove_26 : decode cX2_remove 26 = .ok (.iload_n 1, 1) := by decide +kernel
theorem dX2_remove_27 : decode cX2_remove 27 = .ok (.iconst 0, 1) := by decide +kernel
theorem dX2_remove_28 : decode cX2_remove 28 = .ok (.bastore, 1) := by decide +kernel
theorem dX2_remove_29 : decode cX2_remove 29 = .ok (.iconst 0, 1) := by decide +kernel
theorem dX2_remove_30 : decode cX2_remove 30 = .ok (.istore_n 2, 1) := by decide +kernel
theorem dX2_remove_31 : decode cX2_remove 31 = .ok (.iload_n 2, 1) := by decide +kernel
theorem dX2_remove_32 : decode cX2_remove 32 = .ok (.iconst 5, 1) := by decide +kernel
theorem dX2_remove_33 : decode cX2_remove 33 = .ok (.if_icmp .ge 20, 3) := by decide +kernel
theorem dX2_remove_36 : decode cX2_remove 36 = .ok (.aload_n 0, 1) := by decide +kernel
theorem dX2_remove_37 : decode cX2_remove 37 = .ok (.getfield 23, 3) := by decide +kernel
theorem dX2_remove_40 : decode cX2_remove 40 = .ok (.iload_n 1, 1) := by decide +kernel
theorem dX2_remove_41 : decode cX2_remove 41 = .ok (.iconst 5, 1) := by decide +kernel
theorem dX2_remove_42 : decode cX2_remove 42 = .ok (.imul, 1) := by decide +kernel
theorem dX2_remove_43 : decode cX2_remove 43 = .ok (.iload_n 2, 1) := by decide +kernel
theorem dX2_remove_44 : decode cX2_remove 44 = .ok (.iadd, 1) := by decide +kernel
theorem dX2_remove_45 : decode cX2_remove 45 = .ok (.iconst 0, 1) := by decide +kernel
theorem dX2_remove_46 : decode cX2_remove 46 = .ok (.bastore, 1) := by decide +kernel
theorem dX2_remove_47 : decode cX2_remove 47 = .ok (.iinc 2 1, 3) := by decide +kernel
theorem dX2_remove_50 : decode cX2_remove 50 = .ok (.goto (-19), 3) := by decide +kernel
theorem dX2_remove_53 : decode cX2_remove 53 = .ok (.iconst 0, 1) := by decide +kernel
theorem dX2_remove_54 : decode cX2_remove 54 = .ok (.ireturn, 1) := by decide +kernel
theorem dX2_write_0 : decode cX2_write 0 = .ok (.aload_n 0, 1) := by decide +kernel
theorem dX2_write_1 : decode cX2_write 1 = .ok (.iload_n 1, 1) := by decide +kernel
theorem dX2_write_2 : decode cX2_write 2 = .ok (.invokevirtual 48, 3) := by decide +kernel
theorem dX2_write_5 : decode cX2_write 5 = .ok (.istore 4, 2) := by decide +kernel
theorem dX2_write_7 : decode cX2_write 7 = .ok (.iload 4, 2) := by decide +kernel
theorem dX2_write_9 : decode cX2_write 9 = .ok (.ifCond .ge 6, 3) := by decide +kernel
theorem dX2_write_12 : decode cX2_write 12 = .ok (.iload 4, 2) := by decide +kernel
theorem dX2_write_14 : decode cX2_write 14 = .ok (.ireturn, 1) := by decide +kernel
theorem dX2_write_15 : decode cX2_write 15 = .ok (.iload_n 2, 1) := by decide +kernel
theorem dX2_write_16 : decode cX2_write 16 = .ok (.ifCond .lt 8, 3) := by decide +kernel
theorem dX2_write_19 : decode cX2_write 19 = .ok (.iload_n 2, 1) := by decide +kernel
theorem dX2_write_20 : decode cX2_write 20 = .ok (.iconst 5, 1) := by decide +kernel
theorem dX2_write_21 : decode cX2_write 21 = .ok (.if_icmp .le 6, 3) := by decide +kernel
theorem dX2_write_24 : decode cX2_write 24 = .ok (.bipush (-6), 2) := by decide +kernel
theorem dX2_write_26 : decode cX2_write 26 = .ok (.ireturn, 1) := by decide +kernel
theorem dX2_write_27 : decode cX2_write 27 = .ok (.aload_n 0, 1) := by decide +kernel
theorem dX2_write_28 : decode cX2_write 28 = .ok (.getfield 20, 3) := by decide +kernel
theorem dX2_write_31 : decode cX2_write 31 = .ok (.iload_n 1, 1) := by decide +kernel
theorem dX2_write_32 : decode cX2_write 32 = .ok (.bipush 6, 2) := by decide +kernel
theorem dX2_write_34 : decode cX2_write 34 = .ok (.imul, 1) := by decide +kernel
theorem dX2_write_35 : decode cX2_write 35 = .ok (.iload_n 2, 1) := by decide +kernel
theorem dX2_write_36 : decode cX2_write 36 = .ok (.iadd, 1) := by decide +kernel
theorem dX2_write_37 : decode cX2_write 37 = .ok (.iload_n 3, 1) := by decide +kernel
theorem dX2_write_38 : decode cX2_write 38 = .ok (.iastore, 1) := by decide +kernel
theorem dX2_write_39 : decode cX2_write 39 = .ok (.aload_n 0, 1) := by decide +kernel
theorem dX2_write_40 : decode cX2_write 40 = .ok (.getfield 16, 3) := by decide +kernel
theorem dX2_write_43 : decode cX2_write 43 = .ok (.iload_n 1, 1) := by decide +kernel
theorem dX2_write_44 : decode cX2_write 44 = .ok (.iaload, 1) := by decide +kernel
theorem dX2_write_45 : decode cX2_write 45 = .ok (.iload_n 2, 1) := by decide +kernel
theorem dX2_write_46 : decode cX2_write 46 = .ok (.iconst 1, 1) := by decide +kernel
theorem dX2_write_47 : decode cX2_write 47 = .ok (.iadd, 1) := by decide +kernel
theorem dX2_write_48 : decode cX2_write 48 = .ok (.if_icmp .ge 12, 3) := by decide +kernel
theorem dX2_write_51 : decode cX2_write 51 = .ok (.aload_n 0, 1) := by decide +kernel
theorem dX2_write_52 : decode cX2_write 52 = .ok (.getfield 16, 3) := by decide +kernel
theorem dX2_write_55 : decode cX2_write 55 = .ok (.iload_n 1, 1) := by decide +kernel
theorem dX2_write_56 : decode cX2_write 56 = .ok (.iload_n 2, 1) := by decide +kernel
theorem dX2_write_57 : decode cX2_write 57 = .ok (.iconst 1, 1) := by decide +kernel
theorem dX2_write_58 : decode cX2_write 58 = .ok (.iadd, 1) := by decide +kernel
theorem dX2_write_59 : decode cX2_write 59 = .ok (.iastore, 1) := by decide +kernel
theorem dX2_write_60 : decode cX2_write 60 = .ok (.iconst 0, 1) := by decide +kernel
theorem dX2_write_61 : decode cX2_write 61 = .ok (.istore 5, 2) := by decide +kernel
theorem dX2_write_63 : decode cX2_write 63 = .ok (.iload 5, 2) := by decide +kernel
theorem dX2_write_65 : decode cX2_write 65 = .ok (.iconst 5, 1) := by decide +kernel
theorem dX2_write_66 : decode cX2_write 66 = .ok (.if_icmp .ge 31, 3) := by decide +kernel
theorem dX2_write_69 : decode cX2_write 69 = .ok (.aload_n 0, 1) := by decide +kernel
theorem dX2_write_70 : decode cX2_write 70 = .ok (.getfield 7, 3) := by decide +kernel
theorem dX2_write_73 : decode cX2_write 73 = .ok (.iload 5, 2) := by decide +kernel
theorem dX2_write_75 : decode cX2_write 75 = .ok (.baload, 1) := by decide +kernel
theorem dX2_write_76 : decode cX2_write 76 = .ok (.ifCond .eq 15, 3) := by decide +kernel
theorem dX2_write_79 : decode cX2_write 79 = .ok (.aload_n 0, 1) := by decide +kernel
theorem dX2_write_80 : decode cX2_write 80 = .ok (.getfield 23, 3) := by decide +kernel
theorem dX2_write_83 : decode cX2_write 83 = .ok (.iload_n 1, 1) := by decide +kernel
theorem dX2_write_84 : decode cX2_write 84 = .ok (.iconst 5, 1) := by decide +kernel
theorem dX2_write_85 : decode cX2_write 85 = .ok (.imul, 1) := by decide +kernel
theorem dX2_write_86 : decode cX2_write 86 = .ok (.iload 5, 2) := by decide +kernel
theorem dX2_write_88 : decode cX2_write 88 = .ok (.iadd, 1) := by decide +kernel
theorem dX2_write_89 : decode cX2_write 89 = .ok (.iconst 0, 1) := by decide +kernel
theorem dX2_write_90 : decode cX2_write 90 = .ok (.bastore, 1) := by decide +kernel
theorem dX2_write_91 : decode cX2_write 91 = .ok (.iinc 5 1, 3) := by decide +kernel
theorem dX2_write_94 : decode cX2_write 94 = .ok (.goto (-31), 3) := by decide +kernel
theorem dX2_write_97 : decode cX2_write 97 = .ok (.aload_n 0, 1) := by decide +kernel
theorem dX2_write_98 : decode cX2_write 98 = .ok (.iload_n 1, 1) := by decide +kernel
theorem dX2_write_99 : decode cX2_write 99 = .ok (.iconst 0, 1) := by decide +kernel
theorem dX2_write_100 : decode cX2_write 100 = .ok (.invokevirtual 37, 3) := by decide +kernel
theorem dX2_write_103 : decode cX2_write 103 = .ok (.ireturn, 1) := by decide +kernel
theorem dX2_refusal_0 : decode cX2_refusal 0 = .ok (.aload_n 0, 1) := by decide +kernel
theorem dX2_refusal_1 : decode cX2_refusal 1 = .ok (.iload_n 1, 1) := by decide +kernel
theorem dX2_refusal_2 : decode cX2_refusal 2 = .ok (.invokevirtual 41, 3) := by decide +kernel
theorem dX2_refusal_5 : decode cX2_refusal 5 = .ok (.ifCond .ne 5, 3) := by decide +kernel
theorem dX2_refusal_8 : decode cX2_refusal 8 = .ok (.iconst (-1), 1) := by decide +kernel
theorem dX2_refusal_9 : decode cX2_refusal 9 = .ok (.ireturn, 1) := by decide +kernel
theorem dX2_refusal_10 : decode cX2_refusal 10 = .ok (.aload_n 0, 1) := by decide +kernel
theorem dX2_refusal_11 : decode cX2_refusal 11 = .ok (.getfield 13, 3) := by decide +kernel
theorem dX2_refusal_14 : decode cX2_refusal 14 = .ok (.iload_n 1, 1) := by decide +kernel
theorem dX2_refusal_15 : decode cX2_refusal 15 = .ok (.baload, 1) := by decide +kernel
theorem dX2_refusal_16 : decode cX2_refusal 16 = .ok (.ifCond .ne 6, 3) := by decide +kernel
theorem dX2_refusal_19 : decode cX2_refusal 19 = .ok (.bipush (-3), 2) := by decide +kernel
theorem dX2_refusal_21 : decode cX2_refusal 21 = .ok (.ireturn, 1) := by decide +kernel
theorem dX2_refusal_22 : decode cX2_refusal 22 = .ok (.aload_n 0, 1) := by decide +kernel
theorem dX2_refusal_23 : decode cX2_refusal 23 = .ok (.iload_n 1, 1) := by decide +kernel
theorem dX2_refusal_24 : decode cX2_refusal 24 = .ok (.iconst 1, 1) := by decide +kernel
theorem dX2_refusal_25 : decode cX2_refusal 25 = .ok (.invokevirtual 37, 3) := by decide +kernel
theorem dX2_refusal_28 : decode cX2_refusal 28 = .ok (.ifCond .ne 8, 3) := by decide +kernel
theorem dX2_refusal_31 : decode cX2_refusal 31 = .ok (.bipush (-5), 2) := by decide +kernel
theorem dX2_refusal_33 : decode cX2_refusal 33 = .ok (.goto 4, 3) := by decide +kernel
theorem dX2_refusal_36 : decode cX2_refusal 36 = .ok (.iconst 0, 1) := by decide +kernel
theorem dX2_refusal_37 : decode cX2_refusal 37 = .ok (.ireturn, 1) := by decide +kernel
theorem dX2_append_0 : decode cX2_append 0 = .ok (.aload_n 0, 1) := by decide +kernel
theorem dX2_append_1 : decode cX2_append 1 = .ok (.iload_n 1, 1) := by decide +kernel
theorem dX2_append_2 : decode cX2_append 2 = .ok (.invokevirtual 48, 3) := by decide +kernel
theorem dX2_append_5 : decode cX2_append 5 = .ok (.istore_n 3, 1) := by decide +kernel
theorem dX2_append_6 : decode cX2_append 6 = .ok (.iload_n 3, 1) := by decide +kernel
theorem dX2_append_7 : decode cX2_append 7 = .ok (.ifCond .ge 5, 3) := by decide +kernel
theorem dX2_append_10 : decode cX2_append 10 = .ok (.iload_n 3, 1) := by decide +kernel
theorem dX2_append_11 : decode cX2_append 11 = .ok (.ireturn, 1) := by decide +kernel
theorem dX2_append_12 : decode cX2_append 12 = .ok (.aload_n 0, 1) := by decide +kernel
theorem dX2_append_13 : decode cX2_append 13 = .ok (.getfield 16, 3) := by decide +kernel
theorem dX2_append_16 : decode cX2_append 16 = .ok (.iload_n 1, 1) := by decide +kernel
theorem dX2_append_17 : decode cX2_append 17 = .ok (.iaload, 1) := by decide +kernel
theorem dX2_append_18 : decode cX2_append 18 = .ok (.istore 4, 2) := by decide +kernel
theorem dX2_append_20 : decode cX2_append 20 = .ok (.iload 4, 2) := by decide +kernel
theorem dX2_append_22 : decode cX2_append 22 = .ok (.bipush 6, 2) := by decide +kernel
theorem dX2_append_24 : decode cX2_append 24 = .ok (.if_icmp .ne 6, 3) := by decide +kernel
theorem dX2_append_27 : decode cX2_append 27 = .ok (.bipush (-7), 2) := by decide +kernel
theorem dX2_append_29 : decode cX2_append 29 = .ok (.ireturn, 1) := by decide +kernel
theorem dX2_append_30 : decode cX2_append 30 = .ok (.aload_n 0, 1) := by decide +kernel
theorem dX2_append_31 : decode cX2_append 31 = .ok (.iload_n 1, 1) := by decide +kernel
theorem dX2_append_32 : decode cX2_append 32 = .ok (.iload 4, 2) := by decide +kernel
theorem dX2_append_34 : decode cX2_append 34 = .ok (.iload_n 2, 1) := by decide +kernel
theorem dX2_append_35 : decode cX2_append 35 = .ok (.invokevirtual 51, 3) := by decide +kernel
theorem dX2_append_38 : decode cX2_append 38 = .ok (.pop, 1) := by decide +kernel
theorem dX2_append_39 : decode cX2_append 39 = .ok (.iload 4, 2) := by decide +kernel
theorem dX2_append_41 : decode cX2_append 41 = .ok (.ireturn, 1) := by decide +kernel
theorem dX2_snapshot_0 : decode cX2_snapshot 0 = .ok (.aload_n 0, 1) := by decide +kernel
theorem dX2_snapshot_1 : decode cX2_snapshot 1 = .ok (.iload_n 1, 1) := by decide +kernel
theorem dX2_snapshot_2 : decode cX2_snapshot 2 = .ok (.invokevirtual 41, 3) := by decide +kernel
theorem dX2_snapshot_5 : decode cX2_snapshot 5 = .ok (.ifCond .eq 11, 3) := by decide +kernel
theorem dX2_snapshot_8 : decode cX2_snapshot 8 = .ok (.aload_n 0, 1) := by decide +kernel
theorem dX2_snapshot_9 : decode cX2_snapshot 9 = .ok (.iload_n 2, 1) := by decide +kernel
theorem dX2_snapshot_10 : decode cX2_snapshot 10 = .ok (.invokevirtual 41, 3) := by decide +kernel
theorem dX2_snapshot_13 : decode cX2_snapshot 13 = .ok (.ifCond .ne 5, 3) := by decide +kernel
theorem dX2_snapshot_16 : decode cX2_snapshot 16 = .ok (.iconst (-1), 1) := by decide +kernel
theorem dX2_snapshot_17 : decode cX2_snapshot 17 = .ok (.ireturn, 1) := by decide +kernel
theorem dX2_snapshot_18 : decode cX2_snapshot 18 = .ok (.aload_n 0, 1) := by decide +kernel
theorem dX2_snapshot_19 : decode cX2_snapshot 19 = .ok (.getfield 13, 3) := by decide +kernel
theorem dX2_snapshot_22 : decode cX2_snapshot 22 = .ok (.iload_n 1, 1) := by decide +kernel
theorem dX2_snapshot_23 : decode cX2_snapshot 23 = .ok (.baload, 1) := by decide +kernel
theorem dX2_snapshot_24 : decode cX2_snapshot 24 = .ok (.ifCond .ne 6, 3) := by decide +kernel
theorem dX2_snapshot_27 : decode cX2_snapshot 27 = .ok (.bipush (-3), 2) := by decide +kernel
theorem dX2_snapshot_29 : decode cX2_snapshot 29 = .ok (.ireturn, 1) := by decide +kernel
theorem dX2_snapshot_30 : decode cX2_snapshot 30 = .ok (.aload_n 0, 1) := by decide +kernel
theorem dX2_snapshot_31 : decode cX2_snapshot 31 = .ok (.getfield 13, 3) := by decide +kernel
theorem dX2_snapshot_34 : decode cX2_snapshot 34 = .ok (.iload_n 2, 1) := by decide +kernel
theorem dX2_snapshot_35 : decode cX2_snapshot 35 = .ok (.baload, 1) := by decide +kernel
theorem dX2_snapshot_36 : decode cX2_snapshot 36 = .ok (.ifCond .eq 6, 3) := by decide +kernel
theorem dX2_snapshot_39 : decode cX2_snapshot 39 = .ok (.bipush (-2), 2) := by decide +kernel
theorem dX2_snapshot_41 : decode cX2_snapshot 41 = .ok (.ireturn, 1) := by decide +kernel
theorem dX2_snapshot_42 : decode cX2_snapshot 42 = .ok (.aload_n 0, 1) := by decide +kernel
theorem dX2_snapshot_43 : decode cX2_snapshot 43 = .ok (.iload_n 1, 1) := by decide +kernel
theorem dX2_snapshot_44 : decode cX2_snapshot 44 = .ok (.invokevirtual 48, 3) := by decide +kernel
theorem dX2_snapshot_47 : decode cX2_snapshot 47 = .ok (.ifCond .ge 6, 3) := by decide +kernel
theorem dX2_snapshot_50 : decode cX2_snapshot 50 = .ok (.bipush (-5), 2) := by decide +kernel
theorem dX2_snapshot_52 : decode cX2_snapshot 52 = .ok (.ireturn, 1) := by decide +kernel
theorem dX2_snapshot_53 : decode cX2_snapshot 53 = .ok (.aload_n 0, 1) := by decide +kernel
theorem dX2_snapshot_54 : decode cX2_snapshot 54 = .ok (.getfield 13, 3) := by decide +kernel
theorem dX2_snapshot_57 : decode cX2_snapshot 57 = .ok (.iload_n 2, 1) := by decide +kernel
theorem dX2_snapshot_58 : decode cX2_snapshot 58 = .ok (.iconst 1, 1) := by decide +kernel
theorem dX2_snapshot_59 : decode cX2_snapshot 59 = .ok (.bastore, 1) := by decide +kernel
theorem dX2_snapshot_60 : decode cX2_snapshot 60 = .ok (.aload_n 0, 1) := by decide +kernel
end
section
set_option maxRecDepth 100000
theorem dX2_snapshot_61 : decode cX2_snapshot 61 = .ok (.getfield 16, 3) := by decide +kernel
theorem dX2_snapshot_64 : decode cX2_snapshot 64 = .ok (.iload_n 2, 1) := by decide +kernel
theorem dX2_snapshot_65 : decode cX2_snapshot 65 = .ok (.aload_n 0, 1) := by decide +kernel
theorem dX2_snapshot_66 : decode cX2_snapshot 66 = .ok (.getfield 16, 3) := by decide +kernel
theorem dX2_snapshot_69 : decode cX2_snapshot 69 = .ok (.iload_n 1, 1) := by decide +kernel
theorem dX2_snapshot_70 : decode cX2_snapshot 70 = .ok (.iaload, 1) := by decide +kernel
theorem dX2_snapshot_71 : decode cX2_snapshot 71 = .ok (.iastore, 1) := by decide +kernel
theorem dX2_snapshot_72 : decode cX2_snapshot 72 = .ok (.iconst 0, 1) := by decide +kernel
theorem dX2_snapshot_73 : decode cX2_snapshot 73 = .ok (.istore_n 3, 1) := by decide +kernel
theorem dX2_snapshot_74 : decode cX2_snapshot 74 = .ok (.iload_n 3, 1) := by decide +kernel
theorem dX2_snapshot_75 : decode cX2_snapshot 75 = .ok (.bipush 6, 2) := by decide +kernel
theorem dX2_snapshot_77 : decode cX2_snapshot 77 = .ok (.if_icmp .ge 31, 3) := by decide +kernel
theorem dX2_snapshot_80 : decode cX2_snapshot 80 = .ok (.aload_n 0, 1) := by decide +kernel
theorem dX2_snapshot_81 : decode cX2_snapshot 81 = .ok (.getfield 20, 3) := by decide +kernel
theorem dX2_snapshot_84 : decode cX2_snapshot 84 = .ok (.iload_n 2, 1) := by decide +kernel
theorem dX2_snapshot_85 : decode cX2_snapshot 85 = .ok (.bipush 6, 2) := by decide +kernel
theorem dX2_snapshot_87 : decode cX2_snapshot 87 = .ok (.imul, 1) := by decide +kernel
theorem dX2_snapshot_88 : decode cX2_snapshot 88 = .ok (.iload_n 3, 1) := by decide +kernel
theorem dX2_snapshot_89 : decode cX2_snapshot 89 = .ok (.iadd, 1) := by decide +kernel
theorem dX2_snapshot_90 : decode cX2_snapshot 90 = .ok (.aload_n 0, 1) := by decide +kernel
theorem dX2_snapshot_91 : decode cX2_snapshot 91 = .ok (.getfield 20, 3) := by decide +kernel
theorem dX2_snapshot_94 : decode cX2_snapshot 94 = .ok (.iload_n 1, 1) := by decide +kernel
theorem dX2_snapshot_95 : decode cX2_snapshot 95 = .ok (.bipush 6, 2) := by decide +kernel
theorem dX2_snapshot_97 : decode cX2_snapshot 97 = .ok (.imul, 1) := by decide +kernel
theorem dX2_snapshot_98 : decode cX2_snapshot 98 = .ok (.iload_n 3, 1) := by decide +kernel
theorem dX2_snapshot_99 : decode cX2_snapshot 99 = .ok (.iadd, 1) := by decide +kernel
theorem dX2_snapshot_100 : decode cX2_snapshot 100 = .ok (.iaload, 1) := by decide +kernel
theorem dX2_snapshot_101 : decode cX2_snapshot 101 = .ok (.iastore, 1) := by decide +kernel
theorem dX2_snapshot_102 : decode cX2_snapshot 102 = .ok (.iinc 3 1, 3) := by decide +kernel
theorem dX2_snapshot_105 : decode cX2_snapshot 105 = .ok (.goto (-31), 3) := by decide +kernel
theorem dX2_snapshot_108 : decode cX2_snapshot 108 = .ok (.iconst 0, 1) := by decide +kernel
theorem dX2_snapshot_109 : decode cX2_snapshot 109 = .ok (.istore_n 3, 1) := by decide +kernel
theorem dX2_snapshot_110 : decode cX2_snapshot 110 = .ok (.iload_n 3, 1) := by decide +kernel
theorem dX2_snapshot_111 : decode cX2_snapshot 111 = .ok (.iconst 5, 1) := by decide +kernel
theorem dX2_snapshot_112 : decode cX2_snapshot 112 = .ok (.if_icmp .ge 29, 3) := by decide +kernel
theorem dX2_snapshot_115 : decode cX2_snapshot 115 = .ok (.aload_n 0, 1) := by decide +kernel
theorem dX2_snapshot_116 : decode cX2_snapshot 116 = .ok (.getfield 23, 3) := by decide +kernel
theorem dX2_snapshot_119 : decode cX2_snapshot 119 = .ok (.iload_n 2, 1) := by decide +kernel
theorem dX2_snapshot_120 : decode cX2_snapshot 120 = .ok (.iconst 5, 1) := by decide +kernel
theorem dX2_snapshot_121 : decode cX2_snapshot 121 = .ok (.imul, 1) := by decide +kernel
theorem dX2_snapshot_122 : decode cX2_snapshot 122 = .ok (.iload_n 3, 1) := by decide +kernel
theorem dX2_snapshot_123 : decode cX2_snapshot 123 = .ok (.iadd, 1) := by decide +kernel
theorem dX2_snapshot_124 : decode cX2_snapshot 124 = .ok (.aload_n 0, 1) := by decide +kernel
theorem dX2_snapshot_125 : decode cX2_snapshot 125 = .ok (.getfield 23, 3) := by decide +kernel
theorem dX2_snapshot_128 : decode cX2_snapshot 128 = .ok (.iload_n 1, 1) := by decide +kernel
theorem dX2_snapshot_129 : decode cX2_snapshot 129 = .ok (.iconst 5, 1) := by decide +kernel
theorem dX2_snapshot_130 : decode cX2_snapshot 130 = .ok (.imul, 1) := by decide +kernel
theorem dX2_snapshot_131 : decode cX2_snapshot 131 = .ok (.iload_n 3, 1) := by decide +kernel
theorem dX2_snapshot_132 : decode cX2_snapshot 132 = .ok (.iadd, 1) := by decide +kernel
theorem dX2_snapshot_133 : decode cX2_snapshot 133 = .ok (.baload, 1) := by decide +kernel
theorem dX2_snapshot_134 : decode cX2_snapshot 134 = .ok (.bastore, 1) := by decide +kernel
theorem dX2_snapshot_135 : decode cX2_snapshot 135 = .ok (.iinc 3 1, 3) := by decide +kernel
theorem dX2_snapshot_138 : decode cX2_snapshot 138 = .ok (.goto (-28), 3) := by decide +kernel
theorem dX2_snapshot_141 : decode cX2_snapshot 141 = .ok (.aload_n 0, 1) := by decide +kernel
theorem dX2_snapshot_142 : decode cX2_snapshot 142 = .ok (.iload_n 2, 1) := by decide +kernel
theorem dX2_snapshot_143 : decode cX2_snapshot 143 = .ok (.iconst 0, 1) := by decide +kernel
theorem dX2_snapshot_144 : decode cX2_snapshot 144 = .ok (.invokevirtual 37, 3) := by decide +kernel
theorem dX2_snapshot_147 : decode cX2_snapshot 147 = .ok (.ireturn, 1) := by decide +kernel
theorem dX2_crash_0 : decode cX2_crash 0 = .ok (.aload_n 0, 1) := by decide +kernel
theorem dX2_crash_1 : decode cX2_crash 1 = .ok (.iload_n 1, 1) := by decide +kernel
theorem dX2_crash_2 : decode cX2_crash 2 = .ok (.invokevirtual 55, 3) := by decide +kernel
theorem dX2_crash_5 : decode cX2_crash 5 = .ok (.ifCond .ne 5, 3) := by decide +kernel
theorem dX2_crash_8 : decode cX2_crash 8 = .ok (.iconst (-1), 1) := by decide +kernel
theorem dX2_crash_9 : decode cX2_crash 9 = .ok (.ireturn, 1) := by decide +kernel
theorem dX2_crash_10 : decode cX2_crash 10 = .ok (.aload_n 0, 1) := by decide +kernel
theorem dX2_crash_11 : decode cX2_crash 11 = .ok (.getfield 7, 3) := by decide +kernel
theorem dX2_crash_14 : decode cX2_crash 14 = .ok (.iload_n 1, 1) := by decide +kernel
theorem dX2_crash_15 : decode cX2_crash 15 = .ok (.baload, 1) := by decide +kernel
theorem dX2_crash_16 : decode cX2_crash 16 = .ok (.ifCond .eq 7, 3) := by decide +kernel
theorem dX2_crash_19 : decode cX2_crash 19 = .ok (.iconst 0, 1) := by decide +kernel
theorem dX2_crash_20 : decode cX2_crash 20 = .ok (.goto 4, 3) := by decide +kernel
theorem dX2_crash_23 : decode cX2_crash 23 = .ok (.iconst 1, 1) := by decide +kernel
theorem dX2_crash_24 : decode cX2_crash 24 = .ok (.istore_n 2, 1) := by decide +kernel
theorem dX2_crash_25 : decode cX2_crash 25 = .ok (.aload_n 0, 1) := by decide +kernel
theorem dX2_crash_26 : decode cX2_crash 26 = .ok (.getfield 7, 3) := by decide +kernel
theorem dX2_crash_29 : decode cX2_crash 29 = .ok (.iload_n 1, 1) := by decide +kernel
theorem dX2_crash_30 : decode cX2_crash 30 = .ok (.iconst 1, 1) := by decide +kernel
theorem dX2_crash_31 : decode cX2_crash 31 = .ok (.bastore, 1) := by decide +kernel
theorem dX2_crash_32 : decode cX2_crash 32 = .ok (.iload_n 2, 1) := by decide +kernel
theorem dX2_crash_33 : decode cX2_crash 33 = .ok (.ireturn, 1) := by decide +kernel
theorem dX2_isServer_0 : decode cX2_isServer 0 = .ok (.iload_n 1, 1) := by decide +kernel
theorem dX2_isServer_1 : decode cX2_isServer 1 = .ok (.ifCond .lt 12, 3) := by decide +kernel
theorem dX2_isServer_4 : decode cX2_isServer 4 = .ok (.iload_n 1, 1) := by decide +kernel
theorem dX2_isServer_5 : decode cX2_isServer 5 = .ok (.iconst 5, 1) := by decide +kernel
theorem dX2_isServer_6 : decode cX2_isServer 6 = .ok (.if_icmp .ge 7, 3) := by decide +kernel
theorem dX2_isServer_9 : decode cX2_isServer 9 = .ok (.iconst 1, 1) := by decide +kernel
theorem dX2_isServer_10 : decode cX2_isServer 10 = .ok (.goto 4, 3) := by decide +kernel
theorem dX2_isServer_13 : decode cX2_isServer 13 = .ok (.iconst 0, 1) := by decide +kernel
theorem dX2_isServer_14 : decode cX2_isServer 14 = .ok (.ireturn, 1) := by decide +kernel
theorem dX2_restart_0 : decode cX2_restart 0 = .ok (.aload_n 0, 1) := by decide +kernel
theorem dX2_restart_1 : decode cX2_restart 1 = .ok (.iload_n 1, 1) := by decide +kernel
theorem dX2_restart_2 : decode cX2_restart 2 = .ok (.invokevirtual 55, 3) := by decide +kernel
theorem dX2_restart_5 : decode cX2_restart 5 = .ok (.ifCond .ne 5, 3) := by decide +kernel
theorem dX2_restart_8 : decode cX2_restart 8 = .ok (.iconst (-1), 1) := by decide +kernel
theorem dX2_restart_9 : decode cX2_restart 9 = .ok (.ireturn, 1) := by decide +kernel
theorem dX2_restart_10 : decode cX2_restart 10 = .ok (.aload_n 0, 1) := by decide +kernel
theorem dX2_restart_11 : decode cX2_restart 11 = .ok (.getfield 7, 3) := by decide +kernel
theorem dX2_restart_14 : decode cX2_restart 14 = .ok (.iload_n 1, 1) := by decide +kernel
theorem dX2_restart_15 : decode cX2_restart 15 = .ok (.baload, 1) := by decide +kernel
theorem dX2_restart_16 : decode cX2_restart 16 = .ok (.ifCond .eq 7, 3) := by decide +kernel
theorem dX2_restart_19 : decode cX2_restart 19 = .ok (.iconst 1, 1) := by decide +kernel
theorem dX2_restart_20 : decode cX2_restart 20 = .ok (.goto 4, 3) := by decide +kernel
theorem dX2_restart_23 : decode cX2_restart 23 = .ok (.iconst 0, 1) := by decide +kernel
theorem dX2_restart_24 : decode cX2_restart 24 = .ok (.istore_n 2, 1) := by decide +kernel
theorem dX2_restart_25 : decode cX2_restart 25 = .ok (.aload_n 0, 1) := by decide +kernel
theorem dX2_restart_26 : decode cX2_restart 26 = .ok (.getfield 7, 3) := by decide +kernel
theorem dX2_restart_29 : decode cX2_restart 29 = .ok (.iload_n 1, 1) := by decide +kernel
theorem dX2_restart_30 : decode cX2_restart 30 = .ok (.iconst 0, 1) := by decide +kernel
theorem dX2_restart_31 : decode cX2_restart 31 = .ok (.bastore, 1) := by decide +kernel
theorem dX2_restart_32 : decode cX2_restart 32 = .ok (.iload_n 2, 1) := by decide +kernel
theorem dX2_restart_33 : decode cX2_restart 33 = .ok (.ireturn, 1) := by decide +kernel
theorem dX2_loseDisk_0 : decode cX2_loseDisk 0 = .ok (.aload_n 0, 1) := by decide +kernel
theorem dX2_loseDisk_1 : decode cX2_loseDisk 1 = .ok (.iload_n 1, 1) := by decide +kernel
theorem dX2_loseDisk_2 : decode cX2_loseDisk 2 = .ok (.invokevirtual 55, 3) := by decide +kernel
theorem dX2_loseDisk_5 : decode cX2_loseDisk 5 = .ok (.ifCond .ne 5, 3) := by decide +kernel
theorem dX2_loseDisk_8 : decode cX2_loseDisk 8 = .ok (.iconst (-1), 1) := by decide +kernel
theorem dX2_loseDisk_9 : decode cX2_loseDisk 9 = .ok (.ireturn, 1) := by decide +kernel
theorem dX2_loseDisk_10 : decode cX2_loseDisk 10 = .ok (.aload_n 0, 1) := by decide +kernel
theorem dX2_loseDisk_11 : decode cX2_loseDisk 11 = .ok (.iload_n 1, 1) := by decide +kernel
theorem dX2_loseDisk_12 : decode cX2_loseDisk 12 = .ok (.invokevirtual 30, 3) := by decide +kernel
theorem dX2_loseDisk_15 : decode cX2_loseDisk 15 = .ok (.istore_n 2, 1) := by decide +kernel
theorem dX2_loseDisk_16 : decode cX2_loseDisk 16 = .ok (.iconst 0, 1) := by decide +kernel
theorem dX2_loseDisk_17 : decode cX2_loseDisk 17 = .ok (.istore_n 3, 1) := by decide +kernel
theorem dX2_loseDisk_18 : decode cX2_loseDisk 18 = .ok (.iload_n 3, 1) := by decide +kernel
theorem dX2_loseDisk_19 : decode cX2_loseDisk 19 = .ok (.iconst 4, 1) := by decide +kernel
theorem dX2_loseDisk_20 : decode cX2_loseDisk 20 = .ok (.if_icmp .ge 20, 3) := by decide +kernel
theorem dX2_loseDisk_23 : decode cX2_loseDisk 23 = .ok (.aload_n 0, 1) := by decide +kernel
theorem dX2_loseDisk_24 : decode cX2_loseDisk 24 = .ok (.getfield 23, 3) := by decide +kernel
theorem dX2_loseDisk_27 : decode cX2_loseDisk 27 = .ok (.iload_n 3, 1) := by decide +kernel
theorem dX2_loseDisk_28 : decode cX2_loseDisk 28 = .ok (.iconst 5, 1) := by decide +kernel
theorem dX2_loseDisk_29 : decode cX2_loseDisk 29 = .ok (.imul, 1) := by decide +kernel
theorem dX2_loseDisk_30 : decode cX2_loseDisk 30 = .ok (.iload_n 1, 1) := by decide +kernel
theorem dX2_loseDisk_31 : decode cX2_loseDisk 31 = .ok (.iadd, 1) := by decide +kernel
theorem dX2_loseDisk_32 : decode cX2_loseDisk 32 = .ok (.iconst 0, 1) := by decide +kernel
theorem dX2_loseDisk_33 : decode cX2_loseDisk 33 = .ok (.bastore, 1) := by decide +kernel
theorem dX2_loseDisk_34 : decode cX2_loseDisk 34 = .ok (.iinc 3 1, 3) := by decide +kernel
theorem dX2_loseDisk_37 : decode cX2_loseDisk 37 = .ok (.goto (-19), 3) := by decide +kernel
theorem dX2_loseDisk_40 : decode cX2_loseDisk 40 = .ok (.iload_n 2, 1) := by decide +kernel
theorem dX2_loseDisk_41 : decode cX2_loseDisk 41 = .ok (.ireturn, 1) := by decide +kernel
theorem dX2_damage_0 : decode cX2_damage 0 = .ok (.aload_n 0, 1) := by decide +kernel
theorem dX2_damage_1 : decode cX2_damage 1 = .ok (.iload_n 1, 1) := by decide +kernel
theorem dX2_damage_2 : decode cX2_damage 2 = .ok (.invokevirtual 55, 3) := by decide +kernel
theorem dX2_damage_5 : decode cX2_damage 5 = .ok (.ifCond .eq 11, 3) := by decide +kernel
theorem dX2_damage_8 : decode cX2_damage 8 = .ok (.aload_n 0, 1) := by decide +kernel
theorem dX2_damage_9 : decode cX2_damage 9 = .ok (.iload_n 2, 1) := by decide +kernel
theorem dX2_damage_10 : decode cX2_damage 10 = .ok (.invokevirtual 41, 3) := by decide +kernel
theorem dX2_damage_13 : decode cX2_damage 13 = .ok (.ifCond .ne 5, 3) := by decide +kernel
theorem dX2_damage_16 : decode cX2_damage 16 = .ok (.iconst (-1), 1) := by decide +kernel
theorem dX2_damage_17 : decode cX2_damage 17 = .ok (.ireturn, 1) := by decide +kernel
theorem dX2_damage_18 : decode cX2_damage 18 = .ok (.aload_n 0, 1) := by decide +kernel
theorem dX2_damage_19 : decode cX2_damage 19 = .ok (.getfield 13, 3) := by decide +kernel
theorem dX2_damage_22 : decode cX2_damage 22 = .ok (.iload_n 2, 1) := by decide +kernel
theorem dX2_damage_23 : decode cX2_damage 23 = .ok (.baload, 1) := by decide +kernel
theorem dX2_damage_24 : decode cX2_damage 24 = .ok (.ifCond .ne 6, 3) := by decide +kernel
theorem dX2_damage_27 : decode cX2_damage 27 = .ok (.bipush (-3), 2) := by decide +kernel
theorem dX2_damage_29 : decode cX2_damage 29 = .ok (.ireturn, 1) := by decide +kernel
theorem dX2_damage_30 : decode cX2_damage 30 = .ok (.aload_n 0, 1) := by decide +kernel
theorem dX2_damage_31 : decode cX2_damage 31 = .ok (.getfield 23, 3) := by decide +kernel
theorem dX2_damage_34 : decode cX2_damage 34 = .ok (.iload_n 2, 1) := by decide +kernel
theorem dX2_damage_35 : decode cX2_damage 35 = .ok (.iconst 5, 1) := by decide +kernel
theorem dX2_damage_36 : decode cX2_damage 36 = .ok (.imul, 1) := by decide +kernel
theorem dX2_damage_37 : decode cX2_damage 37 = .ok (.iload_n 1, 1) := by decide +kernel
theorem dX2_damage_38 : decode cX2_damage 38 = .ok (.iadd, 1) := by decide +kernel
theorem dX2_damage_39 : decode cX2_damage 39 = .ok (.baload, 1) := by decide +kernel
theorem dX2_damage_40 : decode cX2_damage 40 = .ok (.ifCond .eq 7, 3) := by decide +kernel
theorem dX2_damage_43 : decode cX2_damage 43 = .ok (.iconst 1, 1) := by decide +kernel
theorem dX2_damage_44 : decode cX2_damage 44 = .ok (.goto 4, 3) := by decide +kernel
theorem dX2_damage_47 : decode cX2_damage 47 = .ok (.iconst 0, 1) := by decide +kernel
theorem dX2_damage_48 : decode cX2_damage 48 = .ok (.istore_n 3, 1) := by decide +kernel
theorem dX2_damage_49 : decode cX2_damage 49 = .ok (.aload_n 0, 1) := by decide +kernel
theorem dX2_damage_50 : decode cX2_damage 50 = .ok (.getfield 23, 3) := by decide +kernel
theorem dX2_damage_53 : decode cX2_damage 53 = .ok (.iload_n 2, 1) := by decide +kernel
theorem dX2_damage_54 : decode cX2_damage 54 = .ok (.iconst 5, 1) := by decide +kernel
theorem dX2_damage_55 : decode cX2_damage 55 = .ok (.imul, 1) := by decide +kernel
theorem dX2_damage_56 : decode cX2_damage 56 = .ok (.iload_n 1, 1) := by decide +kernel
theorem dX2_damage_57 : decode cX2_damage 57 = .ok (.iadd, 1) := by decide +kernel
theorem dX2_damage_58 : decode cX2_damage 58 = .ok (.iconst 0, 1) := by decide +kernel
theorem dX2_damage_59 : decode cX2_damage 59 = .ok (.bastore, 1) := by decide +kernel
theorem dX2_damage_60 : decode cX2_damage 60 = .ok (.iload_n 3, 1) := by decide +kernel
theorem dX2_damage_61 : decode cX2_damage 61 = .ok (.ireturn, 1) := by decide +kernel
theorem dX2_heal_0 : decode cX2_heal 0 = .ok (.iconst 0, 1) := by decide +kernel
theorem dX2_heal_1 : decode cX2_heal 1 = .ok (.istore_n 1, 1) := by decide +kernel
theorem dX2_heal_2 : decode cX2_heal 2 = .ok (.iconst 0, 1) := by decide +kernel
theorem dX2_heal_3 : decode cX2_heal 3 = .ok (.istore_n 2, 1) := by decide +kernel
theorem dX2_heal_4 : decode cX2_heal 4 = .ok (.iload_n 2, 1) := by decide +kernel
theorem dX2_heal_5 : decode cX2_heal 5 = .ok (.iconst 4, 1) := by decide +kernel
theorem dX2_heal_6 : decode cX2_heal 6 = .ok (.if_icmp .ge 25, 3) := by decide +kernel
theorem dX2_heal_9 : decode cX2_heal 9 = .ok (.aload_n 0, 1) := by decide +kernel
theorem dX2_heal_10 : decode cX2_heal 10 = .ok (.iload_n 2, 1) := by decide +kernel
theorem dX2_heal_11 : decode cX2_heal 11 = .ok (.invokevirtual 48, 3) := by decide +kernel
theorem dX2_heal_14 : decode cX2_heal 14 = .ok (.ifCond .ne 11, 3) := by decide +kernel
theorem dX2_heal_17 : decode cX2_heal 17 = .ok (.iload_n 1, 1) := by decide +kernel
theorem dX2_heal_18 : decode cX2_heal 18 = .ok (.aload_n 0, 1) := by decide +kernel
theorem dX2_heal_19 : decode cX2_heal 19 = .ok (.iload_n 2, 1) := by decide +kernel
theorem dX2_heal_20 : decode cX2_heal 20 = .ok (.invokevirtual 45, 3) := by decide +kernel
theorem dX2_heal_23 : decode cX2_heal 23 = .ok (.iadd, 1) := by decide +kernel
theorem dX2_heal_24 : decode cX2_heal 24 = .ok (.istore_n 1, 1) := by decide +kernel
theorem dX2_heal_25 : decode cX2_heal 25 = .ok (.iinc 2 1, 3) := by decide +kernel
theorem dX2_heal_28 : decode cX2_heal 28 = .ok (.goto (-24), 3) := by decide +kernel
theorem dX2_heal_31 : decode cX2_heal 31 = .ok (.iload_n 1, 1) := by decide +kernel
theorem dX2_heal_32 : decode cX2_heal 32 = .ok (.ireturn, 1) := by decide +kernel
theorem dX2_read_0 : decode cX2_read 0 = .ok (.aload_n 0, 1) := by decide +kernel
theorem dX2_read_1 : decode cX2_read 1 = .ok (.iload_n 1, 1) := by decide +kernel
theorem dX2_read_2 : decode cX2_read 2 = .ok (.invokevirtual 48, 3) := by decide +kernel
theorem dX2_read_5 : decode cX2_read 5 = .ok (.istore_n 3, 1) := by decide +kernel
theorem dX2_read_6 : decode cX2_read 6 = .ok (.iload_n 3, 1) := by decide +kernel
theorem dX2_read_7 : decode cX2_read 7 = .ok (.ifCond .ge 5, 3) := by decide +kernel
theorem dX2_read_10 : decode cX2_read 10 = .ok (.iload_n 3, 1) := by decide +kernel
theorem dX2_read_11 : decode cX2_read 11 = .ok (.ireturn, 1) := by decide +kernel
theorem dX2_read_12 : decode cX2_read 12 = .ok (.iload_n 2, 1) := by decide +kernel
theorem dX2_read_13 : decode cX2_read 13 = .ok (.ifCond .lt 8, 3) := by decide +kernel
theorem dX2_read_16 : decode cX2_read 16 = .ok (.iload_n 2, 1) := by decide +kernel
theorem dX2_read_17 : decode cX2_read 17 = .ok (.iconst 5, 1) := by decide +kernel
theorem dX2_read_18 : decode cX2_read 18 = .ok (.if_icmp .le 8, 3) := by decide +kernel
theorem dX2_read_21 : decode cX2_read 21 = .ok (.bipush (-6), 2) := by decide +kernel
theorem dX2_read_23 : decode cX2_read 23 = .ok (.goto 14, 3) := by decide +kernel
theorem dX2_read_26 : decode cX2_read 26 = .ok (.aload_n 0, 1) := by decide +kernel
theorem dX2_read_27 : decode cX2_read 27 = .ok (.getfield 20, 3) := by decide +kernel
theorem dX2_read_30 : decode cX2_read 30 = .ok (.iload_n 1, 1) := by decide +kernel
theorem dX2_read_31 : decode cX2_read 31 = .ok (.bipush 6, 2) := by decide +kernel
theorem dX2_read_33 : decode cX2_read 33 = .ok (.imul, 1) := by decide +kernel
theorem dX2_read_34 : decode cX2_read 34 = .ok (.iload_n 2, 1) := by decide +kernel
theorem dX2_read_35 : decode cX2_read 35 = .ok (.iadd, 1) := by decide +kernel
theorem dX2_read_36 : decode cX2_read 36 = .ok (.iaload, 1) := by decide +kernel
theorem dX2_read_37 : decode cX2_read 37 = .ok (.ireturn, 1) := by decide +kernel
theorem dX2_length_0 : decode cX2_length 0 = .ok (.aload_n 0, 1) := by decide +kernel
theorem dX2_length_1 : decode cX2_length 1 = .ok (.iload_n 1, 1) := by decide +kernel
theorem dX2_length_2 : decode cX2_length 2 = .ok (.invokevirtual 48, 3) := by decide +kernel
theorem dX2_length_5 : decode cX2_length 5 = .ok (.istore_n 2, 1) := by decide +kernel
theorem dX2_length_6 : decode cX2_length 6 = .ok (.iload_n 2, 1) := by decide +kernel
theorem dX2_length_7 : decode cX2_length 7 = .ok (.ifCond .ge 7, 3) := by decide +kernel
theorem dX2_length_10 : decode cX2_length 10 = .ok (.iload_n 2, 1) := by decide +kernel
theorem dX2_length_11 : decode cX2_length 11 = .ok (.goto 9, 3) := by decide +kernel
theorem dX2_length_14 : decode cX2_length 14 = .ok (.aload_n 0, 1) := by decide +kernel
theorem dX2_length_15 : decode cX2_length 15 = .ok (.getfield 16, 3) := by decide +kernel
theorem dX2_length_18 : decode cX2_length 18 = .ok (.iload_n 1, 1) := by decide +kernel
theorem dX2_length_19 : decode cX2_length 19 = .ok (.iaload, 1) := by decide +kernel
theorem dX2_length_20 : decode cX2_length 20 = .ok (.ireturn, 1) := by decide +kernel
theorem dX2_replicas_0 : decode cX2_replicas 0 = .ok (.aload_n 0, 1) := by decide +kernel
theorem dX2_replicas_1 : decode cX2_replicas 1 = .ok (.iload_n 1, 1) := by decide +kernel
theorem dX2_replicas_2 : decode cX2_replicas 2 = .ok (.invokevirtual 41, 3) := by decide +kernel
theorem dX2_replicas_5 : decode cX2_replicas 5 = .ok (.ifCond .ne 5, 3) := by decide +kernel
theorem dX2_replicas_8 : decode cX2_replicas 8 = .ok (.iconst (-1), 1) := by decide +kernel
theorem dX2_replicas_9 : decode cX2_replicas 9 = .ok (.ireturn, 1) := by decide +kernel
theorem dX2_replicas_10 : decode cX2_replicas 10 = .ok (.aload_n 0, 1) := by decide +kernel
theorem dX2_replicas_11 : decode cX2_replicas 11 = .ok (.getfield 13, 3) := by decide +kernel
theorem dX2_replicas_14 : decode cX2_replicas 14 = .ok (.iload_n 1, 1) := by decide +kernel
theorem dX2_replicas_15 : decode cX2_replicas 15 = .ok (.baload, 1) := by decide +kernel
theorem dX2_replicas_16 : decode cX2_replicas 16 = .ok (.ifCond .ne 6, 3) := by decide +kernel
theorem dX2_replicas_19 : decode cX2_replicas 19 = .ok (.bipush (-3), 2) := by decide +kernel
theorem dX2_replicas_21 : decode cX2_replicas 21 = .ok (.ireturn, 1) := by decide +kernel
theorem dX2_replicas_22 : decode cX2_replicas 22 = .ok (.iconst 0, 1) := by decide +kernel
theorem dX2_replicas_23 : decode cX2_replicas 23 = .ok (.istore_n 2, 1) := by decide +kernel
theorem dX2_replicas_24 : decode cX2_replicas 24 = .ok (.iconst 0, 1) := by decide +kernel
theorem dX2_replicas_25 : decode cX2_replicas 25 = .ok (.istore_n 3, 1) := by decide +kernel
theorem dX2_replicas_26 : decode cX2_replicas 26 = .ok (.iload_n 3, 1) := by decide +kernel
theorem dX2_replicas_27 : decode cX2_replicas 27 = .ok (.iconst 5, 1) := by decide +kernel
theorem dX2_replicas_28 : decode cX2_replicas 28 = .ok (.if_icmp .ge 28, 3) := by decide +kernel
theorem dX2_replicas_31 : decode cX2_replicas 31 = .ok (.aload_n 0, 1) := by decide +kernel
theorem dX2_replicas_32 : decode cX2_replicas 32 = .ok (.getfield 23, 3) := by decide +kernel
theorem dX2_replicas_35 : decode cX2_replicas 35 = .ok (.iload_n 1, 1) := by decide +kernel
theorem dX2_replicas_36 : decode cX2_replicas 36 = .ok (.iconst 5, 1) := by decide +kernel
theorem dX2_replicas_37 : decode cX2_replicas 37 = .ok (.imul, 1) := by decide +kernel
theorem dX2_replicas_38 : decode cX2_replicas 38 = .ok (.iload_n 3, 1) := by decide +kernel
theorem dX2_replicas_39 : decode cX2_replicas 39 = .ok (.iadd, 1) := by decide +kernel
theorem dX2_replicas_40 : decode cX2_replicas 40 = .ok (.baload, 1) := by decide +kernel
theorem dX2_replicas_41 : decode cX2_replicas 41 = .ok (.ifCond .eq 9, 3) := by decide +kernel
theorem dX2_replicas_44 : decode cX2_replicas 44 = .ok (.iload_n 2, 1) := by decide +kernel
theorem dX2_replicas_45 : decode cX2_replicas 45 = .ok (.iconst 1, 1) := by decide +kernel
theorem dX2_replicas_46 : decode cX2_replicas 46 = .ok (.iload_n 3, 1) := by decide +kernel
theorem dX2_replicas_47 : decode cX2_replicas 47 = .ok (.ishl, 1) := by decide +kernel
theorem dX2_replicas_48 : decode cX2_replicas 48 = .ok (.ior, 1) := by decide +kernel
theorem dX2_replicas_49 : decode cX2_replicas 49 = .ok (.istore_n 2, 1) := by decide +kernel
theorem dX2_replicas_50 : decode cX2_replicas 50 = .ok (.iinc 3 1, 3) := by decide +kernel
theorem dX2_replicas_53 : decode cX2_replicas 53 = .ok (.goto (-27), 3) := by decide +kernel
theorem dX2_replicas_56 : decode cX2_replicas 56 = .ok (.iload_n 2, 1) := by decide +kernel
theorem dX2_replicas_57 : decode cX2_replicas 57 = .ok (.ireturn, 1) := by decide +kernel
end
section
/-! THE JUDGEMENT: a method's run over a pure state. CG X u pc lv st: from any heap that holds the picture of u, with the locals lv (slot by slot, none: not known) and the stack st at pc, the run comes to the end that X asks. -/
abbrev Pst : Type := Nat → Nat → Int32
def sU (u : Pst) (k i : Nat) (v : Int32) : Pst := fun k' => if k' = k then upd (u k) i v else u k'
theorem sU_s (u : Pst) (k i : Nat) (v : Int32) : sU u k i v k = upd (u k) i v := if_pos rfl
theorem sU_n {u : Pst} {k k' i : Nat} {v : Int32} (h : k' ≠ k) : sU u k i v k' = u k' := if_neg h
abbrev XX (St : Type) : Type := Program × Launch × Env × Room × State × MethodId × Array Value × List Frame × Method × Code × Nat × Nat × Nat × (State → Prop) × (St → Heap → List Loc → Prop)
def lo (ls : Array Slot) (nL : Nat) (lv : List (Option Value)) : Prop := ls.size = nL ∧ lv.length = nL ∧ lv_wf ls ∧ ∀ (i : Nat) (v : Value), lv[i]? = some (some v) → ls[i]? = some (.val v) ∧ v.category = 1
def lvp : Nat → List (Option Value) → List (Nat × Value)
  | _, [] => []
  | i, none :: r => lvp (i + 1) r
  | i, some v :: r => (i, v) :: lvp (i + 1) r
theorem lvp_mem : ∀ (lv : List (Option Value)) (i k : Nat) (v : Value), lv[k]? = some (some v) → (i + k, v) ∈ lvp i lv
  | [], i, k, v, h => by simp at h
  | none :: r, i, k, v, h => by
    cases k with
    | zero => simp at h
    | succ k =>
      rw [List.getElem?_cons_succ] at h
      have := lvp_mem r (i + 1) k v h
      rw [show i + (k + 1) = i + 1 + k by omega]
      exact this
  | some w :: r, i, k, v, h => by
    cases k with
    | zero =>
      rw [List.getElem?_cons_zero] at h
      cases h
      exact List.mem_cons_self
    | succ k =>
      rw [List.getElem?_cons_succ] at h
      have := lvp_mem r (i + 1) k v h
      rw [show i + (k + 1) = i + 1 + k by omega]
      exact List.mem_cons_of_mem _ this
theorem lvp_of : ∀ (lv : List (Option Value)) (i : Nat) (q : Nat × Value), q ∈ lvp i lv → ∃ k, q.1 = i + k ∧ lv[k]? = some (some q.2)
  | [], i, q, h => by simp [lvp] at h
  | none :: r, i, q, h => by
    obtain ⟨k, h1, h2⟩ := lvp_of r (i + 1) q h
    exact ⟨k + 1, by omega, h2⟩
  | some w :: r, i, q, h => by
    rcases List.mem_cons.mp h with e | e
    · exact ⟨0, by rw [e]; rfl, by rw [e]; rfl⟩
    · obtain ⟨k, h1, h2⟩ := lvp_of r (i + 1) q e
      exact ⟨k + 1, by omega, h2⟩
theorem lo_has {ls : Array Slot} {nL : Nat} {lv : List (Option Value)} (h : lo ls nL lv) : lv_has ls nL (lvp 0 lv) := by
  refine ⟨h.1, h.2.2.1, fun q hq => ?_⟩
  obtain ⟨k, h1, h2⟩ := lvp_of lv 0 q hq
  rw [h1, Nat.zero_add]
  exact (h.2.2.2 k q.2 h2).1
theorem lo_set {ls ls' : Array Slot} {nL i : Nat} {lv : List (Option Value)} {x : Value} (h : lo ls nL lv) (hi : i < lv.length) (hc : x.category = 1) (h' : lv_has ls' nL ((i, x) :: (lvp 0 lv).filter (fun q => !(q.1 == i) && !(q.1 + 1 == i && q.2.category == 2)))) : lo ls' nL (lv.set i (some x)) := by
  refine ⟨h'.1, by rw [List.length_set]; exact h.2.1, h'.2.1, fun j v hj => ?_⟩
  by_cases e : j = i
  · subst e
    rw [List.getElem?_set_self hi] at hj
    cases hj
    exact ⟨h'.2.2 (j, x) List.mem_cons_self, hc⟩
  · rw [List.getElem?_set_ne (Ne.symm e)] at hj
    have hc := (h.2.2.2 j v hj).2
    refine ⟨h'.2.2 (j, v) (List.mem_cons_of_mem _ (List.mem_filter.mpr ⟨?_, ?_⟩)), hc⟩
    · have := lvp_mem lv 0 j v hj
      rwa [Nat.zero_add] at this
    · simp [e, hc]
theorem lo_weak {ls : Array Slot} {nL : Nat} {lv : List (Option Value)} (i : Nat) (h : lo ls nL lv) : lo ls nL (lv.set i none) := by
  refine ⟨h.1, by rw [List.length_set]; exact h.2.1, h.2.2.1, fun j v hj => ?_⟩
  by_cases e : j = i
  · subst e
    rw [List.getElem?_set] at hj
    simp at hj
  · rw [List.getElem?_set_ne (Ne.symm e)] at hj
    exact h.2.2.2 j v hj
theorem lva_mem : ∀ (vs : List Value) (k : Nat), (∀ v ∈ vs, v.category = 1) → ∀ (i : Nat) (v : Value), vs[i]? = some v → (k + i, v) ∈ lv_args k vs
  | [], k, _, i, v, h => by simp at h
  | w :: vs, k, hc, i, v, h => by
    have hw : w.category = 1 := hc w List.mem_cons_self
    have e : lv_args k (w :: vs) = (k, w) :: lv_args (k + 1) vs := by
      simp [lv_args, hw]
    rw [e]
    cases i with
    | zero =>
      rw [List.getElem?_cons_zero] at h
      cases h
      exact List.mem_cons_self
    | succ i =>
      rw [List.getElem?_cons_succ] at h
      have := lva_mem vs (k + 1) (fun v hv => hc v (List.mem_cons_of_mem _ hv)) i v h
      rw [show k + (i + 1) = k + 1 + i by omega]
      exact List.mem_cons_of_mem _ this
theorem lo_entry {ls : Array Slot} {n : Nat} {vs : List Value} (h : lv_has ls n (lv_args 0 vs)) (hn : vs.length ≤ n) (hc : ∀ v ∈ vs, v.category = 1) : lo ls n (vs.map some ++ List.replicate (n - vs.length) none) := by
  refine ⟨h.1, by simp; omega, h.2.1, fun i v hi => ?_⟩
  by_cases hl : i < vs.length
  · rw [List.getElem?_append_left (by simpa using hl), List.getElem?_map] at hi
    have hv : vs[i]? = some v := by
      rw [List.getElem?_eq_getElem hl] at hi ⊢
      simpa using hi
    have := lva_mem vs 0 hc i v hv
    rw [Nat.zero_add] at this
    exact ⟨h.2.2 (i, v) this, hc v (List.mem_of_getElem? hv)⟩
  · rw [List.getElem?_append_right (by simpa using hl), List.getElem?_replicate] at hi
    split at hi <;> simp at hi
def CG {St : Type} (X : XX St) (u : St) (pc : Nat) (lv : List (Option Value)) (st : List Value) : Prop := match X with
  | (p, l, e, R, s, m, args, below, meth, c, cells, slots, nL, Q, wd) => ∀ (H : Heap) (locs : List Loc) (ls : Array Slot), wd u H locs → lo ls nL lv → W p l e R s m args below meth c H locs cells slots Q (F0 m pc ls st)
def Ck {St : Type} (X : XX St) (cc : ByteArray) : Prop := match X with
  | (p, l, e, R, s, m, args, below, meth, c, cells, slots, nL, Q, wd) => p.tables.exec = Jvm.exec ∧ c.code = cc
section FW
variable {St : Type} {X : XX St} {cc : ByteArray} {u : St} {pc : Nat} {lv lv' : List (Option Value)} {st : List Value}
theorem r_iconst {n : Int} (v : Int32) (h : Ck X cc) (d : decode cc pc = .ok (.iconst n, 1)) (hv : Int32.ofInt n = v) (k : CG X u (pc + 1) lv (.int v :: st)) : CG X u pc lv (st) := by
  obtain ⟨p, l, e, R, s, m, args, below, meth, c, cells, slots, nL, Q, wd⟩ := X
  intro H locs ls hw hl
  exact lv_iconst (v := v) h.1 h.2 d hv (k H locs ls hw hl)
theorem r_bipush {n : Int} (v : Int32) (h : Ck X cc) (d : decode cc pc = .ok (.bipush n, 2)) (hv : (Int8.ofInt n).toInt32 = v) (k : CG X u (pc + 2) lv (.int v :: st)) : CG X u pc lv (st) := by
  obtain ⟨p, l, e, R, s, m, args, below, meth, c, cells, slots, nL, Q, wd⟩ := X
  intro H locs ls hw hl
  exact lv_bipush (v := v) h.1 h.2 d hv (k H locs ls hw hl)
theorem r_iadd {x y : Int32} (h : Ck X cc) (d : decode cc pc = .ok (.iadd, 1)) (k : CG X u (pc + 1) lv (.int (x + y) :: st)) : CG X u pc lv (.int y :: .int x :: st) := by
  obtain ⟨p, l, e, R, s, m, args, below, meth, c, cells, slots, nL, Q, wd⟩ := X
  intro H locs ls hw hl
  exact lv_iadd h.1 h.2 d (k H locs ls hw hl)
theorem r_isub {x y : Int32} (h : Ck X cc) (d : decode cc pc = .ok (.isub, 1)) (k : CG X u (pc + 1) lv (.int (x - y) :: st)) : CG X u pc lv (.int y :: .int x :: st) := by
  obtain ⟨p, l, e, R, s, m, args, below, meth, c, cells, slots, nL, Q, wd⟩ := X
  intro H locs ls hw hl
  exact lv_isub h.1 h.2 d (k H locs ls hw hl)
theorem r_imul {x y : Int32} (h : Ck X cc) (d : decode cc pc = .ok (.imul, 1)) (k : CG X u (pc + 1) lv (.int (x * y) :: st)) : CG X u pc lv (.int y :: .int x :: st) := by
  obtain ⟨p, l, e, R, s, m, args, below, meth, c, cells, slots, nL, Q, wd⟩ := X
  intro H locs ls hw hl
  exact lv_imul h.1 h.2 d (k H locs ls hw hl)
theorem r_iand {x y : Int32} (h : Ck X cc) (d : decode cc pc = .ok (.iand, 1)) (k : CG X u (pc + 1) lv (.int (x &&& y) :: st)) : CG X u pc lv (.int y :: .int x :: st) := by
  obtain ⟨p, l, e, R, s, m, args, below, meth, c, cells, slots, nL, Q, wd⟩ := X
  intro H locs ls hw hl
  exact lv_iand h.1 h.2 d (k H locs ls hw hl)
theorem r_ior {x y : Int32} (h : Ck X cc) (d : decode cc pc = .ok (.ior, 1)) (k : CG X u (pc + 1) lv (.int (x ||| y) :: st)) : CG X u pc lv (.int y :: .int x :: st) := by
  obtain ⟨p, l, e, R, s, m, args, below, meth, c, cells, slots, nL, Q, wd⟩ := X
  intro H locs ls hw hl
  exact lv_ior h.1 h.2 d (k H locs ls hw hl)
theorem r_ixor {x y : Int32} (h : Ck X cc) (d : decode cc pc = .ok (.ixor, 1)) (k : CG X u (pc + 1) lv (.int (x ^^^ y) :: st)) : CG X u pc lv (.int y :: .int x :: st) := by
  obtain ⟨p, l, e, R, s, m, args, below, meth, c, cells, slots, nL, Q, wd⟩ := X
  intro H locs ls hw hl
  exact lv_ixor h.1 h.2 d (k H locs ls hw hl)
theorem r_ishl {x y : Int32} (h : Ck X cc) (d : decode cc pc = .ok (.ishl, 1)) (k : CG X u (pc + 1) lv (.int (x <<< (y &&& 31)) :: st)) : CG X u pc lv (.int y :: .int x :: st) := by
  obtain ⟨p, l, e, R, s, m, args, below, meth, c, cells, slots, nL, Q, wd⟩ := X
  intro H locs ls hw hl
  exact lv_ishl h.1 h.2 d (k H locs ls hw hl)
theorem r_ishr {x y : Int32} (h : Ck X cc) (d : decode cc pc = .ok (.ishr, 1)) (k : CG X u (pc + 1) lv (.int (x >>> (y &&& 31)) :: st)) : CG X u pc lv (.int y :: .int x :: st) := by
  obtain ⟨p, l, e, R, s, m, args, below, meth, c, cells, slots, nL, Q, wd⟩ := X
  intro H locs ls hw hl
  exact lv_ishr h.1 h.2 d (k H locs ls hw hl)
theorem r_iaddN {a b : Nat} (h : Ck X cc) (d : decode cc pc = .ok (.iadd, 1)) (k : CG X u (pc + 1) lv (.int (nI (a + b)) :: st)) : CG X u pc lv (.int (nI b) :: .int (nI a) :: st) := r_iadd h d (by rw [nI_add]; exact k)
theorem r_imulN {a b : Nat} (h : Ck X cc) (d : decode cc pc = .ok (.imul, 1)) (k : CG X u (pc + 1) lv (.int (nI (a * b)) :: st)) : CG X u pc lv (.int (nI b) :: .int (nI a) :: st) := r_imul h d (by rw [pk_mul]; exact k)
theorem r_isubN {a b : Nat} (h : Ck X cc) (d : decode cc pc = .ok (.isub, 1)) (hb : b ≤ a) (k : CG X u (pc + 1) lv (.int (nI (a - b)) :: st)) : CG X u pc lv (.int (nI b) :: .int (nI a) :: st) := r_isub h d (by rw [pk_sub hb]; exact k)
theorem r_eq {x : Int32} (x' : Int32) (e : x = x') (k : CG X u pc lv (.int x' :: st)) : CG X u pc lv (.int x :: st) := e ▸ k
theorem r_st {u' : St} (e : u = u') (k : CG X u' pc lv st) : CG X u pc lv st := e ▸ k
theorem r_lv (e : lv = lv') (k : CG X u pc lv' st) : CG X u pc lv st := e ▸ k
theorem r_lvi (i : Nat) {x : Int32} (x' : Int32) (hx : lv[i]? = some (some (.int x))) (e : x = x') (hl : lv.set i (some (.int x')) = lv') (k : CG X u pc lv' st) : CG X u pc lv st := by
  subst e
  have e2 : lv.set i (some (Value.int x)) = lv := by
    refine List.ext_getElem? (fun j => ?_)
    by_cases q : j = i
    · subst q
      rw [List.getElem?_set_self (List.getElem?_eq_some_iff.mp hx).1, hx]
    · rw [List.getElem?_set_ne (Ne.symm q)]
  rw [← hl, e2] at k
  exact k
theorem r_forget (i : Nat) (hl : lv.set i none = lv') (k : CG X u pc lv' st) : CG X u pc lv st := by
  subst hl
  obtain ⟨p, l, e, R, s, m, args, below, meth, c, cells, slots, nL, Q, wd⟩ := X
  intro H locs ls hw hl
  exact k H locs ls hw (lo_weak i hl)
theorem r_iload_n {j : Fin 4} (i : Nat) {x : Int32} (h : Ck X cc) (d : decode cc pc = .ok (.iload_n j, 1)) (hi : (j : Nat) = i) (hx : lv[i]? = some (some (.int x))) (k : CG X u (pc + 1) lv (.int x :: st)) : CG X u pc lv st := by
  obtain ⟨p, l, e, R, s, m, args, below, meth, c, cells, slots, nL, Q, wd⟩ := X
  intro H locs ls hw hl
  exact lv_iload_n h.1 h.2 d hi (hl.2.2.2 i _ hx).1 (k H locs ls hw hl)
theorem r_iload (i : Nat) {x : Int32} (h : Ck X cc) (d : decode cc pc = .ok (.iload i, 2)) (hx : lv[i]? = some (some (.int x))) (k : CG X u (pc + 2) lv (.int x :: st)) : CG X u pc lv st := by
  obtain ⟨p, l, e, R, s, m, args, below, meth, c, cells, slots, nL, Q, wd⟩ := X
  intro H locs ls hw hl
  exact lv_iload h.1 h.2 d (hl.2.2.2 i _ hx).1 (k H locs ls hw hl)
theorem r_aload_n {j : Fin 4} (i : Nat) {x : Nat} (h : Ck X cc) (d : decode cc pc = .ok (.aload_n j, 1)) (hi : (j : Nat) = i) (hx : lv[i]? = some (some (.ref x))) (k : CG X u (pc + 1) lv (.ref x :: st)) : CG X u pc lv st := by
  obtain ⟨p, l, e, R, s, m, args, below, meth, c, cells, slots, nL, Q, wd⟩ := X
  intro H locs ls hw hl
  exact lv_aload_n h.1 h.2 d hi (hl.2.2.2 i _ hx).1 (k H locs ls hw hl)
theorem r_aload (i : Nat) {x : Nat} (h : Ck X cc) (d : decode cc pc = .ok (.aload i, 2)) (hx : lv[i]? = some (some (.ref x))) (k : CG X u (pc + 2) lv (.ref x :: st)) : CG X u pc lv st := by
  obtain ⟨p, l, e, R, s, m, args, below, meth, c, cells, slots, nL, Q, wd⟩ := X
  intro H locs ls hw hl
  exact lv_aload h.1 h.2 d (hl.2.2.2 i _ hx).1 (k H locs ls hw hl)
theorem r_istore_n {j : Fin 4} (i : Nat) {x : Int32} (h : Ck X cc) (d : decode cc pc = .ok (.istore_n j, 1)) (hi : (j : Nat) = i) (hn : i < lv.length) (hx : lv.set i (some (.int x)) = lv') (k : CG X u (pc + 1) lv' st) : CG X u pc lv (.int x :: st) := by
  subst hx
  obtain ⟨p, l, e, R, s, m, args, below, meth, c, cells, slots, nL, Q, wd⟩ := X
  intro H locs ls hw hl
  exact lv_istore_n h.1 h.2 d hi (lo_has hl) (by rw [← hl.2.1]; exact hn) rfl (fun ls' hl' => k H locs ls' hw (lo_set hl hn rfl hl'))
theorem r_istore (i : Nat) {x : Int32} (h : Ck X cc) (d : decode cc pc = .ok (.istore i, 2)) (hn : i < lv.length) (hx : lv.set i (some (.int x)) = lv') (k : CG X u (pc + 2) lv' st) : CG X u pc lv (.int x :: st) := by
  subst hx
  obtain ⟨p, l, e, R, s, m, args, below, meth, c, cells, slots, nL, Q, wd⟩ := X
  intro H locs ls hw hl
  exact lv_istore h.1 h.2 d (lo_has hl) (by rw [← hl.2.1]; exact hn) rfl (fun ls' hl' => k H locs ls' hw (lo_set hl hn rfl hl'))
theorem r_astore_n {j : Fin 4} (i : Nat) {x : Nat} (h : Ck X cc) (d : decode cc pc = .ok (.astore_n j, 1)) (hi : (j : Nat) = i) (hn : i < lv.length) (hx : lv.set i (some (.ref x)) = lv') (k : CG X u (pc + 1) lv' st) : CG X u pc lv (.ref x :: st) := by
  subst hx
  obtain ⟨p, l, e, R, s, m, args, below, meth, c, cells, slots, nL, Q, wd⟩ := X
  intro H locs ls hw hl
  exact lv_astore_n h.1 h.2 d hi (lo_has hl) (by rw [← hl.2.1]; exact hn) rfl (fun ls' hl' => k H locs ls' hw (lo_set hl hn rfl hl'))
theorem r_astore (i : Nat) {x : Nat} (h : Ck X cc) (d : decode cc pc = .ok (.astore i, 2)) (hn : i < lv.length) (hx : lv.set i (some (.ref x)) = lv') (k : CG X u (pc + 2) lv' st) : CG X u pc lv (.ref x :: st) := by
  subst hx
  obtain ⟨p, l, e, R, s, m, args, below, meth, c, cells, slots, nL, Q, wd⟩ := X
  intro H locs ls hw hl
  exact lv_astore h.1 h.2 d (lo_has hl) (by rw [← hl.2.1]; exact hn) rfl (fun ls' hl' => k H locs ls' hw (lo_set hl hn rfl hl'))
theorem lvp_at {lv : List (Option Value)} {i : Nat} {v : Value} (h : lv[i]? = some (some v)) : ∃ k : Nat, (lvp 0 lv)[k]? = some (i, v) := by
  have := lvp_mem lv 0 i v h
  rw [Nat.zero_add] at this
  exact List.getElem?_of_mem this
theorem r_iinc (i : Nat) {n : Int} {x : Int32} (y : Int32) (h : Ck X cc) (d : decode cc pc = .ok (.iinc i n, 3)) (hx : lv[i]? = some (some (.int x))) (hy : x + Int32.ofInt n = y) (hn : i < lv.length) (hl' : lv.set i (some (.int y)) = lv') (k : CG X u (pc + 3) lv' st) : CG X u pc lv st := by
  subst hl'
  obtain ⟨p, l, e, R, s, m, args, below, meth, c, cells, slots, nL, Q, wd⟩ := X
  intro H locs ls hw hl
  obtain ⟨q, hq⟩ := lvp_at hx
  exact lv_iinc (k := q) (v := y) h.1 h.2 d (lo_has hl) hq hy (by rw [← hl.2.1]; exact hn) rfl (fun ls' hl' => k H locs ls' hw (lo_set hl hn rfl hl'))
theorem r_iincN (i : Nat) {a : Nat} (h : Ck X cc) (d : decode cc pc = .ok (.iinc i 1, 3)) (hx : lv[i]? = some (some (.int (nI a)))) (hn : i < lv.length) (hl' : lv.set i (some (.int (nI (a + 1)))) = lv') (k : CG X u (pc + 3) lv' st) : CG X u pc lv st := r_iinc i (nI (a + 1)) h d hx (nI_1 a) hn hl' k
theorem r_dup {v : Value} (h : Ck X cc) (d : decode cc pc = .ok (.dup, 1)) (hv : v.category = 1) (k : CG X u (pc + 1) lv (v :: v :: st)) : CG X u pc lv (v :: st) := by
  obtain ⟨p, l, e, R, s, m, args, below, meth, c, cells, slots, nL, Q, wd⟩ := X
  intro H locs ls hw hl
  exact lv_dup h.1 h.2 d hv (k H locs ls hw hl)
theorem r_pop {v : Value} (h : Ck X cc) (d : decode cc pc = .ok (.pop, 1)) (hv : v.category = 1) (k : CG X u (pc + 1) lv st) : CG X u pc lv (v :: st) := by
  obtain ⟨p, l, e, R, s, m, args, below, meth, c, cells, slots, nL, Q, wd⟩ := X
  intro H locs ls hw hl
  exact lv_pop h.1 h.2 d hv (k H locs ls hw hl)
theorem r_dup2 {v w : Value} (h : Ck X cc) (d : decode cc pc = .ok (.dup2, 1)) (hv : v.category = 1) (hw : w.category = 1) (k : CG X u (pc + 1) lv (v :: w :: v :: w :: st)) : CG X u pc lv (v :: w :: st) := by
  obtain ⟨p, l, e, R, s, m, args, below, meth, c, cells, slots, nL, Q, wd⟩ := X
  intro H locs ls hwd hl
  exact lv_dup2_11 h.1 h.2 d hv hw (k H locs ls hwd hl)
theorem r_goto {off : Int} (tgt : Nat) (h : Ck X cc) (d : decode cc pc = .ok (.goto off, 3)) (ht : (pc : Int) + off = (tgt : Int)) (k : CG X u tgt lv st) : CG X u pc lv st := by
  obtain ⟨p, l, e, R, s, m, args, below, meth, c, cells, slots, nL, Q, wd⟩ := X
  intro H locs ls hw hl
  exact lv_goto h.1 h.2 d ht (k H locs ls hw hl)
theorem r_icmp_eq {x y : Int32} {off : Int} (tgt : Nat) (h : Ck X cc) (d : decode cc pc = .ok (.if_icmp .eq off, 3)) (ht : (pc : Int) + off = (tgt : Int)) (kt : x = y → CG X u tgt lv st) (kf : ¬ x = y → CG X u (pc + 3) lv st) : CG X u pc lv (.int y :: .int x :: st) := by
  obtain ⟨p, l, e, R, s, m, args, below, meth, c, cells, slots, nL, Q, wd⟩ := X
  intro H locs ls hw hl
  exact lv_icmp_eq h.1 h.2 d ht (fun q => kt q H locs ls hw hl) (fun q => kf q H locs ls hw hl)
theorem r_icmp_eqN {a b : Nat} {off : Int} (tgt : Nat) (h : Ck X cc) (d : decode cc pc = .ok (.if_icmp .eq off, 3)) (ht : (pc : Int) + off = (tgt : Int)) (ha : a < 2 ^ 31) (hb : b < 2 ^ 31) (kt : a = b → CG X u tgt lv st) (kf : a ≠ b → CG X u (pc + 3) lv st) : CG X u pc lv (.int (nI b) :: .int (nI a) :: st) := r_icmp_eq tgt h d ht (fun q => kt ((nI_eq ha hb).mp q)) (fun q => kf (fun z => q ((nI_eq ha hb).mpr z)))
theorem r_icmp_eqNT {a b : Nat} {off : Int} (tgt : Nat) (h : Ck X cc) (d : decode cc pc = .ok (.if_icmp .eq off, 3)) (ht : (pc : Int) + off = (tgt : Int)) (hq : a = b ∧ a < 2 ^ 31 ∧ b < 2 ^ 31) (kt : CG X u tgt lv st) : CG X u pc lv (.int (nI b) :: .int (nI a) :: st) := r_icmp_eqN tgt h d ht hq.2.1 hq.2.2 (fun _ => kt) (fun q => absurd hq.1 (by omega))
theorem r_icmp_eqNF {a b : Nat} {off : Int} (tgt : Nat) (h : Ck X cc) (d : decode cc pc = .ok (.if_icmp .eq off, 3)) (ht : (pc : Int) + off = (tgt : Int)) (hq : a ≠ b ∧ a < 2 ^ 31 ∧ b < 2 ^ 31) (kf : CG X u (pc + 3) lv st) : CG X u pc lv (.int (nI b) :: .int (nI a) :: st) := r_icmp_eqN tgt h d ht hq.2.1 hq.2.2 (fun q => absurd hq.1 (by omega)) (fun _ => kf)
theorem r_icmp_ne {x y : Int32} {off : Int} (tgt : Nat) (h : Ck X cc) (d : decode cc pc = .ok (.if_icmp .ne off, 3)) (ht : (pc : Int) + off = (tgt : Int)) (kt : ¬ x = y → CG X u tgt lv st) (kf : x = y → CG X u (pc + 3) lv st) : CG X u pc lv (.int y :: .int x :: st) := by
  obtain ⟨p, l, e, R, s, m, args, below, meth, c, cells, slots, nL, Q, wd⟩ := X
  intro H locs ls hw hl
  exact lv_icmp_ne h.1 h.2 d ht (fun q => kt q H locs ls hw hl) (fun q => kf q H locs ls hw hl)
theorem r_icmp_neN {a b : Nat} {off : Int} (tgt : Nat) (h : Ck X cc) (d : decode cc pc = .ok (.if_icmp .ne off, 3)) (ht : (pc : Int) + off = (tgt : Int)) (ha : a < 2 ^ 31) (hb : b < 2 ^ 31) (kt : a ≠ b → CG X u tgt lv st) (kf : a = b → CG X u (pc + 3) lv st) : CG X u pc lv (.int (nI b) :: .int (nI a) :: st) := r_icmp_ne tgt h d ht (fun q => kt (fun z => q ((nI_eq ha hb).mpr z))) (fun q => kf ((nI_eq ha hb).mp q))
theorem r_icmp_neNT {a b : Nat} {off : Int} (tgt : Nat) (h : Ck X cc) (d : decode cc pc = .ok (.if_icmp .ne off, 3)) (ht : (pc : Int) + off = (tgt : Int)) (hq : a ≠ b ∧ a < 2 ^ 31 ∧ b < 2 ^ 31) (kt : CG X u tgt lv st) : CG X u pc lv (.int (nI b) :: .int (nI a) :: st) := r_icmp_neN tgt h d ht hq.2.1 hq.2.2 (fun _ => kt) (fun q => absurd hq.1 (by omega))
theorem r_icmp_neNF {a b : Nat} {off : Int} (tgt : Nat) (h : Ck X cc) (d : decode cc pc = .ok (.if_icmp .ne off, 3)) (ht : (pc : Int) + off = (tgt : Int)) (hq : a = b ∧ a < 2 ^ 31 ∧ b < 2 ^ 31) (kf : CG X u (pc + 3) lv st) : CG X u pc lv (.int (nI b) :: .int (nI a) :: st) := r_icmp_neN tgt h d ht hq.2.1 hq.2.2 (fun q => absurd hq.1 (by omega)) (fun _ => kf)
theorem r_icmp_lt {x y : Int32} {off : Int} (tgt : Nat) (h : Ck X cc) (d : decode cc pc = .ok (.if_icmp .lt off, 3)) (ht : (pc : Int) + off = (tgt : Int)) (kt : x < y → CG X u tgt lv st) (kf : ¬ x < y → CG X u (pc + 3) lv st) : CG X u pc lv (.int y :: .int x :: st) := by
  obtain ⟨p, l, e, R, s, m, args, below, meth, c, cells, slots, nL, Q, wd⟩ := X
  intro H locs ls hw hl
  exact lv_icmp_lt h.1 h.2 d ht (fun q => kt q H locs ls hw hl) (fun q => kf q H locs ls hw hl)
theorem r_icmp_ltN {a b : Nat} {off : Int} (tgt : Nat) (h : Ck X cc) (d : decode cc pc = .ok (.if_icmp .lt off, 3)) (ht : (pc : Int) + off = (tgt : Int)) (ha : a < 2 ^ 31) (hb : b < 2 ^ 31) (kt : a < b → CG X u tgt lv st) (kf : b ≤ a → CG X u (pc + 3) lv st) : CG X u pc lv (.int (nI b) :: .int (nI a) :: st) := r_icmp_lt tgt h d ht (fun q => kt ((nI_ltI ha hb).mp q)) (fun q => kf (Nat.not_lt.mp (fun z => q ((nI_ltI ha hb).mpr z))))
theorem r_icmp_ltNT {a b : Nat} {off : Int} (tgt : Nat) (h : Ck X cc) (d : decode cc pc = .ok (.if_icmp .lt off, 3)) (ht : (pc : Int) + off = (tgt : Int)) (hq : a < b ∧ a < 2 ^ 31 ∧ b < 2 ^ 31) (kt : CG X u tgt lv st) : CG X u pc lv (.int (nI b) :: .int (nI a) :: st) := r_icmp_ltN tgt h d ht hq.2.1 hq.2.2 (fun _ => kt) (fun q => absurd hq.1 (by omega))
theorem r_icmp_ltNF {a b : Nat} {off : Int} (tgt : Nat) (h : Ck X cc) (d : decode cc pc = .ok (.if_icmp .lt off, 3)) (ht : (pc : Int) + off = (tgt : Int)) (hq : b ≤ a ∧ a < 2 ^ 31 ∧ b < 2 ^ 31) (kf : CG X u (pc + 3) lv st) : CG X u pc lv (.int (nI b) :: .int (nI a) :: st) := r_icmp_ltN tgt h d ht hq.2.1 hq.2.2 (fun q => absurd hq.1 (by omega)) (fun _ => kf)
theorem r_icmp_ge {x y : Int32} {off : Int} (tgt : Nat) (h : Ck X cc) (d : decode cc pc = .ok (.if_icmp .ge off, 3)) (ht : (pc : Int) + off = (tgt : Int)) (kt : y ≤ x → CG X u tgt lv st) (kf : ¬ y ≤ x → CG X u (pc + 3) lv st) : CG X u pc lv (.int y :: .int x :: st) := by
  obtain ⟨p, l, e, R, s, m, args, below, meth, c, cells, slots, nL, Q, wd⟩ := X
  intro H locs ls hw hl
  exact lv_icmp_ge h.1 h.2 d ht (fun q => kt q H locs ls hw hl) (fun q => kf q H locs ls hw hl)
theorem r_icmp_geN {a b : Nat} {off : Int} (tgt : Nat) (h : Ck X cc) (d : decode cc pc = .ok (.if_icmp .ge off, 3)) (ht : (pc : Int) + off = (tgt : Int)) (ha : a < 2 ^ 31) (hb : b < 2 ^ 31) (kt : b ≤ a → CG X u tgt lv st) (kf : a < b → CG X u (pc + 3) lv st) : CG X u pc lv (.int (nI b) :: .int (nI a) :: st) := r_icmp_ge tgt h d ht (fun q => kt ((nI_leI hb ha).mp q)) (fun q => kf (Nat.not_le.mp (fun z => q ((nI_leI hb ha).mpr z))))
theorem r_icmp_geNT {a b : Nat} {off : Int} (tgt : Nat) (h : Ck X cc) (d : decode cc pc = .ok (.if_icmp .ge off, 3)) (ht : (pc : Int) + off = (tgt : Int)) (hq : b ≤ a ∧ a < 2 ^ 31 ∧ b < 2 ^ 31) (kt : CG X u tgt lv st) : CG X u pc lv (.int (nI b) :: .int (nI a) :: st) := r_icmp_geN tgt h d ht hq.2.1 hq.2.2 (fun _ => kt) (fun q => absurd hq.1 (by omega))
theorem r_icmp_geNF {a b : Nat} {off : Int} (tgt : Nat) (h : Ck X cc) (d : decode cc pc = .ok (.if_icmp .ge off, 3)) (ht : (pc : Int) + off = (tgt : Int)) (hq : a < b ∧ a < 2 ^ 31 ∧ b < 2 ^ 31) (kf : CG X u (pc + 3) lv st) : CG X u pc lv (.int (nI b) :: .int (nI a) :: st) := r_icmp_geN tgt h d ht hq.2.1 hq.2.2 (fun q => absurd hq.1 (by omega)) (fun _ => kf)
theorem r_icmp_gt {x y : Int32} {off : Int} (tgt : Nat) (h : Ck X cc) (d : decode cc pc = .ok (.if_icmp .gt off, 3)) (ht : (pc : Int) + off = (tgt : Int)) (kt : y < x → CG X u tgt lv st) (kf : ¬ y < x → CG X u (pc + 3) lv st) : CG X u pc lv (.int y :: .int x :: st) := by
  obtain ⟨p, l, e, R, s, m, args, below, meth, c, cells, slots, nL, Q, wd⟩ := X
  intro H locs ls hw hl
  exact lv_icmp_gt h.1 h.2 d ht (fun q => kt q H locs ls hw hl) (fun q => kf q H locs ls hw hl)
theorem r_icmp_gtN {a b : Nat} {off : Int} (tgt : Nat) (h : Ck X cc) (d : decode cc pc = .ok (.if_icmp .gt off, 3)) (ht : (pc : Int) + off = (tgt : Int)) (ha : a < 2 ^ 31) (hb : b < 2 ^ 31) (kt : b < a → CG X u tgt lv st) (kf : a ≤ b → CG X u (pc + 3) lv st) : CG X u pc lv (.int (nI b) :: .int (nI a) :: st) := r_icmp_gt tgt h d ht (fun q => kt ((nI_ltI hb ha).mp q)) (fun q => kf (Nat.not_lt.mp (fun z => q ((nI_ltI hb ha).mpr z))))
theorem r_icmp_gtNT {a b : Nat} {off : Int} (tgt : Nat) (h : Ck X cc) (d : decode cc pc = .ok (.if_icmp .gt off, 3)) (ht : (pc : Int) + off = (tgt : Int)) (hq : b < a ∧ a < 2 ^ 31 ∧ b < 2 ^ 31) (kt : CG X u tgt lv st) : CG X u pc lv (.int (nI b) :: .int (nI a) :: st) := r_icmp_gtN tgt h d ht hq.2.1 hq.2.2 (fun _ => kt) (fun q => absurd hq.1 (by omega))
theorem r_icmp_gtNF {a b : Nat} {off : Int} (tgt : Nat) (h : Ck X cc) (d : decode cc pc = .ok (.if_icmp .gt off, 3)) (ht : (pc : Int) + off = (tgt : Int)) (hq : a ≤ b ∧ a < 2 ^ 31 ∧ b < 2 ^ 31) (kf : CG X u (pc + 3) lv st) : CG X u pc lv (.int (nI b) :: .int (nI a) :: st) := r_icmp_gtN tgt h d ht hq.2.1 hq.2.2 (fun q => absurd hq.1 (by omega)) (fun _ => kf)
theorem r_icmp_le {x y : Int32} {off : Int} (tgt : Nat) (h : Ck X cc) (d : decode cc pc = .ok (.if_icmp .le off, 3)) (ht : (pc : Int) + off = (tgt : Int)) (kt : x ≤ y → CG X u tgt lv st) (kf : ¬ x ≤ y → CG X u (pc + 3) lv st) : CG X u pc lv (.int y :: .int x :: st) := by
  obtain ⟨p, l, e, R, s, m, args, below, meth, c, cells, slots, nL, Q, wd⟩ := X
  intro H locs ls hw hl
  exact lv_icmp_le h.1 h.2 d ht (fun q => kt q H locs ls hw hl) (fun q => kf q H locs ls hw hl)
theorem r_icmp_leN {a b : Nat} {off : Int} (tgt : Nat) (h : Ck X cc) (d : decode cc pc = .ok (.if_icmp .le off, 3)) (ht : (pc : Int) + off = (tgt : Int)) (ha : a < 2 ^ 31) (hb : b < 2 ^ 31) (kt : a ≤ b → CG X u tgt lv st) (kf : b < a → CG X u (pc + 3) lv st) : CG X u pc lv (.int (nI b) :: .int (nI a) :: st) := r_icmp_le tgt h d ht (fun q => kt ((nI_leI ha hb).mp q)) (fun q => kf (Nat.not_le.mp (fun z => q ((nI_leI ha hb).mpr z))))
theorem r_icmp_leNT {a b : Nat} {off : Int} (tgt : Nat) (h : Ck X cc) (d : decode cc pc = .ok (.if_icmp .le off, 3)) (ht : (pc : Int) + off = (tgt : Int)) (hq : a ≤ b ∧ a < 2 ^ 31 ∧ b < 2 ^ 31) (kt : CG X u tgt lv st) : CG X u pc lv (.int (nI b) :: .int (nI a) :: st) := r_icmp_leN tgt h d ht hq.2.1 hq.2.2 (fun _ => kt) (fun q => absurd hq.1 (by omega))
theorem r_icmp_leNF {a b : Nat} {off : Int} (tgt : Nat) (h : Ck X cc) (d : decode cc pc = .ok (.if_icmp .le off, 3)) (ht : (pc : Int) + off = (tgt : Int)) (hq : b < a ∧ a < 2 ^ 31 ∧ b < 2 ^ 31) (kf : CG X u (pc + 3) lv st) : CG X u pc lv (.int (nI b) :: .int (nI a) :: st) := r_icmp_leN tgt h d ht hq.2.1 hq.2.2 (fun q => absurd hq.1 (by omega)) (fun _ => kf)
theorem r_if_eq {x : Int32} {off : Int} (tgt : Nat) (h : Ck X cc) (d : decode cc pc = .ok (.ifCond .eq off, 3)) (ht : (pc : Int) + off = (tgt : Int)) (kt : x = 0 → CG X u tgt lv st) (kf : ¬ x = 0 → CG X u (pc + 3) lv st) : CG X u pc lv (.int x :: st) := by
  obtain ⟨p, l, e, R, s, m, args, below, meth, c, cells, slots, nL, Q, wd⟩ := X
  intro H locs ls hw hl
  exact lv_if_eq h.1 h.2 d ht (fun q => kt q H locs ls hw hl) (fun q => kf q H locs ls hw hl)
theorem r_if_eqT {x : Int32} {off : Int} (tgt : Nat) (h : Ck X cc) (d : decode cc pc = .ok (.ifCond .eq off, 3)) (ht : (pc : Int) + off = (tgt : Int)) (hq : x = 0) (kt : CG X u tgt lv st) : CG X u pc lv (.int x :: st) := r_if_eq tgt h d ht (fun _ => kt) (fun q => absurd hq q)
theorem r_if_eqF {x : Int32} {off : Int} (tgt : Nat) (h : Ck X cc) (d : decode cc pc = .ok (.ifCond .eq off, 3)) (ht : (pc : Int) + off = (tgt : Int)) (hq : ¬ x = 0) (kf : CG X u (pc + 3) lv st) : CG X u pc lv (.int x :: st) := r_if_eq tgt h d ht (fun q => absurd q hq) (fun _ => kf)
theorem r_if_ne {x : Int32} {off : Int} (tgt : Nat) (h : Ck X cc) (d : decode cc pc = .ok (.ifCond .ne off, 3)) (ht : (pc : Int) + off = (tgt : Int)) (kt : ¬ x = 0 → CG X u tgt lv st) (kf : x = 0 → CG X u (pc + 3) lv st) : CG X u pc lv (.int x :: st) := by
  obtain ⟨p, l, e, R, s, m, args, below, meth, c, cells, slots, nL, Q, wd⟩ := X
  intro H locs ls hw hl
  exact lv_if_ne h.1 h.2 d ht (fun q => kt q H locs ls hw hl) (fun q => kf q H locs ls hw hl)
theorem r_if_neT {x : Int32} {off : Int} (tgt : Nat) (h : Ck X cc) (d : decode cc pc = .ok (.ifCond .ne off, 3)) (ht : (pc : Int) + off = (tgt : Int)) (hq : ¬ x = 0) (kt : CG X u tgt lv st) : CG X u pc lv (.int x :: st) := r_if_ne tgt h d ht (fun _ => kt) (fun q => absurd hq (fun z => z q))
theorem r_if_neF {x : Int32} {off : Int} (tgt : Nat) (h : Ck X cc) (d : decode cc pc = .ok (.ifCond .ne off, 3)) (ht : (pc : Int) + off = (tgt : Int)) (hq : x = 0) (kf : CG X u (pc + 3) lv st) : CG X u pc lv (.int x :: st) := r_if_ne tgt h d ht (fun q => absurd hq q) (fun _ => kf)
theorem r_if_lt {x : Int32} {off : Int} (tgt : Nat) (h : Ck X cc) (d : decode cc pc = .ok (.ifCond .lt off, 3)) (ht : (pc : Int) + off = (tgt : Int)) (kt : x < 0 → CG X u tgt lv st) (kf : ¬ x < 0 → CG X u (pc + 3) lv st) : CG X u pc lv (.int x :: st) := by
  obtain ⟨p, l, e, R, s, m, args, below, meth, c, cells, slots, nL, Q, wd⟩ := X
  intro H locs ls hw hl
  exact lv_if_lt h.1 h.2 d ht (fun q => kt q H locs ls hw hl) (fun q => kf q H locs ls hw hl)
theorem r_if_ltT {x : Int32} {off : Int} (tgt : Nat) (h : Ck X cc) (d : decode cc pc = .ok (.ifCond .lt off, 3)) (ht : (pc : Int) + off = (tgt : Int)) (hq : x < 0) (kt : CG X u tgt lv st) : CG X u pc lv (.int x :: st) := r_if_lt tgt h d ht (fun _ => kt) (fun q => absurd hq q)
theorem r_if_ltF {x : Int32} {off : Int} (tgt : Nat) (h : Ck X cc) (d : decode cc pc = .ok (.ifCond .lt off, 3)) (ht : (pc : Int) + off = (tgt : Int)) (hq : ¬ x < 0) (kf : CG X u (pc + 3) lv st) : CG X u pc lv (.int x :: st) := r_if_lt tgt h d ht (fun q => absurd q hq) (fun _ => kf)
theorem r_if_ge {x : Int32} {off : Int} (tgt : Nat) (h : Ck X cc) (d : decode cc pc = .ok (.ifCond .ge off, 3)) (ht : (pc : Int) + off = (tgt : Int)) (kt : 0 ≤ x → CG X u tgt lv st) (kf : ¬ 0 ≤ x → CG X u (pc + 3) lv st) : CG X u pc lv (.int x :: st) := by
  obtain ⟨p, l, e, R, s, m, args, below, meth, c, cells, slots, nL, Q, wd⟩ := X
  intro H locs ls hw hl
  exact lv_if_ge h.1 h.2 d ht (fun q => kt q H locs ls hw hl) (fun q => kf q H locs ls hw hl)
theorem r_if_geT {x : Int32} {off : Int} (tgt : Nat) (h : Ck X cc) (d : decode cc pc = .ok (.ifCond .ge off, 3)) (ht : (pc : Int) + off = (tgt : Int)) (hq : 0 ≤ x) (kt : CG X u tgt lv st) : CG X u pc lv (.int x :: st) := r_if_ge tgt h d ht (fun _ => kt) (fun q => absurd hq q)
theorem r_if_geF {x : Int32} {off : Int} (tgt : Nat) (h : Ck X cc) (d : decode cc pc = .ok (.ifCond .ge off, 3)) (ht : (pc : Int) + off = (tgt : Int)) (hq : ¬ 0 ≤ x) (kf : CG X u (pc + 3) lv st) : CG X u pc lv (.int x :: st) := r_if_ge tgt h d ht (fun q => absurd q hq) (fun _ => kf)
theorem r_if_gt {x : Int32} {off : Int} (tgt : Nat) (h : Ck X cc) (d : decode cc pc = .ok (.ifCond .gt off, 3)) (ht : (pc : Int) + off = (tgt : Int)) (kt : 0 < x → CG X u tgt lv st) (kf : ¬ 0 < x → CG X u (pc + 3) lv st) : CG X u pc lv (.int x :: st) := by
  obtain ⟨p, l, e, R, s, m, args, below, meth, c, cells, slots, nL, Q, wd⟩ := X
  intro H locs ls hw hl
  exact lv_if_gt h.1 h.2 d ht (fun q => kt q H locs ls hw hl) (fun q => kf q H locs ls hw hl)
theorem r_if_gtT {x : Int32} {off : Int} (tgt : Nat) (h : Ck X cc) (d : decode cc pc = .ok (.ifCond .gt off, 3)) (ht : (pc : Int) + off = (tgt : Int)) (hq : 0 < x) (kt : CG X u tgt lv st) : CG X u pc lv (.int x :: st) := r_if_gt tgt h d ht (fun _ => kt) (fun q => absurd hq q)
theorem r_if_gtF {x : Int32} {off : Int} (tgt : Nat) (h : Ck X cc) (d : decode cc pc = .ok (.ifCond .gt off, 3)) (ht : (pc : Int) + off = (tgt : Int)) (hq : ¬ 0 < x) (kf : CG X u (pc + 3) lv st) : CG X u pc lv (.int x :: st) := r_if_gt tgt h d ht (fun q => absurd q hq) (fun _ => kf)
theorem r_if_le {x : Int32} {off : Int} (tgt : Nat) (h : Ck X cc) (d : decode cc pc = .ok (.ifCond .le off, 3)) (ht : (pc : Int) + off = (tgt : Int)) (kt : x ≤ 0 → CG X u tgt lv st) (kf : ¬ x ≤ 0 → CG X u (pc + 3) lv st) : CG X u pc lv (.int x :: st) := by
  obtain ⟨p, l, e, R, s, m, args, below, meth, c, cells, slots, nL, Q, wd⟩ := X
  intro H locs ls hw hl
  exact lv_if_le h.1 h.2 d ht (fun q => kt q H locs ls hw hl) (fun q => kf q H locs ls hw hl)
theorem r_if_leT {x : Int32} {off : Int} (tgt : Nat) (h : Ck X cc) (d : decode cc pc = .ok (.ifCond .le off, 3)) (ht : (pc : Int) + off = (tgt : Int)) (hq : x ≤ 0) (kt : CG X u tgt lv st) : CG X u pc lv (.int x :: st) := r_if_le tgt h d ht (fun _ => kt) (fun q => absurd hq q)
theorem r_if_leF {x : Int32} {off : Int} (tgt : Nat) (h : Ck X cc) (d : decode cc pc = .ok (.ifCond .le off, 3)) (ht : (pc : Int) + off = (tgt : Int)) (hq : ¬ x ≤ 0) (kf : CG X u (pc + 3) lv st) : CG X u pc lv (.int x :: st) := r_if_le tgt h d ht (fun q => absurd q hq) (fun _ => kf)
end FW
end
section
theorem fw_sl {vs : List Value} (h : ∀ v ∈ vs, v.category = 1) : (lg_sl vs).length = vs.length := by
  induction vs with
  | nil => rfl
  | cons v vs ih =>
    have hv : v.category = 1 := h v List.mem_cons_self
    have := ih (fun w hw => h w (List.mem_cons_of_mem _ hw))
    simp only [lg_sl, List.flatMap_cons, hv] at this ⊢
    simp only [show ¬ (1 : Nat) = 2 by decide, if_false, List.length_append, List.length_cons, List.length_nil]
    omega
abbrev vwCl : List vw_C := [(RX1, TX1, 11), (RX2, TX2, 6)]
abbrev tyA (dZ dN : ClassId) : List (ClassId × FieldType) := [(dZ, .boolean), (dN, .int)]
def Rm (lev : Nat) : Room := { frames := lev, cells := 0, slots := 0, locals := 30 * lev }
/-- what a call through an object asks of the tables -/
abbrev KI (own : String) (idx : Nat) (y : MethodName) (b : ByteArray) (L : Nat) (r : Option FieldType) (n : Nat) : Prop := (Cond.methodLink own idx y ∈ lw_all ∧ Cond.instanceMethod y ∈ lw_all ∧ Cond.selects y.cls y y ∈ lw_all ∧ Cond.initialized y.cls ∈ lw_all ∧ Cond.code y b L r ∈ lw_all) ∧ (y.cls ≠ "java/lang/invoke/MethodHandle" ∧ y.cls ≠ "java/lang/invoke/VarHandle" ∧ (parseMethodDescriptor y.desc).map (fun d => d.parameters.length) = some n)
/-- what a static call asks of the tables -/
abbrev KS (own : String) (idx : Nat) (y : MethodName) (b : ByteArray) (L : Nat) (r : Option FieldType) (n : Nat) : Prop := (Cond.methodLink own idx y ∈ lw_all ∧ Cond.static y ∈ lw_all ∧ Cond.initialized y.cls ∈ lw_all ∧ Cond.code y b L r ∈ lw_all) ∧ (y.cls ≠ "java/lang/invoke/MethodHandle" ∧ y.cls ≠ "java/lang/invoke/VarHandle" ∧ (parseMethodDescriptor y.desc).map (fun d => d.parameters.length) = some n)
/-- a static method's contract: it answers r, the heap's old cells stay -/
def mS (y : MethodName) (b : ByteArray) (L : Nat) (rt : FieldType) (lev : Nat) (As : List Value) (r : Int32) : Prop := ∀ (l : Launch), Met l y (ws_ y b L (some rt)) (Rm lev) (va_Pc As (fun _ => True)) (va_Qi (fun (r' : Int32) (_ : Unit) => r' = r) (fun _ _ => True) (fun _ => False)) 0 0 (fun _ => False)
def wdS (s : State) : Unit → Heap → List Loc → Prop := fun _ H locs => va_S (fun _ => False) s.heap H locs
theorem e_S {y : MethodName} {b : ByteArray} {L : Nat} {rt : FieldType} {lev : Nat} {As : List Value} {r : Int32} (lv0 : List (Option Value)) (hy : plainName y.cls = true) (hnar : narrow rt (.int r) = .int r) (hlen : As.length ≤ L) (hcat : ∀ v ∈ As, v.category = 1) (hlv : As.map some ++ List.replicate (L - As.length) none = lv0)
    (body : ∀ X : XX Unit, Ck X b → (∀ (pc : Nat) (lv : List (Option Value)) (v : Int32), decode b pc = .ok (.ireturn, 1) → v = r → CG X () pc lv [.int v]) → CG X () 0 lv0 []) : mS y b L rt lev As r := by
  intro l
  subst hlv
  refine Met.ofW (cc := b) (maxL := L) (ret := some rt) hy rfl ?_
  intro p e s m args below meth c s₁ B hml hv
  obtain ⟨rfl, -⟩ := hv
  have hS : va_S (fun _ => False) s.heap s.heap [] := va_S.rf
  have hsl : (lg_sl As).length = As.length := fw_sl hcat
  have hl := lv_entry As (n := L) (by rw [hsl]; exact hlen)
  rw [lg_entry_eq]
  have hl2 := lo_entry hl hlen hcat
  have := body (p, l, e, (headSpec (ws_ y b L (some rt)) (Rm lev)).room, s, m, As.toArray, below, meth, c, 0, 0, L, MQ below (va_Qi (fun (r' : Int32) (_ : Unit) => r' = r) (fun _ _ => True) (fun _ => False)) As.toArray s 0 0 (fun _ => False), wdS s) ⟨B.exec, B.bytes⟩ ?_
  · exact this s.heap [] _ hS hl2
  · intro pc lv v d e
    subst e
    intro H locs ls hw _
    have hlocks := B.notSynchronized
    exact W.zret B.exec B.bytes B.returns hnar (fun t ht hW => ⟨⟨v, (), rfl, rfl, trivial⟩, va_S.F hw ht⟩) hw.2.2 d
/-! the world of ChunkCluster -/
def fsC (h : Nat → Nat) (u : Pst) : List Value := [.int (u 0 0), .ref (h 1), .ref (h 2), .ref (h 3), .int (u 4 0), .ref (h 5), .ref (h 6), .ref (h 7), .ref (h 8), .ref (h 9), .ref (h 10)]
def cwC (dZ dN : ClassId) (h : Nat → Nat) (u : Pst) : va_W := [(h 0, .inr (0, fsC h u)), (h 1, .inl (dZ, 5, .inl (u 1))), (h 2, .inl (dZ, 4, .inl (u 2))), (h 3, .inl (dN, 4, .inl (u 3))), (h 5, .inl (dN, 20, .inl (u 5))), (h 6, .inl (dN, 20, .inl (u 6))), (h 7, .inl (dN, 120, .inl (u 7))), (h 8, .inl (dN, 20, .inl (u 8))), (h 9, .inl (dN, 20, .inl (u 9))), (h 10, .inl (dN, 20, .inl (u 10)))]
def wdC (D : va_G) (dZ dN : ClassId) (h : Nat → Nat) (A : Nat → Prop) (s : State) : Pst → Heap → List Loc → Prop := fun u H locs => va_P D vwCl (cwC dZ dN h u) H ∧ va_D A (cwC dZ dN h u) ∧ va_S A s.heap H locs
def CkC (X : XX Pst) (cc : ByteArray) (lev : Nat) (h : Nat → Nat) : Prop := match X with
  | (p, l, e, R, s, m, args, below, meth, c, cells, slots, nL, Q, wd) => (p.tables.exec = Jvm.exec ∧ c.code = cc) ∧ c.maxLocals = nL ∧ s.vm.findClass RX1 = some m.cls ∧ (∀ w ∈ lw_all, w.before args s = true) ∧ (lev ≤ R.frames ∧ 30 * lev ≤ R.locals ∧ cells ≤ R.cells ∧ slots ≤ R.slots) ∧ ∃ (D : va_G) (dZ dN : ClassId) (A : Nat → Prop), va_K D vwCl (tyA dZ dN) s ∧ (∀ q, s.heap.size ≤ q → A q) ∧ wd = wdC D dZ dN h A s
theorem CkC.ck {X : XX Pst} {cc : ByteArray} {lev : Nat} {h : Nat → Nat} (hC : CkC X cc lev h) : Ck X cc := by
  obtain ⟨p, l, e, R, s, m, args, below, meth, c, cells, slots, nL, Q, wd⟩ := X
  exact hC.1
section FWC
variable {X : XX Pst} {cc : ByteArray} {lev : Nat} {h : Nat → Nat} {u : Pst} {pc : Nat} {lv : List (Option Value)} {st : List Value}
theorem cc_g0 (hC : CkC X cc lev h) (d : decode cc pc = .ok (.getfield 38, 3)) (kk : CG X u (pc + 3) lv (.int (u 0 0) :: st)) : CG X u pc lv (.ref (h 0) :: st) := by
  obtain ⟨p, l, e, R, s, m, args, below, meth, c, cells, slots, nL, Q, wd⟩ := X
  obtain ⟨⟨hx, hb⟩, hml, hown, hts, hrm, D, dZ, dN, A, hK, hA, rfl⟩ := hC
  intro H locs ls hw hl
  exact va_get (D := D) (ci := 0) (v := .int (u 0 0)) (C := RX1) (T := TX1) (N := 11) hx hb hts in_X1 hown hK hw.1 0 (fs := fsC h u) rfl rfl 0 (by decide) (hts _ q34) (fun _ h9 => h9) rfl d (kk H locs ls hw hl)
theorem cc_g1 (hC : CkC X cc lev h) (d : decode cc pc = .ok (.getfield 7, 3)) (kk : CG X u (pc + 3) lv (.ref (h 1) :: st)) : CG X u pc lv (.ref (h 0) :: st) := by
  obtain ⟨p, l, e, R, s, m, args, below, meth, c, cells, slots, nL, Q, wd⟩ := X
  obtain ⟨⟨hx, hb⟩, hml, hown, hts, hrm, D, dZ, dN, A, hK, hA, rfl⟩ := hC
  intro H locs ls hw hl
  exact va_get (D := D) (ci := 0) (v := .ref (h 1)) (C := RX1) (T := TX1) (N := 11) hx hb hts in_X1 hown hK hw.1 0 (fs := fsC h u) rfl rfl 1 (by decide) (hts _ q35) (fun _ h9 => h9) rfl d (kk H locs ls hw hl)
theorem cc_l1 {j : Nat} (hC : CkC X cc lev h) (d : decode cc pc = .ok (.baload, 1)) (hj : j < 5) (kk : CG X u (pc + 1) lv (.int (u 1 j) :: st)) : CG X u pc lv (.int (nI j) :: .ref (h 1) :: st) := by
  obtain ⟨p, l, e, R, s, m, args, below, meth, c, cells, slots, nL, Q, wd⟩ := X
  obtain ⟨⟨hx, hb⟩, hml, hown, hts, hrm, D, dZ, dN, A, hK, hA, rfl⟩ := hC
  intro H locs ls hw hl
  have hc : (nI j).toNatClampNeg = j := nI_clamp (by omega)
  have kk := kk H locs ls hw hl
  refine va_zald hx hb hK hw.1 1 0 (cA := dZ) (n := 5) (f := u 1) rfl rfl (i := nI j) (vp_in_nI hj (by decide)) d ?_
  rw [hc]
  exact kk
theorem cc_s1 {j : Nat} {x : Int32} (hC : CkC X cc lev h) (d : decode cc pc = .ok (.bastore, 1)) (hj : j < 5) (hx0 : vp_nar .boolean x = x) (kk : CG X (sU u 1 j x) (pc + 1) lv st) : CG X u pc lv (.int x :: .int (nI j) :: .ref (h 1) :: st) := by
  obtain ⟨p, l, e, R, s, m, args, below, meth, c, cells, slots, nL, Q, wd⟩ := X
  obtain ⟨⟨hx, hb⟩, hml, hown, hts, hrm, D, dZ, dN, A, hK, hA, rfl⟩ := hC
  intro H locs ls hw hl
  have hc : (nI j).toNatClampNeg = j := nI_clamp (by omega)
  refine va_zast hx hb hK hw.1 hw.2.1 hw.2.2 1 0 (cA := dZ) (n := 5) (f := u 1) rfl rfl (i := nI j) (x := x) (vp_in_nI hj (by decide)) d (fun H1 locs1 hP hD hS => ?_)
  rw [hc, hx0] at hP hD
  exact kk H1 locs1 ls ⟨hP, hD, hS⟩ hl
theorem cc_g2 (hC : CkC X cc lev h) (d : decode cc pc = .ok (.getfield 13, 3)) (kk : CG X u (pc + 3) lv (.ref (h 2) :: st)) : CG X u pc lv (.ref (h 0) :: st) := by
  obtain ⟨p, l, e, R, s, m, args, below, meth, c, cells, slots, nL, Q, wd⟩ := X
  obtain ⟨⟨hx, hb⟩, hml, hown, hts, hrm, D, dZ, dN, A, hK, hA, rfl⟩ := hC
  intro H locs ls hw hl
  exact va_get (D := D) (ci := 0) (v := .ref (h 2)) (C := RX1) (T := TX1) (N := 11) hx hb hts in_X1 hown hK hw.1 0 (fs := fsC h u) rfl rfl 2 (by decide) (hts _ q36) (fun _ h9 => h9) rfl d (kk H locs ls hw hl)
theorem cc_l2 {j : Nat} (hC : CkC X cc lev h) (d : decode cc pc = .ok (.baload, 1)) (hj : j < 4) (kk : CG X u (pc + 1) lv (.int (u 2 j) :: st)) : CG X u pc lv (.int (nI j) :: .ref (h 2) :: st) := by
  obtain ⟨p, l, e, R, s, m, args, below, meth, c, cells, slots, nL, Q, wd⟩ := X
  obtain ⟨⟨hx, hb⟩, hml, hown, hts, hrm, D, dZ, dN, A, hK, hA, rfl⟩ := hC
  intro H locs ls hw hl
  have hc : (nI j).toNatClampNeg = j := nI_clamp (by omega)
  have kk := kk H locs ls hw hl
  refine va_zald hx hb hK hw.1 2 0 (cA := dZ) (n := 4) (f := u 2) rfl rfl (i := nI j) (vp_in_nI hj (by decide)) d ?_
  rw [hc]
  exact kk
theorem cc_s2 {j : Nat} {x : Int32} (hC : CkC X cc lev h) (d : decode cc pc = .ok (.bastore, 1)) (hj : j < 4) (hx0 : vp_nar .boolean x = x) (kk : CG X (sU u 2 j x) (pc + 1) lv st) : CG X u pc lv (.int x :: .int (nI j) :: .ref (h 2) :: st) := by
  obtain ⟨p, l, e, R, s, m, args, below, meth, c, cells, slots, nL, Q, wd⟩ := X
  obtain ⟨⟨hx, hb⟩, hml, hown, hts, hrm, D, dZ, dN, A, hK, hA, rfl⟩ := hC
  intro H locs ls hw hl
  have hc : (nI j).toNatClampNeg = j := nI_clamp (by omega)
  refine va_zast hx hb hK hw.1 hw.2.1 hw.2.2 2 0 (cA := dZ) (n := 4) (f := u 2) rfl rfl (i := nI j) (x := x) (vp_in_nI hj (by decide)) d (fun H1 locs1 hP hD hS => ?_)
  rw [hc, hx0] at hP hD
  exact kk H1 locs1 ls ⟨hP, hD, hS⟩ hl
theorem cc_g3 (hC : CkC X cc lev h) (d : decode cc pc = .ok (.getfield 16, 3)) (kk : CG X u (pc + 3) lv (.ref (h 3) :: st)) : CG X u pc lv (.ref (h 0) :: st) := by
  obtain ⟨p, l, e, R, s, m, args, below, meth, c, cells, slots, nL, Q, wd⟩ := X
  obtain ⟨⟨hx, hb⟩, hml, hown, hts, hrm, D, dZ, dN, A, hK, hA, rfl⟩ := hC
  intro H locs ls hw hl
  exact va_get (D := D) (ci := 0) (v := .ref (h 3)) (C := RX1) (T := TX1) (N := 11) hx hb hts in_X1 hown hK hw.1 0 (fs := fsC h u) rfl rfl 3 (by decide) (hts _ q37) (fun _ h9 => h9) rfl d (kk H locs ls hw hl)
theorem cc_l3 {j : Nat} (hC : CkC X cc lev h) (d : decode cc pc = .ok (.iaload, 1)) (hj : j < 4) (kk : CG X u (pc + 1) lv (.int (u 3 j) :: st)) : CG X u pc lv (.int (nI j) :: .ref (h 3) :: st) := by
  obtain ⟨p, l, e, R, s, m, args, below, meth, c, cells, slots, nL, Q, wd⟩ := X
  obtain ⟨⟨hx, hb⟩, hml, hown, hts, hrm, D, dZ, dN, A, hK, hA, rfl⟩ := hC
  intro H locs ls hw hl
  have hc : (nI j).toNatClampNeg = j := nI_clamp (by omega)
  have kk := kk H locs ls hw hl
  refine va_iald hx hb hK hw.1 3 1 (cA := dN) (n := 4) (f := u 3) rfl rfl (i := nI j) (vp_in_nI hj (by decide)) d ?_
  rw [hc]
  exact kk
theorem cc_s3 {j : Nat} {x : Int32} (hC : CkC X cc lev h) (d : decode cc pc = .ok (.iastore, 1)) (hj : j < 4) (kk : CG X (sU u 3 j x) (pc + 1) lv st) : CG X u pc lv (.int x :: .int (nI j) :: .ref (h 3) :: st) := by
  obtain ⟨p, l, e, R, s, m, args, below, meth, c, cells, slots, nL, Q, wd⟩ := X
  obtain ⟨⟨hx, hb⟩, hml, hown, hts, hrm, D, dZ, dN, A, hK, hA, rfl⟩ := hC
  intro H locs ls hw hl
  have hc : (nI j).toNatClampNeg = j := nI_clamp (by omega)
  refine va_iast hx hb hK hw.1 hw.2.1 hw.2.2 3 1 (cA := dN) (n := 4) (f := u 3) rfl rfl (i := nI j) (x := x) (vp_in_nI hj (by decide)) d (fun H1 locs1 hP hD hS => ?_)
  rw [hc] at hP hD
  exact kk H1 locs1 ls ⟨hP, hD, hS⟩ hl
theorem cc_g4 (hC : CkC X cc lev h) (d : decode cc pc = .ok (.getfield 64, 3)) (kk : CG X u (pc + 3) lv (.int (u 4 0) :: st)) : CG X u pc lv (.ref (h 0) :: st) := by
  obtain ⟨p, l, e, R, s, m, args, below, meth, c, cells, slots, nL, Q, wd⟩ := X
  obtain ⟨⟨hx, hb⟩, hml, hown, hts, hrm, D, dZ, dN, A, hK, hA, rfl⟩ := hC
  intro H locs ls hw hl
  exact va_get (D := D) (ci := 0) (v := .int (u 4 0)) (C := RX1) (T := TX1) (N := 11) hx hb hts in_X1 hown hK hw.1 0 (fs := fsC h u) rfl rfl 4 (by decide) (hts _ q38) (fun _ h9 => h9) rfl d (kk H locs ls hw hl)
theorem cc_p4 {x : Int32} (hC : CkC X cc lev h) (d : decode cc pc = .ok (.putfield 64, 3)) (kk : CG X (sU u 4 0 x) (pc + 3) lv st) : CG X u pc lv (.int x :: .ref (h 0) :: st) := by
  obtain ⟨p, l, e, R, s, m, args, below, meth, c, cells, slots, nL, Q, wd⟩ := X
  obtain ⟨⟨hx, hb⟩, hml, hown, hts, hrm, D, dZ, dN, A, hK, hA, rfl⟩ := hC
  intro H locs ls hw hl
  exact va_put (D := D) (ci := 0) (v := .int x) (ty := .int) (C := RX1) (T := TX1) (N := 11) hx hb hts in_X1 tyX1 tyX1_ok nmX1 hown hK hw.1 hw.2.1 hw.2.2 0 (fs := fsC h u) rfl rfl 4 (by decide) (hts _ q38) (fun _ h9 => h9) rfl (by decide +kernel) rfl rfl (Nat.le_of_ble_eq_true rfl) d (fun H1 locs1 hP hD hS => kk H1 locs1 ls ⟨hP, hD, hS⟩ hl)
theorem cc_g5 (hC : CkC X cc lev h) (d : decode cc pc = .ok (.getfield 20, 3)) (kk : CG X u (pc + 3) lv (.ref (h 5) :: st)) : CG X u pc lv (.ref (h 0) :: st) := by
  obtain ⟨p, l, e, R, s, m, args, below, meth, c, cells, slots, nL, Q, wd⟩ := X
  obtain ⟨⟨hx, hb⟩, hml, hown, hts, hrm, D, dZ, dN, A, hK, hA, rfl⟩ := hC
  intro H locs ls hw hl
  exact va_get (D := D) (ci := 0) (v := .ref (h 5)) (C := RX1) (T := TX1) (N := 11) hx hb hts in_X1 hown hK hw.1 0 (fs := fsC h u) rfl rfl 5 (by decide) (hts _ q39) (fun _ h9 => h9) rfl d (kk H locs ls hw hl)
theorem cc_l5 {j : Nat} (hC : CkC X cc lev h) (d : decode cc pc = .ok (.iaload, 1)) (hj : j < 20) (kk : CG X u (pc + 1) lv (.int (u 5 j) :: st)) : CG X u pc lv (.int (nI j) :: .ref (h 5) :: st) := by
  obtain ⟨p, l, e, R, s, m, args, below, meth, c, cells, slots, nL, Q, wd⟩ := X
  obtain ⟨⟨hx, hb⟩, hml, hown, hts, hrm, D, dZ, dN, A, hK, hA, rfl⟩ := hC
  intro H locs ls hw hl
  have hc : (nI j).toNatClampNeg = j := nI_clamp (by omega)
  have kk := kk H locs ls hw hl
  refine va_iald hx hb hK hw.1 4 1 (cA := dN) (n := 20) (f := u 5) rfl rfl (i := nI j) (vp_in_nI hj (by decide)) d ?_
  rw [hc]
  exact kk
theorem cc_s5 {j : Nat} {x : Int32} (hC : CkC X cc lev h) (d : decode cc pc = .ok (.iastore, 1)) (hj : j < 20) (kk : CG X (sU u 5 j x) (pc + 1) lv st) : CG X u pc lv (.int x :: .int (nI j) :: .ref (h 5) :: st) := by
  obtain ⟨p, l, e, R, s, m, args, below, meth, c, cells, slots, nL, Q, wd⟩ := X
  obtain ⟨⟨hx, hb⟩, hml, hown, hts, hrm, D, dZ, dN, A, hK, hA, rfl⟩ := hC
  intro H locs ls hw hl
  have hc : (nI j).toNatClampNeg = j := nI_clamp (by omega)
  refine va_iast hx hb hK hw.1 hw.2.1 hw.2.2 4 1 (cA := dN) (n := 20) (f := u 5) rfl rfl (i := nI j) (x := x) (vp_in_nI hj (by decide)) d (fun H1 locs1 hP hD hS => ?_)
  rw [hc] at hP hD
  exact kk H1 locs1 ls ⟨hP, hD, hS⟩ hl
theorem cc_g6 (hC : CkC X cc lev h) (d : decode cc pc = .ok (.getfield 23, 3)) (kk : CG X u (pc + 3) lv (.ref (h 6) :: st)) : CG X u pc lv (.ref (h 0) :: st) := by
  obtain ⟨p, l, e, R, s, m, args, below, meth, c, cells, slots, nL, Q, wd⟩ := X
  obtain ⟨⟨hx, hb⟩, hml, hown, hts, hrm, D, dZ, dN, A, hK, hA, rfl⟩ := hC
  intro H locs ls hw hl
  exact va_get (D := D) (ci := 0) (v := .ref (h 6)) (C := RX1) (T := TX1) (N := 11) hx hb hts in_X1 hown hK hw.1 0 (fs := fsC h u) rfl rfl 6 (by decide) (hts _ q40) (fun _ h9 => h9) rfl d (kk H locs ls hw hl)
theorem cc_l6 {j : Nat} (hC : CkC X cc lev h) (d : decode cc pc = .ok (.iaload, 1)) (hj : j < 20) (kk : CG X u (pc + 1) lv (.int (u 6 j) :: st)) : CG X u pc lv (.int (nI j) :: .ref (h 6) :: st) := by
  obtain ⟨p, l, e, R, s, m, args, below, meth, c, cells, slots, nL, Q, wd⟩ := X
  obtain ⟨⟨hx, hb⟩, hml, hown, hts, hrm, D, dZ, dN, A, hK, hA, rfl⟩ := hC
  intro H locs ls hw hl
  have hc : (nI j).toNatClampNeg = j := nI_clamp (by omega)
  have kk := kk H locs ls hw hl
  refine va_iald hx hb hK hw.1 5 1 (cA := dN) (n := 20) (f := u 6) rfl rfl (i := nI j) (vp_in_nI hj (by decide)) d ?_
  rw [hc]
  exact kk
theorem cc_s6 {j : Nat} {x : Int32} (hC : CkC X cc lev h) (d : decode cc pc = .ok (.iastore, 1)) (hj : j < 20) (kk : CG X (sU u 6 j x) (pc + 1) lv st) : CG X u pc lv (.int x :: .int (nI j) :: .ref (h 6) :: st) := by
  obtain ⟨p, l, e, R, s, m, args, below, meth, c, cells, slots, nL, Q, wd⟩ := X
  obtain ⟨⟨hx, hb⟩, hml, hown, hts, hrm, D, dZ, dN, A, hK, hA, rfl⟩ := hC
  intro H locs ls hw hl
  have hc : (nI j).toNatClampNeg = j := nI_clamp (by omega)
  refine va_iast hx hb hK hw.1 hw.2.1 hw.2.2 5 1 (cA := dN) (n := 20) (f := u 6) rfl rfl (i := nI j) (x := x) (vp_in_nI hj (by decide)) d (fun H1 locs1 hP hD hS => ?_)
  rw [hc] at hP hD
  exact kk H1 locs1 ls ⟨hP, hD, hS⟩ hl
theorem cc_g7 (hC : CkC X cc lev h) (d : decode cc pc = .ok (.getfield 26, 3)) (kk : CG X u (pc + 3) lv (.ref (h 7) :: st)) : CG X u pc lv (.ref (h 0) :: st) := by
  obtain ⟨p, l, e, R, s, m, args, below, meth, c, cells, slots, nL, Q, wd⟩ := X
  obtain ⟨⟨hx, hb⟩, hml, hown, hts, hrm, D, dZ, dN, A, hK, hA, rfl⟩ := hC
  intro H locs ls hw hl
  exact va_get (D := D) (ci := 0) (v := .ref (h 7)) (C := RX1) (T := TX1) (N := 11) hx hb hts in_X1 hown hK hw.1 0 (fs := fsC h u) rfl rfl 7 (by decide) (hts _ q41) (fun _ h9 => h9) rfl d (kk H locs ls hw hl)
theorem cc_l7 {j : Nat} (hC : CkC X cc lev h) (d : decode cc pc = .ok (.iaload, 1)) (hj : j < 120) (kk : CG X u (pc + 1) lv (.int (u 7 j) :: st)) : CG X u pc lv (.int (nI j) :: .ref (h 7) :: st) := by
  obtain ⟨p, l, e, R, s, m, args, below, meth, c, cells, slots, nL, Q, wd⟩ := X
  obtain ⟨⟨hx, hb⟩, hml, hown, hts, hrm, D, dZ, dN, A, hK, hA, rfl⟩ := hC
  intro H locs ls hw hl
  have hc : (nI j).toNatClampNeg = j := nI_clamp (by omega)
  have kk := kk H locs ls hw hl
  refine va_iald hx hb hK hw.1 6 1 (cA := dN) (n := 120) (f := u 7) rfl rfl (i := nI j) (vp_in_nI hj (by decide)) d ?_
  rw [hc]
  exact kk
theorem cc_s7 {j : Nat} {x : Int32} (hC : CkC X cc lev h) (d : decode cc pc = .ok (.iastore, 1)) (hj : j < 120) (kk : CG X (sU u 7 j x) (pc + 1) lv st) : CG X u pc lv (.int x :: .int (nI j) :: .ref (h 7) :: st) := by
  obtain ⟨p, l, e, R, s, m, args, below, meth, c, cells, slots, nL, Q, wd⟩ := X
  obtain ⟨⟨hx, hb⟩, hml, hown, hts, hrm, D, dZ, dN, A, hK, hA, rfl⟩ := hC
  intro H locs ls hw hl
  have hc : (nI j).toNatClampNeg = j := nI_clamp (by omega)
  refine va_iast hx hb hK hw.1 hw.2.1 hw.2.2 6 1 (cA := dN) (n := 120) (f := u 7) rfl rfl (i := nI j) (x := x) (vp_in_nI hj (by decide)) d (fun H1 locs1 hP hD hS => ?_)
  rw [hc] at hP hD
  exact kk H1 locs1 ls ⟨hP, hD, hS⟩ hl
theorem cc_g8 (hC : CkC X cc lev h) (d : decode cc pc = .ok (.getfield 29, 3)) (kk : CG X u (pc + 3) lv (.ref (h 8) :: st)) : CG X u pc lv (.ref (h 0) :: st) := by
  obtain ⟨p, l, e, R, s, m, args, below, meth, c, cells, slots, nL, Q, wd⟩ := X
  obtain ⟨⟨hx, hb⟩, hml, hown, hts, hrm, D, dZ, dN, A, hK, hA, rfl⟩ := hC
  intro H locs ls hw hl
  exact va_get (D := D) (ci := 0) (v := .ref (h 8)) (C := RX1) (T := TX1) (N := 11) hx hb hts in_X1 hown hK hw.1 0 (fs := fsC h u) rfl rfl 8 (by decide) (hts _ q42) (fun _ h9 => h9) rfl d (kk H locs ls hw hl)
theorem cc_l8 {j : Nat} (hC : CkC X cc lev h) (d : decode cc pc = .ok (.iaload, 1)) (hj : j < 20) (kk : CG X u (pc + 1) lv (.int (u 8 j) :: st)) : CG X u pc lv (.int (nI j) :: .ref (h 8) :: st) := by
  obtain ⟨p, l, e, R, s, m, args, below, meth, c, cells, slots, nL, Q, wd⟩ := X
  obtain ⟨⟨hx, hb⟩, hml, hown, hts, hrm, D, dZ, dN, A, hK, hA, rfl⟩ := hC
  intro H locs ls hw hl
  have hc : (nI j).toNatClampNeg = j := nI_clamp (by omega)
  have kk := kk H locs ls hw hl
  refine va_iald hx hb hK hw.1 7 1 (cA := dN) (n := 20) (f := u 8) rfl rfl (i := nI j) (vp_in_nI hj (by decide)) d ?_
  rw [hc]
  exact kk
theorem cc_s8 {j : Nat} {x : Int32} (hC : CkC X cc lev h) (d : decode cc pc = .ok (.iastore, 1)) (hj : j < 20) (kk : CG X (sU u 8 j x) (pc + 1) lv st) : CG X u pc lv (.int x :: .int (nI j) :: .ref (h 8) :: st) := by
  obtain ⟨p, l, e, R, s, m, args, below, meth, c, cells, slots, nL, Q, wd⟩ := X
  obtain ⟨⟨hx, hb⟩, hml, hown, hts, hrm, D, dZ, dN, A, hK, hA, rfl⟩ := hC
  intro H locs ls hw hl
  have hc : (nI j).toNatClampNeg = j := nI_clamp (by omega)
  refine va_iast hx hb hK hw.1 hw.2.1 hw.2.2 7 1 (cA := dN) (n := 20) (f := u 8) rfl rfl (i := nI j) (x := x) (vp_in_nI hj (by decide)) d (fun H1 locs1 hP hD hS => ?_)
  rw [hc] at hP hD
  exact kk H1 locs1 ls ⟨hP, hD, hS⟩ hl
theorem cc_g9 (hC : CkC X cc lev h) (d : decode cc pc = .ok (.getfield 32, 3)) (kk : CG X u (pc + 3) lv (.ref (h 9) :: st)) : CG X u pc lv (.ref (h 0) :: st) := by
  obtain ⟨p, l, e, R, s, m, args, below, meth, c, cells, slots, nL, Q, wd⟩ := X
  obtain ⟨⟨hx, hb⟩, hml, hown, hts, hrm, D, dZ, dN, A, hK, hA, rfl⟩ := hC
  intro H locs ls hw hl
  exact va_get (D := D) (ci := 0) (v := .ref (h 9)) (C := RX1) (T := TX1) (N := 11) hx hb hts in_X1 hown hK hw.1 0 (fs := fsC h u) rfl rfl 9 (by decide) (hts _ q43) (fun _ h9 => h9) rfl d (kk H locs ls hw hl)
theorem cc_l9 {j : Nat} (hC : CkC X cc lev h) (d : decode cc pc = .ok (.iaload, 1)) (hj : j < 20) (kk : CG X u (pc + 1) lv (.int (u 9 j) :: st)) : CG X u pc lv (.int (nI j) :: .ref (h 9) :: st) := by
  obtain ⟨p, l, e, R, s, m, args, below, meth, c, cells, slots, nL, Q, wd⟩ := X
  obtain ⟨⟨hx, hb⟩, hml, hown, hts, hrm, D, dZ, dN, A, hK, hA, rfl⟩ := hC
  intro H locs ls hw hl
  have hc : (nI j).toNatClampNeg = j := nI_clamp (by omega)
  have kk := kk H locs ls hw hl
  refine va_iald hx hb hK hw.1 8 1 (cA := dN) (n := 20) (f := u 9) rfl rfl (i := nI j) (vp_in_nI hj (by decide)) d ?_
  rw [hc]
  exact kk
theorem cc_s9 {j : Nat} {x : Int32} (hC : CkC X cc lev h) (d : decode cc pc = .ok (.iastore, 1)) (hj : j < 20) (kk : CG X (sU u 9 j x) (pc + 1) lv st) : CG X u pc lv (.int x :: .int (nI j) :: .ref (h 9) :: st) := by
  obtain ⟨p, l, e, R, s, m, args, below, meth, c, cells, slots, nL, Q, wd⟩ := X
  obtain ⟨⟨hx, hb⟩, hml, hown, hts, hrm, D, dZ, dN, A, hK, hA, rfl⟩ := hC
  intro H locs ls hw hl
  have hc : (nI j).toNatClampNeg = j := nI_clamp (by omega)
  refine va_iast hx hb hK hw.1 hw.2.1 hw.2.2 8 1 (cA := dN) (n := 20) (f := u 9) rfl rfl (i := nI j) (x := x) (vp_in_nI hj (by decide)) d (fun H1 locs1 hP hD hS => ?_)
  rw [hc] at hP hD
  exact kk H1 locs1 ls ⟨hP, hD, hS⟩ hl
theorem cc_g10 (hC : CkC X cc lev h) (d : decode cc pc = .ok (.getfield 35, 3)) (kk : CG X u (pc + 3) lv (.ref (h 10) :: st)) : CG X u pc lv (.ref (h 0) :: st) := by
  obtain ⟨p, l, e, R, s, m, args, below, meth, c, cells, slots, nL, Q, wd⟩ := X
  obtain ⟨⟨hx, hb⟩, hml, hown, hts, hrm, D, dZ, dN, A, hK, hA, rfl⟩ := hC
  intro H locs ls hw hl
  exact va_get (D := D) (ci := 0) (v := .ref (h 10)) (C := RX1) (T := TX1) (N := 11) hx hb hts in_X1 hown hK hw.1 0 (fs := fsC h u) rfl rfl 10 (by decide) (hts _ q44) (fun _ h9 => h9) rfl d (kk H locs ls hw hl)
theorem cc_l10 {j : Nat} (hC : CkC X cc lev h) (d : decode cc pc = .ok (.iaload, 1)) (hj : j < 20) (kk : CG X u (pc + 1) lv (.int (u 10 j) :: st)) : CG X u pc lv (.int (nI j) :: .ref (h 10) :: st) := by
  obtain ⟨p, l, e, R, s, m, args, below, meth, c, cells, slots, nL, Q, wd⟩ := X
  obtain ⟨⟨hx, hb⟩, hml, hown, hts, hrm, D, dZ, dN, A, hK, hA, rfl⟩ := hC
  intro H locs ls hw hl
  have hc : (nI j).toNatClampNeg = j := nI_clamp (by omega)
  have kk := kk H locs ls hw hl
  refine va_iald hx hb hK hw.1 9 1 (cA := dN) (n := 20) (f := u 10) rfl rfl (i := nI j) (vp_in_nI hj (by decide)) d ?_
  rw [hc]
  exact kk
theorem cc_s10 {j : Nat} {x : Int32} (hC : CkC X cc lev h) (d : decode cc pc = .ok (.iastore, 1)) (hj : j < 20) (kk : CG X (sU u 10 j x) (pc + 1) lv st) : CG X u pc lv (.int x :: .int (nI j) :: .ref (h 10) :: st) := by
  obtain ⟨p, l, e, R, s, m, args, below, meth, c, cells, slots, nL, Q, wd⟩ := X
  obtain ⟨⟨hx, hb⟩, hml, hown, hts, hrm, D, dZ, dN, A, hK, hA, rfl⟩ := hC
  intro H locs ls hw hl
  have hc : (nI j).toNatClampNeg = j := nI_clamp (by omega)
  refine va_iast hx hb hK hw.1 hw.2.1 hw.2.2 9 1 (cA := dN) (n := 20) (f := u 10) rfl rfl (i := nI j) (x := x) (vp_in_nI hj (by decide)) d (fun H1 locs1 hP hD hS => ?_)
  rw [hc] at hP hD
  exact kk H1 locs1 ls ⟨hP, hD, hS⟩ hl
theorem cc_ldc (hC : CkC X cc lev h) (d : decode cc pc = .ok (.ldc 42, 2)) (kk : CG X u (pc + 2) lv (.int 16777619 :: st)) : CG X u pc lv st := by
  obtain ⟨p, l, e, R, s, m, args, below, meth, c, cells, slots, nL, Q, wd⟩ := X
  obtain ⟨⟨hx, hb⟩, hml, hown, hts, hrm, D, dZ, dN, A, hK, hA, rfl⟩ := hC
  intro H locs ls hw hl
  exact lv_ldc hx hb hown (hts _ q101) d (kk H locs ls hw hl)
end FWC
/-- the contract of a method of ChunkCluster that answers an int: from the state u it answers r and leaves u' -/
def mIC (y : MethodName) (b : ByteArray) (L : Nat) (rt : FieldType) (lev : Nat) (As : List Value) (u : Pst) (r : Int32) (u' : Pst) : Prop := ∀ (l : Launch) (D : va_G) (dZ dN : ClassId) (h : Nat → Nat) (sz : Nat), Met l y (ws_ y b L (some rt)) (Rm lev) (va_Pc (.ref (h 0) :: As) (fun U => U.heap.size = sz ∧ va_P D vwCl (cwC dZ dN h u) U.heap ∧ va_K D vwCl (tyA dZ dN) U ∧ va_D (fun _ => True) (cwC dZ dN h u))) (va_Qi (fun (r1 : Int32) (u1 : Pst) => r1 = r ∧ u1 = u') (fun (u1 : Pst) (t : State) => va_P D vwCl (cwC dZ dN h u1) t.heap ∧ va_K D vwCl (tyA dZ dN) t ∧ va_D (va_A (cwC dZ dN h u) sz) (cwC dZ dN h u1)) (va_A (cwC dZ dN h u) sz)) 0 0 (va_A (cwC dZ dN h u) sz)
def mVC (y : MethodName) (b : ByteArray) (L : Nat) (lev : Nat) (As : List Value) (u : Pst) (u' : Pst) : Prop := ∀ (l : Launch) (D : va_G) (dZ dN : ClassId) (h : Nat → Nat) (sz : Nat), Met l y (ws_ y b L none) (Rm lev) (va_Pc (.ref (h 0) :: As) (fun U => U.heap.size = sz ∧ va_P D vwCl (cwC dZ dN h u) U.heap ∧ va_K D vwCl (tyA dZ dN) U ∧ va_D (fun _ => True) (cwC dZ dN h u))) (va_Qv (fun (u1 : Pst) => u1 = u') (fun (u1 : Pst) (t : State) => va_P D vwCl (cwC dZ dN h u1) t.heap ∧ va_K D vwCl (tyA dZ dN) t ∧ va_D (va_A (cwC dZ dN h u) sz) (cwC dZ dN h u1)) (va_A (cwC dZ dN h u) sz)) 0 0 (va_A (cwC dZ dN h u) sz)
theorem e_IC {y : MethodName} {b : ByteArray} {L : Nat} {rt : FieldType} {lev : Nat} {As : List Value} {u u' : Pst} {r : Int32} (hy : plainName y.cls = true) (hcl : y.cls = RX1) (hnar : narrow rt (.int r) = .int r) (hlen : As.length + 1 ≤ L) (hcat : ∀ v ∈ As, v.category = 1)
    (body : ∀ (X : XX Pst) (h : Nat → Nat), CkC X b lev h → (∀ (pc : Nat) (lv : List (Option Value)) (v : Int32) (u1 : Pst), decode b pc = .ok (.ireturn, 1) → v = r → u1 = u' → CG X u1 pc lv [.int v]) → CG X u 0 ((Value.ref (h 0) :: As).map some ++ List.replicate (L - (As.length + 1)) none) []) : mIC y b L rt lev As u r u' := by
  intro l D dZ dN h sz
  refine Met.ofW (cc := b) (maxL := L) (ret := (some rt)) hy rfl ?_
  intro p e s m args below meth c s₁ B hml hv
  obtain ⟨rfl, hsz, hP, hK, hD0⟩ := hv
  have hts := atoms_spec (ws := ws_ y b L (some rt)) B.pre
  have hts : ∀ w ∈ lw_all, w.before _ s = true := fun w h => hts w (List.mem_cons_of_mem _ h)
  have hown : s.vm.findClass RX1 = some m.cls := by rw [← hcl]; exact findClass_of_methodNamed B.named
  subst hsz
  have hD := hD0.self (sz := s.heap.size)
  have hA : ∀ q : Nat, s.heap.size ≤ q → va_A (cwC dZ dN h u) s.heap.size q := fun q h => Or.inr h
  have hS : va_S (va_A (cwC dZ dN h u) s.heap.size) s.heap s.heap [] := va_S.rf
  have hcat' : ∀ v ∈ (Value.ref (h 0) :: As), v.category = 1 := fun v hv => by
    rcases List.mem_cons.mp hv with e | e
    · rw [e]; rfl
    · exact hcat v e
  have hsl : (lg_sl (Value.ref (h 0) :: As)).length = As.length + 1 := fw_sl hcat'
  have hl := lv_entry (Value.ref (h 0) :: As) (n := L) (by rw [hsl]; exact hlen)
  rw [lg_entry_eq]
  have hl2 := lo_entry hl hlen hcat'
  have hlocks := B.notSynchronized
  have := body (p, l, e, (headSpec (ws_ y b L (some rt)) (Rm lev)).room, s, m, (Value.ref (h 0) :: As).toArray, below, meth, c, 0, 0, L, MQ below (va_Qi (fun (r1 : Int32) (u1 : Pst) => r1 = r ∧ u1 = u') (fun (u1 : Pst) (t : State) => va_P D vwCl (cwC dZ dN h u1) t.heap ∧ va_K D vwCl (tyA dZ dN) t ∧ va_D (va_A (cwC dZ dN h u) s.heap.size) (cwC dZ dN h u1)) (va_A (cwC dZ dN h u) s.heap.size)) (Value.ref (h 0) :: As).toArray s 0 0 (va_A (cwC dZ dN h u) s.heap.size), wdC D dZ dN h (va_A (cwC dZ dN h u) s.heap.size) s) h ⟨⟨B.exec, B.bytes⟩, hml, hown, hts, ⟨Nat.le_refl _, Nat.le_refl _, Nat.zero_le _, Nat.zero_le _⟩, D, dZ, dN, _, hK, hA, rfl⟩ ?_
  · exact this s.heap [] _ ⟨hP, hD, hS⟩ hl2
  · intro pc lv v u1 d e1 e2
    subst e1; subst e2
    intro H locs ls hw _
    exact W.zret B.exec B.bytes B.returns hnar (fun t ht hW => ⟨⟨v, u1, rfl, ⟨rfl, rfl⟩, by rw [ht]; exact hw.1, va_K.moved hW.alike hK, hw.2.1⟩, hw.2.2.F ht⟩) hw.2.2.2.2 d
theorem k_IC {X : XX Pst} {cc : ByteArray} {lev lev' : Nat} {h : Nat → Nat} {u u' : Pst} {pc : Nat} {lv : List (Option Value)} {st stk : List Value} {y : MethodName} {b : ByteArray} {L n idx : Nat} {rt : FieldType} {As : List Value} {r : Int32} (hC : CkC X cc lev h) (hM : mIC y b L rt lev' As u r u') (hk : KI RX1 idx y b L (some rt) n) (hcl : y.cls = RX1) (hn : As.length = n) (hlv : lev' + 1 ≤ lev ∧ L ≤ 11) (hcat : (st.map fun v => v.category).sum ≤ 8) (hst : stk = As.reverse ++ .ref (h 0) :: st) (d : decode cc pc = .ok (.invokevirtual idx, 3)) (k : CG X u' (pc + 3) lv (.int r :: st)) : CG X u pc lv stk := by
  obtain ⟨p, l, e, R, s, m, args, below, meth, c, cells, slots, nL, Q, wd⟩ := X
  obtain ⟨⟨hx, hb⟩, hml, hown, hts, hrm, D, dZ, dN, A, hK, hA, rfl⟩ := hC
  intro H locs ls hw hl
  have hFc := va_free (wc := cwC dZ dN h u) hw.2.1 hw.2.2 hA [0, 1, 2, 3, 4, 5, 6, 7, 8, 9] rfl
  obtain ⟨⟨k1, k2, k3, k4, k5⟩, k6⟩ := hk
  obtain ⟨hP, hD, hS⟩ := hw
  refine va_calli (va_runV (As := As) (rest := st) (C := RX1) ⟨hx, hb, hml, hown, hts⟩ (hM l D dZ dN h H.size) (cwV n hts (lw_V k1 k2 (hcl ▸ k3) (hcl ▸ k4) k5) rfl rfl rfl ⟨hcl, k6⟩ ⟨?_, ?_⟩) ⟨fun a U g mk q => by obtain ⟨q0, q1, qP, qK, qD⟩ := q; exact ⟨q0, q1, qP, va_K.moved (u := U) (U := U.calling g mk a) (Vm.Alike.refl U.vm) qK, qD⟩, va_recv hK hP (ci := 0) (q0 := 0) rfl rfl, fun U hU hW => ⟨rfl, by rw [hU], by rw [hU]; exact hP, va_K.moved hW.alike hK, hD.weaken (fun _ _ _ _ => trivial)⟩⟩ rfl hn hl.1 hst (lv_room hcat) d ⟨hrm.2.2.1, hrm.2.2.2⟩) hS (fun q _ h => hFc q h) hFc (fun r1 u1 t H1 locs1 ht hvm hp hB hz1 hk1 hS1 => ?_)
  · show lev' + 1 ≤ R.frames
    omega
  · show 8 + (L + 11) + 30 * lev' ≤ R.locals
    omega
  · obtain ⟨rfl, rfl⟩ := hp
    obtain ⟨hP1, hK1, hD1⟩ := hB
    rw [ht] at hP1
    exact k H1 locs1 ls ⟨hP1, hD1.weaken (fun _ q _ h => hFc q.1 h), hS1⟩ hl
theorem e_VC {y : MethodName} {b : ByteArray} {L : Nat} {lev : Nat} {As : List Value} {u u' : Pst} (hy : plainName y.cls = true) (hcl : y.cls = RX1) (hlen : As.length + 1 ≤ L) (hcat : ∀ v ∈ As, v.category = 1)
    (body : ∀ (X : XX Pst) (h : Nat → Nat), CkC X b lev h → (∀ (pc : Nat) (lv : List (Option Value)) (u1 : Pst), decode b pc = .ok (.return_, 1) → u1 = u' → CG X u1 pc lv []) → CG X u 0 ((Value.ref (h 0) :: As).map some ++ List.replicate (L - (As.length + 1)) none) []) : mVC y b L lev As u u' := by
  intro l D dZ dN h sz
  refine Met.ofW (cc := b) (maxL := L) (ret := none) hy rfl ?_
  intro p e s m args below meth c s₁ B hml hv
  obtain ⟨rfl, hsz, hP, hK, hD0⟩ := hv
  have hts := atoms_spec (ws := ws_ y b L none) B.pre
  have hts : ∀ w ∈ lw_all, w.before _ s = true := fun w h => hts w (List.mem_cons_of_mem _ h)
  have hown : s.vm.findClass RX1 = some m.cls := by rw [← hcl]; exact findClass_of_methodNamed B.named
  subst hsz
  have hD := hD0.self (sz := s.heap.size)
  have hA : ∀ q : Nat, s.heap.size ≤ q → va_A (cwC dZ dN h u) s.heap.size q := fun q h => Or.inr h
  have hS : va_S (va_A (cwC dZ dN h u) s.heap.size) s.heap s.heap [] := va_S.rf
  have hcat' : ∀ v ∈ (Value.ref (h 0) :: As), v.category = 1 := fun v hv => by
    rcases List.mem_cons.mp hv with e | e
    · rw [e]; rfl
    · exact hcat v e
  have hsl : (lg_sl (Value.ref (h 0) :: As)).length = As.length + 1 := fw_sl hcat'
  have hl := lv_entry (Value.ref (h 0) :: As) (n := L) (by rw [hsl]; exact hlen)
  rw [lg_entry_eq]
  have hl2 := lo_entry hl hlen hcat'
  have hlocks := B.notSynchronized
  have := body (p, l, e, (headSpec (ws_ y b L none) (Rm lev)).room, s, m, (Value.ref (h 0) :: As).toArray, below, meth, c, 0, 0, L, MQ below (va_Qv (fun (u1 : Pst) => u1 = u') (fun (u1 : Pst) (t : State) => va_P D vwCl (cwC dZ dN h u1) t.heap ∧ va_K D vwCl (tyA dZ dN) t ∧ va_D (va_A (cwC dZ dN h u) s.heap.size) (cwC dZ dN h u1)) (va_A (cwC dZ dN h u) s.heap.size)) (Value.ref (h 0) :: As).toArray s 0 0 (va_A (cwC dZ dN h u) s.heap.size), wdC D dZ dN h (va_A (cwC dZ dN h u) s.heap.size) s) h ⟨⟨B.exec, B.bytes⟩, hml, hown, hts, ⟨Nat.le_refl _, Nat.le_refl _, Nat.zero_le _, Nat.zero_le _⟩, D, dZ, dN, _, hK, hA, rfl⟩ ?_
  · exact this s.heap [] _ ⟨hP, hD, hS⟩ hl2
  · intro pc lv u1 d e2
    subst e2
    intro H locs ls hw _
    exact W.vret B.exec B.bytes B.returns (fun t ht hW => ⟨⟨u1, rfl, rfl, by rw [ht]; exact hw.1, va_K.moved hW.alike hK, hw.2.1⟩, hw.2.2.F ht⟩) hw.2.2.2.2 d
theorem k_VC {X : XX Pst} {cc : ByteArray} {lev lev' : Nat} {h : Nat → Nat} {u u' : Pst} {pc : Nat} {lv : List (Option Value)} {st stk : List Value} {y : MethodName} {b : ByteArray} {L n idx : Nat} {As : List Value} (hC : CkC X cc lev h) (hM : mVC y b L lev' As u u') (hk : KI RX1 idx y b L none n) (hcl : y.cls = RX1) (hn : As.length = n) (hlv : lev' + 1 ≤ lev ∧ L ≤ 11) (hcat : (st.map fun v => v.category).sum ≤ 8) (hst : stk = As.reverse ++ .ref (h 0) :: st) (d : decode cc pc = .ok (.invokevirtual idx, 3)) (k : CG X u' (pc + 3) lv st) : CG X u pc lv stk := by
  obtain ⟨p, l, e, R, s, m, args, below, meth, c, cells, slots, nL, Q, wd⟩ := X
  obtain ⟨⟨hx, hb⟩, hml, hown, hts, hrm, D, dZ, dN, A, hK, hA, rfl⟩ := hC
  intro H locs ls hw hl
  have hFc := va_free (wc := cwC dZ dN h u) hw.2.1 hw.2.2 hA [0, 1, 2, 3, 4, 5, 6, 7, 8, 9] rfl
  obtain ⟨⟨k1, k2, k3, k4, k5⟩, k6⟩ := hk
  obtain ⟨hP, hD, hS⟩ := hw
  refine va_callv (va_runV (As := As) (rest := st) (C := RX1) ⟨hx, hb, hml, hown, hts⟩ (hM l D dZ dN h H.size) (cwV n hts (lw_V k1 k2 (hcl ▸ k3) (hcl ▸ k4) k5) rfl rfl rfl ⟨hcl, k6⟩ ⟨?_, ?_⟩) ⟨fun a U g mk q => by obtain ⟨q0, q1, qP, qK, qD⟩ := q; exact ⟨q0, q1, qP, va_K.moved (u := U) (U := U.calling g mk a) (Vm.Alike.refl U.vm) qK, qD⟩, va_recv hK hP (ci := 0) (q0 := 0) rfl rfl, fun U hU hW => ⟨rfl, by rw [hU], by rw [hU]; exact hP, va_K.moved hW.alike hK, hD.weaken (fun _ _ _ _ => trivial)⟩⟩ rfl hn hl.1 hst (lv_room hcat) d ⟨hrm.2.2.1, hrm.2.2.2⟩) hS (fun q _ h => hFc q h) hFc (fun u1 t H1 locs1 ht hvm hp hB hz1 hk1 hS1 => ?_)
  · show lev' + 1 ≤ R.frames
    omega
  · show 8 + (L + 11) + 30 * lev' ≤ R.locals
    omega
  · subst hp
    obtain ⟨hP1, hK1, hD1⟩ := hB
    rw [ht] at hP1
    exact k H1 locs1 ls ⟨hP1, hD1.weaken (fun _ q _ h => hFc q.1 h), hS1⟩ hl
theorem k_SC {X : XX Pst} {cc : ByteArray} {lev lev' : Nat} {h : Nat → Nat} {u : Pst} {pc : Nat} {lv : List (Option Value)} {st stk : List Value} {y : MethodName} {b : ByteArray} {L n idx : Nat} {rt : FieldType} {As : List Value} {r : Int32} (hC : CkC X cc lev h) (hM : mS y b L rt lev' As r) (hk : KS RX1 idx y b L (some rt) n) (hn : As.length = n) (hlv : lev' + 1 ≤ lev ∧ L ≤ 11) (hcat : (st.map fun v => v.category).sum ≤ 8) (hst : stk = As.reverse ++ st) (d : decode cc pc = .ok (.invokestatic idx, 3)) (k : CG X u (pc + 3) lv (.int r :: st)) : CG X u pc lv stk := by
  obtain ⟨p, l, e, R, s, m, args, below, meth, c, cells, slots, nL, Q, wd⟩ := X
  obtain ⟨⟨hx, hb⟩, hml, hown, hts, hrm, D, dZ, dN, A, hK, hA, rfl⟩ := hC
  intro H locs ls hw hl
  obtain ⟨⟨k1, k2, k3, k4⟩, k6⟩ := hk
  obtain ⟨hP, hD, hS⟩ := hw
  refine va_calli (va_runS (As := As) (rest := st) ⟨hx, hb, hml, hown, hts⟩ (hM l) (va_cwS n hts (lw_S k1 k2 k3 k4) rfl rfl rfl k6 ⟨?_, ?_⟩) ⟨fun a U g mk q => q, fun U hU hW => ⟨rfl, trivial⟩⟩ rfl hn hl.1 hst (lv_room hcat) d ⟨hrm.2.2.1, hrm.2.2.2⟩) hS (fun q _ h => absurd h (fun z => z)) (fun q h => absurd h (fun z => z)) (fun r1 u1 t H1 locs1 ht hvm hp hB hz1 hk1 hS1 => ?_)
  · show lev' + 1 ≤ R.frames
    omega
  · show 8 + (L + 11) + 30 * lev' ≤ R.locals
    omega
  · subst hp
    exact k H1 locs1 ls ⟨hP.kept (fun k q hk => hk1 q.1 (hP k q hk).lt (fun z => z)), hD, hS1⟩ hl
/-! the world of ChunkClusterModel -/
def fsM (h : Nat → Nat) (u : Pst) : List Value := [.int (u 0 0), .ref (h 1), .ref (h 2), .ref (h 3), .ref (h 4), .ref (h 5)]
def cwM (dZ dN : ClassId) (h : Nat → Nat) (u : Pst) : va_W := [(h 0, .inr (1, fsM h u)), (h 1, .inl (dZ, 5, .inl (u 1))), (h 2, .inl (dZ, 4, .inl (u 2))), (h 3, .inl (dN, 4, .inl (u 3))), (h 4, .inl (dN, 24, .inl (u 4))), (h 5, .inl (dZ, 20, .inl (u 5)))]
def wdM (D : va_G) (dZ dN : ClassId) (h : Nat → Nat) (A : Nat → Prop) (s : State) : Pst → Heap → List Loc → Prop := fun u H locs => va_P D vwCl (cwM dZ dN h u) H ∧ va_D A (cwM dZ dN h u) ∧ va_S A s.heap H locs
def CkM (X : XX Pst) (cc : ByteArray) (lev : Nat) (h : Nat → Nat) : Prop := match X with
  | (p, l, e, R, s, m, args, below, meth, c, cells, slots, nL, Q, wd) => (p.tables.exec = Jvm.exec ∧ c.code = cc) ∧ c.maxLocals = nL ∧ s.vm.findClass RX2 = some m.cls ∧ (∀ w ∈ lw_all, w.before args s = true) ∧ (lev ≤ R.frames ∧ 30 * lev ≤ R.locals ∧ cells ≤ R.cells ∧ slots ≤ R.slots) ∧ ∃ (D : va_G) (dZ dN : ClassId) (A : Nat → Prop), va_K D vwCl (tyA dZ dN) s ∧ (∀ q, s.heap.size ≤ q → A q) ∧ wd = wdM D dZ dN h A s
theorem CkM.ck {X : XX Pst} {cc : ByteArray} {lev : Nat} {h : Nat → Nat} (hC : CkM X cc lev h) : Ck X cc := by
  obtain ⟨p, l, e, R, s, m, args, below, meth, c, cells, slots, nL, Q, wd⟩ := X
  exact hC.1
section FWM
variable {X : XX Pst} {cc : ByteArray} {lev : Nat} {h : Nat → Nat} {u : Pst} {pc : Nat} {lv : List (Option Value)} {st : List Value}
theorem mc_g0 (hC : CkM X cc lev h) (d : decode cc pc = .ok (.getfield 26, 3)) (kk : CG X u (pc + 3) lv (.int (u 0 0) :: st)) : CG X u pc lv (.ref (h 0) :: st) := by
  obtain ⟨p, l, e, R, s, m, args, below, meth, c, cells, slots, nL, Q, wd⟩ := X
  obtain ⟨⟨hx, hb⟩, hml, hown, hts, hrm, D, dZ, dN, A, hK, hA, rfl⟩ := hC
  intro H locs ls hw hl
  exact va_get (D := D) (ci := 1) (v := .int (u 0 0)) (C := RX2) (T := TX2) (N := 6) hx hb hts in_X2 hown hK hw.1 0 (fs := fsM h u) rfl rfl 0 (by decide) (hts _ q205) (fun _ h9 => h9) rfl d (kk H locs ls hw hl)
theorem mc_g1 (hC : CkM X cc lev h) (d : decode cc pc = .ok (.getfield 7, 3)) (kk : CG X u (pc + 3) lv (.ref (h 1) :: st)) : CG X u pc lv (.ref (h 0) :: st) := by
  obtain ⟨p, l, e, R, s, m, args, below, meth, c, cells, slots, nL, Q, wd⟩ := X
  obtain ⟨⟨hx, hb⟩, hml, hown, hts, hrm, D, dZ, dN, A, hK, hA, rfl⟩ := hC
  intro H locs ls hw hl
  exact va_get (D := D) (ci := 1) (v := .ref (h 1)) (C := RX2) (T := TX2) (N := 6) hx hb hts in_X2 hown hK hw.1 0 (fs := fsM h u) rfl rfl 1 (by decide) (hts _ q206) (fun _ h9 => h9) rfl d (kk H locs ls hw hl)
theorem mc_l1 {j : Nat} (hC : CkM X cc lev h) (d : decode cc pc = .ok (.baload, 1)) (hj : j < 5) (kk : CG X u (pc + 1) lv (.int (u 1 j) :: st)) : CG X u pc lv (.int (nI j) :: .ref (h 1) :: st) := by
  obtain ⟨p, l, e, R, s, m, args, below, meth, c, cells, slots, nL, Q, wd⟩ := X
  obtain ⟨⟨hx, hb⟩, hml, hown, hts, hrm, D, dZ, dN, A, hK, hA, rfl⟩ := hC
  intro H locs ls hw hl
  have hc : (nI j).toNatClampNeg = j := nI_clamp (by omega)
  have kk := kk H locs ls hw hl
  refine va_zald hx hb hK hw.1 1 0 (cA := dZ) (n := 5) (f := u 1) rfl rfl (i := nI j) (vp_in_nI hj (by decide)) d ?_
  rw [hc]
  exact kk
theorem mc_s1 {j : Nat} {x : Int32} (hC : CkM X cc lev h) (d : decode cc pc = .ok (.bastore, 1)) (hj : j < 5) (hx0 : vp_nar .boolean x = x) (kk : CG X (sU u 1 j x) (pc + 1) lv st) : CG X u pc lv (.int x :: .int (nI j) :: .ref (h 1) :: st) := by
  obtain ⟨p, l, e, R, s, m, args, below, meth, c, cells, slots, nL, Q, wd⟩ := X
  obtain ⟨⟨hx, hb⟩, hml, hown, hts, hrm, D, dZ, dN, A, hK, hA, rfl⟩ := hC
  intro H locs ls hw hl
  have hc : (nI j).toNatClampNeg = j := nI_clamp (by omega)
  refine va_zast hx hb hK hw.1 hw.2.1 hw.2.2 1 0 (cA := dZ) (n := 5) (f := u 1) rfl rfl (i := nI j) (x := x) (vp_in_nI hj (by decide)) d (fun H1 locs1 hP hD hS => ?_)
  rw [hc, hx0] at hP hD
  exact kk H1 locs1 ls ⟨hP, hD, hS⟩ hl
theorem mc_g2 (hC : CkM X cc lev h) (d : decode cc pc = .ok (.getfield 13, 3)) (kk : CG X u (pc + 3) lv (.ref (h 2) :: st)) : CG X u pc lv (.ref (h 0) :: st) := by
  obtain ⟨p, l, e, R, s, m, args, below, meth, c, cells, slots, nL, Q, wd⟩ := X
  obtain ⟨⟨hx, hb⟩, hml, hown, hts, hrm, D, dZ, dN, A, hK, hA, rfl⟩ := hC
  intro H locs ls hw hl
  exact va_get (D := D) (ci := 1) (v := .ref (h 2)) (C := RX2) (T := TX2) (N := 6) hx hb hts in_X2 hown hK hw.1 0 (fs := fsM h u) rfl rfl 2 (by decide) (hts _ q207) (fun _ h9 => h9) rfl d (kk H locs ls hw hl)
theorem mc_l2 {j : Nat} (hC : CkM X cc lev h) (d : decode cc pc = .ok (.baload, 1)) (hj : j < 4) (kk : CG X u (pc + 1) lv (.int (u 2 j) :: st)) : CG X u pc lv (.int (nI j) :: .ref (h 2) :: st) := by
  obtain ⟨p, l, e, R, s, m, args, below, meth, c, cells, slots, nL, Q, wd⟩ := X
  obtain ⟨⟨hx, hb⟩, hml, hown, hts, hrm, D, dZ, dN, A, hK, hA, rfl⟩ := hC
  intro H locs ls hw hl
  have hc : (nI j).toNatClampNeg = j := nI_clamp (by omega)
  have kk := kk H locs ls hw hl
  refine va_zald hx hb hK hw.1 2 0 (cA := dZ) (n := 4) (f := u 2) rfl rfl (i := nI j) (vp_in_nI hj (by decide)) d ?_
  rw [hc]
  exact kk
theorem mc_s2 {j : Nat} {x : Int32} (hC : CkM X cc lev h) (d : decode cc pc = .ok (.bastore, 1)) (hj : j < 4) (hx0 : vp_nar .boolean x = x) (kk : CG X (sU u 2 j x) (pc + 1) lv st) : CG X u pc lv (.int x :: .int (nI j) :: .ref (h 2) :: st) := by
  obtain ⟨p, l, e, R, s, m, args, below, meth, c, cells, slots, nL, Q, wd⟩ := X
  obtain ⟨⟨hx, hb⟩, hml, hown, hts, hrm, D, dZ, dN, A, hK, hA, rfl⟩ := hC
  intro H locs ls hw hl
  have hc : (nI j).toNatClampNeg = j := nI_clamp (by omega)
  refine va_zast hx hb hK hw.1 hw.2.1 hw.2.2 2 0 (cA := dZ) (n := 4) (f := u 2) rfl rfl (i := nI j) (x := x) (vp_in_nI hj (by decide)) d (fun H1 locs1 hP hD hS => ?_)
  rw [hc, hx0] at hP hD
  exact kk H1 locs1 ls ⟨hP, hD, hS⟩ hl
theorem mc_g3 (hC : CkM X cc lev h) (d : decode cc pc = .ok (.getfield 16, 3)) (kk : CG X u (pc + 3) lv (.ref (h 3) :: st)) : CG X u pc lv (.ref (h 0) :: st) := by
  obtain ⟨p, l, e, R, s, m, args, below, meth, c, cells, slots, nL, Q, wd⟩ := X
  obtain ⟨⟨hx, hb⟩, hml, hown, hts, hrm, D, dZ, dN, A, hK, hA, rfl⟩ := hC
  intro H locs ls hw hl
  exact va_get (D := D) (ci := 1) (v := .ref (h 3)) (C := RX2) (T := TX2) (N := 6) hx hb hts in_X2 hown hK hw.1 0 (fs := fsM h u) rfl rfl 3 (by decide) (hts _ q208) (fun _ h9 => h9) rfl d (kk H locs ls hw hl)
theorem mc_l3 {j : Nat} (hC : CkM X cc lev h) (d : decode cc pc = .ok (.iaload, 1)) (hj : j < 4) (kk : CG X u (pc + 1) lv (.int (u 3 j) :: st)) : CG X u pc lv (.int (nI j) :: .ref (h 3) :: st) := by
  obtain ⟨p, l, e, R, s, m, args, below, meth, c, cells, slots, nL, Q, wd⟩ := X
  obtain ⟨⟨hx, hb⟩, hml, hown, hts, hrm, D, dZ, dN, A, hK, hA, rfl⟩ := hC
  intro H locs ls hw hl
  have hc : (nI j).toNatClampNeg = j := nI_clamp (by omega)
  have kk := kk H locs ls hw hl
  refine va_iald hx hb hK hw.1 3 1 (cA := dN) (n := 4) (f := u 3) rfl rfl (i := nI j) (vp_in_nI hj (by decide)) d ?_
  rw [hc]
  exact kk
theorem mc_s3 {j : Nat} {x : Int32} (hC : CkM X cc lev h) (d : decode cc pc = .ok (.iastore, 1)) (hj : j < 4) (kk : CG X (sU u 3 j x) (pc + 1) lv st) : CG X u pc lv (.int x :: .int (nI j) :: .ref (h 3) :: st) := by
  obtain ⟨p, l, e, R, s, m, args, below, meth, c, cells, slots, nL, Q, wd⟩ := X
  obtain ⟨⟨hx, hb⟩, hml, hown, hts, hrm, D, dZ, dN, A, hK, hA, rfl⟩ := hC
  intro H locs ls hw hl
  have hc : (nI j).toNatClampNeg = j := nI_clamp (by omega)
  refine va_iast hx hb hK hw.1 hw.2.1 hw.2.2 3 1 (cA := dN) (n := 4) (f := u 3) rfl rfl (i := nI j) (x := x) (vp_in_nI hj (by decide)) d (fun H1 locs1 hP hD hS => ?_)
  rw [hc] at hP hD
  exact kk H1 locs1 ls ⟨hP, hD, hS⟩ hl
theorem mc_g4 (hC : CkM X cc lev h) (d : decode cc pc = .ok (.getfield 20, 3)) (kk : CG X u (pc + 3) lv (.ref (h 4) :: st)) : CG X u pc lv (.ref (h 0) :: st) := by
  obtain ⟨p, l, e, R, s, m, args, below, meth, c, cells, slots, nL, Q, wd⟩ := X
  obtain ⟨⟨hx, hb⟩, hml, hown, hts, hrm, D, dZ, dN, A, hK, hA, rfl⟩ := hC
  intro H locs ls hw hl
  exact va_get (D := D) (ci := 1) (v := .ref (h 4)) (C := RX2) (T := TX2) (N := 6) hx hb hts in_X2 hown hK hw.1 0 (fs := fsM h u) rfl rfl 4 (by decide) (hts _ q209) (fun _ h9 => h9) rfl d (kk H locs ls hw hl)
theorem mc_l4 {j : Nat} (hC : CkM X cc lev h) (d : decode cc pc = .ok (.iaload, 1)) (hj : j < 24) (kk : CG X u (pc + 1) lv (.int (u 4 j) :: st)) : CG X u pc lv (.int (nI j) :: .ref (h 4) :: st) := by
  obtain ⟨p, l, e, R, s, m, args, below, meth, c, cells, slots, nL, Q, wd⟩ := X
  obtain ⟨⟨hx, hb⟩, hml, hown, hts, hrm, D, dZ, dN, A, hK, hA, rfl⟩ := hC
  intro H locs ls hw hl
  have hc : (nI j).toNatClampNeg = j := nI_clamp (by omega)
  have kk := kk H locs ls hw hl
  refine va_iald hx hb hK hw.1 4 1 (cA := dN) (n := 24) (f := u 4) rfl rfl (i := nI j) (vp_in_nI hj (by decide)) d ?_
  rw [hc]
  exact kk
theorem mc_s4 {j : Nat} {x : Int32} (hC : CkM X cc lev h) (d : decode cc pc = .ok (.iastore, 1)) (hj : j < 24) (kk : CG X (sU u 4 j x) (pc + 1) lv st) : CG X u pc lv (.int x :: .int (nI j) :: .ref (h 4) :: st) := by
  obtain ⟨p, l, e, R, s, m, args, below, meth, c, cells, slots, nL, Q, wd⟩ := X
  obtain ⟨⟨hx, hb⟩, hml, hown, hts, hrm, D, dZ, dN, A, hK, hA, rfl⟩ := hC
  intro H locs ls hw hl
  have hc : (nI j).toNatClampNeg = j := nI_clamp (by omega)
  refine va_iast hx hb hK hw.1 hw.2.1 hw.2.2 4 1 (cA := dN) (n := 24) (f := u 4) rfl rfl (i := nI j) (x := x) (vp_in_nI hj (by decide)) d (fun H1 locs1 hP hD hS => ?_)
  rw [hc] at hP hD
  exact kk H1 locs1 ls ⟨hP, hD, hS⟩ hl
theorem mc_g5 (hC : CkM X cc lev h) (d : decode cc pc = .ok (.getfield 23, 3)) (kk : CG X u (pc + 3) lv (.ref (h 5) :: st)) : CG X u pc lv (.ref (h 0) :: st) := by
  obtain ⟨p, l, e, R, s, m, args, below, meth, c, cells, slots, nL, Q, wd⟩ := X
  obtain ⟨⟨hx, hb⟩, hml, hown, hts, hrm, D, dZ, dN, A, hK, hA, rfl⟩ := hC
  intro H locs ls hw hl
  exact va_get (D := D) (ci := 1) (v := .ref (h 5)) (C := RX2) (T := TX2) (N := 6) hx hb hts in_X2 hown hK hw.1 0 (fs := fsM h u) rfl rfl 5 (by decide) (hts _ q210) (fun _ h9 => h9) rfl d (kk H locs ls hw hl)
theorem mc_l5 {j : Nat} (hC : CkM X cc lev h) (d : decode cc pc = .ok (.baload, 1)) (hj : j < 20) (kk : CG X u (pc + 1) lv (.int (u 5 j) :: st)) : CG X u pc lv (.int (nI j) :: .ref (h 5) :: st) := by
  obtain ⟨p, l, e, R, s, m, args, below, meth, c, cells, slots, nL, Q, wd⟩ := X
  obtain ⟨⟨hx, hb⟩, hml, hown, hts, hrm, D, dZ, dN, A, hK, hA, rfl⟩ := hC
  intro H locs ls hw hl
  have hc : (nI j).toNatClampNeg = j := nI_clamp (by omega)
  have kk := kk H locs ls hw hl
  refine va_zald hx hb hK hw.1 5 0 (cA := dZ) (n := 20) (f := u 5) rfl rfl (i := nI j) (vp_in_nI hj (by decide)) d ?_
  rw [hc]
  exact kk
theorem mc_s5 {j : Nat} {x : Int32} (hC : CkM X cc lev h) (d : decode cc pc = .ok (.bastore, 1)) (hj : j < 20) (hx0 : vp_nar .boolean x = x) (kk : CG X (sU u 5 j x) (pc + 1) lv st) : CG X u pc lv (.int x :: .int (nI j) :: .ref (h 5) :: st) := by
  obtain ⟨p, l, e, R, s, m, args, below, meth, c, cells, slots, nL, Q, wd⟩ := X
  obtain ⟨⟨hx, hb⟩, hml, hown, hts, hrm, D, dZ, dN, A, hK, hA, rfl⟩ := hC
  intro H locs ls hw hl
  have hc : (nI j).toNatClampNeg = j := nI_clamp (by omega)
  refine va_zast hx hb hK hw.1 hw.2.1 hw.2.2 5 0 (cA := dZ) (n := 20) (f := u 5) rfl rfl (i := nI j) (x := x) (vp_in_nI hj (by decide)) d (fun H1 locs1 hP hD hS => ?_)
  rw [hc, hx0] at hP hD
  exact kk H1 locs1 ls ⟨hP, hD, hS⟩ hl
end FWM
/-- the contract of a method of ChunkClusterModel that answers an int: from the state u it answers r and leaves u' -/
def mIM (y : MethodName) (b : ByteArray) (L : Nat) (rt : FieldType) (lev : Nat) (As : List Value) (u : Pst) (r : Int32) (u' : Pst) : Prop := ∀ (l : Launch) (D : va_G) (dZ dN : ClassId) (h : Nat → Nat) (sz : Nat), Met l y (ws_ y b L (some rt)) (Rm lev) (va_Pc (.ref (h 0) :: As) (fun U => U.heap.size = sz ∧ va_P D vwCl (cwM dZ dN h u) U.heap ∧ va_K D vwCl (tyA dZ dN) U ∧ va_D (fun _ => True) (cwM dZ dN h u))) (va_Qi (fun (r1 : Int32) (u1 : Pst) => r1 = r ∧ u1 = u') (fun (u1 : Pst) (t : State) => va_P D vwCl (cwM dZ dN h u1) t.heap ∧ va_K D vwCl (tyA dZ dN) t ∧ va_D (va_A (cwM dZ dN h u) sz) (cwM dZ dN h u1)) (va_A (cwM dZ dN h u) sz)) 0 0 (va_A (cwM dZ dN h u) sz)
def mVM (y : MethodName) (b : ByteArray) (L : Nat) (lev : Nat) (As : List Value) (u : Pst) (u' : Pst) : Prop := ∀ (l : Launch) (D : va_G) (dZ dN : ClassId) (h : Nat → Nat) (sz : Nat), Met l y (ws_ y b L none) (Rm lev) (va_Pc (.ref (h 0) :: As) (fun U => U.heap.size = sz ∧ va_P D vwCl (cwM dZ dN h u) U.heap ∧ va_K D vwCl (tyA dZ dN) U ∧ va_D (fun _ => True) (cwM dZ dN h u))) (va_Qv (fun (u1 : Pst) => u1 = u') (fun (u1 : Pst) (t : State) => va_P D vwCl (cwM dZ dN h u1) t.heap ∧ va_K D vwCl (tyA dZ dN) t ∧ va_D (va_A (cwM dZ dN h u) sz) (cwM dZ dN h u1)) (va_A (cwM dZ dN h u) sz)) 0 0 (va_A (cwM dZ dN h u) sz)
theorem e_IM {y : MethodName} {b : ByteArray} {L : Nat} {rt : FieldType} {lev : Nat} {As : List Value} {u u' : Pst} {r : Int32} (hy : plainName y.cls = true) (hcl : y.cls = RX2) (hnar : narrow rt (.int r) = .int r) (hlen : As.length + 1 ≤ L) (hcat : ∀ v ∈ As, v.category = 1)
    (body : ∀ (X : XX Pst) (h : Nat → Nat), CkM X b lev h → (∀ (pc : Nat) (lv : List (Option Value)) (v : Int32) (u1 : Pst), decode b pc = .ok (.ireturn, 1) → v = r → u1 = u' → CG X u1 pc lv [.int v]) → CG X u 0 ((Value.ref (h 0) :: As).map some ++ List.replicate (L - (As.length + 1)) none) []) : mIM y b L rt lev As u r u' := by
  intro l D dZ dN h sz
  refine Met.ofW (cc := b) (maxL := L) (ret := (some rt)) hy rfl ?_
  intro p e s m args below meth c s₁ B hml hv
  obtain ⟨rfl, hsz, hP, hK, hD0⟩ := hv
  have hts := atoms_spec (ws := ws_ y b L (some rt)) B.pre
  have hts : ∀ w ∈ lw_all, w.before _ s = true := fun w h => hts w (List.mem_cons_of_mem _ h)
  have hown : s.vm.findClass RX2 = some m.cls := by rw [← hcl]; exact findClass_of_methodNamed B.named
  subst hsz
  have hD := hD0.self (sz := s.heap.size)
  have hA : ∀ q : Nat, s.heap.size ≤ q → va_A (cwM dZ dN h u) s.heap.size q := fun q h => Or.inr h
  have hS : va_S (va_A (cwM dZ dN h u) s.heap.size) s.heap s.heap [] := va_S.rf
  have hcat' : ∀ v ∈ (Value.ref (h 0) :: As), v.category = 1 := fun v hv => by
    rcases List.mem_cons.mp hv with e | e
    · rw [e]; rfl
    · exact hcat v e
  have hsl : (lg_sl (Value.ref (h 0) :: As)).length = As.length + 1 := fw_sl hcat'
  have hl := lv_entry (Value.ref (h 0) :: As) (n := L) (by rw [hsl]; exact hlen)
  rw [lg_entry_eq]
  have hl2 := lo_entry hl hlen hcat'
  have hlocks := B.notSynchronized
  have := body (p, l, e, (headSpec (ws_ y b L (some rt)) (Rm lev)).room, s, m, (Value.ref (h 0) :: As).toArray, below, meth, c, 0, 0, L, MQ below (va_Qi (fun (r1 : Int32) (u1 : Pst) => r1 = r ∧ u1 = u') (fun (u1 : Pst) (t : State) => va_P D vwCl (cwM dZ dN h u1) t.heap ∧ va_K D vwCl (tyA dZ dN) t ∧ va_D (va_A (cwM dZ dN h u) s.heap.size) (cwM dZ dN h u1)) (va_A (cwM dZ dN h u) s.heap.size)) (Value.ref (h 0) :: As).toArray s 0 0 (va_A (cwM dZ dN h u) s.heap.size), wdM D dZ dN h (va_A (cwM dZ dN h u) s.heap.size) s) h ⟨⟨B.exec, B.bytes⟩, hml, hown, hts, ⟨Nat.le_refl _, Nat.le_refl _, Nat.zero_le _, Nat.zero_le _⟩, D, dZ, dN, _, hK, hA, rfl⟩ ?_
  · exact this s.heap [] _ ⟨hP, hD, hS⟩ hl2
  · intro pc lv v u1 d e1 e2
    subst e1; subst e2
    intro H locs ls hw _
    exact W.zret B.exec B.bytes B.returns hnar (fun t ht hW => ⟨⟨v, u1, rfl, ⟨rfl, rfl⟩, by rw [ht]; exact hw.1, va_K.moved hW.alike hK, hw.2.1⟩, hw.2.2.F ht⟩) hw.2.2.2.2 d
theorem k_IM {X : XX Pst} {cc : ByteArray} {lev lev' : Nat} {h : Nat → Nat} {u u' : Pst} {pc : Nat} {lv : List (Option Value)} {st stk : List Value} {y : MethodName} {b : ByteArray} {L n idx : Nat} {rt : FieldType} {As : List Value} {r : Int32} (hC : CkM X cc lev h) (hM : mIM y b L rt lev' As u r u') (hk : KI RX2 idx y b L (some rt) n) (hcl : y.cls = RX2) (hn : As.length = n) (hlv : lev' + 1 ≤ lev ∧ L ≤ 11) (hcat : (st.map fun v => v.category).sum ≤ 8) (hst : stk = As.reverse ++ .ref (h 0) :: st) (d : decode cc pc = .ok (.invokevirtual idx, 3)) (k : CG X u' (pc + 3) lv (.int r :: st)) : CG X u pc lv stk := by
  obtain ⟨p, l, e, R, s, m, args, below, meth, c, cells, slots, nL, Q, wd⟩ := X
  obtain ⟨⟨hx, hb⟩, hml, hown, hts, hrm, D, dZ, dN, A, hK, hA, rfl⟩ := hC
  intro H locs ls hw hl
  have hFc := va_free (wc := cwM dZ dN h u) hw.2.1 hw.2.2 hA [0, 1, 2, 3, 4, 5] rfl
  obtain ⟨⟨k1, k2, k3, k4, k5⟩, k6⟩ := hk
  obtain ⟨hP, hD, hS⟩ := hw
  refine va_calli (va_runV (As := As) (rest := st) (C := RX2) ⟨hx, hb, hml, hown, hts⟩ (hM l D dZ dN h H.size) (cwV n hts (lw_V k1 k2 (hcl ▸ k3) (hcl ▸ k4) k5) rfl rfl rfl ⟨hcl, k6⟩ ⟨?_, ?_⟩) ⟨fun a U g mk q => by obtain ⟨q0, q1, qP, qK, qD⟩ := q; exact ⟨q0, q1, qP, va_K.moved (u := U) (U := U.calling g mk a) (Vm.Alike.refl U.vm) qK, qD⟩, va_recv hK hP (ci := 1) (q0 := 0) rfl rfl, fun U hU hW => ⟨rfl, by rw [hU], by rw [hU]; exact hP, va_K.moved hW.alike hK, hD.weaken (fun _ _ _ _ => trivial)⟩⟩ rfl hn hl.1 hst (lv_room hcat) d ⟨hrm.2.2.1, hrm.2.2.2⟩) hS (fun q _ h => hFc q h) hFc (fun r1 u1 t H1 locs1 ht hvm hp hB hz1 hk1 hS1 => ?_)
  · show lev' + 1 ≤ R.frames
    omega
  · show 8 + (L + 11) + 30 * lev' ≤ R.locals
    omega
  · obtain ⟨rfl, rfl⟩ := hp
    obtain ⟨hP1, hK1, hD1⟩ := hB
    rw [ht] at hP1
    exact k H1 locs1 ls ⟨hP1, hD1.weaken (fun _ q _ h => hFc q.1 h), hS1⟩ hl
theorem e_VM {y : MethodName} {b : ByteArray} {L : Nat} {lev : Nat} {As : List Value} {u u' : Pst} (hy : plainName y.cls = true) (hcl : y.cls = RX2) (hlen : As.length + 1 ≤ L) (hcat : ∀ v ∈ As, v.category = 1)
    (body : ∀ (X : XX Pst) (h : Nat → Nat), CkM X b lev h → (∀ (pc : Nat) (lv : List (Option Value)) (u1 : Pst), decode b pc = .ok (.return_, 1) → u1 = u' → CG X u1 pc lv []) → CG X u 0 ((Value.ref (h 0) :: As).map some ++ List.replicate (L - (As.length + 1)) none) []) : mVM y b L lev As u u' := by
  intro l D dZ dN h sz
  refine Met.ofW (cc := b) (maxL := L) (ret := none) hy rfl ?_
  intro p e s m args below meth c s₁ B hml hv
  obtain ⟨rfl, hsz, hP, hK, hD0⟩ := hv
  have hts := atoms_spec (ws := ws_ y b L none) B.pre
  have hts : ∀ w ∈ lw_all, w.before _ s = true := fun w h => hts w (List.mem_cons_of_mem _ h)
  have hown : s.vm.findClass RX2 = some m.cls := by rw [← hcl]; exact findClass_of_methodNamed B.named
  subst hsz
  have hD := hD0.self (sz := s.heap.size)
  have hA : ∀ q : Nat, s.heap.size ≤ q → va_A (cwM dZ dN h u) s.heap.size q := fun q h => Or.inr h
  have hS : va_S (va_A (cwM dZ dN h u) s.heap.size) s.heap s.heap [] := va_S.rf
  have hcat' : ∀ v ∈ (Value.ref (h 0) :: As), v.category = 1 := fun v hv => by
    rcases List.mem_cons.mp hv with e | e
    · rw [e]; rfl
    · exact hcat v e
  have hsl : (lg_sl (Value.ref (h 0) :: As)).length = As.length + 1 := fw_sl hcat'
  have hl := lv_entry (Value.ref (h 0) :: As) (n := L) (by rw [hsl]; exact hlen)
  rw [lg_entry_eq]
  have hl2 := lo_entry hl hlen hcat'
  have hlocks := B.notSynchronized
  have := body (p, l, e, (headSpec (ws_ y b L none) (Rm lev)).room, s, m, (Value.ref (h 0) :: As).toArray, below, meth, c, 0, 0, L, MQ below (va_Qv (fun (u1 : Pst) => u1 = u') (fun (u1 : Pst) (t : State) => va_P D vwCl (cwM dZ dN h u1) t.heap ∧ va_K D vwCl (tyA dZ dN) t ∧ va_D (va_A (cwM dZ dN h u) s.heap.size) (cwM dZ dN h u1)) (va_A (cwM dZ dN h u) s.heap.size)) (Value.ref (h 0) :: As).toArray s 0 0 (va_A (cwM dZ dN h u) s.heap.size), wdM D dZ dN h (va_A (cwM dZ dN h u) s.heap.size) s) h ⟨⟨B.exec, B.bytes⟩, hml, hown, hts, ⟨Nat.le_refl _, Nat.le_refl _, Nat.zero_le _, Nat.zero_le _⟩, D, dZ, dN, _, hK, hA, rfl⟩ ?_
  · exact this s.heap [] _ ⟨hP, hD, hS⟩ hl2
  · intro pc lv u1 d e2
    subst e2
    intro H locs ls hw _
    exact W.vret B.exec B.bytes B.returns (fun t ht hW => ⟨⟨u1, rfl, rfl, by rw [ht]; exact hw.1, va_K.moved hW.alike hK, hw.2.1⟩, hw.2.2.F ht⟩) hw.2.2.2.2 d
theorem k_VM {X : XX Pst} {cc : ByteArray} {lev lev' : Nat} {h : Nat → Nat} {u u' : Pst} {pc : Nat} {lv : List (Option Value)} {st stk : List Value} {y : MethodName} {b : ByteArray} {L n idx : Nat} {As : List Value} (hC : CkM X cc lev h) (hM : mVM y b L lev' As u u') (hk : KI RX2 idx y b L none n) (hcl : y.cls = RX2) (hn : As.length = n) (hlv : lev' + 1 ≤ lev ∧ L ≤ 11) (hcat : (st.map fun v => v.category).sum ≤ 8) (hst : stk = As.reverse ++ .ref (h 0) :: st) (d : decode cc pc = .ok (.invokevirtual idx, 3)) (k : CG X u' (pc + 3) lv st) : CG X u pc lv stk := by
  obtain ⟨p, l, e, R, s, m, args, below, meth, c, cells, slots, nL, Q, wd⟩ := X
  obtain ⟨⟨hx, hb⟩, hml, hown, hts, hrm, D, dZ, dN, A, hK, hA, rfl⟩ := hC
  intro H locs ls hw hl
  have hFc := va_free (wc := cwM dZ dN h u) hw.2.1 hw.2.2 hA [0, 1, 2, 3, 4, 5] rfl
  obtain ⟨⟨k1, k2, k3, k4, k5⟩, k6⟩ := hk
  obtain ⟨hP, hD, hS⟩ := hw
  refine va_callv (va_runV (As := As) (rest := st) (C := RX2) ⟨hx, hb, hml, hown, hts⟩ (hM l D dZ dN h H.size) (cwV n hts (lw_V k1 k2 (hcl ▸ k3) (hcl ▸ k4) k5) rfl rfl rfl ⟨hcl, k6⟩ ⟨?_, ?_⟩) ⟨fun a U g mk q => by obtain ⟨q0, q1, qP, qK, qD⟩ := q; exact ⟨q0, q1, qP, va_K.moved (u := U) (U := U.calling g mk a) (Vm.Alike.refl U.vm) qK, qD⟩, va_recv hK hP (ci := 1) (q0 := 0) rfl rfl, fun U hU hW => ⟨rfl, by rw [hU], by rw [hU]; exact hP, va_K.moved hW.alike hK, hD.weaken (fun _ _ _ _ => trivial)⟩⟩ rfl hn hl.1 hst (lv_room hcat) d ⟨hrm.2.2.1, hrm.2.2.2⟩) hS (fun q _ h => hFc q h) hFc (fun u1 t H1 locs1 ht hvm hp hB hz1 hk1 hS1 => ?_)
  · show lev' + 1 ≤ R.frames
    omega
  · show 8 + (L + 11) + 30 * lev' ≤ R.locals
    omega
  · subst hp
    obtain ⟨hP1, hK1, hD1⟩ := hB
    rw [ht] at hP1
    exact k H1 locs1 ls ⟨hP1, hD1.weaken (fun _ q _ h => hFc q.1 h), hS1⟩ hl
theorem k_SM {X : XX Pst} {cc : ByteArray} {lev lev' : Nat} {h : Nat → Nat} {u : Pst} {pc : Nat} {lv : List (Option Value)} {st stk : List Value} {y : MethodName} {b : ByteArray} {L n idx : Nat} {rt : FieldType} {As : List Value} {r : Int32} (hC : CkM X cc lev h) (hM : mS y b L rt lev' As r) (hk : KS RX2 idx y b L (some rt) n) (hn : As.length = n) (hlv : lev' + 1 ≤ lev ∧ L ≤ 11) (hcat : (st.map fun v => v.category).sum ≤ 8) (hst : stk = As.reverse ++ st) (d : decode cc pc = .ok (.invokestatic idx, 3)) (k : CG X u (pc + 3) lv (.int r :: st)) : CG X u pc lv stk := by
  obtain ⟨p, l, e, R, s, m, args, below, meth, c, cells, slots, nL, Q, wd⟩ := X
  obtain ⟨⟨hx, hb⟩, hml, hown, hts, hrm, D, dZ, dN, A, hK, hA, rfl⟩ := hC
  intro H locs ls hw hl
  obtain ⟨⟨k1, k2, k3, k4⟩, k6⟩ := hk
  obtain ⟨hP, hD, hS⟩ := hw
  refine va_calli (va_runS (As := As) (rest := st) ⟨hx, hb, hml, hown, hts⟩ (hM l) (va_cwS n hts (lw_S k1 k2 k3 k4) rfl rfl rfl k6 ⟨?_, ?_⟩) ⟨fun a U g mk q => q, fun U hU hW => ⟨rfl, trivial⟩⟩ rfl hn hl.1 hst (lv_room hcat) d ⟨hrm.2.2.1, hrm.2.2.2⟩) hS (fun q _ h => absurd h (fun z => z)) (fun q h => absurd h (fun z => z)) (fun r1 u1 t H1 locs1 ht hvm hp hB hz1 hk1 hS1 => ?_)
  · show lev' + 1 ≤ R.frames
    omega
  · show 8 + (L + 11) + 30 * lev' ≤ R.locals
    omega
  · subst hp
    exact k H1 locs1 ls ⟨hP.kept (fun k q hk => hk1 q.1 (hP k q hk).lt (fun z => z)), hD, hS1⟩ hl
end
section
set_option maxRecDepth 100000
theorem kL_cell : KS RX0 9 yX0_cell cX0_cell 2 (some .int) 2 := ⟨⟨q196, q197, q23, q198⟩, by decide +kernel⟩
theorem kLC_create : KI RX0 21 yX1_create cX1_create 8 (some .int) 1 := ⟨⟨q70, q71, q72, q24, q73⟩, by decide +kernel⟩
theorem kLM_create : KI RX0 25 yX2_create cX2_create 3 (some .int) 1 := ⟨⟨q224, q225, q226, q25, q227⟩, by decide +kernel⟩
theorem kLC_remove : KI RX0 26 yX1_remove cX1_remove 3 (some .int) 1 := ⟨⟨q114, q115, q116, q24, q117⟩, by decide +kernel⟩
theorem kLM_remove : KI RX0 29 yX2_remove cX2_remove 3 (some .int) 1 := ⟨⟨q248, q249, q250, q25, q251⟩, by decide +kernel⟩
theorem kLC_write : KI RX0 30 yX1_write cX1_write 5 (some .int) 3 := ⟨⟨q118, q119, q120, q24, q121⟩, by decide +kernel⟩
theorem kLM_write : KI RX0 34 yX2_write cX2_write 6 (some .int) 3 := ⟨⟨q252, q253, q254, q25, q255⟩, by decide +kernel⟩
theorem kLC_append : KI RX0 35 yX1_append cX1_append 6 (some .int) 2 := ⟨⟨q149, q150, q151, q24, q152⟩, by decide +kernel⟩
theorem kLM_append : KI RX0 39 yX2_append cX2_append 5 (some .int) 2 := ⟨⟨q260, q261, q262, q25, q263⟩, by decide +kernel⟩
theorem kLC_snapshot : KI RX0 40 yX1_snapshot cX1_snapshot 7 (some .int) 2 := ⟨⟨q153, q154, q155, q24, q156⟩, by decide +kernel⟩
theorem kLM_snapshot : KI RX0 43 yX2_snapshot cX2_snapshot 4 (some .int) 2 := ⟨⟨q265, q266, q267, q25, q268⟩, by decide +kernel⟩
theorem kLC_crash : KI RX0 44 yX1_crash cX1_crash 3 (some .int) 1 := ⟨⟨q157, q158, q159, q24, q160⟩, by decide +kernel⟩
theorem kLM_crash : KI RX0 47 yX2_crash cX2_crash 3 (some .int) 1 := ⟨⟨q269, q270, q271, q25, q272⟩, by decide +kernel⟩
theorem kLC_restart : KI RX0 48 yX1_restart cX1_restart 4 (some .int) 1 := ⟨⟨q164, q165, q166, q24, q167⟩, by decide +kernel⟩
theorem kLM_restart : KI RX0 51 yX2_restart cX2_restart 3 (some .int) 1 := ⟨⟨q277, q278, q279, q25, q280⟩, by decide +kernel⟩
theorem kLC_loseDisk : KI RX0 52 yX1_loseDisk cX1_loseDisk 4 (some .int) 1 := ⟨⟨q168, q169, q170, q24, q171⟩, by decide +kernel⟩
theorem kLM_loseDisk : KI RX0 55 yX2_loseDisk cX2_loseDisk 4 (some .int) 1 := ⟨⟨q281, q282, q283, q25, q284⟩, by decide +kernel⟩
theorem kLC_damage : KI RX0 56 yX1_damage cX1_damage 5 (some .int) 2 := ⟨⟨q172, q173, q174, q24, q175⟩, by decide +kernel⟩
theorem kLM_damage : KI RX0 59 yX2_damage cX2_damage 4 (some .int) 2 := ⟨⟨q285, q286, q287, q25, q288⟩, by decide +kernel⟩
theorem kLC_heal : KI RX0 60 yX1_heal cX1_heal 3 (some .int) 0 := ⟨⟨q176, q177, q178, q24, q179⟩, by decide +kernel⟩
theorem kLM_heal : KI RX0 64 yX2_heal cX2_heal 3 (some .int) 0 := ⟨⟨q289, q290, q291, q25, q292⟩, by decide +kernel⟩
theorem kLC_read : KI RX0 65 yX1_read cX1_read 5 (some .int) 2 := ⟨⟨q184, q185, q186, q24, q187⟩, by decide +kernel⟩
theorem kLM_read : KI RX0 68 yX2_read cX2_read 4 (some .int) 2 := ⟨⟨q293, q294, q295, q25, q296⟩, by decide +kernel⟩
theorem kLC_length : KI RX0 69 yX1_length cX1_length 4 (some .int) 1 := ⟨⟨q188, q189, q190, q24, q191⟩, by decide +kernel⟩
theorem kLM_length : KI RX0 72 yX2_length cX2_length 3 (some .int) 1 := ⟨⟨q297, q298, q299, q25, q300⟩, by decide +kernel⟩
theorem kLC_replicas : KI RX0 73 yX1_replicas cX1_replicas 2 (some .int) 1 := ⟨⟨q192, q193, q194, q24, q195⟩, by decide +kernel⟩
theorem kLM_replicas : KI RX0 76 yX2_replicas cX2_replicas 4 (some .int) 1 := ⟨⟨q301, q302, q303, q25, q304⟩, by decide +kernel⟩
theorem kC_freeBlock : KI RX1 43 yX1_freeBlock cX1_freeBlock 3 (some .int) 1 := ⟨⟨q110, q112, qs8, q24, q113⟩, by decide +kernel⟩
theorem kC_copyBlock : KI RX1 47 yX1_copyBlock cX1_copyBlock 4 none 2 := ⟨⟨q142, q144, qs14, q24, q145⟩, by decide +kernel⟩
theorem kC_letGo : KI RX1 51 yX1_letGo cX1_letGo 4 none 2 := ⟨⟨q106, q108, qs7, q24, q109⟩, by decide +kernel⟩
theorem kC_sumOf : KI RX1 54 yX1_sumOf cX1_sumOf 4 (some .int) 1 := ⟨⟨q97, q99, qs5, q24, q100⟩, by decide +kernel⟩
theorem kC_current : KI RX1 57 yX1_current cX1_current 5 (some .boolean) 2 := ⟨⟨q93, q95, qs4, q24, q96⟩, by decide +kernel⟩
theorem kC_loadOf : KI RX1 61 yX1_loadOf cX1_loadOf 5 (some .int) 1 := ⟨⟨q89, q91, qs3, q24, q92⟩, by decide +kernel⟩
theorem kC_badFile : KS RX1 67 yX1_badFile cX1_badFile 1 (some .boolean) 1 := ⟨⟨q74, q75, q24, q76⟩, by decide +kernel⟩
theorem kC_upSet : KI RX1 71 yX1_upSet cX1_upSet 3 (some .int) 0 := ⟨⟨q77, q79, qs0, q24, q80⟩, by decide +kernel⟩
theorem kC_newVersion : KI RX1 75 yX1_newVersion cX1_newVersion 2 none 1 := ⟨⟨q81, q83, qs1, q24, q84⟩, by decide +kernel⟩
theorem kC_firstOf : KI RX1 79 yX1_firstOf cX1_firstOf 6 (some .int) 1 := ⟨⟨q85, q87, qs2, q24, q88⟩, by decide +kernel⟩
theorem kC_newReplica : KI RX1 82 yX1_newReplica cX1_newReplica 4 (some .int) 2 := ⟨⟨q102, q104, qs6, q24, q105⟩, by decide +kernel⟩
theorem kC_source : KI RX1 86 yX1_source cX1_source 4 (some .int) 1 := ⟨⟨q126, q128, qs10, q24, q129⟩, by decide +kernel⟩
theorem kC_currentSet : KI RX1 89 yX1_currentSet cX1_currentSet 5 (some .int) 1 := ⟨⟨q134, q136, qs12, q24, q137⟩, by decide +kernel⟩
theorem kC_ownBlock : KI RX1 92 yX1_ownBlock cX1_ownBlock 5 (some .int) 2 := ⟨⟨q138, q140, qs13, q24, q141⟩, by decide +kernel⟩
theorem kC_bits : KS RX1 95 yX1_bits cX1_bits 3 (some .int) 1 := ⟨⟨q146, q147, q24, q148⟩, by decide +kernel⟩
theorem kC_refusal : KI RX1 98 yX1_refusal cX1_refusal 3 (some .int) 1 := ⟨⟨q122, q124, qs9, q24, q125⟩, by decide +kernel⟩
theorem kC_mutate : KI RX1 101 yX1_mutate cX1_mutate 8 (some .int) 3 := ⟨⟨q130, q132, qs11, q24, q133⟩, by decide +kernel⟩
theorem kC_badServer : KS RX1 105 yX1_badServer cX1_badServer 1 (some .boolean) 1 := ⟨⟨q161, q162, q24, q163⟩, by decide +kernel⟩
theorem kC_healFile : KI RX1 108 yX1_healFile cX1_healFile 10 (some .int) 1 := ⟨⟨q180, q182, qs15, q24, q183⟩, by decide +kernel⟩
theorem kM_load : KI RX2 30 yX2_load cX2_load 4 (some .int) 1 := ⟨⟨q236, q238, qs18, q25, q239⟩, by decide +kernel⟩
theorem kM_nextServer : KI RX2 34 yX2_nextServer cX2_nextServer 5 (some .int) 1 := ⟨⟨q232, q234, qs17, q25, q235⟩, by decide +kernel⟩
theorem kM_holders : KI RX2 37 yX2_holders cX2_holders 5 (some .int) 2 := ⟨⟨q244, q246, qs20, q25, q247⟩, by decide +kernel⟩
theorem kM_isFile : KI RX2 41 yX2_isFile cX2_isFile 2 (some .boolean) 1 := ⟨⟨q228, q230, qs16, q25, q231⟩, by decide +kernel⟩
theorem kM_fill : KI RX2 45 yX2_fill cX2_fill 5 (some .int) 1 := ⟨⟨q240, q242, qs19, q25, q243⟩, by decide +kernel⟩
theorem kM_refusal : KI RX2 48 yX2_refusal cX2_refusal 2 (some .int) 1 := ⟨⟨q256, q258, qs21, q25, q259⟩, by decide +kernel⟩
theorem kM_write : KI RX2 51 yX2_write cX2_write 6 (some .int) 3 := ⟨⟨q264, q253, q254, q25, q255⟩, by decide +kernel⟩
theorem kM_isServer : KI RX2 55 yX2_isServer cX2_isServer 2 (some .boolean) 1 := ⟨⟨q273, q275, qs22, q25, q276⟩, by decide +kernel⟩
end
section
/-! PURE WORDS: what the methods compute, over a state u (field number, place) -/
abbrev cl (x : Int32) : Nat := x.toNatClampNeg
def bI (b : Bool) : Int32 := if b then 1 else 0
def oI (o : Option Nat) : Int32 := match o with
  | none => -1
  | some k => nI k
/-- how many of the first n have P -/
def cnt (P : Nat → Bool) : Nat → Nat
  | 0 => 0
  | n + 1 => cnt P n + (if P n then 1 else 0)
/-- the set of those of the first n that have P, as a mask -/
def mk5 (P : Nat → Bool) : Nat → Nat
  | 0 => 0
  | n + 1 => mk5 P n + (if P n then 2 ^ n else 0)
def bt5 (m s : Nat) : Bool := decide (m / 2 ^ s % 2 = 1)
/-- the first of the first n that has P -/
def fi5 (P : Nat → Bool) : Nat → Option Nat
  | 0 => none
  | n + 1 => match fi5 P n with
    | some k => some k
    | none => if P n then some n else none
/-- of the first n with P the one of the least load, the first of them -/
def fst5 (P : Nat → Bool) (ld : Nat → Nat) : Nat → Option Nat
  | 0 => none
  | n + 1 => if P n then (match fst5 P ld n with
    | none => some n
    | some b => if ld n < ld b then some n else some b) else fst5 P ld n
theorem mk5_lt (P : Nat → Bool) : ∀ n, mk5 P n < 2 ^ n
  | 0 => by simp [mk5]
  | n + 1 => by
    have := mk5_lt P n
    have e : (2 : Nat) ^ (n + 1) = 2 ^ n + 2 ^ n := by rw [Nat.pow_succ]; omega
    simp only [mk5]
    split <;> omega
theorem cnt_le (P : Nat → Bool) : ∀ n, cnt P n ≤ n
  | 0 => Nat.le_refl _
  | n + 1 => by
    have := cnt_le P n
    simp only [cnt]
    split <;> omega
theorem mk5_congr {P Q : Nat → Bool} : ∀ n, (∀ s, s < n → P s = Q s) → mk5 P n = mk5 Q n
  | 0, _ => rfl
  | n + 1, h => by
    simp only [mk5, mk5_congr n (fun s hs => h s (by omega)), h n (by omega)]
theorem cnt_congr {P Q : Nat → Bool} : ∀ n, (∀ s, s < n → P s = Q s) → cnt P n = cnt Q n
  | 0, _ => rfl
  | n + 1, h => by
    simp only [cnt, cnt_congr n (fun s hs => h s (by omega)), h n (by omega)]
theorem fi5_congr {P Q : Nat → Bool} : ∀ n, (∀ s, s < n → P s = Q s) → fi5 P n = fi5 Q n
  | 0, _ => rfl
  | n + 1, h => by
    simp only [fi5, fi5_congr n (fun s hs => h s (by omega)), h n (by omega)]
theorem fst5_lt {P : Nat → Bool} {ld : Nat → Nat} : ∀ n k, fst5 P ld n = some k → k < n ∧ P k = true
  | 0, k, h => by simp [fst5] at h
  | n + 1, k, h => by
    simp only [fst5] at h
    by_cases hp : P n = true
    · rw [if_pos hp] at h
      cases hf : fst5 P ld n with
      | none => rw [hf] at h; cases h; exact ⟨by omega, hp⟩
      | some b =>
        rw [hf] at h
        have := fst5_lt n b hf
        by_cases hl : ld n < ld b
        · simp only [hl, if_true] at h; cases h; exact ⟨by omega, hp⟩
        · simp only [hl, if_false] at h; cases h; exact ⟨by omega, this.2⟩
    · rw [if_neg hp] at h
      have := fst5_lt n k h
      exact ⟨by omega, this.2⟩
theorem fst5_congr {P Q : Nat → Bool} {ld le : Nat → Nat} : ∀ n, (∀ s, s < n → P s = Q s) → (∀ s, s < n → ld s = le s) → fst5 P ld n = fst5 Q le n
  | 0, _, _ => rfl
  | n + 1, h, g => by
    have ih := fst5_congr n (fun s hs => h s (by omega)) (fun s hs => g s (by omega))
    simp only [fst5, ih, h n (by omega)]
    cases hf : fst5 Q le n with
    | none => rfl
    | some b =>
      have hb := (fst5_lt n b hf).1
      simp only [g n (by omega), g b (by omega)]
theorem fst5_none {P : Nat → Bool} {ld : Nat → Nat} : ∀ n, fst5 P ld n = none → ∀ s, s < n → P s = false
  | 0, _, s, hs => absurd hs (by omega)
  | n + 1, h, s, hs => by
    simp only [fst5] at h
    by_cases hp : P n = true
    · rw [if_pos hp] at h
      cases hf : fst5 P ld n with
      | none => rw [hf] at h; cases h
      | some b =>
        rw [hf] at h
        by_cases hl : ld n < ld b
        · simp only [hl, if_true] at h; cases h
        · simp only [hl, if_false] at h; cases h
    · rw [if_neg hp] at h
      by_cases e : s = n
      · subst e; simpa using hp
      · exact fst5_none n h s (by omega)
theorem fi5_lt {P : Nat → Bool} : ∀ n k, fi5 P n = some k → k < n ∧ P k = true
  | 0, k, h => by simp [fi5] at h
  | n + 1, k, h => by
    simp only [fi5] at h
    cases hf : fi5 P n with
    | some b => rw [hf] at h; cases h; have := fi5_lt n _ hf; exact ⟨by omega, this.2⟩
    | none =>
      rw [hf] at h
      by_cases hp : P n = true
      · simp only [hp, if_true] at h; cases h; exact ⟨by omega, hp⟩
      · simp only [hp] at h; cases h
theorem fi5_none {P : Nat → Bool} : ∀ n, fi5 P n = none → ∀ s, s < n → P s = false
  | 0, _, s, hs => absurd hs (by omega)
  | n + 1, h, s, hs => by
    simp only [fi5] at h
    cases hf : fi5 P n with
    | some b => rw [hf] at h; cases h
    | none =>
      rw [hf] at h
      by_cases hp : P n = true
      · simp only [hp, if_true] at h; cases h
      · by_cases e : s = n
        · subst e; simpa using hp
        · exact fi5_none n hf s (by omega)
theorem fi5_of {P : Nat → Bool} {i : Nat} (h : fi5 P i = none) (hp : P i = true) : ∀ n, fi5 P (i + 1 + n) = some i
  | 0 => by simp [fi5, h, hp]
  | n + 1 => by
    show (match fi5 P (i + 1 + n) with
      | some k => some k
      | none => if P (i + 1 + n) then some (i + 1 + n) else none) = some i
    rw [fi5_of h hp n]
theorem fi5_step {P : Nat → Bool} {i : Nat} (h : fi5 P i = none) (hp : P i = false) : fi5 P (i + 1) = none := by
  simp [fi5, h, hp]
-- bits of small masks
theorem bt_or : ∀ i, i < 5 → ∀ m, m < 2 ^ i → nI m ||| (nI 1 <<< (nI i &&& 31)) = nI (m + 2 ^ i) := by decide +kernel
theorem bt_shr : ∀ m, m < 32 → ∀ i, i < 5 → (nI m >>> (nI i &&& 31)) &&& nI 1 = nI (m / 2 ^ i % 2) := by decide +kernel
theorem bt_and : ∀ a, a < 32 → ∀ b, b < 32 → nI a &&& nI b = nI (a &&& b) ∧ a &&& b < 32 := by decide +kernel
theorem bt_andn : ∀ a, a < 32 → ∀ b, b < 32 → nI a &&& (nI b ^^^ (-1)) = nI (a &&& (31 ^^^ b)) ∧ a &&& (31 ^^^ b) < 32 := by decide +kernel
theorem bt_del : ∀ m, m < 32 → ∀ i, i < 5 → m / 2 ^ i % 2 = 1 → nI m &&& ((nI 1 <<< (nI i &&& 31)) ^^^ (-1)) = nI (m - 2 ^ i) := by decide +kernel
theorem bt_nz : ∀ m, m < 32 → m ≠ 0 → ∃ i, i < 5 ∧ m / 2 ^ i % 2 = 1 := by decide +kernel
theorem nI_small : ∀ m, m < 32 → (nI m = 0 ↔ m = 0) := by decide +kernel
/-- the number of bits -/
def pc5 (m : Nat) : Nat → Nat
  | 0 => 0
  | n + 1 => pc5 m n + m / 2 ^ n % 2
-- the component's words
def cq_sumN (u : Pst) (b : Nat) : Nat → Int32
  | 0 => nI 29 + u 8 b
  | n + 1 => cq_sumN u b n * 16777619 + u 7 (b * 6 + n)
def cq_sum (u : Pst) (b : Nat) : Int32 := cq_sumN u b 6
def cq_let (u : Pst) (i : Nat) : Pst := sU (if u 5 i < 0 then u else sU u 10 (cl (u 5 i)) (u 10 (cl (u 5 i)) - nI 1)) 5 i (-1)
def cq_fb (u : Pst) (s : Nat) : Nat := if u 10 (s * 4) ≤ 0 then s * 4 else if u 10 (s * 4 + 1) ≤ 0 then s * 4 + 1 else if u 10 (s * 4 + 1 + 1) ≤ 0 then s * 4 + 1 + 1 else s * 4 + 1 + 1 + 1
def cq_cpN (u : Pst) (a b : Nat) : Nat → Pst
  | 0 => u
  | n + 1 => sU (cq_cpN u a b n) 7 (b * 6 + n) (cq_cpN u a b n 7 (a * 6 + n))
def cq_cp (u : Pst) (a b : Nat) : Pst := sU (sU (cq_cpN u a b 6) 8 b (cq_cpN u a b 6 8 a)) 9 b (sU (cq_cpN u a b 6) 8 b (cq_cpN u a b 6 8 a) 9 a)
/-- a block of its own for the place i of the server s, whose block is b -/
def cq_ownB (u : Pst) (s b : Nat) : Nat := if u 10 b = nI 1 then b else cq_fb u s
def cq_ownS (u : Pst) (s i b : Nat) : Pst := if u 10 b = nI 1 then u else
  sU (sU (sU (cq_cp u b (cq_fb u s)) 10 b (cq_cp u b (cq_fb u s) 10 b - nI 1)) 10 (cq_fb u s) (nI 1)) 5 i (nI (cq_fb u s))
def cq_newB (u : Pst) (s f : Nat) : Nat := cq_fb (cq_let u (s * 4 + f)) s
def cq_newS (u : Pst) (s f : Nat) : Pst := sU (sU (sU (cq_let u (s * 4 + f)) 10 (cq_newB u s f) (nI 1)) 5 (s * 4 + f) (nI (cq_newB u s f))) 6 (s * 4 + f) (sU (sU (cq_let u (s * 4 + f)) 10 (cq_newB u s f) (nI 1)) 5 (s * 4 + f) (nI (cq_newB u s f)) 3 f)
def cq_cur (u : Pst) (s f : Nat) : Bool := !decide (u 5 (s * 4 + f) < 0) && (!decide (u 2 f = 0) && (decide (u 6 (s * 4 + f) = u 3 f) && decide (cq_sum u (cl (u 5 (s * 4 + f))) = u 9 (cl (u 5 (s * 4 + f))))))
def cq_ld (u : Pst) (s : Nat) : Nat := cnt (cq_cur u s) 4
def cq_up (u : Pst) (s : Nat) : Bool := !decide (u 1 s = 0)
def cq_set (u : Pst) (f : Nat) : Nat := mk5 (fun s => cq_cur u s f) 5
def cq_ups (u : Pst) : Nat := mk5 (cq_up u) 5
def cq_fst (u : Pst) (m : Nat) : Option Nat := fst5 (bt5 m) (cq_ld u) 5
def cq_src (u : Pst) (f : Nat) : Option Nat := fi5 (fun s => cq_up u s && cq_cur u s f) 5
def cq_ver (u : Pst) (f : Nat) : Pst := sU (sU u 4 0 (u 4 0 + nI 1)) 3 f (sU u 4 0 (u 4 0 + nI 1) 4 0)
/-- what the walks need of a state: how many copies, and that every place holds no block or one of the 20 -/
def BI (k : Nat) (u : Pst) : Prop := u 0 0 = nI k ∧ ∀ i, i < 20 → u 5 i = -1 ∨ ∃ j, j < 20 ∧ u 5 i = nI j
theorem cq_fb_lt {u : Pst} {s : Nat} (hs : s < 5) : s * 4 ≤ cq_fb u s ∧ cq_fb u s < s * 4 + 4 ∧ cq_fb u s < 20 := by
  simp only [cq_fb]
  split
  · omega
  · split
    · omega
    · split <;> omega
end
section
theorem fw_ci (x : Int32) : (Value.int x).category = 1 := rfl
theorem m_badServer_y (x : Int32) (hx : x < 0 ∨ nI 5 ≤ x) : mS yX1_badServer cX1_badServer 1 .boolean 0 [.int x] (nI 1) := by
  refine e_S [some (.int x)] (by decide) rfl (Nat.le_of_ble_eq_true rfl) (by simp [fw_ci]) rfl (fun X hX hret => ?_)
  refine r_iload_n 0 hX dX1_badServer_0 rfl rfl ?_
  refine r_if_lt 9 hX dX1_badServer_1 (by decide) (fun c1 => ?_) (fun c1 => ?_)
  · refine r_iconst (nI 1) hX dX1_badServer_9 (by decide) ?_
    refine r_goto 14 hX dX1_badServer_10 (by decide) ?_
    exact hret _ _ _ dX1_badServer_14 (rfl)
  · refine r_iload_n 0 hX dX1_badServer_4 rfl rfl ?_
    refine r_iconst (nI 5) hX dX1_badServer_5 (by decide) ?_
    refine r_icmp_lt 13 hX dX1_badServer_6 (by decide) (fun c6 => ?_) (fun c6 => ?_)
    · exact absurd c6 (fun z => by rcases hx with q | q; exact c1 q; exact (Int32.not_lt.mpr q) z)
    · refine r_iconst (nI 1) hX dX1_badServer_9 (by decide) ?_
      refine r_goto 14 hX dX1_badServer_10 (by decide) ?_
      exact hret _ _ _ dX1_badServer_14 (rfl)
theorem m_badServer_n (j : Nat) (hj : j < 5) : mS yX1_badServer cX1_badServer 1 .boolean 0 [.int (nI j)] (nI 0) := by
  refine e_S [some (.int (nI j))] (by decide) rfl (Nat.le_of_ble_eq_true rfl) (by simp [fw_ci]) rfl (fun X hX hret => ?_)
  refine r_iload_n 0 hX dX1_badServer_0 rfl rfl ?_
  refine r_if_ltF 9 hX dX1_badServer_1 (by decide) (nI_pos (by omega)) ?_
  refine r_iload_n 0 hX dX1_badServer_4 rfl rfl ?_
  refine r_iconst (nI 5) hX dX1_badServer_5 (by decide) ?_
  refine r_icmp_ltNT 13 hX dX1_badServer_6 (by decide) (by omega) ?_
  refine r_iconst (nI 0) hX dX1_badServer_13 (by decide) ?_
  exact hret _ _ _ dX1_badServer_14 (rfl)
theorem m_badFile_y (x : Int32) (hx : x < 0 ∨ nI 4 ≤ x) : mS yX1_badFile cX1_badFile 1 .boolean 0 [.int x] (nI 1) := by
  refine e_S [some (.int x)] (by decide) rfl (Nat.le_of_ble_eq_true rfl) (by simp [fw_ci]) rfl (fun X hX hret => ?_)
  refine r_iload_n 0 hX dX1_badFile_0 rfl rfl ?_
  refine r_if_lt 9 hX dX1_badFile_1 (by decide) (fun c1 => ?_) (fun c1 => ?_)
  · refine r_iconst (nI 1) hX dX1_badFile_9 (by decide) ?_
    refine r_goto 14 hX dX1_badFile_10 (by decide) ?_
    exact hret _ _ _ dX1_badFile_14 (rfl)
  · refine r_iload_n 0 hX dX1_badFile_4 rfl rfl ?_
    refine r_iconst (nI 4) hX dX1_badFile_5 (by decide) ?_
    refine r_icmp_lt 13 hX dX1_badFile_6 (by decide) (fun c6 => ?_) (fun c6 => ?_)
    · exact absurd c6 (fun z => by rcases hx with q | q; exact c1 q; exact (Int32.not_lt.mpr q) z)
    · refine r_iconst (nI 1) hX dX1_badFile_9 (by decide) ?_
      refine r_goto 14 hX dX1_badFile_10 (by decide) ?_
      exact hret _ _ _ dX1_badFile_14 (rfl)
theorem m_badFile_n (j : Nat) (hj : j < 4) : mS yX1_badFile cX1_badFile 1 .boolean 0 [.int (nI j)] (nI 0) := by
  refine e_S [some (.int (nI j))] (by decide) rfl (Nat.le_of_ble_eq_true rfl) (by simp [fw_ci]) rfl (fun X hX hret => ?_)
  refine r_iload_n 0 hX dX1_badFile_0 rfl rfl ?_
  refine r_if_ltF 9 hX dX1_badFile_1 (by decide) (nI_pos (by omega)) ?_
  refine r_iload_n 0 hX dX1_badFile_4 rfl rfl ?_
  refine r_iconst (nI 4) hX dX1_badFile_5 (by decide) ?_
  refine r_icmp_ltNT 13 hX dX1_badFile_6 (by decide) (by omega) ?_
  refine r_iconst (nI 0) hX dX1_badFile_13 (by decide) ?_
  exact hret _ _ _ dX1_badFile_14 (rfl)
theorem m_bits (a : Nat) (ha : a < 32) : mS yX1_bits cX1_bits 3 .int 0 [.int (nI a)] (nI (pc5 a 5)) := by
  refine e_S [some (.int (nI a)), none, none] (by decide) rfl (Nat.le_of_ble_eq_true rfl) (by simp [fw_ci]) rfl (fun X hX hret => ?_)
  refine r_iconst (nI 0) hX dX1_bits_0 (by decide) ?_
  refine r_istore_n 1 (lv' := [_, _, _]) hX dX1_bits_1 rfl (Nat.le_of_ble_eq_true rfl) rfl ?_
  refine r_iconst (nI 0) hX dX1_bits_2 (by decide) ?_
  refine r_istore_n 2 (lv' := [_, _, _]) hX dX1_bits_3 rfl (Nat.le_of_ble_eq_true rfl) rfl ?_
  have loop : ∀ n i, i + n = 5 → CG X () 4 [some (.int (nI a)), some (.int (nI (pc5 a i))), some (.int (nI i))] [] := by
    intro n
    induction n with
    | zero =>
      intro i hi
      obtain rfl : i = 5 := by omega
      refine r_iload_n 2 hX dX1_bits_4 rfl rfl ?_
      refine r_iconst (nI 5) hX dX1_bits_5 (by decide) ?_
      refine r_icmp_geNT 23 hX dX1_bits_6 (by decide) (by omega) ?_
      refine r_iload_n 1 hX dX1_bits_23 rfl rfl ?_
      exact hret _ _ _ dX1_bits_24 (rfl)
    | succ n ih =>
      intro i hi
      refine r_iload_n 2 hX dX1_bits_4 rfl rfl ?_
      refine r_iconst (nI 5) hX dX1_bits_5 (by decide) ?_
      refine r_icmp_geNF 23 hX dX1_bits_6 (by decide) (by omega) ?_
      refine r_iload_n 1 hX dX1_bits_9 rfl rfl ?_
      refine r_iload_n 0 hX dX1_bits_10 rfl rfl ?_
      refine r_iload_n 2 hX dX1_bits_11 rfl rfl ?_
      refine r_ishr hX dX1_bits_12 ?_
      refine r_iconst (nI 1) hX dX1_bits_13 (by decide) ?_
      refine r_iand hX dX1_bits_14 ?_
      refine r_eq (nI (a / 2 ^ i % 2)) (bt_shr a ha i (by omega)) ?_
      refine r_iaddN hX dX1_bits_15 ?_
      refine r_istore_n 1 (lv' := [_, _, _]) hX dX1_bits_16 rfl (Nat.le_of_ble_eq_true rfl) rfl ?_
      refine r_iincN 2 (lv' := [_, _, _]) hX dX1_bits_17 rfl (Nat.le_of_ble_eq_true rfl) rfl ?_
      refine r_goto 4 hX dX1_bits_20 (by decide) ?_
      exact ih (i + 1) (by omega)
  exact loop 5 0 rfl
/-- sumOf(b) -/
theorem m_sumOf (u : Pst) (b : Nat) (hb : b < 20) : mIC yX1_sumOf cX1_sumOf 4 .int 0 [.int (nI b)] u (cq_sum u b) u := by
  refine e_IC (by decide) rfl (rfl) (Nat.le_of_ble_eq_true rfl) (by simp [fw_ci]) (fun X h hC hret => ?_)
  have hX := hC.ck
  refine r_lv (lv' := [some (.ref (h 0)), some (.int (nI b)), none, none]) rfl ?_
  refine r_bipush (nI 29) hX dX1_sumOf_0 (by decide) ?_
  refine r_aload_n 0 hX dX1_sumOf_2 rfl rfl ?_
  refine cc_g8 hC dX1_sumOf_3 ?_
  refine r_iload_n 1 hX dX1_sumOf_6 rfl rfl ?_
  refine cc_l8 hC dX1_sumOf_7 (by omega) ?_
  refine r_iadd hX dX1_sumOf_8 ?_
  refine r_istore_n 2 (lv' := [_, _, _, _]) hX dX1_sumOf_9 rfl (Nat.le_of_ble_eq_true rfl) rfl ?_
  refine r_iconst (nI 0) hX dX1_sumOf_10 (by decide) ?_
  refine r_istore_n 3 (lv' := [_, _, _, _]) hX dX1_sumOf_11 rfl (Nat.le_of_ble_eq_true rfl) rfl ?_
  have loop : ∀ n i, i + n = 6 → CG X u 12 [some (.ref (h 0)), some (.int (nI b)), some (.int (cq_sumN u b i)), some (.int (nI i))] [] := by
    intro n
    induction n with
    | zero =>
      intro i hi
      obtain rfl : i = 6 := by omega
      refine r_iload_n 3 hX dX1_sumOf_12 rfl rfl ?_
      refine r_bipush (nI 6) hX dX1_sumOf_13 (by decide) ?_
      refine r_icmp_geNT 41 hX dX1_sumOf_15 (by decide) (by omega) ?_
      refine r_iload_n 2 hX dX1_sumOf_41 rfl rfl ?_
      exact hret _ _ _ _ dX1_sumOf_42 (rfl) (rfl)
    | succ n ih =>
      intro i hi
      refine r_iload_n 3 hX dX1_sumOf_12 rfl rfl ?_
      refine r_bipush (nI 6) hX dX1_sumOf_13 (by decide) ?_
      refine r_icmp_geNF 41 hX dX1_sumOf_15 (by decide) (by omega) ?_
      refine r_iload_n 2 hX dX1_sumOf_18 rfl rfl ?_
      refine cc_ldc hC dX1_sumOf_19 ?_
      refine r_imul hX dX1_sumOf_21 ?_
      refine r_aload_n 0 hX dX1_sumOf_22 rfl rfl ?_
      refine cc_g7 hC dX1_sumOf_23 ?_
      refine r_iload_n 1 hX dX1_sumOf_26 rfl rfl ?_
      refine r_bipush (nI 6) hX dX1_sumOf_27 (by decide) ?_
      refine r_imulN hX dX1_sumOf_29 ?_
      refine r_iload_n 3 hX dX1_sumOf_30 rfl rfl ?_
      refine r_iaddN hX dX1_sumOf_31 ?_
      refine cc_l7 hC dX1_sumOf_32 (by omega) ?_
      refine r_iadd hX dX1_sumOf_33 ?_
      refine r_istore_n 2 (lv' := [_, _, _, _]) hX dX1_sumOf_34 rfl (Nat.le_of_ble_eq_true rfl) rfl ?_
      refine r_iincN 3 (lv' := [_, _, _, _]) hX dX1_sumOf_35 rfl (Nat.le_of_ble_eq_true rfl) rfl ?_
      refine r_goto 12 hX dX1_sumOf_38 (by decide) ?_
      exact ih (i + 1) (by omega)
  exact loop 6 0 rfl
/-- letGo(s, f) -/
theorem m_letGo (u : Pst) (s f : Nat) (hs : s < 5) (hf : f < 4) (hb : u 5 (s * 4 + f) = -1 ∨ ∃ j, j < 20 ∧ u 5 (s * 4 + f) = nI j) : mVC yX1_letGo cX1_letGo 4 0 [.int (nI s), .int (nI f)] u (cq_let u (s * 4 + f)) := by
  refine e_VC (by decide) rfl (Nat.le_of_ble_eq_true rfl) (by simp [fw_ci]) (fun X h hC hret => ?_)
  have hX := hC.ck
  refine r_lv (lv' := [some (.ref (h 0)), some (.int (nI s)), some (.int (nI f)), none]) rfl ?_
  rcases hb with hb | ⟨j, hj, hb⟩
  · refine r_aload_n 0 hX dX1_letGo_0 rfl rfl ?_
    refine cc_g5 hC dX1_letGo_1 ?_
    refine r_iload_n 1 hX dX1_letGo_4 rfl rfl ?_
    refine r_iconst (nI 4) hX dX1_letGo_5 (by decide) ?_
    refine r_imulN hX dX1_letGo_6 ?_
    refine r_iload_n 2 hX dX1_letGo_7 rfl rfl ?_
    refine r_iaddN hX dX1_letGo_8 ?_
    refine cc_l5 hC dX1_letGo_9 (by omega) ?_
    refine r_eq (-1) (hb) ?_
    refine r_istore_n 3 (lv' := [_, _, _, _]) hX dX1_letGo_10 rfl (Nat.le_of_ble_eq_true rfl) rfl ?_
    refine r_iload_n 3 hX dX1_letGo_11 rfl rfl ?_
    refine r_if_ltT 25 hX dX1_letGo_12 (by decide) (by decide) ?_
    refine r_aload_n 0 hX dX1_letGo_25 rfl rfl ?_
    refine cc_g5 hC dX1_letGo_26 ?_
    refine r_iload_n 1 hX dX1_letGo_29 rfl rfl ?_
    refine r_iconst (nI 4) hX dX1_letGo_30 (by decide) ?_
    refine r_imulN hX dX1_letGo_31 ?_
    refine r_iload_n 2 hX dX1_letGo_32 rfl rfl ?_
    refine r_iaddN hX dX1_letGo_33 ?_
    refine r_iconst (-1) hX dX1_letGo_34 (by decide) ?_
    refine cc_s5 hC dX1_letGo_35 (by omega) ?_
    exact hret _ _ _ dX1_letGo_36 (by simp [cq_let, hb])
  · refine r_aload_n 0 hX dX1_letGo_0 rfl rfl ?_
    refine cc_g5 hC dX1_letGo_1 ?_
    refine r_iload_n 1 hX dX1_letGo_4 rfl rfl ?_
    refine r_iconst (nI 4) hX dX1_letGo_5 (by decide) ?_
    refine r_imulN hX dX1_letGo_6 ?_
    refine r_iload_n 2 hX dX1_letGo_7 rfl rfl ?_
    refine r_iaddN hX dX1_letGo_8 ?_
    refine cc_l5 hC dX1_letGo_9 (by omega) ?_
    refine r_eq (nI j) (hb) ?_
    refine r_istore_n 3 (lv' := [_, _, _, _]) hX dX1_letGo_10 rfl (Nat.le_of_ble_eq_true rfl) rfl ?_
    refine r_iload_n 3 hX dX1_letGo_11 rfl rfl ?_
    refine r_if_ltF 25 hX dX1_letGo_12 (by decide) (nI_pos (by omega)) ?_
    refine r_aload_n 0 hX dX1_letGo_15 rfl rfl ?_
    refine cc_g10 hC dX1_letGo_16 ?_
    refine r_iload_n 3 hX dX1_letGo_19 rfl rfl ?_
    refine r_dup2 hX dX1_letGo_20 rfl rfl ?_
    refine cc_l10 hC dX1_letGo_21 (by omega) ?_
    refine r_iconst (nI 1) hX dX1_letGo_22 (by decide) ?_
    refine r_isub hX dX1_letGo_23 ?_
    refine cc_s10 hC dX1_letGo_24 (by omega) ?_
    refine r_aload_n 0 hX dX1_letGo_25 rfl rfl ?_
    refine cc_g5 hC dX1_letGo_26 ?_
    refine r_iload_n 1 hX dX1_letGo_29 rfl rfl ?_
    refine r_iconst (nI 4) hX dX1_letGo_30 (by decide) ?_
    refine r_imulN hX dX1_letGo_31 ?_
    refine r_iload_n 2 hX dX1_letGo_32 rfl rfl ?_
    refine r_iaddN hX dX1_letGo_33 ?_
    refine r_iconst (-1) hX dX1_letGo_34 (by decide) ?_
    refine cc_s5 hC dX1_letGo_35 (by omega) ?_
    exact hret _ _ _ dX1_letGo_36 (by simp [cq_let, cl, hb, nI_pos (show j < 2 ^ 31 by omega), nI_clamp (show j < 2 ^ 31 by omega)])
/-- freeBlock(s) -/
theorem m_freeBlock (u : Pst) (s : Nat) (hs : s < 5) : mIC yX1_freeBlock cX1_freeBlock 3 .int 0 [.int (nI s)] u (nI (cq_fb u s)) u := by
  refine e_IC (by decide) rfl (rfl) (Nat.le_of_ble_eq_true rfl) (by simp [fw_ci]) (fun X h hC hret => ?_)
  have hX := hC.ck
  refine r_lv (lv' := [some (.ref (h 0)), some (.int (nI s)), none]) rfl ?_
  refine r_iload_n 1 hX dX1_freeBlock_0 rfl rfl ?_
  refine r_iconst (nI 4) hX dX1_freeBlock_1 (by decide) ?_
  refine r_imulN hX dX1_freeBlock_2 ?_
  refine r_istore_n 2 (lv' := [_, _, _]) hX dX1_freeBlock_3 rfl (Nat.le_of_ble_eq_true rfl) rfl ?_
  refine r_iload_n 2 hX dX1_freeBlock_4 rfl rfl ?_
  refine r_iload_n 1 hX dX1_freeBlock_5 rfl rfl ?_
  refine r_iconst (nI 4) hX dX1_freeBlock_6 (by decide) ?_
  refine r_imulN hX dX1_freeBlock_7 ?_
  refine r_iconst (nI 4) hX dX1_freeBlock_8 (by decide) ?_
  refine r_iaddN hX dX1_freeBlock_9 ?_
  refine r_iconst (nI 1) hX dX1_freeBlock_10 (by decide) ?_
  refine r_isubN hX dX1_freeBlock_11 (by omega) ?_
  refine r_icmp_geNF 30 hX dX1_freeBlock_12 (by decide) (by omega) ?_
  refine r_aload_n 0 hX dX1_freeBlock_15 rfl rfl ?_
  refine cc_g10 hC dX1_freeBlock_16 ?_
  refine r_iload_n 2 hX dX1_freeBlock_19 rfl rfl ?_
  refine cc_l10 hC dX1_freeBlock_20 (by omega) ?_
  refine r_if_le 30 hX dX1_freeBlock_21 (by decide) (fun c0 => ?_) (fun c0 => ?_)
  · refine r_iload_n 2 hX dX1_freeBlock_30 rfl rfl ?_
    exact hret _ _ _ _ dX1_freeBlock_31 (by simp [cq_fb, c0]) (rfl)
  · refine r_iincN 2 (lv' := [_, _, _]) hX dX1_freeBlock_24 rfl (Nat.le_of_ble_eq_true rfl) rfl ?_
    refine r_goto 4 hX dX1_freeBlock_27 (by decide) ?_
    refine r_iload_n 2 hX dX1_freeBlock_4 rfl rfl ?_
    refine r_iload_n 1 hX dX1_freeBlock_5 rfl rfl ?_
    refine r_iconst (nI 4) hX dX1_freeBlock_6 (by decide) ?_
    refine r_imulN hX dX1_freeBlock_7 ?_
    refine r_iconst (nI 4) hX dX1_freeBlock_8 (by decide) ?_
    refine r_iaddN hX dX1_freeBlock_9 ?_
    refine r_iconst (nI 1) hX dX1_freeBlock_10 (by decide) ?_
    refine r_isubN hX dX1_freeBlock_11 (by omega) ?_
    refine r_icmp_geNF 30 hX dX1_freeBlock_12 (by decide) (by omega) ?_
    refine r_aload_n 0 hX dX1_freeBlock_15 rfl rfl ?_
    refine cc_g10 hC dX1_freeBlock_16 ?_
    refine r_iload_n 2 hX dX1_freeBlock_19 rfl rfl ?_
    refine cc_l10 hC dX1_freeBlock_20 (by omega) ?_
    refine r_if_le 30 hX dX1_freeBlock_21 (by decide) (fun c1 => ?_) (fun c1 => ?_)
    · refine r_iload_n 2 hX dX1_freeBlock_30 rfl rfl ?_
      exact hret _ _ _ _ dX1_freeBlock_31 (by simp [cq_fb, c0, c1]) (rfl)
    · refine r_iincN 2 (lv' := [_, _, _]) hX dX1_freeBlock_24 rfl (Nat.le_of_ble_eq_true rfl) rfl ?_
      refine r_goto 4 hX dX1_freeBlock_27 (by decide) ?_
      refine r_iload_n 2 hX dX1_freeBlock_4 rfl rfl ?_
      refine r_iload_n 1 hX dX1_freeBlock_5 rfl rfl ?_
      refine r_iconst (nI 4) hX dX1_freeBlock_6 (by decide) ?_
      refine r_imulN hX dX1_freeBlock_7 ?_
      refine r_iconst (nI 4) hX dX1_freeBlock_8 (by decide) ?_
      refine r_iaddN hX dX1_freeBlock_9 ?_
      refine r_iconst (nI 1) hX dX1_freeBlock_10 (by decide) ?_
      refine r_isubN hX dX1_freeBlock_11 (by omega) ?_
      refine r_icmp_geNF 30 hX dX1_freeBlock_12 (by decide) (by omega) ?_
      refine r_aload_n 0 hX dX1_freeBlock_15 rfl rfl ?_
      refine cc_g10 hC dX1_freeBlock_16 ?_
      refine r_iload_n 2 hX dX1_freeBlock_19 rfl rfl ?_
      refine cc_l10 hC dX1_freeBlock_20 (by omega) ?_
      refine r_if_le 30 hX dX1_freeBlock_21 (by decide) (fun c2 => ?_) (fun c2 => ?_)
      · refine r_iload_n 2 hX dX1_freeBlock_30 rfl rfl ?_
        exact hret _ _ _ _ dX1_freeBlock_31 (by simp [cq_fb, c0, c1, c2]) (rfl)
      · refine r_iincN 2 (lv' := [_, _, _]) hX dX1_freeBlock_24 rfl (Nat.le_of_ble_eq_true rfl) rfl ?_
        refine r_goto 4 hX dX1_freeBlock_27 (by decide) ?_
        refine r_iload_n 2 hX dX1_freeBlock_4 rfl rfl ?_
        refine r_iload_n 1 hX dX1_freeBlock_5 rfl rfl ?_
        refine r_iconst (nI 4) hX dX1_freeBlock_6 (by decide) ?_
        refine r_imulN hX dX1_freeBlock_7 ?_
        refine r_iconst (nI 4) hX dX1_freeBlock_8 (by decide) ?_
        refine r_iaddN hX dX1_freeBlock_9 ?_
        refine r_iconst (nI 1) hX dX1_freeBlock_10 (by decide) ?_
        refine r_isubN hX dX1_freeBlock_11 (by omega) ?_
        refine r_icmp_geNT 30 hX dX1_freeBlock_12 (by decide) (by omega) ?_
        refine r_iload_n 2 hX dX1_freeBlock_30 rfl rfl ?_
        exact hret _ _ _ _ dX1_freeBlock_31 (by simp [cq_fb, c0, c1, c2]) (rfl)
/-- copyBlock(a, b) -/
theorem m_copyBlock (u : Pst) (a b : Nat) (ha : a < 20) (hb : b < 20) : mVC yX1_copyBlock cX1_copyBlock 4 0 [.int (nI a), .int (nI b)] u (cq_cp u a b) := by
  refine e_VC (by decide) rfl (Nat.le_of_ble_eq_true rfl) (by simp [fw_ci]) (fun X h hC hret => ?_)
  have hX := hC.ck
  refine r_lv (lv' := [some (.ref (h 0)), some (.int (nI a)), some (.int (nI b)), none]) rfl ?_
  refine r_iconst (nI 0) hX dX1_copyBlock_0 (by decide) ?_
  refine r_istore_n 3 (lv' := [_, _, _, _]) hX dX1_copyBlock_1 rfl (Nat.le_of_ble_eq_true rfl) rfl ?_
  have loop : ∀ n i, i + n = 6 → CG X (cq_cpN u a b i) 2 [some (.ref (h 0)), some (.int (nI a)), some (.int (nI b)), some (.int (nI i))] [] := by
    intro n
    induction n with
    | zero =>
      intro i hi
      obtain rfl : i = 6 := by omega
      refine r_iload_n 3 hX dX1_copyBlock_2 rfl rfl ?_
      refine r_bipush (nI 6) hX dX1_copyBlock_3 (by decide) ?_
      refine r_icmp_geNT 36 hX dX1_copyBlock_5 (by decide) (by omega) ?_
      refine r_aload_n 0 hX dX1_copyBlock_36 rfl rfl ?_
      refine cc_g8 hC dX1_copyBlock_37 ?_
      refine r_iload_n 2 hX dX1_copyBlock_40 rfl rfl ?_
      refine r_aload_n 0 hX dX1_copyBlock_41 rfl rfl ?_
      refine cc_g8 hC dX1_copyBlock_42 ?_
      refine r_iload_n 1 hX dX1_copyBlock_45 rfl rfl ?_
      refine cc_l8 hC dX1_copyBlock_46 (by omega) ?_
      refine cc_s8 hC dX1_copyBlock_47 (by omega) ?_
      refine r_aload_n 0 hX dX1_copyBlock_48 rfl rfl ?_
      refine cc_g9 hC dX1_copyBlock_49 ?_
      refine r_iload_n 2 hX dX1_copyBlock_52 rfl rfl ?_
      refine r_aload_n 0 hX dX1_copyBlock_53 rfl rfl ?_
      refine cc_g9 hC dX1_copyBlock_54 ?_
      refine r_iload_n 1 hX dX1_copyBlock_57 rfl rfl ?_
      refine cc_l9 hC dX1_copyBlock_58 (by omega) ?_
      refine cc_s9 hC dX1_copyBlock_59 (by omega) ?_
      exact hret _ _ _ dX1_copyBlock_60 (rfl)
    | succ n ih =>
      intro i hi
      refine r_iload_n 3 hX dX1_copyBlock_2 rfl rfl ?_
      refine r_bipush (nI 6) hX dX1_copyBlock_3 (by decide) ?_
      refine r_icmp_geNF 36 hX dX1_copyBlock_5 (by decide) (by omega) ?_
      refine r_aload_n 0 hX dX1_copyBlock_8 rfl rfl ?_
      refine cc_g7 hC dX1_copyBlock_9 ?_
      refine r_iload_n 2 hX dX1_copyBlock_12 rfl rfl ?_
      refine r_bipush (nI 6) hX dX1_copyBlock_13 (by decide) ?_
      refine r_imulN hX dX1_copyBlock_15 ?_
      refine r_iload_n 3 hX dX1_copyBlock_16 rfl rfl ?_
      refine r_iaddN hX dX1_copyBlock_17 ?_
      refine r_aload_n 0 hX dX1_copyBlock_18 rfl rfl ?_
      refine cc_g7 hC dX1_copyBlock_19 ?_
      refine r_iload_n 1 hX dX1_copyBlock_22 rfl rfl ?_
      refine r_bipush (nI 6) hX dX1_copyBlock_23 (by decide) ?_
      refine r_imulN hX dX1_copyBlock_25 ?_
      refine r_iload_n 3 hX dX1_copyBlock_26 rfl rfl ?_
      refine r_iaddN hX dX1_copyBlock_27 ?_
      refine cc_l7 hC dX1_copyBlock_28 (by omega) ?_
      refine cc_s7 hC dX1_copyBlock_29 (by omega) ?_
      refine r_iincN 3 (lv' := [_, _, _, _]) hX dX1_copyBlock_30 rfl (Nat.le_of_ble_eq_true rfl) rfl ?_
      refine r_goto 2 hX dX1_copyBlock_33 (by decide) ?_
      exact ih (i + 1) (by omega)
  exact loop 6 0 rfl
/-- upSet() -/
theorem m_upSet (u : Pst) : mIC yX1_upSet cX1_upSet 3 .int 0 [] u (nI (cq_ups u)) u := by
  refine e_IC (by decide) rfl (rfl) (Nat.le_of_ble_eq_true rfl) (by simp [fw_ci]) (fun X h hC hret => ?_)
  have hX := hC.ck
  refine r_lv (lv' := [some (.ref (h 0)), none, none]) rfl ?_
  refine r_iconst (nI 0) hX dX1_upSet_0 (by decide) ?_
  refine r_istore_n 1 (lv' := [_, _, _]) hX dX1_upSet_1 rfl (Nat.le_of_ble_eq_true rfl) rfl ?_
  refine r_iconst (nI 0) hX dX1_upSet_2 (by decide) ?_
  refine r_istore_n 2 (lv' := [_, _, _]) hX dX1_upSet_3 rfl (Nat.le_of_ble_eq_true rfl) rfl ?_
  have loop : ∀ n i, i + n = 5 → CG X u 4 [some (.ref (h 0)), some (.int (nI (mk5 (cq_up u) i))), some (.int (nI i))] [] := by
    intro n
    induction n with
    | zero =>
      intro i hi
      obtain rfl : i = 5 := by omega
      refine r_iload_n 2 hX dX1_upSet_4 rfl rfl ?_
      refine r_iconst (nI 5) hX dX1_upSet_5 (by decide) ?_
      refine r_icmp_geNT 30 hX dX1_upSet_6 (by decide) (by omega) ?_
      refine r_iload_n 1 hX dX1_upSet_30 rfl rfl ?_
      exact hret _ _ _ _ dX1_upSet_31 (rfl) (rfl)
    | succ n ih =>
      intro i hi
      refine r_iload_n 2 hX dX1_upSet_4 rfl rfl ?_
      refine r_iconst (nI 5) hX dX1_upSet_5 (by decide) ?_
      refine r_icmp_geNF 30 hX dX1_upSet_6 (by decide) (by omega) ?_
      refine r_aload_n 0 hX dX1_upSet_9 rfl rfl ?_
      refine cc_g1 hC dX1_upSet_10 ?_
      refine r_iload_n 2 hX dX1_upSet_13 rfl rfl ?_
      refine cc_l1 hC dX1_upSet_14 (by omega) ?_
      refine r_if_eq 24 hX dX1_upSet_15 (by decide) (fun c15 => ?_) (fun c15 => ?_)
      · refine r_lvi 1 (nI (mk5 (cq_up u) (i + 1))) (lv' := [_, _, _]) rfl (by simp [mk5, cq_up, c15]) rfl ?_
        refine r_iincN 2 (lv' := [_, _, _]) hX dX1_upSet_24 rfl (Nat.le_of_ble_eq_true rfl) rfl ?_
        refine r_goto 4 hX dX1_upSet_27 (by decide) ?_
        exact ih (i + 1) (by omega)
      · refine r_iload_n 1 hX dX1_upSet_18 rfl rfl ?_
        refine r_iconst (nI 1) hX dX1_upSet_19 (by decide) ?_
        refine r_iload_n 2 hX dX1_upSet_20 rfl rfl ?_
        refine r_ishl hX dX1_upSet_21 ?_
        refine r_ior hX dX1_upSet_22 ?_
        refine r_eq (nI (mk5 (cq_up u) (i + 1))) (by rw [bt_or i (by omega) _ (mk5_lt _ _)]; simp [mk5, cq_up, c15]) ?_
        refine r_istore_n 1 (lv' := [_, _, _]) hX dX1_upSet_23 rfl (Nat.le_of_ble_eq_true rfl) rfl ?_
        refine r_iincN 2 (lv' := [_, _, _]) hX dX1_upSet_24 rfl (Nat.le_of_ble_eq_true rfl) rfl ?_
        refine r_goto 4 hX dX1_upSet_27 (by decide) ?_
        exact ih (i + 1) (by omega)
  exact loop 5 0 rfl
/-- newVersion(f) -/
theorem m_newVersion (u : Pst) (f : Nat) (hf : f < 4) : mVC yX1_newVersion cX1_newVersion 2 0 [.int (nI f)] u (cq_ver u f) := by
  refine e_VC (by decide) rfl (Nat.le_of_ble_eq_true rfl) (by simp [fw_ci]) (fun X h hC hret => ?_)
  have hX := hC.ck
  refine r_lv (lv' := [some (.ref (h 0)), some (.int (nI f))]) rfl ?_
  refine r_aload_n 0 hX dX1_newVersion_0 rfl rfl ?_
  refine r_dup hX dX1_newVersion_1 rfl ?_
  refine cc_g4 hC dX1_newVersion_2 ?_
  refine r_iconst (nI 1) hX dX1_newVersion_5 (by decide) ?_
  refine r_iadd hX dX1_newVersion_6 ?_
  refine cc_p4 hC dX1_newVersion_7 ?_
  refine r_aload_n 0 hX dX1_newVersion_10 rfl rfl ?_
  refine cc_g3 hC dX1_newVersion_11 ?_
  refine r_iload_n 1 hX dX1_newVersion_14 rfl rfl ?_
  refine r_aload_n 0 hX dX1_newVersion_15 rfl rfl ?_
  refine cc_g4 hC dX1_newVersion_16 ?_
  refine cc_s3 hC dX1_newVersion_19 (by omega) ?_
  exact hret _ _ _ dX1_newVersion_20 (rfl)
end
section
theorem nI_one : nI 1 = 1 := rfl
theorem bI_nar (b : Bool) : narrow .boolean (.int (bI b)) = .int (bI b) := by cases b <;> rfl
theorem bI_z {b : Bool} : bI b = 0 ↔ b = false := by cases b <;> decide
theorem bI_n {b : Bool} : ¬ bI b = 0 ↔ b = true := by cases b <;> decide
def lsI (ld : Nat → Nat) (o : Option Nat) : Int32 := match o with
  | none => nI 0
  | some b => nI (ld b)
theorem fw_pos {j : Nat} (h : j < 20) : ¬ nI j < 0 := nI_pos (by omega)
theorem fw_cl {j : Nat} (h : j < 20) : (nI j).toNatClampNeg = j := nI_clamp (by omega)
/-- ownBlock(s, f), where the block is j -/
theorem m_ownBlock (u : Pst) (s f : Nat) (hs : s < 5) (hf : f < 4) (j : Nat) (hj : j < 20) (hb : u 5 (s * 4 + f) = nI j) : mIC yX1_ownBlock cX1_ownBlock 5 .int 1 [.int (nI s), .int (nI f)] u (nI (cq_ownB u s j)) (cq_ownS u s (s * 4 + f) j) := by
  refine e_IC (by decide) rfl (rfl) (Nat.le_of_ble_eq_true rfl) (by simp [fw_ci]) (fun X h hC hret => ?_)
  have hX := hC.ck
  refine r_lv (lv' := [some (.ref (h 0)), some (.int (nI s)), some (.int (nI f)), none, none]) rfl ?_
  have hfb := cq_fb_lt (u := u) hs
  refine r_aload_n 0 hX dX1_ownBlock_0 rfl rfl ?_
  refine cc_g5 hC dX1_ownBlock_1 ?_
  refine r_iload_n 1 hX dX1_ownBlock_4 rfl rfl ?_
  refine r_iconst (nI 4) hX dX1_ownBlock_5 (by decide) ?_
  refine r_imulN hX dX1_ownBlock_6 ?_
  refine r_iload_n 2 hX dX1_ownBlock_7 rfl rfl ?_
  refine r_iaddN hX dX1_ownBlock_8 ?_
  refine cc_l5 hC dX1_ownBlock_9 (by omega) ?_
  refine r_eq (nI j) (hb) ?_
  refine r_istore_n 3 (lv' := [_, _, _, _, _]) hX dX1_ownBlock_10 rfl (Nat.le_of_ble_eq_true rfl) rfl ?_
  refine r_aload_n 0 hX dX1_ownBlock_11 rfl rfl ?_
  refine cc_g10 hC dX1_ownBlock_12 ?_
  refine r_iload_n 3 hX dX1_ownBlock_15 rfl rfl ?_
  refine cc_l10 hC dX1_ownBlock_16 (by omega) ?_
  refine r_iconst (nI 1) hX dX1_ownBlock_17 (by decide) ?_
  refine r_icmp_ne 23 hX dX1_ownBlock_18 (by decide) (fun c18 => ?_) (fun c18 => ?_)
  · refine r_aload_n 0 hX dX1_ownBlock_23 rfl rfl ?_
    refine r_iload_n 1 hX dX1_ownBlock_24 rfl rfl ?_
    refine k_IC hC (m_freeBlock _ s hs) kC_freeBlock rfl rfl (by decide) (Nat.le_of_ble_eq_true rfl) rfl dX1_ownBlock_25 ?_
    refine r_istore 4 (lv' := [_, _, _, _, _]) hX dX1_ownBlock_28 (Nat.le_of_ble_eq_true rfl) rfl ?_
    refine r_aload_n 0 hX dX1_ownBlock_30 rfl rfl ?_
    refine r_iload_n 3 hX dX1_ownBlock_31 rfl rfl ?_
    refine r_iload 4 hX dX1_ownBlock_32 rfl ?_
    refine k_VC hC (m_copyBlock _ j (cq_fb u s) hj hfb.2.2) kC_copyBlock rfl rfl (by decide) (Nat.le_of_ble_eq_true rfl) rfl dX1_ownBlock_34 ?_
    refine r_aload_n 0 hX dX1_ownBlock_37 rfl rfl ?_
    refine cc_g10 hC dX1_ownBlock_38 ?_
    refine r_iload_n 3 hX dX1_ownBlock_41 rfl rfl ?_
    refine r_dup2 hX dX1_ownBlock_42 rfl rfl ?_
    refine cc_l10 hC dX1_ownBlock_43 (by omega) ?_
    refine r_iconst (nI 1) hX dX1_ownBlock_44 (by decide) ?_
    refine r_isub hX dX1_ownBlock_45 ?_
    refine cc_s10 hC dX1_ownBlock_46 (by omega) ?_
    refine r_aload_n 0 hX dX1_ownBlock_47 rfl rfl ?_
    refine cc_g10 hC dX1_ownBlock_48 ?_
    refine r_iload 4 hX dX1_ownBlock_51 rfl ?_
    refine r_iconst (nI 1) hX dX1_ownBlock_53 (by decide) ?_
    refine cc_s10 hC dX1_ownBlock_54 (by omega) ?_
    refine r_aload_n 0 hX dX1_ownBlock_55 rfl rfl ?_
    refine cc_g5 hC dX1_ownBlock_56 ?_
    refine r_iload_n 1 hX dX1_ownBlock_59 rfl rfl ?_
    refine r_iconst (nI 4) hX dX1_ownBlock_60 (by decide) ?_
    refine r_imulN hX dX1_ownBlock_61 ?_
    refine r_iload_n 2 hX dX1_ownBlock_62 rfl rfl ?_
    refine r_iaddN hX dX1_ownBlock_63 ?_
    refine r_iload 4 hX dX1_ownBlock_64 rfl ?_
    refine cc_s5 hC dX1_ownBlock_66 (by omega) ?_
    refine r_iload 4 hX dX1_ownBlock_67 rfl ?_
    exact hret _ _ _ _ dX1_ownBlock_69 (by simp [cq_ownB, c18]) (by simp [cq_ownS, c18])
  · refine r_iload_n 3 hX dX1_ownBlock_21 rfl rfl ?_
    exact hret _ _ _ _ dX1_ownBlock_22 (by simp [cq_ownB, c18]) (by simp [cq_ownS, c18])
/-- newReplica(s, f) -/
theorem m_newReplica (u : Pst) (s f : Nat) (hs : s < 5) (hf : f < 4) (hb : u 5 (s * 4 + f) = -1 ∨ ∃ j, j < 20 ∧ u 5 (s * 4 + f) = nI j) : mIC yX1_newReplica cX1_newReplica 4 .int 1 [.int (nI s), .int (nI f)] u (nI (cq_newB u s f)) (cq_newS u s f) := by
  refine e_IC (by decide) rfl (rfl) (Nat.le_of_ble_eq_true rfl) (by simp [fw_ci]) (fun X h hC hret => ?_)
  have hX := hC.ck
  refine r_lv (lv' := [some (.ref (h 0)), some (.int (nI s)), some (.int (nI f)), none]) rfl ?_
  have hfb := cq_fb_lt (u := cq_let u (s * 4 + f)) hs
  refine r_aload_n 0 hX dX1_newReplica_0 rfl rfl ?_
  refine r_iload_n 1 hX dX1_newReplica_1 rfl rfl ?_
  refine r_iload_n 2 hX dX1_newReplica_2 rfl rfl ?_
  refine k_VC hC (m_letGo u s f hs hf hb) kC_letGo rfl rfl (by decide) (Nat.le_of_ble_eq_true rfl) rfl dX1_newReplica_3 ?_
  refine r_aload_n 0 hX dX1_newReplica_6 rfl rfl ?_
  refine r_iload_n 1 hX dX1_newReplica_7 rfl rfl ?_
  refine k_IC hC (m_freeBlock _ s hs) kC_freeBlock rfl rfl (by decide) (Nat.le_of_ble_eq_true rfl) rfl dX1_newReplica_8 ?_
  refine r_istore_n 3 (lv' := [_, _, _, _]) hX dX1_newReplica_11 rfl (Nat.le_of_ble_eq_true rfl) rfl ?_
  refine r_aload_n 0 hX dX1_newReplica_12 rfl rfl ?_
  refine cc_g10 hC dX1_newReplica_13 ?_
  refine r_iload_n 3 hX dX1_newReplica_16 rfl rfl ?_
  refine r_iconst (nI 1) hX dX1_newReplica_17 (by decide) ?_
  refine cc_s10 hC dX1_newReplica_18 (by omega) ?_
  refine r_aload_n 0 hX dX1_newReplica_19 rfl rfl ?_
  refine cc_g5 hC dX1_newReplica_20 ?_
  refine r_iload_n 1 hX dX1_newReplica_23 rfl rfl ?_
  refine r_iconst (nI 4) hX dX1_newReplica_24 (by decide) ?_
  refine r_imulN hX dX1_newReplica_25 ?_
  refine r_iload_n 2 hX dX1_newReplica_26 rfl rfl ?_
  refine r_iaddN hX dX1_newReplica_27 ?_
  refine r_iload_n 3 hX dX1_newReplica_28 rfl rfl ?_
  refine cc_s5 hC dX1_newReplica_29 (by omega) ?_
  refine r_aload_n 0 hX dX1_newReplica_30 rfl rfl ?_
  refine cc_g6 hC dX1_newReplica_31 ?_
  refine r_iload_n 1 hX dX1_newReplica_34 rfl rfl ?_
  refine r_iconst (nI 4) hX dX1_newReplica_35 (by decide) ?_
  refine r_imulN hX dX1_newReplica_36 ?_
  refine r_iload_n 2 hX dX1_newReplica_37 rfl rfl ?_
  refine r_iaddN hX dX1_newReplica_38 ?_
  refine r_aload_n 0 hX dX1_newReplica_39 rfl rfl ?_
  refine cc_g3 hC dX1_newReplica_40 ?_
  refine r_iload_n 2 hX dX1_newReplica_43 rfl rfl ?_
  refine cc_l3 hC dX1_newReplica_44 (by omega) ?_
  refine cc_s6 hC dX1_newReplica_45 (by omega) ?_
  refine r_iload_n 3 hX dX1_newReplica_46 rfl rfl ?_
  exact hret _ _ _ _ dX1_newReplica_47 (rfl) (rfl)
/-- current(s, f) -/
theorem m_current (u : Pst) (s f : Nat) (hs : s < 5) (hf : f < 4) (hb : u 5 (s * 4 + f) = -1 ∨ ∃ j, j < 20 ∧ u 5 (s * 4 + f) = nI j) : mIC yX1_current cX1_current 5 .boolean 1 [.int (nI s), .int (nI f)] u (bI (cq_cur u s f)) u := by
  refine e_IC (by decide) rfl (bI_nar _) (Nat.le_of_ble_eq_true rfl) (by simp [fw_ci]) (fun X h hC hret => ?_)
  have hX := hC.ck
  refine r_lv (lv' := [some (.ref (h 0)), some (.int (nI s)), some (.int (nI f)), none, none]) rfl ?_
  rcases hb with hb | ⟨j, hj, hb⟩
  · refine r_aload_n 0 hX dX1_current_0 rfl rfl ?_
    refine cc_g5 hC dX1_current_1 ?_
    refine r_iload_n 1 hX dX1_current_4 rfl rfl ?_
    refine r_iconst (nI 4) hX dX1_current_5 (by decide) ?_
    refine r_imulN hX dX1_current_6 ?_
    refine r_iload_n 2 hX dX1_current_7 rfl rfl ?_
    refine r_iaddN hX dX1_current_8 ?_
    refine cc_l5 hC dX1_current_9 (by omega) ?_
    refine r_eq (-1) (hb) ?_
    refine r_istore_n 3 (lv' := [_, _, _, _, _]) hX dX1_current_10 rfl (Nat.le_of_ble_eq_true rfl) rfl ?_
    refine r_iload_n 3 hX dX1_current_11 rfl rfl ?_
    refine r_if_ltT 43 hX dX1_current_12 (by decide) (by decide) ?_
    refine r_iconst (nI 0) hX dX1_current_43 (by decide) ?_
    exact hret _ _ _ _ dX1_current_44 (by simp [cq_cur, bI, hb]; rfl) (rfl)
  · refine r_aload_n 0 hX dX1_current_0 rfl rfl ?_
    refine cc_g5 hC dX1_current_1 ?_
    refine r_iload_n 1 hX dX1_current_4 rfl rfl ?_
    refine r_iconst (nI 4) hX dX1_current_5 (by decide) ?_
    refine r_imulN hX dX1_current_6 ?_
    refine r_iload_n 2 hX dX1_current_7 rfl rfl ?_
    refine r_iaddN hX dX1_current_8 ?_
    refine cc_l5 hC dX1_current_9 (by omega) ?_
    refine r_eq (nI j) (hb) ?_
    refine r_istore_n 3 (lv' := [_, _, _, _, _]) hX dX1_current_10 rfl (Nat.le_of_ble_eq_true rfl) rfl ?_
    refine r_iload_n 3 hX dX1_current_11 rfl rfl ?_
    refine r_if_ltF 43 hX dX1_current_12 (by decide) (fw_pos hj) ?_
    refine r_aload_n 0 hX dX1_current_15 rfl rfl ?_
    refine cc_g2 hC dX1_current_16 ?_
    refine r_iload_n 2 hX dX1_current_19 rfl rfl ?_
    refine cc_l2 hC dX1_current_20 (by omega) ?_
    refine r_if_eq 43 hX dX1_current_21 (by decide) (fun c21 => ?_) (fun c21 => ?_)
    · refine r_iconst (nI 0) hX dX1_current_43 (by decide) ?_
      exact hret _ _ _ _ dX1_current_44 (by simp [cq_cur, bI, cl, hb, fw_pos hj, fw_cl hj, nI_0, nI_one, c21]) (rfl)
    · refine r_aload_n 0 hX dX1_current_24 rfl rfl ?_
      refine cc_g6 hC dX1_current_25 ?_
      refine r_iload_n 1 hX dX1_current_28 rfl rfl ?_
      refine r_iconst (nI 4) hX dX1_current_29 (by decide) ?_
      refine r_imulN hX dX1_current_30 ?_
      refine r_iload_n 2 hX dX1_current_31 rfl rfl ?_
      refine r_iaddN hX dX1_current_32 ?_
      refine cc_l6 hC dX1_current_33 (by omega) ?_
      refine r_aload_n 0 hX dX1_current_34 rfl rfl ?_
      refine cc_g3 hC dX1_current_35 ?_
      refine r_iload_n 2 hX dX1_current_38 rfl rfl ?_
      refine cc_l3 hC dX1_current_39 (by omega) ?_
      refine r_icmp_eq 45 hX dX1_current_40 (by decide) (fun c40 => ?_) (fun c40 => ?_)
      · refine r_aload_n 0 hX dX1_current_45 rfl rfl ?_
        refine r_iload_n 3 hX dX1_current_46 rfl rfl ?_
        refine k_IC hC (m_sumOf _ j hj) kC_sumOf rfl rfl (by decide) (Nat.le_of_ble_eq_true rfl) rfl dX1_current_47 ?_
        refine r_istore 4 (lv' := [_, _, _, _, _]) hX dX1_current_50 (Nat.le_of_ble_eq_true rfl) rfl ?_
        refine r_iload 4 hX dX1_current_52 rfl ?_
        refine r_aload_n 0 hX dX1_current_54 rfl rfl ?_
        refine cc_g9 hC dX1_current_55 ?_
        refine r_iload_n 3 hX dX1_current_58 rfl rfl ?_
        refine cc_l9 hC dX1_current_59 (by omega) ?_
        refine r_icmp_ne 67 hX dX1_current_60 (by decide) (fun c60 => ?_) (fun c60 => ?_)
        · refine r_iconst (nI 0) hX dX1_current_67 (by decide) ?_
          exact hret _ _ _ _ dX1_current_68 (by simp [cq_cur, bI, cl, hb, fw_pos hj, fw_cl hj, nI_0, nI_one, c21, c40, c60]) (rfl)
        · refine r_iconst (nI 1) hX dX1_current_63 (by decide) ?_
          refine r_goto 68 hX dX1_current_64 (by decide) ?_
          exact hret _ _ _ _ dX1_current_68 (by simp [cq_cur, bI, cl, hb, fw_pos hj, fw_cl hj, nI_0, nI_one, c21, c40, c60]) (rfl)
      · refine r_iconst (nI 0) hX dX1_current_43 (by decide) ?_
        exact hret _ _ _ _ dX1_current_44 (by simp [cq_cur, bI, cl, hb, fw_pos hj, fw_cl hj, nI_0, nI_one, c21, c40]) (rfl)
/-- currentSet(f) -/
theorem m_currentSet (u : Pst) (f k : Nat) (hf : f < 4) (hB : BI k u) : mIC yX1_currentSet cX1_currentSet 5 .int 2 [.int (nI f)] u (nI (cq_set u f)) u := by
  refine e_IC (by decide) rfl (rfl) (Nat.le_of_ble_eq_true rfl) (by simp [fw_ci]) (fun X h hC hret => ?_)
  have hX := hC.ck
  refine r_lv (lv' := [some (.ref (h 0)), some (.int (nI f)), none, none, none]) rfl ?_
  refine r_iconst (nI 0) hX dX1_currentSet_0 (by decide) ?_
  refine r_istore_n 2 (lv' := [_, _, _, _, _]) hX dX1_currentSet_1 rfl (Nat.le_of_ble_eq_true rfl) rfl ?_
  refine r_iconst (nI 0) hX dX1_currentSet_2 (by decide) ?_
  refine r_istore_n 3 (lv' := [_, _, _, _, _]) hX dX1_currentSet_3 rfl (Nat.le_of_ble_eq_true rfl) rfl ?_
  have loop : ∀ n i, i + n = 5 → CG X u 4 [some (.ref (h 0)), some (.int (nI f)), some (.int (nI (mk5 (fun s => cq_cur u s f) i))), some (.int (nI i)), none] [] := by
    intro n
    induction n with
    | zero =>
      intro i hi
      obtain rfl : i = 5 := by omega
      refine r_iload_n 3 hX dX1_currentSet_4 rfl rfl ?_
      refine r_iconst (nI 5) hX dX1_currentSet_5 (by decide) ?_
      refine r_icmp_geNT 34 hX dX1_currentSet_6 (by decide) (by omega) ?_
      refine r_iload_n 2 hX dX1_currentSet_34 rfl rfl ?_
      exact hret _ _ _ _ dX1_currentSet_35 (rfl) (rfl)
    | succ n ih =>
      intro i hi
      refine r_iload_n 3 hX dX1_currentSet_4 rfl rfl ?_
      refine r_iconst (nI 5) hX dX1_currentSet_5 (by decide) ?_
      refine r_icmp_geNF 34 hX dX1_currentSet_6 (by decide) (by omega) ?_
      refine r_aload_n 0 hX dX1_currentSet_9 rfl rfl ?_
      refine r_iload_n 3 hX dX1_currentSet_10 rfl rfl ?_
      refine r_iload_n 1 hX dX1_currentSet_11 rfl rfl ?_
      refine k_IC hC (m_current u i f (by omega) hf (hB.2 _ (by omega))) kC_current rfl rfl (by decide) (Nat.le_of_ble_eq_true rfl) rfl dX1_currentSet_12 ?_
      refine r_istore 4 (lv' := [_, _, _, _, _]) hX dX1_currentSet_15 (Nat.le_of_ble_eq_true rfl) rfl ?_
      refine r_iload 4 hX dX1_currentSet_17 rfl ?_
      refine r_if_eq 28 hX dX1_currentSet_19 (by decide) (fun c19 => ?_) (fun c19 => ?_)
      · rw [bI_z] at c19
        refine r_lvi 2 (nI (mk5 (fun s => cq_cur u s f) (i + 1))) (lv' := [_, _, _, _, _]) rfl (by simp [mk5, c19]) rfl ?_
        refine r_iincN 3 (lv' := [_, _, _, _, _]) hX dX1_currentSet_28 rfl (Nat.le_of_ble_eq_true rfl) rfl ?_
        refine r_goto 4 hX dX1_currentSet_31 (by decide) ?_
        refine r_forget 4 (lv' := [_, _, _, _, none]) rfl ?_
        exact ih (i + 1) (by omega)
      · rw [bI_n] at c19
        refine r_iload_n 2 hX dX1_currentSet_22 rfl rfl ?_
        refine r_iconst (nI 1) hX dX1_currentSet_23 (by decide) ?_
        refine r_iload_n 3 hX dX1_currentSet_24 rfl rfl ?_
        refine r_ishl hX dX1_currentSet_25 ?_
        refine r_ior hX dX1_currentSet_26 ?_
        refine r_eq (nI (mk5 (fun s => cq_cur u s f) (i + 1))) (by rw [bt_or i (by omega) _ (mk5_lt _ _)]; simp [mk5, c19]) ?_
        refine r_istore_n 2 (lv' := [_, _, _, _, _]) hX dX1_currentSet_27 rfl (Nat.le_of_ble_eq_true rfl) rfl ?_
        refine r_iincN 3 (lv' := [_, _, _, _, _]) hX dX1_currentSet_28 rfl (Nat.le_of_ble_eq_true rfl) rfl ?_
        refine r_goto 4 hX dX1_currentSet_31 (by decide) ?_
        refine r_forget 4 (lv' := [_, _, _, _, none]) rfl ?_
        exact ih (i + 1) (by omega)
  exact loop 5 0 rfl
/-- source(f) -/
theorem m_source (u : Pst) (f k : Nat) (hf : f < 4) (hB : BI k u) : mIC yX1_source cX1_source 4 .int 2 [.int (nI f)] u (oI (cq_src u f)) u := by
  refine e_IC (by decide) rfl (rfl) (Nat.le_of_ble_eq_true rfl) (by simp [fw_ci]) (fun X h hC hret => ?_)
  have hX := hC.ck
  refine r_lv (lv' := [some (.ref (h 0)), some (.int (nI f)), none, none]) rfl ?_
  refine r_iconst (nI 0) hX dX1_source_0 (by decide) ?_
  refine r_istore_n 2 (lv' := [_, _, _, _]) hX dX1_source_1 rfl (Nat.le_of_ble_eq_true rfl) rfl ?_
  have loop : ∀ n i, i + n = 5 → fi5 (fun s => cq_up u s && cq_cur u s f) i = none → CG X u 2 [some (.ref (h 0)), some (.int (nI f)), some (.int (nI i)), none] [] := by
    intro n
    induction n with
    | zero =>
      intro i hi hn
      obtain rfl : i = 5 := by omega
      refine r_iload_n 2 hX dX1_source_2 rfl rfl ?_
      refine r_iconst (nI 5) hX dX1_source_3 (by decide) ?_
      refine r_icmp_geNT 35 hX dX1_source_4 (by decide) (by omega) ?_
      refine r_iconst (-1) hX dX1_source_35 (by decide) ?_
      exact hret _ _ _ _ dX1_source_36 (by simp [cq_src, hn, oI]) (rfl)
    | succ n ih =>
      intro i hi hn
      refine r_iload_n 2 hX dX1_source_2 rfl rfl ?_
      refine r_iconst (nI 5) hX dX1_source_3 (by decide) ?_
      refine r_icmp_geNF 35 hX dX1_source_4 (by decide) (by omega) ?_
      refine r_aload_n 0 hX dX1_source_7 rfl rfl ?_
      refine cc_g1 hC dX1_source_8 ?_
      refine r_iload_n 2 hX dX1_source_11 rfl rfl ?_
      refine cc_l1 hC dX1_source_12 (by omega) ?_
      refine r_if_eq 29 hX dX1_source_13 (by decide) (fun c13 => ?_) (fun c13 => ?_)
      · refine r_iincN 2 (lv' := [_, _, _, _]) hX dX1_source_29 rfl (Nat.le_of_ble_eq_true rfl) rfl ?_
        refine r_goto 2 hX dX1_source_32 (by decide) ?_
        exact ih (i + 1) (by omega) (fi5_step hn (by simp [cq_up, c13]))
      · refine r_aload_n 0 hX dX1_source_16 rfl rfl ?_
        refine r_iload_n 2 hX dX1_source_17 rfl rfl ?_
        refine r_iload_n 1 hX dX1_source_18 rfl rfl ?_
        refine k_IC hC (m_current u i f (by omega) hf (hB.2 _ (by omega))) kC_current rfl rfl (by decide) (Nat.le_of_ble_eq_true rfl) rfl dX1_source_19 ?_
        refine r_istore_n 3 (lv' := [_, _, _, _]) hX dX1_source_22 rfl (Nat.le_of_ble_eq_true rfl) rfl ?_
        refine r_iload_n 3 hX dX1_source_23 rfl rfl ?_
        refine r_if_eq 29 hX dX1_source_24 (by decide) (fun c24 => ?_) (fun c24 => ?_)
        · rw [bI_z] at c24
          refine r_iincN 2 (lv' := [_, _, _, _]) hX dX1_source_29 rfl (Nat.le_of_ble_eq_true rfl) rfl ?_
          refine r_goto 2 hX dX1_source_32 (by decide) ?_
          refine r_forget 3 (lv' := [_, _, _, none]) rfl ?_
          exact ih (i + 1) (by omega) (fi5_step hn (by simp [c24]))
        · rw [bI_n] at c24
          refine r_iload_n 2 hX dX1_source_27 rfl rfl ?_
          have hsrc : cq_src u f = some i := by
            have := fi5_of hn (by simp [cq_up, c13, c24]) n
            rwa [show i + 1 + n = 5 by omega] at this
          exact hret _ _ _ _ dX1_source_28 (by rw [hsrc]; rfl) (rfl)
  exact loop 5 0 rfl rfl
/-- loadOf(s) -/
theorem m_loadOf (u : Pst) (s k : Nat) (hs : s < 5) (hB : BI k u) : mIC yX1_loadOf cX1_loadOf 5 .int 2 [.int (nI s)] u (nI (cq_ld u s)) u := by
  refine e_IC (by decide) rfl (rfl) (Nat.le_of_ble_eq_true rfl) (by simp [fw_ci]) (fun X h hC hret => ?_)
  have hX := hC.ck
  refine r_lv (lv' := [some (.ref (h 0)), some (.int (nI s)), none, none, none]) rfl ?_
  refine r_iconst (nI 0) hX dX1_loadOf_0 (by decide) ?_
  refine r_istore_n 2 (lv' := [_, _, _, _, _]) hX dX1_loadOf_1 rfl (Nat.le_of_ble_eq_true rfl) rfl ?_
  refine r_iconst (nI 0) hX dX1_loadOf_2 (by decide) ?_
  refine r_istore_n 3 (lv' := [_, _, _, _, _]) hX dX1_loadOf_3 rfl (Nat.le_of_ble_eq_true rfl) rfl ?_
  have loop : ∀ n i, i + n = 4 → CG X u 4 [some (.ref (h 0)), some (.int (nI s)), some (.int (nI (cnt (cq_cur u s) i))), some (.int (nI i)), none] [] := by
    intro n
    induction n with
    | zero =>
      intro i hi
      obtain rfl : i = 4 := by omega
      refine r_iload_n 3 hX dX1_loadOf_4 rfl rfl ?_
      refine r_iconst (nI 4) hX dX1_loadOf_5 (by decide) ?_
      refine r_icmp_geNT 31 hX dX1_loadOf_6 (by decide) (by omega) ?_
      refine r_iload_n 2 hX dX1_loadOf_31 rfl rfl ?_
      exact hret _ _ _ _ dX1_loadOf_32 (rfl) (rfl)
    | succ n ih =>
      intro i hi
      refine r_iload_n 3 hX dX1_loadOf_4 rfl rfl ?_
      refine r_iconst (nI 4) hX dX1_loadOf_5 (by decide) ?_
      refine r_icmp_geNF 31 hX dX1_loadOf_6 (by decide) (by omega) ?_
      refine r_aload_n 0 hX dX1_loadOf_9 rfl rfl ?_
      refine r_iload_n 1 hX dX1_loadOf_10 rfl rfl ?_
      refine r_iload_n 3 hX dX1_loadOf_11 rfl rfl ?_
      refine k_IC hC (m_current u s i hs (by omega) (hB.2 _ (by omega))) kC_current rfl rfl (by decide) (Nat.le_of_ble_eq_true rfl) rfl dX1_loadOf_12 ?_
      refine r_istore 4 (lv' := [_, _, _, _, _]) hX dX1_loadOf_15 (Nat.le_of_ble_eq_true rfl) rfl ?_
      refine r_iload 4 hX dX1_loadOf_17 rfl ?_
      refine r_if_eq 25 hX dX1_loadOf_19 (by decide) (fun c19 => ?_) (fun c19 => ?_)
      · rw [bI_z] at c19
        refine r_lvi 2 (nI (cnt (cq_cur u s) (i + 1))) (lv' := [_, _, _, _, _]) rfl (by simp [cnt, c19]) rfl ?_
        refine r_iincN 3 (lv' := [_, _, _, _, _]) hX dX1_loadOf_25 rfl (Nat.le_of_ble_eq_true rfl) rfl ?_
        refine r_goto 4 hX dX1_loadOf_28 (by decide) ?_
        refine r_forget 4 (lv' := [_, _, _, _, none]) rfl ?_
        exact ih (i + 1) (by omega)
      · rw [bI_n] at c19
        refine r_iincN 2 (lv' := [_, _, _, _, _]) hX dX1_loadOf_22 rfl (Nat.le_of_ble_eq_true rfl) rfl ?_
        refine r_lvi 2 (nI (cnt (cq_cur u s) (i + 1))) (lv' := [_, _, _, _, _]) rfl (by simp [cnt, c19]) rfl ?_
        refine r_iincN 3 (lv' := [_, _, _, _, _]) hX dX1_loadOf_25 rfl (Nat.le_of_ble_eq_true rfl) rfl ?_
        refine r_goto 4 hX dX1_loadOf_28 (by decide) ?_
        refine r_forget 4 (lv' := [_, _, _, _, none]) rfl ?_
        exact ih (i + 1) (by omega)
  exact loop 4 0 rfl
/-- firstOf(set) -/
theorem m_firstOf (u : Pst) (a k : Nat) (ha : a < 32) (hB : BI k u) : mIC yX1_firstOf cX1_firstOf 6 .int 3 [.int (nI a)] u (oI (cq_fst u a)) u := by
  refine e_IC (by decide) rfl (rfl) (Nat.le_of_ble_eq_true rfl) (by simp [fw_ci]) (fun X h hC hret => ?_)
  have hX := hC.ck
  refine r_lv (lv' := [some (.ref (h 0)), some (.int (nI a)), none, none, none, none]) rfl ?_
  have hld : ∀ s, cq_ld u s ≤ 4 := fun s => cnt_le _ 4
  refine r_iconst (-1) hX dX1_firstOf_0 (by decide) ?_
  refine r_istore_n 2 (lv' := [_, _, _, _, _, _]) hX dX1_firstOf_1 rfl (Nat.le_of_ble_eq_true rfl) rfl ?_
  refine r_iconst (nI 0) hX dX1_firstOf_2 (by decide) ?_
  refine r_istore_n 3 (lv' := [_, _, _, _, _, _]) hX dX1_firstOf_3 rfl (Nat.le_of_ble_eq_true rfl) rfl ?_
  refine r_iconst (nI 0) hX dX1_firstOf_4 (by decide) ?_
  refine r_istore 4 (lv' := [_, _, _, _, _, _]) hX dX1_firstOf_5 (Nat.le_of_ble_eq_true rfl) rfl ?_
  have loop : ∀ n i, i + n = 5 → CG X u 7 [some (.ref (h 0)), some (.int (nI a)), some (.int (oI (fst5 (bt5 a) (cq_ld u) i))), some (.int (lsI (cq_ld u) (fst5 (bt5 a) (cq_ld u) i))), some (.int (nI i)), none] [] := by
    intro n
    induction n with
    | zero =>
      intro i hi
      obtain rfl : i = 5 := by omega
      refine r_iload 4 hX dX1_firstOf_7 rfl ?_
      refine r_iconst (nI 5) hX dX1_firstOf_9 (by decide) ?_
      refine r_icmp_geNT 53 hX dX1_firstOf_10 (by decide) (by omega) ?_
      refine r_iload_n 2 hX dX1_firstOf_53 rfl rfl ?_
      exact hret _ _ _ _ dX1_firstOf_54 (rfl) (rfl)
    | succ n ih =>
      intro i hi
      have hli := hld i
      cases ho : fst5 (bt5 a) (cq_ld u) i with
      | none =>
        refine r_lvi 2 (-1) (lv' := [_, _, _, _, _, _]) rfl rfl rfl ?_
        refine r_lvi 3 (nI 0) (lv' := [_, _, _, _, _, _]) rfl rfl rfl ?_
        refine r_iload 4 hX dX1_firstOf_7 rfl ?_
        refine r_iconst (nI 5) hX dX1_firstOf_9 (by decide) ?_
        refine r_icmp_geNF 53 hX dX1_firstOf_10 (by decide) (by omega) ?_
        refine r_iload_n 1 hX dX1_firstOf_13 rfl rfl ?_
        refine r_iload 4 hX dX1_firstOf_14 rfl ?_
        refine r_ishr hX dX1_firstOf_16 ?_
        refine r_iconst (nI 1) hX dX1_firstOf_17 (by decide) ?_
        refine r_iand hX dX1_firstOf_18 ?_
        refine r_eq (nI (a / 2 ^ i % 2)) (bt_shr a ha i (by omega)) ?_
        refine r_iconst (nI 1) hX dX1_firstOf_19 (by decide) ?_
        refine r_icmp_neN 47 hX dX1_firstOf_20 (by decide) (by omega) (by omega) (fun c20 => ?_) (fun c20 => ?_)
        · refine r_iincN 4 (lv' := [_, _, _, _, _, _]) hX dX1_firstOf_47 rfl (Nat.le_of_ble_eq_true rfl) rfl ?_
          refine r_goto 7 hX dX1_firstOf_50 (by decide) ?_
          refine r_lvi 2 (oI (fst5 (bt5 a) (cq_ld u) (i + 1))) (lv' := [_, _, _, _, _, _]) rfl (by simp [fst5, bt5, ho, oI, lsI, c20]) rfl ?_
          refine r_lvi 3 (lsI (cq_ld u) (fst5 (bt5 a) (cq_ld u) (i + 1))) (lv' := [_, _, _, _, _, _]) rfl (by simp [fst5, bt5, ho, oI, lsI, c20]) rfl ?_
          exact ih (i + 1) (by omega)
        · refine r_aload_n 0 hX dX1_firstOf_23 rfl rfl ?_
          refine r_iload 4 hX dX1_firstOf_24 rfl ?_
          refine k_IC hC (m_loadOf u i k (by omega) hB) kC_loadOf rfl rfl (by decide) (Nat.le_of_ble_eq_true rfl) rfl dX1_firstOf_26 ?_
          refine r_istore 5 (lv' := [_, _, _, _, _, _]) hX dX1_firstOf_29 (Nat.le_of_ble_eq_true rfl) rfl ?_
          refine r_iload_n 2 hX dX1_firstOf_31 rfl rfl ?_
          refine r_if_ltT 41 hX dX1_firstOf_32 (by decide) (by decide) ?_
          refine r_iload 4 hX dX1_firstOf_41 rfl ?_
          refine r_istore_n 2 (lv' := [_, _, _, _, _, _]) hX dX1_firstOf_43 rfl (Nat.le_of_ble_eq_true rfl) rfl ?_
          refine r_iload 5 hX dX1_firstOf_44 rfl ?_
          refine r_istore_n 3 (lv' := [_, _, _, _, _, _]) hX dX1_firstOf_46 rfl (Nat.le_of_ble_eq_true rfl) rfl ?_
          refine r_iincN 4 (lv' := [_, _, _, _, _, _]) hX dX1_firstOf_47 rfl (Nat.le_of_ble_eq_true rfl) rfl ?_
          refine r_goto 7 hX dX1_firstOf_50 (by decide) ?_
          refine r_forget 5 (lv' := [_, _, _, _, _, none]) rfl ?_
          refine r_lvi 2 (oI (fst5 (bt5 a) (cq_ld u) (i + 1))) (lv' := [_, _, _, _, _, _]) rfl (by simp [fst5, bt5, ho, oI, lsI, c20]) rfl ?_
          refine r_lvi 3 (lsI (cq_ld u) (fst5 (bt5 a) (cq_ld u) (i + 1))) (lv' := [_, _, _, _, _, _]) rfl (by simp [fst5, bt5, ho, oI, lsI, c20]) rfl ?_
          exact ih (i + 1) (by omega)
      | some b =>
        have hb := (fst5_lt i b ho).1
        have hlb := hld b
        refine r_lvi 2 (nI b) (lv' := [_, _, _, _, _, _]) rfl rfl rfl ?_
        refine r_lvi 3 (nI (cq_ld u b)) (lv' := [_, _, _, _, _, _]) rfl rfl rfl ?_
        refine r_iload 4 hX dX1_firstOf_7 rfl ?_
        refine r_iconst (nI 5) hX dX1_firstOf_9 (by decide) ?_
        refine r_icmp_geNF 53 hX dX1_firstOf_10 (by decide) (by omega) ?_
        refine r_iload_n 1 hX dX1_firstOf_13 rfl rfl ?_
        refine r_iload 4 hX dX1_firstOf_14 rfl ?_
        refine r_ishr hX dX1_firstOf_16 ?_
        refine r_iconst (nI 1) hX dX1_firstOf_17 (by decide) ?_
        refine r_iand hX dX1_firstOf_18 ?_
        refine r_eq (nI (a / 2 ^ i % 2)) (bt_shr a ha i (by omega)) ?_
        refine r_iconst (nI 1) hX dX1_firstOf_19 (by decide) ?_
        refine r_icmp_neN 47 hX dX1_firstOf_20 (by decide) (by omega) (by omega) (fun c20 => ?_) (fun c20 => ?_)
        · refine r_iincN 4 (lv' := [_, _, _, _, _, _]) hX dX1_firstOf_47 rfl (Nat.le_of_ble_eq_true rfl) rfl ?_
          refine r_goto 7 hX dX1_firstOf_50 (by decide) ?_
          refine r_lvi 2 (oI (fst5 (bt5 a) (cq_ld u) (i + 1))) (lv' := [_, _, _, _, _, _]) rfl (by simp [fst5, bt5, ho, oI, lsI, c20]) rfl ?_
          refine r_lvi 3 (lsI (cq_ld u) (fst5 (bt5 a) (cq_ld u) (i + 1))) (lv' := [_, _, _, _, _, _]) rfl (by simp [fst5, bt5, ho, oI, lsI, c20]) rfl ?_
          exact ih (i + 1) (by omega)
        · refine r_aload_n 0 hX dX1_firstOf_23 rfl rfl ?_
          refine r_iload 4 hX dX1_firstOf_24 rfl ?_
          refine k_IC hC (m_loadOf u i k (by omega) hB) kC_loadOf rfl rfl (by decide) (Nat.le_of_ble_eq_true rfl) rfl dX1_firstOf_26 ?_
          refine r_istore 5 (lv' := [_, _, _, _, _, _]) hX dX1_firstOf_29 (Nat.le_of_ble_eq_true rfl) rfl ?_
          refine r_iload_n 2 hX dX1_firstOf_31 rfl rfl ?_
          refine r_if_ltF 41 hX dX1_firstOf_32 (by decide) (nI_pos (by omega)) ?_
          refine r_iload 5 hX dX1_firstOf_35 rfl ?_
          refine r_iload_n 3 hX dX1_firstOf_37 rfl rfl ?_
          refine r_icmp_geN 47 hX dX1_firstOf_38 (by decide) (by omega) (by omega) (fun c38 => ?_) (fun c38 => ?_)
          · refine r_iincN 4 (lv' := [_, _, _, _, _, _]) hX dX1_firstOf_47 rfl (Nat.le_of_ble_eq_true rfl) rfl ?_
            refine r_goto 7 hX dX1_firstOf_50 (by decide) ?_
            refine r_forget 5 (lv' := [_, _, _, _, _, none]) rfl ?_
            refine r_lvi 2 (oI (fst5 (bt5 a) (cq_ld u) (i + 1))) (lv' := [_, _, _, _, _, _]) rfl (by simp [fst5, bt5, ho, oI, lsI, c20, Nat.not_lt.mpr c38]) rfl ?_
            refine r_lvi 3 (lsI (cq_ld u) (fst5 (bt5 a) (cq_ld u) (i + 1))) (lv' := [_, _, _, _, _, _]) rfl (by simp [fst5, bt5, ho, oI, lsI, c20, Nat.not_lt.mpr c38]) rfl ?_
            exact ih (i + 1) (by omega)
          · refine r_iload 4 hX dX1_firstOf_41 rfl ?_
            refine r_istore_n 2 (lv' := [_, _, _, _, _, _]) hX dX1_firstOf_43 rfl (Nat.le_of_ble_eq_true rfl) rfl ?_
            refine r_iload 5 hX dX1_firstOf_44 rfl ?_
            refine r_istore_n 3 (lv' := [_, _, _, _, _, _]) hX dX1_firstOf_46 rfl (Nat.le_of_ble_eq_true rfl) rfl ?_
            refine r_iincN 4 (lv' := [_, _, _, _, _, _]) hX dX1_firstOf_47 rfl (Nat.le_of_ble_eq_true rfl) rfl ?_
            refine r_goto 7 hX dX1_firstOf_50 (by decide) ?_
            refine r_forget 5 (lv' := [_, _, _, _, _, none]) rfl ?_
            refine r_lvi 2 (oI (fst5 (bt5 a) (cq_ld u) (i + 1))) (lv' := [_, _, _, _, _, _]) rfl (by simp [fst5, bt5, ho, oI, lsI, c20, c38]) rfl ?_
            refine r_lvi 3 (lsI (cq_ld u) (fst5 (bt5 a) (cq_ld u) (i + 1))) (lv' := [_, _, _, _, _, _]) rfl (by simp [fst5, bt5, ho, oI, lsI, c20, c38]) rfl ?_
            exact ih (i + 1) (by omega)
  exact loop 5 0 rfl
theorem m_refusal_bad (u : Pst) (x : Int32) (hx : x < 0 ∨ nI 4 ≤ x) : mIC yX1_refusal cX1_refusal 3 .int 3 [.int x] u (-1) u := by
  refine e_IC (by decide) rfl (rfl) (Nat.le_of_ble_eq_true rfl) (by simp [fw_ci]) (fun X h hC hret => ?_)
  have hX := hC.ck
  refine r_lv (lv' := [some (.ref (h 0)), some (.int x), none]) rfl ?_
  refine r_iload_n 1 hX dX1_refusal_0 rfl rfl ?_
  refine k_SC hC (m_badFile_y x hx) kC_badFile rfl (by decide) (Nat.le_of_ble_eq_true rfl) rfl dX1_refusal_1 ?_
  refine r_if_eqF 9 hX dX1_refusal_4 (by decide) (by decide) ?_
  refine r_iconst (-1) hX dX1_refusal_7 (by decide) ?_
  exact hret _ _ _ _ dX1_refusal_8 (rfl) (rfl)
theorem m_refusal_no (u : Pst) (f : Nat) (hf : f < 4) (he : u 2 f = 0) : mIC yX1_refusal cX1_refusal 3 .int 3 [.int (nI f)] u (-3) u := by
  refine e_IC (by decide) rfl (rfl) (Nat.le_of_ble_eq_true rfl) (by simp [fw_ci]) (fun X h hC hret => ?_)
  have hX := hC.ck
  refine r_lv (lv' := [some (.ref (h 0)), some (.int (nI f)), none]) rfl ?_
  refine r_iload_n 1 hX dX1_refusal_0 rfl rfl ?_
  refine k_SC hC (m_badFile_n f hf) kC_badFile rfl (by decide) (Nat.le_of_ble_eq_true rfl) rfl dX1_refusal_1 ?_
  refine r_if_eqT 9 hX dX1_refusal_4 (by decide) (by decide) ?_
  refine r_aload_n 0 hX dX1_refusal_9 rfl rfl ?_
  refine cc_g2 hC dX1_refusal_10 ?_
  refine r_iload_n 1 hX dX1_refusal_13 rfl rfl ?_
  refine cc_l2 hC dX1_refusal_14 (by omega) ?_
  refine r_if_neF 21 hX dX1_refusal_15 (by decide) (he) ?_
  refine r_bipush (-3) hX dX1_refusal_18 (by decide) ?_
  exact hret _ _ _ _ dX1_refusal_20 (rfl) (rfl)
theorem m_refusal_un (u : Pst) (f k : Nat) (hf : f < 4) (hB : BI k u) (he : ¬ u 2 f = 0) (hn : cq_src u f = none) : mIC yX1_refusal cX1_refusal 3 .int 3 [.int (nI f)] u (-5) u := by
  refine e_IC (by decide) rfl (rfl) (Nat.le_of_ble_eq_true rfl) (by simp [fw_ci]) (fun X h hC hret => ?_)
  have hX := hC.ck
  refine r_lv (lv' := [some (.ref (h 0)), some (.int (nI f)), none]) rfl ?_
  refine r_iload_n 1 hX dX1_refusal_0 rfl rfl ?_
  refine k_SC hC (m_badFile_n f hf) kC_badFile rfl (by decide) (Nat.le_of_ble_eq_true rfl) rfl dX1_refusal_1 ?_
  refine r_if_eqT 9 hX dX1_refusal_4 (by decide) (by decide) ?_
  refine r_aload_n 0 hX dX1_refusal_9 rfl rfl ?_
  refine cc_g2 hC dX1_refusal_10 ?_
  refine r_iload_n 1 hX dX1_refusal_13 rfl rfl ?_
  refine cc_l2 hC dX1_refusal_14 (by omega) ?_
  refine r_if_neT 21 hX dX1_refusal_15 (by decide) (he) ?_
  refine r_aload_n 0 hX dX1_refusal_21 rfl rfl ?_
  refine r_iload_n 1 hX dX1_refusal_22 rfl rfl ?_
  refine k_IC hC (m_source u f k hf hB) kC_source rfl rfl (by decide) (Nat.le_of_ble_eq_true rfl) rfl dX1_refusal_23 ?_
  refine r_istore_n 2 (lv' := [_, _, _]) hX dX1_refusal_26 rfl (Nat.le_of_ble_eq_true rfl) rfl ?_
  refine r_iload_n 2 hX dX1_refusal_27 rfl rfl ?_
  refine r_if_geF 36 hX dX1_refusal_28 (by decide) (by rw [hn]; decide) ?_
  refine r_bipush (-5) hX dX1_refusal_31 (by decide) ?_
  refine r_goto 37 hX dX1_refusal_33 (by decide) ?_
  exact hret _ _ _ _ dX1_refusal_37 (rfl) (rfl)
theorem m_refusal_ok (u : Pst) (f k s : Nat) (hf : f < 4) (hB : BI k u) (he : ¬ u 2 f = 0) (hn : cq_src u f = some s) : mIC yX1_refusal cX1_refusal 3 .int 3 [.int (nI f)] u 0 u := by
  refine e_IC (by decide) rfl (rfl) (Nat.le_of_ble_eq_true rfl) (by simp [fw_ci]) (fun X h hC hret => ?_)
  have hX := hC.ck
  refine r_lv (lv' := [some (.ref (h 0)), some (.int (nI f)), none]) rfl ?_
  have hs := (fi5_lt 5 s hn).1
  refine r_iload_n 1 hX dX1_refusal_0 rfl rfl ?_
  refine k_SC hC (m_badFile_n f hf) kC_badFile rfl (by decide) (Nat.le_of_ble_eq_true rfl) rfl dX1_refusal_1 ?_
  refine r_if_eqT 9 hX dX1_refusal_4 (by decide) (by decide) ?_
  refine r_aload_n 0 hX dX1_refusal_9 rfl rfl ?_
  refine cc_g2 hC dX1_refusal_10 ?_
  refine r_iload_n 1 hX dX1_refusal_13 rfl rfl ?_
  refine cc_l2 hC dX1_refusal_14 (by omega) ?_
  refine r_if_neT 21 hX dX1_refusal_15 (by decide) (he) ?_
  refine r_aload_n 0 hX dX1_refusal_21 rfl rfl ?_
  refine r_iload_n 1 hX dX1_refusal_22 rfl rfl ?_
  refine k_IC hC (m_source u f k hf hB) kC_source rfl rfl (by decide) (Nat.le_of_ble_eq_true rfl) rfl dX1_refusal_23 ?_
  refine r_istore_n 2 (lv' := [_, _, _]) hX dX1_refusal_26 rfl (Nat.le_of_ble_eq_true rfl) rfl ?_
  refine r_iload_n 2 hX dX1_refusal_27 rfl rfl ?_
  refine r_if_geT 36 hX dX1_refusal_28 (by decide) (by rw [hn]; exact nI_pos' (by omega)) ?_
  refine r_iconst (nI 0) hX dX1_refusal_36 (by decide) ?_
  exact hret _ _ _ _ dX1_refusal_37 (rfl) (rfl)
end
section
/-! the component's larger words, and that they keep BI -/
def cq_zN (u : Pst) (b : Nat) : Nat → Pst
  | 0 => u
  | n + 1 => sU (cq_zN u b n) 7 (b * 6 + n) (nI 0)
def cq_mk (u : Pst) (s f : Nat) : Pst := sU (sU (cq_zN (cq_newS u s f) (cq_newB u s f) 6) 8 (cq_newB u s f) (nI 0)) 9 (cq_newB u s f) (cq_sum (sU (cq_zN (cq_newS u s f) (cq_newB u s f) 6) 8 (cq_newB u s f) (nI 0)) (cq_newB u s f))
def cq_crL (f : Nat) : Nat → Nat → Pst → Pst × Nat
  | 0, _, u => (u, 0)
  | n + 1, m, u => if m = 0 then (u, 0) else match cq_fst u m with
    | none => (u, 0)
    | some s => ((cq_crL f n (m - 2 ^ s) (cq_mk u s f)).1, (cq_crL f n (m - 2 ^ s) (cq_mk u s f)).2 + 1)
def cq_rmN (u : Pst) (f : Nat) : Nat → Pst
  | 0 => u
  | n + 1 => if cq_rmN u f n 1 n = 0 then cq_rmN u f n else cq_let (cq_rmN u f n) (n * 4 + f)
def cq_mu1N (u : Pst) (f m : Nat) : Nat → Pst
  | 0 => u
  | n + 1 => if m / 2 ^ n % 2 = 1 then sU (cq_mu1N u f m n) 6 (n * 4 + f) (cq_mu1N u f m n 3 f) else cq_mu1N u f m n
/-- the write's first part: the block of its own, the cell -/
def cq_w1 (u : Pst) (s f c : Nat) (v : Int32) : Pst := sU (cq_ownS u s (s * 4 + f) (cl (u 5 (s * 4 + f)))) 7 (cq_ownB u s (cl (u 5 (s * 4 + f))) * 6 + c) v
def cq_w2 (u : Pst) (b c : Nat) : Pst := if nI (c + 1) ≤ u 8 b then u else sU u 8 b (nI (c + 1))
def cq_wr (u : Pst) (s f c : Nat) (v : Int32) : Pst := sU (cq_w2 (cq_w1 u s f c v) (cq_ownB u s (cl (u 5 (s * 4 + f)))) c) 9 (cq_ownB u s (cl (u 5 (s * 4 + f)))) (cq_sum (cq_w2 (cq_w1 u s f c v) (cq_ownB u s (cl (u 5 (s * 4 + f)))) c) (cq_ownB u s (cl (u 5 (s * 4 + f)))))
def cq_mu2N (u : Pst) (f m c : Nat) (v : Int32) : Nat → Pst
  | 0 => u
  | n + 1 => if m / 2 ^ n % 2 = 1 then cq_wr (cq_mu2N u f m c v n) n f c v else cq_mu2N u f m c v n
def cq_live (u : Pst) (f : Nat) : Nat := cq_set u f &&& cq_ups u
def cq_mu1 (u : Pst) (f : Nat) : Pst := if cq_live u f = cq_set u f then u else cq_mu1N (cq_ver u f) f (cq_live u f) 5
def cq_mut (u : Pst) (f c : Nat) (v : Int32) : Pst := cq_mu2N (cq_mu1 u f) f (cq_live u f) c v 5
def cq_sh (u : Pst) (s f g : Nat) : Pst :=
  sU (sU (sU (cq_let u (s * 4 + g)) 10 (cl (cq_let u (s * 4 + g) 5 (s * 4 + f))) (cq_let u (s * 4 + g) 10 (cl (cq_let u (s * 4 + g) 5 (s * 4 + f))) + nI 1)) 5 (s * 4 + g) (cq_let u (s * 4 + g) 5 (s * 4 + f))) 6 (s * 4 + g)
    (sU (sU (cq_let u (s * 4 + g)) 10 (cl (cq_let u (s * 4 + g) 5 (s * 4 + f))) (cq_let u (s * 4 + g) 10 (cl (cq_let u (s * 4 + g) 5 (s * 4 + f))) + nI 1)) 5 (s * 4 + g) (cq_let u (s * 4 + g) 5 (s * 4 + f)) 3 g)
def cq_snN (u : Pst) (f g m : Nat) : Nat → Pst
  | 0 => u
  | n + 1 => if m / 2 ^ n % 2 = 1 then cq_sh (cq_snN u f g m n) n f g else cq_snN u f g m n
def cq_rsN (u : Pst) (s : Nat) : Nat → Pst
  | 0 => u
  | n + 1 => if cq_rsN u s n 2 n = 0 then cq_let (cq_rsN u s n) (s * 4 + n) else if cq_rsN u s n 6 (s * 4 + n) = cq_rsN u s n 3 n then cq_rsN u s n else cq_let (cq_rsN u s n) (s * 4 + n)
def cq_ldN (u : Pst) (s : Nat) : Nat → Pst
  | 0 => u
  | n + 1 => cq_let (cq_ldN u s n) (s * 4 + n)
def cq_dmg (u : Pst) (s f j : Nat) : Pst := sU (cq_ownS u s (s * 4 + f) j) 7 (cq_ownB u s j * 6) (cq_ownS u s (s * 4 + f) j 7 (cq_ownB u s j * 6) ^^^ nI 1)
/-- one more replica of f at t, out of the one at s0 -/
def cq_rep (u : Pst) (f s0 t : Nat) : Pst := cq_cp (cq_newS u t f) (cl (cq_newS u t f 5 (s0 * 4 + f))) (cq_newB u t f)
def cq_hfN (u : Pst) (f s0 k : Nat) : Nat → Pst × Nat
  | 0 => (u, 0)
  | n + 1 => match cq_fst (cq_hfN u f s0 k n).1 (cq_ups (cq_hfN u f s0 k n).1 &&& (31 ^^^ cq_set (cq_hfN u f s0 k n).1 f)) with
    | none => cq_hfN u f s0 k n
    | some t => if pc5 (cq_ups (cq_hfN u f s0 k n).1 &&& cq_set (cq_hfN u f s0 k n).1 f) 5 < k then (cq_rep (cq_hfN u f s0 k n).1 f s0 t, (cq_hfN u f s0 k n).2 + 1) else cq_hfN u f s0 k n
def cq_hf (u : Pst) (f k : Nat) : Pst × Nat := match cq_src u f with
  | none => (u, 0)
  | some s0 => cq_hfN u f s0 k k
def cq_heN (u : Pst) (k : Nat) : Nat → Pst × Nat
  | 0 => (u, 0)
  | n + 1 => if (cq_heN u k n).1 2 n = 0 then cq_heN u k n else ((cq_hf (cq_heN u k n).1 n k).1, (cq_heN u k n).2 + (cq_hf (cq_heN u k n).1 n k).2)
-- BI is kept
theorem BI_o {k k' i : Nat} {u : Pst} {v : Int32} (h0 : k' ≠ 0) (h5 : k' ≠ 5) (h : BI k u) : BI k (sU u k' i v) := by
  refine ⟨?_, fun j hj => ?_⟩
  · rw [sU_n (Ne.symm h0)]; exact h.1
  · rw [sU_n (Ne.symm h5)]; exact h.2 j hj
theorem BI_5 {k i : Nat} {u : Pst} {v : Int32} (h : BI k u) (hv : v = -1 ∨ ∃ j, j < 20 ∧ v = nI j) : BI k (sU u 5 i v) := by
  refine ⟨?_, fun j hj => ?_⟩
  · rw [sU_n (by decide)]; exact h.1
  · rw [sU_s]
    by_cases e : j = i
    · subst e; rw [pk_us]; exact hv
    · rw [pk_un e]; exact h.2 j hj
theorem BI_let {k i : Nat} {u : Pst} (h : BI k u) : BI k (cq_let u i) := by
  refine BI_5 ?_ (Or.inl rfl)
  split
  · exact h
  · exact BI_o (by decide) (by decide) h
theorem BI_cpN {k a b : Nat} {u : Pst} (h : BI k u) : ∀ n, BI k (cq_cpN u a b n)
  | 0 => h
  | n + 1 => BI_o (by decide) (by decide) (BI_cpN h n)
theorem BI_cp {k a b : Nat} {u : Pst} (h : BI k u) : BI k (cq_cp u a b) := BI_o (by decide) (by decide) (BI_o (by decide) (by decide) (BI_cpN h 6))
theorem BI_own {k s i b : Nat} {u : Pst} (hs : s < 5) (h : BI k u) : BI k (cq_ownS u s i b) := by
  unfold cq_ownS
  split
  · exact h
  · exact BI_5 (BI_o (by decide) (by decide) (BI_o (by decide) (by decide) (BI_cp h))) (Or.inr ⟨_, (cq_fb_lt hs).2.2, rfl⟩)
theorem BI_new {k s f : Nat} {u : Pst} (hs : s < 5) (h : BI k u) : BI k (cq_newS u s f) :=
  BI_o (by decide) (by decide) (BI_5 (BI_o (by decide) (by decide) (BI_let h)) (Or.inr ⟨_, (cq_fb_lt hs).2.2, rfl⟩))
theorem BI_zN {k b : Nat} {u : Pst} (h : BI k u) : ∀ n, BI k (cq_zN u b n)
  | 0 => h
  | n + 1 => BI_o (by decide) (by decide) (BI_zN h n)
theorem BI_mk {k s f : Nat} {u : Pst} (hs : s < 5) (h : BI k u) : BI k (cq_mk u s f) :=
  BI_o (by decide) (by decide) (BI_o (by decide) (by decide) (BI_zN (BI_new hs h) 6))
theorem BI_ver {k f : Nat} {u : Pst} (h : BI k u) : BI k (cq_ver u f) := BI_o (by decide) (by decide) (BI_o (by decide) (by decide) h)
theorem BI_rmN {k f : Nat} {u : Pst} (h : BI k u) : ∀ n, BI k (cq_rmN u f n)
  | 0 => h
  | n + 1 => by
    show BI k (if cq_rmN u f n 1 n = 0 then cq_rmN u f n else cq_let (cq_rmN u f n) (n * 4 + f))
    split
    · exact BI_rmN h n
    · exact BI_let (BI_rmN h n)
theorem BI_mu1N {k f m : Nat} {u : Pst} (h : BI k u) : ∀ n, BI k (cq_mu1N u f m n)
  | 0 => h
  | n + 1 => by
    show BI k (if m / 2 ^ n % 2 = 1 then sU (cq_mu1N u f m n) 6 (n * 4 + f) (cq_mu1N u f m n 3 f) else cq_mu1N u f m n)
    split
    · exact BI_o (by decide) (by decide) (BI_mu1N h n)
    · exact BI_mu1N h n
theorem BI_wr {k s f c : Nat} {v : Int32} {u : Pst} (hs : s < 5) (h : BI k u) : BI k (cq_wr u s f c v) := by
  refine BI_o (by decide) (by decide) ?_
  unfold cq_w2
  have h1 : BI k (cq_w1 u s f c v) := BI_o (by decide) (by decide) (BI_own hs h)
  split
  · exact h1
  · exact BI_o (by decide) (by decide) h1
theorem BI_mu2N {k f m c : Nat} {v : Int32} {u : Pst} (h : BI k u) : ∀ n, n ≤ 5 → BI k (cq_mu2N u f m c v n)
  | 0, _ => h
  | n + 1, hn => by
    show BI k (if m / 2 ^ n % 2 = 1 then cq_wr (cq_mu2N u f m c v n) n f c v else cq_mu2N u f m c v n)
    split
    · exact BI_wr (by omega) (BI_mu2N h n (by omega))
    · exact BI_mu2N h n (by omega)
theorem BI_sh {k s f g : Nat} {u : Pst} (hf : s * 4 + f < 20) (h : BI k u) : BI k (cq_sh u s f g) :=
  BI_o (by decide) (by decide) (BI_5 (BI_o (by decide) (by decide) (BI_let h)) ((BI_let h).2 _ hf))
theorem BI_snN {k f g m : Nat} {u : Pst} (hf : f < 4) (h : BI k u) : ∀ n, n ≤ 5 → BI k (cq_snN u f g m n)
  | 0, _ => h
  | n + 1, hn => by
    show BI k (if m / 2 ^ n % 2 = 1 then cq_sh (cq_snN u f g m n) n f g else cq_snN u f g m n)
    split
    · exact BI_sh (by omega) (BI_snN hf h n (by omega))
    · exact BI_snN hf h n (by omega)
theorem BI_rsN {k s : Nat} {u : Pst} (h : BI k u) : ∀ n, BI k (cq_rsN u s n)
  | 0 => h
  | n + 1 => by
    show BI k (if cq_rsN u s n 2 n = 0 then cq_let (cq_rsN u s n) (s * 4 + n) else if cq_rsN u s n 6 (s * 4 + n) = cq_rsN u s n 3 n then cq_rsN u s n else cq_let (cq_rsN u s n) (s * 4 + n))
    split
    · exact BI_let (BI_rsN h n)
    · split
      · exact BI_rsN h n
      · exact BI_let (BI_rsN h n)
theorem BI_ldN {k s : Nat} {u : Pst} (h : BI k u) : ∀ n, BI k (cq_ldN u s n)
  | 0 => h
  | n + 1 => BI_let (BI_ldN h n)
theorem BI_rep {k f s0 t : Nat} {u : Pst} (ht : t < 5) (h : BI k u) : BI k (cq_rep u f s0 t) := BI_cp (BI_new ht h)
theorem cq_fst_lt {u : Pst} {m t : Nat} (h : cq_fst u m = some t) : t < 5 ∧ m / 2 ^ t % 2 = 1 := by
  have := fst5_lt 5 t h
  exact ⟨this.1, by simpa [bt5] using this.2⟩
theorem BI_hfN {k f s0 kk : Nat} {u : Pst} (h : BI k u) : ∀ n, BI k (cq_hfN u f s0 kk n).1
  | 0 => h
  | n + 1 => by
    have ih := BI_hfN (f := f) (s0 := s0) (kk := kk) h n
    simp only [cq_hfN]
    split
    · exact ih
    · next t ht =>
      split
      · exact BI_rep (cq_fst_lt ht).1 ih
      · exact ih
theorem BI_hf {k f kk : Nat} {u : Pst} (h : BI k u) : BI k (cq_hf u f kk).1 := by
  unfold cq_hf
  split
  · exact h
  · exact BI_hfN h kk
theorem BI_heN {k kk : Nat} {u : Pst} (h : BI k u) : ∀ n, BI k (cq_heN u kk n).1
  | 0 => h
  | n + 1 => by
    have ih := BI_heN (kk := kk) h n
    simp only [cq_heN]
    split
    · exact ih
    · exact BI_hf ih
-- places of field 5 that a word leaves
theorem fw_5n {u : Pst} {i j : Nat} {v : Int32} (h : j ≠ i) : sU u 5 i v 5 j = u 5 j := by rw [sU_s]; exact pk_un h
theorem fw_5s {u : Pst} {i : Nat} {v : Int32} : sU u 5 i v 5 i = v := by rw [sU_s]; exact pk_us
theorem let_5 {u : Pst} {i j : Nat} (h : j ≠ i) : cq_let u i 5 j = u 5 j := by
  unfold cq_let
  rw [fw_5n h]
  split
  · rfl
  · rw [sU_n (by decide)]
theorem cpN_5 {u : Pst} {a b : Nat} : ∀ n, cq_cpN u a b n 5 = u 5
  | 0 => rfl
  | n + 1 => by
    show sU (cq_cpN u a b n) 7 _ _ 5 = u 5
    rw [sU_n (by decide)]; exact cpN_5 n
theorem cp_5 {u : Pst} {a b : Nat} : cq_cp u a b 5 = u 5 := by
  unfold cq_cp
  rw [sU_n (by decide), sU_n (by decide)]; exact cpN_5 6
theorem own_5 {u : Pst} {s i b j : Nat} (h : j ≠ i) : cq_ownS u s i b 5 j = u 5 j := by
  unfold cq_ownS
  split
  · rfl
  · rw [fw_5n h, sU_n (by decide), sU_n (by decide), cp_5]
theorem new_5 {u : Pst} {s f j : Nat} (h : j ≠ s * 4 + f) : cq_newS u s f 5 j = u 5 j := by
  unfold cq_newS
  rw [sU_n (by decide), fw_5n h, sU_n (by decide), let_5 h]
theorem new_5s {u : Pst} {s f : Nat} : cq_newS u s f 5 (s * 4 + f) = nI (cq_newB u s f) := by
  unfold cq_newS
  rw [sU_n (by decide), fw_5s]
theorem wr_5 {u : Pst} {s f c j : Nat} {v : Int32} (h : j ≠ s * 4 + f) : cq_wr u s f c v 5 j = u 5 j := by
  unfold cq_wr cq_w2
  rw [sU_n (by decide)]
  have e : cq_w1 u s f c v 5 j = u 5 j := by
    unfold cq_w1
    rw [sU_n (by decide), own_5 h]
  split
  · exact e
  · rw [sU_n (by decide)]; exact e
theorem mu2_5 {u : Pst} {f m c s : Nat} {v : Int32} : ∀ n, n ≤ s → cq_mu2N u f m c v n 5 (s * 4 + f) = u 5 (s * 4 + f)
  | 0, _ => rfl
  | n + 1, hn => by
    show (if m / 2 ^ n % 2 = 1 then cq_wr (cq_mu2N u f m c v n) n f c v else cq_mu2N u f m c v n) 5 (s * 4 + f) = _
    split
    · rw [wr_5 (by omega)]; exact mu2_5 n (by omega)
    · exact mu2_5 n (by omega)
theorem mu1N_5 {u : Pst} {f m : Nat} : ∀ n, cq_mu1N u f m n 5 = u 5
  | 0 => rfl
  | n + 1 => by
    show (if m / 2 ^ n % 2 = 1 then sU (cq_mu1N u f m n) 6 (n * 4 + f) (cq_mu1N u f m n 3 f) else cq_mu1N u f m n) 5 = _
    split
    · rw [sU_n (by decide)]; exact mu1N_5 n
    · exact mu1N_5 n
theorem ver_5 {u : Pst} {f : Nat} : cq_ver u f 5 = u 5 := by
  unfold cq_ver
  rw [sU_n (by decide), sU_n (by decide)]
theorem mu1_5 {u : Pst} {f : Nat} : cq_mu1 u f 5 = u 5 := by
  unfold cq_mu1
  split
  · rfl
  · rw [mu1N_5, ver_5]
theorem sh_5 {u : Pst} {s f g j : Nat} (h : j ≠ s * 4 + g) : cq_sh u s f g 5 j = u 5 j := by
  unfold cq_sh
  rw [sU_n (by decide), fw_5n h, sU_n (by decide), let_5 h]
theorem snN_5 {u : Pst} {f g m s : Nat} (hfg : f ≠ g) (hf : f < 4) (hg : g < 4) : ∀ n, cq_snN u f g m n 5 (s * 4 + f) = u 5 (s * 4 + f)
  | 0 => rfl
  | n + 1 => by
    show (if m / 2 ^ n % 2 = 1 then cq_sh (cq_snN u f g m n) n f g else cq_snN u f g m n) 5 (s * 4 + f) = _
    split
    · rw [sh_5 (by omega)]; exact snN_5 hfg hf hg n
    · exact snN_5 hfg hf hg n
theorem cur_5 {k s f : Nat} {u : Pst} (hB : BI k u) (hs : s < 5) (hf : f < 4) (h : cq_cur u s f = true) : ∃ j, j < 20 ∧ u 5 (s * 4 + f) = nI j := by
  rcases hB.2 (s * 4 + f) (by omega) with e | e
  · simp [cq_cur, e] at h
  · exact e
theorem rep_5 {k f s0 t : Nat} {u : Pst} (hB : BI k u) (ht : t < 5) (hf : f < 4) (hs : s0 < 5) (h : ∃ j, j < 20 ∧ u 5 (s0 * 4 + f) = nI j) : ∃ j, j < 20 ∧ cq_newS u t f 5 (s0 * 4 + f) = nI j := by
  by_cases e : t = s0
  · subst e
    exact ⟨_, (cq_fb_lt ht).2.2, new_5s⟩
  · rw [new_5 (by omega)]; exact h
theorem ownB_lt {u : Pst} {s b : Nat} (hs : s < 5) (hb : b < 20) : cq_ownB u s b < 20 := by
  unfold cq_ownB
  split
  · exact hb
  · exact (cq_fb_lt hs).2.2
theorem pc5_le (m : Nat) : ∀ n, pc5 m n ≤ n
  | 0 => Nat.le_refl _
  | n + 1 => by
    have := pc5_le m n
    have : m / 2 ^ n % 2 < 2 := Nat.mod_lt _ (by decide)
    simp only [pc5]
    omega
theorem cq_set_lt (u : Pst) (f : Nat) : cq_set u f < 32 := mk5_lt _ 5
theorem cq_ups_lt (u : Pst) : cq_ups u < 32 := mk5_lt _ 5
theorem mk5_bit {P : Nat → Bool} {s : Nat} : ∀ n, s < n → mk5 P n / 2 ^ s % 2 = if P s then 1 else 0
  | 0, h => absurd h (by omega)
  | n + 1, h => by
    have hlt := mk5_lt P n
    simp only [mk5]
    by_cases e : s = n
    · subst e
      rcases hp : P s with _ | _
      · simp [Nat.div_eq_of_lt hlt]
      · simp [Nat.add_div_right _ (Nat.two_pow_pos s), Nat.div_eq_of_lt hlt]
    · have ih := mk5_bit (P := P) (s := s) n (by omega)
      split
      · have : 2 ^ n = 2 ^ s * (2 * 2 ^ (n - s - 1)) := by
          rw [← Nat.pow_succ', ← Nat.pow_add]
          congr 1
          omega
        rw [this, Nat.add_mul_div_left _ _ (Nat.two_pow_pos s), Nat.add_mul_mod_self_left]
        exact ih
      · exact ih
theorem live_bit {u : Pst} {f s : Nat} (hs : s < 5) (h : cq_live u f / 2 ^ s % 2 = 1) : cq_up u s = true ∧ cq_cur u s f = true := by
  have key : ∀ a, a < 32 → ∀ b, b < 32 → ∀ s, s < 5 → (a &&& b) / 2 ^ s % 2 = 1 → a / 2 ^ s % 2 = 1 ∧ b / 2 ^ s % 2 = 1 := by decide +kernel
  obtain ⟨h1, h2⟩ := key _ (cq_set_lt u f) _ (cq_ups_lt u) s hs h
  unfold cq_set at h1
  unfold cq_ups at h2
  rw [mk5_bit 5 hs] at h1 h2
  constructor
  · by_cases q : cq_up u s = true
    · exact q
    · simp [q] at h2
  · by_cases q : cq_cur u s f = true
    · exact q
    · simp [q] at h1
theorem fst_ex {u : Pst} {m : Nat} (hm : m < 32) (h0 : m ≠ 0) : ∃ s, s < 5 ∧ cq_fst u m = some s ∧ m / 2 ^ s % 2 = 1 := by
  cases hf : cq_fst u m with
  | some s => exact ⟨s, (cq_fst_lt hf).1, rfl, (cq_fst_lt hf).2⟩
  | none =>
    obtain ⟨i, hi, hb⟩ := bt_nz m hm h0
    have := fst5_none 5 hf i hi
    simp [bt5, hb] at this
end
section
theorem m_remove_bad (u : Pst) (x : Int32) (hx : x < 0 ∨ nI 4 ≤ x) : mIC yX1_remove cX1_remove 3 .int 1 [.int x] u (-1) u := by
  refine e_IC (by decide) rfl (rfl) (Nat.le_of_ble_eq_true rfl) (by simp [fw_ci]) (fun X h hC hret => ?_)
  have hX := hC.ck
  refine r_lv (lv' := [some (.ref (h 0)), some (.int x), none]) rfl ?_
  refine r_iload_n 1 hX dX1_remove_0 rfl rfl ?_
  refine k_SC hC (m_badFile_y x hx) kC_badFile rfl (by decide) (Nat.le_of_ble_eq_true rfl) rfl dX1_remove_1 ?_
  refine r_if_eqF 9 hX dX1_remove_4 (by decide) (by decide) ?_
  refine r_iconst (-1) hX dX1_remove_7 (by decide) ?_
  exact hret _ _ _ _ dX1_remove_8 (rfl) (rfl)
theorem m_remove_no (u : Pst) (f : Nat) (hf : f < 4) (he : u 2 f = 0) : mIC yX1_remove cX1_remove 3 .int 1 [.int (nI f)] u (-3) u := by
  refine e_IC (by decide) rfl (rfl) (Nat.le_of_ble_eq_true rfl) (by simp [fw_ci]) (fun X h hC hret => ?_)
  have hX := hC.ck
  refine r_lv (lv' := [some (.ref (h 0)), some (.int (nI f)), none]) rfl ?_
  refine r_iload_n 1 hX dX1_remove_0 rfl rfl ?_
  refine k_SC hC (m_badFile_n f hf) kC_badFile rfl (by decide) (Nat.le_of_ble_eq_true rfl) rfl dX1_remove_1 ?_
  refine r_if_eqT 9 hX dX1_remove_4 (by decide) (by decide) ?_
  refine r_aload_n 0 hX dX1_remove_9 rfl rfl ?_
  refine cc_g2 hC dX1_remove_10 ?_
  refine r_iload_n 1 hX dX1_remove_13 rfl rfl ?_
  refine cc_l2 hC dX1_remove_14 (by omega) ?_
  refine r_if_neF 21 hX dX1_remove_15 (by decide) (he) ?_
  refine r_bipush (-3) hX dX1_remove_18 (by decide) ?_
  exact hret _ _ _ _ dX1_remove_20 (rfl) (rfl)
theorem m_remove_ok (u : Pst) (f k : Nat) (hf : f < 4) (hB : BI k u) (he : ¬ u 2 f = 0) : mIC yX1_remove cX1_remove 3 .int 1 [.int (nI f)] u 0 (cq_rmN (sU u 2 f (nI 0)) f 5) := by
  refine e_IC (by decide) rfl (rfl) (Nat.le_of_ble_eq_true rfl) (by simp [fw_ci]) (fun X h hC hret => ?_)
  have hX := hC.ck
  refine r_lv (lv' := [some (.ref (h 0)), some (.int (nI f)), none]) rfl ?_
  have hB0 : BI k (sU u 2 f (nI 0)) := BI_o (by decide) (by decide) hB
  refine r_iload_n 1 hX dX1_remove_0 rfl rfl ?_
  refine k_SC hC (m_badFile_n f hf) kC_badFile rfl (by decide) (Nat.le_of_ble_eq_true rfl) rfl dX1_remove_1 ?_
  refine r_if_eqT 9 hX dX1_remove_4 (by decide) (by decide) ?_
  refine r_aload_n 0 hX dX1_remove_9 rfl rfl ?_
  refine cc_g2 hC dX1_remove_10 ?_
  refine r_iload_n 1 hX dX1_remove_13 rfl rfl ?_
  refine cc_l2 hC dX1_remove_14 (by omega) ?_
  refine r_if_neT 21 hX dX1_remove_15 (by decide) (he) ?_
  refine r_aload_n 0 hX dX1_remove_21 rfl rfl ?_
  refine cc_g2 hC dX1_remove_22 ?_
  refine r_iload_n 1 hX dX1_remove_25 rfl rfl ?_
  refine r_iconst (nI 0) hX dX1_remove_26 (by decide) ?_
  refine cc_s2 hC dX1_remove_27 (by omega) (by decide) ?_
  refine r_iconst (nI 0) hX dX1_remove_28 (by decide) ?_
  refine r_istore_n 2 (lv' := [_, _, _]) hX dX1_remove_29 rfl (Nat.le_of_ble_eq_true rfl) rfl ?_
  have loop : ∀ n i, i + n = 5 → CG X (cq_rmN (sU u 2 f (nI 0)) f i) 30 [some (.ref (h 0)), some (.int (nI f)), some (.int (nI i))] [] := by
    intro n
    induction n with
    | zero =>
      intro i hi
      obtain rfl : i = 5 := by omega
      refine r_iload_n 2 hX dX1_remove_30 rfl rfl ?_
      refine r_iconst (nI 5) hX dX1_remove_31 (by decide) ?_
      refine r_icmp_geNT 56 hX dX1_remove_32 (by decide) (by omega) ?_
      refine r_iconst (nI 0) hX dX1_remove_56 (by decide) ?_
      exact hret _ _ _ _ dX1_remove_57 (rfl) (rfl)
    | succ n ih =>
      intro i hi
      refine r_iload_n 2 hX dX1_remove_30 rfl rfl ?_
      refine r_iconst (nI 5) hX dX1_remove_31 (by decide) ?_
      refine r_icmp_geNF 56 hX dX1_remove_32 (by decide) (by omega) ?_
      refine r_aload_n 0 hX dX1_remove_35 rfl rfl ?_
      refine cc_g1 hC dX1_remove_36 ?_
      refine r_iload_n 2 hX dX1_remove_39 rfl rfl ?_
      refine cc_l1 hC dX1_remove_40 (by omega) ?_
      refine r_if_eq 50 hX dX1_remove_41 (by decide) (fun c41 => ?_) (fun c41 => ?_)
      · refine r_iincN 2 (lv' := [_, _, _]) hX dX1_remove_50 rfl (Nat.le_of_ble_eq_true rfl) rfl ?_
        refine r_goto 30 hX dX1_remove_53 (by decide) ?_
        refine r_st (show _ = cq_rmN (sU u 2 f (nI 0)) f (i + 1) by simp [cq_rmN, c41]) ?_
        exact ih (i + 1) (by omega)
      · refine r_aload_n 0 hX dX1_remove_44 rfl rfl ?_
        refine r_iload_n 2 hX dX1_remove_45 rfl rfl ?_
        refine r_iload_n 1 hX dX1_remove_46 rfl rfl ?_
        refine k_VC hC (m_letGo _ i f (by omega) hf ((BI_rmN hB0 i).2 _ (by omega))) kC_letGo rfl rfl (by decide) (Nat.le_of_ble_eq_true rfl) rfl dX1_remove_47 ?_
        refine r_iincN 2 (lv' := [_, _, _]) hX dX1_remove_50 rfl (Nat.le_of_ble_eq_true rfl) rfl ?_
        refine r_goto 30 hX dX1_remove_53 (by decide) ?_
        refine r_st (show _ = cq_rmN (sU u 2 f (nI 0)) f (i + 1) by simp [cq_rmN, c41]) ?_
        exact ih (i + 1) (by omega)
  exact loop 5 0 rfl
theorem m_crash_bad (u : Pst) (x : Int32) (hx : x < 0 ∨ nI 5 ≤ x) : mIC yX1_crash cX1_crash 3 .int 1 [.int x] u (-1) u := by
  refine e_IC (by decide) rfl (rfl) (Nat.le_of_ble_eq_true rfl) (by simp [fw_ci]) (fun X h hC hret => ?_)
  have hX := hC.ck
  refine r_lv (lv' := [some (.ref (h 0)), some (.int x), none]) rfl ?_
  refine r_iload_n 1 hX dX1_crash_0 rfl rfl ?_
  refine k_SC hC (m_badServer_y x hx) kC_badServer rfl (by decide) (Nat.le_of_ble_eq_true rfl) rfl dX1_crash_1 ?_
  refine r_if_eqF 9 hX dX1_crash_4 (by decide) (by decide) ?_
  refine r_iconst (-1) hX dX1_crash_7 (by decide) ?_
  exact hret _ _ _ _ dX1_crash_8 (rfl) (rfl)
theorem m_crash_up (u : Pst) (s : Nat) (hs : s < 5) (he : ¬ u 1 s = 0) : mIC yX1_crash cX1_crash 3 .int 1 [.int (nI s)] u 1 (sU u 1 s (nI 0)) := by
  refine e_IC (by decide) rfl (rfl) (Nat.le_of_ble_eq_true rfl) (by simp [fw_ci]) (fun X h hC hret => ?_)
  have hX := hC.ck
  refine r_lv (lv' := [some (.ref (h 0)), some (.int (nI s)), none]) rfl ?_
  refine r_iload_n 1 hX dX1_crash_0 rfl rfl ?_
  refine k_SC hC (m_badServer_n s hs) kC_badServer rfl (by decide) (Nat.le_of_ble_eq_true rfl) rfl dX1_crash_1 ?_
  refine r_if_eqT 9 hX dX1_crash_4 (by decide) (by decide) ?_
  refine r_aload_n 0 hX dX1_crash_9 rfl rfl ?_
  refine cc_g1 hC dX1_crash_10 ?_
  refine r_iload_n 1 hX dX1_crash_13 rfl rfl ?_
  refine cc_l1 hC dX1_crash_14 (by omega) ?_
  refine r_if_eqF 22 hX dX1_crash_15 (by decide) (he) ?_
  refine r_iconst (nI 1) hX dX1_crash_18 (by decide) ?_
  refine r_goto 23 hX dX1_crash_19 (by decide) ?_
  refine r_istore_n 2 (lv' := [_, _, _]) hX dX1_crash_23 rfl (Nat.le_of_ble_eq_true rfl) rfl ?_
  refine r_aload_n 0 hX dX1_crash_24 rfl rfl ?_
  refine cc_g1 hC dX1_crash_25 ?_
  refine r_iload_n 1 hX dX1_crash_28 rfl rfl ?_
  refine r_iconst (nI 0) hX dX1_crash_29 (by decide) ?_
  refine cc_s1 hC dX1_crash_30 (by omega) (by decide) ?_
  refine r_iload_n 2 hX dX1_crash_31 rfl rfl ?_
  exact hret _ _ _ _ dX1_crash_32 (rfl) (rfl)
theorem m_crash_dn (u : Pst) (s : Nat) (hs : s < 5) (he : u 1 s = 0) : mIC yX1_crash cX1_crash 3 .int 1 [.int (nI s)] u 0 (sU u 1 s (nI 0)) := by
  refine e_IC (by decide) rfl (rfl) (Nat.le_of_ble_eq_true rfl) (by simp [fw_ci]) (fun X h hC hret => ?_)
  have hX := hC.ck
  refine r_lv (lv' := [some (.ref (h 0)), some (.int (nI s)), none]) rfl ?_
  refine r_iload_n 1 hX dX1_crash_0 rfl rfl ?_
  refine k_SC hC (m_badServer_n s hs) kC_badServer rfl (by decide) (Nat.le_of_ble_eq_true rfl) rfl dX1_crash_1 ?_
  refine r_if_eqT 9 hX dX1_crash_4 (by decide) (by decide) ?_
  refine r_aload_n 0 hX dX1_crash_9 rfl rfl ?_
  refine cc_g1 hC dX1_crash_10 ?_
  refine r_iload_n 1 hX dX1_crash_13 rfl rfl ?_
  refine cc_l1 hC dX1_crash_14 (by omega) ?_
  refine r_if_eqT 22 hX dX1_crash_15 (by decide) (he) ?_
  refine r_iconst (nI 0) hX dX1_crash_22 (by decide) ?_
  refine r_istore_n 2 (lv' := [_, _, _]) hX dX1_crash_23 rfl (Nat.le_of_ble_eq_true rfl) rfl ?_
  refine r_aload_n 0 hX dX1_crash_24 rfl rfl ?_
  refine cc_g1 hC dX1_crash_25 ?_
  refine r_iload_n 1 hX dX1_crash_28 rfl rfl ?_
  refine r_iconst (nI 0) hX dX1_crash_29 (by decide) ?_
  refine cc_s1 hC dX1_crash_30 (by omega) (by decide) ?_
  refine r_iload_n 2 hX dX1_crash_31 rfl rfl ?_
  exact hret _ _ _ _ dX1_crash_32 (rfl) (rfl)
theorem m_restart_bad (u : Pst) (x : Int32) (hx : x < 0 ∨ nI 5 ≤ x) : mIC yX1_restart cX1_restart 4 .int 1 [.int x] u (-1) u := by
  refine e_IC (by decide) rfl (rfl) (Nat.le_of_ble_eq_true rfl) (by simp [fw_ci]) (fun X h hC hret => ?_)
  have hX := hC.ck
  refine r_lv (lv' := [some (.ref (h 0)), some (.int x), none, none]) rfl ?_
  refine r_iload_n 1 hX dX1_restart_0 rfl rfl ?_
  refine k_SC hC (m_badServer_y x hx) kC_badServer rfl (by decide) (Nat.le_of_ble_eq_true rfl) rfl dX1_restart_1 ?_
  refine r_if_eqF 9 hX dX1_restart_4 (by decide) (by decide) ?_
  refine r_iconst (-1) hX dX1_restart_7 (by decide) ?_
  exact hret _ _ _ _ dX1_restart_8 (rfl) (rfl)
theorem m_restart_up (u : Pst) (s k : Nat) (hs : s < 5) (hB : BI k u) (he : ¬ u 1 s = 0) : mIC yX1_restart cX1_restart 4 .int 1 [.int (nI s)] u 0 (cq_rsN (sU u 1 s (nI 1)) s 4) := by
  refine e_IC (by decide) rfl (rfl) (Nat.le_of_ble_eq_true rfl) (by simp [fw_ci]) (fun X h hC hret => ?_)
  have hX := hC.ck
  refine r_lv (lv' := [some (.ref (h 0)), some (.int (nI s)), none, none]) rfl ?_
  have hB0 : BI k (sU u 1 s (nI 1)) := BI_o (by decide) (by decide) hB
  refine r_iload_n 1 hX dX1_restart_0 rfl rfl ?_
  refine k_SC hC (m_badServer_n s hs) kC_badServer rfl (by decide) (Nat.le_of_ble_eq_true rfl) rfl dX1_restart_1 ?_
  refine r_if_eqT 9 hX dX1_restart_4 (by decide) (by decide) ?_
  refine r_aload_n 0 hX dX1_restart_9 rfl rfl ?_
  refine cc_g1 hC dX1_restart_10 ?_
  refine r_iload_n 1 hX dX1_restart_13 rfl rfl ?_
  refine cc_l1 hC dX1_restart_14 (by omega) ?_
  refine r_if_eqF 22 hX dX1_restart_15 (by decide) (he) ?_
  refine r_iconst (nI 0) hX dX1_restart_18 (by decide) ?_
  refine r_goto 23 hX dX1_restart_19 (by decide) ?_
  refine r_istore_n 2 (lv' := [_, _, _, _]) hX dX1_restart_23 rfl (Nat.le_of_ble_eq_true rfl) rfl ?_
  refine r_aload_n 0 hX dX1_restart_24 rfl rfl ?_
  refine cc_g1 hC dX1_restart_25 ?_
  refine r_iload_n 1 hX dX1_restart_28 rfl rfl ?_
  refine r_iconst (nI 1) hX dX1_restart_29 (by decide) ?_
  refine cc_s1 hC dX1_restart_30 (by omega) (by decide) ?_
  refine r_iconst (nI 0) hX dX1_restart_31 (by decide) ?_
  refine r_istore_n 3 (lv' := [_, _, _, _]) hX dX1_restart_32 rfl (Nat.le_of_ble_eq_true rfl) rfl ?_
  have loop : ∀ n i, i + n = 4 → CG X (cq_rsN (sU u 1 s (nI 1)) s i) 33 [some (.ref (h 0)), some (.int (nI s)), some (.int (nI 0)), some (.int (nI i))] [] := by
    intro n
    induction n with
    | zero =>
      intro i hi
      obtain rfl : i = 4 := by omega
      refine r_iload_n 3 hX dX1_restart_33 rfl rfl ?_
      refine r_iconst (nI 4) hX dX1_restart_34 (by decide) ?_
      refine r_icmp_geNT 78 hX dX1_restart_35 (by decide) (by omega) ?_
      refine r_iload_n 2 hX dX1_restart_78 rfl rfl ?_
      exact hret _ _ _ _ dX1_restart_79 (rfl) (rfl)
    | succ n ih =>
      intro i hi
      refine r_iload_n 3 hX dX1_restart_33 rfl rfl ?_
      refine r_iconst (nI 4) hX dX1_restart_34 (by decide) ?_
      refine r_icmp_geNF 78 hX dX1_restart_35 (by decide) (by omega) ?_
      refine r_aload_n 0 hX dX1_restart_38 rfl rfl ?_
      refine cc_g2 hC dX1_restart_39 ?_
      refine r_iload_n 3 hX dX1_restart_42 rfl rfl ?_
      refine cc_l2 hC dX1_restart_43 (by omega) ?_
      refine r_if_eq 66 hX dX1_restart_44 (by decide) (fun c44 => ?_) (fun c44 => ?_)
      · refine r_aload_n 0 hX dX1_restart_66 rfl rfl ?_
        refine r_iload_n 1 hX dX1_restart_67 rfl rfl ?_
        refine r_iload_n 3 hX dX1_restart_68 rfl rfl ?_
        refine k_VC hC (m_letGo _ s i hs (by omega) ((BI_rsN hB0 i).2 _ (by omega))) kC_letGo rfl rfl (by decide) (Nat.le_of_ble_eq_true rfl) rfl dX1_restart_69 ?_
        refine r_iincN 3 (lv' := [_, _, _, _]) hX dX1_restart_72 rfl (Nat.le_of_ble_eq_true rfl) rfl ?_
        refine r_goto 33 hX dX1_restart_75 (by decide) ?_
        refine r_st (show _ = cq_rsN (sU u 1 s (nI 1)) s (i + 1) by simp [cq_rsN, c44]) ?_
        exact ih (i + 1) (by omega)
      · refine r_aload_n 0 hX dX1_restart_47 rfl rfl ?_
        refine cc_g6 hC dX1_restart_48 ?_
        refine r_iload_n 1 hX dX1_restart_51 rfl rfl ?_
        refine r_iconst (nI 4) hX dX1_restart_52 (by decide) ?_
        refine r_imulN hX dX1_restart_53 ?_
        refine r_iload_n 3 hX dX1_restart_54 rfl rfl ?_
        refine r_iaddN hX dX1_restart_55 ?_
        refine cc_l6 hC dX1_restart_56 (by omega) ?_
        refine r_aload_n 0 hX dX1_restart_57 rfl rfl ?_
        refine cc_g3 hC dX1_restart_58 ?_
        refine r_iload_n 3 hX dX1_restart_61 rfl rfl ?_
        refine cc_l3 hC dX1_restart_62 (by omega) ?_
        refine r_icmp_eq 72 hX dX1_restart_63 (by decide) (fun c63 => ?_) (fun c63 => ?_)
        · refine r_iincN 3 (lv' := [_, _, _, _]) hX dX1_restart_72 rfl (Nat.le_of_ble_eq_true rfl) rfl ?_
          refine r_goto 33 hX dX1_restart_75 (by decide) ?_
          refine r_st (show _ = cq_rsN (sU u 1 s (nI 1)) s (i + 1) by simp [cq_rsN, c44, c63]) ?_
          exact ih (i + 1) (by omega)
        · refine r_aload_n 0 hX dX1_restart_66 rfl rfl ?_
          refine r_iload_n 1 hX dX1_restart_67 rfl rfl ?_
          refine r_iload_n 3 hX dX1_restart_68 rfl rfl ?_
          refine k_VC hC (m_letGo _ s i hs (by omega) ((BI_rsN hB0 i).2 _ (by omega))) kC_letGo rfl rfl (by decide) (Nat.le_of_ble_eq_true rfl) rfl dX1_restart_69 ?_
          refine r_iincN 3 (lv' := [_, _, _, _]) hX dX1_restart_72 rfl (Nat.le_of_ble_eq_true rfl) rfl ?_
          refine r_goto 33 hX dX1_restart_75 (by decide) ?_
          refine r_st (show _ = cq_rsN (sU u 1 s (nI 1)) s (i + 1) by simp [cq_rsN, c44, c63]) ?_
          exact ih (i + 1) (by omega)
  exact loop 4 0 rfl
theorem m_restart_dn (u : Pst) (s k : Nat) (hs : s < 5) (hB : BI k u) (he : u 1 s = 0) : mIC yX1_restart cX1_restart 4 .int 1 [.int (nI s)] u 1 (cq_rsN (sU u 1 s (nI 1)) s 4) := by
  refine e_IC (by decide) rfl (rfl) (Nat.le_of_ble_eq_true rfl) (by simp [fw_ci]) (fun X h hC hret => ?_)
  have hX := hC.ck
  refine r_lv (lv' := [some (.ref (h 0)), some (.int (nI s)), none, none]) rfl ?_
  have hB0 : BI k (sU u 1 s (nI 1)) := BI_o (by decide) (by decide) hB
  refine r_iload_n 1 hX dX1_restart_0 rfl rfl ?_
  refine k_SC hC (m_badServer_n s hs) kC_badServer rfl (by decide) (Nat.le_of_ble_eq_true rfl) rfl dX1_restart_1 ?_
  refine r_if_eqT 9 hX dX1_restart_4 (by decide) (by decide) ?_
  refine r_aload_n 0 hX dX1_restart_9 rfl rfl ?_
  refine cc_g1 hC dX1_restart_10 ?_
  refine r_iload_n 1 hX dX1_restart_13 rfl rfl ?_
  refine cc_l1 hC dX1_restart_14 (by omega) ?_
  refine r_if_eqT 22 hX dX1_restart_15 (by decide) (he) ?_
  refine r_iconst (nI 1) hX dX1_restart_22 (by decide) ?_
  refine r_istore_n 2 (lv' := [_, _, _, _]) hX dX1_restart_23 rfl (Nat.le_of_ble_eq_true rfl) rfl ?_
  refine r_aload_n 0 hX dX1_restart_24 rfl rfl ?_
  refine cc_g1 hC dX1_restart_25 ?_
  refine r_iload_n 1 hX dX1_restart_28 rfl rfl ?_
  refine r_iconst (nI 1) hX dX1_restart_29 (by decide) ?_
  refine cc_s1 hC dX1_restart_30 (by omega) (by decide) ?_
  refine r_iconst (nI 0) hX dX1_restart_31 (by decide) ?_
  refine r_istore_n 3 (lv' := [_, _, _, _]) hX dX1_restart_32 rfl (Nat.le_of_ble_eq_true rfl) rfl ?_
  have loop : ∀ n i, i + n = 4 → CG X (cq_rsN (sU u 1 s (nI 1)) s i) 33 [some (.ref (h 0)), some (.int (nI s)), some (.int (nI 1)), some (.int (nI i))] [] := by
    intro n
    induction n with
    | zero =>
      intro i hi
      obtain rfl : i = 4 := by omega
      refine r_iload_n 3 hX dX1_restart_33 rfl rfl ?_
      refine r_iconst (nI 4) hX dX1_restart_34 (by decide) ?_
      refine r_icmp_geNT 78 hX dX1_restart_35 (by decide) (by omega) ?_
      refine r_iload_n 2 hX dX1_restart_78 rfl rfl ?_
      exact hret _ _ _ _ dX1_restart_79 (rfl) (rfl)
    | succ n ih =>
      intro i hi
      refine r_iload_n 3 hX dX1_restart_33 rfl rfl ?_
      refine r_iconst (nI 4) hX dX1_restart_34 (by decide) ?_
      refine r_icmp_geNF 78 hX dX1_restart_35 (by decide) (by omega) ?_
      refine r_aload_n 0 hX dX1_restart_38 rfl rfl ?_
      refine cc_g2 hC dX1_restart_39 ?_
      refine r_iload_n 3 hX dX1_restart_42 rfl rfl ?_
      refine cc_l2 hC dX1_restart_43 (by omega) ?_
      refine r_if_eq 66 hX dX1_restart_44 (by decide) (fun c44 => ?_) (fun c44 => ?_)
      · refine r_aload_n 0 hX dX1_restart_66 rfl rfl ?_
        refine r_iload_n 1 hX dX1_restart_67 rfl rfl ?_
        refine r_iload_n 3 hX dX1_restart_68 rfl rfl ?_
        refine k_VC hC (m_letGo _ s i hs (by omega) ((BI_rsN hB0 i).2 _ (by omega))) kC_letGo rfl rfl (by decide) (Nat.le_of_ble_eq_true rfl) rfl dX1_restart_69 ?_
        refine r_iincN 3 (lv' := [_, _, _, _]) hX dX1_restart_72 rfl (Nat.le_of_ble_eq_true rfl) rfl ?_
        refine r_goto 33 hX dX1_restart_75 (by decide) ?_
        refine r_st (show _ = cq_rsN (sU u 1 s (nI 1)) s (i + 1) by simp [cq_rsN, c44]) ?_
        exact ih (i + 1) (by omega)
      · refine r_aload_n 0 hX dX1_restart_47 rfl rfl ?_
        refine cc_g6 hC dX1_restart_48 ?_
        refine r_iload_n 1 hX dX1_restart_51 rfl rfl ?_
        refine r_iconst (nI 4) hX dX1_restart_52 (by decide) ?_
        refine r_imulN hX dX1_restart_53 ?_
        refine r_iload_n 3 hX dX1_restart_54 rfl rfl ?_
        refine r_iaddN hX dX1_restart_55 ?_
        refine cc_l6 hC dX1_restart_56 (by omega) ?_
        refine r_aload_n 0 hX dX1_restart_57 rfl rfl ?_
        refine cc_g3 hC dX1_restart_58 ?_
        refine r_iload_n 3 hX dX1_restart_61 rfl rfl ?_
        refine cc_l3 hC dX1_restart_62 (by omega) ?_
        refine r_icmp_eq 72 hX dX1_restart_63 (by decide) (fun c63 => ?_) (fun c63 => ?_)
        · refine r_iincN 3 (lv' := [_, _, _, _]) hX dX1_restart_72 rfl (Nat.le_of_ble_eq_true rfl) rfl ?_
          refine r_goto 33 hX dX1_restart_75 (by decide) ?_
          refine r_st (show _ = cq_rsN (sU u 1 s (nI 1)) s (i + 1) by simp [cq_rsN, c44, c63]) ?_
          exact ih (i + 1) (by omega)
        · refine r_aload_n 0 hX dX1_restart_66 rfl rfl ?_
          refine r_iload_n 1 hX dX1_restart_67 rfl rfl ?_
          refine r_iload_n 3 hX dX1_restart_68 rfl rfl ?_
          refine k_VC hC (m_letGo _ s i hs (by omega) ((BI_rsN hB0 i).2 _ (by omega))) kC_letGo rfl rfl (by decide) (Nat.le_of_ble_eq_true rfl) rfl dX1_restart_69 ?_
          refine r_iincN 3 (lv' := [_, _, _, _]) hX dX1_restart_72 rfl (Nat.le_of_ble_eq_true rfl) rfl ?_
          refine r_goto 33 hX dX1_restart_75 (by decide) ?_
          refine r_st (show _ = cq_rsN (sU u 1 s (nI 1)) s (i + 1) by simp [cq_rsN, c44, c63]) ?_
          exact ih (i + 1) (by omega)
  exact loop 4 0 rfl
theorem m_loseDisk_bad (u : Pst) (x : Int32) (hx : x < 0 ∨ nI 5 ≤ x) : mIC yX1_loseDisk cX1_loseDisk 4 .int 3 [.int x] u (-1) u := by
  refine e_IC (by decide) rfl (rfl) (Nat.le_of_ble_eq_true rfl) (by simp [fw_ci]) (fun X h hC hret => ?_)
  have hX := hC.ck
  refine r_lv (lv' := [some (.ref (h 0)), some (.int x), none, none]) rfl ?_
  refine r_iload_n 1 hX dX1_loseDisk_0 rfl rfl ?_
  refine k_SC hC (m_badServer_y x hx) kC_badServer rfl (by decide) (Nat.le_of_ble_eq_true rfl) rfl dX1_loseDisk_1 ?_
  refine r_if_eqF 9 hX dX1_loseDisk_4 (by decide) (by decide) ?_
  refine r_iconst (-1) hX dX1_loseDisk_7 (by decide) ?_
  exact hret _ _ _ _ dX1_loseDisk_8 (rfl) (rfl)
theorem m_loseDisk_ok (u : Pst) (s k : Nat) (hs : s < 5) (hB : BI k u) : mIC yX1_loseDisk cX1_loseDisk 4 .int 3 [.int (nI s)] u (nI (cq_ld u s)) (cq_ldN u s 4) := by
  refine e_IC (by decide) rfl (rfl) (Nat.le_of_ble_eq_true rfl) (by simp [fw_ci]) (fun X h hC hret => ?_)
  have hX := hC.ck
  refine r_lv (lv' := [some (.ref (h 0)), some (.int (nI s)), none, none]) rfl ?_
  refine r_iload_n 1 hX dX1_loseDisk_0 rfl rfl ?_
  refine k_SC hC (m_badServer_n s hs) kC_badServer rfl (by decide) (Nat.le_of_ble_eq_true rfl) rfl dX1_loseDisk_1 ?_
  refine r_if_eqT 9 hX dX1_loseDisk_4 (by decide) (by decide) ?_
  refine r_aload_n 0 hX dX1_loseDisk_9 rfl rfl ?_
  refine r_iload_n 1 hX dX1_loseDisk_10 rfl rfl ?_
  refine k_IC hC (m_loadOf u s k hs hB) kC_loadOf rfl rfl (by decide) (Nat.le_of_ble_eq_true rfl) rfl dX1_loseDisk_11 ?_
  refine r_istore_n 2 (lv' := [_, _, _, _]) hX dX1_loseDisk_14 rfl (Nat.le_of_ble_eq_true rfl) rfl ?_
  refine r_iconst (nI 0) hX dX1_loseDisk_15 (by decide) ?_
  refine r_istore_n 3 (lv' := [_, _, _, _]) hX dX1_loseDisk_16 rfl (Nat.le_of_ble_eq_true rfl) rfl ?_
  have loop : ∀ n i, i + n = 4 → CG X (cq_ldN u s i) 17 [some (.ref (h 0)), some (.int (nI s)), some (.int (nI (cq_ld u s))), some (.int (nI i))] [] := by
    intro n
    induction n with
    | zero =>
      intro i hi
      obtain rfl : i = 4 := by omega
      refine r_iload_n 3 hX dX1_loseDisk_17 rfl rfl ?_
      refine r_iconst (nI 4) hX dX1_loseDisk_18 (by decide) ?_
      refine r_icmp_geNT 34 hX dX1_loseDisk_19 (by decide) (by omega) ?_
      refine r_iload_n 2 hX dX1_loseDisk_34 rfl rfl ?_
      exact hret _ _ _ _ dX1_loseDisk_35 (rfl) (rfl)
    | succ n ih =>
      intro i hi
      refine r_iload_n 3 hX dX1_loseDisk_17 rfl rfl ?_
      refine r_iconst (nI 4) hX dX1_loseDisk_18 (by decide) ?_
      refine r_icmp_geNF 34 hX dX1_loseDisk_19 (by decide) (by omega) ?_
      refine r_aload_n 0 hX dX1_loseDisk_22 rfl rfl ?_
      refine r_iload_n 1 hX dX1_loseDisk_23 rfl rfl ?_
      refine r_iload_n 3 hX dX1_loseDisk_24 rfl rfl ?_
      refine k_VC hC (m_letGo _ s i hs (by omega) ((BI_ldN hB i).2 _ (by omega))) kC_letGo rfl rfl (by decide) (Nat.le_of_ble_eq_true rfl) rfl dX1_loseDisk_25 ?_
      refine r_iincN 3 (lv' := [_, _, _, _]) hX dX1_loseDisk_28 rfl (Nat.le_of_ble_eq_true rfl) rfl ?_
      refine r_goto 17 hX dX1_loseDisk_31 (by decide) ?_
      exact ih (i + 1) (by omega)
  exact loop 4 0 rfl
theorem m_damage_bad1 (u : Pst) (x : Int32) (hx : x < 0 ∨ nI 5 ≤ x) (y : Int32) : mIC yX1_damage cX1_damage 5 .int 2 [.int x, .int y] u (-1) u := by
  refine e_IC (by decide) rfl (rfl) (Nat.le_of_ble_eq_true rfl) (by simp [fw_ci]) (fun X h hC hret => ?_)
  have hX := hC.ck
  refine r_lv (lv' := [some (.ref (h 0)), some (.int x), some (.int y), none, none]) rfl ?_
  refine r_iload_n 1 hX dX1_damage_0 rfl rfl ?_
  refine k_SC hC (m_badServer_y x hx) kC_badServer rfl (by decide) (Nat.le_of_ble_eq_true rfl) rfl dX1_damage_1 ?_
  refine r_if_neT 14 hX dX1_damage_4 (by decide) (by decide) ?_
  refine r_iconst (-1) hX dX1_damage_14 (by decide) ?_
  exact hret _ _ _ _ dX1_damage_15 (rfl) (rfl)
theorem m_damage_bad2 (u : Pst) (s : Nat) (hs : s < 5) (x : Int32) (hx : x < 0 ∨ nI 4 ≤ x) : mIC yX1_damage cX1_damage 5 .int 2 [.int (nI s), .int x] u (-1) u := by
  refine e_IC (by decide) rfl (rfl) (Nat.le_of_ble_eq_true rfl) (by simp [fw_ci]) (fun X h hC hret => ?_)
  have hX := hC.ck
  refine r_lv (lv' := [some (.ref (h 0)), some (.int (nI s)), some (.int x), none, none]) rfl ?_
  refine r_iload_n 1 hX dX1_damage_0 rfl rfl ?_
  refine k_SC hC (m_badServer_n s hs) kC_badServer rfl (by decide) (Nat.le_of_ble_eq_true rfl) rfl dX1_damage_1 ?_
  refine r_if_neF 14 hX dX1_damage_4 (by decide) (by decide) ?_
  refine r_iload_n 2 hX dX1_damage_7 rfl rfl ?_
  refine k_SC hC (m_badFile_y x hx) kC_badFile rfl (by decide) (Nat.le_of_ble_eq_true rfl) rfl dX1_damage_8 ?_
  refine r_if_eqF 16 hX dX1_damage_11 (by decide) (by decide) ?_
  refine r_iconst (-1) hX dX1_damage_14 (by decide) ?_
  exact hret _ _ _ _ dX1_damage_15 (rfl) (rfl)
theorem m_damage_no (u : Pst) (s f : Nat) (hs : s < 5) (hf : f < 4) (he : u 2 f = 0) : mIC yX1_damage cX1_damage 5 .int 2 [.int (nI s), .int (nI f)] u (-3) u := by
  refine e_IC (by decide) rfl (rfl) (Nat.le_of_ble_eq_true rfl) (by simp [fw_ci]) (fun X h hC hret => ?_)
  have hX := hC.ck
  refine r_lv (lv' := [some (.ref (h 0)), some (.int (nI s)), some (.int (nI f)), none, none]) rfl ?_
  refine r_iload_n 1 hX dX1_damage_0 rfl rfl ?_
  refine k_SC hC (m_badServer_n s hs) kC_badServer rfl (by decide) (Nat.le_of_ble_eq_true rfl) rfl dX1_damage_1 ?_
  refine r_if_neF 14 hX dX1_damage_4 (by decide) (by decide) ?_
  refine r_iload_n 2 hX dX1_damage_7 rfl rfl ?_
  refine k_SC hC (m_badFile_n f hf) kC_badFile rfl (by decide) (Nat.le_of_ble_eq_true rfl) rfl dX1_damage_8 ?_
  refine r_if_eqT 16 hX dX1_damage_11 (by decide) (by decide) ?_
  refine r_aload_n 0 hX dX1_damage_16 rfl rfl ?_
  refine cc_g2 hC dX1_damage_17 ?_
  refine r_iload_n 2 hX dX1_damage_20 rfl rfl ?_
  refine cc_l2 hC dX1_damage_21 (by omega) ?_
  refine r_if_neF 28 hX dX1_damage_22 (by decide) (he) ?_
  refine r_bipush (-3) hX dX1_damage_25 (by decide) ?_
  exact hret _ _ _ _ dX1_damage_27 (rfl) (rfl)
theorem m_damage_not (u : Pst) (s f : Nat) (hs : s < 5) (hf : f < 4) (k : Nat) (hB : BI k u) (he : ¬ u 2 f = 0) (hc : cq_cur u s f = false) : mIC yX1_damage cX1_damage 5 .int 2 [.int (nI s), .int (nI f)] u 0 u := by
  refine e_IC (by decide) rfl (rfl) (Nat.le_of_ble_eq_true rfl) (by simp [fw_ci]) (fun X h hC hret => ?_)
  have hX := hC.ck
  refine r_lv (lv' := [some (.ref (h 0)), some (.int (nI s)), some (.int (nI f)), none, none]) rfl ?_
  refine r_iload_n 1 hX dX1_damage_0 rfl rfl ?_
  refine k_SC hC (m_badServer_n s hs) kC_badServer rfl (by decide) (Nat.le_of_ble_eq_true rfl) rfl dX1_damage_1 ?_
  refine r_if_neF 14 hX dX1_damage_4 (by decide) (by decide) ?_
  refine r_iload_n 2 hX dX1_damage_7 rfl rfl ?_
  refine k_SC hC (m_badFile_n f hf) kC_badFile rfl (by decide) (Nat.le_of_ble_eq_true rfl) rfl dX1_damage_8 ?_
  refine r_if_eqT 16 hX dX1_damage_11 (by decide) (by decide) ?_
  refine r_aload_n 0 hX dX1_damage_16 rfl rfl ?_
  refine cc_g2 hC dX1_damage_17 ?_
  refine r_iload_n 2 hX dX1_damage_20 rfl rfl ?_
  refine cc_l2 hC dX1_damage_21 (by omega) ?_
  refine r_if_neT 28 hX dX1_damage_22 (by decide) (he) ?_
  refine r_aload_n 0 hX dX1_damage_28 rfl rfl ?_
  refine r_iload_n 1 hX dX1_damage_29 rfl rfl ?_
  refine r_iload_n 2 hX dX1_damage_30 rfl rfl ?_
  refine k_IC hC (m_current u s f hs hf (hB.2 _ (by omega))) kC_current rfl rfl (by decide) (Nat.le_of_ble_eq_true rfl) rfl dX1_damage_31 ?_
  refine r_istore_n 3 (lv' := [_, _, _, _, _]) hX dX1_damage_34 rfl (Nat.le_of_ble_eq_true rfl) rfl ?_
  refine r_iload_n 3 hX dX1_damage_35 rfl rfl ?_
  refine r_if_neF 41 hX dX1_damage_36 (by decide) (by rw [hc]; rfl) ?_
  refine r_iconst (nI 0) hX dX1_damage_39 (by decide) ?_
  exact hret _ _ _ _ dX1_damage_40 (rfl) (rfl)
theorem m_damage_ok (u : Pst) (s f : Nat) (hs : s < 5) (hf : f < 4) (k j : Nat) (hB : BI k u) (he : ¬ u 2 f = 0) (hc : cq_cur u s f = true) (hj : j < 20) (hb : u 5 (s * 4 + f) = nI j) : mIC yX1_damage cX1_damage 5 .int 2 [.int (nI s), .int (nI f)] u 1 (cq_dmg u s f j) := by
  refine e_IC (by decide) rfl (rfl) (Nat.le_of_ble_eq_true rfl) (by simp [fw_ci]) (fun X h hC hret => ?_)
  have hX := hC.ck
  refine r_lv (lv' := [some (.ref (h 0)), some (.int (nI s)), some (.int (nI f)), none, none]) rfl ?_
  refine r_iload_n 1 hX dX1_damage_0 rfl rfl ?_
  refine k_SC hC (m_badServer_n s hs) kC_badServer rfl (by decide) (Nat.le_of_ble_eq_true rfl) rfl dX1_damage_1 ?_
  refine r_if_neF 14 hX dX1_damage_4 (by decide) (by decide) ?_
  refine r_iload_n 2 hX dX1_damage_7 rfl rfl ?_
  refine k_SC hC (m_badFile_n f hf) kC_badFile rfl (by decide) (Nat.le_of_ble_eq_true rfl) rfl dX1_damage_8 ?_
  refine r_if_eqT 16 hX dX1_damage_11 (by decide) (by decide) ?_
  refine r_aload_n 0 hX dX1_damage_16 rfl rfl ?_
  refine cc_g2 hC dX1_damage_17 ?_
  refine r_iload_n 2 hX dX1_damage_20 rfl rfl ?_
  refine cc_l2 hC dX1_damage_21 (by omega) ?_
  refine r_if_neT 28 hX dX1_damage_22 (by decide) (he) ?_
  refine r_aload_n 0 hX dX1_damage_28 rfl rfl ?_
  refine r_iload_n 1 hX dX1_damage_29 rfl rfl ?_
  refine r_iload_n 2 hX dX1_damage_30 rfl rfl ?_
  refine k_IC hC (m_current u s f hs hf (hB.2 _ (by omega))) kC_current rfl rfl (by decide) (Nat.le_of_ble_eq_true rfl) rfl dX1_damage_31 ?_
  refine r_istore_n 3 (lv' := [_, _, _, _, _]) hX dX1_damage_34 rfl (Nat.le_of_ble_eq_true rfl) rfl ?_
  refine r_iload_n 3 hX dX1_damage_35 rfl rfl ?_
  refine r_if_neT 41 hX dX1_damage_36 (by decide) (by rw [hc]; decide) ?_
  refine r_aload_n 0 hX dX1_damage_41 rfl rfl ?_
  refine r_iload_n 1 hX dX1_damage_42 rfl rfl ?_
  refine r_iload_n 2 hX dX1_damage_43 rfl rfl ?_
  have hbl := ownB_lt (u := u) hs hj
  refine k_IC hC (m_ownBlock u s f hs hf j hj hb) kC_ownBlock rfl rfl (by decide) (Nat.le_of_ble_eq_true rfl) rfl dX1_damage_44 ?_
  refine r_istore 4 (lv' := [_, _, _, _, _]) hX dX1_damage_47 (Nat.le_of_ble_eq_true rfl) rfl ?_
  refine r_aload_n 0 hX dX1_damage_49 rfl rfl ?_
  refine cc_g7 hC dX1_damage_50 ?_
  refine r_iload 4 hX dX1_damage_53 rfl ?_
  refine r_bipush (nI 6) hX dX1_damage_55 (by decide) ?_
  refine r_imulN hX dX1_damage_57 ?_
  refine r_dup2 hX dX1_damage_58 rfl rfl ?_
  refine cc_l7 hC dX1_damage_59 (by omega) ?_
  refine r_iconst (nI 1) hX dX1_damage_60 (by decide) ?_
  refine r_ixor hX dX1_damage_61 ?_
  refine cc_s7 hC dX1_damage_62 (by omega) ?_
  refine r_iconst (nI 1) hX dX1_damage_63 (by decide) ?_
  exact hret _ _ _ _ dX1_damage_64 (rfl) (rfl)
theorem m_replicas_bad (u : Pst) (x : Int32) (hx : x < 0 ∨ nI 4 ≤ x) : mIC yX1_replicas cX1_replicas 2 .int 3 [.int x] u (-1) u := by
  refine e_IC (by decide) rfl (rfl) (Nat.le_of_ble_eq_true rfl) (by simp [fw_ci]) (fun X h hC hret => ?_)
  have hX := hC.ck
  refine r_lv (lv' := [some (.ref (h 0)), some (.int x)]) rfl ?_
  refine r_iload_n 1 hX dX1_replicas_0 rfl rfl ?_
  refine k_SC hC (m_badFile_y x hx) kC_badFile rfl (by decide) (Nat.le_of_ble_eq_true rfl) rfl dX1_replicas_1 ?_
  refine r_if_eqF 9 hX dX1_replicas_4 (by decide) (by decide) ?_
  refine r_iconst (-1) hX dX1_replicas_7 (by decide) ?_
  exact hret _ _ _ _ dX1_replicas_8 (rfl) (rfl)
theorem m_replicas_no (u : Pst) (f : Nat) (hf : f < 4) (he : u 2 f = 0) : mIC yX1_replicas cX1_replicas 2 .int 3 [.int (nI f)] u (-3) u := by
  refine e_IC (by decide) rfl (rfl) (Nat.le_of_ble_eq_true rfl) (by simp [fw_ci]) (fun X h hC hret => ?_)
  have hX := hC.ck
  refine r_lv (lv' := [some (.ref (h 0)), some (.int (nI f))]) rfl ?_
  refine r_iload_n 1 hX dX1_replicas_0 rfl rfl ?_
  refine k_SC hC (m_badFile_n f hf) kC_badFile rfl (by decide) (Nat.le_of_ble_eq_true rfl) rfl dX1_replicas_1 ?_
  refine r_if_eqT 9 hX dX1_replicas_4 (by decide) (by decide) ?_
  refine r_aload_n 0 hX dX1_replicas_9 rfl rfl ?_
  refine cc_g2 hC dX1_replicas_10 ?_
  refine r_iload_n 1 hX dX1_replicas_13 rfl rfl ?_
  refine cc_l2 hC dX1_replicas_14 (by omega) ?_
  refine r_if_neF 21 hX dX1_replicas_15 (by decide) (he) ?_
  refine r_bipush (-3) hX dX1_replicas_18 (by decide) ?_
  exact hret _ _ _ _ dX1_replicas_20 (rfl) (rfl)
theorem m_replicas_ok (u : Pst) (f k : Nat) (hf : f < 4) (hB : BI k u) (he : ¬ u 2 f = 0) : mIC yX1_replicas cX1_replicas 2 .int 3 [.int (nI f)] u (nI (cq_set u f)) u := by
  refine e_IC (by decide) rfl (rfl) (Nat.le_of_ble_eq_true rfl) (by simp [fw_ci]) (fun X h hC hret => ?_)
  have hX := hC.ck
  refine r_lv (lv' := [some (.ref (h 0)), some (.int (nI f))]) rfl ?_
  refine r_iload_n 1 hX dX1_replicas_0 rfl rfl ?_
  refine k_SC hC (m_badFile_n f hf) kC_badFile rfl (by decide) (Nat.le_of_ble_eq_true rfl) rfl dX1_replicas_1 ?_
  refine r_if_eqT 9 hX dX1_replicas_4 (by decide) (by decide) ?_
  refine r_aload_n 0 hX dX1_replicas_9 rfl rfl ?_
  refine cc_g2 hC dX1_replicas_10 ?_
  refine r_iload_n 1 hX dX1_replicas_13 rfl rfl ?_
  refine cc_l2 hC dX1_replicas_14 (by omega) ?_
  refine r_if_neT 21 hX dX1_replicas_15 (by decide) (he) ?_
  refine r_aload_n 0 hX dX1_replicas_21 rfl rfl ?_
  refine r_iload_n 1 hX dX1_replicas_22 rfl rfl ?_
  refine k_IC hC (m_currentSet u f k hf hB) kC_currentSet rfl rfl (by decide) (Nat.le_of_ble_eq_true rfl) rfl dX1_replicas_23 ?_
  exact hret _ _ _ _ dX1_replicas_26 (rfl) (rfl)
theorem m_length_bad (u : Pst) (x : Int32) (hx : x < 0 ∨ nI 4 ≤ x) : mIC yX1_length cX1_length 4 .int 4 [.int x] u (-1) u := by
  refine e_IC (by decide) rfl (rfl) (Nat.le_of_ble_eq_true rfl) (by simp [fw_ci]) (fun X h hC hret => ?_)
  have hX := hC.ck
  refine r_lv (lv' := [some (.ref (h 0)), some (.int x), none, none]) rfl ?_
  refine r_aload_n 0 hX dX1_length_0 rfl rfl ?_
  refine r_iload_n 1 hX dX1_length_1 rfl rfl ?_
  refine k_IC hC (m_refusal_bad u x hx) kC_refusal rfl rfl (by decide) (Nat.le_of_ble_eq_true rfl) rfl dX1_length_2 ?_
  refine r_istore_n 2 (lv' := [_, _, _, _]) hX dX1_length_5 rfl (Nat.le_of_ble_eq_true rfl) rfl ?_
  refine r_iload_n 2 hX dX1_length_6 rfl rfl ?_
  refine r_if_eqF 12 hX dX1_length_7 (by decide) (by decide) ?_
  refine r_iload_n 2 hX dX1_length_10 rfl rfl ?_
  exact hret _ _ _ _ dX1_length_11 (rfl) (rfl)
theorem m_length_no (u : Pst) (f : Nat) (hf : f < 4) (he : u 2 f = 0) : mIC yX1_length cX1_length 4 .int 4 [.int (nI f)] u (-3) u := by
  refine e_IC (by decide) rfl (rfl) (Nat.le_of_ble_eq_true rfl) (by simp [fw_ci]) (fun X h hC hret => ?_)
  have hX := hC.ck
  refine r_lv (lv' := [some (.ref (h 0)), some (.int (nI f)), none, none]) rfl ?_
  refine r_aload_n 0 hX dX1_length_0 rfl rfl ?_
  refine r_iload_n 1 hX dX1_length_1 rfl rfl ?_
  refine k_IC hC (m_refusal_no u f hf he) kC_refusal rfl rfl (by decide) (Nat.le_of_ble_eq_true rfl) rfl dX1_length_2 ?_
  refine r_istore_n 2 (lv' := [_, _, _, _]) hX dX1_length_5 rfl (Nat.le_of_ble_eq_true rfl) rfl ?_
  refine r_iload_n 2 hX dX1_length_6 rfl rfl ?_
  refine r_if_eqF 12 hX dX1_length_7 (by decide) (by decide) ?_
  refine r_iload_n 2 hX dX1_length_10 rfl rfl ?_
  exact hret _ _ _ _ dX1_length_11 (rfl) (rfl)
theorem m_length_un (u : Pst) (f k : Nat) (hf : f < 4) (hB : BI k u) (he : ¬ u 2 f = 0) (hn : cq_src u f = none) : mIC yX1_length cX1_length 4 .int 4 [.int (nI f)] u (-5) u := by
  refine e_IC (by decide) rfl (rfl) (Nat.le_of_ble_eq_true rfl) (by simp [fw_ci]) (fun X h hC hret => ?_)
  have hX := hC.ck
  refine r_lv (lv' := [some (.ref (h 0)), some (.int (nI f)), none, none]) rfl ?_
  refine r_aload_n 0 hX dX1_length_0 rfl rfl ?_
  refine r_iload_n 1 hX dX1_length_1 rfl rfl ?_
  refine k_IC hC (m_refusal_un u f k hf hB he hn) kC_refusal rfl rfl (by decide) (Nat.le_of_ble_eq_true rfl) rfl dX1_length_2 ?_
  refine r_istore_n 2 (lv' := [_, _, _, _]) hX dX1_length_5 rfl (Nat.le_of_ble_eq_true rfl) rfl ?_
  refine r_iload_n 2 hX dX1_length_6 rfl rfl ?_
  refine r_if_eqF 12 hX dX1_length_7 (by decide) (by decide) ?_
  refine r_iload_n 2 hX dX1_length_10 rfl rfl ?_
  exact hret _ _ _ _ dX1_length_11 (rfl) (rfl)
theorem m_read_bad (u : Pst) (x : Int32) (hx : x < 0 ∨ nI 4 ≤ x) (y : Int32) : mIC yX1_read cX1_read 5 .int 4 [.int x, .int y] u (-1) u := by
  refine e_IC (by decide) rfl (rfl) (Nat.le_of_ble_eq_true rfl) (by simp [fw_ci]) (fun X h hC hret => ?_)
  have hX := hC.ck
  refine r_lv (lv' := [some (.ref (h 0)), some (.int x), some (.int y), none, none]) rfl ?_
  refine r_aload_n 0 hX dX1_read_0 rfl rfl ?_
  refine r_iload_n 1 hX dX1_read_1 rfl rfl ?_
  refine k_IC hC (m_refusal_bad u x hx) kC_refusal rfl rfl (by decide) (Nat.le_of_ble_eq_true rfl) rfl dX1_read_2 ?_
  refine r_istore_n 3 (lv' := [_, _, _, _, _]) hX dX1_read_5 rfl (Nat.le_of_ble_eq_true rfl) rfl ?_
  refine r_iload_n 3 hX dX1_read_6 rfl rfl ?_
  refine r_if_eqF 12 hX dX1_read_7 (by decide) (by decide) ?_
  refine r_iload_n 3 hX dX1_read_10 rfl rfl ?_
  exact hret _ _ _ _ dX1_read_11 (rfl) (rfl)
theorem m_read_no (u : Pst) (f : Nat) (hf : f < 4) (he : u 2 f = 0) (y : Int32) : mIC yX1_read cX1_read 5 .int 4 [.int (nI f), .int y] u (-3) u := by
  refine e_IC (by decide) rfl (rfl) (Nat.le_of_ble_eq_true rfl) (by simp [fw_ci]) (fun X h hC hret => ?_)
  have hX := hC.ck
  refine r_lv (lv' := [some (.ref (h 0)), some (.int (nI f)), some (.int y), none, none]) rfl ?_
  refine r_aload_n 0 hX dX1_read_0 rfl rfl ?_
  refine r_iload_n 1 hX dX1_read_1 rfl rfl ?_
  refine k_IC hC (m_refusal_no u f hf he) kC_refusal rfl rfl (by decide) (Nat.le_of_ble_eq_true rfl) rfl dX1_read_2 ?_
  refine r_istore_n 3 (lv' := [_, _, _, _, _]) hX dX1_read_5 rfl (Nat.le_of_ble_eq_true rfl) rfl ?_
  refine r_iload_n 3 hX dX1_read_6 rfl rfl ?_
  refine r_if_eqF 12 hX dX1_read_7 (by decide) (by decide) ?_
  refine r_iload_n 3 hX dX1_read_10 rfl rfl ?_
  exact hret _ _ _ _ dX1_read_11 (rfl) (rfl)
theorem m_read_un (u : Pst) (f k : Nat) (hf : f < 4) (hB : BI k u) (he : ¬ u 2 f = 0) (hn : cq_src u f = none) (y : Int32) : mIC yX1_read cX1_read 5 .int 4 [.int (nI f), .int y] u (-5) u := by
  refine e_IC (by decide) rfl (rfl) (Nat.le_of_ble_eq_true rfl) (by simp [fw_ci]) (fun X h hC hret => ?_)
  have hX := hC.ck
  refine r_lv (lv' := [some (.ref (h 0)), some (.int (nI f)), some (.int y), none, none]) rfl ?_
  refine r_aload_n 0 hX dX1_read_0 rfl rfl ?_
  refine r_iload_n 1 hX dX1_read_1 rfl rfl ?_
  refine k_IC hC (m_refusal_un u f k hf hB he hn) kC_refusal rfl rfl (by decide) (Nat.le_of_ble_eq_true rfl) rfl dX1_read_2 ?_
  refine r_istore_n 3 (lv' := [_, _, _, _, _]) hX dX1_read_5 rfl (Nat.le_of_ble_eq_true rfl) rfl ?_
  refine r_iload_n 3 hX dX1_read_6 rfl rfl ?_
  refine r_if_eqF 12 hX dX1_read_7 (by decide) (by decide) ?_
  refine r_iload_n 3 hX dX1_read_10 rfl rfl ?_
  exact hret _ _ _ _ dX1_read_11 (rfl) (rfl)
theorem m_append_bad (u : Pst) (x : Int32) (hx : x < 0 ∨ nI 4 ≤ x) (y : Int32) : mIC yX1_append cX1_append 6 .int 4 [.int x, .int y] u (-1) u := by
  refine e_IC (by decide) rfl (rfl) (Nat.le_of_ble_eq_true rfl) (by simp [fw_ci]) (fun X h hC hret => ?_)
  have hX := hC.ck
  refine r_lv (lv' := [some (.ref (h 0)), some (.int x), some (.int y), none, none, none]) rfl ?_
  refine r_aload_n 0 hX dX1_append_0 rfl rfl ?_
  refine r_iload_n 1 hX dX1_append_1 rfl rfl ?_
  refine k_IC hC (m_refusal_bad u x hx) kC_refusal rfl rfl (by decide) (Nat.le_of_ble_eq_true rfl) rfl dX1_append_2 ?_
  refine r_istore_n 3 (lv' := [_, _, _, _, _, _]) hX dX1_append_5 rfl (Nat.le_of_ble_eq_true rfl) rfl ?_
  refine r_iload_n 3 hX dX1_append_6 rfl rfl ?_
  refine r_if_eqF 12 hX dX1_append_7 (by decide) (by decide) ?_
  refine r_iload_n 3 hX dX1_append_10 rfl rfl ?_
  exact hret _ _ _ _ dX1_append_11 (rfl) (rfl)
theorem m_append_no (u : Pst) (f : Nat) (hf : f < 4) (he : u 2 f = 0) (y : Int32) : mIC yX1_append cX1_append 6 .int 4 [.int (nI f), .int y] u (-3) u := by
  refine e_IC (by decide) rfl (rfl) (Nat.le_of_ble_eq_true rfl) (by simp [fw_ci]) (fun X h hC hret => ?_)
  have hX := hC.ck
  refine r_lv (lv' := [some (.ref (h 0)), some (.int (nI f)), some (.int y), none, none, none]) rfl ?_
  refine r_aload_n 0 hX dX1_append_0 rfl rfl ?_
  refine r_iload_n 1 hX dX1_append_1 rfl rfl ?_
  refine k_IC hC (m_refusal_no u f hf he) kC_refusal rfl rfl (by decide) (Nat.le_of_ble_eq_true rfl) rfl dX1_append_2 ?_
  refine r_istore_n 3 (lv' := [_, _, _, _, _, _]) hX dX1_append_5 rfl (Nat.le_of_ble_eq_true rfl) rfl ?_
  refine r_iload_n 3 hX dX1_append_6 rfl rfl ?_
  refine r_if_eqF 12 hX dX1_append_7 (by decide) (by decide) ?_
  refine r_iload_n 3 hX dX1_append_10 rfl rfl ?_
  exact hret _ _ _ _ dX1_append_11 (rfl) (rfl)
theorem m_append_un (u : Pst) (f k : Nat) (hf : f < 4) (hB : BI k u) (he : ¬ u 2 f = 0) (hn : cq_src u f = none) (y : Int32) : mIC yX1_append cX1_append 6 .int 4 [.int (nI f), .int y] u (-5) u := by
  refine e_IC (by decide) rfl (rfl) (Nat.le_of_ble_eq_true rfl) (by simp [fw_ci]) (fun X h hC hret => ?_)
  have hX := hC.ck
  refine r_lv (lv' := [some (.ref (h 0)), some (.int (nI f)), some (.int y), none, none, none]) rfl ?_
  refine r_aload_n 0 hX dX1_append_0 rfl rfl ?_
  refine r_iload_n 1 hX dX1_append_1 rfl rfl ?_
  refine k_IC hC (m_refusal_un u f k hf hB he hn) kC_refusal rfl rfl (by decide) (Nat.le_of_ble_eq_true rfl) rfl dX1_append_2 ?_
  refine r_istore_n 3 (lv' := [_, _, _, _, _, _]) hX dX1_append_5 rfl (Nat.le_of_ble_eq_true rfl) rfl ?_
  refine r_iload_n 3 hX dX1_append_6 rfl rfl ?_
  refine r_if_eqF 12 hX dX1_append_7 (by decide) (by decide) ?_
  refine r_iload_n 3 hX dX1_append_10 rfl rfl ?_
  exact hret _ _ _ _ dX1_append_11 (rfl) (rfl)
theorem m_write_bad (u : Pst) (x : Int32) (hx : x < 0 ∨ nI 4 ≤ x) (y z : Int32) : mIC yX1_write cX1_write 5 .int 4 [.int x, .int y, .int z] u (-1) u := by
  refine e_IC (by decide) rfl (rfl) (Nat.le_of_ble_eq_true rfl) (by simp [fw_ci]) (fun X h hC hret => ?_)
  have hX := hC.ck
  refine r_lv (lv' := [some (.ref (h 0)), some (.int x), some (.int y), some (.int z), none]) rfl ?_
  refine r_aload_n 0 hX dX1_write_0 rfl rfl ?_
  refine r_iload_n 1 hX dX1_write_1 rfl rfl ?_
  refine k_IC hC (m_refusal_bad u x hx) kC_refusal rfl rfl (by decide) (Nat.le_of_ble_eq_true rfl) rfl dX1_write_2 ?_
  refine r_istore 4 (lv' := [_, _, _, _, _]) hX dX1_write_5 (Nat.le_of_ble_eq_true rfl) rfl ?_
  refine r_iload 4 hX dX1_write_7 rfl ?_
  refine r_if_eqF 15 hX dX1_write_9 (by decide) (by decide) ?_
  refine r_iload 4 hX dX1_write_12 rfl ?_
  exact hret _ _ _ _ dX1_write_14 (rfl) (rfl)
theorem m_write_no (u : Pst) (f : Nat) (hf : f < 4) (he : u 2 f = 0) (y z : Int32) : mIC yX1_write cX1_write 5 .int 4 [.int (nI f), .int y, .int z] u (-3) u := by
  refine e_IC (by decide) rfl (rfl) (Nat.le_of_ble_eq_true rfl) (by simp [fw_ci]) (fun X h hC hret => ?_)
  have hX := hC.ck
  refine r_lv (lv' := [some (.ref (h 0)), some (.int (nI f)), some (.int y), some (.int z), none]) rfl ?_
  refine r_aload_n 0 hX dX1_write_0 rfl rfl ?_
  refine r_iload_n 1 hX dX1_write_1 rfl rfl ?_
  refine k_IC hC (m_refusal_no u f hf he) kC_refusal rfl rfl (by decide) (Nat.le_of_ble_eq_true rfl) rfl dX1_write_2 ?_
  refine r_istore 4 (lv' := [_, _, _, _, _]) hX dX1_write_5 (Nat.le_of_ble_eq_true rfl) rfl ?_
  refine r_iload 4 hX dX1_write_7 rfl ?_
  refine r_if_eqF 15 hX dX1_write_9 (by decide) (by decide) ?_
  refine r_iload 4 hX dX1_write_12 rfl ?_
  exact hret _ _ _ _ dX1_write_14 (rfl) (rfl)
theorem m_write_un (u : Pst) (f k : Nat) (hf : f < 4) (hB : BI k u) (he : ¬ u 2 f = 0) (hn : cq_src u f = none) (y z : Int32) : mIC yX1_write cX1_write 5 .int 4 [.int (nI f), .int y, .int z] u (-5) u := by
  refine e_IC (by decide) rfl (rfl) (Nat.le_of_ble_eq_true rfl) (by simp [fw_ci]) (fun X h hC hret => ?_)
  have hX := hC.ck
  refine r_lv (lv' := [some (.ref (h 0)), some (.int (nI f)), some (.int y), some (.int z), none]) rfl ?_
  refine r_aload_n 0 hX dX1_write_0 rfl rfl ?_
  refine r_iload_n 1 hX dX1_write_1 rfl rfl ?_
  refine k_IC hC (m_refusal_un u f k hf hB he hn) kC_refusal rfl rfl (by decide) (Nat.le_of_ble_eq_true rfl) rfl dX1_write_2 ?_
  refine r_istore 4 (lv' := [_, _, _, _, _]) hX dX1_write_5 (Nat.le_of_ble_eq_true rfl) rfl ?_
  refine r_iload 4 hX dX1_write_7 rfl ?_
  refine r_if_eqF 15 hX dX1_write_9 (by decide) (by decide) ?_
  refine r_iload 4 hX dX1_write_12 rfl ?_
  exact hret _ _ _ _ dX1_write_14 (rfl) (rfl)
theorem m_length_ok (u : Pst) (f k s : Nat) (hf : f < 4) (hB : BI k u) (he : ¬ u 2 f = 0) (hn : cq_src u f = some s) (j : Nat) (hj : j < 20) (hb : u 5 (s * 4 + f) = nI j) : mIC yX1_length cX1_length 4 .int 4 [.int (nI f)] u (u 8 j) u := by
  refine e_IC (by decide) rfl (rfl) (Nat.le_of_ble_eq_true rfl) (by simp [fw_ci]) (fun X h hC hret => ?_)
  have hX := hC.ck
  refine r_lv (lv' := [some (.ref (h 0)), some (.int (nI f)), none, none]) rfl ?_
  have hs := (fi5_lt 5 s hn).1
  refine r_aload_n 0 hX dX1_length_0 rfl rfl ?_
  refine r_iload_n 1 hX dX1_length_1 rfl rfl ?_
  refine k_IC hC (m_refusal_ok u f k s hf hB he hn) kC_refusal rfl rfl (by decide) (Nat.le_of_ble_eq_true rfl) rfl dX1_length_2 ?_
  refine r_istore_n 2 (lv' := [_, _, _, _]) hX dX1_length_5 rfl (Nat.le_of_ble_eq_true rfl) rfl ?_
  refine r_iload_n 2 hX dX1_length_6 rfl rfl ?_
  refine r_if_eqT 12 hX dX1_length_7 (by decide) (rfl) ?_
  refine r_aload_n 0 hX dX1_length_12 rfl rfl ?_
  refine r_iload_n 1 hX dX1_length_13 rfl rfl ?_
  refine k_IC hC (m_source u f k hf hB) kC_source rfl rfl (by decide) (Nat.le_of_ble_eq_true rfl) rfl dX1_length_14 ?_
  refine r_eq (nI s) (by rw [hn]; rfl) ?_
  refine r_istore_n 3 (lv' := [_, _, _, _]) hX dX1_length_17 rfl (Nat.le_of_ble_eq_true rfl) rfl ?_
  refine r_aload_n 0 hX dX1_length_18 rfl rfl ?_
  refine cc_g8 hC dX1_length_19 ?_
  refine r_aload_n 0 hX dX1_length_22 rfl rfl ?_
  refine cc_g5 hC dX1_length_23 ?_
  refine r_iload_n 3 hX dX1_length_26 rfl rfl ?_
  refine r_iconst (nI 4) hX dX1_length_27 (by decide) ?_
  refine r_imulN hX dX1_length_28 ?_
  refine r_iload_n 1 hX dX1_length_29 rfl rfl ?_
  refine r_iaddN hX dX1_length_30 ?_
  refine cc_l5 hC dX1_length_31 (by omega) ?_
  refine r_eq (nI j) (hb) ?_
  refine cc_l8 hC dX1_length_32 (by omega) ?_
  exact hret _ _ _ _ dX1_length_33 (rfl) (rfl)
theorem m_read_bc (u : Pst) (f k s : Nat) (hf : f < 4) (hB : BI k u) (he : ¬ u 2 f = 0) (hn : cq_src u f = some s) (y : Int32) (hy : y < 0 ∨ nI 6 ≤ y) : mIC yX1_read cX1_read 5 .int 4 [.int (nI f), .int y] u (-6) u := by
  refine e_IC (by decide) rfl (rfl) (Nat.le_of_ble_eq_true rfl) (by simp [fw_ci]) (fun X h hC hret => ?_)
  have hX := hC.ck
  refine r_lv (lv' := [some (.ref (h 0)), some (.int (nI f)), some (.int y), none, none]) rfl ?_
  have hs := (fi5_lt 5 s hn).1
  refine r_aload_n 0 hX dX1_read_0 rfl rfl ?_
  refine r_iload_n 1 hX dX1_read_1 rfl rfl ?_
  refine k_IC hC (m_refusal_ok u f k s hf hB he hn) kC_refusal rfl rfl (by decide) (Nat.le_of_ble_eq_true rfl) rfl dX1_read_2 ?_
  refine r_istore_n 3 (lv' := [_, _, _, _, _]) hX dX1_read_5 rfl (Nat.le_of_ble_eq_true rfl) rfl ?_
  refine r_iload_n 3 hX dX1_read_6 rfl rfl ?_
  refine r_if_eqT 12 hX dX1_read_7 (by decide) (rfl) ?_
  refine r_iload_n 2 hX dX1_read_12 rfl rfl ?_
  refine r_if_lt 22 hX dX1_read_13 (by decide) (fun c13 => ?_) (fun c13 => ?_)
  · refine r_bipush (-6) hX dX1_read_22 (by decide) ?_
    exact hret _ _ _ _ dX1_read_24 (rfl) (rfl)
  · refine r_iload_n 2 hX dX1_read_16 rfl rfl ?_
    refine r_bipush (nI 6) hX dX1_read_17 (by decide) ?_
    refine r_icmp_lt 25 hX dX1_read_19 (by decide) (fun c19 => ?_) (fun c19 => ?_)
    · exact absurd c19 (fun z => by rcases hy with q | q; exact c13 q; exact (Int32.not_lt.mpr q) z)
    · refine r_bipush (-6) hX dX1_read_22 (by decide) ?_
      exact hret _ _ _ _ dX1_read_24 (rfl) (rfl)
theorem m_read_ok (u : Pst) (f k s : Nat) (hf : f < 4) (hB : BI k u) (he : ¬ u 2 f = 0) (hn : cq_src u f = some s) (j : Nat) (hj : j < 20) (hb : u 5 (s * 4 + f) = nI j) (c : Nat) (hc : c < 6) : mIC yX1_read cX1_read 5 .int 4 [.int (nI f), .int (nI c)] u (u 7 (j * 6 + c)) u := by
  refine e_IC (by decide) rfl (rfl) (Nat.le_of_ble_eq_true rfl) (by simp [fw_ci]) (fun X h hC hret => ?_)
  have hX := hC.ck
  refine r_lv (lv' := [some (.ref (h 0)), some (.int (nI f)), some (.int (nI c)), none, none]) rfl ?_
  have hs := (fi5_lt 5 s hn).1
  refine r_aload_n 0 hX dX1_read_0 rfl rfl ?_
  refine r_iload_n 1 hX dX1_read_1 rfl rfl ?_
  refine k_IC hC (m_refusal_ok u f k s hf hB he hn) kC_refusal rfl rfl (by decide) (Nat.le_of_ble_eq_true rfl) rfl dX1_read_2 ?_
  refine r_istore_n 3 (lv' := [_, _, _, _, _]) hX dX1_read_5 rfl (Nat.le_of_ble_eq_true rfl) rfl ?_
  refine r_iload_n 3 hX dX1_read_6 rfl rfl ?_
  refine r_if_eqT 12 hX dX1_read_7 (by decide) (rfl) ?_
  refine r_iload_n 2 hX dX1_read_12 rfl rfl ?_
  refine r_if_ltF 22 hX dX1_read_13 (by decide) (nI_pos (by omega)) ?_
  refine r_iload_n 2 hX dX1_read_16 rfl rfl ?_
  refine r_bipush (nI 6) hX dX1_read_17 (by decide) ?_
  refine r_icmp_ltNT 25 hX dX1_read_19 (by decide) (by omega) ?_
  refine r_aload_n 0 hX dX1_read_25 rfl rfl ?_
  refine r_iload_n 1 hX dX1_read_26 rfl rfl ?_
  refine k_IC hC (m_source u f k hf hB) kC_source rfl rfl (by decide) (Nat.le_of_ble_eq_true rfl) rfl dX1_read_27 ?_
  refine r_eq (nI s) (by rw [hn]; rfl) ?_
  refine r_istore 4 (lv' := [_, _, _, _, _]) hX dX1_read_30 (Nat.le_of_ble_eq_true rfl) rfl ?_
  refine r_aload_n 0 hX dX1_read_32 rfl rfl ?_
  refine cc_g7 hC dX1_read_33 ?_
  refine r_aload_n 0 hX dX1_read_36 rfl rfl ?_
  refine cc_g5 hC dX1_read_37 ?_
  refine r_iload 4 hX dX1_read_40 rfl ?_
  refine r_iconst (nI 4) hX dX1_read_42 (by decide) ?_
  refine r_imulN hX dX1_read_43 ?_
  refine r_iload_n 1 hX dX1_read_44 rfl rfl ?_
  refine r_iaddN hX dX1_read_45 ?_
  refine cc_l5 hC dX1_read_46 (by omega) ?_
  refine r_eq (nI j) (hb) ?_
  refine r_bipush (nI 6) hX dX1_read_47 (by decide) ?_
  refine r_imulN hX dX1_read_49 ?_
  refine r_iload_n 2 hX dX1_read_50 rfl rfl ?_
  refine r_iaddN hX dX1_read_51 ?_
  refine cc_l7 hC dX1_read_52 (by omega) ?_
  exact hret _ _ _ _ dX1_read_53 (rfl) (rfl)
/-- mutate(f, c, v) -/
theorem m_mutate (u : Pst) (f k : Nat) (hf : f < 4) (hB : BI k u) (c : Nat) (hc : c < 6) (v : Int32) : mIC yX1_mutate cX1_mutate 8 .int 3 [.int (nI f), .int (nI c), .int v] u (nI (pc5 (cq_live u f) 5)) (cq_mut u f c v) := by
  refine e_IC (by decide) rfl (rfl) (Nat.le_of_ble_eq_true rfl) (by simp [fw_ci]) (fun X h hC hret => ?_)
  have hX := hC.ck
  refine r_lv (lv' := [some (.ref (h 0)), some (.int (nI f)), some (.int (nI c)), some (.int v), none, none, none, none]) rfl ?_
  have hset := cq_set_lt u f
  have hups := cq_ups_lt u
  obtain ⟨hand, hlt⟩ := bt_and _ hset _ hups
  have hlt : cq_live u f < 32 := hlt
  have hcur : ∀ s, s < 5 → cq_live u f / 2 ^ s % 2 = 1 → ∃ j, j < 20 ∧ u 5 (s * 4 + f) = nI j := fun s hs hb => cur_5 hB hs hf (live_bit hs hb).2
  have hBv : BI k (cq_ver u f) := BI_ver hB
  have hBm : BI k (cq_mu1 u f) := by
    unfold cq_mu1
    split
    · exact hB
    · exact BI_mu1N hBv 5
  have loop2 : ∀ n i, i + n = 5 → CG X (cq_mu2N (cq_mu1 u f) f (cq_live u f) c v i) 74 [some (.ref (h 0)), some (.int (nI f)), some (.int (nI c)), some (.int v), some (.int (nI (cq_set u f))), some (.int (nI (cq_live u f))), some (.int (nI i)), none] [] := by
    intro n
    induction n with
    | zero =>
      intro i hi
      obtain rfl : i = 5 := by omega
      refine r_iload 6 hX dX1_mutate_74 rfl ?_
      refine r_iconst (nI 5) hX dX1_mutate_76 (by decide) ?_
      refine r_icmp_geNT 155 hX dX1_mutate_77 (by decide) (by omega) ?_
      refine r_iload 5 hX dX1_mutate_155 rfl ?_
      refine k_SC hC (m_bits _ hlt) kC_bits rfl (by decide) (Nat.le_of_ble_eq_true rfl) rfl dX1_mutate_157 ?_
      exact hret _ _ _ _ dX1_mutate_160 (rfl) (rfl)
    | succ n ih =>
      intro i hi
      refine r_iload 6 hX dX1_mutate_74 rfl ?_
      refine r_iconst (nI 5) hX dX1_mutate_76 (by decide) ?_
      refine r_icmp_geNF 155 hX dX1_mutate_77 (by decide) (by omega) ?_
      refine r_iload 5 hX dX1_mutate_80 rfl ?_
      refine r_iload 6 hX dX1_mutate_82 rfl ?_
      refine r_ishr hX dX1_mutate_84 ?_
      refine r_iconst (nI 1) hX dX1_mutate_85 (by decide) ?_
      refine r_iand hX dX1_mutate_86 ?_
      refine r_eq (nI (cq_live u f / 2 ^ i % 2)) (bt_shr _ hlt i (by omega)) ?_
      refine r_iconst (nI 1) hX dX1_mutate_87 (by decide) ?_
      refine r_icmp_neN 149 hX dX1_mutate_88 (by decide) (by omega) (by omega) (fun c88 => ?_) (fun c88 => ?_)
      · refine r_iincN 6 (lv' := [_, _, _, _, _, _, _, _]) hX dX1_mutate_149 rfl (Nat.le_of_ble_eq_true rfl) rfl ?_
        refine r_goto 74 hX dX1_mutate_152 (by decide) ?_
        refine r_st (show _ = cq_mu2N (cq_mu1 u f) f (cq_live u f) c v (i + 1) by simp [cq_mu2N, c88]) ?_
        exact ih (i + 1) (by omega)
      · refine r_aload_n 0 hX dX1_mutate_91 rfl rfl ?_
        refine r_iload 6 hX dX1_mutate_92 rfl ?_
        refine r_iload_n 1 hX dX1_mutate_94 rfl rfl ?_
        obtain ⟨j, hj, hb0⟩ := hcur i (by omega) c88
        have hb : cq_mu2N (cq_mu1 u f) f (cq_live u f) c v i 5 (i * 4 + f) = nI j := by rw [mu2_5 i (Nat.le_refl i), mu1_5]; exact hb0
        have hbl := ownB_lt (u := cq_mu2N (cq_mu1 u f) f (cq_live u f) c v i) (s := i) (by omega) hj
        have hcl : cl (cq_mu2N (cq_mu1 u f) f (cq_live u f) c v i 5 (i * 4 + f)) = j := by rw [hb]; exact fw_cl hj
        refine k_IC hC (m_ownBlock _ i f (by omega) hf j hj hb) kC_ownBlock rfl rfl (by decide) (Nat.le_of_ble_eq_true rfl) rfl dX1_mutate_95 ?_
        refine r_istore 7 (lv' := [_, _, _, _, _, _, _, _]) hX dX1_mutate_98 (Nat.le_of_ble_eq_true rfl) rfl ?_
        refine r_aload_n 0 hX dX1_mutate_100 rfl rfl ?_
        refine cc_g7 hC dX1_mutate_101 ?_
        refine r_iload 7 hX dX1_mutate_104 rfl ?_
        refine r_bipush (nI 6) hX dX1_mutate_106 (by decide) ?_
        refine r_imulN hX dX1_mutate_108 ?_
        refine r_iload_n 2 hX dX1_mutate_109 rfl rfl ?_
        refine r_iaddN hX dX1_mutate_110 ?_
        refine r_iload_n 3 hX dX1_mutate_111 rfl rfl ?_
        refine cc_s7 hC dX1_mutate_112 (by omega) ?_
        refine r_aload_n 0 hX dX1_mutate_113 rfl rfl ?_
        refine cc_g8 hC dX1_mutate_114 ?_
        refine r_iload 7 hX dX1_mutate_117 rfl ?_
        refine cc_l8 hC dX1_mutate_119 (by omega) ?_
        refine r_iload_n 2 hX dX1_mutate_120 rfl rfl ?_
        refine r_iconst (nI 1) hX dX1_mutate_121 (by decide) ?_
        refine r_iaddN hX dX1_mutate_122 ?_
        refine r_icmp_ge 136 hX dX1_mutate_123 (by decide) (fun c123 => ?_) (fun c123 => ?_)
        · refine r_aload_n 0 hX dX1_mutate_136 rfl rfl ?_
          refine cc_g9 hC dX1_mutate_137 ?_
          refine r_iload 7 hX dX1_mutate_140 rfl ?_
          refine r_aload_n 0 hX dX1_mutate_142 rfl rfl ?_
          refine r_iload 7 hX dX1_mutate_143 rfl ?_
          refine k_IC hC (m_sumOf _ _ hbl) kC_sumOf rfl rfl (by decide) (Nat.le_of_ble_eq_true rfl) rfl dX1_mutate_145 ?_
          refine cc_s9 hC dX1_mutate_148 (by omega) ?_
          refine r_iincN 6 (lv' := [_, _, _, _, _, _, _, _]) hX dX1_mutate_149 rfl (Nat.le_of_ble_eq_true rfl) rfl ?_
          refine r_goto 74 hX dX1_mutate_152 (by decide) ?_
          refine r_forget 7 (lv' := [_, _, _, _, _, _, _, none]) rfl ?_
          refine r_st (show _ = cq_mu2N (cq_mu1 u f) f (cq_live u f) c v (i + 1) by simp [cq_mu2N, c88, cq_wr, cq_w2, cq_w1, hcl, c123]) ?_
          exact ih (i + 1) (by omega)
        · refine r_aload_n 0 hX dX1_mutate_126 rfl rfl ?_
          refine cc_g8 hC dX1_mutate_127 ?_
          refine r_iload 7 hX dX1_mutate_130 rfl ?_
          refine r_iload_n 2 hX dX1_mutate_132 rfl rfl ?_
          refine r_iconst (nI 1) hX dX1_mutate_133 (by decide) ?_
          refine r_iaddN hX dX1_mutate_134 ?_
          refine cc_s8 hC dX1_mutate_135 (by omega) ?_
          refine r_aload_n 0 hX dX1_mutate_136 rfl rfl ?_
          refine cc_g9 hC dX1_mutate_137 ?_
          refine r_iload 7 hX dX1_mutate_140 rfl ?_
          refine r_aload_n 0 hX dX1_mutate_142 rfl rfl ?_
          refine r_iload 7 hX dX1_mutate_143 rfl ?_
          refine k_IC hC (m_sumOf _ _ hbl) kC_sumOf rfl rfl (by decide) (Nat.le_of_ble_eq_true rfl) rfl dX1_mutate_145 ?_
          refine cc_s9 hC dX1_mutate_148 (by omega) ?_
          refine r_iincN 6 (lv' := [_, _, _, _, _, _, _, _]) hX dX1_mutate_149 rfl (Nat.le_of_ble_eq_true rfl) rfl ?_
          refine r_goto 74 hX dX1_mutate_152 (by decide) ?_
          refine r_forget 7 (lv' := [_, _, _, _, _, _, _, none]) rfl ?_
          refine r_st (show _ = cq_mu2N (cq_mu1 u f) f (cq_live u f) c v (i + 1) by simp [cq_mu2N, c88, cq_wr, cq_w2, cq_w1, hcl, c123]) ?_
          exact ih (i + 1) (by omega)
  refine r_aload_n 0 hX dX1_mutate_0 rfl rfl ?_
  refine r_iload_n 1 hX dX1_mutate_1 rfl rfl ?_
  refine k_IC hC (m_currentSet u f k hf hB) kC_currentSet rfl rfl (by decide) (Nat.le_of_ble_eq_true rfl) rfl dX1_mutate_2 ?_
  refine r_istore 4 (lv' := [_, _, _, _, _, _, _, _]) hX dX1_mutate_5 (Nat.le_of_ble_eq_true rfl) rfl ?_
  refine r_iload 4 hX dX1_mutate_7 rfl ?_
  refine r_aload_n 0 hX dX1_mutate_9 rfl rfl ?_
  refine k_IC hC (m_upSet u) kC_upSet rfl rfl (by decide) (Nat.le_of_ble_eq_true rfl) rfl dX1_mutate_10 ?_
  refine r_iand hX dX1_mutate_13 ?_
  refine r_eq (nI (cq_live u f)) (hand) ?_
  refine r_istore 5 (lv' := [_, _, _, _, _, _, _, _]) hX dX1_mutate_14 (Nat.le_of_ble_eq_true rfl) rfl ?_
  refine r_iload 5 hX dX1_mutate_16 rfl ?_
  refine r_iload 4 hX dX1_mutate_18 rfl ?_
  refine r_icmp_eqN 71 hX dX1_mutate_20 (by decide) (by omega) (by omega) (fun c20 => ?_) (fun c20 => ?_)
  · have e1 : cq_mu1 u f = u := if_pos c20
    refine r_iconst (nI 0) hX dX1_mutate_71 (by decide) ?_
    refine r_istore 6 (lv' := [_, _, _, _, _, _, _, _]) hX dX1_mutate_72 (Nat.le_of_ble_eq_true rfl) rfl ?_
    refine r_st e1.symm ?_
    exact loop2 5 0 rfl
  · have e1 : cq_mu1N (cq_ver u f) f (cq_live u f) 5 = cq_mu1 u f := (if_neg c20).symm
    refine r_aload_n 0 hX dX1_mutate_23 rfl rfl ?_
    refine r_iload_n 1 hX dX1_mutate_24 rfl rfl ?_
    refine k_VC hC (m_newVersion u f hf) kC_newVersion rfl rfl (by decide) (Nat.le_of_ble_eq_true rfl) rfl dX1_mutate_25 ?_
    refine r_iconst (nI 0) hX dX1_mutate_28 (by decide) ?_
    refine r_istore 6 (lv' := [_, _, _, _, _, _, _, _]) hX dX1_mutate_29 (Nat.le_of_ble_eq_true rfl) rfl ?_
    have loop1 : ∀ n i, i + n = 5 → CG X (cq_mu1N (cq_ver u f) f (cq_live u f) i) 31 [some (.ref (h 0)), some (.int (nI f)), some (.int (nI c)), some (.int v), some (.int (nI (cq_set u f))), some (.int (nI (cq_live u f))), some (.int (nI i)), none] [] := by
      intro n
      induction n with
      | zero =>
        intro i hi
        obtain rfl : i = 5 := by omega
        refine r_iload 6 hX dX1_mutate_31 rfl ?_
        refine r_iconst (nI 5) hX dX1_mutate_33 (by decide) ?_
        refine r_icmp_geNT 71 hX dX1_mutate_34 (by decide) (by omega) ?_
        refine r_iconst (nI 0) hX dX1_mutate_71 (by decide) ?_
        refine r_istore 6 (lv' := [_, _, _, _, _, _, _, _]) hX dX1_mutate_72 (Nat.le_of_ble_eq_true rfl) rfl ?_
        refine r_st e1 ?_
        exact loop2 5 0 rfl
      | succ n ih =>
        intro i hi
        refine r_iload 6 hX dX1_mutate_31 rfl ?_
        refine r_iconst (nI 5) hX dX1_mutate_33 (by decide) ?_
        refine r_icmp_geNF 71 hX dX1_mutate_34 (by decide) (by omega) ?_
        refine r_iload 5 hX dX1_mutate_37 rfl ?_
        refine r_iload 6 hX dX1_mutate_39 rfl ?_
        refine r_ishr hX dX1_mutate_41 ?_
        refine r_iconst (nI 1) hX dX1_mutate_42 (by decide) ?_
        refine r_iand hX dX1_mutate_43 ?_
        refine r_eq (nI (cq_live u f / 2 ^ i % 2)) (bt_shr _ hlt i (by omega)) ?_
        refine r_iconst (nI 1) hX dX1_mutate_44 (by decide) ?_
        refine r_icmp_neN 65 hX dX1_mutate_45 (by decide) (by omega) (by omega) (fun c45 => ?_) (fun c45 => ?_)
        · refine r_iincN 6 (lv' := [_, _, _, _, _, _, _, _]) hX dX1_mutate_65 rfl (Nat.le_of_ble_eq_true rfl) rfl ?_
          refine r_goto 31 hX dX1_mutate_68 (by decide) ?_
          refine r_st (show _ = cq_mu1N (cq_ver u f) f (cq_live u f) (i + 1) by simp [cq_mu1N, c45]) ?_
          exact ih (i + 1) (by omega)
        · refine r_aload_n 0 hX dX1_mutate_48 rfl rfl ?_
          refine cc_g6 hC dX1_mutate_49 ?_
          refine r_iload 6 hX dX1_mutate_52 rfl ?_
          refine r_iconst (nI 4) hX dX1_mutate_54 (by decide) ?_
          refine r_imulN hX dX1_mutate_55 ?_
          refine r_iload_n 1 hX dX1_mutate_56 rfl rfl ?_
          refine r_iaddN hX dX1_mutate_57 ?_
          refine r_aload_n 0 hX dX1_mutate_58 rfl rfl ?_
          refine cc_g3 hC dX1_mutate_59 ?_
          refine r_iload_n 1 hX dX1_mutate_62 rfl rfl ?_
          refine cc_l3 hC dX1_mutate_63 (by omega) ?_
          refine cc_s6 hC dX1_mutate_64 (by omega) ?_
          refine r_iincN 6 (lv' := [_, _, _, _, _, _, _, _]) hX dX1_mutate_65 rfl (Nat.le_of_ble_eq_true rfl) rfl ?_
          refine r_goto 31 hX dX1_mutate_68 (by decide) ?_
          refine r_st (show _ = cq_mu1N (cq_ver u f) f (cq_live u f) (i + 1) by simp [cq_mu1N, c45]) ?_
          exact ih (i + 1) (by omega)
    exact loop1 5 0 rfl
theorem m_write_bc (u : Pst) (f k s : Nat) (hf : f < 4) (hB : BI k u) (he : ¬ u 2 f = 0) (hn : cq_src u f = some s) (y : Int32) (hy : y < 0 ∨ nI 6 ≤ y) (z : Int32) : mIC yX1_write cX1_write 5 .int 4 [.int (nI f), .int y, .int z] u (-6) u := by
  refine e_IC (by decide) rfl (rfl) (Nat.le_of_ble_eq_true rfl) (by simp [fw_ci]) (fun X h hC hret => ?_)
  have hX := hC.ck
  refine r_lv (lv' := [some (.ref (h 0)), some (.int (nI f)), some (.int y), some (.int z), none]) rfl ?_
  have hs := (fi5_lt 5 s hn).1
  refine r_aload_n 0 hX dX1_write_0 rfl rfl ?_
  refine r_iload_n 1 hX dX1_write_1 rfl rfl ?_
  refine k_IC hC (m_refusal_ok u f k s hf hB he hn) kC_refusal rfl rfl (by decide) (Nat.le_of_ble_eq_true rfl) rfl dX1_write_2 ?_
  refine r_istore 4 (lv' := [_, _, _, _, _]) hX dX1_write_5 (Nat.le_of_ble_eq_true rfl) rfl ?_
  refine r_iload 4 hX dX1_write_7 rfl ?_
  refine r_if_eqT 15 hX dX1_write_9 (by decide) (rfl) ?_
  refine r_iload_n 2 hX dX1_write_15 rfl rfl ?_
  refine r_if_lt 25 hX dX1_write_16 (by decide) (fun c16 => ?_) (fun c16 => ?_)
  · refine r_bipush (-6) hX dX1_write_25 (by decide) ?_
    exact hret _ _ _ _ dX1_write_27 (rfl) (rfl)
  · refine r_iload_n 2 hX dX1_write_19 rfl rfl ?_
    refine r_bipush (nI 6) hX dX1_write_20 (by decide) ?_
    refine r_icmp_lt 28 hX dX1_write_22 (by decide) (fun c22 => ?_) (fun c22 => ?_)
    · exact absurd c22 (fun z => by rcases hy with q | q; exact c16 q; exact (Int32.not_lt.mpr q) z)
    · refine r_bipush (-6) hX dX1_write_25 (by decide) ?_
      exact hret _ _ _ _ dX1_write_27 (rfl) (rfl)
theorem m_write_ok (u : Pst) (f k s : Nat) (hf : f < 4) (hB : BI k u) (he : ¬ u 2 f = 0) (hn : cq_src u f = some s) (c : Nat) (hc : c < 6) (z : Int32) : mIC yX1_write cX1_write 5 .int 4 [.int (nI f), .int (nI c), .int z] u (nI (pc5 (cq_live u f) 5)) (cq_mut u f c z) := by
  refine e_IC (by decide) rfl (rfl) (Nat.le_of_ble_eq_true rfl) (by simp [fw_ci]) (fun X h hC hret => ?_)
  have hX := hC.ck
  refine r_lv (lv' := [some (.ref (h 0)), some (.int (nI f)), some (.int (nI c)), some (.int z), none]) rfl ?_
  have hs := (fi5_lt 5 s hn).1
  refine r_aload_n 0 hX dX1_write_0 rfl rfl ?_
  refine r_iload_n 1 hX dX1_write_1 rfl rfl ?_
  refine k_IC hC (m_refusal_ok u f k s hf hB he hn) kC_refusal rfl rfl (by decide) (Nat.le_of_ble_eq_true rfl) rfl dX1_write_2 ?_
  refine r_istore 4 (lv' := [_, _, _, _, _]) hX dX1_write_5 (Nat.le_of_ble_eq_true rfl) rfl ?_
  refine r_iload 4 hX dX1_write_7 rfl ?_
  refine r_if_eqT 15 hX dX1_write_9 (by decide) (rfl) ?_
  refine r_iload_n 2 hX dX1_write_15 rfl rfl ?_
  refine r_if_ltF 25 hX dX1_write_16 (by decide) (nI_pos (by omega)) ?_
  refine r_iload_n 2 hX dX1_write_19 rfl rfl ?_
  refine r_bipush (nI 6) hX dX1_write_20 (by decide) ?_
  refine r_icmp_ltNT 28 hX dX1_write_22 (by decide) (by omega) ?_
  refine r_aload_n 0 hX dX1_write_28 rfl rfl ?_
  refine r_iload_n 1 hX dX1_write_29 rfl rfl ?_
  refine r_iload_n 2 hX dX1_write_30 rfl rfl ?_
  refine r_iload_n 3 hX dX1_write_31 rfl rfl ?_
  refine k_IC hC (m_mutate u f k hf hB c hc z) kC_mutate rfl rfl (by decide) (Nat.le_of_ble_eq_true rfl) rfl dX1_write_32 ?_
  exact hret _ _ _ _ dX1_write_35 (rfl) (rfl)
theorem m_append_full (u : Pst) (f k s : Nat) (hf : f < 4) (hB : BI k u) (he : ¬ u 2 f = 0) (hn : cq_src u f = some s) (j : Nat) (hj : j < 20) (hb : u 5 (s * 4 + f) = nI j) (hl : u 8 j = nI 6) (y : Int32) : mIC yX1_append cX1_append 6 .int 4 [.int (nI f), .int y] u (-7) u := by
  refine e_IC (by decide) rfl (rfl) (Nat.le_of_ble_eq_true rfl) (by simp [fw_ci]) (fun X h hC hret => ?_)
  have hX := hC.ck
  refine r_lv (lv' := [some (.ref (h 0)), some (.int (nI f)), some (.int y), none, none, none]) rfl ?_
  have hs := (fi5_lt 5 s hn).1
  refine r_aload_n 0 hX dX1_append_0 rfl rfl ?_
  refine r_iload_n 1 hX dX1_append_1 rfl rfl ?_
  refine k_IC hC (m_refusal_ok u f k s hf hB he hn) kC_refusal rfl rfl (by decide) (Nat.le_of_ble_eq_true rfl) rfl dX1_append_2 ?_
  refine r_istore_n 3 (lv' := [_, _, _, _, _, _]) hX dX1_append_5 rfl (Nat.le_of_ble_eq_true rfl) rfl ?_
  refine r_iload_n 3 hX dX1_append_6 rfl rfl ?_
  refine r_if_eqT 12 hX dX1_append_7 (by decide) (rfl) ?_
  refine r_aload_n 0 hX dX1_append_12 rfl rfl ?_
  refine r_iload_n 1 hX dX1_append_13 rfl rfl ?_
  refine k_IC hC (m_source u f k hf hB) kC_source rfl rfl (by decide) (Nat.le_of_ble_eq_true rfl) rfl dX1_append_14 ?_
  refine r_eq (nI s) (by rw [hn]; rfl) ?_
  refine r_istore 4 (lv' := [_, _, _, _, _, _]) hX dX1_append_17 (Nat.le_of_ble_eq_true rfl) rfl ?_
  refine r_aload_n 0 hX dX1_append_19 rfl rfl ?_
  refine cc_g8 hC dX1_append_20 ?_
  refine r_aload_n 0 hX dX1_append_23 rfl rfl ?_
  refine cc_g5 hC dX1_append_24 ?_
  refine r_iload 4 hX dX1_append_27 rfl ?_
  refine r_iconst (nI 4) hX dX1_append_29 (by decide) ?_
  refine r_imulN hX dX1_append_30 ?_
  refine r_iload_n 1 hX dX1_append_31 rfl rfl ?_
  refine r_iaddN hX dX1_append_32 ?_
  refine cc_l5 hC dX1_append_33 (by omega) ?_
  refine r_eq (nI j) (hb) ?_
  refine cc_l8 hC dX1_append_34 (by omega) ?_
  refine r_eq (nI 6) (hl) ?_
  refine r_istore 5 (lv' := [_, _, _, _, _, _]) hX dX1_append_35 (Nat.le_of_ble_eq_true rfl) rfl ?_
  refine r_iload 5 hX dX1_append_37 rfl ?_
  refine r_bipush (nI 6) hX dX1_append_39 (by decide) ?_
  refine r_icmp_ltNF 47 hX dX1_append_41 (by decide) (by omega) ?_
  refine r_bipush (-7) hX dX1_append_44 (by decide) ?_
  exact hret _ _ _ _ dX1_append_46 (rfl) (rfl)
theorem m_append_ok (u : Pst) (f k s : Nat) (hf : f < 4) (hB : BI k u) (he : ¬ u 2 f = 0) (hn : cq_src u f = some s) (j : Nat) (hj : j < 20) (hb : u 5 (s * 4 + f) = nI j) (c : Nat) (hc : c < 6) (hl : u 8 j = nI c) (y : Int32) : mIC yX1_append cX1_append 6 .int 4 [.int (nI f), .int y] u (nI c) (cq_mut u f c y) := by
  refine e_IC (by decide) rfl (rfl) (Nat.le_of_ble_eq_true rfl) (by simp [fw_ci]) (fun X h hC hret => ?_)
  have hX := hC.ck
  refine r_lv (lv' := [some (.ref (h 0)), some (.int (nI f)), some (.int y), none, none, none]) rfl ?_
  have hs := (fi5_lt 5 s hn).1
  refine r_aload_n 0 hX dX1_append_0 rfl rfl ?_
  refine r_iload_n 1 hX dX1_append_1 rfl rfl ?_
  refine k_IC hC (m_refusal_ok u f k s hf hB he hn) kC_refusal rfl rfl (by decide) (Nat.le_of_ble_eq_true rfl) rfl dX1_append_2 ?_
  refine r_istore_n 3 (lv' := [_, _, _, _, _, _]) hX dX1_append_5 rfl (Nat.le_of_ble_eq_true rfl) rfl ?_
  refine r_iload_n 3 hX dX1_append_6 rfl rfl ?_
  refine r_if_eqT 12 hX dX1_append_7 (by decide) (rfl) ?_
  refine r_aload_n 0 hX dX1_append_12 rfl rfl ?_
  refine r_iload_n 1 hX dX1_append_13 rfl rfl ?_
  refine k_IC hC (m_source u f k hf hB) kC_source rfl rfl (by decide) (Nat.le_of_ble_eq_true rfl) rfl dX1_append_14 ?_
  refine r_eq (nI s) (by rw [hn]; rfl) ?_
  refine r_istore 4 (lv' := [_, _, _, _, _, _]) hX dX1_append_17 (Nat.le_of_ble_eq_true rfl) rfl ?_
  refine r_aload_n 0 hX dX1_append_19 rfl rfl ?_
  refine cc_g8 hC dX1_append_20 ?_
  refine r_aload_n 0 hX dX1_append_23 rfl rfl ?_
  refine cc_g5 hC dX1_append_24 ?_
  refine r_iload 4 hX dX1_append_27 rfl ?_
  refine r_iconst (nI 4) hX dX1_append_29 (by decide) ?_
  refine r_imulN hX dX1_append_30 ?_
  refine r_iload_n 1 hX dX1_append_31 rfl rfl ?_
  refine r_iaddN hX dX1_append_32 ?_
  refine cc_l5 hC dX1_append_33 (by omega) ?_
  refine r_eq (nI j) (hb) ?_
  refine cc_l8 hC dX1_append_34 (by omega) ?_
  refine r_eq (nI c) (hl) ?_
  refine r_istore 5 (lv' := [_, _, _, _, _, _]) hX dX1_append_35 (Nat.le_of_ble_eq_true rfl) rfl ?_
  refine r_iload 5 hX dX1_append_37 rfl ?_
  refine r_bipush (nI 6) hX dX1_append_39 (by decide) ?_
  refine r_icmp_ltNT 47 hX dX1_append_41 (by decide) (by omega) ?_
  refine r_aload_n 0 hX dX1_append_47 rfl rfl ?_
  refine r_iload_n 1 hX dX1_append_48 rfl rfl ?_
  refine r_iload 5 hX dX1_append_49 rfl ?_
  refine r_iload_n 2 hX dX1_append_51 rfl rfl ?_
  refine k_IC hC (m_mutate u f k hf hB c hc y) kC_mutate rfl rfl (by decide) (Nat.le_of_ble_eq_true rfl) rfl dX1_append_52 ?_
  refine r_pop hX dX1_append_55 rfl ?_
  refine r_iload 5 hX dX1_append_56 rfl ?_
  exact hret _ _ _ _ dX1_append_58 (rfl) (rfl)
theorem m_snapshot_bad1 (u : Pst) (x : Int32) (hx : x < 0 ∨ nI 4 ≤ x) (y : Int32) : mIC yX1_snapshot cX1_snapshot 7 .int 3 [.int x, .int y] u (-1) u := by
  refine e_IC (by decide) rfl (rfl) (Nat.le_of_ble_eq_true rfl) (by simp [fw_ci]) (fun X h hC hret => ?_)
  have hX := hC.ck
  refine r_lv (lv' := [some (.ref (h 0)), some (.int x), some (.int y), none, none, none, none]) rfl ?_
  refine r_iload_n 1 hX dX1_snapshot_0 rfl rfl ?_
  refine k_SC hC (m_badFile_y x hx) kC_badFile rfl (by decide) (Nat.le_of_ble_eq_true rfl) rfl dX1_snapshot_1 ?_
  refine r_if_neT 14 hX dX1_snapshot_4 (by decide) (by decide) ?_
  refine r_iconst (-1) hX dX1_snapshot_14 (by decide) ?_
  exact hret _ _ _ _ dX1_snapshot_15 (rfl) (rfl)
theorem m_snapshot_bad2 (u : Pst) (f : Nat) (hf : f < 4) (x : Int32) (hx : x < 0 ∨ nI 4 ≤ x) : mIC yX1_snapshot cX1_snapshot 7 .int 3 [.int (nI f), .int x] u (-1) u := by
  refine e_IC (by decide) rfl (rfl) (Nat.le_of_ble_eq_true rfl) (by simp [fw_ci]) (fun X h hC hret => ?_)
  have hX := hC.ck
  refine r_lv (lv' := [some (.ref (h 0)), some (.int (nI f)), some (.int x), none, none, none, none]) rfl ?_
  refine r_iload_n 1 hX dX1_snapshot_0 rfl rfl ?_
  refine k_SC hC (m_badFile_n f hf) kC_badFile rfl (by decide) (Nat.le_of_ble_eq_true rfl) rfl dX1_snapshot_1 ?_
  refine r_if_neF 14 hX dX1_snapshot_4 (by decide) (by decide) ?_
  refine r_iload_n 2 hX dX1_snapshot_7 rfl rfl ?_
  refine k_SC hC (m_badFile_y x hx) kC_badFile rfl (by decide) (Nat.le_of_ble_eq_true rfl) rfl dX1_snapshot_8 ?_
  refine r_if_eqF 16 hX dX1_snapshot_11 (by decide) (by decide) ?_
  refine r_iconst (-1) hX dX1_snapshot_14 (by decide) ?_
  exact hret _ _ _ _ dX1_snapshot_15 (rfl) (rfl)
theorem m_snapshot_no (u : Pst) (f g : Nat) (hf : f < 4) (hg : g < 4) (he : u 2 f = 0) : mIC yX1_snapshot cX1_snapshot 7 .int 3 [.int (nI f), .int (nI g)] u (-3) u := by
  refine e_IC (by decide) rfl (rfl) (Nat.le_of_ble_eq_true rfl) (by simp [fw_ci]) (fun X h hC hret => ?_)
  have hX := hC.ck
  refine r_lv (lv' := [some (.ref (h 0)), some (.int (nI f)), some (.int (nI g)), none, none, none, none]) rfl ?_
  refine r_iload_n 1 hX dX1_snapshot_0 rfl rfl ?_
  refine k_SC hC (m_badFile_n f hf) kC_badFile rfl (by decide) (Nat.le_of_ble_eq_true rfl) rfl dX1_snapshot_1 ?_
  refine r_if_neF 14 hX dX1_snapshot_4 (by decide) (by decide) ?_
  refine r_iload_n 2 hX dX1_snapshot_7 rfl rfl ?_
  refine k_SC hC (m_badFile_n g hg) kC_badFile rfl (by decide) (Nat.le_of_ble_eq_true rfl) rfl dX1_snapshot_8 ?_
  refine r_if_eqT 16 hX dX1_snapshot_11 (by decide) (by decide) ?_
  refine r_aload_n 0 hX dX1_snapshot_16 rfl rfl ?_
  refine cc_g2 hC dX1_snapshot_17 ?_
  refine r_iload_n 1 hX dX1_snapshot_20 rfl rfl ?_
  refine cc_l2 hC dX1_snapshot_21 (by omega) ?_
  refine r_if_neF 28 hX dX1_snapshot_22 (by decide) (he) ?_
  refine r_bipush (-3) hX dX1_snapshot_25 (by decide) ?_
  exact hret _ _ _ _ dX1_snapshot_27 (rfl) (rfl)
theorem m_snapshot_ex (u : Pst) (f g : Nat) (hf : f < 4) (hg : g < 4) (he : ¬ u 2 f = 0) (hg2 : ¬ u 2 g = 0) : mIC yX1_snapshot cX1_snapshot 7 .int 3 [.int (nI f), .int (nI g)] u (-2) u := by
  refine e_IC (by decide) rfl (rfl) (Nat.le_of_ble_eq_true rfl) (by simp [fw_ci]) (fun X h hC hret => ?_)
  have hX := hC.ck
  refine r_lv (lv' := [some (.ref (h 0)), some (.int (nI f)), some (.int (nI g)), none, none, none, none]) rfl ?_
  refine r_iload_n 1 hX dX1_snapshot_0 rfl rfl ?_
  refine k_SC hC (m_badFile_n f hf) kC_badFile rfl (by decide) (Nat.le_of_ble_eq_true rfl) rfl dX1_snapshot_1 ?_
  refine r_if_neF 14 hX dX1_snapshot_4 (by decide) (by decide) ?_
  refine r_iload_n 2 hX dX1_snapshot_7 rfl rfl ?_
  refine k_SC hC (m_badFile_n g hg) kC_badFile rfl (by decide) (Nat.le_of_ble_eq_true rfl) rfl dX1_snapshot_8 ?_
  refine r_if_eqT 16 hX dX1_snapshot_11 (by decide) (by decide) ?_
  refine r_aload_n 0 hX dX1_snapshot_16 rfl rfl ?_
  refine cc_g2 hC dX1_snapshot_17 ?_
  refine r_iload_n 1 hX dX1_snapshot_20 rfl rfl ?_
  refine cc_l2 hC dX1_snapshot_21 (by omega) ?_
  refine r_if_neT 28 hX dX1_snapshot_22 (by decide) (he) ?_
  refine r_aload_n 0 hX dX1_snapshot_28 rfl rfl ?_
  refine cc_g2 hC dX1_snapshot_29 ?_
  refine r_iload_n 2 hX dX1_snapshot_32 rfl rfl ?_
  refine cc_l2 hC dX1_snapshot_33 (by omega) ?_
  refine r_if_eqF 40 hX dX1_snapshot_34 (by decide) (hg2) ?_
  refine r_bipush (-2) hX dX1_snapshot_37 (by decide) ?_
  exact hret _ _ _ _ dX1_snapshot_39 (rfl) (rfl)
theorem m_snapshot_un (u : Pst) (f g : Nat) (hf : f < 4) (hg : g < 4) (k : Nat) (hB : BI k u) (he : ¬ u 2 f = 0) (hg2 : u 2 g = 0) (hn : cq_src u f = none) : mIC yX1_snapshot cX1_snapshot 7 .int 3 [.int (nI f), .int (nI g)] u (-5) u := by
  refine e_IC (by decide) rfl (rfl) (Nat.le_of_ble_eq_true rfl) (by simp [fw_ci]) (fun X h hC hret => ?_)
  have hX := hC.ck
  refine r_lv (lv' := [some (.ref (h 0)), some (.int (nI f)), some (.int (nI g)), none, none, none, none]) rfl ?_
  refine r_iload_n 1 hX dX1_snapshot_0 rfl rfl ?_
  refine k_SC hC (m_badFile_n f hf) kC_badFile rfl (by decide) (Nat.le_of_ble_eq_true rfl) rfl dX1_snapshot_1 ?_
  refine r_if_neF 14 hX dX1_snapshot_4 (by decide) (by decide) ?_
  refine r_iload_n 2 hX dX1_snapshot_7 rfl rfl ?_
  refine k_SC hC (m_badFile_n g hg) kC_badFile rfl (by decide) (Nat.le_of_ble_eq_true rfl) rfl dX1_snapshot_8 ?_
  refine r_if_eqT 16 hX dX1_snapshot_11 (by decide) (by decide) ?_
  refine r_aload_n 0 hX dX1_snapshot_16 rfl rfl ?_
  refine cc_g2 hC dX1_snapshot_17 ?_
  refine r_iload_n 1 hX dX1_snapshot_20 rfl rfl ?_
  refine cc_l2 hC dX1_snapshot_21 (by omega) ?_
  refine r_if_neT 28 hX dX1_snapshot_22 (by decide) (he) ?_
  refine r_aload_n 0 hX dX1_snapshot_28 rfl rfl ?_
  refine cc_g2 hC dX1_snapshot_29 ?_
  refine r_iload_n 2 hX dX1_snapshot_32 rfl rfl ?_
  refine cc_l2 hC dX1_snapshot_33 (by omega) ?_
  refine r_if_eqT 40 hX dX1_snapshot_34 (by decide) (hg2) ?_
  refine r_aload_n 0 hX dX1_snapshot_40 rfl rfl ?_
  refine r_iload_n 1 hX dX1_snapshot_41 rfl rfl ?_
  refine k_IC hC (m_source u f k hf hB) kC_source rfl rfl (by decide) (Nat.le_of_ble_eq_true rfl) rfl dX1_snapshot_42 ?_
  refine r_istore_n 3 (lv' := [_, _, _, _, _, _, _]) hX dX1_snapshot_45 rfl (Nat.le_of_ble_eq_true rfl) rfl ?_
  refine r_iload_n 3 hX dX1_snapshot_46 rfl rfl ?_
  refine r_if_geF 53 hX dX1_snapshot_47 (by decide) (by rw [hn]; decide) ?_
  refine r_bipush (-5) hX dX1_snapshot_50 (by decide) ?_
  exact hret _ _ _ _ dX1_snapshot_52 (rfl) (rfl)
theorem m_snapshot_ok (u : Pst) (f g : Nat) (hf : f < 4) (hg : g < 4) (k s : Nat) (hB : BI k u) (he : ¬ u 2 f = 0) (hg2 : u 2 g = 0) (hn : cq_src u f = some s) : mIC yX1_snapshot cX1_snapshot 7 .int 3 [.int (nI f), .int (nI g)] u (nI (pc5 (cq_set u f) 5)) (cq_snN (cq_ver (sU u 2 g (nI 1)) g) f g (cq_set u f) 5) := by
  refine e_IC (by decide) rfl (rfl) (Nat.le_of_ble_eq_true rfl) (by simp [fw_ci]) (fun X h hC hret => ?_)
  have hX := hC.ck
  refine r_lv (lv' := [some (.ref (h 0)), some (.int (nI f)), some (.int (nI g)), none, none, none, none]) rfl ?_
  have hs := (fi5_lt 5 s hn).1
  have hfg : f ≠ g := fun e => he (by rw [e]; exact hg2)
  have hset := cq_set_lt u f
  have hB0 : BI k (cq_ver (sU u 2 g (nI 1)) g) := BI_ver (BI_o (by decide) (by decide) hB)
  have hcur : ∀ s, s < 5 → cq_set u f / 2 ^ s % 2 = 1 → ∃ j, j < 20 ∧ u 5 (s * 4 + f) = nI j := fun s hs hb => by
    unfold cq_set at hb
    rw [mk5_bit 5 hs] at hb
    refine cur_5 hB hs hf ?_
    by_cases q : cq_cur u s f = true
    · exact q
    · simp [q] at hb
  refine r_iload_n 1 hX dX1_snapshot_0 rfl rfl ?_
  refine k_SC hC (m_badFile_n f hf) kC_badFile rfl (by decide) (Nat.le_of_ble_eq_true rfl) rfl dX1_snapshot_1 ?_
  refine r_if_neF 14 hX dX1_snapshot_4 (by decide) (by decide) ?_
  refine r_iload_n 2 hX dX1_snapshot_7 rfl rfl ?_
  refine k_SC hC (m_badFile_n g hg) kC_badFile rfl (by decide) (Nat.le_of_ble_eq_true rfl) rfl dX1_snapshot_8 ?_
  refine r_if_eqT 16 hX dX1_snapshot_11 (by decide) (by decide) ?_
  refine r_aload_n 0 hX dX1_snapshot_16 rfl rfl ?_
  refine cc_g2 hC dX1_snapshot_17 ?_
  refine r_iload_n 1 hX dX1_snapshot_20 rfl rfl ?_
  refine cc_l2 hC dX1_snapshot_21 (by omega) ?_
  refine r_if_neT 28 hX dX1_snapshot_22 (by decide) (he) ?_
  refine r_aload_n 0 hX dX1_snapshot_28 rfl rfl ?_
  refine cc_g2 hC dX1_snapshot_29 ?_
  refine r_iload_n 2 hX dX1_snapshot_32 rfl rfl ?_
  refine cc_l2 hC dX1_snapshot_33 (by omega) ?_
  refine r_if_eqT 40 hX dX1_snapshot_34 (by decide) (hg2) ?_
  refine r_aload_n 0 hX dX1_snapshot_40 rfl rfl ?_
  refine r_iload_n 1 hX dX1_snapshot_41 rfl rfl ?_
  refine k_IC hC (m_source u f k hf hB) kC_source rfl rfl (by decide) (Nat.le_of_ble_eq_true rfl) rfl dX1_snapshot_42 ?_
  refine r_eq (nI s) (by rw [hn]; rfl) ?_
  refine r_istore_n 3 (lv' := [_, _, _, _, _, _, _]) hX dX1_snapshot_45 rfl (Nat.le_of_ble_eq_true rfl) rfl ?_
  refine r_iload_n 3 hX dX1_snapshot_46 rfl rfl ?_
  refine r_if_geT 53 hX dX1_snapshot_47 (by decide) (nI_pos' (by omega)) ?_
  refine r_aload_n 0 hX dX1_snapshot_53 rfl rfl ?_
  refine r_iload_n 1 hX dX1_snapshot_54 rfl rfl ?_
  refine k_IC hC (m_currentSet u f k hf hB) kC_currentSet rfl rfl (by decide) (Nat.le_of_ble_eq_true rfl) rfl dX1_snapshot_55 ?_
  refine r_istore 4 (lv' := [_, _, _, _, _, _, _]) hX dX1_snapshot_58 (Nat.le_of_ble_eq_true rfl) rfl ?_
  refine r_aload_n 0 hX dX1_snapshot_60 rfl rfl ?_
  refine cc_g2 hC dX1_snapshot_61 ?_
  refine r_iload_n 2 hX dX1_snapshot_64 rfl rfl ?_
  refine r_iconst (nI 1) hX dX1_snapshot_65 (by decide) ?_
  refine cc_s2 hC dX1_snapshot_66 (by omega) (by decide) ?_
  refine r_aload_n 0 hX dX1_snapshot_67 rfl rfl ?_
  refine r_iload_n 2 hX dX1_snapshot_68 rfl rfl ?_
  refine k_VC hC (m_newVersion _ g hg) kC_newVersion rfl rfl (by decide) (Nat.le_of_ble_eq_true rfl) rfl dX1_snapshot_69 ?_
  refine r_iconst (nI 0) hX dX1_snapshot_72 (by decide) ?_
  refine r_istore 5 (lv' := [_, _, _, _, _, _, _]) hX dX1_snapshot_73 (Nat.le_of_ble_eq_true rfl) rfl ?_
  have loop : ∀ n i, i + n = 5 → CG X (cq_snN (cq_ver (sU u 2 g (nI 1)) g) f g (cq_set u f) i) 75 [some (.ref (h 0)), some (.int (nI f)), some (.int (nI g)), some (.int (nI s)), some (.int (nI (cq_set u f))), some (.int (nI i)), none] [] := by
    intro n
    induction n with
    | zero =>
      intro i hi
      obtain rfl : i = 5 := by omega
      refine r_iload 5 hX dX1_snapshot_75 rfl ?_
      refine r_iconst (nI 5) hX dX1_snapshot_77 (by decide) ?_
      refine r_icmp_geNT 159 hX dX1_snapshot_78 (by decide) (by omega) ?_
      refine r_iload 4 hX dX1_snapshot_159 rfl ?_
      refine k_SC hC (m_bits _ hset) kC_bits rfl (by decide) (Nat.le_of_ble_eq_true rfl) rfl dX1_snapshot_161 ?_
      exact hret _ _ _ _ dX1_snapshot_164 (rfl) (rfl)
    | succ n ih =>
      intro i hi
      refine r_iload 5 hX dX1_snapshot_75 rfl ?_
      refine r_iconst (nI 5) hX dX1_snapshot_77 (by decide) ?_
      refine r_icmp_geNF 159 hX dX1_snapshot_78 (by decide) (by omega) ?_
      refine r_iload 4 hX dX1_snapshot_81 rfl ?_
      refine r_iload 5 hX dX1_snapshot_83 rfl ?_
      refine r_ishr hX dX1_snapshot_85 ?_
      refine r_iconst (nI 1) hX dX1_snapshot_86 (by decide) ?_
      refine r_iand hX dX1_snapshot_87 ?_
      refine r_eq (nI (cq_set u f / 2 ^ i % 2)) (bt_shr _ hset i (by omega)) ?_
      refine r_iconst (nI 1) hX dX1_snapshot_88 (by decide) ?_
      refine r_icmp_neN 153 hX dX1_snapshot_89 (by decide) (by omega) (by omega) (fun c89 => ?_) (fun c89 => ?_)
      · refine r_iincN 5 (lv' := [_, _, _, _, _, _, _]) hX dX1_snapshot_153 rfl (Nat.le_of_ble_eq_true rfl) rfl ?_
        refine r_goto 75 hX dX1_snapshot_156 (by decide) ?_
        refine r_st (show _ = cq_snN (cq_ver (sU u 2 g (nI 1)) g) f g (cq_set u f) (i + 1) by simp [cq_snN, c89]) ?_
        exact ih (i + 1) (by omega)
      · obtain ⟨j, hj, hb0⟩ := hcur i (by omega) c89
        have hb1 : cq_snN (cq_ver (sU u 2 g (nI 1)) g) f g (cq_set u f) i 5 (i * 4 + f) = nI j := by rw [snN_5 hfg hf hg, ver_5, sU_n (by decide)]; exact hb0
        have hb : cq_let (cq_snN (cq_ver (sU u 2 g (nI 1)) g) f g (cq_set u f) i) (i * 4 + g) 5 (i * 4 + f) = nI j := by rw [let_5 (by omega)]; exact hb1
        have hcl : cl (cq_let (cq_snN (cq_ver (sU u 2 g (nI 1)) g) f g (cq_set u f) i) (i * 4 + g) 5 (i * 4 + f)) = j := by rw [hb]; exact fw_cl hj
        refine r_aload_n 0 hX dX1_snapshot_92 rfl rfl ?_
        refine r_iload 5 hX dX1_snapshot_93 rfl ?_
        refine r_iload_n 2 hX dX1_snapshot_95 rfl rfl ?_
        refine k_VC hC (m_letGo _ i g (by omega) hg ((BI_snN hf hB0 i (by omega)).2 _ (by omega))) kC_letGo rfl rfl (by decide) (Nat.le_of_ble_eq_true rfl) rfl dX1_snapshot_96 ?_
        refine r_aload_n 0 hX dX1_snapshot_99 rfl rfl ?_
        refine cc_g5 hC dX1_snapshot_100 ?_
        refine r_iload 5 hX dX1_snapshot_103 rfl ?_
        refine r_iconst (nI 4) hX dX1_snapshot_105 (by decide) ?_
        refine r_imulN hX dX1_snapshot_106 ?_
        refine r_iload_n 1 hX dX1_snapshot_107 rfl rfl ?_
        refine r_iaddN hX dX1_snapshot_108 ?_
        refine cc_l5 hC dX1_snapshot_109 (by omega) ?_
        refine r_eq (nI j) (hb) ?_
        refine r_istore 6 (lv' := [_, _, _, _, _, _, _]) hX dX1_snapshot_110 (Nat.le_of_ble_eq_true rfl) rfl ?_
        refine r_aload_n 0 hX dX1_snapshot_112 rfl rfl ?_
        refine cc_g10 hC dX1_snapshot_113 ?_
        refine r_iload 6 hX dX1_snapshot_116 rfl ?_
        refine r_dup2 hX dX1_snapshot_118 rfl rfl ?_
        refine cc_l10 hC dX1_snapshot_119 (by omega) ?_
        refine r_iconst (nI 1) hX dX1_snapshot_120 (by decide) ?_
        refine r_iadd hX dX1_snapshot_121 ?_
        refine cc_s10 hC dX1_snapshot_122 (by omega) ?_
        refine r_aload_n 0 hX dX1_snapshot_123 rfl rfl ?_
        refine cc_g5 hC dX1_snapshot_124 ?_
        refine r_iload 5 hX dX1_snapshot_127 rfl ?_
        refine r_iconst (nI 4) hX dX1_snapshot_129 (by decide) ?_
        refine r_imulN hX dX1_snapshot_130 ?_
        refine r_iload_n 2 hX dX1_snapshot_131 rfl rfl ?_
        refine r_iaddN hX dX1_snapshot_132 ?_
        refine r_iload 6 hX dX1_snapshot_133 rfl ?_
        refine cc_s5 hC dX1_snapshot_135 (by omega) ?_
        refine r_aload_n 0 hX dX1_snapshot_136 rfl rfl ?_
        refine cc_g6 hC dX1_snapshot_137 ?_
        refine r_iload 5 hX dX1_snapshot_140 rfl ?_
        refine r_iconst (nI 4) hX dX1_snapshot_142 (by decide) ?_
        refine r_imulN hX dX1_snapshot_143 ?_
        refine r_iload_n 2 hX dX1_snapshot_144 rfl rfl ?_
        refine r_iaddN hX dX1_snapshot_145 ?_
        refine r_aload_n 0 hX dX1_snapshot_146 rfl rfl ?_
        refine cc_g3 hC dX1_snapshot_147 ?_
        refine r_iload_n 2 hX dX1_snapshot_150 rfl rfl ?_
        refine cc_l3 hC dX1_snapshot_151 (by omega) ?_
        refine cc_s6 hC dX1_snapshot_152 (by omega) ?_
        refine r_iincN 5 (lv' := [_, _, _, _, _, _, _]) hX dX1_snapshot_153 rfl (Nat.le_of_ble_eq_true rfl) rfl ?_
        refine r_goto 75 hX dX1_snapshot_156 (by decide) ?_
        refine r_forget 6 (lv' := [_, _, _, _, _, _, none]) rfl ?_
        refine r_st (show _ = cq_snN (cq_ver (sU u 2 g (nI 1)) g) f g (cq_set u f) (i + 1) by simp [cq_snN, c89, cq_sh, hb, show cl (nI j) = j from fw_cl hj]) ?_
        exact ih (i + 1) (by omega)
  exact loop 5 0 rfl
end
section
theorem m_create_bad (u : Pst) (x : Int32) (hx : x < 0 ∨ nI 4 ≤ x) : mIC yX1_create cX1_create 8 .int 4 [.int x] u (-1) u := by
  refine e_IC (by decide) rfl (rfl) (Nat.le_of_ble_eq_true rfl) (by simp [fw_ci]) (fun X h hC hret => ?_)
  have hX := hC.ck
  refine r_lv (lv' := [some (.ref (h 0)), some (.int x), none, none, none, none, none, none]) rfl ?_
  refine r_iload_n 1 hX dX1_create_0 rfl rfl ?_
  refine k_SC hC (m_badFile_y x hx) kC_badFile rfl (by decide) (Nat.le_of_ble_eq_true rfl) rfl dX1_create_1 ?_
  refine r_if_eqF 9 hX dX1_create_4 (by decide) (by decide) ?_
  refine r_iconst (-1) hX dX1_create_7 (by decide) ?_
  exact hret _ _ _ _ dX1_create_8 (rfl) (rfl)
theorem m_create_ex (u : Pst) (f : Nat) (hf : f < 4) (he : ¬ u 2 f = 0) : mIC yX1_create cX1_create 8 .int 4 [.int (nI f)] u (-2) u := by
  refine e_IC (by decide) rfl (rfl) (Nat.le_of_ble_eq_true rfl) (by simp [fw_ci]) (fun X h hC hret => ?_)
  have hX := hC.ck
  refine r_lv (lv' := [some (.ref (h 0)), some (.int (nI f)), none, none, none, none, none, none]) rfl ?_
  refine r_iload_n 1 hX dX1_create_0 rfl rfl ?_
  refine k_SC hC (m_badFile_n f hf) kC_badFile rfl (by decide) (Nat.le_of_ble_eq_true rfl) rfl dX1_create_1 ?_
  refine r_if_eqT 9 hX dX1_create_4 (by decide) (by decide) ?_
  refine r_aload_n 0 hX dX1_create_9 rfl rfl ?_
  refine cc_g2 hC dX1_create_10 ?_
  refine r_iload_n 1 hX dX1_create_13 rfl rfl ?_
  refine cc_l2 hC dX1_create_14 (by omega) ?_
  refine r_if_eqF 21 hX dX1_create_15 (by decide) (he) ?_
  refine r_bipush (-2) hX dX1_create_18 (by decide) ?_
  exact hret _ _ _ _ dX1_create_20 (rfl) (rfl)
theorem m_create_ns (u : Pst) (f : Nat) (hf : f < 4) (he : u 2 f = 0) (hz : cq_ups u = 0) : mIC yX1_create cX1_create 8 .int 4 [.int (nI f)] u (-4) u := by
  refine e_IC (by decide) rfl (rfl) (Nat.le_of_ble_eq_true rfl) (by simp [fw_ci]) (fun X h hC hret => ?_)
  have hX := hC.ck
  refine r_lv (lv' := [some (.ref (h 0)), some (.int (nI f)), none, none, none, none, none, none]) rfl ?_
  refine r_iload_n 1 hX dX1_create_0 rfl rfl ?_
  refine k_SC hC (m_badFile_n f hf) kC_badFile rfl (by decide) (Nat.le_of_ble_eq_true rfl) rfl dX1_create_1 ?_
  refine r_if_eqT 9 hX dX1_create_4 (by decide) (by decide) ?_
  refine r_aload_n 0 hX dX1_create_9 rfl rfl ?_
  refine cc_g2 hC dX1_create_10 ?_
  refine r_iload_n 1 hX dX1_create_13 rfl rfl ?_
  refine cc_l2 hC dX1_create_14 (by omega) ?_
  refine r_if_eqT 21 hX dX1_create_15 (by decide) (he) ?_
  refine r_aload_n 0 hX dX1_create_21 rfl rfl ?_
  refine k_IC hC (m_upSet u) kC_upSet rfl rfl (by decide) (Nat.le_of_ble_eq_true rfl) rfl dX1_create_22 ?_
  refine r_istore_n 2 (lv' := [_, _, _, _, _, _, _, _]) hX dX1_create_25 rfl (Nat.le_of_ble_eq_true rfl) rfl ?_
  refine r_iload_n 2 hX dX1_create_26 rfl rfl ?_
  refine r_if_neF 33 hX dX1_create_27 (by decide) (by rw [hz]; rfl) ?_
  refine r_bipush (-4) hX dX1_create_30 (by decide) ?_
  exact hret _ _ _ _ dX1_create_32 (rfl) (rfl)
theorem m_create_ok (u : Pst) (f k : Nat) (hf : f < 4) (hB : BI k u) (hk : k ≤ 3) (he : u 2 f = 0) (hz : cq_ups u ≠ 0) : mIC yX1_create cX1_create 8 .int 4 [.int (nI f)] u (nI (cq_crL f k (cq_ups u) (cq_ver (sU u 2 f (nI 1)) f)).2) (cq_crL f k (cq_ups u) (cq_ver (sU u 2 f (nI 1)) f)).1 := by
  refine e_IC (by decide) rfl (rfl) (Nat.le_of_ble_eq_true rfl) (by simp [fw_ci]) (fun X h hC hret => ?_)
  have hX := hC.ck
  refine r_lv (lv' := [some (.ref (h 0)), some (.int (nI f)), none, none, none, none, none, none]) rfl ?_
  have hups := cq_ups_lt u
  have hB0 : BI k (cq_ver (sU u 2 f (nI 1)) f) := BI_ver (BI_o (by decide) (by decide) hB)
  have loop : ∀ n i m w, i + n = k → m < 32 → BI k w → nI (i + (cq_crL f n m w).2) = nI (cq_crL f k (cq_ups u) (cq_ver (sU u 2 f (nI 1)) f)).2 → (cq_crL f n m w).1 = (cq_crL f k (cq_ups u) (cq_ver (sU u 2 f (nI 1)) f)).1 → CG X w 50 [some (.ref (h 0)), some (.int (nI f)), some (.int (nI m)), some (.int (nI i)), some (.int (nI i)), none, none, none] [] := by
    intro n
    induction n with
    | zero =>
      intro i m w hi hm hBw hr hu
      obtain rfl : i = k := by omega
      refine r_iload 4 hX dX1_create_50 rfl ?_
      refine r_aload_n 0 hX dX1_create_52 rfl rfl ?_
      refine cc_g0 hC dX1_create_53 ?_
      refine r_eq (nI i) (hBw.1) ?_
      refine r_icmp_geNT 148 hX dX1_create_56 (by decide) (by omega) ?_
      refine r_iload_n 3 hX dX1_create_148 rfl rfl ?_
      exact hret _ _ _ _ dX1_create_149 (hr) (hu)
    | succ n ih =>
      intro i m w hi hm hBw hr hu
      refine r_iload 4 hX dX1_create_50 rfl ?_
      refine r_aload_n 0 hX dX1_create_52 rfl rfl ?_
      refine cc_g0 hC dX1_create_53 ?_
      refine r_eq (nI k) (hBw.1) ?_
      refine r_icmp_geNF 148 hX dX1_create_56 (by decide) (by omega) ?_
      refine r_iload_n 2 hX dX1_create_59 rfl rfl ?_
      refine r_if_eq 148 hX dX1_create_60 (by decide) (fun c60 => ?_) (fun c60 => ?_)
      · have hm0 : m = 0 := (nI_small m hm).mp c60
        subst hm0
        refine r_iload_n 3 hX dX1_create_148 rfl rfl ?_
        exact hret _ _ _ _ dX1_create_149 (hr) (hu)
      · have hm0 : m ≠ 0 := fun z => c60 ((nI_small m hm).mpr z)
        obtain ⟨s, hs, hfs, hbit⟩ := fst_ex (u := w) hm hm0
        have hnb : cq_newB w s f < 20 := (cq_fb_lt hs).2.2
        have hstep : cq_crL f (n + 1) m w = ((cq_crL f n (m - 2 ^ s) (cq_mk w s f)).1, (cq_crL f n (m - 2 ^ s) (cq_mk w s f)).2 + 1) := by simp only [cq_crL, hm0, hfs, if_false]
        rw [hstep] at hr hu
        refine r_aload_n 0 hX dX1_create_63 rfl rfl ?_
        refine r_iload_n 2 hX dX1_create_64 rfl rfl ?_
        refine k_IC hC (m_firstOf w m k hm hBw) kC_firstOf rfl rfl (by decide) (Nat.le_of_ble_eq_true rfl) rfl dX1_create_65 ?_
        refine r_eq (nI s) (by rw [hfs]; rfl) ?_
        refine r_istore 5 (lv' := [_, _, _, _, _, _, _, _]) hX dX1_create_68 (Nat.le_of_ble_eq_true rfl) rfl ?_
        refine r_iload_n 2 hX dX1_create_70 rfl rfl ?_
        refine r_iconst (nI 1) hX dX1_create_71 (by decide) ?_
        refine r_iload 5 hX dX1_create_72 rfl ?_
        refine r_ishl hX dX1_create_74 ?_
        refine r_iconst (-1) hX dX1_create_75 (by decide) ?_
        refine r_ixor hX dX1_create_76 ?_
        refine r_iand hX dX1_create_77 ?_
        refine r_eq (nI (m - 2 ^ s)) (bt_del m hm s hs hbit) ?_
        refine r_istore_n 2 (lv' := [_, _, _, _, _, _, _, _]) hX dX1_create_78 rfl (Nat.le_of_ble_eq_true rfl) rfl ?_
        refine r_aload_n 0 hX dX1_create_79 rfl rfl ?_
        refine r_iload 5 hX dX1_create_80 rfl ?_
        refine r_iload_n 1 hX dX1_create_82 rfl rfl ?_
        refine k_IC hC (m_newReplica w s f hs hf (hBw.2 _ (by omega))) kC_newReplica rfl rfl (by decide) (Nat.le_of_ble_eq_true rfl) rfl dX1_create_83 ?_
        refine r_istore 6 (lv' := [_, _, _, _, _, _, _, _]) hX dX1_create_86 (Nat.le_of_ble_eq_true rfl) rfl ?_
        refine r_iconst (nI 0) hX dX1_create_88 (by decide) ?_
        refine r_istore 7 (lv' := [_, _, _, _, _, _, _, _]) hX dX1_create_89 (Nat.le_of_ble_eq_true rfl) rfl ?_
        have inner : ∀ n2 i2, i2 + n2 = 6 → CG X (cq_zN (cq_newS w s f) (cq_newB w s f) i2) 91 [some (.ref (h 0)), some (.int (nI f)), some (.int (nI (m - 2 ^ s))), some (.int (nI i)), some (.int (nI i)), some (.int (nI s)), some (.int (nI (cq_newB w s f))), some (.int (nI i2))] [] := by
          intro n2
          induction n2 with
          | zero =>
            intro i2 hi2
            obtain rfl : i2 = 6 := by omega
            refine r_iload 7 hX dX1_create_91 rfl ?_
            refine r_bipush (nI 6) hX dX1_create_93 (by decide) ?_
            refine r_icmp_geNT 118 hX dX1_create_95 (by decide) (by omega) ?_
            refine r_aload_n 0 hX dX1_create_118 rfl rfl ?_
            refine cc_g8 hC dX1_create_119 ?_
            refine r_iload 6 hX dX1_create_122 rfl ?_
            refine r_iconst (nI 0) hX dX1_create_124 (by decide) ?_
            refine cc_s8 hC dX1_create_125 (by omega) ?_
            refine r_aload_n 0 hX dX1_create_126 rfl rfl ?_
            refine cc_g9 hC dX1_create_127 ?_
            refine r_iload 6 hX dX1_create_130 rfl ?_
            refine r_aload_n 0 hX dX1_create_132 rfl rfl ?_
            refine r_iload 6 hX dX1_create_133 rfl ?_
            refine k_IC hC (m_sumOf _ _ hnb) kC_sumOf rfl rfl (by decide) (Nat.le_of_ble_eq_true rfl) rfl dX1_create_135 ?_
            refine cc_s9 hC dX1_create_138 (by omega) ?_
            refine r_iincN 3 (lv' := [_, _, _, _, _, _, _, _]) hX dX1_create_139 rfl (Nat.le_of_ble_eq_true rfl) rfl ?_
            refine r_iincN 4 (lv' := [_, _, _, _, _, _, _, _]) hX dX1_create_142 rfl (Nat.le_of_ble_eq_true rfl) rfl ?_
            refine r_goto 50 hX dX1_create_145 (by decide) ?_
            refine r_forget 5 (lv' := [_, _, _, _, _, none, _, _]) rfl ?_
            refine r_forget 6 (lv' := [_, _, _, _, _, _, none, _]) rfl ?_
            refine r_forget 7 (lv' := [_, _, _, _, _, _, _, none]) rfl ?_
            exact ih (i + 1) (m - 2 ^ s) (cq_mk w s f) (by omega) (Nat.lt_of_le_of_lt (Nat.sub_le _ _) hm) (BI_mk hs hBw) (by rw [← hr]; congr 1; omega) hu
          | succ n2 ih2 =>
            intro i2 hi2
            refine r_iload 7 hX dX1_create_91 rfl ?_
            refine r_bipush (nI 6) hX dX1_create_93 (by decide) ?_
            refine r_icmp_geNF 118 hX dX1_create_95 (by decide) (by omega) ?_
            refine r_aload_n 0 hX dX1_create_98 rfl rfl ?_
            refine cc_g7 hC dX1_create_99 ?_
            refine r_iload 6 hX dX1_create_102 rfl ?_
            refine r_bipush (nI 6) hX dX1_create_104 (by decide) ?_
            refine r_imulN hX dX1_create_106 ?_
            refine r_iload 7 hX dX1_create_107 rfl ?_
            refine r_iaddN hX dX1_create_109 ?_
            refine r_iconst (nI 0) hX dX1_create_110 (by decide) ?_
            refine cc_s7 hC dX1_create_111 (by omega) ?_
            refine r_iincN 7 (lv' := [_, _, _, _, _, _, _, _]) hX dX1_create_112 rfl (Nat.le_of_ble_eq_true rfl) rfl ?_
            refine r_goto 91 hX dX1_create_115 (by decide) ?_
            exact ih2 (i2 + 1) (by omega)
        exact inner 6 0 rfl
  refine r_iload_n 1 hX dX1_create_0 rfl rfl ?_
  refine k_SC hC (m_badFile_n f hf) kC_badFile rfl (by decide) (Nat.le_of_ble_eq_true rfl) rfl dX1_create_1 ?_
  refine r_if_eqT 9 hX dX1_create_4 (by decide) (by decide) ?_
  refine r_aload_n 0 hX dX1_create_9 rfl rfl ?_
  refine cc_g2 hC dX1_create_10 ?_
  refine r_iload_n 1 hX dX1_create_13 rfl rfl ?_
  refine cc_l2 hC dX1_create_14 (by omega) ?_
  refine r_if_eqT 21 hX dX1_create_15 (by decide) (he) ?_
  refine r_aload_n 0 hX dX1_create_21 rfl rfl ?_
  refine k_IC hC (m_upSet u) kC_upSet rfl rfl (by decide) (Nat.le_of_ble_eq_true rfl) rfl dX1_create_22 ?_
  refine r_istore_n 2 (lv' := [_, _, _, _, _, _, _, _]) hX dX1_create_25 rfl (Nat.le_of_ble_eq_true rfl) rfl ?_
  refine r_iload_n 2 hX dX1_create_26 rfl rfl ?_
  refine r_if_neT 33 hX dX1_create_27 (by decide) (fun z => hz ((nI_small _ hups).mp z)) ?_
  refine r_aload_n 0 hX dX1_create_33 rfl rfl ?_
  refine cc_g2 hC dX1_create_34 ?_
  refine r_iload_n 1 hX dX1_create_37 rfl rfl ?_
  refine r_iconst (nI 1) hX dX1_create_38 (by decide) ?_
  refine cc_s2 hC dX1_create_39 (by omega) (by decide) ?_
  refine r_aload_n 0 hX dX1_create_40 rfl rfl ?_
  refine r_iload_n 1 hX dX1_create_41 rfl rfl ?_
  refine k_VC hC (m_newVersion _ f hf) kC_newVersion rfl rfl (by decide) (Nat.le_of_ble_eq_true rfl) rfl dX1_create_42 ?_
  refine r_iconst (nI 0) hX dX1_create_45 (by decide) ?_
  refine r_istore_n 3 (lv' := [_, _, _, _, _, _, _, _]) hX dX1_create_46 rfl (Nat.le_of_ble_eq_true rfl) rfl ?_
  refine r_iconst (nI 0) hX dX1_create_47 (by decide) ?_
  refine r_istore 4 (lv' := [_, _, _, _, _, _, _, _]) hX dX1_create_48 (Nat.le_of_ble_eq_true rfl) rfl ?_
  exact loop k 0 _ _ (by omega) hups hB0 (by rw [Nat.zero_add]) rfl
theorem m_healFile_un (u : Pst) (f k : Nat) (hf : f < 4) (hB : BI k u) (hn : cq_src u f = none) : mIC yX1_healFile cX1_healFile 10 .int 4 [.int (nI f)] u (nI (cq_hf u f k).2) (cq_hf u f k).1 := by
  refine e_IC (by decide) rfl (rfl) (Nat.le_of_ble_eq_true rfl) (by simp [fw_ci]) (fun X h hC hret => ?_)
  have hX := hC.ck
  refine r_lv (lv' := [some (.ref (h 0)), some (.int (nI f)), none, none, none, none, none, none, none, none]) rfl ?_
  refine r_aload_n 0 hX dX1_healFile_0 rfl rfl ?_
  refine r_iload_n 1 hX dX1_healFile_1 rfl rfl ?_
  refine k_IC hC (m_source u f k hf hB) kC_source rfl rfl (by decide) (Nat.le_of_ble_eq_true rfl) rfl dX1_healFile_2 ?_
  refine r_istore_n 2 (lv' := [_, _, _, _, _, _, _, _, _, _]) hX dX1_healFile_5 rfl (Nat.le_of_ble_eq_true rfl) rfl ?_
  refine r_iload_n 2 hX dX1_healFile_6 rfl rfl ?_
  refine r_if_geF 12 hX dX1_healFile_7 (by decide) (by rw [hn]; decide) ?_
  refine r_iconst (nI 0) hX dX1_healFile_10 (by decide) ?_
  exact hret _ _ _ _ dX1_healFile_11 (by simp [cq_hf, hn]) (by simp [cq_hf, hn])
theorem m_healFile_ok (u : Pst) (f k s : Nat) (hf : f < 4) (hB : BI k u) (hk : k ≤ 3) (hn : cq_src u f = some s) : mIC yX1_healFile cX1_healFile 10 .int 4 [.int (nI f)] u (nI (cq_hf u f k).2) (cq_hf u f k).1 := by
  refine e_IC (by decide) rfl (rfl) (Nat.le_of_ble_eq_true rfl) (by simp [fw_ci]) (fun X h hC hret => ?_)
  have hX := hC.ck
  refine r_lv (lv' := [some (.ref (h 0)), some (.int (nI f)), none, none, none, none, none, none, none, none]) rfl ?_
  obtain ⟨hs, hsc⟩ := fi5_lt 5 s hn
  have hsc : cq_cur u s f = true := by
    simp only [Bool.and_eq_true] at hsc
    exact hsc.2
  have he : cq_hf u f k = cq_hfN u f s k k := by simp only [cq_hf, hn]
  have loop : ∀ n i, i + n = k → (∃ j, j < 20 ∧ (cq_hfN u f s k i).1 5 (s * 4 + f) = nI j) → CG X (cq_hfN u f s k i).1 17 [some (.ref (h 0)), some (.int (nI f)), some (.int (nI s)), some (.int (nI (cq_hfN u f s k i).2)), some (.int (nI i)), none, none, none, none, none] [] := by
    intro n
    induction n with
    | zero =>
      intro i hi hj5
      obtain rfl : i = k := by omega
      refine r_iload 4 hX dX1_healFile_17 rfl ?_
      refine r_aload_n 0 hX dX1_healFile_19 rfl rfl ?_
      refine cc_g0 hC dX1_healFile_20 ?_
      refine r_eq (nI i) ((BI_hfN hB i).1) ?_
      refine r_icmp_geNT 110 hX dX1_healFile_23 (by decide) (by omega) ?_
      refine r_iload_n 3 hX dX1_healFile_110 rfl rfl ?_
      exact hret _ _ _ _ dX1_healFile_111 (by rw [he]) (by rw [he])
    | succ n ih =>
      intro i hi hj5
      have hBi : BI k (cq_hfN u f s k i).1 := BI_hfN hB i
      have hset := cq_set_lt (cq_hfN u f s k i).1 f
      have hups := cq_ups_lt (cq_hfN u f s k i).1
      obtain ⟨ha1, ha2⟩ := bt_andn _ hups _ hset
      obtain ⟨hb1, hb2⟩ := bt_and _ hups _ hset
      have hpc := pc5_le (cq_ups (cq_hfN u f s k i).1 &&& cq_set (cq_hfN u f s k i).1 f) 5
      cases ho : cq_fst (cq_hfN u f s k i).1 (cq_ups (cq_hfN u f s k i).1 &&& (31 ^^^ cq_set (cq_hfN u f s k i).1 f)) with
      | none =>
        have he1 : cq_hfN u f s k (i + 1) = (cq_hfN u f s k i) := by simp only [cq_hfN, ho]
        have hj6 := hj5
        refine r_iload 4 hX dX1_healFile_17 rfl ?_
        refine r_aload_n 0 hX dX1_healFile_19 rfl rfl ?_
        refine cc_g0 hC dX1_healFile_20 ?_
        refine r_eq (nI k) (hBi.1) ?_
        refine r_icmp_geNF 110 hX dX1_healFile_23 (by decide) (by omega) ?_
        refine r_aload_n 0 hX dX1_healFile_26 rfl rfl ?_
        refine k_IC hC (m_upSet _) kC_upSet rfl rfl (by decide) (Nat.le_of_ble_eq_true rfl) rfl dX1_healFile_27 ?_
        refine r_istore 5 (lv' := [_, _, _, _, _, _, _, _, _, _]) hX dX1_healFile_30 (Nat.le_of_ble_eq_true rfl) rfl ?_
        refine r_aload_n 0 hX dX1_healFile_32 rfl rfl ?_
        refine r_iload_n 1 hX dX1_healFile_33 rfl rfl ?_
        refine k_IC hC (m_currentSet _ f k hf hBi) kC_currentSet rfl rfl (by decide) (Nat.le_of_ble_eq_true rfl) rfl dX1_healFile_34 ?_
        refine r_istore 6 (lv' := [_, _, _, _, _, _, _, _, _, _]) hX dX1_healFile_37 (Nat.le_of_ble_eq_true rfl) rfl ?_
        refine r_aload_n 0 hX dX1_healFile_39 rfl rfl ?_
        refine r_iload 5 hX dX1_healFile_40 rfl ?_
        refine r_iload 6 hX dX1_healFile_42 rfl ?_
        refine r_iconst (-1) hX dX1_healFile_44 (by decide) ?_
        refine r_ixor hX dX1_healFile_45 ?_
        refine r_iand hX dX1_healFile_46 ?_
        refine r_eq (nI (cq_ups (cq_hfN u f s k i).1 &&& (31 ^^^ cq_set (cq_hfN u f s k i).1 f))) (ha1) ?_
        refine k_IC hC (m_firstOf _ _ k ha2 hBi) kC_firstOf rfl rfl (by decide) (Nat.le_of_ble_eq_true rfl) rfl dX1_healFile_47 ?_
        refine r_eq (-1) (by rw [ho]; rfl) ?_
        refine r_istore 7 (lv' := [_, _, _, _, _, _, _, _, _, _]) hX dX1_healFile_50 (Nat.le_of_ble_eq_true rfl) rfl ?_
        refine r_iload 5 hX dX1_healFile_52 rfl ?_
        refine r_iload 6 hX dX1_healFile_54 rfl ?_
        refine r_iand hX dX1_healFile_56 ?_
        refine r_eq (nI (cq_ups (cq_hfN u f s k i).1 &&& cq_set (cq_hfN u f s k i).1 f)) (hb1) ?_
        refine k_SC hC (m_bits _ hb2) kC_bits rfl (by decide) (Nat.le_of_ble_eq_true rfl) rfl dX1_healFile_57 ?_
        refine r_istore 8 (lv' := [_, _, _, _, _, _, _, _, _, _]) hX dX1_healFile_60 (Nat.le_of_ble_eq_true rfl) rfl ?_
        refine r_iload 8 hX dX1_healFile_62 rfl ?_
        refine r_aload_n 0 hX dX1_healFile_64 rfl rfl ?_
        refine cc_g0 hC dX1_healFile_65 ?_
        refine r_eq (nI k) (hBi.1) ?_
        refine r_icmp_geN 104 hX dX1_healFile_68 (by decide) (by omega) (by omega) (fun c68 => ?_) (fun c68 => ?_)
        · refine r_iincN 4 (lv' := [_, _, _, _, _, _, _, _, _, _]) hX dX1_healFile_104 rfl (Nat.le_of_ble_eq_true rfl) rfl ?_
          refine r_goto 17 hX dX1_healFile_107 (by decide) ?_
          refine r_forget 5 (lv' := [_, _, _, _, _, none, _, _, _, _]) rfl ?_
          refine r_forget 6 (lv' := [_, _, _, _, _, _, none, _, _, _]) rfl ?_
          refine r_forget 7 (lv' := [_, _, _, _, _, _, _, none, _, _]) rfl ?_
          refine r_forget 8 (lv' := [_, _, _, _, _, _, _, _, none, _]) rfl ?_
          rw [← he1]
          exact ih (i + 1) (by omega) (by rw [he1]; exact hj6)
        · refine r_iload 7 hX dX1_healFile_71 rfl ?_
          refine r_if_ltT 104 hX dX1_healFile_73 (by decide) (by decide) ?_
          refine r_iincN 4 (lv' := [_, _, _, _, _, _, _, _, _, _]) hX dX1_healFile_104 rfl (Nat.le_of_ble_eq_true rfl) rfl ?_
          refine r_goto 17 hX dX1_healFile_107 (by decide) ?_
          refine r_forget 5 (lv' := [_, _, _, _, _, none, _, _, _, _]) rfl ?_
          refine r_forget 6 (lv' := [_, _, _, _, _, _, none, _, _, _]) rfl ?_
          refine r_forget 7 (lv' := [_, _, _, _, _, _, _, none, _, _]) rfl ?_
          refine r_forget 8 (lv' := [_, _, _, _, _, _, _, _, none, _]) rfl ?_
          rw [← he1]
          exact ih (i + 1) (by omega) (by rw [he1]; exact hj6)
      | some t =>
        obtain ⟨ht, -⟩ := cq_fst_lt ho
        have hnb : cq_newB (cq_hfN u f s k i).1 t f < 20 := (cq_fb_lt ht).2.2
        obtain ⟨j, hj, hjn⟩ := rep_5 hBi ht hf hs hj5
        have hcl : cl (cq_newS (cq_hfN u f s k i).1 t f 5 (s * 4 + f)) = j := by rw [hjn]; exact fw_cl hj
        refine r_iload 4 hX dX1_healFile_17 rfl ?_
        refine r_aload_n 0 hX dX1_healFile_19 rfl rfl ?_
        refine cc_g0 hC dX1_healFile_20 ?_
        refine r_eq (nI k) (hBi.1) ?_
        refine r_icmp_geNF 110 hX dX1_healFile_23 (by decide) (by omega) ?_
        refine r_aload_n 0 hX dX1_healFile_26 rfl rfl ?_
        refine k_IC hC (m_upSet _) kC_upSet rfl rfl (by decide) (Nat.le_of_ble_eq_true rfl) rfl dX1_healFile_27 ?_
        refine r_istore 5 (lv' := [_, _, _, _, _, _, _, _, _, _]) hX dX1_healFile_30 (Nat.le_of_ble_eq_true rfl) rfl ?_
        refine r_aload_n 0 hX dX1_healFile_32 rfl rfl ?_
        refine r_iload_n 1 hX dX1_healFile_33 rfl rfl ?_
        refine k_IC hC (m_currentSet _ f k hf hBi) kC_currentSet rfl rfl (by decide) (Nat.le_of_ble_eq_true rfl) rfl dX1_healFile_34 ?_
        refine r_istore 6 (lv' := [_, _, _, _, _, _, _, _, _, _]) hX dX1_healFile_37 (Nat.le_of_ble_eq_true rfl) rfl ?_
        refine r_aload_n 0 hX dX1_healFile_39 rfl rfl ?_
        refine r_iload 5 hX dX1_healFile_40 rfl ?_
        refine r_iload 6 hX dX1_healFile_42 rfl ?_
        refine r_iconst (-1) hX dX1_healFile_44 (by decide) ?_
        refine r_ixor hX dX1_healFile_45 ?_
        refine r_iand hX dX1_healFile_46 ?_
        refine r_eq (nI (cq_ups (cq_hfN u f s k i).1 &&& (31 ^^^ cq_set (cq_hfN u f s k i).1 f))) (ha1) ?_
        refine k_IC hC (m_firstOf _ _ k ha2 hBi) kC_firstOf rfl rfl (by decide) (Nat.le_of_ble_eq_true rfl) rfl dX1_healFile_47 ?_
        refine r_eq (nI t) (by rw [ho]; rfl) ?_
        refine r_istore 7 (lv' := [_, _, _, _, _, _, _, _, _, _]) hX dX1_healFile_50 (Nat.le_of_ble_eq_true rfl) rfl ?_
        refine r_iload 5 hX dX1_healFile_52 rfl ?_
        refine r_iload 6 hX dX1_healFile_54 rfl ?_
        refine r_iand hX dX1_healFile_56 ?_
        refine r_eq (nI (cq_ups (cq_hfN u f s k i).1 &&& cq_set (cq_hfN u f s k i).1 f)) (hb1) ?_
        refine k_SC hC (m_bits _ hb2) kC_bits rfl (by decide) (Nat.le_of_ble_eq_true rfl) rfl dX1_healFile_57 ?_
        refine r_istore 8 (lv' := [_, _, _, _, _, _, _, _, _, _]) hX dX1_healFile_60 (Nat.le_of_ble_eq_true rfl) rfl ?_
        refine r_iload 8 hX dX1_healFile_62 rfl ?_
        refine r_aload_n 0 hX dX1_healFile_64 rfl rfl ?_
        refine cc_g0 hC dX1_healFile_65 ?_
        refine r_eq (nI k) (hBi.1) ?_
        refine r_icmp_geN 104 hX dX1_healFile_68 (by decide) (by omega) (by omega) (fun c68 => ?_) (fun c68 => ?_)
        · have he1 : cq_hfN u f s k (i + 1) = (cq_hfN u f s k i) := by simp only [cq_hfN, ho]; rw [if_neg (Nat.not_lt.mpr c68)]
          have hj6 := hj5
          refine r_iincN 4 (lv' := [_, _, _, _, _, _, _, _, _, _]) hX dX1_healFile_104 rfl (Nat.le_of_ble_eq_true rfl) rfl ?_
          refine r_goto 17 hX dX1_healFile_107 (by decide) ?_
          refine r_forget 5 (lv' := [_, _, _, _, _, none, _, _, _, _]) rfl ?_
          refine r_forget 6 (lv' := [_, _, _, _, _, _, none, _, _, _]) rfl ?_
          refine r_forget 7 (lv' := [_, _, _, _, _, _, _, none, _, _]) rfl ?_
          refine r_forget 8 (lv' := [_, _, _, _, _, _, _, _, none, _]) rfl ?_
          have q := ih (i + 1) (by omega) (by rw [he1]; exact hj6)
          rw [he1] at q
          exact q
        · have he1 : cq_hfN u f s k (i + 1) = (cq_cp (cq_newS (cq_hfN u f s k i).1 t f) j (cq_newB (cq_hfN u f s k i).1 t f), (cq_hfN u f s k i).2 + 1) := by simp only [cq_hfN, ho]; rw [if_pos c68, cq_rep, hcl]
          have hj6 : ∃ j', j' < 20 ∧ cq_cp (cq_newS (cq_hfN u f s k i).1 t f) j (cq_newB (cq_hfN u f s k i).1 t f) 5 (s * 4 + f) = nI j' := by rw [cp_5]; exact ⟨j, hj, hjn⟩
          refine r_iload 7 hX dX1_healFile_71 rfl ?_
          refine r_if_ltF 104 hX dX1_healFile_73 (by decide) (nI_pos (by omega)) ?_
          refine r_aload_n 0 hX dX1_healFile_76 rfl rfl ?_
          refine r_iload 7 hX dX1_healFile_77 rfl ?_
          refine r_iload_n 1 hX dX1_healFile_79 rfl rfl ?_
          refine k_IC hC (m_newReplica _ t f ht hf (hBi.2 _ (by omega))) kC_newReplica rfl rfl (by decide) (Nat.le_of_ble_eq_true rfl) rfl dX1_healFile_80 ?_
          refine r_istore 9 (lv' := [_, _, _, _, _, _, _, _, _, _]) hX dX1_healFile_83 (Nat.le_of_ble_eq_true rfl) rfl ?_
          refine r_aload_n 0 hX dX1_healFile_85 rfl rfl ?_
          refine r_aload_n 0 hX dX1_healFile_86 rfl rfl ?_
          refine cc_g5 hC dX1_healFile_87 ?_
          refine r_iload_n 2 hX dX1_healFile_90 rfl rfl ?_
          refine r_iconst (nI 4) hX dX1_healFile_91 (by decide) ?_
          refine r_imulN hX dX1_healFile_92 ?_
          refine r_iload_n 1 hX dX1_healFile_93 rfl rfl ?_
          refine r_iaddN hX dX1_healFile_94 ?_
          refine cc_l5 hC dX1_healFile_95 (by omega) ?_
          refine r_eq (nI j) (hjn) ?_
          refine r_iload 9 hX dX1_healFile_96 rfl ?_
          refine k_VC hC (m_copyBlock _ j _ hj hnb) kC_copyBlock rfl rfl (by decide) (Nat.le_of_ble_eq_true rfl) rfl dX1_healFile_98 ?_
          refine r_iincN 3 (lv' := [_, _, _, _, _, _, _, _, _, _]) hX dX1_healFile_101 rfl (Nat.le_of_ble_eq_true rfl) rfl ?_
          refine r_iincN 4 (lv' := [_, _, _, _, _, _, _, _, _, _]) hX dX1_healFile_104 rfl (Nat.le_of_ble_eq_true rfl) rfl ?_
          refine r_goto 17 hX dX1_healFile_107 (by decide) ?_
          refine r_forget 5 (lv' := [_, _, _, _, _, none, _, _, _, _]) rfl ?_
          refine r_forget 6 (lv' := [_, _, _, _, _, _, none, _, _, _]) rfl ?_
          refine r_forget 7 (lv' := [_, _, _, _, _, _, _, none, _, _]) rfl ?_
          refine r_forget 8 (lv' := [_, _, _, _, _, _, _, _, none, _]) rfl ?_
          refine r_forget 9 (lv' := [_, _, _, _, _, _, _, _, _, none]) rfl ?_
          have q := ih (i + 1) (by omega) (by rw [he1]; exact hj6)
          rw [he1] at q
          exact q
  refine r_aload_n 0 hX dX1_healFile_0 rfl rfl ?_
  refine r_iload_n 1 hX dX1_healFile_1 rfl rfl ?_
  refine k_IC hC (m_source u f k hf hB) kC_source rfl rfl (by decide) (Nat.le_of_ble_eq_true rfl) rfl dX1_healFile_2 ?_
  refine r_eq (nI s) (by rw [hn]; rfl) ?_
  refine r_istore_n 2 (lv' := [_, _, _, _, _, _, _, _, _, _]) hX dX1_healFile_5 rfl (Nat.le_of_ble_eq_true rfl) rfl ?_
  refine r_iload_n 2 hX dX1_healFile_6 rfl rfl ?_
  refine r_if_geT 12 hX dX1_healFile_7 (by decide) (nI_pos' (by omega)) ?_
  refine r_iconst (nI 0) hX dX1_healFile_12 (by decide) ?_
  refine r_istore_n 3 (lv' := [_, _, _, _, _, _, _, _, _, _]) hX dX1_healFile_13 rfl (Nat.le_of_ble_eq_true rfl) rfl ?_
  refine r_iconst (nI 0) hX dX1_healFile_14 (by decide) ?_
  refine r_istore 4 (lv' := [_, _, _, _, _, _, _, _, _, _]) hX dX1_healFile_15 (Nat.le_of_ble_eq_true rfl) rfl ?_
  exact loop k 0 (by omega) (cur_5 hB hs hf hsc)
theorem m_healFile (u : Pst) (f k : Nat) (hf : f < 4) (hB : BI k u) (hk : k ≤ 3) : mIC yX1_healFile cX1_healFile 10 .int 4 [.int (nI f)] u (nI (cq_hf u f k).2) (cq_hf u f k).1 := by
  cases hn : cq_src u f with
  | none => exact m_healFile_un u f k hf hB hn
  | some s => exact m_healFile_ok u f k s hf hB hk hn
theorem m_heal (u : Pst) (k : Nat) (hB : BI k u) (hk : k ≤ 3) : mIC yX1_heal cX1_heal 3 .int 5 [] u (nI (cq_heN u k 4).2) (cq_heN u k 4).1 := by
  refine e_IC (by decide) rfl (rfl) (Nat.le_of_ble_eq_true rfl) (by simp [fw_ci]) (fun X h hC hret => ?_)
  have hX := hC.ck
  refine r_lv (lv' := [some (.ref (h 0)), none, none]) rfl ?_
  refine r_iconst (nI 0) hX dX1_heal_0 (by decide) ?_
  refine r_istore_n 1 (lv' := [_, _, _]) hX dX1_heal_1 rfl (Nat.le_of_ble_eq_true rfl) rfl ?_
  refine r_iconst (nI 0) hX dX1_heal_2 (by decide) ?_
  refine r_istore_n 2 (lv' := [_, _, _]) hX dX1_heal_3 rfl (Nat.le_of_ble_eq_true rfl) rfl ?_
  have loop : ∀ n i, i + n = 4 → CG X ((cq_heN u k i).1) 4 [some (.ref (h 0)), some (.int (nI (cq_heN u k i).2)), some (.int (nI i))] [] := by
    intro n
    induction n with
    | zero =>
      intro i hi
      obtain rfl : i = 4 := by omega
      refine r_iload_n 2 hX dX1_heal_4 rfl rfl ?_
      refine r_iconst (nI 4) hX dX1_heal_5 (by decide) ?_
      refine r_icmp_geNT 32 hX dX1_heal_6 (by decide) (by omega) ?_
      refine r_iload_n 1 hX dX1_heal_32 rfl rfl ?_
      exact hret _ _ _ _ dX1_heal_33 (rfl) (rfl)
    | succ n ih =>
      intro i hi
      have q := ih (i + 1) (by omega)
      refine r_iload_n 2 hX dX1_heal_4 rfl rfl ?_
      refine r_iconst (nI 4) hX dX1_heal_5 (by decide) ?_
      refine r_icmp_geNF 32 hX dX1_heal_6 (by decide) (by omega) ?_
      refine r_aload_n 0 hX dX1_heal_9 rfl rfl ?_
      refine cc_g2 hC dX1_heal_10 ?_
      refine r_iload_n 2 hX dX1_heal_13 rfl rfl ?_
      refine cc_l2 hC dX1_heal_14 (by omega) ?_
      refine r_if_eq 26 hX dX1_heal_15 (by decide) (fun c15 => ?_) (fun c15 => ?_)
      · simp only [cq_heN, c15, if_true] at q
        refine r_iincN 2 (lv' := [_, _, _]) hX dX1_heal_26 rfl (Nat.le_of_ble_eq_true rfl) rfl ?_
        refine r_goto 4 hX dX1_heal_29 (by decide) ?_
        exact q
      · simp only [cq_heN, c15, if_false] at q
        refine r_iload_n 1 hX dX1_heal_18 rfl rfl ?_
        refine r_aload_n 0 hX dX1_heal_19 rfl rfl ?_
        refine r_iload_n 2 hX dX1_heal_20 rfl rfl ?_
        refine k_IC hC (m_healFile _ i k (by omega) (BI_heN hB i) hk) kC_healFile rfl rfl (by decide) (Nat.le_of_ble_eq_true rfl) rfl dX1_heal_21 ?_
        refine r_iaddN hX dX1_heal_24 ?_
        refine r_istore_n 1 (lv' := [_, _, _]) hX dX1_heal_25 rfl (Nat.le_of_ble_eq_true rfl) rfl ?_
        refine r_iincN 2 (lv' := [_, _, _]) hX dX1_heal_26 rfl (Nat.le_of_ble_eq_true rfl) rfl ?_
        refine r_goto 4 hX dX1_heal_29 (by decide) ?_
        exact q
  exact loop 4 0 rfl
end
section
/-! the model's words -/
def mq_c (t : Pst) (f s : Nat) : Bool := !decide (t 5 (f * 5 + s) = 0)
def mq_dn (t : Pst) (s : Nat) : Bool := !decide (t 1 s = 0)
def mq_ld (t : Pst) (s : Nat) : Nat := cnt (fun f => mq_c t f s) 4
def mq_hu (t : Pst) (f : Nat) : Nat := cnt (fun s => mq_c t f s && !mq_dn t s) 5
def mq_ha (t : Pst) (f : Nat) : Nat := cnt (fun s => mq_c t f s) 5
def mq_nx (t : Pst) (f : Nat) : Option Nat := fst5 (fun s => !mq_dn t s && !mq_c t f s) (mq_ld t) 5
def mq_fiN (t : Pst) (f k : Nat) : Nat → Pst × Nat
  | 0 => (t, 0)
  | n + 1 => match mq_nx (mq_fiN t f k n).1 f with
    | none => mq_fiN t f k n
    | some s => if mq_hu (mq_fiN t f k n).1 f < k then (sU (mq_fiN t f k n).1 5 (f * 5 + s) (nI 1), (mq_fiN t f k n).2 + 1) else mq_fiN t f k n
def mq_clN (t : Pst) (f : Nat) : Nat → Pst
  | 0 => t
  | n + 1 => sU (mq_clN t f n) 5 (f * 5 + n) (nI 0)
def mq_zN (t : Pst) (f : Nat) : Nat → Pst
  | 0 => t
  | n + 1 => sU (mq_zN t f n) 4 (f * 6 + n) (nI 0)
def mq_cr (t : Pst) (f : Nat) : Pst := mq_zN (sU (sU (mq_clN t f 5) 2 f (nI 1)) 3 f (nI 0)) f 6
def mq_rf (t : Pst) (f : Nat) : Int32 := if t 2 f = 0 then -3 else if mq_hu t f = 0 then -5 else 0
def mq_w2 (t : Pst) (f c : Nat) : Pst := if nI (c + 1) ≤ t 3 f then t else sU t 3 f (nI (c + 1))
def mq_w3 (t : Pst) (f : Nat) : Nat → Pst
  | 0 => t
  | n + 1 => if mq_w3 t f n 1 n = 0 then mq_w3 t f n else sU (mq_w3 t f n) 5 (f * 5 + n) (nI 0)
def mq_wr (t : Pst) (f c : Nat) (v : Int32) : Pst := mq_w3 (mq_w2 (sU t 4 (f * 6 + c) v) f c) f 5
def mq_s1 (t : Pst) (f g : Nat) : Nat → Pst
  | 0 => t
  | n + 1 => sU (mq_s1 t f g n) 4 (g * 6 + n) (mq_s1 t f g n 4 (f * 6 + n))
def mq_s2 (t : Pst) (f g : Nat) : Nat → Pst
  | 0 => t
  | n + 1 => sU (mq_s2 t f g n) 5 (g * 5 + n) (mq_s2 t f g n 5 (f * 5 + n))
def mq_sn (t : Pst) (f g : Nat) : Pst := mq_s2 (mq_s1 (sU (sU t 2 g (nI 1)) 3 g (sU t 2 g (nI 1) 3 f)) f g 6) f g 5
def mq_loN (t : Pst) (s : Nat) : Nat → Pst
  | 0 => t
  | n + 1 => sU (mq_loN t s n) 5 (n * 5 + s) (nI 0)
def mq_heN (t : Pst) (k : Nat) : Nat → Pst × Nat
  | 0 => (t, 0)
  | n + 1 => if mq_rf (mq_heN t k n).1 n = 0 then ((mq_fiN (mq_heN t k n).1 n k 5).1, (mq_heN t k n).2 + (mq_fiN (mq_heN t k n).1 n k 5).2) else mq_heN t k n
/-- what the walks need of the model's state -/
def BM (k : Nat) (t : Pst) : Prop := t 0 0 = nI k ∧ ∀ i, i < 20 → t 5 i = 0 ∨ t 5 i = 1
theorem BM_o {k k' i : Nat} {t : Pst} {v : Int32} (h0 : k' ≠ 0) (h5 : k' ≠ 5) (h : BM k t) : BM k (sU t k' i v) := by
  refine ⟨?_, fun j hj => ?_⟩
  · rw [sU_n (Ne.symm h0)]; exact h.1
  · rw [sU_n (Ne.symm h5)]; exact h.2 j hj
theorem BM_5 {k i : Nat} {t : Pst} {v : Int32} (h : BM k t) (hv : v = 0 ∨ v = 1) : BM k (sU t 5 i v) := by
  refine ⟨?_, fun j hj => ?_⟩
  · rw [sU_n (by decide)]; exact h.1
  · rw [sU_s]
    by_cases e : j = i
    · subst e; rw [pk_us]; exact hv
    · rw [pk_un e]; exact h.2 j hj
theorem BM_fiN {k f kk : Nat} {t : Pst} (h : BM k t) : ∀ n, BM k (mq_fiN t f kk n).1
  | 0 => h
  | n + 1 => by
    have ih := BM_fiN (f := f) (kk := kk) h n
    simp only [mq_fiN]
    split
    · exact ih
    · split
      · exact BM_5 ih (Or.inr rfl)
      · exact ih
theorem BM_clN {k f : Nat} {t : Pst} (h : BM k t) : ∀ n, BM k (mq_clN t f n)
  | 0 => h
  | n + 1 => BM_5 (BM_clN h n) (Or.inl rfl)
theorem BM_zN {k f : Nat} {t : Pst} (h : BM k t) : ∀ n, BM k (mq_zN t f n)
  | 0 => h
  | n + 1 => BM_o (by decide) (by decide) (BM_zN h n)
theorem BM_cr {k f : Nat} {t : Pst} (h : BM k t) : BM k (mq_cr t f) := by
  unfold mq_cr
  exact BM_zN (BM_o (by decide) (by decide) (BM_o (by decide) (by decide) (BM_clN h 5))) 6
theorem BM_w3 {k f : Nat} {t : Pst} (h : BM k t) : ∀ n, BM k (mq_w3 t f n)
  | 0 => h
  | n + 1 => by
    show BM k (if mq_w3 t f n 1 n = 0 then mq_w3 t f n else sU (mq_w3 t f n) 5 (f * 5 + n) (nI 0))
    split
    · exact BM_w3 h n
    · exact BM_5 (BM_w3 h n) (Or.inl rfl)
theorem BM_w2 {k f c : Nat} {t : Pst} (h : BM k t) : BM k (mq_w2 t f c) := by
  unfold mq_w2
  split
  · exact h
  · exact BM_o (by decide) (by decide) h
theorem BM_wr {k f c : Nat} {v : Int32} {t : Pst} (h : BM k t) : BM k (mq_wr t f c v) := by
  unfold mq_wr
  exact BM_w3 (BM_w2 (BM_o (by decide) (by decide) h)) 5
theorem BM_s1 {k f g : Nat} {t : Pst} (h : BM k t) : ∀ n, BM k (mq_s1 t f g n)
  | 0 => h
  | n + 1 => BM_o (by decide) (by decide) (BM_s1 h n)
theorem BM_s2 {k f g : Nat} {t : Pst} (hf : f < 4) (h : BM k t) : ∀ n, n ≤ 5 → BM k (mq_s2 t f g n)
  | 0, _ => h
  | n + 1, hn => BM_5 (BM_s2 hf h n (by omega)) ((BM_s2 hf h n (by omega)).2 _ (by omega))
theorem BM_sn {k f g : Nat} {t : Pst} (hf : f < 4) (h : BM k t) : BM k (mq_sn t f g) := by
  unfold mq_sn
  exact BM_s2 hf (BM_s1 (BM_o (by decide) (by decide) (BM_o (by decide) (by decide) h)) 6) 5 (Nat.le_refl 5)
theorem BM_loN {k s : Nat} {t : Pst} (h : BM k t) : ∀ n, BM k (mq_loN t s n)
  | 0 => h
  | n + 1 => BM_5 (BM_loN h n) (Or.inl rfl)
theorem BM_heN {k kk : Nat} {t : Pst} (h : BM k t) : ∀ n, BM k (mq_heN t kk n).1
  | 0 => h
  | n + 1 => by
    have ih := BM_heN (kk := kk) h n
    simp only [mq_heN]
    split
    · exact BM_fiN ih 5
    · exact ih
theorem fw_zn {x : Int32} (h : x = 0 ∨ x = 1) : vp_nar .boolean x = x := by
  rcases h with h | h <;> (rw [h]; rfl)
theorem fw_le5 {y : Int32} (h : nI 6 ≤ y) : ¬ y ≤ nI 5 := by
  intro z
  have h1 := Int32.le_iff_toInt_le.mp h
  have h2 := Int32.le_iff_toInt_le.mp z
  rw [nI_toInt (by decide)] at h1 h2
  omega
end
section
theorem w_isFile_n (t : Pst) (x : Int32) (hx : x < 0 ∨ nI 4 ≤ x) : mIM yX2_isFile cX2_isFile 2 .boolean 0 [.int x] t (nI 0) t := by
  refine e_IM (by decide) rfl (rfl) (Nat.le_of_ble_eq_true rfl) (by simp [fw_ci]) (fun X h hC hret => ?_)
  have hX := hC.ck
  refine r_lv (lv' := [some (.ref (h 0)), some (.int x)]) rfl ?_
  refine r_iload_n 1 hX dX2_isFile_0 rfl rfl ?_
  refine r_if_lt 13 hX dX2_isFile_1 (by decide) (fun c1 => ?_) (fun c1 => ?_)
  · refine r_iconst (nI 0) hX dX2_isFile_13 (by decide) ?_
    exact hret _ _ _ _ dX2_isFile_14 (rfl) (rfl)
  · refine r_iload_n 1 hX dX2_isFile_4 rfl rfl ?_
    refine r_iconst (nI 4) hX dX2_isFile_5 (by decide) ?_
    refine r_icmp_ge 13 hX dX2_isFile_6 (by decide) (fun c6 => ?_) (fun c6 => ?_)
    · refine r_iconst (nI 0) hX dX2_isFile_13 (by decide) ?_
      exact hret _ _ _ _ dX2_isFile_14 (rfl) (rfl)
    · exact absurd (hx.resolve_left c1) c6
theorem w_isFile_y (t : Pst) (j : Nat) (hj : j < 4) : mIM yX2_isFile cX2_isFile 2 .boolean 0 [.int (nI j)] t (nI 1) t := by
  refine e_IM (by decide) rfl (rfl) (Nat.le_of_ble_eq_true rfl) (by simp [fw_ci]) (fun X h hC hret => ?_)
  have hX := hC.ck
  refine r_lv (lv' := [some (.ref (h 0)), some (.int (nI j))]) rfl ?_
  refine r_iload_n 1 hX dX2_isFile_0 rfl rfl ?_
  refine r_if_ltF 13 hX dX2_isFile_1 (by decide) (nI_pos (by omega)) ?_
  refine r_iload_n 1 hX dX2_isFile_4 rfl rfl ?_
  refine r_iconst (nI 4) hX dX2_isFile_5 (by decide) ?_
  refine r_icmp_geNF 13 hX dX2_isFile_6 (by decide) (by omega) ?_
  refine r_iconst (nI 1) hX dX2_isFile_9 (by decide) ?_
  refine r_goto 14 hX dX2_isFile_10 (by decide) ?_
  exact hret _ _ _ _ dX2_isFile_14 (rfl) (rfl)
theorem w_isServer_n (t : Pst) (x : Int32) (hx : x < 0 ∨ nI 5 ≤ x) : mIM yX2_isServer cX2_isServer 2 .boolean 0 [.int x] t (nI 0) t := by
  refine e_IM (by decide) rfl (rfl) (Nat.le_of_ble_eq_true rfl) (by simp [fw_ci]) (fun X h hC hret => ?_)
  have hX := hC.ck
  refine r_lv (lv' := [some (.ref (h 0)), some (.int x)]) rfl ?_
  refine r_iload_n 1 hX dX2_isServer_0 rfl rfl ?_
  refine r_if_lt 13 hX dX2_isServer_1 (by decide) (fun c1 => ?_) (fun c1 => ?_)
  · refine r_iconst (nI 0) hX dX2_isServer_13 (by decide) ?_
    exact hret _ _ _ _ dX2_isServer_14 (rfl) (rfl)
  · refine r_iload_n 1 hX dX2_isServer_4 rfl rfl ?_
    refine r_iconst (nI 5) hX dX2_isServer_5 (by decide) ?_
    refine r_icmp_ge 13 hX dX2_isServer_6 (by decide) (fun c6 => ?_) (fun c6 => ?_)
    · refine r_iconst (nI 0) hX dX2_isServer_13 (by decide) ?_
      exact hret _ _ _ _ dX2_isServer_14 (rfl) (rfl)
    · exact absurd (hx.resolve_left c1) c6
theorem w_isServer_y (t : Pst) (j : Nat) (hj : j < 5) : mIM yX2_isServer cX2_isServer 2 .boolean 0 [.int (nI j)] t (nI 1) t := by
  refine e_IM (by decide) rfl (rfl) (Nat.le_of_ble_eq_true rfl) (by simp [fw_ci]) (fun X h hC hret => ?_)
  have hX := hC.ck
  refine r_lv (lv' := [some (.ref (h 0)), some (.int (nI j))]) rfl ?_
  refine r_iload_n 1 hX dX2_isServer_0 rfl rfl ?_
  refine r_if_ltF 13 hX dX2_isServer_1 (by decide) (nI_pos (by omega)) ?_
  refine r_iload_n 1 hX dX2_isServer_4 rfl rfl ?_
  refine r_iconst (nI 5) hX dX2_isServer_5 (by decide) ?_
  refine r_icmp_geNF 13 hX dX2_isServer_6 (by decide) (by omega) ?_
  refine r_iconst (nI 1) hX dX2_isServer_9 (by decide) ?_
  refine r_goto 14 hX dX2_isServer_10 (by decide) ?_
  exact hret _ _ _ _ dX2_isServer_14 (rfl) (rfl)
theorem w_load (t : Pst) (s : Nat) (hs : s < 5) : mIM yX2_load cX2_load 4 .int 0 [.int (nI s)] t (nI (mq_ld t s)) t := by
  refine e_IM (by decide) rfl (rfl) (Nat.le_of_ble_eq_true rfl) (by simp [fw_ci]) (fun X h hC hret => ?_)
  have hX := hC.ck
  refine r_lv (lv' := [some (.ref (h 0)), some (.int (nI s)), none, none]) rfl ?_
  refine r_iconst (nI 0) hX dX2_load_0 (by decide) ?_
  refine r_istore_n 2 (lv' := [_, _, _, _]) hX dX2_load_1 rfl (Nat.le_of_ble_eq_true rfl) rfl ?_
  refine r_iconst (nI 0) hX dX2_load_2 (by decide) ?_
  refine r_istore_n 3 (lv' := [_, _, _, _]) hX dX2_load_3 rfl (Nat.le_of_ble_eq_true rfl) rfl ?_
  have loop : ∀ n i, i + n = 4 → CG X (t) 4 [some (.ref (h 0)), some (.int (nI s)), some (.int (nI (cnt (fun f => mq_c t f s) i))), some (.int (nI i))] [] := by
    intro n
    induction n with
    | zero =>
      intro i hi
      obtain rfl : i = 4 := by omega
      refine r_iload_n 3 hX dX2_load_4 rfl rfl ?_
      refine r_iconst (nI 4) hX dX2_load_5 (by decide) ?_
      refine r_icmp_geNT 31 hX dX2_load_6 (by decide) (by omega) ?_
      refine r_iload_n 2 hX dX2_load_31 rfl rfl ?_
      exact hret _ _ _ _ dX2_load_32 (rfl) (rfl)
    | succ n ih =>
      intro i hi
      refine r_iload_n 3 hX dX2_load_4 rfl rfl ?_
      refine r_iconst (nI 4) hX dX2_load_5 (by decide) ?_
      refine r_icmp_geNF 31 hX dX2_load_6 (by decide) (by omega) ?_
      refine r_aload_n 0 hX dX2_load_9 rfl rfl ?_
      refine mc_g5 hC dX2_load_10 ?_
      refine r_iload_n 3 hX dX2_load_13 rfl rfl ?_
      refine r_iconst (nI 5) hX dX2_load_14 (by decide) ?_
      refine r_imulN hX dX2_load_15 ?_
      refine r_iload_n 1 hX dX2_load_16 rfl rfl ?_
      refine r_iaddN hX dX2_load_17 ?_
      refine mc_l5 hC dX2_load_18 (by omega) ?_
      refine r_if_eq 25 hX dX2_load_19 (by decide) (fun c19 => ?_) (fun c19 => ?_)
      · refine r_lvi 2 (nI (cnt (fun f => mq_c t f s) (i + 1))) (lv' := [_, _, _, _]) rfl (by simp [cnt, mq_c, c19]) rfl ?_
        refine r_iincN 3 (lv' := [_, _, _, _]) hX dX2_load_25 rfl (Nat.le_of_ble_eq_true rfl) rfl ?_
        refine r_goto 4 hX dX2_load_28 (by decide) ?_
        exact ih (i + 1) (by omega)
      · refine r_iincN 2 (lv' := [_, _, _, _]) hX dX2_load_22 rfl (Nat.le_of_ble_eq_true rfl) rfl ?_
        refine r_lvi 2 (nI (cnt (fun f => mq_c t f s) (i + 1))) (lv' := [_, _, _, _]) rfl (by simp [cnt, mq_c, c19]) rfl ?_
        refine r_iincN 3 (lv' := [_, _, _, _]) hX dX2_load_25 rfl (Nat.le_of_ble_eq_true rfl) rfl ?_
        refine r_goto 4 hX dX2_load_28 (by decide) ?_
        exact ih (i + 1) (by omega)
  exact loop 4 0 rfl
theorem w_holders_u (t : Pst) (f : Nat) (hf : f < 4) : mIM yX2_holders cX2_holders 5 .int 0 [.int (nI f), .int (nI 1)] t (nI (mq_hu t f)) t := by
  refine e_IM (by decide) rfl (rfl) (Nat.le_of_ble_eq_true rfl) (by simp [fw_ci]) (fun X h hC hret => ?_)
  have hX := hC.ck
  refine r_lv (lv' := [some (.ref (h 0)), some (.int (nI f)), some (.int (nI 1)), none, none]) rfl ?_
  refine r_iconst (nI 0) hX dX2_holders_0 (by decide) ?_
  refine r_istore_n 3 (lv' := [_, _, _, _, _]) hX dX2_holders_1 rfl (Nat.le_of_ble_eq_true rfl) rfl ?_
  refine r_iconst (nI 0) hX dX2_holders_2 (by decide) ?_
  refine r_istore 4 (lv' := [_, _, _, _, _]) hX dX2_holders_3 (Nat.le_of_ble_eq_true rfl) rfl ?_
  have loop : ∀ n i, i + n = 5 → CG X (t) 5 [some (.ref (h 0)), some (.int (nI f)), some (.int (nI 1)), some (.int (nI (cnt (fun s => mq_c t f s && !mq_dn t s) i))), some (.int (nI i))] [] := by
    intro n
    induction n with
    | zero =>
      intro i hi
      obtain rfl : i = 5 := by omega
      refine r_iload 4 hX dX2_holders_5 rfl ?_
      refine r_iconst (nI 5) hX dX2_holders_7 (by decide) ?_
      refine r_icmp_geNT 48 hX dX2_holders_8 (by decide) (by omega) ?_
      refine r_iload_n 3 hX dX2_holders_48 rfl rfl ?_
      exact hret _ _ _ _ dX2_holders_49 (rfl) (rfl)
    | succ n ih =>
      intro i hi
      refine r_iload 4 hX dX2_holders_5 rfl ?_
      refine r_iconst (nI 5) hX dX2_holders_7 (by decide) ?_
      refine r_icmp_geNF 48 hX dX2_holders_8 (by decide) (by omega) ?_
      refine r_aload_n 0 hX dX2_holders_11 rfl rfl ?_
      refine mc_g5 hC dX2_holders_12 ?_
      refine r_iload_n 1 hX dX2_holders_15 rfl rfl ?_
      refine r_iconst (nI 5) hX dX2_holders_16 (by decide) ?_
      refine r_imulN hX dX2_holders_17 ?_
      refine r_iload 4 hX dX2_holders_18 rfl ?_
      refine r_iaddN hX dX2_holders_20 ?_
      refine mc_l5 hC dX2_holders_21 (by omega) ?_
      refine r_if_eq 42 hX dX2_holders_22 (by decide) (fun c22 => ?_) (fun c22 => ?_)
      · refine r_lvi 3 (nI (cnt (fun s => mq_c t f s && !mq_dn t s) (i + 1))) (lv' := [_, _, _, _, _]) rfl (by simp [cnt, mq_c, mq_dn, c22]) rfl ?_
        refine r_iincN 4 (lv' := [_, _, _, _, _]) hX dX2_holders_42 rfl (Nat.le_of_ble_eq_true rfl) rfl ?_
        refine r_goto 5 hX dX2_holders_45 (by decide) ?_
        exact ih (i + 1) (by omega)
      · refine r_iload_n 2 hX dX2_holders_25 rfl rfl ?_
        refine r_if_eqF 39 hX dX2_holders_26 (by decide) (by decide) ?_
        refine r_aload_n 0 hX dX2_holders_29 rfl rfl ?_
        refine mc_g1 hC dX2_holders_30 ?_
        refine r_iload 4 hX dX2_holders_33 rfl ?_
        refine mc_l1 hC dX2_holders_35 (by omega) ?_
        refine r_if_ne 42 hX dX2_holders_36 (by decide) (fun c36 => ?_) (fun c36 => ?_)
        · refine r_lvi 3 (nI (cnt (fun s => mq_c t f s && !mq_dn t s) (i + 1))) (lv' := [_, _, _, _, _]) rfl (by simp [cnt, mq_c, mq_dn, c22, c36]) rfl ?_
          refine r_iincN 4 (lv' := [_, _, _, _, _]) hX dX2_holders_42 rfl (Nat.le_of_ble_eq_true rfl) rfl ?_
          refine r_goto 5 hX dX2_holders_45 (by decide) ?_
          exact ih (i + 1) (by omega)
        · refine r_iincN 3 (lv' := [_, _, _, _, _]) hX dX2_holders_39 rfl (Nat.le_of_ble_eq_true rfl) rfl ?_
          refine r_lvi 3 (nI (cnt (fun s => mq_c t f s && !mq_dn t s) (i + 1))) (lv' := [_, _, _, _, _]) rfl (by simp [cnt, mq_c, mq_dn, c22, c36]) rfl ?_
          refine r_iincN 4 (lv' := [_, _, _, _, _]) hX dX2_holders_42 rfl (Nat.le_of_ble_eq_true rfl) rfl ?_
          refine r_goto 5 hX dX2_holders_45 (by decide) ?_
          exact ih (i + 1) (by omega)
  exact loop 5 0 rfl
theorem w_holders_a (t : Pst) (f : Nat) (hf : f < 4) : mIM yX2_holders cX2_holders 5 .int 0 [.int (nI f), .int (nI 0)] t (nI (mq_ha t f)) t := by
  refine e_IM (by decide) rfl (rfl) (Nat.le_of_ble_eq_true rfl) (by simp [fw_ci]) (fun X h hC hret => ?_)
  have hX := hC.ck
  refine r_lv (lv' := [some (.ref (h 0)), some (.int (nI f)), some (.int (nI 0)), none, none]) rfl ?_
  refine r_iconst (nI 0) hX dX2_holders_0 (by decide) ?_
  refine r_istore_n 3 (lv' := [_, _, _, _, _]) hX dX2_holders_1 rfl (Nat.le_of_ble_eq_true rfl) rfl ?_
  refine r_iconst (nI 0) hX dX2_holders_2 (by decide) ?_
  refine r_istore 4 (lv' := [_, _, _, _, _]) hX dX2_holders_3 (Nat.le_of_ble_eq_true rfl) rfl ?_
  have loop : ∀ n i, i + n = 5 → CG X (t) 5 [some (.ref (h 0)), some (.int (nI f)), some (.int (nI 0)), some (.int (nI (cnt (fun s => mq_c t f s) i))), some (.int (nI i))] [] := by
    intro n
    induction n with
    | zero =>
      intro i hi
      obtain rfl : i = 5 := by omega
      refine r_iload 4 hX dX2_holders_5 rfl ?_
      refine r_iconst (nI 5) hX dX2_holders_7 (by decide) ?_
      refine r_icmp_geNT 48 hX dX2_holders_8 (by decide) (by omega) ?_
      refine r_iload_n 3 hX dX2_holders_48 rfl rfl ?_
      exact hret _ _ _ _ dX2_holders_49 (rfl) (rfl)
    | succ n ih =>
      intro i hi
      refine r_iload 4 hX dX2_holders_5 rfl ?_
      refine r_iconst (nI 5) hX dX2_holders_7 (by decide) ?_
      refine r_icmp_geNF 48 hX dX2_holders_8 (by decide) (by omega) ?_
      refine r_aload_n 0 hX dX2_holders_11 rfl rfl ?_
      refine mc_g5 hC dX2_holders_12 ?_
      refine r_iload_n 1 hX dX2_holders_15 rfl rfl ?_
      refine r_iconst (nI 5) hX dX2_holders_16 (by decide) ?_
      refine r_imulN hX dX2_holders_17 ?_
      refine r_iload 4 hX dX2_holders_18 rfl ?_
      refine r_iaddN hX dX2_holders_20 ?_
      refine mc_l5 hC dX2_holders_21 (by omega) ?_
      refine r_if_eq 42 hX dX2_holders_22 (by decide) (fun c22 => ?_) (fun c22 => ?_)
      · refine r_lvi 3 (nI (cnt (fun s => mq_c t f s) (i + 1))) (lv' := [_, _, _, _, _]) rfl (by simp [cnt, mq_c, mq_dn, c22]) rfl ?_
        refine r_iincN 4 (lv' := [_, _, _, _, _]) hX dX2_holders_42 rfl (Nat.le_of_ble_eq_true rfl) rfl ?_
        refine r_goto 5 hX dX2_holders_45 (by decide) ?_
        exact ih (i + 1) (by omega)
      · refine r_iload_n 2 hX dX2_holders_25 rfl rfl ?_
        refine r_if_eqT 39 hX dX2_holders_26 (by decide) (by decide) ?_
        refine r_iincN 3 (lv' := [_, _, _, _, _]) hX dX2_holders_39 rfl (Nat.le_of_ble_eq_true rfl) rfl ?_
        refine r_lvi 3 (nI (cnt (fun s => mq_c t f s) (i + 1))) (lv' := [_, _, _, _, _]) rfl (by simp [cnt, mq_c, mq_dn, c22]) rfl ?_
        refine r_iincN 4 (lv' := [_, _, _, _, _]) hX dX2_holders_42 rfl (Nat.le_of_ble_eq_true rfl) rfl ?_
        refine r_goto 5 hX dX2_holders_45 (by decide) ?_
        exact ih (i + 1) (by omega)
  exact loop 5 0 rfl
theorem w_next (t : Pst) (f : Nat) (hf : f < 4) : mIM yX2_nextServer cX2_nextServer 5 .int 1 [.int (nI f)] t (oI (mq_nx t f)) t := by
  refine e_IM (by decide) rfl (rfl) (Nat.le_of_ble_eq_true rfl) (by simp [fw_ci]) (fun X h hC hret => ?_)
  have hX := hC.ck
  refine r_lv (lv' := [some (.ref (h 0)), some (.int (nI f)), none, none, none]) rfl ?_
  have hld : ∀ s, mq_ld t s ≤ 4 := fun s => cnt_le _ 4
  refine r_iconst (-1) hX dX2_nextServer_0 (by decide) ?_
  refine r_istore_n 2 (lv' := [_, _, _, _, _]) hX dX2_nextServer_1 rfl (Nat.le_of_ble_eq_true rfl) rfl ?_
  refine r_iconst (nI 0) hX dX2_nextServer_2 (by decide) ?_
  refine r_istore_n 3 (lv' := [_, _, _, _, _]) hX dX2_nextServer_3 rfl (Nat.le_of_ble_eq_true rfl) rfl ?_
  have loop : ∀ n i, i + n = 5 → CG X (t) 4 [some (.ref (h 0)), some (.int (nI f)), some (.int (oI (fst5 (fun s => !mq_dn t s && !mq_c t f s) (mq_ld t) i))), some (.int (nI i)), none] [] := by
    intro n
    induction n with
    | zero =>
      intro i hi
      obtain rfl : i = 5 := by omega
      refine r_iload_n 3 hX dX2_nextServer_4 rfl rfl ?_
      refine r_iconst (nI 5) hX dX2_nextServer_5 (by decide) ?_
      refine r_icmp_geNT 68 hX dX2_nextServer_6 (by decide) (by omega) ?_
      refine r_iload_n 2 hX dX2_nextServer_68 rfl rfl ?_
      exact hret _ _ _ _ dX2_nextServer_69 (rfl) (rfl)
    | succ n ih =>
      intro i hi
      have hli := hld i
      cases ho : fst5 (fun s => !mq_dn t s && !mq_c t f s) (mq_ld t) i with
      | none =>
        refine r_lvi 2 (-1) (lv' := [_, _, _, _, _]) rfl rfl rfl ?_
        refine r_iload_n 3 hX dX2_nextServer_4 rfl rfl ?_
        refine r_iconst (nI 5) hX dX2_nextServer_5 (by decide) ?_
        refine r_icmp_geNF 68 hX dX2_nextServer_6 (by decide) (by omega) ?_
        refine r_aload_n 0 hX dX2_nextServer_9 rfl rfl ?_
        refine mc_g1 hC dX2_nextServer_10 ?_
        refine r_iload_n 3 hX dX2_nextServer_13 rfl rfl ?_
        refine mc_l1 hC dX2_nextServer_14 (by omega) ?_
        refine r_if_ne 35 hX dX2_nextServer_15 (by decide) (fun c15 => ?_) (fun c15 => ?_)
        · have d15 : mq_dn t i = true := by simp [mq_dn, c15]
          refine r_iconst (nI 0) hX dX2_nextServer_35 (by decide) ?_
          refine r_istore 4 (lv' := [_, _, _, _, _]) hX dX2_nextServer_36 (Nat.le_of_ble_eq_true rfl) rfl ?_
          refine r_iload 4 hX dX2_nextServer_38 rfl ?_
          refine r_if_eqT 62 hX dX2_nextServer_40 (by decide) (by decide) ?_
          refine r_iincN 3 (lv' := [_, _, _, _, _]) hX dX2_nextServer_62 rfl (Nat.le_of_ble_eq_true rfl) rfl ?_
          refine r_goto 4 hX dX2_nextServer_65 (by decide) ?_
          refine r_forget 4 (lv' := [_, _, _, _, none]) rfl ?_
          refine r_lvi 2 (oI (fst5 (fun s => !mq_dn t s && !mq_c t f s) (mq_ld t) (i + 1))) (lv' := [_, _, _, _, _]) rfl (by simp [fst5, ho, oI, d15]) rfl ?_
          exact ih (i + 1) (by omega)
        · have d15 : mq_dn t i = false := by simp [mq_dn, c15]
          refine r_aload_n 0 hX dX2_nextServer_18 rfl rfl ?_
          refine mc_g5 hC dX2_nextServer_19 ?_
          refine r_iload_n 1 hX dX2_nextServer_22 rfl rfl ?_
          refine r_iconst (nI 5) hX dX2_nextServer_23 (by decide) ?_
          refine r_imulN hX dX2_nextServer_24 ?_
          refine r_iload_n 3 hX dX2_nextServer_25 rfl rfl ?_
          refine r_iaddN hX dX2_nextServer_26 ?_
          refine mc_l5 hC dX2_nextServer_27 (by omega) ?_
          refine r_if_ne 35 hX dX2_nextServer_28 (by decide) (fun c28 => ?_) (fun c28 => ?_)
          · have d28 : mq_c t f i = true := by simp [mq_c, c28]
            refine r_iconst (nI 0) hX dX2_nextServer_35 (by decide) ?_
            refine r_istore 4 (lv' := [_, _, _, _, _]) hX dX2_nextServer_36 (Nat.le_of_ble_eq_true rfl) rfl ?_
            refine r_iload 4 hX dX2_nextServer_38 rfl ?_
            refine r_if_eqT 62 hX dX2_nextServer_40 (by decide) (by decide) ?_
            refine r_iincN 3 (lv' := [_, _, _, _, _]) hX dX2_nextServer_62 rfl (Nat.le_of_ble_eq_true rfl) rfl ?_
            refine r_goto 4 hX dX2_nextServer_65 (by decide) ?_
            refine r_forget 4 (lv' := [_, _, _, _, none]) rfl ?_
            refine r_lvi 2 (oI (fst5 (fun s => !mq_dn t s && !mq_c t f s) (mq_ld t) (i + 1))) (lv' := [_, _, _, _, _]) rfl (by simp [fst5, ho, oI, d15, d28]) rfl ?_
            exact ih (i + 1) (by omega)
          · have d28 : mq_c t f i = false := by simp [mq_c, c28]
            refine r_iconst (nI 1) hX dX2_nextServer_31 (by decide) ?_
            refine r_goto 36 hX dX2_nextServer_32 (by decide) ?_
            refine r_istore 4 (lv' := [_, _, _, _, _]) hX dX2_nextServer_36 (Nat.le_of_ble_eq_true rfl) rfl ?_
            refine r_iload 4 hX dX2_nextServer_38 rfl ?_
            refine r_if_eqF 62 hX dX2_nextServer_40 (by decide) (by decide) ?_
            refine r_iload_n 2 hX dX2_nextServer_43 rfl rfl ?_
            refine r_if_ltT 60 hX dX2_nextServer_44 (by decide) (by decide) ?_
            refine r_iload_n 3 hX dX2_nextServer_60 rfl rfl ?_
            refine r_istore_n 2 (lv' := [_, _, _, _, _]) hX dX2_nextServer_61 rfl (Nat.le_of_ble_eq_true rfl) rfl ?_
            refine r_iincN 3 (lv' := [_, _, _, _, _]) hX dX2_nextServer_62 rfl (Nat.le_of_ble_eq_true rfl) rfl ?_
            refine r_goto 4 hX dX2_nextServer_65 (by decide) ?_
            refine r_forget 4 (lv' := [_, _, _, _, none]) rfl ?_
            refine r_lvi 2 (oI (fst5 (fun s => !mq_dn t s && !mq_c t f s) (mq_ld t) (i + 1))) (lv' := [_, _, _, _, _]) rfl (by simp [fst5, ho, oI, d15, d28]) rfl ?_
            exact ih (i + 1) (by omega)
      | some b =>
        have hb := (fst5_lt i b ho).1
        have hlb := hld b
        refine r_lvi 2 (nI b) (lv' := [_, _, _, _, _]) rfl rfl rfl ?_
        refine r_iload_n 3 hX dX2_nextServer_4 rfl rfl ?_
        refine r_iconst (nI 5) hX dX2_nextServer_5 (by decide) ?_
        refine r_icmp_geNF 68 hX dX2_nextServer_6 (by decide) (by omega) ?_
        refine r_aload_n 0 hX dX2_nextServer_9 rfl rfl ?_
        refine mc_g1 hC dX2_nextServer_10 ?_
        refine r_iload_n 3 hX dX2_nextServer_13 rfl rfl ?_
        refine mc_l1 hC dX2_nextServer_14 (by omega) ?_
        refine r_if_ne 35 hX dX2_nextServer_15 (by decide) (fun c15 => ?_) (fun c15 => ?_)
        · have d15 : mq_dn t i = true := by simp [mq_dn, c15]
          refine r_iconst (nI 0) hX dX2_nextServer_35 (by decide) ?_
          refine r_istore 4 (lv' := [_, _, _, _, _]) hX dX2_nextServer_36 (Nat.le_of_ble_eq_true rfl) rfl ?_
          refine r_iload 4 hX dX2_nextServer_38 rfl ?_
          refine r_if_eqT 62 hX dX2_nextServer_40 (by decide) (by decide) ?_
          refine r_iincN 3 (lv' := [_, _, _, _, _]) hX dX2_nextServer_62 rfl (Nat.le_of_ble_eq_true rfl) rfl ?_
          refine r_goto 4 hX dX2_nextServer_65 (by decide) ?_
          refine r_forget 4 (lv' := [_, _, _, _, none]) rfl ?_
          refine r_lvi 2 (oI (fst5 (fun s => !mq_dn t s && !mq_c t f s) (mq_ld t) (i + 1))) (lv' := [_, _, _, _, _]) rfl (by simp [fst5, ho, oI, d15]) rfl ?_
          exact ih (i + 1) (by omega)
        · have d15 : mq_dn t i = false := by simp [mq_dn, c15]
          refine r_aload_n 0 hX dX2_nextServer_18 rfl rfl ?_
          refine mc_g5 hC dX2_nextServer_19 ?_
          refine r_iload_n 1 hX dX2_nextServer_22 rfl rfl ?_
          refine r_iconst (nI 5) hX dX2_nextServer_23 (by decide) ?_
          refine r_imulN hX dX2_nextServer_24 ?_
          refine r_iload_n 3 hX dX2_nextServer_25 rfl rfl ?_
          refine r_iaddN hX dX2_nextServer_26 ?_
          refine mc_l5 hC dX2_nextServer_27 (by omega) ?_
          refine r_if_ne 35 hX dX2_nextServer_28 (by decide) (fun c28 => ?_) (fun c28 => ?_)
          · have d28 : mq_c t f i = true := by simp [mq_c, c28]
            refine r_iconst (nI 0) hX dX2_nextServer_35 (by decide) ?_
            refine r_istore 4 (lv' := [_, _, _, _, _]) hX dX2_nextServer_36 (Nat.le_of_ble_eq_true rfl) rfl ?_
            refine r_iload 4 hX dX2_nextServer_38 rfl ?_
            refine r_if_eqT 62 hX dX2_nextServer_40 (by decide) (by decide) ?_
            refine r_iincN 3 (lv' := [_, _, _, _, _]) hX dX2_nextServer_62 rfl (Nat.le_of_ble_eq_true rfl) rfl ?_
            refine r_goto 4 hX dX2_nextServer_65 (by decide) ?_
            refine r_forget 4 (lv' := [_, _, _, _, none]) rfl ?_
            refine r_lvi 2 (oI (fst5 (fun s => !mq_dn t s && !mq_c t f s) (mq_ld t) (i + 1))) (lv' := [_, _, _, _, _]) rfl (by simp [fst5, ho, oI, d15, d28]) rfl ?_
            exact ih (i + 1) (by omega)
          · have d28 : mq_c t f i = false := by simp [mq_c, c28]
            refine r_iconst (nI 1) hX dX2_nextServer_31 (by decide) ?_
            refine r_goto 36 hX dX2_nextServer_32 (by decide) ?_
            refine r_istore 4 (lv' := [_, _, _, _, _]) hX dX2_nextServer_36 (Nat.le_of_ble_eq_true rfl) rfl ?_
            refine r_iload 4 hX dX2_nextServer_38 rfl ?_
            refine r_if_eqF 62 hX dX2_nextServer_40 (by decide) (by decide) ?_
            refine r_iload_n 2 hX dX2_nextServer_43 rfl rfl ?_
            refine r_if_ltF 60 hX dX2_nextServer_44 (by decide) (nI_pos (by omega)) ?_
            refine r_aload_n 0 hX dX2_nextServer_47 rfl rfl ?_
            refine r_iload_n 3 hX dX2_nextServer_48 rfl rfl ?_
            refine k_IM hC (w_load t i (by omega)) kM_load rfl rfl (by decide) (Nat.le_of_ble_eq_true rfl) rfl dX2_nextServer_49 ?_
            refine r_aload_n 0 hX dX2_nextServer_52 rfl rfl ?_
            refine r_iload_n 2 hX dX2_nextServer_53 rfl rfl ?_
            refine k_IM hC (w_load t b (by omega)) kM_load rfl rfl (by decide) (Nat.le_of_ble_eq_true rfl) rfl dX2_nextServer_54 ?_
            refine r_icmp_geN 62 hX dX2_nextServer_57 (by decide) (by omega) (by omega) (fun c57 => ?_) (fun c57 => ?_)
            · refine r_iincN 3 (lv' := [_, _, _, _, _]) hX dX2_nextServer_62 rfl (Nat.le_of_ble_eq_true rfl) rfl ?_
              refine r_goto 4 hX dX2_nextServer_65 (by decide) ?_
              refine r_forget 4 (lv' := [_, _, _, _, none]) rfl ?_
              refine r_lvi 2 (oI (fst5 (fun s => !mq_dn t s && !mq_c t f s) (mq_ld t) (i + 1))) (lv' := [_, _, _, _, _]) rfl (by simp [fst5, ho, oI, d15, d28, Nat.not_lt.mpr c57]) rfl ?_
              exact ih (i + 1) (by omega)
            · refine r_iload_n 3 hX dX2_nextServer_60 rfl rfl ?_
              refine r_istore_n 2 (lv' := [_, _, _, _, _]) hX dX2_nextServer_61 rfl (Nat.le_of_ble_eq_true rfl) rfl ?_
              refine r_iincN 3 (lv' := [_, _, _, _, _]) hX dX2_nextServer_62 rfl (Nat.le_of_ble_eq_true rfl) rfl ?_
              refine r_goto 4 hX dX2_nextServer_65 (by decide) ?_
              refine r_forget 4 (lv' := [_, _, _, _, none]) rfl ?_
              refine r_lvi 2 (oI (fst5 (fun s => !mq_dn t s && !mq_c t f s) (mq_ld t) (i + 1))) (lv' := [_, _, _, _, _]) rfl (by simp [fst5, ho, oI, d15, d28, c57]) rfl ?_
              exact ih (i + 1) (by omega)
  exact loop 5 0 rfl
theorem w_fill (t : Pst) (f k : Nat) (hf : f < 4) (hB : BM k t) (hk : k ≤ 3) : mIM yX2_fill cX2_fill 5 .int 2 [.int (nI f)] t (nI (mq_fiN t f k 5).2) (mq_fiN t f k 5).1 := by
  refine e_IM (by decide) rfl (rfl) (Nat.le_of_ble_eq_true rfl) (by simp [fw_ci]) (fun X h hC hret => ?_)
  have hX := hC.ck
  refine r_lv (lv' := [some (.ref (h 0)), some (.int (nI f)), none, none, none]) rfl ?_
  refine r_iconst (nI 0) hX dX2_fill_0 (by decide) ?_
  refine r_istore_n 2 (lv' := [_, _, _, _, _]) hX dX2_fill_1 rfl (Nat.le_of_ble_eq_true rfl) rfl ?_
  refine r_iconst (nI 0) hX dX2_fill_2 (by decide) ?_
  refine r_istore_n 3 (lv' := [_, _, _, _, _]) hX dX2_fill_3 rfl (Nat.le_of_ble_eq_true rfl) rfl ?_
  have loop : ∀ n i, i + n = 5 → CG X ((mq_fiN t f k i).1) 4 [some (.ref (h 0)), some (.int (nI f)), some (.int (nI (mq_fiN t f k i).2)), some (.int (nI i)), none] [] := by
    intro n
    induction n with
    | zero =>
      intro i hi
      obtain rfl : i = 5 := by omega
      refine r_iload_n 3 hX dX2_fill_4 rfl rfl ?_
      refine r_iconst (nI 5) hX dX2_fill_5 (by decide) ?_
      refine r_icmp_geNT 55 hX dX2_fill_6 (by decide) (by omega) ?_
      refine r_iload_n 2 hX dX2_fill_55 rfl rfl ?_
      exact hret _ _ _ _ dX2_fill_56 (rfl) (rfl)
    | succ n ih =>
      intro i hi
      have hBi : BM k (mq_fiN t f k i).1 := BM_fiN hB i
      have hhu : mq_hu (mq_fiN t f k i).1 f ≤ 5 := cnt_le _ 5
      have q := ih (i + 1) (by omega)
      cases ho : mq_nx (mq_fiN t f k i).1 f with
      | none =>
        simp only [mq_fiN, ho] at q
        refine r_iload_n 3 hX dX2_fill_4 rfl rfl ?_
        refine r_iconst (nI 5) hX dX2_fill_5 (by decide) ?_
        refine r_icmp_geNF 55 hX dX2_fill_6 (by decide) (by omega) ?_
        refine r_aload_n 0 hX dX2_fill_9 rfl rfl ?_
        refine r_iload_n 1 hX dX2_fill_10 rfl rfl ?_
        refine k_IM hC (w_next _ f hf) kM_nextServer rfl rfl (by decide) (Nat.le_of_ble_eq_true rfl) rfl dX2_fill_11 ?_
        refine r_eq (-1) (by rw [ho]; rfl) ?_
        refine r_istore 4 (lv' := [_, _, _, _, _]) hX dX2_fill_14 (Nat.le_of_ble_eq_true rfl) rfl ?_
        refine r_iload 4 hX dX2_fill_16 rfl ?_
        refine r_if_ltT 49 hX dX2_fill_18 (by decide) (by decide) ?_
        refine r_iincN 3 (lv' := [_, _, _, _, _]) hX dX2_fill_49 rfl (Nat.le_of_ble_eq_true rfl) rfl ?_
        refine r_goto 4 hX dX2_fill_52 (by decide) ?_
        refine r_forget 4 (lv' := [_, _, _, _, none]) rfl ?_
        exact q
      | some s =>
        have hs := (fst5_lt 5 s ho).1
        simp only [mq_fiN, ho] at q
        refine r_iload_n 3 hX dX2_fill_4 rfl rfl ?_
        refine r_iconst (nI 5) hX dX2_fill_5 (by decide) ?_
        refine r_icmp_geNF 55 hX dX2_fill_6 (by decide) (by omega) ?_
        refine r_aload_n 0 hX dX2_fill_9 rfl rfl ?_
        refine r_iload_n 1 hX dX2_fill_10 rfl rfl ?_
        refine k_IM hC (w_next _ f hf) kM_nextServer rfl rfl (by decide) (Nat.le_of_ble_eq_true rfl) rfl dX2_fill_11 ?_
        refine r_eq (nI s) (by rw [ho]; rfl) ?_
        refine r_istore 4 (lv' := [_, _, _, _, _]) hX dX2_fill_14 (Nat.le_of_ble_eq_true rfl) rfl ?_
        refine r_iload 4 hX dX2_fill_16 rfl ?_
        refine r_if_ltF 49 hX dX2_fill_18 (by decide) (nI_pos (by omega)) ?_
        refine r_aload_n 0 hX dX2_fill_21 rfl rfl ?_
        refine r_iload_n 1 hX dX2_fill_22 rfl rfl ?_
        refine r_iconst (nI 1) hX dX2_fill_23 (by decide) ?_
        refine k_IM hC (w_holders_u _ f hf) kM_holders rfl rfl (by decide) (Nat.le_of_ble_eq_true rfl) rfl dX2_fill_24 ?_
        refine r_aload_n 0 hX dX2_fill_27 rfl rfl ?_
        refine mc_g0 hC dX2_fill_28 ?_
        refine r_eq (nI k) (hBi.1) ?_
        refine r_icmp_geN 49 hX dX2_fill_31 (by decide) (by omega) (by omega) (fun c31 => ?_) (fun c31 => ?_)
        · rw [if_neg (Nat.not_lt.mpr c31)] at q
          refine r_iincN 3 (lv' := [_, _, _, _, _]) hX dX2_fill_49 rfl (Nat.le_of_ble_eq_true rfl) rfl ?_
          refine r_goto 4 hX dX2_fill_52 (by decide) ?_
          refine r_forget 4 (lv' := [_, _, _, _, none]) rfl ?_
          exact q
        · rw [if_pos c31] at q
          refine r_aload_n 0 hX dX2_fill_34 rfl rfl ?_
          refine mc_g5 hC dX2_fill_35 ?_
          refine r_iload_n 1 hX dX2_fill_38 rfl rfl ?_
          refine r_iconst (nI 5) hX dX2_fill_39 (by decide) ?_
          refine r_imulN hX dX2_fill_40 ?_
          refine r_iload 4 hX dX2_fill_41 rfl ?_
          refine r_iaddN hX dX2_fill_43 ?_
          refine r_iconst (nI 1) hX dX2_fill_44 (by decide) ?_
          refine mc_s5 hC dX2_fill_45 (by omega) (by decide) ?_
          refine r_iincN 2 (lv' := [_, _, _, _, _]) hX dX2_fill_46 rfl (Nat.le_of_ble_eq_true rfl) rfl ?_
          refine r_iincN 3 (lv' := [_, _, _, _, _]) hX dX2_fill_49 rfl (Nat.le_of_ble_eq_true rfl) rfl ?_
          refine r_goto 4 hX dX2_fill_52 (by decide) ?_
          refine r_forget 4 (lv' := [_, _, _, _, none]) rfl ?_
          exact q
  exact loop 5 0 rfl
theorem w_create_bad (t : Pst) (x : Int32) (hx : x < 0 ∨ nI 4 ≤ x) : mIM yX2_create cX2_create 3 .int 3 [.int x] t (-1) t := by
  refine e_IM (by decide) rfl (rfl) (Nat.le_of_ble_eq_true rfl) (by simp [fw_ci]) (fun X h hC hret => ?_)
  have hX := hC.ck
  refine r_lv (lv' := [some (.ref (h 0)), some (.int x), none]) rfl ?_
  refine r_aload_n 0 hX dX2_create_0 rfl rfl ?_
  refine r_iload_n 1 hX dX2_create_1 rfl rfl ?_
  refine k_IM hC (w_isFile_n t x hx) kM_isFile rfl rfl (by decide) (Nat.le_of_ble_eq_true rfl) rfl dX2_create_2 ?_
  refine r_if_neF 10 hX dX2_create_5 (by decide) (by decide) ?_
  refine r_iconst (-1) hX dX2_create_8 (by decide) ?_
  exact hret _ _ _ _ dX2_create_9 (rfl) (rfl)
theorem w_create_ex (t : Pst) (f : Nat) (hf : f < 4) (he : ¬ t 2 f = 0) : mIM yX2_create cX2_create 3 .int 3 [.int (nI f)] t (-2) t := by
  refine e_IM (by decide) rfl (rfl) (Nat.le_of_ble_eq_true rfl) (by simp [fw_ci]) (fun X h hC hret => ?_)
  have hX := hC.ck
  refine r_lv (lv' := [some (.ref (h 0)), some (.int (nI f)), none]) rfl ?_
  refine r_aload_n 0 hX dX2_create_0 rfl rfl ?_
  refine r_iload_n 1 hX dX2_create_1 rfl rfl ?_
  refine k_IM hC (w_isFile_y t f hf) kM_isFile rfl rfl (by decide) (Nat.le_of_ble_eq_true rfl) rfl dX2_create_2 ?_
  refine r_if_neT 10 hX dX2_create_5 (by decide) (by decide) ?_
  refine r_aload_n 0 hX dX2_create_10 rfl rfl ?_
  refine mc_g2 hC dX2_create_11 ?_
  refine r_iload_n 1 hX dX2_create_14 rfl rfl ?_
  refine mc_l2 hC dX2_create_15 (by omega) ?_
  refine r_if_eqF 22 hX dX2_create_16 (by decide) (he) ?_
  refine r_bipush (-2) hX dX2_create_19 (by decide) ?_
  exact hret _ _ _ _ dX2_create_21 (rfl) (rfl)
theorem w_create_ns (t : Pst) (f : Nat) (hf : f < 4) (he : t 2 f = 0) (hn : mq_nx (mq_clN t f 5) f = none) : mIM yX2_create cX2_create 3 .int 3 [.int (nI f)] t (-4) (mq_clN t f 5) := by
  refine e_IM (by decide) rfl (rfl) (Nat.le_of_ble_eq_true rfl) (by simp [fw_ci]) (fun X h hC hret => ?_)
  have hX := hC.ck
  refine r_lv (lv' := [some (.ref (h 0)), some (.int (nI f)), none]) rfl ?_
  refine r_aload_n 0 hX dX2_create_0 rfl rfl ?_
  refine r_iload_n 1 hX dX2_create_1 rfl rfl ?_
  refine k_IM hC (w_isFile_y t f hf) kM_isFile rfl rfl (by decide) (Nat.le_of_ble_eq_true rfl) rfl dX2_create_2 ?_
  refine r_if_neT 10 hX dX2_create_5 (by decide) (by decide) ?_
  refine r_aload_n 0 hX dX2_create_10 rfl rfl ?_
  refine mc_g2 hC dX2_create_11 ?_
  refine r_iload_n 1 hX dX2_create_14 rfl rfl ?_
  refine mc_l2 hC dX2_create_15 (by omega) ?_
  refine r_if_eqT 22 hX dX2_create_16 (by decide) (he) ?_
  refine r_iconst (nI 0) hX dX2_create_22 (by decide) ?_
  refine r_istore_n 2 (lv' := [_, _, _]) hX dX2_create_23 rfl (Nat.le_of_ble_eq_true rfl) rfl ?_
  have loop1 : ∀ n i, i + n = 5 → CG X (mq_clN t f i) 24 [some (.ref (h 0)), some (.int (nI f)), some (.int (nI i))] [] := by
    intro n
    induction n with
    | zero =>
      intro i hi
      obtain rfl : i = 5 := by omega
      refine r_iload_n 2 hX dX2_create_24 rfl rfl ?_
      refine r_iconst (nI 5) hX dX2_create_25 (by decide) ?_
      refine r_icmp_geNT 46 hX dX2_create_26 (by decide) (by omega) ?_
      refine r_aload_n 0 hX dX2_create_46 rfl rfl ?_
      refine r_iload_n 1 hX dX2_create_47 rfl rfl ?_
      refine k_IM hC (w_next _ f hf) kM_nextServer rfl rfl (by decide) (Nat.le_of_ble_eq_true rfl) rfl dX2_create_48 ?_
      refine r_if_geF 57 hX dX2_create_51 (by decide) (by rw [hn]; decide) ?_
      refine r_bipush (-4) hX dX2_create_54 (by decide) ?_
      exact hret _ _ _ _ dX2_create_56 (rfl) (rfl)
    | succ n ih =>
      intro i hi
      refine r_iload_n 2 hX dX2_create_24 rfl rfl ?_
      refine r_iconst (nI 5) hX dX2_create_25 (by decide) ?_
      refine r_icmp_geNF 46 hX dX2_create_26 (by decide) (by omega) ?_
      refine r_aload_n 0 hX dX2_create_29 rfl rfl ?_
      refine mc_g5 hC dX2_create_30 ?_
      refine r_iload_n 1 hX dX2_create_33 rfl rfl ?_
      refine r_iconst (nI 5) hX dX2_create_34 (by decide) ?_
      refine r_imulN hX dX2_create_35 ?_
      refine r_iload_n 2 hX dX2_create_36 rfl rfl ?_
      refine r_iaddN hX dX2_create_37 ?_
      refine r_iconst (nI 0) hX dX2_create_38 (by decide) ?_
      refine mc_s5 hC dX2_create_39 (by omega) (by decide) ?_
      refine r_iincN 2 (lv' := [_, _, _]) hX dX2_create_40 rfl (Nat.le_of_ble_eq_true rfl) rfl ?_
      refine r_goto 24 hX dX2_create_43 (by decide) ?_
      exact ih (i + 1) (by omega)
  exact loop1 5 0 rfl
theorem w_create_ok (t : Pst) (f k : Nat) (hf : f < 4) (hB : BM k t) (hk : k ≤ 3) (s : Nat) (he : t 2 f = 0) (hn : mq_nx (mq_clN t f 5) f = some s) : mIM yX2_create cX2_create 3 .int 3 [.int (nI f)] t (nI (mq_fiN (mq_cr t f) f k 5).2) (mq_fiN (mq_cr t f) f k 5).1 := by
  refine e_IM (by decide) rfl (rfl) (Nat.le_of_ble_eq_true rfl) (by simp [fw_ci]) (fun X h hC hret => ?_)
  have hX := hC.ck
  refine r_lv (lv' := [some (.ref (h 0)), some (.int (nI f)), none]) rfl ?_
  have hs := (fst5_lt 5 s hn).1
  have loop2 : ∀ n i, i + n = 6 → CG X (mq_zN (sU (sU (mq_clN t f 5) 2 f (nI 1)) 3 f (nI 0)) f i) 73 [some (.ref (h 0)), some (.int (nI f)), some (.int (nI i))] [] := by
    intro n
    induction n with
    | zero =>
      intro i hi
      obtain rfl : i = 6 := by omega
      refine r_iload_n 2 hX dX2_create_73 rfl rfl ?_
      refine r_bipush (nI 6) hX dX2_create_74 (by decide) ?_
      refine r_icmp_geNT 97 hX dX2_create_76 (by decide) (by omega) ?_
      refine r_aload_n 0 hX dX2_create_97 rfl rfl ?_
      refine r_iload_n 1 hX dX2_create_98 rfl rfl ?_
      refine k_IM hC (w_fill (mq_cr t f) f k hf (BM_cr hB) hk) kM_fill rfl rfl (by decide) (Nat.le_of_ble_eq_true rfl) rfl dX2_create_99 ?_
      exact hret _ _ _ _ dX2_create_102 (rfl) (rfl)
    | succ n ih =>
      intro i hi
      refine r_iload_n 2 hX dX2_create_73 rfl rfl ?_
      refine r_bipush (nI 6) hX dX2_create_74 (by decide) ?_
      refine r_icmp_geNF 97 hX dX2_create_76 (by decide) (by omega) ?_
      refine r_aload_n 0 hX dX2_create_79 rfl rfl ?_
      refine mc_g4 hC dX2_create_80 ?_
      refine r_iload_n 1 hX dX2_create_83 rfl rfl ?_
      refine r_bipush (nI 6) hX dX2_create_84 (by decide) ?_
      refine r_imulN hX dX2_create_86 ?_
      refine r_iload_n 2 hX dX2_create_87 rfl rfl ?_
      refine r_iaddN hX dX2_create_88 ?_
      refine r_iconst (nI 0) hX dX2_create_89 (by decide) ?_
      refine mc_s4 hC dX2_create_90 (by omega) ?_
      refine r_iincN 2 (lv' := [_, _, _]) hX dX2_create_91 rfl (Nat.le_of_ble_eq_true rfl) rfl ?_
      refine r_goto 73 hX dX2_create_94 (by decide) ?_
      exact ih (i + 1) (by omega)
  refine r_aload_n 0 hX dX2_create_0 rfl rfl ?_
  refine r_iload_n 1 hX dX2_create_1 rfl rfl ?_
  refine k_IM hC (w_isFile_y t f hf) kM_isFile rfl rfl (by decide) (Nat.le_of_ble_eq_true rfl) rfl dX2_create_2 ?_
  refine r_if_neT 10 hX dX2_create_5 (by decide) (by decide) ?_
  refine r_aload_n 0 hX dX2_create_10 rfl rfl ?_
  refine mc_g2 hC dX2_create_11 ?_
  refine r_iload_n 1 hX dX2_create_14 rfl rfl ?_
  refine mc_l2 hC dX2_create_15 (by omega) ?_
  refine r_if_eqT 22 hX dX2_create_16 (by decide) (he) ?_
  refine r_iconst (nI 0) hX dX2_create_22 (by decide) ?_
  refine r_istore_n 2 (lv' := [_, _, _]) hX dX2_create_23 rfl (Nat.le_of_ble_eq_true rfl) rfl ?_
  have loop1 : ∀ n i, i + n = 5 → CG X (mq_clN t f i) 24 [some (.ref (h 0)), some (.int (nI f)), some (.int (nI i))] [] := by
    intro n
    induction n with
    | zero =>
      intro i hi
      obtain rfl : i = 5 := by omega
      refine r_iload_n 2 hX dX2_create_24 rfl rfl ?_
      refine r_iconst (nI 5) hX dX2_create_25 (by decide) ?_
      refine r_icmp_geNT 46 hX dX2_create_26 (by decide) (by omega) ?_
      refine r_aload_n 0 hX dX2_create_46 rfl rfl ?_
      refine r_iload_n 1 hX dX2_create_47 rfl rfl ?_
      refine k_IM hC (w_next _ f hf) kM_nextServer rfl rfl (by decide) (Nat.le_of_ble_eq_true rfl) rfl dX2_create_48 ?_
      refine r_if_geT 57 hX dX2_create_51 (by decide) (by rw [hn]; exact nI_pos' (by omega)) ?_
      refine r_aload_n 0 hX dX2_create_57 rfl rfl ?_
      refine mc_g2 hC dX2_create_58 ?_
      refine r_iload_n 1 hX dX2_create_61 rfl rfl ?_
      refine r_iconst (nI 1) hX dX2_create_62 (by decide) ?_
      refine mc_s2 hC dX2_create_63 (by omega) (by decide) ?_
      refine r_aload_n 0 hX dX2_create_64 rfl rfl ?_
      refine mc_g3 hC dX2_create_65 ?_
      refine r_iload_n 1 hX dX2_create_68 rfl rfl ?_
      refine r_iconst (nI 0) hX dX2_create_69 (by decide) ?_
      refine mc_s3 hC dX2_create_70 (by omega) ?_
      refine r_iconst (nI 0) hX dX2_create_71 (by decide) ?_
      refine r_istore_n 2 (lv' := [_, _, _]) hX dX2_create_72 rfl (Nat.le_of_ble_eq_true rfl) rfl ?_
      exact loop2 6 0 rfl
    | succ n ih =>
      intro i hi
      refine r_iload_n 2 hX dX2_create_24 rfl rfl ?_
      refine r_iconst (nI 5) hX dX2_create_25 (by decide) ?_
      refine r_icmp_geNF 46 hX dX2_create_26 (by decide) (by omega) ?_
      refine r_aload_n 0 hX dX2_create_29 rfl rfl ?_
      refine mc_g5 hC dX2_create_30 ?_
      refine r_iload_n 1 hX dX2_create_33 rfl rfl ?_
      refine r_iconst (nI 5) hX dX2_create_34 (by decide) ?_
      refine r_imulN hX dX2_create_35 ?_
      refine r_iload_n 2 hX dX2_create_36 rfl rfl ?_
      refine r_iaddN hX dX2_create_37 ?_
      refine r_iconst (nI 0) hX dX2_create_38 (by decide) ?_
      refine mc_s5 hC dX2_create_39 (by omega) (by decide) ?_
      refine r_iincN 2 (lv' := [_, _, _]) hX dX2_create_40 rfl (Nat.le_of_ble_eq_true rfl) rfl ?_
      refine r_goto 24 hX dX2_create_43 (by decide) ?_
      exact ih (i + 1) (by omega)
  exact loop1 5 0 rfl
theorem w_remove_bad (t : Pst) (x : Int32) (hx : x < 0 ∨ nI 4 ≤ x) : mIM yX2_remove cX2_remove 3 .int 1 [.int x] t (-1) t := by
  refine e_IM (by decide) rfl (rfl) (Nat.le_of_ble_eq_true rfl) (by simp [fw_ci]) (fun X h hC hret => ?_)
  have hX := hC.ck
  refine r_lv (lv' := [some (.ref (h 0)), some (.int x), none]) rfl ?_
  refine r_aload_n 0 hX dX2_remove_0 rfl rfl ?_
  refine r_iload_n 1 hX dX2_remove_1 rfl rfl ?_
  refine k_IM hC (w_isFile_n t x hx) kM_isFile rfl rfl (by decide) (Nat.le_of_ble_eq_true rfl) rfl dX2_remove_2 ?_
  refine r_if_neF 10 hX dX2_remove_5 (by decide) (by decide) ?_
  refine r_iconst (-1) hX dX2_remove_8 (by decide) ?_
  exact hret _ _ _ _ dX2_remove_9 (rfl) (rfl)
theorem w_remove_no (t : Pst) (f : Nat) (hf : f < 4) (he : t 2 f = 0) : mIM yX2_remove cX2_remove 3 .int 1 [.int (nI f)] t (-3) t := by
  refine e_IM (by decide) rfl (rfl) (Nat.le_of_ble_eq_true rfl) (by simp [fw_ci]) (fun X h hC hret => ?_)
  have hX := hC.ck
  refine r_lv (lv' := [some (.ref (h 0)), some (.int (nI f)), none]) rfl ?_
  refine r_aload_n 0 hX dX2_remove_0 rfl rfl ?_
  refine r_iload_n 1 hX dX2_remove_1 rfl rfl ?_
  refine k_IM hC (w_isFile_y t f hf) kM_isFile rfl rfl (by decide) (Nat.le_of_ble_eq_true rfl) rfl dX2_remove_2 ?_
  refine r_if_neT 10 hX dX2_remove_5 (by decide) (by decide) ?_
  refine r_aload_n 0 hX dX2_remove_10 rfl rfl ?_
  refine mc_g2 hC dX2_remove_11 ?_
  refine r_iload_n 1 hX dX2_remove_14 rfl rfl ?_
  refine mc_l2 hC dX2_remove_15 (by omega) ?_
  refine r_if_neF 22 hX dX2_remove_16 (by decide) (he) ?_
  refine r_bipush (-3) hX dX2_remove_19 (by decide) ?_
  exact hret _ _ _ _ dX2_remove_21 (rfl) (rfl)
theorem w_remove_ok (t : Pst) (f : Nat) (hf : f < 4) (he : ¬ t 2 f = 0) : mIM yX2_remove cX2_remove 3 .int 1 [.int (nI f)] t 0 (mq_clN (sU t 2 f (nI 0)) f 5) := by
  refine e_IM (by decide) rfl (rfl) (Nat.le_of_ble_eq_true rfl) (by simp [fw_ci]) (fun X h hC hret => ?_)
  have hX := hC.ck
  refine r_lv (lv' := [some (.ref (h 0)), some (.int (nI f)), none]) rfl ?_
  refine r_aload_n 0 hX dX2_remove_0 rfl rfl ?_
  refine r_iload_n 1 hX dX2_remove_1 rfl rfl ?_
  refine k_IM hC (w_isFile_y t f hf) kM_isFile rfl rfl (by decide) (Nat.le_of_ble_eq_true rfl) rfl dX2_remove_2 ?_
  refine r_if_neT 10 hX dX2_remove_5 (by decide) (by decide) ?_
  refine r_aload_n 0 hX dX2_remove_10 rfl rfl ?_
  refine mc_g2 hC dX2_remove_11 ?_
  refine r_iload_n 1 hX dX2_remove_14 rfl rfl ?_
  refine mc_l2 hC dX2_remove_15 (by omega) ?_
  refine r_if_neT 22 hX dX2_remove_16 (by decide) (he) ?_
  refine r_aload_n 0 hX dX2_remove_22 rfl rfl ?_
  refine mc_g2 hC dX2_remove_23 ?_
  refine r_iload_n 1 hX dX2_remove_26 rfl rfl ?_
  refine r_iconst (nI 0) hX dX2_remove_27 (by decide) ?_
  refine mc_s2 hC dX2_remove_28 (by omega) (by decide) ?_
  refine r_iconst (nI 0) hX dX2_remove_29 (by decide) ?_
  refine r_istore_n 2 (lv' := [_, _, _]) hX dX2_remove_30 rfl (Nat.le_of_ble_eq_true rfl) rfl ?_
  have loop1 : ∀ n i, i + n = 5 → CG X (mq_clN (sU t 2 f (nI 0)) f i) 31 [some (.ref (h 0)), some (.int (nI f)), some (.int (nI i))] [] := by
    intro n
    induction n with
    | zero =>
      intro i hi
      obtain rfl : i = 5 := by omega
      refine r_iload_n 2 hX dX2_remove_31 rfl rfl ?_
      refine r_iconst (nI 5) hX dX2_remove_32 (by decide) ?_
      refine r_icmp_geNT 53 hX dX2_remove_33 (by decide) (by omega) ?_
      refine r_iconst (nI 0) hX dX2_remove_53 (by decide) ?_
      exact hret _ _ _ _ dX2_remove_54 (rfl) (rfl)
    | succ n ih =>
      intro i hi
      refine r_iload_n 2 hX dX2_remove_31 rfl rfl ?_
      refine r_iconst (nI 5) hX dX2_remove_32 (by decide) ?_
      refine r_icmp_geNF 53 hX dX2_remove_33 (by decide) (by omega) ?_
      refine r_aload_n 0 hX dX2_remove_36 rfl rfl ?_
      refine mc_g5 hC dX2_remove_37 ?_
      refine r_iload_n 1 hX dX2_remove_40 rfl rfl ?_
      refine r_iconst (nI 5) hX dX2_remove_41 (by decide) ?_
      refine r_imulN hX dX2_remove_42 ?_
      refine r_iload_n 2 hX dX2_remove_43 rfl rfl ?_
      refine r_iaddN hX dX2_remove_44 ?_
      refine r_iconst (nI 0) hX dX2_remove_45 (by decide) ?_
      refine mc_s5 hC dX2_remove_46 (by omega) (by decide) ?_
      refine r_iincN 2 (lv' := [_, _, _]) hX dX2_remove_47 rfl (Nat.le_of_ble_eq_true rfl) rfl ?_
      refine r_goto 31 hX dX2_remove_50 (by decide) ?_
      exact ih (i + 1) (by omega)
  exact loop1 5 0 rfl
theorem w_refusal_bad (t : Pst) (x : Int32) (hx : x < 0 ∨ nI 4 ≤ x) : mIM yX2_refusal cX2_refusal 2 .int 1 [.int x] t (-1) t := by
  refine e_IM (by decide) rfl (rfl) (Nat.le_of_ble_eq_true rfl) (by simp [fw_ci]) (fun X h hC hret => ?_)
  have hX := hC.ck
  refine r_lv (lv' := [some (.ref (h 0)), some (.int x)]) rfl ?_
  refine r_aload_n 0 hX dX2_refusal_0 rfl rfl ?_
  refine r_iload_n 1 hX dX2_refusal_1 rfl rfl ?_
  refine k_IM hC (w_isFile_n t x hx) kM_isFile rfl rfl (by decide) (Nat.le_of_ble_eq_true rfl) rfl dX2_refusal_2 ?_
  refine r_if_neF 10 hX dX2_refusal_5 (by decide) (by decide) ?_
  refine r_iconst (-1) hX dX2_refusal_8 (by decide) ?_
  exact hret _ _ _ _ dX2_refusal_9 (rfl) (rfl)
theorem w_refusal (t : Pst) (f : Nat) (hf : f < 4) : mIM yX2_refusal cX2_refusal 2 .int 1 [.int (nI f)] t (mq_rf t f) t := by
  refine e_IM (by decide) rfl (rfl) (Nat.le_of_ble_eq_true rfl) (by simp [fw_ci]) (fun X h hC hret => ?_)
  have hX := hC.ck
  refine r_lv (lv' := [some (.ref (h 0)), some (.int (nI f))]) rfl ?_
  have hhu : mq_hu t f ≤ 5 := cnt_le _ 5
  refine r_aload_n 0 hX dX2_refusal_0 rfl rfl ?_
  refine r_iload_n 1 hX dX2_refusal_1 rfl rfl ?_
  refine k_IM hC (w_isFile_y t f hf) kM_isFile rfl rfl (by decide) (Nat.le_of_ble_eq_true rfl) rfl dX2_refusal_2 ?_
  refine r_if_neT 10 hX dX2_refusal_5 (by decide) (by decide) ?_
  refine r_aload_n 0 hX dX2_refusal_10 rfl rfl ?_
  refine mc_g2 hC dX2_refusal_11 ?_
  refine r_iload_n 1 hX dX2_refusal_14 rfl rfl ?_
  refine mc_l2 hC dX2_refusal_15 (by omega) ?_
  refine r_if_ne 22 hX dX2_refusal_16 (by decide) (fun c16 => ?_) (fun c16 => ?_)
  · refine r_aload_n 0 hX dX2_refusal_22 rfl rfl ?_
    refine r_iload_n 1 hX dX2_refusal_23 rfl rfl ?_
    refine r_iconst (nI 1) hX dX2_refusal_24 (by decide) ?_
    refine k_IM hC (w_holders_u t f hf) kM_holders rfl rfl (by decide) (Nat.le_of_ble_eq_true rfl) rfl dX2_refusal_25 ?_
    refine r_if_ne 36 hX dX2_refusal_28 (by decide) (fun c28 => ?_) (fun c28 => ?_)
    · have c29 : mq_hu t f ≠ 0 := fun z => c28 (by rw [z]; rfl)
      refine r_iconst (nI 0) hX dX2_refusal_36 (by decide) ?_
      exact hret _ _ _ _ dX2_refusal_37 (by simp [mq_rf, c16, c29]; try rfl) (rfl)
    · have c29 : mq_hu t f = 0 := (nI_eq (by omega) (by decide)).mp c28
      refine r_bipush (-5) hX dX2_refusal_31 (by decide) ?_
      refine r_goto 37 hX dX2_refusal_33 (by decide) ?_
      exact hret _ _ _ _ dX2_refusal_37 (by simp [mq_rf, c16, c29]; try rfl) (rfl)
  · refine r_bipush (-3) hX dX2_refusal_19 (by decide) ?_
    exact hret _ _ _ _ dX2_refusal_21 (by simp [mq_rf, c16]) (rfl)
end
section
theorem w_crash_bad (t : Pst) (x : Int32) (hx : x < 0 ∨ nI 5 ≤ x) : mIM yX2_crash cX2_crash 3 .int 1 [.int x] t (-1) t := by
  refine e_IM (by decide) rfl (rfl) (Nat.le_of_ble_eq_true rfl) (by simp [fw_ci]) (fun X h hC hret => ?_)
  have hX := hC.ck
  refine r_lv (lv' := [some (.ref (h 0)), some (.int x), none]) rfl ?_
  refine r_aload_n 0 hX dX2_crash_0 rfl rfl ?_
  refine r_iload_n 1 hX dX2_crash_1 rfl rfl ?_
  refine k_IM hC (w_isServer_n t x hx) kM_isServer rfl rfl (by decide) (Nat.le_of_ble_eq_true rfl) rfl dX2_crash_2 ?_
  refine r_if_neF 10 hX dX2_crash_5 (by decide) (by decide) ?_
  refine r_iconst (-1) hX dX2_crash_8 (by decide) ?_
  exact hret _ _ _ _ dX2_crash_9 (rfl) (rfl)
theorem w_crash_dn (t : Pst) (s : Nat) (hs : s < 5) (he : ¬ t 1 s = 0) : mIM yX2_crash cX2_crash 3 .int 1 [.int (nI s)] t 0 (sU t 1 s (nI 1)) := by
  refine e_IM (by decide) rfl (rfl) (Nat.le_of_ble_eq_true rfl) (by simp [fw_ci]) (fun X h hC hret => ?_)
  have hX := hC.ck
  refine r_lv (lv' := [some (.ref (h 0)), some (.int (nI s)), none]) rfl ?_
  refine r_aload_n 0 hX dX2_crash_0 rfl rfl ?_
  refine r_iload_n 1 hX dX2_crash_1 rfl rfl ?_
  refine k_IM hC (w_isServer_y t s hs) kM_isServer rfl rfl (by decide) (Nat.le_of_ble_eq_true rfl) rfl dX2_crash_2 ?_
  refine r_if_neT 10 hX dX2_crash_5 (by decide) (by decide) ?_
  refine r_aload_n 0 hX dX2_crash_10 rfl rfl ?_
  refine mc_g1 hC dX2_crash_11 ?_
  refine r_iload_n 1 hX dX2_crash_14 rfl rfl ?_
  refine mc_l1 hC dX2_crash_15 (by omega) ?_
  refine r_if_eqF 23 hX dX2_crash_16 (by decide) (he) ?_
  refine r_iconst (nI 0) hX dX2_crash_19 (by decide) ?_
  refine r_goto 24 hX dX2_crash_20 (by decide) ?_
  refine r_istore_n 2 (lv' := [_, _, _]) hX dX2_crash_24 rfl (Nat.le_of_ble_eq_true rfl) rfl ?_
  refine r_aload_n 0 hX dX2_crash_25 rfl rfl ?_
  refine mc_g1 hC dX2_crash_26 ?_
  refine r_iload_n 1 hX dX2_crash_29 rfl rfl ?_
  refine r_iconst (nI 1) hX dX2_crash_30 (by decide) ?_
  refine mc_s1 hC dX2_crash_31 (by omega) (by decide) ?_
  refine r_iload_n 2 hX dX2_crash_32 rfl rfl ?_
  exact hret _ _ _ _ dX2_crash_33 (rfl) (rfl)
theorem w_crash_up (t : Pst) (s : Nat) (hs : s < 5) (he : t 1 s = 0) : mIM yX2_crash cX2_crash 3 .int 1 [.int (nI s)] t 1 (sU t 1 s (nI 1)) := by
  refine e_IM (by decide) rfl (rfl) (Nat.le_of_ble_eq_true rfl) (by simp [fw_ci]) (fun X h hC hret => ?_)
  have hX := hC.ck
  refine r_lv (lv' := [some (.ref (h 0)), some (.int (nI s)), none]) rfl ?_
  refine r_aload_n 0 hX dX2_crash_0 rfl rfl ?_
  refine r_iload_n 1 hX dX2_crash_1 rfl rfl ?_
  refine k_IM hC (w_isServer_y t s hs) kM_isServer rfl rfl (by decide) (Nat.le_of_ble_eq_true rfl) rfl dX2_crash_2 ?_
  refine r_if_neT 10 hX dX2_crash_5 (by decide) (by decide) ?_
  refine r_aload_n 0 hX dX2_crash_10 rfl rfl ?_
  refine mc_g1 hC dX2_crash_11 ?_
  refine r_iload_n 1 hX dX2_crash_14 rfl rfl ?_
  refine mc_l1 hC dX2_crash_15 (by omega) ?_
  refine r_if_eqT 23 hX dX2_crash_16 (by decide) (he) ?_
  refine r_iconst (nI 1) hX dX2_crash_23 (by decide) ?_
  refine r_istore_n 2 (lv' := [_, _, _]) hX dX2_crash_24 rfl (Nat.le_of_ble_eq_true rfl) rfl ?_
  refine r_aload_n 0 hX dX2_crash_25 rfl rfl ?_
  refine mc_g1 hC dX2_crash_26 ?_
  refine r_iload_n 1 hX dX2_crash_29 rfl rfl ?_
  refine r_iconst (nI 1) hX dX2_crash_30 (by decide) ?_
  refine mc_s1 hC dX2_crash_31 (by omega) (by decide) ?_
  refine r_iload_n 2 hX dX2_crash_32 rfl rfl ?_
  exact hret _ _ _ _ dX2_crash_33 (rfl) (rfl)
theorem w_restart_bad (t : Pst) (x : Int32) (hx : x < 0 ∨ nI 5 ≤ x) : mIM yX2_restart cX2_restart 3 .int 1 [.int x] t (-1) t := by
  refine e_IM (by decide) rfl (rfl) (Nat.le_of_ble_eq_true rfl) (by simp [fw_ci]) (fun X h hC hret => ?_)
  have hX := hC.ck
  refine r_lv (lv' := [some (.ref (h 0)), some (.int x), none]) rfl ?_
  refine r_aload_n 0 hX dX2_restart_0 rfl rfl ?_
  refine r_iload_n 1 hX dX2_restart_1 rfl rfl ?_
  refine k_IM hC (w_isServer_n t x hx) kM_isServer rfl rfl (by decide) (Nat.le_of_ble_eq_true rfl) rfl dX2_restart_2 ?_
  refine r_if_neF 10 hX dX2_restart_5 (by decide) (by decide) ?_
  refine r_iconst (-1) hX dX2_restart_8 (by decide) ?_
  exact hret _ _ _ _ dX2_restart_9 (rfl) (rfl)
theorem w_restart_dn (t : Pst) (s : Nat) (hs : s < 5) (he : ¬ t 1 s = 0) : mIM yX2_restart cX2_restart 3 .int 1 [.int (nI s)] t 1 (sU t 1 s (nI 0)) := by
  refine e_IM (by decide) rfl (rfl) (Nat.le_of_ble_eq_true rfl) (by simp [fw_ci]) (fun X h hC hret => ?_)
  have hX := hC.ck
  refine r_lv (lv' := [some (.ref (h 0)), some (.int (nI s)), none]) rfl ?_
  refine r_aload_n 0 hX dX2_restart_0 rfl rfl ?_
  refine r_iload_n 1 hX dX2_restart_1 rfl rfl ?_
  refine k_IM hC (w_isServer_y t s hs) kM_isServer rfl rfl (by decide) (Nat.le_of_ble_eq_true rfl) rfl dX2_restart_2 ?_
  refine r_if_neT 10 hX dX2_restart_5 (by decide) (by decide) ?_
  refine r_aload_n 0 hX dX2_restart_10 rfl rfl ?_
  refine mc_g1 hC dX2_restart_11 ?_
  refine r_iload_n 1 hX dX2_restart_14 rfl rfl ?_
  refine mc_l1 hC dX2_restart_15 (by omega) ?_
  refine r_if_eqF 23 hX dX2_restart_16 (by decide) (he) ?_
  refine r_iconst (nI 1) hX dX2_restart_19 (by decide) ?_
  refine r_goto 24 hX dX2_restart_20 (by decide) ?_
  refine r_istore_n 2 (lv' := [_, _, _]) hX dX2_restart_24 rfl (Nat.le_of_ble_eq_true rfl) rfl ?_
  refine r_aload_n 0 hX dX2_restart_25 rfl rfl ?_
  refine mc_g1 hC dX2_restart_26 ?_
  refine r_iload_n 1 hX dX2_restart_29 rfl rfl ?_
  refine r_iconst (nI 0) hX dX2_restart_30 (by decide) ?_
  refine mc_s1 hC dX2_restart_31 (by omega) (by decide) ?_
  refine r_iload_n 2 hX dX2_restart_32 rfl rfl ?_
  exact hret _ _ _ _ dX2_restart_33 (rfl) (rfl)
theorem w_restart_up (t : Pst) (s : Nat) (hs : s < 5) (he : t 1 s = 0) : mIM yX2_restart cX2_restart 3 .int 1 [.int (nI s)] t 0 (sU t 1 s (nI 0)) := by
  refine e_IM (by decide) rfl (rfl) (Nat.le_of_ble_eq_true rfl) (by simp [fw_ci]) (fun X h hC hret => ?_)
  have hX := hC.ck
  refine r_lv (lv' := [some (.ref (h 0)), some (.int (nI s)), none]) rfl ?_
  refine r_aload_n 0 hX dX2_restart_0 rfl rfl ?_
  refine r_iload_n 1 hX dX2_restart_1 rfl rfl ?_
  refine k_IM hC (w_isServer_y t s hs) kM_isServer rfl rfl (by decide) (Nat.le_of_ble_eq_true rfl) rfl dX2_restart_2 ?_
  refine r_if_neT 10 hX dX2_restart_5 (by decide) (by decide) ?_
  refine r_aload_n 0 hX dX2_restart_10 rfl rfl ?_
  refine mc_g1 hC dX2_restart_11 ?_
  refine r_iload_n 1 hX dX2_restart_14 rfl rfl ?_
  refine mc_l1 hC dX2_restart_15 (by omega) ?_
  refine r_if_eqT 23 hX dX2_restart_16 (by decide) (he) ?_
  refine r_iconst (nI 0) hX dX2_restart_23 (by decide) ?_
  refine r_istore_n 2 (lv' := [_, _, _]) hX dX2_restart_24 rfl (Nat.le_of_ble_eq_true rfl) rfl ?_
  refine r_aload_n 0 hX dX2_restart_25 rfl rfl ?_
  refine mc_g1 hC dX2_restart_26 ?_
  refine r_iload_n 1 hX dX2_restart_29 rfl rfl ?_
  refine r_iconst (nI 0) hX dX2_restart_30 (by decide) ?_
  refine mc_s1 hC dX2_restart_31 (by omega) (by decide) ?_
  refine r_iload_n 2 hX dX2_restart_32 rfl rfl ?_
  exact hret _ _ _ _ dX2_restart_33 (rfl) (rfl)
theorem w_loseDisk_bad (t : Pst) (x : Int32) (hx : x < 0 ∨ nI 5 ≤ x) : mIM yX2_loseDisk cX2_loseDisk 4 .int 1 [.int x] t (-1) t := by
  refine e_IM (by decide) rfl (rfl) (Nat.le_of_ble_eq_true rfl) (by simp [fw_ci]) (fun X h hC hret => ?_)
  have hX := hC.ck
  refine r_lv (lv' := [some (.ref (h 0)), some (.int x), none, none]) rfl ?_
  refine r_aload_n 0 hX dX2_loseDisk_0 rfl rfl ?_
  refine r_iload_n 1 hX dX2_loseDisk_1 rfl rfl ?_
  refine k_IM hC (w_isServer_n t x hx) kM_isServer rfl rfl (by decide) (Nat.le_of_ble_eq_true rfl) rfl dX2_loseDisk_2 ?_
  refine r_if_neF 10 hX dX2_loseDisk_5 (by decide) (by decide) ?_
  refine r_iconst (-1) hX dX2_loseDisk_8 (by decide) ?_
  exact hret _ _ _ _ dX2_loseDisk_9 (rfl) (rfl)
theorem w_loseDisk_ok (t : Pst) (s : Nat) (hs : s < 5) : mIM yX2_loseDisk cX2_loseDisk 4 .int 1 [.int (nI s)] t (nI (mq_ld t s)) (mq_loN t s 4) := by
  refine e_IM (by decide) rfl (rfl) (Nat.le_of_ble_eq_true rfl) (by simp [fw_ci]) (fun X h hC hret => ?_)
  have hX := hC.ck
  refine r_lv (lv' := [some (.ref (h 0)), some (.int (nI s)), none, none]) rfl ?_
  refine r_aload_n 0 hX dX2_loseDisk_0 rfl rfl ?_
  refine r_iload_n 1 hX dX2_loseDisk_1 rfl rfl ?_
  refine k_IM hC (w_isServer_y t s hs) kM_isServer rfl rfl (by decide) (Nat.le_of_ble_eq_true rfl) rfl dX2_loseDisk_2 ?_
  refine r_if_neT 10 hX dX2_loseDisk_5 (by decide) (by decide) ?_
  refine r_aload_n 0 hX dX2_loseDisk_10 rfl rfl ?_
  refine r_iload_n 1 hX dX2_loseDisk_11 rfl rfl ?_
  refine k_IM hC (w_load t s hs) kM_load rfl rfl (by decide) (Nat.le_of_ble_eq_true rfl) rfl dX2_loseDisk_12 ?_
  refine r_istore_n 2 (lv' := [_, _, _, _]) hX dX2_loseDisk_15 rfl (Nat.le_of_ble_eq_true rfl) rfl ?_
  refine r_iconst (nI 0) hX dX2_loseDisk_16 (by decide) ?_
  refine r_istore_n 3 (lv' := [_, _, _, _]) hX dX2_loseDisk_17 rfl (Nat.le_of_ble_eq_true rfl) rfl ?_
  have loop : ∀ n i, i + n = 4 → CG X (mq_loN t s i) 18 [some (.ref (h 0)), some (.int (nI s)), some (.int (nI (mq_ld t s))), some (.int (nI i))] [] := by
    intro n
    induction n with
    | zero =>
      intro i hi
      obtain rfl : i = 4 := by omega
      refine r_iload_n 3 hX dX2_loseDisk_18 rfl rfl ?_
      refine r_iconst (nI 4) hX dX2_loseDisk_19 (by decide) ?_
      refine r_icmp_geNT 40 hX dX2_loseDisk_20 (by decide) (by omega) ?_
      refine r_iload_n 2 hX dX2_loseDisk_40 rfl rfl ?_
      exact hret _ _ _ _ dX2_loseDisk_41 (rfl) (rfl)
    | succ n ih =>
      intro i hi
      refine r_iload_n 3 hX dX2_loseDisk_18 rfl rfl ?_
      refine r_iconst (nI 4) hX dX2_loseDisk_19 (by decide) ?_
      refine r_icmp_geNF 40 hX dX2_loseDisk_20 (by decide) (by omega) ?_
      refine r_aload_n 0 hX dX2_loseDisk_23 rfl rfl ?_
      refine mc_g5 hC dX2_loseDisk_24 ?_
      refine r_iload_n 3 hX dX2_loseDisk_27 rfl rfl ?_
      refine r_iconst (nI 5) hX dX2_loseDisk_28 (by decide) ?_
      refine r_imulN hX dX2_loseDisk_29 ?_
      refine r_iload_n 1 hX dX2_loseDisk_30 rfl rfl ?_
      refine r_iaddN hX dX2_loseDisk_31 ?_
      refine r_iconst (nI 0) hX dX2_loseDisk_32 (by decide) ?_
      refine mc_s5 hC dX2_loseDisk_33 (by omega) (by decide) ?_
      refine r_iincN 3 (lv' := [_, _, _, _]) hX dX2_loseDisk_34 rfl (Nat.le_of_ble_eq_true rfl) rfl ?_
      refine r_goto 18 hX dX2_loseDisk_37 (by decide) ?_
      exact ih (i + 1) (by omega)
  exact loop 4 0 rfl
theorem w_damage_bad1 (t : Pst) (x : Int32) (hx : x < 0 ∨ nI 5 ≤ x) (y : Int32) : mIM yX2_damage cX2_damage 4 .int 1 [.int x, .int y] t (-1) t := by
  refine e_IM (by decide) rfl (rfl) (Nat.le_of_ble_eq_true rfl) (by simp [fw_ci]) (fun X h hC hret => ?_)
  have hX := hC.ck
  refine r_lv (lv' := [some (.ref (h 0)), some (.int x), some (.int y), none]) rfl ?_
  refine r_aload_n 0 hX dX2_damage_0 rfl rfl ?_
  refine r_iload_n 1 hX dX2_damage_1 rfl rfl ?_
  refine k_IM hC (w_isServer_n t x hx) kM_isServer rfl rfl (by decide) (Nat.le_of_ble_eq_true rfl) rfl dX2_damage_2 ?_
  refine r_if_eqT 16 hX dX2_damage_5 (by decide) (by decide) ?_
  refine r_iconst (-1) hX dX2_damage_16 (by decide) ?_
  exact hret _ _ _ _ dX2_damage_17 (rfl) (rfl)
theorem w_damage_bad2 (t : Pst) (s : Nat) (hs : s < 5) (x : Int32) (hx : x < 0 ∨ nI 4 ≤ x) : mIM yX2_damage cX2_damage 4 .int 1 [.int (nI s), .int x] t (-1) t := by
  refine e_IM (by decide) rfl (rfl) (Nat.le_of_ble_eq_true rfl) (by simp [fw_ci]) (fun X h hC hret => ?_)
  have hX := hC.ck
  refine r_lv (lv' := [some (.ref (h 0)), some (.int (nI s)), some (.int x), none]) rfl ?_
  refine r_aload_n 0 hX dX2_damage_0 rfl rfl ?_
  refine r_iload_n 1 hX dX2_damage_1 rfl rfl ?_
  refine k_IM hC (w_isServer_y t s hs) kM_isServer rfl rfl (by decide) (Nat.le_of_ble_eq_true rfl) rfl dX2_damage_2 ?_
  refine r_if_eqF 16 hX dX2_damage_5 (by decide) (by decide) ?_
  refine r_aload_n 0 hX dX2_damage_8 rfl rfl ?_
  refine r_iload_n 2 hX dX2_damage_9 rfl rfl ?_
  refine k_IM hC (w_isFile_n t x hx) kM_isFile rfl rfl (by decide) (Nat.le_of_ble_eq_true rfl) rfl dX2_damage_10 ?_
  refine r_if_neF 18 hX dX2_damage_13 (by decide) (by decide) ?_
  refine r_iconst (-1) hX dX2_damage_16 (by decide) ?_
  exact hret _ _ _ _ dX2_damage_17 (rfl) (rfl)
theorem w_damage_no (t : Pst) (s f : Nat) (hs : s < 5) (hf : f < 4) (he : t 2 f = 0) : mIM yX2_damage cX2_damage 4 .int 1 [.int (nI s), .int (nI f)] t (-3) t := by
  refine e_IM (by decide) rfl (rfl) (Nat.le_of_ble_eq_true rfl) (by simp [fw_ci]) (fun X h hC hret => ?_)
  have hX := hC.ck
  refine r_lv (lv' := [some (.ref (h 0)), some (.int (nI s)), some (.int (nI f)), none]) rfl ?_
  refine r_aload_n 0 hX dX2_damage_0 rfl rfl ?_
  refine r_iload_n 1 hX dX2_damage_1 rfl rfl ?_
  refine k_IM hC (w_isServer_y t s hs) kM_isServer rfl rfl (by decide) (Nat.le_of_ble_eq_true rfl) rfl dX2_damage_2 ?_
  refine r_if_eqF 16 hX dX2_damage_5 (by decide) (by decide) ?_
  refine r_aload_n 0 hX dX2_damage_8 rfl rfl ?_
  refine r_iload_n 2 hX dX2_damage_9 rfl rfl ?_
  refine k_IM hC (w_isFile_y t f hf) kM_isFile rfl rfl (by decide) (Nat.le_of_ble_eq_true rfl) rfl dX2_damage_10 ?_
  refine r_if_neT 18 hX dX2_damage_13 (by decide) (by decide) ?_
  refine r_aload_n 0 hX dX2_damage_18 rfl rfl ?_
  refine mc_g2 hC dX2_damage_19 ?_
  refine r_iload_n 2 hX dX2_damage_22 rfl rfl ?_
  refine mc_l2 hC dX2_damage_23 (by omega) ?_
  refine r_if_neF 30 hX dX2_damage_24 (by decide) (he) ?_
  refine r_bipush (-3) hX dX2_damage_27 (by decide) ?_
  exact hret _ _ _ _ dX2_damage_29 (rfl) (rfl)
theorem w_damage_y (t : Pst) (s f : Nat) (hs : s < 5) (hf : f < 4) (he : ¬ t 2 f = 0) (hc : mq_c t f s = true) : mIM yX2_damage cX2_damage 4 .int 1 [.int (nI s), .int (nI f)] t 1 (sU t 5 (f * 5 + s) (nI 0)) := by
  refine e_IM (by decide) rfl (rfl) (Nat.le_of_ble_eq_true rfl) (by simp [fw_ci]) (fun X h hC hret => ?_)
  have hX := hC.ck
  refine r_lv (lv' := [some (.ref (h 0)), some (.int (nI s)), some (.int (nI f)), none]) rfl ?_
  refine r_aload_n 0 hX dX2_damage_0 rfl rfl ?_
  refine r_iload_n 1 hX dX2_damage_1 rfl rfl ?_
  refine k_IM hC (w_isServer_y t s hs) kM_isServer rfl rfl (by decide) (Nat.le_of_ble_eq_true rfl) rfl dX2_damage_2 ?_
  refine r_if_eqF 16 hX dX2_damage_5 (by decide) (by decide) ?_
  refine r_aload_n 0 hX dX2_damage_8 rfl rfl ?_
  refine r_iload_n 2 hX dX2_damage_9 rfl rfl ?_
  refine k_IM hC (w_isFile_y t f hf) kM_isFile rfl rfl (by decide) (Nat.le_of_ble_eq_true rfl) rfl dX2_damage_10 ?_
  refine r_if_neT 18 hX dX2_damage_13 (by decide) (by decide) ?_
  refine r_aload_n 0 hX dX2_damage_18 rfl rfl ?_
  refine mc_g2 hC dX2_damage_19 ?_
  refine r_iload_n 2 hX dX2_damage_22 rfl rfl ?_
  refine mc_l2 hC dX2_damage_23 (by omega) ?_
  refine r_if_neT 30 hX dX2_damage_24 (by decide) (he) ?_
  refine r_aload_n 0 hX dX2_damage_30 rfl rfl ?_
  refine mc_g5 hC dX2_damage_31 ?_
  refine r_iload_n 2 hX dX2_damage_34 rfl rfl ?_
  refine r_iconst (nI 5) hX dX2_damage_35 (by decide) ?_
  refine r_imulN hX dX2_damage_36 ?_
  refine r_iload_n 1 hX dX2_damage_37 rfl rfl ?_
  refine r_iaddN hX dX2_damage_38 ?_
  refine mc_l5 hC dX2_damage_39 (by omega) ?_
  refine r_if_eqF 47 hX dX2_damage_40 (by decide) (by simpa [mq_c] using hc) ?_
  refine r_iconst (nI 1) hX dX2_damage_43 (by decide) ?_
  refine r_goto 48 hX dX2_damage_44 (by decide) ?_
  refine r_istore_n 3 (lv' := [_, _, _, _]) hX dX2_damage_48 rfl (Nat.le_of_ble_eq_true rfl) rfl ?_
  refine r_aload_n 0 hX dX2_damage_49 rfl rfl ?_
  refine mc_g5 hC dX2_damage_50 ?_
  refine r_iload_n 2 hX dX2_damage_53 rfl rfl ?_
  refine r_iconst (nI 5) hX dX2_damage_54 (by decide) ?_
  refine r_imulN hX dX2_damage_55 ?_
  refine r_iload_n 1 hX dX2_damage_56 rfl rfl ?_
  refine r_iaddN hX dX2_damage_57 ?_
  refine r_iconst (nI 0) hX dX2_damage_58 (by decide) ?_
  refine mc_s5 hC dX2_damage_59 (by omega) (by decide) ?_
  refine r_iload_n 3 hX dX2_damage_60 rfl rfl ?_
  exact hret _ _ _ _ dX2_damage_61 (rfl) (rfl)
theorem w_damage_n (t : Pst) (s f : Nat) (hs : s < 5) (hf : f < 4) (he : ¬ t 2 f = 0) (hc : mq_c t f s = false) : mIM yX2_damage cX2_damage 4 .int 1 [.int (nI s), .int (nI f)] t 0 (sU t 5 (f * 5 + s) (nI 0)) := by
  refine e_IM (by decide) rfl (rfl) (Nat.le_of_ble_eq_true rfl) (by simp [fw_ci]) (fun X h hC hret => ?_)
  have hX := hC.ck
  refine r_lv (lv' := [some (.ref (h 0)), some (.int (nI s)), some (.int (nI f)), none]) rfl ?_
  refine r_aload_n 0 hX dX2_damage_0 rfl rfl ?_
  refine r_iload_n 1 hX dX2_damage_1 rfl rfl ?_
  refine k_IM hC (w_isServer_y t s hs) kM_isServer rfl rfl (by decide) (Nat.le_of_ble_eq_true rfl) rfl dX2_damage_2 ?_
  refine r_if_eqF 16 hX dX2_damage_5 (by decide) (by decide) ?_
  refine r_aload_n 0 hX dX2_damage_8 rfl rfl ?_
  refine r_iload_n 2 hX dX2_damage_9 rfl rfl ?_
  refine k_IM hC (w_isFile_y t f hf) kM_isFile rfl rfl (by decide) (Nat.le_of_ble_eq_true rfl) rfl dX2_damage_10 ?_
  refine r_if_neT 18 hX dX2_damage_13 (by decide) (by decide) ?_
  refine r_aload_n 0 hX dX2_damage_18 rfl rfl ?_
  refine mc_g2 hC dX2_damage_19 ?_
  refine r_iload_n 2 hX dX2_damage_22 rfl rfl ?_
  refine mc_l2 hC dX2_damage_23 (by omega) ?_
  refine r_if_neT 30 hX dX2_damage_24 (by decide) (he) ?_
  refine r_aload_n 0 hX dX2_damage_30 rfl rfl ?_
  refine mc_g5 hC dX2_damage_31 ?_
  refine r_iload_n 2 hX dX2_damage_34 rfl rfl ?_
  refine r_iconst (nI 5) hX dX2_damage_35 (by decide) ?_
  refine r_imulN hX dX2_damage_36 ?_
  refine r_iload_n 1 hX dX2_damage_37 rfl rfl ?_
  refine r_iaddN hX dX2_damage_38 ?_
  refine mc_l5 hC dX2_damage_39 (by omega) ?_
  refine r_if_eqT 47 hX dX2_damage_40 (by decide) (by simpa [mq_c] using hc) ?_
  refine r_iconst (nI 0) hX dX2_damage_47 (by decide) ?_
  refine r_istore_n 3 (lv' := [_, _, _, _]) hX dX2_damage_48 rfl (Nat.le_of_ble_eq_true rfl) rfl ?_
  refine r_aload_n 0 hX dX2_damage_49 rfl rfl ?_
  refine mc_g5 hC dX2_damage_50 ?_
  refine r_iload_n 2 hX dX2_damage_53 rfl rfl ?_
  refine r_iconst (nI 5) hX dX2_damage_54 (by decide) ?_
  refine r_imulN hX dX2_damage_55 ?_
  refine r_iload_n 1 hX dX2_damage_56 rfl rfl ?_
  refine r_iaddN hX dX2_damage_57 ?_
  refine r_iconst (nI 0) hX dX2_damage_58 (by decide) ?_
  refine mc_s5 hC dX2_damage_59 (by omega) (by decide) ?_
  refine r_iload_n 3 hX dX2_damage_60 rfl rfl ?_
  exact hret _ _ _ _ dX2_damage_61 (rfl) (rfl)
theorem w_replicas_bad (t : Pst) (x : Int32) (hx : x < 0 ∨ nI 4 ≤ x) : mIM yX2_replicas cX2_replicas 4 .int 1 [.int x] t (-1) t := by
  refine e_IM (by decide) rfl (rfl) (Nat.le_of_ble_eq_true rfl) (by simp [fw_ci]) (fun X h hC hret => ?_)
  have hX := hC.ck
  refine r_lv (lv' := [some (.ref (h 0)), some (.int x), none, none]) rfl ?_
  refine r_aload_n 0 hX dX2_replicas_0 rfl rfl ?_
  refine r_iload_n 1 hX dX2_replicas_1 rfl rfl ?_
  refine k_IM hC (w_isFile_n t x hx) kM_isFile rfl rfl (by decide) (Nat.le_of_ble_eq_true rfl) rfl dX2_replicas_2 ?_
  refine r_if_neF 10 hX dX2_replicas_5 (by decide) (by decide) ?_
  refine r_iconst (-1) hX dX2_replicas_8 (by decide) ?_
  exact hret _ _ _ _ dX2_replicas_9 (rfl) (rfl)
theorem w_replicas_no (t : Pst) (f : Nat) (hf : f < 4) (he : t 2 f = 0) : mIM yX2_replicas cX2_replicas 4 .int 1 [.int (nI f)] t (-3) t := by
  refine e_IM (by decide) rfl (rfl) (Nat.le_of_ble_eq_true rfl) (by simp [fw_ci]) (fun X h hC hret => ?_)
  have hX := hC.ck
  refine r_lv (lv' := [some (.ref (h 0)), some (.int (nI f)), none, none]) rfl ?_
  refine r_aload_n 0 hX dX2_replicas_0 rfl rfl ?_
  refine r_iload_n 1 hX dX2_replicas_1 rfl rfl ?_
  refine k_IM hC (w_isFile_y t f hf) kM_isFile rfl rfl (by decide) (Nat.le_of_ble_eq_true rfl) rfl dX2_replicas_2 ?_
  refine r_if_neT 10 hX dX2_replicas_5 (by decide) (by decide) ?_
  refine r_aload_n 0 hX dX2_replicas_10 rfl rfl ?_
  refine mc_g2 hC dX2_replicas_11 ?_
  refine r_iload_n 1 hX dX2_replicas_14 rfl rfl ?_
  refine mc_l2 hC dX2_replicas_15 (by omega) ?_
  refine r_if_neF 22 hX dX2_replicas_16 (by decide) (he) ?_
  refine r_bipush (-3) hX dX2_replicas_19 (by decide) ?_
  exact hret _ _ _ _ dX2_replicas_21 (rfl) (rfl)
theorem w_replicas_ok (t : Pst) (f : Nat) (hf : f < 4) (he : ¬ t 2 f = 0) : mIM yX2_replicas cX2_replicas 4 .int 1 [.int (nI f)] t (nI (mk5 (mq_c t f) 5)) t := by
  refine e_IM (by decide) rfl (rfl) (Nat.le_of_ble_eq_true rfl) (by simp [fw_ci]) (fun X h hC hret => ?_)
  have hX := hC.ck
  refine r_lv (lv' := [some (.ref (h 0)), some (.int (nI f)), none, none]) rfl ?_
  refine r_aload_n 0 hX dX2_replicas_0 rfl rfl ?_
  refine r_iload_n 1 hX dX2_replicas_1 rfl rfl ?_
  refine k_IM hC (w_isFile_y t f hf) kM_isFile rfl rfl (by decide) (Nat.le_of_ble_eq_true rfl) rfl dX2_replicas_2 ?_
  refine r_if_neT 10 hX dX2_replicas_5 (by decide) (by decide) ?_
  refine r_aload_n 0 hX dX2_replicas_10 rfl rfl ?_
  refine mc_g2 hC dX2_replicas_11 ?_
  refine r_iload_n 1 hX dX2_replicas_14 rfl rfl ?_
  refine mc_l2 hC dX2_replicas_15 (by omega) ?_
  refine r_if_neT 22 hX dX2_replicas_16 (by decide) (he) ?_
  refine r_iconst (nI 0) hX dX2_replicas_22 (by decide) ?_
  refine r_istore_n 2 (lv' := [_, _, _, _]) hX dX2_replicas_23 rfl (Nat.le_of_ble_eq_true rfl) rfl ?_
  refine r_iconst (nI 0) hX dX2_replicas_24 (by decide) ?_
  refine r_istore_n 3 (lv' := [_, _, _, _]) hX dX2_replicas_25 rfl (Nat.le_of_ble_eq_true rfl) rfl ?_
  have loop : ∀ n i, i + n = 5 → CG X (t) 26 [some (.ref (h 0)), some (.int (nI f)), some (.int (nI (mk5 (mq_c t f) i))), some (.int (nI i))] [] := by
    intro n
    induction n with
    | zero =>
      intro i hi
      obtain rfl : i = 5 := by omega
      refine r_iload_n 3 hX dX2_replicas_26 rfl rfl ?_
      refine r_iconst (nI 5) hX dX2_replicas_27 (by decide) ?_
      refine r_icmp_geNT 56 hX dX2_replicas_28 (by decide) (by omega) ?_
      refine r_iload_n 2 hX dX2_replicas_56 rfl rfl ?_
      exact hret _ _ _ _ dX2_replicas_57 (rfl) (rfl)
    | succ n ih =>
      intro i hi
      refine r_iload_n 3 hX dX2_replicas_26 rfl rfl ?_
      refine r_iconst (nI 5) hX dX2_replicas_27 (by decide) ?_
      refine r_icmp_geNF 56 hX dX2_replicas_28 (by decide) (by omega) ?_
      refine r_aload_n 0 hX dX2_replicas_31 rfl rfl ?_
      refine mc_g5 hC dX2_replicas_32 ?_
      refine r_iload_n 1 hX dX2_replicas_35 rfl rfl ?_
      refine r_iconst (nI 5) hX dX2_replicas_36 (by decide) ?_
      refine r_imulN hX dX2_replicas_37 ?_
      refine r_iload_n 3 hX dX2_replicas_38 rfl rfl ?_
      refine r_iaddN hX dX2_replicas_39 ?_
      refine mc_l5 hC dX2_replicas_40 (by omega) ?_
      refine r_if_eq 50 hX dX2_replicas_41 (by decide) (fun c41 => ?_) (fun c41 => ?_)
      · refine r_lvi 2 (nI (mk5 (mq_c t f) (i + 1))) (lv' := [_, _, _, _]) rfl (by simp [mk5, mq_c, c41]) rfl ?_
        refine r_iincN 3 (lv' := [_, _, _, _]) hX dX2_replicas_50 rfl (Nat.le_of_ble_eq_true rfl) rfl ?_
        refine r_goto 26 hX dX2_replicas_53 (by decide) ?_
        exact ih (i + 1) (by omega)
      · refine r_iload_n 2 hX dX2_replicas_44 rfl rfl ?_
        refine r_iconst (nI 1) hX dX2_replicas_45 (by decide) ?_
        refine r_iload_n 3 hX dX2_replicas_46 rfl rfl ?_
        refine r_ishl hX dX2_replicas_47 ?_
        refine r_ior hX dX2_replicas_48 ?_
        refine r_eq (nI (mk5 (mq_c t f) (i + 1))) (by rw [bt_or i (by omega) _ (mk5_lt _ _)]; simp [mk5, mq_c, c41]) ?_
        refine r_istore_n 2 (lv' := [_, _, _, _]) hX dX2_replicas_49 rfl (Nat.le_of_ble_eq_true rfl) rfl ?_
        refine r_iincN 3 (lv' := [_, _, _, _]) hX dX2_replicas_50 rfl (Nat.le_of_ble_eq_true rfl) rfl ?_
        refine r_goto 26 hX dX2_replicas_53 (by decide) ?_
        exact ih (i + 1) (by omega)
  exact loop 5 0 rfl
theorem w_length_bad (t : Pst) (x : Int32) (hx : x < 0 ∨ nI 4 ≤ x) : mIM yX2_length cX2_length 3 .int 2 [.int x] t (-1) t := by
  refine e_IM (by decide) rfl (rfl) (Nat.le_of_ble_eq_true rfl) (by simp [fw_ci]) (fun X h hC hret => ?_)
  have hX := hC.ck
  refine r_lv (lv' := [some (.ref (h 0)), some (.int x), none]) rfl ?_
  refine r_aload_n 0 hX dX2_length_0 rfl rfl ?_
  refine r_iload_n 1 hX dX2_length_1 rfl rfl ?_
  refine k_IM hC (w_refusal_bad t x hx) kM_refusal rfl rfl (by decide) (Nat.le_of_ble_eq_true rfl) rfl dX2_length_2 ?_
  refine r_istore_n 2 (lv' := [_, _, _]) hX dX2_length_5 rfl (Nat.le_of_ble_eq_true rfl) rfl ?_
  refine r_iload_n 2 hX dX2_length_6 rfl rfl ?_
  refine r_if_geF 14 hX dX2_length_7 (by decide) (by decide) ?_
  refine r_iload_n 2 hX dX2_length_10 rfl rfl ?_
  refine r_goto 20 hX dX2_length_11 (by decide) ?_
  exact hret _ _ _ _ dX2_length_20 (rfl) (rfl)
theorem w_length_no (t : Pst) (f : Nat) (hf : f < 4) (he : t 2 f = 0) : mIM yX2_length cX2_length 3 .int 2 [.int (nI f)] t (-3) t := by
  refine e_IM (by decide) rfl (rfl) (Nat.le_of_ble_eq_true rfl) (by simp [fw_ci]) (fun X h hC hret => ?_)
  have hX := hC.ck
  refine r_lv (lv' := [some (.ref (h 0)), some (.int (nI f)), none]) rfl ?_
  have hr : mq_rf t f = -3 := by simp [mq_rf, he]
  refine r_aload_n 0 hX dX2_length_0 rfl rfl ?_
  refine r_iload_n 1 hX dX2_length_1 rfl rfl ?_
  refine k_IM hC (w_refusal t f hf) kM_refusal rfl rfl (by decide) (Nat.le_of_ble_eq_true rfl) rfl dX2_length_2 ?_
  refine r_eq (-3) (hr) ?_
  refine r_istore_n 2 (lv' := [_, _, _]) hX dX2_length_5 rfl (Nat.le_of_ble_eq_true rfl) rfl ?_
  refine r_iload_n 2 hX dX2_length_6 rfl rfl ?_
  refine r_if_geF 14 hX dX2_length_7 (by decide) (by decide) ?_
  refine r_iload_n 2 hX dX2_length_10 rfl rfl ?_
  refine r_goto 20 hX dX2_length_11 (by decide) ?_
  exact hret _ _ _ _ dX2_length_20 (rfl) (rfl)
theorem w_length_un (t : Pst) (f : Nat) (hf : f < 4) (he : ¬ t 2 f = 0) (hn : mq_hu t f = 0) : mIM yX2_length cX2_length 3 .int 2 [.int (nI f)] t (-5) t := by
  refine e_IM (by decide) rfl (rfl) (Nat.le_of_ble_eq_true rfl) (by simp [fw_ci]) (fun X h hC hret => ?_)
  have hX := hC.ck
  refine r_lv (lv' := [some (.ref (h 0)), some (.int (nI f)), none]) rfl ?_
  have hr : mq_rf t f = -5 := by simp [mq_rf, he, hn]
  refine r_aload_n 0 hX dX2_length_0 rfl rfl ?_
  refine r_iload_n 1 hX dX2_length_1 rfl rfl ?_
  refine k_IM hC (w_refusal t f hf) kM_refusal rfl rfl (by decide) (Nat.le_of_ble_eq_true rfl) rfl dX2_length_2 ?_
  refine r_eq (-5) (hr) ?_
  refine r_istore_n 2 (lv' := [_, _, _]) hX dX2_length_5 rfl (Nat.le_of_ble_eq_true rfl) rfl ?_
  refine r_iload_n 2 hX dX2_length_6 rfl rfl ?_
  refine r_if_geF 14 hX dX2_length_7 (by decide) (by decide) ?_
  refine r_iload_n 2 hX dX2_length_10 rfl rfl ?_
  refine r_goto 20 hX dX2_length_11 (by decide) ?_
  exact hret _ _ _ _ dX2_length_20 (rfl) (rfl)
theorem w_read_bad (t : Pst) (x : Int32) (hx : x < 0 ∨ nI 4 ≤ x) (y : Int32) : mIM yX2_read cX2_read 4 .int 2 [.int x, .int y] t (-1) t := by
  refine e_IM (by decide) rfl (rfl) (Nat.le_of_ble_eq_true rfl) (by simp [fw_ci]) (fun X h hC hret => ?_)
  have hX := hC.ck
  refine r_lv (lv' := [some (.ref (h 0)), some (.int x), some (.int y), none]) rfl ?_
  refine r_aload_n 0 hX dX2_read_0 rfl rfl ?_
  refine r_iload_n 1 hX dX2_read_1 rfl rfl ?_
  refine k_IM hC (w_refusal_bad t x hx) kM_refusal rfl rfl (by decide) (Nat.le_of_ble_eq_true rfl) rfl dX2_read_2 ?_
  refine r_istore_n 3 (lv' := [_, _, _, _]) hX dX2_read_5 rfl (Nat.le_of_ble_eq_true rfl) rfl ?_
  refine r_iload_n 3 hX dX2_read_6 rfl rfl ?_
  refine r_if_geF 12 hX dX2_read_7 (by decide) (by decide) ?_
  refine r_iload_n 3 hX dX2_read_10 rfl rfl ?_
  exact hret _ _ _ _ dX2_read_11 (rfl) (rfl)
theorem w_read_no (t : Pst) (f : Nat) (hf : f < 4) (he : t 2 f = 0) (y : Int32) : mIM yX2_read cX2_read 4 .int 2 [.int (nI f), .int y] t (-3) t := by
  refine e_IM (by decide) rfl (rfl) (Nat.le_of_ble_eq_true rfl) (by simp [fw_ci]) (fun X h hC hret => ?_)
  have hX := hC.ck
  refine r_lv (lv' := [some (.ref (h 0)), some (.int (nI f)), some (.int y), none]) rfl ?_
  have hr : mq_rf t f = -3 := by simp [mq_rf, he]
  refine r_aload_n 0 hX dX2_read_0 rfl rfl ?_
  refine r_iload_n 1 hX dX2_read_1 rfl rfl ?_
  refine k_IM hC (w_refusal t f hf) kM_refusal rfl rfl (by decide) (Nat.le_of_ble_eq_true rfl) rfl dX2_read_2 ?_
  refine r_eq (-3) (hr) ?_
  refine r_istore_n 3 (lv' := [_, _, _, _]) hX dX2_read_5 rfl (Nat.le_of_ble_eq_true rfl) rfl ?_
  refine r_iload_n 3 hX dX2_read_6 rfl rfl ?_
  refine r_if_geF 12 hX dX2_read_7 (by decide) (by decide) ?_
  refine r_iload_n 3 hX dX2_read_10 rfl rfl ?_
  exact hret _ _ _ _ dX2_read_11 (rfl) (rfl)
theorem w_read_un (t : Pst) (f : Nat) (hf : f < 4) (he : ¬ t 2 f = 0) (hn : mq_hu t f = 0) (y : Int32) : mIM yX2_read cX2_read 4 .int 2 [.int (nI f), .int y] t (-5) t := by
  refine e_IM (by decide) rfl (rfl) (Nat.le_of_ble_eq_true rfl) (by simp [fw_ci]) (fun X h hC hret => ?_)
  have hX := hC.ck
  refine r_lv (lv' := [some (.ref (h 0)), some (.int (nI f)), some (.int y), none]) rfl ?_
  have hr : mq_rf t f = -5 := by simp [mq_rf, he, hn]
  refine r_aload_n 0 hX dX2_read_0 rfl rfl ?_
  refine r_iload_n 1 hX dX2_read_1 rfl rfl ?_
  refine k_IM hC (w_refusal t f hf) kM_refusal rfl rfl (by decide) (Nat.le_of_ble_eq_true rfl) rfl dX2_read_2 ?_
  refine r_eq (-5) (hr) ?_
  refine r_istore_n 3 (lv' := [_, _, _, _]) hX dX2_read_5 rfl (Nat.le_of_ble_eq_true rfl) rfl ?_
  refine r_iload_n 3 hX dX2_read_6 rfl rfl ?_
  refine r_if_geF 12 hX dX2_read_7 (by decide) (by decide) ?_
  refine r_iload_n 3 hX dX2_read_10 rfl rfl ?_
  exact hret _ _ _ _ dX2_read_11 (rfl) (rfl)
theorem w_write_bad (t : Pst) (x : Int32) (hx : x < 0 ∨ nI 4 ≤ x) (y z : Int32) : mIM yX2_write cX2_write 6 .int 2 [.int x, .int y, .int z] t (-1) t := by
  refine e_IM (by decide) rfl (rfl) (Nat.le_of_ble_eq_true rfl) (by simp [fw_ci]) (fun X h hC hret => ?_)
  have hX := hC.ck
  refine r_lv (lv' := [some (.ref (h 0)), some (.int x), some (.int y), some (.int z), none, none]) rfl ?_
  refine r_aload_n 0 hX dX2_write_0 rfl rfl ?_
  refine r_iload_n 1 hX dX2_write_1 rfl rfl ?_
  refine k_IM hC (w_refusal_bad t x hx) kM_refusal rfl rfl (by decide) (Nat.le_of_ble_eq_true rfl) rfl dX2_write_2 ?_
  refine r_istore 4 (lv' := [_, _, _, _, _, _]) hX dX2_write_5 (Nat.le_of_ble_eq_true rfl) rfl ?_
  refine r_iload 4 hX dX2_write_7 rfl ?_
  refine r_if_geF 15 hX dX2_write_9 (by decide) (by decide) ?_
  refine r_iload 4 hX dX2_write_12 rfl ?_
  exact hret _ _ _ _ dX2_write_14 (rfl) (rfl)
theorem w_write_no (t : Pst) (f : Nat) (hf : f < 4) (he : t 2 f = 0) (y z : Int32) : mIM yX2_write cX2_write 6 .int 2 [.int (nI f), .int y, .int z] t (-3) t := by
  refine e_IM (by decide) rfl (rfl) (Nat.le_of_ble_eq_true rfl) (by simp [fw_ci]) (fun X h hC hret => ?_)
  have hX := hC.ck
  refine r_lv (lv' := [some (.ref (h 0)), some (.int (nI f)), some (.int y), some (.int z), none, none]) rfl ?_
  have hr : mq_rf t f = -3 := by simp [mq_rf, he]
  refine r_aload_n 0 hX dX2_write_0 rfl rfl ?_
  refine r_iload_n 1 hX dX2_write_1 rfl rfl ?_
  refine k_IM hC (w_refusal t f hf) kM_refusal rfl rfl (by decide) (Nat.le_of_ble_eq_true rfl) rfl dX2_write_2 ?_
  refine r_eq (-3) (hr) ?_
  refine r_istore 4 (lv' := [_, _, _, _, _, _]) hX dX2_write_5 (Nat.le_of_ble_eq_true rfl) rfl ?_
  refine r_iload 4 hX dX2_write_7 rfl ?_
  refine r_if_geF 15 hX dX2_write_9 (by decide) (by decide) ?_
  refine r_iload 4 hX dX2_write_12 rfl ?_
  exact hret _ _ _ _ dX2_write_14 (rfl) (rfl)
theorem w_write_un (t : Pst) (f : Nat) (hf : f < 4) (he : ¬ t 2 f = 0) (hn : mq_hu t f = 0) (y z : Int32) : mIM yX2_write cX2_write 6 .int 2 [.int (nI f), .int y, .int z] t (-5) t := by
  refine e_IM (by decide) rfl (rfl) (Nat.le_of_ble_eq_true rfl) (by simp [fw_ci]) (fun X h hC hret => ?_)
  have hX := hC.ck
  refine r_lv (lv' := [some (.ref (h 0)), some (.int (nI f)), some (.int y), some (.int z), none, none]) rfl ?_
  have hr : mq_rf t f = -5 := by simp [mq_rf, he, hn]
  refine r_aload_n 0 hX dX2_write_0 rfl rfl ?_
  refine r_iload_n 1 hX dX2_write_1 rfl rfl ?_
  refine k_IM hC (w_refusal t f hf) kM_refusal rfl rfl (by decide) (Nat.le_of_ble_eq_true rfl) rfl dX2_write_2 ?_
  refine r_eq (-5) (hr) ?_
  refine r_istore 4 (lv' := [_, _, _, _, _, _]) hX dX2_write_5 (Nat.le_of_ble_eq_true rfl) rfl ?_
  refine r_iload 4 hX dX2_write_7 rfl ?_
  refine r_if_geF 15 hX dX2_write_9 (by decide) (by decide) ?_
  refine r_iload 4 hX dX2_write_12 rfl ?_
  exact hret _ _ _ _ dX2_write_14 (rfl) (rfl)
theorem w_append_bad (t : Pst) (x : Int32) (hx : x < 0 ∨ nI 4 ≤ x) (y : Int32) : mIM yX2_append cX2_append 5 .int 3 [.int x, .int y] t (-1) t := by
  refine e_IM (by decide) rfl (rfl) (Nat.le_of_ble_eq_true rfl) (by simp [fw_ci]) (fun X h hC hret => ?_)
  have hX := hC.ck
  refine r_lv (lv' := [some (.ref (h 0)), some (.int x), some (.int y), none, none]) rfl ?_
  refine r_aload_n 0 hX dX2_append_0 rfl rfl ?_
  refine r_iload_n 1 hX dX2_append_1 rfl rfl ?_
  refine k_IM hC (w_refusal_bad t x hx) kM_refusal rfl rfl (by decide) (Nat.le_of_ble_eq_true rfl) rfl dX2_append_2 ?_
  refine r_istore_n 3 (lv' := [_, _, _, _, _]) hX dX2_append_5 rfl (Nat.le_of_ble_eq_true rfl) rfl ?_
  refine r_iload_n 3 hX dX2_append_6 rfl rfl ?_
  refine r_if_geF 12 hX dX2_append_7 (by decide) (by decide) ?_
  refine r_iload_n 3 hX dX2_append_10 rfl rfl ?_
  exact hret _ _ _ _ dX2_append_11 (rfl) (rfl)
theorem w_append_no (t : Pst) (f : Nat) (hf : f < 4) (he : t 2 f = 0) (y : Int32) : mIM yX2_append cX2_append 5 .int 3 [.int (nI f), .int y] t (-3) t := by
  refine e_IM (by decide) rfl (rfl) (Nat.le_of_ble_eq_true rfl) (by simp [fw_ci]) (fun X h hC hret => ?_)
  have hX := hC.ck
  refine r_lv (lv' := [some (.ref (h 0)), some (.int (nI f)), some (.int y), none, none]) rfl ?_
  have hr : mq_rf t f = -3 := by simp [mq_rf, he]
  refine r_aload_n 0 hX dX2_append_0 rfl rfl ?_
  refine r_iload_n 1 hX dX2_append_1 rfl rfl ?_
  refine k_IM hC (w_refusal t f hf) kM_refusal rfl rfl (by decide) (Nat.le_of_ble_eq_true rfl) rfl dX2_append_2 ?_
  refine r_eq (-3) (hr) ?_
  refine r_istore_n 3 (lv' := [_, _, _, _, _]) hX dX2_append_5 rfl (Nat.le_of_ble_eq_true rfl) rfl ?_
  refine r_iload_n 3 hX dX2_append_6 rfl rfl ?_
  refine r_if_geF 12 hX dX2_append_7 (by decide) (by decide) ?_
  refine r_iload_n 3 hX dX2_append_10 rfl rfl ?_
  exact hret _ _ _ _ dX2_append_11 (rfl) (rfl)
theorem w_append_un (t : Pst) (f : Nat) (hf : f < 4) (he : ¬ t 2 f = 0) (hn : mq_hu t f = 0) (y : Int32) : mIM yX2_append cX2_append 5 .int 3 [.int (nI f), .int y] t (-5) t := by
  refine e_IM (by decide) rfl (rfl) (Nat.le_of_ble_eq_true rfl) (by simp [fw_ci]) (fun X h hC hret => ?_)
  have hX := hC.ck
  refine r_lv (lv' := [some (.ref (h 0)), some (.int (nI f)), some (.int y), none, none]) rfl ?_
  have hr : mq_rf t f = -5 := by simp [mq_rf, he, hn]
  refine r_aload_n 0 hX dX2_append_0 rfl rfl ?_
  refine r_iload_n 1 hX dX2_append_1 rfl rfl ?_
  refine k_IM hC (w_refusal t f hf) kM_refusal rfl rfl (by decide) (Nat.le_of_ble_eq_true rfl) rfl dX2_append_2 ?_
  refine r_eq (-5) (hr) ?_
  refine r_istore_n 3 (lv' := [_, _, _, _, _]) hX dX2_append_5 rfl (Nat.le_of_ble_eq_true rfl) rfl ?_
  refine r_iload_n 3 hX dX2_append_6 rfl rfl ?_
  refine r_if_geF 12 hX dX2_append_7 (by decide) (by decide) ?_
  refine r_iload_n 3 hX dX2_append_10 rfl rfl ?_
  exact hret _ _ _ _ dX2_append_11 (rfl) (rfl)
theorem w_length_ok (t : Pst) (f : Nat) (hf : f < 4) (he : ¬ t 2 f = 0) (hn : mq_hu t f ≠ 0) : mIM yX2_length cX2_length 3 .int 2 [.int (nI f)] t (t 3 f) t := by
  refine e_IM (by decide) rfl (rfl) (Nat.le_of_ble_eq_true rfl) (by simp [fw_ci]) (fun X h hC hret => ?_)
  have hX := hC.ck
  refine r_lv (lv' := [some (.ref (h 0)), some (.int (nI f)), none]) rfl ?_
  have hr : mq_rf t f = 0 := by simp [mq_rf, he, hn]
  refine r_aload_n 0 hX dX2_length_0 rfl rfl ?_
  refine r_iload_n 1 hX dX2_length_1 rfl rfl ?_
  refine k_IM hC (w_refusal t f hf) kM_refusal rfl rfl (by decide) (Nat.le_of_ble_eq_true rfl) rfl dX2_length_2 ?_
  refine r_eq (0) (hr) ?_
  refine r_istore_n 2 (lv' := [_, _, _]) hX dX2_length_5 rfl (Nat.le_of_ble_eq_true rfl) rfl ?_
  refine r_iload_n 2 hX dX2_length_6 rfl rfl ?_
  refine r_if_geT 14 hX dX2_length_7 (by decide) (by decide) ?_
  refine r_aload_n 0 hX dX2_length_14 rfl rfl ?_
  refine mc_g3 hC dX2_length_15 ?_
  refine r_iload_n 1 hX dX2_length_18 rfl rfl ?_
  refine mc_l3 hC dX2_length_19 (by omega) ?_
  exact hret _ _ _ _ dX2_length_20 (rfl) (rfl)
theorem w_read_bc (t : Pst) (f : Nat) (hf : f < 4) (he : ¬ t 2 f = 0) (hn : mq_hu t f ≠ 0) (y : Int32) (hy : y < 0 ∨ nI 6 ≤ y) : mIM yX2_read cX2_read 4 .int 2 [.int (nI f), .int y] t (-6) t := by
  refine e_IM (by decide) rfl (rfl) (Nat.le_of_ble_eq_true rfl) (by simp [fw_ci]) (fun X h hC hret => ?_)
  have hX := hC.ck
  refine r_lv (lv' := [some (.ref (h 0)), some (.int (nI f)), some (.int y), none]) rfl ?_
  have hr : mq_rf t f = 0 := by simp [mq_rf, he, hn]
  refine r_aload_n 0 hX dX2_read_0 rfl rfl ?_
  refine r_iload_n 1 hX dX2_read_1 rfl rfl ?_
  refine k_IM hC (w_refusal t f hf) kM_refusal rfl rfl (by decide) (Nat.le_of_ble_eq_true rfl) rfl dX2_read_2 ?_
  refine r_eq (0) (hr) ?_
  refine r_istore_n 3 (lv' := [_, _, _, _]) hX dX2_read_5 rfl (Nat.le_of_ble_eq_true rfl) rfl ?_
  refine r_iload_n 3 hX dX2_read_6 rfl rfl ?_
  refine r_if_geT 12 hX dX2_read_7 (by decide) (by decide) ?_
  refine r_iload_n 2 hX dX2_read_12 rfl rfl ?_
  refine r_if_lt 21 hX dX2_read_13 (by decide) (fun c13 => ?_) (fun c13 => ?_)
  · refine r_bipush (-6) hX dX2_read_21 (by decide) ?_
    refine r_goto 37 hX dX2_read_23 (by decide) ?_
    exact hret _ _ _ _ dX2_read_37 (rfl) (rfl)
  · refine r_iload_n 2 hX dX2_read_16 rfl rfl ?_
    refine r_iconst (nI 5) hX dX2_read_17 (by decide) ?_
    refine r_icmp_le 26 hX dX2_read_18 (by decide) (fun c18 => ?_) (fun c18 => ?_)
    · exact absurd c18 (fw_le5 (hy.resolve_left c13))
    · refine r_bipush (-6) hX dX2_read_21 (by decide) ?_
      refine r_goto 37 hX dX2_read_23 (by decide) ?_
      exact hret _ _ _ _ dX2_read_37 (rfl) (rfl)
theorem w_read_ok (t : Pst) (f : Nat) (hf : f < 4) (he : ¬ t 2 f = 0) (hn : mq_hu t f ≠ 0) (c : Nat) (hc : c < 6) : mIM yX2_read cX2_read 4 .int 2 [.int (nI f), .int (nI c)] t (t 4 (f * 6 + c)) t := by
  refine e_IM (by decide) rfl (rfl) (Nat.le_of_ble_eq_true rfl) (by simp [fw_ci]) (fun X h hC hret => ?_)
  have hX := hC.ck
  refine r_lv (lv' := [some (.ref (h 0)), some (.int (nI f)), some (.int (nI c)), none]) rfl ?_
  have hr : mq_rf t f = 0 := by simp [mq_rf, he, hn]
  refine r_aload_n 0 hX dX2_read_0 rfl rfl ?_
  refine r_iload_n 1 hX dX2_read_1 rfl rfl ?_
  refine k_IM hC (w_refusal t f hf) kM_refusal rfl rfl (by decide) (Nat.le_of_ble_eq_true rfl) rfl dX2_read_2 ?_
  refine r_eq (0) (hr) ?_
  refine r_istore_n 3 (lv' := [_, _, _, _]) hX dX2_read_5 rfl (Nat.le_of_ble_eq_true rfl) rfl ?_
  refine r_iload_n 3 hX dX2_read_6 rfl rfl ?_
  refine r_if_geT 12 hX dX2_read_7 (by decide) (by decide) ?_
  refine r_iload_n 2 hX dX2_read_12 rfl rfl ?_
  refine r_if_ltF 21 hX dX2_read_13 (by decide) (nI_pos (by omega)) ?_
  refine r_iload_n 2 hX dX2_read_16 rfl rfl ?_
  refine r_iconst (nI 5) hX dX2_read_17 (by decide) ?_
  refine r_icmp_leNT 26 hX dX2_read_18 (by decide) (by omega) ?_
  refine r_aload_n 0 hX dX2_read_26 rfl rfl ?_
  refine mc_g4 hC dX2_read_27 ?_
  refine r_iload_n 1 hX dX2_read_30 rfl rfl ?_
  refine r_bipush (nI 6) hX dX2_read_31 (by decide) ?_
  refine r_imulN hX dX2_read_33 ?_
  refine r_iload_n 2 hX dX2_read_34 rfl rfl ?_
  refine r_iaddN hX dX2_read_35 ?_
  refine mc_l4 hC dX2_read_36 (by omega) ?_
  exact hret _ _ _ _ dX2_read_37 (rfl) (rfl)
theorem w_write_bc (t : Pst) (f : Nat) (hf : f < 4) (he : ¬ t 2 f = 0) (hn : mq_hu t f ≠ 0) (y : Int32) (hy : y < 0 ∨ nI 6 ≤ y) (z : Int32) : mIM yX2_write cX2_write 6 .int 2 [.int (nI f), .int y, .int z] t (-6) t := by
  refine e_IM (by decide) rfl (rfl) (Nat.le_of_ble_eq_true rfl) (by simp [fw_ci]) (fun X h hC hret => ?_)
  have hX := hC.ck
  refine r_lv (lv' := [some (.ref (h 0)), some (.int (nI f)), some (.int y), some (.int z), none, none]) rfl ?_
  have hr : mq_rf t f = 0 := by simp [mq_rf, he, hn]
  refine r_aload_n 0 hX dX2_write_0 rfl rfl ?_
  refine r_iload_n 1 hX dX2_write_1 rfl rfl ?_
  refine k_IM hC (w_refusal t f hf) kM_refusal rfl rfl (by decide) (Nat.le_of_ble_eq_true rfl) rfl dX2_write_2 ?_
  refine r_eq (0) (hr) ?_
  refine r_istore 4 (lv' := [_, _, _, _, _, _]) hX dX2_write_5 (Nat.le_of_ble_eq_true rfl) rfl ?_
  refine r_iload 4 hX dX2_write_7 rfl ?_
  refine r_if_geT 15 hX dX2_write_9 (by decide) (by decide) ?_
  refine r_iload_n 2 hX dX2_write_15 rfl rfl ?_
  refine r_if_lt 24 hX dX2_write_16 (by decide) (fun c16 => ?_) (fun c16 => ?_)
  · refine r_bipush (-6) hX dX2_write_24 (by decide) ?_
    exact hret _ _ _ _ dX2_write_26 (rfl) (rfl)
  · refine r_iload_n 2 hX dX2_write_19 rfl rfl ?_
    refine r_iconst (nI 5) hX dX2_write_20 (by decide) ?_
    refine r_icmp_le 27 hX dX2_write_21 (by decide) (fun c21 => ?_) (fun c21 => ?_)
    · exact absurd c21 (fw_le5 (hy.resolve_left c16))
    · refine r_bipush (-6) hX dX2_write_24 (by decide) ?_
      exact hret _ _ _ _ dX2_write_26 (rfl) (rfl)
theorem w_write_ok (t : Pst) (f : Nat) (hf : f < 4) (he : ¬ t 2 f = 0) (hn : mq_hu t f ≠ 0) (c : Nat) (hc : c < 6) (z : Int32) : mIM yX2_write cX2_write 6 .int 2 [.int (nI f), .int (nI c), .int z] t (nI (mq_ha (mq_wr t f c z) f)) (mq_wr t f c z) := by
  refine e_IM (by decide) rfl (rfl) (Nat.le_of_ble_eq_true rfl) (by simp [fw_ci]) (fun X h hC hret => ?_)
  have hX := hC.ck
  refine r_lv (lv' := [some (.ref (h 0)), some (.int (nI f)), some (.int (nI c)), some (.int z), none, none]) rfl ?_
  have loop : ∀ n i, i + n = 5 → CG X (mq_w3 (mq_w2 (sU t 4 (f * 6 + c) z) f c) f i) 63 [some (.ref (h 0)), some (.int (nI f)), some (.int (nI c)), some (.int z), some (.int 0), some (.int (nI i))] [] := by
    intro n
    induction n with
    | zero =>
      intro i hi
      obtain rfl : i = 5 := by omega
      refine r_iload 5 hX dX2_write_63 rfl ?_
      refine r_iconst (nI 5) hX dX2_write_65 (by decide) ?_
      refine r_icmp_geNT 97 hX dX2_write_66 (by decide) (by omega) ?_
      refine r_aload_n 0 hX dX2_write_97 rfl rfl ?_
      refine r_iload_n 1 hX dX2_write_98 rfl rfl ?_
      refine r_iconst (nI 0) hX dX2_write_99 (by decide) ?_
      refine k_IM hC (w_holders_a (mq_wr t f c z) f hf) kM_holders rfl rfl (by decide) (Nat.le_of_ble_eq_true rfl) rfl dX2_write_100 ?_
      exact hret _ _ _ _ dX2_write_103 (rfl) (rfl)
    | succ n ih =>
      intro i hi
      refine r_iload 5 hX dX2_write_63 rfl ?_
      refine r_iconst (nI 5) hX dX2_write_65 (by decide) ?_
      refine r_icmp_geNF 97 hX dX2_write_66 (by decide) (by omega) ?_
      refine r_aload_n 0 hX dX2_write_69 rfl rfl ?_
      refine mc_g1 hC dX2_write_70 ?_
      refine r_iload 5 hX dX2_write_73 rfl ?_
      refine mc_l1 hC dX2_write_75 (by omega) ?_
      refine r_if_eq 91 hX dX2_write_76 (by decide) (fun c76 => ?_) (fun c76 => ?_)
      · refine r_iincN 5 (lv' := [_, _, _, _, _, _]) hX dX2_write_91 rfl (Nat.le_of_ble_eq_true rfl) rfl ?_
        refine r_goto 63 hX dX2_write_94 (by decide) ?_
        refine r_st (show _ = mq_w3 (mq_w2 (sU t 4 (f * 6 + c) z) f c) f (i + 1) by simp [mq_w3, c76]) ?_
        exact ih (i + 1) (by omega)
      · refine r_aload_n 0 hX dX2_write_79 rfl rfl ?_
        refine mc_g5 hC dX2_write_80 ?_
        refine r_iload_n 1 hX dX2_write_83 rfl rfl ?_
        refine r_iconst (nI 5) hX dX2_write_84 (by decide) ?_
        refine r_imulN hX dX2_write_85 ?_
        refine r_iload 5 hX dX2_write_86 rfl ?_
        refine r_iaddN hX dX2_write_88 ?_
        refine r_iconst (nI 0) hX dX2_write_89 (by decide) ?_
        refine mc_s5 hC dX2_write_90 (by omega) (by decide) ?_
        refine r_iincN 5 (lv' := [_, _, _, _, _, _]) hX dX2_write_91 rfl (Nat.le_of_ble_eq_true rfl) rfl ?_
        refine r_goto 63 hX dX2_write_94 (by decide) ?_
        refine r_st (show _ = mq_w3 (mq_w2 (sU t 4 (f * 6 + c) z) f c) f (i + 1) by simp [mq_w3, c76]) ?_
        exact ih (i + 1) (by omega)
  have hr : mq_rf t f = 0 := by simp [mq_rf, he, hn]
  refine r_aload_n 0 hX dX2_write_0 rfl rfl ?_
  refine r_iload_n 1 hX dX2_write_1 rfl rfl ?_
  refine k_IM hC (w_refusal t f hf) kM_refusal rfl rfl (by decide) (Nat.le_of_ble_eq_true rfl) rfl dX2_write_2 ?_
  refine r_eq (0) (hr) ?_
  refine r_istore 4 (lv' := [_, _, _, _, _, _]) hX dX2_write_5 (Nat.le_of_ble_eq_true rfl) rfl ?_
  refine r_iload 4 hX dX2_write_7 rfl ?_
  refine r_if_geT 15 hX dX2_write_9 (by decide) (by decide) ?_
  refine r_iload_n 2 hX dX2_write_15 rfl rfl ?_
  refine r_if_ltF 24 hX dX2_write_16 (by decide) (nI_pos (by omega)) ?_
  refine r_iload_n 2 hX dX2_write_19 rfl rfl ?_
  refine r_iconst (nI 5) hX dX2_write_20 (by decide) ?_
  refine r_icmp_leNT 27 hX dX2_write_21 (by decide) (by omega) ?_
  refine r_aload_n 0 hX dX2_write_27 rfl rfl ?_
  refine mc_g4 hC dX2_write_28 ?_
  refine r_iload_n 1 hX dX2_write_31 rfl rfl ?_
  refine r_bipush (nI 6) hX dX2_write_32 (by decide) ?_
  refine r_imulN hX dX2_write_34 ?_
  refine r_iload_n 2 hX dX2_write_35 rfl rfl ?_
  refine r_iaddN hX dX2_write_36 ?_
  refine r_iload_n 3 hX dX2_write_37 rfl rfl ?_
  refine mc_s4 hC dX2_write_38 (by omega) ?_
  refine r_aload_n 0 hX dX2_write_39 rfl rfl ?_
  refine mc_g3 hC dX2_write_40 ?_
  refine r_iload_n 1 hX dX2_write_43 rfl rfl ?_
  refine mc_l3 hC dX2_write_44 (by omega) ?_
  refine r_iload_n 2 hX dX2_write_45 rfl rfl ?_
  refine r_iconst (nI 1) hX dX2_write_46 (by decide) ?_
  refine r_iaddN hX dX2_write_47 ?_
  refine r_icmp_ge 60 hX dX2_write_48 (by decide) (fun c48 => ?_) (fun c48 => ?_)
  · refine r_iconst (nI 0) hX dX2_write_60 (by decide) ?_
    refine r_istore 5 (lv' := [_, _, _, _, _, _]) hX dX2_write_61 (Nat.le_of_ble_eq_true rfl) rfl ?_
    refine r_st (show _ = mq_w2 (sU t 4 (f * 6 + c) z) f c by simp [mq_w2, c48]) ?_
    exact loop 5 0 rfl
  · refine r_aload_n 0 hX dX2_write_51 rfl rfl ?_
    refine mc_g3 hC dX2_write_52 ?_
    refine r_iload_n 1 hX dX2_write_55 rfl rfl ?_
    refine r_iload_n 2 hX dX2_write_56 rfl rfl ?_
    refine r_iconst (nI 1) hX dX2_write_57 (by decide) ?_
    refine r_iaddN hX dX2_write_58 ?_
    refine mc_s3 hC dX2_write_59 (by omega) ?_
    refine r_iconst (nI 0) hX dX2_write_60 (by decide) ?_
    refine r_istore 5 (lv' := [_, _, _, _, _, _]) hX dX2_write_61 (Nat.le_of_ble_eq_true rfl) rfl ?_
    refine r_st (show _ = mq_w2 (sU t 4 (f * 6 + c) z) f c by simp [mq_w2, c48]) ?_
    exact loop 5 0 rfl
theorem w_append_full (t : Pst) (f : Nat) (hf : f < 4) (he : ¬ t 2 f = 0) (hn : mq_hu t f ≠ 0) (hl : t 3 f = nI 6) (y : Int32) : mIM yX2_append cX2_append 5 .int 3 [.int (nI f), .int y] t (-7) t := by
  refine e_IM (by decide) rfl (rfl) (Nat.le_of_ble_eq_true rfl) (by simp [fw_ci]) (fun X h hC hret => ?_)
  have hX := hC.ck
  refine r_lv (lv' := [some (.ref (h 0)), some (.int (nI f)), some (.int y), none, none]) rfl ?_
  have hr : mq_rf t f = 0 := by simp [mq_rf, he, hn]
  refine r_aload_n 0 hX dX2_append_0 rfl rfl ?_
  refine r_iload_n 1 hX dX2_append_1 rfl rfl ?_
  refine k_IM hC (w_refusal t f hf) kM_refusal rfl rfl (by decide) (Nat.le_of_ble_eq_true rfl) rfl dX2_append_2 ?_
  refine r_eq (0) (hr) ?_
  refine r_istore_n 3 (lv' := [_, _, _, _, _]) hX dX2_append_5 rfl (Nat.le_of_ble_eq_true rfl) rfl ?_
  refine r_iload_n 3 hX dX2_append_6 rfl rfl ?_
  refine r_if_geT 12 hX dX2_append_7 (by decide) (by decide) ?_
  refine r_aload_n 0 hX dX2_append_12 rfl rfl ?_
  refine mc_g3 hC dX2_append_13 ?_
  refine r_iload_n 1 hX dX2_append_16 rfl rfl ?_
  refine mc_l3 hC dX2_append_17 (by omega) ?_
  refine r_eq (nI 6) (hl) ?_
  refine r_istore 4 (lv' := [_, _, _, _, _]) hX dX2_append_18 (Nat.le_of_ble_eq_true rfl) rfl ?_
  refine r_iload 4 hX dX2_append_20 rfl ?_
  refine r_bipush (nI 6) hX dX2_append_22 (by decide) ?_
  refine r_icmp_neNF 30 hX dX2_append_24 (by decide) (by omega) ?_
  refine r_bipush (-7) hX dX2_append_27 (by decide) ?_
  exact hret _ _ _ _ dX2_append_29 (rfl) (rfl)
theorem w_append_ok (t : Pst) (f : Nat) (hf : f < 4) (he : ¬ t 2 f = 0) (hn : mq_hu t f ≠ 0) (c : Nat) (hc : c < 6) (hl : t 3 f = nI c) (y : Int32) : mIM yX2_append cX2_append 5 .int 3 [.int (nI f), .int y] t (nI c) (mq_wr t f c y) := by
  refine e_IM (by decide) rfl (rfl) (Nat.le_of_ble_eq_true rfl) (by simp [fw_ci]) (fun X h hC hret => ?_)
  have hX := hC.ck
  refine r_lv (lv' := [some (.ref (h 0)), some (.int (nI f)), some (.int y), none, none]) rfl ?_
  have hr : mq_rf t f = 0 := by simp [mq_rf, he, hn]
  refine r_aload_n 0 hX dX2_append_0 rfl rfl ?_
  refine r_iload_n 1 hX dX2_append_1 rfl rfl ?_
  refine k_IM hC (w_refusal t f hf) kM_refusal rfl rfl (by decide) (Nat.le_of_ble_eq_true rfl) rfl dX2_append_2 ?_
  refine r_eq (0) (hr) ?_
  refine r_istore_n 3 (lv' := [_, _, _, _, _]) hX dX2_append_5 rfl (Nat.le_of_ble_eq_true rfl) rfl ?_
  refine r_iload_n 3 hX dX2_append_6 rfl rfl ?_
  refine r_if_geT 12 hX dX2_append_7 (by decide) (by decide) ?_
  refine r_aload_n 0 hX dX2_append_12 rfl rfl ?_
  refine mc_g3 hC dX2_append_13 ?_
  refine r_iload_n 1 hX dX2_append_16 rfl rfl ?_
  refine mc_l3 hC dX2_append_17 (by omega) ?_
  refine r_eq (nI c) (hl) ?_
  refine r_istore 4 (lv' := [_, _, _, _, _]) hX dX2_append_18 (Nat.le_of_ble_eq_true rfl) rfl ?_
  refine r_iload 4 hX dX2_append_20 rfl ?_
  refine r_bipush (nI 6) hX dX2_append_22 (by decide) ?_
  refine r_icmp_neNT 30 hX dX2_append_24 (by decide) (by omega) ?_
  refine r_aload_n 0 hX dX2_append_30 rfl rfl ?_
  refine r_iload_n 1 hX dX2_append_31 rfl rfl ?_
  refine r_iload 4 hX dX2_append_32 rfl ?_
  refine r_iload_n 2 hX dX2_append_34 rfl rfl ?_
  refine k_IM hC (w_write_ok t f hf he hn c hc y) kM_write rfl rfl (by decide) (Nat.le_of_ble_eq_true rfl) rfl dX2_append_35 ?_
  refine r_pop hX dX2_append_38 rfl ?_
  refine r_iload 4 hX dX2_append_39 rfl ?_
  exact hret _ _ _ _ dX2_append_41 (rfl) (rfl)
theorem w_snapshot_bad1 (t : Pst) (x : Int32) (hx : x < 0 ∨ nI 4 ≤ x) (y : Int32) : mIM yX2_snapshot cX2_snapshot 4 .int 2 [.int x, .int y] t (-1) t := by
  refine e_IM (by decide) rfl (rfl) (Nat.le_of_ble_eq_true rfl) (by simp [fw_ci]) (fun X h hC hret => ?_)
  have hX := hC.ck
  refine r_lv (lv' := [some (.ref (h 0)), some (.int x), some (.int y), none]) rfl ?_
  refine r_aload_n 0 hX dX2_snapshot_0 rfl rfl ?_
  refine r_iload_n 1 hX dX2_snapshot_1 rfl rfl ?_
  refine k_IM hC (w_isFile_n t x hx) kM_isFile rfl rfl (by decide) (Nat.le_of_ble_eq_true rfl) rfl dX2_snapshot_2 ?_
  refine r_if_eqT 16 hX dX2_snapshot_5 (by decide) (by decide) ?_
  refine r_iconst (-1) hX dX2_snapshot_16 (by decide) ?_
  exact hret _ _ _ _ dX2_snapshot_17 (rfl) (rfl)
theorem w_snapshot_bad2 (t : Pst) (f : Nat) (hf : f < 4) (x : Int32) (hx : x < 0 ∨ nI 4 ≤ x) : mIM yX2_snapshot cX2_snapshot 4 .int 2 [.int (nI f), .int x] t (-1) t := by
  refine e_IM (by decide) rfl (rfl) (Nat.le_of_ble_eq_true rfl) (by simp [fw_ci]) (fun X h hC hret => ?_)
  have hX := hC.ck
  refine r_lv (lv' := [some (.ref (h 0)), some (.int (nI f)), some (.int x), none]) rfl ?_
  refine r_aload_n 0 hX dX2_snapshot_0 rfl rfl ?_
  refine r_iload_n 1 hX dX2_snapshot_1 rfl rfl ?_
  refine k_IM hC (w_isFile_y t f hf) kM_isFile rfl rfl (by decide) (Nat.le_of_ble_eq_true rfl) rfl dX2_snapshot_2 ?_
  refine r_if_eqF 16 hX dX2_snapshot_5 (by decide) (by decide) ?_
  refine r_aload_n 0 hX dX2_snapshot_8 rfl rfl ?_
  refine r_iload_n 2 hX dX2_snapshot_9 rfl rfl ?_
  refine k_IM hC (w_isFile_n t x hx) kM_isFile rfl rfl (by decide) (Nat.le_of_ble_eq_true rfl) rfl dX2_snapshot_10 ?_
  refine r_if_neF 18 hX dX2_snapshot_13 (by decide) (by decide) ?_
  refine r_iconst (-1) hX dX2_snapshot_16 (by decide) ?_
  exact hret _ _ _ _ dX2_snapshot_17 (rfl) (rfl)
theorem w_snapshot_no (t : Pst) (f g : Nat) (hf : f < 4) (hg : g < 4) (he : t 2 f = 0) : mIM yX2_snapshot cX2_snapshot 4 .int 2 [.int (nI f), .int (nI g)] t (-3) t := by
  refine e_IM (by decide) rfl (rfl) (Nat.le_of_ble_eq_true rfl) (by simp [fw_ci]) (fun X h hC hret => ?_)
  have hX := hC.ck
  refine r_lv (lv' := [some (.ref (h 0)), some (.int (nI f)), some (.int (nI g)), none]) rfl ?_
  refine r_aload_n 0 hX dX2_snapshot_0 rfl rfl ?_
  refine r_iload_n 1 hX dX2_snapshot_1 rfl rfl ?_
  refine k_IM hC (w_isFile_y t f hf) kM_isFile rfl rfl (by decide) (Nat.le_of_ble_eq_true rfl) rfl dX2_snapshot_2 ?_
  refine r_if_eqF 16 hX dX2_snapshot_5 (by decide) (by decide) ?_
  refine r_aload_n 0 hX dX2_snapshot_8 rfl rfl ?_
  refine r_iload_n 2 hX dX2_snapshot_9 rfl rfl ?_
  refine k_IM hC (w_isFile_y t g hg) kM_isFile rfl rfl (by decide) (Nat.le_of_ble_eq_true rfl) rfl dX2_snapshot_10 ?_
  refine r_if_neT 18 hX dX2_snapshot_13 (by decide) (by decide) ?_
  refine r_aload_n 0 hX dX2_snapshot_18 rfl rfl ?_
  refine mc_g2 hC dX2_snapshot_19 ?_
  refine r_iload_n 1 hX dX2_snapshot_22 rfl rfl ?_
  refine mc_l2 hC dX2_snapshot_23 (by omega) ?_
  refine r_if_neF 30 hX dX2_snapshot_24 (by decide) (he) ?_
  refine r_bipush (-3) hX dX2_snapshot_27 (by decide) ?_
  exact hret _ _ _ _ dX2_snapshot_29 (rfl) (rfl)
theorem w_snapshot_ex (t : Pst) (f g : Nat) (hf : f < 4) (hg : g < 4) (he : ¬ t 2 f = 0) (hg2 : ¬ t 2 g = 0) : mIM yX2_snapshot cX2_snapshot 4 .int 2 [.int (nI f), .int (nI g)] t (-2) t := by
  refine e_IM (by decide) rfl (rfl) (Nat.le_of_ble_eq_true rfl) (by simp [fw_ci]) (fun X h hC hret => ?_)
  have hX := hC.ck
  refine r_lv (lv' := [some (.ref (h 0)), some (.int (nI f)), some (.int (nI g)), none]) rfl ?_
  refine r_aload_n 0 hX dX2_snapshot_0 rfl rfl ?_
  refine r_iload_n 1 hX dX2_snapshot_1 rfl rfl ?_
  refine k_IM hC (w_isFile_y t f hf) kM_isFile rfl rfl (by decide) (Nat.le_of_ble_eq_true rfl) rfl dX2_snapshot_2 ?_
  refine r_if_eqF 16 hX dX2_snapshot_5 (by decide) (by decide) ?_
  refine r_aload_n 0 hX dX2_snapshot_8 rfl rfl ?_
  refine r_iload_n 2 hX dX2_snapshot_9 rfl rfl ?_
  refine k_IM hC (w_isFile_y t g hg) kM_isFile rfl rfl (by decide) (Nat.le_of_ble_eq_true rfl) rfl dX2_snapshot_10 ?_
  refine r_if_neT 18 hX dX2_snapshot_13 (by decide) (by decide) ?_
  refine r_aload_n 0 hX dX2_snapshot_18 rfl rfl ?_
  refine mc_g2 hC dX2_snapshot_19 ?_
  refine r_iload_n 1 hX dX2_snapshot_22 rfl rfl ?_
  refine mc_l2 hC dX2_snapshot_23 (by omega) ?_
  refine r_if_neT 30 hX dX2_snapshot_24 (by decide) (he) ?_
  refine r_aload_n 0 hX dX2_snapshot_30 rfl rfl ?_
  refine mc_g2 hC dX2_snapshot_31 ?_
  refine r_iload_n 2 hX dX2_snapshot_34 rfl rfl ?_
  refine mc_l2 hC dX2_snapshot_35 (by omega) ?_
  refine r_if_eqF 42 hX dX2_snapshot_36 (by decide) (hg2) ?_
  refine r_bipush (-2) hX dX2_snapshot_39 (by decide) ?_
  exact hret _ _ _ _ dX2_snapshot_41 (rfl) (rfl)
theorem w_snapshot_un (t : Pst) (f g : Nat) (hf : f < 4) (hg : g < 4) (he : ¬ t 2 f = 0) (hg2 : t 2 g = 0) (hn : mq_hu t f = 0) : mIM yX2_snapshot cX2_snapshot 4 .int 2 [.int (nI f), .int (nI g)] t (-5) t := by
  refine e_IM (by decide) rfl (rfl) (Nat.le_of_ble_eq_true rfl) (by simp [fw_ci]) (fun X h hC hret => ?_)
  have hX := hC.ck
  refine r_lv (lv' := [some (.ref (h 0)), some (.int (nI f)), some (.int (nI g)), none]) rfl ?_
  have hr : mq_rf t f = -5 := by simp [mq_rf, he, hn]
  refine r_aload_n 0 hX dX2_snapshot_0 rfl rfl ?_
  refine r_iload_n 1 hX dX2_snapshot_1 rfl rfl ?_
  refine k_IM hC (w_isFile_y t f hf) kM_isFile rfl rfl (by decide) (Nat.le_of_ble_eq_true rfl) rfl dX2_snapshot_2 ?_
  refine r_if_eqF 16 hX dX2_snapshot_5 (by decide) (by decide) ?_
  refine r_aload_n 0 hX dX2_snapshot_8 rfl rfl ?_
  refine r_iload_n 2 hX dX2_snapshot_9 rfl rfl ?_
  refine k_IM hC (w_isFile_y t g hg) kM_isFile rfl rfl (by decide) (Nat.le_of_ble_eq_true rfl) rfl dX2_snapshot_10 ?_
  refine r_if_neT 18 hX dX2_snapshot_13 (by decide) (by decide) ?_
  refine r_aload_n 0 hX dX2_snapshot_18 rfl rfl ?_
  refine mc_g2 hC dX2_snapshot_19 ?_
  refine r_iload_n 1 hX dX2_snapshot_22 rfl rfl ?_
  refine mc_l2 hC dX2_snapshot_23 (by omega) ?_
  refine r_if_neT 30 hX dX2_snapshot_24 (by decide) (he) ?_
  refine r_aload_n 0 hX dX2_snapshot_30 rfl rfl ?_
  refine mc_g2 hC dX2_snapshot_31 ?_
  refine r_iload_n 2 hX dX2_snapshot_34 rfl rfl ?_
  refine mc_l2 hC dX2_snapshot_35 (by omega) ?_
  refine r_if_eqT 42 hX dX2_snapshot_36 (by decide) (hg2) ?_
  refine r_aload_n 0 hX dX2_snapshot_42 rfl rfl ?_
  refine r_iload_n 1 hX dX2_snapshot_43 rfl rfl ?_
  refine k_IM hC (w_refusal t f hf) kM_refusal rfl rfl (by decide) (Nat.le_of_ble_eq_true rfl) rfl dX2_snapshot_44 ?_
  refine r_eq (-5) (hr) ?_
  refine r_if_geF 53 hX dX2_snapshot_47 (by decide) (by decide) ?_
  refine r_bipush (-5) hX dX2_snapshot_50 (by decide) ?_
  exact hret _ _ _ _ dX2_snapshot_52 (rfl) (rfl)
theorem w_snapshot_ok (t : Pst) (f g : Nat) (hf : f < 4) (hg : g < 4) (k : Nat) (hB : BM k t) (he : ¬ t 2 f = 0) (hg2 : t 2 g = 0) (hn : mq_hu t f ≠ 0) : mIM yX2_snapshot cX2_snapshot 4 .int 2 [.int (nI f), .int (nI g)] t (nI (mq_ha (mq_sn t f g) g)) (mq_sn t f g) := by
  refine e_IM (by decide) rfl (rfl) (Nat.le_of_ble_eq_true rfl) (by simp [fw_ci]) (fun X h hC hret => ?_)
  have hX := hC.ck
  refine r_lv (lv' := [some (.ref (h 0)), some (.int (nI f)), some (.int (nI g)), none]) rfl ?_
  have hr : mq_rf t f = 0 := by simp [mq_rf, he, hn]
  have hB1 : BM k (mq_s1 (sU (sU t 2 g (nI 1)) 3 g (sU t 2 g (nI 1) 3 f)) f g 6) := BM_s1 (BM_o (by decide) (by decide) (BM_o (by decide) (by decide) hB)) 6
  have loop2 : ∀ n i, i + n = 5 → CG X (mq_s2 (mq_s1 (sU (sU t 2 g (nI 1)) 3 g (sU t 2 g (nI 1) 3 f)) f g 6) f g i) 110 [some (.ref (h 0)), some (.int (nI f)), some (.int (nI g)), some (.int (nI i))] [] := by
    intro n
    induction n with
    | zero =>
      intro i hi
      obtain rfl : i = 5 := by omega
      refine r_iload_n 3 hX dX2_snapshot_110 rfl rfl ?_
      refine r_iconst (nI 5) hX dX2_snapshot_111 (by decide) ?_
      refine r_icmp_geNT 141 hX dX2_snapshot_112 (by decide) (by omega) ?_
      refine r_aload_n 0 hX dX2_snapshot_141 rfl rfl ?_
      refine r_iload_n 2 hX dX2_snapshot_142 rfl rfl ?_
      refine r_iconst (nI 0) hX dX2_snapshot_143 (by decide) ?_
      refine k_IM hC (w_holders_a (mq_sn t f g) g hg) kM_holders rfl rfl (by decide) (Nat.le_of_ble_eq_true rfl) rfl dX2_snapshot_144 ?_
      exact hret _ _ _ _ dX2_snapshot_147 (rfl) (rfl)
    | succ n ih =>
      intro i hi
      refine r_iload_n 3 hX dX2_snapshot_110 rfl rfl ?_
      refine r_iconst (nI 5) hX dX2_snapshot_111 (by decide) ?_
      refine r_icmp_geNF 141 hX dX2_snapshot_112 (by decide) (by omega) ?_
      refine r_aload_n 0 hX dX2_snapshot_115 rfl rfl ?_
      refine mc_g5 hC dX2_snapshot_116 ?_
      refine r_iload_n 2 hX dX2_snapshot_119 rfl rfl ?_
      refine r_iconst (nI 5) hX dX2_snapshot_120 (by decide) ?_
      refine r_imulN hX dX2_snapshot_121 ?_
      refine r_iload_n 3 hX dX2_snapshot_122 rfl rfl ?_
      refine r_iaddN hX dX2_snapshot_123 ?_
      refine r_aload_n 0 hX dX2_snapshot_124 rfl rfl ?_
      refine mc_g5 hC dX2_snapshot_125 ?_
      refine r_iload_n 1 hX dX2_snapshot_128 rfl rfl ?_
      refine r_iconst (nI 5) hX dX2_snapshot_129 (by decide) ?_
      refine r_imulN hX dX2_snapshot_130 ?_
      refine r_iload_n 3 hX dX2_snapshot_131 rfl rfl ?_
      refine r_iaddN hX dX2_snapshot_132 ?_
      refine mc_l5 hC dX2_snapshot_133 (by omega) ?_
      refine mc_s5 hC dX2_snapshot_134 (by omega) (fw_zn ((BM_s2 hf hB1 i (by omega)).2 _ (by omega))) ?_
      refine r_iincN 3 (lv' := [_, _, _, _]) hX dX2_snapshot_135 rfl (Nat.le_of_ble_eq_true rfl) rfl ?_
      refine r_goto 110 hX dX2_snapshot_138 (by decide) ?_
      exact ih (i + 1) (by omega)
  refine r_aload_n 0 hX dX2_snapshot_0 rfl rfl ?_
  refine r_iload_n 1 hX dX2_snapshot_1 rfl rfl ?_
  refine k_IM hC (w_isFile_y t f hf) kM_isFile rfl rfl (by decide) (Nat.le_of_ble_eq_true rfl) rfl dX2_snapshot_2 ?_
  refine r_if_eqF 16 hX dX2_snapshot_5 (by decide) (by decide) ?_
  refine r_aload_n 0 hX dX2_snapshot_8 rfl rfl ?_
  refine r_iload_n 2 hX dX2_snapshot_9 rfl rfl ?_
  refine k_IM hC (w_isFile_y t g hg) kM_isFile rfl rfl (by decide) (Nat.le_of_ble_eq_true rfl) rfl dX2_snapshot_10 ?_
  refine r_if_neT 18 hX dX2_snapshot_13 (by decide) (by decide) ?_
  refine r_aload_n 0 hX dX2_snapshot_18 rfl rfl ?_
  refine mc_g2 hC dX2_snapshot_19 ?_
  refine r_iload_n 1 hX dX2_snapshot_22 rfl rfl ?_
  refine mc_l2 hC dX2_snapshot_23 (by omega) ?_
  refine r_if_neT 30 hX dX2_snapshot_24 (by decide) (he) ?_
  refine r_aload_n 0 hX dX2_snapshot_30 rfl rfl ?_
  refine mc_g2 hC dX2_snapshot_31 ?_
  refine r_iload_n 2 hX dX2_snapshot_34 rfl rfl ?_
  refine mc_l2 hC dX2_snapshot_35 (by omega) ?_
  refine r_if_eqT 42 hX dX2_snapshot_36 (by decide) (hg2) ?_
  refine r_aload_n 0 hX dX2_snapshot_42 rfl rfl ?_
  refine r_iload_n 1 hX dX2_snapshot_43 rfl rfl ?_
  refine k_IM hC (w_refusal t f hf) kM_refusal rfl rfl (by decide) (Nat.le_of_ble_eq_true rfl) rfl dX2_snapshot_44 ?_
  refine r_eq (0) (hr) ?_
  refine r_if_geT 53 hX dX2_snapshot_47 (by decide) (by decide) ?_
  refine r_aload_n 0 hX dX2_snapshot_53 rfl rfl ?_
  refine mc_g2 hC dX2_snapshot_54 ?_
  refine r_iload_n 2 hX dX2_snapshot_57 rfl rfl ?_
  refine r_iconst (nI 1) hX dX2_snapshot_58 (by decide) ?_
  refine mc_s2 hC dX2_snapshot_59 (by omega) (by decide) ?_
  refine r_aload_n 0 hX dX2_snapshot_60 rfl rfl ?_
  refine mc_g3 hC dX2_snapshot_61 ?_
  refine r_iload_n 2 hX dX2_snapshot_64 rfl rfl ?_
  refine r_aload_n 0 hX dX2_snapshot_65 rfl rfl ?_
  refine mc_g3 hC dX2_snapshot_66 ?_
  refine r_iload_n 1 hX dX2_snapshot_69 rfl rfl ?_
  refine mc_l3 hC dX2_snapshot_70 (by omega) ?_
  refine mc_s3 hC dX2_snapshot_71 (by omega) ?_
  refine r_iconst (nI 0) hX dX2_snapshot_72 (by decide) ?_
  refine r_istore_n 3 (lv' := [_, _, _, _]) hX dX2_snapshot_73 rfl (Nat.le_of_ble_eq_true rfl) rfl ?_
  have loop1 : ∀ n i, i + n = 6 → CG X (mq_s1 (sU (sU t 2 g (nI 1)) 3 g (sU t 2 g (nI 1) 3 f)) f g i) 74 [some (.ref (h 0)), some (.int (nI f)), some (.int (nI g)), some (.int (nI i))] [] := by
    intro n
    induction n with
    | zero =>
      intro i hi
      obtain rfl : i = 6 := by omega
      refine r_iload_n 3 hX dX2_snapshot_74 rfl rfl ?_
      refine r_bipush (nI 6) hX dX2_snapshot_75 (by decide) ?_
      refine r_icmp_geNT 108 hX dX2_snapshot_77 (by decide) (by omega) ?_
      refine r_iconst (nI 0) hX dX2_snapshot_108 (by decide) ?_
      refine r_istore_n 3 (lv' := [_, _, _, _]) hX dX2_snapshot_109 rfl (Nat.le_of_ble_eq_true rfl) rfl ?_
      exact loop2 5 0 rfl
    | succ n ih =>
      intro i hi
      refine r_iload_n 3 hX dX2_snapshot_74 rfl rfl ?_
      refine r_bipush (nI 6) hX dX2_snapshot_75 (by decide) ?_
      refine r_icmp_geNF 108 hX dX2_snapshot_77 (by decide) (by omega) ?_
      refine r_aload_n 0 hX dX2_snapshot_80 rfl rfl ?_
      refine mc_g4 hC dX2_snapshot_81 ?_
      refine r_iload_n 2 hX dX2_snapshot_84 rfl rfl ?_
      refine r_bipush (nI 6) hX dX2_snapshot_85 (by decide) ?_
      refine r_imulN hX dX2_snapshot_87 ?_
      refine r_iload_n 3 hX dX2_snapshot_88 rfl rfl ?_
      refine r_iaddN hX dX2_snapshot_89 ?_
      refine r_aload_n 0 hX dX2_snapshot_90 rfl rfl ?_
      refine mc_g4 hC dX2_snapshot_91 ?_
      refine r_iload_n 1 hX dX2_snapshot_94 rfl rfl ?_
      refine r_bipush (nI 6) hX dX2_snapshot_95 (by decide) ?_
      refine r_imulN hX dX2_snapshot_97 ?_
      refine r_iload_n 3 hX dX2_snapshot_98 rfl rfl ?_
      refine r_iaddN hX dX2_snapshot_99 ?_
      refine mc_l4 hC dX2_snapshot_100 (by omega) ?_
      refine mc_s4 hC dX2_snapshot_101 (by omega) ?_
      refine r_iincN 3 (lv' := [_, _, _, _]) hX dX2_snapshot_102 rfl (Nat.le_of_ble_eq_true rfl) rfl ?_
      refine r_goto 74 hX dX2_snapshot_105 (by decide) ?_
      exact ih (i + 1) (by omega)
  exact loop1 6 0 rfl
theorem w_heal (t : Pst) (k : Nat) (hB : BM k t) (hk : k ≤ 3) : mIM yX2_heal cX2_heal 3 .int 3 [] t (nI (mq_heN t k 4).2) (mq_heN t k 4).1 := by
  refine e_IM (by decide) rfl (rfl) (Nat.le_of_ble_eq_true rfl) (by simp [fw_ci]) (fun X h hC hret => ?_)
  have hX := hC.ck
  refine r_lv (lv' := [some (.ref (h 0)), none, none]) rfl ?_
  refine r_iconst (nI 0) hX dX2_heal_0 (by decide) ?_
  refine r_istore_n 1 (lv' := [_, _, _]) hX dX2_heal_1 rfl (Nat.le_of_ble_eq_true rfl) rfl ?_
  refine r_iconst (nI 0) hX dX2_heal_2 (by decide) ?_
  refine r_istore_n 2 (lv' := [_, _, _]) hX dX2_heal_3 rfl (Nat.le_of_ble_eq_true rfl) rfl ?_
  have loop : ∀ n i, i + n = 4 → CG X ((mq_heN t k i).1) 4 [some (.ref (h 0)), some (.int (nI (mq_heN t k i).2)), some (.int (nI i))] [] := by
    intro n
    induction n with
    | zero =>
      intro i hi
      obtain rfl : i = 4 := by omega
      refine r_iload_n 2 hX dX2_heal_4 rfl rfl ?_
      refine r_iconst (nI 4) hX dX2_heal_5 (by decide) ?_
      refine r_icmp_geNT 31 hX dX2_heal_6 (by decide) (by omega) ?_
      refine r_iload_n 1 hX dX2_heal_31 rfl rfl ?_
      exact hret _ _ _ _ dX2_heal_32 (rfl) (rfl)
    | succ n ih =>
      intro i hi
      have q := ih (i + 1) (by omega)
      refine r_iload_n 2 hX dX2_heal_4 rfl rfl ?_
      refine r_iconst (nI 4) hX dX2_heal_5 (by decide) ?_
      refine r_icmp_geNF 31 hX dX2_heal_6 (by decide) (by omega) ?_
      refine r_aload_n 0 hX dX2_heal_9 rfl rfl ?_
      refine r_iload_n 2 hX dX2_heal_10 rfl rfl ?_
      refine k_IM hC (w_refusal _ i (by omega)) kM_refusal rfl rfl (by decide) (Nat.le_of_ble_eq_true rfl) rfl dX2_heal_11 ?_
      refine r_if_ne 25 hX dX2_heal_14 (by decide) (fun c14 => ?_) (fun c14 => ?_)
      · simp only [mq_heN, c14, if_false] at q
        refine r_iincN 2 (lv' := [_, _, _]) hX dX2_heal_25 rfl (Nat.le_of_ble_eq_true rfl) rfl ?_
        refine r_goto 4 hX dX2_heal_28 (by decide) ?_
        exact q
      · simp only [mq_heN, c14, if_true] at q
        refine r_iload_n 1 hX dX2_heal_17 rfl rfl ?_
        refine r_aload_n 0 hX dX2_heal_18 rfl rfl ?_
        refine r_iload_n 2 hX dX2_heal_19 rfl rfl ?_
        refine k_IM hC (w_fill _ i k (by omega) (BM_heN hB i) hk) kM_fill rfl rfl (by decide) (Nat.le_of_ble_eq_true rfl) rfl dX2_heal_20 ?_
        refine r_iaddN hX dX2_heal_23 ?_
        refine r_istore_n 1 (lv' := [_, _, _]) hX dX2_heal_24 rfl (Nat.le_of_ble_eq_true rfl) rfl ?_
        refine r_iincN 2 (lv' := [_, _, _]) hX dX2_heal_25 rfl (Nat.le_of_ble_eq_true rfl) rfl ?_
        refine r_goto 4 hX dX2_heal_28 (by decide) ?_
        exact q
  exact loop 4 0 rfl
end
section
/-! THE PLAIN LAW, first part: the component's own invariant, and what its words do to a replica -/
def hc (u : Pst) (s j : Nat) : Nat := cnt (fun f => decide (u 5 (s * 4 + f) = nI (s * 4 + j))) 4
def Jb (u : Pst) : Prop := ∀ s, s < 5 → ∀ f, f < 4 → u 5 (s * 4 + f) = -1 ∨ ∃ j, j < 4 ∧ u 5 (s * 4 + f) = nI (s * 4 + j)
def Jh (u : Pst) : Prop := ∀ s, s < 5 → ∀ j, j < 4 → u 10 (s * 4 + j) = nI (hc u s j)
def Jv (v : Nat) (u : Pst) : Prop := u 4 0 = nI v ∧ (∀ i, i < 20 → ∃ w, w ≤ v ∧ u 6 i = nI w) ∧ ∀ f, f < 4 → ∃ w, w ≤ v ∧ u 3 f = nI w
def rl (u : Pst) (s f : Nat) : Int32 := u 8 (cl (u 5 (s * 4 + f)))
def rc (u : Pst) (s f c : Nat) : Int32 := u 7 (cl (u 5 (s * 4 + f)) * 6 + c)
/-- the replica of f at s is the same -/
def Sm (u u' : Pst) (s f : Nat) : Prop := cq_cur u' s f = cq_cur u s f ∧ (cq_cur u s f = true → rl u' s f = rl u s f ∧ ∀ c, c < 6 → rc u' s f c = rc u s f c)
theorem Sm.rf {u : Pst} {s f : Nat} : Sm u u s f := ⟨rfl, fun _ => ⟨rfl, fun _ _ => rfl⟩⟩
theorem Sm.tr {u v w : Pst} {s f : Nat} (h1 : Sm u v s f) (h2 : Sm v w s f) : Sm u w s f := by
  refine ⟨h2.1.trans h1.1, fun h => ?_⟩
  have a := h1.2 h
  have b := h2.2 (h1.1.trans h)
  exact ⟨b.1.trans a.1, fun c hc => (b.2 c hc).trans (a.2 c hc)⟩
theorem nI_inj20 {a b : Nat} (ha : a < 32) (hb : b < 32) (h : nI a = nI b) : a = b := (nI_eq (by omega) (by omega)).mp h
theorem m1_ne {b : Nat} (hb : b < 2 ^ 31) : (-1 : Int32) ≠ nI b := fun h => nI_pos hb (by rw [← h]; decide)
theorem sum_congr {u u' : Pst} {b : Nat} (h8 : u' 8 b = u 8 b) (h7 : ∀ c, c < 6 → u' 7 (b * 6 + c) = u 7 (b * 6 + c)) : cq_sum u' b = cq_sum u b := by
  have key : ∀ n, n ≤ 6 → cq_sumN u' b n = cq_sumN u b n := by
    intro n
    induction n with
    | zero => intro _; simp only [cq_sumN, h8]
    | succ n ih => intro hn; simp only [cq_sumN, ih (by omega), h7 n (by omega)]
  exact key 6 (Nat.le_refl 6)
theorem Sm_fr {u u' : Pst} {s f : Nat} (h5 : u' 5 (s * 4 + f) = u 5 (s * 4 + f)) (h2 : u' 2 f = u 2 f) (h6 : u' 6 (s * 4 + f) = u 6 (s * 4 + f)) (h3 : u' 3 f = u 3 f)
    (hb : ¬ u 5 (s * 4 + f) < 0 → ∀ b, b = cl (u 5 (s * 4 + f)) → u' 8 b = u 8 b ∧ u' 9 b = u 9 b ∧ ∀ c, c < 6 → u' 7 (b * 6 + c) = u 7 (b * 6 + c)) : Sm u u' s f := by
  by_cases hn : u 5 (s * 4 + f) < 0
  · have e1 : cq_cur u s f = false := by simp [cq_cur, hn]
    have e2 : cq_cur u' s f = false := by simp [cq_cur, h5, hn]
    exact ⟨e2.trans e1.symm, fun h => by rw [e1] at h; cases h⟩
  · obtain ⟨a, b, c⟩ := hb hn _ rfl
    refine ⟨?_, fun _ => ⟨?_, fun x hx => ?_⟩⟩
    · simp only [cq_cur, h5, h2, h6, h3, sum_congr a c, b]
    · simp only [rl, h5, a]
    · simp only [rc, h5, c x hx]
-- counting
theorem cnt_upd {P Q : Nat → Bool} {f0 : Nat} (h : ∀ f, f ≠ f0 → Q f = P f) : ∀ n, cnt Q n + (if f0 < n ∧ P f0 = true then 1 else 0) = cnt P n + (if f0 < n ∧ Q f0 = true then 1 else 0)
  | 0 => by simp [cnt]
  | n + 1 => by
    have ih := cnt_upd h n
    simp only [cnt]
    by_cases e : f0 = n
    · subst e
      have l1 : ¬ f0 < f0 := Nat.lt_irrefl _
      have l2 : f0 < f0 + 1 := Nat.lt_succ_self _
      simp only [l1, l2, false_and, true_and, if_false] at ih ⊢
      omega
    · rw [h n (fun z => e z.symm)]
      have l : (f0 < n + 1) ↔ (f0 < n) := by omega
      simp only [l]
      omega
theorem cnt_zero {P : Nat → Bool} : ∀ n, cnt P n = 0 → ∀ f, f < n → P f = false
  | 0, _, f, h => absurd h (by omega)
  | n + 1, h, f, hf => by
    simp only [cnt] at h
    by_cases e : f = n
    · subst e
      by_cases q : P f = true
      · simp [q] at h
      · simpa using q
    · exact cnt_zero n (by omega) f (by omega)
theorem cnt_pos {P : Nat → Bool} {f : Nat} (n : Nat) (hf : f < n) (hp : P f = true) : 1 ≤ cnt P n := by
  rcases Nat.eq_zero_or_pos (cnt P n) with h | h
  · have := cnt_zero n h f hf
    rw [this] at hp; cases hp
  · exact h
theorem cnt_one {P : Nat → Bool} {f0 : Nat} (n : Nat) (hf : f0 < n) (hp : P f0 = true) (h : cnt P n = 1) : ∀ f, f < n → f ≠ f0 → P f = false := by
  intro f hfn hne
  have := cnt_upd (P := P) (Q := fun x => !decide (x = f0) && P x) (f0 := f0) (fun x hx => by simp [hx]) n
  have h0 : cnt (fun x => !decide (x = f0) && P x) n = 0 := by
    simp [hf, hp, h] at this
    exact this
  have := cnt_zero n h0 f hfn
  simpa [hne] using this
theorem hc_le {u : Pst} {s j : Nat} : hc u s j ≤ 4 := cnt_le _ 4
/-- of another server's places nothing is counted -/
theorem hc_ne {u u' : Pst} {s j : Nat} (h : ∀ f, f < 4 → u' 5 (s * 4 + f) = u 5 (s * 4 + f)) : hc u' s j = hc u s j := cnt_congr 4 (fun f hf => by simp only [h f hf])
theorem hc_upd {u u' : Pst} {s f0 j : Nat} (hf : f0 < 4) (h : ∀ f, f ≠ f0 → u' 5 (s * 4 + f) = u 5 (s * 4 + f)) : hc u' s j + (if u 5 (s * 4 + f0) = nI (s * 4 + j) then 1 else 0) = hc u s j + (if u' 5 (s * 4 + f0) = nI (s * 4 + j) then 1 else 0) := by
  have := cnt_upd (P := fun f => decide (u 5 (s * 4 + f) = nI (s * 4 + j))) (Q := fun f => decide (u' 5 (s * 4 + f) = nI (s * 4 + j))) (f0 := f0) (fun f hf => by simp only [h f hf]) 4
  simpa [hf, hc] using this
-- fields
theorem let_o {u : Pst} {i k : Nat} (h5 : k ≠ 5) (h10 : k ≠ 10) : cq_let u i k = u k := by
  unfold cq_let
  rw [sU_n h5]
  split
  · rfl
  · rw [sU_n h10]
theorem let_5s {u : Pst} {i : Nat} : cq_let u i 5 i = -1 := by unfold cq_let; rw [fw_5s]
theorem let_10 {u : Pst} {i : Nat} (hb : u 5 i = -1) : cq_let u i 10 = u 10 := by
  unfold cq_let
  rw [sU_n (by decide), if_pos (by rw [hb]; decide)]
theorem let_10j {u : Pst} {i j : Nat} (hj : j < 20) (hb : u 5 i = nI j) : cq_let u i 10 = upd (u 10) j (u 10 j - nI 1) := by
  unfold cq_let
  rw [sU_n (by decide), if_neg (by rw [hb]; exact fw_pos hj), sU_s, hb, show cl (nI j) = j from fw_cl hj]
theorem Jb_BI {k : Nat} {u : Pst} (h0 : u 0 0 = nI k) (h : Jb u) : BI k u := by
  refine ⟨h0, fun i hi => ?_⟩
  have e : i / 4 * 4 + i % 4 = i := by omega
  have := h (i / 4) (by omega) (i % 4) (by omega)
  rw [e] at this
  rcases this with q | ⟨j, hj, q⟩
  · exact Or.inl q
  · exact Or.inr ⟨i / 4 * 4 + j, by omega, q⟩
theorem Jb_5 {u u' : Pst} {s0 f0 : Nat} (h : Jb u) (hf0 : f0 < 4) (ho : ∀ i, i ≠ s0 * 4 + f0 → u' 5 i = u 5 i) (hn : u' 5 (s0 * 4 + f0) = -1 ∨ ∃ j, j < 4 ∧ u' 5 (s0 * 4 + f0) = nI (s0 * 4 + j)) : Jb u' := by
  intro s hs f hf
  by_cases e : s * 4 + f = s0 * 4 + f0
  · obtain rfl : s = s0 := by omega
    obtain rfl : f = f0 := by omega
    exact hn
  · rw [ho _ e]; exact h s hs f hf
/-- letting go keeps the counts -/
theorem let_J {u : Pst} {s0 f0 : Nat} (hs0 : s0 < 5) (hf0 : f0 < 4) (hb : Jb u) (hh : Jh u) : Jb (cq_let u (s0 * 4 + f0)) ∧ Jh (cq_let u (s0 * 4 + f0)) := by
  refine ⟨Jb_5 hb hf0 (fun i hi => let_5 hi) (Or.inl let_5s), fun s hs j hj => ?_⟩
  by_cases e : s = s0
  · subst e
    have hu := hc_upd (u := u) (u' := cq_let u (s * 4 + f0)) (s := s) (f0 := f0) (j := j) hf0 (fun f hf => let_5 (by omega))
    rw [let_5s, if_neg (m1_ne (by omega))] at hu
    rcases hb s hs f0 hf0 with q | ⟨j0, hj0, q⟩
    · rw [let_10 q]
      rw [q, if_neg (m1_ne (by omega))] at hu
      rw [hh s hs j hj]
      congr 1; omega
    · rw [let_10j (by omega) q]
      rw [q] at hu
      by_cases ej : j = j0
      · subst ej
        rw [if_pos rfl] at hu
        rw [pk_us, hh s hs j hj, pk_sub (by omega)]
        congr 1; omega
      · rw [if_neg (fun z => ej (by have := nI_inj20 (by omega) (by omega) z; omega))] at hu
        rw [pk_un (by omega), hh s hs j hj]
        congr 1; omega
  · have e5 : ∀ f, f < 4 → cq_let u (s0 * 4 + f0) 5 (s * 4 + f) = u 5 (s * 4 + f) := fun f hf => let_5 (by omega)
    rw [hc_ne e5]
    rcases hb s0 hs0 f0 hf0 with q | ⟨j0, hj0, q⟩
    · rw [let_10 q]; exact hh s hs j hj
    · rw [let_10j (by omega) q, pk_un (by omega)]; exact hh s hs j hj
theorem Jv_o {v : Nat} {u u' : Pst} (h : Jv v u) (h4 : u' 4 = u 4) (h6 : u' 6 = u 6) (h3 : u' 3 = u 3) : Jv v u' := by
  unfold Jv
  rw [h4, h6, h3]
  exact h
theorem let_Sm {u : Pst} {s0 f0 s f : Nat} (hne : s * 4 + f ≠ s0 * 4 + f0) : Sm u (cq_let u (s0 * 4 + f0)) s f := by
  refine Sm_fr (let_5 hne) ?_ ?_ ?_ (fun _ b _ => ?_)
  · rw [let_o (by decide) (by decide)]
  · rw [let_o (by decide) (by decide)]
  · rw [let_o (by decide) (by decide)]
  · rw [let_o (by decide) (by decide), let_o (by decide) (by decide), let_o (by decide) (by decide)]
    exact ⟨rfl, rfl, fun _ _ => rfl⟩
theorem let_cur {u : Pst} {s f : Nat} : cq_cur (cq_let u (s * 4 + f)) s f = false := by simp [cq_cur, let_5s]
-- a block that nobody holds
def pe (a b c d j : Nat) : Nat := (if a = j then 1 else 0) + (if b = j then 1 else 0) + (if c = j then 1 else 0) + (if d = j then 1 else 0)
def pigB (a b c d : Nat) : Bool := !((decide (a = 4) || decide (b = 4) || decide (c = 4) || decide (d = 4) || decide (2 ≤ pe a b c d 0) || decide (2 ≤ pe a b c d 1) || decide (2 ≤ pe a b c d 2) || decide (2 ≤ pe a b c d 3)) && !decide (pe a b c d 0 = 0) && !decide (pe a b c d 1 = 0) && !decide (pe a b c d 2 = 0)) || decide (pe a b c d 3 = 0)
theorem pigA : ∀ a, a < 5 → ∀ b, b < 5 → ∀ c, c < 5 → ∀ d, d < 5 → pigB a b c d = true := by decide +kernel
theorem pig (a : Nat) (ha : a < 5) (b : Nat) (hb : b < 5) (c : Nat) (hc : c < 5) (d : Nat) (hd : d < 5) (h : a = 4 ∨ b = 4 ∨ c = 4 ∨ d = 4 ∨ ∃ j, j < 4 ∧ 2 ≤ pe a b c d j) (h0 : pe a b c d 0 ≠ 0) (h1 : pe a b c d 1 ≠ 0) (h2 : pe a b c d 2 ≠ 0) : pe a b c d 3 = 0 := by
  have k := pigA a ha b hb c hc d hd
  simp only [pigB, h0, h1, h2, decide_false, Bool.not_false, Bool.and_true] at k
  rcases h with h | h | h | h | ⟨j, hj, h⟩
  · simpa [h] using k
  · simpa [h] using k
  · simpa [h] using k
  · simpa [h] using k
  · have : j = 0 ∨ j = 1 ∨ j = 2 ∨ j = 3 := by omega
    rcases this with rfl | rfl | rfl | rfl <;> simpa [h] using k
def cd (u : Pst) (s f : Nat) : Nat := if u 5 (s * 4 + f) < 0 then 4 else cl (u 5 (s * 4 + f)) - s * 4
theorem cd_of {u : Pst} {s f : Nat} (hb : Jb u) (hs : s < 5) (hf : f < 4) : cd u s f < 5 ∧ (cd u s f = 4 ↔ u 5 (s * 4 + f) = -1) ∧ ∀ j, j < 4 → (cd u s f = j ↔ u 5 (s * 4 + f) = nI (s * 4 + j)) := by
  unfold cd
  rcases hb s hs f hf with q | ⟨j0, hj0, q⟩
  · rw [q, if_pos (by decide)]
    refine ⟨by decide, by simp, fun j hj => ⟨fun h => by omega, fun h => absurd h (m1_ne (by omega))⟩⟩
  · rw [q, if_neg (fw_pos (by omega)), show cl (nI (s * 4 + j0)) = s * 4 + j0 from fw_cl (by omega)]
    refine ⟨by omega, ⟨fun h => by omega, fun h => absurd h.symm (m1_ne (by omega))⟩, fun j hj => ⟨fun h => by congr 1; omega, fun h => ?_⟩⟩
    have := nI_inj20 (by omega) (by omega) h
    omega
theorem hc_cd {u : Pst} {s j : Nat} (hb : Jb u) (hs : s < 5) (hj : j < 4) : hc u s j = pe (cd u s 0) (cd u s 1) (cd u s 2) (cd u s 3) j := by
  have k := fun f (hf : f < 4) => (cd_of hb hs hf).2.2 j hj
  simp only [hc, cnt, pe, decide_eq_true_eq]
  simp only [k 0 (by decide), k 1 (by decide), k 2 (by decide), k 3 (by decide)]
  omega
theorem nI_le0 {n : Nat} (h : n ≤ 4) : nI n ≤ 0 ↔ n = 0 := by
  constructor
  · intro q
    rcases Nat.eq_zero_or_pos n with z | z
    · exact z
    · exact absurd q (nI_nle z (by omega))
  · intro q; rw [q]; decide
theorem fb_free {u : Pst} {s : Nat} (hs : s < 5) (hb : Jb u) (hh : Jh u) (h : (∃ f, f < 4 ∧ u 5 (s * 4 + f) = -1) ∨ ∃ j, j < 4 ∧ 2 ≤ hc u s j) : ∃ j, j < 4 ∧ cq_fb u s = s * 4 + j ∧ hc u s j = 0 := by
  have g0 := hh s hs 0 (by decide)
  have g1 := hh s hs 1 (by decide)
  have g2 := hh s hs 2 (by decide)
  have l0 : hc u s 0 ≤ 4 := hc_le
  have l1 : hc u s 1 ≤ 4 := hc_le
  have l2 : hc u s 2 ≤ 4 := hc_le
  unfold cq_fb
  rw [show s * 4 + 1 + 1 = s * 4 + 2 by omega, show s * 4 + 2 + 1 = s * 4 + 3 by omega]
  rw [Nat.add_zero] at g0
  rw [g0, g1, g2]
  simp only [nI_le0 l0, nI_le0 l1, nI_le0 l2]
  by_cases q0 : hc u s 0 = 0
  · exact ⟨0, by decide, by rw [if_pos q0]; rfl, q0⟩
  rw [if_neg q0]
  by_cases q1 : hc u s 1 = 0
  · exact ⟨1, by decide, by rw [if_pos q1], q1⟩
  rw [if_neg q1]
  by_cases q2 : hc u s 2 = 0
  · exact ⟨2, by decide, by rw [if_pos q2], q2⟩
  rw [if_neg q2]
  refine ⟨3, by decide, rfl, ?_⟩
  rw [hc_cd hb hs (by decide)] at q0 q1 q2 ⊢
  have c0 := cd_of hb hs (f := 0) (by decide)
  have c1 := cd_of hb hs (f := 1) (by decide)
  have c2 := cd_of hb hs (f := 2) (by decide)
  have c3 := cd_of hb hs (f := 3) (by decide)
  refine pig _ c0.1 _ c1.1 _ c2.1 _ c3.1 ?_ q0 q1 q2
  rcases h with ⟨f, hf, q⟩ | ⟨j, hj, q⟩
  · have : f = 0 ∨ f = 1 ∨ f = 2 ∨ f = 3 := by omega
    rcases this with rfl | rfl | rfl | rfl
    · exact Or.inl (c0.2.1.mpr q)
    · exact Or.inr (Or.inl (c1.2.1.mpr q))
    · exact Or.inr (Or.inr (Or.inl (c2.2.1.mpr q)))
    · exact Or.inr (Or.inr (Or.inr (Or.inl (c3.2.1.mpr q))))
  · refine Or.inr (Or.inr (Or.inr (Or.inr ⟨j, hj, ?_⟩)))
    rw [hc_cd hb hs hj] at q
    exact q
/-- nobody but (s0, f0) holds the block b -/
def Un (u : Pst) (s0 f0 b : Nat) : Prop := ∀ s, s < 5 → ∀ f, f < 4 → s * 4 + f ≠ s0 * 4 + f0 → u 5 (s * 4 + f) ≠ nI b
theorem hc0_no {u : Pst} {s0 j : Nat} (hb : Jb u) (hs0 : s0 < 5) (hj : j < 4) (h : hc u s0 j = 0) : ∀ s, s < 5 → ∀ f, f < 4 → u 5 (s * 4 + f) ≠ nI (s0 * 4 + j) := by
  intro s hs f hf z
  by_cases e : s = s0
  · subst e
    have := cnt_zero 4 h f hf
    simp [z] at this
  · rcases hb s hs f hf with q | ⟨j1, hj1, q⟩
    · rw [q] at z; exact m1_ne (by omega) z
    · rw [q] at z
      have := nI_inj20 (by omega) (by omega) z
      omega
theorem Un_cl {u : Pst} {s0 f0 b s f : Nat} (hb : Jb u) (hs : s < 5) (hf : f < 4) (h : Un u s0 f0 b) (hne : s * 4 + f ≠ s0 * 4 + f0) (hn : ¬ u 5 (s * 4 + f) < 0) : cl (u 5 (s * 4 + f)) ≠ b := by
  intro z
  rcases hb s hs f hf with q | ⟨j, hj, q⟩
  · exact hn (by rw [q]; decide)
  · rw [q, show cl (nI (s * 4 + j)) = s * 4 + j from fw_cl (by omega)] at z
    exact h s hs f hf hne (by rw [q, z])
/-- a change of one block that only (s0, f0) holds -/
theorem blk_Sm {u u' : Pst} {s0 f0 b s f : Nat} (hb : Jb u) (hs : s < 5) (hf : f < 4) (h : Un u s0 f0 b) (hne : s * 4 + f ≠ s0 * 4 + f0) (h5 : u' 5 = u 5) (h2 : u' 2 = u 2) (h6 : u' 6 = u 6) (h3 : u' 3 = u 3)
    (h8 : ∀ p, p ≠ b → u' 8 p = u 8 p) (h9 : ∀ p, p ≠ b → u' 9 p = u 9 p) (h7 : ∀ p c, p ≠ b → c < 6 → u' 7 (p * 6 + c) = u 7 (p * 6 + c)) : Sm u u' s f := by
  refine Sm_fr (by rw [h5]) (by rw [h2]) (by rw [h6]) (by rw [h3]) (fun hn p hp => ?_)
  have := Un_cl hb hs hf h hne hn
  rw [← hp] at this
  exact ⟨h8 p this, h9 p this, fun c hc => h7 p c this hc⟩
end
section
/-! THE PLAIN LAW, second part: what each word does -/
theorem cpN_o {u : Pst} {a b k : Nat} (h : k ≠ 7) : ∀ n, cq_cpN u a b n k = u k
  | 0 => rfl
  | n + 1 => by
    show sU (cq_cpN u a b n) 7 _ _ k = u k
    rw [sU_n h]; exact cpN_o h n
theorem cpN_7 {u : Pst} {a b p c : Nat} (hp : p ≠ b) (hc : c < 6) : ∀ n, n ≤ 6 → cq_cpN u a b n 7 (p * 6 + c) = u 7 (p * 6 + c)
  | 0, _ => rfl
  | n + 1, hn => by
    show sU (cq_cpN u a b n) 7 (b * 6 + n) _ 7 (p * 6 + c) = _
    rw [sU_s, pk_un (by omega)]; exact cpN_7 hp hc n (by omega)
theorem cpN_7s {u : Pst} {a b c : Nat} (hab : a ≠ b) : ∀ n, n ≤ 6 → c < n → cq_cpN u a b n 7 (b * 6 + c) = u 7 (a * 6 + c)
  | 0, _, h => absurd h (by omega)
  | n + 1, hn, h => by
    show sU (cq_cpN u a b n) 7 (b * 6 + n) (cq_cpN u a b n 7 (a * 6 + n)) 7 (b * 6 + c) = _
    rw [sU_s]
    by_cases e : c = n
    · subst e; rw [pk_us]; exact cpN_7 hab (by omega) c (by omega)
    · rw [pk_un (by omega)]; exact cpN_7s hab n (by omega) (by omega)
theorem cp_o {u : Pst} {a b k : Nat} (h7 : k ≠ 7) (h8 : k ≠ 8) (h9 : k ≠ 9) : cq_cp u a b k = u k := by
  unfold cq_cp
  rw [sU_n h9, sU_n h8]; exact cpN_o h7 6
theorem cp_7 {u : Pst} {a b p c : Nat} (hp : p ≠ b) (hc : c < 6) : cq_cp u a b 7 (p * 6 + c) = u 7 (p * 6 + c) := by
  unfold cq_cp
  rw [sU_n (by decide), sU_n (by decide)]; exact cpN_7 hp hc 6 (Nat.le_refl 6)
theorem cp_7s {u : Pst} {a b c : Nat} (hab : a ≠ b) (hc : c < 6) : cq_cp u a b 7 (b * 6 + c) = u 7 (a * 6 + c) := by
  unfold cq_cp
  rw [sU_n (by decide), sU_n (by decide)]; exact cpN_7s hab 6 (Nat.le_refl 6) hc
theorem cp_8 {u : Pst} {a b p : Nat} (hp : p ≠ b) : cq_cp u a b 8 p = u 8 p := by
  unfold cq_cp
  rw [sU_n (by decide), sU_s, pk_un hp, cpN_o (by decide)]
theorem cp_8s {u : Pst} {a b : Nat} : cq_cp u a b 8 b = u 8 a := by
  unfold cq_cp
  rw [sU_n (by decide), sU_s, pk_us, cpN_o (by decide)]
theorem cp_9 {u : Pst} {a b p : Nat} (hp : p ≠ b) : cq_cp u a b 9 p = u 9 p := by
  unfold cq_cp
  rw [sU_s, pk_un hp, sU_n (by decide), cpN_o (by decide)]
theorem cp_9s {u : Pst} {a b : Nat} : cq_cp u a b 9 b = u 9 a := by
  unfold cq_cp
  rw [sU_s, pk_us, sU_n (by decide), cpN_o (by decide)]
theorem cp_sum {u : Pst} {a b : Nat} (hab : a ≠ b) : cq_sum (cq_cp u a b) b = cq_sum u a := by
  have key : ∀ n, n ≤ 6 → cq_sumN (cq_cp u a b) b n = cq_sumN u a n := by
    intro n
    induction n with
    | zero => intro _; simp only [cq_sumN, cp_8s]
    | succ n ih => intro hn; simp only [cq_sumN, ih (by omega), cp_7s hab (show n < 6 by omega)]
  exact key 6 (Nat.le_refl 6)
theorem J_keep {u u' : Pst} (h5 : u' 5 = u 5) (h10 : u' 10 = u 10) (hb : Jb u) (hh : Jh u) : Jb u' ∧ Jh u' := by
  refine ⟨fun s hs f hf => by rw [h5]; exact hb s hs f hf, fun s hs j hj => ?_⟩
  rw [h10, hh s hs j hj, hc_ne (u' := u') (fun f _ => by rw [h5])]
-- a new replica's block
theorem new_o {u : Pst} {s f k : Nat} (h5 : k ≠ 5) (h6 : k ≠ 6) (h10 : k ≠ 10) : cq_newS u s f k = u k := by
  unfold cq_newS
  rw [sU_n h6, sU_n h5, sU_n h10, let_o h5 h10]
theorem new_6 {u : Pst} {s f i : Nat} (h : i ≠ s * 4 + f) : cq_newS u s f 6 i = u 6 i := by
  unfold cq_newS
  rw [sU_s, pk_un h, sU_n (by decide), sU_n (by decide), let_o (by decide) (by decide)]
theorem new_6s {u : Pst} {s f : Nat} : cq_newS u s f 6 (s * 4 + f) = u 3 f := by
  unfold cq_newS
  rw [sU_s, pk_us, sU_n (by decide), sU_n (by decide), let_o (by decide) (by decide)]
theorem new_10 {u : Pst} {s f : Nat} : cq_newS u s f 10 = upd (cq_let u (s * 4 + f) 10) (cq_newB u s f) (nI 1) := by
  unfold cq_newS
  rw [sU_n (by decide), sU_n (by decide), sU_s]
theorem new_J {u : Pst} {s0 f0 : Nat} (hs0 : s0 < 5) (hf0 : f0 < 4) (hb : Jb u) (hh : Jh u) : ∃ j, j < 4 ∧ cq_newB u s0 f0 = s0 * 4 + j ∧ Jb (cq_newS u s0 f0) ∧ Jh (cq_newS u s0 f0) ∧ Un (cq_newS u s0 f0) s0 f0 (s0 * 4 + j) := by
  obtain ⟨lb, lh⟩ := let_J hs0 hf0 hb hh
  obtain ⟨j, hj, e1, e2⟩ := fb_free hs0 lb lh (Or.inl ⟨f0, hf0, let_5s⟩)
  have eB : cq_newB u s0 f0 = s0 * 4 + j := e1
  have h5 : ∀ i, i ≠ s0 * 4 + f0 → cq_newS u s0 f0 5 i = cq_let u (s0 * 4 + f0) 5 i := fun i hi => by rw [new_5 hi, let_5 hi]
  have h5s : cq_newS u s0 f0 5 (s0 * 4 + f0) = nI (s0 * 4 + j) := by rw [new_5s, eB]
  refine ⟨j, hj, eB, Jb_5 lb hf0 h5 (Or.inr ⟨j, hj, h5s⟩), fun s hs j1 hj1 => ?_, fun s hs f hf hne => ?_⟩
  · rw [new_10, eB]
    by_cases e : s = s0
    · subst e
      have hu := hc_upd (u := cq_let u (s * 4 + f0)) (u' := cq_newS u s f0) (s := s) (f0 := f0) (j := j1) hf0 (fun f hf => h5 _ (by omega))
      rw [let_5s, if_neg (m1_ne (by omega)), h5s] at hu
      by_cases ej : j1 = j
      · subst ej
        rw [if_pos rfl] at hu
        rw [pk_us]
        congr 1; omega
      · rw [if_neg (fun z => ej (by have := nI_inj20 (by omega) (by omega) z; omega))] at hu
        rw [pk_un (by omega), lh s hs j1 hj1]
        congr 1; omega
    · rw [pk_un (by omega), lh s hs j1 hj1]
      congr 1
      exact (hc_ne (fun f hf => h5 _ (by omega))).symm
  · rw [h5 _ hne]
    exact hc0_no lb hs0 hj e2 s hs f hf
theorem new_Sm {u : Pst} {s0 f0 s f : Nat} (hne : s * 4 + f ≠ s0 * 4 + f0) : Sm u (cq_newS u s0 f0) s f := by
  refine Sm_fr (new_5 hne) ?_ (new_6 hne) ?_ (fun _ b _ => ?_)
  · rw [new_o (by decide) (by decide) (by decide)]
  · rw [new_o (by decide) (by decide) (by decide)]
  · rw [new_o (by decide) (by decide) (by decide), new_o (by decide) (by decide) (by decide), new_o (by decide) (by decide) (by decide)]
    exact ⟨rfl, rfl, fun _ _ => rfl⟩
theorem new_Jv {v : Nat} {u : Pst} {s f : Nat} (hf : f < 4) (h : Jv v u) : Jv v (cq_newS u s f) := by
  refine ⟨?_, fun i hi => ?_, ?_⟩
  · rw [new_o (by decide) (by decide) (by decide)]; exact h.1
  · by_cases e : i = s * 4 + f
    · rw [e, new_6s]; exact h.2.2 f hf
    · rw [new_6 e]; exact h.2.1 i hi
  · rw [new_o (by decide) (by decide) (by decide)]; exact h.2.2
-- a block of its own
theorem own_o {u : Pst} {s i b k : Nat} (h5 : k ≠ 5) (h10 : k ≠ 10) (h7 : k ≠ 7) (h8 : k ≠ 8) (h9 : k ≠ 9) : cq_ownS u s i b k = u k := by
  unfold cq_ownS
  split
  · rfl
  · rw [sU_n h5, sU_n h10, sU_n h10, cp_o h7 h8 h9]
theorem own_J {u : Pst} {s0 f0 j0 : Nat} (hs0 : s0 < 5) (hf0 : f0 < 4) (hj0 : j0 < 4) (hb : Jb u) (hh : Jh u) (h0 : u 5 (s0 * 4 + f0) = nI (s0 * 4 + j0)) :
    ∃ j, j < 4 ∧ cq_ownB u s0 (s0 * 4 + j0) = s0 * 4 + j ∧ Jb (cq_ownS u s0 (s0 * 4 + f0) (s0 * 4 + j0)) ∧ Jh (cq_ownS u s0 (s0 * 4 + f0) (s0 * 4 + j0)) ∧ Un (cq_ownS u s0 (s0 * 4 + f0) (s0 * 4 + j0)) s0 f0 (s0 * 4 + j) ∧ cq_ownS u s0 (s0 * 4 + f0) (s0 * 4 + j0) 5 (s0 * 4 + f0) = nI (s0 * 4 + j) ∧ ∀ s, s < 5 → ∀ f, f < 4 → Sm u (cq_ownS u s0 (s0 * 4 + f0) (s0 * 4 + j0)) s f := by
  have hl : hc u s0 j0 ≤ 4 := hc_le
  have hp : 1 ≤ hc u s0 j0 := cnt_pos 4 hf0 (by simp [h0])
  unfold cq_ownB cq_ownS
  rw [hh s0 hs0 j0 hj0]
  by_cases h1 : hc u s0 j0 = 1
  · rw [h1, if_pos rfl, if_pos rfl]
    refine ⟨j0, hj0, rfl, hb, hh, fun s hs f hf hne z => ?_, h0, fun _ _ _ _ => Sm.rf⟩
    by_cases e : s = s0
    · subst e
      have := cnt_one 4 hf0 (by simp [h0]) h1 f hf (by omega)
      simp [z] at this
    · rcases hb s hs f hf with q | ⟨j1, hj1, q⟩
      · rw [q] at z; exact m1_ne (by omega) z
      · rw [q] at z
        have := nI_inj20 (by omega) (by omega) z
        omega
  · have hn : ¬ nI (hc u s0 j0) = nI 1 := fun z => h1 (nI_inj20 (by omega) (by decide) z)
    rw [if_neg hn, if_neg hn]
    obtain ⟨j, hj, e1, e2⟩ := fb_free hs0 hb hh (Or.inr ⟨j0, hj0, by omega⟩)
    rw [e1]
    have hjj : j ≠ j0 := fun z => by rw [z] at e2; omega
    have hno := hc0_no hb hs0 hj e2
    generalize hU : sU (sU (sU (cq_cp u (s0 * 4 + j0) (s0 * 4 + j)) 10 (s0 * 4 + j0) (cq_cp u (s0 * 4 + j0) (s0 * 4 + j) 10 (s0 * 4 + j0) - nI 1)) 10 (s0 * 4 + j) (nI 1)) 5 (s0 * 4 + f0) (nI (s0 * 4 + j)) = U
    have h5 : ∀ i, i ≠ s0 * 4 + f0 → U 5 i = u 5 i := fun i hi => by rw [← hU, fw_5n hi, sU_n (by decide), sU_n (by decide), cp_5]
    have h5s : U 5 (s0 * 4 + f0) = nI (s0 * 4 + j) := by rw [← hU, fw_5s]
    have h10 : U 10 = upd (upd (u 10) (s0 * 4 + j0) (u 10 (s0 * 4 + j0) - nI 1)) (s0 * 4 + j) (nI 1) := by
      rw [← hU, sU_n (by decide), sU_s, sU_s, cp_o (by decide) (by decide) (by decide)]
    have ho : ∀ k, k ≠ 5 → k ≠ 10 → U k = cq_cp u (s0 * 4 + j0) (s0 * 4 + j) k := fun k q5 q10 => by rw [← hU, sU_n q5, sU_n q10, sU_n q10]
    refine ⟨j, hj, rfl, Jb_5 hb hf0 h5 (Or.inr ⟨j, hj, h5s⟩), fun s hs j1 hj1 => ?_, fun s hs f hf hne => ?_, h5s, fun s hs f hf => ?_⟩
    · rw [h10]
      by_cases e : s = s0
      · subst e
        have hu := hc_upd (u := u) (u' := U) (s := s) (f0 := f0) (j := j1) hf0 (fun f hf => h5 _ (by omega))
        rw [h0, h5s] at hu
        by_cases ej : j1 = j
        · subst ej
          rw [if_neg (fun z => hjj (by have := nI_inj20 (by omega) (by omega) z; omega)), if_pos rfl] at hu
          rw [pk_us]
          congr 1; omega
        · rw [if_neg (c := nI (s * 4 + j) = nI (s * 4 + j1)) (fun z => ej (by have := nI_inj20 (by omega) (by omega) z; omega))] at hu
          rw [pk_un (by omega)]
          by_cases e0 : j1 = j0
          · subst e0
            rw [if_pos rfl] at hu
            rw [pk_us, hh s hs j1 hj1, pk_sub hp]
            congr 1; omega
          · rw [if_neg (fun z => e0 (by have := nI_inj20 (by omega) (by omega) z; omega))] at hu
            rw [pk_un (by omega), hh s hs j1 hj1]
            congr 1; omega
      · rw [pk_un (by omega), pk_un (by omega), hh s hs j1 hj1]
        congr 1
        exact (hc_ne (fun f hf => h5 _ (by omega))).symm
    · rw [h5 _ hne]; exact hno s hs f hf
    · by_cases e : s * 4 + f = s0 * 4 + f0
      · obtain rfl : s = s0 := by omega
        obtain rfl : f = f0 := by omega
        have c1 : cl (u 5 (s * 4 + f)) = s * 4 + j0 := by rw [h0]; exact fw_cl (by omega)
        have c2 : cl (U 5 (s * 4 + f)) = s * 4 + j := by rw [h5s]; exact fw_cl (by omega)
        have n1 : ¬ u 5 (s * 4 + f) < 0 := by rw [h0]; exact fw_pos (by omega)
        have n2 : ¬ U 5 (s * 4 + f) < 0 := by rw [h5s]; exact fw_pos (by omega)
        have hsum : cq_sum U (s * 4 + j) = cq_sum u (s * 4 + j0) := by
          rw [← cp_sum (u := u) (show s * 4 + j0 ≠ s * 4 + j by omega)]
          exact sum_congr (by rw [ho 8 (by decide) (by decide)]) (fun c hc => by rw [ho 7 (by decide) (by decide)])
        refine ⟨?_, fun _ => ⟨?_, fun c hc => ?_⟩⟩
        · simp only [cq_cur, c1, c2, n1, n2, hsum, ho 2 (by decide) (by decide), ho 6 (by decide) (by decide), ho 3 (by decide) (by decide), ho 9 (by decide) (by decide), cp_9s, cp_o (k := 2) (by decide) (by decide) (by decide), cp_o (k := 6) (by decide) (by decide) (by decide), cp_o (k := 3) (by decide) (by decide) (by decide)]
        · simp only [rl, c1, c2, ho 8 (by decide) (by decide), cp_8s]
        · simp only [rc, c1, c2, ho 7 (by decide) (by decide)]
          exact cp_7s (by omega) hc
      · refine Sm_fr (h5 _ e) ?_ ?_ ?_ (fun hn b hb' => ?_)
        · rw [ho 2 (by decide) (by decide), cp_o (by decide) (by decide) (by decide)]
        · rw [ho 6 (by decide) (by decide), cp_o (by decide) (by decide) (by decide)]
        · rw [ho 3 (by decide) (by decide), cp_o (by decide) (by decide) (by decide)]
        · have hne : b ≠ s0 * 4 + j := by
            rw [hb']
            exact Un_cl (s0 := s0) (f0 := f0) hb hs hf (fun s hs f hf _ => hno s hs f hf) e hn
          rw [ho 8 (by decide) (by decide), ho 9 (by decide) (by decide), ho 7 (by decide) (by decide), cp_8 hne, cp_9 hne]
          exact ⟨rfl, rfl, fun c hc => cp_7 hne hc⟩
end
section
/-! THE PLAIN LAW, third part: the words' effect on the replicas -/
def JJ (v : Nat) (u : Pst) : Prop := Jb u ∧ Jh u ∧ Jv v u
/-- the replica of f at s: whether it is current, and then its length and cells -/
def Rp (u : Pst) (s f : Nat) (b : Bool) (l : Int32) (cs : Nat → Int32) : Prop := cq_cur u s f = b ∧ (b = true → rl u s f = l ∧ ∀ c, c < 6 → rc u s f c = cs c)
theorem Sm.rp {u u' : Pst} {s f : Nat} {b : Bool} {l : Int32} {cs : Nat → Int32} (h : Sm u u' s f) (hr : Rp u s f b l cs) : Rp u' s f b l cs := by
  refine ⟨h.1.trans hr.1, fun hb => ?_⟩
  have a := h.2 (hr.1.trans hb)
  have b := hr.2 hb
  exact ⟨a.1.trans b.1, fun c hc => (a.2 c hc).trans (b.2 c hc)⟩
theorem Rp.no {u : Pst} {s f : Nat} {l : Int32} {cs : Nat → Int32} (h : cq_cur u s f = false) : Rp u s f false l cs := ⟨h, fun z => by cases z⟩
theorem cur_iff {u : Pst} {s f : Nat} : cq_cur u s f = true ↔ ¬ u 5 (s * 4 + f) < 0 ∧ ¬ u 2 f = 0 ∧ u 6 (s * 4 + f) = u 3 f ∧ cq_sum u (cl (u 5 (s * 4 + f))) = u 9 (cl (u 5 (s * 4 + f))) := by
  simp [cq_cur]
theorem cur_j {v : Nat} {u : Pst} {s f : Nat} (hs : s < 5) (hf : f < 4) (hJ : JJ v u) (h : cq_cur u s f = true) : ∃ j, j < 4 ∧ u 5 (s * 4 + f) = nI (s * 4 + j) := by
  rcases hJ.1 s hs f hf with q | q
  · exact absurd (by rw [q]; decide) (cur_iff.mp h).1
  · exact q
/-- a change of a block that one replica holds -/
theorem bw {v : Nat} {u u' : Pst} {s0 f0 b : Nat} (hJ : JJ v u) (hU : Un u s0 f0 b) (ho : ∀ k, k ≠ 7 → k ≠ 8 → k ≠ 9 → u' k = u k) (h8 : ∀ p, p ≠ b → u' 8 p = u 8 p) (h9 : ∀ p, p ≠ b → u' 9 p = u 9 p) (h7 : ∀ p c, p ≠ b → c < 6 → u' 7 (p * 6 + c) = u 7 (p * 6 + c)) :
    JJ v u' ∧ ∀ s, s < 5 → ∀ f, f < 4 → s * 4 + f ≠ s0 * 4 + f0 → Sm u u' s f := by
  obtain ⟨hb, hh, hv⟩ := hJ
  obtain ⟨a, b'⟩ := J_keep (u := u) (u' := u') (ho 5 (by decide) (by decide) (by decide)) (ho 10 (by decide) (by decide) (by decide)) hb hh
  refine ⟨⟨a, b', Jv_o hv (ho 4 (by decide) (by decide) (by decide)) (ho 6 (by decide) (by decide) (by decide)) (ho 3 (by decide) (by decide) (by decide))⟩, fun s hs f hf hne => ?_⟩
  exact blk_Sm hb hs hf hU hne (ho 5 (by decide) (by decide) (by decide)) (ho 2 (by decide) (by decide) (by decide)) (ho 6 (by decide) (by decide) (by decide)) (ho 3 (by decide) (by decide) (by decide)) h8 h9 h7
theorem own_Jv {v : Nat} {u : Pst} {s i b : Nat} (h : Jv v u) : Jv v (cq_ownS u s i b) := Jv_o h (own_o (by decide) (by decide) (by decide) (by decide) (by decide)) (own_o (by decide) (by decide) (by decide) (by decide) (by decide)) (own_o (by decide) (by decide) (by decide) (by decide) (by decide))
def wl (l : Int32) (c : Nat) : Int32 := if nI (c + 1) ≤ l then l else nI (c + 1)
def wc (cs : Nat → Int32) (c : Nat) (z : Int32) : Nat → Int32 := fun x => if x = c then z else cs x
/-- a write at one server -/
theorem wr_J {v : Nat} {u : Pst} {s0 f0 c : Nat} {z l : Int32} {cs : Nat → Int32} (hs0 : s0 < 5) (hf0 : f0 < 4) (hc : c < 6) (hJ : JJ v u) (hR : Rp u s0 f0 true l cs) :
    JJ v (cq_wr u s0 f0 c z) ∧ (∀ s, s < 5 → ∀ f, f < 4 → s * 4 + f ≠ s0 * 4 + f0 → Sm u (cq_wr u s0 f0 c z) s f) ∧ Rp (cq_wr u s0 f0 c z) s0 f0 true (wl l c) (wc cs c z) := by
  obtain ⟨j0, hj0, h0⟩ := cur_j hs0 hf0 hJ hR.1
  obtain ⟨j, hj, eB, ob, oh, oU, o5, oS⟩ := own_J hs0 hf0 hj0 hJ.1 hJ.2.1 h0
  have ecl : cl (u 5 (s0 * 4 + f0)) = s0 * 4 + j0 := by rw [h0]; exact fw_cl (by omega)
  have oJ : JJ v (cq_ownS u s0 (s0 * 4 + f0) (s0 * 4 + j0)) := ⟨ob, oh, own_Jv hJ.2.2⟩
  have hR1 := (oS s0 hs0 f0 hf0).rp hR
  unfold cq_wr cq_w1
  rw [ecl, eB]
  generalize cq_ownS u s0 (s0 * 4 + f0) (s0 * 4 + j0) = w at *
  have wcl : cl (w 5 (s0 * 4 + f0)) = s0 * 4 + j := by rw [o5]; exact fw_cl (by omega)
  have hrl : w 8 (s0 * 4 + j) = l := by have := (hR1.2 rfl).1; unfold rl at this; rwa [wcl] at this
  have hrc : ∀ x, x < 6 → w 7 ((s0 * 4 + j) * 6 + x) = cs x := fun x hx => by have := (hR1.2 rfl).2 x hx; unfold rc at this; rwa [wcl] at this
  generalize hb : s0 * 4 + j = b at *
  have e2 : ∀ k, k ≠ 8 → cq_w2 (sU w 7 (b * 6 + c) z) b c k = sU w 7 (b * 6 + c) z k := fun k hk => by
    unfold cq_w2
    split
    · rfl
    · rw [sU_n hk]
  have e8 : ∀ p, cq_w2 (sU w 7 (b * 6 + c) z) b c 8 p = if p = b then wl (w 8 b) c else w 8 p := fun p => by
    unfold cq_w2 wl
    rw [sU_n (by decide)]
    split
    · rw [sU_n (by decide)]
      by_cases e : p = b
      · rw [if_pos e, e]
      · rw [if_neg e]
    · rw [sU_s]
      by_cases e : p = b
      · rw [if_pos e, e, pk_us]
      · rw [if_neg e, pk_un e, sU_n (by decide)]
  generalize hw2 : cq_w2 (sU w 7 (b * 6 + c) z) b c = y at *
  have hBW := bw (u' := sU y 9 b (cq_sum y b)) oJ oU (fun k q7 q8 q9 => by rw [sU_n q9, e2 k q8, sU_n q7]) (fun p hp => by rw [sU_n (by decide), e8, if_neg hp]) (fun p hp => by rw [sU_s, pk_un hp, e2 9 (by decide), sU_n (by decide)])
    (fun p x hp hx => by rw [sU_n (by decide), e2 7 (by decide), sU_s, pk_un (by omega)])
  refine ⟨hBW.1, fun s hs f hf hne => (oS s hs f hf).tr (hBW.2 s hs f hf hne), ?_, fun _ => ⟨?_, fun x hx => ?_⟩⟩
  · obtain ⟨a1, a2, a3, a4⟩ := cur_iff.mp hR1.1
    have f5 : sU y 9 b (cq_sum y b) 5 = w 5 := by rw [sU_n (by decide), e2 5 (by decide), sU_n (by decide)]
    have f2 : sU y 9 b (cq_sum y b) 2 = w 2 := by rw [sU_n (by decide), e2 2 (by decide), sU_n (by decide)]
    have f6 : sU y 9 b (cq_sum y b) 6 = w 6 := by rw [sU_n (by decide), e2 6 (by decide), sU_n (by decide)]
    have f3 : sU y 9 b (cq_sum y b) 3 = w 3 := by rw [sU_n (by decide), e2 3 (by decide), sU_n (by decide)]
    rw [cur_iff, f5, f2, f6, f3, wcl]
    refine ⟨a1, a2, a3, ?_⟩
    rw [sU_s, pk_us]
    exact sum_congr (by rw [sU_n (by decide)]) (fun _ _ => by rw [sU_n (by decide)])
  · unfold rl
    rw [sU_n (by decide), sU_n (by decide), e2 5 (by decide), sU_n (by decide), wcl, e8, if_pos rfl, hrl]
  · unfold rc wc
    rw [sU_n (by decide), sU_n (by decide), e2 5 (by decide), sU_n (by decide), wcl, e2 7 (by decide), sU_s]
    by_cases e : x = c
    · rw [if_pos e, e, pk_us]
    · rw [if_neg e, pk_un (by omega)]; exact hrc x hx
-- zeros
theorem zN_o {u : Pst} {b k : Nat} (h : k ≠ 7) : ∀ n, cq_zN u b n k = u k
  | 0 => rfl
  | n + 1 => by
    show sU (cq_zN u b n) 7 _ _ k = u k
    rw [sU_n h]; exact zN_o h n
theorem zN_7 {u : Pst} {b p c : Nat} (hp : p ≠ b) (hc : c < 6) : ∀ n, n ≤ 6 → cq_zN u b n 7 (p * 6 + c) = u 7 (p * 6 + c)
  | 0, _ => rfl
  | n + 1, hn => by
    show sU (cq_zN u b n) 7 (b * 6 + n) _ 7 (p * 6 + c) = _
    rw [sU_s, pk_un (by omega)]; exact zN_7 hp hc n (by omega)
theorem zN_7s {u : Pst} {b c : Nat} : ∀ n, n ≤ 6 → c < n → cq_zN u b n 7 (b * 6 + c) = nI 0
  | 0, _, h => absurd h (by omega)
  | n + 1, hn, h => by
    show sU (cq_zN u b n) 7 (b * 6 + n) (nI 0) 7 (b * 6 + c) = _
    rw [sU_s]
    by_cases e : c = n
    · subst e; rw [pk_us]
    · rw [pk_un (by omega)]; exact zN_7s n (by omega) (by omega)
/-- a new empty replica -/
theorem mk_J {v : Nat} {u : Pst} {s0 f0 : Nat} (hs0 : s0 < 5) (hf0 : f0 < 4) (hJ : JJ v u) (he : ¬ u 2 f0 = 0) :
    JJ v (cq_mk u s0 f0) ∧ (∀ s, s < 5 → ∀ f, f < 4 → s * 4 + f ≠ s0 * 4 + f0 → Sm u (cq_mk u s0 f0) s f) ∧ Rp (cq_mk u s0 f0) s0 f0 true (nI 0) (fun _ => nI 0) ∧ ∀ k, k ≠ 5 → k ≠ 6 → k ≠ 7 → k ≠ 8 → k ≠ 9 → k ≠ 10 → cq_mk u s0 f0 k = u k := by
  obtain ⟨j, hj, eB, nb, nh, nU⟩ := new_J hs0 hf0 hJ.1 hJ.2.1
  have nJ : JJ v (cq_newS u s0 f0) := ⟨nb, nh, new_Jv hf0 hJ.2.2⟩
  have n5 : cq_newS u s0 f0 5 (s0 * 4 + f0) = nI (s0 * 4 + j) := by rw [new_5s, eB]
  have nS : ∀ s f, s * 4 + f ≠ s0 * 4 + f0 → Sm u (cq_newS u s0 f0) s f := fun s f h => new_Sm h
  have n2 : cq_newS u s0 f0 2 = u 2 := new_o (by decide) (by decide) (by decide)
  have n63 : cq_newS u s0 f0 6 (s0 * 4 + f0) = cq_newS u s0 f0 3 f0 := by rw [new_6s, new_o (by decide) (by decide) (by decide)]
  have no : ∀ k, k ≠ 5 → k ≠ 6 → k ≠ 10 → cq_newS u s0 f0 k = u k := fun k a b c => new_o a b c
  unfold cq_mk
  rw [eB]
  generalize cq_newS u s0 f0 = w at *
  have wcl : cl (w 5 (s0 * 4 + f0)) = s0 * 4 + j := by rw [n5]; exact fw_cl (by omega)
  have wps : ¬ w 5 (s0 * 4 + f0) < 0 := by rw [n5]; exact fw_pos (by omega)
  generalize hb : s0 * 4 + j = b at *
  have eo : ∀ k, k ≠ 7 → k ≠ 8 → sU (cq_zN w b 6) 8 b (nI 0) k = w k := fun k q7 q8 => by rw [sU_n q8, zN_o q7]
  have e7 : sU (cq_zN w b 6) 8 b (nI 0) 7 = cq_zN w b 6 7 := by rw [sU_n (by decide)]
  have e8 : ∀ p, sU (cq_zN w b 6) 8 b (nI 0) 8 p = if p = b then nI 0 else w 8 p := fun p => by
    rw [sU_s]
    by_cases e : p = b
    · rw [if_pos e, e, pk_us]
    · rw [if_neg e, pk_un e, zN_o (by decide)]
  generalize sU (cq_zN w b 6) 8 b (nI 0) = y at *
  have hBW := bw (u' := sU y 9 b (cq_sum y b)) nJ nU (fun k q7 q8 q9 => by rw [sU_n q9, eo k q7 q8]) (fun p hp => by rw [sU_n (by decide), e8, if_neg hp]) (fun p hp => by rw [sU_s, pk_un hp, eo 9 (by decide) (by decide)])
    (fun p x hp hx => by rw [sU_n (by decide), e7, zN_7 hp hx 6 (Nat.le_refl 6)])
  refine ⟨hBW.1, fun s hs f hf hne => (nS s f hne).tr (hBW.2 s hs f hf hne), ⟨?_, fun _ => ⟨?_, fun x hx => ?_⟩⟩, fun k q5 q6 q7 q8 q9 q10 => by rw [sU_n q9, eo k q7 q8, no k q5 q6 q10]⟩
  · have f5 : sU y 9 b (cq_sum y b) 5 = w 5 := by rw [sU_n (by decide), eo 5 (by decide) (by decide)]
    have f2 : sU y 9 b (cq_sum y b) 2 = w 2 := by rw [sU_n (by decide), eo 2 (by decide) (by decide)]
    have f6 : sU y 9 b (cq_sum y b) 6 = w 6 := by rw [sU_n (by decide), eo 6 (by decide) (by decide)]
    have f3 : sU y 9 b (cq_sum y b) 3 = w 3 := by rw [sU_n (by decide), eo 3 (by decide) (by decide)]
    rw [cur_iff, f5, f2, f6, f3, wcl]
    refine ⟨wps, by rw [n2]; exact he, n63, ?_⟩
    rw [sU_s, pk_us]
    exact sum_congr (by rw [sU_n (by decide)]) (fun _ _ => by rw [sU_n (by decide)])
  · unfold rl
    rw [sU_n (by decide), sU_n (by decide), eo 5 (by decide) (by decide), wcl, e8, if_pos rfl]
  · unfold rc
    rw [sU_n (by decide), sU_n (by decide), eo 5 (by decide) (by decide), wcl, e7]
    exact zN_7s 6 (Nat.le_refl 6) hx
/-- a replica copied from another server -/
theorem rep_J {v : Nat} {u : Pst} {s0 t0 f0 : Nat} {l : Int32} {cs : Nat → Int32} (hs0 : s0 < 5) (ht0 : t0 < 5) (hf0 : f0 < 4) (hne0 : t0 ≠ s0) (hJ : JJ v u) (hR : Rp u s0 f0 true l cs) :
    JJ v (cq_rep u f0 s0 t0) ∧ (∀ s, s < 5 → ∀ f, f < 4 → s * 4 + f ≠ t0 * 4 + f0 → Sm u (cq_rep u f0 s0 t0) s f) ∧ Rp (cq_rep u f0 s0 t0) t0 f0 true l cs ∧ ∀ k, k ≠ 5 → k ≠ 6 → k ≠ 7 → k ≠ 8 → k ≠ 9 → k ≠ 10 → cq_rep u f0 s0 t0 k = u k := by
  obtain ⟨j, hj, eB, nb, nh, nU⟩ := new_J ht0 hf0 hJ.1 hJ.2.1
  have nJ : JJ v (cq_newS u t0 f0) := ⟨nb, nh, new_Jv hf0 hJ.2.2⟩
  have n5 : cq_newS u t0 f0 5 (t0 * 4 + f0) = nI (t0 * 4 + j) := by rw [new_5s, eB]
  have nS : ∀ s f, s * 4 + f ≠ t0 * 4 + f0 → Sm u (cq_newS u t0 f0) s f := fun s f h => new_Sm h
  have n63 : cq_newS u t0 f0 6 (t0 * 4 + f0) = cq_newS u t0 f0 3 f0 := by rw [new_6s, new_o (by decide) (by decide) (by decide)]
  have no : ∀ k, k ≠ 5 → k ≠ 6 → k ≠ 10 → cq_newS u t0 f0 k = u k := fun k a b c => new_o a b c
  have hR1 := (nS s0 f0 (by omega)).rp hR
  unfold cq_rep
  rw [eB]
  generalize cq_newS u t0 f0 = w at *
  have wcl : cl (w 5 (t0 * 4 + f0)) = t0 * 4 + j := by rw [n5]; exact fw_cl (by omega)
  have wps : ¬ w 5 (t0 * 4 + f0) < 0 := by rw [n5]; exact fw_pos (by omega)
  obtain ⟨a1, a2, a3, a4⟩ := cur_iff.mp hR1.1
  have hne : cl (w 5 (s0 * 4 + f0)) ≠ t0 * 4 + j := Un_cl nb hs0 hf0 nU (by omega) a1
  have hrl : w 8 (cl (w 5 (s0 * 4 + f0))) = l := (hR1.2 rfl).1
  have hrc : ∀ x, x < 6 → w 7 (cl (w 5 (s0 * 4 + f0)) * 6 + x) = cs x := (hR1.2 rfl).2
  generalize cl (w 5 (s0 * 4 + f0)) = a at *
  have hBW := bw (u' := cq_cp w a (t0 * 4 + j)) nJ nU (fun k q7 q8 q9 => cp_o q7 q8 q9) (fun p hp => cp_8 hp) (fun p hp => cp_9 hp) (fun p x hp hx => cp_7 hp hx)
  refine ⟨hBW.1, fun s hs f hf hne => (nS s f hne).tr (hBW.2 s hs f hf hne), ⟨?_, fun _ => ⟨?_, fun x hx => ?_⟩⟩, fun k q5 q6 q7 q8 q9 q10 => by rw [cp_o q7 q8 q9, no k q5 q6 q10]⟩
  · rw [cur_iff, cp_5, wcl, cp_o (k := 2) (by decide) (by decide) (by decide), cp_o (k := 6) (by decide) (by decide) (by decide), cp_o (k := 3) (by decide) (by decide) (by decide), cp_9s, cp_sum hne]
    exact ⟨wps, a2, n63, a4⟩
  · unfold rl
    rw [cp_5, wcl, cp_8s]; exact hrl
  · unfold rc
    rw [cp_5, wcl, cp_7s hne hx]; exact hrc x hx
/-- a snapshot's share at one server -/
theorem sh_J {v : Nat} {u : Pst} {s0 f0 g0 : Nat} {l : Int32} {cs : Nat → Int32} (hs0 : s0 < 5) (hf0 : f0 < 4) (hg0 : g0 < 4) (hfg : f0 ≠ g0) (hJ : JJ v u) (he : ¬ u 2 g0 = 0) (hR : Rp u s0 f0 true l cs) :
    JJ v (cq_sh u s0 f0 g0) ∧ (∀ s, s < 5 → ∀ f, f < 4 → s * 4 + f ≠ s0 * 4 + g0 → Sm u (cq_sh u s0 f0 g0) s f) ∧ Rp (cq_sh u s0 f0 g0) s0 g0 true l cs ∧ ∀ k, k ≠ 5 → k ≠ 6 → k ≠ 10 → cq_sh u s0 f0 g0 k = u k := by
  obtain ⟨j0, hj0, h0⟩ := cur_j hs0 hf0 hJ hR.1
  obtain ⟨lb, lh⟩ := let_J hs0 hg0 hJ.1 hJ.2.1
  have l5 : cq_let u (s0 * 4 + g0) 5 (s0 * 4 + f0) = nI (s0 * 4 + j0) := by rw [let_5 (by omega)]; exact h0
  have hfields : ∀ k, k ≠ 5 → k ≠ 6 → k ≠ 10 → cq_sh u s0 f0 g0 k = u k := fun k q5 q6 q10 => by
    unfold cq_sh
    rw [sU_n q6, sU_n q5, sU_n q10, let_o q5 q10]
  have s6 : ∀ i, i ≠ s0 * 4 + g0 → cq_sh u s0 f0 g0 6 i = u 6 i := fun i hi => by
    unfold cq_sh
    rw [sU_s, pk_un hi, sU_n (by decide), sU_n (by decide), let_o (by decide) (by decide)]
  have s6s : cq_sh u s0 f0 g0 6 (s0 * 4 + g0) = u 3 g0 := by
    unfold cq_sh
    rw [sU_s, pk_us, sU_n (by decide), sU_n (by decide), let_o (by decide) (by decide)]
  have s5 : ∀ i, i ≠ s0 * 4 + g0 → cq_sh u s0 f0 g0 5 i = cq_let u (s0 * 4 + g0) 5 i := fun i hi => by rw [sh_5 hi, let_5 hi]
  have s5s : cq_sh u s0 f0 g0 5 (s0 * 4 + g0) = nI (s0 * 4 + j0) := by
    unfold cq_sh
    rw [sU_n (by decide), fw_5s]; exact l5
  have s10 : cq_sh u s0 f0 g0 10 = upd (cq_let u (s0 * 4 + g0) 10) (s0 * 4 + j0) (cq_let u (s0 * 4 + g0) 10 (s0 * 4 + j0) + nI 1) := by
    unfold cq_sh
    rw [sU_n (by decide), sU_n (by decide), sU_s, l5, show cl (nI (s0 * 4 + j0)) = s0 * 4 + j0 from fw_cl (by omega)]
  have ecl : cl (u 5 (s0 * 4 + f0)) = s0 * 4 + j0 := by rw [h0]; exact fw_cl (by omega)
  refine ⟨⟨Jb_5 lb hg0 s5 (Or.inr ⟨j0, hj0, s5s⟩), fun s hs j1 hj1 => ?_, ?_, fun i hi => ?_, ?_⟩, fun s hs f hf hne => ?_, ⟨?_, fun _ => ⟨?_, fun x hx => ?_⟩⟩, hfields⟩
  · rw [s10]
    by_cases e : s = s0
    · subst e
      have hu := hc_upd (u := cq_let u (s * 4 + g0)) (u' := cq_sh u s f0 g0) (s := s) (f0 := g0) (j := j1) hg0 (fun f hf => s5 _ (by omega))
      rw [let_5s, if_neg (m1_ne (by omega)), s5s] at hu
      by_cases ej : j1 = j0
      · subst ej
        rw [if_pos rfl] at hu
        rw [pk_us, lh s hs j1 hj1, nI_add]
        congr 1; omega
      · rw [if_neg (fun z => ej (by have := nI_inj20 (by omega) (by omega) z; omega))] at hu
        rw [pk_un (by omega), lh s hs j1 hj1]
        congr 1; omega
    · rw [pk_un (by omega), lh s hs j1 hj1]
      congr 1
      exact (hc_ne (fun f hf => s5 _ (by omega))).symm
  · rw [hfields 4 (by decide) (by decide) (by decide)]; exact hJ.2.2.1
  · by_cases e : i = s0 * 4 + g0
    · rw [e, s6s]; exact hJ.2.2.2.2 g0 hg0
    · rw [s6 i e]; exact hJ.2.2.2.1 i hi
  · rw [hfields 3 (by decide) (by decide) (by decide)]; exact hJ.2.2.2.2
  · refine Sm_fr (sh_5 hne) ?_ (s6 _ hne) ?_ (fun _ b _ => ?_)
    · rw [hfields 2 (by decide) (by decide) (by decide)]
    · rw [hfields 3 (by decide) (by decide) (by decide)]
    · rw [hfields 8 (by decide) (by decide) (by decide), hfields 9 (by decide) (by decide) (by decide), hfields 7 (by decide) (by decide) (by decide)]
      exact ⟨rfl, rfl, fun _ _ => rfl⟩
  · have a4 := (cur_iff.mp hR.1).2.2.2
    rw [ecl] at a4
    rw [cur_iff, s5s, s6s, hfields 2 (by decide) (by decide) (by decide), hfields 3 (by decide) (by decide) (by decide), hfields 9 (by decide) (by decide) (by decide), show cl (nI (s0 * 4 + j0)) = s0 * 4 + j0 from fw_cl (by omega)]
    refine ⟨fw_pos (by omega), he, rfl, ?_⟩
    rw [← a4]
    exact sum_congr (by rw [hfields 8 (by decide) (by decide) (by decide)]) (fun _ _ => by rw [hfields 7 (by decide) (by decide) (by decide)])
  · have := (hR.2 rfl).1
    unfold rl at this ⊢
    rw [s5s, hfields 8 (by decide) (by decide) (by decide), show cl (nI (s0 * 4 + j0)) = s0 * 4 + j0 from fw_cl (by omega)]
    rwa [ecl] at this
  · have := (hR.2 rfl).2 x hx
    unfold rc at this ⊢
    rw [s5s, hfields 7 (by decide) (by decide) (by decide), show cl (nI (s0 * 4 + j0)) = s0 * 4 + j0 from fw_cl (by omega)]
    rwa [ecl] at this
-- damage
theorem mulP {a b : Int32} (h : a * 16777619 = b * 16777619) : a = b := by
  have e : (16777619 : Int32) * 899433627 = 1 := by decide
  have := congrArg (· * (899433627 : Int32)) h
  simp only [Int32.mul_assoc, e, Int32.mul_one] at this
  exact this
theorem xor1 (x : Int32) : x ^^^ nI 1 ≠ x := by
  intro h
  have := congrArg (x ^^^ ·) h
  simp only [← Int32.xor_assoc, Int32.xor_self, Int32.zero_xor] at this
  exact absurd this (by decide)
theorem addR {a b c : Int32} (h : a + c = b + c) : a = b := by
  have := congrArg (· - c) h
  simpa using this
theorem sum_dmg {u u' : Pst} {b : Nat} (h8 : u' 8 b = u 8 b) (h0 : u' 7 (b * 6) = u 7 (b * 6) ^^^ nI 1) (h7 : ∀ c, 1 ≤ c → c < 6 → u' 7 (b * 6 + c) = u 7 (b * 6 + c)) : cq_sum u' b ≠ cq_sum u b := by
  have key : ∀ n, n ≤ 5 → cq_sumN u' b (n + 1) ≠ cq_sumN u b (n + 1) := by
    intro n
    induction n with
    | zero =>
      intro _ h
      simp only [cq_sumN, h8, Nat.add_zero, h0] at h
      exact xor1 (u 7 (b * 6)) (addR (c := (nI 29 + u 8 b) * 16777619) (by rw [Int32.add_comm, h, Int32.add_comm]))
    | succ n ih =>
      intro hn h
      have e : ∀ w : Pst, cq_sumN w b (n + 1 + 1) = cq_sumN w b (n + 1) * 16777619 + w 7 (b * 6 + (n + 1)) := fun _ => rfl
      rw [e, e, h7 (n + 1) (by omega) (by omega)] at h
      exact ih (by omega) (mulP (addR h))
  exact key 5 (Nat.le_refl 5)
theorem dmg_J {v : Nat} {u : Pst} {s0 f0 j0 : Nat} (hs0 : s0 < 5) (hf0 : f0 < 4) (hj0 : j0 < 4) (hJ : JJ v u) (h0 : u 5 (s0 * 4 + f0) = nI (s0 * 4 + j0)) (hcur : cq_cur u s0 f0 = true) :
    JJ v (cq_dmg u s0 f0 (s0 * 4 + j0)) ∧ (∀ s, s < 5 → ∀ f, f < 4 → s * 4 + f ≠ s0 * 4 + f0 → Sm u (cq_dmg u s0 f0 (s0 * 4 + j0)) s f) ∧ cq_cur (cq_dmg u s0 f0 (s0 * 4 + j0)) s0 f0 = false ∧ ∀ k, k ≠ 5 → k ≠ 7 → k ≠ 8 → k ≠ 9 → k ≠ 10 → cq_dmg u s0 f0 (s0 * 4 + j0) k = u k := by
  obtain ⟨j, hj, eB, ob, oh, oU, o5, oS⟩ := own_J hs0 hf0 hj0 hJ.1 hJ.2.1 h0
  have oJ : JJ v (cq_ownS u s0 (s0 * 4 + f0) (s0 * 4 + j0)) := ⟨ob, oh, own_Jv hJ.2.2⟩
  have oo : ∀ k, k ≠ 5 → k ≠ 10 → k ≠ 7 → k ≠ 8 → k ≠ 9 → cq_ownS u s0 (s0 * 4 + f0) (s0 * 4 + j0) k = u k := fun k a b c d e => own_o a b c d e
  have hc1 := (oS s0 hs0 f0 hf0).1.trans hcur
  unfold cq_dmg
  rw [eB]
  generalize cq_ownS u s0 (s0 * 4 + f0) (s0 * 4 + j0) = w at *
  have wcl : cl (w 5 (s0 * 4 + f0)) = s0 * 4 + j := by rw [o5]; exact fw_cl (by omega)
  generalize hb : s0 * 4 + j = b at *
  have hBW := bw (u' := sU w 7 (b * 6) (w 7 (b * 6) ^^^ nI 1)) oJ oU (fun k q7 q8 q9 => by rw [sU_n q7]) (fun p hp => by rw [sU_n (by decide)]) (fun p hp => by rw [sU_n (by decide)]) (fun p x hp hx => by rw [sU_s, pk_un (by omega)])
  refine ⟨hBW.1, fun s hs f hf hne => (oS s hs f hf).tr (hBW.2 s hs f hf hne), ?_, fun k q5 q7 q8 q9 q10 => by rw [sU_n q7, oo k q5 q10 q7 q8 q9]⟩
  have a4 := (cur_iff.mp hc1).2.2.2
  rw [wcl] at a4
  refine Bool.eq_false_iff.mpr (fun z => ?_)
  have b4 := (cur_iff.mp z).2.2.2
  rw [sU_n (by decide), sU_n (by decide), wcl, ← a4] at b4
  exact sum_dmg (by rw [sU_n (by decide)]) (by rw [sU_s, pk_us]) (fun c h1 h6 => by rw [sU_s, pk_un (by omega)]) b4
end
section
/-! THE PLAIN LAW, fourth part: the relation of the two states -/
def Rl (k v : Nat) (u t : Pst) : Prop := (u 0 0 = nI k ∧ t 0 0 = nI k) ∧ JJ v u ∧ (∀ s, s < 5 → (u 1 s = 0 ∧ t 1 s = 1) ∨ (u 1 s = 1 ∧ t 1 s = 0)) ∧ (∀ f, f < 4 → u 2 f = t 2 f) ∧ (∀ i, i < 20 → t 5 i = 0 ∨ t 5 i = 1) ∧ (∀ s, s < 5 → ∀ f, f < 4 → Rp u s f (mq_c t f s) (t 3 f) (fun c => t 4 (f * 6 + c))) ∧ ∀ f, f < 4 → ∃ n, n ≤ 6 ∧ t 3 f = nI n
section RL
variable {k v : Nat} {u t : Pst}
theorem Rl.bi (h : Rl k v u t) : BI k u := Jb_BI h.1.1 h.2.1.1
theorem Rl.bm (h : Rl k v u t) : BM k t := ⟨h.1.2, h.2.2.2.2.1⟩
theorem Rl.J (h : Rl k v u t) : JJ v u := h.2.1
theorem Rl.ex (h : Rl k v u t) {f : Nat} (hf : f < 4) : u 2 f = t 2 f := h.2.2.2.1 f hf
theorem Rl.rp (h : Rl k v u t) {s f : Nat} (hs : s < 5) (hf : f < 4) : Rp u s f (mq_c t f s) (t 3 f) (fun c => t 4 (f * 6 + c)) := h.2.2.2.2.2.1 s hs f hf
theorem Rl.cur (h : Rl k v u t) {s f : Nat} (hs : s < 5) (hf : f < 4) : cq_cur u s f = mq_c t f s := (h.rp hs hf).1
theorem Rl.len (h : Rl k v u t) {f : Nat} (hf : f < 4) : ∃ n, n ≤ 6 ∧ t 3 f = nI n := h.2.2.2.2.2.2 f hf
theorem Rl.up (h : Rl k v u t) {s : Nat} (hs : s < 5) : cq_up u s = !mq_dn t s := by
  rcases h.2.2.1 s hs with ⟨a, b⟩ | ⟨a, b⟩
  · simp [cq_up, mq_dn, a, b]
  · simp [cq_up, mq_dn, a, b]
theorem Rl.ld (h : Rl k v u t) {s : Nat} (hs : s < 5) : cq_ld u s = mq_ld t s := cnt_congr 4 (fun f hf => h.cur hs hf)
theorem Rl.set (h : Rl k v u t) {f : Nat} (hf : f < 4) : cq_set u f = mk5 (mq_c t f) 5 := mk5_congr 5 (fun s hs => h.cur hs hf)
theorem Rl.ups (h : Rl k v u t) : cq_ups u = mk5 (fun s => !mq_dn t s) 5 := mk5_congr 5 (fun s hs => h.up hs)
theorem Rl.src (h : Rl k v u t) {f : Nat} (hf : f < 4) : cq_src u f = fi5 (fun s => mq_c t f s && !mq_dn t s) 5 := fi5_congr 5 (fun s hs => by rw [h.cur hs hf, h.up hs, Bool.and_comm])
end RL
theorem fi5_cnt {P : Nat → Bool} : ∀ n, fi5 P n = none ↔ cnt P n = 0
  | 0 => by simp [fi5, cnt]
  | n + 1 => by
    have ih := fi5_cnt (P := P) n
    simp only [fi5, cnt]
    cases hf : fi5 P n with
    | some b =>
      have : ¬ cnt P n = 0 := fun z => by rw [ih.mpr z] at hf; cases hf
      constructor
      · intro h; cases h
      · intro h; omega
    | none =>
      have z := ih.mp hf
      rw [z]
      cases hp : P n <;> simp
theorem Rl.src_none {k v : Nat} {u t : Pst} (h : Rl k v u t) {f : Nat} (hf : f < 4) : cq_src u f = none ↔ mq_hu t f = 0 := by rw [h.src hf]; exact fi5_cnt 5
theorem Rl.no {k v : Nat} {u t : Pst} (h : Rl k v u t) {s f : Nat} (hs : s < 5) (hf : f < 4) (he : t 2 f = 0) : cq_cur u s f = false := by
  have : u 2 f = 0 := by rw [h.ex hf]; exact he
  simp [cq_cur, this]
theorem mqc_z {t : Pst} {f s : Nat} : mq_c t f s = false ↔ t 5 (f * 5 + s) = 0 := by simp [mq_c]
-- masks are predicates
def mB (a b c d e : Bool) : Nat := (if a then 1 else 0) + (if b then 2 else 0) + (if c then 4 else 0) + (if d then 8 else 0) + (if e then 16 else 0)
theorem mk5_B (P : Nat → Bool) : mk5 P 5 = mB (P 0) (P 1) (P 2) (P 3) (P 4) := by
  simp [mk5, mB]
def fB (x : Nat) : Bool := decide (x % 2 = 1)
theorem mB_of (a b c d e : Bool) : ∃ x, x < 32 ∧ a = fB x ∧ b = fB (x / 2) ∧ c = fB (x / 4) ∧ d = fB (x / 8) ∧ e = fB (x / 16) := by
  refine ⟨mB a b c d e, ?_⟩
  cases a <;> cases b <;> cases c <;> cases d <;> cases e <;> decide
def aB (x : Nat) : Nat := mB (fB x) (fB (x / 2)) (fB (x / 4)) (fB (x / 8)) (fB (x / 16))
theorem andA : ∀ x, x < 32 → ∀ y, y < 32 → aB x &&& aB y = mB (fB x && fB y) (fB (x / 2) && fB (y / 2)) (fB (x / 4) && fB (y / 4)) (fB (x / 8) && fB (y / 8)) (fB (x / 16) && fB (y / 16)) := by decide +kernel
theorem andnA : ∀ x, x < 32 → ∀ y, y < 32 → aB x &&& (31 ^^^ aB y) = mB (fB x && !fB y) (fB (x / 2) && !fB (y / 2)) (fB (x / 4) && !fB (y / 4)) (fB (x / 8) && !fB (y / 8)) (fB (x / 16) && !fB (y / 16)) := by decide +kernel
theorem mk5_and (P Q : Nat → Bool) : mk5 P 5 &&& mk5 Q 5 = mk5 (fun s => P s && Q s) 5 := by
  rw [mk5_B, mk5_B, mk5_B]
  obtain ⟨x, hx, a0, a1, a2, a3, a4⟩ := mB_of (P 0) (P 1) (P 2) (P 3) (P 4)
  obtain ⟨y, hy, b0, b1, b2, b3, b4⟩ := mB_of (Q 0) (Q 1) (Q 2) (Q 3) (Q 4)
  rw [a0, a1, a2, a3, a4, b0, b1, b2, b3, b4]
  exact andA x hx y hy
theorem mk5_andn (P Q : Nat → Bool) : mk5 P 5 &&& (31 ^^^ mk5 Q 5) = mk5 (fun s => P s && !Q s) 5 := by
  rw [mk5_B, mk5_B, mk5_B]
  obtain ⟨x, hx, a0, a1, a2, a3, a4⟩ := mB_of (P 0) (P 1) (P 2) (P 3) (P 4)
  obtain ⟨y, hy, b0, b1, b2, b3, b4⟩ := mB_of (Q 0) (Q 1) (Q 2) (Q 3) (Q 4)
  rw [a0, a1, a2, a3, a4, b0, b1, b2, b3, b4]
  exact andnA x hx y hy
theorem pc5_mk (P : Nat → Bool) : pc5 (mk5 P 5) 5 = cnt P 5 := by
  have h0 := mk5_bit (P := P) (s := 0) 5 (by decide)
  have h1 := mk5_bit (P := P) (s := 1) 5 (by decide)
  have h2 := mk5_bit (P := P) (s := 2) 5 (by decide)
  have h3 := mk5_bit (P := P) (s := 3) 5 (by decide)
  have h4 := mk5_bit (P := P) (s := 4) 5 (by decide)
  simp only [pc5, cnt, h0, h1, h2, h3, h4]
theorem bt5_mk {P : Nat → Bool} {s : Nat} (hs : s < 5) : bt5 (mk5 P 5) s = P s := by
  unfold bt5
  rw [mk5_bit 5 hs]
  cases P s <;> simp
theorem mk5_0 {P : Nat → Bool} : mk5 P 5 = 0 ↔ ∀ s, s < 5 → P s = false := by
  constructor
  · intro h s hs
    have := mk5_bit (P := P) 5 hs
    rw [h, Nat.zero_div, Nat.zero_mod] at this
    by_cases q : P s = true
    · simp [q] at this
    · simpa using q
  · intro h
    rw [mk5_congr (Q := fun _ => false) 5 h]
    rfl
theorem mk5_del {P : Nat → Bool} {s : Nat} (hs : s < 5) (h : P s = true) : mk5 P 5 - 2 ^ s = mk5 (fun x => P x && !decide (x = s)) 5 := by
  rw [mk5_B, mk5_B]
  have : s = 0 ∨ s = 1 ∨ s = 2 ∨ s = 3 ∨ s = 4 := by omega
  rcases this with rfl | rfl | rfl | rfl | rfl <;> simp only [mB, h] <;> simp <;> omega
theorem fst_P {k v : Nat} {u t : Pst} (h : Rl k v u t) (P : Nat → Bool) : cq_fst u (mk5 P 5) = fst5 P (mq_ld t) 5 := fst5_congr 5 (fun s hs => bt5_mk hs) (fun s hs => h.ld hs)
/-- the next server is the same -/
theorem Rl.nx {k v : Nat} {u t : Pst} (h : Rl k v u t) {f : Nat} (hf : f < 4) : cq_fst u (cq_ups u &&& (31 ^^^ cq_set u f)) = mq_nx t f := by
  rw [h.ups, h.set hf, mk5_andn, fst_P h]
  rfl
theorem Rl.hu {k v : Nat} {u t : Pst} (h : Rl k v u t) {f : Nat} (hf : f < 4) : pc5 (cq_ups u &&& cq_set u f) 5 = mq_hu t f := by
  rw [h.ups, h.set hf, mk5_and, pc5_mk]
  exact cnt_congr 5 (fun s hs => by rw [Bool.and_comm])
theorem Rl.live {k v : Nat} {u t : Pst} (h : Rl k v u t) {f : Nat} (hf : f < 4) : cq_live u f = mk5 (fun s => mq_c t f s && !mq_dn t s) 5 := by
  unfold cq_live
  rw [h.ups, h.set hf, mk5_and]
/-- one operation: both answer r, and the states are in relation again -/
def Op (k v : Nat) (mc mm : Pst → Int32 → Pst → Prop) (u t : Pst) : Prop := ∃ (r : Int32) (u' t' : Pst) (v' : Nat), v' ≤ v + 1 ∧ mc u r u' ∧ mm t r t' ∧ Rl k v' u' t'
theorem Op.same {k v : Nat} {mc mm : Pst → Int32 → Pst → Prop} {u t : Pst} (R : Rl k v u t) (r : Int32) (h1 : mc u r u) (h2 : mm t r t) : Op k v mc mm u t := ⟨r, u, t, v, by omega, h1, h2, R⟩
theorem ix4 (x : Int32) : (x < 0 ∨ nI 4 ≤ x) ∨ ∃ j, j < 4 ∧ x = nI j := by
  rcases pk_ix x (n := 4) (by decide) with h | h | h
  · exact Or.inl (Or.inl h)
  · exact Or.inl (Or.inr h)
  · exact Or.inr h
theorem ix5 (x : Int32) : (x < 0 ∨ nI 5 ≤ x) ∨ ∃ j, j < 5 ∧ x = nI j := by
  rcases pk_ix x (n := 5) (by decide) with h | h | h
  · exact Or.inl (Or.inl h)
  · exact Or.inl (Or.inr h)
  · exact Or.inr h
theorem ix6 (x : Int32) : (x < 0 ∨ nI 6 ≤ x) ∨ ∃ j, j < 6 ∧ x = nI j := by
  rcases pk_ix x (n := 6) (by decide) with h | h | h
  · exact Or.inl (Or.inl h)
  · exact Or.inl (Or.inr h)
  · exact Or.inr h
-- the operations that change nothing
section OPS
variable {k v : Nat} {u t : Pst}
theorem op_replicas (R : Rl k v u t) (x : Int32) : Op k v (fun u r u' => mIC yX1_replicas cX1_replicas 2 .int 3 [.int x] u r u') (fun t r t' => mIM yX2_replicas cX2_replicas 4 .int 1 [.int x] t r t') u t := by
  rcases ix4 x with hx | ⟨f, hf, rfl⟩
  · exact Op.same R _ (m_replicas_bad u x hx) (w_replicas_bad t x hx)
  · by_cases he : t 2 f = 0
    · exact Op.same R _ (m_replicas_no u f hf (by rw [R.ex hf]; exact he)) (w_replicas_no t f hf he)
    · have h1 := m_replicas_ok u f k hf R.bi (by rw [R.ex hf]; exact he)
      rw [R.set hf] at h1
      exact Op.same R _ h1 (w_replicas_ok t f hf he)
theorem src_or (R : Rl k v u t) {f : Nat} (hf : f < 4) : (cq_src u f = none ∧ mq_hu t f = 0) ∨ ∃ s j, s < 5 ∧ cq_src u f = some s ∧ mq_hu t f ≠ 0 ∧ cq_cur u s f = true ∧ j < 4 ∧ u 5 (s * 4 + f) = nI (s * 4 + j) ∧ u 8 (s * 4 + j) = t 3 f ∧ ∀ c, c < 6 → u 7 ((s * 4 + j) * 6 + c) = t 4 (f * 6 + c) := by
  cases hn : cq_src u f with
  | none => exact Or.inl ⟨rfl, (R.src_none hf).mp hn⟩
  | some s =>
    refine Or.inr ?_
    obtain ⟨hs, hp⟩ := fi5_lt 5 s hn
    simp only [Bool.and_eq_true] at hp
    obtain ⟨j, hj, e⟩ := cur_j hs hf R.J hp.2
    have hr := R.rp hs hf
    have hc : mq_c t f s = true := by rw [← R.cur hs hf]; exact hp.2
    have ecl : cl (u 5 (s * 4 + f)) = s * 4 + j := by rw [e]; exact fw_cl (by omega)
    have h8 := (hr.2 hc).1
    have h7 := (hr.2 hc).2
    unfold rl at h8
    unfold rc at h7
    rw [ecl] at h8
    rw [ecl] at h7
    refine ⟨s, j, hs, rfl, fun z => ?_, hp.2, hj, e, h8, h7⟩
    rw [(R.src_none hf).mpr z] at hn
    cases hn
theorem op_length (R : Rl k v u t) (x : Int32) : Op k v (fun u r u' => mIC yX1_length cX1_length 4 .int 4 [.int x] u r u') (fun t r t' => mIM yX2_length cX2_length 3 .int 2 [.int x] t r t') u t := by
  rcases ix4 x with hx | ⟨f, hf, rfl⟩
  · exact Op.same R _ (m_length_bad u x hx) (w_length_bad t x hx)
  · by_cases he : t 2 f = 0
    · exact Op.same R _ (m_length_no u f hf (by rw [R.ex hf]; exact he)) (w_length_no t f hf he)
    · have he' : ¬ u 2 f = 0 := by rw [R.ex hf]; exact he
      rcases src_or R hf with ⟨h1, h2⟩ | ⟨s, j, hs, h1, h2, -, hj, h5, h8, -⟩
      · exact Op.same R _ (m_length_un u f k hf R.bi he' h1) (w_length_un t f hf he h2)
      · have q := m_length_ok u f k s hf R.bi he' h1 (s * 4 + j) (by omega) h5
        rw [h8] at q
        exact Op.same R _ q (w_length_ok t f hf he h2)
theorem op_read (R : Rl k v u t) (x y : Int32) : Op k v (fun u r u' => mIC yX1_read cX1_read 5 .int 4 [.int x, .int y] u r u') (fun t r t' => mIM yX2_read cX2_read 4 .int 2 [.int x, .int y] t r t') u t := by
  rcases ix4 x with hx | ⟨f, hf, rfl⟩
  · exact Op.same R _ (m_read_bad u x hx y) (w_read_bad t x hx y)
  · by_cases he : t 2 f = 0
    · exact Op.same R _ (m_read_no u f hf (by rw [R.ex hf]; exact he) y) (w_read_no t f hf he y)
    · have he' : ¬ u 2 f = 0 := by rw [R.ex hf]; exact he
      rcases src_or R hf with ⟨h1, h2⟩ | ⟨s, j, hs, h1, h2, -, hj, h5, h8, h7⟩
      · exact Op.same R _ (m_read_un u f k hf R.bi he' h1 y) (w_read_un t f hf he h2 y)
      · rcases ix6 y with hy | ⟨c, hc, rfl⟩
        · exact Op.same R _ (m_read_bc u f k s hf R.bi he' h1 y hy) (w_read_bc t f hf he h2 y hy)
        · have q := m_read_ok u f k s hf R.bi he' h1 (s * 4 + j) (by omega) h5 c hc
          rw [h7 c hc] at q
          exact Op.same R _ q (w_read_ok t f hf he h2 c hc)
end OPS
end
section
/-! THE PLAIN LAW, fifth part: servers, remove, damage -/
theorem Sm_ff {u u' : Pst} {s f : Nat} (h1 : cq_cur u s f = false) (h2 : cq_cur u' s f = false) : Sm u u' s f := ⟨h2.trans h1.symm, fun h => by rw [h1] at h; cases h⟩
/-- a change of fields that no replica reads -/
theorem Sm_o {u u' : Pst} {s f : Nat} (h : ∀ k, k ≠ 0 → k ≠ 1 → k ≠ 4 → k ≠ 10 → u' k = u k) : Sm u u' s f := by
  have e : ∀ k, k ≠ 0 → k ≠ 1 → k ≠ 4 → k ≠ 10 → u' k = u k := h
  refine Sm_fr (by rw [e 5 (by decide) (by decide) (by decide) (by decide)]) (by rw [e 2 (by decide) (by decide) (by decide) (by decide)]) (by rw [e 6 (by decide) (by decide) (by decide) (by decide)]) (by rw [e 3 (by decide) (by decide) (by decide) (by decide)]) (fun _ b _ => ?_)
  rw [e 8 (by decide) (by decide) (by decide) (by decide), e 9 (by decide) (by decide) (by decide) (by decide), e 7 (by decide) (by decide) (by decide) (by decide)]
  exact ⟨rfl, rfl, fun _ _ => rfl⟩
theorem JJ_o {v : Nat} {u u' : Pst} (hJ : JJ v u) (h5 : u' 5 = u 5) (h10 : u' 10 = u 10) (h4 : u' 4 = u 4) (h6 : u' 6 = u 6) (h3 : u' 3 = u 3) : JJ v u' := by
  obtain ⟨a, b⟩ := J_keep h5 h10 hJ.1 hJ.2.1
  exact ⟨a, b, Jv_o hJ.2.2 h4 h6 h3⟩
theorem let_JJ {v : Nat} {u : Pst} {s f : Nat} (hs : s < 5) (hf : f < 4) (hJ : JJ v u) : JJ v (cq_let u (s * 4 + f)) := by
  obtain ⟨a, b⟩ := let_J hs hf hJ.1 hJ.2.1
  exact ⟨a, b, Jv_o hJ.2.2 (let_o (by decide) (by decide)) (let_o (by decide) (by decide)) (let_o (by decide) (by decide))⟩
section OPE
variable {k v : Nat} {u t : Pst}
/-- the model's state where only 'down' has changed -/
theorem Rl_dn (R : Rl k v u t) {u' : Pst} {s0 : Nat} {a b : Int32} (hs0 : s0 < 5) (hab : (a = 0 ∧ b = 1) ∨ (a = 1 ∧ b = 0)) (hJ : JJ v u') (h0 : u' 0 = u 0) (h1 : u' 1 = upd (u 1) s0 a) (h2 : u' 2 = u 2) (hS : ∀ s, s < 5 → ∀ f, f < 4 → Sm u u' s f) : Rl k v u' (sU t 1 s0 b) := by
  have tc : ∀ f s, mq_c (sU t 1 s0 b) f s = mq_c t f s := fun f s => by unfold mq_c; rw [sU_n (by decide)]
  refine ⟨⟨by rw [h0]; exact R.1.1, by rw [sU_n (by decide)]; exact R.1.2⟩, hJ, fun s hs => ?_, fun f hf => ?_, fun i hi => ?_, fun s hs f hf => ?_, fun f hf => ?_⟩
  · rw [h1, sU_s]
    by_cases e : s = s0
    · subst e; rw [pk_us, pk_us]; exact hab
    · rw [pk_un e, pk_un e]; exact R.2.2.1 s hs
  · rw [h2, sU_n (by decide)]; exact R.ex hf
  · rw [sU_n (by decide)]; exact R.2.2.2.2.1 i hi
  · rw [tc, sU_n (by decide), sU_n (by decide)]
    exact (hS s hs f hf).rp (R.rp hs hf)
  · rw [sU_n (by decide)]; exact R.len hf
theorem op_crash (R : Rl k v u t) (x : Int32) : Op k v (fun u r u' => mIC yX1_crash cX1_crash 3 .int 1 [.int x] u r u') (fun t r t' => mIM yX2_crash cX2_crash 3 .int 1 [.int x] t r t') u t := by
  rcases ix5 x with hx | ⟨s, hs, rfl⟩
  · exact Op.same R _ (m_crash_bad u x hx) (w_crash_bad t x hx)
  · have R' : Rl k v (sU u 1 s (nI 0)) (sU t 1 s (nI 1)) := Rl_dn R hs (Or.inl ⟨rfl, rfl⟩) (JJ_o R.J (by rw [sU_n (by decide)]) (by rw [sU_n (by decide)]) (by rw [sU_n (by decide)]) (by rw [sU_n (by decide)]) (by rw [sU_n (by decide)])) (by rw [sU_n (by decide)]) (by rw [sU_s]; rfl) (by rw [sU_n (by decide)])
      (fun _ _ _ _ => Sm_o (fun k _ q _ _ => by rw [sU_n q]))
    rcases R.2.2.1 s hs with ⟨a, b⟩ | ⟨a, b⟩
    · exact ⟨0, _, _, v, by omega, m_crash_dn u s hs a, w_crash_dn t s hs (by rw [b]; decide), R'⟩
    · exact ⟨1, _, _, v, by omega, m_crash_up u s hs (by rw [a]; decide), w_crash_up t s hs b, R'⟩
theorem rsN_J {s0 : Nat} (hs0 : s0 < 5) (hJ : JJ v u) : ∀ n, n ≤ 4 → JJ v (cq_rsN u s0 n) ∧ (∀ k, k ≠ 5 → k ≠ 10 → cq_rsN u s0 n k = u k) ∧ ∀ s, s < 5 → ∀ f, f < 4 → Sm u (cq_rsN u s0 n) s f
  | 0, _ => ⟨hJ, fun _ _ _ => rfl, fun _ _ _ _ => Sm.rf⟩
  | n + 1, hn => by
    obtain ⟨i1, i2, i3⟩ := rsN_J hs0 hJ n (by omega)
    have go : cq_cur (cq_rsN u s0 n) s0 n = false → JJ v (cq_let (cq_rsN u s0 n) (s0 * 4 + n)) ∧ (∀ k, k ≠ 5 → k ≠ 10 → cq_let (cq_rsN u s0 n) (s0 * 4 + n) k = u k) ∧ ∀ s, s < 5 → ∀ f, f < 4 → Sm u (cq_let (cq_rsN u s0 n) (s0 * 4 + n)) s f := by
      intro hc
      refine ⟨let_JJ hs0 (by omega) i1, fun k a b => by rw [let_o a b, i2 k a b], fun s hs f hf => (i3 s hs f hf).tr ?_⟩
      by_cases e : s * 4 + f = s0 * 4 + n
      · obtain rfl : s = s0 := by omega
        obtain rfl : f = n := by omega
        exact Sm_ff hc let_cur
      · exact let_Sm e
    simp only [cq_rsN]
    split
    · next h2 => exact go (by simp [cq_cur, h2])
    · next h2 =>
      split
      · exact ⟨i1, i2, i3⟩
      · next h6 => exact go (by simp [cq_cur, h6])
theorem op_restart (R : Rl k v u t) (x : Int32) : Op k v (fun u r u' => mIC yX1_restart cX1_restart 4 .int 1 [.int x] u r u') (fun t r t' => mIM yX2_restart cX2_restart 3 .int 1 [.int x] t r t') u t := by
  rcases ix5 x with hx | ⟨s, hs, rfl⟩
  · exact Op.same R _ (m_restart_bad u x hx) (w_restart_bad t x hx)
  · have J0 : JJ v (sU u 1 s (nI 1)) := JJ_o R.J (by rw [sU_n (by decide)]) (by rw [sU_n (by decide)]) (by rw [sU_n (by decide)]) (by rw [sU_n (by decide)]) (by rw [sU_n (by decide)])
    obtain ⟨j1, j2, j3⟩ := rsN_J hs J0 4 (Nat.le_refl 4)
    have R' : Rl k v (cq_rsN (sU u 1 s (nI 1)) s 4) (sU t 1 s (nI 0)) := Rl_dn R hs (Or.inr ⟨rfl, rfl⟩) j1 (by rw [j2 0 (by decide) (by decide), sU_n (by decide)]) (by rw [j2 1 (by decide) (by decide), sU_s]; rfl) (by rw [j2 2 (by decide) (by decide), sU_n (by decide)])
      (fun a ha b hb => (Sm_o (fun k _ q _ _ => by rw [sU_n q])).tr (j3 a ha b hb))
    rcases R.2.2.1 s hs with ⟨a, b⟩ | ⟨a, b⟩
    · exact ⟨1, _, _, v, by omega, m_restart_dn u s k hs R.bi a, w_restart_dn t s hs (by rw [b]; decide), R'⟩
    · exact ⟨0, _, _, v, by omega, m_restart_up u s k hs R.bi (by rw [a]; decide), w_restart_up t s hs b, R'⟩
/-- the model's state where only 'current' has changed -/
theorem Rl_cur (R : Rl k v u t) {u' t' : Pst} (hJ : JJ v u') (hu : ∀ k, k = 0 ∨ k = 1 ∨ k = 2 → u' k = u k) (ht : ∀ k, k ≠ 5 → t' k = t k) (h5 : ∀ i, i < 20 → t' 5 i = 0 ∨ t' 5 i = 1) (hR : ∀ s, s < 5 → ∀ f, f < 4 → Rp u' s f (mq_c t' f s) (t 3 f) (fun c => t 4 (f * 6 + c))) : Rl k v u' t' := by
  refine ⟨⟨by rw [hu 0 (Or.inl rfl)]; exact R.1.1, by rw [ht 0 (by decide)]; exact R.1.2⟩, hJ, fun s hs => ?_, fun f hf => ?_, h5, fun s hs f hf => ?_, fun f hf => ?_⟩
  · rw [hu 1 (Or.inr (Or.inl rfl)), ht 1 (by decide)]; exact R.2.2.1 s hs
  · rw [hu 2 (Or.inr (Or.inr rfl)), ht 2 (by decide)]; exact R.ex hf
  · rw [ht 3 (by decide), ht 4 (by decide)]; exact hR s hs f hf
  · rw [ht 3 (by decide)]; exact R.len hf
theorem ldN_J {s0 : Nat} (hs0 : s0 < 5) (hJ : JJ v u) : ∀ n, n ≤ 4 → JJ v (cq_ldN u s0 n) ∧ (∀ k, k ≠ 5 → k ≠ 10 → cq_ldN u s0 n k = u k) ∧ ∀ s, s < 5 → ∀ f, f < 4 → (s ≠ s0 ∨ n ≤ f → Sm u (cq_ldN u s0 n) s f) ∧ (s = s0 ∧ f < n → cq_cur (cq_ldN u s0 n) s f = false)
  | 0, _ => ⟨hJ, fun _ _ _ => rfl, fun _ _ _ _ => ⟨fun _ => Sm.rf, fun h => absurd h.2 (by omega)⟩⟩
  | n + 1, hn => by
    obtain ⟨i1, i2, i3⟩ := ldN_J hs0 hJ n (by omega)
    show JJ v (cq_let (cq_ldN u s0 n) (s0 * 4 + n)) ∧ (∀ k, k ≠ 5 → k ≠ 10 → cq_let (cq_ldN u s0 n) (s0 * 4 + n) k = u k) ∧ ∀ s, s < 5 → ∀ f, f < 4 → (s ≠ s0 ∨ n + 1 ≤ f → Sm u (cq_let (cq_ldN u s0 n) (s0 * 4 + n)) s f) ∧ (s = s0 ∧ f < n + 1 → cq_cur (cq_let (cq_ldN u s0 n) (s0 * 4 + n)) s f = false)
    refine ⟨let_JJ hs0 (by omega) i1, fun k a b => by rw [let_o a b, i2 k a b], fun s hs f hf => ⟨fun h => ?_, fun h => ?_⟩⟩
    · exact ((i3 s hs f hf).1 (by omega)).tr (let_Sm (by omega))
    · obtain ⟨rfl, h2⟩ := h
      by_cases e : f = n
      · subst e; exact let_cur
      · rw [(let_Sm (u := cq_ldN u s n) (s0 := s) (f0 := n) (s := s) (f := f) (by omega)).1]
        exact (i3 s hs f hf).2 ⟨rfl, by omega⟩
theorem loN_o {s0 : Nat} {k : Nat} (hk : k ≠ 5) : ∀ n, mq_loN t s0 n k = t k
  | 0 => rfl
  | n + 1 => by
    show sU (mq_loN t s0 n) 5 _ _ k = _
    rw [sU_n hk]; exact loN_o hk n
theorem loN_5 {s0 : Nat} : ∀ n i, mq_loN t s0 n 5 i = if ∃ m, m < n ∧ i = m * 5 + s0 then 0 else t 5 i
  | 0, i => by rw [if_neg (fun ⟨m, h, _⟩ => by omega)]; rfl
  | n + 1, i => by
    show sU (mq_loN t s0 n) 5 (n * 5 + s0) (nI 0) 5 i = _
    rw [sU_s]
    by_cases e : i = n * 5 + s0
    · rw [e, pk_us, if_pos ⟨n, by omega, rfl⟩]; rfl
    · rw [pk_un e, loN_5 n i]
      by_cases q : ∃ m, m < n ∧ i = m * 5 + s0
      · obtain ⟨m, h1, h2⟩ := q
        rw [if_pos ⟨m, h1, h2⟩, if_pos ⟨m, by omega, h2⟩]
      · rw [if_neg q, if_neg (fun ⟨m, h1, h2⟩ => by
          by_cases z : m = n
          · subst z; exact e h2
          · exact q ⟨m, by omega, h2⟩)]
theorem op_loseDisk (R : Rl k v u t) (x : Int32) : Op k v (fun u r u' => mIC yX1_loseDisk cX1_loseDisk 4 .int 3 [.int x] u r u') (fun t r t' => mIM yX2_loseDisk cX2_loseDisk 4 .int 1 [.int x] t r t') u t := by
  rcases ix5 x with hx | ⟨s, hs, rfl⟩
  · exact Op.same R _ (m_loseDisk_bad u x hx) (w_loseDisk_bad t x hx)
  · obtain ⟨j1, j2, j3⟩ := ldN_J hs R.J 4 (Nat.le_refl 4)
    have q := m_loseDisk_ok u s k hs R.bi
    rw [R.ld hs] at q
    refine ⟨_, _, _, v, by omega, q, w_loseDisk_ok t s hs, Rl_cur R j1 (fun k hk => j2 k (by omega) (by omega)) (fun k hk => loN_o hk 4) (fun i hi => ?_) (fun a ha f hf => ?_)⟩
    · rw [loN_5]
      split
      · exact Or.inl rfl
      · exact R.2.2.2.2.1 i hi
    · by_cases e : a = s
      · subst e
        have : mq_c (mq_loN t a 4) f a = false := by rw [mqc_z, loN_5, if_pos ⟨f, hf, rfl⟩]
        rw [this]
        exact Rp.no ((j3 a ha f hf).2 ⟨rfl, hf⟩)
      · have : mq_c (mq_loN t s 4) f a = mq_c t f a := by
          unfold mq_c
          rw [loN_5, if_neg (fun ⟨m, h1, h2⟩ => by omega)]
        rw [this]
        exact ((j3 a ha f hf).1 (Or.inl e)).rp (R.rp ha hf)
theorem mqc_set {t : Pst} {i f s : Nat} {b : Int32} : mq_c (sU t 5 i b) f s = if f * 5 + s = i then !decide (b = 0) else mq_c t f s := by
  unfold mq_c
  rw [sU_s]
  by_cases e : f * 5 + s = i
  · rw [if_pos e, e, pk_us]
  · rw [if_neg e, pk_un e]
theorem set_01 {t : Pst} {i : Nat} {b : Int32} (hb : b = 0 ∨ b = 1) (h : ∀ i, i < 20 → t 5 i = 0 ∨ t 5 i = 1) : ∀ j, j < 20 → sU t 5 i b 5 j = 0 ∨ sU t 5 i b 5 j = 1 := fun j hj => by
  rw [sU_s]
  by_cases e : j = i
  · rw [e, pk_us]; exact hb
  · rw [pk_un e]; exact h j hj
theorem op_damage (R : Rl k v u t) (x y : Int32) : Op k v (fun u r u' => mIC yX1_damage cX1_damage 5 .int 2 [.int x, .int y] u r u') (fun t r t' => mIM yX2_damage cX2_damage 4 .int 1 [.int x, .int y] t r t') u t := by
  rcases ix5 x with hx | ⟨s, hs, rfl⟩
  · exact Op.same R _ (m_damage_bad1 u x hx y) (w_damage_bad1 t x hx y)
  rcases ix4 y with hy | ⟨f, hf, rfl⟩
  · exact Op.same R _ (m_damage_bad2 u s hs y hy) (w_damage_bad2 t s hs y hy)
  by_cases he : t 2 f = 0
  · exact Op.same R _ (m_damage_no u s f hs hf (by rw [R.ex hf]; exact he)) (w_damage_no t s f hs hf he)
  have he' : ¬ u 2 f = 0 := by rw [R.ex hf]; exact he
  by_cases hc : cq_cur u s f = true
  · obtain ⟨j, hj, h5⟩ := cur_j hs hf R.J hc
    obtain ⟨j1, j2, j3, j4⟩ := dmg_J hs hf hj R.J h5 hc
    refine ⟨_, _, _, v, by omega, m_damage_ok u s f hs hf k (s * 4 + j) R.bi he' hc (by omega) h5, w_damage_y t s f hs hf he (by rw [← R.cur hs hf]; exact hc), Rl_cur R j1 (fun k hk => j4 k (by omega) (by omega) (by omega) (by omega) (by omega)) (fun k hk => by rw [sU_n hk]) (set_01 (Or.inl rfl) R.2.2.2.2.1) (fun a ha g hg => ?_)⟩
    rw [mqc_set]
    by_cases e : g * 5 + a = f * 5 + s
    · obtain rfl : g = f := by omega
      obtain rfl : a = s := by omega
      rw [if_pos rfl]
      exact Rp.no j3
    · rw [if_neg e]
      exact (j2 a ha g hg (by omega)).rp (R.rp ha hg)
  · have hc : cq_cur u s f = false := by simpa using hc
    have hm : mq_c t f s = false := by rw [← R.cur hs hf]; exact hc
    refine ⟨_, _, _, v, by omega, m_damage_not u s f hs hf k R.bi he' hc, w_damage_n t s f hs hf he hm, Rl_cur R R.J (fun k hk => rfl) (fun k hk => by rw [sU_n hk]) (set_01 (Or.inl rfl) R.2.2.2.2.1) (fun a ha g hg => ?_)⟩
    rw [mqc_set]
    by_cases e : g * 5 + a = f * 5 + s
    · obtain rfl : g = f := by omega
      obtain rfl : a = s := by omega
      rw [if_pos rfl]
      exact Rp.no hc
    · rw [if_neg e]
      exact R.rp ha hg
-- remove
theorem rmN_J {f0 : Nat} (hf0 : f0 < 4) (hJ : JJ v u) : ∀ n, n ≤ 5 → JJ v (cq_rmN u f0 n) ∧ (∀ k, k ≠ 5 → k ≠ 10 → cq_rmN u f0 n k = u k) ∧ ∀ s, s < 5 → ∀ f, f < 4 → f ≠ f0 → Sm u (cq_rmN u f0 n) s f
  | 0, _ => ⟨hJ, fun _ _ _ => rfl, fun _ _ _ _ _ => Sm.rf⟩
  | n + 1, hn => by
    obtain ⟨i1, i2, i3⟩ := rmN_J hf0 hJ n (by omega)
    simp only [cq_rmN]
    split
    · exact ⟨i1, i2, i3⟩
    · exact ⟨let_JJ (by omega) hf0 i1, fun k a b => by rw [let_o a b, i2 k a b], fun s hs f hf hne => (i3 s hs f hf hne).tr (let_Sm (by omega))⟩
theorem clN_o {f0 : Nat} {k : Nat} (hk : k ≠ 5) : ∀ n, mq_clN t f0 n k = t k
  | 0 => rfl
  | n + 1 => by
    show sU (mq_clN t f0 n) 5 _ _ k = _
    rw [sU_n hk]; exact clN_o hk n
theorem clN_5 {f0 : Nat} : ∀ n i, mq_clN t f0 n 5 i = if f0 * 5 ≤ i ∧ i < f0 * 5 + n then 0 else t 5 i
  | 0, i => by rw [if_neg (by omega)]; rfl
  | n + 1, i => by
    show sU (mq_clN t f0 n) 5 (f0 * 5 + n) (nI 0) 5 i = _
    rw [sU_s]
    by_cases e : i = f0 * 5 + n
    · rw [e, pk_us, if_pos (by omega)]; rfl
    · rw [pk_un e, clN_5 n i]
      by_cases q : f0 * 5 ≤ i ∧ i < f0 * 5 + n
      · rw [if_pos q, if_pos (by omega)]
      · rw [if_neg q, if_neg (by omega)]
theorem cl_c {f0 f s : Nat} (hs : s < 5) : mq_c (mq_clN t f0 5) f s = if f = f0 then false else mq_c t f s := by
  unfold mq_c
  rw [clN_5]
  by_cases e : f = f0
  · rw [if_pos (by omega), if_pos e]; decide
  · rw [if_neg (by omega), if_neg e]
theorem cl_01 {f0 : Nat} (h : ∀ i, i < 20 → t 5 i = 0 ∨ t 5 i = 1) : ∀ i, i < 20 → mq_clN t f0 5 5 i = 0 ∨ mq_clN t f0 5 5 i = 1 := fun i hi => by
  rw [clN_5]
  split
  · exact Or.inl rfl
  · exact h i hi
theorem op_remove (R : Rl k v u t) (x : Int32) : Op k v (fun u r u' => mIC yX1_remove cX1_remove 3 .int 1 [.int x] u r u') (fun t r t' => mIM yX2_remove cX2_remove 3 .int 1 [.int x] t r t') u t := by
  rcases ix4 x with hx | ⟨f, hf, rfl⟩
  · exact Op.same R _ (m_remove_bad u x hx) (w_remove_bad t x hx)
  by_cases he : t 2 f = 0
  · exact Op.same R _ (m_remove_no u f hf (by rw [R.ex hf]; exact he)) (w_remove_no t f hf he)
  have he' : ¬ u 2 f = 0 := by rw [R.ex hf]; exact he
  have J0 : JJ v (sU u 2 f (nI 0)) := JJ_o R.J (by rw [sU_n (by decide)]) (by rw [sU_n (by decide)]) (by rw [sU_n (by decide)]) (by rw [sU_n (by decide)]) (by rw [sU_n (by decide)])
  obtain ⟨j1, j2, j3⟩ := rmN_J hf J0 5 (Nat.le_refl 5)
  have S0 : ∀ s g, g ≠ f → Sm u (sU u 2 f (nI 0)) s g := fun s g hg => Sm_fr (by rw [sU_n (by decide)]) (by rw [sU_s, pk_un hg]) (by rw [sU_n (by decide)]) (by rw [sU_n (by decide)]) (fun _ b _ => by rw [sU_n (by decide), sU_n (by decide), sU_n (by decide)]; exact ⟨rfl, rfl, fun _ _ => rfl⟩)
  refine ⟨_, _, _, v, by omega, m_remove_ok u f k hf R.bi he', w_remove_ok t f hf he, ⟨?_, ?_⟩, j1, fun s hs => ?_, fun g hg => ?_, cl_01 (fun i hi => by rw [sU_n (by decide)]; exact R.2.2.2.2.1 i hi), fun s hs g hg => ?_, fun g hg => ?_⟩
  · rw [j2 0 (by decide) (by decide), sU_n (by decide)]; exact R.1.1
  · rw [clN_o (by decide), sU_n (by decide)]; exact R.1.2
  · rw [j2 1 (by decide) (by decide), clN_o (by decide), sU_n (by decide), sU_n (by decide)]; exact R.2.2.1 s hs
  · rw [j2 2 (by decide) (by decide), clN_o (by decide), sU_s, sU_s]
    by_cases e : g = f
    · rw [e, pk_us, pk_us]
    · rw [pk_un e, pk_un e]; exact R.ex hg
  · rw [cl_c hs]
    by_cases e : g = f
    · rw [if_pos e, e]
      refine Rp.no ?_
      have : cq_rmN (sU u 2 f (nI 0)) f 5 2 f = 0 := by rw [j2 2 (by decide) (by decide), sU_s, pk_us]; rfl
      simp [cq_cur, this]
    · rw [if_neg e, clN_o (by decide), clN_o (by decide), sU_n (by decide), sU_n (by decide)]
      have tc : mq_c (sU t 2 f (nI 0)) g s = mq_c t g s := by unfold mq_c; rw [sU_n (by decide)]
      rw [tc]
      exact ((S0 s g e).tr (j3 s hs g hg e)).rp (R.rp hs hg)
  · rw [clN_o (by decide), sU_n (by decide)]; exact R.len hg
end OPE
end
section
/-! THE PLAIN LAW, sixth part: versions, writes, snapshots -/
theorem ver_o {u : Pst} {f k : Nat} (h3 : k ≠ 3) (h4 : k ≠ 4) : cq_ver u f k = u k := by
  unfold cq_ver
  rw [sU_n h3, sU_n h4]
theorem ver_4 {v : Nat} {u : Pst} {f : Nat} (h : u 4 0 = nI v) : cq_ver u f 4 0 = nI (v + 1) := by
  unfold cq_ver
  rw [sU_n (by decide), sU_s, pk_us, h, nI_add]
theorem ver_3 {v : Nat} {u : Pst} {f : Nat} (h : u 4 0 = nI v) : cq_ver u f 3 = upd (u 3) f (nI (v + 1)) := by
  unfold cq_ver
  rw [sU_s, sU_n (k' := 3) (by decide), sU_s, pk_us, h, nI_add]
theorem ver_J {v : Nat} {u : Pst} {f0 : Nat} (hf0 : f0 < 4) (hv : v < 1000) (hJ : JJ v u) : JJ (v + 1) (cq_ver u f0) ∧ (∀ s f, f ≠ f0 → Sm u (cq_ver u f0) s f) ∧ ∀ s, s < 5 → ¬ u 6 (s * 4 + f0) = cq_ver u f0 3 f0 := by
  obtain ⟨a, b⟩ := J_keep (u := u) (u' := cq_ver u f0) ver_5 (ver_o (by decide) (by decide)) hJ.1 hJ.2.1
  refine ⟨⟨a, b, ver_4 hJ.2.2.1, fun i hi => ?_, fun f hf => ?_⟩, fun s f hne => ?_, fun s hs z => ?_⟩
  · rw [ver_o (by decide) (by decide)]
    obtain ⟨w, h1, h2⟩ := hJ.2.2.2.1 i hi
    exact ⟨w, by omega, h2⟩
  · rw [ver_3 hJ.2.2.1]
    by_cases e : f = f0
    · rw [e, pk_us]; exact ⟨v + 1, by omega, rfl⟩
    · rw [pk_un e]
      obtain ⟨w, h1, h2⟩ := hJ.2.2.2.2 f hf
      exact ⟨w, by omega, h2⟩
  · refine Sm_fr (by rw [ver_o (by decide) (by decide)]) (by rw [ver_o (by decide) (by decide)]) (by rw [ver_o (by decide) (by decide)]) (by rw [ver_3 hJ.2.2.1, pk_un hne]) (fun _ b _ => ?_)
    rw [ver_o (by decide) (by decide), ver_o (by decide) (by decide), ver_o (by decide) (by decide)]
    exact ⟨rfl, rfl, fun _ _ => rfl⟩
  · obtain ⟨w, h1, h2⟩ := hJ.2.2.2.1 (s * 4 + f0) (by omega)
    rw [h2, ver_3 hJ.2.2.1, pk_us] at z
    have := (nI_eq (by omega) (by omega)).mp z
    omega
theorem mu1N_o {u : Pst} {f m k : Nat} (hk : k ≠ 6) : ∀ n, cq_mu1N u f m n k = u k
  | 0 => rfl
  | n + 1 => by
    show (if m / 2 ^ n % 2 = 1 then sU (cq_mu1N u f m n) 6 (n * 4 + f) (cq_mu1N u f m n 3 f) else cq_mu1N u f m n) k = _
    split
    · rw [sU_n hk]; exact mu1N_o hk n
    · exact mu1N_o hk n
theorem mu1N_6 {u : Pst} {f m : Nat} : ∀ n i, cq_mu1N u f m n 6 i = if ∃ s, s < n ∧ i = s * 4 + f ∧ m / 2 ^ s % 2 = 1 then u 3 f else u 6 i
  | 0, i => by rw [if_neg (fun ⟨s, h, _⟩ => by omega)]; rfl
  | n + 1, i => by
    show (if m / 2 ^ n % 2 = 1 then sU (cq_mu1N u f m n) 6 (n * 4 + f) (cq_mu1N u f m n 3 f) else cq_mu1N u f m n) 6 i = _
    have ih := mu1N_6 (u := u) (f := f) (m := m) n i
    by_cases hb : m / 2 ^ n % 2 = 1
    · rw [if_pos hb, sU_s]
      by_cases e : i = n * 4 + f
      · rw [e, pk_us, mu1N_o (by decide), if_pos ⟨n, by omega, rfl, hb⟩]
      · rw [pk_un e, ih]
        by_cases q : ∃ s, s < n ∧ i = s * 4 + f ∧ m / 2 ^ s % 2 = 1
        · obtain ⟨s, h1, h2⟩ := q
          rw [if_pos ⟨s, h1, h2⟩, if_pos ⟨s, by omega, h2⟩]
        · rw [if_neg q, if_neg (fun ⟨s, h1, h2⟩ => by
            by_cases z : s = n
            · subst z; exact e h2.1
            · exact q ⟨s, by omega, h2⟩)]
    · rw [if_neg hb, ih]
      by_cases q : ∃ s, s < n ∧ i = s * 4 + f ∧ m / 2 ^ s % 2 = 1
      · obtain ⟨s, h1, h2⟩ := q
        rw [if_pos ⟨s, h1, h2⟩, if_pos ⟨s, by omega, h2⟩]
      · rw [if_neg q, if_neg (fun ⟨s, h1, h2⟩ => by
          by_cases z : s = n
          · subst z; exact hb h2.2
          · exact q ⟨s, by omega, h2⟩)]
section OPF
variable {k v : Nat} {u t : Pst}
theorem mu1_J (R : Rl k v u t) (hv : v < 1000) {f : Nat} (hf : f < 4) : ∃ v', v' ≤ v + 1 ∧ JJ v' (cq_mu1 u f) ∧ (∀ k, k ≠ 3 → k ≠ 4 → k ≠ 6 → cq_mu1 u f k = u k) ∧ (∀ s, s < 5 → ∀ g, g < 4 → g ≠ f → Sm u (cq_mu1 u f) s g) ∧ ∀ s, s < 5 → Rp (cq_mu1 u f) s f (mq_c t f s && !mq_dn t s) (t 3 f) (fun c => t 4 (f * 6 + c)) := by
  have hbit : ∀ s, s < 5 → (cq_live u f / 2 ^ s % 2 = 1 ↔ (mq_c t f s && !mq_dn t s) = true) := fun s hs => by
    rw [R.live hf, mk5_bit 5 hs]
    cases (mq_c t f s && !mq_dn t s) <;> simp
  by_cases e : cq_live u f = cq_set u f
  · have e1 : cq_mu1 u f = u := if_pos e
    rw [e1]
    refine ⟨v, by omega, R.J, fun _ _ _ _ => rfl, fun _ _ _ _ _ => Sm.rf, fun s hs => ?_⟩
    have h2 : cq_set u f / 2 ^ s % 2 = 1 ↔ mq_c t f s = true := by
      rw [R.set hf, mk5_bit 5 hs]
      cases mq_c t f s <;> simp
    have h1 := hbit s hs
    rw [e, h2] at h1
    have : (mq_c t f s && !mq_dn t s) = mq_c t f s := by
      cases h3 : mq_c t f s with
      | false => simp
      | true => rw [← h3]; rw [h3] at h1 ⊢; exact h1.mp rfl
    rw [this]
    exact R.rp hs hf
  · have e1 : cq_mu1 u f = cq_mu1N (cq_ver u f) f (cq_live u f) 5 := if_neg e
    obtain ⟨j1, j2, j3⟩ := ver_J hf hv R.J
    rw [e1]
    have o : ∀ k, k ≠ 3 → k ≠ 4 → k ≠ 6 → cq_mu1N (cq_ver u f) f (cq_live u f) 5 k = u k := fun k a b c => by rw [mu1N_o c, ver_o a b]
    have o3 : cq_mu1N (cq_ver u f) f (cq_live u f) 5 3 = cq_ver u f 3 := mu1N_o (by decide) 5
    have o4 : cq_mu1N (cq_ver u f) f (cq_live u f) 5 4 = cq_ver u f 4 := mu1N_o (by decide) 5
    obtain ⟨a, b⟩ := J_keep (u := u) (u' := cq_mu1N (cq_ver u f) f (cq_live u f) 5) (o 5 (by decide) (by decide) (by decide)) (o 10 (by decide) (by decide) (by decide)) R.J.1 R.J.2.1
    refine ⟨v + 1, by omega, ⟨a, b, ?_, fun i hi => ?_, ?_⟩, o, fun s hs g hg hne => ?_, fun s hs => ?_⟩
    · rw [o4]; exact j1.2.2.1
    · rw [mu1N_6]
      split
      · exact j1.2.2.2.2 f hf
      · exact j1.2.2.2.1 i hi
    · rw [o3]; exact j1.2.2.2.2
    · refine (j2 s g hne).tr (Sm_fr (by rw [mu1N_o (by decide)]) (by rw [mu1N_o (by decide)]) ?_ (by rw [mu1N_o (by decide)]) (fun _ b _ => ?_))
      · rw [mu1N_6, if_neg (fun ⟨x, h1, h2, h3⟩ => by omega)]
      · rw [mu1N_o (by decide), mu1N_o (by decide), mu1N_o (by decide)]
        exact ⟨rfl, rfl, fun _ _ => rfl⟩
    · have h5 := o 5 (by decide) (by decide) (by decide)
      have h2 := o 2 (by decide) (by decide) (by decide)
      have h7 := o 7 (by decide) (by decide) (by decide)
      have h8 := o 8 (by decide) (by decide) (by decide)
      have h9 := o 9 (by decide) (by decide) (by decide)
      have h6 := mu1N_6 (u := cq_ver u f) (f := f) (m := cq_live u f) 5 (s * 4 + f)
      by_cases q : cq_live u f / 2 ^ s % 2 = 1
      · rw [if_pos ⟨s, hs, rfl, q⟩] at h6
        have hp := (hbit s hs).mp q
        rw [hp]
        have hc : mq_c t f s = true := by simp only [Bool.and_eq_true] at hp; exact hp.1
        have hr := R.rp hs hf
        rw [hc] at hr
        obtain ⟨a1, a2, a3, a4⟩ := cur_iff.mp hr.1
        refine ⟨?_, fun _ => ⟨?_, fun c hc => ?_⟩⟩
        · rw [cur_iff, h5, h2, h6, o3, h9]
          refine ⟨a1, a2, rfl, ?_⟩
          rw [← a4]
          exact sum_congr (by rw [h8]) (fun _ _ => by rw [h7])
        · unfold rl; rw [h5, h8]; exact (hr.2 rfl).1
        · unfold rc; rw [h5, h7]; exact (hr.2 rfl).2 c hc
      · rw [if_neg (fun ⟨x, h1, h2, h3⟩ => by
          obtain rfl : x = s := by omega
          exact q h3)] at h6
        have hp : (mq_c t f s && !mq_dn t s) = false := Bool.eq_false_iff.mpr (fun z => q ((hbit s hs).mpr z))
        rw [hp]
        refine Rp.no (Bool.eq_false_iff.mpr (fun z => ?_))
        have := (cur_iff.mp z).2.2.1
        rw [h6, o3, ver_o (by decide) (by decide)] at this
        exact j3 s hs this
theorem wr_o {w : Pst} {s f c k : Nat} {z : Int32} (h5 : k ≠ 5) (h7 : k ≠ 7) (h8 : k ≠ 8) (h9 : k ≠ 9) (h10 : k ≠ 10) : cq_wr w s f c z k = w k := by
  unfold cq_wr
  rw [sU_n h9]
  have e : cq_w1 w s f c z k = w k := by
    unfold cq_w1
    rw [sU_n h7, own_o h5 h10 h7 h8 h9]
  unfold cq_w2
  split
  · exact e
  · rw [sU_n h8]; exact e
theorem mu2_J {w : Pst} {f m c : Nat} {z l : Int32} {cs : Nat → Int32} (hf : f < 4) (hc : c < 6) (hJ : JJ v w) (hR : ∀ s, s < 5 → Rp w s f (bt5 m s) l cs) : ∀ n, n ≤ 5 → JJ v (cq_mu2N w f m c z n) ∧ (∀ k, k ≠ 5 → k ≠ 7 → k ≠ 8 → k ≠ 9 → k ≠ 10 → cq_mu2N w f m c z n k = w k) ∧ (∀ s, s < 5 → ∀ g, g < 4 → g ≠ f → Sm w (cq_mu2N w f m c z n) s g) ∧ (∀ s, s < 5 → n ≤ s → Sm w (cq_mu2N w f m c z n) s f) ∧ ∀ s, s < 5 → s < n → Rp (cq_mu2N w f m c z n) s f (bt5 m s) (wl l c) (wc cs c z)
  | 0, _ => ⟨hJ, fun _ _ _ _ _ _ => rfl, fun _ _ _ _ _ => Sm.rf, fun _ _ _ => Sm.rf, fun _ _ h => absurd h (by omega)⟩
  | n + 1, hn => by
    obtain ⟨i1, i2, i3, i4, i5⟩ := mu2_J (z := z) hf hc hJ hR n (by omega)
    have hn5 : n < 5 := by omega
    have hRn := (i4 n hn5 (Nat.le_refl n)).rp (hR n hn5)
    by_cases hb : m / 2 ^ n % 2 = 1
    · have e : cq_mu2N w f m c z (n + 1) = cq_wr (cq_mu2N w f m c z n) n f c z := by simp only [cq_mu2N]; rw [if_pos hb]
      have hbt : bt5 m n = true := by simp [bt5, hb]
      rw [hbt] at hRn
      obtain ⟨a1, a2, a3⟩ := wr_J (z := z) hn5 hf hc i1 hRn
      rw [e]
      refine ⟨a1, fun k q5 q7 q8 q9 q10 => by rw [wr_o q5 q7 q8 q9 q10, i2 k q5 q7 q8 q9 q10], fun s hs g hg hne => (i3 s hs g hg hne).tr (a2 s hs g hg (by omega)), fun s hs hle => (i4 s hs (by omega)).tr (a2 s hs f hf (by omega)), fun s hs hlt => ?_⟩
      by_cases q : s = n
      · subst q; rw [hbt]; exact a3
      · exact (a2 s hs f hf (by omega)).rp (i5 s hs (by omega))
    · have e : cq_mu2N w f m c z (n + 1) = cq_mu2N w f m c z n := by simp only [cq_mu2N]; rw [if_neg hb]
      have hbt : bt5 m n = false := by simp [bt5, hb]
      rw [hbt] at hRn
      rw [e]
      refine ⟨i1, i2, i3, fun s hs hle => i4 s hs (by omega), fun s hs hlt => ?_⟩
      by_cases q : s = n
      · subst q; rw [hbt]; exact Rp.no hRn.1
      · exact i5 s hs (by omega)
-- the model's write
theorem w3_o {f k : Nat} (hk : k ≠ 5) : ∀ n, mq_w3 t f n k = t k
  | 0 => rfl
  | n + 1 => by
    show (if mq_w3 t f n 1 n = 0 then mq_w3 t f n else sU (mq_w3 t f n) 5 (f * 5 + n) (nI 0)) k = _
    split
    · exact w3_o hk n
    · rw [sU_n hk]; exact w3_o hk n
theorem w3_5 {f : Nat} : ∀ n i, mq_w3 t f n 5 i = if ∃ s, s < n ∧ i = f * 5 + s ∧ ¬ t 1 s = 0 then 0 else t 5 i
  | 0, i => by rw [if_neg (fun ⟨s, h, _⟩ => by omega)]; rfl
  | n + 1, i => by
    show (if mq_w3 t f n 1 n = 0 then mq_w3 t f n else sU (mq_w3 t f n) 5 (f * 5 + n) (nI 0)) 5 i = _
    have ih := w3_5 (f := f) n i
    rw [w3_o (by decide)]
    by_cases hb : t 1 n = 0
    · rw [if_pos hb, ih]
      by_cases q : ∃ s, s < n ∧ i = f * 5 + s ∧ ¬ t 1 s = 0
      · obtain ⟨s, h1, h2⟩ := q
        rw [if_pos ⟨s, h1, h2⟩, if_pos ⟨s, by omega, h2⟩]
      · rw [if_neg q, if_neg (fun ⟨s, h1, h2⟩ => by
          by_cases z : s = n
          · subst z; exact h2.2 hb
          · exact q ⟨s, by omega, h2⟩)]
    · rw [if_neg hb, sU_s]
      by_cases e : i = f * 5 + n
      · rw [e, pk_us, if_pos ⟨n, by omega, rfl, hb⟩]; rfl
      · rw [pk_un e, ih]
        by_cases q : ∃ s, s < n ∧ i = f * 5 + s ∧ ¬ t 1 s = 0
        · obtain ⟨s, h1, h2⟩ := q
          rw [if_pos ⟨s, h1, h2⟩, if_pos ⟨s, by omega, h2⟩]
        · rw [if_neg q, if_neg (fun ⟨s, h1, h2⟩ => by
            by_cases z : s = n
            · subst z; exact e h2.1
            · exact q ⟨s, by omega, h2⟩)]
theorem w2_o {f c k : Nat} (hk : k ≠ 3) : mq_w2 t f c k = t k := by
  unfold mq_w2
  split
  · rfl
  · rw [sU_n hk]
theorem w2_3 {f c g : Nat} : mq_w2 t f c 3 g = if g = f then wl (t 3 f) c else t 3 g := by
  unfold mq_w2 wl
  split
  · by_cases e : g = f
    · rw [if_pos e, e]
    · rw [if_neg e]
  · rw [sU_s]
    by_cases e : g = f
    · rw [if_pos e, e, pk_us]
    · rw [if_neg e, pk_un e]
theorem mwr_o {f c k : Nat} {z : Int32} (h3 : k ≠ 3) (h4 : k ≠ 4) (h5 : k ≠ 5) : mq_wr t f c z k = t k := by
  unfold mq_wr
  rw [w3_o h5, w2_o h3, sU_n h4]
theorem mwr_3 {f c g : Nat} {z : Int32} : mq_wr t f c z 3 g = if g = f then wl (t 3 f) c else t 3 g := by
  unfold mq_wr
  rw [w3_o (by decide), w2_3, sU_n (by decide)]
theorem mwr_4 {f c g x : Nat} {z : Int32} (hc : c < 6) (hx : x < 6) : mq_wr t f c z 4 (g * 6 + x) = if g = f then wc (fun x => t 4 (f * 6 + x)) c z x else t 4 (g * 6 + x) := by
  unfold mq_wr
  rw [w3_o (by decide), w2_o (by decide), sU_s]
  unfold wc
  by_cases e : g = f
  · subst e
    rw [if_pos rfl]
    by_cases q : x = c
    · rw [if_pos q, q, pk_us]
    · rw [if_neg q, pk_un (by omega)]
  · rw [if_neg e, pk_un (by omega)]
theorem mwr_c {f c g s : Nat} {z : Int32} (hs : s < 5) : mq_c (mq_wr t f c z) g s = if g = f then mq_c t f s && !mq_dn t s else mq_c t g s := by
  have e5 : mq_wr t f c z 5 (g * 5 + s) = if ∃ x, x < 5 ∧ g * 5 + s = f * 5 + x ∧ ¬ t 1 x = 0 then 0 else t 5 (g * 5 + s) := by
    unfold mq_wr
    rw [w3_5, w2_o (by decide), w2_o (by decide), sU_n (by decide), sU_n (by decide)]
  unfold mq_c mq_dn
  rw [e5]
  by_cases e : g = f
  · subst e
    rw [if_pos rfl]
    by_cases q : t 1 s = 0
    · rw [if_neg (fun ⟨x, h1, h2, h3⟩ => by
        obtain rfl : x = s := by omega
        exact h3 q)]
      simp [q]
    · rw [if_pos ⟨s, hs, rfl, q⟩]
      simp [q]
  · rw [if_neg e, if_neg (fun ⟨x, h1, h2, h3⟩ => by omega)]
theorem wl_len {l : Int32} {c n : Nat} (hc : c < 6) (hn : n ≤ 6) (h : l = nI n) : ∃ n', n' ≤ 6 ∧ wl l c = nI n' := by
  unfold wl
  split
  · exact ⟨n, hn, h⟩
  · exact ⟨c + 1, by omega, rfl⟩
theorem sim_mut (R : Rl k v u t) (hv : v < 1000) {f c : Nat} (hf : f < 4) (hc : c < 6) (z : Int32) : ∃ v', v' ≤ v + 1 ∧ Rl k v' (cq_mut u f c z) (mq_wr t f c z) := by
  obtain ⟨v', hv', j1, j2, j3, j4⟩ := mu1_J R hv hf
  have hR : ∀ s, s < 5 → Rp (cq_mu1 u f) s f (bt5 (cq_live u f) s) (t 3 f) (fun c => t 4 (f * 6 + c)) := fun s hs => by
    rw [R.live hf, bt5_mk hs]; exact j4 s hs
  obtain ⟨i1, i2, i3, i4, i5⟩ := mu2_J (z := z) hf hc j1 hR 5 (Nat.le_refl 5)
  refine ⟨v', hv', ?_⟩
  unfold cq_mut
  have o : ∀ k, k = 0 ∨ k = 1 ∨ k = 2 → cq_mu2N (cq_mu1 u f) f (cq_live u f) c z 5 k = u k := fun k hk => by
    rw [i2 k (by omega) (by omega) (by omega) (by omega) (by omega), j2 k (by omega) (by omega) (by omega)]
  refine ⟨⟨by rw [o 0 (Or.inl rfl)]; exact R.1.1, by rw [mwr_o (by decide) (by decide) (by decide)]; exact R.1.2⟩, i1, fun s hs => ?_, fun g hg => ?_, ?_, fun s hs g hg => ?_, fun g hg => ?_⟩
  · rw [o 1 (Or.inr (Or.inl rfl)), mwr_o (by decide) (by decide) (by decide)]; exact R.2.2.1 s hs
  · rw [o 2 (Or.inr (Or.inr rfl)), mwr_o (by decide) (by decide) (by decide)]; exact R.ex hg
  · exact (BM_wr R.bm).2
  · rw [mwr_c hs, mwr_3]
    by_cases e : g = f
    · subst e
      rw [if_pos rfl, if_pos rfl]
      have h5 := i5 s hs hs
      rw [R.live hf, bt5_mk hs] at h5
      refine ⟨by rw [R.live hf]; exact h5.1, fun hb => ?_⟩
      rw [R.live hf]
      exact ⟨(h5.2 hb).1, fun x hx => by dsimp only; rw [mwr_4 hc hx, if_pos rfl]; exact (h5.2 hb).2 x hx⟩
    · rw [if_neg e, if_neg e]
      have q := ((j3 s hs g hg e).tr (i3 s hs g hg e)).rp (R.rp hs hg)
      exact ⟨q.1, fun hb => ⟨(q.2 hb).1, fun x hx => by dsimp only; rw [mwr_4 hc hx, if_neg e]; exact (q.2 hb).2 x hx⟩⟩
  · rw [mwr_3]
    by_cases e : g = f
    · rw [if_pos e]
      obtain ⟨n, h1, h2⟩ := R.len hf
      exact wl_len hc h1 h2
    · rw [if_neg e]; exact R.len hg
theorem op_write (R : Rl k v u t) (hv : v < 1000) (x y z : Int32) : Op k v (fun u r u' => mIC yX1_write cX1_write 5 .int 4 [.int x, .int y, .int z] u r u') (fun t r t' => mIM yX2_write cX2_write 6 .int 2 [.int x, .int y, .int z] t r t') u t := by
  rcases ix4 x with hx | ⟨f, hf, rfl⟩
  · exact Op.same R _ (m_write_bad u x hx y z) (w_write_bad t x hx y z)
  by_cases he : t 2 f = 0
  · exact Op.same R _ (m_write_no u f hf (by rw [R.ex hf]; exact he) y z) (w_write_no t f hf he y z)
  have he' : ¬ u 2 f = 0 := by rw [R.ex hf]; exact he
  rcases src_or R hf with ⟨h1, h2⟩ | ⟨s, j, hs, h1, h2, -, hj, h5, h8, h7⟩
  · exact Op.same R _ (m_write_un u f k hf R.bi he' h1 y z) (w_write_un t f hf he h2 y z)
  rcases ix6 y with hy | ⟨c, hc, rfl⟩
  · exact Op.same R _ (m_write_bc u f k s hf R.bi he' h1 y hy z) (w_write_bc t f hf he h2 y hy z)
  obtain ⟨v', hv', R'⟩ := sim_mut R hv hf hc z
  have q := m_write_ok u f k s hf R.bi he' h1 c hc z
  rw [R.live hf, pc5_mk] at q
  have e : mq_ha (mq_wr t f c z) f = cnt (fun s => mq_c t f s && !mq_dn t s) 5 := cnt_congr 5 (fun s hs => by rw [mwr_c hs, if_pos rfl])
  have q2 := w_write_ok t f hf he h2 c hc z
  rw [e] at q2
  exact ⟨_, _, _, v', hv', q, q2, R'⟩
theorem op_append (R : Rl k v u t) (hv : v < 1000) (x y : Int32) : Op k v (fun u r u' => mIC yX1_append cX1_append 6 .int 4 [.int x, .int y] u r u') (fun t r t' => mIM yX2_append cX2_append 5 .int 3 [.int x, .int y] t r t') u t := by
  rcases ix4 x with hx | ⟨f, hf, rfl⟩
  · exact Op.same R _ (m_append_bad u x hx y) (w_append_bad t x hx y)
  by_cases he : t 2 f = 0
  · exact Op.same R _ (m_append_no u f hf (by rw [R.ex hf]; exact he) y) (w_append_no t f hf he y)
  have he' : ¬ u 2 f = 0 := by rw [R.ex hf]; exact he
  rcases src_or R hf with ⟨h1, h2⟩ | ⟨s, j, hs, h1, h2, -, hj, h5, h8, h7⟩
  · exact Op.same R _ (m_append_un u f k hf R.bi he' h1 y) (w_append_un t f hf he h2 y)
  obtain ⟨n, hn, hl⟩ := R.len hf
  by_cases h6 : n = 6
  · subst h6
    exact Op.same R _ (m_append_full u f k s hf R.bi he' h1 (s * 4 + j) (by omega) h5 (h8.trans hl) y) (w_append_full t f hf he h2 hl y)
  · obtain ⟨v', hv', R'⟩ := sim_mut R hv hf (show n < 6 by omega) y
    exact ⟨_, _, _, v', hv', m_append_ok u f k s hf R.bi he' h1 (s * 4 + j) (by omega) h5 n (by omega) (h8.trans hl) y, w_append_ok t f hf he h2 n (by omega) hl y, R'⟩
-- snapshot
theorem ver2_J (hJ : JJ v u) (hv : v < 1000) {g : Nat} (hg : g < 4) : JJ (v + 1) (cq_ver (sU u 2 g (nI 1)) g) ∧ (∀ s f, f ≠ g → Sm u (cq_ver (sU u 2 g (nI 1)) g) s f) ∧ (∀ s, s < 5 → cq_cur (cq_ver (sU u 2 g (nI 1)) g) s g = false) ∧ (∀ k, k ≠ 2 → k ≠ 3 → k ≠ 4 → cq_ver (sU u 2 g (nI 1)) g k = u k) ∧ cq_ver (sU u 2 g (nI 1)) g 2 = upd (u 2) g (nI 1) := by
  have J0 : JJ v (sU u 2 g (nI 1)) := JJ_o hJ (by rw [sU_n (by decide)]) (by rw [sU_n (by decide)]) (by rw [sU_n (by decide)]) (by rw [sU_n (by decide)]) (by rw [sU_n (by decide)])
  obtain ⟨j1, j2, j3⟩ := ver_J hg hv J0
  refine ⟨j1, fun s f hne => Sm.tr ?_ (j2 s f hne), fun s hs => ?_, fun k a b c => by rw [ver_o b c, sU_n a], by rw [ver_o (by decide) (by decide), sU_s]⟩
  · refine Sm_fr (by rw [sU_n (by decide)]) (by rw [sU_s, pk_un hne]) (by rw [sU_n (by decide)]) (by rw [sU_n (by decide)]) (fun _ b _ => ?_)
    rw [sU_n (by decide), sU_n (by decide), sU_n (by decide)]
    exact ⟨rfl, rfl, fun _ _ => rfl⟩
  · refine Bool.eq_false_iff.mpr (fun z => ?_)
    have := (cur_iff.mp z).2.2.1
    rw [ver_o (k := 6) (by decide) (by decide)] at this
    exact j3 s hs this
theorem snN_J {w : Pst} {f g m : Nat} {l : Int32} {cs : Nat → Int32} (hf : f < 4) (hg : g < 4) (hfg : f ≠ g) (hJ : JJ v w) (he : ¬ w 2 g = 0) (hcg : ∀ s, s < 5 → cq_cur w s g = false) (hR : ∀ s, s < 5 → Rp w s f (bt5 m s) l cs) : ∀ n, n ≤ 5 → JJ v (cq_snN w f g m n) ∧ (∀ k, k ≠ 5 → k ≠ 6 → k ≠ 10 → cq_snN w f g m n k = w k) ∧ (∀ s, s < 5 → ∀ f', f' < 4 → f' ≠ g → Sm w (cq_snN w f g m n) s f') ∧ (∀ s, s < 5 → n ≤ s → cq_cur (cq_snN w f g m n) s g = false) ∧ ∀ s, s < 5 → s < n → Rp (cq_snN w f g m n) s g (bt5 m s) l cs
  | 0, _ => ⟨hJ, fun _ _ _ _ => rfl, fun _ _ _ _ _ => Sm.rf, fun s hs _ => hcg s hs, fun _ _ h => absurd h (by omega)⟩
  | n + 1, hn => by
    obtain ⟨i1, i2, i3, i4, i5⟩ := snN_J hf hg hfg hJ he hcg hR n (by omega)
    have hn5 : n < 5 := by omega
    have hRn := (i3 n hn5 f hf hfg).rp (hR n hn5)
    by_cases hb : m / 2 ^ n % 2 = 1
    · have e : cq_snN w f g m (n + 1) = cq_sh (cq_snN w f g m n) n f g := by simp only [cq_snN]; rw [if_pos hb]
      have hbt : bt5 m n = true := by simp [bt5, hb]
      rw [hbt] at hRn
      obtain ⟨a1, a2, a3, a4⟩ := sh_J hn5 hf hg hfg i1 (by rw [i2 2 (by decide) (by decide) (by decide)]; exact he) hRn
      rw [e]
      refine ⟨a1, fun k q5 q6 q10 => by rw [a4 k q5 q6 q10, i2 k q5 q6 q10], fun s hs f' hf' hne => (i3 s hs f' hf' hne).tr (a2 s hs f' hf' (by omega)), fun s hs hle => ?_, fun s hs hlt => ?_⟩
      · rw [(a2 s hs g hg (by omega)).1]; exact i4 s hs (by omega)
      · by_cases q : s = n
        · subst q; rw [hbt]; exact a3
        · exact (a2 s hs g hg (by omega)).rp (i5 s hs (by omega))
    · have e : cq_snN w f g m (n + 1) = cq_snN w f g m n := by simp only [cq_snN]; rw [if_neg hb]
      have hbt : bt5 m n = false := by simp [bt5, hb]
      rw [e]
      refine ⟨i1, i2, i3, fun s hs hle => i4 s hs (by omega), fun s hs hlt => ?_⟩
      by_cases q : s = n
      · subst q; rw [hbt]; exact Rp.no (i4 s hs (Nat.le_refl s))
      · exact i5 s hs (by omega)
theorem s1_o {f g k : Nat} (hk : k ≠ 4) : ∀ n, mq_s1 t f g n k = t k
  | 0 => rfl
  | n + 1 => by
    show sU (mq_s1 t f g n) 4 _ _ k = _
    rw [sU_n hk]; exact s1_o hk n
theorem s1_4 {f g : Nat} (hfg : f ≠ g) : ∀ n, n ≤ 6 → ∀ a x, x < 6 → mq_s1 t f g n 4 (a * 6 + x) = if a = g ∧ x < n then t 4 (f * 6 + x) else t 4 (a * 6 + x)
  | 0, _, a, x, hx => by rw [if_neg (by omega)]; rfl
  | n + 1, hn, a, x, hx => by
    show sU (mq_s1 t f g n) 4 (g * 6 + n) (mq_s1 t f g n 4 (f * 6 + n)) 4 (a * 6 + x) = _
    rw [sU_s]
    by_cases e : a * 6 + x = g * 6 + n
    · obtain rfl : a = g := by omega
      obtain rfl : x = n := by omega
      rw [pk_us, if_pos (by omega), s1_4 hfg x (by omega) f x hx, if_neg (by omega)]
    · rw [pk_un e, s1_4 hfg n (by omega) a x hx]
      by_cases q : a = g ∧ x < n
      · rw [if_pos q, if_pos (by omega)]
      · rw [if_neg q, if_neg (by omega)]
theorem s2_o {f g k : Nat} (hk : k ≠ 5) : ∀ n, mq_s2 t f g n k = t k
  | 0 => rfl
  | n + 1 => by
    show sU (mq_s2 t f g n) 5 _ _ k = _
    rw [sU_n hk]; exact s2_o hk n
theorem s2_5 {f g : Nat} (hfg : f ≠ g) : ∀ n, n ≤ 5 → ∀ a x, x < 5 → mq_s2 t f g n 5 (a * 5 + x) = if a = g ∧ x < n then t 5 (f * 5 + x) else t 5 (a * 5 + x)
  | 0, _, a, x, hx => by rw [if_neg (by omega)]; rfl
  | n + 1, hn, a, x, hx => by
    show sU (mq_s2 t f g n) 5 (g * 5 + n) (mq_s2 t f g n 5 (f * 5 + n)) 5 (a * 5 + x) = _
    rw [sU_s]
    by_cases e : a * 5 + x = g * 5 + n
    · obtain rfl : a = g := by omega
      obtain rfl : x = n := by omega
      rw [pk_us, if_pos (by omega), s2_5 hfg x (by omega) f x hx, if_neg (by omega)]
    · rw [pk_un e, s2_5 hfg n (by omega) a x hx]
      by_cases q : a = g ∧ x < n
      · rw [if_pos q, if_pos (by omega)]
      · rw [if_neg q, if_neg (by omega)]
theorem sn_o {f g k : Nat} (h2 : k ≠ 2) (h3 : k ≠ 3) (h4 : k ≠ 4) (h5 : k ≠ 5) : mq_sn t f g k = t k := by
  unfold mq_sn
  rw [s2_o h5, s1_o h4, sU_n h3, sU_n h2]
theorem sn_2 {f g : Nat} : mq_sn t f g 2 = upd (t 2) g (nI 1) := by
  unfold mq_sn
  rw [s2_o (by decide), s1_o (by decide), sU_n (by decide), sU_s]
theorem sn_3 {f g : Nat} : mq_sn t f g 3 = upd (t 3) g (t 3 f) := by
  unfold mq_sn
  rw [s2_o (by decide), s1_o (by decide), sU_s, sU_n (k' := 3) (by decide)]
theorem sn_4 {f g a x : Nat} (hfg : f ≠ g) (hx : x < 6) : mq_sn t f g 4 (a * 6 + x) = if a = g then t 4 (f * 6 + x) else t 4 (a * 6 + x) := by
  unfold mq_sn
  rw [s2_o (by decide), s1_4 hfg 6 (Nat.le_refl 6) a x hx, sU_n (by decide), sU_n (by decide)]
  by_cases e : a = g
  · rw [if_pos ⟨e, hx⟩, if_pos e]
  · rw [if_neg (fun z => e z.1), if_neg e]
theorem sn_c {f g a s : Nat} (hfg : f ≠ g) (hs : s < 5) : mq_c (mq_sn t f g) a s = if a = g then mq_c t f s else mq_c t a s := by
  have e5 : mq_sn t f g 5 (a * 5 + s) = if a = g then t 5 (f * 5 + s) else t 5 (a * 5 + s) := by
    unfold mq_sn
    rw [s2_5 hfg 5 (Nat.le_refl 5) a s hs, s1_o (by decide), sU_n (by decide), sU_n (by decide)]
    by_cases e : a = g
    · rw [if_pos ⟨e, hs⟩, if_pos e]
    · rw [if_neg (fun z => e z.1), if_neg e]
  unfold mq_c
  rw [e5]
  by_cases e : a = g
  · rw [if_pos e, if_pos e]
  · rw [if_neg e, if_neg e]
theorem op_snapshot (R : Rl k v u t) (hv : v < 1000) (x y : Int32) : Op k v (fun u r u' => mIC yX1_snapshot cX1_snapshot 7 .int 3 [.int x, .int y] u r u') (fun t r t' => mIM yX2_snapshot cX2_snapshot 4 .int 2 [.int x, .int y] t r t') u t := by
  rcases ix4 x with hx | ⟨f, hf, rfl⟩
  · exact Op.same R _ (m_snapshot_bad1 u x hx y) (w_snapshot_bad1 t x hx y)
  rcases ix4 y with hy | ⟨g, hg, rfl⟩
  · exact Op.same R _ (m_snapshot_bad2 u f hf y hy) (w_snapshot_bad2 t f hf y hy)
  by_cases he : t 2 f = 0
  · exact Op.same R _ (m_snapshot_no u f g hf hg (by rw [R.ex hf]; exact he)) (w_snapshot_no t f g hf hg he)
  have he' : ¬ u 2 f = 0 := by rw [R.ex hf]; exact he
  by_cases hg2 : ¬ t 2 g = 0
  · exact Op.same R _ (m_snapshot_ex u f g hf hg he' (by rw [R.ex hg]; exact hg2)) (w_snapshot_ex t f g hf hg he hg2)
  have hg2 : t 2 g = 0 := Decidable.not_not.mp hg2
  have hg2' : u 2 g = 0 := by rw [R.ex hg]; exact hg2
  have hfg : f ≠ g := fun e => he (by rw [e]; exact hg2)
  rcases src_or R hf with ⟨h1, h2⟩ | ⟨s0, j, hs0, h1, h2, -, hj, h5, h8, h7⟩
  · exact Op.same R _ (m_snapshot_un u f g hf hg k R.bi he' hg2' h1) (w_snapshot_un t f g hf hg he hg2 h2)
  obtain ⟨a1, a2, a3, a4, a5⟩ := ver2_J R.J hv hg
  have hR : ∀ s, s < 5 → Rp (cq_ver (sU u 2 g (nI 1)) g) s f (bt5 (cq_set u f) s) (t 3 f) (fun c => t 4 (f * 6 + c)) := fun s hs => by
    rw [R.set hf, bt5_mk hs]; exact (a2 s f hfg).rp (R.rp hs hf)
  obtain ⟨i1, i2, i3, i4, i5⟩ := snN_J hf hg hfg a1 (by rw [a5, pk_us]; decide) a3 hR 5 (Nat.le_refl 5)
  have q := m_snapshot_ok u f g hf hg k s0 R.bi he' hg2' h1
  have e1 : pc5 (cq_set u f) 5 = cnt (mq_c t f) 5 := by rw [R.set hf, pc5_mk]
  rw [e1] at q
  have q2 := w_snapshot_ok t f g hf hg k R.bm he hg2 h2
  have e : mq_ha (mq_sn t f g) g = cnt (mq_c t f) 5 := cnt_congr 5 (fun s hs => by rw [sn_c hfg hs, if_pos rfl])
  rw [e] at q2
  refine ⟨_, _, _, v + 1, Nat.le_refl _, q, q2, ⟨?_, ?_⟩, i1, fun s hs => ?_, fun a ha => ?_, (BM_sn hf R.bm).2, fun s hs a ha => ?_, fun a ha => ?_⟩
  · rw [i2 0 (by decide) (by decide) (by decide), a4 0 (by decide) (by decide) (by decide)]; exact R.1.1
  · rw [sn_o (by decide) (by decide) (by decide) (by decide)]; exact R.1.2
  · rw [i2 1 (by decide) (by decide) (by decide), a4 1 (by decide) (by decide) (by decide), sn_o (by decide) (by decide) (by decide) (by decide)]; exact R.2.2.1 s hs
  · rw [i2 2 (by decide) (by decide) (by decide), a5, sn_2]
    by_cases z : a = g
    · rw [z, pk_us, pk_us]
    · rw [pk_un z, pk_un z]; exact R.ex ha
  · rw [sn_c hfg hs, sn_3]
    by_cases z : a = g
    · subst z
      rw [if_pos rfl, pk_us]
      have h5 := i5 s hs hs
      refine ⟨by rw [h5.1, R.set hf, bt5_mk hs], fun hb => ?_⟩
      have hbt : bt5 (cq_set u f) s = true := by rw [R.set hf, bt5_mk hs]; exact hb
      exact ⟨(h5.2 hbt).1, fun x hx => by dsimp only; rw [sn_4 hfg hx, if_pos rfl]; exact (h5.2 hbt).2 x hx⟩
    · rw [if_neg z, pk_un z]
      have q := ((a2 s a z).tr (i3 s hs a ha z)).rp (R.rp hs ha)
      exact ⟨q.1, fun hb => ⟨(q.2 hb).1, fun x hx => by dsimp only; rw [sn_4 hfg hx, if_neg z]; exact (q.2 hb).2 x hx⟩⟩
  · rw [sn_3]
    by_cases z : a = g
    · rw [z, pk_us]; exact R.len hf
    · rw [pk_un z]; exact R.len ha
end OPF
end
section
/-! THE PLAIN LAW, seventh part: create and heal -/
theorem fst5_all {P : Nat → Bool} {ld : Nat → Nat} : ∀ n, (∀ s, s < n → P s = false) → fst5 P ld n = none
  | 0, _ => rfl
  | n + 1, h => by
    simp only [fst5]
    rw [if_neg (by rw [h n (by omega)]; decide)]
    exact fst5_all n (fun s hs => h s (by omega))
def mq_step (f k : Nat) (p : Pst × Nat) : Pst × Nat := match mq_nx p.1 f with
  | none => p
  | some s => if mq_hu p.1 f < k then (sU p.1 5 (f * 5 + s) (nI 1), p.2 + 1) else p
theorem fiN_s {t : Pst} {f k n : Nat} : mq_fiN t f k (n + 1) = mq_step f k (mq_fiN t f k n) := rfl
theorem step_none {f k : Nat} {p : Pst × Nat} (h : mq_nx p.1 f = none ∨ k ≤ mq_hu p.1 f) : mq_step f k p = p := by
  unfold mq_step
  rcases h with h | h
  · rw [h]
  · cases mq_nx p.1 f with
    | none => rfl
    | some s => dsimp only; rw [if_neg (Nat.not_lt.mpr h)]
theorem step_some {f k s : Nat} {p : Pst × Nat} (h : mq_nx p.1 f = some s) (hk : mq_hu p.1 f < k) : mq_step f k p = (sU p.1 5 (f * 5 + s) (nI 1), p.2 + 1) := by
  unfold mq_step
  rw [h]
  dsimp only
  rw [if_pos hk]
theorem step_or (f k : Nat) (p : Pst × Nat) : (mq_step f k p = p) ∨ ∃ s, mq_nx p.1 f = some s ∧ mq_hu p.1 f < k ∧ mq_step f k p = (sU p.1 5 (f * 5 + s) (nI 1), p.2 + 1) := by
  cases h : mq_nx p.1 f with
  | none => exact Or.inl (step_none (Or.inl h))
  | some s =>
    by_cases hk : mq_hu p.1 f < k
    · exact Or.inr ⟨s, rfl, hk, step_some h hk⟩
    · exact Or.inl (step_none (Or.inr (Nat.not_lt.mp hk)))
theorem step_add {f k n : Nat} {w : Pst} : mq_step f k (w, n + 1) = ((mq_step f k (w, n)).1, (mq_step f k (w, n)).2 + 1) := by
  cases h : mq_nx w f with
  | none => rw [step_none (p := (w, n + 1)) (Or.inl h), step_none (p := (w, n)) (Or.inl h)]
  | some s =>
    by_cases hk : mq_hu w f < k
    · rw [step_some (p := (w, n + 1)) h hk, step_some (p := (w, n)) h hk]
    · rw [step_none (p := (w, n + 1)) (Or.inr (Nat.not_lt.mp hk)), step_none (p := (w, n)) (Or.inr (Nat.not_lt.mp hk))]
theorem fiN_stop {t : Pst} {f k : Nat} (h : mq_nx t f = none ∨ k ≤ mq_hu t f) : ∀ j, mq_fiN t f k j = (t, 0)
  | 0 => rfl
  | j + 1 => by rw [fiN_s, fiN_stop h j]; exact step_none h
theorem fiN_go {t : Pst} {f k s : Nat} (h : mq_nx t f = some s) (hk : mq_hu t f < k) : ∀ j, mq_fiN t f k (j + 1) = ((mq_fiN (sU t 5 (f * 5 + s) (nI 1)) f k j).1, (mq_fiN (sU t 5 (f * 5 + s) (nI 1)) f k j).2 + 1)
  | 0 => by rw [fiN_s]; exact step_some (p := (t, 0)) h hk
  | j + 1 => by rw [fiN_s, fiN_go h hk j, step_add, fiN_s]
theorem nx_of {t : Pst} {f s : Nat} (h : mq_nx t f = some s) : s < 5 ∧ mq_dn t s = false ∧ mq_c t f s = false := by
  obtain ⟨h1, h2⟩ := fst5_lt 5 s h
  simp only [Bool.and_eq_true, Bool.not_eq_true'] at h2
  exact ⟨h1, h2.1, h2.2⟩
theorem c_add {t : Pst} {f s g x : Nat} (hs : s < 5) (hx : x < 5) : mq_c (sU t 5 (f * 5 + s) (nI 1)) g x = if g = f ∧ x = s then true else mq_c t g x := by
  rw [mqc_set]
  by_cases e : g * 5 + x = f * 5 + s
  · rw [if_pos e, if_pos (by omega)]; decide
  · rw [if_neg e, if_neg (by omega)]
theorem dn_add {t : Pst} {i : Nat} {b : Int32} {x : Nat} : mq_dn (sU t 5 i b) x = mq_dn t x := by unfold mq_dn; rw [sU_n (by decide)]
theorem hu_add {t : Pst} {f s : Nat} (hs : s < 5) (h1 : mq_dn t s = false) (h2 : mq_c t f s = false) : mq_hu (sU t 5 (f * 5 + s) (nI 1)) f = mq_hu t f + 1 := by
  have e : mq_hu (sU t 5 (f * 5 + s) (nI 1)) f = cnt (fun x => if x = s then true else mq_c t f x && !mq_dn t x) 5 := cnt_congr 5 (fun x hx => by
    rw [c_add hs hx, dn_add]
    by_cases q : x = s
    · subst q; rw [if_pos ⟨rfl, rfl⟩, if_pos rfl, h1]; rfl
    · rw [if_neg (fun z => q z.2), if_neg q])
  rw [e]
  have := cnt_upd (P := fun x => mq_c t f x && !mq_dn t x) (Q := fun x => if x = s then true else mq_c t f x && !mq_dn t x) (f0 := s) (fun x hx => by simp [hx]) 5
  rw [if_neg (by simp [h2]), if_pos ⟨hs, if_pos rfl⟩] at this
  exact this
theorem Rl_add {k v : Nat} {w t w' : Pst} (R : Rl k v w t) {s f : Nat} (hs : s < 5) (hf : f < 4) (hJ : JJ v w') (ho : ∀ k, k = 0 ∨ k = 1 ∨ k = 2 → w' k = w k) (hS : ∀ a, a < 5 → ∀ g, g < 4 → a * 4 + g ≠ s * 4 + f → Sm w w' a g) (hR : Rp w' s f true (t 3 f) (fun c => t 4 (f * 6 + c))) : Rl k v w' (sU t 5 (f * 5 + s) (nI 1)) := by
  refine Rl_cur R hJ ho (fun k hk => by rw [sU_n hk]) (set_01 (Or.inr rfl) R.2.2.2.2.1) (fun a ha g hg => ?_)
  rw [c_add hs ha]
  by_cases e : g = f ∧ a = s
  · obtain ⟨rfl, rfl⟩ := e
    rw [if_pos ⟨rfl, rfl⟩]; exact hR
  · rw [if_neg e]
    exact (hS a ha g hg (by omega)).rp (R.rp ha hg)
theorem cr_sim {k v f : Nat} (hf : f < 4) : ∀ (n i m : Nat) (w t : Pst), i + n = k → Rl k v w t → m = mk5 (fun s => !mq_dn t s && !mq_c t f s) 5 → mq_hu t f = i → ¬ w 2 f = 0 → t 3 f = nI 0 → (∀ c, c < 6 → t 4 (f * 6 + c) = nI 0) → ∃ t', Rl k v (cq_crL f n m w).1 t' ∧ ∀ j, n ≤ j → mq_fiN t f k j = (t', (cq_crL f n m w).2) := by
  intro n
  induction n with
  | zero =>
    intro i m w t hi R _ hu _ _ _
    exact ⟨t, R, fun j _ => fiN_stop (Or.inr (by omega)) j⟩
  | succ n ih =>
    intro i m w t hi R hm hu he h3 h4
    by_cases h0 : m = 0
    · have e : cq_crL f (n + 1) m w = (w, 0) := by simp only [cq_crL]; rw [if_pos h0]
      rw [e]
      refine ⟨t, R, fun j _ => fiN_stop (Or.inl ?_) j⟩
      rw [hm] at h0
      exact fst5_all 5 (mk5_0.mp h0)
    · have hm32 : m < 32 := by rw [hm]; exact mk5_lt _ 5
      obtain ⟨s, hs, hfs, hbit⟩ := fst_ex (u := w) hm32 h0
      have hnx : mq_nx t f = some s := by
        rw [← hfs, hm, fst_P R]; rfl
      obtain ⟨-, hdn, hcn⟩ := nx_of hnx
      obtain ⟨a1, a2, a3, a4⟩ := mk_J hs hf R.J he
      have R1 : Rl k v (cq_mk w s f) (sU t 5 (f * 5 + s) (nI 1)) := Rl_add R hs hf a1 (fun k hk => a4 k (by omega) (by omega) (by omega) (by omega) (by omega) (by omega)) a2
        ⟨a3.1, fun hb => ⟨by rw [h3]; exact (a3.2 hb).1, fun c hc => by dsimp only; rw [h4 c hc]; exact (a3.2 hb).2 c hc⟩⟩
      have hm1 : m - 2 ^ s = mk5 (fun x => !mq_dn (sU t 5 (f * 5 + s) (nI 1)) x && !mq_c (sU t 5 (f * 5 + s) (nI 1)) f x) 5 := by
        rw [hm, mk5_del hs (by simp [hdn, hcn])]
        refine mk5_congr 5 (fun x hx => ?_)
        rw [dn_add, c_add hs hx]
        by_cases q : x = s
        · subst q; simp
        · simp [q]
      obtain ⟨t', g1, g2⟩ := ih (i + 1) (m - 2 ^ s) (cq_mk w s f) (sU t 5 (f * 5 + s) (nI 1)) (by omega) R1 hm1 (by rw [hu_add hs hdn hcn, hu]) (by rw [a4 2 (by decide) (by decide) (by decide) (by decide) (by decide) (by decide)]; exact he) (by rw [sU_n (by decide)]; exact h3) (fun c hc => by rw [sU_n (by decide)]; exact h4 c hc)
      have e : cq_crL f (n + 1) m w = ((cq_crL f n (m - 2 ^ s) (cq_mk w s f)).1, (cq_crL f n (m - 2 ^ s) (cq_mk w s f)).2 + 1) := by
        simp only [cq_crL, hfs]
        rw [if_neg h0]
      rw [e]
      refine ⟨t', g1, fun j hj => ?_⟩
      obtain ⟨j', rfl⟩ : ∃ j', j = j' + 1 := ⟨j - 1, by omega⟩
      rw [fiN_go hnx (by omega) j', g2 j' (by omega)]
section OPG
variable {k v : Nat} {u t : Pst}
theorem mzN_o {f k : Nat} (hk : k ≠ 4) : ∀ n, mq_zN t f n k = t k
  | 0 => rfl
  | n + 1 => by
    show sU (mq_zN t f n) 4 _ _ k = _
    rw [sU_n hk]; exact mzN_o hk n
theorem mzN_4 {f : Nat} : ∀ n, n ≤ 6 → ∀ a x, x < 6 → mq_zN t f n 4 (a * 6 + x) = if a = f ∧ x < n then nI 0 else t 4 (a * 6 + x)
  | 0, _, a, x, hx => by rw [if_neg (by omega)]; rfl
  | n + 1, hn, a, x, hx => by
    show sU (mq_zN t f n) 4 (f * 6 + n) (nI 0) 4 (a * 6 + x) = _
    rw [sU_s]
    by_cases e : a * 6 + x = f * 6 + n
    · rw [e, pk_us, if_pos (by omega)]
    · rw [pk_un e, mzN_4 n (by omega) a x hx]
      by_cases q : a = f ∧ x < n
      · rw [if_pos q, if_pos (by omega)]
      · rw [if_neg q, if_neg (by omega)]
theorem cr_o {f k : Nat} (h2 : k ≠ 2) (h3 : k ≠ 3) (h4 : k ≠ 4) (h5 : k ≠ 5) : mq_cr t f k = t k := by
  unfold mq_cr
  rw [mzN_o h4, sU_n h3, sU_n h2, clN_o h5]
theorem cr_2 {f : Nat} : mq_cr t f 2 = upd (t 2) f (nI 1) := by
  unfold mq_cr
  rw [mzN_o (by decide), sU_n (by decide), sU_s, clN_o (by decide)]
theorem cr_3 {f : Nat} : mq_cr t f 3 = upd (t 3) f (nI 0) := by
  unfold mq_cr
  rw [mzN_o (by decide), sU_s, sU_n (by decide), clN_o (by decide)]
theorem cr_4 {f a x : Nat} (hx : x < 6) : mq_cr t f 4 (a * 6 + x) = if a = f then nI 0 else t 4 (a * 6 + x) := by
  unfold mq_cr
  rw [mzN_4 6 (Nat.le_refl 6) a x hx, sU_n (by decide), sU_n (by decide), clN_o (by decide)]
  by_cases e : a = f
  · rw [if_pos ⟨e, hx⟩, if_pos e]
  · rw [if_neg (fun z => e z.1), if_neg e]
theorem cr_c {f a s : Nat} (hs : s < 5) : mq_c (mq_cr t f) a s = if a = f then false else mq_c t a s := by
  have : mq_c (mq_cr t f) a s = mq_c (mq_clN t f 5) a s := by
    unfold mq_c mq_cr
    rw [mzN_o (by decide), sU_n (by decide), sU_n (by decide)]
  rw [this, cl_c hs]
theorem op_create (R : Rl k v u t) (hk : k ≤ 3) (hv : v < 1000) (x : Int32) : Op k v (fun u r u' => mIC yX1_create cX1_create 8 .int 4 [.int x] u r u') (fun t r t' => mIM yX2_create cX2_create 3 .int 3 [.int x] t r t') u t := by
  rcases ix4 x with hx | ⟨f, hf, rfl⟩
  · exact Op.same R _ (m_create_bad u x hx) (w_create_bad t x hx)
  by_cases he : ¬ t 2 f = 0
  · exact Op.same R _ (m_create_ex u f hf (by rw [R.ex hf]; exact he)) (w_create_ex t f hf he)
  have he : t 2 f = 0 := Decidable.not_not.mp he
  have he' : u 2 f = 0 := by rw [R.ex hf]; exact he
  have hcf : ∀ s, s < 5 → mq_c t f s = false := fun s hs => by rw [← R.cur hs hf]; exact R.no hs hf he
  have hnx : mq_nx (mq_clN t f 5) f = none ↔ cq_ups u = 0 := by
    rw [R.ups, mk5_0]
    have hP : ∀ s, s < 5 → (!mq_dn (mq_clN t f 5) s && !mq_c (mq_clN t f 5) f s) = !mq_dn t s := fun s hs => by
      have : mq_dn (mq_clN t f 5) s = mq_dn t s := by unfold mq_dn; rw [clN_o (by decide)]
      rw [cl_c hs, if_pos rfl, this]; simp
    constructor
    · intro h s hs
      have := fst5_none 5 h s hs
      rw [hP s hs] at this
      exact this
    · intro h
      exact fst5_all 5 (fun s hs => by rw [hP s hs]; exact h s hs)
  cases hn : mq_nx (mq_clN t f 5) f with
  | none =>
    refine ⟨_, _, _, v, by omega, m_create_ns u f hf he' (hnx.mp hn), w_create_ns t f hf he hn, Rl_cur R R.J (fun _ _ => rfl) (fun k hk => clN_o hk 5) (cl_01 R.2.2.2.2.1) (fun s hs g hg => ?_)⟩
    rw [cl_c hs]
    by_cases e : g = f
    · rw [if_pos e, e]; exact Rp.no (R.no hs hf he)
    · rw [if_neg e]; exact R.rp hs hg
  | some s =>
    have hz : cq_ups u ≠ 0 := fun z => by rw [hnx.mpr z] at hn; cases hn
    obtain ⟨a1, a2, a3, a4, a5⟩ := ver2_J R.J hv hf
    have R0 : Rl k (v + 1) (cq_ver (sU u 2 f (nI 1)) f) (mq_cr t f) := by
      refine ⟨⟨?_, ?_⟩, a1, fun s hs => ?_, fun a ha => ?_, (BM_cr R.bm).2, fun s hs a ha => ?_, fun a ha => ?_⟩
      · rw [a4 0 (by decide) (by decide) (by decide)]; exact R.1.1
      · rw [cr_o (by decide) (by decide) (by decide) (by decide)]; exact R.1.2
      · rw [a4 1 (by decide) (by decide) (by decide), cr_o (by decide) (by decide) (by decide) (by decide)]; exact R.2.2.1 s hs
      · rw [a5, cr_2]
        by_cases z : a = f
        · rw [z, pk_us, pk_us]
        · rw [pk_un z, pk_un z]; exact R.ex ha
      · rw [cr_c hs, cr_3]
        by_cases z : a = f
        · rw [if_pos z, z]; exact Rp.no (a3 s hs)
        · rw [if_neg z, pk_un z]
          have q := (a2 s a z).rp (R.rp hs ha)
          exact ⟨q.1, fun hb => ⟨(q.2 hb).1, fun x hx => by dsimp only; rw [cr_4 hx, if_neg z]; exact (q.2 hb).2 x hx⟩⟩
      · rw [cr_3]
        by_cases z : a = f
        · rw [z, pk_us]; exact ⟨0, by omega, rfl⟩
        · rw [pk_un z]; exact R.len ha
    have hc0 : ∀ s, s < 5 → mq_c (mq_cr t f) f s = false := fun s hs => by rw [cr_c hs, if_pos rfl]
    have hd0 : ∀ s, mq_dn (mq_cr t f) s = mq_dn t s := fun s => by unfold mq_dn; rw [cr_o (by decide) (by decide) (by decide) (by decide)]
    have hm : cq_ups u = mk5 (fun s => !mq_dn (mq_cr t f) s && !mq_c (mq_cr t f) f s) 5 := by
      rw [R.ups]
      exact mk5_congr 5 (fun s hs => by rw [hc0 s hs, hd0]; simp)
    have hu0 : mq_hu (mq_cr t f) f = 0 := by
      have : mq_hu (mq_cr t f) f = cnt (fun _ => false) 5 := cnt_congr 5 (fun s hs => by rw [hc0 s hs]; rfl)
      rw [this]; rfl
    obtain ⟨t', g1, g2⟩ := cr_sim hf k 0 (cq_ups u) _ _ (by omega) R0 hm hu0 (by rw [a5, pk_us]; decide) (by rw [cr_3, pk_us]) (fun c hc => by rw [cr_4 hc, if_pos rfl])
    have q2 := w_create_ok t f k hf R.bm hk s he hn
    rw [g2 5 (by omega)] at q2
    exact ⟨_, _, _, v + 1, Nat.le_refl _, m_create_ok u f k hf R.bi hk he' hz, q2, g1⟩
-- heal
theorem hf_sim (R : Rl k v u t) {f s0 : Nat} (hf : f < 4) (hs0 : s0 < 5) (hc : mq_c t f s0 = true) : ∀ n, Rl k v (cq_hfN u f s0 k n).1 (mq_fiN t f k n).1 ∧ (cq_hfN u f s0 k n).2 = (mq_fiN t f k n).2 ∧ mq_c (mq_fiN t f k n).1 f s0 = true
  | 0 => ⟨R, rfl, hc⟩
  | n + 1 => by
    obtain ⟨R', e2, c2⟩ := hf_sim R hf hs0 hc n
    rw [fiN_s]
    simp only [cq_hfN]
    rw [R'.nx hf, R'.hu hf]
    unfold mq_step
    cases ho : mq_nx (mq_fiN t f k n).1 f with
    | none => exact ⟨R', e2, c2⟩
    | some t0 =>
      dsimp only
      by_cases hk : mq_hu (mq_fiN t f k n).1 f < k
      · rw [if_pos hk, if_pos hk]
        obtain ⟨ht0, hdn, hcn⟩ := nx_of ho
        have hne : t0 ≠ s0 := fun z => by rw [z, c2] at hcn; cases hcn
        have hr := R'.rp hs0 hf
        rw [c2] at hr
        obtain ⟨a1, a2, a3, a4⟩ := rep_J hs0 ht0 hf hne R'.J hr
        refine ⟨Rl_add R' ht0 hf a1 (fun k hk => a4 k (by omega) (by omega) (by omega) (by omega) (by omega) (by omega)) a2 a3, ?_, ?_⟩
        · dsimp only; rw [e2]
        · dsimp only
          rw [c_add ht0 hs0, if_neg (fun z => hne z.2.symm)]
          exact c2
      · rw [if_neg hk, if_neg hk]
        exact ⟨R', e2, c2⟩
theorem fi_A {f : Nat} : ∀ n, (mq_fiN t f k n).2 = n ∨ ∀ j, n ≤ j → mq_fiN t f k j = mq_fiN t f k n
  | 0 => Or.inl rfl
  | n + 1 => by
    rcases fi_A (f := f) n with h | h
    · rcases step_or f k (mq_fiN t f k n) with e | ⟨s, -, -, e⟩
      · refine Or.inr (fun j hj => ?_)
        have stay : ∀ d, mq_fiN t f k (n + d) = mq_fiN t f k n := by
          intro d
          induction d with
          | zero => rfl
          | succ d ih => rw [← Nat.add_assoc, fiN_s, ih, e]
        obtain ⟨d, rfl⟩ : ∃ d, j = n + d := ⟨j - n, by omega⟩
        rw [stay d, fiN_s, e]
      · refine Or.inl ?_
        rw [fiN_s, e]
        dsimp only
        rw [h]
    · exact Or.inr (fun j hj => by rw [h j (by omega), h (n + 1) (by omega)])
theorem fi_B {f : Nat} : ∀ n, mq_hu (mq_fiN t f k n).1 f = mq_hu t f + (mq_fiN t f k n).2 ∧ ((mq_fiN t f k n).2 = 0 ∨ mq_hu (mq_fiN t f k n).1 f ≤ k)
  | 0 => ⟨rfl, Or.inl rfl⟩
  | n + 1 => by
    obtain ⟨h1, h2⟩ := fi_B (f := f) n
    rw [fiN_s]
    rcases step_or f k (mq_fiN t f k n) with e | ⟨s, hn, hk, e⟩
    · rw [e]; exact ⟨h1, h2⟩
    · obtain ⟨hs, hdn, hcn⟩ := nx_of hn
      rw [e]
      dsimp only
      rw [hu_add hs hdn hcn]
      exact ⟨by omega, Or.inr (by omega)⟩
theorem fi_stab {f : Nat} (hk1 : 1 ≤ k) (h : mq_hu t f ≠ 0) : ∀ j, k ≤ j → mq_fiN t f k j = mq_fiN t f k k := by
  rcases fi_A (t := t) (k := k) (f := f) k with e | e
  · obtain ⟨h1, h2⟩ := fi_B (t := t) (k := k) (f := f) k
    omega
  · exact e
theorem he_sim (R : Rl k v u t) (hk1 : 1 ≤ k) (hk : k ≤ 3) : ∀ n, n ≤ 4 → Rl k v (cq_heN u k n).1 (mq_heN t k n).1 ∧ (cq_heN u k n).2 = (mq_heN t k n).2
  | 0, _ => ⟨R, rfl⟩
  | n + 1, hn => by
    obtain ⟨R', e2⟩ := he_sim R hk1 hk n (by omega)
    have hf : n < 4 := by omega
    simp only [cq_heN, mq_heN]
    generalize cq_heN u k n = p at *
    generalize mq_heN t k n = q at *
    by_cases he : q.1 2 n = 0
    · have he' : p.1 2 n = 0 := by rw [R'.ex hf]; exact he
      have hr : ¬ mq_rf q.1 n = 0 := by simp [mq_rf, he]
      rw [if_pos he', if_neg hr]
      exact ⟨R', e2⟩
    · have he' : ¬ p.1 2 n = 0 := by rw [R'.ex hf]; exact he
      rw [if_neg he']
      rcases src_or R' hf with ⟨h1, h2⟩ | ⟨s, j, hs, h1, h2, hc, -⟩
      · have hr : ¬ mq_rf q.1 n = 0 := by simp [mq_rf, he, h2]
        have e : cq_hf p.1 n k = (p.1, 0) := by simp only [cq_hf, h1]
        rw [if_neg hr, e]
        exact ⟨R', e2⟩
      · have hr : mq_rf q.1 n = 0 := by simp [mq_rf, he, h2]
        have e : cq_hf p.1 n k = cq_hfN p.1 n s k k := by simp only [cq_hf, h1]
        have hcm : mq_c q.1 n s = true := by rw [← R'.cur hs hf]; exact hc
        obtain ⟨g1, g2, -⟩ := hf_sim R' hf hs hcm k
        rw [if_pos hr, e, fi_stab hk1 h2 5 (by omega)]
        exact ⟨g1, by dsimp only; rw [g2, e2]⟩
theorem op_heal (R : Rl k v u t) (hk1 : 1 ≤ k) (hk : k ≤ 3) : Op k v (fun u r u' => mIC yX1_heal cX1_heal 3 .int 5 [] u r u') (fun t r t' => mIM yX2_heal cX2_heal 3 .int 3 [] t r t') u t := by
  obtain ⟨R', e⟩ := he_sim R hk1 hk 4 (Nat.le_refl 4)
  have q := m_heal u k R.bi hk
  rw [e] at q
  exact ⟨_, _, _, v, by omega, q, w_heal t k R.bm hk, R'⟩
end OPG
end
section
/-! THE CONSTRUCTORS -/
def zP : Pst := fun _ _ => 0
def InX (X : XX Pst) : Prop := match X with
  | (p, l, e, R, s, m, args, below, meth, c, cells, slots, nL, Q, wd) => meth.name = "<init>"
def KK (x : Int32) (k : Nat) : Prop := (x < nI 1 ∧ k = 1) ∨ (nI 3 < x ∧ k = 3) ∨ (1 ≤ k ∧ k ≤ 3 ∧ x = nI k)
theorem KK_ex (x : Int32) : ∃ k, 1 ≤ k ∧ k ≤ 3 ∧ KK x k := by
  by_cases h1 : x < nI 1
  · exact ⟨1, by decide, by decide, Or.inl ⟨h1, rfl⟩⟩
  · by_cases h3 : nI 3 < x
    · exact ⟨3, by decide, by decide, Or.inr (Or.inl ⟨h3, rfl⟩)⟩
    · rcases pk_ix x (n := 4) (by decide) with h | h | ⟨j, hj, h⟩
      · exact absurd (Int32.lt_iff_toInt_lt.mpr (by have := Int32.lt_iff_toInt_lt.mp h; rw [nI_toInt (by decide)]; simp at this; omega)) h1
      · exact absurd (Int32.lt_iff_toInt_lt.mpr (by have := Int32.le_iff_toInt_le.mp h; rw [nI_toInt (by decide)] at this ⊢; omega)) h3
      · refine ⟨j, ?_, by omega, Or.inr (Or.inr ⟨?_, by omega, h⟩)⟩
        · rcases Nat.eq_zero_or_pos j with z | z
          · subst z; rw [h] at h1; exact absurd (by decide) h1
          · exact z
        · rcases Nat.eq_zero_or_pos j with z | z
          · subst z; rw [h] at h1; exact absurd (by decide) h1
          · exact z
theorem KK_13 {x : Int32} (h : nI 3 < x) : nI 1 ≤ x := by
  have := Int32.lt_iff_toInt_lt.mp h
  rw [nI_toInt (by decide)] at this
  refine Int32.le_iff_toInt_le.mpr ?_
  rw [nI_toInt (by decide)]
  omega
def cq_i1 (u : Pst) : Nat → Pst
  | 0 => u
  | n + 1 => sU (cq_i1 u n) 1 n (nI 1)
def cq_i2 (u : Pst) : Nat → Pst
  | 0 => u
  | n + 1 => sU (cq_i2 u n) 5 n (-1)
def u0C (k : Nat) : Pst := cq_i2 (cq_i1 (sU zP 0 0 (nI k)) 5) 20
def u0M (k : Nat) : Pst := sU zP 0 0 (nI k)
theorem cc_pF0 {X : XX Pst} {cc : ByteArray} {lev : Nat} {h : Nat → Nat} {u : Pst} {pc : Nat} {lv : List (Option Value)} {st : List Value} {x : Int32} (hC : CkC X cc lev h) (hi : InX X) (d : decode cc pc = .ok (.putfield 38, 3)) (kk : CG X (sU u 0 0 x) (pc + 3) lv st) : CG X u pc lv (.int x :: .ref (h 0) :: st) := by
  obtain ⟨p, l, e, R, s, m, args, below, meth, c, cells, slots, nL, Q, wd⟩ := X
  obtain ⟨⟨hx, hb⟩, hml, hown, hts, hrm, D, dZ, dN, A, hK, hA, rfl⟩ := hC
  intro H locs ls hw hl
  exact va_putF (D := D) (ci := 0) (v := .int x) (ty := .int) (C := RX1) (T := TX1) (N := 11) hx hb hts in_X1 tyX1 tyX1_ok nmX1 hown hK hw.1 hw.2.1 hw.2.2 0 (fs := fsC h u) rfl rfl 0 (by decide) (hts _ q34) (fun _ h9 => h9) rfl hi rfl (by decide +kernel) rfl rfl (Nat.le_of_ble_eq_true rfl) d (fun H1 locs1 hP hD hS => kk H1 locs1 ls ⟨hP, hD, hS⟩ hl)
theorem mc_pF0 {X : XX Pst} {cc : ByteArray} {lev : Nat} {h : Nat → Nat} {u : Pst} {pc : Nat} {lv : List (Option Value)} {st : List Value} {x : Int32} (hC : CkM X cc lev h) (hi : InX X) (d : decode cc pc = .ok (.putfield 26, 3)) (kk : CG X (sU u 0 0 x) (pc + 3) lv st) : CG X u pc lv (.int x :: .ref (h 0) :: st) := by
  obtain ⟨p, l, e, R, s, m, args, below, meth, c, cells, slots, nL, Q, wd⟩ := X
  obtain ⟨⟨hx, hb⟩, hml, hown, hts, hrm, D, dZ, dN, A, hK, hA, rfl⟩ := hC
  intro H locs ls hw hl
  exact va_putF (D := D) (ci := 1) (v := .int x) (ty := .int) (C := RX2) (T := TX2) (N := 6) hx hb hts in_X2 tyX2 tyX2_ok nmX2 hown hK hw.1 hw.2.1 hw.2.2 0 (fs := fsM h u) rfl rfl 0 (by decide) (hts _ q205) (fun _ h9 => h9) rfl hi rfl (by decide +kernel) rfl rfl (Nat.le_of_ble_eq_true rfl) d (fun H1 locs1 hP hD hS => kk H1 locs1 ls ⟨hP, hD, hS⟩ hl)
theorem tailC {X : XX Pst} {h : Nat → Nat} {k : Nat} {x : Int32} (hC : CkC X cX1_init 1 h) (hi : InX X) (hret : ∀ (pc : Nat) (lv : List (Option Value)) (u1 : Pst), decode cX1_init pc = .ok (.return_, 1) → u1 = u0C k → CG X u1 pc lv []) (hk : KK x k) : CG X zP 73 [some (.ref (h 0)), some (.int x), none, none] [] := by
  have hX := hC.ck
  have loop2 : ∀ n i, i + n = 20 → CG X (cq_i2 (cq_i1 (sU zP 0 0 (nI k)) 5) i) 116 [some (.ref (h 0)), some (.int x), some (.int (nI k)), some (.int (nI i))] [] := by
    intro n
    induction n with
    | zero =>
      intro i hi
      obtain rfl : i = 20 := by omega
      refine r_iload_n 3 hX dX1_init_116 rfl rfl ?_
      refine r_bipush (nI 20) hX dX1_init_117 (by decide) ?_
      refine r_icmp_geNT 135 hX dX1_init_119 (by decide) (by omega) ?_
      exact hret _ _ _ dX1_init_135 (rfl)
    | succ n ih =>
      intro i hi
      refine r_iload_n 3 hX dX1_init_116 rfl rfl ?_
      refine r_bipush (nI 20) hX dX1_init_117 (by decide) ?_
      refine r_icmp_geNF 135 hX dX1_init_119 (by decide) (by omega) ?_
      refine r_aload_n 0 hX dX1_init_122 rfl rfl ?_
      refine cc_g5 hC dX1_init_123 ?_
      refine r_iload_n 3 hX dX1_init_126 rfl rfl ?_
      refine r_iconst (-1) hX dX1_init_127 (by decide) ?_
      refine cc_s5 hC dX1_init_128 (by omega) ?_
      refine r_iincN 3 (lv' := [_, _, _, _]) hX dX1_init_129 rfl (Nat.le_of_ble_eq_true rfl) rfl ?_
      refine r_goto 116 hX dX1_init_132 (by decide) ?_
      exact ih (i + 1) (by omega)
  have loop1 : ∀ n i, i + n = 5 → CG X (cq_i1 (sU zP 0 0 (nI k)) i) 96 [some (.ref (h 0)), some (.int x), some (.int (nI k)), some (.int (nI i))] [] := by
    intro n
    induction n with
    | zero =>
      intro i hi
      obtain rfl : i = 5 := by omega
      refine r_iload_n 3 hX dX1_init_96 rfl rfl ?_
      refine r_iconst (nI 5) hX dX1_init_97 (by decide) ?_
      refine r_icmp_geNT 114 hX dX1_init_98 (by decide) (by omega) ?_
      refine r_iconst (nI 0) hX dX1_init_114 (by decide) ?_
      refine r_istore_n 3 (lv' := [_, _, _, _]) hX dX1_init_115 rfl (Nat.le_of_ble_eq_true rfl) rfl ?_
      exact loop2 20 0 rfl
    | succ n ih =>
      intro i hi
      refine r_iload_n 3 hX dX1_init_96 rfl rfl ?_
      refine r_iconst (nI 5) hX dX1_init_97 (by decide) ?_
      refine r_icmp_geNF 114 hX dX1_init_98 (by decide) (by omega) ?_
      refine r_aload_n 0 hX dX1_init_101 rfl rfl ?_
      refine cc_g1 hC dX1_init_102 ?_
      refine r_iload_n 3 hX dX1_init_105 rfl rfl ?_
      refine r_iconst (nI 1) hX dX1_init_106 (by decide) ?_
      refine cc_s1 hC dX1_init_107 (by omega) (by decide) ?_
      refine r_iincN 3 (lv' := [_, _, _, _]) hX dX1_init_108 rfl (Nat.le_of_ble_eq_true rfl) rfl ?_
      refine r_goto 96 hX dX1_init_111 (by decide) ?_
      exact ih (i + 1) (by omega)
  have tail : CG X (sU zP 0 0 (nI k)) 94 [some (.ref (h 0)), some (.int x), some (.int (nI k)), none] [] := by
    refine r_iconst (nI 0) hX dX1_init_94 (by decide) ?_
    refine r_istore_n 3 (lv' := [_, _, _, _]) hX dX1_init_95 rfl (Nat.le_of_ble_eq_true rfl) rfl ?_
    exact loop1 5 0 rfl
  rcases hk with ⟨hx, rfl⟩ | ⟨hx, rfl⟩ | ⟨h1, h3, rfl⟩
  · refine r_iload_n 1 hX dX1_init_73 rfl rfl ?_
    refine r_istore_n 2 (lv' := [_, _, _, _]) hX dX1_init_74 rfl (Nat.le_of_ble_eq_true rfl) rfl ?_
    refine r_iload_n 2 hX dX1_init_75 rfl rfl ?_
    refine r_iconst (nI 1) hX dX1_init_76 (by decide) ?_
    refine r_icmp_ge 82 hX dX1_init_77 (by decide) (fun c77 => ?_) (fun c77 => ?_)
    · exact absurd c77 (Int32.not_le.mpr hx)
    · refine r_iconst (nI 1) hX dX1_init_80 (by decide) ?_
      refine r_istore_n 2 (lv' := [_, _, _, _]) hX dX1_init_81 rfl (Nat.le_of_ble_eq_true rfl) rfl ?_
      refine r_iload_n 2 hX dX1_init_82 rfl rfl ?_
      refine r_iconst (nI 3) hX dX1_init_83 (by decide) ?_
      refine r_icmp_leNT 89 hX dX1_init_84 (by decide) (by omega) ?_
      refine r_aload_n 0 hX dX1_init_89 rfl rfl ?_
      refine r_iload_n 2 hX dX1_init_90 rfl rfl ?_
      refine cc_pF0 hC hi dX1_init_91 ?_
      exact tail
  · refine r_iload_n 1 hX dX1_init_73 rfl rfl ?_
    refine r_istore_n 2 (lv' := [_, _, _, _]) hX dX1_init_74 rfl (Nat.le_of_ble_eq_true rfl) rfl ?_
    refine r_iload_n 2 hX dX1_init_75 rfl rfl ?_
    refine r_iconst (nI 1) hX dX1_init_76 (by decide) ?_
    refine r_icmp_ge 82 hX dX1_init_77 (by decide) (fun c77 => ?_) (fun c77 => ?_)
    · refine r_iload_n 2 hX dX1_init_82 rfl rfl ?_
      refine r_iconst (nI 3) hX dX1_init_83 (by decide) ?_
      refine r_icmp_le 89 hX dX1_init_84 (by decide) (fun c84 => ?_) (fun c84 => ?_)
      · exact absurd c84 (Int32.not_le.mpr hx)
      · refine r_iconst (nI 3) hX dX1_init_87 (by decide) ?_
        refine r_istore_n 2 (lv' := [_, _, _, _]) hX dX1_init_88 rfl (Nat.le_of_ble_eq_true rfl) rfl ?_
        refine r_aload_n 0 hX dX1_init_89 rfl rfl ?_
        refine r_iload_n 2 hX dX1_init_90 rfl rfl ?_
        refine cc_pF0 hC hi dX1_init_91 ?_
        exact tail
    · exact absurd (KK_13 hx) c77
  · refine r_iload_n 1 hX dX1_init_73 rfl rfl ?_
    refine r_istore_n 2 (lv' := [_, _, _, _]) hX dX1_init_74 rfl (Nat.le_of_ble_eq_true rfl) rfl ?_
    refine r_iload_n 2 hX dX1_init_75 rfl rfl ?_
    refine r_iconst (nI 1) hX dX1_init_76 (by decide) ?_
    refine r_icmp_geNT 82 hX dX1_init_77 (by decide) (by omega) ?_
    refine r_iload_n 2 hX dX1_init_82 rfl rfl ?_
    refine r_iconst (nI 3) hX dX1_init_83 (by decide) ?_
    refine r_icmp_leNT 89 hX dX1_init_84 (by decide) (by omega) ?_
    refine r_aload_n 0 hX dX1_init_89 rfl rfl ?_
    refine r_iload_n 2 hX dX1_init_90 rfl rfl ?_
    refine cc_pF0 hC hi dX1_init_91 ?_
    exact tail
theorem tailM {X : XX Pst} {h : Nat → Nat} {k : Nat} {x : Int32} (hC : CkM X cX2_init 1 h) (hi : InX X) (hret : ∀ (pc : Nat) (lv : List (Option Value)) (u1 : Pst), decode cX2_init pc = .ok (.return_, 1) → u1 = u0M k → CG X u1 pc lv []) (hk : KK x k) : CG X zP 41 [some (.ref (h 0)), some (.int x)] [] := by
  have hX := hC.ck
  rcases hk with ⟨hx, rfl⟩ | ⟨hx, rfl⟩ | ⟨h1, h3, rfl⟩
  · refine r_aload_n 0 hX dX2_init_41 rfl rfl ?_
    refine r_iload_n 1 hX dX2_init_42 rfl rfl ?_
    refine r_iconst (nI 1) hX dX2_init_43 (by decide) ?_
    refine r_icmp_ge 51 hX dX2_init_44 (by decide) (fun c44 => ?_) (fun c44 => ?_)
    · exact absurd c44 (Int32.not_le.mpr hx)
    · refine r_iconst (nI 1) hX dX2_init_47 (by decide) ?_
      refine r_goto 61 hX dX2_init_48 (by decide) ?_
      refine mc_pF0 hC hi dX2_init_61 ?_
      exact hret _ _ _ dX2_init_64 (rfl)
  · refine r_aload_n 0 hX dX2_init_41 rfl rfl ?_
    refine r_iload_n 1 hX dX2_init_42 rfl rfl ?_
    refine r_iconst (nI 1) hX dX2_init_43 (by decide) ?_
    refine r_icmp_ge 51 hX dX2_init_44 (by decide) (fun c44 => ?_) (fun c44 => ?_)
    · refine r_iload_n 1 hX dX2_init_51 rfl rfl ?_
      refine r_iconst (nI 3) hX dX2_init_52 (by decide) ?_
      refine r_icmp_le 60 hX dX2_init_53 (by decide) (fun c53 => ?_) (fun c53 => ?_)
      · exact absurd c53 (Int32.not_le.mpr hx)
      · refine r_iconst (nI 3) hX dX2_init_56 (by decide) ?_
        refine r_goto 61 hX dX2_init_57 (by decide) ?_
        refine mc_pF0 hC hi dX2_init_61 ?_
        exact hret _ _ _ dX2_init_64 (rfl)
    · exact absurd (KK_13 hx) c44
  · refine r_aload_n 0 hX dX2_init_41 rfl rfl ?_
    refine r_iload_n 1 hX dX2_init_42 rfl rfl ?_
    refine r_iconst (nI 1) hX dX2_init_43 (by decide) ?_
    refine r_icmp_geNT 51 hX dX2_init_44 (by decide) (by omega) ?_
    refine r_iload_n 1 hX dX2_init_51 rfl rfl ?_
    refine r_iconst (nI 3) hX dX2_init_52 (by decide) ?_
    refine r_icmp_leNT 60 hX dX2_init_53 (by decide) (by omega) ?_
    refine r_iload_n 1 hX dX2_init_60 rfl rfl ?_
    refine mc_pF0 hC hi dX2_init_61 ?_
    exact hret _ _ _ dX2_init_64 (rfl)
theorem fw_cr (x : Nat) : (Value.ref x).category = 1 := rfl
abbrev fs0C : List Value := [.int 0, .null, .null, .null, .int 0, .null, .null, .null, .null, .null, .null]
set_option maxHeartbeats 4000000 in
set_option maxRecDepth 100000 in
theorem n_C (l : Launch) (D : va_G) (q sz : Nat) (x : Int32) (k : Nat) (hk : KK x k) : Met l yX1_init (ws_ yX1_init cX1_init 4 none) ({ frames := 1, cells := 9, slots := 233, locals := 30 }) (va_Pc [.ref q, .int x] (fun U => U.heap.size = sz ∧ va_P D vwCl [(q, .inr (0, fs0C))] U.heap ∧ va_K D vwCl [] U ∧ va_D (fun _ => True) [(q, .inr (0, fs0C))])) (va_Qv (fun w : ClassId × ClassId × (Nat → Nat) => w.2.2 0 = q) (fun w t => va_P D vwCl (cwC w.1 w.2.1 w.2.2 (u0C k)) t.heap ∧ va_K D vwCl (tyA w.1 w.2.1) t ∧ va_D (va_A [(q, .inr (0, fs0C))] sz) (cwC w.1 w.2.1 w.2.2 (u0C k))) (va_A [(q, .inr (0, fs0C))] sz)) 9 233 (va_A [(q, .inr (0, fs0C))] sz) := by
  refine Met.ofW (cc := cX1_init) (maxL := 4) (ret := none) (by decide) rfl ?_
  intro p e s m args below meth c s₁ B hml hv
  obtain ⟨rfl, hsz, hP, hK, hD0⟩ := hv
  have hx := B.exec
  have hb := B.bytes
  have hr := B.returns
  have hts := atoms_spec (ws := ws_ yX1_init cX1_init 4 none) B.pre
  have hts : ∀ w ∈ lw_all, w.before _ s = true := fun w h => hts w (List.mem_cons_of_mem _ h)
  have hown : s.vm.findClass RX1 = some m.cls := findClass_of_methodNamed B.named
  have hlocks := B.notSynchronized
  have hin : meth.name = "<init>" := (name_of_methodNamed B.named B.method).1
  subst hsz
  have hD := hD0.self (sz := s.heap.size)
  generalize hAe : va_A [(q, .inr (0, fs0C))] s.heap.size = A at hD ⊢
  have hA : ∀ q : Nat, s.heap.size ≤ q → A q := fun q h => by rw [← hAe]; exact Or.inr h
  have hS : va_S A s.heap s.heap [] := va_S.rf
  have hl := lv_entry ([.ref q, .int x]) (n := 4) (Nat.le_of_ble_eq_true rfl)
  have hlo := lo_entry hl (Nat.le_of_ble_eq_true rfl) (by simp [fw_ci, fw_cr])
  rw [lg_entry_eq]
  generalize (lg_sl ([.ref q, .int x]) ++ List.replicate (4 - (lg_sl ([.ref q, .int x])).length) Slot.unset).toArray = ls at hl hlo ⊢
  have hl : lv_has ls 4 [(0, .ref q), (1, .int x)] := hl
  refine lv_aload_n hx hb dX1_init_0 rfl (lv_at hl 0 rfl) ?_
  refine W.objInit hx hb hown (hts _ q31) (hts _ q32) (hts _ q33) rfl (by rw [hml]; exact hl.1) rfl dX1_init_1 (Nat.le_of_ble_eq_true rfl) (Nat.le_of_ble_eq_true rfl) ?_
  refine W.eq (g2 := F0 m 4 ls []) rfl ?_
  refine lv_aload_n hx hb dX1_init_4 rfl (lv_at hl 0 rfl) ?_
  refine lv_iconst (v := 5) hx hb dX1_init_5 (by decide) ?_
  refine va_newa (atype := .boolean) (n := 5) (N' := 5) (a0 := (5, .inl (fun _ => 0))) (ty := .boolean) hx hb (hts _ q68) rfl hK hP hD hS hA (fun _ => rfl) (by decide) (by decide) (by decide) (by decide) (by decide) dX1_init_6 (fun a1 d1 H hK hP hD hS => ?_)
  refine va_putF (D := D) (ci := 0) (v := .ref a1) (ty := .array .boolean) (C := RX1) (T := TX1) (N := 11) hx hb hts in_X1 tyX1 tyX1_ok nmX1 hown hK hP hD hS 0 rfl rfl 1 (by decide) (hts _ q35) (fun _ h9 => h9) rfl hin rfl (by decide +kernel) rfl rfl (Nat.le_of_ble_eq_true rfl) dX1_init_8 (fun H locs hP hD hS => ?_)
  have hP : va_P D vwCl [(q, .inr (0, [.int 0, .ref a1, .null, .null, .int 0, .null, .null, .null, .null, .null, .null])), (a1, .inl (d1, 5, .inl (fun _ => 0)))] H := hP
  have hD : va_D A [(q, .inr (0, [.int 0, .ref a1, .null, .null, .int 0, .null, .null, .null, .null, .null, .null])), (a1, .inl (d1, 5, .inl (fun _ => 0)))] := hD
  have hK : va_K D vwCl [(d1, .boolean)] s := hK
  refine lv_aload_n hx hb dX1_init_11 rfl (lv_at hl 0 rfl) ?_
  refine lv_iconst (v := 4) hx hb dX1_init_12 (by decide) ?_
  refine va_newa (atype := .boolean) (n := 4) (N' := 4) (a0 := (4, .inl (fun _ => 0))) (ty := .boolean) hx hb (hts _ q68) rfl hK hP hD hS hA (fun _ => rfl) (by decide) (by decide) (by decide) (by decide) (by decide) dX1_init_13 (fun a2 d2 H hK hP hD hS => ?_)
  refine va_putF (D := D) (ci := 0) (v := .ref a2) (ty := .array .boolean) (C := RX1) (T := TX1) (N := 11) hx hb hts in_X1 tyX1 tyX1_ok nmX1 hown hK hP hD hS 0 rfl rfl 2 (by decide) (hts _ q36) (fun _ h9 => h9) rfl hin rfl (by decide +kernel) rfl rfl (Nat.le_of_ble_eq_true rfl) dX1_init_15 (fun H locs hP hD hS => ?_)
  have hP : va_P D vwCl [(q, .inr (0, [.int 0, .ref a1, .ref a2, .null, .int 0, .null, .null, .null, .null, .null, .null])), (a1, .inl (d1, 5, .inl (fun _ => 0))), (a2, .inl (d2, 4, .inl (fun _ => 0)))] H := hP
  have hD : va_D A [(q, .inr (0, [.int 0, .ref a1, .ref a2, .null, .int 0, .null, .null, .null, .null, .null, .null])), (a1, .inl (d1, 5, .inl (fun _ => 0))), (a2, .inl (d2, 4, .inl (fun _ => 0)))] := hD
  have hK : va_K D vwCl [(d1, .boolean), (d2, .boolean)] s := hK
  refine lv_aload_n hx hb dX1_init_18 rfl (lv_at hl 0 rfl) ?_
  refine lv_iconst (v := 4) hx hb dX1_init_19 (by decide) ?_
  refine va_newa (atype := .int) (n := 4) (N' := 4) (a0 := (4, .inl (fun _ => 0))) (ty := .int) hx hb (hts _ q69) rfl hK hP hD hS hA (fun _ => rfl) (by decide) (by decide) (by decide) (by decide) (by decide) dX1_init_20 (fun a3 d3 H hK hP hD hS => ?_)
  refine va_putF (D := D) (ci := 0) (v := .ref a3) (ty := .array .int) (C := RX1) (T := TX1) (N := 11) hx hb hts in_X1 tyX1 tyX1_ok nmX1 hown hK hP hD hS 0 rfl rfl 3 (by decide) (hts _ q37) (fun _ h9 => h9) rfl hin rfl (by decide +kernel) rfl rfl (Nat.le_of_ble_eq_true rfl) dX1_init_22 (fun H locs hP hD hS => ?_)
  have hP : va_P D vwCl [(q, .inr (0, [.int 0, .ref a1, .ref a2, .ref a3, .int 0, .null, .null, .null, .null, .null, .null])), (a1, .inl (d1, 5, .inl (fun _ => 0))), (a2, .inl (d2, 4, .inl (fun _ => 0))), (a3, .inl (d3, 4, .inl (fun _ => 0)))] H := hP
  have hD : va_D A [(q, .inr (0, [.int 0, .ref a1, .ref a2, .ref a3, .int 0, .null, .null, .null, .null, .null, .null])), (a1, .inl (d1, 5, .inl (fun _ => 0))), (a2, .inl (d2, 4, .inl (fun _ => 0))), (a3, .inl (d3, 4, .inl (fun _ => 0)))] := hD
  have hK : va_K D vwCl [(d1, .boolean), (d2, .boolean), (d3, .int)] s := hK
  refine lv_aload_n hx hb dX1_init_25 rfl (lv_at hl 0 rfl) ?_
  refine lv_bipush (v := 20) hx hb dX1_init_26 (by decide) ?_
  refine va_newa (atype := .int) (n := 20) (N' := 20) (a0 := (20, .inl (fun _ => 0))) (ty := .int) hx hb (hts _ q69) rfl hK hP hD hS hA (fun _ => rfl) (by decide) (by decide) (by decide) (by decide) (by decide) dX1_init_28 (fun a5 d5 H hK hP hD hS => ?_)
  refine va_putF (D := D) (ci := 0) (v := .ref a5) (ty := .array .int) (C := RX1) (T := TX1) (N := 11) hx hb hts in_X1 tyX1 tyX1_ok nmX1 hown hK hP hD hS 0 rfl rfl 5 (by decide) (hts _ q39) (fun _ h9 => h9) rfl hin rfl (by decide +kernel) rfl rfl (Nat.le_of_ble_eq_true rfl) dX1_init_30 (fun H locs hP hD hS => ?_)
  have hP : va_P D vwCl [(q, .inr (0, [.int 0, .ref a1, .ref a2, .ref a3, .int 0, .ref a5, .null, .null, .null, .null, .null])), (a1, .inl (d1, 5, .inl (fun _ => 0))), (a2, .inl (d2, 4, .inl (fun _ => 0))), (a3, .inl (d3, 4, .inl (fun _ => 0))), (a5, .inl (d5, 20, .inl (fun _ => 0)))] H := hP
  have hD : va_D A [(q, .inr (0, [.int 0, .ref a1, .ref a2, .ref a3, .int 0, .ref a5, .null, .null, .null, .null, .null])), (a1, .inl (d1, 5, .inl (fun _ => 0))), (a2, .inl (d2, 4, .inl (fun _ => 0))), (a3, .inl (d3, 4, .inl (fun _ => 0))), (a5, .inl (d5, 20, .inl (fun _ => 0)))] := hD
  have hK : va_K D vwCl [(d1, .boolean), (d2, .boolean), (d3, .int), (d5, .int)] s := hK
  refine lv_aload_n hx hb dX1_init_33 rfl (lv_at hl 0 rfl) ?_
  refine lv_bipush (v := 20) hx hb dX1_init_34 (by decide) ?_
  refine va_newa (atype := .int) (n := 20) (N' := 20) (a0 := (20, .inl (fun _ => 0))) (ty := .int) hx hb (hts _ q69) rfl hK hP hD hS hA (fun _ => rfl) (by decide) (by decide) (by decide) (by decide) (by decide) dX1_init_36 (fun a6 d6 H hK hP hD hS => ?_)
  refine va_putF (D := D) (ci := 0) (v := .ref a6) (ty := .array .int) (C := RX1) (T := TX1) (N := 11) hx hb hts in_X1 tyX1 tyX1_ok nmX1 hown hK hP hD hS 0 rfl rfl 6 (by decide) (hts _ q40) (fun _ h9 => h9) rfl hin rfl (by decide +kernel) rfl rfl (Nat.le_of_ble_eq_true rfl) dX1_init_38 (fun H locs hP hD hS => ?_)
  have hP : va_P D vwCl [(q, .inr (0, [.int 0, .ref a1, .ref a2, .ref a3, .int 0, .ref a5, .ref a6, .null, .null, .null, .null])), (a1, .inl (d1, 5, .inl (fun _ => 0))), (a2, .inl (d2, 4, .inl (fun _ => 0))), (a3, .inl (d3, 4, .inl (fun _ => 0))), (a5, .inl (d5, 20, .inl (fun _ => 0))), (a6, .inl (d6, 20, .inl (fun _ => 0)))] H := hP
  have hD : va_D A [(q, .inr (0, [.int 0, .ref a1, .ref a2, .ref a3, .int 0, .ref a5, .ref a6, .null, .null, .null, .null])), (a1, .inl (d1, 5, .inl (fun _ => 0))), (a2, .inl (d2, 4, .inl (fun _ => 0))), (a3, .inl (d3, 4, .inl (fun _ => 0))), (a5, .inl (d5, 20, .inl (fun _ => 0))), (a6, .inl (d6, 20, .inl (fun _ => 0)))] := hD
  have hK : va_K D vwCl [(d1, .boolean), (d2, .boolean), (d3, .int), (d5, .int), (d6, .int)] s := hK
  refine lv_aload_n hx hb dX1_init_41 rfl (lv_at hl 0 rfl) ?_
  refine lv_bipush (v := 120) hx hb dX1_init_42 (by decide) ?_
  refine va_newa (atype := .int) (n := 120) (N' := 120) (a0 := (120, .inl (fun _ => 0))) (ty := .int) hx hb (hts _ q69) rfl hK hP hD hS hA (fun _ => rfl) (by decide) (by decide) (by decide) (by decide) (by decide) dX1_init_44 (fun a7 d7 H hK hP hD hS => ?_)
  refine va_putF (D := D) (ci := 0) (v := .ref a7) (ty := .array .int) (C := RX1) (T := TX1) (N := 11) hx hb hts in_X1 tyX1 tyX1_ok nmX1 hown hK hP hD hS 0 rfl rfl 7 (by decide) (hts _ q41) (fun _ h9 => h9) rfl hin rfl (by decide +kernel) rfl rfl (Nat.le_of_ble_eq_true rfl) dX1_init_46 (fun H locs hP hD hS => ?_)
  have hP : va_P D vwCl [(q, .inr (0, [.int 0, .ref a1, .ref a2, .ref a3, .int 0, .ref a5, .ref a6, .ref a7, .null, .null, .null])), (a1, .inl (d1, 5, .inl (fun _ => 0))), (a2, .inl (d2, 4, .inl (fun _ => 0))), (a3, .inl (d3, 4, .inl (fun _ => 0))), (a5, .inl (d5, 20, .inl (fun _ => 0))), (a6, .inl (d6, 20, .inl (fun _ => 0))), (a7, .inl (d7, 120, .inl (fun _ => 0)))] H := hP
  have hD : va_D A [(q, .inr (0, [.int 0, .ref a1, .ref a2, .ref a3, .int 0, .ref a5, .ref a6, .ref a7, .null, .null, .null])), (a1, .inl (d1, 5, .inl (fun _ => 0))), (a2, .inl (d2, 4, .inl (fun _ => 0))), (a3, .inl (d3, 4, .inl (fun _ => 0))), (a5, .inl (d5, 20, .inl (fun _ => 0))), (a6, .inl (d6, 20, .inl (fun _ => 0))), (a7, .inl (d7, 120, .inl (fun _ => 0)))] := hD
  have hK : va_K D vwCl [(d1, .boolean), (d2, .boolean), (d3, .int), (d5, .int), (d6, .int), (d7, .int)] s := hK
  refine lv_aload_n hx hb dX1_init_49 rfl (lv_at hl 0 rfl) ?_
  refine lv_bipush (v := 20) hx hb dX1_init_50 (by decide) ?_
  refine va_newa (atype := .int) (n := 20) (N' := 20) (a0 := (20, .inl (fun _ => 0))) (ty := .int) hx hb (hts _ q69) rfl hK hP hD hS hA (fun _ => rfl) (by decide) (by decide) (by decide) (by decide) (by decide) dX1_init_52 (fun a8 d8 H hK hP hD hS => ?_)
  refine va_putF (D := D) (ci := 0) (v := .ref a8) (ty := .array .int) (C := RX1) (T := TX1) (N := 11) hx hb hts in_X1 tyX1 tyX1_ok nmX1 hown hK hP hD hS 0 rfl rfl 8 (by decide) (hts _ q42) (fun _ h9 => h9) rfl hin rfl (by decide +kernel) rfl rfl (Nat.le_of_ble_eq_true rfl) dX1_init_54 (fun H locs hP hD hS => ?_)
  have hP : va_P D vwCl [(q, .inr (0, [.int 0, .ref a1, .ref a2, .ref a3, .int 0, .ref a5, .ref a6, .ref a7, .ref a8, .null, .null])), (a1, .inl (d1, 5, .inl (fun _ => 0))), (a2, .inl (d2, 4, .inl (fun _ => 0))), (a3, .inl (d3, 4, .inl (fun _ => 0))), (a5, .inl (d5, 20, .inl (fun _ => 0))), (a6, .inl (d6, 20, .inl (fun _ => 0))), (a7, .inl (d7, 120, .inl (fun _ => 0))), (a8, .inl (d8, 20, .inl (fun _ => 0)))] H := hP
  have hD : va_D A [(q, .inr (0, [.int 0, .ref a1, .ref a2, .ref a3, .int 0, .ref a5, .ref a6, .ref a7, .ref a8, .null, .null])), (a1, .inl (d1, 5, .inl (fun _ => 0))), (a2, .inl (d2, 4, .inl (fun _ => 0))), (a3, .inl (d3, 4, .inl (fun _ => 0))), (a5, .inl (d5, 20, .inl (fun _ => 0))), (a6, .inl (d6, 20, .inl (fun _ => 0))), (a7, .inl (d7, 120, .inl (fun _ => 0))), (a8, .inl (d8, 20, .inl (fun _ => 0)))] := hD
  have hK : va_K D vwCl [(d1, .boolean), (d2, .boolean), (d3, .int), (d5, .int), (d6, .int), (d7, .int), (d8, .int)] s := hK
  refine lv_aload_n hx hb dX1_init_57 rfl (lv_at hl 0 rfl) ?_
  refine lv_bipush (v := 20) hx hb dX1_init_58 (by decide) ?_
  refine va_newa (atype := .int) (n := 20) (N' := 20) (a0 := (20, .inl (fun _ => 0))) (ty := .int) hx hb (hts _ q69) rfl hK hP hD hS hA (fun _ => rfl) (by decide) (by decide) (by decide) (by decide) (by decide) dX1_init_60 (fun a9 d9 H hK hP hD hS => ?_)
  refine va_putF (D := D) (ci := 0) (v := .ref a9) (ty := .array .int) (C := RX1) (T := TX1) (N := 11) hx hb hts in_X1 tyX1 tyX1_ok nmX1 hown hK hP hD hS 0 rfl rfl 9 (by decide) (hts _ q43) (fun _ h9 => h9) rfl hin rfl (by decide +kernel) rfl rfl (Nat.le_of_ble_eq_true rfl) dX1_init_62 (fun H locs hP hD hS => ?_)
  have hP : va_P D vwCl [(q, .inr (0, [.int 0, .ref a1, .ref a2, .ref a3, .int 0, .ref a5, .ref a6, .ref a7, .ref a8, .ref a9, .null])), (a1, .inl (d1, 5, .inl (fun _ => 0))), (a2, .inl (d2, 4, .inl (fun _ => 0))), (a3, .inl (d3, 4, .inl (fun _ => 0))), (a5, .inl (d5, 20, .inl (fun _ => 0))), (a6, .inl (d6, 20, .inl (fun _ => 0))), (a7, .inl (d7, 120, .inl (fun _ => 0))), (a8, .inl (d8, 20, .inl (fun _ => 0))), (a9, .inl (d9, 20, .inl (fun _ => 0)))] H := hP
  have hD : va_D A [(q, .inr (0, [.int 0, .ref a1, .ref a2, .ref a3, .int 0, .ref a5, .ref a6, .ref a7, .ref a8, .ref a9, .null])), (a1, .inl (d1, 5, .inl (fun _ => 0))), (a2, .inl (d2, 4, .inl (fun _ => 0))), (a3, .inl (d3, 4, .inl (fun _ => 0))), (a5, .inl (d5, 20, .inl (fun _ => 0))), (a6, .inl (d6, 20, .inl (fun _ => 0))), (a7, .inl (d7, 120, .inl (fun _ => 0))), (a8, .inl (d8, 20, .inl (fun _ => 0))), (a9, .inl (d9, 20, .inl (fun _ => 0)))] := hD
  have hK : va_K D vwCl [(d1, .boolean), (d2, .boolean), (d3, .int), (d5, .int), (d6, .int), (d7, .int), (d8, .int), (d9, .int)] s := hK
  refine lv_aload_n hx hb dX1_init_65 rfl (lv_at hl 0 rfl) ?_
  refine lv_bipush (v := 20) hx hb dX1_init_66 (by decide) ?_
  refine va_newa (atype := .int) (n := 20) (N' := 20) (a0 := (20, .inl (fun _ => 0))) (ty := .int) hx hb (hts _ q69) rfl hK hP hD hS hA (fun _ => rfl) (by decide) (by decide) (by decide) (by decide) (by decide) dX1_init_68 (fun a10 d10 H hK hP hD hS => ?_)
  refine va_putF (D := D) (ci := 0) (v := .ref a10) (ty := .array .int) (C := RX1) (T := TX1) (N := 11) hx hb hts in_X1 tyX1 tyX1_ok nmX1 hown hK hP hD hS 0 rfl rfl 10 (by decide) (hts _ q44) (fun _ h9 => h9) rfl hin rfl (by decide +kernel) rfl rfl (Nat.le_of_ble_eq_true rfl) dX1_init_70 (fun H locs hP hD hS => ?_)
  have hP : va_P D vwCl [(q, .inr (0, [.int 0, .ref a1, .ref a2, .ref a3, .int 0, .ref a5, .ref a6, .ref a7, .ref a8, .ref a9, .ref a10])), (a1, .inl (d1, 5, .inl (fun _ => 0))), (a2, .inl (d2, 4, .inl (fun _ => 0))), (a3, .inl (d3, 4, .inl (fun _ => 0))), (a5, .inl (d5, 20, .inl (fun _ => 0))), (a6, .inl (d6, 20, .inl (fun _ => 0))), (a7, .inl (d7, 120, .inl (fun _ => 0))), (a8, .inl (d8, 20, .inl (fun _ => 0))), (a9, .inl (d9, 20, .inl (fun _ => 0))), (a10, .inl (d10, 20, .inl (fun _ => 0)))] H := hP
  have hD : va_D A [(q, .inr (0, [.int 0, .ref a1, .ref a2, .ref a3, .int 0, .ref a5, .ref a6, .ref a7, .ref a8, .ref a9, .ref a10])), (a1, .inl (d1, 5, .inl (fun _ => 0))), (a2, .inl (d2, 4, .inl (fun _ => 0))), (a3, .inl (d3, 4, .inl (fun _ => 0))), (a5, .inl (d5, 20, .inl (fun _ => 0))), (a6, .inl (d6, 20, .inl (fun _ => 0))), (a7, .inl (d7, 120, .inl (fun _ => 0))), (a8, .inl (d8, 20, .inl (fun _ => 0))), (a9, .inl (d9, 20, .inl (fun _ => 0))), (a10, .inl (d10, 20, .inl (fun _ => 0)))] := hD
  have hK : va_K D vwCl [(d1, .boolean), (d2, .boolean), (d3, .int), (d5, .int), (d6, .int), (d7, .int), (d8, .int), (d9, .int), (d10, .int)] s := hK
  have g1 : s.vm.findClass ("[" ++ (FieldType.boolean).toString) = some d1 := (hK.2 0 _ rfl).2
  have g2 : s.vm.findClass ("[" ++ (FieldType.boolean).toString) = some d2 := (hK.2 1 _ rfl).2
  have g3 : s.vm.findClass ("[" ++ (FieldType.int).toString) = some d3 := (hK.2 2 _ rfl).2
  have g5 : s.vm.findClass ("[" ++ (FieldType.int).toString) = some d5 := (hK.2 3 _ rfl).2
  have g6 : s.vm.findClass ("[" ++ (FieldType.int).toString) = some d6 := (hK.2 4 _ rfl).2
  have g7 : s.vm.findClass ("[" ++ (FieldType.int).toString) = some d7 := (hK.2 5 _ rfl).2
  have g8 : s.vm.findClass ("[" ++ (FieldType.int).toString) = some d8 := (hK.2 6 _ rfl).2
  have g9 : s.vm.findClass ("[" ++ (FieldType.int).toString) = some d9 := (hK.2 7 _ rfl).2
  have g10 : s.vm.findClass ("[" ++ (FieldType.int).toString) = some d10 := (hK.2 8 _ rfl).2
  obtain rfl : d1 = d2 := Option.some.inj (g1.symm.trans g2)
  obtain rfl : d3 = d5 := Option.some.inj (g3.symm.trans g5)
  obtain rfl : d3 = d6 := Option.some.inj (g3.symm.trans g6)
  obtain rfl : d3 = d7 := Option.some.inj (g3.symm.trans g7)
  obtain rfl : d3 = d8 := Option.some.inj (g3.symm.trans g8)
  obtain rfl : d3 = d9 := Option.some.inj (g3.symm.trans g9)
  obtain rfl : d3 = d10 := Option.some.inj (g3.symm.trans g10)
  have hK := hK.sub (tys' := tyA d1 d3) [0, 2] rfl
  refine W.widen (k := 9) (n := 233) (by decide) (by decide) ?_
  have key := tailC (X := (p, l, e, (headSpec (ws_ yX1_init cX1_init 4 none) ({ frames := 1, cells := 9, slots := 233, locals := 30 })).room, s, m, ([.ref q, .int x] : List Value).toArray, below, meth, c, 9, 233, 4, MQ below (va_Qv (fun w : ClassId × ClassId × (Nat → Nat) => w.2.2 0 = q) (fun w t => va_P D vwCl (cwC w.1 w.2.1 w.2.2 (u0C k)) t.heap ∧ va_K D vwCl (tyA w.1 w.2.1) t ∧ va_D A (cwC w.1 w.2.1 w.2.2 (u0C k))) A) ([.ref q, .int x] : List Value).toArray s 9 233 A, wdC D d1 d3 (fun i => [q, a1, a2, a3, 0, a5, a6, a7, a8, a9, a10].getD i 0) A s)) (h := fun i => [q, a1, a2, a3, 0, a5, a6, a7, a8, a9, a10].getD i 0) (k := k) (x := x) (And.intro ⟨hx, hb⟩ (And.intro hml (And.intro hown (And.intro hts (And.intro ⟨Nat.le_refl _, Nat.le_refl _, Nat.le_refl _, Nat.le_refl _⟩ ⟨D, d1, d3, A, hK, hA, rfl⟩))))) hin (fun pc lv u1 d e1 => by
    subst e1
    intro H locs ls hw _
    exact W.vret hx hb hr (fun t ht hW => ⟨⟨(d1, d3, fun i => [q, a1, a2, a3, 0, a5, a6, a7, a8, a9, a10].getD i 0), rfl, rfl, by rw [ht]; exact hw.1, va_K.moved hW.alike hK, hw.2.1⟩, hw.2.2.F ht⟩) hw.2.2.2.2 d) hk
  exact key H locs ls ⟨hP, hD, hS⟩ hlo
abbrev fs0M : List Value := [.int 0, .null, .null, .null, .null, .null]
set_option maxHeartbeats 4000000 in
set_option maxRecDepth 100000 in
theorem n_M (l : Launch) (D : va_G) (q sz : Nat) (x : Int32) (k : Nat) (hk : KK x k) : Met l yX2_init (ws_ yX2_init cX2_init 2 none) ({ frames := 1, cells := 5, slots := 57, locals := 30 }) (va_Pc [.ref q, .int x] (fun U => U.heap.size = sz ∧ va_P D vwCl [(q, .inr (1, fs0M))] U.heap ∧ va_K D vwCl [] U ∧ va_D (fun _ => True) [(q, .inr (1, fs0M))])) (va_Qv (fun w : ClassId × ClassId × (Nat → Nat) => w.2.2 0 = q) (fun w t => va_P D vwCl (cwM w.1 w.2.1 w.2.2 (u0M k)) t.heap ∧ va_K D vwCl (tyA w.1 w.2.1) t ∧ va_D (va_A [(q, .inr (1, fs0M))] sz) (cwM w.1 w.2.1 w.2.2 (u0M k))) (va_A [(q, .inr (1, fs0M))] sz)) 5 57 (va_A [(q, .inr (1, fs0M))] sz) := by
  refine Met.ofW (cc := cX2_init) (maxL := 2) (ret := none) (by decide) rfl ?_
  intro p e s m args below meth c s₁ B hml hv
  obtain ⟨rfl, hsz, hP, hK, hD0⟩ := hv
  have hx := B.exec
  have hb := B.bytes
  have hr := B.returns
  have hts := atoms_spec (ws := ws_ yX2_init cX2_init 2 none) B.pre
  have hts : ∀ w ∈ lw_all, w.before _ s = true := fun w h => hts w (List.mem_cons_of_mem _ h)
  have hown : s.vm.findClass RX2 = some m.cls := findClass_of_methodNamed B.named
  have hlocks := B.notSynchronized
  have hin : meth.name = "<init>" := (name_of_methodNamed B.named B.method).1
  subst hsz
  have hD := hD0.self (sz := s.heap.size)
  generalize hAe : va_A [(q, .inr (1, fs0M))] s.heap.size = A at hD ⊢
  have hA : ∀ q : Nat, s.heap.size ≤ q → A q := fun q h => by rw [← hAe]; exact Or.inr h
  have hS : va_S A s.heap s.heap [] := va_S.rf
  have hl := lv_entry ([.ref q, .int x]) (n := 2) (Nat.le_of_ble_eq_true rfl)
  have hlo := lo_entry hl (Nat.le_of_ble_eq_true rfl) (by simp [fw_ci, fw_cr])
  rw [lg_entry_eq]
  generalize (lg_sl ([.ref q, .int x]) ++ List.replicate (2 - (lg_sl ([.ref q, .int x])).length) Slot.unset).toArray = ls at hl hlo ⊢
  have hl : lv_has ls 2 [(0, .ref q), (1, .int x)] := hl
  refine lv_aload_n hx hb dX2_init_0 rfl (lv_at hl 0 rfl) ?_
  refine W.objInit hx hb hown (hts _ q204) (hts _ q32) (hts _ q33) rfl (by rw [hml]; exact hl.1) rfl dX2_init_1 (Nat.le_of_ble_eq_true rfl) (Nat.le_of_ble_eq_true rfl) ?_
  refine W.eq (g2 := F0 m 4 ls []) rfl ?_
  refine lv_aload_n hx hb dX2_init_4 rfl (lv_at hl 0 rfl) ?_
  refine lv_iconst (v := 5) hx hb dX2_init_5 (by decide) ?_
  refine va_newa (atype := .boolean) (n := 5) (N' := 5) (a0 := (5, .inl (fun _ => 0))) (ty := .boolean) hx hb (hts _ q68) rfl hK hP hD hS hA (fun _ => rfl) (by decide) (by decide) (by decide) (by decide) (by decide) dX2_init_6 (fun a1 d1 H hK hP hD hS => ?_)
  refine va_putF (D := D) (ci := 1) (v := .ref a1) (ty := .array .boolean) (C := RX2) (T := TX2) (N := 6) hx hb hts in_X2 tyX2 tyX2_ok nmX2 hown hK hP hD hS 0 rfl rfl 1 (by decide) (hts _ q206) (fun _ h9 => h9) rfl hin rfl (by decide +kernel) rfl rfl (Nat.le_of_ble_eq_true rfl) dX2_init_8 (fun H locs hP hD hS => ?_)
  have hP : va_P D vwCl [(q, .inr (1, [.int 0, .ref a1, .null, .null, .null, .null])), (a1, .inl (d1, 5, .inl (fun _ => 0)))] H := hP
  have hD : va_D A [(q, .inr (1, [.int 0, .ref a1, .null, .null, .null, .null])), (a1, .inl (d1, 5, .inl (fun _ => 0)))] := hD
  have hK : va_K D vwCl [(d1, .boolean)] s := hK
  refine lv_aload_n hx hb dX2_init_11 rfl (lv_at hl 0 rfl) ?_
  refine lv_iconst (v := 4) hx hb dX2_init_12 (by decide) ?_
  refine va_newa (atype := .boolean) (n := 4) (N' := 4) (a0 := (4, .inl (fun _ => 0))) (ty := .boolean) hx hb (hts _ q68) rfl hK hP hD hS hA (fun _ => rfl) (by decide) (by decide) (by decide) (by decide) (by decide) dX2_init_13 (fun a2 d2 H hK hP hD hS => ?_)
  refine va_putF (D := D) (ci := 1) (v := .ref a2) (ty := .array .boolean) (C := RX2) (T := TX2) (N := 6) hx hb hts in_X2 tyX2 tyX2_ok nmX2 hown hK hP hD hS 0 rfl rfl 2 (by decide) (hts _ q207) (fun _ h9 => h9) rfl hin rfl (by decide +kernel) rfl rfl (Nat.le_of_ble_eq_true rfl) dX2_init_15 (fun H locs hP hD hS => ?_)
  have hP : va_P D vwCl [(q, .inr (1, [.int 0, .ref a1, .ref a2, .null, .null, .null])), (a1, .inl (d1, 5, .inl (fun _ => 0))), (a2, .inl (d2, 4, .inl (fun _ => 0)))] H := hP
  have hD : va_D A [(q, .inr (1, [.int 0, .ref a1, .ref a2, .null, .null, .null])), (a1, .inl (d1, 5, .inl (fun _ => 0))), (a2, .inl (d2, 4, .inl (fun _ => 0)))] := hD
  have hK : va_K D vwCl [(d1, .boolean), (d2, .boolean)] s := hK
  refine lv_aload_n hx hb dX2_init_18 rfl (lv_at hl 0 rfl) ?_
  refine lv_iconst (v := 4) hx hb dX2_init_19 (by decide) ?_
  refine va_newa (atype := .int) (n := 4) (N' := 4) (a0 := (4, .inl (fun _ => 0))) (ty := .int) hx hb (hts _ q69) rfl hK hP hD hS hA (fun _ => rfl) (by decide) (by decide) (by decide) (by decide) (by decide) dX2_init_20 (fun a3 d3 H hK hP hD hS => ?_)
  refine va_putF (D := D) (ci := 1) (v := .ref a3) (ty := .array .int) (C := RX2) (T := TX2) (N := 6) hx hb hts in_X2 tyX2 tyX2_ok nmX2 hown hK hP hD hS 0 rfl rfl 3 (by decide) (hts _ q208) (fun _ h9 => h9) rfl hin rfl (by decide +kernel) rfl rfl (Nat.le_of_ble_eq_true rfl) dX2_init_22 (fun H locs hP hD hS => ?_)
  have hP : va_P D vwCl [(q, .inr (1, [.int 0, .ref a1, .ref a2, .ref a3, .null, .null])), (a1, .inl (d1, 5, .inl (fun _ => 0))), (a2, .inl (d2, 4, .inl (fun _ => 0))), (a3, .inl (d3, 4, .inl (fun _ => 0)))] H := hP
  have hD : va_D A [(q, .inr (1, [.int 0, .ref a1, .ref a2, .ref a3, .null, .null])), (a1, .inl (d1, 5, .inl (fun _ => 0))), (a2, .inl (d2, 4, .inl (fun _ => 0))), (a3, .inl (d3, 4, .inl (fun _ => 0)))] := hD
  have hK : va_K D vwCl [(d1, .boolean), (d2, .boolean), (d3, .int)] s := hK
  refine lv_aload_n hx hb dX2_init_25 rfl (lv_at hl 0 rfl) ?_
  refine lv_bipush (v := 24) hx hb dX2_init_26 (by decide) ?_
  refine va_newa (atype := .int) (n := 24) (N' := 24) (a0 := (24, .inl (fun _ => 0))) (ty := .int) hx hb (hts _ q69) rfl hK hP hD hS hA (fun _ => rfl) (by decide) (by decide) (by decide) (by decide) (by decide) dX2_init_28 (fun a4 d4 H hK hP hD hS => ?_)
  refine va_putF (D := D) (ci := 1) (v := .ref a4) (ty := .array .int) (C := RX2) (T := TX2) (N := 6) hx hb hts in_X2 tyX2 tyX2_ok nmX2 hown hK hP hD hS 0 rfl rfl 4 (by decide) (hts _ q209) (fun _ h9 => h9) rfl hin rfl (by decide +kernel) rfl rfl (Nat.le_of_ble_eq_true rfl) dX2_init_30 (fun H locs hP hD hS => ?_)
  have hP : va_P D vwCl [(q, .inr (1, [.int 0, .ref a1, .ref a2, .ref a3, .ref a4, .null])), (a1, .inl (d1, 5, .inl (fun _ => 0))), (a2, .inl (d2, 4, .inl (fun _ => 0))), (a3, .inl (d3, 4, .inl (fun _ => 0))), (a4, .inl (d4, 24, .inl (fun _ => 0)))] H := hP
  have hD : va_D A [(q, .inr (1, [.int 0, .ref a1, .ref a2, .ref a3, .ref a4, .null])), (a1, .inl (d1, 5, .inl (fun _ => 0))), (a2, .inl (d2, 4, .inl (fun _ => 0))), (a3, .inl (d3, 4, .inl (fun _ => 0))), (a4, .inl (d4, 24, .inl (fun _ => 0)))] := hD
  have hK : va_K D vwCl [(d1, .boolean), (d2, .boolean), (d3, .int), (d4, .int)] s := hK
  refine lv_aload_n hx hb dX2_init_33 rfl (lv_at hl 0 rfl) ?_
  refine lv_bipush (v := 20) hx hb dX2_init_34 (by decide) ?_
  refine va_newa (atype := .boolean) (n := 20) (N' := 20) (a0 := (20, .inl (fun _ => 0))) (ty := .boolean) hx hb (hts _ q68) rfl hK hP hD hS hA (fun _ => rfl) (by decide) (by decide) (by decide) (by decide) (by decide) dX2_init_36 (fun a5 d5 H hK hP hD hS => ?_)
  refine va_putF (D := D) (ci := 1) (v := .ref a5) (ty := .array .boolean) (C := RX2) (T := TX2) (N := 6) hx hb hts in_X2 tyX2 tyX2_ok nmX2 hown hK hP hD hS 0 rfl rfl 5 (by decide) (hts _ q210) (fun _ h9 => h9) rfl hin rfl (by decide +kernel) rfl rfl (Nat.le_of_ble_eq_true rfl) dX2_init_38 (fun H locs hP hD hS => ?_)
  have hP : va_P D vwCl [(q, .inr (1, [.int 0, .ref a1, .ref a2, .ref a3, .ref a4, .ref a5])), (a1, .inl (d1, 5, .inl (fun _ => 0))), (a2, .inl (d2, 4, .inl (fun _ => 0))), (a3, .inl (d3, 4, .inl (fun _ => 0))), (a4, .inl (d4, 24, .inl (fun _ => 0))), (a5, .inl (d5, 20, .inl (fun _ => 0)))] H := hP
  have hD : va_D A [(q, .inr (1, [.int 0, .ref a1, .ref a2, .ref a3, .ref a4, .ref a5])), (a1, .inl (d1, 5, .inl (fun _ => 0))), (a2, .inl (d2, 4, .inl (fun _ => 0))), (a3, .inl (d3, 4, .inl (fun _ => 0))), (a4, .inl (d4, 24, .inl (fun _ => 0))), (a5, .inl (d5, 20, .inl (fun _ => 0)))] := hD
  have hK : va_K D vwCl [(d1, .boolean), (d2, .boolean), (d3, .int), (d4, .int), (d5, .boolean)] s := hK
  have g1 : s.vm.findClass ("[" ++ (FieldType.boolean).toString) = some d1 := (hK.2 0 _ rfl).2
  have g2 : s.vm.findClass ("[" ++ (FieldType.boolean).toString) = some d2 := (hK.2 1 _ rfl).2
  have g5 : s.vm.findClass ("[" ++ (FieldType.boolean).toString) = some d5 := (hK.2 4 _ rfl).2
  have g3 : s.vm.findClass ("[" ++ (FieldType.int).toString) = some d3 := (hK.2 2 _ rfl).2
  have g4 : s.vm.findClass ("[" ++ (FieldType.int).toString) = some d4 := (hK.2 3 _ rfl).2
  obtain rfl : d1 = d2 := Option.some.inj (g1.symm.trans g2)
  obtain rfl : d1 = d5 := Option.some.inj (g1.symm.trans g5)
  obtain rfl : d3 = d4 := Option.some.inj (g3.symm.trans g4)
  have hK := hK.sub (tys' := tyA d1 d3) [0, 2] rfl
  refine W.widen (k := 5) (n := 57) (by decide) (by decide) ?_
  have key := tailM (X := (p, l, e, (headSpec (ws_ yX2_init cX2_init 2 none) ({ frames := 1, cells := 5, slots := 57, locals := 30 })).room, s, m, ([.ref q, .int x] : List Value).toArray, below, meth, c, 5, 57, 2, MQ below (va_Qv (fun w : ClassId × ClassId × (Nat → Nat) => w.2.2 0 = q) (fun w t => va_P D vwCl (cwM w.1 w.2.1 w.2.2 (u0M k)) t.heap ∧ va_K D vwCl (tyA w.1 w.2.1) t ∧ va_D A (cwM w.1 w.2.1 w.2.2 (u0M k))) A) ([.ref q, .int x] : List Value).toArray s 5 57 A, wdM D d1 d3 (fun i => [q, a1, a2, a3, a4, a5].getD i 0) A s)) (h := fun i => [q, a1, a2, a3, a4, a5].getD i 0) (k := k) (x := x) (And.intro ⟨hx, hb⟩ (And.intro hml (And.intro hown (And.intro hts (And.intro ⟨Nat.le_refl _, Nat.le_refl _, Nat.le_refl _, Nat.le_refl _⟩ ⟨D, d1, d3, A, hK, hA, rfl⟩))))) hin (fun pc lv u1 d e1 => by
    subst e1
    intro H locs ls hw _
    exact W.vret hx hb hr (fun t ht hW => ⟨⟨(d1, d3, fun i => [q, a1, a2, a3, a4, a5].getD i 0), rfl, rfl, by rw [ht]; exact hw.1, va_K.moved hW.alike hK, hw.2.1⟩, hw.2.2.F ht⟩) hw.2.2.2.2 d) hk
  exact key H locs ls ⟨hP, hD, hS⟩ hlo
end
section
/-! THE LAW's OWN WALK -/
theorem i1_o {u : Pst} {k : Nat} (hk : k ≠ 1) : ∀ n, cq_i1 u n k = u k
  | 0 => rfl
  | n + 1 => by
    show sU (cq_i1 u n) 1 _ _ k = _
    rw [sU_n hk]; exact i1_o hk n
theorem i1_1 {u : Pst} {s : Nat} : ∀ n, s < n → cq_i1 u n 1 s = nI 1
  | 0, h => absurd h (by omega)
  | n + 1, h => by
    show sU (cq_i1 u n) 1 n (nI 1) 1 s = _
    rw [sU_s]
    by_cases e : s = n
    · rw [e, pk_us]
    · rw [pk_un e]; exact i1_1 n (by omega)
theorem i2_o {u : Pst} {k : Nat} (hk : k ≠ 5) : ∀ n, cq_i2 u n k = u k
  | 0 => rfl
  | n + 1 => by
    show sU (cq_i2 u n) 5 _ _ k = _
    rw [sU_n hk]; exact i2_o hk n
theorem i2_5 {u : Pst} {s : Nat} : ∀ n, s < n → cq_i2 u n 5 s = -1
  | 0, h => absurd h (by omega)
  | n + 1, h => by
    show sU (cq_i2 u n) 5 n (-1) 5 s = _
    rw [sU_s]
    by_cases e : s = n
    · rw [e, pk_us]
    · rw [pk_un e]; exact i2_5 n (by omega)
/-- the two new objects are in relation -/
theorem Rl_init (k : Nat) : Rl k 0 (u0C k) (u0M k) := by
  have o : ∀ f, f ≠ 0 → f ≠ 1 → f ≠ 5 → u0C k f = fun _ => 0 := fun f a b c => by
    unfold u0C
    rw [i2_o c, i1_o b, sU_n a]; rfl
  have o5 : ∀ i, i < 20 → u0C k 5 i = -1 := fun i hi => i2_5 20 hi
  have o1 : ∀ s, s < 5 → u0C k 1 s = nI 1 := fun s hs => by
    unfold u0C
    rw [i2_o (by decide)]; exact i1_1 5 hs
  have m : ∀ f, f ≠ 0 → u0M k f = fun _ => 0 := fun f a => by
    unfold u0M
    rw [sU_n a]; rfl
  refine ⟨⟨?_, ?_⟩, ⟨fun s hs f hf => Or.inl (o5 _ (by omega)), fun s hs j hj => ?_, ?_, fun i hi => ?_, fun f hf => ?_⟩, fun s hs => ?_, fun f hf => ?_, fun i hi => ?_, fun s hs f hf => ?_, fun f hf => ?_⟩
  · unfold u0C
    rw [i2_o (by decide), i1_o (by decide), sU_s, pk_us]
  · unfold u0M
    rw [sU_s, pk_us]
  · rw [o 10 (by decide) (by decide) (by decide)]
    have : hc (u0C k) s j = cnt (fun _ => false) 4 := cnt_congr 4 (fun f hf => by
      rw [o5 _ (by omega)]
      simp [m1_ne (show s * 4 + j < 2 ^ 31 by omega)])
    rw [this]; rfl
  · rw [o 4 (by decide) (by decide) (by decide)]; rfl
  · exact ⟨0, Nat.le_refl 0, by rw [o 6 (by decide) (by decide) (by decide)]; rfl⟩
  · exact ⟨0, Nat.le_refl 0, by rw [o 3 (by decide) (by decide) (by decide)]; rfl⟩
  · exact Or.inr ⟨by rw [o1 s hs]; rfl, by rw [m 1 (by decide)]⟩
  · rw [o 2 (by decide) (by decide) (by decide), m 2 (by decide)]
  · exact Or.inl (by rw [m 5 (by decide)])
  · have : mq_c (u0M k) f s = false := by rw [mqc_z, m 5 (by decide)]
    rw [this]
    refine Rp.no ?_
    simp [cq_cur, o5 (s * 4 + f) (by omega)]
  · exact ⟨0, by omega, by rw [m 3 (by decide)]; rfl⟩
/-- cell(script, 0) -/
theorem n_cell (l : Launch) (b L : Nat) (xs : Nat → Int32) (hL : L ≤ 257) : Met l yX0_cell (ws_ yX0_cell cX0_cell 2 (some .int)) (Rm 0) (va_Pc [.ref b, .int (nI 0)] (fun U => va_X b L xs U U.heap)) (va_Qi (fun (r : Int32) (_ : Unit) => r = if 0 < L then xs 0 else 0) (fun _ _ => True) (fun _ => False)) 0 0 (fun _ => False) := by
  refine Met.ofW (cc := cX0_cell) (maxL := 2) (ret := some .int) (by decide) rfl ?_
  intro p e s m args below meth c s₁ B hml hv
  obtain ⟨rfl, hX⟩ := hv
  have hx := B.exec
  have hb := B.bytes
  have hr := B.returns
  have hlocks := B.notSynchronized
  have hS : va_S (fun _ => False) s.heap s.heap [] := va_S.rf
  have hbl : b < s.heap.size := by
    obtain ⟨scr, h1, -⟩ := hX
    exact (Array.getElem?_eq_some_iff.mp h1).1
  have hl := lv_entry ([.ref b, .int (nI 0)]) (n := 2) (Nat.le_of_ble_eq_true rfl)
  rw [lg_entry_eq]
  generalize (lg_sl ([.ref b, .int (nI 0)]) ++ List.replicate (2 - (lg_sl ([.ref b, .int (nI 0)])).length) Slot.unset).toArray = ls at hl ⊢
  have hl : lv_has ls 2 [(0, .ref b), (1, .int (nI 0))] := hl
  refine lv_iload_n hx hb dX0_cell_0 rfl (lv_at hl 1 rfl) ?_
  refine lv_aload_n hx hb dX0_cell_1 rfl (lv_at hl 0 rfl) ?_
  refine va_slen hx hb hX hbl (fun z => z) hS dX0_cell_2 ?_
  refine lv_icmp_ge (tgt := 12) hx hb dX0_cell_3 (by decide) (fun c1 => ?_) (fun c1 => ?_)
  · have h0 : ¬ 0 < L := fun z => nI_ge z (by omega) c1
    refine lv_iconst (v := 0) hx hb dX0_cell_12 (by decide) ?_
    exact W.iret hx hb hr (fun t ht hW => ⟨⟨0, (), rfl, by rw [if_neg h0], trivial⟩, hS.F ht⟩) hS.2.2 dX0_cell_13
  · have h0 : 0 < L := by
      rcases Nat.eq_zero_or_pos L with z | z
      · exact absurd (by rw [z]; exact Int32.le_refl _) c1
      · exact z
    refine lv_aload_n hx hb dX0_cell_6 rfl (lv_at hl 0 rfl) ?_
    refine lv_iload_n hx hb dX0_cell_7 rfl (lv_at hl 1 rfl) ?_
    refine va_sld hx hb hX hbl (fun z => z) hS (vp_in_nI h0 (by omega)) dX0_cell_8 ?_
    refine lv_goto (tgt := 13) hx hb dX0_cell_9 (by decide) ?_
    exact W.iret hx hb hr (fun t ht hW => ⟨⟨_, (), rfl, by rw [if_pos h0, nI_clamp (by decide)], trivial⟩, hS.F ht⟩) hS.2.2 dX0_cell_13
def wdL (D : va_G) (dZ dN dZ' dN' : ClassId) (h h' : Nat → Nat) (A : Nat → Prop) (s : State) : Pst × Pst → Heap → List Loc → Prop := fun w H locs => va_P D vwCl (cwC dZ dN h w.1 ++ cwM dZ' dN' h' w.2) H ∧ va_D A (cwC dZ dN h w.1 ++ cwM dZ' dN' h' w.2) ∧ va_S A s.heap H locs
def CkL (X : XX (Pst × Pst)) (h h' : Nat → Nat) (b L : Nat) (xs : Nat → Int32) : Prop := match X with
  | (p, l, e, R, s, m, args, below, meth, c, cells, slots, nL, Q, wd) => (p.tables.exec = Jvm.exec ∧ c.code = cL_law) ∧ c.maxLocals = nL ∧ s.vm.findClass RX0 = some m.cls ∧ (∀ w ∈ lw_all, w.before args s = true) ∧ (8 ≤ R.frames ∧ 294 ≤ R.locals ∧ cells ≤ R.cells ∧ slots ≤ R.slots) ∧ va_X b L xs s s.heap ∧ b < s.heap.size ∧ ∃ (D : va_G) (dZ dN dZ' dN' : ClassId) (A : Nat → Prop), va_K D vwCl (tyA dZ dN) s ∧ va_K D vwCl (tyA dZ' dN') s ∧ (∀ q, s.heap.size ≤ q → A q) ∧ ¬ A b ∧ wd = wdL D dZ dN dZ' dN' h h' A s
theorem CkL.ck {X : XX (Pst × Pst)} {h h' : Nat → Nat} {b L : Nat} {xs : Nat → Int32} (hC : CkL X h h' b L xs) : Ck X cL_law := by
  obtain ⟨p, l, e, R, s, m, args, below, meth, c, cells, slots, nL, Q, wd⟩ := X
  exact hC.1
section FWL
variable {X : XX (Pst × Pst)} {h h' : Nat → Nat} {b L : Nat} {xs : Nat → Int32} {w : Pst × Pst} {pc : Nat} {lv : List (Option Value)} {st : List Value}
theorem ll_len (hC : CkL X h h' b L xs) (d : decode cL_law pc = .ok (.arraylength, 1)) (kk : CG X w (pc + 1) lv (.int (nI L) :: st)) : CG X w pc lv (.ref b :: st) := by
  obtain ⟨p, l, e, R, s, m, args, below, meth, c, cells, slots, nL, Q, wd⟩ := X
  obtain ⟨⟨hx, hb⟩, hml, hown, hts, hrm, hX, hbl, D, dZ, dN, dZ', dN', A, hK, hK', hA, hbA, rfl⟩ := hC
  intro H locs ls hw hl
  exact va_slen hx hb hX hbl hbA hw.2.2 d (kk H locs ls hw hl)
theorem ll_ld {j : Nat} (hC : CkL X h h' b L xs) (hj : j < L) (hL : L ≤ 257) (d : decode cL_law pc = .ok (.iaload, 1)) (kk : CG X w (pc + 1) lv (.int (xs j) :: st)) : CG X w pc lv (.int (nI j) :: .ref b :: st) := by
  obtain ⟨p, l, e, R, s, m, args, below, meth, c, cells, slots, nL, Q, wd⟩ := X
  obtain ⟨⟨hx, hb⟩, hml, hown, hts, hrm, hX, hbl, D, dZ, dN, dZ', dN', A, hK, hK', hA, hbA, rfl⟩ := hC
  intro H locs ls hw hl
  have hc : (nI j).toNatClampNeg = j := nI_clamp (by omega)
  have kk := kk H locs ls hw hl
  refine va_sld hx hb hX hbl hbA hw.2.2 (vp_in_nI hj (by omega)) d ?_
  rw [hc]
  exact kk
theorem ll_tin {j : Nat} {offs : Array Int} (off : Int) (tgt : Nat) (h : Ck X cL_law) (d : decode cL_law pc = .ok (.tableswitch 415 0 12 offs, 66)) (h1 : ¬ (nI j).toInt < 0) (h2 : ¬ 12 < (nI j).toInt) (ho : offs[((nI j).toInt - 0).toNat]? = some off) (ht : (pc : Int) + off = (tgt : Int)) (k : CG X w tgt lv st) : CG X w pc lv (.int (nI j) :: st) := by
  obtain ⟨p, l, e, R, s, m, args, below, meth, c, cells, slots, nL, Q, wd⟩ := X
  intro H locs ls hw hl
  exact lv_tableIn h.1 h.2 d h1 h2 ho ht (k H locs ls hw hl)
theorem ll_tout {j : Nat} {offs : Array Int} (tgt : Nat) (h : Ck X cL_law) (d : decode cL_law pc = .ok (.tableswitch 415 0 12 offs, 66)) (hq : (nI j).toInt < 0 ∨ 12 < (nI j).toInt) (ht : (pc : Int) + 415 = (tgt : Int)) (k : CG X w tgt lv st) : CG X w pc lv (.int (nI j) :: st) := by
  obtain ⟨p, l, e, R, s, m, args, below, meth, c, cells, slots, nL, Q, wd⟩ := X
  intro H locs ls hw hl
  exact lv_tableOut h.1 h.2 d hq ht (k H locs ls hw hl)
end FWL
theorem k_LC {X : XX (Pst × Pst)} {h h' : Nat → Nat} {b L : Nat} {xs : Nat → Int32} {u t u' : Pst} {pc : Nat} {lv : List (Option Value)} {st stk : List Value} {y : MethodName} {bb : ByteArray} {LL n idx lev : Nat} {rt : FieldType} {As : List Value} {r : Int32} (hC : CkL X h h' b L xs) (hM : mIC y bb LL rt lev As u r u') (hk : KI RX0 idx y bb LL (some rt) n) (hcl : y.cls = RX1) (hn : As.length = n) (hlv : lev ≤ 5 ∧ LL ≤ 11) (hcat : (st.map fun v => v.category).sum ≤ 8) (hst : stk = As.reverse ++ .ref (h 0) :: st) (d : decode cL_law pc = .ok (.invokevirtual idx, 3)) (k : CG X (u', t) (pc + 3) lv (.int r :: st)) : CG X (u, t) pc lv stk := by
  obtain ⟨p, l, e, R, s, m, args, below, meth, c, cells, slots, nL, Q, wd⟩ := X
  obtain ⟨⟨hx, hb⟩, hml, hown, hts, hrm, hX, hbl, D, dZ, dN, dZ', dN', A, hK, hK', hA, hbA, rfl⟩ := hC
  intro H locs ls hw hl
  obtain ⟨hP, hD, hS⟩ := hw
  have hPc := hP.sub (ws' := cwC dZ dN h u) [0, 1, 2, 3, 4, 5, 6, 7, 8, 9] rfl
  have hDc := hD.sub (ws' := cwC dZ dN h u) [0, 1, 2, 3, 4, 5, 6, 7, 8, 9] (by decide) rfl
  have hFc := va_free (wc := cwC dZ dN h u) hD hS hA [0, 1, 2, 3, 4, 5, 6, 7, 8, 9] rfl
  obtain ⟨⟨k1, k2, k3, k4, k5⟩, k6⟩ := hk
  refine va_calli (va_runV (As := As) (rest := st) (C := RX1) ⟨hx, hb, hml, hown, hts⟩ (hM l D dZ dN h H.size) (cwV n hts (lw_V k1 k2 (hcl ▸ k3) (hcl ▸ k4) k5) rfl rfl rfl ⟨hcl, k6⟩ ⟨?_, ?_⟩) ⟨fun a U g mk q => by obtain ⟨q0, q1, qP, qK, qD⟩ := q; exact ⟨q0, q1, qP, va_K.moved (u := U) (U := U.calling g mk a) (Vm.Alike.refl U.vm) qK, qD⟩, va_recv hK hPc (ci := 0) (q0 := 0) rfl rfl, fun U hU hW => ⟨rfl, by rw [hU], by rw [hU]; exact hPc, va_K.moved hW.alike hK, hDc.weaken (fun _ _ _ _ => trivial)⟩⟩ rfl hn hl.1 hst (lv_room hcat) d ⟨hrm.2.2.1, hrm.2.2.2⟩) hS (fun q _ h => hFc q h) hFc (fun r1 u1 t1 H1 locs1 ht hvm hp hB hz1 hk1 hS1 => ?_)
  · show lev + 1 ≤ R.frames
    omega
  · show 8 + (LL + 11) + 30 * lev ≤ R.locals
    omega
  · obtain ⟨rfl, rfl⟩ := hp
    obtain ⟨hP1, hK1, hD1⟩ := hB
    rw [ht] at hP1
    obtain ⟨hP2, hD2⟩ := va_join (wr := cwM dZ' dN' h' t) hP hD [0, 1, 2, 3, 4, 5, 6, 7, 8, 9] [10, 11, 12, 13, 14, 15] rfl rfl (by decide) (by decide) hk1 hFc hP1 hD1
    exact k H1 locs1 ls ⟨hP2.sub [6, 7, 8, 9, 10, 11, 12, 13, 14, 15, 0, 1, 2, 3, 4, 5] rfl, hD2.sub [6, 7, 8, 9, 10, 11, 12, 13, 14, 15, 0, 1, 2, 3, 4, 5] (by decide) rfl, hS1⟩ hl
theorem k_LM {X : XX (Pst × Pst)} {h h' : Nat → Nat} {b L : Nat} {xs : Nat → Int32} {u t t' : Pst} {pc : Nat} {lv : List (Option Value)} {st stk : List Value} {y : MethodName} {bb : ByteArray} {LL n idx lev : Nat} {rt : FieldType} {As : List Value} {r : Int32} (hC : CkL X h h' b L xs) (hM : mIM y bb LL rt lev As t r t') (hk : KI RX0 idx y bb LL (some rt) n) (hcl : y.cls = RX2) (hn : As.length = n) (hlv : lev ≤ 5 ∧ LL ≤ 11) (hcat : (st.map fun v => v.category).sum ≤ 8) (hst : stk = As.reverse ++ .ref (h' 0) :: st) (d : decode cL_law pc = .ok (.invokevirtual idx, 3)) (k : CG X (u, t') (pc + 3) lv (.int r :: st)) : CG X (u, t) pc lv stk := by
  obtain ⟨p, l, e, R, s, m, args, below, meth, c, cells, slots, nL, Q, wd⟩ := X
  obtain ⟨⟨hx, hb⟩, hml, hown, hts, hrm, hX, hbl, D, dZ, dN, dZ', dN', A, hK, hK', hA, hbA, rfl⟩ := hC
  intro H locs ls hw hl
  obtain ⟨hP, hD, hS⟩ := hw
  have hPc := hP.sub (ws' := cwM dZ' dN' h' t) [10, 11, 12, 13, 14, 15] rfl
  have hDc := hD.sub (ws' := cwM dZ' dN' h' t) [10, 11, 12, 13, 14, 15] (by decide) rfl
  have hFc := va_free (wc := cwM dZ' dN' h' t) hD hS hA [10, 11, 12, 13, 14, 15] rfl
  obtain ⟨⟨k1, k2, k3, k4, k5⟩, k6⟩ := hk
  refine va_calli (va_runV (As := As) (rest := st) (C := RX2) ⟨hx, hb, hml, hown, hts⟩ (hM l D dZ' dN' h' H.size) (cwV n hts (lw_V k1 k2 (hcl ▸ k3) (hcl ▸ k4) k5) rfl rfl rfl ⟨hcl, k6⟩ ⟨?_, ?_⟩) ⟨fun a U g mk q => by obtain ⟨q0, q1, qP, qK, qD⟩ := q; exact ⟨q0, q1, qP, va_K.moved (u := U) (U := U.calling g mk a) (Vm.Alike.refl U.vm) qK, qD⟩, va_recv hK' hPc (ci := 1) (q0 := 0) rfl rfl, fun U hU hW => ⟨rfl, by rw [hU], by rw [hU]; exact hPc, va_K.moved hW.alike hK', hDc.weaken (fun _ _ _ _ => trivial)⟩⟩ rfl hn hl.1 hst (lv_room hcat) d ⟨hrm.2.2.1, hrm.2.2.2⟩) hS (fun q _ h => hFc q h) hFc (fun r1 u1 t1 H1 locs1 ht hvm hp hB hz1 hk1 hS1 => ?_)
  · show lev + 1 ≤ R.frames
    omega
  · show 8 + (LL + 11) + 30 * lev ≤ R.locals
    omega
  · obtain ⟨rfl, rfl⟩ := hp
    obtain ⟨hP1, hK1, hD1⟩ := hB
    rw [ht] at hP1
    obtain ⟨hP2, hD2⟩ := va_join (wr := cwC dZ dN h u) hP hD [10, 11, 12, 13, 14, 15] [0, 1, 2, 3, 4, 5, 6, 7, 8, 9] rfl rfl (by decide) (by decide) hk1 hFc hP1 hD1
    exact k H1 locs1 ls ⟨hP2.sub [0, 1, 2, 3, 4, 5, 6, 7, 8, 9, 10, 11, 12, 13, 14, 15] rfl, hD2.sub [0, 1, 2, 3, 4, 5, 6, 7, 8, 9, 10, 11, 12, 13, 14, 15] (by decide) rfl, hS1⟩ hl
theorem law_sub {i L : Nat} (hi : i < 1000) (hL : L ≤ 257) : (¬ nI L - nI 4 < nI i) → i + 4 ≤ L := by
  intro h
  have h2 := Int32.not_lt.mp h
  have h3 := Int32.le_iff_toInt_le.mp h2
  rw [pk_sub_toInt (by omega) (by omega), nI_toInt (by omega)] at h3
  omega
set_option maxHeartbeats 4000000 in
theorem law_loop {X : XX (Pst × Pst)} {h h' : Nat → Nat} {b L : Nat} {xs : Nat → Int32} {k : Nat} (hL : L ≤ 257) (hk1 : 1 ≤ k) (hk3 : k ≤ 3) (hC : CkL X h h' b L xs) (hend : ∀ (w : Pst × Pst) (lv : List (Option Value)), CG X w 464 lv [.int 1]) : ∀ (n i v : Nat) (u t : Pst), L < i + 4 * n + 4 → i ≤ 300 → v ≤ i → Rl k v u t → CG X (u, t) 28 [some (.ref b), some (.ref (h 0)), some (.ref (h' 0)), some (.int (nI i))] [] := by
  have hX := hC.ck
  intro n
  induction n with
  | zero =>
    intro i v u t hn hi hv Rw
    refine r_iload_n 3 hX dL_law_28 rfl rfl ?_
    refine r_aload_n 0 hX dL_law_29 rfl rfl ?_
    refine ll_len hC dL_law_30 ?_
    refine r_iconst (nI 4) hX dL_law_31 (by decide) ?_
    refine r_isub hX dL_law_32 ?_
    refine r_icmp_gt 463 hX dL_law_33 (by decide) (fun c33 => ?_) (fun c33 => ?_)
    · refine r_iconst 1 hX dL_law_463 (by decide) ?_
      exact hend _ _
    · exact absurd (law_sub (by omega) hL c33) (by omega)
  | succ n ih =>
    intro i v u t hn hi hv Rw
    refine r_iload_n 3 hX dL_law_28 rfl rfl ?_
    refine r_aload_n 0 hX dL_law_29 rfl rfl ?_
    refine ll_len hC dL_law_30 ?_
    refine r_iconst (nI 4) hX dL_law_31 (by decide) ?_
    refine r_isub hX dL_law_32 ?_
    refine r_icmp_gt 463 hX dL_law_33 (by decide) (fun c33 => ?_) (fun c33 => ?_)
    · refine r_iconst 1 hX dL_law_463 (by decide) ?_
      exact hend _ _
    have hlt : i + 4 ≤ L := law_sub (by omega) hL c33
    have next : ∀ (v' : Nat) (u' t' : Pst), v' ≤ v + 1 → Rl k v' u' t' → CG X (u', t') 457 [some (.ref b), some (.ref (h 0)), some (.ref (h' 0)), some (.int (nI i))] [] := by
      intro v' u' t' hv' R'
      refine r_iinc 3 (nI (i + 4)) (lv' := [_, _, _, _]) hX dL_law_457 rfl (nI_add i 4) (Nat.le_of_ble_eq_true rfl) rfl ?_
      refine r_goto 28 hX dL_law_460 (by decide) ?_
      exact ih (i + 4) v' u' t' (by omega) (by omega) (by omega) R'
    refine r_aload_n 0 hX dL_law_36 rfl rfl ?_
    refine r_iload_n 3 hX dL_law_37 rfl rfl ?_
    refine ll_ld hC (by omega) hL dL_law_38 ?_
    refine r_bipush (nI 15) hX dL_law_39 (by decide) ?_
    refine r_iand hX dL_law_41 ?_
    obtain ⟨j, hj, ej⟩ := pk_andE (xs i) (m := nI 15) 4 (by decide)
    refine r_eq (nI j) ej ?_
    have hj : j < 16 := hj
    have hjs : j = 0 ∨ j = 1 ∨ j = 2 ∨ j = 3 ∨ j = 4 ∨ j = 5 ∨ j = 6 ∨ j = 7 ∨ j = 8 ∨ j = 9 ∨ j = 10 ∨ j = 11 ∨ j = 12 ∨ 12 < j := by omega
    rcases hjs with rfl | rfl | rfl | rfl | rfl | rfl | rfl | rfl | rfl | rfl | rfl | rfl | rfl | hj12
    · refine ll_tin 66 108 hX dL_law_42 (by decide) (by decide) (by decide) (by decide) ?_
      obtain ⟨r, u', t', v', hv', hc, hm, R'⟩ := op_create Rw hk3 (by omega) (xs (i + 1))
      refine r_aload_n 1 hX dL_law_108 rfl rfl ?_
      refine r_aload_n 0 hX dL_law_109 rfl rfl ?_
      refine r_iload_n 3 hX dL_law_110 rfl rfl ?_
      refine r_iconst (nI 1) hX dL_law_111 (by decide) ?_
      refine r_iaddN hX dL_law_112 ?_
      refine ll_ld hC (by omega) hL dL_law_113 ?_
      refine k_LC hC hc kLC_create rfl rfl (by decide) (Nat.le_of_ble_eq_true rfl) rfl dL_law_114 ?_
      refine r_aload_n 2 hX dL_law_117 rfl rfl ?_
      refine r_aload_n 0 hX dL_law_118 rfl rfl ?_
      refine r_iload_n 3 hX dL_law_119 rfl rfl ?_
      refine r_iconst (nI 1) hX dL_law_120 (by decide) ?_
      refine r_iaddN hX dL_law_121 ?_
      refine ll_ld hC (by omega) hL dL_law_122 ?_
      refine k_LM hC hm kLM_create rfl rfl (by decide) (Nat.le_of_ble_eq_true rfl) rfl dL_law_123 ?_
      exact r_icmp_eq 457 hX dL_law_126 (by decide) (fun _ => next v' u' t' hv' R') (fun z => absurd rfl z)
    · refine ll_tin 89 131 hX dL_law_42 (by decide) (by decide) (by decide) (by decide) ?_
      obtain ⟨r, u', t', v', hv', hc, hm, R'⟩ := op_remove Rw (xs (i + 1))
      refine r_aload_n 1 hX dL_law_131 rfl rfl ?_
      refine r_aload_n 0 hX dL_law_132 rfl rfl ?_
      refine r_iload_n 3 hX dL_law_133 rfl rfl ?_
      refine r_iconst (nI 1) hX dL_law_134 (by decide) ?_
      refine r_iaddN hX dL_law_135 ?_
      refine ll_ld hC (by omega) hL dL_law_136 ?_
      refine k_LC hC hc kLC_remove rfl rfl (by decide) (Nat.le_of_ble_eq_true rfl) rfl dL_law_137 ?_
      refine r_aload_n 2 hX dL_law_140 rfl rfl ?_
      refine r_aload_n 0 hX dL_law_141 rfl rfl ?_
      refine r_iload_n 3 hX dL_law_142 rfl rfl ?_
      refine r_iconst (nI 1) hX dL_law_143 (by decide) ?_
      refine r_iaddN hX dL_law_144 ?_
      refine ll_ld hC (by omega) hL dL_law_145 ?_
      refine k_LM hC hm kLM_remove rfl rfl (by decide) (Nat.le_of_ble_eq_true rfl) rfl dL_law_146 ?_
      exact r_icmp_eq 457 hX dL_law_149 (by decide) (fun _ => next v' u' t' hv' R') (fun z => absurd rfl z)
    · refine ll_tin 112 154 hX dL_law_42 (by decide) (by decide) (by decide) (by decide) ?_
      obtain ⟨r, u', t', v', hv', hc, hm, R'⟩ := op_write Rw (by omega) (xs (i + 1)) (xs (i + 2)) (xs (i + 3))
      refine r_aload_n 1 hX dL_law_154 rfl rfl ?_
      refine r_aload_n 0 hX dL_law_155 rfl rfl ?_
      refine r_iload_n 3 hX dL_law_156 rfl rfl ?_
      refine r_iconst (nI 1) hX dL_law_157 (by decide) ?_
      refine r_iaddN hX dL_law_158 ?_
      refine ll_ld hC (by omega) hL dL_law_159 ?_
      refine r_aload_n 0 hX dL_law_160 rfl rfl ?_
      refine r_iload_n 3 hX dL_law_161 rfl rfl ?_
      refine r_iconst (nI 2) hX dL_law_162 (by decide) ?_
      refine r_iaddN hX dL_law_163 ?_
      refine ll_ld hC (by omega) hL dL_law_164 ?_
      refine r_aload_n 0 hX dL_law_165 rfl rfl ?_
      refine r_iload_n 3 hX dL_law_166 rfl rfl ?_
      refine r_iconst (nI 3) hX dL_law_167 (by decide) ?_
      refine r_iaddN hX dL_law_168 ?_
      refine ll_ld hC (by omega) hL dL_law_169 ?_
      refine k_LC hC hc kLC_write rfl rfl (by decide) (Nat.le_of_ble_eq_true rfl) rfl dL_law_170 ?_
      refine r_aload_n 2 hX dL_law_173 rfl rfl ?_
      refine r_aload_n 0 hX dL_law_174 rfl rfl ?_
      refine r_iload_n 3 hX dL_law_175 rfl rfl ?_
      refine r_iconst (nI 1) hX dL_law_176 (by decide) ?_
      refine r_iaddN hX dL_law_177 ?_
      refine ll_ld hC (by omega) hL dL_law_178 ?_
      refine r_aload_n 0 hX dL_law_179 rfl rfl ?_
      refine r_iload_n 3 hX dL_law_180 rfl rfl ?_
      refine r_iconst (nI 2) hX dL_law_181 (by decide) ?_
      refine r_iaddN hX dL_law_182 ?_
      refine ll_ld hC (by omega) hL dL_law_183 ?_
      refine r_aload_n 0 hX dL_law_184 rfl rfl ?_
      refine r_iload_n 3 hX dL_law_185 rfl rfl ?_
      refine r_iconst (nI 3) hX dL_law_186 (by decide) ?_
      refine r_iaddN hX dL_law_187 ?_
      refine ll_ld hC (by omega) hL dL_law_188 ?_
      refine k_LM hC hm kLM_write rfl rfl (by decide) (Nat.le_of_ble_eq_true rfl) rfl dL_law_189 ?_
      exact r_icmp_eq 457 hX dL_law_192 (by decide) (fun _ => next v' u' t' hv' R') (fun z => absurd rfl z)
    · refine ll_tin 155 197 hX dL_law_42 (by decide) (by decide) (by decide) (by decide) ?_
      obtain ⟨r, u', t', v', hv', hc, hm, R'⟩ := op_append Rw (by omega) (xs (i + 1)) (xs (i + 2))
      refine r_aload_n 1 hX dL_law_197 rfl rfl ?_
      refine r_aload_n 0 hX dL_law_198 rfl rfl ?_
      refine r_iload_n 3 hX dL_law_199 rfl rfl ?_
      refine r_iconst (nI 1) hX dL_law_200 (by decide) ?_
      refine r_iaddN hX dL_law_201 ?_
      refine ll_ld hC (by omega) hL dL_law_202 ?_
      refine r_aload_n 0 hX dL_law_203 rfl rfl ?_
      refine r_iload_n 3 hX dL_law_204 rfl rfl ?_
      refine r_iconst (nI 2) hX dL_law_205 (by decide) ?_
      refine r_iaddN hX dL_law_206 ?_
      refine ll_ld hC (by omega) hL dL_law_207 ?_
      refine k_LC hC hc kLC_append rfl rfl (by decide) (Nat.le_of_ble_eq_true rfl) rfl dL_law_208 ?_
      refine r_aload_n 2 hX dL_law_211 rfl rfl ?_
      refine r_aload_n 0 hX dL_law_212 rfl rfl ?_
      refine r_iload_n 3 hX dL_law_213 rfl rfl ?_
      refine r_iconst (nI 1) hX dL_law_214 (by decide) ?_
      refine r_iaddN hX dL_law_215 ?_
      refine ll_ld hC (by omega) hL dL_law_216 ?_
      refine r_aload_n 0 hX dL_law_217 rfl rfl ?_
      refine r_iload_n 3 hX dL_law_218 rfl rfl ?_
      refine r_iconst (nI 2) hX dL_law_219 (by decide) ?_
      refine r_iaddN hX dL_law_220 ?_
      refine ll_ld hC (by omega) hL dL_law_221 ?_
      refine k_LM hC hm kLM_append rfl rfl (by decide) (Nat.le_of_ble_eq_true rfl) rfl dL_law_222 ?_
      exact r_icmp_eq 457 hX dL_law_225 (by decide) (fun _ => next v' u' t' hv' R') (fun z => absurd rfl z)
    · refine ll_tin 188 230 hX dL_law_42 (by decide) (by decide) (by decide) (by decide) ?_
      obtain ⟨r, u', t', v', hv', hc, hm, R'⟩ := op_snapshot Rw (by omega) (xs (i + 1)) (xs (i + 2))
      refine r_aload_n 1 hX dL_law_230 rfl rfl ?_
      refine r_aload_n 0 hX dL_law_231 rfl rfl ?_
      refine r_iload_n 3 hX dL_law_232 rfl rfl ?_
      refine r_iconst (nI 1) hX dL_law_233 (by decide) ?_
      refine r_iaddN hX dL_law_234 ?_
      refine ll_ld hC (by omega) hL dL_law_235 ?_
      refine r_aload_n 0 hX dL_law_236 rfl rfl ?_
      refine r_iload_n 3 hX dL_law_237 rfl rfl ?_
      refine r_iconst (nI 2) hX dL_law_238 (by decide) ?_
      refine r_iaddN hX dL_law_239 ?_
      refine ll_ld hC (by omega) hL dL_law_240 ?_
      refine k_LC hC hc kLC_snapshot rfl rfl (by decide) (Nat.le_of_ble_eq_true rfl) rfl dL_law_241 ?_
      refine r_aload_n 2 hX dL_law_244 rfl rfl ?_
      refine r_aload_n 0 hX dL_law_245 rfl rfl ?_
      refine r_iload_n 3 hX dL_law_246 rfl rfl ?_
      refine r_iconst (nI 1) hX dL_law_247 (by decide) ?_
      refine r_iaddN hX dL_law_248 ?_
      refine ll_ld hC (by omega) hL dL_law_249 ?_
      refine r_aload_n 0 hX dL_law_250 rfl rfl ?_
      refine r_iload_n 3 hX dL_law_251 rfl rfl ?_
      refine r_iconst (nI 2) hX dL_law_252 (by decide) ?_
      refine r_iaddN hX dL_law_253 ?_
      refine ll_ld hC (by omega) hL dL_law_254 ?_
      refine k_LM hC hm kLM_snapshot rfl rfl (by decide) (Nat.le_of_ble_eq_true rfl) rfl dL_law_255 ?_
      exact r_icmp_eq 457 hX dL_law_258 (by decide) (fun _ => next v' u' t' hv' R') (fun z => absurd rfl z)
    · refine ll_tin 221 263 hX dL_law_42 (by decide) (by decide) (by decide) (by decide) ?_
      obtain ⟨r, u', t', v', hv', hc, hm, R'⟩ := op_crash Rw (xs (i + 1))
      refine r_aload_n 1 hX dL_law_263 rfl rfl ?_
      refine r_aload_n 0 hX dL_law_264 rfl rfl ?_
      refine r_iload_n 3 hX dL_law_265 rfl rfl ?_
      refine r_iconst (nI 1) hX dL_law_266 (by decide) ?_
      refine r_iaddN hX dL_law_267 ?_
      refine ll_ld hC (by omega) hL dL_law_268 ?_
      refine k_LC hC hc kLC_crash rfl rfl (by decide) (Nat.le_of_ble_eq_true rfl) rfl dL_law_269 ?_
      refine r_aload_n 2 hX dL_law_272 rfl rfl ?_
      refine r_aload_n 0 hX dL_law_273 rfl rfl ?_
      refine r_iload_n 3 hX dL_law_274 rfl rfl ?_
      refine r_iconst (nI 1) hX dL_law_275 (by decide) ?_
      refine r_iaddN hX dL_law_276 ?_
      refine ll_ld hC (by omega) hL dL_law_277 ?_
      refine k_LM hC hm kLM_crash rfl rfl (by decide) (Nat.le_of_ble_eq_true rfl) rfl dL_law_278 ?_
      exact r_icmp_eq 457 hX dL_law_281 (by decide) (fun _ => next v' u' t' hv' R') (fun z => absurd rfl z)
    · refine ll_tin 244 286 hX dL_law_42 (by decide) (by decide) (by decide) (by decide) ?_
      obtain ⟨r, u', t', v', hv', hc, hm, R'⟩ := op_restart Rw (xs (i + 1))
      refine r_aload_n 1 hX dL_law_286 rfl rfl ?_
      refine r_aload_n 0 hX dL_law_287 rfl rfl ?_
      refine r_iload_n 3 hX dL_law_288 rfl rfl ?_
      refine r_iconst (nI 1) hX dL_law_289 (by decide) ?_
      refine r_iaddN hX dL_law_290 ?_
      refine ll_ld hC (by omega) hL dL_law_291 ?_
      refine k_LC hC hc kLC_restart rfl rfl (by decide) (Nat.le_of_ble_eq_true rfl) rfl dL_law_292 ?_
      refine r_aload_n 2 hX dL_law_295 rfl rfl ?_
      refine r_aload_n 0 hX dL_law_296 rfl rfl ?_
      refine r_iload_n 3 hX dL_law_297 rfl rfl ?_
      refine r_iconst (nI 1) hX dL_law_298 (by decide) ?_
      refine r_iaddN hX dL_law_299 ?_
      refine ll_ld hC (by omega) hL dL_law_300 ?_
      refine k_LM hC hm kLM_restart rfl rfl (by decide) (Nat.le_of_ble_eq_true rfl) rfl dL_law_301 ?_
      exact r_icmp_eq 457 hX dL_law_304 (by decide) (fun _ => next v' u' t' hv' R') (fun z => absurd rfl z)
    · refine ll_tin 267 309 hX dL_law_42 (by decide) (by decide) (by decide) (by decide) ?_
      obtain ⟨r, u', t', v', hv', hc, hm, R'⟩ := op_loseDisk Rw (xs (i + 1))
      refine r_aload_n 1 hX dL_law_309 rfl rfl ?_
      refine r_aload_n 0 hX dL_law_310 rfl rfl ?_
      refine r_iload_n 3 hX dL_law_311 rfl rfl ?_
      refine r_iconst (nI 1) hX dL_law_312 (by decide) ?_
      refine r_iaddN hX dL_law_313 ?_
      refine ll_ld hC (by omega) hL dL_law_314 ?_
      refine k_LC hC hc kLC_loseDisk rfl rfl (by decide) (Nat.le_of_ble_eq_true rfl) rfl dL_law_315 ?_
      refine r_aload_n 2 hX dL_law_318 rfl rfl ?_
      refine r_aload_n 0 hX dL_law_319 rfl rfl ?_
      refine r_iload_n 3 hX dL_law_320 rfl rfl ?_
      refine r_iconst (nI 1) hX dL_law_321 (by decide) ?_
      refine r_iaddN hX dL_law_322 ?_
      refine ll_ld hC (by omega) hL dL_law_323 ?_
      refine k_LM hC hm kLM_loseDisk rfl rfl (by decide) (Nat.le_of_ble_eq_true rfl) rfl dL_law_324 ?_
      exact r_icmp_eq 457 hX dL_law_327 (by decide) (fun _ => next v' u' t' hv' R') (fun z => absurd rfl z)
    · refine ll_tin 290 332 hX dL_law_42 (by decide) (by decide) (by decide) (by decide) ?_
      obtain ⟨r, u', t', v', hv', hc, hm, R'⟩ := op_damage Rw (xs (i + 1)) (xs (i + 2))
      refine r_aload_n 1 hX dL_law_332 rfl rfl ?_
      refine r_aload_n 0 hX dL_law_333 rfl rfl ?_
      refine r_iload_n 3 hX dL_law_334 rfl rfl ?_
      refine r_iconst (nI 1) hX dL_law_335 (by decide) ?_
      refine r_iaddN hX dL_law_336 ?_
      refine ll_ld hC (by omega) hL dL_law_337 ?_
      refine r_aload_n 0 hX dL_law_338 rfl rfl ?_
      refine r_iload_n 3 hX dL_law_339 rfl rfl ?_
      refine r_iconst (nI 2) hX dL_law_340 (by decide) ?_
      refine r_iaddN hX dL_law_341 ?_
      refine ll_ld hC (by omega) hL dL_law_342 ?_
      refine k_LC hC hc kLC_damage rfl rfl (by decide) (Nat.le_of_ble_eq_true rfl) rfl dL_law_343 ?_
      refine r_aload_n 2 hX dL_law_346 rfl rfl ?_
      refine r_aload_n 0 hX dL_law_347 rfl rfl ?_
      refine r_iload_n 3 hX dL_law_348 rfl rfl ?_
      refine r_iconst (nI 1) hX dL_law_349 (by decide) ?_
      refine r_iaddN hX dL_law_350 ?_
      refine ll_ld hC (by omega) hL dL_law_351 ?_
      refine r_aload_n 0 hX dL_law_352 rfl rfl ?_
      refine r_iload_n 3 hX dL_law_353 rfl rfl ?_
      refine r_iconst (nI 2) hX dL_law_354 (by decide) ?_
      refine r_iaddN hX dL_law_355 ?_
      refine ll_ld hC (by omega) hL dL_law_356 ?_
      refine k_LM hC hm kLM_damage rfl rfl (by decide) (Nat.le_of_ble_eq_true rfl) rfl dL_law_357 ?_
      exact r_icmp_eq 457 hX dL_law_360 (by decide) (fun _ => next v' u' t' hv' R') (fun z => absurd rfl z)
    · refine ll_tin 323 365 hX dL_law_42 (by decide) (by decide) (by decide) (by decide) ?_
      obtain ⟨r, u', t', v', hv', hc, hm, R'⟩ := op_heal Rw hk1 hk3 
      refine r_aload_n 1 hX dL_law_365 rfl rfl ?_
      refine k_LC hC hc kLC_heal rfl rfl (by decide) (Nat.le_of_ble_eq_true rfl) rfl dL_law_366 ?_
      refine r_aload_n 2 hX dL_law_369 rfl rfl ?_
      refine k_LM hC hm kLM_heal rfl rfl (by decide) (Nat.le_of_ble_eq_true rfl) rfl dL_law_370 ?_
      exact r_icmp_eq 457 hX dL_law_373 (by decide) (fun _ => next v' u' t' hv' R') (fun z => absurd rfl z)
    · refine ll_tin 336 378 hX dL_law_42 (by decide) (by decide) (by decide) (by decide) ?_
      obtain ⟨r, u', t', v', hv', hc, hm, R'⟩ := op_read Rw (xs (i + 1)) (xs (i + 2))
      refine r_aload_n 1 hX dL_law_378 rfl rfl ?_
      refine r_aload_n 0 hX dL_law_379 rfl rfl ?_
      refine r_iload_n 3 hX dL_law_380 rfl rfl ?_
      refine r_iconst (nI 1) hX dL_law_381 (by decide) ?_
      refine r_iaddN hX dL_law_382 ?_
      refine ll_ld hC (by omega) hL dL_law_383 ?_
      refine r_aload_n 0 hX dL_law_384 rfl rfl ?_
      refine r_iload_n 3 hX dL_law_385 rfl rfl ?_
      refine r_iconst (nI 2) hX dL_law_386 (by decide) ?_
      refine r_iaddN hX dL_law_387 ?_
      refine ll_ld hC (by omega) hL dL_law_388 ?_
      refine k_LC hC hc kLC_read rfl rfl (by decide) (Nat.le_of_ble_eq_true rfl) rfl dL_law_389 ?_
      refine r_aload_n 2 hX dL_law_392 rfl rfl ?_
      refine r_aload_n 0 hX dL_law_393 rfl rfl ?_
      refine r_iload_n 3 hX dL_law_394 rfl rfl ?_
      refine r_iconst (nI 1) hX dL_law_395 (by decide) ?_
      refine r_iaddN hX dL_law_396 ?_
      refine ll_ld hC (by omega) hL dL_law_397 ?_
      refine r_aload_n 0 hX dL_law_398 rfl rfl ?_
      refine r_iload_n 3 hX dL_law_399 rfl rfl ?_
      refine r_iconst (nI 2) hX dL_law_400 (by decide) ?_
      refine r_iaddN hX dL_law_401 ?_
      refine ll_ld hC (by omega) hL dL_law_402 ?_
      refine k_LM hC hm kLM_read rfl rfl (by decide) (Nat.le_of_ble_eq_true rfl) rfl dL_law_403 ?_
      exact r_icmp_eq 457 hX dL_law_406 (by decide) (fun _ => next v' u' t' hv' R') (fun z => absurd rfl z)
    · refine ll_tin 369 411 hX dL_law_42 (by decide) (by decide) (by decide) (by decide) ?_
      obtain ⟨r, u', t', v', hv', hc, hm, R'⟩ := op_length Rw (xs (i + 1))
      refine r_aload_n 1 hX dL_law_411 rfl rfl ?_
      refine r_aload_n 0 hX dL_law_412 rfl rfl ?_
      refine r_iload_n 3 hX dL_law_413 rfl rfl ?_
      refine r_iconst (nI 1) hX dL_law_414 (by decide) ?_
      refine r_iaddN hX dL_law_415 ?_
      refine ll_ld hC (by omega) hL dL_law_416 ?_
      refine k_LC hC hc kLC_length rfl rfl (by decide) (Nat.le_of_ble_eq_true rfl) rfl dL_law_417 ?_
      refine r_aload_n 2 hX dL_law_420 rfl rfl ?_
      refine r_aload_n 0 hX dL_law_421 rfl rfl ?_
      refine r_iload_n 3 hX dL_law_422 rfl rfl ?_
      refine r_iconst (nI 1) hX dL_law_423 (by decide) ?_
      refine r_iaddN hX dL_law_424 ?_
      refine ll_ld hC (by omega) hL dL_law_425 ?_
      refine k_LM hC hm kLM_length rfl rfl (by decide) (Nat.le_of_ble_eq_true rfl) rfl dL_law_426 ?_
      exact r_icmp_eq 457 hX dL_law_429 (by decide) (fun _ => next v' u' t' hv' R') (fun z => absurd rfl z)
    · refine ll_tin 392 434 hX dL_law_42 (by decide) (by decide) (by decide) (by decide) ?_
      obtain ⟨r, u', t', v', hv', hc, hm, R'⟩ := op_replicas Rw (xs (i + 1))
      refine r_aload_n 1 hX dL_law_434 rfl rfl ?_
      refine r_aload_n 0 hX dL_law_435 rfl rfl ?_
      refine r_iload_n 3 hX dL_law_436 rfl rfl ?_
      refine r_iconst (nI 1) hX dL_law_437 (by decide) ?_
      refine r_iaddN hX dL_law_438 ?_
      refine ll_ld hC (by omega) hL dL_law_439 ?_
      refine k_LC hC hc kLC_replicas rfl rfl (by decide) (Nat.le_of_ble_eq_true rfl) rfl dL_law_440 ?_
      refine r_aload_n 2 hX dL_law_443 rfl rfl ?_
      refine r_aload_n 0 hX dL_law_444 rfl rfl ?_
      refine r_iload_n 3 hX dL_law_445 rfl rfl ?_
      refine r_iconst (nI 1) hX dL_law_446 (by decide) ?_
      refine r_iaddN hX dL_law_447 ?_
      refine ll_ld hC (by omega) hL dL_law_448 ?_
      refine k_LM hC hm kLM_replicas rfl rfl (by decide) (Nat.le_of_ble_eq_true rfl) rfl dL_law_449 ?_
      exact r_icmp_eq 457 hX dL_law_452 (by decide) (fun _ => next v' u' t' hv' R') (fun z => absurd rfl z)
    · refine ll_tout 457 hX dL_law_42 (Or.inr ?_) (by decide) (next v u t (by omega) Rw)
      rw [nI_toInt (by omega)]
      omega
end
section
/-! THE CLAIM OUT OF ONE WALK OF THE LAW'S BODY. Your part is whole_start (and what it stands on); all else here is the same for every law, but numbers. -/
def R_law : String := "ChunkClusterLaw"
def lw_P (b : Addr) (xs : List Int32) (args : Array Value) (s : State) : Prop := args = #[.ref b] ∧ s.IntsAt b xs ∧ xs.length ≤ 257 ∧ (Jvm.Cond.and given_1 narrow_1).before args s = true
def lw_Q (_ : Array Value) (s : State) (o : Outcome) (t : State) : Prop := o = .returned (some (.int 1)) ∧ Framed s o t [] 600000 7290000
def lw_Z (below : List Frame) (a : Array Value) (s : State) : State → Prop := fun t => ∃ o, t.status = .running ∧ Ended t below o ∧ lw_Q a s o t
/-- the law's own end, with 1 on the stack, nothing written that was there before, its room as the claim has it -/
theorem lw_ret {p : Program} {l : Launch} {e : Env} {s : State} {m : MethodId} {below : List Frame} {meth : Method} {c : Code} {b : Nat} (hx : p.tables.exec = Jvm.exec) (hb : c.code = code) (hr : meth.sig.returnType = ret) (hlocks : meth.locks = false) {pc : Nat} {H : Heap} {ls : Array Slot} (hdg : decode code pc = .ok (.ireturn, 1)) : W p l e room_1 s m #[Value.ref b] below meth c H [] 600000 7290000 (lw_Z below #[Value.ref b] s) (F0 m pc ls [.int 1]) := by
  intro T hT X
  obtain ⟨fs, hret, hrun, hended, hW, hframe⟩ := X.leave (v := some (.int 1)) (hlocks := hlocks) (fun h => by rw [hr] at h; cases h)
  have hmeth' : T.vm.method? m = some meth := X.method'
  refine ⟨T.setFrames fs, ?_, .returned (some (.int 1)), hrun, hended, rfl, ⟨_, rfl⟩, hW, hframe⟩
  jvm_step X.here [X.here.top, hx, hb, hdg, hmeth', hr, ret, narrow_b1]
  (try refine ⟨rfl, ?_⟩); (try refine ⟨rfl, ?_⟩)
  first | (intro acts; rw [hret _ acts rfl rfl rfl]) | rw [hret _ _ rfl rfl rfl]
  exact Steps.refl _
/-- what holds at the law's entry: the machine, the code, the tables' words (any of lw_tbl by 'hts w (by decide +kernel)'), the script of L ints xs at the cell b, what the Statement gives of the start (any of its parts by flat_of_before) -/
def lw_At (p : Program) (s : State) (m : MethodId) (meth : Method) (c : Code) (b L : Nat) (xs : Nat → Int32) : Prop :=
  p.tables.exec = Jvm.exec ∧ c.code = code ∧ meth.sig.returnType = ret ∧ c.maxLocals = 4 ∧ s.vm.findClass R_law = some m.cls ∧ (∀ w ∈ lw_tbl, w.before #[Value.ref b] s = true) ∧ va_X b L xs s s.heap ∧ b < s.heap.size ∧ meth.locks = false ∧ (Jvm.Cond.and given_1 narrow_1).before #[Value.ref b] s = true
-- ===== YOUR PART BEGINS =====
set_option maxHeartbeats 4000000 in
set_option maxRecDepth 100000 in
/-- from the entry, for every script of at most 257 ints, the law comes to its end with true -/
theorem whole_start {p : Program} {e : Env} {s : State} {m : MethodId} {below : List Frame} {meth : Method} {c : Code} (l : Launch) {b L : Nat} {xs : Nat → Int32} (hL : L ≤ 257) (C0 : lw_At p s m meth c b L xs) : W p l e room_1 s m #[Value.ref b] below meth c s.heap [] 0 0 (lw_Z below #[Value.ref b] s) (entryFrame m ([Value.ref b] : List Value).toArray 4) := by
  obtain ⟨hx, hb, hr, hml, hown, hts0, hX, hbl, hlocks, -⟩ := C0
  have hts : ∀ w ∈ lw_all, w.before #[Value.ref b] s = true := fun w h => hts0 w (lw_all_tbl h)
  obtain ⟨D, hK⟩ : ∃ D : va_G, va_K D vwCl [] s := by
    obtain ⟨c0_, iS0, hKn0⟩ := u_known (C := RX1) (T := TX1) (N := 11) (n := 11) hts in_X1 (hts _ q27)
    obtain ⟨c1_, iS1, hKn1⟩ := u_known (C := RX2) (T := TX2) (N := 6) (n := 6) hts in_X2 (hts _ q200)
    refine ⟨(fun k => if k = 0 then c0_ else c1_, fun k => if k = 0 then iS0 else iS1), ?_, fun k q h => by simp at h⟩
    intro k q hq
    match k, hq with
    | 0, hq => cases hq; exact hKn0
    | 1, hq => cases hq; exact hKn1
    | k + 2, hq => simp [vwCl] at hq
  obtain ⟨A, hAe⟩ : ∃ A : Nat → Prop, A = fun q => s.heap.size ≤ q := ⟨_, rfl⟩
  have hA : ∀ q : Nat, s.heap.size ≤ q → A q := fun q h => by rw [hAe]; exact h
  have hbA : ¬ A b := by rw [hAe]; exact Nat.not_le.mpr hbl
  have hP : va_P D vwCl [] s.heap := fun k q h => by simp at h
  have hD : va_D A [] := ⟨fun i j p q h => by simp at h, fun k q h => by simp at h⟩
  have hS : va_S A s.heap s.heap [] := va_S.rf
  obtain ⟨x, hxx⟩ : ∃ x : Int32, x = if 0 < L then xs 0 else 0 := ⟨_, rfl⟩
  obtain ⟨k, hkl, hkh, hkk⟩ := KK_ex x
  have hl := lv_entry ([.ref b]) (n := 4) (Nat.le_of_ble_eq_true rfl)
  rw [lg_entry_eq]
  generalize (lg_sl ([.ref b]) ++ List.replicate (4 - (lg_sl ([.ref b])).length) Slot.unset).toArray = ls at hl ⊢
  have hl : lv_has ls 4 [(0, .ref b)] := hl
  have hcell : ∀ (H : Heap) (locs : List Loc) (cells slots : Nat) (ls : Array Slot) (pc : Nat) (rest : List Value) (ws : va_W) (Q : State → Prop), cells ≤ 600000 → slots ≤ 7290000 → ls.size = 4 → (rest.map fun v => v.category).sum ≤ 8 → decode cL_law pc = .ok (.invokestatic 9, 3) → va_P D vwCl ws H → va_S A s.heap H locs → (∀ (H1 : Heap) (locs1 : List Loc), va_P D vwCl ws H1 → va_S A s.heap H1 locs1 → W p l e room_1 s m #[Value.ref b] below meth c H1 locs1 cells slots Q (F0 m (pc + 3) ls (.int x :: rest))) → W p l e room_1 s m #[Value.ref b] below meth c H locs cells slots Q (F0 m pc ls (.int (nI 0) :: .ref b :: rest)) := by
    intro H locs cells slots ls pc rest ws Q hc1 hc2 hsz hcat d hP hS kk
    have hXH : va_X b L xs s H := hX.kept (hS.2.1 b hbl hbA)
    refine va_calli (va_runS (As := [.ref b, .int (nI 0)]) (rest := rest) ⟨hx, hb, hml, hown, hts⟩ (n_cell l b L xs hL) (va_cwS 2 hts (lw_S q196 q197 q23 q198) rfl rfl rfl (by decide +kernel) ⟨Nat.le_of_ble_eq_true rfl, Nat.le_of_ble_eq_true rfl⟩) ⟨fun a U g mk q => by obtain ⟨q0, q1⟩ := q; exact ⟨q0, va_X.moved (u := U) (U := U.calling g mk a) (Vm.Alike.refl U.vm) q1⟩, fun U hU hW => ⟨rfl, by show va_X b L xs U U.heap; rw [hU]; exact hXH.moved hW.alike⟩⟩ rfl rfl hsz rfl (lv_room hcat) d ⟨hc1, hc2⟩) hS (fun q _ h => absurd h (fun z => z)) (fun q h => absurd h (fun z => z)) (fun r1 u1 t H1 locs1 ht hvm hp hB hz1 hk1 hS1 => ?_)
    have hp : r1 = x := hp.trans hxx.symm
    subst hp
    exact kk H1 locs1 (hP.kept (fun k q hk => hk1 q.1 (hP k q hk).lt (fun z => z))) hS1
  refine va_new (ci := 0) (fs := fs0C) (C := RX1) (T := TX1) (N := 11) hx hb hts in_X1 tyX1 tyX1_ok hown (hts _ q26) (hts _ q27) (hts _ q24) hK hP hD hS hA rfl (fun j hj => by rcases (show j = 0 ∨ j = 1 ∨ j = 2 ∨ j = 3 ∨ j = 4 ∨ j = 5 ∨ j = 6 ∨ j = 7 ∨ j = 8 ∨ j = 9 ∨ j = 10 by omega) with rfl | rfl | rfl | rfl | rfl | rfl | rfl | rfl | rfl | rfl | rfl <;> rfl) (by decide) (by decide) dL_law_0 (fun q1 H hP hD hS => ?_)
  have hP : va_P D vwCl [(q1, .inr (0, fs0C))] H := hP
  have hD : va_D A [(q1, .inr (0, fs0C))] := hD
  refine W.widen (k := 1) (n := 11) (by decide) (by decide) ?_
  refine lv_dup hx hb dL_law_3 rfl ?_
  refine lv_aload_n hx hb dL_law_4 rfl (lv_at hl 0 rfl) ?_
  refine lv_iconst (v := nI 0) hx hb dL_law_5 (by decide) ?_
  refine hcell _ _ _ _ _ _ _ _ _ (by decide) (by decide) hl.1 (Nat.le_of_ble_eq_true rfl) dL_law_6 hP hS (fun H locs hP hS => ?_)
  have hFc := va_free (wc := [(q1, .inr (0, fs0C))]) hD hS hA [0] rfl
  refine va_callv (va_runI (As := [.int x]) (rest := [.ref q1]) ⟨hx, hb, hml, hown, hts⟩ (n_C l D q1 H.size x k hkk) (cwI 1 hts (lw_meth q30) rfl rfl rfl (hts _ q24) (hts _ q28) (hts _ q29) rfl (by decide +kernel) ⟨Nat.le_of_ble_eq_true rfl, Nat.le_of_ble_eq_true rfl⟩) ⟨fun a U g mk q => by obtain ⟨q0, q1, qP, qK, qD⟩ := q; exact ⟨q0, q1, qP, va_K.moved (u := U) (U := U.calling g mk a) (Vm.Alike.refl U.vm) qK, qD⟩, fun U hU hW => ⟨rfl, by rw [hU], by rw [hU]; exact hP, va_K.moved hW.alike hK, hD.weaken (fun _ _ _ _ => trivial)⟩⟩ rfl rfl hl.1 rfl (lv_room (Nat.le_of_ble_eq_true rfl)) dL_law_9 ⟨by decide, by decide⟩) hS (fun q _ h => hFc q h) hFc (fun w1 t H1 locs ht hvm hw1 hB hz1 hk1 hS => ?_)
  obtain ⟨dZ, dN, h⟩ := w1
  have hw1 : h 0 = q1 := hw1
  obtain ⟨hP1, hK1, hD1⟩ := hB
  rw [ht] at hP1
  have hK1 := va_K.moved hvm.symm hK1
  obtain ⟨hP, hD⟩ := va_join (wr := []) (w1 := cwC dZ dN h (u0C k)) hP hD [0] [] rfl rfl (by decide) (by decide) hk1 hFc hP1 hD1
  have hP : va_P D vwCl (cwC dZ dN h (u0C k)) H1 := hP
  have hD : va_D A (cwC dZ dN h (u0C k)) := hD
  have hKC : va_K D vwCl (tyA dZ dN) s := hK1
  clear hP1 hK1 hD1 hk1 hz1 hFc
  refine lv_astore_n (lv' := [(1, .ref q1), (0, .ref b)]) hx hb dL_law_12 rfl hl (by decide) rfl (fun ls hl => ?_)
  refine va_new (ci := 1) (fs := fs0M) (C := RX2) (T := TX2) (N := 6) hx hb hts in_X2 tyX2 tyX2_ok hown (hts _ q199) (hts _ q200) (hts _ q25) hK hP hD hS hA rfl (fun j hj => by rcases (show j = 0 ∨ j = 1 ∨ j = 2 ∨ j = 3 ∨ j = 4 ∨ j = 5 by omega) with rfl | rfl | rfl | rfl | rfl | rfl <;> rfl) (by decide) (by decide) dL_law_13 (fun q2 H hP hD hS => ?_)
  refine W.widen (k := 11) (n := 250) (by decide) (by decide) ?_
  refine lv_dup hx hb dL_law_16 rfl ?_
  refine lv_aload_n hx hb dL_law_17 rfl (lv_at hl 1 rfl) ?_
  refine lv_iconst (v := nI 0) hx hb dL_law_18 (by decide) ?_
  refine hcell _ _ _ _ _ _ _ _ _ (by decide) (by decide) hl.1 (Nat.le_of_ble_eq_true rfl) dL_law_19 hP hS (fun H locs hP hS => ?_)
  have hPc := hP.sub (ws' := [(q2, .inr (1, fs0M))]) [10] rfl
  have hDc := hD.sub (ws' := [(q2, .inr (1, fs0M))]) [10] (by decide) rfl
  have hFc := va_free (wc := [(q2, .inr (1, fs0M))]) hD hS hA [10] rfl
  refine va_callv (va_runI (As := [.int x]) (rest := [.ref q2]) ⟨hx, hb, hml, hown, hts⟩ (n_M l D q2 H.size x k hkk) (cwI 1 hts (lw_meth q203) rfl rfl rfl (hts _ q25) (hts _ q201) (hts _ q202) rfl (by decide +kernel) ⟨Nat.le_of_ble_eq_true rfl, Nat.le_of_ble_eq_true rfl⟩) ⟨fun a U g mk q => by obtain ⟨q0, q1, qP, qK, qD⟩ := q; exact ⟨q0, q1, qP, va_K.moved (u := U) (U := U.calling g mk a) (Vm.Alike.refl U.vm) qK, qD⟩, fun U hU hW => ⟨rfl, by rw [hU], by rw [hU]; exact hPc, va_K.moved hW.alike hK, hDc.weaken (fun _ _ _ _ => trivial)⟩⟩ rfl rfl hl.1 rfl (lv_room (Nat.le_of_ble_eq_true rfl)) dL_law_22 ⟨by decide, by decide⟩) hS (fun q _ h => hFc q h) hFc (fun w2 t H1 locs ht hvm hw2 hB hz1 hk1 hS => ?_)
  obtain ⟨dZ', dN', h'⟩ := w2
  have hw2 : h' 0 = q2 := hw2
  obtain ⟨hP1, hK1, hD1⟩ := hB
  rw [ht] at hP1
  have hK1 := va_K.moved hvm.symm hK1
  obtain ⟨hP, hD⟩ := va_join (wr := cwC dZ dN h (u0C k)) (w1 := cwM dZ' dN' h' (u0M k)) hP hD [10] [0, 1, 2, 3, 4, 5, 6, 7, 8, 9] rfl rfl (by decide) (by decide) hk1 hFc hP1 hD1
  refine lv_astore_n (lv' := [(2, .ref q2), (1, .ref q1), (0, .ref b)]) hx hb dL_law_25 rfl hl (by decide) rfl (fun ls hl => ?_)
  refine lv_iconst (v := nI 1) hx hb dL_law_26 (by decide) ?_
  refine lv_istore_n (lv' := [(3, .int (nI 1)), (2, .ref q2), (1, .ref q1), (0, .ref b)]) hx hb dL_law_27 rfl hl (by decide) rfl (fun ls hl => ?_)
  refine W.widen (k := 16) (n := 307) (by decide) (by decide) ?_
  have key := law_loop (X := (p, l, e, room_1, s, m, #[Value.ref b], below, meth, c, 16, 307, 4, lw_Z below #[Value.ref b] s, wdL D dZ dN dZ' dN' h h' A s)) (h := h) (h' := h') (b := b) (L := L) (xs := xs) (k := k) hL hkl hkh (And.intro ⟨hx, hb⟩ (And.intro hml (And.intro hown (And.intro hts (And.intro ⟨by decide, by decide, by decide, by decide⟩ (And.intro hX (And.intro hbl ⟨D, dZ, dN, dZ', dN', A, hKC, hK1, hA, hbA, rfl⟩))))))) (fun w lv => by
      intro H locs ls hw _
      refine va_forget (fun q hq => by have := hw.2.2.2.2 q hq; rw [hAe] at this; exact this) ?_
      refine W.widen (k := 600000) (n := 7290000) (by decide) (by decide) ?_
      exact lw_ret hx hb hr hlocks dL_law_464) 65 1 0 (u0C k) (u0M k) (by omega) (by decide) (by decide) (Rl_init k)
  refine key H1 locs ls ⟨hP, hD, hS⟩ ⟨hl.1, rfl, hl.2.1, fun i v hi => ?_⟩
  rw [hw1, hw2] at hi
  match i, hi with
  | 0, hi => cases hi; exact ⟨lv_at hl 3 rfl, rfl⟩
  | 1, hi => cases hi; exact ⟨lv_at hl 2 rfl, rfl⟩
  | 2, hi => cases hi; exact ⟨lv_at hl 1 rfl, rfl⟩
  | 3, hi => cases hi; exact ⟨lv_at hl 0 rfl, rfl⟩
  | i + 4, hi => simp at hi
-- ===== YOUR PART ENDS =====
set_option maxHeartbeats 4000000 in
theorem lw_walk (l : Launch) (b : Addr) (xs : List Int32) : MetFree l x (headSpec (Jvm.Cond.code x code maxLocals ret :: tables_1) room_1) (lw_P b xs) (fun _ _ _ _ _ => True) lw_Q := by
  refine MetFree.of_bodyS (code := code) (maxLocals := maxLocals) (ret := ret) (by decide) ?_ ?_
  · intro args s m h hn
    obtain ⟨meth, c, h1, h2, h3, h4, h5, h6, -, -⟩ := Cond.code_spec hn (atoms_spec (ws := Jvm.Cond.code x code maxLocals ret :: tables_1) h _ List.mem_cons_self)
    exact ⟨meth, c, h1, h2, h3, h4, h5, h6⟩
  · intro p e s m args below meth c s₁ B hml0 hP _
    obtain ⟨rfl, hx, hbd, hgv⟩ := hP
    obtain ⟨scr, harrAt, hlist, hof, hsmall⟩ := hx
    obtain ⟨hcb, hkn, -, -⟩ := State.arrayAt?_spec harrAt
    have hown : s.vm.findClass R_law = some m.cls := findClass_of_methodNamed B.named
    have hts0 : ∀ c ∈ (Jvm.Cond.code x code maxLocals ret :: tables_1), c.before #[Value.ref b] s = true := atoms_spec (ws := Jvm.Cond.code x code maxLocals ret :: tables_1) B.pre
    have hts : ∀ w ∈ lw_tbl, w.before #[Value.ref b] s = true := k2_hts_sels lw_privs (fun w hw => hts0 w (List.mem_cons_of_mem _ hw)) lw_privs_ok
    have hml : c.maxLocals = 4 := B.maxLocals_eq (hts0 _ List.mem_cons_self)
    have X₀ : Stand p l e room_1 s m #[Value.ref b] below meth c s₁ [] 0 0 := Stand.of_body B
    have hh0 : s₁.heap = s.heap := by rw [B.state]; rfl
    have hsz : scr.slots.size = xs.length := by rw [← Array.length_toList, hlist, List.length_map]
    have hval : ∀ j : Nat, j < xs.length → scr.slots[j]? = some (.int (xs.getD j 0)) := fun j hj => by
      rw [← Array.getElem?_toList, hlist]
      simp [hj]
    have hbl : b < s.heap.size := (Array.getElem?_eq_some_iff.mp hcb).1
    have hX : va_X b xs.length (fun j => xs.getD j 0) s s.heap := ⟨scr, hcb, hof, hkn, hsz, hval⟩
    have K : W p l e room_1 s m #[Value.ref b] below meth c s₁.heap [] 0 0 (lw_Z below #[Value.ref b] s) (entryFrame m ([Value.ref b] : List Value).toArray 4) := by
      rw [hh0]
      exact whole_start l hbd ⟨B.exec, B.bytes, B.returns, hml, hown, hts, hX, hbl, B.notSynchronized, hgv⟩
    obtain ⟨t, a1, o, b1, b2, b3⟩ := K s₁ rfl X₀
    exact ⟨t, o, a1, b1, b2, b3⟩
theorem lw_pre_spec {args : Array Value} {s : State} (h : (Jvm.Cond.and given_1 narrow_1).before args s = true) (hr : rest_1_c.before args s = true) : ∃ (b : Addr) (xs : List Int32), lw_P b xs args s := by
  have hs := flat_of_before _ h
  have hq := flat_of_before _ hr
  have hc : (Cond.count 1).before args s = true := hs _ (by decide +kernel)
  have harr : (Cond.arrayOf (.arg 0) .int).before args s = true := hs _ (by decide +kernel)
  have hle : (Cond.le (.length (.arg 0)) (.int 257)).before args s = true := hs _ (by decide +kernel)
  have hlen : (Cond.isInt (.length (.arg 0))).before args s = true := hq _ (by decide +kernel)
  have hall : (Cond.all (.arg 0) (.isInt (.elem (.arg 0) (.index 0)))).before args s = true := hq _ (by decide +kernel)
  obtain ⟨b, xs, hb, hx⟩ := State.ints_of_pre rfl harr hlen hall
  have hsm : xs.length < 2 ^ 31 := hx.choose_spec.2.2.2
  have hev : (Term.length (.arg 0)).eval args s none [] s = some (.int xs.length.toInt32) := hx.length_eval hb
  have hv := Cond.le_ints hev (show (Term.int 257).eval args s none [] s = some (.int 257) from rfl)
  have hd : xs.length.toInt32 ≤ 257 := by
    simpa [Cond.before, Cond.holds, hv] using hle
  have hN : xs.length ≤ 257 := (Int32.ofNat_le_ofNat hsm (by decide)).mp (show Int32.ofNat xs.length ≤ Int32.ofNat 257 from hd)
  exact ⟨b, xs, Cond.one_arg hc (show args[0]? = some (.ref b) from hb), hx, hN, h⟩
theorem lw_comes (l : Launch) : Comes l x (Jvm.Cond.code x code maxLocals ret :: tables_1) room_1 (fun tb e args s => Calls_1 tb e args s ∧ rest_1 tb e args s ∧ Pre_1 tb e args s)
    (fun _ _ args s o t => lw_Q args s o t) := by
  intro p e ha hc hk s m args below hf hfit hheap happ hpre
  obtain ⟨b, xs, hP⟩ := lw_pre_spec hpre.2.2 hpre.2.1
  obtain ⟨k, o, h1, h2, h3, hQ⟩ := lw_walk l b xs p e ha hc hk s m args below hf ((Spec.applies_iff_loose hf).mp happ).1 hP trivial
  exact ⟨k, o, h1, h2, h3, hQ⟩
theorem lw_frame {s t : State} {o : Outcome} {args : Array Value} (h : Framed s o t [] 600000 7290000) :
    Framed s o t (fieldLocs frame_1_writes args s ++ arrayLocs frame_1_arrays args s ++ staticLocs frame_1_statics s) 600000 7290000 := h
theorem lw_limb (L : Cond) (hL : ∀ (args : Array Value) (s t : State), L.after args s (.returned (some (.int 1))) t = true) :
    ArmFor flags0 classFile x code maxLocals ret World_1 tables_1 room_1 Calls_1 rest_1 Pre_1
      (fun tb e a s o t => postC L tb e a s o t ∧ Framed s o t (fieldLocs frame_1_writes a s ++ arrayLocs frame_1_arrays a s ++ staticLocs frame_1_statics s) 600000 7290000) := by
  intro l _ _ _ p e ha hc hk s m args below hf hfit hheap happ hpre
  obtain ⟨k, o, h1, h2, h3, rfl, hF⟩ := lw_comes l p e ha hc hk s m args below hf hfit hheap happ hpre
  exact ⟨k, _, h1, h2, h3, hL args s _, lw_frame hF⟩
theorem i_vc : Claimed_1_1 ∧ Claimed_1_2 := ⟨lw_limb limb_1_1 (fun args s t => by simp [limb_1_1, Cond.after, Cond.holds, Cond.value]), lw_limb limb_1_2 (fun args s t => Cond.after_iff.mpr (by
  first | (rw [show limb_1_2 = Cond.eq .result (.int 1) from rfl, Cond.eq_ints (x := 1) (y := 1) rfl rfl]; simp; done) | (simp [limb_1_2, Cond.value, Term.eval]; done)))⟩
end
