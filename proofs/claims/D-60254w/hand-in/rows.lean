section
-- ===== PART A: goes FIRST, ahead of the names: the tables' words, and 'selects' of the private methods out of them =====
/-- a private method of a class that the tables say can be made, by its rows of tables_1 -/
def lw_okq (q : MethodName × Nat) : Prop := (q.1.cls ≠ "java/lang/invoke/MethodHandle" ∧ q.1.cls ≠ "java/lang/invoke/VarHandle") ∧ Cond.instantiable q.1.cls q.2 ∈ tables_1 ∧ Cond.privateMethod q.1 ∈ tables_1 ∧ Cond.instanceMethod q.1 ∈ tables_1
set_option maxRecDepth 100000
theorem lw_t1 {w : Cond} (h : w ∈ tables_1_1) : w ∈ tables_1 := List.mem_append_left _ h
theorem lw_t2 {w : Cond} (h : w ∈ tables_1_2) : w ∈ tables_1 := List.mem_append_right _ h
theorem lw_p0 : lw_okq (⟨"ZonedLogStore", "current", "(I)I"⟩, 13) := ⟨⟨by decide +kernel, by decide +kernel⟩, lw_t1 (List.mem_of_getElem? (i := 4) rfl), lw_t1 (List.mem_of_getElem? (i := 65) rfl), lw_t1 (List.mem_of_getElem? (i := 66) rfl)⟩
theorem lw_p1 : lw_okq (⟨"ZonedLogStore", "stored", "(I)I"⟩, 13) := ⟨⟨by decide +kernel, by decide +kernel⟩, lw_t1 (List.mem_of_getElem? (i := 4) rfl), lw_t1 (List.mem_of_getElem? (i := 69) rfl), lw_t1 (List.mem_of_getElem? (i := 70) rfl)⟩
theorem lw_p2 : lw_okq (⟨"ZonedLogStore", "dirtyCount", "()I"⟩, 13) := ⟨⟨by decide +kernel, by decide +kernel⟩, lw_t1 (List.mem_of_getElem? (i := 4) rfl), lw_t1 (List.mem_of_getElem? (i := 77) rfl), lw_t1 (List.mem_of_getElem? (i := 78) rfl)⟩
theorem lw_p3 : lw_okq (⟨"ZonedLogStore", "flush", "(I)V"⟩, 13) := ⟨⟨by decide +kernel, by decide +kernel⟩, lw_t1 (List.mem_of_getElem? (i := 4) rfl), lw_t1 (List.mem_of_getElem? (i := 81) rfl), lw_t1 (List.mem_of_getElem? (i := 82) rfl)⟩
theorem lw_p4 : lw_okq (⟨"ZonedLogStore", "makeRoom", "()V"⟩, 13) := ⟨⟨by decide +kernel, by decide +kernel⟩, lw_t1 (List.mem_of_getElem? (i := 4) rfl), lw_t1 (List.mem_of_getElem? (i := 85) rfl), lw_t1 (List.mem_of_getElem? (i := 86) rfl)⟩
theorem lw_p5 : lw_okq (⟨"ZonedLogStore", "openZone", "()V"⟩, 13) := ⟨⟨by decide +kernel, by decide +kernel⟩, lw_t1 (List.mem_of_getElem? (i := 4) rfl), lw_t1 (List.mem_of_getElem? (i := 89) rfl), lw_t1 (List.mem_of_getElem? (i := 90) rfl)⟩
theorem lw_p6 : lw_okq (⟨"ZonedLogStore", "poorest", "()I"⟩, 13) := ⟨⟨by decide +kernel, by decide +kernel⟩, lw_t1 (List.mem_of_getElem? (i := 4) rfl), lw_t1 (List.mem_of_getElem? (i := 93) rfl), lw_t1 (List.mem_of_getElem? (i := 94) rfl)⟩
theorem lw_p7 : lw_okq (⟨"ZonedLogStore", "living", "(I)I"⟩, 13) := ⟨⟨by decide +kernel, by decide +kernel⟩, lw_t1 (List.mem_of_getElem? (i := 4) rfl), lw_t1 (List.mem_of_getElem? (i := 97) rfl), lw_t1 (List.mem_of_getElem? (i := 98) rfl)⟩
theorem lw_p8 : lw_okq (⟨"ZonedLogStore", "emptyZones", "()I"⟩, 13) := ⟨⟨by decide +kernel, by decide +kernel⟩, lw_t1 (List.mem_of_getElem? (i := 4) rfl), lw_t1 (List.mem_of_getElem? (i := 101) rfl), lw_t1 (List.mem_of_getElem? (i := 102) rfl)⟩
theorem lw_p9 : lw_okq (⟨"ZonedLogStore", "moveOut", "(I)V"⟩, 13) := ⟨⟨by decide +kernel, by decide +kernel⟩, lw_t1 (List.mem_of_getElem? (i := 4) rfl), lw_t1 (List.mem_of_getElem? (i := 105) rfl), lw_t1 (List.mem_of_getElem? (i := 106) rfl)⟩
theorem lw_p10 : lw_okq (⟨"ZonedLogStore", "append", "(II)I"⟩, 13) := ⟨⟨by decide +kernel, by decide +kernel⟩, lw_t1 (List.mem_of_getElem? (i := 4) rfl), lw_t1 (List.mem_of_getElem? (i := 109) rfl), lw_t1 (List.mem_of_getElem? (i := 110) rfl)⟩
theorem lw_p11 : lw_okq (⟨"ZonedLogStore", "empty", "(I)V"⟩, 13) := ⟨⟨by decide +kernel, by decide +kernel⟩, lw_t1 (List.mem_of_getElem? (i := 4) rfl), lw_t1 (List.mem_of_getElem? (i := 113) rfl), lw_t1 (List.mem_of_getElem? (i := 114) rfl)⟩
theorem lw_p12 : lw_okq (⟨"ZonedLogStore", "dropCache", "()V"⟩, 13) := ⟨⟨by decide +kernel, by decide +kernel⟩, lw_t1 (List.mem_of_getElem? (i := 4) rfl), lw_t1 (List.mem_of_getElem? (i := 117) rfl), lw_t1 (List.mem_of_getElem? (i := 118) rfl)⟩
theorem lw_p13 : lw_okq (⟨"ZonedLogStore", "fall", "()V"⟩, 13) := ⟨⟨by decide +kernel, by decide +kernel⟩, lw_t1 (List.mem_of_getElem? (i := 4) rfl), lw_t1 (List.mem_of_getElem? (i := 146) rfl), lw_t1 (List.mem_of_getElem? (i := 147) rfl)⟩
theorem lw_p14 : lw_okq (⟨"ZonedLogStore", "recover", "()V"⟩, 13) := ⟨⟨by decide +kernel, by decide +kernel⟩, lw_t1 (List.mem_of_getElem? (i := 4) rfl), lw_t1 (List.mem_of_getElem? (i := 158) rfl), lw_t1 (List.mem_of_getElem? (i := 159) rfl)⟩
theorem lw_p15 : lw_okq (⟨"ZonedLogStore", "counts", "(I)Z"⟩, 13) := ⟨⟨by decide +kernel, by decide +kernel⟩, lw_t1 (List.mem_of_getElem? (i := 4) rfl), lw_t1 (List.mem_of_getElem? (i := 162) rfl), lw_t1 (List.mem_of_getElem? (i := 163) rfl)⟩
def lw_privs_1 : List (MethodName × Nat) := [(⟨"ZonedLogStore", "current", "(I)I"⟩, 13), (⟨"ZonedLogStore", "stored", "(I)I"⟩, 13), (⟨"ZonedLogStore", "dirtyCount", "()I"⟩, 13), (⟨"ZonedLogStore", "flush", "(I)V"⟩, 13), (⟨"ZonedLogStore", "makeRoom", "()V"⟩, 13), (⟨"ZonedLogStore", "openZone", "()V"⟩, 13), (⟨"ZonedLogStore", "poorest", "()I"⟩, 13), (⟨"ZonedLogStore", "living", "(I)I"⟩, 13), (⟨"ZonedLogStore", "emptyZones", "()I"⟩, 13), (⟨"ZonedLogStore", "moveOut", "(I)V"⟩, 13), (⟨"ZonedLogStore", "append", "(II)I"⟩, 13), (⟨"ZonedLogStore", "empty", "(I)V"⟩, 13), (⟨"ZonedLogStore", "dropCache", "()V"⟩, 13), (⟨"ZonedLogStore", "fall", "()V"⟩, 13), (⟨"ZonedLogStore", "recover", "()V"⟩, 13), (⟨"ZonedLogStore", "counts", "(I)Z"⟩, 13)]
theorem lw_r1 : ∀ q ∈ lw_privs_1, lw_okq q := List.forall_mem_cons.mpr ⟨lw_p0, List.forall_mem_cons.mpr ⟨lw_p1, List.forall_mem_cons.mpr ⟨lw_p2, List.forall_mem_cons.mpr ⟨lw_p3, List.forall_mem_cons.mpr ⟨lw_p4, List.forall_mem_cons.mpr ⟨lw_p5, List.forall_mem_cons.mpr ⟨lw_p6, List.forall_mem_cons.mpr ⟨lw_p7, List.forall_mem_cons.mpr ⟨lw_p8, List.forall_mem_cons.mpr ⟨lw_p9, List.forall_mem_cons.mpr ⟨lw_p10, List.forall_mem_cons.mpr ⟨lw_p11, List.forall_mem_cons.mpr ⟨lw_p12, List.forall_mem_cons.mpr ⟨lw_p13, List.forall_mem_cons.mpr ⟨lw_p14, List.forall_mem_cons.mpr ⟨lw_p15, fun _ h => absurd h List.not_mem_nil⟩⟩⟩⟩⟩⟩⟩⟩⟩⟩⟩⟩⟩⟩⟩⟩
theorem lw_p16 : lw_okq (⟨"ZonedLogStoreModel", "bad", "(I)Z"⟩, 5) := ⟨⟨by decide +kernel, by decide +kernel⟩, lw_t1 (List.mem_of_getElem? (i := 190) rfl), lw_t1 (List.mem_of_getElem? (i := 220) rfl), lw_t1 (List.mem_of_getElem? (i := 221) rfl)⟩
theorem lw_p17 : lw_okq (⟨"ZonedLogStoreModel", "freshCount", "()I"⟩, 5) := ⟨⟨by decide +kernel, by decide +kernel⟩, lw_t1 (List.mem_of_getElem? (i := 190) rfl), lw_t1 (List.mem_of_getElem? (i := 228) rfl), lw_t1 (List.mem_of_getElem? (i := 229) rfl)⟩
theorem lw_p18 : lw_okq (⟨"ZonedLogStoreModel", "put", "(II)V"⟩, 5) := ⟨⟨by decide +kernel, by decide +kernel⟩, lw_t1 (List.mem_of_getElem? (i := 190) rfl), lw_t1 (List.mem_of_getElem? (i := 232) rfl), lw_t1 (List.mem_of_getElem? (i := 233) rfl)⟩
theorem lw_p19 : lw_okq (⟨"ZonedLogStoreModel", "settle", "(Z)I"⟩, 5) := ⟨⟨by decide +kernel, by decide +kernel⟩, lw_t1 (List.mem_of_getElem? (i := 190) rfl), lw_t1 (List.mem_of_getElem? (i := 236) rfl), lw_t1 (List.mem_of_getElem? (i := 237) rfl)⟩
def lw_privs_2 : List (MethodName × Nat) := [(⟨"ZonedLogStoreModel", "bad", "(I)Z"⟩, 5), (⟨"ZonedLogStoreModel", "freshCount", "()I"⟩, 5), (⟨"ZonedLogStoreModel", "put", "(II)V"⟩, 5), (⟨"ZonedLogStoreModel", "settle", "(Z)I"⟩, 5)]
theorem lw_r2 : ∀ q ∈ lw_privs_2, lw_okq q := List.forall_mem_cons.mpr ⟨lw_p16, List.forall_mem_cons.mpr ⟨lw_p17, List.forall_mem_cons.mpr ⟨lw_p18, List.forall_mem_cons.mpr ⟨lw_p19, fun _ h => absurd h List.not_mem_nil⟩⟩⟩⟩
def lw_privs : List (MethodName × Nat) := lw_privs_1 ++ (lw_privs_2)
def lw_tbl : List Cond := k2_sels lw_privs ++ tables_1
theorem lw_privs_ok : ∀ q ∈ lw_privs, lw_okq q := by
  show ∀ q ∈ lw_privs_1 ++ (lw_privs_2), lw_okq q
  exact List.forall_mem_append.mpr ⟨lw_r1, lw_r2⟩
-- ===== ONE list of words for every method: the tables' words that hold all through a run =====
def lw_all : List Cond := lw_tbl.filter goodWord
/-- a word of the tables by its place: claim/WORDS.tsv -/
theorem lw_w {w : Cond} (i : Nat) (h : lw_tbl[i]? = some w) (g : goodWord w = true) : w ∈ lw_all := List.mem_filter.mpr ⟨List.mem_of_getElem? h, g⟩
theorem lw_all_tbl {w : Cond} (h : w ∈ lw_all) : w ∈ lw_tbl := (List.mem_filter.mp h).1
theorem lw_self : GoodIn lw_all lw_all := fun w h => ⟨h, good_of_word (List.mem_filter.mp h).2⟩
/-- a class's field words, by their places -/
theorem lw_in (ws : List Cond) (ps : List Nat) (hp : ws = ps.filterMap (fun i => lw_tbl[i]?)) (hg : ws.all goodWord = true) : ∀ w ∈ ws, w ∈ lw_all := by
  intro w h
  have h1 := List.all_eq_true.mp hg w h
  rw [hp] at h
  obtain ⟨i, -, hi⟩ := List.mem_filterMap.mp h
  exact lw_w i hi h1
/-- the words of a contract for the method y with code b, L locals, answer r -/
abbrev ws_ (y : MethodName) (b : ByteArray) (L : Nat) (r : Option FieldType) : List Cond := Cond.code y b L r :: lw_all
theorem lw_meth {y : MethodName} {b : ByteArray} {L : Nat} {r : Option FieldType} (h : Cond.code y b L r ∈ lw_all) : GoodIn lw_all (ws_ y b L r) := by
  intro w hw
  rcases List.mem_cons.mp hw with e | e
  · rw [e]
    exact lw_self _ h
  · exact lw_self _ e
theorem lw_app {a c : List Cond} (ha : ∀ w ∈ a, w ∈ lw_all) (hc : GoodIn lw_all c) : GoodIn lw_all (a ++ c) := by
  intro w hw
  rcases List.mem_append.mp hw with e | e
  · exact lw_self w (ha w e)
  · exact hc w e
/-- what a call through an object asks: cwV n hts (lw_V ..) -/
theorem lw_V {own : String} {idx : Nat} {C : String} {y : MethodName} {b : ByteArray} {L : Nat} {r : Option FieldType} (h1 : Cond.methodLink own idx y ∈ lw_all) (h2 : Cond.instanceMethod y ∈ lw_all) (h3 : Cond.selects C y y ∈ lw_all) (h4 : Cond.initialized C ∈ lw_all) (h5 : Cond.code y b L r ∈ lw_all) : GoodIn lw_all (wsV own idx C y (ws_ y b L r)) := by
  refine lw_app ?_ (lw_meth h5)
  intro w hw
  simp only [List.mem_cons, List.not_mem_nil, or_false] at hw
  rcases hw with e | e | e | e
  · rw [e]; exact h1
  · rw [e]; exact h2
  · rw [e]; exact h3
  · rw [e]; exact h4
/-- what a static call asks: va_cwS n hts (lw_S ..) -/
theorem lw_S {own : String} {idx : Nat} {y : MethodName} {b : ByteArray} {L : Nat} {r : Option FieldType} (h1 : Cond.methodLink own idx y ∈ lw_all) (h2 : Cond.static y ∈ lw_all) (h3 : Cond.initialized y.cls ∈ lw_all) (h4 : Cond.code y b L r ∈ lw_all) : GoodIn lw_all (va_wsS own idx y (ws_ y b L r)) := by
  refine lw_app ?_ (lw_meth h4)
  intro w hw
  simp only [List.mem_cons, List.not_mem_nil, or_false] at hw
  rcases hw with e | e | e
  · rw [e]; exact h1
  · rw [e]; exact h2
  · rw [e]; exact h3
/-- the words of a contract for a method WITH HANDLERS (hh: its table) -/
abbrev wsW_ (y : MethodName) (b : ByteArray) (L : Nat) (r : Option FieldType) (hh : List (Nat × Nat × Nat × Nat)) : List Cond := Cond.codeWith y b L r hh :: lw_all
theorem lw_methW {y : MethodName} {b : ByteArray} {L : Nat} {r : Option FieldType} {hh : List (Nat × Nat × Nat × Nat)} (h : Cond.codeWith y b L r hh ∈ lw_all) : GoodIn lw_all (wsW_ y b L r hh) := by
  intro w hw
  rcases List.mem_cons.mp hw with e | e
  · rw [e]
    exact lw_self _ h
  · exact lw_self _ e
/-- any list of words by their places (lw_in), good -/
theorem lw_good {ws : List Cond} (h : ∀ w ∈ ws, w ∈ lw_all) : GoodIn lw_all ws := fun w hw => lw_self w (h w hw)
/-- what a call of a method with handlers asks: vx_cwVW n hts (lw_VW ..), vx_cwSW n hts (lw_SW ..) -/
theorem lw_VW {own : String} {idx : Nat} {C : String} {y : MethodName} {b : ByteArray} {L : Nat} {r : Option FieldType} {hh : List (Nat × Nat × Nat × Nat)} (h1 : Cond.methodLink own idx y ∈ lw_all) (h2 : Cond.instanceMethod y ∈ lw_all) (h3 : Cond.selects C y y ∈ lw_all) (h4 : Cond.initialized C ∈ lw_all) (h5 : Cond.codeWith y b L r hh ∈ lw_all) : GoodIn lw_all (wsV own idx C y (wsW_ y b L r hh)) := by
  refine lw_app ?_ (lw_methW h5)
  intro w hw
  simp only [List.mem_cons, List.not_mem_nil, or_false] at hw
  rcases hw with e | e | e | e
  · rw [e]; exact h1
  · rw [e]; exact h2
  · rw [e]; exact h3
  · rw [e]; exact h4
theorem lw_SW {own : String} {idx : Nat} {y : MethodName} {b : ByteArray} {L : Nat} {r : Option FieldType} {hh : List (Nat × Nat × Nat × Nat)} (h1 : Cond.methodLink own idx y ∈ lw_all) (h2 : Cond.static y ∈ lw_all) (h3 : Cond.initialized y.cls ∈ lw_all) (h4 : Cond.codeWith y b L r hh ∈ lw_all) : GoodIn lw_all (va_wsS own idx y (wsW_ y b L r hh)) := by
  refine lw_app ?_ (lw_methW h4)
  intro w hw
  simp only [List.mem_cons, List.not_mem_nil, or_false] at hw
  rcases hw with e | e | e
  · rw [e]; exact h1
  · rw [e]; exact h2
  · rw [e]; exact h3
/-- a word by its place in its run of the tables -/
theorem lw_at {r : List Cond} (hr : ∀ w ∈ r, w ∈ lw_tbl) {w : Cond} (i : Nat) (h : r[i]? = some w) : w ∈ lw_tbl := hr w (List.mem_of_getElem? h)
theorem lw_g {w : Cond} (h : w ∈ lw_tbl) (g : goodWord w = true) : w ∈ lw_all := List.mem_filter.mpr ⟨h, g⟩
theorem lw_ms : ∀ w ∈ k2_sels lw_privs, w ∈ lw_tbl := fun w h => show w ∈ k2_sels lw_privs ++ tables_1 from List.mem_append_left _ h
theorem lw_m1 : ∀ w ∈ tables_1_1, w ∈ lw_tbl := fun w h => show w ∈ k2_sels lw_privs ++ tables_1 from List.mem_append_right (k2_sels lw_privs) (show w ∈ tables_1 from List.mem_append_left _ h)
theorem lw_m2 : ∀ w ∈ tables_1_2, w ∈ lw_tbl := fun w h => show w ∈ k2_sels lw_privs ++ tables_1 from List.mem_append_right (k2_sels lw_privs) (show w ∈ tables_1 from List.mem_append_right _ h)
theorem qs0 : (Cond.selects "ZonedLogStore" ⟨"ZonedLogStore", "current", "(I)I"⟩ ⟨"ZonedLogStore", "current", "(I)I"⟩) ∈ lw_all := lw_g (lw_at lw_ms 0 rfl) rfl
theorem qs1 : (Cond.selects "ZonedLogStore" ⟨"ZonedLogStore", "stored", "(I)I"⟩ ⟨"ZonedLogStore", "stored", "(I)I"⟩) ∈ lw_all := lw_g (lw_at lw_ms 1 rfl) rfl
theorem qs2 : (Cond.selects "ZonedLogStore" ⟨"ZonedLogStore", "dirtyCount", "()I"⟩ ⟨"ZonedLogStore", "dirtyCount", "()I"⟩) ∈ lw_all := lw_g (lw_at lw_ms 2 rfl) rfl
theorem qs3 : (Cond.selects "ZonedLogStore" ⟨"ZonedLogStore", "flush", "(I)V"⟩ ⟨"ZonedLogStore", "flush", "(I)V"⟩) ∈ lw_all := lw_g (lw_at lw_ms 3 rfl) rfl
theorem qs4 : (Cond.selects "ZonedLogStore" ⟨"ZonedLogStore", "makeRoom", "()V"⟩ ⟨"ZonedLogStore", "makeRoom", "()V"⟩) ∈ lw_all := lw_g (lw_at lw_ms 4 rfl) rfl
theorem qs5 : (Cond.selects "ZonedLogStore" ⟨"ZonedLogStore", "openZone", "()V"⟩ ⟨"ZonedLogStore", "openZone", "()V"⟩) ∈ lw_all := lw_g (lw_at lw_ms 5 rfl) rfl
theorem qs6 : (Cond.selects "ZonedLogStore" ⟨"ZonedLogStore", "poorest", "()I"⟩ ⟨"ZonedLogStore", "poorest", "()I"⟩) ∈ lw_all := lw_g (lw_at lw_ms 6 rfl) rfl
theorem qs7 : (Cond.selects "ZonedLogStore" ⟨"ZonedLogStore", "living", "(I)I"⟩ ⟨"ZonedLogStore", "living", "(I)I"⟩) ∈ lw_all := lw_g (lw_at lw_ms 7 rfl) rfl
theorem qs8 : (Cond.selects "ZonedLogStore" ⟨"ZonedLogStore", "emptyZones", "()I"⟩ ⟨"ZonedLogStore", "emptyZones", "()I"⟩) ∈ lw_all := lw_g (lw_at lw_ms 8 rfl) rfl
theorem qs9 : (Cond.selects "ZonedLogStore" ⟨"ZonedLogStore", "moveOut", "(I)V"⟩ ⟨"ZonedLogStore", "moveOut", "(I)V"⟩) ∈ lw_all := lw_g (lw_at lw_ms 9 rfl) rfl
theorem qs10 : (Cond.selects "ZonedLogStore" ⟨"ZonedLogStore", "append", "(II)I"⟩ ⟨"ZonedLogStore", "append", "(II)I"⟩) ∈ lw_all := lw_g (lw_at lw_ms 10 rfl) rfl
theorem qs11 : (Cond.selects "ZonedLogStore" ⟨"ZonedLogStore", "empty", "(I)V"⟩ ⟨"ZonedLogStore", "empty", "(I)V"⟩) ∈ lw_all := lw_g (lw_at lw_ms 11 rfl) rfl
theorem qs12 : (Cond.selects "ZonedLogStore" ⟨"ZonedLogStore", "dropCache", "()V"⟩ ⟨"ZonedLogStore", "dropCache", "()V"⟩) ∈ lw_all := lw_g (lw_at lw_ms 12 rfl) rfl
theorem qs13 : (Cond.selects "ZonedLogStore" ⟨"ZonedLogStore", "fall", "()V"⟩ ⟨"ZonedLogStore", "fall", "()V"⟩) ∈ lw_all := lw_g (lw_at lw_ms 13 rfl) rfl
theorem qs14 : (Cond.selects "ZonedLogStore" ⟨"ZonedLogStore", "recover", "()V"⟩ ⟨"ZonedLogStore", "recover", "()V"⟩) ∈ lw_all := lw_g (lw_at lw_ms 14 rfl) rfl
theorem qs15 : (Cond.selects "ZonedLogStore" ⟨"ZonedLogStore", "counts", "(I)Z"⟩ ⟨"ZonedLogStore", "counts", "(I)Z"⟩) ∈ lw_all := lw_g (lw_at lw_ms 15 rfl) rfl
theorem qs16 : (Cond.selects "ZonedLogStoreModel" ⟨"ZonedLogStoreModel", "bad", "(I)Z"⟩ ⟨"ZonedLogStoreModel", "bad", "(I)Z"⟩) ∈ lw_all := lw_g (lw_at lw_ms 16 rfl) rfl
theorem qs17 : (Cond.selects "ZonedLogStoreModel" ⟨"ZonedLogStoreModel", "freshCount", "()I"⟩ ⟨"ZonedLogStoreModel", "freshCount", "()I"⟩) ∈ lw_all := lw_g (lw_at lw_ms 17 rfl) rfl
theorem qs18 : (Cond.selects "ZonedLogStoreModel" ⟨"ZonedLogStoreModel", "put", "(II)V"⟩ ⟨"ZonedLogStoreModel", "put", "(II)V"⟩) ∈ lw_all := lw_g (lw_at lw_ms 18 rfl) rfl
theorem qs19 : (Cond.selects "ZonedLogStoreModel" ⟨"ZonedLogStoreModel", "settle", "(Z)I"⟩ ⟨"ZonedLogStoreModel", "settle", "(Z)I"⟩) ∈ lw_all := lw_g (lw_at lw_ms 19 rfl) rfl
end
section
/-! ZonedLogStore -/
set_option maxRecDepth 100000
def RX0 : String := "ZonedLogStore"
def TX0 : u_T := fun k => match k with
  | 0 => ("ZonedLogStore", "recordBlock", "[I", true)
  | 1 => ("ZonedLogStore", "recordValue", "[I", true)
  | 2 => ("ZonedLogStore", "recordGroup", "[I", true)
  | 3 => ("ZonedLogStore", "filled", "[I", true)
  | 4 => ("ZonedLogStore", "opened", "[I", true)
  | 5 => ("ZonedLogStore", "table", "[I", true)
  | 6 => ("ZonedLogStore", "cache", "[I", true)
  | 7 => ("ZonedLogStore", "dirty", "[Z", true)
  | 8 => ("ZonedLogStore", "running", "Z", false)
  | 9 => ("ZonedLogStore", "group", "Z", false)
  | 10 => ("ZonedLogStore", "active", "I", false)
  | 11 => ("ZonedLogStore", "groupNumber", "I", false)
  | _ => ("ZonedLogStore", "openNumber", "I", false)
def tyX0 : Nat → FieldType := fun k => match k with
  | 0 => .array .int
  | 1 => .array .int
  | 2 => .array .int
  | 3 => .array .int
  | 4 => .array .int
  | 5 => .array .int
  | 6 => .array .int
  | 7 => .array .boolean
  | 8 => .boolean
  | 9 => .boolean
  | 10 => .int
  | 11 => .int
  | _ => .int
abbrev wsX00 : List Cond := u_ws RX0 TX0 13
set_option maxRecDepth 100000 in
theorem nmX0 : ∀ a, a < 13 → ∀ b, b < 13 → a ≠ b → (TX0 a).2.1 ≠ (TX0 b).2.1 := by decide +kernel
set_option maxRecDepth 100000 in
theorem tyX0_ok : ∀ k, k < 13 → parseFieldDescriptor (TX0 k).2.2.1 = some (tyX0 k) := by decide +kernel
abbrev cX0_init : ByteArray := prog_1_method_1_code
def yX0_init : MethodName := ⟨RX0, "<init>", "()V"⟩
theorem dX0_init_0 : decode cX0_init 0 = .ok (.aload_n 0, 1) := by decide +kernel
theorem dX0_init_1 : decode cX0_init 1 = .ok (.invokespecial 1, 3) := by decide +kernel
theorem dX0_init_4 : decode cX0_init 4 = .ok (.aload_n 0, 1) := by decide +kernel
theorem dX0_init_5 : decode cX0_init 5 = .ok (.bipush 72, 2) := by decide +kernel
theorem dX0_init_7 : decode cX0_init 7 = .ok (.newarray .int, 2) := by decide +kernel
theorem dX0_init_9 : decode cX0_init 9 = .ok (.putfield 7, 3) := by decide +kernel
theorem dX0_init_12 : decode cX0_init 12 = .ok (.aload_n 0, 1) := by decide +kernel
theorem dX0_init_13 : decode cX0_init 13 = .ok (.bipush 72, 2) := by decide +kernel
theorem dX0_init_15 : decode cX0_init 15 = .ok (.newarray .int, 2) := by decide +kernel
theorem dX0_init_17 : decode cX0_init 17 = .ok (.putfield 13, 3) := by decide +kernel
theorem dX0_init_20 : decode cX0_init 20 = .ok (.aload_n 0, 1) := by decide +kernel
theorem dX0_init_21 : decode cX0_init 21 = .ok (.bipush 72, 2) := by decide +kernel
theorem dX0_init_23 : decode cX0_init 23 = .ok (.newarray .int, 2) := by decide +kernel
theorem dX0_init_25 : decode cX0_init 25 = .ok (.putfield 16, 3) := by decide +kernel
theorem dX0_init_28 : decode cX0_init 28 = .ok (.aload_n 0, 1) := by decide +kernel
theorem dX0_init_29 : decode cX0_init 29 = .ok (.bipush 6, 2) := by decide +kernel
theorem dX0_init_31 : decode cX0_init 31 = .ok (.newarray .int, 2) := by decide +kernel
theorem dX0_init_33 : decode cX0_init 33 = .ok (.putfield 19, 3) := by decide +kernel
theorem dX0_init_36 : decode cX0_init 36 = .ok (.aload_n 0, 1) := by decide +kernel
theorem dX0_init_37 : decode cX0_init 37 = .ok (.bipush 6, 2) := by decide +kernel
theorem dX0_init_39 : decode cX0_init 39 = .ok (.newarray .int, 2) := by decide +kernel
theorem dX0_init_41 : decode cX0_init 41 = .ok (.putfield 22, 3) := by decide +kernel
theorem dX0_init_44 : decode cX0_init 44 = .ok (.aload_n 0, 1) := by decide +kernel
theorem dX0_init_45 : decode cX0_init 45 = .ok (.bipush 16, 2) := by decide +kernel
theorem dX0_init_47 : decode cX0_init 47 = .ok (.newarray .int, 2) := by decide +kernel
theorem dX0_init_49 : decode cX0_init 49 = .ok (.putfield 25, 3) := by decide +kernel
theorem dX0_init_52 : decode cX0_init 52 = .ok (.aload_n 0, 1) := by decide +kernel
theorem dX0_init_53 : decode cX0_init 53 = .ok (.bipush 16, 2) := by decide +kernel
theorem dX0_init_55 : decode cX0_init 55 = .ok (.newarray .int, 2) := by decide +kernel
theorem dX0_init_57 : decode cX0_init 57 = .ok (.putfield 28, 3) := by decide +kernel
theorem dX0_init_60 : decode cX0_init 60 = .ok (.aload_n 0, 1) := by decide +kernel
theorem dX0_init_61 : decode cX0_init 61 = .ok (.bipush 16, 2) := by decide +kernel
theorem dX0_init_63 : decode cX0_init 63 = .ok (.newarray .boolean, 2) := by decide +kernel
theorem dX0_init_65 : decode cX0_init 65 = .ok (.putfield 31, 3) := by decide +kernel
theorem dX0_init_68 : decode cX0_init 68 = .ok (.aload_n 0, 1) := by decide +kernel
theorem dX0_init_69 : decode cX0_init 69 = .ok (.iconst 1, 1) := by decide +kernel
theorem dX0_init_70 : decode cX0_init 70 = .ok (.putfield 35, 3) := by decide +kernel
theorem dX0_init_73 : decode cX0_init 73 = .ok (.iconst 0, 1) := by decide +kernel
theorem dX0_init_74 : decode cX0_init 74 = .ok (.istore_n 1, 1) := by decide +kernel
theorem dX0_init_75 : decode cX0_init 75 = .ok (.iload_n 1, 1) := by decide +kernel
theorem dX0_init_76 : decode cX0_init 76 = .ok (.bipush 6, 2) := by decide +kernel
theorem dX0_init_78 : decode cX0_init 78 = .ok (.if_icmp .ge 16, 3) := by decide +kernel
theorem dX0_init_81 : decode cX0_init 81 = .ok (.aload_n 0, 1) := by decide +kernel
theorem dX0_init_82 : decode cX0_init 82 = .ok (.getfield 22, 3) := by decide +kernel
theorem dX0_init_85 : decode cX0_init 85 = .ok (.iload_n 1, 1) := by decide +kernel
theorem dX0_init_86 : decode cX0_init 86 = .ok (.iconst (-1), 1) := by decide +kernel
theorem dX0_init_87 : decode cX0_init 87 = .ok (.iastore, 1) := by decide +kernel
theorem dX0_init_88 : decode cX0_init 88 = .ok (.iinc 1 1, 3) := by decide +kernel
theorem dX0_init_91 : decode cX0_init 91 = .ok (.goto (-16), 3) := by decide +kernel
theorem dX0_init_94 : decode cX0_init 94 = .ok (.iconst 0, 1) := by decide +kernel
theorem dX0_init_95 : decode cX0_init 95 = .ok (.istore_n 1, 1) := by decide +kernel
theorem dX0_init_96 : decode cX0_init 96 = .ok (.iload_n 1, 1) := by decide +kernel
theorem dX0_init_97 : decode cX0_init 97 = .ok (.bipush 16, 2) := by decide +kernel
theorem dX0_init_99 : decode cX0_init 99 = .ok (.if_icmp .ge 16, 3) := by decide +kernel
theorem dX0_init_102 : decode cX0_init 102 = .ok (.aload_n 0, 1) := by decide +kernel
theorem dX0_init_103 : decode cX0_init 103 = .ok (.getfield 25, 3) := by decide +kernel
theorem dX0_init_106 : decode cX0_init 106 = .ok (.iload_n 1, 1) := by decide +kernel
theorem dX0_init_107 : decode cX0_init 107 = .ok (.iconst (-1), 1) := by decide +kernel
theorem dX0_init_108 : decode cX0_init 108 = .ok (.iastore, 1) := by decide +kernel
theorem dX0_init_109 : decode cX0_init 109 = .ok (.iinc 1 1, 3) := by decide +kernel
theorem dX0_init_112 : decode cX0_init 112 = .ok (.goto (-16), 3) := by decide +kernel
theorem dX0_init_115 : decode cX0_init 115 = .ok (.aload_n 0, 1) := by decide +kernel
theorem dX0_init_116 : decode cX0_init 116 = .ok (.iconst (-1), 1) := by decide +kernel
theorem dX0_init_117 : decode cX0_init 117 = .ok (.putfield 39, 3) := by decide +kernel
theorem dX0_init_120 : decode cX0_init 120 = .ok (.return_, 1) := by decide +kernel
abbrev cX0_up : ByteArray := prog_1_method_2_code
def yX0_up : MethodName := ⟨RX0, "up", "()I"⟩
theorem dX0_up_0 : decode cX0_up 0 = .ok (.aload_n 0, 1) := by decide +kernel
theorem dX0_up_1 : decode cX0_up 1 = .ok (.getfield 35, 3) := by decide +kernel
theorem dX0_up_4 : decode cX0_up 4 = .ok (.ifCond .eq 7, 3) := by decide +kernel
theorem dX0_up_7 : decode cX0_up 7 = .ok (.iconst 1, 1) := by decide +kernel
theorem dX0_up_8 : decode cX0_up 8 = .ok (.goto 4, 3) := by decide +kernel
theorem dX0_up_11 : decode cX0_up 11 = .ok (.iconst 0, 1) := by decide +kernel
theorem dX0_up_12 : decode cX0_up 12 = .ok (.ireturn, 1) := by decide +kernel
abbrev cX0_read : ByteArray := prog_1_method_3_code
def yX0_read : MethodName := ⟨RX0, "read", "(I)I"⟩
theorem dX0_read_0 : decode cX0_read 0 = .ok (.aload_n 0, 1) := by decide +kernel
theorem dX0_read_1 : decode cX0_read 1 = .ok (.getfield 35, 3) := by decide +kernel
theorem dX0_read_4 : decode cX0_read 4 = .ok (.ifCond .eq 18, 3) := by decide +kernel
theorem dX0_read_7 : decode cX0_read 7 = .ok (.iload_n 1, 1) := by decide +kernel
theorem dX0_read_8 : decode cX0_read 8 = .ok (.invokestatic 43, 3) := by decide +kernel
theorem dX0_read_11 : decode cX0_read 11 = .ok (.ifCond .eq 11, 3) := by decide +kernel
theorem dX0_read_14 : decode cX0_read 14 = .ok (.aload_n 0, 1) := by decide +kernel
theorem dX0_read_15 : decode cX0_read 15 = .ok (.iload_n 1, 1) := by decide +kernel
theorem dX0_read_16 : decode cX0_read 16 = .ok (.invokevirtual 47, 3) := by decide +kernel
theorem dX0_read_19 : decode cX0_read 19 = .ok (.goto 4, 3) := by decide +kernel
theorem dX0_read_22 : decode cX0_read 22 = .ok (.iconst 0, 1) := by decide +kernel
theorem dX0_read_23 : decode cX0_read 23 = .ok (.ireturn, 1) := by decide +kernel
abbrev cX0_isBlock : ByteArray := prog_1_method_19_code
def yX0_isBlock : MethodName := ⟨RX0, "isBlock", "(I)Z"⟩
theorem dX0_isBlock_0 : decode cX0_isBlock 0 = .ok (.iload_n 0, 1) := by decide +kernel
theorem dX0_isBlock_1 : decode cX0_isBlock 1 = .ok (.ifCond .lt 13, 3) := by decide +kernel
theorem dX0_isBlock_4 : decode cX0_isBlock 4 = .ok (.iload_n 0, 1) := by decide +kernel
theorem dX0_isBlock_5 : decode cX0_isBlock 5 = .ok (.bipush 16, 2) := by decide +kernel
theorem dX0_isBlock_7 : decode cX0_isBlock 7 = .ok (.if_icmp .ge 7, 3) := by decide +kernel
theorem dX0_isBlock_10 : decode cX0_isBlock 10 = .ok (.iconst 1, 1) := by decide +kernel
theorem dX0_isBlock_11 : decode cX0_isBlock 11 = .ok (.goto 4, 3) := by decide +kernel
theorem dX0_isBlock_14 : decode cX0_isBlock 14 = .ok (.iconst 0, 1) := by decide +kernel
theorem dX0_isBlock_15 : decode cX0_isBlock 15 = .ok (.ireturn, 1) := by decide +kernel
abbrev cX0_current : ByteArray := prog_1_method_21_code
def yX0_current : MethodName := ⟨RX0, "current", "(I)I"⟩
theorem dX0_current_0 : decode cX0_current 0 = .ok (.aload_n 0, 1) := by decide +kernel
theorem dX0_current_1 : decode cX0_current 1 = .ok (.getfield 31, 3) := by decide +kernel
theorem dX0_current_4 : decode cX0_current 4 = .ok (.iload_n 1, 1) := by decide +kernel
theorem dX0_current_5 : decode cX0_current 5 = .ok (.baload, 1) := by decide +kernel
theorem dX0_current_6 : decode cX0_current 6 = .ok (.ifCond .eq 12, 3) := by decide +kernel
theorem dX0_current_9 : decode cX0_current 9 = .ok (.aload_n 0, 1) := by decide +kernel
theorem dX0_current_10 : decode cX0_current 10 = .ok (.getfield 28, 3) := by decide +kernel
theorem dX0_current_13 : decode cX0_current 13 = .ok (.iload_n 1, 1) := by decide +kernel
theorem dX0_current_14 : decode cX0_current 14 = .ok (.iaload, 1) := by decide +kernel
theorem dX0_current_15 : decode cX0_current 15 = .ok (.goto 8, 3) := by decide +kernel
theorem dX0_current_18 : decode cX0_current 18 = .ok (.aload_n 0, 1) := by decide +kernel
theorem dX0_current_19 : decode cX0_current 19 = .ok (.iload_n 1, 1) := by decide +kernel
theorem dX0_current_20 : decode cX0_current 20 = .ok (.invokevirtual 75, 3) := by decide +kernel
theorem dX0_current_23 : decode cX0_current 23 = .ok (.ireturn, 1) := by decide +kernel
abbrev cX0_stored : ByteArray := prog_1_method_20_code
def yX0_stored : MethodName := ⟨RX0, "stored", "(I)I"⟩
theorem dX0_stored_0 : decode cX0_stored 0 = .ok (.aload_n 0, 1) := by decide +kernel
theorem dX0_stored_1 : decode cX0_stored 1 = .ok (.getfield 25, 3) := by decide +kernel
theorem dX0_stored_4 : decode cX0_stored 4 = .ok (.iload_n 1, 1) := by decide +kernel
theorem dX0_stored_5 : decode cX0_stored 5 = .ok (.iaload, 1) := by decide +kernel
theorem dX0_stored_6 : decode cX0_stored 6 = .ok (.iconst (-1), 1) := by decide +kernel
theorem dX0_stored_7 : decode cX0_stored 7 = .ok (.if_icmp .ne 7, 3) := by decide +kernel
theorem dX0_stored_10 : decode cX0_stored 10 = .ok (.iconst 0, 1) := by decide +kernel
theorem dX0_stored_11 : decode cX0_stored 11 = .ok (.goto 14, 3) := by decide +kernel
theorem dX0_stored_14 : decode cX0_stored 14 = .ok (.aload_n 0, 1) := by decide +kernel
theorem dX0_stored_15 : decode cX0_stored 15 = .ok (.getfield 13, 3) := by decide +kernel
theorem dX0_stored_18 : decode cX0_stored 18 = .ok (.aload_n 0, 1) := by decide +kernel
theorem dX0_stored_19 : decode cX0_stored 19 = .ok (.getfield 25, 3) := by decide +kernel
theorem dX0_stored_22 : decode cX0_stored 22 = .ok (.iload_n 1, 1) := by decide +kernel
theorem dX0_stored_23 : decode cX0_stored 23 = .ok (.iaload, 1) := by decide +kernel
theorem dX0_stored_24 : decode cX0_stored 24 = .ok (.iaload, 1) := by decide +kernel
theorem dX0_stored_25 : decode cX0_stored 25 = .ok (.ireturn, 1) := by decide +kernel
abbrev cX0_write : ByteArray := prog_1_method_4_code
def yX0_write : MethodName := ⟨RX0, "write", "(II)I"⟩
theorem dX0_write_0 : decode cX0_write 0 = .ok (.aload_n 0, 1) := by decide +kernel
theorem dX0_write_1 : decode cX0_write 1 = .ok (.getfield 35, 3) := by decide +kernel
theorem dX0_write_4 : decode cX0_write 4 = .ok (.ifCond .ne 5, 3) := by decide +kernel
theorem dX0_write_7 : decode cX0_write 7 = .ok (.iconst (-1), 1) := by decide +kernel
theorem dX0_write_8 : decode cX0_write 8 = .ok (.ireturn, 1) := by decide +kernel
theorem dX0_write_9 : decode cX0_write 9 = .ok (.iload_n 1, 1) := by decide +kernel
theorem dX0_write_10 : decode cX0_write 10 = .ok (.invokestatic 43, 3) := by decide +kernel
theorem dX0_write_13 : decode cX0_write 13 = .ok (.ifCond .ne 6, 3) := by decide +kernel
theorem dX0_write_16 : decode cX0_write 16 = .ok (.bipush (-2), 2) := by decide +kernel
theorem dX0_write_18 : decode cX0_write 18 = .ok (.ireturn, 1) := by decide +kernel
theorem dX0_write_19 : decode cX0_write 19 = .ok (.aload_n 0, 1) := by decide +kernel
theorem dX0_write_20 : decode cX0_write 20 = .ok (.getfield 31, 3) := by decide +kernel
theorem dX0_write_23 : decode cX0_write 23 = .ok (.iload_n 1, 1) := by decide +kernel
theorem dX0_write_24 : decode cX0_write 24 = .ok (.baload, 1) := by decide +kernel
theorem dX0_write_25 : decode cX0_write 25 = .ok (.ifCond .ne 27, 3) := by decide +kernel
theorem dX0_write_28 : decode cX0_write 28 = .ok (.aload_n 0, 1) := by decide +kernel
theorem dX0_write_29 : decode cX0_write 29 = .ok (.invokevirtual 51, 3) := by decide +kernel
theorem dX0_write_32 : decode cX0_write 32 = .ok (.bipush 6, 2) := by decide +kernel
theorem dX0_write_34 : decode cX0_write 34 = .ok (.if_icmp .ne 18, 3) := by decide +kernel
theorem dX0_write_37 : decode cX0_write 37 = .ok (.aload_n 0, 1) := by decide +kernel
theorem dX0_write_38 : decode cX0_write 38 = .ok (.getfield 55, 3) := by decide +kernel
theorem dX0_write_41 : decode cX0_write 41 = .ok (.ifCond .eq 6, 3) := by decide +kernel
theorem dX0_write_44 : decode cX0_write 44 = .ok (.bipush (-3), 2) := by decide +kernel
theorem dX0_write_46 : decode cX0_write 46 = .ok (.ireturn, 1) := by decide +kernel
theorem dX0_write_47 : decode cX0_write 47 = .ok (.aload_n 0, 1) := by decide +kernel
theorem dX0_write_48 : decode cX0_write 48 = .ok (.iconst 3, 1) := by decide +kernel
theorem dX0_write_49 : decode cX0_write 49 = .ok (.invokevirtual 58, 3) := by decide +kernel
theorem dX0_write_52 : decode cX0_write 52 = .ok (.aload_n 0, 1) := by decide +kernel
theorem dX0_write_53 : decode cX0_write 53 = .ok (.getfield 31, 3) := by decide +kernel
theorem dX0_write_56 : decode cX0_write 56 = .ok (.iload_n 1, 1) := by decide +kernel
theorem dX0_write_57 : decode cX0_write 57 = .ok (.iconst 1, 1) := by decide +kernel
theorem dX0_write_58 : decode cX0_write 58 = .ok (.bastore, 1) := by decide +kernel
theorem dX0_write_59 : decode cX0_write 59 = .ok (.aload_n 0, 1) := by decide +kernel
theorem dX0_write_60 : decode cX0_write 60 = .ok (.getfield 28, 3) := by decide +kernel
theorem dX0_write_63 : decode cX0_write 63 = .ok (.iload_n 1, 1) := by decide +kernel
theorem dX0_write_64 : decode cX0_write 64 = .ok (.iload_n 2, 1) := by decide +kernel
theorem dX0_write_65 : decode cX0_write 65 = .ok (.iastore, 1) := by decide +kernel
theorem dX0_write_66 : decode cX0_write 66 = .ok (.iconst 0, 1) := by decide +kernel
theorem dX0_write_67 : decode cX0_write 67 = .ok (.ireturn, 1) := by decide +kernel
abbrev cX0_dirtyCount : ByteArray := prog_1_method_22_code
def yX0_dirtyCount : MethodName := ⟨RX0, "dirtyCount", "()I"⟩
theorem dX0_dirtyCount_0 : decode cX0_dirtyCount 0 = .ok (.iconst 0, 1) := by decide +kernel
theorem dX0_dirtyCount_1 : decode cX0_dirtyCount 1 = .ok (.istore_n 1, 1) := by decide +kernel
theorem dX0_dirtyCount_2 : decode cX0_dirtyCount 2 = .ok (.iconst 0, 1) := by decide +kernel
theorem dX0_dirtyCount_3 : decode cX0_dirtyCount 3 = .ok (.istore_n 2, 1) := by decide +kernel
theorem dX0_dirtyCount_4 : decode cX0_dirtyCount 4 = .ok (.iload_n 2, 1) := by decide +kernel
theorem dX0_dirtyCount_5 : decode cX0_dirtyCount 5 = .ok (.bipush 16, 2) := by decide +kernel
theorem dX0_dirtyCount_7 : decode cX0_dirtyCount 7 = .ok (.if_icmp .ge 26, 3) := by decide +kernel
theorem dX0_dirtyCount_10 : decode cX0_dirtyCount 10 = .ok (.iload_n 1, 1) := by decide +kernel
theorem dX0_dirtyCount_11 : decode cX0_dirtyCount 11 = .ok (.aload_n 0, 1) := by decide +kernel
theorem dX0_dirtyCount_12 : decode cX0_dirtyCount 12 = .ok (.getfield 31, 3) := by decide +kernel
theorem dX0_dirtyCount_15 : decode cX0_dirtyCount 15 = .ok (.iload_n 2, 1) := by decide +kernel
theorem dX0_dirtyCount_16 : decode cX0_dirtyCount 16 = .ok (.baload, 1) := by decide +kernel
theorem dX0_dirtyCount_17 : decode cX0_dirtyCount 17 = .ok (.ifCond .eq 7, 3) := by decide +kernel
theorem dX0_dirtyCount_20 : decode cX0_dirtyCount 20 = .ok (.iconst 1, 1) := by decide +kernel
theorem dX0_dirtyCount_21 : decode cX0_dirtyCount 21 = .ok (.goto 4, 3) := by decide +kernel
theorem dX0_dirtyCount_24 : decode cX0_dirtyCount 24 = .ok (.iconst 0, 1) := by decide +kernel
theorem dX0_dirtyCount_25 : decode cX0_dirtyCount 25 = .ok (.iadd, 1) := by decide +kernel
theorem dX0_dirtyCount_26 : decode cX0_dirtyCount 26 = .ok (.istore_n 1, 1) := by decide +kernel
theorem dX0_dirtyCount_27 : decode cX0_dirtyCount 27 = .ok (.iinc 2 1, 3) := by decide +kernel
theorem dX0_dirtyCount_30 : decode cX0_dirtyCount 30 = .ok (.goto (-26), 3) := by decide +kernel
theorem dX0_dirtyCount_33 : decode cX0_dirtyCount 33 = .ok (.iload_n 1, 1) := by decide +kernel
theorem dX0_dirtyCount_34 : decode cX0_dirtyCount 34 = .ok (.ireturn, 1) := by decide +kernel
abbrev cX0_flush : ByteArray := prog_1_method_25_code
def yX0_flush : MethodName := ⟨RX0, "flush", "(I)V"⟩
theorem dX0_flush_0 : decode cX0_flush 0 = .ok (.aload_n 0, 1) := by decide +kernel
theorem dX0_flush_1 : decode cX0_flush 1 = .ok (.invokevirtual 51, 3) := by decide +kernel
theorem dX0_flush_4 : decode cX0_flush 4 = .ok (.istore_n 2, 1) := by decide +kernel
theorem dX0_flush_5 : decode cX0_flush 5 = .ok (.iload_n 2, 1) := by decide +kernel
theorem dX0_flush_6 : decode cX0_flush 6 = .ok (.ifCond .eq 7, 3) := by decide +kernel
theorem dX0_flush_9 : decode cX0_flush 9 = .ok (.iload_n 1, 1) := by decide +kernel
theorem dX0_flush_10 : decode cX0_flush 10 = .ok (.ifCond .ne 4, 3) := by decide +kernel
theorem dX0_flush_13 : decode cX0_flush 13 = .ok (.return_, 1) := by decide +kernel
theorem dX0_flush_14 : decode cX0_flush 14 = .ok (.aload_n 0, 1) := by decide +kernel
theorem dX0_flush_15 : decode cX0_flush 15 = .ok (.invokevirtual 87, 3) := by decide +kernel
theorem dX0_flush_18 : decode cX0_flush 18 = .ok (.aload_n 0, 1) := by decide +kernel
theorem dX0_flush_19 : decode cX0_flush 19 = .ok (.dup, 1) := by decide +kernel
theorem dX0_flush_20 : decode cX0_flush 20 = .ok (.getfield 90, 3) := by decide +kernel
theorem dX0_flush_23 : decode cX0_flush 23 = .ok (.iconst 1, 1) := by decide +kernel
theorem dX0_flush_24 : decode cX0_flush 24 = .ok (.iadd, 1) := by decide +kernel
theorem dX0_flush_25 : decode cX0_flush 25 = .ok (.putfield 90, 3) := by decide +kernel
theorem dX0_flush_28 : decode cX0_flush 28 = .ok (.iconst 0, 1) := by decide +kernel
theorem dX0_flush_29 : decode cX0_flush 29 = .ok (.istore_n 3, 1) := by decide +kernel
theorem dX0_flush_30 : decode cX0_flush 30 = .ok (.iconst 0, 1) := by decide +kernel
theorem dX0_flush_31 : decode cX0_flush 31 = .ok (.istore 4, 2) := by decide +kernel
theorem dX0_flush_33 : decode cX0_flush 33 = .ok (.iload 4, 2) := by decide +kernel
theorem dX0_flush_35 : decode cX0_flush 35 = .ok (.bipush 16, 2) := by decide +kernel
theorem dX0_flush_37 : decode cX0_flush 37 = .ok (.if_icmp .ge 63, 3) := by decide +kernel
theorem dX0_flush_40 : decode cX0_flush 40 = .ok (.aload_n 0, 1) := by decide +kernel
theorem dX0_flush_41 : decode cX0_flush 41 = .ok (.getfield 31, 3) := by decide +kernel
theorem dX0_flush_44 : decode cX0_flush 44 = .ok (.iload 4, 2) := by decide +kernel
theorem dX0_flush_46 : decode cX0_flush 46 = .ok (.baload, 1) := by decide +kernel
theorem dX0_flush_47 : decode cX0_flush 47 = .ok (.ifCond .eq 47, 3) := by decide +kernel
theorem dX0_flush_50 : decode cX0_flush 50 = .ok (.iload_n 1, 1) := by decide +kernel
theorem dX0_flush_51 : decode cX0_flush 51 = .ok (.iconst 1, 1) := by decide +kernel
theorem dX0_flush_52 : decode cX0_flush 52 = .ok (.if_icmp .gt 10, 3) := by decide +kernel
theorem dX0_flush_55 : decode cX0_flush 55 = .ok (.iconst 2, 1) := by decide +kernel
theorem dX0_flush_56 : decode cX0_flush 56 = .ok (.iload_n 3, 1) := by decide +kernel
theorem dX0_flush_57 : decode cX0_flush 57 = .ok (.imul, 1) := by decide +kernel
theorem dX0_flush_58 : decode cX0_flush 58 = .ok (.iload_n 2, 1) := by decide +kernel
theorem dX0_flush_59 : decode cX0_flush 59 = .ok (.if_icmp .ge 35, 3) := by decide +kernel
theorem dX0_flush_62 : decode cX0_flush 62 = .ok (.aload_n 0, 1) := by decide +kernel
theorem dX0_flush_63 : decode cX0_flush 63 = .ok (.iload 4, 2) := by decide +kernel
theorem dX0_flush_65 : decode cX0_flush 65 = .ok (.aload_n 0, 1) := by decide +kernel
theorem dX0_flush_66 : decode cX0_flush 66 = .ok (.getfield 28, 3) := by decide +kernel
theorem dX0_flush_69 : decode cX0_flush 69 = .ok (.iload 4, 2) := by decide +kernel
theorem dX0_flush_71 : decode cX0_flush 71 = .ok (.iaload, 1) := by decide +kernel
theorem dX0_flush_72 : decode cX0_flush 72 = .ok (.invokevirtual 93, 3) := by decide +kernel
theorem dX0_flush_75 : decode cX0_flush 75 = .ok (.istore 5, 2) := by decide +kernel
theorem dX0_flush_77 : decode cX0_flush 77 = .ok (.iinc 3 1, 3) := by decide +kernel
theorem dX0_flush_80 : decode cX0_flush 80 = .ok (.iload_n 1, 1) := by decide +kernel
theorem dX0_flush_81 : decode cX0_flush 81 = .ok (.iconst 3, 1) := by decide +kernel
theorem dX0_flush_82 : decode cX0_flush 82 = .ok (.if_icmp .ne 12, 3) := by decide +kernel
theorem dX0_flush_85 : decode cX0_flush 85 = .ok (.aload_n 0, 1) := by decide +kernel
theorem dX0_flush_86 : decode cX0_flush 86 = .ok (.getfield 25, 3) := by decide +kernel
theorem dX0_flush_89 : decode cX0_flush 89 = .ok (.iload 4, 2) := by decide +kernel
theorem dX0_flush_91 : decode cX0_flush 91 = .ok (.iload 5, 2) := by decide +kernel
theorem dX0_flush_93 : decode cX0_flush 93 = .ok (.iastore, 1) := by decide +kernel
theorem dX0_flush_94 : decode cX0_flush 94 = .ok (.iinc 4 1, 3) := by decide +kernel
theorem dX0_flush_97 : decode cX0_flush 97 = .ok (.goto (-64), 3) := by decide +kernel
theorem dX0_flush_100 : decode cX0_flush 100 = .ok (.iload_n 1, 1) := by decide +kernel
theorem dX0_flush_101 : decode cX0_flush 101 = .ok (.iconst 3, 1) := by decide +kernel
theorem dX0_flush_102 : decode cX0_flush 102 = .ok (.if_icmp .ne 15, 3) := by decide +kernel
theorem dX0_flush_105 : decode cX0_flush 105 = .ok (.aload_n 0, 1) := by decide +kernel
theorem dX0_flush_106 : decode cX0_flush 106 = .ok (.bipush 16, 2) := by decide +kernel
theorem dX0_flush_108 : decode cX0_flush 108 = .ok (.iconst 0, 1) := by decide +kernel
theorem dX0_flush_109 : decode cX0_flush 109 = .ok (.invokevirtual 93, 3) := by decide +kernel
theorem dX0_flush_112 : decode cX0_flush 112 = .ok (.pop, 1) := by decide +kernel
theorem dX0_flush_113 : decode cX0_flush 113 = .ok (.aload_n 0, 1) := by decide +kernel
theorem dX0_flush_114 : decode cX0_flush 114 = .ok (.invokevirtual 66, 3) := by decide +kernel
theorem dX0_flush_117 : decode cX0_flush 117 = .ok (.return_, 1) := by decide +kernel
abbrev cX0_makeRoom : ByteArray := prog_1_method_29_code
def yX0_makeRoom : MethodName := ⟨RX0, "makeRoom", "()V"⟩
theorem dX0_makeRoom_0 : decode cX0_makeRoom 0 = .ok (.aload_n 0, 1) := by decide +kernel
theorem dX0_makeRoom_1 : decode cX0_makeRoom 1 = .ok (.getfield 39, 3) := by decide +kernel
theorem dX0_makeRoom_4 : decode cX0_makeRoom 4 = .ok (.iconst (-1), 1) := by decide +kernel
theorem dX0_makeRoom_5 : decode cX0_makeRoom 5 = .ok (.if_icmp .eq 23, 3) := by decide +kernel
theorem dX0_makeRoom_8 : decode cX0_makeRoom 8 = .ok (.aload_n 0, 1) := by decide +kernel
theorem dX0_makeRoom_9 : decode cX0_makeRoom 9 = .ok (.getfield 19, 3) := by decide +kernel
theorem dX0_makeRoom_12 : decode cX0_makeRoom 12 = .ok (.aload_n 0, 1) := by decide +kernel
theorem dX0_makeRoom_13 : decode cX0_makeRoom 13 = .ok (.getfield 39, 3) := by decide +kernel
theorem dX0_makeRoom_16 : decode cX0_makeRoom 16 = .ok (.iaload, 1) := by decide +kernel
theorem dX0_makeRoom_17 : decode cX0_makeRoom 17 = .ok (.bipush 6, 2) := by decide +kernel
theorem dX0_makeRoom_19 : decode cX0_makeRoom 19 = .ok (.iadd, 1) := by decide +kernel
theorem dX0_makeRoom_20 : decode cX0_makeRoom 20 = .ok (.iconst 1, 1) := by decide +kernel
theorem dX0_makeRoom_21 : decode cX0_makeRoom 21 = .ok (.iadd, 1) := by decide +kernel
theorem dX0_makeRoom_22 : decode cX0_makeRoom 22 = .ok (.bipush 12, 2) := by decide +kernel
theorem dX0_makeRoom_24 : decode cX0_makeRoom 24 = .ok (.if_icmp .gt 4, 3) := by decide +kernel
theorem dX0_makeRoom_27 : decode cX0_makeRoom 27 = .ok (.return_, 1) := by decide +kernel
theorem dX0_makeRoom_28 : decode cX0_makeRoom 28 = .ok (.aload_n 0, 1) := by decide +kernel
theorem dX0_makeRoom_29 : decode cX0_makeRoom 29 = .ok (.invokevirtual 96, 3) := by decide +kernel
theorem dX0_makeRoom_32 : decode cX0_makeRoom 32 = .ok (.iconst 0, 1) := by decide +kernel
theorem dX0_makeRoom_33 : decode cX0_makeRoom 33 = .ok (.istore_n 1, 1) := by decide +kernel
theorem dX0_makeRoom_34 : decode cX0_makeRoom 34 = .ok (.iload_n 1, 1) := by decide +kernel
theorem dX0_makeRoom_35 : decode cX0_makeRoom 35 = .ok (.bipush 6, 2) := by decide +kernel
theorem dX0_makeRoom_37 : decode cX0_makeRoom 37 = .ok (.if_icmp .ge 32, 3) := by decide +kernel
theorem dX0_makeRoom_40 : decode cX0_makeRoom 40 = .ok (.aload_n 0, 1) := by decide +kernel
theorem dX0_makeRoom_41 : decode cX0_makeRoom 41 = .ok (.invokevirtual 99, 3) := by decide +kernel
theorem dX0_makeRoom_44 : decode cX0_makeRoom 44 = .ok (.istore_n 2, 1) := by decide +kernel
theorem dX0_makeRoom_45 : decode cX0_makeRoom 45 = .ok (.aload_n 0, 1) := by decide +kernel
theorem dX0_makeRoom_46 : decode cX0_makeRoom 46 = .ok (.invokevirtual 102, 3) := by decide +kernel
theorem dX0_makeRoom_49 : decode cX0_makeRoom 49 = .ok (.ifCond .gt 8, 3) := by decide +kernel
theorem dX0_makeRoom_52 : decode cX0_makeRoom 52 = .ok (.iload_n 2, 1) := by decide +kernel
theorem dX0_makeRoom_53 : decode cX0_makeRoom 53 = .ok (.iconst (-1), 1) := by decide +kernel
theorem dX0_makeRoom_54 : decode cX0_makeRoom 54 = .ok (.if_icmp .ne 4, 3) := by decide +kernel
theorem dX0_makeRoom_57 : decode cX0_makeRoom 57 = .ok (.return_, 1) := by decide +kernel
theorem dX0_makeRoom_58 : decode cX0_makeRoom 58 = .ok (.aload_n 0, 1) := by decide +kernel
theorem dX0_makeRoom_59 : decode cX0_makeRoom 59 = .ok (.iload_n 2, 1) := by decide +kernel
theorem dX0_makeRoom_60 : decode cX0_makeRoom 60 = .ok (.invokevirtual 105, 3) := by decide +kernel
theorem dX0_makeRoom_63 : decode cX0_makeRoom 63 = .ok (.iinc 1 1, 3) := by decide +kernel
theorem dX0_makeRoom_66 : decode cX0_makeRoom 66 = .ok (.goto (-32), 3) := by decide +kernel
theorem dX0_makeRoom_69 : decode cX0_makeRoom 69 = .ok (.return_, 1) := by decide +kernel
end
section
set_option maxRecDepth 100000
abbrev cX0_openZone : ByteArray := prog_1_method_31_code
def yX0_openZone : MethodName := ⟨RX0, "openZone", "()V"⟩
theorem dX0_openZone_0 : decode cX0_openZone 0 = .ok (.iconst 0, 1) := by decide +kernel
theorem dX0_openZone_1 : decode cX0_openZone 1 = .ok (.istore_n 1, 1) := by decide +kernel
theorem dX0_openZone_2 : decode cX0_openZone 2 = .ok (.iload_n 1, 1) := by decide +kernel
theorem dX0_openZone_3 : decode cX0_openZone 3 = .ok (.bipush 6, 2) := by decide +kernel
theorem dX0_openZone_5 : decode cX0_openZone 5 = .ok (.if_icmp .ge 52, 3) := by decide +kernel
theorem dX0_openZone_8 : decode cX0_openZone 8 = .ok (.aload_n 0, 1) := by decide +kernel
theorem dX0_openZone_9 : decode cX0_openZone 9 = .ok (.getfield 22, 3) := by decide +kernel
theorem dX0_openZone_12 : decode cX0_openZone 12 = .ok (.iload_n 1, 1) := by decide +kernel
theorem dX0_openZone_13 : decode cX0_openZone 13 = .ok (.iaload, 1) := by decide +kernel
theorem dX0_openZone_14 : decode cX0_openZone 14 = .ok (.iconst (-1), 1) := by decide +kernel
theorem dX0_openZone_15 : decode cX0_openZone 15 = .ok (.if_icmp .ne 36, 3) := by decide +kernel
theorem dX0_openZone_18 : decode cX0_openZone 18 = .ok (.aload_n 0, 1) := by decide +kernel
theorem dX0_openZone_19 : decode cX0_openZone 19 = .ok (.dup, 1) := by decide +kernel
theorem dX0_openZone_20 : decode cX0_openZone 20 = .ok (.getfield 108, 3) := by decide +kernel
theorem dX0_openZone_23 : decode cX0_openZone 23 = .ok (.iconst 1, 1) := by decide +kernel
theorem dX0_openZone_24 : decode cX0_openZone 24 = .ok (.iadd, 1) := by decide +kernel
theorem dX0_openZone_25 : decode cX0_openZone 25 = .ok (.putfield 108, 3) := by decide +kernel
theorem dX0_openZone_28 : decode cX0_openZone 28 = .ok (.aload_n 0, 1) := by decide +kernel
theorem dX0_openZone_29 : decode cX0_openZone 29 = .ok (.getfield 22, 3) := by decide +kernel
theorem dX0_openZone_32 : decode cX0_openZone 32 = .ok (.iload_n 1, 1) := by decide +kernel
theorem dX0_openZone_33 : decode cX0_openZone 33 = .ok (.aload_n 0, 1) := by decide +kernel
theorem dX0_openZone_34 : decode cX0_openZone 34 = .ok (.getfield 108, 3) := by decide +kernel
theorem dX0_openZone_37 : decode cX0_openZone 37 = .ok (.iastore, 1) := by decide +kernel
theorem dX0_openZone_38 : decode cX0_openZone 38 = .ok (.aload_n 0, 1) := by decide +kernel
theorem dX0_openZone_39 : decode cX0_openZone 39 = .ok (.getfield 19, 3) := by decide +kernel
theorem dX0_openZone_42 : decode cX0_openZone 42 = .ok (.iload_n 1, 1) := by decide +kernel
theorem dX0_openZone_43 : decode cX0_openZone 43 = .ok (.iconst 0, 1) := by decide +kernel
theorem dX0_openZone_44 : decode cX0_openZone 44 = .ok (.iastore, 1) := by decide +kernel
theorem dX0_openZone_45 : decode cX0_openZone 45 = .ok (.aload_n 0, 1) := by decide +kernel
theorem dX0_openZone_46 : decode cX0_openZone 46 = .ok (.iload_n 1, 1) := by decide +kernel
theorem dX0_openZone_47 : decode cX0_openZone 47 = .ok (.putfield 39, 3) := by decide +kernel
theorem dX0_openZone_50 : decode cX0_openZone 50 = .ok (.return_, 1) := by decide +kernel
theorem dX0_openZone_51 : decode cX0_openZone 51 = .ok (.iinc 1 1, 3) := by decide +kernel
theorem dX0_openZone_54 : decode cX0_openZone 54 = .ok (.goto (-52), 3) := by decide +kernel
theorem dX0_openZone_57 : decode cX0_openZone 57 = .ok (.return_, 1) := by decide +kernel
abbrev cX0_poorest : ByteArray := prog_1_method_32_code
def yX0_poorest : MethodName := ⟨RX0, "poorest", "()I"⟩
theorem dX0_poorest_0 : decode cX0_poorest 0 = .ok (.iconst (-1), 1) := by decide +kernel
theorem dX0_poorest_1 : decode cX0_poorest 1 = .ok (.istore_n 1, 1) := by decide +kernel
theorem dX0_poorest_2 : decode cX0_poorest 2 = .ok (.iconst 0, 1) := by decide +kernel
theorem dX0_poorest_3 : decode cX0_poorest 3 = .ok (.istore_n 2, 1) := by decide +kernel
theorem dX0_poorest_4 : decode cX0_poorest 4 = .ok (.iload_n 2, 1) := by decide +kernel
theorem dX0_poorest_5 : decode cX0_poorest 5 = .ok (.bipush 6, 2) := by decide +kernel
theorem dX0_poorest_7 : decode cX0_poorest 7 = .ok (.if_icmp .ge 47, 3) := by decide +kernel
theorem dX0_poorest_10 : decode cX0_poorest 10 = .ok (.iload_n 2, 1) := by decide +kernel
theorem dX0_poorest_11 : decode cX0_poorest 11 = .ok (.aload_n 0, 1) := by decide +kernel
theorem dX0_poorest_12 : decode cX0_poorest 12 = .ok (.getfield 39, 3) := by decide +kernel
theorem dX0_poorest_15 : decode cX0_poorest 15 = .ok (.if_icmp .eq 33, 3) := by decide +kernel
theorem dX0_poorest_18 : decode cX0_poorest 18 = .ok (.aload_n 0, 1) := by decide +kernel
theorem dX0_poorest_19 : decode cX0_poorest 19 = .ok (.getfield 22, 3) := by decide +kernel
theorem dX0_poorest_22 : decode cX0_poorest 22 = .ok (.iload_n 2, 1) := by decide +kernel
theorem dX0_poorest_23 : decode cX0_poorest 23 = .ok (.iaload, 1) := by decide +kernel
theorem dX0_poorest_24 : decode cX0_poorest 24 = .ok (.iconst (-1), 1) := by decide +kernel
theorem dX0_poorest_25 : decode cX0_poorest 25 = .ok (.if_icmp .eq 23, 3) := by decide +kernel
theorem dX0_poorest_28 : decode cX0_poorest 28 = .ok (.iload_n 1, 1) := by decide +kernel
theorem dX0_poorest_29 : decode cX0_poorest 29 = .ok (.iconst (-1), 1) := by decide +kernel
theorem dX0_poorest_30 : decode cX0_poorest 30 = .ok (.if_icmp .eq 16, 3) := by decide +kernel
theorem dX0_poorest_33 : decode cX0_poorest 33 = .ok (.aload_n 0, 1) := by decide +kernel
theorem dX0_poorest_34 : decode cX0_poorest 34 = .ok (.iload_n 2, 1) := by decide +kernel
theorem dX0_poorest_35 : decode cX0_poorest 35 = .ok (.invokevirtual 78, 3) := by decide +kernel
theorem dX0_poorest_38 : decode cX0_poorest 38 = .ok (.aload_n 0, 1) := by decide +kernel
theorem dX0_poorest_39 : decode cX0_poorest 39 = .ok (.iload_n 1, 1) := by decide +kernel
theorem dX0_poorest_40 : decode cX0_poorest 40 = .ok (.invokevirtual 78, 3) := by decide +kernel
theorem dX0_poorest_43 : decode cX0_poorest 43 = .ok (.if_icmp .ge 5, 3) := by decide +kernel
theorem dX0_poorest_46 : decode cX0_poorest 46 = .ok (.iload_n 2, 1) := by decide +kernel
theorem dX0_poorest_47 : decode cX0_poorest 47 = .ok (.istore_n 1, 1) := by decide +kernel
theorem dX0_poorest_48 : decode cX0_poorest 48 = .ok (.iinc 2 1, 3) := by decide +kernel
theorem dX0_poorest_51 : decode cX0_poorest 51 = .ok (.goto (-47), 3) := by decide +kernel
theorem dX0_poorest_54 : decode cX0_poorest 54 = .ok (.iload_n 1, 1) := by decide +kernel
theorem dX0_poorest_55 : decode cX0_poorest 55 = .ok (.ireturn, 1) := by decide +kernel
abbrev cX0_living : ByteArray := prog_1_method_27_code
def yX0_living : MethodName := ⟨RX0, "living", "(I)I"⟩
theorem dX0_living_0 : decode cX0_living 0 = .ok (.iconst 0, 1) := by decide +kernel
theorem dX0_living_1 : decode cX0_living 1 = .ok (.istore_n 2, 1) := by decide +kernel
theorem dX0_living_2 : decode cX0_living 2 = .ok (.iconst 0, 1) := by decide +kernel
theorem dX0_living_3 : decode cX0_living 3 = .ok (.istore_n 3, 1) := by decide +kernel
theorem dX0_living_4 : decode cX0_living 4 = .ok (.iload_n 3, 1) := by decide +kernel
theorem dX0_living_5 : decode cX0_living 5 = .ok (.bipush 16, 2) := by decide +kernel
theorem dX0_living_7 : decode cX0_living 7 = .ok (.if_icmp .ge 40, 3) := by decide +kernel
theorem dX0_living_10 : decode cX0_living 10 = .ok (.iload_n 2, 1) := by decide +kernel
theorem dX0_living_11 : decode cX0_living 11 = .ok (.aload_n 0, 1) := by decide +kernel
theorem dX0_living_12 : decode cX0_living 12 = .ok (.getfield 25, 3) := by decide +kernel
theorem dX0_living_15 : decode cX0_living 15 = .ok (.iload_n 3, 1) := by decide +kernel
theorem dX0_living_16 : decode cX0_living 16 = .ok (.iaload, 1) := by decide +kernel
theorem dX0_living_17 : decode cX0_living 17 = .ok (.iconst (-1), 1) := by decide +kernel
theorem dX0_living_18 : decode cX0_living 18 = .ok (.if_icmp .eq 20, 3) := by decide +kernel
theorem dX0_living_21 : decode cX0_living 21 = .ok (.aload_n 0, 1) := by decide +kernel
theorem dX0_living_22 : decode cX0_living 22 = .ok (.getfield 25, 3) := by decide +kernel
theorem dX0_living_25 : decode cX0_living 25 = .ok (.iload_n 3, 1) := by decide +kernel
theorem dX0_living_26 : decode cX0_living 26 = .ok (.iaload, 1) := by decide +kernel
theorem dX0_living_27 : decode cX0_living 27 = .ok (.bipush 12, 2) := by decide +kernel
theorem dX0_living_29 : decode cX0_living 29 = .ok (.idiv, 1) := by decide +kernel
theorem dX0_living_30 : decode cX0_living 30 = .ok (.iload_n 1, 1) := by decide +kernel
theorem dX0_living_31 : decode cX0_living 31 = .ok (.if_icmp .ne 7, 3) := by decide +kernel
theorem dX0_living_34 : decode cX0_living 34 = .ok (.iconst 1, 1) := by decide +kernel
theorem dX0_living_35 : decode cX0_living 35 = .ok (.goto 4, 3) := by decide +kernel
theorem dX0_living_38 : decode cX0_living 38 = .ok (.iconst 0, 1) := by decide +kernel
theorem dX0_living_39 : decode cX0_living 39 = .ok (.iadd, 1) := by decide +kernel
theorem dX0_living_40 : decode cX0_living 40 = .ok (.istore_n 2, 1) := by decide +kernel
theorem dX0_living_41 : decode cX0_living 41 = .ok (.iinc 3 1, 3) := by decide +kernel
theorem dX0_living_44 : decode cX0_living 44 = .ok (.goto (-40), 3) := by decide +kernel
theorem dX0_living_47 : decode cX0_living 47 = .ok (.iload_n 2, 1) := by decide +kernel
theorem dX0_living_48 : decode cX0_living 48 = .ok (.ireturn, 1) := by decide +kernel
abbrev cX0_emptyZones : ByteArray := prog_1_method_30_code
def yX0_emptyZones : MethodName := ⟨RX0, "emptyZones", "()I"⟩
theorem dX0_emptyZones_0 : decode cX0_emptyZones 0 = .ok (.iconst 0, 1) := by decide +kernel
theorem dX0_emptyZones_1 : decode cX0_emptyZones 1 = .ok (.istore_n 1, 1) := by decide +kernel
theorem dX0_emptyZones_2 : decode cX0_emptyZones 2 = .ok (.iconst 0, 1) := by decide +kernel
theorem dX0_emptyZones_3 : decode cX0_emptyZones 3 = .ok (.istore_n 2, 1) := by decide +kernel
theorem dX0_emptyZones_4 : decode cX0_emptyZones 4 = .ok (.iload_n 2, 1) := by decide +kernel
theorem dX0_emptyZones_5 : decode cX0_emptyZones 5 = .ok (.bipush 6, 2) := by decide +kernel
theorem dX0_emptyZones_7 : decode cX0_emptyZones 7 = .ok (.if_icmp .ge 27, 3) := by decide +kernel
theorem dX0_emptyZones_10 : decode cX0_emptyZones 10 = .ok (.iload_n 1, 1) := by decide +kernel
theorem dX0_emptyZones_11 : decode cX0_emptyZones 11 = .ok (.aload_n 0, 1) := by decide +kernel
theorem dX0_emptyZones_12 : decode cX0_emptyZones 12 = .ok (.getfield 22, 3) := by decide +kernel
theorem dX0_emptyZones_15 : decode cX0_emptyZones 15 = .ok (.iload_n 2, 1) := by decide +kernel
theorem dX0_emptyZones_16 : decode cX0_emptyZones 16 = .ok (.iaload, 1) := by decide +kernel
theorem dX0_emptyZones_17 : decode cX0_emptyZones 17 = .ok (.iconst (-1), 1) := by decide +kernel
theorem dX0_emptyZones_18 : decode cX0_emptyZones 18 = .ok (.if_icmp .ne 7, 3) := by decide +kernel
theorem dX0_emptyZones_21 : decode cX0_emptyZones 21 = .ok (.iconst 1, 1) := by decide +kernel
theorem dX0_emptyZones_22 : decode cX0_emptyZones 22 = .ok (.goto 4, 3) := by decide +kernel
theorem dX0_emptyZones_25 : decode cX0_emptyZones 25 = .ok (.iconst 0, 1) := by decide +kernel
theorem dX0_emptyZones_26 : decode cX0_emptyZones 26 = .ok (.iadd, 1) := by decide +kernel
theorem dX0_emptyZones_27 : decode cX0_emptyZones 27 = .ok (.istore_n 1, 1) := by decide +kernel
theorem dX0_emptyZones_28 : decode cX0_emptyZones 28 = .ok (.iinc 2 1, 3) := by decide +kernel
theorem dX0_emptyZones_31 : decode cX0_emptyZones 31 = .ok (.goto (-27), 3) := by decide +kernel
theorem dX0_emptyZones_34 : decode cX0_emptyZones 34 = .ok (.iload_n 1, 1) := by decide +kernel
theorem dX0_emptyZones_35 : decode cX0_emptyZones 35 = .ok (.ireturn, 1) := by decide +kernel
abbrev cX0_moveOut : ByteArray := prog_1_method_33_code
def yX0_moveOut : MethodName := ⟨RX0, "moveOut", "(I)V"⟩
theorem dX0_moveOut_0 : decode cX0_moveOut 0 = .ok (.aload_n 0, 1) := by decide +kernel
theorem dX0_moveOut_1 : decode cX0_moveOut 1 = .ok (.iload_n 1, 1) := by decide +kernel
theorem dX0_moveOut_2 : decode cX0_moveOut 2 = .ok (.invokevirtual 78, 3) := by decide +kernel
theorem dX0_moveOut_5 : decode cX0_moveOut 5 = .ok (.ifCond .le 80, 3) := by decide +kernel
theorem dX0_moveOut_8 : decode cX0_moveOut 8 = .ok (.aload_n 0, 1) := by decide +kernel
theorem dX0_moveOut_9 : decode cX0_moveOut 9 = .ok (.dup, 1) := by decide +kernel
theorem dX0_moveOut_10 : decode cX0_moveOut 10 = .ok (.getfield 90, 3) := by decide +kernel
theorem dX0_moveOut_13 : decode cX0_moveOut 13 = .ok (.iconst 1, 1) := by decide +kernel
theorem dX0_moveOut_14 : decode cX0_moveOut 14 = .ok (.iadd, 1) := by decide +kernel
theorem dX0_moveOut_15 : decode cX0_moveOut 15 = .ok (.putfield 90, 3) := by decide +kernel
theorem dX0_moveOut_18 : decode cX0_moveOut 18 = .ok (.iconst 0, 1) := by decide +kernel
theorem dX0_moveOut_19 : decode cX0_moveOut 19 = .ok (.istore_n 2, 1) := by decide +kernel
theorem dX0_moveOut_20 : decode cX0_moveOut 20 = .ok (.iload_n 2, 1) := by decide +kernel
theorem dX0_moveOut_21 : decode cX0_moveOut 21 = .ok (.bipush 16, 2) := by decide +kernel
theorem dX0_moveOut_23 : decode cX0_moveOut 23 = .ok (.if_icmp .ge 54, 3) := by decide +kernel
theorem dX0_moveOut_26 : decode cX0_moveOut 26 = .ok (.aload_n 0, 1) := by decide +kernel
theorem dX0_moveOut_27 : decode cX0_moveOut 27 = .ok (.getfield 25, 3) := by decide +kernel
theorem dX0_moveOut_30 : decode cX0_moveOut 30 = .ok (.iload_n 2, 1) := by decide +kernel
theorem dX0_moveOut_31 : decode cX0_moveOut 31 = .ok (.iaload, 1) := by decide +kernel
theorem dX0_moveOut_32 : decode cX0_moveOut 32 = .ok (.iconst (-1), 1) := by decide +kernel
theorem dX0_moveOut_33 : decode cX0_moveOut 33 = .ok (.if_icmp .eq 38, 3) := by decide +kernel
theorem dX0_moveOut_36 : decode cX0_moveOut 36 = .ok (.aload_n 0, 1) := by decide +kernel
theorem dX0_moveOut_37 : decode cX0_moveOut 37 = .ok (.getfield 25, 3) := by decide +kernel
theorem dX0_moveOut_40 : decode cX0_moveOut 40 = .ok (.iload_n 2, 1) := by decide +kernel
theorem dX0_moveOut_41 : decode cX0_moveOut 41 = .ok (.iaload, 1) := by decide +kernel
theorem dX0_moveOut_42 : decode cX0_moveOut 42 = .ok (.bipush 12, 2) := by decide +kernel
theorem dX0_moveOut_44 : decode cX0_moveOut 44 = .ok (.idiv, 1) := by decide +kernel
theorem dX0_moveOut_45 : decode cX0_moveOut 45 = .ok (.iload_n 1, 1) := by decide +kernel
theorem dX0_moveOut_46 : decode cX0_moveOut 46 = .ok (.if_icmp .ne 25, 3) := by decide +kernel
theorem dX0_moveOut_49 : decode cX0_moveOut 49 = .ok (.aload_n 0, 1) := by decide +kernel
theorem dX0_moveOut_50 : decode cX0_moveOut 50 = .ok (.getfield 25, 3) := by decide +kernel
theorem dX0_moveOut_53 : decode cX0_moveOut 53 = .ok (.iload_n 2, 1) := by decide +kernel
theorem dX0_moveOut_54 : decode cX0_moveOut 54 = .ok (.aload_n 0, 1) := by decide +kernel
theorem dX0_moveOut_55 : decode cX0_moveOut 55 = .ok (.iload_n 2, 1) := by decide +kernel
theorem dX0_moveOut_56 : decode cX0_moveOut 56 = .ok (.aload_n 0, 1) := by decide +kernel
theorem dX0_moveOut_57 : decode cX0_moveOut 57 = .ok (.getfield 13, 3) := by decide +kernel
theorem dX0_moveOut_60 : decode cX0_moveOut 60 = .ok (.aload_n 0, 1) := by decide +kernel
theorem dX0_moveOut_61 : decode cX0_moveOut 61 = .ok (.getfield 25, 3) := by decide +kernel
theorem dX0_moveOut_64 : decode cX0_moveOut 64 = .ok (.iload_n 2, 1) := by decide +kernel
theorem dX0_moveOut_65 : decode cX0_moveOut 65 = .ok (.iaload, 1) := by decide +kernel
theorem dX0_moveOut_66 : decode cX0_moveOut 66 = .ok (.iaload, 1) := by decide +kernel
theorem dX0_moveOut_67 : decode cX0_moveOut 67 = .ok (.invokevirtual 93, 3) := by decide +kernel
theorem dX0_moveOut_70 : decode cX0_moveOut 70 = .ok (.iastore, 1) := by decide +kernel
theorem dX0_moveOut_71 : decode cX0_moveOut 71 = .ok (.iinc 2 1, 3) := by decide +kernel
theorem dX0_moveOut_74 : decode cX0_moveOut 74 = .ok (.goto (-54), 3) := by decide +kernel
theorem dX0_moveOut_77 : decode cX0_moveOut 77 = .ok (.aload_n 0, 1) := by decide +kernel
theorem dX0_moveOut_78 : decode cX0_moveOut 78 = .ok (.bipush 16, 2) := by decide +kernel
theorem dX0_moveOut_80 : decode cX0_moveOut 80 = .ok (.iconst 0, 1) := by decide +kernel
theorem dX0_moveOut_81 : decode cX0_moveOut 81 = .ok (.invokevirtual 93, 3) := by decide +kernel
theorem dX0_moveOut_84 : decode cX0_moveOut 84 = .ok (.pop, 1) := by decide +kernel
theorem dX0_moveOut_85 : decode cX0_moveOut 85 = .ok (.aload_n 0, 1) := by decide +kernel
theorem dX0_moveOut_86 : decode cX0_moveOut 86 = .ok (.iload_n 1, 1) := by decide +kernel
theorem dX0_moveOut_87 : decode cX0_moveOut 87 = .ok (.invokevirtual 81, 3) := by decide +kernel
theorem dX0_moveOut_90 : decode cX0_moveOut 90 = .ok (.return_, 1) := by decide +kernel
abbrev cX0_append : ByteArray := prog_1_method_26_code
def yX0_append : MethodName := ⟨RX0, "append", "(II)I"⟩
theorem dX0_append_0 : decode cX0_append 0 = .ok (.bipush 12, 2) := by decide +kernel
theorem dX0_append_2 : decode cX0_append 2 = .ok (.aload_n 0, 1) := by decide +kernel
theorem dX0_append_3 : decode cX0_append 3 = .ok (.getfield 39, 3) := by decide +kernel
theorem dX0_append_6 : decode cX0_append 6 = .ok (.imul, 1) := by decide +kernel
theorem dX0_append_7 : decode cX0_append 7 = .ok (.aload_n 0, 1) := by decide +kernel
theorem dX0_append_8 : decode cX0_append 8 = .ok (.getfield 19, 3) := by decide +kernel
theorem dX0_append_11 : decode cX0_append 11 = .ok (.aload_n 0, 1) := by decide +kernel
theorem dX0_append_12 : decode cX0_append 12 = .ok (.getfield 39, 3) := by decide +kernel
theorem dX0_append_15 : decode cX0_append 15 = .ok (.iaload, 1) := by decide +kernel
theorem dX0_append_16 : decode cX0_append 16 = .ok (.iadd, 1) := by decide +kernel
theorem dX0_append_17 : decode cX0_append 17 = .ok (.istore_n 3, 1) := by decide +kernel
theorem dX0_append_18 : decode cX0_append 18 = .ok (.aload_n 0, 1) := by decide +kernel
theorem dX0_append_19 : decode cX0_append 19 = .ok (.getfield 7, 3) := by decide +kernel
theorem dX0_append_22 : decode cX0_append 22 = .ok (.iload_n 3, 1) := by decide +kernel
theorem dX0_append_23 : decode cX0_append 23 = .ok (.iload_n 1, 1) := by decide +kernel
theorem dX0_append_24 : decode cX0_append 24 = .ok (.iastore, 1) := by decide +kernel
theorem dX0_append_25 : decode cX0_append 25 = .ok (.aload_n 0, 1) := by decide +kernel
theorem dX0_append_26 : decode cX0_append 26 = .ok (.getfield 13, 3) := by decide +kernel
theorem dX0_append_29 : decode cX0_append 29 = .ok (.iload_n 3, 1) := by decide +kernel
theorem dX0_append_30 : decode cX0_append 30 = .ok (.iload_n 2, 1) := by decide +kernel
theorem dX0_append_31 : decode cX0_append 31 = .ok (.iastore, 1) := by decide +kernel
theorem dX0_append_32 : decode cX0_append 32 = .ok (.aload_n 0, 1) := by decide +kernel
theorem dX0_append_33 : decode cX0_append 33 = .ok (.getfield 16, 3) := by decide +kernel
theorem dX0_append_36 : decode cX0_append 36 = .ok (.iload_n 3, 1) := by decide +kernel
theorem dX0_append_37 : decode cX0_append 37 = .ok (.aload_n 0, 1) := by decide +kernel
theorem dX0_append_38 : decode cX0_append 38 = .ok (.getfield 90, 3) := by decide +kernel
theorem dX0_append_41 : decode cX0_append 41 = .ok (.iastore, 1) := by decide +kernel
theorem dX0_append_42 : decode cX0_append 42 = .ok (.aload_n 0, 1) := by decide +kernel
theorem dX0_append_43 : decode cX0_append 43 = .ok (.getfield 19, 3) := by decide +kernel
theorem dX0_append_46 : decode cX0_append 46 = .ok (.aload_n 0, 1) := by decide +kernel
theorem dX0_append_47 : decode cX0_append 47 = .ok (.getfield 39, 3) := by decide +kernel
theorem dX0_append_50 : decode cX0_append 50 = .ok (.dup2, 1) := by decide +kernel
theorem dX0_append_51 : decode cX0_append 51 = .ok (.iaload, 1) := by decide +kernel
theorem dX0_append_52 : decode cX0_append 52 = .ok (.iconst 1, 1) := by decide +kernel
theorem dX0_append_53 : decode cX0_append 53 = .ok (.iadd, 1) := by decide +kernel
theorem dX0_append_54 : decode cX0_append 54 = .ok (.iastore, 1) := by decide +kernel
theorem dX0_append_55 : decode cX0_append 55 = .ok (.iload_n 3, 1) := by decide +kernel
theorem dX0_append_56 : decode cX0_append 56 = .ok (.ireturn, 1) := by decide +kernel
abbrev cX0_empty : ByteArray := prog_1_method_28_code
def yX0_empty : MethodName := ⟨RX0, "empty", "(I)V"⟩
theorem dX0_empty_0 : decode cX0_empty 0 = .ok (.aload_n 0, 1) := by decide +kernel
theorem dX0_empty_1 : decode cX0_empty 1 = .ok (.getfield 19, 3) := by decide +kernel
theorem dX0_empty_4 : decode cX0_empty 4 = .ok (.iload_n 1, 1) := by decide +kernel
theorem dX0_empty_5 : decode cX0_empty 5 = .ok (.iconst 0, 1) := by decide +kernel
theorem dX0_empty_6 : decode cX0_empty 6 = .ok (.iastore, 1) := by decide +kernel
theorem dX0_empty_7 : decode cX0_empty 7 = .ok (.aload_n 0, 1) := by decide +kernel
theorem dX0_empty_8 : decode cX0_empty 8 = .ok (.getfield 22, 3) := by decide +kernel
theorem dX0_empty_11 : decode cX0_empty 11 = .ok (.iload_n 1, 1) := by decide +kernel
theorem dX0_empty_12 : decode cX0_empty 12 = .ok (.iconst (-1), 1) := by decide +kernel
theorem dX0_empty_13 : decode cX0_empty 13 = .ok (.iastore, 1) := by decide +kernel
theorem dX0_empty_14 : decode cX0_empty 14 = .ok (.return_, 1) := by decide +kernel
abbrev cX0_dropCache : ByteArray := prog_1_method_23_code
def yX0_dropCache : MethodName := ⟨RX0, "dropCache", "()V"⟩
theorem dX0_dropCache_0 : decode cX0_dropCache 0 = .ok (.iconst 0, 1) := by decide +kernel
theorem dX0_dropCache_1 : decode cX0_dropCache 1 = .ok (.istore_n 1, 1) := by decide +kernel
theorem dX0_dropCache_2 : decode cX0_dropCache 2 = .ok (.iload_n 1, 1) := by decide +kernel
theorem dX0_dropCache_3 : decode cX0_dropCache 3 = .ok (.bipush 16, 2) := by decide +kernel
theorem dX0_dropCache_5 : decode cX0_dropCache 5 = .ok (.if_icmp .ge 16, 3) := by decide +kernel
theorem dX0_dropCache_8 : decode cX0_dropCache 8 = .ok (.aload_n 0, 1) := by decide +kernel
theorem dX0_dropCache_9 : decode cX0_dropCache 9 = .ok (.getfield 31, 3) := by decide +kernel
theorem dX0_dropCache_12 : decode cX0_dropCache 12 = .ok (.iload_n 1, 1) := by decide +kernel
theorem dX0_dropCache_13 : decode cX0_dropCache 13 = .ok (.iconst 0, 1) := by decide +kernel
theorem dX0_dropCache_14 : decode cX0_dropCache 14 = .ok (.bastore, 1) := by decide +kernel
theorem dX0_dropCache_15 : decode cX0_dropCache 15 = .ok (.iinc 1 1, 3) := by decide +kernel
theorem dX0_dropCache_18 : decode cX0_dropCache 18 = .ok (.goto (-16), 3) := by decide +kernel
theorem dX0_dropCache_21 : decode cX0_dropCache 21 = .ok (.return_, 1) := by decide +kernel
abbrev cX0_fill : ByteArray := prog_1_method_5_code
def yX0_fill : MethodName := ⟨RX0, "fill", "(IIII)I"⟩
theorem dX0_fill_0 : decode cX0_fill 0 = .ok (.aload_n 0, 1) := by decide +kernel
theorem dX0_fill_1 : decode cX0_fill 1 = .ok (.getfield 35, 3) := by decide +kernel
theorem dX0_fill_4 : decode cX0_fill 4 = .ok (.ifCond .ne 5, 3) := by decide +kernel
theorem dX0_fill_7 : decode cX0_fill 7 = .ok (.iconst (-1), 1) := by decide +kernel
theorem dX0_fill_8 : decode cX0_fill 8 = .ok (.ireturn, 1) := by decide +kernel
theorem dX0_fill_9 : decode cX0_fill 9 = .ok (.iload_n 2, 1) := by decide +kernel
theorem dX0_fill_10 : decode cX0_fill 10 = .ok (.iconst 1, 1) := by decide +kernel
theorem dX0_fill_11 : decode cX0_fill 11 = .ok (.if_icmp .lt 21, 3) := by decide +kernel
theorem dX0_fill_14 : decode cX0_fill 14 = .ok (.iload_n 2, 1) := by decide +kernel
theorem dX0_fill_15 : decode cX0_fill 15 = .ok (.bipush 16, 2) := by decide +kernel
theorem dX0_fill_17 : decode cX0_fill 17 = .ok (.if_icmp .gt 15, 3) := by decide +kernel
theorem dX0_fill_20 : decode cX0_fill 20 = .ok (.iload_n 1, 1) := by decide +kernel
theorem dX0_fill_21 : decode cX0_fill 21 = .ok (.ifCond .lt 11, 3) := by decide +kernel
theorem dX0_fill_24 : decode cX0_fill 24 = .ok (.iload_n 1, 1) := by decide +kernel
theorem dX0_fill_25 : decode cX0_fill 25 = .ok (.bipush 16, 2) := by decide +kernel
theorem dX0_fill_27 : decode cX0_fill 27 = .ok (.iload_n 2, 1) := by decide +kernel
theorem dX0_fill_28 : decode cX0_fill 28 = .ok (.isub, 1) := by decide +kernel
theorem dX0_fill_29 : decode cX0_fill 29 = .ok (.if_icmp .le 6, 3) := by decide +kernel
theorem dX0_fill_32 : decode cX0_fill 32 = .ok (.bipush (-2), 2) := by decide +kernel
theorem dX0_fill_34 : decode cX0_fill 34 = .ok (.ireturn, 1) := by decide +kernel
theorem dX0_fill_35 : decode cX0_fill 35 = .ok (.aload_n 0, 1) := by decide +kernel
theorem dX0_fill_36 : decode cX0_fill 36 = .ok (.getfield 55, 3) := by decide +kernel
theorem dX0_fill_39 : decode cX0_fill 39 = .ok (.ifCond .eq 6, 3) := by decide +kernel
theorem dX0_fill_42 : decode cX0_fill 42 = .ok (.bipush (-3), 2) := by decide +kernel
theorem dX0_fill_44 : decode cX0_fill 44 = .ok (.ireturn, 1) := by decide +kernel
theorem dX0_fill_45 : decode cX0_fill 45 = .ok (.iconst 0, 1) := by decide +kernel
theorem dX0_fill_46 : decode cX0_fill 46 = .ok (.istore 5, 2) := by decide +kernel
theorem dX0_fill_48 : decode cX0_fill 48 = .ok (.iload 5, 2) := by decide +kernel
theorem dX0_fill_50 : decode cX0_fill 50 = .ok (.iload_n 2, 1) := by decide +kernel
theorem dX0_fill_51 : decode cX0_fill 51 = .ok (.if_icmp .ge 25, 3) := by decide +kernel
theorem dX0_fill_54 : decode cX0_fill 54 = .ok (.aload_n 0, 1) := by decide +kernel
theorem dX0_fill_55 : decode cX0_fill 55 = .ok (.iload_n 1, 1) := by decide +kernel
theorem dX0_fill_56 : decode cX0_fill 56 = .ok (.iload 5, 2) := by decide +kernel
theorem dX0_fill_58 : decode cX0_fill 58 = .ok (.iadd, 1) := by decide +kernel
theorem dX0_fill_59 : decode cX0_fill 59 = .ok (.iload_n 3, 1) := by decide +kernel
theorem dX0_fill_60 : decode cX0_fill 60 = .ok (.iload 5, 2) := by decide +kernel
theorem dX0_fill_62 : decode cX0_fill 62 = .ok (.iload 4, 2) := by decide +kernel
theorem dX0_fill_64 : decode cX0_fill 64 = .ok (.imul, 1) := by decide +kernel
theorem dX0_fill_65 : decode cX0_fill 65 = .ok (.iadd, 1) := by decide +kernel
theorem dX0_fill_66 : decode cX0_fill 66 = .ok (.invokevirtual 62, 3) := by decide +kernel
theorem dX0_fill_69 : decode cX0_fill 69 = .ok (.pop, 1) := by decide +kernel
theorem dX0_fill_70 : decode cX0_fill 70 = .ok (.iinc 5 1, 3) := by decide +kernel
theorem dX0_fill_73 : decode cX0_fill 73 = .ok (.goto (-25), 3) := by decide +kernel
theorem dX0_fill_76 : decode cX0_fill 76 = .ok (.iconst 0, 1) := by decide +kernel
theorem dX0_fill_77 : decode cX0_fill 77 = .ok (.ireturn, 1) := by decide +kernel
abbrev cX0_sync : ByteArray := prog_1_method_6_code
def yX0_sync : MethodName := ⟨RX0, "sync", "()I"⟩
theorem dX0_sync_0 : decode cX0_sync 0 = .ok (.aload_n 0, 1) := by decide +kernel
theorem dX0_sync_1 : decode cX0_sync 1 = .ok (.getfield 35, 3) := by decide +kernel
theorem dX0_sync_4 : decode cX0_sync 4 = .ok (.ifCond .ne 5, 3) := by decide +kernel
theorem dX0_sync_7 : decode cX0_sync 7 = .ok (.iconst (-1), 1) := by decide +kernel
theorem dX0_sync_8 : decode cX0_sync 8 = .ok (.ireturn, 1) := by decide +kernel
theorem dX0_sync_9 : decode cX0_sync 9 = .ok (.aload_n 0, 1) := by decide +kernel
theorem dX0_sync_10 : decode cX0_sync 10 = .ok (.getfield 55, 3) := by decide +kernel
theorem dX0_sync_13 : decode cX0_sync 13 = .ok (.ifCond .eq 6, 3) := by decide +kernel
theorem dX0_sync_16 : decode cX0_sync 16 = .ok (.bipush (-2), 2) := by decide +kernel
theorem dX0_sync_18 : decode cX0_sync 18 = .ok (.ireturn, 1) := by decide +kernel
theorem dX0_sync_19 : decode cX0_sync 19 = .ok (.aload_n 0, 1) := by decide +kernel
theorem dX0_sync_20 : decode cX0_sync 20 = .ok (.invokevirtual 51, 3) := by decide +kernel
theorem dX0_sync_23 : decode cX0_sync 23 = .ok (.istore_n 1, 1) := by decide +kernel
theorem dX0_sync_24 : decode cX0_sync 24 = .ok (.aload_n 0, 1) := by decide +kernel
theorem dX0_sync_25 : decode cX0_sync 25 = .ok (.iconst 3, 1) := by decide +kernel
theorem dX0_sync_26 : decode cX0_sync 26 = .ok (.invokevirtual 58, 3) := by decide +kernel
theorem dX0_sync_29 : decode cX0_sync 29 = .ok (.iload_n 1, 1) := by decide +kernel
theorem dX0_sync_30 : decode cX0_sync 30 = .ok (.ireturn, 1) := by decide +kernel
abbrev cX0_begin : ByteArray := prog_1_method_7_code
def yX0_begin : MethodName := ⟨RX0, "begin", "()I"⟩
theorem dX0_begin_0 : decode cX0_begin 0 = .ok (.aload_n 0, 1) := by decide +kernel
theorem dX0_begin_1 : decode cX0_begin 1 = .ok (.getfield 35, 3) := by decide +kernel
theorem dX0_begin_4 : decode cX0_begin 4 = .ok (.ifCond .ne 5, 3) := by decide +kernel
theorem dX0_begin_7 : decode cX0_begin 7 = .ok (.iconst (-1), 1) := by decide +kernel
theorem dX0_begin_8 : decode cX0_begin 8 = .ok (.ireturn, 1) := by decide +kernel
theorem dX0_begin_9 : decode cX0_begin 9 = .ok (.aload_n 0, 1) := by decide +kernel
theorem dX0_begin_10 : decode cX0_begin 10 = .ok (.getfield 55, 3) := by decide +kernel
theorem dX0_begin_13 : decode cX0_begin 13 = .ok (.ifCond .eq 6, 3) := by decide +kernel
theorem dX0_begin_16 : decode cX0_begin 16 = .ok (.bipush (-2), 2) := by decide +kernel
theorem dX0_begin_18 : decode cX0_begin 18 = .ok (.ireturn, 1) := by decide +kernel
theorem dX0_begin_19 : decode cX0_begin 19 = .ok (.aload_n 0, 1) := by decide +kernel
theorem dX0_begin_20 : decode cX0_begin 20 = .ok (.iconst 3, 1) := by decide +kernel
theorem dX0_begin_21 : decode cX0_begin 21 = .ok (.invokevirtual 58, 3) := by decide +kernel
theorem dX0_begin_24 : decode cX0_begin 24 = .ok (.aload_n 0, 1) := by decide +kernel
theorem dX0_begin_25 : decode cX0_begin 25 = .ok (.iconst 1, 1) := by decide +kernel
theorem dX0_begin_26 : decode cX0_begin 26 = .ok (.putfield 55, 3) := by decide +kernel
theorem dX0_begin_29 : decode cX0_begin 29 = .ok (.iconst 0, 1) := by decide +kernel
theorem dX0_begin_30 : decode cX0_begin 30 = .ok (.ireturn, 1) := by decide +kernel
end
section
set_option maxRecDepth 100000
abbrev cX0_commit : ByteArray := prog_1_method_8_code
def yX0_commit : MethodName := ⟨RX0, "commit", "()I"⟩
theorem dX0_commit_0 : decode cX0_commit 0 = .ok (.aload_n 0, 1) := by decide +kernel
theorem dX0_commit_1 : decode cX0_commit 1 = .ok (.getfield 35, 3) := by decide +kernel
theorem dX0_commit_4 : decode cX0_commit 4 = .ok (.ifCond .ne 5, 3) := by decide +kernel
theorem dX0_commit_7 : decode cX0_commit 7 = .ok (.iconst (-1), 1) := by decide +kernel
theorem dX0_commit_8 : decode cX0_commit 8 = .ok (.ireturn, 1) := by decide +kernel
theorem dX0_commit_9 : decode cX0_commit 9 = .ok (.aload_n 0, 1) := by decide +kernel
theorem dX0_commit_10 : decode cX0_commit 10 = .ok (.getfield 55, 3) := by decide +kernel
theorem dX0_commit_13 : decode cX0_commit 13 = .ok (.ifCond .ne 6, 3) := by decide +kernel
theorem dX0_commit_16 : decode cX0_commit 16 = .ok (.bipush (-2), 2) := by decide +kernel
theorem dX0_commit_18 : decode cX0_commit 18 = .ok (.ireturn, 1) := by decide +kernel
theorem dX0_commit_19 : decode cX0_commit 19 = .ok (.aload_n 0, 1) := by decide +kernel
theorem dX0_commit_20 : decode cX0_commit 20 = .ok (.invokevirtual 51, 3) := by decide +kernel
theorem dX0_commit_23 : decode cX0_commit 23 = .ok (.istore_n 1, 1) := by decide +kernel
theorem dX0_commit_24 : decode cX0_commit 24 = .ok (.aload_n 0, 1) := by decide +kernel
theorem dX0_commit_25 : decode cX0_commit 25 = .ok (.iconst 0, 1) := by decide +kernel
theorem dX0_commit_26 : decode cX0_commit 26 = .ok (.putfield 55, 3) := by decide +kernel
theorem dX0_commit_29 : decode cX0_commit 29 = .ok (.aload_n 0, 1) := by decide +kernel
theorem dX0_commit_30 : decode cX0_commit 30 = .ok (.iconst 3, 1) := by decide +kernel
theorem dX0_commit_31 : decode cX0_commit 31 = .ok (.invokevirtual 58, 3) := by decide +kernel
theorem dX0_commit_34 : decode cX0_commit 34 = .ok (.iload_n 1, 1) := by decide +kernel
theorem dX0_commit_35 : decode cX0_commit 35 = .ok (.ireturn, 1) := by decide +kernel
abbrev cX0_abort : ByteArray := prog_1_method_9_code
def yX0_abort : MethodName := ⟨RX0, "abort", "()I"⟩
theorem dX0_abort_0 : decode cX0_abort 0 = .ok (.aload_n 0, 1) := by decide +kernel
theorem dX0_abort_1 : decode cX0_abort 1 = .ok (.getfield 35, 3) := by decide +kernel
theorem dX0_abort_4 : decode cX0_abort 4 = .ok (.ifCond .ne 5, 3) := by decide +kernel
theorem dX0_abort_7 : decode cX0_abort 7 = .ok (.iconst (-1), 1) := by decide +kernel
theorem dX0_abort_8 : decode cX0_abort 8 = .ok (.ireturn, 1) := by decide +kernel
theorem dX0_abort_9 : decode cX0_abort 9 = .ok (.aload_n 0, 1) := by decide +kernel
theorem dX0_abort_10 : decode cX0_abort 10 = .ok (.getfield 55, 3) := by decide +kernel
theorem dX0_abort_13 : decode cX0_abort 13 = .ok (.ifCond .ne 6, 3) := by decide +kernel
theorem dX0_abort_16 : decode cX0_abort 16 = .ok (.bipush (-2), 2) := by decide +kernel
theorem dX0_abort_18 : decode cX0_abort 18 = .ok (.ireturn, 1) := by decide +kernel
theorem dX0_abort_19 : decode cX0_abort 19 = .ok (.aload_n 0, 1) := by decide +kernel
theorem dX0_abort_20 : decode cX0_abort 20 = .ok (.invokevirtual 51, 3) := by decide +kernel
theorem dX0_abort_23 : decode cX0_abort 23 = .ok (.istore_n 1, 1) := by decide +kernel
theorem dX0_abort_24 : decode cX0_abort 24 = .ok (.aload_n 0, 1) := by decide +kernel
theorem dX0_abort_25 : decode cX0_abort 25 = .ok (.iconst 0, 1) := by decide +kernel
theorem dX0_abort_26 : decode cX0_abort 26 = .ok (.putfield 55, 3) := by decide +kernel
theorem dX0_abort_29 : decode cX0_abort 29 = .ok (.aload_n 0, 1) := by decide +kernel
theorem dX0_abort_30 : decode cX0_abort 30 = .ok (.invokevirtual 66, 3) := by decide +kernel
theorem dX0_abort_33 : decode cX0_abort 33 = .ok (.iload_n 1, 1) := by decide +kernel
theorem dX0_abort_34 : decode cX0_abort 34 = .ok (.ireturn, 1) := by decide +kernel
abbrev cX0_crash : ByteArray := prog_1_method_10_code
def yX0_crash : MethodName := ⟨RX0, "crash", "()I"⟩
theorem dX0_crash_0 : decode cX0_crash 0 = .ok (.aload_n 0, 1) := by decide +kernel
theorem dX0_crash_1 : decode cX0_crash 1 = .ok (.getfield 35, 3) := by decide +kernel
theorem dX0_crash_4 : decode cX0_crash 4 = .ok (.ifCond .ne 5, 3) := by decide +kernel
theorem dX0_crash_7 : decode cX0_crash 7 = .ok (.iconst (-1), 1) := by decide +kernel
theorem dX0_crash_8 : decode cX0_crash 8 = .ok (.ireturn, 1) := by decide +kernel
theorem dX0_crash_9 : decode cX0_crash 9 = .ok (.aload_n 0, 1) := by decide +kernel
theorem dX0_crash_10 : decode cX0_crash 10 = .ok (.invokevirtual 51, 3) := by decide +kernel
theorem dX0_crash_13 : decode cX0_crash 13 = .ok (.istore_n 1, 1) := by decide +kernel
theorem dX0_crash_14 : decode cX0_crash 14 = .ok (.aload_n 0, 1) := by decide +kernel
theorem dX0_crash_15 : decode cX0_crash 15 = .ok (.invokevirtual 69, 3) := by decide +kernel
theorem dX0_crash_18 : decode cX0_crash 18 = .ok (.iload_n 1, 1) := by decide +kernel
theorem dX0_crash_19 : decode cX0_crash 19 = .ok (.ireturn, 1) := by decide +kernel
abbrev cX0_fall : ByteArray := prog_1_method_24_code
def yX0_fall : MethodName := ⟨RX0, "fall", "()V"⟩
theorem dX0_fall_0 : decode cX0_fall 0 = .ok (.aload_n 0, 1) := by decide +kernel
theorem dX0_fall_1 : decode cX0_fall 1 = .ok (.invokevirtual 66, 3) := by decide +kernel
theorem dX0_fall_4 : decode cX0_fall 4 = .ok (.iconst 0, 1) := by decide +kernel
theorem dX0_fall_5 : decode cX0_fall 5 = .ok (.istore_n 1, 1) := by decide +kernel
theorem dX0_fall_6 : decode cX0_fall 6 = .ok (.iload_n 1, 1) := by decide +kernel
theorem dX0_fall_7 : decode cX0_fall 7 = .ok (.bipush 16, 2) := by decide +kernel
theorem dX0_fall_9 : decode cX0_fall 9 = .ok (.if_icmp .ge 16, 3) := by decide +kernel
theorem dX0_fall_12 : decode cX0_fall 12 = .ok (.aload_n 0, 1) := by decide +kernel
theorem dX0_fall_13 : decode cX0_fall 13 = .ok (.getfield 25, 3) := by decide +kernel
theorem dX0_fall_16 : decode cX0_fall 16 = .ok (.iload_n 1, 1) := by decide +kernel
theorem dX0_fall_17 : decode cX0_fall 17 = .ok (.iconst (-1), 1) := by decide +kernel
theorem dX0_fall_18 : decode cX0_fall 18 = .ok (.iastore, 1) := by decide +kernel
theorem dX0_fall_19 : decode cX0_fall 19 = .ok (.iinc 1 1, 3) := by decide +kernel
theorem dX0_fall_22 : decode cX0_fall 22 = .ok (.goto (-16), 3) := by decide +kernel
theorem dX0_fall_25 : decode cX0_fall 25 = .ok (.aload_n 0, 1) := by decide +kernel
theorem dX0_fall_26 : decode cX0_fall 26 = .ok (.iconst (-1), 1) := by decide +kernel
theorem dX0_fall_27 : decode cX0_fall 27 = .ok (.putfield 39, 3) := by decide +kernel
theorem dX0_fall_30 : decode cX0_fall 30 = .ok (.aload_n 0, 1) := by decide +kernel
theorem dX0_fall_31 : decode cX0_fall 31 = .ok (.iconst 0, 1) := by decide +kernel
theorem dX0_fall_32 : decode cX0_fall 32 = .ok (.putfield 55, 3) := by decide +kernel
theorem dX0_fall_35 : decode cX0_fall 35 = .ok (.aload_n 0, 1) := by decide +kernel
theorem dX0_fall_36 : decode cX0_fall 36 = .ok (.iconst 0, 1) := by decide +kernel
theorem dX0_fall_37 : decode cX0_fall 37 = .ok (.putfield 35, 3) := by decide +kernel
theorem dX0_fall_40 : decode cX0_fall 40 = .ok (.return_, 1) := by decide +kernel
abbrev cX0_crashIn : ByteArray := prog_1_method_11_code
def yX0_crashIn : MethodName := ⟨RX0, "crashIn", "(I)I"⟩
theorem dX0_crashIn_0 : decode cX0_crashIn 0 = .ok (.aload_n 0, 1) := by decide +kernel
theorem dX0_crashIn_1 : decode cX0_crashIn 1 = .ok (.getfield 35, 3) := by decide +kernel
theorem dX0_crashIn_4 : decode cX0_crashIn 4 = .ok (.ifCond .ne 5, 3) := by decide +kernel
theorem dX0_crashIn_7 : decode cX0_crashIn 7 = .ok (.iconst (-1), 1) := by decide +kernel
theorem dX0_crashIn_8 : decode cX0_crashIn 8 = .ok (.ireturn, 1) := by decide +kernel
theorem dX0_crashIn_9 : decode cX0_crashIn 9 = .ok (.iload_n 1, 1) := by decide +kernel
theorem dX0_crashIn_10 : decode cX0_crashIn 10 = .ok (.ifCond .lt 8, 3) := by decide +kernel
theorem dX0_crashIn_13 : decode cX0_crashIn 13 = .ok (.iload_n 1, 1) := by decide +kernel
theorem dX0_crashIn_14 : decode cX0_crashIn 14 = .ok (.iconst 3, 1) := by decide +kernel
theorem dX0_crashIn_15 : decode cX0_crashIn 15 = .ok (.if_icmp .le 6, 3) := by decide +kernel
theorem dX0_crashIn_18 : decode cX0_crashIn 18 = .ok (.bipush (-2), 2) := by decide +kernel
theorem dX0_crashIn_20 : decode cX0_crashIn 20 = .ok (.ireturn, 1) := by decide +kernel
theorem dX0_crashIn_21 : decode cX0_crashIn 21 = .ok (.aload_n 0, 1) := by decide +kernel
theorem dX0_crashIn_22 : decode cX0_crashIn 22 = .ok (.iload_n 1, 1) := by decide +kernel
theorem dX0_crashIn_23 : decode cX0_crashIn 23 = .ok (.invokevirtual 58, 3) := by decide +kernel
theorem dX0_crashIn_26 : decode cX0_crashIn 26 = .ok (.aload_n 0, 1) := by decide +kernel
theorem dX0_crashIn_27 : decode cX0_crashIn 27 = .ok (.invokevirtual 69, 3) := by decide +kernel
theorem dX0_crashIn_30 : decode cX0_crashIn 30 = .ok (.iconst 0, 1) := by decide +kernel
theorem dX0_crashIn_31 : decode cX0_crashIn 31 = .ok (.ireturn, 1) := by decide +kernel
abbrev cX0_mount : ByteArray := prog_1_method_12_code
def yX0_mount : MethodName := ⟨RX0, "mount", "()I"⟩
theorem dX0_mount_0 : decode cX0_mount 0 = .ok (.aload_n 0, 1) := by decide +kernel
theorem dX0_mount_1 : decode cX0_mount 1 = .ok (.getfield 35, 3) := by decide +kernel
theorem dX0_mount_4 : decode cX0_mount 4 = .ok (.ifCond .eq 5, 3) := by decide +kernel
theorem dX0_mount_7 : decode cX0_mount 7 = .ok (.iconst (-1), 1) := by decide +kernel
theorem dX0_mount_8 : decode cX0_mount 8 = .ok (.ireturn, 1) := by decide +kernel
theorem dX0_mount_9 : decode cX0_mount 9 = .ok (.aload_n 0, 1) := by decide +kernel
theorem dX0_mount_10 : decode cX0_mount 10 = .ok (.invokevirtual 72, 3) := by decide +kernel
theorem dX0_mount_13 : decode cX0_mount 13 = .ok (.aload_n 0, 1) := by decide +kernel
theorem dX0_mount_14 : decode cX0_mount 14 = .ok (.iconst 1, 1) := by decide +kernel
theorem dX0_mount_15 : decode cX0_mount 15 = .ok (.putfield 35, 3) := by decide +kernel
theorem dX0_mount_18 : decode cX0_mount 18 = .ok (.iconst 0, 1) := by decide +kernel
theorem dX0_mount_19 : decode cX0_mount 19 = .ok (.ireturn, 1) := by decide +kernel
abbrev cX0_recover : ByteArray := prog_1_method_35_code
def yX0_recover : MethodName := ⟨RX0, "recover", "()V"⟩
theorem dX0_recover_0 : decode cX0_recover 0 = .ok (.iconst 0, 1) := by decide +kernel
theorem dX0_recover_1 : decode cX0_recover 1 = .ok (.istore_n 1, 1) := by decide +kernel
theorem dX0_recover_2 : decode cX0_recover 2 = .ok (.iload_n 1, 1) := by decide +kernel
theorem dX0_recover_3 : decode cX0_recover 3 = .ok (.bipush 72, 2) := by decide +kernel
theorem dX0_recover_5 : decode cX0_recover 5 = .ok (.if_icmp .ge 93, 3) := by decide +kernel
theorem dX0_recover_8 : decode cX0_recover 8 = .ok (.iload_n 1, 1) := by decide +kernel
theorem dX0_recover_9 : decode cX0_recover 9 = .ok (.bipush 12, 2) := by decide +kernel
theorem dX0_recover_11 : decode cX0_recover 11 = .ok (.irem, 1) := by decide +kernel
theorem dX0_recover_12 : decode cX0_recover 12 = .ok (.aload_n 0, 1) := by decide +kernel
theorem dX0_recover_13 : decode cX0_recover 13 = .ok (.getfield 19, 3) := by decide +kernel
theorem dX0_recover_16 : decode cX0_recover 16 = .ok (.iload_n 1, 1) := by decide +kernel
theorem dX0_recover_17 : decode cX0_recover 17 = .ok (.bipush 12, 2) := by decide +kernel
theorem dX0_recover_19 : decode cX0_recover 19 = .ok (.idiv, 1) := by decide +kernel
theorem dX0_recover_20 : decode cX0_recover 20 = .ok (.iaload, 1) := by decide +kernel
theorem dX0_recover_21 : decode cX0_recover 21 = .ok (.if_icmp .ge 71, 3) := by decide +kernel
theorem dX0_recover_24 : decode cX0_recover 24 = .ok (.aload_n 0, 1) := by decide +kernel
theorem dX0_recover_25 : decode cX0_recover 25 = .ok (.getfield 7, 3) := by decide +kernel
theorem dX0_recover_28 : decode cX0_recover 28 = .ok (.iload_n 1, 1) := by decide +kernel
theorem dX0_recover_29 : decode cX0_recover 29 = .ok (.iaload, 1) := by decide +kernel
theorem dX0_recover_30 : decode cX0_recover 30 = .ok (.bipush 16, 2) := by decide +kernel
theorem dX0_recover_32 : decode cX0_recover 32 = .ok (.if_icmp .eq 60, 3) := by decide +kernel
theorem dX0_recover_35 : decode cX0_recover 35 = .ok (.aload_n 0, 1) := by decide +kernel
theorem dX0_recover_36 : decode cX0_recover 36 = .ok (.aload_n 0, 1) := by decide +kernel
theorem dX0_recover_37 : decode cX0_recover 37 = .ok (.getfield 16, 3) := by decide +kernel
theorem dX0_recover_40 : decode cX0_recover 40 = .ok (.iload_n 1, 1) := by decide +kernel
theorem dX0_recover_41 : decode cX0_recover 41 = .ok (.iaload, 1) := by decide +kernel
theorem dX0_recover_42 : decode cX0_recover 42 = .ok (.invokevirtual 84, 3) := by decide +kernel
theorem dX0_recover_45 : decode cX0_recover 45 = .ok (.ifCond .eq 47, 3) := by decide +kernel
theorem dX0_recover_48 : decode cX0_recover 48 = .ok (.aload_n 0, 1) := by decide +kernel
theorem dX0_recover_49 : decode cX0_recover 49 = .ok (.getfield 7, 3) := by decide +kernel
theorem dX0_recover_52 : decode cX0_recover 52 = .ok (.iload_n 1, 1) := by decide +kernel
theorem dX0_recover_53 : decode cX0_recover 53 = .ok (.iaload, 1) := by decide +kernel
theorem dX0_recover_54 : decode cX0_recover 54 = .ok (.istore_n 2, 1) := by decide +kernel
theorem dX0_recover_55 : decode cX0_recover 55 = .ok (.aload_n 0, 1) := by decide +kernel
theorem dX0_recover_56 : decode cX0_recover 56 = .ok (.getfield 25, 3) := by decide +kernel
theorem dX0_recover_59 : decode cX0_recover 59 = .ok (.iload_n 2, 1) := by decide +kernel
theorem dX0_recover_60 : decode cX0_recover 60 = .ok (.iaload, 1) := by decide +kernel
theorem dX0_recover_61 : decode cX0_recover 61 = .ok (.iconst (-1), 1) := by decide +kernel
theorem dX0_recover_62 : decode cX0_recover 62 = .ok (.if_icmp .eq 23, 3) := by decide +kernel
theorem dX0_recover_65 : decode cX0_recover 65 = .ok (.aload_n 0, 1) := by decide +kernel
theorem dX0_recover_66 : decode cX0_recover 66 = .ok (.getfield 16, 3) := by decide +kernel
theorem dX0_recover_69 : decode cX0_recover 69 = .ok (.aload_n 0, 1) := by decide +kernel
theorem dX0_recover_70 : decode cX0_recover 70 = .ok (.getfield 25, 3) := by decide +kernel
theorem dX0_recover_73 : decode cX0_recover 73 = .ok (.iload_n 2, 1) := by decide +kernel
theorem dX0_recover_74 : decode cX0_recover 74 = .ok (.iaload, 1) := by decide +kernel
theorem dX0_recover_75 : decode cX0_recover 75 = .ok (.iaload, 1) := by decide +kernel
theorem dX0_recover_76 : decode cX0_recover 76 = .ok (.aload_n 0, 1) := by decide +kernel
theorem dX0_recover_77 : decode cX0_recover 77 = .ok (.getfield 16, 3) := by decide +kernel
theorem dX0_recover_80 : decode cX0_recover 80 = .ok (.iload_n 1, 1) := by decide +kernel
theorem dX0_recover_81 : decode cX0_recover 81 = .ok (.iaload, 1) := by decide +kernel
theorem dX0_recover_82 : decode cX0_recover 82 = .ok (.if_icmp .ge 10, 3) := by decide +kernel
theorem dX0_recover_85 : decode cX0_recover 85 = .ok (.aload_n 0, 1) := by decide +kernel
theorem dX0_recover_86 : decode cX0_recover 86 = .ok (.getfield 25, 3) := by decide +kernel
theorem dX0_recover_89 : decode cX0_recover 89 = .ok (.iload_n 2, 1) := by decide +kernel
theorem dX0_recover_90 : decode cX0_recover 90 = .ok (.iload_n 1, 1) := by decide +kernel
theorem dX0_recover_91 : decode cX0_recover 91 = .ok (.iastore, 1) := by decide +kernel
theorem dX0_recover_92 : decode cX0_recover 92 = .ok (.iinc 1 1, 3) := by decide +kernel
theorem dX0_recover_95 : decode cX0_recover 95 = .ok (.goto (-93), 3) := by decide +kernel
theorem dX0_recover_98 : decode cX0_recover 98 = .ok (.aload_n 0, 1) := by decide +kernel
theorem dX0_recover_99 : decode cX0_recover 99 = .ok (.iconst (-1), 1) := by decide +kernel
theorem dX0_recover_100 : decode cX0_recover 100 = .ok (.putfield 39, 3) := by decide +kernel
theorem dX0_recover_103 : decode cX0_recover 103 = .ok (.iconst 0, 1) := by decide +kernel
theorem dX0_recover_104 : decode cX0_recover 104 = .ok (.istore_n 1, 1) := by decide +kernel
theorem dX0_recover_105 : decode cX0_recover 105 = .ok (.iload_n 1, 1) := by decide +kernel
theorem dX0_recover_106 : decode cX0_recover 106 = .ok (.bipush 6, 2) := by decide +kernel
theorem dX0_recover_108 : decode cX0_recover 108 = .ok (.if_icmp .ge 50, 3) := by decide +kernel
theorem dX0_recover_111 : decode cX0_recover 111 = .ok (.aload_n 0, 1) := by decide +kernel
theorem dX0_recover_112 : decode cX0_recover 112 = .ok (.getfield 22, 3) := by decide +kernel
theorem dX0_recover_115 : decode cX0_recover 115 = .ok (.iload_n 1, 1) := by decide +kernel
theorem dX0_recover_116 : decode cX0_recover 116 = .ok (.iaload, 1) := by decide +kernel
theorem dX0_recover_117 : decode cX0_recover 117 = .ok (.iconst (-1), 1) := by decide +kernel
theorem dX0_recover_118 : decode cX0_recover 118 = .ok (.if_icmp .eq 34, 3) := by decide +kernel
theorem dX0_recover_121 : decode cX0_recover 121 = .ok (.aload_n 0, 1) := by decide +kernel
theorem dX0_recover_122 : decode cX0_recover 122 = .ok (.getfield 39, 3) := by decide +kernel
theorem dX0_recover_125 : decode cX0_recover 125 = .ok (.iconst (-1), 1) := by decide +kernel
theorem dX0_recover_126 : decode cX0_recover 126 = .ok (.if_icmp .eq 21, 3) := by decide +kernel
theorem dX0_recover_129 : decode cX0_recover 129 = .ok (.aload_n 0, 1) := by decide +kernel
theorem dX0_recover_130 : decode cX0_recover 130 = .ok (.getfield 22, 3) := by decide +kernel
theorem dX0_recover_133 : decode cX0_recover 133 = .ok (.iload_n 1, 1) := by decide +kernel
theorem dX0_recover_134 : decode cX0_recover 134 = .ok (.iaload, 1) := by decide +kernel
theorem dX0_recover_135 : decode cX0_recover 135 = .ok (.aload_n 0, 1) := by decide +kernel
theorem dX0_recover_136 : decode cX0_recover 136 = .ok (.getfield 22, 3) := by decide +kernel
theorem dX0_recover_139 : decode cX0_recover 139 = .ok (.aload_n 0, 1) := by decide +kernel
theorem dX0_recover_140 : decode cX0_recover 140 = .ok (.getfield 39, 3) := by decide +kernel
theorem dX0_recover_143 : decode cX0_recover 143 = .ok (.iaload, 1) := by decide +kernel
theorem dX0_recover_144 : decode cX0_recover 144 = .ok (.if_icmp .le 8, 3) := by decide +kernel
theorem dX0_recover_147 : decode cX0_recover 147 = .ok (.aload_n 0, 1) := by decide +kernel
theorem dX0_recover_148 : decode cX0_recover 148 = .ok (.iload_n 1, 1) := by decide +kernel
theorem dX0_recover_149 : decode cX0_recover 149 = .ok (.putfield 39, 3) := by decide +kernel
theorem dX0_recover_152 : decode cX0_recover 152 = .ok (.iinc 1 1, 3) := by decide +kernel
theorem dX0_recover_155 : decode cX0_recover 155 = .ok (.goto (-50), 3) := by decide +kernel
theorem dX0_recover_158 : decode cX0_recover 158 = .ok (.return_, 1) := by decide +kernel
abbrev cX0_counts : ByteArray := prog_1_method_34_code
def yX0_counts : MethodName := ⟨RX0, "counts", "(I)Z"⟩
theorem dX0_counts_0 : decode cX0_counts 0 = .ok (.iconst 0, 1) := by decide +kernel
theorem dX0_counts_1 : decode cX0_counts 1 = .ok (.istore_n 2, 1) := by decide +kernel
theorem dX0_counts_2 : decode cX0_counts 2 = .ok (.iload_n 2, 1) := by decide +kernel
theorem dX0_counts_3 : decode cX0_counts 3 = .ok (.bipush 72, 2) := by decide +kernel
theorem dX0_counts_5 : decode cX0_counts 5 = .ok (.if_icmp .ge 48, 3) := by decide +kernel
theorem dX0_counts_8 : decode cX0_counts 8 = .ok (.iload_n 2, 1) := by decide +kernel
theorem dX0_counts_9 : decode cX0_counts 9 = .ok (.bipush 12, 2) := by decide +kernel
theorem dX0_counts_11 : decode cX0_counts 11 = .ok (.irem, 1) := by decide +kernel
theorem dX0_counts_12 : decode cX0_counts 12 = .ok (.aload_n 0, 1) := by decide +kernel
theorem dX0_counts_13 : decode cX0_counts 13 = .ok (.getfield 19, 3) := by decide +kernel
theorem dX0_counts_16 : decode cX0_counts 16 = .ok (.iload_n 2, 1) := by decide +kernel
theorem dX0_counts_17 : decode cX0_counts 17 = .ok (.bipush 12, 2) := by decide +kernel
theorem dX0_counts_19 : decode cX0_counts 19 = .ok (.idiv, 1) := by decide +kernel
theorem dX0_counts_20 : decode cX0_counts 20 = .ok (.iaload, 1) := by decide +kernel
theorem dX0_counts_21 : decode cX0_counts 21 = .ok (.if_icmp .ge 26, 3) := by decide +kernel
theorem dX0_counts_24 : decode cX0_counts 24 = .ok (.aload_n 0, 1) := by decide +kernel
theorem dX0_counts_25 : decode cX0_counts 25 = .ok (.getfield 7, 3) := by decide +kernel
theorem dX0_counts_28 : decode cX0_counts 28 = .ok (.iload_n 2, 1) := by decide +kernel
theorem dX0_counts_29 : decode cX0_counts 29 = .ok (.iaload, 1) := by decide +kernel
theorem dX0_counts_30 : decode cX0_counts 30 = .ok (.bipush 16, 2) := by decide +kernel
theorem dX0_counts_32 : decode cX0_counts 32 = .ok (.if_icmp .ne 15, 3) := by decide +kernel
theorem dX0_counts_35 : decode cX0_counts 35 = .ok (.aload_n 0, 1) := by decide +kernel
theorem dX0_counts_36 : decode cX0_counts 36 = .ok (.getfield 16, 3) := by decide +kernel
theorem dX0_counts_39 : decode cX0_counts 39 = .ok (.iload_n 2, 1) := by decide +kernel
theorem dX0_counts_40 : decode cX0_counts 40 = .ok (.iaload, 1) := by decide +kernel
theorem dX0_counts_41 : decode cX0_counts 41 = .ok (.iload_n 1, 1) := by decide +kernel
theorem dX0_counts_42 : decode cX0_counts 42 = .ok (.if_icmp .ne 5, 3) := by decide +kernel
theorem dX0_counts_45 : decode cX0_counts 45 = .ok (.iconst 1, 1) := by decide +kernel
theorem dX0_counts_46 : decode cX0_counts 46 = .ok (.ireturn, 1) := by decide +kernel
theorem dX0_counts_47 : decode cX0_counts 47 = .ok (.iinc 2 1, 3) := by decide +kernel
theorem dX0_counts_50 : decode cX0_counts 50 = .ok (.goto (-48), 3) := by decide +kernel
theorem dX0_counts_53 : decode cX0_counts 53 = .ok (.iconst 0, 1) := by decide +kernel
theorem dX0_counts_54 : decode cX0_counts 54 = .ok (.ireturn, 1) := by decide +kernel
abbrev cX0_unsynced : ByteArray := prog_1_method_13_code
def yX0_unsynced : MethodName := ⟨RX0, "unsynced", "()I"⟩
theorem dX0_unsynced_0 : decode cX0_unsynced 0 = .ok (.aload_n 0, 1) := by decide +kernel
theorem dX0_unsynced_1 : decode cX0_unsynced 1 = .ok (.invokevirtual 51, 3) := by decide +kernel
theorem dX0_unsynced_4 : decode cX0_unsynced 4 = .ok (.ireturn, 1) := by decide +kernel
abbrev cX0_grouped : ByteArray := prog_1_method_14_code
def yX0_grouped : MethodName := ⟨RX0, "grouped", "()I"⟩
theorem dX0_grouped_0 : decode cX0_grouped 0 = .ok (.aload_n 0, 1) := by decide +kernel
theorem dX0_grouped_1 : decode cX0_grouped 1 = .ok (.getfield 55, 3) := by decide +kernel
theorem dX0_grouped_4 : decode cX0_grouped 4 = .ok (.ifCond .eq 7, 3) := by decide +kernel
theorem dX0_grouped_7 : decode cX0_grouped 7 = .ok (.iconst 1, 1) := by decide +kernel
theorem dX0_grouped_8 : decode cX0_grouped 8 = .ok (.goto 4, 3) := by decide +kernel
theorem dX0_grouped_11 : decode cX0_grouped 11 = .ok (.iconst 0, 1) := by decide +kernel
theorem dX0_grouped_12 : decode cX0_grouped 12 = .ok (.ireturn, 1) := by decide +kernel
abbrev cX0_pending : ByteArray := prog_1_method_15_code
def yX0_pending : MethodName := ⟨RX0, "pending", "()I"⟩
theorem dX0_pending_0 : decode cX0_pending 0 = .ok (.aload_n 0, 1) := by decide +kernel
theorem dX0_pending_1 : decode cX0_pending 1 = .ok (.getfield 35, 3) := by decide +kernel
theorem dX0_pending_4 : decode cX0_pending 4 = .ok (.ifCond .ne 5, 3) := by decide +kernel
theorem dX0_pending_7 : decode cX0_pending 7 = .ok (.iconst (-1), 1) := by decide +kernel
theorem dX0_pending_8 : decode cX0_pending 8 = .ok (.ireturn, 1) := by decide +kernel
theorem dX0_pending_9 : decode cX0_pending 9 = .ok (.iconst 0, 1) := by decide +kernel
theorem dX0_pending_10 : decode cX0_pending 10 = .ok (.istore_n 1, 1) := by decide +kernel
theorem dX0_pending_11 : decode cX0_pending 11 = .ok (.iconst 0, 1) := by decide +kernel
theorem dX0_pending_12 : decode cX0_pending 12 = .ok (.istore_n 2, 1) := by decide +kernel
theorem dX0_pending_13 : decode cX0_pending 13 = .ok (.iload_n 2, 1) := by decide +kernel
theorem dX0_pending_14 : decode cX0_pending 14 = .ok (.bipush 16, 2) := by decide +kernel
theorem dX0_pending_16 : decode cX0_pending 16 = .ok (.if_icmp .ge 40, 3) := by decide +kernel
theorem dX0_pending_19 : decode cX0_pending 19 = .ok (.iload_n 1, 1) := by decide +kernel
theorem dX0_pending_20 : decode cX0_pending 20 = .ok (.aload_n 0, 1) := by decide +kernel
theorem dX0_pending_21 : decode cX0_pending 21 = .ok (.getfield 31, 3) := by decide +kernel
theorem dX0_pending_24 : decode cX0_pending 24 = .ok (.iload_n 2, 1) := by decide +kernel
theorem dX0_pending_25 : decode cX0_pending 25 = .ok (.baload, 1) := by decide +kernel
theorem dX0_pending_26 : decode cX0_pending 26 = .ok (.ifCond .eq 21, 3) := by decide +kernel
theorem dX0_pending_29 : decode cX0_pending 29 = .ok (.aload_n 0, 1) := by decide +kernel
theorem dX0_pending_30 : decode cX0_pending 30 = .ok (.getfield 28, 3) := by decide +kernel
theorem dX0_pending_33 : decode cX0_pending 33 = .ok (.iload_n 2, 1) := by decide +kernel
theorem dX0_pending_34 : decode cX0_pending 34 = .ok (.iaload, 1) := by decide +kernel
theorem dX0_pending_35 : decode cX0_pending 35 = .ok (.aload_n 0, 1) := by decide +kernel
theorem dX0_pending_36 : decode cX0_pending 36 = .ok (.iload_n 2, 1) := by decide +kernel
theorem dX0_pending_37 : decode cX0_pending 37 = .ok (.invokevirtual 75, 3) := by decide +kernel
theorem dX0_pending_40 : decode cX0_pending 40 = .ok (.if_icmp .eq 7, 3) := by decide +kernel
theorem dX0_pending_43 : decode cX0_pending 43 = .ok (.iconst 1, 1) := by decide +kernel
theorem dX0_pending_44 : decode cX0_pending 44 = .ok (.goto 4, 3) := by decide +kernel
theorem dX0_pending_47 : decode cX0_pending 47 = .ok (.iconst 0, 1) := by decide +kernel
theorem dX0_pending_48 : decode cX0_pending 48 = .ok (.iadd, 1) := by decide +kernel
theorem dX0_pending_49 : decode cX0_pending 49 = .ok (.istore_n 1, 1) := by decide +kernel
theorem dX0_pending_50 : decode cX0_pending 50 = .ok (.iinc 2 1, 3) := by decide +kernel
theorem dX0_pending_53 : decode cX0_pending 53 = .ok (.goto (-40), 3) := by decide +kernel
theorem dX0_pending_56 : decode cX0_pending 56 = .ok (.iload_n 1, 1) := by decide +kernel
theorem dX0_pending_57 : decode cX0_pending 57 = .ok (.ireturn, 1) := by decide +kernel
abbrev cX0_sum : ByteArray := prog_1_method_16_code
def yX0_sum : MethodName := ⟨RX0, "sum", "()I"⟩
theorem dX0_sum_0 : decode cX0_sum 0 = .ok (.aload_n 0, 1) := by decide +kernel
theorem dX0_sum_1 : decode cX0_sum 1 = .ok (.getfield 35, 3) := by decide +kernel
theorem dX0_sum_4 : decode cX0_sum 4 = .ok (.ifCond .ne 5, 3) := by decide +kernel
theorem dX0_sum_7 : decode cX0_sum 7 = .ok (.iconst 0, 1) := by decide +kernel
theorem dX0_sum_8 : decode cX0_sum 8 = .ok (.ireturn, 1) := by decide +kernel
theorem dX0_sum_9 : decode cX0_sum 9 = .ok (.iconst 0, 1) := by decide +kernel
theorem dX0_sum_10 : decode cX0_sum 10 = .ok (.istore_n 1, 1) := by decide +kernel
theorem dX0_sum_11 : decode cX0_sum 11 = .ok (.iconst 0, 1) := by decide +kernel
theorem dX0_sum_12 : decode cX0_sum 12 = .ok (.istore_n 2, 1) := by decide +kernel
theorem dX0_sum_13 : decode cX0_sum 13 = .ok (.iload_n 2, 1) := by decide +kernel
theorem dX0_sum_14 : decode cX0_sum 14 = .ok (.bipush 16, 2) := by decide +kernel
theorem dX0_sum_16 : decode cX0_sum 16 = .ok (.if_icmp .ge 17, 3) := by decide +kernel
theorem dX0_sum_19 : decode cX0_sum 19 = .ok (.iload_n 1, 1) := by decide +kernel
theorem dX0_sum_20 : decode cX0_sum 20 = .ok (.aload_n 0, 1) := by decide +kernel
theorem dX0_sum_21 : decode cX0_sum 21 = .ok (.iload_n 2, 1) := by decide +kernel
theorem dX0_sum_22 : decode cX0_sum 22 = .ok (.invokevirtual 47, 3) := by decide +kernel
theorem dX0_sum_25 : decode cX0_sum 25 = .ok (.iadd, 1) := by decide +kernel
theorem dX0_sum_26 : decode cX0_sum 26 = .ok (.istore_n 1, 1) := by decide +kernel
theorem dX0_sum_27 : decode cX0_sum 27 = .ok (.iinc 2 1, 3) := by decide +kernel
theorem dX0_sum_30 : decode cX0_sum 30 = .ok (.goto (-17), 3) := by decide +kernel
theorem dX0_sum_33 : decode cX0_sum 33 = .ok (.iload_n 1, 1) := by decide +kernel
theorem dX0_sum_34 : decode cX0_sum 34 = .ok (.ireturn, 1) := by decide +kernel
abbrev cX0_clean : ByteArray := prog_1_method_17_code
def yX0_clean : MethodName := ⟨RX0, "clean", "()I"⟩
theorem dX0_clean_0 : decode cX0_clean 0 = .ok (.aload_n 0, 1) := by decide +kernel
theorem dX0_clean_1 : decode cX0_clean 1 = .ok (.getfield 35, 3) := by decide +kernel
theorem dX0_clean_4 : decode cX0_clean 4 = .ok (.ifCond .ne 5, 3) := by decide +kernel
theorem dX0_clean_7 : decode cX0_clean 7 = .ok (.iconst (-1), 1) := by decide +kernel
theorem dX0_clean_8 : decode cX0_clean 8 = .ok (.ireturn, 1) := by decide +kernel
theorem dX0_clean_9 : decode cX0_clean 9 = .ok (.iconst 0, 1) := by decide +kernel
theorem dX0_clean_10 : decode cX0_clean 10 = .ok (.istore_n 1, 1) := by decide +kernel
theorem dX0_clean_11 : decode cX0_clean 11 = .ok (.iload_n 1, 1) := by decide +kernel
theorem dX0_clean_12 : decode cX0_clean 12 = .ok (.bipush 6, 2) := by decide +kernel
theorem dX0_clean_14 : decode cX0_clean 14 = .ok (.if_icmp .ge 40, 3) := by decide +kernel
theorem dX0_clean_17 : decode cX0_clean 17 = .ok (.iload_n 1, 1) := by decide +kernel
theorem dX0_clean_18 : decode cX0_clean 18 = .ok (.aload_n 0, 1) := by decide +kernel
theorem dX0_clean_19 : decode cX0_clean 19 = .ok (.getfield 39, 3) := by decide +kernel
theorem dX0_clean_22 : decode cX0_clean 22 = .ok (.if_icmp .eq 26, 3) := by decide +kernel
theorem dX0_clean_25 : decode cX0_clean 25 = .ok (.aload_n 0, 1) := by decide +kernel
theorem dX0_clean_26 : decode cX0_clean 26 = .ok (.getfield 22, 3) := by decide +kernel
theorem dX0_clean_29 : decode cX0_clean 29 = .ok (.iload_n 1, 1) := by decide +kernel
theorem dX0_clean_30 : decode cX0_clean 30 = .ok (.iaload, 1) := by decide +kernel
theorem dX0_clean_31 : decode cX0_clean 31 = .ok (.iconst (-1), 1) := by decide +kernel
theorem dX0_clean_32 : decode cX0_clean 32 = .ok (.if_icmp .eq 16, 3) := by decide +kernel
theorem dX0_clean_35 : decode cX0_clean 35 = .ok (.aload_n 0, 1) := by decide +kernel
theorem dX0_clean_36 : decode cX0_clean 36 = .ok (.iload_n 1, 1) := by decide +kernel
theorem dX0_clean_37 : decode cX0_clean 37 = .ok (.invokevirtual 78, 3) := by decide +kernel
theorem dX0_clean_40 : decode cX0_clean 40 = .ok (.ifCond .ne 8, 3) := by decide +kernel
theorem dX0_clean_43 : decode cX0_clean 43 = .ok (.aload_n 0, 1) := by decide +kernel
theorem dX0_clean_44 : decode cX0_clean 44 = .ok (.iload_n 1, 1) := by decide +kernel
theorem dX0_clean_45 : decode cX0_clean 45 = .ok (.invokevirtual 81, 3) := by decide +kernel
theorem dX0_clean_48 : decode cX0_clean 48 = .ok (.iinc 1 1, 3) := by decide +kernel
theorem dX0_clean_51 : decode cX0_clean 51 = .ok (.goto (-40), 3) := by decide +kernel
theorem dX0_clean_54 : decode cX0_clean 54 = .ok (.iconst 0, 1) := by decide +kernel
theorem dX0_clean_55 : decode cX0_clean 55 = .ok (.ireturn, 1) := by decide +kernel
end
section
set_option maxRecDepth 100000
abbrev cX0_check : ByteArray := prog_1_method_18_code
def yX0_check : MethodName := ⟨RX0, "check", "()I"⟩
theorem dX0_check_0 : decode cX0_check 0 = .ok (.aload_n 0, 1) := by decide +kernel
theorem dX0_check_1 : decode cX0_check 1 = .ok (.getfield 35, 3) := by decide +kernel
theorem dX0_check_4 : decode cX0_check 4 = .ok (.ifCond .ne 5, 3) := by decide +kernel
theorem dX0_check_7 : decode cX0_check 7 = .ok (.iconst (-1), 1) := by decide +kernel
theorem dX0_check_8 : decode cX0_check 8 = .ok (.ireturn, 1) := by decide +kernel
theorem dX0_check_9 : decode cX0_check 9 = .ok (.iconst 0, 1) := by decide +kernel
theorem dX0_check_10 : decode cX0_check 10 = .ok (.istore_n 1, 1) := by decide +kernel
theorem dX0_check_11 : decode cX0_check 11 = .ok (.iconst 0, 1) := by decide +kernel
theorem dX0_check_12 : decode cX0_check 12 = .ok (.istore_n 2, 1) := by decide +kernel
theorem dX0_check_13 : decode cX0_check 13 = .ok (.iload_n 2, 1) := by decide +kernel
theorem dX0_check_14 : decode cX0_check 14 = .ok (.bipush 16, 2) := by decide +kernel
theorem dX0_check_16 : decode cX0_check 16 = .ok (.if_icmp .ge 63, 3) := by decide +kernel
theorem dX0_check_19 : decode cX0_check 19 = .ok (.aload_n 0, 1) := by decide +kernel
theorem dX0_check_20 : decode cX0_check 20 = .ok (.getfield 25, 3) := by decide +kernel
theorem dX0_check_23 : decode cX0_check 23 = .ok (.iload_n 2, 1) := by decide +kernel
theorem dX0_check_24 : decode cX0_check 24 = .ok (.iaload, 1) := by decide +kernel
theorem dX0_check_25 : decode cX0_check 25 = .ok (.istore_n 3, 1) := by decide +kernel
theorem dX0_check_26 : decode cX0_check 26 = .ok (.iload_n 3, 1) := by decide +kernel
theorem dX0_check_27 : decode cX0_check 27 = .ok (.iconst (-1), 1) := by decide +kernel
theorem dX0_check_28 : decode cX0_check 28 = .ok (.if_icmp .eq 45, 3) := by decide +kernel
theorem dX0_check_31 : decode cX0_check 31 = .ok (.aload_n 0, 1) := by decide +kernel
theorem dX0_check_32 : decode cX0_check 32 = .ok (.getfield 7, 3) := by decide +kernel
theorem dX0_check_35 : decode cX0_check 35 = .ok (.iload_n 3, 1) := by decide +kernel
theorem dX0_check_36 : decode cX0_check 36 = .ok (.iaload, 1) := by decide +kernel
theorem dX0_check_37 : decode cX0_check 37 = .ok (.iload_n 2, 1) := by decide +kernel
theorem dX0_check_38 : decode cX0_check 38 = .ok (.if_icmp .ne 32, 3) := by decide +kernel
theorem dX0_check_41 : decode cX0_check 41 = .ok (.iload_n 3, 1) := by decide +kernel
theorem dX0_check_42 : decode cX0_check 42 = .ok (.bipush 12, 2) := by decide +kernel
theorem dX0_check_44 : decode cX0_check 44 = .ok (.irem, 1) := by decide +kernel
theorem dX0_check_45 : decode cX0_check 45 = .ok (.aload_n 0, 1) := by decide +kernel
theorem dX0_check_46 : decode cX0_check 46 = .ok (.getfield 19, 3) := by decide +kernel
theorem dX0_check_49 : decode cX0_check 49 = .ok (.iload_n 3, 1) := by decide +kernel
theorem dX0_check_50 : decode cX0_check 50 = .ok (.bipush 12, 2) := by decide +kernel
theorem dX0_check_52 : decode cX0_check 52 = .ok (.idiv, 1) := by decide +kernel
theorem dX0_check_53 : decode cX0_check 53 = .ok (.iaload, 1) := by decide +kernel
theorem dX0_check_54 : decode cX0_check 54 = .ok (.if_icmp .ge 16, 3) := by decide +kernel
theorem dX0_check_57 : decode cX0_check 57 = .ok (.aload_n 0, 1) := by decide +kernel
theorem dX0_check_58 : decode cX0_check 58 = .ok (.aload_n 0, 1) := by decide +kernel
theorem dX0_check_59 : decode cX0_check 59 = .ok (.getfield 16, 3) := by decide +kernel
theorem dX0_check_62 : decode cX0_check 62 = .ok (.iload_n 3, 1) := by decide +kernel
theorem dX0_check_63 : decode cX0_check 63 = .ok (.iaload, 1) := by decide +kernel
theorem dX0_check_64 : decode cX0_check 64 = .ok (.invokevirtual 84, 3) := by decide +kernel
theorem dX0_check_67 : decode cX0_check 67 = .ok (.ifCond .ne 6, 3) := by decide +kernel
theorem dX0_check_70 : decode cX0_check 70 = .ok (.iinc 1 1, 3) := by decide +kernel
theorem dX0_check_73 : decode cX0_check 73 = .ok (.iinc 2 1, 3) := by decide +kernel
theorem dX0_check_76 : decode cX0_check 76 = .ok (.goto (-63), 3) := by decide +kernel
theorem dX0_check_79 : decode cX0_check 79 = .ok (.iload_n 1, 1) := by decide +kernel
theorem dX0_check_80 : decode cX0_check 80 = .ok (.ireturn, 1) := by decide +kernel
end
section
set_option maxRecDepth 100000
theorem q21 : (Jvm.Cond.initialized "ZonedLogStore") ∈ lw_all := lw_g (lw_at lw_m1 1 rfl) rfl
theorem q24 : (Jvm.Cond.instantiable "ZonedLogStore" (13 : Nat)) ∈ lw_all := lw_g (lw_at lw_m1 4 rfl) rfl
theorem q26 : (Jvm.Cond.instanceMethod ({ cls := "ZonedLogStore", name := "<init>", desc := "()V" } : Jvm.MethodName)) ∈ lw_all := lw_g (lw_at lw_m1 6 rfl) rfl
theorem q27 : (Jvm.Cond.code ({ cls := "ZonedLogStore", name := "<init>", desc := "()V" } : Jvm.MethodName) prog_1_method_1_code (2 : Nat) (Option.none : Option Jvm.ClassFile.FieldType)) ∈ lw_all := lw_g (lw_at lw_m1 7 rfl) rfl
theorem q28 : (Jvm.Cond.methodLink "ZonedLogStore" (1 : Nat) ({ cls := "java/lang/Object", name := "<init>", desc := "()V" } : Jvm.MethodName)) ∈ lw_all := lw_g (lw_at lw_m1 8 rfl) rfl
theorem q31 : (Jvm.Cond.fieldLink "ZonedLogStore" (7 : Nat) "ZonedLogStore" "recordBlock" "[I") ∈ lw_all := lw_g (lw_at lw_m1 11 rfl) rfl
theorem q32 : (Jvm.Cond.fieldLink "ZonedLogStore" (13 : Nat) "ZonedLogStore" "recordValue" "[I") ∈ lw_all := lw_g (lw_at lw_m1 12 rfl) rfl
theorem q33 : (Jvm.Cond.fieldLink "ZonedLogStore" (16 : Nat) "ZonedLogStore" "recordGroup" "[I") ∈ lw_all := lw_g (lw_at lw_m1 13 rfl) rfl
theorem q34 : (Jvm.Cond.fieldLink "ZonedLogStore" (19 : Nat) "ZonedLogStore" "filled" "[I") ∈ lw_all := lw_g (lw_at lw_m1 14 rfl) rfl
theorem q35 : (Jvm.Cond.fieldLink "ZonedLogStore" (22 : Nat) "ZonedLogStore" "opened" "[I") ∈ lw_all := lw_g (lw_at lw_m1 15 rfl) rfl
theorem q36 : (Jvm.Cond.fieldLink "ZonedLogStore" (25 : Nat) "ZonedLogStore" "table" "[I") ∈ lw_all := lw_g (lw_at lw_m1 16 rfl) rfl
theorem q37 : (Jvm.Cond.fieldLink "ZonedLogStore" (28 : Nat) "ZonedLogStore" "cache" "[I") ∈ lw_all := lw_g (lw_at lw_m1 17 rfl) rfl
theorem q38 : (Jvm.Cond.fieldLink "ZonedLogStore" (31 : Nat) "ZonedLogStore" "dirty" "[Z") ∈ lw_all := lw_g (lw_at lw_m1 18 rfl) rfl
theorem q39 : (Jvm.Cond.fieldLink "ZonedLogStore" (35 : Nat) "ZonedLogStore" "running" "Z") ∈ lw_all := lw_g (lw_at lw_m1 19 rfl) rfl
theorem q40 : (Jvm.Cond.fieldLink "ZonedLogStore" (55 : Nat) "ZonedLogStore" "group" "Z") ∈ lw_all := lw_g (lw_at lw_m1 20 rfl) rfl
theorem q41 : (Jvm.Cond.fieldLink "ZonedLogStore" (39 : Nat) "ZonedLogStore" "active" "I") ∈ lw_all := lw_g (lw_at lw_m1 21 rfl) rfl
theorem q42 : (Jvm.Cond.fieldLink "ZonedLogStore" (90 : Nat) "ZonedLogStore" "groupNumber" "I") ∈ lw_all := lw_g (lw_at lw_m1 22 rfl) rfl
theorem q43 : (Jvm.Cond.fieldLink "ZonedLogStore" (108 : Nat) "ZonedLogStore" "openNumber" "I") ∈ lw_all := lw_g (lw_at lw_m1 23 rfl) rfl
theorem q44 : (Jvm.Cond.laysFinal "ZonedLogStore" "ZonedLogStore" "recordBlock" "[I") ∈ lw_all := lw_g (lw_at lw_m1 24 rfl) rfl
theorem q45 : (Jvm.Cond.soleField "ZonedLogStore" "recordBlock") ∈ lw_all := lw_g (lw_at lw_m1 25 rfl) rfl
theorem q46 : (Jvm.Cond.laysFinal "ZonedLogStore" "ZonedLogStore" "recordValue" "[I") ∈ lw_all := lw_g (lw_at lw_m1 26 rfl) rfl
theorem q47 : (Jvm.Cond.soleField "ZonedLogStore" "recordValue") ∈ lw_all := lw_g (lw_at lw_m1 27 rfl) rfl
theorem q48 : (Jvm.Cond.laysFinal "ZonedLogStore" "ZonedLogStore" "recordGroup" "[I") ∈ lw_all := lw_g (lw_at lw_m1 28 rfl) rfl
theorem q49 : (Jvm.Cond.soleField "ZonedLogStore" "recordGroup") ∈ lw_all := lw_g (lw_at lw_m1 29 rfl) rfl
theorem q50 : (Jvm.Cond.laysFinal "ZonedLogStore" "ZonedLogStore" "filled" "[I") ∈ lw_all := lw_g (lw_at lw_m1 30 rfl) rfl
theorem q51 : (Jvm.Cond.soleField "ZonedLogStore" "filled") ∈ lw_all := lw_g (lw_at lw_m1 31 rfl) rfl
theorem q52 : (Jvm.Cond.laysFinal "ZonedLogStore" "ZonedLogStore" "opened" "[I") ∈ lw_all := lw_g (lw_at lw_m1 32 rfl) rfl
theorem q53 : (Jvm.Cond.soleField "ZonedLogStore" "opened") ∈ lw_all := lw_g (lw_at lw_m1 33 rfl) rfl
theorem q54 : (Jvm.Cond.laysFinal "ZonedLogStore" "ZonedLogStore" "table" "[I") ∈ lw_all := lw_g (lw_at lw_m1 34 rfl) rfl
theorem q55 : (Jvm.Cond.soleField "ZonedLogStore" "table") ∈ lw_all := lw_g (lw_at lw_m1 35 rfl) rfl
theorem q56 : (Jvm.Cond.laysFinal "ZonedLogStore" "ZonedLogStore" "cache" "[I") ∈ lw_all := lw_g (lw_at lw_m1 36 rfl) rfl
theorem q57 : (Jvm.Cond.soleField "ZonedLogStore" "cache") ∈ lw_all := lw_g (lw_at lw_m1 37 rfl) rfl
theorem q58 : (Jvm.Cond.laysFinal "ZonedLogStore" "ZonedLogStore" "dirty" "[Z") ∈ lw_all := lw_g (lw_at lw_m1 38 rfl) rfl
theorem q59 : (Jvm.Cond.soleField "ZonedLogStore" "dirty") ∈ lw_all := lw_g (lw_at lw_m1 39 rfl) rfl
theorem q60 : (Jvm.Cond.lays "ZonedLogStore" "ZonedLogStore" "running" "Z") ∈ lw_all := lw_g (lw_at lw_m1 40 rfl) rfl
theorem q61 : (Jvm.Cond.soleField "ZonedLogStore" "running") ∈ lw_all := lw_g (lw_at lw_m1 41 rfl) rfl
theorem q62 : (Jvm.Cond.lays "ZonedLogStore" "ZonedLogStore" "group" "Z") ∈ lw_all := lw_g (lw_at lw_m1 42 rfl) rfl
theorem q63 : (Jvm.Cond.soleField "ZonedLogStore" "group") ∈ lw_all := lw_g (lw_at lw_m1 43 rfl) rfl
theorem q64 : (Jvm.Cond.lays "ZonedLogStore" "ZonedLogStore" "active" "I") ∈ lw_all := lw_g (lw_at lw_m1 44 rfl) rfl
theorem q65 : (Jvm.Cond.soleField "ZonedLogStore" "active") ∈ lw_all := lw_g (lw_at lw_m1 45 rfl) rfl
theorem q66 : (Jvm.Cond.lays "ZonedLogStore" "ZonedLogStore" "groupNumber" "I") ∈ lw_all := lw_g (lw_at lw_m1 46 rfl) rfl
theorem q67 : (Jvm.Cond.soleField "ZonedLogStore" "groupNumber") ∈ lw_all := lw_g (lw_at lw_m1 47 rfl) rfl
theorem q68 : (Jvm.Cond.lays "ZonedLogStore" "ZonedLogStore" "openNumber" "I") ∈ lw_all := lw_g (lw_at lw_m1 48 rfl) rfl
theorem q69 : (Jvm.Cond.soleField "ZonedLogStore" "openNumber") ∈ lw_all := lw_g (lw_at lw_m1 49 rfl) rfl
theorem q70 : (Jvm.Cond.superclass "ZonedLogStore" "java/lang/Object") ∈ lw_all := lw_g (lw_at lw_m1 50 rfl) rfl
theorem q74 : (Jvm.Cond.instanceMethod ({ cls := "ZonedLogStore", name := "up", desc := "()I" } : Jvm.MethodName)) ∈ lw_all := lw_g (lw_at lw_m1 54 rfl) rfl
theorem q75 : (Jvm.Cond.selects "ZonedLogStore" ({ cls := "ZonedLogStore", name := "up", desc := "()I" } : Jvm.MethodName) ({ cls := "ZonedLogStore", name := "up", desc := "()I" } : Jvm.MethodName)) ∈ lw_all := lw_g (lw_at lw_m1 55 rfl) rfl
theorem q76 : (Jvm.Cond.code ({ cls := "ZonedLogStore", name := "up", desc := "()I" } : Jvm.MethodName) prog_1_method_2_code (1 : Nat) (Option.some Jvm.ClassFile.FieldType.int)) ∈ lw_all := lw_g (lw_at lw_m1 56 rfl) rfl
theorem q78 : (Jvm.Cond.instanceMethod ({ cls := "ZonedLogStore", name := "read", desc := "(I)I" } : Jvm.MethodName)) ∈ lw_all := lw_g (lw_at lw_m1 58 rfl) rfl
theorem q79 : (Jvm.Cond.selects "ZonedLogStore" ({ cls := "ZonedLogStore", name := "read", desc := "(I)I" } : Jvm.MethodName) ({ cls := "ZonedLogStore", name := "read", desc := "(I)I" } : Jvm.MethodName)) ∈ lw_all := lw_g (lw_at lw_m1 59 rfl) rfl
theorem q80 : (Jvm.Cond.code ({ cls := "ZonedLogStore", name := "read", desc := "(I)I" } : Jvm.MethodName) prog_1_method_3_code (2 : Nat) (Option.some Jvm.ClassFile.FieldType.int)) ∈ lw_all := lw_g (lw_at lw_m1 60 rfl) rfl
theorem q81 : (Jvm.Cond.methodLink "ZonedLogStore" (43 : Nat) ({ cls := "ZonedLogStore", name := "isBlock", desc := "(I)Z" } : Jvm.MethodName)) ∈ lw_all := lw_g (lw_at lw_m1 61 rfl) rfl
theorem q82 : (Jvm.Cond.static ({ cls := "ZonedLogStore", name := "isBlock", desc := "(I)Z" } : Jvm.MethodName)) ∈ lw_all := lw_g (lw_at lw_m1 62 rfl) rfl
theorem q83 : (Jvm.Cond.code ({ cls := "ZonedLogStore", name := "isBlock", desc := "(I)Z" } : Jvm.MethodName) prog_1_method_19_code (1 : Nat) (Option.some Jvm.ClassFile.FieldType.boolean)) ∈ lw_all := lw_g (lw_at lw_m1 63 rfl) rfl
theorem q84 : (Jvm.Cond.methodLink "ZonedLogStore" (47 : Nat) ({ cls := "ZonedLogStore", name := "current", desc := "(I)I" } : Jvm.MethodName)) ∈ lw_all := lw_g (lw_at lw_m1 64 rfl) rfl
theorem q85 : (Jvm.Cond.privateMethod ({ cls := "ZonedLogStore", name := "current", desc := "(I)I" } : Jvm.MethodName)) ∈ lw_tbl := lw_at lw_m1 65 rfl
theorem q86 : (Jvm.Cond.instanceMethod ({ cls := "ZonedLogStore", name := "current", desc := "(I)I" } : Jvm.MethodName)) ∈ lw_all := lw_g (lw_at lw_m1 66 rfl) rfl
theorem q87 : (Jvm.Cond.code ({ cls := "ZonedLogStore", name := "current", desc := "(I)I" } : Jvm.MethodName) prog_1_method_21_code (2 : Nat) (Option.some Jvm.ClassFile.FieldType.int)) ∈ lw_all := lw_g (lw_at lw_m1 67 rfl) rfl
theorem q88 : (Jvm.Cond.methodLink "ZonedLogStore" (75 : Nat) ({ cls := "ZonedLogStore", name := "stored", desc := "(I)I" } : Jvm.MethodName)) ∈ lw_all := lw_g (lw_at lw_m1 68 rfl) rfl
theorem q89 : (Jvm.Cond.privateMethod ({ cls := "ZonedLogStore", name := "stored", desc := "(I)I" } : Jvm.MethodName)) ∈ lw_tbl := lw_at lw_m1 69 rfl
theorem q90 : (Jvm.Cond.instanceMethod ({ cls := "ZonedLogStore", name := "stored", desc := "(I)I" } : Jvm.MethodName)) ∈ lw_all := lw_g (lw_at lw_m1 70 rfl) rfl
theorem q91 : (Jvm.Cond.code ({ cls := "ZonedLogStore", name := "stored", desc := "(I)I" } : Jvm.MethodName) prog_1_method_20_code (2 : Nat) (Option.some Jvm.ClassFile.FieldType.int)) ∈ lw_all := lw_g (lw_at lw_m1 71 rfl) rfl
theorem q93 : (Jvm.Cond.instanceMethod ({ cls := "ZonedLogStore", name := "write", desc := "(II)I" } : Jvm.MethodName)) ∈ lw_all := lw_g (lw_at lw_m1 73 rfl) rfl
theorem q94 : (Jvm.Cond.selects "ZonedLogStore" ({ cls := "ZonedLogStore", name := "write", desc := "(II)I" } : Jvm.MethodName) ({ cls := "ZonedLogStore", name := "write", desc := "(II)I" } : Jvm.MethodName)) ∈ lw_all := lw_g (lw_at lw_m1 74 rfl) rfl
theorem q95 : (Jvm.Cond.code ({ cls := "ZonedLogStore", name := "write", desc := "(II)I" } : Jvm.MethodName) prog_1_method_4_code (3 : Nat) (Option.some Jvm.ClassFile.FieldType.int)) ∈ lw_all := lw_g (lw_at lw_m1 75 rfl) rfl
theorem q96 : (Jvm.Cond.methodLink "ZonedLogStore" (51 : Nat) ({ cls := "ZonedLogStore", name := "dirtyCount", desc := "()I" } : Jvm.MethodName)) ∈ lw_all := lw_g (lw_at lw_m1 76 rfl) rfl
theorem q97 : (Jvm.Cond.privateMethod ({ cls := "ZonedLogStore", name := "dirtyCount", desc := "()I" } : Jvm.MethodName)) ∈ lw_tbl := lw_at lw_m1 77 rfl
theorem q98 : (Jvm.Cond.instanceMethod ({ cls := "ZonedLogStore", name := "dirtyCount", desc := "()I" } : Jvm.MethodName)) ∈ lw_all := lw_g (lw_at lw_m1 78 rfl) rfl
theorem q99 : (Jvm.Cond.code ({ cls := "ZonedLogStore", name := "dirtyCount", desc := "()I" } : Jvm.MethodName) prog_1_method_22_code (3 : Nat) (Option.some Jvm.ClassFile.FieldType.int)) ∈ lw_all := lw_g (lw_at lw_m1 79 rfl) rfl
theorem q100 : (Jvm.Cond.methodLink "ZonedLogStore" (58 : Nat) ({ cls := "ZonedLogStore", name := "flush", desc := "(I)V" } : Jvm.MethodName)) ∈ lw_all := lw_g (lw_at lw_m1 80 rfl) rfl
theorem q101 : (Jvm.Cond.privateMethod ({ cls := "ZonedLogStore", name := "flush", desc := "(I)V" } : Jvm.MethodName)) ∈ lw_tbl := lw_at lw_m1 81 rfl
theorem q102 : (Jvm.Cond.instanceMethod ({ cls := "ZonedLogStore", name := "flush", desc := "(I)V" } : Jvm.MethodName)) ∈ lw_all := lw_g (lw_at lw_m1 82 rfl) rfl
theorem q103 : (Jvm.Cond.code ({ cls := "ZonedLogStore", name := "flush", desc := "(I)V" } : Jvm.MethodName) prog_1_method_25_code (6 : Nat) (Option.none : Option Jvm.ClassFile.FieldType)) ∈ lw_all := lw_g (lw_at lw_m1 83 rfl) rfl
theorem q104 : (Jvm.Cond.methodLink "ZonedLogStore" (87 : Nat) ({ cls := "ZonedLogStore", name := "makeRoom", desc := "()V" } : Jvm.MethodName)) ∈ lw_all := lw_g (lw_at lw_m1 84 rfl) rfl
theorem q105 : (Jvm.Cond.privateMethod ({ cls := "ZonedLogStore", name := "makeRoom", desc := "()V" } : Jvm.MethodName)) ∈ lw_tbl := lw_at lw_m1 85 rfl
theorem q106 : (Jvm.Cond.instanceMethod ({ cls := "ZonedLogStore", name := "makeRoom", desc := "()V" } : Jvm.MethodName)) ∈ lw_all := lw_g (lw_at lw_m1 86 rfl) rfl
theorem q107 : (Jvm.Cond.code ({ cls := "ZonedLogStore", name := "makeRoom", desc := "()V" } : Jvm.MethodName) prog_1_method_29_code (3 : Nat) (Option.none : Option Jvm.ClassFile.FieldType)) ∈ lw_all := lw_g (lw_at lw_m1 87 rfl) rfl
theorem q108 : (Jvm.Cond.methodLink "ZonedLogStore" (96 : Nat) ({ cls := "ZonedLogStore", name := "openZone", desc := "()V" } : Jvm.MethodName)) ∈ lw_all := lw_g (lw_at lw_m1 88 rfl) rfl
theorem q109 : (Jvm.Cond.privateMethod ({ cls := "ZonedLogStore", name := "openZone", desc := "()V" } : Jvm.MethodName)) ∈ lw_tbl := lw_at lw_m1 89 rfl
theorem q110 : (Jvm.Cond.instanceMethod ({ cls := "ZonedLogStore", name := "openZone", desc := "()V" } : Jvm.MethodName)) ∈ lw_all := lw_g (lw_at lw_m1 90 rfl) rfl
theorem q111 : (Jvm.Cond.code ({ cls := "ZonedLogStore", name := "openZone", desc := "()V" } : Jvm.MethodName) prog_1_method_31_code (2 : Nat) (Option.none : Option Jvm.ClassFile.FieldType)) ∈ lw_all := lw_g (lw_at lw_m1 91 rfl) rfl
theorem q112 : (Jvm.Cond.methodLink "ZonedLogStore" (99 : Nat) ({ cls := "ZonedLogStore", name := "poorest", desc := "()I" } : Jvm.MethodName)) ∈ lw_all := lw_g (lw_at lw_m1 92 rfl) rfl
theorem q113 : (Jvm.Cond.privateMethod ({ cls := "ZonedLogStore", name := "poorest", desc := "()I" } : Jvm.MethodName)) ∈ lw_tbl := lw_at lw_m1 93 rfl
theorem q114 : (Jvm.Cond.instanceMethod ({ cls := "ZonedLogStore", name := "poorest", desc := "()I" } : Jvm.MethodName)) ∈ lw_all := lw_g (lw_at lw_m1 94 rfl) rfl
theorem q115 : (Jvm.Cond.code ({ cls := "ZonedLogStore", name := "poorest", desc := "()I" } : Jvm.MethodName) prog_1_method_32_code (3 : Nat) (Option.some Jvm.ClassFile.FieldType.int)) ∈ lw_all := lw_g (lw_at lw_m1 95 rfl) rfl
theorem q116 : (Jvm.Cond.methodLink "ZonedLogStore" (78 : Nat) ({ cls := "ZonedLogStore", name := "living", desc := "(I)I" } : Jvm.MethodName)) ∈ lw_all := lw_g (lw_at lw_m1 96 rfl) rfl
theorem q117 : (Jvm.Cond.privateMethod ({ cls := "ZonedLogStore", name := "living", desc := "(I)I" } : Jvm.MethodName)) ∈ lw_tbl := lw_at lw_m1 97 rfl
theorem q118 : (Jvm.Cond.instanceMethod ({ cls := "ZonedLogStore", name := "living", desc := "(I)I" } : Jvm.MethodName)) ∈ lw_all := lw_g (lw_at lw_m1 98 rfl) rfl
theorem q119 : (Jvm.Cond.code ({ cls := "ZonedLogStore", name := "living", desc := "(I)I" } : Jvm.MethodName) prog_1_method_27_code (4 : Nat) (Option.some Jvm.ClassFile.FieldType.int)) ∈ lw_all := lw_g (lw_at lw_m1 99 rfl) rfl
theorem q120 : (Jvm.Cond.methodLink "ZonedLogStore" (102 : Nat) ({ cls := "ZonedLogStore", name := "emptyZones", desc := "()I" } : Jvm.MethodName)) ∈ lw_all := lw_g (lw_at lw_m1 100 rfl) rfl
theorem q121 : (Jvm.Cond.privateMethod ({ cls := "ZonedLogStore", name := "emptyZones", desc := "()I" } : Jvm.MethodName)) ∈ lw_tbl := lw_at lw_m1 101 rfl
theorem q122 : (Jvm.Cond.instanceMethod ({ cls := "ZonedLogStore", name := "emptyZones", desc := "()I" } : Jvm.MethodName)) ∈ lw_all := lw_g (lw_at lw_m1 102 rfl) rfl
theorem q123 : (Jvm.Cond.code ({ cls := "ZonedLogStore", name := "emptyZones", desc := "()I" } : Jvm.MethodName) prog_1_method_30_code (3 : Nat) (Option.some Jvm.ClassFile.FieldType.int)) ∈ lw_all := lw_g (lw_at lw_m1 103 rfl) rfl
theorem q124 : (Jvm.Cond.methodLink "ZonedLogStore" (105 : Nat) ({ cls := "ZonedLogStore", name := "moveOut", desc := "(I)V" } : Jvm.MethodName)) ∈ lw_all := lw_g (lw_at lw_m1 104 rfl) rfl
theorem q125 : (Jvm.Cond.privateMethod ({ cls := "ZonedLogStore", name := "moveOut", desc := "(I)V" } : Jvm.MethodName)) ∈ lw_tbl := lw_at lw_m1 105 rfl
theorem q126 : (Jvm.Cond.instanceMethod ({ cls := "ZonedLogStore", name := "moveOut", desc := "(I)V" } : Jvm.MethodName)) ∈ lw_all := lw_g (lw_at lw_m1 106 rfl) rfl
theorem q127 : (Jvm.Cond.code ({ cls := "ZonedLogStore", name := "moveOut", desc := "(I)V" } : Jvm.MethodName) prog_1_method_33_code (3 : Nat) (Option.none : Option Jvm.ClassFile.FieldType)) ∈ lw_all := lw_g (lw_at lw_m1 107 rfl) rfl
theorem q128 : (Jvm.Cond.methodLink "ZonedLogStore" (93 : Nat) ({ cls := "ZonedLogStore", name := "append", desc := "(II)I" } : Jvm.MethodName)) ∈ lw_all := lw_g (lw_at lw_m1 108 rfl) rfl
theorem q129 : (Jvm.Cond.privateMethod ({ cls := "ZonedLogStore", name := "append", desc := "(II)I" } : Jvm.MethodName)) ∈ lw_tbl := lw_at lw_m1 109 rfl
theorem q130 : (Jvm.Cond.instanceMethod ({ cls := "ZonedLogStore", name := "append", desc := "(II)I" } : Jvm.MethodName)) ∈ lw_all := lw_g (lw_at lw_m1 110 rfl) rfl
theorem q131 : (Jvm.Cond.code ({ cls := "ZonedLogStore", name := "append", desc := "(II)I" } : Jvm.MethodName) prog_1_method_26_code (4 : Nat) (Option.some Jvm.ClassFile.FieldType.int)) ∈ lw_all := lw_g (lw_at lw_m1 111 rfl) rfl
theorem q132 : (Jvm.Cond.methodLink "ZonedLogStore" (81 : Nat) ({ cls := "ZonedLogStore", name := "empty", desc := "(I)V" } : Jvm.MethodName)) ∈ lw_all := lw_g (lw_at lw_m1 112 rfl) rfl
theorem q133 : (Jvm.Cond.privateMethod ({ cls := "ZonedLogStore", name := "empty", desc := "(I)V" } : Jvm.MethodName)) ∈ lw_tbl := lw_at lw_m1 113 rfl
theorem q134 : (Jvm.Cond.instanceMethod ({ cls := "ZonedLogStore", name := "empty", desc := "(I)V" } : Jvm.MethodName)) ∈ lw_all := lw_g (lw_at lw_m1 114 rfl) rfl
theorem q135 : (Jvm.Cond.code ({ cls := "ZonedLogStore", name := "empty", desc := "(I)V" } : Jvm.MethodName) prog_1_method_28_code (2 : Nat) (Option.none : Option Jvm.ClassFile.FieldType)) ∈ lw_all := lw_g (lw_at lw_m1 115 rfl) rfl
theorem q136 : (Jvm.Cond.methodLink "ZonedLogStore" (66 : Nat) ({ cls := "ZonedLogStore", name := "dropCache", desc := "()V" } : Jvm.MethodName)) ∈ lw_all := lw_g (lw_at lw_m1 116 rfl) rfl
theorem q137 : (Jvm.Cond.privateMethod ({ cls := "ZonedLogStore", name := "dropCache", desc := "()V" } : Jvm.MethodName)) ∈ lw_tbl := lw_at lw_m1 117 rfl
theorem q138 : (Jvm.Cond.instanceMethod ({ cls := "ZonedLogStore", name := "dropCache", desc := "()V" } : Jvm.MethodName)) ∈ lw_all := lw_g (lw_at lw_m1 118 rfl) rfl
theorem q139 : (Jvm.Cond.code ({ cls := "ZonedLogStore", name := "dropCache", desc := "()V" } : Jvm.MethodName) prog_1_method_23_code (2 : Nat) (Option.none : Option Jvm.ClassFile.FieldType)) ∈ lw_all := lw_g (lw_at lw_m1 119 rfl) rfl
theorem q141 : (Jvm.Cond.instanceMethod ({ cls := "ZonedLogStore", name := "fill", desc := "(IIII)I" } : Jvm.MethodName)) ∈ lw_all := lw_g (lw_at lw_m1 121 rfl) rfl
theorem q142 : (Jvm.Cond.selects "ZonedLogStore" ({ cls := "ZonedLogStore", name := "fill", desc := "(IIII)I" } : Jvm.MethodName) ({ cls := "ZonedLogStore", name := "fill", desc := "(IIII)I" } : Jvm.MethodName)) ∈ lw_all := lw_g (lw_at lw_m1 122 rfl) rfl
theorem q143 : (Jvm.Cond.code ({ cls := "ZonedLogStore", name := "fill", desc := "(IIII)I" } : Jvm.MethodName) prog_1_method_5_code (6 : Nat) (Option.some Jvm.ClassFile.FieldType.int)) ∈ lw_all := lw_g (lw_at lw_m1 123 rfl) rfl
theorem q144 : (Jvm.Cond.methodLink "ZonedLogStore" (62 : Nat) ({ cls := "ZonedLogStore", name := "write", desc := "(II)I" } : Jvm.MethodName)) ∈ lw_all := lw_g (lw_at lw_m1 124 rfl) rfl
theorem q146 : (Jvm.Cond.instanceMethod ({ cls := "ZonedLogStore", name := "sync", desc := "()I" } : Jvm.MethodName)) ∈ lw_all := lw_g (lw_at lw_m1 126 rfl) rfl
theorem q147 : (Jvm.Cond.selects "ZonedLogStore" ({ cls := "ZonedLogStore", name := "sync", desc := "()I" } : Jvm.MethodName) ({ cls := "ZonedLogStore", name := "sync", desc := "()I" } : Jvm.MethodName)) ∈ lw_all := lw_g (lw_at lw_m1 127 rfl) rfl
theorem q148 : (Jvm.Cond.code ({ cls := "ZonedLogStore", name := "sync", desc := "()I" } : Jvm.MethodName) prog_1_method_6_code (2 : Nat) (Option.some Jvm.ClassFile.FieldType.int)) ∈ lw_all := lw_g (lw_at lw_m1 128 rfl) rfl
theorem q150 : (Jvm.Cond.instanceMethod ({ cls := "ZonedLogStore", name := "begin", desc := "()I" } : Jvm.MethodName)) ∈ lw_all := lw_g (lw_at lw_m1 130 rfl) rfl
theorem q151 : (Jvm.Cond.selects "ZonedLogStore" ({ cls := "ZonedLogStore", name := "begin", desc := "()I" } : Jvm.MethodName) ({ cls := "ZonedLogStore", name := "begin", desc := "()I" } : Jvm.MethodName)) ∈ lw_all := lw_g (lw_at lw_m1 131 rfl) rfl
theorem q152 : (Jvm.Cond.code ({ cls := "ZonedLogStore", name := "begin", desc := "()I" } : Jvm.MethodName) prog_1_method_7_code (1 : Nat) (Option.some Jvm.ClassFile.FieldType.int)) ∈ lw_all := lw_g (lw_at lw_m1 132 rfl) rfl
theorem q154 : (Jvm.Cond.instanceMethod ({ cls := "ZonedLogStore", name := "commit", desc := "()I" } : Jvm.MethodName)) ∈ lw_all := lw_g (lw_at lw_m1 134 rfl) rfl
theorem q155 : (Jvm.Cond.selects "ZonedLogStore" ({ cls := "ZonedLogStore", name := "commit", desc := "()I" } : Jvm.MethodName) ({ cls := "ZonedLogStore", name := "commit", desc := "()I" } : Jvm.MethodName)) ∈ lw_all := lw_g (lw_at lw_m1 135 rfl) rfl
theorem q156 : (Jvm.Cond.code ({ cls := "ZonedLogStore", name := "commit", desc := "()I" } : Jvm.MethodName) prog_1_method_8_code (2 : Nat) (Option.some Jvm.ClassFile.FieldType.int)) ∈ lw_all := lw_g (lw_at lw_m1 136 rfl) rfl
theorem q158 : (Jvm.Cond.instanceMethod ({ cls := "ZonedLogStore", name := "abort", desc := "()I" } : Jvm.MethodName)) ∈ lw_all := lw_g (lw_at lw_m1 138 rfl) rfl
theorem q159 : (Jvm.Cond.selects "ZonedLogStore" ({ cls := "ZonedLogStore", name := "abort", desc := "()I" } : Jvm.MethodName) ({ cls := "ZonedLogStore", name := "abort", desc := "()I" } : Jvm.MethodName)) ∈ lw_all := lw_g (lw_at lw_m1 139 rfl) rfl
theorem q160 : (Jvm.Cond.code ({ cls := "ZonedLogStore", name := "abort", desc := "()I" } : Jvm.MethodName) prog_1_method_9_code (2 : Nat) (Option.some Jvm.ClassFile.FieldType.int)) ∈ lw_all := lw_g (lw_at lw_m1 140 rfl) rfl
theorem q162 : (Jvm.Cond.instanceMethod ({ cls := "ZonedLogStore", name := "crash", desc := "()I" } : Jvm.MethodName)) ∈ lw_all := lw_g (lw_at lw_m1 142 rfl) rfl
theorem q163 : (Jvm.Cond.selects "ZonedLogStore" ({ cls := "ZonedLogStore", name := "crash", desc := "()I" } : Jvm.MethodName) ({ cls := "ZonedLogStore", name := "crash", desc := "()I" } : Jvm.MethodName)) ∈ lw_all := lw_g (lw_at lw_m1 143 rfl) rfl
theorem q164 : (Jvm.Cond.code ({ cls := "ZonedLogStore", name := "crash", desc := "()I" } : Jvm.MethodName) prog_1_method_10_code (2 : Nat) (Option.some Jvm.ClassFile.FieldType.int)) ∈ lw_all := lw_g (lw_at lw_m1 144 rfl) rfl
theorem q165 : (Jvm.Cond.methodLink "ZonedLogStore" (69 : Nat) ({ cls := "ZonedLogStore", name := "fall", desc := "()V" } : Jvm.MethodName)) ∈ lw_all := lw_g (lw_at lw_m1 145 rfl) rfl
theorem q166 : (Jvm.Cond.privateMethod ({ cls := "ZonedLogStore", name := "fall", desc := "()V" } : Jvm.MethodName)) ∈ lw_tbl := lw_at lw_m1 146 rfl
theorem q167 : (Jvm.Cond.instanceMethod ({ cls := "ZonedLogStore", name := "fall", desc := "()V" } : Jvm.MethodName)) ∈ lw_all := lw_g (lw_at lw_m1 147 rfl) rfl
theorem q168 : (Jvm.Cond.code ({ cls := "ZonedLogStore", name := "fall", desc := "()V" } : Jvm.MethodName) prog_1_method_24_code (2 : Nat) (Option.none : Option Jvm.ClassFile.FieldType)) ∈ lw_all := lw_g (lw_at lw_m1 148 rfl) rfl
theorem q170 : (Jvm.Cond.instanceMethod ({ cls := "ZonedLogStore", name := "crashIn", desc := "(I)I" } : Jvm.MethodName)) ∈ lw_all := lw_g (lw_at lw_m1 150 rfl) rfl
theorem q171 : (Jvm.Cond.selects "ZonedLogStore" ({ cls := "ZonedLogStore", name := "crashIn", desc := "(I)I" } : Jvm.MethodName) ({ cls := "ZonedLogStore", name := "crashIn", desc := "(I)I" } : Jvm.MethodName)) ∈ lw_all := lw_g (lw_at lw_m1 151 rfl) rfl
theorem q172 : (Jvm.Cond.code ({ cls := "ZonedLogStore", name := "crashIn", desc := "(I)I" } : Jvm.MethodName) prog_1_method_11_code (2 : Nat) (Option.some Jvm.ClassFile.FieldType.int)) ∈ lw_all := lw_g (lw_at lw_m1 152 rfl) rfl
theorem q174 : (Jvm.Cond.instanceMethod ({ cls := "ZonedLogStore", name := "mount", desc := "()I" } : Jvm.MethodName)) ∈ lw_all := lw_g (lw_at lw_m1 154 rfl) rfl
theorem q175 : (Jvm.Cond.selects "ZonedLogStore" ({ cls := "ZonedLogStore", name := "mount", desc := "()I" } : Jvm.MethodName) ({ cls := "ZonedLogStore", name := "mount", desc := "()I" } : Jvm.MethodName)) ∈ lw_all := lw_g (lw_at lw_m1 155 rfl) rfl
theorem q176 : (Jvm.Cond.code ({ cls := "ZonedLogStore", name := "mount", desc := "()I" } : Jvm.MethodName) prog_1_method_12_code (1 : Nat) (Option.some Jvm.ClassFile.FieldType.int)) ∈ lw_all := lw_g (lw_at lw_m1 156 rfl) rfl
theorem q177 : (Jvm.Cond.methodLink "ZonedLogStore" (72 : Nat) ({ cls := "ZonedLogStore", name := "recover", desc := "()V" } : Jvm.MethodName)) ∈ lw_all := lw_g (lw_at lw_m1 157 rfl) rfl
theorem q178 : (Jvm.Cond.privateMethod ({ cls := "ZonedLogStore", name := "recover", desc := "()V" } : Jvm.MethodName)) ∈ lw_tbl := lw_at lw_m1 158 rfl
theorem q179 : (Jvm.Cond.instanceMethod ({ cls := "ZonedLogStore", name := "recover", desc := "()V" } : Jvm.MethodName)) ∈ lw_all := lw_g (lw_at lw_m1 159 rfl) rfl
theorem q180 : (Jvm.Cond.code ({ cls := "ZonedLogStore", name := "recover", desc := "()V" } : Jvm.MethodName) prog_1_method_35_code (3 : Nat) (Option.none : Option Jvm.ClassFile.FieldType)) ∈ lw_all := lw_g (lw_at lw_m1 160 rfl) rfl
theorem q181 : (Jvm.Cond.methodLink "ZonedLogStore" (84 : Nat) ({ cls := "ZonedLogStore", name := "counts", desc := "(I)Z" } : Jvm.MethodName)) ∈ lw_all := lw_g (lw_at lw_m1 161 rfl) rfl
theorem q182 : (Jvm.Cond.privateMethod ({ cls := "ZonedLogStore", name := "counts", desc := "(I)Z" } : Jvm.MethodName)) ∈ lw_tbl := lw_at lw_m1 162 rfl
theorem q183 : (Jvm.Cond.instanceMethod ({ cls := "ZonedLogStore", name := "counts", desc := "(I)Z" } : Jvm.MethodName)) ∈ lw_all := lw_g (lw_at lw_m1 163 rfl) rfl
theorem q184 : (Jvm.Cond.code ({ cls := "ZonedLogStore", name := "counts", desc := "(I)Z" } : Jvm.MethodName) prog_1_method_34_code (3 : Nat) (Option.some Jvm.ClassFile.FieldType.boolean)) ∈ lw_all := lw_g (lw_at lw_m1 164 rfl) rfl
theorem q186 : (Jvm.Cond.instanceMethod ({ cls := "ZonedLogStore", name := "unsynced", desc := "()I" } : Jvm.MethodName)) ∈ lw_all := lw_g (lw_at lw_m1 166 rfl) rfl
theorem q187 : (Jvm.Cond.selects "ZonedLogStore" ({ cls := "ZonedLogStore", name := "unsynced", desc := "()I" } : Jvm.MethodName) ({ cls := "ZonedLogStore", name := "unsynced", desc := "()I" } : Jvm.MethodName)) ∈ lw_all := lw_g (lw_at lw_m1 167 rfl) rfl
theorem q188 : (Jvm.Cond.code ({ cls := "ZonedLogStore", name := "unsynced", desc := "()I" } : Jvm.MethodName) prog_1_method_13_code (1 : Nat) (Option.some Jvm.ClassFile.FieldType.int)) ∈ lw_all := lw_g (lw_at lw_m1 168 rfl) rfl
theorem q190 : (Jvm.Cond.instanceMethod ({ cls := "ZonedLogStore", name := "grouped", desc := "()I" } : Jvm.MethodName)) ∈ lw_all := lw_g (lw_at lw_m1 170 rfl) rfl
theorem q191 : (Jvm.Cond.selects "ZonedLogStore" ({ cls := "ZonedLogStore", name := "grouped", desc := "()I" } : Jvm.MethodName) ({ cls := "ZonedLogStore", name := "grouped", desc := "()I" } : Jvm.MethodName)) ∈ lw_all := lw_g (lw_at lw_m1 171 rfl) rfl
theorem q192 : (Jvm.Cond.code ({ cls := "ZonedLogStore", name := "grouped", desc := "()I" } : Jvm.MethodName) prog_1_method_14_code (1 : Nat) (Option.some Jvm.ClassFile.FieldType.int)) ∈ lw_all := lw_g (lw_at lw_m1 172 rfl) rfl
theorem q194 : (Jvm.Cond.instanceMethod ({ cls := "ZonedLogStore", name := "pending", desc := "()I" } : Jvm.MethodName)) ∈ lw_all := lw_g (lw_at lw_m1 174 rfl) rfl
theorem q195 : (Jvm.Cond.selects "ZonedLogStore" ({ cls := "ZonedLogStore", name := "pending", desc := "()I" } : Jvm.MethodName) ({ cls := "ZonedLogStore", name := "pending", desc := "()I" } : Jvm.MethodName)) ∈ lw_all := lw_g (lw_at lw_m1 175 rfl) rfl
theorem q196 : (Jvm.Cond.code ({ cls := "ZonedLogStore", name := "pending", desc := "()I" } : Jvm.MethodName) prog_1_method_15_code (3 : Nat) (Option.some Jvm.ClassFile.FieldType.int)) ∈ lw_all := lw_g (lw_at lw_m1 176 rfl) rfl
theorem q198 : (Jvm.Cond.instanceMethod ({ cls := "ZonedLogStore", name := "sum", desc := "()I" } : Jvm.MethodName)) ∈ lw_all := lw_g (lw_at lw_m1 178 rfl) rfl
theorem q199 : (Jvm.Cond.selects "ZonedLogStore" ({ cls := "ZonedLogStore", name := "sum", desc := "()I" } : Jvm.MethodName) ({ cls := "ZonedLogStore", name := "sum", desc := "()I" } : Jvm.MethodName)) ∈ lw_all := lw_g (lw_at lw_m1 179 rfl) rfl
theorem q200 : (Jvm.Cond.code ({ cls := "ZonedLogStore", name := "sum", desc := "()I" } : Jvm.MethodName) prog_1_method_16_code (3 : Nat) (Option.some Jvm.ClassFile.FieldType.int)) ∈ lw_all := lw_g (lw_at lw_m1 180 rfl) rfl
theorem q202 : (Jvm.Cond.instanceMethod ({ cls := "ZonedLogStore", name := "clean", desc := "()I" } : Jvm.MethodName)) ∈ lw_all := lw_g (lw_at lw_m1 182 rfl) rfl
theorem q203 : (Jvm.Cond.selects "ZonedLogStore" ({ cls := "ZonedLogStore", name := "clean", desc := "()I" } : Jvm.MethodName) ({ cls := "ZonedLogStore", name := "clean", desc := "()I" } : Jvm.MethodName)) ∈ lw_all := lw_g (lw_at lw_m1 183 rfl) rfl
theorem q204 : (Jvm.Cond.code ({ cls := "ZonedLogStore", name := "clean", desc := "()I" } : Jvm.MethodName) prog_1_method_17_code (2 : Nat) (Option.some Jvm.ClassFile.FieldType.int)) ∈ lw_all := lw_g (lw_at lw_m1 184 rfl) rfl
theorem q206 : (Jvm.Cond.instanceMethod ({ cls := "ZonedLogStore", name := "check", desc := "()I" } : Jvm.MethodName)) ∈ lw_all := lw_g (lw_at lw_m1 186 rfl) rfl
theorem q207 : (Jvm.Cond.selects "ZonedLogStore" ({ cls := "ZonedLogStore", name := "check", desc := "()I" } : Jvm.MethodName) ({ cls := "ZonedLogStore", name := "check", desc := "()I" } : Jvm.MethodName)) ∈ lw_all := lw_g (lw_at lw_m1 187 rfl) rfl
theorem q208 : (Jvm.Cond.code ({ cls := "ZonedLogStore", name := "check", desc := "()I" } : Jvm.MethodName) prog_1_method_18_code (4 : Nat) (Option.some Jvm.ClassFile.FieldType.int)) ∈ lw_all := lw_g (lw_at lw_m1 188 rfl) rfl
theorem in_X0 : ∀ w ∈ wsX00, w ∈ lw_all := lw_in wsX00 [44, 46, 48, 50, 52, 54, 56, 58, 60, 62, 64, 66, 68] (by decide +kernel) (by decide +kernel)

/-! java/lang/Object -/
set_option maxRecDepth 100000
def RJ0 : String := "java/lang/Object"
abbrev cJ0_init : ByteArray := object_method_1_code
def yJ0_init : MethodName := ⟨RJ0, "<init>", "()V"⟩
theorem dJ0_init_0 : decode cJ0_init 0 = .ok (.return_, 1) := by decide +kernel
theorem q29 : (Jvm.Cond.instanceMethod ({ cls := "java/lang/Object", name := "<init>", desc := "()V" } : Jvm.MethodName)) ∈ lw_all := lw_g (lw_at lw_m1 9 rfl) rfl
theorem q30 : (Jvm.Cond.code ({ cls := "java/lang/Object", name := "<init>", desc := "()V" } : Jvm.MethodName) object_method_1_code (1 : Nat) (Option.none : Option Jvm.ClassFile.FieldType)) ∈ lw_all := lw_g (lw_at lw_m1 10 rfl) rfl

theorem q71 : (Jvm.Cond.arrayClass Jvm.ClassFile.FieldType.int) ∈ lw_all := lw_g (lw_at lw_m1 51 rfl) rfl
set_option maxRecDepth 100000
theorem q72 : (Jvm.Cond.arrayClass Jvm.ClassFile.FieldType.boolean) ∈ lw_all := lw_g (lw_at lw_m1 52 rfl) rfl
end
section
/-! ZonedLogStoreModel -/
set_option maxRecDepth 100000
def RX1 : String := "ZonedLogStoreModel"
def TX1 : u_T := fun k => match k with
  | 0 => ("ZonedLogStoreModel", "on", "Z", false)
  | 1 => ("ZonedLogStoreModel", "open", "Z", false)
  | 2 => ("ZonedLogStoreModel", "now", "[I", false)
  | 3 => ("ZonedLogStoreModel", "kept", "[I", false)
  | _ => ("ZonedLogStoreModel", "fresh", "[Z", false)
def tyX1 : Nat → FieldType := fun k => match k with
  | 0 => .boolean
  | 1 => .boolean
  | 2 => .array .int
  | 3 => .array .int
  | _ => .array .boolean
abbrev wsX10 : List Cond := u_ws RX1 TX1 5
theorem nmX1 : ∀ a, a < 5 → ∀ b, b < 5 → a ≠ b → (TX1 a).2.1 ≠ (TX1 b).2.1 := by decide +kernel
theorem tyX1_ok : ∀ k, k < 5 → parseFieldDescriptor (TX1 k).2.2.1 = some (tyX1 k) := by decide +kernel
abbrev cX1_init : ByteArray := prog_3_method_1_code
def yX1_init : MethodName := ⟨RX1, "<init>", "()V"⟩
theorem dX1_init_0 : decode cX1_init 0 = .ok (.aload_n 0, 1) := by decide +kernel
theorem dX1_init_1 : decode cX1_init 1 = .ok (.invokespecial 1, 3) := by decide +kernel
theorem dX1_init_4 : decode cX1_init 4 = .ok (.aload_n 0, 1) := by decide +kernel
theorem dX1_init_5 : decode cX1_init 5 = .ok (.iconst 1, 1) := by decide +kernel
theorem dX1_init_6 : decode cX1_init 6 = .ok (.putfield 7, 3) := by decide +kernel
theorem dX1_init_9 : decode cX1_init 9 = .ok (.aload_n 0, 1) := by decide +kernel
theorem dX1_init_10 : decode cX1_init 10 = .ok (.bipush 16, 2) := by decide +kernel
theorem dX1_init_12 : decode cX1_init 12 = .ok (.newarray .int, 2) := by decide +kernel
theorem dX1_init_14 : decode cX1_init 14 = .ok (.putfield 13, 3) := by decide +kernel
theorem dX1_init_17 : decode cX1_init 17 = .ok (.aload_n 0, 1) := by decide +kernel
theorem dX1_init_18 : decode cX1_init 18 = .ok (.bipush 16, 2) := by decide +kernel
theorem dX1_init_20 : decode cX1_init 20 = .ok (.newarray .int, 2) := by decide +kernel
theorem dX1_init_22 : decode cX1_init 22 = .ok (.putfield 17, 3) := by decide +kernel
theorem dX1_init_25 : decode cX1_init 25 = .ok (.aload_n 0, 1) := by decide +kernel
theorem dX1_init_26 : decode cX1_init 26 = .ok (.bipush 16, 2) := by decide +kernel
theorem dX1_init_28 : decode cX1_init 28 = .ok (.newarray .boolean, 2) := by decide +kernel
theorem dX1_init_30 : decode cX1_init 30 = .ok (.putfield 20, 3) := by decide +kernel
theorem dX1_init_33 : decode cX1_init 33 = .ok (.return_, 1) := by decide +kernel
abbrev cX1_up : ByteArray := prog_3_method_5_code
def yX1_up : MethodName := ⟨RX1, "up", "()I"⟩
theorem dX1_up_0 : decode cX1_up 0 = .ok (.aload_n 0, 1) := by decide +kernel
theorem dX1_up_1 : decode cX1_up 1 = .ok (.getfield 7, 3) := by decide +kernel
theorem dX1_up_4 : decode cX1_up 4 = .ok (.ifCond .eq 7, 3) := by decide +kernel
theorem dX1_up_7 : decode cX1_up 7 = .ok (.iconst 1, 1) := by decide +kernel
theorem dX1_up_8 : decode cX1_up 8 = .ok (.goto 4, 3) := by decide +kernel
theorem dX1_up_11 : decode cX1_up 11 = .ok (.iconst 0, 1) := by decide +kernel
theorem dX1_up_12 : decode cX1_up 12 = .ok (.ireturn, 1) := by decide +kernel
abbrev cX1_read : ByteArray := prog_3_method_6_code
def yX1_read : MethodName := ⟨RX1, "read", "(I)I"⟩
theorem dX1_read_0 : decode cX1_read 0 = .ok (.aload_n 0, 1) := by decide +kernel
theorem dX1_read_1 : decode cX1_read 1 = .ok (.getfield 7, 3) := by decide +kernel
theorem dX1_read_4 : decode cX1_read 4 = .ok (.ifCond .eq 20, 3) := by decide +kernel
theorem dX1_read_7 : decode cX1_read 7 = .ok (.aload_n 0, 1) := by decide +kernel
theorem dX1_read_8 : decode cX1_read 8 = .ok (.iload_n 1, 1) := by decide +kernel
theorem dX1_read_9 : decode cX1_read 9 = .ok (.invokevirtual 28, 3) := by decide +kernel
theorem dX1_read_12 : decode cX1_read 12 = .ok (.ifCond .ne 12, 3) := by decide +kernel
theorem dX1_read_15 : decode cX1_read 15 = .ok (.aload_n 0, 1) := by decide +kernel
theorem dX1_read_16 : decode cX1_read 16 = .ok (.getfield 13, 3) := by decide +kernel
theorem dX1_read_19 : decode cX1_read 19 = .ok (.iload_n 1, 1) := by decide +kernel
theorem dX1_read_20 : decode cX1_read 20 = .ok (.iaload, 1) := by decide +kernel
theorem dX1_read_21 : decode cX1_read 21 = .ok (.goto 4, 3) := by decide +kernel
theorem dX1_read_24 : decode cX1_read 24 = .ok (.iconst 0, 1) := by decide +kernel
theorem dX1_read_25 : decode cX1_read 25 = .ok (.ireturn, 1) := by decide +kernel
abbrev cX1_bad : ByteArray := prog_3_method_2_code
def yX1_bad : MethodName := ⟨RX1, "bad", "(I)Z"⟩
theorem dX1_bad_0 : decode cX1_bad 0 = .ok (.iload_n 1, 1) := by decide +kernel
theorem dX1_bad_1 : decode cX1_bad 1 = .ok (.ifCond .lt 9, 3) := by decide +kernel
theorem dX1_bad_4 : decode cX1_bad 4 = .ok (.iload_n 1, 1) := by decide +kernel
theorem dX1_bad_5 : decode cX1_bad 5 = .ok (.bipush 15, 2) := by decide +kernel
theorem dX1_bad_7 : decode cX1_bad 7 = .ok (.if_icmp .le 7, 3) := by decide +kernel
theorem dX1_bad_10 : decode cX1_bad 10 = .ok (.iconst 1, 1) := by decide +kernel
theorem dX1_bad_11 : decode cX1_bad 11 = .ok (.goto 4, 3) := by decide +kernel
theorem dX1_bad_14 : decode cX1_bad 14 = .ok (.iconst 0, 1) := by decide +kernel
theorem dX1_bad_15 : decode cX1_bad 15 = .ok (.ireturn, 1) := by decide +kernel
abbrev cX1_write : ByteArray := prog_3_method_8_code
def yX1_write : MethodName := ⟨RX1, "write", "(II)I"⟩
theorem dX1_write_0 : decode cX1_write 0 = .ok (.aload_n 0, 1) := by decide +kernel
theorem dX1_write_1 : decode cX1_write 1 = .ok (.getfield 7, 3) := by decide +kernel
theorem dX1_write_4 : decode cX1_write 4 = .ok (.ifCond .ne 5, 3) := by decide +kernel
theorem dX1_write_7 : decode cX1_write 7 = .ok (.iconst (-1), 1) := by decide +kernel
theorem dX1_write_8 : decode cX1_write 8 = .ok (.ireturn, 1) := by decide +kernel
theorem dX1_write_9 : decode cX1_write 9 = .ok (.aload_n 0, 1) := by decide +kernel
theorem dX1_write_10 : decode cX1_write 10 = .ok (.iload_n 1, 1) := by decide +kernel
theorem dX1_write_11 : decode cX1_write 11 = .ok (.invokevirtual 28, 3) := by decide +kernel
theorem dX1_write_14 : decode cX1_write 14 = .ok (.ifCond .eq 6, 3) := by decide +kernel
theorem dX1_write_17 : decode cX1_write 17 = .ok (.bipush (-2), 2) := by decide +kernel
theorem dX1_write_19 : decode cX1_write 19 = .ok (.ireturn, 1) := by decide +kernel
theorem dX1_write_20 : decode cX1_write 20 = .ok (.aload_n 0, 1) := by decide +kernel
theorem dX1_write_21 : decode cX1_write 21 = .ok (.getfield 32, 3) := by decide +kernel
theorem dX1_write_24 : decode cX1_write 24 = .ok (.ifCond .eq 24, 3) := by decide +kernel
theorem dX1_write_27 : decode cX1_write 27 = .ok (.aload_n 0, 1) := by decide +kernel
theorem dX1_write_28 : decode cX1_write 28 = .ok (.invokevirtual 24, 3) := by decide +kernel
theorem dX1_write_31 : decode cX1_write 31 = .ok (.bipush 6, 2) := by decide +kernel
theorem dX1_write_33 : decode cX1_write 33 = .ok (.if_icmp .ne 15, 3) := by decide +kernel
theorem dX1_write_36 : decode cX1_write 36 = .ok (.aload_n 0, 1) := by decide +kernel
theorem dX1_write_37 : decode cX1_write 37 = .ok (.getfield 20, 3) := by decide +kernel
theorem dX1_write_40 : decode cX1_write 40 = .ok (.iload_n 1, 1) := by decide +kernel
theorem dX1_write_41 : decode cX1_write 41 = .ok (.baload, 1) := by decide +kernel
theorem dX1_write_42 : decode cX1_write 42 = .ok (.ifCond .ne 6, 3) := by decide +kernel
theorem dX1_write_45 : decode cX1_write 45 = .ok (.bipush (-3), 2) := by decide +kernel
theorem dX1_write_47 : decode cX1_write 47 = .ok (.ireturn, 1) := by decide +kernel
theorem dX1_write_48 : decode cX1_write 48 = .ok (.aload_n 0, 1) := by decide +kernel
theorem dX1_write_49 : decode cX1_write 49 = .ok (.iload_n 1, 1) := by decide +kernel
theorem dX1_write_50 : decode cX1_write 50 = .ok (.iload_n 2, 1) := by decide +kernel
theorem dX1_write_51 : decode cX1_write 51 = .ok (.invokevirtual 39, 3) := by decide +kernel
theorem dX1_write_54 : decode cX1_write 54 = .ok (.iconst 0, 1) := by decide +kernel
theorem dX1_write_55 : decode cX1_write 55 = .ok (.ireturn, 1) := by decide +kernel
abbrev cX1_freshCount : ByteArray := prog_3_method_3_code
def yX1_freshCount : MethodName := ⟨RX1, "freshCount", "()I"⟩
theorem dX1_freshCount_0 : decode cX1_freshCount 0 = .ok (.iconst 0, 1) := by decide +kernel
theorem dX1_freshCount_1 : decode cX1_freshCount 1 = .ok (.istore_n 1, 1) := by decide +kernel
theorem dX1_freshCount_2 : decode cX1_freshCount 2 = .ok (.iconst 0, 1) := by decide +kernel
theorem dX1_freshCount_3 : decode cX1_freshCount 3 = .ok (.istore_n 2, 1) := by decide +kernel
theorem dX1_freshCount_4 : decode cX1_freshCount 4 = .ok (.iload_n 2, 1) := by decide +kernel
theorem dX1_freshCount_5 : decode cX1_freshCount 5 = .ok (.bipush 16, 2) := by decide +kernel
theorem dX1_freshCount_7 : decode cX1_freshCount 7 = .ok (.if_icmp .ge 21, 3) := by decide +kernel
theorem dX1_freshCount_10 : decode cX1_freshCount 10 = .ok (.aload_n 0, 1) := by decide +kernel
theorem dX1_freshCount_11 : decode cX1_freshCount 11 = .ok (.getfield 20, 3) := by decide +kernel
theorem dX1_freshCount_14 : decode cX1_freshCount 14 = .ok (.iload_n 2, 1) := by decide +kernel
theorem dX1_freshCount_15 : decode cX1_freshCount 15 = .ok (.baload, 1) := by decide +kernel
theorem dX1_freshCount_16 : decode cX1_freshCount 16 = .ok (.ifCond .eq 6, 3) := by decide +kernel
theorem dX1_freshCount_19 : decode cX1_freshCount 19 = .ok (.iinc 1 1, 3) := by decide +kernel
theorem dX1_freshCount_22 : decode cX1_freshCount 22 = .ok (.iinc 2 1, 3) := by decide +kernel
theorem dX1_freshCount_25 : decode cX1_freshCount 25 = .ok (.goto (-21), 3) := by decide +kernel
theorem dX1_freshCount_28 : decode cX1_freshCount 28 = .ok (.iload_n 1, 1) := by decide +kernel
theorem dX1_freshCount_29 : decode cX1_freshCount 29 = .ok (.ireturn, 1) := by decide +kernel
abbrev cX1_put : ByteArray := prog_3_method_7_code
def yX1_put : MethodName := ⟨RX1, "put", "(II)V"⟩
theorem dX1_put_0 : decode cX1_put 0 = .ok (.aload_n 0, 1) := by decide +kernel
theorem dX1_put_1 : decode cX1_put 1 = .ok (.getfield 32, 3) := by decide +kernel
theorem dX1_put_4 : decode cX1_put 4 = .ok (.ifCond .ne 27, 3) := by decide +kernel
theorem dX1_put_7 : decode cX1_put 7 = .ok (.aload_n 0, 1) := by decide +kernel
theorem dX1_put_8 : decode cX1_put 8 = .ok (.invokevirtual 24, 3) := by decide +kernel
theorem dX1_put_11 : decode cX1_put 11 = .ok (.bipush 6, 2) := by decide +kernel
theorem dX1_put_13 : decode cX1_put 13 = .ok (.if_icmp .ne 18, 3) := by decide +kernel
theorem dX1_put_16 : decode cX1_put 16 = .ok (.aload_n 0, 1) := by decide +kernel
theorem dX1_put_17 : decode cX1_put 17 = .ok (.getfield 20, 3) := by decide +kernel
theorem dX1_put_20 : decode cX1_put 20 = .ok (.iload_n 1, 1) := by decide +kernel
theorem dX1_put_21 : decode cX1_put 21 = .ok (.baload, 1) := by decide +kernel
theorem dX1_put_22 : decode cX1_put 22 = .ok (.ifCond .ne 9, 3) := by decide +kernel
theorem dX1_put_25 : decode cX1_put 25 = .ok (.aload_n 0, 1) := by decide +kernel
theorem dX1_put_26 : decode cX1_put 26 = .ok (.iconst 1, 1) := by decide +kernel
theorem dX1_put_27 : decode cX1_put 27 = .ok (.invokevirtual 35, 3) := by decide +kernel
theorem dX1_put_30 : decode cX1_put 30 = .ok (.pop, 1) := by decide +kernel
theorem dX1_put_31 : decode cX1_put 31 = .ok (.aload_n 0, 1) := by decide +kernel
theorem dX1_put_32 : decode cX1_put 32 = .ok (.getfield 13, 3) := by decide +kernel
theorem dX1_put_35 : decode cX1_put 35 = .ok (.iload_n 1, 1) := by decide +kernel
theorem dX1_put_36 : decode cX1_put 36 = .ok (.iload_n 2, 1) := by decide +kernel
theorem dX1_put_37 : decode cX1_put 37 = .ok (.iastore, 1) := by decide +kernel
theorem dX1_put_38 : decode cX1_put 38 = .ok (.aload_n 0, 1) := by decide +kernel
theorem dX1_put_39 : decode cX1_put 39 = .ok (.getfield 20, 3) := by decide +kernel
theorem dX1_put_42 : decode cX1_put 42 = .ok (.iload_n 1, 1) := by decide +kernel
theorem dX1_put_43 : decode cX1_put 43 = .ok (.iconst 1, 1) := by decide +kernel
theorem dX1_put_44 : decode cX1_put 44 = .ok (.bastore, 1) := by decide +kernel
theorem dX1_put_45 : decode cX1_put 45 = .ok (.return_, 1) := by decide +kernel
abbrev cX1_settle : ByteArray := prog_3_method_4_code
def yX1_settle : MethodName := ⟨RX1, "settle", "(Z)I"⟩
theorem dX1_settle_0 : decode cX1_settle 0 = .ok (.aload_n 0, 1) := by decide +kernel
theorem dX1_settle_1 : decode cX1_settle 1 = .ok (.invokevirtual 24, 3) := by decide +kernel
theorem dX1_settle_4 : decode cX1_settle 4 = .ok (.istore_n 2, 1) := by decide +kernel
theorem dX1_settle_5 : decode cX1_settle 5 = .ok (.iconst 0, 1) := by decide +kernel
theorem dX1_settle_6 : decode cX1_settle 6 = .ok (.istore_n 3, 1) := by decide +kernel
theorem dX1_settle_7 : decode cX1_settle 7 = .ok (.iload_n 3, 1) := by decide +kernel
theorem dX1_settle_8 : decode cX1_settle 8 = .ok (.bipush 16, 2) := by decide +kernel
theorem dX1_settle_10 : decode cX1_settle 10 = .ok (.if_icmp .ge 47, 3) := by decide +kernel
theorem dX1_settle_13 : decode cX1_settle 13 = .ok (.iload_n 1, 1) := by decide +kernel
theorem dX1_settle_14 : decode cX1_settle 14 = .ok (.ifCond .eq 18, 3) := by decide +kernel
theorem dX1_settle_17 : decode cX1_settle 17 = .ok (.aload_n 0, 1) := by decide +kernel
theorem dX1_settle_18 : decode cX1_settle 18 = .ok (.getfield 17, 3) := by decide +kernel
theorem dX1_settle_21 : decode cX1_settle 21 = .ok (.iload_n 3, 1) := by decide +kernel
theorem dX1_settle_22 : decode cX1_settle 22 = .ok (.aload_n 0, 1) := by decide +kernel
theorem dX1_settle_23 : decode cX1_settle 23 = .ok (.getfield 13, 3) := by decide +kernel
theorem dX1_settle_26 : decode cX1_settle 26 = .ok (.iload_n 3, 1) := by decide +kernel
theorem dX1_settle_27 : decode cX1_settle 27 = .ok (.iaload, 1) := by decide +kernel
theorem dX1_settle_28 : decode cX1_settle 28 = .ok (.iastore, 1) := by decide +kernel
theorem dX1_settle_29 : decode cX1_settle 29 = .ok (.goto 15, 3) := by decide +kernel
theorem dX1_settle_32 : decode cX1_settle 32 = .ok (.aload_n 0, 1) := by decide +kernel
theorem dX1_settle_33 : decode cX1_settle 33 = .ok (.getfield 13, 3) := by decide +kernel
theorem dX1_settle_36 : decode cX1_settle 36 = .ok (.iload_n 3, 1) := by decide +kernel
theorem dX1_settle_37 : decode cX1_settle 37 = .ok (.aload_n 0, 1) := by decide +kernel
theorem dX1_settle_38 : decode cX1_settle 38 = .ok (.getfield 17, 3) := by decide +kernel
theorem dX1_settle_41 : decode cX1_settle 41 = .ok (.iload_n 3, 1) := by decide +kernel
theorem dX1_settle_42 : decode cX1_settle 42 = .ok (.iaload, 1) := by decide +kernel
theorem dX1_settle_43 : decode cX1_settle 43 = .ok (.iastore, 1) := by decide +kernel
theorem dX1_settle_44 : decode cX1_settle 44 = .ok (.aload_n 0, 1) := by decide +kernel
theorem dX1_settle_45 : decode cX1_settle 45 = .ok (.getfield 20, 3) := by decide +kernel
theorem dX1_settle_48 : decode cX1_settle 48 = .ok (.iload_n 3, 1) := by decide +kernel
theorem dX1_settle_49 : decode cX1_settle 49 = .ok (.iconst 0, 1) := by decide +kernel
theorem dX1_settle_50 : decode cX1_settle 50 = .ok (.bastore, 1) := by decide +kernel
theorem dX1_settle_51 : decode cX1_settle 51 = .ok (.iinc 3 1, 3) := by decide +kernel
theorem dX1_settle_54 : decode cX1_settle 54 = .ok (.goto (-47), 3) := by decide +kernel
theorem dX1_settle_57 : decode cX1_settle 57 = .ok (.iload_n 2, 1) := by decide +kernel
theorem dX1_settle_58 : decode cX1_settle 58 = .ok (.ireturn, 1) := by decide +kernel
abbrev cX1_fill : ByteArray := prog_3_method_9_code
def yX1_fill : MethodName := ⟨RX1, "fill", "(IIII)I"⟩
theorem dX1_fill_0 : decode cX1_fill 0 = .ok (.aload_n 0, 1) := by decide +kernel
theorem dX1_fill_1 : decode cX1_fill 1 = .ok (.getfield 7, 3) := by decide +kernel
theorem dX1_fill_4 : decode cX1_fill 4 = .ok (.ifCond .ne 5, 3) := by decide +kernel
theorem dX1_fill_7 : decode cX1_fill 7 = .ok (.iconst (-1), 1) := by decide +kernel
theorem dX1_fill_8 : decode cX1_fill 8 = .ok (.ireturn, 1) := by decide +kernel
theorem dX1_fill_9 : decode cX1_fill 9 = .ok (.iload_n 2, 1) := by decide +kernel
theorem dX1_fill_10 : decode cX1_fill 10 = .ok (.iconst 1, 1) := by decide +kernel
theorem dX1_fill_11 : decode cX1_fill 11 = .ok (.if_icmp .lt 21, 3) := by decide +kernel
theorem dX1_fill_14 : decode cX1_fill 14 = .ok (.iload_n 2, 1) := by decide +kernel
theorem dX1_fill_15 : decode cX1_fill 15 = .ok (.bipush 16, 2) := by decide +kernel
theorem dX1_fill_17 : decode cX1_fill 17 = .ok (.if_icmp .gt 15, 3) := by decide +kernel
theorem dX1_fill_20 : decode cX1_fill 20 = .ok (.iload_n 1, 1) := by decide +kernel
theorem dX1_fill_21 : decode cX1_fill 21 = .ok (.ifCond .lt 11, 3) := by decide +kernel
theorem dX1_fill_24 : decode cX1_fill 24 = .ok (.iload_n 1, 1) := by decide +kernel
theorem dX1_fill_25 : decode cX1_fill 25 = .ok (.bipush 16, 2) := by decide +kernel
theorem dX1_fill_27 : decode cX1_fill 27 = .ok (.iload_n 2, 1) := by decide +kernel
theorem dX1_fill_28 : decode cX1_fill 28 = .ok (.isub, 1) := by decide +kernel
theorem dX1_fill_29 : decode cX1_fill 29 = .ok (.if_icmp .le 6, 3) := by decide +kernel
theorem dX1_fill_32 : decode cX1_fill 32 = .ok (.bipush (-2), 2) := by decide +kernel
theorem dX1_fill_34 : decode cX1_fill 34 = .ok (.ireturn, 1) := by decide +kernel
theorem dX1_fill_35 : decode cX1_fill 35 = .ok (.aload_n 0, 1) := by decide +kernel
theorem dX1_fill_36 : decode cX1_fill 36 = .ok (.getfield 32, 3) := by decide +kernel
theorem dX1_fill_39 : decode cX1_fill 39 = .ok (.ifCond .eq 6, 3) := by decide +kernel
theorem dX1_fill_42 : decode cX1_fill 42 = .ok (.bipush (-3), 2) := by decide +kernel
theorem dX1_fill_44 : decode cX1_fill 44 = .ok (.ireturn, 1) := by decide +kernel
theorem dX1_fill_45 : decode cX1_fill 45 = .ok (.iconst 0, 1) := by decide +kernel
theorem dX1_fill_46 : decode cX1_fill 46 = .ok (.istore 5, 2) := by decide +kernel
theorem dX1_fill_48 : decode cX1_fill 48 = .ok (.iload 5, 2) := by decide +kernel
theorem dX1_fill_50 : decode cX1_fill 50 = .ok (.iload_n 2, 1) := by decide +kernel
theorem dX1_fill_51 : decode cX1_fill 51 = .ok (.if_icmp .ge 24, 3) := by decide +kernel
theorem dX1_fill_54 : decode cX1_fill 54 = .ok (.aload_n 0, 1) := by decide +kernel
theorem dX1_fill_55 : decode cX1_fill 55 = .ok (.iload_n 1, 1) := by decide +kernel
theorem dX1_fill_56 : decode cX1_fill 56 = .ok (.iload 5, 2) := by decide +kernel
theorem dX1_fill_58 : decode cX1_fill 58 = .ok (.iadd, 1) := by decide +kernel
theorem dX1_fill_59 : decode cX1_fill 59 = .ok (.iload_n 3, 1) := by decide +kernel
theorem dX1_fill_60 : decode cX1_fill 60 = .ok (.iload 5, 2) := by decide +kernel
theorem dX1_fill_62 : decode cX1_fill 62 = .ok (.iload 4, 2) := by decide +kernel
theorem dX1_fill_64 : decode cX1_fill 64 = .ok (.imul, 1) := by decide +kernel
theorem dX1_fill_65 : decode cX1_fill 65 = .ok (.iadd, 1) := by decide +kernel
theorem dX1_fill_66 : decode cX1_fill 66 = .ok (.invokevirtual 39, 3) := by decide +kernel
theorem dX1_fill_69 : decode cX1_fill 69 = .ok (.iinc 5 1, 3) := by decide +kernel
theorem dX1_fill_72 : decode cX1_fill 72 = .ok (.goto (-24), 3) := by decide +kernel
theorem dX1_fill_75 : decode cX1_fill 75 = .ok (.iconst 0, 1) := by decide +kernel
theorem dX1_fill_76 : decode cX1_fill 76 = .ok (.ireturn, 1) := by decide +kernel
abbrev cX1_sync : ByteArray := prog_3_method_10_code
def yX1_sync : MethodName := ⟨RX1, "sync", "()I"⟩
theorem dX1_sync_0 : decode cX1_sync 0 = .ok (.aload_n 0, 1) := by decide +kernel
theorem dX1_sync_1 : decode cX1_sync 1 = .ok (.getfield 7, 3) := by decide +kernel
theorem dX1_sync_4 : decode cX1_sync 4 = .ok (.ifCond .ne 5, 3) := by decide +kernel
theorem dX1_sync_7 : decode cX1_sync 7 = .ok (.iconst (-1), 1) := by decide +kernel
theorem dX1_sync_8 : decode cX1_sync 8 = .ok (.ireturn, 1) := by decide +kernel
theorem dX1_sync_9 : decode cX1_sync 9 = .ok (.aload_n 0, 1) := by decide +kernel
theorem dX1_sync_10 : decode cX1_sync 10 = .ok (.getfield 32, 3) := by decide +kernel
theorem dX1_sync_13 : decode cX1_sync 13 = .ok (.ifCond .eq 6, 3) := by decide +kernel
theorem dX1_sync_16 : decode cX1_sync 16 = .ok (.bipush (-2), 2) := by decide +kernel
theorem dX1_sync_18 : decode cX1_sync 18 = .ok (.ireturn, 1) := by decide +kernel
theorem dX1_sync_19 : decode cX1_sync 19 = .ok (.aload_n 0, 1) := by decide +kernel
theorem dX1_sync_20 : decode cX1_sync 20 = .ok (.iconst 1, 1) := by decide +kernel
theorem dX1_sync_21 : decode cX1_sync 21 = .ok (.invokevirtual 35, 3) := by decide +kernel
theorem dX1_sync_24 : decode cX1_sync 24 = .ok (.ireturn, 1) := by decide +kernel
abbrev cX1_begin : ByteArray := prog_3_method_11_code
def yX1_begin : MethodName := ⟨RX1, "begin", "()I"⟩
theorem dX1_begin_0 : decode cX1_begin 0 = .ok (.aload_n 0, 1) := by decide +kernel
theorem dX1_begin_1 : decode cX1_begin 1 = .ok (.getfield 7, 3) := by decide +kernel
theorem dX1_begin_4 : decode cX1_begin 4 = .ok (.ifCond .ne 5, 3) := by decide +kernel
theorem dX1_begin_7 : decode cX1_begin 7 = .ok (.iconst (-1), 1) := by decide +kernel
theorem dX1_begin_8 : decode cX1_begin 8 = .ok (.ireturn, 1) := by decide +kernel
theorem dX1_begin_9 : decode cX1_begin 9 = .ok (.aload_n 0, 1) := by decide +kernel
theorem dX1_begin_10 : decode cX1_begin 10 = .ok (.getfield 32, 3) := by decide +kernel
theorem dX1_begin_13 : decode cX1_begin 13 = .ok (.ifCond .eq 6, 3) := by decide +kernel
theorem dX1_begin_16 : decode cX1_begin 16 = .ok (.bipush (-2), 2) := by decide +kernel
theorem dX1_begin_18 : decode cX1_begin 18 = .ok (.ireturn, 1) := by decide +kernel
theorem dX1_begin_19 : decode cX1_begin 19 = .ok (.aload_n 0, 1) := by decide +kernel
theorem dX1_begin_20 : decode cX1_begin 20 = .ok (.iconst 1, 1) := by decide +kernel
theorem dX1_begin_21 : decode cX1_begin 21 = .ok (.invokevirtual 35, 3) := by decide +kernel
theorem dX1_begin_24 : decode cX1_begin 24 = .ok (.pop, 1) := by decide +kernel
theorem dX1_begin_25 : decode cX1_begin 25 = .ok (.aload_n 0, 1) := by decide +kernel
theorem dX1_begin_26 : decode cX1_begin 26 = .ok (.iconst 1, 1) := by decide +kernel
theorem dX1_begin_27 : decode cX1_begin 27 = .ok (.putfield 32, 3) := by decide +kernel
theorem dX1_begin_30 : decode cX1_begin 30 = .ok (.iconst 0, 1) := by decide +kernel
theorem dX1_begin_31 : decode cX1_begin 31 = .ok (.ireturn, 1) := by decide +kernel
abbrev cX1_commit : ByteArray := prog_3_method_12_code
def yX1_commit : MethodName := ⟨RX1, "commit", "()I"⟩
theorem dX1_commit_0 : decode cX1_commit 0 = .ok (.aload_n 0, 1) := by decide +kernel
theorem dX1_commit_1 : decode cX1_commit 1 = .ok (.getfield 7, 3) := by decide +kernel
theorem dX1_commit_4 : decode cX1_commit 4 = .ok (.ifCond .ne 5, 3) := by decide +kernel
theorem dX1_commit_7 : decode cX1_commit 7 = .ok (.iconst (-1), 1) := by decide +kernel
theorem dX1_commit_8 : decode cX1_commit 8 = .ok (.ireturn, 1) := by decide +kernel
theorem dX1_commit_9 : decode cX1_commit 9 = .ok (.aload_n 0, 1) := by decide +kernel
theorem dX1_commit_10 : decode cX1_commit 10 = .ok (.getfield 32, 3) := by decide +kernel
theorem dX1_commit_13 : decode cX1_commit 13 = .ok (.ifCond .ne 6, 3) := by decide +kernel
theorem dX1_commit_16 : decode cX1_commit 16 = .ok (.bipush (-2), 2) := by decide +kernel
theorem dX1_commit_18 : decode cX1_commit 18 = .ok (.ireturn, 1) := by decide +kernel
theorem dX1_commit_19 : decode cX1_commit 19 = .ok (.aload_n 0, 1) := by decide +kernel
theorem dX1_commit_20 : decode cX1_commit 20 = .ok (.iconst 0, 1) := by decide +kernel
theorem dX1_commit_21 : decode cX1_commit 21 = .ok (.putfield 32, 3) := by decide +kernel
theorem dX1_commit_24 : decode cX1_commit 24 = .ok (.aload_n 0, 1) := by decide +kernel
theorem dX1_commit_25 : decode cX1_commit 25 = .ok (.iconst 1, 1) := by decide +kernel
theorem dX1_commit_26 : decode cX1_commit 26 = .ok (.invokevirtual 35, 3) := by decide +kernel
theorem dX1_commit_29 : decode cX1_commit 29 = .ok (.ireturn, 1) := by decide +kernel
abbrev cX1_abort : ByteArray := prog_3_method_13_code
def yX1_abort : MethodName := ⟨RX1, "abort", "()I"⟩
theorem dX1_abort_0 : decode cX1_abort 0 = .ok (.aload_n 0, 1) := by decide +kernel
theorem dX1_abort_1 : decode cX1_abort 1 = .ok (.getfield 7, 3) := by decide +kernel
theorem dX1_abort_4 : decode cX1_abort 4 = .ok (.ifCond .ne 5, 3) := by decide +kernel
theorem dX1_abort_7 : decode cX1_abort 7 = .ok (.iconst (-1), 1) := by decide +kernel
theorem dX1_abort_8 : decode cX1_abort 8 = .ok (.ireturn, 1) := by decide +kernel
theorem dX1_abort_9 : decode cX1_abort 9 = .ok (.aload_n 0, 1) := by decide +kernel
theorem dX1_abort_10 : decode cX1_abort 10 = .ok (.getfield 32, 3) := by decide +kernel
theorem dX1_abort_13 : decode cX1_abort 13 = .ok (.ifCond .ne 6, 3) := by decide +kernel
theorem dX1_abort_16 : decode cX1_abort 16 = .ok (.bipush (-2), 2) := by decide +kernel
theorem dX1_abort_18 : decode cX1_abort 18 = .ok (.ireturn, 1) := by decide +kernel
theorem dX1_abort_19 : decode cX1_abort 19 = .ok (.aload_n 0, 1) := by decide +kernel
theorem dX1_abort_20 : decode cX1_abort 20 = .ok (.iconst 0, 1) := by decide +kernel
theorem dX1_abort_21 : decode cX1_abort 21 = .ok (.putfield 32, 3) := by decide +kernel
theorem dX1_abort_24 : decode cX1_abort 24 = .ok (.aload_n 0, 1) := by decide +kernel
theorem dX1_abort_25 : decode cX1_abort 25 = .ok (.iconst 0, 1) := by decide +kernel
theorem dX1_abort_26 : decode cX1_abort 26 = .ok (.invokevirtual 35, 3) := by decide +kernel
theorem dX1_abort_29 : decode cX1_abort 29 = .ok (.ireturn, 1) := by decide +kernel
abbrev cX1_crash : ByteArray := prog_3_method_14_code
def yX1_crash : MethodName := ⟨RX1, "crash", "()I"⟩
theorem dX1_crash_0 : decode cX1_crash 0 = .ok (.aload_n 0, 1) := by decide +kernel
theorem dX1_crash_1 : decode cX1_crash 1 = .ok (.getfield 7, 3) := by decide +kernel
theorem dX1_crash_4 : decode cX1_crash 4 = .ok (.ifCond .ne 5, 3) := by decide +kernel
theorem dX1_crash_7 : decode cX1_crash 7 = .ok (.iconst (-1), 1) := by decide +kernel
theorem dX1_crash_8 : decode cX1_crash 8 = .ok (.ireturn, 1) := by decide +kernel
theorem dX1_crash_9 : decode cX1_crash 9 = .ok (.aload_n 0, 1) := by decide +kernel
theorem dX1_crash_10 : decode cX1_crash 10 = .ok (.iconst 0, 1) := by decide +kernel
theorem dX1_crash_11 : decode cX1_crash 11 = .ok (.putfield 7, 3) := by decide +kernel
theorem dX1_crash_14 : decode cX1_crash 14 = .ok (.aload_n 0, 1) := by decide +kernel
theorem dX1_crash_15 : decode cX1_crash 15 = .ok (.iconst 0, 1) := by decide +kernel
theorem dX1_crash_16 : decode cX1_crash 16 = .ok (.putfield 32, 3) := by decide +kernel
theorem dX1_crash_19 : decode cX1_crash 19 = .ok (.aload_n 0, 1) := by decide +kernel
theorem dX1_crash_20 : decode cX1_crash 20 = .ok (.iconst 0, 1) := by decide +kernel
theorem dX1_crash_21 : decode cX1_crash 21 = .ok (.invokevirtual 35, 3) := by decide +kernel
theorem dX1_crash_24 : decode cX1_crash 24 = .ok (.ireturn, 1) := by decide +kernel
abbrev cX1_crashIn : ByteArray := prog_3_method_15_code
def yX1_crashIn : MethodName := ⟨RX1, "crashIn", "(I)I"⟩
theorem dX1_crashIn_0 : decode cX1_crashIn 0 = .ok (.aload_n 0, 1) := by decide +kernel
theorem dX1_crashIn_1 : decode cX1_crashIn 1 = .ok (.getfield 7, 3) := by decide +kernel
theorem dX1_crashIn_4 : decode cX1_crashIn 4 = .ok (.ifCond .ne 5, 3) := by decide +kernel
theorem dX1_crashIn_7 : decode cX1_crashIn 7 = .ok (.iconst (-1), 1) := by decide +kernel
theorem dX1_crashIn_8 : decode cX1_crashIn 8 = .ok (.ireturn, 1) := by decide +kernel
theorem dX1_crashIn_9 : decode cX1_crashIn 9 = .ok (.iload_n 1, 1) := by decide +kernel
theorem dX1_crashIn_10 : decode cX1_crashIn 10 = .ok (.ifCond .lt 8, 3) := by decide +kernel
theorem dX1_crashIn_13 : decode cX1_crashIn 13 = .ok (.iload_n 1, 1) := by decide +kernel
theorem dX1_crashIn_14 : decode cX1_crashIn 14 = .ok (.iconst 3, 1) := by decide +kernel
theorem dX1_crashIn_15 : decode cX1_crashIn 15 = .ok (.if_icmp .le 6, 3) := by decide +kernel
theorem dX1_crashIn_18 : decode cX1_crashIn 18 = .ok (.bipush (-2), 2) := by decide +kernel
theorem dX1_crashIn_20 : decode cX1_crashIn 20 = .ok (.ireturn, 1) := by decide +kernel
theorem dX1_crashIn_21 : decode cX1_crashIn 21 = .ok (.aload_n 0, 1) := by decide +kernel
theorem dX1_crashIn_22 : decode cX1_crashIn 22 = .ok (.iload_n 1, 1) := by decide +kernel
theorem dX1_crashIn_23 : decode cX1_crashIn 23 = .ok (.iconst 3, 1) := by decide +kernel
theorem dX1_crashIn_24 : decode cX1_crashIn 24 = .ok (.if_icmp .ne 7, 3) := by decide +kernel
theorem dX1_crashIn_27 : decode cX1_crashIn 27 = .ok (.iconst 1, 1) := by decide +kernel
theorem dX1_crashIn_28 : decode cX1_crashIn 28 = .ok (.goto 4, 3) := by decide +kernel
theorem dX1_crashIn_31 : decode cX1_crashIn 31 = .ok (.iconst 0, 1) := by decide +kernel
theorem dX1_crashIn_32 : decode cX1_crashIn 32 = .ok (.invokevirtual 35, 3) := by decide +kernel
theorem dX1_crashIn_35 : decode cX1_crashIn 35 = .ok (.pop, 1) := by decide +kernel
theorem dX1_crashIn_36 : decode cX1_crashIn 36 = .ok (.aload_n 0, 1) := by decide +kernel
theorem dX1_crashIn_37 : decode cX1_crashIn 37 = .ok (.iconst 0, 1) := by decide +kernel
theorem dX1_crashIn_38 : decode cX1_crashIn 38 = .ok (.putfield 7, 3) := by decide +kernel
theorem dX1_crashIn_41 : decode cX1_crashIn 41 = .ok (.aload_n 0, 1) := by decide +kernel
theorem dX1_crashIn_42 : decode cX1_crashIn 42 = .ok (.iconst 0, 1) := by decide +kernel
theorem dX1_crashIn_43 : decode cX1_crashIn 43 = .ok (.putfield 32, 3) := by decide +kernel
theorem dX1_crashIn_46 : decode cX1_crashIn 46 = .ok (.iconst 0, 1) := by decide +kernel
theorem dX1_crashIn_47 : decode cX1_crashIn 47 = .ok (.ireturn, 1) := by decide +kernel
abbrev cX1_mount : ByteArray := prog_3_method_16_code
def yX1_mount : MethodName := ⟨RX1, "mount", "()I"⟩
theorem dX1_mount_0 : decode cX1_mount 0 = .ok (.aload_n 0, 1) := by decide +kernel
theorem dX1_mount_1 : decode cX1_mount 1 = .ok (.getfield 7, 3) := by decide +kernel
theorem dX1_mount_4 : decode cX1_mount 4 = .ok (.ifCond .eq 5, 3) := by decide +kernel
theorem dX1_mount_7 : decode cX1_mount 7 = .ok (.iconst (-1), 1) := by decide +kernel
theorem dX1_mount_8 : decode cX1_mount 8 = .ok (.ireturn, 1) := by decide +kernel
theorem dX1_mount_9 : decode cX1_mount 9 = .ok (.aload_n 0, 1) := by decide +kernel
theorem dX1_mount_10 : decode cX1_mount 10 = .ok (.iconst 1, 1) := by decide +kernel
theorem dX1_mount_11 : decode cX1_mount 11 = .ok (.putfield 7, 3) := by decide +kernel
theorem dX1_mount_14 : decode cX1_mount 14 = .ok (.iconst 0, 1) := by decide +kernel
theorem dX1_mount_15 : decode cX1_mount 15 = .ok (.ireturn, 1) := by decide +kernel
abbrev cX1_unsynced : ByteArray := prog_3_method_17_code
def yX1_unsynced : MethodName := ⟨RX1, "unsynced", "()I"⟩
theorem dX1_unsynced_0 : decode cX1_unsynced 0 = .ok (.aload_n 0, 1) := by decide +kernel
theorem dX1_unsynced_1 : decode cX1_unsynced 1 = .ok (.invokevirtual 24, 3) := by decide +kernel
theorem dX1_unsynced_4 : decode cX1_unsynced 4 = .ok (.ireturn, 1) := by decide +kernel
abbrev cX1_grouped : ByteArray := prog_3_method_18_code
def yX1_grouped : MethodName := ⟨RX1, "grouped", "()I"⟩
theorem dX1_grouped_0 : decode cX1_grouped 0 = .ok (.aload_n 0, 1) := by decide +kernel
theorem dX1_grouped_1 : decode cX1_grouped 1 = .ok (.getfield 32, 3) := by decide +kernel
theorem dX1_grouped_4 : decode cX1_grouped 4 = .ok (.ifCond .eq 7, 3) := by decide +kernel
theorem dX1_grouped_7 : decode cX1_grouped 7 = .ok (.iconst 1, 1) := by decide +kernel
theorem dX1_grouped_8 : decode cX1_grouped 8 = .ok (.goto 4, 3) := by decide +kernel
theorem dX1_grouped_11 : decode cX1_grouped 11 = .ok (.iconst 0, 1) := by decide +kernel
theorem dX1_grouped_12 : decode cX1_grouped 12 = .ok (.ireturn, 1) := by decide +kernel
abbrev cX1_pending : ByteArray := prog_3_method_19_code
def yX1_pending : MethodName := ⟨RX1, "pending", "()I"⟩
theorem dX1_pending_0 : decode cX1_pending 0 = .ok (.aload_n 0, 1) := by decide +kernel
theorem dX1_pending_1 : decode cX1_pending 1 = .ok (.getfield 7, 3) := by decide +kernel
theorem dX1_pending_4 : decode cX1_pending 4 = .ok (.ifCond .ne 5, 3) := by decide +kernel
theorem dX1_pending_7 : decode cX1_pending 7 = .ok (.iconst (-1), 1) := by decide +kernel
theorem dX1_pending_8 : decode cX1_pending 8 = .ok (.ireturn, 1) := by decide +kernel
theorem dX1_pending_9 : decode cX1_pending 9 = .ok (.iconst 0, 1) := by decide +kernel
theorem dX1_pending_10 : decode cX1_pending 10 = .ok (.istore_n 1, 1) := by decide +kernel
theorem dX1_pending_11 : decode cX1_pending 11 = .ok (.iconst 0, 1) := by decide +kernel
theorem dX1_pending_12 : decode cX1_pending 12 = .ok (.istore_n 2, 1) := by decide +kernel
theorem dX1_pending_13 : decode cX1_pending 13 = .ok (.iload_n 2, 1) := by decide +kernel
theorem dX1_pending_14 : decode cX1_pending 14 = .ok (.bipush 16, 2) := by decide +kernel
theorem dX1_pending_16 : decode cX1_pending 16 = .ok (.if_icmp .ge 27, 3) := by decide +kernel
theorem dX1_pending_19 : decode cX1_pending 19 = .ok (.aload_n 0, 1) := by decide +kernel
theorem dX1_pending_20 : decode cX1_pending 20 = .ok (.getfield 13, 3) := by decide +kernel
theorem dX1_pending_23 : decode cX1_pending 23 = .ok (.iload_n 2, 1) := by decide +kernel
theorem dX1_pending_24 : decode cX1_pending 24 = .ok (.iaload, 1) := by decide +kernel
theorem dX1_pending_25 : decode cX1_pending 25 = .ok (.aload_n 0, 1) := by decide +kernel
theorem dX1_pending_26 : decode cX1_pending 26 = .ok (.getfield 17, 3) := by decide +kernel
theorem dX1_pending_29 : decode cX1_pending 29 = .ok (.iload_n 2, 1) := by decide +kernel
theorem dX1_pending_30 : decode cX1_pending 30 = .ok (.iaload, 1) := by decide +kernel
theorem dX1_pending_31 : decode cX1_pending 31 = .ok (.if_icmp .eq 6, 3) := by decide +kernel
theorem dX1_pending_34 : decode cX1_pending 34 = .ok (.iinc 1 1, 3) := by decide +kernel
theorem dX1_pending_37 : decode cX1_pending 37 = .ok (.iinc 2 1, 3) := by decide +kernel
theorem dX1_pending_40 : decode cX1_pending 40 = .ok (.goto (-27), 3) := by decide +kernel
theorem dX1_pending_43 : decode cX1_pending 43 = .ok (.iload_n 1, 1) := by decide +kernel
theorem dX1_pending_44 : decode cX1_pending 44 = .ok (.ireturn, 1) := by decide +kernel
abbrev cX1_sum : ByteArray := prog_3_method_20_code
def yX1_sum : MethodName := ⟨RX1, "sum", "()I"⟩
theorem dX1_sum_0 : decode cX1_sum 0 = .ok (.iconst 0, 1) := by decide +kernel
theorem dX1_sum_1 : decode cX1_sum 1 = .ok (.istore_n 1, 1) := by decide +kernel
theorem dX1_sum_2 : decode cX1_sum 2 = .ok (.iconst 0, 1) := by decide +kernel
theorem dX1_sum_3 : decode cX1_sum 3 = .ok (.istore_n 2, 1) := by decide +kernel
theorem dX1_sum_4 : decode cX1_sum 4 = .ok (.iload_n 2, 1) := by decide +kernel
theorem dX1_sum_5 : decode cX1_sum 5 = .ok (.bipush 16, 2) := by decide +kernel
theorem dX1_sum_7 : decode cX1_sum 7 = .ok (.if_icmp .ge 18, 3) := by decide +kernel
theorem dX1_sum_10 : decode cX1_sum 10 = .ok (.iload_n 1, 1) := by decide +kernel
theorem dX1_sum_11 : decode cX1_sum 11 = .ok (.aload_n 0, 1) := by decide +kernel
theorem dX1_sum_12 : decode cX1_sum 12 = .ok (.getfield 13, 3) := by decide +kernel
theorem dX1_sum_15 : decode cX1_sum 15 = .ok (.iload_n 2, 1) := by decide +kernel
theorem dX1_sum_16 : decode cX1_sum 16 = .ok (.iaload, 1) := by decide +kernel
theorem dX1_sum_17 : decode cX1_sum 17 = .ok (.iadd, 1) := by decide +kernel
theorem dX1_sum_18 : decode cX1_sum 18 = .ok (.istore_n 1, 1) := by decide +kernel
theorem dX1_sum_19 : decode cX1_sum 19 = .ok (.iinc 2 1, 3) := by decide +kernel
theorem dX1_sum_22 : decode cX1_sum 22 = .ok (.goto (-18), 3) := by decide +kernel
theorem dX1_sum_25 : decode cX1_sum 25 = .ok (.aload_n 0, 1) := by decide +kernel
theorem dX1_sum_26 : decode cX1_sum 26 = .ok (.getfield 7, 3) := by decide +kernel
theorem dX1_sum_29 : decode cX1_sum 29 = .ok (.ifCond .eq 7, 3) := by decide +kernel
theorem dX1_sum_32 : decode cX1_sum 32 = .ok (.iload_n 1, 1) := by decide +kernel
theorem dX1_sum_33 : decode cX1_sum 33 = .ok (.goto 4, 3) := by decide +kernel
theorem dX1_sum_36 : decode cX1_sum 36 = .ok (.iconst 0, 1) := by decide +kernel
theorem dX1_sum_37 : decode cX1_sum 37 = .ok (.ireturn, 1) := by decide +kernel
abbrev cX1_clean : ByteArray := prog_3_method_21_code
def yX1_clean : MethodName := ⟨RX1, "clean", "()I"⟩
theorem dX1_clean_0 : decode cX1_clean 0 = .ok (.aload_n 0, 1) := by decide +kernel
theorem dX1_clean_1 : decode cX1_clean 1 = .ok (.getfield 7, 3) := by decide +kernel
theorem dX1_clean_4 : decode cX1_clean 4 = .ok (.ifCond .eq 7, 3) := by decide +kernel
theorem dX1_clean_7 : decode cX1_clean 7 = .ok (.iconst 0, 1) := by decide +kernel
theorem dX1_clean_8 : decode cX1_clean 8 = .ok (.goto 4, 3) := by decide +kernel
theorem dX1_clean_11 : decode cX1_clean 11 = .ok (.iconst (-1), 1) := by decide +kernel
theorem dX1_clean_12 : decode cX1_clean 12 = .ok (.ireturn, 1) := by decide +kernel
abbrev cX1_check : ByteArray := prog_3_method_22_code
def yX1_check : MethodName := ⟨RX1, "check", "()I"⟩
theorem dX1_check_0 : decode cX1_check 0 = .ok (.aload_n 0, 1) := by decide +kernel
theorem dX1_check_1 : decode cX1_check 1 = .ok (.getfield 7, 3) := by decide +kernel
theorem dX1_check_4 : decode cX1_check 4 = .ok (.ifCond .eq 7, 3) := by decide +kernel
theorem dX1_check_7 : decode cX1_check 7 = .ok (.iconst 0, 1) := by decide +kernel
theorem dX1_check_8 : decode cX1_check 8 = .ok (.goto 4, 3) := by decide +kernel
theorem dX1_check_11 : decode cX1_check 11 = .ok (.iconst (-1), 1) := by decide +kernel
theorem dX1_check_12 : decode cX1_check 12 = .ok (.ireturn, 1) := by decide +kernel
theorem q22 : (Jvm.Cond.initialized "ZonedLogStoreModel") ∈ lw_all := lw_g (lw_at lw_m1 2 rfl) rfl
theorem q210 : (Jvm.Cond.instantiable "ZonedLogStoreModel" (5 : Nat)) ∈ lw_all := lw_g (lw_at lw_m1 190 rfl) rfl
theorem q212 : (Jvm.Cond.instanceMethod ({ cls := "ZonedLogStoreModel", name := "<init>", desc := "()V" } : Jvm.MethodName)) ∈ lw_all := lw_g (lw_at lw_m1 192 rfl) rfl
theorem q213 : (Jvm.Cond.code ({ cls := "ZonedLogStoreModel", name := "<init>", desc := "()V" } : Jvm.MethodName) prog_3_method_1_code (1 : Nat) (Option.none : Option Jvm.ClassFile.FieldType)) ∈ lw_all := lw_g (lw_at lw_m1 193 rfl) rfl
theorem q214 : (Jvm.Cond.methodLink "ZonedLogStoreModel" (1 : Nat) ({ cls := "java/lang/Object", name := "<init>", desc := "()V" } : Jvm.MethodName)) ∈ lw_all := lw_g (lw_at lw_m1 194 rfl) rfl
theorem q215 : (Jvm.Cond.fieldLink "ZonedLogStoreModel" (7 : Nat) "ZonedLogStoreModel" "on" "Z") ∈ lw_all := lw_g (lw_at lw_m1 195 rfl) rfl
theorem q216 : (Jvm.Cond.fieldLink "ZonedLogStoreModel" (32 : Nat) "ZonedLogStoreModel" "open" "Z") ∈ lw_all := lw_g (lw_at lw_m1 196 rfl) rfl
theorem q217 : (Jvm.Cond.fieldLink "ZonedLogStoreModel" (13 : Nat) "ZonedLogStoreModel" "now" "[I") ∈ lw_all := lw_g (lw_at lw_m1 197 rfl) rfl
theorem q218 : (Jvm.Cond.fieldLink "ZonedLogStoreModel" (17 : Nat) "ZonedLogStoreModel" "kept" "[I") ∈ lw_all := lw_g (lw_at lw_m1 198 rfl) rfl
theorem q219 : (Jvm.Cond.fieldLink "ZonedLogStoreModel" (20 : Nat) "ZonedLogStoreModel" "fresh" "[Z") ∈ lw_all := lw_g (lw_at lw_m1 199 rfl) rfl
theorem q220 : (Jvm.Cond.lays "ZonedLogStoreModel" "ZonedLogStoreModel" "on" "Z") ∈ lw_all := lw_g (lw_at lw_m1 200 rfl) rfl
theorem q221 : (Jvm.Cond.soleField "ZonedLogStoreModel" "on") ∈ lw_all := lw_g (lw_at lw_m1 201 rfl) rfl
theorem q222 : (Jvm.Cond.lays "ZonedLogStoreModel" "ZonedLogStoreModel" "open" "Z") ∈ lw_all := lw_g (lw_at lw_m1 202 rfl) rfl
theorem q223 : (Jvm.Cond.soleField "ZonedLogStoreModel" "open") ∈ lw_all := lw_g (lw_at lw_m1 203 rfl) rfl
theorem q224 : (Jvm.Cond.lays "ZonedLogStoreModel" "ZonedLogStoreModel" "now" "[I") ∈ lw_all := lw_g (lw_at lw_m1 204 rfl) rfl
theorem q225 : (Jvm.Cond.soleField "ZonedLogStoreModel" "now") ∈ lw_all := lw_g (lw_at lw_m1 205 rfl) rfl
theorem q226 : (Jvm.Cond.lays "ZonedLogStoreModel" "ZonedLogStoreModel" "kept" "[I") ∈ lw_all := lw_g (lw_at lw_m1 206 rfl) rfl
theorem q227 : (Jvm.Cond.soleField "ZonedLogStoreModel" "kept") ∈ lw_all := lw_g (lw_at lw_m1 207 rfl) rfl
theorem q228 : (Jvm.Cond.lays "ZonedLogStoreModel" "ZonedLogStoreModel" "fresh" "[Z") ∈ lw_all := lw_g (lw_at lw_m1 208 rfl) rfl
theorem q229 : (Jvm.Cond.soleField "ZonedLogStoreModel" "fresh") ∈ lw_all := lw_g (lw_at lw_m1 209 rfl) rfl
theorem q230 : (Jvm.Cond.superclass "ZonedLogStoreModel" "java/lang/Object") ∈ lw_all := lw_g (lw_at lw_m1 210 rfl) rfl
theorem q232 : (Jvm.Cond.instanceMethod ({ cls := "ZonedLogStoreModel", name := "up", desc := "()I" } : Jvm.MethodName)) ∈ lw_all := lw_g (lw_at lw_m1 212 rfl) rfl
theorem q233 : (Jvm.Cond.selects "ZonedLogStoreModel" ({ cls := "ZonedLogStoreModel", name := "up", desc := "()I" } : Jvm.MethodName) ({ cls := "ZonedLogStoreModel", name := "up", desc := "()I" } : Jvm.MethodName)) ∈ lw_all := lw_g (lw_at lw_m1 213 rfl) rfl
theorem q234 : (Jvm.Cond.code ({ cls := "ZonedLogStoreModel", name := "up", desc := "()I" } : Jvm.MethodName) prog_3_method_5_code (1 : Nat) (Option.some Jvm.ClassFile.FieldType.int)) ∈ lw_all := lw_g (lw_at lw_m1 214 rfl) rfl
theorem q236 : (Jvm.Cond.instanceMethod ({ cls := "ZonedLogStoreModel", name := "read", desc := "(I)I" } : Jvm.MethodName)) ∈ lw_all := lw_g (lw_at lw_m1 216 rfl) rfl
theorem q237 : (Jvm.Cond.selects "ZonedLogStoreModel" ({ cls := "ZonedLogStoreModel", name := "read", desc := "(I)I" } : Jvm.MethodName) ({ cls := "ZonedLogStoreModel", name := "read", desc := "(I)I" } : Jvm.MethodName)) ∈ lw_all := lw_g (lw_at lw_m1 217 rfl) rfl
theorem q238 : (Jvm.Cond.code ({ cls := "ZonedLogStoreModel", name := "read", desc := "(I)I" } : Jvm.MethodName) prog_3_method_6_code (2 : Nat) (Option.some Jvm.ClassFile.FieldType.int)) ∈ lw_all := lw_g (lw_at lw_m1 218 rfl) rfl
theorem q239 : (Jvm.Cond.methodLink "ZonedLogStoreModel" (28 : Nat) ({ cls := "ZonedLogStoreModel", name := "bad", desc := "(I)Z" } : Jvm.MethodName)) ∈ lw_all := lw_g (lw_at lw_m1 219 rfl) rfl
theorem q240 : (Jvm.Cond.privateMethod ({ cls := "ZonedLogStoreModel", name := "bad", desc := "(I)Z" } : Jvm.MethodName)) ∈ lw_tbl := lw_at lw_m1 220 rfl
theorem q241 : (Jvm.Cond.instanceMethod ({ cls := "ZonedLogStoreModel", name := "bad", desc := "(I)Z" } : Jvm.MethodName)) ∈ lw_all := lw_g (lw_at lw_m1 221 rfl) rfl
theorem q242 : (Jvm.Cond.code ({ cls := "ZonedLogStoreModel", name := "bad", desc := "(I)Z" } : Jvm.MethodName) prog_3_method_2_code (2 : Nat) (Option.some Jvm.ClassFile.FieldType.boolean)) ∈ lw_all := lw_g (lw_at lw_m1 222 rfl) rfl
theorem q244 : (Jvm.Cond.instanceMethod ({ cls := "ZonedLogStoreModel", name := "write", desc := "(II)I" } : Jvm.MethodName)) ∈ lw_all := lw_g (lw_at lw_m1 224 rfl) rfl
theorem q245 : (Jvm.Cond.selects "ZonedLogStoreModel" ({ cls := "ZonedLogStoreModel", name := "write", desc := "(II)I" } : Jvm.MethodName) ({ cls := "ZonedLogStoreModel", name := "write", desc := "(II)I" } : Jvm.MethodName)) ∈ lw_all := lw_g (lw_at lw_m1 225 rfl) rfl
theorem q246 : (Jvm.Cond.code ({ cls := "ZonedLogStoreModel", name := "write", desc := "(II)I" } : Jvm.MethodName) prog_3_method_8_code (3 : Nat) (Option.some Jvm.ClassFile.FieldType.int)) ∈ lw_all := lw_g (lw_at lw_m1 226 rfl) rfl
theorem q247 : (Jvm.Cond.methodLink "ZonedLogStoreModel" (24 : Nat) ({ cls := "ZonedLogStoreModel", name := "freshCount", desc := "()I" } : Jvm.MethodName)) ∈ lw_all := lw_g (lw_at lw_m1 227 rfl) rfl
theorem q248 : (Jvm.Cond.privateMethod ({ cls := "ZonedLogStoreModel", name := "freshCount", desc := "()I" } : Jvm.MethodName)) ∈ lw_tbl := lw_at lw_m1 228 rfl
theorem q249 : (Jvm.Cond.instanceMethod ({ cls := "ZonedLogStoreModel", name := "freshCount", desc := "()I" } : Jvm.MethodName)) ∈ lw_all := lw_g (lw_at lw_m1 229 rfl) rfl
theorem q250 : (Jvm.Cond.code ({ cls := "ZonedLogStoreModel", name := "freshCount", desc := "()I" } : Jvm.MethodName) prog_3_method_3_code (3 : Nat) (Option.some Jvm.ClassFile.FieldType.int)) ∈ lw_all := lw_g (lw_at lw_m1 230 rfl) rfl
theorem q251 : (Jvm.Cond.methodLink "ZonedLogStoreModel" (39 : Nat) ({ cls := "ZonedLogStoreModel", name := "put", desc := "(II)V" } : Jvm.MethodName)) ∈ lw_all := lw_g (lw_at lw_m1 231 rfl) rfl
theorem q252 : (Jvm.Cond.privateMethod ({ cls := "ZonedLogStoreModel", name := "put", desc := "(II)V" } : Jvm.MethodName)) ∈ lw_tbl := lw_at lw_m1 232 rfl
theorem q253 : (Jvm.Cond.instanceMethod ({ cls := "ZonedLogStoreModel", name := "put", desc := "(II)V" } : Jvm.MethodName)) ∈ lw_all := lw_g (lw_at lw_m1 233 rfl) rfl
theorem q254 : (Jvm.Cond.code ({ cls := "ZonedLogStoreModel", name := "put", desc := "(II)V" } : Jvm.MethodName) prog_3_method_7_code (3 : Nat) (Option.none : Option Jvm.ClassFile.FieldType)) ∈ lw_all := lw_g (lw_at lw_m1 234 rfl) rfl
theorem q255 : (Jvm.Cond.methodLink "ZonedLogStoreModel" (35 : Nat) ({ cls := "ZonedLogStoreModel", name := "settle", desc := "(Z)I" } : Jvm.MethodName)) ∈ lw_all := lw_g (lw_at lw_m1 235 rfl) rfl
theorem q256 : (Jvm.Cond.privateMethod ({ cls := "ZonedLogStoreModel", name := "settle", desc := "(Z)I" } : Jvm.MethodName)) ∈ lw_tbl := lw_at lw_m1 236 rfl
theorem q257 : (Jvm.Cond.instanceMethod ({ cls := "ZonedLogStoreModel", name := "settle", desc := "(Z)I" } : Jvm.MethodName)) ∈ lw_all := lw_g (lw_at lw_m1 237 rfl) rfl
theorem q258 : (Jvm.Cond.code ({ cls := "ZonedLogStoreModel", name := "settle", desc := "(Z)I" } : Jvm.MethodName) prog_3_method_4_code (4 : Nat) (Option.some Jvm.ClassFile.FieldType.int)) ∈ lw_all := lw_g (lw_at lw_m1 238 rfl) rfl
theorem q260 : (Jvm.Cond.instanceMethod ({ cls := "ZonedLogStoreModel", name := "fill", desc := "(IIII)I" } : Jvm.MethodName)) ∈ lw_all := lw_g (lw_at lw_m2 0 rfl) rfl
theorem q261 : (Jvm.Cond.selects "ZonedLogStoreModel" ({ cls := "ZonedLogStoreModel", name := "fill", desc := "(IIII)I" } : Jvm.MethodName) ({ cls := "ZonedLogStoreModel", name := "fill", desc := "(IIII)I" } : Jvm.MethodName)) ∈ lw_all := lw_g (lw_at lw_m2 1 rfl) rfl
theorem q262 : (Jvm.Cond.code ({ cls := "ZonedLogStoreModel", name := "fill", desc := "(IIII)I" } : Jvm.MethodName) prog_3_method_9_code (6 : Nat) (Option.some Jvm.ClassFile.FieldType.int)) ∈ lw_all := lw_g (lw_at lw_m2 2 rfl) rfl
theorem q264 : (Jvm.Cond.instanceMethod ({ cls := "ZonedLogStoreModel", name := "sync", desc := "()I" } : Jvm.MethodName)) ∈ lw_all := lw_g (lw_at lw_m2 4 rfl) rfl
theorem q265 : (Jvm.Cond.selects "ZonedLogStoreModel" ({ cls := "ZonedLogStoreModel", name := "sync", desc := "()I" } : Jvm.MethodName) ({ cls := "ZonedLogStoreModel", name := "sync", desc := "()I" } : Jvm.MethodName)) ∈ lw_all := lw_g (lw_at lw_m2 5 rfl) rfl
theorem q266 : (Jvm.Cond.code ({ cls := "ZonedLogStoreModel", name := "sync", desc := "()I" } : Jvm.MethodName) prog_3_method_10_code (1 : Nat) (Option.some Jvm.ClassFile.FieldType.int)) ∈ lw_all := lw_g (lw_at lw_m2 6 rfl) rfl
theorem q268 : (Jvm.Cond.instanceMethod ({ cls := "ZonedLogStoreModel", name := "begin", desc := "()I" } : Jvm.MethodName)) ∈ lw_all := lw_g (lw_at lw_m2 8 rfl) rfl
theorem q269 : (Jvm.Cond.selects "ZonedLogStoreModel" ({ cls := "ZonedLogStoreModel", name := "begin", desc := "()I" } : Jvm.MethodName) ({ cls := "ZonedLogStoreModel", name := "begin", desc := "()I" } : Jvm.MethodName)) ∈ lw_all := lw_g (lw_at lw_m2 9 rfl) rfl
theorem q270 : (Jvm.Cond.code ({ cls := "ZonedLogStoreModel", name := "begin", desc := "()I" } : Jvm.MethodName) prog_3_method_11_code (1 : Nat) (Option.some Jvm.ClassFile.FieldType.int)) ∈ lw_all := lw_g (lw_at lw_m2 10 rfl) rfl
theorem q272 : (Jvm.Cond.instanceMethod ({ cls := "ZonedLogStoreModel", name := "commit", desc := "()I" } : Jvm.MethodName)) ∈ lw_all := lw_g (lw_at lw_m2 12 rfl) rfl
theorem q273 : (Jvm.Cond.selects "ZonedLogStoreModel" ({ cls := "ZonedLogStoreModel", name := "commit", desc := "()I" } : Jvm.MethodName) ({ cls := "ZonedLogStoreModel", name := "commit", desc := "()I" } : Jvm.MethodName)) ∈ lw_all := lw_g (lw_at lw_m2 13 rfl) rfl
theorem q274 : (Jvm.Cond.code ({ cls := "ZonedLogStoreModel", name := "commit", desc := "()I" } : Jvm.MethodName) prog_3_method_12_code (1 : Nat) (Option.some Jvm.ClassFile.FieldType.int)) ∈ lw_all := lw_g (lw_at lw_m2 14 rfl) rfl
theorem q276 : (Jvm.Cond.instanceMethod ({ cls := "ZonedLogStoreModel", name := "abort", desc := "()I" } : Jvm.MethodName)) ∈ lw_all := lw_g (lw_at lw_m2 16 rfl) rfl
theorem q277 : (Jvm.Cond.selects "ZonedLogStoreModel" ({ cls := "ZonedLogStoreModel", name := "abort", desc := "()I" } : Jvm.MethodName) ({ cls := "ZonedLogStoreModel", name := "abort", desc := "()I" } : Jvm.MethodName)) ∈ lw_all := lw_g (lw_at lw_m2 17 rfl) rfl
theorem q278 : (Jvm.Cond.code ({ cls := "ZonedLogStoreModel", name := "abort", desc := "()I" } : Jvm.MethodName) prog_3_method_13_code (1 : Nat) (Option.some Jvm.ClassFile.FieldType.int)) ∈ lw_all := lw_g (lw_at lw_m2 18 rfl) rfl
theorem q280 : (Jvm.Cond.instanceMethod ({ cls := "ZonedLogStoreModel", name := "crash", desc := "()I" } : Jvm.MethodName)) ∈ lw_all := lw_g (lw_at lw_m2 20 rfl) rfl
theorem q281 : (Jvm.Cond.selects "ZonedLogStoreModel" ({ cls := "ZonedLogStoreModel", name := "crash", desc := "()I" } : Jvm.MethodName) ({ cls := "ZonedLogStoreModel", name := "crash", desc := "()I" } : Jvm.MethodName)) ∈ lw_all := lw_g (lw_at lw_m2 21 rfl) rfl
theorem q282 : (Jvm.Cond.code ({ cls := "ZonedLogStoreModel", name := "crash", desc := "()I" } : Jvm.MethodName) prog_3_method_14_code (1 : Nat) (Option.some Jvm.ClassFile.FieldType.int)) ∈ lw_all := lw_g (lw_at lw_m2 22 rfl) rfl
theorem q284 : (Jvm.Cond.instanceMethod ({ cls := "ZonedLogStoreModel", name := "crashIn", desc := "(I)I" } : Jvm.MethodName)) ∈ lw_all := lw_g (lw_at lw_m2 24 rfl) rfl
theorem q285 : (Jvm.Cond.selects "ZonedLogStoreModel" ({ cls := "ZonedLogStoreModel", name := "crashIn", desc := "(I)I" } : Jvm.MethodName) ({ cls := "ZonedLogStoreModel", name := "crashIn", desc := "(I)I" } : Jvm.MethodName)) ∈ lw_all := lw_g (lw_at lw_m2 25 rfl) rfl
theorem q286 : (Jvm.Cond.code ({ cls := "ZonedLogStoreModel", name := "crashIn", desc := "(I)I" } : Jvm.MethodName) prog_3_method_15_code (2 : Nat) (Option.some Jvm.ClassFile.FieldType.int)) ∈ lw_all := lw_g (lw_at lw_m2 26 rfl) rfl
theorem q288 : (Jvm.Cond.instanceMethod ({ cls := "ZonedLogStoreModel", name := "mount", desc := "()I" } : Jvm.MethodName)) ∈ lw_all := lw_g (lw_at lw_m2 28 rfl) rfl
theorem q289 : (Jvm.Cond.selects "ZonedLogStoreModel" ({ cls := "ZonedLogStoreModel", name := "mount", desc := "()I" } : Jvm.MethodName) ({ cls := "ZonedLogStoreModel", name := "mount", desc := "()I" } : Jvm.MethodName)) ∈ lw_all := lw_g (lw_at lw_m2 29 rfl) rfl
theorem q290 : (Jvm.Cond.code ({ cls := "ZonedLogStoreModel", name := "mount", desc := "()I" } : Jvm.MethodName) prog_3_method_16_code (1 : Nat) (Option.some Jvm.ClassFile.FieldType.int)) ∈ lw_all := lw_g (lw_at lw_m2 30 rfl) rfl
theorem q292 : (Jvm.Cond.instanceMethod ({ cls := "ZonedLogStoreModel", name := "unsynced", desc := "()I" } : Jvm.MethodName)) ∈ lw_all := lw_g (lw_at lw_m2 32 rfl) rfl
theorem q293 : (Jvm.Cond.selects "ZonedLogStoreModel" ({ cls := "ZonedLogStoreModel", name := "unsynced", desc := "()I" } : Jvm.MethodName) ({ cls := "ZonedLogStoreModel", name := "unsynced", desc := "()I" } : Jvm.MethodName)) ∈ lw_all := lw_g (lw_at lw_m2 33 rfl) rfl
theorem q294 : (Jvm.Cond.code ({ cls := "ZonedLogStoreModel", name := "unsynced", desc := "()I" } : Jvm.MethodName) prog_3_method_17_code (1 : Nat) (Option.some Jvm.ClassFile.FieldType.int)) ∈ lw_all := lw_g (lw_at lw_m2 34 rfl) rfl
theorem q296 : (Jvm.Cond.instanceMethod ({ cls := "ZonedLogStoreModel", name := "grouped", desc := "()I" } : Jvm.MethodName)) ∈ lw_all := lw_g (lw_at lw_m2 36 rfl) rfl
theorem q297 : (Jvm.Cond.selects "ZonedLogStoreModel" ({ cls := "ZonedLogStoreModel", name := "grouped", desc := "()I" } : Jvm.MethodName) ({ cls := "ZonedLogStoreModel", name := "grouped", desc := "()I" } : Jvm.MethodName)) ∈ lw_all := lw_g (lw_at lw_m2 37 rfl) rfl
theorem q298 : (Jvm.Cond.code ({ cls := "ZonedLogStoreModel", name := "grouped", desc := "()I" } : Jvm.MethodName) prog_3_method_18_code (1 : Nat) (Option.some Jvm.ClassFile.FieldType.int)) ∈ lw_all := lw_g (lw_at lw_m2 38 rfl) rfl
theorem q300 : (Jvm.Cond.instanceMethod ({ cls := "ZonedLogStoreModel", name := "pending", desc := "()I" } : Jvm.MethodName)) ∈ lw_all := lw_g (lw_at lw_m2 40 rfl) rfl
theorem q301 : (Jvm.Cond.selects "ZonedLogStoreModel" ({ cls := "ZonedLogStoreModel", name := "pending", desc := "()I" } : Jvm.MethodName) ({ cls := "ZonedLogStoreModel", name := "pending", desc := "()I" } : Jvm.MethodName)) ∈ lw_all := lw_g (lw_at lw_m2 41 rfl) rfl
theorem q302 : (Jvm.Cond.code ({ cls := "ZonedLogStoreModel", name := "pending", desc := "()I" } : Jvm.MethodName) prog_3_method_19_code (3 : Nat) (Option.some Jvm.ClassFile.FieldType.int)) ∈ lw_all := lw_g (lw_at lw_m2 42 rfl) rfl
theorem q304 : (Jvm.Cond.instanceMethod ({ cls := "ZonedLogStoreModel", name := "sum", desc := "()I" } : Jvm.MethodName)) ∈ lw_all := lw_g (lw_at lw_m2 44 rfl) rfl
theorem q305 : (Jvm.Cond.selects "ZonedLogStoreModel" ({ cls := "ZonedLogStoreModel", name := "sum", desc := "()I" } : Jvm.MethodName) ({ cls := "ZonedLogStoreModel", name := "sum", desc := "()I" } : Jvm.MethodName)) ∈ lw_all := lw_g (lw_at lw_m2 45 rfl) rfl
theorem q306 : (Jvm.Cond.code ({ cls := "ZonedLogStoreModel", name := "sum", desc := "()I" } : Jvm.MethodName) prog_3_method_20_code (3 : Nat) (Option.some Jvm.ClassFile.FieldType.int)) ∈ lw_all := lw_g (lw_at lw_m2 46 rfl) rfl
theorem q308 : (Jvm.Cond.instanceMethod ({ cls := "ZonedLogStoreModel", name := "clean", desc := "()I" } : Jvm.MethodName)) ∈ lw_all := lw_g (lw_at lw_m2 48 rfl) rfl
theorem q309 : (Jvm.Cond.selects "ZonedLogStoreModel" ({ cls := "ZonedLogStoreModel", name := "clean", desc := "()I" } : Jvm.MethodName) ({ cls := "ZonedLogStoreModel", name := "clean", desc := "()I" } : Jvm.MethodName)) ∈ lw_all := lw_g (lw_at lw_m2 49 rfl) rfl
theorem q310 : (Jvm.Cond.code ({ cls := "ZonedLogStoreModel", name := "clean", desc := "()I" } : Jvm.MethodName) prog_3_method_21_code (1 : Nat) (Option.some Jvm.ClassFile.FieldType.int)) ∈ lw_all := lw_g (lw_at lw_m2 50 rfl) rfl
theorem q312 : (Jvm.Cond.instanceMethod ({ cls := "ZonedLogStoreModel", name := "check", desc := "()I" } : Jvm.MethodName)) ∈ lw_all := lw_g (lw_at lw_m2 52 rfl) rfl
theorem q313 : (Jvm.Cond.selects "ZonedLogStoreModel" ({ cls := "ZonedLogStoreModel", name := "check", desc := "()I" } : Jvm.MethodName) ({ cls := "ZonedLogStoreModel", name := "check", desc := "()I" } : Jvm.MethodName)) ∈ lw_all := lw_g (lw_at lw_m2 53 rfl) rfl
theorem q314 : (Jvm.Cond.code ({ cls := "ZonedLogStoreModel", name := "check", desc := "()I" } : Jvm.MethodName) prog_3_method_22_code (1 : Nat) (Option.some Jvm.ClassFile.FieldType.int)) ∈ lw_all := lw_g (lw_at lw_m2 54 rfl) rfl
theorem in_X1 : ∀ w ∈ wsX10, w ∈ lw_all := lw_in wsX10 [220, 222, 224, 226, 228] (by decide +kernel) (by decide +kernel)
end
section
/-! the law's own entry -/
set_option maxRecDepth 100000
abbrev cL_law : ByteArray := code
theorem dL_law_0 : decode cL_law 0 = .ok (.new 7, 3) := by decide +kernel
theorem dL_law_3 : decode cL_law 3 = .ok (.dup, 1) := by decide +kernel
theorem dL_law_4 : decode cL_law 4 = .ok (.invokespecial 9, 3) := by decide +kernel
theorem dL_law_7 : decode cL_law 7 = .ok (.astore_n 1, 1) := by decide +kernel
theorem dL_law_8 : decode cL_law 8 = .ok (.new 10, 3) := by decide +kernel
theorem dL_law_11 : decode cL_law 11 = .ok (.dup, 1) := by decide +kernel
theorem dL_law_12 : decode cL_law 12 = .ok (.invokespecial 12, 3) := by decide +kernel
theorem dL_law_15 : decode cL_law 15 = .ok (.astore_n 2, 1) := by decide +kernel
theorem dL_law_16 : decode cL_law 16 = .ok (.iconst 0, 1) := by decide +kernel
theorem dL_law_17 : decode cL_law 17 = .ok (.istore_n 3, 1) := by decide +kernel
theorem dL_law_18 : decode cL_law 18 = .ok (.iload_n 3, 1) := by decide +kernel
theorem dL_law_19 : decode cL_law 19 = .ok (.aload_n 0, 1) := by decide +kernel
theorem dL_law_20 : decode cL_law 20 = .ok (.arraylength, 1) := by decide +kernel
theorem dL_law_21 : decode cL_law 21 = .ok (.iconst 5, 1) := by decide +kernel
theorem dL_law_22 : decode cL_law 22 = .ok (.isub, 1) := by decide +kernel
theorem dL_law_23 : decode cL_law 23 = .ok (.if_icmp .gt 400, 3) := by decide +kernel
theorem dL_law_26 : decode cL_law 26 = .ok (.aload_n 0, 1) := by decide +kernel
theorem dL_law_27 : decode cL_law 27 = .ok (.iload_n 3, 1) := by decide +kernel
theorem dL_law_28 : decode cL_law 28 = .ok (.iaload, 1) := by decide +kernel
theorem dL_law_29 : decode cL_law 29 = .ok (.bipush 31, 2) := by decide +kernel
theorem dL_law_31 : decode cL_law 31 = .ok (.iand, 1) := by decide +kernel
theorem dL_law_32 : decode cL_law 32 = .ok (.tableswitch 385 0 16 #[84, 97, 120, 153, 206, 219, 232, 245, 258, 271, 294, 307, 320, 333, 346, 359, 372], 84) := by decide +kernel
theorem dL_law_116 : decode cL_law 116 = .ok (.aload_n 1, 1) := by decide +kernel
theorem dL_law_117 : decode cL_law 117 = .ok (.invokevirtual 13, 3) := by decide +kernel
theorem dL_law_120 : decode cL_law 120 = .ok (.aload_n 2, 1) := by decide +kernel
theorem dL_law_121 : decode cL_law 121 = .ok (.invokevirtual 17, 3) := by decide +kernel
theorem dL_law_124 : decode cL_law 124 = .ok (.if_icmp .eq 293, 3) := by decide +kernel
theorem dL_law_127 : decode cL_law 127 = .ok (.iconst 0, 1) := by decide +kernel
theorem dL_law_128 : decode cL_law 128 = .ok (.ireturn, 1) := by decide +kernel
theorem dL_law_129 : decode cL_law 129 = .ok (.aload_n 1, 1) := by decide +kernel
theorem dL_law_130 : decode cL_law 130 = .ok (.aload_n 0, 1) := by decide +kernel
theorem dL_law_131 : decode cL_law 131 = .ok (.iload_n 3, 1) := by decide +kernel
theorem dL_law_132 : decode cL_law 132 = .ok (.iconst 1, 1) := by decide +kernel
theorem dL_law_133 : decode cL_law 133 = .ok (.iadd, 1) := by decide +kernel
theorem dL_law_134 : decode cL_law 134 = .ok (.iaload, 1) := by decide +kernel
theorem dL_law_135 : decode cL_law 135 = .ok (.invokevirtual 18, 3) := by decide +kernel
theorem dL_law_138 : decode cL_law 138 = .ok (.aload_n 2, 1) := by decide +kernel
theorem dL_law_139 : decode cL_law 139 = .ok (.aload_n 0, 1) := by decide +kernel
theorem dL_law_140 : decode cL_law 140 = .ok (.iload_n 3, 1) := by decide +kernel
theorem dL_law_141 : decode cL_law 141 = .ok (.iconst 1, 1) := by decide +kernel
theorem dL_law_142 : decode cL_law 142 = .ok (.iadd, 1) := by decide +kernel
theorem dL_law_143 : decode cL_law 143 = .ok (.iaload, 1) := by decide +kernel
theorem dL_law_144 : decode cL_law 144 = .ok (.invokevirtual 22, 3) := by decide +kernel
theorem dL_law_147 : decode cL_law 147 = .ok (.if_icmp .eq 270, 3) := by decide +kernel
theorem dL_law_150 : decode cL_law 150 = .ok (.iconst 0, 1) := by decide +kernel
theorem dL_law_151 : decode cL_law 151 = .ok (.ireturn, 1) := by decide +kernel
theorem dL_law_152 : decode cL_law 152 = .ok (.aload_n 1, 1) := by decide +kernel
theorem dL_law_153 : decode cL_law 153 = .ok (.aload_n 0, 1) := by decide +kernel
theorem dL_law_154 : decode cL_law 154 = .ok (.iload_n 3, 1) := by decide +kernel
theorem dL_law_155 : decode cL_law 155 = .ok (.iconst 1, 1) := by decide +kernel
theorem dL_law_156 : decode cL_law 156 = .ok (.iadd, 1) := by decide +kernel
theorem dL_law_157 : decode cL_law 157 = .ok (.iaload, 1) := by decide +kernel
theorem dL_law_158 : decode cL_law 158 = .ok (.aload_n 0, 1) := by decide +kernel
theorem dL_law_159 : decode cL_law 159 = .ok (.iload_n 3, 1) := by decide +kernel
theorem dL_law_160 : decode cL_law 160 = .ok (.iconst 2, 1) := by decide +kernel
theorem dL_law_161 : decode cL_law 161 = .ok (.iadd, 1) := by decide +kernel
theorem dL_law_162 : decode cL_law 162 = .ok (.iaload, 1) := by decide +kernel
theorem dL_law_163 : decode cL_law 163 = .ok (.invokevirtual 23, 3) := by decide +kernel
theorem dL_law_166 : decode cL_law 166 = .ok (.aload_n 2, 1) := by decide +kernel
theorem dL_law_167 : decode cL_law 167 = .ok (.aload_n 0, 1) := by decide +kernel
theorem dL_law_168 : decode cL_law 168 = .ok (.iload_n 3, 1) := by decide +kernel
theorem dL_law_169 : decode cL_law 169 = .ok (.iconst 1, 1) := by decide +kernel
theorem dL_law_170 : decode cL_law 170 = .ok (.iadd, 1) := by decide +kernel
theorem dL_law_171 : decode cL_law 171 = .ok (.iaload, 1) := by decide +kernel
theorem dL_law_172 : decode cL_law 172 = .ok (.aload_n 0, 1) := by decide +kernel
theorem dL_law_173 : decode cL_law 173 = .ok (.iload_n 3, 1) := by decide +kernel
theorem dL_law_174 : decode cL_law 174 = .ok (.iconst 2, 1) := by decide +kernel
theorem dL_law_175 : decode cL_law 175 = .ok (.iadd, 1) := by decide +kernel
theorem dL_law_176 : decode cL_law 176 = .ok (.iaload, 1) := by decide +kernel
theorem dL_law_177 : decode cL_law 177 = .ok (.invokevirtual 27, 3) := by decide +kernel
theorem dL_law_180 : decode cL_law 180 = .ok (.if_icmp .eq 237, 3) := by decide +kernel
theorem dL_law_183 : decode cL_law 183 = .ok (.iconst 0, 1) := by decide +kernel
theorem dL_law_184 : decode cL_law 184 = .ok (.ireturn, 1) := by decide +kernel
theorem dL_law_185 : decode cL_law 185 = .ok (.aload_n 1, 1) := by decide +kernel
theorem dL_law_186 : decode cL_law 186 = .ok (.aload_n 0, 1) := by decide +kernel
theorem dL_law_187 : decode cL_law 187 = .ok (.iload_n 3, 1) := by decide +kernel
theorem dL_law_188 : decode cL_law 188 = .ok (.iconst 1, 1) := by decide +kernel
theorem dL_law_189 : decode cL_law 189 = .ok (.iadd, 1) := by decide +kernel
theorem dL_law_190 : decode cL_law 190 = .ok (.iaload, 1) := by decide +kernel
theorem dL_law_191 : decode cL_law 191 = .ok (.aload_n 0, 1) := by decide +kernel
theorem dL_law_192 : decode cL_law 192 = .ok (.iload_n 3, 1) := by decide +kernel
theorem dL_law_193 : decode cL_law 193 = .ok (.iconst 2, 1) := by decide +kernel
theorem dL_law_194 : decode cL_law 194 = .ok (.iadd, 1) := by decide +kernel
theorem dL_law_195 : decode cL_law 195 = .ok (.iaload, 1) := by decide +kernel
theorem dL_law_196 : decode cL_law 196 = .ok (.aload_n 0, 1) := by decide +kernel
theorem dL_law_197 : decode cL_law 197 = .ok (.iload_n 3, 1) := by decide +kernel
theorem dL_law_198 : decode cL_law 198 = .ok (.iconst 3, 1) := by decide +kernel
theorem dL_law_199 : decode cL_law 199 = .ok (.iadd, 1) := by decide +kernel
theorem dL_law_200 : decode cL_law 200 = .ok (.iaload, 1) := by decide +kernel
theorem dL_law_201 : decode cL_law 201 = .ok (.aload_n 0, 1) := by decide +kernel
theorem dL_law_202 : decode cL_law 202 = .ok (.iload_n 3, 1) := by decide +kernel
theorem dL_law_203 : decode cL_law 203 = .ok (.iconst 4, 1) := by decide +kernel
theorem dL_law_204 : decode cL_law 204 = .ok (.iadd, 1) := by decide +kernel
theorem dL_law_205 : decode cL_law 205 = .ok (.iaload, 1) := by decide +kernel
theorem dL_law_206 : decode cL_law 206 = .ok (.invokevirtual 28, 3) := by decide +kernel
theorem dL_law_209 : decode cL_law 209 = .ok (.aload_n 2, 1) := by decide +kernel
theorem dL_law_210 : decode cL_law 210 = .ok (.aload_n 0, 1) := by decide +kernel
theorem dL_law_211 : decode cL_law 211 = .ok (.iload_n 3, 1) := by decide +kernel
theorem dL_law_212 : decode cL_law 212 = .ok (.iconst 1, 1) := by decide +kernel
theorem dL_law_213 : decode cL_law 213 = .ok (.iadd, 1) := by decide +kernel
theorem dL_law_214 : decode cL_law 214 = .ok (.iaload, 1) := by decide +kernel
theorem dL_law_215 : decode cL_law 215 = .ok (.aload_n 0, 1) := by decide +kernel
theorem dL_law_216 : decode cL_law 216 = .ok (.iload_n 3, 1) := by decide +kernel
theorem dL_law_217 : decode cL_law 217 = .ok (.iconst 2, 1) := by decide +kernel
theorem dL_law_218 : decode cL_law 218 = .ok (.iadd, 1) := by decide +kernel
theorem dL_law_219 : decode cL_law 219 = .ok (.iaload, 1) := by decide +kernel
theorem dL_law_220 : decode cL_law 220 = .ok (.aload_n 0, 1) := by decide +kernel
theorem dL_law_221 : decode cL_law 221 = .ok (.iload_n 3, 1) := by decide +kernel
theorem dL_law_222 : decode cL_law 222 = .ok (.iconst 3, 1) := by decide +kernel
theorem dL_law_223 : decode cL_law 223 = .ok (.iadd, 1) := by decide +kernel
theorem dL_law_224 : decode cL_law 224 = .ok (.iaload, 1) := by decide +kernel
theorem dL_law_225 : decode cL_law 225 = .ok (.aload_n 0, 1) := by decide +kernel
theorem dL_law_226 : decode cL_law 226 = .ok (.iload_n 3, 1) := by decide +kernel
theorem dL_law_227 : decode cL_law 227 = .ok (.iconst 4, 1) := by decide +kernel
theorem dL_law_228 : decode cL_law 228 = .ok (.iadd, 1) := by decide +kernel
theorem dL_law_229 : decode cL_law 229 = .ok (.iaload, 1) := by decide +kernel
theorem dL_law_230 : decode cL_law 230 = .ok (.invokevirtual 32, 3) := by decide +kernel
theorem dL_law_233 : decode cL_law 233 = .ok (.if_icmp .eq 184, 3) := by decide +kernel
theorem dL_law_236 : decode cL_law 236 = .ok (.iconst 0, 1) := by decide +kernel
theorem dL_law_237 : decode cL_law 237 = .ok (.ireturn, 1) := by decide +kernel
theorem dL_law_238 : decode cL_law 238 = .ok (.aload_n 1, 1) := by decide +kernel
theorem dL_law_239 : decode cL_law 239 = .ok (.invokevirtual 33, 3) := by decide +kernel
theorem dL_law_242 : decode cL_law 242 = .ok (.aload_n 2, 1) := by decide +kernel
theorem dL_law_243 : decode cL_law 243 = .ok (.invokevirtual 36, 3) := by decide +kernel
theorem dL_law_246 : decode cL_law 246 = .ok (.if_icmp .eq 171, 3) := by decide +kernel
theorem dL_law_249 : decode cL_law 249 = .ok (.iconst 0, 1) := by decide +kernel
theorem dL_law_250 : decode cL_law 250 = .ok (.ireturn, 1) := by decide +kernel
theorem dL_law_251 : decode cL_law 251 = .ok (.aload_n 1, 1) := by decide +kernel
theorem dL_law_252 : decode cL_law 252 = .ok (.invokevirtual 37, 3) := by decide +kernel
theorem dL_law_255 : decode cL_law 255 = .ok (.aload_n 2, 1) := by decide +kernel
theorem dL_law_256 : decode cL_law 256 = .ok (.invokevirtual 40, 3) := by decide +kernel
theorem dL_law_259 : decode cL_law 259 = .ok (.if_icmp .eq 158, 3) := by decide +kernel
theorem dL_law_262 : decode cL_law 262 = .ok (.iconst 0, 1) := by decide +kernel
theorem dL_law_263 : decode cL_law 263 = .ok (.ireturn, 1) := by decide +kernel
theorem dL_law_264 : decode cL_law 264 = .ok (.aload_n 1, 1) := by decide +kernel
theorem dL_law_265 : decode cL_law 265 = .ok (.invokevirtual 41, 3) := by decide +kernel
theorem dL_law_268 : decode cL_law 268 = .ok (.aload_n 2, 1) := by decide +kernel
theorem dL_law_269 : decode cL_law 269 = .ok (.invokevirtual 44, 3) := by decide +kernel
theorem dL_law_272 : decode cL_law 272 = .ok (.if_icmp .eq 145, 3) := by decide +kernel
theorem dL_law_275 : decode cL_law 275 = .ok (.iconst 0, 1) := by decide +kernel
theorem dL_law_276 : decode cL_law 276 = .ok (.ireturn, 1) := by decide +kernel
theorem dL_law_277 : decode cL_law 277 = .ok (.aload_n 1, 1) := by decide +kernel
theorem dL_law_278 : decode cL_law 278 = .ok (.invokevirtual 45, 3) := by decide +kernel
theorem dL_law_281 : decode cL_law 281 = .ok (.aload_n 2, 1) := by decide +kernel
theorem dL_law_282 : decode cL_law 282 = .ok (.invokevirtual 48, 3) := by decide +kernel
theorem dL_law_285 : decode cL_law 285 = .ok (.if_icmp .eq 132, 3) := by decide +kernel
theorem dL_law_288 : decode cL_law 288 = .ok (.iconst 0, 1) := by decide +kernel
theorem dL_law_289 : decode cL_law 289 = .ok (.ireturn, 1) := by decide +kernel
theorem dL_law_290 : decode cL_law 290 = .ok (.aload_n 1, 1) := by decide +kernel
theorem dL_law_291 : decode cL_law 291 = .ok (.invokevirtual 49, 3) := by decide +kernel
theorem dL_law_294 : decode cL_law 294 = .ok (.aload_n 2, 1) := by decide +kernel
theorem dL_law_295 : decode cL_law 295 = .ok (.invokevirtual 52, 3) := by decide +kernel
theorem dL_law_298 : decode cL_law 298 = .ok (.if_icmp .eq 119, 3) := by decide +kernel
theorem dL_law_301 : decode cL_law 301 = .ok (.iconst 0, 1) := by decide +kernel
theorem dL_law_302 : decode cL_law 302 = .ok (.ireturn, 1) := by decide +kernel
theorem dL_law_303 : decode cL_law 303 = .ok (.aload_n 1, 1) := by decide +kernel
theorem dL_law_304 : decode cL_law 304 = .ok (.aload_n 0, 1) := by decide +kernel
theorem dL_law_305 : decode cL_law 305 = .ok (.iload_n 3, 1) := by decide +kernel
theorem dL_law_306 : decode cL_law 306 = .ok (.iconst 1, 1) := by decide +kernel
theorem dL_law_307 : decode cL_law 307 = .ok (.iadd, 1) := by decide +kernel
theorem dL_law_308 : decode cL_law 308 = .ok (.iaload, 1) := by decide +kernel
theorem dL_law_309 : decode cL_law 309 = .ok (.invokevirtual 53, 3) := by decide +kernel
theorem dL_law_312 : decode cL_law 312 = .ok (.aload_n 2, 1) := by decide +kernel
theorem dL_law_313 : decode cL_law 313 = .ok (.aload_n 0, 1) := by decide +kernel
theorem dL_law_314 : decode cL_law 314 = .ok (.iload_n 3, 1) := by decide +kernel
theorem dL_law_315 : decode cL_law 315 = .ok (.iconst 1, 1) := by decide +kernel
theorem dL_law_316 : decode cL_law 316 = .ok (.iadd, 1) := by decide +kernel
theorem dL_law_317 : decode cL_law 317 = .ok (.iaload, 1) := by decide +kernel
theorem dL_law_318 : decode cL_law 318 = .ok (.invokevirtual 56, 3) := by decide +kernel
theorem dL_law_321 : decode cL_law 321 = .ok (.if_icmp .eq 96, 3) := by decide +kernel
theorem dL_law_324 : decode cL_law 324 = .ok (.iconst 0, 1) := by decide +kernel
theorem dL_law_325 : decode cL_law 325 = .ok (.ireturn, 1) := by decide +kernel
theorem dL_law_326 : decode cL_law 326 = .ok (.aload_n 1, 1) := by decide +kernel
theorem dL_law_327 : decode cL_law 327 = .ok (.invokevirtual 57, 3) := by decide +kernel
theorem dL_law_330 : decode cL_law 330 = .ok (.aload_n 2, 1) := by decide +kernel
theorem dL_law_331 : decode cL_law 331 = .ok (.invokevirtual 60, 3) := by decide +kernel
theorem dL_law_334 : decode cL_law 334 = .ok (.if_icmp .eq 83, 3) := by decide +kernel
theorem dL_law_337 : decode cL_law 337 = .ok (.iconst 0, 1) := by decide +kernel
theorem dL_law_338 : decode cL_law 338 = .ok (.ireturn, 1) := by decide +kernel
theorem dL_law_339 : decode cL_law 339 = .ok (.aload_n 1, 1) := by decide +kernel
theorem dL_law_340 : decode cL_law 340 = .ok (.invokevirtual 61, 3) := by decide +kernel
theorem dL_law_343 : decode cL_law 343 = .ok (.aload_n 2, 1) := by decide +kernel
theorem dL_law_344 : decode cL_law 344 = .ok (.invokevirtual 64, 3) := by decide +kernel
theorem dL_law_347 : decode cL_law 347 = .ok (.if_icmp .eq 70, 3) := by decide +kernel
theorem dL_law_350 : decode cL_law 350 = .ok (.iconst 0, 1) := by decide +kernel
theorem dL_law_351 : decode cL_law 351 = .ok (.ireturn, 1) := by decide +kernel
theorem dL_law_352 : decode cL_law 352 = .ok (.aload_n 1, 1) := by decide +kernel
theorem dL_law_353 : decode cL_law 353 = .ok (.invokevirtual 65, 3) := by decide +kernel
theorem dL_law_356 : decode cL_law 356 = .ok (.aload_n 2, 1) := by decide +kernel
theorem dL_law_357 : decode cL_law 357 = .ok (.invokevirtual 68, 3) := by decide +kernel
theorem dL_law_360 : decode cL_law 360 = .ok (.if_icmp .eq 57, 3) := by decide +kernel
theorem dL_law_363 : decode cL_law 363 = .ok (.iconst 0, 1) := by decide +kernel
theorem dL_law_364 : decode cL_law 364 = .ok (.ireturn, 1) := by decide +kernel
theorem dL_law_365 : decode cL_law 365 = .ok (.aload_n 1, 1) := by decide +kernel
theorem dL_law_366 : decode cL_law 366 = .ok (.invokevirtual 69, 3) := by decide +kernel
theorem dL_law_369 : decode cL_law 369 = .ok (.aload_n 2, 1) := by decide +kernel
theorem dL_law_370 : decode cL_law 370 = .ok (.invokevirtual 72, 3) := by decide +kernel
theorem dL_law_373 : decode cL_law 373 = .ok (.if_icmp .eq 44, 3) := by decide +kernel
theorem dL_law_376 : decode cL_law 376 = .ok (.iconst 0, 1) := by decide +kernel
theorem dL_law_377 : decode cL_law 377 = .ok (.ireturn, 1) := by decide +kernel
theorem dL_law_378 : decode cL_law 378 = .ok (.aload_n 1, 1) := by decide +kernel
theorem dL_law_379 : decode cL_law 379 = .ok (.invokevirtual 73, 3) := by decide +kernel
theorem dL_law_382 : decode cL_law 382 = .ok (.aload_n 2, 1) := by decide +kernel
theorem dL_law_383 : decode cL_law 383 = .ok (.invokevirtual 76, 3) := by decide +kernel
theorem dL_law_386 : decode cL_law 386 = .ok (.if_icmp .eq 31, 3) := by decide +kernel
theorem dL_law_389 : decode cL_law 389 = .ok (.iconst 0, 1) := by decide +kernel
theorem dL_law_390 : decode cL_law 390 = .ok (.ireturn, 1) := by decide +kernel
theorem dL_law_391 : decode cL_law 391 = .ok (.aload_n 1, 1) := by decide +kernel
theorem dL_law_392 : decode cL_law 392 = .ok (.invokevirtual 77, 3) := by decide +kernel
theorem dL_law_395 : decode cL_law 395 = .ok (.aload_n 2, 1) := by decide +kernel
theorem dL_law_396 : decode cL_law 396 = .ok (.invokevirtual 80, 3) := by decide +kernel
theorem dL_law_399 : decode cL_law 399 = .ok (.if_icmp .eq 18, 3) := by decide +kernel
theorem dL_law_402 : decode cL_law 402 = .ok (.iconst 0, 1) := by decide +kernel
theorem dL_law_403 : decode cL_law 403 = .ok (.ireturn, 1) := by decide +kernel
theorem dL_law_404 : decode cL_law 404 = .ok (.aload_n 1, 1) := by decide +kernel
theorem dL_law_405 : decode cL_law 405 = .ok (.invokevirtual 81, 3) := by decide +kernel
theorem dL_law_408 : decode cL_law 408 = .ok (.aload_n 2, 1) := by decide +kernel
theorem dL_law_409 : decode cL_law 409 = .ok (.invokevirtual 84, 3) := by decide +kernel
theorem dL_law_412 : decode cL_law 412 = .ok (.if_icmp .eq 5, 3) := by decide +kernel
theorem dL_law_415 : decode cL_law 415 = .ok (.iconst 0, 1) := by decide +kernel
theorem dL_law_416 : decode cL_law 416 = .ok (.ireturn, 1) := by decide +kernel
theorem dL_law_417 : decode cL_law 417 = .ok (.iinc 3 5, 3) := by decide +kernel
theorem dL_law_420 : decode cL_law 420 = .ok (.goto (-402), 3) := by decide +kernel
theorem dL_law_423 : decode cL_law 423 = .ok (.iconst 1, 1) := by decide +kernel
theorem dL_law_424 : decode cL_law 424 = .ok (.ireturn, 1) := by decide +kernel

theorem q20 : (Jvm.Cond.initialized "ZonedLogStoreLaw") ∈ lw_all := lw_g (lw_at lw_m1 0 rfl) rfl
set_option maxRecDepth 100000
theorem q23 : (Jvm.Cond.classLink "ZonedLogStoreLaw" (7 : Nat) "ZonedLogStore") ∈ lw_all := lw_g (lw_at lw_m1 3 rfl) rfl
theorem q25 : (Jvm.Cond.methodLink "ZonedLogStoreLaw" (9 : Nat) ({ cls := "ZonedLogStore", name := "<init>", desc := "()V" } : Jvm.MethodName)) ∈ lw_all := lw_g (lw_at lw_m1 5 rfl) rfl
theorem q73 : (Jvm.Cond.methodLink "ZonedLogStoreLaw" (13 : Nat) ({ cls := "ZonedLogStore", name := "up", desc := "()I" } : Jvm.MethodName)) ∈ lw_all := lw_g (lw_at lw_m1 53 rfl) rfl
theorem q77 : (Jvm.Cond.methodLink "ZonedLogStoreLaw" (18 : Nat) ({ cls := "ZonedLogStore", name := "read", desc := "(I)I" } : Jvm.MethodName)) ∈ lw_all := lw_g (lw_at lw_m1 57 rfl) rfl
theorem q92 : (Jvm.Cond.methodLink "ZonedLogStoreLaw" (23 : Nat) ({ cls := "ZonedLogStore", name := "write", desc := "(II)I" } : Jvm.MethodName)) ∈ lw_all := lw_g (lw_at lw_m1 72 rfl) rfl
theorem q140 : (Jvm.Cond.methodLink "ZonedLogStoreLaw" (28 : Nat) ({ cls := "ZonedLogStore", name := "fill", desc := "(IIII)I" } : Jvm.MethodName)) ∈ lw_all := lw_g (lw_at lw_m1 120 rfl) rfl
theorem q145 : (Jvm.Cond.methodLink "ZonedLogStoreLaw" (33 : Nat) ({ cls := "ZonedLogStore", name := "sync", desc := "()I" } : Jvm.MethodName)) ∈ lw_all := lw_g (lw_at lw_m1 125 rfl) rfl
theorem q149 : (Jvm.Cond.methodLink "ZonedLogStoreLaw" (37 : Nat) ({ cls := "ZonedLogStore", name := "begin", desc := "()I" } : Jvm.MethodName)) ∈ lw_all := lw_g (lw_at lw_m1 129 rfl) rfl
theorem q153 : (Jvm.Cond.methodLink "ZonedLogStoreLaw" (41 : Nat) ({ cls := "ZonedLogStore", name := "commit", desc := "()I" } : Jvm.MethodName)) ∈ lw_all := lw_g (lw_at lw_m1 133 rfl) rfl
theorem q157 : (Jvm.Cond.methodLink "ZonedLogStoreLaw" (45 : Nat) ({ cls := "ZonedLogStore", name := "abort", desc := "()I" } : Jvm.MethodName)) ∈ lw_all := lw_g (lw_at lw_m1 137 rfl) rfl
theorem q161 : (Jvm.Cond.methodLink "ZonedLogStoreLaw" (49 : Nat) ({ cls := "ZonedLogStore", name := "crash", desc := "()I" } : Jvm.MethodName)) ∈ lw_all := lw_g (lw_at lw_m1 141 rfl) rfl
theorem q169 : (Jvm.Cond.methodLink "ZonedLogStoreLaw" (53 : Nat) ({ cls := "ZonedLogStore", name := "crashIn", desc := "(I)I" } : Jvm.MethodName)) ∈ lw_all := lw_g (lw_at lw_m1 149 rfl) rfl
theorem q173 : (Jvm.Cond.methodLink "ZonedLogStoreLaw" (57 : Nat) ({ cls := "ZonedLogStore", name := "mount", desc := "()I" } : Jvm.MethodName)) ∈ lw_all := lw_g (lw_at lw_m1 153 rfl) rfl
theorem q185 : (Jvm.Cond.methodLink "ZonedLogStoreLaw" (61 : Nat) ({ cls := "ZonedLogStore", name := "unsynced", desc := "()I" } : Jvm.MethodName)) ∈ lw_all := lw_g (lw_at lw_m1 165 rfl) rfl
theorem q189 : (Jvm.Cond.methodLink "ZonedLogStoreLaw" (65 : Nat) ({ cls := "ZonedLogStore", name := "grouped", desc := "()I" } : Jvm.MethodName)) ∈ lw_all := lw_g (lw_at lw_m1 169 rfl) rfl
theorem q193 : (Jvm.Cond.methodLink "ZonedLogStoreLaw" (69 : Nat) ({ cls := "ZonedLogStore", name := "pending", desc := "()I" } : Jvm.MethodName)) ∈ lw_all := lw_g (lw_at lw_m1 173 rfl) rfl
theorem q197 : (Jvm.Cond.methodLink "ZonedLogStoreLaw" (73 : Nat) ({ cls := "ZonedLogStore", name := "sum", desc := "()I" } : Jvm.MethodName)) ∈ lw_all := lw_g (lw_at lw_m1 177 rfl) rfl
theorem q201 : (Jvm.Cond.methodLink "ZonedLogStoreLaw" (77 : Nat) ({ cls := "ZonedLogStore", name := "clean", desc := "()I" } : Jvm.MethodName)) ∈ lw_all := lw_g (lw_at lw_m1 181 rfl) rfl
theorem q205 : (Jvm.Cond.methodLink "ZonedLogStoreLaw" (81 : Nat) ({ cls := "ZonedLogStore", name := "check", desc := "()I" } : Jvm.MethodName)) ∈ lw_all := lw_g (lw_at lw_m1 185 rfl) rfl
theorem q209 : (Jvm.Cond.classLink "ZonedLogStoreLaw" (10 : Nat) "ZonedLogStoreModel") ∈ lw_all := lw_g (lw_at lw_m1 189 rfl) rfl
theorem q211 : (Jvm.Cond.methodLink "ZonedLogStoreLaw" (12 : Nat) ({ cls := "ZonedLogStoreModel", name := "<init>", desc := "()V" } : Jvm.MethodName)) ∈ lw_all := lw_g (lw_at lw_m1 191 rfl) rfl
theorem q231 : (Jvm.Cond.methodLink "ZonedLogStoreLaw" (17 : Nat) ({ cls := "ZonedLogStoreModel", name := "up", desc := "()I" } : Jvm.MethodName)) ∈ lw_all := lw_g (lw_at lw_m1 211 rfl) rfl
theorem q235 : (Jvm.Cond.methodLink "ZonedLogStoreLaw" (22 : Nat) ({ cls := "ZonedLogStoreModel", name := "read", desc := "(I)I" } : Jvm.MethodName)) ∈ lw_all := lw_g (lw_at lw_m1 215 rfl) rfl
theorem q243 : (Jvm.Cond.methodLink "ZonedLogStoreLaw" (27 : Nat) ({ cls := "ZonedLogStoreModel", name := "write", desc := "(II)I" } : Jvm.MethodName)) ∈ lw_all := lw_g (lw_at lw_m1 223 rfl) rfl
theorem q259 : (Jvm.Cond.methodLink "ZonedLogStoreLaw" (32 : Nat) ({ cls := "ZonedLogStoreModel", name := "fill", desc := "(IIII)I" } : Jvm.MethodName)) ∈ lw_all := lw_g (lw_at lw_m1 239 rfl) rfl
theorem q263 : (Jvm.Cond.methodLink "ZonedLogStoreLaw" (36 : Nat) ({ cls := "ZonedLogStoreModel", name := "sync", desc := "()I" } : Jvm.MethodName)) ∈ lw_all := lw_g (lw_at lw_m2 3 rfl) rfl
theorem q267 : (Jvm.Cond.methodLink "ZonedLogStoreLaw" (40 : Nat) ({ cls := "ZonedLogStoreModel", name := "begin", desc := "()I" } : Jvm.MethodName)) ∈ lw_all := lw_g (lw_at lw_m2 7 rfl) rfl
theorem q271 : (Jvm.Cond.methodLink "ZonedLogStoreLaw" (44 : Nat) ({ cls := "ZonedLogStoreModel", name := "commit", desc := "()I" } : Jvm.MethodName)) ∈ lw_all := lw_g (lw_at lw_m2 11 rfl) rfl
theorem q275 : (Jvm.Cond.methodLink "ZonedLogStoreLaw" (48 : Nat) ({ cls := "ZonedLogStoreModel", name := "abort", desc := "()I" } : Jvm.MethodName)) ∈ lw_all := lw_g (lw_at lw_m2 15 rfl) rfl
theorem q279 : (Jvm.Cond.methodLink "ZonedLogStoreLaw" (52 : Nat) ({ cls := "ZonedLogStoreModel", name := "crash", desc := "()I" } : Jvm.MethodName)) ∈ lw_all := lw_g (lw_at lw_m2 19 rfl) rfl
theorem q283 : (Jvm.Cond.methodLink "ZonedLogStoreLaw" (56 : Nat) ({ cls := "ZonedLogStoreModel", name := "crashIn", desc := "(I)I" } : Jvm.MethodName)) ∈ lw_all := lw_g (lw_at lw_m2 23 rfl) rfl
theorem q287 : (Jvm.Cond.methodLink "ZonedLogStoreLaw" (60 : Nat) ({ cls := "ZonedLogStoreModel", name := "mount", desc := "()I" } : Jvm.MethodName)) ∈ lw_all := lw_g (lw_at lw_m2 27 rfl) rfl
theorem q291 : (Jvm.Cond.methodLink "ZonedLogStoreLaw" (64 : Nat) ({ cls := "ZonedLogStoreModel", name := "unsynced", desc := "()I" } : Jvm.MethodName)) ∈ lw_all := lw_g (lw_at lw_m2 31 rfl) rfl
theorem q295 : (Jvm.Cond.methodLink "ZonedLogStoreLaw" (68 : Nat) ({ cls := "ZonedLogStoreModel", name := "grouped", desc := "()I" } : Jvm.MethodName)) ∈ lw_all := lw_g (lw_at lw_m2 35 rfl) rfl
theorem q299 : (Jvm.Cond.methodLink "ZonedLogStoreLaw" (72 : Nat) ({ cls := "ZonedLogStoreModel", name := "pending", desc := "()I" } : Jvm.MethodName)) ∈ lw_all := lw_g (lw_at lw_m2 39 rfl) rfl
theorem q303 : (Jvm.Cond.methodLink "ZonedLogStoreLaw" (76 : Nat) ({ cls := "ZonedLogStoreModel", name := "sum", desc := "()I" } : Jvm.MethodName)) ∈ lw_all := lw_g (lw_at lw_m2 43 rfl) rfl
theorem q307 : (Jvm.Cond.methodLink "ZonedLogStoreLaw" (80 : Nat) ({ cls := "ZonedLogStoreModel", name := "clean", desc := "()I" } : Jvm.MethodName)) ∈ lw_all := lw_g (lw_at lw_m2 47 rfl) rfl
theorem q311 : (Jvm.Cond.methodLink "ZonedLogStoreLaw" (84 : Nat) ({ cls := "ZonedLogStoreModel", name := "check", desc := "()I" } : Jvm.MethodName)) ∈ lw_all := lw_g (lw_at lw_m2 51 rfl) rfl
end
section
/-! own rows: the store's world (X) and the model's world (M), each in one word; a row an instruction over them -/
abbrev ZF : Type := Nat → Int32
abbrev ZS : Type := ZF × ZF × ZF × ZF × ZF × ZF × ZF × ZF × Int32 × Int32 × Int32 × Int32 × Int32
abbrev ZM : Type := Int32 × Int32 × ZF × ZF × ZF
def z_rb (σ : ZS) : ZF := σ.1
def s_rb (σ : ZS) (v : ZF) : ZS := (v, σ.2)
def z_rv (σ : ZS) : ZF := σ.2.1
def s_rv (σ : ZS) (v : ZF) : ZS := (σ.1, v, σ.2.2)
def z_rg (σ : ZS) : ZF := σ.2.2.1
def s_rg (σ : ZS) (v : ZF) : ZS := (σ.1, σ.2.1, v, σ.2.2.2)
def z_fi (σ : ZS) : ZF := σ.2.2.2.1
def s_fi (σ : ZS) (v : ZF) : ZS := (σ.1, σ.2.1, σ.2.2.1, v, σ.2.2.2.2)
def z_op (σ : ZS) : ZF := σ.2.2.2.2.1
def s_op (σ : ZS) (v : ZF) : ZS := (σ.1, σ.2.1, σ.2.2.1, σ.2.2.2.1, v, σ.2.2.2.2.2)
def z_tb (σ : ZS) : ZF := σ.2.2.2.2.2.1
def s_tb (σ : ZS) (v : ZF) : ZS := (σ.1, σ.2.1, σ.2.2.1, σ.2.2.2.1, σ.2.2.2.2.1, v, σ.2.2.2.2.2.2)
def z_ca (σ : ZS) : ZF := σ.2.2.2.2.2.2.1
def s_ca (σ : ZS) (v : ZF) : ZS := (σ.1, σ.2.1, σ.2.2.1, σ.2.2.2.1, σ.2.2.2.2.1, σ.2.2.2.2.2.1, v, σ.2.2.2.2.2.2.2)
def z_di (σ : ZS) : ZF := σ.2.2.2.2.2.2.2.1
def s_di (σ : ZS) (v : ZF) : ZS := (σ.1, σ.2.1, σ.2.2.1, σ.2.2.2.1, σ.2.2.2.2.1, σ.2.2.2.2.2.1, σ.2.2.2.2.2.2.1, v, σ.2.2.2.2.2.2.2.2)
def z_ru (σ : ZS) : Int32 := σ.2.2.2.2.2.2.2.2.1
def s_ru (σ : ZS) (v : Int32) : ZS := (σ.1, σ.2.1, σ.2.2.1, σ.2.2.2.1, σ.2.2.2.2.1, σ.2.2.2.2.2.1, σ.2.2.2.2.2.2.1, σ.2.2.2.2.2.2.2.1, v, σ.2.2.2.2.2.2.2.2.2)
def z_gr (σ : ZS) : Int32 := σ.2.2.2.2.2.2.2.2.2.1
def s_gr (σ : ZS) (v : Int32) : ZS := (σ.1, σ.2.1, σ.2.2.1, σ.2.2.2.1, σ.2.2.2.2.1, σ.2.2.2.2.2.1, σ.2.2.2.2.2.2.1, σ.2.2.2.2.2.2.2.1, σ.2.2.2.2.2.2.2.2.1, v, σ.2.2.2.2.2.2.2.2.2.2)
def z_ac (σ : ZS) : Int32 := σ.2.2.2.2.2.2.2.2.2.2.1
def s_ac (σ : ZS) (v : Int32) : ZS := (σ.1, σ.2.1, σ.2.2.1, σ.2.2.2.1, σ.2.2.2.2.1, σ.2.2.2.2.2.1, σ.2.2.2.2.2.2.1, σ.2.2.2.2.2.2.2.1, σ.2.2.2.2.2.2.2.2.1, σ.2.2.2.2.2.2.2.2.2.1, v, σ.2.2.2.2.2.2.2.2.2.2.2)
def z_gn (σ : ZS) : Int32 := σ.2.2.2.2.2.2.2.2.2.2.2.1
def s_gn (σ : ZS) (v : Int32) : ZS := (σ.1, σ.2.1, σ.2.2.1, σ.2.2.2.1, σ.2.2.2.2.1, σ.2.2.2.2.2.1, σ.2.2.2.2.2.2.1, σ.2.2.2.2.2.2.2.1, σ.2.2.2.2.2.2.2.2.1, σ.2.2.2.2.2.2.2.2.2.1, σ.2.2.2.2.2.2.2.2.2.2.1, v, σ.2.2.2.2.2.2.2.2.2.2.2.2)
def z_on (σ : ZS) : Int32 := σ.2.2.2.2.2.2.2.2.2.2.2.2
def s_on (σ : ZS) (v : Int32) : ZS := (σ.1, σ.2.1, σ.2.2.1, σ.2.2.2.1, σ.2.2.2.2.1, σ.2.2.2.2.2.1, σ.2.2.2.2.2.2.1, σ.2.2.2.2.2.2.2.1, σ.2.2.2.2.2.2.2.2.1, σ.2.2.2.2.2.2.2.2.2.1, σ.2.2.2.2.2.2.2.2.2.2.1, σ.2.2.2.2.2.2.2.2.2.2.2.1, v)
def m_on (σ : ZM) : Int32 := σ.1
def n_on (σ : ZM) (v : Int32) : ZM := (v, σ.2)
def m_op (σ : ZM) : Int32 := σ.2.1
def n_op (σ : ZM) (v : Int32) : ZM := (σ.1, v, σ.2.2)
def m_nw (σ : ZM) : ZF := σ.2.2.1
def n_nw (σ : ZM) (v : ZF) : ZM := (σ.1, σ.2.1, v, σ.2.2.2)
def m_kp (σ : ZM) : ZF := σ.2.2.2.1
def n_kp (σ : ZM) (v : ZF) : ZM := (σ.1, σ.2.1, σ.2.2.1, v, σ.2.2.2.2)
def m_fr (σ : ZM) : ZF := σ.2.2.2.2
def n_fr (σ : ZM) (v : ZF) : ZM := (σ.1, σ.2.1, σ.2.2.1, σ.2.2.2.1, v)
abbrev vwCl : List vw_C := [(RX0, TX0, 13), (RX1, TX1, 5)]
def fX (a : Nat → Nat) (σ : ZS) : List Value := [.ref (a 1), .ref (a 2), .ref (a 3), .ref (a 4), .ref (a 5), .ref (a 6), .ref (a 7), .ref (a 8), .int (z_ru σ), .int (z_gr σ), .int (z_ac σ), .int (z_gn σ), .int (z_on σ)]
def wX (cI cZ : ClassId) (a : Nat → Nat) (σ : ZS) : va_W := [(a 0, .inr (0, fX a σ)), (a 1, .inl (cI, 72, .inl (z_rb σ))), (a 2, .inl (cI, 72, .inl (z_rv σ))), (a 3, .inl (cI, 72, .inl (z_rg σ))), (a 4, .inl (cI, 6, .inl (z_fi σ))), (a 5, .inl (cI, 6, .inl (z_op σ))), (a 6, .inl (cI, 16, .inl (z_tb σ))), (a 7, .inl (cI, 16, .inl (z_ca σ))), (a 8, .inl (cZ, 16, .inl (z_di σ)))]
def fM (a : Nat → Nat) (σ : ZM) : List Value := [.int (m_on σ), .int (m_op σ), .ref (a 1), .ref (a 2), .ref (a 3)]
def wM (cI cZ : ClassId) (a : Nat → Nat) (σ : ZM) : va_W := [(a 0, .inr (1, fM a σ)), (a 1, .inl (cI, 16, .inl (m_nw σ))), (a 2, .inl (cI, 16, .inl (m_kp σ))), (a 3, .inl (cZ, 16, .inl (m_fr σ)))]
abbrev zTy (cI cZ : ClassId) : List (ClassId × FieldType) := [(cI, .int), (cZ, .boolean)]
/-- a loop: any family of states at one place, with a measure that falls -/
theorem zx_loop {p : Program} {l : Launch} {e : Env} {R : Room} {s : State} {m : MethodId} {args : Array Value} {below : List Frame} {meth : Method} {c : Code} {cells slots pc : Nat} {Q : State → Prop} {rest : List Value} {ι : Type} (I : ι → Heap → List Loc → Array Slot → Prop) (μ : ι → Nat) (step : ∀ (x : ι) (H : Heap) (locs : List Loc) (ls : Array Slot), I x H locs ls → (∀ (y : ι) (H1 : Heap) (locs1 : List Loc) (ls1 : Array Slot), μ y < μ x → I y H1 locs1 ls1 → W p l e R s m args below meth c H1 locs1 cells slots Q (F0 m pc ls1 rest)) → W p l e R s m args below meth c H locs cells slots Q (F0 m pc ls rest)) (x : ι) (H : Heap) (locs : List Loc) (ls : Array Slot) (h : I x H locs ls) : W p l e R s m args below meth c H locs cells slots Q (F0 m pc ls rest) := by
  have go : ∀ (n : Nat) (x : ι) (H : Heap) (locs : List Loc) (ls : Array Slot), μ x < n → I x H locs ls → W p l e R s m args below meth c H locs cells slots Q (F0 m pc ls rest) := by
    intro n
    induction n with
    | zero => intro x H locs ls h1; exact absurd h1 (Nat.not_lt_zero _)
    | succ n ih =>
      intro x H locs ls h1 h2
      exact step x H locs ls h2 (fun y H1 locs1 ls1 h3 h4 => ih y H1 locs1 ls1 (by omega) h4)
  exact go (μ x + 1) x H locs ls (Nat.lt_succ_self _) h
theorem zx_loop1 {p : Program} {l : Launch} {e : Env} {R : Room} {s : State} {m : MethodId} {args : Array Value} {below : List Frame} {meth : Method} {c : Code} {cells slots pc : Nat} {Q : State → Prop} {rest : List Value} {ι1 : Type} (I : ι1 → Heap → List Loc → Array Slot → Prop) (μ : ι1 → Nat) (step : ∀ (x1 : ι1) (H : Heap) (locs : List Loc) (ls : Array Slot), I x1 H locs ls → (∀ (y1 : ι1) (H1 : Heap) (locs1 : List Loc) (ls1 : Array Slot), μ y1 < μ x1 → I y1 H1 locs1 ls1 → W p l e R s m args below meth c H1 locs1 cells slots Q (F0 m pc ls1 rest)) → W p l e R s m args below meth c H locs cells slots Q (F0 m pc ls rest)) (x1 : ι1) (H : Heap) (locs : List Loc) (ls : Array Slot) (h : I x1 H locs ls) : W p l e R s m args below meth c H locs cells slots Q (F0 m pc ls rest) :=
  zx_loop (ι := ι1) (fun x H locs ls => I x H locs ls) (fun x => μ x) (fun x H locs ls h ih => step x H locs ls h (fun y1 H1 locs1 ls1 h1 h2 => ih (y1) H1 locs1 ls1 h1 h2)) (x1) H locs ls h
theorem zx_loop2 {p : Program} {l : Launch} {e : Env} {R : Room} {s : State} {m : MethodId} {args : Array Value} {below : List Frame} {meth : Method} {c : Code} {cells slots pc : Nat} {Q : State → Prop} {rest : List Value} {ι1 ι2 : Type} (I : ι1 → ι2 → Heap → List Loc → Array Slot → Prop) (μ : ι1 → ι2 → Nat) (step : ∀ (x1 : ι1) (x2 : ι2) (H : Heap) (locs : List Loc) (ls : Array Slot), I x1 x2 H locs ls → (∀ (y1 : ι1) (y2 : ι2) (H1 : Heap) (locs1 : List Loc) (ls1 : Array Slot), μ y1 y2 < μ x1 x2 → I y1 y2 H1 locs1 ls1 → W p l e R s m args below meth c H1 locs1 cells slots Q (F0 m pc ls1 rest)) → W p l e R s m args below meth c H locs cells slots Q (F0 m pc ls rest)) (x1 : ι1) (x2 : ι2) (H : Heap) (locs : List Loc) (ls : Array Slot) (h : I x1 x2 H locs ls) : W p l e R s m args below meth c H locs cells slots Q (F0 m pc ls rest) :=
  zx_loop (ι := ι1 × ι2) (fun x H locs ls => I x.1 x.2 H locs ls) (fun x => μ x.1 x.2) (fun x H locs ls h ih => step x.1 x.2 H locs ls h (fun y1 y2 H1 locs1 ls1 h1 h2 => ih (y1, y2) H1 locs1 ls1 h1 h2)) (x1, x2) H locs ls h
theorem zx_loop3 {p : Program} {l : Launch} {e : Env} {R : Room} {s : State} {m : MethodId} {args : Array Value} {below : List Frame} {meth : Method} {c : Code} {cells slots pc : Nat} {Q : State → Prop} {rest : List Value} {ι1 ι2 ι3 : Type} (I : ι1 → ι2 → ι3 → Heap → List Loc → Array Slot → Prop) (μ : ι1 → ι2 → ι3 → Nat) (step : ∀ (x1 : ι1) (x2 : ι2) (x3 : ι3) (H : Heap) (locs : List Loc) (ls : Array Slot), I x1 x2 x3 H locs ls → (∀ (y1 : ι1) (y2 : ι2) (y3 : ι3) (H1 : Heap) (locs1 : List Loc) (ls1 : Array Slot), μ y1 y2 y3 < μ x1 x2 x3 → I y1 y2 y3 H1 locs1 ls1 → W p l e R s m args below meth c H1 locs1 cells slots Q (F0 m pc ls1 rest)) → W p l e R s m args below meth c H locs cells slots Q (F0 m pc ls rest)) (x1 : ι1) (x2 : ι2) (x3 : ι3) (H : Heap) (locs : List Loc) (ls : Array Slot) (h : I x1 x2 x3 H locs ls) : W p l e R s m args below meth c H locs cells slots Q (F0 m pc ls rest) :=
  zx_loop (ι := ι1 × ι2 × ι3) (fun x H locs ls => I x.1 x.2.1 x.2.2 H locs ls) (fun x => μ x.1 x.2.1 x.2.2) (fun x H locs ls h ih => step x.1 x.2.1 x.2.2 H locs ls h (fun y1 y2 y3 H1 locs1 ls1 h1 h2 => ih (y1, y2, y3) H1 locs1 ls1 h1 h2)) (x1, x2, x3) H locs ls h
theorem zx_loop4 {p : Program} {l : Launch} {e : Env} {R : Room} {s : State} {m : MethodId} {args : Array Value} {below : List Frame} {meth : Method} {c : Code} {cells slots pc : Nat} {Q : State → Prop} {rest : List Value} {ι1 ι2 ι3 ι4 : Type} (I : ι1 → ι2 → ι3 → ι4 → Heap → List Loc → Array Slot → Prop) (μ : ι1 → ι2 → ι3 → ι4 → Nat) (step : ∀ (x1 : ι1) (x2 : ι2) (x3 : ι3) (x4 : ι4) (H : Heap) (locs : List Loc) (ls : Array Slot), I x1 x2 x3 x4 H locs ls → (∀ (y1 : ι1) (y2 : ι2) (y3 : ι3) (y4 : ι4) (H1 : Heap) (locs1 : List Loc) (ls1 : Array Slot), μ y1 y2 y3 y4 < μ x1 x2 x3 x4 → I y1 y2 y3 y4 H1 locs1 ls1 → W p l e R s m args below meth c H1 locs1 cells slots Q (F0 m pc ls1 rest)) → W p l e R s m args below meth c H locs cells slots Q (F0 m pc ls rest)) (x1 : ι1) (x2 : ι2) (x3 : ι3) (x4 : ι4) (H : Heap) (locs : List Loc) (ls : Array Slot) (h : I x1 x2 x3 x4 H locs ls) : W p l e R s m args below meth c H locs cells slots Q (F0 m pc ls rest) :=
  zx_loop (ι := ι1 × ι2 × ι3 × ι4) (fun x H locs ls => I x.1 x.2.1 x.2.2.1 x.2.2.2 H locs ls) (fun x => μ x.1 x.2.1 x.2.2.1 x.2.2.2) (fun x H locs ls h ih => step x.1 x.2.1 x.2.2.1 x.2.2.2 H locs ls h (fun y1 y2 y3 y4 H1 locs1 ls1 h1 h2 => ih (y1, y2, y3, y4) H1 locs1 ls1 h1 h2)) (x1, x2, x3, x4) H locs ls h
theorem zt_i {p : Program} {l : Launch} {e : Env} {R : Room} {s : State} {m : MethodId} {args : Array Value} {below : List Frame} {meth : Method} {c : Code} {cells slots pc : Nat} {Q : State → Prop} {H : Heap} {locs : List Loc} {ls : Array Slot} {rest : List Value} {x y : Int32} (h : x = y) (k : W p l e R s m args below meth c H locs cells slots Q (F0 m pc ls (.int y :: rest))) : W p l e R s m args below meth c H locs cells slots Q (F0 m pc ls (.int x :: rest)) := by rw [h]; exact k
theorem zi_ex {i N : Nat} (hN : N < 2 ^ 31) (h : i ≤ N) (c : nI N ≤ nI i) : i = N := by
  have := (nI_leI hN (by omega)).mp c
  omega
theorem zi_in {i N : Nat} (hN : N < 2 ^ 31) (h : i ≤ N) (c : ¬ nI N ≤ nI i) : i < N := by
  rcases Nat.lt_or_ge i N with q | q
  · exact q
  · exact absurd (nI_le q (by omega)) c
/-- the x world: cells, apart, and what changed since H0 -/
def xW (dC : Nat → ClassId) (dI : Nat → Nat → Nat) (cI cZ : ClassId) (a : Nat → Nat) (A : Nat → Prop) (H0 H : Heap) (locs : List Loc) (σ : ZS) : Prop := va_P (dC, dI) vwCl (wX cI cZ a σ) H ∧ va_D A (wX cI cZ a σ) ∧ va_S A H0 H locs
/-- what holds all through a method of the class -/
def xC (p : Program) (c : Code) (cc : ByteArray) (nL : Nat) (s : State) (m : MethodId) (args : Array Value) (dC : Nat → ClassId) (dI : Nat → Nat → Nat) (cI cZ : ClassId) : Prop := CallFix p m c cc nL s args lw_all RX0 ∧ va_K (dC, dI) vwCl (zTy cI cZ) s
def xB (dC : Nat → ClassId) (dI : Nat → Nat → Nat) (cI cZ : ClassId) (a : Nat → Nat) (A : Nat → Prop) (u : ZS) (t : State) : Prop := va_P (dC, dI) vwCl (wX cI cZ a u) t.heap ∧ va_K (dC, dI) vwCl (zTy cI cZ) t ∧ va_D A (wX cI cZ a u)
def xP (dC : Nat → ClassId) (dI : Nat → Nat → Nat) (cI cZ : ClassId) (a : Nat → Nat) (σ : ZS) (sz : Nat) (As : List Value) : Array Value → State → Prop := va_Pc (.ref (a 0) :: As) (fun U => U.heap.size = sz ∧ va_P (dC, dI) vwCl (wX cI cZ a σ) U.heap ∧ va_K (dC, dI) vwCl (zTy cI cZ) U ∧ va_D (fun _ => True) (wX cI cZ a σ))
/-- a contract: an int (or boolean) comes back -/
def xMi (l : Launch) (y : MethodName) (cc : ByteArray) (maxL : Nat) (ret : Option FieldType) (rm : Room) (dC : Nat → ClassId) (dI : Nat → Nat → Nat) (cI cZ : ClassId) (a : Nat → Nat) (σ : ZS) (sz : Nat) (As : List Value) (post : Int32 → ZS → Prop) : Prop := Met l y (ws_ y cc maxL ret) rm (xP dC dI cI cZ a σ sz As) (va_Qi post (xB dC dI cI cZ a (va_A (wX cI cZ a σ) sz)) (va_A (wX cI cZ a σ) sz)) 0 0 (va_A (wX cI cZ a σ) sz)
/-- a contract: nothing comes back -/
def xMv (l : Launch) (y : MethodName) (cc : ByteArray) (maxL : Nat) (ret : Option FieldType) (rm : Room) (dC : Nat → ClassId) (dI : Nat → Nat → Nat) (cI cZ : ClassId) (a : Nat → Nat) (σ : ZS) (sz : Nat) (As : List Value) (post : ZS → Prop) : Prop := Met l y (ws_ y cc maxL ret) rm (xP dC dI cI cZ a σ sz As) (va_Qv post (xB dC dI cI cZ a (va_A (wX cI cZ a σ) sz)) (va_A (wX cI cZ a σ) sz)) 0 0 (va_A (wX cI cZ a σ) sz)
theorem xP_blind {dC : Nat → ClassId} {dI : Nat → Nat → Nat} {cI cZ : ClassId} {a : Nat → Nat} {σ : ZS} {sz : Nat} {As : List Value} : FrameBlind (xP dC dI cI cZ a σ sz As) := by
  intro a0 U g mk q
  obtain ⟨q0, q1, qP, qK, qD⟩ := q
  exact ⟨q0, q1, qP, va_K.moved (u := U) (U := U.calling g mk a0) (Vm.Alike.refl U.vm) qK, qD⟩
section
variable {p : Program} {l : Launch} {e : Env} {R : Room} {s : State} {m : MethodId} {args : Array Value} {below : List Frame} {meth : Method} {c : Code} {H : Heap} {locs : List Loc} {cells slots : Nat} {Q : State → Prop} {cc : ByteArray} {pc nL : Nat} {ls : Array Slot} {rest : List Value} {A : Nat → Prop} {H0 : Heap} {dC : Nat → ClassId} {dI : Nat → Nat → Nat} {cI cZ : ClassId} {a : Nat → Nat} {σ : ZS}
theorem gx_k (C : xC p c cc nL s m args dC dI cI cZ) (w : xW dC dI cI cZ a A H0 H locs σ) (k : Nat) (hk : k < 13) {index : Nat} (hq : Cond.fieldLink RX0 index RX0 (TX0 k).2.1 (TX0 k).2.2.1 ∈ lw_all) (hT : (TX0 k).1 = RX0) {v : Value} (hv : (fX a σ)[k]? = some v) (hdg : decode cc pc = .ok (.getfield index, 3)) (kk : W p l e R s m args below meth c H locs cells slots Q (F0 m (pc + 3) ls (v :: rest))) : W p l e R s m args below meth c H locs cells slots Q (F0 m pc ls (.ref (a 0) :: rest)) :=
  va_get (D := (dC, dI)) (ci := 0) (C := RX0) (T := TX0) (N := 13) C.1.1 C.1.2.1 C.1.2.2.2.2 in_X0 C.1.2.2.2.1 C.2 w.1 0 rfl rfl k hk (C.1.2.2.2.2 _ hq) (fun _ h9 => by rw [hT] at h9; exact h9) hv hdg kk
theorem gx_rb (C : xC p c cc nL s m args dC dI cI cZ) (w : xW dC dI cI cZ a A H0 H locs σ) (hdg : decode cc pc = .ok (.getfield 7, 3)) (kk : W p l e R s m args below meth c H locs cells slots Q (F0 m (pc + 3) ls (.ref (a 1) :: rest))) : W p l e R s m args below meth c H locs cells slots Q (F0 m pc ls (.ref (a 0) :: rest)) := gx_k C w 0 (by decide) q31 rfl rfl hdg kk
theorem gx_rv (C : xC p c cc nL s m args dC dI cI cZ) (w : xW dC dI cI cZ a A H0 H locs σ) (hdg : decode cc pc = .ok (.getfield 13, 3)) (kk : W p l e R s m args below meth c H locs cells slots Q (F0 m (pc + 3) ls (.ref (a 2) :: rest))) : W p l e R s m args below meth c H locs cells slots Q (F0 m pc ls (.ref (a 0) :: rest)) := gx_k C w 1 (by decide) q32 rfl rfl hdg kk
theorem gx_rg (C : xC p c cc nL s m args dC dI cI cZ) (w : xW dC dI cI cZ a A H0 H locs σ) (hdg : decode cc pc = .ok (.getfield 16, 3)) (kk : W p l e R s m args below meth c H locs cells slots Q (F0 m (pc + 3) ls (.ref (a 3) :: rest))) : W p l e R s m args below meth c H locs cells slots Q (F0 m pc ls (.ref (a 0) :: rest)) := gx_k C w 2 (by decide) q33 rfl rfl hdg kk
theorem gx_fi (C : xC p c cc nL s m args dC dI cI cZ) (w : xW dC dI cI cZ a A H0 H locs σ) (hdg : decode cc pc = .ok (.getfield 19, 3)) (kk : W p l e R s m args below meth c H locs cells slots Q (F0 m (pc + 3) ls (.ref (a 4) :: rest))) : W p l e R s m args below meth c H locs cells slots Q (F0 m pc ls (.ref (a 0) :: rest)) := gx_k C w 3 (by decide) q34 rfl rfl hdg kk
theorem gx_op (C : xC p c cc nL s m args dC dI cI cZ) (w : xW dC dI cI cZ a A H0 H locs σ) (hdg : decode cc pc = .ok (.getfield 22, 3)) (kk : W p l e R s m args below meth c H locs cells slots Q (F0 m (pc + 3) ls (.ref (a 5) :: rest))) : W p l e R s m args below meth c H locs cells slots Q (F0 m pc ls (.ref (a 0) :: rest)) := gx_k C w 4 (by decide) q35 rfl rfl hdg kk
theorem gx_tb (C : xC p c cc nL s m args dC dI cI cZ) (w : xW dC dI cI cZ a A H0 H locs σ) (hdg : decode cc pc = .ok (.getfield 25, 3)) (kk : W p l e R s m args below meth c H locs cells slots Q (F0 m (pc + 3) ls (.ref (a 6) :: rest))) : W p l e R s m args below meth c H locs cells slots Q (F0 m pc ls (.ref (a 0) :: rest)) := gx_k C w 5 (by decide) q36 rfl rfl hdg kk
theorem gx_ca (C : xC p c cc nL s m args dC dI cI cZ) (w : xW dC dI cI cZ a A H0 H locs σ) (hdg : decode cc pc = .ok (.getfield 28, 3)) (kk : W p l e R s m args below meth c H locs cells slots Q (F0 m (pc + 3) ls (.ref (a 7) :: rest))) : W p l e R s m args below meth c H locs cells slots Q (F0 m pc ls (.ref (a 0) :: rest)) := gx_k C w 6 (by decide) q37 rfl rfl hdg kk
theorem gx_di (C : xC p c cc nL s m args dC dI cI cZ) (w : xW dC dI cI cZ a A H0 H locs σ) (hdg : decode cc pc = .ok (.getfield 31, 3)) (kk : W p l e R s m args below meth c H locs cells slots Q (F0 m (pc + 3) ls (.ref (a 8) :: rest))) : W p l e R s m args below meth c H locs cells slots Q (F0 m pc ls (.ref (a 0) :: rest)) := gx_k C w 7 (by decide) q38 rfl rfl hdg kk
theorem gx_ru (C : xC p c cc nL s m args dC dI cI cZ) (w : xW dC dI cI cZ a A H0 H locs σ) (hdg : decode cc pc = .ok (.getfield 35, 3)) (kk : W p l e R s m args below meth c H locs cells slots Q (F0 m (pc + 3) ls (.int (z_ru σ) :: rest))) : W p l e R s m args below meth c H locs cells slots Q (F0 m pc ls (.ref (a 0) :: rest)) := gx_k C w 8 (by decide) q39 rfl rfl hdg kk
theorem gx_gr (C : xC p c cc nL s m args dC dI cI cZ) (w : xW dC dI cI cZ a A H0 H locs σ) (hdg : decode cc pc = .ok (.getfield 55, 3)) (kk : W p l e R s m args below meth c H locs cells slots Q (F0 m (pc + 3) ls (.int (z_gr σ) :: rest))) : W p l e R s m args below meth c H locs cells slots Q (F0 m pc ls (.ref (a 0) :: rest)) := gx_k C w 9 (by decide) q40 rfl rfl hdg kk
theorem gx_ac (C : xC p c cc nL s m args dC dI cI cZ) (w : xW dC dI cI cZ a A H0 H locs σ) (hdg : decode cc pc = .ok (.getfield 39, 3)) (kk : W p l e R s m args below meth c H locs cells slots Q (F0 m (pc + 3) ls (.int (z_ac σ) :: rest))) : W p l e R s m args below meth c H locs cells slots Q (F0 m pc ls (.ref (a 0) :: rest)) := gx_k C w 10 (by decide) q41 rfl rfl hdg kk
theorem gx_gn (C : xC p c cc nL s m args dC dI cI cZ) (w : xW dC dI cI cZ a A H0 H locs σ) (hdg : decode cc pc = .ok (.getfield 90, 3)) (kk : W p l e R s m args below meth c H locs cells slots Q (F0 m (pc + 3) ls (.int (z_gn σ) :: rest))) : W p l e R s m args below meth c H locs cells slots Q (F0 m pc ls (.ref (a 0) :: rest)) := gx_k C w 11 (by decide) q42 rfl rfl hdg kk
theorem gx_on (C : xC p c cc nL s m args dC dI cI cZ) (w : xW dC dI cI cZ a A H0 H locs σ) (hdg : decode cc pc = .ok (.getfield 108, 3)) (kk : W p l e R s m args below meth c H locs cells slots Q (F0 m (pc + 3) ls (.int (z_on σ) :: rest))) : W p l e R s m args below meth c H locs cells slots Q (F0 m pc ls (.ref (a 0) :: rest)) := gx_k C w 12 (by decide) q43 rfl rfl hdg kk
theorem lx_rb (C : xC p c cc nL s m args dC dI cI cZ) (w : xW dC dI cI cZ a A H0 H locs σ) {x : Int32} {k : Nat} (hx : x = nI k) (hk : k < 72) (hdg : decode cc pc = .ok (.iaload, 1)) (kk : W p l e R s m args below meth c H locs cells slots Q (F0 m (pc + 1) ls (.int (z_rb σ k) :: rest))) : W p l e R s m args below meth c H locs cells slots Q (F0 m pc ls (.int x :: .ref (a 1) :: rest)) := by
  subst hx
  refine va_iald C.1.1 C.1.2.1 C.2 w.1 1 0 rfl rfl (vp_in_nI hk (by decide)) hdg ?_
  rw [nI_clamp (by omega)]
  exact kk
theorem wx_rb (C : xC p c cc nL s m args dC dI cI cZ) (w : xW dC dI cI cZ a A H0 H locs σ) {x v : Int32} {k : Nat} (hx : x = nI k) (hk : k < 72) (hdg : decode cc pc = .ok (.iastore, 1)) (kk : ∀ (H1 : Heap) (locs1 : List Loc), xW dC dI cI cZ a A H0 H1 locs1 (s_rb σ (upd (z_rb σ) k v)) → W p l e R s m args below meth c H1 locs1 cells slots Q (F0 m (pc + 1) ls rest)) : W p l e R s m args below meth c H locs cells slots Q (F0 m pc ls (.int v :: .int x :: .ref (a 1) :: rest)) := by
  subst hx
  refine va_iast C.1.1 C.1.2.1 C.2 w.1 w.2.1 w.2.2 1 0 rfl rfl (vp_in_nI hk (by decide)) hdg (fun H1 locs1 hP hD hS => ?_)
  rw [nI_clamp (by omega)] at hP hD
  exact kk H1 locs1 ⟨hP, hD, hS⟩
theorem lx_rv (C : xC p c cc nL s m args dC dI cI cZ) (w : xW dC dI cI cZ a A H0 H locs σ) {x : Int32} {k : Nat} (hx : x = nI k) (hk : k < 72) (hdg : decode cc pc = .ok (.iaload, 1)) (kk : W p l e R s m args below meth c H locs cells slots Q (F0 m (pc + 1) ls (.int (z_rv σ k) :: rest))) : W p l e R s m args below meth c H locs cells slots Q (F0 m pc ls (.int x :: .ref (a 2) :: rest)) := by
  subst hx
  refine va_iald C.1.1 C.1.2.1 C.2 w.1 2 0 rfl rfl (vp_in_nI hk (by decide)) hdg ?_
  rw [nI_clamp (by omega)]
  exact kk
theorem wx_rv (C : xC p c cc nL s m args dC dI cI cZ) (w : xW dC dI cI cZ a A H0 H locs σ) {x v : Int32} {k : Nat} (hx : x = nI k) (hk : k < 72) (hdg : decode cc pc = .ok (.iastore, 1)) (kk : ∀ (H1 : Heap) (locs1 : List Loc), xW dC dI cI cZ a A H0 H1 locs1 (s_rv σ (upd (z_rv σ) k v)) → W p l e R s m args below meth c H1 locs1 cells slots Q (F0 m (pc + 1) ls rest)) : W p l e R s m args below meth c H locs cells slots Q (F0 m pc ls (.int v :: .int x :: .ref (a 2) :: rest)) := by
  subst hx
  refine va_iast C.1.1 C.1.2.1 C.2 w.1 w.2.1 w.2.2 2 0 rfl rfl (vp_in_nI hk (by decide)) hdg (fun H1 locs1 hP hD hS => ?_)
  rw [nI_clamp (by omega)] at hP hD
  exact kk H1 locs1 ⟨hP, hD, hS⟩
theorem lx_rg (C : xC p c cc nL s m args dC dI cI cZ) (w : xW dC dI cI cZ a A H0 H locs σ) {x : Int32} {k : Nat} (hx : x = nI k) (hk : k < 72) (hdg : decode cc pc = .ok (.iaload, 1)) (kk : W p l e R s m args below meth c H locs cells slots Q (F0 m (pc + 1) ls (.int (z_rg σ k) :: rest))) : W p l e R s m args below meth c H locs cells slots Q (F0 m pc ls (.int x :: .ref (a 3) :: rest)) := by
  subst hx
  refine va_iald C.1.1 C.1.2.1 C.2 w.1 3 0 rfl rfl (vp_in_nI hk (by decide)) hdg ?_
  rw [nI_clamp (by omega)]
  exact kk
theorem wx_rg (C : xC p c cc nL s m args dC dI cI cZ) (w : xW dC dI cI cZ a A H0 H locs σ) {x v : Int32} {k : Nat} (hx : x = nI k) (hk : k < 72) (hdg : decode cc pc = .ok (.iastore, 1)) (kk : ∀ (H1 : Heap) (locs1 : List Loc), xW dC dI cI cZ a A H0 H1 locs1 (s_rg σ (upd (z_rg σ) k v)) → W p l e R s m args below meth c H1 locs1 cells slots Q (F0 m (pc + 1) ls rest)) : W p l e R s m args below meth c H locs cells slots Q (F0 m pc ls (.int v :: .int x :: .ref (a 3) :: rest)) := by
  subst hx
  refine va_iast C.1.1 C.1.2.1 C.2 w.1 w.2.1 w.2.2 3 0 rfl rfl (vp_in_nI hk (by decide)) hdg (fun H1 locs1 hP hD hS => ?_)
  rw [nI_clamp (by omega)] at hP hD
  exact kk H1 locs1 ⟨hP, hD, hS⟩
theorem lx_fi (C : xC p c cc nL s m args dC dI cI cZ) (w : xW dC dI cI cZ a A H0 H locs σ) {x : Int32} {k : Nat} (hx : x = nI k) (hk : k < 6) (hdg : decode cc pc = .ok (.iaload, 1)) (kk : W p l e R s m args below meth c H locs cells slots Q (F0 m (pc + 1) ls (.int (z_fi σ k) :: rest))) : W p l e R s m args below meth c H locs cells slots Q (F0 m pc ls (.int x :: .ref (a 4) :: rest)) := by
  subst hx
  refine va_iald C.1.1 C.1.2.1 C.2 w.1 4 0 rfl rfl (vp_in_nI hk (by decide)) hdg ?_
  rw [nI_clamp (by omega)]
  exact kk
theorem wx_fi (C : xC p c cc nL s m args dC dI cI cZ) (w : xW dC dI cI cZ a A H0 H locs σ) {x v : Int32} {k : Nat} (hx : x = nI k) (hk : k < 6) (hdg : decode cc pc = .ok (.iastore, 1)) (kk : ∀ (H1 : Heap) (locs1 : List Loc), xW dC dI cI cZ a A H0 H1 locs1 (s_fi σ (upd (z_fi σ) k v)) → W p l e R s m args below meth c H1 locs1 cells slots Q (F0 m (pc + 1) ls rest)) : W p l e R s m args below meth c H locs cells slots Q (F0 m pc ls (.int v :: .int x :: .ref (a 4) :: rest)) := by
  subst hx
  refine va_iast C.1.1 C.1.2.1 C.2 w.1 w.2.1 w.2.2 4 0 rfl rfl (vp_in_nI hk (by decide)) hdg (fun H1 locs1 hP hD hS => ?_)
  rw [nI_clamp (by omega)] at hP hD
  exact kk H1 locs1 ⟨hP, hD, hS⟩
theorem lx_op (C : xC p c cc nL s m args dC dI cI cZ) (w : xW dC dI cI cZ a A H0 H locs σ) {x : Int32} {k : Nat} (hx : x = nI k) (hk : k < 6) (hdg : decode cc pc = .ok (.iaload, 1)) (kk : W p l e R s m args below meth c H locs cells slots Q (F0 m (pc + 1) ls (.int (z_op σ k) :: rest))) : W p l e R s m args below meth c H locs cells slots Q (F0 m pc ls (.int x :: .ref (a 5) :: rest)) := by
  subst hx
  refine va_iald C.1.1 C.1.2.1 C.2 w.1 5 0 rfl rfl (vp_in_nI hk (by decide)) hdg ?_
  rw [nI_clamp (by omega)]
  exact kk
theorem wx_op (C : xC p c cc nL s m args dC dI cI cZ) (w : xW dC dI cI cZ a A H0 H locs σ) {x v : Int32} {k : Nat} (hx : x = nI k) (hk : k < 6) (hdg : decode cc pc = .ok (.iastore, 1)) (kk : ∀ (H1 : Heap) (locs1 : List Loc), xW dC dI cI cZ a A H0 H1 locs1 (s_op σ (upd (z_op σ) k v)) → W p l e R s m args below meth c H1 locs1 cells slots Q (F0 m (pc + 1) ls rest)) : W p l e R s m args below meth c H locs cells slots Q (F0 m pc ls (.int v :: .int x :: .ref (a 5) :: rest)) := by
  subst hx
  refine va_iast C.1.1 C.1.2.1 C.2 w.1 w.2.1 w.2.2 5 0 rfl rfl (vp_in_nI hk (by decide)) hdg (fun H1 locs1 hP hD hS => ?_)
  rw [nI_clamp (by omega)] at hP hD
  exact kk H1 locs1 ⟨hP, hD, hS⟩
theorem lx_tb (C : xC p c cc nL s m args dC dI cI cZ) (w : xW dC dI cI cZ a A H0 H locs σ) {x : Int32} {k : Nat} (hx : x = nI k) (hk : k < 16) (hdg : decode cc pc = .ok (.iaload, 1)) (kk : W p l e R s m args below meth c H locs cells slots Q (F0 m (pc + 1) ls (.int (z_tb σ k) :: rest))) : W p l e R s m args below meth c H locs cells slots Q (F0 m pc ls (.int x :: .ref (a 6) :: rest)) := by
  subst hx
  refine va_iald C.1.1 C.1.2.1 C.2 w.1 6 0 rfl rfl (vp_in_nI hk (by decide)) hdg ?_
  rw [nI_clamp (by omega)]
  exact kk
theorem wx_tb (C : xC p c cc nL s m args dC dI cI cZ) (w : xW dC dI cI cZ a A H0 H locs σ) {x v : Int32} {k : Nat} (hx : x = nI k) (hk : k < 16) (hdg : decode cc pc = .ok (.iastore, 1)) (kk : ∀ (H1 : Heap) (locs1 : List Loc), xW dC dI cI cZ a A H0 H1 locs1 (s_tb σ (upd (z_tb σ) k v)) → W p l e R s m args below meth c H1 locs1 cells slots Q (F0 m (pc + 1) ls rest)) : W p l e R s m args below meth c H locs cells slots Q (F0 m pc ls (.int v :: .int x :: .ref (a 6) :: rest)) := by
  subst hx
  refine va_iast C.1.1 C.1.2.1 C.2 w.1 w.2.1 w.2.2 6 0 rfl rfl (vp_in_nI hk (by decide)) hdg (fun H1 locs1 hP hD hS => ?_)
  rw [nI_clamp (by omega)] at hP hD
  exact kk H1 locs1 ⟨hP, hD, hS⟩
theorem lx_ca (C : xC p c cc nL s m args dC dI cI cZ) (w : xW dC dI cI cZ a A H0 H locs σ) {x : Int32} {k : Nat} (hx : x = nI k) (hk : k < 16) (hdg : decode cc pc = .ok (.iaload, 1)) (kk : W p l e R s m args below meth c H locs cells slots Q (F0 m (pc + 1) ls (.int (z_ca σ k) :: rest))) : W p l e R s m args below meth c H locs cells slots Q (F0 m pc ls (.int x :: .ref (a 7) :: rest)) := by
  subst hx
  refine va_iald C.1.1 C.1.2.1 C.2 w.1 7 0 rfl rfl (vp_in_nI hk (by decide)) hdg ?_
  rw [nI_clamp (by omega)]
  exact kk
theorem wx_ca (C : xC p c cc nL s m args dC dI cI cZ) (w : xW dC dI cI cZ a A H0 H locs σ) {x v : Int32} {k : Nat} (hx : x = nI k) (hk : k < 16) (hdg : decode cc pc = .ok (.iastore, 1)) (kk : ∀ (H1 : Heap) (locs1 : List Loc), xW dC dI cI cZ a A H0 H1 locs1 (s_ca σ (upd (z_ca σ) k v)) → W p l e R s m args below meth c H1 locs1 cells slots Q (F0 m (pc + 1) ls rest)) : W p l e R s m args below meth c H locs cells slots Q (F0 m pc ls (.int v :: .int x :: .ref (a 7) :: rest)) := by
  subst hx
  refine va_iast C.1.1 C.1.2.1 C.2 w.1 w.2.1 w.2.2 7 0 rfl rfl (vp_in_nI hk (by decide)) hdg (fun H1 locs1 hP hD hS => ?_)
  rw [nI_clamp (by omega)] at hP hD
  exact kk H1 locs1 ⟨hP, hD, hS⟩
theorem lx_di (C : xC p c cc nL s m args dC dI cI cZ) (w : xW dC dI cI cZ a A H0 H locs σ) {x : Int32} {k : Nat} (hx : x = nI k) (hk : k < 16) (hdg : decode cc pc = .ok (.baload, 1)) (kk : W p l e R s m args below meth c H locs cells slots Q (F0 m (pc + 1) ls (.int (z_di σ k) :: rest))) : W p l e R s m args below meth c H locs cells slots Q (F0 m pc ls (.int x :: .ref (a 8) :: rest)) := by
  subst hx
  refine va_zald C.1.1 C.1.2.1 C.2 w.1 8 1 rfl rfl (vp_in_nI hk (by decide)) hdg ?_
  rw [nI_clamp (by omega)]
  exact kk
theorem wx_di (C : xC p c cc nL s m args dC dI cI cZ) (w : xW dC dI cI cZ a A H0 H locs σ) {x v v' : Int32} {k : Nat} (hx : x = nI k) (hk : k < 16) (hv : vp_nar .boolean v = v') (hdg : decode cc pc = .ok (.bastore, 1)) (kk : ∀ (H1 : Heap) (locs1 : List Loc), xW dC dI cI cZ a A H0 H1 locs1 (s_di σ (upd (z_di σ) k v')) → W p l e R s m args below meth c H1 locs1 cells slots Q (F0 m (pc + 1) ls rest)) : W p l e R s m args below meth c H locs cells slots Q (F0 m pc ls (.int v :: .int x :: .ref (a 8) :: rest)) := by
  subst hx
  subst hv
  refine va_zast C.1.1 C.1.2.1 C.2 w.1 w.2.1 w.2.2 8 1 rfl rfl (vp_in_nI hk (by decide)) hdg (fun H1 locs1 hP hD hS => ?_)
  rw [nI_clamp (by omega)] at hP hD
  exact kk H1 locs1 ⟨hP, hD, hS⟩
theorem px_ru (C : xC p c cc nL s m args dC dI cI cZ) (w : xW dC dI cI cZ a A H0 H locs σ) {v : Int32} (hn : narrow .boolean (.int v) = .int v) (hf : fits .boolean (.int v) = true) (hdg : decode cc pc = .ok (.putfield 35, 3)) (kk : ∀ (H1 : Heap) (locs1 : List Loc), xW dC dI cI cZ a A H0 H1 locs1 (s_ru σ v) → W p l e R s m args below meth c H1 locs1 cells slots Q (F0 m (pc + 3) ls rest)) : W p l e R s m args below meth c H locs cells slots Q (F0 m pc ls (.int v :: .ref (a 0) :: rest)) :=
  va_put (D := (dC, dI)) (ci := 0) (v := .int v) (ty := .boolean) (C := RX0) (T := TX0) (N := 13) C.1.1 C.1.2.1 C.1.2.2.2.2 in_X0 tyX0 tyX0_ok nmX0 C.1.2.2.2.1 C.2 w.1 w.2.1 w.2.2 0 rfl rfl 8 (by decide) (C.1.2.2.2.2 _ q39) (fun _ h9 => h9) rfl (by decide +kernel) hn hf (Nat.le_of_ble_eq_true rfl) hdg (fun H1 locs1 hP hD hS => kk H1 locs1 ⟨hP, hD, hS⟩)
theorem px_gr (C : xC p c cc nL s m args dC dI cI cZ) (w : xW dC dI cI cZ a A H0 H locs σ) {v : Int32} (hn : narrow .boolean (.int v) = .int v) (hf : fits .boolean (.int v) = true) (hdg : decode cc pc = .ok (.putfield 55, 3)) (kk : ∀ (H1 : Heap) (locs1 : List Loc), xW dC dI cI cZ a A H0 H1 locs1 (s_gr σ v) → W p l e R s m args below meth c H1 locs1 cells slots Q (F0 m (pc + 3) ls rest)) : W p l e R s m args below meth c H locs cells slots Q (F0 m pc ls (.int v :: .ref (a 0) :: rest)) :=
  va_put (D := (dC, dI)) (ci := 0) (v := .int v) (ty := .boolean) (C := RX0) (T := TX0) (N := 13) C.1.1 C.1.2.1 C.1.2.2.2.2 in_X0 tyX0 tyX0_ok nmX0 C.1.2.2.2.1 C.2 w.1 w.2.1 w.2.2 0 rfl rfl 9 (by decide) (C.1.2.2.2.2 _ q40) (fun _ h9 => h9) rfl (by decide +kernel) hn hf (Nat.le_of_ble_eq_true rfl) hdg (fun H1 locs1 hP hD hS => kk H1 locs1 ⟨hP, hD, hS⟩)
theorem px_ac (C : xC p c cc nL s m args dC dI cI cZ) (w : xW dC dI cI cZ a A H0 H locs σ) {v : Int32} (hdg : decode cc pc = .ok (.putfield 39, 3)) (kk : ∀ (H1 : Heap) (locs1 : List Loc), xW dC dI cI cZ a A H0 H1 locs1 (s_ac σ v) → W p l e R s m args below meth c H1 locs1 cells slots Q (F0 m (pc + 3) ls rest)) : W p l e R s m args below meth c H locs cells slots Q (F0 m pc ls (.int v :: .ref (a 0) :: rest)) :=
  va_put (D := (dC, dI)) (ci := 0) (v := .int v) (ty := .int) (C := RX0) (T := TX0) (N := 13) C.1.1 C.1.2.1 C.1.2.2.2.2 in_X0 tyX0 tyX0_ok nmX0 C.1.2.2.2.1 C.2 w.1 w.2.1 w.2.2 0 rfl rfl 10 (by decide) (C.1.2.2.2.2 _ q41) (fun _ h9 => h9) rfl (by decide +kernel) rfl rfl (Nat.le_of_ble_eq_true rfl) hdg (fun H1 locs1 hP hD hS => kk H1 locs1 ⟨hP, hD, hS⟩)
theorem px_gn (C : xC p c cc nL s m args dC dI cI cZ) (w : xW dC dI cI cZ a A H0 H locs σ) {v : Int32} (hdg : decode cc pc = .ok (.putfield 90, 3)) (kk : ∀ (H1 : Heap) (locs1 : List Loc), xW dC dI cI cZ a A H0 H1 locs1 (s_gn σ v) → W p l e R s m args below meth c H1 locs1 cells slots Q (F0 m (pc + 3) ls rest)) : W p l e R s m args below meth c H locs cells slots Q (F0 m pc ls (.int v :: .ref (a 0) :: rest)) :=
  va_put (D := (dC, dI)) (ci := 0) (v := .int v) (ty := .int) (C := RX0) (T := TX0) (N := 13) C.1.1 C.1.2.1 C.1.2.2.2.2 in_X0 tyX0 tyX0_ok nmX0 C.1.2.2.2.1 C.2 w.1 w.2.1 w.2.2 0 rfl rfl 11 (by decide) (C.1.2.2.2.2 _ q42) (fun _ h9 => h9) rfl (by decide +kernel) rfl rfl (Nat.le_of_ble_eq_true rfl) hdg (fun H1 locs1 hP hD hS => kk H1 locs1 ⟨hP, hD, hS⟩)
theorem px_on (C : xC p c cc nL s m args dC dI cI cZ) (w : xW dC dI cI cZ a A H0 H locs σ) {v : Int32} (hdg : decode cc pc = .ok (.putfield 108, 3)) (kk : ∀ (H1 : Heap) (locs1 : List Loc), xW dC dI cI cZ a A H0 H1 locs1 (s_on σ v) → W p l e R s m args below meth c H1 locs1 cells slots Q (F0 m (pc + 3) ls rest)) : W p l e R s m args below meth c H locs cells slots Q (F0 m pc ls (.int v :: .ref (a 0) :: rest)) :=
  va_put (D := (dC, dI)) (ci := 0) (v := .int v) (ty := .int) (C := RX0) (T := TX0) (N := 13) C.1.1 C.1.2.1 C.1.2.2.2.2 in_X0 tyX0 tyX0_ok nmX0 C.1.2.2.2.1 C.2 w.1 w.2.1 w.2.2 0 rfl rfl 12 (by decide) (C.1.2.2.2.2 _ q43) (fun _ h9 => h9) rfl (by decide +kernel) rfl rfl (Nat.le_of_ble_eq_true rfl) hdg (fun H1 locs1 hP hD hS => kk H1 locs1 ⟨hP, hD, hS⟩)
theorem cx_i {y : MethodName} {bytes : ByteArray} {maxL index n : Nat} {ret : Option FieldType} {rm : Room} {As st0 : List Value} {post : Int32 → ZS → Prop} (C : xC p c cc nL s m args dC dI cI cZ) (w : xW dC dI cI cZ a A s.heap H locs σ) (hA : ∀ q : Nat, s.heap.size ≤ q → A q) (hM : xMi l y bytes maxL ret rm dC dI cI cZ a σ H.size As post) (cw : CallW R s args RX0 RX0 index y bytes maxL ret (ws_ y bytes maxL ret) rm 0 0 n) (hn : As.length = n) (hl : ls.size = nL) (hst : st0 = As.reverse ++ .ref (a 0) :: rest) (hroom : (rest.map fun v => v.category).sum ≤ 8) (hdg : decode cc pc = .ok (.invokevirtual index, 3)) (hf : cells ≤ R.cells ∧ slots ≤ R.slots)
    (kk : ∀ (r : Int32) (u : ZS) (H1 : Heap) (locs1 : List Loc), post r u → xW dC dI cI cZ a A s.heap H1 locs1 u → W p l e R s m args below meth c H1 locs1 cells slots Q (F0 m (pc + 3) ls (.int r :: rest))) : W p l e R s m args below meth c H locs cells slots Q (F0 m pc ls st0) := by
  have hFc := va_free (wc := wX cI cZ a σ) w.2.1 w.2.2 hA [0, 1, 2, 3, 4, 5, 6, 7, 8] rfl
  refine va_calli (va_runV (As := As) (rest := rest) (b := a 0) C.1 hM cw ⟨xP_blind, va_recv C.2 w.1 (ci := 0) (q0 := 0) rfl rfl, fun U hU hW => ⟨rfl, by rw [hU], by rw [hU]; exact w.1, va_K.moved hW.alike C.2, w.2.1.weaken (fun _ _ _ _ => trivial)⟩⟩ rfl hn hl hst (lv_room hroom) hdg hf) w.2.2 (fun q _ h => hFc q h) hFc (fun r u t H1 locs1 ht hvm hw hB hz1 hk1 hS => ?_)
  obtain ⟨hP1, hK1, hD1⟩ := hB
  rw [ht] at hP1
  exact kk r u H1 locs1 hw ⟨hP1, hD1.weaken (fun _ _ _ h => hFc _ h), hS⟩
theorem cx_v {y : MethodName} {bytes : ByteArray} {maxL index n : Nat} {ret : Option FieldType} {rm : Room} {As st0 : List Value} {post : ZS → Prop} (C : xC p c cc nL s m args dC dI cI cZ) (w : xW dC dI cI cZ a A s.heap H locs σ) (hA : ∀ q : Nat, s.heap.size ≤ q → A q) (hM : xMv l y bytes maxL ret rm dC dI cI cZ a σ H.size As post) (cw : CallW R s args RX0 RX0 index y bytes maxL ret (ws_ y bytes maxL ret) rm 0 0 n) (hn : As.length = n) (hl : ls.size = nL) (hst : st0 = As.reverse ++ .ref (a 0) :: rest) (hroom : (rest.map fun v => v.category).sum ≤ 8) (hdg : decode cc pc = .ok (.invokevirtual index, 3)) (hf : cells ≤ R.cells ∧ slots ≤ R.slots)
    (kk : ∀ (u : ZS) (H1 : Heap) (locs1 : List Loc), post u → xW dC dI cI cZ a A s.heap H1 locs1 u → W p l e R s m args below meth c H1 locs1 cells slots Q (F0 m (pc + 3) ls rest)) : W p l e R s m args below meth c H locs cells slots Q (F0 m pc ls st0) := by
  have hFc := va_free (wc := wX cI cZ a σ) w.2.1 w.2.2 hA [0, 1, 2, 3, 4, 5, 6, 7, 8] rfl
  refine va_callv (va_runV (As := As) (rest := rest) (b := a 0) C.1 hM cw ⟨xP_blind, va_recv C.2 w.1 (ci := 0) (q0 := 0) rfl rfl, fun U hU hW => ⟨rfl, by rw [hU], by rw [hU]; exact w.1, va_K.moved hW.alike C.2, w.2.1.weaken (fun _ _ _ _ => trivial)⟩⟩ rfl hn hl hst (lv_room hroom) hdg hf) w.2.2 (fun q _ h => hFc q h) hFc (fun u t H1 locs1 ht hvm hw hB hz1 hk1 hS => ?_)
  obtain ⟨hP1, hK1, hD1⟩ := hB
  rw [ht] at hP1
  exact kk u H1 locs1 hw ⟨hP1, hD1.weaken (fun _ _ _ h => hFc _ h), hS⟩
theorem cx_r {y : MethodName} {bytes : ByteArray} {maxL index n : Nat} {ret : Option FieldType} {rm : Room} {As st0 : List Value} {post : Int32 → Prop} (C : xC p c cc nL s m args dC dI cI cZ) (w : xW dC dI cI cZ a A s.heap H locs σ) (hA : ∀ q : Nat, s.heap.size ≤ q → A q) (hM : xMi l y bytes maxL ret rm dC dI cI cZ a σ H.size As (fun r u => u = σ ∧ post r)) (cw : CallW R s args RX0 RX0 index y bytes maxL ret (ws_ y bytes maxL ret) rm 0 0 n) (hn : As.length = n) (hl : ls.size = nL) (hst : st0 = As.reverse ++ .ref (a 0) :: rest) (hroom : (rest.map fun v => v.category).sum ≤ 8) (hdg : decode cc pc = .ok (.invokevirtual index, 3)) (hf : cells ≤ R.cells ∧ slots ≤ R.slots)
    (kk : ∀ (r : Int32) (H1 : Heap) (locs1 : List Loc), post r → xW dC dI cI cZ a A s.heap H1 locs1 σ → W p l e R s m args below meth c H1 locs1 cells slots Q (F0 m (pc + 3) ls (.int r :: rest))) : W p l e R s m args below meth c H locs cells slots Q (F0 m pc ls st0) :=
  cx_i C w hA hM cw hn hl hst hroom hdg hf (fun r u H1 locs1 h w1 => kk r H1 locs1 h.2 (by rw [← h.1]; exact w1))
theorem cx_s {y : MethodName} {bytes : ByteArray} {maxL index n : Nat} {ret : Option FieldType} {rm : Room} {As st0 : List Value} {post : Int32 → Prop} (C : xC p c cc nL s m args dC dI cI cZ) (w : xW dC dI cI cZ a A s.heap H locs σ) (hM : Met l y (ws_ y bytes maxL ret) rm (va_Pc As (fun _ => True)) (va_Qi (fun (r : Int32) (_ : Unit) => post r) (fun _ _ => True) (fun _ => False)) 0 0 (fun _ => False)) (cw : CallB R s args RX0 index y bytes maxL ret (ws_ y bytes maxL ret) rm 0 0 n ∧ (Cond.static y).before args s = true) (hn : As.length = n) (hl : ls.size = nL) (hst : st0 = As.reverse ++ rest) (hroom : (rest.map fun v => v.category).sum ≤ 8) (hdg : decode cc pc = .ok (.invokestatic index, 3)) (hf : cells ≤ R.cells ∧ slots ≤ R.slots)
    (kk : ∀ (r : Int32) (H1 : Heap) (locs1 : List Loc), post r → xW dC dI cI cZ a A s.heap H1 locs1 σ → W p l e R s m args below meth c H1 locs1 cells slots Q (F0 m (pc + 3) ls (.int r :: rest))) : W p l e R s m args below meth c H locs cells slots Q (F0 m pc ls st0) :=
  va_calli (va_runS (As := As) (rest := rest) C.1 hM cw ⟨fun _ _ _ _ q => q, fun U hU hW => ⟨rfl, trivial⟩⟩ rfl hn hl hst (lv_room hroom) hdg hf) w.2.2 (fun q _ h => h.elim) (fun q h => h.elim) (fun r u t H1 locs1 ht hvm hw hB hz1 hk1 hS => kk r H1 locs1 hw ⟨w.1.kept (fun k q hq => hk1 q.1 ((w.1 k q hq).lt) (fun h => h)), w.2.1, hS⟩)
theorem rx_i {v : Int32} {post : Int32 → ZS → Prop} (C : xC p c cc nL s m args dC dI cI cZ) (w : xW dC dI cI cZ a A s.heap H locs σ) (hr : meth.sig.returnType = some .int) (hlocks : meth.locks = false) (hpost : post v σ) (hdg : decode cc pc = .ok (.ireturn, 1)) : W p l e R s m args below meth c H locs cells slots (MQ below (va_Qi post (xB dC dI cI cZ a A) A) args s cells slots A) (F0 m pc ls [.int v]) :=
  W.iret (v := v) C.1.1 C.1.2.1 hr (fun t ht hW => ⟨⟨v, σ, rfl, hpost, by rw [ht]; exact w.1, va_K.moved hW.alike C.2, w.2.1⟩, w.2.2.F ht⟩) w.2.2.2.2 hdg
theorem rx_z {v : Int32} {post : Int32 → ZS → Prop} (C : xC p c cc nL s m args dC dI cI cZ) (w : xW dC dI cI cZ a A s.heap H locs σ) (hr : meth.sig.returnType = some .boolean) (hlocks : meth.locks = false) (hn : narrow .boolean (.int v) = .int v) (hpost : post v σ) (hdg : decode cc pc = .ok (.ireturn, 1)) : W p l e R s m args below meth c H locs cells slots (MQ below (va_Qi post (xB dC dI cI cZ a A) A) args s cells slots A) (F0 m pc ls [.int v]) :=
  W.zret (v := v) C.1.1 C.1.2.1 hr hn (fun t ht hW => ⟨⟨v, σ, rfl, hpost, by rw [ht]; exact w.1, va_K.moved hW.alike C.2, w.2.1⟩, w.2.2.F ht⟩) w.2.2.2.2 hdg
theorem rx_v {post : ZS → Prop} (C : xC p c cc nL s m args dC dI cI cZ) (w : xW dC dI cI cZ a A s.heap H locs σ) (hr : meth.sig.returnType = none) (hlocks : meth.locks = false) (hpost : post σ) (hdg : decode cc pc = .ok (.return_, 1)) : W p l e R s m args below meth c H locs cells slots (MQ below (va_Qv post (xB dC dI cI cZ a A) A) args s cells slots A) (F0 m pc ls []) :=
  W.vret C.1.1 C.1.2.1 hr (fun t ht hW => ⟨⟨σ, rfl, hpost, by rw [ht]; exact w.1, va_K.moved hW.alike C.2, w.2.1⟩, w.2.2.F ht⟩) w.2.2.2.2 hdg
end
/-- a method's body, from its entry -/
theorem ex_i {l : Launch} {y : MethodName} {cc : ByteArray} {maxL sz : Nat} {ret : Option FieldType} {rm : Room} {dC : Nat → ClassId} {dI : Nat → Nat → Nat} {cI cZ : ClassId} {a : Nat → Nat} {σ : ZS} {As : List Value} {post : Int32 → ZS → Prop} (hy : plainName y.cls = true) (hyc : y.cls = RX0) (hlen : (lg_sl (.ref (a 0) :: As)).length ≤ maxL)
    (body : ∀ (p : Program) (e : Env) (s : State) (m : MethodId) (args : Array Value) (below : List Frame) (meth : Method) (c : Code) (A : Nat → Prop) (ls : Array Slot), xC p c cc maxL s m args dC dI cI cZ → meth.sig.returnType = ret → meth.locks = false → (∀ q : Nat, s.heap.size ≤ q → A q) → xW dC dI cI cZ a A s.heap s.heap [] σ → lv_has ls maxL (lv_args 0 (.ref (a 0) :: As)) → W p l e rm s m args below meth c s.heap [] 0 0 (MQ below (va_Qi post (xB dC dI cI cZ a A) A) args s 0 0 A) (F0 m 0 ls [])) : xMi l y cc maxL ret rm dC dI cI cZ a σ sz As post := by
  refine Met.ofW (cc := cc) (maxL := maxL) (ret := ret) hy rfl ?_
  intro p e s m args below meth c s₁ B hml hv
  obtain ⟨rfl, hsz, hP, hK, hD0⟩ := hv
  have hts := atoms_spec (ws := ws_ y cc maxL ret) B.pre
  have hts : ∀ w ∈ lw_all, w.before _ s = true := fun w h => hts w (List.mem_cons_of_mem _ h)
  have hown : s.vm.findClass RX0 = some m.cls := by rw [← hyc]; exact findClass_of_methodNamed B.named
  have hlocks := B.notSynchronized
  subst hsz
  have hD := hD0.self (sz := s.heap.size)
  have hl := lv_entry (.ref (a 0) :: As) (n := maxL) hlen
  rw [lg_entry_eq]
  exact body p e s m _ below meth c _ _ ⟨⟨B.exec, B.bytes, hml, hown, hts⟩, hK⟩ B.returns hlocks (fun q h => Or.inr h) ⟨hP, hD, va_S.rf⟩ hl
/-- a method's body, from its entry -/
theorem ex_v {l : Launch} {y : MethodName} {cc : ByteArray} {maxL sz : Nat} {ret : Option FieldType} {rm : Room} {dC : Nat → ClassId} {dI : Nat → Nat → Nat} {cI cZ : ClassId} {a : Nat → Nat} {σ : ZS} {As : List Value} {post : ZS → Prop} (hy : plainName y.cls = true) (hyc : y.cls = RX0) (hlen : (lg_sl (.ref (a 0) :: As)).length ≤ maxL)
    (body : ∀ (p : Program) (e : Env) (s : State) (m : MethodId) (args : Array Value) (below : List Frame) (meth : Method) (c : Code) (A : Nat → Prop) (ls : Array Slot), xC p c cc maxL s m args dC dI cI cZ → meth.sig.returnType = ret → meth.locks = false → (∀ q : Nat, s.heap.size ≤ q → A q) → xW dC dI cI cZ a A s.heap s.heap [] σ → lv_has ls maxL (lv_args 0 (.ref (a 0) :: As)) → W p l e rm s m args below meth c s.heap [] 0 0 (MQ below (va_Qv post (xB dC dI cI cZ a A) A) args s 0 0 A) (F0 m 0 ls [])) : xMv l y cc maxL ret rm dC dI cI cZ a σ sz As post := by
  refine Met.ofW (cc := cc) (maxL := maxL) (ret := ret) hy rfl ?_
  intro p e s m args below meth c s₁ B hml hv
  obtain ⟨rfl, hsz, hP, hK, hD0⟩ := hv
  have hts := atoms_spec (ws := ws_ y cc maxL ret) B.pre
  have hts : ∀ w ∈ lw_all, w.before _ s = true := fun w h => hts w (List.mem_cons_of_mem _ h)
  have hown : s.vm.findClass RX0 = some m.cls := by rw [← hyc]; exact findClass_of_methodNamed B.named
  have hlocks := B.notSynchronized
  subst hsz
  have hD := hD0.self (sz := s.heap.size)
  have hl := lv_entry (.ref (a 0) :: As) (n := maxL) hlen
  rw [lg_entry_eq]
  exact body p e s m _ below meth c _ _ ⟨⟨B.exec, B.bytes, hml, hown, hts⟩, hK⟩ B.returns hlocks (fun q h => Or.inr h) ⟨hP, hD, va_S.rf⟩ hl
/-- the m world: cells, apart, and what changed since H0 -/
def mW (dC : Nat → ClassId) (dI : Nat → Nat → Nat) (cI cZ : ClassId) (a : Nat → Nat) (A : Nat → Prop) (H0 H : Heap) (locs : List Loc) (σ : ZM) : Prop := va_P (dC, dI) vwCl (wM cI cZ a σ) H ∧ va_D A (wM cI cZ a σ) ∧ va_S A H0 H locs
/-- what holds all through a method of the class -/
def mC (p : Program) (c : Code) (cc : ByteArray) (nL : Nat) (s : State) (m : MethodId) (args : Array Value) (dC : Nat → ClassId) (dI : Nat → Nat → Nat) (cI cZ : ClassId) : Prop := CallFix p m c cc nL s args lw_all RX1 ∧ va_K (dC, dI) vwCl (zTy cI cZ) s
def mB (dC : Nat → ClassId) (dI : Nat → Nat → Nat) (cI cZ : ClassId) (a : Nat → Nat) (A : Nat → Prop) (u : ZM) (t : State) : Prop := va_P (dC, dI) vwCl (wM cI cZ a u) t.heap ∧ va_K (dC, dI) vwCl (zTy cI cZ) t ∧ va_D A (wM cI cZ a u)
def mP (dC : Nat → ClassId) (dI : Nat → Nat → Nat) (cI cZ : ClassId) (a : Nat → Nat) (σ : ZM) (sz : Nat) (As : List Value) : Array Value → State → Prop := va_Pc (.ref (a 0) :: As) (fun U => U.heap.size = sz ∧ va_P (dC, dI) vwCl (wM cI cZ a σ) U.heap ∧ va_K (dC, dI) vwCl (zTy cI cZ) U ∧ va_D (fun _ => True) (wM cI cZ a σ))
/-- a contract: an int (or boolean) comes back -/
def mMi (l : Launch) (y : MethodName) (cc : ByteArray) (maxL : Nat) (ret : Option FieldType) (rm : Room) (dC : Nat → ClassId) (dI : Nat → Nat → Nat) (cI cZ : ClassId) (a : Nat → Nat) (σ : ZM) (sz : Nat) (As : List Value) (post : Int32 → ZM → Prop) : Prop := Met l y (ws_ y cc maxL ret) rm (mP dC dI cI cZ a σ sz As) (va_Qi post (mB dC dI cI cZ a (va_A (wM cI cZ a σ) sz)) (va_A (wM cI cZ a σ) sz)) 0 0 (va_A (wM cI cZ a σ) sz)
/-- a contract: nothing comes back -/
def mMv (l : Launch) (y : MethodName) (cc : ByteArray) (maxL : Nat) (ret : Option FieldType) (rm : Room) (dC : Nat → ClassId) (dI : Nat → Nat → Nat) (cI cZ : ClassId) (a : Nat → Nat) (σ : ZM) (sz : Nat) (As : List Value) (post : ZM → Prop) : Prop := Met l y (ws_ y cc maxL ret) rm (mP dC dI cI cZ a σ sz As) (va_Qv post (mB dC dI cI cZ a (va_A (wM cI cZ a σ) sz)) (va_A (wM cI cZ a σ) sz)) 0 0 (va_A (wM cI cZ a σ) sz)
theorem mP_blind {dC : Nat → ClassId} {dI : Nat → Nat → Nat} {cI cZ : ClassId} {a : Nat → Nat} {σ : ZM} {sz : Nat} {As : List Value} : FrameBlind (mP dC dI cI cZ a σ sz As) := by
  intro a0 U g mk q
  obtain ⟨q0, q1, qP, qK, qD⟩ := q
  exact ⟨q0, q1, qP, va_K.moved (u := U) (U := U.calling g mk a0) (Vm.Alike.refl U.vm) qK, qD⟩
section
variable {p : Program} {l : Launch} {e : Env} {R : Room} {s : State} {m : MethodId} {args : Array Value} {below : List Frame} {meth : Method} {c : Code} {H : Heap} {locs : List Loc} {cells slots : Nat} {Q : State → Prop} {cc : ByteArray} {pc nL : Nat} {ls : Array Slot} {rest : List Value} {A : Nat → Prop} {H0 : Heap} {dC : Nat → ClassId} {dI : Nat → Nat → Nat} {cI cZ : ClassId} {a : Nat → Nat} {σ : ZM}
theorem gm_k (C : mC p c cc nL s m args dC dI cI cZ) (w : mW dC dI cI cZ a A H0 H locs σ) (k : Nat) (hk : k < 5) {index : Nat} (hq : Cond.fieldLink RX1 index RX1 (TX1 k).2.1 (TX1 k).2.2.1 ∈ lw_all) (hT : (TX1 k).1 = RX1) {v : Value} (hv : (fM a σ)[k]? = some v) (hdg : decode cc pc = .ok (.getfield index, 3)) (kk : W p l e R s m args below meth c H locs cells slots Q (F0 m (pc + 3) ls (v :: rest))) : W p l e R s m args below meth c H locs cells slots Q (F0 m pc ls (.ref (a 0) :: rest)) :=
  va_get (D := (dC, dI)) (ci := 1) (C := RX1) (T := TX1) (N := 5) C.1.1 C.1.2.1 C.1.2.2.2.2 in_X1 C.1.2.2.2.1 C.2 w.1 0 rfl rfl k hk (C.1.2.2.2.2 _ hq) (fun _ h9 => by rw [hT] at h9; exact h9) hv hdg kk
theorem gm_on (C : mC p c cc nL s m args dC dI cI cZ) (w : mW dC dI cI cZ a A H0 H locs σ) (hdg : decode cc pc = .ok (.getfield 7, 3)) (kk : W p l e R s m args below meth c H locs cells slots Q (F0 m (pc + 3) ls (.int (m_on σ) :: rest))) : W p l e R s m args below meth c H locs cells slots Q (F0 m pc ls (.ref (a 0) :: rest)) := gm_k C w 0 (by decide) q215 rfl rfl hdg kk
theorem gm_op (C : mC p c cc nL s m args dC dI cI cZ) (w : mW dC dI cI cZ a A H0 H locs σ) (hdg : decode cc pc = .ok (.getfield 32, 3)) (kk : W p l e R s m args below meth c H locs cells slots Q (F0 m (pc + 3) ls (.int (m_op σ) :: rest))) : W p l e R s m args below meth c H locs cells slots Q (F0 m pc ls (.ref (a 0) :: rest)) := gm_k C w 1 (by decide) q216 rfl rfl hdg kk
theorem gm_nw (C : mC p c cc nL s m args dC dI cI cZ) (w : mW dC dI cI cZ a A H0 H locs σ) (hdg : decode cc pc = .ok (.getfield 13, 3)) (kk : W p l e R s m args below meth c H locs cells slots Q (F0 m (pc + 3) ls (.ref (a 1) :: rest))) : W p l e R s m args below meth c H locs cells slots Q (F0 m pc ls (.ref (a 0) :: rest)) := gm_k C w 2 (by decide) q217 rfl rfl hdg kk
theorem gm_kp (C : mC p c cc nL s m args dC dI cI cZ) (w : mW dC dI cI cZ a A H0 H locs σ) (hdg : decode cc pc = .ok (.getfield 17, 3)) (kk : W p l e R s m args below meth c H locs cells slots Q (F0 m (pc + 3) ls (.ref (a 2) :: rest))) : W p l e R s m args below meth c H locs cells slots Q (F0 m pc ls (.ref (a 0) :: rest)) := gm_k C w 3 (by decide) q218 rfl rfl hdg kk
theorem gm_fr (C : mC p c cc nL s m args dC dI cI cZ) (w : mW dC dI cI cZ a A H0 H locs σ) (hdg : decode cc pc = .ok (.getfield 20, 3)) (kk : W p l e R s m args below meth c H locs cells slots Q (F0 m (pc + 3) ls (.ref (a 3) :: rest))) : W p l e R s m args below meth c H locs cells slots Q (F0 m pc ls (.ref (a 0) :: rest)) := gm_k C w 4 (by decide) q219 rfl rfl hdg kk
theorem lm_nw (C : mC p c cc nL s m args dC dI cI cZ) (w : mW dC dI cI cZ a A H0 H locs σ) {x : Int32} {k : Nat} (hx : x = nI k) (hk : k < 16) (hdg : decode cc pc = .ok (.iaload, 1)) (kk : W p l e R s m args below meth c H locs cells slots Q (F0 m (pc + 1) ls (.int (m_nw σ k) :: rest))) : W p l e R s m args below meth c H locs cells slots Q (F0 m pc ls (.int x :: .ref (a 1) :: rest)) := by
  subst hx
  refine va_iald C.1.1 C.1.2.1 C.2 w.1 1 0 rfl rfl (vp_in_nI hk (by decide)) hdg ?_
  rw [nI_clamp (by omega)]
  exact kk
theorem wm_nw (C : mC p c cc nL s m args dC dI cI cZ) (w : mW dC dI cI cZ a A H0 H locs σ) {x v : Int32} {k : Nat} (hx : x = nI k) (hk : k < 16) (hdg : decode cc pc = .ok (.iastore, 1)) (kk : ∀ (H1 : Heap) (locs1 : List Loc), mW dC dI cI cZ a A H0 H1 locs1 (n_nw σ (upd (m_nw σ) k v)) → W p l e R s m args below meth c H1 locs1 cells slots Q (F0 m (pc + 1) ls rest)) : W p l e R s m args below meth c H locs cells slots Q (F0 m pc ls (.int v :: .int x :: .ref (a 1) :: rest)) := by
  subst hx
  refine va_iast C.1.1 C.1.2.1 C.2 w.1 w.2.1 w.2.2 1 0 rfl rfl (vp_in_nI hk (by decide)) hdg (fun H1 locs1 hP hD hS => ?_)
  rw [nI_clamp (by omega)] at hP hD
  exact kk H1 locs1 ⟨hP, hD, hS⟩
theorem lm_kp (C : mC p c cc nL s m args dC dI cI cZ) (w : mW dC dI cI cZ a A H0 H locs σ) {x : Int32} {k : Nat} (hx : x = nI k) (hk : k < 16) (hdg : decode cc pc = .ok (.iaload, 1)) (kk : W p l e R s m args below meth c H locs cells slots Q (F0 m (pc + 1) ls (.int (m_kp σ k) :: rest))) : W p l e R s m args below meth c H locs cells slots Q (F0 m pc ls (.int x :: .ref (a 2) :: rest)) := by
  subst hx
  refine va_iald C.1.1 C.1.2.1 C.2 w.1 2 0 rfl rfl (vp_in_nI hk (by decide)) hdg ?_
  rw [nI_clamp (by omega)]
  exact kk
theorem wm_kp (C : mC p c cc nL s m args dC dI cI cZ) (w : mW dC dI cI cZ a A H0 H locs σ) {x v : Int32} {k : Nat} (hx : x = nI k) (hk : k < 16) (hdg : decode cc pc = .ok (.iastore, 1)) (kk : ∀ (H1 : Heap) (locs1 : List Loc), mW dC dI cI cZ a A H0 H1 locs1 (n_kp σ (upd (m_kp σ) k v)) → W p l e R s m args below meth c H1 locs1 cells slots Q (F0 m (pc + 1) ls rest)) : W p l e R s m args below meth c H locs cells slots Q (F0 m pc ls (.int v :: .int x :: .ref (a 2) :: rest)) := by
  subst hx
  refine va_iast C.1.1 C.1.2.1 C.2 w.1 w.2.1 w.2.2 2 0 rfl rfl (vp_in_nI hk (by decide)) hdg (fun H1 locs1 hP hD hS => ?_)
  rw [nI_clamp (by omega)] at hP hD
  exact kk H1 locs1 ⟨hP, hD, hS⟩
theorem lm_fr (C : mC p c cc nL s m args dC dI cI cZ) (w : mW dC dI cI cZ a A H0 H locs σ) {x : Int32} {k : Nat} (hx : x = nI k) (hk : k < 16) (hdg : decode cc pc = .ok (.baload, 1)) (kk : W p l e R s m args below meth c H locs cells slots Q (F0 m (pc + 1) ls (.int (m_fr σ k) :: rest))) : W p l e R s m args below meth c H locs cells slots Q (F0 m pc ls (.int x :: .ref (a 3) :: rest)) := by
  subst hx
  refine va_zald C.1.1 C.1.2.1 C.2 w.1 3 1 rfl rfl (vp_in_nI hk (by decide)) hdg ?_
  rw [nI_clamp (by omega)]
  exact kk
theorem wm_fr (C : mC p c cc nL s m args dC dI cI cZ) (w : mW dC dI cI cZ a A H0 H locs σ) {x v v' : Int32} {k : Nat} (hx : x = nI k) (hk : k < 16) (hv : vp_nar .boolean v = v') (hdg : decode cc pc = .ok (.bastore, 1)) (kk : ∀ (H1 : Heap) (locs1 : List Loc), mW dC dI cI cZ a A H0 H1 locs1 (n_fr σ (upd (m_fr σ) k v')) → W p l e R s m args below meth c H1 locs1 cells slots Q (F0 m (pc + 1) ls rest)) : W p l e R s m args below meth c H locs cells slots Q (F0 m pc ls (.int v :: .int x :: .ref (a 3) :: rest)) := by
  subst hx
  subst hv
  refine va_zast C.1.1 C.1.2.1 C.2 w.1 w.2.1 w.2.2 3 1 rfl rfl (vp_in_nI hk (by decide)) hdg (fun H1 locs1 hP hD hS => ?_)
  rw [nI_clamp (by omega)] at hP hD
  exact kk H1 locs1 ⟨hP, hD, hS⟩
theorem pm_on (C : mC p c cc nL s m args dC dI cI cZ) (w : mW dC dI cI cZ a A H0 H locs σ) {v : Int32} (hn : narrow .boolean (.int v) = .int v) (hf : fits .boolean (.int v) = true) (hdg : decode cc pc = .ok (.putfield 7, 3)) (kk : ∀ (H1 : Heap) (locs1 : List Loc), mW dC dI cI cZ a A H0 H1 locs1 (n_on σ v) → W p l e R s m args below meth c H1 locs1 cells slots Q (F0 m (pc + 3) ls rest)) : W p l e R s m args below meth c H locs cells slots Q (F0 m pc ls (.int v :: .ref (a 0) :: rest)) :=
  va_put (D := (dC, dI)) (ci := 1) (v := .int v) (ty := .boolean) (C := RX1) (T := TX1) (N := 5) C.1.1 C.1.2.1 C.1.2.2.2.2 in_X1 tyX1 tyX1_ok nmX1 C.1.2.2.2.1 C.2 w.1 w.2.1 w.2.2 0 rfl rfl 0 (by decide) (C.1.2.2.2.2 _ q215) (fun _ h9 => h9) rfl (by decide +kernel) hn hf (Nat.le_of_ble_eq_true rfl) hdg (fun H1 locs1 hP hD hS => kk H1 locs1 ⟨hP, hD, hS⟩)
theorem pm_op (C : mC p c cc nL s m args dC dI cI cZ) (w : mW dC dI cI cZ a A H0 H locs σ) {v : Int32} (hn : narrow .boolean (.int v) = .int v) (hf : fits .boolean (.int v) = true) (hdg : decode cc pc = .ok (.putfield 32, 3)) (kk : ∀ (H1 : Heap) (locs1 : List Loc), mW dC dI cI cZ a A H0 H1 locs1 (n_op σ v) → W p l e R s m args below meth c H1 locs1 cells slots Q (F0 m (pc + 3) ls rest)) : W p l e R s m args below meth c H locs cells slots Q (F0 m pc ls (.int v :: .ref (a 0) :: rest)) :=
  va_put (D := (dC, dI)) (ci := 1) (v := .int v) (ty := .boolean) (C := RX1) (T := TX1) (N := 5) C.1.1 C.1.2.1 C.1.2.2.2.2 in_X1 tyX1 tyX1_ok nmX1 C.1.2.2.2.1 C.2 w.1 w.2.1 w.2.2 0 rfl rfl 1 (by decide) (C.1.2.2.2.2 _ q216) (fun _ h9 => h9) rfl (by decide +kernel) hn hf (Nat.le_of_ble_eq_true rfl) hdg (fun H1 locs1 hP hD hS => kk H1 locs1 ⟨hP, hD, hS⟩)
theorem cm_i {y : MethodName} {bytes : ByteArray} {maxL index n : Nat} {ret : Option FieldType} {rm : Room} {As st0 : List Value} {post : Int32 → ZM → Prop} (C : mC p c cc nL s m args dC dI cI cZ) (w : mW dC dI cI cZ a A s.heap H locs σ) (hA : ∀ q : Nat, s.heap.size ≤ q → A q) (hM : mMi l y bytes maxL ret rm dC dI cI cZ a σ H.size As post) (cw : CallW R s args RX1 RX1 index y bytes maxL ret (ws_ y bytes maxL ret) rm 0 0 n) (hn : As.length = n) (hl : ls.size = nL) (hst : st0 = As.reverse ++ .ref (a 0) :: rest) (hroom : (rest.map fun v => v.category).sum ≤ 8) (hdg : decode cc pc = .ok (.invokevirtual index, 3)) (hf : cells ≤ R.cells ∧ slots ≤ R.slots)
    (kk : ∀ (r : Int32) (u : ZM) (H1 : Heap) (locs1 : List Loc), post r u → mW dC dI cI cZ a A s.heap H1 locs1 u → W p l e R s m args below meth c H1 locs1 cells slots Q (F0 m (pc + 3) ls (.int r :: rest))) : W p l e R s m args below meth c H locs cells slots Q (F0 m pc ls st0) := by
  have hFc := va_free (wc := wM cI cZ a σ) w.2.1 w.2.2 hA [0, 1, 2, 3] rfl
  refine va_calli (va_runV (As := As) (rest := rest) (b := a 0) C.1 hM cw ⟨mP_blind, va_recv C.2 w.1 (ci := 1) (q0 := 0) rfl rfl, fun U hU hW => ⟨rfl, by rw [hU], by rw [hU]; exact w.1, va_K.moved hW.alike C.2, w.2.1.weaken (fun _ _ _ _ => trivial)⟩⟩ rfl hn hl hst (lv_room hroom) hdg hf) w.2.2 (fun q _ h => hFc q h) hFc (fun r u t H1 locs1 ht hvm hw hB hz1 hk1 hS => ?_)
  obtain ⟨hP1, hK1, hD1⟩ := hB
  rw [ht] at hP1
  exact kk r u H1 locs1 hw ⟨hP1, hD1.weaken (fun _ _ _ h => hFc _ h), hS⟩
theorem cm_v {y : MethodName} {bytes : ByteArray} {maxL index n : Nat} {ret : Option FieldType} {rm : Room} {As st0 : List Value} {post : ZM → Prop} (C : mC p c cc nL s m args dC dI cI cZ) (w : mW dC dI cI cZ a A s.heap H locs σ) (hA : ∀ q : Nat, s.heap.size ≤ q → A q) (hM : mMv l y bytes maxL ret rm dC dI cI cZ a σ H.size As post) (cw : CallW R s args RX1 RX1 index y bytes maxL ret (ws_ y bytes maxL ret) rm 0 0 n) (hn : As.length = n) (hl : ls.size = nL) (hst : st0 = As.reverse ++ .ref (a 0) :: rest) (hroom : (rest.map fun v => v.category).sum ≤ 8) (hdg : decode cc pc = .ok (.invokevirtual index, 3)) (hf : cells ≤ R.cells ∧ slots ≤ R.slots)
    (kk : ∀ (u : ZM) (H1 : Heap) (locs1 : List Loc), post u → mW dC dI cI cZ a A s.heap H1 locs1 u → W p l e R s m args below meth c H1 locs1 cells slots Q (F0 m (pc + 3) ls rest)) : W p l e R s m args below meth c H locs cells slots Q (F0 m pc ls st0) := by
  have hFc := va_free (wc := wM cI cZ a σ) w.2.1 w.2.2 hA [0, 1, 2, 3] rfl
  refine va_callv (va_runV (As := As) (rest := rest) (b := a 0) C.1 hM cw ⟨mP_blind, va_recv C.2 w.1 (ci := 1) (q0 := 0) rfl rfl, fun U hU hW => ⟨rfl, by rw [hU], by rw [hU]; exact w.1, va_K.moved hW.alike C.2, w.2.1.weaken (fun _ _ _ _ => trivial)⟩⟩ rfl hn hl hst (lv_room hroom) hdg hf) w.2.2 (fun q _ h => hFc q h) hFc (fun u t H1 locs1 ht hvm hw hB hz1 hk1 hS => ?_)
  obtain ⟨hP1, hK1, hD1⟩ := hB
  rw [ht] at hP1
  exact kk u H1 locs1 hw ⟨hP1, hD1.weaken (fun _ _ _ h => hFc _ h), hS⟩
theorem cm_r {y : MethodName} {bytes : ByteArray} {maxL index n : Nat} {ret : Option FieldType} {rm : Room} {As st0 : List Value} {post : Int32 → Prop} (C : mC p c cc nL s m args dC dI cI cZ) (w : mW dC dI cI cZ a A s.heap H locs σ) (hA : ∀ q : Nat, s.heap.size ≤ q → A q) (hM : mMi l y bytes maxL ret rm dC dI cI cZ a σ H.size As (fun r u => u = σ ∧ post r)) (cw : CallW R s args RX1 RX1 index y bytes maxL ret (ws_ y bytes maxL ret) rm 0 0 n) (hn : As.length = n) (hl : ls.size = nL) (hst : st0 = As.reverse ++ .ref (a 0) :: rest) (hroom : (rest.map fun v => v.category).sum ≤ 8) (hdg : decode cc pc = .ok (.invokevirtual index, 3)) (hf : cells ≤ R.cells ∧ slots ≤ R.slots)
    (kk : ∀ (r : Int32) (H1 : Heap) (locs1 : List Loc), post r → mW dC dI cI cZ a A s.heap H1 locs1 σ → W p l e R s m args below meth c H1 locs1 cells slots Q (F0 m (pc + 3) ls (.int r :: rest))) : W p l e R s m args below meth c H locs cells slots Q (F0 m pc ls st0) :=
  cm_i C w hA hM cw hn hl hst hroom hdg hf (fun r u H1 locs1 h w1 => kk r H1 locs1 h.2 (by rw [← h.1]; exact w1))
theorem cm_s {y : MethodName} {bytes : ByteArray} {maxL index n : Nat} {ret : Option FieldType} {rm : Room} {As st0 : List Value} {post : Int32 → Prop} (C : mC p c cc nL s m args dC dI cI cZ) (w : mW dC dI cI cZ a A s.heap H locs σ) (hM : Met l y (ws_ y bytes maxL ret) rm (va_Pc As (fun _ => True)) (va_Qi (fun (r : Int32) (_ : Unit) => post r) (fun _ _ => True) (fun _ => False)) 0 0 (fun _ => False)) (cw : CallB R s args RX1 index y bytes maxL ret (ws_ y bytes maxL ret) rm 0 0 n ∧ (Cond.static y).before args s = true) (hn : As.length = n) (hl : ls.size = nL) (hst : st0 = As.reverse ++ rest) (hroom : (rest.map fun v => v.category).sum ≤ 8) (hdg : decode cc pc = .ok (.invokestatic index, 3)) (hf : cells ≤ R.cells ∧ slots ≤ R.slots)
    (kk : ∀ (r : Int32) (H1 : Heap) (locs1 : List Loc), post r → mW dC dI cI cZ a A s.heap H1 locs1 σ → W p l e R s m args below meth c H1 locs1 cells slots Q (F0 m (pc + 3) ls (.int r :: rest))) : W p l e R s m args below meth c H locs cells slots Q (F0 m pc ls st0) :=
  va_calli (va_runS (As := As) (rest := rest) C.1 hM cw ⟨fun _ _ _ _ q => q, fun U hU hW => ⟨rfl, trivial⟩⟩ rfl hn hl hst (lv_room hroom) hdg hf) w.2.2 (fun q _ h => h.elim) (fun q h => h.elim) (fun r u t H1 locs1 ht hvm hw hB hz1 hk1 hS => kk r H1 locs1 hw ⟨w.1.kept (fun k q hq => hk1 q.1 ((w.1 k q hq).lt) (fun h => h)), w.2.1, hS⟩)
theorem rm_i {v : Int32} {post : Int32 → ZM → Prop} (C : mC p c cc nL s m args dC dI cI cZ) (w : mW dC dI cI cZ a A s.heap H locs σ) (hr : meth.sig.returnType = some .int) (hlocks : meth.locks = false) (hpost : post v σ) (hdg : decode cc pc = .ok (.ireturn, 1)) : W p l e R s m args below meth c H locs cells slots (MQ below (va_Qi post (mB dC dI cI cZ a A) A) args s cells slots A) (F0 m pc ls [.int v]) :=
  W.iret (v := v) C.1.1 C.1.2.1 hr (fun t ht hW => ⟨⟨v, σ, rfl, hpost, by rw [ht]; exact w.1, va_K.moved hW.alike C.2, w.2.1⟩, w.2.2.F ht⟩) w.2.2.2.2 hdg
theorem rm_z {v : Int32} {post : Int32 → ZM → Prop} (C : mC p c cc nL s m args dC dI cI cZ) (w : mW dC dI cI cZ a A s.heap H locs σ) (hr : meth.sig.returnType = some .boolean) (hlocks : meth.locks = false) (hn : narrow .boolean (.int v) = .int v) (hpost : post v σ) (hdg : decode cc pc = .ok (.ireturn, 1)) : W p l e R s m args below meth c H locs cells slots (MQ below (va_Qi post (mB dC dI cI cZ a A) A) args s cells slots A) (F0 m pc ls [.int v]) :=
  W.zret (v := v) C.1.1 C.1.2.1 hr hn (fun t ht hW => ⟨⟨v, σ, rfl, hpost, by rw [ht]; exact w.1, va_K.moved hW.alike C.2, w.2.1⟩, w.2.2.F ht⟩) w.2.2.2.2 hdg
theorem rm_v {post : ZM → Prop} (C : mC p c cc nL s m args dC dI cI cZ) (w : mW dC dI cI cZ a A s.heap H locs σ) (hr : meth.sig.returnType = none) (hlocks : meth.locks = false) (hpost : post σ) (hdg : decode cc pc = .ok (.return_, 1)) : W p l e R s m args below meth c H locs cells slots (MQ below (va_Qv post (mB dC dI cI cZ a A) A) args s cells slots A) (F0 m pc ls []) :=
  W.vret C.1.1 C.1.2.1 hr (fun t ht hW => ⟨⟨σ, rfl, hpost, by rw [ht]; exact w.1, va_K.moved hW.alike C.2, w.2.1⟩, w.2.2.F ht⟩) w.2.2.2.2 hdg
end
/-- a method's body, from its entry -/
theorem em_i {l : Launch} {y : MethodName} {cc : ByteArray} {maxL sz : Nat} {ret : Option FieldType} {rm : Room} {dC : Nat → ClassId} {dI : Nat → Nat → Nat} {cI cZ : ClassId} {a : Nat → Nat} {σ : ZM} {As : List Value} {post : Int32 → ZM → Prop} (hy : plainName y.cls = true) (hyc : y.cls = RX1) (hlen : (lg_sl (.ref (a 0) :: As)).length ≤ maxL)
    (body : ∀ (p : Program) (e : Env) (s : State) (m : MethodId) (args : Array Value) (below : List Frame) (meth : Method) (c : Code) (A : Nat → Prop) (ls : Array Slot), mC p c cc maxL s m args dC dI cI cZ → meth.sig.returnType = ret → meth.locks = false → (∀ q : Nat, s.heap.size ≤ q → A q) → mW dC dI cI cZ a A s.heap s.heap [] σ → lv_has ls maxL (lv_args 0 (.ref (a 0) :: As)) → W p l e rm s m args below meth c s.heap [] 0 0 (MQ below (va_Qi post (mB dC dI cI cZ a A) A) args s 0 0 A) (F0 m 0 ls [])) : mMi l y cc maxL ret rm dC dI cI cZ a σ sz As post := by
  refine Met.ofW (cc := cc) (maxL := maxL) (ret := ret) hy rfl ?_
  intro p e s m args below meth c s₁ B hml hv
  obtain ⟨rfl, hsz, hP, hK, hD0⟩ := hv
  have hts := atoms_spec (ws := ws_ y cc maxL ret) B.pre
  have hts : ∀ w ∈ lw_all, w.before _ s = true := fun w h => hts w (List.mem_cons_of_mem _ h)
  have hown : s.vm.findClass RX1 = some m.cls := by rw [← hyc]; exact findClass_of_methodNamed B.named
  have hlocks := B.notSynchronized
  subst hsz
  have hD := hD0.self (sz := s.heap.size)
  have hl := lv_entry (.ref (a 0) :: As) (n := maxL) hlen
  rw [lg_entry_eq]
  exact body p e s m _ below meth c _ _ ⟨⟨B.exec, B.bytes, hml, hown, hts⟩, hK⟩ B.returns hlocks (fun q h => Or.inr h) ⟨hP, hD, va_S.rf⟩ hl
/-- a method's body, from its entry -/
theorem em_v {l : Launch} {y : MethodName} {cc : ByteArray} {maxL sz : Nat} {ret : Option FieldType} {rm : Room} {dC : Nat → ClassId} {dI : Nat → Nat → Nat} {cI cZ : ClassId} {a : Nat → Nat} {σ : ZM} {As : List Value} {post : ZM → Prop} (hy : plainName y.cls = true) (hyc : y.cls = RX1) (hlen : (lg_sl (.ref (a 0) :: As)).length ≤ maxL)
    (body : ∀ (p : Program) (e : Env) (s : State) (m : MethodId) (args : Array Value) (below : List Frame) (meth : Method) (c : Code) (A : Nat → Prop) (ls : Array Slot), mC p c cc maxL s m args dC dI cI cZ → meth.sig.returnType = ret → meth.locks = false → (∀ q : Nat, s.heap.size ≤ q → A q) → mW dC dI cI cZ a A s.heap s.heap [] σ → lv_has ls maxL (lv_args 0 (.ref (a 0) :: As)) → W p l e rm s m args below meth c s.heap [] 0 0 (MQ below (va_Qv post (mB dC dI cI cZ a A) A) args s 0 0 A) (F0 m 0 ls [])) : mMv l y cc maxL ret rm dC dI cI cZ a σ sz As post := by
  refine Met.ofW (cc := cc) (maxL := maxL) (ret := ret) hy rfl ?_
  intro p e s m args below meth c s₁ B hml hv
  obtain ⟨rfl, hsz, hP, hK, hD0⟩ := hv
  have hts := atoms_spec (ws := ws_ y cc maxL ret) B.pre
  have hts : ∀ w ∈ lw_all, w.before _ s = true := fun w h => hts w (List.mem_cons_of_mem _ h)
  have hown : s.vm.findClass RX1 = some m.cls := by rw [← hyc]; exact findClass_of_methodNamed B.named
  have hlocks := B.notSynchronized
  subst hsz
  have hD := hD0.self (sz := s.heap.size)
  have hl := lv_entry (.ref (a 0) :: As) (n := maxL) hlen
  rw [lg_entry_eq]
  exact body p e s m _ below meth c _ _ ⟨⟨B.exec, B.bytes, hml, hown, hts⟩, hK⟩ B.returns hlocks (fun q h => Or.inr h) ⟨hP, hD, va_S.rf⟩ hl
theorem cwx_isBlock {p : Program} {R : Room} {s : State} {m : MethodId} {args : Array Value} {c : Code} {cc : ByteArray} {nL : Nat} {dC : Nat → ClassId} {dI : Nat → Nat → Nat} {cI cZ : ClassId} {rm : Room} (C : xC p c cc nL s m args dC dI cI cZ) (hR : rm.frames + 1 ≤ R.frames ∧ 8 + (1 + 11) + rm.locals ≤ R.locals) (hc : rm.cells = 0 := by rfl) (hs : rm.slots = 0 := by rfl) : CallB R s args RX0 43 yX0_isBlock cX0_isBlock 1 (some .boolean) (ws_ yX0_isBlock cX0_isBlock 1 (some .boolean)) rm 0 0 1 ∧ (Cond.static yX0_isBlock).before args s = true := va_cwS 1 C.1.2.2.2.2 (lw_S q81 q82 q21 q83) rfl hc hs (by decide +kernel) hR
theorem cwx_current {p : Program} {R : Room} {s : State} {m : MethodId} {args : Array Value} {c : Code} {cc : ByteArray} {nL : Nat} {dC : Nat → ClassId} {dI : Nat → Nat → Nat} {cI cZ : ClassId} {rm : Room} (C : xC p c cc nL s m args dC dI cI cZ) (hR : rm.frames + 1 ≤ R.frames ∧ 8 + (2 + 11) + rm.locals ≤ R.locals) (hc : rm.cells = 0 := by rfl) (hs : rm.slots = 0 := by rfl) : CallW R s args RX0 RX0 47 yX0_current cX0_current 2 (some .int) (ws_ yX0_current cX0_current 2 (some .int)) rm 0 0 1 := cwV 1 C.1.2.2.2.2 (lw_V q84 q86 qs0 q21 q87) rfl hc hs (by decide +kernel) hR
theorem cwx_dirtyCount {p : Program} {R : Room} {s : State} {m : MethodId} {args : Array Value} {c : Code} {cc : ByteArray} {nL : Nat} {dC : Nat → ClassId} {dI : Nat → Nat → Nat} {cI cZ : ClassId} {rm : Room} (C : xC p c cc nL s m args dC dI cI cZ) (hR : rm.frames + 1 ≤ R.frames ∧ 8 + (3 + 11) + rm.locals ≤ R.locals) (hc : rm.cells = 0 := by rfl) (hs : rm.slots = 0 := by rfl) : CallW R s args RX0 RX0 51 yX0_dirtyCount cX0_dirtyCount 3 (some .int) (ws_ yX0_dirtyCount cX0_dirtyCount 3 (some .int)) rm 0 0 0 := cwV 0 C.1.2.2.2.2 (lw_V q96 q98 qs2 q21 q99) rfl hc hs (by decide +kernel) hR
theorem cwx_flush {p : Program} {R : Room} {s : State} {m : MethodId} {args : Array Value} {c : Code} {cc : ByteArray} {nL : Nat} {dC : Nat → ClassId} {dI : Nat → Nat → Nat} {cI cZ : ClassId} {rm : Room} (C : xC p c cc nL s m args dC dI cI cZ) (hR : rm.frames + 1 ≤ R.frames ∧ 8 + (6 + 11) + rm.locals ≤ R.locals) (hc : rm.cells = 0 := by rfl) (hs : rm.slots = 0 := by rfl) : CallW R s args RX0 RX0 58 yX0_flush cX0_flush 6 none (ws_ yX0_flush cX0_flush 6 none) rm 0 0 1 := cwV 1 C.1.2.2.2.2 (lw_V q100 q102 qs3 q21 q103) rfl hc hs (by decide +kernel) hR
theorem cwx_write {p : Program} {R : Room} {s : State} {m : MethodId} {args : Array Value} {c : Code} {cc : ByteArray} {nL : Nat} {dC : Nat → ClassId} {dI : Nat → Nat → Nat} {cI cZ : ClassId} {rm : Room} (C : xC p c cc nL s m args dC dI cI cZ) (hR : rm.frames + 1 ≤ R.frames ∧ 8 + (3 + 11) + rm.locals ≤ R.locals) (hc : rm.cells = 0 := by rfl) (hs : rm.slots = 0 := by rfl) : CallW R s args RX0 RX0 62 yX0_write cX0_write 3 (some .int) (ws_ yX0_write cX0_write 3 (some .int)) rm 0 0 2 := cwV 2 C.1.2.2.2.2 (lw_V q144 q93 q94 q21 q95) rfl hc hs (by decide +kernel) hR
theorem cwx_dropCache {p : Program} {R : Room} {s : State} {m : MethodId} {args : Array Value} {c : Code} {cc : ByteArray} {nL : Nat} {dC : Nat → ClassId} {dI : Nat → Nat → Nat} {cI cZ : ClassId} {rm : Room} (C : xC p c cc nL s m args dC dI cI cZ) (hR : rm.frames + 1 ≤ R.frames ∧ 8 + (2 + 11) + rm.locals ≤ R.locals) (hc : rm.cells = 0 := by rfl) (hs : rm.slots = 0 := by rfl) : CallW R s args RX0 RX0 66 yX0_dropCache cX0_dropCache 2 none (ws_ yX0_dropCache cX0_dropCache 2 none) rm 0 0 0 := cwV 0 C.1.2.2.2.2 (lw_V q136 q138 qs12 q21 q139) rfl hc hs (by decide +kernel) hR
theorem cwx_fall {p : Program} {R : Room} {s : State} {m : MethodId} {args : Array Value} {c : Code} {cc : ByteArray} {nL : Nat} {dC : Nat → ClassId} {dI : Nat → Nat → Nat} {cI cZ : ClassId} {rm : Room} (C : xC p c cc nL s m args dC dI cI cZ) (hR : rm.frames + 1 ≤ R.frames ∧ 8 + (2 + 11) + rm.locals ≤ R.locals) (hc : rm.cells = 0 := by rfl) (hs : rm.slots = 0 := by rfl) : CallW R s args RX0 RX0 69 yX0_fall cX0_fall 2 none (ws_ yX0_fall cX0_fall 2 none) rm 0 0 0 := cwV 0 C.1.2.2.2.2 (lw_V q165 q167 qs13 q21 q168) rfl hc hs (by decide +kernel) hR
theorem cwx_recover {p : Program} {R : Room} {s : State} {m : MethodId} {args : Array Value} {c : Code} {cc : ByteArray} {nL : Nat} {dC : Nat → ClassId} {dI : Nat → Nat → Nat} {cI cZ : ClassId} {rm : Room} (C : xC p c cc nL s m args dC dI cI cZ) (hR : rm.frames + 1 ≤ R.frames ∧ 8 + (3 + 11) + rm.locals ≤ R.locals) (hc : rm.cells = 0 := by rfl) (hs : rm.slots = 0 := by rfl) : CallW R s args RX0 RX0 72 yX0_recover cX0_recover 3 none (ws_ yX0_recover cX0_recover 3 none) rm 0 0 0 := cwV 0 C.1.2.2.2.2 (lw_V q177 q179 qs14 q21 q180) rfl hc hs (by decide +kernel) hR
theorem cwx_stored {p : Program} {R : Room} {s : State} {m : MethodId} {args : Array Value} {c : Code} {cc : ByteArray} {nL : Nat} {dC : Nat → ClassId} {dI : Nat → Nat → Nat} {cI cZ : ClassId} {rm : Room} (C : xC p c cc nL s m args dC dI cI cZ) (hR : rm.frames + 1 ≤ R.frames ∧ 8 + (2 + 11) + rm.locals ≤ R.locals) (hc : rm.cells = 0 := by rfl) (hs : rm.slots = 0 := by rfl) : CallW R s args RX0 RX0 75 yX0_stored cX0_stored 2 (some .int) (ws_ yX0_stored cX0_stored 2 (some .int)) rm 0 0 1 := cwV 1 C.1.2.2.2.2 (lw_V q88 q90 qs1 q21 q91) rfl hc hs (by decide +kernel) hR
theorem cwx_living {p : Program} {R : Room} {s : State} {m : MethodId} {args : Array Value} {c : Code} {cc : ByteArray} {nL : Nat} {dC : Nat → ClassId} {dI : Nat → Nat → Nat} {cI cZ : ClassId} {rm : Room} (C : xC p c cc nL s m args dC dI cI cZ) (hR : rm.frames + 1 ≤ R.frames ∧ 8 + (4 + 11) + rm.locals ≤ R.locals) (hc : rm.cells = 0 := by rfl) (hs : rm.slots = 0 := by rfl) : CallW R s args RX0 RX0 78 yX0_living cX0_living 4 (some .int) (ws_ yX0_living cX0_living 4 (some .int)) rm 0 0 1 := cwV 1 C.1.2.2.2.2 (lw_V q116 q118 qs7 q21 q119) rfl hc hs (by decide +kernel) hR
theorem cwx_empty {p : Program} {R : Room} {s : State} {m : MethodId} {args : Array Value} {c : Code} {cc : ByteArray} {nL : Nat} {dC : Nat → ClassId} {dI : Nat → Nat → Nat} {cI cZ : ClassId} {rm : Room} (C : xC p c cc nL s m args dC dI cI cZ) (hR : rm.frames + 1 ≤ R.frames ∧ 8 + (2 + 11) + rm.locals ≤ R.locals) (hc : rm.cells = 0 := by rfl) (hs : rm.slots = 0 := by rfl) : CallW R s args RX0 RX0 81 yX0_empty cX0_empty 2 none (ws_ yX0_empty cX0_empty 2 none) rm 0 0 1 := cwV 1 C.1.2.2.2.2 (lw_V q132 q134 qs11 q21 q135) rfl hc hs (by decide +kernel) hR
theorem cwx_counts {p : Program} {R : Room} {s : State} {m : MethodId} {args : Array Value} {c : Code} {cc : ByteArray} {nL : Nat} {dC : Nat → ClassId} {dI : Nat → Nat → Nat} {cI cZ : ClassId} {rm : Room} (C : xC p c cc nL s m args dC dI cI cZ) (hR : rm.frames + 1 ≤ R.frames ∧ 8 + (3 + 11) + rm.locals ≤ R.locals) (hc : rm.cells = 0 := by rfl) (hs : rm.slots = 0 := by rfl) : CallW R s args RX0 RX0 84 yX0_counts cX0_counts 3 (some .boolean) (ws_ yX0_counts cX0_counts 3 (some .boolean)) rm 0 0 1 := cwV 1 C.1.2.2.2.2 (lw_V q181 q183 qs15 q21 q184) rfl hc hs (by decide +kernel) hR
theorem cwx_makeRoom {p : Program} {R : Room} {s : State} {m : MethodId} {args : Array Value} {c : Code} {cc : ByteArray} {nL : Nat} {dC : Nat → ClassId} {dI : Nat → Nat → Nat} {cI cZ : ClassId} {rm : Room} (C : xC p c cc nL s m args dC dI cI cZ) (hR : rm.frames + 1 ≤ R.frames ∧ 8 + (3 + 11) + rm.locals ≤ R.locals) (hc : rm.cells = 0 := by rfl) (hs : rm.slots = 0 := by rfl) : CallW R s args RX0 RX0 87 yX0_makeRoom cX0_makeRoom 3 none (ws_ yX0_makeRoom cX0_makeRoom 3 none) rm 0 0 0 := cwV 0 C.1.2.2.2.2 (lw_V q104 q106 qs4 q21 q107) rfl hc hs (by decide +kernel) hR
theorem cwx_append {p : Program} {R : Room} {s : State} {m : MethodId} {args : Array Value} {c : Code} {cc : ByteArray} {nL : Nat} {dC : Nat → ClassId} {dI : Nat → Nat → Nat} {cI cZ : ClassId} {rm : Room} (C : xC p c cc nL s m args dC dI cI cZ) (hR : rm.frames + 1 ≤ R.frames ∧ 8 + (4 + 11) + rm.locals ≤ R.locals) (hc : rm.cells = 0 := by rfl) (hs : rm.slots = 0 := by rfl) : CallW R s args RX0 RX0 93 yX0_append cX0_append 4 (some .int) (ws_ yX0_append cX0_append 4 (some .int)) rm 0 0 2 := cwV 2 C.1.2.2.2.2 (lw_V q128 q130 qs10 q21 q131) rfl hc hs (by decide +kernel) hR
theorem cwx_openZone {p : Program} {R : Room} {s : State} {m : MethodId} {args : Array Value} {c : Code} {cc : ByteArray} {nL : Nat} {dC : Nat → ClassId} {dI : Nat → Nat → Nat} {cI cZ : ClassId} {rm : Room} (C : xC p c cc nL s m args dC dI cI cZ) (hR : rm.frames + 1 ≤ R.frames ∧ 8 + (2 + 11) + rm.locals ≤ R.locals) (hc : rm.cells = 0 := by rfl) (hs : rm.slots = 0 := by rfl) : CallW R s args RX0 RX0 96 yX0_openZone cX0_openZone 2 none (ws_ yX0_openZone cX0_openZone 2 none) rm 0 0 0 := cwV 0 C.1.2.2.2.2 (lw_V q108 q110 qs5 q21 q111) rfl hc hs (by decide +kernel) hR
theorem cwx_poorest {p : Program} {R : Room} {s : State} {m : MethodId} {args : Array Value} {c : Code} {cc : ByteArray} {nL : Nat} {dC : Nat → ClassId} {dI : Nat → Nat → Nat} {cI cZ : ClassId} {rm : Room} (C : xC p c cc nL s m args dC dI cI cZ) (hR : rm.frames + 1 ≤ R.frames ∧ 8 + (3 + 11) + rm.locals ≤ R.locals) (hc : rm.cells = 0 := by rfl) (hs : rm.slots = 0 := by rfl) : CallW R s args RX0 RX0 99 yX0_poorest cX0_poorest 3 (some .int) (ws_ yX0_poorest cX0_poorest 3 (some .int)) rm 0 0 0 := cwV 0 C.1.2.2.2.2 (lw_V q112 q114 qs6 q21 q115) rfl hc hs (by decide +kernel) hR
theorem cwx_emptyZones {p : Program} {R : Room} {s : State} {m : MethodId} {args : Array Value} {c : Code} {cc : ByteArray} {nL : Nat} {dC : Nat → ClassId} {dI : Nat → Nat → Nat} {cI cZ : ClassId} {rm : Room} (C : xC p c cc nL s m args dC dI cI cZ) (hR : rm.frames + 1 ≤ R.frames ∧ 8 + (3 + 11) + rm.locals ≤ R.locals) (hc : rm.cells = 0 := by rfl) (hs : rm.slots = 0 := by rfl) : CallW R s args RX0 RX0 102 yX0_emptyZones cX0_emptyZones 3 (some .int) (ws_ yX0_emptyZones cX0_emptyZones 3 (some .int)) rm 0 0 0 := cwV 0 C.1.2.2.2.2 (lw_V q120 q122 qs8 q21 q123) rfl hc hs (by decide +kernel) hR
theorem cwx_moveOut {p : Program} {R : Room} {s : State} {m : MethodId} {args : Array Value} {c : Code} {cc : ByteArray} {nL : Nat} {dC : Nat → ClassId} {dI : Nat → Nat → Nat} {cI cZ : ClassId} {rm : Room} (C : xC p c cc nL s m args dC dI cI cZ) (hR : rm.frames + 1 ≤ R.frames ∧ 8 + (3 + 11) + rm.locals ≤ R.locals) (hc : rm.cells = 0 := by rfl) (hs : rm.slots = 0 := by rfl) : CallW R s args RX0 RX0 105 yX0_moveOut cX0_moveOut 3 none (ws_ yX0_moveOut cX0_moveOut 3 none) rm 0 0 1 := cwV 1 C.1.2.2.2.2 (lw_V q124 q126 qs9 q21 q127) rfl hc hs (by decide +kernel) hR
theorem cwm_freshCount {p : Program} {R : Room} {s : State} {m : MethodId} {args : Array Value} {c : Code} {cc : ByteArray} {nL : Nat} {dC : Nat → ClassId} {dI : Nat → Nat → Nat} {cI cZ : ClassId} {rm : Room} (C : mC p c cc nL s m args dC dI cI cZ) (hR : rm.frames + 1 ≤ R.frames ∧ 8 + (3 + 11) + rm.locals ≤ R.locals) (hc : rm.cells = 0 := by rfl) (hs : rm.slots = 0 := by rfl) : CallW R s args RX1 RX1 24 yX1_freshCount cX1_freshCount 3 (some .int) (ws_ yX1_freshCount cX1_freshCount 3 (some .int)) rm 0 0 0 := cwV 0 C.1.2.2.2.2 (lw_V q247 q249 qs17 q22 q250) rfl hc hs (by decide +kernel) hR
theorem cwm_bad {p : Program} {R : Room} {s : State} {m : MethodId} {args : Array Value} {c : Code} {cc : ByteArray} {nL : Nat} {dC : Nat → ClassId} {dI : Nat → Nat → Nat} {cI cZ : ClassId} {rm : Room} (C : mC p c cc nL s m args dC dI cI cZ) (hR : rm.frames + 1 ≤ R.frames ∧ 8 + (2 + 11) + rm.locals ≤ R.locals) (hc : rm.cells = 0 := by rfl) (hs : rm.slots = 0 := by rfl) : CallW R s args RX1 RX1 28 yX1_bad cX1_bad 2 (some .boolean) (ws_ yX1_bad cX1_bad 2 (some .boolean)) rm 0 0 1 := cwV 1 C.1.2.2.2.2 (lw_V q239 q241 qs16 q22 q242) rfl hc hs (by decide +kernel) hR
theorem cwm_settle {p : Program} {R : Room} {s : State} {m : MethodId} {args : Array Value} {c : Code} {cc : ByteArray} {nL : Nat} {dC : Nat → ClassId} {dI : Nat → Nat → Nat} {cI cZ : ClassId} {rm : Room} (C : mC p c cc nL s m args dC dI cI cZ) (hR : rm.frames + 1 ≤ R.frames ∧ 8 + (4 + 11) + rm.locals ≤ R.locals) (hc : rm.cells = 0 := by rfl) (hs : rm.slots = 0 := by rfl) : CallW R s args RX1 RX1 35 yX1_settle cX1_settle 4 (some .int) (ws_ yX1_settle cX1_settle 4 (some .int)) rm 0 0 1 := cwV 1 C.1.2.2.2.2 (lw_V q255 q257 qs19 q22 q258) rfl hc hs (by decide +kernel) hR
theorem cwm_put {p : Program} {R : Room} {s : State} {m : MethodId} {args : Array Value} {c : Code} {cc : ByteArray} {nL : Nat} {dC : Nat → ClassId} {dI : Nat → Nat → Nat} {cI cZ : ClassId} {rm : Room} (C : mC p c cc nL s m args dC dI cI cZ) (hR : rm.frames + 1 ≤ R.frames ∧ 8 + (3 + 11) + rm.locals ≤ R.locals) (hc : rm.cells = 0 := by rfl) (hs : rm.slots = 0 := by rfl) : CallW R s args RX1 RX1 39 yX1_put cX1_put 3 none (ws_ yX1_put cX1_put 3 none) rm 0 0 2 := cwV 2 C.1.2.2.2.2 (lw_V q251 q253 qs18 q22 q254) rfl hc hs (by decide +kernel) hR
end
section
/-! the plain law: numbers, counts, the device's invariant -/
theorem zi_m1 {n : Nat} (h : n < 2 ^ 31) : ¬ nI n = -1 := by
  intro q
  have h1 := nI_pos h
  rw [q] at h1
  exact h1 (by decide)
theorem zi_16 {b : Nat} (h : b < 16) : ¬ nI b = 16 := by
  intro q
  have := (nI_eq (a := b) (b := 16) (by omega) (by decide)).mp q
  omega
theorem zi_div {t : Nat} (h : t < 2 ^ 31) : nI t / 12 = nI (t / 12) := pk_div (a := t) (d := 12) h (by decide) (by decide)
theorem zi_rem {t : Nat} (h : t < 2 ^ 31) : nI t - nI t / 12 * 12 = nI (t % 12) := pk_rem (a := t) (d := 12) h (by decide) (by decide)
/-- a place of the table: none, or one of the 72 -/
def okT (v : Int32) : Prop := v = -1 ∨ ∃ t, t < 72 ∧ v = nI t
def vz (rv : ZF) (v : Int32) : Int32 := if v = -1 then 0 else rv v.toNatClampNeg
theorem vz_m1 {rv : ZF} {v : Int32} (h : v = -1) : vz rv v = 0 := by unfold vz; rw [if_pos h]
theorem vz_at {rv : ZF} {v : Int32} {t : Nat} (h : v = nI t) (ht : t < 72) : vz rv v = rv t := by
  unfold vz
  rw [h, if_neg (zi_m1 (by omega)), nI_clamp (by omega)]
/-- how many of the first n -/
def cb (g : Nat → Bool) : Nat → Nat
  | 0 => 0
  | n + 1 => cb g n + (if g n = true then 1 else 0)
theorem cb_t {g : Nat → Bool} {n : Nat} (h : g n = true) : cb g (n + 1) = cb g n + 1 := by
  show cb g n + (if g n = true then 1 else 0) = _
  rw [if_pos h]
theorem cb_f {g : Nat → Bool} {n : Nat} (h : g n = false) : cb g (n + 1) = cb g n := by
  show cb g n + (if g n = true then 1 else 0) = _
  rw [if_neg (by rw [h]; decide)]
  rfl
theorem cb_le (g : Nat → Bool) : ∀ n, cb g n ≤ n
  | 0 => Nat.le_refl 0
  | n + 1 => by
    have := cb_le g n
    show cb g n + (if g n = true then 1 else 0) ≤ n + 1
    split <;> omega
theorem cb_mono (g : Nat → Bool) {i n : Nat} (h : i ≤ n) : cb g i ≤ cb g n := by
  induction n with
  | zero =>
    have : i = 0 := by omega
    subst this
    exact Nat.le_refl _
  | succ n ih =>
    rcases Nat.lt_or_ge n i with q | q
    · have : i = n + 1 := by omega
      subst this
      exact Nat.le_refl _
    · have := ih q
      show cb g i ≤ cb g n + (if g n = true then 1 else 0)
      omega
theorem cb_congr {g g' : Nat → Bool} : ∀ {n : Nat}, (∀ j, j < n → g j = g' j) → cb g n = cb g' n
  | 0, _ => rfl
  | n + 1, h => by
    show cb g n + (if g n = true then 1 else 0) = cb g' n + (if g' n = true then 1 else 0)
    rw [cb_congr (fun j hj => h j (by omega)), h n (by omega)]
theorem cb_zero {g : Nat → Bool} : ∀ {n : Nat}, cb g n = 0 → ∀ j, j < n → g j = false
  | 0, _, j, hj => absurd hj (Nat.not_lt_zero _)
  | n + 1, h, j, hj => by
    have h1 : cb g n + (if g n = true then 1 else 0) = 0 := h
    have h2 : cb g n = 0 := by omega
    rcases Nat.lt_or_ge j n with q | q
    · exact cb_zero h2 j q
    · have : j = n := by omega
      subst this
      cases hg : g j with
      | false => rfl
      | true => rw [hg] at h1; simp at h1
theorem cb_pos {g : Nat → Bool} {n : Nat} (h : cb g n ≠ 0) : ∃ j, j < n ∧ g j = true := by
  induction n with
  | zero => exact absurd rfl h
  | succ n ih =>
    cases hg : g n with
    | true => exact ⟨n, by omega, hg⟩
    | false =>
      rw [cb_f hg] at h
      obtain ⟨j, h1, h2⟩ := ih h
      exact ⟨j, by omega, h2⟩
theorem cb_none {g : Nat → Bool} : ∀ {n : Nat}, (∀ j, j < n → g j = false) → cb g n = 0
  | 0, _ => rfl
  | n + 1, h => by rw [cb_f (h n (by omega))]; exact cb_none (fun j hj => h j (by omega))
theorem cb_it {g : Nat → Bool} {n : Nat} (h : g n = true) : nI (cb g n) + 1 = nI (cb g (n + 1)) := by rw [cb_t h, nI_1]
theorem cb_if {g : Nat → Bool} {n : Nat} (h : g n = false) : nI (cb g n) + 0 = nI (cb g (n + 1)) := by rw [cb_f h, Int32.add_zero]
theorem cb_i0 {g : Nat → Bool} {n : Nat} (h : g n = false) : nI (cb g n) = nI (cb g (n + 1)) := by rw [cb_f h]
/-- the unsynced blocks -/
def dg (di : ZF) : Nat → Bool := fun b => decide (¬ di b = 0)
/-- the blocks whose record lies in the zone -/
def lg_z (tb : ZF) (z : Int32) : Nat → Bool := fun b => decide (¬ tb b = -1 ∧ tb b / 12 = z)
def liv (tb : ZF) (z : Int32) : Nat := cb (lg_z tb z) 16
def eg (op : ZF) : Nat → Bool := fun z => decide (op z = -1)
/-- a sum -/
def sm (f : ZF) : Nat → Int32
  | 0 => 0
  | n + 1 => sm f n + f n
theorem sm_congr {f g : ZF} : ∀ {n : Nat}, (∀ j, j < n → f j = g j) → sm f n = sm g n
  | 0, _ => rfl
  | n + 1, h => by
    show sm f n + f n = sm g n + g n
    rw [sm_congr (fun j hj => h j (by omega)), h n (by omega)]
/-- the first n of f, the rest of g -/
def ctn (n : Nat) (f g : ZF) : ZF := fun j => if j < n then f j else g j
theorem ctn_0 (f g : ZF) : ctn 0 f g = g := by
  funext j
  show (if j < 0 then f j else g j) = g j
  rw [if_neg (Nat.not_lt_zero _)]
theorem ctn_in {n j : Nat} {f g : ZF} (h : j < n) : ctn n f g j = f j := by
  show (if j < n then f j else g j) = f j
  rw [if_pos h]
theorem ctn_out {n j : Nat} {f g : ZF} (h : n ≤ j) : ctn n f g j = g j := by
  show (if j < n then f j else g j) = g j
  rw [if_neg (by omega)]
theorem ctn_s {n : Nat} {f g : ZF} {v : Int32} (h : v = f n) : upd (ctn n f g) n v = ctn (n + 1) f g := by
  funext j
  rcases Nat.lt_trichotomy j n with q | q | q
  · rw [pk_un (by omega), ctn_in q, ctn_in (by omega)]
  · subst q
    rw [pk_us, ctn_in (by omega), h]
  · rw [pk_un (by omega), ctn_out (by omega), ctn_out (by omega)]
/-- the current value of a block -/
def cu (σ : ZS) (k : Nat) : Int32 := if z_di σ k = 0 then vz (z_rv σ) (z_tb σ k) else z_ca σ k
/-- a record of the device -/
def lve (fi : ZF) (t : Nat) : Prop := t < 72 ∧ nI (t % 12) < fi (t / 12)
def mkd (rb rg fi : ZF) (g : Int32) : Prop := ∃ t, lve fi t ∧ rb t = 16 ∧ rg t = g
/-- THE DEVICE: rb, rg its records, fi, op its zones, T the durable table, gn = G the last group -/
def D0 (rb rg fi op T : ZF) (gn : Int32) (G : Nat) : Prop :=
  gn = nI G ∧ (∀ z, z < 6 → ∃ k, k ≤ 12 ∧ fi z = nI k) ∧ (∀ z, z < 6 → op z = -1 → fi z = 0) ∧
  (∀ t, lve fi t → (∃ b, b ≤ 16 ∧ rb t = nI b) ∧ (∃ g, g ≤ G ∧ rg t = nI g)) ∧
  (∀ t t', lve fi t → lve fi t' → rg t = rg t' → t / 12 = t' / 12) ∧
  (∀ b, b < 16 → T b = -1 ∨ ∃ t, T b = nI t ∧ lve fi t ∧ rb t = nI b ∧ mkd rb rg fi (rg t)) ∧
  (∀ b t, b < 16 → lve fi t → rb t = nI b → mkd rb rg fi (rg t) → ∃ t', t' < 72 ∧ T b = nI t' ∧ (t = t' ∨ rg t < rg t'))
/-- a group in flight: G the group, P where its records lie (in the zone a); no mark yet -/
def Fl (rb rg fi op T P : ZF) (gn : Int32) (G a : Nat) : Prop :=
  D0 rb rg fi op T gn G ∧ a < 6 ∧ (∀ t, lve fi t → rg t = nI G → t / 12 = a ∧ ∃ b, b < 16 ∧ rb t = nI b ∧ P b = nI t) ∧
  (∀ b, b < 16 → P b = -1 ∨ ∃ t, P b = nI t ∧ lve fi t ∧ rb t = nI b ∧ rg t = nI G ∧ t / 12 = a)
theorem D0.okT {rb rg fi op T : ZF} {gn : Int32} {G : Nat} (h : D0 rb rg fi op T gn G) : ∀ b, b < 16 → okT (T b) := by
  intro b hb
  rcases h.2.2.2.2.2.1 b hb with q | ⟨t, q, l, -⟩
  · exact Or.inl q
  · exact Or.inr ⟨t, l.1, q⟩
theorem D0.congr {rb rg fi op T T' : ZF} {gn : Int32} {G : Nat} (h : D0 rb rg fi op T gn G) (e : ∀ b, b < 16 → T' b = T b) : D0 rb rg fi op T' gn G := by
  obtain ⟨h1, h2, h3, h4, h5, h6, h7⟩ := h
  refine ⟨h1, h2, h3, h4, h5, fun b hb => ?_, fun b t hb q1 q2 q3 => ?_⟩
  · rw [e b hb]; exact h6 b hb
  · rw [e b hb]; exact h7 b t hb q1 q2 q3
theorem Fl.start {rb rg fi op T : ZF} {gn : Int32} {G a : Nat} (h : D0 rb rg fi op T gn G) (ha : a < 6) (hG : G + 1 < 2 ^ 31) : Fl rb rg fi op T (fun _ => -1) (gn + 1) (G + 1) a := by
  obtain ⟨h1, h2, h3, h4, h5, h6, h7⟩ := h
  refine ⟨⟨by rw [h1, nI_1], h2, h3, fun t q => ?_, h5, h6, h7⟩, ha, fun t q e => ?_, fun b hb => Or.inl rfl⟩
  · obtain ⟨c1, g, c2, c3⟩ := h4 t q
    exact ⟨c1, g, by omega, c3⟩
  · obtain ⟨-, g, c2, c3⟩ := h4 t q
    rw [c3] at e
    have := (nI_eq (by omega) hG).mp e
    omega
/-- a record more at the end of a zone -/
theorem lve_add {fi : ZF} {a k : Nat} (ha : a < 6) (hk : k < 12) (hf : fi a = nI k) (t : Nat) : lve (upd fi a (nI (k + 1))) t ↔ (lve fi t ∨ t = 12 * a + k) := by
  unfold lve
  by_cases hz : t / 12 = a
  · rw [hz, pk_us, hf]
    constructor
    · rintro ⟨c1, c2⟩
      have := (nI_ltI (by omega) (by omega)).mp c2
      rcases Nat.lt_or_ge (t % 12) k with q | q
      · exact Or.inl ⟨c1, nI_lt q (by omega)⟩
      · exact Or.inr (by omega)
    · rintro (⟨c1, c2⟩ | c)
      · have := (nI_ltI (by omega) (by omega)).mp c2
        exact ⟨c1, nI_lt (by omega) (by omega)⟩
      · exact ⟨by omega, nI_lt (by omega) (by omega)⟩
  · rw [pk_un hz]
    constructor
    · exact fun c => Or.inl c
    · rintro (c | c)
      · exact c
      · omega
theorem lve_new {fi : ZF} {a k : Nat} (hk : k < 12) (hf : fi a = nI k) : ¬ lve fi (12 * a + k) := by
  intro h
  have h2 := h.2
  rw [show (12 * a + k) / 12 = a by omega, hf, show (12 * a + k) % 12 = k by omega] at h2
  have := (nI_ltI (by omega) (by omega)).mp h2
  omega
theorem fi_add {fi : ZF} {a k : Nat} (hk : k < 12) (h : ∀ z, z < 6 → ∃ k, k ≤ 12 ∧ fi z = nI k) : ∀ z, z < 6 → ∃ q, q ≤ 12 ∧ upd fi a (nI (k + 1)) z = nI q := by
  intro z hz
  by_cases e : z = a
  · subst e
    exact ⟨k + 1, by omega, pk_us⟩
  · rw [pk_un e]
    exact h z hz
theorem Fl.add {rb rg fi op T P : ZF} {gn : Int32} {G a k b : Nat} (h : Fl rb rg fi op T P gn G a) (hop : ¬ op a = -1) (hG : G < 2 ^ 31) (hk : k < 12) (hf : fi a = nI k) (hb : b < 16) (hP : P b = -1) : Fl (upd rb (12 * a + k) (nI b)) (upd rg (12 * a + k) gn) (upd fi a (nI (k + 1))) op T (upd P b (nI (12 * a + k))) gn G a := by
  obtain ⟨⟨h1, h2, h3, h4, h5, h6, h7⟩, ha, f1, f2⟩ := h
  have hl := lve_add ha hk hf
  have hn := lve_new (a := a) hk hf
  have hne : ∀ t, lve fi t → t ≠ 12 * a + k := fun t q e => hn (e ▸ q)
  have mk1 : ∀ g, mkd rb rg fi g → mkd (upd rb (12 * a + k) (nI b)) (upd rg (12 * a + k) gn) (upd fi a (nI (k + 1))) g := by
    rintro g ⟨t, q1, q2, q3⟩
    exact ⟨t, (hl t).mpr (Or.inl q1), by rw [pk_un (hne t q1)]; exact q2, by rw [pk_un (hne t q1)]; exact q3⟩
  have mk2 : ∀ g, mkd (upd rb (12 * a + k) (nI b)) (upd rg (12 * a + k) gn) (upd fi a (nI (k + 1))) g → mkd rb rg fi g := by
    rintro g ⟨t, q1, q2, q3⟩
    rcases (hl t).mp q1 with c | c
    · rw [pk_un (hne t c)] at q2 q3
      exact ⟨t, c, q2, q3⟩
    · rw [c, pk_us] at q2
      exact absurd q2 (zi_16 hb)
  have mkG : ¬ mkd rb rg fi (nI G) := by
    rintro ⟨t, q1, q2, q3⟩
    obtain ⟨-, b', hb', e, -⟩ := f1 t q1 q3
    rw [e] at q2
    exact zi_16 hb' q2
  refine ⟨⟨h1, fi_add hk h2, fun z hz e => ?_, fun t q => ?_, fun t t' q q' e => ?_, fun b' hb' => ?_, fun b' t hb' q1 q2 q3 => ?_⟩, ha, fun t q e => ?_, fun b' hb' => ?_⟩
  · have : z ≠ a := fun c => hop (c ▸ e)
    rw [pk_un this]
    exact h3 z hz e
  · rcases (hl t).mp q with c | c
    · rw [pk_un (hne t c), pk_un (hne t c)]
      exact h4 t c
    · rw [c, pk_us, pk_us]
      exact ⟨⟨b, by omega, rfl⟩, G, Nat.le_refl _, h1⟩
  · rcases (hl t).mp q with c | c <;> rcases (hl t').mp q' with c' | c'
    · rw [pk_un (hne t c), pk_un (hne t' c')] at e
      exact h5 t t' c c' e
    · rw [pk_un (hne t c), c', pk_us, h1] at e
      rw [(f1 t c e).1, c']
      omega
    · rw [pk_un (hne t' c'), c, pk_us, h1] at e
      rw [(f1 t' c' e.symm).1, c]
      omega
    · rw [c, c']
  · rcases h6 b' hb' with c | ⟨t, c1, c2, c3, c4⟩
    · exact Or.inl c
    · refine Or.inr ⟨t, c1, (hl t).mpr (Or.inl c2), ?_, ?_⟩
      · rw [pk_un (hne t c2)]; exact c3
      · rw [pk_un (hne t c2)]; exact mk1 _ c4
  · rcases (hl t).mp q1 with c | c
    · rw [pk_un (hne t c)] at q2
      rw [pk_un (hne t c)] at q3 ⊢
      obtain ⟨t', d1, d2, d3⟩ := h7 b' t hb' c q2 (mk2 _ q3)
      refine ⟨t', d1, d2, ?_⟩
      have hl' : lve fi t' := by
        rcases h6 b' hb' with u | ⟨t2, u1, u2, -⟩
        · rw [d2] at u; exact absurd u (zi_m1 (by omega))
        · rw [d2] at u1
          have := (nI_eq (by omega) (by have := u2.1; omega)).mp u1
          rw [this]; exact u2
      rw [pk_un (hne t' hl')]
      exact d3
    · rw [c, pk_us] at q3
      exact absurd (mk2 _ q3) (by rw [h1]; exact mkG)
  · rcases (hl t).mp q with c | c
    · rw [pk_un (hne t c)] at e
      obtain ⟨d1, b', d2, d3, d4⟩ := f1 t c e
      refine ⟨d1, b', d2, by rw [pk_un (hne t c)]; exact d3, ?_⟩
      rw [pk_un (fun x => by rw [x, hP] at d4; exact zi_m1 (by have := c.1; omega) d4.symm)]
      exact d4
    · refine ⟨by rw [c]; omega, b, hb, by rw [c, pk_us], by rw [c, pk_us]⟩
  · by_cases x : b' = b
    · subst x
      refine Or.inr ⟨12 * a + k, pk_us, (hl _).mpr (Or.inr rfl), pk_us, by rw [pk_us, h1], by omega⟩
    · rw [pk_un x]
      rcases f2 b' hb' with c | ⟨t, c1, c2, c3, c4, c5⟩
      · exact Or.inl c
      · exact Or.inr ⟨t, c1, (hl t).mpr (Or.inl c2), by rw [pk_un (hne t c2)]; exact c3, by rw [pk_un (hne t c2)]; exact c4, c5⟩
theorem Fl.mark {rb rg fi op T P T' : ZF} {gn : Int32} {G a k : Nat} (h : Fl rb rg fi op T P gn G a) (hop : ¬ op a = -1) (hG : G < 2 ^ 31) (hk : k < 12) (hf : fi a = nI k) (hT : ∀ b, b < 16 → T' b = if P b = -1 then T b else P b) : D0 (upd rb (12 * a + k) 16) (upd rg (12 * a + k) gn) (upd fi a (nI (k + 1))) op T' gn G := by
  obtain ⟨⟨h1, h2, h3, h4, h5, h6, h7⟩, ha, f1, f2⟩ := h
  have hl := lve_add ha hk hf
  have hn := lve_new (a := a) hk hf
  have hne : ∀ t, lve fi t → t ≠ 12 * a + k := fun t q e => hn (e ▸ q)
  have mk1 : ∀ g, mkd rb rg fi g → mkd (upd rb (12 * a + k) 16) (upd rg (12 * a + k) gn) (upd fi a (nI (k + 1))) g := by
    rintro g ⟨t, q1, q2, q3⟩
    exact ⟨t, (hl t).mpr (Or.inl q1), by rw [pk_un (hne t q1)]; exact q2, by rw [pk_un (hne t q1)]; exact q3⟩
  have mk2 : ∀ g, ¬ g = nI G → mkd (upd rb (12 * a + k) 16) (upd rg (12 * a + k) gn) (upd fi a (nI (k + 1))) g → mkd rb rg fi g := by
    rintro g hg ⟨t, q1, q2, q3⟩
    rcases (hl t).mp q1 with c | c
    · rw [pk_un (hne t c)] at q2 q3
      exact ⟨t, c, q2, q3⟩
    · rw [c, pk_us, h1] at q3
      exact absurd q3.symm hg
  have mkG : mkd (upd rb (12 * a + k) 16) (upd rg (12 * a + k) gn) (upd fi a (nI (k + 1))) (nI G) := ⟨12 * a + k, (hl _).mpr (Or.inr rfl), pk_us, by rw [pk_us, h1]⟩
  refine ⟨h1, fi_add hk h2, fun z hz e => ?_, fun t q => ?_, fun t t' q q' e => ?_, fun b' hb' => ?_, fun b' t hb' q1 q2 q3 => ?_⟩
  · have : z ≠ a := fun c => hop (c ▸ e)
    rw [pk_un this]
    exact h3 z hz e
  · rcases (hl t).mp q with c | c
    · rw [pk_un (hne t c), pk_un (hne t c)]
      exact h4 t c
    · rw [c, pk_us, pk_us]
      exact ⟨⟨16, by omega, rfl⟩, G, Nat.le_refl _, h1⟩
  · rcases (hl t).mp q with c | c <;> rcases (hl t').mp q' with c' | c'
    · rw [pk_un (hne t c), pk_un (hne t' c')] at e
      exact h5 t t' c c' e
    · rw [pk_un (hne t c), c', pk_us, h1] at e
      rw [(f1 t c e).1, c']
      omega
    · rw [pk_un (hne t' c'), c, pk_us, h1] at e
      rw [(f1 t' c' e.symm).1, c]
      omega
    · rw [c, c']
  · rw [hT b' hb']
    by_cases hp : P b' = -1
    · rw [if_pos hp]
      rcases h6 b' hb' with c | ⟨t, c1, c2, c3, c4⟩
      · exact Or.inl c
      · refine Or.inr ⟨t, c1, (hl t).mpr (Or.inl c2), ?_, ?_⟩
        · rw [pk_un (hne t c2)]; exact c3
        · rw [pk_un (hne t c2)]; exact mk1 _ c4
    · rw [if_neg hp]
      obtain ⟨t, c1, c2, c3, c4, c5⟩ := (f2 b' hb').resolve_left hp
      refine Or.inr ⟨t, c1, (hl t).mpr (Or.inl c2), ?_, ?_⟩
      · rw [pk_un (hne t c2)]; exact c3
      · rw [pk_un (hne t c2), c4]; exact mkG
  · rcases (hl t).mp q1 with c | c
    · rw [pk_un (hne t c)] at q2
      rw [pk_un (hne t c)] at q3 ⊢
      rw [hT b' hb']
      by_cases hg : rg t = nI G
      · obtain ⟨-, b2, e1, e2, e3⟩ := f1 t c hg
        rw [q2] at e2
        have : b' = b2 := (nI_eq (by omega) (by omega)).mp e2
        subst this
        refine ⟨t, c.1, ?_, Or.inl rfl⟩
        rw [if_neg (by rw [e3]; exact zi_m1 (by have := c.1; omega))]
        exact e3
      · obtain ⟨t', d1, d2, d3⟩ := h7 b' t hb' c q2 (mk2 _ hg q3)
        by_cases hp : P b' = -1
        · rw [if_pos hp]
          refine ⟨t', d1, d2, ?_⟩
          have hl' : lve fi t' := by
            rcases h6 b' hb' with u | ⟨t2, u1, u2, -⟩
            · rw [d2] at u; exact absurd u (zi_m1 (by omega))
            · rw [d2] at u1
              have := (nI_eq (by omega) (by have := u2.1; omega)).mp u1
              rw [this]; exact u2
          rw [pk_un (hne t' hl')]
          exact d3
        · rw [if_neg hp]
          obtain ⟨t2, c1, c2, c3, c4, c5⟩ := (f2 b' hb').resolve_left hp
          refine ⟨t2, c2.1, c1, Or.inr ?_⟩
          rw [pk_un (hne t2 c2), c4]
          obtain ⟨-, g, g1, g2⟩ := h4 t c
          rw [g2]
          refine nI_lt ?_ hG
          rcases Nat.lt_or_ge g G with y | y
          · exact y
          · exact absurd (by rw [g2, show g = G by omega]) hg
    · rw [c, pk_us] at q2
      exact absurd q2.symm (zi_16 hb')
/-- a zone is given up: no record of the table lies there -/
theorem lve_em {fi : ZF} {z : Nat} (t : Nat) : lve (upd fi z 0) t ↔ (lve fi t ∧ ¬ t / 12 = z) := by
  unfold lve
  by_cases hz : t / 12 = z
  · rw [hz, pk_us]
    constructor
    · rintro ⟨-, c⟩
      exact absurd c (by rw [← nI_0]; exact nI_nlt (Nat.zero_le _) (by omega))
    · rintro ⟨-, c⟩
      exact absurd rfl c
  · rw [pk_un hz]
    exact ⟨fun c => ⟨c, hz⟩, fun c => c.1⟩
theorem D0.empty {rb rg fi op T : ZF} {gn : Int32} {G z : Nat} (h : D0 rb rg fi op T gn G) (hz : z < 6) (hT : ∀ b, b < 16 → T b = -1 ∨ ¬ T b / 12 = nI z) : D0 rb rg (upd fi z 0) (upd op z (-1)) T gn G := by
  obtain ⟨h1, h2, h3, h4, h5, h6, h7⟩ := h
  have hl := lve_em (fi := fi) (z := z)
  refine ⟨h1, fun y hy => ?_, fun y hy e => ?_, fun t q => h4 t ((hl t).mp q).1, fun t t' q q' e => h5 t t' ((hl t).mp q).1 ((hl t').mp q').1 e, fun b hb => ?_, fun b t hb q1 q2 q3 => ?_⟩
  · by_cases e : y = z
    · subst e
      exact ⟨0, by omega, pk_us⟩
    · rw [pk_un e]
      exact h2 y hy
  · by_cases x : y = z
    · subst x
      exact pk_us
    · rw [pk_un x] at e ⊢
      exact h3 y hy e
  · rcases h6 b hb with c | ⟨t, c1, c2, c3, t2, d1, d2, d3⟩
    · exact Or.inl c
    · have hne : ¬ t / 12 = z := by
        intro x
        rcases hT b hb with y | y
        · rw [c1] at y; exact zi_m1 (by have := c2.1; omega) y
        · refine y ?_
          rw [c1, zi_div (by have := c2.1; omega), x]
      refine Or.inr ⟨t, c1, (hl t).mpr ⟨c2, hne⟩, c3, t2, (hl t2).mpr ⟨d1, ?_⟩, d2, d3⟩
      rw [h5 t2 t d1 c2 d3]
      exact hne
  · obtain ⟨t2, d1, d2, d3⟩ := q3
    exact h7 b t hb ((hl t).mp q1).1 q2 ⟨t2, ((hl t2).mp d1).1, d2, d3⟩
theorem D0.opens {rb rg fi op T : ZF} {gn v : Int32} {G z : Nat} (h : D0 rb rg fi op T gn G) (hz : z < 6) (ho : op z = -1) : D0 rb rg (upd fi z 0) (upd op z v) T gn G := by
  have e : upd fi z 0 = fi := by
    funext j
    by_cases x : j = z
    · subst x
      rw [pk_us, h.2.2.1 j hz ho]
    · rw [pk_un x]
  rw [e]
  obtain ⟨h1, h2, h3, h4, h5, h6, h7⟩ := h
  refine ⟨h1, h2, fun y hy c => ?_, h4, h5, h6, h7⟩
  by_cases x : y = z
  · subst x
    exact h3 y hy ho
  · rw [pk_un x] at c
    exact h3 y hy c
/-- what the table says stays where a record more is written -/
theorem vz_add {fi rv T : ZF} {a k b : Nat} {v : Int32} (hk : k < 12) (hf : fi a = nI k) (h : T b = -1 ∨ ∃ t, T b = nI t ∧ lve fi t) : vz (upd rv (12 * a + k) v) (T b) = vz rv (T b) := by
  rcases h with c | ⟨t, c, hl⟩
  · rw [vz_m1 c, vz_m1 c]
  · rw [vz_at c hl.1, vz_at c hl.1, pk_un]
    intro e
    exact lve_new hk hf (e ▸ hl)
theorem D0.tl {rb rg fi op T : ZF} {gn : Int32} {G : Nat} (h : D0 rb rg fi op T gn G) : ∀ b, b < 16 → T b = -1 ∨ ∃ t, T b = nI t ∧ lve fi t := by
  intro b hb
  rcases h.2.2.2.2.2.1 b hb with c | ⟨t, c1, c2, -⟩
  · exact Or.inl c
  · exact Or.inr ⟨t, c1, c2⟩
/-- six zones share at most n records -/
theorem liv_sum (tb : ZF) : ∀ n, cb (lg_z tb (nI 0)) n + cb (lg_z tb (nI 1)) n + cb (lg_z tb (nI 2)) n + cb (lg_z tb (nI 3)) n + cb (lg_z tb (nI 4)) n + cb (lg_z tb (nI 5)) n ≤ n
  | 0 => Nat.le_refl 0
  | n + 1 => by
    have ih := liv_sum tb n
    have one : ∀ i j, i < 6 → j < 6 → i ≠ j → lg_z tb (nI i) n = true → lg_z tb (nI j) n = false := by
      intro i j hi hj hij h
      have h1 := of_decide_eq_true h
      refine decide_eq_false fun h2 => hij ?_
      exact (nI_eq (by omega) (by omega)).mp (h1.2.symm.trans h2.2)
    have s : ∀ i, cb (lg_z tb (nI i)) (n + 1) = cb (lg_z tb (nI i)) n + (if lg_z tb (nI i) n = true then 1 else 0) := fun _ => rfl
    rw [s 0, s 1, s 2, s 3, s 4, s 5]
    cases e0 : lg_z tb (nI 0) n with
    | true =>
      rw [one 0 1 (by omega) (by omega) (by omega) e0, one 0 2 (by omega) (by omega) (by omega) e0, one 0 3 (by omega) (by omega) (by omega) e0, one 0 4 (by omega) (by omega) (by omega) e0, one 0 5 (by omega) (by omega) (by omega) e0]
      simp only [if_true, Bool.false_eq_true, if_false]
      omega
    | false =>
      cases e1 : lg_z tb (nI 1) n with
      | true =>
        rw [one 1 2 (by omega) (by omega) (by omega) e1, one 1 3 (by omega) (by omega) (by omega) e1, one 1 4 (by omega) (by omega) (by omega) e1, one 1 5 (by omega) (by omega) (by omega) e1]
        simp only [if_true, Bool.false_eq_true, if_false]
        omega
      | false =>
        cases e2 : lg_z tb (nI 2) n with
        | true =>
          rw [one 2 3 (by omega) (by omega) (by omega) e2, one 2 4 (by omega) (by omega) (by omega) e2, one 2 5 (by omega) (by omega) (by omega) e2]
          simp only [if_true, Bool.false_eq_true, if_false]
          omega
        | false =>
          cases e3 : lg_z tb (nI 3) n with
          | true =>
            rw [one 3 4 (by omega) (by omega) (by omega) e3, one 3 5 (by omega) (by omega) (by omega) e3]
            simp only [if_true, Bool.false_eq_true, if_false]
            omega
          | false =>
            cases e4 : lg_z tb (nI 4) n with
            | true =>
              rw [one 4 5 (by omega) (by omega) (by omega) e4]
              simp only [if_true, Bool.false_eq_true, if_false]
              omega
            | false =>
              simp only [if_true, Bool.false_eq_true, if_false]
              split <;> omega
/-- the poorest of five zones holds at most three of sixteen -/
theorem liv_3 {tb : ZF} {a k : Nat} (hk : k < 6) (ha : a < 6) (hka : k ≠ a) (h : ∀ z, z < 6 → z ≠ a → liv tb (nI k) ≤ liv tb (nI z)) : liv tb (nI k) ≤ 3 := by
  have hs := liv_sum tb 16
  have h' : ∀ z, z < 6 → z ≠ a → cb (lg_z tb (nI k)) 16 ≤ cb (lg_z tb (nI z)) 16 := h
  show cb (lg_z tb (nI k)) 16 ≤ 3
  rcases (show a = 0 ∨ a = 1 ∨ a = 2 ∨ a = 3 ∨ a = 4 ∨ a = 5 by omega) with rfl | rfl | rfl | rfl | rfl | rfl
  · have := h' 1 (by omega) (by omega); have := h' 2 (by omega) (by omega); have := h' 3 (by omega) (by omega); have := h' 4 (by omega) (by omega); have := h' 5 (by omega) (by omega); omega
  · have := h' 0 (by omega) (by omega); have := h' 2 (by omega) (by omega); have := h' 3 (by omega) (by omega); have := h' 4 (by omega) (by omega); have := h' 5 (by omega) (by omega); omega
  · have := h' 0 (by omega) (by omega); have := h' 1 (by omega) (by omega); have := h' 3 (by omega) (by omega); have := h' 4 (by omega) (by omega); have := h' 5 (by omega) (by omega); omega
  · have := h' 0 (by omega) (by omega); have := h' 1 (by omega) (by omega); have := h' 2 (by omega) (by omega); have := h' 4 (by omega) (by omega); have := h' 5 (by omega) (by omega); omega
  · have := h' 0 (by omega) (by omega); have := h' 1 (by omega) (by omega); have := h' 2 (by omega) (by omega); have := h' 3 (by omega) (by omega); have := h' 5 (by omega) (by omega); omega
  · have := h' 0 (by omega) (by omega); have := h' 1 (by omega) (by omega); have := h' 2 (by omega) (by omega); have := h' 3 (by omega) (by omega); have := h' 4 (by omega) (by omega); omega
end
section
/-! more of the plain law: what the leaves answer -/
theorem zi_nlt {x y : Int32} (h : y ≤ x) : ¬ x < y := by
  rw [Int32.lt_iff_toInt_lt]
  have := Int32.le_iff_toInt_le.mp h
  omega
theorem zi_lt {x y : Int32} (h : ¬ y ≤ x) : x < y := by
  rw [Int32.lt_iff_toInt_lt]
  rw [Int32.le_iff_toInt_le] at h
  omega
def obk (x : Int32) : Bool := !(decide (x < 0)) && !(decide (16 ≤ x))
theorem obk_iff {x : Int32} : obk x = true ↔ ∃ k, k < 16 ∧ x = nI k := by
  constructor
  · intro h
    unfold obk at h
    simp only [Bool.and_eq_true, Bool.not_eq_true', decide_eq_false_iff_not] at h
    rcases pk_ix x (n := 16) (by decide) with q | q | q
    · exact absurd q h.1
    · exact absurd q h.2
    · exact q
  · rintro ⟨k, hk, rfl⟩
    unfold obk
    simp only [Bool.and_eq_true, Bool.not_eq_true', decide_eq_false_iff_not]
    exact ⟨nI_pos (by omega), nI_ge hk (by decide)⟩
theorem obk_of {x : Int32} (h1 : ¬ x < 0) (h2 : ¬ (16 : Int32) ≤ x) : obk x = true := by
  unfold obk
  rw [decide_eq_false h1, decide_eq_false h2]
  rfl
theorem obk_n1 {x : Int32} (h1 : x < 0) : obk x = false := by
  unfold obk
  rw [decide_eq_true h1]
  rfl
theorem obk_n2 {x : Int32} (h2 : (16 : Int32) ≤ x) : obk x = false := by
  unfold obk
  rw [decide_eq_true h2]
  exact Bool.and_false _
theorem zi_15 {x : Int32} : x ≤ 15 ↔ ¬ (16 : Int32) ≤ x := by
  rw [Int32.le_iff_toInt_le, Int32.le_iff_toInt_le, show (15 : Int32).toInt = 15 from rfl, show (16 : Int32).toInt = 16 from rfl]
  omega
theorem cu_f {σ : ZS} {k : Nat} (h : z_di σ k = 0) : cu σ k = vz (z_rv σ) (z_tb σ k) := by unfold cu; rw [if_pos h]
theorem cu_t {σ : ZS} {k : Nat} (h : ¬ z_di σ k = 0) : cu σ k = z_ca σ k := by unfold cu; rw [if_neg h]
def flX (σ : ZS) : ZS := s_ru (s_gr (s_ac (s_tb (s_di σ (ctn 16 (fun _ => 0) (z_di σ))) (ctn 16 (fun _ => -1) (z_tb σ))) (-1)) 0) 0
def apX (σ : ZS) (z k : Nat) (bl v : Int32) : ZS := s_fi (s_rg (s_rv (s_rb σ (upd (z_rb σ) (12 * z + k) bl)) (upd (z_rv σ) (12 * z + k) v)) (upd (z_rg σ) (12 * z + k) (z_gn σ))) (upd (z_fi σ) z (nI (k + 1)))
def emX (σ : ZS) (k : Nat) : ZS := s_op (s_fi σ (upd (z_fi σ) k 0)) (upd (z_op σ) k (-1))
def opX (σ : ZS) (z : Nat) : ZS := s_ac (s_fi (s_op (s_on σ (z_on σ + 1)) (upd (z_op σ) z (z_on σ + 1))) (upd (z_fi σ) z 0)) (nI z)
/-- a closed zone -/
def cand (σ : ZS) (z : Nat) : Prop := ¬ nI z = z_ac σ ∧ ¬ z_op σ z = -1
/-- the poorest of the first i -/
def PB (σ : ZS) (i : Nat) (best : Int32) : Prop := (best = -1 ∧ ∀ z, z < i → ¬ cand σ z) ∨ ∃ k, k < i ∧ best = nI k ∧ cand σ k ∧ ∀ z, z < i → cand σ z → liv (z_tb σ) (nI k) ≤ liv (z_tb σ) (nI z)
theorem PB_0 (σ : ZS) : PB σ 0 (-1) := Or.inl ⟨rfl, fun _ h => absurd h (Nat.not_lt_zero _)⟩
theorem PB_skip {σ : ZS} {i : Nat} {best : Int32} (h : PB σ i best) (hc : ¬ cand σ i) : PB σ (i + 1) best := by
  rcases h with ⟨e, h⟩ | ⟨k, h1, h2, h3, h4⟩
  · exact Or.inl ⟨e, lt_s h hc⟩
  · exact Or.inr ⟨k, by omega, h2, h3, lt_s h4 (fun q => absurd q hc)⟩
theorem PB_first {σ : ZS} {i : Nat} {best : Int32} (hi : i < 6) (h : PB σ i best) (h0 : best = -1) (hc : cand σ i) : PB σ (i + 1) (nI i) := by
  rcases h with ⟨e, h⟩ | ⟨k, h1, h2, h3, h4⟩
  · exact Or.inr ⟨i, by omega, rfl, hc, lt_s (fun z hz q => absurd q (h z hz)) (fun _ => Nat.le_refl _)⟩
  · rw [h0] at h2
    exact absurd h2.symm (zi_m1 (by omega))
theorem liv_le (tb : ZF) (z : Int32) : liv tb z ≤ 16 := cb_le _ 16
theorem PB_keep {σ : ZS} {i : Nat} {best : Int32} (h : PB σ i best) (h0 : ¬ best = -1) (c : nI (liv (z_tb σ) best) ≤ nI (liv (z_tb σ) (nI i))) : PB σ (i + 1) best := by
  rcases h with ⟨e, h⟩ | ⟨k, h1, h2, h3, h4⟩
  · exact absurd e h0
  · subst h2
    refine Or.inr ⟨k, by omega, rfl, h3, lt_s h4 (fun _ => ?_)⟩
    have u1 := liv_le (z_tb σ) (nI k)
    have u2 := liv_le (z_tb σ) (nI i)
    exact (nI_leI (by omega) (by omega)).mp c
theorem PB_take {σ : ZS} {i : Nat} {best : Int32} (h : PB σ i best) (h0 : ¬ best = -1) (hc : cand σ i) (c : ¬ nI (liv (z_tb σ) best) ≤ nI (liv (z_tb σ) (nI i))) : PB σ (i + 1) (nI i) := by
  rcases h with ⟨e, h⟩ | ⟨k, h1, h2, h3, h4⟩
  · exact absurd e h0
  · subst h2
    have u1 := liv_le (z_tb σ) (nI k)
    have u2 := liv_le (z_tb σ) (nI i)
    rw [nI_leI (by omega) (by omega)] at c
    exact Or.inr ⟨i, by omega, rfl, hc, lt_s (fun z hz q => by have := h4 z hz q; omega) (fun _ => Nat.le_refl _)⟩
/-- a static method's body, from its entry -/
theorem es_i {l : Launch} {y : MethodName} {cc : ByteArray} {maxL : Nat} {ret : Option FieldType} {rm : Room} {As : List Value} {post : Int32 → Prop} (hy : plainName y.cls = true) (hlen : (lg_sl As).length ≤ maxL)
    (body : ∀ (p : Program) (e : Env) (s : State) (m : MethodId) (args : Array Value) (below : List Frame) (meth : Method) (c : Code) (ls : Array Slot), p.tables.exec = Jvm.exec → c.code = cc → meth.sig.returnType = ret → meth.locks = false → lv_has ls maxL (lv_args 0 As) → W p l e rm s m args below meth c s.heap [] 0 0 (MQ below (va_Qi (fun (r : Int32) (_ : Unit) => post r) (fun _ _ => True) (fun _ => False)) args s 0 0 (fun _ => False)) (F0 m 0 ls [])) : Met l y (ws_ y cc maxL ret) rm (va_Pc As (fun _ => True)) (va_Qi (fun (r : Int32) (_ : Unit) => post r) (fun _ _ => True) (fun _ => False)) 0 0 (fun _ => False) := by
  refine Met.ofW (cc := cc) (maxL := maxL) (ret := ret) hy rfl ?_
  intro p e s m args below meth c s₁ B hml hv
  obtain ⟨rfl, -⟩ := hv
  have hlocks := B.notSynchronized
  have hl := lv_entry As (n := maxL) hlen
  rw [lg_entry_eq]
  exact body p e s m _ below meth c _ B.exec B.bytes B.returns hlocks hl
theorem rs_z {p : Program} {l : Launch} {e : Env} {R : Room} {s : State} {m : MethodId} {args : Array Value} {below : List Frame} {meth : Method} {c : Code} {cells slots pc : Nat} {ls : Array Slot} {cc : ByteArray} {v : Int32} {post : Int32 → Prop} (hx : p.tables.exec = Jvm.exec) (hb : c.code = cc) (hr : meth.sig.returnType = some .boolean) (hlocks : meth.locks = false) (hn : narrow .boolean (.int v) = .int v) (hpost : post v) (hdg : decode cc pc = .ok (.ireturn, 1)) : W p l e R s m args below meth c s.heap [] cells slots (MQ below (va_Qi (fun (r : Int32) (_ : Unit) => post r) (fun _ _ => True) (fun _ => False)) args s cells slots (fun _ => False)) (F0 m pc ls [.int v]) :=
  W.zret (v := v) hx hb hr hn (fun t ht hW => ⟨⟨v, (), rfl, hpost, trivial⟩, va_S.rf.F ht⟩) (fun _ h => by cases h) hdg
set_option maxHeartbeats 4000000 in
set_option maxRecDepth 100000 in
/-- isBlock(x): 1 in range, else 0 -/
theorem tX_isBlock (l : Launch) (x0 : Int32) : Met l yX0_isBlock (ws_ yX0_isBlock cX0_isBlock 1 (some .boolean)) ({ frames := 0, cells := 0, slots := 0, locals := 0 }) (va_Pc [.int x0] (fun _ => True)) (va_Qi (fun (r : Int32) (_ : Unit) => r = if obk x0 = true then 1 else 0) (fun _ _ => True) (fun _ => False)) 0 0 (fun _ => False) := by
  refine es_i (post := fun r => r = if obk x0 = true then 1 else 0) (by decide) (Nat.le_of_ble_eq_true rfl) ?_
  intro p e s m args below meth c ls hx hb hr hlk hl
  have hl : lv_has ls 1 [(0, .int x0)] := hl
  refine lv_iload_n hx hb dX0_isBlock_0 rfl (lv_at hl 0 rfl) ?_
  refine lv_if_lt (tgt := 14) hx hb dX0_isBlock_1 (by decide) (fun c_1 => ?_) (fun c_1 => ?_)
  · refine lv_iconst (v := 0) hx hb dX0_isBlock_14 (by decide) ?_
    exact rs_z hx hb hr hlk rfl (by rw [obk_n1 c_1]; rfl) dX0_isBlock_15
  · refine lv_iload_n hx hb dX0_isBlock_4 rfl (lv_at hl 0 rfl) ?_
    refine lv_bipush (v := 16) hx hb dX0_isBlock_5 (by decide) ?_
    refine lv_icmp_ge (tgt := 14) hx hb dX0_isBlock_7 (by decide) (fun c_7 => ?_) (fun c_7 => ?_)
    · refine lv_iconst (v := 0) hx hb dX0_isBlock_14 (by decide) ?_
      exact rs_z hx hb hr hlk rfl (by rw [obk_n2 c_7]; rfl) dX0_isBlock_15
    · refine lv_iconst (v := 1) hx hb dX0_isBlock_10 (by decide) ?_
      refine lv_goto (tgt := 15) hx hb dX0_isBlock_11 (by decide) ?_
      exact rs_z hx hb hr hlk rfl (by rw [obk_of c_1 c_7]; rfl) dX0_isBlock_15
end
section
/-! the store: its leaves -/
set_option maxHeartbeats 4000000 in
set_option maxRecDepth 100000 in
/-- stored(k): what the table says -/
theorem tX_stored (l : Launch) (dC : Nat → ClassId) (dI : Nat → Nat → Nat) (cI cZ : ClassId) (a : Nat → Nat) (sz : Nat) (σ : ZS) (k : Nat) (hk : k < 16) (hT : okT (z_tb σ k)) : xMi l yX0_stored cX0_stored 2 (some .int) ({ frames := 0, cells := 0, slots := 0, locals := 0 }) dC dI cI cZ a σ sz [.int (nI k)] (fun r u => u = σ ∧ r = vz (z_rv σ) (z_tb σ k)) := by
  refine ex_i (by decide) rfl (Nat.le_of_ble_eq_true rfl) ?_
  intro p e s m args below meth c A ls C hr hlk hA w hl
  have hx := C.1.1
  have hb := C.1.2.1
  have hl : lv_has ls 2 [(0, .ref (a 0)), (1, .int (nI k))] := hl
  refine lv_aload_n hx hb dX0_stored_0 rfl (lv_at hl 0 rfl) ?_
  refine gx_tb C w dX0_stored_1 ?_
  refine lv_iload_n hx hb dX0_stored_4 rfl (lv_at hl 1 rfl) ?_
  refine lx_tb C w (k := k) rfl (by omega) dX0_stored_5 ?_
  refine lv_iconst (v := -1) hx hb dX0_stored_6 (by decide) ?_
  refine lv_icmp_ne (tgt := 14) hx hb dX0_stored_7 (by decide) (fun c_7 => ?_) (fun c_7 => ?_)
  · obtain ⟨t, ht, et⟩ := hT.resolve_left c_7
    refine lv_aload_n hx hb dX0_stored_14 rfl (lv_at hl 0 rfl) ?_
    refine gx_rv C w dX0_stored_15 ?_
    refine lv_aload_n hx hb dX0_stored_18 rfl (lv_at hl 0 rfl) ?_
    refine gx_tb C w dX0_stored_19 ?_
    refine lv_iload_n hx hb dX0_stored_22 rfl (lv_at hl 1 rfl) ?_
    refine lx_tb C w (k := k) rfl (by omega) dX0_stored_23 ?_
    refine lx_rv C w (k := t) et ht dX0_stored_24 ?_
    exact rx_i C w hr hlk (⟨rfl, by first | exact (vz_m1 c_7).symm | exact (vz_at et ht).symm⟩) dX0_stored_25
  · refine lv_iconst (v := 0) hx hb dX0_stored_10 (by decide) ?_
    refine lv_goto (tgt := 25) hx hb dX0_stored_11 (by decide) ?_
    exact rx_i C w hr hlk (⟨rfl, by first | exact (vz_m1 c_7).symm | exact (vz_at et ht).symm⟩) dX0_stored_25

set_option maxHeartbeats 4000000 in
set_option maxRecDepth 100000 in
/-- current(k) -/
theorem tX_current (l : Launch) (dC : Nat → ClassId) (dI : Nat → Nat → Nat) (cI cZ : ClassId) (a : Nat → Nat) (sz : Nat) (σ : ZS) (k : Nat) (hk : k < 16) (hT : okT (z_tb σ k)) : xMi l yX0_current cX0_current 2 (some .int) ({ frames := 1, cells := 0, slots := 0, locals := 21 }) dC dI cI cZ a σ sz [.int (nI k)] (fun r u => u = σ ∧ r = cu σ k) := by
  refine ex_i (by decide) rfl (Nat.le_of_ble_eq_true rfl) ?_
  intro p e s m args below meth c A ls C hr hlk hA w hl
  have hx := C.1.1
  have hb := C.1.2.1
  have hl : lv_has ls 2 [(0, .ref (a 0)), (1, .int (nI k))] := hl
  refine lv_aload_n hx hb dX0_current_0 rfl (lv_at hl 0 rfl) ?_
  refine gx_di C w dX0_current_1 ?_
  refine lv_iload_n hx hb dX0_current_4 rfl (lv_at hl 1 rfl) ?_
  refine lx_di C w (k := k) rfl (by omega) dX0_current_5 ?_
  refine lv_if_eq (tgt := 18) hx hb dX0_current_6 (by decide) (fun c_6 => ?_) (fun c_6 => ?_)
  · refine lv_aload_n hx hb dX0_current_18 rfl (lv_at hl 0 rfl) ?_
    refine lv_iload_n hx hb dX0_current_19 rfl (lv_at hl 1 rfl) ?_
    refine cx_r (As := [.int (nI k)]) (rest := []) C w hA (tX_stored l dC dI cI cZ a _ σ k hk hT) (cwx_stored C ⟨Nat.le_of_ble_eq_true rfl, Nat.le_of_ble_eq_true rfl⟩) rfl hl.1 rfl (Nat.le_of_ble_eq_true rfl) dX0_current_20 ⟨Nat.zero_le _, Nat.zero_le _⟩ (fun r_20 H locs q_20 w => ?_)
    subst q_20
    exact rx_i C w hr hlk (⟨rfl, by first | exact (cu_f c_6).symm | exact (cu_t c_6).symm⟩) dX0_current_23
  · refine lv_aload_n hx hb dX0_current_9 rfl (lv_at hl 0 rfl) ?_
    refine gx_ca C w dX0_current_10 ?_
    refine lv_iload_n hx hb dX0_current_13 rfl (lv_at hl 1 rfl) ?_
    refine lx_ca C w (k := k) rfl (by omega) dX0_current_14 ?_
    refine lv_goto (tgt := 23) hx hb dX0_current_15 (by decide) ?_
    exact rx_i C w hr hlk (⟨rfl, by first | exact (cu_f c_6).symm | exact (cu_t c_6).symm⟩) dX0_current_23

set_option maxHeartbeats 4000000 in
set_option maxRecDepth 100000 in
/-- dirtyCount() -/
theorem tX_dirtyCount (l : Launch) (dC : Nat → ClassId) (dI : Nat → Nat → Nat) (cI cZ : ClassId) (a : Nat → Nat) (sz : Nat) (σ : ZS) : xMi l yX0_dirtyCount cX0_dirtyCount 3 (some .int) ({ frames := 0, cells := 0, slots := 0, locals := 0 }) dC dI cI cZ a σ sz [] (fun r u => u = σ ∧ r = nI (cb (dg (z_di σ)) 16)) := by
  refine ex_i (by decide) rfl (Nat.le_of_ble_eq_true rfl) ?_
  intro p e s m args below meth c A ls C hr hlk hA w hl
  have hx := C.1.1
  have hb := C.1.2.1
  have hl : lv_has ls 3 [(0, .ref (a 0))] := hl
  refine lv_iconst (v := 0) hx hb dX0_dirtyCount_0 (by decide) ?_
  refine lv_istore_n (lv' := [(1, .int 0), (0, .ref (a 0))]) hx hb dX0_dirtyCount_1 rfl hl (by decide) rfl (fun ls hl => ?_)
  refine lv_iconst (v := 0) hx hb dX0_dirtyCount_2 (by decide) ?_
  refine lv_istore_n (lv' := [(2, .int 0), (1, .int 0), (0, .ref (a 0))]) hx hb dX0_dirtyCount_3 rfl hl (by decide) rfl (fun ls hl => ?_)
  refine zx_loop1 (fun (i : Nat) H locs ls => xW dC dI cI cZ a A s.heap H locs σ ∧ lv_has ls 3 [(0, .ref (a 0)), (1, .int (nI (cb (dg (z_di σ)) i))), (2, .int (nI i))] ∧ (i ≤ 16)) (fun i => 16 - i) ?_ 0 _ _ _ ⟨w, lv_sub hl [2, 1, 0] rfl, Nat.zero_le _⟩
  clear hl w
  rintro i H locs ls ⟨w, hl, hi⟩ ih_4
  refine lv_iload_n hx hb dX0_dirtyCount_4 rfl (lv_at hl 2 rfl) ?_
  refine lv_bipush (v := 16) hx hb dX0_dirtyCount_5 (by decide) ?_
  refine lv_icmp_ge (tgt := 33) hx hb dX0_dirtyCount_7 (by decide) (fun c_7 => ?_) (fun c_7 => ?_)
  · have hi6 : i = 16 := zi_ex (N := 16) (by decide) hi c_7
    refine lv_iload_n hx hb dX0_dirtyCount_33 rfl (lv_at hl 1 rfl) ?_
    exact rx_i C w hr hlk (⟨rfl, by subst hi6; rfl⟩) dX0_dirtyCount_34
  · have hlt : i < 16 := zi_in (N := 16) (by decide) hi c_7
    refine lv_iload_n hx hb dX0_dirtyCount_10 rfl (lv_at hl 1 rfl) ?_
    refine lv_aload_n hx hb dX0_dirtyCount_11 rfl (lv_at hl 0 rfl) ?_
    refine gx_di C w dX0_dirtyCount_12 ?_
    refine lv_iload_n hx hb dX0_dirtyCount_15 rfl (lv_at hl 2 rfl) ?_
    refine lx_di C w (k := i) rfl (by omega) dX0_dirtyCount_16 ?_
    refine lv_if_eq (tgt := 24) hx hb dX0_dirtyCount_17 (by decide) (fun c_17 => ?_) (fun c_17 => ?_)
    · refine lv_iconst (v := 0) hx hb dX0_dirtyCount_24 (by decide) ?_
      refine lv_iadd hx hb dX0_dirtyCount_25 ?_
      refine zt_i (y := nI (cb (dg (z_di σ)) (i + 1))) (by first | exact cb_it (decide_eq_true c_17) | exact cb_if (decide_eq_false (fun q => q c_17))) ?_
      refine lv_istore_n (lv' := [(1, .int (nI (cb (dg (z_di σ)) (i + 1)))), (0, .ref (a 0)), (2, .int (nI i))]) hx hb dX0_dirtyCount_26 rfl hl (by decide) rfl (fun ls hl => ?_)
      refine lv_iinc (v := nI (i + 1)) (lv' := [(2, .int (nI (i + 1))), (1, .int (nI (cb (dg (z_di σ)) (i + 1)))), (0, .ref (a 0))]) hx hb dX0_dirtyCount_27 hl (k := 2) rfl (nI_1 _) (by decide) rfl (fun ls hl => ?_)
      refine lv_goto (tgt := 4) hx hb dX0_dirtyCount_30 (by decide) ?_
      exact ih_4 (i + 1) _ _ _ (by omega) ⟨w, lv_sub hl [2, 1, 0] rfl, by omega⟩
    · refine lv_iconst (v := 1) hx hb dX0_dirtyCount_20 (by decide) ?_
      refine lv_goto (tgt := 25) hx hb dX0_dirtyCount_21 (by decide) ?_
      refine lv_iadd hx hb dX0_dirtyCount_25 ?_
      refine zt_i (y := nI (cb (dg (z_di σ)) (i + 1))) (by first | exact cb_it (decide_eq_true c_17) | exact cb_if (decide_eq_false (fun q => q c_17))) ?_
      refine lv_istore_n (lv' := [(1, .int (nI (cb (dg (z_di σ)) (i + 1)))), (0, .ref (a 0)), (2, .int (nI i))]) hx hb dX0_dirtyCount_26 rfl hl (by decide) rfl (fun ls hl => ?_)
      refine lv_iinc (v := nI (i + 1)) (lv' := [(2, .int (nI (i + 1))), (1, .int (nI (cb (dg (z_di σ)) (i + 1)))), (0, .ref (a 0))]) hx hb dX0_dirtyCount_27 hl (k := 2) rfl (nI_1 _) (by decide) rfl (fun ls hl => ?_)
      refine lv_goto (tgt := 4) hx hb dX0_dirtyCount_30 (by decide) ?_
      exact ih_4 (i + 1) _ _ _ (by omega) ⟨w, lv_sub hl [2, 1, 0] rfl, by omega⟩

set_option maxHeartbeats 4000000 in
set_option maxRecDepth 100000 in
/-- dropCache() -/
theorem tX_dropCache (l : Launch) (dC : Nat → ClassId) (dI : Nat → Nat → Nat) (cI cZ : ClassId) (a : Nat → Nat) (sz : Nat) (σ : ZS) : xMv l yX0_dropCache cX0_dropCache 2 none ({ frames := 0, cells := 0, slots := 0, locals := 0 }) dC dI cI cZ a σ sz [] (fun u => u = s_di σ (ctn 16 (fun _ => 0) (z_di σ))) := by
  refine ex_v (by decide) rfl (Nat.le_of_ble_eq_true rfl) ?_
  intro p e s m args below meth c A ls C hr hlk hA w hl
  have hx := C.1.1
  have hb := C.1.2.1
  have hl : lv_has ls 2 [(0, .ref (a 0))] := hl
  refine lv_iconst (v := 0) hx hb dX0_dropCache_0 (by decide) ?_
  refine lv_istore_n (lv' := [(1, .int 0), (0, .ref (a 0))]) hx hb dX0_dropCache_1 rfl hl (by decide) rfl (fun ls hl => ?_)
  refine zx_loop1 (fun (i : Nat) H locs ls => xW dC dI cI cZ a A s.heap H locs (s_di σ (ctn i (fun _ => 0) (z_di σ))) ∧ lv_has ls 2 [(0, .ref (a 0)), (1, .int (nI i))] ∧ (i ≤ 16)) (fun i => 16 - i) ?_ 0 _ _ _ ⟨by rw [ctn_0]; exact w, lv_sub hl [1, 0] rfl, Nat.zero_le _⟩
  clear hl w
  rintro i H locs ls ⟨w, hl, hi⟩ ih_2
  refine lv_iload_n hx hb dX0_dropCache_2 rfl (lv_at hl 1 rfl) ?_
  refine lv_bipush (v := 16) hx hb dX0_dropCache_3 (by decide) ?_
  refine lv_icmp_ge (tgt := 21) hx hb dX0_dropCache_5 (by decide) (fun c_5 => ?_) (fun c_5 => ?_)
  · have hi6 : i = 16 := zi_ex (N := 16) (by decide) hi c_5
    exact rx_v C w hr hlk (by subst hi6; rfl) dX0_dropCache_21
  · have hlt : i < 16 := zi_in (N := 16) (by decide) hi c_5
    refine lv_aload_n hx hb dX0_dropCache_8 rfl (lv_at hl 0 rfl) ?_
    refine gx_di C w dX0_dropCache_9 ?_
    refine lv_iload_n hx hb dX0_dropCache_12 rfl (lv_at hl 1 rfl) ?_
    refine lv_iconst (v := 0) hx hb dX0_dropCache_13 (by decide) ?_
    refine wx_di C w (k := i) rfl (by omega) rfl dX0_dropCache_14 (fun H locs w => ?_)
    refine lv_iinc (v := nI (i + 1)) (lv' := [(1, .int (nI (i + 1))), (0, .ref (a 0))]) hx hb dX0_dropCache_15 hl (k := 1) rfl (nI_1 _) (by decide) rfl (fun ls hl => ?_)
    refine lv_goto (tgt := 2) hx hb dX0_dropCache_18 (by decide) ?_
    exact ih_2 (i + 1) _ _ _ (by omega) ⟨by rw [← ctn_s (n := i) (f := fun _ => 0) (g := z_di σ) rfl]; exact w, lv_sub hl [1, 0] rfl, by omega⟩

set_option maxHeartbeats 4000000 in
set_option maxRecDepth 100000 in
/-- fall() -/
theorem tX_fall (l : Launch) (dC : Nat → ClassId) (dI : Nat → Nat → Nat) (cI cZ : ClassId) (a : Nat → Nat) (sz : Nat) (σ : ZS) : xMv l yX0_fall cX0_fall 2 none ({ frames := 1, cells := 0, slots := 0, locals := 21 }) dC dI cI cZ a σ sz [] (fun u => u = flX σ) := by
  refine ex_v (by decide) rfl (Nat.le_of_ble_eq_true rfl) ?_
  intro p e s m args below meth c A ls C hr hlk hA w hl
  have hx := C.1.1
  have hb := C.1.2.1
  have hl : lv_has ls 2 [(0, .ref (a 0))] := hl
  refine lv_aload_n hx hb dX0_fall_0 rfl (lv_at hl 0 rfl) ?_
  refine cx_v (As := []) (rest := []) C w hA (tX_dropCache l dC dI cI cZ a _ σ) (cwx_dropCache C ⟨Nat.le_of_ble_eq_true rfl, Nat.le_of_ble_eq_true rfl⟩) rfl hl.1 rfl (Nat.le_of_ble_eq_true rfl) dX0_fall_1 ⟨Nat.zero_le _, Nat.zero_le _⟩ (fun u_1 H locs q_1 w => ?_)
  subst q_1
  refine lv_iconst (v := 0) hx hb dX0_fall_4 (by decide) ?_
  refine lv_istore_n (lv' := [(1, .int 0), (0, .ref (a 0))]) hx hb dX0_fall_5 rfl hl (by decide) rfl (fun ls hl => ?_)
  refine zx_loop1 (fun (i : Nat) H locs ls => xW dC dI cI cZ a A s.heap H locs (s_tb (s_di σ (ctn 16 (fun _ => 0) (z_di σ))) (ctn i (fun _ => -1) (z_tb σ))) ∧ lv_has ls 2 [(0, .ref (a 0)), (1, .int (nI i))] ∧ (i ≤ 16)) (fun i => 16 - i) ?_ 0 _ _ _ ⟨by rw [ctn_0]; exact w, lv_sub hl [1, 0] rfl, Nat.zero_le _⟩
  clear hl w
  rintro i H locs ls ⟨w, hl, hi⟩ ih_6
  refine lv_iload_n hx hb dX0_fall_6 rfl (lv_at hl 1 rfl) ?_
  refine lv_bipush (v := 16) hx hb dX0_fall_7 (by decide) ?_
  refine lv_icmp_ge (tgt := 25) hx hb dX0_fall_9 (by decide) (fun c_9 => ?_) (fun c_9 => ?_)
  · have hi6 : i = 16 := zi_ex (N := 16) (by decide) hi c_9
    refine lv_aload_n hx hb dX0_fall_25 rfl (lv_at hl 0 rfl) ?_
    refine lv_iconst (v := -1) hx hb dX0_fall_26 (by decide) ?_
    refine px_ac C w dX0_fall_27 (fun H locs w => ?_)
    refine lv_aload_n hx hb dX0_fall_30 rfl (lv_at hl 0 rfl) ?_
    refine lv_iconst (v := 0) hx hb dX0_fall_31 (by decide) ?_
    refine px_gr C w rfl rfl dX0_fall_32 (fun H locs w => ?_)
    refine lv_aload_n hx hb dX0_fall_35 rfl (lv_at hl 0 rfl) ?_
    refine lv_iconst (v := 0) hx hb dX0_fall_36 (by decide) ?_
    refine px_ru C w rfl rfl dX0_fall_37 (fun H locs w => ?_)
    exact rx_v C w hr hlk (by subst hi6; rfl) dX0_fall_40
  · have hlt : i < 16 := zi_in (N := 16) (by decide) hi c_9
    refine lv_aload_n hx hb dX0_fall_12 rfl (lv_at hl 0 rfl) ?_
    refine gx_tb C w dX0_fall_13 ?_
    refine lv_iload_n hx hb dX0_fall_16 rfl (lv_at hl 1 rfl) ?_
    refine lv_iconst (v := -1) hx hb dX0_fall_17 (by decide) ?_
    refine wx_tb C w (k := i) rfl (by omega) dX0_fall_18 (fun H locs w => ?_)
    refine lv_iinc (v := nI (i + 1)) (lv' := [(1, .int (nI (i + 1))), (0, .ref (a 0))]) hx hb dX0_fall_19 hl (k := 1) rfl (nI_1 _) (by decide) rfl (fun ls hl => ?_)
    refine lv_goto (tgt := 6) hx hb dX0_fall_22 (by decide) ?_
    exact ih_6 (i + 1) _ _ _ (by omega) ⟨by rw [← ctn_s (n := i) (f := fun _ => -1) (g := z_tb σ) rfl]; exact w, lv_sub hl [1, 0] rfl, by omega⟩

set_option maxHeartbeats 4000000 in
set_option maxRecDepth 100000 in
/-- append(block, value) -/
theorem tX_append (l : Launch) (dC : Nat → ClassId) (dI : Nat → Nat → Nat) (cI cZ : ClassId) (a : Nat → Nat) (sz : Nat) (σ : ZS) (z k : Nat) (bl v : Int32) (hz : z < 6) (hac : z_ac σ = nI z) (hk : k < 12) (hfi : z_fi σ z = nI k) : xMi l yX0_append cX0_append 4 (some .int) ({ frames := 0, cells := 0, slots := 0, locals := 0 }) dC dI cI cZ a σ sz [.int bl, .int v] (fun r u => r = nI (12 * z + k) ∧ u = apX σ z k bl v) := by
  refine ex_i (by decide) rfl (Nat.le_of_ble_eq_true rfl) ?_
  intro p e s m args below meth c A ls C hr hlk hA w hl
  have hx := C.1.1
  have hb := C.1.2.1
  have hl : lv_has ls 4 [(0, .ref (a 0)), (1, .int bl), (2, .int v)] := hl
  refine lv_bipush (v := 12) hx hb dX0_append_0 (by decide) ?_
  refine lv_aload_n hx hb dX0_append_2 rfl (lv_at hl 0 rfl) ?_
  refine gx_ac C w dX0_append_3 ?_
  refine lv_imul hx hb dX0_append_6 ?_
  refine zt_i (y := nI (12 * z)) (by rw [hac]; exact pk_mul 12 z) ?_
  refine lv_aload_n hx hb dX0_append_7 rfl (lv_at hl 0 rfl) ?_
  refine gx_fi C w dX0_append_8 ?_
  refine lv_aload_n hx hb dX0_append_11 rfl (lv_at hl 0 rfl) ?_
  refine gx_ac C w dX0_append_12 ?_
  refine lx_fi C w (k := z) hac hz dX0_append_15 ?_
  refine zt_i (y := nI k) hfi ?_
  refine lv_iadd hx hb dX0_append_16 ?_
  refine zt_i (y := nI (12 * z + k)) (nI_add _ _) ?_
  refine lv_istore_n (lv' := [(3, .int (nI (12 * z + k))), (0, .ref (a 0)), (1, .int bl), (2, .int v)]) hx hb dX0_append_17 rfl hl (by decide) rfl (fun ls hl => ?_)
  refine lv_aload_n hx hb dX0_append_18 rfl (lv_at hl 1 rfl) ?_
  refine gx_rb C w dX0_append_19 ?_
  refine lv_iload_n hx hb dX0_append_22 rfl (lv_at hl 0 rfl) ?_
  refine lv_iload_n hx hb dX0_append_23 rfl (lv_at hl 2 rfl) ?_
  refine wx_rb C w (k := (12 * z + k)) rfl (by omega) dX0_append_24 (fun H locs w => ?_)
  refine lv_aload_n hx hb dX0_append_25 rfl (lv_at hl 1 rfl) ?_
  refine gx_rv C w dX0_append_26 ?_
  refine lv_iload_n hx hb dX0_append_29 rfl (lv_at hl 0 rfl) ?_
  refine lv_iload_n hx hb dX0_append_30 rfl (lv_at hl 3 rfl) ?_
  refine wx_rv C w (k := (12 * z + k)) rfl (by omega) dX0_append_31 (fun H locs w => ?_)
  refine lv_aload_n hx hb dX0_append_32 rfl (lv_at hl 1 rfl) ?_
  refine gx_rg C w dX0_append_33 ?_
  refine lv_iload_n hx hb dX0_append_36 rfl (lv_at hl 0 rfl) ?_
  refine lv_aload_n hx hb dX0_append_37 rfl (lv_at hl 1 rfl) ?_
  refine gx_gn C w dX0_append_38 ?_
  refine wx_rg C w (k := (12 * z + k)) rfl (by omega) dX0_append_41 (fun H locs w => ?_)
  refine lv_aload_n hx hb dX0_append_42 rfl (lv_at hl 1 rfl) ?_
  refine gx_fi C w dX0_append_43 ?_
  refine lv_aload_n hx hb dX0_append_46 rfl (lv_at hl 1 rfl) ?_
  refine gx_ac C w dX0_append_47 ?_
  refine lv_dup2_11 hx hb dX0_append_50 rfl rfl ?_
  refine lx_fi C w (k := z) hac hz dX0_append_51 ?_
  refine zt_i (y := nI k) hfi ?_
  refine lv_iconst (v := 1) hx hb dX0_append_52 (by decide) ?_
  refine lv_iadd hx hb dX0_append_53 ?_
  refine zt_i (y := nI (k + 1)) (nI_1 _) ?_
  refine wx_fi C w (k := z) hac hz dX0_append_54 (fun H locs w => ?_)
  refine lv_iload_n hx hb dX0_append_55 rfl (lv_at hl 0 rfl) ?_
  exact rx_i C w hr hlk (⟨rfl, rfl⟩) dX0_append_56

set_option maxHeartbeats 4000000 in
set_option maxRecDepth 100000 in
/-- living(z) -/
theorem tX_living (l : Launch) (dC : Nat → ClassId) (dI : Nat → Nat → Nat) (cI cZ : ClassId) (a : Nat → Nat) (sz : Nat) (σ : ZS) (z0 : Int32) : xMi l yX0_living cX0_living 4 (some .int) ({ frames := 0, cells := 0, slots := 0, locals := 0 }) dC dI cI cZ a σ sz [.int z0] (fun r u => u = σ ∧ r = nI (liv (z_tb σ) z0)) := by
  refine ex_i (by decide) rfl (Nat.le_of_ble_eq_true rfl) ?_
  intro p e s m args below meth c A ls C hr hlk hA w hl
  have hx := C.1.1
  have hb := C.1.2.1
  have hl : lv_has ls 4 [(0, .ref (a 0)), (1, .int z0)] := hl
  refine lv_iconst (v := 0) hx hb dX0_living_0 (by decide) ?_
  refine lv_istore_n (lv' := [(2, .int 0), (0, .ref (a 0)), (1, .int z0)]) hx hb dX0_living_1 rfl hl (by decide) rfl (fun ls hl => ?_)
  refine lv_iconst (v := 0) hx hb dX0_living_2 (by decide) ?_
  refine lv_istore_n (lv' := [(3, .int 0), (2, .int 0), (0, .ref (a 0)), (1, .int z0)]) hx hb dX0_living_3 rfl hl (by decide) rfl (fun ls hl => ?_)
  refine zx_loop1 (fun (i : Nat) H locs ls => xW dC dI cI cZ a A s.heap H locs σ ∧ lv_has ls 4 [(0, .ref (a 0)), (1, .int z0), (2, .int (nI (cb (lg_z (z_tb σ) z0) i))), (3, .int (nI i))] ∧ (i ≤ 16)) (fun i => 16 - i) ?_ 0 _ _ _ ⟨w, lv_sub hl [2, 3, 1, 0] rfl, Nat.zero_le _⟩
  clear hl w
  rintro i H locs ls ⟨w, hl, hi⟩ ih_4
  refine lv_iload_n hx hb dX0_living_4 rfl (lv_at hl 3 rfl) ?_
  refine lv_bipush (v := 16) hx hb dX0_living_5 (by decide) ?_
  refine lv_icmp_ge (tgt := 47) hx hb dX0_living_7 (by decide) (fun c_7 => ?_) (fun c_7 => ?_)
  · have hi6 : i = 16 := zi_ex (N := 16) (by decide) hi c_7
    refine lv_iload_n hx hb dX0_living_47 rfl (lv_at hl 2 rfl) ?_
    exact rx_i C w hr hlk (⟨rfl, by subst hi6; rfl⟩) dX0_living_48
  · have hlt : i < 16 := zi_in (N := 16) (by decide) hi c_7
    refine lv_iload_n hx hb dX0_living_10 rfl (lv_at hl 2 rfl) ?_
    refine lv_aload_n hx hb dX0_living_11 rfl (lv_at hl 0 rfl) ?_
    refine gx_tb C w dX0_living_12 ?_
    refine lv_iload_n hx hb dX0_living_15 rfl (lv_at hl 3 rfl) ?_
    refine lx_tb C w (k := i) rfl (by omega) dX0_living_16 ?_
    refine lv_iconst (v := -1) hx hb dX0_living_17 (by decide) ?_
    refine lv_icmp_eq (tgt := 38) hx hb dX0_living_18 (by decide) (fun c_18 => ?_) (fun c_18 => ?_)
    · refine lv_iconst (v := 0) hx hb dX0_living_38 (by decide) ?_
      refine lv_iadd hx hb dX0_living_39 ?_
      refine zt_i (y := nI (cb (lg_z (z_tb σ) z0) (i + 1))) (by first | exact cb_it (decide_eq_true ⟨c_18, c_31⟩) | exact cb_if (decide_eq_false (fun q => q.1 c_18)) | exact cb_if (decide_eq_false (fun q => c_31 q.2))) ?_
      refine lv_istore_n (lv' := [(2, .int (nI (cb (lg_z (z_tb σ) z0) (i + 1)))), (0, .ref (a 0)), (1, .int z0), (3, .int (nI i))]) hx hb dX0_living_40 rfl hl (by decide) rfl (fun ls hl => ?_)
      refine lv_iinc (v := nI (i + 1)) (lv' := [(3, .int (nI (i + 1))), (2, .int (nI (cb (lg_z (z_tb σ) z0) (i + 1)))), (0, .ref (a 0)), (1, .int z0)]) hx hb dX0_living_41 hl (k := 3) rfl (nI_1 _) (by decide) rfl (fun ls hl => ?_)
      refine lv_goto (tgt := 4) hx hb dX0_living_44 (by decide) ?_
      exact ih_4 (i + 1) _ _ _ (by omega) ⟨w, lv_sub hl [2, 3, 1, 0] rfl, by omega⟩
    · refine lv_aload_n hx hb dX0_living_21 rfl (lv_at hl 0 rfl) ?_
      refine gx_tb C w dX0_living_22 ?_
      refine lv_iload_n hx hb dX0_living_25 rfl (lv_at hl 3 rfl) ?_
      refine lx_tb C w (k := i) rfl (by omega) dX0_living_26 ?_
      refine lv_bipush (v := 12) hx hb dX0_living_27 (by decide) ?_
      refine lv_idiv hx hb dX0_living_29 (by decide) ?_
      refine lv_iload_n hx hb dX0_living_30 rfl (lv_at hl 1 rfl) ?_
      refine lv_icmp_ne (tgt := 38) hx hb dX0_living_31 (by decide) (fun c_31 => ?_) (fun c_31 => ?_)
      · refine lv_iconst (v := 0) hx hb dX0_living_38 (by decide) ?_
        refine lv_iadd hx hb dX0_living_39 ?_
        refine zt_i (y := nI (cb (lg_z (z_tb σ) z0) (i + 1))) (by first | exact cb_it (decide_eq_true ⟨c_18, c_31⟩) | exact cb_if (decide_eq_false (fun q => q.1 c_18)) | exact cb_if (decide_eq_false (fun q => c_31 q.2))) ?_
        refine lv_istore_n (lv' := [(2, .int (nI (cb (lg_z (z_tb σ) z0) (i + 1)))), (0, .ref (a 0)), (1, .int z0), (3, .int (nI i))]) hx hb dX0_living_40 rfl hl (by decide) rfl (fun ls hl => ?_)
        refine lv_iinc (v := nI (i + 1)) (lv' := [(3, .int (nI (i + 1))), (2, .int (nI (cb (lg_z (z_tb σ) z0) (i + 1)))), (0, .ref (a 0)), (1, .int z0)]) hx hb dX0_living_41 hl (k := 3) rfl (nI_1 _) (by decide) rfl (fun ls hl => ?_)
        refine lv_goto (tgt := 4) hx hb dX0_living_44 (by decide) ?_
        exact ih_4 (i + 1) _ _ _ (by omega) ⟨w, lv_sub hl [2, 3, 1, 0] rfl, by omega⟩
      · refine lv_iconst (v := 1) hx hb dX0_living_34 (by decide) ?_
        refine lv_goto (tgt := 39) hx hb dX0_living_35 (by decide) ?_
        refine lv_iadd hx hb dX0_living_39 ?_
        refine zt_i (y := nI (cb (lg_z (z_tb σ) z0) (i + 1))) (by first | exact cb_it (decide_eq_true ⟨c_18, c_31⟩) | exact cb_if (decide_eq_false (fun q => q.1 c_18)) | exact cb_if (decide_eq_false (fun q => c_31 q.2))) ?_
        refine lv_istore_n (lv' := [(2, .int (nI (cb (lg_z (z_tb σ) z0) (i + 1)))), (0, .ref (a 0)), (1, .int z0), (3, .int (nI i))]) hx hb dX0_living_40 rfl hl (by decide) rfl (fun ls hl => ?_)
        refine lv_iinc (v := nI (i + 1)) (lv' := [(3, .int (nI (i + 1))), (2, .int (nI (cb (lg_z (z_tb σ) z0) (i + 1)))), (0, .ref (a 0)), (1, .int z0)]) hx hb dX0_living_41 hl (k := 3) rfl (nI_1 _) (by decide) rfl (fun ls hl => ?_)
        refine lv_goto (tgt := 4) hx hb dX0_living_44 (by decide) ?_
        exact ih_4 (i + 1) _ _ _ (by omega) ⟨w, lv_sub hl [2, 3, 1, 0] rfl, by omega⟩

set_option maxHeartbeats 4000000 in
set_option maxRecDepth 100000 in
/-- empty(k) -/
theorem tX_empty (l : Launch) (dC : Nat → ClassId) (dI : Nat → Nat → Nat) (cI cZ : ClassId) (a : Nat → Nat) (sz : Nat) (σ : ZS) (k : Nat) (hk : k < 6) : xMv l yX0_empty cX0_empty 2 none ({ frames := 0, cells := 0, slots := 0, locals := 0 }) dC dI cI cZ a σ sz [.int (nI k)] (fun u => u = emX σ k) := by
  refine ex_v (by decide) rfl (Nat.le_of_ble_eq_true rfl) ?_
  intro p e s m args below meth c A ls C hr hlk hA w hl
  have hx := C.1.1
  have hb := C.1.2.1
  have hl : lv_has ls 2 [(0, .ref (a 0)), (1, .int (nI k))] := hl
  refine lv_aload_n hx hb dX0_empty_0 rfl (lv_at hl 0 rfl) ?_
  refine gx_fi C w dX0_empty_1 ?_
  refine lv_iload_n hx hb dX0_empty_4 rfl (lv_at hl 1 rfl) ?_
  refine lv_iconst (v := 0) hx hb dX0_empty_5 (by decide) ?_
  refine wx_fi C w (k := k) rfl (by omega) dX0_empty_6 (fun H locs w => ?_)
  refine lv_aload_n hx hb dX0_empty_7 rfl (lv_at hl 0 rfl) ?_
  refine gx_op C w dX0_empty_8 ?_
  refine lv_iload_n hx hb dX0_empty_11 rfl (lv_at hl 1 rfl) ?_
  refine lv_iconst (v := -1) hx hb dX0_empty_12 (by decide) ?_
  refine wx_op C w (k := k) rfl (by omega) dX0_empty_13 (fun H locs w => ?_)
  exact rx_v C w hr hlk rfl dX0_empty_14

set_option maxHeartbeats 4000000 in
set_option maxRecDepth 100000 in
/-- emptyZones() -/
theorem tX_emptyZones (l : Launch) (dC : Nat → ClassId) (dI : Nat → Nat → Nat) (cI cZ : ClassId) (a : Nat → Nat) (sz : Nat) (σ : ZS) : xMi l yX0_emptyZones cX0_emptyZones 3 (some .int) ({ frames := 0, cells := 0, slots := 0, locals := 0 }) dC dI cI cZ a σ sz [] (fun r u => u = σ ∧ r = nI (cb (eg (z_op σ)) 6)) := by
  refine ex_i (by decide) rfl (Nat.le_of_ble_eq_true rfl) ?_
  intro p e s m args below meth c A ls C hr hlk hA w hl
  have hx := C.1.1
  have hb := C.1.2.1
  have hl : lv_has ls 3 [(0, .ref (a 0))] := hl
  refine lv_iconst (v := 0) hx hb dX0_emptyZones_0 (by decide) ?_
  refine lv_istore_n (lv' := [(1, .int 0), (0, .ref (a 0))]) hx hb dX0_emptyZones_1 rfl hl (by decide) rfl (fun ls hl => ?_)
  refine lv_iconst (v := 0) hx hb dX0_emptyZones_2 (by decide) ?_
  refine lv_istore_n (lv' := [(2, .int 0), (1, .int 0), (0, .ref (a 0))]) hx hb dX0_emptyZones_3 rfl hl (by decide) rfl (fun ls hl => ?_)
  refine zx_loop1 (fun (i : Nat) H locs ls => xW dC dI cI cZ a A s.heap H locs σ ∧ lv_has ls 3 [(0, .ref (a 0)), (1, .int (nI (cb (eg (z_op σ)) i))), (2, .int (nI i))] ∧ (i ≤ 6)) (fun i => 6 - i) ?_ 0 _ _ _ ⟨w, lv_sub hl [2, 1, 0] rfl, Nat.zero_le _⟩
  clear hl w
  rintro i H locs ls ⟨w, hl, hi⟩ ih_4
  refine lv_iload_n hx hb dX0_emptyZones_4 rfl (lv_at hl 2 rfl) ?_
  refine lv_bipush (v := 6) hx hb dX0_emptyZones_5 (by decide) ?_
  refine lv_icmp_ge (tgt := 34) hx hb dX0_emptyZones_7 (by decide) (fun c_7 => ?_) (fun c_7 => ?_)
  · have hi6 : i = 6 := zi_ex (N := 6) (by decide) hi c_7
    refine lv_iload_n hx hb dX0_emptyZones_34 rfl (lv_at hl 1 rfl) ?_
    exact rx_i C w hr hlk (⟨rfl, by subst hi6; rfl⟩) dX0_emptyZones_35
  · have hlt : i < 6 := zi_in (N := 6) (by decide) hi c_7
    refine lv_iload_n hx hb dX0_emptyZones_10 rfl (lv_at hl 1 rfl) ?_
    refine lv_aload_n hx hb dX0_emptyZones_11 rfl (lv_at hl 0 rfl) ?_
    refine gx_op C w dX0_emptyZones_12 ?_
    refine lv_iload_n hx hb dX0_emptyZones_15 rfl (lv_at hl 2 rfl) ?_
    refine lx_op C w (k := i) rfl (by omega) dX0_emptyZones_16 ?_
    refine lv_iconst (v := -1) hx hb dX0_emptyZones_17 (by decide) ?_
    refine lv_icmp_ne (tgt := 25) hx hb dX0_emptyZones_18 (by decide) (fun c_18 => ?_) (fun c_18 => ?_)
    · refine lv_iconst (v := 0) hx hb dX0_emptyZones_25 (by decide) ?_
      refine lv_iadd hx hb dX0_emptyZones_26 ?_
      refine zt_i (y := nI (cb (eg (z_op σ)) (i + 1))) (by first | exact cb_it (decide_eq_true c_18) | exact cb_if (decide_eq_false c_18)) ?_
      refine lv_istore_n (lv' := [(1, .int (nI (cb (eg (z_op σ)) (i + 1)))), (0, .ref (a 0)), (2, .int (nI i))]) hx hb dX0_emptyZones_27 rfl hl (by decide) rfl (fun ls hl => ?_)
      refine lv_iinc (v := nI (i + 1)) (lv' := [(2, .int (nI (i + 1))), (1, .int (nI (cb (eg (z_op σ)) (i + 1)))), (0, .ref (a 0))]) hx hb dX0_emptyZones_28 hl (k := 2) rfl (nI_1 _) (by decide) rfl (fun ls hl => ?_)
      refine lv_goto (tgt := 4) hx hb dX0_emptyZones_31 (by decide) ?_
      exact ih_4 (i + 1) _ _ _ (by omega) ⟨w, lv_sub hl [2, 1, 0] rfl, by omega⟩
    · refine lv_iconst (v := 1) hx hb dX0_emptyZones_21 (by decide) ?_
      refine lv_goto (tgt := 26) hx hb dX0_emptyZones_22 (by decide) ?_
      refine lv_iadd hx hb dX0_emptyZones_26 ?_
      refine zt_i (y := nI (cb (eg (z_op σ)) (i + 1))) (by first | exact cb_it (decide_eq_true c_18) | exact cb_if (decide_eq_false c_18)) ?_
      refine lv_istore_n (lv' := [(1, .int (nI (cb (eg (z_op σ)) (i + 1)))), (0, .ref (a 0)), (2, .int (nI i))]) hx hb dX0_emptyZones_27 rfl hl (by decide) rfl (fun ls hl => ?_)
      refine lv_iinc (v := nI (i + 1)) (lv' := [(2, .int (nI (i + 1))), (1, .int (nI (cb (eg (z_op σ)) (i + 1)))), (0, .ref (a 0))]) hx hb dX0_emptyZones_28 hl (k := 2) rfl (nI_1 _) (by decide) rfl (fun ls hl => ?_)
      refine lv_goto (tgt := 4) hx hb dX0_emptyZones_31 (by decide) ?_
      exact ih_4 (i + 1) _ _ _ (by omega) ⟨w, lv_sub hl [2, 1, 0] rfl, by omega⟩

set_option maxHeartbeats 4000000 in
set_option maxRecDepth 100000 in
/-- openZone() -/
theorem tX_openZone (l : Launch) (dC : Nat → ClassId) (dI : Nat → Nat → Nat) (cI cZ : ClassId) (a : Nat → Nat) (sz : Nat) (σ : ZS) (h : ∃ z, z < 6 ∧ z_op σ z = -1) : xMv l yX0_openZone cX0_openZone 2 none ({ frames := 0, cells := 0, slots := 0, locals := 0 }) dC dI cI cZ a σ sz [] (fun u => ∃ z, z < 6 ∧ z_op σ z = -1 ∧ u = opX σ z) := by
  refine ex_v (by decide) rfl (Nat.le_of_ble_eq_true rfl) ?_
  intro p e s m args below meth c A ls C hr hlk hA w hl
  have hx := C.1.1
  have hb := C.1.2.1
  have hl : lv_has ls 2 [(0, .ref (a 0))] := hl
  refine lv_iconst (v := 0) hx hb dX0_openZone_0 (by decide) ?_
  refine lv_istore_n (lv' := [(1, .int 0), (0, .ref (a 0))]) hx hb dX0_openZone_1 rfl hl (by decide) rfl (fun ls hl => ?_)
  refine zx_loop1 (fun (i : Nat) H locs ls => xW dC dI cI cZ a A s.heap H locs σ ∧ lv_has ls 2 [(0, .ref (a 0)), (1, .int (nI i))] ∧ (i ≤ 6) ∧ (∀ z, z < i → ¬ z_op σ z = -1)) (fun i => 6 - i) ?_ 0 _ _ _ ⟨w, lv_sub hl [1, 0] rfl, Nat.zero_le _, fun _ q => absurd q (Nat.not_lt_zero _)⟩
  clear hl w
  rintro i H locs ls ⟨w, hl, hi, hn⟩ ih_2
  refine lv_iload_n hx hb dX0_openZone_2 rfl (lv_at hl 1 rfl) ?_
  refine lv_bipush (v := 6) hx hb dX0_openZone_3 (by decide) ?_
  refine lv_icmp_ge (tgt := 57) hx hb dX0_openZone_5 (by decide) (fun c_5 => ?_) (fun c_5 => ?_)
  · obtain ⟨z, hz, e0⟩ := h
    exact absurd e0 (hn z (by have := zi_ex (N := 6) (by decide) hi c_5; omega))
  · have hlt : i < 6 := zi_in (N := 6) (by decide) hi c_5
    refine lv_aload_n hx hb dX0_openZone_8 rfl (lv_at hl 0 rfl) ?_
    refine gx_op C w dX0_openZone_9 ?_
    refine lv_iload_n hx hb dX0_openZone_12 rfl (lv_at hl 1 rfl) ?_
    refine lx_op C w (k := i) rfl (by omega) dX0_openZone_13 ?_
    refine lv_iconst (v := -1) hx hb dX0_openZone_14 (by decide) ?_
    refine lv_icmp_ne (tgt := 51) hx hb dX0_openZone_15 (by decide) (fun c_15 => ?_) (fun c_15 => ?_)
    · refine lv_iinc (v := nI (i + 1)) (lv' := [(1, .int (nI (i + 1))), (0, .ref (a 0))]) hx hb dX0_openZone_51 hl (k := 1) rfl (nI_1 _) (by decide) rfl (fun ls hl => ?_)
      refine lv_goto (tgt := 2) hx hb dX0_openZone_54 (by decide) ?_
      exact ih_2 (i + 1) _ _ _ (by omega) ⟨w, lv_sub hl [1, 0] rfl, by omega, lt_s hn c_15⟩
    · refine lv_aload_n hx hb dX0_openZone_18 rfl (lv_at hl 0 rfl) ?_
      refine lv_dup hx hb dX0_openZone_19 rfl ?_
      refine gx_on C w dX0_openZone_20 ?_
      refine lv_iconst (v := 1) hx hb dX0_openZone_23 (by decide) ?_
      refine lv_iadd hx hb dX0_openZone_24 ?_
      refine px_on C w dX0_openZone_25 (fun H locs w => ?_)
      refine lv_aload_n hx hb dX0_openZone_28 rfl (lv_at hl 0 rfl) ?_
      refine gx_op C w dX0_openZone_29 ?_
      refine lv_iload_n hx hb dX0_openZone_32 rfl (lv_at hl 1 rfl) ?_
      refine lv_aload_n hx hb dX0_openZone_33 rfl (lv_at hl 0 rfl) ?_
      refine gx_on C w dX0_openZone_34 ?_
      refine wx_op C w (k := i) rfl (by omega) dX0_openZone_37 (fun H locs w => ?_)
      refine lv_aload_n hx hb dX0_openZone_38 rfl (lv_at hl 0 rfl) ?_
      refine gx_fi C w dX0_openZone_39 ?_
      refine lv_iload_n hx hb dX0_openZone_42 rfl (lv_at hl 1 rfl) ?_
      refine lv_iconst (v := 0) hx hb dX0_openZone_43 (by decide) ?_
      refine wx_fi C w (k := i) rfl (by omega) dX0_openZone_44 (fun H locs w => ?_)
      refine lv_aload_n hx hb dX0_openZone_45 rfl (lv_at hl 0 rfl) ?_
      refine lv_iload_n hx hb dX0_openZone_46 rfl (lv_at hl 1 rfl) ?_
      refine px_ac C w dX0_openZone_47 (fun H locs w => ?_)
      exact rx_v C w hr hlk (⟨i, hlt, c_15, rfl⟩) dX0_openZone_50

set_option maxHeartbeats 4000000 in
set_option maxRecDepth 100000 in
/-- poorest() -/
theorem tX_poorest (l : Launch) (dC : Nat → ClassId) (dI : Nat → Nat → Nat) (cI cZ : ClassId) (a : Nat → Nat) (sz : Nat) (σ : ZS) : xMi l yX0_poorest cX0_poorest 3 (some .int) ({ frames := 1, cells := 0, slots := 0, locals := 23 }) dC dI cI cZ a σ sz [] (fun r u => u = σ ∧ PB σ 6 r) := by
  refine ex_i (by decide) rfl (Nat.le_of_ble_eq_true rfl) ?_
  intro p e s m args below meth c A ls C hr hlk hA w hl
  have hx := C.1.1
  have hb := C.1.2.1
  have hl : lv_has ls 3 [(0, .ref (a 0))] := hl
  refine lv_iconst (v := -1) hx hb dX0_poorest_0 (by decide) ?_
  refine lv_istore_n (lv' := [(1, .int (-1)), (0, .ref (a 0))]) hx hb dX0_poorest_1 rfl hl (by decide) rfl (fun ls hl => ?_)
  refine lv_iconst (v := 0) hx hb dX0_poorest_2 (by decide) ?_
  refine lv_istore_n (lv' := [(2, .int 0), (1, .int (-1)), (0, .ref (a 0))]) hx hb dX0_poorest_3 rfl hl (by decide) rfl (fun ls hl => ?_)
  refine zx_loop2 (fun (i : Nat) (best : Int32) H locs ls => xW dC dI cI cZ a A s.heap H locs σ ∧ lv_has ls 3 [(0, .ref (a 0)), (1, .int best), (2, .int (nI i))] ∧ (i ≤ 6) ∧ (PB σ i best)) (fun i best => 6 - i) ?_ 0 (-1) _ _ _ ⟨w, lv_sub hl [2, 1, 0] rfl, Nat.zero_le _, PB_0 σ⟩
  clear hl w
  rintro i best H locs ls ⟨w, hl, hi, hB⟩ ih_4
  refine lv_iload_n hx hb dX0_poorest_4 rfl (lv_at hl 2 rfl) ?_
  refine lv_bipush (v := 6) hx hb dX0_poorest_5 (by decide) ?_
  refine lv_icmp_ge (tgt := 54) hx hb dX0_poorest_7 (by decide) (fun c_7 => ?_) (fun c_7 => ?_)
  · have hi6 : i = 6 := zi_ex (N := 6) (by decide) hi c_7
    refine lv_iload_n hx hb dX0_poorest_54 rfl (lv_at hl 1 rfl) ?_
    exact rx_i C w hr hlk (⟨rfl, by rw [← hi6]; exact hB⟩) dX0_poorest_55
  · have hlt : i < 6 := zi_in (N := 6) (by decide) hi c_7
    refine lv_iload_n hx hb dX0_poorest_10 rfl (lv_at hl 2 rfl) ?_
    refine lv_aload_n hx hb dX0_poorest_11 rfl (lv_at hl 0 rfl) ?_
    refine gx_ac C w dX0_poorest_12 ?_
    refine lv_icmp_eq (tgt := 48) hx hb dX0_poorest_15 (by decide) (fun c_15 => ?_) (fun c_15 => ?_)
    · refine lv_iinc (v := nI (i + 1)) (lv' := [(2, .int (nI (i + 1))), (0, .ref (a 0)), (1, .int best)]) hx hb dX0_poorest_48 hl (k := 2) rfl (nI_1 _) (by decide) rfl (fun ls hl => ?_)
      refine lv_goto (tgt := 4) hx hb dX0_poorest_51 (by decide) ?_
      exact ih_4 (i + 1) best _ _ _ (by omega) ⟨w, lv_sub hl [1, 2, 0] rfl, by omega, (by first | exact PB_skip hB (fun q => q.1 c_15) | exact PB_skip hB (fun q => q.2 c_25) | exact PB_first hlt hB c_30 ⟨c_15, c_25⟩ | exact PB_keep hB c_30 c_43 | exact PB_take hB c_30 ⟨c_15, c_25⟩ c_43)⟩
    · refine lv_aload_n hx hb dX0_poorest_18 rfl (lv_at hl 0 rfl) ?_
      refine gx_op C w dX0_poorest_19 ?_
      refine lv_iload_n hx hb dX0_poorest_22 rfl (lv_at hl 2 rfl) ?_
      refine lx_op C w (k := i) rfl (by omega) dX0_poorest_23 ?_
      refine lv_iconst (v := -1) hx hb dX0_poorest_24 (by decide) ?_
      refine lv_icmp_eq (tgt := 48) hx hb dX0_poorest_25 (by decide) (fun c_25 => ?_) (fun c_25 => ?_)
      · refine lv_iinc (v := nI (i + 1)) (lv' := [(2, .int (nI (i + 1))), (0, .ref (a 0)), (1, .int best)]) hx hb dX0_poorest_48 hl (k := 2) rfl (nI_1 _) (by decide) rfl (fun ls hl => ?_)
        refine lv_goto (tgt := 4) hx hb dX0_poorest_51 (by decide) ?_
        exact ih_4 (i + 1) best _ _ _ (by omega) ⟨w, lv_sub hl [1, 2, 0] rfl, by omega, (by first | exact PB_skip hB (fun q => q.1 c_15) | exact PB_skip hB (fun q => q.2 c_25) | exact PB_first hlt hB c_30 ⟨c_15, c_25⟩ | exact PB_keep hB c_30 c_43 | exact PB_take hB c_30 ⟨c_15, c_25⟩ c_43)⟩
      · refine lv_iload_n hx hb dX0_poorest_28 rfl (lv_at hl 1 rfl) ?_
        refine lv_iconst (v := -1) hx hb dX0_poorest_29 (by decide) ?_
        refine lv_icmp_eq (tgt := 46) hx hb dX0_poorest_30 (by decide) (fun c_30 => ?_) (fun c_30 => ?_)
        · refine lv_iload_n hx hb dX0_poorest_46 rfl (lv_at hl 2 rfl) ?_
          refine lv_istore_n (lv' := [(1, .int (nI i)), (0, .ref (a 0)), (2, .int (nI i))]) hx hb dX0_poorest_47 rfl hl (by decide) rfl (fun ls hl => ?_)
          refine lv_iinc (v := nI (i + 1)) (lv' := [(2, .int (nI (i + 1))), (1, .int (nI i)), (0, .ref (a 0))]) hx hb dX0_poorest_48 hl (k := 2) rfl (nI_1 _) (by decide) rfl (fun ls hl => ?_)
          refine lv_goto (tgt := 4) hx hb dX0_poorest_51 (by decide) ?_
          exact ih_4 (i + 1) (nI i) _ _ _ (by omega) ⟨w, lv_sub hl [2, 1, 0] rfl, by omega, (by first | exact PB_skip hB (fun q => q.1 c_15) | exact PB_skip hB (fun q => q.2 c_25) | exact PB_first hlt hB c_30 ⟨c_15, c_25⟩ | exact PB_keep hB c_30 c_43 | exact PB_take hB c_30 ⟨c_15, c_25⟩ c_43)⟩
        · refine lv_aload_n hx hb dX0_poorest_33 rfl (lv_at hl 0 rfl) ?_
          refine lv_iload_n hx hb dX0_poorest_34 rfl (lv_at hl 2 rfl) ?_
          refine cx_r (As := [.int (nI i)]) (rest := []) C w hA (tX_living l dC dI cI cZ a _ σ (nI i)) (cwx_living C ⟨Nat.le_of_ble_eq_true rfl, Nat.le_of_ble_eq_true rfl⟩) rfl hl.1 rfl (Nat.le_of_ble_eq_true rfl) dX0_poorest_35 ⟨Nat.zero_le _, Nat.zero_le _⟩ (fun r_35 H locs q_35 w => ?_)
          subst q_35
          refine lv_aload_n hx hb dX0_poorest_38 rfl (lv_at hl 0 rfl) ?_
          refine lv_iload_n hx hb dX0_poorest_39 rfl (lv_at hl 1 rfl) ?_
          refine cx_r (As := [.int best]) (rest := [.int (nI (liv (z_tb σ) (nI i)))]) C w hA (tX_living l dC dI cI cZ a _ σ best) (cwx_living C ⟨Nat.le_of_ble_eq_true rfl, Nat.le_of_ble_eq_true rfl⟩) rfl hl.1 rfl (Nat.le_of_ble_eq_true rfl) dX0_poorest_40 ⟨Nat.zero_le _, Nat.zero_le _⟩ (fun r_40 H locs q_40 w => ?_)
          subst q_40
          refine lv_icmp_ge (tgt := 48) hx hb dX0_poorest_43 (by decide) (fun c_43 => ?_) (fun c_43 => ?_)
          · refine lv_iinc (v := nI (i + 1)) (lv' := [(2, .int (nI (i + 1))), (0, .ref (a 0)), (1, .int best)]) hx hb dX0_poorest_48 hl (k := 2) rfl (nI_1 _) (by decide) rfl (fun ls hl => ?_)
            refine lv_goto (tgt := 4) hx hb dX0_poorest_51 (by decide) ?_
            exact ih_4 (i + 1) best _ _ _ (by omega) ⟨w, lv_sub hl [1, 2, 0] rfl, by omega, (by first | exact PB_skip hB (fun q => q.1 c_15) | exact PB_skip hB (fun q => q.2 c_25) | exact PB_first hlt hB c_30 ⟨c_15, c_25⟩ | exact PB_keep hB c_30 c_43 | exact PB_take hB c_30 ⟨c_15, c_25⟩ c_43)⟩
          · refine lv_iload_n hx hb dX0_poorest_46 rfl (lv_at hl 2 rfl) ?_
            refine lv_istore_n (lv' := [(1, .int (nI i)), (0, .ref (a 0)), (2, .int (nI i))]) hx hb dX0_poorest_47 rfl hl (by decide) rfl (fun ls hl => ?_)
            refine lv_iinc (v := nI (i + 1)) (lv' := [(2, .int (nI (i + 1))), (1, .int (nI i)), (0, .ref (a 0))]) hx hb dX0_poorest_48 hl (k := 2) rfl (nI_1 _) (by decide) rfl (fun ls hl => ?_)
            refine lv_goto (tgt := 4) hx hb dX0_poorest_51 (by decide) ?_
            exact ih_4 (i + 1) (nI i) _ _ _ (by omega) ⟨w, lv_sub hl [2, 1, 0] rfl, by omega, (by first | exact PB_skip hB (fun q => q.1 c_15) | exact PB_skip hB (fun q => q.2 c_25) | exact PB_first hlt hB c_30 ⟨c_15, c_25⟩ | exact PB_keep hB c_30 c_43 | exact PB_take hB c_30 ⟨c_15, c_25⟩ c_43)⟩

set_option maxHeartbeats 4000000 in
set_option maxRecDepth 100000 in
/-- counts(number) -/
theorem tX_counts (l : Launch) (dC : Nat → ClassId) (dI : Nat → Nat → Nat) (cI cZ : ClassId) (a : Nat → Nat) (sz : Nat) (σ : ZS) (num : Int32) : xMi l yX0_counts cX0_counts 3 (some .boolean) ({ frames := 0, cells := 0, slots := 0, locals := 0 }) dC dI cI cZ a σ sz [.int num] (fun r u => u = σ ∧ ((r = 1 ∧ mkd (z_rb σ) (z_rg σ) (z_fi σ) num) ∨ (r = 0 ∧ ¬ mkd (z_rb σ) (z_rg σ) (z_fi σ) num))) := by
  refine ex_i (by decide) rfl (Nat.le_of_ble_eq_true rfl) ?_
  intro p e s m args below meth c A ls C hr hlk hA w hl
  have hx := C.1.1
  have hb := C.1.2.1
  have hl : lv_has ls 3 [(0, .ref (a 0)), (1, .int num)] := hl
  refine lv_iconst (v := 0) hx hb dX0_counts_0 (by decide) ?_
  refine lv_istore_n (lv' := [(2, .int 0), (0, .ref (a 0)), (1, .int num)]) hx hb dX0_counts_1 rfl hl (by decide) rfl (fun ls hl => ?_)
  refine zx_loop1 (fun (i : Nat) H locs ls => xW dC dI cI cZ a A s.heap H locs σ ∧ lv_has ls 3 [(0, .ref (a 0)), (1, .int num), (2, .int (nI i))] ∧ (i ≤ 72) ∧ (∀ t, t < i → ¬ (lve (z_fi σ) t ∧ z_rb σ t = 16 ∧ z_rg σ t = num))) (fun i => 72 - i) ?_ 0 _ _ _ ⟨w, lv_sub hl [1, 2, 0] rfl, Nat.zero_le _, fun _ q => absurd q (Nat.not_lt_zero _)⟩
  clear hl w
  rintro i H locs ls ⟨w, hl, hi, hn⟩ ih_2
  refine lv_iload_n hx hb dX0_counts_2 rfl (lv_at hl 2 rfl) ?_
  refine lv_bipush (v := 72) hx hb dX0_counts_3 (by decide) ?_
  refine lv_icmp_ge (tgt := 53) hx hb dX0_counts_5 (by decide) (fun c_5 => ?_) (fun c_5 => ?_)
  · have hi6 : i = 72 := zi_ex (N := 72) (by decide) hi c_5
    refine lv_iconst (v := 0) hx hb dX0_counts_53 (by decide) ?_
    exact rx_z C w hr hlk rfl (⟨rfl, Or.inr ⟨rfl, fun ⟨t, q1, q2, q3⟩ => hn t (by have := q1.1; omega) ⟨q1, q2, q3⟩⟩⟩) dX0_counts_54
  · have hlt : i < 72 := zi_in (N := 72) (by decide) hi c_5
    refine lv_iload_n hx hb dX0_counts_8 rfl (lv_at hl 2 rfl) ?_
    refine lv_bipush (v := 12) hx hb dX0_counts_9 (by decide) ?_
    refine lv_irem hx hb dX0_counts_11 (by decide) ?_
    refine zt_i (y := nI (i % 12)) (zi_rem (by omega)) ?_
    refine lv_aload_n hx hb dX0_counts_12 rfl (lv_at hl 0 rfl) ?_
    refine gx_fi C w dX0_counts_13 ?_
    refine lv_iload_n hx hb dX0_counts_16 rfl (lv_at hl 2 rfl) ?_
    refine lv_bipush (v := 12) hx hb dX0_counts_17 (by decide) ?_
    refine lv_idiv hx hb dX0_counts_19 (by decide) ?_
    refine zt_i (y := nI (i / 12)) (zi_div (by omega)) ?_
    refine lx_fi C w (k := (i / 12)) rfl (by omega) dX0_counts_20 ?_
    refine lv_icmp_ge (tgt := 47) hx hb dX0_counts_21 (by decide) (fun c_21 => ?_) (fun c_21 => ?_)
    · refine lv_iinc (v := nI (i + 1)) (lv' := [(2, .int (nI (i + 1))), (0, .ref (a 0)), (1, .int num)]) hx hb dX0_counts_47 hl (k := 2) rfl (nI_1 _) (by decide) rfl (fun ls hl => ?_)
      refine lv_goto (tgt := 2) hx hb dX0_counts_50 (by decide) ?_
      exact ih_2 (i + 1) _ _ _ (by omega) ⟨w, lv_sub hl [1, 2, 0] rfl, by omega, lt_s hn (by first | exact fun q => zi_nlt c_21 q.1.2 | exact fun q => c_32 q.2.1 | exact fun q => c_42 q.2.2)⟩
    · refine lv_aload_n hx hb dX0_counts_24 rfl (lv_at hl 0 rfl) ?_
      refine gx_rb C w dX0_counts_25 ?_
      refine lv_iload_n hx hb dX0_counts_28 rfl (lv_at hl 2 rfl) ?_
      refine lx_rb C w (k := i) rfl (by omega) dX0_counts_29 ?_
      refine lv_bipush (v := 16) hx hb dX0_counts_30 (by decide) ?_
      refine lv_icmp_ne (tgt := 47) hx hb dX0_counts_32 (by decide) (fun c_32 => ?_) (fun c_32 => ?_)
      · refine lv_iinc (v := nI (i + 1)) (lv' := [(2, .int (nI (i + 1))), (0, .ref (a 0)), (1, .int num)]) hx hb dX0_counts_47 hl (k := 2) rfl (nI_1 _) (by decide) rfl (fun ls hl => ?_)
        refine lv_goto (tgt := 2) hx hb dX0_counts_50 (by decide) ?_
        exact ih_2 (i + 1) _ _ _ (by omega) ⟨w, lv_sub hl [1, 2, 0] rfl, by omega, lt_s hn (by first | exact fun q => zi_nlt c_21 q.1.2 | exact fun q => c_32 q.2.1 | exact fun q => c_42 q.2.2)⟩
      · refine lv_aload_n hx hb dX0_counts_35 rfl (lv_at hl 0 rfl) ?_
        refine gx_rg C w dX0_counts_36 ?_
        refine lv_iload_n hx hb dX0_counts_39 rfl (lv_at hl 2 rfl) ?_
        refine lx_rg C w (k := i) rfl (by omega) dX0_counts_40 ?_
        refine lv_iload_n hx hb dX0_counts_41 rfl (lv_at hl 1 rfl) ?_
        refine lv_icmp_ne (tgt := 47) hx hb dX0_counts_42 (by decide) (fun c_42 => ?_) (fun c_42 => ?_)
        · refine lv_iinc (v := nI (i + 1)) (lv' := [(2, .int (nI (i + 1))), (0, .ref (a 0)), (1, .int num)]) hx hb dX0_counts_47 hl (k := 2) rfl (nI_1 _) (by decide) rfl (fun ls hl => ?_)
          refine lv_goto (tgt := 2) hx hb dX0_counts_50 (by decide) ?_
          exact ih_2 (i + 1) _ _ _ (by omega) ⟨w, lv_sub hl [1, 2, 0] rfl, by omega, lt_s hn (by first | exact fun q => zi_nlt c_21 q.1.2 | exact fun q => c_32 q.2.1 | exact fun q => c_42 q.2.2)⟩
        · refine lv_iconst (v := 1) hx hb dX0_counts_45 (by decide) ?_
          exact rx_z C w hr hlk rfl (⟨rfl, Or.inl ⟨rfl, i, ⟨hlt, zi_lt c_21⟩, c_32, c_42⟩⟩) dX0_counts_46
end
section
/-! the plain law of moveOut, makeRoom, flush, recover -/
/-- the device of a state, with the durable table T -/
abbrev DV (u : ZS) (T : ZF) (G : Nat) : Prop := D0 (z_rb u) (z_rg u) (z_fi u) (z_op u) T (z_gn u) G
abbrev FV (u : ZS) (T P : ZF) (G z : Nat) : Prop := Fl (z_rb u) (z_rg u) (z_fi u) (z_op u) T P (z_gn u) G z
def Sm (σ u : ZS) : Prop := z_di u = z_di σ ∧ z_ca u = z_ca σ ∧ z_ru u = z_ru σ ∧ z_gr u = z_gr σ
def Vs (σ u : ZS) : Prop := ∀ b, b < 16 → vz (z_rv u) (z_tb u b) = vz (z_rv σ) (z_tb σ b)
def EZ (u : ZS) : Prop := ∃ z, z < 6 ∧ z_op u z = -1
def AC (u : ZS) : Prop := z_ac u = -1 ∨ ∃ z, z < 6 ∧ z_ac u = nI z ∧ ¬ z_op u z = -1
theorem zi_le0 {n : Nat} (h : n < 2 ^ 31) (c : nI n ≤ 0) : n = 0 := by
  have := (nI_leI h (by decide)).mp (show nI n ≤ nI 0 from c)
  omega
theorem lg_f {tb : ZF} {z : Int32} {b : Nat} (h : lg_z tb z b = false) : tb b = -1 ∨ ¬ tb b / 12 = z := by
  have := of_decide_eq_false h
  by_cases q : tb b = -1
  · exact Or.inl q
  · exact Or.inr fun e => this ⟨q, e⟩
theorem lg_f' {tb : ZF} {z : Int32} {b : Nat} (h : tb b = -1 ∨ ¬ tb b / 12 = z) : lg_z tb z b = false := by
  refine decide_eq_false fun q => ?_
  rcases h with e | e
  · exact q.1 e
  · exact e q.2
theorem lg_t' {tb : ZF} {z : Int32} {b : Nat} (h : ¬ tb b = -1) (h2 : tb b / 12 = z) : lg_z tb z b = true := decide_eq_true ⟨h, h2⟩
/-- moveOut(k) -/
def MO (σ u : ZS) (G k z f : Nat) : Prop := (∃ G', G' ≤ G + 1 ∧ DV u (z_tb u) G') ∧ Vs σ u ∧ Sm σ u ∧ z_ac u = z_ac σ ∧ z_on u = z_on σ ∧ z_op u = upd (z_op σ) k (-1) ∧ ∃ f', f' ≤ f + liv (z_tb σ) (nI k) + 1 ∧ z_fi u z = nI f'
def MJ (σ : ZS) (G k z f i : Nat) (u : ZS) : Prop := ∃ P : ZF, FV u (z_tb σ) P (G + 1) z ∧ (∀ b, b < 16 → z_tb u b = if P b = -1 then z_tb σ b else P b) ∧ (∀ b, b < 16 → (¬ P b = -1 ↔ (b < i ∧ lg_z (z_tb σ) (nI k) b = true))) ∧ (∀ b, b < 16 → ¬ P b = -1 → vz (z_rv u) (P b) = vz (z_rv σ) (z_tb σ b)) ∧ (∀ b, b < 16 → vz (z_rv u) (z_tb σ b) = vz (z_rv σ) (z_tb σ b)) ∧ z_fi u z = nI (f + cb (lg_z (z_tb σ) (nI k)) i) ∧ z_op u = z_op σ ∧ z_ac u = z_ac σ ∧ z_on u = z_on σ ∧ Sm σ u
theorem MO_0 {σ : ZS} {G k z f : Nat} (hD : DV σ (z_tb σ) G) (hk : k < 6) (hzk : ¬ z = k) (hf : z_fi σ z = nI f) (c : nI (liv (z_tb σ) (nI k)) ≤ 0) : MO σ (emX σ k) G k z f := by
  have h0 := zi_le0 (by have := liv_le (z_tb σ) (nI k); omega) c
  have h1 := cb_zero h0
  refine ⟨⟨G, by omega, D0.empty hD hk (fun b hb => lg_f (h1 b hb))⟩, fun _ _ => rfl, ⟨rfl, rfl, rfl, rfl⟩, rfl, rfl, rfl, f, by omega, ?_⟩
  show upd (z_fi σ) k 0 z = nI f
  rw [pk_un hzk]
  exact hf
theorem MJ_0 {σ : ZS} {G k z f : Nat} (hD : DV σ (z_tb σ) G) (hG : G + 1 < 2 ^ 31) (hz : z < 6) (hf : z_fi σ z = nI f) : MJ σ G k z f 0 (s_gn σ (z_gn σ + 1)) := by
  refine ⟨fun _ => -1, Fl.start hD hz hG, fun b hb => ?_, fun b hb => ?_, fun b hb q => absurd rfl q, fun _ _ => rfl, ?_, rfl, rfl, rfl, ⟨rfl, rfl, rfl, rfl⟩⟩
  · rw [if_pos rfl]
    rfl
  · exact ⟨fun q => absurd rfl q, fun q => absurd q.1 (Nat.not_lt_zero _)⟩
  · exact hf
theorem MJ_tb {σ u : ZS} {G k z f i : Nat} (hJ : MJ σ G k z f i u) (hi : i < 16) : z_tb u i = z_tb σ i := by
  obtain ⟨P, h1, h2, h3, -⟩ := hJ
  have : P i = -1 := by
    by_cases q : P i = -1
    · exact q
    · exact absurd ((h3 i hi).mp q).1 (Nat.lt_irrefl _)
  rw [h2 i hi, if_pos this]
theorem MJ_ok {σ u : ZS} {G k z f i : Nat} (hJ : MJ σ G k z f i u) (hi : i < 16) : okT (z_tb u i) := by
  rw [MJ_tb hJ hi]
  obtain ⟨P, h1, -⟩ := hJ
  exact h1.1.okT i hi
theorem MJ_ap {σ u : ZS} {G k z f i : Nat} (hJ : MJ σ G k z f i u) (hac : z_ac σ = nI z) (hroom : f + liv (z_tb σ) (nI k) + 1 ≤ 12) (hi : i ≤ 16) : z_ac u = nI z ∧ f + cb (lg_z (z_tb σ) (nI k)) i < 12 ∧ z_fi u z = nI (f + cb (lg_z (z_tb σ) (nI k)) i) := by
  obtain ⟨P, -, -, -, -, -, h6, -, h8, -⟩ := hJ
  have : cb (lg_z (z_tb σ) (nI k)) i ≤ liv (z_tb σ) (nI k) := cb_mono _ hi
  exact ⟨h8.trans hac, by omega, h6⟩
theorem MJ_skip {σ u : ZS} {G k z f i : Nat} (hJ : MJ σ G k z f i u) (hi : i < 16) (c : z_tb u i = -1 ∨ ¬ z_tb u i / 12 = nI k) : MJ σ G k z f (i + 1) u := by
  rw [MJ_tb hJ hi] at c
  have hg := lg_f' c
  obtain ⟨P, h1, h2, h3, h4, h5, h6, h7⟩ := hJ
  refine ⟨P, h1, h2, fun b hb => ?_, h4, h5, by rw [cb_f hg]; exact h6, h7⟩
  rw [h3 b hb]
  constructor
  · exact fun q => ⟨by omega, q.2⟩
  · rintro ⟨q1, q2⟩
    refine ⟨?_, q2⟩
    rcases Nat.lt_or_ge b i with y | y
    · exact y
    · rw [show b = i by omega, hg] at q2
      cases q2
theorem MJ_add {σ u : ZS} {G k z f i t : Nat} (hJ : MJ σ G k z f i u) (hG : G + 1 < 2 ^ 31) (hi : i < 16) (hoz : ¬ z_op σ z = -1) (hroom : f + liv (z_tb σ) (nI k) + 1 ≤ 12) (c1 : ¬ z_tb u i = -1) (c2 : z_tb u i / 12 = nI k) (et : z_tb u i = nI t) (ht : t < 72) : MJ σ G k z f (i + 1) (s_tb (apX u z (f + cb (lg_z (z_tb σ) (nI k)) i) (nI i) (z_rv u t)) (upd (z_tb u) i (nI (12 * z + (f + cb (lg_z (z_tb σ) (nI k)) i))))) := by
  rw [MJ_tb hJ hi] at c1 c2 et
  have hg := lg_t' c1 c2
  obtain ⟨P, h1, h2, h3, h4, h5, h6, h7, h8, h9, h10⟩ := hJ
  have hPi : P i = -1 := by
    by_cases q : P i = -1
    · exact q
    · exact absurd ((h3 i hi).mp q).1 (Nat.lt_irrefl _)
  have hz : z < 6 := h1.2.1
  have hF : f + cb (lg_z (z_tb σ) (nI k)) i < 12 := by
    have : cb (lg_z (z_tb σ) (nI k)) (i + 1) ≤ liv (z_tb σ) (nI k) := cb_mono _ (by omega)
    rw [cb_t hg] at this
    omega
  generalize hFe : f + cb (lg_z (z_tb σ) (nI k)) i = F at *
  have hadd := Fl.add h1 (by rw [h7]; exact hoz) hG hF h6 hi hPi
  refine ⟨upd P i (nI (12 * z + F)), hadd, fun b hb => ?_, fun b hb => ?_, fun b hb q => ?_, fun b hb => ?_, ?_, h7, h8, h9, h10⟩
  · show upd (z_tb u) i (nI (12 * z + F)) b = _
    by_cases e : b = i
    · subst e
      rw [pk_us, pk_us, if_neg (zi_m1 (by omega))]
    · rw [pk_un e, pk_un e]
      exact h2 b hb
  · by_cases e : b = i
    · subst e
      rw [pk_us]
      exact ⟨fun _ => ⟨by omega, hg⟩, fun _ => zi_m1 (by omega)⟩
    · rw [pk_un e, h3 b hb]
      exact ⟨fun q => ⟨by omega, q.2⟩, fun q => ⟨by omega, q.2⟩⟩
  · show vz (upd (z_rv u) (12 * z + F) (z_rv u t)) _ = _
    by_cases e : b = i
    · subst e
      rw [pk_us, vz_at rfl (by omega), pk_us, ← h5 b hb, vz_at et ht]
    · rw [pk_un e] at q ⊢
      obtain ⟨t2, d1, d2, -⟩ := (h1.2.2.2 b hb).resolve_left q
      rw [vz_add hF h6 (Or.inr ⟨t2, d1, d2⟩)]
      exact h4 b hb q
  · show vz (upd (z_rv u) (12 * z + F) (z_rv u t)) _ = _
    rw [vz_add hF h6 (h1.1.tl b hb)]
    exact h5 b hb
  · show upd (z_fi u) z (nI (F + 1)) z = _
    rw [pk_us, cb_t hg, ← Nat.add_assoc, hFe]
theorem MJ_live {σ u : ZS} {G k z f i : Nat} (hJ : MJ σ G k z f i u) : ∀ b, b < 16 → z_tb u b = -1 ∨ ∃ t, z_tb u b = nI t ∧ lve (z_fi u) t := by
  intro b hb
  obtain ⟨P, h1, h2, -⟩ := hJ
  rw [h2 b hb]
  by_cases q : P b = -1
  · rw [if_pos q]
    exact h1.1.tl b hb
  · rw [if_neg q]
    obtain ⟨t2, d1, d2, -⟩ := (h1.2.2.2 b hb).resolve_left q
    exact Or.inr ⟨t2, d1, d2⟩
theorem MO_1 {σ u : ZS} {G k z f i : Nat} (hJ : MJ σ G k z f i u) (hi6 : i = 16) (hG : G + 1 < 2 ^ 31) (hk : k < 6) (hzk : ¬ z = k) (hoz : ¬ z_op σ z = -1) (hroom : f + liv (z_tb σ) (nI k) + 1 ≤ 12) : MO σ (emX (apX u z (f + cb (lg_z (z_tb σ) (nI k)) i) 16 0) k) G k z f := by
  subst hi6
  have hlv := MJ_live hJ
  obtain ⟨P, h1, h2, h3, h4, h5, h6, h7, h8, h9, h10⟩ := hJ
  have hz : z < 6 := h1.2.1
  have hF : f + cb (lg_z (z_tb σ) (nI k)) 16 < 12 := by
    have : cb (lg_z (z_tb σ) (nI k)) 16 = liv (z_tb σ) (nI k) := rfl
    omega
  generalize hFe : f + cb (lg_z (z_tb σ) (nI k)) 16 = F at *
  have hm := Fl.mark h1 (by rw [h7]; exact hoz) hG hF h6 (T' := z_tb u) h2
  have he := D0.empty hm hk (fun b hb => by
    rw [h2 b hb]
    by_cases q : P b = -1
    · rw [if_pos q]
      refine lg_f ?_
      cases hg : lg_z (z_tb σ) (nI k) b with
      | false => rfl
      | true => exact absurd q ((h3 b hb).mpr ⟨hb, hg⟩)
    · rw [if_neg q]
      obtain ⟨t2, d1, d2, d3, d4, d5⟩ := (h1.2.2.2 b hb).resolve_left q
      refine Or.inr ?_
      rw [d1, zi_div (by have := d2.1; omega), d5]
      exact fun e => hzk ((nI_eq (by omega) (by omega)).mp e))
  refine ⟨⟨G + 1, Nat.le_refl _, he⟩, fun b hb => ?_, h10, h8, h9, ?_, F + 1, ?_, ?_⟩
  · show vz (upd (z_rv u) (12 * z + F) 0) (z_tb u b) = _
    rw [vz_add hF h6 (hlv b hb), h2 b hb]
    by_cases q : P b = -1
    · rw [if_pos q]; exact h5 b hb
    · rw [if_neg q]; exact h4 b hb q
  · show upd (z_op u) k (-1) = _
    rw [h7]
  · have : cb (lg_z (z_tb σ) (nI k)) 16 = liv (z_tb σ) (nI k) := rfl
    omega
  · show upd (upd (z_fi u) z (nI (F + 1))) k 0 z = _
    rw [pk_un hzk, pk_us]
/-- makeRoom() -/
def MR (σ u : ZS) (G O : Nat) : Prop := ∃ G' O' z f : Nat, G' ≤ G + 1 ∧ O' ≤ O + 1 ∧ DV u (z_tb u) G' ∧ EZ u ∧ z_on u = nI O' ∧ z < 6 ∧ z_ac u = nI z ∧ ¬ z_op u z = -1 ∧ z_fi u z = nI f ∧ f + 7 ≤ 12 ∧ Vs σ u ∧ Sm σ u
def RJ (σ : ZS) (G O z i : Nat) (u : ZS) : Prop := ∃ G' f : Nat, G' ≤ G + 1 ∧ DV u (z_tb u) G' ∧ z_on u = nI (O + 1) ∧ z_ac u = nI z ∧ ¬ z_op u z = -1 ∧ z_fi u z = nI f ∧ f + 7 ≤ 12 ∧ Vs σ u ∧ Sm σ u ∧ ((i = 0 ∧ G' = G ∧ f = 0) ∨ (0 < i ∧ EZ u))
theorem MR_0 {σ : ZS} {G O z f : Nat} (hD : DV σ (z_tb σ) G) (hE : EZ σ) (hO : z_on σ = nI O) (hz : z < 6) (ez : z_ac σ = nI z) (oz : ¬ z_op σ z = -1) (hf : f ≤ 12) (ef : z_fi σ z = nI f) (c : ¬ (12 : Int32) < nI (f + 6 + 1)) : MR σ σ G O := by
  refine ⟨G, O, z, f, by omega, by omega, hD, hE, hO, hz, ez, oz, ef, ?_, fun _ _ => rfl, ⟨rfl, rfl, rfl, rfl⟩⟩
  rcases Nat.lt_or_ge 12 (f + 7) with q | q
  · exact absurd (nI_lt (a := 12) (b := f + 6 + 1) (by omega) (by omega)) c
  · exact q
theorem RJ_0 {σ : ZS} {G O z : Nat} (hD : DV σ (z_tb σ) G) (hO : z_on σ = nI O) (hO2 : O + 1 < 2 ^ 31) (hz : z < 6) (oz : z_op σ z = -1) : RJ σ G O z 0 (opX σ z) := by
  refine ⟨G, 0, by omega, D0.opens hD hz oz, ?_, rfl, ?_, pk_us, by omega, fun _ _ => rfl, ⟨rfl, rfl, rfl, rfl⟩, Or.inl ⟨rfl, rfl, rfl⟩⟩
  · show z_on σ + 1 = _
    rw [hO, nI_1]
  · show ¬ upd (z_op σ) z (z_on σ + 1) z = -1
    rw [pk_us, hO, nI_1]
    exact zi_m1 hO2
theorem RJ_ret {σ u : ZS} {G O z i : Nat} (hJ : RJ σ G O z i u) (hz : z < 6) (h : EZ u) : MR σ u G O := by
  obtain ⟨G', f, h1, h2, h3, h4, h5, h6, h7, h8, h9, -⟩ := hJ
  exact ⟨G', O + 1, z, f, h1, Nat.le_refl _, h2, h, h3, hz, h4, h5, h6, h7, h8, h9⟩
theorem EZ_of {u : ZS} (c : (0 : Int32) < nI (cb (eg (z_op u)) 6)) : EZ u := by
  have h : cb (eg (z_op u)) 6 ≠ 0 := by
    intro q
    rw [q] at c
    exact absurd c (by decide)
  obtain ⟨j, h1, h2⟩ := cb_pos h
  exact ⟨j, h1, of_decide_eq_true h2⟩
theorem EZ_no {u : ZS} (c : ¬ (0 : Int32) < nI (cb (eg (z_op u)) 6)) : ∀ z, z < 6 → ¬ z_op u z = -1 := by
  have h : cb (eg (z_op u)) 6 = 0 := by
    rcases Nat.lt_or_ge 0 (cb (eg (z_op u)) 6) with q | q
    · exact absurd (nI_lt (a := 0) q (by have := cb_le (eg (z_op u)) 6; omega)) c
    · omega
  intro z hz
  exact of_decide_eq_false (cb_zero h z hz)
theorem RJ_no {σ u : ZS} {G O z i : Nat} (hJ : RJ σ G O z i u) (hz : z < 6) (c : ¬ (0 : Int32) < nI (cb (eg (z_op u)) 6)) {r : Int32} (hB : PB u 6 r) (e : r = -1) : False := by
  obtain ⟨G', f, h1, h2, h3, h4, h5, h6, h7, h8, h9, -⟩ := hJ
  have hn := EZ_no c
  rcases hB with ⟨-, q⟩ | ⟨k, q1, q2, -⟩
  · obtain ⟨y, hy, hyz⟩ : ∃ y, y < 6 ∧ y ≠ z := by
      by_cases e0 : z = 0
      · exact ⟨1, by omega, by omega⟩
      · exact ⟨0, by omega, by omega⟩
    refine q y hy ⟨?_, hn y hy⟩
    rw [h4]
    exact fun e2 => hyz ((nI_eq (by omega) (by omega)).mp e2)
  · rw [e] at q2
    exact zi_m1 (by omega) q2.symm
theorem RJ_mo {σ u : ZS} {G O z i k : Nat} (hJ : RJ σ G O z i u) (hz : z < 6) (c : ¬ (0 : Int32) < nI (cb (eg (z_op u)) 6)) (hk : k < 6) (hc : cand u k) (hm : ∀ y, y < 6 → cand u y → liv (z_tb u) (nI k) ≤ liv (z_tb u) (nI y)) : DV u (z_tb u) G ∧ ¬ z = k ∧ z_ac u = nI z ∧ ¬ z_op u z = -1 ∧ z_fi u z = nI 0 ∧ 0 + liv (z_tb u) (nI k) + 1 ≤ 12 := by
  obtain ⟨G', f, h1, h2, h3, h4, h5, h6, h7, h8, h9, h10⟩ := hJ
  have hn := EZ_no c
  rcases h10 with ⟨e1, e2, e3⟩ | ⟨-, y, hy, e⟩
  · subst e2
    subst e3
    have hzk : ¬ z = k := fun e => hc.1 (by rw [h4, e])
    have h3' := liv_3 (tb := z_tb u) (a := z) (k := k) hk hz (fun e => hzk e.symm) (fun y hy hyz => hm y hy ⟨fun e => hyz ((nI_eq (by omega) (by omega)).mp (e.trans h4)), hn y hy⟩)
    exact ⟨h2, hzk, h4, h5, h6, by omega⟩
  · exact absurd e (hn y hy)
theorem RJ_next {σ u v : ZS} {G O z i k : Nat} (hJ : RJ σ G O z i u) (hz : z < 6) (c : ¬ (0 : Int32) < nI (cb (eg (z_op u)) 6)) (hk : k < 6) (hc : cand u k) (hm : ∀ y, y < 6 → cand u y → liv (z_tb u) (nI k) ≤ liv (z_tb u) (nI y)) (h : MO u v G k z 0) : RJ σ G O z (i + 1) v := by
  have hzk := (RJ_mo hJ hz c hk hc hm).2.1
  have hn := EZ_no c
  have h3' := liv_3 (tb := z_tb u) (a := z) (k := k) hk hz (fun e => hzk e.symm) (fun y hy hyz => hm y hy ⟨fun e => hyz ((nI_eq (by omega) (by omega)).mp (e.trans (RJ_mo hJ hz c hk hc hm).2.2.1)), hn y hy⟩)
  obtain ⟨G', f, h1, h2, h3, h4, h5, h6, h7, h8, h9, h10⟩ := hJ
  obtain ⟨⟨G2, g1, g2⟩, g3, g4, g5, g6, g7, f2, g8, g9⟩ := h
  refine ⟨G2, f2, g1, g2, g6.trans h3, g5.trans h4, ?_, g9, by omega, fun b hb => (g3 b hb).trans (h8 b hb), ⟨g4.1.trans h9.1, g4.2.1.trans h9.2.1, g4.2.2.1.trans h9.2.2.1, g4.2.2.2.trans h9.2.2.2⟩, Or.inr ⟨by omega, k, hk, by rw [g7, pk_us]⟩⟩
  rw [g7, pk_un hzk]
  exact h5
theorem RJ_end {σ u : ZS} {G O z i : Nat} (hJ : RJ σ G O z i u) (hz : z < 6) (h : i = 6) : MR σ u G O := by
  refine RJ_ret hJ hz ?_
  obtain ⟨G', f, h1, h2, h3, h4, h5, h6, h7, h8, h9, h10⟩ := hJ
  rcases h10 with ⟨e, -⟩ | ⟨-, e⟩
  · omega
  · exact e
end
section
/-! the store: moveOut and makeRoom -/
set_option maxHeartbeats 4000000 in
set_option maxRecDepth 100000 in
/-- moveOut(k): the zone k is freed, what the table says stays -/
theorem tX_moveOut (l : Launch) (dC : Nat → ClassId) (dI : Nat → Nat → Nat) (cI cZ : ClassId) (a : Nat → Nat) (sz : Nat) (σ : ZS) (G k z f : Nat) (hD : DV σ (z_tb σ) G) (hG : G + 1 < 2 ^ 31) (hk : k < 6) (hz : z < 6) (hzk : ¬ z = k) (hac : z_ac σ = nI z) (hoz : ¬ z_op σ z = -1) (hf : z_fi σ z = nI f) (hroom : f + liv (z_tb σ) (nI k) + 1 ≤ 12) : xMv l yX0_moveOut cX0_moveOut 3 none ({ frames := 1, cells := 0, slots := 0, locals := 23 }) dC dI cI cZ a σ sz [.int (nI k)] (fun u => MO σ u G k z f) := by
  refine ex_v (by decide) rfl (Nat.le_of_ble_eq_true rfl) ?_
  intro p e s m args below meth c A ls C hr hlk hA w hl
  have hx := C.1.1
  have hb := C.1.2.1
  have hl : lv_has ls 3 [(0, .ref (a 0)), (1, .int (nI k))] := hl
  refine lv_aload_n hx hb dX0_moveOut_0 rfl (lv_at hl 0 rfl) ?_
  refine lv_iload_n hx hb dX0_moveOut_1 rfl (lv_at hl 1 rfl) ?_
  refine cx_r (As := [.int (nI k)]) (rest := []) C w hA (tX_living l dC dI cI cZ a _ σ (nI k)) (cwx_living C ⟨Nat.le_of_ble_eq_true rfl, Nat.le_of_ble_eq_true rfl⟩) rfl hl.1 rfl (Nat.le_of_ble_eq_true rfl) dX0_moveOut_2 ⟨Nat.zero_le _, Nat.zero_le _⟩ (fun r_2 H locs q_2 w => ?_)
  subst q_2
  refine lv_if_le (tgt := 85) hx hb dX0_moveOut_5 (by decide) (fun c_5 => ?_) (fun c_5 => ?_)
  · refine lv_aload_n hx hb dX0_moveOut_85 rfl (lv_at hl 0 rfl) ?_
    refine lv_iload_n hx hb dX0_moveOut_86 rfl (lv_at hl 1 rfl) ?_
    refine cx_v (As := [.int (nI k)]) (rest := []) C w hA (tX_empty l dC dI cI cZ a _ (σ) k hk) (cwx_empty C ⟨Nat.le_of_ble_eq_true rfl, Nat.le_of_ble_eq_true rfl⟩) rfl hl.1 rfl (Nat.le_of_ble_eq_true rfl) dX0_moveOut_87 ⟨Nat.zero_le _, Nat.zero_le _⟩ (fun u_87 H locs q_87 w => ?_)
    subst q_87
    exact rx_v C w hr hlk (by first | exact MO_0 hD hk hzk hf c_5 | exact MO_1 hJ hi6 hG hk hzk hoz hroom) dX0_moveOut_90
  · refine lv_aload_n hx hb dX0_moveOut_8 rfl (lv_at hl 0 rfl) ?_
    refine lv_dup hx hb dX0_moveOut_9 rfl ?_
    refine gx_gn C w dX0_moveOut_10 ?_
    refine lv_iconst (v := 1) hx hb dX0_moveOut_13 (by decide) ?_
    refine lv_iadd hx hb dX0_moveOut_14 ?_
    refine px_gn C w dX0_moveOut_15 (fun H locs w => ?_)
    refine lv_iconst (v := 0) hx hb dX0_moveOut_18 (by decide) ?_
    refine lv_istore_n (lv' := [(2, .int 0), (0, .ref (a 0)), (1, .int (nI k))]) hx hb dX0_moveOut_19 rfl hl (by decide) rfl (fun ls hl => ?_)
    refine zx_loop2 (fun (i : Nat) (u : ZS) H locs ls => xW dC dI cI cZ a A s.heap H locs u ∧ lv_has ls 3 [(0, .ref (a 0)), (1, .int (nI k)), (2, .int (nI i))] ∧ (i ≤ 16) ∧ (MJ σ G k z f i u)) (fun i u => 16 - i) ?_ 0 (s_gn σ ((z_gn σ) + 1)) _ _ _ ⟨w, lv_sub hl [1, 2, 0] rfl, Nat.zero_le _, MJ_0 hD hG hz hf⟩
    clear hl w
    rintro i u H locs ls ⟨w, hl, hi, hJ⟩ ih_20
    refine lv_iload_n hx hb dX0_moveOut_20 rfl (lv_at hl 2 rfl) ?_
    refine lv_bipush (v := 16) hx hb dX0_moveOut_21 (by decide) ?_
    refine lv_icmp_ge (tgt := 77) hx hb dX0_moveOut_23 (by decide) (fun c_23 => ?_) (fun c_23 => ?_)
    · have hi6 : i = 16 := zi_ex (N := 16) (by decide) hi c_23
      have hju := MJ_ap hJ hac hroom hi
      refine lv_aload_n hx hb dX0_moveOut_77 rfl (lv_at hl 0 rfl) ?_
      refine lv_bipush (v := 16) hx hb dX0_moveOut_78 (by decide) ?_
      refine lv_iconst (v := 0) hx hb dX0_moveOut_80 (by decide) ?_
      refine cx_i (As := [.int 16, .int 0]) (rest := []) C w hA (tX_append l dC dI cI cZ a _ u z (f + cb (lg_z (z_tb σ) (nI k)) i) 16 0 hz hju.1 hju.2.1 hju.2.2) (cwx_append C ⟨Nat.le_of_ble_eq_true rfl, Nat.le_of_ble_eq_true rfl⟩) rfl hl.1 rfl (Nat.le_of_ble_eq_true rfl) dX0_moveOut_81 ⟨Nat.zero_le _, Nat.zero_le _⟩ (fun r_81 u_81 H locs q_81 w => ?_)
      obtain ⟨rfl, rfl⟩ := q_81
      refine lv_pop hx hb dX0_moveOut_84 rfl ?_
      refine lv_aload_n hx hb dX0_moveOut_85 rfl (lv_at hl 0 rfl) ?_
      refine lv_iload_n hx hb dX0_moveOut_86 rfl (lv_at hl 1 rfl) ?_
      refine cx_v (As := [.int (nI k)]) (rest := []) C w hA (tX_empty l dC dI cI cZ a _ (apX u z (f + cb (lg_z (z_tb σ) (nI k)) i) 16 0) k hk) (cwx_empty C ⟨Nat.le_of_ble_eq_true rfl, Nat.le_of_ble_eq_true rfl⟩) rfl hl.1 rfl (Nat.le_of_ble_eq_true rfl) dX0_moveOut_87 ⟨Nat.zero_le _, Nat.zero_le _⟩ (fun u_87 H locs q_87 w => ?_)
      subst q_87
      exact rx_v C w hr hlk (by first | exact MO_0 hD hk hzk hf c_5 | exact MO_1 hJ hi6 hG hk hzk hoz hroom) dX0_moveOut_90
    · have hlt : i < 16 := zi_in (N := 16) (by decide) hi c_23
      refine lv_aload_n hx hb dX0_moveOut_26 rfl (lv_at hl 0 rfl) ?_
      refine gx_tb C w dX0_moveOut_27 ?_
      refine lv_iload_n hx hb dX0_moveOut_30 rfl (lv_at hl 2 rfl) ?_
      refine lx_tb C w (k := i) rfl (by omega) dX0_moveOut_31 ?_
      refine lv_iconst (v := -1) hx hb dX0_moveOut_32 (by decide) ?_
      refine lv_icmp_eq (tgt := 71) hx hb dX0_moveOut_33 (by decide) (fun c_33 => ?_) (fun c_33 => ?_)
      · refine lv_iinc (v := nI (i + 1)) (lv' := [(2, .int (nI (i + 1))), (0, .ref (a 0)), (1, .int (nI k))]) hx hb dX0_moveOut_71 hl (k := 2) rfl (nI_1 _) (by decide) rfl (fun ls hl => ?_)
        refine lv_goto (tgt := 20) hx hb dX0_moveOut_74 (by decide) ?_
        exact ih_20 (i + 1) u _ _ _ (by omega) ⟨w, lv_sub hl [1, 2, 0] rfl, by omega, (by first | exact MJ_skip hJ hlt (Or.inl c_33) | exact MJ_skip hJ hlt (Or.inr c_46) | exact MJ_add hJ hG hlt hoz hroom c_33 c_46 et ht)⟩
      · refine lv_aload_n hx hb dX0_moveOut_36 rfl (lv_at hl 0 rfl) ?_
        refine gx_tb C w dX0_moveOut_37 ?_
        refine lv_iload_n hx hb dX0_moveOut_40 rfl (lv_at hl 2 rfl) ?_
        refine lx_tb C w (k := i) rfl (by omega) dX0_moveOut_41 ?_
        refine lv_bipush (v := 12) hx hb dX0_moveOut_42 (by decide) ?_
        refine lv_idiv hx hb dX0_moveOut_44 (by decide) ?_
        refine lv_iload_n hx hb dX0_moveOut_45 rfl (lv_at hl 1 rfl) ?_
        refine lv_icmp_ne (tgt := 71) hx hb dX0_moveOut_46 (by decide) (fun c_46 => ?_) (fun c_46 => ?_)
        · refine lv_iinc (v := nI (i + 1)) (lv' := [(2, .int (nI (i + 1))), (0, .ref (a 0)), (1, .int (nI k))]) hx hb dX0_moveOut_71 hl (k := 2) rfl (nI_1 _) (by decide) rfl (fun ls hl => ?_)
          refine lv_goto (tgt := 20) hx hb dX0_moveOut_74 (by decide) ?_
          exact ih_20 (i + 1) u _ _ _ (by omega) ⟨w, lv_sub hl [1, 2, 0] rfl, by omega, (by first | exact MJ_skip hJ hlt (Or.inl c_33) | exact MJ_skip hJ hlt (Or.inr c_46) | exact MJ_add hJ hG hlt hoz hroom c_33 c_46 et ht)⟩
        · obtain ⟨t, ht, et⟩ := (MJ_ok hJ hlt).resolve_left c_33
          have hju := MJ_ap hJ hac hroom hi
          refine lv_aload_n hx hb dX0_moveOut_49 rfl (lv_at hl 0 rfl) ?_
          refine gx_tb C w dX0_moveOut_50 ?_
          refine lv_iload_n hx hb dX0_moveOut_53 rfl (lv_at hl 2 rfl) ?_
          refine lv_aload_n hx hb dX0_moveOut_54 rfl (lv_at hl 0 rfl) ?_
          refine lv_iload_n hx hb dX0_moveOut_55 rfl (lv_at hl 2 rfl) ?_
          refine lv_aload_n hx hb dX0_moveOut_56 rfl (lv_at hl 0 rfl) ?_
          refine gx_rv C w dX0_moveOut_57 ?_
          refine lv_aload_n hx hb dX0_moveOut_60 rfl (lv_at hl 0 rfl) ?_
          refine gx_tb C w dX0_moveOut_61 ?_
          refine lv_iload_n hx hb dX0_moveOut_64 rfl (lv_at hl 2 rfl) ?_
          refine lx_tb C w (k := i) rfl (by omega) dX0_moveOut_65 ?_
          refine lx_rv C w (k := t) et ht dX0_moveOut_66 ?_
          refine cx_i (As := [.int (nI i), .int (z_rv u t)]) (rest := [.int (nI i), .ref (a 6)]) C w hA (tX_append l dC dI cI cZ a _ u z (f + cb (lg_z (z_tb σ) (nI k)) i) (nI i) (z_rv u t) hz hju.1 hju.2.1 hju.2.2) (cwx_append C ⟨Nat.le_of_ble_eq_true rfl, Nat.le_of_ble_eq_true rfl⟩) rfl hl.1 rfl (Nat.le_of_ble_eq_true rfl) dX0_moveOut_67 ⟨Nat.zero_le _, Nat.zero_le _⟩ (fun r_67 u_67 H locs q_67 w => ?_)
          obtain ⟨rfl, rfl⟩ := q_67
          refine wx_tb C w (k := i) rfl (by omega) dX0_moveOut_70 (fun H locs w => ?_)
          refine lv_iinc (v := nI (i + 1)) (lv' := [(2, .int (nI (i + 1))), (0, .ref (a 0)), (1, .int (nI k))]) hx hb dX0_moveOut_71 hl (k := 2) rfl (nI_1 _) (by decide) rfl (fun ls hl => ?_)
          refine lv_goto (tgt := 20) hx hb dX0_moveOut_74 (by decide) ?_
          exact ih_20 (i + 1) (s_tb (apX u z (f + cb (lg_z (z_tb σ) (nI k)) i) (nI i) (z_rv u t)) (upd (z_tb (apX u z (f + cb (lg_z (z_tb σ) (nI k)) i) (nI i) (z_rv u t))) i (nI (12 * z + (f + cb (lg_z (z_tb σ) (nI k)) i))))) _ _ _ (by omega) ⟨w, lv_sub hl [1, 2, 0] rfl, by omega, (by first | exact MJ_skip hJ hlt (Or.inl c_33) | exact MJ_skip hJ hlt (Or.inr c_46) | exact MJ_add hJ hG hlt hoz hroom c_33 c_46 et ht)⟩

set_option maxHeartbeats 4000000 in
set_option maxRecDepth 100000 in
/-- makeRoom() -/
theorem tX_makeRoom (l : Launch) (dC : Nat → ClassId) (dI : Nat → Nat → Nat) (cI cZ : ClassId) (a : Nat → Nat) (sz : Nat) (σ : ZS) (G O : Nat) (hD : DV σ (z_tb σ) G) (hG : G + 1 < 2 ^ 31) (hE : EZ σ) (hO : z_on σ = nI O) (hO2 : O + 1 < 2 ^ 31) (hac : AC σ) : xMv l yX0_makeRoom cX0_makeRoom 3 none ({ frames := 2, cells := 0, slots := 0, locals := 45 }) dC dI cI cZ a σ sz [] (fun u => MR σ u G O) := by
  refine ex_v (by decide) rfl (Nat.le_of_ble_eq_true rfl) ?_
  intro p e s m args below meth c A ls C hr hlk hA w hl
  have hx := C.1.1
  have hb := C.1.2.1
  have hl : lv_has ls 3 [(0, .ref (a 0))] := hl
  refine lv_aload_n hx hb dX0_makeRoom_0 rfl (lv_at hl 0 rfl) ?_
  refine gx_ac C w dX0_makeRoom_1 ?_
  refine lv_iconst (v := -1) hx hb dX0_makeRoom_4 (by decide) ?_
  refine lv_icmp_eq (tgt := 28) hx hb dX0_makeRoom_5 (by decide) (fun c_5 => ?_) (fun c_5 => ?_)
  · refine lv_aload_n hx hb dX0_makeRoom_28 rfl (lv_at hl 0 rfl) ?_
    refine cx_v (As := []) (rest := []) C w hA (tX_openZone l dC dI cI cZ a _ σ hE) (cwx_openZone C ⟨Nat.le_of_ble_eq_true rfl, Nat.le_of_ble_eq_true rfl⟩) rfl hl.1 rfl (Nat.le_of_ble_eq_true rfl) dX0_makeRoom_29 ⟨Nat.zero_le _, Nat.zero_le _⟩ (fun u_29 H locs q_29 w => ?_)
    obtain ⟨zz, hzz, ozz, rfl⟩ := q_29
    refine lv_iconst (v := 0) hx hb dX0_makeRoom_32 (by decide) ?_
    refine lv_istore_n (lv' := [(1, .int 0), (0, .ref (a 0))]) hx hb dX0_makeRoom_33 rfl hl (by decide) rfl (fun ls hl => ?_)
    refine zx_loop2 (fun (i : Nat) (u : ZS) H locs ls => xW dC dI cI cZ a A s.heap H locs u ∧ lv_has ls 3 [(0, .ref (a 0)), (1, .int (nI i))] ∧ (i ≤ 6) ∧ (RJ σ G O zz i u)) (fun i u => 6 - i) ?_ 0 (opX σ zz) _ _ _ ⟨w, lv_sub hl [1, 0] rfl, Nat.zero_le _, RJ_0 hD hO hO2 hzz ozz⟩
    clear hl w
    rintro i u H locs ls ⟨w, hl, hi, hJ⟩ ih_34
    refine lv_iload_n hx hb dX0_makeRoom_34 rfl (lv_at hl 1 rfl) ?_
    refine lv_bipush (v := 6) hx hb dX0_makeRoom_35 (by decide) ?_
    refine lv_icmp_ge (tgt := 69) hx hb dX0_makeRoom_37 (by decide) (fun c_37 => ?_) (fun c_37 => ?_)
    · have hi6 : i = 6 := zi_ex (N := 6) (by decide) hi c_37
      exact rx_v C w hr hlk (RJ_end hJ hzz hi6) dX0_makeRoom_69
    · have hlt : i < 6 := zi_in (N := 6) (by decide) hi c_37
      refine lv_aload_n hx hb dX0_makeRoom_40 rfl (lv_at hl 0 rfl) ?_
      refine cx_r (As := []) (rest := []) C w hA (tX_poorest l dC dI cI cZ a _ u) (cwx_poorest C ⟨Nat.le_of_ble_eq_true rfl, Nat.le_of_ble_eq_true rfl⟩) rfl hl.1 rfl (Nat.le_of_ble_eq_true rfl) dX0_makeRoom_41 ⟨Nat.zero_le _, Nat.zero_le _⟩ (fun r_41 H locs q_41 w => ?_)
      refine lv_istore_n (lv' := [(2, .int r_41), (0, .ref (a 0)), (1, .int (nI i))]) hx hb dX0_makeRoom_44 rfl hl (by decide) rfl (fun ls hl => ?_)
      refine lv_aload_n hx hb dX0_makeRoom_45 rfl (lv_at hl 1 rfl) ?_
      refine cx_r (As := []) (rest := []) C w hA (tX_emptyZones l dC dI cI cZ a _ u) (cwx_emptyZones C ⟨Nat.le_of_ble_eq_true rfl, Nat.le_of_ble_eq_true rfl⟩) rfl hl.1 rfl (Nat.le_of_ble_eq_true rfl) dX0_makeRoom_46 ⟨Nat.zero_le _, Nat.zero_le _⟩ (fun r_46 H locs q_46 w => ?_)
      subst q_46
      refine lv_if_gt (tgt := 57) hx hb dX0_makeRoom_49 (by decide) (fun c_49 => ?_) (fun c_49 => ?_)
      · exact rx_v C w hr hlk (by first | exact RJ_ret hJ hzz (EZ_of c_49) | exact (RJ_no hJ hzz c_49 q_41 c_54).elim) dX0_makeRoom_57
      · refine lv_iload_n hx hb dX0_makeRoom_52 rfl (lv_at hl 0 rfl) ?_
        refine lv_iconst (v := -1) hx hb dX0_makeRoom_53 (by decide) ?_
        refine lv_icmp_ne (tgt := 58) hx hb dX0_makeRoom_54 (by decide) (fun c_54 => ?_) (fun c_54 => ?_)
        · obtain ⟨k, hk, ek, hcd, hmn⟩ := q_41.resolve_left (fun q => c_54 q.1)
          have hmo := RJ_mo hJ hzz c_49 hk hcd hmn
          refine lv_aload_n hx hb dX0_makeRoom_58 rfl (lv_at hl 1 rfl) ?_
          refine lv_iload_n hx hb dX0_makeRoom_59 rfl (lv_at hl 0 rfl) ?_
          refine zt_i (y := nI k) ek ?_
          refine cx_v (As := [.int (nI k)]) (rest := []) C w hA (tX_moveOut l dC dI cI cZ a _ u G k zz 0 hmo.1 hG hk hzz hmo.2.1 hmo.2.2.1 hmo.2.2.2.1 hmo.2.2.2.2.1 hmo.2.2.2.2.2) (cwx_moveOut C ⟨Nat.le_of_ble_eq_true rfl, Nat.le_of_ble_eq_true rfl⟩) rfl hl.1 rfl (Nat.le_of_ble_eq_true rfl) dX0_makeRoom_60 ⟨Nat.zero_le _, Nat.zero_le _⟩ (fun u_60 H locs q_60 w => ?_)
          refine lv_iinc (v := nI (i + 1)) (lv' := [(1, .int (nI (i + 1))), (2, .int r_41), (0, .ref (a 0))]) hx hb dX0_makeRoom_63 hl (k := 2) rfl (nI_1 _) (by decide) rfl (fun ls hl => ?_)
          refine lv_goto (tgt := 34) hx hb dX0_makeRoom_66 (by decide) ?_
          exact ih_34 (i + 1) u_60 _ _ _ (by omega) ⟨w, lv_sub hl [2, 0] rfl, by omega, RJ_next hJ hzz c_49 hk hcd hmn q_60⟩
        · exact rx_v C w hr hlk (by first | exact RJ_ret hJ hzz (EZ_of c_49) | exact (RJ_no hJ hzz c_49 q_41 c_54).elim) dX0_makeRoom_57
  · obtain ⟨z, hz, ez, oz⟩ := hac.resolve_left c_5
    obtain ⟨f, hf12, ef⟩ := hD.2.1 z hz
    refine lv_aload_n hx hb dX0_makeRoom_8 rfl (lv_at hl 0 rfl) ?_
    refine gx_fi C w dX0_makeRoom_9 ?_
    refine lv_aload_n hx hb dX0_makeRoom_12 rfl (lv_at hl 0 rfl) ?_
    refine gx_ac C w dX0_makeRoom_13 ?_
    refine lx_fi C w (k := z) ez hz dX0_makeRoom_16 ?_
    refine zt_i (y := nI f) ef ?_
    refine lv_bipush (v := 6) hx hb dX0_makeRoom_17 (by decide) ?_
    refine lv_iadd hx hb dX0_makeRoom_19 ?_
    refine zt_i (y := nI (f + 6)) (nI_add f 6) ?_
    refine lv_iconst (v := 1) hx hb dX0_makeRoom_20 (by decide) ?_
    refine lv_iadd hx hb dX0_makeRoom_21 ?_
    refine zt_i (y := nI (f + 6 + 1)) (nI_1 _) ?_
    refine lv_bipush (v := 12) hx hb dX0_makeRoom_22 (by decide) ?_
    refine lv_icmp_gt (tgt := 28) hx hb dX0_makeRoom_24 (by decide) (fun c_24 => ?_) (fun c_24 => ?_)
    · refine lv_aload_n hx hb dX0_makeRoom_28 rfl (lv_at hl 0 rfl) ?_
      refine cx_v (As := []) (rest := []) C w hA (tX_openZone l dC dI cI cZ a _ σ hE) (cwx_openZone C ⟨Nat.le_of_ble_eq_true rfl, Nat.le_of_ble_eq_true rfl⟩) rfl hl.1 rfl (Nat.le_of_ble_eq_true rfl) dX0_makeRoom_29 ⟨Nat.zero_le _, Nat.zero_le _⟩ (fun u_29 H locs q_29 w => ?_)
      obtain ⟨zz, hzz, ozz, rfl⟩ := q_29
      refine lv_iconst (v := 0) hx hb dX0_makeRoom_32 (by decide) ?_
      refine lv_istore_n (lv' := [(1, .int 0), (0, .ref (a 0))]) hx hb dX0_makeRoom_33 rfl hl (by decide) rfl (fun ls hl => ?_)
      refine zx_loop2 (fun (i : Nat) (u : ZS) H locs ls => xW dC dI cI cZ a A s.heap H locs u ∧ lv_has ls 3 [(0, .ref (a 0)), (1, .int (nI i))] ∧ (i ≤ 6) ∧ (RJ σ G O zz i u)) (fun i u => 6 - i) ?_ 0 (opX σ zz) _ _ _ ⟨w, lv_sub hl [1, 0] rfl, Nat.zero_le _, RJ_0 hD hO hO2 hzz ozz⟩
      clear hl w
      rintro i u H locs ls ⟨w, hl, hi, hJ⟩ ih_34
      refine lv_iload_n hx hb dX0_makeRoom_34 rfl (lv_at hl 1 rfl) ?_
      refine lv_bipush (v := 6) hx hb dX0_makeRoom_35 (by decide) ?_
      refine lv_icmp_ge (tgt := 69) hx hb dX0_makeRoom_37 (by decide) (fun c_37 => ?_) (fun c_37 => ?_)
      · have hi6 : i = 6 := zi_ex (N := 6) (by decide) hi c_37
        exact rx_v C w hr hlk (RJ_end hJ hzz hi6) dX0_makeRoom_69
      · have hlt : i < 6 := zi_in (N := 6) (by decide) hi c_37
        refine lv_aload_n hx hb dX0_makeRoom_40 rfl (lv_at hl 0 rfl) ?_
        refine cx_r (As := []) (rest := []) C w hA (tX_poorest l dC dI cI cZ a _ u) (cwx_poorest C ⟨Nat.le_of_ble_eq_true rfl, Nat.le_of_ble_eq_true rfl⟩) rfl hl.1 rfl (Nat.le_of_ble_eq_true rfl) dX0_makeRoom_41 ⟨Nat.zero_le _, Nat.zero_le _⟩ (fun r_41 H locs q_41 w => ?_)
        refine lv_istore_n (lv' := [(2, .int r_41), (0, .ref (a 0)), (1, .int (nI i))]) hx hb dX0_makeRoom_44 rfl hl (by decide) rfl (fun ls hl => ?_)
        refine lv_aload_n hx hb dX0_makeRoom_45 rfl (lv_at hl 1 rfl) ?_
        refine cx_r (As := []) (rest := []) C w hA (tX_emptyZones l dC dI cI cZ a _ u) (cwx_emptyZones C ⟨Nat.le_of_ble_eq_true rfl, Nat.le_of_ble_eq_true rfl⟩) rfl hl.1 rfl (Nat.le_of_ble_eq_true rfl) dX0_makeRoom_46 ⟨Nat.zero_le _, Nat.zero_le _⟩ (fun r_46 H locs q_46 w => ?_)
        subst q_46
        refine lv_if_gt (tgt := 57) hx hb dX0_makeRoom_49 (by decide) (fun c_49 => ?_) (fun c_49 => ?_)
        · exact rx_v C w hr hlk (by first | exact RJ_ret hJ hzz (EZ_of c_49) | exact (RJ_no hJ hzz c_49 q_41 c_54).elim) dX0_makeRoom_57
        · refine lv_iload_n hx hb dX0_makeRoom_52 rfl (lv_at hl 0 rfl) ?_
          refine lv_iconst (v := -1) hx hb dX0_makeRoom_53 (by decide) ?_
          refine lv_icmp_ne (tgt := 58) hx hb dX0_makeRoom_54 (by decide) (fun c_54 => ?_) (fun c_54 => ?_)
          · obtain ⟨k, hk, ek, hcd, hmn⟩ := q_41.resolve_left (fun q => c_54 q.1)
            have hmo := RJ_mo hJ hzz c_49 hk hcd hmn
            refine lv_aload_n hx hb dX0_makeRoom_58 rfl (lv_at hl 1 rfl) ?_
            refine lv_iload_n hx hb dX0_makeRoom_59 rfl (lv_at hl 0 rfl) ?_
            refine zt_i (y := nI k) ek ?_
            refine cx_v (As := [.int (nI k)]) (rest := []) C w hA (tX_moveOut l dC dI cI cZ a _ u G k zz 0 hmo.1 hG hk hzz hmo.2.1 hmo.2.2.1 hmo.2.2.2.1 hmo.2.2.2.2.1 hmo.2.2.2.2.2) (cwx_moveOut C ⟨Nat.le_of_ble_eq_true rfl, Nat.le_of_ble_eq_true rfl⟩) rfl hl.1 rfl (Nat.le_of_ble_eq_true rfl) dX0_makeRoom_60 ⟨Nat.zero_le _, Nat.zero_le _⟩ (fun u_60 H locs q_60 w => ?_)
            refine lv_iinc (v := nI (i + 1)) (lv' := [(1, .int (nI (i + 1))), (2, .int r_41), (0, .ref (a 0))]) hx hb dX0_makeRoom_63 hl (k := 2) rfl (nI_1 _) (by decide) rfl (fun ls hl => ?_)
            refine lv_goto (tgt := 34) hx hb dX0_makeRoom_66 (by decide) ?_
            exact ih_34 (i + 1) u_60 _ _ _ (by omega) ⟨w, lv_sub hl [2, 0] rfl, by omega, RJ_next hJ hzz c_49 hk hcd hmn q_60⟩
          · exact rx_v C w hr hlk (by first | exact RJ_ret hJ hzz (EZ_of c_49) | exact (RJ_no hJ hzz c_49 q_41 c_54).elim) dX0_makeRoom_57
    · exact rx_v C w hr hlk (MR_0 hD hE hO hz ez oz hf12 ef c_24) dX0_makeRoom_27
end
section
/-! the plain law of flush and recover -/
/-- flush(p) -/
def FP (σ u : ZS) (G O p : Nat) : Prop := ∃ G' O' : Nat, G' ≤ G + 2 ∧ O' ≤ O + 1 ∧ DV u (z_tb u) G' ∧ EZ u ∧ z_on u = nI O' ∧ AC u ∧ z_ca u = z_ca σ ∧ z_ru u = z_ru σ ∧ z_gr u = z_gr σ ∧ ((p = 3 ∧ (∀ b, b < 16 → vz (z_rv u) (z_tb u b) = cu σ b) ∧ ∀ b, b < 16 → z_di u b = 0) ∨ (¬ p = 3 ∧ Vs σ u ∧ z_di u = z_di σ))
theorem FP_ret {σ : ZS} {G O p : Nat} (hp : p ≤ 3) (hD : DV σ (z_tb σ) G) (hE : EZ σ) (hO : z_on σ = nI O) (hac : AC σ) (c : nI (cb (dg (z_di σ)) 16) = 0 ∨ nI p = 0) : FP σ σ G O p := by
  refine ⟨G, O, by omega, by omega, hD, hE, hO, hac, rfl, rfl, rfl, ?_⟩
  by_cases h3 : p = 3
  · refine Or.inl ⟨h3, ?_⟩
    have h0 : cb (dg (z_di σ)) 16 = 0 := by
      rcases c with c | c
      · have := cb_le (dg (z_di σ)) 16
        exact (nI_eq (b := 0) (by omega) (by decide)).mp c
      · have := (nI_eq (a := p) (b := 0) (by omega) (by decide)).mp c
        omega
    have hz : ∀ b, b < 16 → z_di σ b = 0 := by
      intro b hb
      have := of_decide_eq_false (cb_zero h0 b hb)
      exact Decidable.not_not.mp this
    exact ⟨fun b hb => (cu_f (hz b hb)).symm, hz⟩
  · exact Or.inr ⟨h3, fun _ _ => rfl, rfl⟩
def FJ (σ : ZS) (G p z f i w : Nat) (u : ZS) : Prop := ∃ P : ZF, FV u (z_tb σ) P (G + 1) z ∧ (∀ b, b < 16 → z_tb u b = if p = 3 then (if P b = -1 then z_tb σ b else P b) else z_tb σ b) ∧ (∀ b, b < 16 → ¬ P b = -1 → b < i ∧ ¬ z_di σ b = 0 ∧ vz (z_rv u) (P b) = z_ca σ b) ∧ (p = 3 → ∀ b, b < i → b < 16 → ¬ z_di σ b = 0 → ¬ P b = -1) ∧ (∀ b, b < 16 → vz (z_rv u) (z_tb σ b) = vz (z_rv σ) (z_tb σ b)) ∧ w ≤ cb (dg (z_di σ)) i ∧ z_fi u z = nI (f + w) ∧ z_op u = z_op σ ∧ z_ac u = z_ac σ ∧ z_on u = z_on σ ∧ Sm σ u
theorem FJ_0 {σ : ZS} {G p z f : Nat} (hD : DV σ (z_tb σ) G) (hG : G + 1 < 2 ^ 31) (hz : z < 6) (hf : z_fi σ z = nI f) : FJ σ G p z f 0 0 (s_gn σ (z_gn σ + 1)) := by
  refine ⟨fun _ => -1, Fl.start hD hz hG, fun b hb => ?_, fun b hb q => absurd rfl q, fun _ b hb => absurd hb (Nat.not_lt_zero _), fun _ _ => rfl, Nat.le_refl _, hf, rfl, rfl, rfl, ⟨rfl, rfl, rfl, rfl⟩⟩
  rw [if_pos rfl]
  split <;> rfl
theorem FJ_ap {σ u : ZS} {G p z f i w : Nat} (hJ : FJ σ G p z f i w u) (hac : z_ac σ = nI z) (hdc : cb (dg (z_di σ)) 16 ≤ 6) (hf : f + 7 ≤ 12) (hi : i ≤ 16) : z_ac u = nI z ∧ f + w < 12 ∧ z_fi u z = nI (f + w) := by
  obtain ⟨P, -, -, -, -, -, h6, h7, -, h8, -⟩ := hJ
  have : cb (dg (z_di σ)) i ≤ cb (dg (z_di σ)) 16 := cb_mono _ hi
  exact ⟨h8.trans hac, by omega, h7⟩
theorem FJ_skip {σ u : ZS} {G p z f i w : Nat} (hJ : FJ σ G p z f i w u) (c : z_di u i = 0 ∨ ¬ p = 3) : FJ σ G p z f (i + 1) w u := by
  obtain ⟨P, h1, h2, h3, h4, h5, h6, h7, h8, h9, h10, h11⟩ := hJ
  rw [h11.1] at c
  refine ⟨P, h1, h2, fun b hb q => ⟨by have := (h3 b hb q).1; omega, (h3 b hb q).2⟩, fun e b hb hb2 q => ?_, h5, Nat.le_trans h6 (cb_mono _ (by omega)), h7, h8, h9, h10, h11⟩
  rcases Nat.lt_or_ge b i with y | y
  · exact h4 e b y hb2 q
  · have : b = i := by omega
    subst this
    rcases c with c | c
    · exact absurd c q
    · exact absurd e c
theorem FJ_add {σ u : ZS} {G p z f i w : Nat} (hJ : FJ σ G p z f i w u) (hG : G + 1 < 2 ^ 31) (hi : i < 16) (hoz : ¬ z_op σ z = -1) (hF : f + w < 12) (c : ¬ z_di u i = 0) (u2 : ZS) (he : u2 = if p = 3 then s_tb (apX u z (f + w) (nI i) (z_ca u i)) (upd (z_tb u) i (nI (12 * z + (f + w)))) else apX u z (f + w) (nI i) (z_ca u i)) : FJ σ G p z f (i + 1) (w + 1) u2 := by
  obtain ⟨P, h1, h2, h3, h4, h5, h6, h7, h8, h9, h10, h11⟩ := hJ
  rw [h11.1] at c
  have hPi : P i = -1 := by
    by_cases q : P i = -1
    · exact q
    · exact absurd (h3 i hi q).1 (Nat.lt_irrefl _)
  have hz : z < 6 := h1.2.1
  have hadd := Fl.add h1 (by rw [h8]; exact hoz) hG hF h7 hi hPi
  have e1 : z_rb u2 = upd (z_rb u) (12 * z + (f + w)) (nI i) := by rw [he]; split <;> rfl
  have e2 : z_rv u2 = upd (z_rv u) (12 * z + (f + w)) (z_ca u i) := by rw [he]; split <;> rfl
  have e3 : z_rg u2 = upd (z_rg u) (12 * z + (f + w)) (z_gn u) := by rw [he]; split <;> rfl
  have e4 : z_fi u2 = upd (z_fi u) z (nI (f + w + 1)) := by rw [he]; split <;> rfl
  have e5 : z_op u2 = z_op u := by rw [he]; split <;> rfl
  have e6 : z_gn u2 = z_gn u := by rw [he]; split <;> rfl
  have e7 : z_tb u2 = if p = 3 then upd (z_tb u) i (nI (12 * z + (f + w))) else z_tb u := by rw [he]; split <;> rfl
  have e8 : z_ac u2 = z_ac u := by rw [he]; split <;> rfl
  have e9 : z_on u2 = z_on u := by rw [he]; split <;> rfl
  have e10 : Sm u u2 := by rw [he]; split <;> exact ⟨rfl, rfl, rfl, rfl⟩
  refine ⟨upd P i (nI (12 * z + (f + w))), ?_, fun b hb => ?_, fun b hb q => ?_, fun e b hb hb2 q => ?_, fun b hb => ?_, ?_, ?_, e5.trans h8, e8.trans h9, e9.trans h10, ⟨e10.1.trans h11.1, e10.2.1.trans h11.2.1, e10.2.2.1.trans h11.2.2.1, e10.2.2.2.trans h11.2.2.2⟩⟩
  · show Fl (z_rb u2) (z_rg u2) (z_fi u2) (z_op u2) _ _ (z_gn u2) _ _
    rw [e1, e3, e4, e5, e6]
    exact hadd
  · rw [e7]
    by_cases h3p : p = 3
    · rw [if_pos h3p, if_pos h3p]
      by_cases e : b = i
      · subst e
        rw [pk_us, pk_us, if_neg (zi_m1 (by omega))]
      · rw [pk_un e, pk_un e]
        have := h2 b hb
        rw [if_pos h3p] at this
        exact this
    · rw [if_neg h3p, if_neg h3p]
      have := h2 b hb
      rw [if_neg h3p] at this
      exact this
  · rw [e2]
    by_cases e : b = i
    · subst e
      rw [pk_us, vz_at rfl (by omega), pk_us, h11.2.1]
      exact ⟨by omega, c, rfl⟩
    · rw [pk_un e] at q ⊢
      obtain ⟨q1, q2, q3⟩ := h3 b hb q
      obtain ⟨t2, d1, d2, -⟩ := (h1.2.2.2 b hb).resolve_left q
      exact ⟨by omega, q2, by rw [vz_add hF h7 (Or.inr ⟨t2, d1, d2⟩)]; exact q3⟩
  · by_cases e0 : b = i
    · subst e0
      rw [pk_us]
      exact zi_m1 (by omega)
    · rw [pk_un e0]
      exact h4 e b (by omega) hb2 q
  · rw [e2, vz_add hF h7 (h1.1.tl b hb)]
    exact h5 b hb
  · rw [cb_t (decide_eq_true c)]
    omega
  · rw [e4, pk_us, Nat.add_assoc]
theorem FP_1 {σ0 σ u : ZS} {G0 O0 G O p z f i w : Nat} (hJ : FJ σ G p z f i w u) (hG : G ≤ G0 + 1) (hO : O ≤ O0 + 1) (eO : z_on σ = nI O) (hE : EZ σ) (hz : z < 6) (ez : z_ac σ = nI z) (hoz : ¬ z_op σ z = -1) (hv : Vs σ0 σ) (hs : Sm σ0 σ) (c : ¬ p = 3) : FP σ0 u G0 O0 p := by
  obtain ⟨P, h1, h2, h3, h4, h5, h6, h7, h8, h9, h10, h11⟩ := hJ
  have ht : ∀ b, b < 16 → z_tb u b = z_tb σ b := fun b hb => by rw [h2 b hb, if_neg c]
  refine ⟨G + 1, O, by omega, hO, h1.1.congr ht, ?_, h10.trans eO, Or.inr ⟨z, hz, h9.trans ez, by rw [h8]; exact hoz⟩, h11.2.1.trans hs.2.1, h11.2.2.1.trans hs.2.2.1, h11.2.2.2.trans hs.2.2.2, Or.inr ⟨c, fun b hb => ?_, h11.1.trans hs.1⟩⟩
  · obtain ⟨y, y1, y2⟩ := hE
    exact ⟨y, y1, by rw [h8]; exact y2⟩
  · rw [ht b hb, h5 b hb]
    exact hv b hb
theorem FP_3 {σ0 σ u : ZS} {G0 O0 G O p z f i w : Nat} (hJ : FJ σ G p z f i w u) (hi6 : i = 16) (hG2 : G + 1 < 2 ^ 31) (hF : f + w < 12) (hG : G ≤ G0 + 1) (hO : O ≤ O0 + 1) (eO : z_on σ = nI O) (hE : EZ σ) (hz : z < 6) (ez : z_ac σ = nI z) (hoz : ¬ z_op σ z = -1) (hv : Vs σ0 σ) (hs : Sm σ0 σ) (c : p = 3) (u2 : ZS) (he : u2 = s_di (apX u z (f + w) 16 0) (ctn 16 (fun _ => 0) (z_di (apX u z (f + w) 16 0)))) : FP σ0 u2 G0 O0 p := by
  subst hi6
  obtain ⟨P, h1, h2, h3, h4, h5, h6, h7, h8, h9, h10, h11⟩ := hJ
  have ht : ∀ b, b < 16 → z_tb u b = if P b = -1 then z_tb σ b else P b := fun b hb => by rw [h2 b hb, if_pos c]
  have hm := Fl.mark h1 (by rw [h8]; exact hoz) hG2 hF h7 (T' := z_tb u) ht
  subst he
  refine ⟨G + 1, O, by omega, hO, hm, ?_, h10.trans eO, Or.inr ⟨z, hz, h9.trans ez, ?_⟩, h11.2.1.trans hs.2.1, h11.2.2.1.trans hs.2.2.1, h11.2.2.2.trans hs.2.2.2, Or.inl ⟨c, fun b hb => ?_, fun b hb => ctn_in (f := fun _ => 0) (g := z_di (apX u z (f + w) 16 0)) hb⟩⟩
  · obtain ⟨y, y1, y2⟩ := hE
    exact ⟨y, y1, by show z_op u y = -1; rw [h8]; exact y2⟩
  · show ¬ z_op u z = -1
    rw [h8]; exact hoz
  · show vz (upd (z_rv u) (12 * z + (f + w)) 0) (z_tb u b) = cu σ0 b
    by_cases q : P b = -1
    · have hd : z_di σ0 b = 0 := by
        rw [← hs.1]
        by_cases y : z_di σ b = 0
        · exact y
        · exact absurd q (h4 c b hb hb y)
      rw [ht b hb, if_pos q, vz_add hF h7 (h1.1.tl b hb), h5 b hb, cu_f hd]
      exact hv b hb
    · obtain ⟨q1, q2, q3⟩ := h3 b hb q
      obtain ⟨t2, d1, d2, -⟩ := (h1.2.2.2 b hb).resolve_left q
      rw [ht b hb, if_neg q, vz_add hF h7 (Or.inr ⟨t2, d1, d2⟩), q3, cu_t (by rw [← hs.1]; exact q2), hs.2.1]
/-- recover() -/
def CR (σ : ZS) (b t : Nat) : Prop := lve (z_fi σ) t ∧ z_rb σ t = nI b ∧ mkd (z_rb σ) (z_rg σ) (z_fi σ) (z_rg σ t)
def VJ (σ : ZS) (i : Nat) (tb : ZF) : Prop := ∀ b, b < 16 → (tb b = -1 ∧ ∀ t, t < i → ¬ CR σ b t) ∨ ∃ t, t < i ∧ t < 72 ∧ tb b = nI t ∧ CR σ b t ∧ ∀ t', t' < i → CR σ b t' → z_rg σ t' ≤ z_rg σ t
theorem zi_lerf (x : Int32) : x ≤ x := by rw [Int32.le_iff_toInt_le]; omega
theorem zi_letr {x y z : Int32} (h : x ≤ y) (h2 : y ≤ z) : x ≤ z := by
  rw [Int32.le_iff_toInt_le] at *
  omega
theorem zi_ltle {x y : Int32} (h : ¬ y ≤ x) : x ≤ y := by
  rw [Int32.le_iff_toInt_le] at *
  omega
theorem VJ_0 {σ : ZS} (h : ∀ b, b < 16 → z_tb σ b = -1) : VJ σ 0 (z_tb σ) := fun b hb => Or.inl ⟨h b hb, fun _ q => absurd q (Nat.not_lt_zero _)⟩
theorem VJ_ok {σ : ZS} {i b : Nat} {tb : ZF} (h : VJ σ i tb) (hb : b < 16) : okT (tb b) := by
  rcases h b hb with ⟨e, -⟩ | ⟨t, -, h2, h3, -⟩
  · exact Or.inl e
  · exact Or.inr ⟨t, h2, h3⟩
theorem VJ_b {σ : ZS} {T : ZF} {G i : Nat} (hD : DV σ T G) (hl : lve (z_fi σ) i) (c : ¬ z_rb σ i = 16) : ∃ b, b < 16 ∧ z_rb σ i = nI b := by
  obtain ⟨⟨b, h1, h2⟩, -⟩ := hD.2.2.2.1 i hl
  refine ⟨b, ?_, h2⟩
  rcases Nat.lt_or_ge b 16 with q | q
  · exact q
  · exact absurd (by rw [h2, show b = 16 by omega]; rfl) c
theorem VJ_skip {σ : ZS} {i : Nat} {tb : ZF} (h : VJ σ i tb) (hn : ∀ b, b < 16 → ¬ CR σ b i) : VJ σ (i + 1) tb := by
  intro b hb
  rcases h b hb with ⟨e, h⟩ | ⟨t, h1, h2, h3, h4, h5⟩
  · exact Or.inl ⟨e, lt_s h (hn b hb)⟩
  · exact Or.inr ⟨t, by omega, h2, h3, h4, lt_s h5 (fun q => absurd q (hn b hb))⟩
theorem CR_one {σ : ZS} {i b b' : Nat} (hb : b < 16) (hb' : b' < 16) (e : z_rb σ i = nI b) (h : CR σ b' i) : b' = b := by
  have := h.2.1
  rw [e] at this
  exact ((nI_eq (by omega) (by omega)).mp this).symm
theorem VJ_keep {σ : ZS} {i b t : Nat} {tb : ZF} (h : VJ σ i tb) (hb : b < 16) (eb : z_rb σ i = nI b) (et : tb b = nI t) (ht : t < 72) (c : z_rg σ i ≤ z_rg σ t) : VJ σ (i + 1) tb := by
  intro b' hb'
  by_cases e : b' = b
  · subst e
    rcases h b' hb' with ⟨e, h⟩ | ⟨t', h1, h2, h3, h4, h5⟩
    · rw [et] at e
      exact absurd e (zi_m1 (by omega))
    · rw [et] at h3
      have := (nI_eq (by omega) (by omega)).mp h3
      subst this
      exact Or.inr ⟨t, by omega, h2, et, h4, lt_s h5 (fun _ => c)⟩
  · rcases h b' hb' with ⟨e1, h⟩ | ⟨t', h1, h2, h3, h4, h5⟩
    · exact Or.inl ⟨e1, lt_s h (fun q => e (CR_one hb hb' eb q))⟩
    · exact Or.inr ⟨t', by omega, h2, h3, h4, lt_s h5 (fun q => absurd (CR_one hb hb' eb q) e)⟩
theorem VJ_set {σ : ZS} {i b : Nat} {tb : ZF} (h : VJ σ i tb) (hi : i < 72) (hb : b < 16) (hc : CR σ b i) (c : tb b = -1 ∨ ∃ t, tb b = nI t ∧ t < 72 ∧ ¬ z_rg σ i ≤ z_rg σ t) : VJ σ (i + 1) (upd tb b (nI i)) := by
  intro b' hb'
  by_cases e : b' = b
  · subst e
    rw [pk_us]
    refine Or.inr ⟨i, by omega, hi, rfl, hc, lt_s (fun t' ht' q => ?_) (fun _ => zi_lerf _)⟩
    rcases h b' hb' with ⟨e, h⟩ | ⟨t2, h1, h2, h3, h4, h5⟩
    · exact absurd q (h t' ht')
    · rcases c with c | ⟨t, c1, c2, c3⟩
      · rw [h3] at c
        exact absurd c (zi_m1 (by omega))
      · rw [h3] at c1
        have := (nI_eq (by omega) (by omega)).mp c1
        subst this
        exact zi_letr (h5 t' ht' q) (zi_ltle c3)
  · rw [pk_un e]
    rcases h b' hb' with ⟨e1, h⟩ | ⟨t', h1, h2, h3, h4, h5⟩
    · exact Or.inl ⟨e1, lt_s h (fun q => e (CR_one hb hb' hc.2.1 q))⟩
    · exact Or.inr ⟨t', by omega, h2, h3, h4, lt_s h5 (fun q => absurd (CR_one hb hb' hc.2.1 q) e)⟩
theorem VJ_end {σ : ZS} {T tb : ZF} {G i : Nat} (hD : DV σ T G) (h : VJ σ i tb) (hi : i = 72) : ∀ b, b < 16 → tb b = T b := by
  subst hi
  intro b hb
  obtain ⟨h1, h2, h3, h4, h5, h6, h7⟩ := hD
  rcases h b hb with ⟨e, q⟩ | ⟨t, q1, q2, q3, q4, q5⟩
  · rcases h6 b hb with c | ⟨t, c1, c2, c3, c4⟩
    · rw [e, c]
    · exact absurd ⟨c2, c3, c4⟩ (q t c2.1)
  · obtain ⟨t', d1, d2, d3⟩ := h7 b t hb q4.1 q4.2.1 q4.2.2
    rw [q3, d2]
    rcases d3 with d3 | d3
    · rw [d3]
    · rcases h6 b hb with c | ⟨t2, c1, c2, c3, c4⟩
      · rw [d2] at c
        exact absurd c (zi_m1 (by omega))
      · rw [d2] at c1
        have := (nI_eq (by omega) (by have := c2.1; omega)).mp c1
        subst this
        exact absurd d3 (zi_nlt (q5 t' c2.1 ⟨c2, c3, c4⟩))
def RP (σ u : ZS) (T : ZF) : Prop := (∀ b, b < 16 → z_tb u b = T b) ∧ AC u ∧ u = s_ac (s_tb σ (z_tb u)) (z_ac u)
def AJ (σ : ZS) (ac : Int32) : Prop := ac = -1 ∨ ∃ z, z < 6 ∧ ac = nI z ∧ ¬ z_op σ z = -1
end
section
/-! the store: flush and recover -/
theorem FJ_p1 {p : Nat} (hp : p ≤ 3) (c : ¬ (1 : Int32) < nI p) : ¬ p = 3 := by
  intro e
  subst e
  exact c (by decide)
theorem FJ_p2 {p : Nat} (hp : p ≤ 3) (c : ¬ nI p = 3) : ¬ p = 3 := by
  intro e
  subst e
  exact c rfl
theorem FJ_p3 {p : Nat} (hp : p ≤ 3) (c : nI p = 3) : p = 3 := (nI_eq (a := p) (b := 3) (by omega) (by decide)).mp c
set_option maxHeartbeats 4000000 in
set_option maxRecDepth 100000 in
/-- flush(p) -/
theorem tX_flush (l : Launch) (dC : Nat → ClassId) (dI : Nat → Nat → Nat) (cI cZ : ClassId) (a : Nat → Nat) (sz : Nat) (σ : ZS) (G O p0 : Nat) (hp : p0 ≤ 3) (hD : DV σ (z_tb σ) G) (hG : G + 2 < 2 ^ 31) (hE : EZ σ) (hO : z_on σ = nI O) (hO2 : O + 1 < 2 ^ 31) (hac : AC σ) (hdc : cb (dg (z_di σ)) 16 ≤ 6) : xMv l yX0_flush cX0_flush 6 none ({ frames := 3, cells := 0, slots := 0, locals := 67 }) dC dI cI cZ a σ sz [.int (nI p0)] (fun u => FP σ u G O p0) := by
  refine ex_v (by decide) rfl (Nat.le_of_ble_eq_true rfl) ?_
  intro p e s m args below meth c A ls C hr hlk hA w hl
  have hx := C.1.1
  have hb := C.1.2.1
  have hl : lv_has ls 6 [(0, .ref (a 0)), (1, .int (nI p0))] := hl
  refine lv_aload_n hx hb dX0_flush_0 rfl (lv_at hl 0 rfl) ?_
  refine cx_r (As := []) (rest := []) C w hA (tX_dirtyCount l dC dI cI cZ a _ σ) (cwx_dirtyCount C ⟨Nat.le_of_ble_eq_true rfl, Nat.le_of_ble_eq_true rfl⟩) rfl hl.1 rfl (Nat.le_of_ble_eq_true rfl) dX0_flush_1 ⟨Nat.zero_le _, Nat.zero_le _⟩ (fun r_1 H locs q_1 w => ?_)
  subst q_1
  refine lv_istore_n (lv' := [(2, .int (nI (cb (dg (z_di σ)) 16))), (0, .ref (a 0)), (1, .int (nI p0))]) hx hb dX0_flush_4 rfl hl (by decide) rfl (fun ls hl => ?_)
  refine lv_iload_n hx hb dX0_flush_5 rfl (lv_at hl 0 rfl) ?_
  refine lv_if_eq (tgt := 13) hx hb dX0_flush_6 (by decide) (fun c_6 => ?_) (fun c_6 => ?_)
  · exact rx_v C w hr hlk (FP_ret hp hD hE hO hac (by first | exact Or.inl c_6 | exact Or.inr c_10)) dX0_flush_13
  · refine lv_iload_n hx hb dX0_flush_9 rfl (lv_at hl 2 rfl) ?_
    refine lv_if_ne (tgt := 14) hx hb dX0_flush_10 (by decide) (fun c_10 => ?_) (fun c_10 => ?_)
    · refine lv_aload_n hx hb dX0_flush_14 rfl (lv_at hl 1 rfl) ?_
      refine cx_v (As := []) (rest := []) C w hA (tX_makeRoom l dC dI cI cZ a _ σ G O hD (by omega) hE hO hO2 hac) (cwx_makeRoom C ⟨Nat.le_of_ble_eq_true rfl, Nat.le_of_ble_eq_true rfl⟩) rfl hl.1 rfl (Nat.le_of_ble_eq_true rfl) dX0_flush_15 ⟨Nat.zero_le _, Nat.zero_le _⟩ (fun u_15 H locs q_15 w => ?_)
      obtain ⟨G1, O1, z, f, hG1, hO1, hD1, hE1, eO1, hz, ez, oz, ef, hf7, hv1, hs1⟩ := q_15
      have hG2 : G1 + 1 < 2 ^ 31 := by omega
      have hdc1 : cb (dg (z_di u_15)) 16 ≤ 6 := by rw [hs1.1]; exact hdc
      refine lv_aload_n hx hb dX0_flush_18 rfl (lv_at hl 1 rfl) ?_
      refine lv_dup hx hb dX0_flush_19 rfl ?_
      refine gx_gn C w dX0_flush_20 ?_
      refine lv_iconst (v := 1) hx hb dX0_flush_23 (by decide) ?_
      refine lv_iadd hx hb dX0_flush_24 ?_
      refine px_gn C w dX0_flush_25 (fun H locs w => ?_)
      refine lv_iconst (v := 0) hx hb dX0_flush_28 (by decide) ?_
      refine lv_istore_n (lv' := [(3, .int 0), (2, .int (nI (cb (dg (z_di σ)) 16))), (0, .ref (a 0)), (1, .int (nI p0))]) hx hb dX0_flush_29 rfl hl (by decide) rfl (fun ls hl => ?_)
      refine lv_iconst (v := 0) hx hb dX0_flush_30 (by decide) ?_
      refine lv_istore (lv' := [(4, .int 0), (3, .int 0), (2, .int (nI (cb (dg (z_di σ)) 16))), (0, .ref (a 0)), (1, .int (nI p0))]) hx hb dX0_flush_31 hl (by decide) rfl (fun ls hl => ?_)
      refine zx_loop3 (fun (i : Nat) (v : Nat) (u : ZS) H locs ls => xW dC dI cI cZ a A s.heap H locs u ∧ lv_has ls 6 [(0, .ref (a 0)), (1, .int (nI p0)), (2, .int (nI (cb (dg (z_di σ)) 16))), (3, .int (nI v)), (4, .int (nI i))] ∧ (i ≤ 16) ∧ (FJ u_15 G1 p0 z f i v u)) (fun i v u => 16 - i) ?_ 0 0 (s_gn u_15 ((z_gn u_15) + 1)) _ _ _ ⟨w, lv_sub hl [3, 4, 2, 1, 0] rfl, Nat.zero_le _, FJ_0 hD1 hG2 hz ef⟩
      clear hl w
      rintro i v u H locs ls ⟨w, hl, hi, hJ⟩ ih_33
      refine lv_iload hx hb dX0_flush_33 (lv_at hl 4 rfl) ?_
      refine lv_bipush (v := 16) hx hb dX0_flush_35 (by decide) ?_
      refine lv_icmp_ge (tgt := 100) hx hb dX0_flush_37 (by decide) (fun c_37 => ?_) (fun c_37 => ?_)
      · have hi6 : i = 16 := zi_ex (N := 16) (by decide) hi c_37
        refine lv_iload_n hx hb dX0_flush_100 rfl (lv_at hl 1 rfl) ?_
        refine lv_iconst (v := 3) hx hb dX0_flush_101 (by decide) ?_
        refine lv_icmp_ne (tgt := 117) hx hb dX0_flush_102 (by decide) (fun c_102 => ?_) (fun c_102 => ?_)
        · exact rx_v C w hr hlk (by first | exact FP_1 hJ hG1 hO1 eO1 hE1 hz ez oz hv1 hs1 (FJ_p2 hp c_102) | exact FP_3 hJ hi6 hG2 hju.2.1 hG1 hO1 eO1 hE1 hz ez oz hv1 hs1 (FJ_p3 hp c_102) _ q_114) dX0_flush_117
        · have hju := FJ_ap hJ ez hdc1 hf7 hi
          refine lv_aload_n hx hb dX0_flush_105 rfl (lv_at hl 0 rfl) ?_
          refine lv_bipush (v := 16) hx hb dX0_flush_106 (by decide) ?_
          refine lv_iconst (v := 0) hx hb dX0_flush_108 (by decide) ?_
          refine cx_i (As := [.int 16, .int 0]) (rest := []) C w hA (tX_append l dC dI cI cZ a _ u z (f + v) 16 0 hz hju.1 hju.2.1 hju.2.2) (cwx_append C ⟨Nat.le_of_ble_eq_true rfl, Nat.le_of_ble_eq_true rfl⟩) rfl hl.1 rfl (Nat.le_of_ble_eq_true rfl) dX0_flush_109 ⟨Nat.zero_le _, Nat.zero_le _⟩ (fun r_109 u_109 H locs q_109 w => ?_)
          obtain ⟨rfl, rfl⟩ := q_109
          refine lv_pop hx hb dX0_flush_112 rfl ?_
          refine lv_aload_n hx hb dX0_flush_113 rfl (lv_at hl 0 rfl) ?_
          refine cx_v (As := []) (rest := []) C w hA (tX_dropCache l dC dI cI cZ a _ (apX u z (f + v) 16 0)) (cwx_dropCache C ⟨Nat.le_of_ble_eq_true rfl, Nat.le_of_ble_eq_true rfl⟩) rfl hl.1 rfl (Nat.le_of_ble_eq_true rfl) dX0_flush_114 ⟨Nat.zero_le _, Nat.zero_le _⟩ (fun u_114 H locs q_114 w => ?_)
          exact rx_v C w hr hlk (by first | exact FP_1 hJ hG1 hO1 eO1 hE1 hz ez oz hv1 hs1 (FJ_p2 hp c_102) | exact FP_3 hJ hi6 hG2 hju.2.1 hG1 hO1 eO1 hE1 hz ez oz hv1 hs1 (FJ_p3 hp c_102) _ q_114) dX0_flush_117
      · have hlt : i < 16 := zi_in (N := 16) (by decide) hi c_37
        refine lv_aload_n hx hb dX0_flush_40 rfl (lv_at hl 0 rfl) ?_
        refine gx_di C w dX0_flush_41 ?_
        refine lv_iload hx hb dX0_flush_44 (lv_at hl 4 rfl) ?_
        refine lx_di C w (k := i) rfl (by omega) dX0_flush_46 ?_
        refine lv_if_eq (tgt := 94) hx hb dX0_flush_47 (by decide) (fun c_47 => ?_) (fun c_47 => ?_)
        · refine lv_iinc (v := nI (i + 1)) (lv' := [(4, .int (nI (i + 1))), (0, .ref (a 0)), (1, .int (nI p0)), (2, .int (nI (cb (dg (z_di σ)) 16))), (3, .int (nI v))]) hx hb dX0_flush_94 hl (k := 4) rfl (nI_1 _) (by decide) rfl (fun ls hl => ?_)
          refine lv_goto (tgt := 33) hx hb dX0_flush_97 (by decide) ?_
          exact ih_33 (i + 1) v u _ _ _ (by omega) ⟨w, lv_sub hl [1, 2, 3, 4, 0] rfl, by omega, (by first | exact FJ_skip hJ (Or.inl c_47) | exact FJ_skip hJ (Or.inr (FJ_p1 hp c_52)) | exact FJ_add hJ hG2 hlt oz hju.2.1 c_47 _ (by rw [if_neg (FJ_p2 hp c_82)]) | exact FJ_add hJ hG2 hlt oz hju.2.1 c_47 _ (by rw [if_pos (FJ_p3 hp c_82)]; rfl))⟩
        · refine lv_iload_n hx hb dX0_flush_50 rfl (lv_at hl 1 rfl) ?_
          refine lv_iconst (v := 1) hx hb dX0_flush_51 (by decide) ?_
          refine lv_icmp_gt (tgt := 62) hx hb dX0_flush_52 (by decide) (fun c_52 => ?_) (fun c_52 => ?_)
          · have hju := FJ_ap hJ ez hdc1 hf7 hi
            refine lv_aload_n hx hb dX0_flush_62 rfl (lv_at hl 0 rfl) ?_
            refine lv_iload hx hb dX0_flush_63 (lv_at hl 4 rfl) ?_
            refine lv_aload_n hx hb dX0_flush_65 rfl (lv_at hl 0 rfl) ?_
            refine gx_ca C w dX0_flush_66 ?_
            refine lv_iload hx hb dX0_flush_69 (lv_at hl 4 rfl) ?_
            refine lx_ca C w (k := i) rfl (by omega) dX0_flush_71 ?_
            refine cx_i (As := [.int (nI i), .int (z_ca u i)]) (rest := []) C w hA (tX_append l dC dI cI cZ a _ u z (f + v) (nI i) (z_ca u i) hz hju.1 hju.2.1 hju.2.2) (cwx_append C ⟨Nat.le_of_ble_eq_true rfl, Nat.le_of_ble_eq_true rfl⟩) rfl hl.1 rfl (Nat.le_of_ble_eq_true rfl) dX0_flush_72 ⟨Nat.zero_le _, Nat.zero_le _⟩ (fun r_72 u_72 H locs q_72 w => ?_)
            obtain ⟨rfl, rfl⟩ := q_72
            refine lv_istore (lv' := [(5, .int (nI (12 * z + (f + v)))), (0, .ref (a 0)), (1, .int (nI p0)), (2, .int (nI (cb (dg (z_di σ)) 16))), (3, .int (nI v)), (4, .int (nI i))]) hx hb dX0_flush_75 hl (by decide) rfl (fun ls hl => ?_)
            refine lv_iinc (v := nI (v + 1)) (lv' := [(3, .int (nI (v + 1))), (5, .int (nI (12 * z + (f + v)))), (0, .ref (a 0)), (1, .int (nI p0)), (2, .int (nI (cb (dg (z_di σ)) 16))), (4, .int (nI i))]) hx hb dX0_flush_77 hl (k := 4) rfl (nI_1 _) (by decide) rfl (fun ls hl => ?_)
            refine lv_iload_n hx hb dX0_flush_80 rfl (lv_at hl 3 rfl) ?_
            refine lv_iconst (v := 3) hx hb dX0_flush_81 (by decide) ?_
            refine lv_icmp_ne (tgt := 94) hx hb dX0_flush_82 (by decide) (fun c_82 => ?_) (fun c_82 => ?_)
            · refine lv_iinc (v := nI (i + 1)) (lv' := [(4, .int (nI (i + 1))), (3, .int (nI (v + 1))), (5, .int (nI (12 * z + (f + v)))), (0, .ref (a 0)), (1, .int (nI p0)), (2, .int (nI (cb (dg (z_di σ)) 16)))]) hx hb dX0_flush_94 hl (k := 5) rfl (nI_1 _) (by decide) rfl (fun ls hl => ?_)
              refine lv_goto (tgt := 33) hx hb dX0_flush_97 (by decide) ?_
              exact ih_33 (i + 1) (v + 1) (apX u z (f + v) (nI i) (z_ca u i)) _ _ _ (by omega) ⟨w, lv_sub hl [3, 4, 5, 1, 0] rfl, by omega, (by first | exact FJ_skip hJ (Or.inl c_47) | exact FJ_skip hJ (Or.inr (FJ_p1 hp c_52)) | exact FJ_add hJ hG2 hlt oz hju.2.1 c_47 _ (by rw [if_neg (FJ_p2 hp c_82)]) | exact FJ_add hJ hG2 hlt oz hju.2.1 c_47 _ (by rw [if_pos (FJ_p3 hp c_82)]; rfl))⟩
            · refine lv_aload_n hx hb dX0_flush_85 rfl (lv_at hl 2 rfl) ?_
              refine gx_tb C w dX0_flush_86 ?_
              refine lv_iload hx hb dX0_flush_89 (lv_at hl 5 rfl) ?_
              refine lv_iload hx hb dX0_flush_91 (lv_at hl 1 rfl) ?_
              refine wx_tb C w (k := i) rfl (by omega) dX0_flush_93 (fun H locs w => ?_)
              refine lv_iinc (v := nI (i + 1)) (lv' := [(4, .int (nI (i + 1))), (3, .int (nI (v + 1))), (5, .int (nI (12 * z + (f + v)))), (0, .ref (a 0)), (1, .int (nI p0)), (2, .int (nI (cb (dg (z_di σ)) 16)))]) hx hb dX0_flush_94 hl (k := 5) rfl (nI_1 _) (by decide) rfl (fun ls hl => ?_)
              refine lv_goto (tgt := 33) hx hb dX0_flush_97 (by decide) ?_
              exact ih_33 (i + 1) (v + 1) (s_tb (apX u z (f + v) (nI i) (z_ca u i)) (upd (z_tb (apX u z (f + v) (nI i) (z_ca u i))) i (nI (12 * z + (f + v))))) _ _ _ (by omega) ⟨w, lv_sub hl [3, 4, 5, 1, 0] rfl, by omega, (by first | exact FJ_skip hJ (Or.inl c_47) | exact FJ_skip hJ (Or.inr (FJ_p1 hp c_52)) | exact FJ_add hJ hG2 hlt oz hju.2.1 c_47 _ (by rw [if_neg (FJ_p2 hp c_82)]) | exact FJ_add hJ hG2 hlt oz hju.2.1 c_47 _ (by rw [if_pos (FJ_p3 hp c_82)]; rfl))⟩
          · refine lv_iconst (v := 2) hx hb dX0_flush_55 (by decide) ?_
            refine lv_iload_n hx hb dX0_flush_56 rfl (lv_at hl 3 rfl) ?_
            refine lv_imul hx hb dX0_flush_57 ?_
            refine lv_iload_n hx hb dX0_flush_58 rfl (lv_at hl 2 rfl) ?_
            refine lv_icmp_ge (tgt := 94) hx hb dX0_flush_59 (by decide) (fun c_59 => ?_) (fun c_59 => ?_)
            · refine lv_iinc (v := nI (i + 1)) (lv' := [(4, .int (nI (i + 1))), (0, .ref (a 0)), (1, .int (nI p0)), (2, .int (nI (cb (dg (z_di σ)) 16))), (3, .int (nI v))]) hx hb dX0_flush_94 hl (k := 4) rfl (nI_1 _) (by decide) rfl (fun ls hl => ?_)
              refine lv_goto (tgt := 33) hx hb dX0_flush_97 (by decide) ?_
              exact ih_33 (i + 1) v u _ _ _ (by omega) ⟨w, lv_sub hl [1, 2, 3, 4, 0] rfl, by omega, (by first | exact FJ_skip hJ (Or.inl c_47) | exact FJ_skip hJ (Or.inr (FJ_p1 hp c_52)) | exact FJ_add hJ hG2 hlt oz hju.2.1 c_47 _ (by rw [if_neg (FJ_p2 hp c_82)]) | exact FJ_add hJ hG2 hlt oz hju.2.1 c_47 _ (by rw [if_pos (FJ_p3 hp c_82)]; rfl))⟩
            · have hju := FJ_ap hJ ez hdc1 hf7 hi
              refine lv_aload_n hx hb dX0_flush_62 rfl (lv_at hl 0 rfl) ?_
              refine lv_iload hx hb dX0_flush_63 (lv_at hl 4 rfl) ?_
              refine lv_aload_n hx hb dX0_flush_65 rfl (lv_at hl 0 rfl) ?_
              refine gx_ca C w dX0_flush_66 ?_
              refine lv_iload hx hb dX0_flush_69 (lv_at hl 4 rfl) ?_
              refine lx_ca C w (k := i) rfl (by omega) dX0_flush_71 ?_
              refine cx_i (As := [.int (nI i), .int (z_ca u i)]) (rest := []) C w hA (tX_append l dC dI cI cZ a _ u z (f + v) (nI i) (z_ca u i) hz hju.1 hju.2.1 hju.2.2) (cwx_append C ⟨Nat.le_of_ble_eq_true rfl, Nat.le_of_ble_eq_true rfl⟩) rfl hl.1 rfl (Nat.le_of_ble_eq_true rfl) dX0_flush_72 ⟨Nat.zero_le _, Nat.zero_le _⟩ (fun r_72 u_72 H locs q_72 w => ?_)
              obtain ⟨rfl, rfl⟩ := q_72
              refine lv_istore (lv' := [(5, .int (nI (12 * z + (f + v)))), (0, .ref (a 0)), (1, .int (nI p0)), (2, .int (nI (cb (dg (z_di σ)) 16))), (3, .int (nI v)), (4, .int (nI i))]) hx hb dX0_flush_75 hl (by decide) rfl (fun ls hl => ?_)
              refine lv_iinc (v := nI (v + 1)) (lv' := [(3, .int (nI (v + 1))), (5, .int (nI (12 * z + (f + v)))), (0, .ref (a 0)), (1, .int (nI p0)), (2, .int (nI (cb (dg (z_di σ)) 16))), (4, .int (nI i))]) hx hb dX0_flush_77 hl (k := 4) rfl (nI_1 _) (by decide) rfl (fun ls hl => ?_)
              refine lv_iload_n hx hb dX0_flush_80 rfl (lv_at hl 3 rfl) ?_
              refine lv_iconst (v := 3) hx hb dX0_flush_81 (by decide) ?_
              refine lv_icmp_ne (tgt := 94) hx hb dX0_flush_82 (by decide) (fun c_82 => ?_) (fun c_82 => ?_)
              · refine lv_iinc (v := nI (i + 1)) (lv' := [(4, .int (nI (i + 1))), (3, .int (nI (v + 1))), (5, .int (nI (12 * z + (f + v)))), (0, .ref (a 0)), (1, .int (nI p0)), (2, .int (nI (cb (dg (z_di σ)) 16)))]) hx hb dX0_flush_94 hl (k := 5) rfl (nI_1 _) (by decide) rfl (fun ls hl => ?_)
                refine lv_goto (tgt := 33) hx hb dX0_flush_97 (by decide) ?_
                exact ih_33 (i + 1) (v + 1) (apX u z (f + v) (nI i) (z_ca u i)) _ _ _ (by omega) ⟨w, lv_sub hl [3, 4, 5, 1, 0] rfl, by omega, (by first | exact FJ_skip hJ (Or.inl c_47) | exact FJ_skip hJ (Or.inr (FJ_p1 hp c_52)) | exact FJ_add hJ hG2 hlt oz hju.2.1 c_47 _ (by rw [if_neg (FJ_p2 hp c_82)]) | exact FJ_add hJ hG2 hlt oz hju.2.1 c_47 _ (by rw [if_pos (FJ_p3 hp c_82)]; rfl))⟩
              · refine lv_aload_n hx hb dX0_flush_85 rfl (lv_at hl 2 rfl) ?_
                refine gx_tb C w dX0_flush_86 ?_
                refine lv_iload hx hb dX0_flush_89 (lv_at hl 5 rfl) ?_
                refine lv_iload hx hb dX0_flush_91 (lv_at hl 1 rfl) ?_
                refine wx_tb C w (k := i) rfl (by omega) dX0_flush_93 (fun H locs w => ?_)
                refine lv_iinc (v := nI (i + 1)) (lv' := [(4, .int (nI (i + 1))), (3, .int (nI (v + 1))), (5, .int (nI (12 * z + (f + v)))), (0, .ref (a 0)), (1, .int (nI p0)), (2, .int (nI (cb (dg (z_di σ)) 16)))]) hx hb dX0_flush_94 hl (k := 5) rfl (nI_1 _) (by decide) rfl (fun ls hl => ?_)
                refine lv_goto (tgt := 33) hx hb dX0_flush_97 (by decide) ?_
                exact ih_33 (i + 1) (v + 1) (s_tb (apX u z (f + v) (nI i) (z_ca u i)) (upd (z_tb (apX u z (f + v) (nI i) (z_ca u i))) i (nI (12 * z + (f + v))))) _ _ _ (by omega) ⟨w, lv_sub hl [3, 4, 5, 1, 0] rfl, by omega, (by first | exact FJ_skip hJ (Or.inl c_47) | exact FJ_skip hJ (Or.inr (FJ_p1 hp c_52)) | exact FJ_add hJ hG2 hlt oz hju.2.1 c_47 _ (by rw [if_neg (FJ_p2 hp c_82)]) | exact FJ_add hJ hG2 hlt oz hju.2.1 c_47 _ (by rw [if_pos (FJ_p3 hp c_82)]; rfl))⟩
    · exact rx_v C w hr hlk (FP_ret hp hD hE hO hac (by first | exact Or.inl c_6 | exact Or.inr c_10)) dX0_flush_13

set_option maxHeartbeats 4000000 in
set_option maxRecDepth 100000 in
/-- recover(): the table again -/
theorem tX_recover (l : Launch) (dC : Nat → ClassId) (dI : Nat → Nat → Nat) (cI cZ : ClassId) (a : Nat → Nat) (sz : Nat) (σ : ZS) (T : ZF) (G : Nat) (hD : DV σ T G) (htb : ∀ b, b < 16 → z_tb σ b = -1) : xMv l yX0_recover cX0_recover 3 none ({ frames := 1, cells := 0, slots := 0, locals := 22 }) dC dI cI cZ a σ sz [] (fun u => RP σ u T) := by
  refine ex_v (by decide) rfl (Nat.le_of_ble_eq_true rfl) ?_
  intro p e s m args below meth c A ls C hr hlk hA w hl
  have hx := C.1.1
  have hb := C.1.2.1
  have hl : lv_has ls 3 [(0, .ref (a 0))] := hl
  refine lv_iconst (v := 0) hx hb dX0_recover_0 (by decide) ?_
  refine lv_istore_n (lv' := [(1, .int 0), (0, .ref (a 0))]) hx hb dX0_recover_1 rfl hl (by decide) rfl (fun ls hl => ?_)
  refine zx_loop2 (fun (i : Nat) (tb : ZF) H locs ls => xW dC dI cI cZ a A s.heap H locs (s_tb σ tb) ∧ lv_has ls 3 [(0, .ref (a 0)), (1, .int (nI i))] ∧ (i ≤ 72) ∧ (VJ σ i tb)) (fun i tb => 72 - i) ?_ 0 (z_tb σ) _ _ _ ⟨w, lv_sub hl [1, 0] rfl, Nat.zero_le _, VJ_0 htb⟩
  clear hl w
  rintro i tb H locs ls ⟨w, hl, hi, hJ⟩ ih_2
  refine lv_iload_n hx hb dX0_recover_2 rfl (lv_at hl 1 rfl) ?_
  refine lv_bipush (v := 72) hx hb dX0_recover_3 (by decide) ?_
  refine lv_icmp_ge (tgt := 98) hx hb dX0_recover_5 (by decide) (fun c_5 => ?_) (fun c_5 => ?_)
  · have hi6 : i = 72 := zi_ex (N := 72) (by decide) hi c_5
    refine lv_aload_n hx hb dX0_recover_98 rfl (lv_at hl 0 rfl) ?_
    refine lv_iconst (v := -1) hx hb dX0_recover_99 (by decide) ?_
    refine px_ac C w dX0_recover_100 (fun H locs w => ?_)
    refine lv_iconst (v := 0) hx hb dX0_recover_103 (by decide) ?_
    refine lv_istore_n (lv' := [(1, .int 0), (0, .ref (a 0))]) hx hb dX0_recover_104 rfl hl (by decide) rfl (fun ls hl => ?_)
    refine zx_loop2 (fun (j : Nat) (ac : Int32) H locs ls => xW dC dI cI cZ a A s.heap H locs (s_ac (s_tb σ tb) ac) ∧ lv_has ls 3 [(0, .ref (a 0)), (1, .int (nI j))] ∧ (j ≤ 6) ∧ (AJ σ ac)) (fun j ac => 6 - j) ?_ 0 (-1) _ _ _ ⟨w, lv_sub hl [1, 0] rfl, Nat.zero_le _, Or.inl rfl⟩
    clear hl w
    rintro j ac H locs ls ⟨w, hl, hj, hA2⟩ ih_105
    refine lv_iload_n hx hb dX0_recover_105 rfl (lv_at hl 1 rfl) ?_
    refine lv_bipush (v := 6) hx hb dX0_recover_106 (by decide) ?_
    refine lv_icmp_ge (tgt := 158) hx hb dX0_recover_108 (by decide) (fun c_108 => ?_) (fun c_108 => ?_)
    · have hj6 : j = 6 := zi_ex (N := 6) (by decide) hj c_108
      exact rx_v C w hr hlk (⟨VJ_end hD hJ hi6, hA2, rfl⟩) dX0_recover_158
    · have hlt2 : j < 6 := zi_in (N := 6) (by decide) hj c_108
      refine lv_aload_n hx hb dX0_recover_111 rfl (lv_at hl 0 rfl) ?_
      refine gx_op C w dX0_recover_112 ?_
      refine lv_iload_n hx hb dX0_recover_115 rfl (lv_at hl 1 rfl) ?_
      refine lx_op C w (k := j) rfl (by omega) dX0_recover_116 ?_
      refine lv_iconst (v := -1) hx hb dX0_recover_117 (by decide) ?_
      refine lv_icmp_eq (tgt := 152) hx hb dX0_recover_118 (by decide) (fun c_118 => ?_) (fun c_118 => ?_)
      · refine lv_iinc (v := nI (j + 1)) (lv' := [(1, .int (nI (j + 1))), (0, .ref (a 0))]) hx hb dX0_recover_152 hl (k := 1) rfl (nI_1 _) (by decide) rfl (fun ls hl => ?_)
        refine lv_goto (tgt := 105) hx hb dX0_recover_155 (by decide) ?_
        exact ih_105 (j + 1) ac _ _ _ (by omega) ⟨w, lv_sub hl [1, 0] rfl, by omega, (by first | exact hA2 | exact Or.inr ⟨j, hlt2, rfl, c_118⟩)⟩
      · refine lv_aload_n hx hb dX0_recover_121 rfl (lv_at hl 0 rfl) ?_
        refine gx_ac C w dX0_recover_122 ?_
        refine lv_iconst (v := -1) hx hb dX0_recover_125 (by decide) ?_
        refine lv_icmp_eq (tgt := 147) hx hb dX0_recover_126 (by decide) (fun c_126 => ?_) (fun c_126 => ?_)
        · refine lv_aload_n hx hb dX0_recover_147 rfl (lv_at hl 0 rfl) ?_
          refine lv_iload_n hx hb dX0_recover_148 rfl (lv_at hl 1 rfl) ?_
          refine px_ac C w dX0_recover_149 (fun H locs w => ?_)
          refine lv_iinc (v := nI (j + 1)) (lv' := [(1, .int (nI (j + 1))), (0, .ref (a 0))]) hx hb dX0_recover_152 hl (k := 1) rfl (nI_1 _) (by decide) rfl (fun ls hl => ?_)
          refine lv_goto (tgt := 105) hx hb dX0_recover_155 (by decide) ?_
          exact ih_105 (j + 1) (nI j) _ _ _ (by omega) ⟨w, lv_sub hl [1, 0] rfl, by omega, (by first | exact hA2 | exact Or.inr ⟨j, hlt2, rfl, c_118⟩)⟩
        · obtain ⟨z, hz, ez, oz⟩ := hA2.resolve_left c_126
          refine lv_aload_n hx hb dX0_recover_129 rfl (lv_at hl 0 rfl) ?_
          refine gx_op C w dX0_recover_130 ?_
          refine lv_iload_n hx hb dX0_recover_133 rfl (lv_at hl 1 rfl) ?_
          refine lx_op C w (k := j) rfl (by omega) dX0_recover_134 ?_
          refine lv_aload_n hx hb dX0_recover_135 rfl (lv_at hl 0 rfl) ?_
          refine gx_op C w dX0_recover_136 ?_
          refine lv_aload_n hx hb dX0_recover_139 rfl (lv_at hl 0 rfl) ?_
          refine gx_ac C w dX0_recover_140 ?_
          refine lx_op C w (k := z) ez hz dX0_recover_143 ?_
          refine lv_icmp_le (tgt := 152) hx hb dX0_recover_144 (by decide) (fun c_144 => ?_) (fun c_144 => ?_)
          · refine lv_iinc (v := nI (j + 1)) (lv' := [(1, .int (nI (j + 1))), (0, .ref (a 0))]) hx hb dX0_recover_152 hl (k := 1) rfl (nI_1 _) (by decide) rfl (fun ls hl => ?_)
            refine lv_goto (tgt := 105) hx hb dX0_recover_155 (by decide) ?_
            exact ih_105 (j + 1) ac _ _ _ (by omega) ⟨w, lv_sub hl [1, 0] rfl, by omega, (by first | exact hA2 | exact Or.inr ⟨j, hlt2, rfl, c_118⟩)⟩
          · refine lv_aload_n hx hb dX0_recover_147 rfl (lv_at hl 0 rfl) ?_
            refine lv_iload_n hx hb dX0_recover_148 rfl (lv_at hl 1 rfl) ?_
            refine px_ac C w dX0_recover_149 (fun H locs w => ?_)
            refine lv_iinc (v := nI (j + 1)) (lv' := [(1, .int (nI (j + 1))), (0, .ref (a 0))]) hx hb dX0_recover_152 hl (k := 1) rfl (nI_1 _) (by decide) rfl (fun ls hl => ?_)
            refine lv_goto (tgt := 105) hx hb dX0_recover_155 (by decide) ?_
            exact ih_105 (j + 1) (nI j) _ _ _ (by omega) ⟨w, lv_sub hl [1, 0] rfl, by omega, (by first | exact hA2 | exact Or.inr ⟨j, hlt2, rfl, c_118⟩)⟩
  · have hlt : i < 72 := zi_in (N := 72) (by decide) hi c_5
    refine lv_iload_n hx hb dX0_recover_8 rfl (lv_at hl 1 rfl) ?_
    refine lv_bipush (v := 12) hx hb dX0_recover_9 (by decide) ?_
    refine lv_irem hx hb dX0_recover_11 (by decide) ?_
    refine zt_i (y := nI (i % 12)) (zi_rem (by omega)) ?_
    refine lv_aload_n hx hb dX0_recover_12 rfl (lv_at hl 0 rfl) ?_
    refine gx_fi C w dX0_recover_13 ?_
    refine lv_iload_n hx hb dX0_recover_16 rfl (lv_at hl 1 rfl) ?_
    refine lv_bipush (v := 12) hx hb dX0_recover_17 (by decide) ?_
    refine lv_idiv hx hb dX0_recover_19 (by decide) ?_
    refine zt_i (y := nI (i / 12)) (zi_div (by omega)) ?_
    refine lx_fi C w (k := (i / 12)) rfl (by omega) dX0_recover_20 ?_
    refine lv_icmp_ge (tgt := 92) hx hb dX0_recover_21 (by decide) (fun c_21 => ?_) (fun c_21 => ?_)
    · refine lv_iinc (v := nI (i + 1)) (lv' := [(1, .int (nI (i + 1))), (0, .ref (a 0))]) hx hb dX0_recover_92 hl (k := 1) rfl (nI_1 _) (by decide) rfl (fun ls hl => ?_)
      refine lv_goto (tgt := 2) hx hb dX0_recover_95 (by decide) ?_
      exact ih_2 (i + 1) tb _ _ _ (by omega) ⟨w, lv_sub hl [1, 0] rfl, by omega, (by first | exact VJ_skip hJ (fun _ _ q => zi_nlt c_21 q.1.2) | exact VJ_skip hJ (fun b hb q => zi_16 hb (q.2.1.symm.trans c_32)) | exact VJ_skip hJ (fun _ _ q => (q_42.resolve_left (fun y => absurd (y.1.symm.trans c_45) (by decide))).2 q.2.2) | exact VJ_keep hJ hbb eb et ht c_82 | exact VJ_set hJ hlt hbb ⟨⟨hlt, zi_lt c_21⟩, eb, (q_42.resolve_right (fun y => c_45 y.1)).2⟩ (Or.inl c_62) | exact VJ_set hJ hlt hbb ⟨⟨hlt, zi_lt c_21⟩, eb, (q_42.resolve_right (fun y => c_45 y.1)).2⟩ (Or.inr ⟨t, et, ht, c_82⟩))⟩
    · refine lv_aload_n hx hb dX0_recover_24 rfl (lv_at hl 0 rfl) ?_
      refine gx_rb C w dX0_recover_25 ?_
      refine lv_iload_n hx hb dX0_recover_28 rfl (lv_at hl 1 rfl) ?_
      refine lx_rb C w (k := i) rfl (by omega) dX0_recover_29 ?_
      refine lv_bipush (v := 16) hx hb dX0_recover_30 (by decide) ?_
      refine lv_icmp_eq (tgt := 92) hx hb dX0_recover_32 (by decide) (fun c_32 => ?_) (fun c_32 => ?_)
      · refine lv_iinc (v := nI (i + 1)) (lv' := [(1, .int (nI (i + 1))), (0, .ref (a 0))]) hx hb dX0_recover_92 hl (k := 1) rfl (nI_1 _) (by decide) rfl (fun ls hl => ?_)
        refine lv_goto (tgt := 2) hx hb dX0_recover_95 (by decide) ?_
        exact ih_2 (i + 1) tb _ _ _ (by omega) ⟨w, lv_sub hl [1, 0] rfl, by omega, (by first | exact VJ_skip hJ (fun _ _ q => zi_nlt c_21 q.1.2) | exact VJ_skip hJ (fun b hb q => zi_16 hb (q.2.1.symm.trans c_32)) | exact VJ_skip hJ (fun _ _ q => (q_42.resolve_left (fun y => absurd (y.1.symm.trans c_45) (by decide))).2 q.2.2) | exact VJ_keep hJ hbb eb et ht c_82 | exact VJ_set hJ hlt hbb ⟨⟨hlt, zi_lt c_21⟩, eb, (q_42.resolve_right (fun y => c_45 y.1)).2⟩ (Or.inl c_62) | exact VJ_set hJ hlt hbb ⟨⟨hlt, zi_lt c_21⟩, eb, (q_42.resolve_right (fun y => c_45 y.1)).2⟩ (Or.inr ⟨t, et, ht, c_82⟩))⟩
      · refine lv_aload_n hx hb dX0_recover_35 rfl (lv_at hl 0 rfl) ?_
        refine lv_aload_n hx hb dX0_recover_36 rfl (lv_at hl 0 rfl) ?_
        refine gx_rg C w dX0_recover_37 ?_
        refine lv_iload_n hx hb dX0_recover_40 rfl (lv_at hl 1 rfl) ?_
        refine lx_rg C w (k := i) rfl (by omega) dX0_recover_41 ?_
        refine cx_r (As := [.int (z_rg (s_tb σ tb) i)]) (rest := []) C w hA (tX_counts l dC dI cI cZ a _ (s_tb σ tb) (z_rg σ i)) (cwx_counts C ⟨Nat.le_of_ble_eq_true rfl, Nat.le_of_ble_eq_true rfl⟩) rfl hl.1 rfl (Nat.le_of_ble_eq_true rfl) dX0_recover_42 ⟨Nat.zero_le _, Nat.zero_le _⟩ (fun r_42 H locs q_42 w => ?_)
        refine lv_if_eq (tgt := 92) hx hb dX0_recover_45 (by decide) (fun c_45 => ?_) (fun c_45 => ?_)
        · refine lv_iinc (v := nI (i + 1)) (lv' := [(1, .int (nI (i + 1))), (0, .ref (a 0))]) hx hb dX0_recover_92 hl (k := 1) rfl (nI_1 _) (by decide) rfl (fun ls hl => ?_)
          refine lv_goto (tgt := 2) hx hb dX0_recover_95 (by decide) ?_
          exact ih_2 (i + 1) tb _ _ _ (by omega) ⟨w, lv_sub hl [1, 0] rfl, by omega, (by first | exact VJ_skip hJ (fun _ _ q => zi_nlt c_21 q.1.2) | exact VJ_skip hJ (fun b hb q => zi_16 hb (q.2.1.symm.trans c_32)) | exact VJ_skip hJ (fun _ _ q => (q_42.resolve_left (fun y => absurd (y.1.symm.trans c_45) (by decide))).2 q.2.2) | exact VJ_keep hJ hbb eb et ht c_82 | exact VJ_set hJ hlt hbb ⟨⟨hlt, zi_lt c_21⟩, eb, (q_42.resolve_right (fun y => c_45 y.1)).2⟩ (Or.inl c_62) | exact VJ_set hJ hlt hbb ⟨⟨hlt, zi_lt c_21⟩, eb, (q_42.resolve_right (fun y => c_45 y.1)).2⟩ (Or.inr ⟨t, et, ht, c_82⟩))⟩
        · obtain ⟨b, hbb, eb⟩ := VJ_b hD ⟨hlt, zi_lt c_21⟩ c_32
          refine lv_aload_n hx hb dX0_recover_48 rfl (lv_at hl 0 rfl) ?_
          refine gx_rb C w dX0_recover_49 ?_
          refine lv_iload_n hx hb dX0_recover_52 rfl (lv_at hl 1 rfl) ?_
          refine lx_rb C w (k := i) rfl (by omega) dX0_recover_53 ?_
          refine zt_i (y := nI b) eb ?_
          refine lv_istore_n (lv' := [(2, .int (nI b)), (0, .ref (a 0)), (1, .int (nI i))]) hx hb dX0_recover_54 rfl hl (by decide) rfl (fun ls hl => ?_)
          refine lv_aload_n hx hb dX0_recover_55 rfl (lv_at hl 1 rfl) ?_
          refine gx_tb C w dX0_recover_56 ?_
          refine lv_iload_n hx hb dX0_recover_59 rfl (lv_at hl 0 rfl) ?_
          refine lx_tb C w (k := b) rfl (by omega) dX0_recover_60 ?_
          refine lv_iconst (v := -1) hx hb dX0_recover_61 (by decide) ?_
          refine lv_icmp_eq (tgt := 85) hx hb dX0_recover_62 (by decide) (fun c_62 => ?_) (fun c_62 => ?_)
          · refine lv_aload_n hx hb dX0_recover_85 rfl (lv_at hl 1 rfl) ?_
            refine gx_tb C w dX0_recover_86 ?_
            refine lv_iload_n hx hb dX0_recover_89 rfl (lv_at hl 0 rfl) ?_
            refine lv_iload_n hx hb dX0_recover_90 rfl (lv_at hl 2 rfl) ?_
            refine wx_tb C w (k := b) rfl (by omega) dX0_recover_91 (fun H locs w => ?_)
            refine lv_iinc (v := nI (i + 1)) (lv' := [(1, .int (nI (i + 1))), (2, .int (nI b)), (0, .ref (a 0))]) hx hb dX0_recover_92 hl (k := 2) rfl (nI_1 _) (by decide) rfl (fun ls hl => ?_)
            refine lv_goto (tgt := 2) hx hb dX0_recover_95 (by decide) ?_
            exact ih_2 (i + 1) (upd tb b (nI i)) _ _ _ (by omega) ⟨w, lv_sub hl [2, 0] rfl, by omega, (by first | exact VJ_skip hJ (fun _ _ q => zi_nlt c_21 q.1.2) | exact VJ_skip hJ (fun b hb q => zi_16 hb (q.2.1.symm.trans c_32)) | exact VJ_skip hJ (fun _ _ q => (q_42.resolve_left (fun y => absurd (y.1.symm.trans c_45) (by decide))).2 q.2.2) | exact VJ_keep hJ hbb eb et ht c_82 | exact VJ_set hJ hlt hbb ⟨⟨hlt, zi_lt c_21⟩, eb, (q_42.resolve_right (fun y => c_45 y.1)).2⟩ (Or.inl c_62) | exact VJ_set hJ hlt hbb ⟨⟨hlt, zi_lt c_21⟩, eb, (q_42.resolve_right (fun y => c_45 y.1)).2⟩ (Or.inr ⟨t, et, ht, c_82⟩))⟩
          · obtain ⟨t, ht, et⟩ := (VJ_ok hJ hbb).resolve_left c_62
            refine lv_aload_n hx hb dX0_recover_65 rfl (lv_at hl 1 rfl) ?_
            refine gx_rg C w dX0_recover_66 ?_
            refine lv_aload_n hx hb dX0_recover_69 rfl (lv_at hl 1 rfl) ?_
            refine gx_tb C w dX0_recover_70 ?_
            refine lv_iload_n hx hb dX0_recover_73 rfl (lv_at hl 0 rfl) ?_
            refine lx_tb C w (k := b) rfl (by omega) dX0_recover_74 ?_
            refine lx_rg C w (k := t) et ht dX0_recover_75 ?_
            refine lv_aload_n hx hb dX0_recover_76 rfl (lv_at hl 1 rfl) ?_
            refine gx_rg C w dX0_recover_77 ?_
            refine lv_iload_n hx hb dX0_recover_80 rfl (lv_at hl 2 rfl) ?_
            refine lx_rg C w (k := i) rfl (by omega) dX0_recover_81 ?_
            refine lv_icmp_ge (tgt := 92) hx hb dX0_recover_82 (by decide) (fun c_82 => ?_) (fun c_82 => ?_)
            · refine lv_iinc (v := nI (i + 1)) (lv' := [(1, .int (nI (i + 1))), (2, .int (nI b)), (0, .ref (a 0))]) hx hb dX0_recover_92 hl (k := 2) rfl (nI_1 _) (by decide) rfl (fun ls hl => ?_)
              refine lv_goto (tgt := 2) hx hb dX0_recover_95 (by decide) ?_
              exact ih_2 (i + 1) tb _ _ _ (by omega) ⟨w, lv_sub hl [2, 0] rfl, by omega, (by first | exact VJ_skip hJ (fun _ _ q => zi_nlt c_21 q.1.2) | exact VJ_skip hJ (fun b hb q => zi_16 hb (q.2.1.symm.trans c_32)) | exact VJ_skip hJ (fun _ _ q => (q_42.resolve_left (fun y => absurd (y.1.symm.trans c_45) (by decide))).2 q.2.2) | exact VJ_keep hJ hbb eb et ht c_82 | exact VJ_set hJ hlt hbb ⟨⟨hlt, zi_lt c_21⟩, eb, (q_42.resolve_right (fun y => c_45 y.1)).2⟩ (Or.inl c_62) | exact VJ_set hJ hlt hbb ⟨⟨hlt, zi_lt c_21⟩, eb, (q_42.resolve_right (fun y => c_45 y.1)).2⟩ (Or.inr ⟨t, et, ht, c_82⟩))⟩
            · refine lv_aload_n hx hb dX0_recover_85 rfl (lv_at hl 1 rfl) ?_
              refine gx_tb C w dX0_recover_86 ?_
              refine lv_iload_n hx hb dX0_recover_89 rfl (lv_at hl 0 rfl) ?_
              refine lv_iload_n hx hb dX0_recover_90 rfl (lv_at hl 2 rfl) ?_
              refine wx_tb C w (k := b) rfl (by omega) dX0_recover_91 (fun H locs w => ?_)
              refine lv_iinc (v := nI (i + 1)) (lv' := [(1, .int (nI (i + 1))), (2, .int (nI b)), (0, .ref (a 0))]) hx hb dX0_recover_92 hl (k := 2) rfl (nI_1 _) (by decide) rfl (fun ls hl => ?_)
              refine lv_goto (tgt := 2) hx hb dX0_recover_95 (by decide) ?_
              exact ih_2 (i + 1) (upd tb b (nI i)) _ _ _ (by omega) ⟨w, lv_sub hl [2, 0] rfl, by omega, (by first | exact VJ_skip hJ (fun _ _ q => zi_nlt c_21 q.1.2) | exact VJ_skip hJ (fun b hb q => zi_16 hb (q.2.1.symm.trans c_32)) | exact VJ_skip hJ (fun _ _ q => (q_42.resolve_left (fun y => absurd (y.1.symm.trans c_45) (by decide))).2 q.2.2) | exact VJ_keep hJ hbb eb et ht c_82 | exact VJ_set hJ hlt hbb ⟨⟨hlt, zi_lt c_21⟩, eb, (q_42.resolve_right (fun y => c_45 y.1)).2⟩ (Or.inl c_62) | exact VJ_set hJ hlt hbb ⟨⟨hlt, zi_lt c_21⟩, eb, (q_42.resolve_right (fun y => c_45 y.1)).2⟩ (Or.inr ⟨t, et, ht, c_82⟩))⟩
end
section
/-! the model's operations, as plain functions -/
def mfc (τ : ZM) : Nat := cb (dg (m_fr τ)) 16
def mset1 (τ : ZM) : ZM := n_fr (n_kp τ (ctn 16 (m_nw τ) (m_kp τ))) (ctn 16 (fun _ => 0) (m_fr τ))
def mset0 (τ : ZM) : ZM := n_fr (n_nw τ (ctn 16 (m_kp τ) (m_nw τ))) (ctn 16 (fun _ => 0) (m_fr τ))
def mpre (τ : ZM) (k : Nat) : ZM := if m_op τ = 0 ∧ nI (mfc τ) = 6 ∧ m_fr τ k = 0 then mset1 τ else τ
def mpt (τ : ZM) (k : Nat) (v : Int32) : ZM := n_fr (n_nw τ (upd (m_nw τ) k v)) (upd (m_fr τ) k 1)
def mput (τ : ZM) (k : Nat) (v : Int32) : ZM := mpt (mpre τ k) k v
theorem mput_t {τ : ZM} {k : Nat} {v : Int32} (h1 : m_op τ = 0) (h2 : nI (mfc τ) = 6) (h3 : m_fr τ k = 0) : mput τ k v = mpt (mset1 τ) k v := by unfold mput mpre; rw [if_pos ⟨h1, h2, h3⟩]
theorem mput_f {τ : ZM} {k : Nat} {v : Int32} (h : ¬ (m_op τ = 0 ∧ nI (mfc τ) = 6 ∧ m_fr τ k = 0)) : mput τ k v = mpt τ k v := by unfold mput mpre; rw [if_neg h]
def mfl (τ : ZM) (f : Nat) (v st : Int32) : Nat → ZM
  | 0 => τ
  | k + 1 => mput (mfl τ f v st k) (f + k) (v + nI k * st)
def mo_up (τ : ZM) : Int32 × ZM := (if m_on τ = 0 then 0 else 1, τ)
theorem mo_up_0 {τ : ZM} (h : m_on τ = 0) : mo_up τ = (0, τ) := by unfold mo_up; rw [if_pos h]
theorem mo_up_1 {τ : ZM} (h : ¬ m_on τ = 0) : mo_up τ = (1, τ) := by unfold mo_up; rw [if_neg h]
def mo_grouped (τ : ZM) : Int32 × ZM := (if m_op τ = 0 then 0 else 1, τ)
theorem mo_grouped_0 {τ : ZM} (h : m_op τ = 0) : mo_grouped τ = (0, τ) := by unfold mo_grouped; rw [if_pos h]
theorem mo_grouped_1 {τ : ZM} (h : ¬ m_op τ = 0) : mo_grouped τ = (1, τ) := by unfold mo_grouped; rw [if_neg h]
def mo_clean (τ : ZM) : Int32 × ZM := (if m_on τ = 0 then -1 else 0, τ)
theorem mo_clean_0 {τ : ZM} (h : m_on τ = 0) : mo_clean τ = (-1, τ) := by unfold mo_clean; rw [if_pos h]
theorem mo_clean_1 {τ : ZM} (h : ¬ m_on τ = 0) : mo_clean τ = (0, τ) := by unfold mo_clean; rw [if_neg h]
def mo_read (τ : ZM) (x : Int32) : Int32 × ZM := (if m_on τ = 0 then 0 else if obk x = true then m_nw τ x.toNatClampNeg else 0, τ)
theorem mo_read_0 {τ : ZM} {x : Int32} (h : m_on τ = 0) : mo_read τ x = (0, τ) := by unfold mo_read; rw [if_pos h]
theorem mo_read_1 {τ : ZM} {x : Int32} (h : obk x = false) : mo_read τ x = (0, τ) := by
  unfold mo_read
  rw [h]
  by_cases q : m_on τ = 0
  · rw [if_pos q]
  · rw [if_neg q, if_neg (by decide)]
theorem mo_read_2 {τ : ZM} {x : Int32} {k : Nat} (h : ¬ m_on τ = 0) (hk : k < 16) (e : x = nI k) : mo_read τ x = (m_nw τ k, τ) := by
  unfold mo_read
  rw [if_neg h, if_pos (obk_iff.mpr ⟨k, hk, e⟩), e, nI_clamp (by omega)]
def mo_write (τ : ZM) (x v : Int32) : Int32 × ZM := if m_on τ = 0 then (-1, τ) else if obk x = true then (if ¬ m_op τ = 0 ∧ nI (mfc τ) = 6 ∧ m_fr τ x.toNatClampNeg = 0 then (-3, τ) else (0, mput τ x.toNatClampNeg v)) else (-2, τ)
theorem mo_write_1 {τ : ZM} {x v : Int32} (h : m_on τ = 0) : mo_write τ x v = (-1, τ) := by unfold mo_write; rw [if_pos h]
theorem mo_write_2 {τ : ZM} {x v : Int32} (h : ¬ m_on τ = 0) (h2 : obk x = false) : mo_write τ x v = (-2, τ) := by unfold mo_write; rw [if_neg h, h2, if_neg (by decide)]
theorem mo_write_3 {τ : ZM} {x v : Int32} {k : Nat} (h : ¬ m_on τ = 0) (hk : k < 16) (e : x = nI k) (h3 : ¬ m_op τ = 0) (h4 : nI (mfc τ) = 6) (h5 : m_fr τ k = 0) : mo_write τ x v = (-3, τ) := by
  unfold mo_write
  rw [if_neg h, if_pos (obk_iff.mpr ⟨k, hk, e⟩), e, nI_clamp (by omega), if_pos ⟨h3, h4, h5⟩]
theorem mo_write_4 {τ : ZM} {x v : Int32} {k : Nat} (h : ¬ m_on τ = 0) (hk : k < 16) (e : x = nI k) (h3 : ¬ (¬ m_op τ = 0 ∧ nI (mfc τ) = 6 ∧ m_fr τ k = 0)) : mo_write τ x v = (0, mput τ k v) := by
  unfold mo_write
  rw [if_neg h, if_pos (obk_iff.mpr ⟨k, hk, e⟩), e, nI_clamp (by omega), if_neg h3]
def fbad (x1 x2 : Int32) : Bool := decide (x2 < 1) || decide (16 < x2) || decide (x1 < 0) || !(decide (x1 ≤ 16 - x2))
theorem fbad_1 {x1 x2 : Int32} (h : x2 < 1) : fbad x1 x2 = true := by unfold fbad; rw [decide_eq_true h]; simp
theorem fbad_2 {x1 x2 : Int32} (h : (16 : Int32) < x2) : fbad x1 x2 = true := by unfold fbad; rw [decide_eq_true h]; simp
theorem fbad_3 {x1 x2 : Int32} (h : x1 < 0) : fbad x1 x2 = true := by unfold fbad; rw [decide_eq_true h]; simp
theorem fbad_4 {x1 x2 : Int32} (h : ¬ x1 ≤ 16 - x2) : fbad x1 x2 = true := by unfold fbad; rw [decide_eq_false h]; simp
theorem fbad_5 {x1 x2 : Int32} (h1 : ¬ x2 < 1) (h2 : ¬ (16 : Int32) < x2) (h3 : ¬ x1 < 0) (h4 : x1 ≤ 16 - x2) : fbad x1 x2 = false := by unfold fbad; rw [decide_eq_false h1, decide_eq_false h2, decide_eq_false h3, decide_eq_true h4]; rfl
theorem fbad_ok {x1 x2 : Int32} (h1 : ¬ x2 < 1) (h2 : ¬ (16 : Int32) < x2) (h3 : ¬ x1 < 0) (h4 : x1 ≤ 16 - x2) : ∃ f c : Nat, f + c ≤ 16 ∧ x1 = nI f ∧ x2 = nI c := by
  rcases pk_ix x2 (n := 17) (by decide) with q | q | ⟨c, hc, rfl⟩
  · refine absurd ?_ h1
    rw [Int32.lt_iff_toInt_lt] at q ⊢
    rw [show (0 : Int32).toInt = 0 from rfl] at q
    rw [show (1 : Int32).toInt = 1 from rfl]
    omega
  · refine absurd ?_ h2
    rw [Int32.le_iff_toInt_le] at q
    rw [Int32.lt_iff_toInt_lt]
    rw [show (nI 17).toInt = 17 from rfl] at q
    rw [show (16 : Int32).toInt = 16 from rfl]
    omega
  · have e : (16 : Int32) - nI c = nI (16 - c) := pk_sub (a := 16) (b := c) (by omega)
    rw [e] at h4
    obtain ⟨f, hf, rfl⟩ := nI_of h3
    have := (nI_leI hf (by omega)).mp h4
    exact ⟨f, c, by omega, rfl, rfl⟩
def mo_fill (τ : ZM) (x1 x2 v st : Int32) : Int32 × ZM := if m_on τ = 0 then (-1, τ) else if fbad x1 x2 = true then (-2, τ) else if ¬ m_op τ = 0 then (-3, τ) else (0, mfl τ x1.toNatClampNeg v st x2.toNatClampNeg)
theorem mo_fill_1 {τ : ZM} {x1 x2 v st : Int32} (h : m_on τ = 0) : mo_fill τ x1 x2 v st = (-1, τ) := by unfold mo_fill; rw [if_pos h]
theorem mo_fill_2 {τ : ZM} {x1 x2 v st : Int32} (h : ¬ m_on τ = 0) (h2 : fbad x1 x2 = true) : mo_fill τ x1 x2 v st = (-2, τ) := by unfold mo_fill; rw [if_neg h, if_pos h2]
theorem mo_fill_3 {τ : ZM} {x1 x2 v st : Int32} (h : ¬ m_on τ = 0) (h2 : fbad x1 x2 = false) (h3 : ¬ m_op τ = 0) : mo_fill τ x1 x2 v st = (-3, τ) := by unfold mo_fill; rw [if_neg h, h2, if_neg (by decide), if_pos h3]
theorem mo_fill_4 {τ : ZM} {x1 x2 v st : Int32} {f c : Nat} (h : ¬ m_on τ = 0) (h2 : fbad x1 x2 = false) (h3 : m_op τ = 0) (hfc : f + c ≤ 16) (e1 : x1 = nI f) (e2 : x2 = nI c) : mo_fill τ x1 x2 v st = (0, mfl τ f v st c) := by
  unfold mo_fill
  rw [if_neg h, h2, if_neg (by decide), if_neg (fun q => q h3), e1, e2, nI_clamp (by omega), nI_clamp (by omega)]
def mo_sync (τ : ZM) : Int32 × ZM := if m_on τ = 0 then (-1, τ) else if ¬ m_op τ = 0 then (-2, τ) else (nI (mfc τ), mset1 τ)
theorem mo_sync_1 {τ : ZM} (h : m_on τ = 0) : mo_sync τ = (-1, τ) := by unfold mo_sync; rw [if_pos h]
theorem mo_sync_2 {τ : ZM} (h : ¬ m_on τ = 0) (h2 : ¬ m_op τ = 0) : mo_sync τ = (-2, τ) := by unfold mo_sync; rw [if_neg h, if_pos h2]
theorem mo_sync_3 {τ : ZM} (h : ¬ m_on τ = 0) (h2 : m_op τ = 0) : mo_sync τ = (nI (mfc τ), mset1 τ) := by unfold mo_sync; rw [if_neg h, if_neg (fun q => q h2)]
def mo_begin (τ : ZM) : Int32 × ZM := if m_on τ = 0 then (-1, τ) else if ¬ m_op τ = 0 then (-2, τ) else (0, n_op (mset1 τ) 1)
theorem mo_begin_1 {τ : ZM} (h : m_on τ = 0) : mo_begin τ = (-1, τ) := by unfold mo_begin; rw [if_pos h]
theorem mo_begin_2 {τ : ZM} (h : ¬ m_on τ = 0) (h2 : ¬ m_op τ = 0) : mo_begin τ = (-2, τ) := by unfold mo_begin; rw [if_neg h, if_pos h2]
theorem mo_begin_3 {τ : ZM} (h : ¬ m_on τ = 0) (h2 : m_op τ = 0) : mo_begin τ = (0, n_op (mset1 τ) 1) := by unfold mo_begin; rw [if_neg h, if_neg (fun q => q h2)]
def mo_commit (τ : ZM) : Int32 × ZM := if m_on τ = 0 then (-1, τ) else if m_op τ = 0 then (-2, τ) else (nI (mfc τ), mset1 (n_op τ 0))
theorem mo_commit_1 {τ : ZM} (h : m_on τ = 0) : mo_commit τ = (-1, τ) := by unfold mo_commit; rw [if_pos h]
theorem mo_commit_2 {τ : ZM} (h : ¬ m_on τ = 0) (h2 : m_op τ = 0) : mo_commit τ = (-2, τ) := by unfold mo_commit; rw [if_neg h, if_pos h2]
theorem mo_commit_3 {τ : ZM} (h : ¬ m_on τ = 0) (h2 : ¬ m_op τ = 0) : mo_commit τ = (nI (mfc τ), mset1 (n_op τ 0)) := by unfold mo_commit; rw [if_neg h, if_neg h2]
def mo_abort (τ : ZM) : Int32 × ZM := if m_on τ = 0 then (-1, τ) else if m_op τ = 0 then (-2, τ) else (nI (mfc τ), mset0 (n_op τ 0))
theorem mo_abort_1 {τ : ZM} (h : m_on τ = 0) : mo_abort τ = (-1, τ) := by unfold mo_abort; rw [if_pos h]
theorem mo_abort_2 {τ : ZM} (h : ¬ m_on τ = 0) (h2 : m_op τ = 0) : mo_abort τ = (-2, τ) := by unfold mo_abort; rw [if_neg h, if_pos h2]
theorem mo_abort_3 {τ : ZM} (h : ¬ m_on τ = 0) (h2 : ¬ m_op τ = 0) : mo_abort τ = (nI (mfc τ), mset0 (n_op τ 0)) := by unfold mo_abort; rw [if_neg h, if_neg h2]
def mo_crash (τ : ZM) : Int32 × ZM := if m_on τ = 0 then (-1, τ) else (nI (mfc τ), mset0 (n_op (n_on τ 0) 0))
theorem mo_crash_1 {τ : ZM} (h : m_on τ = 0) : mo_crash τ = (-1, τ) := by unfold mo_crash; rw [if_pos h]
theorem mo_crash_2 {τ : ZM} (h : ¬ m_on τ = 0) : mo_crash τ = (nI (mfc τ), mset0 (n_op (n_on τ 0) 0)) := by unfold mo_crash; rw [if_neg h]
def mo_crashIn (τ : ZM) (x : Int32) : Int32 × ZM := if m_on τ = 0 then (-1, τ) else if x < 0 ∨ ¬ x ≤ 3 then (-2, τ) else (0, n_op (n_on (if x = 3 then mset1 τ else mset0 τ) 0) 0)
theorem mo_crashIn_1 {τ : ZM} {x : Int32} (h : m_on τ = 0) : mo_crashIn τ x = (-1, τ) := by unfold mo_crashIn; rw [if_pos h]
theorem mo_crashIn_2 {τ : ZM} {x : Int32} (h : ¬ m_on τ = 0) (h2 : x < 0 ∨ ¬ x ≤ 3) : mo_crashIn τ x = (-2, τ) := by unfold mo_crashIn; rw [if_neg h, if_pos h2]
theorem mo_crashIn_3 {τ : ZM} {x : Int32} (h : ¬ m_on τ = 0) (h2 : ¬ x < 0) (h3 : x ≤ 3) (h4 : x = 3) : mo_crashIn τ x = (0, n_op (n_on (mset1 τ) 0) 0) := by unfold mo_crashIn; rw [if_neg h, if_neg (fun q => q.elim h2 (fun y => y h3)), if_pos h4]
theorem mo_crashIn_4 {τ : ZM} {x : Int32} (h : ¬ m_on τ = 0) (h2 : ¬ x < 0) (h3 : x ≤ 3) (h4 : ¬ x = 3) : mo_crashIn τ x = (0, n_op (n_on (mset0 τ) 0) 0) := by unfold mo_crashIn; rw [if_neg h, if_neg (fun q => q.elim h2 (fun y => y h3)), if_neg h4]
def mo_mount (τ : ZM) : Int32 × ZM := if m_on τ = 0 then (0, n_on τ 1) else (-1, τ)
theorem mo_mount_1 {τ : ZM} (h : ¬ m_on τ = 0) : mo_mount τ = (-1, τ) := by unfold mo_mount; rw [if_neg h]
theorem mo_mount_2 {τ : ZM} (h : m_on τ = 0) : mo_mount τ = (0, n_on τ 1) := by unfold mo_mount; rw [if_pos h]
def mo_unsynced (τ : ZM) : Int32 × ZM := (nI (mfc τ), τ)
def pg (f g : ZF) : Nat → Bool := fun b => decide (¬ f b = g b)
def mo_pending (τ : ZM) : Int32 × ZM := (if m_on τ = 0 then -1 else nI (cb (pg (m_nw τ) (m_kp τ)) 16), τ)
theorem mo_pending_1 {τ : ZM} (h : m_on τ = 0) : mo_pending τ = (-1, τ) := by unfold mo_pending; rw [if_pos h]
theorem mo_pending_2 {τ : ZM} (h : ¬ m_on τ = 0) : mo_pending τ = (nI (cb (pg (m_nw τ) (m_kp τ)) 16), τ) := by unfold mo_pending; rw [if_neg h]
def mo_sum (τ : ZM) : Int32 × ZM := (if m_on τ = 0 then 0 else sm (m_nw τ) 16, τ)
theorem mo_sum_1 {τ : ZM} (h : m_on τ = 0) : mo_sum τ = (0, τ) := by unfold mo_sum; rw [if_pos h]
theorem mo_sum_2 {τ : ZM} (h : ¬ m_on τ = 0) : mo_sum τ = (sm (m_nw τ) 16, τ) := by unfold mo_sum; rw [if_neg h]
theorem bad_t {x : Int32} (c : (if obk x = true then (0 : Int32) else 1) = 0) : obk x = true := by
  cases h : obk x with
  | true => rfl
  | false => rw [h] at c; exact absurd c (by decide)
theorem bad_f {x : Int32} (c : ¬ (if obk x = true then (0 : Int32) else 1) = 0) : obk x = false := by
  cases h : obk x with
  | false => rfl
  | true => rw [h] at c; exact absurd rfl c
theorem isb_t {x : Int32} (c : ¬ (if obk x = true then (1 : Int32) else 0) = 0) : obk x = true := by
  cases h : obk x with
  | true => rfl
  | false => rw [h] at c; exact absurd rfl c
theorem isb_f {x : Int32} (c : (if obk x = true then (1 : Int32) else 0) = 0) : obk x = false := by
  cases h : obk x with
  | false => rfl
  | true => rw [h] at c; exact absurd c (by decide)
end
section
/-! the model: its methods -/
set_option maxHeartbeats 4000000 in
set_option maxRecDepth 100000 in
theorem tM_bad (l : Launch) (dC : Nat → ClassId) (dI : Nat → Nat → Nat) (cI cZ : ClassId) (a : Nat → Nat) (sz : Nat) (τ : ZM) (x0 : Int32) : mMi l yX1_bad cX1_bad 2 (some .boolean) ({ frames := 0, cells := 0, slots := 0, locals := 0 }) dC dI cI cZ a τ sz [.int x0] (fun r u => u = τ ∧ r = if obk x0 = true then 0 else 1) := by
  refine em_i (by decide) rfl (Nat.le_of_ble_eq_true rfl) ?_
  intro p e s m args below meth c A ls C hr hlk hA w hl
  have hx := C.1.1
  have hb := C.1.2.1
  have hl : lv_has ls 2 [(0, .ref (a 0)), (1, .int x0)] := hl
  refine lv_iload_n hx hb dX1_bad_0 rfl (lv_at hl 1 rfl) ?_
  refine lv_if_lt (tgt := 10) hx hb dX1_bad_1 (by decide) (fun c_1 => ?_) (fun c_1 => ?_)
  · refine lv_iconst (v := 1) hx hb dX1_bad_10 (by decide) ?_
    refine lv_goto (tgt := 15) hx hb dX1_bad_11 (by decide) ?_
    exact rm_z C w hr hlk rfl (⟨rfl, by first | (rw [obk_n1 c_1]; rfl) | (rw [obk_of c_1 (zi_15.mp c_7)]; rfl) | (rw [obk_n2 (Decidable.not_not.mp (fun q => c_7 (zi_15.mpr q)))]; rfl)⟩) dX1_bad_15
  · refine lv_iload_n hx hb dX1_bad_4 rfl (lv_at hl 1 rfl) ?_
    refine lv_bipush (v := 15) hx hb dX1_bad_5 (by decide) ?_
    refine lv_icmp_le (tgt := 14) hx hb dX1_bad_7 (by decide) (fun c_7 => ?_) (fun c_7 => ?_)
    · refine lv_iconst (v := 0) hx hb dX1_bad_14 (by decide) ?_
      exact rm_z C w hr hlk rfl (⟨rfl, by first | (rw [obk_n1 c_1]; rfl) | (rw [obk_of c_1 (zi_15.mp c_7)]; rfl) | (rw [obk_n2 (Decidable.not_not.mp (fun q => c_7 (zi_15.mpr q)))]; rfl)⟩) dX1_bad_15
    · refine lv_iconst (v := 1) hx hb dX1_bad_10 (by decide) ?_
      refine lv_goto (tgt := 15) hx hb dX1_bad_11 (by decide) ?_
      exact rm_z C w hr hlk rfl (⟨rfl, by first | (rw [obk_n1 c_1]; rfl) | (rw [obk_of c_1 (zi_15.mp c_7)]; rfl) | (rw [obk_n2 (Decidable.not_not.mp (fun q => c_7 (zi_15.mpr q)))]; rfl)⟩) dX1_bad_15

set_option maxHeartbeats 4000000 in
set_option maxRecDepth 100000 in
theorem tM_freshCount (l : Launch) (dC : Nat → ClassId) (dI : Nat → Nat → Nat) (cI cZ : ClassId) (a : Nat → Nat) (sz : Nat) (τ : ZM)  : mMi l yX1_freshCount cX1_freshCount 3 (some .int) ({ frames := 0, cells := 0, slots := 0, locals := 0 }) dC dI cI cZ a τ sz [] (fun r u => u = τ ∧ r = nI (mfc τ)) := by
  refine em_i (by decide) rfl (Nat.le_of_ble_eq_true rfl) ?_
  intro p e s m args below meth c A ls C hr hlk hA w hl
  have hx := C.1.1
  have hb := C.1.2.1
  have hl : lv_has ls 3 [(0, .ref (a 0))] := hl
  refine lv_iconst (v := 0) hx hb dX1_freshCount_0 (by decide) ?_
  refine lv_istore_n (lv' := [(1, .int 0), (0, .ref (a 0))]) hx hb dX1_freshCount_1 rfl hl (by decide) rfl (fun ls hl => ?_)
  refine lv_iconst (v := 0) hx hb dX1_freshCount_2 (by decide) ?_
  refine lv_istore_n (lv' := [(2, .int 0), (1, .int 0), (0, .ref (a 0))]) hx hb dX1_freshCount_3 rfl hl (by decide) rfl (fun ls hl => ?_)
  refine zx_loop1 (fun (i : Nat) H locs ls => mW dC dI cI cZ a A s.heap H locs τ ∧ lv_has ls 3 [(0, .ref (a 0)), (1, .int (nI (cb (dg (m_fr τ)) i))), (2, .int (nI i))] ∧ (i ≤ 16)) (fun i => 16 - i) ?_ 0 _ _ _ ⟨w, lv_sub hl [2, 1, 0] rfl, Nat.zero_le _⟩
  clear hl w
  rintro i H locs ls ⟨w, hl, hi⟩ ih_4
  refine lv_iload_n hx hb dX1_freshCount_4 rfl (lv_at hl 2 rfl) ?_
  refine lv_bipush (v := 16) hx hb dX1_freshCount_5 (by decide) ?_
  refine lv_icmp_ge (tgt := 28) hx hb dX1_freshCount_7 (by decide) (fun c_7 => ?_) (fun c_7 => ?_)
  · have hi6 : i = 16 := zi_ex (N := 16) (by decide) hi c_7
    refine lv_iload_n hx hb dX1_freshCount_28 rfl (lv_at hl 1 rfl) ?_
    exact rm_i C w hr hlk (⟨rfl, by subst hi6; rfl⟩) dX1_freshCount_29
  · have hlt : i < 16 := zi_in (N := 16) (by decide) hi c_7
    refine lv_aload_n hx hb dX1_freshCount_10 rfl (lv_at hl 0 rfl) ?_
    refine gm_fr C w dX1_freshCount_11 ?_
    refine lv_iload_n hx hb dX1_freshCount_14 rfl (lv_at hl 2 rfl) ?_
    refine lm_fr C w (k := i) rfl (by omega) dX1_freshCount_15 ?_
    refine lv_if_eq (tgt := 22) hx hb dX1_freshCount_16 (by decide) (fun c_16 => ?_) (fun c_16 => ?_)
    · have hl : lv_has ls 3 [(0, .ref (a 0)), (1, .int (nI (cb (dg (m_fr τ)) (i + 1)))), (2, .int (nI i))] := by rw [← (cb_i0 (g := dg (m_fr τ)) (decide_eq_false (fun q => q c_16)))]; exact hl
      refine lv_iinc (v := nI (i + 1)) (lv' := [(2, .int (nI (i + 1))), (0, .ref (a 0)), (1, .int (nI (cb (dg (m_fr τ)) (i + 1))))]) hx hb dX1_freshCount_22 hl (k := 2) rfl (nI_1 _) (by decide) rfl (fun ls hl => ?_)
      refine lv_goto (tgt := 4) hx hb dX1_freshCount_25 (by decide) ?_
      exact ih_4 (i + 1) _ _ _ (by omega) ⟨w, lv_sub hl [1, 2, 0] rfl, by omega⟩
    · refine lv_iinc (v := nI (cb (dg (m_fr τ)) (i + 1))) (lv' := [(1, .int (nI (cb (dg (m_fr τ)) (i + 1)))), (0, .ref (a 0)), (2, .int (nI i))]) hx hb dX1_freshCount_19 hl (k := 1) rfl (cb_it (decide_eq_true c_16)) (by decide) rfl (fun ls hl => ?_)
      refine lv_iinc (v := nI (i + 1)) (lv' := [(2, .int (nI (i + 1))), (1, .int (nI (cb (dg (m_fr τ)) (i + 1)))), (0, .ref (a 0))]) hx hb dX1_freshCount_22 hl (k := 2) rfl (nI_1 _) (by decide) rfl (fun ls hl => ?_)
      refine lv_goto (tgt := 4) hx hb dX1_freshCount_25 (by decide) ?_
      exact ih_4 (i + 1) _ _ _ (by omega) ⟨w, lv_sub hl [2, 1, 0] rfl, by omega⟩

set_option maxHeartbeats 4000000 in
set_option maxRecDepth 100000 in
theorem tM_settle1 (l : Launch) (dC : Nat → ClassId) (dI : Nat → Nat → Nat) (cI cZ : ClassId) (a : Nat → Nat) (sz : Nat) (τ : ZM)  : mMi l yX1_settle cX1_settle 4 (some .int) ({ frames := 1, cells := 0, slots := 0, locals := 22 }) dC dI cI cZ a τ sz [.int 1] (fun r u => r = nI (mfc τ) ∧ u = mset1 τ) := by
  refine em_i (by decide) rfl (Nat.le_of_ble_eq_true rfl) ?_
  intro p e s m args below meth c A ls C hr hlk hA w hl
  have hx := C.1.1
  have hb := C.1.2.1
  have hl : lv_has ls 4 [(0, .ref (a 0)), (1, .int 1)] := hl
  refine lv_aload_n hx hb dX1_settle_0 rfl (lv_at hl 0 rfl) ?_
  refine cm_r (As := []) (rest := []) C w hA (tM_freshCount l dC dI cI cZ a _ τ) (cwm_freshCount C ⟨Nat.le_of_ble_eq_true rfl, Nat.le_of_ble_eq_true rfl⟩) rfl hl.1 rfl (Nat.le_of_ble_eq_true rfl) dX1_settle_1 ⟨Nat.zero_le _, Nat.zero_le _⟩ (fun r_1 H locs q_1 w => ?_)
  subst q_1
  refine lv_istore_n (lv' := [(2, .int (nI (mfc τ))), (0, .ref (a 0)), (1, .int 1)]) hx hb dX1_settle_4 rfl hl (by decide) rfl (fun ls hl => ?_)
  refine lv_iconst (v := 0) hx hb dX1_settle_5 (by decide) ?_
  refine lv_istore_n (lv' := [(3, .int 0), (2, .int (nI (mfc τ))), (0, .ref (a 0)), (1, .int 1)]) hx hb dX1_settle_6 rfl hl (by decide) rfl (fun ls hl => ?_)
  refine zx_loop1 (fun (i : Nat) H locs ls => mW dC dI cI cZ a A s.heap H locs (n_fr (n_kp τ (ctn i (m_nw τ) (m_kp τ))) (ctn i (fun _ => 0) (m_fr τ))) ∧ lv_has ls 4 [(0, .ref (a 0)), (1, .int 1), (2, .int (nI (mfc τ))), (3, .int (nI i))] ∧ (i ≤ 16)) (fun i => 16 - i) ?_ 0 _ _ _ ⟨by rw [ctn_0, ctn_0]; exact w, lv_sub hl [2, 3, 1, 0] rfl, Nat.zero_le _⟩
  clear hl w
  rintro i H locs ls ⟨w, hl, hi⟩ ih_7
  refine lv_iload_n hx hb dX1_settle_7 rfl (lv_at hl 3 rfl) ?_
  refine lv_bipush (v := 16) hx hb dX1_settle_8 (by decide) ?_
  refine lv_icmp_ge (tgt := 57) hx hb dX1_settle_10 (by decide) (fun c_10 => ?_) (fun c_10 => ?_)
  · have hi6 : i = 16 := zi_ex (N := 16) (by decide) hi c_10
    refine lv_iload_n hx hb dX1_settle_57 rfl (lv_at hl 2 rfl) ?_
    exact rm_i C w hr hlk (⟨rfl, by subst hi6; rfl⟩) dX1_settle_58
  · have hlt : i < 16 := zi_in (N := 16) (by decide) hi c_10
    refine lv_iload_n hx hb dX1_settle_13 rfl (lv_at hl 1 rfl) ?_
    refine lv_if_eq (tgt := 32) hx hb dX1_settle_14 (by decide) (fun c_14 => ?_) (fun c_14 => ?_)
    · exact absurd c_14 (by decide)
    · refine lv_aload_n hx hb dX1_settle_17 rfl (lv_at hl 0 rfl) ?_
      refine gm_kp C w dX1_settle_18 ?_
      refine lv_iload_n hx hb dX1_settle_21 rfl (lv_at hl 3 rfl) ?_
      refine lv_aload_n hx hb dX1_settle_22 rfl (lv_at hl 0 rfl) ?_
      refine gm_nw C w dX1_settle_23 ?_
      refine lv_iload_n hx hb dX1_settle_26 rfl (lv_at hl 3 rfl) ?_
      refine lm_nw C w (k := i) rfl (by omega) dX1_settle_27 ?_
      refine wm_kp C w (k := i) rfl (by omega) dX1_settle_28 (fun H locs w => ?_)
      refine lv_goto (tgt := 44) hx hb dX1_settle_29 (by decide) ?_
      refine lv_aload_n hx hb dX1_settle_44 rfl (lv_at hl 0 rfl) ?_
      refine gm_fr C w dX1_settle_45 ?_
      refine lv_iload_n hx hb dX1_settle_48 rfl (lv_at hl 3 rfl) ?_
      refine lv_iconst (v := 0) hx hb dX1_settle_49 (by decide) ?_
      refine wm_fr C w (k := i) rfl (by omega) rfl dX1_settle_50 (fun H locs w => ?_)
      refine lv_iinc (v := nI (i + 1)) (lv' := [(3, .int (nI (i + 1))), (0, .ref (a 0)), (1, .int 1), (2, .int (nI (mfc τ)))]) hx hb dX1_settle_51 hl (k := 3) rfl (nI_1 _) (by decide) rfl (fun ls hl => ?_)
      refine lv_goto (tgt := 7) hx hb dX1_settle_54 (by decide) ?_
      exact ih_7 (i + 1) _ _ _ (by omega) ⟨by rw [← ctn_s (n := i) (f := m_nw τ) (g := m_kp τ) rfl, ← ctn_s (n := i) (f := (fun _ => 0)) (g := m_fr τ) rfl]; exact w, lv_sub hl [1, 2, 3, 0] rfl, by omega⟩

set_option maxHeartbeats 4000000 in
set_option maxRecDepth 100000 in
theorem tM_settle0 (l : Launch) (dC : Nat → ClassId) (dI : Nat → Nat → Nat) (cI cZ : ClassId) (a : Nat → Nat) (sz : Nat) (τ : ZM)  : mMi l yX1_settle cX1_settle 4 (some .int) ({ frames := 1, cells := 0, slots := 0, locals := 22 }) dC dI cI cZ a τ sz [.int 0] (fun r u => r = nI (mfc τ) ∧ u = mset0 τ) := by
  refine em_i (by decide) rfl (Nat.le_of_ble_eq_true rfl) ?_
  intro p e s m args below meth c A ls C hr hlk hA w hl
  have hx := C.1.1
  have hb := C.1.2.1
  have hl : lv_has ls 4 [(0, .ref (a 0)), (1, .int 0)] := hl
  refine lv_aload_n hx hb dX1_settle_0 rfl (lv_at hl 0 rfl) ?_
  refine cm_r (As := []) (rest := []) C w hA (tM_freshCount l dC dI cI cZ a _ τ) (cwm_freshCount C ⟨Nat.le_of_ble_eq_true rfl, Nat.le_of_ble_eq_true rfl⟩) rfl hl.1 rfl (Nat.le_of_ble_eq_true rfl) dX1_settle_1 ⟨Nat.zero_le _, Nat.zero_le _⟩ (fun r_1 H locs q_1 w => ?_)
  subst q_1
  refine lv_istore_n (lv' := [(2, .int (nI (mfc τ))), (0, .ref (a 0)), (1, .int 0)]) hx hb dX1_settle_4 rfl hl (by decide) rfl (fun ls hl => ?_)
  refine lv_iconst (v := 0) hx hb dX1_settle_5 (by decide) ?_
  refine lv_istore_n (lv' := [(3, .int 0), (2, .int (nI (mfc τ))), (0, .ref (a 0)), (1, .int 0)]) hx hb dX1_settle_6 rfl hl (by decide) rfl (fun ls hl => ?_)
  refine zx_loop1 (fun (i : Nat) H locs ls => mW dC dI cI cZ a A s.heap H locs (n_fr (n_nw τ (ctn i (m_kp τ) (m_nw τ))) (ctn i (fun _ => 0) (m_fr τ))) ∧ lv_has ls 4 [(0, .ref (a 0)), (1, .int 0), (2, .int (nI (mfc τ))), (3, .int (nI i))] ∧ (i ≤ 16)) (fun i => 16 - i) ?_ 0 _ _ _ ⟨by rw [ctn_0, ctn_0]; exact w, lv_sub hl [2, 3, 1, 0] rfl, Nat.zero_le _⟩
  clear hl w
  rintro i H locs ls ⟨w, hl, hi⟩ ih_7
  refine lv_iload_n hx hb dX1_settle_7 rfl (lv_at hl 3 rfl) ?_
  refine lv_bipush (v := 16) hx hb dX1_settle_8 (by decide) ?_
  refine lv_icmp_ge (tgt := 57) hx hb dX1_settle_10 (by decide) (fun c_10 => ?_) (fun c_10 => ?_)
  · have hi6 : i = 16 := zi_ex (N := 16) (by decide) hi c_10
    refine lv_iload_n hx hb dX1_settle_57 rfl (lv_at hl 2 rfl) ?_
    exact rm_i C w hr hlk (⟨rfl, by subst hi6; rfl⟩) dX1_settle_58
  · have hlt : i < 16 := zi_in (N := 16) (by decide) hi c_10
    refine lv_iload_n hx hb dX1_settle_13 rfl (lv_at hl 1 rfl) ?_
    refine lv_if_eq (tgt := 32) hx hb dX1_settle_14 (by decide) (fun c_14 => ?_) (fun c_14 => ?_)
    · refine lv_aload_n hx hb dX1_settle_32 rfl (lv_at hl 0 rfl) ?_
      refine gm_nw C w dX1_settle_33 ?_
      refine lv_iload_n hx hb dX1_settle_36 rfl (lv_at hl 3 rfl) ?_
      refine lv_aload_n hx hb dX1_settle_37 rfl (lv_at hl 0 rfl) ?_
      refine gm_kp C w dX1_settle_38 ?_
      refine lv_iload_n hx hb dX1_settle_41 rfl (lv_at hl 3 rfl) ?_
      refine lm_kp C w (k := i) rfl (by omega) dX1_settle_42 ?_
      refine wm_nw C w (k := i) rfl (by omega) dX1_settle_43 (fun H locs w => ?_)
      refine lv_aload_n hx hb dX1_settle_44 rfl (lv_at hl 0 rfl) ?_
      refine gm_fr C w dX1_settle_45 ?_
      refine lv_iload_n hx hb dX1_settle_48 rfl (lv_at hl 3 rfl) ?_
      refine lv_iconst (v := 0) hx hb dX1_settle_49 (by decide) ?_
      refine wm_fr C w (k := i) rfl (by omega) rfl dX1_settle_50 (fun H locs w => ?_)
      refine lv_iinc (v := nI (i + 1)) (lv' := [(3, .int (nI (i + 1))), (0, .ref (a 0)), (1, .int 0), (2, .int (nI (mfc τ)))]) hx hb dX1_settle_51 hl (k := 3) rfl (nI_1 _) (by decide) rfl (fun ls hl => ?_)
      refine lv_goto (tgt := 7) hx hb dX1_settle_54 (by decide) ?_
      exact ih_7 (i + 1) _ _ _ (by omega) ⟨by rw [← ctn_s (n := i) (f := m_kp τ) (g := m_nw τ) rfl, ← ctn_s (n := i) (f := (fun _ => 0)) (g := m_fr τ) rfl]; exact w, lv_sub hl [1, 2, 3, 0] rfl, by omega⟩
    · exact absurd rfl c_14

set_option maxHeartbeats 4000000 in
set_option maxRecDepth 100000 in
theorem tM_up (l : Launch) (dC : Nat → ClassId) (dI : Nat → Nat → Nat) (cI cZ : ClassId) (a : Nat → Nat) (sz : Nat) (τ : ZM)  : mMi l yX1_up cX1_up 1 (some .int) ({ frames := 0, cells := 0, slots := 0, locals := 0 }) dC dI cI cZ a τ sz [] (fun r u => (r, u) = mo_up τ) := by
  refine em_i (by decide) rfl (Nat.le_of_ble_eq_true rfl) ?_
  intro p e s m args below meth c A ls C hr hlk hA w hl
  have hx := C.1.1
  have hb := C.1.2.1
  have hl : lv_has ls 1 [(0, .ref (a 0))] := hl
  refine lv_aload_n hx hb dX1_up_0 rfl (lv_at hl 0 rfl) ?_
  refine gm_on C w dX1_up_1 ?_
  refine lv_if_eq (tgt := 11) hx hb dX1_up_4 (by decide) (fun c_4 => ?_) (fun c_4 => ?_)
  · refine lv_iconst (v := 0) hx hb dX1_up_11 (by decide) ?_
    exact rm_i C w hr hlk (by first | exact (mo_up_0 c_4).symm | exact (mo_up_1 c_4).symm) dX1_up_12
  · refine lv_iconst (v := 1) hx hb dX1_up_7 (by decide) ?_
    refine lv_goto (tgt := 12) hx hb dX1_up_8 (by decide) ?_
    exact rm_i C w hr hlk (by first | exact (mo_up_0 c_4).symm | exact (mo_up_1 c_4).symm) dX1_up_12

set_option maxHeartbeats 4000000 in
set_option maxRecDepth 100000 in
theorem tM_grouped (l : Launch) (dC : Nat → ClassId) (dI : Nat → Nat → Nat) (cI cZ : ClassId) (a : Nat → Nat) (sz : Nat) (τ : ZM)  : mMi l yX1_grouped cX1_grouped 1 (some .int) ({ frames := 0, cells := 0, slots := 0, locals := 0 }) dC dI cI cZ a τ sz [] (fun r u => (r, u) = mo_grouped τ) := by
  refine em_i (by decide) rfl (Nat.le_of_ble_eq_true rfl) ?_
  intro p e s m args below meth c A ls C hr hlk hA w hl
  have hx := C.1.1
  have hb := C.1.2.1
  have hl : lv_has ls 1 [(0, .ref (a 0))] := hl
  refine lv_aload_n hx hb dX1_grouped_0 rfl (lv_at hl 0 rfl) ?_
  refine gm_op C w dX1_grouped_1 ?_
  refine lv_if_eq (tgt := 11) hx hb dX1_grouped_4 (by decide) (fun c_4 => ?_) (fun c_4 => ?_)
  · refine lv_iconst (v := 0) hx hb dX1_grouped_11 (by decide) ?_
    exact rm_i C w hr hlk (by first | exact (mo_grouped_0 c_4).symm | exact (mo_grouped_1 c_4).symm) dX1_grouped_12
  · refine lv_iconst (v := 1) hx hb dX1_grouped_7 (by decide) ?_
    refine lv_goto (tgt := 12) hx hb dX1_grouped_8 (by decide) ?_
    exact rm_i C w hr hlk (by first | exact (mo_grouped_0 c_4).symm | exact (mo_grouped_1 c_4).symm) dX1_grouped_12

set_option maxHeartbeats 4000000 in
set_option maxRecDepth 100000 in
theorem tM_clean (l : Launch) (dC : Nat → ClassId) (dI : Nat → Nat → Nat) (cI cZ : ClassId) (a : Nat → Nat) (sz : Nat) (τ : ZM)  : mMi l yX1_clean cX1_clean 1 (some .int) ({ frames := 0, cells := 0, slots := 0, locals := 0 }) dC dI cI cZ a τ sz [] (fun r u => (r, u) = mo_clean τ) := by
  refine em_i (by decide) rfl (Nat.le_of_ble_eq_true rfl) ?_
  intro p e s m args below meth c A ls C hr hlk hA w hl
  have hx := C.1.1
  have hb := C.1.2.1
  have hl : lv_has ls 1 [(0, .ref (a 0))] := hl
  refine lv_aload_n hx hb dX1_clean_0 rfl (lv_at hl 0 rfl) ?_
  refine gm_on C w dX1_clean_1 ?_
  refine lv_if_eq (tgt := 11) hx hb dX1_clean_4 (by decide) (fun c_4 => ?_) (fun c_4 => ?_)
  · refine lv_iconst (v := -1) hx hb dX1_clean_11 (by decide) ?_
    exact rm_i C w hr hlk (by first | exact (mo_clean_0 c_4).symm | exact (mo_clean_1 c_4).symm) dX1_clean_12
  · refine lv_iconst (v := 0) hx hb dX1_clean_7 (by decide) ?_
    refine lv_goto (tgt := 12) hx hb dX1_clean_8 (by decide) ?_
    exact rm_i C w hr hlk (by first | exact (mo_clean_0 c_4).symm | exact (mo_clean_1 c_4).symm) dX1_clean_12

set_option maxHeartbeats 4000000 in
set_option maxRecDepth 100000 in
theorem tM_check (l : Launch) (dC : Nat → ClassId) (dI : Nat → Nat → Nat) (cI cZ : ClassId) (a : Nat → Nat) (sz : Nat) (τ : ZM)  : mMi l yX1_check cX1_check 1 (some .int) ({ frames := 0, cells := 0, slots := 0, locals := 0 }) dC dI cI cZ a τ sz [] (fun r u => (r, u) = mo_clean τ) := by
  refine em_i (by decide) rfl (Nat.le_of_ble_eq_true rfl) ?_
  intro p e s m args below meth c A ls C hr hlk hA w hl
  have hx := C.1.1
  have hb := C.1.2.1
  have hl : lv_has ls 1 [(0, .ref (a 0))] := hl
  refine lv_aload_n hx hb dX1_check_0 rfl (lv_at hl 0 rfl) ?_
  refine gm_on C w dX1_check_1 ?_
  refine lv_if_eq (tgt := 11) hx hb dX1_check_4 (by decide) (fun c_4 => ?_) (fun c_4 => ?_)
  · refine lv_iconst (v := -1) hx hb dX1_check_11 (by decide) ?_
    exact rm_i C w hr hlk (by first | exact (mo_clean_0 c_4).symm | exact (mo_clean_1 c_4).symm) dX1_check_12
  · refine lv_iconst (v := 0) hx hb dX1_check_7 (by decide) ?_
    refine lv_goto (tgt := 12) hx hb dX1_check_8 (by decide) ?_
    exact rm_i C w hr hlk (by first | exact (mo_clean_0 c_4).symm | exact (mo_clean_1 c_4).symm) dX1_check_12

set_option maxHeartbeats 4000000 in
set_option maxRecDepth 100000 in
theorem tM_read (l : Launch) (dC : Nat → ClassId) (dI : Nat → Nat → Nat) (cI cZ : ClassId) (a : Nat → Nat) (sz : Nat) (τ : ZM) (x0 : Int32) : mMi l yX1_read cX1_read 2 (some .int) ({ frames := 1, cells := 0, slots := 0, locals := 21 }) dC dI cI cZ a τ sz [.int x0] (fun r u => (r, u) = mo_read τ x0) := by
  refine em_i (by decide) rfl (Nat.le_of_ble_eq_true rfl) ?_
  intro p e s m args below meth c A ls C hr hlk hA w hl
  have hx := C.1.1
  have hb := C.1.2.1
  have hl : lv_has ls 2 [(0, .ref (a 0)), (1, .int x0)] := hl
  refine lv_aload_n hx hb dX1_read_0 rfl (lv_at hl 0 rfl) ?_
  refine gm_on C w dX1_read_1 ?_
  refine lv_if_eq (tgt := 24) hx hb dX1_read_4 (by decide) (fun c_4 => ?_) (fun c_4 => ?_)
  · refine lv_iconst (v := 0) hx hb dX1_read_24 (by decide) ?_
    exact rm_i C w hr hlk (by first | exact (mo_read_0 c_4).symm | exact (mo_read_1 (bad_f c_12)).symm | exact (mo_read_2 c_4 hk ek).symm) dX1_read_25
  · refine lv_aload_n hx hb dX1_read_7 rfl (lv_at hl 0 rfl) ?_
    refine lv_iload_n hx hb dX1_read_8 rfl (lv_at hl 1 rfl) ?_
    refine cm_r (As := [.int x0]) (rest := []) C w hA (tM_bad l dC dI cI cZ a _ τ x0) (cwm_bad C ⟨Nat.le_of_ble_eq_true rfl, Nat.le_of_ble_eq_true rfl⟩) rfl hl.1 rfl (Nat.le_of_ble_eq_true rfl) dX1_read_9 ⟨Nat.zero_le _, Nat.zero_le _⟩ (fun r_9 H locs q_9 w => ?_)
    subst q_9
    refine lv_if_ne (tgt := 24) hx hb dX1_read_12 (by decide) (fun c_12 => ?_) (fun c_12 => ?_)
    · refine lv_iconst (v := 0) hx hb dX1_read_24 (by decide) ?_
      exact rm_i C w hr hlk (by first | exact (mo_read_0 c_4).symm | exact (mo_read_1 (bad_f c_12)).symm | exact (mo_read_2 c_4 hk ek).symm) dX1_read_25
    · obtain ⟨k, hk, ek⟩ := obk_iff.mp (bad_t c_12)
      refine lv_aload_n hx hb dX1_read_15 rfl (lv_at hl 0 rfl) ?_
      refine gm_nw C w dX1_read_16 ?_
      refine lv_iload_n hx hb dX1_read_19 rfl (lv_at hl 1 rfl) ?_
      refine lm_nw C w (k := k) ek hk dX1_read_20 ?_
      refine lv_goto (tgt := 25) hx hb dX1_read_21 (by decide) ?_
      exact rm_i C w hr hlk (by first | exact (mo_read_0 c_4).symm | exact (mo_read_1 (bad_f c_12)).symm | exact (mo_read_2 c_4 hk ek).symm) dX1_read_25

set_option maxHeartbeats 4000000 in
set_option maxRecDepth 100000 in
theorem tM_put (l : Launch) (dC : Nat → ClassId) (dI : Nat → Nat → Nat) (cI cZ : ClassId) (a : Nat → Nat) (sz : Nat) (τ : ZM) (k : Nat) (v : Int32) (hk : k < 16) : mMv l yX1_put cX1_put 3 none ({ frames := 2, cells := 0, slots := 0, locals := 45 }) dC dI cI cZ a τ sz [.int (nI k), .int v] (fun u => u = mput τ k v) := by
  refine em_v (by decide) rfl (Nat.le_of_ble_eq_true rfl) ?_
  intro p e s m args below meth c A ls C hr hlk hA w hl
  have hx := C.1.1
  have hb := C.1.2.1
  have hl : lv_has ls 3 [(0, .ref (a 0)), (1, .int (nI k)), (2, .int v)] := hl
  refine lv_aload_n hx hb dX1_put_0 rfl (lv_at hl 0 rfl) ?_
  refine gm_op C w dX1_put_1 ?_
  refine lv_if_ne (tgt := 31) hx hb dX1_put_4 (by decide) (fun c_4 => ?_) (fun c_4 => ?_)
  · refine lv_aload_n hx hb dX1_put_31 rfl (lv_at hl 0 rfl) ?_
    refine gm_nw C w dX1_put_32 ?_
    refine lv_iload_n hx hb dX1_put_35 rfl (lv_at hl 1 rfl) ?_
    refine lv_iload_n hx hb dX1_put_36 rfl (lv_at hl 2 rfl) ?_
    refine wm_nw C w (k := k) rfl (by omega) dX1_put_37 (fun H locs w => ?_)
    refine lv_aload_n hx hb dX1_put_38 rfl (lv_at hl 0 rfl) ?_
    refine gm_fr C w dX1_put_39 ?_
    refine lv_iload_n hx hb dX1_put_42 rfl (lv_at hl 1 rfl) ?_
    refine lv_iconst (v := 1) hx hb dX1_put_43 (by decide) ?_
    refine wm_fr C w (k := k) rfl (by omega) rfl dX1_put_44 (fun H locs w => ?_)
    exact rm_v C w hr hlk (by first | exact (mput_f (fun q => c_4 q.1)).symm | exact (mput_f (fun q => c_13 q.2.1)).symm | exact (mput_f (fun q => c_22 q.2.2)).symm | exact (mput_t c_4 c_13 c_22).symm) dX1_put_45
  · refine lv_aload_n hx hb dX1_put_7 rfl (lv_at hl 0 rfl) ?_
    refine cm_r (As := []) (rest := []) C w hA (tM_freshCount l dC dI cI cZ a _ τ) (cwm_freshCount C ⟨Nat.le_of_ble_eq_true rfl, Nat.le_of_ble_eq_true rfl⟩) rfl hl.1 rfl (Nat.le_of_ble_eq_true rfl) dX1_put_8 ⟨Nat.zero_le _, Nat.zero_le _⟩ (fun r_8 H locs q_8 w => ?_)
    subst q_8
    refine lv_bipush (v := 6) hx hb dX1_put_11 (by decide) ?_
    refine lv_icmp_ne (tgt := 31) hx hb dX1_put_13 (by decide) (fun c_13 => ?_) (fun c_13 => ?_)
    · refine lv_aload_n hx hb dX1_put_31 rfl (lv_at hl 0 rfl) ?_
      refine gm_nw C w dX1_put_32 ?_
      refine lv_iload_n hx hb dX1_put_35 rfl (lv_at hl 1 rfl) ?_
      refine lv_iload_n hx hb dX1_put_36 rfl (lv_at hl 2 rfl) ?_
      refine wm_nw C w (k := k) rfl (by omega) dX1_put_37 (fun H locs w => ?_)
      refine lv_aload_n hx hb dX1_put_38 rfl (lv_at hl 0 rfl) ?_
      refine gm_fr C w dX1_put_39 ?_
      refine lv_iload_n hx hb dX1_put_42 rfl (lv_at hl 1 rfl) ?_
      refine lv_iconst (v := 1) hx hb dX1_put_43 (by decide) ?_
      refine wm_fr C w (k := k) rfl (by omega) rfl dX1_put_44 (fun H locs w => ?_)
      exact rm_v C w hr hlk (by first | exact (mput_f (fun q => c_4 q.1)).symm | exact (mput_f (fun q => c_13 q.2.1)).symm | exact (mput_f (fun q => c_22 q.2.2)).symm | exact (mput_t c_4 c_13 c_22).symm) dX1_put_45
    · refine lv_aload_n hx hb dX1_put_16 rfl (lv_at hl 0 rfl) ?_
      refine gm_fr C w dX1_put_17 ?_
      refine lv_iload_n hx hb dX1_put_20 rfl (lv_at hl 1 rfl) ?_
      refine lm_fr C w (k := k) rfl (by omega) dX1_put_21 ?_
      refine lv_if_ne (tgt := 31) hx hb dX1_put_22 (by decide) (fun c_22 => ?_) (fun c_22 => ?_)
      · refine lv_aload_n hx hb dX1_put_31 rfl (lv_at hl 0 rfl) ?_
        refine gm_nw C w dX1_put_32 ?_
        refine lv_iload_n hx hb dX1_put_35 rfl (lv_at hl 1 rfl) ?_
        refine lv_iload_n hx hb dX1_put_36 rfl (lv_at hl 2 rfl) ?_
        refine wm_nw C w (k := k) rfl (by omega) dX1_put_37 (fun H locs w => ?_)
        refine lv_aload_n hx hb dX1_put_38 rfl (lv_at hl 0 rfl) ?_
        refine gm_fr C w dX1_put_39 ?_
        refine lv_iload_n hx hb dX1_put_42 rfl (lv_at hl 1 rfl) ?_
        refine lv_iconst (v := 1) hx hb dX1_put_43 (by decide) ?_
        refine wm_fr C w (k := k) rfl (by omega) rfl dX1_put_44 (fun H locs w => ?_)
        exact rm_v C w hr hlk (by first | exact (mput_f (fun q => c_4 q.1)).symm | exact (mput_f (fun q => c_13 q.2.1)).symm | exact (mput_f (fun q => c_22 q.2.2)).symm | exact (mput_t c_4 c_13 c_22).symm) dX1_put_45
      · refine lv_aload_n hx hb dX1_put_25 rfl (lv_at hl 0 rfl) ?_
        refine lv_iconst (v := 1) hx hb dX1_put_26 (by decide) ?_
        refine cm_i (As := [.int 1]) (rest := []) C w hA (tM_settle1 l dC dI cI cZ a _ τ) (cwm_settle C ⟨Nat.le_of_ble_eq_true rfl, Nat.le_of_ble_eq_true rfl⟩) rfl hl.1 rfl (Nat.le_of_ble_eq_true rfl) dX1_put_27 ⟨Nat.zero_le _, Nat.zero_le _⟩ (fun r_27 u_27 H locs q_27 w => ?_)
        obtain ⟨rfl, rfl⟩ := q_27
        refine lv_pop hx hb dX1_put_30 rfl ?_
        refine lv_aload_n hx hb dX1_put_31 rfl (lv_at hl 0 rfl) ?_
        refine gm_nw C w dX1_put_32 ?_
        refine lv_iload_n hx hb dX1_put_35 rfl (lv_at hl 1 rfl) ?_
        refine lv_iload_n hx hb dX1_put_36 rfl (lv_at hl 2 rfl) ?_
        refine wm_nw C w (k := k) rfl (by omega) dX1_put_37 (fun H locs w => ?_)
        refine lv_aload_n hx hb dX1_put_38 rfl (lv_at hl 0 rfl) ?_
        refine gm_fr C w dX1_put_39 ?_
        refine lv_iload_n hx hb dX1_put_42 rfl (lv_at hl 1 rfl) ?_
        refine lv_iconst (v := 1) hx hb dX1_put_43 (by decide) ?_
        refine wm_fr C w (k := k) rfl (by omega) rfl dX1_put_44 (fun H locs w => ?_)
        exact rm_v C w hr hlk (by first | exact (mput_f (fun q => c_4 q.1)).symm | exact (mput_f (fun q => c_13 q.2.1)).symm | exact (mput_f (fun q => c_22 q.2.2)).symm | exact (mput_t c_4 c_13 c_22).symm) dX1_put_45

set_option maxHeartbeats 4000000 in
set_option maxRecDepth 100000 in
theorem tM_write (l : Launch) (dC : Nat → ClassId) (dI : Nat → Nat → Nat) (cI cZ : ClassId) (a : Nat → Nat) (sz : Nat) (τ : ZM) (x0 v : Int32) : mMi l yX1_write cX1_write 3 (some .int) ({ frames := 3, cells := 0, slots := 0, locals := 67 }) dC dI cI cZ a τ sz [.int x0, .int v] (fun r u => (r, u) = mo_write τ x0 v) := by
  refine em_i (by decide) rfl (Nat.le_of_ble_eq_true rfl) ?_
  intro p e s m args below meth c A ls C hr hlk hA w hl
  have hx := C.1.1
  have hb := C.1.2.1
  have hl : lv_has ls 3 [(0, .ref (a 0)), (1, .int x0), (2, .int v)] := hl
  refine lv_aload_n hx hb dX1_write_0 rfl (lv_at hl 0 rfl) ?_
  refine gm_on C w dX1_write_1 ?_
  refine lv_if_ne (tgt := 9) hx hb dX1_write_4 (by decide) (fun c_4 => ?_) (fun c_4 => ?_)
  · refine lv_aload_n hx hb dX1_write_9 rfl (lv_at hl 0 rfl) ?_
    refine lv_iload_n hx hb dX1_write_10 rfl (lv_at hl 1 rfl) ?_
    refine cm_r (As := [.int x0]) (rest := []) C w hA (tM_bad l dC dI cI cZ a _ τ x0) (cwm_bad C ⟨Nat.le_of_ble_eq_true rfl, Nat.le_of_ble_eq_true rfl⟩) rfl hl.1 rfl (Nat.le_of_ble_eq_true rfl) dX1_write_11 ⟨Nat.zero_le _, Nat.zero_le _⟩ (fun r_11 H locs q_11 w => ?_)
    subst q_11
    refine lv_if_eq (tgt := 20) hx hb dX1_write_14 (by decide) (fun c_14 => ?_) (fun c_14 => ?_)
    · obtain ⟨k, hk, ek⟩ := obk_iff.mp (bad_t c_14)
      refine lv_aload_n hx hb dX1_write_20 rfl (lv_at hl 0 rfl) ?_
      refine gm_op C w dX1_write_21 ?_
      refine lv_if_eq (tgt := 48) hx hb dX1_write_24 (by decide) (fun c_24 => ?_) (fun c_24 => ?_)
      · refine lv_aload_n hx hb dX1_write_48 rfl (lv_at hl 0 rfl) ?_
        refine lv_iload_n hx hb dX1_write_49 rfl (lv_at hl 1 rfl) ?_
        refine zt_i (y := nI k) ek ?_
        refine lv_iload_n hx hb dX1_write_50 rfl (lv_at hl 2 rfl) ?_
        refine cm_v (As := [.int (nI k), .int v]) (rest := []) C w hA (tM_put l dC dI cI cZ a _ τ k v hk) (cwm_put C ⟨Nat.le_of_ble_eq_true rfl, Nat.le_of_ble_eq_true rfl⟩) rfl hl.1 rfl (Nat.le_of_ble_eq_true rfl) dX1_write_51 ⟨Nat.zero_le _, Nat.zero_le _⟩ (fun u_51 H locs q_51 w => ?_)
        subst q_51
        refine lv_iconst (v := 0) hx hb dX1_write_54 (by decide) ?_
        exact rm_i C w hr hlk (by first | exact (mo_write_4 c_4 hk ek (fun q => q.1 c_24)).symm | exact (mo_write_4 c_4 hk ek (fun q => c_33 q.2.1)).symm | exact (mo_write_4 c_4 hk ek (fun q => c_42 q.2.2)).symm) dX1_write_55
      · refine lv_aload_n hx hb dX1_write_27 rfl (lv_at hl 0 rfl) ?_
        refine cm_r (As := []) (rest := []) C w hA (tM_freshCount l dC dI cI cZ a _ τ) (cwm_freshCount C ⟨Nat.le_of_ble_eq_true rfl, Nat.le_of_ble_eq_true rfl⟩) rfl hl.1 rfl (Nat.le_of_ble_eq_true rfl) dX1_write_28 ⟨Nat.zero_le _, Nat.zero_le _⟩ (fun r_28 H locs q_28 w => ?_)
        subst q_28
        refine lv_bipush (v := 6) hx hb dX1_write_31 (by decide) ?_
        refine lv_icmp_ne (tgt := 48) hx hb dX1_write_33 (by decide) (fun c_33 => ?_) (fun c_33 => ?_)
        · refine lv_aload_n hx hb dX1_write_48 rfl (lv_at hl 0 rfl) ?_
          refine lv_iload_n hx hb dX1_write_49 rfl (lv_at hl 1 rfl) ?_
          refine zt_i (y := nI k) ek ?_
          refine lv_iload_n hx hb dX1_write_50 rfl (lv_at hl 2 rfl) ?_
          refine cm_v (As := [.int (nI k), .int v]) (rest := []) C w hA (tM_put l dC dI cI cZ a _ τ k v hk) (cwm_put C ⟨Nat.le_of_ble_eq_true rfl, Nat.le_of_ble_eq_true rfl⟩) rfl hl.1 rfl (Nat.le_of_ble_eq_true rfl) dX1_write_51 ⟨Nat.zero_le _, Nat.zero_le _⟩ (fun u_51 H locs q_51 w => ?_)
          subst q_51
          refine lv_iconst (v := 0) hx hb dX1_write_54 (by decide) ?_
          exact rm_i C w hr hlk (by first | exact (mo_write_4 c_4 hk ek (fun q => q.1 c_24)).symm | exact (mo_write_4 c_4 hk ek (fun q => c_33 q.2.1)).symm | exact (mo_write_4 c_4 hk ek (fun q => c_42 q.2.2)).symm) dX1_write_55
        · refine lv_aload_n hx hb dX1_write_36 rfl (lv_at hl 0 rfl) ?_
          refine gm_fr C w dX1_write_37 ?_
          refine lv_iload_n hx hb dX1_write_40 rfl (lv_at hl 1 rfl) ?_
          refine lm_fr C w (k := k) ek hk dX1_write_41 ?_
          refine lv_if_ne (tgt := 48) hx hb dX1_write_42 (by decide) (fun c_42 => ?_) (fun c_42 => ?_)
          · refine lv_aload_n hx hb dX1_write_48 rfl (lv_at hl 0 rfl) ?_
            refine lv_iload_n hx hb dX1_write_49 rfl (lv_at hl 1 rfl) ?_
            refine zt_i (y := nI k) ek ?_
            refine lv_iload_n hx hb dX1_write_50 rfl (lv_at hl 2 rfl) ?_
            refine cm_v (As := [.int (nI k), .int v]) (rest := []) C w hA (tM_put l dC dI cI cZ a _ τ k v hk) (cwm_put C ⟨Nat.le_of_ble_eq_true rfl, Nat.le_of_ble_eq_true rfl⟩) rfl hl.1 rfl (Nat.le_of_ble_eq_true rfl) dX1_write_51 ⟨Nat.zero_le _, Nat.zero_le _⟩ (fun u_51 H locs q_51 w => ?_)
            subst q_51
            refine lv_iconst (v := 0) hx hb dX1_write_54 (by decide) ?_
            exact rm_i C w hr hlk (by first | exact (mo_write_4 c_4 hk ek (fun q => q.1 c_24)).symm | exact (mo_write_4 c_4 hk ek (fun q => c_33 q.2.1)).symm | exact (mo_write_4 c_4 hk ek (fun q => c_42 q.2.2)).symm) dX1_write_55
          · refine lv_bipush (v := -3) hx hb dX1_write_45 (by decide) ?_
            exact rm_i C w hr hlk ((mo_write_3 c_4 hk ek c_24 c_33 c_42).symm) dX1_write_47
    · refine lv_bipush (v := -2) hx hb dX1_write_17 (by decide) ?_
      exact rm_i C w hr hlk ((mo_write_2 c_4 (bad_f c_14)).symm) dX1_write_19
  · refine lv_iconst (v := -1) hx hb dX1_write_7 (by decide) ?_
    exact rm_i C w hr hlk ((mo_write_1 c_4).symm) dX1_write_8

set_option maxHeartbeats 4000000 in
set_option maxRecDepth 100000 in
theorem tM_fill (l : Launch) (dC : Nat → ClassId) (dI : Nat → Nat → Nat) (cI cZ : ClassId) (a : Nat → Nat) (sz : Nat) (τ : ZM) (x1 x2 v st : Int32) : mMi l yX1_fill cX1_fill 6 (some .int) ({ frames := 3, cells := 0, slots := 0, locals := 67 }) dC dI cI cZ a τ sz [.int x1, .int x2, .int v, .int st] (fun r u => (r, u) = mo_fill τ x1 x2 v st) := by
  refine em_i (by decide) rfl (Nat.le_of_ble_eq_true rfl) ?_
  intro p e s m args below meth c A ls C hr hlk hA w hl
  have hx := C.1.1
  have hb := C.1.2.1
  have hl : lv_has ls 6 [(0, .ref (a 0)), (1, .int x1), (2, .int x2), (3, .int v), (4, .int st)] := hl
  refine lv_aload_n hx hb dX1_fill_0 rfl (lv_at hl 0 rfl) ?_
  refine gm_on C w dX1_fill_1 ?_
  refine lv_if_ne (tgt := 9) hx hb dX1_fill_4 (by decide) (fun c_4 => ?_) (fun c_4 => ?_)
  · refine lv_iload_n hx hb dX1_fill_9 rfl (lv_at hl 2 rfl) ?_
    refine lv_iconst (v := 1) hx hb dX1_fill_10 (by decide) ?_
    refine lv_icmp_lt (tgt := 32) hx hb dX1_fill_11 (by decide) (fun c_11 => ?_) (fun c_11 => ?_)
    · refine lv_bipush (v := -2) hx hb dX1_fill_32 (by decide) ?_
      exact rm_i C w hr hlk (by first | exact (mo_fill_2 c_4 (fbad_1 c_11)).symm | exact (mo_fill_2 c_4 (fbad_2 c_17)).symm | exact (mo_fill_2 c_4 (fbad_3 c_21)).symm | exact (mo_fill_2 c_4 (fbad_4 c_29)).symm) dX1_fill_34
    · refine lv_iload_n hx hb dX1_fill_14 rfl (lv_at hl 2 rfl) ?_
      refine lv_bipush (v := 16) hx hb dX1_fill_15 (by decide) ?_
      refine lv_icmp_gt (tgt := 32) hx hb dX1_fill_17 (by decide) (fun c_17 => ?_) (fun c_17 => ?_)
      · refine lv_bipush (v := -2) hx hb dX1_fill_32 (by decide) ?_
        exact rm_i C w hr hlk (by first | exact (mo_fill_2 c_4 (fbad_1 c_11)).symm | exact (mo_fill_2 c_4 (fbad_2 c_17)).symm | exact (mo_fill_2 c_4 (fbad_3 c_21)).symm | exact (mo_fill_2 c_4 (fbad_4 c_29)).symm) dX1_fill_34
      · refine lv_iload_n hx hb dX1_fill_20 rfl (lv_at hl 1 rfl) ?_
        refine lv_if_lt (tgt := 32) hx hb dX1_fill_21 (by decide) (fun c_21 => ?_) (fun c_21 => ?_)
        · refine lv_bipush (v := -2) hx hb dX1_fill_32 (by decide) ?_
          exact rm_i C w hr hlk (by first | exact (mo_fill_2 c_4 (fbad_1 c_11)).symm | exact (mo_fill_2 c_4 (fbad_2 c_17)).symm | exact (mo_fill_2 c_4 (fbad_3 c_21)).symm | exact (mo_fill_2 c_4 (fbad_4 c_29)).symm) dX1_fill_34
        · refine lv_iload_n hx hb dX1_fill_24 rfl (lv_at hl 1 rfl) ?_
          refine lv_bipush (v := 16) hx hb dX1_fill_25 (by decide) ?_
          refine lv_iload_n hx hb dX1_fill_27 rfl (lv_at hl 2 rfl) ?_
          refine lv_isub hx hb dX1_fill_28 ?_
          refine lv_icmp_le (tgt := 35) hx hb dX1_fill_29 (by decide) (fun c_29 => ?_) (fun c_29 => ?_)
          · refine lv_aload_n hx hb dX1_fill_35 rfl (lv_at hl 0 rfl) ?_
            refine gm_op C w dX1_fill_36 ?_
            refine lv_if_eq (tgt := 45) hx hb dX1_fill_39 (by decide) (fun c_39 => ?_) (fun c_39 => ?_)
            · obtain ⟨f, n, hfn, e1, e2⟩ := fbad_ok c_11 c_17 c_21 c_29
              refine lv_iconst (v := 0) hx hb dX1_fill_45 (by decide) ?_
              refine lv_istore (lv' := [(5, .int 0), (0, .ref (a 0)), (1, .int x1), (2, .int x2), (3, .int v), (4, .int st)]) hx hb dX1_fill_46 hl (by decide) rfl (fun ls hl => ?_)
              refine zx_loop1 (fun (k : Nat) H locs ls => mW dC dI cI cZ a A s.heap H locs (mfl τ f v st k) ∧ lv_has ls 6 [(0, .ref (a 0)), (1, .int x1), (2, .int x2), (3, .int v), (4, .int st), (5, .int (nI k))] ∧ (k ≤ n)) (fun k => n - k) ?_ 0 _ _ _ ⟨w, lv_sub hl [1, 2, 3, 4, 5, 0] rfl, Nat.zero_le _⟩
              clear hl w
              rintro k H locs ls ⟨w, hl, hi⟩ ih_48
              refine lv_iload hx hb dX1_fill_48 (lv_at hl 5 rfl) ?_
              refine lv_iload_n hx hb dX1_fill_50 rfl (lv_at hl 2 rfl) ?_
              refine zt_i (y := nI n) e2 ?_
              refine lv_icmp_ge (tgt := 75) hx hb dX1_fill_51 (by decide) (fun c_51 => ?_) (fun c_51 => ?_)
              · have hi6 : k = n := zi_ex (N := n) (by omega) hi c_51
                refine lv_iconst (v := 0) hx hb dX1_fill_75 (by decide) ?_
                exact rm_i C w hr hlk (by rw [hi6]; exact (mo_fill_4 c_4 (fbad_5 c_11 c_17 c_21 c_29) c_39 hfn e1 e2).symm) dX1_fill_76
              · have hlt : k < n := zi_in (N := n) (by omega) hi c_51
                refine lv_aload_n hx hb dX1_fill_54 rfl (lv_at hl 0 rfl) ?_
                refine lv_iload_n hx hb dX1_fill_55 rfl (lv_at hl 1 rfl) ?_
                refine zt_i (y := nI f) e1 ?_
                refine lv_iload hx hb dX1_fill_56 (lv_at hl 5 rfl) ?_
                refine lv_iadd hx hb dX1_fill_58 ?_
                refine zt_i (y := nI (f + k)) (nI_add _ _) ?_
                refine lv_iload_n hx hb dX1_fill_59 rfl (lv_at hl 3 rfl) ?_
                refine lv_iload hx hb dX1_fill_60 (lv_at hl 5 rfl) ?_
                refine lv_iload hx hb dX1_fill_62 (lv_at hl 4 rfl) ?_
                refine lv_imul hx hb dX1_fill_64 ?_
                refine lv_iadd hx hb dX1_fill_65 ?_
                refine cm_v (As := [.int (nI (f + k)), .int (v + ((nI k) * st))]) (rest := []) C w hA (tM_put l dC dI cI cZ a _ (mfl τ f v st k) (f + k) (v + nI k * st) (by omega)) (cwm_put C ⟨Nat.le_of_ble_eq_true rfl, Nat.le_of_ble_eq_true rfl⟩) rfl hl.1 rfl (Nat.le_of_ble_eq_true rfl) dX1_fill_66 ⟨Nat.zero_le _, Nat.zero_le _⟩ (fun u_66 H locs q_66 w => ?_)
                subst q_66
                refine lv_iinc (v := nI (k + 1)) (lv' := [(5, .int (nI (k + 1))), (0, .ref (a 0)), (1, .int x1), (2, .int x2), (3, .int v), (4, .int st)]) hx hb dX1_fill_69 hl (k := 5) rfl (nI_1 _) (by decide) rfl (fun ls hl => ?_)
                refine lv_goto (tgt := 48) hx hb dX1_fill_72 (by decide) ?_
                exact ih_48 (k + 1) _ _ _ (by omega) ⟨w, lv_sub hl [1, 2, 3, 4, 5, 0] rfl, by omega⟩
            · refine lv_bipush (v := -3) hx hb dX1_fill_42 (by decide) ?_
              exact rm_i C w hr hlk ((mo_fill_3 c_4 (fbad_5 c_11 c_17 c_21 c_29) c_39).symm) dX1_fill_44
          · refine lv_bipush (v := -2) hx hb dX1_fill_32 (by decide) ?_
            exact rm_i C w hr hlk (by first | exact (mo_fill_2 c_4 (fbad_1 c_11)).symm | exact (mo_fill_2 c_4 (fbad_2 c_17)).symm | exact (mo_fill_2 c_4 (fbad_3 c_21)).symm | exact (mo_fill_2 c_4 (fbad_4 c_29)).symm) dX1_fill_34
  · refine lv_iconst (v := -1) hx hb dX1_fill_7 (by decide) ?_
    exact rm_i C w hr hlk ((mo_fill_1 c_4).symm) dX1_fill_8

set_option maxHeartbeats 4000000 in
set_option maxRecDepth 100000 in
theorem tM_sync (l : Launch) (dC : Nat → ClassId) (dI : Nat → Nat → Nat) (cI cZ : ClassId) (a : Nat → Nat) (sz : Nat) (τ : ZM)  : mMi l yX1_sync cX1_sync 1 (some .int) ({ frames := 2, cells := 0, slots := 0, locals := 45 }) dC dI cI cZ a τ sz [] (fun r u => (r, u) = mo_sync τ) := by
  refine em_i (by decide) rfl (Nat.le_of_ble_eq_true rfl) ?_
  intro p e s m args below meth c A ls C hr hlk hA w hl
  have hx := C.1.1
  have hb := C.1.2.1
  have hl : lv_has ls 1 [(0, .ref (a 0))] := hl
  refine lv_aload_n hx hb dX1_sync_0 rfl (lv_at hl 0 rfl) ?_
  refine gm_on C w dX1_sync_1 ?_
  refine lv_if_ne (tgt := 9) hx hb dX1_sync_4 (by decide) (fun c_4 => ?_) (fun c_4 => ?_)
  · refine lv_aload_n hx hb dX1_sync_9 rfl (lv_at hl 0 rfl) ?_
    refine gm_op C w dX1_sync_10 ?_
    refine lv_if_eq (tgt := 19) hx hb dX1_sync_13 (by decide) (fun c_13 => ?_) (fun c_13 => ?_)
    · refine lv_aload_n hx hb dX1_sync_19 rfl (lv_at hl 0 rfl) ?_
      refine lv_iconst (v := 1) hx hb dX1_sync_20 (by decide) ?_
      refine cm_i (As := [.int 1]) (rest := []) C w hA (tM_settle1 l dC dI cI cZ a _ (τ)) (cwm_settle C ⟨Nat.le_of_ble_eq_true rfl, Nat.le_of_ble_eq_true rfl⟩) rfl hl.1 rfl (Nat.le_of_ble_eq_true rfl) dX1_sync_21 ⟨Nat.zero_le _, Nat.zero_le _⟩ (fun r_21 u_21 H locs q_21 w => ?_)
      obtain ⟨rfl, rfl⟩ := q_21
      exact rm_i C w hr hlk ((mo_sync_3 c_4 c_13).symm) dX1_sync_24
    · refine lv_bipush (v := -2) hx hb dX1_sync_16 (by decide) ?_
      exact rm_i C w hr hlk ((mo_sync_2 c_4 c_13).symm) dX1_sync_18
  · refine lv_iconst (v := -1) hx hb dX1_sync_7 (by decide) ?_
    exact rm_i C w hr hlk ((mo_sync_1 c_4).symm) dX1_sync_8

set_option maxHeartbeats 4000000 in
set_option maxRecDepth 100000 in
theorem tM_begin (l : Launch) (dC : Nat → ClassId) (dI : Nat → Nat → Nat) (cI cZ : ClassId) (a : Nat → Nat) (sz : Nat) (τ : ZM)  : mMi l yX1_begin cX1_begin 1 (some .int) ({ frames := 2, cells := 0, slots := 0, locals := 45 }) dC dI cI cZ a τ sz [] (fun r u => (r, u) = mo_begin τ) := by
  refine em_i (by decide) rfl (Nat.le_of_ble_eq_true rfl) ?_
  intro p e s m args below meth c A ls C hr hlk hA w hl
  have hx := C.1.1
  have hb := C.1.2.1
  have hl : lv_has ls 1 [(0, .ref (a 0))] := hl
  refine lv_aload_n hx hb dX1_begin_0 rfl (lv_at hl 0 rfl) ?_
  refine gm_on C w dX1_begin_1 ?_
  refine lv_if_ne (tgt := 9) hx hb dX1_begin_4 (by decide) (fun c_4 => ?_) (fun c_4 => ?_)
  · refine lv_aload_n hx hb dX1_begin_9 rfl (lv_at hl 0 rfl) ?_
    refine gm_op C w dX1_begin_10 ?_
    refine lv_if_eq (tgt := 19) hx hb dX1_begin_13 (by decide) (fun c_13 => ?_) (fun c_13 => ?_)
    · refine lv_aload_n hx hb dX1_begin_19 rfl (lv_at hl 0 rfl) ?_
      refine lv_iconst (v := 1) hx hb dX1_begin_20 (by decide) ?_
      refine cm_i (As := [.int 1]) (rest := []) C w hA (tM_settle1 l dC dI cI cZ a _ (τ)) (cwm_settle C ⟨Nat.le_of_ble_eq_true rfl, Nat.le_of_ble_eq_true rfl⟩) rfl hl.1 rfl (Nat.le_of_ble_eq_true rfl) dX1_begin_21 ⟨Nat.zero_le _, Nat.zero_le _⟩ (fun r_21 u_21 H locs q_21 w => ?_)
      obtain ⟨rfl, rfl⟩ := q_21
      refine lv_pop hx hb dX1_begin_24 rfl ?_
      refine lv_aload_n hx hb dX1_begin_25 rfl (lv_at hl 0 rfl) ?_
      refine lv_iconst (v := 1) hx hb dX1_begin_26 (by decide) ?_
      refine pm_op C w rfl rfl dX1_begin_27 (fun H locs w => ?_)
      refine lv_iconst (v := 0) hx hb dX1_begin_30 (by decide) ?_
      exact rm_i C w hr hlk ((mo_begin_3 c_4 c_13).symm) dX1_begin_31
    · refine lv_bipush (v := -2) hx hb dX1_begin_16 (by decide) ?_
      exact rm_i C w hr hlk ((mo_begin_2 c_4 c_13).symm) dX1_begin_18
  · refine lv_iconst (v := -1) hx hb dX1_begin_7 (by decide) ?_
    exact rm_i C w hr hlk ((mo_begin_1 c_4).symm) dX1_begin_8

set_option maxHeartbeats 4000000 in
set_option maxRecDepth 100000 in
theorem tM_commit (l : Launch) (dC : Nat → ClassId) (dI : Nat → Nat → Nat) (cI cZ : ClassId) (a : Nat → Nat) (sz : Nat) (τ : ZM)  : mMi l yX1_commit cX1_commit 1 (some .int) ({ frames := 2, cells := 0, slots := 0, locals := 45 }) dC dI cI cZ a τ sz [] (fun r u => (r, u) = mo_commit τ) := by
  refine em_i (by decide) rfl (Nat.le_of_ble_eq_true rfl) ?_
  intro p e s m args below meth c A ls C hr hlk hA w hl
  have hx := C.1.1
  have hb := C.1.2.1
  have hl : lv_has ls 1 [(0, .ref (a 0))] := hl
  refine lv_aload_n hx hb dX1_commit_0 rfl (lv_at hl 0 rfl) ?_
  refine gm_on C w dX1_commit_1 ?_
  refine lv_if_ne (tgt := 9) hx hb dX1_commit_4 (by decide) (fun c_4 => ?_) (fun c_4 => ?_)
  · refine lv_aload_n hx hb dX1_commit_9 rfl (lv_at hl 0 rfl) ?_
    refine gm_op C w dX1_commit_10 ?_
    refine lv_if_ne (tgt := 19) hx hb dX1_commit_13 (by decide) (fun c_13 => ?_) (fun c_13 => ?_)
    · refine lv_aload_n hx hb dX1_commit_19 rfl (lv_at hl 0 rfl) ?_
      refine lv_iconst (v := 0) hx hb dX1_commit_20 (by decide) ?_
      refine pm_op C w rfl rfl dX1_commit_21 (fun H locs w => ?_)
      refine lv_aload_n hx hb dX1_commit_24 rfl (lv_at hl 0 rfl) ?_
      refine lv_iconst (v := 1) hx hb dX1_commit_25 (by decide) ?_
      refine cm_i (As := [.int 1]) (rest := []) C w hA (tM_settle1 l dC dI cI cZ a _ (n_op τ 0)) (cwm_settle C ⟨Nat.le_of_ble_eq_true rfl, Nat.le_of_ble_eq_true rfl⟩) rfl hl.1 rfl (Nat.le_of_ble_eq_true rfl) dX1_commit_26 ⟨Nat.zero_le _, Nat.zero_le _⟩ (fun r_26 u_26 H locs q_26 w => ?_)
      obtain ⟨rfl, rfl⟩ := q_26
      exact rm_i C w hr hlk ((mo_commit_3 c_4 c_13).symm) dX1_commit_29
    · refine lv_bipush (v := -2) hx hb dX1_commit_16 (by decide) ?_
      exact rm_i C w hr hlk ((mo_commit_2 c_4 c_13).symm) dX1_commit_18
  · refine lv_iconst (v := -1) hx hb dX1_commit_7 (by decide) ?_
    exact rm_i C w hr hlk ((mo_commit_1 c_4).symm) dX1_commit_8

set_option maxHeartbeats 4000000 in
set_option maxRecDepth 100000 in
theorem tM_abort (l : Launch) (dC : Nat → ClassId) (dI : Nat → Nat → Nat) (cI cZ : ClassId) (a : Nat → Nat) (sz : Nat) (τ : ZM)  : mMi l yX1_abort cX1_abort 1 (some .int) ({ frames := 2, cells := 0, slots := 0, locals := 45 }) dC dI cI cZ a τ sz [] (fun r u => (r, u) = mo_abort τ) := by
  refine em_i (by decide) rfl (Nat.le_of_ble_eq_true rfl) ?_
  intro p e s m args below meth c A ls C hr hlk hA w hl
  have hx := C.1.1
  have hb := C.1.2.1
  have hl : lv_has ls 1 [(0, .ref (a 0))] := hl
  refine lv_aload_n hx hb dX1_abort_0 rfl (lv_at hl 0 rfl) ?_
  refine gm_on C w dX1_abort_1 ?_
  refine lv_if_ne (tgt := 9) hx hb dX1_abort_4 (by decide) (fun c_4 => ?_) (fun c_4 => ?_)
  · refine lv_aload_n hx hb dX1_abort_9 rfl (lv_at hl 0 rfl) ?_
    refine gm_op C w dX1_abort_10 ?_
    refine lv_if_ne (tgt := 19) hx hb dX1_abort_13 (by decide) (fun c_13 => ?_) (fun c_13 => ?_)
    · refine lv_aload_n hx hb dX1_abort_19 rfl (lv_at hl 0 rfl) ?_
      refine lv_iconst (v := 0) hx hb dX1_abort_20 (by decide) ?_
      refine pm_op C w rfl rfl dX1_abort_21 (fun H locs w => ?_)
      refine lv_aload_n hx hb dX1_abort_24 rfl (lv_at hl 0 rfl) ?_
      refine lv_iconst (v := 0) hx hb dX1_abort_25 (by decide) ?_
      refine cm_i (As := [.int 0]) (rest := []) C w hA (tM_settle0 l dC dI cI cZ a _ (n_op τ 0)) (cwm_settle C ⟨Nat.le_of_ble_eq_true rfl, Nat.le_of_ble_eq_true rfl⟩) rfl hl.1 rfl (Nat.le_of_ble_eq_true rfl) dX1_abort_26 ⟨Nat.zero_le _, Nat.zero_le _⟩ (fun r_26 u_26 H locs q_26 w => ?_)
      obtain ⟨rfl, rfl⟩ := q_26
      exact rm_i C w hr hlk ((mo_abort_3 c_4 c_13).symm) dX1_abort_29
    · refine lv_bipush (v := -2) hx hb dX1_abort_16 (by decide) ?_
      exact rm_i C w hr hlk ((mo_abort_2 c_4 c_13).symm) dX1_abort_18
  · refine lv_iconst (v := -1) hx hb dX1_abort_7 (by decide) ?_
    exact rm_i C w hr hlk ((mo_abort_1 c_4).symm) dX1_abort_8

set_option maxHeartbeats 4000000 in
set_option maxRecDepth 100000 in
theorem tM_crash (l : Launch) (dC : Nat → ClassId) (dI : Nat → Nat → Nat) (cI cZ : ClassId) (a : Nat → Nat) (sz : Nat) (τ : ZM)  : mMi l yX1_crash cX1_crash 1 (some .int) ({ frames := 2, cells := 0, slots := 0, locals := 45 }) dC dI cI cZ a τ sz [] (fun r u => (r, u) = mo_crash τ) := by
  refine em_i (by decide) rfl (Nat.le_of_ble_eq_true rfl) ?_
  intro p e s m args below meth c A ls C hr hlk hA w hl
  have hx := C.1.1
  have hb := C.1.2.1
  have hl : lv_has ls 1 [(0, .ref (a 0))] := hl
  refine lv_aload_n hx hb dX1_crash_0 rfl (lv_at hl 0 rfl) ?_
  refine gm_on C w dX1_crash_1 ?_
  refine lv_if_ne (tgt := 9) hx hb dX1_crash_4 (by decide) (fun c_4 => ?_) (fun c_4 => ?_)
  · refine lv_aload_n hx hb dX1_crash_9 rfl (lv_at hl 0 rfl) ?_
    refine lv_iconst (v := 0) hx hb dX1_crash_10 (by decide) ?_
    refine pm_on C w rfl rfl dX1_crash_11 (fun H locs w => ?_)
    refine lv_aload_n hx hb dX1_crash_14 rfl (lv_at hl 0 rfl) ?_
    refine lv_iconst (v := 0) hx hb dX1_crash_15 (by decide) ?_
    refine pm_op C w rfl rfl dX1_crash_16 (fun H locs w => ?_)
    refine lv_aload_n hx hb dX1_crash_19 rfl (lv_at hl 0 rfl) ?_
    refine lv_iconst (v := 0) hx hb dX1_crash_20 (by decide) ?_
    refine cm_i (As := [.int 0]) (rest := []) C w hA (tM_settle0 l dC dI cI cZ a _ (n_op (n_on τ 0) 0)) (cwm_settle C ⟨Nat.le_of_ble_eq_true rfl, Nat.le_of_ble_eq_true rfl⟩) rfl hl.1 rfl (Nat.le_of_ble_eq_true rfl) dX1_crash_21 ⟨Nat.zero_le _, Nat.zero_le _⟩ (fun r_21 u_21 H locs q_21 w => ?_)
    obtain ⟨rfl, rfl⟩ := q_21
    exact rm_i C w hr hlk ((mo_crash_2 c_4).symm) dX1_crash_24
  · refine lv_iconst (v := -1) hx hb dX1_crash_7 (by decide) ?_
    exact rm_i C w hr hlk ((mo_crash_1 c_4).symm) dX1_crash_8

set_option maxHeartbeats 4000000 in
set_option maxRecDepth 100000 in
theorem tM_crashIn (l : Launch) (dC : Nat → ClassId) (dI : Nat → Nat → Nat) (cI cZ : ClassId) (a : Nat → Nat) (sz : Nat) (τ : ZM) (x0 : Int32) : mMi l yX1_crashIn cX1_crashIn 2 (some .int) ({ frames := 2, cells := 0, slots := 0, locals := 45 }) dC dI cI cZ a τ sz [.int x0] (fun r u => (r, u) = mo_crashIn τ x0) := by
  refine em_i (by decide) rfl (Nat.le_of_ble_eq_true rfl) ?_
  intro p e s m args below meth c A ls C hr hlk hA w hl
  have hx := C.1.1
  have hb := C.1.2.1
  have hl : lv_has ls 2 [(0, .ref (a 0)), (1, .int x0)] := hl
  refine lv_aload_n hx hb dX1_crashIn_0 rfl (lv_at hl 0 rfl) ?_
  refine gm_on C w dX1_crashIn_1 ?_
  refine lv_if_ne (tgt := 9) hx hb dX1_crashIn_4 (by decide) (fun c_4 => ?_) (fun c_4 => ?_)
  · refine lv_iload_n hx hb dX1_crashIn_9 rfl (lv_at hl 1 rfl) ?_
    refine lv_if_lt (tgt := 18) hx hb dX1_crashIn_10 (by decide) (fun c_10 => ?_) (fun c_10 => ?_)
    · refine lv_bipush (v := -2) hx hb dX1_crashIn_18 (by decide) ?_
      exact rm_i C w hr hlk (by first | exact (mo_crashIn_2 c_4 (Or.inl c_10)).symm | exact (mo_crashIn_2 c_4 (Or.inr c_15)).symm) dX1_crashIn_20
    · refine lv_iload_n hx hb dX1_crashIn_13 rfl (lv_at hl 1 rfl) ?_
      refine lv_iconst (v := 3) hx hb dX1_crashIn_14 (by decide) ?_
      refine lv_icmp_le (tgt := 21) hx hb dX1_crashIn_15 (by decide) (fun c_15 => ?_) (fun c_15 => ?_)
      · refine lv_aload_n hx hb dX1_crashIn_21 rfl (lv_at hl 0 rfl) ?_
        refine lv_iload_n hx hb dX1_crashIn_22 rfl (lv_at hl 1 rfl) ?_
        refine lv_iconst (v := 3) hx hb dX1_crashIn_23 (by decide) ?_
        refine lv_icmp_ne (tgt := 31) hx hb dX1_crashIn_24 (by decide) (fun c_24 => ?_) (fun c_24 => ?_)
        · refine lv_iconst (v := 0) hx hb dX1_crashIn_31 (by decide) ?_
          refine cm_i (As := [.int 0]) (rest := []) C w hA (tM_settle0 l dC dI cI cZ a _ (τ)) (cwm_settle C ⟨Nat.le_of_ble_eq_true rfl, Nat.le_of_ble_eq_true rfl⟩) rfl hl.1 rfl (Nat.le_of_ble_eq_true rfl) dX1_crashIn_32 ⟨Nat.zero_le _, Nat.zero_le _⟩ (fun r_32 u_32 H locs q_32 w => ?_)
          obtain ⟨rfl, rfl⟩ := q_32
          refine lv_pop hx hb dX1_crashIn_35 rfl ?_
          refine lv_aload_n hx hb dX1_crashIn_36 rfl (lv_at hl 0 rfl) ?_
          refine lv_iconst (v := 0) hx hb dX1_crashIn_37 (by decide) ?_
          refine pm_on C w rfl rfl dX1_crashIn_38 (fun H locs w => ?_)
          refine lv_aload_n hx hb dX1_crashIn_41 rfl (lv_at hl 0 rfl) ?_
          refine lv_iconst (v := 0) hx hb dX1_crashIn_42 (by decide) ?_
          refine pm_op C w rfl rfl dX1_crashIn_43 (fun H locs w => ?_)
          refine lv_iconst (v := 0) hx hb dX1_crashIn_46 (by decide) ?_
          exact rm_i C w hr hlk (by first | exact (mo_crashIn_3 c_4 c_10 c_15 c_24).symm | exact (mo_crashIn_4 c_4 c_10 c_15 c_24).symm) dX1_crashIn_47
        · refine lv_iconst (v := 1) hx hb dX1_crashIn_27 (by decide) ?_
          refine lv_goto (tgt := 32) hx hb dX1_crashIn_28 (by decide) ?_
          refine cm_i (As := [.int 1]) (rest := []) C w hA (tM_settle1 l dC dI cI cZ a _ (τ)) (cwm_settle C ⟨Nat.le_of_ble_eq_true rfl, Nat.le_of_ble_eq_true rfl⟩) rfl hl.1 rfl (Nat.le_of_ble_eq_true rfl) dX1_crashIn_32 ⟨Nat.zero_le _, Nat.zero_le _⟩ (fun r_32 u_32 H locs q_32 w => ?_)
          obtain ⟨rfl, rfl⟩ := q_32
          refine lv_pop hx hb dX1_crashIn_35 rfl ?_
          refine lv_aload_n hx hb dX1_crashIn_36 rfl (lv_at hl 0 rfl) ?_
          refine lv_iconst (v := 0) hx hb dX1_crashIn_37 (by decide) ?_
          refine pm_on C w rfl rfl dX1_crashIn_38 (fun H locs w => ?_)
          refine lv_aload_n hx hb dX1_crashIn_41 rfl (lv_at hl 0 rfl) ?_
          refine lv_iconst (v := 0) hx hb dX1_crashIn_42 (by decide) ?_
          refine pm_op C w rfl rfl dX1_crashIn_43 (fun H locs w => ?_)
          refine lv_iconst (v := 0) hx hb dX1_crashIn_46 (by decide) ?_
          exact rm_i C w hr hlk (by first | exact (mo_crashIn_3 c_4 c_10 c_15 c_24).symm | exact (mo_crashIn_4 c_4 c_10 c_15 c_24).symm) dX1_crashIn_47
      · refine lv_bipush (v := -2) hx hb dX1_crashIn_18 (by decide) ?_
        exact rm_i C w hr hlk (by first | exact (mo_crashIn_2 c_4 (Or.inl c_10)).symm | exact (mo_crashIn_2 c_4 (Or.inr c_15)).symm) dX1_crashIn_20
  · refine lv_iconst (v := -1) hx hb dX1_crashIn_7 (by decide) ?_
    exact rm_i C w hr hlk ((mo_crashIn_1 c_4).symm) dX1_crashIn_8

set_option maxHeartbeats 4000000 in
set_option maxRecDepth 100000 in
theorem tM_mount (l : Launch) (dC : Nat → ClassId) (dI : Nat → Nat → Nat) (cI cZ : ClassId) (a : Nat → Nat) (sz : Nat) (τ : ZM)  : mMi l yX1_mount cX1_mount 1 (some .int) ({ frames := 0, cells := 0, slots := 0, locals := 0 }) dC dI cI cZ a τ sz [] (fun r u => (r, u) = mo_mount τ) := by
  refine em_i (by decide) rfl (Nat.le_of_ble_eq_true rfl) ?_
  intro p e s m args below meth c A ls C hr hlk hA w hl
  have hx := C.1.1
  have hb := C.1.2.1
  have hl : lv_has ls 1 [(0, .ref (a 0))] := hl
  refine lv_aload_n hx hb dX1_mount_0 rfl (lv_at hl 0 rfl) ?_
  refine gm_on C w dX1_mount_1 ?_
  refine lv_if_eq (tgt := 9) hx hb dX1_mount_4 (by decide) (fun c_4 => ?_) (fun c_4 => ?_)
  · refine lv_aload_n hx hb dX1_mount_9 rfl (lv_at hl 0 rfl) ?_
    refine lv_iconst (v := 1) hx hb dX1_mount_10 (by decide) ?_
    refine pm_on C w rfl rfl dX1_mount_11 (fun H locs w => ?_)
    refine lv_iconst (v := 0) hx hb dX1_mount_14 (by decide) ?_
    exact rm_i C w hr hlk ((mo_mount_2 c_4).symm) dX1_mount_15
  · refine lv_iconst (v := -1) hx hb dX1_mount_7 (by decide) ?_
    exact rm_i C w hr hlk ((mo_mount_1 c_4).symm) dX1_mount_8

set_option maxHeartbeats 4000000 in
set_option maxRecDepth 100000 in
theorem tM_unsynced (l : Launch) (dC : Nat → ClassId) (dI : Nat → Nat → Nat) (cI cZ : ClassId) (a : Nat → Nat) (sz : Nat) (τ : ZM)  : mMi l yX1_unsynced cX1_unsynced 1 (some .int) ({ frames := 1, cells := 0, slots := 0, locals := 22 }) dC dI cI cZ a τ sz [] (fun r u => (r, u) = mo_unsynced τ) := by
  refine em_i (by decide) rfl (Nat.le_of_ble_eq_true rfl) ?_
  intro p e s m args below meth c A ls C hr hlk hA w hl
  have hx := C.1.1
  have hb := C.1.2.1
  have hl : lv_has ls 1 [(0, .ref (a 0))] := hl
  refine lv_aload_n hx hb dX1_unsynced_0 rfl (lv_at hl 0 rfl) ?_
  refine cm_r (As := []) (rest := []) C w hA (tM_freshCount l dC dI cI cZ a _ τ) (cwm_freshCount C ⟨Nat.le_of_ble_eq_true rfl, Nat.le_of_ble_eq_true rfl⟩) rfl hl.1 rfl (Nat.le_of_ble_eq_true rfl) dX1_unsynced_1 ⟨Nat.zero_le _, Nat.zero_le _⟩ (fun r_1 H locs q_1 w => ?_)
  subst q_1
  exact rm_i C w hr hlk rfl dX1_unsynced_4

set_option maxHeartbeats 4000000 in
set_option maxRecDepth 100000 in
theorem tM_pending (l : Launch) (dC : Nat → ClassId) (dI : Nat → Nat → Nat) (cI cZ : ClassId) (a : Nat → Nat) (sz : Nat) (τ : ZM)  : mMi l yX1_pending cX1_pending 3 (some .int) ({ frames := 0, cells := 0, slots := 0, locals := 0 }) dC dI cI cZ a τ sz [] (fun r u => (r, u) = mo_pending τ) := by
  refine em_i (by decide) rfl (Nat.le_of_ble_eq_true rfl) ?_
  intro p e s m args below meth c A ls C hr hlk hA w hl
  have hx := C.1.1
  have hb := C.1.2.1
  have hl : lv_has ls 3 [(0, .ref (a 0))] := hl
  refine lv_aload_n hx hb dX1_pending_0 rfl (lv_at hl 0 rfl) ?_
  refine gm_on C w dX1_pending_1 ?_
  refine lv_if_ne (tgt := 9) hx hb dX1_pending_4 (by decide) (fun c_4 => ?_) (fun c_4 => ?_)
  · refine lv_iconst (v := 0) hx hb dX1_pending_9 (by decide) ?_
    refine lv_istore_n (lv' := [(1, .int 0), (0, .ref (a 0))]) hx hb dX1_pending_10 rfl hl (by decide) rfl (fun ls hl => ?_)
    refine lv_iconst (v := 0) hx hb dX1_pending_11 (by decide) ?_
    refine lv_istore_n (lv' := [(2, .int 0), (1, .int 0), (0, .ref (a 0))]) hx hb dX1_pending_12 rfl hl (by decide) rfl (fun ls hl => ?_)
    refine zx_loop1 (fun (i : Nat) H locs ls => mW dC dI cI cZ a A s.heap H locs τ ∧ lv_has ls 3 [(0, .ref (a 0)), (1, .int (nI (cb (pg (m_nw τ) (m_kp τ)) i))), (2, .int (nI i))] ∧ (i ≤ 16)) (fun i => 16 - i) ?_ 0 _ _ _ ⟨w, lv_sub hl [2, 1, 0] rfl, Nat.zero_le _⟩
    clear hl w
    rintro i H locs ls ⟨w, hl, hi⟩ ih_13
    refine lv_iload_n hx hb dX1_pending_13 rfl (lv_at hl 2 rfl) ?_
    refine lv_bipush (v := 16) hx hb dX1_pending_14 (by decide) ?_
    refine lv_icmp_ge (tgt := 43) hx hb dX1_pending_16 (by decide) (fun c_16 => ?_) (fun c_16 => ?_)
    · have hi6 : i = 16 := zi_ex (N := 16) (by decide) hi c_16
      refine lv_iload_n hx hb dX1_pending_43 rfl (lv_at hl 1 rfl) ?_
      exact rm_i C w hr hlk (by rw [hi6]; exact (mo_pending_2 c_4).symm) dX1_pending_44
    · have hlt : i < 16 := zi_in (N := 16) (by decide) hi c_16
      refine lv_aload_n hx hb dX1_pending_19 rfl (lv_at hl 0 rfl) ?_
      refine gm_nw C w dX1_pending_20 ?_
      refine lv_iload_n hx hb dX1_pending_23 rfl (lv_at hl 2 rfl) ?_
      refine lm_nw C w (k := i) rfl (by omega) dX1_pending_24 ?_
      refine lv_aload_n hx hb dX1_pending_25 rfl (lv_at hl 0 rfl) ?_
      refine gm_kp C w dX1_pending_26 ?_
      refine lv_iload_n hx hb dX1_pending_29 rfl (lv_at hl 2 rfl) ?_
      refine lm_kp C w (k := i) rfl (by omega) dX1_pending_30 ?_
      refine lv_icmp_eq (tgt := 37) hx hb dX1_pending_31 (by decide) (fun c_31 => ?_) (fun c_31 => ?_)
      · have hl : lv_has ls 3 [(0, .ref (a 0)), (1, .int (nI (cb (pg (m_nw τ) (m_kp τ)) (i + 1)))), (2, .int (nI i))] := by rw [← (cb_i0 (g := pg (m_nw τ) (m_kp τ)) (decide_eq_false (fun q => q c_31)))]; exact hl
        refine lv_iinc (v := nI (i + 1)) (lv' := [(2, .int (nI (i + 1))), (0, .ref (a 0)), (1, .int (nI (cb (pg (m_nw τ) (m_kp τ)) (i + 1))))]) hx hb dX1_pending_37 hl (k := 2) rfl (nI_1 _) (by decide) rfl (fun ls hl => ?_)
        refine lv_goto (tgt := 13) hx hb dX1_pending_40 (by decide) ?_
        exact ih_13 (i + 1) _ _ _ (by omega) ⟨w, lv_sub hl [1, 2, 0] rfl, by omega⟩
      · refine lv_iinc (v := nI (cb (pg (m_nw τ) (m_kp τ)) (i + 1))) (lv' := [(1, .int (nI (cb (pg (m_nw τ) (m_kp τ)) (i + 1)))), (0, .ref (a 0)), (2, .int (nI i))]) hx hb dX1_pending_34 hl (k := 1) rfl (cb_it (decide_eq_true c_31)) (by decide) rfl (fun ls hl => ?_)
        refine lv_iinc (v := nI (i + 1)) (lv' := [(2, .int (nI (i + 1))), (1, .int (nI (cb (pg (m_nw τ) (m_kp τ)) (i + 1)))), (0, .ref (a 0))]) hx hb dX1_pending_37 hl (k := 2) rfl (nI_1 _) (by decide) rfl (fun ls hl => ?_)
        refine lv_goto (tgt := 13) hx hb dX1_pending_40 (by decide) ?_
        exact ih_13 (i + 1) _ _ _ (by omega) ⟨w, lv_sub hl [2, 1, 0] rfl, by omega⟩
  · refine lv_iconst (v := -1) hx hb dX1_pending_7 (by decide) ?_
    exact rm_i C w hr hlk ((mo_pending_1 c_4).symm) dX1_pending_8

set_option maxHeartbeats 4000000 in
set_option maxRecDepth 100000 in
theorem tM_sum (l : Launch) (dC : Nat → ClassId) (dI : Nat → Nat → Nat) (cI cZ : ClassId) (a : Nat → Nat) (sz : Nat) (τ : ZM)  : mMi l yX1_sum cX1_sum 3 (some .int) ({ frames := 0, cells := 0, slots := 0, locals := 0 }) dC dI cI cZ a τ sz [] (fun r u => (r, u) = mo_sum τ) := by
  refine em_i (by decide) rfl (Nat.le_of_ble_eq_true rfl) ?_
  intro p e s m args below meth c A ls C hr hlk hA w hl
  have hx := C.1.1
  have hb := C.1.2.1
  have hl : lv_has ls 3 [(0, .ref (a 0))] := hl
  refine lv_iconst (v := 0) hx hb dX1_sum_0 (by decide) ?_
  refine lv_istore_n (lv' := [(1, .int 0), (0, .ref (a 0))]) hx hb dX1_sum_1 rfl hl (by decide) rfl (fun ls hl => ?_)
  refine lv_iconst (v := 0) hx hb dX1_sum_2 (by decide) ?_
  refine lv_istore_n (lv' := [(2, .int 0), (1, .int 0), (0, .ref (a 0))]) hx hb dX1_sum_3 rfl hl (by decide) rfl (fun ls hl => ?_)
  refine zx_loop1 (fun (i : Nat) H locs ls => mW dC dI cI cZ a A s.heap H locs τ ∧ lv_has ls 3 [(0, .ref (a 0)), (1, .int (sm (m_nw τ) i)), (2, .int (nI i))] ∧ (i ≤ 16)) (fun i => 16 - i) ?_ 0 _ _ _ ⟨w, lv_sub hl [2, 1, 0] rfl, Nat.zero_le _⟩
  clear hl w
  rintro i H locs ls ⟨w, hl, hi⟩ ih_4
  refine lv_iload_n hx hb dX1_sum_4 rfl (lv_at hl 2 rfl) ?_
  refine lv_bipush (v := 16) hx hb dX1_sum_5 (by decide) ?_
  refine lv_icmp_ge (tgt := 25) hx hb dX1_sum_7 (by decide) (fun c_7 => ?_) (fun c_7 => ?_)
  · have hi6 : i = 16 := zi_ex (N := 16) (by decide) hi c_7
    refine lv_aload_n hx hb dX1_sum_25 rfl (lv_at hl 0 rfl) ?_
    refine gm_on C w dX1_sum_26 ?_
    refine lv_if_eq (tgt := 36) hx hb dX1_sum_29 (by decide) (fun c_29 => ?_) (fun c_29 => ?_)
    · refine lv_iconst (v := 0) hx hb dX1_sum_36 (by decide) ?_
      exact rm_i C w hr hlk (by first | exact (mo_sum_1 c_29).symm | (rw [hi6]; exact (mo_sum_2 c_29).symm)) dX1_sum_37
    · refine lv_iload_n hx hb dX1_sum_32 rfl (lv_at hl 1 rfl) ?_
      refine lv_goto (tgt := 37) hx hb dX1_sum_33 (by decide) ?_
      exact rm_i C w hr hlk (by first | exact (mo_sum_1 c_29).symm | (rw [hi6]; exact (mo_sum_2 c_29).symm)) dX1_sum_37
  · have hlt : i < 16 := zi_in (N := 16) (by decide) hi c_7
    refine lv_iload_n hx hb dX1_sum_10 rfl (lv_at hl 1 rfl) ?_
    refine lv_aload_n hx hb dX1_sum_11 rfl (lv_at hl 0 rfl) ?_
    refine gm_nw C w dX1_sum_12 ?_
    refine lv_iload_n hx hb dX1_sum_15 rfl (lv_at hl 2 rfl) ?_
    refine lm_nw C w (k := i) rfl (by omega) dX1_sum_16 ?_
    refine lv_iadd hx hb dX1_sum_17 ?_
    refine zt_i (y := sm (m_nw τ) (i + 1)) rfl ?_
    refine lv_istore_n (lv' := [(1, .int (sm (m_nw τ) (i + 1))), (0, .ref (a 0)), (2, .int (nI i))]) hx hb dX1_sum_18 rfl hl (by decide) rfl (fun ls hl => ?_)
    refine lv_iinc (v := nI (i + 1)) (lv' := [(2, .int (nI (i + 1))), (1, .int (sm (m_nw τ) (i + 1))), (0, .ref (a 0))]) hx hb dX1_sum_19 hl (k := 2) rfl (nI_1 _) (by decide) rfl (fun ls hl => ?_)
    refine lv_goto (tgt := 4) hx hb dX1_sum_22 (by decide) ?_
    exact ih_4 (i + 1) _ _ _ (by omega) ⟨w, lv_sub hl [2, 1, 0] rfl, by omega⟩
end
section
/-! the store and the model agree: the relation, and what each step does to it -/
def Rel (n : Nat) (σ : ZS) (τ : ZM) : Prop := ∃ (T : ZF) (G O : Nat), G ≤ n ∧ O ≤ n ∧ DV σ T G ∧ EZ σ ∧ z_on σ = nI O ∧ (z_ru σ = 0 ↔ m_on τ = 0) ∧ (z_gr σ = 0 ↔ m_op τ = 0) ∧ (∀ b, b < 16 → (z_di σ b = 0 ↔ m_fr τ b = 0)) ∧ cb (dg (z_di σ)) 16 ≤ 6 ∧ (∀ b, b < 16 → m_kp τ b = vz (z_rv σ) (T b)) ∧ (∀ b, b < 16 → m_nw τ b = if z_di σ b = 0 then m_kp τ b else z_ca σ b) ∧ ((¬ z_ru σ = 0 ∧ (∀ b, b < 16 → z_tb σ b = T b) ∧ AC σ) ∨ (z_ru σ = 0 ∧ (∀ b, b < 16 → z_tb σ b = -1) ∧ (∀ b, b < 16 → z_di σ b = 0) ∧ z_gr σ = 0))
/-- the running state -/
def Run (n : Nat) (σ : ZS) (τ : ZM) : Prop := ∃ G O : Nat, G ≤ n ∧ O ≤ n ∧ DV σ (z_tb σ) G ∧ EZ σ ∧ z_on σ = nI O ∧ AC σ ∧ ¬ z_ru σ = 0 ∧ ¬ m_on τ = 0 ∧ (z_gr σ = 0 ↔ m_op τ = 0) ∧ (∀ b, b < 16 → (z_di σ b = 0 ↔ m_fr τ b = 0)) ∧ cb (dg (z_di σ)) 16 ≤ 6 ∧ (∀ b, b < 16 → m_kp τ b = vz (z_rv σ) (z_tb σ b)) ∧ (∀ b, b < 16 → m_nw τ b = cu σ b)
theorem Rel.mono {n k : Nat} {σ : ZS} {τ : ZM} (h : Rel n σ τ) (hk : n ≤ k) : Rel k σ τ := by
  obtain ⟨T, G, O, h1, h2, h3⟩ := h
  exact ⟨T, G, O, by omega, by omega, h3⟩
theorem Rel.on {n : Nat} {σ : ZS} {τ : ZM} (h : Rel n σ τ) : z_ru σ = 0 ↔ m_on τ = 0 := by
  obtain ⟨T, G, O, h1, h2, h3, h4, h5, h6, h7⟩ := h
  exact h6
theorem Rel.gr {n : Nat} {σ : ZS} {τ : ZM} (h : Rel n σ τ) : z_gr σ = 0 ↔ m_op τ = 0 := by
  obtain ⟨T, G, O, h1, h2, h3, h4, h5, h6, h7, h8⟩ := h
  exact h7
theorem Rel.di {n : Nat} {σ : ZS} {τ : ZM} (h : Rel n σ τ) : ∀ b, b < 16 → (z_di σ b = 0 ↔ m_fr τ b = 0) := by
  obtain ⟨T, G, O, h1, h2, h3, h4, h5, h6, h7, h8, h9⟩ := h
  exact h8
theorem dg_eq {f g : ZF} {b : Nat} (h : f b = 0 ↔ g b = 0) : dg f b = dg g b := by
  unfold dg
  by_cases q : f b = 0
  · rw [decide_eq_false (fun y => y q), decide_eq_false (fun y => y (h.mp q))]
  · rw [decide_eq_true q, decide_eq_true (show ¬ g b = 0 from fun y => q (h.mpr y))]
theorem Rel.fc {n : Nat} {σ : ZS} {τ : ZM} (h : Rel n σ τ) : mfc τ = cb (dg (z_di σ)) 16 := cb_congr fun b hb => (dg_eq (h.di b hb)).symm
theorem Rel.run {n : Nat} {σ : ZS} {τ : ZM} (h : Rel n σ τ) (hr : ¬ z_ru σ = 0) : Run n σ τ := by
  obtain ⟨T, G, O, h1, h2, h3, h4, h5, h6, h7, h8, h9, h10, h11, h12⟩ := h
  rcases h12 with ⟨-, e, ac⟩ | ⟨e, -⟩
  · refine ⟨G, O, h1, h2, h3.congr e, h4, h5, ac, hr, fun q => hr (h6.mpr q), h7, h8, h9, fun b hb => by rw [h10 b hb, e b hb], fun b hb => ?_⟩
    rw [h11 b hb, h10 b hb]
    unfold cu
    rw [e b hb]
  · exact absurd e hr
theorem Run.rel {n : Nat} {σ : ZS} {τ : ZM} (h : Run n σ τ) : Rel n σ τ := by
  obtain ⟨G, O, h1, h2, h3, h4, h5, h6, h7, h8, h9, h10, h11, h12, h13⟩ := h
  refine ⟨z_tb σ, G, O, h1, h2, h3, h4, h5, ⟨fun q => absurd q h7, fun q => absurd q h8⟩, h9, h10, h11, h12, fun b hb => ?_, Or.inl ⟨h7, fun _ _ => rfl, h6⟩⟩
  rw [h13 b hb, h12 b hb]
  rfl
theorem Rel.okT {n : Nat} {σ : ZS} {τ : ZM} (h : Rel n σ τ) (hr : ¬ z_ru σ = 0) : ∀ b, b < 16 → okT (z_tb σ b) := by
  obtain ⟨G, O, h1, h2, h3, h4⟩ := h.run hr
  exact h3.okT
theorem Rel.nw {n : Nat} {σ : ZS} {τ : ZM} (h : Rel n σ τ) (hr : ¬ z_ru σ = 0) : ∀ b, b < 16 → m_nw τ b = cu σ b := by
  obtain ⟨G, O, h1, h2, h3, h4, h5, h6, h7, h8, h9, h10, h11, h12, h13⟩ := h.run hr
  exact h13
theorem Rel.congr {n : Nat} {σ : ZS} {τ τ' : ZM} (h : Rel n σ τ) (e1 : m_on τ' = m_on τ) (e2 : m_op τ' = m_op τ) (e3 : ∀ b, b < 16 → m_nw τ' b = m_nw τ b) (e4 : ∀ b, b < 16 → m_kp τ' b = m_kp τ b) (e5 : ∀ b, b < 16 → m_fr τ' b = m_fr τ b) : Rel n σ τ' := by
  obtain ⟨T, G, O, h1, h2, h3, h4, h5, h6, h7, h8, h9, h10, h11, h12⟩ := h
  exact ⟨T, G, O, h1, h2, h3, h4, h5, by rw [e1]; exact h6, by rw [e2]; exact h7, fun b hb => by rw [e5 b hb]; exact h8 b hb, h9, fun b hb => by rw [e4 b hb]; exact h10 b hb, fun b hb => by rw [e3 b hb, e4 b hb]; exact h11 b hb, h12⟩
theorem cb_dg0 {f : ZF} (h : ∀ b, b < 16 → f b = 0) : cb (dg f) 16 = 0 := cb_none fun b hb => decide_eq_false (fun q => q (h b hb))
/-- a flush to the end -/
theorem Rel.flush3 {n : Nat} {σ u : ZS} {τ : ZM} {G O : Nat} (h : Rel n σ τ) (hr : ¬ z_ru σ = 0) (hG : G ≤ n) (hO : O ≤ n) (hF : FP σ u G O 3) : Rel (n + 2) u (mset1 τ) := by
  obtain ⟨_, _, -, -, -, -, -, -, h7, h8, h9, h10, h11, h12, h13⟩ := h.run hr
  obtain ⟨G', O', f1, f2, f3, f4, f5, f6, f7, f8, f9, f10⟩ := hF
  rcases f10 with ⟨-, g1, g2⟩ | ⟨q, -⟩
  · refine Run.rel ⟨G', O', by omega, by omega, f3, f4, f5, f6, by rw [f8]; exact h7, h8, by rw [f9]; exact h9, fun b hb => ?_, ?_, fun b hb => ?_, fun b hb => ?_⟩
    · show z_di u b = 0 ↔ ctn 16 (fun _ => 0) (m_fr τ) b = 0
      rw [ctn_in hb]
      exact ⟨fun _ => rfl, fun _ => g2 b hb⟩
    · rw [cb_dg0 g2]
      omega
    · show ctn 16 (m_nw τ) (m_kp τ) b = _
      rw [ctn_in hb, g1 b hb]
      exact h13 b hb
    · rw [cu_f (g2 b hb), g1 b hb]
      exact h13 b hb
  · exact absurd rfl q
/-- a flush that is cut off -/
theorem Rel.flushN {n : Nat} {σ u : ZS} {τ : ZM} {G O p : Nat} (h : Rel n σ τ) (hr : ¬ z_ru σ = 0) (hG : G ≤ n) (hO : O ≤ n) (hp : ¬ p = 3) (hF : FP σ u G O p) : Rel (n + 2) u τ := by
  obtain ⟨_, _, -, -, -, -, -, -, h7, h8, h9, h10, h11, h12, h13⟩ := h.run hr
  obtain ⟨G', O', f1, f2, f3, f4, f5, f6, f7, f8, f9, f10⟩ := hF
  rcases f10 with ⟨q, -⟩ | ⟨-, g1, g2⟩
  · exact absurd q hp
  · refine Run.rel ⟨G', O', by omega, by omega, f3, f4, f5, f6, by rw [f8]; exact h7, h8, by rw [f9]; exact h9, fun b hb => by rw [g2]; exact h10 b hb, by rw [g2]; exact h11, fun b hb => by rw [g1 b hb]; exact h12 b hb, fun b hb => ?_⟩
    rw [h13 b hb]
    unfold cu
    rw [g2, f7, g1 b hb]
theorem FP_ru {σ u : ZS} {G O p : Nat} (hF : FP σ u G O p) : z_ru u = z_ru σ := by
  obtain ⟨G', O', f1, f2, f3, f4, f5, f6, f7, f8, f9, f10⟩ := hF
  exact f8
theorem FP_di {σ u : ZS} {G O : Nat} (hF : FP σ u G O 3) : ∀ b, b < 16 → z_di u b = 0 := by
  obtain ⟨G', O', f1, f2, f3, f4, f5, f6, f7, f8, f9, f10⟩ := hF
  rcases f10 with ⟨-, g1, g2⟩ | ⟨q, -⟩
  · exact g2
  · exact absurd rfl q
/-- the power goes -/
theorem Rel.fall {n : Nat} {σ : ZS} {τ : ZM} (h : Rel n σ τ) (hr : ¬ z_ru σ = 0) : Rel n (flX σ) (mset0 (n_op (n_on τ 0) 0)) := by
  obtain ⟨G, O, h1, h2, h3, h4, h5, h6, h7, h8, h9, h10, h11, h12, h13⟩ := h.run hr
  have hd : ∀ b, b < 16 → z_di (flX σ) b = 0 := fun b hb => ctn_in (f := fun _ => 0) (g := z_di σ) hb
  refine ⟨z_tb σ, G, O, h1, h2, h3, h4, h5, ⟨fun _ => rfl, fun _ => rfl⟩, ⟨fun _ => rfl, fun _ => rfl⟩, fun b hb => ?_, by rw [cb_dg0 hd]; omega, h12, fun b hb => ?_, Or.inr ⟨rfl, fun b hb => ctn_in (f := fun _ => -1) (g := z_tb σ) hb, hd, rfl⟩⟩
  · refine ⟨fun _ => ctn_in (f := fun _ => 0) (g := m_fr τ) hb, fun _ => hd b hb⟩
  · rw [if_pos (hd b hb)]
    exact ctn_in (f := m_kp τ) (g := m_nw τ) hb
/-- the group flag -/
theorem Rel.grp {n : Nat} {σ : ZS} {τ : ZM} {v : Int32} (h : Rel n σ τ) (hr : ¬ z_ru σ = 0) : Rel n (s_gr σ v) (n_op τ v) := by
  obtain ⟨G, O, h1, h2, h3, h4, h5, h6, h7, h8, h9, h10, h11, h12, h13⟩ := h.run hr
  exact Run.rel ⟨G, O, h1, h2, h3, h4, h5, h6, h7, h8, Iff.rfl, h10, h11, h12, h13⟩
/-- what is unsynced is dropped -/
theorem Rel.drop {n : Nat} {σ : ZS} {τ : ZM} (h : Rel n σ τ) (hr : ¬ z_ru σ = 0) : Rel n (s_di σ (ctn 16 (fun _ => 0) (z_di σ))) (mset0 τ) := by
  obtain ⟨G, O, h1, h2, h3, h4, h5, h6, h7, h8, h9, h10, h11, h12, h13⟩ := h.run hr
  have hd : ∀ b, b < 16 → z_di (s_di σ (ctn 16 (fun _ => 0) (z_di σ))) b = 0 := fun b hb => ctn_in (f := fun _ => 0) (g := z_di σ) hb
  refine Run.rel ⟨G, O, h1, h2, h3, h4, h5, h6, h7, h8, h9, fun b hb => ?_, by rw [cb_dg0 hd]; omega, h12, fun b hb => ?_⟩
  · exact ⟨fun _ => ctn_in (f := fun _ => 0) (g := m_fr τ) hb, fun _ => hd b hb⟩
  · rw [cu_f (hd b hb)]
    show ctn 16 (m_kp τ) (m_nw τ) b = _
    rw [ctn_in hb]
    exact h12 b hb
theorem cb_set {f : ZF} {k : Nat} {v : Int32} (hv : ¬ v = 0) : ∀ n, cb (dg (upd f k v)) n = cb (dg f) n + (if k < n ∧ f k = 0 then 1 else 0)
  | 0 => by rw [if_neg (fun q => Nat.not_lt_zero _ q.1)]; rfl
  | n + 1 => by
    have ih := cb_set (f := f) (k := k) hv n
    by_cases e : n = k
    · subst e
      rw [if_neg (fun q => Nat.lt_irrefl _ q.1)] at ih
      have ht : dg (upd f n v) n = true := decide_eq_true (by rw [pk_us]; exact hv)
      rw [cb_t ht, ih]
      by_cases q : f n = 0
      · rw [if_pos ⟨by omega, q⟩, cb_f (show dg f n = false from decide_eq_false (fun y => y q))]
      · rw [if_neg (fun y => q y.2), cb_t (show dg f n = true from decide_eq_true q)]
    · have hs : dg (upd f k v) n = dg f n := by
        unfold dg
        rw [pk_un e]
      have hc : (k < n + 1 ∧ f k = 0) ↔ (k < n ∧ f k = 0) := ⟨fun q => ⟨by omega, q.2⟩, fun q => ⟨by omega, q.2⟩⟩
      cases hg : dg f n with
      | true => rw [cb_t (hs.trans hg), cb_t hg, ih]; simp only [hc]; omega
      | false => rw [cb_f (hs.trans hg), cb_f hg, ih]; simp only [hc]
/-- one block is written -/
theorem Rel.put {n k : Nat} {σ : ZS} {τ : ZM} {v : Int32} (h : Rel n σ τ) (hr : ¬ z_ru σ = 0) (hk : k < 16) (hc : ¬ z_di σ k = 0 ∨ ¬ nI (cb (dg (z_di σ)) 16) = 6) : Rel n (s_ca (s_di σ (upd (z_di σ) k 1)) (upd (z_ca σ) k v)) (mpt τ k v) := by
  obtain ⟨G, O, h1, h2, h3, h4, h5, h6, h7, h8, h9, h10, h11, h12, h13⟩ := h.run hr
  refine Run.rel ⟨G, O, h1, h2, h3, h4, h5, h6, h7, h8, h9, fun b hb => ?_, ?_, h12, fun b hb => ?_⟩
  · show upd (z_di σ) k 1 b = 0 ↔ upd (m_fr τ) k 1 b = 0
    by_cases e : b = k
    · subst e
      rw [pk_us, pk_us]
    · rw [pk_un e, pk_un e]
      exact h10 b hb
  · show cb (dg (upd (z_di σ) k 1)) 16 ≤ 6
    rw [cb_set (by decide)]
    rcases hc with q | q
    · rw [if_neg (fun y => q y.2)]
      omega
    · have : cb (dg (z_di σ)) 16 ≠ 6 := fun y => q (by rw [y]; rfl)
      split <;> omega
  · show upd (m_nw τ) k v b = _
    unfold cu
    show _ = if upd (z_di σ) k 1 b = 0 then _ else upd (z_ca σ) k v b
    by_cases e : b = k
    · subst e
      rw [pk_us, pk_us, pk_us, if_neg (by decide)]
    · rw [pk_un e, pk_un e, pk_un e]
      exact h13 b hb
/-- what write answers, path by path -/
theorem Rel.write_a {n k : Nat} {σ : ZS} {τ : ZM} {x v : Int32} (h : Rel n σ τ) (hr : ¬ z_ru σ = 0) (hk : k < 16) (e : x = nI k) (hc : ¬ z_di σ k = 0 ∨ ¬ nI (cb (dg (z_di σ)) 16) = 6) : ∃ τ', ((0 : Int32), τ') = mo_write τ x v ∧ Rel (n + 2) (s_ca (s_di σ (upd (z_di σ) k 1)) (upd (z_ca σ) k v)) τ' := by
  refine ⟨mpt τ k v, ?_, (h.put hr hk hc).mono (by omega)⟩
  have hon : ¬ m_on τ = 0 := fun q => hr (h.on.mpr q)
  have hno : ¬ (nI (mfc τ) = 6 ∧ m_fr τ k = 0) := by
    rintro ⟨q1, q2⟩
    rcases hc with c | c
    · exact c ((h.di k hk).mpr q2)
    · rw [h.fc] at q1
      exact c q1
  rw [mo_write_4 hon hk e (fun q => hno q.2), mput_f (fun q => hno q.2)]
theorem Rel.write_b {n k G O : Nat} {σ u : ZS} {τ : ZM} {x v : Int32} (h : Rel n σ τ) (hr : ¬ z_ru σ = 0) (hG : G ≤ n) (hO : O ≤ n) (hk : k < 16) (e : x = nI k) (c1 : z_di σ k = 0) (c2 : nI (cb (dg (z_di σ)) 16) = 6) (c3 : z_gr σ = 0) (hF : FP σ u G O 3) : ∃ τ', ((0 : Int32), τ') = mo_write τ x v ∧ Rel (n + 2) (s_ca (s_di u (upd (z_di u) k 1)) (upd (z_ca u) k v)) τ' := by
  have hon : ¬ m_on τ = 0 := fun q => hr (h.on.mpr q)
  have hop : m_op τ = 0 := h.gr.mp c3
  refine ⟨mpt (mset1 τ) k v, ?_, (h.flush3 hr hG hO hF).put (by rw [FP_ru hF]; exact hr) hk (Or.inr ?_)⟩
  · rw [mo_write_4 hon hk e (fun q => q.1 hop), mput_t hop (by rw [h.fc]; exact c2) ((h.di k hk).mp c1)]
  · rw [cb_dg0 (FP_di hF)]
    decide
theorem Rel.write_c {n k : Nat} {σ : ZS} {τ : ZM} {x v : Int32} (h : Rel n σ τ) (hr : ¬ z_ru σ = 0) (hk : k < 16) (e : x = nI k) (c1 : z_di σ k = 0) (c2 : nI (cb (dg (z_di σ)) 16) = 6) (c3 : ¬ z_gr σ = 0) : ∃ τ', ((-3 : Int32), τ') = mo_write τ x v ∧ Rel (n + 2) σ τ' := by
  have hon : ¬ m_on τ = 0 := fun q => hr (h.on.mpr q)
  refine ⟨τ, ?_, h.mono (by omega)⟩
  rw [mo_write_3 hon hk e (fun q => c3 (h.gr.mpr q)) (by rw [h.fc]; exact c2) ((h.di k hk).mp c1)]
theorem mset1_on (τ : ZM) : m_on (mset1 τ) = m_on τ := rfl
theorem mput_on (τ : ZM) (k : Nat) (v : Int32) : m_on (mput τ k v) = m_on τ ∧ m_op (mput τ k v) = m_op τ := by
  unfold mput mpre
  split <;> exact ⟨rfl, rfl⟩
theorem mfl_on (τ : ZM) (f : Nat) (v st : Int32) : ∀ k, m_on (mfl τ f v st k) = m_on τ ∧ m_op (mfl τ f v st k) = m_op τ
  | 0 => ⟨rfl, rfl⟩
  | k + 1 => by
    have h1 := mput_on (mfl τ f v st k) (f + k) (v + nI k * st)
    have h2 := mfl_on τ f v st k
    exact ⟨h1.1.trans h2.1, h1.2.trans h2.2⟩
theorem Rel.fill_s {n f c k : Nat} {u' : ZS} {τ : ZM} {v st r : Int32} (hon : ¬ m_on τ = 0) (hop : m_op τ = 0) (hfc : f + c ≤ 16) (hk : k < c) (q : ∃ τ', (r, τ') = mo_write (mfl τ f v st k) (nI (f + k)) (v + nI k * st) ∧ Rel (n + 2 * k + 2) u' τ') : Rel (n + 2 * (k + 1)) u' (mfl τ f v st (k + 1)) := by
  obtain ⟨τ', e, h⟩ := q
  have hm := mfl_on τ f v st k
  rw [mo_write_4 (k := f + k) (by rw [hm.1]; exact hon) (by omega) rfl (fun q => q.1 (by rw [hm.2]; exact hop))] at e
  have : τ' = mput (mfl τ f v st k) (f + k) (v + nI k * st) := congrArg Prod.snd e
  subst this
  exact h
/-- clean: a zone without living records -/
theorem Rel.empty {n i : Nat} {σ : ZS} {τ : ZM} (h : Rel n σ τ) (hr : ¬ z_ru σ = 0) (hi : i < 6) (c1 : ¬ nI i = z_ac σ) (c3 : nI (liv (z_tb σ) (nI i)) = 0) : Rel n (emX σ i) τ := by
  obtain ⟨G, O, h1, h2, h3, h4, h5, h6, h7, h8, h9, h10, h11, h12, h13⟩ := h.run hr
  have h0 : liv (z_tb σ) (nI i) = 0 := (nI_eq (b := 0) (by have := liv_le (z_tb σ) (nI i); omega) (by decide)).mp c3
  refine Run.rel ⟨G, O, h1, h2, D0.empty h3 hi (fun b hb => lg_f (cb_zero h0 b hb)), ?_, h5, ?_, h7, h8, h9, h10, h11, h12, h13⟩
  · exact ⟨i, hi, pk_us⟩
  · rcases h6 with e | ⟨z, z1, z2, z3⟩
    · exact Or.inl e
    · refine Or.inr ⟨z, z1, z2, ?_⟩
      show ¬ upd (z_op σ) i (-1) z = -1
      rw [pk_un (fun q => c1 (by rw [← q]; exact z2.symm))]
      exact z3
/-- mount -/
theorem Rel.down {n : Nat} {σ : ZS} {τ : ZM} (h : Rel n σ τ) (hr : z_ru σ = 0) : ∃ (T : ZF) (G : Nat), DV σ T G ∧ (∀ b, b < 16 → z_tb σ b = -1) ∧ ∀ u, RP σ u T → Rel n (s_ru u 1) (n_on τ 1) := by
  obtain ⟨T, G, O, h1, h2, h3, h4, h5, h6, h7, h8, h9, h10, h11, h12⟩ := h
  rcases h12 with ⟨q, -⟩ | ⟨-, q1, q2, q3⟩
  · exact absurd hr q
  · refine ⟨T, G, h3, q1, ?_⟩
    rintro u ⟨r1, r2, r3⟩
    have e1 : z_rb u = z_rb σ := by rw [r3]; rfl
    have e2 : z_rv u = z_rv σ := by rw [r3]; rfl
    have e3 : z_rg u = z_rg σ := by rw [r3]; rfl
    have e4 : z_fi u = z_fi σ := by rw [r3]; rfl
    have e5 : z_op u = z_op σ := by rw [r3]; rfl
    have e6 : z_di u = z_di σ := by rw [r3]; rfl
    have e7 : z_gn u = z_gn σ := by rw [r3]; rfl
    have e8 : z_on u = z_on σ := by rw [r3]; rfl
    have e9 : z_gr u = z_gr σ := by rw [r3]; rfl
    have hd : ∀ b, b < 16 → z_di u b = 0 := fun b hb => by rw [e6]; exact q2 b hb
    refine ⟨T, G, O, h1, h2, ?_, ?_, ?_, ⟨fun q => absurd q (by show ¬ (1 : Int32) = 0; decide), fun q => absurd q (by show ¬ (1 : Int32) = 0; decide)⟩, ?_, fun b hb => ?_, ?_, fun b hb => ?_, fun b hb => ?_, Or.inl ⟨by show ¬ (1 : Int32) = 0; decide, r1, r2⟩⟩
    · show D0 (z_rb u) (z_rg u) (z_fi u) (z_op u) T (z_gn u) G
      rw [e1, e3, e4, e5, e7]
      exact h3
    · obtain ⟨y, y1, y2⟩ := h4
      exact ⟨y, y1, by show z_op u y = -1; rw [e5]; exact y2⟩
    · show z_on u = _
      rw [e8]; exact h5
    · show z_gr u = 0 ↔ m_op τ = 0
      rw [e9]; exact h7
    · show z_di u b = 0 ↔ m_fr τ b = 0
      rw [e6]; exact h8 b hb
    · show cb (dg (z_di u)) 16 ≤ 6
      rw [cb_dg0 hd]; omega
    · show m_kp τ b = vz (z_rv u) (T b)
      rw [e2]; exact h10 b hb
    · show m_nw τ b = if z_di u b = 0 then m_kp τ b else z_ca u b
      rw [if_pos (hd b hb), h11 b hb, if_pos (q2 b hb)]
/-- pending, sum -/
def pgx (σ : ZS) : Nat → Bool := fun b => decide (¬ z_di σ b = 0 ∧ ¬ z_ca σ b = vz (z_rv σ) (z_tb σ b))
theorem Rel.pend {n : Nat} {σ : ZS} {τ : ZM} (h : Rel n σ τ) (hr : ¬ z_ru σ = 0) : cb (pgx σ) 16 = cb (pg (m_nw τ) (m_kp τ)) 16 := by
  obtain ⟨G, O, h1, h2, h3, h4, h5, h6, h7, h8, h9, h10, h11, h12, h13⟩ := h.run hr
  refine cb_congr fun b hb => ?_
  unfold pgx pg
  rw [h13 b hb, h12 b hb]
  by_cases q : z_di σ b = 0
  · rw [cu_f q, decide_eq_false (fun y => y.1 q), decide_eq_false (fun y => y rfl)]
  · rw [cu_t q]
    by_cases q2 : z_ca σ b = vz (z_rv σ) (z_tb σ b)
    · rw [decide_eq_false (fun y => y.2 q2), decide_eq_false (fun y => y q2)]
    · rw [decide_eq_true ⟨q, q2⟩, decide_eq_true q2]
theorem Rel.total {n : Nat} {σ : ZS} {τ : ZM} (h : Rel n σ τ) (hr : ¬ z_ru σ = 0) : sm (cu σ) 16 = sm (m_nw τ) 16 := sm_congr fun b hb => (h.nw hr b hb).symm
/-- what a flush asks -/
theorem Rel.ask {n : Nat} {σ : ZS} {τ : ZM} (h : Rel n σ τ) (hr : ¬ z_ru σ = 0) : ∃ G O : Nat, G ≤ n ∧ O ≤ n ∧ DV σ (z_tb σ) G ∧ EZ σ ∧ z_on σ = nI O ∧ AC σ ∧ cb (dg (z_di σ)) 16 ≤ 6 := by
  obtain ⟨G, O, h1, h2, h3, h4, h5, h6, h7, h8, h9, h10, h11, h12, h13⟩ := h.run hr
  exact ⟨G, O, h1, h2, h3, h4, h5, h6, h11⟩
theorem zi_03 {x : Int32} (h1 : ¬ x < 0) (h2 : x ≤ 3) : ∃ p : Nat, p ≤ 3 ∧ x = nI p := by
  obtain ⟨p, hp, rfl⟩ := nI_of h1
  have := (nI_leI (b := 3) hp (by decide)).mp h2
  exact ⟨p, this, rfl⟩
end
section
/-! the store: its public methods -/
theorem Rel.crashIn {n G O p : Nat} {σ u : ZS} {τ : ZM} {x : Int32} (h : Rel n σ τ) (hr : ¬ z_ru σ = 0) (hG : G ≤ n) (hO : O ≤ n) (h1 : ¬ x < 0) (h2 : x ≤ 3) (hp : p ≤ 3) (e : x = nI p) (hF : FP σ u G O p) : ∃ τ', ((0 : Int32), τ') = mo_crashIn τ x ∧ Rel (n + 2) (flX u) τ' := by
  have hon : ¬ m_on τ = 0 := fun q => hr (h.on.mpr q)
  have hru : ¬ z_ru u = 0 := by rw [FP_ru hF]; exact hr
  by_cases q : p = 3
  · subst q
    refine ⟨_, (mo_crashIn_3 hon h1 h2 e).symm, ((h.flush3 hr hG hO hF).fall hru).congr rfl rfl (fun b hb => ?_) (fun b hb => rfl) (fun b hb => ?_)⟩
    · show m_nw τ b = ctn 16 (ctn 16 (m_nw τ) (m_kp τ)) (m_nw τ) b
      rw [ctn_in hb, ctn_in hb]
    · show ctn 16 (fun _ => 0) (m_fr τ) b = ctn 16 (fun _ => 0) (ctn 16 (fun _ => 0) (m_fr τ)) b
      rw [ctn_in hb, ctn_in hb]
  · have hx : ¬ x = 3 := fun y => q (FJ_p3 hp (by rw [← e]; exact y))
    exact ⟨_, (mo_crashIn_4 hon h1 h2 hx).symm, (h.flushN hr hG hO q hF).fall hru⟩
set_option maxHeartbeats 4000000 in
set_option maxRecDepth 100000 in
theorem tX_up (l : Launch) (dC : Nat → ClassId) (dI : Nat → Nat → Nat) (cI cZ : ClassId) (a : Nat → Nat) (sz : Nat) (σ : ZS) (τ : ZM) (n : Nat) (hn : n ≤ 1000000) (hR : Rel n σ τ)  : xMi l yX0_up cX0_up 1 (some .int) ({ frames := 0, cells := 0, slots := 0, locals := 0 }) dC dI cI cZ a σ sz [] (fun r u => ∃ τ', (r, τ') = mo_up τ ∧ Rel (n + 2) u τ') := by
  refine ex_i (by decide) rfl (Nat.le_of_ble_eq_true rfl) ?_
  intro p e s m args below meth c A ls C hr hlk hA w hl
  have hx := C.1.1
  have hb := C.1.2.1
  have hl : lv_has ls 1 [(0, .ref (a 0))] := hl
  refine lv_aload_n hx hb dX0_up_0 rfl (lv_at hl 0 rfl) ?_
  refine gx_ru C w dX0_up_1 ?_
  refine lv_if_eq (tgt := 11) hx hb dX0_up_4 (by decide) (fun c_4 => ?_) (fun c_4 => ?_)
  · refine lv_iconst (v := 0) hx hb dX0_up_11 (by decide) ?_
    exact rx_i C w hr hlk (by first | exact ⟨τ, (mo_up_0 (hR.on.mp c_4)).symm, hR.mono (by omega)⟩ | exact ⟨τ, (mo_up_1 (fun q => c_4 (hR.on.mpr q))).symm, hR.mono (by omega)⟩) dX0_up_12
  · refine lv_iconst (v := 1) hx hb dX0_up_7 (by decide) ?_
    refine lv_goto (tgt := 12) hx hb dX0_up_8 (by decide) ?_
    exact rx_i C w hr hlk (by first | exact ⟨τ, (mo_up_0 (hR.on.mp c_4)).symm, hR.mono (by omega)⟩ | exact ⟨τ, (mo_up_1 (fun q => c_4 (hR.on.mpr q))).symm, hR.mono (by omega)⟩) dX0_up_12

set_option maxHeartbeats 4000000 in
set_option maxRecDepth 100000 in
theorem tX_grouped (l : Launch) (dC : Nat → ClassId) (dI : Nat → Nat → Nat) (cI cZ : ClassId) (a : Nat → Nat) (sz : Nat) (σ : ZS) (τ : ZM) (n : Nat) (hn : n ≤ 1000000) (hR : Rel n σ τ)  : xMi l yX0_grouped cX0_grouped 1 (some .int) ({ frames := 0, cells := 0, slots := 0, locals := 0 }) dC dI cI cZ a σ sz [] (fun r u => ∃ τ', (r, τ') = mo_grouped τ ∧ Rel (n + 2) u τ') := by
  refine ex_i (by decide) rfl (Nat.le_of_ble_eq_true rfl) ?_
  intro p e s m args below meth c A ls C hr hlk hA w hl
  have hx := C.1.1
  have hb := C.1.2.1
  have hl : lv_has ls 1 [(0, .ref (a 0))] := hl
  refine lv_aload_n hx hb dX0_grouped_0 rfl (lv_at hl 0 rfl) ?_
  refine gx_gr C w dX0_grouped_1 ?_
  refine lv_if_eq (tgt := 11) hx hb dX0_grouped_4 (by decide) (fun c_4 => ?_) (fun c_4 => ?_)
  · refine lv_iconst (v := 0) hx hb dX0_grouped_11 (by decide) ?_
    exact rx_i C w hr hlk (by first | exact ⟨τ, (mo_grouped_0 (hR.gr.mp c_4)).symm, hR.mono (by omega)⟩ | exact ⟨τ, (mo_grouped_1 (fun q => c_4 (hR.gr.mpr q))).symm, hR.mono (by omega)⟩) dX0_grouped_12
  · refine lv_iconst (v := 1) hx hb dX0_grouped_7 (by decide) ?_
    refine lv_goto (tgt := 12) hx hb dX0_grouped_8 (by decide) ?_
    exact rx_i C w hr hlk (by first | exact ⟨τ, (mo_grouped_0 (hR.gr.mp c_4)).symm, hR.mono (by omega)⟩ | exact ⟨τ, (mo_grouped_1 (fun q => c_4 (hR.gr.mpr q))).symm, hR.mono (by omega)⟩) dX0_grouped_12

set_option maxHeartbeats 4000000 in
set_option maxRecDepth 100000 in
theorem tX_unsynced (l : Launch) (dC : Nat → ClassId) (dI : Nat → Nat → Nat) (cI cZ : ClassId) (a : Nat → Nat) (sz : Nat) (σ : ZS) (τ : ZM) (n : Nat) (hn : n ≤ 1000000) (hR : Rel n σ τ)  : xMi l yX0_unsynced cX0_unsynced 1 (some .int) ({ frames := 1, cells := 0, slots := 0, locals := 22 }) dC dI cI cZ a σ sz [] (fun r u => ∃ τ', (r, τ') = mo_unsynced τ ∧ Rel (n + 2) u τ') := by
  refine ex_i (by decide) rfl (Nat.le_of_ble_eq_true rfl) ?_
  intro p e s m args below meth c A ls C hr hlk hA w hl
  have hx := C.1.1
  have hb := C.1.2.1
  have hl : lv_has ls 1 [(0, .ref (a 0))] := hl
  refine lv_aload_n hx hb dX0_unsynced_0 rfl (lv_at hl 0 rfl) ?_
  refine cx_r (As := []) (rest := []) C w hA (tX_dirtyCount l dC dI cI cZ a _ σ) (cwx_dirtyCount C ⟨Nat.le_of_ble_eq_true rfl, Nat.le_of_ble_eq_true rfl⟩) rfl hl.1 rfl (Nat.le_of_ble_eq_true rfl) dX0_unsynced_1 ⟨Nat.zero_le _, Nat.zero_le _⟩ (fun r_1 H locs q_1 w => ?_)
  subst q_1
  exact rx_i C w hr hlk (⟨τ, by unfold mo_unsynced; rw [hR.fc], hR.mono (by omega)⟩) dX0_unsynced_4

set_option maxHeartbeats 4000000 in
set_option maxRecDepth 100000 in
theorem tX_read (l : Launch) (dC : Nat → ClassId) (dI : Nat → Nat → Nat) (cI cZ : ClassId) (a : Nat → Nat) (sz : Nat) (σ : ZS) (τ : ZM) (n : Nat) (hn : n ≤ 1000000) (hR : Rel n σ τ) (x0 : Int32) : xMi l yX0_read cX0_read 2 (some .int) ({ frames := 2, cells := 0, slots := 0, locals := 42 }) dC dI cI cZ a σ sz [.int x0] (fun r u => ∃ τ', (r, τ') = mo_read τ x0 ∧ Rel (n + 2) u τ') := by
  refine ex_i (by decide) rfl (Nat.le_of_ble_eq_true rfl) ?_
  intro p e s m args below meth c A ls C hr hlk hA w hl
  have hx := C.1.1
  have hb := C.1.2.1
  have hl : lv_has ls 2 [(0, .ref (a 0)), (1, .int x0)] := hl
  refine lv_aload_n hx hb dX0_read_0 rfl (lv_at hl 0 rfl) ?_
  refine gx_ru C w dX0_read_1 ?_
  refine lv_if_eq (tgt := 22) hx hb dX0_read_4 (by decide) (fun c_4 => ?_) (fun c_4 => ?_)
  · refine lv_iconst (v := 0) hx hb dX0_read_22 (by decide) ?_
    exact rx_i C w hr hlk (by first | exact ⟨τ, (mo_read_0 (hR.on.mp c_4)).symm, hR.mono (by omega)⟩ | exact ⟨τ, (mo_read_1 (isb_f c_11)).symm, hR.mono (by omega)⟩ | exact ⟨τ, by rw [mo_read_2 (fun q => c_4 (hR.on.mpr q)) hk ek, hR.nw c_4 k hk], hR.mono (by omega)⟩) dX0_read_23
  · refine lv_iload_n hx hb dX0_read_7 rfl (lv_at hl 1 rfl) ?_
    refine cx_s (As := [.int x0]) (rest := []) C w (tX_isBlock l x0) (cwx_isBlock C ⟨Nat.le_of_ble_eq_true rfl, Nat.le_of_ble_eq_true rfl⟩) rfl hl.1 rfl (Nat.le_of_ble_eq_true rfl) dX0_read_8 ⟨Nat.zero_le _, Nat.zero_le _⟩ (fun r_8 H locs q_8 w => ?_)
    subst q_8
    refine lv_if_eq (tgt := 22) hx hb dX0_read_11 (by decide) (fun c_11 => ?_) (fun c_11 => ?_)
    · refine lv_iconst (v := 0) hx hb dX0_read_22 (by decide) ?_
      exact rx_i C w hr hlk (by first | exact ⟨τ, (mo_read_0 (hR.on.mp c_4)).symm, hR.mono (by omega)⟩ | exact ⟨τ, (mo_read_1 (isb_f c_11)).symm, hR.mono (by omega)⟩ | exact ⟨τ, by rw [mo_read_2 (fun q => c_4 (hR.on.mpr q)) hk ek, hR.nw c_4 k hk], hR.mono (by omega)⟩) dX0_read_23
    · obtain ⟨k, hk, ek⟩ := obk_iff.mp (isb_t c_11)
      refine lv_aload_n hx hb dX0_read_14 rfl (lv_at hl 0 rfl) ?_
      refine lv_iload_n hx hb dX0_read_15 rfl (lv_at hl 1 rfl) ?_
      refine zt_i (y := nI k) ek ?_
      refine cx_r (As := [.int (nI k)]) (rest := []) C w hA (tX_current l dC dI cI cZ a _ σ k hk (hR.okT c_4 k hk)) (cwx_current C ⟨Nat.le_of_ble_eq_true rfl, Nat.le_of_ble_eq_true rfl⟩) rfl hl.1 rfl (Nat.le_of_ble_eq_true rfl) dX0_read_16 ⟨Nat.zero_le _, Nat.zero_le _⟩ (fun r_16 H locs q_16 w => ?_)
      subst q_16
      refine lv_goto (tgt := 23) hx hb dX0_read_19 (by decide) ?_
      exact rx_i C w hr hlk (by first | exact ⟨τ, (mo_read_0 (hR.on.mp c_4)).symm, hR.mono (by omega)⟩ | exact ⟨τ, (mo_read_1 (isb_f c_11)).symm, hR.mono (by omega)⟩ | exact ⟨τ, by rw [mo_read_2 (fun q => c_4 (hR.on.mpr q)) hk ek, hR.nw c_4 k hk], hR.mono (by omega)⟩) dX0_read_23

set_option maxHeartbeats 4000000 in
set_option maxRecDepth 100000 in
theorem tX_write (l : Launch) (dC : Nat → ClassId) (dI : Nat → Nat → Nat) (cI cZ : ClassId) (a : Nat → Nat) (sz : Nat) (σ : ZS) (τ : ZM) (n : Nat) (hn : n ≤ 2000000) (hR : Rel n σ τ) (x0 v : Int32) : xMi l yX0_write cX0_write 3 (some .int) ({ frames := 4, cells := 0, slots := 0, locals := 92 }) dC dI cI cZ a σ sz [.int x0, .int v] (fun r u => ∃ τ', (r, τ') = mo_write τ x0 v ∧ Rel (n + 2) u τ') := by
  refine ex_i (by decide) rfl (Nat.le_of_ble_eq_true rfl) ?_
  intro p e s m args below meth c A ls C hr hlk hA w hl
  have hx := C.1.1
  have hb := C.1.2.1
  have hl : lv_has ls 3 [(0, .ref (a 0)), (1, .int x0), (2, .int v)] := hl
  refine lv_aload_n hx hb dX0_write_0 rfl (lv_at hl 0 rfl) ?_
  refine gx_ru C w dX0_write_1 ?_
  refine lv_if_ne (tgt := 9) hx hb dX0_write_4 (by decide) (fun c_4 => ?_) (fun c_4 => ?_)
  · refine lv_iload_n hx hb dX0_write_9 rfl (lv_at hl 1 rfl) ?_
    refine cx_s (As := [.int x0]) (rest := []) C w (tX_isBlock l x0) (cwx_isBlock C ⟨Nat.le_of_ble_eq_true rfl, Nat.le_of_ble_eq_true rfl⟩) rfl hl.1 rfl (Nat.le_of_ble_eq_true rfl) dX0_write_10 ⟨Nat.zero_le _, Nat.zero_le _⟩ (fun r_10 H locs q_10 w => ?_)
    subst q_10
    refine lv_if_ne (tgt := 19) hx hb dX0_write_13 (by decide) (fun c_13 => ?_) (fun c_13 => ?_)
    · obtain ⟨k, hk, ek⟩ := obk_iff.mp (isb_t c_13)
      refine lv_aload_n hx hb dX0_write_19 rfl (lv_at hl 0 rfl) ?_
      refine gx_di C w dX0_write_20 ?_
      refine lv_iload_n hx hb dX0_write_23 rfl (lv_at hl 1 rfl) ?_
      refine lx_di C w (k := k) ek hk dX0_write_24 ?_
      refine lv_if_ne (tgt := 52) hx hb dX0_write_25 (by decide) (fun c_25 => ?_) (fun c_25 => ?_)
      · refine lv_aload_n hx hb dX0_write_52 rfl (lv_at hl 0 rfl) ?_
        refine gx_di C w dX0_write_53 ?_
        refine lv_iload_n hx hb dX0_write_56 rfl (lv_at hl 1 rfl) ?_
        refine lv_iconst (v := 1) hx hb dX0_write_57 (by decide) ?_
        refine wx_di C w (k := k) ek hk rfl dX0_write_58 (fun H locs w => ?_)
        refine lv_aload_n hx hb dX0_write_59 rfl (lv_at hl 0 rfl) ?_
        refine gx_ca C w dX0_write_60 ?_
        refine lv_iload_n hx hb dX0_write_63 rfl (lv_at hl 1 rfl) ?_
        refine lv_iload_n hx hb dX0_write_64 rfl (lv_at hl 2 rfl) ?_
        refine wx_ca C w (k := k) ek hk dX0_write_65 (fun H locs w => ?_)
        refine lv_iconst (v := 0) hx hb dX0_write_66 (by decide) ?_
        exact rx_i C w hr hlk (by first | exact hR.write_a c_4 hk ek (Or.inl c_25) | exact hR.write_a c_4 hk ek (Or.inr c_34) | exact hR.write_b c_4 hG hO hk ek c_25 c_34 c_41 q_49) dX0_write_67
      · refine lv_aload_n hx hb dX0_write_28 rfl (lv_at hl 0 rfl) ?_
        refine cx_r (As := []) (rest := []) C w hA (tX_dirtyCount l dC dI cI cZ a _ σ) (cwx_dirtyCount C ⟨Nat.le_of_ble_eq_true rfl, Nat.le_of_ble_eq_true rfl⟩) rfl hl.1 rfl (Nat.le_of_ble_eq_true rfl) dX0_write_29 ⟨Nat.zero_le _, Nat.zero_le _⟩ (fun r_29 H locs q_29 w => ?_)
        subst q_29
        refine lv_bipush (v := 6) hx hb dX0_write_32 (by decide) ?_
        refine lv_icmp_ne (tgt := 52) hx hb dX0_write_34 (by decide) (fun c_34 => ?_) (fun c_34 => ?_)
        · refine lv_aload_n hx hb dX0_write_52 rfl (lv_at hl 0 rfl) ?_
          refine gx_di C w dX0_write_53 ?_
          refine lv_iload_n hx hb dX0_write_56 rfl (lv_at hl 1 rfl) ?_
          refine lv_iconst (v := 1) hx hb dX0_write_57 (by decide) ?_
          refine wx_di C w (k := k) ek hk rfl dX0_write_58 (fun H locs w => ?_)
          refine lv_aload_n hx hb dX0_write_59 rfl (lv_at hl 0 rfl) ?_
          refine gx_ca C w dX0_write_60 ?_
          refine lv_iload_n hx hb dX0_write_63 rfl (lv_at hl 1 rfl) ?_
          refine lv_iload_n hx hb dX0_write_64 rfl (lv_at hl 2 rfl) ?_
          refine wx_ca C w (k := k) ek hk dX0_write_65 (fun H locs w => ?_)
          refine lv_iconst (v := 0) hx hb dX0_write_66 (by decide) ?_
          exact rx_i C w hr hlk (by first | exact hR.write_a c_4 hk ek (Or.inl c_25) | exact hR.write_a c_4 hk ek (Or.inr c_34) | exact hR.write_b c_4 hG hO hk ek c_25 c_34 c_41 q_49) dX0_write_67
        · refine lv_aload_n hx hb dX0_write_37 rfl (lv_at hl 0 rfl) ?_
          refine gx_gr C w dX0_write_38 ?_
          refine lv_if_eq (tgt := 47) hx hb dX0_write_41 (by decide) (fun c_41 => ?_) (fun c_41 => ?_)
          · obtain ⟨G, O, hG, hO, hD, hE, eO, hac, hdc⟩ := hR.ask c_4
            refine lv_aload_n hx hb dX0_write_47 rfl (lv_at hl 0 rfl) ?_
            refine lv_iconst (v := 3) hx hb dX0_write_48 (by decide) ?_
            refine zt_i (y := nI 3) rfl ?_
            refine cx_v (As := [.int (nI 3)]) (rest := []) C w hA (tX_flush l dC dI cI cZ a _ σ G O 3 (by omega) hD (by omega) hE eO (by omega) hac hdc) (cwx_flush C ⟨Nat.le_of_ble_eq_true rfl, Nat.le_of_ble_eq_true rfl⟩) rfl hl.1 rfl (Nat.le_of_ble_eq_true rfl) dX0_write_49 ⟨Nat.zero_le _, Nat.zero_le _⟩ (fun u_49 H locs q_49 w => ?_)
            refine lv_aload_n hx hb dX0_write_52 rfl (lv_at hl 0 rfl) ?_
            refine gx_di C w dX0_write_53 ?_
            refine lv_iload_n hx hb dX0_write_56 rfl (lv_at hl 1 rfl) ?_
            refine lv_iconst (v := 1) hx hb dX0_write_57 (by decide) ?_
            refine wx_di C w (k := k) ek hk rfl dX0_write_58 (fun H locs w => ?_)
            refine lv_aload_n hx hb dX0_write_59 rfl (lv_at hl 0 rfl) ?_
            refine gx_ca C w dX0_write_60 ?_
            refine lv_iload_n hx hb dX0_write_63 rfl (lv_at hl 1 rfl) ?_
            refine lv_iload_n hx hb dX0_write_64 rfl (lv_at hl 2 rfl) ?_
            refine wx_ca C w (k := k) ek hk dX0_write_65 (fun H locs w => ?_)
            refine lv_iconst (v := 0) hx hb dX0_write_66 (by decide) ?_
            exact rx_i C w hr hlk (by first | exact hR.write_a c_4 hk ek (Or.inl c_25) | exact hR.write_a c_4 hk ek (Or.inr c_34) | exact hR.write_b c_4 hG hO hk ek c_25 c_34 c_41 q_49) dX0_write_67
          · refine lv_bipush (v := -3) hx hb dX0_write_44 (by decide) ?_
            exact rx_i C w hr hlk (hR.write_c c_4 hk ek c_25 c_34 c_41) dX0_write_46
    · refine lv_bipush (v := -2) hx hb dX0_write_16 (by decide) ?_
      exact rx_i C w hr hlk (⟨τ, (mo_write_2 (fun q => c_4 (hR.on.mpr q)) (isb_f c_13)).symm, hR.mono (by omega)⟩) dX0_write_18
  · refine lv_iconst (v := -1) hx hb dX0_write_7 (by decide) ?_
    exact rx_i C w hr hlk (⟨τ, (mo_write_1 (hR.on.mp c_4)).symm, hR.mono (by omega)⟩) dX0_write_8

set_option maxHeartbeats 4000000 in
set_option maxRecDepth 100000 in
theorem tX_fill (l : Launch) (dC : Nat → ClassId) (dI : Nat → Nat → Nat) (cI cZ : ClassId) (a : Nat → Nat) (sz : Nat) (σ : ZS) (τ : ZM) (n : Nat) (hn : n ≤ 1000000) (hR : Rel n σ τ) (x1 x2 v st : Int32) : xMi l yX0_fill cX0_fill 6 (some .int) ({ frames := 5, cells := 0, slots := 0, locals := 114 }) dC dI cI cZ a σ sz [.int x1, .int x2, .int v, .int st] (fun r u => ∃ τ', (r, τ') = mo_fill τ x1 x2 v st ∧ Rel (n + 32) u τ') := by
  refine ex_i (by decide) rfl (Nat.le_of_ble_eq_true rfl) ?_
  intro p e s m args below meth c A ls C hr hlk hA w hl
  have hx := C.1.1
  have hb := C.1.2.1
  have hl : lv_has ls 6 [(0, .ref (a 0)), (1, .int x1), (2, .int x2), (3, .int v), (4, .int st)] := hl
  refine lv_aload_n hx hb dX0_fill_0 rfl (lv_at hl 0 rfl) ?_
  refine gx_ru C w dX0_fill_1 ?_
  refine lv_if_ne (tgt := 9) hx hb dX0_fill_4 (by decide) (fun c_4 => ?_) (fun c_4 => ?_)
  · refine lv_iload_n hx hb dX0_fill_9 rfl (lv_at hl 2 rfl) ?_
    refine lv_iconst (v := 1) hx hb dX0_fill_10 (by decide) ?_
    refine lv_icmp_lt (tgt := 32) hx hb dX0_fill_11 (by decide) (fun c_11 => ?_) (fun c_11 => ?_)
    · refine lv_bipush (v := -2) hx hb dX0_fill_32 (by decide) ?_
      exact rx_i C w hr hlk (by first | exact ⟨τ, (mo_fill_2 (fun q => c_4 (hR.on.mpr q)) (fbad_1 c_11)).symm, hR.mono (by omega)⟩ | exact ⟨τ, (mo_fill_2 (fun q => c_4 (hR.on.mpr q)) (fbad_2 c_17)).symm, hR.mono (by omega)⟩ | exact ⟨τ, (mo_fill_2 (fun q => c_4 (hR.on.mpr q)) (fbad_3 c_21)).symm, hR.mono (by omega)⟩ | exact ⟨τ, (mo_fill_2 (fun q => c_4 (hR.on.mpr q)) (fbad_4 c_29)).symm, hR.mono (by omega)⟩) dX0_fill_34
    · refine lv_iload_n hx hb dX0_fill_14 rfl (lv_at hl 2 rfl) ?_
      refine lv_bipush (v := 16) hx hb dX0_fill_15 (by decide) ?_
      refine lv_icmp_gt (tgt := 32) hx hb dX0_fill_17 (by decide) (fun c_17 => ?_) (fun c_17 => ?_)
      · refine lv_bipush (v := -2) hx hb dX0_fill_32 (by decide) ?_
        exact rx_i C w hr hlk (by first | exact ⟨τ, (mo_fill_2 (fun q => c_4 (hR.on.mpr q)) (fbad_1 c_11)).symm, hR.mono (by omega)⟩ | exact ⟨τ, (mo_fill_2 (fun q => c_4 (hR.on.mpr q)) (fbad_2 c_17)).symm, hR.mono (by omega)⟩ | exact ⟨τ, (mo_fill_2 (fun q => c_4 (hR.on.mpr q)) (fbad_3 c_21)).symm, hR.mono (by omega)⟩ | exact ⟨τ, (mo_fill_2 (fun q => c_4 (hR.on.mpr q)) (fbad_4 c_29)).symm, hR.mono (by omega)⟩) dX0_fill_34
      · refine lv_iload_n hx hb dX0_fill_20 rfl (lv_at hl 1 rfl) ?_
        refine lv_if_lt (tgt := 32) hx hb dX0_fill_21 (by decide) (fun c_21 => ?_) (fun c_21 => ?_)
        · refine lv_bipush (v := -2) hx hb dX0_fill_32 (by decide) ?_
          exact rx_i C w hr hlk (by first | exact ⟨τ, (mo_fill_2 (fun q => c_4 (hR.on.mpr q)) (fbad_1 c_11)).symm, hR.mono (by omega)⟩ | exact ⟨τ, (mo_fill_2 (fun q => c_4 (hR.on.mpr q)) (fbad_2 c_17)).symm, hR.mono (by omega)⟩ | exact ⟨τ, (mo_fill_2 (fun q => c_4 (hR.on.mpr q)) (fbad_3 c_21)).symm, hR.mono (by omega)⟩ | exact ⟨τ, (mo_fill_2 (fun q => c_4 (hR.on.mpr q)) (fbad_4 c_29)).symm, hR.mono (by omega)⟩) dX0_fill_34
        · refine lv_iload_n hx hb dX0_fill_24 rfl (lv_at hl 1 rfl) ?_
          refine lv_bipush (v := 16) hx hb dX0_fill_25 (by decide) ?_
          refine lv_iload_n hx hb dX0_fill_27 rfl (lv_at hl 2 rfl) ?_
          refine lv_isub hx hb dX0_fill_28 ?_
          refine lv_icmp_le (tgt := 35) hx hb dX0_fill_29 (by decide) (fun c_29 => ?_) (fun c_29 => ?_)
          · refine lv_aload_n hx hb dX0_fill_35 rfl (lv_at hl 0 rfl) ?_
            refine gx_gr C w dX0_fill_36 ?_
            refine lv_if_eq (tgt := 45) hx hb dX0_fill_39 (by decide) (fun c_39 => ?_) (fun c_39 => ?_)
            · obtain ⟨f, t, hft, e1, e2⟩ := fbad_ok c_11 c_17 c_21 c_29
              have hon : ¬ m_on τ = 0 := (fun q => c_4 (hR.on.mpr q))
              have hop : m_op τ = 0 := hR.gr.mp c_39
              refine lv_iconst (v := 0) hx hb dX0_fill_45 (by decide) ?_
              refine lv_istore (lv' := [(5, .int 0), (0, .ref (a 0)), (1, .int x1), (2, .int x2), (3, .int v), (4, .int st)]) hx hb dX0_fill_46 hl (by decide) rfl (fun ls hl => ?_)
              refine zx_loop2 (fun (k : Nat) (u : ZS) H locs ls => xW dC dI cI cZ a A s.heap H locs u ∧ lv_has ls 6 [(0, .ref (a 0)), (1, .int x1), (2, .int x2), (3, .int v), (4, .int st), (5, .int (nI k))] ∧ (k ≤ t) ∧ (Rel (n + 2 * k) u (mfl τ f v st k))) (fun k u => t - k) ?_ 0 σ _ _ _ ⟨w, lv_sub hl [1, 2, 3, 4, 5, 0] rfl, Nat.zero_le _, hR⟩
              clear hl w
              rintro k u H locs ls ⟨w, hl, hi, hR2⟩ ih_48
              refine lv_iload hx hb dX0_fill_48 (lv_at hl 5 rfl) ?_
              refine lv_iload_n hx hb dX0_fill_50 rfl (lv_at hl 2 rfl) ?_
              refine zt_i (y := nI t) e2 ?_
              refine lv_icmp_ge (tgt := 76) hx hb dX0_fill_51 (by decide) (fun c_51 => ?_) (fun c_51 => ?_)
              · have hi6 : k = t := zi_ex (N := t) (by omega) hi c_51
                refine lv_iconst (v := 0) hx hb dX0_fill_76 (by decide) ?_
                exact rx_i C w hr hlk (⟨mfl τ f v st t, (mo_fill_4 hon (fbad_5 c_11 c_17 c_21 c_29) hop hft e1 e2).symm, by rw [← hi6]; exact hR2.mono (by omega)⟩) dX0_fill_77
              · have hlt : k < t := zi_in (N := t) (by omega) hi c_51
                refine lv_aload_n hx hb dX0_fill_54 rfl (lv_at hl 0 rfl) ?_
                refine lv_iload_n hx hb dX0_fill_55 rfl (lv_at hl 1 rfl) ?_
                refine zt_i (y := nI f) e1 ?_
                refine lv_iload hx hb dX0_fill_56 (lv_at hl 5 rfl) ?_
                refine lv_iadd hx hb dX0_fill_58 ?_
                refine zt_i (y := nI (f + k)) (nI_add _ _) ?_
                refine lv_iload_n hx hb dX0_fill_59 rfl (lv_at hl 3 rfl) ?_
                refine lv_iload hx hb dX0_fill_60 (lv_at hl 5 rfl) ?_
                refine lv_iload hx hb dX0_fill_62 (lv_at hl 4 rfl) ?_
                refine lv_imul hx hb dX0_fill_64 ?_
                refine lv_iadd hx hb dX0_fill_65 ?_
                refine cx_i (As := [.int (nI (f + k)), .int (v + ((nI k) * st))]) (rest := []) C w hA (tX_write l dC dI cI cZ a _ u (mfl τ f v st k) (n + 2 * k) (by omega) hR2 (nI (f + k)) (v + nI k * st)) (cwx_write C ⟨Nat.le_of_ble_eq_true rfl, Nat.le_of_ble_eq_true rfl⟩) rfl hl.1 rfl (Nat.le_of_ble_eq_true rfl) dX0_fill_66 ⟨Nat.zero_le _, Nat.zero_le _⟩ (fun r_66 u_66 H locs q_66 w => ?_)
                refine lv_pop hx hb dX0_fill_69 rfl ?_
                refine lv_iinc (v := nI (k + 1)) (lv' := [(5, .int (nI (k + 1))), (0, .ref (a 0)), (1, .int x1), (2, .int x2), (3, .int v), (4, .int st)]) hx hb dX0_fill_70 hl (k := 5) rfl (nI_1 _) (by decide) rfl (fun ls hl => ?_)
                refine lv_goto (tgt := 48) hx hb dX0_fill_73 (by decide) ?_
                exact ih_48 (k + 1) u_66 _ _ _ (by omega) ⟨w, lv_sub hl [1, 2, 3, 4, 5, 0] rfl, by omega, Rel.fill_s hon hop hft hlt q_66⟩
            · refine lv_bipush (v := -3) hx hb dX0_fill_42 (by decide) ?_
              exact rx_i C w hr hlk (⟨τ, (mo_fill_3 (fun q => c_4 (hR.on.mpr q)) (fbad_5 c_11 c_17 c_21 c_29) (fun q => c_39 (hR.gr.mpr q))).symm, hR.mono (by omega)⟩) dX0_fill_44
          · refine lv_bipush (v := -2) hx hb dX0_fill_32 (by decide) ?_
            exact rx_i C w hr hlk (by first | exact ⟨τ, (mo_fill_2 (fun q => c_4 (hR.on.mpr q)) (fbad_1 c_11)).symm, hR.mono (by omega)⟩ | exact ⟨τ, (mo_fill_2 (fun q => c_4 (hR.on.mpr q)) (fbad_2 c_17)).symm, hR.mono (by omega)⟩ | exact ⟨τ, (mo_fill_2 (fun q => c_4 (hR.on.mpr q)) (fbad_3 c_21)).symm, hR.mono (by omega)⟩ | exact ⟨τ, (mo_fill_2 (fun q => c_4 (hR.on.mpr q)) (fbad_4 c_29)).symm, hR.mono (by omega)⟩) dX0_fill_34
  · refine lv_iconst (v := -1) hx hb dX0_fill_7 (by decide) ?_
    exact rx_i C w hr hlk (⟨τ, (mo_fill_1 (hR.on.mp c_4)).symm, hR.mono (by omega)⟩) dX0_fill_8

set_option maxHeartbeats 4000000 in
set_option maxRecDepth 100000 in
theorem tX_sync (l : Launch) (dC : Nat → ClassId) (dI : Nat → Nat → Nat) (cI cZ : ClassId) (a : Nat → Nat) (sz : Nat) (σ : ZS) (τ : ZM) (n : Nat) (hn : n ≤ 1000000) (hR : Rel n σ τ)  : xMi l yX0_sync cX0_sync 2 (some .int) ({ frames := 4, cells := 0, slots := 0, locals := 92 }) dC dI cI cZ a σ sz [] (fun r u => ∃ τ', (r, τ') = mo_sync τ ∧ Rel (n + 2) u τ') := by
  refine ex_i (by decide) rfl (Nat.le_of_ble_eq_true rfl) ?_
  intro p e s m args below meth c A ls C hr hlk hA w hl
  have hx := C.1.1
  have hb := C.1.2.1
  have hl : lv_has ls 2 [(0, .ref (a 0))] := hl
  refine lv_aload_n hx hb dX0_sync_0 rfl (lv_at hl 0 rfl) ?_
  refine gx_ru C w dX0_sync_1 ?_
  refine lv_if_ne (tgt := 9) hx hb dX0_sync_4 (by decide) (fun c_4 => ?_) (fun c_4 => ?_)
  · refine lv_aload_n hx hb dX0_sync_9 rfl (lv_at hl 0 rfl) ?_
    refine gx_gr C w dX0_sync_10 ?_
    refine lv_if_eq (tgt := 19) hx hb dX0_sync_13 (by decide) (fun c_13 => ?_) (fun c_13 => ?_)
    · obtain ⟨G, O, hG, hO, hD, hE, eO, hac, hdc⟩ := hR.ask c_4
      refine lv_aload_n hx hb dX0_sync_19 rfl (lv_at hl 0 rfl) ?_
      refine cx_r (As := []) (rest := []) C w hA (tX_dirtyCount l dC dI cI cZ a _ σ) (cwx_dirtyCount C ⟨Nat.le_of_ble_eq_true rfl, Nat.le_of_ble_eq_true rfl⟩) rfl hl.1 rfl (Nat.le_of_ble_eq_true rfl) dX0_sync_20 ⟨Nat.zero_le _, Nat.zero_le _⟩ (fun r_20 H locs q_20 w => ?_)
      subst q_20
      refine lv_istore_n (lv' := [(1, .int (nI (cb (dg (z_di σ)) 16))), (0, .ref (a 0))]) hx hb dX0_sync_23 rfl hl (by decide) rfl (fun ls hl => ?_)
      refine lv_aload_n hx hb dX0_sync_24 rfl (lv_at hl 1 rfl) ?_
      refine lv_iconst (v := 3) hx hb dX0_sync_25 (by decide) ?_
      refine zt_i (y := nI 3) rfl ?_
      refine cx_v (As := [.int (nI 3)]) (rest := []) C w hA (tX_flush l dC dI cI cZ a _ σ G O 3 (by omega) hD (by omega) hE eO (by omega) hac hdc) (cwx_flush C ⟨Nat.le_of_ble_eq_true rfl, Nat.le_of_ble_eq_true rfl⟩) rfl hl.1 rfl (Nat.le_of_ble_eq_true rfl) dX0_sync_26 ⟨Nat.zero_le _, Nat.zero_le _⟩ (fun u_26 H locs q_26 w => ?_)
      refine lv_iload_n hx hb dX0_sync_29 rfl (lv_at hl 0 rfl) ?_
      exact rx_i C w hr hlk (⟨mset1 τ, by rw [mo_sync_3 (fun q => c_4 (hR.on.mpr q)) (hR.gr.mp c_13), hR.fc], hR.flush3 c_4 hG hO q_26⟩) dX0_sync_30
    · refine lv_bipush (v := -2) hx hb dX0_sync_16 (by decide) ?_
      exact rx_i C w hr hlk (⟨τ, (mo_sync_2 (fun q => c_4 (hR.on.mpr q)) (fun q => c_13 (hR.gr.mpr q))).symm, hR.mono (by omega)⟩) dX0_sync_18
  · refine lv_iconst (v := -1) hx hb dX0_sync_7 (by decide) ?_
    exact rx_i C w hr hlk (⟨τ, (mo_sync_1 (hR.on.mp c_4)).symm, hR.mono (by omega)⟩) dX0_sync_8

set_option maxHeartbeats 4000000 in
set_option maxRecDepth 100000 in
theorem tX_begin (l : Launch) (dC : Nat → ClassId) (dI : Nat → Nat → Nat) (cI cZ : ClassId) (a : Nat → Nat) (sz : Nat) (σ : ZS) (τ : ZM) (n : Nat) (hn : n ≤ 1000000) (hR : Rel n σ τ)  : xMi l yX0_begin cX0_begin 1 (some .int) ({ frames := 4, cells := 0, slots := 0, locals := 92 }) dC dI cI cZ a σ sz [] (fun r u => ∃ τ', (r, τ') = mo_begin τ ∧ Rel (n + 2) u τ') := by
  refine ex_i (by decide) rfl (Nat.le_of_ble_eq_true rfl) ?_
  intro p e s m args below meth c A ls C hr hlk hA w hl
  have hx := C.1.1
  have hb := C.1.2.1
  have hl : lv_has ls 1 [(0, .ref (a 0))] := hl
  refine lv_aload_n hx hb dX0_begin_0 rfl (lv_at hl 0 rfl) ?_
  refine gx_ru C w dX0_begin_1 ?_
  refine lv_if_ne (tgt := 9) hx hb dX0_begin_4 (by decide) (fun c_4 => ?_) (fun c_4 => ?_)
  · refine lv_aload_n hx hb dX0_begin_9 rfl (lv_at hl 0 rfl) ?_
    refine gx_gr C w dX0_begin_10 ?_
    refine lv_if_eq (tgt := 19) hx hb dX0_begin_13 (by decide) (fun c_13 => ?_) (fun c_13 => ?_)
    · obtain ⟨G, O, hG, hO, hD, hE, eO, hac, hdc⟩ := hR.ask c_4
      refine lv_aload_n hx hb dX0_begin_19 rfl (lv_at hl 0 rfl) ?_
      refine lv_iconst (v := 3) hx hb dX0_begin_20 (by decide) ?_
      refine zt_i (y := nI 3) rfl ?_
      refine cx_v (As := [.int (nI 3)]) (rest := []) C w hA (tX_flush l dC dI cI cZ a _ σ G O 3 (by omega) hD (by omega) hE eO (by omega) hac hdc) (cwx_flush C ⟨Nat.le_of_ble_eq_true rfl, Nat.le_of_ble_eq_true rfl⟩) rfl hl.1 rfl (Nat.le_of_ble_eq_true rfl) dX0_begin_21 ⟨Nat.zero_le _, Nat.zero_le _⟩ (fun u_21 H locs q_21 w => ?_)
      refine lv_aload_n hx hb dX0_begin_24 rfl (lv_at hl 0 rfl) ?_
      refine lv_iconst (v := 1) hx hb dX0_begin_25 (by decide) ?_
      refine px_gr C w rfl rfl dX0_begin_26 (fun H locs w => ?_)
      refine lv_iconst (v := 0) hx hb dX0_begin_29 (by decide) ?_
      exact rx_i C w hr hlk (⟨n_op (mset1 τ) 1, (mo_begin_3 (fun q => c_4 (hR.on.mpr q)) (hR.gr.mp c_13)).symm, (hR.flush3 c_4 hG hO q_21).grp (by rw [FP_ru q_21]; exact c_4)⟩) dX0_begin_30
    · refine lv_bipush (v := -2) hx hb dX0_begin_16 (by decide) ?_
      exact rx_i C w hr hlk (⟨τ, (mo_begin_2 (fun q => c_4 (hR.on.mpr q)) (fun q => c_13 (hR.gr.mpr q))).symm, hR.mono (by omega)⟩) dX0_begin_18
  · refine lv_iconst (v := -1) hx hb dX0_begin_7 (by decide) ?_
    exact rx_i C w hr hlk (⟨τ, (mo_begin_1 (hR.on.mp c_4)).symm, hR.mono (by omega)⟩) dX0_begin_8

set_option maxHeartbeats 4000000 in
set_option maxRecDepth 100000 in
theorem tX_commit (l : Launch) (dC : Nat → ClassId) (dI : Nat → Nat → Nat) (cI cZ : ClassId) (a : Nat → Nat) (sz : Nat) (σ : ZS) (τ : ZM) (n : Nat) (hn : n ≤ 1000000) (hR : Rel n σ τ)  : xMi l yX0_commit cX0_commit 2 (some .int) ({ frames := 4, cells := 0, slots := 0, locals := 92 }) dC dI cI cZ a σ sz [] (fun r u => ∃ τ', (r, τ') = mo_commit τ ∧ Rel (n + 2) u τ') := by
  refine ex_i (by decide) rfl (Nat.le_of_ble_eq_true rfl) ?_
  intro p e s m args below meth c A ls C hr hlk hA w hl
  have hx := C.1.1
  have hb := C.1.2.1
  have hl : lv_has ls 2 [(0, .ref (a 0))] := hl
  refine lv_aload_n hx hb dX0_commit_0 rfl (lv_at hl 0 rfl) ?_
  refine gx_ru C w dX0_commit_1 ?_
  refine lv_if_ne (tgt := 9) hx hb dX0_commit_4 (by decide) (fun c_4 => ?_) (fun c_4 => ?_)
  · refine lv_aload_n hx hb dX0_commit_9 rfl (lv_at hl 0 rfl) ?_
    refine gx_gr C w dX0_commit_10 ?_
    refine lv_if_ne (tgt := 19) hx hb dX0_commit_13 (by decide) (fun c_13 => ?_) (fun c_13 => ?_)
    · obtain ⟨G, O, hG, hO, hD, hE, eO, hac, hdc⟩ := hR.ask c_4
      refine lv_aload_n hx hb dX0_commit_19 rfl (lv_at hl 0 rfl) ?_
      refine cx_r (As := []) (rest := []) C w hA (tX_dirtyCount l dC dI cI cZ a _ σ) (cwx_dirtyCount C ⟨Nat.le_of_ble_eq_true rfl, Nat.le_of_ble_eq_true rfl⟩) rfl hl.1 rfl (Nat.le_of_ble_eq_true rfl) dX0_commit_20 ⟨Nat.zero_le _, Nat.zero_le _⟩ (fun r_20 H locs q_20 w => ?_)
      subst q_20
      refine lv_istore_n (lv' := [(1, .int (nI (cb (dg (z_di σ)) 16))), (0, .ref (a 0))]) hx hb dX0_commit_23 rfl hl (by decide) rfl (fun ls hl => ?_)
      refine lv_aload_n hx hb dX0_commit_24 rfl (lv_at hl 1 rfl) ?_
      refine lv_iconst (v := 0) hx hb dX0_commit_25 (by decide) ?_
      refine px_gr C w rfl rfl dX0_commit_26 (fun H locs w => ?_)
      refine lv_aload_n hx hb dX0_commit_29 rfl (lv_at hl 1 rfl) ?_
      refine lv_iconst (v := 3) hx hb dX0_commit_30 (by decide) ?_
      refine zt_i (y := nI 3) rfl ?_
      refine cx_v (As := [.int (nI 3)]) (rest := []) C w hA (tX_flush l dC dI cI cZ a _ (s_gr σ 0) G O 3 (by omega) hD (by omega) hE eO (by omega) hac hdc) (cwx_flush C ⟨Nat.le_of_ble_eq_true rfl, Nat.le_of_ble_eq_true rfl⟩) rfl hl.1 rfl (Nat.le_of_ble_eq_true rfl) dX0_commit_31 ⟨Nat.zero_le _, Nat.zero_le _⟩ (fun u_31 H locs q_31 w => ?_)
      refine lv_iload_n hx hb dX0_commit_34 rfl (lv_at hl 0 rfl) ?_
      exact rx_i C w hr hlk (⟨mset1 (n_op τ 0), by rw [mo_commit_3 (fun q => c_4 (hR.on.mpr q)) (fun q => c_13 (hR.gr.mpr q)), hR.fc], (hR.grp c_4).flush3 c_4 hG hO q_31⟩) dX0_commit_35
    · refine lv_bipush (v := -2) hx hb dX0_commit_16 (by decide) ?_
      exact rx_i C w hr hlk (⟨τ, (mo_commit_2 (fun q => c_4 (hR.on.mpr q)) (hR.gr.mp c_13)).symm, hR.mono (by omega)⟩) dX0_commit_18
  · refine lv_iconst (v := -1) hx hb dX0_commit_7 (by decide) ?_
    exact rx_i C w hr hlk (⟨τ, (mo_commit_1 (hR.on.mp c_4)).symm, hR.mono (by omega)⟩) dX0_commit_8

set_option maxHeartbeats 4000000 in
set_option maxRecDepth 100000 in
theorem tX_abort (l : Launch) (dC : Nat → ClassId) (dI : Nat → Nat → Nat) (cI cZ : ClassId) (a : Nat → Nat) (sz : Nat) (σ : ZS) (τ : ZM) (n : Nat) (hn : n ≤ 1000000) (hR : Rel n σ τ)  : xMi l yX0_abort cX0_abort 2 (some .int) ({ frames := 1, cells := 0, slots := 0, locals := 22 }) dC dI cI cZ a σ sz [] (fun r u => ∃ τ', (r, τ') = mo_abort τ ∧ Rel (n + 2) u τ') := by
  refine ex_i (by decide) rfl (Nat.le_of_ble_eq_true rfl) ?_
  intro p e s m args below meth c A ls C hr hlk hA w hl
  have hx := C.1.1
  have hb := C.1.2.1
  have hl : lv_has ls 2 [(0, .ref (a 0))] := hl
  refine lv_aload_n hx hb dX0_abort_0 rfl (lv_at hl 0 rfl) ?_
  refine gx_ru C w dX0_abort_1 ?_
  refine lv_if_ne (tgt := 9) hx hb dX0_abort_4 (by decide) (fun c_4 => ?_) (fun c_4 => ?_)
  · refine lv_aload_n hx hb dX0_abort_9 rfl (lv_at hl 0 rfl) ?_
    refine gx_gr C w dX0_abort_10 ?_
    refine lv_if_ne (tgt := 19) hx hb dX0_abort_13 (by decide) (fun c_13 => ?_) (fun c_13 => ?_)
    · refine lv_aload_n hx hb dX0_abort_19 rfl (lv_at hl 0 rfl) ?_
      refine cx_r (As := []) (rest := []) C w hA (tX_dirtyCount l dC dI cI cZ a _ σ) (cwx_dirtyCount C ⟨Nat.le_of_ble_eq_true rfl, Nat.le_of_ble_eq_true rfl⟩) rfl hl.1 rfl (Nat.le_of_ble_eq_true rfl) dX0_abort_20 ⟨Nat.zero_le _, Nat.zero_le _⟩ (fun r_20 H locs q_20 w => ?_)
      subst q_20
      refine lv_istore_n (lv' := [(1, .int (nI (cb (dg (z_di σ)) 16))), (0, .ref (a 0))]) hx hb dX0_abort_23 rfl hl (by decide) rfl (fun ls hl => ?_)
      refine lv_aload_n hx hb dX0_abort_24 rfl (lv_at hl 1 rfl) ?_
      refine lv_iconst (v := 0) hx hb dX0_abort_25 (by decide) ?_
      refine px_gr C w rfl rfl dX0_abort_26 (fun H locs w => ?_)
      refine lv_aload_n hx hb dX0_abort_29 rfl (lv_at hl 1 rfl) ?_
      refine cx_v (As := []) (rest := []) C w hA (tX_dropCache l dC dI cI cZ a _ (s_gr σ 0)) (cwx_dropCache C ⟨Nat.le_of_ble_eq_true rfl, Nat.le_of_ble_eq_true rfl⟩) rfl hl.1 rfl (Nat.le_of_ble_eq_true rfl) dX0_abort_30 ⟨Nat.zero_le _, Nat.zero_le _⟩ (fun u_30 H locs q_30 w => ?_)
      subst q_30
      refine lv_iload_n hx hb dX0_abort_33 rfl (lv_at hl 0 rfl) ?_
      exact rx_i C w hr hlk (⟨mset0 (n_op τ 0), by rw [mo_abort_3 (fun q => c_4 (hR.on.mpr q)) (fun q => c_13 (hR.gr.mpr q)), hR.fc], ((hR.grp (v := 0) c_4).drop c_4).mono (by omega)⟩) dX0_abort_34
    · refine lv_bipush (v := -2) hx hb dX0_abort_16 (by decide) ?_
      exact rx_i C w hr hlk (⟨τ, (mo_abort_2 (fun q => c_4 (hR.on.mpr q)) (hR.gr.mp c_13)).symm, hR.mono (by omega)⟩) dX0_abort_18
  · refine lv_iconst (v := -1) hx hb dX0_abort_7 (by decide) ?_
    exact rx_i C w hr hlk (⟨τ, (mo_abort_1 (hR.on.mp c_4)).symm, hR.mono (by omega)⟩) dX0_abort_8

set_option maxHeartbeats 4000000 in
set_option maxRecDepth 100000 in
theorem tX_crash (l : Launch) (dC : Nat → ClassId) (dI : Nat → Nat → Nat) (cI cZ : ClassId) (a : Nat → Nat) (sz : Nat) (σ : ZS) (τ : ZM) (n : Nat) (hn : n ≤ 1000000) (hR : Rel n σ τ)  : xMi l yX0_crash cX0_crash 2 (some .int) ({ frames := 2, cells := 0, slots := 0, locals := 42 }) dC dI cI cZ a σ sz [] (fun r u => ∃ τ', (r, τ') = mo_crash τ ∧ Rel (n + 2) u τ') := by
  refine ex_i (by decide) rfl (Nat.le_of_ble_eq_true rfl) ?_
  intro p e s m args below meth c A ls C hr hlk hA w hl
  have hx := C.1.1
  have hb := C.1.2.1
  have hl : lv_has ls 2 [(0, .ref (a 0))] := hl
  refine lv_aload_n hx hb dX0_crash_0 rfl (lv_at hl 0 rfl) ?_
  refine gx_ru C w dX0_crash_1 ?_
  refine lv_if_ne (tgt := 9) hx hb dX0_crash_4 (by decide) (fun c_4 => ?_) (fun c_4 => ?_)
  · refine lv_aload_n hx hb dX0_crash_9 rfl (lv_at hl 0 rfl) ?_
    refine cx_r (As := []) (rest := []) C w hA (tX_dirtyCount l dC dI cI cZ a _ σ) (cwx_dirtyCount C ⟨Nat.le_of_ble_eq_true rfl, Nat.le_of_ble_eq_true rfl⟩) rfl hl.1 rfl (Nat.le_of_ble_eq_true rfl) dX0_crash_10 ⟨Nat.zero_le _, Nat.zero_le _⟩ (fun r_10 H locs q_10 w => ?_)
    subst q_10
    refine lv_istore_n (lv' := [(1, .int (nI (cb (dg (z_di σ)) 16))), (0, .ref (a 0))]) hx hb dX0_crash_13 rfl hl (by decide) rfl (fun ls hl => ?_)
    refine lv_aload_n hx hb dX0_crash_14 rfl (lv_at hl 1 rfl) ?_
    refine cx_v (As := []) (rest := []) C w hA (tX_fall l dC dI cI cZ a _ σ) (cwx_fall C ⟨Nat.le_of_ble_eq_true rfl, Nat.le_of_ble_eq_true rfl⟩) rfl hl.1 rfl (Nat.le_of_ble_eq_true rfl) dX0_crash_15 ⟨Nat.zero_le _, Nat.zero_le _⟩ (fun u_15 H locs q_15 w => ?_)
    subst q_15
    refine lv_iload_n hx hb dX0_crash_18 rfl (lv_at hl 0 rfl) ?_
    exact rx_i C w hr hlk (⟨mset0 (n_op (n_on τ 0) 0), by rw [mo_crash_2 (fun q => c_4 (hR.on.mpr q)), hR.fc], (hR.fall c_4).mono (by omega)⟩) dX0_crash_19
  · refine lv_iconst (v := -1) hx hb dX0_crash_7 (by decide) ?_
    exact rx_i C w hr hlk (⟨τ, (mo_crash_1 (hR.on.mp c_4)).symm, hR.mono (by omega)⟩) dX0_crash_8

set_option maxHeartbeats 4000000 in
set_option maxRecDepth 100000 in
theorem tX_crashIn (l : Launch) (dC : Nat → ClassId) (dI : Nat → Nat → Nat) (cI cZ : ClassId) (a : Nat → Nat) (sz : Nat) (σ : ZS) (τ : ZM) (n : Nat) (hn : n ≤ 1000000) (hR : Rel n σ τ) (x0 : Int32) : xMi l yX0_crashIn cX0_crashIn 2 (some .int) ({ frames := 4, cells := 0, slots := 0, locals := 92 }) dC dI cI cZ a σ sz [.int x0] (fun r u => ∃ τ', (r, τ') = mo_crashIn τ x0 ∧ Rel (n + 2) u τ') := by
  refine ex_i (by decide) rfl (Nat.le_of_ble_eq_true rfl) ?_
  intro p e s m args below meth c A ls C hr hlk hA w hl
  have hx := C.1.1
  have hb := C.1.2.1
  have hl : lv_has ls 2 [(0, .ref (a 0)), (1, .int x0)] := hl
  refine lv_aload_n hx hb dX0_crashIn_0 rfl (lv_at hl 0 rfl) ?_
  refine gx_ru C w dX0_crashIn_1 ?_
  refine lv_if_ne (tgt := 9) hx hb dX0_crashIn_4 (by decide) (fun c_4 => ?_) (fun c_4 => ?_)
  · refine lv_iload_n hx hb dX0_crashIn_9 rfl (lv_at hl 1 rfl) ?_
    refine lv_if_lt (tgt := 18) hx hb dX0_crashIn_10 (by decide) (fun c_10 => ?_) (fun c_10 => ?_)
    · refine lv_bipush (v := -2) hx hb dX0_crashIn_18 (by decide) ?_
      exact rx_i C w hr hlk (by first | exact ⟨τ, (mo_crashIn_2 (fun q => c_4 (hR.on.mpr q)) (Or.inl c_10)).symm, hR.mono (by omega)⟩ | exact ⟨τ, (mo_crashIn_2 (fun q => c_4 (hR.on.mpr q)) (Or.inr c_15)).symm, hR.mono (by omega)⟩) dX0_crashIn_20
    · refine lv_iload_n hx hb dX0_crashIn_13 rfl (lv_at hl 1 rfl) ?_
      refine lv_iconst (v := 3) hx hb dX0_crashIn_14 (by decide) ?_
      refine lv_icmp_le (tgt := 21) hx hb dX0_crashIn_15 (by decide) (fun c_15 => ?_) (fun c_15 => ?_)
      · obtain ⟨G, O, hG, hO, hD, hE, eO, hac, hdc⟩ := hR.ask c_4
        obtain ⟨p0, hp0, ep0⟩ := zi_03 c_10 c_15
        refine lv_aload_n hx hb dX0_crashIn_21 rfl (lv_at hl 0 rfl) ?_
        refine lv_iload_n hx hb dX0_crashIn_22 rfl (lv_at hl 1 rfl) ?_
        refine zt_i (y := nI p0) ep0 ?_
        refine cx_v (As := [.int (nI p0)]) (rest := []) C w hA (tX_flush l dC dI cI cZ a _ σ G O p0 (by omega) hD (by omega) hE eO (by omega) hac hdc) (cwx_flush C ⟨Nat.le_of_ble_eq_true rfl, Nat.le_of_ble_eq_true rfl⟩) rfl hl.1 rfl (Nat.le_of_ble_eq_true rfl) dX0_crashIn_23 ⟨Nat.zero_le _, Nat.zero_le _⟩ (fun u_23 H locs q_23 w => ?_)
        refine lv_aload_n hx hb dX0_crashIn_26 rfl (lv_at hl 0 rfl) ?_
        refine cx_v (As := []) (rest := []) C w hA (tX_fall l dC dI cI cZ a _ u_23) (cwx_fall C ⟨Nat.le_of_ble_eq_true rfl, Nat.le_of_ble_eq_true rfl⟩) rfl hl.1 rfl (Nat.le_of_ble_eq_true rfl) dX0_crashIn_27 ⟨Nat.zero_le _, Nat.zero_le _⟩ (fun u_27 H locs q_27 w => ?_)
        subst q_27
        refine lv_iconst (v := 0) hx hb dX0_crashIn_30 (by decide) ?_
        exact rx_i C w hr hlk (hR.crashIn c_4 hG hO c_10 c_15 hp0 ep0 q_23) dX0_crashIn_31
      · refine lv_bipush (v := -2) hx hb dX0_crashIn_18 (by decide) ?_
        exact rx_i C w hr hlk (by first | exact ⟨τ, (mo_crashIn_2 (fun q => c_4 (hR.on.mpr q)) (Or.inl c_10)).symm, hR.mono (by omega)⟩ | exact ⟨τ, (mo_crashIn_2 (fun q => c_4 (hR.on.mpr q)) (Or.inr c_15)).symm, hR.mono (by omega)⟩) dX0_crashIn_20
  · refine lv_iconst (v := -1) hx hb dX0_crashIn_7 (by decide) ?_
    exact rx_i C w hr hlk (⟨τ, (mo_crashIn_1 (hR.on.mp c_4)).symm, hR.mono (by omega)⟩) dX0_crashIn_8

set_option maxHeartbeats 4000000 in
set_option maxRecDepth 100000 in
theorem tX_mount (l : Launch) (dC : Nat → ClassId) (dI : Nat → Nat → Nat) (cI cZ : ClassId) (a : Nat → Nat) (sz : Nat) (σ : ZS) (τ : ZM) (n : Nat) (hn : n ≤ 1000000) (hR : Rel n σ τ)  : xMi l yX0_mount cX0_mount 1 (some .int) ({ frames := 2, cells := 0, slots := 0, locals := 44 }) dC dI cI cZ a σ sz [] (fun r u => ∃ τ', (r, τ') = mo_mount τ ∧ Rel (n + 2) u τ') := by
  refine ex_i (by decide) rfl (Nat.le_of_ble_eq_true rfl) ?_
  intro p e s m args below meth c A ls C hr hlk hA w hl
  have hx := C.1.1
  have hb := C.1.2.1
  have hl : lv_has ls 1 [(0, .ref (a 0))] := hl
  refine lv_aload_n hx hb dX0_mount_0 rfl (lv_at hl 0 rfl) ?_
  refine gx_ru C w dX0_mount_1 ?_
  refine lv_if_eq (tgt := 9) hx hb dX0_mount_4 (by decide) (fun c_4 => ?_) (fun c_4 => ?_)
  · obtain ⟨T, G, hD, htb, hdn⟩ := hR.down c_4
    refine lv_aload_n hx hb dX0_mount_9 rfl (lv_at hl 0 rfl) ?_
    refine cx_v (As := []) (rest := []) C w hA (tX_recover l dC dI cI cZ a _ σ T G hD htb) (cwx_recover C ⟨Nat.le_of_ble_eq_true rfl, Nat.le_of_ble_eq_true rfl⟩) rfl hl.1 rfl (Nat.le_of_ble_eq_true rfl) dX0_mount_10 ⟨Nat.zero_le _, Nat.zero_le _⟩ (fun u_10 H locs q_10 w => ?_)
    refine lv_aload_n hx hb dX0_mount_13 rfl (lv_at hl 0 rfl) ?_
    refine lv_iconst (v := 1) hx hb dX0_mount_14 (by decide) ?_
    refine px_ru C w rfl rfl dX0_mount_15 (fun H locs w => ?_)
    refine lv_iconst (v := 0) hx hb dX0_mount_18 (by decide) ?_
    exact rx_i C w hr hlk (⟨n_on τ 1, (mo_mount_2 (hR.on.mp c_4)).symm, (hdn u_10 q_10).mono (by omega)⟩) dX0_mount_19
  · refine lv_iconst (v := -1) hx hb dX0_mount_7 (by decide) ?_
    exact rx_i C w hr hlk (⟨τ, (mo_mount_1 (fun q => c_4 (hR.on.mpr q))).symm, hR.mono (by omega)⟩) dX0_mount_8

set_option maxHeartbeats 4000000 in
set_option maxRecDepth 100000 in
theorem tX_pending (l : Launch) (dC : Nat → ClassId) (dI : Nat → Nat → Nat) (cI cZ : ClassId) (a : Nat → Nat) (sz : Nat) (σ : ZS) (τ : ZM) (n : Nat) (hn : n ≤ 1000000) (hR : Rel n σ τ)  : xMi l yX0_pending cX0_pending 3 (some .int) ({ frames := 1, cells := 0, slots := 0, locals := 21 }) dC dI cI cZ a σ sz [] (fun r u => ∃ τ', (r, τ') = mo_pending τ ∧ Rel (n + 2) u τ') := by
  refine ex_i (by decide) rfl (Nat.le_of_ble_eq_true rfl) ?_
  intro p e s m args below meth c A ls C hr hlk hA w hl
  have hx := C.1.1
  have hb := C.1.2.1
  have hl : lv_has ls 3 [(0, .ref (a 0))] := hl
  refine lv_aload_n hx hb dX0_pending_0 rfl (lv_at hl 0 rfl) ?_
  refine gx_ru C w dX0_pending_1 ?_
  refine lv_if_ne (tgt := 9) hx hb dX0_pending_4 (by decide) (fun c_4 => ?_) (fun c_4 => ?_)
  · refine lv_iconst (v := 0) hx hb dX0_pending_9 (by decide) ?_
    refine lv_istore_n (lv' := [(1, .int 0), (0, .ref (a 0))]) hx hb dX0_pending_10 rfl hl (by decide) rfl (fun ls hl => ?_)
    refine lv_iconst (v := 0) hx hb dX0_pending_11 (by decide) ?_
    refine lv_istore_n (lv' := [(2, .int 0), (1, .int 0), (0, .ref (a 0))]) hx hb dX0_pending_12 rfl hl (by decide) rfl (fun ls hl => ?_)
    refine zx_loop1 (fun (i : Nat) H locs ls => xW dC dI cI cZ a A s.heap H locs σ ∧ lv_has ls 3 [(0, .ref (a 0)), (1, .int (nI (cb (pgx σ) i))), (2, .int (nI i))] ∧ (i ≤ 16)) (fun i => 16 - i) ?_ 0 _ _ _ ⟨w, lv_sub hl [2, 1, 0] rfl, Nat.zero_le _⟩
    clear hl w
    rintro i H locs ls ⟨w, hl, hi⟩ ih_13
    refine lv_iload_n hx hb dX0_pending_13 rfl (lv_at hl 2 rfl) ?_
    refine lv_bipush (v := 16) hx hb dX0_pending_14 (by decide) ?_
    refine lv_icmp_ge (tgt := 56) hx hb dX0_pending_16 (by decide) (fun c_16 => ?_) (fun c_16 => ?_)
    · have hi6 : i = 16 := zi_ex (N := 16) (by decide) hi c_16
      refine lv_iload_n hx hb dX0_pending_56 rfl (lv_at hl 1 rfl) ?_
      exact rx_i C w hr hlk (⟨τ, by rw [mo_pending_2 (fun q => c_4 (hR.on.mpr q)), hi6, hR.pend c_4], hR.mono (by omega)⟩) dX0_pending_57
    · have hlt : i < 16 := zi_in (N := 16) (by decide) hi c_16
      refine lv_iload_n hx hb dX0_pending_19 rfl (lv_at hl 1 rfl) ?_
      refine lv_aload_n hx hb dX0_pending_20 rfl (lv_at hl 0 rfl) ?_
      refine gx_di C w dX0_pending_21 ?_
      refine lv_iload_n hx hb dX0_pending_24 rfl (lv_at hl 2 rfl) ?_
      refine lx_di C w (k := i) rfl (by omega) dX0_pending_25 ?_
      refine lv_if_eq (tgt := 47) hx hb dX0_pending_26 (by decide) (fun c_26 => ?_) (fun c_26 => ?_)
      · refine lv_iconst (v := 0) hx hb dX0_pending_47 (by decide) ?_
        refine lv_iadd hx hb dX0_pending_48 ?_
        refine zt_i (y := nI (cb (pgx σ) (i + 1))) (by first | exact cb_it (decide_eq_true ⟨c_26, c_40⟩) | exact cb_if (decide_eq_false (fun q => q.1 c_26)) | exact cb_if (decide_eq_false (fun q => q.2 c_40))) ?_
        refine lv_istore_n (lv' := [(1, .int (nI (cb (pgx σ) (i + 1)))), (0, .ref (a 0)), (2, .int (nI i))]) hx hb dX0_pending_49 rfl hl (by decide) rfl (fun ls hl => ?_)
        refine lv_iinc (v := nI (i + 1)) (lv' := [(2, .int (nI (i + 1))), (1, .int (nI (cb (pgx σ) (i + 1)))), (0, .ref (a 0))]) hx hb dX0_pending_50 hl (k := 2) rfl (nI_1 _) (by decide) rfl (fun ls hl => ?_)
        refine lv_goto (tgt := 13) hx hb dX0_pending_53 (by decide) ?_
        exact ih_13 (i + 1) _ _ _ (by omega) ⟨w, lv_sub hl [2, 1, 0] rfl, by omega⟩
      · refine lv_aload_n hx hb dX0_pending_29 rfl (lv_at hl 0 rfl) ?_
        refine gx_ca C w dX0_pending_30 ?_
        refine lv_iload_n hx hb dX0_pending_33 rfl (lv_at hl 2 rfl) ?_
        refine lx_ca C w (k := i) rfl (by omega) dX0_pending_34 ?_
        refine lv_aload_n hx hb dX0_pending_35 rfl (lv_at hl 0 rfl) ?_
        refine lv_iload_n hx hb dX0_pending_36 rfl (lv_at hl 2 rfl) ?_
        refine cx_r (As := [.int (nI i)]) (rest := [.int (z_ca σ i), .int (nI (cb (pgx σ) i))]) C w hA (tX_stored l dC dI cI cZ a _ σ i hlt (hR.okT c_4 i hlt)) (cwx_stored C ⟨Nat.le_of_ble_eq_true rfl, Nat.le_of_ble_eq_true rfl⟩) rfl hl.1 rfl (Nat.le_of_ble_eq_true rfl) dX0_pending_37 ⟨Nat.zero_le _, Nat.zero_le _⟩ (fun r_37 H locs q_37 w => ?_)
        subst q_37
        refine lv_icmp_eq (tgt := 47) hx hb dX0_pending_40 (by decide) (fun c_40 => ?_) (fun c_40 => ?_)
        · refine lv_iconst (v := 0) hx hb dX0_pending_47 (by decide) ?_
          refine lv_iadd hx hb dX0_pending_48 ?_
          refine zt_i (y := nI (cb (pgx σ) (i + 1))) (by first | exact cb_it (decide_eq_true ⟨c_26, c_40⟩) | exact cb_if (decide_eq_false (fun q => q.1 c_26)) | exact cb_if (decide_eq_false (fun q => q.2 c_40))) ?_
          refine lv_istore_n (lv' := [(1, .int (nI (cb (pgx σ) (i + 1)))), (0, .ref (a 0)), (2, .int (nI i))]) hx hb dX0_pending_49 rfl hl (by decide) rfl (fun ls hl => ?_)
          refine lv_iinc (v := nI (i + 1)) (lv' := [(2, .int (nI (i + 1))), (1, .int (nI (cb (pgx σ) (i + 1)))), (0, .ref (a 0))]) hx hb dX0_pending_50 hl (k := 2) rfl (nI_1 _) (by decide) rfl (fun ls hl => ?_)
          refine lv_goto (tgt := 13) hx hb dX0_pending_53 (by decide) ?_
          exact ih_13 (i + 1) _ _ _ (by omega) ⟨w, lv_sub hl [2, 1, 0] rfl, by omega⟩
        · refine lv_iconst (v := 1) hx hb dX0_pending_43 (by decide) ?_
          refine lv_goto (tgt := 48) hx hb dX0_pending_44 (by decide) ?_
          refine lv_iadd hx hb dX0_pending_48 ?_
          refine zt_i (y := nI (cb (pgx σ) (i + 1))) (by first | exact cb_it (decide_eq_true ⟨c_26, c_40⟩) | exact cb_if (decide_eq_false (fun q => q.1 c_26)) | exact cb_if (decide_eq_false (fun q => q.2 c_40))) ?_
          refine lv_istore_n (lv' := [(1, .int (nI (cb (pgx σ) (i + 1)))), (0, .ref (a 0)), (2, .int (nI i))]) hx hb dX0_pending_49 rfl hl (by decide) rfl (fun ls hl => ?_)
          refine lv_iinc (v := nI (i + 1)) (lv' := [(2, .int (nI (i + 1))), (1, .int (nI (cb (pgx σ) (i + 1)))), (0, .ref (a 0))]) hx hb dX0_pending_50 hl (k := 2) rfl (nI_1 _) (by decide) rfl (fun ls hl => ?_)
          refine lv_goto (tgt := 13) hx hb dX0_pending_53 (by decide) ?_
          exact ih_13 (i + 1) _ _ _ (by omega) ⟨w, lv_sub hl [2, 1, 0] rfl, by omega⟩
  · refine lv_iconst (v := -1) hx hb dX0_pending_7 (by decide) ?_
    exact rx_i C w hr hlk (⟨τ, (mo_pending_1 (hR.on.mp c_4)).symm, hR.mono (by omega)⟩) dX0_pending_8

set_option maxHeartbeats 4000000 in
set_option maxRecDepth 100000 in
theorem tX_sum (l : Launch) (dC : Nat → ClassId) (dI : Nat → Nat → Nat) (cI cZ : ClassId) (a : Nat → Nat) (sz : Nat) (σ : ZS) (τ : ZM) (n : Nat) (hn : n ≤ 1000000) (hR : Rel n σ τ)  : xMi l yX0_sum cX0_sum 3 (some .int) ({ frames := 2, cells := 0, slots := 0, locals := 42 }) dC dI cI cZ a σ sz [] (fun r u => ∃ τ', (r, τ') = mo_sum τ ∧ Rel (n + 2) u τ') := by
  refine ex_i (by decide) rfl (Nat.le_of_ble_eq_true rfl) ?_
  intro p e s m args below meth c A ls C hr hlk hA w hl
  have hx := C.1.1
  have hb := C.1.2.1
  have hl : lv_has ls 3 [(0, .ref (a 0))] := hl
  refine lv_aload_n hx hb dX0_sum_0 rfl (lv_at hl 0 rfl) ?_
  refine gx_ru C w dX0_sum_1 ?_
  refine lv_if_ne (tgt := 9) hx hb dX0_sum_4 (by decide) (fun c_4 => ?_) (fun c_4 => ?_)
  · refine lv_iconst (v := 0) hx hb dX0_sum_9 (by decide) ?_
    refine lv_istore_n (lv' := [(1, .int 0), (0, .ref (a 0))]) hx hb dX0_sum_10 rfl hl (by decide) rfl (fun ls hl => ?_)
    refine lv_iconst (v := 0) hx hb dX0_sum_11 (by decide) ?_
    refine lv_istore_n (lv' := [(2, .int 0), (1, .int 0), (0, .ref (a 0))]) hx hb dX0_sum_12 rfl hl (by decide) rfl (fun ls hl => ?_)
    refine zx_loop1 (fun (i : Nat) H locs ls => xW dC dI cI cZ a A s.heap H locs σ ∧ lv_has ls 3 [(0, .ref (a 0)), (1, .int (sm (cu σ) i)), (2, .int (nI i))] ∧ (i ≤ 16)) (fun i => 16 - i) ?_ 0 _ _ _ ⟨w, lv_sub hl [2, 1, 0] rfl, Nat.zero_le _⟩
    clear hl w
    rintro i H locs ls ⟨w, hl, hi⟩ ih_13
    refine lv_iload_n hx hb dX0_sum_13 rfl (lv_at hl 2 rfl) ?_
    refine lv_bipush (v := 16) hx hb dX0_sum_14 (by decide) ?_
    refine lv_icmp_ge (tgt := 33) hx hb dX0_sum_16 (by decide) (fun c_16 => ?_) (fun c_16 => ?_)
    · have hi6 : i = 16 := zi_ex (N := 16) (by decide) hi c_16
      refine lv_iload_n hx hb dX0_sum_33 rfl (lv_at hl 1 rfl) ?_
      exact rx_i C w hr hlk (⟨τ, by rw [mo_sum_2 (fun q => c_4 (hR.on.mpr q)), hi6, hR.total c_4], hR.mono (by omega)⟩) dX0_sum_34
    · have hlt : i < 16 := zi_in (N := 16) (by decide) hi c_16
      refine lv_iload_n hx hb dX0_sum_19 rfl (lv_at hl 1 rfl) ?_
      refine lv_aload_n hx hb dX0_sum_20 rfl (lv_at hl 0 rfl) ?_
      refine lv_iload_n hx hb dX0_sum_21 rfl (lv_at hl 2 rfl) ?_
      refine cx_r (As := [.int (nI i)]) (rest := [.int (sm (cu σ) i)]) C w hA (tX_current l dC dI cI cZ a _ σ i hlt (hR.okT c_4 i hlt)) (cwx_current C ⟨Nat.le_of_ble_eq_true rfl, Nat.le_of_ble_eq_true rfl⟩) rfl hl.1 rfl (Nat.le_of_ble_eq_true rfl) dX0_sum_22 ⟨Nat.zero_le _, Nat.zero_le _⟩ (fun r_22 H locs q_22 w => ?_)
      subst q_22
      refine lv_iadd hx hb dX0_sum_25 ?_
      refine zt_i (y := sm (cu σ) (i + 1)) rfl ?_
      refine lv_istore_n (lv' := [(1, .int (sm (cu σ) (i + 1))), (0, .ref (a 0)), (2, .int (nI i))]) hx hb dX0_sum_26 rfl hl (by decide) rfl (fun ls hl => ?_)
      refine lv_iinc (v := nI (i + 1)) (lv' := [(2, .int (nI (i + 1))), (1, .int (sm (cu σ) (i + 1))), (0, .ref (a 0))]) hx hb dX0_sum_27 hl (k := 2) rfl (nI_1 _) (by decide) rfl (fun ls hl => ?_)
      refine lv_goto (tgt := 13) hx hb dX0_sum_30 (by decide) ?_
      exact ih_13 (i + 1) _ _ _ (by omega) ⟨w, lv_sub hl [2, 1, 0] rfl, by omega⟩
  · refine lv_iconst (v := 0) hx hb dX0_sum_7 (by decide) ?_
    exact rx_i C w hr hlk (⟨τ, (mo_sum_1 (hR.on.mp c_4)).symm, hR.mono (by omega)⟩) dX0_sum_8

set_option maxHeartbeats 4000000 in
set_option maxRecDepth 100000 in
theorem tX_clean (l : Launch) (dC : Nat → ClassId) (dI : Nat → Nat → Nat) (cI cZ : ClassId) (a : Nat → Nat) (sz : Nat) (σ : ZS) (τ : ZM) (n : Nat) (hn : n ≤ 1000000) (hR : Rel n σ τ)  : xMi l yX0_clean cX0_clean 2 (some .int) ({ frames := 1, cells := 0, slots := 0, locals := 23 }) dC dI cI cZ a σ sz [] (fun r u => ∃ τ', (r, τ') = mo_clean τ ∧ Rel (n + 2) u τ') := by
  refine ex_i (by decide) rfl (Nat.le_of_ble_eq_true rfl) ?_
  intro p e s m args below meth c A ls C hr hlk hA w hl
  have hx := C.1.1
  have hb := C.1.2.1
  have hl : lv_has ls 2 [(0, .ref (a 0))] := hl
  refine lv_aload_n hx hb dX0_clean_0 rfl (lv_at hl 0 rfl) ?_
  refine gx_ru C w dX0_clean_1 ?_
  refine lv_if_ne (tgt := 9) hx hb dX0_clean_4 (by decide) (fun c_4 => ?_) (fun c_4 => ?_)
  · refine lv_iconst (v := 0) hx hb dX0_clean_9 (by decide) ?_
    refine lv_istore_n (lv' := [(1, .int 0), (0, .ref (a 0))]) hx hb dX0_clean_10 rfl hl (by decide) rfl (fun ls hl => ?_)
    refine zx_loop2 (fun (i : Nat) (u : ZS) H locs ls => xW dC dI cI cZ a A s.heap H locs u ∧ lv_has ls 2 [(0, .ref (a 0)), (1, .int (nI i))] ∧ (i ≤ 6) ∧ (Rel n u τ) ∧ (¬ z_ru u = 0)) (fun i u => 6 - i) ?_ 0 σ _ _ _ ⟨w, lv_sub hl [1, 0] rfl, Nat.zero_le _, hR, c_4⟩
    clear hl w
    rintro i u H locs ls ⟨w, hl, hi, hR2, hru⟩ ih_11
    refine lv_iload_n hx hb dX0_clean_11 rfl (lv_at hl 1 rfl) ?_
    refine lv_bipush (v := 6) hx hb dX0_clean_12 (by decide) ?_
    refine lv_icmp_ge (tgt := 54) hx hb dX0_clean_14 (by decide) (fun c_14 => ?_) (fun c_14 => ?_)
    · have hi6 : i = 6 := zi_ex (N := 6) (by decide) hi c_14
      refine lv_iconst (v := 0) hx hb dX0_clean_54 (by decide) ?_
      exact rx_i C w hr hlk (⟨τ, (mo_clean_1 (fun q => c_4 (hR.on.mpr q))).symm, hR2.mono (by omega)⟩) dX0_clean_55
    · have hlt : i < 6 := zi_in (N := 6) (by decide) hi c_14
      refine lv_iload_n hx hb dX0_clean_17 rfl (lv_at hl 1 rfl) ?_
      refine lv_aload_n hx hb dX0_clean_18 rfl (lv_at hl 0 rfl) ?_
      refine gx_ac C w dX0_clean_19 ?_
      refine lv_icmp_eq (tgt := 48) hx hb dX0_clean_22 (by decide) (fun c_22 => ?_) (fun c_22 => ?_)
      · refine lv_iinc (v := nI (i + 1)) (lv' := [(1, .int (nI (i + 1))), (0, .ref (a 0))]) hx hb dX0_clean_48 hl (k := 1) rfl (nI_1 _) (by decide) rfl (fun ls hl => ?_)
        refine lv_goto (tgt := 11) hx hb dX0_clean_51 (by decide) ?_
        exact ih_11 (i + 1) u _ _ _ (by omega) ⟨w, lv_sub hl [1, 0] rfl, by omega, (by first | exact hR2 | exact hR2.empty hru hlt c_22 c_40), hru⟩
      · refine lv_aload_n hx hb dX0_clean_25 rfl (lv_at hl 0 rfl) ?_
        refine gx_op C w dX0_clean_26 ?_
        refine lv_iload_n hx hb dX0_clean_29 rfl (lv_at hl 1 rfl) ?_
        refine lx_op C w (k := i) rfl (by omega) dX0_clean_30 ?_
        refine lv_iconst (v := -1) hx hb dX0_clean_31 (by decide) ?_
        refine lv_icmp_eq (tgt := 48) hx hb dX0_clean_32 (by decide) (fun c_32 => ?_) (fun c_32 => ?_)
        · refine lv_iinc (v := nI (i + 1)) (lv' := [(1, .int (nI (i + 1))), (0, .ref (a 0))]) hx hb dX0_clean_48 hl (k := 1) rfl (nI_1 _) (by decide) rfl (fun ls hl => ?_)
          refine lv_goto (tgt := 11) hx hb dX0_clean_51 (by decide) ?_
          exact ih_11 (i + 1) u _ _ _ (by omega) ⟨w, lv_sub hl [1, 0] rfl, by omega, (by first | exact hR2 | exact hR2.empty hru hlt c_22 c_40), hru⟩
        · refine lv_aload_n hx hb dX0_clean_35 rfl (lv_at hl 0 rfl) ?_
          refine lv_iload_n hx hb dX0_clean_36 rfl (lv_at hl 1 rfl) ?_
          refine cx_r (As := [.int (nI i)]) (rest := []) C w hA (tX_living l dC dI cI cZ a _ u (nI i)) (cwx_living C ⟨Nat.le_of_ble_eq_true rfl, Nat.le_of_ble_eq_true rfl⟩) rfl hl.1 rfl (Nat.le_of_ble_eq_true rfl) dX0_clean_37 ⟨Nat.zero_le _, Nat.zero_le _⟩ (fun r_37 H locs q_37 w => ?_)
          subst q_37
          refine lv_if_ne (tgt := 48) hx hb dX0_clean_40 (by decide) (fun c_40 => ?_) (fun c_40 => ?_)
          · refine lv_iinc (v := nI (i + 1)) (lv' := [(1, .int (nI (i + 1))), (0, .ref (a 0))]) hx hb dX0_clean_48 hl (k := 1) rfl (nI_1 _) (by decide) rfl (fun ls hl => ?_)
            refine lv_goto (tgt := 11) hx hb dX0_clean_51 (by decide) ?_
            exact ih_11 (i + 1) u _ _ _ (by omega) ⟨w, lv_sub hl [1, 0] rfl, by omega, (by first | exact hR2 | exact hR2.empty hru hlt c_22 c_40), hru⟩
          · refine lv_aload_n hx hb dX0_clean_43 rfl (lv_at hl 0 rfl) ?_
            refine lv_iload_n hx hb dX0_clean_44 rfl (lv_at hl 1 rfl) ?_
            refine cx_v (As := [.int (nI i)]) (rest := []) C w hA (tX_empty l dC dI cI cZ a _ u i hlt) (cwx_empty C ⟨Nat.le_of_ble_eq_true rfl, Nat.le_of_ble_eq_true rfl⟩) rfl hl.1 rfl (Nat.le_of_ble_eq_true rfl) dX0_clean_45 ⟨Nat.zero_le _, Nat.zero_le _⟩ (fun u_45 H locs q_45 w => ?_)
            subst q_45
            refine lv_iinc (v := nI (i + 1)) (lv' := [(1, .int (nI (i + 1))), (0, .ref (a 0))]) hx hb dX0_clean_48 hl (k := 1) rfl (nI_1 _) (by decide) rfl (fun ls hl => ?_)
            refine lv_goto (tgt := 11) hx hb dX0_clean_51 (by decide) ?_
            exact ih_11 (i + 1) (emX u i) _ _ _ (by omega) ⟨w, lv_sub hl [1, 0] rfl, by omega, (by first | exact hR2 | exact hR2.empty hru hlt c_22 c_40), hru⟩
  · refine lv_iconst (v := -1) hx hb dX0_clean_7 (by decide) ?_
    exact rx_i C w hr hlk (⟨τ, (mo_clean_0 (hR.on.mp c_4)).symm, hR.mono (by omega)⟩) dX0_clean_8

set_option maxHeartbeats 4000000 in
set_option maxRecDepth 100000 in
theorem tX_check (l : Launch) (dC : Nat → ClassId) (dI : Nat → Nat → Nat) (cI cZ : ClassId) (a : Nat → Nat) (sz : Nat) (σ : ZS) (τ : ZM) (n : Nat) (hn : n ≤ 1000000) (hR : Rel n σ τ)  : xMi l yX0_check cX0_check 4 (some .int) ({ frames := 1, cells := 0, slots := 0, locals := 22 }) dC dI cI cZ a σ sz [] (fun r u => ∃ τ', (r, τ') = mo_clean τ ∧ Rel (n + 2) u τ') := by
  refine ex_i (by decide) rfl (Nat.le_of_ble_eq_true rfl) ?_
  intro p e s m args below meth c A ls C hr hlk hA w hl
  have hx := C.1.1
  have hb := C.1.2.1
  have hl : lv_has ls 4 [(0, .ref (a 0))] := hl
  refine lv_aload_n hx hb dX0_check_0 rfl (lv_at hl 0 rfl) ?_
  refine gx_ru C w dX0_check_1 ?_
  refine lv_if_ne (tgt := 9) hx hb dX0_check_4 (by decide) (fun c_4 => ?_) (fun c_4 => ?_)
  · refine lv_iconst (v := 0) hx hb dX0_check_9 (by decide) ?_
    refine lv_istore_n (lv' := [(1, .int 0), (0, .ref (a 0))]) hx hb dX0_check_10 rfl hl (by decide) rfl (fun ls hl => ?_)
    refine lv_iconst (v := 0) hx hb dX0_check_11 (by decide) ?_
    refine lv_istore_n (lv' := [(2, .int 0), (1, .int 0), (0, .ref (a 0))]) hx hb dX0_check_12 rfl hl (by decide) rfl (fun ls hl => ?_)
    refine zx_loop1 (fun (i : Nat) H locs ls => xW dC dI cI cZ a A s.heap H locs σ ∧ lv_has ls 4 [(0, .ref (a 0)), (1, .int 0), (2, .int (nI i))] ∧ (i ≤ 16)) (fun i => 16 - i) ?_ 0 _ _ _ ⟨w, lv_sub hl [2, 1, 0] rfl, Nat.zero_le _⟩
    clear hl w
    rintro i H locs ls ⟨w, hl, hi⟩ ih_13
    refine lv_iload_n hx hb dX0_check_13 rfl (lv_at hl 2 rfl) ?_
    refine lv_bipush (v := 16) hx hb dX0_check_14 (by decide) ?_
    refine lv_icmp_ge (tgt := 79) hx hb dX0_check_16 (by decide) (fun c_16 => ?_) (fun c_16 => ?_)
    · have hi6 : i = 16 := zi_ex (N := 16) (by decide) hi c_16
      refine lv_iload_n hx hb dX0_check_79 rfl (lv_at hl 1 rfl) ?_
      exact rx_i C w hr hlk (⟨τ, (mo_clean_1 (fun q => c_4 (hR.on.mpr q))).symm, hR.mono (by omega)⟩) dX0_check_80
    · have hlt : i < 16 := zi_in (N := 16) (by decide) hi c_16
      refine lv_aload_n hx hb dX0_check_19 rfl (lv_at hl 0 rfl) ?_
      refine gx_tb C w dX0_check_20 ?_
      refine lv_iload_n hx hb dX0_check_23 rfl (lv_at hl 2 rfl) ?_
      refine lx_tb C w (k := i) rfl (by omega) dX0_check_24 ?_
      refine lv_istore_n (lv' := [(3, .int (z_tb σ i)), (0, .ref (a 0)), (1, .int 0), (2, .int (nI i))]) hx hb dX0_check_25 rfl hl (by decide) rfl (fun ls hl => ?_)
      refine lv_iload_n hx hb dX0_check_26 rfl (lv_at hl 0 rfl) ?_
      refine lv_iconst (v := -1) hx hb dX0_check_27 (by decide) ?_
      refine lv_icmp_eq (tgt := 73) hx hb dX0_check_28 (by decide) (fun c_28 => ?_) (fun c_28 => ?_)
      · refine lv_iinc (v := nI (i + 1)) (lv' := [(2, .int (nI (i + 1))), (3, .int (z_tb σ i)), (0, .ref (a 0)), (1, .int 0)]) hx hb dX0_check_73 hl (k := 3) rfl (nI_1 _) (by decide) rfl (fun ls hl => ?_)
        refine lv_goto (tgt := 13) hx hb dX0_check_76 (by decide) ?_
        exact ih_13 (i + 1) _ _ _ (by omega) ⟨w, lv_sub hl [2, 3, 0] rfl, by omega⟩
      · obtain ⟨G, O, hG, hO, hD, -⟩ := hR.ask c_4
        obtain ⟨t, et, hlv, ebt, hmk⟩ := (hD.2.2.2.2.2.1 i hlt).resolve_left c_28
        have ht : t < 72 := hlv.1
        refine lv_aload_n hx hb dX0_check_31 rfl (lv_at hl 1 rfl) ?_
        refine gx_rb C w dX0_check_32 ?_
        refine lv_iload_n hx hb dX0_check_35 rfl (lv_at hl 0 rfl) ?_
        refine lx_rb C w (k := t) et ht dX0_check_36 ?_
        refine lv_iload_n hx hb dX0_check_37 rfl (lv_at hl 3 rfl) ?_
        refine lv_icmp_ne (tgt := 70) hx hb dX0_check_38 (by decide) (fun c_38 => ?_) (fun c_38 => ?_)
        · exact absurd ebt c_38
        · refine lv_iload_n hx hb dX0_check_41 rfl (lv_at hl 0 rfl) ?_
          refine zt_i (y := nI t) et ?_
          refine lv_bipush (v := 12) hx hb dX0_check_42 (by decide) ?_
          refine lv_irem hx hb dX0_check_44 (by decide) ?_
          refine zt_i (y := nI (t % 12)) (zi_rem (by omega)) ?_
          refine lv_aload_n hx hb dX0_check_45 rfl (lv_at hl 1 rfl) ?_
          refine gx_fi C w dX0_check_46 ?_
          refine lv_iload_n hx hb dX0_check_49 rfl (lv_at hl 0 rfl) ?_
          refine zt_i (y := nI t) et ?_
          refine lv_bipush (v := 12) hx hb dX0_check_50 (by decide) ?_
          refine lv_idiv hx hb dX0_check_52 (by decide) ?_
          refine zt_i (y := nI (t / 12)) (zi_div (by omega)) ?_
          refine lx_fi C w (k := (t / 12)) rfl (by omega) dX0_check_53 ?_
          refine lv_icmp_ge (tgt := 70) hx hb dX0_check_54 (by decide) (fun c_54 => ?_) (fun c_54 => ?_)
          · exact absurd hlv.2 (zi_nlt c_54)
          · refine lv_aload_n hx hb dX0_check_57 rfl (lv_at hl 1 rfl) ?_
            refine lv_aload_n hx hb dX0_check_58 rfl (lv_at hl 1 rfl) ?_
            refine gx_rg C w dX0_check_59 ?_
            refine lv_iload_n hx hb dX0_check_62 rfl (lv_at hl 0 rfl) ?_
            refine lx_rg C w (k := t) et ht dX0_check_63 ?_
            refine cx_r (As := [.int (z_rg σ t)]) (rest := []) C w hA (tX_counts l dC dI cI cZ a _ σ (z_rg σ t)) (cwx_counts C ⟨Nat.le_of_ble_eq_true rfl, Nat.le_of_ble_eq_true rfl⟩) rfl hl.1 rfl (Nat.le_of_ble_eq_true rfl) dX0_check_64 ⟨Nat.zero_le _, Nat.zero_le _⟩ (fun r_64 H locs q_64 w => ?_)
            refine lv_if_ne (tgt := 73) hx hb dX0_check_67 (by decide) (fun c_67 => ?_) (fun c_67 => ?_)
            · refine lv_iinc (v := nI (i + 1)) (lv' := [(2, .int (nI (i + 1))), (3, .int (z_tb σ i)), (0, .ref (a 0)), (1, .int 0)]) hx hb dX0_check_73 hl (k := 3) rfl (nI_1 _) (by decide) rfl (fun ls hl => ?_)
              refine lv_goto (tgt := 13) hx hb dX0_check_76 (by decide) ?_
              exact ih_13 (i + 1) _ _ _ (by omega) ⟨w, lv_sub hl [2, 3, 0] rfl, by omega⟩
            · exact absurd hmk (q_64.resolve_left (fun y => absurd (y.1.symm.trans c_67) (by decide))).2
  · refine lv_iconst (v := -1) hx hb dX0_check_7 (by decide) ?_
    exact rx_i C w hr hlk (⟨τ, (mo_clean_0 (hR.on.mp c_4)).symm, hR.mono (by omega)⟩) dX0_check_8
end
section
/-! the constructors -/
def zS0 : ZS := (fun _ => 0, fun _ => 0, fun _ => 0, fun _ => 0, fun _ => 0, fun _ => 0, fun _ => 0, fun _ => 0, 0, 0, 0, 0, 0)
def zX0 : ZS := s_ac (s_tb (s_op (s_ru zS0 1) (ctn 6 (fun _ => -1) (z_op zS0))) (ctn 16 (fun _ => -1) (z_tb zS0))) (-1)
def zM0 : ZM := (1, 0, fun _ => 0, fun _ => 0, fun _ => 0)
def zaX (h0 h1 h2 h3 h4 h5 h6 h7 h8 : Nat) : Nat → Nat := fun k => match k with
  | 0 => h0 | 1 => h1 | 2 => h2 | 3 => h3 | 4 => h4 | 5 => h5 | 6 => h6 | 7 => h7 | _ => h8
def zaM (h0 h1 h2 h3 : Nat) : Nat → Nat := fun k => match k with
  | 0 => h0 | 1 => h1 | 2 => h2 | _ => h3
theorem zk_int {dC : Nat → ClassId} {dI : Nat → Nat → Nat} {tys : List (ClassId × FieldType)} {s : State} (hK : va_K (dC, dI) vwCl tys s) (i j : Nat) {c d : ClassId} (h1 : tys[i]? = some (c, .int)) (h2 : tys[j]? = some (d, .int)) : c = d := by
  have e1 := va_nm_int (hK.2 i _ h1).2
  have e2 := va_nm_int (hK.2 j _ h2).2
  rw [e1] at e2
  exact Option.some.inj e2
theorem zk_bool {dC : Nat → ClassId} {dI : Nat → Nat → Nat} {tys : List (ClassId × FieldType)} {s : State} (hK : va_K (dC, dI) vwCl tys s) (i j : Nat) {c d : ClassId} (h1 : tys[i]? = some (c, .boolean)) (h2 : tys[j]? = some (d, .boolean)) : c = d := by
  have e1 := va_nm_boolean (hK.2 i _ h1).2
  have e2 := va_nm_boolean (hK.2 j _ h2).2
  rw [e1] at e2
  exact Option.some.inj e2
/-- the first agreement -/
theorem Rel_0 : Rel 0 zX0 zM0 := by
  have htb : ∀ b, b < 16 → z_tb zX0 b = -1 := fun b hb => ctn_in (f := fun _ => -1) (g := z_tb zS0) hb
  have hop : ∀ z, z < 6 → z_op zX0 z = -1 := fun z hz => ctn_in (f := fun _ => -1) (g := z_op zS0) hz
  have hl : ∀ t, ¬ lve (z_fi zX0) t := fun t h => absurd h.2 (by show ¬ nI (t % 12) < 0; exact nI_pos (by omega))
  refine Run.rel ⟨0, 0, Nat.le_refl _, Nat.le_refl _, ⟨rfl, fun z hz => ⟨0, by omega, rfl⟩, fun z hz _ => rfl, fun t h => absurd h (hl t), fun t _ h => absurd h (hl t), fun b hb => Or.inl (htb b hb), fun b t _ h => absurd h (hl t)⟩, ⟨0, by omega, hop 0 (by omega)⟩, rfl, Or.inl rfl, by show ¬ (1 : Int32) = 0; decide, by show ¬ (1 : Int32) = 0; decide, Iff.rfl, fun b hb => Iff.rfl, ?_, fun b hb => ?_, fun b hb => ?_⟩
  · rw [cb_dg0 (f := z_di zX0) (fun b hb => rfl)]
    omega
  · rw [htb b hb]
    rfl
  · rw [cu_f rfl, htb b hb]
    rfl
set_option maxHeartbeats 4000000 in
set_option maxRecDepth 100000 in
theorem tX_init (l : Launch) (dC : Nat → ClassId) (dI : Nat → Nat → Nat) (h0 sz : Nat) : Met l yX0_init (ws_ yX0_init cX0_init 2 none) ({ frames := 1, cells := 8, slots := 276, locals := 12 }) (va_Pc [.ref h0] (fun U => U.heap.size = sz ∧ va_P (dC, dI) vwCl [(h0, .inr (0, [.null, .null, .null, .null, .null, .null, .null, .null, .int 0, .int 0, .int 0, .int 0, .int 0]))] U.heap ∧ va_K (dC, dI) vwCl [] U ∧ va_D (fun _ => True) [(h0, .inr (0, [.null, .null, .null, .null, .null, .null, .null, .null, .int 0, .int 0, .int 0, .int 0, .int 0]))])) (va_Qv (fun u : ZS => u = zX0) (fun u t => ∃ (cI cZ : ClassId) (a : Nat → Nat), a 0 = h0 ∧ va_P (dC, dI) vwCl (wX cI cZ a u) t.heap ∧ va_K (dC, dI) vwCl (zTy cI cZ) t ∧ va_D (va_A [(h0, .inr (0, [.null, .null, .null, .null, .null, .null, .null, .null, .int 0, .int 0, .int 0, .int 0, .int 0]))] sz) (wX cI cZ a u)) (va_A [(h0, .inr (0, [.null, .null, .null, .null, .null, .null, .null, .null, .int 0, .int 0, .int 0, .int 0, .int 0]))] sz)) 8 276 (va_A [(h0, .inr (0, [.null, .null, .null, .null, .null, .null, .null, .null, .int 0, .int 0, .int 0, .int 0, .int 0]))] sz) := by
  refine Met.ofW (cc := cX0_init) (maxL := 2) (ret := none) (by decide) rfl ?_
  intro p e s m args below meth c s₁ B hml hv
  obtain ⟨rfl, hsz, hP, hK, hD0⟩ := hv
  have hx := B.exec
  have hb := B.bytes
  have hr := B.returns
  have hts := atoms_spec (ws := ws_ yX0_init cX0_init 2 none) B.pre
  have hts : ∀ w ∈ lw_all, w.before _ s = true := fun w h => hts w (List.mem_cons_of_mem _ h)
  have hown : s.vm.findClass RX0 = some m.cls := findClass_of_methodNamed B.named
  have hlk := B.notSynchronized
  have hin : meth.name = "<init>" := (name_of_methodNamed B.named B.method).1
  subst hsz
  have hD := hD0.self (sz := s.heap.size)
  generalize hAe : va_A [(h0, .inr (0, [.null, .null, .null, .null, .null, .null, .null, .null, .int 0, .int 0, .int 0, .int 0, .int 0]))] s.heap.size = A at hD ⊢
  have hA : ∀ q : Nat, s.heap.size ≤ q → A q := fun q h => by rw [← hAe]; exact Or.inr h
  have hS : va_S A s.heap s.heap [] := va_S.rf
  have hl := lv_entry ([.ref h0]) (n := 2) (Nat.le_of_ble_eq_true rfl)
  rw [lg_entry_eq]
  generalize (lg_sl ([.ref h0]) ++ List.replicate (2 - (lg_sl ([.ref h0])).length) Slot.unset).toArray = ls at hl ⊢
  have hl : lv_has ls 2 [(0, .ref h0)] := hl
  refine lv_aload_n hx hb dX0_init_0 rfl (lv_at hl 0 rfl) ?_
  refine W.objInit hx hb hown (hts _ q28) (hts _ q29) (hts _ q30) rfl (by rw [hml]; exact hl.1) rfl dX0_init_1 (Nat.le_of_ble_eq_true rfl) (Nat.le_of_ble_eq_true rfl) ?_
  refine W.eq (g2 := F0 m 4 ls []) rfl ?_
  refine lv_aload_n hx hb dX0_init_4 rfl (lv_at hl 0 rfl) ?_
  refine lv_bipush (v := 72) hx hb dX0_init_5 (by decide) ?_
  refine va_newa (atype := .int) (a0 := (72, .inl (fun _ => 0))) (N' := 72) hx hb (hts _ q71) (ty := .int) rfl hK hP hD hS hA (fun _ => rfl) (by decide) (by decide) (by decide) (Nat.le_of_ble_eq_true rfl) (Nat.le_of_ble_eq_true rfl) dX0_init_7 (fun h1 e1 H hK hP hD hS => ?_)
  have hK : va_K (dC, dI) vwCl [(e1, .int)] s := hK
  have hP : va_P (dC, dI) vwCl [(h0, .inr (0, [.null, .null, .null, .null, .null, .null, .null, .null, .int 0, .int 0, .int 0, .int 0, .int 0])), (h1, .inl (e1, 72, .inl (fun _ => 0)))] H := hP
  have hD : va_D A [(h0, .inr (0, [.null, .null, .null, .null, .null, .null, .null, .null, .int 0, .int 0, .int 0, .int 0, .int 0])), (h1, .inl (e1, 72, .inl (fun _ => 0)))] := hD
  refine va_putF (D := (dC, dI)) (ci := 0) (v := .ref h1) (ty := .array .int) (C := RX0) (T := TX0) (N := 13) hx hb hts in_X0 tyX0 tyX0_ok nmX0 hown hK hP hD hS 0 rfl rfl 0 (by decide) (hts _ q31) (fun _ h9 => h9) rfl hin rfl (by decide +kernel) rfl rfl (Nat.le_of_ble_eq_true rfl) dX0_init_9 (fun H locs hP hD hS => ?_)
  have hP : va_P (dC, dI) vwCl [(h0, .inr (0, [.ref h1, .null, .null, .null, .null, .null, .null, .null, .int 0, .int 0, .int 0, .int 0, .int 0])), (h1, .inl (e1, 72, .inl (fun _ => 0)))] H := hP
  have hD : va_D A [(h0, .inr (0, [.ref h1, .null, .null, .null, .null, .null, .null, .null, .int 0, .int 0, .int 0, .int 0, .int 0])), (h1, .inl (e1, 72, .inl (fun _ => 0)))] := hD
  refine W.widen (k := 1) (n := 72) (Nat.le_of_ble_eq_true rfl) (Nat.le_of_ble_eq_true rfl) ?_
  refine lv_aload_n hx hb dX0_init_12 rfl (lv_at hl 0 rfl) ?_
  refine lv_bipush (v := 72) hx hb dX0_init_13 (by decide) ?_
  refine va_newa (atype := .int) (a0 := (72, .inl (fun _ => 0))) (N' := 72) hx hb (hts _ q71) (ty := .int) rfl hK hP hD hS hA (fun _ => rfl) (by decide) (by decide) (by decide) (Nat.le_of_ble_eq_true rfl) (Nat.le_of_ble_eq_true rfl) dX0_init_15 (fun h2 e2 H hK hP hD hS => ?_)
  have hK : va_K (dC, dI) vwCl [(e1, .int), (e2, .int)] s := hK
  have eq2 := zk_int hK 0 1 rfl rfl
  subst eq2
  have hK : va_K (dC, dI) vwCl [(e1, .int)] s := hK.sub [0] rfl
  have hP : va_P (dC, dI) vwCl [(h0, .inr (0, [.ref h1, .null, .null, .null, .null, .null, .null, .null, .int 0, .int 0, .int 0, .int 0, .int 0])), (h1, .inl (e1, 72, .inl (fun _ => 0))), (h2, .inl (e1, 72, .inl (fun _ => 0)))] H := hP
  have hD : va_D A [(h0, .inr (0, [.ref h1, .null, .null, .null, .null, .null, .null, .null, .int 0, .int 0, .int 0, .int 0, .int 0])), (h1, .inl (e1, 72, .inl (fun _ => 0))), (h2, .inl (e1, 72, .inl (fun _ => 0)))] := hD
  refine va_putF (D := (dC, dI)) (ci := 0) (v := .ref h2) (ty := .array .int) (C := RX0) (T := TX0) (N := 13) hx hb hts in_X0 tyX0 tyX0_ok nmX0 hown hK hP hD hS 0 rfl rfl 1 (by decide) (hts _ q32) (fun _ h9 => h9) rfl hin rfl (by decide +kernel) rfl rfl (Nat.le_of_ble_eq_true rfl) dX0_init_17 (fun H locs hP hD hS => ?_)
  have hP : va_P (dC, dI) vwCl [(h0, .inr (0, [.ref h1, .ref h2, .null, .null, .null, .null, .null, .null, .int 0, .int 0, .int 0, .int 0, .int 0])), (h1, .inl (e1, 72, .inl (fun _ => 0))), (h2, .inl (e1, 72, .inl (fun _ => 0)))] H := hP
  have hD : va_D A [(h0, .inr (0, [.ref h1, .ref h2, .null, .null, .null, .null, .null, .null, .int 0, .int 0, .int 0, .int 0, .int 0])), (h1, .inl (e1, 72, .inl (fun _ => 0))), (h2, .inl (e1, 72, .inl (fun _ => 0)))] := hD
  refine W.widen (k := 2) (n := 144) (Nat.le_of_ble_eq_true rfl) (Nat.le_of_ble_eq_true rfl) ?_
  refine lv_aload_n hx hb dX0_init_20 rfl (lv_at hl 0 rfl) ?_
  refine lv_bipush (v := 72) hx hb dX0_init_21 (by decide) ?_
  refine va_newa (atype := .int) (a0 := (72, .inl (fun _ => 0))) (N' := 72) hx hb (hts _ q71) (ty := .int) rfl hK hP hD hS hA (fun _ => rfl) (by decide) (by decide) (by decide) (Nat.le_of_ble_eq_true rfl) (Nat.le_of_ble_eq_true rfl) dX0_init_23 (fun h3 e3 H hK hP hD hS => ?_)
  have hK : va_K (dC, dI) vwCl [(e1, .int), (e3, .int)] s := hK
  have eq3 := zk_int hK 0 1 rfl rfl
  subst eq3
  have hK : va_K (dC, dI) vwCl [(e1, .int)] s := hK.sub [0] rfl
  have hP : va_P (dC, dI) vwCl [(h0, .inr (0, [.ref h1, .ref h2, .null, .null, .null, .null, .null, .null, .int 0, .int 0, .int 0, .int 0, .int 0])), (h1, .inl (e1, 72, .inl (fun _ => 0))), (h2, .inl (e1, 72, .inl (fun _ => 0))), (h3, .inl (e1, 72, .inl (fun _ => 0)))] H := hP
  have hD : va_D A [(h0, .inr (0, [.ref h1, .ref h2, .null, .null, .null, .null, .null, .null, .int 0, .int 0, .int 0, .int 0, .int 0])), (h1, .inl (e1, 72, .inl (fun _ => 0))), (h2, .inl (e1, 72, .inl (fun _ => 0))), (h3, .inl (e1, 72, .inl (fun _ => 0)))] := hD
  refine va_putF (D := (dC, dI)) (ci := 0) (v := .ref h3) (ty := .array .int) (C := RX0) (T := TX0) (N := 13) hx hb hts in_X0 tyX0 tyX0_ok nmX0 hown hK hP hD hS 0 rfl rfl 2 (by decide) (hts _ q33) (fun _ h9 => h9) rfl hin rfl (by decide +kernel) rfl rfl (Nat.le_of_ble_eq_true rfl) dX0_init_25 (fun H locs hP hD hS => ?_)
  have hP : va_P (dC, dI) vwCl [(h0, .inr (0, [.ref h1, .ref h2, .ref h3, .null, .null, .null, .null, .null, .int 0, .int 0, .int 0, .int 0, .int 0])), (h1, .inl (e1, 72, .inl (fun _ => 0))), (h2, .inl (e1, 72, .inl (fun _ => 0))), (h3, .inl (e1, 72, .inl (fun _ => 0)))] H := hP
  have hD : va_D A [(h0, .inr (0, [.ref h1, .ref h2, .ref h3, .null, .null, .null, .null, .null, .int 0, .int 0, .int 0, .int 0, .int 0])), (h1, .inl (e1, 72, .inl (fun _ => 0))), (h2, .inl (e1, 72, .inl (fun _ => 0))), (h3, .inl (e1, 72, .inl (fun _ => 0)))] := hD
  refine W.widen (k := 3) (n := 216) (Nat.le_of_ble_eq_true rfl) (Nat.le_of_ble_eq_true rfl) ?_
  refine lv_aload_n hx hb dX0_init_28 rfl (lv_at hl 0 rfl) ?_
  refine lv_bipush (v := 6) hx hb dX0_init_29 (by decide) ?_
  refine va_newa (atype := .int) (a0 := (6, .inl (fun _ => 0))) (N' := 6) hx hb (hts _ q71) (ty := .int) rfl hK hP hD hS hA (fun _ => rfl) (by decide) (by decide) (by decide) (Nat.le_of_ble_eq_true rfl) (Nat.le_of_ble_eq_true rfl) dX0_init_31 (fun h4 e4 H hK hP hD hS => ?_)
  have hK : va_K (dC, dI) vwCl [(e1, .int), (e4, .int)] s := hK
  have eq4 := zk_int hK 0 1 rfl rfl
  subst eq4
  have hK : va_K (dC, dI) vwCl [(e1, .int)] s := hK.sub [0] rfl
  have hP : va_P (dC, dI) vwCl [(h0, .inr (0, [.ref h1, .ref h2, .ref h3, .null, .null, .null, .null, .null, .int 0, .int 0, .int 0, .int 0, .int 0])), (h1, .inl (e1, 72, .inl (fun _ => 0))), (h2, .inl (e1, 72, .inl (fun _ => 0))), (h3, .inl (e1, 72, .inl (fun _ => 0))), (h4, .inl (e1, 6, .inl (fun _ => 0)))] H := hP
  have hD : va_D A [(h0, .inr (0, [.ref h1, .ref h2, .ref h3, .null, .null, .null, .null, .null, .int 0, .int 0, .int 0, .int 0, .int 0])), (h1, .inl (e1, 72, .inl (fun _ => 0))), (h2, .inl (e1, 72, .inl (fun _ => 0))), (h3, .inl (e1, 72, .inl (fun _ => 0))), (h4, .inl (e1, 6, .inl (fun _ => 0)))] := hD
  refine va_putF (D := (dC, dI)) (ci := 0) (v := .ref h4) (ty := .array .int) (C := RX0) (T := TX0) (N := 13) hx hb hts in_X0 tyX0 tyX0_ok nmX0 hown hK hP hD hS 0 rfl rfl 3 (by decide) (hts _ q34) (fun _ h9 => h9) rfl hin rfl (by decide +kernel) rfl rfl (Nat.le_of_ble_eq_true rfl) dX0_init_33 (fun H locs hP hD hS => ?_)
  have hP : va_P (dC, dI) vwCl [(h0, .inr (0, [.ref h1, .ref h2, .ref h3, .ref h4, .null, .null, .null, .null, .int 0, .int 0, .int 0, .int 0, .int 0])), (h1, .inl (e1, 72, .inl (fun _ => 0))), (h2, .inl (e1, 72, .inl (fun _ => 0))), (h3, .inl (e1, 72, .inl (fun _ => 0))), (h4, .inl (e1, 6, .inl (fun _ => 0)))] H := hP
  have hD : va_D A [(h0, .inr (0, [.ref h1, .ref h2, .ref h3, .ref h4, .null, .null, .null, .null, .int 0, .int 0, .int 0, .int 0, .int 0])), (h1, .inl (e1, 72, .inl (fun _ => 0))), (h2, .inl (e1, 72, .inl (fun _ => 0))), (h3, .inl (e1, 72, .inl (fun _ => 0))), (h4, .inl (e1, 6, .inl (fun _ => 0)))] := hD
  refine W.widen (k := 4) (n := 222) (Nat.le_of_ble_eq_true rfl) (Nat.le_of_ble_eq_true rfl) ?_
  refine lv_aload_n hx hb dX0_init_36 rfl (lv_at hl 0 rfl) ?_
  refine lv_bipush (v := 6) hx hb dX0_init_37 (by decide) ?_
  refine va_newa (atype := .int) (a0 := (6, .inl (fun _ => 0))) (N' := 6) hx hb (hts _ q71) (ty := .int) rfl hK hP hD hS hA (fun _ => rfl) (by decide) (by decide) (by decide) (Nat.le_of_ble_eq_true rfl) (Nat.le_of_ble_eq_true rfl) dX0_init_39 (fun h5 e5 H hK hP hD hS => ?_)
  have hK : va_K (dC, dI) vwCl [(e1, .int), (e5, .int)] s := hK
  have eq5 := zk_int hK 0 1 rfl rfl
  subst eq5
  have hK : va_K (dC, dI) vwCl [(e1, .int)] s := hK.sub [0] rfl
  have hP : va_P (dC, dI) vwCl [(h0, .inr (0, [.ref h1, .ref h2, .ref h3, .ref h4, .null, .null, .null, .null, .int 0, .int 0, .int 0, .int 0, .int 0])), (h1, .inl (e1, 72, .inl (fun _ => 0))), (h2, .inl (e1, 72, .inl (fun _ => 0))), (h3, .inl (e1, 72, .inl (fun _ => 0))), (h4, .inl (e1, 6, .inl (fun _ => 0))), (h5, .inl (e1, 6, .inl (fun _ => 0)))] H := hP
  have hD : va_D A [(h0, .inr (0, [.ref h1, .ref h2, .ref h3, .ref h4, .null, .null, .null, .null, .int 0, .int 0, .int 0, .int 0, .int 0])), (h1, .inl (e1, 72, .inl (fun _ => 0))), (h2, .inl (e1, 72, .inl (fun _ => 0))), (h3, .inl (e1, 72, .inl (fun _ => 0))), (h4, .inl (e1, 6, .inl (fun _ => 0))), (h5, .inl (e1, 6, .inl (fun _ => 0)))] := hD
  refine va_putF (D := (dC, dI)) (ci := 0) (v := .ref h5) (ty := .array .int) (C := RX0) (T := TX0) (N := 13) hx hb hts in_X0 tyX0 tyX0_ok nmX0 hown hK hP hD hS 0 rfl rfl 4 (by decide) (hts _ q35) (fun _ h9 => h9) rfl hin rfl (by decide +kernel) rfl rfl (Nat.le_of_ble_eq_true rfl) dX0_init_41 (fun H locs hP hD hS => ?_)
  have hP : va_P (dC, dI) vwCl [(h0, .inr (0, [.ref h1, .ref h2, .ref h3, .ref h4, .ref h5, .null, .null, .null, .int 0, .int 0, .int 0, .int 0, .int 0])), (h1, .inl (e1, 72, .inl (fun _ => 0))), (h2, .inl (e1, 72, .inl (fun _ => 0))), (h3, .inl (e1, 72, .inl (fun _ => 0))), (h4, .inl (e1, 6, .inl (fun _ => 0))), (h5, .inl (e1, 6, .inl (fun _ => 0)))] H := hP
  have hD : va_D A [(h0, .inr (0, [.ref h1, .ref h2, .ref h3, .ref h4, .ref h5, .null, .null, .null, .int 0, .int 0, .int 0, .int 0, .int 0])), (h1, .inl (e1, 72, .inl (fun _ => 0))), (h2, .inl (e1, 72, .inl (fun _ => 0))), (h3, .inl (e1, 72, .inl (fun _ => 0))), (h4, .inl (e1, 6, .inl (fun _ => 0))), (h5, .inl (e1, 6, .inl (fun _ => 0)))] := hD
  refine W.widen (k := 5) (n := 228) (Nat.le_of_ble_eq_true rfl) (Nat.le_of_ble_eq_true rfl) ?_
  refine lv_aload_n hx hb dX0_init_44 rfl (lv_at hl 0 rfl) ?_
  refine lv_bipush (v := 16) hx hb dX0_init_45 (by decide) ?_
  refine va_newa (atype := .int) (a0 := (16, .inl (fun _ => 0))) (N' := 16) hx hb (hts _ q71) (ty := .int) rfl hK hP hD hS hA (fun _ => rfl) (by decide) (by decide) (by decide) (Nat.le_of_ble_eq_true rfl) (Nat.le_of_ble_eq_true rfl) dX0_init_47 (fun h6 e6 H hK hP hD hS => ?_)
  have hK : va_K (dC, dI) vwCl [(e1, .int), (e6, .int)] s := hK
  have eq6 := zk_int hK 0 1 rfl rfl
  subst eq6
  have hK : va_K (dC, dI) vwCl [(e1, .int)] s := hK.sub [0] rfl
  have hP : va_P (dC, dI) vwCl [(h0, .inr (0, [.ref h1, .ref h2, .ref h3, .ref h4, .ref h5, .null, .null, .null, .int 0, .int 0, .int 0, .int 0, .int 0])), (h1, .inl (e1, 72, .inl (fun _ => 0))), (h2, .inl (e1, 72, .inl (fun _ => 0))), (h3, .inl (e1, 72, .inl (fun _ => 0))), (h4, .inl (e1, 6, .inl (fun _ => 0))), (h5, .inl (e1, 6, .inl (fun _ => 0))), (h6, .inl (e1, 16, .inl (fun _ => 0)))] H := hP
  have hD : va_D A [(h0, .inr (0, [.ref h1, .ref h2, .ref h3, .ref h4, .ref h5, .null, .null, .null, .int 0, .int 0, .int 0, .int 0, .int 0])), (h1, .inl (e1, 72, .inl (fun _ => 0))), (h2, .inl (e1, 72, .inl (fun _ => 0))), (h3, .inl (e1, 72, .inl (fun _ => 0))), (h4, .inl (e1, 6, .inl (fun _ => 0))), (h5, .inl (e1, 6, .inl (fun _ => 0))), (h6, .inl (e1, 16, .inl (fun _ => 0)))] := hD
  refine va_putF (D := (dC, dI)) (ci := 0) (v := .ref h6) (ty := .array .int) (C := RX0) (T := TX0) (N := 13) hx hb hts in_X0 tyX0 tyX0_ok nmX0 hown hK hP hD hS 0 rfl rfl 5 (by decide) (hts _ q36) (fun _ h9 => h9) rfl hin rfl (by decide +kernel) rfl rfl (Nat.le_of_ble_eq_true rfl) dX0_init_49 (fun H locs hP hD hS => ?_)
  have hP : va_P (dC, dI) vwCl [(h0, .inr (0, [.ref h1, .ref h2, .ref h3, .ref h4, .ref h5, .ref h6, .null, .null, .int 0, .int 0, .int 0, .int 0, .int 0])), (h1, .inl (e1, 72, .inl (fun _ => 0))), (h2, .inl (e1, 72, .inl (fun _ => 0))), (h3, .inl (e1, 72, .inl (fun _ => 0))), (h4, .inl (e1, 6, .inl (fun _ => 0))), (h5, .inl (e1, 6, .inl (fun _ => 0))), (h6, .inl (e1, 16, .inl (fun _ => 0)))] H := hP
  have hD : va_D A [(h0, .inr (0, [.ref h1, .ref h2, .ref h3, .ref h4, .ref h5, .ref h6, .null, .null, .int 0, .int 0, .int 0, .int 0, .int 0])), (h1, .inl (e1, 72, .inl (fun _ => 0))), (h2, .inl (e1, 72, .inl (fun _ => 0))), (h3, .inl (e1, 72, .inl (fun _ => 0))), (h4, .inl (e1, 6, .inl (fun _ => 0))), (h5, .inl (e1, 6, .inl (fun _ => 0))), (h6, .inl (e1, 16, .inl (fun _ => 0)))] := hD
  refine W.widen (k := 6) (n := 244) (Nat.le_of_ble_eq_true rfl) (Nat.le_of_ble_eq_true rfl) ?_
  refine lv_aload_n hx hb dX0_init_52 rfl (lv_at hl 0 rfl) ?_
  refine lv_bipush (v := 16) hx hb dX0_init_53 (by decide) ?_
  refine va_newa (atype := .int) (a0 := (16, .inl (fun _ => 0))) (N' := 16) hx hb (hts _ q71) (ty := .int) rfl hK hP hD hS hA (fun _ => rfl) (by decide) (by decide) (by decide) (Nat.le_of_ble_eq_true rfl) (Nat.le_of_ble_eq_true rfl) dX0_init_55 (fun h7 e7 H hK hP hD hS => ?_)
  have hK : va_K (dC, dI) vwCl [(e1, .int), (e7, .int)] s := hK
  have eq7 := zk_int hK 0 1 rfl rfl
  subst eq7
  have hK : va_K (dC, dI) vwCl [(e1, .int)] s := hK.sub [0] rfl
  have hP : va_P (dC, dI) vwCl [(h0, .inr (0, [.ref h1, .ref h2, .ref h3, .ref h4, .ref h5, .ref h6, .null, .null, .int 0, .int 0, .int 0, .int 0, .int 0])), (h1, .inl (e1, 72, .inl (fun _ => 0))), (h2, .inl (e1, 72, .inl (fun _ => 0))), (h3, .inl (e1, 72, .inl (fun _ => 0))), (h4, .inl (e1, 6, .inl (fun _ => 0))), (h5, .inl (e1, 6, .inl (fun _ => 0))), (h6, .inl (e1, 16, .inl (fun _ => 0))), (h7, .inl (e1, 16, .inl (fun _ => 0)))] H := hP
  have hD : va_D A [(h0, .inr (0, [.ref h1, .ref h2, .ref h3, .ref h4, .ref h5, .ref h6, .null, .null, .int 0, .int 0, .int 0, .int 0, .int 0])), (h1, .inl (e1, 72, .inl (fun _ => 0))), (h2, .inl (e1, 72, .inl (fun _ => 0))), (h3, .inl (e1, 72, .inl (fun _ => 0))), (h4, .inl (e1, 6, .inl (fun _ => 0))), (h5, .inl (e1, 6, .inl (fun _ => 0))), (h6, .inl (e1, 16, .inl (fun _ => 0))), (h7, .inl (e1, 16, .inl (fun _ => 0)))] := hD
  refine va_putF (D := (dC, dI)) (ci := 0) (v := .ref h7) (ty := .array .int) (C := RX0) (T := TX0) (N := 13) hx hb hts in_X0 tyX0 tyX0_ok nmX0 hown hK hP hD hS 0 rfl rfl 6 (by decide) (hts _ q37) (fun _ h9 => h9) rfl hin rfl (by decide +kernel) rfl rfl (Nat.le_of_ble_eq_true rfl) dX0_init_57 (fun H locs hP hD hS => ?_)
  have hP : va_P (dC, dI) vwCl [(h0, .inr (0, [.ref h1, .ref h2, .ref h3, .ref h4, .ref h5, .ref h6, .ref h7, .null, .int 0, .int 0, .int 0, .int 0, .int 0])), (h1, .inl (e1, 72, .inl (fun _ => 0))), (h2, .inl (e1, 72, .inl (fun _ => 0))), (h3, .inl (e1, 72, .inl (fun _ => 0))), (h4, .inl (e1, 6, .inl (fun _ => 0))), (h5, .inl (e1, 6, .inl (fun _ => 0))), (h6, .inl (e1, 16, .inl (fun _ => 0))), (h7, .inl (e1, 16, .inl (fun _ => 0)))] H := hP
  have hD : va_D A [(h0, .inr (0, [.ref h1, .ref h2, .ref h3, .ref h4, .ref h5, .ref h6, .ref h7, .null, .int 0, .int 0, .int 0, .int 0, .int 0])), (h1, .inl (e1, 72, .inl (fun _ => 0))), (h2, .inl (e1, 72, .inl (fun _ => 0))), (h3, .inl (e1, 72, .inl (fun _ => 0))), (h4, .inl (e1, 6, .inl (fun _ => 0))), (h5, .inl (e1, 6, .inl (fun _ => 0))), (h6, .inl (e1, 16, .inl (fun _ => 0))), (h7, .inl (e1, 16, .inl (fun _ => 0)))] := hD
  refine W.widen (k := 7) (n := 260) (Nat.le_of_ble_eq_true rfl) (Nat.le_of_ble_eq_true rfl) ?_
  refine lv_aload_n hx hb dX0_init_60 rfl (lv_at hl 0 rfl) ?_
  refine lv_bipush (v := 16) hx hb dX0_init_61 (by decide) ?_
  refine va_newa (atype := .boolean) (a0 := (16, .inl (fun _ => 0))) (N' := 16) hx hb (hts _ q72) (ty := .boolean) rfl hK hP hD hS hA (fun _ => rfl) (by decide) (by decide) (by decide) (Nat.le_of_ble_eq_true rfl) (Nat.le_of_ble_eq_true rfl) dX0_init_63 (fun h8 e8 H hK hP hD hS => ?_)
  have hK : va_K (dC, dI) vwCl [(e1, .int), (e8, .boolean)] s := hK
  have hP : va_P (dC, dI) vwCl [(h0, .inr (0, [.ref h1, .ref h2, .ref h3, .ref h4, .ref h5, .ref h6, .ref h7, .null, .int 0, .int 0, .int 0, .int 0, .int 0])), (h1, .inl (e1, 72, .inl (fun _ => 0))), (h2, .inl (e1, 72, .inl (fun _ => 0))), (h3, .inl (e1, 72, .inl (fun _ => 0))), (h4, .inl (e1, 6, .inl (fun _ => 0))), (h5, .inl (e1, 6, .inl (fun _ => 0))), (h6, .inl (e1, 16, .inl (fun _ => 0))), (h7, .inl (e1, 16, .inl (fun _ => 0))), (h8, .inl (e8, 16, .inl (fun _ => 0)))] H := hP
  have hD : va_D A [(h0, .inr (0, [.ref h1, .ref h2, .ref h3, .ref h4, .ref h5, .ref h6, .ref h7, .null, .int 0, .int 0, .int 0, .int 0, .int 0])), (h1, .inl (e1, 72, .inl (fun _ => 0))), (h2, .inl (e1, 72, .inl (fun _ => 0))), (h3, .inl (e1, 72, .inl (fun _ => 0))), (h4, .inl (e1, 6, .inl (fun _ => 0))), (h5, .inl (e1, 6, .inl (fun _ => 0))), (h6, .inl (e1, 16, .inl (fun _ => 0))), (h7, .inl (e1, 16, .inl (fun _ => 0))), (h8, .inl (e8, 16, .inl (fun _ => 0)))] := hD
  refine va_putF (D := (dC, dI)) (ci := 0) (v := .ref h8) (ty := .array .boolean) (C := RX0) (T := TX0) (N := 13) hx hb hts in_X0 tyX0 tyX0_ok nmX0 hown hK hP hD hS 0 rfl rfl 7 (by decide) (hts _ q38) (fun _ h9 => h9) rfl hin rfl (by decide +kernel) rfl rfl (Nat.le_of_ble_eq_true rfl) dX0_init_65 (fun H locs hP hD hS => ?_)
  have hP : va_P (dC, dI) vwCl [(h0, .inr (0, [.ref h1, .ref h2, .ref h3, .ref h4, .ref h5, .ref h6, .ref h7, .ref h8, .int 0, .int 0, .int 0, .int 0, .int 0])), (h1, .inl (e1, 72, .inl (fun _ => 0))), (h2, .inl (e1, 72, .inl (fun _ => 0))), (h3, .inl (e1, 72, .inl (fun _ => 0))), (h4, .inl (e1, 6, .inl (fun _ => 0))), (h5, .inl (e1, 6, .inl (fun _ => 0))), (h6, .inl (e1, 16, .inl (fun _ => 0))), (h7, .inl (e1, 16, .inl (fun _ => 0))), (h8, .inl (e8, 16, .inl (fun _ => 0)))] H := hP
  have hD : va_D A [(h0, .inr (0, [.ref h1, .ref h2, .ref h3, .ref h4, .ref h5, .ref h6, .ref h7, .ref h8, .int 0, .int 0, .int 0, .int 0, .int 0])), (h1, .inl (e1, 72, .inl (fun _ => 0))), (h2, .inl (e1, 72, .inl (fun _ => 0))), (h3, .inl (e1, 72, .inl (fun _ => 0))), (h4, .inl (e1, 6, .inl (fun _ => 0))), (h5, .inl (e1, 6, .inl (fun _ => 0))), (h6, .inl (e1, 16, .inl (fun _ => 0))), (h7, .inl (e1, 16, .inl (fun _ => 0))), (h8, .inl (e8, 16, .inl (fun _ => 0)))] := hD
  refine W.widen (k := 8) (n := 276) (Nat.le_of_ble_eq_true rfl) (Nat.le_of_ble_eq_true rfl) ?_
  obtain ⟨a, ha0, w⟩ : ∃ a : Nat → Nat, a 0 = h0 ∧ xW dC dI e1 e8 a A s.heap H locs zS0 := ⟨zaX h0 h1 h2 h3 h4 h5 h6 h7 h8, rfl, hP, hD, hS⟩
  generalize e1 = cI at hK w
  generalize e8 = cZ at hK w
  have C : xC p c cX0_init 2 s m _ dC dI cI cZ := ⟨⟨hx, hb, hml, hown, hts⟩, hK⟩
  have hl : lv_has ls 2 [(0, .ref (a 0))] := by rw [ha0]; exact hl
  refine lv_aload_n hx hb dX0_init_68 rfl (lv_at hl 0 rfl) ?_
  refine lv_iconst (v := 1) hx hb dX0_init_69 (by decide) ?_
  refine px_ru C w rfl rfl dX0_init_70 (fun H locs w => ?_)
  refine lv_iconst (v := 0) hx hb dX0_init_73 (by decide) ?_
  refine lv_istore_n (lv' := [(1, .int 0), (0, .ref (a 0))]) hx hb dX0_init_74 rfl hl (by decide) rfl (fun ls hl => ?_)
  refine zx_loop1 (fun (i : Nat) H locs ls => xW dC dI cI cZ a A s.heap H locs (s_op (s_ru zS0 1) (ctn i (fun _ => -1) (z_op zS0))) ∧ lv_has ls 2 [(0, .ref (a 0)), (1, .int (nI i))] ∧ (i ≤ 6)) (fun i => 6 - i) ?_ 0 _ _ _ ⟨by rw [ctn_0]; exact w, lv_sub hl [1, 0] rfl, Nat.zero_le _⟩
  clear hl w
  rintro i H locs ls ⟨w, hl, hi⟩ ih_75
  refine lv_iload_n hx hb dX0_init_75 rfl (lv_at hl 1 rfl) ?_
  refine lv_bipush (v := 6) hx hb dX0_init_76 (by decide) ?_
  refine lv_icmp_ge (tgt := 94) hx hb dX0_init_78 (by decide) (fun c_78 => ?_) (fun c_78 => ?_)
  · have hi6 : i = 6 := zi_ex (N := 6) (by decide) hi c_78
    refine lv_iconst (v := 0) hx hb dX0_init_94 (by decide) ?_
    refine lv_istore_n (lv' := [(1, .int 0), (0, .ref (a 0))]) hx hb dX0_init_95 rfl hl (by decide) rfl (fun ls hl => ?_)
    refine zx_loop1 (fun (j : Nat) H locs ls => xW dC dI cI cZ a A s.heap H locs (s_tb (s_op (s_ru zS0 1) (ctn 6 (fun _ => -1) (z_op zS0))) (ctn j (fun _ => -1) (z_tb zS0))) ∧ lv_has ls 2 [(0, .ref (a 0)), (1, .int (nI j))] ∧ (j ≤ 16)) (fun j => 16 - j) ?_ 0 _ _ _ ⟨by rw [ctn_0, ← hi6]; exact w, lv_sub hl [1, 0] rfl, Nat.zero_le _⟩
    clear hl w
    rintro j H locs ls ⟨w, hl, hj⟩ ih_96
    refine lv_iload_n hx hb dX0_init_96 rfl (lv_at hl 1 rfl) ?_
    refine lv_bipush (v := 16) hx hb dX0_init_97 (by decide) ?_
    refine lv_icmp_ge (tgt := 115) hx hb dX0_init_99 (by decide) (fun c_99 => ?_) (fun c_99 => ?_)
    · have hj6 : j = 16 := zi_ex (N := 16) (by decide) hj c_99
      refine lv_aload_n hx hb dX0_init_115 rfl (lv_at hl 0 rfl) ?_
      refine lv_iconst (v := -1) hx hb dX0_init_116 (by decide) ?_
      refine px_ac C w dX0_init_117 (fun H locs w => ?_)
      have w : xW dC dI cI cZ a A s.heap H locs zX0 := by subst hj6; exact w
      exact W.vret hx hb hr (fun t ht hW => ⟨⟨zX0, rfl, rfl, cI, cZ, a, ha0, by rw [ht]; exact w.1, va_K.moved hW.alike hK, w.2.1⟩, w.2.2.F ht⟩) w.2.2.2.2 dX0_init_120
    · have hlt2 : j < 16 := zi_in (N := 16) (by decide) hj c_99
      refine lv_aload_n hx hb dX0_init_102 rfl (lv_at hl 0 rfl) ?_
      refine gx_tb C w dX0_init_103 ?_
      refine lv_iload_n hx hb dX0_init_106 rfl (lv_at hl 1 rfl) ?_
      refine lv_iconst (v := -1) hx hb dX0_init_107 (by decide) ?_
      refine wx_tb C w (k := j) rfl (by omega) dX0_init_108 (fun H locs w => ?_)
      refine lv_iinc (v := nI (j + 1)) (lv' := [(1, .int (nI (j + 1))), (0, .ref (a 0))]) hx hb dX0_init_109 hl (k := 1) rfl (nI_1 _) (by decide) rfl (fun ls hl => ?_)
      refine lv_goto (tgt := 96) hx hb dX0_init_112 (by decide) ?_
      exact ih_96 (j + 1) _ _ _ (by omega) ⟨by rw [← ctn_s (n := j) (f := fun _ => -1) (g := z_tb zS0) rfl]; exact w, lv_sub hl [1, 0] rfl, by omega⟩
  · have hlt : i < 6 := zi_in (N := 6) (by decide) hi c_78
    refine lv_aload_n hx hb dX0_init_81 rfl (lv_at hl 0 rfl) ?_
    refine gx_op C w dX0_init_82 ?_
    refine lv_iload_n hx hb dX0_init_85 rfl (lv_at hl 1 rfl) ?_
    refine lv_iconst (v := -1) hx hb dX0_init_86 (by decide) ?_
    refine wx_op C w (k := i) rfl (by omega) dX0_init_87 (fun H locs w => ?_)
    refine lv_iinc (v := nI (i + 1)) (lv' := [(1, .int (nI (i + 1))), (0, .ref (a 0))]) hx hb dX0_init_88 hl (k := 1) rfl (nI_1 _) (by decide) rfl (fun ls hl => ?_)
    refine lv_goto (tgt := 75) hx hb dX0_init_91 (by decide) ?_
    exact ih_75 (i + 1) _ _ _ (by omega) ⟨by rw [← ctn_s (n := i) (f := fun _ => -1) (g := z_op zS0) rfl]; exact w, lv_sub hl [1, 0] rfl, by omega⟩
set_option maxHeartbeats 4000000 in
set_option maxRecDepth 100000 in
theorem tM_init (l : Launch) (dC : Nat → ClassId) (dI : Nat → Nat → Nat) (h0 sz : Nat) : Met l yX1_init (ws_ yX1_init cX1_init 1 none) ({ frames := 1, cells := 3, slots := 48, locals := 12 }) (va_Pc [.ref h0] (fun U => U.heap.size = sz ∧ va_P (dC, dI) vwCl [(h0, .inr (1, [.int 0, .int 0, .null, .null, .null]))] U.heap ∧ va_K (dC, dI) vwCl [] U ∧ va_D (fun _ => True) [(h0, .inr (1, [.int 0, .int 0, .null, .null, .null]))])) (va_Qv (fun u : ZM => u = zM0) (fun u t => ∃ (cI cZ : ClassId) (a : Nat → Nat), a 0 = h0 ∧ va_P (dC, dI) vwCl (wM cI cZ a u) t.heap ∧ va_K (dC, dI) vwCl (zTy cI cZ) t ∧ va_D (va_A [(h0, .inr (1, [.int 0, .int 0, .null, .null, .null]))] sz) (wM cI cZ a u)) (va_A [(h0, .inr (1, [.int 0, .int 0, .null, .null, .null]))] sz)) 3 48 (va_A [(h0, .inr (1, [.int 0, .int 0, .null, .null, .null]))] sz) := by
  refine Met.ofW (cc := cX1_init) (maxL := 1) (ret := none) (by decide) rfl ?_
  intro p e s m args below meth c s₁ B hml hv
  obtain ⟨rfl, hsz, hP, hK, hD0⟩ := hv
  have hx := B.exec
  have hb := B.bytes
  have hr := B.returns
  have hts := atoms_spec (ws := ws_ yX1_init cX1_init 1 none) B.pre
  have hts : ∀ w ∈ lw_all, w.before _ s = true := fun w h => hts w (List.mem_cons_of_mem _ h)
  have hown : s.vm.findClass RX1 = some m.cls := findClass_of_methodNamed B.named
  have hlk := B.notSynchronized
  have hin : meth.name = "<init>" := (name_of_methodNamed B.named B.method).1
  subst hsz
  have hD := hD0.self (sz := s.heap.size)
  generalize hAe : va_A [(h0, .inr (1, [.int 0, .int 0, .null, .null, .null]))] s.heap.size = A at hD ⊢
  have hA : ∀ q : Nat, s.heap.size ≤ q → A q := fun q h => by rw [← hAe]; exact Or.inr h
  have hS : va_S A s.heap s.heap [] := va_S.rf
  have hl := lv_entry ([.ref h0]) (n := 1) (Nat.le_of_ble_eq_true rfl)
  rw [lg_entry_eq]
  generalize (lg_sl ([.ref h0]) ++ List.replicate (1 - (lg_sl ([.ref h0])).length) Slot.unset).toArray = ls at hl ⊢
  have hl : lv_has ls 1 [(0, .ref h0)] := hl
  refine lv_aload_n hx hb dX1_init_0 rfl (lv_at hl 0 rfl) ?_
  refine W.objInit hx hb hown (hts _ q214) (hts _ q29) (hts _ q30) rfl (by rw [hml]; exact hl.1) rfl dX1_init_1 (Nat.le_of_ble_eq_true rfl) (Nat.le_of_ble_eq_true rfl) ?_
  refine W.eq (g2 := F0 m 4 ls []) rfl ?_
  refine lv_aload_n hx hb dX1_init_4 rfl (lv_at hl 0 rfl) ?_
  refine lv_iconst (v := 1) hx hb dX1_init_5 (by decide) ?_
  refine va_put (D := (dC, dI)) (ci := 1) (v := .int 1) (ty := .boolean) (C := RX1) (T := TX1) (N := 5) hx hb hts in_X1 tyX1 tyX1_ok nmX1 hown hK hP hD hS 0 rfl rfl 0 (by decide) (hts _ q215) (fun _ h9 => h9) rfl (by decide +kernel) rfl rfl (Nat.le_of_ble_eq_true rfl) dX1_init_6 (fun H locs hP hD hS => ?_)
  refine lv_aload_n hx hb dX1_init_9 rfl (lv_at hl 0 rfl) ?_
  refine lv_bipush (v := 16) hx hb dX1_init_10 (by decide) ?_
  refine va_newa (atype := .int) (a0 := (16, .inl (fun _ => 0))) (N' := 16) hx hb (hts _ q71) (ty := .int) rfl hK hP hD hS hA (fun _ => rfl) (by decide) (by decide) (by decide) (Nat.le_of_ble_eq_true rfl) (Nat.le_of_ble_eq_true rfl) dX1_init_12 (fun h1 e1 H hK hP hD hS => ?_)
  have hK : va_K (dC, dI) vwCl [(e1, .int)] s := hK
  have hP : va_P (dC, dI) vwCl [(h0, .inr (1, [.int 1, .int 0, .null, .null, .null])), (h1, .inl (e1, 16, .inl (fun _ => 0)))] H := hP
  have hD : va_D A [(h0, .inr (1, [.int 1, .int 0, .null, .null, .null])), (h1, .inl (e1, 16, .inl (fun _ => 0)))] := hD
  refine va_put (D := (dC, dI)) (ci := 1) (v := .ref h1) (ty := .array .int) (C := RX1) (T := TX1) (N := 5) hx hb hts in_X1 tyX1 tyX1_ok nmX1 hown hK hP hD hS 0 rfl rfl 2 (by decide) (hts _ q217) (fun _ h9 => h9) rfl (by decide +kernel) rfl rfl (Nat.le_of_ble_eq_true rfl) dX1_init_14 (fun H locs hP hD hS => ?_)
  have hP : va_P (dC, dI) vwCl [(h0, .inr (1, [.int 1, .int 0, .ref h1, .null, .null])), (h1, .inl (e1, 16, .inl (fun _ => 0)))] H := hP
  have hD : va_D A [(h0, .inr (1, [.int 1, .int 0, .ref h1, .null, .null])), (h1, .inl (e1, 16, .inl (fun _ => 0)))] := hD
  refine W.widen (k := 1) (n := 16) (Nat.le_of_ble_eq_true rfl) (Nat.le_of_ble_eq_true rfl) ?_
  refine lv_aload_n hx hb dX1_init_17 rfl (lv_at hl 0 rfl) ?_
  refine lv_bipush (v := 16) hx hb dX1_init_18 (by decide) ?_
  refine va_newa (atype := .int) (a0 := (16, .inl (fun _ => 0))) (N' := 16) hx hb (hts _ q71) (ty := .int) rfl hK hP hD hS hA (fun _ => rfl) (by decide) (by decide) (by decide) (Nat.le_of_ble_eq_true rfl) (Nat.le_of_ble_eq_true rfl) dX1_init_20 (fun h2 e2 H hK hP hD hS => ?_)
  have hK : va_K (dC, dI) vwCl [(e1, .int), (e2, .int)] s := hK
  have eq2 := zk_int hK 0 1 rfl rfl
  subst eq2
  have hK : va_K (dC, dI) vwCl [(e1, .int)] s := hK.sub [0] rfl
  have hP : va_P (dC, dI) vwCl [(h0, .inr (1, [.int 1, .int 0, .ref h1, .null, .null])), (h1, .inl (e1, 16, .inl (fun _ => 0))), (h2, .inl (e1, 16, .inl (fun _ => 0)))] H := hP
  have hD : va_D A [(h0, .inr (1, [.int 1, .int 0, .ref h1, .null, .null])), (h1, .inl (e1, 16, .inl (fun _ => 0))), (h2, .inl (e1, 16, .inl (fun _ => 0)))] := hD
  refine va_put (D := (dC, dI)) (ci := 1) (v := .ref h2) (ty := .array .int) (C := RX1) (T := TX1) (N := 5) hx hb hts in_X1 tyX1 tyX1_ok nmX1 hown hK hP hD hS 0 rfl rfl 3 (by decide) (hts _ q218) (fun _ h9 => h9) rfl (by decide +kernel) rfl rfl (Nat.le_of_ble_eq_true rfl) dX1_init_22 (fun H locs hP hD hS => ?_)
  have hP : va_P (dC, dI) vwCl [(h0, .inr (1, [.int 1, .int 0, .ref h1, .ref h2, .null])), (h1, .inl (e1, 16, .inl (fun _ => 0))), (h2, .inl (e1, 16, .inl (fun _ => 0)))] H := hP
  have hD : va_D A [(h0, .inr (1, [.int 1, .int 0, .ref h1, .ref h2, .null])), (h1, .inl (e1, 16, .inl (fun _ => 0))), (h2, .inl (e1, 16, .inl (fun _ => 0)))] := hD
  refine W.widen (k := 2) (n := 32) (Nat.le_of_ble_eq_true rfl) (Nat.le_of_ble_eq_true rfl) ?_
  refine lv_aload_n hx hb dX1_init_25 rfl (lv_at hl 0 rfl) ?_
  refine lv_bipush (v := 16) hx hb dX1_init_26 (by decide) ?_
  refine va_newa (atype := .boolean) (a0 := (16, .inl (fun _ => 0))) (N' := 16) hx hb (hts _ q72) (ty := .boolean) rfl hK hP hD hS hA (fun _ => rfl) (by decide) (by decide) (by decide) (Nat.le_of_ble_eq_true rfl) (Nat.le_of_ble_eq_true rfl) dX1_init_28 (fun h3 e3 H hK hP hD hS => ?_)
  have hK : va_K (dC, dI) vwCl [(e1, .int), (e3, .boolean)] s := hK
  have hP : va_P (dC, dI) vwCl [(h0, .inr (1, [.int 1, .int 0, .ref h1, .ref h2, .null])), (h1, .inl (e1, 16, .inl (fun _ => 0))), (h2, .inl (e1, 16, .inl (fun _ => 0))), (h3, .inl (e3, 16, .inl (fun _ => 0)))] H := hP
  have hD : va_D A [(h0, .inr (1, [.int 1, .int 0, .ref h1, .ref h2, .null])), (h1, .inl (e1, 16, .inl (fun _ => 0))), (h2, .inl (e1, 16, .inl (fun _ => 0))), (h3, .inl (e3, 16, .inl (fun _ => 0)))] := hD
  refine va_put (D := (dC, dI)) (ci := 1) (v := .ref h3) (ty := .array .boolean) (C := RX1) (T := TX1) (N := 5) hx hb hts in_X1 tyX1 tyX1_ok nmX1 hown hK hP hD hS 0 rfl rfl 4 (by decide) (hts _ q219) (fun _ h9 => h9) rfl (by decide +kernel) rfl rfl (Nat.le_of_ble_eq_true rfl) dX1_init_30 (fun H locs hP hD hS => ?_)
  have hP : va_P (dC, dI) vwCl [(h0, .inr (1, [.int 1, .int 0, .ref h1, .ref h2, .ref h3])), (h1, .inl (e1, 16, .inl (fun _ => 0))), (h2, .inl (e1, 16, .inl (fun _ => 0))), (h3, .inl (e3, 16, .inl (fun _ => 0)))] H := hP
  have hD : va_D A [(h0, .inr (1, [.int 1, .int 0, .ref h1, .ref h2, .ref h3])), (h1, .inl (e1, 16, .inl (fun _ => 0))), (h2, .inl (e1, 16, .inl (fun _ => 0))), (h3, .inl (e3, 16, .inl (fun _ => 0)))] := hD
  refine W.widen (k := 3) (n := 48) (Nat.le_of_ble_eq_true rfl) (Nat.le_of_ble_eq_true rfl) ?_
  have w : mW dC dI e1 e3 (zaM h0 h1 h2 h3) A s.heap H locs zM0 := ⟨hP, hD, hS⟩
  exact W.vret hx hb hr (fun t ht hW => ⟨⟨zM0, rfl, rfl, e1, e3, zaM h0 h1 h2 h3, rfl, by rw [ht]; exact w.1, va_K.moved hW.alike hK, w.2.1⟩, w.2.2.F ht⟩) w.2.2.2.2 dX1_init_33
end
section
/-! THE CLAIM OUT OF ONE WALK OF THE LAW'S BODY. Your part is whole_start (and what it stands on); all else here is the same for every law, but numbers. -/
def R_law : String := "ZonedLogStoreLaw"
def lw_P (b : Addr) (xs : List Int32) (args : Array Value) (s : State) : Prop := args = #[.ref b] ∧ s.IntsAt b xs ∧ xs.length ≤ 320 ∧ (Jvm.Cond.and given_1 narrow_1).before args s = true
def lw_Q (_ : Array Value) (s : State) (o : Outcome) (t : State) : Prop := o = .returned (some (.int 1)) ∧ Framed s o t [] 600000 7290000
def lw_Z (below : List Frame) (a : Array Value) (s : State) : State → Prop := fun t => ∃ o, t.status = .running ∧ Ended t below o ∧ lw_Q a s o t
/-- the law's own end, with 1 on the stack, nothing written that was there before, its room as the claim has it -/
theorem lw_ret {p : Program} {l : Launch} {e : Env} {s : State} {m : MethodId} {below : List Frame} {meth : Method} {c : Code} {b : Nat} (hx : p.tables.exec = Jvm.exec) (hb : c.code = code) (hr : meth.sig.returnType = ret) (hlocks : meth.locks = false) {pc : Nat} {H : Heap} {ls : Array Slot} (hdg : decode code pc = .ok (.ireturn, 1)) : W p l e room_1 s m #[Value.ref b] below meth c H [] 600000 7290000 (lw_Z below #[Value.ref b] s) (F0 m pc ls [.int 1]) := by
  intro T hT X
  obtain ⟨fs, hret, hrun, hended, hW, hframe⟩ := X.leave (v := some (.int 1)) (hlocks := hlocks) (fun h => by rw [hr] at h; cases h)
  have hmeth' : T.vm.method? m = some meth := X.method'
  refine ⟨T.setFrames fs, ?_, .returned (some (.int 1)), hrun, hended, rfl, ⟨_, rfl⟩, hW, hframe⟩
  jvm_step X.here [X.here.top, hx, hb, hdg, hmeth', hr, ret, narrow_b1]
  (try refine ⟨rfl, ?_⟩); (try refine ⟨rfl, ?_⟩)
  first | (intro acts; rw [hret _ acts rfl rfl rfl]) | rw [hret _ _ rfl rfl rfl]
  exact Steps.refl _
/-- what holds at the law's entry: the machine, the code, the tables' words (any of lw_tbl by 'hts w (by decide +kernel)'), the script of L ints xs at the cell b, what the Statement gives of the start (any of its parts by flat_of_before) -/
def lw_At (p : Program) (s : State) (m : MethodId) (meth : Method) (c : Code) (b L : Nat) (xs : Nat → Int32) : Prop :=
  p.tables.exec = Jvm.exec ∧ c.code = code ∧ meth.sig.returnType = ret ∧ c.maxLocals = 4 ∧ s.vm.findClass R_law = some m.cls ∧ (∀ w ∈ lw_tbl, w.before #[Value.ref b] s = true) ∧ va_X b L xs s s.heap ∧ b < s.heap.size ∧ meth.locks = false ∧ (Jvm.Cond.and given_1 narrow_1).before #[Value.ref b] s = true
end
section
/-! the law's own rows: both worlds side by side -/
def lW (dC : Nat → ClassId) (dI : Nat → Nat → Nat) (cI cZ : ClassId) (a g : Nat → Nat) (A : Nat → Prop) (H0 H : Heap) (locs : List Loc) (σ : ZS) (τ : ZM) : Prop := va_P (dC, dI) vwCl (wX cI cZ a σ ++ wM cI cZ g τ) H ∧ va_D A (wX cI cZ a σ ++ wM cI cZ g τ) ∧ va_S A H0 H locs
section
variable {p : Program} {l : Launch} {e : Env} {R : Room} {s : State} {m : MethodId} {args : Array Value} {below : List Frame} {meth : Method} {c : Code} {H : Heap} {locs : List Loc} {cells slots : Nat} {Q : State → Prop} {cc : ByteArray} {pc nL : Nat} {ls : Array Slot} {rest : List Value} {A : Nat → Prop} {dC : Nat → ClassId} {dI : Nat → Nat → Nat} {cI cZ : ClassId} {a g : Nat → Nat} {σ : ZS} {τ : ZM}
theorem ly_x {y : MethodName} {bytes : ByteArray} {maxL index n : Nat} {ret : Option FieldType} {rm : Room} {As st0 : List Value} {post : Int32 → ZS → Prop} (S : CallFix p m c cc nL s args lw_all R_law) (hK : va_K (dC, dI) vwCl (zTy cI cZ) s) (w : lW dC dI cI cZ a g A s.heap H locs σ τ) (hA : ∀ q : Nat, s.heap.size ≤ q → A q) (hM : xMi l y bytes maxL ret rm dC dI cI cZ a σ H.size As post) (cw : CallW R s args R_law RX0 index y bytes maxL ret (ws_ y bytes maxL ret) rm 0 0 n) (hn : As.length = n) (hl : ls.size = nL) (hst : st0 = As.reverse ++ .ref (a 0) :: rest) (hroom : (rest.map fun v => v.category).sum ≤ 8) (hdg : decode cc pc = .ok (.invokevirtual index, 3)) (hf : cells ≤ R.cells ∧ slots ≤ R.slots)
    (kk : ∀ (r : Int32) (u : ZS) (H1 : Heap) (locs1 : List Loc), post r u → lW dC dI cI cZ a g A s.heap H1 locs1 u τ → W p l e R s m args below meth c H1 locs1 cells slots Q (F0 m (pc + 3) ls (.int r :: rest))) : W p l e R s m args below meth c H locs cells slots Q (F0 m pc ls st0) := by
  have hPc := w.1.sub (ws' := wX cI cZ a σ) [0, 1, 2, 3, 4, 5, 6, 7, 8] rfl
  have hDc := w.2.1.sub (ws' := wX cI cZ a σ) [0, 1, 2, 3, 4, 5, 6, 7, 8] (by decide) rfl
  have hFc := va_free (wc := wX cI cZ a σ) w.2.1 w.2.2 hA [0, 1, 2, 3, 4, 5, 6, 7, 8] rfl
  refine va_calli (va_runV (As := As) (rest := rest) (b := a 0) S hM cw ⟨xP_blind, va_recv hK hPc (ci := 0) (q0 := 0) rfl rfl, fun U hU hW => ⟨rfl, by rw [hU], by rw [hU]; exact hPc, va_K.moved hW.alike hK, hDc.weaken (fun _ _ _ _ => trivial)⟩⟩ rfl hn hl hst (lv_room hroom) hdg hf) w.2.2 (fun q _ h => hFc q h) hFc (fun r u t H1 locs1 ht hvm hw hB hz1 hk1 hS => ?_)
  obtain ⟨hP1, hK1, hD1⟩ := hB
  rw [ht] at hP1
  obtain ⟨hP, hD⟩ := va_join (wr := wM cI cZ g τ) (w1 := wX cI cZ a u) w.1 w.2.1 [0, 1, 2, 3, 4, 5, 6, 7, 8] [9, 10, 11, 12] rfl rfl (by decide) (by decide) hk1 hFc hP1 hD1
  exact kk r u H1 locs1 hw ⟨hP.sub [4, 5, 6, 7, 8, 9, 10, 11, 12, 0, 1, 2, 3] rfl, hD.sub [4, 5, 6, 7, 8, 9, 10, 11, 12, 0, 1, 2, 3] (by decide) rfl, hS⟩
theorem ly_m {y : MethodName} {bytes : ByteArray} {maxL index n : Nat} {ret : Option FieldType} {rm : Room} {As st0 : List Value} {post : Int32 → ZM → Prop} (S : CallFix p m c cc nL s args lw_all R_law) (hK : va_K (dC, dI) vwCl (zTy cI cZ) s) (w : lW dC dI cI cZ a g A s.heap H locs σ τ) (hA : ∀ q : Nat, s.heap.size ≤ q → A q) (hM : mMi l y bytes maxL ret rm dC dI cI cZ g τ H.size As post) (cw : CallW R s args R_law RX1 index y bytes maxL ret (ws_ y bytes maxL ret) rm 0 0 n) (hn : As.length = n) (hl : ls.size = nL) (hst : st0 = As.reverse ++ .ref (g 0) :: rest) (hroom : (rest.map fun v => v.category).sum ≤ 8) (hdg : decode cc pc = .ok (.invokevirtual index, 3)) (hf : cells ≤ R.cells ∧ slots ≤ R.slots)
    (kk : ∀ (r : Int32) (u : ZM) (H1 : Heap) (locs1 : List Loc), post r u → lW dC dI cI cZ a g A s.heap H1 locs1 σ u → W p l e R s m args below meth c H1 locs1 cells slots Q (F0 m (pc + 3) ls (.int r :: rest))) : W p l e R s m args below meth c H locs cells slots Q (F0 m pc ls st0) := by
  have hPc := w.1.sub (ws' := wM cI cZ g τ) [9, 10, 11, 12] rfl
  have hDc := w.2.1.sub (ws' := wM cI cZ g τ) [9, 10, 11, 12] (by decide) rfl
  have hFc := va_free (wc := wM cI cZ g τ) w.2.1 w.2.2 hA [9, 10, 11, 12] rfl
  refine va_calli (va_runV (As := As) (rest := rest) (b := g 0) S hM cw ⟨mP_blind, va_recv hK hPc (ci := 1) (q0 := 0) rfl rfl, fun U hU hW => ⟨rfl, by rw [hU], by rw [hU]; exact hPc, va_K.moved hW.alike hK, hDc.weaken (fun _ _ _ _ => trivial)⟩⟩ rfl hn hl hst (lv_room hroom) hdg hf) w.2.2 (fun q _ h => hFc q h) hFc (fun r u t H1 locs1 ht hvm hw hB hz1 hk1 hS => ?_)
  obtain ⟨hP1, hK1, hD1⟩ := hB
  rw [ht] at hP1
  obtain ⟨hP, hD⟩ := va_join (wr := wX cI cZ a σ) (w1 := wM cI cZ g u) w.1 w.2.1 [9, 10, 11, 12] [0, 1, 2, 3, 4, 5, 6, 7, 8] rfl rfl (by decide) (by decide) hk1 hFc hP1 hD1
  exact kk r u H1 locs1 hw ⟨hP, hD, hS⟩
theorem ly_s {b L : Nat} {xs : Nat → Int32} (hx : p.tables.exec = Jvm.exec) (hb : c.code = cc) (hX : va_X b L xs s s.heap) (hbl : b < s.heap.size) (hbA : ¬ A b) (w : lW dC dI cI cZ a g A s.heap H locs σ τ) (hL : L ≤ 320) {k : Nat} (hk : k < L) (hdg : decode cc pc = .ok (.iaload, 1)) (kk : W p l e R s m args below meth c H locs cells slots Q (F0 m (pc + 1) ls (.int (xs k) :: rest))) : W p l e R s m args below meth c H locs cells slots Q (F0 m pc ls (.int (nI k) :: .ref b :: rest)) := by
  refine va_sld hx hb hX hbl hbA w.2.2 (vp_in_nI hk (by omega)) hdg ?_
  rw [nI_clamp (by omega)]
  exact kk
end
theorem op_join {F : Int32 × ZM} {r1 r2 : Int32} {τ2 : ZM} {u : ZS} {n k : Nat} (h1 : ∃ τ', (r1, τ') = F ∧ Rel n u τ') (h2 : (r2, τ2) = F) (hk : n ≤ k) : r1 = r2 ∧ Rel k u τ2 := by
  obtain ⟨τ', e, h⟩ := h1
  have e2 := e.trans h2.symm
  have e3 : r1 = r2 := congrArg Prod.fst e2
  have e4 : τ' = τ2 := congrArg Prod.snd e2
  subst e4
  exact ⟨e3, h.mono hk⟩
theorem zi_law {L i : Nat} (hL : L ≤ 320) (hi : i ≤ 320) (c : ¬ Int32.ofNat L - 5 < nI i) : i + 5 ≤ L := by
  have e : (nI L - nI 5).toInt = (L : Int) - (5 : Nat) := pk_sub_toInt (by omega) (by decide)
  rw [Int32.lt_iff_toInt_lt] at c
  rw [show (Int32.ofNat L - 5).toInt = (nI L - nI 5).toInt from rfl, e, nI_toInt (by omega)] at c
  omega
theorem cwlx_up {R : Room} {s : State} {args : Array Value} {rm : Room} (hts : ∀ w ∈ lw_all, w.before args s = true) (hR : rm.frames + 1 ≤ R.frames ∧ 8 + (1 + 11) + rm.locals ≤ R.locals) (hc : rm.cells = 0 := by rfl) (hs : rm.slots = 0 := by rfl) : CallW R s args R_law RX0 13 yX0_up cX0_up 1 (some .int) (ws_ yX0_up cX0_up 1 (some .int)) rm 0 0 0 := cwV 0 hts (lw_V q73 q74 q75 q21 q76) rfl hc hs (by decide +kernel) hR
theorem cwlm_up {R : Room} {s : State} {args : Array Value} {rm : Room} (hts : ∀ w ∈ lw_all, w.before args s = true) (hR : rm.frames + 1 ≤ R.frames ∧ 8 + (1 + 11) + rm.locals ≤ R.locals) (hc : rm.cells = 0 := by rfl) (hs : rm.slots = 0 := by rfl) : CallW R s args R_law RX1 17 yX1_up cX1_up 1 (some .int) (ws_ yX1_up cX1_up 1 (some .int)) rm 0 0 0 := cwV 0 hts (lw_V q231 q232 q233 q22 q234) rfl hc hs (by decide +kernel) hR
theorem cwlx_read {R : Room} {s : State} {args : Array Value} {rm : Room} (hts : ∀ w ∈ lw_all, w.before args s = true) (hR : rm.frames + 1 ≤ R.frames ∧ 8 + (2 + 11) + rm.locals ≤ R.locals) (hc : rm.cells = 0 := by rfl) (hs : rm.slots = 0 := by rfl) : CallW R s args R_law RX0 18 yX0_read cX0_read 2 (some .int) (ws_ yX0_read cX0_read 2 (some .int)) rm 0 0 1 := cwV 1 hts (lw_V q77 q78 q79 q21 q80) rfl hc hs (by decide +kernel) hR
theorem cwlm_read {R : Room} {s : State} {args : Array Value} {rm : Room} (hts : ∀ w ∈ lw_all, w.before args s = true) (hR : rm.frames + 1 ≤ R.frames ∧ 8 + (2 + 11) + rm.locals ≤ R.locals) (hc : rm.cells = 0 := by rfl) (hs : rm.slots = 0 := by rfl) : CallW R s args R_law RX1 22 yX1_read cX1_read 2 (some .int) (ws_ yX1_read cX1_read 2 (some .int)) rm 0 0 1 := cwV 1 hts (lw_V q235 q236 q237 q22 q238) rfl hc hs (by decide +kernel) hR
theorem cwlx_write {R : Room} {s : State} {args : Array Value} {rm : Room} (hts : ∀ w ∈ lw_all, w.before args s = true) (hR : rm.frames + 1 ≤ R.frames ∧ 8 + (3 + 11) + rm.locals ≤ R.locals) (hc : rm.cells = 0 := by rfl) (hs : rm.slots = 0 := by rfl) : CallW R s args R_law RX0 23 yX0_write cX0_write 3 (some .int) (ws_ yX0_write cX0_write 3 (some .int)) rm 0 0 2 := cwV 2 hts (lw_V q92 q93 q94 q21 q95) rfl hc hs (by decide +kernel) hR
theorem cwlm_write {R : Room} {s : State} {args : Array Value} {rm : Room} (hts : ∀ w ∈ lw_all, w.before args s = true) (hR : rm.frames + 1 ≤ R.frames ∧ 8 + (3 + 11) + rm.locals ≤ R.locals) (hc : rm.cells = 0 := by rfl) (hs : rm.slots = 0 := by rfl) : CallW R s args R_law RX1 27 yX1_write cX1_write 3 (some .int) (ws_ yX1_write cX1_write 3 (some .int)) rm 0 0 2 := cwV 2 hts (lw_V q243 q244 q245 q22 q246) rfl hc hs (by decide +kernel) hR
theorem cwlx_fill {R : Room} {s : State} {args : Array Value} {rm : Room} (hts : ∀ w ∈ lw_all, w.before args s = true) (hR : rm.frames + 1 ≤ R.frames ∧ 8 + (6 + 11) + rm.locals ≤ R.locals) (hc : rm.cells = 0 := by rfl) (hs : rm.slots = 0 := by rfl) : CallW R s args R_law RX0 28 yX0_fill cX0_fill 6 (some .int) (ws_ yX0_fill cX0_fill 6 (some .int)) rm 0 0 4 := cwV 4 hts (lw_V q140 q141 q142 q21 q143) rfl hc hs (by decide +kernel) hR
theorem cwlm_fill {R : Room} {s : State} {args : Array Value} {rm : Room} (hts : ∀ w ∈ lw_all, w.before args s = true) (hR : rm.frames + 1 ≤ R.frames ∧ 8 + (6 + 11) + rm.locals ≤ R.locals) (hc : rm.cells = 0 := by rfl) (hs : rm.slots = 0 := by rfl) : CallW R s args R_law RX1 32 yX1_fill cX1_fill 6 (some .int) (ws_ yX1_fill cX1_fill 6 (some .int)) rm 0 0 4 := cwV 4 hts (lw_V q259 q260 q261 q22 q262) rfl hc hs (by decide +kernel) hR
theorem cwlx_sync {R : Room} {s : State} {args : Array Value} {rm : Room} (hts : ∀ w ∈ lw_all, w.before args s = true) (hR : rm.frames + 1 ≤ R.frames ∧ 8 + (2 + 11) + rm.locals ≤ R.locals) (hc : rm.cells = 0 := by rfl) (hs : rm.slots = 0 := by rfl) : CallW R s args R_law RX0 33 yX0_sync cX0_sync 2 (some .int) (ws_ yX0_sync cX0_sync 2 (some .int)) rm 0 0 0 := cwV 0 hts (lw_V q145 q146 q147 q21 q148) rfl hc hs (by decide +kernel) hR
theorem cwlm_sync {R : Room} {s : State} {args : Array Value} {rm : Room} (hts : ∀ w ∈ lw_all, w.before args s = true) (hR : rm.frames + 1 ≤ R.frames ∧ 8 + (1 + 11) + rm.locals ≤ R.locals) (hc : rm.cells = 0 := by rfl) (hs : rm.slots = 0 := by rfl) : CallW R s args R_law RX1 36 yX1_sync cX1_sync 1 (some .int) (ws_ yX1_sync cX1_sync 1 (some .int)) rm 0 0 0 := cwV 0 hts (lw_V q263 q264 q265 q22 q266) rfl hc hs (by decide +kernel) hR
theorem cwlx_begin {R : Room} {s : State} {args : Array Value} {rm : Room} (hts : ∀ w ∈ lw_all, w.before args s = true) (hR : rm.frames + 1 ≤ R.frames ∧ 8 + (1 + 11) + rm.locals ≤ R.locals) (hc : rm.cells = 0 := by rfl) (hs : rm.slots = 0 := by rfl) : CallW R s args R_law RX0 37 yX0_begin cX0_begin 1 (some .int) (ws_ yX0_begin cX0_begin 1 (some .int)) rm 0 0 0 := cwV 0 hts (lw_V q149 q150 q151 q21 q152) rfl hc hs (by decide +kernel) hR
theorem cwlm_begin {R : Room} {s : State} {args : Array Value} {rm : Room} (hts : ∀ w ∈ lw_all, w.before args s = true) (hR : rm.frames + 1 ≤ R.frames ∧ 8 + (1 + 11) + rm.locals ≤ R.locals) (hc : rm.cells = 0 := by rfl) (hs : rm.slots = 0 := by rfl) : CallW R s args R_law RX1 40 yX1_begin cX1_begin 1 (some .int) (ws_ yX1_begin cX1_begin 1 (some .int)) rm 0 0 0 := cwV 0 hts (lw_V q267 q268 q269 q22 q270) rfl hc hs (by decide +kernel) hR
theorem cwlx_commit {R : Room} {s : State} {args : Array Value} {rm : Room} (hts : ∀ w ∈ lw_all, w.before args s = true) (hR : rm.frames + 1 ≤ R.frames ∧ 8 + (2 + 11) + rm.locals ≤ R.locals) (hc : rm.cells = 0 := by rfl) (hs : rm.slots = 0 := by rfl) : CallW R s args R_law RX0 41 yX0_commit cX0_commit 2 (some .int) (ws_ yX0_commit cX0_commit 2 (some .int)) rm 0 0 0 := cwV 0 hts (lw_V q153 q154 q155 q21 q156) rfl hc hs (by decide +kernel) hR
theorem cwlm_commit {R : Room} {s : State} {args : Array Value} {rm : Room} (hts : ∀ w ∈ lw_all, w.before args s = true) (hR : rm.frames + 1 ≤ R.frames ∧ 8 + (1 + 11) + rm.locals ≤ R.locals) (hc : rm.cells = 0 := by rfl) (hs : rm.slots = 0 := by rfl) : CallW R s args R_law RX1 44 yX1_commit cX1_commit 1 (some .int) (ws_ yX1_commit cX1_commit 1 (some .int)) rm 0 0 0 := cwV 0 hts (lw_V q271 q272 q273 q22 q274) rfl hc hs (by decide +kernel) hR
theorem cwlx_abort {R : Room} {s : State} {args : Array Value} {rm : Room} (hts : ∀ w ∈ lw_all, w.before args s = true) (hR : rm.frames + 1 ≤ R.frames ∧ 8 + (2 + 11) + rm.locals ≤ R.locals) (hc : rm.cells = 0 := by rfl) (hs : rm.slots = 0 := by rfl) : CallW R s args R_law RX0 45 yX0_abort cX0_abort 2 (some .int) (ws_ yX0_abort cX0_abort 2 (some .int)) rm 0 0 0 := cwV 0 hts (lw_V q157 q158 q159 q21 q160) rfl hc hs (by decide +kernel) hR
theorem cwlm_abort {R : Room} {s : State} {args : Array Value} {rm : Room} (hts : ∀ w ∈ lw_all, w.before args s = true) (hR : rm.frames + 1 ≤ R.frames ∧ 8 + (1 + 11) + rm.locals ≤ R.locals) (hc : rm.cells = 0 := by rfl) (hs : rm.slots = 0 := by rfl) : CallW R s args R_law RX1 48 yX1_abort cX1_abort 1 (some .int) (ws_ yX1_abort cX1_abort 1 (some .int)) rm 0 0 0 := cwV 0 hts (lw_V q275 q276 q277 q22 q278) rfl hc hs (by decide +kernel) hR
theorem cwlx_crash {R : Room} {s : State} {args : Array Value} {rm : Room} (hts : ∀ w ∈ lw_all, w.before args s = true) (hR : rm.frames + 1 ≤ R.frames ∧ 8 + (2 + 11) + rm.locals ≤ R.locals) (hc : rm.cells = 0 := by rfl) (hs : rm.slots = 0 := by rfl) : CallW R s args R_law RX0 49 yX0_crash cX0_crash 2 (some .int) (ws_ yX0_crash cX0_crash 2 (some .int)) rm 0 0 0 := cwV 0 hts (lw_V q161 q162 q163 q21 q164) rfl hc hs (by decide +kernel) hR
theorem cwlm_crash {R : Room} {s : State} {args : Array Value} {rm : Room} (hts : ∀ w ∈ lw_all, w.before args s = true) (hR : rm.frames + 1 ≤ R.frames ∧ 8 + (1 + 11) + rm.locals ≤ R.locals) (hc : rm.cells = 0 := by rfl) (hs : rm.slots = 0 := by rfl) : CallW R s args R_law RX1 52 yX1_crash cX1_crash 1 (some .int) (ws_ yX1_crash cX1_crash 1 (some .int)) rm 0 0 0 := cwV 0 hts (lw_V q279 q280 q281 q22 q282) rfl hc hs (by decide +kernel) hR
theorem cwlx_crashIn {R : Room} {s : State} {args : Array Value} {rm : Room} (hts : ∀ w ∈ lw_all, w.before args s = true) (hR : rm.frames + 1 ≤ R.frames ∧ 8 + (2 + 11) + rm.locals ≤ R.locals) (hc : rm.cells = 0 := by rfl) (hs : rm.slots = 0 := by rfl) : CallW R s args R_law RX0 53 yX0_crashIn cX0_crashIn 2 (some .int) (ws_ yX0_crashIn cX0_crashIn 2 (some .int)) rm 0 0 1 := cwV 1 hts (lw_V q169 q170 q171 q21 q172) rfl hc hs (by decide +kernel) hR
theorem cwlm_crashIn {R : Room} {s : State} {args : Array Value} {rm : Room} (hts : ∀ w ∈ lw_all, w.before args s = true) (hR : rm.frames + 1 ≤ R.frames ∧ 8 + (2 + 11) + rm.locals ≤ R.locals) (hc : rm.cells = 0 := by rfl) (hs : rm.slots = 0 := by rfl) : CallW R s args R_law RX1 56 yX1_crashIn cX1_crashIn 2 (some .int) (ws_ yX1_crashIn cX1_crashIn 2 (some .int)) rm 0 0 1 := cwV 1 hts (lw_V q283 q284 q285 q22 q286) rfl hc hs (by decide +kernel) hR
theorem cwlx_mount {R : Room} {s : State} {args : Array Value} {rm : Room} (hts : ∀ w ∈ lw_all, w.before args s = true) (hR : rm.frames + 1 ≤ R.frames ∧ 8 + (1 + 11) + rm.locals ≤ R.locals) (hc : rm.cells = 0 := by rfl) (hs : rm.slots = 0 := by rfl) : CallW R s args R_law RX0 57 yX0_mount cX0_mount 1 (some .int) (ws_ yX0_mount cX0_mount 1 (some .int)) rm 0 0 0 := cwV 0 hts (lw_V q173 q174 q175 q21 q176) rfl hc hs (by decide +kernel) hR
theorem cwlm_mount {R : Room} {s : State} {args : Array Value} {rm : Room} (hts : ∀ w ∈ lw_all, w.before args s = true) (hR : rm.frames + 1 ≤ R.frames ∧ 8 + (1 + 11) + rm.locals ≤ R.locals) (hc : rm.cells = 0 := by rfl) (hs : rm.slots = 0 := by rfl) : CallW R s args R_law RX1 60 yX1_mount cX1_mount 1 (some .int) (ws_ yX1_mount cX1_mount 1 (some .int)) rm 0 0 0 := cwV 0 hts (lw_V q287 q288 q289 q22 q290) rfl hc hs (by decide +kernel) hR
theorem cwlx_unsynced {R : Room} {s : State} {args : Array Value} {rm : Room} (hts : ∀ w ∈ lw_all, w.before args s = true) (hR : rm.frames + 1 ≤ R.frames ∧ 8 + (1 + 11) + rm.locals ≤ R.locals) (hc : rm.cells = 0 := by rfl) (hs : rm.slots = 0 := by rfl) : CallW R s args R_law RX0 61 yX0_unsynced cX0_unsynced 1 (some .int) (ws_ yX0_unsynced cX0_unsynced 1 (some .int)) rm 0 0 0 := cwV 0 hts (lw_V q185 q186 q187 q21 q188) rfl hc hs (by decide +kernel) hR
theorem cwlm_unsynced {R : Room} {s : State} {args : Array Value} {rm : Room} (hts : ∀ w ∈ lw_all, w.before args s = true) (hR : rm.frames + 1 ≤ R.frames ∧ 8 + (1 + 11) + rm.locals ≤ R.locals) (hc : rm.cells = 0 := by rfl) (hs : rm.slots = 0 := by rfl) : CallW R s args R_law RX1 64 yX1_unsynced cX1_unsynced 1 (some .int) (ws_ yX1_unsynced cX1_unsynced 1 (some .int)) rm 0 0 0 := cwV 0 hts (lw_V q291 q292 q293 q22 q294) rfl hc hs (by decide +kernel) hR
theorem cwlx_grouped {R : Room} {s : State} {args : Array Value} {rm : Room} (hts : ∀ w ∈ lw_all, w.before args s = true) (hR : rm.frames + 1 ≤ R.frames ∧ 8 + (1 + 11) + rm.locals ≤ R.locals) (hc : rm.cells = 0 := by rfl) (hs : rm.slots = 0 := by rfl) : CallW R s args R_law RX0 65 yX0_grouped cX0_grouped 1 (some .int) (ws_ yX0_grouped cX0_grouped 1 (some .int)) rm 0 0 0 := cwV 0 hts (lw_V q189 q190 q191 q21 q192) rfl hc hs (by decide +kernel) hR
theorem cwlm_grouped {R : Room} {s : State} {args : Array Value} {rm : Room} (hts : ∀ w ∈ lw_all, w.before args s = true) (hR : rm.frames + 1 ≤ R.frames ∧ 8 + (1 + 11) + rm.locals ≤ R.locals) (hc : rm.cells = 0 := by rfl) (hs : rm.slots = 0 := by rfl) : CallW R s args R_law RX1 68 yX1_grouped cX1_grouped 1 (some .int) (ws_ yX1_grouped cX1_grouped 1 (some .int)) rm 0 0 0 := cwV 0 hts (lw_V q295 q296 q297 q22 q298) rfl hc hs (by decide +kernel) hR
theorem cwlx_pending {R : Room} {s : State} {args : Array Value} {rm : Room} (hts : ∀ w ∈ lw_all, w.before args s = true) (hR : rm.frames + 1 ≤ R.frames ∧ 8 + (3 + 11) + rm.locals ≤ R.locals) (hc : rm.cells = 0 := by rfl) (hs : rm.slots = 0 := by rfl) : CallW R s args R_law RX0 69 yX0_pending cX0_pending 3 (some .int) (ws_ yX0_pending cX0_pending 3 (some .int)) rm 0 0 0 := cwV 0 hts (lw_V q193 q194 q195 q21 q196) rfl hc hs (by decide +kernel) hR
theorem cwlm_pending {R : Room} {s : State} {args : Array Value} {rm : Room} (hts : ∀ w ∈ lw_all, w.before args s = true) (hR : rm.frames + 1 ≤ R.frames ∧ 8 + (3 + 11) + rm.locals ≤ R.locals) (hc : rm.cells = 0 := by rfl) (hs : rm.slots = 0 := by rfl) : CallW R s args R_law RX1 72 yX1_pending cX1_pending 3 (some .int) (ws_ yX1_pending cX1_pending 3 (some .int)) rm 0 0 0 := cwV 0 hts (lw_V q299 q300 q301 q22 q302) rfl hc hs (by decide +kernel) hR
theorem cwlx_sum {R : Room} {s : State} {args : Array Value} {rm : Room} (hts : ∀ w ∈ lw_all, w.before args s = true) (hR : rm.frames + 1 ≤ R.frames ∧ 8 + (3 + 11) + rm.locals ≤ R.locals) (hc : rm.cells = 0 := by rfl) (hs : rm.slots = 0 := by rfl) : CallW R s args R_law RX0 73 yX0_sum cX0_sum 3 (some .int) (ws_ yX0_sum cX0_sum 3 (some .int)) rm 0 0 0 := cwV 0 hts (lw_V q197 q198 q199 q21 q200) rfl hc hs (by decide +kernel) hR
theorem cwlm_sum {R : Room} {s : State} {args : Array Value} {rm : Room} (hts : ∀ w ∈ lw_all, w.before args s = true) (hR : rm.frames + 1 ≤ R.frames ∧ 8 + (3 + 11) + rm.locals ≤ R.locals) (hc : rm.cells = 0 := by rfl) (hs : rm.slots = 0 := by rfl) : CallW R s args R_law RX1 76 yX1_sum cX1_sum 3 (some .int) (ws_ yX1_sum cX1_sum 3 (some .int)) rm 0 0 0 := cwV 0 hts (lw_V q303 q304 q305 q22 q306) rfl hc hs (by decide +kernel) hR
theorem cwlx_clean {R : Room} {s : State} {args : Array Value} {rm : Room} (hts : ∀ w ∈ lw_all, w.before args s = true) (hR : rm.frames + 1 ≤ R.frames ∧ 8 + (2 + 11) + rm.locals ≤ R.locals) (hc : rm.cells = 0 := by rfl) (hs : rm.slots = 0 := by rfl) : CallW R s args R_law RX0 77 yX0_clean cX0_clean 2 (some .int) (ws_ yX0_clean cX0_clean 2 (some .int)) rm 0 0 0 := cwV 0 hts (lw_V q201 q202 q203 q21 q204) rfl hc hs (by decide +kernel) hR
theorem cwlm_clean {R : Room} {s : State} {args : Array Value} {rm : Room} (hts : ∀ w ∈ lw_all, w.before args s = true) (hR : rm.frames + 1 ≤ R.frames ∧ 8 + (1 + 11) + rm.locals ≤ R.locals) (hc : rm.cells = 0 := by rfl) (hs : rm.slots = 0 := by rfl) : CallW R s args R_law RX1 80 yX1_clean cX1_clean 1 (some .int) (ws_ yX1_clean cX1_clean 1 (some .int)) rm 0 0 0 := cwV 0 hts (lw_V q307 q308 q309 q22 q310) rfl hc hs (by decide +kernel) hR
theorem cwlx_check {R : Room} {s : State} {args : Array Value} {rm : Room} (hts : ∀ w ∈ lw_all, w.before args s = true) (hR : rm.frames + 1 ≤ R.frames ∧ 8 + (4 + 11) + rm.locals ≤ R.locals) (hc : rm.cells = 0 := by rfl) (hs : rm.slots = 0 := by rfl) : CallW R s args R_law RX0 81 yX0_check cX0_check 4 (some .int) (ws_ yX0_check cX0_check 4 (some .int)) rm 0 0 0 := cwV 0 hts (lw_V q205 q206 q207 q21 q208) rfl hc hs (by decide +kernel) hR
theorem cwlm_check {R : Room} {s : State} {args : Array Value} {rm : Room} (hts : ∀ w ∈ lw_all, w.before args s = true) (hR : rm.frames + 1 ≤ R.frames ∧ 8 + (1 + 11) + rm.locals ≤ R.locals) (hc : rm.cells = 0 := by rfl) (hs : rm.slots = 0 := by rfl) : CallW R s args R_law RX1 84 yX1_check cX1_check 1 (some .int) (ws_ yX1_check cX1_check 1 (some .int)) rm 0 0 0 := cwV 0 hts (lw_V q311 q312 q313 q22 q314) rfl hc hs (by decide +kernel) hR
end
section
/-! the law's loop and its start -/
set_option maxHeartbeats 8000000 in
set_option maxRecDepth 100000 in
/-- THE LAW'S LOOP: at its head, with i ints read, the store and the model agree -/
theorem law_loop {p : Program} {e : Env} {s : State} {m : MethodId} {below : List Frame} {meth : Method} {c : Code} (l : Launch) {b L : Nat} {xs : Nat → Int32} (hL : L ≤ 320) (C0 : lw_At p s m meth c b L xs) {dC : Nat → ClassId} {dI : Nat → Nat → Nat} {cI cZ : ClassId} {a g : Nat → Nat} (hK : va_K (dC, dI) vwCl (zTy cI cZ) s) (σ0 : ZS) (τ0 : ZM) (H : Heap) (locs : List Loc) (ls : Array Slot) (w : lW dC dI cI cZ a g (fun q : Nat => s.heap.size ≤ q) s.heap H locs σ0 τ0) (hl : lv_has ls 4 [(0, .ref b), (1, .ref (a 0)), (2, .ref (g 0)), (3, .int (nI 0))]) (hR : Rel (32 * 0) σ0 τ0) : W p l e room_1 s m #[Value.ref b] below meth c H locs 600000 7290000 (lw_Z below #[Value.ref b] s) (F0 m 18 ls []) := by
  obtain ⟨hx, hb, hr, hml, hown, hts0, hX, hbl, hlocks, hgv⟩ := id C0
  have hts : ∀ w ∈ lw_all, w.before #[Value.ref b] s = true := fun w h => hts0 w (lw_all_tbl h)
  have hA : ∀ q : Nat, s.heap.size ≤ q → (fun q : Nat => s.heap.size ≤ q) q := fun _ h => h
  have hbA : ¬ (fun q : Nat => s.heap.size ≤ q) b := Nat.not_le.mpr hbl
  have S : CallFix p m c cL_law 4 s #[Value.ref b] lw_all R_law := ⟨hx, hb, hml, hown, hts⟩
  refine zx_loop3 (fun (i : Nat) (σ : ZS) (τ : ZM) H locs ls => lW dC dI cI cZ a g (fun q : Nat => s.heap.size ≤ q) s.heap H locs σ τ ∧ lv_has ls 4 [(0, .ref b), (1, .ref (a 0)), (2, .ref (g 0)), (3, .int (nI i))] ∧ i ≤ L ∧ Rel (32 * i) σ τ) (fun i _ _ => L - i) ?_ 0 σ0 τ0 _ _ _ ⟨w, hl, Nat.zero_le _, hR⟩
  clear w hl hR
  rintro i σ τ H locs ls ⟨w, hl, hi, hR⟩ ih
  refine lv_iload_n hx hb dL_law_18 rfl (lv_at hl 3 rfl) ?_
  refine lv_aload_n hx hb dL_law_19 rfl (lv_at hl 0 rfl) ?_
  refine va_slen hx hb hX hbl hbA w.2.2 dL_law_20 ?_
  refine lv_iconst (v := 5) hx hb dL_law_21 (by decide) ?_
  refine lv_isub hx hb dL_law_22 ?_
  refine lv_icmp_gt (tgt := 423) hx hb dL_law_23 (by decide) (fun c_23 => ?_) (fun c_23 => ?_)
  · refine lv_iconst (v := 1) hx hb dL_law_423 (by decide) ?_
    refine va_forget w.2.2.2.2 ?_
    exact lw_ret hx hb hr hlocks dL_law_424
  · have h5 : i + 5 ≤ L := zi_law hL (by omega) c_23
    refine lv_aload_n hx hb dL_law_26 rfl (lv_at hl 0 rfl) ?_
    refine lv_iload_n hx hb dL_law_27 rfl (lv_at hl 3 rfl) ?_
    refine ly_s hx hb hX hbl hbA w hL (k := i) (by omega) dL_law_28 ?_
    refine lv_bipush (v := 31) hx hb dL_law_29 (by decide) ?_
    refine lv_iand hx hb dL_law_31 ?_
    obtain ⟨j, hj, ej⟩ := pk_andE (xs i) (m := 31) 5 (by decide)
    refine zt_i ej ?_
    rcases (show j = 0 ∨ j = 1 ∨ j = 2 ∨ j = 3 ∨ j = 4 ∨ j = 5 ∨ j = 6 ∨ j = 7 ∨ j = 8 ∨ j = 9 ∨ j = 10 ∨ j = 11 ∨ j = 12 ∨ j = 13 ∨ j = 14 ∨ j = 15 ∨ j = 16 ∨ 17 ≤ j by omega) with rfl | rfl | rfl | rfl | rfl | rfl | rfl | rfl | rfl | rfl | rfl | rfl | rfl | rfl | rfl | rfl | rfl | hj17
    · refine lv_tableIn (tgt := 116) hx hb dL_law_32 (by decide) (by decide) (off := 84) rfl (by decide) ?_
      refine lv_aload_n hx hb dL_law_116 rfl (lv_at hl 1 rfl) ?_
      refine ly_x (As := []) (rest := []) S hK w hA (tX_up l dC dI cI cZ a _ σ τ (32 * i) (by omega) hR) (cwlx_up hts ⟨Nat.le_of_ble_eq_true rfl, Nat.le_of_ble_eq_true rfl⟩) rfl hl.1 rfl (Nat.le_of_ble_eq_true rfl) dL_law_117 ⟨Nat.le_refl _, Nat.le_refl _⟩ (fun rx ux H locs qx w => ?_)
      refine lv_aload_n hx hb dL_law_120 rfl (lv_at hl 2 rfl) ?_
      refine ly_m (As := []) (rest := [.int rx]) S hK w hA (tM_up l dC dI cI cZ g _ τ) (cwlm_up hts ⟨Nat.le_of_ble_eq_true rfl, Nat.le_of_ble_eq_true rfl⟩) rfl hl.1 rfl (Nat.le_of_ble_eq_true rfl) dL_law_121 ⟨Nat.le_refl _, Nat.le_refl _⟩ (fun rm um H locs qm w => ?_)
      have hjn := op_join qx qm (k := 32 * (i + 5)) (by omega)
      refine lv_icmp_eq (tgt := 417) hx hb dL_law_124 (by decide) (fun c_e => ?_) (fun c_e => absurd hjn.1 c_e)
      refine lv_iinc (v := nI (i + 5)) (lv' := [(3, .int (nI (i + 5))), (0, .ref b), (1, .ref (a 0)), (2, .ref (g 0))]) hx hb dL_law_417 hl (k := 3) rfl (nI_add i 5) (by decide) rfl (fun ls hl => ?_)
      refine lv_goto (tgt := 18) hx hb dL_law_420 (by decide) ?_
      exact ih (i + 5) ux um _ _ _ (by omega) ⟨w, lv_sub hl [1, 2, 3, 0] rfl, h5, hjn.2⟩
    · refine lv_tableIn (tgt := 129) hx hb dL_law_32 (by decide) (by decide) (off := 97) rfl (by decide) ?_
      refine lv_aload_n hx hb dL_law_129 rfl (lv_at hl 1 rfl) ?_
      refine lv_aload_n hx hb dL_law_130 rfl (lv_at hl 0 rfl) ?_
      refine lv_iload_n hx hb dL_law_131 rfl (lv_at hl 3 rfl) ?_
      refine lv_iconst (v := 1) hx hb dL_law_132 (by decide) ?_
      refine lv_iadd hx hb dL_law_133 ?_
      refine zt_i (y := nI (i + 1)) (nI_add i 1) ?_
      refine ly_s hx hb hX hbl hbA w hL (k := i + 1) (by omega) dL_law_134 ?_
      refine ly_x (As := [.int (xs (i + 1))]) (rest := []) S hK w hA (tX_read l dC dI cI cZ a _ σ τ (32 * i) (by omega) hR (xs (i + 1))) (cwlx_read hts ⟨Nat.le_of_ble_eq_true rfl, Nat.le_of_ble_eq_true rfl⟩) rfl hl.1 rfl (Nat.le_of_ble_eq_true rfl) dL_law_135 ⟨Nat.le_refl _, Nat.le_refl _⟩ (fun rx ux H locs qx w => ?_)
      refine lv_aload_n hx hb dL_law_138 rfl (lv_at hl 2 rfl) ?_
      refine lv_aload_n hx hb dL_law_139 rfl (lv_at hl 0 rfl) ?_
      refine lv_iload_n hx hb dL_law_140 rfl (lv_at hl 3 rfl) ?_
      refine lv_iconst (v := 1) hx hb dL_law_141 (by decide) ?_
      refine lv_iadd hx hb dL_law_142 ?_
      refine zt_i (y := nI (i + 1)) (nI_add i 1) ?_
      refine ly_s hx hb hX hbl hbA w hL (k := i + 1) (by omega) dL_law_143 ?_
      refine ly_m (As := [.int (xs (i + 1))]) (rest := [.int rx]) S hK w hA (tM_read l dC dI cI cZ g _ τ (xs (i + 1))) (cwlm_read hts ⟨Nat.le_of_ble_eq_true rfl, Nat.le_of_ble_eq_true rfl⟩) rfl hl.1 rfl (Nat.le_of_ble_eq_true rfl) dL_law_144 ⟨Nat.le_refl _, Nat.le_refl _⟩ (fun rm um H locs qm w => ?_)
      have hjn := op_join qx qm (k := 32 * (i + 5)) (by omega)
      refine lv_icmp_eq (tgt := 417) hx hb dL_law_147 (by decide) (fun c_e => ?_) (fun c_e => absurd hjn.1 c_e)
      refine lv_iinc (v := nI (i + 5)) (lv' := [(3, .int (nI (i + 5))), (0, .ref b), (1, .ref (a 0)), (2, .ref (g 0))]) hx hb dL_law_417 hl (k := 3) rfl (nI_add i 5) (by decide) rfl (fun ls hl => ?_)
      refine lv_goto (tgt := 18) hx hb dL_law_420 (by decide) ?_
      exact ih (i + 5) ux um _ _ _ (by omega) ⟨w, lv_sub hl [1, 2, 3, 0] rfl, h5, hjn.2⟩
    · refine lv_tableIn (tgt := 152) hx hb dL_law_32 (by decide) (by decide) (off := 120) rfl (by decide) ?_
      refine lv_aload_n hx hb dL_law_152 rfl (lv_at hl 1 rfl) ?_
      refine lv_aload_n hx hb dL_law_153 rfl (lv_at hl 0 rfl) ?_
      refine lv_iload_n hx hb dL_law_154 rfl (lv_at hl 3 rfl) ?_
      refine lv_iconst (v := 1) hx hb dL_law_155 (by decide) ?_
      refine lv_iadd hx hb dL_law_156 ?_
      refine zt_i (y := nI (i + 1)) (nI_add i 1) ?_
      refine ly_s hx hb hX hbl hbA w hL (k := i + 1) (by omega) dL_law_157 ?_
      refine lv_aload_n hx hb dL_law_158 rfl (lv_at hl 0 rfl) ?_
      refine lv_iload_n hx hb dL_law_159 rfl (lv_at hl 3 rfl) ?_
      refine lv_iconst (v := 2) hx hb dL_law_160 (by decide) ?_
      refine lv_iadd hx hb dL_law_161 ?_
      refine zt_i (y := nI (i + 2)) (nI_add i 2) ?_
      refine ly_s hx hb hX hbl hbA w hL (k := i + 2) (by omega) dL_law_162 ?_
      refine ly_x (As := [.int (xs (i + 1)), .int (xs (i + 2))]) (rest := []) S hK w hA (tX_write l dC dI cI cZ a _ σ τ (32 * i) (by omega) hR (xs (i + 1)) (xs (i + 2))) (cwlx_write hts ⟨Nat.le_of_ble_eq_true rfl, Nat.le_of_ble_eq_true rfl⟩) rfl hl.1 rfl (Nat.le_of_ble_eq_true rfl) dL_law_163 ⟨Nat.le_refl _, Nat.le_refl _⟩ (fun rx ux H locs qx w => ?_)
      refine lv_aload_n hx hb dL_law_166 rfl (lv_at hl 2 rfl) ?_
      refine lv_aload_n hx hb dL_law_167 rfl (lv_at hl 0 rfl) ?_
      refine lv_iload_n hx hb dL_law_168 rfl (lv_at hl 3 rfl) ?_
      refine lv_iconst (v := 1) hx hb dL_law_169 (by decide) ?_
      refine lv_iadd hx hb dL_law_170 ?_
      refine zt_i (y := nI (i + 1)) (nI_add i 1) ?_
      refine ly_s hx hb hX hbl hbA w hL (k := i + 1) (by omega) dL_law_171 ?_
      refine lv_aload_n hx hb dL_law_172 rfl (lv_at hl 0 rfl) ?_
      refine lv_iload_n hx hb dL_law_173 rfl (lv_at hl 3 rfl) ?_
      refine lv_iconst (v := 2) hx hb dL_law_174 (by decide) ?_
      refine lv_iadd hx hb dL_law_175 ?_
      refine zt_i (y := nI (i + 2)) (nI_add i 2) ?_
      refine ly_s hx hb hX hbl hbA w hL (k := i + 2) (by omega) dL_law_176 ?_
      refine ly_m (As := [.int (xs (i + 1)), .int (xs (i + 2))]) (rest := [.int rx]) S hK w hA (tM_write l dC dI cI cZ g _ τ (xs (i + 1)) (xs (i + 2))) (cwlm_write hts ⟨Nat.le_of_ble_eq_true rfl, Nat.le_of_ble_eq_true rfl⟩) rfl hl.1 rfl (Nat.le_of_ble_eq_true rfl) dL_law_177 ⟨Nat.le_refl _, Nat.le_refl _⟩ (fun rm um H locs qm w => ?_)
      have hjn := op_join qx qm (k := 32 * (i + 5)) (by omega)
      refine lv_icmp_eq (tgt := 417) hx hb dL_law_180 (by decide) (fun c_e => ?_) (fun c_e => absurd hjn.1 c_e)
      refine lv_iinc (v := nI (i + 5)) (lv' := [(3, .int (nI (i + 5))), (0, .ref b), (1, .ref (a 0)), (2, .ref (g 0))]) hx hb dL_law_417 hl (k := 3) rfl (nI_add i 5) (by decide) rfl (fun ls hl => ?_)
      refine lv_goto (tgt := 18) hx hb dL_law_420 (by decide) ?_
      exact ih (i + 5) ux um _ _ _ (by omega) ⟨w, lv_sub hl [1, 2, 3, 0] rfl, h5, hjn.2⟩
    · refine lv_tableIn (tgt := 185) hx hb dL_law_32 (by decide) (by decide) (off := 153) rfl (by decide) ?_
      refine lv_aload_n hx hb dL_law_185 rfl (lv_at hl 1 rfl) ?_
      refine lv_aload_n hx hb dL_law_186 rfl (lv_at hl 0 rfl) ?_
      refine lv_iload_n hx hb dL_law_187 rfl (lv_at hl 3 rfl) ?_
      refine lv_iconst (v := 1) hx hb dL_law_188 (by decide) ?_
      refine lv_iadd hx hb dL_law_189 ?_
      refine zt_i (y := nI (i + 1)) (nI_add i 1) ?_
      refine ly_s hx hb hX hbl hbA w hL (k := i + 1) (by omega) dL_law_190 ?_
      refine lv_aload_n hx hb dL_law_191 rfl (lv_at hl 0 rfl) ?_
      refine lv_iload_n hx hb dL_law_192 rfl (lv_at hl 3 rfl) ?_
      refine lv_iconst (v := 2) hx hb dL_law_193 (by decide) ?_
      refine lv_iadd hx hb dL_law_194 ?_
      refine zt_i (y := nI (i + 2)) (nI_add i 2) ?_
      refine ly_s hx hb hX hbl hbA w hL (k := i + 2) (by omega) dL_law_195 ?_
      refine lv_aload_n hx hb dL_law_196 rfl (lv_at hl 0 rfl) ?_
      refine lv_iload_n hx hb dL_law_197 rfl (lv_at hl 3 rfl) ?_
      refine lv_iconst (v := 3) hx hb dL_law_198 (by decide) ?_
      refine lv_iadd hx hb dL_law_199 ?_
      refine zt_i (y := nI (i + 3)) (nI_add i 3) ?_
      refine ly_s hx hb hX hbl hbA w hL (k := i + 3) (by omega) dL_law_200 ?_
      refine lv_aload_n hx hb dL_law_201 rfl (lv_at hl 0 rfl) ?_
      refine lv_iload_n hx hb dL_law_202 rfl (lv_at hl 3 rfl) ?_
      refine lv_iconst (v := 4) hx hb dL_law_203 (by decide) ?_
      refine lv_iadd hx hb dL_law_204 ?_
      refine zt_i (y := nI (i + 4)) (nI_add i 4) ?_
      refine ly_s hx hb hX hbl hbA w hL (k := i + 4) (by omega) dL_law_205 ?_
      refine ly_x (As := [.int (xs (i + 1)), .int (xs (i + 2)), .int (xs (i + 3)), .int (xs (i + 4))]) (rest := []) S hK w hA (tX_fill l dC dI cI cZ a _ σ τ (32 * i) (by omega) hR (xs (i + 1)) (xs (i + 2)) (xs (i + 3)) (xs (i + 4))) (cwlx_fill hts ⟨Nat.le_of_ble_eq_true rfl, Nat.le_of_ble_eq_true rfl⟩) rfl hl.1 rfl (Nat.le_of_ble_eq_true rfl) dL_law_206 ⟨Nat.le_refl _, Nat.le_refl _⟩ (fun rx ux H locs qx w => ?_)
      refine lv_aload_n hx hb dL_law_209 rfl (lv_at hl 2 rfl) ?_
      refine lv_aload_n hx hb dL_law_210 rfl (lv_at hl 0 rfl) ?_
      refine lv_iload_n hx hb dL_law_211 rfl (lv_at hl 3 rfl) ?_
      refine lv_iconst (v := 1) hx hb dL_law_212 (by decide) ?_
      refine lv_iadd hx hb dL_law_213 ?_
      refine zt_i (y := nI (i + 1)) (nI_add i 1) ?_
      refine ly_s hx hb hX hbl hbA w hL (k := i + 1) (by omega) dL_law_214 ?_
      refine lv_aload_n hx hb dL_law_215 rfl (lv_at hl 0 rfl) ?_
      refine lv_iload_n hx hb dL_law_216 rfl (lv_at hl 3 rfl) ?_
      refine lv_iconst (v := 2) hx hb dL_law_217 (by decide) ?_
      refine lv_iadd hx hb dL_law_218 ?_
      refine zt_i (y := nI (i + 2)) (nI_add i 2) ?_
      refine ly_s hx hb hX hbl hbA w hL (k := i + 2) (by omega) dL_law_219 ?_
      refine lv_aload_n hx hb dL_law_220 rfl (lv_at hl 0 rfl) ?_
      refine lv_iload_n hx hb dL_law_221 rfl (lv_at hl 3 rfl) ?_
      refine lv_iconst (v := 3) hx hb dL_law_222 (by decide) ?_
      refine lv_iadd hx hb dL_law_223 ?_
      refine zt_i (y := nI (i + 3)) (nI_add i 3) ?_
      refine ly_s hx hb hX hbl hbA w hL (k := i + 3) (by omega) dL_law_224 ?_
      refine lv_aload_n hx hb dL_law_225 rfl (lv_at hl 0 rfl) ?_
      refine lv_iload_n hx hb dL_law_226 rfl (lv_at hl 3 rfl) ?_
      refine lv_iconst (v := 4) hx hb dL_law_227 (by decide) ?_
      refine lv_iadd hx hb dL_law_228 ?_
      refine zt_i (y := nI (i + 4)) (nI_add i 4) ?_
      refine ly_s hx hb hX hbl hbA w hL (k := i + 4) (by omega) dL_law_229 ?_
      refine ly_m (As := [.int (xs (i + 1)), .int (xs (i + 2)), .int (xs (i + 3)), .int (xs (i + 4))]) (rest := [.int rx]) S hK w hA (tM_fill l dC dI cI cZ g _ τ (xs (i + 1)) (xs (i + 2)) (xs (i + 3)) (xs (i + 4))) (cwlm_fill hts ⟨Nat.le_of_ble_eq_true rfl, Nat.le_of_ble_eq_true rfl⟩) rfl hl.1 rfl (Nat.le_of_ble_eq_true rfl) dL_law_230 ⟨Nat.le_refl _, Nat.le_refl _⟩ (fun rm um H locs qm w => ?_)
      have hjn := op_join qx qm (k := 32 * (i + 5)) (by omega)
      refine lv_icmp_eq (tgt := 417) hx hb dL_law_233 (by decide) (fun c_e => ?_) (fun c_e => absurd hjn.1 c_e)
      refine lv_iinc (v := nI (i + 5)) (lv' := [(3, .int (nI (i + 5))), (0, .ref b), (1, .ref (a 0)), (2, .ref (g 0))]) hx hb dL_law_417 hl (k := 3) rfl (nI_add i 5) (by decide) rfl (fun ls hl => ?_)
      refine lv_goto (tgt := 18) hx hb dL_law_420 (by decide) ?_
      exact ih (i + 5) ux um _ _ _ (by omega) ⟨w, lv_sub hl [1, 2, 3, 0] rfl, h5, hjn.2⟩
    · refine lv_tableIn (tgt := 238) hx hb dL_law_32 (by decide) (by decide) (off := 206) rfl (by decide) ?_
      refine lv_aload_n hx hb dL_law_238 rfl (lv_at hl 1 rfl) ?_
      refine ly_x (As := []) (rest := []) S hK w hA (tX_sync l dC dI cI cZ a _ σ τ (32 * i) (by omega) hR) (cwlx_sync hts ⟨Nat.le_of_ble_eq_true rfl, Nat.le_of_ble_eq_true rfl⟩) rfl hl.1 rfl (Nat.le_of_ble_eq_true rfl) dL_law_239 ⟨Nat.le_refl _, Nat.le_refl _⟩ (fun rx ux H locs qx w => ?_)
      refine lv_aload_n hx hb dL_law_242 rfl (lv_at hl 2 rfl) ?_
      refine ly_m (As := []) (rest := [.int rx]) S hK w hA (tM_sync l dC dI cI cZ g _ τ) (cwlm_sync hts ⟨Nat.le_of_ble_eq_true rfl, Nat.le_of_ble_eq_true rfl⟩) rfl hl.1 rfl (Nat.le_of_ble_eq_true rfl) dL_law_243 ⟨Nat.le_refl _, Nat.le_refl _⟩ (fun rm um H locs qm w => ?_)
      have hjn := op_join qx qm (k := 32 * (i + 5)) (by omega)
      refine lv_icmp_eq (tgt := 417) hx hb dL_law_246 (by decide) (fun c_e => ?_) (fun c_e => absurd hjn.1 c_e)
      refine lv_iinc (v := nI (i + 5)) (lv' := [(3, .int (nI (i + 5))), (0, .ref b), (1, .ref (a 0)), (2, .ref (g 0))]) hx hb dL_law_417 hl (k := 3) rfl (nI_add i 5) (by decide) rfl (fun ls hl => ?_)
      refine lv_goto (tgt := 18) hx hb dL_law_420 (by decide) ?_
      exact ih (i + 5) ux um _ _ _ (by omega) ⟨w, lv_sub hl [1, 2, 3, 0] rfl, h5, hjn.2⟩
    · refine lv_tableIn (tgt := 251) hx hb dL_law_32 (by decide) (by decide) (off := 219) rfl (by decide) ?_
      refine lv_aload_n hx hb dL_law_251 rfl (lv_at hl 1 rfl) ?_
      refine ly_x (As := []) (rest := []) S hK w hA (tX_begin l dC dI cI cZ a _ σ τ (32 * i) (by omega) hR) (cwlx_begin hts ⟨Nat.le_of_ble_eq_true rfl, Nat.le_of_ble_eq_true rfl⟩) rfl hl.1 rfl (Nat.le_of_ble_eq_true rfl) dL_law_252 ⟨Nat.le_refl _, Nat.le_refl _⟩ (fun rx ux H locs qx w => ?_)
      refine lv_aload_n hx hb dL_law_255 rfl (lv_at hl 2 rfl) ?_
      refine ly_m (As := []) (rest := [.int rx]) S hK w hA (tM_begin l dC dI cI cZ g _ τ) (cwlm_begin hts ⟨Nat.le_of_ble_eq_true rfl, Nat.le_of_ble_eq_true rfl⟩) rfl hl.1 rfl (Nat.le_of_ble_eq_true rfl) dL_law_256 ⟨Nat.le_refl _, Nat.le_refl _⟩ (fun rm um H locs qm w => ?_)
      have hjn := op_join qx qm (k := 32 * (i + 5)) (by omega)
      refine lv_icmp_eq (tgt := 417) hx hb dL_law_259 (by decide) (fun c_e => ?_) (fun c_e => absurd hjn.1 c_e)
      refine lv_iinc (v := nI (i + 5)) (lv' := [(3, .int (nI (i + 5))), (0, .ref b), (1, .ref (a 0)), (2, .ref (g 0))]) hx hb dL_law_417 hl (k := 3) rfl (nI_add i 5) (by decide) rfl (fun ls hl => ?_)
      refine lv_goto (tgt := 18) hx hb dL_law_420 (by decide) ?_
      exact ih (i + 5) ux um _ _ _ (by omega) ⟨w, lv_sub hl [1, 2, 3, 0] rfl, h5, hjn.2⟩
    · refine lv_tableIn (tgt := 264) hx hb dL_law_32 (by decide) (by decide) (off := 232) rfl (by decide) ?_
      refine lv_aload_n hx hb dL_law_264 rfl (lv_at hl 1 rfl) ?_
      refine ly_x (As := []) (rest := []) S hK w hA (tX_commit l dC dI cI cZ a _ σ τ (32 * i) (by omega) hR) (cwlx_commit hts ⟨Nat.le_of_ble_eq_true rfl, Nat.le_of_ble_eq_true rfl⟩) rfl hl.1 rfl (Nat.le_of_ble_eq_true rfl) dL_law_265 ⟨Nat.le_refl _, Nat.le_refl _⟩ (fun rx ux H locs qx w => ?_)
      refine lv_aload_n hx hb dL_law_268 rfl (lv_at hl 2 rfl) ?_
      refine ly_m (As := []) (rest := [.int rx]) S hK w hA (tM_commit l dC dI cI cZ g _ τ) (cwlm_commit hts ⟨Nat.le_of_ble_eq_true rfl, Nat.le_of_ble_eq_true rfl⟩) rfl hl.1 rfl (Nat.le_of_ble_eq_true rfl) dL_law_269 ⟨Nat.le_refl _, Nat.le_refl _⟩ (fun rm um H locs qm w => ?_)
      have hjn := op_join qx qm (k := 32 * (i + 5)) (by omega)
      refine lv_icmp_eq (tgt := 417) hx hb dL_law_272 (by decide) (fun c_e => ?_) (fun c_e => absurd hjn.1 c_e)
      refine lv_iinc (v := nI (i + 5)) (lv' := [(3, .int (nI (i + 5))), (0, .ref b), (1, .ref (a 0)), (2, .ref (g 0))]) hx hb dL_law_417 hl (k := 3) rfl (nI_add i 5) (by decide) rfl (fun ls hl => ?_)
      refine lv_goto (tgt := 18) hx hb dL_law_420 (by decide) ?_
      exact ih (i + 5) ux um _ _ _ (by omega) ⟨w, lv_sub hl [1, 2, 3, 0] rfl, h5, hjn.2⟩
    · refine lv_tableIn (tgt := 277) hx hb dL_law_32 (by decide) (by decide) (off := 245) rfl (by decide) ?_
      refine lv_aload_n hx hb dL_law_277 rfl (lv_at hl 1 rfl) ?_
      refine ly_x (As := []) (rest := []) S hK w hA (tX_abort l dC dI cI cZ a _ σ τ (32 * i) (by omega) hR) (cwlx_abort hts ⟨Nat.le_of_ble_eq_true rfl, Nat.le_of_ble_eq_true rfl⟩) rfl hl.1 rfl (Nat.le_of_ble_eq_true rfl) dL_law_278 ⟨Nat.le_refl _, Nat.le_refl _⟩ (fun rx ux H locs qx w => ?_)
      refine lv_aload_n hx hb dL_law_281 rfl (lv_at hl 2 rfl) ?_
      refine ly_m (As := []) (rest := [.int rx]) S hK w hA (tM_abort l dC dI cI cZ g _ τ) (cwlm_abort hts ⟨Nat.le_of_ble_eq_true rfl, Nat.le_of_ble_eq_true rfl⟩) rfl hl.1 rfl (Nat.le_of_ble_eq_true rfl) dL_law_282 ⟨Nat.le_refl _, Nat.le_refl _⟩ (fun rm um H locs qm w => ?_)
      have hjn := op_join qx qm (k := 32 * (i + 5)) (by omega)
      refine lv_icmp_eq (tgt := 417) hx hb dL_law_285 (by decide) (fun c_e => ?_) (fun c_e => absurd hjn.1 c_e)
      refine lv_iinc (v := nI (i + 5)) (lv' := [(3, .int (nI (i + 5))), (0, .ref b), (1, .ref (a 0)), (2, .ref (g 0))]) hx hb dL_law_417 hl (k := 3) rfl (nI_add i 5) (by decide) rfl (fun ls hl => ?_)
      refine lv_goto (tgt := 18) hx hb dL_law_420 (by decide) ?_
      exact ih (i + 5) ux um _ _ _ (by omega) ⟨w, lv_sub hl [1, 2, 3, 0] rfl, h5, hjn.2⟩
    · refine lv_tableIn (tgt := 290) hx hb dL_law_32 (by decide) (by decide) (off := 258) rfl (by decide) ?_
      refine lv_aload_n hx hb dL_law_290 rfl (lv_at hl 1 rfl) ?_
      refine ly_x (As := []) (rest := []) S hK w hA (tX_crash l dC dI cI cZ a _ σ τ (32 * i) (by omega) hR) (cwlx_crash hts ⟨Nat.le_of_ble_eq_true rfl, Nat.le_of_ble_eq_true rfl⟩) rfl hl.1 rfl (Nat.le_of_ble_eq_true rfl) dL_law_291 ⟨Nat.le_refl _, Nat.le_refl _⟩ (fun rx ux H locs qx w => ?_)
      refine lv_aload_n hx hb dL_law_294 rfl (lv_at hl 2 rfl) ?_
      refine ly_m (As := []) (rest := [.int rx]) S hK w hA (tM_crash l dC dI cI cZ g _ τ) (cwlm_crash hts ⟨Nat.le_of_ble_eq_true rfl, Nat.le_of_ble_eq_true rfl⟩) rfl hl.1 rfl (Nat.le_of_ble_eq_true rfl) dL_law_295 ⟨Nat.le_refl _, Nat.le_refl _⟩ (fun rm um H locs qm w => ?_)
      have hjn := op_join qx qm (k := 32 * (i + 5)) (by omega)
      refine lv_icmp_eq (tgt := 417) hx hb dL_law_298 (by decide) (fun c_e => ?_) (fun c_e => absurd hjn.1 c_e)
      refine lv_iinc (v := nI (i + 5)) (lv' := [(3, .int (nI (i + 5))), (0, .ref b), (1, .ref (a 0)), (2, .ref (g 0))]) hx hb dL_law_417 hl (k := 3) rfl (nI_add i 5) (by decide) rfl (fun ls hl => ?_)
      refine lv_goto (tgt := 18) hx hb dL_law_420 (by decide) ?_
      exact ih (i + 5) ux um _ _ _ (by omega) ⟨w, lv_sub hl [1, 2, 3, 0] rfl, h5, hjn.2⟩
    · refine lv_tableIn (tgt := 303) hx hb dL_law_32 (by decide) (by decide) (off := 271) rfl (by decide) ?_
      refine lv_aload_n hx hb dL_law_303 rfl (lv_at hl 1 rfl) ?_
      refine lv_aload_n hx hb dL_law_304 rfl (lv_at hl 0 rfl) ?_
      refine lv_iload_n hx hb dL_law_305 rfl (lv_at hl 3 rfl) ?_
      refine lv_iconst (v := 1) hx hb dL_law_306 (by decide) ?_
      refine lv_iadd hx hb dL_law_307 ?_
      refine zt_i (y := nI (i + 1)) (nI_add i 1) ?_
      refine ly_s hx hb hX hbl hbA w hL (k := i + 1) (by omega) dL_law_308 ?_
      refine ly_x (As := [.int (xs (i + 1))]) (rest := []) S hK w hA (tX_crashIn l dC dI cI cZ a _ σ τ (32 * i) (by omega) hR (xs (i + 1))) (cwlx_crashIn hts ⟨Nat.le_of_ble_eq_true rfl, Nat.le_of_ble_eq_true rfl⟩) rfl hl.1 rfl (Nat.le_of_ble_eq_true rfl) dL_law_309 ⟨Nat.le_refl _, Nat.le_refl _⟩ (fun rx ux H locs qx w => ?_)
      refine lv_aload_n hx hb dL_law_312 rfl (lv_at hl 2 rfl) ?_
      refine lv_aload_n hx hb dL_law_313 rfl (lv_at hl 0 rfl) ?_
      refine lv_iload_n hx hb dL_law_314 rfl (lv_at hl 3 rfl) ?_
      refine lv_iconst (v := 1) hx hb dL_law_315 (by decide) ?_
      refine lv_iadd hx hb dL_law_316 ?_
      refine zt_i (y := nI (i + 1)) (nI_add i 1) ?_
      refine ly_s hx hb hX hbl hbA w hL (k := i + 1) (by omega) dL_law_317 ?_
      refine ly_m (As := [.int (xs (i + 1))]) (rest := [.int rx]) S hK w hA (tM_crashIn l dC dI cI cZ g _ τ (xs (i + 1))) (cwlm_crashIn hts ⟨Nat.le_of_ble_eq_true rfl, Nat.le_of_ble_eq_true rfl⟩) rfl hl.1 rfl (Nat.le_of_ble_eq_true rfl) dL_law_318 ⟨Nat.le_refl _, Nat.le_refl _⟩ (fun rm um H locs qm w => ?_)
      have hjn := op_join qx qm (k := 32 * (i + 5)) (by omega)
      refine lv_icmp_eq (tgt := 417) hx hb dL_law_321 (by decide) (fun c_e => ?_) (fun c_e => absurd hjn.1 c_e)
      refine lv_iinc (v := nI (i + 5)) (lv' := [(3, .int (nI (i + 5))), (0, .ref b), (1, .ref (a 0)), (2, .ref (g 0))]) hx hb dL_law_417 hl (k := 3) rfl (nI_add i 5) (by decide) rfl (fun ls hl => ?_)
      refine lv_goto (tgt := 18) hx hb dL_law_420 (by decide) ?_
      exact ih (i + 5) ux um _ _ _ (by omega) ⟨w, lv_sub hl [1, 2, 3, 0] rfl, h5, hjn.2⟩
    · refine lv_tableIn (tgt := 326) hx hb dL_law_32 (by decide) (by decide) (off := 294) rfl (by decide) ?_
      refine lv_aload_n hx hb dL_law_326 rfl (lv_at hl 1 rfl) ?_
      refine ly_x (As := []) (rest := []) S hK w hA (tX_mount l dC dI cI cZ a _ σ τ (32 * i) (by omega) hR) (cwlx_mount hts ⟨Nat.le_of_ble_eq_true rfl, Nat.le_of_ble_eq_true rfl⟩) rfl hl.1 rfl (Nat.le_of_ble_eq_true rfl) dL_law_327 ⟨Nat.le_refl _, Nat.le_refl _⟩ (fun rx ux H locs qx w => ?_)
      refine lv_aload_n hx hb dL_law_330 rfl (lv_at hl 2 rfl) ?_
      refine ly_m (As := []) (rest := [.int rx]) S hK w hA (tM_mount l dC dI cI cZ g _ τ) (cwlm_mount hts ⟨Nat.le_of_ble_eq_true rfl, Nat.le_of_ble_eq_true rfl⟩) rfl hl.1 rfl (Nat.le_of_ble_eq_true rfl) dL_law_331 ⟨Nat.le_refl _, Nat.le_refl _⟩ (fun rm um H locs qm w => ?_)
      have hjn := op_join qx qm (k := 32 * (i + 5)) (by omega)
      refine lv_icmp_eq (tgt := 417) hx hb dL_law_334 (by decide) (fun c_e => ?_) (fun c_e => absurd hjn.1 c_e)
      refine lv_iinc (v := nI (i + 5)) (lv' := [(3, .int (nI (i + 5))), (0, .ref b), (1, .ref (a 0)), (2, .ref (g 0))]) hx hb dL_law_417 hl (k := 3) rfl (nI_add i 5) (by decide) rfl (fun ls hl => ?_)
      refine lv_goto (tgt := 18) hx hb dL_law_420 (by decide) ?_
      exact ih (i + 5) ux um _ _ _ (by omega) ⟨w, lv_sub hl [1, 2, 3, 0] rfl, h5, hjn.2⟩
    · refine lv_tableIn (tgt := 339) hx hb dL_law_32 (by decide) (by decide) (off := 307) rfl (by decide) ?_
      refine lv_aload_n hx hb dL_law_339 rfl (lv_at hl 1 rfl) ?_
      refine ly_x (As := []) (rest := []) S hK w hA (tX_unsynced l dC dI cI cZ a _ σ τ (32 * i) (by omega) hR) (cwlx_unsynced hts ⟨Nat.le_of_ble_eq_true rfl, Nat.le_of_ble_eq_true rfl⟩) rfl hl.1 rfl (Nat.le_of_ble_eq_true rfl) dL_law_340 ⟨Nat.le_refl _, Nat.le_refl _⟩ (fun rx ux H locs qx w => ?_)
      refine lv_aload_n hx hb dL_law_343 rfl (lv_at hl 2 rfl) ?_
      refine ly_m (As := []) (rest := [.int rx]) S hK w hA (tM_unsynced l dC dI cI cZ g _ τ) (cwlm_unsynced hts ⟨Nat.le_of_ble_eq_true rfl, Nat.le_of_ble_eq_true rfl⟩) rfl hl.1 rfl (Nat.le_of_ble_eq_true rfl) dL_law_344 ⟨Nat.le_refl _, Nat.le_refl _⟩ (fun rm um H locs qm w => ?_)
      have hjn := op_join qx qm (k := 32 * (i + 5)) (by omega)
      refine lv_icmp_eq (tgt := 417) hx hb dL_law_347 (by decide) (fun c_e => ?_) (fun c_e => absurd hjn.1 c_e)
      refine lv_iinc (v := nI (i + 5)) (lv' := [(3, .int (nI (i + 5))), (0, .ref b), (1, .ref (a 0)), (2, .ref (g 0))]) hx hb dL_law_417 hl (k := 3) rfl (nI_add i 5) (by decide) rfl (fun ls hl => ?_)
      refine lv_goto (tgt := 18) hx hb dL_law_420 (by decide) ?_
      exact ih (i + 5) ux um _ _ _ (by omega) ⟨w, lv_sub hl [1, 2, 3, 0] rfl, h5, hjn.2⟩
    · refine lv_tableIn (tgt := 352) hx hb dL_law_32 (by decide) (by decide) (off := 320) rfl (by decide) ?_
      refine lv_aload_n hx hb dL_law_352 rfl (lv_at hl 1 rfl) ?_
      refine ly_x (As := []) (rest := []) S hK w hA (tX_grouped l dC dI cI cZ a _ σ τ (32 * i) (by omega) hR) (cwlx_grouped hts ⟨Nat.le_of_ble_eq_true rfl, Nat.le_of_ble_eq_true rfl⟩) rfl hl.1 rfl (Nat.le_of_ble_eq_true rfl) dL_law_353 ⟨Nat.le_refl _, Nat.le_refl _⟩ (fun rx ux H locs qx w => ?_)
      refine lv_aload_n hx hb dL_law_356 rfl (lv_at hl 2 rfl) ?_
      refine ly_m (As := []) (rest := [.int rx]) S hK w hA (tM_grouped l dC dI cI cZ g _ τ) (cwlm_grouped hts ⟨Nat.le_of_ble_eq_true rfl, Nat.le_of_ble_eq_true rfl⟩) rfl hl.1 rfl (Nat.le_of_ble_eq_true rfl) dL_law_357 ⟨Nat.le_refl _, Nat.le_refl _⟩ (fun rm um H locs qm w => ?_)
      have hjn := op_join qx qm (k := 32 * (i + 5)) (by omega)
      refine lv_icmp_eq (tgt := 417) hx hb dL_law_360 (by decide) (fun c_e => ?_) (fun c_e => absurd hjn.1 c_e)
      refine lv_iinc (v := nI (i + 5)) (lv' := [(3, .int (nI (i + 5))), (0, .ref b), (1, .ref (a 0)), (2, .ref (g 0))]) hx hb dL_law_417 hl (k := 3) rfl (nI_add i 5) (by decide) rfl (fun ls hl => ?_)
      refine lv_goto (tgt := 18) hx hb dL_law_420 (by decide) ?_
      exact ih (i + 5) ux um _ _ _ (by omega) ⟨w, lv_sub hl [1, 2, 3, 0] rfl, h5, hjn.2⟩
    · refine lv_tableIn (tgt := 365) hx hb dL_law_32 (by decide) (by decide) (off := 333) rfl (by decide) ?_
      refine lv_aload_n hx hb dL_law_365 rfl (lv_at hl 1 rfl) ?_
      refine ly_x (As := []) (rest := []) S hK w hA (tX_pending l dC dI cI cZ a _ σ τ (32 * i) (by omega) hR) (cwlx_pending hts ⟨Nat.le_of_ble_eq_true rfl, Nat.le_of_ble_eq_true rfl⟩) rfl hl.1 rfl (Nat.le_of_ble_eq_true rfl) dL_law_366 ⟨Nat.le_refl _, Nat.le_refl _⟩ (fun rx ux H locs qx w => ?_)
      refine lv_aload_n hx hb dL_law_369 rfl (lv_at hl 2 rfl) ?_
      refine ly_m (As := []) (rest := [.int rx]) S hK w hA (tM_pending l dC dI cI cZ g _ τ) (cwlm_pending hts ⟨Nat.le_of_ble_eq_true rfl, Nat.le_of_ble_eq_true rfl⟩) rfl hl.1 rfl (Nat.le_of_ble_eq_true rfl) dL_law_370 ⟨Nat.le_refl _, Nat.le_refl _⟩ (fun rm um H locs qm w => ?_)
      have hjn := op_join qx qm (k := 32 * (i + 5)) (by omega)
      refine lv_icmp_eq (tgt := 417) hx hb dL_law_373 (by decide) (fun c_e => ?_) (fun c_e => absurd hjn.1 c_e)
      refine lv_iinc (v := nI (i + 5)) (lv' := [(3, .int (nI (i + 5))), (0, .ref b), (1, .ref (a 0)), (2, .ref (g 0))]) hx hb dL_law_417 hl (k := 3) rfl (nI_add i 5) (by decide) rfl (fun ls hl => ?_)
      refine lv_goto (tgt := 18) hx hb dL_law_420 (by decide) ?_
      exact ih (i + 5) ux um _ _ _ (by omega) ⟨w, lv_sub hl [1, 2, 3, 0] rfl, h5, hjn.2⟩
    · refine lv_tableIn (tgt := 378) hx hb dL_law_32 (by decide) (by decide) (off := 346) rfl (by decide) ?_
      refine lv_aload_n hx hb dL_law_378 rfl (lv_at hl 1 rfl) ?_
      refine ly_x (As := []) (rest := []) S hK w hA (tX_sum l dC dI cI cZ a _ σ τ (32 * i) (by omega) hR) (cwlx_sum hts ⟨Nat.le_of_ble_eq_true rfl, Nat.le_of_ble_eq_true rfl⟩) rfl hl.1 rfl (Nat.le_of_ble_eq_true rfl) dL_law_379 ⟨Nat.le_refl _, Nat.le_refl _⟩ (fun rx ux H locs qx w => ?_)
      refine lv_aload_n hx hb dL_law_382 rfl (lv_at hl 2 rfl) ?_
      refine ly_m (As := []) (rest := [.int rx]) S hK w hA (tM_sum l dC dI cI cZ g _ τ) (cwlm_sum hts ⟨Nat.le_of_ble_eq_true rfl, Nat.le_of_ble_eq_true rfl⟩) rfl hl.1 rfl (Nat.le_of_ble_eq_true rfl) dL_law_383 ⟨Nat.le_refl _, Nat.le_refl _⟩ (fun rm um H locs qm w => ?_)
      have hjn := op_join qx qm (k := 32 * (i + 5)) (by omega)
      refine lv_icmp_eq (tgt := 417) hx hb dL_law_386 (by decide) (fun c_e => ?_) (fun c_e => absurd hjn.1 c_e)
      refine lv_iinc (v := nI (i + 5)) (lv' := [(3, .int (nI (i + 5))), (0, .ref b), (1, .ref (a 0)), (2, .ref (g 0))]) hx hb dL_law_417 hl (k := 3) rfl (nI_add i 5) (by decide) rfl (fun ls hl => ?_)
      refine lv_goto (tgt := 18) hx hb dL_law_420 (by decide) ?_
      exact ih (i + 5) ux um _ _ _ (by omega) ⟨w, lv_sub hl [1, 2, 3, 0] rfl, h5, hjn.2⟩
    · refine lv_tableIn (tgt := 391) hx hb dL_law_32 (by decide) (by decide) (off := 359) rfl (by decide) ?_
      refine lv_aload_n hx hb dL_law_391 rfl (lv_at hl 1 rfl) ?_
      refine ly_x (As := []) (rest := []) S hK w hA (tX_clean l dC dI cI cZ a _ σ τ (32 * i) (by omega) hR) (cwlx_clean hts ⟨Nat.le_of_ble_eq_true rfl, Nat.le_of_ble_eq_true rfl⟩) rfl hl.1 rfl (Nat.le_of_ble_eq_true rfl) dL_law_392 ⟨Nat.le_refl _, Nat.le_refl _⟩ (fun rx ux H locs qx w => ?_)
      refine lv_aload_n hx hb dL_law_395 rfl (lv_at hl 2 rfl) ?_
      refine ly_m (As := []) (rest := [.int rx]) S hK w hA (tM_clean l dC dI cI cZ g _ τ) (cwlm_clean hts ⟨Nat.le_of_ble_eq_true rfl, Nat.le_of_ble_eq_true rfl⟩) rfl hl.1 rfl (Nat.le_of_ble_eq_true rfl) dL_law_396 ⟨Nat.le_refl _, Nat.le_refl _⟩ (fun rm um H locs qm w => ?_)
      have hjn := op_join qx qm (k := 32 * (i + 5)) (by omega)
      refine lv_icmp_eq (tgt := 417) hx hb dL_law_399 (by decide) (fun c_e => ?_) (fun c_e => absurd hjn.1 c_e)
      refine lv_iinc (v := nI (i + 5)) (lv' := [(3, .int (nI (i + 5))), (0, .ref b), (1, .ref (a 0)), (2, .ref (g 0))]) hx hb dL_law_417 hl (k := 3) rfl (nI_add i 5) (by decide) rfl (fun ls hl => ?_)
      refine lv_goto (tgt := 18) hx hb dL_law_420 (by decide) ?_
      exact ih (i + 5) ux um _ _ _ (by omega) ⟨w, lv_sub hl [1, 2, 3, 0] rfl, h5, hjn.2⟩
    · refine lv_tableIn (tgt := 404) hx hb dL_law_32 (by decide) (by decide) (off := 372) rfl (by decide) ?_
      refine lv_aload_n hx hb dL_law_404 rfl (lv_at hl 1 rfl) ?_
      refine ly_x (As := []) (rest := []) S hK w hA (tX_check l dC dI cI cZ a _ σ τ (32 * i) (by omega) hR) (cwlx_check hts ⟨Nat.le_of_ble_eq_true rfl, Nat.le_of_ble_eq_true rfl⟩) rfl hl.1 rfl (Nat.le_of_ble_eq_true rfl) dL_law_405 ⟨Nat.le_refl _, Nat.le_refl _⟩ (fun rx ux H locs qx w => ?_)
      refine lv_aload_n hx hb dL_law_408 rfl (lv_at hl 2 rfl) ?_
      refine ly_m (As := []) (rest := [.int rx]) S hK w hA (tM_check l dC dI cI cZ g _ τ) (cwlm_check hts ⟨Nat.le_of_ble_eq_true rfl, Nat.le_of_ble_eq_true rfl⟩) rfl hl.1 rfl (Nat.le_of_ble_eq_true rfl) dL_law_409 ⟨Nat.le_refl _, Nat.le_refl _⟩ (fun rm um H locs qm w => ?_)
      have hjn := op_join qx qm (k := 32 * (i + 5)) (by omega)
      refine lv_icmp_eq (tgt := 417) hx hb dL_law_412 (by decide) (fun c_e => ?_) (fun c_e => absurd hjn.1 c_e)
      refine lv_iinc (v := nI (i + 5)) (lv' := [(3, .int (nI (i + 5))), (0, .ref b), (1, .ref (a 0)), (2, .ref (g 0))]) hx hb dL_law_417 hl (k := 3) rfl (nI_add i 5) (by decide) rfl (fun ls hl => ?_)
      refine lv_goto (tgt := 18) hx hb dL_law_420 (by decide) ?_
      exact ih (i + 5) ux um _ _ _ (by omega) ⟨w, lv_sub hl [1, 2, 3, 0] rfl, h5, hjn.2⟩
    · refine lv_tableOut (tgt := 417) hx hb dL_law_32 (Or.inr (by rw [nI_toInt (by omega)]; omega)) (by decide) ?_
      refine lv_iinc (v := nI (i + 5)) (lv' := [(3, .int (nI (i + 5))), (0, .ref b), (1, .ref (a 0)), (2, .ref (g 0))]) hx hb dL_law_417 hl (k := 3) rfl (nI_add i 5) (by decide) rfl (fun ls hl => ?_)
      refine lv_goto (tgt := 18) hx hb dL_law_420 (by decide) ?_
      exact ih (i + 5) σ τ _ _ _ (by omega) ⟨w, lv_sub hl [1, 2, 3, 0] rfl, h5, hR.mono (by omega)⟩
set_option maxHeartbeats 4000000 in
set_option maxRecDepth 100000 in
/-- from the entry, for every script of at most 320 ints, the law comes to its end with true -/
theorem whole_start {p : Program} {e : Env} {s : State} {m : MethodId} {below : List Frame} {meth : Method} {c : Code} (l : Launch) {b L : Nat} {xs : Nat → Int32} (hL : L ≤ 320) (C0 : lw_At p s m meth c b L xs) : W p l e room_1 s m #[Value.ref b] below meth c s.heap [] 0 0 (lw_Z below #[Value.ref b] s) (entryFrame m ([Value.ref b] : List Value).toArray 4) := by
  obtain ⟨hx, hb, hr, hml, hown, hts0, hX, hbl, hlocks, hgv⟩ := id C0
  have hts : ∀ w ∈ lw_all, w.before #[Value.ref b] s = true := fun w h => hts0 w (lw_all_tbl h)
  have hA : ∀ q : Nat, s.heap.size ≤ q → (fun q : Nat => s.heap.size ≤ q) q := fun _ h => h
  obtain ⟨c0, iS0, hKn0⟩ := u_known (C := RX0) (T := TX0) (N := 13) (n := 13) hts0 (fun w h => lw_all_tbl (in_X0 w h)) (hts0 _ (lw_all_tbl q24))
  obtain ⟨c1, iS1, hKn1⟩ := u_known (C := RX1) (T := TX1) (N := 5) (n := 5) hts0 (fun w h => lw_all_tbl (in_X1 w h)) (hts0 _ (lw_all_tbl q210))
  obtain ⟨dC, dI, hKc⟩ : ∃ (dC : Nat → ClassId) (dI : Nat → Nat → Nat), ∀ (k : Nat) (q : vw_C), vwCl[k]? = some q → u_Kn s q.1 q.2.1 q.2.2 (dC k) (dI k) := by
    refine ⟨fun k => if k = 0 then c0 else c1, fun k => if k = 0 then iS0 else iS1, ?_⟩
    intro k q hq
    match k, hq with
    | 0, hq => cases hq; exact hKn0
    | 1, hq => cases hq; exact hKn1
    | k + 2, hq => simp [vwCl] at hq
  have hS : va_S (fun q : Nat => s.heap.size ≤ q) s.heap s.heap [] := va_S.rf
  have hK : va_K (dC, dI) vwCl [] s := ⟨hKc, fun k q h => by simp at h⟩
  have hP : va_P (dC, dI) vwCl [] s.heap := fun k q h => by simp at h
  have hD : va_D (fun q : Nat => s.heap.size ≤ q) [] := ⟨fun i j p q h => by simp at h, fun k q h => by simp at h⟩
  have hl := lv_entry ([.ref b]) (n := 4) (Nat.le_of_ble_eq_true rfl)
  rw [lg_entry_eq]
  generalize (lg_sl ([.ref b]) ++ List.replicate (4 - (lg_sl ([.ref b])).length) Slot.unset).toArray = ls at hl ⊢
  have hl : lv_has ls 4 [(0, .ref b)] := hl
  refine va_new (ci := 0) (fs := [.null, .null, .null, .null, .null, .null, .null, .null, .int 0, .int 0, .int 0, .int 0, .int 0]) (C := RX0) (T := TX0) (N := 13) hx hb hts in_X0 tyX0 tyX0_ok hown (hts _ q23) (hts _ q24) (hts _ q21) hK hP hD hS hA rfl (fun j hj => by rcases (show j = 0 ∨ j = 1 ∨ j = 2 ∨ j = 3 ∨ j = 4 ∨ j = 5 ∨ j = 6 ∨ j = 7 ∨ j = 8 ∨ j = 9 ∨ j = 10 ∨ j = 11 ∨ j = 12 by omega) with rfl | rfl | rfl | rfl | rfl | rfl | rfl | rfl | rfl | rfl | rfl | rfl | rfl <;> rfl) (Nat.le_of_ble_eq_true rfl) (Nat.le_of_ble_eq_true rfl) dL_law_0 (fun qx H hP hD hS => ?_)
  have hP : va_P (dC, dI) vwCl [(qx, .inr (0, [.null, .null, .null, .null, .null, .null, .null, .null, .int 0, .int 0, .int 0, .int 0, .int 0]))] H := hP
  have hD : va_D (fun q : Nat => s.heap.size ≤ q) [(qx, .inr (0, [.null, .null, .null, .null, .null, .null, .null, .null, .int 0, .int 0, .int 0, .int 0, .int 0]))] := hD
  refine W.widen (k := 1) (n := 13) (Nat.le_of_ble_eq_true rfl) (Nat.le_of_ble_eq_true rfl) ?_
  refine lv_dup hx hb dL_law_3 rfl ?_
  have hFc := va_free (wc := [(qx, .inr (0, [.null, .null, .null, .null, .null, .null, .null, .null, .int 0, .int 0, .int 0, .int 0, .int 0]))]) hD hS hA [0] rfl
  refine va_callv (va_runI (As := []) (rest := [.ref qx]) ⟨hx, hb, hml, hown, hts⟩ (tX_init l dC dI qx H.size) (cwI 0 hts (lw_meth q27) rfl rfl rfl (hts _ q21) (hts _ q25) (hts _ q26) rfl (by decide +kernel) ⟨Nat.le_of_ble_eq_true rfl, Nat.le_of_ble_eq_true rfl⟩) ⟨fun a U g mk q => by obtain ⟨q0, q1, qP, qK, qD⟩ := q; exact ⟨q0, q1, qP, va_K.moved (u := U) (U := U.calling g mk a) (Vm.Alike.refl U.vm) qK, qD⟩, fun U hU hW => ⟨rfl, by rw [hU], by rw [hU]; exact hP, va_K.moved hW.alike hK, hD.weaken (fun _ _ _ _ => trivial)⟩⟩ rfl rfl hl.1 rfl (lv_room (Nat.le_of_ble_eq_true rfl)) dL_law_4 ⟨Nat.le_of_ble_eq_true rfl, Nat.le_of_ble_eq_true rfl⟩) hS (fun q _ h => hFc q h) hFc (fun u t H1 locs ht hvm hw hB hz1 hk1 hS => ?_)
  obtain ⟨cI, cZ, a, ha0, hP1, hK1, hD1⟩ := hB
  subst hw
  rw [ht] at hP1
  have hK1 := va_K.moved hvm.symm hK1
  have hP : va_P (dC, dI) vwCl (wX cI cZ a zX0) H1 := hP1
  have hD : va_D (fun q : Nat => s.heap.size ≤ q) (wX cI cZ a zX0) := hD1.weaken (fun _ _ _ h => hFc _ h)
  clear hP1 hD1 hFc hk1 hz1
  generalize H1 = H at hP hS ⊢
  refine W.widen (k := 9) (n := 289) (Nat.le_of_ble_eq_true rfl) (Nat.le_of_ble_eq_true rfl) ?_
  refine lv_astore_n (lv' := [(1, .ref qx), (0, .ref b)]) hx hb dL_law_7 rfl hl (by decide) rfl (fun ls hl => ?_)
  refine va_new (ci := 1) (fs := [.int 0, .int 0, .null, .null, .null]) (C := RX1) (T := TX1) (N := 5) hx hb hts in_X1 tyX1 tyX1_ok hown (hts _ q209) (hts _ q210) (hts _ q22) hK hP hD hS hA rfl (fun j hj => by rcases (show j = 0 ∨ j = 1 ∨ j = 2 ∨ j = 3 ∨ j = 4 by omega) with rfl | rfl | rfl | rfl | rfl <;> rfl) (Nat.le_of_ble_eq_true rfl) (Nat.le_of_ble_eq_true rfl) dL_law_8 (fun qm H hP hD hS => ?_)
  refine W.widen (k := 10) (n := 294) (Nat.le_of_ble_eq_true rfl) (Nat.le_of_ble_eq_true rfl) ?_
  refine lv_dup hx hb dL_law_11 rfl ?_
  have hPc := hP.sub (ws' := [(qm, .inr (1, [.int 0, .int 0, .null, .null, .null]))]) [9] rfl
  have hDc := hD.sub (ws' := [(qm, .inr (1, [.int 0, .int 0, .null, .null, .null]))]) [9] (by decide) rfl
  have hFc := va_free (wc := [(qm, .inr (1, [.int 0, .int 0, .null, .null, .null]))]) hD hS hA [9] rfl
  refine va_callv (va_runI (As := []) (rest := [.ref qm]) ⟨hx, hb, hml, hown, hts⟩ (tM_init l dC dI qm H.size) (cwI 0 hts (lw_meth q213) rfl rfl rfl (hts _ q22) (hts _ q211) (hts _ q212) rfl (by decide +kernel) ⟨Nat.le_of_ble_eq_true rfl, Nat.le_of_ble_eq_true rfl⟩) ⟨fun a U g mk q => by obtain ⟨q0, q1, qP, qK, qD⟩ := q; exact ⟨q0, q1, qP, va_K.moved (u := U) (U := U.calling g mk a) (Vm.Alike.refl U.vm) qK, qD⟩, fun U hU hW => ⟨rfl, by rw [hU], by rw [hU]; exact hPc, va_K.moved hW.alike hK, hDc.weaken (fun _ _ _ _ => trivial)⟩⟩ rfl rfl hl.1 rfl (lv_room (Nat.le_of_ble_eq_true rfl)) dL_law_12 ⟨Nat.le_of_ble_eq_true rfl, Nat.le_of_ble_eq_true rfl⟩) hS (fun q _ h => hFc q h) hFc (fun u t H1 locs ht hvm hw hB hz1 hk1 hS => ?_)
  obtain ⟨dI2, dZ2, g, hg0, hP1, hK2, hD1⟩ := hB
  subst hw
  rw [ht] at hP1
  have hK2 := va_K.moved hvm.symm hK2
  have hKK := hK1.app hK2
  have eI := zk_int hKK 0 2 rfl rfl
  have eZ := zk_bool hKK 1 3 rfl rfl
  subst eI
  subst eZ
  obtain ⟨hP, hD⟩ := va_join (wr := wX cI cZ a zX0) (w1 := wM cI cZ g zM0) hP hD [9] [0, 1, 2, 3, 4, 5, 6, 7, 8] rfl rfl (by decide) (by decide) hk1 hFc hP1 hD1
  refine W.widen (k := 600000) (n := 7290000) (Nat.le_of_ble_eq_true rfl) (Nat.le_of_ble_eq_true rfl) ?_
  refine lv_astore_n (lv' := [(2, .ref qm), (1, .ref qx), (0, .ref b)]) hx hb dL_law_15 rfl hl (by decide) rfl (fun ls hl => ?_)
  refine lv_iconst (v := 0) hx hb dL_law_16 (by decide) ?_
  refine lv_istore_n (lv' := [(3, .int 0), (2, .ref qm), (1, .ref qx), (0, .ref b)]) hx hb dL_law_17 rfl hl (by decide) rfl (fun ls hl => ?_)
  refine law_loop l hL C0 hK1 zX0 zM0 _ _ _ ⟨hP, hD, hS⟩ ?_ Rel_0
  rw [ha0, hg0]
  exact lv_sub hl [3, 2, 1, 0] rfl
end
section
set_option maxHeartbeats 4000000 in
theorem lw_walk (l : Launch) (b : Addr) (xs : List Int32) : MetFree l x (headSpec (Jvm.Cond.code x code maxLocals ret :: tables_1) room_1) (lw_P b xs) (fun _ _ _ _ _ => True) lw_Q := by
  refine MetFree.of_bodyS (code := code) (maxLocals := maxLocals) (ret := ret) (by decide) ?_ ?_
  · intro args s m h hn
    obtain ⟨meth, c, h1, h2, h3, h4, h5, h6, -, -⟩ := Cond.code_spec hn (atoms_spec (ws := Jvm.Cond.code x code maxLocals ret :: tables_1) h _ List.mem_cons_self)
    exact ⟨meth, c, h1, h2, h3, h4, h5, h6⟩
  · intro p e s m args below meth c s₁ B hml0 hP _
    obtain ⟨rfl, hx, hbd, hgv⟩ := hP
    obtain ⟨scr, harrAt, hlist, hof, hsmall⟩ := hx
    obtain ⟨hcb, hkn, -, -⟩ := State.arrayAt?_spec harrAt
    have hown : s.vm.findClass R_law = some m.cls := findClass_of_methodNamed B.named
    have hts0 : ∀ c ∈ (Jvm.Cond.code x code maxLocals ret :: tables_1), c.before #[Value.ref b] s = true := atoms_spec (ws := Jvm.Cond.code x code maxLocals ret :: tables_1) B.pre
    have hts : ∀ w ∈ lw_tbl, w.before #[Value.ref b] s = true := k2_hts_sels lw_privs (fun w hw => hts0 w (List.mem_cons_of_mem _ hw)) lw_privs_ok
    have hml : c.maxLocals = 4 := B.maxLocals_eq (hts0 _ List.mem_cons_self)
    have X₀ : Stand p l e room_1 s m #[Value.ref b] below meth c s₁ [] 0 0 := Stand.of_body B
    have hh0 : s₁.heap = s.heap := by rw [B.state]; rfl
    have hsz : scr.slots.size = xs.length := by rw [← Array.length_toList, hlist, List.length_map]
    have hval : ∀ j : Nat, j < xs.length → scr.slots[j]? = some (.int (xs.getD j 0)) := fun j hj => by
      rw [← Array.getElem?_toList, hlist]
      simp [hj]
    have hbl : b < s.heap.size := (Array.getElem?_eq_some_iff.mp hcb).1
    have hX : va_X b xs.length (fun j => xs.getD j 0) s s.heap := ⟨scr, hcb, hof, hkn, hsz, hval⟩
    have K : W p l e room_1 s m #[Value.ref b] below meth c s₁.heap [] 0 0 (lw_Z below #[Value.ref b] s) (entryFrame m ([Value.ref b] : List Value).toArray 4) := by
      rw [hh0]
      exact whole_start l hbd ⟨B.exec, B.bytes, B.returns, hml, hown, hts, hX, hbl, B.notSynchronized, hgv⟩
    obtain ⟨t, a1, o, b1, b2, b3⟩ := K s₁ rfl X₀
    exact ⟨t, o, a1, b1, b2, b3⟩
theorem lw_pre_spec {args : Array Value} {s : State} (h : (Jvm.Cond.and given_1 narrow_1).before args s = true) (hr : rest_1_c.before args s = true) : ∃ (b : Addr) (xs : List Int32), lw_P b xs args s := by
  have hs := flat_of_before _ h
  have hq := flat_of_before _ hr
  have hc : (Cond.count 1).before args s = true := hs _ (by decide +kernel)
  have harr : (Cond.arrayOf (.arg 0) .int).before args s = true := hs _ (by decide +kernel)
  have hle : (Cond.le (.length (.arg 0)) (.int 320)).before args s = true := hs _ (by decide +kernel)
  have hlen : (Cond.isInt (.length (.arg 0))).before args s = true := hq _ (by decide +kernel)
  have hall : (Cond.all (.arg 0) (.isInt (.elem (.arg 0) (.index 0)))).before args s = true := hq _ (by decide +kernel)
  obtain ⟨b, xs, hb, hx⟩ := State.ints_of_pre rfl harr hlen hall
  have hsm : xs.length < 2 ^ 31 := hx.choose_spec.2.2.2
  have hev : (Term.length (.arg 0)).eval args s none [] s = some (.int xs.length.toInt32) := hx.length_eval hb
  have hv := Cond.le_ints hev (show (Term.int 320).eval args s none [] s = some (.int 320) from rfl)
  have hd : xs.length.toInt32 ≤ 320 := by
    simpa [Cond.before, Cond.holds, hv] using hle
  have hN : xs.length ≤ 320 := (Int32.ofNat_le_ofNat hsm (by decide)).mp (show Int32.ofNat xs.length ≤ Int32.ofNat 320 from hd)
  exact ⟨b, xs, Cond.one_arg hc (show args[0]? = some (.ref b) from hb), hx, hN, h⟩
theorem lw_comes (l : Launch) : Comes l x (Jvm.Cond.code x code maxLocals ret :: tables_1) room_1 (fun tb e args s => Calls_1 tb e args s ∧ rest_1 tb e args s ∧ Pre_1 tb e args s)
    (fun _ _ args s o t => lw_Q args s o t) := by
  intro p e ha hc hk s m args below hf hfit hheap happ hpre
  obtain ⟨b, xs, hP⟩ := lw_pre_spec hpre.2.2 hpre.2.1
  obtain ⟨k, o, h1, h2, h3, hQ⟩ := lw_walk l b xs p e ha hc hk s m args below hf ((Spec.applies_iff_loose hf).mp happ).1 hP trivial
  exact ⟨k, o, h1, h2, h3, hQ⟩
theorem lw_frame {s t : State} {o : Outcome} {args : Array Value} (h : Framed s o t [] 600000 7290000) :
    Framed s o t (fieldLocs frame_1_writes args s ++ arrayLocs frame_1_arrays args s ++ staticLocs frame_1_statics s) 600000 7290000 := h
theorem lw_limb (L : Cond) (hL : ∀ (args : Array Value) (s t : State), L.after args s (.returned (some (.int 1))) t = true) :
    ArmFor flags0 classFile x code maxLocals ret World_1 tables_1 room_1 Calls_1 rest_1 Pre_1
      (fun tb e a s o t => postC L tb e a s o t ∧ Framed s o t (fieldLocs frame_1_writes a s ++ arrayLocs frame_1_arrays a s ++ staticLocs frame_1_statics s) 600000 7290000) := by
  intro l _ _ _ p e ha hc hk s m args below hf hfit hheap happ hpre
  obtain ⟨k, o, h1, h2, h3, rfl, hF⟩ := lw_comes l p e ha hc hk s m args below hf hfit hheap happ hpre
  exact ⟨k, _, h1, h2, h3, hL args s _, lw_frame hF⟩
theorem i_vc : Claimed_1_1 ∧ Claimed_1_2 := ⟨lw_limb limb_1_1 (fun args s t => by simp [limb_1_1, Cond.after, Cond.holds, Cond.value]), lw_limb limb_1_2 (fun args s t => Cond.after_iff.mpr (by
  first | (rw [show limb_1_2 = Cond.eq .result (.int 1) from rfl, Cond.eq_ints (x := 1) (y := 1) rfl rfl]; simp; done) | (simp [limb_1_2, Cond.value, Term.eval]; done)))⟩
end
