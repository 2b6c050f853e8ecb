section
-- ===== PART A: goes FIRST, ahead of the names: the tables' words, and 'selects' of the private methods out of them =====
/-- a private method of a class that the tables say can be made, by its rows of tables_1 -/
def lw_okq (q : MethodName × Nat) : Prop := (q.1.cls ≠ "java/lang/invoke/MethodHandle" ∧ q.1.cls ≠ "java/lang/invoke/VarHandle") ∧ Cond.instantiable q.1.cls q.2 ∈ tables_1 ∧ Cond.privateMethod q.1 ∈ tables_1 ∧ Cond.instanceMethod q.1 ∈ tables_1
set_option maxRecDepth 100000
theorem lw_t1 {w : Cond} (h : w ∈ tables_1_1) : w ∈ tables_1 := List.mem_append_left _ h
theorem lw_t2 {w : Cond} (h : w ∈ tables_1_2) : w ∈ tables_1 := List.mem_append_right _ h
theorem lw_p0 : lw_okq (⟨"IntegrityLayer", "commit", "(I)V"⟩, 14) := ⟨⟨by decide +kernel, by decide +kernel⟩, lw_t1 (List.mem_of_getElem? (i := 4) rfl), lw_t1 (List.mem_of_getElem? (i := 73) rfl), lw_t1 (List.mem_of_getElem? (i := 74) rfl)⟩
theorem lw_p1 : lw_okq (⟨"IntegrityLayer", "fillSlot", "(II)I"⟩, 14) := ⟨⟨by decide +kernel, by decide +kernel⟩, lw_t1 (List.mem_of_getElem? (i := 4) rfl), lw_t1 (List.mem_of_getElem? (i := 77) rfl), lw_t1 (List.mem_of_getElem? (i := 78) rfl)⟩
theorem lw_p2 : lw_okq (⟨"IntegrityLayer", "copyHome", "()V"⟩, 14) := ⟨⟨by decide +kernel, by decide +kernel⟩, lw_t1 (List.mem_of_getElem? (i := 4) rfl), lw_t1 (List.mem_of_getElem? (i := 81) rfl), lw_t1 (List.mem_of_getElem? (i := 82) rfl)⟩
theorem lw_p3 : lw_okq (⟨"IntegrityLayer", "applySlot", "(I)V"⟩, 14) := ⟨⟨by decide +kernel, by decide +kernel⟩, lw_t1 (List.mem_of_getElem? (i := 4) rfl), lw_t1 (List.mem_of_getElem? (i := 85) rfl), lw_t1 (List.mem_of_getElem? (i := 86) rfl)⟩
theorem lw_p4 : lw_okq (⟨"IntegrityLayer", "sumOf", "(I)I"⟩, 14) := ⟨⟨by decide +kernel, by decide +kernel⟩, lw_t1 (List.mem_of_getElem? (i := 4) rfl), lw_t1 (List.mem_of_getElem? (i := 89) rfl), lw_t1 (List.mem_of_getElem? (i := 90) rfl)⟩
theorem lw_p5 : lw_okq (⟨"IntegrityLayer", "dropWaiting", "(I)V"⟩, 14) := ⟨⟨by decide +kernel, by decide +kernel⟩, lw_t1 (List.mem_of_getElem? (i := 4) rfl), lw_t1 (List.mem_of_getElem? (i := 93) rfl), lw_t1 (List.mem_of_getElem? (i := 94) rfl)⟩
theorem lw_p6 : lw_okq (⟨"IntegrityLayer", "clampWaiting", "(I)I"⟩, 14) := ⟨⟨by decide +kernel, by decide +kernel⟩, lw_t1 (List.mem_of_getElem? (i := 4) rfl), lw_t1 (List.mem_of_getElem? (i := 101) rfl), lw_t1 (List.mem_of_getElem? (i := 102) rfl)⟩
theorem lw_p7 : lw_okq (⟨"IntegrityLayer", "tear", "(II)V"⟩, 14) := ⟨⟨by decide +kernel, by decide +kernel⟩, lw_t1 (List.mem_of_getElem? (i := 4) rfl), lw_t1 (List.mem_of_getElem? (i := 109) rfl), lw_t1 (List.mem_of_getElem? (i := 110) rfl)⟩
theorem lw_p8 : lw_okq (⟨"IntegrityLayer", "replay", "()V"⟩, 14) := ⟨⟨by decide +kernel, by decide +kernel⟩, lw_t1 (List.mem_of_getElem? (i := 4) rfl), lw_t1 (List.mem_of_getElem? (i := 113) rfl), lw_t1 (List.mem_of_getElem? (i := 114) rfl)⟩
theorem lw_p9 : lw_okq (⟨"IntegrityLayer", "whole", "(II)Z"⟩, 14) := ⟨⟨by decide +kernel, by decide +kernel⟩, lw_t1 (List.mem_of_getElem? (i := 4) rfl), lw_t1 (List.mem_of_getElem? (i := 117) rfl), lw_t1 (List.mem_of_getElem? (i := 118) rfl)⟩
theorem lw_p10 : lw_okq (⟨"IntegrityLayer", "isDamaged", "(I)Z"⟩, 14) := ⟨⟨by decide +kernel, by decide +kernel⟩, lw_t1 (List.mem_of_getElem? (i := 4) rfl), lw_t1 (List.mem_of_getElem? (i := 125) rfl), lw_t1 (List.mem_of_getElem? (i := 126) rfl)⟩
theorem lw_p11 : lw_okq (⟨"IntegrityLayer", "newestWaiting", "(I)I"⟩, 14) := ⟨⟨by decide +kernel, by decide +kernel⟩, lw_t1 (List.mem_of_getElem? (i := 4) rfl), lw_t1 (List.mem_of_getElem? (i := 137) rfl), lw_t1 (List.mem_of_getElem? (i := 138) rfl)⟩
theorem lw_p12 : lw_okq (⟨"IntegrityLayer", "durableGood", "(I)Z"⟩, 14) := ⟨⟨by decide +kernel, by decide +kernel⟩, lw_t1 (List.mem_of_getElem? (i := 4) rfl), lw_t1 (List.mem_of_getElem? (i := 141) rfl), lw_t1 (List.mem_of_getElem? (i := 142) rfl)⟩
theorem lw_p13 : lw_okq (⟨"IntegrityLayer", "newestJournaled", "(I)I"⟩, 14) := ⟨⟨by decide +kernel, by decide +kernel⟩, lw_t1 (List.mem_of_getElem? (i := 4) rfl), lw_t1 (List.mem_of_getElem? (i := 145) rfl), lw_t1 (List.mem_of_getElem? (i := 146) rfl)⟩
theorem lw_p14 : lw_okq (⟨"IntegrityLayer", "durableValue", "(I)I"⟩, 14) := ⟨⟨by decide +kernel, by decide +kernel⟩, lw_t1 (List.mem_of_getElem? (i := 4) rfl), lw_t1 (List.mem_of_getElem? (i := 149) rfl), lw_t1 (List.mem_of_getElem? (i := 150) rfl)⟩
theorem lw_p15 : lw_okq (⟨"IntegrityLayerModel", "isSector", "(I)Z"⟩, 6) := ⟨⟨by decide +kernel, by decide +kernel⟩, lw_t1 (List.mem_of_getElem? (i := 169) rfl), lw_t1 (List.mem_of_getElem? (i := 199) rfl), lw_t1 (List.mem_of_getElem? (i := 200) rfl)⟩
def lw_privs_1 : List (MethodName × Nat) := [(⟨"IntegrityLayer", "commit", "(I)V"⟩, 14), (⟨"IntegrityLayer", "fillSlot", "(II)I"⟩, 14), (⟨"IntegrityLayer", "copyHome", "()V"⟩, 14), (⟨"IntegrityLayer", "applySlot", "(I)V"⟩, 14), (⟨"IntegrityLayer", "sumOf", "(I)I"⟩, 14), (⟨"IntegrityLayer", "dropWaiting", "(I)V"⟩, 14), (⟨"IntegrityLayer", "clampWaiting", "(I)I"⟩, 14), (⟨"IntegrityLayer", "tear", "(II)V"⟩, 14), (⟨"IntegrityLayer", "replay", "()V"⟩, 14), (⟨"IntegrityLayer", "whole", "(II)Z"⟩, 14), (⟨"IntegrityLayer", "isDamaged", "(I)Z"⟩, 14), (⟨"IntegrityLayer", "newestWaiting", "(I)I"⟩, 14), (⟨"IntegrityLayer", "durableGood", "(I)Z"⟩, 14), (⟨"IntegrityLayer", "newestJournaled", "(I)I"⟩, 14), (⟨"IntegrityLayer", "durableValue", "(I)I"⟩, 14), (⟨"IntegrityLayerModel", "isSector", "(I)Z"⟩, 6)]
theorem lw_r1 : ∀ q ∈ lw_privs_1, lw_okq q := List.forall_mem_cons.mpr ⟨lw_p0, List.forall_mem_cons.mpr ⟨lw_p1, List.forall_mem_cons.mpr ⟨lw_p2, List.forall_mem_cons.mpr ⟨lw_p3, List.forall_mem_cons.mpr ⟨lw_p4, List.forall_mem_cons.mpr ⟨lw_p5, List.forall_mem_cons.mpr ⟨lw_p6, List.forall_mem_cons.mpr ⟨lw_p7, List.forall_mem_cons.mpr ⟨lw_p8, List.forall_mem_cons.mpr ⟨lw_p9, List.forall_mem_cons.mpr ⟨lw_p10, List.forall_mem_cons.mpr ⟨lw_p11, List.forall_mem_cons.mpr ⟨lw_p12, List.forall_mem_cons.mpr ⟨lw_p13, List.forall_mem_cons.mpr ⟨lw_p14, List.forall_mem_cons.mpr ⟨lw_p15, fun _ h => absurd h List.not_mem_nil⟩⟩⟩⟩⟩⟩⟩⟩⟩⟩⟩⟩⟩⟩⟩⟩
theorem lw_p16 : lw_okq (⟨"IntegrityLayerModel", "adjusted", "(I)I"⟩, 6) := ⟨⟨by decide +kernel, by decide +kernel⟩, lw_t1 (List.mem_of_getElem? (i := 169) rfl), lw_t1 (List.mem_of_getElem? (i := 211) rfl), lw_t1 (List.mem_of_getElem? (i := 212) rfl)⟩
theorem lw_p17 : lw_okq (⟨"IntegrityLayerModel", "newest", "(I)I"⟩, 6) := ⟨⟨by decide +kernel, by decide +kernel⟩, lw_t1 (List.mem_of_getElem? (i := 169) rfl), lw_t1 (List.mem_of_getElem? (i := 236) rfl), lw_t1 (List.mem_of_getElem? (i := 237) rfl)⟩
def lw_privs_2 : List (MethodName × Nat) := [(⟨"IntegrityLayerModel", "adjusted", "(I)I"⟩, 6), (⟨"IntegrityLayerModel", "newest", "(I)I"⟩, 6)]
theorem lw_r2 : ∀ q ∈ lw_privs_2, lw_okq q := List.forall_mem_cons.mpr ⟨lw_p16, List.forall_mem_cons.mpr ⟨lw_p17, fun _ h => absurd h List.not_mem_nil⟩⟩
def lw_privs : List (MethodName × Nat) := lw_privs_1 ++ (lw_privs_2)
def lw_tbl : List Cond := k2_sels lw_privs ++ tables_1
theorem lw_privs_ok : ∀ q ∈ lw_privs, lw_okq q := by
  show ∀ q ∈ lw_privs_1 ++ (lw_privs_2), lw_okq q
  exact List.forall_mem_append.mpr ⟨lw_r1, lw_r2⟩
-- ===== ONE list of words for every method: the tables' words that hold all through a run =====
def lw_all : List Cond := lw_tbl.filter goodWord
/-- a word of the tables by its place: claim/WORDS.tsv -/
theorem lw_w {w : Cond} (i : Nat) (h : lw_tbl[i]? = some w) (g : goodWord w = true) : w ∈ lw_all := List.mem_filter.mpr ⟨List.mem_of_getElem? h, g⟩
theorem lw_all_tbl {w : Cond} (h : w ∈ lw_all) : w ∈ lw_tbl := (List.mem_filter.mp h).1
theorem lw_self : GoodIn lw_all lw_all := fun w h => ⟨h, good_of_word (List.mem_filter.mp h).2⟩
/-- a class's field words, by their places -/
theorem lw_in (ws : List Cond) (ps : List Nat) (hp : ws = ps.filterMap (fun i => lw_tbl[i]?)) (hg : ws.all goodWord = true) : ∀ w ∈ ws, w ∈ lw_all := by
  intro w h
  have h1 := List.all_eq_true.mp hg w h
  rw [hp] at h
  obtain ⟨i, -, hi⟩ := List.mem_filterMap.mp h
  exact lw_w i hi h1
/-- the words of a contract for the method y with code b, L locals, answer r -/
abbrev ws_ (y : MethodName) (b : ByteArray) (L : Nat) (r : Option FieldType) : List Cond := Cond.code y b L r :: lw_all
theorem lw_meth {y : MethodName} {b : ByteArray} {L : Nat} {r : Option FieldType} (h : Cond.code y b L r ∈ lw_all) : GoodIn lw_all (ws_ y b L r) := by
  intro w hw
  rcases List.mem_cons.mp hw with e | e
  · rw [e]
    exact lw_self _ h
  · exact lw_self _ e
theorem lw_app {a c : List Cond} (ha : ∀ w ∈ a, w ∈ lw_all) (hc : GoodIn lw_all c) : GoodIn lw_all (a ++ c) := by
  intro w hw
  rcases List.mem_append.mp hw with e | e
  · exact lw_self w (ha w e)
  · exact hc w e
/-- what a call through an object asks: cwV n hts (lw_V ..) -/
theorem lw_V {own : String} {idx : Nat} {C : String} {y : MethodName} {b : ByteArray} {L : Nat} {r : Option FieldType} (h1 : Cond.methodLink own idx y ∈ lw_all) (h2 : Cond.instanceMethod y ∈ lw_all) (h3 : Cond.selects C y y ∈ lw_all) (h4 : Cond.initialized C ∈ lw_all) (h5 : Cond.code y b L r ∈ lw_all) : GoodIn lw_all (wsV own idx C y (ws_ y b L r)) := by
  refine lw_app ?_ (lw_meth h5)
  intro w hw
  simp only [List.mem_cons, List.not_mem_nil, or_false] at hw
  rcases hw with e | e | e | e
  · rw [e]; exact h1
  · rw [e]; exact h2
  · rw [e]; exact h3
  · rw [e]; exact h4
/-- what a static call asks: va_cwS n hts (lw_S ..) -/
theorem lw_S {own : String} {idx : Nat} {y : MethodName} {b : ByteArray} {L : Nat} {r : Option FieldType} (h1 : Cond.methodLink own idx y ∈ lw_all) (h2 : Cond.static y ∈ lw_all) (h3 : Cond.initialized y.cls ∈ lw_all) (h4 : Cond.code y b L r ∈ lw_all) : GoodIn lw_all (va_wsS own idx y (ws_ y b L r)) := by
  refine lw_app ?_ (lw_meth h4)
  intro w hw
  simp only [List.mem_cons, List.not_mem_nil, or_false] at hw
  rcases hw with e | e | e
  · rw [e]; exact h1
  · rw [e]; exact h2
  · rw [e]; exact h3
/-- the words of a contract for a method WITH HANDLERS (hh: its table) -/
abbrev wsW_ (y : MethodName) (b : ByteArray) (L : Nat) (r : Option FieldType) (hh : List (Nat × Nat × Nat × Nat)) : List Cond := Cond.codeWith y b L r hh :: lw_all
theorem lw_methW {y : MethodName} {b : ByteArray} {L : Nat} {r : Option FieldType} {hh : List (Nat × Nat × Nat × Nat)} (h : Cond.codeWith y b L r hh ∈ lw_all) : GoodIn lw_all (wsW_ y b L r hh) := by
  intro w hw
  rcases List.mem_cons.mp hw with e | e
  · rw [e]
    exact lw_self _ h
  · exact lw_self _ e
/-- any list of words by their places (lw_in), good -/
theorem lw_good {ws : List Cond} (h : ∀ w ∈ ws, w ∈ lw_all) : GoodIn lw_all ws := fun w hw => lw_self w (h w hw)
/-- what a call of a method with handlers asks: vx_cwVW n hts (lw_VW ..), vx_cwSW n hts (lw_SW ..) -/
theorem lw_VW {own : String} {idx : Nat} {C : String} {y : MethodName} {b : ByteArray} {L : Nat} {r : Option FieldType} {hh : List (Nat × Nat × Nat × Nat)} (h1 : Cond.methodLink own idx y ∈ lw_all) (h2 : Cond.instanceMethod y ∈ lw_all) (h3 : Cond.selects C y y ∈ lw_all) (h4 : Cond.initialized C ∈ lw_all) (h5 : Cond.codeWith y b L r hh ∈ lw_all) : GoodIn lw_all (wsV own idx C y (wsW_ y b L r hh)) := by
  refine lw_app ?_ (lw_methW h5)
  intro w hw
  simp only [List.mem_cons, List.not_mem_nil, or_false] at hw
  rcases hw with e | e | e | e
  · rw [e]; exact h1
  · rw [e]; exact h2
  · rw [e]; exact h3
  · rw [e]; exact h4
theorem lw_SW {own : String} {idx : Nat} {y : MethodName} {b : ByteArray} {L : Nat} {r : Option FieldType} {hh : List (Nat × Nat × Nat × Nat)} (h1 : Cond.methodLink own idx y ∈ lw_all) (h2 : Cond.static y ∈ lw_all) (h3 : Cond.initialized y.cls ∈ lw_all) (h4 : Cond.codeWith y b L r hh ∈ lw_all) : GoodIn lw_all (va_wsS own idx y (wsW_ y b L r hh)) := by
  refine lw_app ?_ (lw_methW h4)
  intro w hw
  simp only [List.mem_cons, List.not_mem_nil, or_false] at hw
  rcases hw with e | e | e
  · rw [e]; exact h1
  · rw [e]; exact h2
  · rw [e]; exact h3
/-- a word by its place in its run of the tables -/
theorem lw_at {r : List Cond} (hr : ∀ w ∈ r, w ∈ lw_tbl) {w : Cond} (i : Nat) (h : r[i]? = some w) : w ∈ lw_tbl := hr w (List.mem_of_getElem? h)
theorem lw_g {w : Cond} (h : w ∈ lw_tbl) (g : goodWord w = true) : w ∈ lw_all := List.mem_filter.mpr ⟨h, g⟩
theorem lw_ms : ∀ w ∈ k2_sels lw_privs, w ∈ lw_tbl := fun w h => show w ∈ k2_sels lw_privs ++ tables_1 from List.mem_append_left _ h
theorem lw_m1 : ∀ w ∈ tables_1_1, w ∈ lw_tbl := fun w h => show w ∈ k2_sels lw_privs ++ tables_1 from List.mem_append_right (k2_sels lw_privs) (show w ∈ tables_1 from List.mem_append_left _ h)
theorem lw_m2 : ∀ w ∈ tables_1_2, w ∈ lw_tbl := fun w h => show w ∈ k2_sels lw_privs ++ tables_1 from List.mem_append_right (k2_sels lw_privs) (show w ∈ tables_1 from List.mem_append_right _ h)
theorem qs0 : (Cond.selects "IntegrityLayer" ⟨"IntegrityLayer", "commit", "(I)V"⟩ ⟨"IntegrityLayer", "commit", "(I)V"⟩) ∈ lw_all := lw_g (lw_at lw_ms 0 rfl) rfl
theorem qs1 : (Cond.selects "IntegrityLayer" ⟨"IntegrityLayer", "fillSlot", "(II)I"⟩ ⟨"IntegrityLayer", "fillSlot", "(II)I"⟩) ∈ lw_all := lw_g (lw_at lw_ms 1 rfl) rfl
theorem qs2 : (Cond.selects "IntegrityLayer" ⟨"IntegrityLayer", "copyHome", "()V"⟩ ⟨"IntegrityLayer", "copyHome", "()V"⟩) ∈ lw_all := lw_g (lw_at lw_ms 2 rfl) rfl
theorem qs3 : (Cond.selects "IntegrityLayer" ⟨"IntegrityLayer", "applySlot", "(I)V"⟩ ⟨"IntegrityLayer", "applySlot", "(I)V"⟩) ∈ lw_all := lw_g (lw_at lw_ms 3 rfl) rfl
theorem qs4 : (Cond.selects "IntegrityLayer" ⟨"IntegrityLayer", "sumOf", "(I)I"⟩ ⟨"IntegrityLayer", "sumOf", "(I)I"⟩) ∈ lw_all := lw_g (lw_at lw_ms 4 rfl) rfl
theorem qs5 : (Cond.selects "IntegrityLayer" ⟨"IntegrityLayer", "dropWaiting", "(I)V"⟩ ⟨"IntegrityLayer", "dropWaiting", "(I)V"⟩) ∈ lw_all := lw_g (lw_at lw_ms 5 rfl) rfl
theorem qs6 : (Cond.selects "IntegrityLayer" ⟨"IntegrityLayer", "clampWaiting", "(I)I"⟩ ⟨"IntegrityLayer", "clampWaiting", "(I)I"⟩) ∈ lw_all := lw_g (lw_at lw_ms 6 rfl) rfl
theorem qs7 : (Cond.selects "IntegrityLayer" ⟨"IntegrityLayer", "tear", "(II)V"⟩ ⟨"IntegrityLayer", "tear", "(II)V"⟩) ∈ lw_all := lw_g (lw_at lw_ms 7 rfl) rfl
theorem qs8 : (Cond.selects "IntegrityLayer" ⟨"IntegrityLayer", "replay", "()V"⟩ ⟨"IntegrityLayer", "replay", "()V"⟩) ∈ lw_all := lw_g (lw_at lw_ms 8 rfl) rfl
theorem qs9 : (Cond.selects "IntegrityLayer" ⟨"IntegrityLayer", "whole", "(II)Z"⟩ ⟨"IntegrityLayer", "whole", "(II)Z"⟩) ∈ lw_all := lw_g (lw_at lw_ms 9 rfl) rfl
theorem qs10 : (Cond.selects "IntegrityLayer" ⟨"IntegrityLayer", "isDamaged", "(I)Z"⟩ ⟨"IntegrityLayer", "isDamaged", "(I)Z"⟩) ∈ lw_all := lw_g (lw_at lw_ms 10 rfl) rfl
theorem qs11 : (Cond.selects "IntegrityLayer" ⟨"IntegrityLayer", "newestWaiting", "(I)I"⟩ ⟨"IntegrityLayer", "newestWaiting", "(I)I"⟩) ∈ lw_all := lw_g (lw_at lw_ms 11 rfl) rfl
theorem qs12 : (Cond.selects "IntegrityLayer" ⟨"IntegrityLayer", "durableGood", "(I)Z"⟩ ⟨"IntegrityLayer", "durableGood", "(I)Z"⟩) ∈ lw_all := lw_g (lw_at lw_ms 12 rfl) rfl
theorem qs13 : (Cond.selects "IntegrityLayer" ⟨"IntegrityLayer", "newestJournaled", "(I)I"⟩ ⟨"IntegrityLayer", "newestJournaled", "(I)I"⟩) ∈ lw_all := lw_g (lw_at lw_ms 13 rfl) rfl
theorem qs14 : (Cond.selects "IntegrityLayer" ⟨"IntegrityLayer", "durableValue", "(I)I"⟩ ⟨"IntegrityLayer", "durableValue", "(I)I"⟩) ∈ lw_all := lw_g (lw_at lw_ms 14 rfl) rfl
theorem qs15 : (Cond.selects "IntegrityLayerModel" ⟨"IntegrityLayerModel", "isSector", "(I)Z"⟩ ⟨"IntegrityLayerModel", "isSector", "(I)Z"⟩) ∈ lw_all := lw_g (lw_at lw_ms 15 rfl) rfl
theorem qs16 : (Cond.selects "IntegrityLayerModel" ⟨"IntegrityLayerModel", "adjusted", "(I)I"⟩ ⟨"IntegrityLayerModel", "adjusted", "(I)I"⟩) ∈ lw_all := lw_g (lw_at lw_ms 16 rfl) rfl
theorem qs17 : (Cond.selects "IntegrityLayerModel" ⟨"IntegrityLayerModel", "newest", "(I)I"⟩ ⟨"IntegrityLayerModel", "newest", "(I)I"⟩) ∈ lw_all := lw_g (lw_at lw_ms 17 rfl) rfl
end
section
/-! IntegrityLayer -/
set_option maxRecDepth 100000
def RX0 : String := "IntegrityLayer"
def TX0 : u_T := fun k => match k with
  | 0 => ("IntegrityLayer", "home", "[I", true)
  | 1 => ("IntegrityLayer", "check", "[I", true)
  | 2 => ("IntegrityLayer", "homeFrom", "I", false)
  | 3 => ("IntegrityLayer", "slotNumber", "[I", true)
  | 4 => ("IntegrityLayer", "slotCount", "[I", true)
  | 5 => ("IntegrityLayer", "slotSum", "[I", true)
  | 6 => ("IntegrityLayer", "slotSector", "[I", true)
  | 7 => ("IntegrityLayer", "slotValue", "[I", true)
  | 8 => ("IntegrityLayer", "slotCheck", "[I", true)
  | 9 => ("IntegrityLayer", "nextSection", "I", false)
  | 10 => ("IntegrityLayer", "waiting", "I", false)
  | 11 => ("IntegrityLayer", "waitSector", "[I", true)
  | 12 => ("IntegrityLayer", "waitValue", "[I", true)
  | _ => ("IntegrityLayer", "made", "I", false)
def tyX0 : Nat → FieldType := fun k => match k with
  | 0 => .array .int
  | 1 => .array .int
  | 2 => .int
  | 3 => .array .int
  | 4 => .array .int
  | 5 => .array .int
  | 6 => .array .int
  | 7 => .array .int
  | 8 => .array .int
  | 9 => .int
  | 10 => .int
  | 11 => .array .int
  | 12 => .array .int
  | _ => .int
abbrev wsX00 : List Cond := u_ws RX0 TX0 14
set_option maxRecDepth 100000 in
theorem nmX0 : ∀ a, a < 14 → ∀ b, b < 14 → a ≠ b → (TX0 a).2.1 ≠ (TX0 b).2.1 := by decide +kernel
set_option maxRecDepth 100000 in
theorem tyX0_ok : ∀ k, k < 14 → parseFieldDescriptor (TX0 k).2.2.1 = some (tyX0 k) := by decide +kernel
abbrev cX0_init : ByteArray := prog_1_method_1_code
def yX0_init : MethodName := ⟨RX0, "<init>", "()V"⟩
abbrev cX0_checkOf : ByteArray := prog_1_method_3_code
def yX0_checkOf : MethodName := ⟨RX0, "checkOf", "(II)I"⟩
abbrev cX0_write : ByteArray := prog_1_method_4_code
def yX0_write : MethodName := ⟨RX0, "write", "(II)I"⟩
abbrev cX0_bad : ByteArray := prog_1_method_2_code
def yX0_bad : MethodName := ⟨RX0, "bad", "(I)Z"⟩
abbrev cX0_flush : ByteArray := prog_1_method_12_code
def yX0_flush : MethodName := ⟨RX0, "flush", "()I"⟩
abbrev cX0_commit : ByteArray := prog_1_method_9_code
def yX0_commit : MethodName := ⟨RX0, "commit", "(I)V"⟩
abbrev cX0_fillSlot : ByteArray := prog_1_method_8_code
def yX0_fillSlot : MethodName := ⟨RX0, "fillSlot", "(II)I"⟩
abbrev cX0_copyHome : ByteArray := prog_1_method_10_code
def yX0_copyHome : MethodName := ⟨RX0, "copyHome", "()V"⟩
abbrev cX0_applySlot : ByteArray := prog_1_method_11_code
def yX0_applySlot : MethodName := ⟨RX0, "applySlot", "(I)V"⟩
abbrev cX0_sumOf : ByteArray := prog_1_method_7_code
def yX0_sumOf : MethodName := ⟨RX0, "sumOf", "(I)I"⟩
abbrev cX0_dropWaiting : ByteArray := prog_1_method_5_code
def yX0_dropWaiting : MethodName := ⟨RX0, "dropWaiting", "(I)V"⟩
abbrev cX0_flushSome : ByteArray := prog_1_method_13_code
def yX0_flushSome : MethodName := ⟨RX0, "flushSome", "(I)I"⟩
abbrev cX0_clampWaiting : ByteArray := prog_1_method_6_code
def yX0_clampWaiting : MethodName := ⟨RX0, "clampWaiting", "(I)I"⟩
abbrev cX0_crash : ByteArray := prog_1_method_16_code
def yX0_crash : MethodName := ⟨RX0, "crash", "(I)I"⟩
abbrev cX0_tear : ByteArray := prog_1_method_17_code
def yX0_tear : MethodName := ⟨RX0, "tear", "(II)V"⟩
abbrev cX0_replay : ByteArray := prog_1_method_15_code
def yX0_replay : MethodName := ⟨RX0, "replay", "()V"⟩
abbrev cX0_whole : ByteArray := prog_1_method_14_code
def yX0_whole : MethodName := ⟨RX0, "whole", "(II)Z"⟩
abbrev cX0_damage : ByteArray := prog_1_method_19_code
def yX0_damage : MethodName := ⟨RX0, "damage", "(II)I"⟩
abbrev cX0_isDamaged : ByteArray := prog_1_method_18_code
def yX0_isDamaged : MethodName := ⟨RX0, "isDamaged", "(I)Z"⟩
abbrev cX0_scrub : ByteArray := prog_1_method_20_code
def yX0_scrub : MethodName := ⟨RX0, "scrub", "()I"⟩
abbrev cX0_read : ByteArray := prog_1_method_25_code
def yX0_read : MethodName := ⟨RX0, "read", "(I)I"⟩
abbrev cX0_newestWaiting : ByteArray := prog_1_method_21_code
def yX0_newestWaiting : MethodName := ⟨RX0, "newestWaiting", "(I)I"⟩
abbrev cX0_durableGood : ByteArray := prog_1_method_23_code
def yX0_durableGood : MethodName := ⟨RX0, "durableGood", "(I)Z"⟩
abbrev cX0_newestJournaled : ByteArray := prog_1_method_22_code
def yX0_newestJournaled : MethodName := ⟨RX0, "newestJournaled", "(I)I"⟩
abbrev cX0_durableValue : ByteArray := prog_1_method_24_code
def yX0_durableValue : MethodName := ⟨RX0, "durableValue", "(I)I"⟩
abbrev cX0_readable : ByteArray := prog_1_method_26_code
def yX0_readable : MethodName := ⟨RX0, "readable", "(I)Z"⟩
abbrev cX0_pending : ByteArray := prog_1_method_27_code
def yX0_pending : MethodName := ⟨RX0, "pending", "()I"⟩
abbrev cX0_atRisk : ByteArray := prog_1_method_28_code
def yX0_atRisk : MethodName := ⟨RX0, "atRisk", "()I"⟩
abbrev cX0_durable : ByteArray := prog_1_method_29_code
def yX0_durable : MethodName := ⟨RX0, "durable", "()I"⟩
theorem q19 : (Jvm.Cond.initialized "IntegrityLayer") ∈ lw_all := lw_g (lw_at lw_m1 1 rfl) rfl
theorem q22 : (Jvm.Cond.instantiable "IntegrityLayer" (14 : Nat)) ∈ lw_all := lw_g (lw_at lw_m1 4 rfl) rfl
theorem q24 : (Jvm.Cond.instanceMethod ({ cls := "IntegrityLayer", name := "<init>", desc := "()V" } : Jvm.MethodName)) ∈ lw_all := lw_g (lw_at lw_m1 6 rfl) rfl
theorem q25 : (Jvm.Cond.code ({ cls := "IntegrityLayer", name := "<init>", desc := "()V" } : Jvm.MethodName) prog_1_method_1_code (2 : Nat) (Option.none : Option Jvm.ClassFile.FieldType)) ∈ lw_all := lw_g (lw_at lw_m1 7 rfl) rfl
theorem q26 : (Jvm.Cond.methodLink "IntegrityLayer" (1 : Nat) ({ cls := "java/lang/Object", name := "<init>", desc := "()V" } : Jvm.MethodName)) ∈ lw_all := lw_g (lw_at lw_m1 8 rfl) rfl
theorem q29 : (Jvm.Cond.methodLink "IntegrityLayer" (40 : Nat) ({ cls := "IntegrityLayer", name := "checkOf", desc := "(II)I" } : Jvm.MethodName)) ∈ lw_all := lw_g (lw_at lw_m1 11 rfl) rfl
theorem q30 : (Jvm.Cond.static ({ cls := "IntegrityLayer", name := "checkOf", desc := "(II)I" } : Jvm.MethodName)) ∈ lw_all := lw_g (lw_at lw_m1 12 rfl) rfl
theorem q31 : (Jvm.Cond.code ({ cls := "IntegrityLayer", name := "checkOf", desc := "(II)I" } : Jvm.MethodName) prog_1_method_3_code (2 : Nat) (Option.some Jvm.ClassFile.FieldType.int)) ∈ lw_all := lw_g (lw_at lw_m1 13 rfl) rfl
theorem q32 : (Jvm.Cond.constant "IntegrityLayer" (44 : Nat) (1431655765 : Int32)) ∈ lw_all := lw_g (lw_at lw_m1 14 rfl) rfl
theorem q33 : (Jvm.Cond.constant "IntegrityLayer" (45 : Nat) (1540483477 : Int32)) ∈ lw_all := lw_g (lw_at lw_m1 15 rfl) rfl
theorem q34 : (Jvm.Cond.constant "IntegrityLayer" (46 : Nat) (668265263 : Int32)) ∈ lw_all := lw_g (lw_at lw_m1 16 rfl) rfl
theorem q35 : (Jvm.Cond.fieldLink "IntegrityLayer" (7 : Nat) "IntegrityLayer" "home" "[I") ∈ lw_all := lw_g (lw_at lw_m1 17 rfl) rfl
theorem q36 : (Jvm.Cond.fieldLink "IntegrityLayer" (13 : Nat) "IntegrityLayer" "check" "[I") ∈ lw_all := lw_g (lw_at lw_m1 18 rfl) rfl
theorem q37 : (Jvm.Cond.fieldLink "IntegrityLayer" (58 : Nat) "IntegrityLayer" "homeFrom" "I") ∈ lw_all := lw_g (lw_at lw_m1 19 rfl) rfl
theorem q38 : (Jvm.Cond.fieldLink "IntegrityLayer" (16 : Nat) "IntegrityLayer" "slotNumber" "[I") ∈ lw_all := lw_g (lw_at lw_m1 20 rfl) rfl
theorem q39 : (Jvm.Cond.fieldLink "IntegrityLayer" (19 : Nat) "IntegrityLayer" "slotCount" "[I") ∈ lw_all := lw_g (lw_at lw_m1 21 rfl) rfl
theorem q40 : (Jvm.Cond.fieldLink "IntegrityLayer" (22 : Nat) "IntegrityLayer" "slotSum" "[I") ∈ lw_all := lw_g (lw_at lw_m1 22 rfl) rfl
theorem q41 : (Jvm.Cond.fieldLink "IntegrityLayer" (25 : Nat) "IntegrityLayer" "slotSector" "[I") ∈ lw_all := lw_g (lw_at lw_m1 23 rfl) rfl
theorem q42 : (Jvm.Cond.fieldLink "IntegrityLayer" (28 : Nat) "IntegrityLayer" "slotValue" "[I") ∈ lw_all := lw_g (lw_at lw_m1 24 rfl) rfl
theorem q43 : (Jvm.Cond.fieldLink "IntegrityLayer" (31 : Nat) "IntegrityLayer" "slotCheck" "[I") ∈ lw_all := lw_g (lw_at lw_m1 25 rfl) rfl
theorem q44 : (Jvm.Cond.fieldLink "IntegrityLayer" (55 : Nat) "IntegrityLayer" "nextSection" "I") ∈ lw_all := lw_g (lw_at lw_m1 26 rfl) rfl
theorem q45 : (Jvm.Cond.fieldLink "IntegrityLayer" (51 : Nat) "IntegrityLayer" "waiting" "I") ∈ lw_all := lw_g (lw_at lw_m1 27 rfl) rfl
theorem q46 : (Jvm.Cond.fieldLink "IntegrityLayer" (34 : Nat) "IntegrityLayer" "waitSector" "[I") ∈ lw_all := lw_g (lw_at lw_m1 28 rfl) rfl
theorem q47 : (Jvm.Cond.fieldLink "IntegrityLayer" (37 : Nat) "IntegrityLayer" "waitValue" "[I") ∈ lw_all := lw_g (lw_at lw_m1 29 rfl) rfl
theorem q48 : (Jvm.Cond.fieldLink "IntegrityLayer" (71 : Nat) "IntegrityLayer" "made" "I") ∈ lw_all := lw_g (lw_at lw_m1 30 rfl) rfl
theorem q49 : (Jvm.Cond.laysFinal "IntegrityLayer" "IntegrityLayer" "home" "[I") ∈ lw_all := lw_g (lw_at lw_m1 31 rfl) rfl
theorem q50 : (Jvm.Cond.soleField "IntegrityLayer" "home") ∈ lw_all := lw_g (lw_at lw_m1 32 rfl) rfl
theorem q51 : (Jvm.Cond.laysFinal "IntegrityLayer" "IntegrityLayer" "check" "[I") ∈ lw_all := lw_g (lw_at lw_m1 33 rfl) rfl
theorem q52 : (Jvm.Cond.soleField "IntegrityLayer" "check") ∈ lw_all := lw_g (lw_at lw_m1 34 rfl) rfl
theorem q53 : (Jvm.Cond.lays "IntegrityLayer" "IntegrityLayer" "homeFrom" "I") ∈ lw_all := lw_g (lw_at lw_m1 35 rfl) rfl
theorem q54 : (Jvm.Cond.soleField "IntegrityLayer" "homeFrom") ∈ lw_all := lw_g (lw_at lw_m1 36 rfl) rfl
theorem q55 : (Jvm.Cond.laysFinal "IntegrityLayer" "IntegrityLayer" "slotNumber" "[I") ∈ lw_all := lw_g (lw_at lw_m1 37 rfl) rfl
theorem q56 : (Jvm.Cond.soleField "IntegrityLayer" "slotNumber") ∈ lw_all := lw_g (lw_at lw_m1 38 rfl) rfl
theorem q57 : (Jvm.Cond.laysFinal "IntegrityLayer" "IntegrityLayer" "slotCount" "[I") ∈ lw_all := lw_g (lw_at lw_m1 39 rfl) rfl
theorem q58 : (Jvm.Cond.soleField "IntegrityLayer" "slotCount") ∈ lw_all := lw_g (lw_at lw_m1 40 rfl) rfl
theorem q59 : (Jvm.Cond.laysFinal "IntegrityLayer" "IntegrityLayer" "slotSum" "[I") ∈ lw_all := lw_g (lw_at lw_m1 41 rfl) rfl
theorem q60 : (Jvm.Cond.soleField "IntegrityLayer" "slotSum") ∈ lw_all := lw_g (lw_at lw_m1 42 rfl) rfl
theorem q61 : (Jvm.Cond.laysFinal "IntegrityLayer" "IntegrityLayer" "slotSector" "[I") ∈ lw_all := lw_g (lw_at lw_m1 43 rfl) rfl
theorem q62 : (Jvm.Cond.soleField "IntegrityLayer" "slotSector") ∈ lw_all := lw_g (lw_at lw_m1 44 rfl) rfl
theorem q63 : (Jvm.Cond.laysFinal "IntegrityLayer" "IntegrityLayer" "slotValue" "[I") ∈ lw_all := lw_g (lw_at lw_m1 45 rfl) rfl
theorem q64 : (Jvm.Cond.soleField "IntegrityLayer" "slotValue") ∈ lw_all := lw_g (lw_at lw_m1 46 rfl) rfl
theorem q65 : (Jvm.Cond.laysFinal "IntegrityLayer" "IntegrityLayer" "slotCheck" "[I") ∈ lw_all := lw_g (lw_at lw_m1 47 rfl) rfl
theorem q66 : (Jvm.Cond.soleField "IntegrityLayer" "slotCheck") ∈ lw_all := lw_g (lw_at lw_m1 48 rfl) rfl
theorem q67 : (Jvm.Cond.lays "IntegrityLayer" "IntegrityLayer" "nextSection" "I") ∈ lw_all := lw_g (lw_at lw_m1 49 rfl) rfl
theorem q68 : (Jvm.Cond.soleField "IntegrityLayer" "nextSection") ∈ lw_all := lw_g (lw_at lw_m1 50 rfl) rfl
theorem q69 : (Jvm.Cond.lays "IntegrityLayer" "IntegrityLayer" "waiting" "I") ∈ lw_all := lw_g (lw_at lw_m1 51 rfl) rfl
theorem q70 : (Jvm.Cond.soleField "IntegrityLayer" "waiting") ∈ lw_all := lw_g (lw_at lw_m1 52 rfl) rfl
theorem q71 : (Jvm.Cond.laysFinal "IntegrityLayer" "IntegrityLayer" "waitSector" "[I") ∈ lw_all := lw_g (lw_at lw_m1 53 rfl) rfl
theorem q72 : (Jvm.Cond.soleField "IntegrityLayer" "waitSector") ∈ lw_all := lw_g (lw_at lw_m1 54 rfl) rfl
theorem q73 : (Jvm.Cond.laysFinal "IntegrityLayer" "IntegrityLayer" "waitValue" "[I") ∈ lw_all := lw_g (lw_at lw_m1 55 rfl) rfl
theorem q74 : (Jvm.Cond.soleField "IntegrityLayer" "waitValue") ∈ lw_all := lw_g (lw_at lw_m1 56 rfl) rfl
theorem q75 : (Jvm.Cond.lays "IntegrityLayer" "IntegrityLayer" "made" "I") ∈ lw_all := lw_g (lw_at lw_m1 57 rfl) rfl
theorem q76 : (Jvm.Cond.soleField "IntegrityLayer" "made") ∈ lw_all := lw_g (lw_at lw_m1 58 rfl) rfl
theorem q77 : (Jvm.Cond.superclass "IntegrityLayer" "java/lang/Object") ∈ lw_all := lw_g (lw_at lw_m1 59 rfl) rfl
theorem q80 : (Jvm.Cond.instanceMethod ({ cls := "IntegrityLayer", name := "write", desc := "(II)I" } : Jvm.MethodName)) ∈ lw_all := lw_g (lw_at lw_m1 62 rfl) rfl
theorem q81 : (Jvm.Cond.selects "IntegrityLayer" ({ cls := "IntegrityLayer", name := "write", desc := "(II)I" } : Jvm.MethodName) ({ cls := "IntegrityLayer", name := "write", desc := "(II)I" } : Jvm.MethodName)) ∈ lw_all := lw_g (lw_at lw_m1 63 rfl) rfl
theorem q82 : (Jvm.Cond.code ({ cls := "IntegrityLayer", name := "write", desc := "(II)I" } : Jvm.MethodName) prog_1_method_4_code (3 : Nat) (Option.some Jvm.ClassFile.FieldType.int)) ∈ lw_all := lw_g (lw_at lw_m1 64 rfl) rfl
theorem q83 : (Jvm.Cond.methodLink "IntegrityLayer" (47 : Nat) ({ cls := "IntegrityLayer", name := "bad", desc := "(I)Z" } : Jvm.MethodName)) ∈ lw_all := lw_g (lw_at lw_m1 65 rfl) rfl
theorem q84 : (Jvm.Cond.static ({ cls := "IntegrityLayer", name := "bad", desc := "(I)Z" } : Jvm.MethodName)) ∈ lw_all := lw_g (lw_at lw_m1 66 rfl) rfl
theorem q85 : (Jvm.Cond.code ({ cls := "IntegrityLayer", name := "bad", desc := "(I)Z" } : Jvm.MethodName) prog_1_method_2_code (1 : Nat) (Option.some Jvm.ClassFile.FieldType.boolean)) ∈ lw_all := lw_g (lw_at lw_m1 67 rfl) rfl
theorem q87 : (Jvm.Cond.instanceMethod ({ cls := "IntegrityLayer", name := "flush", desc := "()I" } : Jvm.MethodName)) ∈ lw_all := lw_g (lw_at lw_m1 69 rfl) rfl
theorem q88 : (Jvm.Cond.selects "IntegrityLayer" ({ cls := "IntegrityLayer", name := "flush", desc := "()I" } : Jvm.MethodName) ({ cls := "IntegrityLayer", name := "flush", desc := "()I" } : Jvm.MethodName)) ∈ lw_all := lw_g (lw_at lw_m1 70 rfl) rfl
theorem q89 : (Jvm.Cond.code ({ cls := "IntegrityLayer", name := "flush", desc := "()I" } : Jvm.MethodName) prog_1_method_12_code (2 : Nat) (Option.some Jvm.ClassFile.FieldType.int)) ∈ lw_all := lw_g (lw_at lw_m1 71 rfl) rfl
theorem q90 : (Jvm.Cond.methodLink "IntegrityLayer" (78 : Nat) ({ cls := "IntegrityLayer", name := "commit", desc := "(I)V" } : Jvm.MethodName)) ∈ lw_all := lw_g (lw_at lw_m1 72 rfl) rfl
theorem q91 : (Jvm.Cond.privateMethod ({ cls := "IntegrityLayer", name := "commit", desc := "(I)V" } : Jvm.MethodName)) ∈ lw_tbl := lw_at lw_m1 73 rfl
theorem q92 : (Jvm.Cond.instanceMethod ({ cls := "IntegrityLayer", name := "commit", desc := "(I)V" } : Jvm.MethodName)) ∈ lw_all := lw_g (lw_at lw_m1 74 rfl) rfl
theorem q93 : (Jvm.Cond.code ({ cls := "IntegrityLayer", name := "commit", desc := "(I)V" } : Jvm.MethodName) prog_1_method_9_code (5 : Nat) (Option.none : Option Jvm.ClassFile.FieldType)) ∈ lw_all := lw_g (lw_at lw_m1 75 rfl) rfl
theorem q94 : (Jvm.Cond.methodLink "IntegrityLayer" (64 : Nat) ({ cls := "IntegrityLayer", name := "fillSlot", desc := "(II)I" } : Jvm.MethodName)) ∈ lw_all := lw_g (lw_at lw_m1 76 rfl) rfl
theorem q95 : (Jvm.Cond.privateMethod ({ cls := "IntegrityLayer", name := "fillSlot", desc := "(II)I" } : Jvm.MethodName)) ∈ lw_tbl := lw_at lw_m1 77 rfl
theorem q96 : (Jvm.Cond.instanceMethod ({ cls := "IntegrityLayer", name := "fillSlot", desc := "(II)I" } : Jvm.MethodName)) ∈ lw_all := lw_g (lw_at lw_m1 78 rfl) rfl
theorem q97 : (Jvm.Cond.code ({ cls := "IntegrityLayer", name := "fillSlot", desc := "(II)I" } : Jvm.MethodName) prog_1_method_8_code (6 : Nat) (Option.some Jvm.ClassFile.FieldType.int)) ∈ lw_all := lw_g (lw_at lw_m1 79 rfl) rfl
theorem q98 : (Jvm.Cond.methodLink "IntegrityLayer" (61 : Nat) ({ cls := "IntegrityLayer", name := "copyHome", desc := "()V" } : Jvm.MethodName)) ∈ lw_all := lw_g (lw_at lw_m1 80 rfl) rfl
theorem q99 : (Jvm.Cond.privateMethod ({ cls := "IntegrityLayer", name := "copyHome", desc := "()V" } : Jvm.MethodName)) ∈ lw_tbl := lw_at lw_m1 81 rfl
theorem q100 : (Jvm.Cond.instanceMethod ({ cls := "IntegrityLayer", name := "copyHome", desc := "()V" } : Jvm.MethodName)) ∈ lw_all := lw_g (lw_at lw_m1 82 rfl) rfl
theorem q101 : (Jvm.Cond.code ({ cls := "IntegrityLayer", name := "copyHome", desc := "()V" } : Jvm.MethodName) prog_1_method_10_code (2 : Nat) (Option.none : Option Jvm.ClassFile.FieldType)) ∈ lw_all := lw_g (lw_at lw_m1 83 rfl) rfl
theorem q102 : (Jvm.Cond.methodLink "IntegrityLayer" (74 : Nat) ({ cls := "IntegrityLayer", name := "applySlot", desc := "(I)V" } : Jvm.MethodName)) ∈ lw_all := lw_g (lw_at lw_m1 84 rfl) rfl
theorem q103 : (Jvm.Cond.privateMethod ({ cls := "IntegrityLayer", name := "applySlot", desc := "(I)V" } : Jvm.MethodName)) ∈ lw_tbl := lw_at lw_m1 85 rfl
theorem q104 : (Jvm.Cond.instanceMethod ({ cls := "IntegrityLayer", name := "applySlot", desc := "(I)V" } : Jvm.MethodName)) ∈ lw_all := lw_g (lw_at lw_m1 86 rfl) rfl
theorem q105 : (Jvm.Cond.code ({ cls := "IntegrityLayer", name := "applySlot", desc := "(I)V" } : Jvm.MethodName) prog_1_method_11_code (3 : Nat) (Option.none : Option Jvm.ClassFile.FieldType)) ∈ lw_all := lw_g (lw_at lw_m1 87 rfl) rfl
theorem q106 : (Jvm.Cond.methodLink "IntegrityLayer" (67 : Nat) ({ cls := "IntegrityLayer", name := "sumOf", desc := "(I)I" } : Jvm.MethodName)) ∈ lw_all := lw_g (lw_at lw_m1 88 rfl) rfl
theorem q107 : (Jvm.Cond.privateMethod ({ cls := "IntegrityLayer", name := "sumOf", desc := "(I)I" } : Jvm.MethodName)) ∈ lw_tbl := lw_at lw_m1 89 rfl
theorem q108 : (Jvm.Cond.instanceMethod ({ cls := "IntegrityLayer", name := "sumOf", desc := "(I)I" } : Jvm.MethodName)) ∈ lw_all := lw_g (lw_at lw_m1 90 rfl) rfl
theorem q109 : (Jvm.Cond.code ({ cls := "IntegrityLayer", name := "sumOf", desc := "(I)I" } : Jvm.MethodName) prog_1_method_7_code (4 : Nat) (Option.some Jvm.ClassFile.FieldType.int)) ∈ lw_all := lw_g (lw_at lw_m1 91 rfl) rfl
theorem q110 : (Jvm.Cond.methodLink "IntegrityLayer" (81 : Nat) ({ cls := "IntegrityLayer", name := "dropWaiting", desc := "(I)V" } : Jvm.MethodName)) ∈ lw_all := lw_g (lw_at lw_m1 92 rfl) rfl
theorem q111 : (Jvm.Cond.privateMethod ({ cls := "IntegrityLayer", name := "dropWaiting", desc := "(I)V" } : Jvm.MethodName)) ∈ lw_tbl := lw_at lw_m1 93 rfl
theorem q112 : (Jvm.Cond.instanceMethod ({ cls := "IntegrityLayer", name := "dropWaiting", desc := "(I)V" } : Jvm.MethodName)) ∈ lw_all := lw_g (lw_at lw_m1 94 rfl) rfl
theorem q113 : (Jvm.Cond.code ({ cls := "IntegrityLayer", name := "dropWaiting", desc := "(I)V" } : Jvm.MethodName) prog_1_method_5_code (3 : Nat) (Option.none : Option Jvm.ClassFile.FieldType)) ∈ lw_all := lw_g (lw_at lw_m1 95 rfl) rfl
theorem q115 : (Jvm.Cond.instanceMethod ({ cls := "IntegrityLayer", name := "flushSome", desc := "(I)I" } : Jvm.MethodName)) ∈ lw_all := lw_g (lw_at lw_m1 97 rfl) rfl
theorem q116 : (Jvm.Cond.selects "IntegrityLayer" ({ cls := "IntegrityLayer", name := "flushSome", desc := "(I)I" } : Jvm.MethodName) ({ cls := "IntegrityLayer", name := "flushSome", desc := "(I)I" } : Jvm.MethodName)) ∈ lw_all := lw_g (lw_at lw_m1 98 rfl) rfl
theorem q117 : (Jvm.Cond.code ({ cls := "IntegrityLayer", name := "flushSome", desc := "(I)I" } : Jvm.MethodName) prog_1_method_13_code (3 : Nat) (Option.some Jvm.ClassFile.FieldType.int)) ∈ lw_all := lw_g (lw_at lw_m1 99 rfl) rfl
theorem q118 : (Jvm.Cond.methodLink "IntegrityLayer" (84 : Nat) ({ cls := "IntegrityLayer", name := "clampWaiting", desc := "(I)I" } : Jvm.MethodName)) ∈ lw_all := lw_g (lw_at lw_m1 100 rfl) rfl
theorem q119 : (Jvm.Cond.privateMethod ({ cls := "IntegrityLayer", name := "clampWaiting", desc := "(I)I" } : Jvm.MethodName)) ∈ lw_tbl := lw_at lw_m1 101 rfl
theorem q120 : (Jvm.Cond.instanceMethod ({ cls := "IntegrityLayer", name := "clampWaiting", desc := "(I)I" } : Jvm.MethodName)) ∈ lw_all := lw_g (lw_at lw_m1 102 rfl) rfl
theorem q121 : (Jvm.Cond.code ({ cls := "IntegrityLayer", name := "clampWaiting", desc := "(I)I" } : Jvm.MethodName) prog_1_method_6_code (2 : Nat) (Option.some Jvm.ClassFile.FieldType.int)) ∈ lw_all := lw_g (lw_at lw_m1 103 rfl) rfl
theorem q123 : (Jvm.Cond.instanceMethod ({ cls := "IntegrityLayer", name := "crash", desc := "(I)I" } : Jvm.MethodName)) ∈ lw_all := lw_g (lw_at lw_m1 105 rfl) rfl
theorem q124 : (Jvm.Cond.selects "IntegrityLayer" ({ cls := "IntegrityLayer", name := "crash", desc := "(I)I" } : Jvm.MethodName) ({ cls := "IntegrityLayer", name := "crash", desc := "(I)I" } : Jvm.MethodName)) ∈ lw_all := lw_g (lw_at lw_m1 106 rfl) rfl
theorem q125 : (Jvm.Cond.code ({ cls := "IntegrityLayer", name := "crash", desc := "(I)I" } : Jvm.MethodName) prog_1_method_16_code (4 : Nat) (Option.some Jvm.ClassFile.FieldType.int)) ∈ lw_all := lw_g (lw_at lw_m1 107 rfl) rfl
theorem q126 : (Jvm.Cond.methodLink "IntegrityLayer" (91 : Nat) ({ cls := "IntegrityLayer", name := "tear", desc := "(II)V" } : Jvm.MethodName)) ∈ lw_all := lw_g (lw_at lw_m1 108 rfl) rfl
theorem q127 : (Jvm.Cond.privateMethod ({ cls := "IntegrityLayer", name := "tear", desc := "(II)V" } : Jvm.MethodName)) ∈ lw_tbl := lw_at lw_m1 109 rfl
theorem q128 : (Jvm.Cond.instanceMethod ({ cls := "IntegrityLayer", name := "tear", desc := "(II)V" } : Jvm.MethodName)) ∈ lw_all := lw_g (lw_at lw_m1 110 rfl) rfl
theorem q129 : (Jvm.Cond.code ({ cls := "IntegrityLayer", name := "tear", desc := "(II)V" } : Jvm.MethodName) prog_1_method_17_code (6 : Nat) (Option.none : Option Jvm.ClassFile.FieldType)) ∈ lw_all := lw_g (lw_at lw_m1 111 rfl) rfl
theorem q130 : (Jvm.Cond.methodLink "IntegrityLayer" (95 : Nat) ({ cls := "IntegrityLayer", name := "replay", desc := "()V" } : Jvm.MethodName)) ∈ lw_all := lw_g (lw_at lw_m1 112 rfl) rfl
theorem q131 : (Jvm.Cond.privateMethod ({ cls := "IntegrityLayer", name := "replay", desc := "()V" } : Jvm.MethodName)) ∈ lw_tbl := lw_at lw_m1 113 rfl
theorem q132 : (Jvm.Cond.instanceMethod ({ cls := "IntegrityLayer", name := "replay", desc := "()V" } : Jvm.MethodName)) ∈ lw_all := lw_g (lw_at lw_m1 114 rfl) rfl
theorem q133 : (Jvm.Cond.code ({ cls := "IntegrityLayer", name := "replay", desc := "()V" } : Jvm.MethodName) prog_1_method_15_code (4 : Nat) (Option.none : Option Jvm.ClassFile.FieldType)) ∈ lw_all := lw_g (lw_at lw_m1 115 rfl) rfl
theorem q134 : (Jvm.Cond.methodLink "IntegrityLayer" (87 : Nat) ({ cls := "IntegrityLayer", name := "whole", desc := "(II)Z" } : Jvm.MethodName)) ∈ lw_all := lw_g (lw_at lw_m1 116 rfl) rfl
theorem q135 : (Jvm.Cond.privateMethod ({ cls := "IntegrityLayer", name := "whole", desc := "(II)Z" } : Jvm.MethodName)) ∈ lw_tbl := lw_at lw_m1 117 rfl
theorem q136 : (Jvm.Cond.instanceMethod ({ cls := "IntegrityLayer", name := "whole", desc := "(II)Z" } : Jvm.MethodName)) ∈ lw_all := lw_g (lw_at lw_m1 118 rfl) rfl
theorem q137 : (Jvm.Cond.code ({ cls := "IntegrityLayer", name := "whole", desc := "(II)Z" } : Jvm.MethodName) prog_1_method_14_code (4 : Nat) (Option.some Jvm.ClassFile.FieldType.boolean)) ∈ lw_all := lw_g (lw_at lw_m1 119 rfl) rfl
theorem q139 : (Jvm.Cond.instanceMethod ({ cls := "IntegrityLayer", name := "damage", desc := "(II)I" } : Jvm.MethodName)) ∈ lw_all := lw_g (lw_at lw_m1 121 rfl) rfl
theorem q140 : (Jvm.Cond.selects "IntegrityLayer" ({ cls := "IntegrityLayer", name := "damage", desc := "(II)I" } : Jvm.MethodName) ({ cls := "IntegrityLayer", name := "damage", desc := "(II)I" } : Jvm.MethodName)) ∈ lw_all := lw_g (lw_at lw_m1 122 rfl) rfl
theorem q141 : (Jvm.Cond.code ({ cls := "IntegrityLayer", name := "damage", desc := "(II)I" } : Jvm.MethodName) prog_1_method_19_code (4 : Nat) (Option.some Jvm.ClassFile.FieldType.int)) ∈ lw_all := lw_g (lw_at lw_m1 123 rfl) rfl
theorem q142 : (Jvm.Cond.methodLink "IntegrityLayer" (98 : Nat) ({ cls := "IntegrityLayer", name := "isDamaged", desc := "(I)Z" } : Jvm.MethodName)) ∈ lw_all := lw_g (lw_at lw_m1 124 rfl) rfl
theorem q143 : (Jvm.Cond.privateMethod ({ cls := "IntegrityLayer", name := "isDamaged", desc := "(I)Z" } : Jvm.MethodName)) ∈ lw_tbl := lw_at lw_m1 125 rfl
theorem q144 : (Jvm.Cond.instanceMethod ({ cls := "IntegrityLayer", name := "isDamaged", desc := "(I)Z" } : Jvm.MethodName)) ∈ lw_all := lw_g (lw_at lw_m1 126 rfl) rfl
theorem q145 : (Jvm.Cond.code ({ cls := "IntegrityLayer", name := "isDamaged", desc := "(I)Z" } : Jvm.MethodName) prog_1_method_18_code (3 : Nat) (Option.some Jvm.ClassFile.FieldType.boolean)) ∈ lw_all := lw_g (lw_at lw_m1 127 rfl) rfl
theorem q147 : (Jvm.Cond.instanceMethod ({ cls := "IntegrityLayer", name := "scrub", desc := "()I" } : Jvm.MethodName)) ∈ lw_all := lw_g (lw_at lw_m1 129 rfl) rfl
theorem q148 : (Jvm.Cond.selects "IntegrityLayer" ({ cls := "IntegrityLayer", name := "scrub", desc := "()I" } : Jvm.MethodName) ({ cls := "IntegrityLayer", name := "scrub", desc := "()I" } : Jvm.MethodName)) ∈ lw_all := lw_g (lw_at lw_m1 130 rfl) rfl
theorem q149 : (Jvm.Cond.code ({ cls := "IntegrityLayer", name := "scrub", desc := "()I" } : Jvm.MethodName) prog_1_method_20_code (4 : Nat) (Option.some Jvm.ClassFile.FieldType.int)) ∈ lw_all := lw_g (lw_at lw_m1 131 rfl) rfl
theorem q151 : (Jvm.Cond.instanceMethod ({ cls := "IntegrityLayer", name := "read", desc := "(I)I" } : Jvm.MethodName)) ∈ lw_all := lw_g (lw_at lw_m1 133 rfl) rfl
theorem q152 : (Jvm.Cond.selects "IntegrityLayer" ({ cls := "IntegrityLayer", name := "read", desc := "(I)I" } : Jvm.MethodName) ({ cls := "IntegrityLayer", name := "read", desc := "(I)I" } : Jvm.MethodName)) ∈ lw_all := lw_g (lw_at lw_m1 134 rfl) rfl
theorem q153 : (Jvm.Cond.code ({ cls := "IntegrityLayer", name := "read", desc := "(I)I" } : Jvm.MethodName) prog_1_method_25_code (4 : Nat) (Option.some Jvm.ClassFile.FieldType.int)) ∈ lw_all := lw_g (lw_at lw_m1 135 rfl) rfl
theorem q154 : (Jvm.Cond.methodLink "IntegrityLayer" (104 : Nat) ({ cls := "IntegrityLayer", name := "newestWaiting", desc := "(I)I" } : Jvm.MethodName)) ∈ lw_all := lw_g (lw_at lw_m1 136 rfl) rfl
theorem q155 : (Jvm.Cond.privateMethod ({ cls := "IntegrityLayer", name := "newestWaiting", desc := "(I)I" } : Jvm.MethodName)) ∈ lw_tbl := lw_at lw_m1 137 rfl
theorem q156 : (Jvm.Cond.instanceMethod ({ cls := "IntegrityLayer", name := "newestWaiting", desc := "(I)I" } : Jvm.MethodName)) ∈ lw_all := lw_g (lw_at lw_m1 138 rfl) rfl
theorem q157 : (Jvm.Cond.code ({ cls := "IntegrityLayer", name := "newestWaiting", desc := "(I)I" } : Jvm.MethodName) prog_1_method_21_code (3 : Nat) (Option.some Jvm.ClassFile.FieldType.int)) ∈ lw_all := lw_g (lw_at lw_m1 139 rfl) rfl
theorem q158 : (Jvm.Cond.methodLink "IntegrityLayer" (107 : Nat) ({ cls := "IntegrityLayer", name := "durableGood", desc := "(I)Z" } : Jvm.MethodName)) ∈ lw_all := lw_g (lw_at lw_m1 140 rfl) rfl
theorem q159 : (Jvm.Cond.privateMethod ({ cls := "IntegrityLayer", name := "durableGood", desc := "(I)Z" } : Jvm.MethodName)) ∈ lw_tbl := lw_at lw_m1 141 rfl
theorem q160 : (Jvm.Cond.instanceMethod ({ cls := "IntegrityLayer", name := "durableGood", desc := "(I)Z" } : Jvm.MethodName)) ∈ lw_all := lw_g (lw_at lw_m1 142 rfl) rfl
theorem q161 : (Jvm.Cond.code ({ cls := "IntegrityLayer", name := "durableGood", desc := "(I)Z" } : Jvm.MethodName) prog_1_method_23_code (4 : Nat) (Option.some Jvm.ClassFile.FieldType.boolean)) ∈ lw_all := lw_g (lw_at lw_m1 143 rfl) rfl
theorem q162 : (Jvm.Cond.methodLink "IntegrityLayer" (101 : Nat) ({ cls := "IntegrityLayer", name := "newestJournaled", desc := "(I)I" } : Jvm.MethodName)) ∈ lw_all := lw_g (lw_at lw_m1 144 rfl) rfl
theorem q163 : (Jvm.Cond.privateMethod ({ cls := "IntegrityLayer", name := "newestJournaled", desc := "(I)I" } : Jvm.MethodName)) ∈ lw_tbl := lw_at lw_m1 145 rfl
theorem q164 : (Jvm.Cond.instanceMethod ({ cls := "IntegrityLayer", name := "newestJournaled", desc := "(I)I" } : Jvm.MethodName)) ∈ lw_all := lw_g (lw_at lw_m1 146 rfl) rfl
theorem q165 : (Jvm.Cond.code ({ cls := "IntegrityLayer", name := "newestJournaled", desc := "(I)I" } : Jvm.MethodName) prog_1_method_22_code (6 : Nat) (Option.some Jvm.ClassFile.FieldType.int)) ∈ lw_all := lw_g (lw_at lw_m1 147 rfl) rfl
theorem q166 : (Jvm.Cond.methodLink "IntegrityLayer" (110 : Nat) ({ cls := "IntegrityLayer", name := "durableValue", desc := "(I)I" } : Jvm.MethodName)) ∈ lw_all := lw_g (lw_at lw_m1 148 rfl) rfl
theorem q167 : (Jvm.Cond.privateMethod ({ cls := "IntegrityLayer", name := "durableValue", desc := "(I)I" } : Jvm.MethodName)) ∈ lw_tbl := lw_at lw_m1 149 rfl
theorem q168 : (Jvm.Cond.instanceMethod ({ cls := "IntegrityLayer", name := "durableValue", desc := "(I)I" } : Jvm.MethodName)) ∈ lw_all := lw_g (lw_at lw_m1 150 rfl) rfl
theorem q169 : (Jvm.Cond.code ({ cls := "IntegrityLayer", name := "durableValue", desc := "(I)I" } : Jvm.MethodName) prog_1_method_24_code (3 : Nat) (Option.some Jvm.ClassFile.FieldType.int)) ∈ lw_all := lw_g (lw_at lw_m1 151 rfl) rfl
theorem q171 : (Jvm.Cond.instanceMethod ({ cls := "IntegrityLayer", name := "readable", desc := "(I)Z" } : Jvm.MethodName)) ∈ lw_all := lw_g (lw_at lw_m1 153 rfl) rfl
theorem q172 : (Jvm.Cond.selects "IntegrityLayer" ({ cls := "IntegrityLayer", name := "readable", desc := "(I)Z" } : Jvm.MethodName) ({ cls := "IntegrityLayer", name := "readable", desc := "(I)Z" } : Jvm.MethodName)) ∈ lw_all := lw_g (lw_at lw_m1 154 rfl) rfl
theorem q173 : (Jvm.Cond.code ({ cls := "IntegrityLayer", name := "readable", desc := "(I)Z" } : Jvm.MethodName) prog_1_method_26_code (3 : Nat) (Option.some Jvm.ClassFile.FieldType.boolean)) ∈ lw_all := lw_g (lw_at lw_m1 155 rfl) rfl
theorem q175 : (Jvm.Cond.instanceMethod ({ cls := "IntegrityLayer", name := "pending", desc := "()I" } : Jvm.MethodName)) ∈ lw_all := lw_g (lw_at lw_m1 157 rfl) rfl
theorem q176 : (Jvm.Cond.selects "IntegrityLayer" ({ cls := "IntegrityLayer", name := "pending", desc := "()I" } : Jvm.MethodName) ({ cls := "IntegrityLayer", name := "pending", desc := "()I" } : Jvm.MethodName)) ∈ lw_all := lw_g (lw_at lw_m1 158 rfl) rfl
theorem q177 : (Jvm.Cond.code ({ cls := "IntegrityLayer", name := "pending", desc := "()I" } : Jvm.MethodName) prog_1_method_27_code (1 : Nat) (Option.some Jvm.ClassFile.FieldType.int)) ∈ lw_all := lw_g (lw_at lw_m1 159 rfl) rfl
theorem q179 : (Jvm.Cond.instanceMethod ({ cls := "IntegrityLayer", name := "atRisk", desc := "()I" } : Jvm.MethodName)) ∈ lw_all := lw_g (lw_at lw_m1 161 rfl) rfl
theorem q180 : (Jvm.Cond.selects "IntegrityLayer" ({ cls := "IntegrityLayer", name := "atRisk", desc := "()I" } : Jvm.MethodName) ({ cls := "IntegrityLayer", name := "atRisk", desc := "()I" } : Jvm.MethodName)) ∈ lw_all := lw_g (lw_at lw_m1 162 rfl) rfl
theorem q181 : (Jvm.Cond.code ({ cls := "IntegrityLayer", name := "atRisk", desc := "()I" } : Jvm.MethodName) prog_1_method_28_code (6 : Nat) (Option.some Jvm.ClassFile.FieldType.int)) ∈ lw_all := lw_g (lw_at lw_m1 163 rfl) rfl
theorem q183 : (Jvm.Cond.instanceMethod ({ cls := "IntegrityLayer", name := "durable", desc := "()I" } : Jvm.MethodName)) ∈ lw_all := lw_g (lw_at lw_m1 165 rfl) rfl
theorem q184 : (Jvm.Cond.selects "IntegrityLayer" ({ cls := "IntegrityLayer", name := "durable", desc := "()I" } : Jvm.MethodName) ({ cls := "IntegrityLayer", name := "durable", desc := "()I" } : Jvm.MethodName)) ∈ lw_all := lw_g (lw_at lw_m1 166 rfl) rfl
theorem q185 : (Jvm.Cond.code ({ cls := "IntegrityLayer", name := "durable", desc := "()I" } : Jvm.MethodName) prog_1_method_29_code (1 : Nat) (Option.some Jvm.ClassFile.FieldType.int)) ∈ lw_all := lw_g (lw_at lw_m1 167 rfl) rfl
theorem in_X0 : ∀ w ∈ wsX00, w ∈ lw_all := lw_in wsX00 [49, 51, 53, 55, 57, 59, 61, 63, 65, 67, 69, 71, 73, 75] (by decide +kernel) (by decide +kernel)

theorem q78 : (Jvm.Cond.arrayClass Jvm.ClassFile.FieldType.int) ∈ lw_all := lw_g (lw_at lw_m1 60 rfl) rfl
set_option maxRecDepth 100000
theorem q211 : (Jvm.Cond.arrayClass Jvm.ClassFile.FieldType.boolean) ∈ lw_all := lw_g (lw_at lw_m1 193 rfl) rfl

/-! java/lang/Object -/
set_option maxRecDepth 100000
def RJ0 : String := "java/lang/Object"
abbrev cJ0_init : ByteArray := object_method_1_code
def yJ0_init : MethodName := ⟨RJ0, "<init>", "()V"⟩
theorem dJ0_init_0 : decode cJ0_init 0 = .ok (.return_, 1) := by decide +kernel
theorem q27 : (Jvm.Cond.instanceMethod ({ cls := "java/lang/Object", name := "<init>", desc := "()V" } : Jvm.MethodName)) ∈ lw_all := lw_g (lw_at lw_m1 9 rfl) rfl
theorem q28 : (Jvm.Cond.code ({ cls := "java/lang/Object", name := "<init>", desc := "()V" } : Jvm.MethodName) object_method_1_code (1 : Nat) (Option.none : Option Jvm.ClassFile.FieldType)) ∈ lw_all := lw_g (lw_at lw_m1 10 rfl) rfl

theorem q18 : (Jvm.Cond.initialized "IntegrityLayerLaw") ∈ lw_all := lw_g (lw_at lw_m1 0 rfl) rfl
set_option maxRecDepth 100000
theorem q21 : (Jvm.Cond.classLink "IntegrityLayerLaw" (7 : Nat) "IntegrityLayer") ∈ lw_all := lw_g (lw_at lw_m1 3 rfl) rfl
theorem q23 : (Jvm.Cond.methodLink "IntegrityLayerLaw" (9 : Nat) ({ cls := "IntegrityLayer", name := "<init>", desc := "()V" } : Jvm.MethodName)) ∈ lw_all := lw_g (lw_at lw_m1 5 rfl) rfl
theorem q79 : (Jvm.Cond.methodLink "IntegrityLayerLaw" (13 : Nat) ({ cls := "IntegrityLayer", name := "write", desc := "(II)I" } : Jvm.MethodName)) ∈ lw_all := lw_g (lw_at lw_m1 61 rfl) rfl
theorem q86 : (Jvm.Cond.methodLink "IntegrityLayerLaw" (18 : Nat) ({ cls := "IntegrityLayer", name := "flush", desc := "()I" } : Jvm.MethodName)) ∈ lw_all := lw_g (lw_at lw_m1 68 rfl) rfl
theorem q114 : (Jvm.Cond.methodLink "IntegrityLayerLaw" (23 : Nat) ({ cls := "IntegrityLayer", name := "flushSome", desc := "(I)I" } : Jvm.MethodName)) ∈ lw_all := lw_g (lw_at lw_m1 96 rfl) rfl
theorem q122 : (Jvm.Cond.methodLink "IntegrityLayerLaw" (28 : Nat) ({ cls := "IntegrityLayer", name := "crash", desc := "(I)I" } : Jvm.MethodName)) ∈ lw_all := lw_g (lw_at lw_m1 104 rfl) rfl
theorem q138 : (Jvm.Cond.methodLink "IntegrityLayerLaw" (32 : Nat) ({ cls := "IntegrityLayer", name := "damage", desc := "(II)I" } : Jvm.MethodName)) ∈ lw_all := lw_g (lw_at lw_m1 120 rfl) rfl
theorem q146 : (Jvm.Cond.methodLink "IntegrityLayerLaw" (36 : Nat) ({ cls := "IntegrityLayer", name := "scrub", desc := "()I" } : Jvm.MethodName)) ∈ lw_all := lw_g (lw_at lw_m1 128 rfl) rfl
theorem q150 : (Jvm.Cond.methodLink "IntegrityLayerLaw" (40 : Nat) ({ cls := "IntegrityLayer", name := "read", desc := "(I)I" } : Jvm.MethodName)) ∈ lw_all := lw_g (lw_at lw_m1 132 rfl) rfl
theorem q170 : (Jvm.Cond.methodLink "IntegrityLayerLaw" (44 : Nat) ({ cls := "IntegrityLayer", name := "readable", desc := "(I)Z" } : Jvm.MethodName)) ∈ lw_all := lw_g (lw_at lw_m1 152 rfl) rfl
theorem q174 : (Jvm.Cond.methodLink "IntegrityLayerLaw" (49 : Nat) ({ cls := "IntegrityLayer", name := "pending", desc := "()I" } : Jvm.MethodName)) ∈ lw_all := lw_g (lw_at lw_m1 156 rfl) rfl
theorem q178 : (Jvm.Cond.methodLink "IntegrityLayerLaw" (53 : Nat) ({ cls := "IntegrityLayer", name := "atRisk", desc := "()I" } : Jvm.MethodName)) ∈ lw_all := lw_g (lw_at lw_m1 160 rfl) rfl
theorem q182 : (Jvm.Cond.methodLink "IntegrityLayerLaw" (57 : Nat) ({ cls := "IntegrityLayer", name := "durable", desc := "()I" } : Jvm.MethodName)) ∈ lw_all := lw_g (lw_at lw_m1 164 rfl) rfl
theorem q186 : (Jvm.Cond.classLink "IntegrityLayerLaw" (10 : Nat) "IntegrityLayerModel") ∈ lw_all := lw_g (lw_at lw_m1 168 rfl) rfl
theorem q188 : (Jvm.Cond.methodLink "IntegrityLayerLaw" (12 : Nat) ({ cls := "IntegrityLayerModel", name := "<init>", desc := "()V" } : Jvm.MethodName)) ∈ lw_all := lw_g (lw_at lw_m1 170 rfl) rfl
theorem q212 : (Jvm.Cond.methodLink "IntegrityLayerLaw" (17 : Nat) ({ cls := "IntegrityLayerModel", name := "write", desc := "(II)I" } : Jvm.MethodName)) ∈ lw_all := lw_g (lw_at lw_m1 194 rfl) rfl
theorem q220 : (Jvm.Cond.methodLink "IntegrityLayerLaw" (22 : Nat) ({ cls := "IntegrityLayerModel", name := "flush", desc := "()I" } : Jvm.MethodName)) ∈ lw_all := lw_g (lw_at lw_m1 202 rfl) rfl
theorem q232 : (Jvm.Cond.methodLink "IntegrityLayerLaw" (27 : Nat) ({ cls := "IntegrityLayerModel", name := "flushSome", desc := "(I)I" } : Jvm.MethodName)) ∈ lw_all := lw_g (lw_at lw_m1 214 rfl) rfl
theorem q233 : (Jvm.Cond.methodLink "IntegrityLayerLaw" (31 : Nat) ({ cls := "IntegrityLayerModel", name := "crash", desc := "(I)I" } : Jvm.MethodName)) ∈ lw_all := lw_g (lw_at lw_m1 215 rfl) rfl
theorem q237 : (Jvm.Cond.methodLink "IntegrityLayerLaw" (35 : Nat) ({ cls := "IntegrityLayerModel", name := "damage", desc := "(II)I" } : Jvm.MethodName)) ∈ lw_all := lw_g (lw_at lw_m1 219 rfl) rfl
theorem q241 : (Jvm.Cond.methodLink "IntegrityLayerLaw" (39 : Nat) ({ cls := "IntegrityLayerModel", name := "scrub", desc := "()I" } : Jvm.MethodName)) ∈ lw_all := lw_g (lw_at lw_m1 223 rfl) rfl
theorem q245 : (Jvm.Cond.methodLink "IntegrityLayerLaw" (43 : Nat) ({ cls := "IntegrityLayerModel", name := "read", desc := "(I)I" } : Jvm.MethodName)) ∈ lw_all := lw_g (lw_at lw_m1 227 rfl) rfl
theorem q257 : (Jvm.Cond.methodLink "IntegrityLayerLaw" (48 : Nat) ({ cls := "IntegrityLayerModel", name := "readable", desc := "(I)Z" } : Jvm.MethodName)) ∈ lw_all := lw_g (lw_at lw_m1 239 rfl) rfl
theorem q258 : (Jvm.Cond.methodLink "IntegrityLayerLaw" (52 : Nat) ({ cls := "IntegrityLayerModel", name := "pending", desc := "()I" } : Jvm.MethodName)) ∈ lw_all := lw_g (lw_at lw_m2 0 rfl) rfl
theorem q262 : (Jvm.Cond.methodLink "IntegrityLayerLaw" (56 : Nat) ({ cls := "IntegrityLayerModel", name := "atRisk", desc := "()I" } : Jvm.MethodName)) ∈ lw_all := lw_g (lw_at lw_m2 4 rfl) rfl
theorem q267 : (Jvm.Cond.methodLink "IntegrityLayerLaw" (60 : Nat) ({ cls := "IntegrityLayerModel", name := "durable", desc := "()I" } : Jvm.MethodName)) ∈ lw_all := lw_g (lw_at lw_m2 9 rfl) rfl
end
section
set_option maxRecDepth 100000
theorem dX0_init_0 : decode cX0_init 0 = .ok (.aload_n 0, 1) := by decide +kernel
theorem dX0_init_1 : decode cX0_init 1 = .ok (.invokespecial 1, 3) := by decide +kernel
theorem dX0_init_4 : decode cX0_init 4 = .ok (.aload_n 0, 1) := by decide +kernel
theorem dX0_init_5 : decode cX0_init 5 = .ok (.bipush 12, 2) := by decide +kernel
theorem dX0_init_7 : decode cX0_init 7 = .ok (.newarray .int, 2) := by decide +kernel
theorem dX0_init_9 : decode cX0_init 9 = .ok (.putfield 7, 3) := by decide +kernel
theorem dX0_init_12 : decode cX0_init 12 = .ok (.aload_n 0, 1) := by decide +kernel
theorem dX0_init_13 : decode cX0_init 13 = .ok (.bipush 12, 2) := by decide +kernel
theorem dX0_init_15 : decode cX0_init 15 = .ok (.newarray .int, 2) := by decide +kernel
theorem dX0_init_17 : decode cX0_init 17 = .ok (.putfield 13, 3) := by decide +kernel
theorem dX0_init_20 : decode cX0_init 20 = .ok (.aload_n 0, 1) := by decide +kernel
theorem dX0_init_21 : decode cX0_init 21 = .ok (.bipush 8, 2) := by decide +kernel
theorem dX0_init_23 : decode cX0_init 23 = .ok (.newarray .int, 2) := by decide +kernel
theorem dX0_init_25 : decode cX0_init 25 = .ok (.putfield 16, 3) := by decide +kernel
theorem dX0_init_28 : decode cX0_init 28 = .ok (.aload_n 0, 1) := by decide +kernel
theorem dX0_init_29 : decode cX0_init 29 = .ok (.bipush 8, 2) := by decide +kernel
theorem dX0_init_31 : decode cX0_init 31 = .ok (.newarray .int, 2) := by decide +kernel
theorem dX0_init_33 : decode cX0_init 33 = .ok (.putfield 19, 3) := by decide +kernel
theorem dX0_init_36 : decode cX0_init 36 = .ok (.aload_n 0, 1) := by decide +kernel
theorem dX0_init_37 : decode cX0_init 37 = .ok (.bipush 8, 2) := by decide +kernel
theorem dX0_init_39 : decode cX0_init 39 = .ok (.newarray .int, 2) := by decide +kernel
theorem dX0_init_41 : decode cX0_init 41 = .ok (.putfield 22, 3) := by decide +kernel
theorem dX0_init_44 : decode cX0_init 44 = .ok (.aload_n 0, 1) := by decide +kernel
theorem dX0_init_45 : decode cX0_init 45 = .ok (.bipush 32, 2) := by decide +kernel
theorem dX0_init_47 : decode cX0_init 47 = .ok (.newarray .int, 2) := by decide +kernel
theorem dX0_init_49 : decode cX0_init 49 = .ok (.putfield 25, 3) := by decide +kernel
theorem dX0_init_52 : decode cX0_init 52 = .ok (.aload_n 0, 1) := by decide +kernel
theorem dX0_init_53 : decode cX0_init 53 = .ok (.bipush 32, 2) := by decide +kernel
theorem dX0_init_55 : decode cX0_init 55 = .ok (.newarray .int, 2) := by decide +kernel
theorem dX0_init_57 : decode cX0_init 57 = .ok (.putfield 28, 3) := by decide +kernel
theorem dX0_init_60 : decode cX0_init 60 = .ok (.aload_n 0, 1) := by decide +kernel
theorem dX0_init_61 : decode cX0_init 61 = .ok (.bipush 32, 2) := by decide +kernel
theorem dX0_init_63 : decode cX0_init 63 = .ok (.newarray .int, 2) := by decide +kernel
theorem dX0_init_65 : decode cX0_init 65 = .ok (.putfield 31, 3) := by decide +kernel
theorem dX0_init_68 : decode cX0_init 68 = .ok (.aload_n 0, 1) := by decide +kernel
theorem dX0_init_69 : decode cX0_init 69 = .ok (.bipush 20, 2) := by decide +kernel
theorem dX0_init_71 : decode cX0_init 71 = .ok (.newarray .int, 2) := by decide +kernel
theorem dX0_init_73 : decode cX0_init 73 = .ok (.putfield 34, 3) := by decide +kernel
theorem dX0_init_76 : decode cX0_init 76 = .ok (.aload_n 0, 1) := by decide +kernel
theorem dX0_init_77 : decode cX0_init 77 = .ok (.bipush 20, 2) := by decide +kernel
theorem dX0_init_79 : decode cX0_init 79 = .ok (.newarray .int, 2) := by decide +kernel
theorem dX0_init_81 : decode cX0_init 81 = .ok (.putfield 37, 3) := by decide +kernel
theorem dX0_init_84 : decode cX0_init 84 = .ok (.iconst 0, 1) := by decide +kernel
theorem dX0_init_85 : decode cX0_init 85 = .ok (.istore_n 1, 1) := by decide +kernel
theorem dX0_init_86 : decode cX0_init 86 = .ok (.iload_n 1, 1) := by decide +kernel
theorem dX0_init_87 : decode cX0_init 87 = .ok (.bipush 12, 2) := by decide +kernel
theorem dX0_init_89 : decode cX0_init 89 = .ok (.if_icmp .ge 20, 3) := by decide +kernel
theorem dX0_init_92 : decode cX0_init 92 = .ok (.aload_n 0, 1) := by decide +kernel
theorem dX0_init_93 : decode cX0_init 93 = .ok (.getfield 13, 3) := by decide +kernel
theorem dX0_init_96 : decode cX0_init 96 = .ok (.iload_n 1, 1) := by decide +kernel
theorem dX0_init_97 : decode cX0_init 97 = .ok (.iload_n 1, 1) := by decide +kernel
theorem dX0_init_98 : decode cX0_init 98 = .ok (.iconst 0, 1) := by decide +kernel
theorem dX0_init_99 : decode cX0_init 99 = .ok (.invokestatic 40, 3) := by decide +kernel
theorem dX0_init_102 : decode cX0_init 102 = .ok (.iastore, 1) := by decide +kernel
theorem dX0_init_103 : decode cX0_init 103 = .ok (.iinc 1 1, 3) := by decide +kernel
theorem dX0_init_106 : decode cX0_init 106 = .ok (.goto (-20), 3) := by decide +kernel
theorem dX0_init_109 : decode cX0_init 109 = .ok (.iconst 0, 1) := by decide +kernel
theorem dX0_init_110 : decode cX0_init 110 = .ok (.istore_n 1, 1) := by decide +kernel
theorem dX0_init_111 : decode cX0_init 111 = .ok (.iload_n 1, 1) := by decide +kernel
theorem dX0_init_112 : decode cX0_init 112 = .ok (.bipush 8, 2) := by decide +kernel
theorem dX0_init_114 : decode cX0_init 114 = .ok (.if_icmp .ge 16, 3) := by decide +kernel
theorem dX0_init_117 : decode cX0_init 117 = .ok (.aload_n 0, 1) := by decide +kernel
theorem dX0_init_118 : decode cX0_init 118 = .ok (.getfield 16, 3) := by decide +kernel
theorem dX0_init_121 : decode cX0_init 121 = .ok (.iload_n 1, 1) := by decide +kernel
theorem dX0_init_122 : decode cX0_init 122 = .ok (.iconst (-1), 1) := by decide +kernel
theorem dX0_init_123 : decode cX0_init 123 = .ok (.iastore, 1) := by decide +kernel
theorem dX0_init_124 : decode cX0_init 124 = .ok (.iinc 1 1, 3) := by decide +kernel
theorem dX0_init_127 : decode cX0_init 127 = .ok (.goto (-16), 3) := by decide +kernel
theorem dX0_init_130 : decode cX0_init 130 = .ok (.return_, 1) := by decide +kernel
theorem dX0_checkOf_0 : decode cX0_checkOf 0 = .ok (.iload_n 1, 1) := by decide +kernel
theorem dX0_checkOf_1 : decode cX0_checkOf 1 = .ok (.ldc 44, 2) := by decide +kernel
theorem dX0_checkOf_3 : decode cX0_checkOf 3 = .ok (.ixor, 1) := by decide +kernel
theorem dX0_checkOf_4 : decode cX0_checkOf 4 = .ok (.ldc 45, 2) := by decide +kernel
theorem dX0_checkOf_6 : decode cX0_checkOf 6 = .ok (.imul, 1) := by decide +kernel
theorem dX0_checkOf_7 : decode cX0_checkOf 7 = .ok (.iload_n 0, 1) := by decide +kernel
theorem dX0_checkOf_8 : decode cX0_checkOf 8 = .ok (.ldc 46, 2) := by decide +kernel
theorem dX0_checkOf_10 : decode cX0_checkOf 10 = .ok (.imul, 1) := by decide +kernel
theorem dX0_checkOf_11 : decode cX0_checkOf 11 = .ok (.iadd, 1) := by decide +kernel
theorem dX0_checkOf_12 : decode cX0_checkOf 12 = .ok (.ireturn, 1) := by decide +kernel
theorem dX0_write_0 : decode cX0_write 0 = .ok (.iload_n 1, 1) := by decide +kernel
theorem dX0_write_1 : decode cX0_write 1 = .ok (.invokestatic 47, 3) := by decide +kernel
theorem dX0_write_4 : decode cX0_write 4 = .ok (.ifCond .eq 5, 3) := by decide +kernel
theorem dX0_write_7 : decode cX0_write 7 = .ok (.iconst (-1), 1) := by decide +kernel
theorem dX0_write_8 : decode cX0_write 8 = .ok (.ireturn, 1) := by decide +kernel
theorem dX0_write_9 : decode cX0_write 9 = .ok (.aload_n 0, 1) := by decide +kernel
theorem dX0_write_10 : decode cX0_write 10 = .ok (.getfield 51, 3) := by decide +kernel
theorem dX0_write_13 : decode cX0_write 13 = .ok (.bipush 20, 2) := by decide +kernel
theorem dX0_write_15 : decode cX0_write 15 = .ok (.if_icmp .lt 6, 3) := by decide +kernel
theorem dX0_write_18 : decode cX0_write 18 = .ok (.bipush (-2), 2) := by decide +kernel
theorem dX0_write_20 : decode cX0_write 20 = .ok (.ireturn, 1) := by decide +kernel
theorem dX0_write_21 : decode cX0_write 21 = .ok (.aload_n 0, 1) := by decide +kernel
theorem dX0_write_22 : decode cX0_write 22 = .ok (.getfield 34, 3) := by decide +kernel
theorem dX0_write_25 : decode cX0_write 25 = .ok (.aload_n 0, 1) := by decide +kernel
theorem dX0_write_26 : decode cX0_write 26 = .ok (.getfield 51, 3) := by decide +kernel
theorem dX0_write_29 : decode cX0_write 29 = .ok (.iload_n 1, 1) := by decide +kernel
theorem dX0_write_30 : decode cX0_write 30 = .ok (.iastore, 1) := by decide +kernel
theorem dX0_write_31 : decode cX0_write 31 = .ok (.aload_n 0, 1) := by decide +kernel
theorem dX0_write_32 : decode cX0_write 32 = .ok (.getfield 37, 3) := by decide +kernel
theorem dX0_write_35 : decode cX0_write 35 = .ok (.aload_n 0, 1) := by decide +kernel
theorem dX0_write_36 : decode cX0_write 36 = .ok (.getfield 51, 3) := by decide +kernel
theorem dX0_write_39 : decode cX0_write 39 = .ok (.iload_n 2, 1) := by decide +kernel
theorem dX0_write_40 : decode cX0_write 40 = .ok (.iastore, 1) := by decide +kernel
theorem dX0_write_41 : decode cX0_write 41 = .ok (.aload_n 0, 1) := by decide +kernel
theorem dX0_write_42 : decode cX0_write 42 = .ok (.dup, 1) := by decide +kernel
theorem dX0_write_43 : decode cX0_write 43 = .ok (.getfield 51, 3) := by decide +kernel
theorem dX0_write_46 : decode cX0_write 46 = .ok (.iconst 1, 1) := by decide +kernel
theorem dX0_write_47 : decode cX0_write 47 = .ok (.iadd, 1) := by decide +kernel
theorem dX0_write_48 : decode cX0_write 48 = .ok (.putfield 51, 3) := by decide +kernel
theorem dX0_write_51 : decode cX0_write 51 = .ok (.aload_n 0, 1) := by decide +kernel
theorem dX0_write_52 : decode cX0_write 52 = .ok (.getfield 51, 3) := by decide +kernel
theorem dX0_write_55 : decode cX0_write 55 = .ok (.ireturn, 1) := by decide +kernel
theorem dX0_bad_0 : decode cX0_bad 0 = .ok (.iload_n 0, 1) := by decide +kernel
theorem dX0_bad_1 : decode cX0_bad 1 = .ok (.ifCond .lt 9, 3) := by decide +kernel
theorem dX0_bad_4 : decode cX0_bad 4 = .ok (.iload_n 0, 1) := by decide +kernel
theorem dX0_bad_5 : decode cX0_bad 5 = .ok (.bipush 12, 2) := by decide +kernel
theorem dX0_bad_7 : decode cX0_bad 7 = .ok (.if_icmp .lt 7, 3) := by decide +kernel
theorem dX0_bad_10 : decode cX0_bad 10 = .ok (.iconst 1, 1) := by decide +kernel
theorem dX0_bad_11 : decode cX0_bad 11 = .ok (.goto 4, 3) := by decide +kernel
theorem dX0_bad_14 : decode cX0_bad 14 = .ok (.iconst 0, 1) := by decide +kernel
theorem dX0_bad_15 : decode cX0_bad 15 = .ok (.ireturn, 1) := by decide +kernel
theorem dX0_flush_0 : decode cX0_flush 0 = .ok (.aload_n 0, 1) := by decide +kernel
theorem dX0_flush_1 : decode cX0_flush 1 = .ok (.getfield 51, 3) := by decide +kernel
theorem dX0_flush_4 : decode cX0_flush 4 = .ok (.istore_n 1, 1) := by decide +kernel
theorem dX0_flush_5 : decode cX0_flush 5 = .ok (.aload_n 0, 1) := by decide +kernel
theorem dX0_flush_6 : decode cX0_flush 6 = .ok (.iload_n 1, 1) := by decide +kernel
theorem dX0_flush_7 : decode cX0_flush 7 = .ok (.invokevirtual 78, 3) := by decide +kernel
theorem dX0_flush_10 : decode cX0_flush 10 = .ok (.aload_n 0, 1) := by decide +kernel
theorem dX0_flush_11 : decode cX0_flush 11 = .ok (.iload_n 1, 1) := by decide +kernel
theorem dX0_flush_12 : decode cX0_flush 12 = .ok (.invokevirtual 81, 3) := by decide +kernel
theorem dX0_flush_15 : decode cX0_flush 15 = .ok (.iload_n 1, 1) := by decide +kernel
theorem dX0_flush_16 : decode cX0_flush 16 = .ok (.ireturn, 1) := by decide +kernel
theorem dX0_commit_0 : decode cX0_commit 0 = .ok (.iconst 0, 1) := by decide +kernel
theorem dX0_commit_1 : decode cX0_commit 1 = .ok (.istore_n 2, 1) := by decide +kernel
theorem dX0_commit_2 : decode cX0_commit 2 = .ok (.iload_n 2, 1) := by decide +kernel
theorem dX0_commit_3 : decode cX0_commit 3 = .ok (.iload_n 1, 1) := by decide +kernel
theorem dX0_commit_4 : decode cX0_commit 4 = .ok (.if_icmp .ge 55, 3) := by decide +kernel
theorem dX0_commit_7 : decode cX0_commit 7 = .ok (.iload_n 1, 1) := by decide +kernel
theorem dX0_commit_8 : decode cX0_commit 8 = .ok (.iload_n 2, 1) := by decide +kernel
theorem dX0_commit_9 : decode cX0_commit 9 = .ok (.isub, 1) := by decide +kernel
theorem dX0_commit_10 : decode cX0_commit 10 = .ok (.iconst 4, 1) := by decide +kernel
theorem dX0_commit_11 : decode cX0_commit 11 = .ok (.if_icmp .ge 9, 3) := by decide +kernel
theorem dX0_commit_14 : decode cX0_commit 14 = .ok (.iload_n 1, 1) := by decide +kernel
theorem dX0_commit_15 : decode cX0_commit 15 = .ok (.iload_n 2, 1) := by decide +kernel
theorem dX0_commit_16 : decode cX0_commit 16 = .ok (.isub, 1) := by decide +kernel
theorem dX0_commit_17 : decode cX0_commit 17 = .ok (.goto 4, 3) := by decide +kernel
theorem dX0_commit_20 : decode cX0_commit 20 = .ok (.iconst 4, 1) := by decide +kernel
theorem dX0_commit_21 : decode cX0_commit 21 = .ok (.istore_n 3, 1) := by decide +kernel
theorem dX0_commit_22 : decode cX0_commit 22 = .ok (.aload_n 0, 1) := by decide +kernel
theorem dX0_commit_23 : decode cX0_commit 23 = .ok (.iload_n 2, 1) := by decide +kernel
theorem dX0_commit_24 : decode cX0_commit 24 = .ok (.iload_n 3, 1) := by decide +kernel
theorem dX0_commit_25 : decode cX0_commit 25 = .ok (.invokevirtual 64, 3) := by decide +kernel
theorem dX0_commit_28 : decode cX0_commit 28 = .ok (.istore 4, 2) := by decide +kernel
theorem dX0_commit_30 : decode cX0_commit 30 = .ok (.aload_n 0, 1) := by decide +kernel
theorem dX0_commit_31 : decode cX0_commit 31 = .ok (.getfield 22, 3) := by decide +kernel
theorem dX0_commit_34 : decode cX0_commit 34 = .ok (.iload 4, 2) := by decide +kernel
theorem dX0_commit_36 : decode cX0_commit 36 = .ok (.aload_n 0, 1) := by decide +kernel
theorem dX0_commit_37 : decode cX0_commit 37 = .ok (.iload 4, 2) := by decide +kernel
theorem dX0_commit_39 : decode cX0_commit 39 = .ok (.invokevirtual 67, 3) := by decide +kernel
theorem dX0_commit_42 : decode cX0_commit 42 = .ok (.iastore, 1) := by decide +kernel
theorem dX0_commit_43 : decode cX0_commit 43 = .ok (.aload_n 0, 1) := by decide +kernel
theorem dX0_commit_44 : decode cX0_commit 44 = .ok (.dup, 1) := by decide +kernel
theorem dX0_commit_45 : decode cX0_commit 45 = .ok (.getfield 55, 3) := by decide +kernel
theorem dX0_commit_48 : decode cX0_commit 48 = .ok (.iconst 1, 1) := by decide +kernel
theorem dX0_commit_49 : decode cX0_commit 49 = .ok (.iadd, 1) := by decide +kernel
theorem dX0_commit_50 : decode cX0_commit 50 = .ok (.putfield 55, 3) := by decide +kernel
theorem dX0_commit_53 : decode cX0_commit 53 = .ok (.iinc 2 4, 3) := by decide +kernel
theorem dX0_commit_56 : decode cX0_commit 56 = .ok (.goto (-54), 3) := by decide +kernel
theorem dX0_commit_59 : decode cX0_commit 59 = .ok (.aload_n 0, 1) := by decide +kernel
theorem dX0_commit_60 : decode cX0_commit 60 = .ok (.dup, 1) := by decide +kernel
theorem dX0_commit_61 : decode cX0_commit 61 = .ok (.getfield 71, 3) := by decide +kernel
theorem dX0_commit_64 : decode cX0_commit 64 = .ok (.iload_n 1, 1) := by decide +kernel
theorem dX0_commit_65 : decode cX0_commit 65 = .ok (.iadd, 1) := by decide +kernel
theorem dX0_commit_66 : decode cX0_commit 66 = .ok (.putfield 71, 3) := by decide +kernel
theorem dX0_commit_69 : decode cX0_commit 69 = .ok (.return_, 1) := by decide +kernel
theorem dX0_fillSlot_0 : decode cX0_fillSlot 0 = .ok (.aload_n 0, 1) := by decide +kernel
theorem dX0_fillSlot_1 : decode cX0_fillSlot 1 = .ok (.getfield 55, 3) := by decide +kernel
theorem dX0_fillSlot_4 : decode cX0_fillSlot 4 = .ok (.aload_n 0, 1) := by decide +kernel
theorem dX0_fillSlot_5 : decode cX0_fillSlot 5 = .ok (.getfield 58, 3) := by decide +kernel
theorem dX0_fillSlot_8 : decode cX0_fillSlot 8 = .ok (.isub, 1) := by decide +kernel
theorem dX0_fillSlot_9 : decode cX0_fillSlot 9 = .ok (.bipush 7, 2) := by decide +kernel
theorem dX0_fillSlot_11 : decode cX0_fillSlot 11 = .ok (.if_icmp .lt 7, 3) := by decide +kernel
theorem dX0_fillSlot_14 : decode cX0_fillSlot 14 = .ok (.aload_n 0, 1) := by decide +kernel
theorem dX0_fillSlot_15 : decode cX0_fillSlot 15 = .ok (.invokevirtual 61, 3) := by decide +kernel
theorem dX0_fillSlot_18 : decode cX0_fillSlot 18 = .ok (.aload_n 0, 1) := by decide +kernel
theorem dX0_fillSlot_19 : decode cX0_fillSlot 19 = .ok (.getfield 55, 3) := by decide +kernel
theorem dX0_fillSlot_22 : decode cX0_fillSlot 22 = .ok (.bipush 7, 2) := by decide +kernel
theorem dX0_fillSlot_24 : decode cX0_fillSlot 24 = .ok (.iand, 1) := by decide +kernel
theorem dX0_fillSlot_25 : decode cX0_fillSlot 25 = .ok (.istore_n 3, 1) := by decide +kernel
theorem dX0_fillSlot_26 : decode cX0_fillSlot 26 = .ok (.aload_n 0, 1) := by decide +kernel
theorem dX0_fillSlot_27 : decode cX0_fillSlot 27 = .ok (.getfield 16, 3) := by decide +kernel
theorem dX0_fillSlot_30 : decode cX0_fillSlot 30 = .ok (.iload_n 3, 1) := by decide +kernel
theorem dX0_fillSlot_31 : decode cX0_fillSlot 31 = .ok (.aload_n 0, 1) := by decide +kernel
theorem dX0_fillSlot_32 : decode cX0_fillSlot 32 = .ok (.getfield 55, 3) := by decide +kernel
theorem dX0_fillSlot_35 : decode cX0_fillSlot 35 = .ok (.iastore, 1) := by decide +kernel
theorem dX0_fillSlot_36 : decode cX0_fillSlot 36 = .ok (.aload_n 0, 1) := by decide +kernel
theorem dX0_fillSlot_37 : decode cX0_fillSlot 37 = .ok (.getfield 19, 3) := by decide +kernel
theorem dX0_fillSlot_40 : decode cX0_fillSlot 40 = .ok (.iload_n 3, 1) := by decide +kernel
theorem dX0_fillSlot_41 : decode cX0_fillSlot 41 = .ok (.iload_n 2, 1) := by decide +kernel
theorem dX0_fillSlot_42 : decode cX0_fillSlot 42 = .ok (.iastore, 1) := by decide +kernel
theorem dX0_fillSlot_43 : decode cX0_fillSlot 43 = .ok (.iconst 0, 1) := by decide +kernel
theorem dX0_fillSlot_44 : decode cX0_fillSlot 44 = .ok (.istore 4, 2) := by decide +kernel
theorem dX0_fillSlot_46 : decode cX0_fillSlot 46 = .ok (.iload 4, 2) := by decide +kernel
theorem dX0_fillSlot_48 : decode cX0_fillSlot 48 = .ok (.iload_n 2, 1) := by decide +kernel
theorem dX0_fillSlot_49 : decode cX0_fillSlot 49 = .ok (.if_icmp .ge 77, 3) := by decide +kernel
theorem dX0_fillSlot_52 : decode cX0_fillSlot 52 = .ok (.iload_n 3, 1) := by decide +kernel
theorem dX0_fillSlot_53 : decode cX0_fillSlot 53 = .ok (.iconst 4, 1) := by decide +kernel
theorem dX0_fillSlot_54 : decode cX0_fillSlot 54 = .ok (.imul, 1) := by decide +kernel
theorem dX0_fillSlot_55 : decode cX0_fillSlot 55 = .ok (.iload 4, 2) := by decide +kernel
theorem dX0_fillSlot_57 : decode cX0_fillSlot 57 = .ok (.iadd, 1) := by decide +kernel
theorem dX0_fillSlot_58 : decode cX0_fillSlot 58 = .ok (.istore 5, 2) := by decide +kernel
theorem dX0_fillSlot_60 : decode cX0_fillSlot 60 = .ok (.aload_n 0, 1) := by decide +kernel
theorem dX0_fillSlot_61 : decode cX0_fillSlot 61 = .ok (.getfield 25, 3) := by decide +kernel
theorem dX0_fillSlot_64 : decode cX0_fillSlot 64 = .ok (.iload 5, 2) := by decide +kernel
theorem dX0_fillSlot_66 : decode cX0_fillSlot 66 = .ok (.aload_n 0, 1) := by decide +kernel
theorem dX0_fillSlot_67 : decode cX0_fillSlot 67 = .ok (.getfield 34, 3) := by decide +kernel
theorem dX0_fillSlot_70 : decode cX0_fillSlot 70 = .ok (.iload_n 1, 1) := by decide +kernel
theorem dX0_fillSlot_71 : decode cX0_fillSlot 71 = .ok (.iload 4, 2) := by decide +kernel
theorem dX0_fillSlot_73 : decode cX0_fillSlot 73 = .ok (.iadd, 1) := by decide +kernel
theorem dX0_fillSlot_74 : decode cX0_fillSlot 74 = .ok (.iaload, 1) := by decide +kernel
theorem dX0_fillSlot_75 : decode cX0_fillSlot 75 = .ok (.iastore, 1) := by decide +kernel
theorem dX0_fillSlot_76 : decode cX0_fillSlot 76 = .ok (.aload_n 0, 1) := by decide +kernel
theorem dX0_fillSlot_77 : decode cX0_fillSlot 77 = .ok (.getfield 28, 3) := by decide +kernel
theorem dX0_fillSlot_80 : decode cX0_fillSlot 80 = .ok (.iload 5, 2) := by decide +kernel
theorem dX0_fillSlot_82 : decode cX0_fillSlot 82 = .ok (.aload_n 0, 1) := by decide +kernel
theorem dX0_fillSlot_83 : decode cX0_fillSlot 83 = .ok (.getfield 37, 3) := by decide +kernel
theorem dX0_fillSlot_86 : decode cX0_fillSlot 86 = .ok (.iload_n 1, 1) := by decide +kernel
theorem dX0_fillSlot_87 : decode cX0_fillSlot 87 = .ok (.iload 4, 2) := by decide +kernel
theorem dX0_fillSlot_89 : decode cX0_fillSlot 89 = .ok (.iadd, 1) := by decide +kernel
theorem dX0_fillSlot_90 : decode cX0_fillSlot 90 = .ok (.iaload, 1) := by decide +kernel
theorem dX0_fillSlot_91 : decode cX0_fillSlot 91 = .ok (.iastore, 1) := by decide +kernel
theorem dX0_fillSlot_92 : decode cX0_fillSlot 92 = .ok (.aload_n 0, 1) := by decide +kernel
theorem dX0_fillSlot_93 : decode cX0_fillSlot 93 = .ok (.getfield 31, 3) := by decide +kernel
theorem dX0_fillSlot_96 : decode cX0_fillSlot 96 = .ok (.iload 5, 2) := by decide +kernel
theorem dX0_fillSlot_98 : decode cX0_fillSlot 98 = .ok (.aload_n 0, 1) := by decide +kernel
theorem dX0_fillSlot_99 : decode cX0_fillSlot 99 = .ok (.getfield 34, 3) := by decide +kernel
theorem dX0_fillSlot_102 : decode cX0_fillSlot 102 = .ok (.iload_n 1, 1) := by decide +kernel
theorem dX0_fillSlot_103 : decode cX0_fillSlot 103 = .ok (.iload 4, 2) := by decide +kernel
theorem dX0_fillSlot_105 : decode cX0_fillSlot 105 = .ok (.iadd, 1) := by decide +kernel
theorem dX0_fillSlot_106 : decode cX0_fillSlot 106 = .ok (.iaload, 1) := by decide +kernel
theorem dX0_fillSlot_107 : decode cX0_fillSlot 107 = .ok (.aload_n 0, 1) := by decide +kernel
theorem dX0_fillSlot_108 : decode cX0_fillSlot 108 = .ok (.getfield 37, 3) := by decide +kernel
theorem dX0_fillSlot_111 : decode cX0_fillSlot 111 = .ok (.iload_n 1, 1) := by decide +kernel
theorem dX0_fillSlot_112 : decode cX0_fillSlot 112 = .ok (.iload 4, 2) := by decide +kernel
theorem dX0_fillSlot_114 : decode cX0_fillSlot 114 = .ok (.iadd, 1) := by decide +kernel
theorem dX0_fillSlot_115 : decode cX0_fillSlot 115 = .ok (.iaload, 1) := by decide +kernel
theorem dX0_fillSlot_116 : decode cX0_fillSlot 116 = .ok (.invokestatic 40, 3) := by decide +kernel
theorem dX0_fillSlot_119 : decode cX0_fillSlot 119 = .ok (.iastore, 1) := by decide +kernel
theorem dX0_fillSlot_120 : decode cX0_fillSlot 120 = .ok (.iinc 4 1, 3) := by decide +kernel
theorem dX0_fillSlot_123 : decode cX0_fillSlot 123 = .ok (.goto (-77), 3) := by decide +kernel
theorem dX0_fillSlot_126 : decode cX0_fillSlot 126 = .ok (.iload_n 3, 1) := by decide +kernel
theorem dX0_fillSlot_127 : decode cX0_fillSlot 127 = .ok (.ireturn, 1) := by decide +kernel
theorem dX0_copyHome_0 : decode cX0_copyHome 0 = .ok (.aload_n 0, 1) := by decide +kernel
theorem dX0_copyHome_1 : decode cX0_copyHome 1 = .ok (.getfield 58, 3) := by decide +kernel
theorem dX0_copyHome_4 : decode cX0_copyHome 4 = .ok (.istore_n 1, 1) := by decide +kernel
theorem dX0_copyHome_5 : decode cX0_copyHome 5 = .ok (.iload_n 1, 1) := by decide +kernel
theorem dX0_copyHome_6 : decode cX0_copyHome 6 = .ok (.aload_n 0, 1) := by decide +kernel
theorem dX0_copyHome_7 : decode cX0_copyHome 7 = .ok (.getfield 55, 3) := by decide +kernel
theorem dX0_copyHome_10 : decode cX0_copyHome 10 = .ok (.if_icmp .ge 17, 3) := by decide +kernel
theorem dX0_copyHome_13 : decode cX0_copyHome 13 = .ok (.aload_n 0, 1) := by decide +kernel
theorem dX0_copyHome_14 : decode cX0_copyHome 14 = .ok (.iload_n 1, 1) := by decide +kernel
theorem dX0_copyHome_15 : decode cX0_copyHome 15 = .ok (.bipush 7, 2) := by decide +kernel
theorem dX0_copyHome_17 : decode cX0_copyHome 17 = .ok (.iand, 1) := by decide +kernel
theorem dX0_copyHome_18 : decode cX0_copyHome 18 = .ok (.invokevirtual 74, 3) := by decide +kernel
theorem dX0_copyHome_21 : decode cX0_copyHome 21 = .ok (.iinc 1 1, 3) := by decide +kernel
theorem dX0_copyHome_24 : decode cX0_copyHome 24 = .ok (.goto (-19), 3) := by decide +kernel
theorem dX0_copyHome_27 : decode cX0_copyHome 27 = .ok (.aload_n 0, 1) := by decide +kernel
theorem dX0_copyHome_28 : decode cX0_copyHome 28 = .ok (.aload_n 0, 1) := by decide +kernel
theorem dX0_copyHome_29 : decode cX0_copyHome 29 = .ok (.getfield 55, 3) := by decide +kernel
theorem dX0_copyHome_32 : decode cX0_copyHome 32 = .ok (.putfield 58, 3) := by decide +kernel
theorem dX0_copyHome_35 : decode cX0_copyHome 35 = .ok (.return_, 1) := by decide +kernel
theorem dX0_applySlot_0 : decode cX0_applySlot 0 = .ok (.iload_n 1, 1) := by decide +kernel
theorem dX0_applySlot_1 : decode cX0_applySlot 1 = .ok (.iconst 4, 1) := by decide +kernel
theorem dX0_applySlot_2 : decode cX0_applySlot 2 = .ok (.imul, 1) := by decide +kernel
theorem dX0_applySlot_3 : decode cX0_applySlot 3 = .ok (.istore_n 2, 1) := by decide +kernel
theorem dX0_applySlot_4 : decode cX0_applySlot 4 = .ok (.iload_n 2, 1) := by decide +kernel
theorem dX0_applySlot_5 : decode cX0_applySlot 5 = .ok (.iload_n 1, 1) := by decide +kernel
theorem dX0_applySlot_6 : decode cX0_applySlot 6 = .ok (.iconst 4, 1) := by decide +kernel
theorem dX0_applySlot_7 : decode cX0_applySlot 7 = .ok (.imul, 1) := by decide +kernel
theorem dX0_applySlot_8 : decode cX0_applySlot 8 = .ok (.aload_n 0, 1) := by decide +kernel
theorem dX0_applySlot_9 : decode cX0_applySlot 9 = .ok (.getfield 19, 3) := by decide +kernel
theorem dX0_applySlot_12 : decode cX0_applySlot 12 = .ok (.iload_n 1, 1) := by decide +kernel
theorem dX0_applySlot_13 : decode cX0_applySlot 13 = .ok (.iaload, 1) := by decide +kernel
theorem dX0_applySlot_14 : decode cX0_applySlot 14 = .ok (.iadd, 1) := by decide +kernel
theorem dX0_applySlot_15 : decode cX0_applySlot 15 = .ok (.if_icmp .ge 43, 3) := by decide +kernel
theorem dX0_applySlot_18 : decode cX0_applySlot 18 = .ok (.aload_n 0, 1) := by decide +kernel
theorem dX0_applySlot_19 : decode cX0_applySlot 19 = .ok (.getfield 7, 3) := by decide +kernel
theorem dX0_applySlot_22 : decode cX0_applySlot 22 = .ok (.aload_n 0, 1) := by decide +kernel
theorem dX0_applySlot_23 : decode cX0_applySlot 23 = .ok (.getfield 25, 3) := by decide +kernel
theorem dX0_applySlot_26 : decode cX0_applySlot 26 = .ok (.iload_n 2, 1) := by decide +kernel
theorem dX0_applySlot_27 : decode cX0_applySlot 27 = .ok (.iaload, 1) := by decide +kernel
theorem dX0_applySlot_28 : decode cX0_applySlot 28 = .ok (.aload_n 0, 1) := by decide +kernel
theorem dX0_applySlot_29 : decode cX0_applySlot 29 = .ok (.getfield 28, 3) := by decide +kernel
theorem dX0_applySlot_32 : decode cX0_applySlot 32 = .ok (.iload_n 2, 1) := by decide +kernel
theorem dX0_applySlot_33 : decode cX0_applySlot 33 = .ok (.iaload, 1) := by decide +kernel
theorem dX0_applySlot_34 : decode cX0_applySlot 34 = .ok (.iastore, 1) := by decide +kernel
theorem dX0_applySlot_35 : decode cX0_applySlot 35 = .ok (.aload_n 0, 1) := by decide +kernel
theorem dX0_applySlot_36 : decode cX0_applySlot 36 = .ok (.getfield 13, 3) := by decide +kernel
theorem dX0_applySlot_39 : decode cX0_applySlot 39 = .ok (.aload_n 0, 1) := by decide +kernel
theorem dX0_applySlot_40 : decode cX0_applySlot 40 = .ok (.getfield 25, 3) := by decide +kernel
theorem dX0_applySlot_43 : decode cX0_applySlot 43 = .ok (.iload_n 2, 1) := by decide +kernel
theorem dX0_applySlot_44 : decode cX0_applySlot 44 = .ok (.iaload, 1) := by decide +kernel
theorem dX0_applySlot_45 : decode cX0_applySlot 45 = .ok (.aload_n 0, 1) := by decide +kernel
theorem dX0_applySlot_46 : decode cX0_applySlot 46 = .ok (.getfield 31, 3) := by decide +kernel
theorem dX0_applySlot_49 : decode cX0_applySlot 49 = .ok (.iload_n 2, 1) := by decide +kernel
theorem dX0_applySlot_50 : decode cX0_applySlot 50 = .ok (.iaload, 1) := by decide +kernel
theorem dX0_applySlot_51 : decode cX0_applySlot 51 = .ok (.iastore, 1) := by decide +kernel
theorem dX0_applySlot_52 : decode cX0_applySlot 52 = .ok (.iinc 2 1, 3) := by decide +kernel
theorem dX0_applySlot_55 : decode cX0_applySlot 55 = .ok (.goto (-51), 3) := by decide +kernel
theorem dX0_applySlot_58 : decode cX0_applySlot 58 = .ok (.return_, 1) := by decide +kernel
theorem dX0_sumOf_0 : decode cX0_sumOf 0 = .ok (.aload_n 0, 1) := by decide +kernel
theorem dX0_sumOf_1 : decode cX0_sumOf 1 = .ok (.getfield 16, 3) := by decide +kernel
theorem dX0_sumOf_4 : decode cX0_sumOf 4 = .ok (.iload_n 1, 1) := by decide +kernel
theorem dX0_sumOf_5 : decode cX0_sumOf 5 = .ok (.iaload, 1) := by decide +kernel
theorem dX0_sumOf_6 : decode cX0_sumOf 6 = .ok (.bipush 31, 2) := by decide +kernel
theorem dX0_sumOf_8 : decode cX0_sumOf 8 = .ok (.imul, 1) := by decide +kernel
theorem dX0_sumOf_9 : decode cX0_sumOf 9 = .ok (.aload_n 0, 1) := by decide +kernel
theorem dX0_sumOf_10 : decode cX0_sumOf 10 = .ok (.getfield 19, 3) := by decide +kernel
theorem dX0_sumOf_13 : decode cX0_sumOf 13 = .ok (.iload_n 1, 1) := by decide +kernel
theorem dX0_sumOf_14 : decode cX0_sumOf 14 = .ok (.iaload, 1) := by decide +kernel
theorem dX0_sumOf_15 : decode cX0_sumOf 15 = .ok (.iadd, 1) := by decide +kernel
theorem dX0_sumOf_16 : decode cX0_sumOf 16 = .ok (.istore_n 2, 1) := by decide +kernel
theorem dX0_sumOf_17 : decode cX0_sumOf 17 = .ok (.iload_n 1, 1) := by decide +kernel
theorem dX0_sumOf_18 : decode cX0_sumOf 18 = .ok (.iconst 4, 1) := by decide +kernel
theorem dX0_sumOf_19 : decode cX0_sumOf 19 = .ok (.imul, 1) := by decide +kernel
theorem dX0_sumOf_20 : decode cX0_sumOf 20 = .ok (.istore_n 3, 1) := by decide +kernel
theorem dX0_sumOf_21 : decode cX0_sumOf 21 = .ok (.iload_n 3, 1) := by decide +kernel
theorem dX0_sumOf_22 : decode cX0_sumOf 22 = .ok (.iload_n 1, 1) := by decide +kernel
theorem dX0_sumOf_23 : decode cX0_sumOf 23 = .ok (.iconst 4, 1) := by decide +kernel
theorem dX0_sumOf_24 : decode cX0_sumOf 24 = .ok (.imul, 1) := by decide +kernel
theorem dX0_sumOf_25 : decode cX0_sumOf 25 = .ok (.aload_n 0, 1) := by decide +kernel
theorem dX0_sumOf_26 : decode cX0_sumOf 26 = .ok (.getfield 19, 3) := by decide +kernel
theorem dX0_sumOf_29 : decode cX0_sumOf 29 = .ok (.iload_n 1, 1) := by decide +kernel
theorem dX0_sumOf_30 : decode cX0_sumOf 30 = .ok (.iaload, 1) := by decide +kernel
theorem dX0_sumOf_31 : decode cX0_sumOf 31 = .ok (.iadd, 1) := by decide +kernel
theorem dX0_sumOf_32 : decode cX0_sumOf 32 = .ok (.if_icmp .ge 45, 3) := by decide +kernel
theorem dX0_sumOf_35 : decode cX0_sumOf 35 = .ok (.iload_n 2, 1) := by decide +kernel
theorem dX0_sumOf_36 : decode cX0_sumOf 36 = .ok (.bipush 31, 2) := by decide +kernel
theorem dX0_sumOf_38 : decode cX0_sumOf 38 = .ok (.imul, 1) := by decide +kernel
theorem dX0_sumOf_39 : decode cX0_sumOf 39 = .ok (.aload_n 0, 1) := by decide +kernel
theorem dX0_sumOf_40 : decode cX0_sumOf 40 = .ok (.getfield 25, 3) := by decide +kernel
theorem dX0_sumOf_43 : decode cX0_sumOf 43 = .ok (.iload_n 3, 1) := by decide +kernel
theorem dX0_sumOf_44 : decode cX0_sumOf 44 = .ok (.iaload, 1) := by decide +kernel
theorem dX0_sumOf_45 : decode cX0_sumOf 45 = .ok (.iadd, 1) := by decide +kernel
theorem dX0_sumOf_46 : decode cX0_sumOf 46 = .ok (.istore_n 2, 1) := by decide +kernel
theorem dX0_sumOf_47 : decode cX0_sumOf 47 = .ok (.iload_n 2, 1) := by decide +kernel
theorem dX0_sumOf_48 : decode cX0_sumOf 48 = .ok (.bipush 31, 2) := by decide +kernel
theorem dX0_sumOf_50 : decode cX0_sumOf 50 = .ok (.imul, 1) := by decide +kernel
theorem dX0_sumOf_51 : decode cX0_sumOf 51 = .ok (.aload_n 0, 1) := by decide +kernel
theorem dX0_sumOf_52 : decode cX0_sumOf 52 = .ok (.getfield 28, 3) := by decide +kernel
theorem dX0_sumOf_55 : decode cX0_sumOf 55 = .ok (.iload_n 3, 1) := by decide +kernel
theorem dX0_sumOf_56 : decode cX0_sumOf 56 = .ok (.iaload, 1) := by decide +kernel
theorem dX0_sumOf_57 : decode cX0_sumOf 57 = .ok (.iadd, 1) := by decide +kernel
theorem dX0_sumOf_58 : decode cX0_sumOf 58 = .ok (.istore_n 2, 1) := by decide +kernel
theorem dX0_sumOf_59 : decode cX0_sumOf 59 = .ok (.iload_n 2, 1) := by decide +kernel
theorem dX0_sumOf_60 : decode cX0_sumOf 60 = .ok (.bipush 31, 2) := by decide +kernel
theorem dX0_sumOf_62 : decode cX0_sumOf 62 = .ok (.imul, 1) := by decide +kernel
theorem dX0_sumOf_63 : decode cX0_sumOf 63 = .ok (.aload_n 0, 1) := by decide +kernel
theorem dX0_sumOf_64 : decode cX0_sumOf 64 = .ok (.getfield 31, 3) := by decide +kernel
theorem dX0_sumOf_67 : decode cX0_sumOf 67 = .ok (.iload_n 3, 1) := by decide +kernel
theorem dX0_sumOf_68 : decode cX0_sumOf 68 = .ok (.iaload, 1) := by decide +kernel
theorem dX0_sumOf_69 : decode cX0_sumOf 69 = .ok (.iadd, 1) := by decide +kernel
theorem dX0_sumOf_70 : decode cX0_sumOf 70 = .ok (.istore_n 2, 1) := by decide +kernel
theorem dX0_sumOf_71 : decode cX0_sumOf 71 = .ok (.iinc 3 1, 3) := by decide +kernel
theorem dX0_sumOf_74 : decode cX0_sumOf 74 = .ok (.goto (-53), 3) := by decide +kernel
theorem dX0_sumOf_77 : decode cX0_sumOf 77 = .ok (.iload_n 2, 1) := by decide +kernel
theorem dX0_sumOf_78 : decode cX0_sumOf 78 = .ok (.ireturn, 1) := by decide +kernel
theorem dX0_dropWaiting_0 : decode cX0_dropWaiting 0 = .ok (.aload_n 0, 1) := by decide +kernel
theorem dX0_dropWaiting_1 : decode cX0_dropWaiting 1 = .ok (.dup, 1) := by decide +kernel
theorem dX0_dropWaiting_2 : decode cX0_dropWaiting 2 = .ok (.getfield 51, 3) := by decide +kernel
theorem dX0_dropWaiting_5 : decode cX0_dropWaiting 5 = .ok (.iload_n 1, 1) := by decide +kernel
theorem dX0_dropWaiting_6 : decode cX0_dropWaiting 6 = .ok (.isub, 1) := by decide +kernel
theorem dX0_dropWaiting_7 : decode cX0_dropWaiting 7 = .ok (.putfield 51, 3) := by decide +kernel
theorem dX0_dropWaiting_10 : decode cX0_dropWaiting 10 = .ok (.iconst 0, 1) := by decide +kernel
theorem dX0_dropWaiting_11 : decode cX0_dropWaiting 11 = .ok (.istore_n 2, 1) := by decide +kernel
theorem dX0_dropWaiting_12 : decode cX0_dropWaiting 12 = .ok (.iload_n 2, 1) := by decide +kernel
theorem dX0_dropWaiting_13 : decode cX0_dropWaiting 13 = .ok (.aload_n 0, 1) := by decide +kernel
theorem dX0_dropWaiting_14 : decode cX0_dropWaiting 14 = .ok (.getfield 51, 3) := by decide +kernel
theorem dX0_dropWaiting_17 : decode cX0_dropWaiting 17 = .ok (.if_icmp .ge 37, 3) := by decide +kernel
theorem dX0_dropWaiting_20 : decode cX0_dropWaiting 20 = .ok (.aload_n 0, 1) := by decide +kernel
theorem dX0_dropWaiting_21 : decode cX0_dropWaiting 21 = .ok (.getfield 34, 3) := by decide +kernel
theorem dX0_dropWaiting_24 : decode cX0_dropWaiting 24 = .ok (.iload_n 2, 1) := by decide +kernel
theorem dX0_dropWaiting_25 : decode cX0_dropWaiting 25 = .ok (.aload_n 0, 1) := by decide +kernel
theorem dX0_dropWaiting_26 : decode cX0_dropWaiting 26 = .ok (.getfield 34, 3) := by decide +kernel
theorem dX0_dropWaiting_29 : decode cX0_dropWaiting 29 = .ok (.iload_n 2, 1) := by decide +kernel
theorem dX0_dropWaiting_30 : decode cX0_dropWaiting 30 = .ok (.iload_n 1, 1) := by decide +kernel
theorem dX0_dropWaiting_31 : decode cX0_dropWaiting 31 = .ok (.iadd, 1) := by decide +kernel
theorem dX0_dropWaiting_32 : decode cX0_dropWaiting 32 = .ok (.iaload, 1) := by decide +kernel
theorem dX0_dropWaiting_33 : decode cX0_dropWaiting 33 = .ok (.iastore, 1) := by decide +kernel
theorem dX0_dropWaiting_34 : decode cX0_dropWaiting 34 = .ok (.aload_n 0, 1) := by decide +kernel
theorem dX0_dropWaiting_35 : decode cX0_dropWaiting 35 = .ok (.getfield 37, 3) := by decide +kernel
theorem dX0_dropWaiting_38 : decode cX0_dropWaiting 38 = .ok (.iload_n 2, 1) := by decide +kernel
theorem dX0_dropWaiting_39 : decode cX0_dropWaiting 39 = .ok (.aload_n 0, 1) := by decide +kernel
theorem dX0_dropWaiting_40 : decode cX0_dropWaiting 40 = .ok (.getfield 37, 3) := by decide +kernel
theorem dX0_dropWaiting_43 : decode cX0_dropWaiting 43 = .ok (.iload_n 2, 1) := by decide +kernel
theorem dX0_dropWaiting_44 : decode cX0_dropWaiting 44 = .ok (.iload_n 1, 1) := by decide +kernel
theorem dX0_dropWaiting_45 : decode cX0_dropWaiting 45 = .ok (.iadd, 1) := by decide +kernel
end
section
set_option maxRecDepth 100000
theorem dX0_dropWaiting_46 : decode cX0_dropWaiting 46 = .ok (.iaload, 1) := by decide +kernel
theorem dX0_dropWaiting_47 : decode cX0_dropWaiting 47 = .ok (.iastore, 1) := by decide +kernel
theorem dX0_dropWaiting_48 : decode cX0_dropWaiting 48 = .ok (.iinc 2 1, 3) := by decide +kernel
theorem dX0_dropWaiting_51 : decode cX0_dropWaiting 51 = .ok (.goto (-39), 3) := by decide +kernel
theorem dX0_dropWaiting_54 : decode cX0_dropWaiting 54 = .ok (.return_, 1) := by decide +kernel
theorem dX0_flushSome_0 : decode cX0_flushSome 0 = .ok (.aload_n 0, 1) := by decide +kernel
theorem dX0_flushSome_1 : decode cX0_flushSome 1 = .ok (.iload_n 1, 1) := by decide +kernel
theorem dX0_flushSome_2 : decode cX0_flushSome 2 = .ok (.invokevirtual 84, 3) := by decide +kernel
theorem dX0_flushSome_5 : decode cX0_flushSome 5 = .ok (.istore_n 2, 1) := by decide +kernel
theorem dX0_flushSome_6 : decode cX0_flushSome 6 = .ok (.aload_n 0, 1) := by decide +kernel
theorem dX0_flushSome_7 : decode cX0_flushSome 7 = .ok (.iload_n 2, 1) := by decide +kernel
theorem dX0_flushSome_8 : decode cX0_flushSome 8 = .ok (.invokevirtual 78, 3) := by decide +kernel
theorem dX0_flushSome_11 : decode cX0_flushSome 11 = .ok (.aload_n 0, 1) := by decide +kernel
theorem dX0_flushSome_12 : decode cX0_flushSome 12 = .ok (.iload_n 2, 1) := by decide +kernel
theorem dX0_flushSome_13 : decode cX0_flushSome 13 = .ok (.invokevirtual 81, 3) := by decide +kernel
theorem dX0_flushSome_16 : decode cX0_flushSome 16 = .ok (.iload_n 2, 1) := by decide +kernel
theorem dX0_flushSome_17 : decode cX0_flushSome 17 = .ok (.ireturn, 1) := by decide +kernel
theorem dX0_clampWaiting_0 : decode cX0_clampWaiting 0 = .ok (.iload_n 1, 1) := by decide +kernel
theorem dX0_clampWaiting_1 : decode cX0_clampWaiting 1 = .ok (.ifCond .ge 5, 3) := by decide +kernel
theorem dX0_clampWaiting_4 : decode cX0_clampWaiting 4 = .ok (.iconst 0, 1) := by decide +kernel
theorem dX0_clampWaiting_5 : decode cX0_clampWaiting 5 = .ok (.ireturn, 1) := by decide +kernel
theorem dX0_clampWaiting_6 : decode cX0_clampWaiting 6 = .ok (.iload_n 1, 1) := by decide +kernel
theorem dX0_clampWaiting_7 : decode cX0_clampWaiting 7 = .ok (.aload_n 0, 1) := by decide +kernel
theorem dX0_clampWaiting_8 : decode cX0_clampWaiting 8 = .ok (.getfield 51, 3) := by decide +kernel
theorem dX0_clampWaiting_11 : decode cX0_clampWaiting 11 = .ok (.if_icmp .le 10, 3) := by decide +kernel
theorem dX0_clampWaiting_14 : decode cX0_clampWaiting 14 = .ok (.aload_n 0, 1) := by decide +kernel
theorem dX0_clampWaiting_15 : decode cX0_clampWaiting 15 = .ok (.getfield 51, 3) := by decide +kernel
theorem dX0_clampWaiting_18 : decode cX0_clampWaiting 18 = .ok (.goto 4, 3) := by decide +kernel
theorem dX0_clampWaiting_21 : decode cX0_clampWaiting 21 = .ok (.iload_n 1, 1) := by decide +kernel
theorem dX0_clampWaiting_22 : decode cX0_clampWaiting 22 = .ok (.ireturn, 1) := by decide +kernel
theorem dX0_crash_0 : decode cX0_crash 0 = .ok (.aload_n 0, 1) := by decide +kernel
theorem dX0_crash_1 : decode cX0_crash 1 = .ok (.iload_n 1, 1) := by decide +kernel
theorem dX0_crash_2 : decode cX0_crash 2 = .ok (.invokevirtual 84, 3) := by decide +kernel
theorem dX0_crash_5 : decode cX0_crash 5 = .ok (.istore_n 2, 1) := by decide +kernel
theorem dX0_crash_6 : decode cX0_crash 6 = .ok (.aload_n 0, 1) := by decide +kernel
theorem dX0_crash_7 : decode cX0_crash 7 = .ok (.iload_n 2, 1) := by decide +kernel
theorem dX0_crash_8 : decode cX0_crash 8 = .ok (.invokevirtual 78, 3) := by decide +kernel
theorem dX0_crash_11 : decode cX0_crash 11 = .ok (.aload_n 0, 1) := by decide +kernel
theorem dX0_crash_12 : decode cX0_crash 12 = .ok (.getfield 51, 3) := by decide +kernel
theorem dX0_crash_15 : decode cX0_crash 15 = .ok (.iload_n 2, 1) := by decide +kernel
theorem dX0_crash_16 : decode cX0_crash 16 = .ok (.isub, 1) := by decide +kernel
theorem dX0_crash_17 : decode cX0_crash 17 = .ok (.istore_n 3, 1) := by decide +kernel
theorem dX0_crash_18 : decode cX0_crash 18 = .ok (.iload_n 3, 1) := by decide +kernel
theorem dX0_crash_19 : decode cX0_crash 19 = .ok (.ifCond .le 9, 3) := by decide +kernel
theorem dX0_crash_22 : decode cX0_crash 22 = .ok (.aload_n 0, 1) := by decide +kernel
theorem dX0_crash_23 : decode cX0_crash 23 = .ok (.iload_n 2, 1) := by decide +kernel
theorem dX0_crash_24 : decode cX0_crash 24 = .ok (.iload_n 3, 1) := by decide +kernel
theorem dX0_crash_25 : decode cX0_crash 25 = .ok (.invokevirtual 91, 3) := by decide +kernel
theorem dX0_crash_28 : decode cX0_crash 28 = .ok (.aload_n 0, 1) := by decide +kernel
theorem dX0_crash_29 : decode cX0_crash 29 = .ok (.iconst 0, 1) := by decide +kernel
theorem dX0_crash_30 : decode cX0_crash 30 = .ok (.putfield 51, 3) := by decide +kernel
theorem dX0_crash_33 : decode cX0_crash 33 = .ok (.aload_n 0, 1) := by decide +kernel
theorem dX0_crash_34 : decode cX0_crash 34 = .ok (.iconst 0, 1) := by decide +kernel
theorem dX0_crash_35 : decode cX0_crash 35 = .ok (.putfield 55, 3) := by decide +kernel
theorem dX0_crash_38 : decode cX0_crash 38 = .ok (.aload_n 0, 1) := by decide +kernel
theorem dX0_crash_39 : decode cX0_crash 39 = .ok (.invokevirtual 95, 3) := by decide +kernel
theorem dX0_crash_42 : decode cX0_crash 42 = .ok (.iload_n 3, 1) := by decide +kernel
theorem dX0_crash_43 : decode cX0_crash 43 = .ok (.ireturn, 1) := by decide +kernel
theorem dX0_tear_0 : decode cX0_tear 0 = .ok (.iload_n 2, 1) := by decide +kernel
theorem dX0_tear_1 : decode cX0_tear 1 = .ok (.iconst 4, 1) := by decide +kernel
theorem dX0_tear_2 : decode cX0_tear 2 = .ok (.if_icmp .ge 7, 3) := by decide +kernel
theorem dX0_tear_5 : decode cX0_tear 5 = .ok (.iload_n 2, 1) := by decide +kernel
theorem dX0_tear_6 : decode cX0_tear 6 = .ok (.goto 4, 3) := by decide +kernel
theorem dX0_tear_9 : decode cX0_tear 9 = .ok (.iconst 4, 1) := by decide +kernel
theorem dX0_tear_10 : decode cX0_tear 10 = .ok (.istore_n 3, 1) := by decide +kernel
theorem dX0_tear_11 : decode cX0_tear 11 = .ok (.aload_n 0, 1) := by decide +kernel
theorem dX0_tear_12 : decode cX0_tear 12 = .ok (.iload_n 1, 1) := by decide +kernel
theorem dX0_tear_13 : decode cX0_tear 13 = .ok (.iload_n 3, 1) := by decide +kernel
theorem dX0_tear_14 : decode cX0_tear 14 = .ok (.invokevirtual 64, 3) := by decide +kernel
theorem dX0_tear_17 : decode cX0_tear 17 = .ok (.istore 4, 2) := by decide +kernel
theorem dX0_tear_19 : decode cX0_tear 19 = .ok (.aload_n 0, 1) := by decide +kernel
theorem dX0_tear_20 : decode cX0_tear 20 = .ok (.iload 4, 2) := by decide +kernel
theorem dX0_tear_22 : decode cX0_tear 22 = .ok (.invokevirtual 67, 3) := by decide +kernel
theorem dX0_tear_25 : decode cX0_tear 25 = .ok (.istore 5, 2) := by decide +kernel
theorem dX0_tear_27 : decode cX0_tear 27 = .ok (.aload_n 0, 1) := by decide +kernel
theorem dX0_tear_28 : decode cX0_tear 28 = .ok (.getfield 22, 3) := by decide +kernel
theorem dX0_tear_31 : decode cX0_tear 31 = .ok (.iload 4, 2) := by decide +kernel
theorem dX0_tear_33 : decode cX0_tear 33 = .ok (.iload 5, 2) := by decide +kernel
theorem dX0_tear_35 : decode cX0_tear 35 = .ok (.iconst (-1), 1) := by decide +kernel
theorem dX0_tear_36 : decode cX0_tear 36 = .ok (.ixor, 1) := by decide +kernel
theorem dX0_tear_37 : decode cX0_tear 37 = .ok (.iastore, 1) := by decide +kernel
theorem dX0_tear_38 : decode cX0_tear 38 = .ok (.return_, 1) := by decide +kernel
theorem dX0_replay_0 : decode cX0_replay 0 = .ok (.aload_n 0, 1) := by decide +kernel
theorem dX0_replay_1 : decode cX0_replay 1 = .ok (.getfield 58, 3) := by decide +kernel
theorem dX0_replay_4 : decode cX0_replay 4 = .ok (.istore_n 1, 1) := by decide +kernel
theorem dX0_replay_5 : decode cX0_replay 5 = .ok (.iconst 1, 1) := by decide +kernel
theorem dX0_replay_6 : decode cX0_replay 6 = .ok (.istore_n 2, 1) := by decide +kernel
theorem dX0_replay_7 : decode cX0_replay 7 = .ok (.iconst 0, 1) := by decide +kernel
theorem dX0_replay_8 : decode cX0_replay 8 = .ok (.istore_n 3, 1) := by decide +kernel
theorem dX0_replay_9 : decode cX0_replay 9 = .ok (.iload_n 3, 1) := by decide +kernel
theorem dX0_replay_10 : decode cX0_replay 10 = .ok (.bipush 8, 2) := by decide +kernel
theorem dX0_replay_12 : decode cX0_replay 12 = .ok (.if_icmp .ge 38, 3) := by decide +kernel
theorem dX0_replay_15 : decode cX0_replay 15 = .ok (.iload_n 2, 1) := by decide +kernel
theorem dX0_replay_16 : decode cX0_replay 16 = .ok (.ifCond .eq 34, 3) := by decide +kernel
theorem dX0_replay_19 : decode cX0_replay 19 = .ok (.aload_n 0, 1) := by decide +kernel
theorem dX0_replay_20 : decode cX0_replay 20 = .ok (.iload_n 1, 1) := by decide +kernel
theorem dX0_replay_21 : decode cX0_replay 21 = .ok (.bipush 7, 2) := by decide +kernel
theorem dX0_replay_23 : decode cX0_replay 23 = .ok (.iand, 1) := by decide +kernel
theorem dX0_replay_24 : decode cX0_replay 24 = .ok (.iload_n 1, 1) := by decide +kernel
theorem dX0_replay_25 : decode cX0_replay 25 = .ok (.invokevirtual 87, 3) := by decide +kernel
theorem dX0_replay_28 : decode cX0_replay 28 = .ok (.istore_n 2, 1) := by decide +kernel
theorem dX0_replay_29 : decode cX0_replay 29 = .ok (.iload_n 2, 1) := by decide +kernel
theorem dX0_replay_30 : decode cX0_replay 30 = .ok (.ifCond .eq 14, 3) := by decide +kernel
theorem dX0_replay_33 : decode cX0_replay 33 = .ok (.aload_n 0, 1) := by decide +kernel
theorem dX0_replay_34 : decode cX0_replay 34 = .ok (.iload_n 1, 1) := by decide +kernel
theorem dX0_replay_35 : decode cX0_replay 35 = .ok (.bipush 7, 2) := by decide +kernel
theorem dX0_replay_37 : decode cX0_replay 37 = .ok (.iand, 1) := by decide +kernel
theorem dX0_replay_38 : decode cX0_replay 38 = .ok (.invokevirtual 74, 3) := by decide +kernel
theorem dX0_replay_41 : decode cX0_replay 41 = .ok (.iinc 1 1, 3) := by decide +kernel
theorem dX0_replay_44 : decode cX0_replay 44 = .ok (.iinc 3 1, 3) := by decide +kernel
theorem dX0_replay_47 : decode cX0_replay 47 = .ok (.goto (-38), 3) := by decide +kernel
theorem dX0_replay_50 : decode cX0_replay 50 = .ok (.aload_n 0, 1) := by decide +kernel
theorem dX0_replay_51 : decode cX0_replay 51 = .ok (.iload_n 1, 1) := by decide +kernel
theorem dX0_replay_52 : decode cX0_replay 52 = .ok (.putfield 55, 3) := by decide +kernel
theorem dX0_replay_55 : decode cX0_replay 55 = .ok (.aload_n 0, 1) := by decide +kernel
theorem dX0_replay_56 : decode cX0_replay 56 = .ok (.iload_n 1, 1) := by decide +kernel
theorem dX0_replay_57 : decode cX0_replay 57 = .ok (.putfield 58, 3) := by decide +kernel
theorem dX0_replay_60 : decode cX0_replay 60 = .ok (.return_, 1) := by decide +kernel
theorem dX0_whole_0 : decode cX0_whole 0 = .ok (.aload_n 0, 1) := by decide +kernel
theorem dX0_whole_1 : decode cX0_whole 1 = .ok (.getfield 16, 3) := by decide +kernel
theorem dX0_whole_4 : decode cX0_whole 4 = .ok (.iload_n 1, 1) := by decide +kernel
theorem dX0_whole_5 : decode cX0_whole 5 = .ok (.iaload, 1) := by decide +kernel
theorem dX0_whole_6 : decode cX0_whole 6 = .ok (.iload_n 2, 1) := by decide +kernel
theorem dX0_whole_7 : decode cX0_whole 7 = .ok (.if_icmp .ne 23, 3) := by decide +kernel
theorem dX0_whole_10 : decode cX0_whole 10 = .ok (.aload_n 0, 1) := by decide +kernel
theorem dX0_whole_11 : decode cX0_whole 11 = .ok (.getfield 19, 3) := by decide +kernel
theorem dX0_whole_14 : decode cX0_whole 14 = .ok (.iload_n 1, 1) := by decide +kernel
theorem dX0_whole_15 : decode cX0_whole 15 = .ok (.iaload, 1) := by decide +kernel
theorem dX0_whole_16 : decode cX0_whole 16 = .ok (.iconst 1, 1) := by decide +kernel
theorem dX0_whole_17 : decode cX0_whole 17 = .ok (.if_icmp .lt 13, 3) := by decide +kernel
theorem dX0_whole_20 : decode cX0_whole 20 = .ok (.aload_n 0, 1) := by decide +kernel
theorem dX0_whole_21 : decode cX0_whole 21 = .ok (.getfield 19, 3) := by decide +kernel
theorem dX0_whole_24 : decode cX0_whole 24 = .ok (.iload_n 1, 1) := by decide +kernel
theorem dX0_whole_25 : decode cX0_whole 25 = .ok (.iaload, 1) := by decide +kernel
theorem dX0_whole_26 : decode cX0_whole 26 = .ok (.iconst 4, 1) := by decide +kernel
theorem dX0_whole_27 : decode cX0_whole 27 = .ok (.if_icmp .le 5, 3) := by decide +kernel
theorem dX0_whole_30 : decode cX0_whole 30 = .ok (.iconst 0, 1) := by decide +kernel
theorem dX0_whole_31 : decode cX0_whole 31 = .ok (.ireturn, 1) := by decide +kernel
theorem dX0_whole_32 : decode cX0_whole 32 = .ok (.aload_n 0, 1) := by decide +kernel
theorem dX0_whole_33 : decode cX0_whole 33 = .ok (.iload_n 1, 1) := by decide +kernel
theorem dX0_whole_34 : decode cX0_whole 34 = .ok (.invokevirtual 67, 3) := by decide +kernel
theorem dX0_whole_37 : decode cX0_whole 37 = .ok (.istore_n 3, 1) := by decide +kernel
theorem dX0_whole_38 : decode cX0_whole 38 = .ok (.iload_n 3, 1) := by decide +kernel
theorem dX0_whole_39 : decode cX0_whole 39 = .ok (.aload_n 0, 1) := by decide +kernel
theorem dX0_whole_40 : decode cX0_whole 40 = .ok (.getfield 22, 3) := by decide +kernel
theorem dX0_whole_43 : decode cX0_whole 43 = .ok (.iload_n 1, 1) := by decide +kernel
theorem dX0_whole_44 : decode cX0_whole 44 = .ok (.iaload, 1) := by decide +kernel
theorem dX0_whole_45 : decode cX0_whole 45 = .ok (.if_icmp .ne 7, 3) := by decide +kernel
theorem dX0_whole_48 : decode cX0_whole 48 = .ok (.iconst 1, 1) := by decide +kernel
theorem dX0_whole_49 : decode cX0_whole 49 = .ok (.goto 4, 3) := by decide +kernel
theorem dX0_whole_52 : decode cX0_whole 52 = .ok (.iconst 0, 1) := by decide +kernel
theorem dX0_whole_53 : decode cX0_whole 53 = .ok (.ireturn, 1) := by decide +kernel
theorem dX0_damage_0 : decode cX0_damage 0 = .ok (.iload_n 1, 1) := by decide +kernel
theorem dX0_damage_1 : decode cX0_damage 1 = .ok (.invokestatic 47, 3) := by decide +kernel
theorem dX0_damage_4 : decode cX0_damage 4 = .ok (.ifCond .eq 5, 3) := by decide +kernel
theorem dX0_damage_7 : decode cX0_damage 7 = .ok (.iconst (-1), 1) := by decide +kernel
theorem dX0_damage_8 : decode cX0_damage 8 = .ok (.ireturn, 1) := by decide +kernel
theorem dX0_damage_9 : decode cX0_damage 9 = .ok (.aload_n 0, 1) := by decide +kernel
theorem dX0_damage_10 : decode cX0_damage 10 = .ok (.invokevirtual 61, 3) := by decide +kernel
theorem dX0_damage_13 : decode cX0_damage 13 = .ok (.aload_n 0, 1) := by decide +kernel
theorem dX0_damage_14 : decode cX0_damage 14 = .ok (.iload_n 1, 1) := by decide +kernel
theorem dX0_damage_15 : decode cX0_damage 15 = .ok (.invokevirtual 98, 3) := by decide +kernel
theorem dX0_damage_18 : decode cX0_damage 18 = .ok (.istore_n 3, 1) := by decide +kernel
theorem dX0_damage_19 : decode cX0_damage 19 = .ok (.iload_n 3, 1) := by decide +kernel
theorem dX0_damage_20 : decode cX0_damage 20 = .ok (.ifCond .ne 13, 3) := by decide +kernel
theorem dX0_damage_23 : decode cX0_damage 23 = .ok (.aload_n 0, 1) := by decide +kernel
theorem dX0_damage_24 : decode cX0_damage 24 = .ok (.getfield 7, 3) := by decide +kernel
theorem dX0_damage_27 : decode cX0_damage 27 = .ok (.iload_n 1, 1) := by decide +kernel
theorem dX0_damage_28 : decode cX0_damage 28 = .ok (.dup2, 1) := by decide +kernel
theorem dX0_damage_29 : decode cX0_damage 29 = .ok (.iaload, 1) := by decide +kernel
theorem dX0_damage_30 : decode cX0_damage 30 = .ok (.iload_n 2, 1) := by decide +kernel
theorem dX0_damage_31 : decode cX0_damage 31 = .ok (.ixor, 1) := by decide +kernel
theorem dX0_damage_32 : decode cX0_damage 32 = .ok (.iastore, 1) := by decide +kernel
theorem dX0_damage_33 : decode cX0_damage 33 = .ok (.iload_n 3, 1) := by decide +kernel
theorem dX0_damage_34 : decode cX0_damage 34 = .ok (.ifCond .ne 7, 3) := by decide +kernel
theorem dX0_damage_37 : decode cX0_damage 37 = .ok (.iload_n 2, 1) := by decide +kernel
theorem dX0_damage_38 : decode cX0_damage 38 = .ok (.ifCond .eq 7, 3) := by decide +kernel
theorem dX0_damage_41 : decode cX0_damage 41 = .ok (.iconst 1, 1) := by decide +kernel
theorem dX0_damage_42 : decode cX0_damage 42 = .ok (.goto 4, 3) := by decide +kernel
theorem dX0_damage_45 : decode cX0_damage 45 = .ok (.iconst 0, 1) := by decide +kernel
theorem dX0_damage_46 : decode cX0_damage 46 = .ok (.ireturn, 1) := by decide +kernel
theorem dX0_isDamaged_0 : decode cX0_isDamaged 0 = .ok (.iload_n 1, 1) := by decide +kernel
theorem dX0_isDamaged_1 : decode cX0_isDamaged 1 = .ok (.aload_n 0, 1) := by decide +kernel
theorem dX0_isDamaged_2 : decode cX0_isDamaged 2 = .ok (.getfield 7, 3) := by decide +kernel
theorem dX0_isDamaged_5 : decode cX0_isDamaged 5 = .ok (.iload_n 1, 1) := by decide +kernel
theorem dX0_isDamaged_6 : decode cX0_isDamaged 6 = .ok (.iaload, 1) := by decide +kernel
theorem dX0_isDamaged_7 : decode cX0_isDamaged 7 = .ok (.invokestatic 40, 3) := by decide +kernel
theorem dX0_isDamaged_10 : decode cX0_isDamaged 10 = .ok (.istore_n 2, 1) := by decide +kernel
theorem dX0_isDamaged_11 : decode cX0_isDamaged 11 = .ok (.aload_n 0, 1) := by decide +kernel
theorem dX0_isDamaged_12 : decode cX0_isDamaged 12 = .ok (.getfield 13, 3) := by decide +kernel
theorem dX0_isDamaged_15 : decode cX0_isDamaged 15 = .ok (.iload_n 1, 1) := by decide +kernel
theorem dX0_isDamaged_16 : decode cX0_isDamaged 16 = .ok (.iaload, 1) := by decide +kernel
theorem dX0_isDamaged_17 : decode cX0_isDamaged 17 = .ok (.iload_n 2, 1) := by decide +kernel
theorem dX0_isDamaged_18 : decode cX0_isDamaged 18 = .ok (.if_icmp .eq 7, 3) := by decide +kernel
theorem dX0_isDamaged_21 : decode cX0_isDamaged 21 = .ok (.iconst 1, 1) := by decide +kernel
theorem dX0_isDamaged_22 : decode cX0_isDamaged 22 = .ok (.goto 4, 3) := by decide +kernel
theorem dX0_isDamaged_25 : decode cX0_isDamaged 25 = .ok (.iconst 0, 1) := by decide +kernel
theorem dX0_isDamaged_26 : decode cX0_isDamaged 26 = .ok (.ireturn, 1) := by decide +kernel
theorem dX0_scrub_0 : decode cX0_scrub 0 = .ok (.aload_n 0, 1) := by decide +kernel
theorem dX0_scrub_1 : decode cX0_scrub 1 = .ok (.invokevirtual 61, 3) := by decide +kernel
theorem dX0_scrub_4 : decode cX0_scrub 4 = .ok (.iconst 0, 1) := by decide +kernel
theorem dX0_scrub_5 : decode cX0_scrub 5 = .ok (.istore_n 1, 1) := by decide +kernel
theorem dX0_scrub_6 : decode cX0_scrub 6 = .ok (.iconst 0, 1) := by decide +kernel
theorem dX0_scrub_7 : decode cX0_scrub 7 = .ok (.istore_n 2, 1) := by decide +kernel
theorem dX0_scrub_8 : decode cX0_scrub 8 = .ok (.iload_n 2, 1) := by decide +kernel
theorem dX0_scrub_9 : decode cX0_scrub 9 = .ok (.bipush 12, 2) := by decide +kernel
theorem dX0_scrub_11 : decode cX0_scrub 11 = .ok (.if_icmp .ge 22, 3) := by decide +kernel
theorem dX0_scrub_14 : decode cX0_scrub 14 = .ok (.aload_n 0, 1) := by decide +kernel
theorem dX0_scrub_15 : decode cX0_scrub 15 = .ok (.iload_n 2, 1) := by decide +kernel
theorem dX0_scrub_16 : decode cX0_scrub 16 = .ok (.invokevirtual 98, 3) := by decide +kernel
theorem dX0_scrub_19 : decode cX0_scrub 19 = .ok (.istore_n 3, 1) := by decide +kernel
theorem dX0_scrub_20 : decode cX0_scrub 20 = .ok (.iload_n 3, 1) := by decide +kernel
theorem dX0_scrub_21 : decode cX0_scrub 21 = .ok (.ifCond .eq 6, 3) := by decide +kernel
theorem dX0_scrub_24 : decode cX0_scrub 24 = .ok (.iinc 1 1, 3) := by decide +kernel
theorem dX0_scrub_27 : decode cX0_scrub 27 = .ok (.iinc 2 1, 3) := by decide +kernel
theorem dX0_scrub_30 : decode cX0_scrub 30 = .ok (.goto (-22), 3) := by decide +kernel
theorem dX0_scrub_33 : decode cX0_scrub 33 = .ok (.iload_n 1, 1) := by decide +kernel
theorem dX0_scrub_34 : decode cX0_scrub 34 = .ok (.ireturn, 1) := by decide +kernel
theorem dX0_read_0 : decode cX0_read 0 = .ok (.iload_n 1, 1) := by decide +kernel
theorem dX0_read_1 : decode cX0_read 1 = .ok (.invokestatic 47, 3) := by decide +kernel
theorem dX0_read_4 : decode cX0_read 4 = .ok (.ifCond .eq 5, 3) := by decide +kernel
theorem dX0_read_7 : decode cX0_read 7 = .ok (.iconst 0, 1) := by decide +kernel
theorem dX0_read_8 : decode cX0_read 8 = .ok (.ireturn, 1) := by decide +kernel
theorem dX0_read_9 : decode cX0_read 9 = .ok (.aload_n 0, 1) := by decide +kernel
theorem dX0_read_10 : decode cX0_read 10 = .ok (.iload_n 1, 1) := by decide +kernel
theorem dX0_read_11 : decode cX0_read 11 = .ok (.invokevirtual 104, 3) := by decide +kernel
theorem dX0_read_14 : decode cX0_read 14 = .ok (.istore_n 2, 1) := by decide +kernel
theorem dX0_read_15 : decode cX0_read 15 = .ok (.iload_n 2, 1) := by decide +kernel
theorem dX0_read_16 : decode cX0_read 16 = .ok (.ifCond .lt 10, 3) := by decide +kernel
theorem dX0_read_19 : decode cX0_read 19 = .ok (.aload_n 0, 1) := by decide +kernel
theorem dX0_read_20 : decode cX0_read 20 = .ok (.getfield 37, 3) := by decide +kernel
theorem dX0_read_23 : decode cX0_read 23 = .ok (.iload_n 2, 1) := by decide +kernel
theorem dX0_read_24 : decode cX0_read 24 = .ok (.iaload, 1) := by decide +kernel
theorem dX0_read_25 : decode cX0_read 25 = .ok (.ireturn, 1) := by decide +kernel
theorem dX0_read_26 : decode cX0_read 26 = .ok (.aload_n 0, 1) := by decide +kernel
theorem dX0_read_27 : decode cX0_read 27 = .ok (.iload_n 1, 1) := by decide +kernel
theorem dX0_read_28 : decode cX0_read 28 = .ok (.invokevirtual 107, 3) := by decide +kernel
theorem dX0_read_31 : decode cX0_read 31 = .ok (.istore_n 3, 1) := by decide +kernel
theorem dX0_read_32 : decode cX0_read 32 = .ok (.iload_n 3, 1) := by decide +kernel
theorem dX0_read_33 : decode cX0_read 33 = .ok (.ifCond .eq 11, 3) := by decide +kernel
theorem dX0_read_36 : decode cX0_read 36 = .ok (.aload_n 0, 1) := by decide +kernel
theorem dX0_read_37 : decode cX0_read 37 = .ok (.iload_n 1, 1) := by decide +kernel
theorem dX0_read_38 : decode cX0_read 38 = .ok (.invokevirtual 110, 3) := by decide +kernel
theorem dX0_read_41 : decode cX0_read 41 = .ok (.goto 4, 3) := by decide +kernel
theorem dX0_read_44 : decode cX0_read 44 = .ok (.iconst 0, 1) := by decide +kernel
theorem dX0_read_45 : decode cX0_read 45 = .ok (.ireturn, 1) := by decide +kernel
theorem dX0_newestWaiting_0 : decode cX0_newestWaiting 0 = .ok (.aload_n 0, 1) := by decide +kernel
theorem dX0_newestWaiting_1 : decode cX0_newestWaiting 1 = .ok (.getfield 51, 3) := by decide +kernel
theorem dX0_newestWaiting_4 : decode cX0_newestWaiting 4 = .ok (.iconst 1, 1) := by decide +kernel
theorem dX0_newestWaiting_5 : decode cX0_newestWaiting 5 = .ok (.isub, 1) := by decide +kernel
theorem dX0_newestWaiting_6 : decode cX0_newestWaiting 6 = .ok (.istore_n 2, 1) := by decide +kernel
theorem dX0_newestWaiting_7 : decode cX0_newestWaiting 7 = .ok (.iload_n 2, 1) := by decide +kernel
theorem dX0_newestWaiting_8 : decode cX0_newestWaiting 8 = .ok (.ifCond .lt 19, 3) := by decide +kernel
theorem dX0_newestWaiting_11 : decode cX0_newestWaiting 11 = .ok (.aload_n 0, 1) := by decide +kernel
theorem dX0_newestWaiting_12 : decode cX0_newestWaiting 12 = .ok (.getfield 34, 3) := by decide +kernel
theorem dX0_newestWaiting_15 : decode cX0_newestWaiting 15 = .ok (.iload_n 2, 1) := by decide +kernel
theorem dX0_newestWaiting_16 : decode cX0_newestWaiting 16 = .ok (.iaload, 1) := by decide +kernel
theorem dX0_newestWaiting_17 : decode cX0_newestWaiting 17 = .ok (.iload_n 1, 1) := by decide +kernel
theorem dX0_newestWaiting_18 : decode cX0_newestWaiting 18 = .ok (.if_icmp .eq 9, 3) := by decide +kernel
theorem dX0_newestWaiting_21 : decode cX0_newestWaiting 21 = .ok (.iinc 2 (-1), 3) := by decide +kernel
theorem dX0_newestWaiting_24 : decode cX0_newestWaiting 24 = .ok (.goto (-17), 3) := by decide +kernel
theorem dX0_newestWaiting_27 : decode cX0_newestWaiting 27 = .ok (.iload_n 2, 1) := by decide +kernel
theorem dX0_newestWaiting_28 : decode cX0_newestWaiting 28 = .ok (.ireturn, 1) := by decide +kernel
theorem dX0_durableGood_0 : decode cX0_durableGood 0 = .ok (.aload_n 0, 1) := by decide +kernel
theorem dX0_durableGood_1 : decode cX0_durableGood 1 = .ok (.iload_n 1, 1) := by decide +kernel
theorem dX0_durableGood_2 : decode cX0_durableGood 2 = .ok (.invokevirtual 101, 3) := by decide +kernel
theorem dX0_durableGood_5 : decode cX0_durableGood 5 = .ok (.istore_n 2, 1) := by decide +kernel
theorem dX0_durableGood_6 : decode cX0_durableGood 6 = .ok (.iload_n 2, 1) := by decide +kernel
theorem dX0_durableGood_7 : decode cX0_durableGood 7 = .ok (.ifCond .lt 5, 3) := by decide +kernel
theorem dX0_durableGood_10 : decode cX0_durableGood 10 = .ok (.iconst 1, 1) := by decide +kernel
theorem dX0_durableGood_11 : decode cX0_durableGood 11 = .ok (.ireturn, 1) := by decide +kernel
theorem dX0_durableGood_12 : decode cX0_durableGood 12 = .ok (.aload_n 0, 1) := by decide +kernel
theorem dX0_durableGood_13 : decode cX0_durableGood 13 = .ok (.iload_n 1, 1) := by decide +kernel
theorem dX0_durableGood_14 : decode cX0_durableGood 14 = .ok (.invokevirtual 98, 3) := by decide +kernel
theorem dX0_durableGood_17 : decode cX0_durableGood 17 = .ok (.istore_n 3, 1) := by decide +kernel
theorem dX0_durableGood_18 : decode cX0_durableGood 18 = .ok (.iload_n 3, 1) := by decide +kernel
theorem dX0_durableGood_19 : decode cX0_durableGood 19 = .ok (.ifCond .ne 7, 3) := by decide +kernel
theorem dX0_durableGood_22 : decode cX0_durableGood 22 = .ok (.iconst 1, 1) := by decide +kernel
theorem dX0_durableGood_23 : decode cX0_durableGood 23 = .ok (.goto 4, 3) := by decide +kernel
theorem dX0_durableGood_26 : decode cX0_durableGood 26 = .ok (.iconst 0, 1) := by decide +kernel
theorem dX0_durableGood_27 : decode cX0_durableGood 27 = .ok (.ireturn, 1) := by decide +kernel
theorem dX0_newestJournaled_0 : decode cX0_newestJournaled 0 = .ok (.iconst (-1), 1) := by decide +kernel
theorem dX0_newestJournaled_1 : decode cX0_newestJournaled 1 = .ok (.istore_n 2, 1) := by decide +kernel
theorem dX0_newestJournaled_2 : decode cX0_newestJournaled 2 = .ok (.aload_n 0, 1) := by decide +kernel
theorem dX0_newestJournaled_3 : decode cX0_newestJournaled 3 = .ok (.getfield 58, 3) := by decide +kernel
theorem dX0_newestJournaled_6 : decode cX0_newestJournaled 6 = .ok (.istore_n 3, 1) := by decide +kernel
theorem dX0_newestJournaled_7 : decode cX0_newestJournaled 7 = .ok (.iload_n 3, 1) := by decide +kernel
theorem dX0_newestJournaled_8 : decode cX0_newestJournaled 8 = .ok (.aload_n 0, 1) := by decide +kernel
theorem dX0_newestJournaled_9 : decode cX0_newestJournaled 9 = .ok (.getfield 55, 3) := by decide +kernel
theorem dX0_newestJournaled_12 : decode cX0_newestJournaled 12 = .ok (.if_icmp .ge 58, 3) := by decide +kernel
theorem dX0_newestJournaled_15 : decode cX0_newestJournaled 15 = .ok (.iload_n 3, 1) := by decide +kernel
theorem dX0_newestJournaled_16 : decode cX0_newestJournaled 16 = .ok (.bipush 7, 2) := by decide +kernel
theorem dX0_newestJournaled_18 : decode cX0_newestJournaled 18 = .ok (.iand, 1) := by decide +kernel
theorem dX0_newestJournaled_19 : decode cX0_newestJournaled 19 = .ok (.istore 4, 2) := by decide +kernel
theorem dX0_newestJournaled_21 : decode cX0_newestJournaled 21 = .ok (.iload 4, 2) := by decide +kernel
theorem dX0_newestJournaled_23 : decode cX0_newestJournaled 23 = .ok (.iconst 4, 1) := by decide +kernel
theorem dX0_newestJournaled_24 : decode cX0_newestJournaled 24 = .ok (.imul, 1) := by decide +kernel
theorem dX0_newestJournaled_25 : decode cX0_newestJournaled 25 = .ok (.istore 5, 2) := by decide +kernel
theorem dX0_newestJournaled_27 : decode cX0_newestJournaled 27 = .ok (.iload 5, 2) := by decide +kernel
theorem dX0_newestJournaled_29 : decode cX0_newestJournaled 29 = .ok (.iload 4, 2) := by decide +kernel
theorem dX0_newestJournaled_31 : decode cX0_newestJournaled 31 = .ok (.iconst 4, 1) := by decide +kernel
theorem dX0_newestJournaled_32 : decode cX0_newestJournaled 32 = .ok (.imul, 1) := by decide +kernel
theorem dX0_newestJournaled_33 : decode cX0_newestJournaled 33 = .ok (.aload_n 0, 1) := by decide +kernel
theorem dX0_newestJournaled_34 : decode cX0_newestJournaled 34 = .ok (.getfield 19, 3) := by decide +kernel
theorem dX0_newestJournaled_37 : decode cX0_newestJournaled 37 = .ok (.iload 4, 2) := by decide +kernel
theorem dX0_newestJournaled_39 : decode cX0_newestJournaled 39 = .ok (.iaload, 1) := by decide +kernel
theorem dX0_newestJournaled_40 : decode cX0_newestJournaled 40 = .ok (.iadd, 1) := by decide +kernel
theorem dX0_newestJournaled_41 : decode cX0_newestJournaled 41 = .ok (.if_icmp .ge 23, 3) := by decide +kernel
theorem dX0_newestJournaled_44 : decode cX0_newestJournaled 44 = .ok (.aload_n 0, 1) := by decide +kernel
theorem dX0_newestJournaled_45 : decode cX0_newestJournaled 45 = .ok (.getfield 25, 3) := by decide +kernel
theorem dX0_newestJournaled_48 : decode cX0_newestJournaled 48 = .ok (.iload 5, 2) := by decide +kernel
theorem dX0_newestJournaled_50 : decode cX0_newestJournaled 50 = .ok (.iaload, 1) := by decide +kernel
theorem dX0_newestJournaled_51 : decode cX0_newestJournaled 51 = .ok (.iload_n 1, 1) := by decide +kernel
theorem dX0_newestJournaled_52 : decode cX0_newestJournaled 52 = .ok (.if_icmp .ne 6, 3) := by decide +kernel
theorem dX0_newestJournaled_55 : decode cX0_newestJournaled 55 = .ok (.iload 5, 2) := by decide +kernel
theorem dX0_newestJournaled_57 : decode cX0_newestJournaled 57 = .ok (.istore_n 2, 1) := by decide +kernel
theorem dX0_newestJournaled_58 : decode cX0_newestJournaled 58 = .ok (.iinc 5 1, 3) := by decide +kernel
theorem dX0_newestJournaled_61 : decode cX0_newestJournaled 61 = .ok (.goto (-34), 3) := by decide +kernel
theorem dX0_newestJournaled_64 : decode cX0_newestJournaled 64 = .ok (.iinc 3 1, 3) := by decide +kernel
theorem dX0_newestJournaled_67 : decode cX0_newestJournaled 67 = .ok (.goto (-60), 3) := by decide +kernel
theorem dX0_newestJournaled_70 : decode cX0_newestJournaled 70 = .ok (.iload_n 2, 1) := by decide +kernel
theorem dX0_newestJournaled_71 : decode cX0_newestJournaled 71 = .ok (.ireturn, 1) := by decide +kernel
theorem dX0_durableValue_0 : decode cX0_durableValue 0 = .ok (.aload_n 0, 1) := by decide +kernel
theorem dX0_durableValue_1 : decode cX0_durableValue 1 = .ok (.iload_n 1, 1) := by decide +kernel
theorem dX0_durableValue_2 : decode cX0_durableValue 2 = .ok (.invokevirtual 101, 3) := by decide +kernel
theorem dX0_durableValue_5 : decode cX0_durableValue 5 = .ok (.istore_n 2, 1) := by decide +kernel
theorem dX0_durableValue_6 : decode cX0_durableValue 6 = .ok (.iload_n 2, 1) := by decide +kernel
theorem dX0_durableValue_7 : decode cX0_durableValue 7 = .ok (.ifCond .lt 12, 3) := by decide +kernel
theorem dX0_durableValue_10 : decode cX0_durableValue 10 = .ok (.aload_n 0, 1) := by decide +kernel
theorem dX0_durableValue_11 : decode cX0_durableValue 11 = .ok (.getfield 28, 3) := by decide +kernel
theorem dX0_durableValue_14 : decode cX0_durableValue 14 = .ok (.iload_n 2, 1) := by decide +kernel
theorem dX0_durableValue_15 : decode cX0_durableValue 15 = .ok (.iaload, 1) := by decide +kernel
theorem dX0_durableValue_16 : decode cX0_durableValue 16 = .ok (.goto 9, 3) := by decide +kernel
theorem dX0_durableValue_19 : decode cX0_durableValue 19 = .ok (.aload_n 0, 1) := by decide +kernel
theorem dX0_durableValue_20 : decode cX0_durableValue 20 = .ok (.getfield 7, 3) := by decide +kernel
theorem dX0_durableValue_23 : decode cX0_durableValue 23 = .ok (.iload_n 1, 1) := by decide +kernel
theorem dX0_durableValue_24 : decode cX0_durableValue 24 = .ok (.iaload, 1) := by decide +kernel
theorem dX0_durableValue_25 : decode cX0_durableValue 25 = .ok (.ireturn, 1) := by decide +kernel
theorem dX0_readable_0 : decode cX0_readable 0 = .ok (.iload_n 1, 1) := by decide +kernel
theorem dX0_readable_1 : decode cX0_readable 1 = .ok (.invokestatic 47, 3) := by decide +kernel
theorem dX0_readable_4 : decode cX0_readable 4 = .ok (.ifCond .eq 5, 3) := by decide +kernel
theorem dX0_readable_7 : decode cX0_readable 7 = .ok (.iconst 0, 1) := by decide +kernel
theorem dX0_readable_8 : decode cX0_readable 8 = .ok (.ireturn, 1) := by decide +kernel
theorem dX0_readable_9 : decode cX0_readable 9 = .ok (.aload_n 0, 1) := by decide +kernel
theorem dX0_readable_10 : decode cX0_readable 10 = .ok (.iload_n 1, 1) := by decide +kernel
theorem dX0_readable_11 : decode cX0_readable 11 = .ok (.invokevirtual 104, 3) := by decide +kernel
theorem dX0_readable_14 : decode cX0_readable 14 = .ok (.istore_n 2, 1) := by decide +kernel
theorem dX0_readable_15 : decode cX0_readable 15 = .ok (.iload_n 2, 1) := by decide +kernel
theorem dX0_readable_16 : decode cX0_readable 16 = .ok (.ifCond .ge 11, 3) := by decide +kernel
theorem dX0_readable_19 : decode cX0_readable 19 = .ok (.aload_n 0, 1) := by decide +kernel
theorem dX0_readable_20 : decode cX0_readable 20 = .ok (.iload_n 1, 1) := by decide +kernel
theorem dX0_readable_21 : decode cX0_readable 21 = .ok (.invokevirtual 107, 3) := by decide +kernel
theorem dX0_readable_24 : decode cX0_readable 24 = .ok (.ifCond .eq 7, 3) := by decide +kernel
theorem dX0_readable_27 : decode cX0_readable 27 = .ok (.iconst 1, 1) := by decide +kernel
theorem dX0_readable_28 : decode cX0_readable 28 = .ok (.goto 4, 3) := by decide +kernel
theorem dX0_readable_31 : decode cX0_readable 31 = .ok (.iconst 0, 1) := by decide +kernel
theorem dX0_readable_32 : decode cX0_readable 32 = .ok (.ireturn, 1) := by decide +kernel
theorem dX0_pending_0 : decode cX0_pending 0 = .ok (.aload_n 0, 1) := by decide +kernel
theorem dX0_pending_1 : decode cX0_pending 1 = .ok (.getfield 51, 3) := by decide +kernel
theorem dX0_pending_4 : decode cX0_pending 4 = .ok (.ireturn, 1) := by decide +kernel
theorem dX0_atRisk_0 : decode cX0_atRisk 0 = .ok (.iconst 0, 1) := by decide +kernel
theorem dX0_atRisk_1 : decode cX0_atRisk 1 = .ok (.istore_n 1, 1) := by decide +kernel
theorem dX0_atRisk_2 : decode cX0_atRisk 2 = .ok (.iconst 0, 1) := by decide +kernel
theorem dX0_atRisk_3 : decode cX0_atRisk 3 = .ok (.istore_n 2, 1) := by decide +kernel
theorem dX0_atRisk_4 : decode cX0_atRisk 4 = .ok (.iload_n 2, 1) := by decide +kernel
theorem dX0_atRisk_5 : decode cX0_atRisk 5 = .ok (.bipush 12, 2) := by decide +kernel
theorem dX0_atRisk_7 : decode cX0_atRisk 7 = .ok (.if_icmp .ge 52, 3) := by decide +kernel
theorem dX0_atRisk_10 : decode cX0_atRisk 10 = .ok (.aload_n 0, 1) := by decide +kernel
theorem dX0_atRisk_11 : decode cX0_atRisk 11 = .ok (.iload_n 2, 1) := by decide +kernel
theorem dX0_atRisk_12 : decode cX0_atRisk 12 = .ok (.invokevirtual 104, 3) := by decide +kernel
theorem dX0_atRisk_15 : decode cX0_atRisk 15 = .ok (.istore_n 3, 1) := by decide +kernel
theorem dX0_atRisk_16 : decode cX0_atRisk 16 = .ok (.iload_n 3, 1) := by decide +kernel
theorem dX0_atRisk_17 : decode cX0_atRisk 17 = .ok (.ifCond .lt 36, 3) := by decide +kernel
theorem dX0_atRisk_20 : decode cX0_atRisk 20 = .ok (.aload_n 0, 1) := by decide +kernel
theorem dX0_atRisk_21 : decode cX0_atRisk 21 = .ok (.iload_n 2, 1) := by decide +kernel
theorem dX0_atRisk_22 : decode cX0_atRisk 22 = .ok (.invokevirtual 107, 3) := by decide +kernel
theorem dX0_atRisk_25 : decode cX0_atRisk 25 = .ok (.istore 4, 2) := by decide +kernel
theorem dX0_atRisk_27 : decode cX0_atRisk 27 = .ok (.aload_n 0, 1) := by decide +kernel
theorem dX0_atRisk_28 : decode cX0_atRisk 28 = .ok (.iload_n 2, 1) := by decide +kernel
theorem dX0_atRisk_29 : decode cX0_atRisk 29 = .ok (.invokevirtual 110, 3) := by decide +kernel
theorem dX0_atRisk_32 : decode cX0_atRisk 32 = .ok (.istore 5, 2) := by decide +kernel
theorem dX0_atRisk_34 : decode cX0_atRisk 34 = .ok (.iload 4, 2) := by decide +kernel
theorem dX0_atRisk_36 : decode cX0_atRisk 36 = .ok (.ifCond .eq 14, 3) := by decide +kernel
theorem dX0_atRisk_39 : decode cX0_atRisk 39 = .ok (.iload 5, 2) := by decide +kernel
theorem dX0_atRisk_41 : decode cX0_atRisk 41 = .ok (.aload_n 0, 1) := by decide +kernel
theorem dX0_atRisk_42 : decode cX0_atRisk 42 = .ok (.getfield 37, 3) := by decide +kernel
theorem dX0_atRisk_45 : decode cX0_atRisk 45 = .ok (.iload_n 3, 1) := by decide +kernel
theorem dX0_atRisk_46 : decode cX0_atRisk 46 = .ok (.iaload, 1) := by decide +kernel
theorem dX0_atRisk_47 : decode cX0_atRisk 47 = .ok (.if_icmp .eq 6, 3) := by decide +kernel
theorem dX0_atRisk_50 : decode cX0_atRisk 50 = .ok (.iinc 1 1, 3) := by decide +kernel
theorem dX0_atRisk_53 : decode cX0_atRisk 53 = .ok (.iinc 2 1, 3) := by decide +kernel
theorem dX0_atRisk_56 : decode cX0_atRisk 56 = .ok (.goto (-52), 3) := by decide +kernel
theorem dX0_atRisk_59 : decode cX0_atRisk 59 = .ok (.iload_n 1, 1) := by decide +kernel
theorem dX0_atRisk_60 : decode cX0_atRisk 60 = .ok (.ireturn, 1) := by decide +kernel
theorem dX0_durable_0 : decode cX0_durable 0 = .ok (.aload_n 0, 1) := by decide +kernel
theorem dX0_durable_1 : decode cX0_durable 1 = .ok (.getfield 71, 3) := by decide +kernel
theorem dX0_durable_4 : decode cX0_durable 4 = .ok (.ireturn, 1) := by decide +kernel
end
section
/-! IntegrityLayerModel -/
set_option maxRecDepth 100000
def RX1 : String := "IntegrityLayerModel"
def TX1 : u_T := fun k => match k with
  | 0 => ("IntegrityLayerModel", "sectors", "[I", true)
  | 1 => ("IntegrityLayerModel", "values", "[I", true)
  | 2 => ("IntegrityLayerModel", "count", "I", false)
  | 3 => ("IntegrityLayerModel", "kept", "[I", true)
  | 4 => ("IntegrityLayerModel", "damaged", "[Z", true)
  | _ => ("IntegrityLayerModel", "madeDurable", "I", false)
def tyX1 : Nat → FieldType := fun k => match k with
  | 0 => .array .int
  | 1 => .array .int
  | 2 => .int
  | 3 => .array .int
  | 4 => .array .boolean
  | _ => .int
abbrev wsX10 : List Cond := u_ws RX1 TX1 6
theorem nmX1 : ∀ a, a < 6 → ∀ b, b < 6 → a ≠ b → (TX1 a).2.1 ≠ (TX1 b).2.1 := by decide +kernel
theorem tyX1_ok : ∀ k, k < 6 → parseFieldDescriptor (TX1 k).2.2.1 = some (tyX1 k) := by decide +kernel
abbrev cX1_init : ByteArray := prog_3_method_1_code
def yX1_init : MethodName := ⟨RX1, "<init>", "()V"⟩
theorem dX1_init_0 : decode cX1_init 0 = .ok (.aload_n 0, 1) := by decide +kernel
theorem dX1_init_1 : decode cX1_init 1 = .ok (.invokespecial 1, 3) := by decide +kernel
theorem dX1_init_4 : decode cX1_init 4 = .ok (.aload_n 0, 1) := by decide +kernel
theorem dX1_init_5 : decode cX1_init 5 = .ok (.bipush 20, 2) := by decide +kernel
theorem dX1_init_7 : decode cX1_init 7 = .ok (.newarray .int, 2) := by decide +kernel
theorem dX1_init_9 : decode cX1_init 9 = .ok (.putfield 7, 3) := by decide +kernel
theorem dX1_init_12 : decode cX1_init 12 = .ok (.aload_n 0, 1) := by decide +kernel
theorem dX1_init_13 : decode cX1_init 13 = .ok (.bipush 20, 2) := by decide +kernel
theorem dX1_init_15 : decode cX1_init 15 = .ok (.newarray .int, 2) := by decide +kernel
theorem dX1_init_17 : decode cX1_init 17 = .ok (.putfield 13, 3) := by decide +kernel
theorem dX1_init_20 : decode cX1_init 20 = .ok (.aload_n 0, 1) := by decide +kernel
theorem dX1_init_21 : decode cX1_init 21 = .ok (.bipush 12, 2) := by decide +kernel
theorem dX1_init_23 : decode cX1_init 23 = .ok (.newarray .int, 2) := by decide +kernel
theorem dX1_init_25 : decode cX1_init 25 = .ok (.putfield 16, 3) := by decide +kernel
theorem dX1_init_28 : decode cX1_init 28 = .ok (.aload_n 0, 1) := by decide +kernel
theorem dX1_init_29 : decode cX1_init 29 = .ok (.bipush 12, 2) := by decide +kernel
theorem dX1_init_31 : decode cX1_init 31 = .ok (.newarray .boolean, 2) := by decide +kernel
theorem dX1_init_33 : decode cX1_init 33 = .ok (.putfield 19, 3) := by decide +kernel
theorem dX1_init_36 : decode cX1_init 36 = .ok (.return_, 1) := by decide +kernel
abbrev cX1_write : ByteArray := prog_3_method_3_code
def yX1_write : MethodName := ⟨RX1, "write", "(II)I"⟩
theorem dX1_write_0 : decode cX1_write 0 = .ok (.aload_n 0, 1) := by decide +kernel
theorem dX1_write_1 : decode cX1_write 1 = .ok (.iload_n 1, 1) := by decide +kernel
theorem dX1_write_2 : decode cX1_write 2 = .ok (.invokevirtual 23, 3) := by decide +kernel
theorem dX1_write_5 : decode cX1_write 5 = .ok (.ifCond .ne 5, 3) := by decide +kernel
theorem dX1_write_8 : decode cX1_write 8 = .ok (.iconst (-1), 1) := by decide +kernel
theorem dX1_write_9 : decode cX1_write 9 = .ok (.ireturn, 1) := by decide +kernel
theorem dX1_write_10 : decode cX1_write 10 = .ok (.aload_n 0, 1) := by decide +kernel
theorem dX1_write_11 : decode cX1_write 11 = .ok (.getfield 27, 3) := by decide +kernel
theorem dX1_write_14 : decode cX1_write 14 = .ok (.bipush 20, 2) := by decide +kernel
theorem dX1_write_16 : decode cX1_write 16 = .ok (.if_icmp .ne 6, 3) := by decide +kernel
theorem dX1_write_19 : decode cX1_write 19 = .ok (.bipush (-2), 2) := by decide +kernel
theorem dX1_write_21 : decode cX1_write 21 = .ok (.ireturn, 1) := by decide +kernel
theorem dX1_write_22 : decode cX1_write 22 = .ok (.aload_n 0, 1) := by decide +kernel
theorem dX1_write_23 : decode cX1_write 23 = .ok (.getfield 7, 3) := by decide +kernel
theorem dX1_write_26 : decode cX1_write 26 = .ok (.aload_n 0, 1) := by decide +kernel
theorem dX1_write_27 : decode cX1_write 27 = .ok (.getfield 27, 3) := by decide +kernel
theorem dX1_write_30 : decode cX1_write 30 = .ok (.iload_n 1, 1) := by decide +kernel
theorem dX1_write_31 : decode cX1_write 31 = .ok (.iastore, 1) := by decide +kernel
theorem dX1_write_32 : decode cX1_write 32 = .ok (.aload_n 0, 1) := by decide +kernel
theorem dX1_write_33 : decode cX1_write 33 = .ok (.getfield 13, 3) := by decide +kernel
theorem dX1_write_36 : decode cX1_write 36 = .ok (.aload_n 0, 1) := by decide +kernel
theorem dX1_write_37 : decode cX1_write 37 = .ok (.getfield 27, 3) := by decide +kernel
theorem dX1_write_40 : decode cX1_write 40 = .ok (.iload_n 2, 1) := by decide +kernel
theorem dX1_write_41 : decode cX1_write 41 = .ok (.iastore, 1) := by decide +kernel
theorem dX1_write_42 : decode cX1_write 42 = .ok (.aload_n 0, 1) := by decide +kernel
theorem dX1_write_43 : decode cX1_write 43 = .ok (.dup, 1) := by decide +kernel
theorem dX1_write_44 : decode cX1_write 44 = .ok (.getfield 27, 3) := by decide +kernel
theorem dX1_write_47 : decode cX1_write 47 = .ok (.iconst 1, 1) := by decide +kernel
theorem dX1_write_48 : decode cX1_write 48 = .ok (.iadd, 1) := by decide +kernel
theorem dX1_write_49 : decode cX1_write 49 = .ok (.putfield 27, 3) := by decide +kernel
theorem dX1_write_52 : decode cX1_write 52 = .ok (.aload_n 0, 1) := by decide +kernel
theorem dX1_write_53 : decode cX1_write 53 = .ok (.getfield 27, 3) := by decide +kernel
theorem dX1_write_56 : decode cX1_write 56 = .ok (.ireturn, 1) := by decide +kernel
abbrev cX1_isSector : ByteArray := prog_3_method_2_code
def yX1_isSector : MethodName := ⟨RX1, "isSector", "(I)Z"⟩
theorem dX1_isSector_0 : decode cX1_isSector 0 = .ok (.iload_n 1, 1) := by decide +kernel
theorem dX1_isSector_1 : decode cX1_isSector 1 = .ok (.ifCond .lt 13, 3) := by decide +kernel
theorem dX1_isSector_4 : decode cX1_isSector 4 = .ok (.iload_n 1, 1) := by decide +kernel
theorem dX1_isSector_5 : decode cX1_isSector 5 = .ok (.bipush 11, 2) := by decide +kernel
theorem dX1_isSector_7 : decode cX1_isSector 7 = .ok (.if_icmp .gt 7, 3) := by decide +kernel
theorem dX1_isSector_10 : decode cX1_isSector 10 = .ok (.iconst 1, 1) := by decide +kernel
theorem dX1_isSector_11 : decode cX1_isSector 11 = .ok (.goto 4, 3) := by decide +kernel
theorem dX1_isSector_14 : decode cX1_isSector 14 = .ok (.iconst 0, 1) := by decide +kernel
theorem dX1_isSector_15 : decode cX1_isSector 15 = .ok (.ireturn, 1) := by decide +kernel
abbrev cX1_flush : ByteArray := prog_3_method_4_code
def yX1_flush : MethodName := ⟨RX1, "flush", "()I"⟩
theorem dX1_flush_0 : decode cX1_flush 0 = .ok (.aload_n 0, 1) := by decide +kernel
theorem dX1_flush_1 : decode cX1_flush 1 = .ok (.aload_n 0, 1) := by decide +kernel
theorem dX1_flush_2 : decode cX1_flush 2 = .ok (.getfield 27, 3) := by decide +kernel
theorem dX1_flush_5 : decode cX1_flush 5 = .ok (.invokevirtual 31, 3) := by decide +kernel
theorem dX1_flush_8 : decode cX1_flush 8 = .ok (.ireturn, 1) := by decide +kernel
abbrev cX1_flushSome : ByteArray := prog_3_method_6_code
def yX1_flushSome : MethodName := ⟨RX1, "flushSome", "(I)I"⟩
theorem dX1_flushSome_0 : decode cX1_flushSome 0 = .ok (.aload_n 0, 1) := by decide +kernel
theorem dX1_flushSome_1 : decode cX1_flushSome 1 = .ok (.iload_n 1, 1) := by decide +kernel
theorem dX1_flushSome_2 : decode cX1_flushSome 2 = .ok (.invokevirtual 35, 3) := by decide +kernel
theorem dX1_flushSome_5 : decode cX1_flushSome 5 = .ok (.istore_n 2, 1) := by decide +kernel
theorem dX1_flushSome_6 : decode cX1_flushSome 6 = .ok (.iconst 0, 1) := by decide +kernel
theorem dX1_flushSome_7 : decode cX1_flushSome 7 = .ok (.istore_n 3, 1) := by decide +kernel
theorem dX1_flushSome_8 : decode cX1_flushSome 8 = .ok (.iload_n 3, 1) := by decide +kernel
theorem dX1_flushSome_9 : decode cX1_flushSome 9 = .ok (.iload_n 2, 1) := by decide +kernel
theorem dX1_flushSome_10 : decode cX1_flushSome 10 = .ok (.if_icmp .ge 38, 3) := by decide +kernel
theorem dX1_flushSome_13 : decode cX1_flushSome 13 = .ok (.aload_n 0, 1) := by decide +kernel
theorem dX1_flushSome_14 : decode cX1_flushSome 14 = .ok (.getfield 16, 3) := by decide +kernel
theorem dX1_flushSome_17 : decode cX1_flushSome 17 = .ok (.aload_n 0, 1) := by decide +kernel
theorem dX1_flushSome_18 : decode cX1_flushSome 18 = .ok (.getfield 7, 3) := by decide +kernel
theorem dX1_flushSome_21 : decode cX1_flushSome 21 = .ok (.iload_n 3, 1) := by decide +kernel
theorem dX1_flushSome_22 : decode cX1_flushSome 22 = .ok (.iaload, 1) := by decide +kernel
theorem dX1_flushSome_23 : decode cX1_flushSome 23 = .ok (.aload_n 0, 1) := by decide +kernel
theorem dX1_flushSome_24 : decode cX1_flushSome 24 = .ok (.getfield 13, 3) := by decide +kernel
theorem dX1_flushSome_27 : decode cX1_flushSome 27 = .ok (.iload_n 3, 1) := by decide +kernel
theorem dX1_flushSome_28 : decode cX1_flushSome 28 = .ok (.iaload, 1) := by decide +kernel
theorem dX1_flushSome_29 : decode cX1_flushSome 29 = .ok (.iastore, 1) := by decide +kernel
theorem dX1_flushSome_30 : decode cX1_flushSome 30 = .ok (.aload_n 0, 1) := by decide +kernel
theorem dX1_flushSome_31 : decode cX1_flushSome 31 = .ok (.getfield 19, 3) := by decide +kernel
theorem dX1_flushSome_34 : decode cX1_flushSome 34 = .ok (.aload_n 0, 1) := by decide +kernel
theorem dX1_flushSome_35 : decode cX1_flushSome 35 = .ok (.getfield 7, 3) := by decide +kernel
theorem dX1_flushSome_38 : decode cX1_flushSome 38 = .ok (.iload_n 3, 1) := by decide +kernel
theorem dX1_flushSome_39 : decode cX1_flushSome 39 = .ok (.iaload, 1) := by decide +kernel
theorem dX1_flushSome_40 : decode cX1_flushSome 40 = .ok (.iconst 0, 1) := by decide +kernel
theorem dX1_flushSome_41 : decode cX1_flushSome 41 = .ok (.bastore, 1) := by decide +kernel
theorem dX1_flushSome_42 : decode cX1_flushSome 42 = .ok (.iinc 3 1, 3) := by decide +kernel
theorem dX1_flushSome_45 : decode cX1_flushSome 45 = .ok (.goto (-37), 3) := by decide +kernel
theorem dX1_flushSome_48 : decode cX1_flushSome 48 = .ok (.aload_n 0, 1) := by decide +kernel
theorem dX1_flushSome_49 : decode cX1_flushSome 49 = .ok (.dup, 1) := by decide +kernel
theorem dX1_flushSome_50 : decode cX1_flushSome 50 = .ok (.getfield 38, 3) := by decide +kernel
theorem dX1_flushSome_53 : decode cX1_flushSome 53 = .ok (.iload_n 2, 1) := by decide +kernel
theorem dX1_flushSome_54 : decode cX1_flushSome 54 = .ok (.iadd, 1) := by decide +kernel
theorem dX1_flushSome_55 : decode cX1_flushSome 55 = .ok (.putfield 38, 3) := by decide +kernel
theorem dX1_flushSome_58 : decode cX1_flushSome 58 = .ok (.aload_n 0, 1) := by decide +kernel
theorem dX1_flushSome_59 : decode cX1_flushSome 59 = .ok (.dup, 1) := by decide +kernel
theorem dX1_flushSome_60 : decode cX1_flushSome 60 = .ok (.getfield 27, 3) := by decide +kernel
theorem dX1_flushSome_63 : decode cX1_flushSome 63 = .ok (.iload_n 2, 1) := by decide +kernel
theorem dX1_flushSome_64 : decode cX1_flushSome 64 = .ok (.isub, 1) := by decide +kernel
theorem dX1_flushSome_65 : decode cX1_flushSome 65 = .ok (.putfield 27, 3) := by decide +kernel
theorem dX1_flushSome_68 : decode cX1_flushSome 68 = .ok (.iconst 0, 1) := by decide +kernel
theorem dX1_flushSome_69 : decode cX1_flushSome 69 = .ok (.istore_n 3, 1) := by decide +kernel
theorem dX1_flushSome_70 : decode cX1_flushSome 70 = .ok (.iload_n 3, 1) := by decide +kernel
theorem dX1_flushSome_71 : decode cX1_flushSome 71 = .ok (.aload_n 0, 1) := by decide +kernel
theorem dX1_flushSome_72 : decode cX1_flushSome 72 = .ok (.getfield 27, 3) := by decide +kernel
theorem dX1_flushSome_75 : decode cX1_flushSome 75 = .ok (.if_icmp .ge 37, 3) := by decide +kernel
theorem dX1_flushSome_78 : decode cX1_flushSome 78 = .ok (.aload_n 0, 1) := by decide +kernel
theorem dX1_flushSome_79 : decode cX1_flushSome 79 = .ok (.getfield 7, 3) := by decide +kernel
theorem dX1_flushSome_82 : decode cX1_flushSome 82 = .ok (.iload_n 3, 1) := by decide +kernel
theorem dX1_flushSome_83 : decode cX1_flushSome 83 = .ok (.aload_n 0, 1) := by decide +kernel
theorem dX1_flushSome_84 : decode cX1_flushSome 84 = .ok (.getfield 7, 3) := by decide +kernel
theorem dX1_flushSome_87 : decode cX1_flushSome 87 = .ok (.iload_n 3, 1) := by decide +kernel
theorem dX1_flushSome_88 : decode cX1_flushSome 88 = .ok (.iload_n 2, 1) := by decide +kernel
theorem dX1_flushSome_89 : decode cX1_flushSome 89 = .ok (.iadd, 1) := by decide +kernel
theorem dX1_flushSome_90 : decode cX1_flushSome 90 = .ok (.iaload, 1) := by decide +kernel
theorem dX1_flushSome_91 : decode cX1_flushSome 91 = .ok (.iastore, 1) := by decide +kernel
theorem dX1_flushSome_92 : decode cX1_flushSome 92 = .ok (.aload_n 0, 1) := by decide +kernel
theorem dX1_flushSome_93 : decode cX1_flushSome 93 = .ok (.getfield 13, 3) := by decide +kernel
theorem dX1_flushSome_96 : decode cX1_flushSome 96 = .ok (.iload_n 3, 1) := by decide +kernel
theorem dX1_flushSome_97 : decode cX1_flushSome 97 = .ok (.aload_n 0, 1) := by decide +kernel
theorem dX1_flushSome_98 : decode cX1_flushSome 98 = .ok (.getfield 13, 3) := by decide +kernel
theorem dX1_flushSome_101 : decode cX1_flushSome 101 = .ok (.iload_n 3, 1) := by decide +kernel
theorem dX1_flushSome_102 : decode cX1_flushSome 102 = .ok (.iload_n 2, 1) := by decide +kernel
theorem dX1_flushSome_103 : decode cX1_flushSome 103 = .ok (.iadd, 1) := by decide +kernel
theorem dX1_flushSome_104 : decode cX1_flushSome 104 = .ok (.iaload, 1) := by decide +kernel
theorem dX1_flushSome_105 : decode cX1_flushSome 105 = .ok (.iastore, 1) := by decide +kernel
theorem dX1_flushSome_106 : decode cX1_flushSome 106 = .ok (.iinc 3 1, 3) := by decide +kernel
theorem dX1_flushSome_109 : decode cX1_flushSome 109 = .ok (.goto (-39), 3) := by decide +kernel
theorem dX1_flushSome_112 : decode cX1_flushSome 112 = .ok (.iload_n 2, 1) := by decide +kernel
theorem dX1_flushSome_113 : decode cX1_flushSome 113 = .ok (.ireturn, 1) := by decide +kernel
abbrev cX1_adjusted : ByteArray := prog_3_method_5_code
def yX1_adjusted : MethodName := ⟨RX1, "adjusted", "(I)I"⟩
theorem dX1_adjusted_0 : decode cX1_adjusted 0 = .ok (.iload_n 1, 1) := by decide +kernel
theorem dX1_adjusted_1 : decode cX1_adjusted 1 = .ok (.ifCond .ge 5, 3) := by decide +kernel
theorem dX1_adjusted_4 : decode cX1_adjusted 4 = .ok (.iconst 0, 1) := by decide +kernel
theorem dX1_adjusted_5 : decode cX1_adjusted 5 = .ok (.ireturn, 1) := by decide +kernel
theorem dX1_adjusted_6 : decode cX1_adjusted 6 = .ok (.iload_n 1, 1) := by decide +kernel
theorem dX1_adjusted_7 : decode cX1_adjusted 7 = .ok (.aload_n 0, 1) := by decide +kernel
theorem dX1_adjusted_8 : decode cX1_adjusted 8 = .ok (.getfield 27, 3) := by decide +kernel
theorem dX1_adjusted_11 : decode cX1_adjusted 11 = .ok (.if_icmp .le 10, 3) := by decide +kernel
theorem dX1_adjusted_14 : decode cX1_adjusted 14 = .ok (.aload_n 0, 1) := by decide +kernel
theorem dX1_adjusted_15 : decode cX1_adjusted 15 = .ok (.getfield 27, 3) := by decide +kernel
theorem dX1_adjusted_18 : decode cX1_adjusted 18 = .ok (.goto 4, 3) := by decide +kernel
theorem dX1_adjusted_21 : decode cX1_adjusted 21 = .ok (.iload_n 1, 1) := by decide +kernel
theorem dX1_adjusted_22 : decode cX1_adjusted 22 = .ok (.ireturn, 1) := by decide +kernel
abbrev cX1_crash : ByteArray := prog_3_method_7_code
def yX1_crash : MethodName := ⟨RX1, "crash", "(I)I"⟩
theorem dX1_crash_0 : decode cX1_crash 0 = .ok (.aload_n 0, 1) := by decide +kernel
theorem dX1_crash_1 : decode cX1_crash 1 = .ok (.iload_n 1, 1) := by decide +kernel
theorem dX1_crash_2 : decode cX1_crash 2 = .ok (.invokevirtual 31, 3) := by decide +kernel
theorem dX1_crash_5 : decode cX1_crash 5 = .ok (.pop, 1) := by decide +kernel
theorem dX1_crash_6 : decode cX1_crash 6 = .ok (.aload_n 0, 1) := by decide +kernel
theorem dX1_crash_7 : decode cX1_crash 7 = .ok (.getfield 27, 3) := by decide +kernel
theorem dX1_crash_10 : decode cX1_crash 10 = .ok (.istore_n 2, 1) := by decide +kernel
theorem dX1_crash_11 : decode cX1_crash 11 = .ok (.aload_n 0, 1) := by decide +kernel
theorem dX1_crash_12 : decode cX1_crash 12 = .ok (.iconst 0, 1) := by decide +kernel
theorem dX1_crash_13 : decode cX1_crash 13 = .ok (.putfield 27, 3) := by decide +kernel
theorem dX1_crash_16 : decode cX1_crash 16 = .ok (.iload_n 2, 1) := by decide +kernel
theorem dX1_crash_17 : decode cX1_crash 17 = .ok (.ireturn, 1) := by decide +kernel
abbrev cX1_damage : ByteArray := prog_3_method_8_code
def yX1_damage : MethodName := ⟨RX1, "damage", "(II)I"⟩
theorem dX1_damage_0 : decode cX1_damage 0 = .ok (.aload_n 0, 1) := by decide +kernel
theorem dX1_damage_1 : decode cX1_damage 1 = .ok (.iload_n 1, 1) := by decide +kernel
theorem dX1_damage_2 : decode cX1_damage 2 = .ok (.invokevirtual 23, 3) := by decide +kernel
theorem dX1_damage_5 : decode cX1_damage 5 = .ok (.ifCond .ne 5, 3) := by decide +kernel
theorem dX1_damage_8 : decode cX1_damage 8 = .ok (.iconst (-1), 1) := by decide +kernel
theorem dX1_damage_9 : decode cX1_damage 9 = .ok (.ireturn, 1) := by decide +kernel
theorem dX1_damage_10 : decode cX1_damage 10 = .ok (.iload_n 2, 1) := by decide +kernel
theorem dX1_damage_11 : decode cX1_damage 11 = .ok (.ifCond .eq 10, 3) := by decide +kernel
theorem dX1_damage_14 : decode cX1_damage 14 = .ok (.aload_n 0, 1) := by decide +kernel
theorem dX1_damage_15 : decode cX1_damage 15 = .ok (.getfield 19, 3) := by decide +kernel
theorem dX1_damage_18 : decode cX1_damage 18 = .ok (.iload_n 1, 1) := by decide +kernel
theorem dX1_damage_19 : decode cX1_damage 19 = .ok (.iconst 1, 1) := by decide +kernel
theorem dX1_damage_20 : decode cX1_damage 20 = .ok (.bastore, 1) := by decide +kernel
theorem dX1_damage_21 : decode cX1_damage 21 = .ok (.aload_n 0, 1) := by decide +kernel
theorem dX1_damage_22 : decode cX1_damage 22 = .ok (.getfield 19, 3) := by decide +kernel
theorem dX1_damage_25 : decode cX1_damage 25 = .ok (.iload_n 1, 1) := by decide +kernel
theorem dX1_damage_26 : decode cX1_damage 26 = .ok (.baload, 1) := by decide +kernel
theorem dX1_damage_27 : decode cX1_damage 27 = .ok (.ifCond .eq 7, 3) := by decide +kernel
theorem dX1_damage_30 : decode cX1_damage 30 = .ok (.iconst 1, 1) := by decide +kernel
theorem dX1_damage_31 : decode cX1_damage 31 = .ok (.goto 4, 3) := by decide +kernel
theorem dX1_damage_34 : decode cX1_damage 34 = .ok (.iconst 0, 1) := by decide +kernel
theorem dX1_damage_35 : decode cX1_damage 35 = .ok (.ireturn, 1) := by decide +kernel
abbrev cX1_scrub : ByteArray := prog_3_method_9_code
def yX1_scrub : MethodName := ⟨RX1, "scrub", "()I"⟩
theorem dX1_scrub_0 : decode cX1_scrub 0 = .ok (.iconst 0, 1) := by decide +kernel
theorem dX1_scrub_1 : decode cX1_scrub 1 = .ok (.istore_n 1, 1) := by decide +kernel
theorem dX1_scrub_2 : decode cX1_scrub 2 = .ok (.iconst 0, 1) := by decide +kernel
theorem dX1_scrub_3 : decode cX1_scrub 3 = .ok (.istore_n 2, 1) := by decide +kernel
theorem dX1_scrub_4 : decode cX1_scrub 4 = .ok (.iload_n 2, 1) := by decide +kernel
theorem dX1_scrub_5 : decode cX1_scrub 5 = .ok (.bipush 12, 2) := by decide +kernel
theorem dX1_scrub_7 : decode cX1_scrub 7 = .ok (.if_icmp .ge 21, 3) := by decide +kernel
theorem dX1_scrub_10 : decode cX1_scrub 10 = .ok (.aload_n 0, 1) := by decide +kernel
theorem dX1_scrub_11 : decode cX1_scrub 11 = .ok (.getfield 19, 3) := by decide +kernel
theorem dX1_scrub_14 : decode cX1_scrub 14 = .ok (.iload_n 2, 1) := by decide +kernel
theorem dX1_scrub_15 : decode cX1_scrub 15 = .ok (.baload, 1) := by decide +kernel
theorem dX1_scrub_16 : decode cX1_scrub 16 = .ok (.ifCond .eq 6, 3) := by decide +kernel
theorem dX1_scrub_19 : decode cX1_scrub 19 = .ok (.iinc 1 1, 3) := by decide +kernel
theorem dX1_scrub_22 : decode cX1_scrub 22 = .ok (.iinc 2 1, 3) := by decide +kernel
theorem dX1_scrub_25 : decode cX1_scrub 25 = .ok (.goto (-21), 3) := by decide +kernel
theorem dX1_scrub_28 : decode cX1_scrub 28 = .ok (.iload_n 1, 1) := by decide +kernel
theorem dX1_scrub_29 : decode cX1_scrub 29 = .ok (.ireturn, 1) := by decide +kernel
abbrev cX1_read : ByteArray := prog_3_method_11_code
def yX1_read : MethodName := ⟨RX1, "read", "(I)I"⟩
theorem dX1_read_0 : decode cX1_read 0 = .ok (.aload_n 0, 1) := by decide +kernel
theorem dX1_read_1 : decode cX1_read 1 = .ok (.iload_n 1, 1) := by decide +kernel
theorem dX1_read_2 : decode cX1_read 2 = .ok (.invokevirtual 41, 3) := by decide +kernel
theorem dX1_read_5 : decode cX1_read 5 = .ok (.ifCond .ne 5, 3) := by decide +kernel
theorem dX1_read_8 : decode cX1_read 8 = .ok (.iconst 0, 1) := by decide +kernel
theorem dX1_read_9 : decode cX1_read 9 = .ok (.ireturn, 1) := by decide +kernel
theorem dX1_read_10 : decode cX1_read 10 = .ok (.aload_n 0, 1) := by decide +kernel
theorem dX1_read_11 : decode cX1_read 11 = .ok (.iload_n 1, 1) := by decide +kernel
theorem dX1_read_12 : decode cX1_read 12 = .ok (.invokevirtual 44, 3) := by decide +kernel
theorem dX1_read_15 : decode cX1_read 15 = .ok (.istore_n 2, 1) := by decide +kernel
theorem dX1_read_16 : decode cX1_read 16 = .ok (.iload_n 2, 1) := by decide +kernel
theorem dX1_read_17 : decode cX1_read 17 = .ok (.ifCond .lt 12, 3) := by decide +kernel
theorem dX1_read_20 : decode cX1_read 20 = .ok (.aload_n 0, 1) := by decide +kernel
theorem dX1_read_21 : decode cX1_read 21 = .ok (.getfield 13, 3) := by decide +kernel
theorem dX1_read_24 : decode cX1_read 24 = .ok (.iload_n 2, 1) := by decide +kernel
theorem dX1_read_25 : decode cX1_read 25 = .ok (.iaload, 1) := by decide +kernel
theorem dX1_read_26 : decode cX1_read 26 = .ok (.goto 9, 3) := by decide +kernel
theorem dX1_read_29 : decode cX1_read 29 = .ok (.aload_n 0, 1) := by decide +kernel
theorem dX1_read_30 : decode cX1_read 30 = .ok (.getfield 16, 3) := by decide +kernel
theorem dX1_read_33 : decode cX1_read 33 = .ok (.iload_n 1, 1) := by decide +kernel
theorem dX1_read_34 : decode cX1_read 34 = .ok (.iaload, 1) := by decide +kernel
theorem dX1_read_35 : decode cX1_read 35 = .ok (.ireturn, 1) := by decide +kernel
abbrev cX1_readable : ByteArray := prog_3_method_12_code
def yX1_readable : MethodName := ⟨RX1, "readable", "(I)Z"⟩
theorem dX1_readable_0 : decode cX1_readable 0 = .ok (.aload_n 0, 1) := by decide +kernel
theorem dX1_readable_1 : decode cX1_readable 1 = .ok (.iload_n 1, 1) := by decide +kernel
theorem dX1_readable_2 : decode cX1_readable 2 = .ok (.invokevirtual 23, 3) := by decide +kernel
theorem dX1_readable_5 : decode cX1_readable 5 = .ok (.ifCond .ne 5, 3) := by decide +kernel
theorem dX1_readable_8 : decode cX1_readable 8 = .ok (.iconst 0, 1) := by decide +kernel
theorem dX1_readable_9 : decode cX1_readable 9 = .ok (.ireturn, 1) := by decide +kernel
theorem dX1_readable_10 : decode cX1_readable 10 = .ok (.aload_n 0, 1) := by decide +kernel
theorem dX1_readable_11 : decode cX1_readable 11 = .ok (.iload_n 1, 1) := by decide +kernel
theorem dX1_readable_12 : decode cX1_readable 12 = .ok (.invokevirtual 44, 3) := by decide +kernel
theorem dX1_readable_15 : decode cX1_readable 15 = .ok (.ifCond .ge 12, 3) := by decide +kernel
theorem dX1_readable_18 : decode cX1_readable 18 = .ok (.aload_n 0, 1) := by decide +kernel
theorem dX1_readable_19 : decode cX1_readable 19 = .ok (.getfield 19, 3) := by decide +kernel
theorem dX1_readable_22 : decode cX1_readable 22 = .ok (.iload_n 1, 1) := by decide +kernel
theorem dX1_readable_23 : decode cX1_readable 23 = .ok (.baload, 1) := by decide +kernel
theorem dX1_readable_24 : decode cX1_readable 24 = .ok (.ifCond .ne 7, 3) := by decide +kernel
theorem dX1_readable_27 : decode cX1_readable 27 = .ok (.iconst 1, 1) := by decide +kernel
theorem dX1_readable_28 : decode cX1_readable 28 = .ok (.goto 4, 3) := by decide +kernel
theorem dX1_readable_31 : decode cX1_readable 31 = .ok (.iconst 0, 1) := by decide +kernel
theorem dX1_readable_32 : decode cX1_readable 32 = .ok (.ireturn, 1) := by decide +kernel
abbrev cX1_newest : ByteArray := prog_3_method_10_code
def yX1_newest : MethodName := ⟨RX1, "newest", "(I)I"⟩
theorem dX1_newest_0 : decode cX1_newest 0 = .ok (.iconst (-1), 1) := by decide +kernel
theorem dX1_newest_1 : decode cX1_newest 1 = .ok (.istore_n 2, 1) := by decide +kernel
theorem dX1_newest_2 : decode cX1_newest 2 = .ok (.iconst 0, 1) := by decide +kernel
theorem dX1_newest_3 : decode cX1_newest 3 = .ok (.istore_n 3, 1) := by decide +kernel
theorem dX1_newest_4 : decode cX1_newest 4 = .ok (.iload_n 3, 1) := by decide +kernel
theorem dX1_newest_5 : decode cX1_newest 5 = .ok (.aload_n 0, 1) := by decide +kernel
theorem dX1_newest_6 : decode cX1_newest 6 = .ok (.getfield 27, 3) := by decide +kernel
theorem dX1_newest_9 : decode cX1_newest 9 = .ok (.if_icmp .ge 21, 3) := by decide +kernel
theorem dX1_newest_12 : decode cX1_newest 12 = .ok (.aload_n 0, 1) := by decide +kernel
theorem dX1_newest_13 : decode cX1_newest 13 = .ok (.getfield 7, 3) := by decide +kernel
theorem dX1_newest_16 : decode cX1_newest 16 = .ok (.iload_n 3, 1) := by decide +kernel
theorem dX1_newest_17 : decode cX1_newest 17 = .ok (.iaload, 1) := by decide +kernel
theorem dX1_newest_18 : decode cX1_newest 18 = .ok (.iload_n 1, 1) := by decide +kernel
theorem dX1_newest_19 : decode cX1_newest 19 = .ok (.if_icmp .ne 5, 3) := by decide +kernel
theorem dX1_newest_22 : decode cX1_newest 22 = .ok (.iload_n 3, 1) := by decide +kernel
theorem dX1_newest_23 : decode cX1_newest 23 = .ok (.istore_n 2, 1) := by decide +kernel
theorem dX1_newest_24 : decode cX1_newest 24 = .ok (.iinc 3 1, 3) := by decide +kernel
theorem dX1_newest_27 : decode cX1_newest 27 = .ok (.goto (-23), 3) := by decide +kernel
theorem dX1_newest_30 : decode cX1_newest 30 = .ok (.iload_n 2, 1) := by decide +kernel
theorem dX1_newest_31 : decode cX1_newest 31 = .ok (.ireturn, 1) := by decide +kernel
abbrev cX1_pending : ByteArray := prog_3_method_13_code
def yX1_pending : MethodName := ⟨RX1, "pending", "()I"⟩
theorem dX1_pending_0 : decode cX1_pending 0 = .ok (.aload_n 0, 1) := by decide +kernel
theorem dX1_pending_1 : decode cX1_pending 1 = .ok (.getfield 27, 3) := by decide +kernel
theorem dX1_pending_4 : decode cX1_pending 4 = .ok (.ireturn, 1) := by decide +kernel
abbrev cX1_atRisk : ByteArray := prog_3_method_14_code
def yX1_atRisk : MethodName := ⟨RX1, "atRisk", "()I"⟩
theorem dX1_atRisk_0 : decode cX1_atRisk 0 = .ok (.iconst 0, 1) := by decide +kernel
theorem dX1_atRisk_1 : decode cX1_atRisk 1 = .ok (.istore_n 1, 1) := by decide +kernel
theorem dX1_atRisk_2 : decode cX1_atRisk 2 = .ok (.iconst 0, 1) := by decide +kernel
theorem dX1_atRisk_3 : decode cX1_atRisk 3 = .ok (.istore_n 2, 1) := by decide +kernel
theorem dX1_atRisk_4 : decode cX1_atRisk 4 = .ok (.iload_n 2, 1) := by decide +kernel
theorem dX1_atRisk_5 : decode cX1_atRisk 5 = .ok (.bipush 12, 2) := by decide +kernel
theorem dX1_atRisk_7 : decode cX1_atRisk 7 = .ok (.if_icmp .ge 43, 3) := by decide +kernel
theorem dX1_atRisk_10 : decode cX1_atRisk 10 = .ok (.aload_n 0, 1) := by decide +kernel
theorem dX1_atRisk_11 : decode cX1_atRisk 11 = .ok (.iload_n 2, 1) := by decide +kernel
theorem dX1_atRisk_12 : decode cX1_atRisk 12 = .ok (.invokevirtual 44, 3) := by decide +kernel
theorem dX1_atRisk_15 : decode cX1_atRisk 15 = .ok (.ifCond .lt 29, 3) := by decide +kernel
theorem dX1_atRisk_18 : decode cX1_atRisk 18 = .ok (.aload_n 0, 1) := by decide +kernel
theorem dX1_atRisk_19 : decode cX1_atRisk 19 = .ok (.getfield 19, 3) := by decide +kernel
theorem dX1_atRisk_22 : decode cX1_atRisk 22 = .ok (.iload_n 2, 1) := by decide +kernel
theorem dX1_atRisk_23 : decode cX1_atRisk 23 = .ok (.baload, 1) := by decide +kernel
theorem dX1_atRisk_24 : decode cX1_atRisk 24 = .ok (.ifCond .ne 17, 3) := by decide +kernel
theorem dX1_atRisk_27 : decode cX1_atRisk 27 = .ok (.aload_n 0, 1) := by decide +kernel
theorem dX1_atRisk_28 : decode cX1_atRisk 28 = .ok (.iload_n 2, 1) := by decide +kernel
theorem dX1_atRisk_29 : decode cX1_atRisk 29 = .ok (.invokevirtual 47, 3) := by decide +kernel
theorem dX1_atRisk_32 : decode cX1_atRisk 32 = .ok (.aload_n 0, 1) := by decide +kernel
theorem dX1_atRisk_33 : decode cX1_atRisk 33 = .ok (.getfield 16, 3) := by decide +kernel
theorem dX1_atRisk_36 : decode cX1_atRisk 36 = .ok (.iload_n 2, 1) := by decide +kernel
theorem dX1_atRisk_37 : decode cX1_atRisk 37 = .ok (.iaload, 1) := by decide +kernel
theorem dX1_atRisk_38 : decode cX1_atRisk 38 = .ok (.if_icmp .eq 6, 3) := by decide +kernel
theorem dX1_atRisk_41 : decode cX1_atRisk 41 = .ok (.iinc 1 1, 3) := by decide +kernel
theorem dX1_atRisk_44 : decode cX1_atRisk 44 = .ok (.iinc 2 1, 3) := by decide +kernel
theorem dX1_atRisk_47 : decode cX1_atRisk 47 = .ok (.goto (-43), 3) := by decide +kernel
theorem dX1_atRisk_50 : decode cX1_atRisk 50 = .ok (.iload_n 1, 1) := by decide +kernel
theorem dX1_atRisk_51 : decode cX1_atRisk 51 = .ok (.ireturn, 1) := by decide +kernel
abbrev cX1_durable : ByteArray := prog_3_method_15_code
def yX1_durable : MethodName := ⟨RX1, "durable", "()I"⟩
theorem dX1_durable_0 : decode cX1_durable 0 = .ok (.aload_n 0, 1) := by decide +kernel
theorem dX1_durable_1 : decode cX1_durable 1 = .ok (.getfield 38, 3) := by decide +kernel
theorem dX1_durable_4 : decode cX1_durable 4 = .ok (.ireturn, 1) := by decide +kernel
theorem q20 : (Jvm.Cond.initialized "IntegrityLayerModel") ∈ lw_all := lw_g (lw_at lw_m1 2 rfl) rfl
theorem q187 : (Jvm.Cond.instantiable "IntegrityLayerModel" (6 : Nat)) ∈ lw_all := lw_g (lw_at lw_m1 169 rfl) rfl
theorem q189 : (Jvm.Cond.instanceMethod ({ cls := "IntegrityLayerModel", name := "<init>", desc := "()V" } : Jvm.MethodName)) ∈ lw_all := lw_g (lw_at lw_m1 171 rfl) rfl
theorem q190 : (Jvm.Cond.code ({ cls := "IntegrityLayerModel", name := "<init>", desc := "()V" } : Jvm.MethodName) prog_3_method_1_code (1 : Nat) (Option.none : Option Jvm.ClassFile.FieldType)) ∈ lw_all := lw_g (lw_at lw_m1 172 rfl) rfl
theorem q191 : (Jvm.Cond.methodLink "IntegrityLayerModel" (1 : Nat) ({ cls := "java/lang/Object", name := "<init>", desc := "()V" } : Jvm.MethodName)) ∈ lw_all := lw_g (lw_at lw_m1 173 rfl) rfl
theorem q192 : (Jvm.Cond.fieldLink "IntegrityLayerModel" (7 : Nat) "IntegrityLayerModel" "sectors" "[I") ∈ lw_all := lw_g (lw_at lw_m1 174 rfl) rfl
theorem q193 : (Jvm.Cond.fieldLink "IntegrityLayerModel" (13 : Nat) "IntegrityLayerModel" "values" "[I") ∈ lw_all := lw_g (lw_at lw_m1 175 rfl) rfl
theorem q194 : (Jvm.Cond.fieldLink "IntegrityLayerModel" (27 : Nat) "IntegrityLayerModel" "count" "I") ∈ lw_all := lw_g (lw_at lw_m1 176 rfl) rfl
theorem q195 : (Jvm.Cond.fieldLink "IntegrityLayerModel" (16 : Nat) "IntegrityLayerModel" "kept" "[I") ∈ lw_all := lw_g (lw_at lw_m1 177 rfl) rfl
theorem q196 : (Jvm.Cond.fieldLink "IntegrityLayerModel" (19 : Nat) "IntegrityLayerModel" "damaged" "[Z") ∈ lw_all := lw_g (lw_at lw_m1 178 rfl) rfl
theorem q197 : (Jvm.Cond.fieldLink "IntegrityLayerModel" (38 : Nat) "IntegrityLayerModel" "madeDurable" "I") ∈ lw_all := lw_g (lw_at lw_m1 179 rfl) rfl
theorem q198 : (Jvm.Cond.laysFinal "IntegrityLayerModel" "IntegrityLayerModel" "sectors" "[I") ∈ lw_all := lw_g (lw_at lw_m1 180 rfl) rfl
theorem q199 : (Jvm.Cond.soleField "IntegrityLayerModel" "sectors") ∈ lw_all := lw_g (lw_at lw_m1 181 rfl) rfl
theorem q200 : (Jvm.Cond.laysFinal "IntegrityLayerModel" "IntegrityLayerModel" "values" "[I") ∈ lw_all := lw_g (lw_at lw_m1 182 rfl) rfl
theorem q201 : (Jvm.Cond.soleField "IntegrityLayerModel" "values") ∈ lw_all := lw_g (lw_at lw_m1 183 rfl) rfl
theorem q202 : (Jvm.Cond.lays "IntegrityLayerModel" "IntegrityLayerModel" "count" "I") ∈ lw_all := lw_g (lw_at lw_m1 184 rfl) rfl
theorem q203 : (Jvm.Cond.soleField "IntegrityLayerModel" "count") ∈ lw_all := lw_g (lw_at lw_m1 185 rfl) rfl
theorem q204 : (Jvm.Cond.laysFinal "IntegrityLayerModel" "IntegrityLayerModel" "kept" "[I") ∈ lw_all := lw_g (lw_at lw_m1 186 rfl) rfl
theorem q205 : (Jvm.Cond.soleField "IntegrityLayerModel" "kept") ∈ lw_all := lw_g (lw_at lw_m1 187 rfl) rfl
theorem q206 : (Jvm.Cond.laysFinal "IntegrityLayerModel" "IntegrityLayerModel" "damaged" "[Z") ∈ lw_all := lw_g (lw_at lw_m1 188 rfl) rfl
theorem q207 : (Jvm.Cond.soleField "IntegrityLayerModel" "damaged") ∈ lw_all := lw_g (lw_at lw_m1 189 rfl) rfl
theorem q208 : (Jvm.Cond.lays "IntegrityLayerModel" "IntegrityLayerModel" "madeDurable" "I") ∈ lw_all := lw_g (lw_at lw_m1 190 rfl) rfl
theorem q209 : (Jvm.Cond.soleField "IntegrityLayerModel" "madeDurable") ∈ lw_all := lw_g (lw_at lw_m1 191 rfl) rfl
theorem q210 : (Jvm.Cond.superclass "IntegrityLayerModel" "java/lang/Object") ∈ lw_all := lw_g (lw_at lw_m1 192 rfl) rfl
theorem q213 : (Jvm.Cond.instanceMethod ({ cls := "IntegrityLayerModel", name := "write", desc := "(II)I" } : Jvm.MethodName)) ∈ lw_all := lw_g (lw_at lw_m1 195 rfl) rfl
theorem q214 : (Jvm.Cond.selects "IntegrityLayerModel" ({ cls := "IntegrityLayerModel", name := "write", desc := "(II)I" } : Jvm.MethodName) ({ cls := "IntegrityLayerModel", name := "write", desc := "(II)I" } : Jvm.MethodName)) ∈ lw_all := lw_g (lw_at lw_m1 196 rfl) rfl
theorem q215 : (Jvm.Cond.code ({ cls := "IntegrityLayerModel", name := "write", desc := "(II)I" } : Jvm.MethodName) prog_3_method_3_code (3 : Nat) (Option.some Jvm.ClassFile.FieldType.int)) ∈ lw_all := lw_g (lw_at lw_m1 197 rfl) rfl
theorem q216 : (Jvm.Cond.methodLink "IntegrityLayerModel" (23 : Nat) ({ cls := "IntegrityLayerModel", name := "isSector", desc := "(I)Z" } : Jvm.MethodName)) ∈ lw_all := lw_g (lw_at lw_m1 198 rfl) rfl
theorem q217 : (Jvm.Cond.privateMethod ({ cls := "IntegrityLayerModel", name := "isSector", desc := "(I)Z" } : Jvm.MethodName)) ∈ lw_tbl := lw_at lw_m1 199 rfl
theorem q218 : (Jvm.Cond.instanceMethod ({ cls := "IntegrityLayerModel", name := "isSector", desc := "(I)Z" } : Jvm.MethodName)) ∈ lw_all := lw_g (lw_at lw_m1 200 rfl) rfl
theorem q219 : (Jvm.Cond.code ({ cls := "IntegrityLayerModel", name := "isSector", desc := "(I)Z" } : Jvm.MethodName) prog_3_method_2_code (2 : Nat) (Option.some Jvm.ClassFile.FieldType.boolean)) ∈ lw_all := lw_g (lw_at lw_m1 201 rfl) rfl
theorem q221 : (Jvm.Cond.instanceMethod ({ cls := "IntegrityLayerModel", name := "flush", desc := "()I" } : Jvm.MethodName)) ∈ lw_all := lw_g (lw_at lw_m1 203 rfl) rfl
theorem q222 : (Jvm.Cond.selects "IntegrityLayerModel" ({ cls := "IntegrityLayerModel", name := "flush", desc := "()I" } : Jvm.MethodName) ({ cls := "IntegrityLayerModel", name := "flush", desc := "()I" } : Jvm.MethodName)) ∈ lw_all := lw_g (lw_at lw_m1 204 rfl) rfl
theorem q223 : (Jvm.Cond.code ({ cls := "IntegrityLayerModel", name := "flush", desc := "()I" } : Jvm.MethodName) prog_3_method_4_code (1 : Nat) (Option.some Jvm.ClassFile.FieldType.int)) ∈ lw_all := lw_g (lw_at lw_m1 205 rfl) rfl
theorem q224 : (Jvm.Cond.methodLink "IntegrityLayerModel" (31 : Nat) ({ cls := "IntegrityLayerModel", name := "flushSome", desc := "(I)I" } : Jvm.MethodName)) ∈ lw_all := lw_g (lw_at lw_m1 206 rfl) rfl
theorem q225 : (Jvm.Cond.instanceMethod ({ cls := "IntegrityLayerModel", name := "flushSome", desc := "(I)I" } : Jvm.MethodName)) ∈ lw_all := lw_g (lw_at lw_m1 207 rfl) rfl
theorem q226 : (Jvm.Cond.selects "IntegrityLayerModel" ({ cls := "IntegrityLayerModel", name := "flushSome", desc := "(I)I" } : Jvm.MethodName) ({ cls := "IntegrityLayerModel", name := "flushSome", desc := "(I)I" } : Jvm.MethodName)) ∈ lw_all := lw_g (lw_at lw_m1 208 rfl) rfl
theorem q227 : (Jvm.Cond.code ({ cls := "IntegrityLayerModel", name := "flushSome", desc := "(I)I" } : Jvm.MethodName) prog_3_method_6_code (4 : Nat) (Option.some Jvm.ClassFile.FieldType.int)) ∈ lw_all := lw_g (lw_at lw_m1 209 rfl) rfl
theorem q228 : (Jvm.Cond.methodLink "IntegrityLayerModel" (35 : Nat) ({ cls := "IntegrityLayerModel", name := "adjusted", desc := "(I)I" } : Jvm.MethodName)) ∈ lw_all := lw_g (lw_at lw_m1 210 rfl) rfl
theorem q229 : (Jvm.Cond.privateMethod ({ cls := "IntegrityLayerModel", name := "adjusted", desc := "(I)I" } : Jvm.MethodName)) ∈ lw_tbl := lw_at lw_m1 211 rfl
theorem q230 : (Jvm.Cond.instanceMethod ({ cls := "IntegrityLayerModel", name := "adjusted", desc := "(I)I" } : Jvm.MethodName)) ∈ lw_all := lw_g (lw_at lw_m1 212 rfl) rfl
theorem q231 : (Jvm.Cond.code ({ cls := "IntegrityLayerModel", name := "adjusted", desc := "(I)I" } : Jvm.MethodName) prog_3_method_5_code (2 : Nat) (Option.some Jvm.ClassFile.FieldType.int)) ∈ lw_all := lw_g (lw_at lw_m1 213 rfl) rfl
theorem q234 : (Jvm.Cond.instanceMethod ({ cls := "IntegrityLayerModel", name := "crash", desc := "(I)I" } : Jvm.MethodName)) ∈ lw_all := lw_g (lw_at lw_m1 216 rfl) rfl
theorem q235 : (Jvm.Cond.selects "IntegrityLayerModel" ({ cls := "IntegrityLayerModel", name := "crash", desc := "(I)I" } : Jvm.MethodName) ({ cls := "IntegrityLayerModel", name := "crash", desc := "(I)I" } : Jvm.MethodName)) ∈ lw_all := lw_g (lw_at lw_m1 217 rfl) rfl
theorem q236 : (Jvm.Cond.code ({ cls := "IntegrityLayerModel", name := "crash", desc := "(I)I" } : Jvm.MethodName) prog_3_method_7_code (3 : Nat) (Option.some Jvm.ClassFile.FieldType.int)) ∈ lw_all := lw_g (lw_at lw_m1 218 rfl) rfl
theorem q238 : (Jvm.Cond.instanceMethod ({ cls := "IntegrityLayerModel", name := "damage", desc := "(II)I" } : Jvm.MethodName)) ∈ lw_all := lw_g (lw_at lw_m1 220 rfl) rfl
theorem q239 : (Jvm.Cond.selects "IntegrityLayerModel" ({ cls := "IntegrityLayerModel", name := "damage", desc := "(II)I" } : Jvm.MethodName) ({ cls := "IntegrityLayerModel", name := "damage", desc := "(II)I" } : Jvm.MethodName)) ∈ lw_all := lw_g (lw_at lw_m1 221 rfl) rfl
theorem q240 : (Jvm.Cond.code ({ cls := "IntegrityLayerModel", name := "damage", desc := "(II)I" } : Jvm.MethodName) prog_3_method_8_code (3 : Nat) (Option.some Jvm.ClassFile.FieldType.int)) ∈ lw_all := lw_g (lw_at lw_m1 222 rfl) rfl
theorem q242 : (Jvm.Cond.instanceMethod ({ cls := "IntegrityLayerModel", name := "scrub", desc := "()I" } : Jvm.MethodName)) ∈ lw_all := lw_g (lw_at lw_m1 224 rfl) rfl
theorem q243 : (Jvm.Cond.selects "IntegrityLayerModel" ({ cls := "IntegrityLayerModel", name := "scrub", desc := "()I" } : Jvm.MethodName) ({ cls := "IntegrityLayerModel", name := "scrub", desc := "()I" } : Jvm.MethodName)) ∈ lw_all := lw_g (lw_at lw_m1 225 rfl) rfl
theorem q244 : (Jvm.Cond.code ({ cls := "IntegrityLayerModel", name := "scrub", desc := "()I" } : Jvm.MethodName) prog_3_method_9_code (3 : Nat) (Option.some Jvm.ClassFile.FieldType.int)) ∈ lw_all := lw_g (lw_at lw_m1 226 rfl) rfl
theorem q246 : (Jvm.Cond.instanceMethod ({ cls := "IntegrityLayerModel", name := "read", desc := "(I)I" } : Jvm.MethodName)) ∈ lw_all := lw_g (lw_at lw_m1 228 rfl) rfl
theorem q247 : (Jvm.Cond.selects "IntegrityLayerModel" ({ cls := "IntegrityLayerModel", name := "read", desc := "(I)I" } : Jvm.MethodName) ({ cls := "IntegrityLayerModel", name := "read", desc := "(I)I" } : Jvm.MethodName)) ∈ lw_all := lw_g (lw_at lw_m1 229 rfl) rfl
theorem q248 : (Jvm.Cond.code ({ cls := "IntegrityLayerModel", name := "read", desc := "(I)I" } : Jvm.MethodName) prog_3_method_11_code (3 : Nat) (Option.some Jvm.ClassFile.FieldType.int)) ∈ lw_all := lw_g (lw_at lw_m1 230 rfl) rfl
theorem q249 : (Jvm.Cond.methodLink "IntegrityLayerModel" (41 : Nat) ({ cls := "IntegrityLayerModel", name := "readable", desc := "(I)Z" } : Jvm.MethodName)) ∈ lw_all := lw_g (lw_at lw_m1 231 rfl) rfl
theorem q250 : (Jvm.Cond.instanceMethod ({ cls := "IntegrityLayerModel", name := "readable", desc := "(I)Z" } : Jvm.MethodName)) ∈ lw_all := lw_g (lw_at lw_m1 232 rfl) rfl
theorem q251 : (Jvm.Cond.selects "IntegrityLayerModel" ({ cls := "IntegrityLayerModel", name := "readable", desc := "(I)Z" } : Jvm.MethodName) ({ cls := "IntegrityLayerModel", name := "readable", desc := "(I)Z" } : Jvm.MethodName)) ∈ lw_all := lw_g (lw_at lw_m1 233 rfl) rfl
theorem q252 : (Jvm.Cond.code ({ cls := "IntegrityLayerModel", name := "readable", desc := "(I)Z" } : Jvm.MethodName) prog_3_method_12_code (2 : Nat) (Option.some Jvm.ClassFile.FieldType.boolean)) ∈ lw_all := lw_g (lw_at lw_m1 234 rfl) rfl
theorem q253 : (Jvm.Cond.methodLink "IntegrityLayerModel" (44 : Nat) ({ cls := "IntegrityLayerModel", name := "newest", desc := "(I)I" } : Jvm.MethodName)) ∈ lw_all := lw_g (lw_at lw_m1 235 rfl) rfl
theorem q254 : (Jvm.Cond.privateMethod ({ cls := "IntegrityLayerModel", name := "newest", desc := "(I)I" } : Jvm.MethodName)) ∈ lw_tbl := lw_at lw_m1 236 rfl
theorem q255 : (Jvm.Cond.instanceMethod ({ cls := "IntegrityLayerModel", name := "newest", desc := "(I)I" } : Jvm.MethodName)) ∈ lw_all := lw_g (lw_at lw_m1 237 rfl) rfl
theorem q256 : (Jvm.Cond.code ({ cls := "IntegrityLayerModel", name := "newest", desc := "(I)I" } : Jvm.MethodName) prog_3_method_10_code (4 : Nat) (Option.some Jvm.ClassFile.FieldType.int)) ∈ lw_all := lw_g (lw_at lw_m1 238 rfl) rfl
theorem q259 : (Jvm.Cond.instanceMethod ({ cls := "IntegrityLayerModel", name := "pending", desc := "()I" } : Jvm.MethodName)) ∈ lw_all := lw_g (lw_at lw_m2 1 rfl) rfl
theorem q260 : (Jvm.Cond.selects "IntegrityLayerModel" ({ cls := "IntegrityLayerModel", name := "pending", desc := "()I" } : Jvm.MethodName) ({ cls := "IntegrityLayerModel", name := "pending", desc := "()I" } : Jvm.MethodName)) ∈ lw_all := lw_g (lw_at lw_m2 2 rfl) rfl
theorem q261 : (Jvm.Cond.code ({ cls := "IntegrityLayerModel", name := "pending", desc := "()I" } : Jvm.MethodName) prog_3_method_13_code (1 : Nat) (Option.some Jvm.ClassFile.FieldType.int)) ∈ lw_all := lw_g (lw_at lw_m2 3 rfl) rfl
theorem q263 : (Jvm.Cond.instanceMethod ({ cls := "IntegrityLayerModel", name := "atRisk", desc := "()I" } : Jvm.MethodName)) ∈ lw_all := lw_g (lw_at lw_m2 5 rfl) rfl
theorem q264 : (Jvm.Cond.selects "IntegrityLayerModel" ({ cls := "IntegrityLayerModel", name := "atRisk", desc := "()I" } : Jvm.MethodName) ({ cls := "IntegrityLayerModel", name := "atRisk", desc := "()I" } : Jvm.MethodName)) ∈ lw_all := lw_g (lw_at lw_m2 6 rfl) rfl
theorem q265 : (Jvm.Cond.code ({ cls := "IntegrityLayerModel", name := "atRisk", desc := "()I" } : Jvm.MethodName) prog_3_method_14_code (3 : Nat) (Option.some Jvm.ClassFile.FieldType.int)) ∈ lw_all := lw_g (lw_at lw_m2 7 rfl) rfl
theorem q266 : (Jvm.Cond.methodLink "IntegrityLayerModel" (47 : Nat) ({ cls := "IntegrityLayerModel", name := "read", desc := "(I)I" } : Jvm.MethodName)) ∈ lw_all := lw_g (lw_at lw_m2 8 rfl) rfl
theorem q268 : (Jvm.Cond.instanceMethod ({ cls := "IntegrityLayerModel", name := "durable", desc := "()I" } : Jvm.MethodName)) ∈ lw_all := lw_g (lw_at lw_m2 10 rfl) rfl
theorem q269 : (Jvm.Cond.selects "IntegrityLayerModel" ({ cls := "IntegrityLayerModel", name := "durable", desc := "()I" } : Jvm.MethodName) ({ cls := "IntegrityLayerModel", name := "durable", desc := "()I" } : Jvm.MethodName)) ∈ lw_all := lw_g (lw_at lw_m2 11 rfl) rfl
theorem q270 : (Jvm.Cond.code ({ cls := "IntegrityLayerModel", name := "durable", desc := "()I" } : Jvm.MethodName) prog_3_method_15_code (1 : Nat) (Option.some Jvm.ClassFile.FieldType.int)) ∈ lw_all := lw_g (lw_at lw_m2 12 rfl) rfl
theorem in_X1 : ∀ w ∈ wsX10, w ∈ lw_all := lw_in wsX10 [198, 200, 202, 204, 206, 208] (by decide +kernel) (by decide +kernel)
end
section
/-! the law's own entry -/
set_option maxRecDepth 100000
abbrev cL_law : ByteArray := code
theorem dL_law_0 : decode cL_law 0 = .ok (.new 7, 3) := by decide +kernel
theorem dL_law_3 : decode cL_law 3 = .ok (.dup, 1) := by decide +kernel
theorem dL_law_4 : decode cL_law 4 = .ok (.invokespecial 9, 3) := by decide +kernel
theorem dL_law_7 : decode cL_law 7 = .ok (.astore_n 1, 1) := by decide +kernel
theorem dL_law_8 : decode cL_law 8 = .ok (.new 10, 3) := by decide +kernel
theorem dL_law_11 : decode cL_law 11 = .ok (.dup, 1) := by decide +kernel
theorem dL_law_12 : decode cL_law 12 = .ok (.invokespecial 12, 3) := by decide +kernel
theorem dL_law_15 : decode cL_law 15 = .ok (.astore_n 2, 1) := by decide +kernel
theorem dL_law_16 : decode cL_law 16 = .ok (.iconst 0, 1) := by decide +kernel
theorem dL_law_17 : decode cL_law 17 = .ok (.istore_n 3, 1) := by decide +kernel
theorem dL_law_18 : decode cL_law 18 = .ok (.iload_n 3, 1) := by decide +kernel
theorem dL_law_19 : decode cL_law 19 = .ok (.aload_n 0, 1) := by decide +kernel
theorem dL_law_20 : decode cL_law 20 = .ok (.arraylength, 1) := by decide +kernel
theorem dL_law_21 : decode cL_law 21 = .ok (.iconst 3, 1) := by decide +kernel
theorem dL_law_22 : decode cL_law 22 = .ok (.isub, 1) := by decide +kernel
theorem dL_law_23 : decode cL_law 23 = .ok (.if_icmp .gt 298, 3) := by decide +kernel
theorem dL_law_26 : decode cL_law 26 = .ok (.aload_n 0, 1) := by decide +kernel
theorem dL_law_27 : decode cL_law 27 = .ok (.iload_n 3, 1) := by decide +kernel
theorem dL_law_28 : decode cL_law 28 = .ok (.iaload, 1) := by decide +kernel
theorem dL_law_29 : decode cL_law 29 = .ok (.bipush 15, 2) := by decide +kernel
theorem dL_law_31 : decode cL_law 31 = .ok (.iand, 1) := by decide +kernel
theorem dL_law_32 : decode cL_law 32 = .ok (.tableswitch 283 0 10 #[60, 93, 106, 129, 152, 185, 198, 221, 244, 257, 270], 60) := by decide +kernel
theorem dL_law_92 : decode cL_law 92 = .ok (.aload_n 1, 1) := by decide +kernel
theorem dL_law_93 : decode cL_law 93 = .ok (.aload_n 0, 1) := by decide +kernel
theorem dL_law_94 : decode cL_law 94 = .ok (.iload_n 3, 1) := by decide +kernel
theorem dL_law_95 : decode cL_law 95 = .ok (.iconst 1, 1) := by decide +kernel
theorem dL_law_96 : decode cL_law 96 = .ok (.iadd, 1) := by decide +kernel
theorem dL_law_97 : decode cL_law 97 = .ok (.iaload, 1) := by decide +kernel
theorem dL_law_98 : decode cL_law 98 = .ok (.aload_n 0, 1) := by decide +kernel
theorem dL_law_99 : decode cL_law 99 = .ok (.iload_n 3, 1) := by decide +kernel
theorem dL_law_100 : decode cL_law 100 = .ok (.iconst 2, 1) := by decide +kernel
theorem dL_law_101 : decode cL_law 101 = .ok (.iadd, 1) := by decide +kernel
theorem dL_law_102 : decode cL_law 102 = .ok (.iaload, 1) := by decide +kernel
theorem dL_law_103 : decode cL_law 103 = .ok (.invokevirtual 13, 3) := by decide +kernel
theorem dL_law_106 : decode cL_law 106 = .ok (.aload_n 2, 1) := by decide +kernel
theorem dL_law_107 : decode cL_law 107 = .ok (.aload_n 0, 1) := by decide +kernel
theorem dL_law_108 : decode cL_law 108 = .ok (.iload_n 3, 1) := by decide +kernel
theorem dL_law_109 : decode cL_law 109 = .ok (.iconst 1, 1) := by decide +kernel
theorem dL_law_110 : decode cL_law 110 = .ok (.iadd, 1) := by decide +kernel
theorem dL_law_111 : decode cL_law 111 = .ok (.iaload, 1) := by decide +kernel
theorem dL_law_112 : decode cL_law 112 = .ok (.aload_n 0, 1) := by decide +kernel
theorem dL_law_113 : decode cL_law 113 = .ok (.iload_n 3, 1) := by decide +kernel
theorem dL_law_114 : decode cL_law 114 = .ok (.iconst 2, 1) := by decide +kernel
theorem dL_law_115 : decode cL_law 115 = .ok (.iadd, 1) := by decide +kernel
theorem dL_law_116 : decode cL_law 116 = .ok (.iaload, 1) := by decide +kernel
theorem dL_law_117 : decode cL_law 117 = .ok (.invokevirtual 17, 3) := by decide +kernel
theorem dL_law_120 : decode cL_law 120 = .ok (.if_icmp .eq 195, 3) := by decide +kernel
theorem dL_law_123 : decode cL_law 123 = .ok (.iconst 0, 1) := by decide +kernel
theorem dL_law_124 : decode cL_law 124 = .ok (.ireturn, 1) := by decide +kernel
theorem dL_law_125 : decode cL_law 125 = .ok (.aload_n 1, 1) := by decide +kernel
theorem dL_law_126 : decode cL_law 126 = .ok (.invokevirtual 18, 3) := by decide +kernel
theorem dL_law_129 : decode cL_law 129 = .ok (.aload_n 2, 1) := by decide +kernel
theorem dL_law_130 : decode cL_law 130 = .ok (.invokevirtual 22, 3) := by decide +kernel
theorem dL_law_133 : decode cL_law 133 = .ok (.if_icmp .eq 182, 3) := by decide +kernel
theorem dL_law_136 : decode cL_law 136 = .ok (.iconst 0, 1) := by decide +kernel
theorem dL_law_137 : decode cL_law 137 = .ok (.ireturn, 1) := by decide +kernel
theorem dL_law_138 : decode cL_law 138 = .ok (.aload_n 1, 1) := by decide +kernel
theorem dL_law_139 : decode cL_law 139 = .ok (.aload_n 0, 1) := by decide +kernel
theorem dL_law_140 : decode cL_law 140 = .ok (.iload_n 3, 1) := by decide +kernel
theorem dL_law_141 : decode cL_law 141 = .ok (.iconst 1, 1) := by decide +kernel
theorem dL_law_142 : decode cL_law 142 = .ok (.iadd, 1) := by decide +kernel
theorem dL_law_143 : decode cL_law 143 = .ok (.iaload, 1) := by decide +kernel
theorem dL_law_144 : decode cL_law 144 = .ok (.invokevirtual 23, 3) := by decide +kernel
theorem dL_law_147 : decode cL_law 147 = .ok (.aload_n 2, 1) := by decide +kernel
theorem dL_law_148 : decode cL_law 148 = .ok (.aload_n 0, 1) := by decide +kernel
theorem dL_law_149 : decode cL_law 149 = .ok (.iload_n 3, 1) := by decide +kernel
theorem dL_law_150 : decode cL_law 150 = .ok (.iconst 1, 1) := by decide +kernel
theorem dL_law_151 : decode cL_law 151 = .ok (.iadd, 1) := by decide +kernel
theorem dL_law_152 : decode cL_law 152 = .ok (.iaload, 1) := by decide +kernel
theorem dL_law_153 : decode cL_law 153 = .ok (.invokevirtual 27, 3) := by decide +kernel
theorem dL_law_156 : decode cL_law 156 = .ok (.if_icmp .eq 159, 3) := by decide +kernel
theorem dL_law_159 : decode cL_law 159 = .ok (.iconst 0, 1) := by decide +kernel
theorem dL_law_160 : decode cL_law 160 = .ok (.ireturn, 1) := by decide +kernel
theorem dL_law_161 : decode cL_law 161 = .ok (.aload_n 1, 1) := by decide +kernel
theorem dL_law_162 : decode cL_law 162 = .ok (.aload_n 0, 1) := by decide +kernel
theorem dL_law_163 : decode cL_law 163 = .ok (.iload_n 3, 1) := by decide +kernel
theorem dL_law_164 : decode cL_law 164 = .ok (.iconst 1, 1) := by decide +kernel
theorem dL_law_165 : decode cL_law 165 = .ok (.iadd, 1) := by decide +kernel
theorem dL_law_166 : decode cL_law 166 = .ok (.iaload, 1) := by decide +kernel
theorem dL_law_167 : decode cL_law 167 = .ok (.invokevirtual 28, 3) := by decide +kernel
theorem dL_law_170 : decode cL_law 170 = .ok (.aload_n 2, 1) := by decide +kernel
theorem dL_law_171 : decode cL_law 171 = .ok (.aload_n 0, 1) := by decide +kernel
theorem dL_law_172 : decode cL_law 172 = .ok (.iload_n 3, 1) := by decide +kernel
theorem dL_law_173 : decode cL_law 173 = .ok (.iconst 1, 1) := by decide +kernel
theorem dL_law_174 : decode cL_law 174 = .ok (.iadd, 1) := by decide +kernel
theorem dL_law_175 : decode cL_law 175 = .ok (.iaload, 1) := by decide +kernel
theorem dL_law_176 : decode cL_law 176 = .ok (.invokevirtual 31, 3) := by decide +kernel
theorem dL_law_179 : decode cL_law 179 = .ok (.if_icmp .eq 136, 3) := by decide +kernel
theorem dL_law_182 : decode cL_law 182 = .ok (.iconst 0, 1) := by decide +kernel
theorem dL_law_183 : decode cL_law 183 = .ok (.ireturn, 1) := by decide +kernel
theorem dL_law_184 : decode cL_law 184 = .ok (.aload_n 1, 1) := by decide +kernel
theorem dL_law_185 : decode cL_law 185 = .ok (.aload_n 0, 1) := by decide +kernel
theorem dL_law_186 : decode cL_law 186 = .ok (.iload_n 3, 1) := by decide +kernel
theorem dL_law_187 : decode cL_law 187 = .ok (.iconst 1, 1) := by decide +kernel
theorem dL_law_188 : decode cL_law 188 = .ok (.iadd, 1) := by decide +kernel
theorem dL_law_189 : decode cL_law 189 = .ok (.iaload, 1) := by decide +kernel
theorem dL_law_190 : decode cL_law 190 = .ok (.aload_n 0, 1) := by decide +kernel
theorem dL_law_191 : decode cL_law 191 = .ok (.iload_n 3, 1) := by decide +kernel
theorem dL_law_192 : decode cL_law 192 = .ok (.iconst 2, 1) := by decide +kernel
theorem dL_law_193 : decode cL_law 193 = .ok (.iadd, 1) := by decide +kernel
theorem dL_law_194 : decode cL_law 194 = .ok (.iaload, 1) := by decide +kernel
theorem dL_law_195 : decode cL_law 195 = .ok (.invokevirtual 32, 3) := by decide +kernel
theorem dL_law_198 : decode cL_law 198 = .ok (.aload_n 2, 1) := by decide +kernel
theorem dL_law_199 : decode cL_law 199 = .ok (.aload_n 0, 1) := by decide +kernel
theorem dL_law_200 : decode cL_law 200 = .ok (.iload_n 3, 1) := by decide +kernel
theorem dL_law_201 : decode cL_law 201 = .ok (.iconst 1, 1) := by decide +kernel
theorem dL_law_202 : decode cL_law 202 = .ok (.iadd, 1) := by decide +kernel
theorem dL_law_203 : decode cL_law 203 = .ok (.iaload, 1) := by decide +kernel
theorem dL_law_204 : decode cL_law 204 = .ok (.aload_n 0, 1) := by decide +kernel
theorem dL_law_205 : decode cL_law 205 = .ok (.iload_n 3, 1) := by decide +kernel
theorem dL_law_206 : decode cL_law 206 = .ok (.iconst 2, 1) := by decide +kernel
theorem dL_law_207 : decode cL_law 207 = .ok (.iadd, 1) := by decide +kernel
theorem dL_law_208 : decode cL_law 208 = .ok (.iaload, 1) := by decide +kernel
theorem dL_law_209 : decode cL_law 209 = .ok (.invokevirtual 35, 3) := by decide +kernel
theorem dL_law_212 : decode cL_law 212 = .ok (.if_icmp .eq 103, 3) := by decide +kernel
theorem dL_law_215 : decode cL_law 215 = .ok (.iconst 0, 1) := by decide +kernel
theorem dL_law_216 : decode cL_law 216 = .ok (.ireturn, 1) := by decide +kernel
theorem dL_law_217 : decode cL_law 217 = .ok (.aload_n 1, 1) := by decide +kernel
theorem dL_law_218 : decode cL_law 218 = .ok (.invokevirtual 36, 3) := by decide +kernel
theorem dL_law_221 : decode cL_law 221 = .ok (.aload_n 2, 1) := by decide +kernel
theorem dL_law_222 : decode cL_law 222 = .ok (.invokevirtual 39, 3) := by decide +kernel
theorem dL_law_225 : decode cL_law 225 = .ok (.if_icmp .eq 90, 3) := by decide +kernel
theorem dL_law_228 : decode cL_law 228 = .ok (.iconst 0, 1) := by decide +kernel
theorem dL_law_229 : decode cL_law 229 = .ok (.ireturn, 1) := by decide +kernel
theorem dL_law_230 : decode cL_law 230 = .ok (.aload_n 1, 1) := by decide +kernel
theorem dL_law_231 : decode cL_law 231 = .ok (.aload_n 0, 1) := by decide +kernel
theorem dL_law_232 : decode cL_law 232 = .ok (.iload_n 3, 1) := by decide +kernel
theorem dL_law_233 : decode cL_law 233 = .ok (.iconst 1, 1) := by decide +kernel
theorem dL_law_234 : decode cL_law 234 = .ok (.iadd, 1) := by decide +kernel
theorem dL_law_235 : decode cL_law 235 = .ok (.iaload, 1) := by decide +kernel
theorem dL_law_236 : decode cL_law 236 = .ok (.invokevirtual 40, 3) := by decide +kernel
theorem dL_law_239 : decode cL_law 239 = .ok (.aload_n 2, 1) := by decide +kernel
theorem dL_law_240 : decode cL_law 240 = .ok (.aload_n 0, 1) := by decide +kernel
theorem dL_law_241 : decode cL_law 241 = .ok (.iload_n 3, 1) := by decide +kernel
theorem dL_law_242 : decode cL_law 242 = .ok (.iconst 1, 1) := by decide +kernel
theorem dL_law_243 : decode cL_law 243 = .ok (.iadd, 1) := by decide +kernel
theorem dL_law_244 : decode cL_law 244 = .ok (.iaload, 1) := by decide +kernel
theorem dL_law_245 : decode cL_law 245 = .ok (.invokevirtual 43, 3) := by decide +kernel
theorem dL_law_248 : decode cL_law 248 = .ok (.if_icmp .eq 67, 3) := by decide +kernel
theorem dL_law_251 : decode cL_law 251 = .ok (.iconst 0, 1) := by decide +kernel
theorem dL_law_252 : decode cL_law 252 = .ok (.ireturn, 1) := by decide +kernel
theorem dL_law_253 : decode cL_law 253 = .ok (.aload_n 1, 1) := by decide +kernel
theorem dL_law_254 : decode cL_law 254 = .ok (.aload_n 0, 1) := by decide +kernel
theorem dL_law_255 : decode cL_law 255 = .ok (.iload_n 3, 1) := by decide +kernel
theorem dL_law_256 : decode cL_law 256 = .ok (.iconst 1, 1) := by decide +kernel
theorem dL_law_257 : decode cL_law 257 = .ok (.iadd, 1) := by decide +kernel
theorem dL_law_258 : decode cL_law 258 = .ok (.iaload, 1) := by decide +kernel
theorem dL_law_259 : decode cL_law 259 = .ok (.invokevirtual 44, 3) := by decide +kernel
theorem dL_law_262 : decode cL_law 262 = .ok (.aload_n 2, 1) := by decide +kernel
theorem dL_law_263 : decode cL_law 263 = .ok (.aload_n 0, 1) := by decide +kernel
theorem dL_law_264 : decode cL_law 264 = .ok (.iload_n 3, 1) := by decide +kernel
theorem dL_law_265 : decode cL_law 265 = .ok (.iconst 1, 1) := by decide +kernel
theorem dL_law_266 : decode cL_law 266 = .ok (.iadd, 1) := by decide +kernel
theorem dL_law_267 : decode cL_law 267 = .ok (.iaload, 1) := by decide +kernel
theorem dL_law_268 : decode cL_law 268 = .ok (.invokevirtual 48, 3) := by decide +kernel
theorem dL_law_271 : decode cL_law 271 = .ok (.if_icmp .eq 44, 3) := by decide +kernel
theorem dL_law_274 : decode cL_law 274 = .ok (.iconst 0, 1) := by decide +kernel
theorem dL_law_275 : decode cL_law 275 = .ok (.ireturn, 1) := by decide +kernel
theorem dL_law_276 : decode cL_law 276 = .ok (.aload_n 1, 1) := by decide +kernel
theorem dL_law_277 : decode cL_law 277 = .ok (.invokevirtual 49, 3) := by decide +kernel
theorem dL_law_280 : decode cL_law 280 = .ok (.aload_n 2, 1) := by decide +kernel
theorem dL_law_281 : decode cL_law 281 = .ok (.invokevirtual 52, 3) := by decide +kernel
theorem dL_law_284 : decode cL_law 284 = .ok (.if_icmp .eq 31, 3) := by decide +kernel
theorem dL_law_287 : decode cL_law 287 = .ok (.iconst 0, 1) := by decide +kernel
theorem dL_law_288 : decode cL_law 288 = .ok (.ireturn, 1) := by decide +kernel
theorem dL_law_289 : decode cL_law 289 = .ok (.aload_n 1, 1) := by decide +kernel
theorem dL_law_290 : decode cL_law 290 = .ok (.invokevirtual 53, 3) := by decide +kernel
theorem dL_law_293 : decode cL_law 293 = .ok (.aload_n 2, 1) := by decide +kernel
theorem dL_law_294 : decode cL_law 294 = .ok (.invokevirtual 56, 3) := by decide +kernel
theorem dL_law_297 : decode cL_law 297 = .ok (.if_icmp .eq 18, 3) := by decide +kernel
theorem dL_law_300 : decode cL_law 300 = .ok (.iconst 0, 1) := by decide +kernel
theorem dL_law_301 : decode cL_law 301 = .ok (.ireturn, 1) := by decide +kernel
theorem dL_law_302 : decode cL_law 302 = .ok (.aload_n 1, 1) := by decide +kernel
theorem dL_law_303 : decode cL_law 303 = .ok (.invokevirtual 57, 3) := by decide +kernel
theorem dL_law_306 : decode cL_law 306 = .ok (.aload_n 2, 1) := by decide +kernel
theorem dL_law_307 : decode cL_law 307 = .ok (.invokevirtual 60, 3) := by decide +kernel
theorem dL_law_310 : decode cL_law 310 = .ok (.if_icmp .eq 5, 3) := by decide +kernel
theorem dL_law_313 : decode cL_law 313 = .ok (.iconst 0, 1) := by decide +kernel
theorem dL_law_314 : decode cL_law 314 = .ok (.ireturn, 1) := by decide +kernel
theorem dL_law_315 : decode cL_law 315 = .ok (.iinc 3 3, 3) := by decide +kernel
theorem dL_law_318 : decode cL_law 318 = .ok (.goto (-300), 3) := by decide +kernel
theorem dL_law_321 : decode cL_law 321 = .ok (.iconst 1, 1) := by decide +kernel
theorem dL_law_322 : decode cL_law 322 = .ok (.ireturn, 1) := by decide +kernel
end
section
set_option maxRecDepth 100000
/-! worlds, and the rows of an instruction over a world -/
abbrev vwCl : List vw_C := [(RX0, TX0, 14), (RX1, TX1, 6)]
abbrev St : Type := Nat → Nat → Int32
abbrev cl (x : Int32) : Nat := x.toNatClampNeg
def sA (S : St) (k i : Nat) (x : Int32) : St := va_up S k (upd (S k) i x)
def sF (S : St) (k : Nat) (x : Int32) : St := va_up S k (fun _ => x)
def rk (n : Nat) : Room := { frames := n, cells := 0, slots := 0, locals := 30 * n }
def wX (d z : ClassId) (h0 : Nat) (ad : Nat → Nat) (S : St) : va_W := [(h0, .inr (0, [.ref (ad 0), .ref (ad 1), .int (S 2 0), .ref (ad 3), .ref (ad 4), .ref (ad 5), .ref (ad 6), .ref (ad 7), .ref (ad 8), .int (S 9 0), .int (S 10 0), .ref (ad 11), .ref (ad 12), .int (S 13 0)])), (ad 0, .inl (d, 12, .inl (S 0))), (ad 1, .inl (d, 12, .inl (S 1))), (ad 3, .inl (d, 8, .inl (S 3))), (ad 4, .inl (d, 8, .inl (S 4))), (ad 5, .inl (d, 8, .inl (S 5))), (ad 6, .inl (d, 32, .inl (S 6))), (ad 7, .inl (d, 32, .inl (S 7))), (ad 8, .inl (d, 32, .inl (S 8))), (ad 11, .inl (d, 20, .inl (S 11))), (ad 12, .inl (d, 20, .inl (S 12)))]
def wM (d z : ClassId) (h0 : Nat) (ad : Nat → Nat) (S : St) : va_W := [(h0, .inr (1, [.ref (ad 0), .ref (ad 1), .int (S 2 0), .ref (ad 3), .ref (ad 4), .int (S 5 0)])), (ad 0, .inl (d, 20, .inl (S 0))), (ad 1, .inl (d, 20, .inl (S 1))), (ad 3, .inl (d, 12, .inl (S 3))), (ad 4, .inl (z, 12, .inl (S 4)))]
abbrev kTy (d z : ClassId) : List (ClassId × FieldType) := [(d, .int), (z, .boolean)]
def Kx (p : Program) (m : MethodId) (c : Code) (s : State) (args : Array Value) (D : va_G) (d z : ClassId) (A : Nat → Prop) (own : String) (cc : ByteArray) (nL : Nat) : Prop := CallFix p m c cc nL s args lw_all own ∧ va_K D vwCl (kTy d z) s ∧ ∀ q : Nat, s.heap.size ≤ q → A q
def Iw (D : va_G) (A : Nat → Prop) (s : State) (w : va_W) (H : Heap) (locs : List Loc) : Prop := va_P D vwCl w H ∧ va_D A w ∧ va_S A s.heap H locs

section KX
variable {p : Program} {l : Launch} {e : Env} {R : Room} {s : State} {m : MethodId} {args : Array Value} {below : List Frame} {meth : Method} {c : Code} {H : Heap} {locs : List Loc} {cells slots : Nat} {Q : State → Prop}
variable {cc : ByteArray} {pc nL : Nat} {ls : Array Slot} {rest : List Value} {D : va_G} {d z : ClassId} {A : Nat → Prop} {h0 : Nat} {ad : Nat → Nat} {S : St} {own : String}

theorem gX_home (K : Kx p m c s args D d z A RX0 cc nL) (I : Iw D A s (wX d z h0 ad S) H locs) (hdg : decode cc pc = .ok (.getfield 7, 3)) (kk : W p l e R s m args below meth c H locs cells slots Q (F0 m (pc + 3) ls (.ref (ad 0) :: rest))) : W p l e R s m args below meth c H locs cells slots Q (F0 m pc ls (.ref h0 :: rest)) :=
  va_get (D := D) (ci := 0) (v := .ref (ad 0)) (C := RX0) (T := TX0) (N := 14) K.1.1 K.1.2.1 K.1.2.2.2.2 in_X0 K.1.2.2.2.1 K.2.1 I.1 0 rfl rfl 0 (by decide) (K.1.2.2.2.2 _ q35) (fun _ h9 => h9) rfl hdg kk
theorem gX_check (K : Kx p m c s args D d z A RX0 cc nL) (I : Iw D A s (wX d z h0 ad S) H locs) (hdg : decode cc pc = .ok (.getfield 13, 3)) (kk : W p l e R s m args below meth c H locs cells slots Q (F0 m (pc + 3) ls (.ref (ad 1) :: rest))) : W p l e R s m args below meth c H locs cells slots Q (F0 m pc ls (.ref h0 :: rest)) :=
  va_get (D := D) (ci := 0) (v := .ref (ad 1)) (C := RX0) (T := TX0) (N := 14) K.1.1 K.1.2.1 K.1.2.2.2.2 in_X0 K.1.2.2.2.1 K.2.1 I.1 0 rfl rfl 1 (by decide) (K.1.2.2.2.2 _ q36) (fun _ h9 => h9) rfl hdg kk
theorem gX_homeFrom (K : Kx p m c s args D d z A RX0 cc nL) (I : Iw D A s (wX d z h0 ad S) H locs) (hdg : decode cc pc = .ok (.getfield 58, 3)) (kk : W p l e R s m args below meth c H locs cells slots Q (F0 m (pc + 3) ls (.int (S 2 0) :: rest))) : W p l e R s m args below meth c H locs cells slots Q (F0 m pc ls (.ref h0 :: rest)) :=
  va_get (D := D) (ci := 0) (v := .int (S 2 0)) (C := RX0) (T := TX0) (N := 14) K.1.1 K.1.2.1 K.1.2.2.2.2 in_X0 K.1.2.2.2.1 K.2.1 I.1 0 rfl rfl 2 (by decide) (K.1.2.2.2.2 _ q37) (fun _ h9 => h9) rfl hdg kk
theorem pX_homeFrom {x : Int32} (K : Kx p m c s args D d z A RX0 cc nL) (I : Iw D A s (wX d z h0 ad S) H locs) (hdg : decode cc pc = .ok (.putfield 58, 3)) (kk : ∀ (H1 : Heap) (locs1 : List Loc), Iw D A s (wX d z h0 ad (sF S 2 x)) H1 locs1 → W p l e R s m args below meth c H1 locs1 cells slots Q (F0 m (pc + 3) ls (rest))) : W p l e R s m args below meth c H locs cells slots Q (F0 m pc ls (.int x :: .ref h0 :: rest)) :=
  va_put (D := D) (ci := 0) (v := .int x) (ty := .int) (C := RX0) (T := TX0) (N := 14) K.1.1 K.1.2.1 K.1.2.2.2.2 in_X0 tyX0 tyX0_ok nmX0 K.1.2.2.2.1 K.2.1 I.1 I.2.1 I.2.2 0 rfl rfl 2 (by decide) (K.1.2.2.2.2 _ q37) (fun _ h9 => h9) rfl (by decide +kernel) rfl rfl (Nat.le_of_ble_eq_true rfl) hdg (fun H1 l1 hP hD hS => kk H1 l1 ⟨hP, hD, hS⟩)
theorem gX_slotNumber (K : Kx p m c s args D d z A RX0 cc nL) (I : Iw D A s (wX d z h0 ad S) H locs) (hdg : decode cc pc = .ok (.getfield 16, 3)) (kk : W p l e R s m args below meth c H locs cells slots Q (F0 m (pc + 3) ls (.ref (ad 3) :: rest))) : W p l e R s m args below meth c H locs cells slots Q (F0 m pc ls (.ref h0 :: rest)) :=
  va_get (D := D) (ci := 0) (v := .ref (ad 3)) (C := RX0) (T := TX0) (N := 14) K.1.1 K.1.2.1 K.1.2.2.2.2 in_X0 K.1.2.2.2.1 K.2.1 I.1 0 rfl rfl 3 (by decide) (K.1.2.2.2.2 _ q38) (fun _ h9 => h9) rfl hdg kk
theorem gX_slotCount (K : Kx p m c s args D d z A RX0 cc nL) (I : Iw D A s (wX d z h0 ad S) H locs) (hdg : decode cc pc = .ok (.getfield 19, 3)) (kk : W p l e R s m args below meth c H locs cells slots Q (F0 m (pc + 3) ls (.ref (ad 4) :: rest))) : W p l e R s m args below meth c H locs cells slots Q (F0 m pc ls (.ref h0 :: rest)) :=
  va_get (D := D) (ci := 0) (v := .ref (ad 4)) (C := RX0) (T := TX0) (N := 14) K.1.1 K.1.2.1 K.1.2.2.2.2 in_X0 K.1.2.2.2.1 K.2.1 I.1 0 rfl rfl 4 (by decide) (K.1.2.2.2.2 _ q39) (fun _ h9 => h9) rfl hdg kk
theorem gX_slotSum (K : Kx p m c s args D d z A RX0 cc nL) (I : Iw D A s (wX d z h0 ad S) H locs) (hdg : decode cc pc = .ok (.getfield 22, 3)) (kk : W p l e R s m args below meth c H locs cells slots Q (F0 m (pc + 3) ls (.ref (ad 5) :: rest))) : W p l e R s m args below meth c H locs cells slots Q (F0 m pc ls (.ref h0 :: rest)) :=
  va_get (D := D) (ci := 0) (v := .ref (ad 5)) (C := RX0) (T := TX0) (N := 14) K.1.1 K.1.2.1 K.1.2.2.2.2 in_X0 K.1.2.2.2.1 K.2.1 I.1 0 rfl rfl 5 (by decide) (K.1.2.2.2.2 _ q40) (fun _ h9 => h9) rfl hdg kk
theorem gX_slotSector (K : Kx p m c s args D d z A RX0 cc nL) (I : Iw D A s (wX d z h0 ad S) H locs) (hdg : decode cc pc = .ok (.getfield 25, 3)) (kk : W p l e R s m args below meth c H locs cells slots Q (F0 m (pc + 3) ls (.ref (ad 6) :: rest))) : W p l e R s m args below meth c H locs cells slots Q (F0 m pc ls (.ref h0 :: rest)) :=
  va_get (D := D) (ci := 0) (v := .ref (ad 6)) (C := RX0) (T := TX0) (N := 14) K.1.1 K.1.2.1 K.1.2.2.2.2 in_X0 K.1.2.2.2.1 K.2.1 I.1 0 rfl rfl 6 (by decide) (K.1.2.2.2.2 _ q41) (fun _ h9 => h9) rfl hdg kk
theorem gX_slotValue (K : Kx p m c s args D d z A RX0 cc nL) (I : Iw D A s (wX d z h0 ad S) H locs) (hdg : decode cc pc = .ok (.getfield 28, 3)) (kk : W p l e R s m args below meth c H locs cells slots Q (F0 m (pc + 3) ls (.ref (ad 7) :: rest))) : W p l e R s m args below meth c H locs cells slots Q (F0 m pc ls (.ref h0 :: rest)) :=
  va_get (D := D) (ci := 0) (v := .ref (ad 7)) (C := RX0) (T := TX0) (N := 14) K.1.1 K.1.2.1 K.1.2.2.2.2 in_X0 K.1.2.2.2.1 K.2.1 I.1 0 rfl rfl 7 (by decide) (K.1.2.2.2.2 _ q42) (fun _ h9 => h9) rfl hdg kk
theorem gX_slotCheck (K : Kx p m c s args D d z A RX0 cc nL) (I : Iw D A s (wX d z h0 ad S) H locs) (hdg : decode cc pc = .ok (.getfield 31, 3)) (kk : W p l e R s m args below meth c H locs cells slots Q (F0 m (pc + 3) ls (.ref (ad 8) :: rest))) : W p l e R s m args below meth c H locs cells slots Q (F0 m pc ls (.ref h0 :: rest)) :=
  va_get (D := D) (ci := 0) (v := .ref (ad 8)) (C := RX0) (T := TX0) (N := 14) K.1.1 K.1.2.1 K.1.2.2.2.2 in_X0 K.1.2.2.2.1 K.2.1 I.1 0 rfl rfl 8 (by decide) (K.1.2.2.2.2 _ q43) (fun _ h9 => h9) rfl hdg kk
theorem gX_nextSection (K : Kx p m c s args D d z A RX0 cc nL) (I : Iw D A s (wX d z h0 ad S) H locs) (hdg : decode cc pc = .ok (.getfield 55, 3)) (kk : W p l e R s m args below meth c H locs cells slots Q (F0 m (pc + 3) ls (.int (S 9 0) :: rest))) : W p l e R s m args below meth c H locs cells slots Q (F0 m pc ls (.ref h0 :: rest)) :=
  va_get (D := D) (ci := 0) (v := .int (S 9 0)) (C := RX0) (T := TX0) (N := 14) K.1.1 K.1.2.1 K.1.2.2.2.2 in_X0 K.1.2.2.2.1 K.2.1 I.1 0 rfl rfl 9 (by decide) (K.1.2.2.2.2 _ q44) (fun _ h9 => h9) rfl hdg kk
theorem pX_nextSection {x : Int32} (K : Kx p m c s args D d z A RX0 cc nL) (I : Iw D A s (wX d z h0 ad S) H locs) (hdg : decode cc pc = .ok (.putfield 55, 3)) (kk : ∀ (H1 : Heap) (locs1 : List Loc), Iw D A s (wX d z h0 ad (sF S 9 x)) H1 locs1 → W p l e R s m args below meth c H1 locs1 cells slots Q (F0 m (pc + 3) ls (rest))) : W p l e R s m args below meth c H locs cells slots Q (F0 m pc ls (.int x :: .ref h0 :: rest)) :=
  va_put (D := D) (ci := 0) (v := .int x) (ty := .int) (C := RX0) (T := TX0) (N := 14) K.1.1 K.1.2.1 K.1.2.2.2.2 in_X0 tyX0 tyX0_ok nmX0 K.1.2.2.2.1 K.2.1 I.1 I.2.1 I.2.2 0 rfl rfl 9 (by decide) (K.1.2.2.2.2 _ q44) (fun _ h9 => h9) rfl (by decide +kernel) rfl rfl (Nat.le_of_ble_eq_true rfl) hdg (fun H1 l1 hP hD hS => kk H1 l1 ⟨hP, hD, hS⟩)
theorem gX_waiting (K : Kx p m c s args D d z A RX0 cc nL) (I : Iw D A s (wX d z h0 ad S) H locs) (hdg : decode cc pc = .ok (.getfield 51, 3)) (kk : W p l e R s m args below meth c H locs cells slots Q (F0 m (pc + 3) ls (.int (S 10 0) :: rest))) : W p l e R s m args below meth c H locs cells slots Q (F0 m pc ls (.ref h0 :: rest)) :=
  va_get (D := D) (ci := 0) (v := .int (S 10 0)) (C := RX0) (T := TX0) (N := 14) K.1.1 K.1.2.1 K.1.2.2.2.2 in_X0 K.1.2.2.2.1 K.2.1 I.1 0 rfl rfl 10 (by decide) (K.1.2.2.2.2 _ q45) (fun _ h9 => h9) rfl hdg kk
theorem pX_waiting {x : Int32} (K : Kx p m c s args D d z A RX0 cc nL) (I : Iw D A s (wX d z h0 ad S) H locs) (hdg : decode cc pc = .ok (.putfield 51, 3)) (kk : ∀ (H1 : Heap) (locs1 : List Loc), Iw D A s (wX d z h0 ad (sF S 10 x)) H1 locs1 → W p l e R s m args below meth c H1 locs1 cells slots Q (F0 m (pc + 3) ls (rest))) : W p l e R s m args below meth c H locs cells slots Q (F0 m pc ls (.int x :: .ref h0 :: rest)) :=
  va_put (D := D) (ci := 0) (v := .int x) (ty := .int) (C := RX0) (T := TX0) (N := 14) K.1.1 K.1.2.1 K.1.2.2.2.2 in_X0 tyX0 tyX0_ok nmX0 K.1.2.2.2.1 K.2.1 I.1 I.2.1 I.2.2 0 rfl rfl 10 (by decide) (K.1.2.2.2.2 _ q45) (fun _ h9 => h9) rfl (by decide +kernel) rfl rfl (Nat.le_of_ble_eq_true rfl) hdg (fun H1 l1 hP hD hS => kk H1 l1 ⟨hP, hD, hS⟩)
theorem gX_waitSector (K : Kx p m c s args D d z A RX0 cc nL) (I : Iw D A s (wX d z h0 ad S) H locs) (hdg : decode cc pc = .ok (.getfield 34, 3)) (kk : W p l e R s m args below meth c H locs cells slots Q (F0 m (pc + 3) ls (.ref (ad 11) :: rest))) : W p l e R s m args below meth c H locs cells slots Q (F0 m pc ls (.ref h0 :: rest)) :=
  va_get (D := D) (ci := 0) (v := .ref (ad 11)) (C := RX0) (T := TX0) (N := 14) K.1.1 K.1.2.1 K.1.2.2.2.2 in_X0 K.1.2.2.2.1 K.2.1 I.1 0 rfl rfl 11 (by decide) (K.1.2.2.2.2 _ q46) (fun _ h9 => h9) rfl hdg kk
theorem gX_waitValue (K : Kx p m c s args D d z A RX0 cc nL) (I : Iw D A s (wX d z h0 ad S) H locs) (hdg : decode cc pc = .ok (.getfield 37, 3)) (kk : W p l e R s m args below meth c H locs cells slots Q (F0 m (pc + 3) ls (.ref (ad 12) :: rest))) : W p l e R s m args below meth c H locs cells slots Q (F0 m pc ls (.ref h0 :: rest)) :=
  va_get (D := D) (ci := 0) (v := .ref (ad 12)) (C := RX0) (T := TX0) (N := 14) K.1.1 K.1.2.1 K.1.2.2.2.2 in_X0 K.1.2.2.2.1 K.2.1 I.1 0 rfl rfl 12 (by decide) (K.1.2.2.2.2 _ q47) (fun _ h9 => h9) rfl hdg kk
theorem gX_made (K : Kx p m c s args D d z A RX0 cc nL) (I : Iw D A s (wX d z h0 ad S) H locs) (hdg : decode cc pc = .ok (.getfield 71, 3)) (kk : W p l e R s m args below meth c H locs cells slots Q (F0 m (pc + 3) ls (.int (S 13 0) :: rest))) : W p l e R s m args below meth c H locs cells slots Q (F0 m pc ls (.ref h0 :: rest)) :=
  va_get (D := D) (ci := 0) (v := .int (S 13 0)) (C := RX0) (T := TX0) (N := 14) K.1.1 K.1.2.1 K.1.2.2.2.2 in_X0 K.1.2.2.2.1 K.2.1 I.1 0 rfl rfl 13 (by decide) (K.1.2.2.2.2 _ q48) (fun _ h9 => h9) rfl hdg kk
theorem pX_made {x : Int32} (K : Kx p m c s args D d z A RX0 cc nL) (I : Iw D A s (wX d z h0 ad S) H locs) (hdg : decode cc pc = .ok (.putfield 71, 3)) (kk : ∀ (H1 : Heap) (locs1 : List Loc), Iw D A s (wX d z h0 ad (sF S 13 x)) H1 locs1 → W p l e R s m args below meth c H1 locs1 cells slots Q (F0 m (pc + 3) ls (rest))) : W p l e R s m args below meth c H locs cells slots Q (F0 m pc ls (.int x :: .ref h0 :: rest)) :=
  va_put (D := D) (ci := 0) (v := .int x) (ty := .int) (C := RX0) (T := TX0) (N := 14) K.1.1 K.1.2.1 K.1.2.2.2.2 in_X0 tyX0 tyX0_ok nmX0 K.1.2.2.2.1 K.2.1 I.1 I.2.1 I.2.2 0 rfl rfl 13 (by decide) (K.1.2.2.2.2 _ q48) (fun _ h9 => h9) rfl (by decide +kernel) rfl rfl (Nat.le_of_ble_eq_true rfl) hdg (fun H1 l1 hP hD hS => kk H1 l1 ⟨hP, hD, hS⟩)
theorem lX_home {j : Int32} {i : Nat} (K : Kx p m c s args D d z A own cc nL) (I : Iw D A s (wX d z h0 ad S) H locs) (hj : j = nI i) (hi : i < 12) (hdg : decode cc pc = .ok (.iaload, 1)) (kk : W p l e R s m args below meth c H locs cells slots Q (F0 m (pc + 1) ls (.int (S 0 i) :: rest))) : W p l e R s m args below meth c H locs cells slots Q (F0 m pc ls (.int j :: .ref (ad 0) :: rest)) := by
  subst hj
  refine va_iald K.1.1 K.1.2.1 K.2.1 I.1 1 0 rfl rfl (vp_in_nI hi (by decide)) hdg ?_
  rw [nI_clamp (Nat.lt_trans hi (by decide))]
  exact kk
theorem sX_home {j x : Int32} {i : Nat} (K : Kx p m c s args D d z A own cc nL) (I : Iw D A s (wX d z h0 ad S) H locs) (hj : j = nI i) (hi : i < 12) (hdg : decode cc pc = .ok (.iastore, 1)) (kk : ∀ (H1 : Heap) (locs1 : List Loc), Iw D A s (wX d z h0 ad (sA S 0 i x)) H1 locs1 → W p l e R s m args below meth c H1 locs1 cells slots Q (F0 m (pc + 1) ls (rest))) : W p l e R s m args below meth c H locs cells slots Q (F0 m pc ls (.int x :: .int j :: .ref (ad 0) :: rest)) := by
  subst hj
  refine va_iast K.1.1 K.1.2.1 K.2.1 I.1 I.2.1 I.2.2 1 0 rfl rfl (vp_in_nI hi (by decide)) hdg (fun H1 l1 hP hD hS => ?_)
  rw [nI_clamp (Nat.lt_trans hi (by decide))] at hP hD
  exact kk H1 l1 ⟨hP, hD, hS⟩
theorem lX_check {j : Int32} {i : Nat} (K : Kx p m c s args D d z A own cc nL) (I : Iw D A s (wX d z h0 ad S) H locs) (hj : j = nI i) (hi : i < 12) (hdg : decode cc pc = .ok (.iaload, 1)) (kk : W p l e R s m args below meth c H locs cells slots Q (F0 m (pc + 1) ls (.int (S 1 i) :: rest))) : W p l e R s m args below meth c H locs cells slots Q (F0 m pc ls (.int j :: .ref (ad 1) :: rest)) := by
  subst hj
  refine va_iald K.1.1 K.1.2.1 K.2.1 I.1 2 0 rfl rfl (vp_in_nI hi (by decide)) hdg ?_
  rw [nI_clamp (Nat.lt_trans hi (by decide))]
  exact kk
theorem sX_check {j x : Int32} {i : Nat} (K : Kx p m c s args D d z A own cc nL) (I : Iw D A s (wX d z h0 ad S) H locs) (hj : j = nI i) (hi : i < 12) (hdg : decode cc pc = .ok (.iastore, 1)) (kk : ∀ (H1 : Heap) (locs1 : List Loc), Iw D A s (wX d z h0 ad (sA S 1 i x)) H1 locs1 → W p l e R s m args below meth c H1 locs1 cells slots Q (F0 m (pc + 1) ls (rest))) : W p l e R s m args below meth c H locs cells slots Q (F0 m pc ls (.int x :: .int j :: .ref (ad 1) :: rest)) := by
  subst hj
  refine va_iast K.1.1 K.1.2.1 K.2.1 I.1 I.2.1 I.2.2 2 0 rfl rfl (vp_in_nI hi (by decide)) hdg (fun H1 l1 hP hD hS => ?_)
  rw [nI_clamp (Nat.lt_trans hi (by decide))] at hP hD
  exact kk H1 l1 ⟨hP, hD, hS⟩
theorem lX_slotNumber {j : Int32} {i : Nat} (K : Kx p m c s args D d z A own cc nL) (I : Iw D A s (wX d z h0 ad S) H locs) (hj : j = nI i) (hi : i < 8) (hdg : decode cc pc = .ok (.iaload, 1)) (kk : W p l e R s m args below meth c H locs cells slots Q (F0 m (pc + 1) ls (.int (S 3 i) :: rest))) : W p l e R s m args below meth c H locs cells slots Q (F0 m pc ls (.int j :: .ref (ad 3) :: rest)) := by
  subst hj
  refine va_iald K.1.1 K.1.2.1 K.2.1 I.1 3 0 rfl rfl (vp_in_nI hi (by decide)) hdg ?_
  rw [nI_clamp (Nat.lt_trans hi (by decide))]
  exact kk
theorem sX_slotNumber {j x : Int32} {i : Nat} (K : Kx p m c s args D d z A own cc nL) (I : Iw D A s (wX d z h0 ad S) H locs) (hj : j = nI i) (hi : i < 8) (hdg : decode cc pc = .ok (.iastore, 1)) (kk : ∀ (H1 : Heap) (locs1 : List Loc), Iw D A s (wX d z h0 ad (sA S 3 i x)) H1 locs1 → W p l e R s m args below meth c H1 locs1 cells slots Q (F0 m (pc + 1) ls (rest))) : W p l e R s m args below meth c H locs cells slots Q (F0 m pc ls (.int x :: .int j :: .ref (ad 3) :: rest)) := by
  subst hj
  refine va_iast K.1.1 K.1.2.1 K.2.1 I.1 I.2.1 I.2.2 3 0 rfl rfl (vp_in_nI hi (by decide)) hdg (fun H1 l1 hP hD hS => ?_)
  rw [nI_clamp (Nat.lt_trans hi (by decide))] at hP hD
  exact kk H1 l1 ⟨hP, hD, hS⟩
theorem lX_slotCount {j : Int32} {i : Nat} (K : Kx p m c s args D d z A own cc nL) (I : Iw D A s (wX d z h0 ad S) H locs) (hj : j = nI i) (hi : i < 8) (hdg : decode cc pc = .ok (.iaload, 1)) (kk : W p l e R s m args below meth c H locs cells slots Q (F0 m (pc + 1) ls (.int (S 4 i) :: rest))) : W p l e R s m args below meth c H locs cells slots Q (F0 m pc ls (.int j :: .ref (ad 4) :: rest)) := by
  subst hj
  refine va_iald K.1.1 K.1.2.1 K.2.1 I.1 4 0 rfl rfl (vp_in_nI hi (by decide)) hdg ?_
  rw [nI_clamp (Nat.lt_trans hi (by decide))]
  exact kk
theorem sX_slotCount {j x : Int32} {i : Nat} (K : Kx p m c s args D d z A own cc nL) (I : Iw D A s (wX d z h0 ad S) H locs) (hj : j = nI i) (hi : i < 8) (hdg : decode cc pc = .ok (.iastore, 1)) (kk : ∀ (H1 : Heap) (locs1 : List Loc), Iw D A s (wX d z h0 ad (sA S 4 i x)) H1 locs1 → W p l e R s m args below meth c H1 locs1 cells slots Q (F0 m (pc + 1) ls (rest))) : W p l e R s m args below meth c H locs cells slots Q (F0 m pc ls (.int x :: .int j :: .ref (ad 4) :: rest)) := by
  subst hj
  refine va_iast K.1.1 K.1.2.1 K.2.1 I.1 I.2.1 I.2.2 4 0 rfl rfl (vp_in_nI hi (by decide)) hdg (fun H1 l1 hP hD hS => ?_)
  rw [nI_clamp (Nat.lt_trans hi (by decide))] at hP hD
  exact kk H1 l1 ⟨hP, hD, hS⟩
theorem lX_slotSum {j : Int32} {i : Nat} (K : Kx p m c s args D d z A own cc nL) (I : Iw D A s (wX d z h0 ad S) H locs) (hj : j = nI i) (hi : i < 8) (hdg : decode cc pc = .ok (.iaload, 1)) (kk : W p l e R s m args below meth c H locs cells slots Q (F0 m (pc + 1) ls (.int (S 5 i) :: rest))) : W p l e R s m args below meth c H locs cells slots Q (F0 m pc ls (.int j :: .ref (ad 5) :: rest)) := by
  subst hj
  refine va_iald K.1.1 K.1.2.1 K.2.1 I.1 5 0 rfl rfl (vp_in_nI hi (by decide)) hdg ?_
  rw [nI_clamp (Nat.lt_trans hi (by decide))]
  exact kk
theorem sX_slotSum {j x : Int32} {i : Nat} (K : Kx p m c s args D d z A own cc nL) (I : Iw D A s (wX d z h0 ad S) H locs) (hj : j = nI i) (hi : i < 8) (hdg : decode cc pc = .ok (.iastore, 1)) (kk : ∀ (H1 : Heap) (locs1 : List Loc), Iw D A s (wX d z h0 ad (sA S 5 i x)) H1 locs1 → W p l e R s m args below meth c H1 locs1 cells slots Q (F0 m (pc + 1) ls (rest))) : W p l e R s m args below meth c H locs cells slots Q (F0 m pc ls (.int x :: .int j :: .ref (ad 5) :: rest)) := by
  subst hj
  refine va_iast K.1.1 K.1.2.1 K.2.1 I.1 I.2.1 I.2.2 5 0 rfl rfl (vp_in_nI hi (by decide)) hdg (fun H1 l1 hP hD hS => ?_)
  rw [nI_clamp (Nat.lt_trans hi (by decide))] at hP hD
  exact kk H1 l1 ⟨hP, hD, hS⟩
theorem lX_slotSector {j : Int32} {i : Nat} (K : Kx p m c s args D d z A own cc nL) (I : Iw D A s (wX d z h0 ad S) H locs) (hj : j = nI i) (hi : i < 32) (hdg : decode cc pc = .ok (.iaload, 1)) (kk : W p l e R s m args below meth c H locs cells slots Q (F0 m (pc + 1) ls (.int (S 6 i) :: rest))) : W p l e R s m args below meth c H locs cells slots Q (F0 m pc ls (.int j :: .ref (ad 6) :: rest)) := by
  subst hj
  refine va_iald K.1.1 K.1.2.1 K.2.1 I.1 6 0 rfl rfl (vp_in_nI hi (by decide)) hdg ?_
  rw [nI_clamp (Nat.lt_trans hi (by decide))]
  exact kk
theorem sX_slotSector {j x : Int32} {i : Nat} (K : Kx p m c s args D d z A own cc nL) (I : Iw D A s (wX d z h0 ad S) H locs) (hj : j = nI i) (hi : i < 32) (hdg : decode cc pc = .ok (.iastore, 1)) (kk : ∀ (H1 : Heap) (locs1 : List Loc), Iw D A s (wX d z h0 ad (sA S 6 i x)) H1 locs1 → W p l e R s m args below meth c H1 locs1 cells slots Q (F0 m (pc + 1) ls (rest))) : W p l e R s m args below meth c H locs cells slots Q (F0 m pc ls (.int x :: .int j :: .ref (ad 6) :: rest)) := by
  subst hj
  refine va_iast K.1.1 K.1.2.1 K.2.1 I.1 I.2.1 I.2.2 6 0 rfl rfl (vp_in_nI hi (by decide)) hdg (fun H1 l1 hP hD hS => ?_)
  rw [nI_clamp (Nat.lt_trans hi (by decide))] at hP hD
  exact kk H1 l1 ⟨hP, hD, hS⟩
theorem lX_slotValue {j : Int32} {i : Nat} (K : Kx p m c s args D d z A own cc nL) (I : Iw D A s (wX d z h0 ad S) H locs) (hj : j = nI i) (hi : i < 32) (hdg : decode cc pc = .ok (.iaload, 1)) (kk : W p l e R s m args below meth c H locs cells slots Q (F0 m (pc + 1) ls (.int (S 7 i) :: rest))) : W p l e R s m args below meth c H locs cells slots Q (F0 m pc ls (.int j :: .ref (ad 7) :: rest)) := by
  subst hj
  refine va_iald K.1.1 K.1.2.1 K.2.1 I.1 7 0 rfl rfl (vp_in_nI hi (by decide)) hdg ?_
  rw [nI_clamp (Nat.lt_trans hi (by decide))]
  exact kk
theorem sX_slotValue {j x : Int32} {i : Nat} (K : Kx p m c s args D d z A own cc nL) (I : Iw D A s (wX d z h0 ad S) H locs) (hj : j = nI i) (hi : i < 32) (hdg : decode cc pc = .ok (.iastore, 1)) (kk : ∀ (H1 : Heap) (locs1 : List Loc), Iw D A s (wX d z h0 ad (sA S 7 i x)) H1 locs1 → W p l e R s m args below meth c H1 locs1 cells slots Q (F0 m (pc + 1) ls (rest))) : W p l e R s m args below meth c H locs cells slots Q (F0 m pc ls (.int x :: .int j :: .ref (ad 7) :: rest)) := by
  subst hj
  refine va_iast K.1.1 K.1.2.1 K.2.1 I.1 I.2.1 I.2.2 7 0 rfl rfl (vp_in_nI hi (by decide)) hdg (fun H1 l1 hP hD hS => ?_)
  rw [nI_clamp (Nat.lt_trans hi (by decide))] at hP hD
  exact kk H1 l1 ⟨hP, hD, hS⟩
theorem lX_slotCheck {j : Int32} {i : Nat} (K : Kx p m c s args D d z A own cc nL) (I : Iw D A s (wX d z h0 ad S) H locs) (hj : j = nI i) (hi : i < 32) (hdg : decode cc pc = .ok (.iaload, 1)) (kk : W p l e R s m args below meth c H locs cells slots Q (F0 m (pc + 1) ls (.int (S 8 i) :: rest))) : W p l e R s m args below meth c H locs cells slots Q (F0 m pc ls (.int j :: .ref (ad 8) :: rest)) := by
  subst hj
  refine va_iald K.1.1 K.1.2.1 K.2.1 I.1 8 0 rfl rfl (vp_in_nI hi (by decide)) hdg ?_
  rw [nI_clamp (Nat.lt_trans hi (by decide))]
  exact kk
theorem sX_slotCheck {j x : Int32} {i : Nat} (K : Kx p m c s args D d z A own cc nL) (I : Iw D A s (wX d z h0 ad S) H locs) (hj : j = nI i) (hi : i < 32) (hdg : decode cc pc = .ok (.iastore, 1)) (kk : ∀ (H1 : Heap) (locs1 : List Loc), Iw D A s (wX d z h0 ad (sA S 8 i x)) H1 locs1 → W p l e R s m args below meth c H1 locs1 cells slots Q (F0 m (pc + 1) ls (rest))) : W p l e R s m args below meth c H locs cells slots Q (F0 m pc ls (.int x :: .int j :: .ref (ad 8) :: rest)) := by
  subst hj
  refine va_iast K.1.1 K.1.2.1 K.2.1 I.1 I.2.1 I.2.2 8 0 rfl rfl (vp_in_nI hi (by decide)) hdg (fun H1 l1 hP hD hS => ?_)
  rw [nI_clamp (Nat.lt_trans hi (by decide))] at hP hD
  exact kk H1 l1 ⟨hP, hD, hS⟩
theorem lX_waitSector {j : Int32} {i : Nat} (K : Kx p m c s args D d z A own cc nL) (I : Iw D A s (wX d z h0 ad S) H locs) (hj : j = nI i) (hi : i < 20) (hdg : decode cc pc = .ok (.iaload, 1)) (kk : W p l e R s m args below meth c H locs cells slots Q (F0 m (pc + 1) ls (.int (S 11 i) :: rest))) : W p l e R s m args below meth c H locs cells slots Q (F0 m pc ls (.int j :: .ref (ad 11) :: rest)) := by
  subst hj
  refine va_iald K.1.1 K.1.2.1 K.2.1 I.1 9 0 rfl rfl (vp_in_nI hi (by decide)) hdg ?_
  rw [nI_clamp (Nat.lt_trans hi (by decide))]
  exact kk
theorem sX_waitSector {j x : Int32} {i : Nat} (K : Kx p m c s args D d z A own cc nL) (I : Iw D A s (wX d z h0 ad S) H locs) (hj : j = nI i) (hi : i < 20) (hdg : decode cc pc = .ok (.iastore, 1)) (kk : ∀ (H1 : Heap) (locs1 : List Loc), Iw D A s (wX d z h0 ad (sA S 11 i x)) H1 locs1 → W p l e R s m args below meth c H1 locs1 cells slots Q (F0 m (pc + 1) ls (rest))) : W p l e R s m args below meth c H locs cells slots Q (F0 m pc ls (.int x :: .int j :: .ref (ad 11) :: rest)) := by
  subst hj
  refine va_iast K.1.1 K.1.2.1 K.2.1 I.1 I.2.1 I.2.2 9 0 rfl rfl (vp_in_nI hi (by decide)) hdg (fun H1 l1 hP hD hS => ?_)
  rw [nI_clamp (Nat.lt_trans hi (by decide))] at hP hD
  exact kk H1 l1 ⟨hP, hD, hS⟩
theorem lX_waitValue {j : Int32} {i : Nat} (K : Kx p m c s args D d z A own cc nL) (I : Iw D A s (wX d z h0 ad S) H locs) (hj : j = nI i) (hi : i < 20) (hdg : decode cc pc = .ok (.iaload, 1)) (kk : W p l e R s m args below meth c H locs cells slots Q (F0 m (pc + 1) ls (.int (S 12 i) :: rest))) : W p l e R s m args below meth c H locs cells slots Q (F0 m pc ls (.int j :: .ref (ad 12) :: rest)) := by
  subst hj
  refine va_iald K.1.1 K.1.2.1 K.2.1 I.1 10 0 rfl rfl (vp_in_nI hi (by decide)) hdg ?_
  rw [nI_clamp (Nat.lt_trans hi (by decide))]
  exact kk
theorem sX_waitValue {j x : Int32} {i : Nat} (K : Kx p m c s args D d z A own cc nL) (I : Iw D A s (wX d z h0 ad S) H locs) (hj : j = nI i) (hi : i < 20) (hdg : decode cc pc = .ok (.iastore, 1)) (kk : ∀ (H1 : Heap) (locs1 : List Loc), Iw D A s (wX d z h0 ad (sA S 12 i x)) H1 locs1 → W p l e R s m args below meth c H1 locs1 cells slots Q (F0 m (pc + 1) ls (rest))) : W p l e R s m args below meth c H locs cells slots Q (F0 m pc ls (.int x :: .int j :: .ref (ad 12) :: rest)) := by
  subst hj
  refine va_iast K.1.1 K.1.2.1 K.2.1 I.1 I.2.1 I.2.2 10 0 rfl rfl (vp_in_nI hi (by decide)) hdg (fun H1 l1 hP hD hS => ?_)
  rw [nI_clamp (Nat.lt_trans hi (by decide))] at hP hD
  exact kk H1 l1 ⟨hP, hD, hS⟩
theorem gM_sectors (K : Kx p m c s args D d z A RX1 cc nL) (I : Iw D A s (wM d z h0 ad S) H locs) (hdg : decode cc pc = .ok (.getfield 7, 3)) (kk : W p l e R s m args below meth c H locs cells slots Q (F0 m (pc + 3) ls (.ref (ad 0) :: rest))) : W p l e R s m args below meth c H locs cells slots Q (F0 m pc ls (.ref h0 :: rest)) :=
  va_get (D := D) (ci := 1) (v := .ref (ad 0)) (C := RX1) (T := TX1) (N := 6) K.1.1 K.1.2.1 K.1.2.2.2.2 in_X1 K.1.2.2.2.1 K.2.1 I.1 0 rfl rfl 0 (by decide) (K.1.2.2.2.2 _ q192) (fun _ h9 => h9) rfl hdg kk
theorem gM_values (K : Kx p m c s args D d z A RX1 cc nL) (I : Iw D A s (wM d z h0 ad S) H locs) (hdg : decode cc pc = .ok (.getfield 13, 3)) (kk : W p l e R s m args below meth c H locs cells slots Q (F0 m (pc + 3) ls (.ref (ad 1) :: rest))) : W p l e R s m args below meth c H locs cells slots Q (F0 m pc ls (.ref h0 :: rest)) :=
  va_get (D := D) (ci := 1) (v := .ref (ad 1)) (C := RX1) (T := TX1) (N := 6) K.1.1 K.1.2.1 K.1.2.2.2.2 in_X1 K.1.2.2.2.1 K.2.1 I.1 0 rfl rfl 1 (by decide) (K.1.2.2.2.2 _ q193) (fun _ h9 => h9) rfl hdg kk
theorem gM_count (K : Kx p m c s args D d z A RX1 cc nL) (I : Iw D A s (wM d z h0 ad S) H locs) (hdg : decode cc pc = .ok (.getfield 27, 3)) (kk : W p l e R s m args below meth c H locs cells slots Q (F0 m (pc + 3) ls (.int (S 2 0) :: rest))) : W p l e R s m args below meth c H locs cells slots Q (F0 m pc ls (.ref h0 :: rest)) :=
  va_get (D := D) (ci := 1) (v := .int (S 2 0)) (C := RX1) (T := TX1) (N := 6) K.1.1 K.1.2.1 K.1.2.2.2.2 in_X1 K.1.2.2.2.1 K.2.1 I.1 0 rfl rfl 2 (by decide) (K.1.2.2.2.2 _ q194) (fun _ h9 => h9) rfl hdg kk
theorem pM_count {x : Int32} (K : Kx p m c s args D d z A RX1 cc nL) (I : Iw D A s (wM d z h0 ad S) H locs) (hdg : decode cc pc = .ok (.putfield 27, 3)) (kk : ∀ (H1 : Heap) (locs1 : List Loc), Iw D A s (wM d z h0 ad (sF S 2 x)) H1 locs1 → W p l e R s m args below meth c H1 locs1 cells slots Q (F0 m (pc + 3) ls (rest))) : W p l e R s m args below meth c H locs cells slots Q (F0 m pc ls (.int x :: .ref h0 :: rest)) :=
  va_put (D := D) (ci := 1) (v := .int x) (ty := .int) (C := RX1) (T := TX1) (N := 6) K.1.1 K.1.2.1 K.1.2.2.2.2 in_X1 tyX1 tyX1_ok nmX1 K.1.2.2.2.1 K.2.1 I.1 I.2.1 I.2.2 0 rfl rfl 2 (by decide) (K.1.2.2.2.2 _ q194) (fun _ h9 => h9) rfl (by decide +kernel) rfl rfl (Nat.le_of_ble_eq_true rfl) hdg (fun H1 l1 hP hD hS => kk H1 l1 ⟨hP, hD, hS⟩)
theorem gM_kept (K : Kx p m c s args D d z A RX1 cc nL) (I : Iw D A s (wM d z h0 ad S) H locs) (hdg : decode cc pc = .ok (.getfield 16, 3)) (kk : W p l e R s m args below meth c H locs cells slots Q (F0 m (pc + 3) ls (.ref (ad 3) :: rest))) : W p l e R s m args below meth c H locs cells slots Q (F0 m pc ls (.ref h0 :: rest)) :=
  va_get (D := D) (ci := 1) (v := .ref (ad 3)) (C := RX1) (T := TX1) (N := 6) K.1.1 K.1.2.1 K.1.2.2.2.2 in_X1 K.1.2.2.2.1 K.2.1 I.1 0 rfl rfl 3 (by decide) (K.1.2.2.2.2 _ q195) (fun _ h9 => h9) rfl hdg kk
theorem gM_damaged (K : Kx p m c s args D d z A RX1 cc nL) (I : Iw D A s (wM d z h0 ad S) H locs) (hdg : decode cc pc = .ok (.getfield 19, 3)) (kk : W p l e R s m args below meth c H locs cells slots Q (F0 m (pc + 3) ls (.ref (ad 4) :: rest))) : W p l e R s m args below meth c H locs cells slots Q (F0 m pc ls (.ref h0 :: rest)) :=
  va_get (D := D) (ci := 1) (v := .ref (ad 4)) (C := RX1) (T := TX1) (N := 6) K.1.1 K.1.2.1 K.1.2.2.2.2 in_X1 K.1.2.2.2.1 K.2.1 I.1 0 rfl rfl 4 (by decide) (K.1.2.2.2.2 _ q196) (fun _ h9 => h9) rfl hdg kk
theorem gM_madeDurable (K : Kx p m c s args D d z A RX1 cc nL) (I : Iw D A s (wM d z h0 ad S) H locs) (hdg : decode cc pc = .ok (.getfield 38, 3)) (kk : W p l e R s m args below meth c H locs cells slots Q (F0 m (pc + 3) ls (.int (S 5 0) :: rest))) : W p l e R s m args below meth c H locs cells slots Q (F0 m pc ls (.ref h0 :: rest)) :=
  va_get (D := D) (ci := 1) (v := .int (S 5 0)) (C := RX1) (T := TX1) (N := 6) K.1.1 K.1.2.1 K.1.2.2.2.2 in_X1 K.1.2.2.2.1 K.2.1 I.1 0 rfl rfl 5 (by decide) (K.1.2.2.2.2 _ q197) (fun _ h9 => h9) rfl hdg kk
theorem pM_madeDurable {x : Int32} (K : Kx p m c s args D d z A RX1 cc nL) (I : Iw D A s (wM d z h0 ad S) H locs) (hdg : decode cc pc = .ok (.putfield 38, 3)) (kk : ∀ (H1 : Heap) (locs1 : List Loc), Iw D A s (wM d z h0 ad (sF S 5 x)) H1 locs1 → W p l e R s m args below meth c H1 locs1 cells slots Q (F0 m (pc + 3) ls (rest))) : W p l e R s m args below meth c H locs cells slots Q (F0 m pc ls (.int x :: .ref h0 :: rest)) :=
  va_put (D := D) (ci := 1) (v := .int x) (ty := .int) (C := RX1) (T := TX1) (N := 6) K.1.1 K.1.2.1 K.1.2.2.2.2 in_X1 tyX1 tyX1_ok nmX1 K.1.2.2.2.1 K.2.1 I.1 I.2.1 I.2.2 0 rfl rfl 5 (by decide) (K.1.2.2.2.2 _ q197) (fun _ h9 => h9) rfl (by decide +kernel) rfl rfl (Nat.le_of_ble_eq_true rfl) hdg (fun H1 l1 hP hD hS => kk H1 l1 ⟨hP, hD, hS⟩)
theorem lM_sectors {j : Int32} {i : Nat} (K : Kx p m c s args D d z A own cc nL) (I : Iw D A s (wM d z h0 ad S) H locs) (hj : j = nI i) (hi : i < 20) (hdg : decode cc pc = .ok (.iaload, 1)) (kk : W p l e R s m args below meth c H locs cells slots Q (F0 m (pc + 1) ls (.int (S 0 i) :: rest))) : W p l e R s m args below meth c H locs cells slots Q (F0 m pc ls (.int j :: .ref (ad 0) :: rest)) := by
  subst hj
  refine va_iald K.1.1 K.1.2.1 K.2.1 I.1 1 0 rfl rfl (vp_in_nI hi (by decide)) hdg ?_
  rw [nI_clamp (Nat.lt_trans hi (by decide))]
  exact kk
theorem sM_sectors {j x : Int32} {i : Nat} (K : Kx p m c s args D d z A own cc nL) (I : Iw D A s (wM d z h0 ad S) H locs) (hj : j = nI i) (hi : i < 20) (hdg : decode cc pc = .ok (.iastore, 1)) (kk : ∀ (H1 : Heap) (locs1 : List Loc), Iw D A s (wM d z h0 ad (sA S 0 i x)) H1 locs1 → W p l e R s m args below meth c H1 locs1 cells slots Q (F0 m (pc + 1) ls (rest))) : W p l e R s m args below meth c H locs cells slots Q (F0 m pc ls (.int x :: .int j :: .ref (ad 0) :: rest)) := by
  subst hj
  refine va_iast K.1.1 K.1.2.1 K.2.1 I.1 I.2.1 I.2.2 1 0 rfl rfl (vp_in_nI hi (by decide)) hdg (fun H1 l1 hP hD hS => ?_)
  rw [nI_clamp (Nat.lt_trans hi (by decide))] at hP hD
  exact kk H1 l1 ⟨hP, hD, hS⟩
theorem lM_values {j : Int32} {i : Nat} (K : Kx p m c s args D d z A own cc nL) (I : Iw D A s (wM d z h0 ad S) H locs) (hj : j = nI i) (hi : i < 20) (hdg : decode cc pc = .ok (.iaload, 1)) (kk : W p l e R s m args below meth c H locs cells slots Q (F0 m (pc + 1) ls (.int (S 1 i) :: rest))) : W p l e R s m args below meth c H locs cells slots Q (F0 m pc ls (.int j :: .ref (ad 1) :: rest)) := by
  subst hj
  refine va_iald K.1.1 K.1.2.1 K.2.1 I.1 2 0 rfl rfl (vp_in_nI hi (by decide)) hdg ?_
  rw [nI_clamp (Nat.lt_trans hi (by decide))]
  exact kk
theorem sM_values {j x : Int32} {i : Nat} (K : Kx p m c s args D d z A own cc nL) (I : Iw D A s (wM d z h0 ad S) H locs) (hj : j = nI i) (hi : i < 20) (hdg : decode cc pc = .ok (.iastore, 1)) (kk : ∀ (H1 : Heap) (locs1 : List Loc), Iw D A s (wM d z h0 ad (sA S 1 i x)) H1 locs1 → W p l e R s m args below meth c H1 locs1 cells slots Q (F0 m (pc + 1) ls (rest))) : W p l e R s m args below meth c H locs cells slots Q (F0 m pc ls (.int x :: .int j :: .ref (ad 1) :: rest)) := by
  subst hj
  refine va_iast K.1.1 K.1.2.1 K.2.1 I.1 I.2.1 I.2.2 2 0 rfl rfl (vp_in_nI hi (by decide)) hdg (fun H1 l1 hP hD hS => ?_)
  rw [nI_clamp (Nat.lt_trans hi (by decide))] at hP hD
  exact kk H1 l1 ⟨hP, hD, hS⟩
theorem lM_kept {j : Int32} {i : Nat} (K : Kx p m c s args D d z A own cc nL) (I : Iw D A s (wM d z h0 ad S) H locs) (hj : j = nI i) (hi : i < 12) (hdg : decode cc pc = .ok (.iaload, 1)) (kk : W p l e R s m args below meth c H locs cells slots Q (F0 m (pc + 1) ls (.int (S 3 i) :: rest))) : W p l e R s m args below meth c H locs cells slots Q (F0 m pc ls (.int j :: .ref (ad 3) :: rest)) := by
  subst hj
  refine va_iald K.1.1 K.1.2.1 K.2.1 I.1 3 0 rfl rfl (vp_in_nI hi (by decide)) hdg ?_
  rw [nI_clamp (Nat.lt_trans hi (by decide))]
  exact kk
theorem sM_kept {j x : Int32} {i : Nat} (K : Kx p m c s args D d z A own cc nL) (I : Iw D A s (wM d z h0 ad S) H locs) (hj : j = nI i) (hi : i < 12) (hdg : decode cc pc = .ok (.iastore, 1)) (kk : ∀ (H1 : Heap) (locs1 : List Loc), Iw D A s (wM d z h0 ad (sA S 3 i x)) H1 locs1 → W p l e R s m args below meth c H1 locs1 cells slots Q (F0 m (pc + 1) ls (rest))) : W p l e R s m args below meth c H locs cells slots Q (F0 m pc ls (.int x :: .int j :: .ref (ad 3) :: rest)) := by
  subst hj
  refine va_iast K.1.1 K.1.2.1 K.2.1 I.1 I.2.1 I.2.2 3 0 rfl rfl (vp_in_nI hi (by decide)) hdg (fun H1 l1 hP hD hS => ?_)
  rw [nI_clamp (Nat.lt_trans hi (by decide))] at hP hD
  exact kk H1 l1 ⟨hP, hD, hS⟩
theorem lM_damaged {j : Int32} {i : Nat} (K : Kx p m c s args D d z A own cc nL) (I : Iw D A s (wM d z h0 ad S) H locs) (hj : j = nI i) (hi : i < 12) (hdg : decode cc pc = .ok (.baload, 1)) (kk : W p l e R s m args below meth c H locs cells slots Q (F0 m (pc + 1) ls (.int (S 4 i) :: rest))) : W p l e R s m args below meth c H locs cells slots Q (F0 m pc ls (.int j :: .ref (ad 4) :: rest)) := by
  subst hj
  refine va_zald K.1.1 K.1.2.1 K.2.1 I.1 4 1 rfl rfl (vp_in_nI hi (by decide)) hdg ?_
  rw [nI_clamp (Nat.lt_trans hi (by decide))]
  exact kk
theorem sM_damaged {j x : Int32} {i : Nat} (K : Kx p m c s args D d z A own cc nL) (I : Iw D A s (wM d z h0 ad S) H locs) (hj : j = nI i) (hi : i < 12) (hdg : decode cc pc = .ok (.bastore, 1)) (kk : ∀ (H1 : Heap) (locs1 : List Loc), Iw D A s (wM d z h0 ad (sA S 4 i (vp_nar .boolean x))) H1 locs1 → W p l e R s m args below meth c H1 locs1 cells slots Q (F0 m (pc + 1) ls (rest))) : W p l e R s m args below meth c H locs cells slots Q (F0 m pc ls (.int x :: .int j :: .ref (ad 4) :: rest)) := by
  subst hj
  refine va_zast K.1.1 K.1.2.1 K.2.1 I.1 I.2.1 I.2.2 4 1 rfl rfl (vp_in_nI hi (by decide)) hdg (fun H1 l1 hP hD hS => ?_)
  rw [nI_clamp (Nat.lt_trans hi (by decide))] at hP hD
  exact kk H1 l1 ⟨hP, hD, hS⟩
end KX
end
section
set_option maxRecDepth 100000
/-! contracts of methods over one world, how they are shown, how they are called -/
abbrev Wf : Type := ClassId → ClassId → Nat → (Nat → Nat) → St → va_W
def PreW (D : va_G) (d z : ClassId) (w : va_W) (sz : Nat) (U : State) : Prop := U.heap.size = sz ∧ va_P D vwCl w U.heap ∧ va_K D vwCl (kTy d z) U ∧ va_D (fun _ => True) w
def PostW (D : va_G) (d z : ClassId) (w w' : va_W) (sz : Nat) (t : State) : Prop := va_P D vwCl w' t.heap ∧ va_K D vwCl (kTy d z) t ∧ va_D (va_A w sz) w'
/-- an int answer r, the world from S to S' -/
def Cti (l : Launch) (wf : Wf) (y : MethodName) (cc : ByteArray) (L : Nat) (ty : FieldType) (n : Nat) (av : List Value) (S S' : St) (r : Int32) : Prop :=
  ∀ (D : va_G) (d z : ClassId) (h0 : Nat) (ad : Nat → Nat) (sz : Nat), Met l y (ws_ y cc L (some ty)) (rk n) (va_Pc (.ref h0 :: av) (PreW D d z (wf d z h0 ad S) sz)) (va_Qi (fun (r' : Int32) (_ : Unit) => r' = r) (fun _ t => PostW D d z (wf d z h0 ad S) (wf d z h0 ad S') sz t) (va_A (wf d z h0 ad S) sz)) 0 0 (va_A (wf d z h0 ad S) sz)
def Ctv (l : Launch) (wf : Wf) (y : MethodName) (cc : ByteArray) (L : Nat) (n : Nat) (av : List Value) (S S' : St) : Prop :=
  ∀ (D : va_G) (d z : ClassId) (h0 : Nat) (ad : Nat → Nat) (sz : Nat), Met l y (ws_ y cc L none) (rk n) (va_Pc (.ref h0 :: av) (PreW D d z (wf d z h0 ad S) sz)) (va_Qv (fun (_ : Unit) => True) (fun _ t => PostW D d z (wf d z h0 ad S) (wf d z h0 ad S') sz t) (va_A (wf d z h0 ad S) sz)) 0 0 (va_A (wf d z h0 ad S) sz)
/-- a static method of ints alone -/
def Cts (l : Launch) (y : MethodName) (cc : ByteArray) (L : Nat) (ty : FieldType) (n : Nat) (av : List Value) (r : Int32) : Prop :=
  Met l y (ws_ y cc L (some ty)) (rk n) (va_Pc av (fun _ => True)) (va_Qi (fun (r' : Int32) (_ : Unit) => r' = r) (fun _ _ => True) (fun _ => False)) 0 0 (fun _ => False)
section CALLS
variable {l : Launch} {wf : Wf} {y : MethodName} {cc : ByteArray} {L n : Nat} {ty : FieldType} {av : List Value} {S S' : St} {r : Int32}
theorem ctI_of (hy : plainName y.cls = true) (hn : narrow ty (.int r) = .int r) (hL : (lg_sl (.ref 0 :: av)).length ≤ L)
    (body : ∀ (p : Program) (e : Env) (s : State) (m : MethodId) (args : Array Value) (below : List Frame) (meth : Method) (c : Code) (D : va_G) (d z : ClassId) (h0 : Nat) (ad : Nat → Nat) (A : Nat → Prop) (Q : State → Prop) (ls : Array Slot),
      Kx p m c s args D d z A y.cls cc L → Iw D A s (wf d z h0 ad S) s.heap [] → lv_has ls L (lv_args 0 (.ref h0 :: av)) →
      (∀ (H : Heap) (locs : List Loc) (pc : Nat) (ls : Array Slot) (v : Int32), v = r → Iw D A s (wf d z h0 ad S') H locs → decode cc pc = .ok (.ireturn, 1) → W p l e (rk n) s m args below meth c H locs 0 0 Q (F0 m pc ls [.int v])) →
      W p l e (rk n) s m args below meth c s.heap [] 0 0 Q (F0 m 0 ls [])) : Cti l wf y cc L ty n av S S' r := by
  intro D d z h0 ad sz
  refine Met.ofW (cc := cc) (maxL := L) (ret := some ty) hy rfl ?_
  intro p e s m args below meth c s₁ B hml hv
  obtain ⟨rfl, hsz, hP, hK, hD0⟩ := hv
  have hts := atoms_spec (ws := ws_ y cc L (some ty)) B.pre
  have hts : ∀ w ∈ lw_all, w.before _ s = true := fun w h => hts w (List.mem_cons_of_mem _ h)
  have hown : s.vm.findClass y.cls = some m.cls := findClass_of_methodNamed B.named
  have hlocks := B.notSynchronized
  have hr := B.returns
  have hx := B.exec
  have hb := B.bytes
  subst hsz
  have hD := hD0.self (sz := s.heap.size)
  have hA : ∀ q : Nat, s.heap.size ≤ q → va_A (wf d z h0 ad S) s.heap.size q := fun q h => Or.inr h
  have hl := lv_entry (.ref h0 :: av) (n := L) hL
  rw [lg_entry_eq]
  refine body p e s m _ below meth c D d z h0 ad (va_A (wf d z h0 ad S) s.heap.size) _ _ ⟨⟨hx, hb, hml, hown, hts⟩, hK, hA⟩ ⟨hP, hD, va_S.rf⟩ hl ?_
  intro H locs pc ls v hv I hdg
  subst hv
  exact W.zret hx hb hr hn (fun t ht hW => ⟨⟨_, (), rfl, rfl, by rw [ht]; exact I.1, va_K.moved hW.alike hK, I.2.1⟩, I.2.2.F ht⟩) I.2.2.2.2 hdg
theorem ctV_of (hy : plainName y.cls = true) (hL : (lg_sl (.ref 0 :: av)).length ≤ L)
    (body : ∀ (p : Program) (e : Env) (s : State) (m : MethodId) (args : Array Value) (below : List Frame) (meth : Method) (c : Code) (D : va_G) (d z : ClassId) (h0 : Nat) (ad : Nat → Nat) (A : Nat → Prop) (Q : State → Prop) (ls : Array Slot),
      Kx p m c s args D d z A y.cls cc L → Iw D A s (wf d z h0 ad S) s.heap [] → lv_has ls L (lv_args 0 (.ref h0 :: av)) →
      (∀ (H : Heap) (locs : List Loc) (pc : Nat) (ls : Array Slot), Iw D A s (wf d z h0 ad S') H locs → decode cc pc = .ok (.return_, 1) → W p l e (rk n) s m args below meth c H locs 0 0 Q (F0 m pc ls [])) →
      W p l e (rk n) s m args below meth c s.heap [] 0 0 Q (F0 m 0 ls [])) : Ctv l wf y cc L n av S S' := by
  intro D d z h0 ad sz
  refine Met.ofW (cc := cc) (maxL := L) (ret := none) hy rfl ?_
  intro p e s m args below meth c s₁ B hml hv
  obtain ⟨rfl, hsz, hP, hK, hD0⟩ := hv
  have hts := atoms_spec (ws := ws_ y cc L none) B.pre
  have hts : ∀ w ∈ lw_all, w.before _ s = true := fun w h => hts w (List.mem_cons_of_mem _ h)
  have hown : s.vm.findClass y.cls = some m.cls := findClass_of_methodNamed B.named
  have hlocks := B.notSynchronized
  have hr := B.returns
  have hx := B.exec
  have hb := B.bytes
  subst hsz
  have hD := hD0.self (sz := s.heap.size)
  have hA : ∀ q : Nat, s.heap.size ≤ q → va_A (wf d z h0 ad S) s.heap.size q := fun q h => Or.inr h
  have hl := lv_entry (.ref h0 :: av) (n := L) hL
  rw [lg_entry_eq]
  refine body p e s m _ below meth c D d z h0 ad (va_A (wf d z h0 ad S) s.heap.size) _ _ ⟨⟨hx, hb, hml, hown, hts⟩, hK, hA⟩ ⟨hP, hD, va_S.rf⟩ hl ?_
  intro H locs pc ls I hdg
  exact W.vret hx hb hr (fun t ht hW => ⟨⟨(), rfl, trivial, by rw [ht]; exact I.1, va_K.moved hW.alike hK, I.2.1⟩, I.2.2.F ht⟩) I.2.2.2.2 hdg
theorem ctS_of (hy : plainName y.cls = true) (hn : narrow ty (.int r) = .int r) (hL : (lg_sl av).length ≤ L)
    (body : ∀ (p : Program) (e : Env) (s : State) (m : MethodId) (args : Array Value) (below : List Frame) (meth : Method) (c : Code) (Q : State → Prop) (ls : Array Slot),
      CallFix p m c cc L s args lw_all y.cls → lv_has ls L (lv_args 0 av) →
      (∀ (pc : Nat) (ls : Array Slot) (v : Int32), v = r → decode cc pc = .ok (.ireturn, 1) → W p l e (rk n) s m args below meth c s.heap [] 0 0 Q (F0 m pc ls [.int v])) →
      W p l e (rk n) s m args below meth c s.heap [] 0 0 Q (F0 m 0 ls [])) : Cts l y cc L ty n av r := by
  refine Met.ofW (cc := cc) (maxL := L) (ret := some ty) hy rfl ?_
  intro p e s m args below meth c s₁ B hml hv
  obtain ⟨rfl, -⟩ := hv
  have hts := atoms_spec (ws := ws_ y cc L (some ty)) B.pre
  have hts : ∀ w ∈ lw_all, w.before _ s = true := fun w h => hts w (List.mem_cons_of_mem _ h)
  have hown : s.vm.findClass y.cls = some m.cls := findClass_of_methodNamed B.named
  have hlocks := B.notSynchronized
  have hr := B.returns
  have hx := B.exec
  have hb := B.bytes
  have hl := lv_entry av (n := L) hL
  rw [lg_entry_eq]
  refine body p e s m _ below meth c _ _ ⟨hx, hb, hml, hown, hts⟩ hl ?_
  intro pc ls v hv hdg
  subst hv
  exact W.zret hx hb hr hn (fun t ht hW => ⟨⟨_, (), rfl, rfl, trivial⟩, by rw [ht]; exact Nat.le_refl _, fun q _ _ => by rw [ht]⟩) (fun _ h => by cases h) hdg
end CALLS
section CALLR
variable {p : Program} {l : Launch} {e : Env} {R : Room} {s : State} {m : MethodId} {args : Array Value} {below : List Frame} {meth : Method} {c : Code} {H : Heap} {locs : List Loc} {cells slots : Nat} {Q : State → Prop}
variable {cc : ByteArray} {pc nL : Nat} {ls : Array Slot} {rest st : List Value} {D : va_G} {d z : ClassId} {A : Nat → Prop} {h0 : Nat} {ad : Nat → Nat} {own : String}
variable {wf : Wf} {y : MethodName} {c2 : ByteArray} {L n idx ci na : Nat} {ty : FieldType} {av : List Value} {S S' : St} {r : Int32} {qc : vw_C} {fs : List Value}
theorem preW_blind {w : va_W} {sz : Nat} : FrameBlind (va_Pc av (PreW D d z w sz)) := by
  intro a U g mk q
  obtain ⟨q0, q1, qP, qK, qD⟩ := q
  exact ⟨q0, q1, qP, va_K.moved (u := U) (U := U.calling g mk a) (Vm.Alike.refl U.vm) qK, qD⟩
theorem iw_free {w : va_W} (K : Kx p m c s args D d z A own cc nL) (I : Iw D A s w H locs) : ∀ q, va_A w H.size q → A q := by
  intro q h
  rcases h with ⟨k, x, h⟩ | h
  · exact I.2.1.2 k (q, x) h
  · exact K.2.2 q (Nat.le_trans I.2.2.1 h)
theorem il_callI (na : Nat) (K : Kx p m c s args D d z A own cc nL) (I : Iw D A s (wf d z h0 ad S) H locs) (hls : ls.size = nL) (hM : Cti l wf y c2 L ty n av S S' r)
    (hw : GoodIn lw_all (wsV own idx qc.1 y (ws_ y c2 L (some ty)))) (hd : y.cls = qc.1 ∧ y.cls ≠ "java/lang/invoke/MethodHandle" ∧ y.cls ≠ "java/lang/invoke/VarHandle" ∧ (parseMethodDescriptor y.desc).map (fun d => d.parameters.length) = some na)
    (hci : vwCl[ci]? = some qc) (hh : (wf d z h0 ad S)[0]? = some (h0, .inr (ci, fs))) (hR : (rk n).frames + 1 ≤ R.frames ∧ 8 + (L + 11) + (rk n).locals ≤ R.locals) (hna : av.length = na) (hst : st = av.reverse ++ .ref h0 :: rest) (hrm : (rest.map fun v => v.category).sum ≤ 8) (hcs : cells ≤ R.cells ∧ slots ≤ R.slots) (hdg : decode cc pc = .ok (.invokevirtual idx, 3))
    (kk : ∀ (H1 : Heap) (locs1 : List Loc), Iw D A s (wf d z h0 ad S') H1 locs1 → W p l e R s m args below meth c H1 locs1 cells slots Q (F0 m (pc + 3) ls (.int r :: rest))) : W p l e R s m args below meth c H locs cells slots Q (F0 m pc ls st) := by
  have hF := iw_free K I
  refine va_calli (A1 := va_A (wf d z h0 ad S) H.size) (va_runV (As := av) (rest := rest) (b := h0) K.1 (hM D d z h0 ad H.size) (cwV na K.1.2.2.2.2 hw rfl rfl rfl hd hR) ⟨preW_blind, va_recv K.2.1 I.1 (ci := ci) (q0 := 0) hci hh, fun U hU hW => ⟨rfl, by rw [hU], by rw [hU]; exact I.1, va_K.moved hW.alike K.2.1, I.2.1.weaken (fun _ _ _ _ => trivial)⟩⟩ rfl hna hls hst (lv_room hrm) hdg hcs) I.2.2 (fun q _ h => hF q h) hF (fun r2 u t H1 locs1 ht hvm hp hB hz1 hk1 hS => ?_)
  subst hp
  obtain ⟨hP1, -, hD1⟩ := hB
  rw [ht] at hP1
  exact kk H1 locs1 ⟨hP1, hD1.weaken (fun k q _ h => hF q.1 h), hS⟩
theorem il_callV (na : Nat) (K : Kx p m c s args D d z A own cc nL) (I : Iw D A s (wf d z h0 ad S) H locs) (hls : ls.size = nL) (hM : Ctv l wf y c2 L n av S S')
    (hw : GoodIn lw_all (wsV own idx qc.1 y (ws_ y c2 L none))) (hd : y.cls = qc.1 ∧ y.cls ≠ "java/lang/invoke/MethodHandle" ∧ y.cls ≠ "java/lang/invoke/VarHandle" ∧ (parseMethodDescriptor y.desc).map (fun d => d.parameters.length) = some na)
    (hci : vwCl[ci]? = some qc) (hh : (wf d z h0 ad S)[0]? = some (h0, .inr (ci, fs))) (hR : (rk n).frames + 1 ≤ R.frames ∧ 8 + (L + 11) + (rk n).locals ≤ R.locals) (hna : av.length = na) (hst : st = av.reverse ++ .ref h0 :: rest) (hrm : (rest.map fun v => v.category).sum ≤ 8) (hcs : cells ≤ R.cells ∧ slots ≤ R.slots) (hdg : decode cc pc = .ok (.invokevirtual idx, 3))
    (kk : ∀ (H1 : Heap) (locs1 : List Loc), Iw D A s (wf d z h0 ad S') H1 locs1 → W p l e R s m args below meth c H1 locs1 cells slots Q (F0 m (pc + 3) ls rest)) : W p l e R s m args below meth c H locs cells slots Q (F0 m pc ls st) := by
  have hF := iw_free K I
  refine va_callv (A1 := va_A (wf d z h0 ad S) H.size) (va_runV (As := av) (rest := rest) (b := h0) K.1 (hM D d z h0 ad H.size) (cwV na K.1.2.2.2.2 hw rfl rfl rfl hd hR) ⟨preW_blind, va_recv K.2.1 I.1 (ci := ci) (q0 := 0) hci hh, fun U hU hW => ⟨rfl, by rw [hU], by rw [hU]; exact I.1, va_K.moved hW.alike K.2.1, I.2.1.weaken (fun _ _ _ _ => trivial)⟩⟩ rfl hna hls hst (lv_room hrm) hdg hcs) I.2.2 (fun q _ h => hF q h) hF (fun u t H1 locs1 ht hvm hp hB hz1 hk1 hS => ?_)
  obtain ⟨hP1, -, hD1⟩ := hB
  rw [ht] at hP1
  exact kk H1 locs1 ⟨hP1, hD1.weaken (fun k q _ h => hF q.1 h), hS⟩
theorem il_callS (na : Nat) {w : va_W} (K : Kx p m c s args D d z A own cc nL) (I : Iw D A s w H locs) (hls : ls.size = nL) (hM : Cts l y c2 L ty n av r)
    (hw : GoodIn lw_all (va_wsS own idx y (ws_ y c2 L (some ty)))) (hd : y.cls ≠ "java/lang/invoke/MethodHandle" ∧ y.cls ≠ "java/lang/invoke/VarHandle" ∧ (parseMethodDescriptor y.desc).map (fun d => d.parameters.length) = some na)
    (hR : (rk n).frames + 1 ≤ R.frames ∧ 8 + (L + 11) + (rk n).locals ≤ R.locals) (hna : av.length = na) (hst : st = av.reverse ++ rest) (hrm : (rest.map fun v => v.category).sum ≤ 8) (hcs : cells ≤ R.cells ∧ slots ≤ R.slots) (hdg : decode cc pc = .ok (.invokestatic idx, 3))
    (kk : ∀ (H1 : Heap) (locs1 : List Loc), Iw D A s w H1 locs1 → W p l e R s m args below meth c H1 locs1 cells slots Q (F0 m (pc + 3) ls (.int r :: rest))) : W p l e R s m args below meth c H locs cells slots Q (F0 m pc ls st) := by
  refine va_calli (A1 := fun _ => False) (va_runS (As := av) (rest := rest) K.1 hM (va_cwS na K.1.2.2.2.2 hw rfl rfl rfl hd hR) ⟨fun a U g mk q => q, fun U hU hW => ⟨rfl, trivial⟩⟩ rfl hna hls hst (lv_room hrm) hdg hcs) I.2.2 (fun q _ h => h.elim) (fun q h => h.elim) (fun r2 u t H1 locs1 ht hvm hp hB hz1 hk1 hS => ?_)
  subst hp
  exact kk H1 locs1 ⟨I.1.kept (fun k q hk => hk1 q.1 (I.1 k q hk).lt id), I.2.1, hS⟩
end CALLR
end
section
/-! what each method computes, as plain functions of the world's contents -/
def b2 (b : Bool) : Int32 := if b = true then 1 else 0
def hfN (S : St) : Nat := cl (S 2 0)
def nxN (S : St) : Nat := cl (S 9 0)
def wtN (S : St) : Nat := cl (S 10 0)
def badB (x : Int32) : Bool := decide (x < 0) || decide (12 ≤ x)
def chk (s v : Int32) : Int32 := (v ^^^ 1431655765) * 1540483477 + s * 668265263
-- applySlot
def ap1 (S : St) (i : Nat) : St := sA (sA S 0 (cl (S 6 i)) (S 7 i)) 1 (cl (S 6 i)) (S 8 i)
def apN (S : St) (k : Nat) : Nat → St
  | 0 => S
  | c + 1 => ap1 (apN S k c) (4 * k + c)
def apS (S : St) (k : Nat) : St := apN S k (cl (S 4 k))
-- copyHome
def chN (S : St) (a : Nat) : Nat → St
  | 0 => S
  | j + 1 => apS (chN S a j) ((a + j) % 8)
def chT (S : St) : St := chN S (hfN S) (nxN S - hfN S)
def chF (S : St) : St := sF (chT S) 2 (chT S 9 0)
-- sumOf
def smN (S : St) (k : Nat) : Nat → Int32
  | 0 => S 3 k * 31 + S 4 k
  | c + 1 => ((smN S k c * 31 + S 6 (4 * k + c)) * 31 + S 7 (4 * k + c)) * 31 + S 8 (4 * k + c)
def smS (S : St) (k : Nat) : Int32 := smN S k (cl (S 4 k))
-- fillSlot
def fl1 (S : St) (k f i : Nat) : St := sA (sA (sA S 6 (4 * k + i) (S 11 (f + i))) 7 (4 * k + i) (S 12 (f + i))) 8 (4 * k + i) (chk (S 11 (f + i)) (S 12 (f + i)))
def flN (S : St) (k f : Nat) : Nat → St
  | 0 => S
  | i + 1 => fl1 (flN S k f i) k f i
def flH (S : St) : St := if nxN S - hfN S < 7 then S else chF S
def flP (S : St) (n : Nat) : St := sA (sA (flH S) 3 (nxN S % 8) (flH S 9 0)) 4 (nxN S % 8) (nI n)
def flS (S : St) (f n : Nat) : St := flN (flP S n) (nxN S % 8) f n
-- commit
def co1 (S : St) (f n : Nat) : St := sF (sA (flS S f n) 5 (nxN S % 8) (smS (flS S f n) (nxN S % 8))) 9 (flS S f n 9 0 + 1)
def coN (S : St) (n : Nat) : Nat → St
  | 0 => S
  | j + 1 => co1 (coN S n j) (4 * j) (min (n - 4 * j) 4)
def coT (S : St) (n : Nat) : St := coN S n ((n + 3) / 4)
def coF (S : St) (n : Nat) : St := sF (coT S n) 13 (coT S n 13 0 + nI n)
-- dropWaiting
def dr1 (S : St) (k i : Nat) : St := sA (sA S 11 i (S 11 (i + k))) 12 i (S 12 (i + k))
def drN (S : St) (k : Nat) : Nat → St
  | 0 => S
  | i + 1 => dr1 (drN S k i) k i
def drF (S : St) (k : Nat) : St := drN (sF S 10 (nI (wtN S - k))) k (wtN S - k)
def clN (n : Nat) (x : Int32) : Nat := if x < 0 then 0 else min n (cl x)
-- write
def wrF (S : St) (x v : Int32) : St := if badB x = true then S else if 20 ≤ wtN S then S else sF (sA (sA S 11 (wtN S) x) 12 (wtN S) v) 10 (nI (wtN S + 1))
def wrR (S : St) (x : Int32) : Int32 := if badB x = true then -1 else if 20 ≤ wtN S then -2 else nI (wtN S + 1)
-- tear, whole, replay, crash
def teF (S : St) (f n : Nat) : St := sA (flS S f (min n 4)) 5 (nxN S % 8) (smS (flS S f (min n 4)) (nxN S % 8) ^^^ (-1))
def whB (S : St) (k : Nat) (x : Int32) : Bool := decide (S 3 k = x) && decide (1 ≤ cl (S 4 k)) && decide (smS S k = S 5 k)
def rpN (S : St) (k : Nat) : Nat → St × Nat
  | 0 => (S, k)
  | f + 1 => if whB S (k % 8) (nI k) = true then rpN (apS S (k % 8)) (k + 1) f else (S, k)
def rpF (S : St) : St := sF (sF (rpN S (hfN S) 8).1 9 (nI (rpN S (hfN S) 8).2)) 2 (nI (rpN S (hfN S) 8).2)
def crU (S : St) (k : Nat) : St := if k < wtN S then teF (coF S k) k (wtN S - k) else coF S k
def crF (S : St) (k : Nat) : St := rpF (sF (sF (crU S k) 10 0) 9 0)
-- damage
def dmB (S : St) (j : Nat) : Bool := decide (¬ S 1 j = chk (nI j) (S 0 j))
def daF (S : St) (x v : Int32) : St := if badB x = true then S else if dmB (chF S) (cl x) = true then chF S else sA (chF S) 0 (cl x) (chF S 0 (cl x) ^^^ v)
def daR (S : St) (x v : Int32) : Int32 := if badB x = true then -1 else b2 (dmB (chF S) (cl x) || decide (¬ v = 0))
def scN (S : St) : Nat → Nat
  | 0 => 0
  | j + 1 => if dmB S j = true then scN S j + 1 else scN S j
-- reads
def nwN (S : St) (x : Int32) : Nat → Int32
  | 0 => -1
  | i + 1 => if S 11 i = x then nI i else nwN S x i
def nwF (S : St) (x : Int32) : Int32 := nwN S x (wtN S)
def njI (S : St) (x : Int32) (k : Nat) (f : Int32) : Nat → Int32
  | 0 => f
  | c + 1 => if S 6 (4 * k + c) = x then nI (4 * k + c) else njI S x k f c
def njN (S : St) (x : Int32) (a : Nat) : Nat → Int32
  | 0 => -1
  | j + 1 => njI S x ((a + j) % 8) (njN S x a j) (cl (S 4 ((a + j) % 8)))
def njF (S : St) (x : Int32) : Int32 := njN S x (hfN S) (nxN S - hfN S)
def dgB (S : St) (j : Nat) : Bool := if njF S (nI j) < 0 then !(dmB S j) else true
def dvF (S : St) (j : Nat) : Int32 := if njF S (nI j) < 0 then S 0 j else S 7 (cl (njF S (nI j)))
def rdR (S : St) (x : Int32) : Int32 := if badB x = true then 0 else if nwF S x < 0 then (if dgB S (cl x) = true then dvF S (cl x) else 0) else S 12 (cl (nwF S x))
def rbB (S : St) (x : Int32) : Bool := if badB x = true then false else if nwF S x < 0 then dgB S (cl x) else true
def ar1 (S : St) (j : Nat) : Bool := if nwF S (nI j) < 0 then false else !(dgB S j) || decide (¬ dvF S j = S 12 (cl (nwF S (nI j))))
def arN (S : St) : Nat → Nat
  | 0 => 0
  | j + 1 => if ar1 S j = true then arN S j + 1 else arN S j
-- the reference
def fk1 (M : St) (k : Nat) : St := sA (sA M 3 (cl (M 0 k)) (M 1 k)) 4 (cl (M 0 k)) 0
def fkN (M : St) : Nat → St
  | 0 => M
  | k + 1 => fk1 (fkN M k) k
def fs1 (M : St) (n k : Nat) : St := sA (sA M 0 k (M 0 (k + n))) 1 k (M 1 (k + n))
def fsN (M : St) (n : Nat) : Nat → St
  | 0 => M
  | k + 1 => fs1 (fsN M n k) n k
def ctN (M : St) : Nat := cl (M 2 0)
def fsP (M : St) (n : Nat) : St := sF (sF (fkN M n) 5 (fkN M n 5 0 + nI n)) 2 (nI (ctN M - n))
def fsF (M : St) (n : Nat) : St := fsN (fsP M n) n (ctN M - n)
def mwF (M : St) (x v : Int32) : St := if badB x = true then M else if ctN M = 20 then M else sF (sA (sA M 0 (ctN M) x) 1 (ctN M) v) 2 (nI (ctN M + 1))
def mwR (M : St) (x : Int32) : Int32 := if badB x = true then -1 else if ctN M = 20 then -2 else nI (ctN M + 1)
def mdF (M : St) (x v : Int32) : St := if badB x = true then M else if v = 0 then M else sA M 4 (cl x) 1
def mdR (M : St) (x v : Int32) : Int32 := if badB x = true then -1 else b2 (decide (¬ mdF M x v 4 (cl x) = 0))
def msN (M : St) : Nat → Nat
  | 0 => 0
  | j + 1 => if M 4 j = 0 then msN M j else msN M j + 1
def nnN (M : St) (x : Int32) : Nat → Int32
  | 0 => -1
  | i + 1 => if M 0 i = x then nI i else nnN M x i
def nnF (M : St) (x : Int32) : Int32 := nnN M x (ctN M)
def mbB (M : St) (x : Int32) : Bool := if badB x = true then false else if nnF M x < 0 then decide (M 4 (cl x) = 0) else true
def mrR (M : St) (x : Int32) : Int32 := if mbB M x = true then (if nnF M x < 0 then M 3 (cl x) else M 1 (cl (nnF M x))) else 0
def ma1 (M : St) (j : Nat) : Bool := if nnF M (nI j) < 0 then false else decide (¬ M 4 j = 0) || decide (¬ mrR M (nI j) = M 3 j)
def maN (M : St) : Nat → Nat
  | 0 => 0
  | j + 1 => if ma1 M j = true then maN M j + 1 else maN M j
/-! small numbers -/
theorem ih_mul4 (k : Nat) : nI k * 4 = nI (4 * k) := by
  have h := pk_mul k 4
  rw [Nat.mul_comm k 4] at h
  exact h
theorem ih_and7 {b : Nat} (h : b < 2 ^ 31) : nI b &&& 7 = nI (b % 8) := pk_andN (Nat.lt_trans h (by decide)) 3 (by decide)
theorem ih_cl {n : Nat} (h : n < 2 ^ 31) : cl (nI n) = n := nI_clamp h
theorem ih_vp {x : Int32} {n : Nat} (h : vp_in x n) (hn : n < 2 ^ 31) : x = nI (cl x) ∧ cl x < n := by
  obtain ⟨j, hj, e⟩ := vp_in_of h hn
  rw [e, ih_cl (Nat.lt_trans hj hn)]
  exact ⟨rfl, hj⟩
section TOPS
variable {p : Program} {l : Launch} {e : Env} {R : Room} {s : State} {m : MethodId} {args : Array Value} {below : List Frame} {meth : Method} {c : Code} {H : Heap} {locs : List Loc} {cells slots : Nat} {Q : State → Prop}
variable {pc : Nat} {ls : Array Slot} {rest : List Value}
theorem il_top {x y : Int32} (h : x = y) (kk : W p l e R s m args below meth c H locs cells slots Q (F0 m pc ls (.int y :: rest))) : W p l e R s m args below meth c H locs cells slots Q (F0 m pc ls (.int x :: rest)) := by
  rw [h]; exact kk
end TOPS
end
section
set_option maxRecDepth 100000
/-! the methods that call no other, or checks of ints alone -/
def OkJ (S : St) : Prop := (∀ k, ∃ c, c ≤ 4 ∧ S 4 k = nI c) ∧ (∀ i, vp_in (S 6 i) 12) ∧ (∀ i, vp_in (S 11 i) 12)
theorem OkJ.of {S S' : St} (h : OkJ S) (h4 : S' 4 = S 4) (h6 : S' 6 = S 6) (h11 : S' 11 = S 11) : OkJ S' := by
  unfold OkJ
  rw [h4, h6, h11]
  exact h
theorem OkJ.c {S : St} (h : OkJ S) (k : Nat) : S 4 k = nI (cl (S 4 k)) ∧ cl (S 4 k) ≤ 4 := by
  obtain ⟨c, h1, h2⟩ := h.1 k
  rw [h2, ih_cl (by omega)]
  exact ⟨rfl, h1⟩
theorem sA_ne {S : St} {k i q : Nat} {x : Int32} (h : q ≠ k) : sA S k i x q = S q := va_up_ne S _ h
theorem sF_ne {S : St} {k q : Nat} {x : Int32} (h : q ≠ k) : sF S k x q = S q := va_up_ne S _ h
theorem apN_ne {S : St} {k q : Nat} (h0 : q ≠ 0) (h1 : q ≠ 1) : ∀ c, apN S k c q = S q
  | 0 => rfl
  | c + 1 => by
    show sA (sA (apN S k c) 0 _ _) 1 _ _ q = S q
    rw [sA_ne h1, sA_ne h0, apN_ne h0 h1 c]
theorem apS_ne {S : St} {k q : Nat} (h0 : q ≠ 0) (h1 : q ≠ 1) : apS S k q = S q := apN_ne h0 h1 _
theorem b2_nar (b : Bool) : narrow .boolean (.int (b2 b)) = .int (b2 b) := by cases b <;> rfl
theorem c_bad (l : Launch) (x : Int32) : Cts l yX0_bad cX0_bad 1 .boolean 0 [.int x] (b2 (badB x)) := by
  refine ctS_of (by decide) (b2_nar _) (Nat.le_of_ble_eq_true rfl) ?_
  intro p e s m args below meth c Q ls K hl hQ
  have hl : lv_has ls 1 [(0, .int x)] := hl
  refine lv_iload_n K.1 K.2.1 dX0_bad_0 rfl (lv_at hl 0 rfl) ?_
  refine lv_if_lt (tgt := 10) K.1 K.2.1 dX0_bad_1 (by decide) (fun h => ?_) (fun h => ?_)
  · refine lv_iconst (v := 1) K.1 K.2.1 dX0_bad_10 (by decide) ?_
    refine lv_goto (tgt := 15) K.1 K.2.1 dX0_bad_11 (by decide) ?_
    exact hQ _ _ _ (by simp [b2, badB, h]) dX0_bad_15
  · skip
    refine lv_iload_n K.1 K.2.1 dX0_bad_4 rfl (lv_at hl 0 rfl) ?_
    refine lv_bipush (v := 12) K.1 K.2.1 dX0_bad_5 (by decide) ?_
    refine lv_icmp_lt (tgt := 14) K.1 K.2.1 dX0_bad_7 (by decide) (fun h2 => ?_) (fun h2 => ?_)
    · refine lv_iconst (v := 0) K.1 K.2.1 dX0_bad_14 (by decide) ?_
      exact hQ _ _ _ (by simp [b2, badB, h, Int32.not_le.mpr h2]) dX0_bad_15
    · skip
      refine lv_iconst (v := 1) K.1 K.2.1 dX0_bad_10 (by decide) ?_
      refine lv_goto (tgt := 15) K.1 K.2.1 dX0_bad_11 (by decide) ?_
      exact hQ _ _ _ (by simp [b2, badB, Int32.not_lt.mp h2]) dX0_bad_15
theorem c_checkOf (l : Launch) (x v : Int32) : Cts l yX0_checkOf cX0_checkOf 2 .int 0 [.int x, .int v] (chk x v) := by
  refine ctS_of (by decide) rfl (Nat.le_of_ble_eq_true rfl) ?_
  intro p e s m args below meth c Q ls K hl hQ
  have hl : lv_has ls 2 [(0, .int x), (1, .int v)] := hl
  refine lv_iload_n K.1 K.2.1 dX0_checkOf_0 rfl (lv_at hl 1 rfl) ?_
  refine lv_ldc K.1 K.2.1 K.2.2.2.1 (K.2.2.2.2 _ q32) dX0_checkOf_1 ?_
  refine lv_ixor K.1 K.2.1 dX0_checkOf_3 ?_
  refine lv_ldc K.1 K.2.1 K.2.2.2.1 (K.2.2.2.2 _ q33) dX0_checkOf_4 ?_
  refine lv_imul K.1 K.2.1 dX0_checkOf_6 ?_
  refine lv_iload_n K.1 K.2.1 dX0_checkOf_7 rfl (lv_at hl 0 rfl) ?_
  refine lv_ldc K.1 K.2.1 K.2.2.2.1 (K.2.2.2.2 _ q34) dX0_checkOf_8 ?_
  refine lv_imul K.1 K.2.1 dX0_checkOf_10 ?_
  refine lv_iadd K.1 K.2.1 dX0_checkOf_11 ?_
  exact hQ _ _ _ rfl dX0_checkOf_12
theorem clN_le (n : Nat) (x : Int32) : clN n x ≤ n := by
  unfold clN
  split
  · exact Nat.zero_le _
  · exact Nat.min_le_left _ _
theorem clN_neg {n : Nat} {x : Int32} (h : ¬ 0 ≤ x) : (0 : Int32) = nI (clN n x) := by
  unfold clN
  rw [if_pos (Int32.not_le.mp h)]
  rfl
theorem clN_in {n : Nat} {x : Int32} (hn : n < 2 ^ 31) (h : 0 ≤ x) (h2 : x ≤ nI n) : x = nI (clN n x) := by
  have h0 : ¬ x < 0 := Int32.not_lt.mpr h
  obtain ⟨j, hj, rfl⟩ := nI_of h0
  unfold clN
  rw [if_neg h0, ih_cl hj, Nat.min_eq_right ((nI_leI hj hn).mp h2)]
theorem clN_out {n : Nat} {x : Int32} (hn : n < 2 ^ 31) (h : 0 ≤ x) (h2 : ¬ x ≤ nI n) : nI n = nI (clN n x) := by
  have h0 : ¬ x < 0 := Int32.not_lt.mpr h
  obtain ⟨j, hj, rfl⟩ := nI_of h0
  rw [nI_leI hj hn] at h2
  unfold clN
  rw [if_neg h0, ih_cl hj, Nat.min_eq_left (by omega)]
theorem c_clampWaiting (l : Launch) {S : St} {n : Nat} (hn : n < 2 ^ 31) (e10 : S 10 0 = nI n) (x : Int32) : Cti l wX yX0_clampWaiting cX0_clampWaiting 2 .int 0 [.int x] S S (nI (clN n x)) := by
  refine ctI_of (by decide) rfl (Nat.le_of_ble_eq_true rfl) ?_
  intro p e s m args below meth c D d z h0 ad A Q ls K I hl hQ
  have K : Kx p m c s args D d z A RX0 cX0_clampWaiting 2 := K
  have hl : lv_has ls 2 [(0, .ref h0), (1, .int x)] := hl
  refine lv_iload_n K.1.1 K.1.2.1 dX0_clampWaiting_0 rfl (lv_at hl 1 rfl) ?_
  refine lv_if_ge (tgt := 6) K.1.1 K.1.2.1 dX0_clampWaiting_1 (by decide) (fun h => ?_) (fun h => ?_)
  · refine lv_iload_n K.1.1 K.1.2.1 dX0_clampWaiting_6 rfl (lv_at hl 1 rfl) ?_
    refine lv_aload_n K.1.1 K.1.2.1 dX0_clampWaiting_7 rfl (lv_at hl 0 rfl) ?_
    refine gX_waiting K I dX0_clampWaiting_8 ?_
    refine il_top (y := nI n) (e10) ?_
    refine lv_icmp_le (tgt := 21) K.1.1 K.1.2.1 dX0_clampWaiting_11 (by decide) (fun h2 => ?_) (fun h2 => ?_)
    · refine lv_iload_n K.1.1 K.1.2.1 dX0_clampWaiting_21 rfl (lv_at hl 1 rfl) ?_
      exact hQ _ _ _ _ _ (clN_in hn h h2) I dX0_clampWaiting_22
    · skip
      refine lv_aload_n K.1.1 K.1.2.1 dX0_clampWaiting_14 rfl (lv_at hl 0 rfl) ?_
      refine gX_waiting K I dX0_clampWaiting_15 ?_
      refine il_top (y := nI n) (e10) ?_
      refine lv_goto (tgt := 22) K.1.1 K.1.2.1 dX0_clampWaiting_18 (by decide) ?_
      exact hQ _ _ _ _ _ (clN_out hn h h2) I dX0_clampWaiting_22
  · skip
    refine lv_iconst (v := 0) K.1.1 K.1.2.1 dX0_clampWaiting_4 (by decide) ?_
    exact hQ _ _ _ _ _ (clN_neg h) I dX0_clampWaiting_5
theorem c_pending (l : Launch) {S : St} : Cti l wX yX0_pending cX0_pending 1 .int 0 [] S S (S 10 0) := by
  refine ctI_of (by decide) rfl (Nat.le_of_ble_eq_true rfl) ?_
  intro p e s m args below meth c D d z h0 ad A Q ls K I hl hQ
  have K : Kx p m c s args D d z A RX0 cX0_pending 1 := K
  have hl : lv_has ls 1 [(0, .ref h0)] := hl
  refine lv_aload_n K.1.1 K.1.2.1 dX0_pending_0 rfl (lv_at hl 0 rfl) ?_
  refine gX_waiting K I dX0_pending_1 ?_
  exact hQ _ _ _ _ _ rfl I dX0_pending_4
theorem c_durable (l : Launch) {S : St} : Cti l wX yX0_durable cX0_durable 1 .int 0 [] S S (S 13 0) := by
  refine ctI_of (by decide) rfl (Nat.le_of_ble_eq_true rfl) ?_
  intro p e s m args below meth c D d z h0 ad A Q ls K I hl hQ
  have K : Kx p m c s args D d z A RX0 cX0_durable 1 := K
  have hl : lv_has ls 1 [(0, .ref h0)] := hl
  refine lv_aload_n K.1.1 K.1.2.1 dX0_durable_0 rfl (lv_at hl 0 rfl) ?_
  refine gX_made K I dX0_durable_1 ?_
  exact hQ _ _ _ _ _ rfl I dX0_durable_4
theorem c_sumOf (l : Launch) {S : St} {k : Nat} (hk : k < 8) (ho : OkJ S) : Cti l wX yX0_sumOf cX0_sumOf 4 .int 0 [.int (nI k)] S S (smS S k) := by
  refine ctI_of (by decide) rfl (Nat.le_of_ble_eq_true rfl) ?_
  intro p e s m args below meth c D d z h0 ad A Q ls K I hl hQ
  have K : Kx p m c s args D d z A RX0 cX0_sumOf 4 := K
  unfold smS at hQ
  obtain ⟨hc, h4⟩ := ho.c k
  generalize cl (S 4 k) = c4 at hc h4 hQ
  have hl : lv_has ls 4 [(0, .ref h0), (1, .int (nI k))] := hl
  refine lv_aload_n K.1.1 K.1.2.1 dX0_sumOf_0 rfl (lv_at hl 0 rfl) ?_
  refine gX_slotNumber K I dX0_sumOf_1 ?_
  refine lv_iload_n K.1.1 K.1.2.1 dX0_sumOf_4 rfl (lv_at hl 1 rfl) ?_
  refine lX_slotNumber (i := k) K I rfl (by omega) dX0_sumOf_5 ?_
  refine lv_bipush (v := 31) K.1.1 K.1.2.1 dX0_sumOf_6 (by decide) ?_
  refine lv_imul K.1.1 K.1.2.1 dX0_sumOf_8 ?_
  refine lv_aload_n K.1.1 K.1.2.1 dX0_sumOf_9 rfl (lv_at hl 0 rfl) ?_
  refine gX_slotCount K I dX0_sumOf_10 ?_
  refine lv_iload_n K.1.1 K.1.2.1 dX0_sumOf_13 rfl (lv_at hl 1 rfl) ?_
  refine lX_slotCount (i := k) K I rfl (by omega) dX0_sumOf_14 ?_
  refine lv_iadd K.1.1 K.1.2.1 dX0_sumOf_15 ?_
  refine il_top (y := smN S k 0) (rfl) ?_
  refine lv_istore_n (lv' := [(2, .int (smN S k 0)), (0, .ref h0), (1, .int (nI k))]) K.1.1 K.1.2.1 dX0_sumOf_16 rfl hl (by decide) rfl (fun ls hl => ?_)
  refine lv_iload_n K.1.1 K.1.2.1 dX0_sumOf_17 rfl (lv_at hl 2 rfl) ?_
  refine lv_iconst (v := 4) K.1.1 K.1.2.1 dX0_sumOf_18 (by decide) ?_
  refine lv_imul K.1.1 K.1.2.1 dX0_sumOf_19 ?_
  refine il_top (y := nI (4 * k + 0)) (ih_mul4 k) ?_
  refine lv_istore_n (lv' := [(3, .int (nI (4 * k + 0))), (2, .int (smN S k 0)), (0, .ref h0), (1, .int (nI k))]) K.1.1 K.1.2.1 dX0_sumOf_20 rfl hl (by decide) rfl (fun ls hl => ?_)
  have lp : ∀ (n j : Nat) (H : Heap) (locs : List Loc) (ls : Array Slot), j ≤ c4 → c4 < j + n → Iw D A s (wX d z h0 ad S) H locs → lv_has ls 4 [(3, .int (nI (4 * k + j))), (2, .int (smN S k j)), (0, .ref h0), (1, .int (nI k))] → W p l e (rk 0) s m args below meth c H locs 0 0 Q (F0 m 21 ls []) := by
    intro n
    induction n with
    | zero => intro j H locs ls h1 h2; exact absurd h2 (by omega)
    | succ n ih =>
      intro j H locs ls h1 h2 I hl
      refine lv_iload_n K.1.1 K.1.2.1 dX0_sumOf_21 rfl (lv_at hl 0 rfl) ?_
      refine lv_iload_n K.1.1 K.1.2.1 dX0_sumOf_22 rfl (lv_at hl 3 rfl) ?_
      refine lv_iconst (v := 4) K.1.1 K.1.2.1 dX0_sumOf_23 (by decide) ?_
      refine lv_imul K.1.1 K.1.2.1 dX0_sumOf_24 ?_
      refine il_top (y := nI (4 * k)) (ih_mul4 k) ?_
      refine lv_aload_n K.1.1 K.1.2.1 dX0_sumOf_25 rfl (lv_at hl 2 rfl) ?_
      refine gX_slotCount K I dX0_sumOf_26 ?_
      refine lv_iload_n K.1.1 K.1.2.1 dX0_sumOf_29 rfl (lv_at hl 3 rfl) ?_
      refine lX_slotCount (i := k) K I rfl (by omega) dX0_sumOf_30 ?_
      refine il_top (y := nI c4) (hc) ?_
      refine lv_iadd K.1.1 K.1.2.1 dX0_sumOf_31 ?_
      refine il_top (y := nI (4 * k + c4)) (nI_add _ _) ?_
      refine lv_icmp_ge (tgt := 77) K.1.1 K.1.2.1 dX0_sumOf_32 (by decide) (fun h => ?_) (fun h => ?_)
      · refine lv_iload_n K.1.1 K.1.2.1 dX0_sumOf_77 rfl (lv_at hl 1 rfl) ?_
        rw [nI_leI (by omega) (by omega)] at h
        have e : j = c4 := by omega
        subst e
        exact hQ _ _ _ _ _ rfl I dX0_sumOf_78
      · skip
        rw [nI_leI (by omega) (by omega)] at h
        refine lv_iload_n K.1.1 K.1.2.1 dX0_sumOf_35 rfl (lv_at hl 1 rfl) ?_
        refine lv_bipush (v := 31) K.1.1 K.1.2.1 dX0_sumOf_36 (by decide) ?_
        refine lv_imul K.1.1 K.1.2.1 dX0_sumOf_38 ?_
        refine lv_aload_n K.1.1 K.1.2.1 dX0_sumOf_39 rfl (lv_at hl 2 rfl) ?_
        refine gX_slotSector K I dX0_sumOf_40 ?_
        refine lv_iload_n K.1.1 K.1.2.1 dX0_sumOf_43 rfl (lv_at hl 0 rfl) ?_
        refine lX_slotSector (i := (4 * k + j)) K I rfl (by omega) dX0_sumOf_44 ?_
        refine lv_iadd K.1.1 K.1.2.1 dX0_sumOf_45 ?_
        refine il_top (y := (smN S k j * 31 + S 6 (4 * k + j))) (rfl) ?_
        refine lv_istore_n (lv' := [(2, .int ((smN S k j * 31 + S 6 (4 * k + j)))), (3, .int (nI (4 * k + j))), (0, .ref h0), (1, .int (nI k))]) K.1.1 K.1.2.1 dX0_sumOf_46 rfl hl (by decide) rfl (fun ls hl => ?_)
        refine lv_iload_n K.1.1 K.1.2.1 dX0_sumOf_47 rfl (lv_at hl 0 rfl) ?_
        refine lv_bipush (v := 31) K.1.1 K.1.2.1 dX0_sumOf_48 (by decide) ?_
        refine lv_imul K.1.1 K.1.2.1 dX0_sumOf_50 ?_
        refine lv_aload_n K.1.1 K.1.2.1 dX0_sumOf_51 rfl (lv_at hl 2 rfl) ?_
        refine gX_slotValue K I dX0_sumOf_52 ?_
        refine lv_iload_n K.1.1 K.1.2.1 dX0_sumOf_55 rfl (lv_at hl 1 rfl) ?_
        refine lX_slotValue (i := (4 * k + j)) K I rfl (by omega) dX0_sumOf_56 ?_
        refine lv_iadd K.1.1 K.1.2.1 dX0_sumOf_57 ?_
        refine il_top (y := ((smN S k j * 31 + S 6 (4 * k + j)) * 31 + S 7 (4 * k + j))) (rfl) ?_
        refine lv_istore_n (lv' := [(2, .int (((smN S k j * 31 + S 6 (4 * k + j)) * 31 + S 7 (4 * k + j)))), (3, .int (nI (4 * k + j))), (0, .ref h0), (1, .int (nI k))]) K.1.1 K.1.2.1 dX0_sumOf_58 rfl hl (by decide) rfl (fun ls hl => ?_)
        refine lv_iload_n K.1.1 K.1.2.1 dX0_sumOf_59 rfl (lv_at hl 0 rfl) ?_
        refine lv_bipush (v := 31) K.1.1 K.1.2.1 dX0_sumOf_60 (by decide) ?_
        refine lv_imul K.1.1 K.1.2.1 dX0_sumOf_62 ?_
        refine lv_aload_n K.1.1 K.1.2.1 dX0_sumOf_63 rfl (lv_at hl 2 rfl) ?_
        refine gX_slotCheck K I dX0_sumOf_64 ?_
        refine lv_iload_n K.1.1 K.1.2.1 dX0_sumOf_67 rfl (lv_at hl 1 rfl) ?_
        refine lX_slotCheck (i := (4 * k + j)) K I rfl (by omega) dX0_sumOf_68 ?_
        refine lv_iadd K.1.1 K.1.2.1 dX0_sumOf_69 ?_
        refine il_top (y := smN S k (j + 1)) (rfl) ?_
        refine lv_istore_n (lv' := [(2, .int (smN S k (j + 1))), (3, .int (nI (4 * k + j))), (0, .ref h0), (1, .int (nI k))]) K.1.1 K.1.2.1 dX0_sumOf_70 rfl hl (by decide) rfl (fun ls hl => ?_)
        refine lv_iinc (v := (nI (4 * k + (j + 1)))) (lv' := [(3, .int (nI (4 * k + (j + 1)))), (2, .int (smN S k (j + 1))), (0, .ref h0), (1, .int (nI k))]) K.1.1 K.1.2.1 dX0_sumOf_71 hl (k := 1) rfl (nI_1 _) (by decide) rfl (fun ls hl => ?_)
        refine lv_goto (tgt := 21) K.1.1 K.1.2.1 dX0_sumOf_74 (by decide) ?_
        exact ih (j + 1) H locs ls (by omega) (by omega) I hl
  exact lp (c4 + 1) 0 _ _ ls (by omega) (by omega) I hl
theorem c_applySlot (l : Launch) {S : St} {k : Nat} (hk : k < 8) (ho : OkJ S) : Ctv l wX yX0_applySlot cX0_applySlot 3 0 [.int (nI k)] S (apS S k) := by
  refine ctV_of (by decide) (Nat.le_of_ble_eq_true rfl) ?_
  intro p e s m args below meth c D d z h0 ad A Q ls K I hl hQ
  have K : Kx p m c s args D d z A RX0 cX0_applySlot 3 := K
  unfold apS at hQ
  obtain ⟨hc, h4⟩ := ho.c k
  generalize cl (S 4 k) = c4 at hc h4 hQ
  have hl : lv_has ls 3 [(0, .ref h0), (1, .int (nI k))] := hl
  refine lv_iload_n K.1.1 K.1.2.1 dX0_applySlot_0 rfl (lv_at hl 1 rfl) ?_
  refine lv_iconst (v := 4) K.1.1 K.1.2.1 dX0_applySlot_1 (by decide) ?_
  refine lv_imul K.1.1 K.1.2.1 dX0_applySlot_2 ?_
  refine il_top (y := nI (4 * k + 0)) (ih_mul4 k) ?_
  refine lv_istore_n (lv' := [(2, .int (nI (4 * k + 0))), (0, .ref h0), (1, .int (nI k))]) K.1.1 K.1.2.1 dX0_applySlot_3 rfl hl (by decide) rfl (fun ls hl => ?_)
  have lp : ∀ (n j : Nat) (H : Heap) (locs : List Loc) (ls : Array Slot), j ≤ c4 → c4 < j + n → Iw D A s (wX d z h0 ad (apN S k j)) H locs → lv_has ls 3 [(2, .int (nI (4 * k + j))), (0, .ref h0), (1, .int (nI k))] → W p l e (rk 0) s m args below meth c H locs 0 0 Q (F0 m 4 ls []) := by
    intro n
    induction n with
    | zero => intro j H locs ls h1 h2; exact absurd h2 (by omega)
    | succ n ih =>
      intro j H locs ls h1 h2 I hl
      have e4 : apN S k j 4 = S 4 := apN_ne (by decide) (by decide) j
      have e6 : apN S k j 6 = S 6 := apN_ne (by decide) (by decide) j
      obtain ⟨v1, v2⟩ := ih_vp (show vp_in (apN S k j 6 (4 * k + j)) 12 by rw [e6]; exact ho.2.1 _) (by decide)
      refine lv_iload_n K.1.1 K.1.2.1 dX0_applySlot_4 rfl (lv_at hl 0 rfl) ?_
      refine lv_iload_n K.1.1 K.1.2.1 dX0_applySlot_5 rfl (lv_at hl 2 rfl) ?_
      refine lv_iconst (v := 4) K.1.1 K.1.2.1 dX0_applySlot_6 (by decide) ?_
      refine lv_imul K.1.1 K.1.2.1 dX0_applySlot_7 ?_
      refine il_top (y := nI (4 * k)) (ih_mul4 k) ?_
      refine lv_aload_n K.1.1 K.1.2.1 dX0_applySlot_8 rfl (lv_at hl 1 rfl) ?_
      refine gX_slotCount K I dX0_applySlot_9 ?_
      refine lv_iload_n K.1.1 K.1.2.1 dX0_applySlot_12 rfl (lv_at hl 2 rfl) ?_
      refine lX_slotCount (i := k) K I rfl (by omega) dX0_applySlot_13 ?_
      refine il_top (y := nI c4) (by rw [e4]; exact hc) ?_
      refine lv_iadd K.1.1 K.1.2.1 dX0_applySlot_14 ?_
      refine il_top (y := nI (4 * k + c4)) (nI_add _ _) ?_
      refine lv_icmp_ge (tgt := 58) K.1.1 K.1.2.1 dX0_applySlot_15 (by decide) (fun h => ?_) (fun h => ?_)
      · rw [nI_leI (by omega) (by omega)] at h
        have e : j = c4 := by omega
        subst e
        exact hQ _ _ _ _ I dX0_applySlot_58
      · skip
        rw [nI_leI (by omega) (by omega)] at h
        refine lv_aload_n K.1.1 K.1.2.1 dX0_applySlot_18 rfl (lv_at hl 1 rfl) ?_
        refine gX_home K I dX0_applySlot_19 ?_
        refine lv_aload_n K.1.1 K.1.2.1 dX0_applySlot_22 rfl (lv_at hl 1 rfl) ?_
        refine gX_slotSector K I dX0_applySlot_23 ?_
        refine lv_iload_n K.1.1 K.1.2.1 dX0_applySlot_26 rfl (lv_at hl 0 rfl) ?_
        refine lX_slotSector (i := (4 * k + j)) K I rfl (by omega) dX0_applySlot_27 ?_
        refine il_top (y := nI (cl (apN S k j 6 (4 * k + j)))) (v1) ?_
        refine lv_aload_n K.1.1 K.1.2.1 dX0_applySlot_28 rfl (lv_at hl 1 rfl) ?_
        refine gX_slotValue K I dX0_applySlot_29 ?_
        refine lv_iload_n K.1.1 K.1.2.1 dX0_applySlot_32 rfl (lv_at hl 0 rfl) ?_
        refine lX_slotValue (i := (4 * k + j)) K I rfl (by omega) dX0_applySlot_33 ?_
        refine sX_home (i := (cl (apN S k j 6 (4 * k + j)))) K I rfl (v2) dX0_applySlot_34 (fun H locs I => ?_)
        refine lv_aload_n K.1.1 K.1.2.1 dX0_applySlot_35 rfl (lv_at hl 1 rfl) ?_
        refine gX_check K I dX0_applySlot_36 ?_
        refine lv_aload_n K.1.1 K.1.2.1 dX0_applySlot_39 rfl (lv_at hl 1 rfl) ?_
        refine gX_slotSector K I dX0_applySlot_40 ?_
        refine lv_iload_n K.1.1 K.1.2.1 dX0_applySlot_43 rfl (lv_at hl 0 rfl) ?_
        refine lX_slotSector (i := (4 * k + j)) K I rfl (by omega) dX0_applySlot_44 ?_
        refine il_top (y := nI (cl (apN S k j 6 (4 * k + j)))) (v1) ?_
        refine lv_aload_n K.1.1 K.1.2.1 dX0_applySlot_45 rfl (lv_at hl 1 rfl) ?_
        refine gX_slotCheck K I dX0_applySlot_46 ?_
        refine lv_iload_n K.1.1 K.1.2.1 dX0_applySlot_49 rfl (lv_at hl 0 rfl) ?_
        refine lX_slotCheck (i := (4 * k + j)) K I rfl (by omega) dX0_applySlot_50 ?_
        refine sX_check (i := (cl (apN S k j 6 (4 * k + j)))) K I rfl (v2) dX0_applySlot_51 (fun H locs I => ?_)
        refine lv_iinc (v := (nI (4 * k + (j + 1)))) (lv' := [(2, .int (nI (4 * k + (j + 1)))), (0, .ref h0), (1, .int (nI k))]) K.1.1 K.1.2.1 dX0_applySlot_52 hl (k := 0) rfl (nI_1 _) (by decide) rfl (fun ls hl => ?_)
        refine lv_goto (tgt := 4) K.1.1 K.1.2.1 dX0_applySlot_55 (by decide) ?_
        exact ih (j + 1) H locs ls (by omega) (by omega) I hl
  exact lp (c4 + 1) 0 _ _ ls (by omega) (by omega) I hl
end
section
set_option maxRecDepth 100000
/-! write, dropWaiting, isDamaged, newestWaiting, newestJournaled -/
theorem ih_m1 (x : Int32) : x + Int32.ofInt (-1) = x - 1 := by
  rw [Int32.sub_eq_add_neg]
  rfl
theorem c_write (l : Launch) {S : St} {n : Nat} (hn : n ≤ 20) (e10 : S 10 0 = nI n) (x v : Int32) : Cti l wX yX0_write cX0_write 3 .int 1 [.int x, .int v] S (wrF S x v) (wrR S x) := by
  refine ctI_of (by decide) rfl (Nat.le_of_ble_eq_true rfl) ?_
  intro p e s m args below meth c D d z h0 ad A Q ls K I hl hQ
  have K : Kx p m c s args D d z A RX0 cX0_write 3 := K
  have ew : wtN S = n := by unfold wtN; rw [e10]; exact ih_cl (by omega)
  unfold wrF wrR at hQ
  rw [ew] at hQ
  have hl : lv_has ls 3 [(0, .ref h0), (1, .int x), (2, .int v)] := hl
  refine lv_iload_n K.1.1 K.1.2.1 dX0_write_0 rfl (lv_at hl 1 rfl) ?_
  refine il_callS 1 K I hl.1 (c_bad l x) (lw_S q83 q84 q19 q85) (by decide +kernel) ⟨by decide, by decide⟩ rfl rfl (Nat.le_of_ble_eq_true rfl) ⟨Nat.le_refl _, Nat.le_refl _⟩ dX0_write_1 (fun H locs I => ?_)
  refine lv_if_eq (tgt := 9) K.1.1 K.1.2.1 dX0_write_4 (by decide) (fun h => ?_) (fun h => ?_)
  · have hb : badB x = false := by
      cases hb : badB x with
      | false => rfl
      | true => rw [hb] at h; exact absurd h (by decide)
    rw [hb] at hQ
    refine lv_aload_n K.1.1 K.1.2.1 dX0_write_9 rfl (lv_at hl 0 rfl) ?_
    refine gX_waiting K I dX0_write_10 ?_
    refine il_top (y := nI n) (e10) ?_
    refine lv_bipush (v := 20) K.1.1 K.1.2.1 dX0_write_13 (by decide) ?_
    refine lv_icmp_lt (tgt := 21) K.1.1 K.1.2.1 dX0_write_15 (by decide) (fun h2 => ?_) (fun h2 => ?_)
    · have h2 : n < 20 := (nI_ltI (b := 20) (by omega) (by decide)).mp h2
      refine lv_aload_n K.1.1 K.1.2.1 dX0_write_21 rfl (lv_at hl 0 rfl) ?_
      refine gX_waitSector K I dX0_write_22 ?_
      refine lv_aload_n K.1.1 K.1.2.1 dX0_write_25 rfl (lv_at hl 0 rfl) ?_
      refine gX_waiting K I dX0_write_26 ?_
      refine il_top (y := nI n) (e10) ?_
      refine lv_iload_n K.1.1 K.1.2.1 dX0_write_29 rfl (lv_at hl 1 rfl) ?_
      refine sX_waitSector (i := n) K I rfl (by omega) dX0_write_30 (fun H locs I => ?_)
      refine lv_aload_n K.1.1 K.1.2.1 dX0_write_31 rfl (lv_at hl 0 rfl) ?_
      refine gX_waitValue K I dX0_write_32 ?_
      refine lv_aload_n K.1.1 K.1.2.1 dX0_write_35 rfl (lv_at hl 0 rfl) ?_
      refine gX_waiting K I dX0_write_36 ?_
      refine il_top (y := nI n) (e10) ?_
      refine lv_iload_n K.1.1 K.1.2.1 dX0_write_39 rfl (lv_at hl 2 rfl) ?_
      refine sX_waitValue (i := n) K I rfl (by omega) dX0_write_40 (fun H locs I => ?_)
      refine lv_aload_n K.1.1 K.1.2.1 dX0_write_41 rfl (lv_at hl 0 rfl) ?_
      refine lv_dup K.1.1 K.1.2.1 dX0_write_42 rfl ?_
      refine gX_waiting K I dX0_write_43 ?_
      refine lv_iconst (v := 1) K.1.1 K.1.2.1 dX0_write_46 (by decide) ?_
      refine lv_iadd K.1.1 K.1.2.1 dX0_write_47 ?_
      refine il_top (y := nI (n + 1)) (by rw [show (sA (sA S 11 n x) 12 n v) 10 0 = nI n from e10]; exact nI_1 n) ?_
      refine pX_waiting K I dX0_write_48 (fun H locs I => ?_)
      refine lv_aload_n K.1.1 K.1.2.1 dX0_write_51 rfl (lv_at hl 0 rfl) ?_
      refine gX_waiting K I dX0_write_52 ?_
      simp only [if_neg (show ¬ (false = true) by decide), if_neg (show ¬ (20 ≤ n) by omega)] at hQ
      exact hQ _ _ _ _ _ rfl I dX0_write_55
    · skip
      have h2 : ¬ n < 20 := fun q => h2 ((nI_ltI (b := 20) (by omega) (by decide)).mpr q)
      refine lv_bipush (v := (-2)) K.1.1 K.1.2.1 dX0_write_18 (by decide) ?_
      simp only [if_neg (show ¬ (false = true) by decide), if_pos (show 20 ≤ n by omega)] at hQ
      exact hQ _ _ _ _ _ rfl I dX0_write_20
  · skip
    have hb : badB x = true := by
      cases hb : badB x with
      | true => rfl
      | false => rw [hb] at h; exact absurd rfl h
    rw [if_pos hb, if_pos hb] at hQ
    refine lv_iconst (v := (-1)) K.1.1 K.1.2.1 dX0_write_7 (by decide) ?_
    exact hQ _ _ _ _ _ rfl I dX0_write_8
theorem drN_ne {S : St} {k q : Nat} (h0 : q ≠ 11) (h1 : q ≠ 12) : ∀ c, drN S k c q = S q
  | 0 => rfl
  | c + 1 => by
    show sA (sA (drN S k c) 11 _ _) 12 _ _ q = S q
    rw [sA_ne h1, sA_ne h0, drN_ne h0 h1 c]
theorem c_dropWaiting (l : Launch) {S : St} {n k : Nat} (hn : n ≤ 20) (e10 : S 10 0 = nI n) (hk : k ≤ n) : Ctv l wX yX0_dropWaiting cX0_dropWaiting 3 0 [.int (nI k)] S (drF S k) := by
  refine ctV_of (by decide) (Nat.le_of_ble_eq_true rfl) ?_
  intro p e s m args below meth c D d z h0 ad A Q ls K I hl hQ
  have K : Kx p m c s args D d z A RX0 cX0_dropWaiting 3 := K
  have ew : wtN S = n := by unfold wtN; rw [e10]; exact ih_cl (by omega)
  unfold drF at hQ
  rw [ew] at hQ
  have hl : lv_has ls 3 [(0, .ref h0), (1, .int (nI k))] := hl
  refine lv_aload_n K.1.1 K.1.2.1 dX0_dropWaiting_0 rfl (lv_at hl 0 rfl) ?_
  refine lv_dup K.1.1 K.1.2.1 dX0_dropWaiting_1 rfl ?_
  refine gX_waiting K I dX0_dropWaiting_2 ?_
  refine il_top (y := nI n) (e10) ?_
  refine lv_iload_n K.1.1 K.1.2.1 dX0_dropWaiting_5 rfl (lv_at hl 1 rfl) ?_
  refine lv_isub K.1.1 K.1.2.1 dX0_dropWaiting_6 ?_
  refine il_top (y := nI (n - k)) (pk_sub hk) ?_
  refine pX_waiting K I dX0_dropWaiting_7 (fun H locs I => ?_)
  refine lv_iconst (v := 0) K.1.1 K.1.2.1 dX0_dropWaiting_10 (by decide) ?_
  refine lv_istore_n (lv' := [(2, .int 0), (0, .ref h0), (1, .int (nI k))]) K.1.1 K.1.2.1 dX0_dropWaiting_11 rfl hl (by decide) rfl (fun ls hl => ?_)
  have lp : ∀ (f j : Nat) (H : Heap) (locs : List Loc) (ls : Array Slot), j ≤ n - k → n - k < j + f → Iw D A s (wX d z h0 ad (drN (sF S 10 (nI (n - k))) k j)) H locs → lv_has ls 3 [(2, .int (nI j)), (0, .ref h0), (1, .int (nI k))] → W p l e (rk 0) s m args below meth c H locs 0 0 Q (F0 m 12 ls []) := by
    intro f
    induction f with
    | zero => intro j H locs ls h1 h2; exact absurd h2 (by omega)
    | succ f ih =>
      intro j H locs ls h1 h2 I hl
      have e1 : drN (sF S 10 (nI (n - k))) k j 10 = (sF S 10 (nI (n - k))) 10 := drN_ne (by decide) (by decide) j
      refine lv_iload_n K.1.1 K.1.2.1 dX0_dropWaiting_12 rfl (lv_at hl 0 rfl) ?_
      refine lv_aload_n K.1.1 K.1.2.1 dX0_dropWaiting_13 rfl (lv_at hl 1 rfl) ?_
      refine gX_waiting K I dX0_dropWaiting_14 ?_
      refine il_top (y := nI (n - k)) (by rw [e1]; rfl) ?_
      refine lv_icmp_ge (tgt := 54) K.1.1 K.1.2.1 dX0_dropWaiting_17 (by decide) (fun h => ?_) (fun h => ?_)
      · rw [nI_leI (by omega) (by omega)] at h
        have e : j = n - k := by omega
        subst e
        exact hQ _ _ _ _ I dX0_dropWaiting_54
      · skip
        rw [nI_leI (by omega) (by omega)] at h
        refine lv_aload_n K.1.1 K.1.2.1 dX0_dropWaiting_20 rfl (lv_at hl 1 rfl) ?_
        refine gX_waitSector K I dX0_dropWaiting_21 ?_
        refine lv_iload_n K.1.1 K.1.2.1 dX0_dropWaiting_24 rfl (lv_at hl 0 rfl) ?_
        refine lv_aload_n K.1.1 K.1.2.1 dX0_dropWaiting_25 rfl (lv_at hl 1 rfl) ?_
        refine gX_waitSector K I dX0_dropWaiting_26 ?_
        refine lv_iload_n K.1.1 K.1.2.1 dX0_dropWaiting_29 rfl (lv_at hl 0 rfl) ?_
        refine lv_iload_n K.1.1 K.1.2.1 dX0_dropWaiting_30 rfl (lv_at hl 2 rfl) ?_
        refine lv_iadd K.1.1 K.1.2.1 dX0_dropWaiting_31 ?_
        refine il_top (y := nI (j + k)) (nI_add _ _) ?_
        refine lX_waitSector (i := (j + k)) K I rfl (by omega) dX0_dropWaiting_32 ?_
        refine sX_waitSector (i := j) K I rfl (by omega) dX0_dropWaiting_33 (fun H locs I => ?_)
        refine lv_aload_n K.1.1 K.1.2.1 dX0_dropWaiting_34 rfl (lv_at hl 1 rfl) ?_
        refine gX_waitValue K I dX0_dropWaiting_35 ?_
        refine lv_iload_n K.1.1 K.1.2.1 dX0_dropWaiting_38 rfl (lv_at hl 0 rfl) ?_
        refine lv_aload_n K.1.1 K.1.2.1 dX0_dropWaiting_39 rfl (lv_at hl 1 rfl) ?_
        refine gX_waitValue K I dX0_dropWaiting_40 ?_
        refine lv_iload_n K.1.1 K.1.2.1 dX0_dropWaiting_43 rfl (lv_at hl 0 rfl) ?_
        refine lv_iload_n K.1.1 K.1.2.1 dX0_dropWaiting_44 rfl (lv_at hl 2 rfl) ?_
        refine lv_iadd K.1.1 K.1.2.1 dX0_dropWaiting_45 ?_
        refine il_top (y := nI (j + k)) (nI_add _ _) ?_
        refine lX_waitValue (i := (j + k)) K I rfl (by omega) dX0_dropWaiting_46 ?_
        refine sX_waitValue (i := j) K I rfl (by omega) dX0_dropWaiting_47 (fun H locs I => ?_)
        refine lv_iinc (v := (nI (j + 1))) (lv' := [(2, .int (nI (j + 1))), (0, .ref h0), (1, .int (nI k))]) K.1.1 K.1.2.1 dX0_dropWaiting_48 hl (k := 0) rfl (nI_1 _) (by decide) rfl (fun ls hl => ?_)
        refine lv_goto (tgt := 12) K.1.1 K.1.2.1 dX0_dropWaiting_51 (by decide) ?_
        exact ih (j + 1) H locs ls (by omega) (by omega) I hl
  exact lp (n - k + 1) 0 _ _ ls (by omega) (by omega) I hl
theorem c_isDamaged (l : Launch) {S : St} {j : Nat} (hj : j < 12) : Cti l wX yX0_isDamaged cX0_isDamaged 3 .boolean 1 [.int (nI j)] S S (b2 (dmB S j)) := by
  refine ctI_of (by decide) (b2_nar _) (Nat.le_of_ble_eq_true rfl) ?_
  intro p e s m args below meth c D d z h0 ad A Q ls K I hl hQ
  have K : Kx p m c s args D d z A RX0 cX0_isDamaged 3 := K
  have hl : lv_has ls 3 [(0, .ref h0), (1, .int (nI j))] := hl
  refine lv_iload_n K.1.1 K.1.2.1 dX0_isDamaged_0 rfl (lv_at hl 1 rfl) ?_
  refine lv_aload_n K.1.1 K.1.2.1 dX0_isDamaged_1 rfl (lv_at hl 0 rfl) ?_
  refine gX_home K I dX0_isDamaged_2 ?_
  refine lv_iload_n K.1.1 K.1.2.1 dX0_isDamaged_5 rfl (lv_at hl 1 rfl) ?_
  refine lX_home (i := j) K I rfl (by omega) dX0_isDamaged_6 ?_
  refine il_callS 2 K I hl.1 (c_checkOf l (nI j) (S 0 j)) (lw_S q29 q30 q19 q31) (by decide +kernel) ⟨by decide, by decide⟩ rfl rfl (Nat.le_of_ble_eq_true rfl) ⟨Nat.le_refl _, Nat.le_refl _⟩ dX0_isDamaged_7 (fun H locs I => ?_)
  refine lv_istore_n (lv' := [(2, .int (chk (nI j) (S 0 j))), (0, .ref h0), (1, .int (nI j))]) K.1.1 K.1.2.1 dX0_isDamaged_10 rfl hl (by decide) rfl (fun ls hl => ?_)
  refine lv_aload_n K.1.1 K.1.2.1 dX0_isDamaged_11 rfl (lv_at hl 1 rfl) ?_
  refine gX_check K I dX0_isDamaged_12 ?_
  refine lv_iload_n K.1.1 K.1.2.1 dX0_isDamaged_15 rfl (lv_at hl 2 rfl) ?_
  refine lX_check (i := j) K I rfl (by omega) dX0_isDamaged_16 ?_
  refine lv_iload_n K.1.1 K.1.2.1 dX0_isDamaged_17 rfl (lv_at hl 0 rfl) ?_
  refine lv_icmp_eq (tgt := 25) K.1.1 K.1.2.1 dX0_isDamaged_18 (by decide) (fun h => ?_) (fun h => ?_)
  · refine lv_iconst (v := 0) K.1.1 K.1.2.1 dX0_isDamaged_25 (by decide) ?_
    exact hQ _ _ _ _ _ (by simp [b2, dmB, h]) I dX0_isDamaged_26
  · skip
    refine lv_iconst (v := 1) K.1.1 K.1.2.1 dX0_isDamaged_21 (by decide) ?_
    refine lv_goto (tgt := 26) K.1.1 K.1.2.1 dX0_isDamaged_22 (by decide) ?_
    exact hQ _ _ _ _ _ (by simp [b2, dmB, h]) I dX0_isDamaged_26
theorem c_newestWaiting (l : Launch) {S : St} {n : Nat} (hn : n ≤ 20) (e10 : S 10 0 = nI n) (x : Int32) : Cti l wX yX0_newestWaiting cX0_newestWaiting 3 .int 0 [.int x] S S (nwF S x) := by
  refine ctI_of (by decide) rfl (Nat.le_of_ble_eq_true rfl) ?_
  intro p e s m args below meth c D d z h0 ad A Q ls K I hl hQ
  have K : Kx p m c s args D d z A RX0 cX0_newestWaiting 3 := K
  have ew : wtN S = n := by unfold wtN; rw [e10]; exact ih_cl (by omega)
  unfold nwF at hQ
  rw [ew] at hQ
  have hl : lv_has ls 3 [(0, .ref h0), (1, .int x)] := hl
  refine lv_aload_n K.1.1 K.1.2.1 dX0_newestWaiting_0 rfl (lv_at hl 0 rfl) ?_
  refine gX_waiting K I dX0_newestWaiting_1 ?_
  refine il_top (y := nI n) (e10) ?_
  refine lv_iconst (v := 1) K.1.1 K.1.2.1 dX0_newestWaiting_4 (by decide) ?_
  refine lv_isub K.1.1 K.1.2.1 dX0_newestWaiting_5 ?_
  refine il_top (y := (nI n - 1)) (rfl) ?_
  refine lv_istore_n (lv' := [(2, .int ((nI n - 1))), (0, .ref h0), (1, .int x)]) K.1.1 K.1.2.1 dX0_newestWaiting_6 rfl hl (by decide) rfl (fun ls hl => ?_)
  have lp : ∀ (j : Nat) (H : Heap) (locs : List Loc) (ls : Array Slot), j ≤ 20 → nwN S x n = nwN S x j → Iw D A s (wX d z h0 ad S) H locs → lv_has ls 3 [(2, .int (nI j - 1)), (0, .ref h0), (1, .int x)] → W p l e (rk 0) s m args below meth c H locs 0 0 Q (F0 m 7 ls []) := by
    intro j
    induction j with
    | zero =>
      intro H locs ls h1 h2 I hl
      refine lv_iload_n K.1.1 K.1.2.1 dX0_newestWaiting_7 rfl (lv_at hl 0 rfl) ?_
      refine lv_if_lt (tgt := 27) K.1.1 K.1.2.1 dX0_newestWaiting_8 (by decide) (fun h => ?_) (fun h => ?_)
      · refine lv_iload_n K.1.1 K.1.2.1 dX0_newestWaiting_27 rfl (lv_at hl 0 rfl) ?_
        exact hQ _ _ _ _ _ (by rw [h2]; rfl) I dX0_newestWaiting_28
      · skip
        exact absurd (show nI 0 - 1 < 0 by decide) h
    | succ j ih =>
      intro H locs ls h1 h2 I hl
      rw [nI_pred] at hl
      refine lv_iload_n K.1.1 K.1.2.1 dX0_newestWaiting_7 rfl (lv_at hl 0 rfl) ?_
      refine lv_if_lt (tgt := 27) K.1.1 K.1.2.1 dX0_newestWaiting_8 (by decide) (fun h => ?_) (fun h => ?_)
      · refine lv_iload_n K.1.1 K.1.2.1 dX0_newestWaiting_27 rfl (lv_at hl 0 rfl) ?_
        exact absurd h (nI_pos (by omega))
      · skip
        refine lv_aload_n K.1.1 K.1.2.1 dX0_newestWaiting_11 rfl (lv_at hl 1 rfl) ?_
        refine gX_waitSector K I dX0_newestWaiting_12 ?_
        refine lv_iload_n K.1.1 K.1.2.1 dX0_newestWaiting_15 rfl (lv_at hl 0 rfl) ?_
        refine lX_waitSector (i := j) K I rfl (by omega) dX0_newestWaiting_16 ?_
        refine lv_iload_n K.1.1 K.1.2.1 dX0_newestWaiting_17 rfl (lv_at hl 2 rfl) ?_
        refine lv_icmp_eq (tgt := 27) K.1.1 K.1.2.1 dX0_newestWaiting_18 (by decide) (fun h3 => ?_) (fun h3 => ?_)
        · refine lv_iload_n K.1.1 K.1.2.1 dX0_newestWaiting_27 rfl (lv_at hl 0 rfl) ?_
          exact hQ _ _ _ _ _ (by rw [h2]; show nI j = if S 11 j = x then nI j else _; rw [if_pos h3]) I dX0_newestWaiting_28
        · skip
          refine lv_iinc (v := (nI j - 1)) (lv' := [(2, .int (nI j - 1)), (0, .ref h0), (1, .int x)]) K.1.1 K.1.2.1 dX0_newestWaiting_21 hl (k := 0) rfl (ih_m1 _) (by decide) rfl (fun ls hl => ?_)
          refine lv_goto (tgt := 7) K.1.1 K.1.2.1 dX0_newestWaiting_24 (by decide) ?_
          exact ih H locs ls (by omega) (by rw [h2]; show (if S 11 j = x then nI j else nwN S x j) = _; rw [if_neg h3]) I hl
  exact lp n _ _ ls hn rfl I hl
theorem c_newestJournaled (l : Launch) {S : St} {a b : Nat} (ho : OkJ S) (ea : S 2 0 = nI a) (eb : S 9 0 = nI b) (hab : a ≤ b) (hb : b < 2 ^ 20) (x : Int32) : Cti l wX yX0_newestJournaled cX0_newestJournaled 6 .int 0 [.int x] S S (njF S x) := by
  refine ctI_of (by decide) rfl (Nat.le_of_ble_eq_true rfl) ?_
  intro p e s m args below meth c D d z h0 ad A Q ls K I hl hQ
  have K : Kx p m c s args D d z A RX0 cX0_newestJournaled 6 := K
  have e1 : hfN S = a := by unfold hfN; rw [ea]; exact ih_cl (by omega)
  have e2 : nxN S = b := by unfold nxN; rw [eb]; exact ih_cl (by omega)
  unfold njF at hQ
  rw [e1, e2] at hQ
  have hl : lv_has ls 6 [(0, .ref h0), (1, .int x)] := hl
  refine lv_iconst (v := (-1)) K.1.1 K.1.2.1 dX0_newestJournaled_0 (by decide) ?_
  refine il_top (y := njN S x a 0) (rfl) ?_
  refine lv_istore_n (lv' := [(2, .int (njN S x a 0)), (0, .ref h0), (1, .int x)]) K.1.1 K.1.2.1 dX0_newestJournaled_1 rfl hl (by decide) rfl (fun ls hl => ?_)
  refine lv_aload_n K.1.1 K.1.2.1 dX0_newestJournaled_2 rfl (lv_at hl 1 rfl) ?_
  refine gX_homeFrom K I dX0_newestJournaled_3 ?_
  refine il_top (y := nI (a + 0)) (ea) ?_
  refine lv_istore_n (lv' := [(3, .int (nI (a + 0))), (2, .int (njN S x a 0)), (0, .ref h0), (1, .int x)]) K.1.1 K.1.2.1 dX0_newestJournaled_6 rfl hl (by decide) rfl (fun ls hl => ?_)
  have inner : ∀ (k : Nat) (hk : k < 8) (g : Int32) (y : Nat) (kk : ∀ (H : Heap) (locs : List Loc) (ls : Array Slot), Iw D A s (wX d z h0 ad S) H locs → lv_has ls 6 [(2, .int (njI S x k g (cl (S 4 k)))), (3, .int (nI y)), (0, .ref h0), (1, .int x)] → W p l e (rk 0) s m args below meth c H locs 0 0 Q (F0 m 64 ls [])) (f j : Nat) (H : Heap) (locs : List Loc) (ls : Array Slot), j ≤ cl (S 4 k) → cl (S 4 k) < j + f → Iw D A s (wX d z h0 ad S) H locs → lv_has ls 6 [(5, .int (nI (4 * k + j))), (4, .int (nI k)), (2, .int (njI S x k g j)), (3, .int (nI y)), (0, .ref h0), (1, .int x)] → W p l e (rk 0) s m args below meth c H locs 0 0 Q (F0 m 27 ls []) := by
    intro k hk g y kk
    obtain ⟨hc, h4⟩ := ho.c k
    generalize cl (S 4 k) = c4 at hc h4 kk
    intro f
    induction f with
    | zero => intro j H locs ls h1 h2; exact absurd h2 (by omega)
    | succ f ih =>
      intro j H locs ls h1 h2 I hl
      refine lv_iload K.1.1 K.1.2.1 dX0_newestJournaled_27 (lv_at hl 0 rfl) ?_
      refine lv_iload K.1.1 K.1.2.1 dX0_newestJournaled_29 (lv_at hl 1 rfl) ?_
      refine lv_iconst (v := 4) K.1.1 K.1.2.1 dX0_newestJournaled_31 (by decide) ?_
      refine lv_imul K.1.1 K.1.2.1 dX0_newestJournaled_32 ?_
      refine il_top (y := nI (4 * k)) (ih_mul4 k) ?_
      refine lv_aload_n K.1.1 K.1.2.1 dX0_newestJournaled_33 rfl (lv_at hl 4 rfl) ?_
      refine gX_slotCount K I dX0_newestJournaled_34 ?_
      refine lv_iload K.1.1 K.1.2.1 dX0_newestJournaled_37 (lv_at hl 1 rfl) ?_
      refine lX_slotCount (i := k) K I rfl (by omega) dX0_newestJournaled_39 ?_
      refine il_top (y := nI c4) (hc) ?_
      refine lv_iadd K.1.1 K.1.2.1 dX0_newestJournaled_40 ?_
      refine il_top (y := nI (4 * k + c4)) (nI_add _ _) ?_
      refine lv_icmp_ge (tgt := 64) K.1.1 K.1.2.1 dX0_newestJournaled_41 (by decide) (fun h => ?_) (fun h => ?_)
      · rw [nI_leI (by omega) (by omega)] at h
        have e : j = c4 := by omega
        subst e
        exact kk H locs ls I (lv_sub hl [2, 3, 4, 5] rfl)
      · skip
        rw [nI_leI (by omega) (by omega)] at h
        refine lv_aload_n K.1.1 K.1.2.1 dX0_newestJournaled_44 rfl (lv_at hl 4 rfl) ?_
        refine gX_slotSector K I dX0_newestJournaled_45 ?_
        refine lv_iload K.1.1 K.1.2.1 dX0_newestJournaled_48 (lv_at hl 0 rfl) ?_
        refine lX_slotSector (i := (4 * k + j)) K I rfl (by omega) dX0_newestJournaled_50 ?_
        refine lv_iload_n K.1.1 K.1.2.1 dX0_newestJournaled_51 rfl (lv_at hl 5 rfl) ?_
        refine lv_icmp_ne (tgt := 58) K.1.1 K.1.2.1 dX0_newestJournaled_52 (by decide) (fun h3 => ?_) (fun h3 => ?_)
        · have hl : lv_has ls 6 [(5, .int (nI (4 * k + j))), (4, .int (nI k)), (2, .int (njI S x k g (j + 1))), (3, .int (nI y)), (0, .ref h0), (1, .int x)] := by
            rw [show njI S x k g (j + 1) = njI S x k g j by show (if S 6 (4 * k + j) = x then nI (4 * k + j) else njI S x k g j) = _; rw [if_neg h3]]
            exact hl
          refine lv_iinc (v := (nI (4 * k + (j + 1)))) (lv' := [(5, .int (nI (4 * k + (j + 1)))), (4, .int (nI k)), (2, .int (njI S x k g (j + 1))), (3, .int (nI y)), (0, .ref h0), (1, .int x)]) K.1.1 K.1.2.1 dX0_newestJournaled_58 hl (k := 0) rfl (nI_1 _) (by decide) rfl (fun ls hl => ?_)
          refine lv_goto (tgt := 27) K.1.1 K.1.2.1 dX0_newestJournaled_61 (by decide) ?_
          exact ih (j + 1) H locs ls (by omega) (by omega) I hl
        · skip
          refine lv_iload K.1.1 K.1.2.1 dX0_newestJournaled_55 (lv_at hl 0 rfl) ?_
          refine il_top (y := njI S x k g (j + 1)) (by show _ = if S 6 (4 * k + j) = x then nI (4 * k + j) else njI S x k g j; rw [if_pos h3]) ?_
          refine lv_istore_n (lv' := [(2, .int (njI S x k g (j + 1))), (5, .int (nI (4 * k + j))), (4, .int (nI k)), (3, .int (nI y)), (0, .ref h0), (1, .int x)]) K.1.1 K.1.2.1 dX0_newestJournaled_57 rfl hl (by decide) rfl (fun ls hl => ?_)
          refine lv_iinc (v := (nI (4 * k + (j + 1)))) (lv' := [(5, .int (nI (4 * k + (j + 1)))), (2, .int (njI S x k g (j + 1))), (4, .int (nI k)), (3, .int (nI y)), (0, .ref h0), (1, .int x)]) K.1.1 K.1.2.1 dX0_newestJournaled_58 hl (k := 1) rfl (nI_1 _) (by decide) rfl (fun ls hl => ?_)
          refine lv_goto (tgt := 27) K.1.1 K.1.2.1 dX0_newestJournaled_61 (by decide) ?_
          exact ih (j + 1) H locs ls (by omega) (by omega) I (lv_sub hl [0, 2, 1, 3, 4, 5] rfl)
  have lp : ∀ (f j : Nat) (H : Heap) (locs : List Loc) (ls : Array Slot), a + j ≤ b → b < a + j + f → Iw D A s (wX d z h0 ad S) H locs → lv_has ls 6 [(3, .int (nI (a + j))), (2, .int (njN S x a j)), (0, .ref h0), (1, .int x)] → W p l e (rk 0) s m args below meth c H locs 0 0 Q (F0 m 7 ls []) := by
    intro f
    induction f with
    | zero => intro j H locs ls h1 h2; exact absurd h2 (by omega)
    | succ f ih =>
      intro j H locs ls h1 h2 I hl
      refine lv_iload_n K.1.1 K.1.2.1 dX0_newestJournaled_7 rfl (lv_at hl 0 rfl) ?_
      refine lv_aload_n K.1.1 K.1.2.1 dX0_newestJournaled_8 rfl (lv_at hl 2 rfl) ?_
      refine gX_nextSection K I dX0_newestJournaled_9 ?_
      refine il_top (y := nI b) (eb) ?_
      refine lv_icmp_ge (tgt := 70) K.1.1 K.1.2.1 dX0_newestJournaled_12 (by decide) (fun h => ?_) (fun h => ?_)
      · rw [nI_leI (by omega) (by omega)] at h
        have e : j = b - a := by omega
        subst e
        refine lv_iload_n K.1.1 K.1.2.1 dX0_newestJournaled_70 rfl (lv_at hl 1 rfl) ?_
        exact hQ _ _ _ _ _ rfl I dX0_newestJournaled_71
      · skip
        rw [nI_leI (by omega) (by omega)] at h
        refine lv_iload_n K.1.1 K.1.2.1 dX0_newestJournaled_15 rfl (lv_at hl 0 rfl) ?_
        refine lv_bipush (v := 7) K.1.1 K.1.2.1 dX0_newestJournaled_16 (by decide) ?_
        refine lv_iand K.1.1 K.1.2.1 dX0_newestJournaled_18 ?_
        refine il_top (y := nI ((a + j) % 8)) (ih_and7 (by omega)) ?_
        refine lv_istore (lv' := [(4, .int (nI ((a + j) % 8))), (3, .int (nI (a + j))), (2, .int (njN S x a j)), (0, .ref h0), (1, .int x)]) K.1.1 K.1.2.1 dX0_newestJournaled_19 hl (by decide) rfl (fun ls hl => ?_)
        refine lv_iload K.1.1 K.1.2.1 dX0_newestJournaled_21 (lv_at hl 0 rfl) ?_
        refine lv_iconst (v := 4) K.1.1 K.1.2.1 dX0_newestJournaled_23 (by decide) ?_
        refine lv_imul K.1.1 K.1.2.1 dX0_newestJournaled_24 ?_
        refine il_top (y := nI (4 * ((a + j) % 8) + 0)) (ih_mul4 _) ?_
        refine lv_istore (lv' := [(5, .int (nI (4 * ((a + j) % 8) + 0))), (4, .int (nI ((a + j) % 8))), (3, .int (nI (a + j))), (2, .int (njN S x a j)), (0, .ref h0), (1, .int x)]) K.1.1 K.1.2.1 dX0_newestJournaled_25 hl (by decide) rfl (fun ls hl => ?_)
        refine inner ((a + j) % 8) (Nat.mod_lt _ (by decide)) (njN S x a j) (a + j) ?_ (cl (S 4 ((a + j) % 8)) + 1) 0 H locs ls (Nat.zero_le _) (by omega) I (lv_sub hl [0, 1, 3, 2, 4, 5] rfl)
        intro H locs ls I hl
        have hl : lv_has ls 6 [(2, .int (njN S x a (j + 1))), (3, .int (nI (a + j))), (0, .ref h0), (1, .int x)] := hl
        refine lv_iinc (v := (nI (a + (j + 1)))) (lv' := [(3, .int (nI (a + (j + 1)))), (2, .int (njN S x a (j + 1))), (0, .ref h0), (1, .int x)]) K.1.1 K.1.2.1 dX0_newestJournaled_64 hl (k := 1) rfl (nI_1 _) (by decide) rfl (fun ls hl => ?_)
        refine lv_goto (tgt := 7) K.1.1 K.1.2.1 dX0_newestJournaled_67 (by decide) ?_
        exact ih (j + 1) H locs ls (by omega) (by omega) I hl
  exact lp (b - a + 1) 0 _ _ ls (by omega) (by omega) I hl
end
section
set_option maxRecDepth 100000
/-! copyHome, fillSlot, commit, whole, tear, replay -/
theorem chN_ne {S : St} {a q : Nat} (h0 : q ≠ 0) (h1 : q ≠ 1) : ∀ j, chN S a j q = S q
  | 0 => rfl
  | j + 1 => by
    show apS (chN S a j) _ q = S q
    rw [apS_ne h0 h1, chN_ne h0 h1 j]
theorem chF_ne {S : St} {q : Nat} (h0 : q ≠ 0) (h1 : q ≠ 1) (h2 : q ≠ 2) : chF S q = S q := by
  unfold chF chT
  rw [sF_ne h2, chN_ne h0 h1]
theorem chF_2 (S : St) : chF S 2 0 = S 9 0 := by
  show chT S 9 0 = S 9 0
  unfold chT
  rw [chN_ne (by decide) (by decide)]
theorem flH_ne {S : St} {q : Nat} (h0 : q ≠ 0) (h1 : q ≠ 1) (h2 : q ≠ 2) : flH S q = S q := by
  unfold flH
  split
  · rfl
  · exact chF_ne h0 h1 h2
theorem flN_ne {S : St} {k f q : Nat} (h0 : q ≠ 6) (h1 : q ≠ 7) (h2 : q ≠ 8) : ∀ i, flN S k f i q = S q
  | 0 => rfl
  | i + 1 => by
    show sA (sA (sA (flN S k f i) 6 _ _) 7 _ _) 8 _ _ q = S q
    rw [sA_ne h2, sA_ne h1, sA_ne h0, flN_ne h0 h1 h2 i]
theorem flP_ne {S : St} {n q : Nat} (h0 : q ≠ 3) (h1 : q ≠ 4) : flP S n q = flH S q := by
  unfold flP
  rw [sA_ne h1, sA_ne h0]
theorem flS_9 (S : St) (f n : Nat) : flS S f n 9 = S 9 := by
  unfold flS
  rw [flN_ne (by decide) (by decide) (by decide), flP_ne (by decide) (by decide), flH_ne (by decide) (by decide) (by decide)]
theorem flS_2 (S : St) (f n : Nat) : flS S f n 2 = flH S 2 := by
  unfold flS
  rw [flN_ne (by decide) (by decide) (by decide), flP_ne (by decide) (by decide)]
theorem OkJ.sA4 {S : St} (h : OkJ S) {k n : Nat} (hn : n ≤ 4) : OkJ (sA S 4 k (nI n)) := by
  refine ⟨fun q => ?_, ?_, ?_⟩
  · show ∃ c, c ≤ 4 ∧ upd (S 4) k (nI n) q = nI c
    by_cases e : q = k
    · exact ⟨n, hn, by rw [e]; exact pk_us⟩
    · obtain ⟨c, h1, h2⟩ := h.1 q
      exact ⟨c, h1, by rw [pk_un e]; exact h2⟩
  · rw [sA_ne (by decide)]; exact h.2.1
  · rw [sA_ne (by decide)]; exact h.2.2
theorem OkJ.sA6 {S : St} (h : OkJ S) {k : Nat} {x : Int32} (hx : vp_in x 12) : OkJ (sA S 6 k x) := by
  refine ⟨?_, fun q => ?_, ?_⟩
  · rw [sA_ne (by decide)]; exact h.1
  · show vp_in (upd (S 6) k x q) 12
    by_cases e : q = k
    · rw [e, pk_us]; exact hx
    · rw [pk_un e]; exact h.2.1 q
  · rw [sA_ne (by decide)]; exact h.2.2
theorem OkJ.sA11 {S : St} (h : OkJ S) {k : Nat} {x : Int32} (hx : vp_in x 12) : OkJ (sA S 11 k x) := by
  refine ⟨?_, ?_, fun q => ?_⟩
  · rw [sA_ne (by decide)]; exact h.1
  · rw [sA_ne (by decide)]; exact h.2.1
  · show vp_in (upd (S 11) k x q) 12
    by_cases e : q = k
    · rw [e, pk_us]; exact hx
    · rw [pk_un e]; exact h.2.2 q
theorem OkJ.sAo {S : St} (h : OkJ S) {q k : Nat} {x : Int32} (h4 : (4 : Nat) ≠ q) (h6 : (6 : Nat) ≠ q) (h11 : (11 : Nat) ≠ q) : OkJ (sA S q k x) := h.of (sA_ne h4) (sA_ne h6) (sA_ne h11)
theorem OkJ.sFo {S : St} (h : OkJ S) {q : Nat} {x : Int32} (h4 : (4 : Nat) ≠ q) (h6 : (6 : Nat) ≠ q) (h11 : (11 : Nat) ≠ q) : OkJ (sF S q x) := h.of (sF_ne h4) (sF_ne h6) (sF_ne h11)
theorem OkJ.ap {S : St} (h : OkJ S) (k : Nat) : OkJ (apS S k) := h.of (apS_ne (by decide) (by decide)) (apS_ne (by decide) (by decide)) (apS_ne (by decide) (by decide))
theorem OkJ.chN {S : St} (h : OkJ S) (a j : Nat) : OkJ (chN S a j) := h.of (chN_ne (by decide) (by decide) j) (chN_ne (by decide) (by decide) j) (chN_ne (by decide) (by decide) j)
theorem OkJ.chF {S : St} (h : OkJ S) : OkJ (chF S) := h.of (chF_ne (by decide) (by decide) (by decide)) (chF_ne (by decide) (by decide) (by decide)) (chF_ne (by decide) (by decide) (by decide))
theorem OkJ.flH {S : St} (h : OkJ S) : OkJ (flH S) := h.of (flH_ne (by decide) (by decide) (by decide)) (flH_ne (by decide) (by decide) (by decide)) (flH_ne (by decide) (by decide) (by decide))
theorem OkJ.flP {S : St} (h : OkJ S) {n : Nat} (hn : n ≤ 4) : OkJ (flP S n) := by
  unfold Jvm.Pilot.CIntegrityLayerLaw_law_r2858_8c2f91.flP
  exact (h.flH.sAo (by decide) (by decide) (by decide)).sA4 hn
theorem OkJ.flN {S : St} (h : OkJ S) (k f : Nat) : ∀ i, OkJ (flN S k f i)
  | 0 => h
  | i + 1 => by
    have h1 := OkJ.flN h k f i
    exact ((h1.sA6 (h1.2.2 _)).sAo (by decide) (by decide) (by decide)).sAo (by decide) (by decide) (by decide)
theorem OkJ.flS {S : St} (h : OkJ S) {f n : Nat} (hn : n ≤ 4) : OkJ (flS S f n) := OkJ.flN (h.flP hn) _ _ _
theorem c_copyHome (l : Launch) {S : St} {a b : Nat} (ho : OkJ S) (ea : S 2 0 = nI a) (eb : S 9 0 = nI b) (hab : a ≤ b) (hb : b < 2 ^ 20) : Ctv l wX yX0_copyHome cX0_copyHome 2 1 [] S (chF S) := by
  refine ctV_of (by decide) (Nat.le_of_ble_eq_true rfl) ?_
  intro p e s m args below meth c D d z h0 ad A Q ls K I hl hQ
  have K : Kx p m c s args D d z A RX0 cX0_copyHome 2 := K
  have e1 : hfN S = a := by unfold hfN; rw [ea]; exact ih_cl (by omega)
  have e2 : nxN S = b := by unfold nxN; rw [eb]; exact ih_cl (by omega)
  unfold chF chT at hQ
  rw [e1, e2] at hQ
  have hl : lv_has ls 2 [(0, .ref h0)] := hl
  refine lv_aload_n K.1.1 K.1.2.1 dX0_copyHome_0 rfl (lv_at hl 0 rfl) ?_
  refine gX_homeFrom K I dX0_copyHome_1 ?_
  refine il_top (y := nI (a + 0)) (ea) ?_
  refine lv_istore_n (lv' := [(1, .int (nI (a + 0))), (0, .ref h0)]) K.1.1 K.1.2.1 dX0_copyHome_4 rfl hl (by decide) rfl (fun ls hl => ?_)
  have lp : ∀ (f j : Nat) (H : Heap) (locs : List Loc) (ls : Array Slot), a + j ≤ b → b < a + j + f → Iw D A s (wX d z h0 ad (chN S a j)) H locs → lv_has ls 2 [(1, .int (nI (a + j))), (0, .ref h0)] → W p l e (rk 1) s m args below meth c H locs 0 0 Q (F0 m 5 ls []) := by
    intro f
    induction f with
    | zero => intro j H locs ls h1 h2; exact absurd h2 (by omega)
    | succ f ih =>
      intro j H locs ls h1 h2 I hl
      have e9 : chN S a j 9 = S 9 := chN_ne (by decide) (by decide) j
      refine lv_iload_n K.1.1 K.1.2.1 dX0_copyHome_5 rfl (lv_at hl 0 rfl) ?_
      refine lv_aload_n K.1.1 K.1.2.1 dX0_copyHome_6 rfl (lv_at hl 1 rfl) ?_
      refine gX_nextSection K I dX0_copyHome_7 ?_
      refine il_top (y := nI b) (by rw [e9]; exact eb) ?_
      refine lv_icmp_ge (tgt := 27) K.1.1 K.1.2.1 dX0_copyHome_10 (by decide) (fun h => ?_) (fun h => ?_)
      · rw [nI_leI (by omega) (by omega)] at h
        have e : j = b - a := by omega
        subst e
        refine lv_aload_n K.1.1 K.1.2.1 dX0_copyHome_27 rfl (lv_at hl 1 rfl) ?_
        refine lv_aload_n K.1.1 K.1.2.1 dX0_copyHome_28 rfl (lv_at hl 1 rfl) ?_
        refine gX_nextSection K I dX0_copyHome_29 ?_
        refine pX_homeFrom K I dX0_copyHome_32 (fun H locs I => ?_)
        exact hQ _ _ _ _ I dX0_copyHome_35
      · skip
        rw [nI_leI (by omega) (by omega)] at h
        refine lv_aload_n K.1.1 K.1.2.1 dX0_copyHome_13 rfl (lv_at hl 1 rfl) ?_
        refine lv_iload_n K.1.1 K.1.2.1 dX0_copyHome_14 rfl (lv_at hl 0 rfl) ?_
        refine lv_bipush (v := 7) K.1.1 K.1.2.1 dX0_copyHome_15 (by decide) ?_
        refine lv_iand K.1.1 K.1.2.1 dX0_copyHome_17 ?_
        refine il_top (y := nI ((a + j) % 8)) (ih_and7 (by omega)) ?_
        refine il_callV (qc := (RX0, TX0, 14)) (ci := 0) 1 K I hl.1 (c_applySlot l (Nat.mod_lt _ (by decide)) (ho.chN a j)) (lw_V q102 q104 qs3 q19 q105) (by decide +kernel) rfl rfl ⟨by decide, by decide⟩ rfl rfl (Nat.le_of_ble_eq_true rfl) ⟨Nat.le_refl _, Nat.le_refl _⟩ dX0_copyHome_18 (fun H locs I => ?_)
        refine lv_iinc (v := (nI (a + (j + 1)))) (lv' := [(1, .int (nI (a + (j + 1)))), (0, .ref h0)]) K.1.1 K.1.2.1 dX0_copyHome_21 hl (k := 0) rfl (nI_1 _) (by decide) rfl (fun ls hl => ?_)
        refine lv_goto (tgt := 5) K.1.1 K.1.2.1 dX0_copyHome_24 (by decide) ?_
        exact ih (j + 1) H locs ls (by omega) (by omega) I hl
  exact lp (b - a + 1) 0 _ _ ls (by omega) (by omega) I hl
theorem c_fillSlot (l : Launch) {S : St} {a b f n : Nat} (ho : OkJ S) (ea : S 2 0 = nI a) (eb : S 9 0 = nI b) (hab : a ≤ b) (hb : b < 2 ^ 20) (hn : n ≤ 4) (hf : f + n ≤ 20) : Cti l wX yX0_fillSlot cX0_fillSlot 6 .int 2 [.int (nI f), .int (nI n)] S (flS S f n) (nI (b % 8)) := by
  refine ctI_of (by decide) rfl (Nat.le_of_ble_eq_true rfl) ?_
  intro p e s m args below meth c D d z h0 ad A Q ls K I hl hQ
  have K : Kx p m c s args D d z A RX0 cX0_fillSlot 6 := K
  have e1 : hfN S = a := by unfold hfN; rw [ea]; exact ih_cl (by omega)
  have e2 : nxN S = b := by unfold nxN; rw [eb]; exact ih_cl (by omega)
  have h8 : b % 8 < 8 := Nat.mod_lt _ (by decide)
  have e9 : flH S 9 0 = nI b := by rw [flH_ne (by decide) (by decide) (by decide)]; exact eb
  have eP : flP S n = sA (sA (flH S) 3 (b % 8) (flH S 9 0)) 4 (b % 8) (nI n) := by unfold flP; rw [e2]
  unfold flS at hQ
  rw [e2] at hQ
  have mid : ∀ (H : Heap) (locs : List Loc) (ls : Array Slot), Iw D A s (wX d z h0 ad (flH S)) H locs → lv_has ls 6 [(0, .ref h0), (1, .int (nI f)), (2, .int (nI n))] → W p l e (rk 2) s m args below meth c H locs 0 0 Q (F0 m 18 ls []) := by
    intro H locs ls I hl
    refine lv_aload_n K.1.1 K.1.2.1 dX0_fillSlot_18 rfl (lv_at hl 0 rfl) ?_
    refine gX_nextSection K I dX0_fillSlot_19 ?_
    refine il_top (y := nI b) (e9) ?_
    refine lv_bipush (v := 7) K.1.1 K.1.2.1 dX0_fillSlot_22 (by decide) ?_
    refine lv_iand K.1.1 K.1.2.1 dX0_fillSlot_24 ?_
    refine il_top (y := nI (b % 8)) (ih_and7 (by omega)) ?_
    refine lv_istore_n (lv' := [(3, .int (nI (b % 8))), (0, .ref h0), (1, .int (nI f)), (2, .int (nI n))]) K.1.1 K.1.2.1 dX0_fillSlot_25 rfl hl (by decide) rfl (fun ls hl => ?_)
    refine lv_aload_n K.1.1 K.1.2.1 dX0_fillSlot_26 rfl (lv_at hl 1 rfl) ?_
    refine gX_slotNumber K I dX0_fillSlot_27 ?_
    refine lv_iload_n K.1.1 K.1.2.1 dX0_fillSlot_30 rfl (lv_at hl 0 rfl) ?_
    refine lv_aload_n K.1.1 K.1.2.1 dX0_fillSlot_31 rfl (lv_at hl 1 rfl) ?_
    refine gX_nextSection K I dX0_fillSlot_32 ?_
    refine sX_slotNumber (i := (b % 8)) K I rfl (by omega) dX0_fillSlot_35 (fun H locs I => ?_)
    refine lv_aload_n K.1.1 K.1.2.1 dX0_fillSlot_36 rfl (lv_at hl 1 rfl) ?_
    refine gX_slotCount K I dX0_fillSlot_37 ?_
    refine lv_iload_n K.1.1 K.1.2.1 dX0_fillSlot_40 rfl (lv_at hl 0 rfl) ?_
    refine lv_iload_n K.1.1 K.1.2.1 dX0_fillSlot_41 rfl (lv_at hl 3 rfl) ?_
    refine sX_slotCount (i := (b % 8)) K I rfl (by omega) dX0_fillSlot_42 (fun H locs I => ?_)
    refine lv_iconst (v := 0) K.1.1 K.1.2.1 dX0_fillSlot_43 (by decide) ?_
    refine il_top (y := nI 0) (rfl) ?_
    refine lv_istore (lv' := [(4, .int (nI 0)), (3, .int (nI (b % 8))), (0, .ref h0), (1, .int (nI f)), (2, .int (nI n))]) K.1.1 K.1.2.1 dX0_fillSlot_44 hl (by decide) rfl (fun ls hl => ?_)
    have lp : ∀ (g i : Nat) (H : Heap) (locs : List Loc) (ls : Array Slot), i ≤ n → n < i + g → Iw D A s (wX d z h0 ad (flN (flP S n) (b % 8) f i)) H locs → lv_has ls 6 [(4, .int (nI i)), (3, .int (nI (b % 8))), (0, .ref h0), (1, .int (nI f)), (2, .int (nI n))] → W p l e (rk 2) s m args below meth c H locs 0 0 Q (F0 m 46 ls []) := by
      intro g
      induction g with
      | zero => intro i H locs ls h1 h2; exact absurd h2 (by omega)
      | succ g ih =>
        intro i H locs ls h1 h2 I hl
        refine lv_iload K.1.1 K.1.2.1 dX0_fillSlot_46 (lv_at hl 0 rfl) ?_
        refine lv_iload_n K.1.1 K.1.2.1 dX0_fillSlot_48 rfl (lv_at hl 4 rfl) ?_
        refine lv_icmp_ge (tgt := 126) K.1.1 K.1.2.1 dX0_fillSlot_49 (by decide) (fun h => ?_) (fun h => ?_)
        · rw [nI_leI (by omega) (by omega)] at h
          have e : i = n := by omega
          subst e
          refine lv_iload_n K.1.1 K.1.2.1 dX0_fillSlot_126 rfl (lv_at hl 1 rfl) ?_
          exact hQ _ _ _ _ _ rfl I dX0_fillSlot_127
        · skip
          rw [nI_leI (by omega) (by omega)] at h
          refine lv_iload_n K.1.1 K.1.2.1 dX0_fillSlot_52 rfl (lv_at hl 1 rfl) ?_
          refine lv_iconst (v := 4) K.1.1 K.1.2.1 dX0_fillSlot_53 (by decide) ?_
          refine lv_imul K.1.1 K.1.2.1 dX0_fillSlot_54 ?_
          refine il_top (y := nI (4 * (b % 8))) (ih_mul4 _) ?_
          refine lv_iload K.1.1 K.1.2.1 dX0_fillSlot_55 (lv_at hl 0 rfl) ?_
          refine lv_iadd K.1.1 K.1.2.1 dX0_fillSlot_57 ?_
          refine il_top (y := nI (4 * (b % 8) + i)) (nI_add _ _) ?_
          refine lv_istore (lv' := [(5, .int (nI (4 * (b % 8) + i))), (4, .int (nI i)), (3, .int (nI (b % 8))), (0, .ref h0), (1, .int (nI f)), (2, .int (nI n))]) K.1.1 K.1.2.1 dX0_fillSlot_58 hl (by decide) rfl (fun ls hl => ?_)
          refine lv_aload_n K.1.1 K.1.2.1 dX0_fillSlot_60 rfl (lv_at hl 3 rfl) ?_
          refine gX_slotSector K I dX0_fillSlot_61 ?_
          refine lv_iload K.1.1 K.1.2.1 dX0_fillSlot_64 (lv_at hl 0 rfl) ?_
          refine lv_aload_n K.1.1 K.1.2.1 dX0_fillSlot_66 rfl (lv_at hl 3 rfl) ?_
          refine gX_waitSector K I dX0_fillSlot_67 ?_
          refine lv_iload_n K.1.1 K.1.2.1 dX0_fillSlot_70 rfl (lv_at hl 4 rfl) ?_
          refine lv_iload K.1.1 K.1.2.1 dX0_fillSlot_71 (lv_at hl 1 rfl) ?_
          refine lv_iadd K.1.1 K.1.2.1 dX0_fillSlot_73 ?_
          refine il_top (y := nI (f + i)) (nI_add _ _) ?_
          refine lX_waitSector (i := (f + i)) K I rfl (by omega) dX0_fillSlot_74 ?_
          refine sX_slotSector (i := (4 * (b % 8) + i)) K I rfl (by omega) dX0_fillSlot_75 (fun H locs I => ?_)
          refine lv_aload_n K.1.1 K.1.2.1 dX0_fillSlot_76 rfl (lv_at hl 3 rfl) ?_
          refine gX_slotValue K I dX0_fillSlot_77 ?_
          refine lv_iload K.1.1 K.1.2.1 dX0_fillSlot_80 (lv_at hl 0 rfl) ?_
          refine lv_aload_n K.1.1 K.1.2.1 dX0_fillSlot_82 rfl (lv_at hl 3 rfl) ?_
          refine gX_waitValue K I dX0_fillSlot_83 ?_
          refine lv_iload_n K.1.1 K.1.2.1 dX0_fillSlot_86 rfl (lv_at hl 4 rfl) ?_
          refine lv_iload K.1.1 K.1.2.1 dX0_fillSlot_87 (lv_at hl 1 rfl) ?_
          refine lv_iadd K.1.1 K.1.2.1 dX0_fillSlot_89 ?_
          refine il_top (y := nI (f + i)) (nI_add _ _) ?_
          refine lX_waitValue (i := (f + i)) K I rfl (by omega) dX0_fillSlot_90 ?_
          refine sX_slotValue (i := (4 * (b % 8) + i)) K I rfl (by omega) dX0_fillSlot_91 (fun H locs I => ?_)
          refine lv_aload_n K.1.1 K.1.2.1 dX0_fillSlot_92 rfl (lv_at hl 3 rfl) ?_
          refine gX_slotCheck K I dX0_fillSlot_93 ?_
          refine lv_iload K.1.1 K.1.2.1 dX0_fillSlot_96 (lv_at hl 0 rfl) ?_
          refine lv_aload_n K.1.1 K.1.2.1 dX0_fillSlot_98 rfl (lv_at hl 3 rfl) ?_
          refine gX_waitSector K I dX0_fillSlot_99 ?_
          refine lv_iload_n K.1.1 K.1.2.1 dX0_fillSlot_102 rfl (lv_at hl 4 rfl) ?_
          refine lv_iload K.1.1 K.1.2.1 dX0_fillSlot_103 (lv_at hl 1 rfl) ?_
          refine lv_iadd K.1.1 K.1.2.1 dX0_fillSlot_105 ?_
          refine il_top (y := nI (f + i)) (nI_add _ _) ?_
          refine lX_waitSector (i := (f + i)) K I rfl (by omega) dX0_fillSlot_106 ?_
          refine lv_aload_n K.1.1 K.1.2.1 dX0_fillSlot_107 rfl (lv_at hl 3 rfl) ?_
          refine gX_waitValue K I dX0_fillSlot_108 ?_
          refine lv_iload_n K.1.1 K.1.2.1 dX0_fillSlot_111 rfl (lv_at hl 4 rfl) ?_
          refine lv_iload K.1.1 K.1.2.1 dX0_fillSlot_112 (lv_at hl 1 rfl) ?_
          refine lv_iadd K.1.1 K.1.2.1 dX0_fillSlot_114 ?_
          refine il_top (y := nI (f + i)) (nI_add _ _) ?_
          refine lX_waitValue (i := (f + i)) K I rfl (by omega) dX0_fillSlot_115 ?_
          refine il_callS 2 K I hl.1 (c_checkOf l (flN (flP S n) (b % 8) f i 11 (f + i)) (flN (flP S n) (b % 8) f i 12 (f + i))) (lw_S q29 q30 q19 q31) (by decide +kernel) ⟨by decide, by decide⟩ rfl rfl (Nat.le_of_ble_eq_true rfl) ⟨Nat.le_refl _, Nat.le_refl _⟩ dX0_fillSlot_116 (fun H locs I => ?_)
          refine sX_slotCheck (i := (4 * (b % 8) + i)) K I rfl (by omega) dX0_fillSlot_119 (fun H locs I => ?_)
          refine lv_iinc (v := (nI (i + 1))) (lv' := [(4, .int (nI (i + 1))), (5, .int (nI (4 * (b % 8) + i))), (3, .int (nI (b % 8))), (0, .ref h0), (1, .int (nI f)), (2, .int (nI n))]) K.1.1 K.1.2.1 dX0_fillSlot_120 hl (k := 1) rfl (nI_1 _) (by decide) rfl (fun ls hl => ?_)
          refine lv_goto (tgt := 46) K.1.1 K.1.2.1 dX0_fillSlot_123 (by decide) ?_
          exact ih (i + 1) H locs ls (by omega) (by omega) I (lv_sub hl [0, 2, 3, 4, 5] rfl)
    rw [← eP] at I
    exact lp (n + 1) 0 _ _ ls (by omega) (by omega) I hl
  have hl : lv_has ls 6 [(0, .ref h0), (1, .int (nI f)), (2, .int (nI n))] := hl
  refine lv_aload_n K.1.1 K.1.2.1 dX0_fillSlot_0 rfl (lv_at hl 0 rfl) ?_
  refine gX_nextSection K I dX0_fillSlot_1 ?_
  refine il_top (y := nI b) (eb) ?_
  refine lv_aload_n K.1.1 K.1.2.1 dX0_fillSlot_4 rfl (lv_at hl 0 rfl) ?_
  refine gX_homeFrom K I dX0_fillSlot_5 ?_
  refine il_top (y := nI a) (ea) ?_
  refine lv_isub K.1.1 K.1.2.1 dX0_fillSlot_8 ?_
  refine il_top (y := nI (b - a)) (pk_sub hab) ?_
  refine lv_bipush (v := 7) K.1.1 K.1.2.1 dX0_fillSlot_9 (by decide) ?_
  refine lv_icmp_lt (tgt := 18) K.1.1 K.1.2.1 dX0_fillSlot_11 (by decide) (fun h => ?_) (fun h => ?_)
  · have h : b - a < 7 := (nI_ltI (b := 7) (by omega) (by decide)).mp h
    refine mid _ _ _ ?_ hl
    unfold flH
    rw [e1, e2, if_pos h]
    exact I
  · skip
    have h : ¬ b - a < 7 := fun q => h ((nI_ltI (b := 7) (by omega) (by decide)).mpr q)
    refine lv_aload_n K.1.1 K.1.2.1 dX0_fillSlot_14 rfl (lv_at hl 0 rfl) ?_
    refine il_callV (qc := (RX0, TX0, 14)) (ci := 0) 0 K I hl.1 (c_copyHome l ho ea eb hab hb) (lw_V q98 q100 qs2 q19 q101) (by decide +kernel) rfl rfl ⟨by decide, by decide⟩ rfl rfl (Nat.le_of_ble_eq_true rfl) ⟨Nat.le_refl _, Nat.le_refl _⟩ dX0_fillSlot_15 (fun H locs I => ?_)
    refine mid _ _ _ ?_ hl
    unfold flH
    rw [e1, e2, if_neg h]
    exact I
theorem flH_2 {S : St} {a b : Nat} (ea : S 2 0 = nI a) (eb : S 9 0 = nI b) (hab : a ≤ b) : ∃ a', flH S 2 0 = nI a' ∧ a' ≤ b ∧ a ≤ a' := by
  unfold flH
  split
  · exact ⟨a, ea, hab, Nat.le_refl _⟩
  · exact ⟨b, by rw [chF_2]; exact eb, Nat.le_refl _, hab⟩
theorem coN_ok {S : St} {a b : Nat} (ho : OkJ S) (ea : S 2 0 = nI a) (eb : S 9 0 = nI b) (hab : a ≤ b) (n : Nat) : ∀ j, OkJ (coN S n j) ∧ coN S n j 9 0 = nI (b + j) ∧ ∃ a', coN S n j 2 0 = nI a' ∧ a' ≤ b + j
  | 0 => ⟨ho, eb, a, ea, hab⟩
  | j + 1 => by
    obtain ⟨h1, h2, a', h3, h4⟩ := coN_ok ho ea eb hab n j
    have h5 := h1.flS (f := 4 * j) (n := min (n - 4 * j) 4) (Nat.min_le_right _ _)
    refine ⟨(h5.sAo (by decide) (by decide) (by decide)).sFo (by decide) (by decide) (by decide), ?_, ?_⟩
    · show flS (coN S n j) (4 * j) (min (n - 4 * j) 4) 9 0 + 1 = _
      rw [flS_9, h2]
      exact nI_1 _
    · obtain ⟨a2, g1, g2, g3⟩ := flH_2 h3 h2 h4
      refine ⟨a2, ?_, by omega⟩
      show flS (coN S n j) (4 * j) (min (n - 4 * j) 4) 2 0 = _
      rw [flS_2]
      exact g1
theorem coN_ne {S : St} {n q : Nat} (h0 : q ≠ 0) (h1 : q ≠ 1) (h2 : q ≠ 2) (h3 : q ≠ 3) (h4 : q ≠ 4) (h5 : q ≠ 5) (h6 : q ≠ 6) (h7 : q ≠ 7) (h8 : q ≠ 8) (h9 : q ≠ 9) : ∀ j, coN S n j q = S q
  | 0 => rfl
  | j + 1 => by
    show sF (sA (flS (coN S n j) _ _) 5 _ _) 9 _ q = S q
    rw [sF_ne h9, sA_ne h5]
    unfold flS
    rw [flN_ne h6 h7 h8, flP_ne h3 h4, flH_ne h0 h1 h2, coN_ne h0 h1 h2 h3 h4 h5 h6 h7 h8 h9 j]
theorem c_commit (l : Launch) {S : St} {a b n : Nat} (ho : OkJ S) (ea : S 2 0 = nI a) (eb : S 9 0 = nI b) (hab : a ≤ b) (hb : b + 5 < 2 ^ 20) (hn : n ≤ 20) : Ctv l wX yX0_commit cX0_commit 5 3 [.int (nI n)] S (coF S n) := by
  refine ctV_of (by decide) (Nat.le_of_ble_eq_true rfl) ?_
  intro p e s m args below meth c D d z h0 ad A Q ls K I hl hQ
  have K : Kx p m c s args D d z A RX0 cX0_commit 5 := K
  unfold coF coT at hQ
  have hl : lv_has ls 5 [(0, .ref h0), (1, .int (nI n))] := hl
  refine lv_iconst (v := 0) K.1.1 K.1.2.1 dX0_commit_0 (by decide) ?_
  refine il_top (y := nI (4 * 0)) (rfl) ?_
  refine lv_istore_n (lv' := [(2, .int (nI (4 * 0))), (0, .ref h0), (1, .int (nI n))]) K.1.1 K.1.2.1 dX0_commit_1 rfl hl (by decide) rfl (fun ls hl => ?_)
  have lp : ∀ (g j : Nat) (H : Heap) (locs : List Loc) (ls : Array Slot), 4 * j < n + 4 → n < 4 * j + g → Iw D A s (wX d z h0 ad (coN S n j)) H locs → lv_has ls 5 [(2, .int (nI (4 * j))), (0, .ref h0), (1, .int (nI n))] → W p l e (rk 3) s m args below meth c H locs 0 0 Q (F0 m 2 ls []) := by
    intro g
    induction g with
    | zero =>
      intro j H locs ls h1 h2 I hl
      refine lv_iload_n K.1.1 K.1.2.1 dX0_commit_2 rfl (lv_at hl 0 rfl) ?_
      refine lv_iload_n K.1.1 K.1.2.1 dX0_commit_3 rfl (lv_at hl 2 rfl) ?_
      refine lv_icmp_ge (tgt := 59) K.1.1 K.1.2.1 dX0_commit_4 (by decide) (fun h => ?_) (fun h => ?_)
      · have e : j = (n + 3) / 4 := by omega
        subst e
        refine lv_aload_n K.1.1 K.1.2.1 dX0_commit_59 rfl (lv_at hl 1 rfl) ?_
        refine lv_dup K.1.1 K.1.2.1 dX0_commit_60 rfl ?_
        refine gX_made K I dX0_commit_61 ?_
        refine lv_iload_n K.1.1 K.1.2.1 dX0_commit_64 rfl (lv_at hl 2 rfl) ?_
        refine lv_iadd K.1.1 K.1.2.1 dX0_commit_65 ?_
        refine pX_made K I dX0_commit_66 (fun H locs I => ?_)
        exact hQ _ _ _ _ I dX0_commit_69
      · skip
        rw [nI_leI (by omega) (by omega)] at h
        exact absurd h2 (by omega)
    | succ g ih =>
      intro j H locs ls h1 h2 I hl
      obtain ⟨ho2, eb2, a2, ea2, hab2⟩ := coN_ok ho ea eb hab n j
      refine lv_iload_n K.1.1 K.1.2.1 dX0_commit_2 rfl (lv_at hl 0 rfl) ?_
      refine lv_iload_n K.1.1 K.1.2.1 dX0_commit_3 rfl (lv_at hl 2 rfl) ?_
      refine lv_icmp_ge (tgt := 59) K.1.1 K.1.2.1 dX0_commit_4 (by decide) (fun h => ?_) (fun h => ?_)
      · rw [nI_leI (by omega) (by omega)] at h
        have e : j = (n + 3) / 4 := by omega
        subst e
        refine lv_aload_n K.1.1 K.1.2.1 dX0_commit_59 rfl (lv_at hl 1 rfl) ?_
        refine lv_dup K.1.1 K.1.2.1 dX0_commit_60 rfl ?_
        refine gX_made K I dX0_commit_61 ?_
        refine lv_iload_n K.1.1 K.1.2.1 dX0_commit_64 rfl (lv_at hl 2 rfl) ?_
        refine lv_iadd K.1.1 K.1.2.1 dX0_commit_65 ?_
        refine pX_made K I dX0_commit_66 (fun H locs I => ?_)
        exact hQ _ _ _ _ I dX0_commit_69
      · skip
        rw [nI_leI (by omega) (by omega)] at h
        have mid : W p l e (rk 3) s m args below meth c H locs 0 0 Q (F0 m 21 ls [.int (nI (min (n - 4 * j) 4))]) := by
          refine lv_istore_n (lv' := [(3, .int (nI (min (n - 4 * j) 4))), (2, .int (nI (4 * j))), (0, .ref h0), (1, .int (nI n))]) K.1.1 K.1.2.1 dX0_commit_21 rfl hl (by decide) rfl (fun ls hl => ?_)
          refine lv_aload_n K.1.1 K.1.2.1 dX0_commit_22 rfl (lv_at hl 2 rfl) ?_
          refine lv_iload_n K.1.1 K.1.2.1 dX0_commit_23 rfl (lv_at hl 1 rfl) ?_
          refine lv_iload_n K.1.1 K.1.2.1 dX0_commit_24 rfl (lv_at hl 0 rfl) ?_
          refine il_callI (qc := (RX0, TX0, 14)) (ci := 0) 2 K I hl.1 (c_fillSlot l ho2 ea2 eb2 hab2 (by omega) (Nat.min_le_right _ _) (by omega)) (lw_V q94 q96 qs1 q19 q97) (by decide +kernel) rfl rfl ⟨by decide, by decide⟩ rfl rfl (Nat.le_of_ble_eq_true rfl) ⟨Nat.le_refl _, Nat.le_refl _⟩ dX0_commit_25 (fun H locs I => ?_)
          refine lv_istore (lv' := [(4, .int (nI ((b + j) % 8))), (3, .int (nI (min (n - 4 * j) 4))), (2, .int (nI (4 * j))), (0, .ref h0), (1, .int (nI n))]) K.1.1 K.1.2.1 dX0_commit_28 hl (by decide) rfl (fun ls hl => ?_)
          refine lv_aload_n K.1.1 K.1.2.1 dX0_commit_30 rfl (lv_at hl 3 rfl) ?_
          refine gX_slotSum K I dX0_commit_31 ?_
          refine lv_iload K.1.1 K.1.2.1 dX0_commit_34 (lv_at hl 0 rfl) ?_
          refine lv_aload_n K.1.1 K.1.2.1 dX0_commit_36 rfl (lv_at hl 3 rfl) ?_
          refine lv_iload K.1.1 K.1.2.1 dX0_commit_37 (lv_at hl 0 rfl) ?_
          refine il_callI (qc := (RX0, TX0, 14)) (ci := 0) 1 K I hl.1 (c_sumOf l (Nat.mod_lt _ (by decide)) (ho2.flS (Nat.min_le_right _ _))) (lw_V q106 q108 qs4 q19 q109) (by decide +kernel) rfl rfl ⟨by decide, by decide⟩ rfl rfl (Nat.le_of_ble_eq_true rfl) ⟨Nat.le_refl _, Nat.le_refl _⟩ dX0_commit_39 (fun H locs I => ?_)
          refine sX_slotSum (i := ((b + j) % 8)) K I rfl (Nat.mod_lt _ (by decide)) dX0_commit_42 (fun H locs I => ?_)
          refine lv_aload_n K.1.1 K.1.2.1 dX0_commit_43 rfl (lv_at hl 3 rfl) ?_
          refine lv_dup K.1.1 K.1.2.1 dX0_commit_44 rfl ?_
          refine gX_nextSection K I dX0_commit_45 ?_
          refine lv_iconst (v := 1) K.1.1 K.1.2.1 dX0_commit_48 (by decide) ?_
          refine lv_iadd K.1.1 K.1.2.1 dX0_commit_49 ?_
          refine pX_nextSection K I dX0_commit_50 (fun H locs I => ?_)
          refine lv_iinc (v := (nI (4 * (j + 1)))) (lv' := [(2, .int (nI (4 * (j + 1)))), (4, .int (nI ((b + j) % 8))), (3, .int (nI (min (n - 4 * j) 4))), (0, .ref h0), (1, .int (nI n))]) K.1.1 K.1.2.1 dX0_commit_53 hl (k := 2) rfl (nI_add (4 * j) 4) (by decide) rfl (fun ls hl => ?_)
          refine lv_goto (tgt := 2) K.1.1 K.1.2.1 dX0_commit_56 (by decide) ?_
          have e2 : nxN (coN S n j) = b + j := by unfold nxN; rw [eb2]; exact ih_cl (by omega)
          refine ih (j + 1) H locs ls (by omega) (by omega) ?_ (lv_sub hl [0, 3, 4] rfl)
          show Iw D A s (wX d z h0 ad (co1 (coN S n j) (4 * j) (min (n - 4 * j) 4))) H locs
          unfold co1
          rw [e2]
          exact I
        refine lv_iload_n K.1.1 K.1.2.1 dX0_commit_7 rfl (lv_at hl 2 rfl) ?_
        refine lv_iload_n K.1.1 K.1.2.1 dX0_commit_8 rfl (lv_at hl 0 rfl) ?_
        refine lv_isub K.1.1 K.1.2.1 dX0_commit_9 ?_
        refine il_top (y := nI (n - 4 * j)) (pk_sub (by omega)) ?_
        refine lv_iconst (v := 4) K.1.1 K.1.2.1 dX0_commit_10 (by decide) ?_
        refine lv_icmp_ge (tgt := 20) K.1.1 K.1.2.1 dX0_commit_11 (by decide) (fun h3 => ?_) (fun h3 => ?_)
        · have h3 : 4 ≤ n - 4 * j := (nI_leI (a := 4) (by decide) (by omega)).mp h3
          refine lv_iconst (v := 4) K.1.1 K.1.2.1 dX0_commit_20 (by decide) ?_
          refine il_top (y := nI (min (n - 4 * j) 4)) (by rw [Nat.min_eq_right h3]; rfl) ?_
          exact mid
        · skip
          have h3 : ¬ 4 ≤ n - 4 * j := fun q => h3 ((nI_leI (a := 4) (by decide) (by omega)).mpr q)
          refine lv_iload_n K.1.1 K.1.2.1 dX0_commit_14 rfl (lv_at hl 2 rfl) ?_
          refine lv_iload_n K.1.1 K.1.2.1 dX0_commit_15 rfl (lv_at hl 0 rfl) ?_
          refine lv_isub K.1.1 K.1.2.1 dX0_commit_16 ?_
          refine il_top (y := nI (min (n - 4 * j) 4)) (by rw [Nat.min_eq_left (by omega)]; exact pk_sub (by omega)) ?_
          refine lv_goto (tgt := 21) K.1.1 K.1.2.1 dX0_commit_17 (by decide) ?_
          exact mid
  exact lp (n + 1) 0 _ _ ls (by omega) (by omega) I hl
theorem c_whole (l : Launch) {S : St} {k : Nat} (hk : k < 8) (ho : OkJ S) (x : Int32) : Cti l wX yX0_whole cX0_whole 4 .boolean 1 [.int (nI k), .int x] S S (b2 (whB S k x)) := by
  refine ctI_of (by decide) (b2_nar _) (Nat.le_of_ble_eq_true rfl) ?_
  intro p e s m args below meth c D d z h0 ad A Q ls K I hl hQ
  have K : Kx p m c s args D d z A RX0 cX0_whole 4 := K
  obtain ⟨hc, h4⟩ := ho.c k
  unfold whB at hQ
  generalize cl (S 4 k) = c4 at hc h4 hQ
  have hl : lv_has ls 4 [(0, .ref h0), (1, .int (nI k)), (2, .int x)] := hl
  refine lv_aload_n K.1.1 K.1.2.1 dX0_whole_0 rfl (lv_at hl 0 rfl) ?_
  refine gX_slotNumber K I dX0_whole_1 ?_
  refine lv_iload_n K.1.1 K.1.2.1 dX0_whole_4 rfl (lv_at hl 1 rfl) ?_
  refine lX_slotNumber (i := k) K I rfl (by omega) dX0_whole_5 ?_
  refine lv_iload_n K.1.1 K.1.2.1 dX0_whole_6 rfl (lv_at hl 2 rfl) ?_
  refine lv_icmp_ne (tgt := 30) K.1.1 K.1.2.1 dX0_whole_7 (by decide) (fun h => ?_) (fun h => ?_)
  · refine lv_iconst (v := 0) K.1.1 K.1.2.1 dX0_whole_30 (by decide) ?_
    exact hQ _ _ _ _ _ (by simp [b2, h]) I dX0_whole_31
  · skip
    refine lv_aload_n K.1.1 K.1.2.1 dX0_whole_10 rfl (lv_at hl 0 rfl) ?_
    refine gX_slotCount K I dX0_whole_11 ?_
    refine lv_iload_n K.1.1 K.1.2.1 dX0_whole_14 rfl (lv_at hl 1 rfl) ?_
    refine lX_slotCount (i := k) K I rfl (by omega) dX0_whole_15 ?_
    refine il_top (y := nI c4) (hc) ?_
    refine lv_iconst (v := 1) K.1.1 K.1.2.1 dX0_whole_16 (by decide) ?_
    refine lv_icmp_lt (tgt := 30) K.1.1 K.1.2.1 dX0_whole_17 (by decide) (fun h2 => ?_) (fun h2 => ?_)
    · have h2 : c4 < 1 := (nI_ltI (b := 1) (by omega) (by decide)).mp h2
      refine lv_iconst (v := 0) K.1.1 K.1.2.1 dX0_whole_30 (by decide) ?_
      exact hQ _ _ _ _ _ (by simp [b2, show ¬ 1 ≤ c4 by omega]) I dX0_whole_31
    · skip
      have h2 : ¬ c4 < 1 := fun q => h2 ((nI_ltI (b := 1) (by omega) (by decide)).mpr q)
      refine lv_aload_n K.1.1 K.1.2.1 dX0_whole_20 rfl (lv_at hl 0 rfl) ?_
      refine gX_slotCount K I dX0_whole_21 ?_
      refine lv_iload_n K.1.1 K.1.2.1 dX0_whole_24 rfl (lv_at hl 1 rfl) ?_
      refine lX_slotCount (i := k) K I rfl (by omega) dX0_whole_25 ?_
      refine il_top (y := nI c4) (hc) ?_
      refine lv_iconst (v := 4) K.1.1 K.1.2.1 dX0_whole_26 (by decide) ?_
      refine lv_icmp_le (tgt := 32) K.1.1 K.1.2.1 dX0_whole_27 (by decide) (fun h3 => ?_) (fun h3 => ?_)
      · refine lv_aload_n K.1.1 K.1.2.1 dX0_whole_32 rfl (lv_at hl 0 rfl) ?_
        refine lv_iload_n K.1.1 K.1.2.1 dX0_whole_33 rfl (lv_at hl 1 rfl) ?_
        refine il_callI (qc := (RX0, TX0, 14)) (ci := 0) 1 K I hl.1 (c_sumOf l hk ho) (lw_V q106 q108 qs4 q19 q109) (by decide +kernel) rfl rfl ⟨by decide, by decide⟩ rfl rfl (Nat.le_of_ble_eq_true rfl) ⟨Nat.le_refl _, Nat.le_refl _⟩ dX0_whole_34 (fun H locs I => ?_)
        refine lv_istore_n (lv' := [(3, .int (smS S k)), (0, .ref h0), (1, .int (nI k)), (2, .int x)]) K.1.1 K.1.2.1 dX0_whole_37 rfl hl (by decide) rfl (fun ls hl => ?_)
        refine lv_iload_n K.1.1 K.1.2.1 dX0_whole_38 rfl (lv_at hl 0 rfl) ?_
        refine lv_aload_n K.1.1 K.1.2.1 dX0_whole_39 rfl (lv_at hl 1 rfl) ?_
        refine gX_slotSum K I dX0_whole_40 ?_
        refine lv_iload_n K.1.1 K.1.2.1 dX0_whole_43 rfl (lv_at hl 2 rfl) ?_
        refine lX_slotSum (i := k) K I rfl (by omega) dX0_whole_44 ?_
        refine lv_icmp_ne (tgt := 52) K.1.1 K.1.2.1 dX0_whole_45 (by decide) (fun h5 => ?_) (fun h5 => ?_)
        · refine lv_iconst (v := 0) K.1.1 K.1.2.1 dX0_whole_52 (by decide) ?_
          exact hQ _ _ _ _ _ (by simp [b2, h5]) I dX0_whole_53
        · skip
          refine lv_iconst (v := 1) K.1.1 K.1.2.1 dX0_whole_48 (by decide) ?_
          refine lv_goto (tgt := 53) K.1.1 K.1.2.1 dX0_whole_49 (by decide) ?_
          exact hQ _ _ _ _ _ (by simp [b2, h5, h, show 1 ≤ c4 by omega]) I dX0_whole_53
      · skip
        exact absurd ((nI_leI (b := 4) (by omega) (by decide)).mpr h4) h3
theorem c_tear (l : Launch) {S : St} {a b f n : Nat} (ho : OkJ S) (ea : S 2 0 = nI a) (eb : S 9 0 = nI b) (hab : a ≤ b) (hb : b < 2 ^ 20) (hf : f + n ≤ 20) : Ctv l wX yX0_tear cX0_tear 6 3 [.int (nI f), .int (nI n)] S (teF S f n) := by
  refine ctV_of (by decide) (Nat.le_of_ble_eq_true rfl) ?_
  intro p e s m args below meth c D d z h0 ad A Q ls K I hl hQ
  have K : Kx p m c s args D d z A RX0 cX0_tear 6 := K
  have e2 : nxN S = b := by unfold nxN; rw [eb]; exact ih_cl (by omega)
  unfold teF at hQ
  rw [e2] at hQ
  have hl : lv_has ls 6 [(0, .ref h0), (1, .int (nI f)), (2, .int (nI n))] := hl
  have mid : W p l e (rk 3) s m args below meth c s.heap [] 0 0 Q (F0 m 10 ls [.int (nI (min n 4))]) := by
    refine lv_istore_n (lv' := [(3, .int (nI (min n 4))), (0, .ref h0), (1, .int (nI f)), (2, .int (nI n))]) K.1.1 K.1.2.1 dX0_tear_10 rfl hl (by decide) rfl (fun ls hl => ?_)
    refine lv_aload_n K.1.1 K.1.2.1 dX0_tear_11 rfl (lv_at hl 1 rfl) ?_
    refine lv_iload_n K.1.1 K.1.2.1 dX0_tear_12 rfl (lv_at hl 2 rfl) ?_
    refine lv_iload_n K.1.1 K.1.2.1 dX0_tear_13 rfl (lv_at hl 0 rfl) ?_
    refine il_callI (qc := (RX0, TX0, 14)) (ci := 0) 2 K I hl.1 (c_fillSlot l ho ea eb hab hb (Nat.min_le_right _ _) (by omega)) (lw_V q94 q96 qs1 q19 q97) (by decide +kernel) rfl rfl ⟨by decide, by decide⟩ rfl rfl (Nat.le_of_ble_eq_true rfl) ⟨Nat.le_refl _, Nat.le_refl _⟩ dX0_tear_14 (fun H locs I => ?_)
    refine lv_istore (lv' := [(4, .int (nI (b % 8))), (3, .int (nI (min n 4))), (0, .ref h0), (1, .int (nI f)), (2, .int (nI n))]) K.1.1 K.1.2.1 dX0_tear_17 hl (by decide) rfl (fun ls hl => ?_)
    refine lv_aload_n K.1.1 K.1.2.1 dX0_tear_19 rfl (lv_at hl 2 rfl) ?_
    refine lv_iload K.1.1 K.1.2.1 dX0_tear_20 (lv_at hl 0 rfl) ?_
    refine il_callI (qc := (RX0, TX0, 14)) (ci := 0) 1 K I hl.1 (c_sumOf l (Nat.mod_lt _ (by decide)) (ho.flS (Nat.min_le_right _ _))) (lw_V q106 q108 qs4 q19 q109) (by decide +kernel) rfl rfl ⟨by decide, by decide⟩ rfl rfl (Nat.le_of_ble_eq_true rfl) ⟨Nat.le_refl _, Nat.le_refl _⟩ dX0_tear_22 (fun H locs I => ?_)
    refine lv_istore (lv' := [(5, .int (smS (flS S f (min n 4)) (b % 8))), (4, .int (nI (b % 8))), (3, .int (nI (min n 4))), (0, .ref h0), (1, .int (nI f)), (2, .int (nI n))]) K.1.1 K.1.2.1 dX0_tear_25 hl (by decide) rfl (fun ls hl => ?_)
    refine lv_aload_n K.1.1 K.1.2.1 dX0_tear_27 rfl (lv_at hl 3 rfl) ?_
    refine gX_slotSum K I dX0_tear_28 ?_
    refine lv_iload K.1.1 K.1.2.1 dX0_tear_31 (lv_at hl 1 rfl) ?_
    refine lv_iload K.1.1 K.1.2.1 dX0_tear_33 (lv_at hl 0 rfl) ?_
    refine lv_iconst (v := (-1)) K.1.1 K.1.2.1 dX0_tear_35 (by decide) ?_
    refine lv_ixor K.1.1 K.1.2.1 dX0_tear_36 ?_
    refine sX_slotSum (i := (b % 8)) K I rfl (Nat.mod_lt _ (by decide)) dX0_tear_37 (fun H locs I => ?_)
    exact hQ _ _ _ _ I dX0_tear_38
  refine lv_iload_n K.1.1 K.1.2.1 dX0_tear_0 rfl (lv_at hl 2 rfl) ?_
  refine lv_iconst (v := 4) K.1.1 K.1.2.1 dX0_tear_1 (by decide) ?_
  refine lv_icmp_ge (tgt := 9) K.1.1 K.1.2.1 dX0_tear_2 (by decide) (fun h3 => ?_) (fun h3 => ?_)
  · have h3 : 4 ≤ n := (nI_leI (a := 4) (by decide) (by omega)).mp h3
    refine lv_iconst (v := 4) K.1.1 K.1.2.1 dX0_tear_9 (by decide) ?_
    refine il_top (y := nI (min n 4)) (by rw [Nat.min_eq_right h3]; rfl) ?_
    exact mid
  · skip
    have h3 : ¬ 4 ≤ n := fun q => h3 ((nI_leI (a := 4) (by decide) (by omega)).mpr q)
    refine lv_iload_n K.1.1 K.1.2.1 dX0_tear_5 rfl (lv_at hl 2 rfl) ?_
    refine il_top (y := nI (min n 4)) (by rw [Nat.min_eq_left (by omega)]) ?_
    refine lv_goto (tgt := 10) K.1.1 K.1.2.1 dX0_tear_6 (by decide) ?_
    exact mid
theorem c_replay (l : Launch) {S : St} {a : Nat} (ho : OkJ S) (ea : S 2 0 = nI a) (ha : a < 2 ^ 20) : Ctv l wX yX0_replay cX0_replay 4 2 [] S (rpF S) := by
  refine ctV_of (by decide) (Nat.le_of_ble_eq_true rfl) ?_
  intro p e s m args below meth c D d z h0 ad A Q ls K I hl hQ
  have K : Kx p m c s args D d z A RX0 cX0_replay 4 := K
  have e1 : hfN S = a := by unfold hfN; rw [ea]; exact ih_cl (by omega)
  unfold rpF at hQ
  rw [e1] at hQ
  have fin : ∀ (T : St) (k : Nat) (H : Heap) (locs : List Loc) (ls : Array Slot), rpN S a 8 = (T, k) → Iw D A s (wX d z h0 ad T) H locs → lv_has ls 4 [(1, .int (nI k)), (0, .ref h0)] → W p l e (rk 2) s m args below meth c H locs 0 0 Q (F0 m 50 ls []) := by
    intro T k H locs ls eT I hl
    rw [eT] at hQ
    refine lv_aload_n K.1.1 K.1.2.1 dX0_replay_50 rfl (lv_at hl 1 rfl) ?_
    refine lv_iload_n K.1.1 K.1.2.1 dX0_replay_51 rfl (lv_at hl 0 rfl) ?_
    refine pX_nextSection K I dX0_replay_52 (fun H locs I => ?_)
    refine lv_aload_n K.1.1 K.1.2.1 dX0_replay_55 rfl (lv_at hl 1 rfl) ?_
    refine lv_iload_n K.1.1 K.1.2.1 dX0_replay_56 rfl (lv_at hl 0 rfl) ?_
    refine pX_homeFrom K I dX0_replay_57 (fun H locs I => ?_)
    exact hQ _ _ _ _ I dX0_replay_60
  have lp : ∀ (f i k : Nat) (T : St) (H : Heap) (locs : List Loc) (ls : Array Slot), i + f = 8 → k < 2 ^ 20 + i → OkJ T → rpN S a 8 = rpN T k f → Iw D A s (wX d z h0 ad T) H locs → lv_has ls 4 [(3, .int (nI i)), (2, .int 1), (1, .int (nI k)), (0, .ref h0)] → W p l e (rk 2) s m args below meth c H locs 0 0 Q (F0 m 9 ls []) := by
    intro f
    induction f with
    | zero =>
      intro i k T H locs ls hi hk ho eT I hl
      refine lv_iload_n K.1.1 K.1.2.1 dX0_replay_9 rfl (lv_at hl 0 rfl) ?_
      refine lv_bipush (v := 8) K.1.1 K.1.2.1 dX0_replay_10 (by decide) ?_
      refine lv_icmp_ge (tgt := 50) K.1.1 K.1.2.1 dX0_replay_12 (by decide) (fun h => ?_) (fun h => ?_)
      · exact fin T k H locs ls eT I (lv_sub hl [2, 3] rfl)
      · skip
        exact absurd ((nI_leI (a := 8) (by decide) (by omega)).mpr (by omega)) h
    | succ f ih =>
      intro i k T H locs ls hi hk ho eT I hl
      refine lv_iload_n K.1.1 K.1.2.1 dX0_replay_9 rfl (lv_at hl 0 rfl) ?_
      refine lv_bipush (v := 8) K.1.1 K.1.2.1 dX0_replay_10 (by decide) ?_
      refine lv_icmp_ge (tgt := 50) K.1.1 K.1.2.1 dX0_replay_12 (by decide) (fun h => ?_) (fun h => ?_)
      · exact absurd ((nI_leI (a := 8) (by decide) (by omega)).mp h) (by omega)
      · skip
        refine lv_iload_n K.1.1 K.1.2.1 dX0_replay_15 rfl (lv_at hl 1 rfl) ?_
        refine lv_if_eq (tgt := 50) K.1.1 K.1.2.1 dX0_replay_16 (by decide) (fun h2 => ?_) (fun h2 => ?_)
        · exact absurd h2 (by decide)
        · skip
          cases hw : whB T (k % 8) (nI k) with
          | true =>
            have eT : rpN S a 8 = rpN (apS T (k % 8)) (k + 1) f := by
              rw [eT]
              show (if whB T (k % 8) (nI k) = true then rpN (apS T (k % 8)) (k + 1) f else (T, k)) = _
              rw [if_pos hw]
            refine lv_aload_n K.1.1 K.1.2.1 dX0_replay_19 rfl (lv_at hl 3 rfl) ?_
            refine lv_iload_n K.1.1 K.1.2.1 dX0_replay_20 rfl (lv_at hl 2 rfl) ?_
            refine lv_bipush (v := 7) K.1.1 K.1.2.1 dX0_replay_21 (by decide) ?_
            refine lv_iand K.1.1 K.1.2.1 dX0_replay_23 ?_
            refine il_top (y := nI (k % 8)) (ih_and7 (by omega)) ?_
            refine lv_iload_n K.1.1 K.1.2.1 dX0_replay_24 rfl (lv_at hl 2 rfl) ?_
            refine il_callI (qc := (RX0, TX0, 14)) (ci := 0) 2 K I hl.1 (c_whole l (Nat.mod_lt _ (by decide)) ho (nI k)) (lw_V q134 q136 qs9 q19 q137) (by decide +kernel) rfl rfl ⟨by decide, by decide⟩ rfl rfl (Nat.le_of_ble_eq_true rfl) ⟨Nat.le_refl _, Nat.le_refl _⟩ dX0_replay_25 (fun H locs I => ?_)
            refine il_top (y := 1) (by rw [hw]; rfl) ?_
            refine lv_istore_n (lv' := [(2, .int (1)), (3, .int (nI i)), (1, .int (nI k)), (0, .ref h0)]) K.1.1 K.1.2.1 dX0_replay_28 rfl hl (by decide) rfl (fun ls hl => ?_)
            refine lv_iload_n K.1.1 K.1.2.1 dX0_replay_29 rfl (lv_at hl 0 rfl) ?_
            refine lv_if_eq (tgt := 44) K.1.1 K.1.2.1 dX0_replay_30 (by decide) (fun h3 => ?_) (fun h3 => ?_)
            · exact absurd h3 (by decide)
            · skip
              refine lv_aload_n K.1.1 K.1.2.1 dX0_replay_33 rfl (lv_at hl 3 rfl) ?_
              refine lv_iload_n K.1.1 K.1.2.1 dX0_replay_34 rfl (lv_at hl 2 rfl) ?_
              refine lv_bipush (v := 7) K.1.1 K.1.2.1 dX0_replay_35 (by decide) ?_
              refine lv_iand K.1.1 K.1.2.1 dX0_replay_37 ?_
              refine il_top (y := nI (k % 8)) (ih_and7 (by omega)) ?_
              refine il_callV (qc := (RX0, TX0, 14)) (ci := 0) 1 K I hl.1 (c_applySlot l (Nat.mod_lt _ (by decide)) ho) (lw_V q102 q104 qs3 q19 q105) (by decide +kernel) rfl rfl ⟨by decide, by decide⟩ rfl rfl (Nat.le_of_ble_eq_true rfl) ⟨Nat.le_refl _, Nat.le_refl _⟩ dX0_replay_38 (fun H locs I => ?_)
              refine lv_iinc (v := (nI (k + 1))) (lv' := [(1, .int (nI (k + 1))), (2, .int (1)), (3, .int (nI i)), (0, .ref h0)]) K.1.1 K.1.2.1 dX0_replay_41 hl (k := 2) rfl (nI_1 _) (by decide) rfl (fun ls hl => ?_)
              refine lv_iinc (v := (nI (i + 1))) (lv' := [(3, .int (nI (i + 1))), (1, .int (nI (k + 1))), (2, .int (1)), (0, .ref h0)]) K.1.1 K.1.2.1 dX0_replay_44 hl (k := 2) rfl (nI_1 _) (by decide) rfl (fun ls hl => ?_)
              refine lv_goto (tgt := 9) K.1.1 K.1.2.1 dX0_replay_47 (by decide) ?_
              exact ih (i + 1) (k + 1) (apS T (k % 8)) H locs ls (by omega) (by omega) (ho.ap _) eT I (lv_sub hl [0, 2, 1, 3] rfl)
          | false =>
            have eT : rpN S a 8 = (T, k) := by
              rw [eT]
              show (if whB T (k % 8) (nI k) = true then rpN (apS T (k % 8)) (k + 1) f else (T, k)) = _
              rw [if_neg (by rw [hw]; decide)]
            refine lv_aload_n K.1.1 K.1.2.1 dX0_replay_19 rfl (lv_at hl 3 rfl) ?_
            refine lv_iload_n K.1.1 K.1.2.1 dX0_replay_20 rfl (lv_at hl 2 rfl) ?_
            refine lv_bipush (v := 7) K.1.1 K.1.2.1 dX0_replay_21 (by decide) ?_
            refine lv_iand K.1.1 K.1.2.1 dX0_replay_23 ?_
            refine il_top (y := nI (k % 8)) (ih_and7 (by omega)) ?_
            refine lv_iload_n K.1.1 K.1.2.1 dX0_replay_24 rfl (lv_at hl 2 rfl) ?_
            refine il_callI (qc := (RX0, TX0, 14)) (ci := 0) 2 K I hl.1 (c_whole l (Nat.mod_lt _ (by decide)) ho (nI k)) (lw_V q134 q136 qs9 q19 q137) (by decide +kernel) rfl rfl ⟨by decide, by decide⟩ rfl rfl (Nat.le_of_ble_eq_true rfl) ⟨Nat.le_refl _, Nat.le_refl _⟩ dX0_replay_25 (fun H locs I => ?_)
            refine il_top (y := 0) (by rw [hw]; rfl) ?_
            refine lv_istore_n (lv' := [(2, .int (0)), (3, .int (nI i)), (1, .int (nI k)), (0, .ref h0)]) K.1.1 K.1.2.1 dX0_replay_28 rfl hl (by decide) rfl (fun ls hl => ?_)
            refine lv_iload_n K.1.1 K.1.2.1 dX0_replay_29 rfl (lv_at hl 0 rfl) ?_
            refine lv_if_eq (tgt := 44) K.1.1 K.1.2.1 dX0_replay_30 (by decide) (fun h3 => ?_) (fun h3 => ?_)
            · refine lv_iinc (v := (nI (i + 1))) (lv' := [(3, .int (nI (i + 1))), (2, .int (0)), (1, .int (nI k)), (0, .ref h0)]) K.1.1 K.1.2.1 dX0_replay_44 hl (k := 1) rfl (nI_1 _) (by decide) rfl (fun ls hl => ?_)
              refine lv_goto (tgt := 9) K.1.1 K.1.2.1 dX0_replay_47 (by decide) ?_
              refine lv_iload_n K.1.1 K.1.2.1 dX0_replay_9 rfl (lv_at hl 0 rfl) ?_
              refine lv_bipush (v := 8) K.1.1 K.1.2.1 dX0_replay_10 (by decide) ?_
              refine lv_icmp_ge (tgt := 50) K.1.1 K.1.2.1 dX0_replay_12 (by decide) (fun h5 => ?_) (fun h5 => ?_)
              · exact fin T k H locs ls eT I (lv_sub hl [2, 3] rfl)
              · skip
                refine lv_iload_n K.1.1 K.1.2.1 dX0_replay_15 rfl (lv_at hl 1 rfl) ?_
                refine lv_if_eq (tgt := 50) K.1.1 K.1.2.1 dX0_replay_16 (by decide) (fun h6 => ?_) (fun h6 => ?_)
                · exact fin T k H locs ls eT I (lv_sub hl [2, 3] rfl)
                · skip
                  exact absurd rfl h6
            · skip
              exact absurd rfl h3
  have hl : lv_has ls 4 [(0, .ref h0)] := hl
  refine lv_aload_n K.1.1 K.1.2.1 dX0_replay_0 rfl (lv_at hl 0 rfl) ?_
  refine gX_homeFrom K I dX0_replay_1 ?_
  refine il_top (y := nI a) (ea) ?_
  refine lv_istore_n (lv' := [(1, .int (nI a)), (0, .ref h0)]) K.1.1 K.1.2.1 dX0_replay_4 rfl hl (by decide) rfl (fun ls hl => ?_)
  refine lv_iconst (v := 1) K.1.1 K.1.2.1 dX0_replay_5 (by decide) ?_
  refine lv_istore_n (lv' := [(2, .int 1), (1, .int (nI a)), (0, .ref h0)]) K.1.1 K.1.2.1 dX0_replay_6 rfl hl (by decide) rfl (fun ls hl => ?_)
  refine lv_iconst (v := 0) K.1.1 K.1.2.1 dX0_replay_7 (by decide) ?_
  refine il_top (y := nI 0) (rfl) ?_
  refine lv_istore_n (lv' := [(3, .int (nI 0)), (2, .int 1), (1, .int (nI a)), (0, .ref h0)]) K.1.1 K.1.2.1 dX0_replay_8 rfl hl (by decide) rfl (fun ls hl => ?_)
  exact lp 8 0 a S _ _ ls rfl (by omega) ho rfl I hl
end
section
set_option maxRecDepth 100000
/-! the public methods of the layer -/
def Ok (S : St) (a b n : Nat) : Prop := OkJ S ∧ S 2 0 = nI a ∧ S 9 0 = nI b ∧ S 10 0 = nI n ∧ a ≤ b ∧ b + 5 < 2 ^ 20 ∧ n ≤ 20
theorem coF_ne {S : St} {n q : Nat} (h : 10 ≤ q) (h13 : q ≠ 13) : coF S n q = S q := by
  unfold coF coT
  rw [sF_ne h13, coN_ne (by omega) (by omega) (by omega) (by omega) (by omega) (by omega) (by omega) (by omega) (by omega) (by omega)]
theorem coF_ok {S : St} {a b n : Nat} (h : Ok S a b n) (k : Nat) : OkJ (coF S k) ∧ coF S k 9 0 = nI (b + (k + 3) / 4) ∧ ∃ a', coF S k 2 0 = nI a' ∧ a' ≤ b + (k + 3) / 4 := by
  obtain ⟨ho, ea, eb, -, hab, -, -⟩ := h
  obtain ⟨h1, h2, a', h3, h4⟩ := coN_ok ho ea eb hab k ((k + 3) / 4)
  exact ⟨h1.sFo (by decide) (by decide) (by decide), h2, a', h3, h4⟩
theorem teF_ok {S : St} {a b f n : Nat} (ho : OkJ S) (ea : S 2 0 = nI a) (eb : S 9 0 = nI b) (hab : a ≤ b) : OkJ (teF S f n) ∧ ∃ a', teF S f n 2 0 = nI a' ∧ a' ≤ b := by
  refine ⟨(ho.flS (Nat.min_le_right _ _)).sAo (by decide) (by decide) (by decide), ?_⟩
  obtain ⟨a2, g1, g2, g3⟩ := flH_2 ea eb hab
  refine ⟨a2, ?_, g2⟩
  show flS S f (min n 4) 2 0 = _
  rw [flS_2]
  exact g1
theorem badB_f {x : Int32} (h : badB x = false) : ∃ j : Nat, j < 12 ∧ x = nI j := by
  unfold badB at h
  rw [Bool.or_eq_false_iff, decide_eq_false_iff_not, decide_eq_false_iff_not] at h
  obtain ⟨j, hj, rfl⟩ := nI_of h.1
  refine ⟨j, ?_, rfl⟩
  rcases Nat.lt_or_ge j 12 with q | q
  · exact q
  · exact absurd (nI_le (a := 12) q hj) h.2
theorem badB_nI {j : Nat} (h : j < 12) : badB (nI j) = false := by
  unfold badB
  rw [Bool.or_eq_false_iff, decide_eq_false_iff_not, decide_eq_false_iff_not]
  exact ⟨nI_pos (by omega), fun q => absurd ((nI_leI (a := 12) (by decide) (by omega)).mp q) (by omega)⟩
theorem nw_range (S : St) (x : Int32) : ∀ n, nwN S x n = -1 ∨ ∃ i, i < n ∧ nwN S x n = nI i ∧ S 11 i = x
  | 0 => Or.inl rfl
  | n + 1 => by
    show (if S 11 n = x then nI n else nwN S x n) = -1 ∨ ∃ i, i < n + 1 ∧ (if S 11 n = x then nI n else nwN S x n) = nI i ∧ S 11 i = x
    by_cases h : S 11 n = x
    · rw [if_pos h]
      exact Or.inr ⟨n, by omega, rfl, h⟩
    · rw [if_neg h]
      rcases nw_range S x n with h1 | ⟨i, h1, h2, h3⟩
      · exact Or.inl h1
      · exact Or.inr ⟨i, by omega, h2, h3⟩
theorem nwF_range {S : St} {n : Nat} (hn : n ≤ 20) (e10 : S 10 0 = nI n) (x : Int32) : nwF S x = -1 ∨ ∃ i, i < n ∧ nwF S x = nI i ∧ S 11 i = x := by
  have ew : wtN S = n := by unfold wtN; rw [e10]; exact ih_cl (by omega)
  unfold nwF
  rw [ew]
  exact nw_range S x n
theorem njI_range (S : St) (x : Int32) (k : Nat) (g : Int32) (P : Int32 → Prop) (hg : P g) (hP : ∀ i, 4 * k ≤ i → i < 4 * k + 4 → S 6 i = x → P (nI i)) : ∀ c, c ≤ 4 → P (njI S x k g c)
  | 0, _ => hg
  | c + 1, hc => by
    show P (if S 6 (4 * k + c) = x then nI (4 * k + c) else njI S x k g c)
    by_cases h : S 6 (4 * k + c) = x
    · rw [if_pos h]; exact hP _ (by omega) (by omega) h
    · rw [if_neg h]; exact njI_range S x k g P hg hP c (by omega)
theorem njN_range {S : St} (ho : OkJ S) (x : Int32) (a : Nat) : ∀ j, njN S x a j = -1 ∨ ∃ i, i < 32 ∧ njN S x a j = nI i ∧ S 6 i = x
  | 0 => Or.inl rfl
  | j + 1 => by
    have h8 : (a + j) % 8 < 8 := Nat.mod_lt _ (by decide)
    exact njI_range S x ((a + j) % 8) (njN S x a j) (fun r => r = -1 ∨ ∃ i, i < 32 ∧ r = nI i ∧ S 6 i = x) (njN_range ho x a j) (fun i h1 h2 h3 => Or.inr ⟨i, by omega, rfl, h3⟩) _ (ho.c _).2
theorem njF_range {S : St} (ho : OkJ S) (x : Int32) : njF S x = -1 ∨ ∃ i, i < 32 ∧ njF S x = nI i ∧ S 6 i = x := njN_range ho x _ _
theorem c_flush (l : Launch) {S : St} {a b n : Nat} (h : Ok S a b n) : Cti l wX yX0_flush cX0_flush 2 .int 4 [] S (drF (coF S n) n) (nI n) := by
  refine ctI_of (by decide) rfl (Nat.le_of_ble_eq_true rfl) ?_
  intro p e s m args below meth c D d z h0 ad A Q ls K I hl hQ
  have K : Kx p m c s args D d z A RX0 cX0_flush 2 := K
  obtain ⟨ho, ea, eb, e10, hab, hb, hn⟩ := h
  have hl : lv_has ls 2 [(0, .ref h0)] := hl
  refine lv_aload_n K.1.1 K.1.2.1 dX0_flush_0 rfl (lv_at hl 0 rfl) ?_
  refine gX_waiting K I dX0_flush_1 ?_
  refine il_top (y := nI n) (e10) ?_
  refine lv_istore_n (lv' := [(1, .int (nI n)), (0, .ref h0)]) K.1.1 K.1.2.1 dX0_flush_4 rfl hl (by decide) rfl (fun ls hl => ?_)
  refine lv_aload_n K.1.1 K.1.2.1 dX0_flush_5 rfl (lv_at hl 1 rfl) ?_
  refine lv_iload_n K.1.1 K.1.2.1 dX0_flush_6 rfl (lv_at hl 0 rfl) ?_
  refine il_callV (qc := (RX0, TX0, 14)) (ci := 0) 1 K I hl.1 (c_commit l ho ea eb hab hb hn) (lw_V q90 q92 qs0 q19 q93) (by decide +kernel) rfl rfl ⟨by decide, by decide⟩ rfl rfl (Nat.le_of_ble_eq_true rfl) ⟨Nat.le_refl _, Nat.le_refl _⟩ dX0_flush_7 (fun H locs I => ?_)
  refine lv_aload_n K.1.1 K.1.2.1 dX0_flush_10 rfl (lv_at hl 1 rfl) ?_
  refine lv_iload_n K.1.1 K.1.2.1 dX0_flush_11 rfl (lv_at hl 0 rfl) ?_
  refine il_callV (qc := (RX0, TX0, 14)) (ci := 0) 1 K I hl.1 (c_dropWaiting l hn (by rw [coF_ne (by decide) (by decide)]; exact e10) (Nat.le_refl n)) (lw_V q110 q112 qs5 q19 q113) (by decide +kernel) rfl rfl ⟨by decide, by decide⟩ rfl rfl (Nat.le_of_ble_eq_true rfl) ⟨Nat.le_refl _, Nat.le_refl _⟩ dX0_flush_12 (fun H locs I => ?_)
  refine lv_iload_n K.1.1 K.1.2.1 dX0_flush_15 rfl (lv_at hl 0 rfl) ?_
  exact hQ _ _ _ _ _ rfl I dX0_flush_16
theorem c_flushSome (l : Launch) {S : St} {a b n : Nat} (h : Ok S a b n) (x : Int32) : Cti l wX yX0_flushSome cX0_flushSome 3 .int 4 [.int x] S (drF (coF S (clN n x)) (clN n x)) (nI (clN n x)) := by
  refine ctI_of (by decide) rfl (Nat.le_of_ble_eq_true rfl) ?_
  intro p e s m args below meth c D d z h0 ad A Q ls K I hl hQ
  have K : Kx p m c s args D d z A RX0 cX0_flushSome 3 := K
  obtain ⟨ho, ea, eb, e10, hab, hb, hn⟩ := h
  have hk := clN_le n x
  have hl : lv_has ls 3 [(0, .ref h0), (1, .int x)] := hl
  refine lv_aload_n K.1.1 K.1.2.1 dX0_flushSome_0 rfl (lv_at hl 0 rfl) ?_
  refine lv_iload_n K.1.1 K.1.2.1 dX0_flushSome_1 rfl (lv_at hl 1 rfl) ?_
  refine il_callI (qc := (RX0, TX0, 14)) (ci := 0) 1 K I hl.1 (c_clampWaiting l (by omega) e10 x) (lw_V q118 q120 qs6 q19 q121) (by decide +kernel) rfl rfl ⟨by decide, by decide⟩ rfl rfl (Nat.le_of_ble_eq_true rfl) ⟨Nat.le_refl _, Nat.le_refl _⟩ dX0_flushSome_2 (fun H locs I => ?_)
  refine lv_istore_n (lv' := [(2, .int (nI (clN n x))), (0, .ref h0), (1, .int x)]) K.1.1 K.1.2.1 dX0_flushSome_5 rfl hl (by decide) rfl (fun ls hl => ?_)
  refine lv_aload_n K.1.1 K.1.2.1 dX0_flushSome_6 rfl (lv_at hl 1 rfl) ?_
  refine lv_iload_n K.1.1 K.1.2.1 dX0_flushSome_7 rfl (lv_at hl 0 rfl) ?_
  refine il_callV (qc := (RX0, TX0, 14)) (ci := 0) 1 K I hl.1 (c_commit l ho ea eb hab hb (by omega)) (lw_V q90 q92 qs0 q19 q93) (by decide +kernel) rfl rfl ⟨by decide, by decide⟩ rfl rfl (Nat.le_of_ble_eq_true rfl) ⟨Nat.le_refl _, Nat.le_refl _⟩ dX0_flushSome_8 (fun H locs I => ?_)
  refine lv_aload_n K.1.1 K.1.2.1 dX0_flushSome_11 rfl (lv_at hl 1 rfl) ?_
  refine lv_iload_n K.1.1 K.1.2.1 dX0_flushSome_12 rfl (lv_at hl 0 rfl) ?_
  refine il_callV (qc := (RX0, TX0, 14)) (ci := 0) 1 K I hl.1 (c_dropWaiting l hn (by rw [coF_ne (by decide) (by decide)]; exact e10) hk) (lw_V q110 q112 qs5 q19 q113) (by decide +kernel) rfl rfl ⟨by decide, by decide⟩ rfl rfl (Nat.le_of_ble_eq_true rfl) ⟨Nat.le_refl _, Nat.le_refl _⟩ dX0_flushSome_13 (fun H locs I => ?_)
  refine lv_iload_n K.1.1 K.1.2.1 dX0_flushSome_16 rfl (lv_at hl 0 rfl) ?_
  exact hQ _ _ _ _ _ rfl I dX0_flushSome_17
theorem c_crash (l : Launch) {S : St} {a b n : Nat} (h : Ok S a b n) (x : Int32) : Cti l wX yX0_crash cX0_crash 4 .int 4 [.int x] S (crF S (clN n x)) (nI (n - clN n x)) := by
  refine ctI_of (by decide) rfl (Nat.le_of_ble_eq_true rfl) ?_
  intro p e s m args below meth c D d z h0 ad A Q ls K I hl hQ
  have K : Kx p m c s args D d z A RX0 cX0_crash 4 := K
  have h9 := h
  obtain ⟨ho, ea, eb, e10, hab, hb, hn⟩ := h
  have hk := clN_le n x
  have ew : wtN S = n := by unfold wtN; rw [e10]; exact ih_cl (by omega)
  generalize hke : clN n x = k at hk hQ
  obtain ⟨ho2, eb2, a2, ea2, hab2⟩ := coF_ok h9 k
  have e102 : coF S k 10 0 = nI n := by rw [coF_ne (by decide) (by decide)]; exact e10
  have hU : OkJ (crU S k) ∧ ∃ a', crU S k 2 0 = nI a' ∧ a' ≤ b + (k + 3) / 4 := by
    unfold crU
    split
    · exact teF_ok ho2 ea2 eb2 hab2
    · exact ⟨ho2, a2, ea2, hab2⟩
  obtain ⟨hoU, a3, ea3, hab3⟩ := hU
  have mid : ∀ (H : Heap) (locs : List Loc) (ls : Array Slot), Iw D A s (wX d z h0 ad (crU S k)) H locs → lv_has ls 4 [(3, .int (nI (n - k))), (0, .ref h0)] → W p l e (rk 4) s m args below meth c H locs 0 0 Q (F0 m 28 ls []) := by
    intro H locs ls I hl
    refine lv_aload_n K.1.1 K.1.2.1 dX0_crash_28 rfl (lv_at hl 1 rfl) ?_
    refine lv_iconst (v := 0) K.1.1 K.1.2.1 dX0_crash_29 (by decide) ?_
    refine pX_waiting K I dX0_crash_30 (fun H locs I => ?_)
    refine lv_aload_n K.1.1 K.1.2.1 dX0_crash_33 rfl (lv_at hl 1 rfl) ?_
    refine lv_iconst (v := 0) K.1.1 K.1.2.1 dX0_crash_34 (by decide) ?_
    refine pX_nextSection K I dX0_crash_35 (fun H locs I => ?_)
    refine lv_aload_n K.1.1 K.1.2.1 dX0_crash_38 rfl (lv_at hl 1 rfl) ?_
    refine il_callV (qc := (RX0, TX0, 14)) (ci := 0) 0 K I hl.1 (c_replay l ((hoU.sFo (by decide) (by decide) (by decide)).sFo (by decide) (by decide) (by decide)) ea3 (by omega)) (lw_V q130 q132 qs8 q19 q133) (by decide +kernel) rfl rfl ⟨by decide, by decide⟩ rfl rfl (Nat.le_of_ble_eq_true rfl) ⟨Nat.le_refl _, Nat.le_refl _⟩ dX0_crash_39 (fun H locs I => ?_)
    refine lv_iload_n K.1.1 K.1.2.1 dX0_crash_42 rfl (lv_at hl 0 rfl) ?_
    exact hQ _ _ _ _ _ rfl I dX0_crash_43
  have hl : lv_has ls 4 [(0, .ref h0), (1, .int x)] := hl
  refine lv_aload_n K.1.1 K.1.2.1 dX0_crash_0 rfl (lv_at hl 0 rfl) ?_
  refine lv_iload_n K.1.1 K.1.2.1 dX0_crash_1 rfl (lv_at hl 1 rfl) ?_
  refine il_callI (qc := (RX0, TX0, 14)) (ci := 0) 1 K I hl.1 (c_clampWaiting l (by omega) e10 x) (lw_V q118 q120 qs6 q19 q121) (by decide +kernel) rfl rfl ⟨by decide, by decide⟩ rfl rfl (Nat.le_of_ble_eq_true rfl) ⟨Nat.le_refl _, Nat.le_refl _⟩ dX0_crash_2 (fun H locs I => ?_)
  refine il_top (y := nI k) (by rw [hke]) ?_
  refine lv_istore_n (lv' := [(2, .int (nI k)), (0, .ref h0), (1, .int x)]) K.1.1 K.1.2.1 dX0_crash_5 rfl hl (by decide) rfl (fun ls hl => ?_)
  refine lv_aload_n K.1.1 K.1.2.1 dX0_crash_6 rfl (lv_at hl 1 rfl) ?_
  refine lv_iload_n K.1.1 K.1.2.1 dX0_crash_7 rfl (lv_at hl 0 rfl) ?_
  refine il_callV (qc := (RX0, TX0, 14)) (ci := 0) 1 K I hl.1 (c_commit l ho ea eb hab hb (by omega)) (lw_V q90 q92 qs0 q19 q93) (by decide +kernel) rfl rfl ⟨by decide, by decide⟩ rfl rfl (Nat.le_of_ble_eq_true rfl) ⟨Nat.le_refl _, Nat.le_refl _⟩ dX0_crash_8 (fun H locs I => ?_)
  refine lv_aload_n K.1.1 K.1.2.1 dX0_crash_11 rfl (lv_at hl 1 rfl) ?_
  refine gX_waiting K I dX0_crash_12 ?_
  refine il_top (y := nI n) (e102) ?_
  refine lv_iload_n K.1.1 K.1.2.1 dX0_crash_15 rfl (lv_at hl 0 rfl) ?_
  refine lv_isub K.1.1 K.1.2.1 dX0_crash_16 ?_
  refine il_top (y := nI (n - k)) (pk_sub hk) ?_
  refine lv_istore_n (lv' := [(3, .int (nI (n - k))), (2, .int (nI k)), (0, .ref h0), (1, .int x)]) K.1.1 K.1.2.1 dX0_crash_17 rfl hl (by decide) rfl (fun ls hl => ?_)
  refine lv_iload_n K.1.1 K.1.2.1 dX0_crash_18 rfl (lv_at hl 0 rfl) ?_
  refine lv_if_le (tgt := 28) K.1.1 K.1.2.1 dX0_crash_19 (by decide) (fun h => ?_) (fun h => ?_)
  · have h : n - k ≤ 0 := (nI_leI (b := 0) (by omega) (by decide)).mp h
    refine mid _ _ _ ?_ (lv_sub hl [0, 2] rfl)
    unfold crU
    rw [ew, if_neg (by omega)]
    exact I
  · skip
    have h : ¬ n - k ≤ 0 := fun q => h ((nI_leI (b := 0) (by omega) (by decide)).mpr q)
    refine lv_aload_n K.1.1 K.1.2.1 dX0_crash_22 rfl (lv_at hl 2 rfl) ?_
    refine lv_iload_n K.1.1 K.1.2.1 dX0_crash_23 rfl (lv_at hl 1 rfl) ?_
    refine lv_iload_n K.1.1 K.1.2.1 dX0_crash_24 rfl (lv_at hl 0 rfl) ?_
    refine il_callV (qc := (RX0, TX0, 14)) (ci := 0) 2 K I hl.1 (c_tear l ho2 ea2 eb2 hab2 (by omega) (by omega)) (lw_V q126 q128 qs7 q19 q129) (by decide +kernel) rfl rfl ⟨by decide, by decide⟩ rfl rfl (Nat.le_of_ble_eq_true rfl) ⟨Nat.le_refl _, Nat.le_refl _⟩ dX0_crash_25 (fun H locs I => ?_)
    refine mid _ _ _ ?_ (lv_sub hl [0, 2] rfl)
    unfold crU
    rw [ew, if_pos (by omega)]
    exact I
theorem c_damage (l : Launch) {S : St} {a b n : Nat} (h : Ok S a b n) (x v : Int32) : Cti l wX yX0_damage cX0_damage 4 .int 2 [.int x, .int v] S (daF S x v) (daR S x v) := by
  refine ctI_of (by decide) rfl (Nat.le_of_ble_eq_true rfl) ?_
  intro p e s m args below meth c D d z h0 ad A Q ls K I hl hQ
  have K : Kx p m c s args D d z A RX0 cX0_damage 4 := K
  obtain ⟨ho, ea, eb, e10, hab, hb, hn⟩ := h
  unfold daF daR at hQ
  have hl : lv_has ls 4 [(0, .ref h0), (1, .int x), (2, .int v)] := hl
  cases hbd : badB x with
  | true =>
    simp only [hbd, if_true] at hQ
    refine lv_iload_n K.1.1 K.1.2.1 dX0_damage_0 rfl (lv_at hl 1 rfl) ?_
    refine il_callS 1 K I hl.1 (c_bad l x) (lw_S q83 q84 q19 q85) (by decide +kernel) ⟨by decide, by decide⟩ rfl rfl (Nat.le_of_ble_eq_true rfl) ⟨Nat.le_refl _, Nat.le_refl _⟩ dX0_damage_1 (fun H locs I => ?_)
    refine il_top (y := 1) (by rw [hbd]; rfl) ?_
    refine lv_if_eq (tgt := 9) K.1.1 K.1.2.1 dX0_damage_4 (by decide) (fun h => ?_) (fun h => ?_)
    · exact absurd h (by decide)
    · skip
      refine lv_iconst (v := (-1)) K.1.1 K.1.2.1 dX0_damage_7 (by decide) ?_
      exact hQ _ _ _ _ _ rfl I dX0_damage_8
  | false =>
    simp only [hbd, if_neg (show ¬ (false = true) by decide)] at hQ
    obtain ⟨j, hj, rfl⟩ := badB_f hbd
    rw [ih_cl (by omega)] at hQ
    refine lv_iload_n K.1.1 K.1.2.1 dX0_damage_0 rfl (lv_at hl 1 rfl) ?_
    refine il_callS 1 K I hl.1 (c_bad l (nI j)) (lw_S q83 q84 q19 q85) (by decide +kernel) ⟨by decide, by decide⟩ rfl rfl (Nat.le_of_ble_eq_true rfl) ⟨Nat.le_refl _, Nat.le_refl _⟩ dX0_damage_1 (fun H locs I => ?_)
    refine il_top (y := 0) (by rw [hbd]; rfl) ?_
    refine lv_if_eq (tgt := 9) K.1.1 K.1.2.1 dX0_damage_4 (by decide) (fun h => ?_) (fun h => ?_)
    · skip
      cases hdm : dmB (chF S) j with
      | true =>
        simp only [hdm, if_true] at hQ
        refine lv_aload_n K.1.1 K.1.2.1 dX0_damage_9 rfl (lv_at hl 0 rfl) ?_
        refine il_callV (qc := (RX0, TX0, 14)) (ci := 0) 0 K I hl.1 (c_copyHome l ho ea eb hab (by omega)) (lw_V q98 q100 qs2 q19 q101) (by decide +kernel) rfl rfl ⟨by decide, by decide⟩ rfl rfl (Nat.le_of_ble_eq_true rfl) ⟨Nat.le_refl _, Nat.le_refl _⟩ dX0_damage_10 (fun H locs I => ?_)
        refine lv_aload_n K.1.1 K.1.2.1 dX0_damage_13 rfl (lv_at hl 0 rfl) ?_
        refine lv_iload_n K.1.1 K.1.2.1 dX0_damage_14 rfl (lv_at hl 1 rfl) ?_
        refine il_callI (qc := (RX0, TX0, 14)) (ci := 0) 1 K I hl.1 (c_isDamaged l hj) (lw_V q142 q144 qs10 q19 q145) (by decide +kernel) rfl rfl ⟨by decide, by decide⟩ rfl rfl (Nat.le_of_ble_eq_true rfl) ⟨Nat.le_refl _, Nat.le_refl _⟩ dX0_damage_15 (fun H locs I => ?_)
        refine il_top (y := 1) (by rw [hdm]; rfl) ?_
        refine lv_istore_n (lv' := [(3, .int (1)), (0, .ref h0), (1, .int (nI j)), (2, .int v)]) K.1.1 K.1.2.1 dX0_damage_18 rfl hl (by decide) rfl (fun ls hl => ?_)
        refine lv_iload_n K.1.1 K.1.2.1 dX0_damage_19 rfl (lv_at hl 0 rfl) ?_
        refine lv_if_ne (tgt := 33) K.1.1 K.1.2.1 dX0_damage_20 (by decide) (fun h2 => ?_) (fun h2 => ?_)
        · refine lv_iload_n K.1.1 K.1.2.1 dX0_damage_33 rfl (lv_at hl 0 rfl) ?_
          refine lv_if_ne (tgt := 41) K.1.1 K.1.2.1 dX0_damage_34 (by decide) (fun h3 => ?_) (fun h3 => ?_)
          · refine lv_iconst (v := 1) K.1.1 K.1.2.1 dX0_damage_41 (by decide) ?_
            refine lv_goto (tgt := 46) K.1.1 K.1.2.1 dX0_damage_42 (by decide) ?_
            exact hQ _ _ _ _ _ rfl I dX0_damage_46
          · skip
            exact absurd h3 (by decide)
        · skip
          exact absurd h2 (by decide)
      | false =>
        simp only [hdm, if_neg (show ¬ (false = true) by decide)] at hQ
        refine lv_aload_n K.1.1 K.1.2.1 dX0_damage_9 rfl (lv_at hl 0 rfl) ?_
        refine il_callV (qc := (RX0, TX0, 14)) (ci := 0) 0 K I hl.1 (c_copyHome l ho ea eb hab (by omega)) (lw_V q98 q100 qs2 q19 q101) (by decide +kernel) rfl rfl ⟨by decide, by decide⟩ rfl rfl (Nat.le_of_ble_eq_true rfl) ⟨Nat.le_refl _, Nat.le_refl _⟩ dX0_damage_10 (fun H locs I => ?_)
        refine lv_aload_n K.1.1 K.1.2.1 dX0_damage_13 rfl (lv_at hl 0 rfl) ?_
        refine lv_iload_n K.1.1 K.1.2.1 dX0_damage_14 rfl (lv_at hl 1 rfl) ?_
        refine il_callI (qc := (RX0, TX0, 14)) (ci := 0) 1 K I hl.1 (c_isDamaged l hj) (lw_V q142 q144 qs10 q19 q145) (by decide +kernel) rfl rfl ⟨by decide, by decide⟩ rfl rfl (Nat.le_of_ble_eq_true rfl) ⟨Nat.le_refl _, Nat.le_refl _⟩ dX0_damage_15 (fun H locs I => ?_)
        refine il_top (y := 0) (by rw [hdm]; rfl) ?_
        refine lv_istore_n (lv' := [(3, .int (0)), (0, .ref h0), (1, .int (nI j)), (2, .int v)]) K.1.1 K.1.2.1 dX0_damage_18 rfl hl (by decide) rfl (fun ls hl => ?_)
        refine lv_iload_n K.1.1 K.1.2.1 dX0_damage_19 rfl (lv_at hl 0 rfl) ?_
        refine lv_if_ne (tgt := 33) K.1.1 K.1.2.1 dX0_damage_20 (by decide) (fun h2 => ?_) (fun h2 => ?_)
        · exact absurd rfl h2
        · skip
          refine lv_aload_n K.1.1 K.1.2.1 dX0_damage_23 rfl (lv_at hl 1 rfl) ?_
          refine gX_home K I dX0_damage_24 ?_
          refine lv_iload_n K.1.1 K.1.2.1 dX0_damage_27 rfl (lv_at hl 2 rfl) ?_
          refine lv_dup2_11 K.1.1 K.1.2.1 dX0_damage_28 rfl rfl ?_
          refine lX_home (i := j) K I rfl (by omega) dX0_damage_29 ?_
          refine lv_iload_n K.1.1 K.1.2.1 dX0_damage_30 rfl (lv_at hl 3 rfl) ?_
          refine lv_ixor K.1.1 K.1.2.1 dX0_damage_31 ?_
          refine sX_home (i := j) K I rfl (by omega) dX0_damage_32 (fun H locs I => ?_)
          refine lv_iload_n K.1.1 K.1.2.1 dX0_damage_33 rfl (lv_at hl 0 rfl) ?_
          refine lv_if_ne (tgt := 41) K.1.1 K.1.2.1 dX0_damage_34 (by decide) (fun h3 => ?_) (fun h3 => ?_)
          · exact absurd rfl h3
          · skip
            refine lv_iload_n K.1.1 K.1.2.1 dX0_damage_37 rfl (lv_at hl 3 rfl) ?_
            refine lv_if_eq (tgt := 45) K.1.1 K.1.2.1 dX0_damage_38 (by decide) (fun h5 => ?_) (fun h5 => ?_)
            · refine lv_iconst (v := 0) K.1.1 K.1.2.1 dX0_damage_45 (by decide) ?_
              exact hQ _ _ _ _ _ (by simp [b2, h5]) I dX0_damage_46
            · skip
              refine lv_iconst (v := 1) K.1.1 K.1.2.1 dX0_damage_41 (by decide) ?_
              refine lv_goto (tgt := 46) K.1.1 K.1.2.1 dX0_damage_42 (by decide) ?_
              exact hQ _ _ _ _ _ (by simp [b2, h5]) I dX0_damage_46
    · skip
      exact absurd rfl h
theorem c_scrub (l : Launch) {S : St} {a b n : Nat} (h : Ok S a b n) : Cti l wX yX0_scrub cX0_scrub 4 .int 2 [] S (chF S) (nI (scN (chF S) 12)) := by
  refine ctI_of (by decide) rfl (Nat.le_of_ble_eq_true rfl) ?_
  intro p e s m args below meth c D d z h0 ad A Q ls K I hl hQ
  have K : Kx p m c s args D d z A RX0 cX0_scrub 4 := K
  obtain ⟨ho, ea, eb, e10, hab, hb, hn⟩ := h
  have hl : lv_has ls 4 [(0, .ref h0)] := hl
  refine lv_aload_n K.1.1 K.1.2.1 dX0_scrub_0 rfl (lv_at hl 0 rfl) ?_
  refine il_callV (qc := (RX0, TX0, 14)) (ci := 0) 0 K I hl.1 (c_copyHome l ho ea eb hab (by omega)) (lw_V q98 q100 qs2 q19 q101) (by decide +kernel) rfl rfl ⟨by decide, by decide⟩ rfl rfl (Nat.le_of_ble_eq_true rfl) ⟨Nat.le_refl _, Nat.le_refl _⟩ dX0_scrub_1 (fun H locs I => ?_)
  refine lv_iconst (v := 0) K.1.1 K.1.2.1 dX0_scrub_4 (by decide) ?_
  refine il_top (y := nI (scN (chF S) 0)) (rfl) ?_
  refine lv_istore_n (lv' := [(1, .int (nI (scN (chF S) 0))), (0, .ref h0)]) K.1.1 K.1.2.1 dX0_scrub_5 rfl hl (by decide) rfl (fun ls hl => ?_)
  refine lv_iconst (v := 0) K.1.1 K.1.2.1 dX0_scrub_6 (by decide) ?_
  refine il_top (y := nI 0) (rfl) ?_
  refine lv_istore_n (lv' := [(2, .int (nI 0)), (1, .int (nI (scN (chF S) 0))), (0, .ref h0)]) K.1.1 K.1.2.1 dX0_scrub_7 rfl hl (by decide) rfl (fun ls hl => ?_)
  have lp : ∀ (f j : Nat) (H : Heap) (locs : List Loc) (ls : Array Slot), j ≤ 12 → 12 < j + f → Iw D A s (wX d z h0 ad (chF S)) H locs → lv_has ls 4 [(2, .int (nI j)), (1, .int (nI (scN (chF S) j))), (0, .ref h0)] → W p l e (rk 2) s m args below meth c H locs 0 0 Q (F0 m 8 ls []) := by
    intro f
    induction f with
    | zero => intro j H locs ls h1 h2; exact absurd h2 (by omega)
    | succ f ih =>
      intro j H locs ls h1 h2 I hl
      refine lv_iload_n K.1.1 K.1.2.1 dX0_scrub_8 rfl (lv_at hl 0 rfl) ?_
      refine lv_bipush (v := 12) K.1.1 K.1.2.1 dX0_scrub_9 (by decide) ?_
      refine lv_icmp_ge (tgt := 33) K.1.1 K.1.2.1 dX0_scrub_11 (by decide) (fun h => ?_) (fun h => ?_)
      · have h : 12 ≤ j := (nI_leI (a := 12) (by decide) (by omega)).mp h
        have e : j = 12 := by omega
        subst e
        refine lv_iload_n K.1.1 K.1.2.1 dX0_scrub_33 rfl (lv_at hl 1 rfl) ?_
        exact hQ _ _ _ _ _ rfl I dX0_scrub_34
      · skip
        have h : ¬ 12 ≤ j := fun q => h ((nI_leI (a := 12) (by decide) (by omega)).mpr q)
        cases hdm : dmB (chF S) j with
        | true =>
          refine lv_aload_n K.1.1 K.1.2.1 dX0_scrub_14 rfl (lv_at hl 2 rfl) ?_
          refine lv_iload_n K.1.1 K.1.2.1 dX0_scrub_15 rfl (lv_at hl 0 rfl) ?_
          refine il_callI (qc := (RX0, TX0, 14)) (ci := 0) 1 K I hl.1 (c_isDamaged l (by omega)) (lw_V q142 q144 qs10 q19 q145) (by decide +kernel) rfl rfl ⟨by decide, by decide⟩ rfl rfl (Nat.le_of_ble_eq_true rfl) ⟨Nat.le_refl _, Nat.le_refl _⟩ dX0_scrub_16 (fun H locs I => ?_)
          refine il_top (y := 1) (by rw [hdm]; rfl) ?_
          refine lv_istore_n (lv' := [(3, .int (1)), (2, .int (nI j)), (1, .int (nI (scN (chF S) j))), (0, .ref h0)]) K.1.1 K.1.2.1 dX0_scrub_19 rfl hl (by decide) rfl (fun ls hl => ?_)
          refine lv_iload_n K.1.1 K.1.2.1 dX0_scrub_20 rfl (lv_at hl 0 rfl) ?_
          refine lv_if_eq (tgt := 27) K.1.1 K.1.2.1 dX0_scrub_21 (by decide) (fun h2 => ?_) (fun h2 => ?_)
          · exact absurd h2 (by decide)
          · skip
            refine lv_iinc (v := (nI (scN (chF S) (j + 1)))) (lv' := [(1, .int (nI (scN (chF S) (j + 1)))), (3, .int (1)), (2, .int (nI j)), (0, .ref h0)]) K.1.1 K.1.2.1 dX0_scrub_24 hl (k := 2) rfl (by show nI _ + 1 = nI (if dmB (chF S) j = true then scN (chF S) j + 1 else scN (chF S) j); rw [if_pos hdm]; exact nI_1 _) (by decide) rfl (fun ls hl => ?_)
            refine lv_iinc (v := (nI (j + 1))) (lv' := [(2, .int (nI (j + 1))), (1, .int (nI (scN (chF S) (j + 1)))), (3, .int (1)), (0, .ref h0)]) K.1.1 K.1.2.1 dX0_scrub_27 hl (k := 2) rfl (nI_1 _) (by decide) rfl (fun ls hl => ?_)
            refine lv_goto (tgt := 8) K.1.1 K.1.2.1 dX0_scrub_30 (by decide) ?_
            exact ih (j + 1) H locs ls (by omega) (by omega) I (lv_sub hl [0, 1, 3] rfl)
        | false =>
          refine lv_aload_n K.1.1 K.1.2.1 dX0_scrub_14 rfl (lv_at hl 2 rfl) ?_
          refine lv_iload_n K.1.1 K.1.2.1 dX0_scrub_15 rfl (lv_at hl 0 rfl) ?_
          refine il_callI (qc := (RX0, TX0, 14)) (ci := 0) 1 K I hl.1 (c_isDamaged l (by omega)) (lw_V q142 q144 qs10 q19 q145) (by decide +kernel) rfl rfl ⟨by decide, by decide⟩ rfl rfl (Nat.le_of_ble_eq_true rfl) ⟨Nat.le_refl _, Nat.le_refl _⟩ dX0_scrub_16 (fun H locs I => ?_)
          refine il_top (y := 0) (by rw [hdm]; rfl) ?_
          refine lv_istore_n (lv' := [(3, .int (0)), (2, .int (nI j)), (1, .int (nI (scN (chF S) j))), (0, .ref h0)]) K.1.1 K.1.2.1 dX0_scrub_19 rfl hl (by decide) rfl (fun ls hl => ?_)
          refine lv_iload_n K.1.1 K.1.2.1 dX0_scrub_20 rfl (lv_at hl 0 rfl) ?_
          have e : scN (chF S) j = scN (chF S) (j + 1) := by
            show _ = if dmB (chF S) j = true then scN (chF S) j + 1 else scN (chF S) j
            rw [if_neg (by rw [hdm]; decide)]
          rw [e] at hl
          refine lv_if_eq (tgt := 27) K.1.1 K.1.2.1 dX0_scrub_21 (by decide) (fun h2 => ?_) (fun h2 => ?_)
          · skip
            have hl : lv_has ls 4 [(3, .int 0), (2, .int (nI j)), (1, .int (nI (scN (chF S) (j + 1)))), (0, .ref h0)] := hl
            refine lv_iinc (v := (nI (j + 1))) (lv' := [(2, .int (nI (j + 1))), (3, .int 0), (1, .int (nI (scN (chF S) (j + 1)))), (0, .ref h0)]) K.1.1 K.1.2.1 dX0_scrub_27 hl (k := 1) rfl (nI_1 _) (by decide) rfl (fun ls hl => ?_)
            refine lv_goto (tgt := 8) K.1.1 K.1.2.1 dX0_scrub_30 (by decide) ?_
            exact ih (j + 1) H locs ls (by omega) (by omega) I (lv_sub hl [0, 2, 3] rfl)
          · skip
            exact absurd rfl h2
  exact lp 13 0 _ _ ls (by omega) (by omega) I hl
theorem c_durableGood (l : Launch) {S : St} {a b n j : Nat} (h : Ok S a b n) (hj : j < 12) : Cti l wX yX0_durableGood cX0_durableGood 4 .boolean 2 [.int (nI j)] S S (b2 (dgB S j)) := by
  refine ctI_of (by decide) (b2_nar _) (Nat.le_of_ble_eq_true rfl) ?_
  intro p e s m args below meth c D d z h0 ad A Q ls K I hl hQ
  have K : Kx p m c s args D d z A RX0 cX0_durableGood 4 := K
  obtain ⟨ho, ea, eb, e10, hab, hb, hn⟩ := h
  unfold dgB at hQ
  have hl : lv_has ls 4 [(0, .ref h0), (1, .int (nI j))] := hl
  refine lv_aload_n K.1.1 K.1.2.1 dX0_durableGood_0 rfl (lv_at hl 0 rfl) ?_
  refine lv_iload_n K.1.1 K.1.2.1 dX0_durableGood_1 rfl (lv_at hl 1 rfl) ?_
  refine il_callI (qc := (RX0, TX0, 14)) (ci := 0) 1 K I hl.1 (c_newestJournaled l ho ea eb hab (by omega) (nI j)) (lw_V q162 q164 qs13 q19 q165) (by decide +kernel) rfl rfl ⟨by decide, by decide⟩ rfl rfl (Nat.le_of_ble_eq_true rfl) ⟨Nat.le_refl _, Nat.le_refl _⟩ dX0_durableGood_2 (fun H locs I => ?_)
  refine lv_istore_n (lv' := [(2, .int (njF S (nI j))), (0, .ref h0), (1, .int (nI j))]) K.1.1 K.1.2.1 dX0_durableGood_5 rfl hl (by decide) rfl (fun ls hl => ?_)
  refine lv_iload_n K.1.1 K.1.2.1 dX0_durableGood_6 rfl (lv_at hl 0 rfl) ?_
  refine lv_if_lt (tgt := 12) K.1.1 K.1.2.1 dX0_durableGood_7 (by decide) (fun h => ?_) (fun h => ?_)
  · rw [if_pos h] at hQ
    refine lv_aload_n K.1.1 K.1.2.1 dX0_durableGood_12 rfl (lv_at hl 1 rfl) ?_
    refine lv_iload_n K.1.1 K.1.2.1 dX0_durableGood_13 rfl (lv_at hl 2 rfl) ?_
    refine il_callI (qc := (RX0, TX0, 14)) (ci := 0) 1 K I hl.1 (c_isDamaged l hj) (lw_V q142 q144 qs10 q19 q145) (by decide +kernel) rfl rfl ⟨by decide, by decide⟩ rfl rfl (Nat.le_of_ble_eq_true rfl) ⟨Nat.le_refl _, Nat.le_refl _⟩ dX0_durableGood_14 (fun H locs I => ?_)
    refine lv_istore_n (lv' := [(3, .int (b2 (dmB S j))), (2, .int (njF S (nI j))), (0, .ref h0), (1, .int (nI j))]) K.1.1 K.1.2.1 dX0_durableGood_17 rfl hl (by decide) rfl (fun ls hl => ?_)
    refine lv_iload_n K.1.1 K.1.2.1 dX0_durableGood_18 rfl (lv_at hl 0 rfl) ?_
    refine lv_if_ne (tgt := 26) K.1.1 K.1.2.1 dX0_durableGood_19 (by decide) (fun h2 => ?_) (fun h2 => ?_)
    · refine lv_iconst (v := 0) K.1.1 K.1.2.1 dX0_durableGood_26 (by decide) ?_
      exact hQ _ _ _ _ _ (by cases hd : dmB S j with | true => rfl | false => rw [hd] at h2; exact absurd rfl h2) I dX0_durableGood_27
    · skip
      refine lv_iconst (v := 1) K.1.1 K.1.2.1 dX0_durableGood_22 (by decide) ?_
      refine lv_goto (tgt := 27) K.1.1 K.1.2.1 dX0_durableGood_23 (by decide) ?_
      exact hQ _ _ _ _ _ (by cases hd : dmB S j with | false => rfl | true => rw [hd] at h2; exact absurd h2 (by decide)) I dX0_durableGood_27
  · skip
    rw [if_neg h] at hQ
    refine lv_iconst (v := 1) K.1.1 K.1.2.1 dX0_durableGood_10 (by decide) ?_
    exact hQ _ _ _ _ _ rfl I dX0_durableGood_11
theorem c_durableValue (l : Launch) {S : St} {a b n j : Nat} (h : Ok S a b n) (hj : j < 12) : Cti l wX yX0_durableValue cX0_durableValue 3 .int 1 [.int (nI j)] S S (dvF S j) := by
  refine ctI_of (by decide) rfl (Nat.le_of_ble_eq_true rfl) ?_
  intro p e s m args below meth c D d z h0 ad A Q ls K I hl hQ
  have K : Kx p m c s args D d z A RX0 cX0_durableValue 3 := K
  obtain ⟨ho, ea, eb, e10, hab, hb, hn⟩ := h
  unfold dvF at hQ
  have hl : lv_has ls 3 [(0, .ref h0), (1, .int (nI j))] := hl
  rcases njF_range ho (nI j) with hw | ⟨i, hi, hw, -⟩
  · rw [hw, if_pos (by decide)] at hQ
    refine lv_aload_n K.1.1 K.1.2.1 dX0_durableValue_0 rfl (lv_at hl 0 rfl) ?_
    refine lv_iload_n K.1.1 K.1.2.1 dX0_durableValue_1 rfl (lv_at hl 1 rfl) ?_
    refine il_callI (qc := (RX0, TX0, 14)) (ci := 0) 1 K I hl.1 (c_newestJournaled l ho ea eb hab (by omega) (nI j)) (lw_V q162 q164 qs13 q19 q165) (by decide +kernel) rfl rfl ⟨by decide, by decide⟩ rfl rfl (Nat.le_of_ble_eq_true rfl) ⟨Nat.le_refl _, Nat.le_refl _⟩ dX0_durableValue_2 (fun H locs I => ?_)
    refine il_top (y := (-1)) (hw) ?_
    refine lv_istore_n (lv' := [(2, .int ((-1))), (0, .ref h0), (1, .int (nI j))]) K.1.1 K.1.2.1 dX0_durableValue_5 rfl hl (by decide) rfl (fun ls hl => ?_)
    refine lv_iload_n K.1.1 K.1.2.1 dX0_durableValue_6 rfl (lv_at hl 0 rfl) ?_
    refine lv_if_lt (tgt := 19) K.1.1 K.1.2.1 dX0_durableValue_7 (by decide) (fun h => ?_) (fun h => ?_)
    · refine lv_aload_n K.1.1 K.1.2.1 dX0_durableValue_19 rfl (lv_at hl 1 rfl) ?_
      refine gX_home K I dX0_durableValue_20 ?_
      refine lv_iload_n K.1.1 K.1.2.1 dX0_durableValue_23 rfl (lv_at hl 2 rfl) ?_
      refine lX_home (i := j) K I rfl (by omega) dX0_durableValue_24 ?_
      exact hQ _ _ _ _ _ rfl I dX0_durableValue_25
    · skip
      exact absurd (by decide) h
  · rw [hw, if_neg (nI_pos (by omega)), ih_cl (by omega)] at hQ
    refine lv_aload_n K.1.1 K.1.2.1 dX0_durableValue_0 rfl (lv_at hl 0 rfl) ?_
    refine lv_iload_n K.1.1 K.1.2.1 dX0_durableValue_1 rfl (lv_at hl 1 rfl) ?_
    refine il_callI (qc := (RX0, TX0, 14)) (ci := 0) 1 K I hl.1 (c_newestJournaled l ho ea eb hab (by omega) (nI j)) (lw_V q162 q164 qs13 q19 q165) (by decide +kernel) rfl rfl ⟨by decide, by decide⟩ rfl rfl (Nat.le_of_ble_eq_true rfl) ⟨Nat.le_refl _, Nat.le_refl _⟩ dX0_durableValue_2 (fun H locs I => ?_)
    refine il_top (y := nI i) (hw) ?_
    refine lv_istore_n (lv' := [(2, .int (nI i)), (0, .ref h0), (1, .int (nI j))]) K.1.1 K.1.2.1 dX0_durableValue_5 rfl hl (by decide) rfl (fun ls hl => ?_)
    refine lv_iload_n K.1.1 K.1.2.1 dX0_durableValue_6 rfl (lv_at hl 0 rfl) ?_
    refine lv_if_lt (tgt := 19) K.1.1 K.1.2.1 dX0_durableValue_7 (by decide) (fun h => ?_) (fun h => ?_)
    · exact absurd h (nI_pos (by omega))
    · skip
      refine lv_aload_n K.1.1 K.1.2.1 dX0_durableValue_10 rfl (lv_at hl 1 rfl) ?_
      refine gX_slotValue K I dX0_durableValue_11 ?_
      refine lv_iload_n K.1.1 K.1.2.1 dX0_durableValue_14 rfl (lv_at hl 0 rfl) ?_
      refine lX_slotValue (i := i) K I rfl (by omega) dX0_durableValue_15 ?_
      refine lv_goto (tgt := 25) K.1.1 K.1.2.1 dX0_durableValue_16 (by decide) ?_
      exact hQ _ _ _ _ _ rfl I dX0_durableValue_25
theorem c_read (l : Launch) {S : St} {a b n : Nat} (h : Ok S a b n) (x : Int32) : Cti l wX yX0_read cX0_read 4 .int 3 [.int x] S S (rdR S x) := by
  refine ctI_of (by decide) rfl (Nat.le_of_ble_eq_true rfl) ?_
  intro p e s m args below meth c D d z h0 ad A Q ls K I hl hQ
  have K : Kx p m c s args D d z A RX0 cX0_read 4 := K
  have h9 := h
  obtain ⟨ho, ea, eb, e10, hab, hb, hn⟩ := h
  unfold rdR at hQ
  have hl : lv_has ls 4 [(0, .ref h0), (1, .int x)] := hl
  cases hbd : badB x with
  | true =>
    simp only [hbd, if_true] at hQ
    refine lv_iload_n K.1.1 K.1.2.1 dX0_read_0 rfl (lv_at hl 1 rfl) ?_
    refine il_callS 1 K I hl.1 (c_bad l x) (lw_S q83 q84 q19 q85) (by decide +kernel) ⟨by decide, by decide⟩ rfl rfl (Nat.le_of_ble_eq_true rfl) ⟨Nat.le_refl _, Nat.le_refl _⟩ dX0_read_1 (fun H locs I => ?_)
    refine il_top (y := 1) (by rw [hbd]; rfl) ?_
    refine lv_if_eq (tgt := 9) K.1.1 K.1.2.1 dX0_read_4 (by decide) (fun h => ?_) (fun h => ?_)
    · exact absurd h (by decide)
    · skip
      refine lv_iconst (v := 0) K.1.1 K.1.2.1 dX0_read_7 (by decide) ?_
      exact hQ _ _ _ _ _ rfl I dX0_read_8
  | false =>
    simp only [hbd, if_neg (show ¬ (false = true) by decide)] at hQ
    obtain ⟨j, hj, rfl⟩ := badB_f hbd
    rw [ih_cl (n := j) (by omega)] at hQ
    refine lv_iload_n K.1.1 K.1.2.1 dX0_read_0 rfl (lv_at hl 1 rfl) ?_
    refine il_callS 1 K I hl.1 (c_bad l (nI j)) (lw_S q83 q84 q19 q85) (by decide +kernel) ⟨by decide, by decide⟩ rfl rfl (Nat.le_of_ble_eq_true rfl) ⟨Nat.le_refl _, Nat.le_refl _⟩ dX0_read_1 (fun H locs I => ?_)
    refine il_top (y := 0) (by rw [hbd]; rfl) ?_
    refine lv_if_eq (tgt := 9) K.1.1 K.1.2.1 dX0_read_4 (by decide) (fun h => ?_) (fun h => ?_)
    · skip
      rcases nwF_range hn e10 (nI j) with hw | ⟨i, hi, hw, -⟩
      · rw [hw, if_pos (by decide)] at hQ
        refine lv_aload_n K.1.1 K.1.2.1 dX0_read_9 rfl (lv_at hl 0 rfl) ?_
        refine lv_iload_n K.1.1 K.1.2.1 dX0_read_10 rfl (lv_at hl 1 rfl) ?_
        refine il_callI (qc := (RX0, TX0, 14)) (ci := 0) 1 K I hl.1 (c_newestWaiting l hn e10 (nI j)) (lw_V q154 q156 qs11 q19 q157) (by decide +kernel) rfl rfl ⟨by decide, by decide⟩ rfl rfl (Nat.le_of_ble_eq_true rfl) ⟨Nat.le_refl _, Nat.le_refl _⟩ dX0_read_11 (fun H locs I => ?_)
        refine il_top (y := (-1)) (hw) ?_
        refine lv_istore_n (lv' := [(2, .int ((-1))), (0, .ref h0), (1, .int (nI j))]) K.1.1 K.1.2.1 dX0_read_14 rfl hl (by decide) rfl (fun ls hl => ?_)
        refine lv_iload_n K.1.1 K.1.2.1 dX0_read_15 rfl (lv_at hl 0 rfl) ?_
        refine lv_if_lt (tgt := 26) K.1.1 K.1.2.1 dX0_read_16 (by decide) (fun h2 => ?_) (fun h2 => ?_)
        · refine lv_aload_n K.1.1 K.1.2.1 dX0_read_26 rfl (lv_at hl 1 rfl) ?_
          refine lv_iload_n K.1.1 K.1.2.1 dX0_read_27 rfl (lv_at hl 2 rfl) ?_
          refine il_callI (qc := (RX0, TX0, 14)) (ci := 0) 1 K I hl.1 (c_durableGood l h9 hj) (lw_V q158 q160 qs12 q19 q161) (by decide +kernel) rfl rfl ⟨by decide, by decide⟩ rfl rfl (Nat.le_of_ble_eq_true rfl) ⟨Nat.le_refl _, Nat.le_refl _⟩ dX0_read_28 (fun H locs I => ?_)
          refine lv_istore_n (lv' := [(3, .int (b2 (dgB S j))), (2, .int ((-1))), (0, .ref h0), (1, .int (nI j))]) K.1.1 K.1.2.1 dX0_read_31 rfl hl (by decide) rfl (fun ls hl => ?_)
          refine lv_iload_n K.1.1 K.1.2.1 dX0_read_32 rfl (lv_at hl 0 rfl) ?_
          refine lv_if_eq (tgt := 44) K.1.1 K.1.2.1 dX0_read_33 (by decide) (fun h3 => ?_) (fun h3 => ?_)
          · refine lv_iconst (v := 0) K.1.1 K.1.2.1 dX0_read_44 (by decide) ?_
            exact hQ _ _ _ _ _ (by cases hd : dgB S j with | false => rfl | true => rw [hd] at h3; exact absurd h3 (by decide)) I dX0_read_45
          · skip
            refine lv_aload_n K.1.1 K.1.2.1 dX0_read_36 rfl (lv_at hl 2 rfl) ?_
            refine lv_iload_n K.1.1 K.1.2.1 dX0_read_37 rfl (lv_at hl 3 rfl) ?_
            refine il_callI (qc := (RX0, TX0, 14)) (ci := 0) 1 K I hl.1 (c_durableValue l h9 hj) (lw_V q166 q168 qs14 q19 q169) (by decide +kernel) rfl rfl ⟨by decide, by decide⟩ rfl rfl (Nat.le_of_ble_eq_true rfl) ⟨Nat.le_refl _, Nat.le_refl _⟩ dX0_read_38 (fun H locs I => ?_)
            refine lv_goto (tgt := 45) K.1.1 K.1.2.1 dX0_read_41 (by decide) ?_
            exact hQ _ _ _ _ _ (by cases hd : dgB S j with | true => rfl | false => rw [hd] at h3; exact absurd rfl h3) I dX0_read_45
        · skip
          exact absurd (by decide) h2
      · rw [hw, if_neg (nI_pos (by omega)), ih_cl (by omega)] at hQ
        refine lv_aload_n K.1.1 K.1.2.1 dX0_read_9 rfl (lv_at hl 0 rfl) ?_
        refine lv_iload_n K.1.1 K.1.2.1 dX0_read_10 rfl (lv_at hl 1 rfl) ?_
        refine il_callI (qc := (RX0, TX0, 14)) (ci := 0) 1 K I hl.1 (c_newestWaiting l hn e10 (nI j)) (lw_V q154 q156 qs11 q19 q157) (by decide +kernel) rfl rfl ⟨by decide, by decide⟩ rfl rfl (Nat.le_of_ble_eq_true rfl) ⟨Nat.le_refl _, Nat.le_refl _⟩ dX0_read_11 (fun H locs I => ?_)
        refine il_top (y := nI i) (hw) ?_
        refine lv_istore_n (lv' := [(2, .int (nI i)), (0, .ref h0), (1, .int (nI j))]) K.1.1 K.1.2.1 dX0_read_14 rfl hl (by decide) rfl (fun ls hl => ?_)
        refine lv_iload_n K.1.1 K.1.2.1 dX0_read_15 rfl (lv_at hl 0 rfl) ?_
        refine lv_if_lt (tgt := 26) K.1.1 K.1.2.1 dX0_read_16 (by decide) (fun h2 => ?_) (fun h2 => ?_)
        · exact absurd h2 (nI_pos (by omega))
        · skip
          refine lv_aload_n K.1.1 K.1.2.1 dX0_read_19 rfl (lv_at hl 1 rfl) ?_
          refine gX_waitValue K I dX0_read_20 ?_
          refine lv_iload_n K.1.1 K.1.2.1 dX0_read_23 rfl (lv_at hl 0 rfl) ?_
          refine lX_waitValue (i := i) K I rfl (by omega) dX0_read_24 ?_
          exact hQ _ _ _ _ _ rfl I dX0_read_25
    · skip
      exact absurd rfl h
theorem c_readable (l : Launch) {S : St} {a b n : Nat} (h : Ok S a b n) (x : Int32) : Cti l wX yX0_readable cX0_readable 3 .boolean 3 [.int x] S S (b2 (rbB S x)) := by
  refine ctI_of (by decide) (b2_nar _) (Nat.le_of_ble_eq_true rfl) ?_
  intro p e s m args below meth c D d z h0 ad A Q ls K I hl hQ
  have K : Kx p m c s args D d z A RX0 cX0_readable 3 := K
  have h9 := h
  obtain ⟨ho, ea, eb, e10, hab, hb, hn⟩ := h
  unfold rbB at hQ
  have hl : lv_has ls 3 [(0, .ref h0), (1, .int x)] := hl
  cases hbd : badB x with
  | true =>
    simp only [hbd, if_true] at hQ
    refine lv_iload_n K.1.1 K.1.2.1 dX0_readable_0 rfl (lv_at hl 1 rfl) ?_
    refine il_callS 1 K I hl.1 (c_bad l x) (lw_S q83 q84 q19 q85) (by decide +kernel) ⟨by decide, by decide⟩ rfl rfl (Nat.le_of_ble_eq_true rfl) ⟨Nat.le_refl _, Nat.le_refl _⟩ dX0_readable_1 (fun H locs I => ?_)
    refine il_top (y := 1) (by rw [hbd]; rfl) ?_
    refine lv_if_eq (tgt := 9) K.1.1 K.1.2.1 dX0_readable_4 (by decide) (fun h => ?_) (fun h => ?_)
    · exact absurd h (by decide)
    · skip
      refine lv_iconst (v := 0) K.1.1 K.1.2.1 dX0_readable_7 (by decide) ?_
      exact hQ _ _ _ _ _ rfl I dX0_readable_8
  | false =>
    simp only [hbd, if_neg (show ¬ (false = true) by decide)] at hQ
    obtain ⟨j, hj, rfl⟩ := badB_f hbd
    rw [ih_cl (n := j) (by omega)] at hQ
    refine lv_iload_n K.1.1 K.1.2.1 dX0_readable_0 rfl (lv_at hl 1 rfl) ?_
    refine il_callS 1 K I hl.1 (c_bad l (nI j)) (lw_S q83 q84 q19 q85) (by decide +kernel) ⟨by decide, by decide⟩ rfl rfl (Nat.le_of_ble_eq_true rfl) ⟨Nat.le_refl _, Nat.le_refl _⟩ dX0_readable_1 (fun H locs I => ?_)
    refine il_top (y := 0) (by rw [hbd]; rfl) ?_
    refine lv_if_eq (tgt := 9) K.1.1 K.1.2.1 dX0_readable_4 (by decide) (fun h => ?_) (fun h => ?_)
    · skip
      rcases nwF_range hn e10 (nI j) with hw | ⟨i, hi, hw, -⟩
      · rw [hw, if_pos (by decide)] at hQ
        refine lv_aload_n K.1.1 K.1.2.1 dX0_readable_9 rfl (lv_at hl 0 rfl) ?_
        refine lv_iload_n K.1.1 K.1.2.1 dX0_readable_10 rfl (lv_at hl 1 rfl) ?_
        refine il_callI (qc := (RX0, TX0, 14)) (ci := 0) 1 K I hl.1 (c_newestWaiting l hn e10 (nI j)) (lw_V q154 q156 qs11 q19 q157) (by decide +kernel) rfl rfl ⟨by decide, by decide⟩ rfl rfl (Nat.le_of_ble_eq_true rfl) ⟨Nat.le_refl _, Nat.le_refl _⟩ dX0_readable_11 (fun H locs I => ?_)
        refine il_top (y := (-1)) (hw) ?_
        refine lv_istore_n (lv' := [(2, .int ((-1))), (0, .ref h0), (1, .int (nI j))]) K.1.1 K.1.2.1 dX0_readable_14 rfl hl (by decide) rfl (fun ls hl => ?_)
        refine lv_iload_n K.1.1 K.1.2.1 dX0_readable_15 rfl (lv_at hl 0 rfl) ?_
        refine lv_if_ge (tgt := 27) K.1.1 K.1.2.1 dX0_readable_16 (by decide) (fun h2 => ?_) (fun h2 => ?_)
        · exact absurd h2 (by decide)
        · skip
          refine lv_aload_n K.1.1 K.1.2.1 dX0_readable_19 rfl (lv_at hl 1 rfl) ?_
          refine lv_iload_n K.1.1 K.1.2.1 dX0_readable_20 rfl (lv_at hl 2 rfl) ?_
          refine il_callI (qc := (RX0, TX0, 14)) (ci := 0) 1 K I hl.1 (c_durableGood l h9 hj) (lw_V q158 q160 qs12 q19 q161) (by decide +kernel) rfl rfl ⟨by decide, by decide⟩ rfl rfl (Nat.le_of_ble_eq_true rfl) ⟨Nat.le_refl _, Nat.le_refl _⟩ dX0_readable_21 (fun H locs I => ?_)
          refine lv_if_eq (tgt := 31) K.1.1 K.1.2.1 dX0_readable_24 (by decide) (fun h3 => ?_) (fun h3 => ?_)
          · refine lv_iconst (v := 0) K.1.1 K.1.2.1 dX0_readable_31 (by decide) ?_
            exact hQ _ _ _ _ _ (by cases hd : dgB S j with | false => rfl | true => rw [hd] at h3; exact absurd h3 (by decide)) I dX0_readable_32
          · skip
            refine lv_iconst (v := 1) K.1.1 K.1.2.1 dX0_readable_27 (by decide) ?_
            refine lv_goto (tgt := 32) K.1.1 K.1.2.1 dX0_readable_28 (by decide) ?_
            exact hQ _ _ _ _ _ (by cases hd : dgB S j with | true => rfl | false => rw [hd] at h3; exact absurd rfl h3) I dX0_readable_32
      · rw [hw, if_neg (nI_pos (by omega))] at hQ
        refine lv_aload_n K.1.1 K.1.2.1 dX0_readable_9 rfl (lv_at hl 0 rfl) ?_
        refine lv_iload_n K.1.1 K.1.2.1 dX0_readable_10 rfl (lv_at hl 1 rfl) ?_
        refine il_callI (qc := (RX0, TX0, 14)) (ci := 0) 1 K I hl.1 (c_newestWaiting l hn e10 (nI j)) (lw_V q154 q156 qs11 q19 q157) (by decide +kernel) rfl rfl ⟨by decide, by decide⟩ rfl rfl (Nat.le_of_ble_eq_true rfl) ⟨Nat.le_refl _, Nat.le_refl _⟩ dX0_readable_11 (fun H locs I => ?_)
        refine il_top (y := nI i) (hw) ?_
        refine lv_istore_n (lv' := [(2, .int (nI i)), (0, .ref h0), (1, .int (nI j))]) K.1.1 K.1.2.1 dX0_readable_14 rfl hl (by decide) rfl (fun ls hl => ?_)
        refine lv_iload_n K.1.1 K.1.2.1 dX0_readable_15 rfl (lv_at hl 0 rfl) ?_
        refine lv_if_ge (tgt := 27) K.1.1 K.1.2.1 dX0_readable_16 (by decide) (fun h2 => ?_) (fun h2 => ?_)
        · refine lv_iconst (v := 1) K.1.1 K.1.2.1 dX0_readable_27 (by decide) ?_
          refine lv_goto (tgt := 32) K.1.1 K.1.2.1 dX0_readable_28 (by decide) ?_
          exact hQ _ _ _ _ _ rfl I dX0_readable_32
        · skip
          exact absurd (nI_pos' (by omega)) h2
    · skip
      exact absurd rfl h
theorem c_atRisk (l : Launch) {S : St} {a b n : Nat} (h : Ok S a b n) : Cti l wX yX0_atRisk cX0_atRisk 6 .int 3 [] S S (nI (arN S 12)) := by
  refine ctI_of (by decide) rfl (Nat.le_of_ble_eq_true rfl) ?_
  intro p e s m args below meth c D d z h0 ad A Q ls K I hl hQ
  have K : Kx p m c s args D d z A RX0 cX0_atRisk 6 := K
  have h9 := h
  obtain ⟨ho, ea, eb, e10, hab, hb, hn⟩ := h
  have hl : lv_has ls 6 [(0, .ref h0)] := hl
  refine lv_iconst (v := 0) K.1.1 K.1.2.1 dX0_atRisk_0 (by decide) ?_
  refine il_top (y := nI (arN S 0)) (rfl) ?_
  refine lv_istore_n (lv' := [(1, .int (nI (arN S 0))), (0, .ref h0)]) K.1.1 K.1.2.1 dX0_atRisk_1 rfl hl (by decide) rfl (fun ls hl => ?_)
  refine lv_iconst (v := 0) K.1.1 K.1.2.1 dX0_atRisk_2 (by decide) ?_
  refine il_top (y := nI 0) (rfl) ?_
  refine lv_istore_n (lv' := [(2, .int (nI 0)), (1, .int (nI (arN S 0))), (0, .ref h0)]) K.1.1 K.1.2.1 dX0_atRisk_3 rfl hl (by decide) rfl (fun ls hl => ?_)
  have lp : ∀ (f j : Nat) (H : Heap) (locs : List Loc) (ls : Array Slot), j ≤ 12 → 12 < j + f → Iw D A s (wX d z h0 ad S) H locs → lv_has ls 6 [(2, .int (nI j)), (1, .int (nI (arN S j))), (0, .ref h0)] → W p l e (rk 3) s m args below meth c H locs 0 0 Q (F0 m 4 ls []) := by
    intro f
    induction f with
    | zero => intro j H locs ls h1 h2; exact absurd h2 (by omega)
    | succ f ih =>
      intro j H locs ls h1 h2 I hl
      refine lv_iload_n K.1.1 K.1.2.1 dX0_atRisk_4 rfl (lv_at hl 0 rfl) ?_
      refine lv_bipush (v := 12) K.1.1 K.1.2.1 dX0_atRisk_5 (by decide) ?_
      refine lv_icmp_ge (tgt := 59) K.1.1 K.1.2.1 dX0_atRisk_7 (by decide) (fun h => ?_) (fun h => ?_)
      · have h : 12 ≤ j := (nI_leI (a := 12) (by decide) (by omega)).mp h
        have e : j = 12 := by omega
        subst e
        refine lv_iload_n K.1.1 K.1.2.1 dX0_atRisk_59 rfl (lv_at hl 1 rfl) ?_
        exact hQ _ _ _ _ _ rfl I dX0_atRisk_60
      · skip
        have h : ¬ 12 ≤ j := fun q => h ((nI_leI (a := 12) (by decide) (by omega)).mpr q)
        have yes : ar1 S j = true → ∀ (H : Heap) (locs : List Loc) (ls : Array Slot), Iw D A s (wX d z h0 ad S) H locs → lv_has ls 6 [(2, .int (nI j)), (1, .int (nI (arN S j))), (0, .ref h0)] → W p l e (rk 3) s m args below meth c H locs 0 0 Q (F0 m 50 ls []) := by
          intro hy H locs ls I hl
          refine lv_iinc (v := (nI (arN S (j + 1)))) (lv' := [(1, .int (nI (arN S (j + 1)))), (2, .int (nI j)), (0, .ref h0)]) K.1.1 K.1.2.1 dX0_atRisk_50 hl (k := 1) rfl (by show nI _ + 1 = nI (if ar1 S j = true then arN S j + 1 else arN S j); rw [if_pos hy]; exact nI_1 _) (by decide) rfl (fun ls hl => ?_)
          refine lv_iinc (v := (nI (j + 1))) (lv' := [(2, .int (nI (j + 1))), (1, .int (nI (arN S (j + 1)))), (0, .ref h0)]) K.1.1 K.1.2.1 dX0_atRisk_53 hl (k := 1) rfl (nI_1 _) (by decide) rfl (fun ls hl => ?_)
          refine lv_goto (tgt := 4) K.1.1 K.1.2.1 dX0_atRisk_56 (by decide) ?_
          exact ih (j + 1) H locs ls (by omega) (by omega) I hl
        have no : ar1 S j = false → ∀ (H : Heap) (locs : List Loc) (ls : Array Slot), Iw D A s (wX d z h0 ad S) H locs → lv_has ls 6 [(2, .int (nI j)), (1, .int (nI (arN S j))), (0, .ref h0)] → W p l e (rk 3) s m args below meth c H locs 0 0 Q (F0 m 53 ls []) := by
          intro hy H locs ls I hl
          have e : arN S j = arN S (j + 1) := by
            show _ = if ar1 S j = true then arN S j + 1 else arN S j
            rw [if_neg (by rw [hy]; decide)]
          rw [e] at hl
          refine lv_iinc (v := (nI (j + 1))) (lv' := [(2, .int (nI (j + 1))), (1, .int (nI (arN S (j + 1)))), (0, .ref h0)]) K.1.1 K.1.2.1 dX0_atRisk_53 hl (k := 0) rfl (nI_1 _) (by decide) rfl (fun ls hl => ?_)
          refine lv_goto (tgt := 4) K.1.1 K.1.2.1 dX0_atRisk_56 (by decide) ?_
          exact ih (j + 1) H locs ls (by omega) (by omega) I hl
        have er : ar1 S j = if nwF S (nI j) < 0 then false else !(dgB S j) || decide (¬ dvF S j = S 12 (cl (nwF S (nI j)))) := rfl
        rcases nwF_range hn e10 (nI j) with hw | ⟨i, hi, hw, -⟩
        · rw [hw, if_pos (by decide)] at er
          refine lv_aload_n K.1.1 K.1.2.1 dX0_atRisk_10 rfl (lv_at hl 2 rfl) ?_
          refine lv_iload_n K.1.1 K.1.2.1 dX0_atRisk_11 rfl (lv_at hl 0 rfl) ?_
          refine il_callI (qc := (RX0, TX0, 14)) (ci := 0) 1 K I hl.1 (c_newestWaiting l hn e10 (nI j)) (lw_V q154 q156 qs11 q19 q157) (by decide +kernel) rfl rfl ⟨by decide, by decide⟩ rfl rfl (Nat.le_of_ble_eq_true rfl) ⟨Nat.le_refl _, Nat.le_refl _⟩ dX0_atRisk_12 (fun H locs I => ?_)
          refine il_top (y := (-1)) (hw) ?_
          refine lv_istore_n (lv' := [(3, .int ((-1))), (2, .int (nI j)), (1, .int (nI (arN S j))), (0, .ref h0)]) K.1.1 K.1.2.1 dX0_atRisk_15 rfl hl (by decide) rfl (fun ls hl => ?_)
          refine lv_iload_n K.1.1 K.1.2.1 dX0_atRisk_16 rfl (lv_at hl 0 rfl) ?_
          refine lv_if_lt (tgt := 53) K.1.1 K.1.2.1 dX0_atRisk_17 (by decide) (fun h3 => ?_) (fun h3 => ?_)
          · exact no er H locs ls I (lv_sub hl [1, 2, 3] rfl)
          · skip
            exact absurd (by decide) h3
        · rw [hw, if_neg (nI_pos (by omega)), ih_cl (by omega)] at er
          refine lv_aload_n K.1.1 K.1.2.1 dX0_atRisk_10 rfl (lv_at hl 2 rfl) ?_
          refine lv_iload_n K.1.1 K.1.2.1 dX0_atRisk_11 rfl (lv_at hl 0 rfl) ?_
          refine il_callI (qc := (RX0, TX0, 14)) (ci := 0) 1 K I hl.1 (c_newestWaiting l hn e10 (nI j)) (lw_V q154 q156 qs11 q19 q157) (by decide +kernel) rfl rfl ⟨by decide, by decide⟩ rfl rfl (Nat.le_of_ble_eq_true rfl) ⟨Nat.le_refl _, Nat.le_refl _⟩ dX0_atRisk_12 (fun H locs I => ?_)
          refine il_top (y := nI i) (hw) ?_
          refine lv_istore_n (lv' := [(3, .int (nI i)), (2, .int (nI j)), (1, .int (nI (arN S j))), (0, .ref h0)]) K.1.1 K.1.2.1 dX0_atRisk_15 rfl hl (by decide) rfl (fun ls hl => ?_)
          refine lv_iload_n K.1.1 K.1.2.1 dX0_atRisk_16 rfl (lv_at hl 0 rfl) ?_
          refine lv_if_lt (tgt := 53) K.1.1 K.1.2.1 dX0_atRisk_17 (by decide) (fun h3 => ?_) (fun h3 => ?_)
          · exact absurd h3 (nI_pos (by omega))
          · skip
            refine lv_aload_n K.1.1 K.1.2.1 dX0_atRisk_20 rfl (lv_at hl 3 rfl) ?_
            refine lv_iload_n K.1.1 K.1.2.1 dX0_atRisk_21 rfl (lv_at hl 1 rfl) ?_
            refine il_callI (qc := (RX0, TX0, 14)) (ci := 0) 1 K I hl.1 (c_durableGood l h9 (by omega)) (lw_V q158 q160 qs12 q19 q161) (by decide +kernel) rfl rfl ⟨by decide, by decide⟩ rfl rfl (Nat.le_of_ble_eq_true rfl) ⟨Nat.le_refl _, Nat.le_refl _⟩ dX0_atRisk_22 (fun H locs I => ?_)
            refine lv_istore (lv' := [(4, .int (b2 (dgB S j))), (3, .int (nI i)), (2, .int (nI j)), (1, .int (nI (arN S j))), (0, .ref h0)]) K.1.1 K.1.2.1 dX0_atRisk_25 hl (by decide) rfl (fun ls hl => ?_)
            refine lv_aload_n K.1.1 K.1.2.1 dX0_atRisk_27 rfl (lv_at hl 4 rfl) ?_
            refine lv_iload_n K.1.1 K.1.2.1 dX0_atRisk_28 rfl (lv_at hl 2 rfl) ?_
            refine il_callI (qc := (RX0, TX0, 14)) (ci := 0) 1 K I hl.1 (c_durableValue l h9 (by omega)) (lw_V q166 q168 qs14 q19 q169) (by decide +kernel) rfl rfl ⟨by decide, by decide⟩ rfl rfl (Nat.le_of_ble_eq_true rfl) ⟨Nat.le_refl _, Nat.le_refl _⟩ dX0_atRisk_29 (fun H locs I => ?_)
            refine lv_istore (lv' := [(5, .int (dvF S j)), (4, .int (b2 (dgB S j))), (3, .int (nI i)), (2, .int (nI j)), (1, .int (nI (arN S j))), (0, .ref h0)]) K.1.1 K.1.2.1 dX0_atRisk_32 hl (by decide) rfl (fun ls hl => ?_)
            refine lv_iload K.1.1 K.1.2.1 dX0_atRisk_34 (lv_at hl 1 rfl) ?_
            refine lv_if_eq (tgt := 50) K.1.1 K.1.2.1 dX0_atRisk_36 (by decide) (fun h5 => ?_) (fun h5 => ?_)
            · refine yes ?_ H locs ls I (lv_sub hl [3, 4, 5] rfl)
              rw [er]
              cases hd : dgB S j with
              | false => rfl
              | true => rw [hd] at h5; exact absurd h5 (by decide)
            · skip
              have hd : dgB S j = true := by
                cases hd : dgB S j with
                | true => rfl
                | false => rw [hd] at h5; exact absurd rfl h5
              rw [hd] at er
              refine lv_iload K.1.1 K.1.2.1 dX0_atRisk_39 (lv_at hl 0 rfl) ?_
              refine lv_aload_n K.1.1 K.1.2.1 dX0_atRisk_41 rfl (lv_at hl 5 rfl) ?_
              refine gX_waitValue K I dX0_atRisk_42 ?_
              refine lv_iload_n K.1.1 K.1.2.1 dX0_atRisk_45 rfl (lv_at hl 2 rfl) ?_
              refine lX_waitValue (i := i) K I rfl (by omega) dX0_atRisk_46 ?_
              refine lv_icmp_eq (tgt := 53) K.1.1 K.1.2.1 dX0_atRisk_47 (by decide) (fun h6 => ?_) (fun h6 => ?_)
              · refine no ?_ H locs ls I (lv_sub hl [3, 4, 5] rfl)
                rw [er]
                simp [h6]
              · skip
                refine yes ?_ H locs ls I (lv_sub hl [3, 4, 5] rfl)
                rw [er]
                simp [h6]
  exact lp 13 0 _ _ ls (by omega) (by omega) I hl
end
section
set_option maxRecDepth 100000
/-! the reference's methods -/
def OkM (M : St) (n : Nat) : Prop := M 2 0 = nI n ∧ n ≤ 20 ∧ ∀ i, vp_in (M 0 i) 12
theorem nar_1 : vp_nar .boolean 1 = 1 := by decide
theorem nar_0 : vp_nar .boolean 0 = 0 := by decide
theorem ctN_of {M : St} {n : Nat} (h : OkM M n) : ctN M = n := by
  unfold ctN
  rw [h.1]
  exact ih_cl (by have := h.2.1; omega)
theorem b2_ne {b : Bool} (h : ¬ b2 b = 0) : b = true := by
  cases b with
  | true => rfl
  | false => exact absurd rfl h
theorem b2_eq {b : Bool} (h : b2 b = 0) : b = false := by
  cases b with
  | false => rfl
  | true => exact absurd h (by decide)
theorem m_isSector (l : Launch) {M : St} (x : Int32) : Cti l wM yX1_isSector cX1_isSector 2 .boolean 0 [.int x] M M (b2 (!(badB x))) := by
  refine ctI_of (by decide) (b2_nar _) (Nat.le_of_ble_eq_true rfl) ?_
  intro p e s m args below meth c D d z h0 ad A Q ls K I hl hQ
  have K : Kx p m c s args D d z A RX1 cX1_isSector 2 := K
  have hl : lv_has ls 2 [(0, .ref h0), (1, .int x)] := hl
  refine lv_iload_n K.1.1 K.1.2.1 dX1_isSector_0 rfl (lv_at hl 1 rfl) ?_
  refine lv_if_lt (tgt := 14) K.1.1 K.1.2.1 dX1_isSector_1 (by decide) (fun h => ?_) (fun h => ?_)
  · refine lv_iconst (v := 0) K.1.1 K.1.2.1 dX1_isSector_14 (by decide) ?_
    exact hQ _ _ _ _ _ (by simp [b2, badB, h]) I dX1_isSector_15
  · skip
    refine lv_iload_n K.1.1 K.1.2.1 dX1_isSector_4 rfl (lv_at hl 1 rfl) ?_
    refine lv_bipush (v := 11) K.1.1 K.1.2.1 dX1_isSector_5 (by decide) ?_
    have e12 : 12 ≤ x ↔ 11 < x := by
      obtain ⟨j, hj, rfl⟩ := nI_of h
      rw [show (12 : Int32) = nI 12 from rfl, show (11 : Int32) = nI 11 from rfl, nI_leI (by decide) hj, nI_ltI (by decide) hj]
      omega
    refine lv_icmp_gt (tgt := 14) K.1.1 K.1.2.1 dX1_isSector_7 (by decide) (fun h2 => ?_) (fun h2 => ?_)
    · refine lv_iconst (v := 0) K.1.1 K.1.2.1 dX1_isSector_14 (by decide) ?_
      exact hQ _ _ _ _ _ (by simp [b2, badB, e12.mpr h2]) I dX1_isSector_15
    · skip
      refine lv_iconst (v := 1) K.1.1 K.1.2.1 dX1_isSector_10 (by decide) ?_
      refine lv_goto (tgt := 15) K.1.1 K.1.2.1 dX1_isSector_11 (by decide) ?_
      exact hQ _ _ _ _ _ (by simp [b2, badB, h, e12, h2]) I dX1_isSector_15
theorem m_write (l : Launch) {M : St} {n : Nat} (h : OkM M n) (x v : Int32) : Cti l wM yX1_write cX1_write 3 .int 1 [.int x, .int v] M (mwF M x v) (mwR M x) := by
  refine ctI_of (by decide) rfl (Nat.le_of_ble_eq_true rfl) ?_
  intro p e s m args below meth c D d z h0 ad A Q ls K I hl hQ
  have K : Kx p m c s args D d z A RX1 cX1_write 3 := K
  have ew := ctN_of h
  obtain ⟨e2, hn, -⟩ := h
  unfold mwF mwR at hQ
  rw [ew] at hQ
  have hl : lv_has ls 3 [(0, .ref h0), (1, .int x), (2, .int v)] := hl
  refine lv_aload_n K.1.1 K.1.2.1 dX1_write_0 rfl (lv_at hl 0 rfl) ?_
  refine lv_iload_n K.1.1 K.1.2.1 dX1_write_1 rfl (lv_at hl 1 rfl) ?_
  refine il_callI (qc := (RX1, TX1, 6)) (ci := 1) 1 K I hl.1 (m_isSector l x) (lw_V q216 q218 qs15 q20 q219) (by decide +kernel) rfl rfl ⟨by decide, by decide⟩ rfl rfl (Nat.le_of_ble_eq_true rfl) ⟨Nat.le_refl _, Nat.le_refl _⟩ dX1_write_2 (fun H locs I => ?_)
  refine lv_if_ne (tgt := 10) K.1.1 K.1.2.1 dX1_write_5 (by decide) (fun h => ?_) (fun h => ?_)
  · have hb : badB x = false := by simpa using b2_ne h
    simp only [hb, if_neg (show ¬ (false = true) by decide)] at hQ
    refine lv_aload_n K.1.1 K.1.2.1 dX1_write_10 rfl (lv_at hl 0 rfl) ?_
    refine gM_count K I dX1_write_11 ?_
    refine il_top (y := nI n) (e2) ?_
    refine lv_bipush (v := 20) K.1.1 K.1.2.1 dX1_write_14 (by decide) ?_
    refine lv_icmp_ne (tgt := 22) K.1.1 K.1.2.1 dX1_write_16 (by decide) (fun h2 => ?_) (fun h2 => ?_)
    · have h2 : ¬ n = 20 := fun q => h2 ((nI_eq (b := 20) (by omega) (by decide)).mpr q)
      refine lv_aload_n K.1.1 K.1.2.1 dX1_write_22 rfl (lv_at hl 0 rfl) ?_
      refine gM_sectors K I dX1_write_23 ?_
      refine lv_aload_n K.1.1 K.1.2.1 dX1_write_26 rfl (lv_at hl 0 rfl) ?_
      refine gM_count K I dX1_write_27 ?_
      refine il_top (y := nI n) (e2) ?_
      refine lv_iload_n K.1.1 K.1.2.1 dX1_write_30 rfl (lv_at hl 1 rfl) ?_
      refine sM_sectors (i := n) K I rfl (by omega) dX1_write_31 (fun H locs I => ?_)
      refine lv_aload_n K.1.1 K.1.2.1 dX1_write_32 rfl (lv_at hl 0 rfl) ?_
      refine gM_values K I dX1_write_33 ?_
      refine lv_aload_n K.1.1 K.1.2.1 dX1_write_36 rfl (lv_at hl 0 rfl) ?_
      refine gM_count K I dX1_write_37 ?_
      refine il_top (y := nI n) (e2) ?_
      refine lv_iload_n K.1.1 K.1.2.1 dX1_write_40 rfl (lv_at hl 2 rfl) ?_
      refine sM_values (i := n) K I rfl (by omega) dX1_write_41 (fun H locs I => ?_)
      refine lv_aload_n K.1.1 K.1.2.1 dX1_write_42 rfl (lv_at hl 0 rfl) ?_
      refine lv_dup K.1.1 K.1.2.1 dX1_write_43 rfl ?_
      refine gM_count K I dX1_write_44 ?_
      refine lv_iconst (v := 1) K.1.1 K.1.2.1 dX1_write_47 (by decide) ?_
      refine lv_iadd K.1.1 K.1.2.1 dX1_write_48 ?_
      refine il_top (y := nI (n + 1)) (by rw [show (sA (sA M 0 n x) 1 n v) 2 0 = nI n from e2]; exact nI_1 n) ?_
      refine pM_count K I dX1_write_49 (fun H locs I => ?_)
      refine lv_aload_n K.1.1 K.1.2.1 dX1_write_52 rfl (lv_at hl 0 rfl) ?_
      refine gM_count K I dX1_write_53 ?_
      simp only [if_neg h2] at hQ
      exact hQ _ _ _ _ _ rfl I dX1_write_56
    · skip
      have h2 : n = 20 := (nI_eq (b := 20) (by omega) (by decide)).mp h2
      refine lv_bipush (v := (-2)) K.1.1 K.1.2.1 dX1_write_19 (by decide) ?_
      simp only [if_pos h2] at hQ
      exact hQ _ _ _ _ _ rfl I dX1_write_21
  · skip
    have hb : badB x = true := by simpa using b2_eq h
    simp only [hb, if_true] at hQ
    refine lv_iconst (v := (-1)) K.1.1 K.1.2.1 dX1_write_8 (by decide) ?_
    exact hQ _ _ _ _ _ rfl I dX1_write_9
theorem m_adjusted (l : Launch) {M : St} {n : Nat} (h : OkM M n) (x : Int32) : Cti l wM yX1_adjusted cX1_adjusted 2 .int 0 [.int x] M M (nI (clN n x)) := by
  refine ctI_of (by decide) rfl (Nat.le_of_ble_eq_true rfl) ?_
  intro p e s m args below meth c D d z h0 ad A Q ls K I hl hQ
  have K : Kx p m c s args D d z A RX1 cX1_adjusted 2 := K
  obtain ⟨e2, hn, -⟩ := h
  have hn2 : n < 2 ^ 31 := by omega
  have hl : lv_has ls 2 [(0, .ref h0), (1, .int x)] := hl
  refine lv_iload_n K.1.1 K.1.2.1 dX1_adjusted_0 rfl (lv_at hl 1 rfl) ?_
  refine lv_if_ge (tgt := 6) K.1.1 K.1.2.1 dX1_adjusted_1 (by decide) (fun h => ?_) (fun h => ?_)
  · refine lv_iload_n K.1.1 K.1.2.1 dX1_adjusted_6 rfl (lv_at hl 1 rfl) ?_
    refine lv_aload_n K.1.1 K.1.2.1 dX1_adjusted_7 rfl (lv_at hl 0 rfl) ?_
    refine gM_count K I dX1_adjusted_8 ?_
    refine il_top (y := nI n) (e2) ?_
    refine lv_icmp_le (tgt := 21) K.1.1 K.1.2.1 dX1_adjusted_11 (by decide) (fun h2 => ?_) (fun h2 => ?_)
    · refine lv_iload_n K.1.1 K.1.2.1 dX1_adjusted_21 rfl (lv_at hl 1 rfl) ?_
      exact hQ _ _ _ _ _ (clN_in hn2 h h2) I dX1_adjusted_22
    · skip
      refine lv_aload_n K.1.1 K.1.2.1 dX1_adjusted_14 rfl (lv_at hl 0 rfl) ?_
      refine gM_count K I dX1_adjusted_15 ?_
      refine il_top (y := nI n) (e2) ?_
      refine lv_goto (tgt := 22) K.1.1 K.1.2.1 dX1_adjusted_18 (by decide) ?_
      exact hQ _ _ _ _ _ (clN_out hn2 h h2) I dX1_adjusted_22
  · skip
    refine lv_iconst (v := 0) K.1.1 K.1.2.1 dX1_adjusted_4 (by decide) ?_
    exact hQ _ _ _ _ _ (clN_neg h) I dX1_adjusted_5
theorem fkN_ne {M : St} {q : Nat} (h0 : q ≠ 3) (h1 : q ≠ 4) : ∀ c, fkN M c q = M q
  | 0 => rfl
  | c + 1 => by
    show sA (sA (fkN M c) 3 _ _) 4 _ _ q = M q
    rw [sA_ne h1, sA_ne h0, fkN_ne h0 h1 c]
theorem fsN_ne {M : St} {n q : Nat} (h0 : q ≠ 0) (h1 : q ≠ 1) : ∀ c, fsN M n c q = M q
  | 0 => rfl
  | c + 1 => by
    show sA (sA (fsN M n c) 0 _ _) 1 _ _ q = M q
    rw [sA_ne h1, sA_ne h0, fsN_ne h0 h1 c]
theorem m_flushSome (l : Launch) {M : St} {n : Nat} (h : OkM M n) (x : Int32) : Cti l wM yX1_flushSome cX1_flushSome 4 .int 1 [.int x] M (fsF M (clN n x)) (nI (clN n x)) := by
  refine ctI_of (by decide) rfl (Nat.le_of_ble_eq_true rfl) ?_
  intro p e s m args below meth c D d z h0 ad A Q ls K I hl hQ
  have K : Kx p m c s args D d z A RX1 cX1_flushSome 4 := K
  have ew := ctN_of h
  have h9 := h
  obtain ⟨e2, hn, hv⟩ := h
  have hk := clN_le n x
  generalize hke : clN n x = k at hk hQ
  unfold fsF at hQ
  rw [ew] at hQ
  have eP : fsP M k = sF (sF (fkN M k) 5 (fkN M k 5 0 + nI k)) 2 (nI (n - k)) := by unfold fsP; rw [ew]
  have lp2 : ∀ (f j : Nat) (H : Heap) (locs : List Loc) (ls : Array Slot), j ≤ n - k → n - k < j + f → Iw D A s (wM d z h0 ad (fsN (fsP M k) k j)) H locs → lv_has ls 4 [(3, .int (nI j)), (2, .int (nI k)), (0, .ref h0)] → W p l e (rk 1) s m args below meth c H locs 0 0 Q (F0 m 70 ls []) := by
    intro f
    induction f with
    | zero => intro j H locs ls h1 h2; exact absurd h2 (by omega)
    | succ f ih =>
      intro j H locs ls h1 h2 I hl
      have e1 : fsN (fsP M k) k j 2 0 = nI (n - k) := by rw [fsN_ne (by decide) (by decide), eP]; rfl
      refine lv_iload_n K.1.1 K.1.2.1 dX1_flushSome_70 rfl (lv_at hl 0 rfl) ?_
      refine lv_aload_n K.1.1 K.1.2.1 dX1_flushSome_71 rfl (lv_at hl 2 rfl) ?_
      refine gM_count K I dX1_flushSome_72 ?_
      refine il_top (y := nI (n - k)) (e1) ?_
      refine lv_icmp_ge (tgt := 112) K.1.1 K.1.2.1 dX1_flushSome_75 (by decide) (fun h => ?_) (fun h => ?_)
      · rw [nI_leI (by omega) (by omega)] at h
        have e : j = n - k := by omega
        subst e
        refine lv_iload_n K.1.1 K.1.2.1 dX1_flushSome_112 rfl (lv_at hl 1 rfl) ?_
        exact hQ _ _ _ _ _ rfl I dX1_flushSome_113
      · skip
        rw [nI_leI (by omega) (by omega)] at h
        refine lv_aload_n K.1.1 K.1.2.1 dX1_flushSome_78 rfl (lv_at hl 2 rfl) ?_
        refine gM_sectors K I dX1_flushSome_79 ?_
        refine lv_iload_n K.1.1 K.1.2.1 dX1_flushSome_82 rfl (lv_at hl 0 rfl) ?_
        refine lv_aload_n K.1.1 K.1.2.1 dX1_flushSome_83 rfl (lv_at hl 2 rfl) ?_
        refine gM_sectors K I dX1_flushSome_84 ?_
        refine lv_iload_n K.1.1 K.1.2.1 dX1_flushSome_87 rfl (lv_at hl 0 rfl) ?_
        refine lv_iload_n K.1.1 K.1.2.1 dX1_flushSome_88 rfl (lv_at hl 1 rfl) ?_
        refine lv_iadd K.1.1 K.1.2.1 dX1_flushSome_89 ?_
        refine il_top (y := nI (j + k)) (nI_add _ _) ?_
        refine lM_sectors (i := (j + k)) K I rfl (by omega) dX1_flushSome_90 ?_
        refine sM_sectors (i := j) K I rfl (by omega) dX1_flushSome_91 (fun H locs I => ?_)
        refine lv_aload_n K.1.1 K.1.2.1 dX1_flushSome_92 rfl (lv_at hl 2 rfl) ?_
        refine gM_values K I dX1_flushSome_93 ?_
        refine lv_iload_n K.1.1 K.1.2.1 dX1_flushSome_96 rfl (lv_at hl 0 rfl) ?_
        refine lv_aload_n K.1.1 K.1.2.1 dX1_flushSome_97 rfl (lv_at hl 2 rfl) ?_
        refine gM_values K I dX1_flushSome_98 ?_
        refine lv_iload_n K.1.1 K.1.2.1 dX1_flushSome_101 rfl (lv_at hl 0 rfl) ?_
        refine lv_iload_n K.1.1 K.1.2.1 dX1_flushSome_102 rfl (lv_at hl 1 rfl) ?_
        refine lv_iadd K.1.1 K.1.2.1 dX1_flushSome_103 ?_
        refine il_top (y := nI (j + k)) (nI_add _ _) ?_
        refine lM_values (i := (j + k)) K I rfl (by omega) dX1_flushSome_104 ?_
        refine sM_values (i := j) K I rfl (by omega) dX1_flushSome_105 (fun H locs I => ?_)
        refine lv_iinc (v := (nI (j + 1))) (lv' := [(3, .int (nI (j + 1))), (2, .int (nI k)), (0, .ref h0)]) K.1.1 K.1.2.1 dX1_flushSome_106 hl (k := 0) rfl (nI_1 _) (by decide) rfl (fun ls hl => ?_)
        refine lv_goto (tgt := 70) K.1.1 K.1.2.1 dX1_flushSome_109 (by decide) ?_
        exact ih (j + 1) H locs ls (by omega) (by omega) I hl
  have lp1 : ∀ (f j : Nat) (H : Heap) (locs : List Loc) (ls : Array Slot), j ≤ k → k < j + f → Iw D A s (wM d z h0 ad (fkN M j)) H locs → lv_has ls 4 [(3, .int (nI j)), (2, .int (nI k)), (0, .ref h0)] → W p l e (rk 1) s m args below meth c H locs 0 0 Q (F0 m 8 ls []) := by
    intro f
    induction f with
    | zero => intro j H locs ls h1 h2; exact absurd h2 (by omega)
    | succ f ih =>
      intro j H locs ls h1 h2 I hl
      obtain ⟨v1, v2⟩ := ih_vp (show vp_in (fkN M j 0 j) 12 by rw [fkN_ne (by decide) (by decide)]; exact hv _) (by decide)
      refine lv_iload_n K.1.1 K.1.2.1 dX1_flushSome_8 rfl (lv_at hl 0 rfl) ?_
      refine lv_iload_n K.1.1 K.1.2.1 dX1_flushSome_9 rfl (lv_at hl 1 rfl) ?_
      refine lv_icmp_ge (tgt := 48) K.1.1 K.1.2.1 dX1_flushSome_10 (by decide) (fun h => ?_) (fun h => ?_)
      · rw [nI_leI (by omega) (by omega)] at h
        have e : j = k := by omega
        subst e
        have e2 : fkN M j 2 0 = nI n := by rw [fkN_ne (by decide) (by decide)]; exact e2
        refine lv_aload_n K.1.1 K.1.2.1 dX1_flushSome_48 rfl (lv_at hl 2 rfl) ?_
        refine lv_dup K.1.1 K.1.2.1 dX1_flushSome_49 rfl ?_
        refine gM_madeDurable K I dX1_flushSome_50 ?_
        refine lv_iload_n K.1.1 K.1.2.1 dX1_flushSome_53 rfl (lv_at hl 1 rfl) ?_
        refine lv_iadd K.1.1 K.1.2.1 dX1_flushSome_54 ?_
        refine pM_madeDurable K I dX1_flushSome_55 (fun H locs I => ?_)
        refine lv_aload_n K.1.1 K.1.2.1 dX1_flushSome_58 rfl (lv_at hl 2 rfl) ?_
        refine lv_dup K.1.1 K.1.2.1 dX1_flushSome_59 rfl ?_
        refine gM_count K I dX1_flushSome_60 ?_
        refine il_top (y := nI n) (e2) ?_
        refine lv_iload_n K.1.1 K.1.2.1 dX1_flushSome_63 rfl (lv_at hl 1 rfl) ?_
        refine lv_isub K.1.1 K.1.2.1 dX1_flushSome_64 ?_
        refine il_top (y := nI (n - j)) (pk_sub hk) ?_
        refine pM_count K I dX1_flushSome_65 (fun H locs I => ?_)
        refine lv_iconst (v := 0) K.1.1 K.1.2.1 dX1_flushSome_68 (by decide) ?_
        refine il_top (y := nI 0) (rfl) ?_
        refine lv_istore_n (lv' := [(3, .int (nI 0)), (2, .int (nI j)), (0, .ref h0)]) K.1.1 K.1.2.1 dX1_flushSome_69 rfl hl (by decide) rfl (fun ls hl => ?_)
        rw [← eP] at I
        exact lp2 (n - j + 1) 0 _ _ ls (by omega) (by omega) I hl
      · skip
        rw [nI_leI (by omega) (by omega)] at h
        refine lv_aload_n K.1.1 K.1.2.1 dX1_flushSome_13 rfl (lv_at hl 2 rfl) ?_
        refine gM_kept K I dX1_flushSome_14 ?_
        refine lv_aload_n K.1.1 K.1.2.1 dX1_flushSome_17 rfl (lv_at hl 2 rfl) ?_
        refine gM_sectors K I dX1_flushSome_18 ?_
        refine lv_iload_n K.1.1 K.1.2.1 dX1_flushSome_21 rfl (lv_at hl 0 rfl) ?_
        refine lM_sectors (i := j) K I rfl (by omega) dX1_flushSome_22 ?_
        refine il_top (y := nI (cl (fkN M j 0 j))) (v1) ?_
        refine lv_aload_n K.1.1 K.1.2.1 dX1_flushSome_23 rfl (lv_at hl 2 rfl) ?_
        refine gM_values K I dX1_flushSome_24 ?_
        refine lv_iload_n K.1.1 K.1.2.1 dX1_flushSome_27 rfl (lv_at hl 0 rfl) ?_
        refine lM_values (i := j) K I rfl (by omega) dX1_flushSome_28 ?_
        refine sM_kept (i := (cl (fkN M j 0 j))) K I rfl (v2) dX1_flushSome_29 (fun H locs I => ?_)
        refine lv_aload_n K.1.1 K.1.2.1 dX1_flushSome_30 rfl (lv_at hl 2 rfl) ?_
        refine gM_damaged K I dX1_flushSome_31 ?_
        refine lv_aload_n K.1.1 K.1.2.1 dX1_flushSome_34 rfl (lv_at hl 2 rfl) ?_
        refine gM_sectors K I dX1_flushSome_35 ?_
        refine lv_iload_n K.1.1 K.1.2.1 dX1_flushSome_38 rfl (lv_at hl 0 rfl) ?_
        refine lM_sectors (i := j) K I rfl (by omega) dX1_flushSome_39 ?_
        refine il_top (y := nI (cl (fkN M j 0 j))) (v1) ?_
        refine lv_iconst (v := 0) K.1.1 K.1.2.1 dX1_flushSome_40 (by decide) ?_
        refine sM_damaged (i := (cl (fkN M j 0 j))) K I rfl (v2) dX1_flushSome_41 (fun H locs I => ?_)
        rw [nar_0] at I
        refine lv_iinc (v := (nI (j + 1))) (lv' := [(3, .int (nI (j + 1))), (2, .int (nI k)), (0, .ref h0)]) K.1.1 K.1.2.1 dX1_flushSome_42 hl (k := 0) rfl (nI_1 _) (by decide) rfl (fun ls hl => ?_)
        refine lv_goto (tgt := 8) K.1.1 K.1.2.1 dX1_flushSome_45 (by decide) ?_
        exact ih (j + 1) H locs ls (by omega) (by omega) I hl
  have hl : lv_has ls 4 [(0, .ref h0), (1, .int x)] := hl
  refine lv_aload_n K.1.1 K.1.2.1 dX1_flushSome_0 rfl (lv_at hl 0 rfl) ?_
  refine lv_iload_n K.1.1 K.1.2.1 dX1_flushSome_1 rfl (lv_at hl 1 rfl) ?_
  refine il_callI (qc := (RX1, TX1, 6)) (ci := 1) 1 K I hl.1 (m_adjusted l h9 x) (lw_V q228 q230 qs16 q20 q231) (by decide +kernel) rfl rfl ⟨by decide, by decide⟩ rfl rfl (Nat.le_of_ble_eq_true rfl) ⟨Nat.le_refl _, Nat.le_refl _⟩ dX1_flushSome_2 (fun H locs I => ?_)
  refine il_top (y := nI k) (by rw [hke]) ?_
  refine lv_istore_n (lv' := [(2, .int (nI k)), (0, .ref h0), (1, .int x)]) K.1.1 K.1.2.1 dX1_flushSome_5 rfl hl (by decide) rfl (fun ls hl => ?_)
  refine lv_iconst (v := 0) K.1.1 K.1.2.1 dX1_flushSome_6 (by decide) ?_
  refine il_top (y := nI 0) (rfl) ?_
  refine lv_istore_n (lv' := [(3, .int (nI 0)), (2, .int (nI k)), (0, .ref h0), (1, .int x)]) K.1.1 K.1.2.1 dX1_flushSome_7 rfl hl (by decide) rfl (fun ls hl => ?_)
  exact lp1 (k + 1) 0 _ _ ls (by omega) (by omega) I (lv_sub hl [0, 1, 2] rfl)
theorem clN_self {n : Nat} (h : n < 2 ^ 31) : clN n (nI n) = n := by
  unfold clN
  rw [if_neg (nI_pos h), ih_cl h, Nat.min_self]
theorem m_flush (l : Launch) {M : St} {n : Nat} (h : OkM M n) : Cti l wM yX1_flush cX1_flush 1 .int 2 [] M (fsF M n) (nI n) := by
  refine ctI_of (by decide) rfl (Nat.le_of_ble_eq_true rfl) ?_
  intro p e s m args below meth c D d z h0 ad A Q ls K I hl hQ
  have K : Kx p m c s args D d z A RX1 cX1_flush 1 := K
  have hs := clN_self (n := n) (by have := h.2.1; omega)
  have hl : lv_has ls 1 [(0, .ref h0)] := hl
  refine lv_aload_n K.1.1 K.1.2.1 dX1_flush_0 rfl (lv_at hl 0 rfl) ?_
  refine lv_aload_n K.1.1 K.1.2.1 dX1_flush_1 rfl (lv_at hl 0 rfl) ?_
  refine gM_count K I dX1_flush_2 ?_
  refine il_top (y := nI n) (h.1) ?_
  refine il_callI (qc := (RX1, TX1, 6)) (ci := 1) 1 K I hl.1 (m_flushSome l h (nI n)) (lw_V q224 q225 q226 q20 q227) (by decide +kernel) rfl rfl ⟨by decide, by decide⟩ rfl rfl (Nat.le_of_ble_eq_true rfl) ⟨Nat.le_refl _, Nat.le_refl _⟩ dX1_flush_5 (fun H locs I => ?_)
  rw [hs] at I ⊢
  exact hQ _ _ _ _ _ rfl I dX1_flush_8
theorem fsF_2 {M : St} {n k : Nat} (h : OkM M n) : fsF M k 2 0 = nI (n - k) := by
  unfold fsF
  rw [fsN_ne (by decide) (by decide)]
  show nI (ctN M - k) = _
  rw [ctN_of h]
theorem m_crash (l : Launch) {M : St} {n : Nat} (h : OkM M n) (x : Int32) : Cti l wM yX1_crash cX1_crash 3 .int 2 [.int x] M (sF (fsF M (clN n x)) 2 0) (nI (n - clN n x)) := by
  refine ctI_of (by decide) rfl (Nat.le_of_ble_eq_true rfl) ?_
  intro p e s m args below meth c D d z h0 ad A Q ls K I hl hQ
  have K : Kx p m c s args D d z A RX1 cX1_crash 3 := K
  have hl : lv_has ls 3 [(0, .ref h0), (1, .int x)] := hl
  refine lv_aload_n K.1.1 K.1.2.1 dX1_crash_0 rfl (lv_at hl 0 rfl) ?_
  refine lv_iload_n K.1.1 K.1.2.1 dX1_crash_1 rfl (lv_at hl 1 rfl) ?_
  refine il_callI (qc := (RX1, TX1, 6)) (ci := 1) 1 K I hl.1 (m_flushSome l h x) (lw_V q224 q225 q226 q20 q227) (by decide +kernel) rfl rfl ⟨by decide, by decide⟩ rfl rfl (Nat.le_of_ble_eq_true rfl) ⟨Nat.le_refl _, Nat.le_refl _⟩ dX1_crash_2 (fun H locs I => ?_)
  refine lv_pop K.1.1 K.1.2.1 dX1_crash_5 rfl ?_
  refine lv_aload_n K.1.1 K.1.2.1 dX1_crash_6 rfl (lv_at hl 0 rfl) ?_
  refine gM_count K I dX1_crash_7 ?_
  refine il_top (y := nI (n - clN n x)) (fsF_2 h) ?_
  refine lv_istore_n (lv' := [(2, .int (nI (n - clN n x))), (0, .ref h0), (1, .int x)]) K.1.1 K.1.2.1 dX1_crash_10 rfl hl (by decide) rfl (fun ls hl => ?_)
  refine lv_aload_n K.1.1 K.1.2.1 dX1_crash_11 rfl (lv_at hl 1 rfl) ?_
  refine lv_iconst (v := 0) K.1.1 K.1.2.1 dX1_crash_12 (by decide) ?_
  refine pM_count K I dX1_crash_13 (fun H locs I => ?_)
  refine lv_iload_n K.1.1 K.1.2.1 dX1_crash_16 rfl (lv_at hl 0 rfl) ?_
  exact hQ _ _ _ _ _ rfl I dX1_crash_17
theorem m_damage (l : Launch) {M : St} (x v : Int32) : Cti l wM yX1_damage cX1_damage 3 .int 1 [.int x, .int v] M (mdF M x v) (mdR M x v) := by
  refine ctI_of (by decide) rfl (Nat.le_of_ble_eq_true rfl) ?_
  intro p e s m args below meth c D d z h0 ad A Q ls K I hl hQ
  have K : Kx p m c s args D d z A RX1 cX1_damage 3 := K
  unfold mdR at hQ
  have hl : lv_has ls 3 [(0, .ref h0), (1, .int x), (2, .int v)] := hl
  refine lv_aload_n K.1.1 K.1.2.1 dX1_damage_0 rfl (lv_at hl 0 rfl) ?_
  refine lv_iload_n K.1.1 K.1.2.1 dX1_damage_1 rfl (lv_at hl 1 rfl) ?_
  refine il_callI (qc := (RX1, TX1, 6)) (ci := 1) 1 K I hl.1 (m_isSector l x) (lw_V q216 q218 qs15 q20 q219) (by decide +kernel) rfl rfl ⟨by decide, by decide⟩ rfl rfl (Nat.le_of_ble_eq_true rfl) ⟨Nat.le_refl _, Nat.le_refl _⟩ dX1_damage_2 (fun H locs I => ?_)
  refine lv_if_ne (tgt := 10) K.1.1 K.1.2.1 dX1_damage_5 (by decide) (fun h => ?_) (fun h => ?_)
  · have hb : badB x = false := by simpa using b2_ne h
    obtain ⟨j, hj, rfl⟩ := badB_f hb
    simp only [hb, if_neg (show ¬ (false = true) by decide)] at hQ
    rw [ih_cl (n := j) (by omega)] at hQ
    have mid : ∀ (H : Heap) (locs : List Loc) (ls : Array Slot), Iw D A s (wM d z h0 ad (mdF M (nI j) v)) H locs → lv_has ls 3 [(0, .ref h0), (1, .int (nI j)), (2, .int v)] → W p l e (rk 1) s m args below meth c H locs 0 0 Q (F0 m 21 ls []) := by
      intro H locs ls I hl
      refine lv_aload_n K.1.1 K.1.2.1 dX1_damage_21 rfl (lv_at hl 0 rfl) ?_
      refine gM_damaged K I dX1_damage_22 ?_
      refine lv_iload_n K.1.1 K.1.2.1 dX1_damage_25 rfl (lv_at hl 1 rfl) ?_
      refine lM_damaged (i := j) K I rfl (by omega) dX1_damage_26 ?_
      refine lv_if_eq (tgt := 34) K.1.1 K.1.2.1 dX1_damage_27 (by decide) (fun h3 => ?_) (fun h3 => ?_)
      · refine lv_iconst (v := 0) K.1.1 K.1.2.1 dX1_damage_34 (by decide) ?_
        exact hQ _ _ _ _ _ (by simp [b2, h3]) I dX1_damage_35
      · skip
        refine lv_iconst (v := 1) K.1.1 K.1.2.1 dX1_damage_30 (by decide) ?_
        refine lv_goto (tgt := 35) K.1.1 K.1.2.1 dX1_damage_31 (by decide) ?_
        exact hQ _ _ _ _ _ (by simp [b2, h3]) I dX1_damage_35
    refine lv_iload_n K.1.1 K.1.2.1 dX1_damage_10 rfl (lv_at hl 2 rfl) ?_
    refine lv_if_eq (tgt := 21) K.1.1 K.1.2.1 dX1_damage_11 (by decide) (fun h2 => ?_) (fun h2 => ?_)
    · refine mid _ _ _ ?_ hl
      unfold mdF
      rw [if_neg (by rw [hb]; decide), if_pos h2]
      exact I
    · skip
      refine lv_aload_n K.1.1 K.1.2.1 dX1_damage_14 rfl (lv_at hl 0 rfl) ?_
      refine gM_damaged K I dX1_damage_15 ?_
      refine lv_iload_n K.1.1 K.1.2.1 dX1_damage_18 rfl (lv_at hl 1 rfl) ?_
      refine lv_iconst (v := 1) K.1.1 K.1.2.1 dX1_damage_19 (by decide) ?_
      refine sM_damaged (i := j) K I rfl (by omega) dX1_damage_20 (fun H locs I => ?_)
      refine mid _ _ _ ?_ hl
      unfold mdF
      rw [if_neg (by rw [hb]; decide), if_neg h2, ih_cl (n := j) (by omega)]
      rw [nar_1] at I
      exact I
  · skip
    have hb : badB x = true := by simpa using b2_eq h
    unfold mdF at hQ
    simp only [hb, if_true] at hQ
    refine lv_iconst (v := (-1)) K.1.1 K.1.2.1 dX1_damage_8 (by decide) ?_
    exact hQ _ _ _ _ _ rfl I dX1_damage_9
theorem m_scrub (l : Launch) {M : St} : Cti l wM yX1_scrub cX1_scrub 3 .int 0 [] M M (nI (msN M 12)) := by
  refine ctI_of (by decide) rfl (Nat.le_of_ble_eq_true rfl) ?_
  intro p e s m args below meth c D d z h0 ad A Q ls K I hl hQ
  have K : Kx p m c s args D d z A RX1 cX1_scrub 3 := K
  have hl : lv_has ls 3 [(0, .ref h0)] := hl
  refine lv_iconst (v := 0) K.1.1 K.1.2.1 dX1_scrub_0 (by decide) ?_
  refine il_top (y := nI (msN M 0)) (rfl) ?_
  refine lv_istore_n (lv' := [(1, .int (nI (msN M 0))), (0, .ref h0)]) K.1.1 K.1.2.1 dX1_scrub_1 rfl hl (by decide) rfl (fun ls hl => ?_)
  refine lv_iconst (v := 0) K.1.1 K.1.2.1 dX1_scrub_2 (by decide) ?_
  refine il_top (y := nI 0) (rfl) ?_
  refine lv_istore_n (lv' := [(2, .int (nI 0)), (1, .int (nI (msN M 0))), (0, .ref h0)]) K.1.1 K.1.2.1 dX1_scrub_3 rfl hl (by decide) rfl (fun ls hl => ?_)
  have lp : ∀ (f j : Nat) (H : Heap) (locs : List Loc) (ls : Array Slot), j ≤ 12 → 12 < j + f → Iw D A s (wM d z h0 ad M) H locs → lv_has ls 3 [(2, .int (nI j)), (1, .int (nI (msN M j))), (0, .ref h0)] → W p l e (rk 0) s m args below meth c H locs 0 0 Q (F0 m 4 ls []) := by
    intro f
    induction f with
    | zero => intro j H locs ls h1 h2; exact absurd h2 (by omega)
    | succ f ih =>
      intro j H locs ls h1 h2 I hl
      refine lv_iload_n K.1.1 K.1.2.1 dX1_scrub_4 rfl (lv_at hl 0 rfl) ?_
      refine lv_bipush (v := 12) K.1.1 K.1.2.1 dX1_scrub_5 (by decide) ?_
      refine lv_icmp_ge (tgt := 28) K.1.1 K.1.2.1 dX1_scrub_7 (by decide) (fun h => ?_) (fun h => ?_)
      · have h : 12 ≤ j := (nI_leI (a := 12) (by decide) (by omega)).mp h
        have e : j = 12 := by omega
        subst e
        refine lv_iload_n K.1.1 K.1.2.1 dX1_scrub_28 rfl (lv_at hl 1 rfl) ?_
        exact hQ _ _ _ _ _ rfl I dX1_scrub_29
      · skip
        have h : ¬ 12 ≤ j := fun q => h ((nI_leI (a := 12) (by decide) (by omega)).mpr q)
        refine lv_aload_n K.1.1 K.1.2.1 dX1_scrub_10 rfl (lv_at hl 2 rfl) ?_
        refine gM_damaged K I dX1_scrub_11 ?_
        refine lv_iload_n K.1.1 K.1.2.1 dX1_scrub_14 rfl (lv_at hl 0 rfl) ?_
        refine lM_damaged (i := j) K I rfl (by omega) dX1_scrub_15 ?_
        refine lv_if_eq (tgt := 22) K.1.1 K.1.2.1 dX1_scrub_16 (by decide) (fun h3 => ?_) (fun h3 => ?_)
        · have e : msN M j = msN M (j + 1) := by
            show _ = if M 4 j = 0 then msN M j else msN M j + 1
            rw [if_pos h3]
          rw [e] at hl
          refine lv_iinc (v := (nI (j + 1))) (lv' := [(2, .int (nI (j + 1))), (1, .int (nI (msN M (j + 1)))), (0, .ref h0)]) K.1.1 K.1.2.1 dX1_scrub_22 hl (k := 0) rfl (nI_1 _) (by decide) rfl (fun ls hl => ?_)
          refine lv_goto (tgt := 4) K.1.1 K.1.2.1 dX1_scrub_25 (by decide) ?_
          exact ih (j + 1) H locs ls (by omega) (by omega) I hl
        · skip
          refine lv_iinc (v := (nI (msN M (j + 1)))) (lv' := [(1, .int (nI (msN M (j + 1)))), (2, .int (nI j)), (0, .ref h0)]) K.1.1 K.1.2.1 dX1_scrub_19 hl (k := 1) rfl (by show nI _ + 1 = nI (if M 4 j = 0 then msN M j else msN M j + 1); rw [if_neg h3]; exact nI_1 _) (by decide) rfl (fun ls hl => ?_)
          refine lv_iinc (v := (nI (j + 1))) (lv' := [(2, .int (nI (j + 1))), (1, .int (nI (msN M (j + 1)))), (0, .ref h0)]) K.1.1 K.1.2.1 dX1_scrub_22 hl (k := 1) rfl (nI_1 _) (by decide) rfl (fun ls hl => ?_)
          refine lv_goto (tgt := 4) K.1.1 K.1.2.1 dX1_scrub_25 (by decide) ?_
          exact ih (j + 1) H locs ls (by omega) (by omega) I hl
  exact lp 13 0 _ _ ls (by omega) (by omega) I hl
theorem m_newest (l : Launch) {M : St} {n : Nat} (h : OkM M n) (x : Int32) : Cti l wM yX1_newest cX1_newest 4 .int 0 [.int x] M M (nnF M x) := by
  refine ctI_of (by decide) rfl (Nat.le_of_ble_eq_true rfl) ?_
  intro p e s m args below meth c D d z h0 ad A Q ls K I hl hQ
  have K : Kx p m c s args D d z A RX1 cX1_newest 4 := K
  have ew := ctN_of h
  obtain ⟨e2, hn, -⟩ := h
  unfold nnF at hQ
  rw [ew] at hQ
  have hl : lv_has ls 4 [(0, .ref h0), (1, .int x)] := hl
  refine lv_iconst (v := (-1)) K.1.1 K.1.2.1 dX1_newest_0 (by decide) ?_
  refine il_top (y := nnN M x 0) (rfl) ?_
  refine lv_istore_n (lv' := [(2, .int (nnN M x 0)), (0, .ref h0), (1, .int x)]) K.1.1 K.1.2.1 dX1_newest_1 rfl hl (by decide) rfl (fun ls hl => ?_)
  refine lv_iconst (v := 0) K.1.1 K.1.2.1 dX1_newest_2 (by decide) ?_
  refine il_top (y := nI 0) (rfl) ?_
  refine lv_istore_n (lv' := [(3, .int (nI 0)), (2, .int (nnN M x 0)), (0, .ref h0), (1, .int x)]) K.1.1 K.1.2.1 dX1_newest_3 rfl hl (by decide) rfl (fun ls hl => ?_)
  have lp : ∀ (f j : Nat) (H : Heap) (locs : List Loc) (ls : Array Slot), j ≤ n → n < j + f → Iw D A s (wM d z h0 ad M) H locs → lv_has ls 4 [(3, .int (nI j)), (2, .int (nnN M x j)), (0, .ref h0), (1, .int x)] → W p l e (rk 0) s m args below meth c H locs 0 0 Q (F0 m 4 ls []) := by
    intro f
    induction f with
    | zero => intro j H locs ls h1 h2; exact absurd h2 (by omega)
    | succ f ih =>
      intro j H locs ls h1 h2 I hl
      refine lv_iload_n K.1.1 K.1.2.1 dX1_newest_4 rfl (lv_at hl 0 rfl) ?_
      refine lv_aload_n K.1.1 K.1.2.1 dX1_newest_5 rfl (lv_at hl 2 rfl) ?_
      refine gM_count K I dX1_newest_6 ?_
      refine il_top (y := nI n) (e2) ?_
      refine lv_icmp_ge (tgt := 30) K.1.1 K.1.2.1 dX1_newest_9 (by decide) (fun h => ?_) (fun h => ?_)
      · rw [nI_leI (by omega) (by omega)] at h
        have e : j = n := by omega
        subst e
        refine lv_iload_n K.1.1 K.1.2.1 dX1_newest_30 rfl (lv_at hl 1 rfl) ?_
        exact hQ _ _ _ _ _ rfl I dX1_newest_31
      · skip
        rw [nI_leI (by omega) (by omega)] at h
        refine lv_aload_n K.1.1 K.1.2.1 dX1_newest_12 rfl (lv_at hl 2 rfl) ?_
        refine gM_sectors K I dX1_newest_13 ?_
        refine lv_iload_n K.1.1 K.1.2.1 dX1_newest_16 rfl (lv_at hl 0 rfl) ?_
        refine lM_sectors (i := j) K I rfl (by omega) dX1_newest_17 ?_
        refine lv_iload_n K.1.1 K.1.2.1 dX1_newest_18 rfl (lv_at hl 3 rfl) ?_
        refine lv_icmp_ne (tgt := 24) K.1.1 K.1.2.1 dX1_newest_19 (by decide) (fun h3 => ?_) (fun h3 => ?_)
        · have e : nnN M x j = nnN M x (j + 1) := by
            show _ = if M 0 j = x then nI j else nnN M x j
            rw [if_neg h3]
          rw [e] at hl
          refine lv_iinc (v := (nI (j + 1))) (lv' := [(3, .int (nI (j + 1))), (2, .int (nnN M x (j + 1))), (0, .ref h0), (1, .int x)]) K.1.1 K.1.2.1 dX1_newest_24 hl (k := 0) rfl (nI_1 _) (by decide) rfl (fun ls hl => ?_)
          refine lv_goto (tgt := 4) K.1.1 K.1.2.1 dX1_newest_27 (by decide) ?_
          exact ih (j + 1) H locs ls (by omega) (by omega) I hl
        · skip
          refine lv_iload_n K.1.1 K.1.2.1 dX1_newest_22 rfl (lv_at hl 0 rfl) ?_
          refine il_top (y := nnN M x (j + 1)) (by show _ = if M 0 j = x then nI j else nnN M x j; rw [if_pos h3]) ?_
          refine lv_istore_n (lv' := [(2, .int (nnN M x (j + 1))), (3, .int (nI j)), (0, .ref h0), (1, .int x)]) K.1.1 K.1.2.1 dX1_newest_23 rfl hl (by decide) rfl (fun ls hl => ?_)
          refine lv_iinc (v := (nI (j + 1))) (lv' := [(3, .int (nI (j + 1))), (2, .int (nnN M x (j + 1))), (0, .ref h0), (1, .int x)]) K.1.1 K.1.2.1 dX1_newest_24 hl (k := 1) rfl (nI_1 _) (by decide) rfl (fun ls hl => ?_)
          refine lv_goto (tgt := 4) K.1.1 K.1.2.1 dX1_newest_27 (by decide) ?_
          exact ih (j + 1) H locs ls (by omega) (by omega) I hl
  exact lp (n + 1) 0 _ _ ls (by omega) (by omega) I hl
theorem nn_range (M : St) (x : Int32) : ∀ n, nnN M x n = -1 ∨ ∃ i, i < n ∧ nnN M x n = nI i ∧ M 0 i = x
  | 0 => Or.inl rfl
  | n + 1 => by
    show (if M 0 n = x then nI n else nnN M x n) = -1 ∨ ∃ i, i < n + 1 ∧ (if M 0 n = x then nI n else nnN M x n) = nI i ∧ M 0 i = x
    by_cases h : M 0 n = x
    · rw [if_pos h]
      exact Or.inr ⟨n, by omega, rfl, h⟩
    · rw [if_neg h]
      rcases nn_range M x n with h1 | ⟨i, h1, h2, h3⟩
      · exact Or.inl h1
      · exact Or.inr ⟨i, by omega, h2, h3⟩
theorem nnF_range {M : St} {n : Nat} (h : OkM M n) (x : Int32) : nnF M x = -1 ∨ ∃ i, i < n ∧ nnF M x = nI i ∧ M 0 i = x := by
  unfold nnF
  rw [ctN_of h]
  exact nn_range M x n
theorem m_readable (l : Launch) {M : St} {n : Nat} (h : OkM M n) (x : Int32) : Cti l wM yX1_readable cX1_readable 2 .boolean 1 [.int x] M M (b2 (mbB M x)) := by
  refine ctI_of (by decide) (b2_nar _) (Nat.le_of_ble_eq_true rfl) ?_
  intro p e s m args below meth c D d z h0 ad A Q ls K I hl hQ
  have K : Kx p m c s args D d z A RX1 cX1_readable 2 := K
  have h9 := h
  obtain ⟨e2, hn, -⟩ := h
  unfold mbB at hQ
  have hl : lv_has ls 2 [(0, .ref h0), (1, .int x)] := hl
  refine lv_aload_n K.1.1 K.1.2.1 dX1_readable_0 rfl (lv_at hl 0 rfl) ?_
  refine lv_iload_n K.1.1 K.1.2.1 dX1_readable_1 rfl (lv_at hl 1 rfl) ?_
  refine il_callI (qc := (RX1, TX1, 6)) (ci := 1) 1 K I hl.1 (m_isSector l x) (lw_V q216 q218 qs15 q20 q219) (by decide +kernel) rfl rfl ⟨by decide, by decide⟩ rfl rfl (Nat.le_of_ble_eq_true rfl) ⟨Nat.le_refl _, Nat.le_refl _⟩ dX1_readable_2 (fun H locs I => ?_)
  refine lv_if_ne (tgt := 10) K.1.1 K.1.2.1 dX1_readable_5 (by decide) (fun h => ?_) (fun h => ?_)
  · have hb : badB x = false := by simpa using b2_ne h
    obtain ⟨j, hj, rfl⟩ := badB_f hb
    simp only [hb, if_neg (show ¬ (false = true) by decide)] at hQ
    rw [ih_cl (n := j) (by omega)] at hQ
    refine lv_aload_n K.1.1 K.1.2.1 dX1_readable_10 rfl (lv_at hl 0 rfl) ?_
    refine lv_iload_n K.1.1 K.1.2.1 dX1_readable_11 rfl (lv_at hl 1 rfl) ?_
    refine il_callI (qc := (RX1, TX1, 6)) (ci := 1) 1 K I hl.1 (m_newest l h9 (nI j)) (lw_V q253 q255 qs17 q20 q256) (by decide +kernel) rfl rfl ⟨by decide, by decide⟩ rfl rfl (Nat.le_of_ble_eq_true rfl) ⟨Nat.le_refl _, Nat.le_refl _⟩ dX1_readable_12 (fun H locs I => ?_)
    refine lv_if_ge (tgt := 27) K.1.1 K.1.2.1 dX1_readable_15 (by decide) (fun h2 => ?_) (fun h2 => ?_)
    · rw [if_neg (Int32.not_lt.mpr h2)] at hQ
      refine lv_iconst (v := 1) K.1.1 K.1.2.1 dX1_readable_27 (by decide) ?_
      refine lv_goto (tgt := 32) K.1.1 K.1.2.1 dX1_readable_28 (by decide) ?_
      exact hQ _ _ _ _ _ rfl I dX1_readable_32
    · skip
      rw [if_pos (Int32.not_le.mp h2)] at hQ
      refine lv_aload_n K.1.1 K.1.2.1 dX1_readable_18 rfl (lv_at hl 0 rfl) ?_
      refine gM_damaged K I dX1_readable_19 ?_
      refine lv_iload_n K.1.1 K.1.2.1 dX1_readable_22 rfl (lv_at hl 1 rfl) ?_
      refine lM_damaged (i := j) K I rfl (by omega) dX1_readable_23 ?_
      refine lv_if_ne (tgt := 31) K.1.1 K.1.2.1 dX1_readable_24 (by decide) (fun h3 => ?_) (fun h3 => ?_)
      · refine lv_iconst (v := 0) K.1.1 K.1.2.1 dX1_readable_31 (by decide) ?_
        exact hQ _ _ _ _ _ (by simp [b2, h3]) I dX1_readable_32
      · skip
        refine lv_iconst (v := 1) K.1.1 K.1.2.1 dX1_readable_27 (by decide) ?_
        refine lv_goto (tgt := 32) K.1.1 K.1.2.1 dX1_readable_28 (by decide) ?_
        exact hQ _ _ _ _ _ (by simp [b2, h3]) I dX1_readable_32
  · skip
    have hb : badB x = true := by simpa using b2_eq h
    simp only [hb, if_true] at hQ
    refine lv_iconst (v := 0) K.1.1 K.1.2.1 dX1_readable_8 (by decide) ?_
    exact hQ _ _ _ _ _ rfl I dX1_readable_9
theorem mbB_bad {M : St} {x : Int32} (h : mbB M x = true) : badB x = false := by
  cases hb : badB x with
  | false => rfl
  | true =>
    unfold mbB at h
    rw [if_pos hb] at h
    exact absurd h (by decide)
theorem m_read (l : Launch) {M : St} {n : Nat} (h : OkM M n) (x : Int32) : Cti l wM yX1_read cX1_read 3 .int 2 [.int x] M M (mrR M x) := by
  refine ctI_of (by decide) rfl (Nat.le_of_ble_eq_true rfl) ?_
  intro p e s m args below meth c D d z h0 ad A Q ls K I hl hQ
  have K : Kx p m c s args D d z A RX1 cX1_read 3 := K
  have h9 := h
  obtain ⟨e2, hn, -⟩ := h
  unfold mrR at hQ
  have hl : lv_has ls 3 [(0, .ref h0), (1, .int x)] := hl
  refine lv_aload_n K.1.1 K.1.2.1 dX1_read_0 rfl (lv_at hl 0 rfl) ?_
  refine lv_iload_n K.1.1 K.1.2.1 dX1_read_1 rfl (lv_at hl 1 rfl) ?_
  refine il_callI (qc := (RX1, TX1, 6)) (ci := 1) 1 K I hl.1 (m_readable l h9 x) (lw_V q249 q250 q251 q20 q252) (by decide +kernel) rfl rfl ⟨by decide, by decide⟩ rfl rfl (Nat.le_of_ble_eq_true rfl) ⟨Nat.le_refl _, Nat.le_refl _⟩ dX1_read_2 (fun H locs I => ?_)
  refine lv_if_ne (tgt := 10) K.1.1 K.1.2.1 dX1_read_5 (by decide) (fun h => ?_) (fun h => ?_)
  · have hb := b2_ne h
    rw [if_pos hb] at hQ
    obtain ⟨j, hj, rfl⟩ := badB_f (mbB_bad hb)
    rw [ih_cl (n := j) (by omega)] at hQ
    rcases nnF_range h9 (nI j) with hw | ⟨i, hi, hw, -⟩
    · rw [hw, if_pos (by decide)] at hQ
      refine lv_aload_n K.1.1 K.1.2.1 dX1_read_10 rfl (lv_at hl 0 rfl) ?_
      refine lv_iload_n K.1.1 K.1.2.1 dX1_read_11 rfl (lv_at hl 1 rfl) ?_
      refine il_callI (qc := (RX1, TX1, 6)) (ci := 1) 1 K I hl.1 (m_newest l h9 (nI j)) (lw_V q253 q255 qs17 q20 q256) (by decide +kernel) rfl rfl ⟨by decide, by decide⟩ rfl rfl (Nat.le_of_ble_eq_true rfl) ⟨Nat.le_refl _, Nat.le_refl _⟩ dX1_read_12 (fun H locs I => ?_)
      refine il_top (y := (-1)) (hw) ?_
      refine lv_istore_n (lv' := [(2, .int ((-1))), (0, .ref h0), (1, .int (nI j))]) K.1.1 K.1.2.1 dX1_read_15 rfl hl (by decide) rfl (fun ls hl => ?_)
      refine lv_iload_n K.1.1 K.1.2.1 dX1_read_16 rfl (lv_at hl 0 rfl) ?_
      refine lv_if_lt (tgt := 29) K.1.1 K.1.2.1 dX1_read_17 (by decide) (fun h2 => ?_) (fun h2 => ?_)
      · refine lv_aload_n K.1.1 K.1.2.1 dX1_read_29 rfl (lv_at hl 1 rfl) ?_
        refine gM_kept K I dX1_read_30 ?_
        refine lv_iload_n K.1.1 K.1.2.1 dX1_read_33 rfl (lv_at hl 2 rfl) ?_
        refine lM_kept (i := j) K I rfl (by omega) dX1_read_34 ?_
        exact hQ _ _ _ _ _ rfl I dX1_read_35
      · skip
        exact absurd (by decide) h2
    · rw [hw, if_neg (nI_pos (by omega)), ih_cl (by omega)] at hQ
      refine lv_aload_n K.1.1 K.1.2.1 dX1_read_10 rfl (lv_at hl 0 rfl) ?_
      refine lv_iload_n K.1.1 K.1.2.1 dX1_read_11 rfl (lv_at hl 1 rfl) ?_
      refine il_callI (qc := (RX1, TX1, 6)) (ci := 1) 1 K I hl.1 (m_newest l h9 (nI j)) (lw_V q253 q255 qs17 q20 q256) (by decide +kernel) rfl rfl ⟨by decide, by decide⟩ rfl rfl (Nat.le_of_ble_eq_true rfl) ⟨Nat.le_refl _, Nat.le_refl _⟩ dX1_read_12 (fun H locs I => ?_)
      refine il_top (y := nI i) (hw) ?_
      refine lv_istore_n (lv' := [(2, .int (nI i)), (0, .ref h0), (1, .int (nI j))]) K.1.1 K.1.2.1 dX1_read_15 rfl hl (by decide) rfl (fun ls hl => ?_)
      refine lv_iload_n K.1.1 K.1.2.1 dX1_read_16 rfl (lv_at hl 0 rfl) ?_
      refine lv_if_lt (tgt := 29) K.1.1 K.1.2.1 dX1_read_17 (by decide) (fun h2 => ?_) (fun h2 => ?_)
      · exact absurd h2 (nI_pos (by omega))
      · skip
        refine lv_aload_n K.1.1 K.1.2.1 dX1_read_20 rfl (lv_at hl 1 rfl) ?_
        refine gM_values K I dX1_read_21 ?_
        refine lv_iload_n K.1.1 K.1.2.1 dX1_read_24 rfl (lv_at hl 0 rfl) ?_
        refine lM_values (i := i) K I rfl (by omega) dX1_read_25 ?_
        refine lv_goto (tgt := 35) K.1.1 K.1.2.1 dX1_read_26 (by decide) ?_
        exact hQ _ _ _ _ _ rfl I dX1_read_35
  · skip
    have hb := b2_eq h
    rw [if_neg (by rw [hb]; decide)] at hQ
    refine lv_iconst (v := 0) K.1.1 K.1.2.1 dX1_read_8 (by decide) ?_
    exact hQ _ _ _ _ _ rfl I dX1_read_9
theorem m_pending (l : Launch) {M : St} : Cti l wM yX1_pending cX1_pending 1 .int 0 [] M M (M 2 0) := by
  refine ctI_of (by decide) rfl (Nat.le_of_ble_eq_true rfl) ?_
  intro p e s m args below meth c D d z h0 ad A Q ls K I hl hQ
  have K : Kx p m c s args D d z A RX1 cX1_pending 1 := K
  have hl : lv_has ls 1 [(0, .ref h0)] := hl
  refine lv_aload_n K.1.1 K.1.2.1 dX1_pending_0 rfl (lv_at hl 0 rfl) ?_
  refine gM_count K I dX1_pending_1 ?_
  exact hQ _ _ _ _ _ rfl I dX1_pending_4
theorem m_durable (l : Launch) {M : St} : Cti l wM yX1_durable cX1_durable 1 .int 0 [] M M (M 5 0) := by
  refine ctI_of (by decide) rfl (Nat.le_of_ble_eq_true rfl) ?_
  intro p e s m args below meth c D d z h0 ad A Q ls K I hl hQ
  have K : Kx p m c s args D d z A RX1 cX1_durable 1 := K
  have hl : lv_has ls 1 [(0, .ref h0)] := hl
  refine lv_aload_n K.1.1 K.1.2.1 dX1_durable_0 rfl (lv_at hl 0 rfl) ?_
  refine gM_madeDurable K I dX1_durable_1 ?_
  exact hQ _ _ _ _ _ rfl I dX1_durable_4
theorem m_atRisk (l : Launch) {M : St} {n : Nat} (h : OkM M n) : Cti l wM yX1_atRisk cX1_atRisk 3 .int 3 [] M M (nI (maN M 12)) := by
  refine ctI_of (by decide) rfl (Nat.le_of_ble_eq_true rfl) ?_
  intro p e s m args below meth c D d z h0 ad A Q ls K I hl hQ
  have K : Kx p m c s args D d z A RX1 cX1_atRisk 3 := K
  have h9 := h
  have hl : lv_has ls 3 [(0, .ref h0)] := hl
  refine lv_iconst (v := 0) K.1.1 K.1.2.1 dX1_atRisk_0 (by decide) ?_
  refine il_top (y := nI (maN M 0)) (rfl) ?_
  refine lv_istore_n (lv' := [(1, .int (nI (maN M 0))), (0, .ref h0)]) K.1.1 K.1.2.1 dX1_atRisk_1 rfl hl (by decide) rfl (fun ls hl => ?_)
  refine lv_iconst (v := 0) K.1.1 K.1.2.1 dX1_atRisk_2 (by decide) ?_
  refine il_top (y := nI 0) (rfl) ?_
  refine lv_istore_n (lv' := [(2, .int (nI 0)), (1, .int (nI (maN M 0))), (0, .ref h0)]) K.1.1 K.1.2.1 dX1_atRisk_3 rfl hl (by decide) rfl (fun ls hl => ?_)
  have lp : ∀ (f j : Nat) (H : Heap) (locs : List Loc) (ls : Array Slot), j ≤ 12 → 12 < j + f → Iw D A s (wM d z h0 ad M) H locs → lv_has ls 3 [(2, .int (nI j)), (1, .int (nI (maN M j))), (0, .ref h0)] → W p l e (rk 3) s m args below meth c H locs 0 0 Q (F0 m 4 ls []) := by
    intro f
    induction f with
    | zero => intro j H locs ls h1 h2; exact absurd h2 (by omega)
    | succ f ih =>
      intro j H locs ls h1 h2 I hl
      refine lv_iload_n K.1.1 K.1.2.1 dX1_atRisk_4 rfl (lv_at hl 0 rfl) ?_
      refine lv_bipush (v := 12) K.1.1 K.1.2.1 dX1_atRisk_5 (by decide) ?_
      refine lv_icmp_ge (tgt := 50) K.1.1 K.1.2.1 dX1_atRisk_7 (by decide) (fun h => ?_) (fun h => ?_)
      · have h : 12 ≤ j := (nI_leI (a := 12) (by decide) (by omega)).mp h
        have e : j = 12 := by omega
        subst e
        refine lv_iload_n K.1.1 K.1.2.1 dX1_atRisk_50 rfl (lv_at hl 1 rfl) ?_
        exact hQ _ _ _ _ _ rfl I dX1_atRisk_51
      · skip
        have h : ¬ 12 ≤ j := fun q => h ((nI_leI (a := 12) (by decide) (by omega)).mpr q)
        have yes : ma1 M j = true → ∀ (H : Heap) (locs : List Loc) (ls : Array Slot), Iw D A s (wM d z h0 ad M) H locs → lv_has ls 3 [(2, .int (nI j)), (1, .int (nI (maN M j))), (0, .ref h0)] → W p l e (rk 3) s m args below meth c H locs 0 0 Q (F0 m 41 ls []) := by
          intro hy H locs ls I hl
          refine lv_iinc (v := (nI (maN M (j + 1)))) (lv' := [(1, .int (nI (maN M (j + 1)))), (2, .int (nI j)), (0, .ref h0)]) K.1.1 K.1.2.1 dX1_atRisk_41 hl (k := 1) rfl (by show nI _ + 1 = nI (if ma1 M j = true then maN M j + 1 else maN M j); rw [if_pos hy]; exact nI_1 _) (by decide) rfl (fun ls hl => ?_)
          refine lv_iinc (v := (nI (j + 1))) (lv' := [(2, .int (nI (j + 1))), (1, .int (nI (maN M (j + 1)))), (0, .ref h0)]) K.1.1 K.1.2.1 dX1_atRisk_44 hl (k := 1) rfl (nI_1 _) (by decide) rfl (fun ls hl => ?_)
          refine lv_goto (tgt := 4) K.1.1 K.1.2.1 dX1_atRisk_47 (by decide) ?_
          exact ih (j + 1) H locs ls (by omega) (by omega) I hl
        have no : ma1 M j = false → ∀ (H : Heap) (locs : List Loc) (ls : Array Slot), Iw D A s (wM d z h0 ad M) H locs → lv_has ls 3 [(2, .int (nI j)), (1, .int (nI (maN M j))), (0, .ref h0)] → W p l e (rk 3) s m args below meth c H locs 0 0 Q (F0 m 44 ls []) := by
          intro hy H locs ls I hl
          have e : maN M j = maN M (j + 1) := by
            show _ = if ma1 M j = true then maN M j + 1 else maN M j
            rw [if_neg (by rw [hy]; decide)]
          rw [e] at hl
          refine lv_iinc (v := (nI (j + 1))) (lv' := [(2, .int (nI (j + 1))), (1, .int (nI (maN M (j + 1)))), (0, .ref h0)]) K.1.1 K.1.2.1 dX1_atRisk_44 hl (k := 0) rfl (nI_1 _) (by decide) rfl (fun ls hl => ?_)
          refine lv_goto (tgt := 4) K.1.1 K.1.2.1 dX1_atRisk_47 (by decide) ?_
          exact ih (j + 1) H locs ls (by omega) (by omega) I hl
        have er : ma1 M j = if nnF M (nI j) < 0 then false else decide (¬ M 4 j = 0) || decide (¬ mrR M (nI j) = M 3 j) := rfl
        refine lv_aload_n K.1.1 K.1.2.1 dX1_atRisk_10 rfl (lv_at hl 2 rfl) ?_
        refine lv_iload_n K.1.1 K.1.2.1 dX1_atRisk_11 rfl (lv_at hl 0 rfl) ?_
        refine il_callI (qc := (RX1, TX1, 6)) (ci := 1) 1 K I hl.1 (m_newest l h9 (nI j)) (lw_V q253 q255 qs17 q20 q256) (by decide +kernel) rfl rfl ⟨by decide, by decide⟩ rfl rfl (Nat.le_of_ble_eq_true rfl) ⟨Nat.le_refl _, Nat.le_refl _⟩ dX1_atRisk_12 (fun H locs I => ?_)
        refine lv_if_lt (tgt := 44) K.1.1 K.1.2.1 dX1_atRisk_15 (by decide) (fun h3 => ?_) (fun h3 => ?_)
        · rw [if_pos h3] at er
          exact no er H locs ls I hl
        · skip
          rw [if_neg h3] at er
          refine lv_aload_n K.1.1 K.1.2.1 dX1_atRisk_18 rfl (lv_at hl 2 rfl) ?_
          refine gM_damaged K I dX1_atRisk_19 ?_
          refine lv_iload_n K.1.1 K.1.2.1 dX1_atRisk_22 rfl (lv_at hl 0 rfl) ?_
          refine lM_damaged (i := j) K I rfl (by omega) dX1_atRisk_23 ?_
          refine lv_if_ne (tgt := 41) K.1.1 K.1.2.1 dX1_atRisk_24 (by decide) (fun h5 => ?_) (fun h5 => ?_)
          · exact yes (by rw [er]; simp [h5]) H locs ls I hl
          · skip
            refine lv_aload_n K.1.1 K.1.2.1 dX1_atRisk_27 rfl (lv_at hl 2 rfl) ?_
            refine lv_iload_n K.1.1 K.1.2.1 dX1_atRisk_28 rfl (lv_at hl 0 rfl) ?_
            refine il_callI (qc := (RX1, TX1, 6)) (ci := 1) 1 K I hl.1 (m_read l h9 (nI j)) (lw_V q266 q246 q247 q20 q248) (by decide +kernel) rfl rfl ⟨by decide, by decide⟩ rfl rfl (Nat.le_of_ble_eq_true rfl) ⟨Nat.le_refl _, Nat.le_refl _⟩ dX1_atRisk_29 (fun H locs I => ?_)
            refine lv_aload_n K.1.1 K.1.2.1 dX1_atRisk_32 rfl (lv_at hl 2 rfl) ?_
            refine gM_kept K I dX1_atRisk_33 ?_
            refine lv_iload_n K.1.1 K.1.2.1 dX1_atRisk_36 rfl (lv_at hl 0 rfl) ?_
            refine lM_kept (i := j) K I rfl (by omega) dX1_atRisk_37 ?_
            refine lv_icmp_eq (tgt := 44) K.1.1 K.1.2.1 dX1_atRisk_38 (by decide) (fun h6 => ?_) (fun h6 => ?_)
            · exact no (by rw [er]; simp [h5, h6]) H locs ls I hl
            · skip
              exact yes (by rw [er]; simp [h6]) H locs ls I hl
  exact lp 13 0 _ _ ls (by omega) (by omega) I hl
end
section
set_option maxRecDepth 100000
/-! the constructors -/
def inA : Nat → St
  | 0 => fun _ _ => 0
  | j + 1 => sA (inA j) 1 j (chk (nI j) 0)
def inB : Nat → St
  | 0 => inA 12
  | j + 1 => sA (inB j) 3 j (-1)
def fX0 : List Value := [.null, .null, .int 0, .null, .null, .null, .null, .null, .null, .int 0, .int 0, .null, .null, .int 0]
def fM0 : List Value := [.null, .null, .int 0, .null, .null, .int 0]
def rc (n mc ms : Nat) : Room := { frames := n, cells := mc, slots := ms, locals := 30 * n }
def Ctc (l : Launch) (y : MethodName) (cc : ByteArray) (L n mc ms : Nat) (w0 : Nat → va_W) (w1 : ClassId → ClassId → Nat → (Nat → Nat) → va_W) : Prop := ∀ (D : va_G) (d z : ClassId) (h0 sz : Nat), Met l y (ws_ y cc L none) (rc n mc ms) (va_Pc [.ref h0] (PreW D d z (w0 h0) sz)) (va_Qv (fun (_ : Nat → Nat) => True) (fun ad t => PostW D d z (w0 h0) (w1 d z h0 ad) sz t) (va_A (w0 h0) sz)) mc ms (va_A (w0 h0) sz)
theorem ctC_of {l : Launch} {y : MethodName} {cc : ByteArray} {L n mc ms : Nat} {w0 : Nat → va_W} {w1 : ClassId → ClassId → Nat → (Nat → Nat) → va_W} (hy : plainName y.cls = true) (hn : y.name = "<init>") (hL : (lg_sl [.ref 0]).length ≤ L)
    (body : ∀ (p : Program) (e : Env) (s : State) (m : MethodId) (args : Array Value) (below : List Frame) (meth : Method) (c : Code) (D : va_G) (d z : ClassId) (h0 : Nat) (A : Nat → Prop) (Q : State → Prop) (ls : Array Slot),
      Kx p m c s args D d z A y.cls cc L → meth.name = "<init>" → Iw D A s (w0 h0) s.heap [] → lv_has ls L [(0, .ref h0)] →
      (∀ (ad : Nat → Nat) (H : Heap) (locs : List Loc) (pc : Nat) (ls : Array Slot), Iw D A s (w1 d z h0 ad) H locs → decode cc pc = .ok (.return_, 1) → W p l e (rc n mc ms) s m args below meth c H locs mc ms Q (F0 m pc ls [])) →
      W p l e (rc n mc ms) s m args below meth c s.heap [] 0 0 Q (F0 m 0 ls [])) : Ctc l y cc L n mc ms w0 w1 := by
  intro D d z h0 sz
  refine Met.ofW (cc := cc) (maxL := L) (ret := none) hy rfl ?_
  intro p e s m args below meth c s₁ B hml hv
  obtain ⟨rfl, hsz, hP, hK, hD0⟩ := hv
  have hts := atoms_spec (ws := ws_ y cc L none) B.pre
  have hts : ∀ w ∈ lw_all, w.before _ s = true := fun w h => hts w (List.mem_cons_of_mem _ h)
  have hown : s.vm.findClass y.cls = some m.cls := findClass_of_methodNamed B.named
  have hin : meth.name = "<init>" := by rw [(name_of_methodNamed B.named B.method).1]; exact hn
  have hlocks := B.notSynchronized
  have hr := B.returns
  have hx := B.exec
  have hb := B.bytes
  subst hsz
  have hD := hD0.self (sz := s.heap.size)
  have hA : ∀ q : Nat, s.heap.size ≤ q → va_A (w0 h0) s.heap.size q := fun q h => Or.inr h
  have hl := lv_entry [.ref h0] (n := L) hL
  rw [lg_entry_eq]
  refine body p e s m _ below meth c D d z h0 (va_A (w0 h0) s.heap.size) _ _ ⟨⟨hx, hb, hml, hown, hts⟩, hK, hA⟩ hin ⟨hP, hD, va_S.rf⟩ hl ?_
  intro ad H locs pc ls I hdg
  exact W.vret hx hb hr (fun t ht hW => ⟨⟨ad, rfl, trivial, by rw [ht]; exact I.1, va_K.moved hW.alike hK, I.2.1⟩, I.2.2.F ht⟩) I.2.2.2.2 hdg
section CTOR
variable {p : Program} {l : Launch} {e : Env} {R : Room} {s : State} {m : MethodId} {args : Array Value} {below : List Frame} {meth : Method} {c : Code} {H : Heap} {locs : List Loc} {cells slots : Nat} {Q : State → Prop}
variable {cc : ByteArray} {pc nL : Nat} {ls : Array Slot} {rest : List Value} {D : va_G} {d z : ClassId} {A : Nat → Prop} {h0 : Nat} {own : String} {ws : va_W}
theorem il_newI {n : Int32} (N : Nat) (K : Kx p m c s args D d z A own cc nL) (I : Iw D A s ws H locs) (hn : ¬ n < 0) (hN : n.toNatClampNeg = N) (hbytes : N * componentBytes .int ≤ 536870912) (hc : cells + 1 ≤ R.cells) (hs : slots + N ≤ R.slots) (hdg : decode cc pc = .ok (.newarray .int, 2))
    (kk : ∀ (q : Nat) (H1 : Heap), Iw D A s (ws ++ [(q, .inl (d, N, .inl (fun _ => 0)))]) H1 locs → W p l e R s m args below meth c H1 locs (cells + 1) (slots + N) Q (F0 m (pc + 2) ls (.ref q :: rest))) : W p l e R s m args below meth c H locs cells slots Q (F0 m pc ls (.int n :: rest)) := by
  refine va_newa (atype := .int) (ty := .int) (a0 := (N, .inl (fun _ => 0))) K.1.1 K.1.2.1 (K.1.2.2.2.2 _ q78) rfl K.2.1 I.1 I.2.1 I.2.2 K.2.2 (fun _ => rfl) hn hN hbytes hc hs hdg (fun q cA H1 hK hP hD hS => ?_)
  have e1 : s.vm.findClass "[I" = some cA := va_nm_int (hK.2 2 (cA, .int) rfl).2
  have e2 : s.vm.findClass "[I" = some d := va_nm_int (K.2.1.2 0 (d, .int) rfl).2
  have e : cA = d := Option.some.inj (e1.symm.trans e2)
  subst e
  exact kk q H1 ⟨hP, hD, hS⟩
theorem il_newZ {n : Int32} (N : Nat) (K : Kx p m c s args D d z A own cc nL) (I : Iw D A s ws H locs) (hn : ¬ n < 0) (hN : n.toNatClampNeg = N) (hbytes : N * componentBytes .boolean ≤ 536870912) (hc : cells + 1 ≤ R.cells) (hs : slots + N ≤ R.slots) (hdg : decode cc pc = .ok (.newarray .boolean, 2))
    (kk : ∀ (q : Nat) (H1 : Heap), Iw D A s (ws ++ [(q, .inl (z, N, .inl (fun _ => 0)))]) H1 locs → W p l e R s m args below meth c H1 locs (cells + 1) (slots + N) Q (F0 m (pc + 2) ls (.ref q :: rest))) : W p l e R s m args below meth c H locs cells slots Q (F0 m pc ls (.int n :: rest)) := by
  refine va_newa (atype := .boolean) (ty := .boolean) (a0 := (N, .inl (fun _ => 0))) K.1.1 K.1.2.1 (K.1.2.2.2.2 _ q211) rfl K.2.1 I.1 I.2.1 I.2.2 K.2.2 (fun _ => rfl) hn hN hbytes hc hs hdg (fun q cA H1 hK hP hD hS => ?_)
  have e1 : s.vm.findClass "[Z" = some cA := va_nm_boolean (hK.2 2 (cA, .boolean) rfl).2
  have e2 : s.vm.findClass "[Z" = some z := va_nm_boolean (K.2.1.2 1 (z, .boolean) rfl).2
  have e : cA = z := Option.some.inj (e1.symm.trans e2)
  subst e
  exact kk q H1 ⟨hP, hD, hS⟩
theorem fX_home {x : Nat} {fs : List Value} (K : Kx p m c s args D d z A RX0 cc nL) (hin : meth.name = "<init>") (I : Iw D A s ws H locs) (he : ws[0]? = some (h0, .inr (0, fs))) (hl : 0 < fs.length) (hdg : decode cc pc = .ok (.putfield 7, 3)) (kk : ∀ (H1 : Heap) (locs1 : List Loc), Iw D A s (ws.set 0 (h0, .inr (0, fs.set 0 (.ref x)))) H1 locs1 → W p l e R s m args below meth c H1 locs1 cells slots Q (F0 m (pc + 3) ls rest)) : W p l e R s m args below meth c H locs cells slots Q (F0 m pc ls (.ref x :: .ref h0 :: rest)) :=
  va_putF (D := D) (ci := 0) (v := .ref x) (ty := .array .int) (C := RX0) (T := TX0) (N := 14) K.1.1 K.1.2.1 K.1.2.2.2.2 in_X0 tyX0 tyX0_ok nmX0 K.1.2.2.2.1 K.2.1 I.1 I.2.1 I.2.2 0 he rfl 0 (by decide) (K.1.2.2.2.2 _ q35) (fun _ h9 => h9) rfl hin rfl (by decide +kernel) rfl rfl hl hdg (fun H1 l1 hP hD hS => kk H1 l1 ⟨hP, hD, hS⟩)
theorem fX_check {x : Nat} {fs : List Value} (K : Kx p m c s args D d z A RX0 cc nL) (hin : meth.name = "<init>") (I : Iw D A s ws H locs) (he : ws[0]? = some (h0, .inr (0, fs))) (hl : 1 < fs.length) (hdg : decode cc pc = .ok (.putfield 13, 3)) (kk : ∀ (H1 : Heap) (locs1 : List Loc), Iw D A s (ws.set 0 (h0, .inr (0, fs.set 1 (.ref x)))) H1 locs1 → W p l e R s m args below meth c H1 locs1 cells slots Q (F0 m (pc + 3) ls rest)) : W p l e R s m args below meth c H locs cells slots Q (F0 m pc ls (.ref x :: .ref h0 :: rest)) :=
  va_putF (D := D) (ci := 0) (v := .ref x) (ty := .array .int) (C := RX0) (T := TX0) (N := 14) K.1.1 K.1.2.1 K.1.2.2.2.2 in_X0 tyX0 tyX0_ok nmX0 K.1.2.2.2.1 K.2.1 I.1 I.2.1 I.2.2 0 he rfl 1 (by decide) (K.1.2.2.2.2 _ q36) (fun _ h9 => h9) rfl hin rfl (by decide +kernel) rfl rfl hl hdg (fun H1 l1 hP hD hS => kk H1 l1 ⟨hP, hD, hS⟩)
theorem fX_slotNumber {x : Nat} {fs : List Value} (K : Kx p m c s args D d z A RX0 cc nL) (hin : meth.name = "<init>") (I : Iw D A s ws H locs) (he : ws[0]? = some (h0, .inr (0, fs))) (hl : 3 < fs.length) (hdg : decode cc pc = .ok (.putfield 16, 3)) (kk : ∀ (H1 : Heap) (locs1 : List Loc), Iw D A s (ws.set 0 (h0, .inr (0, fs.set 3 (.ref x)))) H1 locs1 → W p l e R s m args below meth c H1 locs1 cells slots Q (F0 m (pc + 3) ls rest)) : W p l e R s m args below meth c H locs cells slots Q (F0 m pc ls (.ref x :: .ref h0 :: rest)) :=
  va_putF (D := D) (ci := 0) (v := .ref x) (ty := .array .int) (C := RX0) (T := TX0) (N := 14) K.1.1 K.1.2.1 K.1.2.2.2.2 in_X0 tyX0 tyX0_ok nmX0 K.1.2.2.2.1 K.2.1 I.1 I.2.1 I.2.2 0 he rfl 3 (by decide) (K.1.2.2.2.2 _ q38) (fun _ h9 => h9) rfl hin rfl (by decide +kernel) rfl rfl hl hdg (fun H1 l1 hP hD hS => kk H1 l1 ⟨hP, hD, hS⟩)
theorem fX_slotCount {x : Nat} {fs : List Value} (K : Kx p m c s args D d z A RX0 cc nL) (hin : meth.name = "<init>") (I : Iw D A s ws H locs) (he : ws[0]? = some (h0, .inr (0, fs))) (hl : 4 < fs.length) (hdg : decode cc pc = .ok (.putfield 19, 3)) (kk : ∀ (H1 : Heap) (locs1 : List Loc), Iw D A s (ws.set 0 (h0, .inr (0, fs.set 4 (.ref x)))) H1 locs1 → W p l e R s m args below meth c H1 locs1 cells slots Q (F0 m (pc + 3) ls rest)) : W p l e R s m args below meth c H locs cells slots Q (F0 m pc ls (.ref x :: .ref h0 :: rest)) :=
  va_putF (D := D) (ci := 0) (v := .ref x) (ty := .array .int) (C := RX0) (T := TX0) (N := 14) K.1.1 K.1.2.1 K.1.2.2.2.2 in_X0 tyX0 tyX0_ok nmX0 K.1.2.2.2.1 K.2.1 I.1 I.2.1 I.2.2 0 he rfl 4 (by decide) (K.1.2.2.2.2 _ q39) (fun _ h9 => h9) rfl hin rfl (by decide +kernel) rfl rfl hl hdg (fun H1 l1 hP hD hS => kk H1 l1 ⟨hP, hD, hS⟩)
theorem fX_slotSum {x : Nat} {fs : List Value} (K : Kx p m c s args D d z A RX0 cc nL) (hin : meth.name = "<init>") (I : Iw D A s ws H locs) (he : ws[0]? = some (h0, .inr (0, fs))) (hl : 5 < fs.length) (hdg : decode cc pc = .ok (.putfield 22, 3)) (kk : ∀ (H1 : Heap) (locs1 : List Loc), Iw D A s (ws.set 0 (h0, .inr (0, fs.set 5 (.ref x)))) H1 locs1 → W p l e R s m args below meth c H1 locs1 cells slots Q (F0 m (pc + 3) ls rest)) : W p l e R s m args below meth c H locs cells slots Q (F0 m pc ls (.ref x :: .ref h0 :: rest)) :=
  va_putF (D := D) (ci := 0) (v := .ref x) (ty := .array .int) (C := RX0) (T := TX0) (N := 14) K.1.1 K.1.2.1 K.1.2.2.2.2 in_X0 tyX0 tyX0_ok nmX0 K.1.2.2.2.1 K.2.1 I.1 I.2.1 I.2.2 0 he rfl 5 (by decide) (K.1.2.2.2.2 _ q40) (fun _ h9 => h9) rfl hin rfl (by decide +kernel) rfl rfl hl hdg (fun H1 l1 hP hD hS => kk H1 l1 ⟨hP, hD, hS⟩)
theorem fX_slotSector {x : Nat} {fs : List Value} (K : Kx p m c s args D d z A RX0 cc nL) (hin : meth.name = "<init>") (I : Iw D A s ws H locs) (he : ws[0]? = some (h0, .inr (0, fs))) (hl : 6 < fs.length) (hdg : decode cc pc = .ok (.putfield 25, 3)) (kk : ∀ (H1 : Heap) (locs1 : List Loc), Iw D A s (ws.set 0 (h0, .inr (0, fs.set 6 (.ref x)))) H1 locs1 → W p l e R s m args below meth c H1 locs1 cells slots Q (F0 m (pc + 3) ls rest)) : W p l e R s m args below meth c H locs cells slots Q (F0 m pc ls (.ref x :: .ref h0 :: rest)) :=
  va_putF (D := D) (ci := 0) (v := .ref x) (ty := .array .int) (C := RX0) (T := TX0) (N := 14) K.1.1 K.1.2.1 K.1.2.2.2.2 in_X0 tyX0 tyX0_ok nmX0 K.1.2.2.2.1 K.2.1 I.1 I.2.1 I.2.2 0 he rfl 6 (by decide) (K.1.2.2.2.2 _ q41) (fun _ h9 => h9) rfl hin rfl (by decide +kernel) rfl rfl hl hdg (fun H1 l1 hP hD hS => kk H1 l1 ⟨hP, hD, hS⟩)
theorem fX_slotValue {x : Nat} {fs : List Value} (K : Kx p m c s args D d z A RX0 cc nL) (hin : meth.name = "<init>") (I : Iw D A s ws H locs) (he : ws[0]? = some (h0, .inr (0, fs))) (hl : 7 < fs.length) (hdg : decode cc pc = .ok (.putfield 28, 3)) (kk : ∀ (H1 : Heap) (locs1 : List Loc), Iw D A s (ws.set 0 (h0, .inr (0, fs.set 7 (.ref x)))) H1 locs1 → W p l e R s m args below meth c H1 locs1 cells slots Q (F0 m (pc + 3) ls rest)) : W p l e R s m args below meth c H locs cells slots Q (F0 m pc ls (.ref x :: .ref h0 :: rest)) :=
  va_putF (D := D) (ci := 0) (v := .ref x) (ty := .array .int) (C := RX0) (T := TX0) (N := 14) K.1.1 K.1.2.1 K.1.2.2.2.2 in_X0 tyX0 tyX0_ok nmX0 K.1.2.2.2.1 K.2.1 I.1 I.2.1 I.2.2 0 he rfl 7 (by decide) (K.1.2.2.2.2 _ q42) (fun _ h9 => h9) rfl hin rfl (by decide +kernel) rfl rfl hl hdg (fun H1 l1 hP hD hS => kk H1 l1 ⟨hP, hD, hS⟩)
theorem fX_slotCheck {x : Nat} {fs : List Value} (K : Kx p m c s args D d z A RX0 cc nL) (hin : meth.name = "<init>") (I : Iw D A s ws H locs) (he : ws[0]? = some (h0, .inr (0, fs))) (hl : 8 < fs.length) (hdg : decode cc pc = .ok (.putfield 31, 3)) (kk : ∀ (H1 : Heap) (locs1 : List Loc), Iw D A s (ws.set 0 (h0, .inr (0, fs.set 8 (.ref x)))) H1 locs1 → W p l e R s m args below meth c H1 locs1 cells slots Q (F0 m (pc + 3) ls rest)) : W p l e R s m args below meth c H locs cells slots Q (F0 m pc ls (.ref x :: .ref h0 :: rest)) :=
  va_putF (D := D) (ci := 0) (v := .ref x) (ty := .array .int) (C := RX0) (T := TX0) (N := 14) K.1.1 K.1.2.1 K.1.2.2.2.2 in_X0 tyX0 tyX0_ok nmX0 K.1.2.2.2.1 K.2.1 I.1 I.2.1 I.2.2 0 he rfl 8 (by decide) (K.1.2.2.2.2 _ q43) (fun _ h9 => h9) rfl hin rfl (by decide +kernel) rfl rfl hl hdg (fun H1 l1 hP hD hS => kk H1 l1 ⟨hP, hD, hS⟩)
theorem fX_waitSector {x : Nat} {fs : List Value} (K : Kx p m c s args D d z A RX0 cc nL) (hin : meth.name = "<init>") (I : Iw D A s ws H locs) (he : ws[0]? = some (h0, .inr (0, fs))) (hl : 11 < fs.length) (hdg : decode cc pc = .ok (.putfield 34, 3)) (kk : ∀ (H1 : Heap) (locs1 : List Loc), Iw D A s (ws.set 0 (h0, .inr (0, fs.set 11 (.ref x)))) H1 locs1 → W p l e R s m args below meth c H1 locs1 cells slots Q (F0 m (pc + 3) ls rest)) : W p l e R s m args below meth c H locs cells slots Q (F0 m pc ls (.ref x :: .ref h0 :: rest)) :=
  va_putF (D := D) (ci := 0) (v := .ref x) (ty := .array .int) (C := RX0) (T := TX0) (N := 14) K.1.1 K.1.2.1 K.1.2.2.2.2 in_X0 tyX0 tyX0_ok nmX0 K.1.2.2.2.1 K.2.1 I.1 I.2.1 I.2.2 0 he rfl 11 (by decide) (K.1.2.2.2.2 _ q46) (fun _ h9 => h9) rfl hin rfl (by decide +kernel) rfl rfl hl hdg (fun H1 l1 hP hD hS => kk H1 l1 ⟨hP, hD, hS⟩)
theorem fX_waitValue {x : Nat} {fs : List Value} (K : Kx p m c s args D d z A RX0 cc nL) (hin : meth.name = "<init>") (I : Iw D A s ws H locs) (he : ws[0]? = some (h0, .inr (0, fs))) (hl : 12 < fs.length) (hdg : decode cc pc = .ok (.putfield 37, 3)) (kk : ∀ (H1 : Heap) (locs1 : List Loc), Iw D A s (ws.set 0 (h0, .inr (0, fs.set 12 (.ref x)))) H1 locs1 → W p l e R s m args below meth c H1 locs1 cells slots Q (F0 m (pc + 3) ls rest)) : W p l e R s m args below meth c H locs cells slots Q (F0 m pc ls (.ref x :: .ref h0 :: rest)) :=
  va_putF (D := D) (ci := 0) (v := .ref x) (ty := .array .int) (C := RX0) (T := TX0) (N := 14) K.1.1 K.1.2.1 K.1.2.2.2.2 in_X0 tyX0 tyX0_ok nmX0 K.1.2.2.2.1 K.2.1 I.1 I.2.1 I.2.2 0 he rfl 12 (by decide) (K.1.2.2.2.2 _ q47) (fun _ h9 => h9) rfl hin rfl (by decide +kernel) rfl rfl hl hdg (fun H1 l1 hP hD hS => kk H1 l1 ⟨hP, hD, hS⟩)
theorem fM_sectors {x : Nat} {fs : List Value} (K : Kx p m c s args D d z A RX1 cc nL) (hin : meth.name = "<init>") (I : Iw D A s ws H locs) (he : ws[0]? = some (h0, .inr (1, fs))) (hl : 0 < fs.length) (hdg : decode cc pc = .ok (.putfield 7, 3)) (kk : ∀ (H1 : Heap) (locs1 : List Loc), Iw D A s (ws.set 0 (h0, .inr (1, fs.set 0 (.ref x)))) H1 locs1 → W p l e R s m args below meth c H1 locs1 cells slots Q (F0 m (pc + 3) ls rest)) : W p l e R s m args below meth c H locs cells slots Q (F0 m pc ls (.ref x :: .ref h0 :: rest)) :=
  va_putF (D := D) (ci := 1) (v := .ref x) (ty := .array .int) (C := RX1) (T := TX1) (N := 6) K.1.1 K.1.2.1 K.1.2.2.2.2 in_X1 tyX1 tyX1_ok nmX1 K.1.2.2.2.1 K.2.1 I.1 I.2.1 I.2.2 0 he rfl 0 (by decide) (K.1.2.2.2.2 _ q192) (fun _ h9 => h9) rfl hin rfl (by decide +kernel) rfl rfl hl hdg (fun H1 l1 hP hD hS => kk H1 l1 ⟨hP, hD, hS⟩)
theorem fM_values {x : Nat} {fs : List Value} (K : Kx p m c s args D d z A RX1 cc nL) (hin : meth.name = "<init>") (I : Iw D A s ws H locs) (he : ws[0]? = some (h0, .inr (1, fs))) (hl : 1 < fs.length) (hdg : decode cc pc = .ok (.putfield 13, 3)) (kk : ∀ (H1 : Heap) (locs1 : List Loc), Iw D A s (ws.set 0 (h0, .inr (1, fs.set 1 (.ref x)))) H1 locs1 → W p l e R s m args below meth c H1 locs1 cells slots Q (F0 m (pc + 3) ls rest)) : W p l e R s m args below meth c H locs cells slots Q (F0 m pc ls (.ref x :: .ref h0 :: rest)) :=
  va_putF (D := D) (ci := 1) (v := .ref x) (ty := .array .int) (C := RX1) (T := TX1) (N := 6) K.1.1 K.1.2.1 K.1.2.2.2.2 in_X1 tyX1 tyX1_ok nmX1 K.1.2.2.2.1 K.2.1 I.1 I.2.1 I.2.2 0 he rfl 1 (by decide) (K.1.2.2.2.2 _ q193) (fun _ h9 => h9) rfl hin rfl (by decide +kernel) rfl rfl hl hdg (fun H1 l1 hP hD hS => kk H1 l1 ⟨hP, hD, hS⟩)
theorem fM_kept {x : Nat} {fs : List Value} (K : Kx p m c s args D d z A RX1 cc nL) (hin : meth.name = "<init>") (I : Iw D A s ws H locs) (he : ws[0]? = some (h0, .inr (1, fs))) (hl : 3 < fs.length) (hdg : decode cc pc = .ok (.putfield 16, 3)) (kk : ∀ (H1 : Heap) (locs1 : List Loc), Iw D A s (ws.set 0 (h0, .inr (1, fs.set 3 (.ref x)))) H1 locs1 → W p l e R s m args below meth c H1 locs1 cells slots Q (F0 m (pc + 3) ls rest)) : W p l e R s m args below meth c H locs cells slots Q (F0 m pc ls (.ref x :: .ref h0 :: rest)) :=
  va_putF (D := D) (ci := 1) (v := .ref x) (ty := .array .int) (C := RX1) (T := TX1) (N := 6) K.1.1 K.1.2.1 K.1.2.2.2.2 in_X1 tyX1 tyX1_ok nmX1 K.1.2.2.2.1 K.2.1 I.1 I.2.1 I.2.2 0 he rfl 3 (by decide) (K.1.2.2.2.2 _ q195) (fun _ h9 => h9) rfl hin rfl (by decide +kernel) rfl rfl hl hdg (fun H1 l1 hP hD hS => kk H1 l1 ⟨hP, hD, hS⟩)
theorem fM_damaged {x : Nat} {fs : List Value} (K : Kx p m c s args D d z A RX1 cc nL) (hin : meth.name = "<init>") (I : Iw D A s ws H locs) (he : ws[0]? = some (h0, .inr (1, fs))) (hl : 4 < fs.length) (hdg : decode cc pc = .ok (.putfield 19, 3)) (kk : ∀ (H1 : Heap) (locs1 : List Loc), Iw D A s (ws.set 0 (h0, .inr (1, fs.set 4 (.ref x)))) H1 locs1 → W p l e R s m args below meth c H1 locs1 cells slots Q (F0 m (pc + 3) ls rest)) : W p l e R s m args below meth c H locs cells slots Q (F0 m pc ls (.ref x :: .ref h0 :: rest)) :=
  va_putF (D := D) (ci := 1) (v := .ref x) (ty := .array .boolean) (C := RX1) (T := TX1) (N := 6) K.1.1 K.1.2.1 K.1.2.2.2.2 in_X1 tyX1 tyX1_ok nmX1 K.1.2.2.2.1 K.2.1 I.1 I.2.1 I.2.2 0 he rfl 4 (by decide) (K.1.2.2.2.2 _ q196) (fun _ h9 => h9) rfl hin rfl (by decide +kernel) rfl rfl hl hdg (fun H1 l1 hP hD hS => kk H1 l1 ⟨hP, hD, hS⟩)
end CTOR
theorem c_init (l : Launch) : Ctc l yX0_init cX0_init 2 1 10 184 (fun h0 => [(h0, .inr (0, fX0))]) (fun d z h0 ad => wX d z h0 ad (inB 8)) := by
  refine ctC_of (by decide) rfl (Nat.le_of_ble_eq_true rfl) ?_
  intro p e s m args below meth c D d z h0 A Q ls K hin I hl hQ
  have K : Kx p m c s args D d z A RX0 cX0_init 2 := K
  refine lv_aload_n K.1.1 K.1.2.1 dX0_init_0 rfl (lv_at hl 0 rfl) ?_
  refine W.objInit K.1.1 K.1.2.1 K.1.2.2.2.1 (K.1.2.2.2.2 _ q26) (K.1.2.2.2.2 _ q27) (K.1.2.2.2.2 _ q28) rfl (by rw [K.1.2.2.1]; exact hl.1) rfl dX0_init_1 (Nat.le_of_ble_eq_true rfl) (Nat.le_of_ble_eq_true rfl) ?_
  refine W.eq (g2 := F0 m 4 ls []) rfl ?_
  have I : Iw D A s [(h0, .inr (0, [.null, .null, .int 0, .null, .null, .null, .null, .null, .null, .int 0, .int 0, .null, .null, .int 0]))] s.heap [] := I
  refine lv_aload_n K.1.1 K.1.2.1 dX0_init_4 rfl (lv_at hl 0 rfl) ?_
  refine lv_bipush (v := 12) K.1.1 K.1.2.1 dX0_init_5 (by decide) ?_
  refine il_newI 12 K I (by decide) (by decide) (by decide) (by decide) (by decide) dX0_init_7 (fun q0 H I => ?_)
  have I : Iw D A s [(h0, .inr (0, [.null, .null, .int 0, .null, .null, .null, .null, .null, .null, .int 0, .int 0, .null, .null, .int 0])), (q0, .inl (d, 12, .inl (fun _ => 0)))] H _ := I
  refine W.widen (k := 1) (n := 12) (by decide) (by decide) ?_
  refine fX_home K hin I rfl (Nat.le_of_ble_eq_true rfl) dX0_init_9 (fun H locs I => ?_)
  have I : Iw D A s [(h0, .inr (0, [.ref q0, .null, .int 0, .null, .null, .null, .null, .null, .null, .int 0, .int 0, .null, .null, .int 0])), (q0, .inl (d, 12, .inl (fun _ => 0)))] H locs := I
  refine lv_aload_n K.1.1 K.1.2.1 dX0_init_12 rfl (lv_at hl 0 rfl) ?_
  refine lv_bipush (v := 12) K.1.1 K.1.2.1 dX0_init_13 (by decide) ?_
  refine il_newI 12 K I (by decide) (by decide) (by decide) (by decide) (by decide) dX0_init_15 (fun q1 H I => ?_)
  have I : Iw D A s [(h0, .inr (0, [.ref q0, .null, .int 0, .null, .null, .null, .null, .null, .null, .int 0, .int 0, .null, .null, .int 0])), (q0, .inl (d, 12, .inl (fun _ => 0))), (q1, .inl (d, 12, .inl (fun _ => 0)))] H _ := I
  refine W.widen (k := 2) (n := 24) (by decide) (by decide) ?_
  refine fX_check K hin I rfl (Nat.le_of_ble_eq_true rfl) dX0_init_17 (fun H locs I => ?_)
  have I : Iw D A s [(h0, .inr (0, [.ref q0, .ref q1, .int 0, .null, .null, .null, .null, .null, .null, .int 0, .int 0, .null, .null, .int 0])), (q0, .inl (d, 12, .inl (fun _ => 0))), (q1, .inl (d, 12, .inl (fun _ => 0)))] H locs := I
  refine lv_aload_n K.1.1 K.1.2.1 dX0_init_20 rfl (lv_at hl 0 rfl) ?_
  refine lv_bipush (v := 8) K.1.1 K.1.2.1 dX0_init_21 (by decide) ?_
  refine il_newI 8 K I (by decide) (by decide) (by decide) (by decide) (by decide) dX0_init_23 (fun q3 H I => ?_)
  have I : Iw D A s [(h0, .inr (0, [.ref q0, .ref q1, .int 0, .null, .null, .null, .null, .null, .null, .int 0, .int 0, .null, .null, .int 0])), (q0, .inl (d, 12, .inl (fun _ => 0))), (q1, .inl (d, 12, .inl (fun _ => 0))), (q3, .inl (d, 8, .inl (fun _ => 0)))] H _ := I
  refine W.widen (k := 3) (n := 32) (by decide) (by decide) ?_
  refine fX_slotNumber K hin I rfl (Nat.le_of_ble_eq_true rfl) dX0_init_25 (fun H locs I => ?_)
  have I : Iw D A s [(h0, .inr (0, [.ref q0, .ref q1, .int 0, .ref q3, .null, .null, .null, .null, .null, .int 0, .int 0, .null, .null, .int 0])), (q0, .inl (d, 12, .inl (fun _ => 0))), (q1, .inl (d, 12, .inl (fun _ => 0))), (q3, .inl (d, 8, .inl (fun _ => 0)))] H locs := I
  refine lv_aload_n K.1.1 K.1.2.1 dX0_init_28 rfl (lv_at hl 0 rfl) ?_
  refine lv_bipush (v := 8) K.1.1 K.1.2.1 dX0_init_29 (by decide) ?_
  refine il_newI 8 K I (by decide) (by decide) (by decide) (by decide) (by decide) dX0_init_31 (fun q4 H I => ?_)
  have I : Iw D A s [(h0, .inr (0, [.ref q0, .ref q1, .int 0, .ref q3, .null, .null, .null, .null, .null, .int 0, .int 0, .null, .null, .int 0])), (q0, .inl (d, 12, .inl (fun _ => 0))), (q1, .inl (d, 12, .inl (fun _ => 0))), (q3, .inl (d, 8, .inl (fun _ => 0))), (q4, .inl (d, 8, .inl (fun _ => 0)))] H _ := I
  refine W.widen (k := 4) (n := 40) (by decide) (by decide) ?_
  refine fX_slotCount K hin I rfl (Nat.le_of_ble_eq_true rfl) dX0_init_33 (fun H locs I => ?_)
  have I : Iw D A s [(h0, .inr (0, [.ref q0, .ref q1, .int 0, .ref q3, .ref q4, .null, .null, .null, .null, .int 0, .int 0, .null, .null, .int 0])), (q0, .inl (d, 12, .inl (fun _ => 0))), (q1, .inl (d, 12, .inl (fun _ => 0))), (q3, .inl (d, 8, .inl (fun _ => 0))), (q4, .inl (d, 8, .inl (fun _ => 0)))] H locs := I
  refine lv_aload_n K.1.1 K.1.2.1 dX0_init_36 rfl (lv_at hl 0 rfl) ?_
  refine lv_bipush (v := 8) K.1.1 K.1.2.1 dX0_init_37 (by decide) ?_
  refine il_newI 8 K I (by decide) (by decide) (by decide) (by decide) (by decide) dX0_init_39 (fun q5 H I => ?_)
  have I : Iw D A s [(h0, .inr (0, [.ref q0, .ref q1, .int 0, .ref q3, .ref q4, .null, .null, .null, .null, .int 0, .int 0, .null, .null, .int 0])), (q0, .inl (d, 12, .inl (fun _ => 0))), (q1, .inl (d, 12, .inl (fun _ => 0))), (q3, .inl (d, 8, .inl (fun _ => 0))), (q4, .inl (d, 8, .inl (fun _ => 0))), (q5, .inl (d, 8, .inl (fun _ => 0)))] H _ := I
  refine W.widen (k := 5) (n := 48) (by decide) (by decide) ?_
  refine fX_slotSum K hin I rfl (Nat.le_of_ble_eq_true rfl) dX0_init_41 (fun H locs I => ?_)
  have I : Iw D A s [(h0, .inr (0, [.ref q0, .ref q1, .int 0, .ref q3, .ref q4, .ref q5, .null, .null, .null, .int 0, .int 0, .null, .null, .int 0])), (q0, .inl (d, 12, .inl (fun _ => 0))), (q1, .inl (d, 12, .inl (fun _ => 0))), (q3, .inl (d, 8, .inl (fun _ => 0))), (q4, .inl (d, 8, .inl (fun _ => 0))), (q5, .inl (d, 8, .inl (fun _ => 0)))] H locs := I
  refine lv_aload_n K.1.1 K.1.2.1 dX0_init_44 rfl (lv_at hl 0 rfl) ?_
  refine lv_bipush (v := 32) K.1.1 K.1.2.1 dX0_init_45 (by decide) ?_
  refine il_newI 32 K I (by decide) (by decide) (by decide) (by decide) (by decide) dX0_init_47 (fun q6 H I => ?_)
  have I : Iw D A s [(h0, .inr (0, [.ref q0, .ref q1, .int 0, .ref q3, .ref q4, .ref q5, .null, .null, .null, .int 0, .int 0, .null, .null, .int 0])), (q0, .inl (d, 12, .inl (fun _ => 0))), (q1, .inl (d, 12, .inl (fun _ => 0))), (q3, .inl (d, 8, .inl (fun _ => 0))), (q4, .inl (d, 8, .inl (fun _ => 0))), (q5, .inl (d, 8, .inl (fun _ => 0))), (q6, .inl (d, 32, .inl (fun _ => 0)))] H _ := I
  refine W.widen (k := 6) (n := 80) (by decide) (by decide) ?_
  refine fX_slotSector K hin I rfl (Nat.le_of_ble_eq_true rfl) dX0_init_49 (fun H locs I => ?_)
  have I : Iw D A s [(h0, .inr (0, [.ref q0, .ref q1, .int 0, .ref q3, .ref q4, .ref q5, .ref q6, .null, .null, .int 0, .int 0, .null, .null, .int 0])), (q0, .inl (d, 12, .inl (fun _ => 0))), (q1, .inl (d, 12, .inl (fun _ => 0))), (q3, .inl (d, 8, .inl (fun _ => 0))), (q4, .inl (d, 8, .inl (fun _ => 0))), (q5, .inl (d, 8, .inl (fun _ => 0))), (q6, .inl (d, 32, .inl (fun _ => 0)))] H locs := I
  refine lv_aload_n K.1.1 K.1.2.1 dX0_init_52 rfl (lv_at hl 0 rfl) ?_
  refine lv_bipush (v := 32) K.1.1 K.1.2.1 dX0_init_53 (by decide) ?_
  refine il_newI 32 K I (by decide) (by decide) (by decide) (by decide) (by decide) dX0_init_55 (fun q7 H I => ?_)
  have I : Iw D A s [(h0, .inr (0, [.ref q0, .ref q1, .int 0, .ref q3, .ref q4, .ref q5, .ref q6, .null, .null, .int 0, .int 0, .null, .null, .int 0])), (q0, .inl (d, 12, .inl (fun _ => 0))), (q1, .inl (d, 12, .inl (fun _ => 0))), (q3, .inl (d, 8, .inl (fun _ => 0))), (q4, .inl (d, 8, .inl (fun _ => 0))), (q5, .inl (d, 8, .inl (fun _ => 0))), (q6, .inl (d, 32, .inl (fun _ => 0))), (q7, .inl (d, 32, .inl (fun _ => 0)))] H _ := I
  refine W.widen (k := 7) (n := 112) (by decide) (by decide) ?_
  refine fX_slotValue K hin I rfl (Nat.le_of_ble_eq_true rfl) dX0_init_57 (fun H locs I => ?_)
  have I : Iw D A s [(h0, .inr (0, [.ref q0, .ref q1, .int 0, .ref q3, .ref q4, .ref q5, .ref q6, .ref q7, .null, .int 0, .int 0, .null, .null, .int 0])), (q0, .inl (d, 12, .inl (fun _ => 0))), (q1, .inl (d, 12, .inl (fun _ => 0))), (q3, .inl (d, 8, .inl (fun _ => 0))), (q4, .inl (d, 8, .inl (fun _ => 0))), (q5, .inl (d, 8, .inl (fun _ => 0))), (q6, .inl (d, 32, .inl (fun _ => 0))), (q7, .inl (d, 32, .inl (fun _ => 0)))] H locs := I
  refine lv_aload_n K.1.1 K.1.2.1 dX0_init_60 rfl (lv_at hl 0 rfl) ?_
  refine lv_bipush (v := 32) K.1.1 K.1.2.1 dX0_init_61 (by decide) ?_
  refine il_newI 32 K I (by decide) (by decide) (by decide) (by decide) (by decide) dX0_init_63 (fun q8 H I => ?_)
  have I : Iw D A s [(h0, .inr (0, [.ref q0, .ref q1, .int 0, .ref q3, .ref q4, .ref q5, .ref q6, .ref q7, .null, .int 0, .int 0, .null, .null, .int 0])), (q0, .inl (d, 12, .inl (fun _ => 0))), (q1, .inl (d, 12, .inl (fun _ => 0))), (q3, .inl (d, 8, .inl (fun _ => 0))), (q4, .inl (d, 8, .inl (fun _ => 0))), (q5, .inl (d, 8, .inl (fun _ => 0))), (q6, .inl (d, 32, .inl (fun _ => 0))), (q7, .inl (d, 32, .inl (fun _ => 0))), (q8, .inl (d, 32, .inl (fun _ => 0)))] H _ := I
  refine W.widen (k := 8) (n := 144) (by decide) (by decide) ?_
  refine fX_slotCheck K hin I rfl (Nat.le_of_ble_eq_true rfl) dX0_init_65 (fun H locs I => ?_)
  have I : Iw D A s [(h0, .inr (0, [.ref q0, .ref q1, .int 0, .ref q3, .ref q4, .ref q5, .ref q6, .ref q7, .ref q8, .int 0, .int 0, .null, .null, .int 0])), (q0, .inl (d, 12, .inl (fun _ => 0))), (q1, .inl (d, 12, .inl (fun _ => 0))), (q3, .inl (d, 8, .inl (fun _ => 0))), (q4, .inl (d, 8, .inl (fun _ => 0))), (q5, .inl (d, 8, .inl (fun _ => 0))), (q6, .inl (d, 32, .inl (fun _ => 0))), (q7, .inl (d, 32, .inl (fun _ => 0))), (q8, .inl (d, 32, .inl (fun _ => 0)))] H locs := I
  refine lv_aload_n K.1.1 K.1.2.1 dX0_init_68 rfl (lv_at hl 0 rfl) ?_
  refine lv_bipush (v := 20) K.1.1 K.1.2.1 dX0_init_69 (by decide) ?_
  refine il_newI 20 K I (by decide) (by decide) (by decide) (by decide) (by decide) dX0_init_71 (fun q11 H I => ?_)
  have I : Iw D A s [(h0, .inr (0, [.ref q0, .ref q1, .int 0, .ref q3, .ref q4, .ref q5, .ref q6, .ref q7, .ref q8, .int 0, .int 0, .null, .null, .int 0])), (q0, .inl (d, 12, .inl (fun _ => 0))), (q1, .inl (d, 12, .inl (fun _ => 0))), (q3, .inl (d, 8, .inl (fun _ => 0))), (q4, .inl (d, 8, .inl (fun _ => 0))), (q5, .inl (d, 8, .inl (fun _ => 0))), (q6, .inl (d, 32, .inl (fun _ => 0))), (q7, .inl (d, 32, .inl (fun _ => 0))), (q8, .inl (d, 32, .inl (fun _ => 0))), (q11, .inl (d, 20, .inl (fun _ => 0)))] H _ := I
  refine W.widen (k := 9) (n := 164) (by decide) (by decide) ?_
  refine fX_waitSector K hin I rfl (Nat.le_of_ble_eq_true rfl) dX0_init_73 (fun H locs I => ?_)
  have I : Iw D A s [(h0, .inr (0, [.ref q0, .ref q1, .int 0, .ref q3, .ref q4, .ref q5, .ref q6, .ref q7, .ref q8, .int 0, .int 0, .ref q11, .null, .int 0])), (q0, .inl (d, 12, .inl (fun _ => 0))), (q1, .inl (d, 12, .inl (fun _ => 0))), (q3, .inl (d, 8, .inl (fun _ => 0))), (q4, .inl (d, 8, .inl (fun _ => 0))), (q5, .inl (d, 8, .inl (fun _ => 0))), (q6, .inl (d, 32, .inl (fun _ => 0))), (q7, .inl (d, 32, .inl (fun _ => 0))), (q8, .inl (d, 32, .inl (fun _ => 0))), (q11, .inl (d, 20, .inl (fun _ => 0)))] H locs := I
  refine lv_aload_n K.1.1 K.1.2.1 dX0_init_76 rfl (lv_at hl 0 rfl) ?_
  refine lv_bipush (v := 20) K.1.1 K.1.2.1 dX0_init_77 (by decide) ?_
  refine il_newI 20 K I (by decide) (by decide) (by decide) (by decide) (by decide) dX0_init_79 (fun q12 H I => ?_)
  have I : Iw D A s [(h0, .inr (0, [.ref q0, .ref q1, .int 0, .ref q3, .ref q4, .ref q5, .ref q6, .ref q7, .ref q8, .int 0, .int 0, .ref q11, .null, .int 0])), (q0, .inl (d, 12, .inl (fun _ => 0))), (q1, .inl (d, 12, .inl (fun _ => 0))), (q3, .inl (d, 8, .inl (fun _ => 0))), (q4, .inl (d, 8, .inl (fun _ => 0))), (q5, .inl (d, 8, .inl (fun _ => 0))), (q6, .inl (d, 32, .inl (fun _ => 0))), (q7, .inl (d, 32, .inl (fun _ => 0))), (q8, .inl (d, 32, .inl (fun _ => 0))), (q11, .inl (d, 20, .inl (fun _ => 0))), (q12, .inl (d, 20, .inl (fun _ => 0)))] H _ := I
  refine W.widen (k := 10) (n := 184) (by decide) (by decide) ?_
  refine fX_waitValue K hin I rfl (Nat.le_of_ble_eq_true rfl) dX0_init_81 (fun H locs I => ?_)
  have I : Iw D A s [(h0, .inr (0, [.ref q0, .ref q1, .int 0, .ref q3, .ref q4, .ref q5, .ref q6, .ref q7, .ref q8, .int 0, .int 0, .ref q11, .ref q12, .int 0])), (q0, .inl (d, 12, .inl (fun _ => 0))), (q1, .inl (d, 12, .inl (fun _ => 0))), (q3, .inl (d, 8, .inl (fun _ => 0))), (q4, .inl (d, 8, .inl (fun _ => 0))), (q5, .inl (d, 8, .inl (fun _ => 0))), (q6, .inl (d, 32, .inl (fun _ => 0))), (q7, .inl (d, 32, .inl (fun _ => 0))), (q8, .inl (d, 32, .inl (fun _ => 0))), (q11, .inl (d, 20, .inl (fun _ => 0))), (q12, .inl (d, 20, .inl (fun _ => 0)))] H locs := I
  obtain ⟨ad, had⟩ : ∃ ad : Nat → Nat, ad = fun k => match k with | 0 => q0 | 1 => q1 | 3 => q3 | 4 => q4 | 5 => q5 | 6 => q6 | 7 => q7 | 8 => q8 | 11 => q11 | _ => q12 := ⟨_, rfl⟩
  have I : Iw D A s (wX d z h0 ad (inA 0)) H locs := by subst had; exact I
  have lp2 : ∀ (f j : Nat) (H : Heap) (locs : List Loc) (ls : Array Slot), j ≤ 8 → 8 < j + f → Iw D A s (wX d z h0 ad (inB j)) H locs → lv_has ls 2 [(1, .int (nI j)), (0, .ref h0)] → W p l e (rc 1 10 184) s m args below meth c H locs 10 184 Q (F0 m 111 ls []) := by
    intro f
    induction f with
    | zero => intro j H locs ls h1 h2; exact absurd h2 (by omega)
    | succ f ih =>
      intro j H locs ls h1 h2 I hl
      refine lv_iload_n K.1.1 K.1.2.1 dX0_init_111 rfl (lv_at hl 0 rfl) ?_
      refine lv_bipush (v := 8) K.1.1 K.1.2.1 dX0_init_112 (by decide) ?_
      refine lv_icmp_ge (tgt := 130) K.1.1 K.1.2.1 dX0_init_114 (by decide) (fun h => ?_) (fun h => ?_)
      · have h : 8 ≤ j := (nI_leI (a := 8) (by decide) (by omega)).mp h
        have e : j = 8 := by omega
        subst e
        exact hQ ad _ _ _ _ I dX0_init_130
      · skip
        have h : ¬ 8 ≤ j := fun q => h ((nI_leI (a := 8) (by decide) (by omega)).mpr q)
        refine lv_aload_n K.1.1 K.1.2.1 dX0_init_117 rfl (lv_at hl 1 rfl) ?_
        refine gX_slotNumber K I dX0_init_118 ?_
        refine lv_iload_n K.1.1 K.1.2.1 dX0_init_121 rfl (lv_at hl 0 rfl) ?_
        refine lv_iconst (v := (-1)) K.1.1 K.1.2.1 dX0_init_122 (by decide) ?_
        refine sX_slotNumber (i := j) K I rfl (by omega) dX0_init_123 (fun H locs I => ?_)
        refine lv_iinc (v := (nI (j + 1))) (lv' := [(1, .int (nI (j + 1))), (0, .ref h0)]) K.1.1 K.1.2.1 dX0_init_124 hl (k := 0) rfl (nI_1 _) (by decide) rfl (fun ls hl => ?_)
        refine lv_goto (tgt := 111) K.1.1 K.1.2.1 dX0_init_127 (by decide) ?_
        exact ih (j + 1) H locs ls (by omega) (by omega) I hl
  have lp1 : ∀ (f j : Nat) (H : Heap) (locs : List Loc) (ls : Array Slot), j ≤ 12 → 12 < j + f → Iw D A s (wX d z h0 ad (inA j)) H locs → lv_has ls 2 [(1, .int (nI j)), (0, .ref h0)] → W p l e (rc 1 10 184) s m args below meth c H locs 10 184 Q (F0 m 86 ls []) := by
    intro f
    induction f with
    | zero => intro j H locs ls h1 h2; exact absurd h2 (by omega)
    | succ f ih =>
      intro j H locs ls h1 h2 I hl
      refine lv_iload_n K.1.1 K.1.2.1 dX0_init_86 rfl (lv_at hl 0 rfl) ?_
      refine lv_bipush (v := 12) K.1.1 K.1.2.1 dX0_init_87 (by decide) ?_
      refine lv_icmp_ge (tgt := 109) K.1.1 K.1.2.1 dX0_init_89 (by decide) (fun h => ?_) (fun h => ?_)
      · have h : 12 ≤ j := (nI_leI (a := 12) (by decide) (by omega)).mp h
        have e : j = 12 := by omega
        subst e
        refine lv_iconst (v := 0) K.1.1 K.1.2.1 dX0_init_109 (by decide) ?_
        refine il_top (y := nI 0) (rfl) ?_
        refine lv_istore_n (lv' := [(1, .int (nI 0)), (0, .ref h0)]) K.1.1 K.1.2.1 dX0_init_110 rfl hl (by decide) rfl (fun ls hl => ?_)
        exact lp2 9 0 H locs ls (by omega) (by omega) I hl
      · skip
        have h : ¬ 12 ≤ j := fun q => h ((nI_leI (a := 12) (by decide) (by omega)).mpr q)
        refine lv_aload_n K.1.1 K.1.2.1 dX0_init_92 rfl (lv_at hl 1 rfl) ?_
        refine gX_check K I dX0_init_93 ?_
        refine lv_iload_n K.1.1 K.1.2.1 dX0_init_96 rfl (lv_at hl 0 rfl) ?_
        refine lv_iload_n K.1.1 K.1.2.1 dX0_init_97 rfl (lv_at hl 0 rfl) ?_
        refine lv_iconst (v := 0) K.1.1 K.1.2.1 dX0_init_98 (by decide) ?_
        refine il_callS 2 K I hl.1 (c_checkOf l (nI j) 0) (lw_S q29 q30 q19 q31) (by decide +kernel) ⟨by decide, by decide⟩ rfl rfl (Nat.le_of_ble_eq_true rfl) ⟨Nat.le_refl _, Nat.le_refl _⟩ dX0_init_99 (fun H locs I => ?_)
        refine sX_check (i := j) K I rfl (by omega) dX0_init_102 (fun H locs I => ?_)
        refine lv_iinc (v := (nI (j + 1))) (lv' := [(1, .int (nI (j + 1))), (0, .ref h0)]) K.1.1 K.1.2.1 dX0_init_103 hl (k := 0) rfl (nI_1 _) (by decide) rfl (fun ls hl => ?_)
        refine lv_goto (tgt := 86) K.1.1 K.1.2.1 dX0_init_106 (by decide) ?_
        exact ih (j + 1) H locs ls (by omega) (by omega) I hl
  refine lv_iconst (v := 0) K.1.1 K.1.2.1 dX0_init_84 (by decide) ?_
  refine il_top (y := nI 0) (rfl) ?_
  refine lv_istore_n (lv' := [(1, .int (nI 0)), (0, .ref h0)]) K.1.1 K.1.2.1 dX0_init_85 rfl hl (by decide) rfl (fun ls hl => ?_)
  exact lp1 13 0 H locs ls (by omega) (by omega) I hl
theorem m_init (l : Launch) : Ctc l yX1_init cX1_init 1 1 4 64 (fun h0 => [(h0, .inr (1, fM0))]) (fun d z h0 ad => wM d z h0 ad (fun _ _ => 0)) := by
  refine ctC_of (by decide) rfl (Nat.le_of_ble_eq_true rfl) ?_
  intro p e s m args below meth c D d z h0 A Q ls K hin I hl hQ
  have K : Kx p m c s args D d z A RX1 cX1_init 1 := K
  refine lv_aload_n K.1.1 K.1.2.1 dX1_init_0 rfl (lv_at hl 0 rfl) ?_
  refine W.objInit K.1.1 K.1.2.1 K.1.2.2.2.1 (K.1.2.2.2.2 _ q191) (K.1.2.2.2.2 _ q27) (K.1.2.2.2.2 _ q28) rfl (by rw [K.1.2.2.1]; exact hl.1) rfl dX1_init_1 (Nat.le_of_ble_eq_true rfl) (Nat.le_of_ble_eq_true rfl) ?_
  refine W.eq (g2 := F0 m 4 ls []) rfl ?_
  have I : Iw D A s [(h0, .inr (1, [.null, .null, .int 0, .null, .null, .int 0]))] s.heap [] := I
  refine lv_aload_n K.1.1 K.1.2.1 dX1_init_4 rfl (lv_at hl 0 rfl) ?_
  refine lv_bipush (v := 20) K.1.1 K.1.2.1 dX1_init_5 (by decide) ?_
  refine il_newI 20 K I (by decide) (by decide) (by decide) (by decide) (by decide) dX1_init_7 (fun q0 H I => ?_)
  have I : Iw D A s [(h0, .inr (1, [.null, .null, .int 0, .null, .null, .int 0])), (q0, .inl (d, 20, .inl (fun _ => 0)))] H _ := I
  refine W.widen (k := 1) (n := 20) (by decide) (by decide) ?_
  refine fM_sectors K hin I rfl (Nat.le_of_ble_eq_true rfl) dX1_init_9 (fun H locs I => ?_)
  have I : Iw D A s [(h0, .inr (1, [.ref q0, .null, .int 0, .null, .null, .int 0])), (q0, .inl (d, 20, .inl (fun _ => 0)))] H locs := I
  refine lv_aload_n K.1.1 K.1.2.1 dX1_init_12 rfl (lv_at hl 0 rfl) ?_
  refine lv_bipush (v := 20) K.1.1 K.1.2.1 dX1_init_13 (by decide) ?_
  refine il_newI 20 K I (by decide) (by decide) (by decide) (by decide) (by decide) dX1_init_15 (fun q1 H I => ?_)
  have I : Iw D A s [(h0, .inr (1, [.ref q0, .null, .int 0, .null, .null, .int 0])), (q0, .inl (d, 20, .inl (fun _ => 0))), (q1, .inl (d, 20, .inl (fun _ => 0)))] H _ := I
  refine W.widen (k := 2) (n := 40) (by decide) (by decide) ?_
  refine fM_values K hin I rfl (Nat.le_of_ble_eq_true rfl) dX1_init_17 (fun H locs I => ?_)
  have I : Iw D A s [(h0, .inr (1, [.ref q0, .ref q1, .int 0, .null, .null, .int 0])), (q0, .inl (d, 20, .inl (fun _ => 0))), (q1, .inl (d, 20, .inl (fun _ => 0)))] H locs := I
  refine lv_aload_n K.1.1 K.1.2.1 dX1_init_20 rfl (lv_at hl 0 rfl) ?_
  refine lv_bipush (v := 12) K.1.1 K.1.2.1 dX1_init_21 (by decide) ?_
  refine il_newI 12 K I (by decide) (by decide) (by decide) (by decide) (by decide) dX1_init_23 (fun q3 H I => ?_)
  have I : Iw D A s [(h0, .inr (1, [.ref q0, .ref q1, .int 0, .null, .null, .int 0])), (q0, .inl (d, 20, .inl (fun _ => 0))), (q1, .inl (d, 20, .inl (fun _ => 0))), (q3, .inl (d, 12, .inl (fun _ => 0)))] H _ := I
  refine W.widen (k := 3) (n := 52) (by decide) (by decide) ?_
  refine fM_kept K hin I rfl (Nat.le_of_ble_eq_true rfl) dX1_init_25 (fun H locs I => ?_)
  have I : Iw D A s [(h0, .inr (1, [.ref q0, .ref q1, .int 0, .ref q3, .null, .int 0])), (q0, .inl (d, 20, .inl (fun _ => 0))), (q1, .inl (d, 20, .inl (fun _ => 0))), (q3, .inl (d, 12, .inl (fun _ => 0)))] H locs := I
  refine lv_aload_n K.1.1 K.1.2.1 dX1_init_28 rfl (lv_at hl 0 rfl) ?_
  refine lv_bipush (v := 12) K.1.1 K.1.2.1 dX1_init_29 (by decide) ?_
  refine il_newZ 12 K I (by decide) (by decide) (by decide) (by decide) (by decide) dX1_init_31 (fun q4 H I => ?_)
  have I : Iw D A s [(h0, .inr (1, [.ref q0, .ref q1, .int 0, .ref q3, .null, .int 0])), (q0, .inl (d, 20, .inl (fun _ => 0))), (q1, .inl (d, 20, .inl (fun _ => 0))), (q3, .inl (d, 12, .inl (fun _ => 0))), (q4, .inl (z, 12, .inl (fun _ => 0)))] H _ := I
  refine W.widen (k := 4) (n := 64) (by decide) (by decide) ?_
  refine fM_damaged K hin I rfl (Nat.le_of_ble_eq_true rfl) dX1_init_33 (fun H locs I => ?_)
  have I : Iw D A s [(h0, .inr (1, [.ref q0, .ref q1, .int 0, .ref q3, .ref q4, .int 0])), (q0, .inl (d, 20, .inl (fun _ => 0))), (q1, .inl (d, 20, .inl (fun _ => 0))), (q3, .inl (d, 12, .inl (fun _ => 0))), (q4, .inl (z, 12, .inl (fun _ => 0)))] H locs := I
  exact hQ (fun k => match k with | 0 => q0 | 1 => q1 | 3 => q3 | _ => q4) _ _ _ _ I dX1_init_36
end
section
/-! the plain law: what the layer's contents mean -/
theorem up_s {f : Nat → Int32} {k : Nat} {x : Int32} : upd f k x k = x := pk_us
def SlEq (S S' : St) (k : Nat) : Prop := S' 4 k = S 4 k ∧ ∀ i, i < 4 → S' 6 (4 * k + i) = S 6 (4 * k + i) ∧ S' 7 (4 * k + i) = S 7 (4 * k + i) ∧ S' 8 (4 * k + i) = S 8 (4 * k + i)
theorem apN_cong {U U' : St} {k : Nat} (h0 : U' 0 = U 0) (h1 : U' 1 = U 1) : ∀ c, (∀ i, i < c → U' 6 (4 * k + i) = U 6 (4 * k + i) ∧ U' 7 (4 * k + i) = U 7 (4 * k + i) ∧ U' 8 (4 * k + i) = U 8 (4 * k + i)) → apN U' k c 0 = apN U k c 0 ∧ apN U' k c 1 = apN U k c 1
  | 0, _ => ⟨h0, h1⟩
  | c + 1, h => by
    obtain ⟨g0, g1⟩ := apN_cong h0 h1 c (fun i hi => h i (by omega))
    obtain ⟨e6, e7, e8⟩ := h c (by omega)
    have a6 : apN U' k c 6 = U' 6 := apN_ne (by decide) (by decide) c
    have a7 : apN U' k c 7 = U' 7 := apN_ne (by decide) (by decide) c
    have a8 : apN U' k c 8 = U' 8 := apN_ne (by decide) (by decide) c
    have b6 : apN U k c 6 = U 6 := apN_ne (by decide) (by decide) c
    have b7 : apN U k c 7 = U 7 := apN_ne (by decide) (by decide) c
    have b8 : apN U k c 8 = U 8 := apN_ne (by decide) (by decide) c
    constructor
    · show upd (apN U' k c 0) (cl (apN U' k c 6 (4 * k + c))) (apN U' k c 7 (4 * k + c)) = upd (apN U k c 0) (cl (apN U k c 6 (4 * k + c))) (apN U k c 7 (4 * k + c))
      rw [g0, a6, a7, b6, b7, e6, e7]
    · show upd (apN U' k c 1) (cl (apN U' k c 6 (4 * k + c))) (apN U' k c 8 (4 * k + c)) = upd (apN U k c 1) (cl (apN U k c 6 (4 * k + c))) (apN U k c 8 (4 * k + c))
      rw [g1, a6, a8, b6, b8, e6, e8]
theorem chN_cong {S S' : St} {a : Nat} (ho : OkJ S) (h0 : S' 0 = S 0) (h1 : S' 1 = S 1) : ∀ j, (∀ k, a ≤ k → k < a + j → SlEq S S' (k % 8)) → chN S' a j 0 = chN S a j 0 ∧ chN S' a j 1 = chN S a j 1
  | 0, _ => ⟨h0, h1⟩
  | j + 1, h => by
    obtain ⟨g0, g1⟩ := chN_cong ho h0 h1 j (fun k h1 h2 => h k h1 (by omega))
    obtain ⟨e4, e⟩ := h (a + j) (by omega) (by omega)
    have a4 : chN S' a j 4 = S' 4 := chN_ne (by decide) (by decide) j
    have a6 : chN S' a j 6 = S' 6 := chN_ne (by decide) (by decide) j
    have a7 : chN S' a j 7 = S' 7 := chN_ne (by decide) (by decide) j
    have a8 : chN S' a j 8 = S' 8 := chN_ne (by decide) (by decide) j
    have b4 : chN S a j 4 = S 4 := chN_ne (by decide) (by decide) j
    have b6 : chN S a j 6 = S 6 := chN_ne (by decide) (by decide) j
    have b7 : chN S a j 7 = S 7 := chN_ne (by decide) (by decide) j
    have b8 : chN S a j 8 = S 8 := chN_ne (by decide) (by decide) j
    show apN (chN S' a j) ((a + j) % 8) (cl (chN S' a j 4 ((a + j) % 8))) 0 = apN (chN S a j) ((a + j) % 8) (cl (chN S a j 4 ((a + j) % 8))) 0 ∧ apN (chN S' a j) ((a + j) % 8) (cl (chN S' a j 4 ((a + j) % 8))) 1 = apN (chN S a j) ((a + j) % 8) (cl (chN S a j 4 ((a + j) % 8))) 1
    rw [a4, b4, e4]
    have h4 := (ho.c ((a + j) % 8)).2
    refine apN_cong g0 g1 _ (fun i hi => ?_)
    rw [a6, a7, a8, b6, b7, b8]
    exact e i (by omega)
theorem smN_cong {S S' : St} {k : Nat} (h3 : S' 3 k = S 3 k) (h4 : S' 4 k = S 4 k) : ∀ c, (∀ i, i < c → S' 6 (4 * k + i) = S 6 (4 * k + i) ∧ S' 7 (4 * k + i) = S 7 (4 * k + i) ∧ S' 8 (4 * k + i) = S 8 (4 * k + i)) → smN S' k c = smN S k c
  | 0, _ => by show S' 3 k * 31 + S' 4 k = S 3 k * 31 + S 4 k; rw [h3, h4]
  | c + 1, h => by
    obtain ⟨e6, e7, e8⟩ := h c (by omega)
    show ((smN S' k c * 31 + S' 6 (4 * k + c)) * 31 + S' 7 (4 * k + c)) * 31 + S' 8 (4 * k + c) = ((smN S k c * 31 + S 6 (4 * k + c)) * 31 + S 7 (4 * k + c)) * 31 + S 8 (4 * k + c)
    rw [smN_cong h3 h4 c (fun i hi => h i (by omega)), e6, e7, e8]
theorem smS_cong {S S' : St} {k : Nat} (ho : OkJ S) (h3 : S' 3 k = S 3 k) (h : SlEq S S' k) : smS S' k = smS S k := by
  unfold smS
  rw [h.1]
  have h4 := (ho.c k).2
  exact smN_cong h3 h.1 _ (fun i hi => h.2 i (by omega))
def sel (S : St) (p q s : Nat) (g : Int32) : Int32 := if g < 0 then S p s else S q (cl g)
theorem sel_nI {S : St} {p q s i : Nat} (h : i < 2 ^ 31) : sel S p q s (nI i) = S q i := by
  unfold sel
  rw [if_neg (nI_pos h), ih_cl h]
theorem ap_nj {S T : St} (ho : OkJ S) {s : Nat} (hs : s < 12) {k : Nat} (hk : k < 8) {g : Int32} (e6 : T 6 = S 6) (e7 : T 7 = S 7) (e8 : T 8 = S 8) (h0 : T 0 s = sel S 0 7 s g) (h1 : T 1 s = sel S 1 8 s g) : ∀ c, c ≤ 4 → apN T k c 0 s = sel S 0 7 s (njI S (nI s) k g c) ∧ apN T k c 1 s = sel S 1 8 s (njI S (nI s) k g c)
  | 0, _ => ⟨h0, h1⟩
  | c + 1, hc => by
    obtain ⟨g0, g1⟩ := ap_nj ho hs hk e6 e7 e8 h0 h1 c (by omega)
    have a6 : apN T k c 6 = S 6 := by rw [apN_ne (by decide) (by decide), e6]
    have a7 : apN T k c 7 = S 7 := by rw [apN_ne (by decide) (by decide), e7]
    have a8 : apN T k c 8 = S 8 := by rw [apN_ne (by decide) (by decide), e8]
    show upd (apN T k c 0) (cl (apN T k c 6 (4 * k + c))) (apN T k c 7 (4 * k + c)) s = sel S 0 7 s (if S 6 (4 * k + c) = nI s then nI (4 * k + c) else njI S (nI s) k g c) ∧ upd (apN T k c 1) (cl (apN T k c 6 (4 * k + c))) (apN T k c 8 (4 * k + c)) s = sel S 1 8 s (if S 6 (4 * k + c) = nI s then nI (4 * k + c) else njI S (nI s) k g c)
    rw [a6, a7, a8]
    by_cases h : S 6 (4 * k + c) = nI s
    · rw [if_pos h, h, ih_cl (n := s) (by omega), up_s, up_s, sel_nI (by omega), sel_nI (by omega)]
      exact ⟨rfl, rfl⟩
    · have hne : s ≠ cl (S 6 (4 * k + c)) := by
        intro e
        apply h
        rw [e]
        exact (ih_vp (ho.2.1 _) (by decide)).1
      rw [if_neg h, pk_un hne, pk_un hne]
      exact ⟨g0, g1⟩
theorem ch_nj {S : St} (ho : OkJ S) {s : Nat} (hs : s < 12) (a : Nat) : ∀ j, chN S a j 0 s = sel S 0 7 s (njN S (nI s) a j) ∧ chN S a j 1 s = sel S 1 8 s (njN S (nI s) a j)
  | 0 => ⟨(if_pos (show (-1 : Int32) < 0 by decide)).symm, (if_pos (show (-1 : Int32) < 0 by decide)).symm⟩
  | j + 1 => by
    obtain ⟨g0, g1⟩ := ch_nj ho hs a j
    show apN (chN S a j) ((a + j) % 8) (cl (chN S a j 4 ((a + j) % 8))) 0 s = sel S 0 7 s (njI S (nI s) ((a + j) % 8) (njN S (nI s) a j) (cl (S 4 ((a + j) % 8)))) ∧ apN (chN S a j) ((a + j) % 8) (cl (chN S a j 4 ((a + j) % 8))) 1 s = sel S 1 8 s (njI S (nI s) ((a + j) % 8) (njN S (nI s) a j) (cl (S 4 ((a + j) % 8))))
    rw [chN_ne (q := 4) (by decide) (by decide) j]
    exact ap_nj ho hs (Nat.mod_lt _ (by decide)) (chN_ne (by decide) (by decide) j) (chN_ne (by decide) (by decide) j) (chN_ne (by decide) (by decide) j) g0 g1 _ (ho.c _).2
/-- a live section -/
def Lv (S : St) (k : Nat) : Prop := S 3 (k % 8) = nI k ∧ 1 ≤ cl (S 4 (k % 8)) ∧ smS S (k % 8) = S 5 (k % 8) ∧ ∀ i, i < cl (S 4 (k % 8)) → S 8 (4 * (k % 8) + i) = chk (S 6 (4 * (k % 8) + i)) (S 7 (4 * (k % 8) + i))
def Jr (S : St) (a b : Nat) : Prop := a ≤ b ∧ b ≤ a + 7 ∧ (∀ k, a ≤ k → k < b → Lv S k) ∧ (∀ k, k < 8 → ∀ j, b < j → j < 2 ^ 31 → S 3 k ≠ nI j) ∧ whB S (b % 8) (nI b) = false
theorem Lv.wh {S : St} {k : Nat} (h : Lv S k) : whB S (k % 8) (nI k) = true := by
  unfold whB
  rw [decide_eq_true h.1, decide_eq_true h.2.1, decide_eq_true h.2.2.1]
  rfl
theorem Lv.cong {S S' : St} {k : Nat} (ho : OkJ S) (h : Lv S k) (h3 : S' 3 (k % 8) = S 3 (k % 8)) (h5 : S' 5 (k % 8) = S 5 (k % 8)) (hs : SlEq S S' (k % 8)) : Lv S' k := by
  have h4 := (ho.c (k % 8)).2
  refine ⟨by rw [h3]; exact h.1, by rw [hs.1]; exact h.2.1, by rw [smS_cong ho h3 hs, h5]; exact h.2.2.1, fun i hi => ?_⟩
  rw [hs.1] at hi
  obtain ⟨e6, e7, e8⟩ := hs.2 i (by omega)
  rw [e6, e7, e8]
  exact h.2.2.2 i hi
/-- the same medium -/
def Sm (S S' : St) : Prop := ∀ q, q < 9 → q ≠ 2 → S' q = S q
theorem Sm.sl {S S' : St} (h : Sm S S') (k : Nat) : SlEq S S' k := ⟨by rw [h 4 (by decide) (by decide)], fun i _ => ⟨by rw [h 6 (by decide) (by decide)], by rw [h 7 (by decide) (by decide)], by rw [h 8 (by decide) (by decide)]⟩⟩
theorem Sm.ch {S S' : St} (h : Sm S S') (ho : OkJ S) (a j : Nat) : chN S' a j 0 = chN S a j 0 ∧ chN S' a j 1 = chN S a j 1 := chN_cong ho (h 0 (by decide) (by decide)) (h 1 (by decide) (by decide)) j (fun k _ _ => h.sl _)
theorem whB_cong {S S' : St} {k : Nat} {x : Int32} (ho : OkJ S) (h3 : S' 3 k = S 3 k) (h5 : S' 5 k = S 5 k) (hs : SlEq S S' k) : whB S' k x = whB S k x := by
  unfold whB
  rw [h3, h5, hs.1, smS_cong ho h3 hs]
/-- the journal alone is the same -/
theorem Jr.cong {S S' : St} {a b : Nat} (ho : OkJ S) (h : Jr S a b) (hq : ∀ q, 3 ≤ q → q < 9 → S' q = S q) : Jr S' a b := by
  have h3 := hq 3 (by decide) (by decide)
  have h5 := hq 5 (by decide) (by decide)
  have hs : ∀ k, SlEq S S' k := fun k => ⟨by rw [hq 4 (by decide) (by decide)], fun i _ => ⟨by rw [hq 6 (by decide) (by decide)], by rw [hq 7 (by decide) (by decide)], by rw [hq 8 (by decide) (by decide)]⟩⟩
  refine ⟨h.1, h.2.1, fun k h1 h2 => (h.2.2.1 k h1 h2).cong ho (by rw [h3]) (by rw [h5]) (hs _), fun k h1 j h2 h4 => by rw [h3]; exact h.2.2.2.1 k h1 j h2 h4, ?_⟩
  rw [whB_cong ho (by rw [h3]) (by rw [h5]) (hs _)]
  exact h.2.2.2.2
theorem Jr.copied {S : St} {a b : Nat} (h : Jr S a b) : Jr S b b := ⟨Nat.le_refl _, by omega, fun k h1 h2 => absurd h2 (by omega), h.2.2.2.1, h.2.2.2.2⟩
theorem hfN_of {S : St} {a : Nat} (e : S 2 0 = nI a) (h : a < 2 ^ 31) : hfN S = a := by unfold hfN; rw [e]; exact ih_cl h
theorem nxN_of {S : St} {b : Nat} (e : S 9 0 = nI b) (h : b < 2 ^ 31) : nxN S = b := by unfold nxN; rw [e]; exact ih_cl h
theorem wtN_of {S : St} {n : Nat} (e : S 10 0 = nI n) (h : n < 2 ^ 31) : wtN S = n := by unfold wtN; rw [e]; exact ih_cl h
theorem chF_01 {S : St} {a b q : Nat} (ea : S 2 0 = nI a) (eb : S 9 0 = nI b) (ha : a < 2 ^ 31) (hb : b < 2 ^ 31) (hq : q < 2) : chF S q = chN S a (b - a) q := by
  unfold chF chT
  rw [sF_ne (by omega), hfN_of ea ha, nxN_of eb hb]
theorem chF_jr {S : St} {a b : Nat} (ho : OkJ S) (h : Jr S a b) : Jr (chF S) b b := (h.cong ho (fun q h1 h2 => chF_ne (by omega) (by omega) (by omega))).copied
theorem flH_jr {S : St} {a b : Nat} (ho : OkJ S) (ea : S 2 0 = nI a) (eb : S 9 0 = nI b) (hb : b < 2 ^ 20) (h : Jr S a b) : ∃ a', flH S 2 0 = nI a' ∧ Jr (flH S) a' b ∧ b < a' + 7 ∧ ∀ q, q < 2 → chN (flH S) a' (b - a') q = chN S a (b - a) q := by
  have h1 := h.1
  unfold flH
  rw [hfN_of ea (by omega), nxN_of eb (by omega)]
  split
  · exact ⟨a, ea, h, by omega, fun q _ => rfl⟩
  · refine ⟨b, by rw [chF_2]; exact eb, chF_jr ho h, by omega, fun q hq => ?_⟩
    rw [Nat.sub_self]
    exact chF_01 ea eb (by omega) (by omega) hq
theorem flN_at {S : St} {k f : Nat} : ∀ i q j, q = 6 ∨ q = 7 ∨ q = 8 → flN S k f i q j = if 4 * k ≤ j ∧ j < 4 * k + i then (if q = 6 then S 11 (f + (j - 4 * k)) else if q = 7 then S 12 (f + (j - 4 * k)) else chk (S 11 (f + (j - 4 * k))) (S 12 (f + (j - 4 * k)))) else S q j
  | 0, q, j, _ => by rw [if_neg (by omega)]; rfl
  | i + 1, q, j, hq => by
    have h11 : flN S k f i 11 = S 11 := flN_ne (by decide) (by decide) (by decide) i
    have h12 : flN S k f i 12 = S 12 := flN_ne (by decide) (by decide) (by decide) i
    have ih := flN_at (S := S) (k := k) (f := f) i q j hq
    rcases hq with rfl | rfl | rfl
    · show upd (flN S k f i 6) (4 * k + i) (flN S k f i 11 (f + i)) j = _
      by_cases e : j = 4 * k + i
      · subst e
        rw [up_s, if_pos (by omega), if_pos rfl, h11, show 4 * k + i - 4 * k = i by omega]
      · rw [pk_un e, ih]
        by_cases c : 4 * k ≤ j ∧ j < 4 * k + i
        · rw [if_pos c, if_pos (show 4 * k ≤ j ∧ j < 4 * k + (i + 1) by omega)]
        · rw [if_neg c, if_neg (by omega)]
    · show upd (flN S k f i 7) (4 * k + i) (flN S k f i 12 (f + i)) j = _
      by_cases e : j = 4 * k + i
      · subst e
        rw [up_s, if_pos (by omega), if_neg (by decide), if_pos rfl, h12, show 4 * k + i - 4 * k = i by omega]
      · rw [pk_un e, ih]
        by_cases c : 4 * k ≤ j ∧ j < 4 * k + i
        · rw [if_pos c, if_pos (show 4 * k ≤ j ∧ j < 4 * k + (i + 1) by omega)]
        · rw [if_neg c, if_neg (by omega)]
    · show upd (flN S k f i 8) (4 * k + i) (chk (flN S k f i 11 (f + i)) (flN S k f i 12 (f + i))) j = _
      by_cases e : j = 4 * k + i
      · subst e
        rw [up_s, if_pos (by omega), if_neg (by decide), if_neg (by decide), h11, h12, show 4 * k + i - 4 * k = i by omega]
      · rw [pk_un e, ih]
        by_cases c : 4 * k ≤ j ∧ j < 4 * k + i
        · rw [if_pos c, if_pos (show 4 * k ≤ j ∧ j < 4 * k + (i + 1) by omega)]
        · rw [if_neg c, if_neg (by omega)]
end
section
/-! the plain law: sections written, torn, replayed -/
theorem fl_3 {S : St} {b f n p : Nat} (eb : S 9 0 = nI b) (hb : b < 2 ^ 31) : flS S f n 3 p = if p = b % 8 then nI b else S 3 p := by
  unfold flS
  rw [flN_ne (by decide) (by decide) (by decide)]
  show upd (flH S 3) (nxN S % 8) (flH S 9 0) p = _
  rw [nxN_of eb hb, flH_ne (q := 3) (by decide) (by decide) (by decide), flH_ne (q := 9) (by decide) (by decide) (by decide), eb]
  rfl
theorem fl_4 {S : St} {b f n p : Nat} (eb : S 9 0 = nI b) (hb : b < 2 ^ 31) : flS S f n 4 p = if p = b % 8 then nI n else S 4 p := by
  unfold flS
  rw [flN_ne (by decide) (by decide) (by decide)]
  show upd (flH S 4) (nxN S % 8) (nI n) p = _
  rw [nxN_of eb hb, flH_ne (q := 4) (by decide) (by decide) (by decide)]
  rfl
theorem fl_o {S : St} {f n q : Nat} (h3 : q ≠ 3) (h4 : q ≠ 4) (h6 : q ≠ 6) (h7 : q ≠ 7) (h8 : q ≠ 8) : flS S f n q = flH S q := by
  unfold flS
  rw [flN_ne h6 h7 h8, flP_ne h3 h4]
theorem fl_e {S : St} {b f n q j : Nat} (eb : S 9 0 = nI b) (hb : b < 2 ^ 31) (hq : q = 6 ∨ q = 7 ∨ q = 8) : flS S f n q j = if 4 * (b % 8) ≤ j ∧ j < 4 * (b % 8) + n then (if q = 6 then S 11 (f + (j - 4 * (b % 8))) else if q = 7 then S 12 (f + (j - 4 * (b % 8))) else chk (S 11 (f + (j - 4 * (b % 8)))) (S 12 (f + (j - 4 * (b % 8))))) else S q j := by
  unfold flS
  rw [flN_at n q j hq, nxN_of eb hb, flP_ne (q := 11) (by decide) (by decide), flP_ne (q := 12) (by decide) (by decide), flP_ne (q := q) (by omega) (by omega), flH_ne (q := 11) (by decide) (by decide) (by decide), flH_ne (q := 12) (by decide) (by decide) (by decide), flH_ne (q := q) (by omega) (by omega) (by omega)]
theorem fl_in {S : St} {b f n i : Nat} (eb : S 9 0 = nI b) (hb : b < 2 ^ 31) (hi : i < n) : flS S f n 6 (4 * (b % 8) + i) = S 11 (f + i) ∧ flS S f n 7 (4 * (b % 8) + i) = S 12 (f + i) ∧ flS S f n 8 (4 * (b % 8) + i) = chk (S 11 (f + i)) (S 12 (f + i)) := by
  have e : 4 * (b % 8) + i - 4 * (b % 8) = i := by omega
  have c : 4 * (b % 8) ≤ 4 * (b % 8) + i ∧ 4 * (b % 8) + i < 4 * (b % 8) + n := by omega
  refine ⟨?_, ?_, ?_⟩
  · rw [fl_e eb hb (Or.inl rfl), if_pos c, if_pos rfl, e]
  · rw [fl_e eb hb (Or.inr (Or.inl rfl)), if_pos c, if_neg (by decide), if_pos rfl, e]
  · rw [fl_e eb hb (Or.inr (Or.inr rfl)), if_pos c, if_neg (by decide), if_neg (by decide), e]
theorem fl_sl {S S1 : St} {b f n p : Nat} (eb : S 9 0 = nI b) (hb : b < 2 ^ 31) (hn : n ≤ 4) (hp : p ≠ b % 8) (h4 : S1 4 = flS S f n 4) (h6 : S1 6 = flS S f n 6) (h7 : S1 7 = flS S f n 7) (h8 : S1 8 = flS S f n 8) : SlEq (flH S) S1 p := by
  have hU : ∀ q, 3 ≤ q → flH S q = S q := fun q h => flH_ne (by omega) (by omega) (by omega)
  refine ⟨by rw [h4, fl_4 eb hb, if_neg hp, hU 4 (by decide)], fun i hi => ?_⟩
  have c : ¬ (4 * (b % 8) ≤ 4 * p + i ∧ 4 * p + i < 4 * (b % 8) + n) := by omega
  refine ⟨?_, ?_, ?_⟩
  · rw [h6, fl_e eb hb (Or.inl rfl), if_neg c, hU 6 (by decide)]
  · rw [h7, fl_e eb hb (Or.inr (Or.inl rfl)), if_neg c, hU 7 (by decide)]
  · rw [h8, fl_e eb hb (Or.inr (Or.inr rfl)), if_neg c, hU 8 (by decide)]
def wsN (C S : St) : Nat → St
  | 0 => C
  | i + 1 => sA (sA (wsN C S i) 0 (cl (S 11 i)) (S 12 i)) 1 (cl (S 11 i)) (chk (S 11 i) (S 12 i))
theorem wsN_cong {C S S' : St} (h11 : S' 11 = S 11) (h12 : S' 12 = S 12) : ∀ m, wsN C S' m = wsN C S m
  | 0 => rfl
  | m + 1 => by
    show sA (sA (wsN C S' m) 0 (cl (S' 11 m)) (S' 12 m)) 1 (cl (S' 11 m)) (chk (S' 11 m) (S' 12 m)) = sA (sA (wsN C S m) 0 (cl (S 11 m)) (S 12 m)) 1 (cl (S 11 m)) (chk (S 11 m) (S 12 m))
    rw [wsN_cong h11 h12 m, h11, h12]
theorem ap_ws {V C S : St} {k f n : Nat} (h0 : V 0 = wsN C S f 0) (h1 : V 1 = wsN C S f 1) (he : ∀ i, i < n → V 6 (4 * k + i) = S 11 (f + i) ∧ V 7 (4 * k + i) = S 12 (f + i) ∧ V 8 (4 * k + i) = chk (S 11 (f + i)) (S 12 (f + i))) : ∀ i, i ≤ n → apN V k i 0 = wsN C S (f + i) 0 ∧ apN V k i 1 = wsN C S (f + i) 1
  | 0, _ => ⟨h0, h1⟩
  | i + 1, hi => by
    obtain ⟨g0, g1⟩ := ap_ws h0 h1 he i (by omega)
    obtain ⟨e6, e7, e8⟩ := he i (by omega)
    have a6 : apN V k i 6 = V 6 := apN_ne (by decide) (by decide) i
    have a7 : apN V k i 7 = V 7 := apN_ne (by decide) (by decide) i
    have a8 : apN V k i 8 = V 8 := apN_ne (by decide) (by decide) i
    constructor
    · show upd (apN V k i 0) (cl (apN V k i 6 (4 * k + i))) (apN V k i 7 (4 * k + i)) = upd (wsN C S (f + i) 0) (cl (S 11 (f + i))) (S 12 (f + i))
      rw [g0, a6, a7, e6, e7]
    · show upd (apN V k i 1) (cl (apN V k i 6 (4 * k + i))) (apN V k i 8 (4 * k + i)) = upd (wsN C S (f + i) 1) (cl (S 11 (f + i))) (chk (S 11 (f + i)) (S 12 (f + i)))
      rw [g1, a6, a8, e6, e8]
theorem mod_ne {a b k : Nat} (h1 : a ≤ k) (h2 : k < b) (h3 : b < a + 8) : k % 8 ≠ b % 8 := by omega
/-- a section written, whatever its sum: what was live stays, its numbers -/
theorem fl_keep {S S1 : St} {a' b f n : Nat} (ho : OkJ S) (eb : S 9 0 = nI b) (hb : b < 2 ^ 20) (hn : n ≤ 4) (hj : Jr (flH S) a' b) (hlt : b < a' + 7)
    (h0 : S1 0 = flS S f n 0) (h1 : S1 1 = flS S f n 1) (h3 : S1 3 = flS S f n 3) (h4 : S1 4 = flS S f n 4) (h5 : ∀ p, p ≠ b % 8 → S1 5 p = flS S f n 5 p) (h6 : S1 6 = flS S f n 6) (h7 : S1 7 = flS S f n 7) (h8 : S1 8 = flS S f n 8) :
    (∀ k, a' ≤ k → k < b → Lv S1 k) ∧ (∀ k, k < 8 → ∀ j, b < j → j < 2 ^ 31 → S1 3 k ≠ nI j) ∧ ∀ q, q < 2 → chN S1 a' (b - a') q = chN (flH S) a' (b - a') q := by
  have hb31 : b < 2 ^ 31 := by omega
  have hU : ∀ q, 3 ≤ q → flH S q = S q := fun q h => flH_ne (by omega) (by omega) (by omega)
  have hab := hj.1
  have hsl : ∀ k, a' ≤ k → k < b → SlEq (flH S) S1 (k % 8) := fun k q1 q2 => fl_sl eb hb31 hn (mod_ne q1 q2 (by omega)) h4 h6 h7 h8
  refine ⟨fun k q1 q2 => ?_, fun k hk j q1 q2 => ?_, fun q hq => ?_⟩
  · have hne := mod_ne q1 q2 (show b < a' + 8 by omega)
    refine (hj.2.2.1 k q1 q2).cong ho.flH ?_ ?_ (hsl k q1 q2)
    · rw [h3, fl_3 eb hb31, if_neg hne, hU 3 (by decide)]
    · rw [h5 _ hne, fl_o (by decide) (by decide) (by decide) (by decide) (by decide)]
  · rw [h3, fl_3 eb hb31]
    by_cases e : k = b % 8
    · rw [if_pos e]
      intro e2
      have := (nI_eq hb31 q2).mp e2
      omega
    · rw [if_neg e]
      have := hj.2.2.2.1 k hk j q1 q2
      rw [hU 3 (by decide)] at this
      exact this
  · have h := chN_cong (S := flH S) (S' := S1) (a := a') ho.flH (by rw [h0, fl_o (by decide) (by decide) (by decide) (by decide) (by decide)]) (by rw [h1, fl_o (by decide) (by decide) (by decide) (by decide) (by decide)]) (b - a') (fun k q1 q2 => hsl k q1 (by omega))
    rcases (show q = 0 ∨ q = 1 by omega) with rfl | rfl
    · exact h.1
    · exact h.2
theorem co1_jr {S : St} {a b f n : Nat} (ho : OkJ S) (ea : S 2 0 = nI a) (eb : S 9 0 = nI b) (hb : b + 1 < 2 ^ 20) (h : Jr S a b) (hn1 : 1 ≤ n) (hn : n ≤ 4) : ∃ a', co1 S f n 2 0 = nI a' ∧ Jr (co1 S f n) a' (b + 1) ∧ ∀ C : St, (∀ q, q < 2 → chN S a (b - a) q = wsN C S f q) → ∀ q, q < 2 → chN (co1 S f n) a' (b + 1 - a') q = wsN C S (f + n) q := by
  have hb31 : b < 2 ^ 31 := by omega
  obtain ⟨a', e2, hj, hlt, hc⟩ := flH_jr ho ea eb (by omega) h
  have hab := hj.1
  have hoT := ho.flS (f := f) hn
  have h5 : ∀ p, co1 S f n 5 p = if p = b % 8 then smS (flS S f n) (b % 8) else flS S f n 5 p := by
    intro p
    show upd (flS S f n 5) (nxN S % 8) (smS (flS S f n) (nxN S % 8)) p = _
    rw [nxN_of eb hb31]
    rfl
  have h3 : co1 S f n 3 = flS S f n 3 := rfl
  have h4 : co1 S f n 4 = flS S f n 4 := rfl
  have h6 : co1 S f n 6 = flS S f n 6 := rfl
  have h7 : co1 S f n 7 = flS S f n 7 := rfl
  have h8 : co1 S f n 8 = flS S f n 8 := rfl
  obtain ⟨k1, k2, k3⟩ := fl_keep (S1 := co1 S f n) ho eb (by omega) hn hj hlt rfl rfl h3 h4 (fun p hp => by rw [h5, if_neg hp]) h6 h7 h8
  have hcn : cl (flS S f n 4 (b % 8)) = n := by rw [fl_4 eb hb31, if_pos rfl]; exact ih_cl (by omega)
  refine ⟨a', ?_, ⟨by omega, by omega, fun k q1 q2 => ?_, fun k hk j q1 q2 => k2 k hk j (by omega) q2, ?_⟩, ?_⟩
  · show flS S f n 2 0 = nI a'
    rw [fl_o (by decide) (by decide) (by decide) (by decide) (by decide)]
    exact e2
  · rcases Nat.lt_or_ge k b with q | q
    · exact k1 k q1 q
    · have e : k = b := by omega
      subst e
      refine ⟨?_, ?_, ?_, fun i hi => ?_⟩
      · rw [h3, fl_3 eb hb31, if_pos rfl]
      · rw [h4, hcn]; exact hn1
      · rw [h5, if_pos rfl]
        exact smS_cong hoT (by rw [h3]) ⟨by rw [h4], fun i _ => ⟨by rw [h6], by rw [h7], by rw [h8]⟩⟩
      · rw [h4, hcn] at hi
        obtain ⟨e6, e7, e8⟩ := fl_in (f := f) eb hb31 hi
        rw [h6, h7, h8, e6, e7, e8]
  · unfold whB
    rw [decide_eq_false (k2 ((b + 1) % 8) (Nat.mod_lt _ (by decide)) (b + 1) (by omega) (by omega))]
    rfl
  · intro C hC q hq
    have v0 : chN (co1 S f n) a' (b - a') 0 = wsN C S f 0 := by rw [k3 0 (by decide), hc 0 (by decide), hC 0 (by decide)]
    have v1 : chN (co1 S f n) a' (b - a') 1 = wsN C S f 1 := by rw [k3 1 (by decide), hc 1 (by decide), hC 1 (by decide)]
    have g4 : chN (co1 S f n) a' (b - a') 4 = flS S f n 4 := chN_ne (by decide) (by decide) _
    have g6 : chN (co1 S f n) a' (b - a') 6 = flS S f n 6 := chN_ne (by decide) (by decide) _
    have g7 : chN (co1 S f n) a' (b - a') 7 = flS S f n 7 := chN_ne (by decide) (by decide) _
    have g8 : chN (co1 S f n) a' (b - a') 8 = flS S f n 8 := chN_ne (by decide) (by decide) _
    have hw := ap_ws (V := chN (co1 S f n) a' (b - a')) (C := C) (S := S) (k := b % 8) (f := f) (n := n) v0 v1 (fun i hi => by rw [g6, g7, g8]; exact fl_in eb hb31 hi) n (Nat.le_refl n)
    rw [show b + 1 - a' = (b - a') + 1 by omega]
    show apN (chN (co1 S f n) a' (b - a')) ((a' + (b - a')) % 8) (cl (chN (co1 S f n) a' (b - a') 4 ((a' + (b - a')) % 8))) q = _
    rw [show a' + (b - a') = b by omega, g4, hcn]
    rcases (show q = 0 ∨ q = 1 by omega) with rfl | rfl
    · exact hw.1
    · exact hw.2
theorem coN_jr {S : St} {a b n : Nat} (ho : OkJ S) (ea : S 2 0 = nI a) (eb : S 9 0 = nI b) (hb : b + 5 < 2 ^ 20) (hn : n ≤ 20) (h : Jr S a b) : ∀ j, 4 * j < n + 4 → ∃ a', coN S n j 2 0 = nI a' ∧ Jr (coN S n j) a' (b + j) ∧ ∀ q, q < 2 → chN (coN S n j) a' (b + j - a') q = wsN (chN S a (b - a)) S (min n (4 * j)) q
  | 0, _ => ⟨a, ea, h, fun q hq => by rw [show min n (4 * 0) = 0 by omega]; rfl⟩
  | j + 1, hj => by
    obtain ⟨a1, e1, j1, w1⟩ := coN_jr ho ea eb hb hn h j (by omega)
    obtain ⟨g1, g2, -⟩ := coN_ok ho ea eb h.1 n j
    obtain ⟨a2, e2, j2, w2⟩ := co1_jr (f := 4 * j) (n := min (n - 4 * j) 4) g1 e1 g2 (by omega) j1 (by omega) (Nat.min_le_right _ _)
    refine ⟨a2, e2, j2, fun q hq => ?_⟩
    have hc := w2 (chN S a (b - a)) (fun q hq => by
      rw [w1 q hq, wsN_cong (coN_ne (by decide) (by decide) (by decide) (by decide) (by decide) (by decide) (by decide) (by decide) (by decide) (by decide) j) (coN_ne (by decide) (by decide) (by decide) (by decide) (by decide) (by decide) (by decide) (by decide) (by decide) (by decide) j), Nat.min_eq_right (by omega)]) q hq
    show chN (co1 (coN S n j) (4 * j) (min (n - 4 * j) 4)) a2 (b + j + 1 - a2) q = _
    rw [hc, wsN_cong (coN_ne (by decide) (by decide) (by decide) (by decide) (by decide) (by decide) (by decide) (by decide) (by decide) (by decide) j) (coN_ne (by decide) (by decide) (by decide) (by decide) (by decide) (by decide) (by decide) (by decide) (by decide) (by decide) j), show 4 * j + min (n - 4 * j) 4 = min n (4 * (j + 1)) by omega]
theorem coF_jr {S : St} {a b n : Nat} (ho : OkJ S) (ea : S 2 0 = nI a) (eb : S 9 0 = nI b) (hb : b + 5 < 2 ^ 20) (hn : n ≤ 20) (h : Jr S a b) : ∃ a', coF S n 2 0 = nI a' ∧ Jr (coF S n) a' (b + (n + 3) / 4) ∧ ∀ q, q < 2 → chN (coF S n) a' (b + (n + 3) / 4 - a') q = wsN (chN S a (b - a)) S n q := by
  obtain ⟨a', e1, j1, w1⟩ := coN_jr ho ea eb hb hn h ((n + 3) / 4) (by omega)
  obtain ⟨g1, g2, -⟩ := coN_ok ho ea eb h.1 n ((n + 3) / 4)
  have hq : ∀ q, q ≠ 13 → coF S n q = coN S n ((n + 3) / 4) q := fun q hq => sF_ne hq
  refine ⟨a', e1, j1.cong g1 (fun q q1 q2 => hq q (by omega)), fun q q1 => ?_⟩
  rw [show min n (4 * ((n + 3) / 4)) = n by omega] at w1
  rw [← w1 q q1]
  have hs : Sm (coN S n ((n + 3) / 4)) (coF S n) := fun q q1 q2 => hq q (by omega)
  have hc := hs.ch g1 a' (b + (n + 3) / 4 - a')
  rcases (show q = 0 ∨ q = 1 by omega) with rfl | rfl
  · exact hc.1
  · exact hc.2
theorem ne_not (x : Int32) : ¬ x = x ^^^ (-1) := by
  intro h
  have h2 : x ^^^ x = x ^^^ (x ^^^ (-1)) := by rw [← h]
  rw [← Int32.xor_assoc, Int32.xor_self, Int32.zero_xor] at h2
  exact absurd h2 (by decide)
theorem teF_jr {S : St} {a b f n : Nat} (ho : OkJ S) (ea : S 2 0 = nI a) (eb : S 9 0 = nI b) (hb : b < 2 ^ 20) (h : Jr S a b) : ∃ a', teF S f n 2 0 = nI a' ∧ Jr (teF S f n) a' b ∧ ∀ q, q < 2 → chN (teF S f n) a' (b - a') q = chN S a (b - a) q := by
  have hb31 : b < 2 ^ 31 := by omega
  obtain ⟨a', e2, hj, hlt, hc⟩ := flH_jr ho ea eb hb h
  have hab := hj.1
  have hoT := ho.flS (f := f) (n := min n 4) (Nat.min_le_right _ _)
  have h5 : ∀ p, teF S f n 5 p = if p = b % 8 then smS (flS S f (min n 4)) (b % 8) ^^^ (-1) else flS S f (min n 4) 5 p := by
    intro p
    show upd (flS S f (min n 4) 5) (nxN S % 8) (smS (flS S f (min n 4)) (nxN S % 8) ^^^ (-1)) p = _
    rw [nxN_of eb hb31]
    rfl
  obtain ⟨k1, k2, k3⟩ := fl_keep (S1 := teF S f n) (f := f) (n := min n 4) ho eb hb (Nat.min_le_right _ _) hj hlt rfl rfl rfl rfl (fun p hp => by rw [h5, if_neg hp]) rfl rfl rfl
  refine ⟨a', ?_, ⟨by omega, by omega, k1, k2, ?_⟩, fun q hq => by rw [k3 q hq, hc q hq]⟩
  · show flS S f (min n 4) 2 0 = nI a'
    rw [fl_o (by decide) (by decide) (by decide) (by decide) (by decide)]
    exact e2
  · unfold whB
    rw [h5, if_pos rfl, smS_cong (S := flS S f (min n 4)) (S' := teF S f n) hoT rfl ⟨rfl, fun i _ => ⟨rfl, rfl, rfl⟩⟩, decide_eq_false (ne_not _), Bool.and_false]
theorem rp_step {S : St} {a b : Nat} (ho : OkJ S) (h : Jr S a b) : ∀ j, j ≤ b - a → rpN S a 8 = rpN (chN S a j) (a + j) (8 - j)
  | 0, _ => rfl
  | j + 1, hj => by
    have h2 := h.2.1
    rw [rp_step ho h j (by omega), show 8 - j = (8 - (j + 1)) + 1 by omega]
    have hl := (h.2.2.1 (a + j) (by omega) (by omega)).wh
    have hw : whB (chN S a j) ((a + j) % 8) (nI (a + j)) = true := by
      rw [whB_cong ho (by rw [chN_ne (by decide) (by decide)]) (by rw [chN_ne (by decide) (by decide)]) ⟨by rw [chN_ne (by decide) (by decide)], fun i _ => ⟨by rw [chN_ne (by decide) (by decide)], by rw [chN_ne (by decide) (by decide)], by rw [chN_ne (by decide) (by decide)]⟩⟩]
      exact hl
    show (if whB (chN S a j) ((a + j) % 8) (nI (a + j)) = true then rpN (apS (chN S a j) ((a + j) % 8)) (a + j + 1) (8 - (j + 1)) else (chN S a j, a + j)) = _
    rw [if_pos hw]
    rfl
theorem rp_all {S : St} {a b : Nat} (ho : OkJ S) (h : Jr S a b) : rpN S a 8 = (chN S a (b - a), b) := by
  have h1 := h.1
  have h2 := h.2.1
  rw [rp_step ho h (b - a) (Nat.le_refl _), show 8 - (b - a) = (7 - (b - a)) + 1 by omega, show a + (b - a) = b by omega]
  have hw : whB (chN S a (b - a)) (b % 8) (nI b) = false := by
    rw [whB_cong ho (by rw [chN_ne (by decide) (by decide)]) (by rw [chN_ne (by decide) (by decide)]) ⟨by rw [chN_ne (by decide) (by decide)], fun i _ => ⟨by rw [chN_ne (by decide) (by decide)], by rw [chN_ne (by decide) (by decide)], by rw [chN_ne (by decide) (by decide)]⟩⟩]
    exact h.2.2.2.2
  show (if whB (chN S a (b - a)) (b % 8) (nI b) = true then rpN (apS (chN S a (b - a)) (b % 8)) (b + 1) (7 - (b - a)) else (chN S a (b - a), b)) = _
  rw [if_neg (by rw [hw]; decide)]
theorem rpF_eq {S : St} {a b : Nat} (ho : OkJ S) (ea : S 2 0 = nI a) (ha : a < 2 ^ 31) (h : Jr S a b) : rpF S = sF (sF (chN S a (b - a)) 9 (nI b)) 2 (nI b) := by
  unfold rpF
  rw [hfN_of ea ha, rp_all ho h]
end
section
/-! the plain law: the two worlds side by side -/
def HmC (C M : St) : Prop := ∀ s, s < 12 → (M 4 s = 0 ∧ C 0 s = M 3 s ∧ C 1 s = chk (nI s) (C 0 s)) ∨ (¬ M 4 s = 0 ∧ ¬ C 1 s = chk (nI s) (C 0 s))
theorem HmC.cong {C C' M M' : St} (h : HmC C M) (h0 : C' 0 = C 0) (h1 : C' 1 = C 1) (h3 : M' 3 = M 3) (h4 : M' 4 = M 4) : HmC C' M' := by
  intro s hs
  rw [h0, h1, h3, h4]
  exact h s hs
def Rl (S M : St) (a b n : Nat) : Prop := OkJ S ∧ S 2 0 = nI a ∧ S 9 0 = nI b ∧ S 10 0 = nI n ∧ OkM M n ∧ (∀ i, i < n → S 11 i = M 0 i ∧ S 12 i = M 1 i) ∧ S 13 0 = M 5 0 ∧ Jr S a b ∧ HmC (chN S a (b - a)) M
theorem Rl.ok {S M : St} {a b n : Nat} (h : Rl S M a b n) (hb : b + 5 < 2 ^ 20) : Ok S a b n := by
  obtain ⟨ho, ea, eb, e10, hM, -, -, hj, -⟩ := h
  exact ⟨ho, ea, eb, e10, hj.1, hb, hM.2.1⟩
theorem chk_inj {s v w : Int32} (h : chk s v = chk s w) : v = w := by
  unfold chk at h
  rw [Int32.add_left_inj] at h
  have h2 : (v ^^^ 1431655765) * 1540483477 * (-442820163) = (w ^^^ 1431655765) * 1540483477 * (-442820163) := by rw [h]
  rw [Int32.mul_assoc, Int32.mul_assoc, show (1540483477 : Int32) * (-442820163) = 1 by decide, Int32.mul_one, Int32.mul_one, Int32.xor_left_inj] at h2
  exact h2
theorem r_ch {S M : St} {a b n : Nat} (h : Rl S M a b n) (hb : b < 2 ^ 20) : Rl (chF S) M b b n := by
  obtain ⟨ho, ea, eb, e10, hM, hl, hm, hj, hc⟩ := h
  have hab := hj.1
  refine ⟨ho.chF, by rw [chF_2]; exact eb, by rw [chF_ne (by decide) (by decide) (by decide)]; exact eb, by rw [chF_ne (by decide) (by decide) (by decide)]; exact e10, hM, ?_, by rw [chF_ne (by decide) (by decide) (by decide)]; exact hm, chF_jr ho hj, ?_⟩
  · rw [chF_ne (q := 11) (by decide) (by decide) (by decide), chF_ne (q := 12) (by decide) (by decide) (by decide)]
    exact hl
  · rw [Nat.sub_self]
    exact hc.cong (chF_01 ea eb (by omega) (by omega) (by decide)) (chF_01 ea eb (by omega) (by omega) (by decide)) rfl rfl
theorem r_write {S M : St} {a b n : Nat} (h : Rl S M a b n) (x v : Int32) : wrR S x = mwR M x ∧ ∃ n', Rl (wrF S x v) (mwF M x v) a b n' := by
  have h9 := h
  obtain ⟨ho, ea, eb, e10, hM, hl, hm, hj, hc⟩ := h
  have hn := hM.2.1
  unfold wrR mwR wrF mwF
  rw [wtN_of e10 (by omega), ctN_of hM]
  cases hb : badB x with
  | true => exact ⟨rfl, n, h9⟩
  | false =>
    simp only [if_neg (show ¬ (false = true) by decide)]
    by_cases e : n = 20
    · simp only [if_pos (show 20 ≤ n by omega), if_pos e]
      exact ⟨trivial, n, h9⟩
    · simp only [if_neg (show ¬ 20 ≤ n by omega), if_neg e]
      refine ⟨trivial, n + 1, ?_⟩
      obtain ⟨j, hj12, rfl⟩ := badB_f hb
      have hv : vp_in (nI j) 12 := vp_in_nI hj12 (by decide)
      refine ⟨((ho.sA11 hv).sAo (by decide) (by decide) (by decide)).sFo (by decide) (by decide) (by decide), ea, eb, rfl, ⟨rfl, by omega, fun i => ?_⟩, fun i hi => ?_, hm, hj.cong ho (fun q q1 q2 => ?_), ?_⟩
      · show vp_in (upd (M 0) n (nI j) i) 12
        by_cases c : i = n
        · rw [c, up_s]; exact hv
        · rw [pk_un c]; exact hM.2.2 i
      · show upd (S 11) n (nI j) i = upd (M 0) n (nI j) i ∧ upd (S 12) n v i = upd (M 1) n v i
        by_cases c : i = n
        · rw [c, up_s, up_s, up_s, up_s]; exact ⟨rfl, rfl⟩
        · rw [pk_un c, pk_un c, pk_un c, pk_un c]; exact hl i (by omega)
      · rw [sF_ne (by omega), sA_ne (by omega), sA_ne (by omega)]
      · have hs : Sm S (sF (sA (sA S 11 n (nI j)) 12 n v) 10 (nI (n + 1))) := fun q q1 q2 => by rw [sF_ne (by omega), sA_ne (by omega), sA_ne (by omega)]
        exact hc.cong (hs.ch ho a (b - a)).1 (hs.ch ho a (b - a)).2 rfl rfl
theorem hm_ws {C M S : St} {n : Nat} (h : HmC C M) (hv : ∀ i, vp_in (M 0 i) 12) (he : ∀ i, i < n → S 11 i = M 0 i ∧ S 12 i = M 1 i) : ∀ m, m ≤ n → HmC (wsN C S m) (fkN M m)
  | 0, _ => h
  | m + 1, hm => by
    have ih := hm_ws h hv he m (by omega)
    obtain ⟨e1, e2⟩ := he m (by omega)
    obtain ⟨v1, v2⟩ := ih_vp (hv m) (by decide)
    have f0 : fkN M m 0 = M 0 := fkN_ne (by decide) (by decide) m
    have f1 : fkN M m 1 = M 1 := fkN_ne (by decide) (by decide) m
    intro s hs
    show (upd (fkN M m 4) (cl (fkN M m 0 m)) 0 s = 0 ∧ upd (wsN C S m 0) (cl (S 11 m)) (S 12 m) s = upd (fkN M m 3) (cl (fkN M m 0 m)) (fkN M m 1 m) s ∧ upd (wsN C S m 1) (cl (S 11 m)) (chk (S 11 m) (S 12 m)) s = chk (nI s) (upd (wsN C S m 0) (cl (S 11 m)) (S 12 m) s)) ∨ (¬ upd (fkN M m 4) (cl (fkN M m 0 m)) 0 s = 0 ∧ ¬ upd (wsN C S m 1) (cl (S 11 m)) (chk (S 11 m) (S 12 m)) s = chk (nI s) (upd (wsN C S m 0) (cl (S 11 m)) (S 12 m) s))
    rw [f0, f1, e1, e2]
    by_cases c : s = cl (M 0 m)
    · subst c
      rw [up_s, up_s, up_s, up_s, ← v1]
      exact Or.inl ⟨rfl, rfl, rfl⟩
    · rw [pk_un c, pk_un c, pk_un c, pk_un c]
      exact ih s hs
theorem dr_at {S : St} {k : Nat} : ∀ m i, drN S k m 11 i = (if i < m then S 11 (i + k) else S 11 i) ∧ drN S k m 12 i = (if i < m then S 12 (i + k) else S 12 i)
  | 0, i => by rw [if_neg (by omega), if_neg (by omega)]; exact ⟨rfl, rfl⟩
  | m + 1, i => by
    obtain ⟨g1, g2⟩ := dr_at (S := S) (k := k) m i
    obtain ⟨r1, r2⟩ := dr_at (S := S) (k := k) m (m + k)
    rw [if_neg (by omega)] at r1 r2
    show upd (drN S k m 11) m (drN S k m 11 (m + k)) i = _ ∧ upd (drN S k m 12) m (drN S k m 12 (m + k)) i = _
    rw [r1, r2]
    by_cases c : i = m
    · subst c
      rw [up_s, up_s, if_pos (by omega), if_pos (by omega)]
      exact ⟨rfl, rfl⟩
    · rw [pk_un c, pk_un c, g1, g2]
      by_cases d : i < m
      · rw [if_pos d, if_pos d, if_pos (show i < m + 1 by omega), if_pos (show i < m + 1 by omega)]
        exact ⟨rfl, rfl⟩
      · rw [if_neg d, if_neg d, if_neg (show ¬ i < m + 1 by omega), if_neg (show ¬ i < m + 1 by omega)]
        exact ⟨rfl, rfl⟩
theorem fs_at {S : St} {k : Nat} : ∀ m i, fsN S k m 0 i = (if i < m then S 0 (i + k) else S 0 i) ∧ fsN S k m 1 i = (if i < m then S 1 (i + k) else S 1 i)
  | 0, i => by rw [if_neg (by omega), if_neg (by omega)]; exact ⟨rfl, rfl⟩
  | m + 1, i => by
    obtain ⟨g1, g2⟩ := fs_at (S := S) (k := k) m i
    obtain ⟨r1, r2⟩ := fs_at (S := S) (k := k) m (m + k)
    rw [if_neg (by omega)] at r1 r2
    show upd (fsN S k m 0) m (fsN S k m 0 (m + k)) i = _ ∧ upd (fsN S k m 1) m (fsN S k m 1 (m + k)) i = _
    rw [r1, r2]
    by_cases c : i = m
    · subst c
      rw [up_s, up_s, if_pos (by omega), if_pos (by omega)]
      exact ⟨rfl, rfl⟩
    · rw [pk_un c, pk_un c, g1, g2]
      by_cases d : i < m
      · rw [if_pos d, if_pos d, if_pos (show i < m + 1 by omega), if_pos (show i < m + 1 by omega)]
        exact ⟨rfl, rfl⟩
      · rw [if_neg d, if_neg d, if_neg (show ¬ i < m + 1 by omega), if_neg (show ¬ i < m + 1 by omega)]
        exact ⟨rfl, rfl⟩
theorem drF_ne {S : St} {k q : Nat} (h0 : q ≠ 10) (h1 : q ≠ 11) (h2 : q ≠ 12) : drF S k q = S q := by
  unfold drF
  rw [drN_ne h1 h2, sF_ne h0]
theorem drF_10 {S : St} {k n : Nat} (e : S 10 0 = nI n) (hn : n < 2 ^ 31) : drF S k 10 0 = nI (n - k) := by
  unfold drF
  rw [drN_ne (by decide) (by decide), wtN_of e hn]
  rfl
theorem drF_at {S : St} {k n i : Nat} (e : S 10 0 = nI n) (hn : n < 2 ^ 31) : drF S k 11 i = (if i < n - k then S 11 (i + k) else S 11 i) ∧ drF S k 12 i = (if i < n - k then S 12 (i + k) else S 12 i) := by
  unfold drF
  rw [wtN_of e hn]
  exact dr_at _ _
theorem OkJ.drF {S : St} {k n : Nat} (ho : OkJ S) (e : S 10 0 = nI n) (hn : n < 2 ^ 31) : OkJ (drF S k) := by
  refine ⟨by rw [drF_ne (by decide) (by decide) (by decide)]; exact ho.1, by rw [drF_ne (by decide) (by decide) (by decide)]; exact ho.2.1, fun i => ?_⟩
  rw [(drF_at e hn).1]
  split
  · exact ho.2.2 _
  · exact ho.2.2 _
theorem fsF_01 {M : St} {n k i : Nat} (h : OkM M n) : fsF M k 0 i = (if i < n - k then M 0 (i + k) else M 0 i) ∧ fsF M k 1 i = (if i < n - k then M 1 (i + k) else M 1 i) := by
  unfold fsF
  rw [ctN_of h]
  have h2 := fs_at (S := fsP M k) (k := k) (n - k) i
  have e0 : fsP M k 0 = M 0 := by
    show fkN M k 0 = M 0
    exact fkN_ne (by decide) (by decide) k
  have e1 : fsP M k 1 = M 1 := by
    show fkN M k 1 = M 1
    exact fkN_ne (by decide) (by decide) k
  rw [e0, e1] at h2
  exact h2
theorem fsF_okm {M : St} {n k : Nat} (h : OkM M n) : OkM (fsF M k) (n - k) := by
  refine ⟨fsF_2 h, by have := h.2.1; omega, fun i => ?_⟩
  rw [(fsF_01 h).1]
  split
  · exact h.2.2 _
  · exact h.2.2 _
theorem fsF_34 {M : St} {k q : Nat} (hq : q = 3 ∨ q = 4) : fsF M k q = fkN M k q := by
  unfold fsF
  rw [fsN_ne (by omega) (by omega)]
  unfold fsP
  rw [sF_ne (by omega), sF_ne (by omega)]
theorem fsF_5 {M : St} {k : Nat} : fsF M k 5 0 = M 5 0 + nI k := by
  unfold fsF
  rw [fsN_ne (by decide) (by decide)]
  show fkN M k 5 0 + nI k = _
  rw [fkN_ne (by decide) (by decide)]
theorem coF_13 {S : St} {k : Nat} : coF S k 13 0 = S 13 0 + nI k := by
  show coT S k 13 0 + nI k = _
  unfold coT
  rw [coN_ne (by decide) (by decide) (by decide) (by decide) (by decide) (by decide) (by decide) (by decide) (by decide) (by decide)]
theorem r_fs {S M : St} {a b n k : Nat} (h : Rl S M a b n) (hb : b + 5 < 2 ^ 20) (hk : k ≤ n) : ∃ a', Rl (drF (coF S k) k) (fsF M k) a' (b + (k + 3) / 4) (n - k) := by
  have hok := h.ok hb
  obtain ⟨ho, ea, eb, e10, hM, hl, hm, hj, hc⟩ := h
  have hn := hM.2.1
  obtain ⟨a', e2, j2, w2⟩ := coF_jr (n := k) ho ea eb hb (by omega) hj
  obtain ⟨g1, g2, -⟩ := coF_ok hok k
  have f10 : coF S k 10 0 = nI n := by rw [coF_ne (by decide) (by decide)]; exact e10
  have hq : ∀ q, q < 10 → drF (coF S k) k q = coF S k q := fun q hq => drF_ne (by omega) (by omega) (by omega)
  refine ⟨a', g1.drF f10 (by omega), by rw [hq 2 (by decide)]; exact e2, by rw [hq 9 (by decide)]; exact g2, drF_10 f10 (by omega), fsF_okm hM, fun i hi => ?_, ?_, j2.cong g1 (fun q q1 q2 => hq q (by omega)), ?_⟩
  · obtain ⟨r1, r2⟩ := drF_at (k := k) (i := i) f10 (by omega)
    obtain ⟨r3, r4⟩ := fsF_01 (k := k) (i := i) hM
    rw [r1, r2, r3, r4, if_pos hi, if_pos hi, if_pos hi, if_pos hi, coF_ne (by decide) (by decide), coF_ne (by decide) (by decide)]
    exact hl (i + k) (by omega)
  · rw [drF_ne (by decide) (by decide) (by decide), coF_13, fsF_5, hm]
  · have hs : Sm (coF S k) (drF (coF S k) k) := fun q q1 q2 => hq q (by omega)
    have hh := hs.ch g1 a' (b + (k + 3) / 4 - a')
    refine (hm_ws hc hM.2.2 hl k hk).cong ?_ ?_ (fsF_34 (Or.inl rfl)) (fsF_34 (Or.inr rfl))
    · rw [hh.1, w2 0 (by decide)]
    · rw [hh.2, w2 1 (by decide)]
theorem teF_13 {S : St} {f n : Nat} : teF S f n 13 = S 13 := by
  show flS S f (min n 4) 13 = S 13
  rw [fl_o (by decide) (by decide) (by decide) (by decide) (by decide), flH_ne (by decide) (by decide) (by decide)]
theorem r_crash {S M : St} {a b n k : Nat} (h : Rl S M a b n) (hb : b + 5 < 2 ^ 20) (hk : k ≤ n) : Rl (crF S k) (sF (fsF M k) 2 0) (b + (k + 3) / 4) (b + (k + 3) / 4) 0 := by
  have hok := h.ok hb
  obtain ⟨ho, ea, eb, e10, hM, hl, hm, hj, hc⟩ := h
  have hn := hM.2.1
  obtain ⟨a', e2, j2, w2⟩ := coF_jr (n := k) ho ea eb hb (by omega) hj
  obtain ⟨g1, g2, -⟩ := coF_ok hok k
  have hU : OkJ (crU S k) ∧ crU S k 13 0 = S 13 0 + nI k ∧ ∃ a3, crU S k 2 0 = nI a3 ∧ Jr (crU S k) a3 (b + (k + 3) / 4) ∧ ∀ q, q < 2 → chN (crU S k) a3 (b + (k + 3) / 4 - a3) q = wsN (chN S a (b - a)) S k q := by
    unfold crU
    split
    · obtain ⟨a3, e3, j3, w3⟩ := teF_jr (f := k) (n := wtN S - k) g1 e2 g2 (by omega) j2
      exact ⟨(teF_ok g1 e2 g2 j2.1).1, by rw [teF_13, coF_13], a3, e3, j3, fun q hq => by rw [w3 q hq, w2 q hq]⟩
    · exact ⟨g1, coF_13, a', e2, j2, w2⟩
  obtain ⟨hoU, e13, a3, e3, j3, w3⟩ := hU
  have hab3 := j3.1
  unfold crF
  have hoV : OkJ (sF (sF (crU S k) 10 0) 9 0) := (hoU.sFo (by decide) (by decide) (by decide)).sFo (by decide) (by decide) (by decide)
  have hqV : ∀ q, q < 9 → sF (sF (crU S k) 10 0) 9 0 q = crU S k q := fun q hq => by rw [sF_ne (by omega), sF_ne (by omega)]
  have jV : Jr (sF (sF (crU S k) 10 0) 9 0) a3 (b + (k + 3) / 4) := j3.cong hoU (fun q q1 q2 => hqV q q2)
  rw [rpF_eq hoV (by rw [hqV 2 (by decide)]; exact e3) (by omega) jV]
  have hsV : Sm (crU S k) (sF (sF (crU S k) 10 0) 9 0) := fun q q1 q2 => hqV q q1
  have hh := hsV.ch hoU a3 (b + (k + 3) / 4 - a3)
  generalize hV : sF (sF (crU S k) 10 0) 9 0 = V at hoV hqV jV hh
  have v10 : V 10 0 = nI 0 := by rw [← hV]; rfl
  have v13 : V 13 0 = S 13 0 + nI k := by rw [← hV]; exact e13
  have hz : ∀ q, q ≠ 0 → q ≠ 1 → q ≠ 2 → q ≠ 9 → sF (sF (chN V a3 (b + (k + 3) / 4 - a3)) 9 (nI (b + (k + 3) / 4))) 2 (nI (b + (k + 3) / 4)) q = V q := fun q q0 q1 q2 q9 => by rw [sF_ne q2, sF_ne q9, chN_ne q0 q1]
  refine ⟨hoV.of (hz 4 (by decide) (by decide) (by decide) (by decide)) (hz 6 (by decide) (by decide) (by decide) (by decide)) (hz 11 (by decide) (by decide) (by decide) (by decide)), rfl, rfl, by rw [hz 10 (by decide) (by decide) (by decide) (by decide)]; exact v10, ⟨rfl, by decide, (fsF_okm (k := k) hM).2.2⟩, fun i hi => absurd hi (by omega), ?_, (jV.cong hoV (fun q q1 q2 => hz q (by omega) (by omega) (by omega) (by omega))).copied, ?_⟩
  · rw [hz 13 (by decide) (by decide) (by decide) (by decide), v13]
    show _ = fsF M k 5 0
    rw [fsF_5, hm]
  · rw [Nat.sub_self]
    refine (hm_ws hc hM.2.2 hl k hk).cong ?_ ?_ (fsF_34 (Or.inl rfl)) (fsF_34 (Or.inr rfl))
    · show chN V a3 (b + (k + 3) / 4 - a3) 0 = _
      rw [hh.1, w3 0 (by decide)]
    · show chN V a3 (b + (k + 3) / 4 - a3) 1 = _
      rw [hh.2, w3 1 (by decide)]
theorem dm_eq {S M : St} {b n j : Nat} (h : Rl S M b b n) (hj : j < 12) : dmB S j = decide (¬ M 4 j = 0) := by
  obtain ⟨-, -, -, -, -, -, -, -, hc⟩ := h
  rw [Nat.sub_self] at hc
  unfold dmB
  rcases hc j hj with ⟨h1, h2, h3⟩ | ⟨h1, h2⟩
  · have h3 : S 1 j = chk (nI j) (S 0 j) := h3
    rw [decide_eq_false (fun q => q h3), decide_eq_false (fun q => q h1)]
  · have h2 : ¬ S 1 j = chk (nI j) (S 0 j) := h2
    rw [decide_eq_true h2, decide_eq_true h1]
theorem r_scrub {S M : St} {a b n : Nat} (h : Rl S M a b n) (hb : b < 2 ^ 20) : ∀ m, m ≤ 12 → scN (chF S) m = msN M m
  | 0, _ => rfl
  | m + 1, hm => by
    have h2 := dm_eq (r_ch h hb) (show m < 12 by omega)
    show (if dmB (chF S) m = true then scN (chF S) m + 1 else scN (chF S) m) = if M 4 m = 0 then msN M m else msN M m + 1
    rw [h2, r_scrub h hb m (by omega)]
    by_cases c : M 4 m = 0
    · rw [if_pos c, if_neg (by simp [c])]
    · rw [if_neg c, if_pos (by simp [c])]
theorem r_damage {S M : St} {a b n : Nat} (h : Rl S M a b n) (hb : b < 2 ^ 20) (x v : Int32) : daR S x v = mdR M x v ∧ ∃ a', Rl (daF S x v) (mdF M x v) a' b n := by
  unfold daR mdR daF mdF
  cases hbd : badB x with
  | true => exact ⟨rfl, a, h⟩
  | false =>
    obtain ⟨j, hj, rfl⟩ := badB_f hbd
    simp only [if_neg (show ¬ (false = true) by decide)]
    rw [ih_cl (n := j) (by omega)]
    have h2 := r_ch h hb
    rw [dm_eq h2 hj]
    generalize chF S = T at h2
    by_cases c : M 4 j = 0
    · simp only [c, not_true_eq_false, decide_false, if_neg (show ¬ (false = true) by decide), Bool.false_or]
      by_cases e : v = 0
      · subst e
        simp only [if_true]
        refine ⟨by simp [c], b, ?_⟩
        have eT : sA T 0 j (T 0 j ^^^ 0) = T := by
          funext q i
          show va_up T 0 (upd (T 0) j (T 0 j ^^^ 0)) q i = T q i
          by_cases q0 : q = 0
          · subst q0
            rw [va_up_self]
            by_cases i0 : i = j
            · rw [i0, up_s, Int32.xor_zero]
            · rw [pk_un i0]
          · rw [va_up_ne _ _ q0]
        rw [eT]
        exact h2
      · simp only [if_neg e]
        refine ⟨?_, b, ?_⟩
        · show b2 (decide (¬ v = 0)) = b2 (decide (¬ upd (M 4) j 1 j = 0))
          rw [up_s, decide_eq_true e, decide_eq_true (by decide)]
        · obtain ⟨ho, ea, eb, e10, hM, hl, hm, hjr, hc⟩ := h2
          rw [Nat.sub_self] at hc
          refine ⟨ho.sAo (by decide) (by decide) (by decide), ea, eb, e10, hM, hl, hm, hjr.cong ho (fun q q1 q2 => sA_ne (by omega)), ?_⟩
          rw [Nat.sub_self]
          intro s hs
          show (upd (M 4) j 1 s = 0 ∧ upd (T 0) j (T 0 j ^^^ v) s = M 3 s ∧ T 1 s = chk (nI s) (upd (T 0) j (T 0 j ^^^ v) s)) ∨ (¬ upd (M 4) j 1 s = 0 ∧ ¬ T 1 s = chk (nI s) (upd (T 0) j (T 0 j ^^^ v) s))
          by_cases d : s = j
          · subst d
            rw [up_s, up_s]
            refine Or.inr ⟨by decide, fun q => ?_⟩
            rcases hc s hs with ⟨c1, c2, c3⟩ | ⟨c1, c2⟩
            · have c3 : T 1 s = chk (nI s) (T 0 s) := c3
              rw [c3] at q
              have q2 := chk_inj q
              have q3 : T 0 s ^^^ 0 = T 0 s ^^^ v := by rw [Int32.xor_zero]; exact q2
              exact e ((Int32.xor_right_inj _).mp q3).symm
            · exact c1 c
          · rw [pk_un d, pk_un d]
            exact hc s hs
    · simp only [c, not_false_eq_true, decide_true, if_true, Bool.true_or]
      by_cases e : v = 0
      · simp only [if_pos e]
        exact ⟨by rw [decide_eq_true c], b, h2⟩
      · simp only [if_neg e]
        refine ⟨?_, b, ?_⟩
        · show b2 true = b2 (decide (¬ upd (M 4) j 1 j = 0))
          rw [up_s, decide_eq_true (by decide)]
        · obtain ⟨ho, ea, eb, e10, hM, hl, hm, hjr, hc⟩ := h2
          refine ⟨ho, ea, eb, e10, hM, hl, hm, hjr, ?_⟩
          intro s hs
          show (upd (M 4) j 1 s = 0 ∧ _ ∧ _) ∨ (¬ upd (M 4) j 1 s = 0 ∧ _)
          by_cases d : s = j
          · subst d
            rw [up_s]
            rcases hc s hs with ⟨c1, -, -⟩ | ⟨c1, c2⟩
            · exact absurd c1 c
            · exact Or.inr ⟨by decide, c2⟩
          · rw [pk_un d]
            exact hc s hs
theorem nw_eq {S M : St} {a b n : Nat} (h : Rl S M a b n) (x : Int32) : nwF S x = nnF M x := by
  obtain ⟨ho, ea, eb, e10, hM, hl, -, -, -⟩ := h
  have hn := hM.2.1
  unfold nwF nnF
  rw [wtN_of e10 (by omega), ctN_of hM]
  have key : ∀ m, m ≤ n → nwN S x m = nnN M x m := by
    intro m
    induction m with
    | zero => intro _; rfl
    | succ m ih =>
      intro hm
      show (if S 11 m = x then nI m else nwN S x m) = if M 0 m = x then nI m else nnN M x m
      rw [(hl m (by omega)).1, ih (by omega)]
  exact key n (Nat.le_refl n)
/-- an entry that the journal gives is a live one -/
theorem nj_live {S : St} {a b s : Nat} (ho : OkJ S) (hL : ∀ k, a ≤ k → k < b → Lv S k) : ∀ j, a + j ≤ b → njN S (nI s) a j = -1 ∨ ∃ i, i < 32 ∧ njN S (nI s) a j = nI i ∧ S 6 i = nI s ∧ S 8 i = chk (nI s) (S 7 i)
  | 0, _ => Or.inl rfl
  | j + 1, hj => by
    have ih := nj_live (s := s) ho hL j (by omega)
    have h8 : (a + j) % 8 < 8 := Nat.mod_lt _ (by decide)
    have hl := (hL (a + j) (by omega) (by omega)).2.2.2
    have h4 := (ho.c ((a + j) % 8)).2
    have key : ∀ c, c ≤ cl (S 4 ((a + j) % 8)) → njI S (nI s) ((a + j) % 8) (njN S (nI s) a j) c = -1 ∨ ∃ i, i < 32 ∧ njI S (nI s) ((a + j) % 8) (njN S (nI s) a j) c = nI i ∧ S 6 i = nI s ∧ S 8 i = chk (nI s) (S 7 i) := by
      intro c
      induction c with
      | zero => intro _; exact ih
      | succ c ihc =>
        intro hc
        show (if S 6 (4 * ((a + j) % 8) + c) = nI s then nI (4 * ((a + j) % 8) + c) else njI S (nI s) ((a + j) % 8) (njN S (nI s) a j) c) = -1 ∨ ∃ i, i < 32 ∧ (if S 6 (4 * ((a + j) % 8) + c) = nI s then nI (4 * ((a + j) % 8) + c) else njI S (nI s) ((a + j) % 8) (njN S (nI s) a j) c) = nI i ∧ S 6 i = nI s ∧ S 8 i = chk (nI s) (S 7 i)
        by_cases e : S 6 (4 * ((a + j) % 8) + c) = nI s
        · rw [if_pos e]
          refine Or.inr ⟨_, by omega, rfl, e, ?_⟩
          rw [hl c (by omega), e]
        · rw [if_neg e]
          exact ihc (by omega)
    exact key _ (Nat.le_refl _)
theorem dg_eq {S M : St} {a b n j : Nat} (h : Rl S M a b n) (hb : b < 2 ^ 20) (hj : j < 12) : dgB S j = decide (M 4 j = 0) ∧ (M 4 j = 0 → dvF S j = M 3 j) := by
  obtain ⟨ho, ea, eb, -, -, -, -, hjr, hc⟩ := h
  have hab := hjr.1
  have hcj := hc j hj
  rw [(ch_nj ho hj a (b - a)).1, (ch_nj ho hj a (b - a)).2] at hcj
  have hlive := nj_live (s := j) ho hjr.2.2.1 (b - a) (by omega)
  have ef : njF S (nI j) = njN S (nI j) a (b - a) := by unfold njF; rw [hfN_of ea (by omega), nxN_of eb (by omega)]
  unfold dgB dvF
  rw [ef]
  rcases hlive with e | ⟨i, hi, e, e6, e8⟩
  · rw [e] at hcj ⊢
    simp only [if_pos (show (-1 : Int32) < 0 by decide)]
    have h0 : sel S 0 7 j (-1) = S 0 j := if_pos (by decide)
    have h1 : sel S 1 8 j (-1) = S 1 j := if_pos (by decide)
    rw [h0, h1] at hcj
    unfold dmB
    rcases hcj with ⟨c1, c2, c3⟩ | ⟨c1, c2⟩
    · refine ⟨?_, fun _ => c2⟩
      rw [decide_eq_false (fun q => q c3), decide_eq_true c1]
      rfl
    · refine ⟨?_, fun q => absurd q c1⟩
      rw [decide_eq_true c2, decide_eq_false c1]
      rfl
  · rw [e] at hcj ⊢
    rw [sel_nI (by omega), sel_nI (by omega)] at hcj
    simp only [if_neg (nI_pos (n := i) (by omega))]
    rw [ih_cl (n := i) (by omega)]
    rcases hcj with ⟨c1, c2, c3⟩ | ⟨c1, c2⟩
    · exact ⟨by rw [decide_eq_true c1], fun _ => c2⟩
    · exact absurd e8 c2
theorem r_readable {S M : St} {a b n : Nat} (h : Rl S M a b n) (hb : b < 2 ^ 20) (x : Int32) : rbB S x = mbB M x := by
  unfold rbB mbB
  rw [nw_eq h x]
  cases hbd : badB x with
  | true => rfl
  | false =>
    obtain ⟨j, hj, rfl⟩ := badB_f hbd
    rw [ih_cl (n := j) (by omega), (dg_eq h hb hj).1]
theorem r_read {S M : St} {a b n : Nat} (h : Rl S M a b n) (hb : b < 2 ^ 20) (x : Int32) : rdR S x = mrR M x := by
  have hM : OkM M n := h.2.2.2.2.1
  have hl := h.2.2.2.2.2.1
  unfold rdR mrR mbB
  rw [nw_eq h x]
  cases hbd : badB x with
  | true => rfl
  | false =>
    obtain ⟨j, hj, rfl⟩ := badB_f hbd
    simp only [if_neg (show ¬ (false = true) by decide)]
    rw [ih_cl (n := j) (by omega), (dg_eq h hb hj).1]
    rcases nnF_range hM (nI j) with e | ⟨i, hi, e, -⟩
    · rw [e]
      simp only [if_pos (show (-1 : Int32) < 0 by decide)]
      by_cases c : M 4 j = 0
      · simp only [decide_eq_true c, if_true]
        exact (dg_eq h hb hj).2 c
      · simp only [decide_eq_false c, if_neg (show ¬ (false = true) by decide)]
    · have hn := hM.2.1
      rw [e]
      simp only [if_neg (nI_pos (n := i) (by omega)), if_true]
      rw [ih_cl (n := i) (by omega)]
      exact (hl i hi).2
theorem ar_eq {S M : St} {a b n j : Nat} (h : Rl S M a b n) (hb : b < 2 ^ 20) (hj : j < 12) : ar1 S j = ma1 M j := by
  have hM : OkM M n := h.2.2.2.2.1
  have hl := h.2.2.2.2.2.1
  have hn := hM.2.1
  have hd := dg_eq h hb hj
  unfold ar1 ma1
  rw [nw_eq h (nI j)]
  rcases nnF_range hM (nI j) with e | ⟨i, hi, e, -⟩
  · rw [e]
    simp only [if_pos (show (-1 : Int32) < 0 by decide)]
  · have em : mrR M (nI j) = M 1 i := by
      unfold mrR mbB
      rw [e, badB_nI hj]
      simp only [if_neg (show ¬ (false = true) by decide), if_neg (nI_pos (n := i) (by omega)), if_true]
      rw [ih_cl (n := i) (by omega)]
    rw [em, e]
    simp only [if_neg (nI_pos (n := i) (by omega))]
    rw [ih_cl (n := i) (by omega), hd.1, (hl i hi).2]
    by_cases c : M 4 j = 0
    · rw [hd.2 c]
      simp only [c, decide_true, Bool.not_true, Bool.false_or, not_true_eq_false, decide_false]
      by_cases d : M 3 j = M 1 i
      · rw [decide_eq_false (fun q => q d), decide_eq_false (fun q => q d.symm)]
      · rw [decide_eq_true d, decide_eq_true (show ¬ M 1 i = M 3 j from fun q => d q.symm)]
    · simp [c]
theorem r_atRisk {S M : St} {a b n : Nat} (h : Rl S M a b n) (hb : b < 2 ^ 20) : ∀ m, m ≤ 12 → arN S m = maN M m
  | 0, _ => rfl
  | m + 1, hm => by
    show (if ar1 S m = true then arN S m + 1 else arN S m) = if ma1 M m = true then maN M m + 1 else maN M m
    rw [ar_eq h hb (show m < 12 by omega), r_atRisk h hb m (by omega)]
theorem inA_at : ∀ m q j, inA m q j = if q = 1 ∧ j < m then chk (nI j) 0 else 0
  | 0, q, j => by rw [if_neg (by omega)]; rfl
  | m + 1, q, j => by
    show va_up (inA m) 1 (upd (inA m 1) m (chk (nI m) 0)) q j = _
    by_cases c : q = 1
    · subst c
      rw [va_up_self]
      by_cases d : j = m
      · subst d
        rw [up_s, if_pos (by omega)]
      · rw [pk_un d, inA_at m 1 j]
        by_cases e : j < m
        · rw [if_pos ⟨rfl, e⟩, if_pos (by omega)]
        · rw [if_neg (by omega), if_neg (by omega)]
    · rw [va_up_ne _ _ c, inA_at m q j, if_neg (fun h => c h.1), if_neg (fun h => c h.1)]
theorem inB_at : ∀ m q j, inB m q j = if q = 3 ∧ j < m then -1 else inA 12 q j
  | 0, q, j => by rw [if_neg (by omega)]; rfl
  | m + 1, q, j => by
    show va_up (inB m) 3 (upd (inB m 3) m (-1)) q j = _
    by_cases c : q = 3
    · subst c
      rw [va_up_self]
      by_cases d : j = m
      · subst d
        rw [up_s, if_pos (by omega)]
      · rw [pk_un d, inB_at m 3 j]
        by_cases e : j < m
        · rw [if_pos ⟨rfl, e⟩, if_pos (by omega)]
        · rw [if_neg (by omega), if_neg (by omega)]
    · rw [va_up_ne _ _ c, inB_at m q j, if_neg (fun h => c h.1), if_neg (fun h => c h.1)]
theorem in_0 {q j : Nat} (h1 : q ≠ 1) (h3 : q ≠ 3) : inB 8 q j = 0 := by
  rw [inB_at, if_neg (fun h => h3 h.1), inA_at, if_neg (fun h => h1 h.1)]
theorem r_start : Rl (inB 8) (fun _ _ => 0) 0 0 0 := by
  have hv : vp_in 0 12 := vp_in_nI (n := 0) (by decide) (by decide)
  have h3 : ∀ k, k < 8 → inB 8 3 k = -1 := fun k hk => by rw [inB_at, if_pos ⟨rfl, hk⟩]
  have hm : ∀ j : Nat, j < 2 ^ 31 → ¬ (-1 : Int32) = nI j := fun j hj e => nI_pos hj (by rw [← e]; decide)
  refine ⟨⟨fun k => ⟨0, by decide, in_0 (by decide) (by decide)⟩, fun i => by rw [in_0 (by decide) (by decide)]; exact hv, fun i => by rw [in_0 (by decide) (by decide)]; exact hv⟩, in_0 (by decide) (by decide), in_0 (by decide) (by decide), in_0 (by decide) (by decide), ⟨rfl, by decide, fun _ => hv⟩, fun i hi => absurd hi (by omega), in_0 (by decide) (by decide), ⟨Nat.le_refl _, by decide, fun k h1 h2 => absurd h2 (by omega), fun k hk j h1 h2 => by rw [h3 k hk]; exact hm j h2, ?_⟩, ?_⟩
  · unfold whB
    rw [h3 _ (Nat.mod_lt _ (by decide)), decide_eq_false (hm 0 (by decide))]
    rfl
  · intro s hs
    refine Or.inl ⟨rfl, in_0 (by decide) (by decide), ?_⟩
    show inB 8 1 s = chk (nI s) (inB 8 0 s)
    rw [in_0 (q := 0) (by decide) (by decide), inB_at, if_neg (by omega), inA_at, if_pos ⟨rfl, hs⟩]
end
section
set_option maxRecDepth 100000
def R_law : String := "IntegrityLayerLaw"
def lw_P (b : Addr) (xs : List Int32) (args : Array Value) (s : State) : Prop := args = #[.ref b] ∧ s.IntsAt b xs ∧ xs.length ≤ 192 ∧ (Jvm.Cond.and given_1 narrow_1).before args s = true
def lw_Q (_ : Array Value) (s : State) (o : Outcome) (t : State) : Prop := o = .returned (some (.int 1)) ∧ Framed s o t [] 600000 7290000
def lw_Z (below : List Frame) (a : Array Value) (s : State) : State → Prop := fun t => ∃ o, t.status = .running ∧ Ended t below o ∧ lw_Q a s o t
/-- the law's own end, with 1 on the stack, nothing written that was there before, its room as the claim has it -/
theorem lw_ret {p : Program} {l : Launch} {e : Env} {s : State} {m : MethodId} {below : List Frame} {meth : Method} {c : Code} {b : Nat} (hx : p.tables.exec = Jvm.exec) (hb : c.code = code) (hr : meth.sig.returnType = ret) (hlocks : meth.locks = false) {pc : Nat} {H : Heap} {ls : Array Slot} (hdg : decode code pc = .ok (.ireturn, 1)) : W p l e room_1 s m #[Value.ref b] below meth c H [] 600000 7290000 (lw_Z below #[Value.ref b] s) (F0 m pc ls [.int 1]) := by
  intro T hT X
  obtain ⟨fs, hret, hrun, hended, hW, hframe⟩ := X.leave (v := some (.int 1)) (hlocks := hlocks) (fun h => by rw [hr] at h; cases h)
  have hmeth' : T.vm.method? m = some meth := X.method'
  refine ⟨T.setFrames fs, ?_, .returned (some (.int 1)), hrun, hended, rfl, ⟨_, rfl⟩, hW, hframe⟩
  jvm_step X.here [X.here.top, hx, hb, hdg, hmeth', hr, ret, narrow_b1]
  (try refine ⟨rfl, ?_⟩); (try refine ⟨rfl, ?_⟩)
  first | (intro acts; rw [hret _ acts rfl rfl rfl]) | rw [hret _ _ rfl rfl rfl]
  exact Steps.refl _
/-- what holds at the law's entry: the machine, the code, the tables' words (any of lw_tbl by 'hts w (by decide +kernel)'), the script of L ints xs at the cell b, what the Statement gives of the start (any of its parts by flat_of_before) -/
def lw_At (p : Program) (s : State) (m : MethodId) (meth : Method) (c : Code) (b L : Nat) (xs : Nat → Int32) : Prop :=
  p.tables.exec = Jvm.exec ∧ c.code = code ∧ meth.sig.returnType = ret ∧ c.maxLocals = 4 ∧ s.vm.findClass R_law = some m.cls ∧ (∀ w ∈ lw_tbl, w.before #[Value.ref b] s = true) ∧ va_X b L xs s s.heap ∧ b < s.heap.size ∧ meth.locks = false ∧ (Jvm.Cond.and given_1 narrow_1).before #[Value.ref b] s = true
end
section
set_option maxRecDepth 100000
/-! calls with a second world beside the callee's -/
section LAWK
variable {p : Program} {l : Launch} {e : Env} {R : Room} {s : State} {m : MethodId} {args : Array Value} {below : List Frame} {meth : Method} {c : Code} {H : Heap} {locs : List Loc} {cells slots : Nat} {Q : State → Prop}
variable {cc : ByteArray} {pc nL : Nat} {ls : Array Slot} {rest st : List Value} {D : va_G} {d z : ClassId} {A : Nat → Prop} {h0 : Nat} {ad : Nat → Nat} {own : String}
variable {wf : Wf} {y : MethodName} {c2 : ByteArray} {L n idx ci : Nat} {ty : FieldType} {av : List Value} {S S' : St} {r : Int32} {qc : vw_C} {fs : List Value} {u v : va_W}
theorem iw_split (I : Iw D A s (u ++ v) H locs) : Iw D A s u H locs ∧ Iw D A s v H locs ∧ ∀ (i j : Nat) (x y : Nat × va_E), u[i]? = some x → v[j]? = some y → x.1 ≠ y.1 := by
  have hu : ∀ (i : Nat) (x : Nat × va_E), u[i]? = some x → (u ++ v)[i]? = some x := fun i x h => by
    rw [List.getElem?_append_left (List.getElem?_eq_some_iff.mp h).1]; exact h
  have hv : ∀ (j : Nat) (y : Nat × va_E), v[j]? = some y → (u ++ v)[u.length + j]? = some y := fun j y h => by
    rw [List.getElem?_append_right (Nat.le_add_right _ _), Nat.add_sub_cancel_left]; exact h
  refine ⟨⟨fun k q hk => I.1 k q (hu k q hk), ⟨fun i j x y hi hj h => I.2.1.1 i j x y (hu i x hi) (hu j y hj) h, fun k q hk => I.2.1.2 k q (hu k q hk)⟩, I.2.2⟩, ⟨fun k q hk => I.1 _ q (hv k q hk), ⟨fun i j x y hi hj h => ?_, fun k q hk => I.2.1.2 _ q (hv k q hk)⟩, I.2.2⟩, fun i j x y hi hj h => ?_⟩
  · have := I.2.1.1 _ _ x y (hv i x hi) (hv j y hj) h
    omega
  · have h1 := I.2.1.1 _ _ x y (hu i x hi) (hv j y hj) h
    have h2 := (List.getElem?_eq_some_iff.mp hi).1
    omega
theorem Iw.swap (I : Iw D A s (u ++ v) H locs) : Iw D A s (v ++ u) H locs := by
  obtain ⟨h1, h2, h3⟩ := iw_split I
  exact ⟨h2.1.app h1.1, h2.2.1.app h1.2.1 (fun i j x y hx hy h => h3 j i y x hy hx h.symm), h1.2.2⟩
theorem iw_apart (I2 : Iw D A s v H locs) (h3 : ∀ (i j : Nat) (x y : Nat × va_E), u[i]? = some x → v[j]? = some y → x.1 ≠ y.1) : ∀ (k : Nat) (q : Nat × va_E), v[k]? = some q → q.1 < H.size ∧ ¬ va_A u H.size q.1 := by
  intro k q hq
  refine ⟨(I2.1 k q hq).lt, fun h => ?_⟩
  rcases h with ⟨k2, x, h⟩ | h
  · exact h3 k2 k _ q h hq rfl
  · exact absurd (I2.1 k q hq).lt (Nat.not_lt.mpr h)
theorem il_callI2 (na : Nat) (K : Kx p m c s args D d z A own cc nL) (I : Iw D A s (wf d z h0 ad S ++ v) H locs) (hls : ls.size = nL) (hM : Cti l wf y c2 L ty n av S S' r)
    (hw : GoodIn lw_all (wsV own idx qc.1 y (ws_ y c2 L (some ty)))) (hd : y.cls = qc.1 ∧ y.cls ≠ "java/lang/invoke/MethodHandle" ∧ y.cls ≠ "java/lang/invoke/VarHandle" ∧ (parseMethodDescriptor y.desc).map (fun d => d.parameters.length) = some na)
    (hci : vwCl[ci]? = some qc) (hh : (wf d z h0 ad S)[0]? = some (h0, .inr (ci, fs))) (hR : (rk n).frames + 1 ≤ R.frames ∧ 8 + (L + 11) + (rk n).locals ≤ R.locals) (hna : av.length = na) (hst : st = av.reverse ++ .ref h0 :: rest) (hrm : (rest.map fun v => v.category).sum ≤ 8) (hcs : cells ≤ R.cells ∧ slots ≤ R.slots) (hdg : decode cc pc = .ok (.invokevirtual idx, 3))
    (kk : ∀ (H1 : Heap) (locs1 : List Loc), Iw D A s (wf d z h0 ad S' ++ v) H1 locs1 → W p l e R s m args below meth c H1 locs1 cells slots Q (F0 m (pc + 3) ls (.int r :: rest))) : W p l e R s m args below meth c H locs cells slots Q (F0 m pc ls st) := by
  obtain ⟨I1, I2, h3⟩ := iw_split I
  have hF := iw_free K I1
  have hap := iw_apart I2 h3
  refine va_calli (A1 := va_A (wf d z h0 ad S) H.size) (va_runV (As := av) (rest := rest) (b := h0) K.1 (hM D d z h0 ad H.size) (cwV na K.1.2.2.2.2 hw rfl rfl rfl hd hR) ⟨preW_blind, va_recv K.2.1 I1.1 (ci := ci) (q0 := 0) hci hh, fun U hU hW => ⟨rfl, by rw [hU], by rw [hU]; exact I1.1, va_K.moved hW.alike K.2.1, I1.2.1.weaken (fun _ _ _ _ => trivial)⟩⟩ rfl hna hls hst (lv_room hrm) hdg hcs) I1.2.2 (fun q _ h => hF q h) hF (fun r2 u t H1 locs1 ht hvm hp hB hz1 hk1 hS => ?_)
  subst hp
  obtain ⟨hP1, -, hD1⟩ := hB
  rw [ht] at hP1
  exact kk H1 locs1 ⟨hP1.app (I2.1.kept (fun k q hk => hk1 q.1 (hap k q hk).1 (hap k q hk).2)), (hD1.weaken (fun k q _ h => hF q.1 h)).app I2.2.1 (fun i j x y hx hy h => (hap j y hy).2 (by rw [← h]; exact hD1.2 i x hx)), hS⟩
theorem il_callC2 {mc ms : Nat} {w0 : Nat → va_W} {w1 : ClassId → ClassId → Nat → (Nat → Nat) → va_W} (K : Kx p m c s args D d z A own cc nL) (I : Iw D A s (w0 h0 ++ v) H locs) (hls : ls.size = nL) (hM : Ctc l y c2 L n mc ms w0 w1)
    (hcode : Cond.code y c2 L none ∈ lw_all) (hini : Cond.initialized y.cls ∈ lw_all) (hlk : Cond.methodLink own idx y ∈ lw_all) (hin : Cond.instanceMethod y ∈ lw_all) (hy1 : y.name = "<init>") (hd : y.cls ≠ "java/lang/invoke/MethodHandle" ∧ y.cls ≠ "java/lang/invoke/VarHandle" ∧ (parseMethodDescriptor y.desc).map (fun d => d.parameters.length) = some 0)
    (hR : (rc n mc ms).frames + 1 ≤ R.frames ∧ 8 + (L + 11) + (rc n mc ms).locals ≤ R.locals) (hrm : (rest.map fun v => v.category).sum ≤ 8) (hcs : cells + mc ≤ R.cells ∧ slots + ms ≤ R.slots) (hdg : decode cc pc = .ok (.invokespecial idx, 3))
    (kk : ∀ (ad : Nat → Nat) (H1 : Heap) (locs1 : List Loc), Iw D A s (w1 d z h0 ad ++ v) H1 locs1 → W p l e R s m args below meth c H1 locs1 (cells + mc) (slots + ms) Q (F0 m (pc + 3) ls rest)) : W p l e R s m args below meth c H locs cells slots Q (F0 m pc ls (.ref h0 :: rest)) := by
  obtain ⟨I1, I2, h3⟩ := iw_split I
  have hF := iw_free K I1
  have hap := iw_apart I2 h3
  have hts := K.1.2.2.2.2
  refine va_callv (A1 := va_A (w0 h0) H.size) (va_runI (As := []) (rest := rest) (b := h0) K.1 (hM D d z h0 H.size) (cwI 0 hts (lw_meth hcode) rfl rfl rfl (hts _ hini) (hts _ hlk) (hts _ hin) hy1 hd hR) ⟨preW_blind, fun U hU hW => ⟨rfl, by rw [hU], by rw [hU]; exact I1.1, va_K.moved hW.alike K.2.1, I1.2.1.weaken (fun _ _ _ _ => trivial)⟩⟩ rfl rfl hls rfl (lv_room hrm) hdg hcs) I1.2.2 (fun q _ h => hF q h) hF (fun ad t H1 locs1 ht hvm hp hB hz1 hk1 hS => ?_)
  obtain ⟨hP1, -, hD1⟩ := hB
  rw [ht] at hP1
  exact kk ad H1 locs1 ⟨hP1.app (I2.1.kept (fun k q hk => hk1 q.1 (hap k q hk).1 (hap k q hk).2)), (hD1.weaken (fun k q _ h => hF q.1 h)).app I2.2.1 (fun i j x y hx hy h => (hap j y hy).2 (by rw [← h]; exact hD1.2 i x hx)), hS⟩
theorem il_sld {b N i : Nat} {xs : Nat → Int32} {w : va_W} (K : Kx p m c s args D d z A own cc nL) (hX : va_X b N xs s s.heap) (hbl : b < s.heap.size) (hbA : ¬ A b) (hN : N ≤ 192) (I : Iw D A s w H locs) (hi : i < N) (hdg : decode cc pc = .ok (.iaload, 1))
    (kk : W p l e R s m args below meth c H locs cells slots Q (F0 m (pc + 1) ls (.int (xs i) :: rest))) : W p l e R s m args below meth c H locs cells slots Q (F0 m pc ls (.int (nI i) :: .ref b :: rest)) := by
  refine va_sld K.1.1 K.1.2.1 hX hbl hbA I.2.2 (vp_in_nI hi (by omega)) hdg ?_
  rw [nI_clamp (by omega)]
  exact kk
end LAWK
theorem il_arr {args : Array Value} {s : State} (hI : (Cond.arrayClass .int).before args s = true) (hZ : (Cond.arrayClass .boolean).before args s = true) : ∃ d z : ClassId, ∀ (k : Nat) (q : ClassId × FieldType), (kTy d z)[k]? = some q → ArrOfT s q.1 q.2 ∧ va_RA s q.1 q.2 := by
  obtain ⟨d, k1, c1, f1, g1, e1⟩ := Cond.arrayClass_spec hI
  obtain ⟨z, k2, c2, f2, g2, e2⟩ := Cond.arrayClass_spec hZ
  refine ⟨d, z, fun k q hq => ?_⟩
  match k, hq with
  | 0, hq => cases hq; exact ⟨fun n w => ⟨fun k h => (by cases h), k1, g1, c1, e1⟩, f1⟩
  | 1, hq => cases hq; exact ⟨fun n w => ⟨fun k h => (by cases h), k2, g2, c2, e2⟩, f2⟩
  | k + 2, hq => simp [kTy] at hq
theorem il_end {L t : Nat} (hL : L ≤ 192) (ht : t ≤ 200) : nI L - 3 < nI (3 * t) ↔ L < 3 * t + 3 := by
  rw [Int32.lt_iff_toInt_lt, show (3 : Int32) = nI 3 from rfl, pk_sub_toInt (by omega) (by decide), nI_toInt (by omega)]
  omega
end
section
set_option maxRecDepth 100000
/-! the law's own walk -/
theorem whole_start {p : Program} {e : Env} {s : State} {m : MethodId} {below : List Frame} {meth : Method} {c : Code} (l : Launch) {b L : Nat} {xs : Nat → Int32} (hL : L ≤ 192) (C0 : lw_At p s m meth c b L xs) : W p l e room_1 s m #[Value.ref b] below meth c s.heap [] 0 0 (lw_Z below #[Value.ref b] s) (entryFrame m ([Value.ref b] : List Value).toArray 4) := by
  obtain ⟨hx, hb, hr, hml, hown, hts0, hX, hbl, hlocks, hgv⟩ := id C0
  have hts : ∀ w ∈ lw_all, w.before #[Value.ref b] s = true := fun w h => hts0 w (lw_all_tbl h)
  obtain ⟨A, hAe⟩ : ∃ A : Nat → Prop, A = fun q : Nat => s.heap.size ≤ q := ⟨_, rfl⟩
  have hA : ∀ q : Nat, s.heap.size ≤ q → A q := fun q h => by rw [hAe]; exact h
  have hA2 : ∀ q : Nat, A q → s.heap.size ≤ q := fun q h => by rw [hAe] at h; exact h
  have hbA : ¬ A b := fun h => absurd hbl (Nat.not_lt.mpr (hA2 b h))
  obtain ⟨c0, iS0, hKn0⟩ := u_known (C := RX0) (T := TX0) (N := 14) (n := 14) hts in_X0 (hts _ q22)
  obtain ⟨c1, iS1, hKn1⟩ := u_known (C := RX1) (T := TX1) (N := 6) (n := 6) hts in_X1 (hts _ q187)
  obtain ⟨dC, dI, hKc⟩ : ∃ (dC : Nat → ClassId) (dI : Nat → Nat → Nat), ∀ (k : Nat) (q : vw_C), vwCl[k]? = some q → u_Kn s q.1 q.2.1 q.2.2 (dC k) (dI k) := by
    refine ⟨fun k => if k = 0 then c0 else c1, fun k => if k = 0 then iS0 else iS1, ?_⟩
    intro k q hq
    match k, hq with
    | 0, hq => cases hq; exact hKn0
    | 1, hq => cases hq; exact hKn1
    | k + 2, hq => simp [vwCl] at hq
  obtain ⟨d, z, hty⟩ := il_arr (hts _ q78) (hts _ q211)
  have hK : va_K (dC, dI) vwCl (kTy d z) s := ⟨hKc, hty⟩
  have K : Kx p m c s #[Value.ref b] (dC, dI) d z A R_law cL_law 4 := ⟨⟨hx, hb, hml, hown, hts⟩, hK, hA⟩
  have fin : ∀ (H : Heap) (locs : List Loc) (pc : Nat) (ls : Array Slot), va_S A s.heap H locs → decode code pc = .ok (.ireturn, 1) → W p l e room_1 s m #[Value.ref b] below meth c H locs 16 268 (lw_Z below #[Value.ref b] s) (F0 m pc ls [.int 1]) := by
    intro H locs pc ls hS hdg
    refine va_forget (fun q h => hA2 _ (hS.2.2 q h)) ?_
    refine W.widen (k := 600000) (n := 7290000) (by decide) (by decide) ?_
    exact lw_ret hx hb hr hlocks hdg
  generalize lw_Z below #[Value.ref b] s = Q at fin ⊢
  have lp : ∀ (f t a bb n : Nat) (S M : St) (h1 h2 : Nat) (a1 a2 : Nat → Nat) (H : Heap) (locs : List Loc) (ls : Array Slot), t ≤ 64 → L < 3 * t + f → bb ≤ 5 * t → Rl S M a bb n → Iw (dC, dI) A s (wX d z h1 a1 S ++ wM d z h2 a2 M) H locs → lv_has ls 4 [(3, .int (nI (3 * t))), (2, .ref h2), (1, .ref h1), (0, .ref b)] → W p l e room_1 s m #[Value.ref b] below meth c H locs 16 268 Q (F0 m 18 ls []) := by
    intro f
    induction f with
    | zero =>
      intro t a bb n S M h1 h2 a1 a2 H locs ls ht hf hbb hrel I hl
      refine lv_iload_n K.1.1 K.1.2.1 dL_law_18 rfl (lv_at hl 0 rfl) ?_
      refine lv_aload_n K.1.1 K.1.2.1 dL_law_19 rfl (lv_at hl 3 rfl) ?_
      refine va_slen K.1.1 K.1.2.1 hX hbl hbA I.2.2 dL_law_20 ?_
      refine il_top (y := nI L) rfl ?_
      refine lv_iconst (v := 3) K.1.1 K.1.2.1 dL_law_21 (by decide) ?_
      refine lv_isub K.1.1 K.1.2.1 dL_law_22 ?_
      refine lv_icmp_gt (tgt := 321) K.1.1 K.1.2.1 dL_law_23 (by decide) (fun h => ?_) (fun h => ?_)
      · refine lv_iconst (v := 1) K.1.1 K.1.2.1 dL_law_321 (by decide) ?_
        exact fin _ _ _ _ I.2.2 dL_law_322
      · skip
        exact absurd ((il_end hL (by omega)).mpr (by omega)) h
    | succ f ih =>
      intro t a bb n S M h1 h2 a1 a2 H locs ls ht hf hbb hrel I hl
      refine lv_iload_n K.1.1 K.1.2.1 dL_law_18 rfl (lv_at hl 0 rfl) ?_
      refine lv_aload_n K.1.1 K.1.2.1 dL_law_19 rfl (lv_at hl 3 rfl) ?_
      refine va_slen K.1.1 K.1.2.1 hX hbl hbA I.2.2 dL_law_20 ?_
      refine il_top (y := nI L) rfl ?_
      refine lv_iconst (v := 3) K.1.1 K.1.2.1 dL_law_21 (by decide) ?_
      refine lv_isub K.1.1 K.1.2.1 dL_law_22 ?_
      refine lv_icmp_gt (tgt := 321) K.1.1 K.1.2.1 dL_law_23 (by decide) (fun h => ?_) (fun h => ?_)
      · refine lv_iconst (v := 1) K.1.1 K.1.2.1 dL_law_321 (by decide) ?_
        exact fin _ _ _ _ I.2.2 dL_law_322
      · skip
        have h : 3 * t + 3 ≤ L := Nat.not_lt.mp (fun q => h ((il_end hL (by omega)).mpr q))
        have hb5 : bb + 5 < 2 ^ 20 := by omega
        have hok := hrel.ok hb5
        have hM : OkM M n := hrel.2.2.2.2.1
        have hn := hM.2.1
        have e10 : S 10 0 = nI n := hrel.2.2.2.1
        have nxt : ∀ (a bb n : Nat) (S M : St) (H : Heap) (locs : List Loc) (ls : Array Slot), bb ≤ 5 * t + 5 → Rl S M a bb n → Iw (dC, dI) A s (wX d z h1 a1 S ++ wM d z h2 a2 M) H locs → lv_has ls 4 [(3, .int (nI (3 * t))), (2, .ref h2), (1, .ref h1), (0, .ref b)] → W p l e room_1 s m #[Value.ref b] below meth c H locs 16 268 Q (F0 m 315 ls []) := by
          intro a bb n S M H locs ls hbb hrel I hl
          refine lv_iinc (v := (nI (3 * (t + 1)))) (lv' := [(3, .int (nI (3 * (t + 1)))), (2, .ref h2), (1, .ref h1), (0, .ref b)]) K.1.1 K.1.2.1 dL_law_315 hl (k := 0) rfl (nI_add (3 * t) 3) (by decide) rfl (fun ls hl => ?_)
          refine lv_goto (tgt := 18) K.1.1 K.1.2.1 dL_law_318 (by decide) ?_
          exact ih (t + 1) a bb n S M h1 h2 a1 a2 H locs ls (by omega) (by omega) (by omega) hrel I hl
        obtain ⟨op, hop, eop⟩ := pk_andE (xs (3 * t)) (m := 15) 4 (by decide)
        refine lv_aload_n K.1.1 K.1.2.1 dL_law_26 rfl (lv_at hl 3 rfl) ?_
        refine lv_iload_n K.1.1 K.1.2.1 dL_law_27 rfl (lv_at hl 0 rfl) ?_
        refine il_sld (i := (3 * t)) K hX hbl hbA hL I (by omega) dL_law_28 ?_
        refine lv_bipush (v := 15) K.1.1 K.1.2.1 dL_law_29 (by decide) ?_
        refine lv_iand K.1.1 K.1.2.1 dL_law_31 ?_
        refine il_top (y := nI op) (eop) ?_
        rcases (show op = 0 ∨ op = 1 ∨ op = 2 ∨ op = 3 ∨ op = 4 ∨ op = 5 ∨ op = 6 ∨ op = 7 ∨ op = 8 ∨ op = 9 ∨ op = 10 ∨ op = 11 ∨ op = 12 ∨ op = 13 ∨ op = 14 ∨ op = 15 by omega) with rfl | rfl | rfl | rfl | rfl | rfl | rfl | rfl | rfl | rfl | rfl | rfl | rfl | rfl | rfl | rfl
        · refine lv_tableIn (off := 60) (tgt := 92) K.1.1 K.1.2.1 dL_law_32 (by decide) (by decide) (by decide) (by decide) ?_
          obtain ⟨r1, n2, r2⟩ := r_write hrel (xs (3 * t + 1)) (xs (3 * t + 2))
          refine lv_aload_n K.1.1 K.1.2.1 dL_law_92 rfl (lv_at hl 2 rfl) ?_
          refine lv_aload_n K.1.1 K.1.2.1 dL_law_93 rfl (lv_at hl 3 rfl) ?_
          refine lv_iload_n K.1.1 K.1.2.1 dL_law_94 rfl (lv_at hl 0 rfl) ?_
          refine lv_iconst (v := 1) K.1.1 K.1.2.1 dL_law_95 (by decide) ?_
          refine lv_iadd K.1.1 K.1.2.1 dL_law_96 ?_
          refine il_top (y := nI (3 * t + 1)) (nI_add (3 * t) 1) ?_
          refine il_sld (i := (3 * t + 1)) K hX hbl hbA hL I (by omega) dL_law_97 ?_
          refine lv_aload_n K.1.1 K.1.2.1 dL_law_98 rfl (lv_at hl 3 rfl) ?_
          refine lv_iload_n K.1.1 K.1.2.1 dL_law_99 rfl (lv_at hl 0 rfl) ?_
          refine lv_iconst (v := 2) K.1.1 K.1.2.1 dL_law_100 (by decide) ?_
          refine lv_iadd K.1.1 K.1.2.1 dL_law_101 ?_
          refine il_top (y := nI (3 * t + 2)) (nI_add (3 * t) 2) ?_
          refine il_sld (i := (3 * t + 2)) K hX hbl hbA hL I (by omega) dL_law_102 ?_
          refine il_callI2 (qc := (RX0, TX0, 14)) (ci := 0) 2 K I hl.1 (c_write l hn e10 (xs (3 * t + 1)) (xs (3 * t + 2))) (lw_V q79 q80 q81 q19 q82) (by decide +kernel) rfl rfl ⟨by decide, by decide⟩ rfl rfl (Nat.le_of_ble_eq_true rfl) ⟨by decide, by decide⟩ dL_law_103 (fun H locs I => ?_)
          refine lv_aload_n K.1.1 K.1.2.1 dL_law_106 rfl (lv_at hl 1 rfl) ?_
          refine lv_aload_n K.1.1 K.1.2.1 dL_law_107 rfl (lv_at hl 3 rfl) ?_
          refine lv_iload_n K.1.1 K.1.2.1 dL_law_108 rfl (lv_at hl 0 rfl) ?_
          refine lv_iconst (v := 1) K.1.1 K.1.2.1 dL_law_109 (by decide) ?_
          refine lv_iadd K.1.1 K.1.2.1 dL_law_110 ?_
          refine il_top (y := nI (3 * t + 1)) (nI_add (3 * t) 1) ?_
          refine il_sld (i := (3 * t + 1)) K hX hbl hbA hL I (by omega) dL_law_111 ?_
          refine lv_aload_n K.1.1 K.1.2.1 dL_law_112 rfl (lv_at hl 3 rfl) ?_
          refine lv_iload_n K.1.1 K.1.2.1 dL_law_113 rfl (lv_at hl 0 rfl) ?_
          refine lv_iconst (v := 2) K.1.1 K.1.2.1 dL_law_114 (by decide) ?_
          refine lv_iadd K.1.1 K.1.2.1 dL_law_115 ?_
          refine il_top (y := nI (3 * t + 2)) (nI_add (3 * t) 2) ?_
          refine il_sld (i := (3 * t + 2)) K hX hbl hbA hL I (by omega) dL_law_116 ?_
          refine il_callI2 (qc := (RX1, TX1, 6)) (ci := 1) 2 K I.swap hl.1 (m_write l hM (xs (3 * t + 1)) (xs (3 * t + 2))) (lw_V q212 q213 q214 q20 q215) (by decide +kernel) rfl rfl ⟨by decide, by decide⟩ rfl rfl (Nat.le_of_ble_eq_true rfl) ⟨by decide, by decide⟩ dL_law_117 (fun H locs I => ?_)
          have I := I.swap
          refine lv_icmp_eq (tgt := 315) K.1.1 K.1.2.1 dL_law_120 (by decide) (fun h5 => ?_) (fun h5 => ?_)
          · exact nxt a bb n2 _ _ H locs ls (by omega) r2 I hl
          · skip
            exact absurd (r1) h5
        · refine lv_tableIn (off := 93) (tgt := 125) K.1.1 K.1.2.1 dL_law_32 (by decide) (by decide) (by decide) (by decide) ?_
          obtain ⟨a2_, r2⟩ := r_fs hrel hb5 (Nat.le_refl n)
          refine lv_aload_n K.1.1 K.1.2.1 dL_law_125 rfl (lv_at hl 2 rfl) ?_
          refine il_callI2 (qc := (RX0, TX0, 14)) (ci := 0) 0 K I hl.1 (c_flush l hok) (lw_V q86 q87 q88 q19 q89) (by decide +kernel) rfl rfl ⟨by decide, by decide⟩ rfl rfl (Nat.le_of_ble_eq_true rfl) ⟨by decide, by decide⟩ dL_law_126 (fun H locs I => ?_)
          refine lv_aload_n K.1.1 K.1.2.1 dL_law_129 rfl (lv_at hl 1 rfl) ?_
          refine il_callI2 (qc := (RX1, TX1, 6)) (ci := 1) 0 K I.swap hl.1 (m_flush l hM) (lw_V q220 q221 q222 q20 q223) (by decide +kernel) rfl rfl ⟨by decide, by decide⟩ rfl rfl (Nat.le_of_ble_eq_true rfl) ⟨by decide, by decide⟩ dL_law_130 (fun H locs I => ?_)
          have I := I.swap
          refine lv_icmp_eq (tgt := 315) K.1.1 K.1.2.1 dL_law_133 (by decide) (fun h5 => ?_) (fun h5 => ?_)
          · exact nxt a2_ _ _ _ _ H locs ls (by omega) r2 I hl
          · skip
            exact absurd (rfl) h5
        · refine lv_tableIn (off := 106) (tgt := 138) K.1.1 K.1.2.1 dL_law_32 (by decide) (by decide) (by decide) (by decide) ?_
          have hk := clN_le n (xs (3 * t + 1))
          obtain ⟨a2_, r2⟩ := r_fs hrel hb5 hk
          refine lv_aload_n K.1.1 K.1.2.1 dL_law_138 rfl (lv_at hl 2 rfl) ?_
          refine lv_aload_n K.1.1 K.1.2.1 dL_law_139 rfl (lv_at hl 3 rfl) ?_
          refine lv_iload_n K.1.1 K.1.2.1 dL_law_140 rfl (lv_at hl 0 rfl) ?_
          refine lv_iconst (v := 1) K.1.1 K.1.2.1 dL_law_141 (by decide) ?_
          refine lv_iadd K.1.1 K.1.2.1 dL_law_142 ?_
          refine il_top (y := nI (3 * t + 1)) (nI_add (3 * t) 1) ?_
          refine il_sld (i := (3 * t + 1)) K hX hbl hbA hL I (by omega) dL_law_143 ?_
          refine il_callI2 (qc := (RX0, TX0, 14)) (ci := 0) 1 K I hl.1 (c_flushSome l hok (xs (3 * t + 1))) (lw_V q114 q115 q116 q19 q117) (by decide +kernel) rfl rfl ⟨by decide, by decide⟩ rfl rfl (Nat.le_of_ble_eq_true rfl) ⟨by decide, by decide⟩ dL_law_144 (fun H locs I => ?_)
          refine lv_aload_n K.1.1 K.1.2.1 dL_law_147 rfl (lv_at hl 1 rfl) ?_
          refine lv_aload_n K.1.1 K.1.2.1 dL_law_148 rfl (lv_at hl 3 rfl) ?_
          refine lv_iload_n K.1.1 K.1.2.1 dL_law_149 rfl (lv_at hl 0 rfl) ?_
          refine lv_iconst (v := 1) K.1.1 K.1.2.1 dL_law_150 (by decide) ?_
          refine lv_iadd K.1.1 K.1.2.1 dL_law_151 ?_
          refine il_top (y := nI (3 * t + 1)) (nI_add (3 * t) 1) ?_
          refine il_sld (i := (3 * t + 1)) K hX hbl hbA hL I (by omega) dL_law_152 ?_
          refine il_callI2 (qc := (RX1, TX1, 6)) (ci := 1) 1 K I.swap hl.1 (m_flushSome l hM (xs (3 * t + 1))) (lw_V q232 q225 q226 q20 q227) (by decide +kernel) rfl rfl ⟨by decide, by decide⟩ rfl rfl (Nat.le_of_ble_eq_true rfl) ⟨by decide, by decide⟩ dL_law_153 (fun H locs I => ?_)
          have I := I.swap
          refine lv_icmp_eq (tgt := 315) K.1.1 K.1.2.1 dL_law_156 (by decide) (fun h5 => ?_) (fun h5 => ?_)
          · exact nxt a2_ _ _ _ _ H locs ls (by omega) r2 I hl
          · skip
            exact absurd (rfl) h5
        · refine lv_tableIn (off := 129) (tgt := 161) K.1.1 K.1.2.1 dL_law_32 (by decide) (by decide) (by decide) (by decide) ?_
          have hk := clN_le n (xs (3 * t + 1))
          have r2 := r_crash hrel hb5 hk
          refine lv_aload_n K.1.1 K.1.2.1 dL_law_161 rfl (lv_at hl 2 rfl) ?_
          refine lv_aload_n K.1.1 K.1.2.1 dL_law_162 rfl (lv_at hl 3 rfl) ?_
          refine lv_iload_n K.1.1 K.1.2.1 dL_law_163 rfl (lv_at hl 0 rfl) ?_
          refine lv_iconst (v := 1) K.1.1 K.1.2.1 dL_law_164 (by decide) ?_
          refine lv_iadd K.1.1 K.1.2.1 dL_law_165 ?_
          refine il_top (y := nI (3 * t + 1)) (nI_add (3 * t) 1) ?_
          refine il_sld (i := (3 * t + 1)) K hX hbl hbA hL I (by omega) dL_law_166 ?_
          refine il_callI2 (qc := (RX0, TX0, 14)) (ci := 0) 1 K I hl.1 (c_crash l hok (xs (3 * t + 1))) (lw_V q122 q123 q124 q19 q125) (by decide +kernel) rfl rfl ⟨by decide, by decide⟩ rfl rfl (Nat.le_of_ble_eq_true rfl) ⟨by decide, by decide⟩ dL_law_167 (fun H locs I => ?_)
          refine lv_aload_n K.1.1 K.1.2.1 dL_law_170 rfl (lv_at hl 1 rfl) ?_
          refine lv_aload_n K.1.1 K.1.2.1 dL_law_171 rfl (lv_at hl 3 rfl) ?_
          refine lv_iload_n K.1.1 K.1.2.1 dL_law_172 rfl (lv_at hl 0 rfl) ?_
          refine lv_iconst (v := 1) K.1.1 K.1.2.1 dL_law_173 (by decide) ?_
          refine lv_iadd K.1.1 K.1.2.1 dL_law_174 ?_
          refine il_top (y := nI (3 * t + 1)) (nI_add (3 * t) 1) ?_
          refine il_sld (i := (3 * t + 1)) K hX hbl hbA hL I (by omega) dL_law_175 ?_
          refine il_callI2 (qc := (RX1, TX1, 6)) (ci := 1) 1 K I.swap hl.1 (m_crash l hM (xs (3 * t + 1))) (lw_V q233 q234 q235 q20 q236) (by decide +kernel) rfl rfl ⟨by decide, by decide⟩ rfl rfl (Nat.le_of_ble_eq_true rfl) ⟨by decide, by decide⟩ dL_law_176 (fun H locs I => ?_)
          have I := I.swap
          refine lv_icmp_eq (tgt := 315) K.1.1 K.1.2.1 dL_law_179 (by decide) (fun h5 => ?_) (fun h5 => ?_)
          · exact nxt _ _ _ _ _ H locs ls (by omega) r2 I hl
          · skip
            exact absurd (rfl) h5
        · refine lv_tableIn (off := 152) (tgt := 184) K.1.1 K.1.2.1 dL_law_32 (by decide) (by decide) (by decide) (by decide) ?_
          obtain ⟨r1, a2_, r2⟩ := r_damage hrel (by omega) (xs (3 * t + 1)) (xs (3 * t + 2))
          refine lv_aload_n K.1.1 K.1.2.1 dL_law_184 rfl (lv_at hl 2 rfl) ?_
          refine lv_aload_n K.1.1 K.1.2.1 dL_law_185 rfl (lv_at hl 3 rfl) ?_
          refine lv_iload_n K.1.1 K.1.2.1 dL_law_186 rfl (lv_at hl 0 rfl) ?_
          refine lv_iconst (v := 1) K.1.1 K.1.2.1 dL_law_187 (by decide) ?_
          refine lv_iadd K.1.1 K.1.2.1 dL_law_188 ?_
          refine il_top (y := nI (3 * t + 1)) (nI_add (3 * t) 1) ?_
          refine il_sld (i := (3 * t + 1)) K hX hbl hbA hL I (by omega) dL_law_189 ?_
          refine lv_aload_n K.1.1 K.1.2.1 dL_law_190 rfl (lv_at hl 3 rfl) ?_
          refine lv_iload_n K.1.1 K.1.2.1 dL_law_191 rfl (lv_at hl 0 rfl) ?_
          refine lv_iconst (v := 2) K.1.1 K.1.2.1 dL_law_192 (by decide) ?_
          refine lv_iadd K.1.1 K.1.2.1 dL_law_193 ?_
          refine il_top (y := nI (3 * t + 2)) (nI_add (3 * t) 2) ?_
          refine il_sld (i := (3 * t + 2)) K hX hbl hbA hL I (by omega) dL_law_194 ?_
          refine il_callI2 (qc := (RX0, TX0, 14)) (ci := 0) 2 K I hl.1 (c_damage l hok (xs (3 * t + 1)) (xs (3 * t + 2))) (lw_V q138 q139 q140 q19 q141) (by decide +kernel) rfl rfl ⟨by decide, by decide⟩ rfl rfl (Nat.le_of_ble_eq_true rfl) ⟨by decide, by decide⟩ dL_law_195 (fun H locs I => ?_)
          refine lv_aload_n K.1.1 K.1.2.1 dL_law_198 rfl (lv_at hl 1 rfl) ?_
          refine lv_aload_n K.1.1 K.1.2.1 dL_law_199 rfl (lv_at hl 3 rfl) ?_
          refine lv_iload_n K.1.1 K.1.2.1 dL_law_200 rfl (lv_at hl 0 rfl) ?_
          refine lv_iconst (v := 1) K.1.1 K.1.2.1 dL_law_201 (by decide) ?_
          refine lv_iadd K.1.1 K.1.2.1 dL_law_202 ?_
          refine il_top (y := nI (3 * t + 1)) (nI_add (3 * t) 1) ?_
          refine il_sld (i := (3 * t + 1)) K hX hbl hbA hL I (by omega) dL_law_203 ?_
          refine lv_aload_n K.1.1 K.1.2.1 dL_law_204 rfl (lv_at hl 3 rfl) ?_
          refine lv_iload_n K.1.1 K.1.2.1 dL_law_205 rfl (lv_at hl 0 rfl) ?_
          refine lv_iconst (v := 2) K.1.1 K.1.2.1 dL_law_206 (by decide) ?_
          refine lv_iadd K.1.1 K.1.2.1 dL_law_207 ?_
          refine il_top (y := nI (3 * t + 2)) (nI_add (3 * t) 2) ?_
          refine il_sld (i := (3 * t + 2)) K hX hbl hbA hL I (by omega) dL_law_208 ?_
          refine il_callI2 (qc := (RX1, TX1, 6)) (ci := 1) 2 K I.swap hl.1 (m_damage l (xs (3 * t + 1)) (xs (3 * t + 2))) (lw_V q237 q238 q239 q20 q240) (by decide +kernel) rfl rfl ⟨by decide, by decide⟩ rfl rfl (Nat.le_of_ble_eq_true rfl) ⟨by decide, by decide⟩ dL_law_209 (fun H locs I => ?_)
          have I := I.swap
          refine lv_icmp_eq (tgt := 315) K.1.1 K.1.2.1 dL_law_212 (by decide) (fun h5 => ?_) (fun h5 => ?_)
          · exact nxt a2_ bb n _ _ H locs ls (by omega) r2 I hl
          · skip
            exact absurd (r1) h5
        · refine lv_tableIn (off := 185) (tgt := 217) K.1.1 K.1.2.1 dL_law_32 (by decide) (by decide) (by decide) (by decide) ?_
          have r1 := r_scrub hrel (by omega) 12 (by decide)
          have r2 := r_ch hrel (by omega)
          refine lv_aload_n K.1.1 K.1.2.1 dL_law_217 rfl (lv_at hl 2 rfl) ?_
          refine il_callI2 (qc := (RX0, TX0, 14)) (ci := 0) 0 K I hl.1 (c_scrub l hok) (lw_V q146 q147 q148 q19 q149) (by decide +kernel) rfl rfl ⟨by decide, by decide⟩ rfl rfl (Nat.le_of_ble_eq_true rfl) ⟨by decide, by decide⟩ dL_law_218 (fun H locs I => ?_)
          refine lv_aload_n K.1.1 K.1.2.1 dL_law_221 rfl (lv_at hl 1 rfl) ?_
          refine il_callI2 (qc := (RX1, TX1, 6)) (ci := 1) 0 K I.swap hl.1 (m_scrub l) (lw_V q241 q242 q243 q20 q244) (by decide +kernel) rfl rfl ⟨by decide, by decide⟩ rfl rfl (Nat.le_of_ble_eq_true rfl) ⟨by decide, by decide⟩ dL_law_222 (fun H locs I => ?_)
          have I := I.swap
          refine lv_icmp_eq (tgt := 315) K.1.1 K.1.2.1 dL_law_225 (by decide) (fun h5 => ?_) (fun h5 => ?_)
          · exact nxt _ bb n _ _ H locs ls (by omega) r2 I hl
          · skip
            exact absurd (by rw [r1]) h5
        · refine lv_tableIn (off := 198) (tgt := 230) K.1.1 K.1.2.1 dL_law_32 (by decide) (by decide) (by decide) (by decide) ?_
          have r1 := r_read hrel (by omega) (xs (3 * t + 1))
          refine lv_aload_n K.1.1 K.1.2.1 dL_law_230 rfl (lv_at hl 2 rfl) ?_
          refine lv_aload_n K.1.1 K.1.2.1 dL_law_231 rfl (lv_at hl 3 rfl) ?_
          refine lv_iload_n K.1.1 K.1.2.1 dL_law_232 rfl (lv_at hl 0 rfl) ?_
          refine lv_iconst (v := 1) K.1.1 K.1.2.1 dL_law_233 (by decide) ?_
          refine lv_iadd K.1.1 K.1.2.1 dL_law_234 ?_
          refine il_top (y := nI (3 * t + 1)) (nI_add (3 * t) 1) ?_
          refine il_sld (i := (3 * t + 1)) K hX hbl hbA hL I (by omega) dL_law_235 ?_
          refine il_callI2 (qc := (RX0, TX0, 14)) (ci := 0) 1 K I hl.1 (c_read l hok (xs (3 * t + 1))) (lw_V q150 q151 q152 q19 q153) (by decide +kernel) rfl rfl ⟨by decide, by decide⟩ rfl rfl (Nat.le_of_ble_eq_true rfl) ⟨by decide, by decide⟩ dL_law_236 (fun H locs I => ?_)
          refine lv_aload_n K.1.1 K.1.2.1 dL_law_239 rfl (lv_at hl 1 rfl) ?_
          refine lv_aload_n K.1.1 K.1.2.1 dL_law_240 rfl (lv_at hl 3 rfl) ?_
          refine lv_iload_n K.1.1 K.1.2.1 dL_law_241 rfl (lv_at hl 0 rfl) ?_
          refine lv_iconst (v := 1) K.1.1 K.1.2.1 dL_law_242 (by decide) ?_
          refine lv_iadd K.1.1 K.1.2.1 dL_law_243 ?_
          refine il_top (y := nI (3 * t + 1)) (nI_add (3 * t) 1) ?_
          refine il_sld (i := (3 * t + 1)) K hX hbl hbA hL I (by omega) dL_law_244 ?_
          refine il_callI2 (qc := (RX1, TX1, 6)) (ci := 1) 1 K I.swap hl.1 (m_read l hM (xs (3 * t + 1))) (lw_V q245 q246 q247 q20 q248) (by decide +kernel) rfl rfl ⟨by decide, by decide⟩ rfl rfl (Nat.le_of_ble_eq_true rfl) ⟨by decide, by decide⟩ dL_law_245 (fun H locs I => ?_)
          have I := I.swap
          refine lv_icmp_eq (tgt := 315) K.1.1 K.1.2.1 dL_law_248 (by decide) (fun h5 => ?_) (fun h5 => ?_)
          · exact nxt a bb n _ _ H locs ls (by omega) hrel I hl
          · skip
            exact absurd (r1) h5
        · refine lv_tableIn (off := 221) (tgt := 253) K.1.1 K.1.2.1 dL_law_32 (by decide) (by decide) (by decide) (by decide) ?_
          have r1 := r_readable hrel (by omega) (xs (3 * t + 1))
          refine lv_aload_n K.1.1 K.1.2.1 dL_law_253 rfl (lv_at hl 2 rfl) ?_
          refine lv_aload_n K.1.1 K.1.2.1 dL_law_254 rfl (lv_at hl 3 rfl) ?_
          refine lv_iload_n K.1.1 K.1.2.1 dL_law_255 rfl (lv_at hl 0 rfl) ?_
          refine lv_iconst (v := 1) K.1.1 K.1.2.1 dL_law_256 (by decide) ?_
          refine lv_iadd K.1.1 K.1.2.1 dL_law_257 ?_
          refine il_top (y := nI (3 * t + 1)) (nI_add (3 * t) 1) ?_
          refine il_sld (i := (3 * t + 1)) K hX hbl hbA hL I (by omega) dL_law_258 ?_
          refine il_callI2 (qc := (RX0, TX0, 14)) (ci := 0) 1 K I hl.1 (c_readable l hok (xs (3 * t + 1))) (lw_V q170 q171 q172 q19 q173) (by decide +kernel) rfl rfl ⟨by decide, by decide⟩ rfl rfl (Nat.le_of_ble_eq_true rfl) ⟨by decide, by decide⟩ dL_law_259 (fun H locs I => ?_)
          refine lv_aload_n K.1.1 K.1.2.1 dL_law_262 rfl (lv_at hl 1 rfl) ?_
          refine lv_aload_n K.1.1 K.1.2.1 dL_law_263 rfl (lv_at hl 3 rfl) ?_
          refine lv_iload_n K.1.1 K.1.2.1 dL_law_264 rfl (lv_at hl 0 rfl) ?_
          refine lv_iconst (v := 1) K.1.1 K.1.2.1 dL_law_265 (by decide) ?_
          refine lv_iadd K.1.1 K.1.2.1 dL_law_266 ?_
          refine il_top (y := nI (3 * t + 1)) (nI_add (3 * t) 1) ?_
          refine il_sld (i := (3 * t + 1)) K hX hbl hbA hL I (by omega) dL_law_267 ?_
          refine il_callI2 (qc := (RX1, TX1, 6)) (ci := 1) 1 K I.swap hl.1 (m_readable l hM (xs (3 * t + 1))) (lw_V q257 q250 q251 q20 q252) (by decide +kernel) rfl rfl ⟨by decide, by decide⟩ rfl rfl (Nat.le_of_ble_eq_true rfl) ⟨by decide, by decide⟩ dL_law_268 (fun H locs I => ?_)
          have I := I.swap
          refine lv_icmp_eq (tgt := 315) K.1.1 K.1.2.1 dL_law_271 (by decide) (fun h5 => ?_) (fun h5 => ?_)
          · exact nxt a bb n _ _ H locs ls (by omega) hrel I hl
          · skip
            exact absurd (by rw [r1]) h5
        · refine lv_tableIn (off := 244) (tgt := 276) K.1.1 K.1.2.1 dL_law_32 (by decide) (by decide) (by decide) (by decide) ?_
          refine lv_aload_n K.1.1 K.1.2.1 dL_law_276 rfl (lv_at hl 2 rfl) ?_
          refine il_callI2 (qc := (RX0, TX0, 14)) (ci := 0) 0 K I hl.1 (c_pending l) (lw_V q174 q175 q176 q19 q177) (by decide +kernel) rfl rfl ⟨by decide, by decide⟩ rfl rfl (Nat.le_of_ble_eq_true rfl) ⟨by decide, by decide⟩ dL_law_277 (fun H locs I => ?_)
          refine lv_aload_n K.1.1 K.1.2.1 dL_law_280 rfl (lv_at hl 1 rfl) ?_
          refine il_callI2 (qc := (RX1, TX1, 6)) (ci := 1) 0 K I.swap hl.1 (m_pending l) (lw_V q258 q259 q260 q20 q261) (by decide +kernel) rfl rfl ⟨by decide, by decide⟩ rfl rfl (Nat.le_of_ble_eq_true rfl) ⟨by decide, by decide⟩ dL_law_281 (fun H locs I => ?_)
          have I := I.swap
          refine lv_icmp_eq (tgt := 315) K.1.1 K.1.2.1 dL_law_284 (by decide) (fun h5 => ?_) (fun h5 => ?_)
          · exact nxt a bb n _ _ H locs ls (by omega) hrel I hl
          · skip
            exact absurd (by rw [e10, hM.1]) h5
        · refine lv_tableIn (off := 257) (tgt := 289) K.1.1 K.1.2.1 dL_law_32 (by decide) (by decide) (by decide) (by decide) ?_
          have r1 := r_atRisk hrel (by omega) 12 (by decide)
          refine lv_aload_n K.1.1 K.1.2.1 dL_law_289 rfl (lv_at hl 2 rfl) ?_
          refine il_callI2 (qc := (RX0, TX0, 14)) (ci := 0) 0 K I hl.1 (c_atRisk l hok) (lw_V q178 q179 q180 q19 q181) (by decide +kernel) rfl rfl ⟨by decide, by decide⟩ rfl rfl (Nat.le_of_ble_eq_true rfl) ⟨by decide, by decide⟩ dL_law_290 (fun H locs I => ?_)
          refine lv_aload_n K.1.1 K.1.2.1 dL_law_293 rfl (lv_at hl 1 rfl) ?_
          refine il_callI2 (qc := (RX1, TX1, 6)) (ci := 1) 0 K I.swap hl.1 (m_atRisk l hM) (lw_V q262 q263 q264 q20 q265) (by decide +kernel) rfl rfl ⟨by decide, by decide⟩ rfl rfl (Nat.le_of_ble_eq_true rfl) ⟨by decide, by decide⟩ dL_law_294 (fun H locs I => ?_)
          have I := I.swap
          refine lv_icmp_eq (tgt := 315) K.1.1 K.1.2.1 dL_law_297 (by decide) (fun h5 => ?_) (fun h5 => ?_)
          · exact nxt a bb n _ _ H locs ls (by omega) hrel I hl
          · skip
            exact absurd (by rw [r1]) h5
        · refine lv_tableIn (off := 270) (tgt := 302) K.1.1 K.1.2.1 dL_law_32 (by decide) (by decide) (by decide) (by decide) ?_
          have r1 : S 13 0 = M 5 0 := hrel.2.2.2.2.2.2.1
          refine lv_aload_n K.1.1 K.1.2.1 dL_law_302 rfl (lv_at hl 2 rfl) ?_
          refine il_callI2 (qc := (RX0, TX0, 14)) (ci := 0) 0 K I hl.1 (c_durable l) (lw_V q182 q183 q184 q19 q185) (by decide +kernel) rfl rfl ⟨by decide, by decide⟩ rfl rfl (Nat.le_of_ble_eq_true rfl) ⟨by decide, by decide⟩ dL_law_303 (fun H locs I => ?_)
          refine lv_aload_n K.1.1 K.1.2.1 dL_law_306 rfl (lv_at hl 1 rfl) ?_
          refine il_callI2 (qc := (RX1, TX1, 6)) (ci := 1) 0 K I.swap hl.1 (m_durable l) (lw_V q267 q268 q269 q20 q270) (by decide +kernel) rfl rfl ⟨by decide, by decide⟩ rfl rfl (Nat.le_of_ble_eq_true rfl) ⟨by decide, by decide⟩ dL_law_307 (fun H locs I => ?_)
          have I := I.swap
          refine lv_icmp_eq (tgt := 315) K.1.1 K.1.2.1 dL_law_310 (by decide) (fun h5 => ?_) (fun h5 => ?_)
          · exact nxt a bb n _ _ H locs ls (by omega) hrel I hl
          · skip
            exact absurd (r1) h5
        · refine lv_tableOut (tgt := 315) K.1.1 K.1.2.1 dL_law_32 (by decide) (by decide) ?_
          exact nxt a bb n _ _ H locs ls (by omega) hrel I hl
        · refine lv_tableOut (tgt := 315) K.1.1 K.1.2.1 dL_law_32 (by decide) (by decide) ?_
          exact nxt a bb n _ _ H locs ls (by omega) hrel I hl
        · refine lv_tableOut (tgt := 315) K.1.1 K.1.2.1 dL_law_32 (by decide) (by decide) ?_
          exact nxt a bb n _ _ H locs ls (by omega) hrel I hl
        · refine lv_tableOut (tgt := 315) K.1.1 K.1.2.1 dL_law_32 (by decide) (by decide) ?_
          exact nxt a bb n _ _ H locs ls (by omega) hrel I hl
        · refine lv_tableOut (tgt := 315) K.1.1 K.1.2.1 dL_law_32 (by decide) (by decide) ?_
          exact nxt a bb n _ _ H locs ls (by omega) hrel I hl
  have hl := lv_entry ([.ref b]) (n := 4) (Nat.le_of_ble_eq_true rfl)
  rw [lg_entry_eq]
  generalize (lg_sl ([.ref b]) ++ List.replicate (4 - (lg_sl ([.ref b])).length) Slot.unset).toArray = ls at hl ⊢
  have hl : lv_has ls 4 [(0, .ref b)] := hl
  have hP : va_P (dC, dI) vwCl [] s.heap := fun k q h => by simp at h
  have hD : va_D A [] := ⟨fun i j p q h => by simp at h, fun k q h => by simp at h⟩
  have hS : va_S A s.heap s.heap [] := va_S.rf
  refine va_new (ci := 0) (fs := fX0) (C := RX0) (T := TX0) (N := 14) hx hb hts in_X0 tyX0 tyX0_ok hown (hts _ q21) (hts _ q22) (hts _ q19) hK hP hD hS hA rfl (fun j hj => by rcases (show j = 0 ∨ j = 1 ∨ j = 2 ∨ j = 3 ∨ j = 4 ∨ j = 5 ∨ j = 6 ∨ j = 7 ∨ j = 8 ∨ j = 9 ∨ j = 10 ∨ j = 11 ∨ j = 12 ∨ j = 13 by omega) with rfl | rfl | rfl | rfl | rfl | rfl | rfl | rfl | rfl | rfl | rfl | rfl | rfl | rfl <;> rfl) (by decide) (by decide) dL_law_0 (fun h1 H hP hD hS => ?_)
  have I : Iw (dC, dI) A s ((fun h0 => [(h0, .inr (0, fX0))]) h1 ++ []) H [] := ⟨hP, hD, hS⟩
  refine lv_dup K.1.1 K.1.2.1 dL_law_3 rfl ?_
  refine il_callC2 K I hl.1 (c_init l) q25 q19 q23 q24 rfl (by decide +kernel) ⟨by decide, by decide⟩ (Nat.le_of_ble_eq_true rfl) ⟨by decide, by decide⟩ dL_law_4 (fun a1 H locs I => ?_)
  refine lv_astore_n (lv' := [(1, .ref h1), (0, .ref b)]) K.1.1 K.1.2.1 dL_law_7 rfl hl (by decide) rfl (fun ls hl => ?_)
  obtain ⟨hP, hD, hS⟩ := I
  refine va_new (ci := 1) (fs := fM0) (C := RX1) (T := TX1) (N := 6) hx hb hts in_X1 tyX1 tyX1_ok hown (hts _ q186) (hts _ q187) (hts _ q20) hK hP hD hS hA rfl (fun j hj => by rcases (show j = 0 ∨ j = 1 ∨ j = 2 ∨ j = 3 ∨ j = 4 ∨ j = 5 by omega) with rfl | rfl | rfl | rfl | rfl | rfl <;> rfl) (by decide) (by decide) dL_law_8 (fun h2 H hP hD hS => ?_)
  have I : Iw (dC, dI) A s ((wX d z h1 a1 (inB 8) ++ []) ++ (fun h0 => [(h0, .inr (1, fM0))]) h2) H locs := ⟨hP, hD, hS⟩
  refine lv_dup K.1.1 K.1.2.1 dL_law_11 rfl ?_
  refine il_callC2 K I.swap hl.1 (m_init l) q190 q20 q188 q189 rfl (by decide +kernel) ⟨by decide, by decide⟩ (Nat.le_of_ble_eq_true rfl) ⟨by decide, by decide⟩ dL_law_12 (fun a2 H locs I => ?_)
  have I : Iw (dC, dI) A s (wX d z h1 a1 (inB 8) ++ wM d z h2 a2 (fun _ _ => 0)) H locs := by
    have I2 := I.swap
    rw [List.append_nil] at I2
    exact I2
  refine lv_astore_n (lv' := [(2, .ref h2), (1, .ref h1), (0, .ref b)]) K.1.1 K.1.2.1 dL_law_15 rfl hl (by decide) rfl (fun ls hl => ?_)
  refine lv_iconst (v := 0) K.1.1 K.1.2.1 dL_law_16 (by decide) ?_
  refine il_top (y := nI (3 * 0)) (rfl) ?_
  refine lv_istore_n (lv' := [(3, .int (nI (3 * 0))), (2, .ref h2), (1, .ref h1), (0, .ref b)]) K.1.1 K.1.2.1 dL_law_17 rfl hl (by decide) rfl (fun ls hl => ?_)
  refine W.widen (k := 16) (n := 268) (by decide) (by decide) ?_
  exact lp (L + 1) 0 0 0 0 _ _ h1 h2 a1 a2 H locs ls (by decide) (by omega) (by decide) r_start I hl
end
section
set_option maxRecDepth 100000
set_option maxHeartbeats 4000000 in
theorem lw_walk (l : Launch) (b : Addr) (xs : List Int32) : MetFree l x (headSpec (Jvm.Cond.code x code maxLocals ret :: tables_1) room_1) (lw_P b xs) (fun _ _ _ _ _ => True) lw_Q := by
  refine MetFree.of_bodyS (code := code) (maxLocals := maxLocals) (ret := ret) (by decide) ?_ ?_
  · intro args s m h hn
    obtain ⟨meth, c, h1, h2, h3, h4, h5, h6, -, -⟩ := Cond.code_spec hn (atoms_spec (ws := Jvm.Cond.code x code maxLocals ret :: tables_1) h _ List.mem_cons_self)
    exact ⟨meth, c, h1, h2, h3, h4, h5, h6⟩
  · intro p e s m args below meth c s₁ B hml0 hP _
    obtain ⟨rfl, hx, hbd, hgv⟩ := hP
    obtain ⟨scr, harrAt, hlist, hof, hsmall⟩ := hx
    obtain ⟨hcb, hkn, -, -⟩ := State.arrayAt?_spec harrAt
    have hown : s.vm.findClass R_law = some m.cls := findClass_of_methodNamed B.named
    have hts0 : ∀ c ∈ (Jvm.Cond.code x code maxLocals ret :: tables_1), c.before #[Value.ref b] s = true := atoms_spec (ws := Jvm.Cond.code x code maxLocals ret :: tables_1) B.pre
    have hts : ∀ w ∈ lw_tbl, w.before #[Value.ref b] s = true := k2_hts_sels lw_privs (fun w hw => hts0 w (List.mem_cons_of_mem _ hw)) lw_privs_ok
    have hml : c.maxLocals = 4 := B.maxLocals_eq (hts0 _ List.mem_cons_self)
    have X₀ : Stand p l e room_1 s m #[Value.ref b] below meth c s₁ [] 0 0 := Stand.of_body B
    have hh0 : s₁.heap = s.heap := by rw [B.state]; rfl
    have hsz : scr.slots.size = xs.length := by rw [← Array.length_toList, hlist, List.length_map]
    have hval : ∀ j : Nat, j < xs.length → scr.slots[j]? = some (.int (xs.getD j 0)) := fun j hj => by
      rw [← Array.getElem?_toList, hlist]
      simp [hj]
    have hbl : b < s.heap.size := (Array.getElem?_eq_some_iff.mp hcb).1
    have hX : va_X b xs.length (fun j => xs.getD j 0) s s.heap := ⟨scr, hcb, hof, hkn, hsz, hval⟩
    have K : W p l e room_1 s m #[Value.ref b] below meth c s₁.heap [] 0 0 (lw_Z below #[Value.ref b] s) (entryFrame m ([Value.ref b] : List Value).toArray 4) := by
      rw [hh0]
      exact whole_start l hbd ⟨B.exec, B.bytes, B.returns, hml, hown, hts, hX, hbl, B.notSynchronized, hgv⟩
    obtain ⟨t, a1, o, b1, b2, b3⟩ := K s₁ rfl X₀
    exact ⟨t, o, a1, b1, b2, b3⟩
theorem lw_pre_spec {args : Array Value} {s : State} (h : (Jvm.Cond.and given_1 narrow_1).before args s = true) (hr : rest_1_c.before args s = true) : ∃ (b : Addr) (xs : List Int32), lw_P b xs args s := by
  have hs := flat_of_before _ h
  have hq := flat_of_before _ hr
  have hc : (Cond.count 1).before args s = true := hs _ (by decide +kernel)
  have harr : (Cond.arrayOf (.arg 0) .int).before args s = true := hs _ (by decide +kernel)
  have hle : (Cond.le (.length (.arg 0)) (.int 192)).before args s = true := hs _ (by decide +kernel)
  have hlen : (Cond.isInt (.length (.arg 0))).before args s = true := hq _ (by decide +kernel)
  have hall : (Cond.all (.arg 0) (.isInt (.elem (.arg 0) (.index 0)))).before args s = true := hq _ (by decide +kernel)
  obtain ⟨b, xs, hb, hx⟩ := State.ints_of_pre rfl harr hlen hall
  have hsm : xs.length < 2 ^ 31 := hx.choose_spec.2.2.2
  have hev : (Term.length (.arg 0)).eval args s none [] s = some (.int xs.length.toInt32) := hx.length_eval hb
  have hv := Cond.le_ints hev (show (Term.int 192).eval args s none [] s = some (.int 192) from rfl)
  have hd : xs.length.toInt32 ≤ 192 := by
    simpa [Cond.before, Cond.holds, hv] using hle
  have hN : xs.length ≤ 192 := (Int32.ofNat_le_ofNat hsm (by decide)).mp (show Int32.ofNat xs.length ≤ Int32.ofNat 192 from hd)
  exact ⟨b, xs, Cond.one_arg hc (show args[0]? = some (.ref b) from hb), hx, hN, h⟩
theorem lw_comes (l : Launch) : Comes l x (Jvm.Cond.code x code maxLocals ret :: tables_1) room_1 (fun tb e args s => Calls_1 tb e args s ∧ rest_1 tb e args s ∧ Pre_1 tb e args s)
    (fun _ _ args s o t => lw_Q args s o t) := by
  intro p e ha hc hk s m args below hf hfit hheap happ hpre
  obtain ⟨b, xs, hP⟩ := lw_pre_spec hpre.2.2 hpre.2.1
  obtain ⟨k, o, h1, h2, h3, hQ⟩ := lw_walk l b xs p e ha hc hk s m args below hf ((Spec.applies_iff_loose hf).mp happ).1 hP trivial
  exact ⟨k, o, h1, h2, h3, hQ⟩
theorem lw_frame {s t : State} {o : Outcome} {args : Array Value} (h : Framed s o t [] 600000 7290000) :
    Framed s o t (fieldLocs frame_1_writes args s ++ arrayLocs frame_1_arrays args s ++ staticLocs frame_1_statics s) 600000 7290000 := h
theorem lw_limb (L : Cond) (hL : ∀ (args : Array Value) (s t : State), L.after args s (.returned (some (.int 1))) t = true) :
    ArmFor flags0 classFile x code maxLocals ret World_1 tables_1 room_1 Calls_1 rest_1 Pre_1
      (fun tb e a s o t => postC L tb e a s o t ∧ Framed s o t (fieldLocs frame_1_writes a s ++ arrayLocs frame_1_arrays a s ++ staticLocs frame_1_statics s) 600000 7290000) := by
  intro l _ _ _ p e ha hc hk s m args below hf hfit hheap happ hpre
  obtain ⟨k, o, h1, h2, h3, rfl, hF⟩ := lw_comes l p e ha hc hk s m args below hf hfit hheap happ hpre
  exact ⟨k, _, h1, h2, h3, hL args s _, lw_frame hF⟩
theorem i_vc : Claimed_1_1 ∧ Claimed_1_2 := ⟨lw_limb limb_1_1 (fun args s t => by simp [limb_1_1, Cond.after, Cond.holds, Cond.value]), lw_limb limb_1_2 (fun args s t => Cond.after_iff.mpr (by
  first | (rw [show limb_1_2 = Cond.eq .result (.int 1) from rfl, Cond.eq_ints (x := 1) (y := 1) rfl rfl]; simp; done) | (simp [limb_1_2, Cond.value, Term.eval]; done)))⟩
end
