section
-- ===== PART A: goes FIRST, ahead of the names: the tables' words, and 'selects' of the private methods out of them =====
/-- a private method of a class that the tables say can be made, by its rows of tables_1 -/
def lw_okq (q : MethodName × Nat) : Prop := (q.1.cls ≠ "java/lang/invoke/MethodHandle" ∧ q.1.cls ≠ "java/lang/invoke/VarHandle") ∧ Cond.instantiable q.1.cls q.2 ∈ tables_1 ∧ Cond.privateMethod q.1 ∈ tables_1 ∧ Cond.instanceMethod q.1 ∈ tables_1
set_option maxRecDepth 100000
theorem lw_t1 {w : Cond} (h : w ∈ tables_1_1) : w ∈ tables_1 := List.mem_append_left _ h
theorem lw_t2 {w : Cond} (h : w ∈ tables_1_2) : w ∈ tables_1 := List.mem_append_right _ h
theorem lw_p0 : lw_okq (⟨"FlashVolumes", "attach", "()V"⟩, 19) := ⟨⟨by decide +kernel, by decide +kernel⟩, lw_t1 (List.mem_of_getElem? (i := 4) rfl), lw_t1 (List.mem_of_getElem? (i := 12) rfl), lw_t1 (List.mem_of_getElem? (i := 13) rfl)⟩
theorem lw_p1 : lw_okq (⟨"FlashVolumes", "sound", "(I)Z"⟩, 19) := ⟨⟨by decide +kernel, by decide +kernel⟩, lw_t1 (List.mem_of_getElem? (i := 4) rfl), lw_t1 (List.mem_of_getElem? (i := 16) rfl), lw_t1 (List.mem_of_getElem? (i := 17) rfl)⟩
theorem lw_p2 : lw_okq (⟨"FlashVolumes", "badBlock", "(I)Z"⟩, 19) := ⟨⟨by decide +kernel, by decide +kernel⟩, lw_t1 (List.mem_of_getElem? (i := 4) rfl), lw_t1 (List.mem_of_getElem? (i := 92) rfl), lw_t1 (List.mem_of_getElem? (i := 93) rfl)⟩
theorem lw_p3 : lw_okq (⟨"FlashVolumes", "sizeOf", "(I)I"⟩, 19) := ⟨⟨by decide +kernel, by decide +kernel⟩, lw_t1 (List.mem_of_getElem? (i := 4) rfl), lw_t1 (List.mem_of_getElem? (i := 96) rfl), lw_t1 (List.mem_of_getElem? (i := 97) rfl)⟩
theorem lw_p4 : lw_okq (⟨"FlashVolumes", "provide", "()V"⟩, 19) := ⟨⟨by decide +kernel, by decide +kernel⟩, lw_t1 (List.mem_of_getElem? (i := 4) rfl), lw_t1 (List.mem_of_getElem? (i := 100) rfl), lw_t1 (List.mem_of_getElem? (i := 101) rfl)⟩
theorem lw_p5 : lw_okq (⟨"FlashVolumes", "cleanBlocks", "()I"⟩, 19) := ⟨⟨by decide +kernel, by decide +kernel⟩, lw_t1 (List.mem_of_getElem? (i := 4) rfl), lw_t1 (List.mem_of_getElem? (i := 104) rfl), lw_t1 (List.mem_of_getElem? (i := 105) rfl)⟩
theorem lw_p6 : lw_okq (⟨"FlashVolumes", "reclaim", "()Z"⟩, 19) := ⟨⟨by decide +kernel, by decide +kernel⟩, lw_t1 (List.mem_of_getElem? (i := 4) rfl), lw_t1 (List.mem_of_getElem? (i := 108) rfl), lw_t1 (List.mem_of_getElem? (i := 109) rfl)⟩
theorem lw_p7 : lw_okq (⟨"FlashVolumes", "inUse", "(I)Z"⟩, 19) := ⟨⟨by decide +kernel, by decide +kernel⟩, lw_t1 (List.mem_of_getElem? (i := 4) rfl), lw_t1 (List.mem_of_getElem? (i := 112) rfl), lw_t1 (List.mem_of_getElem? (i := 113) rfl)⟩
theorem lw_p8 : lw_okq (⟨"FlashVolumes", "erase", "(I)V"⟩, 19) := ⟨⟨by decide +kernel, by decide +kernel⟩, lw_t1 (List.mem_of_getElem? (i := 4) rfl), lw_t1 (List.mem_of_getElem? (i := 116) rfl), lw_t1 (List.mem_of_getElem? (i := 117) rfl)⟩
theorem lw_p9 : lw_okq (⟨"FlashVolumes", "pick", "(Z)I"⟩, 19) := ⟨⟨by decide +kernel, by decide +kernel⟩, lw_t1 (List.mem_of_getElem? (i := 4) rfl), lw_t1 (List.mem_of_getElem? (i := 120) rfl), lw_t1 (List.mem_of_getElem? (i := 121) rfl)⟩
theorem lw_p10 : lw_okq (⟨"FlashVolumes", "step", "()Z"⟩, 19) := ⟨⟨by decide +kernel, by decide +kernel⟩, lw_t1 (List.mem_of_getElem? (i := 4) rfl), lw_t1 (List.mem_of_getElem? (i := 124) rfl), lw_t1 (List.mem_of_getElem? (i := 125) rfl)⟩
theorem lw_p11 : lw_okq (⟨"FlashVolumes", "writeHeader", "(IIZ)V"⟩, 19) := ⟨⟨by decide +kernel, by decide +kernel⟩, lw_t1 (List.mem_of_getElem? (i := 4) rfl), lw_t1 (List.mem_of_getElem? (i := 128) rfl), lw_t1 (List.mem_of_getElem? (i := 129) rfl)⟩
theorem lw_p12 : lw_okq (⟨"FlashVolumes", "writeWord", "(II)V"⟩, 19) := ⟨⟨by decide +kernel, by decide +kernel⟩, lw_t1 (List.mem_of_getElem? (i := 4) rfl), lw_t1 (List.mem_of_getElem? (i := 132) rfl), lw_t1 (List.mem_of_getElem? (i := 133) rfl)⟩
theorem lw_p13 : lw_okq (⟨"FlashVolumes", "writeCopy", "(II)I"⟩, 19) := ⟨⟨by decide +kernel, by decide +kernel⟩, lw_t1 (List.mem_of_getElem? (i := 4) rfl), lw_t1 (List.mem_of_getElem? (i := 140) rfl), lw_t1 (List.mem_of_getElem? (i := 141) rfl)⟩
theorem lw_p14 : lw_okq (⟨"FlashVolumes", "adopt", "(II)V"⟩, 19) := ⟨⟨by decide +kernel, by decide +kernel⟩, lw_t1 (List.mem_of_getElem? (i := 4) rfl), lw_t1 (List.mem_of_getElem? (i := 144) rfl), lw_t1 (List.mem_of_getElem? (i := 145) rfl)⟩
theorem lw_p15 : lw_okq (⟨"FlashVolumes", "hold", "(I)I"⟩, 19) := ⟨⟨by decide +kernel, by decide +kernel⟩, lw_t1 (List.mem_of_getElem? (i := 4) rfl), lw_t1 (List.mem_of_getElem? (i := 156) rfl), lw_t1 (List.mem_of_getElem? (i := 157) rfl)⟩
def lw_privs_1 : List (MethodName × Nat) := [(⟨"FlashVolumes", "attach", "()V"⟩, 19), (⟨"FlashVolumes", "sound", "(I)Z"⟩, 19), (⟨"FlashVolumes", "badBlock", "(I)Z"⟩, 19), (⟨"FlashVolumes", "sizeOf", "(I)I"⟩, 19), (⟨"FlashVolumes", "provide", "()V"⟩, 19), (⟨"FlashVolumes", "cleanBlocks", "()I"⟩, 19), (⟨"FlashVolumes", "reclaim", "()Z"⟩, 19), (⟨"FlashVolumes", "inUse", "(I)Z"⟩, 19), (⟨"FlashVolumes", "erase", "(I)V"⟩, 19), (⟨"FlashVolumes", "pick", "(Z)I"⟩, 19), (⟨"FlashVolumes", "step", "()Z"⟩, 19), (⟨"FlashVolumes", "writeHeader", "(IIZ)V"⟩, 19), (⟨"FlashVolumes", "writeWord", "(II)V"⟩, 19), (⟨"FlashVolumes", "writeCopy", "(II)I"⟩, 19), (⟨"FlashVolumes", "adopt", "(II)V"⟩, 19), (⟨"FlashVolumes", "hold", "(I)I"⟩, 19)]
theorem lw_r1 : ∀ q ∈ lw_privs_1, lw_okq q := List.forall_mem_cons.mpr ⟨lw_p0, List.forall_mem_cons.mpr ⟨lw_p1, List.forall_mem_cons.mpr ⟨lw_p2, List.forall_mem_cons.mpr ⟨lw_p3, List.forall_mem_cons.mpr ⟨lw_p4, List.forall_mem_cons.mpr ⟨lw_p5, List.forall_mem_cons.mpr ⟨lw_p6, List.forall_mem_cons.mpr ⟨lw_p7, List.forall_mem_cons.mpr ⟨lw_p8, List.forall_mem_cons.mpr ⟨lw_p9, List.forall_mem_cons.mpr ⟨lw_p10, List.forall_mem_cons.mpr ⟨lw_p11, List.forall_mem_cons.mpr ⟨lw_p12, List.forall_mem_cons.mpr ⟨lw_p13, List.forall_mem_cons.mpr ⟨lw_p14, List.forall_mem_cons.mpr ⟨lw_p15, fun _ h => absurd h List.not_mem_nil⟩⟩⟩⟩⟩⟩⟩⟩⟩⟩⟩⟩⟩⟩⟩⟩
theorem lw_p16 : lw_okq (⟨"FlashVolumes", "level", "()V"⟩, 19) := ⟨⟨by decide +kernel, by decide +kernel⟩, lw_t1 (List.mem_of_getElem? (i := 4) rfl), lw_t1 (List.mem_of_getElem? (i := 192) rfl), lw_t1 (List.mem_of_getElem? (i := 193) rfl)⟩
theorem lw_p17 : lw_okq (⟨"FlashVolumesModel", "isBlock", "(I)Z"⟩, 6) := ⟨⟨by decide +kernel, by decide +kernel⟩, lw_t1 (List.mem_of_getElem? (i := 200) rfl), lw_t1 (List.mem_of_getElem? (i := 237) rfl), lw_t1 (List.mem_of_getElem? (i := 238) rfl)⟩
theorem lw_p18 : lw_okq (⟨"FlashVolumesModel", "isCut", "(I)Z"⟩, 6) := ⟨⟨by decide +kernel, by decide +kernel⟩, lw_t1 (List.mem_of_getElem? (i := 200) rfl), lw_t2 (List.mem_of_getElem? (i := 1) rfl), lw_t2 (List.mem_of_getElem? (i := 2) rfl)⟩
def lw_privs_2 : List (MethodName × Nat) := [(⟨"FlashVolumes", "level", "()V"⟩, 19), (⟨"FlashVolumesModel", "isBlock", "(I)Z"⟩, 6), (⟨"FlashVolumesModel", "isCut", "(I)Z"⟩, 6)]
theorem lw_r2 : ∀ q ∈ lw_privs_2, lw_okq q := List.forall_mem_cons.mpr ⟨lw_p16, List.forall_mem_cons.mpr ⟨lw_p17, List.forall_mem_cons.mpr ⟨lw_p18, fun _ h => absurd h List.not_mem_nil⟩⟩⟩
def lw_privs : List (MethodName × Nat) := lw_privs_1 ++ (lw_privs_2)
def lw_tbl : List Cond := k2_sels lw_privs ++ tables_1
theorem lw_privs_ok : ∀ q ∈ lw_privs, lw_okq q := by
  show ∀ q ∈ lw_privs_1 ++ (lw_privs_2), lw_okq q
  exact List.forall_mem_append.mpr ⟨lw_r1, lw_r2⟩
-- ===== ONE list of words for every method: the tables' words that hold all through a run =====
def lw_all : List Cond := lw_tbl.filter goodWord
/-- a word of the tables by its place: claim/WORDS.tsv -/
theorem lw_w {w : Cond} (i : Nat) (h : lw_tbl[i]? = some w) (g : goodWord w = true) : w ∈ lw_all := List.mem_filter.mpr ⟨List.mem_of_getElem? h, g⟩
theorem lw_all_tbl {w : Cond} (h : w ∈ lw_all) : w ∈ lw_tbl := (List.mem_filter.mp h).1
theorem lw_self : GoodIn lw_all lw_all := fun w h => ⟨h, good_of_word (List.mem_filter.mp h).2⟩
/-- a class's field words, by their places -/
theorem lw_in (ws : List Cond) (ps : List Nat) (hp : ws = ps.filterMap (fun i => lw_tbl[i]?)) (hg : ws.all goodWord = true) : ∀ w ∈ ws, w ∈ lw_all := by
  intro w h
  have h1 := List.all_eq_true.mp hg w h
  rw [hp] at h
  obtain ⟨i, -, hi⟩ := List.mem_filterMap.mp h
  exact lw_w i hi h1
/-- the words of a contract for the method y with code b, L locals, answer r -/
abbrev ws_ (y : MethodName) (b : ByteArray) (L : Nat) (r : Option FieldType) : List Cond := Cond.code y b L r :: lw_all
theorem lw_meth {y : MethodName} {b : ByteArray} {L : Nat} {r : Option FieldType} (h : Cond.code y b L r ∈ lw_all) : GoodIn lw_all (ws_ y b L r) := by
  intro w hw
  rcases List.mem_cons.mp hw with e | e
  · rw [e]
    exact lw_self _ h
  · exact lw_self _ e
theorem lw_app {a c : List Cond} (ha : ∀ w ∈ a, w ∈ lw_all) (hc : GoodIn lw_all c) : GoodIn lw_all (a ++ c) := by
  intro w hw
  rcases List.mem_append.mp hw with e | e
  · exact lw_self w (ha w e)
  · exact hc w e
/-- what a call through an object asks: cwV n hts (lw_V ..) -/
theorem lw_V {own : String} {idx : Nat} {C : String} {y : MethodName} {b : ByteArray} {L : Nat} {r : Option FieldType} (h1 : Cond.methodLink own idx y ∈ lw_all) (h2 : Cond.instanceMethod y ∈ lw_all) (h3 : Cond.selects C y y ∈ lw_all) (h4 : Cond.initialized C ∈ lw_all) (h5 : Cond.code y b L r ∈ lw_all) : GoodIn lw_all (wsV own idx C y (ws_ y b L r)) := by
  refine lw_app ?_ (lw_meth h5)
  intro w hw
  simp only [List.mem_cons, List.not_mem_nil, or_false] at hw
  rcases hw with e | e | e | e
  · rw [e]; exact h1
  · rw [e]; exact h2
  · rw [e]; exact h3
  · rw [e]; exact h4
/-- what a static call asks: va_cwS n hts (lw_S ..) -/
theorem lw_S {own : String} {idx : Nat} {y : MethodName} {b : ByteArray} {L : Nat} {r : Option FieldType} (h1 : Cond.methodLink own idx y ∈ lw_all) (h2 : Cond.static y ∈ lw_all) (h3 : Cond.initialized y.cls ∈ lw_all) (h4 : Cond.code y b L r ∈ lw_all) : GoodIn lw_all (va_wsS own idx y (ws_ y b L r)) := by
  refine lw_app ?_ (lw_meth h4)
  intro w hw
  simp only [List.mem_cons, List.not_mem_nil, or_false] at hw
  rcases hw with e | e | e
  · rw [e]; exact h1
  · rw [e]; exact h2
  · rw [e]; exact h3
/-- the words of a contract for a method WITH HANDLERS (hh: its table) -/
abbrev wsW_ (y : MethodName) (b : ByteArray) (L : Nat) (r : Option FieldType) (hh : List (Nat × Nat × Nat × Nat)) : List Cond := Cond.codeWith y b L r hh :: lw_all
theorem lw_methW {y : MethodName} {b : ByteArray} {L : Nat} {r : Option FieldType} {hh : List (Nat × Nat × Nat × Nat)} (h : Cond.codeWith y b L r hh ∈ lw_all) : GoodIn lw_all (wsW_ y b L r hh) := by
  intro w hw
  rcases List.mem_cons.mp hw with e | e
  · rw [e]
    exact lw_self _ h
  · exact lw_self _ e
/-- any list of words by their places (lw_in), good -/
theorem lw_good {ws : List Cond} (h : ∀ w ∈ ws, w ∈ lw_all) : GoodIn lw_all ws := fun w hw => lw_self w (h w hw)
/-- what a call of a method with handlers asks: vx_cwVW n hts (lw_VW ..), vx_cwSW n hts (lw_SW ..) -/
theorem lw_VW {own : String} {idx : Nat} {C : String} {y : MethodName} {b : ByteArray} {L : Nat} {r : Option FieldType} {hh : List (Nat × Nat × Nat × Nat)} (h1 : Cond.methodLink own idx y ∈ lw_all) (h2 : Cond.instanceMethod y ∈ lw_all) (h3 : Cond.selects C y y ∈ lw_all) (h4 : Cond.initialized C ∈ lw_all) (h5 : Cond.codeWith y b L r hh ∈ lw_all) : GoodIn lw_all (wsV own idx C y (wsW_ y b L r hh)) := by
  refine lw_app ?_ (lw_methW h5)
  intro w hw
  simp only [List.mem_cons, List.not_mem_nil, or_false] at hw
  rcases hw with e | e | e | e
  · rw [e]; exact h1
  · rw [e]; exact h2
  · rw [e]; exact h3
  · rw [e]; exact h4
theorem lw_SW {own : String} {idx : Nat} {y : MethodName} {b : ByteArray} {L : Nat} {r : Option FieldType} {hh : List (Nat × Nat × Nat × Nat)} (h1 : Cond.methodLink own idx y ∈ lw_all) (h2 : Cond.static y ∈ lw_all) (h3 : Cond.initialized y.cls ∈ lw_all) (h4 : Cond.codeWith y b L r hh ∈ lw_all) : GoodIn lw_all (va_wsS own idx y (wsW_ y b L r hh)) := by
  refine lw_app ?_ (lw_methW h4)
  intro w hw
  simp only [List.mem_cons, List.not_mem_nil, or_false] at hw
  rcases hw with e | e | e
  · rw [e]; exact h1
  · rw [e]; exact h2
  · rw [e]; exact h3
/-- a word by its place in its run of the tables -/
theorem lw_at {r : List Cond} (hr : ∀ w ∈ r, w ∈ lw_tbl) {w : Cond} (i : Nat) (h : r[i]? = some w) : w ∈ lw_tbl := hr w (List.mem_of_getElem? h)
theorem lw_g {w : Cond} (h : w ∈ lw_tbl) (g : goodWord w = true) : w ∈ lw_all := List.mem_filter.mpr ⟨h, g⟩
theorem lw_ms : ∀ w ∈ k2_sels lw_privs, w ∈ lw_tbl := fun w h => show w ∈ k2_sels lw_privs ++ tables_1 from List.mem_append_left _ h
theorem lw_m1 : ∀ w ∈ tables_1_1, w ∈ lw_tbl := fun w h => show w ∈ k2_sels lw_privs ++ tables_1 from List.mem_append_right (k2_sels lw_privs) (show w ∈ tables_1 from List.mem_append_left _ h)
theorem lw_m2 : ∀ w ∈ tables_1_2, w ∈ lw_tbl := fun w h => show w ∈ k2_sels lw_privs ++ tables_1 from List.mem_append_right (k2_sels lw_privs) (show w ∈ tables_1 from List.mem_append_right _ h)
theorem qs0 : (Cond.selects "FlashVolumes" ⟨"FlashVolumes", "attach", "()V"⟩ ⟨"FlashVolumes", "attach", "()V"⟩) ∈ lw_all := lw_g (lw_at lw_ms 0 rfl) rfl
theorem qs1 : (Cond.selects "FlashVolumes" ⟨"FlashVolumes", "sound", "(I)Z"⟩ ⟨"FlashVolumes", "sound", "(I)Z"⟩) ∈ lw_all := lw_g (lw_at lw_ms 1 rfl) rfl
theorem qs2 : (Cond.selects "FlashVolumes" ⟨"FlashVolumes", "badBlock", "(I)Z"⟩ ⟨"FlashVolumes", "badBlock", "(I)Z"⟩) ∈ lw_all := lw_g (lw_at lw_ms 2 rfl) rfl
theorem qs3 : (Cond.selects "FlashVolumes" ⟨"FlashVolumes", "sizeOf", "(I)I"⟩ ⟨"FlashVolumes", "sizeOf", "(I)I"⟩) ∈ lw_all := lw_g (lw_at lw_ms 3 rfl) rfl
theorem qs4 : (Cond.selects "FlashVolumes" ⟨"FlashVolumes", "provide", "()V"⟩ ⟨"FlashVolumes", "provide", "()V"⟩) ∈ lw_all := lw_g (lw_at lw_ms 4 rfl) rfl
theorem qs5 : (Cond.selects "FlashVolumes" ⟨"FlashVolumes", "cleanBlocks", "()I"⟩ ⟨"FlashVolumes", "cleanBlocks", "()I"⟩) ∈ lw_all := lw_g (lw_at lw_ms 5 rfl) rfl
theorem qs6 : (Cond.selects "FlashVolumes" ⟨"FlashVolumes", "reclaim", "()Z"⟩ ⟨"FlashVolumes", "reclaim", "()Z"⟩) ∈ lw_all := lw_g (lw_at lw_ms 6 rfl) rfl
theorem qs7 : (Cond.selects "FlashVolumes" ⟨"FlashVolumes", "inUse", "(I)Z"⟩ ⟨"FlashVolumes", "inUse", "(I)Z"⟩) ∈ lw_all := lw_g (lw_at lw_ms 7 rfl) rfl
theorem qs8 : (Cond.selects "FlashVolumes" ⟨"FlashVolumes", "erase", "(I)V"⟩ ⟨"FlashVolumes", "erase", "(I)V"⟩) ∈ lw_all := lw_g (lw_at lw_ms 8 rfl) rfl
theorem qs9 : (Cond.selects "FlashVolumes" ⟨"FlashVolumes", "pick", "(Z)I"⟩ ⟨"FlashVolumes", "pick", "(Z)I"⟩) ∈ lw_all := lw_g (lw_at lw_ms 9 rfl) rfl
theorem qs10 : (Cond.selects "FlashVolumes" ⟨"FlashVolumes", "step", "()Z"⟩ ⟨"FlashVolumes", "step", "()Z"⟩) ∈ lw_all := lw_g (lw_at lw_ms 10 rfl) rfl
theorem qs11 : (Cond.selects "FlashVolumes" ⟨"FlashVolumes", "writeHeader", "(IIZ)V"⟩ ⟨"FlashVolumes", "writeHeader", "(IIZ)V"⟩) ∈ lw_all := lw_g (lw_at lw_ms 11 rfl) rfl
theorem qs12 : (Cond.selects "FlashVolumes" ⟨"FlashVolumes", "writeWord", "(II)V"⟩ ⟨"FlashVolumes", "writeWord", "(II)V"⟩) ∈ lw_all := lw_g (lw_at lw_ms 12 rfl) rfl
theorem qs13 : (Cond.selects "FlashVolumes" ⟨"FlashVolumes", "writeCopy", "(II)I"⟩ ⟨"FlashVolumes", "writeCopy", "(II)I"⟩) ∈ lw_all := lw_g (lw_at lw_ms 13 rfl) rfl
theorem qs14 : (Cond.selects "FlashVolumes" ⟨"FlashVolumes", "adopt", "(II)V"⟩ ⟨"FlashVolumes", "adopt", "(II)V"⟩) ∈ lw_all := lw_g (lw_at lw_ms 14 rfl) rfl
theorem qs15 : (Cond.selects "FlashVolumes" ⟨"FlashVolumes", "hold", "(I)I"⟩ ⟨"FlashVolumes", "hold", "(I)I"⟩) ∈ lw_all := lw_g (lw_at lw_ms 15 rfl) rfl
theorem qs16 : (Cond.selects "FlashVolumes" ⟨"FlashVolumes", "level", "()V"⟩ ⟨"FlashVolumes", "level", "()V"⟩) ∈ lw_all := lw_g (lw_at lw_ms 16 rfl) rfl
theorem qs17 : (Cond.selects "FlashVolumesModel" ⟨"FlashVolumesModel", "isBlock", "(I)Z"⟩ ⟨"FlashVolumesModel", "isBlock", "(I)Z"⟩) ∈ lw_all := lw_g (lw_at lw_ms 17 rfl) rfl
theorem qs18 : (Cond.selects "FlashVolumesModel" ⟨"FlashVolumesModel", "isCut", "(I)Z"⟩ ⟨"FlashVolumesModel", "isCut", "(I)Z"⟩) ∈ lw_all := lw_g (lw_at lw_ms 18 rfl) rfl
end
section
/-! FlashVolumes -/
set_option maxRecDepth 100000
def RX0 : String := "FlashVolumes"
def TX0 : u_T := fun k => match k with
  | 0 => ("FlashVolumes", "clean", "[Z", true)
  | 1 => ("FlashVolumes", "bad", "[Z", true)
  | 2 => ("FlashVolumes", "worn", "[I", true)
  | 3 => ("FlashVolumes", "owner", "[I", true)
  | 4 => ("FlashVolumes", "number", "[I", true)
  | 5 => ("FlashVolumes", "growing", "[Z", true)
  | 6 => ("FlashVolumes", "closed", "[Z", true)
  | 7 => ("FlashVolumes", "dropped", "[Z", true)
  | 8 => ("FlashVolumes", "filled", "[I", true)
  | 9 => ("FlashVolumes", "page", "[I", true)
  | 10 => ("FlashVolumes", "badBlocks", "I", false)
  | 11 => ("FlashVolumes", "failing", "Z", false)
  | 12 => ("FlashVolumes", "home", "[I", true)
  | 13 => ("FlashVolumes", "nextNumber", "I", false)
  | 14 => ("FlashVolumes", "drafted", "I", false)
  | 15 => ("FlashVolumes", "draft", "[I", true)
  | 16 => ("FlashVolumes", "held", "[I", true)
  | 17 => ("FlashVolumes", "armed", "Z", false)
  | _ => ("FlashVolumes", "count", "I", false)
def tyX0 : Nat → FieldType := fun k => match k with
  | 0 => .array .boolean
  | 1 => .array .boolean
  | 2 => .array .int
  | 3 => .array .int
  | 4 => .array .int
  | 5 => .array .boolean
  | 6 => .array .boolean
  | 7 => .array .boolean
  | 8 => .array .int
  | 9 => .array .int
  | 10 => .int
  | 11 => .boolean
  | 12 => .array .int
  | 13 => .int
  | 14 => .int
  | 15 => .array .int
  | 16 => .array .int
  | 17 => .boolean
  | _ => .int
abbrev wsX00 : List Cond := u_ws RX0 TX0 19
set_option maxRecDepth 100000 in
theorem nmX0 : ∀ a, a < 19 → ∀ b, b < 19 → a ≠ b → (TX0 a).2.1 ≠ (TX0 b).2.1 := by decide +kernel
set_option maxRecDepth 100000 in
theorem tyX0_ok : ∀ k, k < 19 → parseFieldDescriptor (TX0 k).2.2.1 = some (tyX0 k) := by decide +kernel
theorem q20 : (Jvm.Cond.initialized "FlashVolumes") ∈ lw_all := lw_g (lw_at lw_m1 1 rfl) rfl
theorem q23 : (Jvm.Cond.instantiable "FlashVolumes" (19 : Nat)) ∈ lw_all := lw_g (lw_at lw_m1 4 rfl) rfl
theorem q25 : (Jvm.Cond.instanceMethod ({ cls := "FlashVolumes", name := "<init>", desc := "()V" } : Jvm.MethodName)) ∈ lw_all := lw_g (lw_at lw_m1 6 rfl) rfl
theorem q26 : (Jvm.Cond.code ({ cls := "FlashVolumes", name := "<init>", desc := "()V" } : Jvm.MethodName) prog_1_method_1_code (2 : Nat) (Option.none : Option Jvm.ClassFile.FieldType)) ∈ lw_all := lw_g (lw_at lw_m1 7 rfl) rfl
theorem q27 : (Jvm.Cond.methodLink "FlashVolumes" (1 : Nat) ({ cls := "java/lang/Object", name := "<init>", desc := "()V" } : Jvm.MethodName)) ∈ lw_all := lw_g (lw_at lw_m1 8 rfl) rfl
theorem q30 : (Jvm.Cond.methodLink "FlashVolumes" (50 : Nat) ({ cls := "FlashVolumes", name := "attach", desc := "()V" } : Jvm.MethodName)) ∈ lw_all := lw_g (lw_at lw_m1 11 rfl) rfl
theorem q31 : (Jvm.Cond.privateMethod ({ cls := "FlashVolumes", name := "attach", desc := "()V" } : Jvm.MethodName)) ∈ lw_tbl := lw_at lw_m1 12 rfl
theorem q32 : (Jvm.Cond.instanceMethod ({ cls := "FlashVolumes", name := "attach", desc := "()V" } : Jvm.MethodName)) ∈ lw_all := lw_g (lw_at lw_m1 13 rfl) rfl
theorem q33 : (Jvm.Cond.code ({ cls := "FlashVolumes", name := "attach", desc := "()V" } : Jvm.MethodName) prog_1_method_4_code (3 : Nat) (Option.none : Option Jvm.ClassFile.FieldType)) ∈ lw_all := lw_g (lw_at lw_m1 14 rfl) rfl
theorem q34 : (Jvm.Cond.methodLink "FlashVolumes" (64 : Nat) ({ cls := "FlashVolumes", name := "sound", desc := "(I)Z" } : Jvm.MethodName)) ∈ lw_all := lw_g (lw_at lw_m1 15 rfl) rfl
theorem q35 : (Jvm.Cond.privateMethod ({ cls := "FlashVolumes", name := "sound", desc := "(I)Z" } : Jvm.MethodName)) ∈ lw_tbl := lw_at lw_m1 16 rfl
theorem q36 : (Jvm.Cond.instanceMethod ({ cls := "FlashVolumes", name := "sound", desc := "(I)Z" } : Jvm.MethodName)) ∈ lw_all := lw_g (lw_at lw_m1 17 rfl) rfl
theorem q37 : (Jvm.Cond.code ({ cls := "FlashVolumes", name := "sound", desc := "(I)Z" } : Jvm.MethodName) prog_1_method_3_code (2 : Nat) (Option.some Jvm.ClassFile.FieldType.boolean)) ∈ lw_all := lw_g (lw_at lw_m1 18 rfl) rfl
theorem q38 : (Jvm.Cond.fieldLink "FlashVolumes" (7 : Nat) "FlashVolumes" "clean" "[Z") ∈ lw_all := lw_g (lw_at lw_m1 19 rfl) rfl
theorem q39 : (Jvm.Cond.fieldLink "FlashVolumes" (13 : Nat) "FlashVolumes" "bad" "[Z") ∈ lw_all := lw_g (lw_at lw_m1 20 rfl) rfl
theorem q40 : (Jvm.Cond.fieldLink "FlashVolumes" (16 : Nat) "FlashVolumes" "worn" "[I") ∈ lw_all := lw_g (lw_at lw_m1 21 rfl) rfl
theorem q41 : (Jvm.Cond.fieldLink "FlashVolumes" (20 : Nat) "FlashVolumes" "owner" "[I") ∈ lw_all := lw_g (lw_at lw_m1 22 rfl) rfl
theorem q42 : (Jvm.Cond.fieldLink "FlashVolumes" (23 : Nat) "FlashVolumes" "number" "[I") ∈ lw_all := lw_g (lw_at lw_m1 23 rfl) rfl
theorem q43 : (Jvm.Cond.fieldLink "FlashVolumes" (26 : Nat) "FlashVolumes" "growing" "[Z") ∈ lw_all := lw_g (lw_at lw_m1 24 rfl) rfl
theorem q44 : (Jvm.Cond.fieldLink "FlashVolumes" (29 : Nat) "FlashVolumes" "closed" "[Z") ∈ lw_all := lw_g (lw_at lw_m1 25 rfl) rfl
theorem q45 : (Jvm.Cond.fieldLink "FlashVolumes" (32 : Nat) "FlashVolumes" "dropped" "[Z") ∈ lw_all := lw_g (lw_at lw_m1 26 rfl) rfl
theorem q46 : (Jvm.Cond.fieldLink "FlashVolumes" (35 : Nat) "FlashVolumes" "filled" "[I") ∈ lw_all := lw_g (lw_at lw_m1 27 rfl) rfl
theorem q47 : (Jvm.Cond.fieldLink "FlashVolumes" (38 : Nat) "FlashVolumes" "page" "[I") ∈ lw_all := lw_g (lw_at lw_m1 28 rfl) rfl
theorem q48 : (Jvm.Cond.fieldLink "FlashVolumes" (74 : Nat) "FlashVolumes" "badBlocks" "I") ∈ lw_all := lw_g (lw_at lw_m1 29 rfl) rfl
theorem q49 : (Jvm.Cond.fieldLink "FlashVolumes" (71 : Nat) "FlashVolumes" "failing" "Z") ∈ lw_all := lw_g (lw_at lw_m1 30 rfl) rfl
theorem q50 : (Jvm.Cond.fieldLink "FlashVolumes" (41 : Nat) "FlashVolumes" "home" "[I") ∈ lw_all := lw_g (lw_at lw_m1 31 rfl) rfl
theorem q51 : (Jvm.Cond.fieldLink "FlashVolumes" (61 : Nat) "FlashVolumes" "nextNumber" "I") ∈ lw_all := lw_g (lw_at lw_m1 32 rfl) rfl
theorem q52 : (Jvm.Cond.fieldLink "FlashVolumes" (53 : Nat) "FlashVolumes" "drafted" "I") ∈ lw_all := lw_g (lw_at lw_m1 33 rfl) rfl
theorem q53 : (Jvm.Cond.fieldLink "FlashVolumes" (44 : Nat) "FlashVolumes" "draft" "[I") ∈ lw_all := lw_g (lw_at lw_m1 34 rfl) rfl
theorem q54 : (Jvm.Cond.fieldLink "FlashVolumes" (47 : Nat) "FlashVolumes" "held" "[I") ∈ lw_all := lw_g (lw_at lw_m1 35 rfl) rfl
theorem q55 : (Jvm.Cond.fieldLink "FlashVolumes" (57 : Nat) "FlashVolumes" "armed" "Z") ∈ lw_all := lw_g (lw_at lw_m1 36 rfl) rfl
theorem q56 : (Jvm.Cond.fieldLink "FlashVolumes" (68 : Nat) "FlashVolumes" "count" "I") ∈ lw_all := lw_g (lw_at lw_m1 37 rfl) rfl
theorem q57 : (Jvm.Cond.laysFinal "FlashVolumes" "FlashVolumes" "clean" "[Z") ∈ lw_all := lw_g (lw_at lw_m1 38 rfl) rfl
theorem q58 : (Jvm.Cond.soleField "FlashVolumes" "clean") ∈ lw_all := lw_g (lw_at lw_m1 39 rfl) rfl
theorem q59 : (Jvm.Cond.laysFinal "FlashVolumes" "FlashVolumes" "bad" "[Z") ∈ lw_all := lw_g (lw_at lw_m1 40 rfl) rfl
theorem q60 : (Jvm.Cond.soleField "FlashVolumes" "bad") ∈ lw_all := lw_g (lw_at lw_m1 41 rfl) rfl
theorem q61 : (Jvm.Cond.laysFinal "FlashVolumes" "FlashVolumes" "worn" "[I") ∈ lw_all := lw_g (lw_at lw_m1 42 rfl) rfl
theorem q62 : (Jvm.Cond.soleField "FlashVolumes" "worn") ∈ lw_all := lw_g (lw_at lw_m1 43 rfl) rfl
theorem q63 : (Jvm.Cond.laysFinal "FlashVolumes" "FlashVolumes" "owner" "[I") ∈ lw_all := lw_g (lw_at lw_m1 44 rfl) rfl
theorem q64 : (Jvm.Cond.soleField "FlashVolumes" "owner") ∈ lw_all := lw_g (lw_at lw_m1 45 rfl) rfl
theorem q65 : (Jvm.Cond.laysFinal "FlashVolumes" "FlashVolumes" "number" "[I") ∈ lw_all := lw_g (lw_at lw_m1 46 rfl) rfl
theorem q66 : (Jvm.Cond.soleField "FlashVolumes" "number") ∈ lw_all := lw_g (lw_at lw_m1 47 rfl) rfl
theorem q67 : (Jvm.Cond.laysFinal "FlashVolumes" "FlashVolumes" "growing" "[Z") ∈ lw_all := lw_g (lw_at lw_m1 48 rfl) rfl
theorem q68 : (Jvm.Cond.soleField "FlashVolumes" "growing") ∈ lw_all := lw_g (lw_at lw_m1 49 rfl) rfl
theorem q69 : (Jvm.Cond.laysFinal "FlashVolumes" "FlashVolumes" "closed" "[Z") ∈ lw_all := lw_g (lw_at lw_m1 50 rfl) rfl
theorem q70 : (Jvm.Cond.soleField "FlashVolumes" "closed") ∈ lw_all := lw_g (lw_at lw_m1 51 rfl) rfl
theorem q71 : (Jvm.Cond.laysFinal "FlashVolumes" "FlashVolumes" "dropped" "[Z") ∈ lw_all := lw_g (lw_at lw_m1 52 rfl) rfl
theorem q72 : (Jvm.Cond.soleField "FlashVolumes" "dropped") ∈ lw_all := lw_g (lw_at lw_m1 53 rfl) rfl
theorem q73 : (Jvm.Cond.laysFinal "FlashVolumes" "FlashVolumes" "filled" "[I") ∈ lw_all := lw_g (lw_at lw_m1 54 rfl) rfl
theorem q74 : (Jvm.Cond.soleField "FlashVolumes" "filled") ∈ lw_all := lw_g (lw_at lw_m1 55 rfl) rfl
theorem q75 : (Jvm.Cond.laysFinal "FlashVolumes" "FlashVolumes" "page" "[I") ∈ lw_all := lw_g (lw_at lw_m1 56 rfl) rfl
theorem q76 : (Jvm.Cond.soleField "FlashVolumes" "page") ∈ lw_all := lw_g (lw_at lw_m1 57 rfl) rfl
theorem q77 : (Jvm.Cond.lays "FlashVolumes" "FlashVolumes" "badBlocks" "I") ∈ lw_all := lw_g (lw_at lw_m1 58 rfl) rfl
theorem q78 : (Jvm.Cond.soleField "FlashVolumes" "badBlocks") ∈ lw_all := lw_g (lw_at lw_m1 59 rfl) rfl
theorem q79 : (Jvm.Cond.lays "FlashVolumes" "FlashVolumes" "failing" "Z") ∈ lw_all := lw_g (lw_at lw_m1 60 rfl) rfl
theorem q80 : (Jvm.Cond.soleField "FlashVolumes" "failing") ∈ lw_all := lw_g (lw_at lw_m1 61 rfl) rfl
theorem q81 : (Jvm.Cond.laysFinal "FlashVolumes" "FlashVolumes" "home" "[I") ∈ lw_all := lw_g (lw_at lw_m1 62 rfl) rfl
theorem q82 : (Jvm.Cond.soleField "FlashVolumes" "home") ∈ lw_all := lw_g (lw_at lw_m1 63 rfl) rfl
theorem q83 : (Jvm.Cond.lays "FlashVolumes" "FlashVolumes" "nextNumber" "I") ∈ lw_all := lw_g (lw_at lw_m1 64 rfl) rfl
theorem q84 : (Jvm.Cond.soleField "FlashVolumes" "nextNumber") ∈ lw_all := lw_g (lw_at lw_m1 65 rfl) rfl
theorem q85 : (Jvm.Cond.lays "FlashVolumes" "FlashVolumes" "drafted" "I") ∈ lw_all := lw_g (lw_at lw_m1 66 rfl) rfl
theorem q86 : (Jvm.Cond.soleField "FlashVolumes" "drafted") ∈ lw_all := lw_g (lw_at lw_m1 67 rfl) rfl
theorem q87 : (Jvm.Cond.laysFinal "FlashVolumes" "FlashVolumes" "draft" "[I") ∈ lw_all := lw_g (lw_at lw_m1 68 rfl) rfl
theorem q88 : (Jvm.Cond.soleField "FlashVolumes" "draft") ∈ lw_all := lw_g (lw_at lw_m1 69 rfl) rfl
theorem q89 : (Jvm.Cond.laysFinal "FlashVolumes" "FlashVolumes" "held" "[I") ∈ lw_all := lw_g (lw_at lw_m1 70 rfl) rfl
theorem q90 : (Jvm.Cond.soleField "FlashVolumes" "held") ∈ lw_all := lw_g (lw_at lw_m1 71 rfl) rfl
theorem q91 : (Jvm.Cond.lays "FlashVolumes" "FlashVolumes" "armed" "Z") ∈ lw_all := lw_g (lw_at lw_m1 72 rfl) rfl
theorem q92 : (Jvm.Cond.soleField "FlashVolumes" "armed") ∈ lw_all := lw_g (lw_at lw_m1 73 rfl) rfl
theorem q93 : (Jvm.Cond.lays "FlashVolumes" "FlashVolumes" "count" "I") ∈ lw_all := lw_g (lw_at lw_m1 74 rfl) rfl
theorem q94 : (Jvm.Cond.soleField "FlashVolumes" "count") ∈ lw_all := lw_g (lw_at lw_m1 75 rfl) rfl
theorem q95 : (Jvm.Cond.superclass "FlashVolumes" "java/lang/Object") ∈ lw_all := lw_g (lw_at lw_m1 76 rfl) rfl
theorem q99 : (Jvm.Cond.instanceMethod ({ cls := "FlashVolumes", name := "draft", desc := "(I)I" } : Jvm.MethodName)) ∈ lw_all := lw_g (lw_at lw_m1 80 rfl) rfl
theorem q100 : (Jvm.Cond.selects "FlashVolumes" ({ cls := "FlashVolumes", name := "draft", desc := "(I)I" } : Jvm.MethodName) ({ cls := "FlashVolumes", name := "draft", desc := "(I)I" } : Jvm.MethodName)) ∈ lw_all := lw_g (lw_at lw_m1 81 rfl) rfl
theorem q101 : (Jvm.Cond.code ({ cls := "FlashVolumes", name := "draft", desc := "(I)I" } : Jvm.MethodName) prog_1_method_16_code (2 : Nat) (Option.some Jvm.ClassFile.FieldType.int)) ∈ lw_all := lw_g (lw_at lw_m1 82 rfl) rfl
theorem q103 : (Jvm.Cond.instanceMethod ({ cls := "FlashVolumes", name := "scrap", desc := "()V" } : Jvm.MethodName)) ∈ lw_all := lw_g (lw_at lw_m1 84 rfl) rfl
theorem q104 : (Jvm.Cond.selects "FlashVolumes" ({ cls := "FlashVolumes", name := "scrap", desc := "()V" } : Jvm.MethodName) ({ cls := "FlashVolumes", name := "scrap", desc := "()V" } : Jvm.MethodName)) ∈ lw_all := lw_g (lw_at lw_m1 85 rfl) rfl
theorem q105 : (Jvm.Cond.code ({ cls := "FlashVolumes", name := "scrap", desc := "()V" } : Jvm.MethodName) prog_1_method_17_code (1 : Nat) (Option.none : Option Jvm.ClassFile.FieldType)) ∈ lw_all := lw_g (lw_at lw_m1 86 rfl) rfl
theorem q107 : (Jvm.Cond.instanceMethod ({ cls := "FlashVolumes", name := "append", desc := "(II)I" } : Jvm.MethodName)) ∈ lw_all := lw_g (lw_at lw_m1 88 rfl) rfl
theorem q108 : (Jvm.Cond.selects "FlashVolumes" ({ cls := "FlashVolumes", name := "append", desc := "(II)I" } : Jvm.MethodName) ({ cls := "FlashVolumes", name := "append", desc := "(II)I" } : Jvm.MethodName)) ∈ lw_all := lw_g (lw_at lw_m1 89 rfl) rfl
theorem q109 : (Jvm.Cond.code ({ cls := "FlashVolumes", name := "append", desc := "(II)I" } : Jvm.MethodName) prog_1_method_19_code (5 : Nat) (Option.some Jvm.ClassFile.FieldType.int)) ∈ lw_all := lw_g (lw_at lw_m1 90 rfl) rfl
theorem q110 : (Jvm.Cond.methodLink "FlashVolumes" (107 : Nat) ({ cls := "FlashVolumes", name := "badBlock", desc := "(I)Z" } : Jvm.MethodName)) ∈ lw_all := lw_g (lw_at lw_m1 91 rfl) rfl
theorem q111 : (Jvm.Cond.privateMethod ({ cls := "FlashVolumes", name := "badBlock", desc := "(I)Z" } : Jvm.MethodName)) ∈ lw_tbl := lw_at lw_m1 92 rfl
theorem q112 : (Jvm.Cond.instanceMethod ({ cls := "FlashVolumes", name := "badBlock", desc := "(I)Z" } : Jvm.MethodName)) ∈ lw_all := lw_g (lw_at lw_m1 93 rfl) rfl
theorem q113 : (Jvm.Cond.code ({ cls := "FlashVolumes", name := "badBlock", desc := "(I)Z" } : Jvm.MethodName) prog_1_method_2_code (2 : Nat) (Option.some Jvm.ClassFile.FieldType.boolean)) ∈ lw_all := lw_g (lw_at lw_m1 94 rfl) rfl
theorem q114 : (Jvm.Cond.methodLink "FlashVolumes" (110 : Nat) ({ cls := "FlashVolumes", name := "sizeOf", desc := "(I)I" } : Jvm.MethodName)) ∈ lw_all := lw_g (lw_at lw_m1 95 rfl) rfl
theorem q115 : (Jvm.Cond.privateMethod ({ cls := "FlashVolumes", name := "sizeOf", desc := "(I)I" } : Jvm.MethodName)) ∈ lw_tbl := lw_at lw_m1 96 rfl
theorem q116 : (Jvm.Cond.instanceMethod ({ cls := "FlashVolumes", name := "sizeOf", desc := "(I)I" } : Jvm.MethodName)) ∈ lw_all := lw_g (lw_at lw_m1 97 rfl) rfl
theorem q117 : (Jvm.Cond.code ({ cls := "FlashVolumes", name := "sizeOf", desc := "(I)I" } : Jvm.MethodName) prog_1_method_18_code (2 : Nat) (Option.some Jvm.ClassFile.FieldType.int)) ∈ lw_all := lw_g (lw_at lw_m1 98 rfl) rfl
theorem q118 : (Jvm.Cond.methodLink "FlashVolumes" (114 : Nat) ({ cls := "FlashVolumes", name := "provide", desc := "()V" } : Jvm.MethodName)) ∈ lw_all := lw_g (lw_at lw_m1 99 rfl) rfl
theorem q119 : (Jvm.Cond.privateMethod ({ cls := "FlashVolumes", name := "provide", desc := "()V" } : Jvm.MethodName)) ∈ lw_tbl := lw_at lw_m1 100 rfl
theorem q120 : (Jvm.Cond.instanceMethod ({ cls := "FlashVolumes", name := "provide", desc := "()V" } : Jvm.MethodName)) ∈ lw_all := lw_g (lw_at lw_m1 101 rfl) rfl
theorem q121 : (Jvm.Cond.code ({ cls := "FlashVolumes", name := "provide", desc := "()V" } : Jvm.MethodName) prog_1_method_10_code (2 : Nat) (Option.none : Option Jvm.ClassFile.FieldType)) ∈ lw_all := lw_g (lw_at lw_m1 102 rfl) rfl
theorem q122 : (Jvm.Cond.methodLink "FlashVolumes" (84 : Nat) ({ cls := "FlashVolumes", name := "cleanBlocks", desc := "()I" } : Jvm.MethodName)) ∈ lw_all := lw_g (lw_at lw_m1 103 rfl) rfl
theorem q123 : (Jvm.Cond.privateMethod ({ cls := "FlashVolumes", name := "cleanBlocks", desc := "()I" } : Jvm.MethodName)) ∈ lw_tbl := lw_at lw_m1 104 rfl
theorem q124 : (Jvm.Cond.instanceMethod ({ cls := "FlashVolumes", name := "cleanBlocks", desc := "()I" } : Jvm.MethodName)) ∈ lw_all := lw_g (lw_at lw_m1 105 rfl) rfl
theorem q125 : (Jvm.Cond.code ({ cls := "FlashVolumes", name := "cleanBlocks", desc := "()I" } : Jvm.MethodName) prog_1_method_7_code (3 : Nat) (Option.some Jvm.ClassFile.FieldType.int)) ∈ lw_all := lw_g (lw_at lw_m1 106 rfl) rfl
theorem q126 : (Jvm.Cond.methodLink "FlashVolumes" (88 : Nat) ({ cls := "FlashVolumes", name := "reclaim", desc := "()Z" } : Jvm.MethodName)) ∈ lw_all := lw_g (lw_at lw_m1 107 rfl) rfl
theorem q127 : (Jvm.Cond.privateMethod ({ cls := "FlashVolumes", name := "reclaim", desc := "()Z" } : Jvm.MethodName)) ∈ lw_tbl := lw_at lw_m1 108 rfl
theorem q128 : (Jvm.Cond.instanceMethod ({ cls := "FlashVolumes", name := "reclaim", desc := "()Z" } : Jvm.MethodName)) ∈ lw_all := lw_g (lw_at lw_m1 109 rfl) rfl
theorem q129 : (Jvm.Cond.code ({ cls := "FlashVolumes", name := "reclaim", desc := "()Z" } : Jvm.MethodName) prog_1_method_9_code (4 : Nat) (Option.some Jvm.ClassFile.FieldType.boolean)) ∈ lw_all := lw_g (lw_at lw_m1 110 rfl) rfl
theorem q130 : (Jvm.Cond.methodLink "FlashVolumes" (77 : Nat) ({ cls := "FlashVolumes", name := "inUse", desc := "(I)Z" } : Jvm.MethodName)) ∈ lw_all := lw_g (lw_at lw_m1 111 rfl) rfl
theorem q131 : (Jvm.Cond.privateMethod ({ cls := "FlashVolumes", name := "inUse", desc := "(I)Z" } : Jvm.MethodName)) ∈ lw_tbl := lw_at lw_m1 112 rfl
theorem q132 : (Jvm.Cond.instanceMethod ({ cls := "FlashVolumes", name := "inUse", desc := "(I)Z" } : Jvm.MethodName)) ∈ lw_all := lw_g (lw_at lw_m1 113 rfl) rfl
theorem q133 : (Jvm.Cond.code ({ cls := "FlashVolumes", name := "inUse", desc := "(I)Z" } : Jvm.MethodName) prog_1_method_6_code (4 : Nat) (Option.some Jvm.ClassFile.FieldType.boolean)) ∈ lw_all := lw_g (lw_at lw_m1 114 rfl) rfl
theorem q134 : (Jvm.Cond.methodLink "FlashVolumes" (80 : Nat) ({ cls := "FlashVolumes", name := "erase", desc := "(I)V" } : Jvm.MethodName)) ∈ lw_all := lw_g (lw_at lw_m1 115 rfl) rfl
theorem q135 : (Jvm.Cond.privateMethod ({ cls := "FlashVolumes", name := "erase", desc := "(I)V" } : Jvm.MethodName)) ∈ lw_tbl := lw_at lw_m1 116 rfl
theorem q136 : (Jvm.Cond.instanceMethod ({ cls := "FlashVolumes", name := "erase", desc := "(I)V" } : Jvm.MethodName)) ∈ lw_all := lw_g (lw_at lw_m1 117 rfl) rfl
theorem q137 : (Jvm.Cond.code ({ cls := "FlashVolumes", name := "erase", desc := "(I)V" } : Jvm.MethodName) prog_1_method_8_code (2 : Nat) (Option.none : Option Jvm.ClassFile.FieldType)) ∈ lw_all := lw_g (lw_at lw_m1 118 rfl) rfl
theorem q138 : (Jvm.Cond.methodLink "FlashVolumes" (92 : Nat) ({ cls := "FlashVolumes", name := "pick", desc := "(Z)I" } : Jvm.MethodName)) ∈ lw_all := lw_g (lw_at lw_m1 119 rfl) rfl
theorem q139 : (Jvm.Cond.privateMethod ({ cls := "FlashVolumes", name := "pick", desc := "(Z)I" } : Jvm.MethodName)) ∈ lw_tbl := lw_at lw_m1 120 rfl
theorem q140 : (Jvm.Cond.instanceMethod ({ cls := "FlashVolumes", name := "pick", desc := "(Z)I" } : Jvm.MethodName)) ∈ lw_all := lw_g (lw_at lw_m1 121 rfl) rfl
theorem q141 : (Jvm.Cond.code ({ cls := "FlashVolumes", name := "pick", desc := "(Z)I" } : Jvm.MethodName) prog_1_method_11_code (5 : Nat) (Option.some Jvm.ClassFile.FieldType.int)) ∈ lw_all := lw_g (lw_at lw_m1 122 rfl) rfl
theorem q142 : (Jvm.Cond.methodLink "FlashVolumes" (96 : Nat) ({ cls := "FlashVolumes", name := "step", desc := "()Z" } : Jvm.MethodName)) ∈ lw_all := lw_g (lw_at lw_m1 123 rfl) rfl
theorem q143 : (Jvm.Cond.privateMethod ({ cls := "FlashVolumes", name := "step", desc := "()Z" } : Jvm.MethodName)) ∈ lw_tbl := lw_at lw_m1 124 rfl
theorem q144 : (Jvm.Cond.instanceMethod ({ cls := "FlashVolumes", name := "step", desc := "()Z" } : Jvm.MethodName)) ∈ lw_all := lw_g (lw_at lw_m1 125 rfl) rfl
theorem q145 : (Jvm.Cond.code ({ cls := "FlashVolumes", name := "step", desc := "()Z" } : Jvm.MethodName) prog_1_method_5_code (1 : Nat) (Option.some Jvm.ClassFile.FieldType.boolean)) ∈ lw_all := lw_g (lw_at lw_m1 126 rfl) rfl
theorem q146 : (Jvm.Cond.methodLink "FlashVolumes" (99 : Nat) ({ cls := "FlashVolumes", name := "writeHeader", desc := "(IIZ)V" } : Jvm.MethodName)) ∈ lw_all := lw_g (lw_at lw_m1 127 rfl) rfl
theorem q147 : (Jvm.Cond.privateMethod ({ cls := "FlashVolumes", name := "writeHeader", desc := "(IIZ)V" } : Jvm.MethodName)) ∈ lw_tbl := lw_at lw_m1 128 rfl
theorem q148 : (Jvm.Cond.instanceMethod ({ cls := "FlashVolumes", name := "writeHeader", desc := "(IIZ)V" } : Jvm.MethodName)) ∈ lw_all := lw_g (lw_at lw_m1 129 rfl) rfl
theorem q149 : (Jvm.Cond.code ({ cls := "FlashVolumes", name := "writeHeader", desc := "(IIZ)V" } : Jvm.MethodName) prog_1_method_12_code (4 : Nat) (Option.none : Option Jvm.ClassFile.FieldType)) ∈ lw_all := lw_g (lw_at lw_m1 130 rfl) rfl
theorem q150 : (Jvm.Cond.methodLink "FlashVolumes" (103 : Nat) ({ cls := "FlashVolumes", name := "writeWord", desc := "(II)V" } : Jvm.MethodName)) ∈ lw_all := lw_g (lw_at lw_m1 131 rfl) rfl
theorem q151 : (Jvm.Cond.privateMethod ({ cls := "FlashVolumes", name := "writeWord", desc := "(II)V" } : Jvm.MethodName)) ∈ lw_tbl := lw_at lw_m1 132 rfl
theorem q152 : (Jvm.Cond.instanceMethod ({ cls := "FlashVolumes", name := "writeWord", desc := "(II)V" } : Jvm.MethodName)) ∈ lw_all := lw_g (lw_at lw_m1 133 rfl) rfl
theorem q153 : (Jvm.Cond.code ({ cls := "FlashVolumes", name := "writeWord", desc := "(II)V" } : Jvm.MethodName) prog_1_method_13_code (3 : Nat) (Option.none : Option Jvm.ClassFile.FieldType)) ∈ lw_all := lw_g (lw_at lw_m1 134 rfl) rfl
theorem q155 : (Jvm.Cond.instanceMethod ({ cls := "FlashVolumes", name := "change", desc := "(I)I" } : Jvm.MethodName)) ∈ lw_all := lw_g (lw_at lw_m1 136 rfl) rfl
theorem q156 : (Jvm.Cond.selects "FlashVolumes" ({ cls := "FlashVolumes", name := "change", desc := "(I)I" } : Jvm.MethodName) ({ cls := "FlashVolumes", name := "change", desc := "(I)I" } : Jvm.MethodName)) ∈ lw_all := lw_g (lw_at lw_m1 137 rfl) rfl
theorem q157 : (Jvm.Cond.code ({ cls := "FlashVolumes", name := "change", desc := "(I)I" } : Jvm.MethodName) prog_1_method_20_code (5 : Nat) (Option.some Jvm.ClassFile.FieldType.int)) ∈ lw_all := lw_g (lw_at lw_m1 138 rfl) rfl
theorem q158 : (Jvm.Cond.methodLink "FlashVolumes" (117 : Nat) ({ cls := "FlashVolumes", name := "writeCopy", desc := "(II)I" } : Jvm.MethodName)) ∈ lw_all := lw_g (lw_at lw_m1 139 rfl) rfl
theorem q159 : (Jvm.Cond.privateMethod ({ cls := "FlashVolumes", name := "writeCopy", desc := "(II)I" } : Jvm.MethodName)) ∈ lw_tbl := lw_at lw_m1 140 rfl
theorem q160 : (Jvm.Cond.instanceMethod ({ cls := "FlashVolumes", name := "writeCopy", desc := "(II)I" } : Jvm.MethodName)) ∈ lw_all := lw_g (lw_at lw_m1 141 rfl) rfl
theorem q161 : (Jvm.Cond.code ({ cls := "FlashVolumes", name := "writeCopy", desc := "(II)I" } : Jvm.MethodName) prog_1_method_14_code (6 : Nat) (Option.some Jvm.ClassFile.FieldType.int)) ∈ lw_all := lw_g (lw_at lw_m1 142 rfl) rfl
theorem q162 : (Jvm.Cond.methodLink "FlashVolumes" (121 : Nat) ({ cls := "FlashVolumes", name := "adopt", desc := "(II)V" } : Jvm.MethodName)) ∈ lw_all := lw_g (lw_at lw_m1 143 rfl) rfl
theorem q163 : (Jvm.Cond.privateMethod ({ cls := "FlashVolumes", name := "adopt", desc := "(II)V" } : Jvm.MethodName)) ∈ lw_tbl := lw_at lw_m1 144 rfl
theorem q164 : (Jvm.Cond.instanceMethod ({ cls := "FlashVolumes", name := "adopt", desc := "(II)V" } : Jvm.MethodName)) ∈ lw_all := lw_g (lw_at lw_m1 145 rfl) rfl
theorem q165 : (Jvm.Cond.code ({ cls := "FlashVolumes", name := "adopt", desc := "(II)V" } : Jvm.MethodName) prog_1_method_15_code (3 : Nat) (Option.none : Option Jvm.ClassFile.FieldType)) ∈ lw_all := lw_g (lw_at lw_m1 146 rfl) rfl
theorem q167 : (Jvm.Cond.instanceMethod ({ cls := "FlashVolumes", name := "drop", desc := "(I)I" } : Jvm.MethodName)) ∈ lw_all := lw_g (lw_at lw_m1 148 rfl) rfl
theorem q168 : (Jvm.Cond.selects "FlashVolumes" ({ cls := "FlashVolumes", name := "drop", desc := "(I)I" } : Jvm.MethodName) ({ cls := "FlashVolumes", name := "drop", desc := "(I)I" } : Jvm.MethodName)) ∈ lw_all := lw_g (lw_at lw_m1 149 rfl) rfl
theorem q169 : (Jvm.Cond.code ({ cls := "FlashVolumes", name := "drop", desc := "(I)I" } : Jvm.MethodName) prog_1_method_21_code (4 : Nat) (Option.some Jvm.ClassFile.FieldType.int)) ∈ lw_all := lw_g (lw_at lw_m1 150 rfl) rfl
theorem q171 : (Jvm.Cond.instanceMethod ({ cls := "FlashVolumes", name := "swap", desc := "(II)I" } : Jvm.MethodName)) ∈ lw_all := lw_g (lw_at lw_m1 152 rfl) rfl
theorem q172 : (Jvm.Cond.selects "FlashVolumes" ({ cls := "FlashVolumes", name := "swap", desc := "(II)I" } : Jvm.MethodName) ({ cls := "FlashVolumes", name := "swap", desc := "(II)I" } : Jvm.MethodName)) ∈ lw_all := lw_g (lw_at lw_m1 153 rfl) rfl
theorem q173 : (Jvm.Cond.code ({ cls := "FlashVolumes", name := "swap", desc := "(II)I" } : Jvm.MethodName) prog_1_method_23_code (7 : Nat) (Option.some Jvm.ClassFile.FieldType.int)) ∈ lw_all := lw_g (lw_at lw_m1 154 rfl) rfl
theorem q174 : (Jvm.Cond.methodLink "FlashVolumes" (124 : Nat) ({ cls := "FlashVolumes", name := "hold", desc := "(I)I" } : Jvm.MethodName)) ∈ lw_all := lw_g (lw_at lw_m1 155 rfl) rfl
theorem q175 : (Jvm.Cond.privateMethod ({ cls := "FlashVolumes", name := "hold", desc := "(I)I" } : Jvm.MethodName)) ∈ lw_tbl := lw_at lw_m1 156 rfl
theorem q176 : (Jvm.Cond.instanceMethod ({ cls := "FlashVolumes", name := "hold", desc := "(I)I" } : Jvm.MethodName)) ∈ lw_all := lw_g (lw_at lw_m1 157 rfl) rfl
theorem q177 : (Jvm.Cond.code ({ cls := "FlashVolumes", name := "hold", desc := "(I)I" } : Jvm.MethodName) prog_1_method_22_code (4 : Nat) (Option.some Jvm.ClassFile.FieldType.int)) ∈ lw_all := lw_g (lw_at lw_m1 158 rfl) rfl
theorem q179 : (Jvm.Cond.instanceMethod ({ cls := "FlashVolumes", name := "size", desc := "(I)I" } : Jvm.MethodName)) ∈ lw_all := lw_g (lw_at lw_m1 160 rfl) rfl
theorem q180 : (Jvm.Cond.selects "FlashVolumes" ({ cls := "FlashVolumes", name := "size", desc := "(I)I" } : Jvm.MethodName) ({ cls := "FlashVolumes", name := "size", desc := "(I)I" } : Jvm.MethodName)) ∈ lw_all := lw_g (lw_at lw_m1 161 rfl) rfl
theorem q181 : (Jvm.Cond.code ({ cls := "FlashVolumes", name := "size", desc := "(I)I" } : Jvm.MethodName) prog_1_method_24_code (2 : Nat) (Option.some Jvm.ClassFile.FieldType.int)) ∈ lw_all := lw_g (lw_at lw_m1 162 rfl) rfl
theorem q183 : (Jvm.Cond.instanceMethod ({ cls := "FlashVolumes", name := "read", desc := "(II)I" } : Jvm.MethodName)) ∈ lw_all := lw_g (lw_at lw_m1 164 rfl) rfl
theorem q184 : (Jvm.Cond.selects "FlashVolumes" ({ cls := "FlashVolumes", name := "read", desc := "(II)I" } : Jvm.MethodName) ({ cls := "FlashVolumes", name := "read", desc := "(II)I" } : Jvm.MethodName)) ∈ lw_all := lw_g (lw_at lw_m1 165 rfl) rfl
theorem q185 : (Jvm.Cond.code ({ cls := "FlashVolumes", name := "read", desc := "(II)I" } : Jvm.MethodName) prog_1_method_25_code (3 : Nat) (Option.some Jvm.ClassFile.FieldType.int)) ∈ lw_all := lw_g (lw_at lw_m1 166 rfl) rfl
theorem q187 : (Jvm.Cond.instanceMethod ({ cls := "FlashVolumes", name := "cutAfter", desc := "(I)I" } : Jvm.MethodName)) ∈ lw_all := lw_g (lw_at lw_m1 168 rfl) rfl
theorem q188 : (Jvm.Cond.selects "FlashVolumes" ({ cls := "FlashVolumes", name := "cutAfter", desc := "(I)I" } : Jvm.MethodName) ({ cls := "FlashVolumes", name := "cutAfter", desc := "(I)I" } : Jvm.MethodName)) ∈ lw_all := lw_g (lw_at lw_m1 169 rfl) rfl
theorem q189 : (Jvm.Cond.code ({ cls := "FlashVolumes", name := "cutAfter", desc := "(I)I" } : Jvm.MethodName) prog_1_method_26_code (2 : Nat) (Option.some Jvm.ClassFile.FieldType.int)) ∈ lw_all := lw_g (lw_at lw_m1 170 rfl) rfl
theorem q191 : (Jvm.Cond.instanceMethod ({ cls := "FlashVolumes", name := "cancel", desc := "()I" } : Jvm.MethodName)) ∈ lw_all := lw_g (lw_at lw_m1 172 rfl) rfl
theorem q192 : (Jvm.Cond.selects "FlashVolumes" ({ cls := "FlashVolumes", name := "cancel", desc := "()I" } : Jvm.MethodName) ({ cls := "FlashVolumes", name := "cancel", desc := "()I" } : Jvm.MethodName)) ∈ lw_all := lw_g (lw_at lw_m1 173 rfl) rfl
theorem q193 : (Jvm.Cond.code ({ cls := "FlashVolumes", name := "cancel", desc := "()I" } : Jvm.MethodName) prog_1_method_27_code (1 : Nat) (Option.some Jvm.ClassFile.FieldType.int)) ∈ lw_all := lw_g (lw_at lw_m1 174 rfl) rfl
theorem q195 : (Jvm.Cond.instanceMethod ({ cls := "FlashVolumes", name := "restart", desc := "()V" } : Jvm.MethodName)) ∈ lw_all := lw_g (lw_at lw_m1 176 rfl) rfl
theorem q196 : (Jvm.Cond.selects "FlashVolumes" ({ cls := "FlashVolumes", name := "restart", desc := "()V" } : Jvm.MethodName) ({ cls := "FlashVolumes", name := "restart", desc := "()V" } : Jvm.MethodName)) ∈ lw_all := lw_g (lw_at lw_m1 177 rfl) rfl
theorem q197 : (Jvm.Cond.code ({ cls := "FlashVolumes", name := "restart", desc := "()V" } : Jvm.MethodName) prog_1_method_28_code (1 : Nat) (Option.none : Option Jvm.ClassFile.FieldType)) ∈ lw_all := lw_g (lw_at lw_m1 178 rfl) rfl
theorem q199 : (Jvm.Cond.instanceMethod ({ cls := "FlashVolumes", name := "drafted", desc := "()I" } : Jvm.MethodName)) ∈ lw_all := lw_g (lw_at lw_m1 180 rfl) rfl
theorem q200 : (Jvm.Cond.selects "FlashVolumes" ({ cls := "FlashVolumes", name := "drafted", desc := "()I" } : Jvm.MethodName) ({ cls := "FlashVolumes", name := "drafted", desc := "()I" } : Jvm.MethodName)) ∈ lw_all := lw_g (lw_at lw_m1 181 rfl) rfl
theorem q201 : (Jvm.Cond.code ({ cls := "FlashVolumes", name := "drafted", desc := "()I" } : Jvm.MethodName) prog_1_method_29_code (1 : Nat) (Option.some Jvm.ClassFile.FieldType.int)) ∈ lw_all := lw_g (lw_at lw_m1 182 rfl) rfl
theorem q203 : (Jvm.Cond.instanceMethod ({ cls := "FlashVolumes", name := "digest", desc := "()I" } : Jvm.MethodName)) ∈ lw_all := lw_g (lw_at lw_m1 184 rfl) rfl
theorem q204 : (Jvm.Cond.selects "FlashVolumes" ({ cls := "FlashVolumes", name := "digest", desc := "()I" } : Jvm.MethodName) ({ cls := "FlashVolumes", name := "digest", desc := "()I" } : Jvm.MethodName)) ∈ lw_all := lw_g (lw_at lw_m1 185 rfl) rfl
theorem q205 : (Jvm.Cond.code ({ cls := "FlashVolumes", name := "digest", desc := "()I" } : Jvm.MethodName) prog_1_method_30_code (5 : Nat) (Option.some Jvm.ClassFile.FieldType.int)) ∈ lw_all := lw_g (lw_at lw_m1 186 rfl) rfl
theorem q207 : (Jvm.Cond.instanceMethod ({ cls := "FlashVolumes", name := "rest", desc := "(I)V" } : Jvm.MethodName)) ∈ lw_all := lw_g (lw_at lw_m1 188 rfl) rfl
theorem q208 : (Jvm.Cond.selects "FlashVolumes" ({ cls := "FlashVolumes", name := "rest", desc := "(I)V" } : Jvm.MethodName) ({ cls := "FlashVolumes", name := "rest", desc := "(I)V" } : Jvm.MethodName)) ∈ lw_all := lw_g (lw_at lw_m1 189 rfl) rfl
theorem q209 : (Jvm.Cond.code ({ cls := "FlashVolumes", name := "rest", desc := "(I)V" } : Jvm.MethodName) prog_1_method_32_code (4 : Nat) (Option.none : Option Jvm.ClassFile.FieldType)) ∈ lw_all := lw_g (lw_at lw_m1 190 rfl) rfl
theorem q210 : (Jvm.Cond.methodLink "FlashVolumes" (127 : Nat) ({ cls := "FlashVolumes", name := "level", desc := "()V" } : Jvm.MethodName)) ∈ lw_all := lw_g (lw_at lw_m1 191 rfl) rfl
theorem q211 : (Jvm.Cond.privateMethod ({ cls := "FlashVolumes", name := "level", desc := "()V" } : Jvm.MethodName)) ∈ lw_tbl := lw_at lw_m1 192 rfl
theorem q212 : (Jvm.Cond.instanceMethod ({ cls := "FlashVolumes", name := "level", desc := "()V" } : Jvm.MethodName)) ∈ lw_all := lw_g (lw_at lw_m1 193 rfl) rfl
theorem q213 : (Jvm.Cond.code ({ cls := "FlashVolumes", name := "level", desc := "()V" } : Jvm.MethodName) prog_1_method_31_code (5 : Nat) (Option.none : Option Jvm.ClassFile.FieldType)) ∈ lw_all := lw_g (lw_at lw_m1 194 rfl) rfl
theorem q215 : (Jvm.Cond.instanceMethod ({ cls := "FlashVolumes", name := "fail", desc := "()V" } : Jvm.MethodName)) ∈ lw_all := lw_g (lw_at lw_m1 196 rfl) rfl
theorem q216 : (Jvm.Cond.selects "FlashVolumes" ({ cls := "FlashVolumes", name := "fail", desc := "()V" } : Jvm.MethodName) ({ cls := "FlashVolumes", name := "fail", desc := "()V" } : Jvm.MethodName)) ∈ lw_all := lw_g (lw_at lw_m1 197 rfl) rfl
theorem q217 : (Jvm.Cond.code ({ cls := "FlashVolumes", name := "fail", desc := "()V" } : Jvm.MethodName) prog_1_method_33_code (1 : Nat) (Option.none : Option Jvm.ClassFile.FieldType)) ∈ lw_all := lw_g (lw_at lw_m1 198 rfl) rfl
theorem in_X0 : ∀ w ∈ wsX00, w ∈ lw_all := lw_in wsX00 [57, 59, 61, 63, 65, 67, 69, 71, 73, 75, 77, 79, 81, 83, 85, 87, 89, 91, 93] (by decide +kernel) (by decide +kernel)
end
section
set_option maxRecDepth 100000
abbrev cX0_init : ByteArray := prog_1_method_1_code
def yX0_init : MethodName := ⟨RX0, "<init>", "()V"⟩
theorem dX0_init_0 : decode cX0_init 0 = .ok (.aload_n 0, 1) := by decide +kernel
theorem dX0_init_1 : decode cX0_init 1 = .ok (.invokespecial 1, 3) := by decide +kernel
theorem dX0_init_4 : decode cX0_init 4 = .ok (.aload_n 0, 1) := by decide +kernel
theorem dX0_init_5 : decode cX0_init 5 = .ok (.bipush 16, 2) := by decide +kernel
theorem dX0_init_7 : decode cX0_init 7 = .ok (.newarray .boolean, 2) := by decide +kernel
theorem dX0_init_9 : decode cX0_init 9 = .ok (.putfield 7, 3) := by decide +kernel
theorem dX0_init_12 : decode cX0_init 12 = .ok (.aload_n 0, 1) := by decide +kernel
theorem dX0_init_13 : decode cX0_init 13 = .ok (.bipush 16, 2) := by decide +kernel
theorem dX0_init_15 : decode cX0_init 15 = .ok (.newarray .boolean, 2) := by decide +kernel
theorem dX0_init_17 : decode cX0_init 17 = .ok (.putfield 13, 3) := by decide +kernel
theorem dX0_init_20 : decode cX0_init 20 = .ok (.aload_n 0, 1) := by decide +kernel
theorem dX0_init_21 : decode cX0_init 21 = .ok (.bipush 16, 2) := by decide +kernel
theorem dX0_init_23 : decode cX0_init 23 = .ok (.newarray .int, 2) := by decide +kernel
theorem dX0_init_25 : decode cX0_init 25 = .ok (.putfield 16, 3) := by decide +kernel
theorem dX0_init_28 : decode cX0_init 28 = .ok (.aload_n 0, 1) := by decide +kernel
theorem dX0_init_29 : decode cX0_init 29 = .ok (.bipush 16, 2) := by decide +kernel
theorem dX0_init_31 : decode cX0_init 31 = .ok (.newarray .int, 2) := by decide +kernel
theorem dX0_init_33 : decode cX0_init 33 = .ok (.putfield 20, 3) := by decide +kernel
theorem dX0_init_36 : decode cX0_init 36 = .ok (.aload_n 0, 1) := by decide +kernel
theorem dX0_init_37 : decode cX0_init 37 = .ok (.bipush 16, 2) := by decide +kernel
theorem dX0_init_39 : decode cX0_init 39 = .ok (.newarray .int, 2) := by decide +kernel
theorem dX0_init_41 : decode cX0_init 41 = .ok (.putfield 23, 3) := by decide +kernel
theorem dX0_init_44 : decode cX0_init 44 = .ok (.aload_n 0, 1) := by decide +kernel
theorem dX0_init_45 : decode cX0_init 45 = .ok (.bipush 16, 2) := by decide +kernel
theorem dX0_init_47 : decode cX0_init 47 = .ok (.newarray .boolean, 2) := by decide +kernel
theorem dX0_init_49 : decode cX0_init 49 = .ok (.putfield 26, 3) := by decide +kernel
theorem dX0_init_52 : decode cX0_init 52 = .ok (.aload_n 0, 1) := by decide +kernel
theorem dX0_init_53 : decode cX0_init 53 = .ok (.bipush 16, 2) := by decide +kernel
theorem dX0_init_55 : decode cX0_init 55 = .ok (.newarray .boolean, 2) := by decide +kernel
theorem dX0_init_57 : decode cX0_init 57 = .ok (.putfield 29, 3) := by decide +kernel
theorem dX0_init_60 : decode cX0_init 60 = .ok (.aload_n 0, 1) := by decide +kernel
theorem dX0_init_61 : decode cX0_init 61 = .ok (.bipush 16, 2) := by decide +kernel
theorem dX0_init_63 : decode cX0_init 63 = .ok (.newarray .boolean, 2) := by decide +kernel
theorem dX0_init_65 : decode cX0_init 65 = .ok (.putfield 32, 3) := by decide +kernel
theorem dX0_init_68 : decode cX0_init 68 = .ok (.aload_n 0, 1) := by decide +kernel
theorem dX0_init_69 : decode cX0_init 69 = .ok (.bipush 16, 2) := by decide +kernel
theorem dX0_init_71 : decode cX0_init 71 = .ok (.newarray .int, 2) := by decide +kernel
theorem dX0_init_73 : decode cX0_init 73 = .ok (.putfield 35, 3) := by decide +kernel
theorem dX0_init_76 : decode cX0_init 76 = .ok (.aload_n 0, 1) := by decide +kernel
theorem dX0_init_77 : decode cX0_init 77 = .ok (.bipush 64, 2) := by decide +kernel
theorem dX0_init_79 : decode cX0_init 79 = .ok (.newarray .int, 2) := by decide +kernel
theorem dX0_init_81 : decode cX0_init 81 = .ok (.putfield 38, 3) := by decide +kernel
theorem dX0_init_84 : decode cX0_init 84 = .ok (.aload_n 0, 1) := by decide +kernel
theorem dX0_init_85 : decode cX0_init 85 = .ok (.bipush 8, 2) := by decide +kernel
theorem dX0_init_87 : decode cX0_init 87 = .ok (.newarray .int, 2) := by decide +kernel
theorem dX0_init_89 : decode cX0_init 89 = .ok (.putfield 41, 3) := by decide +kernel
theorem dX0_init_92 : decode cX0_init 92 = .ok (.aload_n 0, 1) := by decide +kernel
theorem dX0_init_93 : decode cX0_init 93 = .ok (.iconst 4, 1) := by decide +kernel
theorem dX0_init_94 : decode cX0_init 94 = .ok (.newarray .int, 2) := by decide +kernel
theorem dX0_init_96 : decode cX0_init 96 = .ok (.putfield 44, 3) := by decide +kernel
theorem dX0_init_99 : decode cX0_init 99 = .ok (.aload_n 0, 1) := by decide +kernel
theorem dX0_init_100 : decode cX0_init 100 = .ok (.iconst 4, 1) := by decide +kernel
theorem dX0_init_101 : decode cX0_init 101 = .ok (.newarray .int, 2) := by decide +kernel
theorem dX0_init_103 : decode cX0_init 103 = .ok (.putfield 47, 3) := by decide +kernel
theorem dX0_init_106 : decode cX0_init 106 = .ok (.iconst 0, 1) := by decide +kernel
theorem dX0_init_107 : decode cX0_init 107 = .ok (.istore_n 1, 1) := by decide +kernel
theorem dX0_init_108 : decode cX0_init 108 = .ok (.iload_n 1, 1) := by decide +kernel
theorem dX0_init_109 : decode cX0_init 109 = .ok (.bipush 16, 2) := by decide +kernel
theorem dX0_init_111 : decode cX0_init 111 = .ok (.if_icmp .ge 16, 3) := by decide +kernel
theorem dX0_init_114 : decode cX0_init 114 = .ok (.aload_n 0, 1) := by decide +kernel
theorem dX0_init_115 : decode cX0_init 115 = .ok (.getfield 7, 3) := by decide +kernel
theorem dX0_init_118 : decode cX0_init 118 = .ok (.iload_n 1, 1) := by decide +kernel
theorem dX0_init_119 : decode cX0_init 119 = .ok (.iconst 1, 1) := by decide +kernel
theorem dX0_init_120 : decode cX0_init 120 = .ok (.bastore, 1) := by decide +kernel
theorem dX0_init_121 : decode cX0_init 121 = .ok (.iinc 1 1, 3) := by decide +kernel
theorem dX0_init_124 : decode cX0_init 124 = .ok (.goto (-16), 3) := by decide +kernel
theorem dX0_init_127 : decode cX0_init 127 = .ok (.aload_n 0, 1) := by decide +kernel
theorem dX0_init_128 : decode cX0_init 128 = .ok (.invokevirtual 50, 3) := by decide +kernel
theorem dX0_init_131 : decode cX0_init 131 = .ok (.return_, 1) := by decide +kernel
abbrev cX0_attach : ByteArray := prog_1_method_4_code
def yX0_attach : MethodName := ⟨RX0, "attach", "()V"⟩
theorem dX0_attach_0 : decode cX0_attach 0 = .ok (.aload_n 0, 1) := by decide +kernel
theorem dX0_attach_1 : decode cX0_attach 1 = .ok (.iconst 0, 1) := by decide +kernel
theorem dX0_attach_2 : decode cX0_attach 2 = .ok (.putfield 53, 3) := by decide +kernel
theorem dX0_attach_5 : decode cX0_attach 5 = .ok (.aload_n 0, 1) := by decide +kernel
theorem dX0_attach_6 : decode cX0_attach 6 = .ok (.iconst 0, 1) := by decide +kernel
theorem dX0_attach_7 : decode cX0_attach 7 = .ok (.putfield 57, 3) := by decide +kernel
theorem dX0_attach_10 : decode cX0_attach 10 = .ok (.aload_n 0, 1) := by decide +kernel
theorem dX0_attach_11 : decode cX0_attach 11 = .ok (.iconst 1, 1) := by decide +kernel
theorem dX0_attach_12 : decode cX0_attach 12 = .ok (.putfield 61, 3) := by decide +kernel
theorem dX0_attach_15 : decode cX0_attach 15 = .ok (.iconst 0, 1) := by decide +kernel
theorem dX0_attach_16 : decode cX0_attach 16 = .ok (.istore_n 1, 1) := by decide +kernel
theorem dX0_attach_17 : decode cX0_attach 17 = .ok (.iload_n 1, 1) := by decide +kernel
theorem dX0_attach_18 : decode cX0_attach 18 = .ok (.bipush 8, 2) := by decide +kernel
theorem dX0_attach_20 : decode cX0_attach 20 = .ok (.if_icmp .ge 16, 3) := by decide +kernel
theorem dX0_attach_23 : decode cX0_attach 23 = .ok (.aload_n 0, 1) := by decide +kernel
theorem dX0_attach_24 : decode cX0_attach 24 = .ok (.getfield 41, 3) := by decide +kernel
theorem dX0_attach_27 : decode cX0_attach 27 = .ok (.iload_n 1, 1) := by decide +kernel
theorem dX0_attach_28 : decode cX0_attach 28 = .ok (.iconst (-1), 1) := by decide +kernel
theorem dX0_attach_29 : decode cX0_attach 29 = .ok (.iastore, 1) := by decide +kernel
theorem dX0_attach_30 : decode cX0_attach 30 = .ok (.iinc 1 1, 3) := by decide +kernel
theorem dX0_attach_33 : decode cX0_attach 33 = .ok (.goto (-16), 3) := by decide +kernel
theorem dX0_attach_36 : decode cX0_attach 36 = .ok (.iconst 0, 1) := by decide +kernel
theorem dX0_attach_37 : decode cX0_attach 37 = .ok (.istore_n 1, 1) := by decide +kernel
theorem dX0_attach_38 : decode cX0_attach 38 = .ok (.iload_n 1, 1) := by decide +kernel
theorem dX0_attach_39 : decode cX0_attach 39 = .ok (.bipush 16, 2) := by decide +kernel
theorem dX0_attach_41 : decode cX0_attach 41 = .ok (.if_icmp .ge 103, 3) := by decide +kernel
theorem dX0_attach_44 : decode cX0_attach 44 = .ok (.aload_n 0, 1) := by decide +kernel
theorem dX0_attach_45 : decode cX0_attach 45 = .ok (.getfield 7, 3) := by decide +kernel
theorem dX0_attach_48 : decode cX0_attach 48 = .ok (.iload_n 1, 1) := by decide +kernel
theorem dX0_attach_49 : decode cX0_attach 49 = .ok (.baload, 1) := by decide +kernel
theorem dX0_attach_50 : decode cX0_attach 50 = .ok (.ifCond .ne 37, 3) := by decide +kernel
theorem dX0_attach_53 : decode cX0_attach 53 = .ok (.aload_n 0, 1) := by decide +kernel
theorem dX0_attach_54 : decode cX0_attach 54 = .ok (.getfield 13, 3) := by decide +kernel
theorem dX0_attach_57 : decode cX0_attach 57 = .ok (.iload_n 1, 1) := by decide +kernel
theorem dX0_attach_58 : decode cX0_attach 58 = .ok (.baload, 1) := by decide +kernel
theorem dX0_attach_59 : decode cX0_attach 59 = .ok (.ifCond .ne 28, 3) := by decide +kernel
theorem dX0_attach_62 : decode cX0_attach 62 = .ok (.aload_n 0, 1) := by decide +kernel
theorem dX0_attach_63 : decode cX0_attach 63 = .ok (.getfield 23, 3) := by decide +kernel
theorem dX0_attach_66 : decode cX0_attach 66 = .ok (.iload_n 1, 1) := by decide +kernel
theorem dX0_attach_67 : decode cX0_attach 67 = .ok (.iaload, 1) := by decide +kernel
theorem dX0_attach_68 : decode cX0_attach 68 = .ok (.aload_n 0, 1) := by decide +kernel
theorem dX0_attach_69 : decode cX0_attach 69 = .ok (.getfield 61, 3) := by decide +kernel
theorem dX0_attach_72 : decode cX0_attach 72 = .ok (.if_icmp .lt 15, 3) := by decide +kernel
theorem dX0_attach_75 : decode cX0_attach 75 = .ok (.aload_n 0, 1) := by decide +kernel
theorem dX0_attach_76 : decode cX0_attach 76 = .ok (.aload_n 0, 1) := by decide +kernel
theorem dX0_attach_77 : decode cX0_attach 77 = .ok (.getfield 23, 3) := by decide +kernel
theorem dX0_attach_80 : decode cX0_attach 80 = .ok (.iload_n 1, 1) := by decide +kernel
theorem dX0_attach_81 : decode cX0_attach 81 = .ok (.iaload, 1) := by decide +kernel
theorem dX0_attach_82 : decode cX0_attach 82 = .ok (.iconst 1, 1) := by decide +kernel
theorem dX0_attach_83 : decode cX0_attach 83 = .ok (.iadd, 1) := by decide +kernel
theorem dX0_attach_84 : decode cX0_attach 84 = .ok (.putfield 61, 3) := by decide +kernel
theorem dX0_attach_87 : decode cX0_attach 87 = .ok (.aload_n 0, 1) := by decide +kernel
theorem dX0_attach_88 : decode cX0_attach 88 = .ok (.iload_n 1, 1) := by decide +kernel
theorem dX0_attach_89 : decode cX0_attach 89 = .ok (.invokevirtual 64, 3) := by decide +kernel
theorem dX0_attach_92 : decode cX0_attach 92 = .ok (.ifCond .eq 46, 3) := by decide +kernel
theorem dX0_attach_95 : decode cX0_attach 95 = .ok (.aload_n 0, 1) := by decide +kernel
theorem dX0_attach_96 : decode cX0_attach 96 = .ok (.getfield 20, 3) := by decide +kernel
theorem dX0_attach_99 : decode cX0_attach 99 = .ok (.iload_n 1, 1) := by decide +kernel
theorem dX0_attach_100 : decode cX0_attach 100 = .ok (.iaload, 1) := by decide +kernel
theorem dX0_attach_101 : decode cX0_attach 101 = .ok (.istore_n 2, 1) := by decide +kernel
theorem dX0_attach_102 : decode cX0_attach 102 = .ok (.aload_n 0, 1) := by decide +kernel
theorem dX0_attach_103 : decode cX0_attach 103 = .ok (.getfield 41, 3) := by decide +kernel
theorem dX0_attach_106 : decode cX0_attach 106 = .ok (.iload_n 2, 1) := by decide +kernel
theorem dX0_attach_107 : decode cX0_attach 107 = .ok (.iaload, 1) := by decide +kernel
theorem dX0_attach_108 : decode cX0_attach 108 = .ok (.ifCond .lt 23, 3) := by decide +kernel
theorem dX0_attach_111 : decode cX0_attach 111 = .ok (.aload_n 0, 1) := by decide +kernel
theorem dX0_attach_112 : decode cX0_attach 112 = .ok (.getfield 23, 3) := by decide +kernel
theorem dX0_attach_115 : decode cX0_attach 115 = .ok (.iload_n 1, 1) := by decide +kernel
theorem dX0_attach_116 : decode cX0_attach 116 = .ok (.iaload, 1) := by decide +kernel
theorem dX0_attach_117 : decode cX0_attach 117 = .ok (.aload_n 0, 1) := by decide +kernel
theorem dX0_attach_118 : decode cX0_attach 118 = .ok (.getfield 23, 3) := by decide +kernel
theorem dX0_attach_121 : decode cX0_attach 121 = .ok (.aload_n 0, 1) := by decide +kernel
theorem dX0_attach_122 : decode cX0_attach 122 = .ok (.getfield 41, 3) := by decide +kernel
theorem dX0_attach_125 : decode cX0_attach 125 = .ok (.iload_n 2, 1) := by decide +kernel
theorem dX0_attach_126 : decode cX0_attach 126 = .ok (.iaload, 1) := by decide +kernel
theorem dX0_attach_127 : decode cX0_attach 127 = .ok (.iaload, 1) := by decide +kernel
theorem dX0_attach_128 : decode cX0_attach 128 = .ok (.if_icmp .le 10, 3) := by decide +kernel
theorem dX0_attach_131 : decode cX0_attach 131 = .ok (.aload_n 0, 1) := by decide +kernel
theorem dX0_attach_132 : decode cX0_attach 132 = .ok (.getfield 41, 3) := by decide +kernel
theorem dX0_attach_135 : decode cX0_attach 135 = .ok (.iload_n 2, 1) := by decide +kernel
theorem dX0_attach_136 : decode cX0_attach 136 = .ok (.iload_n 1, 1) := by decide +kernel
theorem dX0_attach_137 : decode cX0_attach 137 = .ok (.iastore, 1) := by decide +kernel
theorem dX0_attach_138 : decode cX0_attach 138 = .ok (.iinc 1 1, 3) := by decide +kernel
theorem dX0_attach_141 : decode cX0_attach 141 = .ok (.goto (-103), 3) := by decide +kernel
theorem dX0_attach_144 : decode cX0_attach 144 = .ok (.iconst 0, 1) := by decide +kernel
theorem dX0_attach_145 : decode cX0_attach 145 = .ok (.istore_n 1, 1) := by decide +kernel
theorem dX0_attach_146 : decode cX0_attach 146 = .ok (.iload_n 1, 1) := by decide +kernel
theorem dX0_attach_147 : decode cX0_attach 147 = .ok (.bipush 8, 2) := by decide +kernel
theorem dX0_attach_149 : decode cX0_attach 149 = .ok (.if_icmp .ge 45, 3) := by decide +kernel
theorem dX0_attach_152 : decode cX0_attach 152 = .ok (.aload_n 0, 1) := by decide +kernel
theorem dX0_attach_153 : decode cX0_attach 153 = .ok (.getfield 41, 3) := by decide +kernel
theorem dX0_attach_156 : decode cX0_attach 156 = .ok (.iload_n 1, 1) := by decide +kernel
theorem dX0_attach_157 : decode cX0_attach 157 = .ok (.iaload, 1) := by decide +kernel
theorem dX0_attach_158 : decode cX0_attach 158 = .ok (.istore_n 2, 1) := by decide +kernel
theorem dX0_attach_159 : decode cX0_attach 159 = .ok (.iload_n 2, 1) := by decide +kernel
theorem dX0_attach_160 : decode cX0_attach 160 = .ok (.ifCond .lt 28, 3) := by decide +kernel
theorem dX0_attach_163 : decode cX0_attach 163 = .ok (.aload_n 0, 1) := by decide +kernel
theorem dX0_attach_164 : decode cX0_attach 164 = .ok (.getfield 32, 3) := by decide +kernel
theorem dX0_attach_167 : decode cX0_attach 167 = .ok (.iload_n 2, 1) := by decide +kernel
theorem dX0_attach_168 : decode cX0_attach 168 = .ok (.baload, 1) := by decide +kernel
theorem dX0_attach_169 : decode cX0_attach 169 = .ok (.ifCond .ne 12, 3) := by decide +kernel
theorem dX0_attach_172 : decode cX0_attach 172 = .ok (.aload_n 0, 1) := by decide +kernel
theorem dX0_attach_173 : decode cX0_attach 173 = .ok (.getfield 35, 3) := by decide +kernel
theorem dX0_attach_176 : decode cX0_attach 176 = .ok (.iload_n 2, 1) := by decide +kernel
theorem dX0_attach_177 : decode cX0_attach 177 = .ok (.iaload, 1) := by decide +kernel
theorem dX0_attach_178 : decode cX0_attach 178 = .ok (.ifCond .ne 10, 3) := by decide +kernel
theorem dX0_attach_181 : decode cX0_attach 181 = .ok (.aload_n 0, 1) := by decide +kernel
theorem dX0_attach_182 : decode cX0_attach 182 = .ok (.getfield 41, 3) := by decide +kernel
theorem dX0_attach_185 : decode cX0_attach 185 = .ok (.iload_n 1, 1) := by decide +kernel
theorem dX0_attach_186 : decode cX0_attach 186 = .ok (.iconst (-1), 1) := by decide +kernel
theorem dX0_attach_187 : decode cX0_attach 187 = .ok (.iastore, 1) := by decide +kernel
theorem dX0_attach_188 : decode cX0_attach 188 = .ok (.iinc 1 1, 3) := by decide +kernel
theorem dX0_attach_191 : decode cX0_attach 191 = .ok (.goto (-45), 3) := by decide +kernel
theorem dX0_attach_194 : decode cX0_attach 194 = .ok (.return_, 1) := by decide +kernel
abbrev cX0_sound : ByteArray := prog_1_method_3_code
def yX0_sound : MethodName := ⟨RX0, "sound", "(I)Z"⟩
theorem dX0_sound_0 : decode cX0_sound 0 = .ok (.aload_n 0, 1) := by decide +kernel
theorem dX0_sound_1 : decode cX0_sound 1 = .ok (.getfield 13, 3) := by decide +kernel
theorem dX0_sound_4 : decode cX0_sound 4 = .ok (.iload_n 1, 1) := by decide +kernel
theorem dX0_sound_5 : decode cX0_sound 5 = .ok (.baload, 1) := by decide +kernel
theorem dX0_sound_6 : decode cX0_sound 6 = .ok (.ifCond .ne 34, 3) := by decide +kernel
theorem dX0_sound_9 : decode cX0_sound 9 = .ok (.aload_n 0, 1) := by decide +kernel
theorem dX0_sound_10 : decode cX0_sound 10 = .ok (.getfield 7, 3) := by decide +kernel
theorem dX0_sound_13 : decode cX0_sound 13 = .ok (.iload_n 1, 1) := by decide +kernel
theorem dX0_sound_14 : decode cX0_sound 14 = .ok (.baload, 1) := by decide +kernel
theorem dX0_sound_15 : decode cX0_sound 15 = .ok (.ifCond .ne 25, 3) := by decide +kernel
theorem dX0_sound_18 : decode cX0_sound 18 = .ok (.aload_n 0, 1) := by decide +kernel
theorem dX0_sound_19 : decode cX0_sound 19 = .ok (.getfield 26, 3) := by decide +kernel
theorem dX0_sound_22 : decode cX0_sound 22 = .ok (.iload_n 1, 1) := by decide +kernel
theorem dX0_sound_23 : decode cX0_sound 23 = .ok (.baload, 1) := by decide +kernel
theorem dX0_sound_24 : decode cX0_sound 24 = .ok (.ifCond .ne 12, 3) := by decide +kernel
theorem dX0_sound_27 : decode cX0_sound 27 = .ok (.aload_n 0, 1) := by decide +kernel
theorem dX0_sound_28 : decode cX0_sound 28 = .ok (.getfield 29, 3) := by decide +kernel
theorem dX0_sound_31 : decode cX0_sound 31 = .ok (.iload_n 1, 1) := by decide +kernel
theorem dX0_sound_32 : decode cX0_sound 32 = .ok (.baload, 1) := by decide +kernel
theorem dX0_sound_33 : decode cX0_sound 33 = .ok (.ifCond .eq 7, 3) := by decide +kernel
theorem dX0_sound_36 : decode cX0_sound 36 = .ok (.iconst 1, 1) := by decide +kernel
theorem dX0_sound_37 : decode cX0_sound 37 = .ok (.goto 4, 3) := by decide +kernel
theorem dX0_sound_40 : decode cX0_sound 40 = .ok (.iconst 0, 1) := by decide +kernel
theorem dX0_sound_41 : decode cX0_sound 41 = .ok (.ireturn, 1) := by decide +kernel
abbrev cX0_draft : ByteArray := prog_1_method_16_code
def yX0_draft : MethodName := ⟨RX0, "draft", "(I)I"⟩
theorem dX0_draft_0 : decode cX0_draft 0 = .ok (.aload_n 0, 1) := by decide +kernel
theorem dX0_draft_1 : decode cX0_draft 1 = .ok (.getfield 53, 3) := by decide +kernel
theorem dX0_draft_4 : decode cX0_draft 4 = .ok (.iconst 4, 1) := by decide +kernel
theorem dX0_draft_5 : decode cX0_draft 5 = .ok (.if_icmp .ne 6, 3) := by decide +kernel
theorem dX0_draft_8 : decode cX0_draft 8 = .ok (.bipush (-2), 2) := by decide +kernel
theorem dX0_draft_10 : decode cX0_draft 10 = .ok (.ireturn, 1) := by decide +kernel
theorem dX0_draft_11 : decode cX0_draft 11 = .ok (.aload_n 0, 1) := by decide +kernel
theorem dX0_draft_12 : decode cX0_draft 12 = .ok (.getfield 44, 3) := by decide +kernel
theorem dX0_draft_15 : decode cX0_draft 15 = .ok (.aload_n 0, 1) := by decide +kernel
theorem dX0_draft_16 : decode cX0_draft 16 = .ok (.getfield 53, 3) := by decide +kernel
theorem dX0_draft_19 : decode cX0_draft 19 = .ok (.iload_n 1, 1) := by decide +kernel
theorem dX0_draft_20 : decode cX0_draft 20 = .ok (.iastore, 1) := by decide +kernel
theorem dX0_draft_21 : decode cX0_draft 21 = .ok (.aload_n 0, 1) := by decide +kernel
theorem dX0_draft_22 : decode cX0_draft 22 = .ok (.dup, 1) := by decide +kernel
theorem dX0_draft_23 : decode cX0_draft 23 = .ok (.getfield 53, 3) := by decide +kernel
theorem dX0_draft_26 : decode cX0_draft 26 = .ok (.iconst 1, 1) := by decide +kernel
theorem dX0_draft_27 : decode cX0_draft 27 = .ok (.iadd, 1) := by decide +kernel
theorem dX0_draft_28 : decode cX0_draft 28 = .ok (.putfield 53, 3) := by decide +kernel
theorem dX0_draft_31 : decode cX0_draft 31 = .ok (.aload_n 0, 1) := by decide +kernel
theorem dX0_draft_32 : decode cX0_draft 32 = .ok (.getfield 53, 3) := by decide +kernel
theorem dX0_draft_35 : decode cX0_draft 35 = .ok (.ireturn, 1) := by decide +kernel
abbrev cX0_scrap : ByteArray := prog_1_method_17_code
def yX0_scrap : MethodName := ⟨RX0, "scrap", "()V"⟩
theorem dX0_scrap_0 : decode cX0_scrap 0 = .ok (.aload_n 0, 1) := by decide +kernel
theorem dX0_scrap_1 : decode cX0_scrap 1 = .ok (.iconst 0, 1) := by decide +kernel
theorem dX0_scrap_2 : decode cX0_scrap 2 = .ok (.putfield 53, 3) := by decide +kernel
theorem dX0_scrap_5 : decode cX0_scrap 5 = .ok (.return_, 1) := by decide +kernel
abbrev cX0_append : ByteArray := prog_1_method_19_code
def yX0_append : MethodName := ⟨RX0, "append", "(II)I"⟩
theorem dX0_append_0 : decode cX0_append 0 = .ok (.aload_n 0, 1) := by decide +kernel
theorem dX0_append_1 : decode cX0_append 1 = .ok (.iload_n 1, 1) := by decide +kernel
theorem dX0_append_2 : decode cX0_append 2 = .ok (.invokevirtual 107, 3) := by decide +kernel
theorem dX0_append_5 : decode cX0_append 5 = .ok (.ifCond .eq 5, 3) := by decide +kernel
theorem dX0_append_8 : decode cX0_append 8 = .ok (.iconst (-1), 1) := by decide +kernel
theorem dX0_append_9 : decode cX0_append 9 = .ok (.ireturn, 1) := by decide +kernel
theorem dX0_append_10 : decode cX0_append 10 = .ok (.aload_n 0, 1) := by decide +kernel
theorem dX0_append_11 : decode cX0_append 11 = .ok (.iload_n 1, 1) := by decide +kernel
theorem dX0_append_12 : decode cX0_append 12 = .ok (.invokevirtual 110, 3) := by decide +kernel
theorem dX0_append_15 : decode cX0_append 15 = .ok (.iconst 4, 1) := by decide +kernel
theorem dX0_append_16 : decode cX0_append 16 = .ok (.if_icmp .ne 6, 3) := by decide +kernel
theorem dX0_append_19 : decode cX0_append 19 = .ok (.bipush (-2), 2) := by decide +kernel
theorem dX0_append_21 : decode cX0_append 21 = .ok (.ireturn, 1) := by decide +kernel
theorem dX0_append_22 : decode cX0_append 22 = .ok (.aload_n 0, 1) := by decide +kernel
theorem dX0_append_23 : decode cX0_append 23 = .ok (.getfield 41, 3) := by decide +kernel
theorem dX0_append_26 : decode cX0_append 26 = .ok (.iload_n 1, 1) := by decide +kernel
theorem dX0_append_27 : decode cX0_append 27 = .ok (.iaload, 1) := by decide +kernel
theorem dX0_append_28 : decode cX0_append 28 = .ok (.istore_n 3, 1) := by decide +kernel
theorem dX0_append_29 : decode cX0_append 29 = .ok (.iload_n 3, 1) := by decide +kernel
theorem dX0_append_30 : decode cX0_append 30 = .ok (.ifCond .ge 34, 3) := by decide +kernel
theorem dX0_append_33 : decode cX0_append 33 = .ok (.aload_n 0, 1) := by decide +kernel
theorem dX0_append_34 : decode cX0_append 34 = .ok (.invokevirtual 114, 3) := by decide +kernel
theorem dX0_append_37 : decode cX0_append 37 = .ok (.aload_n 0, 1) := by decide +kernel
theorem dX0_append_38 : decode cX0_append 38 = .ok (.iconst 0, 1) := by decide +kernel
theorem dX0_append_39 : decode cX0_append 39 = .ok (.invokevirtual 92, 3) := by decide +kernel
theorem dX0_append_42 : decode cX0_append 42 = .ok (.istore_n 3, 1) := by decide +kernel
theorem dX0_append_43 : decode cX0_append 43 = .ok (.aload_n 0, 1) := by decide +kernel
theorem dX0_append_44 : decode cX0_append 44 = .ok (.invokevirtual 96, 3) := by decide +kernel
theorem dX0_append_47 : decode cX0_append 47 = .ok (.istore 4, 2) := by decide +kernel
theorem dX0_append_49 : decode cX0_append 49 = .ok (.iload 4, 2) := by decide +kernel
theorem dX0_append_51 : decode cX0_append 51 = .ok (.ifCond .ne 6, 3) := by decide +kernel
theorem dX0_append_54 : decode cX0_append 54 = .ok (.bipush (-9), 2) := by decide +kernel
theorem dX0_append_56 : decode cX0_append 56 = .ok (.ireturn, 1) := by decide +kernel
theorem dX0_append_57 : decode cX0_append 57 = .ok (.aload_n 0, 1) := by decide +kernel
theorem dX0_append_58 : decode cX0_append 58 = .ok (.iload_n 3, 1) := by decide +kernel
theorem dX0_append_59 : decode cX0_append 59 = .ok (.iload_n 1, 1) := by decide +kernel
theorem dX0_append_60 : decode cX0_append 60 = .ok (.iconst 1, 1) := by decide +kernel
theorem dX0_append_61 : decode cX0_append 61 = .ok (.invokevirtual 99, 3) := by decide +kernel
theorem dX0_append_64 : decode cX0_append 64 = .ok (.aload_n 0, 1) := by decide +kernel
theorem dX0_append_65 : decode cX0_append 65 = .ok (.invokevirtual 96, 3) := by decide +kernel
theorem dX0_append_68 : decode cX0_append 68 = .ok (.istore 4, 2) := by decide +kernel
theorem dX0_append_70 : decode cX0_append 70 = .ok (.iload 4, 2) := by decide +kernel
theorem dX0_append_72 : decode cX0_append 72 = .ok (.ifCond .ne 6, 3) := by decide +kernel
theorem dX0_append_75 : decode cX0_append 75 = .ok (.bipush (-9), 2) := by decide +kernel
theorem dX0_append_77 : decode cX0_append 77 = .ok (.ireturn, 1) := by decide +kernel
theorem dX0_append_78 : decode cX0_append 78 = .ok (.aload_n 0, 1) := by decide +kernel
theorem dX0_append_79 : decode cX0_append 79 = .ok (.iload_n 3, 1) := by decide +kernel
theorem dX0_append_80 : decode cX0_append 80 = .ok (.iload_n 2, 1) := by decide +kernel
theorem dX0_append_81 : decode cX0_append 81 = .ok (.invokevirtual 103, 3) := by decide +kernel
theorem dX0_append_84 : decode cX0_append 84 = .ok (.aload_n 0, 1) := by decide +kernel
theorem dX0_append_85 : decode cX0_append 85 = .ok (.getfield 41, 3) := by decide +kernel
theorem dX0_append_88 : decode cX0_append 88 = .ok (.iload_n 1, 1) := by decide +kernel
theorem dX0_append_89 : decode cX0_append 89 = .ok (.iload_n 3, 1) := by decide +kernel
theorem dX0_append_90 : decode cX0_append 90 = .ok (.iastore, 1) := by decide +kernel
theorem dX0_append_91 : decode cX0_append 91 = .ok (.aload_n 0, 1) := by decide +kernel
theorem dX0_append_92 : decode cX0_append 92 = .ok (.getfield 35, 3) := by decide +kernel
theorem dX0_append_95 : decode cX0_append 95 = .ok (.iload_n 3, 1) := by decide +kernel
theorem dX0_append_96 : decode cX0_append 96 = .ok (.iaload, 1) := by decide +kernel
theorem dX0_append_97 : decode cX0_append 97 = .ok (.ireturn, 1) := by decide +kernel
abbrev cX0_badBlock : ByteArray := prog_1_method_2_code
def yX0_badBlock : MethodName := ⟨RX0, "badBlock", "(I)Z"⟩
theorem dX0_badBlock_0 : decode cX0_badBlock 0 = .ok (.iload_n 1, 1) := by decide +kernel
theorem dX0_badBlock_1 : decode cX0_badBlock 1 = .ok (.ifCond .lt 9, 3) := by decide +kernel
theorem dX0_badBlock_4 : decode cX0_badBlock 4 = .ok (.iload_n 1, 1) := by decide +kernel
theorem dX0_badBlock_5 : decode cX0_badBlock 5 = .ok (.bipush 8, 2) := by decide +kernel
theorem dX0_badBlock_7 : decode cX0_badBlock 7 = .ok (.if_icmp .lt 7, 3) := by decide +kernel
theorem dX0_badBlock_10 : decode cX0_badBlock 10 = .ok (.iconst 1, 1) := by decide +kernel
theorem dX0_badBlock_11 : decode cX0_badBlock 11 = .ok (.goto 4, 3) := by decide +kernel
theorem dX0_badBlock_14 : decode cX0_badBlock 14 = .ok (.iconst 0, 1) := by decide +kernel
theorem dX0_badBlock_15 : decode cX0_badBlock 15 = .ok (.ireturn, 1) := by decide +kernel
end
section
set_option maxRecDepth 100000
abbrev cX0_sizeOf : ByteArray := prog_1_method_18_code
def yX0_sizeOf : MethodName := ⟨RX0, "sizeOf", "(I)I"⟩
theorem dX0_sizeOf_0 : decode cX0_sizeOf 0 = .ok (.aload_n 0, 1) := by decide +kernel
theorem dX0_sizeOf_1 : decode cX0_sizeOf 1 = .ok (.getfield 41, 3) := by decide +kernel
theorem dX0_sizeOf_4 : decode cX0_sizeOf 4 = .ok (.iload_n 1, 1) := by decide +kernel
theorem dX0_sizeOf_5 : decode cX0_sizeOf 5 = .ok (.iaload, 1) := by decide +kernel
theorem dX0_sizeOf_6 : decode cX0_sizeOf 6 = .ok (.ifCond .ge 7, 3) := by decide +kernel
theorem dX0_sizeOf_9 : decode cX0_sizeOf 9 = .ok (.iconst 0, 1) := by decide +kernel
theorem dX0_sizeOf_10 : decode cX0_sizeOf 10 = .ok (.goto 14, 3) := by decide +kernel
theorem dX0_sizeOf_13 : decode cX0_sizeOf 13 = .ok (.aload_n 0, 1) := by decide +kernel
theorem dX0_sizeOf_14 : decode cX0_sizeOf 14 = .ok (.getfield 35, 3) := by decide +kernel
theorem dX0_sizeOf_17 : decode cX0_sizeOf 17 = .ok (.aload_n 0, 1) := by decide +kernel
theorem dX0_sizeOf_18 : decode cX0_sizeOf 18 = .ok (.getfield 41, 3) := by decide +kernel
theorem dX0_sizeOf_21 : decode cX0_sizeOf 21 = .ok (.iload_n 1, 1) := by decide +kernel
theorem dX0_sizeOf_22 : decode cX0_sizeOf 22 = .ok (.iaload, 1) := by decide +kernel
theorem dX0_sizeOf_23 : decode cX0_sizeOf 23 = .ok (.iaload, 1) := by decide +kernel
theorem dX0_sizeOf_24 : decode cX0_sizeOf 24 = .ok (.ireturn, 1) := by decide +kernel
abbrev cX0_provide : ByteArray := prog_1_method_10_code
def yX0_provide : MethodName := ⟨RX0, "provide", "()V"⟩
theorem dX0_provide_0 : decode cX0_provide 0 = .ok (.iconst 0, 1) := by decide +kernel
theorem dX0_provide_1 : decode cX0_provide 1 = .ok (.istore_n 1, 1) := by decide +kernel
theorem dX0_provide_2 : decode cX0_provide 2 = .ok (.iload_n 1, 1) := by decide +kernel
theorem dX0_provide_3 : decode cX0_provide 3 = .ok (.bipush 16, 2) := by decide +kernel
theorem dX0_provide_5 : decode cX0_provide 5 = .ok (.if_icmp .ge 22, 3) := by decide +kernel
theorem dX0_provide_8 : decode cX0_provide 8 = .ok (.aload_n 0, 1) := by decide +kernel
theorem dX0_provide_9 : decode cX0_provide 9 = .ok (.invokevirtual 84, 3) := by decide +kernel
theorem dX0_provide_12 : decode cX0_provide 12 = .ok (.iconst 2, 1) := by decide +kernel
theorem dX0_provide_13 : decode cX0_provide 13 = .ok (.if_icmp .ge 14, 3) := by decide +kernel
theorem dX0_provide_16 : decode cX0_provide 16 = .ok (.aload_n 0, 1) := by decide +kernel
theorem dX0_provide_17 : decode cX0_provide 17 = .ok (.invokevirtual 88, 3) := by decide +kernel
theorem dX0_provide_20 : decode cX0_provide 20 = .ok (.pop, 1) := by decide +kernel
theorem dX0_provide_21 : decode cX0_provide 21 = .ok (.iinc 1 1, 3) := by decide +kernel
theorem dX0_provide_24 : decode cX0_provide 24 = .ok (.goto (-22), 3) := by decide +kernel
theorem dX0_provide_27 : decode cX0_provide 27 = .ok (.return_, 1) := by decide +kernel
abbrev cX0_cleanBlocks : ByteArray := prog_1_method_7_code
def yX0_cleanBlocks : MethodName := ⟨RX0, "cleanBlocks", "()I"⟩
theorem dX0_cleanBlocks_0 : decode cX0_cleanBlocks 0 = .ok (.iconst 0, 1) := by decide +kernel
theorem dX0_cleanBlocks_1 : decode cX0_cleanBlocks 1 = .ok (.istore_n 1, 1) := by decide +kernel
theorem dX0_cleanBlocks_2 : decode cX0_cleanBlocks 2 = .ok (.iconst 0, 1) := by decide +kernel
theorem dX0_cleanBlocks_3 : decode cX0_cleanBlocks 3 = .ok (.istore_n 2, 1) := by decide +kernel
theorem dX0_cleanBlocks_4 : decode cX0_cleanBlocks 4 = .ok (.iload_n 2, 1) := by decide +kernel
theorem dX0_cleanBlocks_5 : decode cX0_cleanBlocks 5 = .ok (.bipush 16, 2) := by decide +kernel
theorem dX0_cleanBlocks_7 : decode cX0_cleanBlocks 7 = .ok (.if_icmp .ge 30, 3) := by decide +kernel
theorem dX0_cleanBlocks_10 : decode cX0_cleanBlocks 10 = .ok (.aload_n 0, 1) := by decide +kernel
theorem dX0_cleanBlocks_11 : decode cX0_cleanBlocks 11 = .ok (.getfield 7, 3) := by decide +kernel
theorem dX0_cleanBlocks_14 : decode cX0_cleanBlocks 14 = .ok (.iload_n 2, 1) := by decide +kernel
theorem dX0_cleanBlocks_15 : decode cX0_cleanBlocks 15 = .ok (.baload, 1) := by decide +kernel
theorem dX0_cleanBlocks_16 : decode cX0_cleanBlocks 16 = .ok (.ifCond .eq 15, 3) := by decide +kernel
theorem dX0_cleanBlocks_19 : decode cX0_cleanBlocks 19 = .ok (.aload_n 0, 1) := by decide +kernel
theorem dX0_cleanBlocks_20 : decode cX0_cleanBlocks 20 = .ok (.getfield 13, 3) := by decide +kernel
theorem dX0_cleanBlocks_23 : decode cX0_cleanBlocks 23 = .ok (.iload_n 2, 1) := by decide +kernel
theorem dX0_cleanBlocks_24 : decode cX0_cleanBlocks 24 = .ok (.baload, 1) := by decide +kernel
theorem dX0_cleanBlocks_25 : decode cX0_cleanBlocks 25 = .ok (.ifCond .ne 6, 3) := by decide +kernel
theorem dX0_cleanBlocks_28 : decode cX0_cleanBlocks 28 = .ok (.iinc 1 1, 3) := by decide +kernel
theorem dX0_cleanBlocks_31 : decode cX0_cleanBlocks 31 = .ok (.iinc 2 1, 3) := by decide +kernel
theorem dX0_cleanBlocks_34 : decode cX0_cleanBlocks 34 = .ok (.goto (-30), 3) := by decide +kernel
theorem dX0_cleanBlocks_37 : decode cX0_cleanBlocks 37 = .ok (.iload_n 1, 1) := by decide +kernel
theorem dX0_cleanBlocks_38 : decode cX0_cleanBlocks 38 = .ok (.ireturn, 1) := by decide +kernel
abbrev cX0_reclaim : ByteArray := prog_1_method_9_code
def yX0_reclaim : MethodName := ⟨RX0, "reclaim", "()Z"⟩
theorem dX0_reclaim_0 : decode cX0_reclaim 0 = .ok (.iconst (-1), 1) := by decide +kernel
theorem dX0_reclaim_1 : decode cX0_reclaim 1 = .ok (.istore_n 1, 1) := by decide +kernel
theorem dX0_reclaim_2 : decode cX0_reclaim 2 = .ok (.iconst 0, 1) := by decide +kernel
theorem dX0_reclaim_3 : decode cX0_reclaim 3 = .ok (.istore_n 2, 1) := by decide +kernel
theorem dX0_reclaim_4 : decode cX0_reclaim 4 = .ok (.iload_n 2, 1) := by decide +kernel
theorem dX0_reclaim_5 : decode cX0_reclaim 5 = .ok (.bipush 16, 2) := by decide +kernel
theorem dX0_reclaim_7 : decode cX0_reclaim 7 = .ok (.if_icmp .ge 66, 3) := by decide +kernel
theorem dX0_reclaim_10 : decode cX0_reclaim 10 = .ok (.aload_n 0, 1) := by decide +kernel
theorem dX0_reclaim_11 : decode cX0_reclaim 11 = .ok (.getfield 7, 3) := by decide +kernel
theorem dX0_reclaim_14 : decode cX0_reclaim 14 = .ok (.iload_n 2, 1) := by decide +kernel
theorem dX0_reclaim_15 : decode cX0_reclaim 15 = .ok (.baload, 1) := by decide +kernel
theorem dX0_reclaim_16 : decode cX0_reclaim 16 = .ok (.ifCond .ne 24, 3) := by decide +kernel
theorem dX0_reclaim_19 : decode cX0_reclaim 19 = .ok (.aload_n 0, 1) := by decide +kernel
theorem dX0_reclaim_20 : decode cX0_reclaim 20 = .ok (.getfield 13, 3) := by decide +kernel
theorem dX0_reclaim_23 : decode cX0_reclaim 23 = .ok (.iload_n 2, 1) := by decide +kernel
theorem dX0_reclaim_24 : decode cX0_reclaim 24 = .ok (.baload, 1) := by decide +kernel
theorem dX0_reclaim_25 : decode cX0_reclaim 25 = .ok (.ifCond .ne 15, 3) := by decide +kernel
theorem dX0_reclaim_28 : decode cX0_reclaim 28 = .ok (.aload_n 0, 1) := by decide +kernel
theorem dX0_reclaim_29 : decode cX0_reclaim 29 = .ok (.iload_n 2, 1) := by decide +kernel
theorem dX0_reclaim_30 : decode cX0_reclaim 30 = .ok (.invokevirtual 77, 3) := by decide +kernel
theorem dX0_reclaim_33 : decode cX0_reclaim 33 = .ok (.ifCond .ne 7, 3) := by decide +kernel
theorem dX0_reclaim_36 : decode cX0_reclaim 36 = .ok (.iconst 1, 1) := by decide +kernel
theorem dX0_reclaim_37 : decode cX0_reclaim 37 = .ok (.goto 4, 3) := by decide +kernel
theorem dX0_reclaim_40 : decode cX0_reclaim 40 = .ok (.iconst 0, 1) := by decide +kernel
theorem dX0_reclaim_41 : decode cX0_reclaim 41 = .ok (.istore_n 3, 1) := by decide +kernel
theorem dX0_reclaim_42 : decode cX0_reclaim 42 = .ok (.iload_n 3, 1) := by decide +kernel
theorem dX0_reclaim_43 : decode cX0_reclaim 43 = .ok (.ifCond .eq 24, 3) := by decide +kernel
theorem dX0_reclaim_46 : decode cX0_reclaim 46 = .ok (.iload_n 1, 1) := by decide +kernel
theorem dX0_reclaim_47 : decode cX0_reclaim 47 = .ok (.ifCond .lt 18, 3) := by decide +kernel
theorem dX0_reclaim_50 : decode cX0_reclaim 50 = .ok (.aload_n 0, 1) := by decide +kernel
theorem dX0_reclaim_51 : decode cX0_reclaim 51 = .ok (.getfield 23, 3) := by decide +kernel
theorem dX0_reclaim_54 : decode cX0_reclaim 54 = .ok (.iload_n 2, 1) := by decide +kernel
theorem dX0_reclaim_55 : decode cX0_reclaim 55 = .ok (.iaload, 1) := by decide +kernel
theorem dX0_reclaim_56 : decode cX0_reclaim 56 = .ok (.aload_n 0, 1) := by decide +kernel
theorem dX0_reclaim_57 : decode cX0_reclaim 57 = .ok (.getfield 23, 3) := by decide +kernel
theorem dX0_reclaim_60 : decode cX0_reclaim 60 = .ok (.iload_n 1, 1) := by decide +kernel
theorem dX0_reclaim_61 : decode cX0_reclaim 61 = .ok (.iaload, 1) := by decide +kernel
theorem dX0_reclaim_62 : decode cX0_reclaim 62 = .ok (.if_icmp .ge 5, 3) := by decide +kernel
theorem dX0_reclaim_65 : decode cX0_reclaim 65 = .ok (.iload_n 2, 1) := by decide +kernel
theorem dX0_reclaim_66 : decode cX0_reclaim 66 = .ok (.istore_n 1, 1) := by decide +kernel
theorem dX0_reclaim_67 : decode cX0_reclaim 67 = .ok (.iinc 2 1, 3) := by decide +kernel
theorem dX0_reclaim_70 : decode cX0_reclaim 70 = .ok (.goto (-66), 3) := by decide +kernel
theorem dX0_reclaim_73 : decode cX0_reclaim 73 = .ok (.iload_n 1, 1) := by decide +kernel
theorem dX0_reclaim_74 : decode cX0_reclaim 74 = .ok (.ifCond .ge 5, 3) := by decide +kernel
theorem dX0_reclaim_77 : decode cX0_reclaim 77 = .ok (.iconst 0, 1) := by decide +kernel
theorem dX0_reclaim_78 : decode cX0_reclaim 78 = .ok (.ireturn, 1) := by decide +kernel
theorem dX0_reclaim_79 : decode cX0_reclaim 79 = .ok (.aload_n 0, 1) := by decide +kernel
theorem dX0_reclaim_80 : decode cX0_reclaim 80 = .ok (.iload_n 1, 1) := by decide +kernel
theorem dX0_reclaim_81 : decode cX0_reclaim 81 = .ok (.invokevirtual 80, 3) := by decide +kernel
theorem dX0_reclaim_84 : decode cX0_reclaim 84 = .ok (.iconst 1, 1) := by decide +kernel
theorem dX0_reclaim_85 : decode cX0_reclaim 85 = .ok (.ireturn, 1) := by decide +kernel
abbrev cX0_inUse : ByteArray := prog_1_method_6_code
def yX0_inUse : MethodName := ⟨RX0, "inUse", "(I)Z"⟩
theorem dX0_inUse_0 : decode cX0_inUse 0 = .ok (.iconst 0, 1) := by decide +kernel
theorem dX0_inUse_1 : decode cX0_inUse 1 = .ok (.istore_n 2, 1) := by decide +kernel
theorem dX0_inUse_2 : decode cX0_inUse 2 = .ok (.iconst 0, 1) := by decide +kernel
theorem dX0_inUse_3 : decode cX0_inUse 3 = .ok (.istore_n 3, 1) := by decide +kernel
theorem dX0_inUse_4 : decode cX0_inUse 4 = .ok (.iload_n 3, 1) := by decide +kernel
theorem dX0_inUse_5 : decode cX0_inUse 5 = .ok (.bipush 8, 2) := by decide +kernel
theorem dX0_inUse_7 : decode cX0_inUse 7 = .ok (.if_icmp .ge 29, 3) := by decide +kernel
theorem dX0_inUse_10 : decode cX0_inUse 10 = .ok (.iload_n 2, 1) := by decide +kernel
theorem dX0_inUse_11 : decode cX0_inUse 11 = .ok (.ifCond .ne 13, 3) := by decide +kernel
theorem dX0_inUse_14 : decode cX0_inUse 14 = .ok (.aload_n 0, 1) := by decide +kernel
theorem dX0_inUse_15 : decode cX0_inUse 15 = .ok (.getfield 41, 3) := by decide +kernel
theorem dX0_inUse_18 : decode cX0_inUse 18 = .ok (.iload_n 3, 1) := by decide +kernel
theorem dX0_inUse_19 : decode cX0_inUse 19 = .ok (.iaload, 1) := by decide +kernel
theorem dX0_inUse_20 : decode cX0_inUse 20 = .ok (.iload_n 1, 1) := by decide +kernel
theorem dX0_inUse_21 : decode cX0_inUse 21 = .ok (.if_icmp .ne 7, 3) := by decide +kernel
theorem dX0_inUse_24 : decode cX0_inUse 24 = .ok (.iconst 1, 1) := by decide +kernel
theorem dX0_inUse_25 : decode cX0_inUse 25 = .ok (.goto 4, 3) := by decide +kernel
theorem dX0_inUse_28 : decode cX0_inUse 28 = .ok (.iconst 0, 1) := by decide +kernel
theorem dX0_inUse_29 : decode cX0_inUse 29 = .ok (.istore_n 2, 1) := by decide +kernel
theorem dX0_inUse_30 : decode cX0_inUse 30 = .ok (.iinc 3 1, 3) := by decide +kernel
theorem dX0_inUse_33 : decode cX0_inUse 33 = .ok (.goto (-29), 3) := by decide +kernel
theorem dX0_inUse_36 : decode cX0_inUse 36 = .ok (.iload_n 2, 1) := by decide +kernel
theorem dX0_inUse_37 : decode cX0_inUse 37 = .ok (.ireturn, 1) := by decide +kernel
abbrev cX0_erase : ByteArray := prog_1_method_8_code
def yX0_erase : MethodName := ⟨RX0, "erase", "(I)V"⟩
theorem dX0_erase_0 : decode cX0_erase 0 = .ok (.aload_n 0, 1) := by decide +kernel
theorem dX0_erase_1 : decode cX0_erase 1 = .ok (.getfield 71, 3) := by decide +kernel
theorem dX0_erase_4 : decode cX0_erase 4 = .ok (.ifCond .eq 34, 3) := by decide +kernel
theorem dX0_erase_7 : decode cX0_erase 7 = .ok (.aload_n 0, 1) := by decide +kernel
theorem dX0_erase_8 : decode cX0_erase 8 = .ok (.getfield 74, 3) := by decide +kernel
theorem dX0_erase_11 : decode cX0_erase 11 = .ok (.iconst 3, 1) := by decide +kernel
theorem dX0_erase_12 : decode cX0_erase 12 = .ok (.if_icmp .ge 26, 3) := by decide +kernel
theorem dX0_erase_15 : decode cX0_erase 15 = .ok (.aload_n 0, 1) := by decide +kernel
theorem dX0_erase_16 : decode cX0_erase 16 = .ok (.getfield 13, 3) := by decide +kernel
theorem dX0_erase_19 : decode cX0_erase 19 = .ok (.iload_n 1, 1) := by decide +kernel
theorem dX0_erase_20 : decode cX0_erase 20 = .ok (.iconst 1, 1) := by decide +kernel
theorem dX0_erase_21 : decode cX0_erase 21 = .ok (.bastore, 1) := by decide +kernel
theorem dX0_erase_22 : decode cX0_erase 22 = .ok (.aload_n 0, 1) := by decide +kernel
theorem dX0_erase_23 : decode cX0_erase 23 = .ok (.dup, 1) := by decide +kernel
theorem dX0_erase_24 : decode cX0_erase 24 = .ok (.getfield 74, 3) := by decide +kernel
theorem dX0_erase_27 : decode cX0_erase 27 = .ok (.iconst 1, 1) := by decide +kernel
theorem dX0_erase_28 : decode cX0_erase 28 = .ok (.iadd, 1) := by decide +kernel
theorem dX0_erase_29 : decode cX0_erase 29 = .ok (.putfield 74, 3) := by decide +kernel
theorem dX0_erase_32 : decode cX0_erase 32 = .ok (.aload_n 0, 1) := by decide +kernel
theorem dX0_erase_33 : decode cX0_erase 33 = .ok (.iconst 0, 1) := by decide +kernel
theorem dX0_erase_34 : decode cX0_erase 34 = .ok (.putfield 71, 3) := by decide +kernel
theorem dX0_erase_37 : decode cX0_erase 37 = .ok (.return_, 1) := by decide +kernel
theorem dX0_erase_38 : decode cX0_erase 38 = .ok (.aload_n 0, 1) := by decide +kernel
theorem dX0_erase_39 : decode cX0_erase 39 = .ok (.getfield 7, 3) := by decide +kernel
theorem dX0_erase_42 : decode cX0_erase 42 = .ok (.iload_n 1, 1) := by decide +kernel
theorem dX0_erase_43 : decode cX0_erase 43 = .ok (.iconst 1, 1) := by decide +kernel
theorem dX0_erase_44 : decode cX0_erase 44 = .ok (.bastore, 1) := by decide +kernel
theorem dX0_erase_45 : decode cX0_erase 45 = .ok (.aload_n 0, 1) := by decide +kernel
theorem dX0_erase_46 : decode cX0_erase 46 = .ok (.getfield 16, 3) := by decide +kernel
theorem dX0_erase_49 : decode cX0_erase 49 = .ok (.iload_n 1, 1) := by decide +kernel
theorem dX0_erase_50 : decode cX0_erase 50 = .ok (.aload_n 0, 1) := by decide +kernel
theorem dX0_erase_51 : decode cX0_erase 51 = .ok (.getfield 16, 3) := by decide +kernel
theorem dX0_erase_54 : decode cX0_erase 54 = .ok (.iload_n 1, 1) := by decide +kernel
theorem dX0_erase_55 : decode cX0_erase 55 = .ok (.iaload, 1) := by decide +kernel
theorem dX0_erase_56 : decode cX0_erase 56 = .ok (.iconst 1, 1) := by decide +kernel
theorem dX0_erase_57 : decode cX0_erase 57 = .ok (.iadd, 1) := by decide +kernel
theorem dX0_erase_58 : decode cX0_erase 58 = .ok (.iastore, 1) := by decide +kernel
theorem dX0_erase_59 : decode cX0_erase 59 = .ok (.return_, 1) := by decide +kernel
abbrev cX0_pick : ByteArray := prog_1_method_11_code
def yX0_pick : MethodName := ⟨RX0, "pick", "(Z)I"⟩
theorem dX0_pick_0 : decode cX0_pick 0 = .ok (.iconst (-1), 1) := by decide +kernel
theorem dX0_pick_1 : decode cX0_pick 1 = .ok (.istore_n 2, 1) := by decide +kernel
theorem dX0_pick_2 : decode cX0_pick 2 = .ok (.iconst 0, 1) := by decide +kernel
theorem dX0_pick_3 : decode cX0_pick 3 = .ok (.istore_n 3, 1) := by decide +kernel
theorem dX0_pick_4 : decode cX0_pick 4 = .ok (.iload_n 3, 1) := by decide +kernel
theorem dX0_pick_5 : decode cX0_pick 5 = .ok (.bipush 16, 2) := by decide +kernel
theorem dX0_pick_7 : decode cX0_pick 7 = .ok (.if_icmp .ge 82, 3) := by decide +kernel
theorem dX0_pick_10 : decode cX0_pick 10 = .ok (.aload_n 0, 1) := by decide +kernel
theorem dX0_pick_11 : decode cX0_pick 11 = .ok (.getfield 7, 3) := by decide +kernel
theorem dX0_pick_14 : decode cX0_pick 14 = .ok (.iload_n 3, 1) := by decide +kernel
theorem dX0_pick_15 : decode cX0_pick 15 = .ok (.baload, 1) := by decide +kernel
theorem dX0_pick_16 : decode cX0_pick 16 = .ok (.ifCond .eq 67, 3) := by decide +kernel
theorem dX0_pick_19 : decode cX0_pick 19 = .ok (.aload_n 0, 1) := by decide +kernel
theorem dX0_pick_20 : decode cX0_pick 20 = .ok (.getfield 13, 3) := by decide +kernel
theorem dX0_pick_23 : decode cX0_pick 23 = .ok (.iload_n 3, 1) := by decide +kernel
theorem dX0_pick_24 : decode cX0_pick 24 = .ok (.baload, 1) := by decide +kernel
theorem dX0_pick_25 : decode cX0_pick 25 = .ok (.ifCond .ne 58, 3) := by decide +kernel
theorem dX0_pick_28 : decode cX0_pick 28 = .ok (.iload_n 2, 1) := by decide +kernel
theorem dX0_pick_29 : decode cX0_pick 29 = .ok (.ifCond .lt 40, 3) := by decide +kernel
theorem dX0_pick_32 : decode cX0_pick 32 = .ok (.iload_n 1, 1) := by decide +kernel
theorem dX0_pick_33 : decode cX0_pick 33 = .ok (.ifCond .eq 21, 3) := by decide +kernel
theorem dX0_pick_36 : decode cX0_pick 36 = .ok (.aload_n 0, 1) := by decide +kernel
theorem dX0_pick_37 : decode cX0_pick 37 = .ok (.getfield 16, 3) := by decide +kernel
theorem dX0_pick_40 : decode cX0_pick 40 = .ok (.iload_n 3, 1) := by decide +kernel
theorem dX0_pick_41 : decode cX0_pick 41 = .ok (.iaload, 1) := by decide +kernel
theorem dX0_pick_42 : decode cX0_pick 42 = .ok (.aload_n 0, 1) := by decide +kernel
theorem dX0_pick_43 : decode cX0_pick 43 = .ok (.getfield 16, 3) := by decide +kernel
theorem dX0_pick_46 : decode cX0_pick 46 = .ok (.iload_n 2, 1) := by decide +kernel
theorem dX0_pick_47 : decode cX0_pick 47 = .ok (.iaload, 1) := by decide +kernel
theorem dX0_pick_48 : decode cX0_pick 48 = .ok (.if_icmp .le 25, 3) := by decide +kernel
theorem dX0_pick_51 : decode cX0_pick 51 = .ok (.goto 18, 3) := by decide +kernel
theorem dX0_pick_54 : decode cX0_pick 54 = .ok (.aload_n 0, 1) := by decide +kernel
theorem dX0_pick_55 : decode cX0_pick 55 = .ok (.getfield 16, 3) := by decide +kernel
theorem dX0_pick_58 : decode cX0_pick 58 = .ok (.iload_n 3, 1) := by decide +kernel
theorem dX0_pick_59 : decode cX0_pick 59 = .ok (.iaload, 1) := by decide +kernel
theorem dX0_pick_60 : decode cX0_pick 60 = .ok (.aload_n 0, 1) := by decide +kernel
theorem dX0_pick_61 : decode cX0_pick 61 = .ok (.getfield 16, 3) := by decide +kernel
theorem dX0_pick_64 : decode cX0_pick 64 = .ok (.iload_n 2, 1) := by decide +kernel
theorem dX0_pick_65 : decode cX0_pick 65 = .ok (.iaload, 1) := by decide +kernel
theorem dX0_pick_66 : decode cX0_pick 66 = .ok (.if_icmp .ge 7, 3) := by decide +kernel
theorem dX0_pick_69 : decode cX0_pick 69 = .ok (.iconst 1, 1) := by decide +kernel
theorem dX0_pick_70 : decode cX0_pick 70 = .ok (.goto 4, 3) := by decide +kernel
theorem dX0_pick_73 : decode cX0_pick 73 = .ok (.iconst 0, 1) := by decide +kernel
theorem dX0_pick_74 : decode cX0_pick 74 = .ok (.istore 4, 2) := by decide +kernel
theorem dX0_pick_76 : decode cX0_pick 76 = .ok (.iload 4, 2) := by decide +kernel
theorem dX0_pick_78 : decode cX0_pick 78 = .ok (.ifCond .eq 5, 3) := by decide +kernel
theorem dX0_pick_81 : decode cX0_pick 81 = .ok (.iload_n 3, 1) := by decide +kernel
theorem dX0_pick_82 : decode cX0_pick 82 = .ok (.istore_n 2, 1) := by decide +kernel
theorem dX0_pick_83 : decode cX0_pick 83 = .ok (.iinc 3 1, 3) := by decide +kernel
theorem dX0_pick_86 : decode cX0_pick 86 = .ok (.goto (-82), 3) := by decide +kernel
theorem dX0_pick_89 : decode cX0_pick 89 = .ok (.iload_n 2, 1) := by decide +kernel
theorem dX0_pick_90 : decode cX0_pick 90 = .ok (.ireturn, 1) := by decide +kernel
abbrev cX0_step : ByteArray := prog_1_method_5_code
def yX0_step : MethodName := ⟨RX0, "step", "()Z"⟩
theorem dX0_step_0 : decode cX0_step 0 = .ok (.aload_n 0, 1) := by decide +kernel
theorem dX0_step_1 : decode cX0_step 1 = .ok (.getfield 57, 3) := by decide +kernel
theorem dX0_step_4 : decode cX0_step 4 = .ok (.ifCond .eq 16, 3) := by decide +kernel
theorem dX0_step_7 : decode cX0_step 7 = .ok (.aload_n 0, 1) := by decide +kernel
theorem dX0_step_8 : decode cX0_step 8 = .ok (.getfield 68, 3) := by decide +kernel
theorem dX0_step_11 : decode cX0_step 11 = .ok (.ifCond .ne 9, 3) := by decide +kernel
theorem dX0_step_14 : decode cX0_step 14 = .ok (.aload_n 0, 1) := by decide +kernel
theorem dX0_step_15 : decode cX0_step 15 = .ok (.invokevirtual 50, 3) := by decide +kernel
theorem dX0_step_18 : decode cX0_step 18 = .ok (.iconst 0, 1) := by decide +kernel
theorem dX0_step_19 : decode cX0_step 19 = .ok (.ireturn, 1) := by decide +kernel
theorem dX0_step_20 : decode cX0_step 20 = .ok (.aload_n 0, 1) := by decide +kernel
theorem dX0_step_21 : decode cX0_step 21 = .ok (.getfield 57, 3) := by decide +kernel
theorem dX0_step_24 : decode cX0_step 24 = .ok (.ifCond .eq 13, 3) := by decide +kernel
theorem dX0_step_27 : decode cX0_step 27 = .ok (.aload_n 0, 1) := by decide +kernel
theorem dX0_step_28 : decode cX0_step 28 = .ok (.dup, 1) := by decide +kernel
theorem dX0_step_29 : decode cX0_step 29 = .ok (.getfield 68, 3) := by decide +kernel
theorem dX0_step_32 : decode cX0_step 32 = .ok (.iconst 1, 1) := by decide +kernel
theorem dX0_step_33 : decode cX0_step 33 = .ok (.isub, 1) := by decide +kernel
theorem dX0_step_34 : decode cX0_step 34 = .ok (.putfield 68, 3) := by decide +kernel
theorem dX0_step_37 : decode cX0_step 37 = .ok (.iconst 1, 1) := by decide +kernel
theorem dX0_step_38 : decode cX0_step 38 = .ok (.ireturn, 1) := by decide +kernel
abbrev cX0_writeHeader : ByteArray := prog_1_method_12_code
def yX0_writeHeader : MethodName := ⟨RX0, "writeHeader", "(IIZ)V"⟩
theorem dX0_writeHeader_0 : decode cX0_writeHeader 0 = .ok (.aload_n 0, 1) := by decide +kernel
theorem dX0_writeHeader_1 : decode cX0_writeHeader 1 = .ok (.getfield 7, 3) := by decide +kernel
theorem dX0_writeHeader_4 : decode cX0_writeHeader 4 = .ok (.iload_n 1, 1) := by decide +kernel
theorem dX0_writeHeader_5 : decode cX0_writeHeader 5 = .ok (.iconst 0, 1) := by decide +kernel
theorem dX0_writeHeader_6 : decode cX0_writeHeader 6 = .ok (.bastore, 1) := by decide +kernel
theorem dX0_writeHeader_7 : decode cX0_writeHeader 7 = .ok (.aload_n 0, 1) := by decide +kernel
theorem dX0_writeHeader_8 : decode cX0_writeHeader 8 = .ok (.getfield 20, 3) := by decide +kernel
theorem dX0_writeHeader_11 : decode cX0_writeHeader 11 = .ok (.iload_n 1, 1) := by decide +kernel
theorem dX0_writeHeader_12 : decode cX0_writeHeader 12 = .ok (.iload_n 2, 1) := by decide +kernel
theorem dX0_writeHeader_13 : decode cX0_writeHeader 13 = .ok (.iastore, 1) := by decide +kernel
theorem dX0_writeHeader_14 : decode cX0_writeHeader 14 = .ok (.aload_n 0, 1) := by decide +kernel
theorem dX0_writeHeader_15 : decode cX0_writeHeader 15 = .ok (.getfield 23, 3) := by decide +kernel
theorem dX0_writeHeader_18 : decode cX0_writeHeader 18 = .ok (.iload_n 1, 1) := by decide +kernel
theorem dX0_writeHeader_19 : decode cX0_writeHeader 19 = .ok (.aload_n 0, 1) := by decide +kernel
theorem dX0_writeHeader_20 : decode cX0_writeHeader 20 = .ok (.getfield 61, 3) := by decide +kernel
theorem dX0_writeHeader_23 : decode cX0_writeHeader 23 = .ok (.iastore, 1) := by decide +kernel
theorem dX0_writeHeader_24 : decode cX0_writeHeader 24 = .ok (.aload_n 0, 1) := by decide +kernel
theorem dX0_writeHeader_25 : decode cX0_writeHeader 25 = .ok (.dup, 1) := by decide +kernel
theorem dX0_writeHeader_26 : decode cX0_writeHeader 26 = .ok (.getfield 61, 3) := by decide +kernel
theorem dX0_writeHeader_29 : decode cX0_writeHeader 29 = .ok (.iconst 1, 1) := by decide +kernel
theorem dX0_writeHeader_30 : decode cX0_writeHeader 30 = .ok (.iadd, 1) := by decide +kernel
theorem dX0_writeHeader_31 : decode cX0_writeHeader 31 = .ok (.putfield 61, 3) := by decide +kernel
theorem dX0_writeHeader_34 : decode cX0_writeHeader 34 = .ok (.aload_n 0, 1) := by decide +kernel
theorem dX0_writeHeader_35 : decode cX0_writeHeader 35 = .ok (.getfield 26, 3) := by decide +kernel
theorem dX0_writeHeader_38 : decode cX0_writeHeader 38 = .ok (.iload_n 1, 1) := by decide +kernel
theorem dX0_writeHeader_39 : decode cX0_writeHeader 39 = .ok (.iload_n 3, 1) := by decide +kernel
theorem dX0_writeHeader_40 : decode cX0_writeHeader 40 = .ok (.bastore, 1) := by decide +kernel
theorem dX0_writeHeader_41 : decode cX0_writeHeader 41 = .ok (.aload_n 0, 1) := by decide +kernel
theorem dX0_writeHeader_42 : decode cX0_writeHeader 42 = .ok (.getfield 29, 3) := by decide +kernel
theorem dX0_writeHeader_45 : decode cX0_writeHeader 45 = .ok (.iload_n 1, 1) := by decide +kernel
theorem dX0_writeHeader_46 : decode cX0_writeHeader 46 = .ok (.iconst 0, 1) := by decide +kernel
theorem dX0_writeHeader_47 : decode cX0_writeHeader 47 = .ok (.bastore, 1) := by decide +kernel
theorem dX0_writeHeader_48 : decode cX0_writeHeader 48 = .ok (.aload_n 0, 1) := by decide +kernel
theorem dX0_writeHeader_49 : decode cX0_writeHeader 49 = .ok (.getfield 32, 3) := by decide +kernel
theorem dX0_writeHeader_52 : decode cX0_writeHeader 52 = .ok (.iload_n 1, 1) := by decide +kernel
theorem dX0_writeHeader_53 : decode cX0_writeHeader 53 = .ok (.iconst 0, 1) := by decide +kernel
theorem dX0_writeHeader_54 : decode cX0_writeHeader 54 = .ok (.bastore, 1) := by decide +kernel
theorem dX0_writeHeader_55 : decode cX0_writeHeader 55 = .ok (.aload_n 0, 1) := by decide +kernel
theorem dX0_writeHeader_56 : decode cX0_writeHeader 56 = .ok (.getfield 35, 3) := by decide +kernel
theorem dX0_writeHeader_59 : decode cX0_writeHeader 59 = .ok (.iload_n 1, 1) := by decide +kernel
theorem dX0_writeHeader_60 : decode cX0_writeHeader 60 = .ok (.iconst 0, 1) := by decide +kernel
theorem dX0_writeHeader_61 : decode cX0_writeHeader 61 = .ok (.iastore, 1) := by decide +kernel
theorem dX0_writeHeader_62 : decode cX0_writeHeader 62 = .ok (.return_, 1) := by decide +kernel
abbrev cX0_writeWord : ByteArray := prog_1_method_13_code
def yX0_writeWord : MethodName := ⟨RX0, "writeWord", "(II)V"⟩
theorem dX0_writeWord_0 : decode cX0_writeWord 0 = .ok (.aload_n 0, 1) := by decide +kernel
theorem dX0_writeWord_1 : decode cX0_writeWord 1 = .ok (.getfield 38, 3) := by decide +kernel
theorem dX0_writeWord_4 : decode cX0_writeWord 4 = .ok (.iload_n 1, 1) := by decide +kernel
theorem dX0_writeWord_5 : decode cX0_writeWord 5 = .ok (.iconst 4, 1) := by decide +kernel
theorem dX0_writeWord_6 : decode cX0_writeWord 6 = .ok (.imul, 1) := by decide +kernel
theorem dX0_writeWord_7 : decode cX0_writeWord 7 = .ok (.aload_n 0, 1) := by decide +kernel
theorem dX0_writeWord_8 : decode cX0_writeWord 8 = .ok (.getfield 35, 3) := by decide +kernel
theorem dX0_writeWord_11 : decode cX0_writeWord 11 = .ok (.iload_n 1, 1) := by decide +kernel
theorem dX0_writeWord_12 : decode cX0_writeWord 12 = .ok (.iaload, 1) := by decide +kernel
theorem dX0_writeWord_13 : decode cX0_writeWord 13 = .ok (.iadd, 1) := by decide +kernel
theorem dX0_writeWord_14 : decode cX0_writeWord 14 = .ok (.iload_n 2, 1) := by decide +kernel
theorem dX0_writeWord_15 : decode cX0_writeWord 15 = .ok (.iastore, 1) := by decide +kernel
theorem dX0_writeWord_16 : decode cX0_writeWord 16 = .ok (.aload_n 0, 1) := by decide +kernel
theorem dX0_writeWord_17 : decode cX0_writeWord 17 = .ok (.getfield 35, 3) := by decide +kernel
theorem dX0_writeWord_20 : decode cX0_writeWord 20 = .ok (.iload_n 1, 1) := by decide +kernel
theorem dX0_writeWord_21 : decode cX0_writeWord 21 = .ok (.aload_n 0, 1) := by decide +kernel
theorem dX0_writeWord_22 : decode cX0_writeWord 22 = .ok (.getfield 35, 3) := by decide +kernel
theorem dX0_writeWord_25 : decode cX0_writeWord 25 = .ok (.iload_n 1, 1) := by decide +kernel
theorem dX0_writeWord_26 : decode cX0_writeWord 26 = .ok (.iaload, 1) := by decide +kernel
theorem dX0_writeWord_27 : decode cX0_writeWord 27 = .ok (.iconst 1, 1) := by decide +kernel
theorem dX0_writeWord_28 : decode cX0_writeWord 28 = .ok (.iadd, 1) := by decide +kernel
theorem dX0_writeWord_29 : decode cX0_writeWord 29 = .ok (.iastore, 1) := by decide +kernel
theorem dX0_writeWord_30 : decode cX0_writeWord 30 = .ok (.return_, 1) := by decide +kernel
end
section
set_option maxRecDepth 100000
abbrev cX0_change : ByteArray := prog_1_method_20_code
def yX0_change : MethodName := ⟨RX0, "change", "(I)I"⟩
theorem dX0_change_0 : decode cX0_change 0 = .ok (.aload_n 0, 1) := by decide +kernel
theorem dX0_change_1 : decode cX0_change 1 = .ok (.iload_n 1, 1) := by decide +kernel
theorem dX0_change_2 : decode cX0_change 2 = .ok (.invokevirtual 107, 3) := by decide +kernel
theorem dX0_change_5 : decode cX0_change 5 = .ok (.ifCond .eq 5, 3) := by decide +kernel
theorem dX0_change_8 : decode cX0_change 8 = .ok (.iconst (-1), 1) := by decide +kernel
theorem dX0_change_9 : decode cX0_change 9 = .ok (.ireturn, 1) := by decide +kernel
theorem dX0_change_10 : decode cX0_change 10 = .ok (.aload_n 0, 1) := by decide +kernel
theorem dX0_change_11 : decode cX0_change 11 = .ok (.getfield 53, 3) := by decide +kernel
theorem dX0_change_14 : decode cX0_change 14 = .ok (.istore_n 2, 1) := by decide +kernel
theorem dX0_change_15 : decode cX0_change 15 = .ok (.iconst 0, 1) := by decide +kernel
theorem dX0_change_16 : decode cX0_change 16 = .ok (.istore_n 3, 1) := by decide +kernel
theorem dX0_change_17 : decode cX0_change 17 = .ok (.iload_n 3, 1) := by decide +kernel
theorem dX0_change_18 : decode cX0_change 18 = .ok (.iload_n 2, 1) := by decide +kernel
theorem dX0_change_19 : decode cX0_change 19 = .ok (.if_icmp .ge 21, 3) := by decide +kernel
theorem dX0_change_22 : decode cX0_change 22 = .ok (.aload_n 0, 1) := by decide +kernel
theorem dX0_change_23 : decode cX0_change 23 = .ok (.getfield 47, 3) := by decide +kernel
theorem dX0_change_26 : decode cX0_change 26 = .ok (.iload_n 3, 1) := by decide +kernel
theorem dX0_change_27 : decode cX0_change 27 = .ok (.aload_n 0, 1) := by decide +kernel
theorem dX0_change_28 : decode cX0_change 28 = .ok (.getfield 44, 3) := by decide +kernel
theorem dX0_change_31 : decode cX0_change 31 = .ok (.iload_n 3, 1) := by decide +kernel
theorem dX0_change_32 : decode cX0_change 32 = .ok (.iaload, 1) := by decide +kernel
theorem dX0_change_33 : decode cX0_change 33 = .ok (.iastore, 1) := by decide +kernel
theorem dX0_change_34 : decode cX0_change 34 = .ok (.iinc 3 1, 3) := by decide +kernel
theorem dX0_change_37 : decode cX0_change 37 = .ok (.goto (-20), 3) := by decide +kernel
theorem dX0_change_40 : decode cX0_change 40 = .ok (.aload_n 0, 1) := by decide +kernel
theorem dX0_change_41 : decode cX0_change 41 = .ok (.invokevirtual 114, 3) := by decide +kernel
theorem dX0_change_44 : decode cX0_change 44 = .ok (.aload_n 0, 1) := by decide +kernel
theorem dX0_change_45 : decode cX0_change 45 = .ok (.iload_n 1, 1) := by decide +kernel
theorem dX0_change_46 : decode cX0_change 46 = .ok (.iload_n 2, 1) := by decide +kernel
theorem dX0_change_47 : decode cX0_change 47 = .ok (.invokevirtual 117, 3) := by decide +kernel
theorem dX0_change_50 : decode cX0_change 50 = .ok (.istore_n 3, 1) := by decide +kernel
theorem dX0_change_51 : decode cX0_change 51 = .ok (.iload_n 3, 1) := by decide +kernel
theorem dX0_change_52 : decode cX0_change 52 = .ok (.ifCond .ge 6, 3) := by decide +kernel
theorem dX0_change_55 : decode cX0_change 55 = .ok (.bipush (-9), 2) := by decide +kernel
theorem dX0_change_57 : decode cX0_change 57 = .ok (.ireturn, 1) := by decide +kernel
theorem dX0_change_58 : decode cX0_change 58 = .ok (.aload_n 0, 1) := by decide +kernel
theorem dX0_change_59 : decode cX0_change 59 = .ok (.invokevirtual 96, 3) := by decide +kernel
theorem dX0_change_62 : decode cX0_change 62 = .ok (.istore 4, 2) := by decide +kernel
theorem dX0_change_64 : decode cX0_change 64 = .ok (.iload 4, 2) := by decide +kernel
theorem dX0_change_66 : decode cX0_change 66 = .ok (.ifCond .ne 6, 3) := by decide +kernel
theorem dX0_change_69 : decode cX0_change 69 = .ok (.bipush (-9), 2) := by decide +kernel
theorem dX0_change_71 : decode cX0_change 71 = .ok (.ireturn, 1) := by decide +kernel
theorem dX0_change_72 : decode cX0_change 72 = .ok (.aload_n 0, 1) := by decide +kernel
theorem dX0_change_73 : decode cX0_change 73 = .ok (.getfield 29, 3) := by decide +kernel
theorem dX0_change_76 : decode cX0_change 76 = .ok (.iload_n 3, 1) := by decide +kernel
theorem dX0_change_77 : decode cX0_change 77 = .ok (.iconst 1, 1) := by decide +kernel
theorem dX0_change_78 : decode cX0_change 78 = .ok (.bastore, 1) := by decide +kernel
theorem dX0_change_79 : decode cX0_change 79 = .ok (.aload_n 0, 1) := by decide +kernel
theorem dX0_change_80 : decode cX0_change 80 = .ok (.iload_n 1, 1) := by decide +kernel
theorem dX0_change_81 : decode cX0_change 81 = .ok (.iload_n 3, 1) := by decide +kernel
theorem dX0_change_82 : decode cX0_change 82 = .ok (.invokevirtual 121, 3) := by decide +kernel
theorem dX0_change_85 : decode cX0_change 85 = .ok (.aload_n 0, 1) := by decide +kernel
theorem dX0_change_86 : decode cX0_change 86 = .ok (.iconst 0, 1) := by decide +kernel
theorem dX0_change_87 : decode cX0_change 87 = .ok (.putfield 53, 3) := by decide +kernel
theorem dX0_change_90 : decode cX0_change 90 = .ok (.iload_n 2, 1) := by decide +kernel
theorem dX0_change_91 : decode cX0_change 91 = .ok (.ireturn, 1) := by decide +kernel
abbrev cX0_writeCopy : ByteArray := prog_1_method_14_code
def yX0_writeCopy : MethodName := ⟨RX0, "writeCopy", "(II)I"⟩
theorem dX0_writeCopy_0 : decode cX0_writeCopy 0 = .ok (.aload_n 0, 1) := by decide +kernel
theorem dX0_writeCopy_1 : decode cX0_writeCopy 1 = .ok (.iconst 0, 1) := by decide +kernel
theorem dX0_writeCopy_2 : decode cX0_writeCopy 2 = .ok (.invokevirtual 92, 3) := by decide +kernel
theorem dX0_writeCopy_5 : decode cX0_writeCopy 5 = .ok (.istore_n 3, 1) := by decide +kernel
theorem dX0_writeCopy_6 : decode cX0_writeCopy 6 = .ok (.aload_n 0, 1) := by decide +kernel
theorem dX0_writeCopy_7 : decode cX0_writeCopy 7 = .ok (.invokevirtual 96, 3) := by decide +kernel
theorem dX0_writeCopy_10 : decode cX0_writeCopy 10 = .ok (.istore 4, 2) := by decide +kernel
theorem dX0_writeCopy_12 : decode cX0_writeCopy 12 = .ok (.iload 4, 2) := by decide +kernel
theorem dX0_writeCopy_14 : decode cX0_writeCopy 14 = .ok (.ifCond .ne 6, 3) := by decide +kernel
theorem dX0_writeCopy_17 : decode cX0_writeCopy 17 = .ok (.bipush (-9), 2) := by decide +kernel
theorem dX0_writeCopy_19 : decode cX0_writeCopy 19 = .ok (.ireturn, 1) := by decide +kernel
theorem dX0_writeCopy_20 : decode cX0_writeCopy 20 = .ok (.aload_n 0, 1) := by decide +kernel
theorem dX0_writeCopy_21 : decode cX0_writeCopy 21 = .ok (.iload_n 3, 1) := by decide +kernel
theorem dX0_writeCopy_22 : decode cX0_writeCopy 22 = .ok (.iload_n 1, 1) := by decide +kernel
theorem dX0_writeCopy_23 : decode cX0_writeCopy 23 = .ok (.iconst 0, 1) := by decide +kernel
theorem dX0_writeCopy_24 : decode cX0_writeCopy 24 = .ok (.invokevirtual 99, 3) := by decide +kernel
theorem dX0_writeCopy_27 : decode cX0_writeCopy 27 = .ok (.iconst 0, 1) := by decide +kernel
theorem dX0_writeCopy_28 : decode cX0_writeCopy 28 = .ok (.istore 5, 2) := by decide +kernel
theorem dX0_writeCopy_30 : decode cX0_writeCopy 30 = .ok (.iload 5, 2) := by decide +kernel
theorem dX0_writeCopy_32 : decode cX0_writeCopy 32 = .ok (.iload_n 2, 1) := by decide +kernel
theorem dX0_writeCopy_33 : decode cX0_writeCopy 33 = .ok (.if_icmp .ge 35, 3) := by decide +kernel
theorem dX0_writeCopy_36 : decode cX0_writeCopy 36 = .ok (.aload_n 0, 1) := by decide +kernel
theorem dX0_writeCopy_37 : decode cX0_writeCopy 37 = .ok (.invokevirtual 96, 3) := by decide +kernel
theorem dX0_writeCopy_40 : decode cX0_writeCopy 40 = .ok (.istore 4, 2) := by decide +kernel
theorem dX0_writeCopy_42 : decode cX0_writeCopy 42 = .ok (.iload 4, 2) := by decide +kernel
theorem dX0_writeCopy_44 : decode cX0_writeCopy 44 = .ok (.ifCond .ne 6, 3) := by decide +kernel
theorem dX0_writeCopy_47 : decode cX0_writeCopy 47 = .ok (.bipush (-9), 2) := by decide +kernel
theorem dX0_writeCopy_49 : decode cX0_writeCopy 49 = .ok (.ireturn, 1) := by decide +kernel
theorem dX0_writeCopy_50 : decode cX0_writeCopy 50 = .ok (.aload_n 0, 1) := by decide +kernel
theorem dX0_writeCopy_51 : decode cX0_writeCopy 51 = .ok (.iload_n 3, 1) := by decide +kernel
theorem dX0_writeCopy_52 : decode cX0_writeCopy 52 = .ok (.aload_n 0, 1) := by decide +kernel
theorem dX0_writeCopy_53 : decode cX0_writeCopy 53 = .ok (.getfield 47, 3) := by decide +kernel
theorem dX0_writeCopy_56 : decode cX0_writeCopy 56 = .ok (.iload 5, 2) := by decide +kernel
theorem dX0_writeCopy_58 : decode cX0_writeCopy 58 = .ok (.iaload, 1) := by decide +kernel
theorem dX0_writeCopy_59 : decode cX0_writeCopy 59 = .ok (.invokevirtual 103, 3) := by decide +kernel
theorem dX0_writeCopy_62 : decode cX0_writeCopy 62 = .ok (.iinc 5 1, 3) := by decide +kernel
theorem dX0_writeCopy_65 : decode cX0_writeCopy 65 = .ok (.goto (-35), 3) := by decide +kernel
theorem dX0_writeCopy_68 : decode cX0_writeCopy 68 = .ok (.iload_n 3, 1) := by decide +kernel
theorem dX0_writeCopy_69 : decode cX0_writeCopy 69 = .ok (.ireturn, 1) := by decide +kernel
abbrev cX0_adopt : ByteArray := prog_1_method_15_code
def yX0_adopt : MethodName := ⟨RX0, "adopt", "(II)V"⟩
theorem dX0_adopt_0 : decode cX0_adopt 0 = .ok (.aload_n 0, 1) := by decide +kernel
theorem dX0_adopt_1 : decode cX0_adopt 1 = .ok (.getfield 41, 3) := by decide +kernel
theorem dX0_adopt_4 : decode cX0_adopt 4 = .ok (.iload_n 1, 1) := by decide +kernel
theorem dX0_adopt_5 : decode cX0_adopt 5 = .ok (.aload_n 0, 1) := by decide +kernel
theorem dX0_adopt_6 : decode cX0_adopt 6 = .ok (.getfield 35, 3) := by decide +kernel
theorem dX0_adopt_9 : decode cX0_adopt 9 = .ok (.iload_n 2, 1) := by decide +kernel
theorem dX0_adopt_10 : decode cX0_adopt 10 = .ok (.iaload, 1) := by decide +kernel
theorem dX0_adopt_11 : decode cX0_adopt 11 = .ok (.ifCond .ne 7, 3) := by decide +kernel
theorem dX0_adopt_14 : decode cX0_adopt 14 = .ok (.iconst (-1), 1) := by decide +kernel
theorem dX0_adopt_15 : decode cX0_adopt 15 = .ok (.goto 4, 3) := by decide +kernel
theorem dX0_adopt_18 : decode cX0_adopt 18 = .ok (.iload_n 2, 1) := by decide +kernel
theorem dX0_adopt_19 : decode cX0_adopt 19 = .ok (.iastore, 1) := by decide +kernel
theorem dX0_adopt_20 : decode cX0_adopt 20 = .ok (.return_, 1) := by decide +kernel
abbrev cX0_drop : ByteArray := prog_1_method_21_code
def yX0_drop : MethodName := ⟨RX0, "drop", "(I)I"⟩
theorem dX0_drop_0 : decode cX0_drop 0 = .ok (.aload_n 0, 1) := by decide +kernel
theorem dX0_drop_1 : decode cX0_drop 1 = .ok (.iload_n 1, 1) := by decide +kernel
theorem dX0_drop_2 : decode cX0_drop 2 = .ok (.invokevirtual 107, 3) := by decide +kernel
theorem dX0_drop_5 : decode cX0_drop 5 = .ok (.ifCond .eq 5, 3) := by decide +kernel
theorem dX0_drop_8 : decode cX0_drop 8 = .ok (.iconst (-1), 1) := by decide +kernel
theorem dX0_drop_9 : decode cX0_drop 9 = .ok (.ireturn, 1) := by decide +kernel
theorem dX0_drop_10 : decode cX0_drop 10 = .ok (.aload_n 0, 1) := by decide +kernel
theorem dX0_drop_11 : decode cX0_drop 11 = .ok (.iload_n 1, 1) := by decide +kernel
theorem dX0_drop_12 : decode cX0_drop 12 = .ok (.invokevirtual 110, 3) := by decide +kernel
theorem dX0_drop_15 : decode cX0_drop 15 = .ok (.istore_n 2, 1) := by decide +kernel
theorem dX0_drop_16 : decode cX0_drop 16 = .ok (.iload_n 2, 1) := by decide +kernel
theorem dX0_drop_17 : decode cX0_drop 17 = .ok (.ifCond .ne 6, 3) := by decide +kernel
theorem dX0_drop_20 : decode cX0_drop 20 = .ok (.bipush (-4), 2) := by decide +kernel
theorem dX0_drop_22 : decode cX0_drop 22 = .ok (.ireturn, 1) := by decide +kernel
theorem dX0_drop_23 : decode cX0_drop 23 = .ok (.aload_n 0, 1) := by decide +kernel
theorem dX0_drop_24 : decode cX0_drop 24 = .ok (.invokevirtual 96, 3) := by decide +kernel
theorem dX0_drop_27 : decode cX0_drop 27 = .ok (.istore_n 3, 1) := by decide +kernel
theorem dX0_drop_28 : decode cX0_drop 28 = .ok (.iload_n 3, 1) := by decide +kernel
theorem dX0_drop_29 : decode cX0_drop 29 = .ok (.ifCond .ne 6, 3) := by decide +kernel
theorem dX0_drop_32 : decode cX0_drop 32 = .ok (.bipush (-9), 2) := by decide +kernel
theorem dX0_drop_34 : decode cX0_drop 34 = .ok (.ireturn, 1) := by decide +kernel
theorem dX0_drop_35 : decode cX0_drop 35 = .ok (.aload_n 0, 1) := by decide +kernel
theorem dX0_drop_36 : decode cX0_drop 36 = .ok (.getfield 32, 3) := by decide +kernel
theorem dX0_drop_39 : decode cX0_drop 39 = .ok (.aload_n 0, 1) := by decide +kernel
theorem dX0_drop_40 : decode cX0_drop 40 = .ok (.getfield 41, 3) := by decide +kernel
theorem dX0_drop_43 : decode cX0_drop 43 = .ok (.iload_n 1, 1) := by decide +kernel
theorem dX0_drop_44 : decode cX0_drop 44 = .ok (.iaload, 1) := by decide +kernel
theorem dX0_drop_45 : decode cX0_drop 45 = .ok (.iconst 1, 1) := by decide +kernel
theorem dX0_drop_46 : decode cX0_drop 46 = .ok (.bastore, 1) := by decide +kernel
theorem dX0_drop_47 : decode cX0_drop 47 = .ok (.aload_n 0, 1) := by decide +kernel
theorem dX0_drop_48 : decode cX0_drop 48 = .ok (.getfield 41, 3) := by decide +kernel
theorem dX0_drop_51 : decode cX0_drop 51 = .ok (.iload_n 1, 1) := by decide +kernel
theorem dX0_drop_52 : decode cX0_drop 52 = .ok (.iconst (-1), 1) := by decide +kernel
theorem dX0_drop_53 : decode cX0_drop 53 = .ok (.iastore, 1) := by decide +kernel
theorem dX0_drop_54 : decode cX0_drop 54 = .ok (.iload_n 2, 1) := by decide +kernel
theorem dX0_drop_55 : decode cX0_drop 55 = .ok (.ireturn, 1) := by decide +kernel
abbrev cX0_swap : ByteArray := prog_1_method_23_code
def yX0_swap : MethodName := ⟨RX0, "swap", "(II)I"⟩
theorem dX0_swap_0 : decode cX0_swap 0 = .ok (.aload_n 0, 1) := by decide +kernel
theorem dX0_swap_1 : decode cX0_swap 1 = .ok (.iload_n 1, 1) := by decide +kernel
theorem dX0_swap_2 : decode cX0_swap 2 = .ok (.invokevirtual 107, 3) := by decide +kernel
theorem dX0_swap_5 : decode cX0_swap 5 = .ok (.ifCond .ne 11, 3) := by decide +kernel
theorem dX0_swap_8 : decode cX0_swap 8 = .ok (.aload_n 0, 1) := by decide +kernel
theorem dX0_swap_9 : decode cX0_swap 9 = .ok (.iload_n 2, 1) := by decide +kernel
theorem dX0_swap_10 : decode cX0_swap 10 = .ok (.invokevirtual 107, 3) := by decide +kernel
theorem dX0_swap_13 : decode cX0_swap 13 = .ok (.ifCond .eq 5, 3) := by decide +kernel
theorem dX0_swap_16 : decode cX0_swap 16 = .ok (.iconst (-1), 1) := by decide +kernel
theorem dX0_swap_17 : decode cX0_swap 17 = .ok (.ireturn, 1) := by decide +kernel
theorem dX0_swap_18 : decode cX0_swap 18 = .ok (.iload_n 1, 1) := by decide +kernel
theorem dX0_swap_19 : decode cX0_swap 19 = .ok (.iload_n 2, 1) := by decide +kernel
theorem dX0_swap_20 : decode cX0_swap 20 = .ok (.if_icmp .ne 5, 3) := by decide +kernel
theorem dX0_swap_23 : decode cX0_swap 23 = .ok (.iconst 0, 1) := by decide +kernel
theorem dX0_swap_24 : decode cX0_swap 24 = .ok (.ireturn, 1) := by decide +kernel
theorem dX0_swap_25 : decode cX0_swap 25 = .ok (.aload_n 0, 1) := by decide +kernel
theorem dX0_swap_26 : decode cX0_swap 26 = .ok (.invokevirtual 114, 3) := by decide +kernel
theorem dX0_swap_29 : decode cX0_swap 29 = .ok (.aload_n 0, 1) := by decide +kernel
theorem dX0_swap_30 : decode cX0_swap 30 = .ok (.iload_n 2, 1) := by decide +kernel
theorem dX0_swap_31 : decode cX0_swap 31 = .ok (.invokevirtual 124, 3) := by decide +kernel
theorem dX0_swap_34 : decode cX0_swap 34 = .ok (.istore_n 3, 1) := by decide +kernel
theorem dX0_swap_35 : decode cX0_swap 35 = .ok (.aload_n 0, 1) := by decide +kernel
theorem dX0_swap_36 : decode cX0_swap 36 = .ok (.iload_n 1, 1) := by decide +kernel
theorem dX0_swap_37 : decode cX0_swap 37 = .ok (.iload_n 3, 1) := by decide +kernel
theorem dX0_swap_38 : decode cX0_swap 38 = .ok (.invokevirtual 117, 3) := by decide +kernel
theorem dX0_swap_41 : decode cX0_swap 41 = .ok (.istore 4, 2) := by decide +kernel
theorem dX0_swap_43 : decode cX0_swap 43 = .ok (.iload 4, 2) := by decide +kernel
theorem dX0_swap_45 : decode cX0_swap 45 = .ok (.ifCond .ge 6, 3) := by decide +kernel
theorem dX0_swap_48 : decode cX0_swap 48 = .ok (.bipush (-9), 2) := by decide +kernel
theorem dX0_swap_50 : decode cX0_swap 50 = .ok (.ireturn, 1) := by decide +kernel
theorem dX0_swap_51 : decode cX0_swap 51 = .ok (.aload_n 0, 1) := by decide +kernel
theorem dX0_swap_52 : decode cX0_swap 52 = .ok (.iload_n 1, 1) := by decide +kernel
theorem dX0_swap_53 : decode cX0_swap 53 = .ok (.invokevirtual 124, 3) := by decide +kernel
theorem dX0_swap_56 : decode cX0_swap 56 = .ok (.istore_n 3, 1) := by decide +kernel
theorem dX0_swap_57 : decode cX0_swap 57 = .ok (.aload_n 0, 1) := by decide +kernel
theorem dX0_swap_58 : decode cX0_swap 58 = .ok (.iload_n 2, 1) := by decide +kernel
theorem dX0_swap_59 : decode cX0_swap 59 = .ok (.iload_n 3, 1) := by decide +kernel
theorem dX0_swap_60 : decode cX0_swap 60 = .ok (.invokevirtual 117, 3) := by decide +kernel
theorem dX0_swap_63 : decode cX0_swap 63 = .ok (.istore 5, 2) := by decide +kernel
theorem dX0_swap_65 : decode cX0_swap 65 = .ok (.iload 5, 2) := by decide +kernel
theorem dX0_swap_67 : decode cX0_swap 67 = .ok (.ifCond .ge 6, 3) := by decide +kernel
theorem dX0_swap_70 : decode cX0_swap 70 = .ok (.bipush (-9), 2) := by decide +kernel
theorem dX0_swap_72 : decode cX0_swap 72 = .ok (.ireturn, 1) := by decide +kernel
theorem dX0_swap_73 : decode cX0_swap 73 = .ok (.aload_n 0, 1) := by decide +kernel
theorem dX0_swap_74 : decode cX0_swap 74 = .ok (.invokevirtual 96, 3) := by decide +kernel
theorem dX0_swap_77 : decode cX0_swap 77 = .ok (.istore 6, 2) := by decide +kernel
theorem dX0_swap_79 : decode cX0_swap 79 = .ok (.iload 6, 2) := by decide +kernel
theorem dX0_swap_81 : decode cX0_swap 81 = .ok (.ifCond .ne 6, 3) := by decide +kernel
theorem dX0_swap_84 : decode cX0_swap 84 = .ok (.bipush (-9), 2) := by decide +kernel
theorem dX0_swap_86 : decode cX0_swap 86 = .ok (.ireturn, 1) := by decide +kernel
theorem dX0_swap_87 : decode cX0_swap 87 = .ok (.aload_n 0, 1) := by decide +kernel
theorem dX0_swap_88 : decode cX0_swap 88 = .ok (.getfield 29, 3) := by decide +kernel
theorem dX0_swap_91 : decode cX0_swap 91 = .ok (.iload 4, 2) := by decide +kernel
theorem dX0_swap_93 : decode cX0_swap 93 = .ok (.iconst 1, 1) := by decide +kernel
theorem dX0_swap_94 : decode cX0_swap 94 = .ok (.bastore, 1) := by decide +kernel
theorem dX0_swap_95 : decode cX0_swap 95 = .ok (.aload_n 0, 1) := by decide +kernel
theorem dX0_swap_96 : decode cX0_swap 96 = .ok (.getfield 29, 3) := by decide +kernel
theorem dX0_swap_99 : decode cX0_swap 99 = .ok (.iload 5, 2) := by decide +kernel
theorem dX0_swap_101 : decode cX0_swap 101 = .ok (.iconst 1, 1) := by decide +kernel
theorem dX0_swap_102 : decode cX0_swap 102 = .ok (.bastore, 1) := by decide +kernel
theorem dX0_swap_103 : decode cX0_swap 103 = .ok (.aload_n 0, 1) := by decide +kernel
theorem dX0_swap_104 : decode cX0_swap 104 = .ok (.iload_n 1, 1) := by decide +kernel
theorem dX0_swap_105 : decode cX0_swap 105 = .ok (.iload 4, 2) := by decide +kernel
theorem dX0_swap_107 : decode cX0_swap 107 = .ok (.invokevirtual 121, 3) := by decide +kernel
theorem dX0_swap_110 : decode cX0_swap 110 = .ok (.aload_n 0, 1) := by decide +kernel
theorem dX0_swap_111 : decode cX0_swap 111 = .ok (.iload_n 2, 1) := by decide +kernel
theorem dX0_swap_112 : decode cX0_swap 112 = .ok (.iload 5, 2) := by decide +kernel
theorem dX0_swap_114 : decode cX0_swap 114 = .ok (.invokevirtual 121, 3) := by decide +kernel
theorem dX0_swap_117 : decode cX0_swap 117 = .ok (.iconst 0, 1) := by decide +kernel
theorem dX0_swap_118 : decode cX0_swap 118 = .ok (.ireturn, 1) := by decide +kernel
abbrev cX0_hold : ByteArray := prog_1_method_22_code
def yX0_hold : MethodName := ⟨RX0, "hold", "(I)I"⟩
theorem dX0_hold_0 : decode cX0_hold 0 = .ok (.aload_n 0, 1) := by decide +kernel
theorem dX0_hold_1 : decode cX0_hold 1 = .ok (.iload_n 1, 1) := by decide +kernel
theorem dX0_hold_2 : decode cX0_hold 2 = .ok (.invokevirtual 110, 3) := by decide +kernel
theorem dX0_hold_5 : decode cX0_hold 5 = .ok (.istore_n 2, 1) := by decide +kernel
theorem dX0_hold_6 : decode cX0_hold 6 = .ok (.iconst 0, 1) := by decide +kernel
theorem dX0_hold_7 : decode cX0_hold 7 = .ok (.istore_n 3, 1) := by decide +kernel
theorem dX0_hold_8 : decode cX0_hold 8 = .ok (.iload_n 3, 1) := by decide +kernel
theorem dX0_hold_9 : decode cX0_hold 9 = .ok (.iload_n 2, 1) := by decide +kernel
theorem dX0_hold_10 : decode cX0_hold 10 = .ok (.if_icmp .ge 30, 3) := by decide +kernel
theorem dX0_hold_13 : decode cX0_hold 13 = .ok (.aload_n 0, 1) := by decide +kernel
theorem dX0_hold_14 : decode cX0_hold 14 = .ok (.getfield 47, 3) := by decide +kernel
theorem dX0_hold_17 : decode cX0_hold 17 = .ok (.iload_n 3, 1) := by decide +kernel
theorem dX0_hold_18 : decode cX0_hold 18 = .ok (.aload_n 0, 1) := by decide +kernel
theorem dX0_hold_19 : decode cX0_hold 19 = .ok (.getfield 38, 3) := by decide +kernel
theorem dX0_hold_22 : decode cX0_hold 22 = .ok (.aload_n 0, 1) := by decide +kernel
theorem dX0_hold_23 : decode cX0_hold 23 = .ok (.getfield 41, 3) := by decide +kernel
theorem dX0_hold_26 : decode cX0_hold 26 = .ok (.iload_n 1, 1) := by decide +kernel
theorem dX0_hold_27 : decode cX0_hold 27 = .ok (.iaload, 1) := by decide +kernel
theorem dX0_hold_28 : decode cX0_hold 28 = .ok (.iconst 4, 1) := by decide +kernel
theorem dX0_hold_29 : decode cX0_hold 29 = .ok (.imul, 1) := by decide +kernel
theorem dX0_hold_30 : decode cX0_hold 30 = .ok (.iload_n 3, 1) := by decide +kernel
theorem dX0_hold_31 : decode cX0_hold 31 = .ok (.iadd, 1) := by decide +kernel
theorem dX0_hold_32 : decode cX0_hold 32 = .ok (.iaload, 1) := by decide +kernel
theorem dX0_hold_33 : decode cX0_hold 33 = .ok (.iastore, 1) := by decide +kernel
theorem dX0_hold_34 : decode cX0_hold 34 = .ok (.iinc 3 1, 3) := by decide +kernel
theorem dX0_hold_37 : decode cX0_hold 37 = .ok (.goto (-29), 3) := by decide +kernel
theorem dX0_hold_40 : decode cX0_hold 40 = .ok (.iload_n 2, 1) := by decide +kernel
theorem dX0_hold_41 : decode cX0_hold 41 = .ok (.ireturn, 1) := by decide +kernel
abbrev cX0_size : ByteArray := prog_1_method_24_code
def yX0_size : MethodName := ⟨RX0, "size", "(I)I"⟩
theorem dX0_size_0 : decode cX0_size 0 = .ok (.aload_n 0, 1) := by decide +kernel
theorem dX0_size_1 : decode cX0_size 1 = .ok (.iload_n 1, 1) := by decide +kernel
theorem dX0_size_2 : decode cX0_size 2 = .ok (.invokevirtual 107, 3) := by decide +kernel
theorem dX0_size_5 : decode cX0_size 5 = .ok (.ifCond .eq 7, 3) := by decide +kernel
theorem dX0_size_8 : decode cX0_size 8 = .ok (.iconst (-1), 1) := by decide +kernel
theorem dX0_size_9 : decode cX0_size 9 = .ok (.goto 8, 3) := by decide +kernel
theorem dX0_size_12 : decode cX0_size 12 = .ok (.aload_n 0, 1) := by decide +kernel
theorem dX0_size_13 : decode cX0_size 13 = .ok (.iload_n 1, 1) := by decide +kernel
theorem dX0_size_14 : decode cX0_size 14 = .ok (.invokevirtual 110, 3) := by decide +kernel
theorem dX0_size_17 : decode cX0_size 17 = .ok (.ireturn, 1) := by decide +kernel
abbrev cX0_read : ByteArray := prog_1_method_25_code
def yX0_read : MethodName := ⟨RX0, "read", "(II)I"⟩
theorem dX0_read_0 : decode cX0_read 0 = .ok (.aload_n 0, 1) := by decide +kernel
theorem dX0_read_1 : decode cX0_read 1 = .ok (.iload_n 1, 1) := by decide +kernel
theorem dX0_read_2 : decode cX0_read 2 = .ok (.invokevirtual 107, 3) := by decide +kernel
theorem dX0_read_5 : decode cX0_read 5 = .ok (.ifCond .ne 16, 3) := by decide +kernel
theorem dX0_read_8 : decode cX0_read 8 = .ok (.iload_n 2, 1) := by decide +kernel
theorem dX0_read_9 : decode cX0_read 9 = .ok (.ifCond .lt 12, 3) := by decide +kernel
theorem dX0_read_12 : decode cX0_read 12 = .ok (.iload_n 2, 1) := by decide +kernel
theorem dX0_read_13 : decode cX0_read 13 = .ok (.aload_n 0, 1) := by decide +kernel
theorem dX0_read_14 : decode cX0_read 14 = .ok (.iload_n 1, 1) := by decide +kernel
theorem dX0_read_15 : decode cX0_read 15 = .ok (.invokevirtual 110, 3) := by decide +kernel
theorem dX0_read_18 : decode cX0_read 18 = .ok (.if_icmp .lt 5, 3) := by decide +kernel
theorem dX0_read_21 : decode cX0_read 21 = .ok (.iconst 0, 1) := by decide +kernel
theorem dX0_read_22 : decode cX0_read 22 = .ok (.ireturn, 1) := by decide +kernel
theorem dX0_read_23 : decode cX0_read 23 = .ok (.aload_n 0, 1) := by decide +kernel
theorem dX0_read_24 : decode cX0_read 24 = .ok (.getfield 38, 3) := by decide +kernel
theorem dX0_read_27 : decode cX0_read 27 = .ok (.aload_n 0, 1) := by decide +kernel
theorem dX0_read_28 : decode cX0_read 28 = .ok (.getfield 41, 3) := by decide +kernel
theorem dX0_read_31 : decode cX0_read 31 = .ok (.iload_n 1, 1) := by decide +kernel
theorem dX0_read_32 : decode cX0_read 32 = .ok (.iaload, 1) := by decide +kernel
theorem dX0_read_33 : decode cX0_read 33 = .ok (.iconst 4, 1) := by decide +kernel
theorem dX0_read_34 : decode cX0_read 34 = .ok (.imul, 1) := by decide +kernel
theorem dX0_read_35 : decode cX0_read 35 = .ok (.iload_n 2, 1) := by decide +kernel
theorem dX0_read_36 : decode cX0_read 36 = .ok (.iadd, 1) := by decide +kernel
theorem dX0_read_37 : decode cX0_read 37 = .ok (.iaload, 1) := by decide +kernel
theorem dX0_read_38 : decode cX0_read 38 = .ok (.ireturn, 1) := by decide +kernel
abbrev cX0_cutAfter : ByteArray := prog_1_method_26_code
def yX0_cutAfter : MethodName := ⟨RX0, "cutAfter", "(I)I"⟩
theorem dX0_cutAfter_0 : decode cX0_cutAfter 0 = .ok (.iload_n 1, 1) := by decide +kernel
theorem dX0_cutAfter_1 : decode cX0_cutAfter 1 = .ok (.ifCond .lt 9, 3) := by decide +kernel
theorem dX0_cutAfter_4 : decode cX0_cutAfter 4 = .ok (.iload_n 1, 1) := by decide +kernel
theorem dX0_cutAfter_5 : decode cX0_cutAfter 5 = .ok (.bipush 40, 2) := by decide +kernel
theorem dX0_cutAfter_7 : decode cX0_cutAfter 7 = .ok (.if_icmp .le 5, 3) := by decide +kernel
theorem dX0_cutAfter_10 : decode cX0_cutAfter 10 = .ok (.iconst (-1), 1) := by decide +kernel
theorem dX0_cutAfter_11 : decode cX0_cutAfter 11 = .ok (.ireturn, 1) := by decide +kernel
theorem dX0_cutAfter_12 : decode cX0_cutAfter 12 = .ok (.aload_n 0, 1) := by decide +kernel
theorem dX0_cutAfter_13 : decode cX0_cutAfter 13 = .ok (.iconst 1, 1) := by decide +kernel
theorem dX0_cutAfter_14 : decode cX0_cutAfter 14 = .ok (.putfield 57, 3) := by decide +kernel
theorem dX0_cutAfter_17 : decode cX0_cutAfter 17 = .ok (.aload_n 0, 1) := by decide +kernel
theorem dX0_cutAfter_18 : decode cX0_cutAfter 18 = .ok (.iload_n 1, 1) := by decide +kernel
theorem dX0_cutAfter_19 : decode cX0_cutAfter 19 = .ok (.putfield 68, 3) := by decide +kernel
theorem dX0_cutAfter_22 : decode cX0_cutAfter 22 = .ok (.iconst 0, 1) := by decide +kernel
theorem dX0_cutAfter_23 : decode cX0_cutAfter 23 = .ok (.ireturn, 1) := by decide +kernel
abbrev cX0_cancel : ByteArray := prog_1_method_27_code
def yX0_cancel : MethodName := ⟨RX0, "cancel", "()I"⟩
theorem dX0_cancel_0 : decode cX0_cancel 0 = .ok (.aload_n 0, 1) := by decide +kernel
theorem dX0_cancel_1 : decode cX0_cancel 1 = .ok (.getfield 57, 3) := by decide +kernel
theorem dX0_cancel_4 : decode cX0_cancel 4 = .ok (.ifCond .ne 6, 3) := by decide +kernel
theorem dX0_cancel_7 : decode cX0_cancel 7 = .ok (.bipush (-4), 2) := by decide +kernel
theorem dX0_cancel_9 : decode cX0_cancel 9 = .ok (.ireturn, 1) := by decide +kernel
theorem dX0_cancel_10 : decode cX0_cancel 10 = .ok (.aload_n 0, 1) := by decide +kernel
theorem dX0_cancel_11 : decode cX0_cancel 11 = .ok (.iconst 0, 1) := by decide +kernel
theorem dX0_cancel_12 : decode cX0_cancel 12 = .ok (.putfield 57, 3) := by decide +kernel
theorem dX0_cancel_15 : decode cX0_cancel 15 = .ok (.aload_n 0, 1) := by decide +kernel
theorem dX0_cancel_16 : decode cX0_cancel 16 = .ok (.getfield 68, 3) := by decide +kernel
theorem dX0_cancel_19 : decode cX0_cancel 19 = .ok (.ireturn, 1) := by decide +kernel
abbrev cX0_restart : ByteArray := prog_1_method_28_code
def yX0_restart : MethodName := ⟨RX0, "restart", "()V"⟩
theorem dX0_restart_0 : decode cX0_restart 0 = .ok (.aload_n 0, 1) := by decide +kernel
theorem dX0_restart_1 : decode cX0_restart 1 = .ok (.invokevirtual 50, 3) := by decide +kernel
theorem dX0_restart_4 : decode cX0_restart 4 = .ok (.return_, 1) := by decide +kernel
end
section
set_option maxRecDepth 100000
abbrev cX0_drafted : ByteArray := prog_1_method_29_code
def yX0_drafted : MethodName := ⟨RX0, "drafted", "()I"⟩
theorem dX0_drafted_0 : decode cX0_drafted 0 = .ok (.aload_n 0, 1) := by decide +kernel
theorem dX0_drafted_1 : decode cX0_drafted 1 = .ok (.getfield 53, 3) := by decide +kernel
theorem dX0_drafted_4 : decode cX0_drafted 4 = .ok (.ireturn, 1) := by decide +kernel
abbrev cX0_digest : ByteArray := prog_1_method_30_code
def yX0_digest : MethodName := ⟨RX0, "digest", "()I"⟩
theorem dX0_digest_0 : decode cX0_digest 0 = .ok (.iconst 0, 1) := by decide +kernel
theorem dX0_digest_1 : decode cX0_digest 1 = .ok (.istore_n 1, 1) := by decide +kernel
theorem dX0_digest_2 : decode cX0_digest 2 = .ok (.iconst 0, 1) := by decide +kernel
theorem dX0_digest_3 : decode cX0_digest 3 = .ok (.istore_n 2, 1) := by decide +kernel
theorem dX0_digest_4 : decode cX0_digest 4 = .ok (.iload_n 2, 1) := by decide +kernel
theorem dX0_digest_5 : decode cX0_digest 5 = .ok (.bipush 8, 2) := by decide +kernel
theorem dX0_digest_7 : decode cX0_digest 7 = .ok (.if_icmp .ge 58, 3) := by decide +kernel
theorem dX0_digest_10 : decode cX0_digest 10 = .ok (.aload_n 0, 1) := by decide +kernel
theorem dX0_digest_11 : decode cX0_digest 11 = .ok (.iload_n 2, 1) := by decide +kernel
theorem dX0_digest_12 : decode cX0_digest 12 = .ok (.invokevirtual 110, 3) := by decide +kernel
theorem dX0_digest_15 : decode cX0_digest 15 = .ok (.istore_n 3, 1) := by decide +kernel
theorem dX0_digest_16 : decode cX0_digest 16 = .ok (.iconst 0, 1) := by decide +kernel
theorem dX0_digest_17 : decode cX0_digest 17 = .ok (.istore 4, 2) := by decide +kernel
theorem dX0_digest_19 : decode cX0_digest 19 = .ok (.iload 4, 2) := by decide +kernel
theorem dX0_digest_21 : decode cX0_digest 21 = .ok (.iload_n 3, 1) := by decide +kernel
theorem dX0_digest_22 : decode cX0_digest 22 = .ok (.if_icmp .ge 37, 3) := by decide +kernel
theorem dX0_digest_25 : decode cX0_digest 25 = .ok (.iload_n 1, 1) := by decide +kernel
theorem dX0_digest_26 : decode cX0_digest 26 = .ok (.iconst 4, 1) := by decide +kernel
theorem dX0_digest_27 : decode cX0_digest 27 = .ok (.iload_n 2, 1) := by decide +kernel
theorem dX0_digest_28 : decode cX0_digest 28 = .ok (.imul, 1) := by decide +kernel
theorem dX0_digest_29 : decode cX0_digest 29 = .ok (.iload 4, 2) := by decide +kernel
theorem dX0_digest_31 : decode cX0_digest 31 = .ok (.iadd, 1) := by decide +kernel
theorem dX0_digest_32 : decode cX0_digest 32 = .ok (.iconst 1, 1) := by decide +kernel
theorem dX0_digest_33 : decode cX0_digest 33 = .ok (.iadd, 1) := by decide +kernel
theorem dX0_digest_34 : decode cX0_digest 34 = .ok (.aload_n 0, 1) := by decide +kernel
theorem dX0_digest_35 : decode cX0_digest 35 = .ok (.getfield 38, 3) := by decide +kernel
theorem dX0_digest_38 : decode cX0_digest 38 = .ok (.aload_n 0, 1) := by decide +kernel
theorem dX0_digest_39 : decode cX0_digest 39 = .ok (.getfield 41, 3) := by decide +kernel
theorem dX0_digest_42 : decode cX0_digest 42 = .ok (.iload_n 2, 1) := by decide +kernel
theorem dX0_digest_43 : decode cX0_digest 43 = .ok (.iaload, 1) := by decide +kernel
theorem dX0_digest_44 : decode cX0_digest 44 = .ok (.iconst 4, 1) := by decide +kernel
theorem dX0_digest_45 : decode cX0_digest 45 = .ok (.imul, 1) := by decide +kernel
theorem dX0_digest_46 : decode cX0_digest 46 = .ok (.iload 4, 2) := by decide +kernel
theorem dX0_digest_48 : decode cX0_digest 48 = .ok (.iadd, 1) := by decide +kernel
theorem dX0_digest_49 : decode cX0_digest 49 = .ok (.iaload, 1) := by decide +kernel
theorem dX0_digest_50 : decode cX0_digest 50 = .ok (.imul, 1) := by decide +kernel
theorem dX0_digest_51 : decode cX0_digest 51 = .ok (.iadd, 1) := by decide +kernel
theorem dX0_digest_52 : decode cX0_digest 52 = .ok (.istore_n 1, 1) := by decide +kernel
theorem dX0_digest_53 : decode cX0_digest 53 = .ok (.iinc 4 1, 3) := by decide +kernel
theorem dX0_digest_56 : decode cX0_digest 56 = .ok (.goto (-37), 3) := by decide +kernel
theorem dX0_digest_59 : decode cX0_digest 59 = .ok (.iinc 2 1, 3) := by decide +kernel
theorem dX0_digest_62 : decode cX0_digest 62 = .ok (.goto (-58), 3) := by decide +kernel
theorem dX0_digest_65 : decode cX0_digest 65 = .ok (.iload_n 1, 1) := by decide +kernel
theorem dX0_digest_66 : decode cX0_digest 66 = .ok (.ireturn, 1) := by decide +kernel
abbrev cX0_rest : ByteArray := prog_1_method_32_code
def yX0_rest : MethodName := ⟨RX0, "rest", "(I)V"⟩
theorem dX0_rest_0 : decode cX0_rest 0 = .ok (.iconst 0, 1) := by decide +kernel
theorem dX0_rest_1 : decode cX0_rest 1 = .ok (.istore_n 2, 1) := by decide +kernel
theorem dX0_rest_2 : decode cX0_rest 2 = .ok (.iload_n 2, 1) := by decide +kernel
theorem dX0_rest_3 : decode cX0_rest 3 = .ok (.iload_n 1, 1) := by decide +kernel
theorem dX0_rest_4 : decode cX0_rest 4 = .ok (.if_icmp .ge 28, 3) := by decide +kernel
theorem dX0_rest_7 : decode cX0_rest 7 = .ok (.iload_n 2, 1) := by decide +kernel
theorem dX0_rest_8 : decode cX0_rest 8 = .ok (.bipush 20, 2) := by decide +kernel
theorem dX0_rest_10 : decode cX0_rest 10 = .ok (.if_icmp .ge 22, 3) := by decide +kernel
theorem dX0_rest_13 : decode cX0_rest 13 = .ok (.aload_n 0, 1) := by decide +kernel
theorem dX0_rest_14 : decode cX0_rest 14 = .ok (.invokevirtual 88, 3) := by decide +kernel
theorem dX0_rest_17 : decode cX0_rest 17 = .ok (.istore_n 3, 1) := by decide +kernel
theorem dX0_rest_18 : decode cX0_rest 18 = .ok (.iload_n 3, 1) := by decide +kernel
theorem dX0_rest_19 : decode cX0_rest 19 = .ok (.ifCond .ne 7, 3) := by decide +kernel
theorem dX0_rest_22 : decode cX0_rest 22 = .ok (.aload_n 0, 1) := by decide +kernel
theorem dX0_rest_23 : decode cX0_rest 23 = .ok (.invokevirtual 127, 3) := by decide +kernel
theorem dX0_rest_26 : decode cX0_rest 26 = .ok (.iinc 2 1, 3) := by decide +kernel
theorem dX0_rest_29 : decode cX0_rest 29 = .ok (.goto (-27), 3) := by decide +kernel
theorem dX0_rest_32 : decode cX0_rest 32 = .ok (.return_, 1) := by decide +kernel
abbrev cX0_level : ByteArray := prog_1_method_31_code
def yX0_level : MethodName := ⟨RX0, "level", "()V"⟩
theorem dX0_level_0 : decode cX0_level 0 = .ok (.aload_n 0, 1) := by decide +kernel
theorem dX0_level_1 : decode cX0_level 1 = .ok (.invokevirtual 114, 3) := by decide +kernel
theorem dX0_level_4 : decode cX0_level 4 = .ok (.aload_n 0, 1) := by decide +kernel
theorem dX0_level_5 : decode cX0_level 5 = .ok (.iconst 1, 1) := by decide +kernel
theorem dX0_level_6 : decode cX0_level 6 = .ok (.invokevirtual 92, 3) := by decide +kernel
theorem dX0_level_9 : decode cX0_level 9 = .ok (.istore_n 1, 1) := by decide +kernel
theorem dX0_level_10 : decode cX0_level 10 = .ok (.iconst (-1), 1) := by decide +kernel
theorem dX0_level_11 : decode cX0_level 11 = .ok (.istore_n 2, 1) := by decide +kernel
theorem dX0_level_12 : decode cX0_level 12 = .ok (.iconst 0, 1) := by decide +kernel
theorem dX0_level_13 : decode cX0_level 13 = .ok (.istore_n 3, 1) := by decide +kernel
theorem dX0_level_14 : decode cX0_level 14 = .ok (.iload_n 3, 1) := by decide +kernel
theorem dX0_level_15 : decode cX0_level 15 = .ok (.bipush 8, 2) := by decide +kernel
theorem dX0_level_17 : decode cX0_level 17 = .ok (.if_icmp .ge 49, 3) := by decide +kernel
theorem dX0_level_20 : decode cX0_level 20 = .ok (.aload_n 0, 1) := by decide +kernel
theorem dX0_level_21 : decode cX0_level 21 = .ok (.getfield 41, 3) := by decide +kernel
theorem dX0_level_24 : decode cX0_level 24 = .ok (.iload_n 3, 1) := by decide +kernel
theorem dX0_level_25 : decode cX0_level 25 = .ok (.iaload, 1) := by decide +kernel
theorem dX0_level_26 : decode cX0_level 26 = .ok (.ifCond .lt 34, 3) := by decide +kernel
theorem dX0_level_29 : decode cX0_level 29 = .ok (.iload_n 2, 1) := by decide +kernel
theorem dX0_level_30 : decode cX0_level 30 = .ok (.ifCond .lt 28, 3) := by decide +kernel
theorem dX0_level_33 : decode cX0_level 33 = .ok (.aload_n 0, 1) := by decide +kernel
theorem dX0_level_34 : decode cX0_level 34 = .ok (.getfield 16, 3) := by decide +kernel
theorem dX0_level_37 : decode cX0_level 37 = .ok (.aload_n 0, 1) := by decide +kernel
theorem dX0_level_38 : decode cX0_level 38 = .ok (.getfield 41, 3) := by decide +kernel
theorem dX0_level_41 : decode cX0_level 41 = .ok (.iload_n 3, 1) := by decide +kernel
theorem dX0_level_42 : decode cX0_level 42 = .ok (.iaload, 1) := by decide +kernel
theorem dX0_level_43 : decode cX0_level 43 = .ok (.iaload, 1) := by decide +kernel
theorem dX0_level_44 : decode cX0_level 44 = .ok (.aload_n 0, 1) := by decide +kernel
theorem dX0_level_45 : decode cX0_level 45 = .ok (.getfield 16, 3) := by decide +kernel
theorem dX0_level_48 : decode cX0_level 48 = .ok (.aload_n 0, 1) := by decide +kernel
theorem dX0_level_49 : decode cX0_level 49 = .ok (.getfield 41, 3) := by decide +kernel
theorem dX0_level_52 : decode cX0_level 52 = .ok (.iload_n 2, 1) := by decide +kernel
theorem dX0_level_53 : decode cX0_level 53 = .ok (.iaload, 1) := by decide +kernel
theorem dX0_level_54 : decode cX0_level 54 = .ok (.iaload, 1) := by decide +kernel
theorem dX0_level_55 : decode cX0_level 55 = .ok (.if_icmp .ge 5, 3) := by decide +kernel
theorem dX0_level_58 : decode cX0_level 58 = .ok (.iload_n 3, 1) := by decide +kernel
theorem dX0_level_59 : decode cX0_level 59 = .ok (.istore_n 2, 1) := by decide +kernel
theorem dX0_level_60 : decode cX0_level 60 = .ok (.iinc 3 1, 3) := by decide +kernel
theorem dX0_level_63 : decode cX0_level 63 = .ok (.goto (-49), 3) := by decide +kernel
theorem dX0_level_66 : decode cX0_level 66 = .ok (.iload_n 1, 1) := by decide +kernel
theorem dX0_level_67 : decode cX0_level 67 = .ok (.ifCond .lt 29, 3) := by decide +kernel
theorem dX0_level_70 : decode cX0_level 70 = .ok (.iload_n 2, 1) := by decide +kernel
theorem dX0_level_71 : decode cX0_level 71 = .ok (.ifCond .lt 25, 3) := by decide +kernel
theorem dX0_level_74 : decode cX0_level 74 = .ok (.aload_n 0, 1) := by decide +kernel
theorem dX0_level_75 : decode cX0_level 75 = .ok (.getfield 16, 3) := by decide +kernel
theorem dX0_level_78 : decode cX0_level 78 = .ok (.iload_n 1, 1) := by decide +kernel
theorem dX0_level_79 : decode cX0_level 79 = .ok (.iaload, 1) := by decide +kernel
theorem dX0_level_80 : decode cX0_level 80 = .ok (.aload_n 0, 1) := by decide +kernel
theorem dX0_level_81 : decode cX0_level 81 = .ok (.getfield 16, 3) := by decide +kernel
theorem dX0_level_84 : decode cX0_level 84 = .ok (.aload_n 0, 1) := by decide +kernel
theorem dX0_level_85 : decode cX0_level 85 = .ok (.getfield 41, 3) := by decide +kernel
theorem dX0_level_88 : decode cX0_level 88 = .ok (.iload_n 2, 1) := by decide +kernel
theorem dX0_level_89 : decode cX0_level 89 = .ok (.iaload, 1) := by decide +kernel
theorem dX0_level_90 : decode cX0_level 90 = .ok (.iaload, 1) := by decide +kernel
theorem dX0_level_91 : decode cX0_level 91 = .ok (.iconst 3, 1) := by decide +kernel
theorem dX0_level_92 : decode cX0_level 92 = .ok (.iadd, 1) := by decide +kernel
theorem dX0_level_93 : decode cX0_level 93 = .ok (.if_icmp .ge 4, 3) := by decide +kernel
theorem dX0_level_96 : decode cX0_level 96 = .ok (.return_, 1) := by decide +kernel
theorem dX0_level_97 : decode cX0_level 97 = .ok (.aload_n 0, 1) := by decide +kernel
theorem dX0_level_98 : decode cX0_level 98 = .ok (.iload_n 2, 1) := by decide +kernel
theorem dX0_level_99 : decode cX0_level 99 = .ok (.invokevirtual 124, 3) := by decide +kernel
theorem dX0_level_102 : decode cX0_level 102 = .ok (.istore_n 3, 1) := by decide +kernel
theorem dX0_level_103 : decode cX0_level 103 = .ok (.aload_n 0, 1) := by decide +kernel
theorem dX0_level_104 : decode cX0_level 104 = .ok (.iload_n 1, 1) := by decide +kernel
theorem dX0_level_105 : decode cX0_level 105 = .ok (.iload_n 2, 1) := by decide +kernel
theorem dX0_level_106 : decode cX0_level 106 = .ok (.iconst 0, 1) := by decide +kernel
theorem dX0_level_107 : decode cX0_level 107 = .ok (.invokevirtual 99, 3) := by decide +kernel
theorem dX0_level_110 : decode cX0_level 110 = .ok (.iconst 0, 1) := by decide +kernel
theorem dX0_level_111 : decode cX0_level 111 = .ok (.istore 4, 2) := by decide +kernel
theorem dX0_level_113 : decode cX0_level 113 = .ok (.iload 4, 2) := by decide +kernel
theorem dX0_level_115 : decode cX0_level 115 = .ok (.iload_n 3, 1) := by decide +kernel
theorem dX0_level_116 : decode cX0_level 116 = .ok (.if_icmp .ge 21, 3) := by decide +kernel
theorem dX0_level_119 : decode cX0_level 119 = .ok (.aload_n 0, 1) := by decide +kernel
theorem dX0_level_120 : decode cX0_level 120 = .ok (.iload_n 1, 1) := by decide +kernel
theorem dX0_level_121 : decode cX0_level 121 = .ok (.aload_n 0, 1) := by decide +kernel
theorem dX0_level_122 : decode cX0_level 122 = .ok (.getfield 47, 3) := by decide +kernel
theorem dX0_level_125 : decode cX0_level 125 = .ok (.iload 4, 2) := by decide +kernel
theorem dX0_level_127 : decode cX0_level 127 = .ok (.iaload, 1) := by decide +kernel
theorem dX0_level_128 : decode cX0_level 128 = .ok (.invokevirtual 103, 3) := by decide +kernel
theorem dX0_level_131 : decode cX0_level 131 = .ok (.iinc 4 1, 3) := by decide +kernel
theorem dX0_level_134 : decode cX0_level 134 = .ok (.goto (-21), 3) := by decide +kernel
theorem dX0_level_137 : decode cX0_level 137 = .ok (.aload_n 0, 1) := by decide +kernel
theorem dX0_level_138 : decode cX0_level 138 = .ok (.getfield 29, 3) := by decide +kernel
theorem dX0_level_141 : decode cX0_level 141 = .ok (.iload_n 1, 1) := by decide +kernel
theorem dX0_level_142 : decode cX0_level 142 = .ok (.iconst 1, 1) := by decide +kernel
theorem dX0_level_143 : decode cX0_level 143 = .ok (.bastore, 1) := by decide +kernel
theorem dX0_level_144 : decode cX0_level 144 = .ok (.aload_n 0, 1) := by decide +kernel
theorem dX0_level_145 : decode cX0_level 145 = .ok (.getfield 41, 3) := by decide +kernel
theorem dX0_level_148 : decode cX0_level 148 = .ok (.iload_n 2, 1) := by decide +kernel
theorem dX0_level_149 : decode cX0_level 149 = .ok (.iload_n 1, 1) := by decide +kernel
theorem dX0_level_150 : decode cX0_level 150 = .ok (.iastore, 1) := by decide +kernel
theorem dX0_level_151 : decode cX0_level 151 = .ok (.return_, 1) := by decide +kernel
abbrev cX0_fail : ByteArray := prog_1_method_33_code
def yX0_fail : MethodName := ⟨RX0, "fail", "()V"⟩
theorem dX0_fail_0 : decode cX0_fail 0 = .ok (.aload_n 0, 1) := by decide +kernel
theorem dX0_fail_1 : decode cX0_fail 1 = .ok (.iconst 1, 1) := by decide +kernel
theorem dX0_fail_2 : decode cX0_fail 2 = .ok (.putfield 71, 3) := by decide +kernel
theorem dX0_fail_5 : decode cX0_fail 5 = .ok (.return_, 1) := by decide +kernel
end
section
/-! FlashVolumesModel -/
set_option maxRecDepth 100000
def RX1 : String := "FlashVolumesModel"
def TX1 : u_T := fun k => match k with
  | 0 => ("FlashVolumesModel", "words", "[I", true)
  | 1 => ("FlashVolumesModel", "sizes", "[I", true)
  | 2 => ("FlashVolumesModel", "draft", "[I", true)
  | 3 => ("FlashVolumesModel", "drafted", "I", false)
  | 4 => ("FlashVolumesModel", "cutSet", "Z", false)
  | _ => ("FlashVolumesModel", "count", "I", false)
def tyX1 : Nat → FieldType := fun k => match k with
  | 0 => .array .int
  | 1 => .array .int
  | 2 => .array .int
  | 3 => .int
  | 4 => .boolean
  | _ => .int
abbrev wsX10 : List Cond := u_ws RX1 TX1 6
theorem nmX1 : ∀ a, a < 6 → ∀ b, b < 6 → a ≠ b → (TX1 a).2.1 ≠ (TX1 b).2.1 := by decide +kernel
theorem tyX1_ok : ∀ k, k < 6 → parseFieldDescriptor (TX1 k).2.2.1 = some (tyX1 k) := by decide +kernel
abbrev cX1_init : ByteArray := prog_3_method_1_code
def yX1_init : MethodName := ⟨RX1, "<init>", "()V"⟩
theorem dX1_init_0 : decode cX1_init 0 = .ok (.aload_n 0, 1) := by decide +kernel
theorem dX1_init_1 : decode cX1_init 1 = .ok (.invokespecial 1, 3) := by decide +kernel
theorem dX1_init_4 : decode cX1_init 4 = .ok (.aload_n 0, 1) := by decide +kernel
theorem dX1_init_5 : decode cX1_init 5 = .ok (.bipush 32, 2) := by decide +kernel
theorem dX1_init_7 : decode cX1_init 7 = .ok (.newarray .int, 2) := by decide +kernel
theorem dX1_init_9 : decode cX1_init 9 = .ok (.putfield 7, 3) := by decide +kernel
theorem dX1_init_12 : decode cX1_init 12 = .ok (.aload_n 0, 1) := by decide +kernel
theorem dX1_init_13 : decode cX1_init 13 = .ok (.bipush 8, 2) := by decide +kernel
theorem dX1_init_15 : decode cX1_init 15 = .ok (.newarray .int, 2) := by decide +kernel
theorem dX1_init_17 : decode cX1_init 17 = .ok (.putfield 13, 3) := by decide +kernel
theorem dX1_init_20 : decode cX1_init 20 = .ok (.aload_n 0, 1) := by decide +kernel
theorem dX1_init_21 : decode cX1_init 21 = .ok (.iconst 4, 1) := by decide +kernel
theorem dX1_init_22 : decode cX1_init 22 = .ok (.newarray .int, 2) := by decide +kernel
theorem dX1_init_24 : decode cX1_init 24 = .ok (.putfield 16, 3) := by decide +kernel
theorem dX1_init_27 : decode cX1_init 27 = .ok (.return_, 1) := by decide +kernel
abbrev cX1_draft : ByteArray := prog_3_method_3_code
def yX1_draft : MethodName := ⟨RX1, "draft", "(I)I"⟩
theorem dX1_draft_0 : decode cX1_draft 0 = .ok (.aload_n 0, 1) := by decide +kernel
theorem dX1_draft_1 : decode cX1_draft 1 = .ok (.getfield 19, 3) := by decide +kernel
theorem dX1_draft_4 : decode cX1_draft 4 = .ok (.iconst 4, 1) := by decide +kernel
theorem dX1_draft_5 : decode cX1_draft 5 = .ok (.if_icmp .ne 6, 3) := by decide +kernel
theorem dX1_draft_8 : decode cX1_draft 8 = .ok (.bipush (-2), 2) := by decide +kernel
theorem dX1_draft_10 : decode cX1_draft 10 = .ok (.ireturn, 1) := by decide +kernel
theorem dX1_draft_11 : decode cX1_draft 11 = .ok (.aload_n 0, 1) := by decide +kernel
theorem dX1_draft_12 : decode cX1_draft 12 = .ok (.getfield 16, 3) := by decide +kernel
theorem dX1_draft_15 : decode cX1_draft 15 = .ok (.aload_n 0, 1) := by decide +kernel
theorem dX1_draft_16 : decode cX1_draft 16 = .ok (.getfield 19, 3) := by decide +kernel
theorem dX1_draft_19 : decode cX1_draft 19 = .ok (.iload_n 1, 1) := by decide +kernel
theorem dX1_draft_20 : decode cX1_draft 20 = .ok (.iastore, 1) := by decide +kernel
theorem dX1_draft_21 : decode cX1_draft 21 = .ok (.aload_n 0, 1) := by decide +kernel
theorem dX1_draft_22 : decode cX1_draft 22 = .ok (.dup, 1) := by decide +kernel
theorem dX1_draft_23 : decode cX1_draft 23 = .ok (.getfield 19, 3) := by decide +kernel
theorem dX1_draft_26 : decode cX1_draft 26 = .ok (.iconst 1, 1) := by decide +kernel
theorem dX1_draft_27 : decode cX1_draft 27 = .ok (.iadd, 1) := by decide +kernel
theorem dX1_draft_28 : decode cX1_draft 28 = .ok (.putfield 19, 3) := by decide +kernel
theorem dX1_draft_31 : decode cX1_draft 31 = .ok (.aload_n 0, 1) := by decide +kernel
theorem dX1_draft_32 : decode cX1_draft 32 = .ok (.getfield 19, 3) := by decide +kernel
theorem dX1_draft_35 : decode cX1_draft 35 = .ok (.ireturn, 1) := by decide +kernel
abbrev cX1_scrap : ByteArray := prog_3_method_4_code
def yX1_scrap : MethodName := ⟨RX1, "scrap", "()V"⟩
theorem dX1_scrap_0 : decode cX1_scrap 0 = .ok (.aload_n 0, 1) := by decide +kernel
theorem dX1_scrap_1 : decode cX1_scrap 1 = .ok (.iconst 0, 1) := by decide +kernel
theorem dX1_scrap_2 : decode cX1_scrap 2 = .ok (.putfield 19, 3) := by decide +kernel
theorem dX1_scrap_5 : decode cX1_scrap 5 = .ok (.return_, 1) := by decide +kernel
abbrev cX1_append : ByteArray := prog_3_method_6_code
def yX1_append : MethodName := ⟨RX1, "append", "(II)I"⟩
theorem dX1_append_0 : decode cX1_append 0 = .ok (.aload_n 0, 1) := by decide +kernel
theorem dX1_append_1 : decode cX1_append 1 = .ok (.iload_n 1, 1) := by decide +kernel
theorem dX1_append_2 : decode cX1_append 2 = .ok (.invokevirtual 33, 3) := by decide +kernel
theorem dX1_append_5 : decode cX1_append 5 = .ok (.ifCond .ne 5, 3) := by decide +kernel
theorem dX1_append_8 : decode cX1_append 8 = .ok (.iconst (-1), 1) := by decide +kernel
theorem dX1_append_9 : decode cX1_append 9 = .ok (.ireturn, 1) := by decide +kernel
theorem dX1_append_10 : decode cX1_append 10 = .ok (.aload_n 0, 1) := by decide +kernel
theorem dX1_append_11 : decode cX1_append 11 = .ok (.getfield 13, 3) := by decide +kernel
theorem dX1_append_14 : decode cX1_append 14 = .ok (.iload_n 1, 1) := by decide +kernel
theorem dX1_append_15 : decode cX1_append 15 = .ok (.iaload, 1) := by decide +kernel
theorem dX1_append_16 : decode cX1_append 16 = .ok (.iconst 4, 1) := by decide +kernel
theorem dX1_append_17 : decode cX1_append 17 = .ok (.if_icmp .ne 6, 3) := by decide +kernel
theorem dX1_append_20 : decode cX1_append 20 = .ok (.bipush (-2), 2) := by decide +kernel
theorem dX1_append_22 : decode cX1_append 22 = .ok (.ireturn, 1) := by decide +kernel
theorem dX1_append_23 : decode cX1_append 23 = .ok (.aload_n 0, 1) := by decide +kernel
theorem dX1_append_24 : decode cX1_append 24 = .ok (.aload_n 0, 1) := by decide +kernel
theorem dX1_append_25 : decode cX1_append 25 = .ok (.getfield 13, 3) := by decide +kernel
theorem dX1_append_28 : decode cX1_append 28 = .ok (.iload_n 1, 1) := by decide +kernel
theorem dX1_append_29 : decode cX1_append 29 = .ok (.iaload, 1) := by decide +kernel
theorem dX1_append_30 : decode cX1_append 30 = .ok (.ifCond .le 7, 3) := by decide +kernel
theorem dX1_append_33 : decode cX1_append 33 = .ok (.iconst 1, 1) := by decide +kernel
theorem dX1_append_34 : decode cX1_append 34 = .ok (.goto 4, 3) := by decide +kernel
theorem dX1_append_37 : decode cX1_append 37 = .ok (.iconst 2, 1) := by decide +kernel
theorem dX1_append_38 : decode cX1_append 38 = .ok (.invokevirtual 37, 3) := by decide +kernel
theorem dX1_append_41 : decode cX1_append 41 = .ok (.ifCond .eq 6, 3) := by decide +kernel
theorem dX1_append_44 : decode cX1_append 44 = .ok (.bipush (-9), 2) := by decide +kernel
theorem dX1_append_46 : decode cX1_append 46 = .ok (.ireturn, 1) := by decide +kernel
theorem dX1_append_47 : decode cX1_append 47 = .ok (.aload_n 0, 1) := by decide +kernel
theorem dX1_append_48 : decode cX1_append 48 = .ok (.getfield 7, 3) := by decide +kernel
theorem dX1_append_51 : decode cX1_append 51 = .ok (.iconst 4, 1) := by decide +kernel
theorem dX1_append_52 : decode cX1_append 52 = .ok (.iload_n 1, 1) := by decide +kernel
theorem dX1_append_53 : decode cX1_append 53 = .ok (.imul, 1) := by decide +kernel
theorem dX1_append_54 : decode cX1_append 54 = .ok (.aload_n 0, 1) := by decide +kernel
theorem dX1_append_55 : decode cX1_append 55 = .ok (.getfield 13, 3) := by decide +kernel
theorem dX1_append_58 : decode cX1_append 58 = .ok (.iload_n 1, 1) := by decide +kernel
theorem dX1_append_59 : decode cX1_append 59 = .ok (.iaload, 1) := by decide +kernel
theorem dX1_append_60 : decode cX1_append 60 = .ok (.iadd, 1) := by decide +kernel
theorem dX1_append_61 : decode cX1_append 61 = .ok (.iload_n 2, 1) := by decide +kernel
theorem dX1_append_62 : decode cX1_append 62 = .ok (.iastore, 1) := by decide +kernel
theorem dX1_append_63 : decode cX1_append 63 = .ok (.aload_n 0, 1) := by decide +kernel
theorem dX1_append_64 : decode cX1_append 64 = .ok (.getfield 13, 3) := by decide +kernel
theorem dX1_append_67 : decode cX1_append 67 = .ok (.iload_n 1, 1) := by decide +kernel
theorem dX1_append_68 : decode cX1_append 68 = .ok (.dup2, 1) := by decide +kernel
theorem dX1_append_69 : decode cX1_append 69 = .ok (.iaload, 1) := by decide +kernel
theorem dX1_append_70 : decode cX1_append 70 = .ok (.iconst 1, 1) := by decide +kernel
theorem dX1_append_71 : decode cX1_append 71 = .ok (.iadd, 1) := by decide +kernel
theorem dX1_append_72 : decode cX1_append 72 = .ok (.iastore, 1) := by decide +kernel
theorem dX1_append_73 : decode cX1_append 73 = .ok (.aload_n 0, 1) := by decide +kernel
theorem dX1_append_74 : decode cX1_append 74 = .ok (.getfield 13, 3) := by decide +kernel
theorem dX1_append_77 : decode cX1_append 77 = .ok (.iload_n 1, 1) := by decide +kernel
theorem dX1_append_78 : decode cX1_append 78 = .ok (.iaload, 1) := by decide +kernel
theorem dX1_append_79 : decode cX1_append 79 = .ok (.ireturn, 1) := by decide +kernel
abbrev cX1_isBlock : ByteArray := prog_3_method_2_code
def yX1_isBlock : MethodName := ⟨RX1, "isBlock", "(I)Z"⟩
theorem dX1_isBlock_0 : decode cX1_isBlock 0 = .ok (.iload_n 1, 1) := by decide +kernel
theorem dX1_isBlock_1 : decode cX1_isBlock 1 = .ok (.ifCond .lt 13, 3) := by decide +kernel
theorem dX1_isBlock_4 : decode cX1_isBlock 4 = .ok (.iload_n 1, 1) := by decide +kernel
theorem dX1_isBlock_5 : decode cX1_isBlock 5 = .ok (.bipush 7, 2) := by decide +kernel
theorem dX1_isBlock_7 : decode cX1_isBlock 7 = .ok (.if_icmp .gt 7, 3) := by decide +kernel
theorem dX1_isBlock_10 : decode cX1_isBlock 10 = .ok (.iconst 1, 1) := by decide +kernel
theorem dX1_isBlock_11 : decode cX1_isBlock 11 = .ok (.goto 4, 3) := by decide +kernel
theorem dX1_isBlock_14 : decode cX1_isBlock 14 = .ok (.iconst 0, 1) := by decide +kernel
theorem dX1_isBlock_15 : decode cX1_isBlock 15 = .ok (.ireturn, 1) := by decide +kernel
abbrev cX1_isCut : ByteArray := prog_3_method_5_code
def yX1_isCut : MethodName := ⟨RX1, "isCut", "(I)Z"⟩
theorem dX1_isCut_0 : decode cX1_isCut 0 = .ok (.aload_n 0, 1) := by decide +kernel
theorem dX1_isCut_1 : decode cX1_isCut 1 = .ok (.getfield 23, 3) := by decide +kernel
theorem dX1_isCut_4 : decode cX1_isCut 4 = .ok (.ifCond .eq 17, 3) := by decide +kernel
theorem dX1_isCut_7 : decode cX1_isCut 7 = .ok (.iload_n 1, 1) := by decide +kernel
theorem dX1_isCut_8 : decode cX1_isCut 8 = .ok (.aload_n 0, 1) := by decide +kernel
theorem dX1_isCut_9 : decode cX1_isCut 9 = .ok (.getfield 27, 3) := by decide +kernel
theorem dX1_isCut_12 : decode cX1_isCut 12 = .ok (.if_icmp .le 9, 3) := by decide +kernel
theorem dX1_isCut_15 : decode cX1_isCut 15 = .ok (.aload_n 0, 1) := by decide +kernel
theorem dX1_isCut_16 : decode cX1_isCut 16 = .ok (.invokevirtual 30, 3) := by decide +kernel
theorem dX1_isCut_19 : decode cX1_isCut 19 = .ok (.iconst 1, 1) := by decide +kernel
theorem dX1_isCut_20 : decode cX1_isCut 20 = .ok (.ireturn, 1) := by decide +kernel
theorem dX1_isCut_21 : decode cX1_isCut 21 = .ok (.aload_n 0, 1) := by decide +kernel
theorem dX1_isCut_22 : decode cX1_isCut 22 = .ok (.aload_n 0, 1) := by decide +kernel
theorem dX1_isCut_23 : decode cX1_isCut 23 = .ok (.getfield 23, 3) := by decide +kernel
theorem dX1_isCut_26 : decode cX1_isCut 26 = .ok (.ifCond .eq 12, 3) := by decide +kernel
theorem dX1_isCut_29 : decode cX1_isCut 29 = .ok (.aload_n 0, 1) := by decide +kernel
theorem dX1_isCut_30 : decode cX1_isCut 30 = .ok (.getfield 27, 3) := by decide +kernel
theorem dX1_isCut_33 : decode cX1_isCut 33 = .ok (.iload_n 1, 1) := by decide +kernel
theorem dX1_isCut_34 : decode cX1_isCut 34 = .ok (.isub, 1) := by decide +kernel
theorem dX1_isCut_35 : decode cX1_isCut 35 = .ok (.goto 7, 3) := by decide +kernel
theorem dX1_isCut_38 : decode cX1_isCut 38 = .ok (.aload_n 0, 1) := by decide +kernel
theorem dX1_isCut_39 : decode cX1_isCut 39 = .ok (.getfield 27, 3) := by decide +kernel
theorem dX1_isCut_42 : decode cX1_isCut 42 = .ok (.putfield 27, 3) := by decide +kernel
theorem dX1_isCut_45 : decode cX1_isCut 45 = .ok (.iconst 0, 1) := by decide +kernel
theorem dX1_isCut_46 : decode cX1_isCut 46 = .ok (.ireturn, 1) := by decide +kernel
abbrev cX1_restart : ByteArray := prog_3_method_14_code
def yX1_restart : MethodName := ⟨RX1, "restart", "()V"⟩
theorem dX1_restart_0 : decode cX1_restart 0 = .ok (.aload_n 0, 1) := by decide +kernel
theorem dX1_restart_1 : decode cX1_restart 1 = .ok (.iconst 0, 1) := by decide +kernel
theorem dX1_restart_2 : decode cX1_restart 2 = .ok (.putfield 19, 3) := by decide +kernel
theorem dX1_restart_5 : decode cX1_restart 5 = .ok (.aload_n 0, 1) := by decide +kernel
theorem dX1_restart_6 : decode cX1_restart 6 = .ok (.iconst 0, 1) := by decide +kernel
theorem dX1_restart_7 : decode cX1_restart 7 = .ok (.putfield 23, 3) := by decide +kernel
theorem dX1_restart_10 : decode cX1_restart 10 = .ok (.return_, 1) := by decide +kernel
abbrev cX1_change : ByteArray := prog_3_method_7_code
def yX1_change : MethodName := ⟨RX1, "change", "(I)I"⟩
theorem dX1_change_0 : decode cX1_change 0 = .ok (.aload_n 0, 1) := by decide +kernel
theorem dX1_change_1 : decode cX1_change 1 = .ok (.iload_n 1, 1) := by decide +kernel
theorem dX1_change_2 : decode cX1_change 2 = .ok (.invokevirtual 33, 3) := by decide +kernel
theorem dX1_change_5 : decode cX1_change 5 = .ok (.ifCond .ne 5, 3) := by decide +kernel
theorem dX1_change_8 : decode cX1_change 8 = .ok (.iconst (-1), 1) := by decide +kernel
theorem dX1_change_9 : decode cX1_change 9 = .ok (.ireturn, 1) := by decide +kernel
theorem dX1_change_10 : decode cX1_change 10 = .ok (.aload_n 0, 1) := by decide +kernel
theorem dX1_change_11 : decode cX1_change 11 = .ok (.aload_n 0, 1) := by decide +kernel
theorem dX1_change_12 : decode cX1_change 12 = .ok (.getfield 19, 3) := by decide +kernel
theorem dX1_change_15 : decode cX1_change 15 = .ok (.iconst 2, 1) := by decide +kernel
theorem dX1_change_16 : decode cX1_change 16 = .ok (.iadd, 1) := by decide +kernel
theorem dX1_change_17 : decode cX1_change 17 = .ok (.invokevirtual 37, 3) := by decide +kernel
theorem dX1_change_20 : decode cX1_change 20 = .ok (.ifCond .eq 6, 3) := by decide +kernel
theorem dX1_change_23 : decode cX1_change 23 = .ok (.bipush (-9), 2) := by decide +kernel
theorem dX1_change_25 : decode cX1_change 25 = .ok (.ireturn, 1) := by decide +kernel
theorem dX1_change_26 : decode cX1_change 26 = .ok (.iconst 0, 1) := by decide +kernel
theorem dX1_change_27 : decode cX1_change 27 = .ok (.istore_n 2, 1) := by decide +kernel
theorem dX1_change_28 : decode cX1_change 28 = .ok (.iload_n 2, 1) := by decide +kernel
theorem dX1_change_29 : decode cX1_change 29 = .ok (.aload_n 0, 1) := by decide +kernel
theorem dX1_change_30 : decode cX1_change 30 = .ok (.getfield 19, 3) := by decide +kernel
theorem dX1_change_33 : decode cX1_change 33 = .ok (.if_icmp .ge 25, 3) := by decide +kernel
theorem dX1_change_36 : decode cX1_change 36 = .ok (.aload_n 0, 1) := by decide +kernel
theorem dX1_change_37 : decode cX1_change 37 = .ok (.getfield 7, 3) := by decide +kernel
theorem dX1_change_40 : decode cX1_change 40 = .ok (.iconst 4, 1) := by decide +kernel
theorem dX1_change_41 : decode cX1_change 41 = .ok (.iload_n 1, 1) := by decide +kernel
theorem dX1_change_42 : decode cX1_change 42 = .ok (.imul, 1) := by decide +kernel
theorem dX1_change_43 : decode cX1_change 43 = .ok (.iload_n 2, 1) := by decide +kernel
theorem dX1_change_44 : decode cX1_change 44 = .ok (.iadd, 1) := by decide +kernel
theorem dX1_change_45 : decode cX1_change 45 = .ok (.aload_n 0, 1) := by decide +kernel
theorem dX1_change_46 : decode cX1_change 46 = .ok (.getfield 16, 3) := by decide +kernel
theorem dX1_change_49 : decode cX1_change 49 = .ok (.iload_n 2, 1) := by decide +kernel
theorem dX1_change_50 : decode cX1_change 50 = .ok (.iaload, 1) := by decide +kernel
theorem dX1_change_51 : decode cX1_change 51 = .ok (.iastore, 1) := by decide +kernel
theorem dX1_change_52 : decode cX1_change 52 = .ok (.iinc 2 1, 3) := by decide +kernel
theorem dX1_change_55 : decode cX1_change 55 = .ok (.goto (-27), 3) := by decide +kernel
theorem dX1_change_58 : decode cX1_change 58 = .ok (.aload_n 0, 1) := by decide +kernel
theorem dX1_change_59 : decode cX1_change 59 = .ok (.getfield 13, 3) := by decide +kernel
theorem dX1_change_62 : decode cX1_change 62 = .ok (.iload_n 1, 1) := by decide +kernel
theorem dX1_change_63 : decode cX1_change 63 = .ok (.aload_n 0, 1) := by decide +kernel
theorem dX1_change_64 : decode cX1_change 64 = .ok (.getfield 19, 3) := by decide +kernel
theorem dX1_change_67 : decode cX1_change 67 = .ok (.iastore, 1) := by decide +kernel
theorem dX1_change_68 : decode cX1_change 68 = .ok (.aload_n 0, 1) := by decide +kernel
theorem dX1_change_69 : decode cX1_change 69 = .ok (.iconst 0, 1) := by decide +kernel
theorem dX1_change_70 : decode cX1_change 70 = .ok (.putfield 19, 3) := by decide +kernel
theorem dX1_change_73 : decode cX1_change 73 = .ok (.aload_n 0, 1) := by decide +kernel
theorem dX1_change_74 : decode cX1_change 74 = .ok (.getfield 13, 3) := by decide +kernel
theorem dX1_change_77 : decode cX1_change 77 = .ok (.iload_n 1, 1) := by decide +kernel
theorem dX1_change_78 : decode cX1_change 78 = .ok (.iaload, 1) := by decide +kernel
theorem dX1_change_79 : decode cX1_change 79 = .ok (.ireturn, 1) := by decide +kernel
abbrev cX1_drop : ByteArray := prog_3_method_8_code
def yX1_drop : MethodName := ⟨RX1, "drop", "(I)I"⟩
theorem dX1_drop_0 : decode cX1_drop 0 = .ok (.aload_n 0, 1) := by decide +kernel
theorem dX1_drop_1 : decode cX1_drop 1 = .ok (.iload_n 1, 1) := by decide +kernel
theorem dX1_drop_2 : decode cX1_drop 2 = .ok (.invokevirtual 33, 3) := by decide +kernel
theorem dX1_drop_5 : decode cX1_drop 5 = .ok (.ifCond .ne 5, 3) := by decide +kernel
theorem dX1_drop_8 : decode cX1_drop 8 = .ok (.iconst (-1), 1) := by decide +kernel
theorem dX1_drop_9 : decode cX1_drop 9 = .ok (.ireturn, 1) := by decide +kernel
theorem dX1_drop_10 : decode cX1_drop 10 = .ok (.aload_n 0, 1) := by decide +kernel
theorem dX1_drop_11 : decode cX1_drop 11 = .ok (.getfield 13, 3) := by decide +kernel
theorem dX1_drop_14 : decode cX1_drop 14 = .ok (.iload_n 1, 1) := by decide +kernel
theorem dX1_drop_15 : decode cX1_drop 15 = .ok (.iaload, 1) := by decide +kernel
theorem dX1_drop_16 : decode cX1_drop 16 = .ok (.ifCond .ne 6, 3) := by decide +kernel
theorem dX1_drop_19 : decode cX1_drop 19 = .ok (.bipush (-4), 2) := by decide +kernel
theorem dX1_drop_21 : decode cX1_drop 21 = .ok (.ireturn, 1) := by decide +kernel
theorem dX1_drop_22 : decode cX1_drop 22 = .ok (.aload_n 0, 1) := by decide +kernel
theorem dX1_drop_23 : decode cX1_drop 23 = .ok (.iconst 1, 1) := by decide +kernel
theorem dX1_drop_24 : decode cX1_drop 24 = .ok (.invokevirtual 37, 3) := by decide +kernel
theorem dX1_drop_27 : decode cX1_drop 27 = .ok (.ifCond .eq 6, 3) := by decide +kernel
theorem dX1_drop_30 : decode cX1_drop 30 = .ok (.bipush (-9), 2) := by decide +kernel
theorem dX1_drop_32 : decode cX1_drop 32 = .ok (.ireturn, 1) := by decide +kernel
theorem dX1_drop_33 : decode cX1_drop 33 = .ok (.aload_n 0, 1) := by decide +kernel
theorem dX1_drop_34 : decode cX1_drop 34 = .ok (.getfield 13, 3) := by decide +kernel
theorem dX1_drop_37 : decode cX1_drop 37 = .ok (.iload_n 1, 1) := by decide +kernel
theorem dX1_drop_38 : decode cX1_drop 38 = .ok (.iaload, 1) := by decide +kernel
theorem dX1_drop_39 : decode cX1_drop 39 = .ok (.istore_n 2, 1) := by decide +kernel
theorem dX1_drop_40 : decode cX1_drop 40 = .ok (.aload_n 0, 1) := by decide +kernel
theorem dX1_drop_41 : decode cX1_drop 41 = .ok (.getfield 13, 3) := by decide +kernel
theorem dX1_drop_44 : decode cX1_drop 44 = .ok (.iload_n 1, 1) := by decide +kernel
theorem dX1_drop_45 : decode cX1_drop 45 = .ok (.iconst 0, 1) := by decide +kernel
theorem dX1_drop_46 : decode cX1_drop 46 = .ok (.iastore, 1) := by decide +kernel
theorem dX1_drop_47 : decode cX1_drop 47 = .ok (.iload_n 2, 1) := by decide +kernel
theorem dX1_drop_48 : decode cX1_drop 48 = .ok (.ireturn, 1) := by decide +kernel
abbrev cX1_swap : ByteArray := prog_3_method_9_code
def yX1_swap : MethodName := ⟨RX1, "swap", "(II)I"⟩
theorem dX1_swap_0 : decode cX1_swap 0 = .ok (.aload_n 0, 1) := by decide +kernel
theorem dX1_swap_1 : decode cX1_swap 1 = .ok (.iload_n 1, 1) := by decide +kernel
theorem dX1_swap_2 : decode cX1_swap 2 = .ok (.invokevirtual 33, 3) := by decide +kernel
theorem dX1_swap_5 : decode cX1_swap 5 = .ok (.ifCond .eq 11, 3) := by decide +kernel
theorem dX1_swap_8 : decode cX1_swap 8 = .ok (.aload_n 0, 1) := by decide +kernel
theorem dX1_swap_9 : decode cX1_swap 9 = .ok (.iload_n 2, 1) := by decide +kernel
theorem dX1_swap_10 : decode cX1_swap 10 = .ok (.invokevirtual 33, 3) := by decide +kernel
theorem dX1_swap_13 : decode cX1_swap 13 = .ok (.ifCond .ne 5, 3) := by decide +kernel
theorem dX1_swap_16 : decode cX1_swap 16 = .ok (.iconst (-1), 1) := by decide +kernel
theorem dX1_swap_17 : decode cX1_swap 17 = .ok (.ireturn, 1) := by decide +kernel
theorem dX1_swap_18 : decode cX1_swap 18 = .ok (.iload_n 1, 1) := by decide +kernel
theorem dX1_swap_19 : decode cX1_swap 19 = .ok (.iload_n 2, 1) := by decide +kernel
theorem dX1_swap_20 : decode cX1_swap 20 = .ok (.if_icmp .ne 5, 3) := by decide +kernel
theorem dX1_swap_23 : decode cX1_swap 23 = .ok (.iconst 0, 1) := by decide +kernel
theorem dX1_swap_24 : decode cX1_swap 24 = .ok (.ireturn, 1) := by decide +kernel
theorem dX1_swap_25 : decode cX1_swap 25 = .ok (.aload_n 0, 1) := by decide +kernel
theorem dX1_swap_26 : decode cX1_swap 26 = .ok (.aload_n 0, 1) := by decide +kernel
theorem dX1_swap_27 : decode cX1_swap 27 = .ok (.getfield 13, 3) := by decide +kernel
theorem dX1_swap_30 : decode cX1_swap 30 = .ok (.iload_n 1, 1) := by decide +kernel
theorem dX1_swap_31 : decode cX1_swap 31 = .ok (.iaload, 1) := by decide +kernel
theorem dX1_swap_32 : decode cX1_swap 32 = .ok (.aload_n 0, 1) := by decide +kernel
theorem dX1_swap_33 : decode cX1_swap 33 = .ok (.getfield 13, 3) := by decide +kernel
theorem dX1_swap_36 : decode cX1_swap 36 = .ok (.iload_n 2, 1) := by decide +kernel
theorem dX1_swap_37 : decode cX1_swap 37 = .ok (.iaload, 1) := by decide +kernel
theorem dX1_swap_38 : decode cX1_swap 38 = .ok (.iadd, 1) := by decide +kernel
theorem dX1_swap_39 : decode cX1_swap 39 = .ok (.iconst 3, 1) := by decide +kernel
theorem dX1_swap_40 : decode cX1_swap 40 = .ok (.iadd, 1) := by decide +kernel
theorem dX1_swap_41 : decode cX1_swap 41 = .ok (.invokevirtual 37, 3) := by decide +kernel
theorem dX1_swap_44 : decode cX1_swap 44 = .ok (.ifCond .eq 6, 3) := by decide +kernel
theorem dX1_swap_47 : decode cX1_swap 47 = .ok (.bipush (-9), 2) := by decide +kernel
theorem dX1_swap_49 : decode cX1_swap 49 = .ok (.ireturn, 1) := by decide +kernel
theorem dX1_swap_50 : decode cX1_swap 50 = .ok (.aload_n 0, 1) := by decide +kernel
theorem dX1_swap_51 : decode cX1_swap 51 = .ok (.getfield 13, 3) := by decide +kernel
theorem dX1_swap_54 : decode cX1_swap 54 = .ok (.iload_n 1, 1) := by decide +kernel
theorem dX1_swap_55 : decode cX1_swap 55 = .ok (.iaload, 1) := by decide +kernel
theorem dX1_swap_56 : decode cX1_swap 56 = .ok (.istore_n 3, 1) := by decide +kernel
theorem dX1_swap_57 : decode cX1_swap 57 = .ok (.aload_n 0, 1) := by decide +kernel
theorem dX1_swap_58 : decode cX1_swap 58 = .ok (.getfield 13, 3) := by decide +kernel
theorem dX1_swap_61 : decode cX1_swap 61 = .ok (.iload_n 1, 1) := by decide +kernel
theorem dX1_swap_62 : decode cX1_swap 62 = .ok (.aload_n 0, 1) := by decide +kernel
theorem dX1_swap_63 : decode cX1_swap 63 = .ok (.getfield 13, 3) := by decide +kernel
theorem dX1_swap_66 : decode cX1_swap 66 = .ok (.iload_n 2, 1) := by decide +kernel
theorem dX1_swap_67 : decode cX1_swap 67 = .ok (.iaload, 1) := by decide +kernel
theorem dX1_swap_68 : decode cX1_swap 68 = .ok (.iastore, 1) := by decide +kernel
theorem dX1_swap_69 : decode cX1_swap 69 = .ok (.aload_n 0, 1) := by decide +kernel
theorem dX1_swap_70 : decode cX1_swap 70 = .ok (.getfield 13, 3) := by decide +kernel
theorem dX1_swap_73 : decode cX1_swap 73 = .ok (.iload_n 2, 1) := by decide +kernel
theorem dX1_swap_74 : decode cX1_swap 74 = .ok (.iload_n 3, 1) := by decide +kernel
theorem dX1_swap_75 : decode cX1_swap 75 = .ok (.iastore, 1) := by decide +kernel
theorem dX1_swap_76 : decode cX1_swap 76 = .ok (.iconst 0, 1) := by decide +kernel
theorem dX1_swap_77 : decode cX1_swap 77 = .ok (.istore 4, 2) := by decide +kernel
theorem dX1_swap_79 : decode cX1_swap 79 = .ok (.iload 4, 2) := by decide +kernel
theorem dX1_swap_81 : decode cX1_swap 81 = .ok (.iconst 4, 1) := by decide +kernel
theorem dX1_swap_82 : decode cX1_swap 82 = .ok (.if_icmp .ge 57, 3) := by decide +kernel
theorem dX1_swap_85 : decode cX1_swap 85 = .ok (.aload_n 0, 1) := by decide +kernel
theorem dX1_swap_86 : decode cX1_swap 86 = .ok (.getfield 7, 3) := by decide +kernel
theorem dX1_swap_89 : decode cX1_swap 89 = .ok (.iconst 4, 1) := by decide +kernel
theorem dX1_swap_90 : decode cX1_swap 90 = .ok (.iload_n 1, 1) := by decide +kernel
theorem dX1_swap_91 : decode cX1_swap 91 = .ok (.imul, 1) := by decide +kernel
theorem dX1_swap_92 : decode cX1_swap 92 = .ok (.iload 4, 2) := by decide +kernel
theorem dX1_swap_94 : decode cX1_swap 94 = .ok (.iadd, 1) := by decide +kernel
theorem dX1_swap_95 : decode cX1_swap 95 = .ok (.iaload, 1) := by decide +kernel
theorem dX1_swap_96 : decode cX1_swap 96 = .ok (.istore 5, 2) := by decide +kernel
theorem dX1_swap_98 : decode cX1_swap 98 = .ok (.aload_n 0, 1) := by decide +kernel
theorem dX1_swap_99 : decode cX1_swap 99 = .ok (.getfield 7, 3) := by decide +kernel
theorem dX1_swap_102 : decode cX1_swap 102 = .ok (.iconst 4, 1) := by decide +kernel
theorem dX1_swap_103 : decode cX1_swap 103 = .ok (.iload_n 1, 1) := by decide +kernel
theorem dX1_swap_104 : decode cX1_swap 104 = .ok (.imul, 1) := by decide +kernel
theorem dX1_swap_105 : decode cX1_swap 105 = .ok (.iload 4, 2) := by decide +kernel
theorem dX1_swap_107 : decode cX1_swap 107 = .ok (.iadd, 1) := by decide +kernel
theorem dX1_swap_108 : decode cX1_swap 108 = .ok (.aload_n 0, 1) := by decide +kernel
theorem dX1_swap_109 : decode cX1_swap 109 = .ok (.getfield 7, 3) := by decide +kernel
theorem dX1_swap_112 : decode cX1_swap 112 = .ok (.iconst 4, 1) := by decide +kernel
theorem dX1_swap_113 : decode cX1_swap 113 = .ok (.iload_n 2, 1) := by decide +kernel
theorem dX1_swap_114 : decode cX1_swap 114 = .ok (.imul, 1) := by decide +kernel
theorem dX1_swap_115 : decode cX1_swap 115 = .ok (.iload 4, 2) := by decide +kernel
theorem dX1_swap_117 : decode cX1_swap 117 = .ok (.iadd, 1) := by decide +kernel
theorem dX1_swap_118 : decode cX1_swap 118 = .ok (.iaload, 1) := by decide +kernel
theorem dX1_swap_119 : decode cX1_swap 119 = .ok (.iastore, 1) := by decide +kernel
theorem dX1_swap_120 : decode cX1_swap 120 = .ok (.aload_n 0, 1) := by decide +kernel
theorem dX1_swap_121 : decode cX1_swap 121 = .ok (.getfield 7, 3) := by decide +kernel
theorem dX1_swap_124 : decode cX1_swap 124 = .ok (.iconst 4, 1) := by decide +kernel
theorem dX1_swap_125 : decode cX1_swap 125 = .ok (.iload_n 2, 1) := by decide +kernel
theorem dX1_swap_126 : decode cX1_swap 126 = .ok (.imul, 1) := by decide +kernel
theorem dX1_swap_127 : decode cX1_swap 127 = .ok (.iload 4, 2) := by decide +kernel
theorem dX1_swap_129 : decode cX1_swap 129 = .ok (.iadd, 1) := by decide +kernel
theorem dX1_swap_130 : decode cX1_swap 130 = .ok (.iload 5, 2) := by decide +kernel
theorem dX1_swap_132 : decode cX1_swap 132 = .ok (.iastore, 1) := by decide +kernel
theorem dX1_swap_133 : decode cX1_swap 133 = .ok (.iinc 4 1, 3) := by decide +kernel
theorem dX1_swap_136 : decode cX1_swap 136 = .ok (.goto (-57), 3) := by decide +kernel
theorem dX1_swap_139 : decode cX1_swap 139 = .ok (.iconst 0, 1) := by decide +kernel
theorem dX1_swap_140 : decode cX1_swap 140 = .ok (.ireturn, 1) := by decide +kernel
abbrev cX1_size : ByteArray := prog_3_method_10_code
def yX1_size : MethodName := ⟨RX1, "size", "(I)I"⟩
theorem dX1_size_0 : decode cX1_size 0 = .ok (.aload_n 0, 1) := by decide +kernel
theorem dX1_size_1 : decode cX1_size 1 = .ok (.iload_n 1, 1) := by decide +kernel
theorem dX1_size_2 : decode cX1_size 2 = .ok (.invokevirtual 33, 3) := by decide +kernel
theorem dX1_size_5 : decode cX1_size 5 = .ok (.ifCond .eq 12, 3) := by decide +kernel
theorem dX1_size_8 : decode cX1_size 8 = .ok (.aload_n 0, 1) := by decide +kernel
theorem dX1_size_9 : decode cX1_size 9 = .ok (.getfield 13, 3) := by decide +kernel
theorem dX1_size_12 : decode cX1_size 12 = .ok (.iload_n 1, 1) := by decide +kernel
theorem dX1_size_13 : decode cX1_size 13 = .ok (.iaload, 1) := by decide +kernel
theorem dX1_size_14 : decode cX1_size 14 = .ok (.goto 4, 3) := by decide +kernel
theorem dX1_size_17 : decode cX1_size 17 = .ok (.iconst (-1), 1) := by decide +kernel
theorem dX1_size_18 : decode cX1_size 18 = .ok (.ireturn, 1) := by decide +kernel
abbrev cX1_read : ByteArray := prog_3_method_11_code
def yX1_read : MethodName := ⟨RX1, "read", "(II)I"⟩
theorem dX1_read_0 : decode cX1_read 0 = .ok (.aload_n 0, 1) := by decide +kernel
theorem dX1_read_1 : decode cX1_read 1 = .ok (.iload_n 1, 1) := by decide +kernel
theorem dX1_read_2 : decode cX1_read 2 = .ok (.invokevirtual 33, 3) := by decide +kernel
theorem dX1_read_5 : decode cX1_read 5 = .ok (.ifCond .eq 30, 3) := by decide +kernel
theorem dX1_read_8 : decode cX1_read 8 = .ok (.iload_n 2, 1) := by decide +kernel
theorem dX1_read_9 : decode cX1_read 9 = .ok (.ifCond .lt 26, 3) := by decide +kernel
theorem dX1_read_12 : decode cX1_read 12 = .ok (.iload_n 2, 1) := by decide +kernel
theorem dX1_read_13 : decode cX1_read 13 = .ok (.aload_n 0, 1) := by decide +kernel
theorem dX1_read_14 : decode cX1_read 14 = .ok (.getfield 13, 3) := by decide +kernel
theorem dX1_read_17 : decode cX1_read 17 = .ok (.iload_n 1, 1) := by decide +kernel
theorem dX1_read_18 : decode cX1_read 18 = .ok (.iaload, 1) := by decide +kernel
theorem dX1_read_19 : decode cX1_read 19 = .ok (.if_icmp .ge 16, 3) := by decide +kernel
theorem dX1_read_22 : decode cX1_read 22 = .ok (.aload_n 0, 1) := by decide +kernel
theorem dX1_read_23 : decode cX1_read 23 = .ok (.getfield 7, 3) := by decide +kernel
theorem dX1_read_26 : decode cX1_read 26 = .ok (.iconst 4, 1) := by decide +kernel
theorem dX1_read_27 : decode cX1_read 27 = .ok (.iload_n 1, 1) := by decide +kernel
theorem dX1_read_28 : decode cX1_read 28 = .ok (.imul, 1) := by decide +kernel
theorem dX1_read_29 : decode cX1_read 29 = .ok (.iload_n 2, 1) := by decide +kernel
theorem dX1_read_30 : decode cX1_read 30 = .ok (.iadd, 1) := by decide +kernel
theorem dX1_read_31 : decode cX1_read 31 = .ok (.iaload, 1) := by decide +kernel
theorem dX1_read_32 : decode cX1_read 32 = .ok (.goto 4, 3) := by decide +kernel
theorem dX1_read_35 : decode cX1_read 35 = .ok (.iconst 0, 1) := by decide +kernel
theorem dX1_read_36 : decode cX1_read 36 = .ok (.ireturn, 1) := by decide +kernel
abbrev cX1_cutAfter : ByteArray := prog_3_method_12_code
def yX1_cutAfter : MethodName := ⟨RX1, "cutAfter", "(I)I"⟩
theorem dX1_cutAfter_0 : decode cX1_cutAfter 0 = .ok (.iload_n 1, 1) := by decide +kernel
theorem dX1_cutAfter_1 : decode cX1_cutAfter 1 = .ok (.ifCond .lt 9, 3) := by decide +kernel
theorem dX1_cutAfter_4 : decode cX1_cutAfter 4 = .ok (.iload_n 1, 1) := by decide +kernel
theorem dX1_cutAfter_5 : decode cX1_cutAfter 5 = .ok (.bipush 40, 2) := by decide +kernel
theorem dX1_cutAfter_7 : decode cX1_cutAfter 7 = .ok (.if_icmp .le 5, 3) := by decide +kernel
theorem dX1_cutAfter_10 : decode cX1_cutAfter 10 = .ok (.iconst (-1), 1) := by decide +kernel
theorem dX1_cutAfter_11 : decode cX1_cutAfter 11 = .ok (.ireturn, 1) := by decide +kernel
theorem dX1_cutAfter_12 : decode cX1_cutAfter 12 = .ok (.aload_n 0, 1) := by decide +kernel
theorem dX1_cutAfter_13 : decode cX1_cutAfter 13 = .ok (.iconst 1, 1) := by decide +kernel
theorem dX1_cutAfter_14 : decode cX1_cutAfter 14 = .ok (.putfield 23, 3) := by decide +kernel
theorem dX1_cutAfter_17 : decode cX1_cutAfter 17 = .ok (.aload_n 0, 1) := by decide +kernel
theorem dX1_cutAfter_18 : decode cX1_cutAfter 18 = .ok (.iload_n 1, 1) := by decide +kernel
theorem dX1_cutAfter_19 : decode cX1_cutAfter 19 = .ok (.putfield 27, 3) := by decide +kernel
theorem dX1_cutAfter_22 : decode cX1_cutAfter 22 = .ok (.iconst 0, 1) := by decide +kernel
theorem dX1_cutAfter_23 : decode cX1_cutAfter 23 = .ok (.ireturn, 1) := by decide +kernel
abbrev cX1_cancel : ByteArray := prog_3_method_13_code
def yX1_cancel : MethodName := ⟨RX1, "cancel", "()I"⟩
theorem dX1_cancel_0 : decode cX1_cancel 0 = .ok (.aload_n 0, 1) := by decide +kernel
theorem dX1_cancel_1 : decode cX1_cancel 1 = .ok (.getfield 23, 3) := by decide +kernel
theorem dX1_cancel_4 : decode cX1_cancel 4 = .ok (.ifCond .eq 10, 3) := by decide +kernel
theorem dX1_cancel_7 : decode cX1_cancel 7 = .ok (.aload_n 0, 1) := by decide +kernel
theorem dX1_cancel_8 : decode cX1_cancel 8 = .ok (.getfield 27, 3) := by decide +kernel
theorem dX1_cancel_11 : decode cX1_cancel 11 = .ok (.goto 5, 3) := by decide +kernel
theorem dX1_cancel_14 : decode cX1_cancel 14 = .ok (.bipush (-4), 2) := by decide +kernel
theorem dX1_cancel_16 : decode cX1_cancel 16 = .ok (.istore_n 1, 1) := by decide +kernel
theorem dX1_cancel_17 : decode cX1_cancel 17 = .ok (.aload_n 0, 1) := by decide +kernel
theorem dX1_cancel_18 : decode cX1_cancel 18 = .ok (.iconst 0, 1) := by decide +kernel
theorem dX1_cancel_19 : decode cX1_cancel 19 = .ok (.putfield 23, 3) := by decide +kernel
theorem dX1_cancel_22 : decode cX1_cancel 22 = .ok (.iload_n 1, 1) := by decide +kernel
theorem dX1_cancel_23 : decode cX1_cancel 23 = .ok (.ireturn, 1) := by decide +kernel
abbrev cX1_drafted : ByteArray := prog_3_method_15_code
def yX1_drafted : MethodName := ⟨RX1, "drafted", "()I"⟩
theorem dX1_drafted_0 : decode cX1_drafted 0 = .ok (.aload_n 0, 1) := by decide +kernel
theorem dX1_drafted_1 : decode cX1_drafted 1 = .ok (.getfield 19, 3) := by decide +kernel
theorem dX1_drafted_4 : decode cX1_drafted 4 = .ok (.ireturn, 1) := by decide +kernel
abbrev cX1_digest : ByteArray := prog_3_method_16_code
def yX1_digest : MethodName := ⟨RX1, "digest", "()I"⟩
theorem dX1_digest_0 : decode cX1_digest 0 = .ok (.iconst 0, 1) := by decide +kernel
theorem dX1_digest_1 : decode cX1_digest 1 = .ok (.istore_n 1, 1) := by decide +kernel
theorem dX1_digest_2 : decode cX1_digest 2 = .ok (.iconst 0, 1) := by decide +kernel
theorem dX1_digest_3 : decode cX1_digest 3 = .ok (.istore_n 2, 1) := by decide +kernel
theorem dX1_digest_4 : decode cX1_digest 4 = .ok (.iload_n 2, 1) := by decide +kernel
theorem dX1_digest_5 : decode cX1_digest 5 = .ok (.bipush 8, 2) := by decide +kernel
theorem dX1_digest_7 : decode cX1_digest 7 = .ok (.if_icmp .ge 48, 3) := by decide +kernel
theorem dX1_digest_10 : decode cX1_digest 10 = .ok (.iconst 0, 1) := by decide +kernel
theorem dX1_digest_11 : decode cX1_digest 11 = .ok (.istore_n 3, 1) := by decide +kernel
theorem dX1_digest_12 : decode cX1_digest 12 = .ok (.iload_n 3, 1) := by decide +kernel
theorem dX1_digest_13 : decode cX1_digest 13 = .ok (.aload_n 0, 1) := by decide +kernel
theorem dX1_digest_14 : decode cX1_digest 14 = .ok (.getfield 13, 3) := by decide +kernel
theorem dX1_digest_17 : decode cX1_digest 17 = .ok (.iload_n 2, 1) := by decide +kernel
theorem dX1_digest_18 : decode cX1_digest 18 = .ok (.iaload, 1) := by decide +kernel
theorem dX1_digest_19 : decode cX1_digest 19 = .ok (.if_icmp .ge 30, 3) := by decide +kernel
theorem dX1_digest_22 : decode cX1_digest 22 = .ok (.iload_n 1, 1) := by decide +kernel
theorem dX1_digest_23 : decode cX1_digest 23 = .ok (.iconst 4, 1) := by decide +kernel
theorem dX1_digest_24 : decode cX1_digest 24 = .ok (.iload_n 2, 1) := by decide +kernel
theorem dX1_digest_25 : decode cX1_digest 25 = .ok (.imul, 1) := by decide +kernel
theorem dX1_digest_26 : decode cX1_digest 26 = .ok (.iload_n 3, 1) := by decide +kernel
theorem dX1_digest_27 : decode cX1_digest 27 = .ok (.iadd, 1) := by decide +kernel
theorem dX1_digest_28 : decode cX1_digest 28 = .ok (.iconst 1, 1) := by decide +kernel
theorem dX1_digest_29 : decode cX1_digest 29 = .ok (.iadd, 1) := by decide +kernel
theorem dX1_digest_30 : decode cX1_digest 30 = .ok (.aload_n 0, 1) := by decide +kernel
theorem dX1_digest_31 : decode cX1_digest 31 = .ok (.getfield 7, 3) := by decide +kernel
theorem dX1_digest_34 : decode cX1_digest 34 = .ok (.iconst 4, 1) := by decide +kernel
theorem dX1_digest_35 : decode cX1_digest 35 = .ok (.iload_n 2, 1) := by decide +kernel
theorem dX1_digest_36 : decode cX1_digest 36 = .ok (.imul, 1) := by decide +kernel
theorem dX1_digest_37 : decode cX1_digest 37 = .ok (.iload_n 3, 1) := by decide +kernel
theorem dX1_digest_38 : decode cX1_digest 38 = .ok (.iadd, 1) := by decide +kernel
theorem dX1_digest_39 : decode cX1_digest 39 = .ok (.iaload, 1) := by decide +kernel
theorem dX1_digest_40 : decode cX1_digest 40 = .ok (.imul, 1) := by decide +kernel
theorem dX1_digest_41 : decode cX1_digest 41 = .ok (.iadd, 1) := by decide +kernel
theorem dX1_digest_42 : decode cX1_digest 42 = .ok (.istore_n 1, 1) := by decide +kernel
theorem dX1_digest_43 : decode cX1_digest 43 = .ok (.iinc 3 1, 3) := by decide +kernel
theorem dX1_digest_46 : decode cX1_digest 46 = .ok (.goto (-34), 3) := by decide +kernel
theorem dX1_digest_49 : decode cX1_digest 49 = .ok (.iinc 2 1, 3) := by decide +kernel
theorem dX1_digest_52 : decode cX1_digest 52 = .ok (.goto (-48), 3) := by decide +kernel
theorem dX1_digest_55 : decode cX1_digest 55 = .ok (.iload_n 1, 1) := by decide +kernel
theorem dX1_digest_56 : decode cX1_digest 56 = .ok (.ireturn, 1) := by decide +kernel
abbrev cX1_rest : ByteArray := prog_3_method_17_code
def yX1_rest : MethodName := ⟨RX1, "rest", "(I)V"⟩
theorem dX1_rest_0 : decode cX1_rest 0 = .ok (.return_, 1) := by decide +kernel
abbrev cX1_fail : ByteArray := prog_3_method_18_code
def yX1_fail : MethodName := ⟨RX1, "fail", "()V"⟩
theorem dX1_fail_0 : decode cX1_fail 0 = .ok (.return_, 1) := by decide +kernel
theorem q21 : (Jvm.Cond.initialized "FlashVolumesModel") ∈ lw_all := lw_g (lw_at lw_m1 2 rfl) rfl
theorem q219 : (Jvm.Cond.instantiable "FlashVolumesModel" (6 : Nat)) ∈ lw_all := lw_g (lw_at lw_m1 200 rfl) rfl
theorem q221 : (Jvm.Cond.instanceMethod ({ cls := "FlashVolumesModel", name := "<init>", desc := "()V" } : Jvm.MethodName)) ∈ lw_all := lw_g (lw_at lw_m1 202 rfl) rfl
theorem q222 : (Jvm.Cond.code ({ cls := "FlashVolumesModel", name := "<init>", desc := "()V" } : Jvm.MethodName) prog_3_method_1_code (1 : Nat) (Option.none : Option Jvm.ClassFile.FieldType)) ∈ lw_all := lw_g (lw_at lw_m1 203 rfl) rfl
theorem q223 : (Jvm.Cond.methodLink "FlashVolumesModel" (1 : Nat) ({ cls := "java/lang/Object", name := "<init>", desc := "()V" } : Jvm.MethodName)) ∈ lw_all := lw_g (lw_at lw_m1 204 rfl) rfl
theorem q224 : (Jvm.Cond.fieldLink "FlashVolumesModel" (7 : Nat) "FlashVolumesModel" "words" "[I") ∈ lw_all := lw_g (lw_at lw_m1 205 rfl) rfl
theorem q225 : (Jvm.Cond.fieldLink "FlashVolumesModel" (13 : Nat) "FlashVolumesModel" "sizes" "[I") ∈ lw_all := lw_g (lw_at lw_m1 206 rfl) rfl
theorem q226 : (Jvm.Cond.fieldLink "FlashVolumesModel" (16 : Nat) "FlashVolumesModel" "draft" "[I") ∈ lw_all := lw_g (lw_at lw_m1 207 rfl) rfl
theorem q227 : (Jvm.Cond.fieldLink "FlashVolumesModel" (19 : Nat) "FlashVolumesModel" "drafted" "I") ∈ lw_all := lw_g (lw_at lw_m1 208 rfl) rfl
theorem q228 : (Jvm.Cond.fieldLink "FlashVolumesModel" (23 : Nat) "FlashVolumesModel" "cutSet" "Z") ∈ lw_all := lw_g (lw_at lw_m1 209 rfl) rfl
theorem q229 : (Jvm.Cond.fieldLink "FlashVolumesModel" (27 : Nat) "FlashVolumesModel" "count" "I") ∈ lw_all := lw_g (lw_at lw_m1 210 rfl) rfl
theorem q230 : (Jvm.Cond.laysFinal "FlashVolumesModel" "FlashVolumesModel" "words" "[I") ∈ lw_all := lw_g (lw_at lw_m1 211 rfl) rfl
theorem q231 : (Jvm.Cond.soleField "FlashVolumesModel" "words") ∈ lw_all := lw_g (lw_at lw_m1 212 rfl) rfl
theorem q232 : (Jvm.Cond.laysFinal "FlashVolumesModel" "FlashVolumesModel" "sizes" "[I") ∈ lw_all := lw_g (lw_at lw_m1 213 rfl) rfl
theorem q233 : (Jvm.Cond.soleField "FlashVolumesModel" "sizes") ∈ lw_all := lw_g (lw_at lw_m1 214 rfl) rfl
theorem q234 : (Jvm.Cond.laysFinal "FlashVolumesModel" "FlashVolumesModel" "draft" "[I") ∈ lw_all := lw_g (lw_at lw_m1 215 rfl) rfl
theorem q235 : (Jvm.Cond.soleField "FlashVolumesModel" "draft") ∈ lw_all := lw_g (lw_at lw_m1 216 rfl) rfl
theorem q236 : (Jvm.Cond.lays "FlashVolumesModel" "FlashVolumesModel" "drafted" "I") ∈ lw_all := lw_g (lw_at lw_m1 217 rfl) rfl
theorem q237 : (Jvm.Cond.soleField "FlashVolumesModel" "drafted") ∈ lw_all := lw_g (lw_at lw_m1 218 rfl) rfl
theorem q238 : (Jvm.Cond.lays "FlashVolumesModel" "FlashVolumesModel" "cutSet" "Z") ∈ lw_all := lw_g (lw_at lw_m1 219 rfl) rfl
theorem q239 : (Jvm.Cond.soleField "FlashVolumesModel" "cutSet") ∈ lw_all := lw_g (lw_at lw_m1 220 rfl) rfl
theorem q240 : (Jvm.Cond.lays "FlashVolumesModel" "FlashVolumesModel" "count" "I") ∈ lw_all := lw_g (lw_at lw_m1 221 rfl) rfl
theorem q241 : (Jvm.Cond.soleField "FlashVolumesModel" "count") ∈ lw_all := lw_g (lw_at lw_m1 222 rfl) rfl
theorem q242 : (Jvm.Cond.superclass "FlashVolumesModel" "java/lang/Object") ∈ lw_all := lw_g (lw_at lw_m1 223 rfl) rfl
theorem q244 : (Jvm.Cond.instanceMethod ({ cls := "FlashVolumesModel", name := "draft", desc := "(I)I" } : Jvm.MethodName)) ∈ lw_all := lw_g (lw_at lw_m1 225 rfl) rfl
theorem q245 : (Jvm.Cond.selects "FlashVolumesModel" ({ cls := "FlashVolumesModel", name := "draft", desc := "(I)I" } : Jvm.MethodName) ({ cls := "FlashVolumesModel", name := "draft", desc := "(I)I" } : Jvm.MethodName)) ∈ lw_all := lw_g (lw_at lw_m1 226 rfl) rfl
theorem q246 : (Jvm.Cond.code ({ cls := "FlashVolumesModel", name := "draft", desc := "(I)I" } : Jvm.MethodName) prog_3_method_3_code (2 : Nat) (Option.some Jvm.ClassFile.FieldType.int)) ∈ lw_all := lw_g (lw_at lw_m1 227 rfl) rfl
theorem q248 : (Jvm.Cond.instanceMethod ({ cls := "FlashVolumesModel", name := "scrap", desc := "()V" } : Jvm.MethodName)) ∈ lw_all := lw_g (lw_at lw_m1 229 rfl) rfl
theorem q249 : (Jvm.Cond.selects "FlashVolumesModel" ({ cls := "FlashVolumesModel", name := "scrap", desc := "()V" } : Jvm.MethodName) ({ cls := "FlashVolumesModel", name := "scrap", desc := "()V" } : Jvm.MethodName)) ∈ lw_all := lw_g (lw_at lw_m1 230 rfl) rfl
theorem q250 : (Jvm.Cond.code ({ cls := "FlashVolumesModel", name := "scrap", desc := "()V" } : Jvm.MethodName) prog_3_method_4_code (1 : Nat) (Option.none : Option Jvm.ClassFile.FieldType)) ∈ lw_all := lw_g (lw_at lw_m1 231 rfl) rfl
theorem q252 : (Jvm.Cond.instanceMethod ({ cls := "FlashVolumesModel", name := "append", desc := "(II)I" } : Jvm.MethodName)) ∈ lw_all := lw_g (lw_at lw_m1 233 rfl) rfl
theorem q253 : (Jvm.Cond.selects "FlashVolumesModel" ({ cls := "FlashVolumesModel", name := "append", desc := "(II)I" } : Jvm.MethodName) ({ cls := "FlashVolumesModel", name := "append", desc := "(II)I" } : Jvm.MethodName)) ∈ lw_all := lw_g (lw_at lw_m1 234 rfl) rfl
theorem q254 : (Jvm.Cond.code ({ cls := "FlashVolumesModel", name := "append", desc := "(II)I" } : Jvm.MethodName) prog_3_method_6_code (3 : Nat) (Option.some Jvm.ClassFile.FieldType.int)) ∈ lw_all := lw_g (lw_at lw_m1 235 rfl) rfl
theorem q255 : (Jvm.Cond.methodLink "FlashVolumesModel" (33 : Nat) ({ cls := "FlashVolumesModel", name := "isBlock", desc := "(I)Z" } : Jvm.MethodName)) ∈ lw_all := lw_g (lw_at lw_m1 236 rfl) rfl
theorem q256 : (Jvm.Cond.privateMethod ({ cls := "FlashVolumesModel", name := "isBlock", desc := "(I)Z" } : Jvm.MethodName)) ∈ lw_tbl := lw_at lw_m1 237 rfl
theorem q257 : (Jvm.Cond.instanceMethod ({ cls := "FlashVolumesModel", name := "isBlock", desc := "(I)Z" } : Jvm.MethodName)) ∈ lw_all := lw_g (lw_at lw_m1 238 rfl) rfl
theorem q258 : (Jvm.Cond.code ({ cls := "FlashVolumesModel", name := "isBlock", desc := "(I)Z" } : Jvm.MethodName) prog_3_method_2_code (2 : Nat) (Option.some Jvm.ClassFile.FieldType.boolean)) ∈ lw_all := lw_g (lw_at lw_m1 239 rfl) rfl
theorem q259 : (Jvm.Cond.methodLink "FlashVolumesModel" (37 : Nat) ({ cls := "FlashVolumesModel", name := "isCut", desc := "(I)Z" } : Jvm.MethodName)) ∈ lw_all := lw_g (lw_at lw_m2 0 rfl) rfl
theorem q260 : (Jvm.Cond.privateMethod ({ cls := "FlashVolumesModel", name := "isCut", desc := "(I)Z" } : Jvm.MethodName)) ∈ lw_tbl := lw_at lw_m2 1 rfl
theorem q261 : (Jvm.Cond.instanceMethod ({ cls := "FlashVolumesModel", name := "isCut", desc := "(I)Z" } : Jvm.MethodName)) ∈ lw_all := lw_g (lw_at lw_m2 2 rfl) rfl
theorem q262 : (Jvm.Cond.code ({ cls := "FlashVolumesModel", name := "isCut", desc := "(I)Z" } : Jvm.MethodName) prog_3_method_5_code (2 : Nat) (Option.some Jvm.ClassFile.FieldType.boolean)) ∈ lw_all := lw_g (lw_at lw_m2 3 rfl) rfl
theorem q263 : (Jvm.Cond.methodLink "FlashVolumesModel" (30 : Nat) ({ cls := "FlashVolumesModel", name := "restart", desc := "()V" } : Jvm.MethodName)) ∈ lw_all := lw_g (lw_at lw_m2 4 rfl) rfl
theorem q264 : (Jvm.Cond.instanceMethod ({ cls := "FlashVolumesModel", name := "restart", desc := "()V" } : Jvm.MethodName)) ∈ lw_all := lw_g (lw_at lw_m2 5 rfl) rfl
theorem q265 : (Jvm.Cond.selects "FlashVolumesModel" ({ cls := "FlashVolumesModel", name := "restart", desc := "()V" } : Jvm.MethodName) ({ cls := "FlashVolumesModel", name := "restart", desc := "()V" } : Jvm.MethodName)) ∈ lw_all := lw_g (lw_at lw_m2 6 rfl) rfl
theorem q266 : (Jvm.Cond.code ({ cls := "FlashVolumesModel", name := "restart", desc := "()V" } : Jvm.MethodName) prog_3_method_14_code (1 : Nat) (Option.none : Option Jvm.ClassFile.FieldType)) ∈ lw_all := lw_g (lw_at lw_m2 7 rfl) rfl
theorem q268 : (Jvm.Cond.instanceMethod ({ cls := "FlashVolumesModel", name := "change", desc := "(I)I" } : Jvm.MethodName)) ∈ lw_all := lw_g (lw_at lw_m2 9 rfl) rfl
theorem q269 : (Jvm.Cond.selects "FlashVolumesModel" ({ cls := "FlashVolumesModel", name := "change", desc := "(I)I" } : Jvm.MethodName) ({ cls := "FlashVolumesModel", name := "change", desc := "(I)I" } : Jvm.MethodName)) ∈ lw_all := lw_g (lw_at lw_m2 10 rfl) rfl
theorem q270 : (Jvm.Cond.code ({ cls := "FlashVolumesModel", name := "change", desc := "(I)I" } : Jvm.MethodName) prog_3_method_7_code (3 : Nat) (Option.some Jvm.ClassFile.FieldType.int)) ∈ lw_all := lw_g (lw_at lw_m2 11 rfl) rfl
theorem q272 : (Jvm.Cond.instanceMethod ({ cls := "FlashVolumesModel", name := "drop", desc := "(I)I" } : Jvm.MethodName)) ∈ lw_all := lw_g (lw_at lw_m2 13 rfl) rfl
theorem q273 : (Jvm.Cond.selects "FlashVolumesModel" ({ cls := "FlashVolumesModel", name := "drop", desc := "(I)I" } : Jvm.MethodName) ({ cls := "FlashVolumesModel", name := "drop", desc := "(I)I" } : Jvm.MethodName)) ∈ lw_all := lw_g (lw_at lw_m2 14 rfl) rfl
theorem q274 : (Jvm.Cond.code ({ cls := "FlashVolumesModel", name := "drop", desc := "(I)I" } : Jvm.MethodName) prog_3_method_8_code (3 : Nat) (Option.some Jvm.ClassFile.FieldType.int)) ∈ lw_all := lw_g (lw_at lw_m2 15 rfl) rfl
theorem q276 : (Jvm.Cond.instanceMethod ({ cls := "FlashVolumesModel", name := "swap", desc := "(II)I" } : Jvm.MethodName)) ∈ lw_all := lw_g (lw_at lw_m2 17 rfl) rfl
theorem q277 : (Jvm.Cond.selects "FlashVolumesModel" ({ cls := "FlashVolumesModel", name := "swap", desc := "(II)I" } : Jvm.MethodName) ({ cls := "FlashVolumesModel", name := "swap", desc := "(II)I" } : Jvm.MethodName)) ∈ lw_all := lw_g (lw_at lw_m2 18 rfl) rfl
theorem q278 : (Jvm.Cond.code ({ cls := "FlashVolumesModel", name := "swap", desc := "(II)I" } : Jvm.MethodName) prog_3_method_9_code (6 : Nat) (Option.some Jvm.ClassFile.FieldType.int)) ∈ lw_all := lw_g (lw_at lw_m2 19 rfl) rfl
theorem q280 : (Jvm.Cond.instanceMethod ({ cls := "FlashVolumesModel", name := "size", desc := "(I)I" } : Jvm.MethodName)) ∈ lw_all := lw_g (lw_at lw_m2 21 rfl) rfl
theorem q281 : (Jvm.Cond.selects "FlashVolumesModel" ({ cls := "FlashVolumesModel", name := "size", desc := "(I)I" } : Jvm.MethodName) ({ cls := "FlashVolumesModel", name := "size", desc := "(I)I" } : Jvm.MethodName)) ∈ lw_all := lw_g (lw_at lw_m2 22 rfl) rfl
theorem q282 : (Jvm.Cond.code ({ cls := "FlashVolumesModel", name := "size", desc := "(I)I" } : Jvm.MethodName) prog_3_method_10_code (2 : Nat) (Option.some Jvm.ClassFile.FieldType.int)) ∈ lw_all := lw_g (lw_at lw_m2 23 rfl) rfl
theorem q284 : (Jvm.Cond.instanceMethod ({ cls := "FlashVolumesModel", name := "read", desc := "(II)I" } : Jvm.MethodName)) ∈ lw_all := lw_g (lw_at lw_m2 25 rfl) rfl
theorem q285 : (Jvm.Cond.selects "FlashVolumesModel" ({ cls := "FlashVolumesModel", name := "read", desc := "(II)I" } : Jvm.MethodName) ({ cls := "FlashVolumesModel", name := "read", desc := "(II)I" } : Jvm.MethodName)) ∈ lw_all := lw_g (lw_at lw_m2 26 rfl) rfl
theorem q286 : (Jvm.Cond.code ({ cls := "FlashVolumesModel", name := "read", desc := "(II)I" } : Jvm.MethodName) prog_3_method_11_code (3 : Nat) (Option.some Jvm.ClassFile.FieldType.int)) ∈ lw_all := lw_g (lw_at lw_m2 27 rfl) rfl
theorem q288 : (Jvm.Cond.instanceMethod ({ cls := "FlashVolumesModel", name := "cutAfter", desc := "(I)I" } : Jvm.MethodName)) ∈ lw_all := lw_g (lw_at lw_m2 29 rfl) rfl
theorem q289 : (Jvm.Cond.selects "FlashVolumesModel" ({ cls := "FlashVolumesModel", name := "cutAfter", desc := "(I)I" } : Jvm.MethodName) ({ cls := "FlashVolumesModel", name := "cutAfter", desc := "(I)I" } : Jvm.MethodName)) ∈ lw_all := lw_g (lw_at lw_m2 30 rfl) rfl
theorem q290 : (Jvm.Cond.code ({ cls := "FlashVolumesModel", name := "cutAfter", desc := "(I)I" } : Jvm.MethodName) prog_3_method_12_code (2 : Nat) (Option.some Jvm.ClassFile.FieldType.int)) ∈ lw_all := lw_g (lw_at lw_m2 31 rfl) rfl
theorem q292 : (Jvm.Cond.instanceMethod ({ cls := "FlashVolumesModel", name := "cancel", desc := "()I" } : Jvm.MethodName)) ∈ lw_all := lw_g (lw_at lw_m2 33 rfl) rfl
theorem q293 : (Jvm.Cond.selects "FlashVolumesModel" ({ cls := "FlashVolumesModel", name := "cancel", desc := "()I" } : Jvm.MethodName) ({ cls := "FlashVolumesModel", name := "cancel", desc := "()I" } : Jvm.MethodName)) ∈ lw_all := lw_g (lw_at lw_m2 34 rfl) rfl
theorem q294 : (Jvm.Cond.code ({ cls := "FlashVolumesModel", name := "cancel", desc := "()I" } : Jvm.MethodName) prog_3_method_13_code (2 : Nat) (Option.some Jvm.ClassFile.FieldType.int)) ∈ lw_all := lw_g (lw_at lw_m2 35 rfl) rfl
theorem q297 : (Jvm.Cond.instanceMethod ({ cls := "FlashVolumesModel", name := "drafted", desc := "()I" } : Jvm.MethodName)) ∈ lw_all := lw_g (lw_at lw_m2 38 rfl) rfl
theorem q298 : (Jvm.Cond.selects "FlashVolumesModel" ({ cls := "FlashVolumesModel", name := "drafted", desc := "()I" } : Jvm.MethodName) ({ cls := "FlashVolumesModel", name := "drafted", desc := "()I" } : Jvm.MethodName)) ∈ lw_all := lw_g (lw_at lw_m2 39 rfl) rfl
theorem q299 : (Jvm.Cond.code ({ cls := "FlashVolumesModel", name := "drafted", desc := "()I" } : Jvm.MethodName) prog_3_method_15_code (1 : Nat) (Option.some Jvm.ClassFile.FieldType.int)) ∈ lw_all := lw_g (lw_at lw_m2 40 rfl) rfl
theorem q301 : (Jvm.Cond.instanceMethod ({ cls := "FlashVolumesModel", name := "digest", desc := "()I" } : Jvm.MethodName)) ∈ lw_all := lw_g (lw_at lw_m2 42 rfl) rfl
theorem q302 : (Jvm.Cond.selects "FlashVolumesModel" ({ cls := "FlashVolumesModel", name := "digest", desc := "()I" } : Jvm.MethodName) ({ cls := "FlashVolumesModel", name := "digest", desc := "()I" } : Jvm.MethodName)) ∈ lw_all := lw_g (lw_at lw_m2 43 rfl) rfl
theorem q303 : (Jvm.Cond.code ({ cls := "FlashVolumesModel", name := "digest", desc := "()I" } : Jvm.MethodName) prog_3_method_16_code (4 : Nat) (Option.some Jvm.ClassFile.FieldType.int)) ∈ lw_all := lw_g (lw_at lw_m2 44 rfl) rfl
theorem q305 : (Jvm.Cond.instanceMethod ({ cls := "FlashVolumesModel", name := "rest", desc := "(I)V" } : Jvm.MethodName)) ∈ lw_all := lw_g (lw_at lw_m2 46 rfl) rfl
theorem q306 : (Jvm.Cond.selects "FlashVolumesModel" ({ cls := "FlashVolumesModel", name := "rest", desc := "(I)V" } : Jvm.MethodName) ({ cls := "FlashVolumesModel", name := "rest", desc := "(I)V" } : Jvm.MethodName)) ∈ lw_all := lw_g (lw_at lw_m2 47 rfl) rfl
theorem q307 : (Jvm.Cond.code ({ cls := "FlashVolumesModel", name := "rest", desc := "(I)V" } : Jvm.MethodName) prog_3_method_17_code (2 : Nat) (Option.none : Option Jvm.ClassFile.FieldType)) ∈ lw_all := lw_g (lw_at lw_m2 48 rfl) rfl
theorem q309 : (Jvm.Cond.instanceMethod ({ cls := "FlashVolumesModel", name := "fail", desc := "()V" } : Jvm.MethodName)) ∈ lw_all := lw_g (lw_at lw_m2 50 rfl) rfl
theorem q310 : (Jvm.Cond.selects "FlashVolumesModel" ({ cls := "FlashVolumesModel", name := "fail", desc := "()V" } : Jvm.MethodName) ({ cls := "FlashVolumesModel", name := "fail", desc := "()V" } : Jvm.MethodName)) ∈ lw_all := lw_g (lw_at lw_m2 51 rfl) rfl
theorem q311 : (Jvm.Cond.code ({ cls := "FlashVolumesModel", name := "fail", desc := "()V" } : Jvm.MethodName) prog_3_method_18_code (1 : Nat) (Option.none : Option Jvm.ClassFile.FieldType)) ∈ lw_all := lw_g (lw_at lw_m2 52 rfl) rfl
theorem in_X1 : ∀ w ∈ wsX10, w ∈ lw_all := lw_in wsX10 [230, 232, 234, 236, 238, 240] (by decide +kernel) (by decide +kernel)
end
section
/-! the law's own entry -/
set_option maxRecDepth 100000
abbrev cL_law : ByteArray := code
theorem dL_law_0 : decode cL_law 0 = .ok (.new 7, 3) := by decide +kernel
theorem dL_law_3 : decode cL_law 3 = .ok (.dup, 1) := by decide +kernel
theorem dL_law_4 : decode cL_law 4 = .ok (.invokespecial 9, 3) := by decide +kernel
theorem dL_law_7 : decode cL_law 7 = .ok (.astore_n 1, 1) := by decide +kernel
theorem dL_law_8 : decode cL_law 8 = .ok (.new 10, 3) := by decide +kernel
theorem dL_law_11 : decode cL_law 11 = .ok (.dup, 1) := by decide +kernel
theorem dL_law_12 : decode cL_law 12 = .ok (.invokespecial 12, 3) := by decide +kernel
theorem dL_law_15 : decode cL_law 15 = .ok (.astore_n 2, 1) := by decide +kernel
theorem dL_law_16 : decode cL_law 16 = .ok (.iconst 0, 1) := by decide +kernel
theorem dL_law_17 : decode cL_law 17 = .ok (.istore_n 3, 1) := by decide +kernel
theorem dL_law_18 : decode cL_law 18 = .ok (.iload_n 3, 1) := by decide +kernel
theorem dL_law_19 : decode cL_law 19 = .ok (.aload_n 0, 1) := by decide +kernel
theorem dL_law_20 : decode cL_law 20 = .ok (.arraylength, 1) := by decide +kernel
theorem dL_law_21 : decode cL_law 21 = .ok (.iconst 3, 1) := by decide +kernel
theorem dL_law_22 : decode cL_law 22 = .ok (.isub, 1) := by decide +kernel
theorem dL_law_23 : decode cL_law 23 = .ok (.if_icmp .gt 398, 3) := by decide +kernel
theorem dL_law_26 : decode cL_law 26 = .ok (.aload_n 0, 1) := by decide +kernel
theorem dL_law_27 : decode cL_law 27 = .ok (.iload_n 3, 1) := by decide +kernel
theorem dL_law_28 : decode cL_law 28 = .ok (.iaload, 1) := by decide +kernel
theorem dL_law_29 : decode cL_law 29 = .ok (.bipush 15, 2) := by decide +kernel
theorem dL_law_31 : decode cL_law 31 = .ok (.iand, 1) := by decide +kernel
theorem dL_law_32 : decode cL_law 32 = .ok (.tableswitch 383 0 14 #[76, 99, 110, 143, 166, 189, 222, 245, 278, 301, 314, 325, 338, 351, 372], 76) := by decide +kernel
theorem dL_law_108 : decode cL_law 108 = .ok (.aload_n 1, 1) := by decide +kernel
theorem dL_law_109 : decode cL_law 109 = .ok (.aload_n 0, 1) := by decide +kernel
theorem dL_law_110 : decode cL_law 110 = .ok (.iload_n 3, 1) := by decide +kernel
theorem dL_law_111 : decode cL_law 111 = .ok (.iconst 1, 1) := by decide +kernel
theorem dL_law_112 : decode cL_law 112 = .ok (.iadd, 1) := by decide +kernel
theorem dL_law_113 : decode cL_law 113 = .ok (.iaload, 1) := by decide +kernel
theorem dL_law_114 : decode cL_law 114 = .ok (.invokevirtual 13, 3) := by decide +kernel
theorem dL_law_117 : decode cL_law 117 = .ok (.aload_n 2, 1) := by decide +kernel
theorem dL_law_118 : decode cL_law 118 = .ok (.aload_n 0, 1) := by decide +kernel
theorem dL_law_119 : decode cL_law 119 = .ok (.iload_n 3, 1) := by decide +kernel
theorem dL_law_120 : decode cL_law 120 = .ok (.iconst 1, 1) := by decide +kernel
theorem dL_law_121 : decode cL_law 121 = .ok (.iadd, 1) := by decide +kernel
theorem dL_law_122 : decode cL_law 122 = .ok (.iaload, 1) := by decide +kernel
theorem dL_law_123 : decode cL_law 123 = .ok (.invokevirtual 17, 3) := by decide +kernel
theorem dL_law_126 : decode cL_law 126 = .ok (.if_icmp .eq 289, 3) := by decide +kernel
theorem dL_law_129 : decode cL_law 129 = .ok (.iconst 0, 1) := by decide +kernel
theorem dL_law_130 : decode cL_law 130 = .ok (.ireturn, 1) := by decide +kernel
theorem dL_law_131 : decode cL_law 131 = .ok (.aload_n 1, 1) := by decide +kernel
theorem dL_law_132 : decode cL_law 132 = .ok (.invokevirtual 18, 3) := by decide +kernel
theorem dL_law_135 : decode cL_law 135 = .ok (.aload_n 2, 1) := by decide +kernel
theorem dL_law_136 : decode cL_law 136 = .ok (.invokevirtual 21, 3) := by decide +kernel
theorem dL_law_139 : decode cL_law 139 = .ok (.goto 276, 3) := by decide +kernel
theorem dL_law_142 : decode cL_law 142 = .ok (.aload_n 1, 1) := by decide +kernel
theorem dL_law_143 : decode cL_law 143 = .ok (.aload_n 0, 1) := by decide +kernel
theorem dL_law_144 : decode cL_law 144 = .ok (.iload_n 3, 1) := by decide +kernel
theorem dL_law_145 : decode cL_law 145 = .ok (.iconst 1, 1) := by decide +kernel
theorem dL_law_146 : decode cL_law 146 = .ok (.iadd, 1) := by decide +kernel
theorem dL_law_147 : decode cL_law 147 = .ok (.iaload, 1) := by decide +kernel
theorem dL_law_148 : decode cL_law 148 = .ok (.aload_n 0, 1) := by decide +kernel
theorem dL_law_149 : decode cL_law 149 = .ok (.iload_n 3, 1) := by decide +kernel
theorem dL_law_150 : decode cL_law 150 = .ok (.iconst 2, 1) := by decide +kernel
theorem dL_law_151 : decode cL_law 151 = .ok (.iadd, 1) := by decide +kernel
theorem dL_law_152 : decode cL_law 152 = .ok (.iaload, 1) := by decide +kernel
theorem dL_law_153 : decode cL_law 153 = .ok (.invokevirtual 22, 3) := by decide +kernel
theorem dL_law_156 : decode cL_law 156 = .ok (.aload_n 2, 1) := by decide +kernel
theorem dL_law_157 : decode cL_law 157 = .ok (.aload_n 0, 1) := by decide +kernel
theorem dL_law_158 : decode cL_law 158 = .ok (.iload_n 3, 1) := by decide +kernel
theorem dL_law_159 : decode cL_law 159 = .ok (.iconst 1, 1) := by decide +kernel
theorem dL_law_160 : decode cL_law 160 = .ok (.iadd, 1) := by decide +kernel
theorem dL_law_161 : decode cL_law 161 = .ok (.iaload, 1) := by decide +kernel
theorem dL_law_162 : decode cL_law 162 = .ok (.aload_n 0, 1) := by decide +kernel
theorem dL_law_163 : decode cL_law 163 = .ok (.iload_n 3, 1) := by decide +kernel
theorem dL_law_164 : decode cL_law 164 = .ok (.iconst 2, 1) := by decide +kernel
theorem dL_law_165 : decode cL_law 165 = .ok (.iadd, 1) := by decide +kernel
theorem dL_law_166 : decode cL_law 166 = .ok (.iaload, 1) := by decide +kernel
theorem dL_law_167 : decode cL_law 167 = .ok (.invokevirtual 26, 3) := by decide +kernel
theorem dL_law_170 : decode cL_law 170 = .ok (.if_icmp .eq 245, 3) := by decide +kernel
theorem dL_law_173 : decode cL_law 173 = .ok (.iconst 0, 1) := by decide +kernel
theorem dL_law_174 : decode cL_law 174 = .ok (.ireturn, 1) := by decide +kernel
theorem dL_law_175 : decode cL_law 175 = .ok (.aload_n 1, 1) := by decide +kernel
theorem dL_law_176 : decode cL_law 176 = .ok (.aload_n 0, 1) := by decide +kernel
theorem dL_law_177 : decode cL_law 177 = .ok (.iload_n 3, 1) := by decide +kernel
theorem dL_law_178 : decode cL_law 178 = .ok (.iconst 1, 1) := by decide +kernel
theorem dL_law_179 : decode cL_law 179 = .ok (.iadd, 1) := by decide +kernel
theorem dL_law_180 : decode cL_law 180 = .ok (.iaload, 1) := by decide +kernel
theorem dL_law_181 : decode cL_law 181 = .ok (.invokevirtual 27, 3) := by decide +kernel
theorem dL_law_184 : decode cL_law 184 = .ok (.aload_n 2, 1) := by decide +kernel
theorem dL_law_185 : decode cL_law 185 = .ok (.aload_n 0, 1) := by decide +kernel
theorem dL_law_186 : decode cL_law 186 = .ok (.iload_n 3, 1) := by decide +kernel
theorem dL_law_187 : decode cL_law 187 = .ok (.iconst 1, 1) := by decide +kernel
theorem dL_law_188 : decode cL_law 188 = .ok (.iadd, 1) := by decide +kernel
theorem dL_law_189 : decode cL_law 189 = .ok (.iaload, 1) := by decide +kernel
theorem dL_law_190 : decode cL_law 190 = .ok (.invokevirtual 30, 3) := by decide +kernel
theorem dL_law_193 : decode cL_law 193 = .ok (.if_icmp .eq 222, 3) := by decide +kernel
theorem dL_law_196 : decode cL_law 196 = .ok (.iconst 0, 1) := by decide +kernel
theorem dL_law_197 : decode cL_law 197 = .ok (.ireturn, 1) := by decide +kernel
theorem dL_law_198 : decode cL_law 198 = .ok (.aload_n 1, 1) := by decide +kernel
theorem dL_law_199 : decode cL_law 199 = .ok (.aload_n 0, 1) := by decide +kernel
theorem dL_law_200 : decode cL_law 200 = .ok (.iload_n 3, 1) := by decide +kernel
theorem dL_law_201 : decode cL_law 201 = .ok (.iconst 1, 1) := by decide +kernel
theorem dL_law_202 : decode cL_law 202 = .ok (.iadd, 1) := by decide +kernel
theorem dL_law_203 : decode cL_law 203 = .ok (.iaload, 1) := by decide +kernel
theorem dL_law_204 : decode cL_law 204 = .ok (.invokevirtual 31, 3) := by decide +kernel
theorem dL_law_207 : decode cL_law 207 = .ok (.aload_n 2, 1) := by decide +kernel
theorem dL_law_208 : decode cL_law 208 = .ok (.aload_n 0, 1) := by decide +kernel
theorem dL_law_209 : decode cL_law 209 = .ok (.iload_n 3, 1) := by decide +kernel
theorem dL_law_210 : decode cL_law 210 = .ok (.iconst 1, 1) := by decide +kernel
theorem dL_law_211 : decode cL_law 211 = .ok (.iadd, 1) := by decide +kernel
theorem dL_law_212 : decode cL_law 212 = .ok (.iaload, 1) := by decide +kernel
theorem dL_law_213 : decode cL_law 213 = .ok (.invokevirtual 34, 3) := by decide +kernel
theorem dL_law_216 : decode cL_law 216 = .ok (.if_icmp .eq 199, 3) := by decide +kernel
theorem dL_law_219 : decode cL_law 219 = .ok (.iconst 0, 1) := by decide +kernel
theorem dL_law_220 : decode cL_law 220 = .ok (.ireturn, 1) := by decide +kernel
theorem dL_law_221 : decode cL_law 221 = .ok (.aload_n 1, 1) := by decide +kernel
theorem dL_law_222 : decode cL_law 222 = .ok (.aload_n 0, 1) := by decide +kernel
theorem dL_law_223 : decode cL_law 223 = .ok (.iload_n 3, 1) := by decide +kernel
theorem dL_law_224 : decode cL_law 224 = .ok (.iconst 1, 1) := by decide +kernel
theorem dL_law_225 : decode cL_law 225 = .ok (.iadd, 1) := by decide +kernel
theorem dL_law_226 : decode cL_law 226 = .ok (.iaload, 1) := by decide +kernel
theorem dL_law_227 : decode cL_law 227 = .ok (.aload_n 0, 1) := by decide +kernel
theorem dL_law_228 : decode cL_law 228 = .ok (.iload_n 3, 1) := by decide +kernel
theorem dL_law_229 : decode cL_law 229 = .ok (.iconst 2, 1) := by decide +kernel
theorem dL_law_230 : decode cL_law 230 = .ok (.iadd, 1) := by decide +kernel
theorem dL_law_231 : decode cL_law 231 = .ok (.iaload, 1) := by decide +kernel
theorem dL_law_232 : decode cL_law 232 = .ok (.invokevirtual 35, 3) := by decide +kernel
theorem dL_law_235 : decode cL_law 235 = .ok (.aload_n 2, 1) := by decide +kernel
theorem dL_law_236 : decode cL_law 236 = .ok (.aload_n 0, 1) := by decide +kernel
theorem dL_law_237 : decode cL_law 237 = .ok (.iload_n 3, 1) := by decide +kernel
theorem dL_law_238 : decode cL_law 238 = .ok (.iconst 1, 1) := by decide +kernel
theorem dL_law_239 : decode cL_law 239 = .ok (.iadd, 1) := by decide +kernel
theorem dL_law_240 : decode cL_law 240 = .ok (.iaload, 1) := by decide +kernel
theorem dL_law_241 : decode cL_law 241 = .ok (.aload_n 0, 1) := by decide +kernel
theorem dL_law_242 : decode cL_law 242 = .ok (.iload_n 3, 1) := by decide +kernel
theorem dL_law_243 : decode cL_law 243 = .ok (.iconst 2, 1) := by decide +kernel
theorem dL_law_244 : decode cL_law 244 = .ok (.iadd, 1) := by decide +kernel
theorem dL_law_245 : decode cL_law 245 = .ok (.iaload, 1) := by decide +kernel
theorem dL_law_246 : decode cL_law 246 = .ok (.invokevirtual 38, 3) := by decide +kernel
theorem dL_law_249 : decode cL_law 249 = .ok (.if_icmp .eq 166, 3) := by decide +kernel
theorem dL_law_252 : decode cL_law 252 = .ok (.iconst 0, 1) := by decide +kernel
theorem dL_law_253 : decode cL_law 253 = .ok (.ireturn, 1) := by decide +kernel
theorem dL_law_254 : decode cL_law 254 = .ok (.aload_n 1, 1) := by decide +kernel
theorem dL_law_255 : decode cL_law 255 = .ok (.aload_n 0, 1) := by decide +kernel
theorem dL_law_256 : decode cL_law 256 = .ok (.iload_n 3, 1) := by decide +kernel
theorem dL_law_257 : decode cL_law 257 = .ok (.iconst 1, 1) := by decide +kernel
theorem dL_law_258 : decode cL_law 258 = .ok (.iadd, 1) := by decide +kernel
theorem dL_law_259 : decode cL_law 259 = .ok (.iaload, 1) := by decide +kernel
theorem dL_law_260 : decode cL_law 260 = .ok (.invokevirtual 39, 3) := by decide +kernel
theorem dL_law_263 : decode cL_law 263 = .ok (.aload_n 2, 1) := by decide +kernel
theorem dL_law_264 : decode cL_law 264 = .ok (.aload_n 0, 1) := by decide +kernel
theorem dL_law_265 : decode cL_law 265 = .ok (.iload_n 3, 1) := by decide +kernel
theorem dL_law_266 : decode cL_law 266 = .ok (.iconst 1, 1) := by decide +kernel
theorem dL_law_267 : decode cL_law 267 = .ok (.iadd, 1) := by decide +kernel
theorem dL_law_268 : decode cL_law 268 = .ok (.iaload, 1) := by decide +kernel
theorem dL_law_269 : decode cL_law 269 = .ok (.invokevirtual 42, 3) := by decide +kernel
theorem dL_law_272 : decode cL_law 272 = .ok (.if_icmp .eq 143, 3) := by decide +kernel
theorem dL_law_275 : decode cL_law 275 = .ok (.iconst 0, 1) := by decide +kernel
theorem dL_law_276 : decode cL_law 276 = .ok (.ireturn, 1) := by decide +kernel
theorem dL_law_277 : decode cL_law 277 = .ok (.aload_n 1, 1) := by decide +kernel
theorem dL_law_278 : decode cL_law 278 = .ok (.aload_n 0, 1) := by decide +kernel
theorem dL_law_279 : decode cL_law 279 = .ok (.iload_n 3, 1) := by decide +kernel
theorem dL_law_280 : decode cL_law 280 = .ok (.iconst 1, 1) := by decide +kernel
theorem dL_law_281 : decode cL_law 281 = .ok (.iadd, 1) := by decide +kernel
theorem dL_law_282 : decode cL_law 282 = .ok (.iaload, 1) := by decide +kernel
theorem dL_law_283 : decode cL_law 283 = .ok (.aload_n 0, 1) := by decide +kernel
theorem dL_law_284 : decode cL_law 284 = .ok (.iload_n 3, 1) := by decide +kernel
theorem dL_law_285 : decode cL_law 285 = .ok (.iconst 2, 1) := by decide +kernel
theorem dL_law_286 : decode cL_law 286 = .ok (.iadd, 1) := by decide +kernel
theorem dL_law_287 : decode cL_law 287 = .ok (.iaload, 1) := by decide +kernel
theorem dL_law_288 : decode cL_law 288 = .ok (.invokevirtual 43, 3) := by decide +kernel
theorem dL_law_291 : decode cL_law 291 = .ok (.aload_n 2, 1) := by decide +kernel
theorem dL_law_292 : decode cL_law 292 = .ok (.aload_n 0, 1) := by decide +kernel
theorem dL_law_293 : decode cL_law 293 = .ok (.iload_n 3, 1) := by decide +kernel
theorem dL_law_294 : decode cL_law 294 = .ok (.iconst 1, 1) := by decide +kernel
theorem dL_law_295 : decode cL_law 295 = .ok (.iadd, 1) := by decide +kernel
theorem dL_law_296 : decode cL_law 296 = .ok (.iaload, 1) := by decide +kernel
theorem dL_law_297 : decode cL_law 297 = .ok (.aload_n 0, 1) := by decide +kernel
theorem dL_law_298 : decode cL_law 298 = .ok (.iload_n 3, 1) := by decide +kernel
theorem dL_law_299 : decode cL_law 299 = .ok (.iconst 2, 1) := by decide +kernel
theorem dL_law_300 : decode cL_law 300 = .ok (.iadd, 1) := by decide +kernel
theorem dL_law_301 : decode cL_law 301 = .ok (.iaload, 1) := by decide +kernel
theorem dL_law_302 : decode cL_law 302 = .ok (.invokevirtual 46, 3) := by decide +kernel
theorem dL_law_305 : decode cL_law 305 = .ok (.if_icmp .eq 110, 3) := by decide +kernel
theorem dL_law_308 : decode cL_law 308 = .ok (.iconst 0, 1) := by decide +kernel
theorem dL_law_309 : decode cL_law 309 = .ok (.ireturn, 1) := by decide +kernel
theorem dL_law_310 : decode cL_law 310 = .ok (.aload_n 1, 1) := by decide +kernel
theorem dL_law_311 : decode cL_law 311 = .ok (.aload_n 0, 1) := by decide +kernel
theorem dL_law_312 : decode cL_law 312 = .ok (.iload_n 3, 1) := by decide +kernel
theorem dL_law_313 : decode cL_law 313 = .ok (.iconst 1, 1) := by decide +kernel
theorem dL_law_314 : decode cL_law 314 = .ok (.iadd, 1) := by decide +kernel
theorem dL_law_315 : decode cL_law 315 = .ok (.iaload, 1) := by decide +kernel
theorem dL_law_316 : decode cL_law 316 = .ok (.invokevirtual 47, 3) := by decide +kernel
theorem dL_law_319 : decode cL_law 319 = .ok (.aload_n 2, 1) := by decide +kernel
theorem dL_law_320 : decode cL_law 320 = .ok (.aload_n 0, 1) := by decide +kernel
theorem dL_law_321 : decode cL_law 321 = .ok (.iload_n 3, 1) := by decide +kernel
theorem dL_law_322 : decode cL_law 322 = .ok (.iconst 1, 1) := by decide +kernel
theorem dL_law_323 : decode cL_law 323 = .ok (.iadd, 1) := by decide +kernel
theorem dL_law_324 : decode cL_law 324 = .ok (.iaload, 1) := by decide +kernel
theorem dL_law_325 : decode cL_law 325 = .ok (.invokevirtual 50, 3) := by decide +kernel
theorem dL_law_328 : decode cL_law 328 = .ok (.if_icmp .eq 87, 3) := by decide +kernel
theorem dL_law_331 : decode cL_law 331 = .ok (.iconst 0, 1) := by decide +kernel
theorem dL_law_332 : decode cL_law 332 = .ok (.ireturn, 1) := by decide +kernel
theorem dL_law_333 : decode cL_law 333 = .ok (.aload_n 1, 1) := by decide +kernel
theorem dL_law_334 : decode cL_law 334 = .ok (.invokevirtual 51, 3) := by decide +kernel
theorem dL_law_337 : decode cL_law 337 = .ok (.aload_n 2, 1) := by decide +kernel
theorem dL_law_338 : decode cL_law 338 = .ok (.invokevirtual 55, 3) := by decide +kernel
theorem dL_law_341 : decode cL_law 341 = .ok (.if_icmp .eq 74, 3) := by decide +kernel
theorem dL_law_344 : decode cL_law 344 = .ok (.iconst 0, 1) := by decide +kernel
theorem dL_law_345 : decode cL_law 345 = .ok (.ireturn, 1) := by decide +kernel
theorem dL_law_346 : decode cL_law 346 = .ok (.aload_n 1, 1) := by decide +kernel
theorem dL_law_347 : decode cL_law 347 = .ok (.invokevirtual 56, 3) := by decide +kernel
theorem dL_law_350 : decode cL_law 350 = .ok (.aload_n 2, 1) := by decide +kernel
theorem dL_law_351 : decode cL_law 351 = .ok (.invokevirtual 59, 3) := by decide +kernel
theorem dL_law_354 : decode cL_law 354 = .ok (.goto 61, 3) := by decide +kernel
theorem dL_law_357 : decode cL_law 357 = .ok (.aload_n 1, 1) := by decide +kernel
theorem dL_law_358 : decode cL_law 358 = .ok (.invokevirtual 60, 3) := by decide +kernel
theorem dL_law_361 : decode cL_law 361 = .ok (.aload_n 2, 1) := by decide +kernel
theorem dL_law_362 : decode cL_law 362 = .ok (.invokevirtual 63, 3) := by decide +kernel
theorem dL_law_365 : decode cL_law 365 = .ok (.if_icmp .eq 50, 3) := by decide +kernel
theorem dL_law_368 : decode cL_law 368 = .ok (.iconst 0, 1) := by decide +kernel
theorem dL_law_369 : decode cL_law 369 = .ok (.ireturn, 1) := by decide +kernel
theorem dL_law_370 : decode cL_law 370 = .ok (.aload_n 1, 1) := by decide +kernel
theorem dL_law_371 : decode cL_law 371 = .ok (.invokevirtual 64, 3) := by decide +kernel
theorem dL_law_374 : decode cL_law 374 = .ok (.aload_n 2, 1) := by decide +kernel
theorem dL_law_375 : decode cL_law 375 = .ok (.invokevirtual 67, 3) := by decide +kernel
theorem dL_law_378 : decode cL_law 378 = .ok (.if_icmp .eq 37, 3) := by decide +kernel
theorem dL_law_381 : decode cL_law 381 = .ok (.iconst 0, 1) := by decide +kernel
theorem dL_law_382 : decode cL_law 382 = .ok (.ireturn, 1) := by decide +kernel
theorem dL_law_383 : decode cL_law 383 = .ok (.aload_n 1, 1) := by decide +kernel
theorem dL_law_384 : decode cL_law 384 = .ok (.aload_n 0, 1) := by decide +kernel
theorem dL_law_385 : decode cL_law 385 = .ok (.iload_n 3, 1) := by decide +kernel
theorem dL_law_386 : decode cL_law 386 = .ok (.iconst 1, 1) := by decide +kernel
theorem dL_law_387 : decode cL_law 387 = .ok (.iadd, 1) := by decide +kernel
theorem dL_law_388 : decode cL_law 388 = .ok (.iaload, 1) := by decide +kernel
theorem dL_law_389 : decode cL_law 389 = .ok (.invokevirtual 68, 3) := by decide +kernel
theorem dL_law_392 : decode cL_law 392 = .ok (.aload_n 2, 1) := by decide +kernel
theorem dL_law_393 : decode cL_law 393 = .ok (.aload_n 0, 1) := by decide +kernel
theorem dL_law_394 : decode cL_law 394 = .ok (.iload_n 3, 1) := by decide +kernel
theorem dL_law_395 : decode cL_law 395 = .ok (.iconst 1, 1) := by decide +kernel
theorem dL_law_396 : decode cL_law 396 = .ok (.iadd, 1) := by decide +kernel
theorem dL_law_397 : decode cL_law 397 = .ok (.iaload, 1) := by decide +kernel
theorem dL_law_398 : decode cL_law 398 = .ok (.invokevirtual 72, 3) := by decide +kernel
theorem dL_law_401 : decode cL_law 401 = .ok (.goto 14, 3) := by decide +kernel
theorem dL_law_404 : decode cL_law 404 = .ok (.aload_n 1, 1) := by decide +kernel
theorem dL_law_405 : decode cL_law 405 = .ok (.invokevirtual 73, 3) := by decide +kernel
theorem dL_law_408 : decode cL_law 408 = .ok (.aload_n 2, 1) := by decide +kernel
theorem dL_law_409 : decode cL_law 409 = .ok (.invokevirtual 76, 3) := by decide +kernel
theorem dL_law_412 : decode cL_law 412 = .ok (.goto 3, 3) := by decide +kernel
theorem dL_law_415 : decode cL_law 415 = .ok (.iinc 3 3, 3) := by decide +kernel
theorem dL_law_418 : decode cL_law 418 = .ok (.goto (-400), 3) := by decide +kernel
theorem dL_law_421 : decode cL_law 421 = .ok (.iconst 1, 1) := by decide +kernel
theorem dL_law_422 : decode cL_law 422 = .ok (.ireturn, 1) := by decide +kernel
end
section
set_option maxRecDepth 100000
/-! java/lang/Object -/
def RJ0 : String := "java/lang/Object"
abbrev cJ0_init : ByteArray := object_method_1_code
def yJ0_init : MethodName := ⟨RJ0, "<init>", "()V"⟩
theorem dJ0_init_0 : decode cJ0_init 0 = .ok (.return_, 1) := by decide +kernel
theorem q28 : (Jvm.Cond.instanceMethod ({ cls := "java/lang/Object", name := "<init>", desc := "()V" } : Jvm.MethodName)) ∈ lw_all := lw_g (lw_at lw_m1 9 rfl) rfl
theorem q29 : (Jvm.Cond.code ({ cls := "java/lang/Object", name := "<init>", desc := "()V" } : Jvm.MethodName) object_method_1_code (1 : Nat) (Option.none : Option Jvm.ClassFile.FieldType)) ∈ lw_all := lw_g (lw_at lw_m1 10 rfl) rfl
theorem q19 : (Jvm.Cond.initialized "FlashVolumesLaw") ∈ lw_all := lw_g (lw_at lw_m1 0 rfl) rfl
theorem q22 : (Jvm.Cond.classLink "FlashVolumesLaw" (7 : Nat) "FlashVolumes") ∈ lw_all := lw_g (lw_at lw_m1 3 rfl) rfl
theorem q24 : (Jvm.Cond.methodLink "FlashVolumesLaw" (9 : Nat) ({ cls := "FlashVolumes", name := "<init>", desc := "()V" } : Jvm.MethodName)) ∈ lw_all := lw_g (lw_at lw_m1 5 rfl) rfl
theorem q98 : (Jvm.Cond.methodLink "FlashVolumesLaw" (13 : Nat) ({ cls := "FlashVolumes", name := "draft", desc := "(I)I" } : Jvm.MethodName)) ∈ lw_all := lw_g (lw_at lw_m1 79 rfl) rfl
theorem q102 : (Jvm.Cond.methodLink "FlashVolumesLaw" (18 : Nat) ({ cls := "FlashVolumes", name := "scrap", desc := "()V" } : Jvm.MethodName)) ∈ lw_all := lw_g (lw_at lw_m1 83 rfl) rfl
theorem q106 : (Jvm.Cond.methodLink "FlashVolumesLaw" (22 : Nat) ({ cls := "FlashVolumes", name := "append", desc := "(II)I" } : Jvm.MethodName)) ∈ lw_all := lw_g (lw_at lw_m1 87 rfl) rfl
theorem q154 : (Jvm.Cond.methodLink "FlashVolumesLaw" (27 : Nat) ({ cls := "FlashVolumes", name := "change", desc := "(I)I" } : Jvm.MethodName)) ∈ lw_all := lw_g (lw_at lw_m1 135 rfl) rfl
theorem q166 : (Jvm.Cond.methodLink "FlashVolumesLaw" (31 : Nat) ({ cls := "FlashVolumes", name := "drop", desc := "(I)I" } : Jvm.MethodName)) ∈ lw_all := lw_g (lw_at lw_m1 147 rfl) rfl
theorem q170 : (Jvm.Cond.methodLink "FlashVolumesLaw" (35 : Nat) ({ cls := "FlashVolumes", name := "swap", desc := "(II)I" } : Jvm.MethodName)) ∈ lw_all := lw_g (lw_at lw_m1 151 rfl) rfl
theorem q178 : (Jvm.Cond.methodLink "FlashVolumesLaw" (39 : Nat) ({ cls := "FlashVolumes", name := "size", desc := "(I)I" } : Jvm.MethodName)) ∈ lw_all := lw_g (lw_at lw_m1 159 rfl) rfl
theorem q182 : (Jvm.Cond.methodLink "FlashVolumesLaw" (43 : Nat) ({ cls := "FlashVolumes", name := "read", desc := "(II)I" } : Jvm.MethodName)) ∈ lw_all := lw_g (lw_at lw_m1 163 rfl) rfl
theorem q186 : (Jvm.Cond.methodLink "FlashVolumesLaw" (47 : Nat) ({ cls := "FlashVolumes", name := "cutAfter", desc := "(I)I" } : Jvm.MethodName)) ∈ lw_all := lw_g (lw_at lw_m1 167 rfl) rfl
theorem q190 : (Jvm.Cond.methodLink "FlashVolumesLaw" (51 : Nat) ({ cls := "FlashVolumes", name := "cancel", desc := "()I" } : Jvm.MethodName)) ∈ lw_all := lw_g (lw_at lw_m1 171 rfl) rfl
theorem q194 : (Jvm.Cond.methodLink "FlashVolumesLaw" (56 : Nat) ({ cls := "FlashVolumes", name := "restart", desc := "()V" } : Jvm.MethodName)) ∈ lw_all := lw_g (lw_at lw_m1 175 rfl) rfl
theorem q198 : (Jvm.Cond.methodLink "FlashVolumesLaw" (60 : Nat) ({ cls := "FlashVolumes", name := "drafted", desc := "()I" } : Jvm.MethodName)) ∈ lw_all := lw_g (lw_at lw_m1 179 rfl) rfl
theorem q202 : (Jvm.Cond.methodLink "FlashVolumesLaw" (64 : Nat) ({ cls := "FlashVolumes", name := "digest", desc := "()I" } : Jvm.MethodName)) ∈ lw_all := lw_g (lw_at lw_m1 183 rfl) rfl
theorem q206 : (Jvm.Cond.methodLink "FlashVolumesLaw" (68 : Nat) ({ cls := "FlashVolumes", name := "rest", desc := "(I)V" } : Jvm.MethodName)) ∈ lw_all := lw_g (lw_at lw_m1 187 rfl) rfl
theorem q214 : (Jvm.Cond.methodLink "FlashVolumesLaw" (73 : Nat) ({ cls := "FlashVolumes", name := "fail", desc := "()V" } : Jvm.MethodName)) ∈ lw_all := lw_g (lw_at lw_m1 195 rfl) rfl
theorem q218 : (Jvm.Cond.classLink "FlashVolumesLaw" (10 : Nat) "FlashVolumesModel") ∈ lw_all := lw_g (lw_at lw_m1 199 rfl) rfl
theorem q220 : (Jvm.Cond.methodLink "FlashVolumesLaw" (12 : Nat) ({ cls := "FlashVolumesModel", name := "<init>", desc := "()V" } : Jvm.MethodName)) ∈ lw_all := lw_g (lw_at lw_m1 201 rfl) rfl
theorem q243 : (Jvm.Cond.methodLink "FlashVolumesLaw" (17 : Nat) ({ cls := "FlashVolumesModel", name := "draft", desc := "(I)I" } : Jvm.MethodName)) ∈ lw_all := lw_g (lw_at lw_m1 224 rfl) rfl
theorem q247 : (Jvm.Cond.methodLink "FlashVolumesLaw" (21 : Nat) ({ cls := "FlashVolumesModel", name := "scrap", desc := "()V" } : Jvm.MethodName)) ∈ lw_all := lw_g (lw_at lw_m1 228 rfl) rfl
theorem q251 : (Jvm.Cond.methodLink "FlashVolumesLaw" (26 : Nat) ({ cls := "FlashVolumesModel", name := "append", desc := "(II)I" } : Jvm.MethodName)) ∈ lw_all := lw_g (lw_at lw_m1 232 rfl) rfl
theorem q267 : (Jvm.Cond.methodLink "FlashVolumesLaw" (30 : Nat) ({ cls := "FlashVolumesModel", name := "change", desc := "(I)I" } : Jvm.MethodName)) ∈ lw_all := lw_g (lw_at lw_m2 8 rfl) rfl
theorem q271 : (Jvm.Cond.methodLink "FlashVolumesLaw" (34 : Nat) ({ cls := "FlashVolumesModel", name := "drop", desc := "(I)I" } : Jvm.MethodName)) ∈ lw_all := lw_g (lw_at lw_m2 12 rfl) rfl
theorem q275 : (Jvm.Cond.methodLink "FlashVolumesLaw" (38 : Nat) ({ cls := "FlashVolumesModel", name := "swap", desc := "(II)I" } : Jvm.MethodName)) ∈ lw_all := lw_g (lw_at lw_m2 16 rfl) rfl
theorem q279 : (Jvm.Cond.methodLink "FlashVolumesLaw" (42 : Nat) ({ cls := "FlashVolumesModel", name := "size", desc := "(I)I" } : Jvm.MethodName)) ∈ lw_all := lw_g (lw_at lw_m2 20 rfl) rfl
theorem q283 : (Jvm.Cond.methodLink "FlashVolumesLaw" (46 : Nat) ({ cls := "FlashVolumesModel", name := "read", desc := "(II)I" } : Jvm.MethodName)) ∈ lw_all := lw_g (lw_at lw_m2 24 rfl) rfl
theorem q287 : (Jvm.Cond.methodLink "FlashVolumesLaw" (50 : Nat) ({ cls := "FlashVolumesModel", name := "cutAfter", desc := "(I)I" } : Jvm.MethodName)) ∈ lw_all := lw_g (lw_at lw_m2 28 rfl) rfl
theorem q291 : (Jvm.Cond.methodLink "FlashVolumesLaw" (55 : Nat) ({ cls := "FlashVolumesModel", name := "cancel", desc := "()I" } : Jvm.MethodName)) ∈ lw_all := lw_g (lw_at lw_m2 32 rfl) rfl
theorem q295 : (Jvm.Cond.methodLink "FlashVolumesLaw" (59 : Nat) ({ cls := "FlashVolumesModel", name := "restart", desc := "()V" } : Jvm.MethodName)) ∈ lw_all := lw_g (lw_at lw_m2 36 rfl) rfl
theorem q296 : (Jvm.Cond.methodLink "FlashVolumesLaw" (63 : Nat) ({ cls := "FlashVolumesModel", name := "drafted", desc := "()I" } : Jvm.MethodName)) ∈ lw_all := lw_g (lw_at lw_m2 37 rfl) rfl
theorem q300 : (Jvm.Cond.methodLink "FlashVolumesLaw" (67 : Nat) ({ cls := "FlashVolumesModel", name := "digest", desc := "()I" } : Jvm.MethodName)) ∈ lw_all := lw_g (lw_at lw_m2 41 rfl) rfl
theorem q304 : (Jvm.Cond.methodLink "FlashVolumesLaw" (72 : Nat) ({ cls := "FlashVolumesModel", name := "rest", desc := "(I)V" } : Jvm.MethodName)) ∈ lw_all := lw_g (lw_at lw_m2 45 rfl) rfl
theorem q308 : (Jvm.Cond.methodLink "FlashVolumesLaw" (76 : Nat) ({ cls := "FlashVolumesModel", name := "fail", desc := "()V" } : Jvm.MethodName)) ∈ lw_all := lw_g (lw_at lw_m2 49 rfl) rfl
theorem q96 : (Jvm.Cond.arrayClass Jvm.ClassFile.FieldType.boolean) ∈ lw_all := lw_g (lw_at lw_m1 77 rfl) rfl
theorem q97 : (Jvm.Cond.arrayClass Jvm.ClassFile.FieldType.int) ∈ lw_all := lw_g (lw_at lw_m1 78 rfl) rfl
end
section
set_option maxRecDepth 100000
/-! V: the machine at a frame, over a world w (the heap holds it), with locals L and operand stack st; rows over it -/
abbrev vwCl : List vw_C := [(RX0, TX0, 19), (RX1, TX1, 6)]
abbrev fSt : Type := Nat → Nat → Int32
/-- a state's change: array or field k becomes g -/
def sf (σ : fSt) (k : Nat) (g : Nat → Int32) : fSt := fun j => if j = k then g else σ j
theorem sf_s (σ : fSt) (k : Nat) (g : Nat → Int32) : sf σ k g k = g := if_pos rfl
theorem sf_n (σ : fSt) {k j : Nat} (g : Nat → Int32) (h : j ≠ k) : sf σ k g j = σ j := if_neg h
abbrev fF (d : Nat → Nat) (σ : fSt) : List Value := [.ref (d 0), .ref (d 1), .ref (d 2), .ref (d 3), .ref (d 4), .ref (d 5), .ref (d 6), .ref (d 7), .ref (d 8), .ref (d 9), .int (σ 10 0), .int (σ 11 0), .ref (d 12), .int (σ 13 0), .int (σ 14 0), .ref (d 15), .ref (d 16), .int (σ 17 0), .int (σ 18 0)]
/-- the class's world: the object d 19, its arrays d k; d 20, d 21: the array classes of boolean and int -/
def wF (d : Nat → Nat) (σ : fSt) : va_W := [(d 19, .inr (0, fF d σ)),
  (d 0, .inl (d 20, 16, .inl (σ 0))), (d 1, .inl (d 20, 16, .inl (σ 1))), (d 2, .inl (d 21, 16, .inl (σ 2))), (d 3, .inl (d 21, 16, .inl (σ 3))), (d 4, .inl (d 21, 16, .inl (σ 4))), (d 5, .inl (d 20, 16, .inl (σ 5))), (d 6, .inl (d 20, 16, .inl (σ 6))), (d 7, .inl (d 20, 16, .inl (σ 7))), (d 8, .inl (d 21, 16, .inl (σ 8))), (d 9, .inl (d 21, 64, .inl (σ 9))), (d 12, .inl (d 21, 8, .inl (σ 12))), (d 15, .inl (d 21, 4, .inl (σ 15))), (d 16, .inl (d 21, 4, .inl (σ 16)))]
abbrev fM (d : Nat → Nat) (τ : fSt) : List Value := [.ref (d 0), .ref (d 1), .ref (d 2), .int (τ 3 0), .int (τ 4 0), .int (τ 5 0)]
/-- the reference's world: the object d 6, its arrays d 0, d 1, d 2; d 7: the array class of int -/
def wM (d : Nat → Nat) (τ : fSt) : va_W := [(d 6, .inr (1, fM d τ)), (d 0, .inl (d 7, 32, .inl (τ 0))), (d 1, .inl (d 7, 8, .inl (τ 1))), (d 2, .inl (d 7, 4, .inl (τ 2)))]
abbrev tF (d : Nat → Nat) : List (ClassId × FieldType) := [(d 20, .boolean), (d 21, .int)]
abbrev tM (d : Nat → Nat) : List (ClassId × FieldType) := [(d 7, .int)]
abbrev Cx : Type := Program × Launch × Env × Room × State × MethodId × Array Value × List Frame × Method × Code × va_G × (Nat → Prop) × (State → Prop) × Nat × Nat
/-- the locals hold L -/
def lh (ls : Array Slot) (nL : Nat) (L : List Value) : Prop := ls.size = nL ∧ lv_wf ls ∧ (∀ v ∈ L, v.category = 1) ∧ ∀ (i : Nat) (v : Value), L[i]? = some v → ls[i]? = some (.val v)
def V (X : Cx) (w : va_W) (L : List Value) (pc : Nat) (st : List Value) : Prop := match X with
  | (p, l, e, R, s, m, args, below, meth, c, D, A, Q, cells, slots) => ∀ (H : Heap) (locs : List Loc) (ls : Array Slot), va_P D vwCl w H → va_D A w → va_S A s.heap H locs → lh ls c.maxLocals L → W p l e R s m args below meth c H locs cells slots Q (F0 m pc ls st)
def Ok (X : Cx) (cc : ByteArray) (nL : Nat) (own : String) (R0 : Room) (tys : List (ClassId × FieldType)) : Prop := match X with
  | (p, _, _, R, s, m, args, _, _, c, D, A, _, cells, slots) => p.tables.exec = Jvm.exec ∧ c.code = cc ∧ c.maxLocals = nL ∧ s.vm.findClass own = some m.cls ∧ (∀ w ∈ lw_all, w.before args s = true) ∧ va_K D vwCl tys s ∧ (∀ q : Nat, s.heap.size ≤ q → A q) ∧ R = R0 ∧ cells ≤ R.cells ∧ slots ≤ R.slots
/-- a local gets a value -/
def lput : List Value → Nat → Value → List Value
  | [], _, v => [v]
  | _ :: t, 0, v => v :: t
  | a :: t, i + 1, v => a :: lput t i v
theorem lput_at (L : List Value) (i : Nat) (v : Value) (h : i ≤ L.length) (j : Nat) : (lput L i v)[j]? = if j = i then some v else L[j]? := by
  induction L generalizing i j with
  | nil =>
    have h0 : i = 0 := by simpa using h
    subst h0
    cases j with
    | zero => simp [lput]
    | succ j => simp [lput]
  | cons a t ih =>
    cases i with
    | zero =>
      cases j with
      | zero => simp [lput]
      | succ j => simp [lput]
    | succ i =>
      cases j with
      | zero => simp [lput]
      | succ j =>
        have := ih i (by simpa using h) j
        simpa [lput] using this
theorem lput_cat {L : List Value} {i : Nat} {v : Value} (hL : ∀ x ∈ L, x.category = 1) (hv : v.category = 1) : ∀ x ∈ lput L i v, x.category = 1 := by
  induction L generalizing i with
  | nil =>
    intro x hx
    simp [lput] at hx
    rw [hx]; exact hv
  | cons a t ih =>
    cases i with
    | zero =>
      intro x hx
      simp [lput] at hx
      rcases hx with rfl | hx
      · exact hv
      · exact hL x (List.mem_cons_of_mem _ hx)
    | succ i =>
      intro x hx
      simp only [lput, List.mem_cons] at hx
      rcases hx with rfl | hx
      · exact hL _ List.mem_cons_self
      · exact ih (fun y hy => hL y (List.mem_cons_of_mem _ hy)) x hx
def lhE (L : List Value) : List (Nat × Value) := L.zipIdx.map fun q => (q.2, q.1)
theorem lh.has {ls : Array Slot} {nL : Nat} {L : List Value} (h : lh ls nL L) : lv_has ls nL (lhE L) := by
  refine ⟨h.1, h.2.1, fun q hq => ?_⟩
  obtain ⟨x, hx, rfl⟩ := List.mem_map.mp hq
  exact h.2.2.2 _ _ (List.mem_zipIdx_iff_getElem?.mp hx)
theorem lh.put {ls ls' : Array Slot} {nL i : Nat} {L : List Value} {v : Value} (h : lh ls nL L) (hi : i ≤ L.length) (hv : v.category = 1) (h' : lv_has ls' nL ((i, v) :: (lhE L).filter (fun q => !(q.1 == i) && !(q.1 + 1 == i && q.2.category == 2)))) : lh ls' nL (lput L i v) := by
  refine ⟨h'.1, h'.2.1, lput_cat h.2.2.1 hv, fun j x hx => ?_⟩
  rw [lput_at L i v hi j] at hx
  by_cases e : j = i
  · rw [if_pos e] at hx
    cases hx
    subst e
    exact h'.2.2 (j, v) List.mem_cons_self
  · rw [if_neg e] at hx
    refine h'.2.2 (j, x) (List.mem_cons_of_mem _ (List.mem_filter.mpr ⟨List.mem_map.mpr ⟨(x, j), List.mem_zipIdx_iff_getElem?.mpr hx, rfl⟩, ?_⟩))
    have hc := h.2.2.1 x (List.mem_of_getElem? hx)
    simp [e, hc]
theorem lh.entry {vs : List Value} {n : Nat} {ls : Array Slot} (hc : ∀ v ∈ vs, v.category = 1) (h : lv_has ls n (lv_args 0 vs)) : lh ls n vs := by
  have key : ∀ (vs : List Value) (k : Nat), (∀ v ∈ vs, v.category = 1) → ∀ (i : Nat) (v : Value), vs[i]? = some v → (k + i, v) ∈ lv_args k vs := by
    intro vs
    induction vs with
    | nil => intro k _ i v h; simp at h
    | cons a t ih =>
      intro k hc i v h
      have ha := hc a List.mem_cons_self
      have hne : ¬ a.category = 2 := by omega
      simp only [lv_args, if_neg hne]
      cases i with
      | zero => simp at h; rw [h]; simp
      | succ i =>
        have h1 : t[i]? = some v := by simpa using h
        have h2 := ih (k + 1) (fun v hv => hc v (List.mem_cons_of_mem _ hv)) i v h1
        have e : k + (i + 1) = k + 1 + i := by omega
        rw [e]
        exact List.mem_cons_of_mem _ h2
  refine ⟨h.1, h.2.1, hc, fun i v hi => ?_⟩
  have := h.2.2 (0 + i, v) (key vs 0 hc i v hi)
  simpa using this
section VR
variable {X : Cx} {cc : ByteArray} {nL pc : Nat} {own : String} {R : Room} {tys : List (ClassId × FieldType)} {w : va_W} {L st : List Value}
theorem V_top {x y : Int32} (h : x = y) (k : V X w L pc (.int y :: st)) : V X w L pc (.int x :: st) := h ▸ k
theorem V_top2 {v : Value} {x y : Int32} (h : x = y) (k : V X w L pc (v :: .int y :: st)) : V X w L pc (v :: .int x :: st) := h ▸ k
theorem V_w {w' : va_W} (h : w = w') (k : V X w' L pc st) : V X w L pc st := h ▸ k
theorem V_L {L' : List Value} (h : L = L') (k : V X w L' pc st) : V X w L pc st := h ▸ k
theorem V_nm {x : Int32} (k : ∀ y : Int32, y = x → V X w L pc (.int y :: st)) : V X w L pc (.int x :: st) := k x rfl
/-- fewer locals known -/
theorem V_take (n : Nat) (k : V X w (L.take n) pc st) : V X w L pc st := by
  obtain ⟨p, l, e, R, s, m, args, below, meth, c, D, A, Q, cells, slots⟩ := X
  refine fun H locs ls hP hD hS hl => k H locs ls hP hD hS ⟨hl.1, hl.2.1, fun v hv => hl.2.2.1 v (List.mem_of_mem_take hv), fun i v hi => hl.2.2.2 i v ?_⟩
  rw [List.getElem?_take] at hi
  split at hi
  · exact hi
  · cases hi
theorem V_iconst (hX : Ok X cc nL own R tys) {n : Int} {v : Int32} (hd : decode cc pc = .ok (.iconst n, 1)) (hv : Int32.ofInt n = v) (k : V X w L (pc + 1) (.int v :: st)) : V X w L pc st := by
  obtain ⟨p, l, e, R, s, m, args, below, meth, c, D, A, Q, cells, slots⟩ := X
  exact fun H locs ls hP hD hS hl => lv_iconst hX.1 hX.2.1 hd hv (k H locs ls hP hD hS hl)
theorem V_bipush (hX : Ok X cc nL own R tys) {n : Int} {v : Int32} (hd : decode cc pc = .ok (.bipush n, 2)) (hv : (Int8.ofInt n).toInt32 = v) (k : V X w L (pc + 2) (.int v :: st)) : V X w L pc st := by
  obtain ⟨p, l, e, R, s, m, args, below, meth, c, D, A, Q, cells, slots⟩ := X
  exact fun H locs ls hP hD hS hl => lv_bipush hX.1 hX.2.1 hd hv (k H locs ls hP hD hS hl)
theorem V_iln (hX : Ok X cc nL own R tys) {k : Fin 4} (i : Nat) {x : Int32} (hd : decode cc pc = .ok (.iload_n k, 1)) (hi : (k : Nat) = i) (hL : L[i]? = some (.int x)) (k : V X w L (pc + 1) (.int x :: st)) : V X w L pc st := by
  obtain ⟨p, l, e, R, s, m, args, below, meth, c, D, A, Q, cells, slots⟩ := X
  exact fun H locs ls hP hD hS hl => lv_iload_n hX.1 hX.2.1 hd hi (hl.2.2.2 _ _ hL) (k H locs ls hP hD hS hl)
theorem V_il (hX : Ok X cc nL own R tys) {i : Nat} {x : Int32} (hd : decode cc pc = .ok (.iload i, 2)) (hL : L[i]? = some (.int x)) (k : V X w L (pc + 2) (.int x :: st)) : V X w L pc st := by
  obtain ⟨p, l, e, R, s, m, args, below, meth, c, D, A, Q, cells, slots⟩ := X
  exact fun H locs ls hP hD hS hl => lv_iload hX.1 hX.2.1 hd (hl.2.2.2 _ _ hL) (k H locs ls hP hD hS hl)
theorem V_aln (hX : Ok X cc nL own R tys) {k : Fin 4} (i : Nat) {x : Nat} (hd : decode cc pc = .ok (.aload_n k, 1)) (hi : (k : Nat) = i) (hL : L[i]? = some (.ref x)) (k : V X w L (pc + 1) (.ref x :: st)) : V X w L pc st := by
  obtain ⟨p, l, e, R, s, m, args, below, meth, c, D, A, Q, cells, slots⟩ := X
  exact fun H locs ls hP hD hS hl => lv_aload_n hX.1 hX.2.1 hd hi (hl.2.2.2 _ _ hL) (k H locs ls hP hD hS hl)
theorem V_isn (hX : Ok X cc nL own R tys) {k : Fin 4} (i : Nat) {x : Int32} (hd : decode cc pc = .ok (.istore_n k, 1)) (hk : (k : Nat) = i) (hn : i < nL) (hi : i ≤ L.length) (k : V X w (lput L i (.int x)) (pc + 1) st) : V X w L pc (.int x :: st) := by
  obtain ⟨p, l, e, R, s, m, args, below, meth, c, D, A, Q, cells, slots⟩ := X
  exact fun H locs ls hP hD hS hl => lv_istore_n hX.1 hX.2.1 hd hk hl.has (by rw [hX.2.2.1]; exact hn) rfl (fun ls1 h1 => k H locs ls1 hP hD hS (hl.put hi rfl h1))
theorem V_is (hX : Ok X cc nL own R tys) {i : Nat} {x : Int32} (hd : decode cc pc = .ok (.istore i, 2)) (hn : i < nL) (hi : i ≤ L.length) (k : V X w (lput L i (.int x)) (pc + 2) st) : V X w L pc (.int x :: st) := by
  obtain ⟨p, l, e, R, s, m, args, below, meth, c, D, A, Q, cells, slots⟩ := X
  exact fun H locs ls hP hD hS hl => lv_istore hX.1 hX.2.1 hd hl.has (by rw [hX.2.2.1]; exact hn) rfl (fun ls1 h1 => k H locs ls1 hP hD hS (hl.put hi rfl h1))
theorem V_inc (hX : Ok X cc nL own R tys) {i : Nat} {n : Int} {x y : Int32} (hd : decode cc pc = .ok (.iinc i n, 3)) (hn : i < nL) (hL : L[i]? = some (.int x)) (hv : x + Int32.ofInt n = y) (k : V X w (lput L i (.int y)) (pc + 3) st) : V X w L pc st := by
  obtain ⟨p, l, e, R, s, m, args, below, meth, c, D, A, Q, cells, slots⟩ := X
  have hlt : i < L.length := (List.getElem?_eq_some_iff.mp hL).1
  have hm : (lhE L)[i]? = some (i, .int x) := by
    simp only [lhE, List.getElem?_map, List.getElem?_zipIdx, hL]
    simp
  exact fun H locs ls hP hD hS hl => lv_iinc hX.1 hX.2.1 hd hl.has hm hv (by rw [hX.2.2.1]; exact hn) rfl (fun ls1 h1 => k H locs ls1 hP hD hS (hl.put (Nat.le_of_lt hlt) rfl h1))
theorem V_iadd (hX : Ok X cc nL own R tys) {x y : Int32} (hd : decode cc pc = .ok (.iadd, 1)) (k : V X w L (pc + 1) (.int (x + y) :: st)) : V X w L pc (.int y :: .int x :: st) := by
  obtain ⟨p, l, e, R, s, m, args, below, meth, c, D, A, Q, cells, slots⟩ := X
  exact fun H locs ls hP hD hS hl => lv_iadd hX.1 hX.2.1 hd (k H locs ls hP hD hS hl)
theorem V_isub (hX : Ok X cc nL own R tys) {x y : Int32} (hd : decode cc pc = .ok (.isub, 1)) (k : V X w L (pc + 1) (.int (x - y) :: st)) : V X w L pc (.int y :: .int x :: st) := by
  obtain ⟨p, l, e, R, s, m, args, below, meth, c, D, A, Q, cells, slots⟩ := X
  exact fun H locs ls hP hD hS hl => lv_isub hX.1 hX.2.1 hd (k H locs ls hP hD hS hl)
theorem V_imul (hX : Ok X cc nL own R tys) {x y : Int32} (hd : decode cc pc = .ok (.imul, 1)) (k : V X w L (pc + 1) (.int (x * y) :: st)) : V X w L pc (.int y :: .int x :: st) := by
  obtain ⟨p, l, e, R, s, m, args, below, meth, c, D, A, Q, cells, slots⟩ := X
  exact fun H locs ls hP hD hS hl => lv_imul hX.1 hX.2.1 hd (k H locs ls hP hD hS hl)
theorem V_iand (hX : Ok X cc nL own R tys) {x y : Int32} (hd : decode cc pc = .ok (.iand, 1)) (k : V X w L (pc + 1) (.int (x &&& y) :: st)) : V X w L pc (.int y :: .int x :: st) := by
  obtain ⟨p, l, e, R, s, m, args, below, meth, c, D, A, Q, cells, slots⟩ := X
  exact fun H locs ls hP hD hS hl => lv_iand hX.1 hX.2.1 hd (k H locs ls hP hD hS hl)
theorem V_dup (hX : Ok X cc nL own R tys) {va : Value} (hd : decode cc pc = .ok (.dup, 1)) (hv : va.category = 1) (k : V X w L (pc + 1) (va :: va :: st)) : V X w L pc (va :: st) := by
  obtain ⟨p, l, e, R, s, m, args, below, meth, c, D, A, Q, cells, slots⟩ := X
  exact fun H locs ls hP hD hS hl => lv_dup hX.1 hX.2.1 hd hv (k H locs ls hP hD hS hl)
theorem V_dup2 (hX : Ok X cc nL own R tys) {va vb : Value} (hd : decode cc pc = .ok (.dup2, 1)) (hv : va.category = 1) (hv2 : vb.category = 1) (k : V X w L (pc + 1) (va :: vb :: va :: vb :: st)) : V X w L pc (va :: vb :: st) := by
  obtain ⟨p, l, e, R, s, m, args, below, meth, c, D, A, Q, cells, slots⟩ := X
  exact fun H locs ls hP hD hS hl => lv_dup2_11 hX.1 hX.2.1 hd hv hv2 (k H locs ls hP hD hS hl)
theorem V_pop (hX : Ok X cc nL own R tys) {va : Value} (hd : decode cc pc = .ok (.pop, 1)) (hv : va.category = 1) (k : V X w L (pc + 1) st) : V X w L pc (va :: st) := by
  obtain ⟨p, l, e, R, s, m, args, below, meth, c, D, A, Q, cells, slots⟩ := X
  exact fun H locs ls hP hD hS hl => lv_pop hX.1 hX.2.1 hd hv (k H locs ls hP hD hS hl)
theorem V_goto (hX : Ok X cc nL own R tys) {off : Int} {tgt : Nat} (hd : decode cc pc = .ok (.goto off, 3)) (ht : (pc : Int) + off = (tgt : Int)) (k : V X w L tgt st) : V X w L pc st := by
  obtain ⟨p, l, e, R, s, m, args, below, meth, c, D, A, Q, cells, slots⟩ := X
  exact fun H locs ls hP hD hS hl => lv_goto hX.1 hX.2.1 hd ht (k H locs ls hP hD hS hl)
theorem V_if_eq (hX : Ok X cc nL own R tys) {x : Int32} {off : Int} {tgt : Nat} (hd : decode cc pc = .ok (.ifCond .eq off, 3)) (ht : (pc : Int) + off = (tgt : Int)) (kt : x = 0 → V X w L tgt st) (kf : ¬ x = 0 → V X w L (pc + 3) st) : V X w L pc (.int x :: st) := by
  obtain ⟨p, l, e, R, s, m, args, below, meth, c, D, A, Q, cells, slots⟩ := X
  exact fun H locs ls hP hD hS hl => lv_if_eq hX.1 hX.2.1 hd ht (fun h => kt h H locs ls hP hD hS hl) (fun h => kf h H locs ls hP hD hS hl)
theorem V_ic_eq (hX : Ok X cc nL own R tys) {x y : Int32} {off : Int} {tgt : Nat} (hd : decode cc pc = .ok (.if_icmp .eq off, 3)) (ht : (pc : Int) + off = (tgt : Int)) (kt : x = y → V X w L tgt st) (kf : ¬ x = y → V X w L (pc + 3) st) : V X w L pc (.int y :: .int x :: st) := by
  obtain ⟨p, l, e, R, s, m, args, below, meth, c, D, A, Q, cells, slots⟩ := X
  exact fun H locs ls hP hD hS hl => lv_icmp_eq hX.1 hX.2.1 hd ht (fun h => kt h H locs ls hP hD hS hl) (fun h => kf h H locs ls hP hD hS hl)
theorem V_if_ne (hX : Ok X cc nL own R tys) {x : Int32} {off : Int} {tgt : Nat} (hd : decode cc pc = .ok (.ifCond .ne off, 3)) (ht : (pc : Int) + off = (tgt : Int)) (kt : ¬ x = 0 → V X w L tgt st) (kf : x = 0 → V X w L (pc + 3) st) : V X w L pc (.int x :: st) := by
  obtain ⟨p, l, e, R, s, m, args, below, meth, c, D, A, Q, cells, slots⟩ := X
  exact fun H locs ls hP hD hS hl => lv_if_ne hX.1 hX.2.1 hd ht (fun h => kt h H locs ls hP hD hS hl) (fun h => kf h H locs ls hP hD hS hl)
theorem V_ic_ne (hX : Ok X cc nL own R tys) {x y : Int32} {off : Int} {tgt : Nat} (hd : decode cc pc = .ok (.if_icmp .ne off, 3)) (ht : (pc : Int) + off = (tgt : Int)) (kt : ¬ x = y → V X w L tgt st) (kf : x = y → V X w L (pc + 3) st) : V X w L pc (.int y :: .int x :: st) := by
  obtain ⟨p, l, e, R, s, m, args, below, meth, c, D, A, Q, cells, slots⟩ := X
  exact fun H locs ls hP hD hS hl => lv_icmp_ne hX.1 hX.2.1 hd ht (fun h => kt h H locs ls hP hD hS hl) (fun h => kf h H locs ls hP hD hS hl)
theorem V_if_lt (hX : Ok X cc nL own R tys) {x : Int32} {off : Int} {tgt : Nat} (hd : decode cc pc = .ok (.ifCond .lt off, 3)) (ht : (pc : Int) + off = (tgt : Int)) (kt : x < 0 → V X w L tgt st) (kf : ¬ x < 0 → V X w L (pc + 3) st) : V X w L pc (.int x :: st) := by
  obtain ⟨p, l, e, R, s, m, args, below, meth, c, D, A, Q, cells, slots⟩ := X
  exact fun H locs ls hP hD hS hl => lv_if_lt hX.1 hX.2.1 hd ht (fun h => kt h H locs ls hP hD hS hl) (fun h => kf h H locs ls hP hD hS hl)
theorem V_ic_lt (hX : Ok X cc nL own R tys) {x y : Int32} {off : Int} {tgt : Nat} (hd : decode cc pc = .ok (.if_icmp .lt off, 3)) (ht : (pc : Int) + off = (tgt : Int)) (kt : x < y → V X w L tgt st) (kf : ¬ x < y → V X w L (pc + 3) st) : V X w L pc (.int y :: .int x :: st) := by
  obtain ⟨p, l, e, R, s, m, args, below, meth, c, D, A, Q, cells, slots⟩ := X
  exact fun H locs ls hP hD hS hl => lv_icmp_lt hX.1 hX.2.1 hd ht (fun h => kt h H locs ls hP hD hS hl) (fun h => kf h H locs ls hP hD hS hl)
theorem V_if_ge (hX : Ok X cc nL own R tys) {x : Int32} {off : Int} {tgt : Nat} (hd : decode cc pc = .ok (.ifCond .ge off, 3)) (ht : (pc : Int) + off = (tgt : Int)) (kt : 0 ≤ x → V X w L tgt st) (kf : ¬ 0 ≤ x → V X w L (pc + 3) st) : V X w L pc (.int x :: st) := by
  obtain ⟨p, l, e, R, s, m, args, below, meth, c, D, A, Q, cells, slots⟩ := X
  exact fun H locs ls hP hD hS hl => lv_if_ge hX.1 hX.2.1 hd ht (fun h => kt h H locs ls hP hD hS hl) (fun h => kf h H locs ls hP hD hS hl)
theorem V_ic_ge (hX : Ok X cc nL own R tys) {x y : Int32} {off : Int} {tgt : Nat} (hd : decode cc pc = .ok (.if_icmp .ge off, 3)) (ht : (pc : Int) + off = (tgt : Int)) (kt : y ≤ x → V X w L tgt st) (kf : ¬ y ≤ x → V X w L (pc + 3) st) : V X w L pc (.int y :: .int x :: st) := by
  obtain ⟨p, l, e, R, s, m, args, below, meth, c, D, A, Q, cells, slots⟩ := X
  exact fun H locs ls hP hD hS hl => lv_icmp_ge hX.1 hX.2.1 hd ht (fun h => kt h H locs ls hP hD hS hl) (fun h => kf h H locs ls hP hD hS hl)
theorem V_if_gt (hX : Ok X cc nL own R tys) {x : Int32} {off : Int} {tgt : Nat} (hd : decode cc pc = .ok (.ifCond .gt off, 3)) (ht : (pc : Int) + off = (tgt : Int)) (kt : 0 < x → V X w L tgt st) (kf : ¬ 0 < x → V X w L (pc + 3) st) : V X w L pc (.int x :: st) := by
  obtain ⟨p, l, e, R, s, m, args, below, meth, c, D, A, Q, cells, slots⟩ := X
  exact fun H locs ls hP hD hS hl => lv_if_gt hX.1 hX.2.1 hd ht (fun h => kt h H locs ls hP hD hS hl) (fun h => kf h H locs ls hP hD hS hl)
theorem V_ic_gt (hX : Ok X cc nL own R tys) {x y : Int32} {off : Int} {tgt : Nat} (hd : decode cc pc = .ok (.if_icmp .gt off, 3)) (ht : (pc : Int) + off = (tgt : Int)) (kt : y < x → V X w L tgt st) (kf : ¬ y < x → V X w L (pc + 3) st) : V X w L pc (.int y :: .int x :: st) := by
  obtain ⟨p, l, e, R, s, m, args, below, meth, c, D, A, Q, cells, slots⟩ := X
  exact fun H locs ls hP hD hS hl => lv_icmp_gt hX.1 hX.2.1 hd ht (fun h => kt h H locs ls hP hD hS hl) (fun h => kf h H locs ls hP hD hS hl)
theorem V_if_le (hX : Ok X cc nL own R tys) {x : Int32} {off : Int} {tgt : Nat} (hd : decode cc pc = .ok (.ifCond .le off, 3)) (ht : (pc : Int) + off = (tgt : Int)) (kt : x ≤ 0 → V X w L tgt st) (kf : ¬ x ≤ 0 → V X w L (pc + 3) st) : V X w L pc (.int x :: st) := by
  obtain ⟨p, l, e, R, s, m, args, below, meth, c, D, A, Q, cells, slots⟩ := X
  exact fun H locs ls hP hD hS hl => lv_if_le hX.1 hX.2.1 hd ht (fun h => kt h H locs ls hP hD hS hl) (fun h => kf h H locs ls hP hD hS hl)
theorem V_ic_le (hX : Ok X cc nL own R tys) {x y : Int32} {off : Int} {tgt : Nat} (hd : decode cc pc = .ok (.if_icmp .le off, 3)) (ht : (pc : Int) + off = (tgt : Int)) (kt : x ≤ y → V X w L tgt st) (kf : ¬ x ≤ y → V X w L (pc + 3) st) : V X w L pc (.int y :: .int x :: st) := by
  obtain ⟨p, l, e, R, s, m, args, below, meth, c, D, A, Q, cells, slots⟩ := X
  exact fun H locs ls hP hD hS hl => lv_icmp_le hX.1 hX.2.1 hd ht (fun h => kt h H locs ls hP hD hS hl) (fun h => kf h H locs ls hP hD hS hl)
theorem V_ic_eqN (hX : Ok X cc nL own R tys) {x y : Nat} {off : Int} {tgt : Nat} (hd : decode cc pc = .ok (.if_icmp .eq off, 3)) (ht : (pc : Int) + off = (tgt : Int)) (hx : x < 2 ^ 31) (hy : y < 2 ^ 31) (kt : x = y → V X w L tgt st) (kf : ¬ x = y → V X w L (pc + 3) st) : V X w L pc (.int (nI y) :: .int (nI x) :: st) := V_ic_eq hX hd ht (fun h => kt ((nI_eq hx hy).mp h)) (fun h => kf (fun q => h ((nI_eq hx hy).mpr q)))
theorem V_ic_neN (hX : Ok X cc nL own R tys) {x y : Nat} {off : Int} {tgt : Nat} (hd : decode cc pc = .ok (.if_icmp .ne off, 3)) (ht : (pc : Int) + off = (tgt : Int)) (hx : x < 2 ^ 31) (hy : y < 2 ^ 31) (kt : ¬ x = y → V X w L tgt st) (kf : x = y → V X w L (pc + 3) st) : V X w L pc (.int (nI y) :: .int (nI x) :: st) := V_ic_ne hX hd ht (fun h => kt (fun q => h ((nI_eq hx hy).mpr q))) (fun h => kf ((nI_eq hx hy).mp h))
theorem V_ic_ltN (hX : Ok X cc nL own R tys) {x y : Nat} {off : Int} {tgt : Nat} (hd : decode cc pc = .ok (.if_icmp .lt off, 3)) (ht : (pc : Int) + off = (tgt : Int)) (hx : x < 2 ^ 31) (hy : y < 2 ^ 31) (kt : x < y → V X w L tgt st) (kf : y ≤ x → V X w L (pc + 3) st) : V X w L pc (.int (nI y) :: .int (nI x) :: st) := V_ic_lt hX hd ht (fun h => kt ((nI_ltI hx hy).mp h)) (fun h => kf (Nat.not_lt.mp (fun q => h ((nI_ltI hx hy).mpr q))))
theorem V_ic_geN (hX : Ok X cc nL own R tys) {x y : Nat} {off : Int} {tgt : Nat} (hd : decode cc pc = .ok (.if_icmp .ge off, 3)) (ht : (pc : Int) + off = (tgt : Int)) (hx : x < 2 ^ 31) (hy : y < 2 ^ 31) (kt : y ≤ x → V X w L tgt st) (kf : x < y → V X w L (pc + 3) st) : V X w L pc (.int (nI y) :: .int (nI x) :: st) := V_ic_ge hX hd ht (fun h => kt ((nI_leI hy hx).mp h)) (fun h => kf (Nat.not_le.mp (fun q => h ((nI_leI hy hx).mpr q))))
theorem V_ic_gtN (hX : Ok X cc nL own R tys) {x y : Nat} {off : Int} {tgt : Nat} (hd : decode cc pc = .ok (.if_icmp .gt off, 3)) (ht : (pc : Int) + off = (tgt : Int)) (hx : x < 2 ^ 31) (hy : y < 2 ^ 31) (kt : y < x → V X w L tgt st) (kf : x ≤ y → V X w L (pc + 3) st) : V X w L pc (.int (nI y) :: .int (nI x) :: st) := V_ic_gt hX hd ht (fun h => kt ((nI_ltI hy hx).mp h)) (fun h => kf (Nat.not_lt.mp (fun q => h ((nI_ltI hy hx).mpr q))))
theorem V_ic_leN (hX : Ok X cc nL own R tys) {x y : Nat} {off : Int} {tgt : Nat} (hd : decode cc pc = .ok (.if_icmp .le off, 3)) (ht : (pc : Int) + off = (tgt : Int)) (hx : x < 2 ^ 31) (hy : y < 2 ^ 31) (kt : x ≤ y → V X w L tgt st) (kf : y < x → V X w L (pc + 3) st) : V X w L pc (.int (nI y) :: .int (nI x) :: st) := V_ic_le hX hd ht (fun h => kt ((nI_leI hx hy).mp h)) (fun h => kf (Nat.not_le.mp (fun q => h ((nI_leI hx hy).mpr q))))
theorem V_get (hX : Ok X cc nL own R tys) {C : String} {Tf : u_T} {N ci index a : Nat} {fs : List Value} {v : Value} (hin : ∀ x ∈ u_ws C Tf N, x ∈ lw_all) (q0 : Nat) (he : w[q0]? = some (a, .inr (ci, fs))) (hc : vwCl[ci]? = some (C, Tf, N)) (kf : Nat) (hk : kf < N) (hlk : Cond.fieldLink own index (Tf kf).1 (Tf kf).2.1 (Tf kf).2.2.1 ∈ lw_all) (hv : fs[kf]? = some v) (hd : decode cc pc = .ok (.getfield index, 3)) (k : V X w L (pc + 3) (v :: st)) : V X w L pc (.ref a :: st) := by
  obtain ⟨p, l, e, R, s, m, args, below, meth, c, D, A, Q, cells, slots⟩ := X
  exact fun H locs ls hP hD hS hl => va_get hX.1 hX.2.1 hX.2.2.2.2.1 hin hX.2.2.2.1 hX.2.2.2.2.2.1 hP q0 he hc kf hk (hX.2.2.2.2.1 _ hlk) (fun _ h9 => h9) hv hd (k H locs ls hP hD hS hl)
theorem V_put (hX : Ok X cc nL own R tys) {C : String} {Tf : u_T} {N ci index a : Nat} {fs : List Value} {v : Value} {ty : FieldType} {w' : va_W} (hin : ∀ x ∈ u_ws C Tf N, x ∈ lw_all) (ty0 : Nat → FieldType) (hty : ∀ k, k < N → parseFieldDescriptor (Tf k).2.2.1 = some (ty0 k)) (hnm : ∀ a, a < N → ∀ b, b < N → a ≠ b → (Tf a).2.1 ≠ (Tf b).2.1) (q0 : Nat) (he : w[q0]? = some (a, .inr (ci, fs))) (hc : vwCl[ci]? = some (C, Tf, N)) (kf : Nat) (hk : kf < N) (hlk : Cond.fieldLink own index (Tf kf).1 (Tf kf).2.1 (Tf kf).2.2.1 ∈ lw_all) (hfin : (Tf kf).2.2.2 = false) (hty1 : ty0 kf = ty) (hnar : narrow ty v = v) (hfit : fits ty v = true) (hlen : kf < fs.length) (hw : w.set q0 (a, .inr (ci, fs.set kf v)) = w') (hd : decode cc pc = .ok (.putfield index, 3)) (k : V X w' L (pc + 3) st) : V X w L pc (v :: .ref a :: st) := by
  obtain ⟨p, l, e, R, s, m, args, below, meth, c, D, A, Q, cells, slots⟩ := X
  subst hw
  exact fun H locs ls hP hD hS hl => va_put hX.1 hX.2.1 hX.2.2.2.2.1 hin ty0 hty hnm hX.2.2.2.1 hX.2.2.2.2.2.1 hP hD hS q0 he hc kf hk (hX.2.2.2.2.1 _ hlk) (fun _ h9 => h9) hfin (ty := ty) (by rw [hty kf hk, hty1]) hnar hfit hlen hd (fun H1 locs1 hP1 hD1 hS1 => k H1 locs1 ls hP1 hD1 hS1 hl)
theorem V_ild (hX : Ok X cc nL own R tys) {a i n : Nat} {cA : ClassId} {f : Nat → Int32} (q0 t0 : Nat) (ha : w[q0]? = some (a, .inl (cA, n, .inl f))) (ht : tys[t0]? = some (cA, .int)) (hn : n < 2 ^ 31) (hi : i < n) (hd : decode cc pc = .ok (.iaload, 1)) (k : V X w L (pc + 1) (.int (f i) :: st)) : V X w L pc (.int (nI i) :: .ref a :: st) := by
  obtain ⟨p, l, e, R, s, m, args, below, meth, c, D, A, Q, cells, slots⟩ := X
  have hc : (nI i).toNatClampNeg = i := nI_clamp (by omega)
  exact fun H locs ls hP hD hS hl => va_iald hX.1 hX.2.1 hX.2.2.2.2.2.1 hP q0 t0 ha ht (vp_in_nI hi hn) hd (by rw [hc]; exact k H locs ls hP hD hS hl)
theorem V_zld (hX : Ok X cc nL own R tys) {a i n : Nat} {cA : ClassId} {f : Nat → Int32} (q0 t0 : Nat) (ha : w[q0]? = some (a, .inl (cA, n, .inl f))) (ht : tys[t0]? = some (cA, .boolean)) (hn : n < 2 ^ 31) (hi : i < n) (hd : decode cc pc = .ok (.baload, 1)) (k : V X w L (pc + 1) (.int (f i) :: st)) : V X w L pc (.int (nI i) :: .ref a :: st) := by
  obtain ⟨p, l, e, R, s, m, args, below, meth, c, D, A, Q, cells, slots⟩ := X
  have hc : (nI i).toNatClampNeg = i := nI_clamp (by omega)
  exact fun H locs ls hP hD hS hl => va_zald hX.1 hX.2.1 hX.2.2.2.2.2.1 hP q0 t0 ha ht (vp_in_nI hi hn) hd (by rw [hc]; exact k H locs ls hP hD hS hl)
theorem V_ist (hX : Ok X cc nL own R tys) {a i n : Nat} {cA : ClassId} {f : Nat → Int32} {x : Int32} {w' : va_W} (q0 t0 : Nat) (ha : w[q0]? = some (a, .inl (cA, n, .inl f))) (ht : tys[t0]? = some (cA, .int)) (hn : n < 2 ^ 31) (hi : i < n) (hw : w.set q0 (a, .inl (cA, n, .inl (upd f i x))) = w') (hd : decode cc pc = .ok (.iastore, 1)) (k : V X w' L (pc + 1) st) : V X w L pc (.int x :: .int (nI i) :: .ref a :: st) := by
  obtain ⟨p, l, e, R, s, m, args, below, meth, c, D, A, Q, cells, slots⟩ := X
  have hc : (nI i).toNatClampNeg = i := nI_clamp (by omega)
  subst hw
  exact fun H locs ls hP hD hS hl => va_iast hX.1 hX.2.1 hX.2.2.2.2.2.1 hP hD hS q0 t0 ha ht (vp_in_nI hi hn) hd (fun H1 locs1 hP1 hD1 hS1 => k H1 locs1 ls (by rw [hc] at hP1; exact hP1) (by rw [hc] at hD1; exact hD1) hS1 hl)
theorem V_zst (hX : Ok X cc nL own R tys) {a i n : Nat} {cA : ClassId} {f : Nat → Int32} {x : Int32} {w' : va_W} (q0 t0 : Nat) (ha : w[q0]? = some (a, .inl (cA, n, .inl f))) (ht : tys[t0]? = some (cA, .boolean)) (hn : n < 2 ^ 31) (hi : i < n) (hx : vp_nar .boolean x = x) (hw : w.set q0 (a, .inl (cA, n, .inl (upd f i x))) = w') (hd : decode cc pc = .ok (.bastore, 1)) (k : V X w' L (pc + 1) st) : V X w L pc (.int x :: .int (nI i) :: .ref a :: st) := by
  obtain ⟨p, l, e, R, s, m, args, below, meth, c, D, A, Q, cells, slots⟩ := X
  have hc : (nI i).toNatClampNeg = i := nI_clamp (by omega)
  subst hw
  exact fun H locs ls hP hD hS hl => va_zast hX.1 hX.2.1 hX.2.2.2.2.2.1 hP hD hS q0 t0 ha ht (vp_in_nI hi hn) hd (fun H1 locs1 hP1 hD1 hS1 => k H1 locs1 ls (by rw [hc, hx] at hP1; exact hP1) (by rw [hc, hx] at hD1; exact hD1) hS1 hl)
end VR
/-! a contract over a world family wf (the class's or the reference's): for any heap that holds wf σ, the method answers r and leaves wf σ' with 'post r σ'' -/
def CMi (wf : fSt → va_W) (o : Nat) (tys : List (ClassId × FieldType)) (y : MethodName) (cc : ByteArray) (nL : Nat) (ty : FieldType) (rm : Room) (σ : fSt) (As : List Value) (post : Int32 → fSt → Prop) : Prop :=
  ∀ (l : Launch) (dC : Nat → ClassId) (dI : Nat → Nat → Nat) (sz : Nat), Met l y (ws_ y cc nL (some ty)) rm (va_Pc (.ref o :: As) (fun U => U.heap.size = sz ∧ va_P (dC, dI) vwCl (wf σ) U.heap ∧ va_K (dC, dI) vwCl tys U ∧ va_D (fun _ => True) (wf σ))) (va_Qi post (fun σ' t => va_P (dC, dI) vwCl (wf σ') t.heap ∧ va_K (dC, dI) vwCl tys t ∧ va_D (va_A (wf σ) sz) (wf σ')) (va_A (wf σ) sz)) 0 0 (va_A (wf σ) sz)
def CMv (wf : fSt → va_W) (o : Nat) (tys : List (ClassId × FieldType)) (y : MethodName) (cc : ByteArray) (nL : Nat) (rm : Room) (σ : fSt) (As : List Value) (post : fSt → Prop) : Prop :=
  ∀ (l : Launch) (dC : Nat → ClassId) (dI : Nat → Nat → Nat) (sz : Nat), Met l y (ws_ y cc nL none) rm (va_Pc (.ref o :: As) (fun U => U.heap.size = sz ∧ va_P (dC, dI) vwCl (wf σ) U.heap ∧ va_K (dC, dI) vwCl tys U ∧ va_D (fun _ => True) (wf σ))) (va_Qv post (fun σ' t => va_P (dC, dI) vwCl (wf σ') t.heap ∧ va_K (dC, dI) vwCl tys t ∧ va_D (va_A (wf σ) sz) (wf σ')) (va_A (wf σ) sz)) 0 0 (va_A (wf σ) sz)
section VC
variable {wf : fSt → va_W} {o nL : Nat} {tys : List (ClassId × FieldType)} {y : MethodName} {cc : ByteArray} {ty : FieldType} {rm : Room} {σ : fSt} {As : List Value} {own : String}
theorem CMi.of {post : Int32 → fSt → Prop} (hy : plainName y.cls = true) (ho : y.cls = own) (hL : (lg_sl (.ref o :: As)).length ≤ nL) (hcat : ∀ v ∈ As, v.category = 1) (hnar : ∀ r σ', post r σ' → narrow ty (.int r) = .int r)
    (body : ∀ X : Cx, Ok X cc nL own rm tys → (∀ (r : Int32) (σ' : fSt), post r σ' → ∀ (pc : Nat) (L : List Value), decode cc pc = .ok (.ireturn, 1) → V X (wf σ') L pc [.int r]) → V X (wf σ) (.ref o :: As) 0 []) : CMi wf o tys y cc nL ty rm σ As post := by
  intro l dC dI sz
  refine Met.ofW (cc := cc) (maxL := nL) (ret := some ty) hy rfl ?_
  intro p e s m args below meth c s₁ B hml hv
  obtain ⟨rfl, hsz, hP, hK, hD0⟩ := hv
  have hx := B.exec
  have hb := B.bytes
  have hr := B.returns
  have hts := atoms_spec (ws := ws_ y cc nL (some ty)) B.pre
  have hts : ∀ w ∈ lw_all, w.before _ s = true := fun w h => hts w (List.mem_cons_of_mem _ h)
  have hown : s.vm.findClass own = some m.cls := by rw [← ho]; exact findClass_of_methodNamed B.named
  have hlocks := B.notSynchronized
  subst hsz
  have hD := hD0.self (sz := s.heap.size)
  have hl := lv_entry (.ref o :: As) (n := nL) hL
  rw [lg_entry_eq]
  generalize (lg_sl (.ref o :: As) ++ List.replicate (nL - (lg_sl (.ref o :: As)).length) Slot.unset).toArray = ls at hl ⊢
  have hl1 : lh ls c.maxLocals (.ref o :: As) := by
    rw [hml]
    refine lh.entry ?_ hl
    intro v hv
    rcases List.mem_cons.mp hv with h | h
    · rw [h]; rfl
    · exact hcat v h
  refine body (p, l, e, rm, s, m, (.ref o :: As : List Value).toArray, below, meth, c, (dC, dI), va_A (wf σ) s.heap.size, _, 0, 0) ⟨hx, hb, hml, hown, hts, hK, fun q h => Or.inr h, rfl, Nat.zero_le _, Nat.zero_le _⟩ ?_ s.heap [] ls hP hD va_S.rf hl1
  intro r σ' hpost pc L hdg H locs ls' hP' hD' hS' hl'
  exact W.zret hx hb hr (hnar r σ' hpost) (fun t ht hW => ⟨⟨r, σ', rfl, hpost, by rw [ht]; exact hP', va_K.moved hW.alike hK, hD'⟩, hS'.F ht⟩) hS'.2.2 hdg
theorem CMv.of {post : fSt → Prop} (hy : plainName y.cls = true) (ho : y.cls = own) (hL : (lg_sl (.ref o :: As)).length ≤ nL) (hcat : ∀ v ∈ As, v.category = 1)
    (body : ∀ X : Cx, Ok X cc nL own rm tys → (∀ (σ' : fSt), post σ' → ∀ (pc : Nat) (L : List Value), decode cc pc = .ok (.return_, 1) → V X (wf σ') L pc []) → V X (wf σ) (.ref o :: As) 0 []) : CMv wf o tys y cc nL rm σ As post := by
  intro l dC dI sz
  refine Met.ofW (cc := cc) (maxL := nL) (ret := none) hy rfl ?_
  intro p e s m args below meth c s₁ B hml hv
  obtain ⟨rfl, hsz, hP, hK, hD0⟩ := hv
  have hx := B.exec
  have hb := B.bytes
  have hr := B.returns
  have hts := atoms_spec (ws := ws_ y cc nL none) B.pre
  have hts : ∀ w ∈ lw_all, w.before _ s = true := fun w h => hts w (List.mem_cons_of_mem _ h)
  have hown : s.vm.findClass own = some m.cls := by rw [← ho]; exact findClass_of_methodNamed B.named
  have hlocks := B.notSynchronized
  subst hsz
  have hD := hD0.self (sz := s.heap.size)
  have hl := lv_entry (.ref o :: As) (n := nL) hL
  rw [lg_entry_eq]
  generalize (lg_sl (.ref o :: As) ++ List.replicate (nL - (lg_sl (.ref o :: As)).length) Slot.unset).toArray = ls at hl ⊢
  have hl1 : lh ls c.maxLocals (.ref o :: As) := by
    rw [hml]
    refine lh.entry ?_ hl
    intro v hv
    rcases List.mem_cons.mp hv with h | h
    · rw [h]; rfl
    · exact hcat v h
  refine body (p, l, e, rm, s, m, (.ref o :: As : List Value).toArray, below, meth, c, (dC, dI), va_A (wf σ) s.heap.size, _, 0, 0) ⟨hx, hb, hml, hown, hts, hK, fun q h => Or.inr h, rfl, Nat.zero_le _, Nat.zero_le _⟩ ?_ s.heap [] ls hP hD va_S.rf hl1
  intro σ' hpost pc L hdg H locs ls' hP' hD' hS' hl'
  exact W.vret hx hb hr (fun t ht hW => ⟨⟨σ', rfl, hpost, by rw [ht]; exact hP', va_K.moved hW.alike hK, hD'⟩, hS'.F ht⟩) hS'.2.2 hdg
theorem CMi.mono {post post' : Int32 → fSt → Prop} (h : CMi wf o tys y cc nL ty rm σ As post) (hp : ∀ r σ', post r σ' → post' r σ') : CMi wf o tys y cc nL ty rm σ As post' := by
  intro l dC dI sz p e ha hc hk s m args below hf happ hP hT
  obtain ⟨k, oc, h1, h2, h3, ⟨⟨⟨r, u, g1, g2, g3⟩, g4⟩, h5⟩⟩ := h l dC dI sz p e ha hc hk s m args below hf happ hP hT
  exact ⟨k, oc, h1, h2, h3, ⟨⟨⟨r, u, g1, hp r u g2, g3⟩, g4⟩, h5⟩⟩
theorem V_own {A : Nat → Prop} {w : va_W} {H0 H : Heap} {locs : List Loc} (hD : va_D A w) (hS : va_S A H0 H locs) (hA : ∀ q : Nat, H0.size ≤ q → A q) : ∀ q, va_A w H.size q → A q := by
  intro q h
  rcases h with ⟨k, e, h⟩ | h
  · exact hD.2 k _ h
  · exact hA q (Nat.le_trans hS.1 h)
variable {X : Cx} {ccx : ByteArray} {nX pc n index : Nat} {R : Room} {L st0 rest : List Value} {C : String} {ci : Nat} {qc : vw_C} {fs : List Value}
theorem V_calli {post : Int32 → fSt → Prop} (hX : Ok X ccx nX own R tys) (hM : CMi wf o tys y cc nL ty rm σ As post) (hr : (wf σ)[0]? = some (o, .inr (ci, fs))) (hc : vwCl[ci]? = some qc) (hq : qc.1 = C) (hw : GoodIn lw_all (wsV own index C y (ws_ y cc nL (some ty)))) (hrc : rm.cells = 0) (hrs : rm.slots = 0)
    (hd : y.cls = C ∧ y.cls ≠ "java/lang/invoke/MethodHandle" ∧ y.cls ≠ "java/lang/invoke/VarHandle" ∧ (parseMethodDescriptor y.desc).map (fun d => d.parameters.length) = some n) (hR : rm.frames + 1 ≤ R.frames ∧ 8 + (nL + 11) + rm.locals ≤ R.locals) (hn : As.length = n) (hst : st0 = As.reverse ++ .ref o :: rest) (hrm : (rest.map fun v => v.category).sum ≤ 8)
    (hdg : decode ccx pc = .ok (.invokevirtual index, 3)) (kk : ∀ r σ', post r σ' → V X (wf σ') L (pc + 3) (.int r :: rest)) : V X (wf σ) L pc st0 := by
  obtain ⟨p, l, e, R', s, m, args, below, meth, c, D, A, Q, cells, slots⟩ := X
  obtain ⟨hx, hb, hml, hown, hts, hK, hA, hRR, hcs, hss⟩ := hX
  subst hRR
  subst hst
  intro H locs ls hP hD hS hl
  have hFc := V_own hD hS hA
  refine va_calli (va_runV (As := As) (rest := rest) ⟨hx, hb, hml, hown, hts⟩ (hM l D.1 D.2 H.size) (cwV n hts hw rfl hrc hrs hd hR) ⟨fun a U g mk q => by obtain ⟨q0, q1, qP, qK, qD⟩ := q; exact ⟨q0, q1, qP, va_K.moved (u := U) (U := U.calling g mk a) (Vm.Alike.refl U.vm) qK, qD⟩, by rw [← hq]; exact va_recv hK hP hc hr, fun U hU hW => ⟨rfl, by rw [hU], by rw [hU]; exact hP, va_K.moved hW.alike hK, hD.weaken (fun _ _ _ _ => trivial)⟩⟩ rfl hn (by rw [← hml]; exact hl.1) rfl (lv_room hrm) hdg ⟨hcs, hss⟩) hS (fun q _ h => hFc q h) hFc (fun r u t H1 locs1 ht hvm hw1 hB hz1 hk1 hS1 => ?_)
  obtain ⟨hP1, hK1, hD1⟩ := hB
  rw [ht] at hP1
  exact kk r u hw1 H1 locs1 ls hP1 (hD1.weaken (fun _ q _ h => hFc q.1 h)) hS1 hl
theorem V_callv {post : fSt → Prop} (hX : Ok X ccx nX own R tys) (hM : CMv wf o tys y cc nL rm σ As post) (hr : (wf σ)[0]? = some (o, .inr (ci, fs))) (hc : vwCl[ci]? = some qc) (hq : qc.1 = C) (hw : GoodIn lw_all (wsV own index C y (ws_ y cc nL none))) (hrc : rm.cells = 0) (hrs : rm.slots = 0)
    (hd : y.cls = C ∧ y.cls ≠ "java/lang/invoke/MethodHandle" ∧ y.cls ≠ "java/lang/invoke/VarHandle" ∧ (parseMethodDescriptor y.desc).map (fun d => d.parameters.length) = some n) (hR : rm.frames + 1 ≤ R.frames ∧ 8 + (nL + 11) + rm.locals ≤ R.locals) (hn : As.length = n) (hst : st0 = As.reverse ++ .ref o :: rest) (hrm : (rest.map fun v => v.category).sum ≤ 8)
    (hdg : decode ccx pc = .ok (.invokevirtual index, 3)) (kk : ∀ σ', post σ' → V X (wf σ') L (pc + 3) rest) : V X (wf σ) L pc st0 := by
  obtain ⟨p, l, e, R', s, m, args, below, meth, c, D, A, Q, cells, slots⟩ := X
  obtain ⟨hx, hb, hml, hown, hts, hK, hA, hRR, hcs, hss⟩ := hX
  subst hRR
  subst hst
  intro H locs ls hP hD hS hl
  have hFc := V_own hD hS hA
  refine va_callv (va_runV (As := As) (rest := rest) ⟨hx, hb, hml, hown, hts⟩ (hM l D.1 D.2 H.size) (cwV n hts hw rfl hrc hrs hd hR) ⟨fun a U g mk q => by obtain ⟨q0, q1, qP, qK, qD⟩ := q; exact ⟨q0, q1, qP, va_K.moved (u := U) (U := U.calling g mk a) (Vm.Alike.refl U.vm) qK, qD⟩, by rw [← hq]; exact va_recv hK hP hc hr, fun U hU hW => ⟨rfl, by rw [hU], by rw [hU]; exact hP, va_K.moved hW.alike hK, hD.weaken (fun _ _ _ _ => trivial)⟩⟩ rfl hn (by rw [← hml]; exact hl.1) rfl (lv_room hrm) hdg ⟨hcs, hss⟩) hS (fun q _ h => hFc q h) hFc (fun u t H1 locs1 ht hvm hw1 hB hz1 hk1 hS1 => ?_)
  obtain ⟨hP1, hK1, hD1⟩ := hB
  rw [ht] at hP1
  exact kk u hw1 H1 locs1 ls hP1 (hD1.weaken (fun _ q _ h => hFc q.1 h)) hS1 hl
end VC
/-! rows over the class's own world: arrays by their number -/
def aI : Nat → Option (Nat × Nat)
  | 2 => some (3, 16) | 3 => some (4, 16) | 4 => some (5, 16) | 8 => some (9, 16) | 9 => some (10, 64) | 12 => some (11, 8) | 15 => some (12, 4) | 16 => some (13, 4) | _ => none
def aZ : Nat → Option (Nat × Nat)
  | 0 => some (1, 16) | 1 => some (2, 16) | 5 => some (6, 16) | 6 => some (7, 16) | 7 => some (8, 16) | _ => none
theorem aI_at {d : Nat → Nat} {σ : fSt} {k q0 n : Nat} (h : aI k = some (q0, n)) : n < 2 ^ 31 ∧ (wF d σ)[q0]? = some (d k, .inl (d 21, n, .inl (σ k))) ∧ ∀ g : Nat → Int32, (wF d σ).set q0 (d k, .inl (d 21, n, .inl g)) = wF d (sf σ k g) := by
  unfold aI at h
  split at h <;> cases h <;> exact ⟨by decide, rfl, fun _ => rfl⟩
theorem aZ_at {d : Nat → Nat} {σ : fSt} {k q0 n : Nat} (h : aZ k = some (q0, n)) : n < 2 ^ 31 ∧ (wF d σ)[q0]? = some (d k, .inl (d 20, n, .inl (σ k))) ∧ ∀ g : Nat → Int32, (wF d σ).set q0 (d k, .inl (d 20, n, .inl g)) = wF d (sf σ k g) := by
  unfold aZ at h
  split at h <;> cases h <;> exact ⟨by decide, rfl, fun _ => rfl⟩
def aM : Nat → Option (Nat × Nat)
  | 0 => some (1, 32) | 1 => some (2, 8) | 2 => some (3, 4) | _ => none
theorem aM_at {d : Nat → Nat} {τ : fSt} {k q0 n : Nat} (h : aM k = some (q0, n)) : n < 2 ^ 31 ∧ (wM d τ)[q0]? = some (d k, .inl (d 7, n, .inl (τ k))) ∧ ∀ g : Nat → Int32, (wM d τ).set q0 (d k, .inl (d 7, n, .inl g)) = wM d (sf τ k g) := by
  unfold aM at h
  split at h <;> cases h <;> exact ⟨by decide, rfl, fun _ => rfl⟩
section VF
variable {X : Cx} {cc : ByteArray} {nL pc : Nat} {R : Room} {d : Nat → Nat} {σ : fSt} {L st : List Value} {k i q0 n index : Nat} {x : Int32}
theorem F_ild (hX : Ok X cc nL RX0 R (tF d)) (hk : aI k = some (q0, n)) (hi : i < n) (hd : decode cc pc = .ok (.iaload, 1)) (kk : V X (wF d σ) L (pc + 1) (.int (σ k i) :: st)) : V X (wF d σ) L pc (.int (nI i) :: .ref (d k) :: st) :=
  V_ild hX q0 1 (aI_at hk).2.1 rfl (aI_at (d := d) (σ := σ) hk).1 hi hd kk
theorem F_zld (hX : Ok X cc nL RX0 R (tF d)) (hk : aZ k = some (q0, n)) (hi : i < n) (hd : decode cc pc = .ok (.baload, 1)) (kk : V X (wF d σ) L (pc + 1) (.int (σ k i) :: st)) : V X (wF d σ) L pc (.int (nI i) :: .ref (d k) :: st) :=
  V_zld hX q0 0 (aZ_at hk).2.1 rfl (aZ_at (d := d) (σ := σ) hk).1 hi hd kk
theorem F_ist (hX : Ok X cc nL RX0 R (tF d)) (hk : aI k = some (q0, n)) (hi : i < n) (hd : decode cc pc = .ok (.iastore, 1)) (kk : V X (wF d (sf σ k (upd (σ k) i x))) L (pc + 1) st) : V X (wF d σ) L pc (.int x :: .int (nI i) :: .ref (d k) :: st) :=
  V_ist hX q0 1 (aI_at hk).2.1 rfl (aI_at (d := d) (σ := σ) hk).1 hi ((aI_at hk).2.2 _) hd kk
theorem F_zst (hX : Ok X cc nL RX0 R (tF d)) (hk : aZ k = some (q0, n)) (hi : i < n) (hx : vp_nar .boolean x = x) (hd : decode cc pc = .ok (.bastore, 1)) (kk : V X (wF d (sf σ k (upd (σ k) i x))) L (pc + 1) st) : V X (wF d σ) L pc (.int x :: .int (nI i) :: .ref (d k) :: st) :=
  V_zst hX q0 0 (aZ_at hk).2.1 rfl (aZ_at (d := d) (σ := σ) hk).1 hi hx ((aZ_at hk).2.2 _) hd kk
theorem F_get (hX : Ok X cc nL RX0 R (tF d)) {v : Value} (k : Nat) (hk : k < 19) (hlk : Cond.fieldLink RX0 index (TX0 k).1 (TX0 k).2.1 (TX0 k).2.2.1 ∈ lw_all) (hv : (fF d σ)[k]? = some v) (hd : decode cc pc = .ok (.getfield index, 3)) (kk : V X (wF d σ) L (pc + 3) (v :: st)) : V X (wF d σ) L pc (.ref (d 19) :: st) :=
  V_get hX in_X0 0 rfl rfl k hk hlk hv hd kk
theorem F_putI (hX : Ok X cc nL RX0 R (tF d)) (k : Nat) (hk : k < 19) (hlk : Cond.fieldLink RX0 index (TX0 k).1 (TX0 k).2.1 (TX0 k).2.2.1 ∈ lw_all) (hfin : (TX0 k).2.2.2 = false) (hty : tyX0 k = .int) (hw : (wF d σ).set 0 (d 19, .inr (0, (fF d σ).set k (.int x))) = wF d (sf σ k (fun _ => x))) (hd : decode cc pc = .ok (.putfield index, 3)) (kk : V X (wF d (sf σ k (fun _ => x))) L (pc + 3) st) : V X (wF d σ) L pc (.int x :: .ref (d 19) :: st) :=
  V_put hX in_X0 tyX0 tyX0_ok nmX0 0 rfl rfl k hk hlk hfin hty rfl rfl hk hw hd kk
theorem F_putZ (hX : Ok X cc nL RX0 R (tF d)) (k : Nat) (hk : k < 19) (hlk : Cond.fieldLink RX0 index (TX0 k).1 (TX0 k).2.1 (TX0 k).2.2.1 ∈ lw_all) (hfin : (TX0 k).2.2.2 = false) (hty : tyX0 k = .boolean) (hx : narrow .boolean (.int x) = .int x) (hf : fits .boolean (.int x) = true) (hw : (wF d σ).set 0 (d 19, .inr (0, (fF d σ).set k (.int x))) = wF d (sf σ k (fun _ => x))) (hd : decode cc pc = .ok (.putfield index, 3)) (kk : V X (wF d (sf σ k (fun _ => x))) L (pc + 3) st) : V X (wF d σ) L pc (.int x :: .ref (d 19) :: st) :=
  V_put hX in_X0 tyX0 tyX0_ok nmX0 0 rfl rfl k hk hlk hfin hty hx hf hk hw hd kk
theorem M_ild (hX : Ok X cc nL RX1 R (tM d)) (hk : aM k = some (q0, n)) (hi : i < n) (hd : decode cc pc = .ok (.iaload, 1)) (kk : V X (wM d σ) L (pc + 1) (.int (σ k i) :: st)) : V X (wM d σ) L pc (.int (nI i) :: .ref (d k) :: st) :=
  V_ild hX q0 0 (aM_at hk).2.1 rfl (aM_at (d := d) (τ := σ) hk).1 hi hd kk
theorem M_ist (hX : Ok X cc nL RX1 R (tM d)) (hk : aM k = some (q0, n)) (hi : i < n) (hd : decode cc pc = .ok (.iastore, 1)) (kk : V X (wM d (sf σ k (upd (σ k) i x))) L (pc + 1) st) : V X (wM d σ) L pc (.int x :: .int (nI i) :: .ref (d k) :: st) :=
  V_ist hX q0 0 (aM_at hk).2.1 rfl (aM_at (d := d) (τ := σ) hk).1 hi ((aM_at hk).2.2 _) hd kk
theorem M_get (hX : Ok X cc nL RX1 R (tM d)) {v : Value} (k : Nat) (hk : k < 6) (hlk : Cond.fieldLink RX1 index (TX1 k).1 (TX1 k).2.1 (TX1 k).2.2.1 ∈ lw_all) (hv : (fM d σ)[k]? = some v) (hd : decode cc pc = .ok (.getfield index, 3)) (kk : V X (wM d σ) L (pc + 3) (v :: st)) : V X (wM d σ) L pc (.ref (d 6) :: st) :=
  V_get hX in_X1 0 rfl rfl k hk hlk hv hd kk
theorem M_putI (hX : Ok X cc nL RX1 R (tM d)) (k : Nat) (hk : k < 6) (hlk : Cond.fieldLink RX1 index (TX1 k).1 (TX1 k).2.1 (TX1 k).2.2.1 ∈ lw_all) (hfin : (TX1 k).2.2.2 = false) (hty : tyX1 k = .int) (hw : (wM d σ).set 0 (d 6, .inr (1, (fM d σ).set k (.int x))) = wM d (sf σ k (fun _ => x))) (hd : decode cc pc = .ok (.putfield index, 3)) (kk : V X (wM d (sf σ k (fun _ => x))) L (pc + 3) st) : V X (wM d σ) L pc (.int x :: .ref (d 6) :: st) :=
  V_put hX in_X1 tyX1 tyX1_ok nmX1 0 rfl rfl k hk hlk hfin hty rfl rfl hk hw hd kk
theorem M_putZ (hX : Ok X cc nL RX1 R (tM d)) (k : Nat) (hk : k < 6) (hlk : Cond.fieldLink RX1 index (TX1 k).1 (TX1 k).2.1 (TX1 k).2.2.1 ∈ lw_all) (hfin : (TX1 k).2.2.2 = false) (hty : tyX1 k = .boolean) (hx : narrow .boolean (.int x) = .int x) (hf : fits .boolean (.int x) = true) (hw : (wM d σ).set 0 (d 6, .inr (1, (fM d σ).set k (.int x))) = wM d (sf σ k (fun _ => x))) (hd : decode cc pc = .ok (.putfield index, 3)) (kk : V X (wM d (sf σ k (fun _ => x))) L (pc + 3) st) : V X (wM d σ) L pc (.int x :: .ref (d 6) :: st) :=
  V_put hX in_X1 tyX1 tyX1_ok nmX1 0 rfl rfl k hk hlk hfin hty hx hf hk hw hd kk
end VF
/-- the class's contracts -/
abbrev CFi (d : Nat → Nat) := CMi (wF d) (d 19) (tF d)
abbrev CFv (d : Nat → Nat) := CMv (wF d) (d 19) (tF d)
abbrev CRi (d : Nat → Nat) := CMi (wM d) (d 6) (tM d)
abbrev CRv (d : Nat → Nat) := CMv (wM d) (d 6) (tM d)
end
section
set_option maxRecDepth 100000
/-! the class's state in words: σ k e is array k (clean 0, bad 1, worn 2, owner 3, number 4, growing 5, closed 6, dropped 7, filled 8, page 9, home 12, draft 15, held 16) at e; fields badBlocks 10, failing 11, nextNumber 13, drafted 14, armed 17, count 18 at 0 -/
abbrev rmF (f l : Nat) : Room := { frames := f, cells := 0, slots := 0, locals := l }
/-- a boolean answer -/
def bo (r : Int32) (P : Prop) : Prop := (r = 1 ∧ P) ∨ (r = 0 ∧ ¬ P)
theorem bo.nar {r : Int32} {P : Prop} (h : bo r P) : narrow .boolean (.int r) = .int r := by
  rcases h with ⟨rfl, -⟩ | ⟨rfl, -⟩ <;> decide +kernel
theorem bo.z {r : Int32} {P : Prop} (h : bo r P) (hr : r = 0) : ¬ P := by
  rcases h with ⟨rfl, -⟩ | ⟨-, q⟩
  · exact absurd hr (by decide)
  · exact q
theorem bo.nz {r : Int32} {P : Prop} (h : bo r P) (hr : ¬ r = 0) : P := by
  rcases h with ⟨-, q⟩ | ⟨rfl, -⟩
  · exact q
  · exact absurd rfl hr
/-- sound: not bad, not clean, growing or closed -/
def sd (σ : fSt) (e : Nat) : Prop := σ 1 e = 0 ∧ σ 0 e = 0 ∧ (¬ σ 5 e = 0 ∨ ¬ σ 6 e = 0)
/-- live: not bad, not clean -/
def lvb (σ : fSt) (e : Nat) : Prop := σ 1 e = 0 ∧ σ 0 e = 0
/-- free: clean and not bad -/
def fre (σ : fSt) (e : Nat) : Prop := ¬ σ 0 e = 0 ∧ σ 1 e = 0
/-- in use -/
def usd (σ : fSt) (e : Nat) : Prop := ∃ b, b < 8 ∧ σ 12 b = nI e
/-- open: can be erased -/
def opn (σ : fSt) (e : Nat) : Prop := σ 0 e = 0 ∧ σ 1 e = 0 ∧ ¬ usd σ e
/-- how many e below n hold p -/
noncomputable def ifc (p : Prop) (a b : Nat) : Nat := @ite Nat p (Classical.propDecidable p) a b
theorem ifc_t {p : Prop} {a b : Nat} (h : p) : ifc p a b = a := @if_pos p (Classical.propDecidable p) h Nat a b
theorem ifc_f {p : Prop} {a b : Nat} (h : ¬ p) : ifc p a b = b := @if_neg p (Classical.propDecidable p) h Nat a b
noncomputable def cnt (p : Nat → Prop) : Nat → Nat
  | 0 => 0
  | n + 1 => cnt p n + ifc (p n) 1 0
/-- erase -/
def erF (σ : fSt) (e : Nat) : fSt := if ¬ σ 11 0 = 0 ∧ ¬ 3 ≤ σ 10 0 then sf (sf (sf σ 1 (upd (σ 1) e 1)) 10 (fun _ => σ 10 0 + 1)) 11 (fun _ => 0) else sf (sf σ 0 (upd (σ 0) e 1)) 2 (upd (σ 2) e (σ 2 e + 1))
/-- writeHeader -/
def whF (σ : fSt) (e : Nat) (b g : Int32) : fSt := sf (sf (sf (sf (sf (sf (sf (sf σ 0 (upd (σ 0) e 0)) 3 (upd (σ 3) e b)) 4 (upd (σ 4) e (σ 13 0))) 13 (fun _ => σ 13 0 + 1)) 5 (upd (σ 5) e g)) 6 (upd (σ 6) e 0)) 7 (upd (σ 7) e 0)) 8 (upd (σ 8) e 0)
/-- writeWord at place f -/
def wwF (σ : fSt) (e f : Nat) (x : Int32) : fSt := sf (sf σ 9 (upd (σ 9) (e * 4 + f) x)) 8 (upd (σ 8) e (nI (f + 1)))
/-- adopt -/
def adF (σ : fSt) (b e : Nat) : fSt := sf σ 12 (upd (σ 12) b (if σ 8 e = 0 then (-1) else nI e))
/-- a block's home is none or a place -/
def hmOk (σ : fSt) (b : Nat) : Prop := σ 12 b = -1 ∨ ∃ e, e < 16 ∧ σ 12 b = nI e
/-- its size and its words -/
def szF (σ : fSt) (b : Nat) : Int32 := if σ 12 b < 0 then 0 else σ 8 (σ 12 b).toNatClampNeg
def wdF (σ : fSt) (b i : Nat) : Int32 := σ 9 ((σ 12 b).toNatClampNeg * 4 + i)
theorem neg1_lt : (-1 : Int32) < 0 := by decide
theorem nI_nneg {n : Nat} (h : n < 2 ^ 31) : ¬ nI n < 0 := nI_pos h
theorem nI_ne_neg {n : Nat} (h : n < 2 ^ 31) : ¬ nI n = -1 := fun q => nI_pos h (by rw [q]; decide)
/-- the number of a logical block -/
def bk (b : Int32) : Prop := ∃ n, n < 8 ∧ b = nI n
theorem bk_of {b : Int32} (h0 : ¬ b < 0) (h : b < nI 8) : bk b := by
  obtain ⟨j, hj, rfl⟩ := nI_of h0
  exact ⟨j, (nI_ltI hj (by decide)).mp h, rfl⟩
theorem bk_not {b : Int32} (h : b < 0 ∨ ¬ b < nI 8) : ¬ bk b := by
  rintro ⟨n, hn, rfl⟩
  rcases h with h | h
  · exact nI_pos (by omega) h
  · exact h (nI_lt hn (by decide))
theorem nI_inc (a : Nat) : nI a + Int32.ofInt 1 = nI (a + 1) := nI_1 a
theorem nI_inc3 (a : Nat) : nI a + Int32.ofInt 3 = nI (a + 3) := by rw [← nI_add]; rfl
end
section
set_option maxRecDepth 100000
set_option maxHeartbeats 4000000 in
/-- badBlock -/
theorem c_badBlock (d : Nat → Nat) (σ : fSt) (b : Int32) : CFi d yX0_badBlock cX0_badBlock 2 .boolean (rmF 0 0) σ [.int b] (fun r σ' => σ = σ' ∧ bo r (¬ bk b)) := by
  refine CMi.of (own := RX0) (by decide +kernel) rfl (Nat.le_of_ble_eq_true rfl) (by simp [Value.category]) (fun _ _ h => h.2.nar) ?_
  intro X hX hR
  refine V_iln hX 1 dX0_badBlock_0 rfl rfl ?_
  refine V_if_lt hX (tgt := 10) dX0_badBlock_1 (by decide) (fun c1 => ?_) (fun c1 => ?_)
  · refine V_iconst hX (v := 1) dX0_badBlock_10 (by decide +kernel) ?_
    refine V_goto hX (tgt := 15) dX0_badBlock_11 (by decide) ?_
    exact hR _ _ ⟨rfl, Or.inl ⟨rfl, bk_not (Or.inl c1)⟩⟩ _ _ dX0_badBlock_15
  · refine V_iln hX 1 dX0_badBlock_4 rfl rfl ?_
    refine V_bipush hX (v := nI 8) dX0_badBlock_5 (by decide +kernel) ?_
    refine V_ic_lt hX (tgt := 14) dX0_badBlock_7 (by decide) (fun c7 => ?_) (fun c7 => ?_)
    · refine V_iconst hX (v := 0) dX0_badBlock_14 (by decide +kernel) ?_
      exact hR _ _ ⟨rfl, Or.inr ⟨rfl, fun h => h (bk_of c1 c7)⟩⟩ _ _ dX0_badBlock_15
    · refine V_iconst hX (v := 1) dX0_badBlock_10 (by decide +kernel) ?_
      refine V_goto hX (tgt := 15) dX0_badBlock_11 (by decide) ?_
      exact hR _ _ ⟨rfl, Or.inl ⟨rfl, bk_not (Or.inr c7)⟩⟩ _ _ dX0_badBlock_15
set_option maxHeartbeats 4000000 in
/-- sound -/
theorem c_sound (d : Nat → Nat) (σ : fSt) (e : Nat) (he : e < 16) : CFi d yX0_sound cX0_sound 2 .boolean (rmF 0 0) σ [.int (nI e)] (fun r σ' => σ = σ' ∧ bo r (sd σ e)) := by
  refine CMi.of (own := RX0) (by decide +kernel) rfl (Nat.le_of_ble_eq_true rfl) (by simp [Value.category]) (fun _ _ h => h.2.nar) ?_
  intro X hX hR
  refine V_aln hX 0 dX0_sound_0 rfl rfl ?_
  refine F_get hX 1 (by decide) q39 rfl dX0_sound_1 ?_
  refine V_iln hX 1 dX0_sound_4 rfl rfl ?_
  refine F_zld hX rfl (by first | assumption | omega) dX0_sound_5 ?_
  refine V_if_ne hX (tgt := 40) dX0_sound_6 (by decide) (fun c6 => ?_) (fun c6 => ?_)
  · refine V_iconst hX (v := 0) dX0_sound_40 (by decide +kernel) ?_
    exact hR _ _ ⟨rfl, Or.inr ⟨rfl, fun h => c6 h.1⟩⟩ _ _ dX0_sound_41
  · refine V_aln hX 0 dX0_sound_9 rfl rfl ?_
    refine F_get hX 0 (by decide) q38 rfl dX0_sound_10 ?_
    refine V_iln hX 1 dX0_sound_13 rfl rfl ?_
    refine F_zld hX rfl (by first | assumption | omega) dX0_sound_14 ?_
    refine V_if_ne hX (tgt := 40) dX0_sound_15 (by decide) (fun c15 => ?_) (fun c15 => ?_)
    · refine V_iconst hX (v := 0) dX0_sound_40 (by decide +kernel) ?_
      exact hR _ _ ⟨rfl, Or.inr ⟨rfl, fun h => c15 h.2.1⟩⟩ _ _ dX0_sound_41
    · refine V_aln hX 0 dX0_sound_18 rfl rfl ?_
      refine F_get hX 5 (by decide) q43 rfl dX0_sound_19 ?_
      refine V_iln hX 1 dX0_sound_22 rfl rfl ?_
      refine F_zld hX rfl (by first | assumption | omega) dX0_sound_23 ?_
      refine V_if_ne hX (tgt := 36) dX0_sound_24 (by decide) (fun c24 => ?_) (fun c24 => ?_)
      · refine V_iconst hX (v := 1) dX0_sound_36 (by decide +kernel) ?_
        refine V_goto hX (tgt := 41) dX0_sound_37 (by decide) ?_
        exact hR _ _ ⟨rfl, Or.inl ⟨rfl, c6, c15, Or.inl c24⟩⟩ _ _ dX0_sound_41
      · refine V_aln hX 0 dX0_sound_27 rfl rfl ?_
        refine F_get hX 6 (by decide) q44 rfl dX0_sound_28 ?_
        refine V_iln hX 1 dX0_sound_31 rfl rfl ?_
        refine F_zld hX rfl (by first | assumption | omega) dX0_sound_32 ?_
        refine V_if_eq hX (tgt := 40) dX0_sound_33 (by decide) (fun c33 => ?_) (fun c33 => ?_)
        · refine V_iconst hX (v := 0) dX0_sound_40 (by decide +kernel) ?_
          exact hR _ _ ⟨rfl, Or.inr ⟨rfl, fun h => by rcases h.2.2 with q | q; exact q c24; exact q c33⟩⟩ _ _ dX0_sound_41
        · refine V_iconst hX (v := 1) dX0_sound_36 (by decide +kernel) ?_
          refine V_goto hX (tgt := 41) dX0_sound_37 (by decide) ?_
          exact hR _ _ ⟨rfl, Or.inl ⟨rfl, c6, c15, Or.inr c33⟩⟩ _ _ dX0_sound_41
set_option maxHeartbeats 4000000 in
/-- inUse -/
theorem c_inUse (d : Nat → Nat) (σ : fSt) (e : Nat) (he : e < 16) : CFi d yX0_inUse cX0_inUse 4 .boolean (rmF 0 0) σ [.int (nI e)] (fun r σ' => σ = σ' ∧ bo r (usd σ e)) := by
  refine CMi.of (own := RX0) (by decide +kernel) rfl (Nat.le_of_ble_eq_true rfl) (by simp [Value.category]) (fun _ _ h => h.2.nar) ?_
  intro X hX hR
  have lp : ∀ (n i : Nat) (x : Int32), i ≤ 8 → 8 - i < n → (bo x (∃ b, b < i ∧ σ 12 b = nI e)) → V X (wF d σ) [.ref (d 19), .int (nI e), .int x, .int (nI i)] 4 [] := by
    intro n
    induction n with
    | zero => intro i x _ h; exact absurd h (Nat.not_lt_zero _)
    | succ n ih =>
      intro i x hi hn I
      refine V_iln hX 3 dX0_inUse_4 rfl rfl ?_
      refine V_bipush hX (v := nI 8) dX0_inUse_5 (by decide +kernel) ?_
      refine V_ic_geN hX (tgt := 36) dX0_inUse_7 (by decide) (by omega) (by omega) (fun c7 => ?_) (fun c7 => ?_)
      · have e8 : i = 8 := by omega
        subst e8
        refine V_iln hX 2 dX0_inUse_36 rfl rfl ?_
        exact hR _ _ ⟨rfl, I⟩ _ _ dX0_inUse_37
      · refine V_iln hX 2 dX0_inUse_10 rfl rfl ?_
        refine V_if_ne hX (tgt := 24) dX0_inUse_11 (by decide) (fun c11 => ?_) (fun c11 => ?_)
        · refine V_iconst hX (v := 1) dX0_inUse_24 (by decide +kernel) ?_
          refine V_goto hX (tgt := 29) dX0_inUse_25 (by decide) ?_
          refine V_isn hX 2 dX0_inUse_29 rfl (Nat.le_of_ble_eq_true rfl) (Nat.le_of_ble_eq_true rfl) ?_
          dsimp only [lput]
          refine V_inc hX dX0_inUse_30 (Nat.le_of_ble_eq_true rfl) rfl (nI_inc _) ?_
          dsimp only [lput]
          refine V_goto hX (tgt := 4) dX0_inUse_33 (by decide) ?_
          refine ih (i + 1) 1 (by omega) (by omega) (Or.inl ⟨rfl, ?_⟩)
          obtain ⟨b, hb, h⟩ := I.nz c11
          exact ⟨b, by omega, h⟩
        · refine V_aln hX 0 dX0_inUse_14 rfl rfl ?_
          refine F_get hX 12 (by decide) q50 rfl dX0_inUse_15 ?_
          refine V_iln hX 3 dX0_inUse_18 rfl rfl ?_
          refine F_ild hX rfl (by first | assumption | omega) dX0_inUse_19 ?_
          refine V_iln hX 1 dX0_inUse_20 rfl rfl ?_
          refine V_ic_ne hX (tgt := 28) dX0_inUse_21 (by decide) (fun c21 => ?_) (fun c21 => ?_)
          · refine V_iconst hX (v := 0) dX0_inUse_28 (by decide +kernel) ?_
            refine V_isn hX 2 dX0_inUse_29 rfl (Nat.le_of_ble_eq_true rfl) (Nat.le_of_ble_eq_true rfl) ?_
            dsimp only [lput]
            refine V_inc hX dX0_inUse_30 (Nat.le_of_ble_eq_true rfl) rfl (nI_inc _) ?_
            dsimp only [lput]
            refine V_goto hX (tgt := 4) dX0_inUse_33 (by decide) ?_
            refine ih (i + 1) 0 (by omega) (by omega) (Or.inr ⟨rfl, ?_⟩)
            rintro ⟨b, hb, h⟩
            by_cases q : b = i
            · rw [q] at h; exact c21 h
            · exact I.z c11 ⟨b, by omega, h⟩
          · refine V_iconst hX (v := 1) dX0_inUse_24 (by decide +kernel) ?_
            refine V_goto hX (tgt := 29) dX0_inUse_25 (by decide) ?_
            refine V_isn hX 2 dX0_inUse_29 rfl (Nat.le_of_ble_eq_true rfl) (Nat.le_of_ble_eq_true rfl) ?_
            dsimp only [lput]
            refine V_inc hX dX0_inUse_30 (Nat.le_of_ble_eq_true rfl) rfl (nI_inc _) ?_
            dsimp only [lput]
            refine V_goto hX (tgt := 4) dX0_inUse_33 (by decide) ?_
            exact ih (i + 1) 1 (by omega) (by omega) (Or.inl ⟨rfl, i, by omega, c21⟩)
  refine V_iconst hX (v := 0) dX0_inUse_0 (by decide +kernel) ?_
  refine V_isn hX 2 dX0_inUse_1 rfl (Nat.le_of_ble_eq_true rfl) (Nat.le_of_ble_eq_true rfl) ?_
  dsimp only [lput]
  refine V_iconst hX (v := 0) dX0_inUse_2 (by decide +kernel) ?_
  refine V_isn hX 3 dX0_inUse_3 rfl (Nat.le_of_ble_eq_true rfl) (Nat.le_of_ble_eq_true rfl) ?_
  dsimp only [lput]
  exact lp 9 0 0 (by omega) (by omega) (Or.inr ⟨rfl, fun ⟨b, hb, _⟩ => absurd hb (Nat.not_lt_zero _)⟩)
set_option maxHeartbeats 4000000 in
/-- cleanBlocks -/
theorem c_cleanBlocks (d : Nat → Nat) (σ : fSt)  : CFi d yX0_cleanBlocks cX0_cleanBlocks 3 .int (rmF 0 0) σ [] (fun r σ' => σ = σ' ∧ r = nI (cnt (fre σ) 16)) := by
  refine CMi.of (own := RX0) (by decide +kernel) rfl (Nat.le_of_ble_eq_true rfl) (by simp [Value.category]) (fun _ _ _ => rfl) ?_
  intro X hX hR
  have lp : ∀ (n i : Nat) (c : Nat), i ≤ 16 → 16 - i < n → (c = cnt (fre σ) i) → V X (wF d σ) [.ref (d 19), .int (nI c), .int (nI i)] 4 [] := by
    intro n
    induction n with
    | zero => intro i c _ h; exact absurd h (Nat.not_lt_zero _)
    | succ n ih =>
      intro i c hi hn I
      refine V_iln hX 2 dX0_cleanBlocks_4 rfl rfl ?_
      refine V_bipush hX (v := nI 16) dX0_cleanBlocks_5 (by decide +kernel) ?_
      refine V_ic_geN hX (tgt := 37) dX0_cleanBlocks_7 (by decide) (by omega) (by omega) (fun c7 => ?_) (fun c7 => ?_)
      · have e8 : i = 16 := by omega
        subst e8
        refine V_iln hX 1 dX0_cleanBlocks_37 rfl rfl ?_
        exact hR _ _ ⟨rfl, by rw [I]⟩ _ _ dX0_cleanBlocks_38
      · refine V_aln hX 0 dX0_cleanBlocks_10 rfl rfl ?_
        refine F_get hX 0 (by decide) q38 rfl dX0_cleanBlocks_11 ?_
        refine V_iln hX 2 dX0_cleanBlocks_14 rfl rfl ?_
        refine F_zld hX rfl (by first | assumption | omega) dX0_cleanBlocks_15 ?_
        refine V_if_eq hX (tgt := 31) dX0_cleanBlocks_16 (by decide) (fun c16 => ?_) (fun c16 => ?_)
        · refine V_inc hX dX0_cleanBlocks_31 (Nat.le_of_ble_eq_true rfl) rfl (nI_inc _) ?_
          dsimp only [lput]
          refine V_goto hX (tgt := 4) dX0_cleanBlocks_34 (by decide) ?_
          exact ih (i + 1) c (by omega) (by omega) (by rw [I, cnt, ifc_f (fun h => h.1 c16), Nat.add_zero])
        · refine V_aln hX 0 dX0_cleanBlocks_19 rfl rfl ?_
          refine F_get hX 1 (by decide) q39 rfl dX0_cleanBlocks_20 ?_
          refine V_iln hX 2 dX0_cleanBlocks_23 rfl rfl ?_
          refine F_zld hX rfl (by first | assumption | omega) dX0_cleanBlocks_24 ?_
          refine V_if_ne hX (tgt := 31) dX0_cleanBlocks_25 (by decide) (fun c25 => ?_) (fun c25 => ?_)
          · refine V_inc hX dX0_cleanBlocks_31 (Nat.le_of_ble_eq_true rfl) rfl (nI_inc _) ?_
            dsimp only [lput]
            refine V_goto hX (tgt := 4) dX0_cleanBlocks_34 (by decide) ?_
            exact ih (i + 1) c (by omega) (by omega) (by rw [I, cnt, ifc_f (fun h => c25 h.2), Nat.add_zero])
          · refine V_inc hX dX0_cleanBlocks_28 (Nat.le_of_ble_eq_true rfl) rfl (nI_inc _) ?_
            dsimp only [lput]
            refine V_inc hX dX0_cleanBlocks_31 (Nat.le_of_ble_eq_true rfl) rfl (nI_inc _) ?_
            dsimp only [lput]
            refine V_goto hX (tgt := 4) dX0_cleanBlocks_34 (by decide) ?_
            exact ih (i + 1) (c + 1) (by omega) (by omega) (by rw [I, cnt, ifc_t ⟨c16, c25⟩])
  refine V_iconst hX (v := 0) dX0_cleanBlocks_0 (by decide +kernel) ?_
  refine V_isn hX 1 dX0_cleanBlocks_1 rfl (Nat.le_of_ble_eq_true rfl) (Nat.le_of_ble_eq_true rfl) ?_
  dsimp only [lput]
  refine V_iconst hX (v := 0) dX0_cleanBlocks_2 (by decide +kernel) ?_
  refine V_isn hX 2 dX0_cleanBlocks_3 rfl (Nat.le_of_ble_eq_true rfl) (Nat.le_of_ble_eq_true rfl) ?_
  dsimp only [lput]
  exact lp 17 0 0 (by omega) (by omega) rfl
set_option maxHeartbeats 4000000 in
/-- erase -/
theorem c_erase (d : Nat → Nat) (σ : fSt) (e : Nat) (he : e < 16) : CFv d yX0_erase cX0_erase 2 (rmF 0 0) σ [.int (nI e)] (fun σ' => σ' = erF σ e) := by
  refine CMv.of (own := RX0) (by decide +kernel) rfl (Nat.le_of_ble_eq_true rfl) (by simp [Value.category]) ?_
  intro X hX hR
  refine V_aln hX 0 dX0_erase_0 rfl rfl ?_
  refine F_get hX 11 (by decide) q49 rfl dX0_erase_1 ?_
  refine V_if_eq hX (tgt := 38) dX0_erase_4 (by decide) (fun c4 => ?_) (fun c4 => ?_)
  · refine V_aln hX 0 dX0_erase_38 rfl rfl ?_
    refine F_get hX 0 (by decide) q38 rfl dX0_erase_39 ?_
    refine V_iln hX 1 dX0_erase_42 rfl rfl ?_
    refine V_iconst hX (v := 1) dX0_erase_43 (by decide +kernel) ?_
    refine F_zst hX rfl (by first | assumption | omega) (by decide +kernel) dX0_erase_44 ?_
    refine V_aln hX 0 dX0_erase_45 rfl rfl ?_
    refine F_get hX 2 (by decide) q40 rfl dX0_erase_46 ?_
    refine V_iln hX 1 dX0_erase_49 rfl rfl ?_
    refine V_aln hX 0 dX0_erase_50 rfl rfl ?_
    refine F_get hX 2 (by decide) q40 rfl dX0_erase_51 ?_
    refine V_iln hX 1 dX0_erase_54 rfl rfl ?_
    refine F_ild hX rfl (by first | assumption | omega) dX0_erase_55 ?_
    refine V_iconst hX (v := 1) dX0_erase_56 (by decide +kernel) ?_
    refine V_iadd hX dX0_erase_57 ?_
    refine F_ist hX rfl (by first | assumption | omega) dX0_erase_58 ?_
    exact hR _ (by rw [erF, if_neg (fun h => h.1 c4)]; rfl) _ _ dX0_erase_59
  · refine V_aln hX 0 dX0_erase_7 rfl rfl ?_
    refine F_get hX 10 (by decide) q48 rfl dX0_erase_8 ?_
    refine V_iconst hX (v := nI 3) dX0_erase_11 (by decide +kernel) ?_
    refine V_ic_ge hX (tgt := 38) dX0_erase_12 (by decide) (fun c12 => ?_) (fun c12 => ?_)
    · refine V_aln hX 0 dX0_erase_38 rfl rfl ?_
      refine F_get hX 0 (by decide) q38 rfl dX0_erase_39 ?_
      refine V_iln hX 1 dX0_erase_42 rfl rfl ?_
      refine V_iconst hX (v := 1) dX0_erase_43 (by decide +kernel) ?_
      refine F_zst hX rfl (by first | assumption | omega) (by decide +kernel) dX0_erase_44 ?_
      refine V_aln hX 0 dX0_erase_45 rfl rfl ?_
      refine F_get hX 2 (by decide) q40 rfl dX0_erase_46 ?_
      refine V_iln hX 1 dX0_erase_49 rfl rfl ?_
      refine V_aln hX 0 dX0_erase_50 rfl rfl ?_
      refine F_get hX 2 (by decide) q40 rfl dX0_erase_51 ?_
      refine V_iln hX 1 dX0_erase_54 rfl rfl ?_
      refine F_ild hX rfl (by first | assumption | omega) dX0_erase_55 ?_
      refine V_iconst hX (v := 1) dX0_erase_56 (by decide +kernel) ?_
      refine V_iadd hX dX0_erase_57 ?_
      refine F_ist hX rfl (by first | assumption | omega) dX0_erase_58 ?_
      exact hR _ (by rw [erF, if_neg (fun h => h.2 c12)]; rfl) _ _ dX0_erase_59
    · refine V_aln hX 0 dX0_erase_15 rfl rfl ?_
      refine F_get hX 1 (by decide) q39 rfl dX0_erase_16 ?_
      refine V_iln hX 1 dX0_erase_19 rfl rfl ?_
      refine V_iconst hX (v := 1) dX0_erase_20 (by decide +kernel) ?_
      refine F_zst hX rfl (by first | assumption | omega) (by decide +kernel) dX0_erase_21 ?_
      refine V_aln hX 0 dX0_erase_22 rfl rfl ?_
      refine V_dup hX dX0_erase_23 rfl ?_
      refine F_get hX 10 (by decide) q48 rfl dX0_erase_24 ?_
      refine V_iconst hX (v := 1) dX0_erase_27 (by decide +kernel) ?_
      refine V_iadd hX dX0_erase_28 ?_
      refine F_putI hX 10 (by decide) q48 rfl rfl rfl dX0_erase_29 ?_
      refine V_aln hX 0 dX0_erase_32 rfl rfl ?_
      refine V_iconst hX (v := 0) dX0_erase_33 (by decide +kernel) ?_
      refine F_putZ hX 11 (by decide) q49 rfl rfl (by decide +kernel) (by decide +kernel) rfl dX0_erase_34 ?_
      exact hR _ (by rw [erF, if_pos ⟨c4, c12⟩]; rfl) _ _ dX0_erase_37
set_option maxHeartbeats 4000000 in
/-- pick -/
theorem c_pick (d : Nat → Nat) (σ : fSt) (g : Int32) : CFi d yX0_pick cX0_pick 5 .int (rmF 0 0) σ [.int g] (fun r σ' => σ = σ' ∧ ((r = -1 ∧ ∀ j, j < 16 → ¬ fre σ j) ∨ ∃ j, j < 16 ∧ fre σ j ∧ r = nI j)) := by
  refine CMi.of (own := RX0) (by decide +kernel) rfl (Nat.le_of_ble_eq_true rfl) (by simp [Value.category]) (fun _ _ _ => rfl) ?_
  intro X hX hR
  have lp : ∀ (n i : Nat) (x : Int32), i ≤ 16 → 16 - i < n → ((x = -1 ∧ ∀ j, j < i → ¬ fre σ j) ∨ ∃ j, j < i ∧ fre σ j ∧ x = nI j) → V X (wF d σ) [.ref (d 19), .int g, .int x, .int (nI i)] 4 [] := by
    intro n
    induction n with
    | zero => intro i x _ h; exact absurd h (Nat.not_lt_zero _)
    | succ n ih =>
      intro i x hi hn I
      refine V_iln hX 3 dX0_pick_4 rfl rfl ?_
      refine V_bipush hX (v := nI 16) dX0_pick_5 (by decide +kernel) ?_
      refine V_ic_geN hX (tgt := 89) dX0_pick_7 (by decide) (by omega) (by omega) (fun c7 => ?_) (fun c7 => ?_)
      · have e8 : i = 16 := by omega
        subst e8
        refine V_iln hX 2 dX0_pick_89 rfl rfl ?_
        exact hR _ _ ⟨rfl, I⟩ _ _ dX0_pick_90
      · refine V_aln hX 0 dX0_pick_10 rfl rfl ?_
        refine F_get hX 0 (by decide) q38 rfl dX0_pick_11 ?_
        refine V_iln hX 3 dX0_pick_14 rfl rfl ?_
        refine F_zld hX rfl (by first | assumption | omega) dX0_pick_15 ?_
        refine V_if_eq hX (tgt := 83) dX0_pick_16 (by decide) (fun c16 => ?_) (fun c16 => ?_)
        · refine V_inc hX dX0_pick_83 (Nat.le_of_ble_eq_true rfl) rfl (nI_inc _) ?_
          dsimp only [lput]
          refine V_goto hX (tgt := 4) dX0_pick_86 (by decide) ?_
          refine V_take 4 ?_
          refine ih (i + 1) x (by omega) (by omega) ?_
          have hno : ¬ fre σ i := fun h => h.1 c16
          rcases I with ⟨e0, I⟩ | ⟨j, hj, hfj, e0⟩
          · refine Or.inl ⟨e0, fun j hj h => ?_⟩
            by_cases q : j = i
            · rw [q] at h; exact hno h
            · exact I j (by omega) h
          · exact Or.inr ⟨j, by omega, hfj, e0⟩
        · refine V_aln hX 0 dX0_pick_19 rfl rfl ?_
          refine F_get hX 1 (by decide) q39 rfl dX0_pick_20 ?_
          refine V_iln hX 3 dX0_pick_23 rfl rfl ?_
          refine F_zld hX rfl (by first | assumption | omega) dX0_pick_24 ?_
          refine V_if_ne hX (tgt := 83) dX0_pick_25 (by decide) (fun c25 => ?_) (fun c25 => ?_)
          · refine V_inc hX dX0_pick_83 (Nat.le_of_ble_eq_true rfl) rfl (nI_inc _) ?_
            dsimp only [lput]
            refine V_goto hX (tgt := 4) dX0_pick_86 (by decide) ?_
            refine V_take 4 ?_
            refine ih (i + 1) x (by omega) (by omega) ?_
            have hno : ¬ fre σ i := fun h => c25 h.2
            rcases I with ⟨e0, I⟩ | ⟨j, hj, hfj, e0⟩
            · refine Or.inl ⟨e0, fun j hj h => ?_⟩
              by_cases q : j = i
              · rw [q] at h; exact hno h
              · exact I j (by omega) h
            · exact Or.inr ⟨j, by omega, hfj, e0⟩
          · refine V_iln hX 2 dX0_pick_28 rfl rfl ?_
            refine V_if_lt hX (tgt := 69) dX0_pick_29 (by decide) (fun c29 => ?_) (fun c29 => ?_)
            · refine V_iconst hX (v := 1) dX0_pick_69 (by decide +kernel) ?_
              refine V_goto hX (tgt := 74) dX0_pick_70 (by decide) ?_
              refine V_is hX dX0_pick_74 (Nat.le_of_ble_eq_true rfl) (Nat.le_of_ble_eq_true rfl) ?_
              dsimp only [lput]
              refine V_il hX dX0_pick_76 rfl ?_
              refine V_if_eq hX (tgt := 83) dX0_pick_78 (by decide) (fun c78 => ?_) (fun c78 => ?_)
              · exact absurd c78 (by decide)
              · refine V_iln hX 3 dX0_pick_81 rfl rfl ?_
                refine V_isn hX 2 dX0_pick_82 rfl (Nat.le_of_ble_eq_true rfl) (Nat.le_of_ble_eq_true rfl) ?_
                dsimp only [lput]
                refine V_inc hX dX0_pick_83 (Nat.le_of_ble_eq_true rfl) rfl (nI_inc _) ?_
                dsimp only [lput]
                refine V_goto hX (tgt := 4) dX0_pick_86 (by decide) ?_
                refine V_take 4 ?_
                exact ih (i + 1) (nI i) (by omega) (by omega) (Or.inr ⟨i, by omega, ⟨c16, c25⟩, rfl⟩)
            · obtain ⟨j, hj, hfj, rfl⟩ : ∃ j, j < i ∧ fre σ j ∧ x = nI j := by
                rcases I with ⟨rfl, _⟩ | h
                · exact absurd neg1_lt c29
                · exact h
              refine V_iln hX 1 dX0_pick_32 rfl rfl ?_
              refine V_if_eq hX (tgt := 54) dX0_pick_33 (by decide) (fun c33 => ?_) (fun c33 => ?_)
              · refine V_aln hX 0 dX0_pick_54 rfl rfl ?_
                refine F_get hX 2 (by decide) q40 rfl dX0_pick_55 ?_
                refine V_iln hX 3 dX0_pick_58 rfl rfl ?_
                refine F_ild hX rfl (by first | assumption | omega) dX0_pick_59 ?_
                refine V_aln hX 0 dX0_pick_60 rfl rfl ?_
                refine F_get hX 2 (by decide) q40 rfl dX0_pick_61 ?_
                refine V_iln hX 2 dX0_pick_64 rfl rfl ?_
                refine F_ild hX rfl (by first | assumption | omega) dX0_pick_65 ?_
                refine V_ic_ge hX (tgt := 73) dX0_pick_66 (by decide) (fun c66 => ?_) (fun c66 => ?_)
                · refine V_iconst hX (v := 0) dX0_pick_73 (by decide +kernel) ?_
                  refine V_is hX dX0_pick_74 (Nat.le_of_ble_eq_true rfl) (Nat.le_of_ble_eq_true rfl) ?_
                  dsimp only [lput]
                  refine V_il hX dX0_pick_76 rfl ?_
                  refine V_if_eq hX (tgt := 83) dX0_pick_78 (by decide) (fun c78 => ?_) (fun c78 => ?_)
                  · refine V_inc hX dX0_pick_83 (Nat.le_of_ble_eq_true rfl) rfl (nI_inc _) ?_
                    dsimp only [lput]
                    refine V_goto hX (tgt := 4) dX0_pick_86 (by decide) ?_
                    refine V_take 4 ?_
                    exact ih (i + 1) (nI j) (by omega) (by omega) (Or.inr ⟨j, by omega, hfj, rfl⟩)
                  · exact absurd rfl c78
                · refine V_iconst hX (v := 1) dX0_pick_69 (by decide +kernel) ?_
                  refine V_goto hX (tgt := 74) dX0_pick_70 (by decide) ?_
                  refine V_is hX dX0_pick_74 (Nat.le_of_ble_eq_true rfl) (Nat.le_of_ble_eq_true rfl) ?_
                  dsimp only [lput]
                  refine V_il hX dX0_pick_76 rfl ?_
                  refine V_if_eq hX (tgt := 83) dX0_pick_78 (by decide) (fun c78 => ?_) (fun c78 => ?_)
                  · exact absurd c78 (by decide)
                  · refine V_iln hX 3 dX0_pick_81 rfl rfl ?_
                    refine V_isn hX 2 dX0_pick_82 rfl (Nat.le_of_ble_eq_true rfl) (Nat.le_of_ble_eq_true rfl) ?_
                    dsimp only [lput]
                    refine V_inc hX dX0_pick_83 (Nat.le_of_ble_eq_true rfl) rfl (nI_inc _) ?_
                    dsimp only [lput]
                    refine V_goto hX (tgt := 4) dX0_pick_86 (by decide) ?_
                    refine V_take 4 ?_
                    exact ih (i + 1) (nI i) (by omega) (by omega) (Or.inr ⟨i, by omega, ⟨c16, c25⟩, rfl⟩)
              · refine V_aln hX 0 dX0_pick_36 rfl rfl ?_
                refine F_get hX 2 (by decide) q40 rfl dX0_pick_37 ?_
                refine V_iln hX 3 dX0_pick_40 rfl rfl ?_
                refine F_ild hX rfl (by first | assumption | omega) dX0_pick_41 ?_
                refine V_aln hX 0 dX0_pick_42 rfl rfl ?_
                refine F_get hX 2 (by decide) q40 rfl dX0_pick_43 ?_
                refine V_iln hX 2 dX0_pick_46 rfl rfl ?_
                refine F_ild hX rfl (by first | assumption | omega) dX0_pick_47 ?_
                refine V_ic_le hX (tgt := 73) dX0_pick_48 (by decide) (fun c48 => ?_) (fun c48 => ?_)
                · refine V_iconst hX (v := 0) dX0_pick_73 (by decide +kernel) ?_
                  refine V_is hX dX0_pick_74 (Nat.le_of_ble_eq_true rfl) (Nat.le_of_ble_eq_true rfl) ?_
                  dsimp only [lput]
                  refine V_il hX dX0_pick_76 rfl ?_
                  refine V_if_eq hX (tgt := 83) dX0_pick_78 (by decide) (fun c78 => ?_) (fun c78 => ?_)
                  · refine V_inc hX dX0_pick_83 (Nat.le_of_ble_eq_true rfl) rfl (nI_inc _) ?_
                    dsimp only [lput]
                    refine V_goto hX (tgt := 4) dX0_pick_86 (by decide) ?_
                    refine V_take 4 ?_
                    exact ih (i + 1) (nI j) (by omega) (by omega) (Or.inr ⟨j, by omega, hfj, rfl⟩)
                  · exact absurd rfl c78
                · refine V_goto hX (tgt := 69) dX0_pick_51 (by decide) ?_
                  refine V_iconst hX (v := 1) dX0_pick_69 (by decide +kernel) ?_
                  refine V_goto hX (tgt := 74) dX0_pick_70 (by decide) ?_
                  refine V_is hX dX0_pick_74 (Nat.le_of_ble_eq_true rfl) (Nat.le_of_ble_eq_true rfl) ?_
                  dsimp only [lput]
                  refine V_il hX dX0_pick_76 rfl ?_
                  refine V_if_eq hX (tgt := 83) dX0_pick_78 (by decide) (fun c78 => ?_) (fun c78 => ?_)
                  · exact absurd c78 (by decide)
                  · refine V_iln hX 3 dX0_pick_81 rfl rfl ?_
                    refine V_isn hX 2 dX0_pick_82 rfl (Nat.le_of_ble_eq_true rfl) (Nat.le_of_ble_eq_true rfl) ?_
                    dsimp only [lput]
                    refine V_inc hX dX0_pick_83 (Nat.le_of_ble_eq_true rfl) rfl (nI_inc _) ?_
                    dsimp only [lput]
                    refine V_goto hX (tgt := 4) dX0_pick_86 (by decide) ?_
                    refine V_take 4 ?_
                    exact ih (i + 1) (nI i) (by omega) (by omega) (Or.inr ⟨i, by omega, ⟨c16, c25⟩, rfl⟩)
  refine V_iconst hX (v := (-1)) dX0_pick_0 (by decide +kernel) ?_
  refine V_isn hX 2 dX0_pick_1 rfl (Nat.le_of_ble_eq_true rfl) (Nat.le_of_ble_eq_true rfl) ?_
  dsimp only [lput]
  refine V_iconst hX (v := 0) dX0_pick_2 (by decide +kernel) ?_
  refine V_isn hX 3 dX0_pick_3 rfl (Nat.le_of_ble_eq_true rfl) (Nat.le_of_ble_eq_true rfl) ?_
  dsimp only [lput]
  exact lp 17 0 (-1) (by omega) (by omega) (Or.inl ⟨rfl, fun j hj => absurd hj (Nat.not_lt_zero _)⟩)
set_option maxHeartbeats 4000000 in
/-- writeHeader -/
theorem c_writeHeader (d : Nat → Nat) (σ : fSt) (e : Nat) (b g : Int32) (he : e < 16) (hg : vp_nar .boolean g = g) : CFv d yX0_writeHeader cX0_writeHeader 4 (rmF 0 0) σ [.int (nI e), .int b, .int g] (fun σ' => σ' = whF σ e b g) := by
  refine CMv.of (own := RX0) (by decide +kernel) rfl (Nat.le_of_ble_eq_true rfl) (by simp [Value.category]) ?_
  intro X hX hR
  refine V_aln hX 0 dX0_writeHeader_0 rfl rfl ?_
  refine F_get hX 0 (by decide) q38 rfl dX0_writeHeader_1 ?_
  refine V_iln hX 1 dX0_writeHeader_4 rfl rfl ?_
  refine V_iconst hX (v := 0) dX0_writeHeader_5 (by decide +kernel) ?_
  refine F_zst hX rfl (by first | assumption | omega) (by decide +kernel) dX0_writeHeader_6 ?_
  refine V_aln hX 0 dX0_writeHeader_7 rfl rfl ?_
  refine F_get hX 3 (by decide) q41 rfl dX0_writeHeader_8 ?_
  refine V_iln hX 1 dX0_writeHeader_11 rfl rfl ?_
  refine V_iln hX 2 dX0_writeHeader_12 rfl rfl ?_
  refine F_ist hX rfl (by first | assumption | omega) dX0_writeHeader_13 ?_
  refine V_aln hX 0 dX0_writeHeader_14 rfl rfl ?_
  refine F_get hX 4 (by decide) q42 rfl dX0_writeHeader_15 ?_
  refine V_iln hX 1 dX0_writeHeader_18 rfl rfl ?_
  refine V_aln hX 0 dX0_writeHeader_19 rfl rfl ?_
  refine F_get hX 13 (by decide) q51 rfl dX0_writeHeader_20 ?_
  refine F_ist hX rfl (by first | assumption | omega) dX0_writeHeader_23 ?_
  refine V_aln hX 0 dX0_writeHeader_24 rfl rfl ?_
  refine V_dup hX dX0_writeHeader_25 rfl ?_
  refine F_get hX 13 (by decide) q51 rfl dX0_writeHeader_26 ?_
  refine V_iconst hX (v := 1) dX0_writeHeader_29 (by decide +kernel) ?_
  refine V_iadd hX dX0_writeHeader_30 ?_
  refine F_putI hX 13 (by decide) q51 rfl rfl rfl dX0_writeHeader_31 ?_
  refine V_aln hX 0 dX0_writeHeader_34 rfl rfl ?_
  refine F_get hX 5 (by decide) q43 rfl dX0_writeHeader_35 ?_
  refine V_iln hX 1 dX0_writeHeader_38 rfl rfl ?_
  refine V_iln hX 3 dX0_writeHeader_39 rfl rfl ?_
  refine F_zst hX rfl (by first | assumption | omega) hg dX0_writeHeader_40 ?_
  refine V_aln hX 0 dX0_writeHeader_41 rfl rfl ?_
  refine F_get hX 6 (by decide) q44 rfl dX0_writeHeader_42 ?_
  refine V_iln hX 1 dX0_writeHeader_45 rfl rfl ?_
  refine V_iconst hX (v := 0) dX0_writeHeader_46 (by decide +kernel) ?_
  refine F_zst hX rfl (by first | assumption | omega) (by decide +kernel) dX0_writeHeader_47 ?_
  refine V_aln hX 0 dX0_writeHeader_48 rfl rfl ?_
  refine F_get hX 7 (by decide) q45 rfl dX0_writeHeader_49 ?_
  refine V_iln hX 1 dX0_writeHeader_52 rfl rfl ?_
  refine V_iconst hX (v := 0) dX0_writeHeader_53 (by decide +kernel) ?_
  refine F_zst hX rfl (by first | assumption | omega) (by decide +kernel) dX0_writeHeader_54 ?_
  refine V_aln hX 0 dX0_writeHeader_55 rfl rfl ?_
  refine F_get hX 8 (by decide) q46 rfl dX0_writeHeader_56 ?_
  refine V_iln hX 1 dX0_writeHeader_59 rfl rfl ?_
  refine V_iconst hX (v := 0) dX0_writeHeader_60 (by decide +kernel) ?_
  refine F_ist hX rfl (by first | assumption | omega) dX0_writeHeader_61 ?_
  exact hR _ rfl _ _ dX0_writeHeader_62
set_option maxHeartbeats 4000000 in
/-- writeWord -/
theorem c_writeWord (d : Nat → Nat) (σ : fSt) (e f : Nat) (x : Int32) (he : e < 16) (hf : σ 8 e = nI f) (hf4 : f < 4) : CFv d yX0_writeWord cX0_writeWord 3 (rmF 0 0) σ [.int (nI e), .int x] (fun σ' => σ' = wwF σ e f x) := by
  refine CMv.of (own := RX0) (by decide +kernel) rfl (Nat.le_of_ble_eq_true rfl) (by simp [Value.category]) ?_
  intro X hX hR
  refine V_aln hX 0 dX0_writeWord_0 rfl rfl ?_
  refine F_get hX 9 (by decide) q47 rfl dX0_writeWord_1 ?_
  refine V_iln hX 1 dX0_writeWord_4 rfl rfl ?_
  refine V_iconst hX (v := nI 4) dX0_writeWord_5 (by decide +kernel) ?_
  refine V_imul hX dX0_writeWord_6 ?_
  refine V_aln hX 0 dX0_writeWord_7 rfl rfl ?_
  refine F_get hX 8 (by decide) q46 rfl dX0_writeWord_8 ?_
  refine V_iln hX 1 dX0_writeWord_11 rfl rfl ?_
  refine F_ild hX rfl (by first | assumption | omega) dX0_writeWord_12 ?_
  refine V_top hf ?_
  refine V_iadd hX dX0_writeWord_13 ?_
  refine V_top (y := nI (e * 4 + f)) (by simp only [pk_mul, nI_add, nI_1]) ?_
  refine V_iln hX 2 dX0_writeWord_14 rfl rfl ?_
  refine F_ist hX rfl (show e * 4 + f < 64 by omega) dX0_writeWord_15 ?_
  refine V_aln hX 0 dX0_writeWord_16 rfl rfl ?_
  refine F_get hX 8 (by decide) q46 rfl dX0_writeWord_17 ?_
  refine V_iln hX 1 dX0_writeWord_20 rfl rfl ?_
  refine V_aln hX 0 dX0_writeWord_21 rfl rfl ?_
  refine F_get hX 8 (by decide) q46 rfl dX0_writeWord_22 ?_
  refine V_iln hX 1 dX0_writeWord_25 rfl rfl ?_
  refine F_ild hX rfl (by first | assumption | omega) dX0_writeWord_26 ?_
  refine V_top (y := nI f) hf ?_
  refine V_iconst hX (v := 1) dX0_writeWord_27 (by decide +kernel) ?_
  refine V_iadd hX dX0_writeWord_28 ?_
  refine V_top (y := nI (f + 1)) (by simp only [pk_mul, nI_add, nI_1]) ?_
  refine F_ist hX rfl (by first | assumption | omega) dX0_writeWord_29 ?_
  exact hR _ rfl _ _ dX0_writeWord_30
set_option maxHeartbeats 4000000 in
/-- adopt -/
theorem c_adopt (d : Nat → Nat) (σ : fSt) (b e : Nat) (hb : b < 8) (he : e < 16) : CFv d yX0_adopt cX0_adopt 3 (rmF 0 0) σ [.int (nI b), .int (nI e)] (fun σ' => σ' = adF σ b e) := by
  refine CMv.of (own := RX0) (by decide +kernel) rfl (Nat.le_of_ble_eq_true rfl) (by simp [Value.category]) ?_
  intro X hX hR
  refine V_aln hX 0 dX0_adopt_0 rfl rfl ?_
  refine F_get hX 12 (by decide) q50 rfl dX0_adopt_1 ?_
  refine V_iln hX 1 dX0_adopt_4 rfl rfl ?_
  refine V_aln hX 0 dX0_adopt_5 rfl rfl ?_
  refine F_get hX 8 (by decide) q46 rfl dX0_adopt_6 ?_
  refine V_iln hX 2 dX0_adopt_9 rfl rfl ?_
  refine F_ild hX rfl (by first | assumption | omega) dX0_adopt_10 ?_
  refine V_if_ne hX (tgt := 18) dX0_adopt_11 (by decide) (fun c11 => ?_) (fun c11 => ?_)
  · refine V_iln hX 2 dX0_adopt_18 rfl rfl ?_
    refine F_ist hX rfl (by first | assumption | omega) dX0_adopt_19 ?_
    exact hR _ (by rw [adF, if_neg c11]) _ _ dX0_adopt_20
  · refine V_iconst hX (v := (-1)) dX0_adopt_14 (by decide +kernel) ?_
    refine V_goto hX (tgt := 19) dX0_adopt_15 (by decide) ?_
    refine F_ist hX rfl (by first | assumption | omega) dX0_adopt_19 ?_
    exact hR _ (by rw [adF, if_pos c11]) _ _ dX0_adopt_20
set_option maxHeartbeats 4000000 in
/-- sizeOf -/
theorem c_sizeOf (d : Nat → Nat) (σ : fSt) (b : Nat) (hb : b < 8) (hh : hmOk σ b) : CFi d yX0_sizeOf cX0_sizeOf 2 .int (rmF 0 0) σ [.int (nI b)] (fun r σ' => σ = σ' ∧ r = szF σ b) := by
  refine CMi.of (own := RX0) (by decide +kernel) rfl (Nat.le_of_ble_eq_true rfl) (by simp [Value.category]) (fun _ _ _ => rfl) ?_
  intro X hX hR
  refine V_aln hX 0 dX0_sizeOf_0 rfl rfl ?_
  refine F_get hX 12 (by decide) q50 rfl dX0_sizeOf_1 ?_
  refine V_iln hX 1 dX0_sizeOf_4 rfl rfl ?_
  refine F_ild hX rfl (by first | assumption | omega) dX0_sizeOf_5 ?_
  refine V_if_ge hX (tgt := 13) dX0_sizeOf_6 (by decide) (fun c6 => ?_) (fun c6 => ?_)
  · obtain ⟨e, he, h12⟩ : ∃ e, e < 16 ∧ σ 12 b = nI e := by
      rcases hh with h | h
      · rw [h] at c6; exact absurd c6 (by decide)
      · exact h
    refine V_aln hX 0 dX0_sizeOf_13 rfl rfl ?_
    refine F_get hX 8 (by decide) q46 rfl dX0_sizeOf_14 ?_
    refine V_aln hX 0 dX0_sizeOf_17 rfl rfl ?_
    refine F_get hX 12 (by decide) q50 rfl dX0_sizeOf_18 ?_
    refine V_iln hX 1 dX0_sizeOf_21 rfl rfl ?_
    refine F_ild hX rfl (by first | assumption | omega) dX0_sizeOf_22 ?_
    refine V_top h12 ?_
    refine F_ild hX rfl (by first | assumption | omega) dX0_sizeOf_23 ?_
    exact hR _ _ ⟨rfl, by rw [szF, h12, if_neg (nI_pos (by omega)), nI_clamp (by omega)]⟩ _ _ dX0_sizeOf_24
  · refine V_iconst hX (v := 0) dX0_sizeOf_9 (by decide +kernel) ?_
    refine V_goto hX (tgt := 24) dX0_sizeOf_10 (by decide) ?_
    exact hR _ _ ⟨rfl, by rw [szF, if_pos (Int32.not_le.mp c6)]⟩ _ _ dX0_sizeOf_24
end
section
set_option maxRecDepth 100000
/-! counting -/
theorem cnt_le (p : Nat → Prop) (n : Nat) : cnt p n ≤ n := by
  induction n with
  | zero => exact Nat.le_refl _
  | succ n ih =>
    by_cases h : p n
    · rw [cnt, ifc_t h]; omega
    · rw [cnt, ifc_f h]; omega
theorem cnt_mono {p q : Nat → Prop} {n : Nat} (h : ∀ e, e < n → p e → q e) : cnt p n ≤ cnt q n := by
  induction n with
  | zero => exact Nat.le_refl _
  | succ n ih =>
    have ih := ih (fun e he => h e (by omega))
    by_cases hp : p n
    · rw [cnt, cnt, ifc_t hp, ifc_t (h n (by omega) hp)]; omega
    · rw [cnt, cnt, ifc_f hp]; omega
theorem cnt_or (p q : Nat → Prop) (n : Nat) : cnt (fun e => p e ∨ q e) n ≤ cnt p n + cnt q n := by
  induction n with
  | zero => exact Nat.le_refl _
  | succ n ih =>
    by_cases hp : p n
    · rw [cnt, cnt, cnt, ifc_t (Or.inl hp), ifc_t hp]; omega
    · by_cases hq : q n
      · rw [cnt, cnt, cnt, ifc_t (Or.inr hq), ifc_t hq]; omega
      · rw [cnt, cnt, cnt, ifc_f (fun h => h.elim hp hq)]; omega
theorem cnt_all {p : Nat → Prop} {n : Nat} (h : ∀ e, e < n → p e) : cnt p n = n := by
  induction n with
  | zero => rfl
  | succ n ih => rw [cnt, ifc_t (h n (by omega)), ih (fun e he => h e (by omega))]
theorem cnt_none {p : Nat → Prop} {n : Nat} (h : ∀ e, e < n → ¬ p e) : cnt p n = 0 := by
  induction n with
  | zero => rfl
  | succ n ih => rw [cnt, ifc_f (h n (by omega)), ih (fun e he => h e (by omega))]
theorem cnt_pos {p : Nat → Prop} {n : Nat} (h : 0 < cnt p n) : ∃ e, e < n ∧ p e := Classical.byContradiction fun q => by
  have := cnt_none (p := p) (n := n) (fun e he hp => q ⟨e, he, hp⟩)
  omega
theorem cnt_one {p : Nat → Prop} (n : Nat) (h : ∀ e e', e < n → e' < n → p e → p e' → e = e') : cnt p n ≤ 1 := by
  induction n with
  | zero => exact Nat.zero_le _
  | succ n ih =>
    by_cases hp : p n
    · have h0 : cnt p n = 0 := cnt_none (fun e he hpe => by
        have := h e n (by omega) (by omega) hpe hp
        omega)
      rw [cnt, ifc_t hp, h0]; omega
    · have := ih (fun e e' he he' => h e e' (by omega) (by omega))
      rw [cnt, ifc_f hp]; omega
theorem cnt_lt {p q : Nat → Prop} {n e : Nat} (he : e < n) (hp : p e) (hq : ¬ q e) (h : ∀ e', e' < n → q e' → p e') : cnt q n + 1 ≤ cnt p n := by
  induction n with
  | zero => omega
  | succ n ih =>
    by_cases heq : e = n
    · subst heq
      have := cnt_mono (p := q) (q := p) (n := e) (fun e' h' => h e' (by omega))
      rw [cnt, cnt, ifc_f hq, ifc_t hp]; omega
    · have ih := ih (by omega) (fun e' h' => h e' (by omega))
      by_cases hqn : q n
      · rw [cnt, cnt, ifc_t hqn, ifc_t (h n (by omega) hqn)]; omega
      · rw [cnt, cnt, ifc_f hqn]; omega
theorem cnt_two {p q r : Nat → Prop} {n : Nat} (h : ∀ e, e < n → p e → q e ∨ r e) : cnt p n ≤ cnt q n + cnt r n := Nat.le_trans (cnt_mono h) (cnt_or q r n)
theorem cnt_eq {p q : Nat → Prop} {n : Nat} (h : ∀ e, e < n → (p e ↔ q e)) : cnt p n = cnt q n := Nat.le_antisymm (cnt_mono fun e he => (h e he).mp) (cnt_mono fun e he => (h e he).mpr)
/-! numbers -/
theorem nI_inj {a b : Nat} (h : nI a = nI b) (ha : a < 2 ^ 31) (hb : b < 2 ^ 31) : a = b := (nI_eq ha hb).mp h
theorem nI_z {n : Nat} (hn : n < 2 ^ 31) : nI n = 0 ↔ n = 0 := by
  rw [← nI_0]; exact nI_eq hn (by decide)
/-! the state's law -/
def nm (σ : fSt) (e : Nat) : Int := (σ 4 e).toInt
def isNew (σ : fSt) (b e : Nat) : Prop := e < 16 ∧ sd σ e ∧ σ 3 e = nI b ∧ ∀ e', e' < 16 → sd σ e' → σ 3 e' = nI b → nm σ e' ≤ nm σ e
def hsp (σ : fSt) (b : Nat) (h : Int32) : Prop := (h = -1 ∧ ∀ e, isNew σ b e → ¬ σ 7 e = 0 ∨ σ 8 e = 0) ∨ ∃ e, h = nI e ∧ isNew σ b e ∧ σ 7 e = 0 ∧ ¬ σ 8 e = 0
def I1 (σ : fSt) : Prop := ∀ e, e < 16 → lvb σ e → ∃ b, b < 8 ∧ σ 3 e = nI b
def I2 (σ : fSt) (K : Nat) : Prop := ∃ N, N ≤ K ∧ σ 13 0 = nI N ∧ ∀ e, e < 16 → lvb σ e → 0 ≤ nm σ e ∧ nm σ e < N
def I3 (σ : fSt) : Prop := ∀ e e', e < 16 → e' < 16 → lvb σ e → lvb σ e' → nm σ e = nm σ e' → e = e'
def I4 (σ : fSt) : Prop := ∀ e, e < 16 → lvb σ e → ∃ f, f ≤ 4 ∧ σ 8 e = nI f
def I5 (σ : fSt) : Prop := ∀ b, b < 8 → hsp σ b (σ 12 b)
def I6 (σ : fSt) : Prop := ∃ k, k ≤ 3 ∧ σ 10 0 = nI k ∧ cnt (fun e => ¬ σ 1 e = 0) 16 = k
def I7 (σ : fSt) : Prop := (∃ n, n ≤ 4 ∧ σ 14 0 = nI n) ∧ (¬ σ 17 0 = 0 → ∃ c, c ≤ 40 ∧ σ 18 0 = nI c)
def Inv (σ : fSt) (K : Nat) : Prop := I1 σ ∧ I2 σ K ∧ I3 σ ∧ I4 σ ∧ I5 σ ∧ I6 σ ∧ I7 σ
/-- a logical block as both sides have it -/
def vwB (σ τ : fSt) (b : Nat) : Prop := (σ 12 b = -1 ∧ τ 1 b = 0) ∨ ∃ e f, e < 16 ∧ σ 12 b = nI e ∧ 1 ≤ f ∧ f ≤ 4 ∧ σ 8 e = nI f ∧ τ 1 b = nI f ∧ ∀ i, i < f → σ 9 (e * 4 + i) = τ 0 (4 * b + i)
/-- the two states agree -/
def Rel (σ τ : fSt) (K : Nat) : Prop := Inv σ K ∧ (∀ b, b < 8 → vwB σ τ b) ∧ σ 14 0 = τ 3 0 ∧ (∀ i, i < 4 → σ 15 i = τ 2 i) ∧ σ 17 0 = τ 4 0 ∧ (¬ τ 4 0 = 0 → σ 18 0 = τ 5 0)
theorem Rel.mono {σ τ : fSt} {K K' : Nat} (h : Rel σ τ K) (hk : K ≤ K') : Rel σ τ K' := by
  obtain ⟨⟨h1, ⟨N, a, b⟩, h3⟩, h⟩ := h
  exact ⟨⟨h1, ⟨N, by omega, b⟩, h3⟩, h⟩
/-- blocks alike -/
def agr (σ σ' : fSt) (e : Nat) : Prop := σ' 0 e = σ 0 e ∧ σ' 1 e = σ 1 e ∧ σ' 3 e = σ 3 e ∧ σ' 4 e = σ 4 e ∧ σ' 5 e = σ 5 e ∧ σ' 6 e = σ 6 e ∧ σ' 7 e = σ 7 e ∧ σ' 8 e = σ 8 e
theorem agr.lv {σ σ' : fSt} {e : Nat} (h : agr σ σ' e) : lvb σ' e ↔ lvb σ e := by
  unfold lvb; rw [h.1, h.2.1]
theorem agr.so {σ σ' : fSt} {e : Nat} (h : agr σ σ' e) : sd σ' e ↔ sd σ e := by
  unfold sd
  rw [h.1, h.2.1, h.2.2.2.2.1, h.2.2.2.2.2.1]
theorem agr.nu {σ σ' : fSt} {e : Nat} (h : agr σ σ' e) : nm σ' e = nm σ e := by
  show (σ' 4 e).toInt = (σ 4 e).toInt
  rw [h.2.2.2.1]
theorem agr.ow {σ σ' : fSt} {e : Nat} (h : agr σ σ' e) : σ' 3 e = σ 3 e := h.2.2.1
theorem sd_lv {σ : fSt} {e : Nat} (h : sd σ e) : lvb σ e := ⟨h.1, h.2.1⟩
end
section
set_option maxRecDepth 100000
theorem hsp_at {σ : fSt} {b e : Nat} (h : hsp σ b (σ 12 b)) (hb : σ 12 b = nI e) (he : e < 16) : isNew σ b e ∧ σ 7 e = 0 ∧ ¬ σ 8 e = 0 := by
  rcases h with ⟨h, -⟩ | ⟨e', h, hn, h7, h8⟩
  · exact absurd (hb.symm.trans h) (nI_ne_neg (by omega))
  · have : e = e' := nI_inj (hb.symm.trans h) (by omega) (by have := hn.1; omega)
    subst this
    exact ⟨hn, h7, h8⟩
theorem hsp_cases {σ : fSt} {b : Nat} {h : Int32} (hs : hsp σ b h) : h = -1 ∨ ∃ e, e < 16 ∧ h = nI e := by
  rcases hs with ⟨h, -⟩ | ⟨e', h, hn, -, -⟩
  · exact Or.inl h
  · exact Or.inr ⟨e', hn.1, h⟩
theorem new_uniq {σ : fSt} {b e e' : Nat} (h3 : I3 σ) (h : isNew σ b e) (h' : isNew σ b e') : e = e' := by
  have a := h.2.2.2 e' h'.1 h'.2.1 h'.2.2.1
  have c := h'.2.2.2 e h.1 h.2.1 h.2.2.1
  exact h3 e e' h.1 h'.1 (sd_lv h.2.1) (sd_lv h'.2.1) (by omega)
theorem hsp_uniq {σ : fSt} {b : Nat} {h h' : Int32} (h3 : I3 σ) (a : hsp σ b h) (c : hsp σ b h') : h = h' := by
  rcases a with ⟨a, a2⟩ | ⟨e, a, an, a7, a8⟩
  · rcases c with ⟨c, -⟩ | ⟨e', c, cn, c7, c8⟩
    · rw [a, c]
    · rcases a2 e' cn with q | q
      · exact absurd c7 q
      · exact absurd q c8
  · rcases c with ⟨c, c2⟩ | ⟨e', c, cn, c7, c8⟩
    · rcases c2 e an with q | q
      · exact absurd a7 q
      · exact absurd q a8
    · rw [a, c, new_uniq h3 an cn]
theorem hsp_oth {σ σ' : fSt} {b e : Nat} {h : Int32} (ha : ∀ e', e' < 16 → e' ≠ e → agr σ σ' e') (hn : ¬ (sd σ e ∧ σ 3 e = nI b)) (hn' : ¬ (sd σ' e ∧ σ' 3 e = nI b)) (hs : hsp σ b h) : hsp σ' b h := by
  have key : ∀ e1, isNew σ' b e1 ↔ isNew σ b e1 := by
    intro e1
    constructor
    · rintro ⟨h1, h2, h3, h4⟩
      have hne : e1 ≠ e := fun q => hn' (by rw [← q]; exact ⟨h2, h3⟩)
      have a := ha e1 h1 hne
      refine ⟨h1, a.so.mp h2, by rw [← a.ow]; exact h3, fun e' he' s' o' => ?_⟩
      have hne' : e' ≠ e := fun q => hn (by rw [← q]; exact ⟨s', o'⟩)
      have a' := ha e' he' hne'
      have := h4 e' he' (a'.so.mpr s') (by rw [a'.ow]; exact o')
      rw [a'.nu, a.nu] at this
      exact this
    · rintro ⟨h1, h2, h3, h4⟩
      have hne : e1 ≠ e := fun q => hn (by rw [← q]; exact ⟨h2, h3⟩)
      have a := ha e1 h1 hne
      refine ⟨h1, a.so.mpr h2, by rw [a.ow]; exact h3, fun e' he' s' o' => ?_⟩
      have hne' : e' ≠ e := fun q => hn' (by rw [← q]; exact ⟨s', o'⟩)
      have a' := ha e' he' hne'
      have := h4 e' he' (a'.so.mp s') (by rw [← a'.ow]; exact o')
      rw [a'.nu, a.nu]
      exact this
  have k2 : ∀ e1, isNew σ b e1 → σ' 7 e1 = σ 7 e1 ∧ σ' 8 e1 = σ 8 e1 := by
    intro e1 h1
    have a := ha e1 h1.1 (fun q => hn (by rw [← q]; exact ⟨h1.2.1, h1.2.2.1⟩))
    exact ⟨a.2.2.2.2.2.2.1, a.2.2.2.2.2.2.2⟩
  rcases hs with ⟨h, h2⟩ | ⟨e1, h, hw, h7, h8⟩
  · refine Or.inl ⟨h, fun e1 h1 => ?_⟩
    have h1 := (key e1).mp h1
    rw [(k2 e1 h1).1, (k2 e1 h1).2]
    exact h2 e1 h1
  · refine Or.inr ⟨e1, h, (key e1).mpr hw, ?_, ?_⟩
    · rw [(k2 e1 hw).1]; exact h7
    · rw [(k2 e1 hw).2]; exact h8
/-- one block changes -/
theorem Inv_one {σ σ' : fSt} {K K' e N N' : Nat} (h : Inv σ K) (ha : ∀ e', e' < 16 → e' ≠ e → agr σ σ' e') (hN : σ 13 0 = nI N) (hNK : N < 2 ^ 31) (hN' : σ' 13 0 = nI N') (hNN : N ≤ N') (hK' : N' ≤ K')
    (hl : lvb σ' e → (∃ b, b < 8 ∧ σ' 3 e = nI b) ∧ (∃ f, f ≤ 4 ∧ σ' 8 e = nI f) ∧ (0 ≤ nm σ' e ∧ nm σ' e < N') ∧ ∀ e', e' < 16 → e' ≠ e → lvb σ e' → nm σ e' ≠ nm σ' e) (h5 : I5 σ') (h6 : I6 σ') (h7 : I7 σ') (hKK : K < 2 ^ 31) : Inv σ' K' := by
  obtain ⟨h1, ⟨N0, hN0, hN1, h2⟩, h3, h4, -, -, -⟩ := h
  have eN : N0 = N := nI_inj (hN1.symm.trans hN) (by omega) hNK
  subst eN
  refine ⟨?_, ⟨N', hK', hN', ?_⟩, ?_, ?_, h5, h6, h7⟩
  · intro e' he' l'
    by_cases q : e' = e
    · rw [q] at l' ⊢; exact (hl l').1
    · have a := ha e' he' q
      rw [a.ow]; exact h1 e' he' (a.lv.mp l')
  · intro e' he' l'
    by_cases q : e' = e
    · rw [q] at l' ⊢; exact (hl l').2.2.1
    · have a := ha e' he' q
      have := h2 e' he' (a.lv.mp l')
      rw [a.nu]; omega
  · intro e1 e2 he1 he2 l1 l2 hq
    by_cases q1 : e1 = e
    · by_cases q2 : e2 = e
      · rw [q1, q2]
      · have a := ha e2 he2 q2
        rw [q1] at l1 hq
        rw [a.nu] at hq
        exact absurd hq.symm ((hl l1).2.2.2 e2 he2 q2 (a.lv.mp l2))
    · have a := ha e1 he1 q1
      by_cases q2 : e2 = e
      · rw [q2] at l2 hq
        rw [a.nu] at hq
        exact absurd hq ((hl l2).2.2.2 e1 he1 q1 (a.lv.mp l1))
      · have a2 := ha e2 he2 q2
        rw [a.nu, a2.nu] at hq
        exact h3 e1 e2 he1 he2 (a.lv.mp l1) (a2.lv.mp l2) hq
  · intro e' he' l'
    by_cases q : e' = e
    · rw [q] at l' ⊢; exact (hl l').2.1
    · have a := ha e' he' q
      rw [a.2.2.2.2.2.2.2]; exact h4 e' he' (a.lv.mp l')
/-- an open block goes: the oldest -/
theorem Inv_kill {σ σ' : fSt} {K e : Nat} (h : Inv σ K) (hKK : K < 2 ^ 31) (ho : opn σ e) (hmin : ∀ e', e' < 16 → opn σ e' → nm σ e ≤ nm σ e') (ha : ∀ e', e' < 16 → e' ≠ e → agr σ σ' e') (hd : ¬ lvb σ' e) (h12 : ∀ b, b < 8 → σ' 12 b = σ 12 b) (h13 : σ' 13 0 = σ 13 0) (h6 : I6 σ') (h7 : I7 σ') : Inv σ' K := by
  obtain ⟨N, hN0, hN1, -⟩ := h.2.1
  refine Inv_one h ha hN1 (by omega) (h13.trans hN1) (Nat.le_refl _) hN0 (fun l => absurd l hd) ?_ h6 h7 hKK
  intro b hb
  rw [h12 b hb]
  have hs := h.2.2.2.2.1 b hb
  rcases hs with ⟨hh, h2⟩ | ⟨e1, hh, hw, h7', h8'⟩
  · refine Or.inl ⟨hh, fun e1 hw => ?_⟩
    have hne : e1 ≠ e := fun q => hd (by rw [← q]; exact sd_lv hw.2.1)
    have a := ha e1 hw.1 hne
    have s1 := a.so.mp hw.2.1
    have o1 : σ 3 e1 = nI b := by rw [← a.ow]; exact hw.2.2.1
    have hop : opn σ e1 := by
      refine ⟨s1.2.1, s1.1, ?_⟩
      rintro ⟨b', hb', hu⟩
      have hn := (hsp_at (h.2.2.2.2.1 b' hb') hu hw.1).1
      have : b' = b := nI_inj (hn.2.2.1.symm.trans o1) (by omega) (by omega)
      subst this
      exact nI_ne_neg (n := e1) (by have := hw.1; omega) (hu.symm.trans hh)
    have hnew : isNew σ b e1 := by
      refine ⟨hw.1, s1, o1, fun e' he' s' o' => ?_⟩
      by_cases q : e' = e
      · rw [q]; exact hmin e1 hw.1 hop
      · have a' := ha e' he' q
        have := hw.2.2.2 e' he' (a'.so.mpr s') (by rw [a'.ow]; exact o')
        rw [a'.nu, a.nu] at this
        exact this
    rw [a.2.2.2.2.2.2.1, a.2.2.2.2.2.2.2]
    exact h2 e1 hnew
  · have hne : e1 ≠ e := fun q => ho.2.2 ⟨b, hb, by rw [← q]; exact hh⟩
    have a := ha e1 hw.1 hne
    refine Or.inr ⟨e1, hh, ⟨hw.1, a.so.mpr hw.2.1, by rw [a.ow]; exact hw.2.2.1, fun e' he' s' o' => ?_⟩, by rw [a.2.2.2.2.2.2.1]; exact h7', by rw [a.2.2.2.2.2.2.2]; exact h8'⟩
    have hne' : e' ≠ e := fun q => hd (by rw [← q]; exact sd_lv s')
    have a' := ha e' he' hne'
    have := hw.2.2.2 e' he' (a'.so.mp s') (by rw [← a'.ow]; exact o')
    rw [a'.nu, a.nu]
    exact this
/-- what both sides see rests on the homes, what they hold, and the small fields -/
theorem vwB_same {σ σ' τ : fSt} {b : Nat} (h : vwB σ τ b) (h12 : σ' 12 b = σ 12 b) (h8 : ∀ e, e < 16 → σ 12 b = nI e → σ' 8 e = σ 8 e ∧ ∀ i, i < 4 → σ' 9 (e * 4 + i) = σ 9 (e * 4 + i)) : vwB σ' τ b := by
  rcases h with ⟨a, c⟩ | ⟨e, f, he, h1, f1, f4, h8', ht, hw⟩
  · exact Or.inl ⟨h12.trans a, c⟩
  · obtain ⟨g8, g9⟩ := h8 e he h1
    exact Or.inr ⟨e, f, he, h12.trans h1, f1, f4, g8.trans h8', ht, fun i hi => by rw [g9 i (by omega)]; exact hw i hi⟩
theorem Rel_erase {σ τ : fSt} {K e : Nat} (h : Rel σ τ K) (hKK : K < 2 ^ 31) (he : e < 16) (ho : opn σ e) (hmin : ∀ e', e' < 16 → opn σ e' → nm σ e ≤ nm σ e') : Rel (erF σ e) τ K ∧ cnt (opn (erF σ e)) 16 + 1 ≤ cnt (opn σ) 16 := by
  obtain ⟨hI, hv, h3, h4, h5, h6⟩ := h
  obtain ⟨k, hk, hk10, hkc⟩ := hI.2.2.2.2.2.1
  by_cases hc : ¬ σ 11 0 = 0 ∧ ¬ 3 ≤ σ 10 0
  · have e1 : erF σ e = sf (sf (sf σ 1 (upd (σ 1) e 1)) 10 (fun _ => σ 10 0 + 1)) 11 (fun _ => 0) := if_pos hc
    rw [e1]
    have ha : ∀ e', e' < 16 → e' ≠ e → agr σ (sf (sf (sf σ 1 (upd (σ 1) e 1)) 10 (fun _ => σ 10 0 + 1)) 11 (fun _ => 0)) e' := fun e' _ hne => ⟨rfl, pk_un hne, rfl, rfl, rfl, rfl, rfl, rfl⟩
    have hs : upd (σ 1) e 1 e = 1 := pk_us
    have hd : ¬ lvb (sf (sf (sf σ 1 (upd (σ 1) e 1)) 10 (fun _ => σ 10 0 + 1)) 11 (fun _ => 0)) e := fun q => by
      have : upd (σ 1) e 1 e = 0 := q.1
      rw [hs] at this
      exact absurd this (by decide)
    have hk3 : k < 3 := by
      rcases Nat.lt_or_ge k 3 with q | q
      · exact q
      · exact absurd (show (3 : Int32) ≤ σ 10 0 by rw [hk10]; exact (nI_leI (a := 3) (by decide) (by omega)).mpr q) hc.2
    refine ⟨⟨Inv_kill hI hKK ho hmin ha hd (fun _ _ => rfl) rfl ⟨k + 1, by omega, ?_, ?_⟩ hI.2.2.2.2.2.2, fun b hb => vwB_same (hv b hb) rfl (fun _ _ _ => ⟨rfl, fun _ _ => rfl⟩), h3, h4, h5, h6⟩, ?_⟩
    · show σ 10 0 + 1 = nI (k + 1)
      rw [hk10]; exact nI_1 k
    · show cnt (fun e' => ¬ upd (σ 1) e 1 e' = 0) 16 = k + 1
      have l1 : cnt (fun e' => ¬ σ 1 e' = 0) 16 + 1 ≤ cnt (fun e' => ¬ upd (σ 1) e 1 e' = 0) 16 := cnt_lt he (by rw [hs]; decide) (fun q => q ho.2.1) (fun e' _ q => by
        by_cases e2 : e' = e
        · rw [e2, hs]; decide
        · rw [pk_un e2]; exact q)
      have l2 : cnt (fun e' => ¬ upd (σ 1) e 1 e' = 0) 16 ≤ cnt (fun e' => ¬ σ 1 e' = 0) 16 + cnt (fun e' => e' = e) 16 := cnt_two (fun e' _ q => by
        by_cases e2 : e' = e
        · exact Or.inr e2
        · rw [pk_un e2] at q; exact Or.inl q)
      have l3 := cnt_one (p := fun e' => e' = e) 16 (fun a b _ _ qa qb => qa.trans qb.symm)
      omega
    · refine cnt_lt he ho (fun q => ?_) (fun e' _ q => ?_)
      · have : upd (σ 1) e 1 e = 0 := q.2.1
        rw [hs] at this
        exact absurd this (by decide)
      · refine ⟨q.1, ?_, q.2.2⟩
        have q1 : upd (σ 1) e 1 e' = 0 := q.2.1
        by_cases e2 : e' = e
        · rw [e2, hs] at q1; exact absurd q1 (by decide)
        · rw [pk_un e2] at q1; exact q1
  · have e1 : erF σ e = sf (sf σ 0 (upd (σ 0) e 1)) 2 (upd (σ 2) e (σ 2 e + 1)) := if_neg hc
    rw [e1]
    have ha : ∀ e', e' < 16 → e' ≠ e → agr σ (sf (sf σ 0 (upd (σ 0) e 1)) 2 (upd (σ 2) e (σ 2 e + 1))) e' := fun e' _ hne => ⟨pk_un hne, rfl, rfl, rfl, rfl, rfl, rfl, rfl⟩
    have hs : upd (σ 0) e 1 e = 1 := pk_us
    have hd : ¬ lvb (sf (sf σ 0 (upd (σ 0) e 1)) 2 (upd (σ 2) e (σ 2 e + 1))) e := fun q => by
      have : upd (σ 0) e 1 e = 0 := q.2
      rw [hs] at this
      exact absurd this (by decide)
    refine ⟨⟨Inv_kill hI hKK ho hmin ha hd (fun _ _ => rfl) rfl hI.2.2.2.2.2.1 hI.2.2.2.2.2.2, fun b hb => vwB_same (hv b hb) rfl (fun _ _ _ => ⟨rfl, fun _ _ => rfl⟩), h3, h4, h5, h6⟩, ?_⟩
    refine cnt_lt he ho (fun q => ?_) (fun e' _ q => ?_)
    · have : upd (σ 0) e 1 e = 0 := q.1
      rw [hs] at this
      exact absurd this (by decide)
    · refine ⟨?_, q.2⟩
      have q1 : upd (σ 0) e 1 e' = 0 := q.1
      by_cases e2 : e' = e
      · rw [e2, hs] at q1; exact absurd q1 (by decide)
      · rw [pk_un e2] at q1; exact q1
/-- at least five blocks are free or open -/
theorem five {σ : fSt} {K : Nat} (h : Inv σ K) : 5 ≤ cnt (fre σ) 16 + cnt (opn σ) 16 := by
  obtain ⟨k, hk, -, hkc⟩ := h.2.2.2.2.2.1
  have hu : ∀ m, cnt (fun e => ∃ b, b < m ∧ σ 12 b = nI e) 16 ≤ m := by
    intro m
    induction m with
    | zero => exact Nat.le_of_eq (cnt_none (fun e _ ⟨b, hb, _⟩ => absurd hb (Nat.not_lt_zero _)))
    | succ m ih =>
      have l2 : cnt (fun e => ∃ b, b < m + 1 ∧ σ 12 b = nI e) 16 ≤ cnt (fun e => ∃ b, b < m ∧ σ 12 b = nI e) 16 + cnt (fun e => σ 12 m = nI e) 16 := cnt_two (fun e _ ⟨b, hb, q⟩ => by
        by_cases e2 : b = m
        · exact Or.inr (by rw [← e2]; exact q)
        · exact Or.inl ⟨b, by omega, q⟩)
      have l3 := cnt_one (p := fun e => σ 12 m = nI e) 16 (fun a b _ _ qa qb => nI_inj (qa.symm.trans qb) (by omega) (by omega))
      omega
  have h8 := hu 8
  have l1 : cnt (fun _ => True) 16 ≤ cnt (fun e => ¬ σ 1 e = 0) 16 + cnt (fun e => fre σ e ∨ (opn σ e ∨ usd σ e)) 16 := cnt_two (fun e _ _ => by
    by_cases q1 : σ 1 e = 0
    · refine Or.inr ?_
      by_cases q0 : σ 0 e = 0
      · by_cases qu : usd σ e
        · exact Or.inr (Or.inr qu)
        · exact Or.inr (Or.inl ⟨q0, q1, qu⟩)
      · exact Or.inl ⟨q0, q1⟩
    · exact Or.inl q1)
  have l2 := cnt_or (fre σ) (fun e => opn σ e ∨ usd σ e) 16
  have l3 := cnt_or (opn σ) (usd σ) 16
  have l4 : cnt (fun _ => True) 16 = 16 := cnt_all (fun _ _ => trivial)
  have l5 : cnt (usd σ) 16 ≤ 8 := h8
  omega
end
section
set_option maxRecDepth 100000
/-- restart, steps done, steps left, on the other side -/
def mRst (τ : fSt) : fSt := sf (sf τ 3 (fun _ => 0)) 4 (fun _ => 0)
def dcM (τ : fSt) (j : Nat) : fSt := sf τ 5 (fun _ => if τ 4 0 = 0 then τ 5 0 else τ 5 0 - nI j)
def bud (τ : fSt) (j : Nat) : Prop := τ 4 0 = 0 ∨ ∃ c, c ≤ 40 ∧ τ 5 0 = nI c ∧ j ≤ c
/-- e is b's, and the newest -/
def Cp (σ : fSt) (b e n : Nat) (g : Int32) : Prop := e < 16 ∧ lvb σ e ∧ σ 3 e = nI b ∧ σ 5 e = g ∧ σ 6 e = 0 ∧ σ 7 e = 0 ∧ σ 8 e = nI n ∧ ∀ e', e' < 16 → e' ≠ e → lvb σ e' → nm σ e' < nm σ e
theorem hdr_agr {σ : fSt} {e : Nat} {b g : Int32} : ∀ e', e' < 16 → e' ≠ e → agr σ (whF σ e b g) e' := fun e' _ hne => ⟨pk_un hne, rfl, pk_un hne, pk_un hne, pk_un hne, pk_un hne, pk_un hne, pk_un hne⟩
theorem hdr_new {σ : fSt} {K e b : Nat} {g : Int32} (h : Inv σ K) (hK : K < 2 ^ 30) (he : e < 16) (hf : fre σ e) : Cp (whF σ e (nI b) g) b e 0 g := by
  obtain ⟨N, hN0, hN1, h2⟩ := h.2.1
  refine ⟨he, ⟨hf.2, pk_us⟩, pk_us, pk_us, pk_us, pk_us, pk_us, fun e' he' hne l' => ?_⟩
  have a := hdr_agr (σ := σ) (e := e) (b := nI b) (g := g) e' he' hne
  have := h2 e' he' (a.lv.mp l')
  rw [a.nu]
  have e2 : nm (whF σ e (nI b) g) e = N := by
    show (upd (σ 4) e (σ 13 0) e).toInt = N
    rw [pk_us, hN1]; exact nI_toInt (by omega)
  omega
theorem cp_unsound {σ : fSt} {b e n : Nat} (h : Cp σ b e n 0) : ¬ sd σ e := by
  rintro ⟨-, -, q | q⟩
  · exact q h.2.2.2.1
  · exact q h.2.2.2.2.1
theorem Rel_hdr {σ τ : fSt} {K e b : Nat} {g : Int32} (h : Rel σ τ K) (hK : K < 2 ^ 30) (he : e < 16) (hf : fre σ e) (hb : b < 8) (hg : g = 0 ∨ σ 12 b = -1) : Rel (whF σ e (nI b) g) τ (K + 1) := by
  obtain ⟨hI, hv, h3, h4, h5, h6⟩ := h
  obtain ⟨N, hN0, hN1, h2⟩ := hI.2.1
  have ha := hdr_agr (σ := σ) (e := e) (b := nI b) (g := g)
  have hc := hdr_new (b := b) (g := g) hI hK he hf
  have hnl : ¬ lvb σ e := fun q => hf.1 q.2
  refine ⟨Inv_one hI ha hN1 (by omega) (N' := N + 1) ?_ (by omega) (by omega) (fun _ => ⟨⟨b, hb, hc.2.2.1⟩, ⟨0, by omega, hc.2.2.2.2.2.2.1⟩, ?_, ?_⟩) ?_ hI.2.2.2.2.2.1 hI.2.2.2.2.2.2 (by omega), fun b' hb' => vwB_same (hv b' hb') rfl (fun e1 he1 hu => ⟨?_, fun _ _ => rfl⟩), h3, h4, h5, h6⟩
  · show σ 13 0 + 1 = nI (N + 1)
    rw [hN1]; exact nI_1 N
  · have e2 : nm (whF σ e (nI b) g) e = N := by
      show (upd (σ 4) e (σ 13 0) e).toInt = N
      rw [pk_us, hN1]; exact nI_toInt (by omega)
    rw [e2]; omega
  · intro e' he' hne l'
    have a := ha e' he' hne
    have := hc.2.2.2.2.2.2.2 e' he' hne (a.lv.mpr l')
    rw [a.nu] at this
    omega
  · intro b' hb'
    have hs := hI.2.2.2.2.1 b' hb'
    show hsp (whF σ e (nI b) g) b' (σ 12 b')
    have hn : ¬ (sd σ e ∧ σ 3 e = nI b') := fun q => hnl (sd_lv q.1)
    by_cases q : b' = b
    · rcases hg with g0 | g1
      · exact hsp_oth ha hn (fun q => by rw [g0] at hc; rw [g0] at q; exact cp_unsound hc q.1) hs
      · subst q
        refine Or.inl ⟨g1, fun e1 hw => ?_⟩
        by_cases q1 : e1 = e
        · rw [q1]; exact Or.inr hc.2.2.2.2.2.2.1
        · have a := ha e1 hw.1 q1
          by_cases gz : g = 0
          · have hs' := hsp_oth ha hn (fun q => by rw [gz] at hc; rw [gz] at q; exact cp_unsound hc q.1) hs
            rcases hs' with ⟨-, hx⟩ | ⟨e3, hx, hx2, -⟩
            · exact hx e1 hw
            · exact absurd (hx.symm.trans g1) (nI_ne_neg (by have := hx2.1; omega))
          · have l1 := hw.2.2.2 e he ⟨hc.2.1.1, hc.2.1.2, Or.inl (by rw [hc.2.2.2.1]; exact gz)⟩ hc.2.2.1
            have l2 := hc.2.2.2.2.2.2.2 e1 hw.1 q1 (sd_lv hw.2.1)
            omega
    · exact hsp_oth ha hn (fun q2 => q (nI_inj (q2.2.symm.trans hc.2.2.1) (by omega) (by omega))) hs
  · have hn := hsp_at (hI.2.2.2.2.1 b' hb') hu he1
    have hne : e1 ≠ e := fun q => hnl (by rw [← q]; exact sd_lv hn.1.2.1)
    exact pk_un hne
theorem word_agr {σ : fSt} {e f : Nat} {x : Int32} : ∀ e', e' < 16 → e' ≠ e → agr σ (wwF σ e f x) e' := fun e' _ hne => ⟨rfl, rfl, rfl, rfl, rfl, rfl, rfl, pk_un hne⟩
theorem word_page {σ : fSt} {e f e' i : Nat} {x : Int32} (h : e' ≠ e) (hi : i < 4) (hf : f < 4) : wwF σ e f x 9 (e' * 4 + i) = σ 9 (e' * 4 + i) := pk_un (by omega)
theorem Rel_word {σ τ : fSt} {K e f : Nat} {x : Int32} (h : Rel σ τ K) (hK : K < 2 ^ 31) (he : e < 16) (hl : lvb σ e) (hu : ¬ sd σ e) (hf : σ 8 e = nI f) (f4 : f < 4) : Rel (wwF σ e f x) τ K := by
  obtain ⟨hI, hv, h3, h4, h5, h6⟩ := h
  obtain ⟨N, hN0, hN1, h2⟩ := hI.2.1
  have ha := word_agr (σ := σ) (e := e) (f := f) (x := x)
  have hu' : ¬ sd (wwF σ e f x) e := hu
  refine ⟨Inv_one hI ha hN1 (by omega) hN1 (Nat.le_refl _) hN0 (fun _ => ⟨hI.1 e he hl, ⟨f + 1, by omega, pk_us⟩, h2 e he hl, fun e' he' hne l' hq => hne (hI.2.2.1 e' e he' he l' hl hq)⟩) (fun b' hb' => hsp_oth ha (fun q => hu q.1) (fun q => hu' q.1) (hI.2.2.2.2.1 b' hb')) hI.2.2.2.2.2.1 hI.2.2.2.2.2.2 hK, fun b' hb' => vwB_same (hv b' hb') rfl (fun e1 he1 hu1 => ?_), h3, h4, h5, h6⟩
  have hn := hsp_at (hI.2.2.2.2.1 b' hb') hu1 he1
  have hne : e1 ≠ e := fun q => hu (by rw [← q]; exact hn.1.2.1)
  exact ⟨pk_un hne, fun i hi => word_page hne hi f4⟩
theorem Cp_word {σ : fSt} {b e f : Nat} {x g : Int32} (h : Cp σ b e f g) : Cp (wwF σ e f x) b e (f + 1) g := by
  obtain ⟨h1, h2, h3, h4, h5, h6, h7, h8⟩ := h
  exact ⟨h1, h2, h3, h4, h5, h6, pk_us, h8⟩
theorem Rel_app {σ τ : fSt} {K e b f : Nat} {x : Int32} (h : Rel σ τ K) (hK : K < 2 ^ 31) (hb : b < 8) (hn : isNew σ b e) (h7 : σ 7 e = 0) (hf : σ 8 e = nI f) (f4 : f < 4) (ht : τ 1 b = nI f) (hw : ∀ i, i < f → σ 9 (e * 4 + i) = τ 0 (4 * b + i)) :
    Rel (sf (wwF σ e f x) 12 (upd (σ 12) b (nI e))) (sf (sf τ 0 (upd (τ 0) (4 * b + f) x)) 1 (upd (τ 1) b (nI (f + 1)))) K := by
  obtain ⟨hI, hv, h3, h4, h5, h6⟩ := h
  obtain ⟨N, hN0, hN1, h2⟩ := hI.2.1
  have he := hn.1
  have hl := sd_lv hn.2.1
  have ha : ∀ e', e' < 16 → e' ≠ e → agr σ (sf (wwF σ e f x) 12 (upd (σ 12) b (nI e))) e' := word_agr (σ := σ) (e := e) (f := f) (x := x)
  have nz : ¬ nI (f + 1) = 0 := nI_ne0 (by omega) (by omega)
  refine ⟨Inv_one hI ha hN1 (by omega) hN1 (Nat.le_refl _) hN0 (fun _ => ⟨hI.1 e he hl, ⟨f + 1, by omega, pk_us⟩, h2 e he hl, fun e' he' hne l' hq => hne (hI.2.2.1 e' e he' he l' hl hq)⟩) (fun b' hb' => ?_) hI.2.2.2.2.2.1 hI.2.2.2.2.2.2 hK, fun b' hb' => ?_, h3, h4, h5, h6⟩
  · show hsp (sf (wwF σ e f x) 12 (upd (σ 12) b (nI e))) b' (upd (σ 12) b (nI e) b')
    by_cases q : b' = b
    · subst q
      rw [pk_us]
      refine Or.inr ⟨e, rfl, hn, h7, ?_⟩
      show ¬ upd (σ 8) e (nI (f + 1)) e = 0
      rw [pk_us]; exact nz
    · rw [pk_un q]
      have no : ¬ σ 3 e = nI b' := fun q2 => q (nI_inj (q2.symm.trans hn.2.2.1) (by omega) (by omega))
      exact hsp_oth ha (fun q2 => no q2.2) (fun q2 => no q2.2) (hI.2.2.2.2.1 b' hb')
  · by_cases q : b' = b
    · subst q
      refine Or.inr ⟨e, f + 1, he, pk_us, by omega, by omega, pk_us, pk_us, fun i hi => ?_⟩
      show upd (σ 9) (e * 4 + f) x (e * 4 + i) = upd (τ 0) (4 * b' + f) x (4 * b' + i)
      by_cases qi : i = f
      · rw [qi, pk_us, pk_us]
      · rw [pk_un (by omega), pk_un (by omega)]; exact hw i (by omega)
    · have e12 : upd (σ 12) b (nI e) b' = σ 12 b' := pk_un q
      have e1 : upd (τ 1) b (nI (f + 1)) b' = τ 1 b' := pk_un q
      rcases hv b' hb' with ⟨a, c⟩ | ⟨e', f', he', h1, f1, f4', h8', ht', hw'⟩
      · exact Or.inl ⟨e12.trans a, e1.trans c⟩
      · have hn' := hsp_at (hI.2.2.2.2.1 b' hb') h1 he'
        have hne : e' ≠ e := fun q2 => by
          rw [q2] at hn'
          exact q (nI_inj (hn'.1.2.2.1.symm.trans hn.2.2.1) (by omega) (by omega))
        refine Or.inr ⟨e', f', he', e12.trans h1, f1, f4', (show upd (σ 8) e (nI (f + 1)) e' = nI f' by rw [pk_un hne]; exact h8'), e1.trans ht', fun i hi => ?_⟩
        show upd (σ 9) (e * 4 + f) x (e' * 4 + i) = upd (τ 0) (4 * b + f) x (4 * b' + i)
        rw [pk_un (by omega), pk_un (by omega)]; exact hw' i hi
theorem Rel_cls {σ τ τ' : fSt} {K e b n : Nat} (h : Rel σ τ K) (hK : K < 2 ^ 31) (hb : b < 8) (he : e < 16) (hl : lvb σ e) (hu : ¬ sd σ e) (ho : σ 3 e = nI b) (h7 : σ 7 e = 0) (h8 : σ 8 e = nI n) (n4 : n ≤ 4) (hmax : ∀ e', e' < 16 → sd σ e' → σ 3 e' = nI b → nm σ e' < nm σ e)
    (t1 : τ' 1 b = nI n) (t0 : ∀ i, i < n → σ 9 (e * 4 + i) = τ' 0 (4 * b + i)) (tb : ∀ b', b' < 8 → b' ≠ b → τ' 1 b' = τ 1 b' ∧ ∀ i, i < 4 → τ' 0 (4 * b' + i) = τ 0 (4 * b' + i)) (t2 : ∀ i, i < 4 → τ' 2 i = τ 2 i) (t3 : τ' 3 0 = τ 3 0) (t4 : τ' 4 0 = τ 4 0) (t5 : τ' 5 0 = τ 5 0) :
    Rel (adF (sf σ 6 (upd (σ 6) e 1)) b e) τ' K := by
  obtain ⟨hI, hv, h3, h4, h5, h6⟩ := h
  obtain ⟨N, hN0, hN1, h2⟩ := hI.2.1
  have ha : ∀ e', e' < 16 → e' ≠ e → agr σ (adF (sf σ 6 (upd (σ 6) e 1)) b e) e' := fun e' _ hne => ⟨rfl, rfl, rfl, rfl, rfl, pk_un hne, rfl, rfl⟩
  have hs' : sd (adF (sf σ 6 (upd (σ 6) e 1)) b e) e := ⟨hl.1, hl.2, Or.inr (by show ¬ upd (σ 6) e 1 e = 0; rw [pk_us]; decide)⟩
  have hnew : isNew (adF (sf σ 6 (upd (σ 6) e 1)) b e) b e := by
    refine ⟨he, hs', ho, fun e' he' s' o' => ?_⟩
    by_cases q : e' = e
    · rw [q]; exact Int.le_refl _
    · have a := ha e' he' q
      have := hmax e' he' (a.so.mp s') o'
      rw [a.nu]
      show nm σ e' ≤ nm σ e
      omega
  have h12 : ∀ b', adF (sf σ 6 (upd (σ 6) e 1)) b e 12 b' = upd (σ 12) b (if σ 8 e = 0 then (-1) else nI e) b' := fun _ => rfl
  refine ⟨Inv_one hI ha hN1 (by omega) hN1 (Nat.le_refl _) hN0 (fun _ => ⟨hI.1 e he hl, hI.2.2.2.1 e he hl, h2 e he hl, fun e' he' hne l' hq => hne (hI.2.2.1 e' e he' he l' hl hq)⟩) (fun b' hb' => ?_) hI.2.2.2.2.2.1 hI.2.2.2.2.2.2 hK, fun b' hb' => ?_, h3.trans t3.symm, fun i hi => (h4 i hi).trans (t2 i hi).symm, h5.trans t4.symm, fun q => (h6 (by rw [← t4]; exact q)).trans t5.symm⟩
  · rw [h12]
    by_cases q : b' = b
    · subst q
      rw [pk_us]
      by_cases qz : σ 8 e = 0
      · rw [if_pos qz]
        refine Or.inl ⟨rfl, fun e1 hw => Or.inr ?_⟩
        by_cases q1 : e1 = e
        · rw [q1]; exact qz
        · have a := ha e1 hw.1 q1
          have l1 := hw.2.2.2 e he hs' ho
          have l2 := hmax e1 hw.1 (a.so.mp hw.2.1) hw.2.2.1
          rw [a.nu] at l1
          have : nm (adF (sf σ 6 (upd (σ 6) e 1)) b' e) e = nm σ e := rfl
          omega
      · rw [if_neg qz]
        exact Or.inr ⟨e, rfl, hnew, h7, qz⟩
    · rw [pk_un q]
      have no : ¬ σ 3 e = nI b' := fun q2 => q (nI_inj (q2.symm.trans ho) (by omega) (by omega))
      exact hsp_oth ha (fun q2 => no q2.2) (fun q2 => no q2.2) (hI.2.2.2.2.1 b' hb')
  · by_cases q : b' = b
    · subst q
      by_cases qz : n = 0
      · subst qz
        refine Or.inl ⟨?_, t1⟩
        rw [h12, pk_us]; exact if_pos h8
      · have hnz : ¬ σ 8 e = 0 := by rw [h8]; exact nI_ne0 (by omega) (by omega)
        refine Or.inr ⟨e, n, he, ?_, by omega, n4, h8, t1, t0⟩
        rw [h12, pk_us, if_neg hnz]
    · obtain ⟨q1, q0⟩ := tb b' hb' q
      have e12 : adF (sf σ 6 (upd (σ 6) e 1)) b e 12 b' = σ 12 b' := by rw [h12, pk_un q]
      rcases hv b' hb' with ⟨a, c⟩ | ⟨e', f', he', h1, f1, f4', h8', ht', hw'⟩
      · exact Or.inl ⟨e12.trans a, q1.trans c⟩
      · exact Or.inr ⟨e', f', he', e12.trans h1, f1, f4', h8', q1.trans ht', fun i hi => by rw [q0 i (by omega)]; exact hw' i hi⟩
theorem Rel_drop {σ τ : fSt} {K e b : Nat} (h : Rel σ τ K) (hK : K < 2 ^ 31) (hb : b < 8) (he : e < 16) (h12 : σ 12 b = nI e) : Rel (sf (sf σ 7 (upd (σ 7) e 1)) 12 (upd (σ 12) b (-1))) (sf τ 1 (upd (τ 1) b 0)) K := by
  obtain ⟨hI, hv, h3, h4, h5, h6⟩ := h
  obtain ⟨N, hN0, hN1, h2⟩ := hI.2.1
  obtain ⟨hn, h7, h8⟩ := hsp_at (hI.2.2.2.2.1 b hb) h12 he
  have hl := sd_lv hn.2.1
  have ha : ∀ e', e' < 16 → e' ≠ e → agr σ (sf (sf σ 7 (upd (σ 7) e 1)) 12 (upd (σ 12) b (-1))) e' := fun e' _ hne => ⟨rfl, rfl, rfl, rfl, rfl, rfl, pk_un hne, rfl⟩
  refine ⟨Inv_one hI ha hN1 (by omega) hN1 (Nat.le_refl _) hN0 (fun _ => ⟨hI.1 e he hl, hI.2.2.2.1 e he hl, h2 e he hl, fun e' he' hne l' hq => hne (hI.2.2.1 e' e he' he l' hl hq)⟩) (fun b' hb' => ?_) hI.2.2.2.2.2.1 hI.2.2.2.2.2.2 hK, fun b' hb' => ?_, h3, h4, h5, h6⟩
  · show hsp (sf (sf σ 7 (upd (σ 7) e 1)) 12 (upd (σ 12) b (-1))) b' (upd (σ 12) b (-1) b')
    by_cases q : b' = b
    · subst q
      rw [pk_us]
      refine Or.inl ⟨rfl, fun e1 hw => ?_⟩
      have e1e : e1 = e := new_uniq hI.2.2.1 (show isNew σ b' e1 from hw) hn
      subst e1e
      refine Or.inl ?_
      show ¬ upd (σ 7) e1 1 e1 = 0
      rw [pk_us]; decide
    · rw [pk_un q]
      have no : ¬ σ 3 e = nI b' := fun q2 => q (nI_inj (q2.symm.trans hn.2.2.1) (by omega) (by omega))
      exact hsp_oth ha (fun q2 => no q2.2) (fun q2 => no q2.2) (hI.2.2.2.2.1 b' hb')
  · by_cases q : b' = b
    · subst q
      exact Or.inl ⟨pk_us, pk_us⟩
    · have e12 : upd (σ 12) b (-1) b' = σ 12 b' := pk_un q
      have e1 : upd (τ 1) b 0 b' = τ 1 b' := pk_un q
      rcases hv b' hb' with ⟨a, c⟩ | ⟨e', f', he', h1, f1, f4', h8', ht', hw'⟩
      · exact Or.inl ⟨e12.trans a, e1.trans c⟩
      · exact Or.inr ⟨e', f', he', e12.trans h1, f1, f4', h8', e1.trans ht', hw'⟩
/-- attach -/
def atF (σ : fSt) (nn : Int32) (hm : Nat → Int32) : fSt := sf (sf (sf (sf σ 14 (fun _ => 0)) 17 (fun _ => 0)) 13 (fun _ => nn)) 12 hm
def atS (σ : fSt) (nn : Int32) (hm : Nat → Int32) : Prop := (∀ b, b < 8 → hsp σ b (hm b)) ∧ ∃ N : Nat, nn = nI N ∧ (N = 1 ∨ ∃ e, e < 16 ∧ lvb σ e ∧ nm σ e + 1 = N) ∧ ∀ e, e < 16 → lvb σ e → nm σ e < N
theorem Rel_att {σ τ : fSt} {K : Nat} {nn : Int32} {hm : Nat → Int32} (h : Rel σ τ K) (hK1 : 1 ≤ K) (ha : atS σ nn hm) : Rel (atF σ nn hm) (mRst τ) K := by
  obtain ⟨hI, hv, h3, h4, h5, h6⟩ := h
  obtain ⟨N, hN0, hN1, h2⟩ := hI.2.1
  obtain ⟨hs, N', hnn, hN', hmax⟩ := ha
  have heq : ∀ b, b < 8 → hm b = σ 12 b := fun b hb => hsp_uniq hI.2.2.1 (hs b hb) (hI.2.2.2.2.1 b hb)
  refine ⟨⟨hI.1, ⟨N', ?_, hnn, fun e he l => ⟨(h2 e he l).1, hmax e he l⟩⟩, hI.2.2.1, hI.2.2.2.1, fun b hb => hs b hb, hI.2.2.2.2.2.1, ⟨0, by omega, rfl⟩, fun q => absurd rfl q⟩, fun b hb => ?_, rfl, h4, rfl, fun q => absurd rfl q⟩
  · rcases hN' with q | ⟨e, he, l, q⟩
    · omega
    · have := (h2 e he l).2
      omega
  · exact vwB_same (hv b hb) (heq b hb) (fun _ _ _ => ⟨rfl, fun _ _ => rfl⟩)
theorem Rel_rst {σ τ : fSt} {K j : Nat} (h : Rel σ (mRst (dcM τ j)) K) : Rel σ (mRst τ) K := by
  obtain ⟨hI, hv, h3, h4, h5, h6⟩ := h
  exact ⟨hI, hv, h3, h4, h5, fun q => absurd rfl q⟩
theorem Rel_dc0 {σ τ : fSt} {K : Nat} (h : Rel σ τ K) : Rel σ (dcM τ 0) K ∧ bud τ 0 := by
  obtain ⟨hI, hv, h3, h4, h5, h6⟩ := h
  refine ⟨⟨hI, hv, h3, h4, h5, fun q => ?_⟩, ?_⟩
  · have q : ¬ τ 4 0 = 0 := q
    show σ 18 0 = if τ 4 0 = 0 then τ 5 0 else τ 5 0 - nI 0
    rw [if_neg q, h6 q, nI_0]
    exact (Int32.sub_zero _).symm
  · by_cases q : τ 4 0 = 0
    · exact Or.inl q
    · obtain ⟨c, hc, hc2⟩ := hI.2.2.2.2.2.2.2 (by rw [h5]; exact q)
      exact Or.inr ⟨c, hc, by rw [← h6 q]; exact hc2, Nat.zero_le _⟩
def stF (σ : fSt) : fSt := if σ 17 0 = 0 then σ else sf σ 18 (fun _ => σ 18 0 - 1)
theorem stF_n {σ : fSt} {k : Nat} (h : k ≠ 18) : stF σ k = σ k := by
  unfold stF
  split
  · rfl
  · exact sf_n σ _ h
theorem Rel_step {σ τ : fSt} {K j : Nat} (h : Rel σ (dcM τ j) K) (hb : bud τ j) (hn : ¬ (¬ σ 17 0 = 0 ∧ σ 18 0 = 0)) : Rel (stF σ) (dcM τ (j + 1)) K ∧ bud τ (j + 1) := by
  obtain ⟨hI, hv, h3, h4, h5, h6⟩ := h
  have h5 : σ 17 0 = τ 4 0 := h5
  by_cases q : τ 4 0 = 0
  · have e : stF σ = σ := if_pos (h5.trans q)
    rw [e]
    exact ⟨⟨hI, hv, h3, h4, h5, fun q2 => absurd q q2⟩, Or.inl q⟩
  · have q17 : ¬ σ 17 0 = 0 := by rw [h5]; exact q
    have e : stF σ = sf σ 18 (fun _ => σ 18 0 - 1) := if_neg q17
    rw [e]
    rcases hb with hb | ⟨c, hc, hc5, hj⟩
    · exact absurd hb q
    have e18 : σ 18 0 = nI (c - j) := by
      have h6 : σ 18 0 = if τ 4 0 = 0 then τ 5 0 else τ 5 0 - nI j := h6 q
      rw [if_neg q, hc5, pk_sub hj] at h6
      exact h6
    have hjc : j < c := by
      rcases Nat.lt_or_ge j c with r | r
      · exact r
      · exact absurd ⟨q17, by rw [e18, show c - j = 0 by omega]; rfl⟩ hn
    have e1 : σ 18 0 - 1 = nI (c - (j + 1)) := by
      rw [e18]
      have := pk_sub (a := c - j) (b := 1) (by omega)
      rw [show c - (j + 1) = c - j - 1 by omega]
      exact this
    refine ⟨⟨⟨hI.1, hI.2.1, hI.2.2.1, hI.2.2.2.1, hI.2.2.2.2.1, hI.2.2.2.2.2.1, hI.2.2.2.2.2.2.1, fun _ => ⟨c - (j + 1), by omega, e1⟩⟩, hv, h3, h4, h5, fun _ => ?_⟩, Or.inr ⟨c, hc, hc5, by omega⟩⟩
    show σ 18 0 - 1 = if τ 4 0 = 0 then τ 5 0 else τ 5 0 - nI (j + 1)
    rw [if_neg q, hc5, pk_sub (show j + 1 ≤ c by omega)]
    exact e1
theorem Rel_nbud {σ τ : fSt} {K j : Nat} (h : Rel σ (dcM τ j) K) (hb : bud τ j) (h17 : ¬ σ 17 0 = 0) (h18 : σ 18 0 = 0) : ¬ bud τ (j + 1) := by
  obtain ⟨hI, hv, h3, h4, h5, h6⟩ := h
  have h5 : σ 17 0 = τ 4 0 := h5
  have q : ¬ τ 4 0 = 0 := by rw [← h5]; exact h17
  rintro (q2 | ⟨c, hc, hc5, hj⟩)
  · exact q q2
  · have h6 : σ 18 0 = if τ 4 0 = 0 then τ 5 0 else τ 5 0 - nI j := h6 q
    rw [if_neg q, hc5, pk_sub (by omega), h18] at h6
    have := (nI_z (n := c - j) (by omega)).mp h6.symm
    omega
theorem bud_mono {τ : fSt} {j k : Nat} (h : bud τ k) (hj : j ≤ k) : bud τ j := by
  rcases h with h | ⟨c, a, b, e⟩
  · exact Or.inl h
  · exact Or.inr ⟨c, a, b, by omega⟩
theorem Rel_held {σ τ : fSt} {K : Nat} {g : Nat → Int32} (h : Rel σ τ K) : Rel (sf σ 16 g) τ K := h
end
section
set_option maxRecDepth 100000
theorem sf_sf (σ : fSt) (k : Nat) (g g' : Nat → Int32) : sf (sf σ k g) k g' = sf σ k g' := by
  funext j
  unfold sf
  by_cases h : j = k
  · rw [if_pos h, if_pos h]
  · rw [if_neg h, if_neg h, if_neg h]
theorem sf_self (σ : fSt) (k : Nat) : sf σ k (σ k) = σ := by
  funext j
  unfold sf
  by_cases h : j = k
  · rw [if_pos h, h]
  · rw [if_neg h]
theorem sf_comm (σ : fSt) {k k' : Nat} (g g' : Nat → Int32) (h : k ≠ k') : sf (sf σ k g) k' g' = sf (sf σ k' g') k g := by
  funext j
  unfold sf
  by_cases h1 : j = k'
  · have h2 : ¬ j = k := fun q => h (q.symm.trans h1)
    rw [if_pos h1, if_neg h2, if_pos h1]
  · rw [if_neg h1]
    by_cases h2 : j = k
    · rw [if_pos h2, if_pos h2]
    · rw [if_neg h2, if_neg h2, if_neg h1]
theorem atF_12 (σ : fSt) (nn : Int32) (hm hm' : Nat → Int32) : sf (atF σ nn hm) 12 hm' = atF σ nn hm' := sf_sf _ _ _ _
theorem atF_13 (σ : fSt) (nn nn' : Int32) (hm : Nat → Int32) : sf (atF σ nn hm) 13 (fun _ => nn') = atF σ nn' hm := by
  unfold atF
  rw [sf_comm _ _ _ (by decide), sf_sf]
/-- what provide leaves alone -/
def Sm (σ σ' : fSt) : Prop := ∀ k, k ≠ 0 → k ≠ 1 → k ≠ 2 → k ≠ 10 → k ≠ 11 → σ' k = σ k
theorem Sm.rf (σ : fSt) : Sm σ σ := fun _ _ _ _ _ _ => rfl
theorem Sm.er {σ σ' : fSt} (e : Nat) (h : Sm σ σ') : Sm σ (erF σ' e) := by
  intro k h0 h1 h2 h10 h11
  rw [← h k h0 h1 h2 h10 h11]
  unfold erF
  split
  · rw [sf_n _ _ h11, sf_n _ _ h10, sf_n _ _ h1]
  · rw [sf_n _ _ h2, sf_n _ _ h0]
/-- what a copy leaves alone -/
def Fr (σ σ' : fSt) (e : Nat) : Prop := σ' 12 = σ 12 ∧ σ' 16 = σ 16 ∧ σ' 15 = σ 15 ∧ σ' 14 = σ 14 ∧ ∀ e', e' < 16 → e' ≠ e → agr σ σ' e' ∧ ∀ i, i < 4 → σ' 9 (e' * 4 + i) = σ 9 (e' * 4 + i)
theorem Fr.st {σ σ' : fSt} {e : Nat} (h : Fr σ σ' e) : Fr σ (stF σ') e := by
  unfold stF
  split
  · exact h
  · exact h
theorem Fr.hd {σ σ' : fSt} {e : Nat} {b g : Int32} (h : Fr σ σ' e) : Fr σ (whF σ' e b g) e := by
  obtain ⟨h1, h2, h3, h4, h5⟩ := h
  refine ⟨h1, h2, h3, h4, fun e' he' hne => ⟨?_, (h5 e' he' hne).2⟩⟩
  obtain ⟨a0, a1, a3, a4, a5, a6, a7, a8⟩ := (h5 e' he' hne).1
  exact ⟨(pk_un hne).trans a0, a1, (pk_un hne).trans a3, (pk_un hne).trans a4, (pk_un hne).trans a5, (pk_un hne).trans a6, (pk_un hne).trans a7, (pk_un hne).trans a8⟩
theorem Fr.wd {σ σ' : fSt} {e f : Nat} {x : Int32} (h : Fr σ σ' e) (hf : f < 4) : Fr σ (wwF σ' e f x) e := by
  obtain ⟨h1, h2, h3, h4, h5⟩ := h
  refine ⟨h1, h2, h3, h4, fun e' he' hne => ⟨?_, fun i hi => (word_page hne hi hf).trans ((h5 e' he' hne).2 i hi)⟩⟩
  obtain ⟨a0, a1, a3, a4, a5, a6, a7, a8⟩ := (h5 e' he' hne).1
  exact ⟨a0, a1, a3, a4, a5, a6, a7, (pk_un hne).trans a8⟩
theorem Fr.rf (σ : fSt) (e : Nat) : Fr σ σ e := ⟨rfl, rfl, rfl, rfl, fun _ _ _ => ⟨⟨rfl, rfl, rfl, rfl, rfl, rfl, rfl, rfl⟩, fun _ _ => rfl⟩⟩
theorem Fr_fre {σ σ' : fSt} {e : Nat} (h : Fr σ σ' e) : cnt (fre σ) 16 ≤ cnt (fre σ') 16 + 1 := by
  have l1 : cnt (fre σ) 16 ≤ cnt (fre σ') 16 + cnt (fun e' => e' = e) 16 := cnt_two (fun e' he' q => by
    by_cases e2 : e' = e
    · exact Or.inr e2
    · obtain ⟨a0, a1, -⟩ := (h.2.2.2.2 e' he' e2).1
      refine Or.inl ⟨?_, ?_⟩
      · rw [a0]; exact q.1
      · rw [a1]; exact q.2)
  have l3 := cnt_one (p := fun e' => e' = e) 16 (fun a b _ _ qa qb => qa.trans qb.symm)
  omega
theorem Cp_st {σ : fSt} {b e n : Nat} {g : Int32} (h : Cp σ b e n g) : Cp (stF σ) b e n g := by
  unfold stF
  split
  · exact h
  · exact h
/-- a logical block's size and words on both sides -/
theorem vw_sz {σ τ : fSt} {b : Nat} (h : vwB σ τ b) : ∃ n, n ≤ 4 ∧ szF σ b = nI n ∧ τ 1 b = nI n ∧ hmOk σ b ∧ ((n = 0 ∧ σ 12 b = -1) ∨ (1 ≤ n ∧ ∃ e, e < 16 ∧ σ 12 b = nI e ∧ σ 8 e = nI n ∧ ∀ i, i < n → σ 9 (e * 4 + i) = τ 0 (4 * b + i))) := by
  rcases h with ⟨a, c⟩ | ⟨e, f, he, h1, f1, f4, h8, ht, hw⟩
  · exact ⟨0, by omega, by rw [szF, a, if_pos neg1_lt]; rfl, c, Or.inl a, Or.inl ⟨rfl, a⟩⟩
  · exact ⟨f, f4, by rw [szF, h1, if_neg (nI_pos (by omega)), nI_clamp (by omega)]; exact h8, ht, Or.inr ⟨e, he, h1⟩, Or.inr ⟨f1, e, he, h1, h8, hw⟩⟩
end
section
set_option maxRecDepth 100000
set_option maxHeartbeats 4000000 in
/-- reclaim -/
theorem c_reclaim (d : Nat → Nat) (σ : fSt)  : CFi d yX0_reclaim cX0_reclaim 4 .boolean (rmF 1 23) σ [] (fun r σ' => (r = 0 ∧ σ = σ' ∧ ∀ e, e < 16 → ¬ opn σ e) ∨ (r = 1 ∧ ∃ e, e < 16 ∧ opn σ e ∧ (∀ e', e' < 16 → opn σ e' → nm σ e ≤ nm σ e') ∧ σ' = erF σ e)) := by
  refine CMi.of (own := RX0) (by decide +kernel) rfl (Nat.le_of_ble_eq_true rfl) (by simp [Value.category]) (fun _ _ h => by rcases h with ⟨rfl, _⟩ | ⟨rfl, _⟩ <;> decide +kernel) ?_
  intro X hX hR
  have lp : ∀ (n i : Nat) (x : Int32), i ≤ 16 → 16 - i < n → ((x = -1 ∧ ∀ j, j < i → ¬ opn σ j) ∨ ∃ j, j < i ∧ opn σ j ∧ (∀ j', j' < i → opn σ j' → nm σ j ≤ nm σ j') ∧ x = nI j) → V X (wF d σ) [.ref (d 19), .int x, .int (nI i)] 4 [] := by
    intro n
    induction n with
    | zero => intro i x _ h; exact absurd h (Nat.not_lt_zero _)
    | succ n ih =>
      intro i x hi hn I
      refine V_iln hX 2 dX0_reclaim_4 rfl rfl ?_
      refine V_bipush hX (v := nI 16) dX0_reclaim_5 (by decide +kernel) ?_
      refine V_ic_geN hX (tgt := 73) dX0_reclaim_7 (by decide) (by omega) (by omega) (fun c7 => ?_) (fun c7 => ?_)
      · have e8 : i = 16 := by omega
        subst e8
        refine V_iln hX 1 dX0_reclaim_73 rfl rfl ?_
        refine V_if_ge hX (tgt := 79) dX0_reclaim_74 (by decide) (fun c74 => ?_) (fun c74 => ?_)
        · obtain ⟨j, hj, hoj, hmin, rfl⟩ : ∃ j, j < 16 ∧ opn σ j ∧ (∀ j', j' < 16 → opn σ j' → nm σ j ≤ nm σ j') ∧ x = nI j := by
            rcases I with ⟨rfl, _⟩ | h
            · exact absurd c74 (by decide)
            · exact h
          refine V_aln hX 0 dX0_reclaim_79 rfl rfl ?_
          refine V_iln hX 1 dX0_reclaim_80 rfl rfl ?_
          refine V_callv (n := 1) hX (c_erase d σ j hj) rfl rfl rfl (lw_V q134 q136 qs8 q20 q137) rfl rfl (by decide +kernel) ⟨Nat.le_of_ble_eq_true rfl, Nat.le_of_ble_eq_true rfl⟩ rfl rfl (Nat.le_of_ble_eq_true rfl) dX0_reclaim_81 (fun s81 h81 => ?_)
          refine V_iconst hX (v := 1) dX0_reclaim_84 (by decide +kernel) ?_
          exact hR _ _ (Or.inr ⟨rfl, j, hj, hoj, hmin, h81⟩) _ _ dX0_reclaim_85
        · obtain ⟨rfl, hno⟩ : x = -1 ∧ ∀ j, j < 16 → ¬ opn σ j := by
            rcases I with h | ⟨j, hj, _, _, rfl⟩
            · exact h
            · exact absurd (nI_pos' (by omega)) c74
          refine V_iconst hX (v := 0) dX0_reclaim_77 (by decide +kernel) ?_
          exact hR _ _ (Or.inl ⟨rfl, rfl, hno⟩) _ _ dX0_reclaim_78
      · refine V_aln hX 0 dX0_reclaim_10 rfl rfl ?_
        refine F_get hX 0 (by decide) q38 rfl dX0_reclaim_11 ?_
        refine V_iln hX 2 dX0_reclaim_14 rfl rfl ?_
        refine F_zld hX rfl (by first | assumption | omega) dX0_reclaim_15 ?_
        refine V_if_ne hX (tgt := 40) dX0_reclaim_16 (by decide) (fun c16 => ?_) (fun c16 => ?_)
        · refine V_iconst hX (v := 0) dX0_reclaim_40 (by decide +kernel) ?_
          refine V_isn hX 3 dX0_reclaim_41 rfl (Nat.le_of_ble_eq_true rfl) (Nat.le_of_ble_eq_true rfl) ?_
          dsimp only [lput]
          refine V_iln hX 3 dX0_reclaim_42 rfl rfl ?_
          refine V_if_eq hX (tgt := 67) dX0_reclaim_43 (by decide) (fun c43 => ?_) (fun c43 => ?_)
          · refine V_inc hX dX0_reclaim_67 (Nat.le_of_ble_eq_true rfl) rfl (nI_inc _) ?_
            dsimp only [lput]
            refine V_goto hX (tgt := 4) dX0_reclaim_70 (by decide) ?_
            refine V_take 3 ?_
            refine ih (i + 1) x (by omega) (by omega) ?_
            have hno : ¬ opn σ i := fun h => c16 h.1
            rcases I with ⟨e0, I⟩ | ⟨j, hj, hoj, hmin, e0⟩
            · refine Or.inl ⟨e0, fun j hj h => ?_⟩
              by_cases q : j = i
              · rw [q] at h; exact hno h
              · exact I j (by omega) h
            · refine Or.inr ⟨j, by omega, hoj, fun j' hj' h => ?_, e0⟩
              by_cases q : j' = i
              · rw [q] at h; exact absurd h hno
              · exact hmin j' (by omega) h
          · exact absurd rfl c43
        · refine V_aln hX 0 dX0_reclaim_19 rfl rfl ?_
          refine F_get hX 1 (by decide) q39 rfl dX0_reclaim_20 ?_
          refine V_iln hX 2 dX0_reclaim_23 rfl rfl ?_
          refine F_zld hX rfl (by first | assumption | omega) dX0_reclaim_24 ?_
          refine V_if_ne hX (tgt := 40) dX0_reclaim_25 (by decide) (fun c25 => ?_) (fun c25 => ?_)
          · refine V_iconst hX (v := 0) dX0_reclaim_40 (by decide +kernel) ?_
            refine V_isn hX 3 dX0_reclaim_41 rfl (Nat.le_of_ble_eq_true rfl) (Nat.le_of_ble_eq_true rfl) ?_
            dsimp only [lput]
            refine V_iln hX 3 dX0_reclaim_42 rfl rfl ?_
            refine V_if_eq hX (tgt := 67) dX0_reclaim_43 (by decide) (fun c43 => ?_) (fun c43 => ?_)
            · refine V_inc hX dX0_reclaim_67 (Nat.le_of_ble_eq_true rfl) rfl (nI_inc _) ?_
              dsimp only [lput]
              refine V_goto hX (tgt := 4) dX0_reclaim_70 (by decide) ?_
              refine V_take 3 ?_
              refine ih (i + 1) x (by omega) (by omega) ?_
              have hno : ¬ opn σ i := fun h => c25 h.2.1
              rcases I with ⟨e0, I⟩ | ⟨j, hj, hoj, hmin, e0⟩
              · refine Or.inl ⟨e0, fun j hj h => ?_⟩
                by_cases q : j = i
                · rw [q] at h; exact hno h
                · exact I j (by omega) h
              · refine Or.inr ⟨j, by omega, hoj, fun j' hj' h => ?_, e0⟩
                by_cases q : j' = i
                · rw [q] at h; exact absurd h hno
                · exact hmin j' (by omega) h
            · exact absurd rfl c43
          · refine V_aln hX 0 dX0_reclaim_28 rfl rfl ?_
            refine V_iln hX 2 dX0_reclaim_29 rfl rfl ?_
            refine V_calli (n := 1) hX (c_inUse d σ i c7) rfl rfl rfl (lw_V q130 q132 qs7 q20 q133) rfl rfl (by decide +kernel) ⟨Nat.le_of_ble_eq_true rfl, Nat.le_of_ble_eq_true rfl⟩ rfl rfl (Nat.le_of_ble_eq_true rfl) dX0_reclaim_30 (fun r30 s30 h30 => ?_)
            obtain ⟨rfl, h30⟩ := h30
            refine V_if_ne hX (tgt := 40) dX0_reclaim_33 (by decide) (fun c33 => ?_) (fun c33 => ?_)
            · refine V_iconst hX (v := 0) dX0_reclaim_40 (by decide +kernel) ?_
              refine V_isn hX 3 dX0_reclaim_41 rfl (Nat.le_of_ble_eq_true rfl) (Nat.le_of_ble_eq_true rfl) ?_
              dsimp only [lput]
              refine V_iln hX 3 dX0_reclaim_42 rfl rfl ?_
              refine V_if_eq hX (tgt := 67) dX0_reclaim_43 (by decide) (fun c43 => ?_) (fun c43 => ?_)
              · refine V_inc hX dX0_reclaim_67 (Nat.le_of_ble_eq_true rfl) rfl (nI_inc _) ?_
                dsimp only [lput]
                refine V_goto hX (tgt := 4) dX0_reclaim_70 (by decide) ?_
                refine V_take 3 ?_
                refine ih (i + 1) x (by omega) (by omega) ?_
                have hno : ¬ opn σ i := fun h => h.2.2 (h30.nz c33)
                rcases I with ⟨e0, I⟩ | ⟨j, hj, hoj, hmin, e0⟩
                · refine Or.inl ⟨e0, fun j hj h => ?_⟩
                  by_cases q : j = i
                  · rw [q] at h; exact hno h
                  · exact I j (by omega) h
                · refine Or.inr ⟨j, by omega, hoj, fun j' hj' h => ?_, e0⟩
                  by_cases q : j' = i
                  · rw [q] at h; exact absurd h hno
                  · exact hmin j' (by omega) h
              · exact absurd rfl c43
            · refine V_iconst hX (v := 1) dX0_reclaim_36 (by decide +kernel) ?_
              refine V_goto hX (tgt := 41) dX0_reclaim_37 (by decide) ?_
              refine V_isn hX 3 dX0_reclaim_41 rfl (Nat.le_of_ble_eq_true rfl) (Nat.le_of_ble_eq_true rfl) ?_
              dsimp only [lput]
              refine V_iln hX 3 dX0_reclaim_42 rfl rfl ?_
              refine V_if_eq hX (tgt := 67) dX0_reclaim_43 (by decide) (fun c43 => ?_) (fun c43 => ?_)
              · exact absurd c43 (by decide)
              · refine V_iln hX 1 dX0_reclaim_46 rfl rfl ?_
                refine V_if_lt hX (tgt := 65) dX0_reclaim_47 (by decide) (fun c47 => ?_) (fun c47 => ?_)
                · refine V_iln hX 2 dX0_reclaim_65 rfl rfl ?_
                  refine V_isn hX 1 dX0_reclaim_66 rfl (Nat.le_of_ble_eq_true rfl) (Nat.le_of_ble_eq_true rfl) ?_
                  dsimp only [lput]
                  refine V_inc hX dX0_reclaim_67 (Nat.le_of_ble_eq_true rfl) rfl (nI_inc _) ?_
                  dsimp only [lput]
                  refine V_goto hX (tgt := 4) dX0_reclaim_70 (by decide) ?_
                  refine V_take 3 ?_
                  refine ih (i + 1) (nI i) (by omega) (by omega) (Or.inr ⟨i, by omega, ⟨c16, c25, h30.z c33⟩, fun j' hj' h => ?_, rfl⟩)
                  rcases I with ⟨e0, I⟩ | ⟨j, hj, hoj, hmin, e0⟩
                  · by_cases q : j' = i
                    · rw [q]; exact Int.le_refl _
                    · exact absurd h (I j' (by omega))
                  · exact absurd c47 (by rw [e0]; exact nI_pos (by omega))
                · obtain ⟨j, hj, hoj, hmin, rfl⟩ : ∃ j, j < i ∧ opn σ j ∧ (∀ j', j' < i → opn σ j' → nm σ j ≤ nm σ j') ∧ x = nI j := by
                    rcases I with ⟨rfl, _⟩ | h
                    · exact absurd neg1_lt c47
                    · exact h
                  refine V_aln hX 0 dX0_reclaim_50 rfl rfl ?_
                  refine F_get hX 4 (by decide) q42 rfl dX0_reclaim_51 ?_
                  refine V_iln hX 2 dX0_reclaim_54 rfl rfl ?_
                  refine F_ild hX rfl (by first | assumption | omega) dX0_reclaim_55 ?_
                  refine V_aln hX 0 dX0_reclaim_56 rfl rfl ?_
                  refine F_get hX 4 (by decide) q42 rfl dX0_reclaim_57 ?_
                  refine V_iln hX 1 dX0_reclaim_60 rfl rfl ?_
                  refine F_ild hX rfl (by first | assumption | omega) dX0_reclaim_61 ?_
                  refine V_ic_ge hX (tgt := 67) dX0_reclaim_62 (by decide) (fun c62 => ?_) (fun c62 => ?_)
                  · refine V_inc hX dX0_reclaim_67 (Nat.le_of_ble_eq_true rfl) rfl (nI_inc _) ?_
                    dsimp only [lput]
                    refine V_goto hX (tgt := 4) dX0_reclaim_70 (by decide) ?_
                    refine V_take 3 ?_
                    refine ih (i + 1) (nI j) (by omega) (by omega) (Or.inr ⟨j, by omega, hoj, fun j' hj' h => ?_, rfl⟩)
                    by_cases q : j' = i
                    · rw [q]; exact Int32.le_iff_toInt_le.mp c62
                    · exact hmin j' (by omega) h
                  · refine V_iln hX 2 dX0_reclaim_65 rfl rfl ?_
                    refine V_isn hX 1 dX0_reclaim_66 rfl (Nat.le_of_ble_eq_true rfl) (Nat.le_of_ble_eq_true rfl) ?_
                    dsimp only [lput]
                    refine V_inc hX dX0_reclaim_67 (Nat.le_of_ble_eq_true rfl) rfl (nI_inc _) ?_
                    dsimp only [lput]
                    refine V_goto hX (tgt := 4) dX0_reclaim_70 (by decide) ?_
                    refine V_take 3 ?_
                    refine ih (i + 1) (nI i) (by omega) (by omega) (Or.inr ⟨i, by omega, ⟨c16, c25, h30.z c33⟩, fun j' hj' h => ?_, rfl⟩)
                    have l1 : nm σ i < nm σ j := Int.not_le.mp (fun q => c62 (Int32.le_iff_toInt_le.mpr q))
                    by_cases q : j' = i
                    · rw [q]; exact Int.le_refl _
                    · have := hmin j' (by omega) h
                      omega
  refine V_iconst hX (v := (-1)) dX0_reclaim_0 (by decide +kernel) ?_
  refine V_isn hX 1 dX0_reclaim_1 rfl (Nat.le_of_ble_eq_true rfl) (Nat.le_of_ble_eq_true rfl) ?_
  dsimp only [lput]
  refine V_iconst hX (v := 0) dX0_reclaim_2 (by decide +kernel) ?_
  refine V_isn hX 2 dX0_reclaim_3 rfl (Nat.le_of_ble_eq_true rfl) (Nat.le_of_ble_eq_true rfl) ?_
  dsimp only [lput]
  exact lp 17 0 (-1) (by omega) (by omega) (Or.inl ⟨rfl, fun j hj => absurd hj (Nat.not_lt_zero _)⟩)
set_option maxHeartbeats 4000000 in
/-- provide -/
theorem c_provide (d : Nat → Nat) (σ : fSt) {τ : fSt} {K : Nat} (h : Rel σ τ K) (hK : K < 2 ^ 31) : CFv d yX0_provide cX0_provide 2 (rmF 2 46) σ [] (fun σ' => Rel σ' τ K ∧ Sm σ σ' ∧ 2 ≤ cnt (fre σ') 16) := by
  refine CMv.of (own := RX0) (by decide +kernel) rfl (Nat.le_of_ble_eq_true rfl) (by simp [Value.category]) ?_
  intro X hX hR
  have lp : ∀ (n i : Nat) (σ1 : fSt), i ≤ 16 → 16 - i < n → (Rel σ1 τ K ∧ cnt (opn σ1) 16 + i ≤ 16 ∧ Sm σ σ1) → V X (wF d σ1) [.ref (d 19), .int (nI i)] 2 [] := by
    intro n
    induction n with
    | zero => intro i σ1 _ h; exact absurd h (Nat.not_lt_zero _)
    | succ n ih =>
      intro i σ1 hi hn I
      refine V_iln hX 1 dX0_provide_2 rfl rfl ?_
      refine V_bipush hX (v := nI 16) dX0_provide_3 (by decide +kernel) ?_
      refine V_ic_geN hX (tgt := 27) dX0_provide_5 (by decide) (by omega) (by omega) (fun c5 => ?_) (fun c5 => ?_)
      · have e8 : i = 16 := by omega
        subst e8
        refine hR _ ⟨I.1, I.2.2, ?_⟩ _ _ dX0_provide_27
        have f5 := five I.1.1
        have := I.2.1
        omega
      · refine V_aln hX 0 dX0_provide_8 rfl rfl ?_
        refine V_calli (n := 0) hX (c_cleanBlocks d σ1) rfl rfl rfl (lw_V q122 q124 qs5 q20 q125) rfl rfl (by decide +kernel) ⟨Nat.le_of_ble_eq_true rfl, Nat.le_of_ble_eq_true rfl⟩ rfl rfl (Nat.le_of_ble_eq_true rfl) dX0_provide_9 (fun r9 s9 h9 => ?_)
        obtain ⟨rfl, rfl⟩ := h9
        have l9 := cnt_le (fre σ1) 16
        refine V_iconst hX (v := nI 2) dX0_provide_12 (by decide +kernel) ?_
        refine V_ic_geN hX (tgt := 27) dX0_provide_13 (by decide) (by omega) (by omega) (fun c13 => ?_) (fun c13 => ?_)
        · exact hR _ ⟨I.1, I.2.2, c13⟩ _ _ dX0_provide_27
        · refine V_aln hX 0 dX0_provide_16 rfl rfl ?_
          refine V_calli (n := 0) hX (c_reclaim d σ1) rfl rfl rfl (lw_V q126 q128 qs6 q20 q129) rfl rfl (by decide +kernel) ⟨Nat.le_of_ble_eq_true rfl, Nat.le_of_ble_eq_true rfl⟩ rfl rfl (Nat.le_of_ble_eq_true rfl) dX0_provide_17 (fun r17 s17 h17 => ?_)
          obtain ⟨e, he, ho, hmin, rfl⟩ : ∃ e, e < 16 ∧ opn σ1 e ∧ (∀ e', e' < 16 → opn σ1 e' → nm σ1 e ≤ nm σ1 e') ∧ s17 = erF σ1 e := by
            rcases h17 with ⟨_, _, hno⟩ | ⟨_, h⟩
            · have z := cnt_none hno
              have f5 := five I.1.1
              omega
            · exact h
          obtain ⟨hr', hc'⟩ := Rel_erase I.1 hK he ho hmin
          refine V_pop hX dX0_provide_20 rfl ?_
          refine V_inc hX dX0_provide_21 (Nat.le_of_ble_eq_true rfl) rfl (nI_inc _) ?_
          dsimp only [lput]
          refine V_goto hX (tgt := 2) dX0_provide_24 (by decide) ?_
          exact ih (i + 1) (erF σ1 e) (by omega) (by omega) ⟨hr', by have := I.2.1; omega, I.2.2.er e⟩
  refine V_iconst hX (v := 0) dX0_provide_0 (by decide +kernel) ?_
  refine V_isn hX 1 dX0_provide_1 rfl (Nat.le_of_ble_eq_true rfl) (Nat.le_of_ble_eq_true rfl) ?_
  dsimp only [lput]
  exact lp 17 0 σ (by omega) (by omega) ⟨h, by have := cnt_le (opn σ) 16; omega, Sm.rf σ⟩
end
section
set_option maxRecDepth 100000
/-- attach's second loop: what is found below i -/
def atH (σ : fSt) (i b : Nat) (h : Int32) : Prop := (h = -1 ∧ ∀ e, e < i → ¬ (sd σ e ∧ σ 3 e = nI b)) ∨ ∃ e, e < i ∧ h = nI e ∧ sd σ e ∧ σ 3 e = nI b ∧ ∀ e', e' < i → sd σ e' → σ 3 e' = nI b → nm σ e' ≤ nm σ e
def atN (σ : fSt) (i : Nat) (nn : Int32) : Prop := ∃ N : Nat, nn = nI N ∧ N ≤ 2 ^ 30 ∧ (N = 1 ∨ ∃ e, e < i ∧ lvb σ e ∧ nm σ e + 1 = N) ∧ ∀ e, e < i → lvb σ e → nm σ e < N
theorem atH_skip {σ : fSt} {i b : Nat} {h : Int32} (a : atH σ i b h) (hn : ¬ (sd σ i ∧ σ 3 i = nI b)) : atH σ (i + 1) b h := by
  rcases a with ⟨e0, a⟩ | ⟨e, he, e0, s, o, m⟩
  · refine Or.inl ⟨e0, fun e he q => ?_⟩
    by_cases q1 : e = i
    · rw [q1] at q; exact hn q
    · exact a e (by omega) q
  · refine Or.inr ⟨e, by omega, e0, s, o, fun e' he' s' o' => ?_⟩
    by_cases q1 : e' = i
    · rw [q1] at s' o'; exact absurd ⟨s', o'⟩ hn
    · exact m e' (by omega) s' o'
theorem atN_skip {σ : fSt} {i : Nat} {nn : Int32} (a : atN σ i nn) (hn : lvb σ i → σ 4 i < nn) : atN σ (i + 1) nn := by
  obtain ⟨N, e0, hN, h1, h2⟩ := a
  refine ⟨N, e0, hN, ?_, fun e he l => ?_⟩
  · rcases h1 with h1 | ⟨e, he, l, q⟩
    · exact Or.inl h1
    · exact Or.inr ⟨e, by omega, l, q⟩
  · by_cases q1 : e = i
    · rw [q1] at l ⊢
      have := Int32.lt_iff_toInt_lt.mp (hn l)
      rw [e0, nI_toInt (by omega)] at this
      exact this
    · exact h2 e (by omega) l
theorem atN_put {σ : fSt} {i : Nat} {nn : Int32} (a : atN σ i nn) (l : lvb σ i) (hb : 0 ≤ nm σ i ∧ nm σ i < 2 ^ 30) (hn : ¬ σ 4 i < nn) : atN σ (i + 1) (σ 4 i + 1) := by
  obtain ⟨N, e0, hN, h1, h2⟩ := a
  obtain ⟨m, hm⟩ : ∃ m : Nat, nm σ i = m := ⟨(nm σ i).toNat, by omega⟩
  have e4 : σ 4 i = nI m := by
    apply Int32.toInt_inj.mp
    rw [nI_toInt (by omega)]
    exact hm
  have hge : (N : Int) ≤ nm σ i := by
    have : ¬ (σ 4 i).toInt < nn.toInt := fun q => hn (Int32.lt_iff_toInt_lt.mpr q)
    rw [e0, nI_toInt (by omega)] at this
    have e : (σ 4 i).toInt = nm σ i := rfl
    omega
  refine ⟨m + 1, by rw [e4]; exact nI_1 m, by omega, Or.inr ⟨i, by omega, l, by omega⟩, fun e he l' => ?_⟩
  by_cases q1 : e = i
  · rw [q1]; omega
  · have := h2 e (by omega) l'
    omega
def atP (σ : fSt) (b : Nat) (h : Int32) : Prop := (h = -1 ∧ ∀ e, e < 16 → ¬ (sd σ e ∧ σ 3 e = nI b)) ∨ ∃ e, h = nI e ∧ isNew σ b e
theorem atH_16 {σ : fSt} {b : Nat} {h : Int32} (a : atH σ 16 b h) : atP σ b h := by
  rcases a with a | ⟨e, he, e0, s, o, m⟩
  · exact Or.inl a
  · exact Or.inr ⟨e, e0, he, s, o, m⟩
set_option maxHeartbeats 4000000 in
/-- attach -/
theorem c_attach (d : Nat → Nat) (σ : fSt) (hI1 : I1 σ) (hI2 : ∀ e, e < 16 → lvb σ e → 0 ≤ nm σ e ∧ nm σ e < 2 ^ 30) (hI3 : I3 σ) : CFv d yX0_attach cX0_attach 3 (rmF 1 21) σ [] (fun σ' => ∃ (nn : Int32) (hm : Nat → Int32), σ' = atF σ nn hm ∧ atS σ nn hm) := by
  refine CMv.of (own := RX0) (by decide +kernel) rfl (Nat.le_of_ble_eq_true rfl) (by simp [Value.category]) ?_
  intro X hX hR
  have lp3 : ∀ (nn : Int32) (_ : atN σ 16 nn) (n i : Nat) (hm : Nat → Int32), i ≤ 8 → 8 - i < n → (∀ b, b < 8 → (b < i → hsp σ b (hm b)) ∧ (¬ b < i → atP σ b (hm b))) → V X (wF d (atF σ nn hm)) [.ref (d 19), .int (nI i)] 146 [] := by
    intro nn hNN n
    induction n with
    | zero => intro i hm _ h; exact absurd h (Nat.not_lt_zero _)
    | succ n ih =>
      intro i hm hi hn I
      refine V_iln hX 1 dX0_attach_146 rfl rfl ?_
      refine V_bipush hX (v := nI 8) dX0_attach_147 (by decide +kernel) ?_
      refine V_ic_geN hX (tgt := 194) dX0_attach_149 (by decide) (by omega) (by omega) (fun c149 => ?_) (fun c149 => ?_)
      · have e8 : i = 8 := by omega
        subst e8
        refine hR _ ⟨nn, hm, rfl, fun b hb => (I b hb).1 hb, ?_⟩ _ _ dX0_attach_194
        obtain ⟨N, e0, _, h1, h2⟩ := hNN
        exact ⟨N, e0, h1, h2⟩
      · refine V_aln hX 0 dX0_attach_152 rfl rfl ?_
        refine F_get hX 12 (by decide) q50 rfl dX0_attach_153 ?_
        refine V_iln hX 1 dX0_attach_156 rfl rfl ?_
        refine F_ild hX rfl (by first | assumption | omega) dX0_attach_157 ?_
        refine V_isn hX 2 dX0_attach_158 rfl (Nat.le_of_ble_eq_true rfl) (Nat.le_of_ble_eq_true rfl) ?_
        dsimp only [lput]
        refine V_iln hX 2 dX0_attach_159 rfl rfl ?_
        refine V_if_lt hX (tgt := 188) dX0_attach_160 (by decide) (fun c160 => ?_) (fun c160 => ?_)
        · refine V_inc hX dX0_attach_188 (Nat.le_of_ble_eq_true rfl) rfl (nI_inc _) ?_
          dsimp only [lput]
          refine V_goto hX (tgt := 146) dX0_attach_191 (by decide) ?_
          refine V_take 2 ?_
          refine ih (i + 1) hm (by omega) (by omega) (fun b hb => ⟨fun q => ?_, fun q => (I b hb).2 (by omega)⟩)
          by_cases q1 : b = i
          · subst q1
            rcases (I b hb).2 (by omega) with ⟨a, a2⟩ | ⟨e, a, a2⟩
            · exact Or.inl ⟨a, fun e hw => absurd ⟨hw.2.1, hw.2.2.1⟩ (a2 e hw.1)⟩
            · exact absurd c160 (by show ¬ hm b < 0; rw [a]; exact nI_pos (by have := a2.1; omega))
          · exact (I b hb).1 (by omega)
        · obtain ⟨e, he, hw⟩ : ∃ e, hm i = nI e ∧ isNew σ i e := by
            rcases (I i c149).2 (by omega) with ⟨a, _⟩ | a
            · exact absurd (show hm i < 0 by rw [a]; exact neg1_lt) c160
            · exact a
          have he16 := hw.1
          refine V_L (L' := [.ref (d 19), .int (nI i), .int (nI e)]) (by rw [← he]; rfl) ?_
          refine V_aln hX 0 dX0_attach_163 rfl rfl ?_
          refine F_get hX 7 (by decide) q45 rfl dX0_attach_164 ?_
          refine V_iln hX 2 dX0_attach_167 rfl rfl ?_
          refine F_zld hX rfl (by first | assumption | omega) dX0_attach_168 ?_
          refine V_if_ne hX (tgt := 181) dX0_attach_169 (by decide) (fun c169 => ?_) (fun c169 => ?_)
          · refine V_aln hX 0 dX0_attach_181 rfl rfl ?_
            refine F_get hX 12 (by decide) q50 rfl dX0_attach_182 ?_
            refine V_iln hX 1 dX0_attach_185 rfl rfl ?_
            refine V_iconst hX (v := (-1)) dX0_attach_186 (by decide +kernel) ?_
            refine F_ist hX rfl (by first | assumption | omega) dX0_attach_187 ?_
            refine V_w (w' := wF d (atF σ nn (upd hm i (-1)))) (by rw [atF_12]; rfl) ?_
            refine V_inc hX dX0_attach_188 (Nat.le_of_ble_eq_true rfl) rfl (nI_inc _) ?_
            dsimp only [lput]
            refine V_goto hX (tgt := 146) dX0_attach_191 (by decide) ?_
            refine V_take 2 ?_
            refine ih (i + 1) (upd hm i (-1)) (by omega) (by omega) (fun b hb => ⟨fun q => ?_, fun q => ?_⟩)
            · by_cases q1 : b = i
              · subst q1
                rw [pk_us]
                refine Or.inl ⟨rfl, fun e1 hw1 => ?_⟩
                rw [new_uniq hI3 hw1 hw]
                exact Or.inl c169
              · rw [pk_un q1]; exact (I b hb).1 (by omega)
            · rw [pk_un (by omega)]; exact (I b hb).2 (by omega)
          · refine V_aln hX 0 dX0_attach_172 rfl rfl ?_
            refine F_get hX 8 (by decide) q46 rfl dX0_attach_173 ?_
            refine V_iln hX 2 dX0_attach_176 rfl rfl ?_
            refine F_ild hX rfl (by first | assumption | omega) dX0_attach_177 ?_
            refine V_if_ne hX (tgt := 188) dX0_attach_178 (by decide) (fun c178 => ?_) (fun c178 => ?_)
            · refine V_inc hX dX0_attach_188 (Nat.le_of_ble_eq_true rfl) rfl (nI_inc _) ?_
              dsimp only [lput]
              refine V_goto hX (tgt := 146) dX0_attach_191 (by decide) ?_
              refine V_take 2 ?_
              refine ih (i + 1) hm (by omega) (by omega) (fun b hb => ⟨fun q => ?_, fun q => (I b hb).2 (by omega)⟩)
              by_cases q1 : b = i
              · subst q1
                exact Or.inr ⟨e, he, hw, c169, c178⟩
              · exact (I b hb).1 (by omega)
            · refine V_aln hX 0 dX0_attach_181 rfl rfl ?_
              refine F_get hX 12 (by decide) q50 rfl dX0_attach_182 ?_
              refine V_iln hX 1 dX0_attach_185 rfl rfl ?_
              refine V_iconst hX (v := (-1)) dX0_attach_186 (by decide +kernel) ?_
              refine F_ist hX rfl (by first | assumption | omega) dX0_attach_187 ?_
              refine V_w (w' := wF d (atF σ nn (upd hm i (-1)))) (by rw [atF_12]; rfl) ?_
              refine V_inc hX dX0_attach_188 (Nat.le_of_ble_eq_true rfl) rfl (nI_inc _) ?_
              dsimp only [lput]
              refine V_goto hX (tgt := 146) dX0_attach_191 (by decide) ?_
              refine V_take 2 ?_
              refine ih (i + 1) (upd hm i (-1)) (by omega) (by omega) (fun b hb => ⟨fun q => ?_, fun q => ?_⟩)
              · by_cases q1 : b = i
                · subst q1
                  rw [pk_us]
                  refine Or.inl ⟨rfl, fun e1 hw1 => ?_⟩
                  rw [new_uniq hI3 hw1 hw]
                  exact Or.inr c178
                · rw [pk_un q1]; exact (I b hb).1 (by omega)
              · rw [pk_un (by omega)]; exact (I b hb).2 (by omega)
  have lp2 : ∀ (n i : Nat) (nn : Int32) (hm : Nat → Int32), i ≤ 16 → 16 - i < n → ((∀ b, b < 8 → atH σ i b (hm b)) ∧ atN σ i nn) → V X (wF d (atF σ nn hm)) [.ref (d 19), .int (nI i)] 38 [] := by
    intro n
    induction n with
    | zero => intro i nn hm _ h; exact absurd h (Nat.not_lt_zero _)
    | succ n ih =>
      intro i nn hm hi hn I
      have j87 : ∀ nn' : Int32, atN σ (i + 1) nn' → i < 16 → V X (wF d (atF σ nn' hm)) [.ref (d 19), .int (nI i)] 87 [] := by
        intro nn' hN' c41
        refine V_aln hX 0 dX0_attach_87 rfl rfl ?_
        refine V_iln hX 1 dX0_attach_88 rfl rfl ?_
        refine V_calli (n := 1) hX (c_sound d (atF σ nn' hm) i c41) rfl rfl rfl (lw_V q34 q36 qs1 q20 q37) rfl rfl (by decide +kernel) ⟨Nat.le_of_ble_eq_true rfl, Nat.le_of_ble_eq_true rfl⟩ rfl rfl (Nat.le_of_ble_eq_true rfl) dX0_attach_89 (fun r89 s89 h89 => ?_)
        obtain ⟨rfl, h89⟩ := h89
        have h89 : bo r89 (sd σ i) := h89
        refine V_if_eq hX (tgt := 138) dX0_attach_92 (by decide) (fun c92 => ?_) (fun c92 => ?_)
        · refine V_inc hX dX0_attach_138 (Nat.le_of_ble_eq_true rfl) rfl (nI_inc _) ?_
          dsimp only [lput]
          refine V_goto hX (tgt := 38) dX0_attach_141 (by decide) ?_
          refine V_take 2 ?_
          exact ih (i + 1) nn' hm (by omega) (by omega) ⟨fun b hb => atH_skip (I.1 b hb) (fun q => h89.z c92 q.1), hN'⟩
        · have hs : sd σ i := h89.nz c92
          obtain ⟨b, hb, ho⟩ := hI1 i c41 (sd_lv hs)
          refine V_aln hX 0 dX0_attach_95 rfl rfl ?_
          refine F_get hX 3 (by decide) q41 rfl dX0_attach_96 ?_
          refine V_iln hX 1 dX0_attach_99 rfl rfl ?_
          refine F_ild hX rfl (by first | assumption | omega) dX0_attach_100 ?_
          refine V_top (y := nI b) ho ?_
          refine V_isn hX 2 dX0_attach_101 rfl (Nat.le_of_ble_eq_true rfl) (Nat.le_of_ble_eq_true rfl) ?_
          dsimp only [lput]
          refine V_aln hX 0 dX0_attach_102 rfl rfl ?_
          refine F_get hX 12 (by decide) q50 rfl dX0_attach_103 ?_
          refine V_iln hX 2 dX0_attach_106 rfl rfl ?_
          refine F_ild hX rfl (by first | assumption | omega) dX0_attach_107 ?_
          refine V_if_lt hX (tgt := 131) dX0_attach_108 (by decide) (fun c108 => ?_) (fun c108 => ?_)
          · refine V_aln hX 0 dX0_attach_131 rfl rfl ?_
            refine F_get hX 12 (by decide) q50 rfl dX0_attach_132 ?_
            refine V_iln hX 2 dX0_attach_135 rfl rfl ?_
            refine V_iln hX 1 dX0_attach_136 rfl rfl ?_
            refine F_ist hX rfl (by first | assumption | omega) dX0_attach_137 ?_
            refine V_w (w' := wF d (atF σ nn' (upd hm b (nI i)))) (by rw [atF_12]; rfl) ?_
            refine V_inc hX dX0_attach_138 (Nat.le_of_ble_eq_true rfl) rfl (nI_inc _) ?_
            dsimp only [lput]
            refine V_goto hX (tgt := 38) dX0_attach_141 (by decide) ?_
            refine V_take 2 ?_
            refine ih (i + 1) nn' (upd hm b (nI i)) (by omega) (by omega) ⟨fun b' hb' => ?_, hN'⟩
            by_cases q : b' = b
            · subst q
              rw [pk_us]
              refine Or.inr ⟨i, by omega, rfl, hs, ho, fun e' he' s' o' => ?_⟩
              by_cases q1 : e' = i
              · rw [q1]; exact Int.le_refl _
              · rcases I.1 b' hb with ⟨_, a⟩ | ⟨e, he, e0, _⟩
                · exact absurd ⟨s', o'⟩ (a e' (by omega))
                · exact absurd c108 (by show ¬ hm b' < 0; rw [e0]; exact nI_pos (by omega))
            · rw [pk_un q]
              exact atH_skip (I.1 b' hb') (fun q2 => q (nI_inj (q2.2.symm.trans ho) (by omega) (by omega)))
          · obtain ⟨e0, hlt0, he0, hs0, ho0, hm0⟩ : ∃ e, e < i ∧ hm b = nI e ∧ sd σ e ∧ σ 3 e = nI b ∧ ∀ e', e' < i → sd σ e' → σ 3 e' = nI b → nm σ e' ≤ nm σ e := by
              rcases I.1 b hb with ⟨a, _⟩ | a
              · exact absurd (show hm b < 0 by rw [a]; exact neg1_lt) c108
              · exact a
            refine V_aln hX 0 dX0_attach_111 rfl rfl ?_
            refine F_get hX 4 (by decide) q42 rfl dX0_attach_112 ?_
            refine V_iln hX 1 dX0_attach_115 rfl rfl ?_
            refine F_ild hX rfl (by first | assumption | omega) dX0_attach_116 ?_
            refine V_aln hX 0 dX0_attach_117 rfl rfl ?_
            refine F_get hX 4 (by decide) q42 rfl dX0_attach_118 ?_
            refine V_aln hX 0 dX0_attach_121 rfl rfl ?_
            refine F_get hX 12 (by decide) q50 rfl dX0_attach_122 ?_
            refine V_iln hX 2 dX0_attach_125 rfl rfl ?_
            refine F_ild hX rfl (by first | assumption | omega) dX0_attach_126 ?_
            refine V_top (y := nI e0) he0 ?_
            refine F_ild hX rfl (by first | assumption | omega) dX0_attach_127 ?_
            refine V_ic_le hX (tgt := 138) dX0_attach_128 (by decide) (fun c128 => ?_) (fun c128 => ?_)
            · refine V_inc hX dX0_attach_138 (Nat.le_of_ble_eq_true rfl) rfl (nI_inc _) ?_
              dsimp only [lput]
              refine V_goto hX (tgt := 38) dX0_attach_141 (by decide) ?_
              refine V_take 2 ?_
              refine ih (i + 1) nn' hm (by omega) (by omega) ⟨fun b' hb' => ?_, hN'⟩
              by_cases q : b' = b
              · subst q
                refine Or.inr ⟨e0, by omega, he0, hs0, ho0, fun e' he' s' o' => ?_⟩
                by_cases q1 : e' = i
                · rw [q1]; exact Int32.le_iff_toInt_le.mp c128
                · exact hm0 e' (by omega) s' o'
              · exact atH_skip (I.1 b' hb') (fun q2 => q (nI_inj (q2.2.symm.trans ho) (by omega) (by omega)))
            · refine V_aln hX 0 dX0_attach_131 rfl rfl ?_
              refine F_get hX 12 (by decide) q50 rfl dX0_attach_132 ?_
              refine V_iln hX 2 dX0_attach_135 rfl rfl ?_
              refine V_iln hX 1 dX0_attach_136 rfl rfl ?_
              refine F_ist hX rfl (by first | assumption | omega) dX0_attach_137 ?_
              refine V_w (w' := wF d (atF σ nn' (upd hm b (nI i)))) (by rw [atF_12]; rfl) ?_
              refine V_inc hX dX0_attach_138 (Nat.le_of_ble_eq_true rfl) rfl (nI_inc _) ?_
              dsimp only [lput]
              refine V_goto hX (tgt := 38) dX0_attach_141 (by decide) ?_
              refine V_take 2 ?_
              refine ih (i + 1) nn' (upd hm b (nI i)) (by omega) (by omega) ⟨fun b' hb' => ?_, hN'⟩
              by_cases q : b' = b
              · subst q
                rw [pk_us]
                refine Or.inr ⟨i, by omega, rfl, hs, ho, fun e' he' s' o' => ?_⟩
                by_cases q1 : e' = i
                · rw [q1]; exact Int.le_refl _
                · have l1 := hm0 e' (by omega) s' o'
                  have l2 : nm σ e0 < nm σ i := Int.not_le.mp (fun q => c128 (Int32.le_iff_toInt_le.mpr q))
                  omega
              · rw [pk_un q]
                exact atH_skip (I.1 b' hb') (fun q2 => q (nI_inj (q2.2.symm.trans ho) (by omega) (by omega)))
      refine V_iln hX 1 dX0_attach_38 rfl rfl ?_
      refine V_bipush hX (v := nI 16) dX0_attach_39 (by decide +kernel) ?_
      refine V_ic_geN hX (tgt := 144) dX0_attach_41 (by decide) (by omega) (by omega) (fun c41 => ?_) (fun c41 => ?_)
      · have e8 : i = 16 := by omega
        subst e8
        refine V_iconst hX (v := 0) dX0_attach_144 (by decide +kernel) ?_
        refine V_isn hX 1 dX0_attach_145 rfl (Nat.le_of_ble_eq_true rfl) (Nat.le_of_ble_eq_true rfl) ?_
        dsimp only [lput]
        refine lp3 nn I.2 9 0 hm (by omega) (by omega) (fun b hb => ⟨fun q => absurd q (Nat.not_lt_zero _), fun _ => atH_16 (I.1 b hb)⟩)
      · refine V_aln hX 0 dX0_attach_44 rfl rfl ?_
        refine F_get hX 0 (by decide) q38 rfl dX0_attach_45 ?_
        refine V_iln hX 1 dX0_attach_48 rfl rfl ?_
        refine F_zld hX rfl (by first | assumption | omega) dX0_attach_49 ?_
        refine V_if_ne hX (tgt := 87) dX0_attach_50 (by decide) (fun c50 => ?_) (fun c50 => ?_)
        · exact j87 nn (atN_skip I.2 (fun l => absurd l.2 c50)) c41
        · refine V_aln hX 0 dX0_attach_53 rfl rfl ?_
          refine F_get hX 1 (by decide) q39 rfl dX0_attach_54 ?_
          refine V_iln hX 1 dX0_attach_57 rfl rfl ?_
          refine F_zld hX rfl (by first | assumption | omega) dX0_attach_58 ?_
          refine V_if_ne hX (tgt := 87) dX0_attach_59 (by decide) (fun c59 => ?_) (fun c59 => ?_)
          · exact j87 nn (atN_skip I.2 (fun l => absurd l.1 c59)) c41
          · refine V_aln hX 0 dX0_attach_62 rfl rfl ?_
            refine F_get hX 4 (by decide) q42 rfl dX0_attach_63 ?_
            refine V_iln hX 1 dX0_attach_66 rfl rfl ?_
            refine F_ild hX rfl (by first | assumption | omega) dX0_attach_67 ?_
            refine V_aln hX 0 dX0_attach_68 rfl rfl ?_
            refine F_get hX 13 (by decide) q51 rfl dX0_attach_69 ?_
            refine V_ic_lt hX (tgt := 87) dX0_attach_72 (by decide) (fun c72 => ?_) (fun c72 => ?_)
            · exact j87 nn (atN_skip I.2 (fun _ => c72)) c41
            · refine V_aln hX 0 dX0_attach_75 rfl rfl ?_
              refine V_aln hX 0 dX0_attach_76 rfl rfl ?_
              refine F_get hX 4 (by decide) q42 rfl dX0_attach_77 ?_
              refine V_iln hX 1 dX0_attach_80 rfl rfl ?_
              refine F_ild hX rfl (by first | assumption | omega) dX0_attach_81 ?_
              refine V_iconst hX (v := 1) dX0_attach_82 (by decide +kernel) ?_
              refine V_iadd hX dX0_attach_83 ?_
              refine F_putI hX 13 (by decide) q51 rfl rfl rfl dX0_attach_84 ?_
              refine V_w (w' := wF d (atF σ (σ 4 i + 1) hm)) (by rw [← atF_13 σ nn]; rfl) ?_
              exact j87 (σ 4 i + 1) (atN_put I.2 ⟨c59, c50⟩ (hI2 i c41 ⟨c59, c50⟩) c72) c41
  have lp1 : ∀ (n i : Nat) (hm : Nat → Int32), i ≤ 8 → 8 - i < n → (∀ j, j < i → hm j = -1) → V X (wF d (atF σ 1 hm)) [.ref (d 19), .int (nI i)] 17 [] := by
    intro n
    induction n with
    | zero => intro i hm _ h; exact absurd h (Nat.not_lt_zero _)
    | succ n ih =>
      intro i hm hi hn I
      refine V_iln hX 1 dX0_attach_17 rfl rfl ?_
      refine V_bipush hX (v := nI 8) dX0_attach_18 (by decide +kernel) ?_
      refine V_ic_geN hX (tgt := 36) dX0_attach_20 (by decide) (by omega) (by omega) (fun c20 => ?_) (fun c20 => ?_)
      · have e8 : i = 8 := by omega
        subst e8
        refine V_iconst hX (v := 0) dX0_attach_36 (by decide +kernel) ?_
        refine V_isn hX 1 dX0_attach_37 rfl (Nat.le_of_ble_eq_true rfl) (Nat.le_of_ble_eq_true rfl) ?_
        dsimp only [lput]
        refine lp2 17 0 1 hm (by omega) (by omega) ⟨fun b hb => Or.inl ⟨I b hb, fun e he => absurd he (Nat.not_lt_zero _)⟩, 1, rfl, by decide, Or.inl rfl, fun e he => absurd he (Nat.not_lt_zero _)⟩
      · refine V_aln hX 0 dX0_attach_23 rfl rfl ?_
        refine F_get hX 12 (by decide) q50 rfl dX0_attach_24 ?_
        refine V_iln hX 1 dX0_attach_27 rfl rfl ?_
        refine V_iconst hX (v := (-1)) dX0_attach_28 (by decide +kernel) ?_
        refine F_ist hX rfl (by first | assumption | omega) dX0_attach_29 ?_
        refine V_w (w' := wF d (atF σ 1 (upd hm i (-1)))) (by rw [atF_12]; rfl) ?_
        refine V_inc hX dX0_attach_30 (Nat.le_of_ble_eq_true rfl) rfl (nI_inc _) ?_
        dsimp only [lput]
        refine V_goto hX (tgt := 17) dX0_attach_33 (by decide) ?_
        refine ih (i + 1) (upd hm i (-1)) (by omega) (by omega) (fun j hj => ?_)
        by_cases q : j = i
        · rw [q, pk_us]
        · rw [pk_un q]; exact I j (by omega)
  refine V_aln hX 0 dX0_attach_0 rfl rfl ?_
  refine V_iconst hX (v := 0) dX0_attach_1 (by decide +kernel) ?_
  refine F_putI hX 14 (by decide) q52 rfl rfl rfl dX0_attach_2 ?_
  refine V_aln hX 0 dX0_attach_5 rfl rfl ?_
  refine V_iconst hX (v := 0) dX0_attach_6 (by decide +kernel) ?_
  refine F_putZ hX 17 (by decide) q55 rfl rfl (by decide +kernel) (by decide +kernel) rfl dX0_attach_7 ?_
  refine V_aln hX 0 dX0_attach_10 rfl rfl ?_
  refine V_iconst hX (v := 1) dX0_attach_11 (by decide +kernel) ?_
  refine F_putI hX 13 (by decide) q51 rfl rfl rfl dX0_attach_12 ?_
  refine V_iconst hX (v := 0) dX0_attach_15 (by decide +kernel) ?_
  refine V_isn hX 1 dX0_attach_16 rfl (Nat.le_of_ble_eq_true rfl) (Nat.le_of_ble_eq_true rfl) ?_
  dsimp only [lput]
  refine V_w (w' := wF d (atF σ 1 (σ 12))) (by show wF d _ = wF d (sf (sf (sf (sf σ 14 (fun _ => 0)) 17 (fun _ => 0)) 13 (fun _ => 1)) 12 ((sf (sf (sf σ 14 (fun _ => 0)) 17 (fun _ => 0)) 13 (fun _ => 1)) 12)); rw [sf_self]) ?_
  exact lp1 9 0 (σ 12) (by omega) (by omega) (fun j hj => absurd hj (Nat.not_lt_zero _))
set_option maxHeartbeats 4000000 in
/-- step -/
theorem c_step (d : Nat → Nat) (σ : fSt) {τ : fSt} {K j : Nat} (h : Rel σ (dcM τ j) K) (hb : bud τ j) (hK1 : 1 ≤ K) (hK : K < 2 ^ 30) : CFi d yX0_step cX0_step 1 .boolean (rmF 2 43) σ [] (fun r σ' => (r = 1 ∧ σ' = stF σ ∧ Rel (stF σ) (dcM τ (j + 1)) K ∧ bud τ (j + 1)) ∨ (r = 0 ∧ Rel σ' (mRst τ) K ∧ ¬ bud τ (j + 1))) := by
  refine CMi.of (own := RX0) (by decide +kernel) rfl (Nat.le_of_ble_eq_true rfl) (by simp [Value.category]) (fun _ _ h => by rcases h with ⟨rfl, _⟩ | ⟨rfl, _⟩ <;> decide +kernel) ?_
  intro X hX hR
  refine V_aln hX 0 dX0_step_0 rfl rfl ?_
  refine F_get hX 17 (by decide) q55 rfl dX0_step_1 ?_
  refine V_if_eq hX (tgt := 20) dX0_step_4 (by decide) (fun c4 => ?_) (fun c4 => ?_)
  · refine V_aln hX 0 dX0_step_20 rfl rfl ?_
    refine F_get hX 17 (by decide) q55 rfl dX0_step_21 ?_
    refine V_if_eq hX (tgt := 37) dX0_step_24 (by decide) (fun c24 => ?_) (fun c24 => ?_)
    · refine V_iconst hX (v := 1) dX0_step_37 (by decide +kernel) ?_
      have hst : stF σ = _ := (if_pos c24)
      have hn : ¬ (¬ σ 17 0 = 0 ∧ σ 18 0 = 0) := fun q => q.1 c4
      exact hR _ _ (Or.inl ⟨rfl, hst.symm, Rel_step h hb hn⟩) _ _ dX0_step_38
    · refine V_aln hX 0 dX0_step_27 rfl rfl ?_
      refine V_dup hX dX0_step_28 rfl ?_
      refine F_get hX 18 (by decide) q56 rfl dX0_step_29 ?_
      refine V_iconst hX (v := 1) dX0_step_32 (by decide +kernel) ?_
      refine V_isub hX dX0_step_33 ?_
      refine F_putI hX 18 (by decide) q56 rfl rfl rfl dX0_step_34 ?_
      refine V_iconst hX (v := 1) dX0_step_37 (by decide +kernel) ?_
      have hst : stF σ = _ := (if_neg c24)
      have hn : ¬ (¬ σ 17 0 = 0 ∧ σ 18 0 = 0) := fun q => q.1 c4
      exact hR _ _ (Or.inl ⟨rfl, hst.symm, Rel_step h hb hn⟩) _ _ dX0_step_38
  · refine V_aln hX 0 dX0_step_7 rfl rfl ?_
    refine F_get hX 18 (by decide) q56 rfl dX0_step_8 ?_
    refine V_if_ne hX (tgt := 20) dX0_step_11 (by decide) (fun c11 => ?_) (fun c11 => ?_)
    · refine V_aln hX 0 dX0_step_20 rfl rfl ?_
      refine F_get hX 17 (by decide) q55 rfl dX0_step_21 ?_
      refine V_if_eq hX (tgt := 37) dX0_step_24 (by decide) (fun c24 => ?_) (fun c24 => ?_)
      · refine V_iconst hX (v := 1) dX0_step_37 (by decide +kernel) ?_
        have hst : stF σ = _ := (if_pos c24)
        have hn : ¬ (¬ σ 17 0 = 0 ∧ σ 18 0 = 0) := fun q => c11 q.2
        exact hR _ _ (Or.inl ⟨rfl, hst.symm, Rel_step h hb hn⟩) _ _ dX0_step_38
      · refine V_aln hX 0 dX0_step_27 rfl rfl ?_
        refine V_dup hX dX0_step_28 rfl ?_
        refine F_get hX 18 (by decide) q56 rfl dX0_step_29 ?_
        refine V_iconst hX (v := 1) dX0_step_32 (by decide +kernel) ?_
        refine V_isub hX dX0_step_33 ?_
        refine F_putI hX 18 (by decide) q56 rfl rfl rfl dX0_step_34 ?_
        refine V_iconst hX (v := 1) dX0_step_37 (by decide +kernel) ?_
        have hst : stF σ = _ := (if_neg c24)
        have hn : ¬ (¬ σ 17 0 = 0 ∧ σ 18 0 = 0) := fun q => c11 q.2
        exact hR _ _ (Or.inl ⟨rfl, hst.symm, Rel_step h hb hn⟩) _ _ dX0_step_38
    · refine V_aln hX 0 dX0_step_14 rfl rfl ?_
      refine V_callv (n := 0) hX (c_attach d σ h.1.1 (fun e he l => by obtain ⟨N, a, _, q⟩ := h.1.2.1; have := q e he l; omega) h.1.2.2.1) rfl rfl rfl (lw_V q30 q32 qs0 q20 q33) rfl rfl (by decide +kernel) ⟨Nat.le_of_ble_eq_true rfl, Nat.le_of_ble_eq_true rfl⟩ rfl rfl (Nat.le_of_ble_eq_true rfl) dX0_step_15 (fun s15 h15 => ?_)
      obtain ⟨nn, hm, rfl, hat⟩ := h15
      refine V_iconst hX (v := 0) dX0_step_18 (by decide +kernel) ?_
      exact hR _ _ (Or.inr ⟨rfl, Rel_rst (Rel_att h hK1 hat), Rel_nbud h hb c4 c11⟩) _ _ dX0_step_19
set_option maxHeartbeats 4000000 in
/-- hold -/
theorem c_hold (d : Nat → Nat) (σ : fSt) {τ : fSt} (b : Nat) (hb : b < 8) (hv : vwB σ τ b) : CFi d yX0_hold cX0_hold 4 .int (rmF 1 21) σ [.int (nI b)] (fun r σ' => ∃ (n : Nat) (g : Nat → Int32), n ≤ 4 ∧ r = nI n ∧ τ 1 b = nI n ∧ σ' = sf σ 16 g ∧ ∀ i, i < n → g i = τ 0 (4 * b + i)) := by
  refine CMi.of (own := RX0) (by decide +kernel) rfl (Nat.le_of_ble_eq_true rfl) (by simp [Value.category]) (fun _ _ _ => rfl) ?_
  intro X hX hR
  obtain ⟨n0, hn4, hsz, ht, hmo, hn0⟩ := vw_sz hv
  have lp : ∀ (n i : Nat) (g : Nat → Int32), i ≤ n0 → n0 - i < n → (∀ j, j < i → g j = τ 0 (4 * b + j)) → V X (wF d (sf σ 16 g)) [.ref (d 19), .int (nI b), .int (nI n0), .int (nI i)] 8 [] := by
    intro n
    induction n with
    | zero => intro i g _ h; exact absurd h (Nat.not_lt_zero _)
    | succ n ih =>
      intro i g hi hn I
      refine V_iln hX 3 dX0_hold_8 rfl rfl ?_
      refine V_iln hX 2 dX0_hold_9 rfl rfl ?_
      refine V_ic_geN hX (tgt := 40) dX0_hold_10 (by decide) (by omega) (by omega) (fun c10 => ?_) (fun c10 => ?_)
      · have e8 : i = n0 := by omega
        subst e8
        refine V_iln hX 2 dX0_hold_40 rfl rfl ?_
        exact hR _ _ ⟨_, g, hn4, rfl, ht, rfl, I⟩ _ _ dX0_hold_41
      · obtain ⟨e, he, h12, h8, hw⟩ := (hn0.resolve_left (fun q => by omega)).2
        refine V_aln hX 0 dX0_hold_13 rfl rfl ?_
        refine F_get hX 16 (by decide) q54 rfl dX0_hold_14 ?_
        refine V_iln hX 3 dX0_hold_17 rfl rfl ?_
        refine V_aln hX 0 dX0_hold_18 rfl rfl ?_
        refine F_get hX 9 (by decide) q47 rfl dX0_hold_19 ?_
        refine V_aln hX 0 dX0_hold_22 rfl rfl ?_
        refine F_get hX 12 (by decide) q50 rfl dX0_hold_23 ?_
        refine V_iln hX 1 dX0_hold_26 rfl rfl ?_
        refine F_ild hX rfl (by first | assumption | omega) dX0_hold_27 ?_
        refine V_top (y := nI e) h12 ?_
        refine V_iconst hX (v := nI 4) dX0_hold_28 (by decide +kernel) ?_
        refine V_imul hX dX0_hold_29 ?_
        refine V_iln hX 3 dX0_hold_30 rfl rfl ?_
        refine V_iadd hX dX0_hold_31 ?_
        refine V_top (y := nI (e * 4 + i)) (by simp only [pk_mul, nI_add, nI_1]) ?_
        refine F_ild hX rfl (show e * 4 + i < 64 by omega) dX0_hold_32 ?_
        refine F_ist hX rfl (show i < 4 by omega) dX0_hold_33 ?_
        refine V_w (w' := wF d (sf σ 16 (upd g i (σ 9 (e * 4 + i))))) (by rw [sf_sf]; rfl) ?_
        refine V_inc hX dX0_hold_34 (Nat.le_of_ble_eq_true rfl) rfl (nI_inc _) ?_
        dsimp only [lput]
        refine V_goto hX (tgt := 8) dX0_hold_37 (by decide) ?_
        refine ih (i + 1) (upd g i (σ 9 (e * 4 + i))) (by omega) (by omega) (fun j hj => ?_)
        by_cases q : j = i
        · rw [q, pk_us]; exact hw i c10
        · rw [pk_un q]; exact I j (by omega)
  refine V_aln hX 0 dX0_hold_0 rfl rfl ?_
  refine V_iln hX 1 dX0_hold_1 rfl rfl ?_
  refine V_calli (n := 1) hX (c_sizeOf d σ b hb hmo) rfl rfl rfl (lw_V q114 q116 qs3 q20 q117) rfl rfl (by decide +kernel) ⟨Nat.le_of_ble_eq_true rfl, Nat.le_of_ble_eq_true rfl⟩ rfl rfl (Nat.le_of_ble_eq_true rfl) dX0_hold_2 (fun r2 s2 h2 => ?_)
  obtain ⟨rfl, rfl⟩ := h2
  refine V_top hsz ?_
  refine V_isn hX 2 dX0_hold_5 rfl (Nat.le_of_ble_eq_true rfl) (Nat.le_of_ble_eq_true rfl) ?_
  dsimp only [lput]
  refine V_iconst hX (v := 0) dX0_hold_6 (by decide +kernel) ?_
  refine V_isn hX 3 dX0_hold_7 rfl (Nat.le_of_ble_eq_true rfl) (Nat.le_of_ble_eq_true rfl) ?_
  dsimp only [lput]
  refine V_w (w' := wF d (sf σ 16 (σ 16))) (by rw [sf_self]) ?_
  exact lp (n0 + 1) 0 (σ 16) (by omega) (by omega) (fun j hj => absurd hj (Nat.not_lt_zero _))
end
section
set_option maxRecDepth 100000
set_option maxHeartbeats 4000000 in
/-- writeCopy -/
theorem c_writeCopy (d : Nat → Nat) (σ : fSt) {τ : fSt} {K j : Nat} (b n0 : Nat) (h : Rel σ (dcM τ j) K) (hb : bud τ j) (hb8 : b < 8) (hn4 : n0 ≤ 4) (hc : 1 ≤ cnt (fre σ) 16) (hK1 : 1 ≤ K) (hK : K + 1 < 2 ^ 30) : CFi d yX0_writeCopy cX0_writeCopy 6 .int (rmF 3 63) σ [.int (nI b), .int (nI n0)] (fun r σ' => (r = -9 ∧ Rel σ' (mRst τ) (K + 1) ∧ ¬ bud τ (j + n0 + 1)) ∨ ∃ e, r = nI e ∧ e < 16 ∧ fre σ e ∧ Rel σ' (dcM τ (j + 1 + n0)) (K + 1) ∧ bud τ (j + 1 + n0) ∧ Cp σ' b e n0 0 ∧ (∀ i, i < n0 → σ' 9 (e * 4 + i) = σ 16 i) ∧ Fr σ σ' e) := by
  refine CMi.of (own := RX0) (by decide +kernel) rfl (Nat.le_of_ble_eq_true rfl) (by simp [Value.category]) (fun _ _ _ => rfl) ?_
  intro X hX hR
  refine V_aln hX 0 dX0_writeCopy_0 rfl rfl ?_
  refine V_iconst hX (v := 0) dX0_writeCopy_1 (by decide +kernel) ?_
  refine V_calli (n := 1) hX (c_pick d σ 0) rfl rfl rfl (lw_V q138 q140 qs9 q20 q141) rfl rfl (by decide +kernel) ⟨Nat.le_of_ble_eq_true rfl, Nat.le_of_ble_eq_true rfl⟩ rfl rfl (Nat.le_of_ble_eq_true rfl) dX0_writeCopy_2 (fun r2 s2 h2 => ?_)
  obtain ⟨rfl, h2⟩ := h2
  obtain ⟨e, he, hfe, rfl⟩ : ∃ e, e < 16 ∧ fre σ e ∧ r2 = nI e := by
    rcases h2 with ⟨_, hno⟩ | h
    · have z := cnt_none hno
      omega
    · exact h
  have lp : ∀ (n i : Nat) (σ1 : fSt) (on : Int32), i ≤ n0 → n0 - i < n → (Rel σ1 (dcM τ (j + 1 + i)) (K + 1) ∧ bud τ (j + 1 + i) ∧ Cp σ1 b e i 0 ∧ (∀ i', i' < i → σ1 9 (e * 4 + i') = σ 16 i') ∧ Fr σ σ1 e) → V X (wF d σ1) [.ref (d 19), .int (nI b), .int (nI n0), .int (nI e), .int on, .int (nI i)] 30 [] := by
    intro n
    induction n with
    | zero => intro i σ1 on _ h; exact absurd h (Nat.not_lt_zero _)
    | succ n ih =>
      intro i σ1 on hi hn I
      refine V_il hX dX0_writeCopy_30 rfl ?_
      refine V_iln hX 2 dX0_writeCopy_32 rfl rfl ?_
      refine V_ic_geN hX (tgt := 68) dX0_writeCopy_33 (by decide) (by omega) (by omega) (fun c33 => ?_) (fun c33 => ?_)
      · have e8 : i = n0 := by omega
        subst e8
        refine V_iln hX 3 dX0_writeCopy_68 rfl rfl ?_
        exact hR _ _ (Or.inr ⟨e, rfl, he, hfe, I.1, I.2.1, I.2.2.1, I.2.2.2.1, I.2.2.2.2⟩) _ _ dX0_writeCopy_69
      · refine V_aln hX 0 dX0_writeCopy_36 rfl rfl ?_
        refine V_calli (n := 0) hX (c_step d σ1 (τ := τ) (K := K + 1) (j := j + 1 + i) I.1 I.2.1 (by omega) (by omega)) rfl rfl rfl (lw_V q142 q144 qs10 q20 q145) rfl rfl (by decide +kernel) ⟨Nat.le_of_ble_eq_true rfl, Nat.le_of_ble_eq_true rfl⟩ rfl rfl (Nat.le_of_ble_eq_true rfl) dX0_writeCopy_37 (fun r37 s37 h37 => ?_)
        refine V_is hX dX0_writeCopy_40 (Nat.le_of_ble_eq_true rfl) (Nat.le_of_ble_eq_true rfl) ?_
        dsimp only [lput]
        refine V_il hX dX0_writeCopy_42 rfl ?_
        refine V_if_ne hX (tgt := 50) dX0_writeCopy_44 (by decide) (fun c44 => ?_) (fun c44 => ?_)
        · obtain ⟨_, rfl, hr1, hb1⟩ := h37.resolve_right (fun q => c44 q.1)
          have hcs := Cp_st I.2.2.1
          have hh : stF σ1 16 i = σ 16 i := by rw [stF_n (by decide), I.2.2.2.2.2.1]
          refine V_aln hX 0 dX0_writeCopy_50 rfl rfl ?_
          refine V_iln hX 3 dX0_writeCopy_51 rfl rfl ?_
          refine V_aln hX 0 dX0_writeCopy_52 rfl rfl ?_
          refine F_get hX 16 (by decide) q54 rfl dX0_writeCopy_53 ?_
          refine V_il hX dX0_writeCopy_56 rfl ?_
          refine F_ild hX rfl (show i < 4 by omega) dX0_writeCopy_58 ?_
          refine V_callv (n := 2) hX (c_writeWord d (stF σ1) e i (stF σ1 16 i) he hcs.2.2.2.2.2.2.1 (by omega)) rfl rfl rfl (lw_V q150 q152 qs12 q20 q153) rfl rfl (by decide +kernel) ⟨Nat.le_of_ble_eq_true rfl, Nat.le_of_ble_eq_true rfl⟩ rfl rfl (Nat.le_of_ble_eq_true rfl) dX0_writeCopy_59 (fun s59 h59 => ?_)
          subst h59
          have hr2 := Rel_word (x := stF σ1 16 i) hr1 (by omega) he hcs.2.1 (cp_unsound hcs) hcs.2.2.2.2.2.2.1 (by omega)
          refine V_inc hX dX0_writeCopy_62 (Nat.le_of_ble_eq_true rfl) rfl (nI_inc _) ?_
          dsimp only [lput]
          refine V_goto hX (tgt := 30) dX0_writeCopy_65 (by decide) ?_
          refine ih (i + 1) (wwF (stF σ1) e i (stF σ1 16 i)) r37 (by omega) (by omega) ⟨hr2, hb1, Cp_word hcs, fun i' hi' => ?_, I.2.2.2.2.st.wd (by omega)⟩
          show upd (stF σ1 9) (e * 4 + i) (stF σ1 16 i) (e * 4 + i') = σ 16 i'
          by_cases q : i' = i
          · rw [q, pk_us]; exact hh
          · rw [pk_un (by omega), stF_n (by decide)]; exact I.2.2.2.1 i' (by omega)
        · obtain ⟨_, hr1, hb1⟩ := h37.resolve_left (fun q => by rw [q.1] at c44; exact absurd c44 (by decide))
          refine V_bipush hX (v := (-9)) dX0_writeCopy_47 (by decide +kernel) ?_
          exact hR _ _ (Or.inl ⟨rfl, hr1, fun q => hb1 (bud_mono q (by omega))⟩) _ _ dX0_writeCopy_49
  refine V_isn hX 3 dX0_writeCopy_5 rfl (Nat.le_of_ble_eq_true rfl) (Nat.le_of_ble_eq_true rfl) ?_
  dsimp only [lput]
  refine V_aln hX 0 dX0_writeCopy_6 rfl rfl ?_
  refine V_calli (n := 0) hX (c_step d σ (τ := τ) (K := K) (j := j) h hb hK1 (by omega)) rfl rfl rfl (lw_V q142 q144 qs10 q20 q145) rfl rfl (by decide +kernel) ⟨Nat.le_of_ble_eq_true rfl, Nat.le_of_ble_eq_true rfl⟩ rfl rfl (Nat.le_of_ble_eq_true rfl) dX0_writeCopy_7 (fun r7 s7 h7 => ?_)
  refine V_is hX dX0_writeCopy_10 (Nat.le_of_ble_eq_true rfl) (Nat.le_of_ble_eq_true rfl) ?_
  dsimp only [lput]
  refine V_il hX dX0_writeCopy_12 rfl ?_
  refine V_if_ne hX (tgt := 20) dX0_writeCopy_14 (by decide) (fun c14 => ?_) (fun c14 => ?_)
  · obtain ⟨_, rfl, hr1, hb1⟩ := h7.resolve_right (fun q => c14 q.1)
    have hfs : fre (stF σ) e := ⟨by rw [stF_n (by decide)]; exact hfe.1, by rw [stF_n (by decide)]; exact hfe.2⟩
    have hr2 := Rel_hdr (g := 0) hr1 (by omega) he hfs hb8 (Or.inl rfl)
    have hc2 := hdr_new (b := b) (g := 0) hr1.1 (by omega) he hfs
    refine V_aln hX 0 dX0_writeCopy_20 rfl rfl ?_
    refine V_iln hX 3 dX0_writeCopy_21 rfl rfl ?_
    refine V_iln hX 1 dX0_writeCopy_22 rfl rfl ?_
    refine V_iconst hX (v := 0) dX0_writeCopy_23 (by decide +kernel) ?_
    refine V_callv (n := 3) hX (c_writeHeader d (stF σ) e (nI b) 0 he (by decide +kernel)) rfl rfl rfl (lw_V q146 q148 qs11 q20 q149) rfl rfl (by decide +kernel) ⟨Nat.le_of_ble_eq_true rfl, Nat.le_of_ble_eq_true rfl⟩ rfl rfl (Nat.le_of_ble_eq_true rfl) dX0_writeCopy_24 (fun s24 h24 => ?_)
    subst h24
    refine V_iconst hX (v := 0) dX0_writeCopy_27 (by decide +kernel) ?_
    refine V_is hX dX0_writeCopy_28 (Nat.le_of_ble_eq_true rfl) (Nat.le_of_ble_eq_true rfl) ?_
    dsimp only [lput]
    exact lp (n0 + 1) 0 _ r7 (by omega) (by omega) ⟨hr2, hb1, hc2, fun i' hi' => absurd hi' (Nat.not_lt_zero _), (Fr.rf σ e).st.hd⟩
  · obtain ⟨_, hr1, hb1⟩ := h7.resolve_left (fun q => by rw [q.1] at c14; exact absurd c14 (by decide))
    refine V_bipush hX (v := (-9)) dX0_writeCopy_17 (by decide +kernel) ?_
    exact hR _ _ (Or.inl ⟨rfl, hr1.mono (by omega), fun q => hb1 (bud_mono q (by omega))⟩) _ _ dX0_writeCopy_19
set_option maxHeartbeats 4000000 in
/-- level -/
theorem c_level (d : Nat → Nat) (σ : fSt) {τ : fSt} {K : Nat} (h : Rel σ τ K) (hK : K + 1 < 2 ^ 30) : CFv d yX0_level cX0_level 5 (rmF 3 67) σ [] (fun σ' => Rel σ' τ (K + 1)) := by
  refine CMv.of (own := RX0) (by decide +kernel) rfl (Nat.le_of_ble_eq_true rfl) (by simp [Value.category]) ?_
  intro X hX hR
  refine V_aln hX 0 dX0_level_0 rfl rfl ?_
  refine V_callv (n := 0) hX (c_provide d σ (τ := τ) (K := K) h (by omega)) rfl rfl rfl (lw_V q118 q120 qs4 q20 q121) rfl rfl (by decide +kernel) ⟨Nat.le_of_ble_eq_true rfl, Nat.le_of_ble_eq_true rfl⟩ rfl rfl (Nat.le_of_ble_eq_true rfl) dX0_level_1 (fun σ1 h1 => ?_)
  obtain ⟨hr, hsm, hc⟩ := h1
  refine V_aln hX 0 dX0_level_4 rfl rfl ?_
  refine V_iconst hX (v := 1) dX0_level_5 (by decide +kernel) ?_
  refine V_calli (n := 1) hX (c_pick d σ1 1) rfl rfl rfl (lw_V q138 q140 qs9 q20 q141) rfl rfl (by decide +kernel) ⟨Nat.le_of_ble_eq_true rfl, Nat.le_of_ble_eq_true rfl⟩ rfl rfl (Nat.le_of_ble_eq_true rfl) dX0_level_6 (fun r6 s6 h6 => ?_)
  obtain ⟨rfl, h6⟩ := h6
  obtain ⟨e, he, hfe, rfl⟩ : ∃ e, e < 16 ∧ fre σ1 e ∧ r6 = nI e := by
    rcases h6 with ⟨_, hno⟩ | h
    · have z := cnt_none hno
      omega
    · exact h
  have lp : ∀ (n i : Nat) (x : Int32), i ≤ 8 → 8 - i < n → (x = -1 ∨ ∃ b0, b0 < i ∧ x = nI b0 ∧ ∃ e, e < 16 ∧ σ1 12 b0 = nI e) → V X (wF d σ1) [.ref (d 19), .int (nI e), .int x, .int (nI i)] 14 [] := by
    intro n
    induction n with
    | zero => intro i x _ h; exact absurd h (Nat.not_lt_zero _)
    | succ n ih =>
      intro i x hi hn I
      refine V_iln hX 3 dX0_level_14 rfl rfl ?_
      refine V_bipush hX (v := nI 8) dX0_level_15 (by decide +kernel) ?_
      refine V_ic_geN hX (tgt := 66) dX0_level_17 (by decide) (by omega) (by omega) (fun c17 => ?_) (fun c17 => ?_)
      · have e8 : i = 8 := by omega
        subst e8
        refine V_iln hX 1 dX0_level_66 rfl rfl ?_
        refine V_if_lt hX (tgt := 96) dX0_level_67 (by decide) (fun c67 => ?_) (fun c67 => ?_)
        · exact absurd c67 (nI_pos (by omega))
        · refine V_iln hX 2 dX0_level_70 rfl rfl ?_
          refine V_if_lt hX (tgt := 96) dX0_level_71 (by decide) (fun c71 => ?_) (fun c71 => ?_)
          · exact hR _ (hr.mono (by omega)) _ _ dX0_level_96
          · obtain ⟨b0, hb0, rfl, eb, heb, hhb⟩ : ∃ b0, b0 < 8 ∧ x = nI b0 ∧ ∃ e, e < 16 ∧ σ1 12 b0 = nI e := by
              rcases I with rfl | q
              · exact absurd neg1_lt c71
              · exact q
            refine V_aln hX 0 dX0_level_74 rfl rfl ?_
            refine F_get hX 2 (by decide) q40 rfl dX0_level_75 ?_
            refine V_iln hX 1 dX0_level_78 rfl rfl ?_
            refine F_ild hX rfl (by first | assumption | omega) dX0_level_79 ?_
            refine V_aln hX 0 dX0_level_80 rfl rfl ?_
            refine F_get hX 2 (by decide) q40 rfl dX0_level_81 ?_
            refine V_aln hX 0 dX0_level_84 rfl rfl ?_
            refine F_get hX 12 (by decide) q50 rfl dX0_level_85 ?_
            refine V_iln hX 2 dX0_level_88 rfl rfl ?_
            refine F_ild hX rfl (by first | assumption | omega) dX0_level_89 ?_
            refine V_top (y := nI eb) hhb ?_
            refine F_ild hX rfl (by first | assumption | omega) dX0_level_90 ?_
            refine V_iconst hX (v := nI 3) dX0_level_91 (by decide +kernel) ?_
            refine V_iadd hX dX0_level_92 ?_
            refine V_ic_ge hX (tgt := 97) dX0_level_93 (by decide) (fun c93 => ?_) (fun c93 => ?_)
            · refine V_aln hX 0 dX0_level_97 rfl rfl ?_
              refine V_iln hX 2 dX0_level_98 rfl rfl ?_
              refine V_calli (n := 1) hX (c_hold d σ1 b0 hb0 (hr.2.1 b0 hb0)) rfl rfl rfl (lw_V q174 q176 qs15 q20 q177) rfl rfl (by decide +kernel) ⟨Nat.le_of_ble_eq_true rfl, Nat.le_of_ble_eq_true rfl⟩ rfl rfl (Nat.le_of_ble_eq_true rfl) dX0_level_99 (fun r99 s99 h99 => ?_)
              obtain ⟨n0, g, hn4, rfl, ht, rfl, hg⟩ := h99
              have n1 : 1 ≤ n0 := by
                rcases hr.2.1 b0 hb0 with ⟨q, _⟩ | ⟨_, f, _, _, f1, _, _, q, _⟩
                · exact absurd (hhb.symm.trans q) (nI_ne_neg (by omega))
                · have := nI_inj (q.symm.trans ht) (by omega) (by omega)
                  omega
              have hfs : fre (sf σ1 16 g) e := hfe
              have hr3 := Rel_hdr (g := 0) (b := b0) (Rel_held (g := g) hr) (by omega) he hfs hb0 (Or.inl rfl)
              have hc3 := hdr_new (b := b0) (g := 0) (Rel_held (g := g) hr).1 (by omega) he hfs
              have lp2 : ∀ (n i : Nat) (σ2 : fSt), i ≤ n0 → n0 - i < n → (Rel σ2 τ (K + 1) ∧ Cp σ2 b0 e i 0 ∧ (∀ i', i' < i → σ2 9 (e * 4 + i') = g i') ∧ σ2 16 = g ∧ True) → V X (wF d σ2) [.ref (d 19), .int (nI e), .int (nI b0), .int (nI n0), .int (nI i)] 113 [] := by
                intro n
                induction n with
                | zero => intro i σ2 _ h; exact absurd h (Nat.not_lt_zero _)
                | succ n ih =>
                  intro i σ2 hi hn I
                  refine V_il hX dX0_level_113 rfl ?_
                  refine V_iln hX 3 dX0_level_115 rfl rfl ?_
                  refine V_ic_geN hX (tgt := 137) dX0_level_116 (by decide) (by omega) (by omega) (fun c116 => ?_) (fun c116 => ?_)
                  · have e8 : i = n0 := by omega
                    subst e8
                    refine V_aln hX 0 dX0_level_137 rfl rfl ?_
                    refine F_get hX 6 (by decide) q44 rfl dX0_level_138 ?_
                    refine V_iln hX 1 dX0_level_141 rfl rfl ?_
                    refine V_iconst hX (v := 1) dX0_level_142 (by decide +kernel) ?_
                    refine F_zst hX rfl (by first | assumption | omega) (by decide +kernel) dX0_level_143 ?_
                    refine V_aln hX 0 dX0_level_144 rfl rfl ?_
                    refine F_get hX 12 (by decide) q50 rfl dX0_level_145 ?_
                    refine V_iln hX 2 dX0_level_148 rfl rfl ?_
                    refine V_iln hX 1 dX0_level_149 rfl rfl ?_
                    refine F_ist hX rfl (by first | assumption | omega) dX0_level_150 ?_
                    have hf8 : ¬ σ2 8 e = 0 := by
                      rw [I.2.1.2.2.2.2.2.2.1]
                      exact nI_ne0 (by omega) (by omega)
                    refine hR _ ?_ _ _ dX0_level_151
                    have hcl := Rel_cls (τ' := τ) I.1 (by omega) hb0 he I.2.1.2.1 (cp_unsound I.2.1) I.2.1.2.2.1 I.2.1.2.2.2.2.2.1 I.2.1.2.2.2.2.2.2.1 hn4 (fun e' he' s' _ => I.2.1.2.2.2.2.2.2.2 e' he' (fun q => cp_unsound I.2.1 (by rw [← q]; exact s')) (sd_lv s')) ht (fun i hi => (I.2.2.1 i hi).trans (hg i hi)) (fun _ _ _ => ⟨rfl, fun _ _ => rfl⟩) (fun _ _ => rfl) rfl rfl rfl
                    have e9 : adF (sf σ2 6 (upd (σ2 6) e 1)) b0 e = sf (sf σ2 6 (upd (σ2 6) e 1)) 12 (upd (σ2 12) b0 (nI e)) := by
                      show sf _ 12 (upd _ b0 (if σ2 8 e = 0 then (-1) else nI e)) = _
                      rw [if_neg hf8]
                      rfl
                    rw [e9] at hcl
                    exact hcl
                  · refine V_aln hX 0 dX0_level_119 rfl rfl ?_
                    refine V_iln hX 1 dX0_level_120 rfl rfl ?_
                    refine V_aln hX 0 dX0_level_121 rfl rfl ?_
                    refine F_get hX 16 (by decide) q54 rfl dX0_level_122 ?_
                    refine V_il hX dX0_level_125 rfl ?_
                    refine F_ild hX rfl (show i < 4 by omega) dX0_level_127 ?_
                    refine V_callv (n := 2) hX (c_writeWord d σ2 e i (σ2 16 i) he I.2.1.2.2.2.2.2.2.1 (by omega)) rfl rfl rfl (lw_V q150 q152 qs12 q20 q153) rfl rfl (by decide +kernel) ⟨Nat.le_of_ble_eq_true rfl, Nat.le_of_ble_eq_true rfl⟩ rfl rfl (Nat.le_of_ble_eq_true rfl) dX0_level_128 (fun s128 h128 => ?_)
                    subst h128
                    have hr2 := Rel_word (x := σ2 16 i) I.1 (by omega) he I.2.1.2.1 (cp_unsound I.2.1) I.2.1.2.2.2.2.2.2.1 (by omega)
                    refine V_inc hX dX0_level_131 (Nat.le_of_ble_eq_true rfl) rfl (nI_inc _) ?_
                    dsimp only [lput]
                    refine V_goto hX (tgt := 113) dX0_level_134 (by decide) ?_
                    refine ih (i + 1) (wwF σ2 e i (σ2 16 i)) (by omega) (by omega) ⟨hr2, Cp_word I.2.1, fun i' hi' => ?_, I.2.2.2⟩
                    show upd (σ2 9) (e * 4 + i) (σ2 16 i) (e * 4 + i') = g i'
                    by_cases q : i' = i
                    · rw [q, pk_us, I.2.2.2.1]
                    · rw [pk_un (by omega)]; exact I.2.2.1 i' (by omega)
              refine V_isn hX 3 dX0_level_102 rfl (Nat.le_of_ble_eq_true rfl) (Nat.le_of_ble_eq_true rfl) ?_
              dsimp only [lput]
              refine V_aln hX 0 dX0_level_103 rfl rfl ?_
              refine V_iln hX 1 dX0_level_104 rfl rfl ?_
              refine V_iln hX 2 dX0_level_105 rfl rfl ?_
              refine V_iconst hX (v := 0) dX0_level_106 (by decide +kernel) ?_
              refine V_callv (n := 3) hX (c_writeHeader d (sf σ1 16 g) e (nI b0) 0 he (by decide +kernel)) rfl rfl rfl (lw_V q146 q148 qs11 q20 q149) rfl rfl (by decide +kernel) ⟨Nat.le_of_ble_eq_true rfl, Nat.le_of_ble_eq_true rfl⟩ rfl rfl (Nat.le_of_ble_eq_true rfl) dX0_level_107 (fun s107 h107 => ?_)
              subst h107
              refine V_iconst hX (v := 0) dX0_level_110 (by decide +kernel) ?_
              refine V_is hX dX0_level_111 (Nat.le_of_ble_eq_true rfl) (Nat.le_of_ble_eq_true rfl) ?_
              dsimp only [lput]
              exact lp2 (n0 + 1) 0 _ (by omega) (by omega) ⟨hr3, hc3, fun i' hi' => absurd hi' (Nat.not_lt_zero _), rfl, trivial⟩
            · exact hR _ (hr.mono (by omega)) _ _ dX0_level_96
      · refine V_aln hX 0 dX0_level_20 rfl rfl ?_
        refine F_get hX 12 (by decide) q50 rfl dX0_level_21 ?_
        refine V_iln hX 3 dX0_level_24 rfl rfl ?_
        refine F_ild hX rfl (by first | assumption | omega) dX0_level_25 ?_
        refine V_if_lt hX (tgt := 60) dX0_level_26 (by decide) (fun c26 => ?_) (fun c26 => ?_)
        · refine V_inc hX dX0_level_60 (Nat.le_of_ble_eq_true rfl) rfl (nI_inc _) ?_
          dsimp only [lput]
          refine V_goto hX (tgt := 14) dX0_level_63 (by decide) ?_
          refine ih (i + 1) x (by omega) (by omega) ?_
          rcases I with e0 | ⟨b0, h0, e0⟩
          · exact Or.inl e0
          · exact Or.inr ⟨b0, by omega, e0⟩
        · obtain ⟨ei, hei, hhi⟩ : ∃ e, e < 16 ∧ σ1 12 i = nI e := by
            rcases hsp_cases (hr.1.2.2.2.2.1 i c17) with q | q
            · exact absurd (show σ1 12 i < 0 by rw [q]; exact neg1_lt) c26
            · exact q
          refine V_iln hX 2 dX0_level_29 rfl rfl ?_
          refine V_if_lt hX (tgt := 58) dX0_level_30 (by decide) (fun c30 => ?_) (fun c30 => ?_)
          · refine V_iln hX 3 dX0_level_58 rfl rfl ?_
            refine V_isn hX 2 dX0_level_59 rfl (Nat.le_of_ble_eq_true rfl) (Nat.le_of_ble_eq_true rfl) ?_
            dsimp only [lput]
            refine V_inc hX dX0_level_60 (Nat.le_of_ble_eq_true rfl) rfl (nI_inc _) ?_
            dsimp only [lput]
            refine V_goto hX (tgt := 14) dX0_level_63 (by decide) ?_
            exact ih (i + 1) (nI i) (by omega) (by omega) (Or.inr ⟨i, by omega, rfl, ei, hei, hhi⟩)
          · obtain ⟨b0, hb0, rfl, eb, heb, hhb⟩ : ∃ b0, b0 < i ∧ x = nI b0 ∧ ∃ e, e < 16 ∧ σ1 12 b0 = nI e := by
              rcases I with rfl | q
              · exact absurd neg1_lt c30
              · exact q
            have h0 : ∃ e, e < 16 ∧ σ1 12 b0 = nI e := ⟨eb, heb, hhb⟩
            refine V_aln hX 0 dX0_level_33 rfl rfl ?_
            refine F_get hX 2 (by decide) q40 rfl dX0_level_34 ?_
            refine V_aln hX 0 dX0_level_37 rfl rfl ?_
            refine F_get hX 12 (by decide) q50 rfl dX0_level_38 ?_
            refine V_iln hX 3 dX0_level_41 rfl rfl ?_
            refine F_ild hX rfl (by first | assumption | omega) dX0_level_42 ?_
            refine V_top (y := nI ei) hhi ?_
            refine F_ild hX rfl (by first | assumption | omega) dX0_level_43 ?_
            refine V_aln hX 0 dX0_level_44 rfl rfl ?_
            refine F_get hX 2 (by decide) q40 rfl dX0_level_45 ?_
            refine V_aln hX 0 dX0_level_48 rfl rfl ?_
            refine F_get hX 12 (by decide) q50 rfl dX0_level_49 ?_
            refine V_iln hX 2 dX0_level_52 rfl rfl ?_
            refine F_ild hX rfl (by first | assumption | omega) dX0_level_53 ?_
            refine V_top (y := nI eb) hhb ?_
            refine F_ild hX rfl (by first | assumption | omega) dX0_level_54 ?_
            refine V_ic_ge hX (tgt := 60) dX0_level_55 (by decide) (fun c55 => ?_) (fun c55 => ?_)
            · refine V_inc hX dX0_level_60 (Nat.le_of_ble_eq_true rfl) rfl (nI_inc _) ?_
              dsimp only [lput]
              refine V_goto hX (tgt := 14) dX0_level_63 (by decide) ?_
              exact ih (i + 1) (nI b0) (by omega) (by omega) (Or.inr ⟨b0, by omega, rfl, h0⟩)
            · refine V_iln hX 3 dX0_level_58 rfl rfl ?_
              refine V_isn hX 2 dX0_level_59 rfl (Nat.le_of_ble_eq_true rfl) (Nat.le_of_ble_eq_true rfl) ?_
              dsimp only [lput]
              refine V_inc hX dX0_level_60 (Nat.le_of_ble_eq_true rfl) rfl (nI_inc _) ?_
              dsimp only [lput]
              refine V_goto hX (tgt := 14) dX0_level_63 (by decide) ?_
              exact ih (i + 1) (nI i) (by omega) (by omega) (Or.inr ⟨i, by omega, rfl, ei, hei, hhi⟩)
  refine V_isn hX 1 dX0_level_9 rfl (Nat.le_of_ble_eq_true rfl) (Nat.le_of_ble_eq_true rfl) ?_
  dsimp only [lput]
  refine V_iconst hX (v := (-1)) dX0_level_10 (by decide +kernel) ?_
  refine V_isn hX 2 dX0_level_11 rfl (Nat.le_of_ble_eq_true rfl) (Nat.le_of_ble_eq_true rfl) ?_
  dsimp only [lput]
  refine V_iconst hX (v := 0) dX0_level_12 (by decide +kernel) ?_
  refine V_isn hX 3 dX0_level_13 rfl (Nat.le_of_ble_eq_true rfl) (Nat.le_of_ble_eq_true rfl) ?_
  dsimp only [lput]
  exact lp 9 0 (-1) (by omega) (by omega) (Or.inl rfl)
end
section
set_option maxRecDepth 100000
/-! what each call answers, and the reference's state behind it -/
def onB (b : Int32) (τ : fSt) (f : Nat → Int32 × fSt) : Int32 × fSt := if ¬ b < 0 ∧ b < nI 8 then f b.toNatClampNeg else (-1, τ)
theorem onB_in {n : Nat} (h : n < 8) (τ : fSt) (f : Nat → Int32 × fSt) : onB (nI n) τ f = f n := by
  rw [onB, if_pos ⟨nI_pos (by omega), nI_lt h (by decide)⟩, nI_clamp (by omega)]
theorem onB_out {b : Int32} (h : ¬ bk b) (τ : fSt) (f : Nat → Int32 × fSt) : onB b τ f = (-1, τ) := by
  rw [onB, if_neg (fun q => h (bk_of q.1 q.2))]
def mcut (τ : fSt) (k : Nat) : Prop := ¬ τ 4 0 = 0 ∧ ¬ nI k ≤ τ 5 0
theorem mcut_bud {τ : fSt} {k : Nat} (hb : bud τ 0) (hk : k < 2 ^ 31) : mcut τ k ↔ ¬ bud τ k := by
  constructor
  · rintro ⟨h1, h2⟩ (q | ⟨c, hc, h5, hj⟩)
    · exact h1 q
    · exact h2 (by rw [h5]; exact nI_le hj (by omega))
  · intro h
    rcases hb with q | ⟨c, hc, h5, _⟩
    · exact absurd (Or.inl q) h
    · refine ⟨fun q => h (Or.inl q), fun q => h (Or.inr ⟨c, hc, h5, ?_⟩)⟩
      rw [h5] at q
      exact (nI_leI hk (by omega)).mp q
/-- cut or done -/
def ctM (τ : fSt) (k : Nat) (x : Int32 × fSt) : Int32 × fSt := if ¬ τ 4 0 = 0 ∧ ¬ nI k ≤ τ 5 0 then (-9, mRst τ) else x
theorem ctM_t {τ : fSt} {k : Nat} {x : Int32 × fSt} (h : mcut τ k) : ctM τ k x = (-9, mRst τ) := if_pos h
theorem ctM_f {τ : fSt} {k : Nat} {x : Int32 × fSt} (h : ¬ mcut τ k) : ctM τ k x = x := if_neg h
def cl (x : Int32) : Nat := x.toNatClampNeg
theorem cl_nI {n : Nat} (h : n < 2 ^ 31) : cl (nI n) = n := nI_clamp h
def sDraft (τ : fSt) (x : Int32) : Int32 × fSt := if τ 3 0 = 4 then (-2, τ) else (τ 3 0 + 1, sf (sf τ 2 (upd (τ 2) (cl (τ 3 0)) x)) 3 (fun _ => τ 3 0 + 1))
def sScrap (τ : fSt) : fSt := sf τ 3 (fun _ => 0)
def apK (s : Int32) : Nat := if s ≤ 0 then 2 else 1
theorem apK_le (s : Int32) : apK s < 2 ^ 31 := by
  unfold apK
  split <;> decide
def sAppend (τ : fSt) (b x : Int32) : Int32 × fSt := onB b τ fun n => if τ 1 n = 4 then (-2, τ) else ctM τ (apK (τ 1 n)) (τ 1 n + 1, sf (sf (dcM τ (apK (τ 1 n))) 0 (upd (τ 0) (4 * n + cl (τ 1 n)) x)) 1 (upd (τ 1) n (τ 1 n + 1)))
def wrM (τ : fSt) (n m : Nat) : Nat → Int32 := fun j => if 4 * n ≤ j ∧ j < 4 * n + m then τ 2 (j - 4 * n) else τ 0 j
def sChange (τ : fSt) (b : Int32) : Int32 × fSt := onB b τ fun n => ctM τ (cl (τ 3 0) + 2) (τ 3 0, sf (sf (sf (dcM τ (cl (τ 3 0) + 2)) 0 (wrM τ n (cl (τ 3 0)))) 1 (upd (τ 1) n (τ 3 0))) 3 (fun _ => 0))
def sDrop (τ : fSt) (b : Int32) : Int32 × fSt := onB b τ fun n => if τ 1 n = 0 then (-4, τ) else ctM τ 1 (τ 1 n, sf (dcM τ 1) 1 (upd (τ 1) n 0))
def swM (τ : fSt) (n m k : Nat) : Nat → Int32 := fun j => if 4 * n ≤ j ∧ j < 4 * n + k then τ 0 (4 * m + (j - 4 * n)) else if 4 * m ≤ j ∧ j < 4 * m + k then τ 0 (4 * n + (j - 4 * m)) else τ 0 j
def sSwap (τ : fSt) (b c : Int32) : Int32 × fSt := onB b τ fun n => onB c τ fun m => if n = m then (0, τ) else ctM τ (cl (τ 1 n) + cl (τ 1 m) + 3) (0, sf (sf (dcM τ (cl (τ 1 n) + cl (τ 1 m) + 3)) 1 (upd (upd (τ 1) n (τ 1 m)) m (τ 1 n))) 0 (swM τ n m 4))
def sSize (τ : fSt) (b : Int32) : Int32 × fSt := onB b τ fun n => (τ 1 n, τ)
def sRead (τ : fSt) (b i : Int32) : Int32 := if ¬ b < 0 ∧ b < nI 8 then (if ¬ i < 0 ∧ i < τ 1 (cl b) then τ 0 (4 * cl b + cl i) else 0) else 0
def sCutAfter (τ : fSt) (k : Int32) : Int32 × fSt := if k < 0 ∨ ¬ k ≤ nI 40 then (-1, τ) else (0, sf (sf τ 4 (fun _ => 1)) 5 (fun _ => k))
def sCancel (τ : fSt) : Int32 × fSt := (if τ 4 0 = 0 then -4 else τ 5 0, sf τ 4 (fun _ => 0))
/-- the digest, word by word -/
def dgI (wd : Nat → Int32) (b : Nat) : Nat → Int32 → Int32
  | 0, s => s
  | i + 1, s => dgI wd b i s + nI (4 * b + i + 1) * wd i
def dgO (τ : fSt) : Nat → Int32
  | 0 => 0
  | b + 1 => dgI (fun i => τ 0 (4 * b + i)) b (cl (τ 1 b)) (dgO τ b)
theorem dgI_eq {w w' : Nat → Int32} (b : Nat) {n : Nat} (s : Int32) (h : ∀ i, i < n → w i = w' i) : dgI w b n s = dgI w' b n s := by
  induction n with
  | zero => rfl
  | succ n ih => rw [dgI, dgI, ih (fun i hi => h i (by omega)), h n (by omega)]
/-- what the reference needs of its own state -/
def MI (τ : fSt) : Prop := (∀ b, b < 8 → ∃ s, s ≤ 4 ∧ τ 1 b = nI s) ∧ (∃ n, n ≤ 4 ∧ τ 3 0 = nI n)
theorem Rel.mi {σ τ : fSt} {K : Nat} (h : Rel σ τ K) : MI τ := by
  refine ⟨fun b hb => ?_, ?_⟩
  · obtain ⟨n, hn, _, ht, _⟩ := vw_sz (h.2.1 b hb)
    exact ⟨n, hn, ht⟩
  · obtain ⟨n, hn, h14⟩ := h.1.2.2.2.2.2.2.1
    exact ⟨n, hn, h.2.2.1.symm.trans h14⟩
/-- the outcome of a call: the answer, and states that agree -/
def Out (r : Int32) (σ : fSt) (x : Int32 × fSt) (K : Nat) : Prop := r = x.1 ∧ Rel σ x.2 K
end
section
set_option maxRecDepth 100000
set_option maxHeartbeats 4000000 in
/-- draft -/
theorem c_draft (d : Nat → Nat) (σ : fSt) {τ : fSt} {K : Nat} (x : Int32) (h : Rel σ τ K) : CFi d yX0_draft cX0_draft 2 .int (rmF 0 0) σ [.int x] (fun r σ' => Out r σ' (sDraft τ x) K) := by
  refine CMi.of (own := RX0) (by decide +kernel) rfl (Nat.le_of_ble_eq_true rfl) (by simp [Value.category]) (fun _ _ _ => rfl) ?_
  intro X hX hR
  refine V_aln hX 0 dX0_draft_0 rfl rfl ?_
  refine F_get hX 14 (by decide) q52 rfl dX0_draft_1 ?_
  refine V_iconst hX (v := nI 4) dX0_draft_4 (by decide +kernel) ?_
  refine V_ic_ne hX (tgt := 11) dX0_draft_5 (by decide) (fun c5 => ?_) (fun c5 => ?_)
  · have hn4 : ¬ τ 3 0 = 4 := by rw [← h.2.2.1]; exact c5
    obtain ⟨n, hn, h14⟩ := h.1.2.2.2.2.2.2.1
    have hlt : n < 4 := by
      rcases Nat.lt_or_ge n 4 with q | q
      · exact q
      · exact absurd (show σ 14 0 = 4 by rw [h14, show n = 4 by omega]; rfl) c5
    refine V_aln hX 0 dX0_draft_11 rfl rfl ?_
    refine F_get hX 15 (by decide) q53 rfl dX0_draft_12 ?_
    refine V_aln hX 0 dX0_draft_15 rfl rfl ?_
    refine F_get hX 14 (by decide) q52 rfl dX0_draft_16 ?_
    refine V_top (y := nI n) h14 ?_
    refine V_iln hX 1 dX0_draft_19 rfl rfl ?_
    refine F_ist hX rfl hlt dX0_draft_20 ?_
    refine V_aln hX 0 dX0_draft_21 rfl rfl ?_
    refine V_dup hX dX0_draft_22 rfl ?_
    refine F_get hX 14 (by decide) q52 rfl dX0_draft_23 ?_
    refine V_iconst hX (v := 1) dX0_draft_26 (by decide +kernel) ?_
    refine V_iadd hX dX0_draft_27 ?_
    refine F_putI hX 14 (by decide) q52 rfl rfl rfl dX0_draft_28 ?_
    refine V_aln hX 0 dX0_draft_31 rfl rfl ?_
    refine F_get hX 14 (by decide) q52 rfl dX0_draft_32 ?_
    refine hR _ _ ?_ _ _ dX0_draft_35
    have ht3 : τ 3 0 = nI n := h.2.2.1.symm.trans h14
    rw [sDraft, if_neg hn4, ht3, cl_nI (by omega)]
    obtain ⟨hI, hv, h3, h4, h5, h6⟩ := h
    refine ⟨?_, ⟨hI.1, hI.2.1, hI.2.2.1, hI.2.2.2.1, hI.2.2.2.2.1, hI.2.2.2.2.2.1, ⟨n + 1, by omega, ?_⟩, hI.2.2.2.2.2.2.2⟩, hv, ?_, fun i hi => ?_, h5, h6⟩
    · show σ 14 0 + 1 = nI n + 1
      rw [h14]
    · show σ 14 0 + 1 = nI (n + 1)
      rw [h14]; exact nI_1 n
    · show σ 14 0 + 1 = nI n + 1
      rw [h14]
    · show upd (σ 15) n x i = upd (τ 2) n x i
      by_cases q : i = n
      · rw [q, pk_us, pk_us]
      · rw [pk_un q, pk_un q]; exact h4 i hi
  · refine V_bipush hX (v := (-2)) dX0_draft_8 (by decide +kernel) ?_
    exact hR _ _ (by rw [sDraft, if_pos (show τ 3 0 = 4 from h.2.2.1.symm.trans c5)]; exact ⟨rfl, h⟩) _ _ dX0_draft_10
set_option maxHeartbeats 4000000 in
/-- scrap -/
theorem c_scrap (d : Nat → Nat) (σ : fSt) {τ : fSt} {K : Nat} (h : Rel σ τ K) : CFv d yX0_scrap cX0_scrap 1 (rmF 0 0) σ [] (fun σ' => Rel σ' (sScrap τ) K) := by
  refine CMv.of (own := RX0) (by decide +kernel) rfl (Nat.le_of_ble_eq_true rfl) (by simp [Value.category]) ?_
  intro X hX hR
  refine V_aln hX 0 dX0_scrap_0 rfl rfl ?_
  refine V_iconst hX (v := 0) dX0_scrap_1 (by decide +kernel) ?_
  refine F_putI hX 14 (by decide) q52 rfl rfl rfl dX0_scrap_2 ?_
  refine hR _ ?_ _ _ dX0_scrap_5
  obtain ⟨hI, hv, h3, h4, h5, h6⟩ := h
  exact ⟨⟨hI.1, hI.2.1, hI.2.2.1, hI.2.2.2.1, hI.2.2.2.2.1, hI.2.2.2.2.2.1, ⟨0, by omega, rfl⟩, hI.2.2.2.2.2.2.2⟩, hv, rfl, h4, h5, h6⟩
set_option maxHeartbeats 4000000 in
/-- append -/
theorem c_append (d : Nat → Nat) (σ : fSt) {τ : fSt} {K : Nat} (b x : Int32) (h : Rel σ τ K) (hK1 : 1 ≤ K) (hK : K + 2 < 2 ^ 30) : CFi d yX0_append cX0_append 5 .int (rmF 4 90) σ [.int b, .int x] (fun r σ' => Out r σ' (sAppend τ b x) (K + 1)) := by
  refine CMi.of (own := RX0) (by decide +kernel) rfl (Nat.le_of_ble_eq_true rfl) (by simp [Value.category]) (fun _ _ _ => rfl) ?_
  intro X hX hR
  refine V_aln hX 0 dX0_append_0 rfl rfl ?_
  refine V_iln hX 1 dX0_append_1 rfl rfl ?_
  refine V_calli (n := 1) hX (c_badBlock d σ b) rfl rfl rfl (lw_V q110 q112 qs2 q20 q113) rfl rfl (by decide +kernel) ⟨Nat.le_of_ble_eq_true rfl, Nat.le_of_ble_eq_true rfl⟩ rfl rfl (Nat.le_of_ble_eq_true rfl) dX0_append_2 (fun r2 s2 h2 => ?_)
  obtain ⟨rfl, h2⟩ := h2
  refine V_if_eq hX (tgt := 10) dX0_append_5 (by decide) (fun c5 => ?_) (fun c5 => ?_)
  · obtain ⟨n, hn, rfl⟩ : bk b := Classical.not_not.mp (h2.z c5)
    obtain ⟨m, hm4, hsz, ht, hmo, hcs⟩ := vw_sz (h.2.1 n hn)
    obtain ⟨hd0, hb0⟩ := Rel_dc0 h
    have j64 : ∀ (σ1 : fSt) (K' j e m : Nat), Rel σ1 (dcM τ j) K' → (K ≤ K' ∧ K' ≤ K + 1) → bud τ j → isNew σ1 n e → σ1 7 e = 0 → σ1 8 e = nI m → m < 4 → τ 1 n = nI m → (∀ i, i < m → σ1 9 (e * 4 + i) = τ 0 (4 * n + i)) → j + 1 = apK (τ 1 n) → (∀ L', V X (wF d σ1) ([.ref (d 19), .int (nI n), .int x, .int (nI e)] ++ L') 64 []) := by
      intro σ1 K' j e m hr hKK hb hw h7 h8 hm ht htw hj L'
      refine V_take 4 ?_
      refine V_L (L' := [.ref (d 19), .int (nI n), .int x, .int (nI e)]) rfl ?_
      have he := hw.1
      have hnc : ¬ τ 1 n = 4 := by rw [ht]; exact fun q => absurd (nI_inj (b := 4) q (by omega) (by decide)) (by omega)
      refine V_aln hX 0 dX0_append_64 rfl rfl ?_
      refine V_calli (n := 0) hX (c_step d σ1 (τ := τ) (K := K') (j := j) hr hb (by omega) (by omega)) rfl rfl rfl (lw_V q142 q144 qs10 q20 q145) rfl rfl (by decide +kernel) ⟨Nat.le_of_ble_eq_true rfl, Nat.le_of_ble_eq_true rfl⟩ rfl rfl (Nat.le_of_ble_eq_true rfl) dX0_append_65 (fun r65 s65 h65 => ?_)
      refine V_is hX dX0_append_68 (Nat.le_of_ble_eq_true rfl) (Nat.le_of_ble_eq_true rfl) ?_
      dsimp only [lput]
      refine V_il hX dX0_append_70 rfl ?_
      refine V_if_ne hX (tgt := 78) dX0_append_72 (by decide) (fun c72 => ?_) (fun c72 => ?_)
      · obtain ⟨_, rfl, hr1, hb1⟩ := h65.resolve_right (fun q => c72 q.1)
        refine V_aln hX 0 dX0_append_78 rfl rfl ?_
        refine V_iln hX 3 dX0_append_79 rfl rfl ?_
        refine V_iln hX 2 dX0_append_80 rfl rfl ?_
        refine V_callv (n := 2) hX (c_writeWord d (stF σ1) e m x he (by rw [stF_n (by decide)]; exact h8) hm) rfl rfl rfl (lw_V q150 q152 qs12 q20 q153) rfl rfl (by decide +kernel) ⟨Nat.le_of_ble_eq_true rfl, Nat.le_of_ble_eq_true rfl⟩ rfl rfl (Nat.le_of_ble_eq_true rfl) dX0_append_81 (fun s81 h81 => ?_)
        subst h81
        refine V_aln hX 0 dX0_append_84 rfl rfl ?_
        refine F_get hX 12 (by decide) q50 rfl dX0_append_85 ?_
        refine V_iln hX 1 dX0_append_88 rfl rfl ?_
        refine V_iln hX 3 dX0_append_89 rfl rfl ?_
        refine F_ist hX rfl (by first | assumption | omega) dX0_append_90 ?_
        refine V_aln hX 0 dX0_append_91 rfl rfl ?_
        refine F_get hX 8 (by decide) q46 rfl dX0_append_92 ?_
        refine V_iln hX 3 dX0_append_95 rfl rfl ?_
        refine F_ild hX rfl (by first | assumption | omega) dX0_append_96 ?_
        have hwS : isNew (stF σ1) n e := by
          unfold stF
          split
          · exact hw
          · exact hw
        have ha := Rel_app (x := x) hr1 (by omega) hn hwS (by rw [stF_n (by decide)]; exact h7) (by rw [stF_n (by decide)]; exact h8) hm (show dcM τ (j + 1) 1 n = nI m from ht) (fun i hi => by rw [stF_n (by decide)]; exact htw i hi)
        refine hR _ _ ?_ _ _ dX0_append_97
        rw [sAppend, onB_in hn, if_neg hnc, ctM_f (fun q => (mcut_bud hb0 (apK_le _)).mp q (by rw [← hj]; exact hb1)), ← hj, ht, cl_nI (by omega), nI_1]
        exact ⟨(show upd (stF σ1 8) e (nI (m + 1)) e = nI (m + 1) from pk_us), ha.mono (by omega)⟩
      · obtain ⟨_, hr1, hb1⟩ := h65.resolve_left (fun q => by rw [q.1] at c72; exact absurd c72 (by decide))
        refine V_bipush hX (v := (-9)) dX0_append_75 (by decide +kernel) ?_
        refine hR _ _ ?_ _ _ dX0_append_77
        rw [sAppend, onB_in hn, if_neg hnc, ctM_t ((mcut_bud hb0 (apK_le _)).mpr (by rw [← hj]; exact hb1))]
        exact ⟨rfl, hr1.mono (by omega)⟩
    refine V_aln hX 0 dX0_append_10 rfl rfl ?_
    refine V_iln hX 1 dX0_append_11 rfl rfl ?_
    refine V_calli (n := 1) hX (c_sizeOf d σ n hn hmo) rfl rfl rfl (lw_V q114 q116 qs3 q20 q117) rfl rfl (by decide +kernel) ⟨Nat.le_of_ble_eq_true rfl, Nat.le_of_ble_eq_true rfl⟩ rfl rfl (Nat.le_of_ble_eq_true rfl) dX0_append_12 (fun r12 s12 h12 => ?_)
    obtain ⟨rfl, rfl⟩ := h12
    refine V_top hsz ?_
    refine V_iconst hX (v := nI 4) dX0_append_15 (by decide +kernel) ?_
    refine V_ic_neN hX (tgt := 22) dX0_append_16 (by decide) (by omega) (by omega) (fun c16 => ?_) (fun c16 => ?_)
    · have hm3 : m < 4 := by omega
      refine V_aln hX 0 dX0_append_22 rfl rfl ?_
      refine F_get hX 12 (by decide) q50 rfl dX0_append_23 ?_
      refine V_iln hX 1 dX0_append_26 rfl rfl ?_
      refine F_ild hX rfl (by first | assumption | omega) dX0_append_27 ?_
      refine V_isn hX 3 dX0_append_28 rfl (Nat.le_of_ble_eq_true rfl) (Nat.le_of_ble_eq_true rfl) ?_
      dsimp only [lput]
      refine V_iln hX 3 dX0_append_29 rfl rfl ?_
      refine V_if_ge hX (tgt := 64) dX0_append_30 (by decide) (fun c30 => ?_) (fun c30 => ?_)
      · obtain ⟨m1, e, he, h12, h8, hwd⟩ : 1 ≤ m ∧ ∃ e, e < 16 ∧ σ 12 n = nI e ∧ σ 8 e = nI m ∧ ∀ i, i < m → σ 9 (e * 4 + i) = τ 0 (4 * n + i) := by
          rcases hcs with ⟨_, q⟩ | q
          · exact absurd c30 (by rw [q]; decide)
          · exact q
        obtain ⟨hw, h7, _⟩ := hsp_at (h.1.2.2.2.2.1 n hn) h12 he
        refine V_L (L' := [.ref (d 19), .int (nI n), .int x, .int (nI e)] ++ []) (by rw [← h12]; rfl) ?_
        exact j64 σ K 0 e m hd0 ⟨Nat.le_refl _, by omega⟩ hb0 hw h7 h8 hm3 ht hwd (by rw [ht, apK, if_neg (nI_nle (by omega) (by omega))]) []
      · obtain ⟨rfl, h12⟩ : m = 0 ∧ σ 12 n = -1 := by
          rcases hcs with q | ⟨_, e, he, q, _⟩
          · exact q
          · exact absurd (show 0 ≤ σ 12 n by rw [q]; exact nI_pos' (by omega)) c30
        refine V_aln hX 0 dX0_append_33 rfl rfl ?_
        refine V_callv (n := 0) hX (c_provide d σ (τ := dcM τ 0) (K := K) hd0 (by omega)) rfl rfl rfl (lw_V q118 q120 qs4 q20 q121) rfl rfl (by decide +kernel) ⟨Nat.le_of_ble_eq_true rfl, Nat.le_of_ble_eq_true rfl⟩ rfl rfl (Nat.le_of_ble_eq_true rfl) dX0_append_34 (fun σ1 h34 => ?_)
        obtain ⟨hr, hsm, hc⟩ := h34
        refine V_aln hX 0 dX0_append_37 rfl rfl ?_
        refine V_iconst hX (v := 0) dX0_append_38 (by decide +kernel) ?_
        refine V_calli (n := 1) hX (c_pick d σ1 0) rfl rfl rfl (lw_V q138 q140 qs9 q20 q141) rfl rfl (by decide +kernel) ⟨Nat.le_of_ble_eq_true rfl, Nat.le_of_ble_eq_true rfl⟩ rfl rfl (Nat.le_of_ble_eq_true rfl) dX0_append_39 (fun r39 s39 h39 => ?_)
        obtain ⟨rfl, h39⟩ := h39
        obtain ⟨e, he, hfe, rfl⟩ : ∃ e, e < 16 ∧ fre σ1 e ∧ r39 = nI e := by
          rcases h39 with ⟨_, hno⟩ | h
          · have z := cnt_none hno
            omega
          · exact h
        refine V_isn hX 3 dX0_append_42 rfl (Nat.le_of_ble_eq_true rfl) (Nat.le_of_ble_eq_true rfl) ?_
        dsimp only [lput]
        refine V_aln hX 0 dX0_append_43 rfl rfl ?_
        refine V_calli (n := 0) hX (c_step d σ1 (τ := τ) (K := K) (j := 0) hr hb0 (by omega) (by omega)) rfl rfl rfl (lw_V q142 q144 qs10 q20 q145) rfl rfl (by decide +kernel) ⟨Nat.le_of_ble_eq_true rfl, Nat.le_of_ble_eq_true rfl⟩ rfl rfl (Nat.le_of_ble_eq_true rfl) dX0_append_44 (fun r44 s44 h44 => ?_)
        refine V_is hX dX0_append_47 (Nat.le_of_ble_eq_true rfl) (Nat.le_of_ble_eq_true rfl) ?_
        dsimp only [lput]
        refine V_il hX dX0_append_49 rfl ?_
        refine V_if_ne hX (tgt := 57) dX0_append_51 (by decide) (fun c51 => ?_) (fun c51 => ?_)
        · obtain ⟨_, rfl, hr1, hb1⟩ := h44.resolve_right (fun q => c51 q.1)
          refine V_aln hX 0 dX0_append_57 rfl rfl ?_
          refine V_iln hX 3 dX0_append_58 rfl rfl ?_
          refine V_iln hX 1 dX0_append_59 rfl rfl ?_
          refine V_iconst hX (v := 1) dX0_append_60 (by decide +kernel) ?_
          refine V_callv (n := 3) hX (c_writeHeader d (stF σ1) e (nI n) 1 he (by decide +kernel)) rfl rfl rfl (lw_V q146 q148 qs11 q20 q149) rfl rfl (by decide +kernel) ⟨Nat.le_of_ble_eq_true rfl, Nat.le_of_ble_eq_true rfl⟩ rfl rfl (Nat.le_of_ble_eq_true rfl) dX0_append_61 (fun s61 h61 => ?_)
          subst h61
          have hfs : fre (stF σ1) e := ⟨by rw [stF_n (by decide)]; exact hfe.1, by rw [stF_n (by decide)]; exact hfe.2⟩
          have h12' : stF σ1 12 n = -1 := by rw [stF_n (by decide), hsm 12 (by decide) (by decide) (by decide) (by decide) (by decide)]; exact h12
          have hr2 := Rel_hdr (g := 1) hr1 (by omega) he hfs hn (Or.inr h12')
          have hc2 := hdr_new (b := n) (g := 1) hr1.1 (by omega) he hfs
          refine j64 (whF (stF σ1) e (nI n) 1) (K + 1) 1 e 0 hr2 ⟨by omega, by omega⟩ hb1 ⟨he, ⟨hc2.2.1.1, hc2.2.1.2, Or.inl (by rw [hc2.2.2.2.1]; decide)⟩, hc2.2.2.1, fun e' he' s' o' => ?_⟩ hc2.2.2.2.2.2.1 hc2.2.2.2.2.2.2.1 (by omega) ht (fun i hi => absurd hi (Nat.not_lt_zero _)) (by rw [ht]; decide) [.int r44]
          by_cases q : e' = e
          · rw [q]; exact Int.le_refl _
          · exact Int.le_of_lt (hc2.2.2.2.2.2.2.2 e' he' q (sd_lv s'))
        · obtain ⟨_, hr1, hb1⟩ := h44.resolve_left (fun q => by rw [q.1] at c51; exact absurd c51 (by decide))
          refine V_bipush hX (v := (-9)) dX0_append_54 (by decide +kernel) ?_
          refine hR _ _ ?_ _ _ dX0_append_56
          rw [sAppend, onB_in hn, if_neg (by rw [ht]; decide), ctM_t ((mcut_bud hb0 (by rw [ht]; decide)).mpr (fun q => hb1 (bud_mono q (by rw [ht]; decide))))]
          exact ⟨rfl, hr1.mono (by omega)⟩
    · refine V_bipush hX (v := (-2)) dX0_append_19 (by decide +kernel) ?_
      exact hR _ _ (by rw [sAppend, onB_in hn, if_pos (show τ 1 n = 4 by rw [ht, c16]; rfl)]; exact ⟨rfl, h.mono (by omega)⟩) _ _ dX0_append_21
  · refine V_iconst hX (v := (-1)) dX0_append_8 (by decide +kernel) ?_
    exact hR _ _ (by rw [sAppend, onB_out (h2.nz c5)]; exact ⟨rfl, h.mono (by omega)⟩) _ _ dX0_append_9
end
section
set_option maxRecDepth 100000
theorem Rel_scrap {σ τ : fSt} {K : Nat} (h : Rel σ τ K) : Rel (sf σ 14 (fun _ => 0)) (sf τ 3 (fun _ => 0)) K := by
  obtain ⟨hI, hv, h3, h4, h5, h6⟩ := h
  exact ⟨⟨hI.1, hI.2.1, hI.2.2.1, hI.2.2.2.1, hI.2.2.2.2.1, hI.2.2.2.2.2.1, ⟨0, by omega, rfl⟩, hI.2.2.2.2.2.2.2⟩, hv, rfl, h4, h5, h6⟩
theorem wrM_in {τ : fSt} {n m i : Nat} (h : i < m) : wrM τ n m (4 * n + i) = τ 2 i := by
  rw [wrM, if_pos ⟨by omega, by omega⟩, show 4 * n + i - 4 * n = i by omega]
theorem wrM_out {τ : fSt} {n m j : Nat} (h : ¬ (4 * n ≤ j ∧ j < 4 * n + m)) : wrM τ n m j = τ 0 j := by
  rw [wrM, if_neg h]
/-- change: the copy is closed -/
theorem Rel_change {σ τ : fSt} {K n e m k : Nat} (h : Rel σ (dcM τ k) K) (hK : K < 2 ^ 31) (hn : n < 8) (hc : Cp σ n e m 0) (hm : m ≤ 4) (hp : ∀ i, i < m → σ 9 (e * 4 + i) = τ 2 i) :
    Rel (sf (adF (sf σ 6 (upd (σ 6) e 1)) n e) 14 (fun _ => 0)) (sf (sf (sf (dcM τ k) 0 (wrM τ n m)) 1 (upd (τ 1) n (nI m))) 3 (fun _ => 0)) K := by
  obtain ⟨c1, c2, c3, c4, c5, c6, c7, c8⟩ := hc
  have hu := cp_unsound ⟨c1, c2, c3, c4, c5, c6, c7, c8⟩
  refine Rel_scrap (Rel_cls (τ' := sf (sf (dcM τ k) 0 (wrM τ n m)) 1 (upd (τ 1) n (nI m))) h hK hn c1 c2 hu c3 c6 c7 hm (fun e' he' s' _ => c8 e' he' (fun q => hu (by rw [← q]; exact s')) (sd_lv s')) pk_us (fun i hi => ?_) (fun b' hb' hne => ⟨pk_un hne, fun i hi => ?_⟩) (fun _ _ => rfl) rfl rfl rfl)
  · show σ 9 (e * 4 + i) = wrM τ n m (4 * n + i)
    rw [wrM_in hi]; exact hp i hi
  · show wrM τ n m (4 * b' + i) = τ 0 (4 * b' + i)
    exact wrM_out (by omega)
def w1M (τ : fSt) (n m : Nat) : Nat → Int32 := fun j => if 4 * n ≤ j ∧ j < 4 * n + 4 then τ 0 (4 * m + (j - 4 * n)) else τ 0 j
/-- swap: both copies are closed -/
theorem Rel_swap {σ2 σ3 σ4 τ : fSt} {K n m e1 e2 n1 n2 k : Nat} (h : Rel σ4 (dcM τ k) K) (hK : K < 2 ^ 31) (hn : n < 8) (hm : m < 8) (hnm : n ≠ m) (c1 : Cp σ2 n e1 n1 0) (c2 : Cp σ3 m e2 n2 0) (hf : fre σ2 e2) (hfr : ∀ e', e' < 16 → e' ≠ e2 → agr σ2 σ3 e' ∧ ∀ i, i < 4 → σ3 9 (e' * 4 + i) = σ2 9 (e' * 4 + i)) (h34 : ∀ j, j ≠ 18 → σ4 j = σ3 j)
    (h1 : n1 ≤ 4) (h2 : n2 ≤ 4) (t1 : τ 1 m = nI n1) (t2 : τ 1 n = nI n2) (p1 : ∀ i, i < n1 → σ2 9 (e1 * 4 + i) = τ 0 (4 * m + i)) (p2 : ∀ i, i < n2 → σ3 9 (e2 * 4 + i) = τ 0 (4 * n + i)) :
    Rel (adF (adF (sf (sf σ4 6 (upd (σ4 6) e1 1)) 6 (upd (upd (σ4 6) e1 1) e2 1)) n e1) m e2) (sf (sf (dcM τ k) 1 (upd (upd (τ 1) n (τ 1 m)) m (τ 1 n))) 0 (swM τ n m 4)) K := by
  have hne : e1 ≠ e2 := fun q => hf.1 (by rw [← q]; exact c1.2.1.2)
  have a34 : ∀ e', agr σ3 σ4 e' := fun e' => ⟨by rw [h34 0 (by decide)], by rw [h34 1 (by decide)], by rw [h34 3 (by decide)], by rw [h34 4 (by decide)], by rw [h34 5 (by decide)], by rw [h34 6 (by decide)], by rw [h34 7 (by decide)], by rw [h34 8 (by decide)]⟩
  obtain ⟨a1, pg1⟩ := hfr e1 c1.1 hne
  have hu2 : ¬ sd σ4 e2 := fun q => cp_unsound c2 ((a34 e2).so.mp q)
  have hu1 : ¬ sd σ4 e1 := fun q => cp_unsound c1 (a1.so.mp ((a34 e1).so.mp q))
  have hA := Rel_cls (τ' := sf (sf (dcM τ k) 0 (w1M τ n m)) 1 (upd (τ 1) n (τ 1 m))) (e := e1) (b := n) (n := n1) h hK hn c1.1 ((a34 e1).lv.mpr (a1.lv.mpr c1.2.1)) hu1 (by rw [(a34 e1).ow, a1.ow]; exact c1.2.2.1) (by rw [(a34 e1).2.2.2.2.2.2.1, a1.2.2.2.2.2.2.1]; exact c1.2.2.2.2.2.1) (by rw [(a34 e1).2.2.2.2.2.2.2, a1.2.2.2.2.2.2.2]; exact c1.2.2.2.2.2.2.1) h1 (fun e' he' s' o' => ?_) ?_ (fun i hi => ?_) (fun b' hb' hq => ⟨pk_un hq, fun i hi => ?_⟩) (fun _ _ => rfl) rfl rfl rfl
  rotate_left
  · have q1 : e' ≠ e1 := fun q => hu1 (by rw [← q]; exact s')
    have q2 : e' ≠ e2 := fun q => hu2 (by rw [← q]; exact s')
    have a := (hfr e' he' q2).1
    rw [(a34 e').nu, (a34 e1).nu, a.nu, a1.nu]
    exact c1.2.2.2.2.2.2.2 e' he' q1 (sd_lv (a.so.mp ((a34 e').so.mp s')))
  · show upd (τ 1) n (τ 1 m) n = nI n1
    rw [pk_us]; exact t1
  · show σ4 9 (e1 * 4 + i) = w1M τ n m (4 * n + i)
    rw [h34 9 (by decide), pg1 i (by omega), p1 i hi, w1M, if_pos ⟨by omega, by omega⟩, show 4 * n + i - 4 * n = i by omega]
  · show w1M τ n m (4 * b' + i) = τ 0 (4 * b' + i)
    rw [w1M, if_neg (by omega)]
  have hB := Rel_cls (τ' := sf (sf (dcM τ k) 1 (upd (upd (τ 1) n (τ 1 m)) m (τ 1 n))) 0 (swM τ n m 4)) (e := e2) (b := m) (n := n2) hA hK hm c2.1 ((a34 e2).lv.mpr c2.2.1) ?_ (show σ4 3 e2 = nI m by rw [(a34 e2).ow]; exact c2.2.2.1) (show σ4 7 e2 = 0 by rw [(a34 e2).2.2.2.2.2.2.1]; exact c2.2.2.2.2.2.1) (show σ4 8 e2 = nI n2 by rw [(a34 e2).2.2.2.2.2.2.2]; exact c2.2.2.2.2.2.2.1) h2 (fun e' he' s' o' => ?_) ?_ (fun i hi => ?_) (fun b' hb' hq => ⟨?_, fun i hi => ?_⟩) (fun _ _ => rfl) rfl rfl rfl
  rotate_left
  · rintro ⟨_, _, q | q⟩
    · exact q (show σ4 5 e2 = 0 by rw [(a34 e2).2.2.2.2.1]; exact c2.2.2.2.1)
    · exact q (show upd (σ4 6) e1 1 e2 = 0 by rw [pk_un (Ne.symm hne), (a34 e2).2.2.2.2.2.1]; exact c2.2.2.2.2.1)
  · show nm σ4 e' < nm σ4 e2
    have l' : lvb σ4 e' := ⟨s'.1, s'.2.1⟩
    have q2 : e' ≠ e2 := by
      intro q
      subst q
      rcases s'.2.2 with q | q
      · exact q (show σ4 5 e' = 0 by rw [(a34 e').2.2.2.2.1]; exact c2.2.2.2.1)
      · exact q (show upd (σ4 6) e1 1 e' = 0 by rw [pk_un (Ne.symm hne), (a34 e').2.2.2.2.2.1]; exact c2.2.2.2.2.1)
    rw [(a34 e').nu, (a34 e2).nu]
    exact c2.2.2.2.2.2.2.2 e' he' q2 ((a34 e').lv.mp l')
  · show upd (upd (τ 1) n (τ 1 m)) m (τ 1 n) m = nI n2
    rw [pk_us]; exact t2
  · show σ4 9 (e2 * 4 + i) = swM τ n m 4 (4 * m + i)
    rw [h34 9 (by decide), p2 i hi, swM, if_neg (by omega), if_pos ⟨by omega, by omega⟩, show 4 * m + i - 4 * m = i by omega]
  · show upd (upd (τ 1) n (τ 1 m)) m (τ 1 n) b' = upd (τ 1) n (τ 1 m) b'
    exact pk_un hq
  · show swM τ n m 4 (4 * b' + i) = w1M τ n m (4 * b' + i)
    by_cases q : b' = n
    · rw [q, swM, w1M, if_pos ⟨by omega, by omega⟩, if_pos ⟨by omega, by omega⟩]
    · rw [swM, w1M, if_neg (by omega), if_neg (by omega), if_neg (by omega)]
  have e9 : adF (sf (adF (sf σ4 6 (upd (σ4 6) e1 1)) n e1) 6 (upd (upd (σ4 6) e1 1) e2 1)) m e2 = adF (adF (sf (sf σ4 6 (upd (σ4 6) e1 1)) 6 (upd (upd (σ4 6) e1 1) e2 1)) n e1) m e2 := by
    have e8 : sf (adF (sf σ4 6 (upd (σ4 6) e1 1)) n e1) 6 (upd (upd (σ4 6) e1 1) e2 1) = adF (sf (sf σ4 6 (upd (σ4 6) e1 1)) 6 (upd (upd (σ4 6) e1 1) e2 1)) n e1 := sf_comm _ _ _ (by decide)
    rw [e8]
  rw [← e9]
  exact hB
end
section
set_option maxRecDepth 100000
set_option maxHeartbeats 4000000 in
/-- change -/
theorem c_change (d : Nat → Nat) (σ : fSt) {τ : fSt} {K : Nat} (b : Int32) (h : Rel σ τ K) (hK1 : 1 ≤ K) (hK : K + 20 < 2 ^ 30) : CFi d yX0_change cX0_change 5 .int (rmF 4 91) σ [.int b] (fun r σ' => Out r σ' (sChange τ b) (K + 1)) := by
  refine CMi.of (own := RX0) (by decide +kernel) rfl (Nat.le_of_ble_eq_true rfl) (by simp [Value.category]) (fun _ _ _ => rfl) ?_
  intro X hX hR
  refine V_aln hX 0 dX0_change_0 rfl rfl ?_
  refine V_iln hX 1 dX0_change_1 rfl rfl ?_
  refine V_calli (n := 1) hX (c_badBlock d σ b) rfl rfl rfl (lw_V q110 q112 qs2 q20 q113) rfl rfl (by decide +kernel) ⟨Nat.le_of_ble_eq_true rfl, Nat.le_of_ble_eq_true rfl⟩ rfl rfl (Nat.le_of_ble_eq_true rfl) dX0_change_2 (fun r2 s2 h2 => ?_)
  obtain ⟨rfl, h2⟩ := h2
  refine V_if_eq hX (tgt := 10) dX0_change_5 (by decide) (fun c5 => ?_) (fun c5 => ?_)
  · obtain ⟨n, hn, rfl⟩ : bk b := Classical.not_not.mp (h2.z c5)
    obtain ⟨n0, hn4, h14⟩ := h.1.2.2.2.2.2.2.1
    have ht3 : τ 3 0 = nI n0 := h.2.2.1.symm.trans h14
    obtain ⟨hd0, hb0⟩ := Rel_dc0 h
    have lp : ∀ (fu i : Nat) (g : Nat → Int32), i ≤ n0 → n0 - i < fu → (∀ j, j < i → g j = σ 15 j) → V X (wF d (sf σ 16 g)) [.ref (d 19), .int (nI n), .int (nI n0), .int (nI i)] 17 [] := by
      intro fu
      induction fu with
      | zero => intro i g _ h; exact absurd h (Nat.not_lt_zero _)
      | succ fu ih =>
        intro i g hi hfu I
        refine V_iln hX 3 dX0_change_17 rfl rfl ?_
        refine V_iln hX 2 dX0_change_18 rfl rfl ?_
        refine V_ic_geN hX (tgt := 40) dX0_change_19 (by decide) (by omega) (by omega) (fun c19 => ?_) (fun c19 => ?_)
        · have e8 : i = n0 := by omega
          subst e8
          refine V_aln hX 0 dX0_change_40 rfl rfl ?_
          refine V_callv (n := 0) hX (c_provide d (sf σ 16 g) (τ := dcM τ 0) (K := K) (Rel_held hd0) (by omega)) rfl rfl rfl (lw_V q118 q120 qs4 q20 q121) rfl rfl (by decide +kernel) ⟨Nat.le_of_ble_eq_true rfl, Nat.le_of_ble_eq_true rfl⟩ rfl rfl (Nat.le_of_ble_eq_true rfl) dX0_change_41 (fun σ1 h41 => ?_)
          obtain ⟨hr, hsm, hc⟩ := h41
          refine V_aln hX 0 dX0_change_44 rfl rfl ?_
          refine V_iln hX 1 dX0_change_45 rfl rfl ?_
          refine V_iln hX 2 dX0_change_46 rfl rfl ?_
          refine V_calli (n := 2) hX (c_writeCopy d σ1 (τ := τ) (K := K) (j := 0) n i hr hb0 hn hn4 (by omega) hK1 (by omega)) rfl rfl rfl (lw_V q158 q160 qs13 q20 q161) rfl rfl (by decide +kernel) ⟨Nat.le_of_ble_eq_true rfl, Nat.le_of_ble_eq_true rfl⟩ rfl rfl (Nat.le_of_ble_eq_true rfl) dX0_change_47 (fun r47 σ2 h47 => ?_)
          refine V_isn hX 3 dX0_change_50 rfl (Nat.le_of_ble_eq_true rfl) (Nat.le_of_ble_eq_true rfl) ?_
          dsimp only [lput]
          refine V_iln hX 3 dX0_change_51 rfl rfl ?_
          refine V_if_ge hX (tgt := 58) dX0_change_52 (by decide) (fun c52 => ?_) (fun c52 => ?_)
          · obtain ⟨e, rfl, he, hfe, hr2, hb2, hc2, hpg, hfr⟩ := h47.resolve_left (fun q => by rw [q.1] at c52; exact absurd c52 (by decide))
            refine V_aln hX 0 dX0_change_58 rfl rfl ?_
            refine V_calli (n := 0) hX (c_step d σ2 (τ := τ) (K := K + 1) (j := 0 + 1 + i) hr2 hb2 (by omega) (by omega)) rfl rfl rfl (lw_V q142 q144 qs10 q20 q145) rfl rfl (by decide +kernel) ⟨Nat.le_of_ble_eq_true rfl, Nat.le_of_ble_eq_true rfl⟩ rfl rfl (Nat.le_of_ble_eq_true rfl) dX0_change_59 (fun r59 s59 h59 => ?_)
            refine V_is hX dX0_change_62 (Nat.le_of_ble_eq_true rfl) (Nat.le_of_ble_eq_true rfl) ?_
            dsimp only [lput]
            refine V_il hX dX0_change_64 rfl ?_
            refine V_if_ne hX (tgt := 72) dX0_change_66 (by decide) (fun c66 => ?_) (fun c66 => ?_)
            · obtain ⟨_, rfl, hr1, hb1⟩ := h59.resolve_right (fun q => c66 q.1)
              refine V_aln hX 0 dX0_change_72 rfl rfl ?_
              refine F_get hX 6 (by decide) q44 rfl dX0_change_73 ?_
              refine V_iln hX 3 dX0_change_76 rfl rfl ?_
              refine V_iconst hX (v := 1) dX0_change_77 (by decide +kernel) ?_
              refine F_zst hX rfl (by first | assumption | omega) (by decide +kernel) dX0_change_78 ?_
              refine V_aln hX 0 dX0_change_79 rfl rfl ?_
              refine V_iln hX 1 dX0_change_80 rfl rfl ?_
              refine V_iln hX 3 dX0_change_81 rfl rfl ?_
              refine V_callv (n := 2) hX (c_adopt d (sf (stF σ2) 6 (upd (stF σ2 6) e 1)) n e hn he) rfl rfl rfl (lw_V q162 q164 qs14 q20 q165) rfl rfl (by decide +kernel) ⟨Nat.le_of_ble_eq_true rfl, Nat.le_of_ble_eq_true rfl⟩ rfl rfl (Nat.le_of_ble_eq_true rfl) dX0_change_82 (fun s82 h82 => ?_)
              subst h82
              refine V_aln hX 0 dX0_change_85 rfl rfl ?_
              refine V_iconst hX (v := 0) dX0_change_86 (by decide +kernel) ?_
              refine F_putI hX 14 (by decide) q52 rfl rfl rfl dX0_change_87 ?_
              refine V_iln hX 2 dX0_change_90 rfl rfl ?_
              have ek : 0 + 1 + i + 1 = i + 2 := by omega
              rw [ek] at hr1 hb1
              have hch := Rel_change (n := n) (e := e) (m := i) hr1 (by omega) hn (Cp_st hc2) hn4 (fun i' hi' => by
                rw [stF_n (by decide), hpg i' hi', hsm 16 (by decide) (by decide) (by decide) (by decide) (by decide)]
                exact (I i' hi').trans (h.2.2.2.1 i' (by omega)))
              refine hR _ _ ?_ _ _ dX0_change_91
              rw [sChange, onB_in hn, ht3, cl_nI (by omega), ctM_f (fun q => (mcut_bud hb0 (by omega)).mp q hb1)]
              exact ⟨rfl, hch⟩
            · obtain ⟨_, hr1, hb1⟩ := h59.resolve_left (fun q => by rw [q.1] at c66; exact absurd c66 (by decide))
              refine V_bipush hX (v := (-9)) dX0_change_69 (by decide +kernel) ?_
              refine hR _ _ ?_ _ _ dX0_change_71
              rw [sChange, onB_in hn, ht3, cl_nI (by omega), ctM_t ((mcut_bud hb0 (by omega)).mpr (fun q => hb1 (bud_mono q (by omega))))]
              exact ⟨rfl, hr1.mono (by omega)⟩
          · obtain ⟨_, hr2, hb2⟩ := h47.resolve_right (fun ⟨e, q, he, _⟩ => c52 (by rw [q]; exact nI_pos' (by omega)))
            refine V_bipush hX (v := (-9)) dX0_change_55 (by decide +kernel) ?_
            refine hR _ _ ?_ _ _ dX0_change_57
            rw [sChange, onB_in hn, ht3, cl_nI (by omega), ctM_t ((mcut_bud hb0 (by omega)).mpr (fun q => hb2 (bud_mono q (by omega))))]
            exact ⟨rfl, hr2.mono (by omega)⟩
        · refine V_aln hX 0 dX0_change_22 rfl rfl ?_
          refine F_get hX 16 (by decide) q54 rfl dX0_change_23 ?_
          refine V_iln hX 3 dX0_change_26 rfl rfl ?_
          refine V_aln hX 0 dX0_change_27 rfl rfl ?_
          refine F_get hX 15 (by decide) q53 rfl dX0_change_28 ?_
          refine V_iln hX 3 dX0_change_31 rfl rfl ?_
          refine F_ild hX rfl (show i < 4 by omega) dX0_change_32 ?_
          refine F_ist hX rfl (show i < 4 by omega) dX0_change_33 ?_
          refine V_w (w' := wF d (sf σ 16 (upd g i (σ 15 i)))) (by rw [sf_sf]; rfl) ?_
          refine V_inc hX dX0_change_34 (Nat.le_of_ble_eq_true rfl) rfl (nI_inc _) ?_
          dsimp only [lput]
          refine V_goto hX (tgt := 17) dX0_change_37 (by decide) ?_
          refine ih (i + 1) (upd g i (σ 15 i)) (by omega) (by omega) (fun j hj => ?_)
          by_cases q : j = i
          · rw [q, pk_us]
          · rw [pk_un q]; exact I j (by omega)
    refine V_aln hX 0 dX0_change_10 rfl rfl ?_
    refine F_get hX 14 (by decide) q52 rfl dX0_change_11 ?_
    refine V_top (y := nI n0) h14 ?_
    refine V_isn hX 2 dX0_change_14 rfl (Nat.le_of_ble_eq_true rfl) (Nat.le_of_ble_eq_true rfl) ?_
    dsimp only [lput]
    refine V_iconst hX (v := 0) dX0_change_15 (by decide +kernel) ?_
    refine V_isn hX 3 dX0_change_16 rfl (Nat.le_of_ble_eq_true rfl) (Nat.le_of_ble_eq_true rfl) ?_
    dsimp only [lput]
    refine V_w (w' := wF d (sf σ 16 (σ 16))) (by rw [sf_self]) ?_
    exact lp (n0 + 1) 0 (σ 16) (by omega) (by omega) (fun j hj => absurd hj (Nat.not_lt_zero _))
  · refine V_iconst hX (v := (-1)) dX0_change_8 (by decide +kernel) ?_
    exact hR _ _ (by rw [sChange, onB_out (h2.nz c5)]; exact ⟨rfl, h.mono (by omega)⟩) _ _ dX0_change_9
set_option maxHeartbeats 4000000 in
/-- drop -/
theorem c_drop (d : Nat → Nat) (σ : fSt) {τ : fSt} {K : Nat} (b : Int32) (h : Rel σ τ K) (hK1 : 1 ≤ K) (hK : K + 20 < 2 ^ 30) : CFi d yX0_drop cX0_drop 4 .int (rmF 4 91) σ [.int b] (fun r σ' => Out r σ' (sDrop τ b) K) := by
  refine CMi.of (own := RX0) (by decide +kernel) rfl (Nat.le_of_ble_eq_true rfl) (by simp [Value.category]) (fun _ _ _ => rfl) ?_
  intro X hX hR
  refine V_aln hX 0 dX0_drop_0 rfl rfl ?_
  refine V_iln hX 1 dX0_drop_1 rfl rfl ?_
  refine V_calli (n := 1) hX (c_badBlock d σ b) rfl rfl rfl (lw_V q110 q112 qs2 q20 q113) rfl rfl (by decide +kernel) ⟨Nat.le_of_ble_eq_true rfl, Nat.le_of_ble_eq_true rfl⟩ rfl rfl (Nat.le_of_ble_eq_true rfl) dX0_drop_2 (fun r2 s2 h2 => ?_)
  obtain ⟨rfl, h2⟩ := h2
  refine V_if_eq hX (tgt := 10) dX0_drop_5 (by decide) (fun c5 => ?_) (fun c5 => ?_)
  · obtain ⟨n, hn, rfl⟩ : bk b := Classical.not_not.mp (h2.z c5)
    obtain ⟨m, hm4, hsz, ht, hmo, hcs⟩ := vw_sz (h.2.1 n hn)
    obtain ⟨hd0, hb0⟩ := Rel_dc0 h
    refine V_aln hX 0 dX0_drop_10 rfl rfl ?_
    refine V_iln hX 1 dX0_drop_11 rfl rfl ?_
    refine V_calli (n := 1) hX (c_sizeOf d σ n hn hmo) rfl rfl rfl (lw_V q114 q116 qs3 q20 q117) rfl rfl (by decide +kernel) ⟨Nat.le_of_ble_eq_true rfl, Nat.le_of_ble_eq_true rfl⟩ rfl rfl (Nat.le_of_ble_eq_true rfl) dX0_drop_12 (fun r12 s12 h12 => ?_)
    obtain ⟨rfl, rfl⟩ := h12
    refine V_top hsz ?_
    refine V_isn hX 2 dX0_drop_15 rfl (Nat.le_of_ble_eq_true rfl) (Nat.le_of_ble_eq_true rfl) ?_
    dsimp only [lput]
    refine V_iln hX 2 dX0_drop_16 rfl rfl ?_
    refine V_if_ne hX (tgt := 23) dX0_drop_17 (by decide) (fun c17 => ?_) (fun c17 => ?_)
    · have hz : ¬ τ 1 n = 0 := by rw [ht]; exact c17
      obtain ⟨m1, e, he, h12, h8, hwd⟩ : 1 ≤ m ∧ ∃ e, e < 16 ∧ σ 12 n = nI e ∧ σ 8 e = nI m ∧ ∀ i, i < m → σ 9 (e * 4 + i) = τ 0 (4 * n + i) := by
        rcases hcs with ⟨q, _⟩ | q
        · exact absurd (by rw [q]; rfl) c17
        · exact q
      refine V_aln hX 0 dX0_drop_23 rfl rfl ?_
      refine V_calli (n := 0) hX (c_step d σ (τ := τ) (K := K) (j := 0) hd0 hb0 (by omega) (by omega)) rfl rfl rfl (lw_V q142 q144 qs10 q20 q145) rfl rfl (by decide +kernel) ⟨Nat.le_of_ble_eq_true rfl, Nat.le_of_ble_eq_true rfl⟩ rfl rfl (Nat.le_of_ble_eq_true rfl) dX0_drop_24 (fun r24 s24 h24 => ?_)
      refine V_isn hX 3 dX0_drop_27 rfl (Nat.le_of_ble_eq_true rfl) (Nat.le_of_ble_eq_true rfl) ?_
      dsimp only [lput]
      refine V_iln hX 3 dX0_drop_28 rfl rfl ?_
      refine V_if_ne hX (tgt := 35) dX0_drop_29 (by decide) (fun c29 => ?_) (fun c29 => ?_)
      · obtain ⟨_, rfl, hr1, hb1⟩ := h24.resolve_right (fun q => c29 q.1)
        refine V_aln hX 0 dX0_drop_35 rfl rfl ?_
        refine F_get hX 7 (by decide) q45 rfl dX0_drop_36 ?_
        refine V_aln hX 0 dX0_drop_39 rfl rfl ?_
        refine F_get hX 12 (by decide) q50 rfl dX0_drop_40 ?_
        refine V_iln hX 1 dX0_drop_43 rfl rfl ?_
        refine F_ild hX rfl (by first | assumption | omega) dX0_drop_44 ?_
        have h12s : stF σ 12 n = nI e := by rw [stF_n (by decide)]; exact h12
        refine V_top (y := nI e) h12s ?_
        refine V_iconst hX (v := 1) dX0_drop_45 (by decide +kernel) ?_
        refine F_zst hX rfl (by first | assumption | omega) (by decide +kernel) dX0_drop_46 ?_
        refine V_aln hX 0 dX0_drop_47 rfl rfl ?_
        refine F_get hX 12 (by decide) q50 rfl dX0_drop_48 ?_
        refine V_iln hX 1 dX0_drop_51 rfl rfl ?_
        refine V_iconst hX (v := (-1)) dX0_drop_52 (by decide +kernel) ?_
        refine F_ist hX rfl (by first | assumption | omega) dX0_drop_53 ?_
        refine V_iln hX 2 dX0_drop_54 rfl rfl ?_
        refine hR _ _ ?_ _ _ dX0_drop_55
        rw [sDrop, onB_in hn, if_neg hz, ctM_f (fun q => (mcut_bud hb0 (by omega)).mp q hb1)]
        exact ⟨ht.symm, Rel_drop hr1 (by omega) hn he h12s⟩
      · obtain ⟨_, hr1, hb1⟩ := h24.resolve_left (fun q => by rw [q.1] at c29; exact absurd c29 (by decide))
        refine V_bipush hX (v := (-9)) dX0_drop_32 (by decide +kernel) ?_
        refine hR _ _ ?_ _ _ dX0_drop_34
        rw [sDrop, onB_in hn, if_neg hz, ctM_t ((mcut_bud hb0 (by omega)).mpr hb1)]
        exact ⟨rfl, hr1⟩
    · refine V_bipush hX (v := (-4)) dX0_drop_20 (by decide +kernel) ?_
      exact hR _ _ (by rw [sDrop, onB_in hn, if_pos (by rw [ht]; exact c17)]; exact ⟨rfl, h⟩) _ _ dX0_drop_22
  · refine V_iconst hX (v := (-1)) dX0_drop_8 (by decide +kernel) ?_
    exact hR _ _ (by rw [sDrop, onB_out (h2.nz c5)]; exact ⟨rfl, h⟩) _ _ dX0_drop_9
set_option maxHeartbeats 4000000 in
/-- swap -/
theorem c_swap (d : Nat → Nat) (σ : fSt) {τ : fSt} {K : Nat} (b c : Int32) (h : Rel σ τ K) (hK1 : 1 ≤ K) (hK : K + 20 < 2 ^ 30) : CFi d yX0_swap cX0_swap 7 .int (rmF 4 91) σ [.int b, .int c] (fun r σ' => Out r σ' (sSwap τ b c) (K + 2)) := by
  refine CMi.of (own := RX0) (by decide +kernel) rfl (Nat.le_of_ble_eq_true rfl) (by simp [Value.category]) (fun _ _ _ => rfl) ?_
  intro X hX hR
  refine V_aln hX 0 dX0_swap_0 rfl rfl ?_
  refine V_iln hX 1 dX0_swap_1 rfl rfl ?_
  refine V_calli (n := 1) hX (c_badBlock d σ b) rfl rfl rfl (lw_V q110 q112 qs2 q20 q113) rfl rfl (by decide +kernel) ⟨Nat.le_of_ble_eq_true rfl, Nat.le_of_ble_eq_true rfl⟩ rfl rfl (Nat.le_of_ble_eq_true rfl) dX0_swap_2 (fun r2 s2 h2 => ?_)
  obtain ⟨rfl, h2⟩ := h2
  refine V_if_ne hX (tgt := 16) dX0_swap_5 (by decide) (fun c5 => ?_) (fun c5 => ?_)
  · refine V_iconst hX (v := (-1)) dX0_swap_16 (by decide +kernel) ?_
    exact hR _ _ (by rw [sSwap, onB_out (h2.nz c5)]; exact ⟨rfl, h.mono (by omega)⟩) _ _ dX0_swap_17
  · obtain ⟨n, hn, rfl⟩ : bk b := Classical.not_not.mp (h2.z c5)
    refine V_aln hX 0 dX0_swap_8 rfl rfl ?_
    refine V_iln hX 2 dX0_swap_9 rfl rfl ?_
    refine V_calli (n := 1) hX (c_badBlock d σ c) rfl rfl rfl (lw_V q110 q112 qs2 q20 q113) rfl rfl (by decide +kernel) ⟨Nat.le_of_ble_eq_true rfl, Nat.le_of_ble_eq_true rfl⟩ rfl rfl (Nat.le_of_ble_eq_true rfl) dX0_swap_10 (fun r10 s10 h10 => ?_)
    obtain ⟨rfl, h10⟩ := h10
    refine V_if_eq hX (tgt := 18) dX0_swap_13 (by decide) (fun c13 => ?_) (fun c13 => ?_)
    · obtain ⟨m, hm, rfl⟩ : bk c := Classical.not_not.mp (h10.z c13)
      refine V_iln hX 1 dX0_swap_18 rfl rfl ?_
      refine V_iln hX 2 dX0_swap_19 rfl rfl ?_
      refine V_ic_neN hX (tgt := 25) dX0_swap_20 (by decide) (by omega) (by omega) (fun c20 => ?_) (fun c20 => ?_)
      · obtain ⟨hd0, hb0⟩ := Rel_dc0 h
        refine V_aln hX 0 dX0_swap_25 rfl rfl ?_
        refine V_callv (n := 0) hX (c_provide d σ (τ := dcM τ 0) (K := K) hd0 (by omega)) rfl rfl rfl (lw_V q118 q120 qs4 q20 q121) rfl rfl (by decide +kernel) ⟨Nat.le_of_ble_eq_true rfl, Nat.le_of_ble_eq_true rfl⟩ rfl rfl (Nat.le_of_ble_eq_true rfl) dX0_swap_26 (fun σ1 h26 => ?_)
        obtain ⟨hr, hsm, hc⟩ := h26
        refine V_aln hX 0 dX0_swap_29 rfl rfl ?_
        refine V_iln hX 2 dX0_swap_30 rfl rfl ?_
        refine V_calli (n := 1) hX (c_hold d σ1 (τ := dcM τ 0) m hm (hr.2.1 m hm)) rfl rfl rfl (lw_V q174 q176 qs15 q20 q177) rfl rfl (by decide +kernel) ⟨Nat.le_of_ble_eq_true rfl, Nat.le_of_ble_eq_true rfl⟩ rfl rfl (Nat.le_of_ble_eq_true rfl) dX0_swap_31 (fun r31 s31 h31 => ?_)
        obtain ⟨n1, g1, hn1, rfl, htm, rfl, hg1⟩ := h31
        have htm : τ 1 m = nI n1 := htm
        have hg1 : ∀ i, i < n1 → g1 i = τ 0 (4 * m + i) := hg1
        refine V_isn hX 3 dX0_swap_34 rfl (Nat.le_of_ble_eq_true rfl) (Nat.le_of_ble_eq_true rfl) ?_
        dsimp only [lput]
        refine V_aln hX 0 dX0_swap_35 rfl rfl ?_
        refine V_iln hX 1 dX0_swap_36 rfl rfl ?_
        refine V_iln hX 3 dX0_swap_37 rfl rfl ?_
        refine V_calli (n := 2) hX (c_writeCopy d (sf σ1 16 g1) (τ := τ) (K := K) (j := 0) n n1 (Rel_held hr) hb0 hn hn1 (by show 1 ≤ cnt (fre σ1) 16; omega) hK1 (by omega)) rfl rfl rfl (lw_V q158 q160 qs13 q20 q161) rfl rfl (by decide +kernel) ⟨Nat.le_of_ble_eq_true rfl, Nat.le_of_ble_eq_true rfl⟩ rfl rfl (Nat.le_of_ble_eq_true rfl) dX0_swap_38 (fun r38 σ2 h38 => ?_)
        obtain ⟨n2, hn2, htn⟩ := h.mi.1 n hn
        refine V_is hX dX0_swap_41 (Nat.le_of_ble_eq_true rfl) (Nat.le_of_ble_eq_true rfl) ?_
        dsimp only [lput]
        refine V_il hX dX0_swap_43 rfl ?_
        refine V_if_ge hX (tgt := 51) dX0_swap_45 (by decide) (fun c45 => ?_) (fun c45 => ?_)
        · obtain ⟨e1, rfl, he1, hfe1, hr2, hb2, hc2, hpg2, hfr2⟩ := h38.resolve_left (fun q => by rw [q.1] at c45; exact absurd c45 (by decide))
          refine V_aln hX 0 dX0_swap_51 rfl rfl ?_
          refine V_iln hX 1 dX0_swap_52 rfl rfl ?_
          refine V_calli (n := 1) hX (c_hold d σ2 (τ := dcM τ (0 + 1 + n1)) n hn (hr2.2.1 n hn)) rfl rfl rfl (lw_V q174 q176 qs15 q20 q177) rfl rfl (by decide +kernel) ⟨Nat.le_of_ble_eq_true rfl, Nat.le_of_ble_eq_true rfl⟩ rfl rfl (Nat.le_of_ble_eq_true rfl) dX0_swap_53 (fun r53 s53 h53 => ?_)
          obtain ⟨n2', g2, hn2', rfl, htn', rfl, hg2⟩ := h53
          have htn' : τ 1 n = nI n2' := htn'
          have e22 : n2' = n2 := nI_inj (htn'.symm.trans htn) (by omega) (by omega)
          subst e22
          have hg2 : ∀ i, i < n2' → g2 i = τ 0 (4 * n + i) := hg2
          have hcf := Fr_fre hfr2
          have hcf : cnt (fre σ1) 16 ≤ cnt (fre σ2) 16 + 1 := hcf
          refine V_isn hX 3 dX0_swap_56 rfl (Nat.le_of_ble_eq_true rfl) (Nat.le_of_ble_eq_true rfl) ?_
          dsimp only [lput]
          refine V_aln hX 0 dX0_swap_57 rfl rfl ?_
          refine V_iln hX 2 dX0_swap_58 rfl rfl ?_
          refine V_iln hX 3 dX0_swap_59 rfl rfl ?_
          refine V_calli (n := 2) hX (c_writeCopy d (sf σ2 16 g2) (τ := τ) (K := K + 1) (j := 0 + 1 + n1) m n2' (Rel_held hr2) hb2 hm hn2' (by show 1 ≤ cnt (fre σ2) 16; omega) (by omega) (by omega)) rfl rfl rfl (lw_V q158 q160 qs13 q20 q161) rfl rfl (by decide +kernel) ⟨Nat.le_of_ble_eq_true rfl, Nat.le_of_ble_eq_true rfl⟩ rfl rfl (Nat.le_of_ble_eq_true rfl) dX0_swap_60 (fun r60 σ3 h60 => ?_)
          refine V_is hX dX0_swap_63 (Nat.le_of_ble_eq_true rfl) (Nat.le_of_ble_eq_true rfl) ?_
          dsimp only [lput]
          refine V_il hX dX0_swap_65 rfl ?_
          refine V_if_ge hX (tgt := 73) dX0_swap_67 (by decide) (fun c67 => ?_) (fun c67 => ?_)
          · obtain ⟨e2, rfl, he2, hfe2, hr3, hb3, hc3, hpg3, hfr3⟩ := h60.resolve_left (fun q => by rw [q.1] at c67; exact absurd c67 (by decide))
            refine V_aln hX 0 dX0_swap_73 rfl rfl ?_
            refine V_calli (n := 0) hX (c_step d σ3 (τ := τ) (K := K + 1 + 1) (j := 0 + 1 + n1 + 1 + n2') hr3 hb3 (by omega) (by omega)) rfl rfl rfl (lw_V q142 q144 qs10 q20 q145) rfl rfl (by decide +kernel) ⟨Nat.le_of_ble_eq_true rfl, Nat.le_of_ble_eq_true rfl⟩ rfl rfl (Nat.le_of_ble_eq_true rfl) dX0_swap_74 (fun r74 s74 h74 => ?_)
            refine V_is hX dX0_swap_77 (Nat.le_of_ble_eq_true rfl) (Nat.le_of_ble_eq_true rfl) ?_
            dsimp only [lput]
            refine V_il hX dX0_swap_79 rfl ?_
            refine V_if_ne hX (tgt := 87) dX0_swap_81 (by decide) (fun c81 => ?_) (fun c81 => ?_)
            · obtain ⟨_, rfl, hr1, hb1⟩ := h74.resolve_right (fun q => c81 q.1)
              refine V_aln hX 0 dX0_swap_87 rfl rfl ?_
              refine F_get hX 6 (by decide) q44 rfl dX0_swap_88 ?_
              refine V_il hX dX0_swap_91 rfl ?_
              refine V_iconst hX (v := 1) dX0_swap_93 (by decide +kernel) ?_
              refine F_zst hX rfl (by first | assumption | omega) (by decide +kernel) dX0_swap_94 ?_
              refine V_aln hX 0 dX0_swap_95 rfl rfl ?_
              refine F_get hX 6 (by decide) q44 rfl dX0_swap_96 ?_
              refine V_il hX dX0_swap_99 rfl ?_
              refine V_iconst hX (v := 1) dX0_swap_101 (by decide +kernel) ?_
              refine F_zst hX rfl (by first | assumption | omega) (by decide +kernel) dX0_swap_102 ?_
              refine V_aln hX 0 dX0_swap_103 rfl rfl ?_
              refine V_iln hX 1 dX0_swap_104 rfl rfl ?_
              refine V_il hX dX0_swap_105 rfl ?_
              refine V_callv (n := 2) hX (c_adopt d (sf (sf (stF σ3) 6 (upd (stF σ3 6) e1 1)) 6 (upd (upd (stF σ3 6) e1 1) e2 1)) n e1 hn he1) rfl rfl rfl (lw_V q162 q164 qs14 q20 q165) rfl rfl (by decide +kernel) ⟨Nat.le_of_ble_eq_true rfl, Nat.le_of_ble_eq_true rfl⟩ rfl rfl (Nat.le_of_ble_eq_true rfl) dX0_swap_107 (fun s107 h107 => ?_)
              subst h107
              refine V_aln hX 0 dX0_swap_110 rfl rfl ?_
              refine V_iln hX 2 dX0_swap_111 rfl rfl ?_
              refine V_il hX dX0_swap_112 rfl ?_
              refine V_callv (n := 2) hX (c_adopt d (adF (sf (sf (stF σ3) 6 (upd (stF σ3 6) e1 1)) 6 (upd (upd (stF σ3 6) e1 1) e2 1)) n e1) m e2 hm he2) rfl rfl rfl (lw_V q162 q164 qs14 q20 q165) rfl rfl (by decide +kernel) ⟨Nat.le_of_ble_eq_true rfl, Nat.le_of_ble_eq_true rfl⟩ rfl rfl (Nat.le_of_ble_eq_true rfl) dX0_swap_114 (fun s114 h114 => ?_)
              subst h114
              refine V_iconst hX (v := 0) dX0_swap_117 (by decide +kernel) ?_
              have ek : 0 + 1 + n1 + 1 + n2' + 1 = n2' + n1 + 3 := by omega
              rw [ek] at hr1 hb1
              have hsw := Rel_swap (σ2 := sf σ2 16 g2) (σ3 := σ3) (n1 := n1) (n2 := n2') hr1 (by omega) hn hm c20 (show Cp (sf σ2 16 g2) n e1 n1 0 from hc2) hc3 hfe2 hfr3.2.2.2.2 (fun j hj => stF_n hj) hn1 hn2' htm htn (fun i hi => (hpg2 i hi).trans (hg1 i hi)) (fun i hi => (hpg3 i hi).trans (hg2 i hi))
              refine hR _ _ ?_ _ _ dX0_swap_118
              rw [sSwap, onB_in hn, onB_in hm, if_neg c20, show cl (τ 1 n) = n2' by rw [htn, cl_nI (by omega)], show cl (τ 1 m) = n1 by rw [htm, cl_nI (by omega)], ctM_f (fun q => (mcut_bud hb0 (by omega)).mp q hb1)]
              exact ⟨rfl, hsw⟩
            · obtain ⟨_, hr1, hb1⟩ := h74.resolve_left (fun q => by rw [q.1] at c81; exact absurd c81 (by decide))
              refine V_bipush hX (v := (-9)) dX0_swap_84 (by decide +kernel) ?_
              refine hR _ _ ?_ _ _ dX0_swap_86
              rw [sSwap, onB_in hn, onB_in hm, if_neg c20, htn, htm, cl_nI (by omega), cl_nI (by omega), ctM_t ((mcut_bud hb0 (by omega)).mpr (fun q => hb1 (bud_mono q (by omega))))]
              exact ⟨rfl, hr1.mono (by omega)⟩
          · obtain ⟨_, hr3, hb3⟩ := h60.resolve_right (fun ⟨e, q, he, _⟩ => c67 (by rw [q]; exact nI_pos' (by omega)))
            refine V_bipush hX (v := (-9)) dX0_swap_70 (by decide +kernel) ?_
            refine hR _ _ ?_ _ _ dX0_swap_72
            rw [sSwap, onB_in hn, onB_in hm, if_neg c20, htn, htm, cl_nI (by omega), cl_nI (by omega), ctM_t ((mcut_bud hb0 (by omega)).mpr (fun q => hb3 (bud_mono q (by omega))))]
            exact ⟨rfl, hr3.mono (by omega)⟩
        · obtain ⟨_, hr2, hb2⟩ := h38.resolve_right (fun ⟨e, q, he, _⟩ => c45 (by rw [q]; exact nI_pos' (by omega)))
          refine V_bipush hX (v := (-9)) dX0_swap_48 (by decide +kernel) ?_
          refine hR _ _ ?_ _ _ dX0_swap_50
          rw [sSwap, onB_in hn, onB_in hm, if_neg c20, htn, htm, cl_nI (by omega), cl_nI (by omega), ctM_t ((mcut_bud hb0 (by omega)).mpr (fun q => hb2 (bud_mono q (by omega))))]
          exact ⟨rfl, hr2.mono (by omega)⟩
      · refine V_iconst hX (v := 0) dX0_swap_23 (by decide +kernel) ?_
        exact hR _ _ (by rw [sSwap, onB_in hn, onB_in hm, if_pos c20]; exact ⟨rfl, h.mono (by omega)⟩) _ _ dX0_swap_24
    · refine V_iconst hX (v := (-1)) dX0_swap_16 (by decide +kernel) ?_
      exact hR _ _ (by rw [sSwap, onB_in hn, onB_out (h10.nz c13)]; exact ⟨rfl, h.mono (by omega)⟩) _ _ dX0_swap_17
end
section
set_option maxRecDepth 100000
set_option maxHeartbeats 4000000 in
/-- size -/
theorem c_size (d : Nat → Nat) (σ : fSt) {τ : fSt} {K : Nat} (b : Int32) (h : Rel σ τ K) : CFi d yX0_size cX0_size 2 .int (rmF 4 91) σ [.int b] (fun r σ' => σ = σ' ∧ r = (sSize τ b).1) := by
  refine CMi.of (own := RX0) (by decide +kernel) rfl (Nat.le_of_ble_eq_true rfl) (by simp [Value.category]) (fun _ _ _ => rfl) ?_
  intro X hX hR
  refine V_aln hX 0 dX0_size_0 rfl rfl ?_
  refine V_iln hX 1 dX0_size_1 rfl rfl ?_
  refine V_calli (n := 1) hX (c_badBlock d σ b) rfl rfl rfl (lw_V q110 q112 qs2 q20 q113) rfl rfl (by decide +kernel) ⟨Nat.le_of_ble_eq_true rfl, Nat.le_of_ble_eq_true rfl⟩ rfl rfl (Nat.le_of_ble_eq_true rfl) dX0_size_2 (fun r2 s2 h2 => ?_)
  obtain ⟨rfl, h2⟩ := h2
  refine V_if_eq hX (tgt := 12) dX0_size_5 (by decide) (fun c5 => ?_) (fun c5 => ?_)
  · obtain ⟨n, hn, rfl⟩ : bk b := Classical.not_not.mp (h2.z c5)
    obtain ⟨m, hm4, hsz, ht, hmo, hcs⟩ := vw_sz (h.2.1 n hn)
    refine V_aln hX 0 dX0_size_12 rfl rfl ?_
    refine V_iln hX 1 dX0_size_13 rfl rfl ?_
    refine V_calli (n := 1) hX (c_sizeOf d σ n hn hmo) rfl rfl rfl (lw_V q114 q116 qs3 q20 q117) rfl rfl (by decide +kernel) ⟨Nat.le_of_ble_eq_true rfl, Nat.le_of_ble_eq_true rfl⟩ rfl rfl (Nat.le_of_ble_eq_true rfl) dX0_size_14 (fun r14 s14 h14 => ?_)
    obtain ⟨rfl, rfl⟩ := h14
    exact hR _ _ (by rw [sSize, onB_in hn]; exact ⟨rfl, hsz.trans ht.symm⟩) _ _ dX0_size_17
  · refine V_iconst hX (v := (-1)) dX0_size_8 (by decide +kernel) ?_
    refine V_goto hX (tgt := 17) dX0_size_9 (by decide) ?_
    exact hR _ _ (by rw [sSize, onB_out (h2.nz c5)]; exact ⟨rfl, rfl⟩) _ _ dX0_size_17
set_option maxHeartbeats 4000000 in
/-- read -/
theorem c_read (d : Nat → Nat) (σ : fSt) {τ : fSt} {K : Nat} (b x : Int32) (h : Rel σ τ K) : CFi d yX0_read cX0_read 3 .int (rmF 4 91) σ [.int b, .int x] (fun r σ' => σ = σ' ∧ r = sRead τ b x) := by
  refine CMi.of (own := RX0) (by decide +kernel) rfl (Nat.le_of_ble_eq_true rfl) (by simp [Value.category]) (fun _ _ _ => rfl) ?_
  intro X hX hR
  refine V_aln hX 0 dX0_read_0 rfl rfl ?_
  refine V_iln hX 1 dX0_read_1 rfl rfl ?_
  refine V_calli (n := 1) hX (c_badBlock d σ b) rfl rfl rfl (lw_V q110 q112 qs2 q20 q113) rfl rfl (by decide +kernel) ⟨Nat.le_of_ble_eq_true rfl, Nat.le_of_ble_eq_true rfl⟩ rfl rfl (Nat.le_of_ble_eq_true rfl) dX0_read_2 (fun r2 s2 h2 => ?_)
  obtain ⟨rfl, h2⟩ := h2
  refine V_if_ne hX (tgt := 21) dX0_read_5 (by decide) (fun c5 => ?_) (fun c5 => ?_)
  · refine V_iconst hX (v := 0) dX0_read_21 (by decide +kernel) ?_
    exact hR _ _ (by rw [sRead, if_neg (fun q => h2.nz c5 (bk_of q.1 q.2))]; exact ⟨rfl, rfl⟩) _ _ dX0_read_22
  · obtain ⟨n, hn, rfl⟩ : bk b := Classical.not_not.mp (h2.z c5)
    obtain ⟨m, hm4, hsz, ht, hmo, hcs⟩ := vw_sz (h.2.1 n hn)
    refine V_iln hX 2 dX0_read_8 rfl rfl ?_
    refine V_if_lt hX (tgt := 21) dX0_read_9 (by decide) (fun c9 => ?_) (fun c9 => ?_)
    · refine V_iconst hX (v := 0) dX0_read_21 (by decide +kernel) ?_
      exact hR _ _ (by rw [sRead, if_pos ⟨nI_pos (by omega), nI_lt hn (by decide)⟩, if_neg (fun q => q.1 c9)]; exact ⟨rfl, rfl⟩) _ _ dX0_read_22
    · refine V_iln hX 2 dX0_read_12 rfl rfl ?_
      refine V_aln hX 0 dX0_read_13 rfl rfl ?_
      refine V_iln hX 1 dX0_read_14 rfl rfl ?_
      refine V_calli (n := 1) hX (c_sizeOf d σ n hn hmo) rfl rfl rfl (lw_V q114 q116 qs3 q20 q117) rfl rfl (by decide +kernel) ⟨Nat.le_of_ble_eq_true rfl, Nat.le_of_ble_eq_true rfl⟩ rfl rfl (Nat.le_of_ble_eq_true rfl) dX0_read_15 (fun r15 s15 h15 => ?_)
      obtain ⟨rfl, rfl⟩ := h15
      refine V_top hsz ?_
      refine V_ic_lt hX (tgt := 23) dX0_read_18 (by decide) (fun c18 => ?_) (fun c18 => ?_)
      · obtain ⟨i, hi31, rfl⟩ := nI_of c9
        have him : i < m := (nI_ltI hi31 (by omega)).mp c18
        obtain ⟨m1, e, he, h12, h8, hwd⟩ : 1 ≤ m ∧ ∃ e, e < 16 ∧ σ 12 n = nI e ∧ σ 8 e = nI m ∧ ∀ i, i < m → σ 9 (e * 4 + i) = τ 0 (4 * n + i) := by
          rcases hcs with ⟨q, _⟩ | q
          · omega
          · exact q
        refine V_aln hX 0 dX0_read_23 rfl rfl ?_
        refine F_get hX 9 (by decide) q47 rfl dX0_read_24 ?_
        refine V_aln hX 0 dX0_read_27 rfl rfl ?_
        refine F_get hX 12 (by decide) q50 rfl dX0_read_28 ?_
        refine V_iln hX 1 dX0_read_31 rfl rfl ?_
        refine F_ild hX rfl (by first | assumption | omega) dX0_read_32 ?_
        refine V_top (y := nI e) h12 ?_
        refine V_iconst hX (v := nI 4) dX0_read_33 (by decide +kernel) ?_
        refine V_imul hX dX0_read_34 ?_
        refine V_iln hX 2 dX0_read_35 rfl rfl ?_
        refine V_iadd hX dX0_read_36 ?_
        refine V_top (y := nI (e * 4 + i)) (by simp only [pk_mul, nI_add, nI_1]) ?_
        refine F_ild hX rfl (show e * 4 + i < 64 by omega) dX0_read_37 ?_
        refine hR _ _ ⟨rfl, ?_⟩ _ _ dX0_read_38
        rw [sRead, if_pos ⟨nI_pos (by omega), nI_lt hn (by decide)⟩, cl_nI (by omega), cl_nI (by omega), if_pos ⟨c9, by rw [ht]; exact c18⟩]
        exact hwd i him
      · refine V_iconst hX (v := 0) dX0_read_21 (by decide +kernel) ?_
        exact hR _ _ (by rw [sRead, if_pos ⟨nI_pos (by omega), nI_lt hn (by decide)⟩, cl_nI (by omega), if_neg (fun q => c18 (by have := q.2; rw [ht] at this; exact this))]; exact ⟨rfl, rfl⟩) _ _ dX0_read_22
set_option maxHeartbeats 4000000 in
/-- cutAfter -/
theorem c_cutAfter (d : Nat → Nat) (σ : fSt) {τ : fSt} {K : Nat} (k : Int32) (h : Rel σ τ K) : CFi d yX0_cutAfter cX0_cutAfter 2 .int (rmF 4 91) σ [.int k] (fun r σ' => Out r σ' (sCutAfter τ k) K) := by
  refine CMi.of (own := RX0) (by decide +kernel) rfl (Nat.le_of_ble_eq_true rfl) (by simp [Value.category]) (fun _ _ _ => rfl) ?_
  intro X hX hR
  refine V_iln hX 1 dX0_cutAfter_0 rfl rfl ?_
  refine V_if_lt hX (tgt := 10) dX0_cutAfter_1 (by decide) (fun c1 => ?_) (fun c1 => ?_)
  · refine V_iconst hX (v := (-1)) dX0_cutAfter_10 (by decide +kernel) ?_
    exact hR _ _ (by rw [sCutAfter, if_pos (Or.inl c1)]; exact ⟨rfl, h⟩) _ _ dX0_cutAfter_11
  · refine V_iln hX 1 dX0_cutAfter_4 rfl rfl ?_
    refine V_bipush hX (v := nI 40) dX0_cutAfter_5 (by decide +kernel) ?_
    refine V_ic_le hX (tgt := 12) dX0_cutAfter_7 (by decide) (fun c7 => ?_) (fun c7 => ?_)
    · obtain ⟨c, hc31, rfl⟩ := nI_of c1
      have hc40 : c ≤ 40 := (nI_leI hc31 (by decide)).mp c7
      refine V_aln hX 0 dX0_cutAfter_12 rfl rfl ?_
      refine V_iconst hX (v := 1) dX0_cutAfter_13 (by decide +kernel) ?_
      refine F_putZ hX 17 (by decide) q55 rfl rfl (by decide +kernel) (by decide +kernel) rfl dX0_cutAfter_14 ?_
      refine V_aln hX 0 dX0_cutAfter_17 rfl rfl ?_
      refine V_iln hX 1 dX0_cutAfter_18 rfl rfl ?_
      refine F_putI hX 18 (by decide) q56 rfl rfl rfl dX0_cutAfter_19 ?_
      refine V_iconst hX (v := 0) dX0_cutAfter_22 (by decide +kernel) ?_
      refine hR _ _ ?_ _ _ dX0_cutAfter_23
      rw [sCutAfter, if_neg (fun q => q.elim c1 (fun q => q c7))]
      obtain ⟨hI, hv, h3, h4, h5, h6⟩ := h
      exact ⟨rfl, ⟨hI.1, hI.2.1, hI.2.2.1, hI.2.2.2.1, hI.2.2.2.2.1, hI.2.2.2.2.2.1, hI.2.2.2.2.2.2.1, fun _ => ⟨c, hc40, rfl⟩⟩, hv, h3, h4, rfl, fun _ => rfl⟩
    · refine V_iconst hX (v := (-1)) dX0_cutAfter_10 (by decide +kernel) ?_
      exact hR _ _ (by rw [sCutAfter, if_pos (Or.inr c7)]; exact ⟨rfl, h⟩) _ _ dX0_cutAfter_11
set_option maxHeartbeats 4000000 in
/-- cancel -/
theorem c_cancel (d : Nat → Nat) (σ : fSt) {τ : fSt} {K : Nat} (h : Rel σ τ K) : CFi d yX0_cancel cX0_cancel 1 .int (rmF 4 91) σ [] (fun r σ' => Out r σ' (sCancel τ) K) := by
  refine CMi.of (own := RX0) (by decide +kernel) rfl (Nat.le_of_ble_eq_true rfl) (by simp [Value.category]) (fun _ _ _ => rfl) ?_
  intro X hX hR
  refine V_aln hX 0 dX0_cancel_0 rfl rfl ?_
  refine F_get hX 17 (by decide) q55 rfl dX0_cancel_1 ?_
  refine V_if_ne hX (tgt := 10) dX0_cancel_4 (by decide) (fun c4 => ?_) (fun c4 => ?_)
  · refine V_aln hX 0 dX0_cancel_10 rfl rfl ?_
    refine V_iconst hX (v := 0) dX0_cancel_11 (by decide +kernel) ?_
    refine F_putZ hX 17 (by decide) q55 rfl rfl (by decide +kernel) (by decide +kernel) rfl dX0_cancel_12 ?_
    refine V_aln hX 0 dX0_cancel_15 rfl rfl ?_
    refine F_get hX 18 (by decide) q56 rfl dX0_cancel_16 ?_
    refine hR _ _ ?_ _ _ dX0_cancel_19
    obtain ⟨hI, hv, h3, h4, h5, h6⟩ := h
    have q4 : ¬ τ 4 0 = 0 := by rw [← h5]; exact c4
    rw [sCancel, if_neg q4]
    exact ⟨h6 q4, ⟨hI.1, hI.2.1, hI.2.2.1, hI.2.2.2.1, hI.2.2.2.2.1, hI.2.2.2.2.2.1, hI.2.2.2.2.2.2.1, fun q => absurd rfl q⟩, hv, h3, h4, rfl, fun q => absurd rfl q⟩
  · refine V_bipush hX (v := (-4)) dX0_cancel_7 (by decide +kernel) ?_
    refine hR _ _ ?_ _ _ dX0_cancel_9
    obtain ⟨hI, hv, h3, h4, h5, h6⟩ := h
    rw [sCancel, if_pos (h5.symm.trans c4)]
    exact ⟨rfl, hI, hv, h3, h4, c4, fun q => absurd rfl q⟩
set_option maxHeartbeats 4000000 in
/-- restart -/
theorem c_restart (d : Nat → Nat) (σ : fSt) {τ : fSt} {K : Nat} (h : Rel σ τ K) (hK1 : 1 ≤ K) (hK : K < 2 ^ 30) : CFv d yX0_restart cX0_restart 1 (rmF 4 91) σ [] (fun σ' => Rel σ' (mRst τ) K) := by
  refine CMv.of (own := RX0) (by decide +kernel) rfl (Nat.le_of_ble_eq_true rfl) (by simp [Value.category]) ?_
  intro X hX hR
  refine V_aln hX 0 dX0_restart_0 rfl rfl ?_
  refine V_callv (n := 0) hX (c_attach d σ h.1.1 (fun e he l => by obtain ⟨N, a, _, q⟩ := h.1.2.1; have := q e he l; omega) h.1.2.2.1) rfl rfl rfl (lw_V q30 q32 qs0 q20 q33) rfl rfl (by decide +kernel) ⟨Nat.le_of_ble_eq_true rfl, Nat.le_of_ble_eq_true rfl⟩ rfl rfl (Nat.le_of_ble_eq_true rfl) dX0_restart_1 (fun s1 h1 => ?_)
  obtain ⟨nn, hm, rfl, hat⟩ := h1
  exact hR _ (Rel_att h hK1 hat) _ _ dX0_restart_4
set_option maxHeartbeats 4000000 in
/-- drafted -/
theorem c_drafted (d : Nat → Nat) (σ : fSt) {τ : fSt} {K : Nat} (h : Rel σ τ K) : CFi d yX0_drafted cX0_drafted 1 .int (rmF 4 91) σ [] (fun r σ' => σ = σ' ∧ r = τ 3 0) := by
  refine CMi.of (own := RX0) (by decide +kernel) rfl (Nat.le_of_ble_eq_true rfl) (by simp [Value.category]) (fun _ _ _ => rfl) ?_
  intro X hX hR
  refine V_aln hX 0 dX0_drafted_0 rfl rfl ?_
  refine F_get hX 14 (by decide) q52 rfl dX0_drafted_1 ?_
  exact hR _ _ ⟨rfl, h.2.2.1⟩ _ _ dX0_drafted_4
set_option maxHeartbeats 4000000 in
/-- fail -/
theorem c_fail (d : Nat → Nat) (σ : fSt) {τ : fSt} {K : Nat} (h : Rel σ τ K) : CFv d yX0_fail cX0_fail 1 (rmF 4 91) σ [] (fun σ' => Rel σ' τ K) := by
  refine CMv.of (own := RX0) (by decide +kernel) rfl (Nat.le_of_ble_eq_true rfl) (by simp [Value.category]) ?_
  intro X hX hR
  refine V_aln hX 0 dX0_fail_0 rfl rfl ?_
  refine V_iconst hX (v := 1) dX0_fail_1 (by decide +kernel) ?_
  refine F_putZ hX 11 (by decide) q49 rfl rfl (by decide +kernel) (by decide +kernel) rfl dX0_fail_2 ?_
  exact hR (sf σ 11 (fun _ => 1)) h _ _ dX0_fail_5
set_option maxHeartbeats 4000000 in
/-- digest -/
theorem c_digest (d : Nat → Nat) (σ : fSt) {τ : fSt} {K : Nat} (h : Rel σ τ K) : CFi d yX0_digest cX0_digest 5 .int (rmF 4 91) σ [] (fun r σ' => σ = σ' ∧ r = dgO τ 8) := by
  refine CMi.of (own := RX0) (by decide +kernel) rfl (Nat.le_of_ble_eq_true rfl) (by simp [Value.category]) (fun _ _ _ => rfl) ?_
  intro X hX hR
  have lp : ∀ (fo b : Nat) (s : Int32), b ≤ 8 → 8 - b < fo → s = dgO τ b → V X (wF d σ) [.ref (d 19), .int s, .int (nI b)] 4 [] := by
    intro fo
    induction fo with
    | zero => intro b s _ h; exact absurd h (Nat.not_lt_zero _)
    | succ fo ihO0 =>
      intro b s hb hfo I
      have ihO : ∀ b', b' ≤ 8 → 8 - b' < fo → ∀ {s' : Int32}, s' = dgO τ b' → V X (wF d σ) [.ref (d 19), .int s', .int (nI b')] 4 [] := fun b' h1 h2 s' h3 => ihO0 b' s' h1 h2 h3
      refine V_iln hX 2 dX0_digest_4 rfl rfl ?_
      refine V_bipush hX (v := nI 8) dX0_digest_5 (by decide +kernel) ?_
      refine V_ic_geN hX (tgt := 65) dX0_digest_7 (by decide) (by omega) (by omega) (fun c7 => ?_) (fun c7 => ?_)
      · have e8 : b = 8 := by omega
        subst e8
        refine V_iln hX 1 dX0_digest_65 rfl rfl ?_
        exact hR _ _ ⟨rfl, I⟩ _ _ dX0_digest_66
      · obtain ⟨m, hm4, hsz, ht, hmo, hcs⟩ := vw_sz (h.2.1 b c7)
        refine V_aln hX 0 dX0_digest_10 rfl rfl ?_
        refine V_iln hX 2 dX0_digest_11 rfl rfl ?_
        refine V_calli (n := 1) hX (c_sizeOf d σ b c7 hmo) rfl rfl rfl (lw_V q114 q116 qs3 q20 q117) rfl rfl (by decide +kernel) ⟨Nat.le_of_ble_eq_true rfl, Nat.le_of_ble_eq_true rfl⟩ rfl rfl (Nat.le_of_ble_eq_true rfl) dX0_digest_12 (fun r12 s12 h12 => ?_)
        obtain ⟨rfl, rfl⟩ := h12
        refine V_top hsz ?_
        have lpI : ∀ (fu i : Nat), i ≤ m → m - i < fu → (True) → V X (wF d σ) [.ref (d 19), .int (dgI (fun i => τ 0 (4 * b + i)) b i (dgO τ b)), .int (nI b), .int (nI m), .int (nI i)] 19 [] := by
          intro fu
          induction fu with
          | zero => intro i  _ h; exact absurd h (Nat.not_lt_zero _)
          | succ fu ih =>
            intro i  hi hfu I
            refine V_il hX dX0_digest_19 rfl ?_
            refine V_iln hX 3 dX0_digest_21 rfl rfl ?_
            refine V_ic_geN hX (tgt := 59) dX0_digest_22 (by decide) (by omega) (by omega) (fun c22 => ?_) (fun c22 => ?_)
            · have e8 : i = m := by omega
              subst e8
              refine V_inc hX dX0_digest_59 (Nat.le_of_ble_eq_true rfl) rfl (nI_inc _) ?_
              dsimp only [lput]
              refine V_goto hX (tgt := 4) dX0_digest_62 (by decide) ?_
              refine V_take 3 ?_
              exact ihO (b + 1) (by omega) (by omega) (by rw [dgO, ht, cl_nI (by omega)])
            · obtain ⟨m1, e, he, h12, h8, hwd⟩ : 1 ≤ m ∧ ∃ e, e < 16 ∧ σ 12 b = nI e ∧ σ 8 e = nI m ∧ ∀ i, i < m → σ 9 (e * 4 + i) = τ 0 (4 * b + i) := by
                rcases hcs with ⟨q, _⟩ | q
                · omega
                · exact q
              refine V_iln hX 1 dX0_digest_25 rfl rfl ?_
              refine V_iconst hX (v := nI 4) dX0_digest_26 (by decide +kernel) ?_
              refine V_iln hX 2 dX0_digest_27 rfl rfl ?_
              refine V_imul hX dX0_digest_28 ?_
              refine V_il hX dX0_digest_29 rfl ?_
              refine V_iadd hX dX0_digest_31 ?_
              refine V_iconst hX (v := 1) dX0_digest_32 (by decide +kernel) ?_
              refine V_iadd hX dX0_digest_33 ?_
              refine V_top (y := nI (4 * b + i + 1)) (by simp only [pk_mul, nI_add, nI_1]) ?_
              refine V_aln hX 0 dX0_digest_34 rfl rfl ?_
              refine F_get hX 9 (by decide) q47 rfl dX0_digest_35 ?_
              refine V_aln hX 0 dX0_digest_38 rfl rfl ?_
              refine F_get hX 12 (by decide) q50 rfl dX0_digest_39 ?_
              refine V_iln hX 2 dX0_digest_42 rfl rfl ?_
              refine F_ild hX rfl (by first | assumption | omega) dX0_digest_43 ?_
              refine V_top (y := nI e) h12 ?_
              refine V_iconst hX (v := nI 4) dX0_digest_44 (by decide +kernel) ?_
              refine V_imul hX dX0_digest_45 ?_
              refine V_il hX dX0_digest_46 rfl ?_
              refine V_iadd hX dX0_digest_48 ?_
              refine V_top (y := nI (e * 4 + i)) (by simp only [pk_mul, nI_add, nI_1]) ?_
              refine F_ild hX rfl (show e * 4 + i < 64 by omega) dX0_digest_49 ?_
              refine V_imul hX dX0_digest_50 ?_
              refine V_iadd hX dX0_digest_51 ?_
              refine V_top (y := dgI (fun i => τ 0 (4 * b + i)) b (i + 1) (dgO τ b)) (by rw [dgI, ← hwd i c22]) ?_
              refine V_isn hX 1 dX0_digest_52 rfl (Nat.le_of_ble_eq_true rfl) (Nat.le_of_ble_eq_true rfl) ?_
              dsimp only [lput]
              refine V_inc hX dX0_digest_53 (Nat.le_of_ble_eq_true rfl) rfl (nI_inc _) ?_
              dsimp only [lput]
              refine V_goto hX (tgt := 19) dX0_digest_56 (by decide) ?_
              exact ih (i + 1) (by omega) (by omega) trivial
        refine V_isn hX 3 dX0_digest_15 rfl (Nat.le_of_ble_eq_true rfl) (Nat.le_of_ble_eq_true rfl) ?_
        dsimp only [lput]
        refine V_iconst hX (v := 0) dX0_digest_16 (by decide +kernel) ?_
        refine V_is hX dX0_digest_17 (Nat.le_of_ble_eq_true rfl) (Nat.le_of_ble_eq_true rfl) ?_
        dsimp only [lput]
        rw [I]
        exact lpI (m + 1) 0 (by omega) (by omega) trivial
  refine V_iconst hX (v := 0) dX0_digest_0 (by decide +kernel) ?_
  refine V_isn hX 1 dX0_digest_1 rfl (Nat.le_of_ble_eq_true rfl) (Nat.le_of_ble_eq_true rfl) ?_
  dsimp only [lput]
  refine V_iconst hX (v := 0) dX0_digest_2 (by decide +kernel) ?_
  refine V_isn hX 2 dX0_digest_3 rfl (Nat.le_of_ble_eq_true rfl) (Nat.le_of_ble_eq_true rfl) ?_
  dsimp only [lput]
  exact lp 9 0 0 (by omega) (by omega) rfl
set_option maxHeartbeats 4000000 in
/-- rest -/
theorem c_rest (d : Nat → Nat) (σ : fSt) {τ : fSt} {K : Nat} (x : Int32) (h : Rel σ τ K) (hK : K + 21 < 2 ^ 30) : CFv d yX0_rest cX0_rest 4 (rmF 4 91) σ [.int x] (fun σ' => Rel σ' τ (K + 20)) := by
  refine CMv.of (own := RX0) (by decide +kernel) rfl (Nat.le_of_ble_eq_true rfl) (by simp [Value.category]) ?_
  intro X hX hR
  have lp : ∀ (n i : Nat) (σ1 : fSt), i ≤ 20 → 20 - i < n → (Rel σ1 τ (K + i)) → V X (wF d σ1) [.ref (d 19), .int x, .int (nI i)] 2 [] := by
    intro n
    induction n with
    | zero => intro i σ1 _ h; exact absurd h (Nat.not_lt_zero _)
    | succ n ih =>
      intro i σ1 hi hn I
      refine V_iln hX 2 dX0_rest_2 rfl rfl ?_
      refine V_iln hX 1 dX0_rest_3 rfl rfl ?_
      refine V_ic_ge hX (tgt := 32) dX0_rest_4 (by decide) (fun c4 => ?_) (fun c4 => ?_)
      · exact hR _ (I.mono (by omega)) _ _ dX0_rest_32
      · refine V_iln hX 2 dX0_rest_7 rfl rfl ?_
        refine V_bipush hX (v := nI 20) dX0_rest_8 (by decide +kernel) ?_
        refine V_ic_geN hX (tgt := 32) dX0_rest_10 (by decide) (by omega) (by omega) (fun c10 => ?_) (fun c10 => ?_)
        · exact hR _ (I.mono (by omega)) _ _ dX0_rest_32
        · refine V_aln hX 0 dX0_rest_13 rfl rfl ?_
          refine V_calli (n := 0) hX (c_reclaim d σ1) rfl rfl rfl (lw_V q126 q128 qs6 q20 q129) rfl rfl (by decide +kernel) ⟨Nat.le_of_ble_eq_true rfl, Nat.le_of_ble_eq_true rfl⟩ rfl rfl (Nat.le_of_ble_eq_true rfl) dX0_rest_14 (fun r14 s14 h14 => ?_)
          refine V_isn hX 3 dX0_rest_17 rfl (Nat.le_of_ble_eq_true rfl) (Nat.le_of_ble_eq_true rfl) ?_
          dsimp only [lput]
          refine V_iln hX 3 dX0_rest_18 rfl rfl ?_
          refine V_if_ne hX (tgt := 26) dX0_rest_19 (by decide) (fun c19 => ?_) (fun c19 => ?_)
          · obtain ⟨_, e, he, ho, hmin, rfl⟩ := h14.resolve_left (fun q => c19 q.1)
            obtain ⟨hr', _⟩ := Rel_erase I (by omega) he ho hmin
            refine V_inc hX dX0_rest_26 (Nat.le_of_ble_eq_true rfl) rfl (nI_inc _) ?_
            dsimp only [lput]
            refine V_goto hX (tgt := 2) dX0_rest_29 (by decide) ?_
            refine V_take 3 ?_
            exact ih (i + 1) (erF σ1 e) (by omega) (by omega) (hr'.mono (by omega))
          · obtain ⟨_, rfl, _⟩ := h14.resolve_right (fun q => by rw [q.1] at c19; exact absurd c19 (by decide))
            refine V_aln hX 0 dX0_rest_22 rfl rfl ?_
            refine V_callv (n := 0) hX (c_level d σ1 (τ := τ) (K := K + i) I (by omega)) rfl rfl rfl (lw_V q210 q212 qs16 q20 q213) rfl rfl (by decide +kernel) ⟨Nat.le_of_ble_eq_true rfl, Nat.le_of_ble_eq_true rfl⟩ rfl rfl (Nat.le_of_ble_eq_true rfl) dX0_rest_23 (fun s23 h23 => ?_)
            refine V_inc hX dX0_rest_26 (Nat.le_of_ble_eq_true rfl) rfl (nI_inc _) ?_
            dsimp only [lput]
            refine V_goto hX (tgt := 2) dX0_rest_29 (by decide) ?_
            refine V_take 3 ?_
            exact ih (i + 1) s23 (by omega) (by omega) (h23.mono (by omega))
  refine V_iconst hX (v := 0) dX0_rest_0 (by decide +kernel) ?_
  refine V_isn hX 2 dX0_rest_1 rfl (Nat.le_of_ble_eq_true rfl) (Nat.le_of_ble_eq_true rfl) ?_
  dsimp only [lput]
  exact lp 21 0 σ (by omega) (by omega) h
end
section
set_option maxRecDepth 100000
theorem bk_of7 {b : Int32} (h0 : ¬ b < 0) (h : ¬ nI 7 < b) : bk b := by
  obtain ⟨j, hj, rfl⟩ := nI_of h0
  refine ⟨j, ?_, rfl⟩
  have : ¬ 7 < j := fun q => h ((nI_ltI (by decide) hj).mpr q)
  omega
theorem bk_not7 {b : Int32} (h : b < 0 ∨ nI 7 < b) : ¬ bk b := by
  rintro ⟨n, hn, rfl⟩
  rcases h with h | h
  · exact nI_pos (by omega) h
  · have := (nI_ltI (a := 7) (by decide) (by omega)).mp h
    omega
theorem wrM_0 (τ : fSt) (n : Nat) : wrM τ n 0 = τ 0 := by
  funext j
  exact wrM_out (by omega)
theorem wrM_put (τ : fSt) (n i : Nat) : upd (wrM τ n i) (4 * n + i) (τ 2 i) = wrM τ n (i + 1) := by
  funext j
  by_cases q : j = 4 * n + i
  · rw [q, pk_us, wrM_in (by omega)]
  · rw [pk_un q]
    by_cases q2 : 4 * n ≤ j ∧ j < 4 * n + i
    · rw [wrM, wrM, if_pos q2, if_pos ⟨q2.1, by omega⟩]
    · rw [wrM_out q2, wrM_out (by omega)]
theorem swM_0 (τ : fSt) (n m : Nat) : swM τ n m 0 = τ 0 := by
  funext j
  rw [swM, if_neg (by omega), if_neg (by omega)]
theorem swM_n {τ : fSt} {n m i : Nat} (hnm : n ≠ m) (hi : i < 4) : swM τ n m i (4 * n + i) = τ 0 (4 * n + i) := by
  rw [swM, if_neg (by omega), if_neg (by omega)]
theorem swM_m {τ : fSt} {n m i : Nat} (hnm : n ≠ m) (hi : i < 4) : swM τ n m i (4 * m + i) = τ 0 (4 * m + i) := by
  rw [swM, if_neg (by omega), if_neg (by omega)]
theorem swM_put {τ : fSt} {n m i : Nat} (hnm : n ≠ m) (hi : i < 4) : upd (upd (swM τ n m i) (4 * n + i) (swM τ n m i (4 * m + i))) (4 * m + i) (swM τ n m i (4 * n + i)) = swM τ n m (i + 1) := by
  rw [swM_n hnm hi, swM_m hnm hi]
  funext j
  by_cases q : j = 4 * m + i
  · rw [q, pk_us, swM, if_neg (by omega), if_pos ⟨by omega, by omega⟩, show 4 * m + i - 4 * m = i by omega]
  · rw [pk_un q]
    by_cases q1 : j = 4 * n + i
    · rw [q1, pk_us, swM, if_pos ⟨by omega, by omega⟩, show 4 * n + i - 4 * n = i by omega]
    · rw [pk_un q1, swM, swM]
      have s1 : (4 * n ≤ j ∧ j < 4 * n + i) ↔ (4 * n ≤ j ∧ j < 4 * n + (i + 1)) := by omega
      have s2 : (4 * m ≤ j ∧ j < 4 * m + i) ↔ (4 * m ≤ j ∧ j < 4 * m + (i + 1)) := by omega
      by_cases r1 : 4 * n ≤ j ∧ j < 4 * n + i
      · rw [if_pos r1, if_pos (s1.mp r1)]
      · by_cases r2 : 4 * m ≤ j ∧ j < 4 * m + i
        · rw [if_neg r1, if_neg (fun q => r1 (s1.mpr q)), if_pos r2, if_pos (s2.mp r2)]
        · rw [if_neg r1, if_neg r2, if_neg (fun q => r1 (s1.mpr q)), if_neg (fun q => r2 (s2.mpr q))]
end
section
set_option maxRecDepth 100000
set_option maxHeartbeats 4000000 in
/-- isBlock (reference) -/
theorem k_isBlock (d : Nat → Nat) (τ : fSt) (b : Int32) : CRi d yX1_isBlock cX1_isBlock 2 .boolean (rmF 0 0) τ [.int b] (fun r τ' => τ = τ' ∧ bo r (bk b)) := by
  refine CMi.of (own := RX1) (by decide +kernel) rfl (Nat.le_of_ble_eq_true rfl) (by simp [Value.category]) (fun _ _ h => h.2.nar) ?_
  intro X hX hR
  refine V_iln hX 1 dX1_isBlock_0 rfl rfl ?_
  refine V_if_lt hX (tgt := 14) dX1_isBlock_1 (by decide) (fun c1 => ?_) (fun c1 => ?_)
  · refine V_iconst hX (v := 0) dX1_isBlock_14 (by decide +kernel) ?_
    exact hR _ _ ⟨rfl, Or.inr ⟨rfl, bk_not7 (Or.inl c1)⟩⟩ _ _ dX1_isBlock_15
  · refine V_iln hX 1 dX1_isBlock_4 rfl rfl ?_
    refine V_bipush hX (v := nI 7) dX1_isBlock_5 (by decide +kernel) ?_
    refine V_ic_gt hX (tgt := 14) dX1_isBlock_7 (by decide) (fun c7 => ?_) (fun c7 => ?_)
    · refine V_iconst hX (v := 0) dX1_isBlock_14 (by decide +kernel) ?_
      exact hR _ _ ⟨rfl, Or.inr ⟨rfl, bk_not7 (Or.inr c7)⟩⟩ _ _ dX1_isBlock_15
    · refine V_iconst hX (v := 1) dX1_isBlock_10 (by decide +kernel) ?_
      refine V_goto hX (tgt := 15) dX1_isBlock_11 (by decide) ?_
      exact hR _ _ ⟨rfl, Or.inl ⟨rfl, bk_of7 c1 c7⟩⟩ _ _ dX1_isBlock_15
set_option maxHeartbeats 4000000 in
/-- draft (reference) -/
theorem k_draft (d : Nat → Nat) (τ : fSt) (x : Int32) (h : MI τ) : CRi d yX1_draft cX1_draft 2 .int (rmF 0 0) τ [.int x] (fun r τ' => r = (sDraft τ x).1 ∧ τ' = (sDraft τ x).2) := by
  refine CMi.of (own := RX1) (by decide +kernel) rfl (Nat.le_of_ble_eq_true rfl) (by simp [Value.category]) (fun _ _ _ => rfl) ?_
  intro X hX hR
  refine V_aln hX 0 dX1_draft_0 rfl rfl ?_
  refine M_get hX 3 (by decide) q227 rfl dX1_draft_1 ?_
  refine V_iconst hX (v := nI 4) dX1_draft_4 (by decide +kernel) ?_
  refine V_ic_ne hX (tgt := 11) dX1_draft_5 (by decide) (fun c5 => ?_) (fun c5 => ?_)
  · obtain ⟨n, hn, h3⟩ := h.2
    have hlt : n < 4 := by
      rcases Nat.lt_or_ge n 4 with q | q
      · exact q
      · exact absurd (show τ 3 0 = 4 by rw [h3, show n = 4 by omega]; rfl) c5
    refine V_aln hX 0 dX1_draft_11 rfl rfl ?_
    refine M_get hX 2 (by decide) q226 rfl dX1_draft_12 ?_
    refine V_aln hX 0 dX1_draft_15 rfl rfl ?_
    refine M_get hX 3 (by decide) q227 rfl dX1_draft_16 ?_
    refine V_top (y := nI n) h3 ?_
    refine V_iln hX 1 dX1_draft_19 rfl rfl ?_
    refine M_ist hX rfl hlt dX1_draft_20 ?_
    refine V_aln hX 0 dX1_draft_21 rfl rfl ?_
    refine V_dup hX dX1_draft_22 rfl ?_
    refine M_get hX 3 (by decide) q227 rfl dX1_draft_23 ?_
    refine V_iconst hX (v := 1) dX1_draft_26 (by decide +kernel) ?_
    refine V_iadd hX dX1_draft_27 ?_
    refine M_putI hX 3 (by decide) q227 rfl rfl rfl dX1_draft_28 ?_
    refine V_aln hX 0 dX1_draft_31 rfl rfl ?_
    refine M_get hX 3 (by decide) q227 rfl dX1_draft_32 ?_
    refine hR _ _ ?_ _ _ dX1_draft_35
    rw [sDraft, if_neg (show ¬ τ 3 0 = 4 from c5), show cl (τ 3 0) = n by rw [h3, cl_nI (by omega)]]
    exact ⟨rfl, rfl⟩
  · refine V_bipush hX (v := (-2)) dX1_draft_8 (by decide +kernel) ?_
    exact hR _ _ (by rw [sDraft, if_pos (show τ 3 0 = 4 from c5)]; exact ⟨rfl, rfl⟩) _ _ dX1_draft_10
set_option maxHeartbeats 4000000 in
/-- scrap (reference) -/
theorem k_scrap (d : Nat → Nat) (τ : fSt)  : CRv d yX1_scrap cX1_scrap 1 (rmF 0 0) τ [] (fun τ' => τ' = sScrap τ) := by
  refine CMv.of (own := RX1) (by decide +kernel) rfl (Nat.le_of_ble_eq_true rfl) (by simp [Value.category]) ?_
  intro X hX hR
  refine V_aln hX 0 dX1_scrap_0 rfl rfl ?_
  refine V_iconst hX (v := 0) dX1_scrap_1 (by decide +kernel) ?_
  refine M_putI hX 3 (by decide) q227 rfl rfl rfl dX1_scrap_2 ?_
  exact hR _ rfl _ _ dX1_scrap_5
set_option maxHeartbeats 4000000 in
/-- restart (reference) -/
theorem k_restart (d : Nat → Nat) (τ : fSt)  : CRv d yX1_restart cX1_restart 1 (rmF 0 0) τ [] (fun τ' => τ' = mRst τ) := by
  refine CMv.of (own := RX1) (by decide +kernel) rfl (Nat.le_of_ble_eq_true rfl) (by simp [Value.category]) ?_
  intro X hX hR
  refine V_aln hX 0 dX1_restart_0 rfl rfl ?_
  refine V_iconst hX (v := 0) dX1_restart_1 (by decide +kernel) ?_
  refine M_putI hX 3 (by decide) q227 rfl rfl rfl dX1_restart_2 ?_
  refine V_aln hX 0 dX1_restart_5 rfl rfl ?_
  refine V_iconst hX (v := 0) dX1_restart_6 (by decide +kernel) ?_
  refine M_putZ hX 4 (by decide) q228 rfl rfl (by decide +kernel) (by decide +kernel) rfl dX1_restart_7 ?_
  exact hR _ rfl _ _ dX1_restart_10
set_option maxHeartbeats 4000000 in
/-- isCut (reference) -/
theorem k_isCut (d : Nat → Nat) (τ : fSt) (k : Nat) : CRi d yX1_isCut cX1_isCut 2 .boolean (rmF 1 20) τ [.int (nI k)] (fun r τ' => (r = 1 ∧ mcut τ k ∧ τ' = mRst τ) ∨ (r = 0 ∧ ¬ mcut τ k ∧ τ' = dcM τ k)) := by
  refine CMi.of (own := RX1) (by decide +kernel) rfl (Nat.le_of_ble_eq_true rfl) (by simp [Value.category]) (fun _ _ h => by rcases h with ⟨rfl, _⟩ | ⟨rfl, _⟩ <;> decide +kernel) ?_
  intro X hX hR
  refine V_aln hX 0 dX1_isCut_0 rfl rfl ?_
  refine M_get hX 4 (by decide) q228 rfl dX1_isCut_1 ?_
  refine V_if_eq hX (tgt := 21) dX1_isCut_4 (by decide) (fun c4 => ?_) (fun c4 => ?_)
  · refine V_aln hX 0 dX1_isCut_21 rfl rfl ?_
    refine V_aln hX 0 dX1_isCut_22 rfl rfl ?_
    refine M_get hX 4 (by decide) q228 rfl dX1_isCut_23 ?_
    refine V_if_eq hX (tgt := 38) dX1_isCut_26 (by decide) (fun c26 => ?_) (fun c26 => ?_)
    · refine V_aln hX 0 dX1_isCut_38 rfl rfl ?_
      refine M_get hX 5 (by decide) q229 rfl dX1_isCut_39 ?_
      refine M_putI hX 5 (by decide) q229 rfl rfl rfl dX1_isCut_42 ?_
      refine V_iconst hX (v := 0) dX1_isCut_45 (by decide +kernel) ?_
      exact hR _ _ (Or.inr ⟨rfl, fun q => q.1 c4, by rw [dcM, if_pos c26]⟩) _ _ dX1_isCut_46
    · refine V_aln hX 0 dX1_isCut_29 rfl rfl ?_
      refine M_get hX 5 (by decide) q229 rfl dX1_isCut_30 ?_
      refine V_iln hX 1 dX1_isCut_33 rfl rfl ?_
      refine V_isub hX dX1_isCut_34 ?_
      refine V_goto hX (tgt := 42) dX1_isCut_35 (by decide) ?_
      refine M_putI hX 5 (by decide) q229 rfl rfl rfl dX1_isCut_42 ?_
      refine V_iconst hX (v := 0) dX1_isCut_45 (by decide +kernel) ?_
      exact hR _ _ (Or.inr ⟨rfl, fun q => q.1 c4, by rw [dcM, if_neg c26]⟩) _ _ dX1_isCut_46
  · refine V_iln hX 1 dX1_isCut_7 rfl rfl ?_
    refine V_aln hX 0 dX1_isCut_8 rfl rfl ?_
    refine M_get hX 5 (by decide) q229 rfl dX1_isCut_9 ?_
    refine V_ic_le hX (tgt := 21) dX1_isCut_12 (by decide) (fun c12 => ?_) (fun c12 => ?_)
    · refine V_aln hX 0 dX1_isCut_21 rfl rfl ?_
      refine V_aln hX 0 dX1_isCut_22 rfl rfl ?_
      refine M_get hX 4 (by decide) q228 rfl dX1_isCut_23 ?_
      refine V_if_eq hX (tgt := 38) dX1_isCut_26 (by decide) (fun c26 => ?_) (fun c26 => ?_)
      · refine V_aln hX 0 dX1_isCut_38 rfl rfl ?_
        refine M_get hX 5 (by decide) q229 rfl dX1_isCut_39 ?_
        refine M_putI hX 5 (by decide) q229 rfl rfl rfl dX1_isCut_42 ?_
        refine V_iconst hX (v := 0) dX1_isCut_45 (by decide +kernel) ?_
        exact hR _ _ (Or.inr ⟨rfl, fun q => q.2 c12, by rw [dcM, if_pos c26]⟩) _ _ dX1_isCut_46
      · refine V_aln hX 0 dX1_isCut_29 rfl rfl ?_
        refine M_get hX 5 (by decide) q229 rfl dX1_isCut_30 ?_
        refine V_iln hX 1 dX1_isCut_33 rfl rfl ?_
        refine V_isub hX dX1_isCut_34 ?_
        refine V_goto hX (tgt := 42) dX1_isCut_35 (by decide) ?_
        refine M_putI hX 5 (by decide) q229 rfl rfl rfl dX1_isCut_42 ?_
        refine V_iconst hX (v := 0) dX1_isCut_45 (by decide +kernel) ?_
        exact hR _ _ (Or.inr ⟨rfl, fun q => q.2 c12, by rw [dcM, if_neg c26]⟩) _ _ dX1_isCut_46
    · refine V_aln hX 0 dX1_isCut_15 rfl rfl ?_
      refine V_callv (n := 0) hX (k_restart d τ) rfl rfl rfl (lw_V q263 q264 q265 q21 q266) rfl rfl (by decide +kernel) ⟨Nat.le_of_ble_eq_true rfl, Nat.le_of_ble_eq_true rfl⟩ rfl rfl (Nat.le_of_ble_eq_true rfl) dX1_isCut_16 (fun s16 h16 => ?_)
      subst h16
      refine V_iconst hX (v := 1) dX1_isCut_19 (by decide +kernel) ?_
      exact hR _ _ (Or.inl ⟨rfl, ⟨c4, c12⟩, rfl⟩) _ _ dX1_isCut_20
set_option maxHeartbeats 4000000 in
/-- append (reference) -/
theorem k_append (d : Nat → Nat) (τ : fSt) (b x : Int32) (h : MI τ) : CRi d yX1_append cX1_append 3 .int (rmF 2 41) τ [.int b, .int x] (fun r τ' => r = (sAppend τ b x).1 ∧ τ' = (sAppend τ b x).2) := by
  refine CMi.of (own := RX1) (by decide +kernel) rfl (Nat.le_of_ble_eq_true rfl) (by simp [Value.category]) (fun _ _ _ => rfl) ?_
  intro X hX hR
  refine V_aln hX 0 dX1_append_0 rfl rfl ?_
  refine V_iln hX 1 dX1_append_1 rfl rfl ?_
  refine V_calli (n := 1) hX (k_isBlock d τ b) rfl rfl rfl (lw_V q255 q257 qs17 q21 q258) rfl rfl (by decide +kernel) ⟨Nat.le_of_ble_eq_true rfl, Nat.le_of_ble_eq_true rfl⟩ rfl rfl (Nat.le_of_ble_eq_true rfl) dX1_append_2 (fun r2 s2 h2 => ?_)
  obtain ⟨rfl, h2⟩ := h2
  refine V_if_ne hX (tgt := 10) dX1_append_5 (by decide) (fun c5 => ?_) (fun c5 => ?_)
  · obtain ⟨n, hn, rfl⟩ : bk b := h2.nz c5
    obtain ⟨s, hs4, ht⟩ := h.1 n hn
    refine V_aln hX 0 dX1_append_10 rfl rfl ?_
    refine M_get hX 1 (by decide) q225 rfl dX1_append_11 ?_
    refine V_iln hX 1 dX1_append_14 rfl rfl ?_
    refine M_ild hX rfl (by first | assumption | omega) dX1_append_15 ?_
    refine V_iconst hX (v := nI 4) dX1_append_16 (by decide +kernel) ?_
    refine V_ic_ne hX (tgt := 23) dX1_append_17 (by decide) (fun c17 => ?_) (fun c17 => ?_)
    · refine V_aln hX 0 dX1_append_23 rfl rfl ?_
      refine V_aln hX 0 dX1_append_24 rfl rfl ?_
      refine M_get hX 1 (by decide) q225 rfl dX1_append_25 ?_
      refine V_iln hX 1 dX1_append_28 rfl rfl ?_
      refine M_ild hX rfl (by first | assumption | omega) dX1_append_29 ?_
      refine V_if_le hX (tgt := 37) dX1_append_30 (by decide) (fun c30 => ?_) (fun c30 => ?_)
      · refine V_iconst hX (v := nI 2) dX1_append_37 (by decide +kernel) ?_
        refine V_calli (n := 1) hX (k_isCut d τ 2) rfl rfl rfl (lw_V q259 q261 qs18 q21 q262) rfl rfl (by decide +kernel) ⟨Nat.le_of_ble_eq_true rfl, Nat.le_of_ble_eq_true rfl⟩ rfl rfl (Nat.le_of_ble_eq_true rfl) dX1_append_38 (fun r38 s38 h38 => ?_)
        refine V_if_eq hX (tgt := 47) dX1_append_41 (by decide) (fun c41 => ?_) (fun c41 => ?_)
        · obtain ⟨_, hct, rfl⟩ := h38.resolve_left (fun q => by rw [q.1] at c41; exact absurd c41 (by decide))
          have hs3 : s < 4 := by
            rcases Nat.lt_or_ge s 4 with q | q
            · exact q
            · exact absurd (show τ 1 n = nI 4 by rw [ht, show s = 4 by omega]) c17
          refine V_aln hX 0 dX1_append_47 rfl rfl ?_
          refine M_get hX 0 (by decide) q224 rfl dX1_append_48 ?_
          refine V_iconst hX (v := nI 4) dX1_append_51 (by decide +kernel) ?_
          refine V_iln hX 1 dX1_append_52 rfl rfl ?_
          refine V_imul hX dX1_append_53 ?_
          refine V_aln hX 0 dX1_append_54 rfl rfl ?_
          refine M_get hX 1 (by decide) q225 rfl dX1_append_55 ?_
          refine V_iln hX 1 dX1_append_58 rfl rfl ?_
          refine M_ild hX rfl (by first | assumption | omega) dX1_append_59 ?_
          refine V_top (y := nI s) ht ?_
          refine V_iadd hX dX1_append_60 ?_
          refine V_top (y := nI (4 * n + s)) (by simp only [pk_mul, nI_add, nI_1]) ?_
          refine V_iln hX 2 dX1_append_61 rfl rfl ?_
          refine M_ist hX rfl (show 4 * n + s < 32 by omega) dX1_append_62 ?_
          refine V_aln hX 0 dX1_append_63 rfl rfl ?_
          refine M_get hX 1 (by decide) q225 rfl dX1_append_64 ?_
          refine V_iln hX 1 dX1_append_67 rfl rfl ?_
          refine V_dup2 hX dX1_append_68 rfl rfl ?_
          refine M_ild hX rfl (by first | assumption | omega) dX1_append_69 ?_
          refine V_top (y := nI s) ht ?_
          refine V_iconst hX (v := 1) dX1_append_70 (by decide +kernel) ?_
          refine V_iadd hX dX1_append_71 ?_
          refine V_top (y := nI (s + 1)) (by simp only [pk_mul, nI_add, nI_1]) ?_
          refine M_ist hX rfl (by first | assumption | omega) dX1_append_72 ?_
          refine V_aln hX 0 dX1_append_73 rfl rfl ?_
          refine M_get hX 1 (by decide) q225 rfl dX1_append_74 ?_
          refine V_iln hX 1 dX1_append_77 rfl rfl ?_
          refine M_ild hX rfl (by first | assumption | omega) dX1_append_78 ?_
          have ek : apK (τ 1 n) = 2 := by rw [apK, if_pos c30]
          refine hR _ _ ?_ _ _ dX1_append_79
          rw [sAppend, onB_in hn, if_neg (show ¬ τ 1 n = 4 from c17), ek, ctM_f hct]
          rw [ht, cl_nI (by omega), nI_1]
          exact ⟨pk_us, rfl⟩
        · obtain ⟨_, hct, rfl⟩ := h38.resolve_right (fun q => c41 q.1)
          refine V_bipush hX (v := (-9)) dX1_append_44 (by decide +kernel) ?_
          have ek : apK (τ 1 n) = 2 := by rw [apK, if_pos c30]
          refine hR _ _ ?_ _ _ dX1_append_46
          rw [sAppend, onB_in hn, if_neg (show ¬ τ 1 n = 4 from c17), ek, ctM_t hct]
          exact ⟨rfl, rfl⟩
      · refine V_iconst hX (v := nI 1) dX1_append_33 (by decide +kernel) ?_
        refine V_goto hX (tgt := 38) dX1_append_34 (by decide) ?_
        refine V_calli (n := 1) hX (k_isCut d τ 1) rfl rfl rfl (lw_V q259 q261 qs18 q21 q262) rfl rfl (by decide +kernel) ⟨Nat.le_of_ble_eq_true rfl, Nat.le_of_ble_eq_true rfl⟩ rfl rfl (Nat.le_of_ble_eq_true rfl) dX1_append_38 (fun r38 s38 h38 => ?_)
        refine V_if_eq hX (tgt := 47) dX1_append_41 (by decide) (fun c41 => ?_) (fun c41 => ?_)
        · obtain ⟨_, hct, rfl⟩ := h38.resolve_left (fun q => by rw [q.1] at c41; exact absurd c41 (by decide))
          have hs3 : s < 4 := by
            rcases Nat.lt_or_ge s 4 with q | q
            · exact q
            · exact absurd (show τ 1 n = nI 4 by rw [ht, show s = 4 by omega]) c17
          refine V_aln hX 0 dX1_append_47 rfl rfl ?_
          refine M_get hX 0 (by decide) q224 rfl dX1_append_48 ?_
          refine V_iconst hX (v := nI 4) dX1_append_51 (by decide +kernel) ?_
          refine V_iln hX 1 dX1_append_52 rfl rfl ?_
          refine V_imul hX dX1_append_53 ?_
          refine V_aln hX 0 dX1_append_54 rfl rfl ?_
          refine M_get hX 1 (by decide) q225 rfl dX1_append_55 ?_
          refine V_iln hX 1 dX1_append_58 rfl rfl ?_
          refine M_ild hX rfl (by first | assumption | omega) dX1_append_59 ?_
          refine V_top (y := nI s) ht ?_
          refine V_iadd hX dX1_append_60 ?_
          refine V_top (y := nI (4 * n + s)) (by simp only [pk_mul, nI_add, nI_1]) ?_
          refine V_iln hX 2 dX1_append_61 rfl rfl ?_
          refine M_ist hX rfl (show 4 * n + s < 32 by omega) dX1_append_62 ?_
          refine V_aln hX 0 dX1_append_63 rfl rfl ?_
          refine M_get hX 1 (by decide) q225 rfl dX1_append_64 ?_
          refine V_iln hX 1 dX1_append_67 rfl rfl ?_
          refine V_dup2 hX dX1_append_68 rfl rfl ?_
          refine M_ild hX rfl (by first | assumption | omega) dX1_append_69 ?_
          refine V_top (y := nI s) ht ?_
          refine V_iconst hX (v := 1) dX1_append_70 (by decide +kernel) ?_
          refine V_iadd hX dX1_append_71 ?_
          refine V_top (y := nI (s + 1)) (by simp only [pk_mul, nI_add, nI_1]) ?_
          refine M_ist hX rfl (by first | assumption | omega) dX1_append_72 ?_
          refine V_aln hX 0 dX1_append_73 rfl rfl ?_
          refine M_get hX 1 (by decide) q225 rfl dX1_append_74 ?_
          refine V_iln hX 1 dX1_append_77 rfl rfl ?_
          refine M_ild hX rfl (by first | assumption | omega) dX1_append_78 ?_
          have ek : apK (τ 1 n) = 1 := by rw [apK, if_neg c30]
          refine hR _ _ ?_ _ _ dX1_append_79
          rw [sAppend, onB_in hn, if_neg (show ¬ τ 1 n = 4 from c17), ek, ctM_f hct]
          rw [ht, cl_nI (by omega), nI_1]
          exact ⟨pk_us, rfl⟩
        · obtain ⟨_, hct, rfl⟩ := h38.resolve_right (fun q => c41 q.1)
          refine V_bipush hX (v := (-9)) dX1_append_44 (by decide +kernel) ?_
          have ek : apK (τ 1 n) = 1 := by rw [apK, if_neg c30]
          refine hR _ _ ?_ _ _ dX1_append_46
          rw [sAppend, onB_in hn, if_neg (show ¬ τ 1 n = 4 from c17), ek, ctM_t hct]
          exact ⟨rfl, rfl⟩
    · refine V_bipush hX (v := (-2)) dX1_append_20 (by decide +kernel) ?_
      exact hR _ _ (by rw [sAppend, onB_in hn, if_pos (show τ 1 n = 4 from c17)]; exact ⟨rfl, rfl⟩) _ _ dX1_append_22
  · refine V_iconst hX (v := (-1)) dX1_append_8 (by decide +kernel) ?_
    exact hR _ _ (by rw [sAppend, onB_out (h2.z c5)]; exact ⟨rfl, rfl⟩) _ _ dX1_append_9
set_option maxHeartbeats 4000000 in
/-- change (reference) -/
theorem k_change (d : Nat → Nat) (τ : fSt) (b : Int32) (h : MI τ) : CRi d yX1_change cX1_change 3 .int (rmF 2 41) τ [.int b] (fun r τ' => r = (sChange τ b).1 ∧ τ' = (sChange τ b).2) := by
  refine CMi.of (own := RX1) (by decide +kernel) rfl (Nat.le_of_ble_eq_true rfl) (by simp [Value.category]) (fun _ _ _ => rfl) ?_
  intro X hX hR
  refine V_aln hX 0 dX1_change_0 rfl rfl ?_
  refine V_iln hX 1 dX1_change_1 rfl rfl ?_
  refine V_calli (n := 1) hX (k_isBlock d τ b) rfl rfl rfl (lw_V q255 q257 qs17 q21 q258) rfl rfl (by decide +kernel) ⟨Nat.le_of_ble_eq_true rfl, Nat.le_of_ble_eq_true rfl⟩ rfl rfl (Nat.le_of_ble_eq_true rfl) dX1_change_2 (fun r2 s2 h2 => ?_)
  obtain ⟨rfl, h2⟩ := h2
  refine V_if_ne hX (tgt := 10) dX1_change_5 (by decide) (fun c5 => ?_) (fun c5 => ?_)
  · obtain ⟨n, hn, rfl⟩ : bk b := h2.nz c5
    obtain ⟨n0, hn4, h3⟩ := h.2
    refine V_aln hX 0 dX1_change_10 rfl rfl ?_
    refine V_aln hX 0 dX1_change_11 rfl rfl ?_
    refine M_get hX 3 (by decide) q227 rfl dX1_change_12 ?_
    refine V_top (y := nI n0) h3 ?_
    refine V_iconst hX (v := nI 2) dX1_change_15 (by decide +kernel) ?_
    refine V_iadd hX dX1_change_16 ?_
    refine V_top (y := nI (n0 + 2)) (by simp only [pk_mul, nI_add, nI_1]) ?_
    refine V_calli (n := 1) hX (k_isCut d τ (n0 + 2)) rfl rfl rfl (lw_V q259 q261 qs18 q21 q262) rfl rfl (by decide +kernel) ⟨Nat.le_of_ble_eq_true rfl, Nat.le_of_ble_eq_true rfl⟩ rfl rfl (Nat.le_of_ble_eq_true rfl) dX1_change_17 (fun r17 s17 h17 => ?_)
    refine V_if_eq hX (tgt := 26) dX1_change_20 (by decide) (fun c20 => ?_) (fun c20 => ?_)
    · obtain ⟨_, hct, rfl⟩ := h17.resolve_left (fun q => by rw [q.1] at c20; exact absurd c20 (by decide))
      have lp : ∀ (fu i : Nat), i ≤ n0 → n0 - i < fu → (True) → V X (wM d (sf (dcM τ (n0 + 2)) 0 (wrM τ n i))) [.ref (d 6), .int (nI n), .int (nI i)] 28 [] := by
        intro fu
        induction fu with
        | zero => intro i  _ h; exact absurd h (Nat.not_lt_zero _)
        | succ fu ih =>
          intro i  hi hfu I
          refine V_iln hX 2 dX1_change_28 rfl rfl ?_
          refine V_aln hX 0 dX1_change_29 rfl rfl ?_
          refine M_get hX 3 (by decide) q227 rfl dX1_change_30 ?_
          refine V_top (y := nI n0) h3 ?_
          refine V_ic_geN hX (tgt := 58) dX1_change_33 (by decide) (by omega) (by omega) (fun c33 => ?_) (fun c33 => ?_)
          · have e8 : i = n0 := by omega
            subst e8
            refine V_aln hX 0 dX1_change_58 rfl rfl ?_
            refine M_get hX 1 (by decide) q225 rfl dX1_change_59 ?_
            refine V_iln hX 1 dX1_change_62 rfl rfl ?_
            refine V_aln hX 0 dX1_change_63 rfl rfl ?_
            refine M_get hX 3 (by decide) q227 rfl dX1_change_64 ?_
            refine M_ist hX rfl (by first | assumption | omega) dX1_change_67 ?_
            refine V_aln hX 0 dX1_change_68 rfl rfl ?_
            refine V_iconst hX (v := 0) dX1_change_69 (by decide +kernel) ?_
            refine M_putI hX 3 (by decide) q227 rfl rfl rfl dX1_change_70 ?_
            refine V_aln hX 0 dX1_change_73 rfl rfl ?_
            refine M_get hX 1 (by decide) q225 rfl dX1_change_74 ?_
            refine V_iln hX 1 dX1_change_77 rfl rfl ?_
            refine M_ild hX rfl (by first | assumption | omega) dX1_change_78 ?_
            refine hR _ _ ?_ _ _ dX1_change_79
            rw [sChange, onB_in hn, show cl (τ 3 0) = i by rw [h3, cl_nI (by omega)], ctM_f hct]
            exact ⟨pk_us, rfl⟩
          · refine V_aln hX 0 dX1_change_36 rfl rfl ?_
            refine M_get hX 0 (by decide) q224 rfl dX1_change_37 ?_
            refine V_iconst hX (v := nI 4) dX1_change_40 (by decide +kernel) ?_
            refine V_iln hX 1 dX1_change_41 rfl rfl ?_
            refine V_imul hX dX1_change_42 ?_
            refine V_iln hX 2 dX1_change_43 rfl rfl ?_
            refine V_iadd hX dX1_change_44 ?_
            refine V_top (y := nI (4 * n + i)) (by simp only [pk_mul, nI_add, nI_1]) ?_
            refine V_aln hX 0 dX1_change_45 rfl rfl ?_
            refine M_get hX 2 (by decide) q226 rfl dX1_change_46 ?_
            refine V_iln hX 2 dX1_change_49 rfl rfl ?_
            refine M_ild hX rfl (show i < 4 by omega) dX1_change_50 ?_
            refine M_ist hX rfl (show 4 * n + i < 32 by omega) dX1_change_51 ?_
            refine V_w (w' := wM d (sf (dcM τ (n0 + 2)) 0 (wrM τ n (i + 1)))) (by rw [← wrM_put, ← sf_sf (dcM τ (n0 + 2)) 0 (wrM τ n i)]; rfl) ?_
            refine V_inc hX dX1_change_52 (Nat.le_of_ble_eq_true rfl) rfl (nI_inc _) ?_
            dsimp only [lput]
            refine V_goto hX (tgt := 28) dX1_change_55 (by decide) ?_
            exact ih (i + 1) (by omega) (by omega) trivial
      refine V_iconst hX (v := 0) dX1_change_26 (by decide +kernel) ?_
      refine V_isn hX 2 dX1_change_27 rfl (Nat.le_of_ble_eq_true rfl) (Nat.le_of_ble_eq_true rfl) ?_
      dsimp only [lput]
      refine V_w (w' := wM d (sf (dcM τ (n0 + 2)) 0 (wrM τ n 0))) (by rw [wrM_0]; exact congrArg (wM d) (sf_self (dcM τ (n0 + 2)) 0).symm) ?_
      exact lp (n0 + 1) 0 (by omega) (by omega) trivial
    · obtain ⟨_, hct, rfl⟩ := h17.resolve_right (fun q => c20 q.1)
      refine V_bipush hX (v := (-9)) dX1_change_23 (by decide +kernel) ?_
      refine hR _ _ ?_ _ _ dX1_change_25
      rw [sChange, onB_in hn, show cl (τ 3 0) = n0 by rw [h3, cl_nI (by omega)], ctM_t hct]
      exact ⟨rfl, rfl⟩
  · refine V_iconst hX (v := (-1)) dX1_change_8 (by decide +kernel) ?_
    exact hR _ _ (by rw [sChange, onB_out (h2.z c5)]; exact ⟨rfl, rfl⟩) _ _ dX1_change_9
set_option maxHeartbeats 4000000 in
/-- drop (reference) -/
theorem k_drop (d : Nat → Nat) (τ : fSt) (b : Int32) (h : MI τ) : CRi d yX1_drop cX1_drop 3 .int (rmF 2 41) τ [.int b] (fun r τ' => r = (sDrop τ b).1 ∧ τ' = (sDrop τ b).2) := by
  refine CMi.of (own := RX1) (by decide +kernel) rfl (Nat.le_of_ble_eq_true rfl) (by simp [Value.category]) (fun _ _ _ => rfl) ?_
  intro X hX hR
  refine V_aln hX 0 dX1_drop_0 rfl rfl ?_
  refine V_iln hX 1 dX1_drop_1 rfl rfl ?_
  refine V_calli (n := 1) hX (k_isBlock d τ b) rfl rfl rfl (lw_V q255 q257 qs17 q21 q258) rfl rfl (by decide +kernel) ⟨Nat.le_of_ble_eq_true rfl, Nat.le_of_ble_eq_true rfl⟩ rfl rfl (Nat.le_of_ble_eq_true rfl) dX1_drop_2 (fun r2 s2 h2 => ?_)
  obtain ⟨rfl, h2⟩ := h2
  refine V_if_ne hX (tgt := 10) dX1_drop_5 (by decide) (fun c5 => ?_) (fun c5 => ?_)
  · obtain ⟨n, hn, rfl⟩ : bk b := h2.nz c5
    obtain ⟨s, hs4, ht⟩ := h.1 n hn
    refine V_aln hX 0 dX1_drop_10 rfl rfl ?_
    refine M_get hX 1 (by decide) q225 rfl dX1_drop_11 ?_
    refine V_iln hX 1 dX1_drop_14 rfl rfl ?_
    refine M_ild hX rfl (by first | assumption | omega) dX1_drop_15 ?_
    refine V_if_ne hX (tgt := 22) dX1_drop_16 (by decide) (fun c16 => ?_) (fun c16 => ?_)
    · refine V_aln hX 0 dX1_drop_22 rfl rfl ?_
      refine V_iconst hX (v := nI 1) dX1_drop_23 (by decide +kernel) ?_
      refine V_calli (n := 1) hX (k_isCut d τ 1) rfl rfl rfl (lw_V q259 q261 qs18 q21 q262) rfl rfl (by decide +kernel) ⟨Nat.le_of_ble_eq_true rfl, Nat.le_of_ble_eq_true rfl⟩ rfl rfl (Nat.le_of_ble_eq_true rfl) dX1_drop_24 (fun r24 s24 h24 => ?_)
      refine V_if_eq hX (tgt := 33) dX1_drop_27 (by decide) (fun c27 => ?_) (fun c27 => ?_)
      · obtain ⟨_, hct, rfl⟩ := h24.resolve_left (fun q => by rw [q.1] at c27; exact absurd c27 (by decide))
        refine V_aln hX 0 dX1_drop_33 rfl rfl ?_
        refine M_get hX 1 (by decide) q225 rfl dX1_drop_34 ?_
        refine V_iln hX 1 dX1_drop_37 rfl rfl ?_
        refine M_ild hX rfl (by first | assumption | omega) dX1_drop_38 ?_
        refine V_isn hX 2 dX1_drop_39 rfl (Nat.le_of_ble_eq_true rfl) (Nat.le_of_ble_eq_true rfl) ?_
        dsimp only [lput]
        refine V_aln hX 0 dX1_drop_40 rfl rfl ?_
        refine M_get hX 1 (by decide) q225 rfl dX1_drop_41 ?_
        refine V_iln hX 1 dX1_drop_44 rfl rfl ?_
        refine V_iconst hX (v := 0) dX1_drop_45 (by decide +kernel) ?_
        refine M_ist hX rfl (by first | assumption | omega) dX1_drop_46 ?_
        refine V_iln hX 2 dX1_drop_47 rfl rfl ?_
        exact hR _ _ (by rw [sDrop, onB_in hn, if_neg c16, ctM_f hct]; exact ⟨rfl, rfl⟩) _ _ dX1_drop_48
      · obtain ⟨_, hct, rfl⟩ := h24.resolve_right (fun q => c27 q.1)
        refine V_bipush hX (v := (-9)) dX1_drop_30 (by decide +kernel) ?_
        exact hR _ _ (by rw [sDrop, onB_in hn, if_neg c16, ctM_t hct]; exact ⟨rfl, rfl⟩) _ _ dX1_drop_32
    · refine V_bipush hX (v := (-4)) dX1_drop_19 (by decide +kernel) ?_
      exact hR _ _ (by rw [sDrop, onB_in hn, if_pos c16]; exact ⟨rfl, rfl⟩) _ _ dX1_drop_21
  · refine V_iconst hX (v := (-1)) dX1_drop_8 (by decide +kernel) ?_
    exact hR _ _ (by rw [sDrop, onB_out (h2.z c5)]; exact ⟨rfl, rfl⟩) _ _ dX1_drop_9
set_option maxHeartbeats 4000000 in
/-- swap (reference) -/
theorem k_swap (d : Nat → Nat) (τ : fSt) (b c : Int32) (h : MI τ) : CRi d yX1_swap cX1_swap 6 .int (rmF 2 41) τ [.int b, .int c] (fun r τ' => r = (sSwap τ b c).1 ∧ τ' = (sSwap τ b c).2) := by
  refine CMi.of (own := RX1) (by decide +kernel) rfl (Nat.le_of_ble_eq_true rfl) (by simp [Value.category]) (fun _ _ _ => rfl) ?_
  intro X hX hR
  refine V_aln hX 0 dX1_swap_0 rfl rfl ?_
  refine V_iln hX 1 dX1_swap_1 rfl rfl ?_
  refine V_calli (n := 1) hX (k_isBlock d τ b) rfl rfl rfl (lw_V q255 q257 qs17 q21 q258) rfl rfl (by decide +kernel) ⟨Nat.le_of_ble_eq_true rfl, Nat.le_of_ble_eq_true rfl⟩ rfl rfl (Nat.le_of_ble_eq_true rfl) dX1_swap_2 (fun r2 s2 h2 => ?_)
  obtain ⟨rfl, h2⟩ := h2
  refine V_if_eq hX (tgt := 16) dX1_swap_5 (by decide) (fun c5 => ?_) (fun c5 => ?_)
  · refine V_iconst hX (v := (-1)) dX1_swap_16 (by decide +kernel) ?_
    exact hR _ _ (by rw [sSwap, onB_out (h2.z c5)]; exact ⟨rfl, rfl⟩) _ _ dX1_swap_17
  · obtain ⟨n, hn, rfl⟩ : bk b := h2.nz c5
    refine V_aln hX 0 dX1_swap_8 rfl rfl ?_
    refine V_iln hX 2 dX1_swap_9 rfl rfl ?_
    refine V_calli (n := 1) hX (k_isBlock d τ c) rfl rfl rfl (lw_V q255 q257 qs17 q21 q258) rfl rfl (by decide +kernel) ⟨Nat.le_of_ble_eq_true rfl, Nat.le_of_ble_eq_true rfl⟩ rfl rfl (Nat.le_of_ble_eq_true rfl) dX1_swap_10 (fun r10 s10 h10 => ?_)
    obtain ⟨rfl, h10⟩ := h10
    refine V_if_ne hX (tgt := 18) dX1_swap_13 (by decide) (fun c13 => ?_) (fun c13 => ?_)
    · obtain ⟨m, hm, rfl⟩ : bk c := h10.nz c13
      obtain ⟨s1, hs1, ht1⟩ := h.1 n hn
      obtain ⟨s2, hs2, ht2⟩ := h.1 m hm
      refine V_iln hX 1 dX1_swap_18 rfl rfl ?_
      refine V_iln hX 2 dX1_swap_19 rfl rfl ?_
      refine V_ic_neN hX (tgt := 25) dX1_swap_20 (by decide) (by omega) (by omega) (fun c20 => ?_) (fun c20 => ?_)
      · have hnm : n ≠ m := c20
        refine V_aln hX 0 dX1_swap_25 rfl rfl ?_
        refine V_aln hX 0 dX1_swap_26 rfl rfl ?_
        refine M_get hX 1 (by decide) q225 rfl dX1_swap_27 ?_
        refine V_iln hX 1 dX1_swap_30 rfl rfl ?_
        refine M_ild hX rfl (by first | assumption | omega) dX1_swap_31 ?_
        refine V_top (y := nI s1) ht1 ?_
        refine V_aln hX 0 dX1_swap_32 rfl rfl ?_
        refine M_get hX 1 (by decide) q225 rfl dX1_swap_33 ?_
        refine V_iln hX 2 dX1_swap_36 rfl rfl ?_
        refine M_ild hX rfl (by first | assumption | omega) dX1_swap_37 ?_
        refine V_top (y := nI s2) ht2 ?_
        refine V_iadd hX dX1_swap_38 ?_
        refine V_top (y := nI (s1 + s2)) (by simp only [pk_mul, nI_add, nI_1]) ?_
        refine V_iconst hX (v := nI 3) dX1_swap_39 (by decide +kernel) ?_
        refine V_iadd hX dX1_swap_40 ?_
        refine V_top (y := nI (s1 + s2 + 3)) (by simp only [pk_mul, nI_add, nI_1]) ?_
        refine V_calli (n := 1) hX (k_isCut d τ (s1 + s2 + 3)) rfl rfl rfl (lw_V q259 q261 qs18 q21 q262) rfl rfl (by decide +kernel) ⟨Nat.le_of_ble_eq_true rfl, Nat.le_of_ble_eq_true rfl⟩ rfl rfl (Nat.le_of_ble_eq_true rfl) dX1_swap_41 (fun r41 s41 h41 => ?_)
        refine V_if_eq hX (tgt := 50) dX1_swap_44 (by decide) (fun c44 => ?_) (fun c44 => ?_)
        · obtain ⟨_, hct, rfl⟩ := h41.resolve_left (fun q => by rw [q.1] at c44; exact absurd c44 (by decide))
          have lp : ∀ (fu i : Nat), i ≤ 4 → 4 - i < fu → (True) → V X (wM d (sf (sf (dcM τ (s1 + s2 + 3)) 1 (upd (upd (τ 1) n (τ 1 m)) m (τ 1 n))) 0 (swM τ n m i))) [.ref (d 6), .int (nI n), .int (nI m), .int (τ 1 n), .int (nI i)] 79 [] := by
            intro fu
            induction fu with
            | zero => intro i  _ h; exact absurd h (Nat.not_lt_zero _)
            | succ fu ih =>
              intro i  hi hfu I
              refine V_il hX dX1_swap_79 rfl ?_
              refine V_iconst hX (v := nI 4) dX1_swap_81 (by decide +kernel) ?_
              refine V_ic_geN hX (tgt := 139) dX1_swap_82 (by decide) (by omega) (by omega) (fun c82 => ?_) (fun c82 => ?_)
              · have e8 : i = 4 := by omega
                subst e8
                refine V_iconst hX (v := 0) dX1_swap_139 (by decide +kernel) ?_
                refine hR _ _ ?_ _ _ dX1_swap_140
                rw [sSwap, onB_in hn, onB_in hm, if_neg hnm, show cl (τ 1 n) = s1 by rw [ht1, cl_nI (by omega)], show cl (τ 1 m) = s2 by rw [ht2, cl_nI (by omega)], ctM_f hct]
                exact ⟨rfl, rfl⟩
              · refine V_aln hX 0 dX1_swap_85 rfl rfl ?_
                refine M_get hX 0 (by decide) q224 rfl dX1_swap_86 ?_
                refine V_iconst hX (v := nI 4) dX1_swap_89 (by decide +kernel) ?_
                refine V_iln hX 1 dX1_swap_90 rfl rfl ?_
                refine V_imul hX dX1_swap_91 ?_
                refine V_il hX dX1_swap_92 rfl ?_
                refine V_iadd hX dX1_swap_94 ?_
                refine V_top (y := nI (4 * n + i)) (by simp only [pk_mul, nI_add, nI_1]) ?_
                refine M_ild hX rfl (show 4 * n + i < 32 by omega) dX1_swap_95 ?_
                refine V_is hX dX1_swap_96 (Nat.le_of_ble_eq_true rfl) (Nat.le_of_ble_eq_true rfl) ?_
                dsimp only [lput]
                refine V_aln hX 0 dX1_swap_98 rfl rfl ?_
                refine M_get hX 0 (by decide) q224 rfl dX1_swap_99 ?_
                refine V_iconst hX (v := nI 4) dX1_swap_102 (by decide +kernel) ?_
                refine V_iln hX 1 dX1_swap_103 rfl rfl ?_
                refine V_imul hX dX1_swap_104 ?_
                refine V_il hX dX1_swap_105 rfl ?_
                refine V_iadd hX dX1_swap_107 ?_
                refine V_top (y := nI (4 * n + i)) (by simp only [pk_mul, nI_add, nI_1]) ?_
                refine V_aln hX 0 dX1_swap_108 rfl rfl ?_
                refine M_get hX 0 (by decide) q224 rfl dX1_swap_109 ?_
                refine V_iconst hX (v := nI 4) dX1_swap_112 (by decide +kernel) ?_
                refine V_iln hX 2 dX1_swap_113 rfl rfl ?_
                refine V_imul hX dX1_swap_114 ?_
                refine V_il hX dX1_swap_115 rfl ?_
                refine V_iadd hX dX1_swap_117 ?_
                refine V_top (y := nI (4 * m + i)) (by simp only [pk_mul, nI_add, nI_1]) ?_
                refine M_ild hX rfl (show 4 * m + i < 32 by omega) dX1_swap_118 ?_
                refine M_ist hX rfl (show 4 * n + i < 32 by omega) dX1_swap_119 ?_
                refine V_aln hX 0 dX1_swap_120 rfl rfl ?_
                refine M_get hX 0 (by decide) q224 rfl dX1_swap_121 ?_
                refine V_iconst hX (v := nI 4) dX1_swap_124 (by decide +kernel) ?_
                refine V_iln hX 2 dX1_swap_125 rfl rfl ?_
                refine V_imul hX dX1_swap_126 ?_
                refine V_il hX dX1_swap_127 rfl ?_
                refine V_iadd hX dX1_swap_129 ?_
                refine V_top (y := nI (4 * m + i)) (by simp only [pk_mul, nI_add, nI_1]) ?_
                refine V_il hX dX1_swap_130 rfl ?_
                refine M_ist hX rfl (show 4 * m + i < 32 by omega) dX1_swap_132 ?_
                refine V_w (w' := wM d (sf (sf (dcM τ (s1 + s2 + 3)) 1 (upd (upd (τ 1) n (τ 1 m)) m (τ 1 n))) 0 (swM τ n m (i + 1)))) (by rw [← swM_put hnm c82]; exact congrArg (wM d) ((sf_sf _ _ _ _).trans (sf_sf _ _ _ _))) ?_
                refine V_inc hX dX1_swap_133 (Nat.le_of_ble_eq_true rfl) rfl (nI_inc _) ?_
                dsimp only [lput]
                refine V_goto hX (tgt := 79) dX1_swap_136 (by decide) ?_
                refine V_take 5 ?_
                exact ih (i + 1) (by omega) (by omega) trivial
          refine V_aln hX 0 dX1_swap_50 rfl rfl ?_
          refine M_get hX 1 (by decide) q225 rfl dX1_swap_51 ?_
          refine V_iln hX 1 dX1_swap_54 rfl rfl ?_
          refine M_ild hX rfl (by first | assumption | omega) dX1_swap_55 ?_
          refine V_isn hX 3 dX1_swap_56 rfl (Nat.le_of_ble_eq_true rfl) (Nat.le_of_ble_eq_true rfl) ?_
          dsimp only [lput]
          refine V_aln hX 0 dX1_swap_57 rfl rfl ?_
          refine M_get hX 1 (by decide) q225 rfl dX1_swap_58 ?_
          refine V_iln hX 1 dX1_swap_61 rfl rfl ?_
          refine V_aln hX 0 dX1_swap_62 rfl rfl ?_
          refine M_get hX 1 (by decide) q225 rfl dX1_swap_63 ?_
          refine V_iln hX 2 dX1_swap_66 rfl rfl ?_
          refine M_ild hX rfl (by first | assumption | omega) dX1_swap_67 ?_
          refine M_ist hX rfl (by first | assumption | omega) dX1_swap_68 ?_
          refine V_aln hX 0 dX1_swap_69 rfl rfl ?_
          refine M_get hX 1 (by decide) q225 rfl dX1_swap_70 ?_
          refine V_iln hX 2 dX1_swap_73 rfl rfl ?_
          refine V_iln hX 3 dX1_swap_74 rfl rfl ?_
          refine M_ist hX rfl (by first | assumption | omega) dX1_swap_75 ?_
          refine V_iconst hX (v := 0) dX1_swap_76 (by decide +kernel) ?_
          refine V_is hX dX1_swap_77 (Nat.le_of_ble_eq_true rfl) (Nat.le_of_ble_eq_true rfl) ?_
          dsimp only [lput]
          refine V_w (w' := wM d (sf (sf (dcM τ (s1 + s2 + 3)) 1 (upd (upd (τ 1) n (τ 1 m)) m (τ 1 n))) 0 (swM τ n m 0))) (by rw [swM_0]; exact congrArg (wM d) ((sf_sf _ _ _ _).trans (sf_self (sf (dcM τ (s1 + s2 + 3)) 1 (upd (upd (τ 1) n (τ 1 m)) m (τ 1 n))) 0).symm)) ?_
          exact lp 5 0 (by omega) (by omega) trivial
        · obtain ⟨_, hct, rfl⟩ := h41.resolve_right (fun q => c44 q.1)
          refine V_bipush hX (v := (-9)) dX1_swap_47 (by decide +kernel) ?_
          refine hR _ _ ?_ _ _ dX1_swap_49
          rw [sSwap, onB_in hn, onB_in hm, if_neg hnm, show cl (τ 1 n) = s1 by rw [ht1, cl_nI (by omega)], show cl (τ 1 m) = s2 by rw [ht2, cl_nI (by omega)], ctM_t hct]
          exact ⟨rfl, rfl⟩
      · refine V_iconst hX (v := 0) dX1_swap_23 (by decide +kernel) ?_
        exact hR _ _ (by rw [sSwap, onB_in hn, onB_in hm, if_pos c20]; exact ⟨rfl, rfl⟩) _ _ dX1_swap_24
    · refine V_iconst hX (v := (-1)) dX1_swap_16 (by decide +kernel) ?_
      exact hR _ _ (by rw [sSwap, onB_in hn, onB_out (h10.z c13)]; exact ⟨rfl, rfl⟩) _ _ dX1_swap_17
set_option maxHeartbeats 4000000 in
/-- size (reference) -/
theorem k_size (d : Nat → Nat) (τ : fSt) (b : Int32) : CRi d yX1_size cX1_size 2 .int (rmF 2 41) τ [.int b] (fun r τ' => τ = τ' ∧ r = (sSize τ b).1) := by
  refine CMi.of (own := RX1) (by decide +kernel) rfl (Nat.le_of_ble_eq_true rfl) (by simp [Value.category]) (fun _ _ _ => rfl) ?_
  intro X hX hR
  refine V_aln hX 0 dX1_size_0 rfl rfl ?_
  refine V_iln hX 1 dX1_size_1 rfl rfl ?_
  refine V_calli (n := 1) hX (k_isBlock d τ b) rfl rfl rfl (lw_V q255 q257 qs17 q21 q258) rfl rfl (by decide +kernel) ⟨Nat.le_of_ble_eq_true rfl, Nat.le_of_ble_eq_true rfl⟩ rfl rfl (Nat.le_of_ble_eq_true rfl) dX1_size_2 (fun r2 s2 h2 => ?_)
  obtain ⟨rfl, h2⟩ := h2
  refine V_if_eq hX (tgt := 17) dX1_size_5 (by decide) (fun c5 => ?_) (fun c5 => ?_)
  · refine V_iconst hX (v := (-1)) dX1_size_17 (by decide +kernel) ?_
    exact hR _ _ (by rw [sSize, onB_out (h2.z c5)]; exact ⟨rfl, rfl⟩) _ _ dX1_size_18
  · obtain ⟨n, hn, rfl⟩ : bk b := h2.nz c5
    refine V_aln hX 0 dX1_size_8 rfl rfl ?_
    refine M_get hX 1 (by decide) q225 rfl dX1_size_9 ?_
    refine V_iln hX 1 dX1_size_12 rfl rfl ?_
    refine M_ild hX rfl (by first | assumption | omega) dX1_size_13 ?_
    refine V_goto hX (tgt := 18) dX1_size_14 (by decide) ?_
    exact hR _ _ (by rw [sSize, onB_in hn]; exact ⟨rfl, rfl⟩) _ _ dX1_size_18
set_option maxHeartbeats 4000000 in
/-- read (reference) -/
theorem k_read (d : Nat → Nat) (τ : fSt) (b x : Int32) (h : MI τ) : CRi d yX1_read cX1_read 3 .int (rmF 2 41) τ [.int b, .int x] (fun r τ' => τ = τ' ∧ r = sRead τ b x) := by
  refine CMi.of (own := RX1) (by decide +kernel) rfl (Nat.le_of_ble_eq_true rfl) (by simp [Value.category]) (fun _ _ _ => rfl) ?_
  intro X hX hR
  refine V_aln hX 0 dX1_read_0 rfl rfl ?_
  refine V_iln hX 1 dX1_read_1 rfl rfl ?_
  refine V_calli (n := 1) hX (k_isBlock d τ b) rfl rfl rfl (lw_V q255 q257 qs17 q21 q258) rfl rfl (by decide +kernel) ⟨Nat.le_of_ble_eq_true rfl, Nat.le_of_ble_eq_true rfl⟩ rfl rfl (Nat.le_of_ble_eq_true rfl) dX1_read_2 (fun r2 s2 h2 => ?_)
  obtain ⟨rfl, h2⟩ := h2
  refine V_if_eq hX (tgt := 35) dX1_read_5 (by decide) (fun c5 => ?_) (fun c5 => ?_)
  · refine V_iconst hX (v := 0) dX1_read_35 (by decide +kernel) ?_
    exact hR _ _ (by rw [sRead, if_neg (fun q => h2.z c5 (bk_of q.1 q.2))]; exact ⟨rfl, rfl⟩) _ _ dX1_read_36
  · obtain ⟨n, hn, rfl⟩ : bk b := h2.nz c5
    obtain ⟨s, hs4, ht⟩ := h.1 n hn
    refine V_iln hX 2 dX1_read_8 rfl rfl ?_
    refine V_if_lt hX (tgt := 35) dX1_read_9 (by decide) (fun c9 => ?_) (fun c9 => ?_)
    · refine V_iconst hX (v := 0) dX1_read_35 (by decide +kernel) ?_
      exact hR _ _ (by rw [sRead, if_pos ⟨nI_pos (by omega), nI_lt hn (by decide)⟩, if_neg (fun q => q.1 c9)]; exact ⟨rfl, rfl⟩) _ _ dX1_read_36
    · refine V_iln hX 2 dX1_read_12 rfl rfl ?_
      refine V_aln hX 0 dX1_read_13 rfl rfl ?_
      refine M_get hX 1 (by decide) q225 rfl dX1_read_14 ?_
      refine V_iln hX 1 dX1_read_17 rfl rfl ?_
      refine M_ild hX rfl (by first | assumption | omega) dX1_read_18 ?_
      refine V_ic_ge hX (tgt := 35) dX1_read_19 (by decide) (fun c19 => ?_) (fun c19 => ?_)
      · refine V_iconst hX (v := 0) dX1_read_35 (by decide +kernel) ?_
        exact hR _ _ (by rw [sRead, if_pos ⟨nI_pos (by omega), nI_lt hn (by decide)⟩, cl_nI (by omega), if_neg (fun q => absurd q.2 (Int32.not_lt.mpr c19))]; exact ⟨rfl, rfl⟩) _ _ dX1_read_36
      · obtain ⟨i, hi31, rfl⟩ := nI_of c9
        have him : i < s := by
          have q := Int32.not_le.mp c19
          rw [ht] at q
          exact (nI_ltI hi31 (by omega)).mp q
        refine V_aln hX 0 dX1_read_22 rfl rfl ?_
        refine M_get hX 0 (by decide) q224 rfl dX1_read_23 ?_
        refine V_iconst hX (v := nI 4) dX1_read_26 (by decide +kernel) ?_
        refine V_iln hX 1 dX1_read_27 rfl rfl ?_
        refine V_imul hX dX1_read_28 ?_
        refine V_iln hX 2 dX1_read_29 rfl rfl ?_
        refine V_iadd hX dX1_read_30 ?_
        refine V_top (y := nI (4 * n + i)) (by simp only [pk_mul, nI_add, nI_1]) ?_
        refine M_ild hX rfl (show 4 * n + i < 32 by omega) dX1_read_31 ?_
        refine V_goto hX (tgt := 36) dX1_read_32 (by decide) ?_
        exact hR _ _ (by rw [sRead, if_pos ⟨nI_pos (by omega), nI_lt hn (by decide)⟩, cl_nI (by omega), cl_nI (by omega), if_pos ⟨c9, Int32.not_le.mp c19⟩]; exact ⟨rfl, rfl⟩) _ _ dX1_read_36
set_option maxHeartbeats 4000000 in
/-- cutAfter (reference) -/
theorem k_cutAfter (d : Nat → Nat) (τ : fSt) (k : Int32) : CRi d yX1_cutAfter cX1_cutAfter 2 .int (rmF 2 41) τ [.int k] (fun r τ' => r = (sCutAfter τ k).1 ∧ τ' = (sCutAfter τ k).2) := by
  refine CMi.of (own := RX1) (by decide +kernel) rfl (Nat.le_of_ble_eq_true rfl) (by simp [Value.category]) (fun _ _ _ => rfl) ?_
  intro X hX hR
  refine V_iln hX 1 dX1_cutAfter_0 rfl rfl ?_
  refine V_if_lt hX (tgt := 10) dX1_cutAfter_1 (by decide) (fun c1 => ?_) (fun c1 => ?_)
  · refine V_iconst hX (v := (-1)) dX1_cutAfter_10 (by decide +kernel) ?_
    exact hR _ _ (by rw [sCutAfter, if_pos (Or.inl c1)]; exact ⟨rfl, rfl⟩) _ _ dX1_cutAfter_11
  · refine V_iln hX 1 dX1_cutAfter_4 rfl rfl ?_
    refine V_bipush hX (v := nI 40) dX1_cutAfter_5 (by decide +kernel) ?_
    refine V_ic_le hX (tgt := 12) dX1_cutAfter_7 (by decide) (fun c7 => ?_) (fun c7 => ?_)
    · refine V_aln hX 0 dX1_cutAfter_12 rfl rfl ?_
      refine V_iconst hX (v := 1) dX1_cutAfter_13 (by decide +kernel) ?_
      refine M_putZ hX 4 (by decide) q228 rfl rfl (by decide +kernel) (by decide +kernel) rfl dX1_cutAfter_14 ?_
      refine V_aln hX 0 dX1_cutAfter_17 rfl rfl ?_
      refine V_iln hX 1 dX1_cutAfter_18 rfl rfl ?_
      refine M_putI hX 5 (by decide) q229 rfl rfl rfl dX1_cutAfter_19 ?_
      refine V_iconst hX (v := 0) dX1_cutAfter_22 (by decide +kernel) ?_
      exact hR _ _ (by rw [sCutAfter, if_neg (fun q => q.elim c1 (fun q => q c7))]; exact ⟨rfl, rfl⟩) _ _ dX1_cutAfter_23
    · refine V_iconst hX (v := (-1)) dX1_cutAfter_10 (by decide +kernel) ?_
      exact hR _ _ (by rw [sCutAfter, if_pos (Or.inr c7)]; exact ⟨rfl, rfl⟩) _ _ dX1_cutAfter_11
set_option maxHeartbeats 4000000 in
/-- cancel (reference) -/
theorem k_cancel (d : Nat → Nat) (τ : fSt)  : CRi d yX1_cancel cX1_cancel 2 .int (rmF 2 41) τ [] (fun r τ' => r = (sCancel τ).1 ∧ τ' = (sCancel τ).2) := by
  refine CMi.of (own := RX1) (by decide +kernel) rfl (Nat.le_of_ble_eq_true rfl) (by simp [Value.category]) (fun _ _ _ => rfl) ?_
  intro X hX hR
  refine V_aln hX 0 dX1_cancel_0 rfl rfl ?_
  refine M_get hX 4 (by decide) q228 rfl dX1_cancel_1 ?_
  refine V_if_eq hX (tgt := 14) dX1_cancel_4 (by decide) (fun c4 => ?_) (fun c4 => ?_)
  · refine V_bipush hX (v := (-4)) dX1_cancel_14 (by decide +kernel) ?_
    refine V_isn hX 1 dX1_cancel_16 rfl (Nat.le_of_ble_eq_true rfl) (Nat.le_of_ble_eq_true rfl) ?_
    dsimp only [lput]
    refine V_aln hX 0 dX1_cancel_17 rfl rfl ?_
    refine V_iconst hX (v := 0) dX1_cancel_18 (by decide +kernel) ?_
    refine M_putZ hX 4 (by decide) q228 rfl rfl (by decide +kernel) (by decide +kernel) rfl dX1_cancel_19 ?_
    refine V_iln hX 1 dX1_cancel_22 rfl rfl ?_
    exact hR _ _ (by rw [sCancel, if_pos c4]; exact ⟨rfl, rfl⟩) _ _ dX1_cancel_23
  · refine V_aln hX 0 dX1_cancel_7 rfl rfl ?_
    refine M_get hX 5 (by decide) q229 rfl dX1_cancel_8 ?_
    refine V_goto hX (tgt := 16) dX1_cancel_11 (by decide) ?_
    refine V_isn hX 1 dX1_cancel_16 rfl (Nat.le_of_ble_eq_true rfl) (Nat.le_of_ble_eq_true rfl) ?_
    dsimp only [lput]
    refine V_aln hX 0 dX1_cancel_17 rfl rfl ?_
    refine V_iconst hX (v := 0) dX1_cancel_18 (by decide +kernel) ?_
    refine M_putZ hX 4 (by decide) q228 rfl rfl (by decide +kernel) (by decide +kernel) rfl dX1_cancel_19 ?_
    refine V_iln hX 1 dX1_cancel_22 rfl rfl ?_
    exact hR _ _ (by rw [sCancel, if_neg c4]; exact ⟨rfl, rfl⟩) _ _ dX1_cancel_23
set_option maxHeartbeats 4000000 in
/-- drafted (reference) -/
theorem k_drafted (d : Nat → Nat) (τ : fSt)  : CRi d yX1_drafted cX1_drafted 1 .int (rmF 2 41) τ [] (fun r τ' => τ = τ' ∧ r = τ 3 0) := by
  refine CMi.of (own := RX1) (by decide +kernel) rfl (Nat.le_of_ble_eq_true rfl) (by simp [Value.category]) (fun _ _ _ => rfl) ?_
  intro X hX hR
  refine V_aln hX 0 dX1_drafted_0 rfl rfl ?_
  refine M_get hX 3 (by decide) q227 rfl dX1_drafted_1 ?_
  exact hR _ _ ⟨rfl, rfl⟩ _ _ dX1_drafted_4
set_option maxHeartbeats 4000000 in
/-- rest (reference) -/
theorem k_rest (d : Nat → Nat) (τ : fSt) (x : Int32) : CRv d yX1_rest cX1_rest 2 (rmF 2 41) τ [.int x] (fun τ' => τ = τ') := by
  refine CMv.of (own := RX1) (by decide +kernel) rfl (Nat.le_of_ble_eq_true rfl) (by simp [Value.category]) ?_
  intro X hX hR
  exact hR _ rfl _ _ dX1_rest_0
set_option maxHeartbeats 4000000 in
/-- fail (reference) -/
theorem k_fail (d : Nat → Nat) (τ : fSt)  : CRv d yX1_fail cX1_fail 1 (rmF 2 41) τ [] (fun τ' => τ = τ') := by
  refine CMv.of (own := RX1) (by decide +kernel) rfl (Nat.le_of_ble_eq_true rfl) (by simp [Value.category]) ?_
  intro X hX hR
  exact hR _ rfl _ _ dX1_fail_0
set_option maxHeartbeats 4000000 in
/-- digest (reference) -/
theorem k_digest (d : Nat → Nat) (τ : fSt) (h : MI τ) : CRi d yX1_digest cX1_digest 4 .int (rmF 2 41) τ [] (fun r τ' => τ = τ' ∧ r = dgO τ 8) := by
  refine CMi.of (own := RX1) (by decide +kernel) rfl (Nat.le_of_ble_eq_true rfl) (by simp [Value.category]) (fun _ _ _ => rfl) ?_
  intro X hX hR
  have lp : ∀ (fo b : Nat) (s : Int32), b ≤ 8 → 8 - b < fo → s = dgO τ b → V X (wM d τ) [.ref (d 6), .int s, .int (nI b)] 4 [] := by
    intro fo
    induction fo with
    | zero => intro b s _ h; exact absurd h (Nat.not_lt_zero _)
    | succ fo ihO0 =>
      intro b s hb hfo I
      have ihO : ∀ b', b' ≤ 8 → 8 - b' < fo → ∀ {s' : Int32}, s' = dgO τ b' → V X (wM d τ) [.ref (d 6), .int s', .int (nI b')] 4 [] := fun b' h1 h2 s' h3 => ihO0 b' s' h1 h2 h3
      refine V_iln hX 2 dX1_digest_4 rfl rfl ?_
      refine V_bipush hX (v := nI 8) dX1_digest_5 (by decide +kernel) ?_
      refine V_ic_geN hX (tgt := 55) dX1_digest_7 (by decide) (by omega) (by omega) (fun c7 => ?_) (fun c7 => ?_)
      · have e8 : b = 8 := by omega
        subst e8
        refine V_iln hX 1 dX1_digest_55 rfl rfl ?_
        exact hR _ _ ⟨rfl, I⟩ _ _ dX1_digest_56
      · obtain ⟨m, hm4, ht⟩ := h.1 b c7
        have lpI : ∀ (fu i : Nat), i ≤ m → m - i < fu → (True) → V X (wM d τ) [.ref (d 6), .int (dgI (fun i => τ 0 (4 * b + i)) b i (dgO τ b)), .int (nI b), .int (nI i)] 12 [] := by
          intro fu
          induction fu with
          | zero => intro i  _ h; exact absurd h (Nat.not_lt_zero _)
          | succ fu ih =>
            intro i  hi hfu I
            refine V_iln hX 3 dX1_digest_12 rfl rfl ?_
            refine V_aln hX 0 dX1_digest_13 rfl rfl ?_
            refine M_get hX 1 (by decide) q225 rfl dX1_digest_14 ?_
            refine V_iln hX 2 dX1_digest_17 rfl rfl ?_
            refine M_ild hX rfl (by first | assumption | omega) dX1_digest_18 ?_
            refine V_top (y := nI m) ht ?_
            refine V_ic_geN hX (tgt := 49) dX1_digest_19 (by decide) (by omega) (by omega) (fun c19 => ?_) (fun c19 => ?_)
            · have e8 : i = m := by omega
              subst e8
              refine V_inc hX dX1_digest_49 (Nat.le_of_ble_eq_true rfl) rfl (nI_inc _) ?_
              dsimp only [lput]
              refine V_goto hX (tgt := 4) dX1_digest_52 (by decide) ?_
              refine V_take 3 ?_
              exact ihO (b + 1) (by omega) (by omega) (by rw [dgO, ht, cl_nI (by omega)])
            · refine V_iln hX 1 dX1_digest_22 rfl rfl ?_
              refine V_iconst hX (v := nI 4) dX1_digest_23 (by decide +kernel) ?_
              refine V_iln hX 2 dX1_digest_24 rfl rfl ?_
              refine V_imul hX dX1_digest_25 ?_
              refine V_iln hX 3 dX1_digest_26 rfl rfl ?_
              refine V_iadd hX dX1_digest_27 ?_
              refine V_iconst hX (v := 1) dX1_digest_28 (by decide +kernel) ?_
              refine V_iadd hX dX1_digest_29 ?_
              refine V_top (y := nI (4 * b + i + 1)) (by simp only [pk_mul, nI_add, nI_1]) ?_
              refine V_aln hX 0 dX1_digest_30 rfl rfl ?_
              refine M_get hX 0 (by decide) q224 rfl dX1_digest_31 ?_
              refine V_iconst hX (v := nI 4) dX1_digest_34 (by decide +kernel) ?_
              refine V_iln hX 2 dX1_digest_35 rfl rfl ?_
              refine V_imul hX dX1_digest_36 ?_
              refine V_iln hX 3 dX1_digest_37 rfl rfl ?_
              refine V_iadd hX dX1_digest_38 ?_
              refine V_top (y := nI (4 * b + i)) (by simp only [pk_mul, nI_add, nI_1]) ?_
              refine M_ild hX rfl (show 4 * b + i < 32 by omega) dX1_digest_39 ?_
              refine V_imul hX dX1_digest_40 ?_
              refine V_iadd hX dX1_digest_41 ?_
              refine V_top (y := dgI (fun i => τ 0 (4 * b + i)) b (i + 1) (dgO τ b)) rfl ?_
              refine V_isn hX 1 dX1_digest_42 rfl (Nat.le_of_ble_eq_true rfl) (Nat.le_of_ble_eq_true rfl) ?_
              dsimp only [lput]
              refine V_inc hX dX1_digest_43 (Nat.le_of_ble_eq_true rfl) rfl (nI_inc _) ?_
              dsimp only [lput]
              refine V_goto hX (tgt := 12) dX1_digest_46 (by decide) ?_
              exact ih (i + 1) (by omega) (by omega) trivial
        refine V_iconst hX (v := 0) dX1_digest_10 (by decide +kernel) ?_
        refine V_isn hX 3 dX1_digest_11 rfl (Nat.le_of_ble_eq_true rfl) (Nat.le_of_ble_eq_true rfl) ?_
        dsimp only [lput]
        rw [I]
        exact lpI (m + 1) 0 (by omega) (by omega) trivial
  refine V_iconst hX (v := 0) dX1_digest_0 (by decide +kernel) ?_
  refine V_isn hX 1 dX1_digest_1 rfl (Nat.le_of_ble_eq_true rfl) (Nat.le_of_ble_eq_true rfl) ?_
  dsimp only [lput]
  refine V_iconst hX (v := 0) dX1_digest_2 (by decide +kernel) ?_
  refine V_isn hX 2 dX1_digest_3 rfl (Nat.le_of_ble_eq_true rfl) (Nat.le_of_ble_eq_true rfl) ?_
  dsimp only [lput]
  exact lp 9 0 0 (by omega) (by omega) rfl
end
section
set_option maxRecDepth 100000
/-- addresses of the two worlds -/
def dF (o a0 a1 a2 a3 a4 a5 a6 a7 a8 a9 a12 a15 a16 cZ cI : Nat) : Nat → Nat
  | 0 => a0 | 1 => a1 | 2 => a2 | 3 => a3 | 4 => a4 | 5 => a5 | 6 => a6 | 7 => a7 | 8 => a8 | 9 => a9 | 12 => a12 | 15 => a15 | 16 => a16 | 19 => o | 20 => cZ | _ => cI
def dM (o a0 a1 a2 cI : Nat) : Nat → Nat
  | 0 => a0 | 1 => a1 | 2 => a2 | 6 => o | _ => cI
def z0 : fSt := fun _ _ => 0
abbrev fsF0 : List Value := [.null, .null, .null, .null, .null, .null, .null, .null, .null, .null, .int 0, .int 0, .null, .int 0, .int 0, .null, .null, .int 0, .int 0]
abbrev fsM0 : List Value := [.null, .null, .null, .int 0, .int 0, .int 0]
abbrev rmI : Room := { frames := 2, cells := 13, slots := 224, locals := 43 }
abbrev rmJ : Room := { frames := 1, cells := 3, slots := 44, locals := 12 }
theorem clean_hsp {σ : fSt} {b : Nat} {h : Int32} (hc : ∀ e, e < 16 → ¬ σ 0 e = 0) (hs : hsp σ b h) : h = -1 := by
  rcases hs with ⟨q, _⟩ | ⟨e, _, hw, _⟩
  · exact q
  · exact absurd hw.2.1.2.1 (hc e hw.1)
theorem clean_att {σ : fSt} {nn : Int32} {hm : Nat → Int32} (hc : ∀ e, e < 16 → ¬ σ 0 e = 0) (h1 : σ 1 = fun _ => 0) (h10 : σ 10 0 = 0) (h15 : σ 15 = fun _ => 0) (h : atS σ nn hm) : Rel (atF σ nn hm) z0 1 := by
  obtain ⟨hs, N, hnn, hN, _⟩ := h
  have hl : ∀ e, e < 16 → ¬ lvb σ e := fun e he q => hc e he q.2
  have hN1 : N = 1 := by
    rcases hN with q | ⟨e, he, l, _⟩
    · exact q
    · exact absurd l (hl e he)
  subst hN1
  refine ⟨⟨fun e he l => absurd l (hl e he), ⟨1, Nat.le_refl _, hnn, fun e he l => absurd l (hl e he)⟩, fun e e' he _ l => absurd l (hl e he), fun e he l => absurd l (hl e he), fun b hb => hs b hb, ⟨0, by omega, h10, cnt_none (fun e _ q => q (show σ 1 e = 0 by rw [h1]))⟩, ⟨0, by omega, rfl⟩, fun q => absurd rfl q⟩, fun b hb => Or.inl ⟨clean_hsp hc (hs b hb), rfl⟩, rfl, fun i _ => (show σ 15 i = 0 by rw [h15]), rfl, fun q => absurd rfl q⟩
set_option maxHeartbeats 4000000 in
theorem initV (d : Nat → Nat) {X : Cx} (hX : Ok X cX0_init 2 RX0 rmI (tF d)) (hR : ∀ (σ' : fSt), Rel σ' z0 1 → ∀ (pc : Nat) (L : List Value), decode cX0_init pc = .ok (.return_, 1) → V X (wF d σ') L pc []) : V X (wF d z0) [.ref (d 19)] 106 [] := by
  have lp : ∀ (n i : Nat) (g : Nat → Int32), i ≤ 16 → 16 - i < n → (∀ j, j < i → g j = 1) → V X (wF d (sf z0 0 g)) [.ref (d 19), .int (nI i)] 108 [] := by
    intro n
    induction n with
    | zero => intro i g _ h; exact absurd h (Nat.not_lt_zero _)
    | succ n ih =>
      intro i g hi hn I
      refine V_iln hX 1 dX0_init_108 rfl rfl ?_
      refine V_bipush hX (v := nI 16) dX0_init_109 (by decide +kernel) ?_
      refine V_ic_geN hX (tgt := 127) dX0_init_111 (by decide) (by omega) (by omega) (fun c111 => ?_) (fun c111 => ?_)
      · have e8 : i = 16 := by omega
        subst e8
        have hcl : ∀ e, e < 16 → ¬ sf z0 0 g 0 e = 0 := fun e he => by show ¬ g e = 0; rw [I e he]; decide
        refine V_aln hX 0 dX0_init_127 rfl rfl ?_
        refine V_callv (n := 0) hX (c_attach d (sf z0 0 g) (fun e he l => absurd l.2 (hcl e he)) (fun e he l => absurd l.2 (hcl e he)) (fun e e' he _ l => absurd l.2 (hcl e he))) rfl rfl rfl (lw_V q30 q32 qs0 q20 q33) rfl rfl (by decide +kernel) ⟨Nat.le_of_ble_eq_true rfl, Nat.le_of_ble_eq_true rfl⟩ rfl rfl (Nat.le_of_ble_eq_true rfl) dX0_init_128 (fun s128 h128 => ?_)
        obtain ⟨nn, hm, rfl, hat⟩ := h128
        exact hR _ (clean_att hcl rfl rfl rfl hat) _ _ dX0_init_131
      · refine V_aln hX 0 dX0_init_114 rfl rfl ?_
        refine F_get hX 0 (by decide) q38 rfl dX0_init_115 ?_
        refine V_iln hX 1 dX0_init_118 rfl rfl ?_
        refine V_iconst hX (v := 1) dX0_init_119 (by decide +kernel) ?_
        refine F_zst hX rfl (by first | assumption | omega) (by decide +kernel) dX0_init_120 ?_
        refine V_w (w' := wF d (sf z0 0 (upd g i 1))) (by rw [sf_sf]; rfl) ?_
        refine V_inc hX dX0_init_121 (Nat.le_of_ble_eq_true rfl) rfl (nI_inc _) ?_
        dsimp only [lput]
        refine V_goto hX (tgt := 108) dX0_init_124 (by decide) ?_
        refine ih (i + 1) (upd g i 1) (by omega) (by omega) (fun j hj => ?_)
        by_cases q : j = i
        · rw [q, pk_us]
        · rw [pk_un q]; exact I j (by omega)
  refine V_iconst hX (v := 0) dX0_init_106 (by decide +kernel) ?_
  refine V_isn hX 1 dX0_init_107 rfl (Nat.le_of_ble_eq_true rfl) (Nat.le_of_ble_eq_true rfl) ?_
  dsimp only [lput]
  refine V_w (w' := wF d (sf z0 0 (z0 0))) (by rw [sf_self]) ?_
  exact lp 17 0 (z0 0) (by omega) (by omega) (fun j hj => absurd hj (Nat.not_lt_zero _))
set_option maxHeartbeats 8000000 in
theorem c_init (l : Launch) (dC : Nat → ClassId) (dI : Nat → Nat → Nat) (h0 sz : Nat) : Met l yX0_init (ws_ yX0_init cX0_init 2 none) rmI (va_Pc [.ref h0] (fun U => U.heap.size = sz ∧ va_P (dC, dI) vwCl [(h0, .inr (0, fsF0))] U.heap ∧ va_K (dC, dI) vwCl [] U ∧ va_D (fun _ => True) [(h0, .inr (0, fsF0))])) (va_Qv (fun u : (Nat → Nat) × fSt => u.1 19 = h0 ∧ Rel u.2 z0 1) (fun u t => va_P (dC, dI) vwCl (wF u.1 u.2) t.heap ∧ va_K (dC, dI) vwCl (tF u.1) t ∧ va_D (va_A [(h0, .inr (0, fsF0))] sz) (wF u.1 u.2)) (va_A [(h0, .inr (0, fsF0))] sz)) 13 224 (va_A [(h0, .inr (0, fsF0))] sz) := by
  refine Met.ofW (cc := cX0_init) (maxL := 2) (ret := none) (by decide +kernel) rfl ?_
  intro p e s m args below meth c s₁ B hml hv
  obtain ⟨rfl, hsz, hP, hK, hD0⟩ := hv
  have hx := B.exec
  have hb := B.bytes
  have hr := B.returns
  have hts := atoms_spec (ws := ws_ yX0_init cX0_init 2 none) B.pre
  have hts : ∀ w ∈ lw_all, w.before _ s = true := fun w h => hts w (List.mem_cons_of_mem _ h)
  have hown : s.vm.findClass RX0 = some m.cls := findClass_of_methodNamed B.named
  have hlocks := B.notSynchronized
  have hin : meth.name = "<init>" := (name_of_methodNamed B.named B.method).1
  subst hsz
  have hD := hD0.self (sz := s.heap.size)
  generalize hAe : va_A [(h0, .inr (0, fsF0))] s.heap.size = A at hD ⊢
  have hA : ∀ q : Nat, s.heap.size ≤ q → A q := fun q h => by rw [← hAe]; exact Or.inr h
  have hS : va_S A s.heap s.heap [] := va_S.rf
  have hl := lv_entry ([.ref h0]) (n := 2) (Nat.le_of_ble_eq_true rfl)
  rw [lg_entry_eq]
  generalize (lg_sl ([.ref h0]) ++ List.replicate (2 - (lg_sl ([.ref h0])).length) Slot.unset).toArray = ls at hl ⊢
  have hl1 : lh ls c.maxLocals [.ref h0] := by
    rw [hml]
    exact lh.entry (by simp [Value.category]) hl
  have h00 : ls[0]? = some (.val (.ref h0)) := hl1.2.2.2 0 _ rfl
  refine lv_aload_n hx hb dX0_init_0 rfl h00 ?_
  refine W.objInit hx hb hown (hts _ q27) (hts _ q28) (hts _ q29) rfl (by rw [hml]; exact hl.1) rfl dX0_init_1 (Nat.le_of_ble_eq_true rfl) (Nat.le_of_ble_eq_true rfl) ?_
  refine W.eq (g2 := F0 m 4 ls []) rfl ?_
  refine lv_aload_n hx hb dX0_init_4 rfl h00 ?_
  refine lv_bipush (v := nI 16) hx hb dX0_init_5 (by decide +kernel) ?_
  refine va_newa (atype := .boolean) (a0 := (16, .inl (fun _ => 0))) (N' := 16) (ty := .boolean) hx hb (hts _ q96) rfl hK hP hD hS hA (fun _ => rfl) (by decide +kernel) (by decide +kernel) (by decide +kernel) (Nat.le_of_ble_eq_true rfl) (Nat.le_of_ble_eq_true rfl) dX0_init_7 (fun a0 t0 H hK hP hD hS => ?_)
  refine W.widen (k := 1) (n := 16) (by omega) (by first | omega | (dsimp only; omega)) ?_
  have hP : va_P (dC, dI) vwCl [(h0, .inr (0, [.null, .null, .null, .null, .null, .null, .null, .null, .null, .null, .int 0, .int 0, .null, .int 0, .int 0, .null, .null, .int 0, .int 0])), (a0, .inl (t0, 16, .inl (fun _ => 0)))] H := hP
  have hD : va_D A [(h0, .inr (0, [.null, .null, .null, .null, .null, .null, .null, .null, .null, .null, .int 0, .int 0, .null, .int 0, .int 0, .null, .null, .int 0, .int 0])), (a0, .inl (t0, 16, .inl (fun _ => 0)))] := hD
  have hK : va_K (dC, dI) vwCl [(t0, .boolean)] s := hK
  refine va_putF (D := (dC, dI)) (ci := 0) (v := .ref a0) (ty := .array .boolean) (C := RX0) (T := TX0) (N := 19) hx hb hts in_X0 tyX0 tyX0_ok nmX0 hown hK hP hD hS 0 rfl rfl 0 (by decide) (hts _ q38) (fun _ h9 => h9) rfl hin rfl (by decide +kernel) rfl rfl (Nat.le_of_ble_eq_true rfl) dX0_init_9 (fun H locs hP hD hS => ?_)
  have hP : va_P (dC, dI) vwCl [(h0, .inr (0, [.ref a0, .null, .null, .null, .null, .null, .null, .null, .null, .null, .int 0, .int 0, .null, .int 0, .int 0, .null, .null, .int 0, .int 0])), (a0, .inl (t0, 16, .inl (fun _ => 0)))] H := hP
  have hD : va_D A [(h0, .inr (0, [.ref a0, .null, .null, .null, .null, .null, .null, .null, .null, .null, .int 0, .int 0, .null, .int 0, .int 0, .null, .null, .int 0, .int 0])), (a0, .inl (t0, 16, .inl (fun _ => 0)))] := hD
  refine lv_aload_n hx hb dX0_init_12 rfl h00 ?_
  refine lv_bipush (v := nI 16) hx hb dX0_init_13 (by decide +kernel) ?_
  refine va_newa (atype := .boolean) (a0 := (16, .inl (fun _ => 0))) (N' := 16) (ty := .boolean) hx hb (hts _ q96) rfl hK hP hD hS hA (fun _ => rfl) (by decide +kernel) (by decide +kernel) (by decide +kernel) (Nat.le_of_ble_eq_true rfl) (Nat.le_of_ble_eq_true rfl) dX0_init_15 (fun a1 t1 H hK hP hD hS => ?_)
  refine W.widen (k := 2) (n := 32) (by omega) (by first | omega | (dsimp only; omega)) ?_
  have hP : va_P (dC, dI) vwCl [(h0, .inr (0, [.ref a0, .null, .null, .null, .null, .null, .null, .null, .null, .null, .int 0, .int 0, .null, .int 0, .int 0, .null, .null, .int 0, .int 0])), (a0, .inl (t0, 16, .inl (fun _ => 0))), (a1, .inl (t1, 16, .inl (fun _ => 0)))] H := hP
  have hD : va_D A [(h0, .inr (0, [.ref a0, .null, .null, .null, .null, .null, .null, .null, .null, .null, .int 0, .int 0, .null, .int 0, .int 0, .null, .null, .int 0, .int 0])), (a0, .inl (t0, 16, .inl (fun _ => 0))), (a1, .inl (t1, 16, .inl (fun _ => 0)))] := hD
  have hK : va_K (dC, dI) vwCl [(t0, .boolean), (t1, .boolean)] s := hK
  refine va_putF (D := (dC, dI)) (ci := 0) (v := .ref a1) (ty := .array .boolean) (C := RX0) (T := TX0) (N := 19) hx hb hts in_X0 tyX0 tyX0_ok nmX0 hown hK hP hD hS 0 rfl rfl 1 (by decide) (hts _ q39) (fun _ h9 => h9) rfl hin rfl (by decide +kernel) rfl rfl (Nat.le_of_ble_eq_true rfl) dX0_init_17 (fun H locs hP hD hS => ?_)
  have hP : va_P (dC, dI) vwCl [(h0, .inr (0, [.ref a0, .ref a1, .null, .null, .null, .null, .null, .null, .null, .null, .int 0, .int 0, .null, .int 0, .int 0, .null, .null, .int 0, .int 0])), (a0, .inl (t0, 16, .inl (fun _ => 0))), (a1, .inl (t1, 16, .inl (fun _ => 0)))] H := hP
  have hD : va_D A [(h0, .inr (0, [.ref a0, .ref a1, .null, .null, .null, .null, .null, .null, .null, .null, .int 0, .int 0, .null, .int 0, .int 0, .null, .null, .int 0, .int 0])), (a0, .inl (t0, 16, .inl (fun _ => 0))), (a1, .inl (t1, 16, .inl (fun _ => 0)))] := hD
  refine lv_aload_n hx hb dX0_init_20 rfl h00 ?_
  refine lv_bipush (v := nI 16) hx hb dX0_init_21 (by decide +kernel) ?_
  refine va_newa (atype := .int) (a0 := (16, .inl (fun _ => 0))) (N' := 16) (ty := .int) hx hb (hts _ q97) rfl hK hP hD hS hA (fun _ => rfl) (by decide +kernel) (by decide +kernel) (by decide +kernel) (Nat.le_of_ble_eq_true rfl) (Nat.le_of_ble_eq_true rfl) dX0_init_23 (fun a2 t2 H hK hP hD hS => ?_)
  refine W.widen (k := 3) (n := 48) (by omega) (by first | omega | (dsimp only; omega)) ?_
  have hP : va_P (dC, dI) vwCl [(h0, .inr (0, [.ref a0, .ref a1, .null, .null, .null, .null, .null, .null, .null, .null, .int 0, .int 0, .null, .int 0, .int 0, .null, .null, .int 0, .int 0])), (a0, .inl (t0, 16, .inl (fun _ => 0))), (a1, .inl (t1, 16, .inl (fun _ => 0))), (a2, .inl (t2, 16, .inl (fun _ => 0)))] H := hP
  have hD : va_D A [(h0, .inr (0, [.ref a0, .ref a1, .null, .null, .null, .null, .null, .null, .null, .null, .int 0, .int 0, .null, .int 0, .int 0, .null, .null, .int 0, .int 0])), (a0, .inl (t0, 16, .inl (fun _ => 0))), (a1, .inl (t1, 16, .inl (fun _ => 0))), (a2, .inl (t2, 16, .inl (fun _ => 0)))] := hD
  have hK : va_K (dC, dI) vwCl [(t0, .boolean), (t1, .boolean), (t2, .int)] s := hK
  refine va_putF (D := (dC, dI)) (ci := 0) (v := .ref a2) (ty := .array .int) (C := RX0) (T := TX0) (N := 19) hx hb hts in_X0 tyX0 tyX0_ok nmX0 hown hK hP hD hS 0 rfl rfl 2 (by decide) (hts _ q40) (fun _ h9 => h9) rfl hin rfl (by decide +kernel) rfl rfl (Nat.le_of_ble_eq_true rfl) dX0_init_25 (fun H locs hP hD hS => ?_)
  have hP : va_P (dC, dI) vwCl [(h0, .inr (0, [.ref a0, .ref a1, .ref a2, .null, .null, .null, .null, .null, .null, .null, .int 0, .int 0, .null, .int 0, .int 0, .null, .null, .int 0, .int 0])), (a0, .inl (t0, 16, .inl (fun _ => 0))), (a1, .inl (t1, 16, .inl (fun _ => 0))), (a2, .inl (t2, 16, .inl (fun _ => 0)))] H := hP
  have hD : va_D A [(h0, .inr (0, [.ref a0, .ref a1, .ref a2, .null, .null, .null, .null, .null, .null, .null, .int 0, .int 0, .null, .int 0, .int 0, .null, .null, .int 0, .int 0])), (a0, .inl (t0, 16, .inl (fun _ => 0))), (a1, .inl (t1, 16, .inl (fun _ => 0))), (a2, .inl (t2, 16, .inl (fun _ => 0)))] := hD
  refine lv_aload_n hx hb dX0_init_28 rfl h00 ?_
  refine lv_bipush (v := nI 16) hx hb dX0_init_29 (by decide +kernel) ?_
  refine va_newa (atype := .int) (a0 := (16, .inl (fun _ => 0))) (N' := 16) (ty := .int) hx hb (hts _ q97) rfl hK hP hD hS hA (fun _ => rfl) (by decide +kernel) (by decide +kernel) (by decide +kernel) (Nat.le_of_ble_eq_true rfl) (Nat.le_of_ble_eq_true rfl) dX0_init_31 (fun a3 t3 H hK hP hD hS => ?_)
  refine W.widen (k := 4) (n := 64) (by omega) (by first | omega | (dsimp only; omega)) ?_
  have hP : va_P (dC, dI) vwCl [(h0, .inr (0, [.ref a0, .ref a1, .ref a2, .null, .null, .null, .null, .null, .null, .null, .int 0, .int 0, .null, .int 0, .int 0, .null, .null, .int 0, .int 0])), (a0, .inl (t0, 16, .inl (fun _ => 0))), (a1, .inl (t1, 16, .inl (fun _ => 0))), (a2, .inl (t2, 16, .inl (fun _ => 0))), (a3, .inl (t3, 16, .inl (fun _ => 0)))] H := hP
  have hD : va_D A [(h0, .inr (0, [.ref a0, .ref a1, .ref a2, .null, .null, .null, .null, .null, .null, .null, .int 0, .int 0, .null, .int 0, .int 0, .null, .null, .int 0, .int 0])), (a0, .inl (t0, 16, .inl (fun _ => 0))), (a1, .inl (t1, 16, .inl (fun _ => 0))), (a2, .inl (t2, 16, .inl (fun _ => 0))), (a3, .inl (t3, 16, .inl (fun _ => 0)))] := hD
  have hK : va_K (dC, dI) vwCl [(t0, .boolean), (t1, .boolean), (t2, .int), (t3, .int)] s := hK
  refine va_putF (D := (dC, dI)) (ci := 0) (v := .ref a3) (ty := .array .int) (C := RX0) (T := TX0) (N := 19) hx hb hts in_X0 tyX0 tyX0_ok nmX0 hown hK hP hD hS 0 rfl rfl 3 (by decide) (hts _ q41) (fun _ h9 => h9) rfl hin rfl (by decide +kernel) rfl rfl (Nat.le_of_ble_eq_true rfl) dX0_init_33 (fun H locs hP hD hS => ?_)
  have hP : va_P (dC, dI) vwCl [(h0, .inr (0, [.ref a0, .ref a1, .ref a2, .ref a3, .null, .null, .null, .null, .null, .null, .int 0, .int 0, .null, .int 0, .int 0, .null, .null, .int 0, .int 0])), (a0, .inl (t0, 16, .inl (fun _ => 0))), (a1, .inl (t1, 16, .inl (fun _ => 0))), (a2, .inl (t2, 16, .inl (fun _ => 0))), (a3, .inl (t3, 16, .inl (fun _ => 0)))] H := hP
  have hD : va_D A [(h0, .inr (0, [.ref a0, .ref a1, .ref a2, .ref a3, .null, .null, .null, .null, .null, .null, .int 0, .int 0, .null, .int 0, .int 0, .null, .null, .int 0, .int 0])), (a0, .inl (t0, 16, .inl (fun _ => 0))), (a1, .inl (t1, 16, .inl (fun _ => 0))), (a2, .inl (t2, 16, .inl (fun _ => 0))), (a3, .inl (t3, 16, .inl (fun _ => 0)))] := hD
  refine lv_aload_n hx hb dX0_init_36 rfl h00 ?_
  refine lv_bipush (v := nI 16) hx hb dX0_init_37 (by decide +kernel) ?_
  refine va_newa (atype := .int) (a0 := (16, .inl (fun _ => 0))) (N' := 16) (ty := .int) hx hb (hts _ q97) rfl hK hP hD hS hA (fun _ => rfl) (by decide +kernel) (by decide +kernel) (by decide +kernel) (Nat.le_of_ble_eq_true rfl) (Nat.le_of_ble_eq_true rfl) dX0_init_39 (fun a4 t4 H hK hP hD hS => ?_)
  refine W.widen (k := 5) (n := 80) (by omega) (by first | omega | (dsimp only; omega)) ?_
  have hP : va_P (dC, dI) vwCl [(h0, .inr (0, [.ref a0, .ref a1, .ref a2, .ref a3, .null, .null, .null, .null, .null, .null, .int 0, .int 0, .null, .int 0, .int 0, .null, .null, .int 0, .int 0])), (a0, .inl (t0, 16, .inl (fun _ => 0))), (a1, .inl (t1, 16, .inl (fun _ => 0))), (a2, .inl (t2, 16, .inl (fun _ => 0))), (a3, .inl (t3, 16, .inl (fun _ => 0))), (a4, .inl (t4, 16, .inl (fun _ => 0)))] H := hP
  have hD : va_D A [(h0, .inr (0, [.ref a0, .ref a1, .ref a2, .ref a3, .null, .null, .null, .null, .null, .null, .int 0, .int 0, .null, .int 0, .int 0, .null, .null, .int 0, .int 0])), (a0, .inl (t0, 16, .inl (fun _ => 0))), (a1, .inl (t1, 16, .inl (fun _ => 0))), (a2, .inl (t2, 16, .inl (fun _ => 0))), (a3, .inl (t3, 16, .inl (fun _ => 0))), (a4, .inl (t4, 16, .inl (fun _ => 0)))] := hD
  have hK : va_K (dC, dI) vwCl [(t0, .boolean), (t1, .boolean), (t2, .int), (t3, .int), (t4, .int)] s := hK
  refine va_putF (D := (dC, dI)) (ci := 0) (v := .ref a4) (ty := .array .int) (C := RX0) (T := TX0) (N := 19) hx hb hts in_X0 tyX0 tyX0_ok nmX0 hown hK hP hD hS 0 rfl rfl 4 (by decide) (hts _ q42) (fun _ h9 => h9) rfl hin rfl (by decide +kernel) rfl rfl (Nat.le_of_ble_eq_true rfl) dX0_init_41 (fun H locs hP hD hS => ?_)
  have hP : va_P (dC, dI) vwCl [(h0, .inr (0, [.ref a0, .ref a1, .ref a2, .ref a3, .ref a4, .null, .null, .null, .null, .null, .int 0, .int 0, .null, .int 0, .int 0, .null, .null, .int 0, .int 0])), (a0, .inl (t0, 16, .inl (fun _ => 0))), (a1, .inl (t1, 16, .inl (fun _ => 0))), (a2, .inl (t2, 16, .inl (fun _ => 0))), (a3, .inl (t3, 16, .inl (fun _ => 0))), (a4, .inl (t4, 16, .inl (fun _ => 0)))] H := hP
  have hD : va_D A [(h0, .inr (0, [.ref a0, .ref a1, .ref a2, .ref a3, .ref a4, .null, .null, .null, .null, .null, .int 0, .int 0, .null, .int 0, .int 0, .null, .null, .int 0, .int 0])), (a0, .inl (t0, 16, .inl (fun _ => 0))), (a1, .inl (t1, 16, .inl (fun _ => 0))), (a2, .inl (t2, 16, .inl (fun _ => 0))), (a3, .inl (t3, 16, .inl (fun _ => 0))), (a4, .inl (t4, 16, .inl (fun _ => 0)))] := hD
  refine lv_aload_n hx hb dX0_init_44 rfl h00 ?_
  refine lv_bipush (v := nI 16) hx hb dX0_init_45 (by decide +kernel) ?_
  refine va_newa (atype := .boolean) (a0 := (16, .inl (fun _ => 0))) (N' := 16) (ty := .boolean) hx hb (hts _ q96) rfl hK hP hD hS hA (fun _ => rfl) (by decide +kernel) (by decide +kernel) (by decide +kernel) (Nat.le_of_ble_eq_true rfl) (Nat.le_of_ble_eq_true rfl) dX0_init_47 (fun a5 t5 H hK hP hD hS => ?_)
  refine W.widen (k := 6) (n := 96) (by omega) (by first | omega | (dsimp only; omega)) ?_
  have hP : va_P (dC, dI) vwCl [(h0, .inr (0, [.ref a0, .ref a1, .ref a2, .ref a3, .ref a4, .null, .null, .null, .null, .null, .int 0, .int 0, .null, .int 0, .int 0, .null, .null, .int 0, .int 0])), (a0, .inl (t0, 16, .inl (fun _ => 0))), (a1, .inl (t1, 16, .inl (fun _ => 0))), (a2, .inl (t2, 16, .inl (fun _ => 0))), (a3, .inl (t3, 16, .inl (fun _ => 0))), (a4, .inl (t4, 16, .inl (fun _ => 0))), (a5, .inl (t5, 16, .inl (fun _ => 0)))] H := hP
  have hD : va_D A [(h0, .inr (0, [.ref a0, .ref a1, .ref a2, .ref a3, .ref a4, .null, .null, .null, .null, .null, .int 0, .int 0, .null, .int 0, .int 0, .null, .null, .int 0, .int 0])), (a0, .inl (t0, 16, .inl (fun _ => 0))), (a1, .inl (t1, 16, .inl (fun _ => 0))), (a2, .inl (t2, 16, .inl (fun _ => 0))), (a3, .inl (t3, 16, .inl (fun _ => 0))), (a4, .inl (t4, 16, .inl (fun _ => 0))), (a5, .inl (t5, 16, .inl (fun _ => 0)))] := hD
  have hK : va_K (dC, dI) vwCl [(t0, .boolean), (t1, .boolean), (t2, .int), (t3, .int), (t4, .int), (t5, .boolean)] s := hK
  refine va_putF (D := (dC, dI)) (ci := 0) (v := .ref a5) (ty := .array .boolean) (C := RX0) (T := TX0) (N := 19) hx hb hts in_X0 tyX0 tyX0_ok nmX0 hown hK hP hD hS 0 rfl rfl 5 (by decide) (hts _ q43) (fun _ h9 => h9) rfl hin rfl (by decide +kernel) rfl rfl (Nat.le_of_ble_eq_true rfl) dX0_init_49 (fun H locs hP hD hS => ?_)
  have hP : va_P (dC, dI) vwCl [(h0, .inr (0, [.ref a0, .ref a1, .ref a2, .ref a3, .ref a4, .ref a5, .null, .null, .null, .null, .int 0, .int 0, .null, .int 0, .int 0, .null, .null, .int 0, .int 0])), (a0, .inl (t0, 16, .inl (fun _ => 0))), (a1, .inl (t1, 16, .inl (fun _ => 0))), (a2, .inl (t2, 16, .inl (fun _ => 0))), (a3, .inl (t3, 16, .inl (fun _ => 0))), (a4, .inl (t4, 16, .inl (fun _ => 0))), (a5, .inl (t5, 16, .inl (fun _ => 0)))] H := hP
  have hD : va_D A [(h0, .inr (0, [.ref a0, .ref a1, .ref a2, .ref a3, .ref a4, .ref a5, .null, .null, .null, .null, .int 0, .int 0, .null, .int 0, .int 0, .null, .null, .int 0, .int 0])), (a0, .inl (t0, 16, .inl (fun _ => 0))), (a1, .inl (t1, 16, .inl (fun _ => 0))), (a2, .inl (t2, 16, .inl (fun _ => 0))), (a3, .inl (t3, 16, .inl (fun _ => 0))), (a4, .inl (t4, 16, .inl (fun _ => 0))), (a5, .inl (t5, 16, .inl (fun _ => 0)))] := hD
  refine lv_aload_n hx hb dX0_init_52 rfl h00 ?_
  refine lv_bipush (v := nI 16) hx hb dX0_init_53 (by decide +kernel) ?_
  refine va_newa (atype := .boolean) (a0 := (16, .inl (fun _ => 0))) (N' := 16) (ty := .boolean) hx hb (hts _ q96) rfl hK hP hD hS hA (fun _ => rfl) (by decide +kernel) (by decide +kernel) (by decide +kernel) (Nat.le_of_ble_eq_true rfl) (Nat.le_of_ble_eq_true rfl) dX0_init_55 (fun a6 t6 H hK hP hD hS => ?_)
  refine W.widen (k := 7) (n := 112) (by omega) (by first | omega | (dsimp only; omega)) ?_
  have hP : va_P (dC, dI) vwCl [(h0, .inr (0, [.ref a0, .ref a1, .ref a2, .ref a3, .ref a4, .ref a5, .null, .null, .null, .null, .int 0, .int 0, .null, .int 0, .int 0, .null, .null, .int 0, .int 0])), (a0, .inl (t0, 16, .inl (fun _ => 0))), (a1, .inl (t1, 16, .inl (fun _ => 0))), (a2, .inl (t2, 16, .inl (fun _ => 0))), (a3, .inl (t3, 16, .inl (fun _ => 0))), (a4, .inl (t4, 16, .inl (fun _ => 0))), (a5, .inl (t5, 16, .inl (fun _ => 0))), (a6, .inl (t6, 16, .inl (fun _ => 0)))] H := hP
  have hD : va_D A [(h0, .inr (0, [.ref a0, .ref a1, .ref a2, .ref a3, .ref a4, .ref a5, .null, .null, .null, .null, .int 0, .int 0, .null, .int 0, .int 0, .null, .null, .int 0, .int 0])), (a0, .inl (t0, 16, .inl (fun _ => 0))), (a1, .inl (t1, 16, .inl (fun _ => 0))), (a2, .inl (t2, 16, .inl (fun _ => 0))), (a3, .inl (t3, 16, .inl (fun _ => 0))), (a4, .inl (t4, 16, .inl (fun _ => 0))), (a5, .inl (t5, 16, .inl (fun _ => 0))), (a6, .inl (t6, 16, .inl (fun _ => 0)))] := hD
  have hK : va_K (dC, dI) vwCl [(t0, .boolean), (t1, .boolean), (t2, .int), (t3, .int), (t4, .int), (t5, .boolean), (t6, .boolean)] s := hK
  refine va_putF (D := (dC, dI)) (ci := 0) (v := .ref a6) (ty := .array .boolean) (C := RX0) (T := TX0) (N := 19) hx hb hts in_X0 tyX0 tyX0_ok nmX0 hown hK hP hD hS 0 rfl rfl 6 (by decide) (hts _ q44) (fun _ h9 => h9) rfl hin rfl (by decide +kernel) rfl rfl (Nat.le_of_ble_eq_true rfl) dX0_init_57 (fun H locs hP hD hS => ?_)
  have hP : va_P (dC, dI) vwCl [(h0, .inr (0, [.ref a0, .ref a1, .ref a2, .ref a3, .ref a4, .ref a5, .ref a6, .null, .null, .null, .int 0, .int 0, .null, .int 0, .int 0, .null, .null, .int 0, .int 0])), (a0, .inl (t0, 16, .inl (fun _ => 0))), (a1, .inl (t1, 16, .inl (fun _ => 0))), (a2, .inl (t2, 16, .inl (fun _ => 0))), (a3, .inl (t3, 16, .inl (fun _ => 0))), (a4, .inl (t4, 16, .inl (fun _ => 0))), (a5, .inl (t5, 16, .inl (fun _ => 0))), (a6, .inl (t6, 16, .inl (fun _ => 0)))] H := hP
  have hD : va_D A [(h0, .inr (0, [.ref a0, .ref a1, .ref a2, .ref a3, .ref a4, .ref a5, .ref a6, .null, .null, .null, .int 0, .int 0, .null, .int 0, .int 0, .null, .null, .int 0, .int 0])), (a0, .inl (t0, 16, .inl (fun _ => 0))), (a1, .inl (t1, 16, .inl (fun _ => 0))), (a2, .inl (t2, 16, .inl (fun _ => 0))), (a3, .inl (t3, 16, .inl (fun _ => 0))), (a4, .inl (t4, 16, .inl (fun _ => 0))), (a5, .inl (t5, 16, .inl (fun _ => 0))), (a6, .inl (t6, 16, .inl (fun _ => 0)))] := hD
  refine lv_aload_n hx hb dX0_init_60 rfl h00 ?_
  refine lv_bipush (v := nI 16) hx hb dX0_init_61 (by decide +kernel) ?_
  refine va_newa (atype := .boolean) (a0 := (16, .inl (fun _ => 0))) (N' := 16) (ty := .boolean) hx hb (hts _ q96) rfl hK hP hD hS hA (fun _ => rfl) (by decide +kernel) (by decide +kernel) (by decide +kernel) (Nat.le_of_ble_eq_true rfl) (Nat.le_of_ble_eq_true rfl) dX0_init_63 (fun a7 t7 H hK hP hD hS => ?_)
  refine W.widen (k := 8) (n := 128) (by omega) (by first | omega | (dsimp only; omega)) ?_
  have hP : va_P (dC, dI) vwCl [(h0, .inr (0, [.ref a0, .ref a1, .ref a2, .ref a3, .ref a4, .ref a5, .ref a6, .null, .null, .null, .int 0, .int 0, .null, .int 0, .int 0, .null, .null, .int 0, .int 0])), (a0, .inl (t0, 16, .inl (fun _ => 0))), (a1, .inl (t1, 16, .inl (fun _ => 0))), (a2, .inl (t2, 16, .inl (fun _ => 0))), (a3, .inl (t3, 16, .inl (fun _ => 0))), (a4, .inl (t4, 16, .inl (fun _ => 0))), (a5, .inl (t5, 16, .inl (fun _ => 0))), (a6, .inl (t6, 16, .inl (fun _ => 0))), (a7, .inl (t7, 16, .inl (fun _ => 0)))] H := hP
  have hD : va_D A [(h0, .inr (0, [.ref a0, .ref a1, .ref a2, .ref a3, .ref a4, .ref a5, .ref a6, .null, .null, .null, .int 0, .int 0, .null, .int 0, .int 0, .null, .null, .int 0, .int 0])), (a0, .inl (t0, 16, .inl (fun _ => 0))), (a1, .inl (t1, 16, .inl (fun _ => 0))), (a2, .inl (t2, 16, .inl (fun _ => 0))), (a3, .inl (t3, 16, .inl (fun _ => 0))), (a4, .inl (t4, 16, .inl (fun _ => 0))), (a5, .inl (t5, 16, .inl (fun _ => 0))), (a6, .inl (t6, 16, .inl (fun _ => 0))), (a7, .inl (t7, 16, .inl (fun _ => 0)))] := hD
  have hK : va_K (dC, dI) vwCl [(t0, .boolean), (t1, .boolean), (t2, .int), (t3, .int), (t4, .int), (t5, .boolean), (t6, .boolean), (t7, .boolean)] s := hK
  refine va_putF (D := (dC, dI)) (ci := 0) (v := .ref a7) (ty := .array .boolean) (C := RX0) (T := TX0) (N := 19) hx hb hts in_X0 tyX0 tyX0_ok nmX0 hown hK hP hD hS 0 rfl rfl 7 (by decide) (hts _ q45) (fun _ h9 => h9) rfl hin rfl (by decide +kernel) rfl rfl (Nat.le_of_ble_eq_true rfl) dX0_init_65 (fun H locs hP hD hS => ?_)
  have hP : va_P (dC, dI) vwCl [(h0, .inr (0, [.ref a0, .ref a1, .ref a2, .ref a3, .ref a4, .ref a5, .ref a6, .ref a7, .null, .null, .int 0, .int 0, .null, .int 0, .int 0, .null, .null, .int 0, .int 0])), (a0, .inl (t0, 16, .inl (fun _ => 0))), (a1, .inl (t1, 16, .inl (fun _ => 0))), (a2, .inl (t2, 16, .inl (fun _ => 0))), (a3, .inl (t3, 16, .inl (fun _ => 0))), (a4, .inl (t4, 16, .inl (fun _ => 0))), (a5, .inl (t5, 16, .inl (fun _ => 0))), (a6, .inl (t6, 16, .inl (fun _ => 0))), (a7, .inl (t7, 16, .inl (fun _ => 0)))] H := hP
  have hD : va_D A [(h0, .inr (0, [.ref a0, .ref a1, .ref a2, .ref a3, .ref a4, .ref a5, .ref a6, .ref a7, .null, .null, .int 0, .int 0, .null, .int 0, .int 0, .null, .null, .int 0, .int 0])), (a0, .inl (t0, 16, .inl (fun _ => 0))), (a1, .inl (t1, 16, .inl (fun _ => 0))), (a2, .inl (t2, 16, .inl (fun _ => 0))), (a3, .inl (t3, 16, .inl (fun _ => 0))), (a4, .inl (t4, 16, .inl (fun _ => 0))), (a5, .inl (t5, 16, .inl (fun _ => 0))), (a6, .inl (t6, 16, .inl (fun _ => 0))), (a7, .inl (t7, 16, .inl (fun _ => 0)))] := hD
  refine lv_aload_n hx hb dX0_init_68 rfl h00 ?_
  refine lv_bipush (v := nI 16) hx hb dX0_init_69 (by decide +kernel) ?_
  refine va_newa (atype := .int) (a0 := (16, .inl (fun _ => 0))) (N' := 16) (ty := .int) hx hb (hts _ q97) rfl hK hP hD hS hA (fun _ => rfl) (by decide +kernel) (by decide +kernel) (by decide +kernel) (Nat.le_of_ble_eq_true rfl) (Nat.le_of_ble_eq_true rfl) dX0_init_71 (fun a8 t8 H hK hP hD hS => ?_)
  refine W.widen (k := 9) (n := 144) (by omega) (by first | omega | (dsimp only; omega)) ?_
  have hP : va_P (dC, dI) vwCl [(h0, .inr (0, [.ref a0, .ref a1, .ref a2, .ref a3, .ref a4, .ref a5, .ref a6, .ref a7, .null, .null, .int 0, .int 0, .null, .int 0, .int 0, .null, .null, .int 0, .int 0])), (a0, .inl (t0, 16, .inl (fun _ => 0))), (a1, .inl (t1, 16, .inl (fun _ => 0))), (a2, .inl (t2, 16, .inl (fun _ => 0))), (a3, .inl (t3, 16, .inl (fun _ => 0))), (a4, .inl (t4, 16, .inl (fun _ => 0))), (a5, .inl (t5, 16, .inl (fun _ => 0))), (a6, .inl (t6, 16, .inl (fun _ => 0))), (a7, .inl (t7, 16, .inl (fun _ => 0))), (a8, .inl (t8, 16, .inl (fun _ => 0)))] H := hP
  have hD : va_D A [(h0, .inr (0, [.ref a0, .ref a1, .ref a2, .ref a3, .ref a4, .ref a5, .ref a6, .ref a7, .null, .null, .int 0, .int 0, .null, .int 0, .int 0, .null, .null, .int 0, .int 0])), (a0, .inl (t0, 16, .inl (fun _ => 0))), (a1, .inl (t1, 16, .inl (fun _ => 0))), (a2, .inl (t2, 16, .inl (fun _ => 0))), (a3, .inl (t3, 16, .inl (fun _ => 0))), (a4, .inl (t4, 16, .inl (fun _ => 0))), (a5, .inl (t5, 16, .inl (fun _ => 0))), (a6, .inl (t6, 16, .inl (fun _ => 0))), (a7, .inl (t7, 16, .inl (fun _ => 0))), (a8, .inl (t8, 16, .inl (fun _ => 0)))] := hD
  have hK : va_K (dC, dI) vwCl [(t0, .boolean), (t1, .boolean), (t2, .int), (t3, .int), (t4, .int), (t5, .boolean), (t6, .boolean), (t7, .boolean), (t8, .int)] s := hK
  refine va_putF (D := (dC, dI)) (ci := 0) (v := .ref a8) (ty := .array .int) (C := RX0) (T := TX0) (N := 19) hx hb hts in_X0 tyX0 tyX0_ok nmX0 hown hK hP hD hS 0 rfl rfl 8 (by decide) (hts _ q46) (fun _ h9 => h9) rfl hin rfl (by decide +kernel) rfl rfl (Nat.le_of_ble_eq_true rfl) dX0_init_73 (fun H locs hP hD hS => ?_)
  have hP : va_P (dC, dI) vwCl [(h0, .inr (0, [.ref a0, .ref a1, .ref a2, .ref a3, .ref a4, .ref a5, .ref a6, .ref a7, .ref a8, .null, .int 0, .int 0, .null, .int 0, .int 0, .null, .null, .int 0, .int 0])), (a0, .inl (t0, 16, .inl (fun _ => 0))), (a1, .inl (t1, 16, .inl (fun _ => 0))), (a2, .inl (t2, 16, .inl (fun _ => 0))), (a3, .inl (t3, 16, .inl (fun _ => 0))), (a4, .inl (t4, 16, .inl (fun _ => 0))), (a5, .inl (t5, 16, .inl (fun _ => 0))), (a6, .inl (t6, 16, .inl (fun _ => 0))), (a7, .inl (t7, 16, .inl (fun _ => 0))), (a8, .inl (t8, 16, .inl (fun _ => 0)))] H := hP
  have hD : va_D A [(h0, .inr (0, [.ref a0, .ref a1, .ref a2, .ref a3, .ref a4, .ref a5, .ref a6, .ref a7, .ref a8, .null, .int 0, .int 0, .null, .int 0, .int 0, .null, .null, .int 0, .int 0])), (a0, .inl (t0, 16, .inl (fun _ => 0))), (a1, .inl (t1, 16, .inl (fun _ => 0))), (a2, .inl (t2, 16, .inl (fun _ => 0))), (a3, .inl (t3, 16, .inl (fun _ => 0))), (a4, .inl (t4, 16, .inl (fun _ => 0))), (a5, .inl (t5, 16, .inl (fun _ => 0))), (a6, .inl (t6, 16, .inl (fun _ => 0))), (a7, .inl (t7, 16, .inl (fun _ => 0))), (a8, .inl (t8, 16, .inl (fun _ => 0)))] := hD
  refine lv_aload_n hx hb dX0_init_76 rfl h00 ?_
  refine lv_bipush (v := nI 64) hx hb dX0_init_77 (by decide +kernel) ?_
  refine va_newa (atype := .int) (a0 := (64, .inl (fun _ => 0))) (N' := 64) (ty := .int) hx hb (hts _ q97) rfl hK hP hD hS hA (fun _ => rfl) (by decide +kernel) (by decide +kernel) (by decide +kernel) (Nat.le_of_ble_eq_true rfl) (Nat.le_of_ble_eq_true rfl) dX0_init_79 (fun a9 t9 H hK hP hD hS => ?_)
  refine W.widen (k := 10) (n := 208) (by omega) (by first | omega | (dsimp only; omega)) ?_
  have hP : va_P (dC, dI) vwCl [(h0, .inr (0, [.ref a0, .ref a1, .ref a2, .ref a3, .ref a4, .ref a5, .ref a6, .ref a7, .ref a8, .null, .int 0, .int 0, .null, .int 0, .int 0, .null, .null, .int 0, .int 0])), (a0, .inl (t0, 16, .inl (fun _ => 0))), (a1, .inl (t1, 16, .inl (fun _ => 0))), (a2, .inl (t2, 16, .inl (fun _ => 0))), (a3, .inl (t3, 16, .inl (fun _ => 0))), (a4, .inl (t4, 16, .inl (fun _ => 0))), (a5, .inl (t5, 16, .inl (fun _ => 0))), (a6, .inl (t6, 16, .inl (fun _ => 0))), (a7, .inl (t7, 16, .inl (fun _ => 0))), (a8, .inl (t8, 16, .inl (fun _ => 0))), (a9, .inl (t9, 64, .inl (fun _ => 0)))] H := hP
  have hD : va_D A [(h0, .inr (0, [.ref a0, .ref a1, .ref a2, .ref a3, .ref a4, .ref a5, .ref a6, .ref a7, .ref a8, .null, .int 0, .int 0, .null, .int 0, .int 0, .null, .null, .int 0, .int 0])), (a0, .inl (t0, 16, .inl (fun _ => 0))), (a1, .inl (t1, 16, .inl (fun _ => 0))), (a2, .inl (t2, 16, .inl (fun _ => 0))), (a3, .inl (t3, 16, .inl (fun _ => 0))), (a4, .inl (t4, 16, .inl (fun _ => 0))), (a5, .inl (t5, 16, .inl (fun _ => 0))), (a6, .inl (t6, 16, .inl (fun _ => 0))), (a7, .inl (t7, 16, .inl (fun _ => 0))), (a8, .inl (t8, 16, .inl (fun _ => 0))), (a9, .inl (t9, 64, .inl (fun _ => 0)))] := hD
  have hK : va_K (dC, dI) vwCl [(t0, .boolean), (t1, .boolean), (t2, .int), (t3, .int), (t4, .int), (t5, .boolean), (t6, .boolean), (t7, .boolean), (t8, .int), (t9, .int)] s := hK
  refine va_putF (D := (dC, dI)) (ci := 0) (v := .ref a9) (ty := .array .int) (C := RX0) (T := TX0) (N := 19) hx hb hts in_X0 tyX0 tyX0_ok nmX0 hown hK hP hD hS 0 rfl rfl 9 (by decide) (hts _ q47) (fun _ h9 => h9) rfl hin rfl (by decide +kernel) rfl rfl (Nat.le_of_ble_eq_true rfl) dX0_init_81 (fun H locs hP hD hS => ?_)
  have hP : va_P (dC, dI) vwCl [(h0, .inr (0, [.ref a0, .ref a1, .ref a2, .ref a3, .ref a4, .ref a5, .ref a6, .ref a7, .ref a8, .ref a9, .int 0, .int 0, .null, .int 0, .int 0, .null, .null, .int 0, .int 0])), (a0, .inl (t0, 16, .inl (fun _ => 0))), (a1, .inl (t1, 16, .inl (fun _ => 0))), (a2, .inl (t2, 16, .inl (fun _ => 0))), (a3, .inl (t3, 16, .inl (fun _ => 0))), (a4, .inl (t4, 16, .inl (fun _ => 0))), (a5, .inl (t5, 16, .inl (fun _ => 0))), (a6, .inl (t6, 16, .inl (fun _ => 0))), (a7, .inl (t7, 16, .inl (fun _ => 0))), (a8, .inl (t8, 16, .inl (fun _ => 0))), (a9, .inl (t9, 64, .inl (fun _ => 0)))] H := hP
  have hD : va_D A [(h0, .inr (0, [.ref a0, .ref a1, .ref a2, .ref a3, .ref a4, .ref a5, .ref a6, .ref a7, .ref a8, .ref a9, .int 0, .int 0, .null, .int 0, .int 0, .null, .null, .int 0, .int 0])), (a0, .inl (t0, 16, .inl (fun _ => 0))), (a1, .inl (t1, 16, .inl (fun _ => 0))), (a2, .inl (t2, 16, .inl (fun _ => 0))), (a3, .inl (t3, 16, .inl (fun _ => 0))), (a4, .inl (t4, 16, .inl (fun _ => 0))), (a5, .inl (t5, 16, .inl (fun _ => 0))), (a6, .inl (t6, 16, .inl (fun _ => 0))), (a7, .inl (t7, 16, .inl (fun _ => 0))), (a8, .inl (t8, 16, .inl (fun _ => 0))), (a9, .inl (t9, 64, .inl (fun _ => 0)))] := hD
  refine lv_aload_n hx hb dX0_init_84 rfl h00 ?_
  refine lv_bipush (v := nI 8) hx hb dX0_init_85 (by decide +kernel) ?_
  refine va_newa (atype := .int) (a0 := (8, .inl (fun _ => 0))) (N' := 8) (ty := .int) hx hb (hts _ q97) rfl hK hP hD hS hA (fun _ => rfl) (by decide +kernel) (by decide +kernel) (by decide +kernel) (Nat.le_of_ble_eq_true rfl) (Nat.le_of_ble_eq_true rfl) dX0_init_87 (fun a12 t12 H hK hP hD hS => ?_)
  refine W.widen (k := 11) (n := 216) (by omega) (by first | omega | (dsimp only; omega)) ?_
  have hP : va_P (dC, dI) vwCl [(h0, .inr (0, [.ref a0, .ref a1, .ref a2, .ref a3, .ref a4, .ref a5, .ref a6, .ref a7, .ref a8, .ref a9, .int 0, .int 0, .null, .int 0, .int 0, .null, .null, .int 0, .int 0])), (a0, .inl (t0, 16, .inl (fun _ => 0))), (a1, .inl (t1, 16, .inl (fun _ => 0))), (a2, .inl (t2, 16, .inl (fun _ => 0))), (a3, .inl (t3, 16, .inl (fun _ => 0))), (a4, .inl (t4, 16, .inl (fun _ => 0))), (a5, .inl (t5, 16, .inl (fun _ => 0))), (a6, .inl (t6, 16, .inl (fun _ => 0))), (a7, .inl (t7, 16, .inl (fun _ => 0))), (a8, .inl (t8, 16, .inl (fun _ => 0))), (a9, .inl (t9, 64, .inl (fun _ => 0))), (a12, .inl (t12, 8, .inl (fun _ => 0)))] H := hP
  have hD : va_D A [(h0, .inr (0, [.ref a0, .ref a1, .ref a2, .ref a3, .ref a4, .ref a5, .ref a6, .ref a7, .ref a8, .ref a9, .int 0, .int 0, .null, .int 0, .int 0, .null, .null, .int 0, .int 0])), (a0, .inl (t0, 16, .inl (fun _ => 0))), (a1, .inl (t1, 16, .inl (fun _ => 0))), (a2, .inl (t2, 16, .inl (fun _ => 0))), (a3, .inl (t3, 16, .inl (fun _ => 0))), (a4, .inl (t4, 16, .inl (fun _ => 0))), (a5, .inl (t5, 16, .inl (fun _ => 0))), (a6, .inl (t6, 16, .inl (fun _ => 0))), (a7, .inl (t7, 16, .inl (fun _ => 0))), (a8, .inl (t8, 16, .inl (fun _ => 0))), (a9, .inl (t9, 64, .inl (fun _ => 0))), (a12, .inl (t12, 8, .inl (fun _ => 0)))] := hD
  have hK : va_K (dC, dI) vwCl [(t0, .boolean), (t1, .boolean), (t2, .int), (t3, .int), (t4, .int), (t5, .boolean), (t6, .boolean), (t7, .boolean), (t8, .int), (t9, .int), (t12, .int)] s := hK
  refine va_putF (D := (dC, dI)) (ci := 0) (v := .ref a12) (ty := .array .int) (C := RX0) (T := TX0) (N := 19) hx hb hts in_X0 tyX0 tyX0_ok nmX0 hown hK hP hD hS 0 rfl rfl 12 (by decide) (hts _ q50) (fun _ h9 => h9) rfl hin rfl (by decide +kernel) rfl rfl (Nat.le_of_ble_eq_true rfl) dX0_init_89 (fun H locs hP hD hS => ?_)
  have hP : va_P (dC, dI) vwCl [(h0, .inr (0, [.ref a0, .ref a1, .ref a2, .ref a3, .ref a4, .ref a5, .ref a6, .ref a7, .ref a8, .ref a9, .int 0, .int 0, .ref a12, .int 0, .int 0, .null, .null, .int 0, .int 0])), (a0, .inl (t0, 16, .inl (fun _ => 0))), (a1, .inl (t1, 16, .inl (fun _ => 0))), (a2, .inl (t2, 16, .inl (fun _ => 0))), (a3, .inl (t3, 16, .inl (fun _ => 0))), (a4, .inl (t4, 16, .inl (fun _ => 0))), (a5, .inl (t5, 16, .inl (fun _ => 0))), (a6, .inl (t6, 16, .inl (fun _ => 0))), (a7, .inl (t7, 16, .inl (fun _ => 0))), (a8, .inl (t8, 16, .inl (fun _ => 0))), (a9, .inl (t9, 64, .inl (fun _ => 0))), (a12, .inl (t12, 8, .inl (fun _ => 0)))] H := hP
  have hD : va_D A [(h0, .inr (0, [.ref a0, .ref a1, .ref a2, .ref a3, .ref a4, .ref a5, .ref a6, .ref a7, .ref a8, .ref a9, .int 0, .int 0, .ref a12, .int 0, .int 0, .null, .null, .int 0, .int 0])), (a0, .inl (t0, 16, .inl (fun _ => 0))), (a1, .inl (t1, 16, .inl (fun _ => 0))), (a2, .inl (t2, 16, .inl (fun _ => 0))), (a3, .inl (t3, 16, .inl (fun _ => 0))), (a4, .inl (t4, 16, .inl (fun _ => 0))), (a5, .inl (t5, 16, .inl (fun _ => 0))), (a6, .inl (t6, 16, .inl (fun _ => 0))), (a7, .inl (t7, 16, .inl (fun _ => 0))), (a8, .inl (t8, 16, .inl (fun _ => 0))), (a9, .inl (t9, 64, .inl (fun _ => 0))), (a12, .inl (t12, 8, .inl (fun _ => 0)))] := hD
  refine lv_aload_n hx hb dX0_init_92 rfl h00 ?_
  refine lv_iconst (v := nI 4) hx hb dX0_init_93 (by decide +kernel) ?_
  refine va_newa (atype := .int) (a0 := (4, .inl (fun _ => 0))) (N' := 4) (ty := .int) hx hb (hts _ q97) rfl hK hP hD hS hA (fun _ => rfl) (by decide +kernel) (by decide +kernel) (by decide +kernel) (Nat.le_of_ble_eq_true rfl) (Nat.le_of_ble_eq_true rfl) dX0_init_94 (fun a15 t15 H hK hP hD hS => ?_)
  refine W.widen (k := 12) (n := 220) (by omega) (by first | omega | (dsimp only; omega)) ?_
  have hP : va_P (dC, dI) vwCl [(h0, .inr (0, [.ref a0, .ref a1, .ref a2, .ref a3, .ref a4, .ref a5, .ref a6, .ref a7, .ref a8, .ref a9, .int 0, .int 0, .ref a12, .int 0, .int 0, .null, .null, .int 0, .int 0])), (a0, .inl (t0, 16, .inl (fun _ => 0))), (a1, .inl (t1, 16, .inl (fun _ => 0))), (a2, .inl (t2, 16, .inl (fun _ => 0))), (a3, .inl (t3, 16, .inl (fun _ => 0))), (a4, .inl (t4, 16, .inl (fun _ => 0))), (a5, .inl (t5, 16, .inl (fun _ => 0))), (a6, .inl (t6, 16, .inl (fun _ => 0))), (a7, .inl (t7, 16, .inl (fun _ => 0))), (a8, .inl (t8, 16, .inl (fun _ => 0))), (a9, .inl (t9, 64, .inl (fun _ => 0))), (a12, .inl (t12, 8, .inl (fun _ => 0))), (a15, .inl (t15, 4, .inl (fun _ => 0)))] H := hP
  have hD : va_D A [(h0, .inr (0, [.ref a0, .ref a1, .ref a2, .ref a3, .ref a4, .ref a5, .ref a6, .ref a7, .ref a8, .ref a9, .int 0, .int 0, .ref a12, .int 0, .int 0, .null, .null, .int 0, .int 0])), (a0, .inl (t0, 16, .inl (fun _ => 0))), (a1, .inl (t1, 16, .inl (fun _ => 0))), (a2, .inl (t2, 16, .inl (fun _ => 0))), (a3, .inl (t3, 16, .inl (fun _ => 0))), (a4, .inl (t4, 16, .inl (fun _ => 0))), (a5, .inl (t5, 16, .inl (fun _ => 0))), (a6, .inl (t6, 16, .inl (fun _ => 0))), (a7, .inl (t7, 16, .inl (fun _ => 0))), (a8, .inl (t8, 16, .inl (fun _ => 0))), (a9, .inl (t9, 64, .inl (fun _ => 0))), (a12, .inl (t12, 8, .inl (fun _ => 0))), (a15, .inl (t15, 4, .inl (fun _ => 0)))] := hD
  have hK : va_K (dC, dI) vwCl [(t0, .boolean), (t1, .boolean), (t2, .int), (t3, .int), (t4, .int), (t5, .boolean), (t6, .boolean), (t7, .boolean), (t8, .int), (t9, .int), (t12, .int), (t15, .int)] s := hK
  refine va_putF (D := (dC, dI)) (ci := 0) (v := .ref a15) (ty := .array .int) (C := RX0) (T := TX0) (N := 19) hx hb hts in_X0 tyX0 tyX0_ok nmX0 hown hK hP hD hS 0 rfl rfl 15 (by decide) (hts _ q53) (fun _ h9 => h9) rfl hin rfl (by decide +kernel) rfl rfl (Nat.le_of_ble_eq_true rfl) dX0_init_96 (fun H locs hP hD hS => ?_)
  have hP : va_P (dC, dI) vwCl [(h0, .inr (0, [.ref a0, .ref a1, .ref a2, .ref a3, .ref a4, .ref a5, .ref a6, .ref a7, .ref a8, .ref a9, .int 0, .int 0, .ref a12, .int 0, .int 0, .ref a15, .null, .int 0, .int 0])), (a0, .inl (t0, 16, .inl (fun _ => 0))), (a1, .inl (t1, 16, .inl (fun _ => 0))), (a2, .inl (t2, 16, .inl (fun _ => 0))), (a3, .inl (t3, 16, .inl (fun _ => 0))), (a4, .inl (t4, 16, .inl (fun _ => 0))), (a5, .inl (t5, 16, .inl (fun _ => 0))), (a6, .inl (t6, 16, .inl (fun _ => 0))), (a7, .inl (t7, 16, .inl (fun _ => 0))), (a8, .inl (t8, 16, .inl (fun _ => 0))), (a9, .inl (t9, 64, .inl (fun _ => 0))), (a12, .inl (t12, 8, .inl (fun _ => 0))), (a15, .inl (t15, 4, .inl (fun _ => 0)))] H := hP
  have hD : va_D A [(h0, .inr (0, [.ref a0, .ref a1, .ref a2, .ref a3, .ref a4, .ref a5, .ref a6, .ref a7, .ref a8, .ref a9, .int 0, .int 0, .ref a12, .int 0, .int 0, .ref a15, .null, .int 0, .int 0])), (a0, .inl (t0, 16, .inl (fun _ => 0))), (a1, .inl (t1, 16, .inl (fun _ => 0))), (a2, .inl (t2, 16, .inl (fun _ => 0))), (a3, .inl (t3, 16, .inl (fun _ => 0))), (a4, .inl (t4, 16, .inl (fun _ => 0))), (a5, .inl (t5, 16, .inl (fun _ => 0))), (a6, .inl (t6, 16, .inl (fun _ => 0))), (a7, .inl (t7, 16, .inl (fun _ => 0))), (a8, .inl (t8, 16, .inl (fun _ => 0))), (a9, .inl (t9, 64, .inl (fun _ => 0))), (a12, .inl (t12, 8, .inl (fun _ => 0))), (a15, .inl (t15, 4, .inl (fun _ => 0)))] := hD
  refine lv_aload_n hx hb dX0_init_99 rfl h00 ?_
  refine lv_iconst (v := nI 4) hx hb dX0_init_100 (by decide +kernel) ?_
  refine va_newa (atype := .int) (a0 := (4, .inl (fun _ => 0))) (N' := 4) (ty := .int) hx hb (hts _ q97) rfl hK hP hD hS hA (fun _ => rfl) (by decide +kernel) (by decide +kernel) (by decide +kernel) (Nat.le_of_ble_eq_true rfl) (Nat.le_of_ble_eq_true rfl) dX0_init_101 (fun a16 t16 H hK hP hD hS => ?_)
  refine W.widen (k := 13) (n := 224) (by omega) (by first | omega | (dsimp only; omega)) ?_
  have hP : va_P (dC, dI) vwCl [(h0, .inr (0, [.ref a0, .ref a1, .ref a2, .ref a3, .ref a4, .ref a5, .ref a6, .ref a7, .ref a8, .ref a9, .int 0, .int 0, .ref a12, .int 0, .int 0, .ref a15, .null, .int 0, .int 0])), (a0, .inl (t0, 16, .inl (fun _ => 0))), (a1, .inl (t1, 16, .inl (fun _ => 0))), (a2, .inl (t2, 16, .inl (fun _ => 0))), (a3, .inl (t3, 16, .inl (fun _ => 0))), (a4, .inl (t4, 16, .inl (fun _ => 0))), (a5, .inl (t5, 16, .inl (fun _ => 0))), (a6, .inl (t6, 16, .inl (fun _ => 0))), (a7, .inl (t7, 16, .inl (fun _ => 0))), (a8, .inl (t8, 16, .inl (fun _ => 0))), (a9, .inl (t9, 64, .inl (fun _ => 0))), (a12, .inl (t12, 8, .inl (fun _ => 0))), (a15, .inl (t15, 4, .inl (fun _ => 0))), (a16, .inl (t16, 4, .inl (fun _ => 0)))] H := hP
  have hD : va_D A [(h0, .inr (0, [.ref a0, .ref a1, .ref a2, .ref a3, .ref a4, .ref a5, .ref a6, .ref a7, .ref a8, .ref a9, .int 0, .int 0, .ref a12, .int 0, .int 0, .ref a15, .null, .int 0, .int 0])), (a0, .inl (t0, 16, .inl (fun _ => 0))), (a1, .inl (t1, 16, .inl (fun _ => 0))), (a2, .inl (t2, 16, .inl (fun _ => 0))), (a3, .inl (t3, 16, .inl (fun _ => 0))), (a4, .inl (t4, 16, .inl (fun _ => 0))), (a5, .inl (t5, 16, .inl (fun _ => 0))), (a6, .inl (t6, 16, .inl (fun _ => 0))), (a7, .inl (t7, 16, .inl (fun _ => 0))), (a8, .inl (t8, 16, .inl (fun _ => 0))), (a9, .inl (t9, 64, .inl (fun _ => 0))), (a12, .inl (t12, 8, .inl (fun _ => 0))), (a15, .inl (t15, 4, .inl (fun _ => 0))), (a16, .inl (t16, 4, .inl (fun _ => 0)))] := hD
  have hK : va_K (dC, dI) vwCl [(t0, .boolean), (t1, .boolean), (t2, .int), (t3, .int), (t4, .int), (t5, .boolean), (t6, .boolean), (t7, .boolean), (t8, .int), (t9, .int), (t12, .int), (t15, .int), (t16, .int)] s := hK
  refine va_putF (D := (dC, dI)) (ci := 0) (v := .ref a16) (ty := .array .int) (C := RX0) (T := TX0) (N := 19) hx hb hts in_X0 tyX0 tyX0_ok nmX0 hown hK hP hD hS 0 rfl rfl 16 (by decide) (hts _ q54) (fun _ h9 => h9) rfl hin rfl (by decide +kernel) rfl rfl (Nat.le_of_ble_eq_true rfl) dX0_init_103 (fun H locs hP hD hS => ?_)
  have hP : va_P (dC, dI) vwCl [(h0, .inr (0, [.ref a0, .ref a1, .ref a2, .ref a3, .ref a4, .ref a5, .ref a6, .ref a7, .ref a8, .ref a9, .int 0, .int 0, .ref a12, .int 0, .int 0, .ref a15, .ref a16, .int 0, .int 0])), (a0, .inl (t0, 16, .inl (fun _ => 0))), (a1, .inl (t1, 16, .inl (fun _ => 0))), (a2, .inl (t2, 16, .inl (fun _ => 0))), (a3, .inl (t3, 16, .inl (fun _ => 0))), (a4, .inl (t4, 16, .inl (fun _ => 0))), (a5, .inl (t5, 16, .inl (fun _ => 0))), (a6, .inl (t6, 16, .inl (fun _ => 0))), (a7, .inl (t7, 16, .inl (fun _ => 0))), (a8, .inl (t8, 16, .inl (fun _ => 0))), (a9, .inl (t9, 64, .inl (fun _ => 0))), (a12, .inl (t12, 8, .inl (fun _ => 0))), (a15, .inl (t15, 4, .inl (fun _ => 0))), (a16, .inl (t16, 4, .inl (fun _ => 0)))] H := hP
  have hD : va_D A [(h0, .inr (0, [.ref a0, .ref a1, .ref a2, .ref a3, .ref a4, .ref a5, .ref a6, .ref a7, .ref a8, .ref a9, .int 0, .int 0, .ref a12, .int 0, .int 0, .ref a15, .ref a16, .int 0, .int 0])), (a0, .inl (t0, 16, .inl (fun _ => 0))), (a1, .inl (t1, 16, .inl (fun _ => 0))), (a2, .inl (t2, 16, .inl (fun _ => 0))), (a3, .inl (t3, 16, .inl (fun _ => 0))), (a4, .inl (t4, 16, .inl (fun _ => 0))), (a5, .inl (t5, 16, .inl (fun _ => 0))), (a6, .inl (t6, 16, .inl (fun _ => 0))), (a7, .inl (t7, 16, .inl (fun _ => 0))), (a8, .inl (t8, 16, .inl (fun _ => 0))), (a9, .inl (t9, 64, .inl (fun _ => 0))), (a12, .inl (t12, 8, .inl (fun _ => 0))), (a15, .inl (t15, 4, .inl (fun _ => 0))), (a16, .inl (t16, 4, .inl (fun _ => 0)))] := hD
  have f0 : s.vm.findClass ("[" ++ FieldType.toString .boolean) = some t0 := (hK.2 0 _ rfl).2
  have f1 : s.vm.findClass ("[" ++ FieldType.toString .boolean) = some t1 := (hK.2 1 _ rfl).2
  have f2 : s.vm.findClass ("[" ++ FieldType.toString .int) = some t2 := (hK.2 2 _ rfl).2
  have f3 : s.vm.findClass ("[" ++ FieldType.toString .int) = some t3 := (hK.2 3 _ rfl).2
  have f4 : s.vm.findClass ("[" ++ FieldType.toString .int) = some t4 := (hK.2 4 _ rfl).2
  have f5 : s.vm.findClass ("[" ++ FieldType.toString .boolean) = some t5 := (hK.2 5 _ rfl).2
  have f6 : s.vm.findClass ("[" ++ FieldType.toString .boolean) = some t6 := (hK.2 6 _ rfl).2
  have f7 : s.vm.findClass ("[" ++ FieldType.toString .boolean) = some t7 := (hK.2 7 _ rfl).2
  have f8 : s.vm.findClass ("[" ++ FieldType.toString .int) = some t8 := (hK.2 8 _ rfl).2
  have f9 : s.vm.findClass ("[" ++ FieldType.toString .int) = some t9 := (hK.2 9 _ rfl).2
  have f12 : s.vm.findClass ("[" ++ FieldType.toString .int) = some t12 := (hK.2 10 _ rfl).2
  have f15 : s.vm.findClass ("[" ++ FieldType.toString .int) = some t15 := (hK.2 11 _ rfl).2
  have f16 : s.vm.findClass ("[" ++ FieldType.toString .int) = some t16 := (hK.2 12 _ rfl).2
  obtain rfl : t0 = t1 := Option.some.inj (f0.symm.trans f1)
  obtain rfl : t2 = t3 := Option.some.inj (f2.symm.trans f3)
  obtain rfl : t2 = t4 := Option.some.inj (f2.symm.trans f4)
  obtain rfl : t0 = t5 := Option.some.inj (f0.symm.trans f5)
  obtain rfl : t0 = t6 := Option.some.inj (f0.symm.trans f6)
  obtain rfl : t0 = t7 := Option.some.inj (f0.symm.trans f7)
  obtain rfl : t2 = t8 := Option.some.inj (f2.symm.trans f8)
  obtain rfl : t2 = t9 := Option.some.inj (f2.symm.trans f9)
  obtain rfl : t2 = t12 := Option.some.inj (f2.symm.trans f12)
  obtain rfl : t2 = t15 := Option.some.inj (f2.symm.trans f15)
  obtain rfl : t2 = t16 := Option.some.inj (f2.symm.trans f16)
  have hP : va_P (dC, dI) vwCl (wF (dF h0 a0 a1 a2 a3 a4 a5 a6 a7 a8 a9 a12 a15 a16 t0 t2) z0) H := hP
  have hD : va_D A (wF (dF h0 a0 a1 a2 a3 a4 a5 a6 a7 a8 a9 a12 a15 a16 t0 t2) z0) := hD
  have hK : va_K (dC, dI) vwCl (tF (dF h0 a0 a1 a2 a3 a4 a5 a6 a7 a8 a9 a12 a15 a16 t0 t2)) s := hK.sub [0, 2] rfl
  refine initV (dF h0 a0 a1 a2 a3 a4 a5 a6 a7 a8 a9 a12 a15 a16 t0 t2) (X := (p, l, e, rmI, s, m, _, below, meth, c, (dC, dI), A, _, 13, 224)) ⟨hx, hb, hml, hown, hts, hK, hA, rfl, Nat.le_refl _, Nat.le_refl _⟩ ?_ H locs ls hP hD hS hl1
  intro σ' hrel pc L hdg H locs ls' hP' hD' hS' hl'
  refine W.vret hx hb hr (fun t ht hW => ⟨⟨((dF h0 a0 a1 a2 a3 a4 a5 a6 a7 a8 a9 a12 a15 a16 t0 t2), σ'), rfl, ⟨rfl, hrel⟩, by rw [ht]; exact hP', va_K.moved hW.alike hK, ?_⟩, hS'.F ht⟩) hS'.2.2 hdg
  exact hD'
set_option maxHeartbeats 8000000 in
theorem k_init (l : Launch) (dC : Nat → ClassId) (dI : Nat → Nat → Nat) (h0 sz : Nat) : Met l yX1_init (ws_ yX1_init cX1_init 1 none) rmJ (va_Pc [.ref h0] (fun U => U.heap.size = sz ∧ va_P (dC, dI) vwCl [(h0, .inr (1, fsM0))] U.heap ∧ va_K (dC, dI) vwCl [] U ∧ va_D (fun _ => True) [(h0, .inr (1, fsM0))])) (va_Qv (fun u : (Nat → Nat) × fSt => u.1 6 = h0 ∧ u.2 = z0) (fun u t => va_P (dC, dI) vwCl (wM u.1 u.2) t.heap ∧ va_K (dC, dI) vwCl (tM u.1) t ∧ va_D (va_A [(h0, .inr (1, fsM0))] sz) (wM u.1 u.2)) (va_A [(h0, .inr (1, fsM0))] sz)) 3 44 (va_A [(h0, .inr (1, fsM0))] sz) := by
  refine Met.ofW (cc := cX1_init) (maxL := 1) (ret := none) (by decide +kernel) rfl ?_
  intro p e s m args below meth c s₁ B hml hv
  obtain ⟨rfl, hsz, hP, hK, hD0⟩ := hv
  have hx := B.exec
  have hb := B.bytes
  have hr := B.returns
  have hts := atoms_spec (ws := ws_ yX1_init cX1_init 1 none) B.pre
  have hts : ∀ w ∈ lw_all, w.before _ s = true := fun w h => hts w (List.mem_cons_of_mem _ h)
  have hown : s.vm.findClass RX1 = some m.cls := findClass_of_methodNamed B.named
  have hlocks := B.notSynchronized
  have hin : meth.name = "<init>" := (name_of_methodNamed B.named B.method).1
  subst hsz
  have hD := hD0.self (sz := s.heap.size)
  generalize hAe : va_A [(h0, .inr (1, fsM0))] s.heap.size = A at hD ⊢
  have hA : ∀ q : Nat, s.heap.size ≤ q → A q := fun q h => by rw [← hAe]; exact Or.inr h
  have hS : va_S A s.heap s.heap [] := va_S.rf
  have hl := lv_entry ([.ref h0]) (n := 1) (Nat.le_of_ble_eq_true rfl)
  rw [lg_entry_eq]
  generalize (lg_sl ([.ref h0]) ++ List.replicate (1 - (lg_sl ([.ref h0])).length) Slot.unset).toArray = ls at hl ⊢
  have hl1 : lh ls c.maxLocals [.ref h0] := by
    rw [hml]
    exact lh.entry (by simp [Value.category]) hl
  have h00 : ls[0]? = some (.val (.ref h0)) := hl1.2.2.2 0 _ rfl
  refine lv_aload_n hx hb dX1_init_0 rfl h00 ?_
  refine W.objInit hx hb hown (hts _ q223) (hts _ q28) (hts _ q29) rfl (by rw [hml]; exact hl.1) rfl dX1_init_1 (Nat.le_of_ble_eq_true rfl) (Nat.le_of_ble_eq_true rfl) ?_
  refine W.eq (g2 := F0 m 4 ls []) rfl ?_
  refine lv_aload_n hx hb dX1_init_4 rfl h00 ?_
  refine lv_bipush (v := nI 32) hx hb dX1_init_5 (by decide +kernel) ?_
  refine va_newa (atype := .int) (a0 := (32, .inl (fun _ => 0))) (N' := 32) (ty := .int) hx hb (hts _ q97) rfl hK hP hD hS hA (fun _ => rfl) (by decide +kernel) (by decide +kernel) (by decide +kernel) (Nat.le_of_ble_eq_true rfl) (Nat.le_of_ble_eq_true rfl) dX1_init_7 (fun a0 t0 H hK hP hD hS => ?_)
  refine W.widen (k := 1) (n := 32) (by omega) (by first | omega | (dsimp only; omega)) ?_
  have hP : va_P (dC, dI) vwCl [(h0, .inr (1, [.null, .null, .null, .int 0, .int 0, .int 0])), (a0, .inl (t0, 32, .inl (fun _ => 0)))] H := hP
  have hD : va_D A [(h0, .inr (1, [.null, .null, .null, .int 0, .int 0, .int 0])), (a0, .inl (t0, 32, .inl (fun _ => 0)))] := hD
  have hK : va_K (dC, dI) vwCl [(t0, .int)] s := hK
  refine va_putF (D := (dC, dI)) (ci := 1) (v := .ref a0) (ty := .array .int) (C := RX1) (T := TX1) (N := 6) hx hb hts in_X1 tyX1 tyX1_ok nmX1 hown hK hP hD hS 0 rfl rfl 0 (by decide) (hts _ q224) (fun _ h9 => h9) rfl hin rfl (by decide +kernel) rfl rfl (Nat.le_of_ble_eq_true rfl) dX1_init_9 (fun H locs hP hD hS => ?_)
  have hP : va_P (dC, dI) vwCl [(h0, .inr (1, [.ref a0, .null, .null, .int 0, .int 0, .int 0])), (a0, .inl (t0, 32, .inl (fun _ => 0)))] H := hP
  have hD : va_D A [(h0, .inr (1, [.ref a0, .null, .null, .int 0, .int 0, .int 0])), (a0, .inl (t0, 32, .inl (fun _ => 0)))] := hD
  refine lv_aload_n hx hb dX1_init_12 rfl h00 ?_
  refine lv_bipush (v := nI 8) hx hb dX1_init_13 (by decide +kernel) ?_
  refine va_newa (atype := .int) (a0 := (8, .inl (fun _ => 0))) (N' := 8) (ty := .int) hx hb (hts _ q97) rfl hK hP hD hS hA (fun _ => rfl) (by decide +kernel) (by decide +kernel) (by decide +kernel) (Nat.le_of_ble_eq_true rfl) (Nat.le_of_ble_eq_true rfl) dX1_init_15 (fun a1 t1 H hK hP hD hS => ?_)
  refine W.widen (k := 2) (n := 40) (by omega) (by first | omega | (dsimp only; omega)) ?_
  have hP : va_P (dC, dI) vwCl [(h0, .inr (1, [.ref a0, .null, .null, .int 0, .int 0, .int 0])), (a0, .inl (t0, 32, .inl (fun _ => 0))), (a1, .inl (t1, 8, .inl (fun _ => 0)))] H := hP
  have hD : va_D A [(h0, .inr (1, [.ref a0, .null, .null, .int 0, .int 0, .int 0])), (a0, .inl (t0, 32, .inl (fun _ => 0))), (a1, .inl (t1, 8, .inl (fun _ => 0)))] := hD
  have hK : va_K (dC, dI) vwCl [(t0, .int), (t1, .int)] s := hK
  refine va_putF (D := (dC, dI)) (ci := 1) (v := .ref a1) (ty := .array .int) (C := RX1) (T := TX1) (N := 6) hx hb hts in_X1 tyX1 tyX1_ok nmX1 hown hK hP hD hS 0 rfl rfl 1 (by decide) (hts _ q225) (fun _ h9 => h9) rfl hin rfl (by decide +kernel) rfl rfl (Nat.le_of_ble_eq_true rfl) dX1_init_17 (fun H locs hP hD hS => ?_)
  have hP : va_P (dC, dI) vwCl [(h0, .inr (1, [.ref a0, .ref a1, .null, .int 0, .int 0, .int 0])), (a0, .inl (t0, 32, .inl (fun _ => 0))), (a1, .inl (t1, 8, .inl (fun _ => 0)))] H := hP
  have hD : va_D A [(h0, .inr (1, [.ref a0, .ref a1, .null, .int 0, .int 0, .int 0])), (a0, .inl (t0, 32, .inl (fun _ => 0))), (a1, .inl (t1, 8, .inl (fun _ => 0)))] := hD
  refine lv_aload_n hx hb dX1_init_20 rfl h00 ?_
  refine lv_iconst (v := nI 4) hx hb dX1_init_21 (by decide +kernel) ?_
  refine va_newa (atype := .int) (a0 := (4, .inl (fun _ => 0))) (N' := 4) (ty := .int) hx hb (hts _ q97) rfl hK hP hD hS hA (fun _ => rfl) (by decide +kernel) (by decide +kernel) (by decide +kernel) (Nat.le_of_ble_eq_true rfl) (Nat.le_of_ble_eq_true rfl) dX1_init_22 (fun a2 t2 H hK hP hD hS => ?_)
  refine W.widen (k := 3) (n := 44) (by omega) (by first | omega | (dsimp only; omega)) ?_
  have hP : va_P (dC, dI) vwCl [(h0, .inr (1, [.ref a0, .ref a1, .null, .int 0, .int 0, .int 0])), (a0, .inl (t0, 32, .inl (fun _ => 0))), (a1, .inl (t1, 8, .inl (fun _ => 0))), (a2, .inl (t2, 4, .inl (fun _ => 0)))] H := hP
  have hD : va_D A [(h0, .inr (1, [.ref a0, .ref a1, .null, .int 0, .int 0, .int 0])), (a0, .inl (t0, 32, .inl (fun _ => 0))), (a1, .inl (t1, 8, .inl (fun _ => 0))), (a2, .inl (t2, 4, .inl (fun _ => 0)))] := hD
  have hK : va_K (dC, dI) vwCl [(t0, .int), (t1, .int), (t2, .int)] s := hK
  refine va_putF (D := (dC, dI)) (ci := 1) (v := .ref a2) (ty := .array .int) (C := RX1) (T := TX1) (N := 6) hx hb hts in_X1 tyX1 tyX1_ok nmX1 hown hK hP hD hS 0 rfl rfl 2 (by decide) (hts _ q226) (fun _ h9 => h9) rfl hin rfl (by decide +kernel) rfl rfl (Nat.le_of_ble_eq_true rfl) dX1_init_24 (fun H locs hP hD hS => ?_)
  have hP : va_P (dC, dI) vwCl [(h0, .inr (1, [.ref a0, .ref a1, .ref a2, .int 0, .int 0, .int 0])), (a0, .inl (t0, 32, .inl (fun _ => 0))), (a1, .inl (t1, 8, .inl (fun _ => 0))), (a2, .inl (t2, 4, .inl (fun _ => 0)))] H := hP
  have hD : va_D A [(h0, .inr (1, [.ref a0, .ref a1, .ref a2, .int 0, .int 0, .int 0])), (a0, .inl (t0, 32, .inl (fun _ => 0))), (a1, .inl (t1, 8, .inl (fun _ => 0))), (a2, .inl (t2, 4, .inl (fun _ => 0)))] := hD
  have f0 : s.vm.findClass ("[" ++ FieldType.toString .int) = some t0 := (hK.2 0 _ rfl).2
  have f1 : s.vm.findClass ("[" ++ FieldType.toString .int) = some t1 := (hK.2 1 _ rfl).2
  have f2 : s.vm.findClass ("[" ++ FieldType.toString .int) = some t2 := (hK.2 2 _ rfl).2
  obtain rfl : t0 = t1 := Option.some.inj (f0.symm.trans f1)
  obtain rfl : t0 = t2 := Option.some.inj (f0.symm.trans f2)
  have hP : va_P (dC, dI) vwCl (wM (dM h0 a0 a1 a2 t0) z0) H := hP
  have hD : va_D A (wM (dM h0 a0 a1 a2 t0) z0) := hD
  have hK : va_K (dC, dI) vwCl (tM (dM h0 a0 a1 a2 t0)) s := hK.sub [0] rfl
  refine W.vret hx hb hr (fun t ht hW => ⟨⟨((dM h0 a0 a1 a2 t0), z0), rfl, ⟨rfl, rfl⟩, by rw [ht]; exact hP, va_K.moved hW.alike hK, ?_⟩, hS.F ht⟩) hS.2.2 dX1_init_27
  exact hD
end
section
set_option maxRecDepth 100000
-- ===== end of PART A; then your names; then what follows =====
/-! THE CLAIM OUT OF ONE WALK OF THE LAW'S BODY. Your part is whole_start (and what it stands on); all else here is the same for every law, but numbers. -/
def R_law : String := "FlashVolumesLaw"
def lw_P (b : Addr) (xs : List Int32) (args : Array Value) (s : State) : Prop := args = #[.ref b] ∧ s.IntsAt b xs ∧ xs.length ≤ 192 ∧ (Jvm.Cond.and given_1 narrow_1).before args s = true
def lw_Q (_ : Array Value) (s : State) (o : Outcome) (t : State) : Prop := o = .returned (some (.int 1)) ∧ Framed s o t [] 600000 7290000
def lw_Z (below : List Frame) (a : Array Value) (s : State) : State → Prop := fun t => ∃ o, t.status = .running ∧ Ended t below o ∧ lw_Q a s o t
/-- the law's own end, with 1 on the stack, nothing written that was there before, its room as the claim has it -/
theorem lw_ret {p : Program} {l : Launch} {e : Env} {s : State} {m : MethodId} {below : List Frame} {meth : Method} {c : Code} {b : Nat} (hx : p.tables.exec = Jvm.exec) (hb : c.code = code) (hr : meth.sig.returnType = ret) (hlocks : meth.locks = false) {pc : Nat} {H : Heap} {ls : Array Slot} (hdg : decode code pc = .ok (.ireturn, 1)) : W p l e room_1 s m #[Value.ref b] below meth c H [] 600000 7290000 (lw_Z below #[Value.ref b] s) (F0 m pc ls [.int 1]) := by
  intro T hT X
  obtain ⟨fs, hret, hrun, hended, hW, hframe⟩ := X.leave (v := some (.int 1)) (hlocks := hlocks) (fun h => by rw [hr] at h; cases h)
  have hmeth' : T.vm.method? m = some meth := X.method'
  refine ⟨T.setFrames fs, ?_, .returned (some (.int 1)), hrun, hended, rfl, ⟨_, rfl⟩, hW, hframe⟩
  jvm_step X.here [X.here.top, hx, hb, hdg, hmeth', hr, ret, narrow_b1]
  (try refine ⟨rfl, ?_⟩); (try refine ⟨rfl, ?_⟩)
  first | (intro acts; rw [hret _ acts rfl rfl rfl]) | rw [hret _ _ rfl rfl rfl]
  exact Steps.refl _
/-- what holds at the law's entry: the machine, the code, the tables' words (any of lw_tbl by 'hts w (by decide +kernel)'), the script of L ints xs at the cell b, what the Statement gives of the start (any of its parts by flat_of_before) -/
def lw_At (p : Program) (s : State) (m : MethodId) (meth : Method) (c : Code) (b L : Nat) (xs : Nat → Int32) : Prop :=
  p.tables.exec = Jvm.exec ∧ c.code = code ∧ meth.sig.returnType = ret ∧ c.maxLocals = 4 ∧ s.vm.findClass R_law = some m.cls ∧ (∀ w ∈ lw_tbl, w.before #[Value.ref b] s = true) ∧ va_X b L xs s s.heap ∧ b < s.heap.size ∧ meth.locks = false ∧ (Jvm.Cond.and given_1 narrow_1).before #[Value.ref b] s = true
end
section
set_option maxRecDepth 100000
/-- the script -/
def LOk (X : Cx) (b Lx : Nat) (xs : Nat → Int32) : Prop := match X with
  | (_, _, _, _, s, _, _, _, _, _, _, A, _, _, _) => va_X b Lx xs s s.heap ∧ b < s.heap.size ∧ ¬ A b
section VL
variable {X : Cx} {cc : ByteArray} {nL pc b Lx : Nat} {own : String} {R : Room} {tys : List (ClassId × FieldType)} {w : va_W} {L st : List Value} {xs : Nat → Int32}
theorem L_slen (hX : Ok X cc nL own R tys) (hL : LOk X b Lx xs) (hd : decode cc pc = .ok (.arraylength, 1)) (k : V X w L (pc + 1) (.int (nI Lx) :: st)) : V X w L pc (.ref b :: st) := by
  obtain ⟨p, l, e, R, s, m, args, below, meth, c, D, A, Q, cells, slots⟩ := X
  exact fun H locs ls hP hD hS hl => va_slen hX.1 hX.2.1 hL.1 hL.2.1 hL.2.2 hS hd (k H locs ls hP hD hS hl)
theorem L_sld (hX : Ok X cc nL own R tys) (hL : LOk X b Lx xs) {i : Nat} (hi : i < Lx) (h31 : Lx < 2 ^ 31) (hd : decode cc pc = .ok (.iaload, 1)) (k : V X w L (pc + 1) (.int (xs i) :: st)) : V X w L pc (.int (nI i) :: .ref b :: st) := by
  obtain ⟨p, l, e, R, s, m, args, below, meth, c, D, A, Q, cells, slots⟩ := X
  have hc : (nI i).toNatClampNeg = i := nI_clamp (by omega)
  exact fun H locs ls hP hD hS hl => va_sld hX.1 hX.2.1 hL.1 hL.2.1 hL.2.2 hS (vp_in_nI hi h31) hd (by rw [hc]; exact k H locs ls hP hD hS hl)
theorem V_tin (hX : Ok X cc nL own R tys) {dflt lo hi : Int} {offs : Array Int} {len : Nat} {x : Int32} {off : Int} {tgt : Nat} (hd : decode cc pc = .ok (.tableswitch dflt lo hi offs, len)) (h1 : ¬ x.toInt < lo) (h2 : ¬ hi < x.toInt) (ho : offs[(x.toInt - lo).toNat]? = some off) (ht : (pc : Int) + off = (tgt : Int)) (k : V X w L tgt st) : V X w L pc (.int x :: st) := by
  obtain ⟨p, l, e, R, s, m, args, below, meth, c, D, A, Q, cells, slots⟩ := X
  exact fun H locs ls hP hD hS hl => lv_tableIn hX.1 hX.2.1 hd h1 h2 ho ht (k H locs ls hP hD hS hl)
theorem V_tout (hX : Ok X cc nL own R tys) {dflt lo hi : Int} {offs : Array Int} {len : Nat} {x : Int32} {tgt : Nat} (hd : decode cc pc = .ok (.tableswitch dflt lo hi offs, len)) (h : x.toInt < lo ∨ hi < x.toInt) (ht : (pc : Int) + dflt = (tgt : Int)) (k : V X w L tgt st) : V X w L pc (.int x :: st) := by
  obtain ⟨p, l, e, R, s, m, args, below, meth, c, D, A, Q, cells, slots⟩ := X
  exact fun H locs ls hP hD hS hl => lv_tableOut hX.1 hX.2.1 hd h ht (k H locs ls hP hD hS hl)
/-- the same cells in another order -/
theorem V_sub {w' : va_W} (is : List Nat) (hn : va_nd is = true) (h : is.map (fun i => w[i]?) = w'.map some) (hf : is.filterMap (fun i => w[i]?) = w') (k : V X w' L pc st) : V X w L pc st := by
  obtain ⟨p, l, e, R, s, m, args, below, meth, c, D, A, Q, cells, slots⟩ := X
  exact fun H locs ls hP hD hS hl => k H locs ls (hP.sub is hf) (hD.sub is hn h) hS hl
end VL
section VX
variable {wf : fSt → va_W} {o nL : Nat} {tys tysX : List (ClassId × FieldType)} {y : MethodName} {cc : ByteArray} {ty : FieldType} {rm : Room} {σ : fSt} {As : List Value} {own : String}
variable {X : Cx} {ccx : ByteArray} {nX pc n index : Nat} {R : Room} {L st0 rest : List Value} {C : String} {ci : Nat} {qc : vw_C} {fs : List Value} {w wr : va_W}
theorem V_fcalli {post : Int32 → fSt → Prop} (hX : Ok X ccx nX own R tysX) (hM : CMi wf o tys y cc nL ty rm σ As post) (isC isR isT : List Nat) (hC : isC.map (fun i => w[i]?) = (wf σ).map some) (hCf : isC.filterMap (fun i => w[i]?) = wf σ) (hCn : va_nd isC = true) (hRr : isR.map (fun i => w[i]?) = wr.map some) (hRn : va_nd isR = true) (hdis : ∀ i ∈ isR, i ∉ isC) (hT : isT.filterMap (fun i => tysX[i]?) = tys)
    (hr : (wf σ)[0]? = some (o, .inr (ci, fs))) (hc : vwCl[ci]? = some qc) (hq : qc.1 = C) (hw : GoodIn lw_all (wsV own index C y (ws_ y cc nL (some ty)))) (hrc : rm.cells = 0) (hrs : rm.slots = 0)
    (hd : y.cls = C ∧ y.cls ≠ "java/lang/invoke/MethodHandle" ∧ y.cls ≠ "java/lang/invoke/VarHandle" ∧ (parseMethodDescriptor y.desc).map (fun d => d.parameters.length) = some n) (hR : rm.frames + 1 ≤ R.frames ∧ 8 + (nL + 11) + rm.locals ≤ R.locals) (hn : As.length = n) (hst : st0 = As.reverse ++ .ref o :: rest) (hrm : (rest.map fun v => v.category).sum ≤ 8)
    (hdg : decode ccx pc = .ok (.invokevirtual index, 3)) (kk : ∀ r σ', post r σ' → V X (wr ++ wf σ') L (pc + 3) (.int r :: rest)) : V X w L pc st0 := by
  obtain ⟨p, l, e, R', s, m, args, below, meth, c, D, A, Q, cells, slots⟩ := X
  obtain ⟨hx, hb, hml, hown, hts, hK, hA, hRR, hcs, hss⟩ := hX
  subst hRR
  subst hst
  intro H locs ls hP hD hS hl
  have hPc := hP.sub isC hCf
  have hDc := hD.sub isC hCn hC
  have hKc := hK.sub isT hT
  have hFc := va_free (wc := wf σ) hD hS hA isC hC
  refine va_calli (va_runV (As := As) (rest := rest) ⟨hx, hb, hml, hown, hts⟩ (hM l D.1 D.2 H.size) (cwV n hts hw rfl hrc hrs hd hR) ⟨fun a U g mk q => by obtain ⟨q0, q1, qP, qK, qD⟩ := q; exact ⟨q0, q1, qP, va_K.moved (u := U) (U := U.calling g mk a) (Vm.Alike.refl U.vm) qK, qD⟩, by rw [← hq]; exact va_recv hKc hPc hc hr, fun U hU hW => ⟨rfl, by rw [hU], by rw [hU]; exact hPc, va_K.moved hW.alike hKc, hDc.weaken (fun _ _ _ _ => trivial)⟩⟩ rfl hn (by rw [← hml]; exact hl.1) rfl (lv_room hrm) hdg ⟨hcs, hss⟩) hS (fun q _ h => hFc q h) hFc (fun r u t H1 locs1 ht hvm hw1 hB hz1 hk1 hS1 => ?_)
  obtain ⟨hP1, hK1, hD1⟩ := hB
  rw [ht] at hP1
  obtain ⟨hP2, hD2⟩ := va_join (wr := wr) (w1 := wf u) hP hD isC isR hC hRr hRn hdis hk1 hFc hP1 hD1
  exact kk r u hw1 H1 locs1 ls hP2 hD2 hS1 hl
theorem V_fcallv {post : fSt → Prop} (hX : Ok X ccx nX own R tysX) (hM : CMv wf o tys y cc nL rm σ As post) (isC isR isT : List Nat) (hC : isC.map (fun i => w[i]?) = (wf σ).map some) (hCf : isC.filterMap (fun i => w[i]?) = wf σ) (hCn : va_nd isC = true) (hRr : isR.map (fun i => w[i]?) = wr.map some) (hRn : va_nd isR = true) (hdis : ∀ i ∈ isR, i ∉ isC) (hT : isT.filterMap (fun i => tysX[i]?) = tys)
    (hr : (wf σ)[0]? = some (o, .inr (ci, fs))) (hc : vwCl[ci]? = some qc) (hq : qc.1 = C) (hw : GoodIn lw_all (wsV own index C y (ws_ y cc nL none))) (hrc : rm.cells = 0) (hrs : rm.slots = 0)
    (hd : y.cls = C ∧ y.cls ≠ "java/lang/invoke/MethodHandle" ∧ y.cls ≠ "java/lang/invoke/VarHandle" ∧ (parseMethodDescriptor y.desc).map (fun d => d.parameters.length) = some n) (hR : rm.frames + 1 ≤ R.frames ∧ 8 + (nL + 11) + rm.locals ≤ R.locals) (hn : As.length = n) (hst : st0 = As.reverse ++ .ref o :: rest) (hrm : (rest.map fun v => v.category).sum ≤ 8)
    (hdg : decode ccx pc = .ok (.invokevirtual index, 3)) (kk : ∀ σ', post σ' → V X (wr ++ wf σ') L (pc + 3) rest) : V X w L pc st0 := by
  obtain ⟨p, l, e, R', s, m, args, below, meth, c, D, A, Q, cells, slots⟩ := X
  obtain ⟨hx, hb, hml, hown, hts, hK, hA, hRR, hcs, hss⟩ := hX
  subst hRR
  subst hst
  intro H locs ls hP hD hS hl
  have hPc := hP.sub isC hCf
  have hDc := hD.sub isC hCn hC
  have hKc := hK.sub isT hT
  have hFc := va_free (wc := wf σ) hD hS hA isC hC
  refine va_callv (va_runV (As := As) (rest := rest) ⟨hx, hb, hml, hown, hts⟩ (hM l D.1 D.2 H.size) (cwV n hts hw rfl hrc hrs hd hR) ⟨fun a U g mk q => by obtain ⟨q0, q1, qP, qK, qD⟩ := q; exact ⟨q0, q1, qP, va_K.moved (u := U) (U := U.calling g mk a) (Vm.Alike.refl U.vm) qK, qD⟩, by rw [← hq]; exact va_recv hKc hPc hc hr, fun U hU hW => ⟨rfl, by rw [hU], by rw [hU]; exact hPc, va_K.moved hW.alike hKc, hDc.weaken (fun _ _ _ _ => trivial)⟩⟩ rfl hn (by rw [← hml]; exact hl.1) rfl (lv_room hrm) hdg ⟨hcs, hss⟩) hS (fun q _ h => hFc q h) hFc (fun u t H1 locs1 ht hvm hw1 hB hz1 hk1 hS1 => ?_)
  obtain ⟨hP1, hK1, hD1⟩ := hB
  rw [ht] at hP1
  obtain ⟨hP2, hD2⟩ := va_join (wr := wr) (w1 := wf u) hP hD isC isR hC hRr hRn hdis hk1 hFc hP1 hD1
  exact kk u hw1 H1 locs1 ls hP2 hD2 hS1 hl
end VX
section VY
variable {d d' : Nat → Nat} {nL : Nat} {y : MethodName} {cc : ByteArray} {ty : FieldType} {rm : Room} {σ τ : fSt} {As : List Value}
variable {X : Cx} {ccx : ByteArray} {nX pc n index : Nat} {R : Room} {L st0 rest : List Value}
theorem L_Fi {post : Int32 → fSt → Prop} (hX : Ok X ccx nX R_law R (tF d ++ tM d')) (hM : CFi d y cc nL ty rm σ As post) (hw : GoodIn lw_all (wsV R_law index RX0 y (ws_ y cc nL (some ty)))) (hrc : rm.cells = 0) (hrs : rm.slots = 0) (hd : y.cls = RX0 ∧ y.cls ≠ "java/lang/invoke/MethodHandle" ∧ y.cls ≠ "java/lang/invoke/VarHandle" ∧ (parseMethodDescriptor y.desc).map (fun d => d.parameters.length) = some n) (hR : rm.frames + 1 ≤ R.frames ∧ 8 + (nL + 11) + rm.locals ≤ R.locals) (hn : As.length = n) (hst : st0 = As.reverse ++ .ref (d 19) :: rest) (hrm : (rest.map fun v => v.category).sum ≤ 8) (hdg : decode ccx pc = .ok (.invokevirtual index, 3)) (kk : ∀ r σ', post r σ' → V X (wF d σ' ++ wM d' τ) L (pc + 3) (.int r :: rest)) : V X (wF d σ ++ wM d' τ) L pc st0 :=
  V_fcalli (wr := wM d' τ) hX hM [0, 1, 2, 3, 4, 5, 6, 7, 8, 9, 10, 11, 12, 13] [14, 15, 16, 17] [0, 1] rfl rfl (by decide) rfl (by decide) (by decide) rfl rfl rfl rfl hw hrc hrs hd hR hn hst hrm hdg (fun r σ' h => V_sub [4, 5, 6, 7, 8, 9, 10, 11, 12, 13, 14, 15, 16, 17, 0, 1, 2, 3] (by decide) rfl rfl (kk r σ' h))
theorem L_Mi {post : Int32 → fSt → Prop} (hX : Ok X ccx nX R_law R (tF d ++ tM d')) (hM : CRi d' y cc nL ty rm τ As post) (hw : GoodIn lw_all (wsV R_law index RX1 y (ws_ y cc nL (some ty)))) (hrc : rm.cells = 0) (hrs : rm.slots = 0) (hd : y.cls = RX1 ∧ y.cls ≠ "java/lang/invoke/MethodHandle" ∧ y.cls ≠ "java/lang/invoke/VarHandle" ∧ (parseMethodDescriptor y.desc).map (fun d => d.parameters.length) = some n) (hR : rm.frames + 1 ≤ R.frames ∧ 8 + (nL + 11) + rm.locals ≤ R.locals) (hn : As.length = n) (hst : st0 = As.reverse ++ .ref (d' 6) :: rest) (hrm : (rest.map fun v => v.category).sum ≤ 8) (hdg : decode ccx pc = .ok (.invokevirtual index, 3)) (kk : ∀ r σ', post r σ' → V X (wF d σ ++ wM d' σ') L (pc + 3) (.int r :: rest)) : V X (wF d σ ++ wM d' τ) L pc st0 :=
  V_fcalli (wr := wF d σ) hX hM [14, 15, 16, 17] [0, 1, 2, 3, 4, 5, 6, 7, 8, 9, 10, 11, 12, 13] [2] rfl rfl (by decide) rfl (by decide) (by decide) rfl rfl rfl rfl hw hrc hrs hd hR hn hst hrm hdg kk
theorem L_Fv {post : fSt → Prop} (hX : Ok X ccx nX R_law R (tF d ++ tM d')) (hM : CFv d y cc nL rm σ As post) (hw : GoodIn lw_all (wsV R_law index RX0 y (ws_ y cc nL none))) (hrc : rm.cells = 0) (hrs : rm.slots = 0) (hd : y.cls = RX0 ∧ y.cls ≠ "java/lang/invoke/MethodHandle" ∧ y.cls ≠ "java/lang/invoke/VarHandle" ∧ (parseMethodDescriptor y.desc).map (fun d => d.parameters.length) = some n) (hR : rm.frames + 1 ≤ R.frames ∧ 8 + (nL + 11) + rm.locals ≤ R.locals) (hn : As.length = n) (hst : st0 = As.reverse ++ .ref (d 19) :: rest) (hrm : (rest.map fun v => v.category).sum ≤ 8) (hdg : decode ccx pc = .ok (.invokevirtual index, 3)) (kk : ∀ σ', post σ' → V X (wF d σ' ++ wM d' τ) L (pc + 3) (rest)) : V X (wF d σ ++ wM d' τ) L pc st0 :=
  V_fcallv (wr := wM d' τ) hX hM [0, 1, 2, 3, 4, 5, 6, 7, 8, 9, 10, 11, 12, 13] [14, 15, 16, 17] [0, 1] rfl rfl (by decide) rfl (by decide) (by decide) rfl rfl rfl rfl hw hrc hrs hd hR hn hst hrm hdg (fun σ' h => V_sub [4, 5, 6, 7, 8, 9, 10, 11, 12, 13, 14, 15, 16, 17, 0, 1, 2, 3] (by decide) rfl rfl (kk σ' h))
theorem L_Mv {post : fSt → Prop} (hX : Ok X ccx nX R_law R (tF d ++ tM d')) (hM : CRv d' y cc nL rm τ As post) (hw : GoodIn lw_all (wsV R_law index RX1 y (ws_ y cc nL none))) (hrc : rm.cells = 0) (hrs : rm.slots = 0) (hd : y.cls = RX1 ∧ y.cls ≠ "java/lang/invoke/MethodHandle" ∧ y.cls ≠ "java/lang/invoke/VarHandle" ∧ (parseMethodDescriptor y.desc).map (fun d => d.parameters.length) = some n) (hR : rm.frames + 1 ≤ R.frames ∧ 8 + (nL + 11) + rm.locals ≤ R.locals) (hn : As.length = n) (hst : st0 = As.reverse ++ .ref (d' 6) :: rest) (hrm : (rest.map fun v => v.category).sum ≤ 8) (hdg : decode ccx pc = .ok (.invokevirtual index, 3)) (kk : ∀ σ', post σ' → V X (wF d σ ++ wM d' σ') L (pc + 3) (rest)) : V X (wF d σ ++ wM d' τ) L pc st0 :=
  V_fcallv (wr := wF d σ) hX hM [14, 15, 16, 17] [0, 1, 2, 3, 4, 5, 6, 7, 8, 9, 10, 11, 12, 13] [2] rfl rfl (by decide) rfl (by decide) (by decide) rfl rfl rfl rfl hw hrc hrs hd hR hn hst hrm hdg kk
end VY
end
section
set_option maxRecDepth 100000
set_option maxHeartbeats 8000000 in
/-- the law's loop -/
theorem law_loop (d d' : Nat → Nat) {X : Cx} {b Lx : Nat} {xs : Nat → Int32} (hX : Ok X cL_law 4 R_law room_1 (tF d ++ tM d')) (hL : LOk X b Lx xs) (hLx : Lx ≤ 192) (hR : ∀ (w : va_W) (L : List Value) (pc : Nat), decode cL_law pc = .ok (.ireturn, 1) → V X w L pc [.int 1]) :
    ∀ (fu i : Nat) (σ τ : fSt), i ≤ Lx → Lx - i < fu → Rel σ τ (1 + 7 * i) → V X (wF d σ ++ wM d' τ) [.ref b, .ref (d 19), .ref (d' 6), .int (nI i)] 18 [] := by
  intro fu
  induction fu with
  | zero => intro i σ τ _ h; exact absurd h (Nat.not_lt_zero _)
  | succ fu ih =>
    intro i σ τ hi hfu hr
    refine V_iln hX 3 dL_law_18 rfl rfl ?_
    refine V_aln hX 0 dL_law_19 rfl rfl ?_
    refine L_slen hX hL dL_law_20 ?_
    refine V_iconst hX (v := nI 3) dL_law_21 (by decide +kernel) ?_
    refine V_isub hX dL_law_22 ?_
    refine V_ic_gt hX (tgt := 421) dL_law_23 (by decide) (fun c23 => ?_) (fun c23 => ?_)
    · refine V_iconst hX (v := 1) dL_law_421 (by decide +kernel) ?_
      exact hR _ _ _ dL_law_422
    · have hi3 : i + 3 ≤ Lx := by
        have q : ¬ (nI Lx - nI 3).toInt < (nI i).toInt := fun q => c23 (Int32.lt_iff_toInt_lt.mpr q)
        rw [pk_sub_toInt (by omega) (by omega), nI_toInt (by omega)] at q
        omega
      have j415 : ∀ σ1 τ1 : fSt, Rel σ1 τ1 (1 + 7 * i + 20) → V X (wF d σ1 ++ wM d' τ1) [.ref b, .ref (d 19), .ref (d' 6), .int (nI i)] 415 [] := by
        intro σ1 τ1 hr1
        refine V_inc hX (y := nI (i + 3)) dL_law_415 (Nat.le_of_ble_eq_true rfl) rfl (nI_inc3 _) ?_
        dsimp only [lput]
        refine V_goto hX (tgt := 18) dL_law_418 (by decide) ?_
        exact ih (i + 3) σ1 τ1 hi3 (by omega) (hr1.mono (by omega))
      refine V_aln hX 0 dL_law_26 rfl rfl ?_
      refine V_iln hX 3 dL_law_27 rfl rfl ?_
      refine L_sld hX hL (by omega) (by omega) dL_law_28 ?_
      refine V_bipush hX (v := nI 15) dL_law_29 (by decide +kernel) ?_
      refine V_iand hX dL_law_31 ?_
      obtain ⟨j, hj, ej⟩ := pk_andE (xs i) (m := nI 15) 4 (by decide +kernel)
      refine V_top ej ?_
      have hj : j < 16 := hj
      rcases (show j = 0 ∨ j = 1 ∨ j = 2 ∨ j = 3 ∨ j = 4 ∨ j = 5 ∨ j = 6 ∨ j = 7 ∨ j = 8 ∨ j = 9 ∨ j = 10 ∨ j = 11 ∨ j = 12 ∨ j = 13 ∨ j = 14 ∨ j = 15 by omega) with rfl | rfl | rfl | rfl | rfl | rfl | rfl | rfl | rfl | rfl | rfl | rfl | rfl | rfl | rfl | rfl
      · refine V_tin hX (off := 76) (tgt := 108) dL_law_32 (by decide +kernel) (by decide +kernel) (by decide +kernel) (by decide) ?_
        refine V_aln hX 1 dL_law_108 rfl rfl ?_
        refine V_aln hX 0 dL_law_109 rfl rfl ?_
        refine V_iln hX 3 dL_law_110 rfl rfl ?_
        refine V_iconst hX (v := 1) dL_law_111 (by decide +kernel) ?_
        refine V_iadd hX dL_law_112 ?_
        refine V_top (y := nI (i + 1)) (by simp only [pk_mul, nI_add, nI_1]) ?_
        refine L_sld hX hL (by omega) (by omega) dL_law_113 ?_
        refine L_Fi (n := 1) hX (c_draft d σ (xs (i + 1)) hr) (lw_V q98 q99 q100 q20 q101) rfl rfl (by decide +kernel) ⟨Nat.le_of_ble_eq_true rfl, Nat.le_of_ble_eq_true rfl⟩ rfl rfl (Nat.le_of_ble_eq_true rfl) dL_law_114 (fun r1 σ1 h1 => ?_)
        refine V_aln hX 2 dL_law_117 rfl rfl ?_
        refine V_aln hX 0 dL_law_118 rfl rfl ?_
        refine V_iln hX 3 dL_law_119 rfl rfl ?_
        refine V_iconst hX (v := 1) dL_law_120 (by decide +kernel) ?_
        refine V_iadd hX dL_law_121 ?_
        refine V_top (y := nI (i + 1)) (by simp only [pk_mul, nI_add, nI_1]) ?_
        refine L_sld hX hL (by omega) (by omega) dL_law_122 ?_
        refine L_Mi (n := 1) hX (k_draft d' τ (xs (i + 1)) hr.mi) (lw_V q243 q244 q245 q21 q246) rfl rfl (by decide +kernel) ⟨Nat.le_of_ble_eq_true rfl, Nat.le_of_ble_eq_true rfl⟩ rfl rfl (Nat.le_of_ble_eq_true rfl) dL_law_123 (fun r2 τ2 h2 => ?_)
        refine V_ic_eq hX (tgt := 415) dL_law_126 (by decide) (fun c126 => ?_) (fun c126 => ?_)
        · exact j415 _ _ (by rw [h2.2]; exact h1.2.mono (by omega))
        · exact absurd (h1.1.trans h2.1.symm) c126
      · refine V_tin hX (off := 99) (tgt := 131) dL_law_32 (by decide +kernel) (by decide +kernel) (by decide +kernel) (by decide) ?_
        refine V_aln hX 1 dL_law_131 rfl rfl ?_
        refine L_Fv (n := 0) hX (c_scrap d σ hr) (lw_V q102 q103 q104 q20 q105) rfl rfl (by decide +kernel) ⟨Nat.le_of_ble_eq_true rfl, Nat.le_of_ble_eq_true rfl⟩ rfl rfl (Nat.le_of_ble_eq_true rfl) dL_law_132 (fun σ1 h1 => ?_)
        refine V_aln hX 2 dL_law_135 rfl rfl ?_
        refine L_Mv (n := 0) hX (k_scrap d' τ ) (lw_V q247 q248 q249 q21 q250) rfl rfl (by decide +kernel) ⟨Nat.le_of_ble_eq_true rfl, Nat.le_of_ble_eq_true rfl⟩ rfl rfl (Nat.le_of_ble_eq_true rfl) dL_law_136 (fun τ2 h2 => ?_)
        subst h2
        refine V_goto hX (tgt := 415) dL_law_139 (by decide) ?_
        exact j415 _ _ (h1.mono (by omega))
      · refine V_tin hX (off := 110) (tgt := 142) dL_law_32 (by decide +kernel) (by decide +kernel) (by decide +kernel) (by decide) ?_
        refine V_aln hX 1 dL_law_142 rfl rfl ?_
        refine V_aln hX 0 dL_law_143 rfl rfl ?_
        refine V_iln hX 3 dL_law_144 rfl rfl ?_
        refine V_iconst hX (v := 1) dL_law_145 (by decide +kernel) ?_
        refine V_iadd hX dL_law_146 ?_
        refine V_top (y := nI (i + 1)) (by simp only [pk_mul, nI_add, nI_1]) ?_
        refine L_sld hX hL (by omega) (by omega) dL_law_147 ?_
        refine V_aln hX 0 dL_law_148 rfl rfl ?_
        refine V_iln hX 3 dL_law_149 rfl rfl ?_
        refine V_iconst hX (v := nI 2) dL_law_150 (by decide +kernel) ?_
        refine V_iadd hX dL_law_151 ?_
        refine V_top (y := nI (i + 2)) (by simp only [pk_mul, nI_add, nI_1]) ?_
        refine L_sld hX hL (by omega) (by omega) dL_law_152 ?_
        refine L_Fi (n := 2) hX (c_append d σ (xs (i + 1)) (xs (i + 2)) hr (by omega) (by omega)) (lw_V q106 q107 q108 q20 q109) rfl rfl (by decide +kernel) ⟨Nat.le_of_ble_eq_true rfl, Nat.le_of_ble_eq_true rfl⟩ rfl rfl (Nat.le_of_ble_eq_true rfl) dL_law_153 (fun r1 σ1 h1 => ?_)
        refine V_aln hX 2 dL_law_156 rfl rfl ?_
        refine V_aln hX 0 dL_law_157 rfl rfl ?_
        refine V_iln hX 3 dL_law_158 rfl rfl ?_
        refine V_iconst hX (v := 1) dL_law_159 (by decide +kernel) ?_
        refine V_iadd hX dL_law_160 ?_
        refine V_top (y := nI (i + 1)) (by simp only [pk_mul, nI_add, nI_1]) ?_
        refine L_sld hX hL (by omega) (by omega) dL_law_161 ?_
        refine V_aln hX 0 dL_law_162 rfl rfl ?_
        refine V_iln hX 3 dL_law_163 rfl rfl ?_
        refine V_iconst hX (v := nI 2) dL_law_164 (by decide +kernel) ?_
        refine V_iadd hX dL_law_165 ?_
        refine V_top (y := nI (i + 2)) (by simp only [pk_mul, nI_add, nI_1]) ?_
        refine L_sld hX hL (by omega) (by omega) dL_law_166 ?_
        refine L_Mi (n := 2) hX (k_append d' τ (xs (i + 1)) (xs (i + 2)) hr.mi) (lw_V q251 q252 q253 q21 q254) rfl rfl (by decide +kernel) ⟨Nat.le_of_ble_eq_true rfl, Nat.le_of_ble_eq_true rfl⟩ rfl rfl (Nat.le_of_ble_eq_true rfl) dL_law_167 (fun r2 τ2 h2 => ?_)
        refine V_ic_eq hX (tgt := 415) dL_law_170 (by decide) (fun c170 => ?_) (fun c170 => ?_)
        · exact j415 _ _ (by rw [h2.2]; exact h1.2.mono (by omega))
        · exact absurd (h1.1.trans h2.1.symm) c170
      · refine V_tin hX (off := 143) (tgt := 175) dL_law_32 (by decide +kernel) (by decide +kernel) (by decide +kernel) (by decide) ?_
        refine V_aln hX 1 dL_law_175 rfl rfl ?_
        refine V_aln hX 0 dL_law_176 rfl rfl ?_
        refine V_iln hX 3 dL_law_177 rfl rfl ?_
        refine V_iconst hX (v := 1) dL_law_178 (by decide +kernel) ?_
        refine V_iadd hX dL_law_179 ?_
        refine V_top (y := nI (i + 1)) (by simp only [pk_mul, nI_add, nI_1]) ?_
        refine L_sld hX hL (by omega) (by omega) dL_law_180 ?_
        refine L_Fi (n := 1) hX (c_change d σ (xs (i + 1)) hr (by omega) (by omega)) (lw_V q154 q155 q156 q20 q157) rfl rfl (by decide +kernel) ⟨Nat.le_of_ble_eq_true rfl, Nat.le_of_ble_eq_true rfl⟩ rfl rfl (Nat.le_of_ble_eq_true rfl) dL_law_181 (fun r1 σ1 h1 => ?_)
        refine V_aln hX 2 dL_law_184 rfl rfl ?_
        refine V_aln hX 0 dL_law_185 rfl rfl ?_
        refine V_iln hX 3 dL_law_186 rfl rfl ?_
        refine V_iconst hX (v := 1) dL_law_187 (by decide +kernel) ?_
        refine V_iadd hX dL_law_188 ?_
        refine V_top (y := nI (i + 1)) (by simp only [pk_mul, nI_add, nI_1]) ?_
        refine L_sld hX hL (by omega) (by omega) dL_law_189 ?_
        refine L_Mi (n := 1) hX (k_change d' τ (xs (i + 1)) hr.mi) (lw_V q267 q268 q269 q21 q270) rfl rfl (by decide +kernel) ⟨Nat.le_of_ble_eq_true rfl, Nat.le_of_ble_eq_true rfl⟩ rfl rfl (Nat.le_of_ble_eq_true rfl) dL_law_190 (fun r2 τ2 h2 => ?_)
        refine V_ic_eq hX (tgt := 415) dL_law_193 (by decide) (fun c193 => ?_) (fun c193 => ?_)
        · exact j415 _ _ (by rw [h2.2]; exact h1.2.mono (by omega))
        · exact absurd (h1.1.trans h2.1.symm) c193
      · refine V_tin hX (off := 166) (tgt := 198) dL_law_32 (by decide +kernel) (by decide +kernel) (by decide +kernel) (by decide) ?_
        refine V_aln hX 1 dL_law_198 rfl rfl ?_
        refine V_aln hX 0 dL_law_199 rfl rfl ?_
        refine V_iln hX 3 dL_law_200 rfl rfl ?_
        refine V_iconst hX (v := 1) dL_law_201 (by decide +kernel) ?_
        refine V_iadd hX dL_law_202 ?_
        refine V_top (y := nI (i + 1)) (by simp only [pk_mul, nI_add, nI_1]) ?_
        refine L_sld hX hL (by omega) (by omega) dL_law_203 ?_
        refine L_Fi (n := 1) hX (c_drop d σ (xs (i + 1)) hr (by omega) (by omega)) (lw_V q166 q167 q168 q20 q169) rfl rfl (by decide +kernel) ⟨Nat.le_of_ble_eq_true rfl, Nat.le_of_ble_eq_true rfl⟩ rfl rfl (Nat.le_of_ble_eq_true rfl) dL_law_204 (fun r1 σ1 h1 => ?_)
        refine V_aln hX 2 dL_law_207 rfl rfl ?_
        refine V_aln hX 0 dL_law_208 rfl rfl ?_
        refine V_iln hX 3 dL_law_209 rfl rfl ?_
        refine V_iconst hX (v := 1) dL_law_210 (by decide +kernel) ?_
        refine V_iadd hX dL_law_211 ?_
        refine V_top (y := nI (i + 1)) (by simp only [pk_mul, nI_add, nI_1]) ?_
        refine L_sld hX hL (by omega) (by omega) dL_law_212 ?_
        refine L_Mi (n := 1) hX (k_drop d' τ (xs (i + 1)) hr.mi) (lw_V q271 q272 q273 q21 q274) rfl rfl (by decide +kernel) ⟨Nat.le_of_ble_eq_true rfl, Nat.le_of_ble_eq_true rfl⟩ rfl rfl (Nat.le_of_ble_eq_true rfl) dL_law_213 (fun r2 τ2 h2 => ?_)
        refine V_ic_eq hX (tgt := 415) dL_law_216 (by decide) (fun c216 => ?_) (fun c216 => ?_)
        · exact j415 _ _ (by rw [h2.2]; exact h1.2.mono (by omega))
        · exact absurd (h1.1.trans h2.1.symm) c216
      · refine V_tin hX (off := 189) (tgt := 221) dL_law_32 (by decide +kernel) (by decide +kernel) (by decide +kernel) (by decide) ?_
        refine V_aln hX 1 dL_law_221 rfl rfl ?_
        refine V_aln hX 0 dL_law_222 rfl rfl ?_
        refine V_iln hX 3 dL_law_223 rfl rfl ?_
        refine V_iconst hX (v := 1) dL_law_224 (by decide +kernel) ?_
        refine V_iadd hX dL_law_225 ?_
        refine V_top (y := nI (i + 1)) (by simp only [pk_mul, nI_add, nI_1]) ?_
        refine L_sld hX hL (by omega) (by omega) dL_law_226 ?_
        refine V_aln hX 0 dL_law_227 rfl rfl ?_
        refine V_iln hX 3 dL_law_228 rfl rfl ?_
        refine V_iconst hX (v := nI 2) dL_law_229 (by decide +kernel) ?_
        refine V_iadd hX dL_law_230 ?_
        refine V_top (y := nI (i + 2)) (by simp only [pk_mul, nI_add, nI_1]) ?_
        refine L_sld hX hL (by omega) (by omega) dL_law_231 ?_
        refine L_Fi (n := 2) hX (c_swap d σ (xs (i + 1)) (xs (i + 2)) hr (by omega) (by omega)) (lw_V q170 q171 q172 q20 q173) rfl rfl (by decide +kernel) ⟨Nat.le_of_ble_eq_true rfl, Nat.le_of_ble_eq_true rfl⟩ rfl rfl (Nat.le_of_ble_eq_true rfl) dL_law_232 (fun r1 σ1 h1 => ?_)
        refine V_aln hX 2 dL_law_235 rfl rfl ?_
        refine V_aln hX 0 dL_law_236 rfl rfl ?_
        refine V_iln hX 3 dL_law_237 rfl rfl ?_
        refine V_iconst hX (v := 1) dL_law_238 (by decide +kernel) ?_
        refine V_iadd hX dL_law_239 ?_
        refine V_top (y := nI (i + 1)) (by simp only [pk_mul, nI_add, nI_1]) ?_
        refine L_sld hX hL (by omega) (by omega) dL_law_240 ?_
        refine V_aln hX 0 dL_law_241 rfl rfl ?_
        refine V_iln hX 3 dL_law_242 rfl rfl ?_
        refine V_iconst hX (v := nI 2) dL_law_243 (by decide +kernel) ?_
        refine V_iadd hX dL_law_244 ?_
        refine V_top (y := nI (i + 2)) (by simp only [pk_mul, nI_add, nI_1]) ?_
        refine L_sld hX hL (by omega) (by omega) dL_law_245 ?_
        refine L_Mi (n := 2) hX (k_swap d' τ (xs (i + 1)) (xs (i + 2)) hr.mi) (lw_V q275 q276 q277 q21 q278) rfl rfl (by decide +kernel) ⟨Nat.le_of_ble_eq_true rfl, Nat.le_of_ble_eq_true rfl⟩ rfl rfl (Nat.le_of_ble_eq_true rfl) dL_law_246 (fun r2 τ2 h2 => ?_)
        refine V_ic_eq hX (tgt := 415) dL_law_249 (by decide) (fun c249 => ?_) (fun c249 => ?_)
        · exact j415 _ _ (by rw [h2.2]; exact h1.2.mono (by omega))
        · exact absurd (h1.1.trans h2.1.symm) c249
      · refine V_tin hX (off := 222) (tgt := 254) dL_law_32 (by decide +kernel) (by decide +kernel) (by decide +kernel) (by decide) ?_
        refine V_aln hX 1 dL_law_254 rfl rfl ?_
        refine V_aln hX 0 dL_law_255 rfl rfl ?_
        refine V_iln hX 3 dL_law_256 rfl rfl ?_
        refine V_iconst hX (v := 1) dL_law_257 (by decide +kernel) ?_
        refine V_iadd hX dL_law_258 ?_
        refine V_top (y := nI (i + 1)) (by simp only [pk_mul, nI_add, nI_1]) ?_
        refine L_sld hX hL (by omega) (by omega) dL_law_259 ?_
        refine L_Fi (n := 1) hX (c_size d σ (xs (i + 1)) hr) (lw_V q178 q179 q180 q20 q181) rfl rfl (by decide +kernel) ⟨Nat.le_of_ble_eq_true rfl, Nat.le_of_ble_eq_true rfl⟩ rfl rfl (Nat.le_of_ble_eq_true rfl) dL_law_260 (fun r1 σ1 h1 => ?_)
        obtain ⟨rfl, h1⟩ := h1
        refine V_aln hX 2 dL_law_263 rfl rfl ?_
        refine V_aln hX 0 dL_law_264 rfl rfl ?_
        refine V_iln hX 3 dL_law_265 rfl rfl ?_
        refine V_iconst hX (v := 1) dL_law_266 (by decide +kernel) ?_
        refine V_iadd hX dL_law_267 ?_
        refine V_top (y := nI (i + 1)) (by simp only [pk_mul, nI_add, nI_1]) ?_
        refine L_sld hX hL (by omega) (by omega) dL_law_268 ?_
        refine L_Mi (n := 1) hX (k_size d' τ (xs (i + 1))) (lw_V q279 q280 q281 q21 q282) rfl rfl (by decide +kernel) ⟨Nat.le_of_ble_eq_true rfl, Nat.le_of_ble_eq_true rfl⟩ rfl rfl (Nat.le_of_ble_eq_true rfl) dL_law_269 (fun r2 τ2 h2 => ?_)
        obtain ⟨rfl, h2⟩ := h2
        refine V_ic_eq hX (tgt := 415) dL_law_272 (by decide) (fun c272 => ?_) (fun c272 => ?_)
        · exact j415 _ _ (hr.mono (by omega))
        · exact absurd (h1.trans h2.symm) c272
      · refine V_tin hX (off := 245) (tgt := 277) dL_law_32 (by decide +kernel) (by decide +kernel) (by decide +kernel) (by decide) ?_
        refine V_aln hX 1 dL_law_277 rfl rfl ?_
        refine V_aln hX 0 dL_law_278 rfl rfl ?_
        refine V_iln hX 3 dL_law_279 rfl rfl ?_
        refine V_iconst hX (v := 1) dL_law_280 (by decide +kernel) ?_
        refine V_iadd hX dL_law_281 ?_
        refine V_top (y := nI (i + 1)) (by simp only [pk_mul, nI_add, nI_1]) ?_
        refine L_sld hX hL (by omega) (by omega) dL_law_282 ?_
        refine V_aln hX 0 dL_law_283 rfl rfl ?_
        refine V_iln hX 3 dL_law_284 rfl rfl ?_
        refine V_iconst hX (v := nI 2) dL_law_285 (by decide +kernel) ?_
        refine V_iadd hX dL_law_286 ?_
        refine V_top (y := nI (i + 2)) (by simp only [pk_mul, nI_add, nI_1]) ?_
        refine L_sld hX hL (by omega) (by omega) dL_law_287 ?_
        refine L_Fi (n := 2) hX (c_read d σ (xs (i + 1)) (xs (i + 2)) hr) (lw_V q182 q183 q184 q20 q185) rfl rfl (by decide +kernel) ⟨Nat.le_of_ble_eq_true rfl, Nat.le_of_ble_eq_true rfl⟩ rfl rfl (Nat.le_of_ble_eq_true rfl) dL_law_288 (fun r1 σ1 h1 => ?_)
        obtain ⟨rfl, h1⟩ := h1
        refine V_aln hX 2 dL_law_291 rfl rfl ?_
        refine V_aln hX 0 dL_law_292 rfl rfl ?_
        refine V_iln hX 3 dL_law_293 rfl rfl ?_
        refine V_iconst hX (v := 1) dL_law_294 (by decide +kernel) ?_
        refine V_iadd hX dL_law_295 ?_
        refine V_top (y := nI (i + 1)) (by simp only [pk_mul, nI_add, nI_1]) ?_
        refine L_sld hX hL (by omega) (by omega) dL_law_296 ?_
        refine V_aln hX 0 dL_law_297 rfl rfl ?_
        refine V_iln hX 3 dL_law_298 rfl rfl ?_
        refine V_iconst hX (v := nI 2) dL_law_299 (by decide +kernel) ?_
        refine V_iadd hX dL_law_300 ?_
        refine V_top (y := nI (i + 2)) (by simp only [pk_mul, nI_add, nI_1]) ?_
        refine L_sld hX hL (by omega) (by omega) dL_law_301 ?_
        refine L_Mi (n := 2) hX (k_read d' τ (xs (i + 1)) (xs (i + 2)) hr.mi) (lw_V q283 q284 q285 q21 q286) rfl rfl (by decide +kernel) ⟨Nat.le_of_ble_eq_true rfl, Nat.le_of_ble_eq_true rfl⟩ rfl rfl (Nat.le_of_ble_eq_true rfl) dL_law_302 (fun r2 τ2 h2 => ?_)
        obtain ⟨rfl, h2⟩ := h2
        refine V_ic_eq hX (tgt := 415) dL_law_305 (by decide) (fun c305 => ?_) (fun c305 => ?_)
        · exact j415 _ _ (hr.mono (by omega))
        · exact absurd (h1.trans h2.symm) c305
      · refine V_tin hX (off := 278) (tgt := 310) dL_law_32 (by decide +kernel) (by decide +kernel) (by decide +kernel) (by decide) ?_
        refine V_aln hX 1 dL_law_310 rfl rfl ?_
        refine V_aln hX 0 dL_law_311 rfl rfl ?_
        refine V_iln hX 3 dL_law_312 rfl rfl ?_
        refine V_iconst hX (v := 1) dL_law_313 (by decide +kernel) ?_
        refine V_iadd hX dL_law_314 ?_
        refine V_top (y := nI (i + 1)) (by simp only [pk_mul, nI_add, nI_1]) ?_
        refine L_sld hX hL (by omega) (by omega) dL_law_315 ?_
        refine L_Fi (n := 1) hX (c_cutAfter d σ (xs (i + 1)) hr) (lw_V q186 q187 q188 q20 q189) rfl rfl (by decide +kernel) ⟨Nat.le_of_ble_eq_true rfl, Nat.le_of_ble_eq_true rfl⟩ rfl rfl (Nat.le_of_ble_eq_true rfl) dL_law_316 (fun r1 σ1 h1 => ?_)
        refine V_aln hX 2 dL_law_319 rfl rfl ?_
        refine V_aln hX 0 dL_law_320 rfl rfl ?_
        refine V_iln hX 3 dL_law_321 rfl rfl ?_
        refine V_iconst hX (v := 1) dL_law_322 (by decide +kernel) ?_
        refine V_iadd hX dL_law_323 ?_
        refine V_top (y := nI (i + 1)) (by simp only [pk_mul, nI_add, nI_1]) ?_
        refine L_sld hX hL (by omega) (by omega) dL_law_324 ?_
        refine L_Mi (n := 1) hX (k_cutAfter d' τ (xs (i + 1))) (lw_V q287 q288 q289 q21 q290) rfl rfl (by decide +kernel) ⟨Nat.le_of_ble_eq_true rfl, Nat.le_of_ble_eq_true rfl⟩ rfl rfl (Nat.le_of_ble_eq_true rfl) dL_law_325 (fun r2 τ2 h2 => ?_)
        refine V_ic_eq hX (tgt := 415) dL_law_328 (by decide) (fun c328 => ?_) (fun c328 => ?_)
        · exact j415 _ _ (by rw [h2.2]; exact h1.2.mono (by omega))
        · exact absurd (h1.1.trans h2.1.symm) c328
      · refine V_tin hX (off := 301) (tgt := 333) dL_law_32 (by decide +kernel) (by decide +kernel) (by decide +kernel) (by decide) ?_
        refine V_aln hX 1 dL_law_333 rfl rfl ?_
        refine L_Fi (n := 0) hX (c_cancel d σ hr) (lw_V q190 q191 q192 q20 q193) rfl rfl (by decide +kernel) ⟨Nat.le_of_ble_eq_true rfl, Nat.le_of_ble_eq_true rfl⟩ rfl rfl (Nat.le_of_ble_eq_true rfl) dL_law_334 (fun r1 σ1 h1 => ?_)
        refine V_aln hX 2 dL_law_337 rfl rfl ?_
        refine L_Mi (n := 0) hX (k_cancel d' τ ) (lw_V q291 q292 q293 q21 q294) rfl rfl (by decide +kernel) ⟨Nat.le_of_ble_eq_true rfl, Nat.le_of_ble_eq_true rfl⟩ rfl rfl (Nat.le_of_ble_eq_true rfl) dL_law_338 (fun r2 τ2 h2 => ?_)
        refine V_ic_eq hX (tgt := 415) dL_law_341 (by decide) (fun c341 => ?_) (fun c341 => ?_)
        · exact j415 _ _ (by rw [h2.2]; exact h1.2.mono (by omega))
        · exact absurd (h1.1.trans h2.1.symm) c341
      · refine V_tin hX (off := 314) (tgt := 346) dL_law_32 (by decide +kernel) (by decide +kernel) (by decide +kernel) (by decide) ?_
        refine V_aln hX 1 dL_law_346 rfl rfl ?_
        refine L_Fv (n := 0) hX (c_restart d σ hr (by omega) (by omega)) (lw_V q194 q195 q196 q20 q197) rfl rfl (by decide +kernel) ⟨Nat.le_of_ble_eq_true rfl, Nat.le_of_ble_eq_true rfl⟩ rfl rfl (Nat.le_of_ble_eq_true rfl) dL_law_347 (fun σ1 h1 => ?_)
        refine V_aln hX 2 dL_law_350 rfl rfl ?_
        refine L_Mv (n := 0) hX (k_restart d' τ ) (lw_V q295 q264 q265 q21 q266) rfl rfl (by decide +kernel) ⟨Nat.le_of_ble_eq_true rfl, Nat.le_of_ble_eq_true rfl⟩ rfl rfl (Nat.le_of_ble_eq_true rfl) dL_law_351 (fun τ2 h2 => ?_)
        subst h2
        refine V_goto hX (tgt := 415) dL_law_354 (by decide) ?_
        exact j415 _ _ (h1.mono (by omega))
      · refine V_tin hX (off := 325) (tgt := 357) dL_law_32 (by decide +kernel) (by decide +kernel) (by decide +kernel) (by decide) ?_
        refine V_aln hX 1 dL_law_357 rfl rfl ?_
        refine L_Fi (n := 0) hX (c_drafted d σ hr) (lw_V q198 q199 q200 q20 q201) rfl rfl (by decide +kernel) ⟨Nat.le_of_ble_eq_true rfl, Nat.le_of_ble_eq_true rfl⟩ rfl rfl (Nat.le_of_ble_eq_true rfl) dL_law_358 (fun r1 σ1 h1 => ?_)
        obtain ⟨rfl, h1⟩ := h1
        refine V_aln hX 2 dL_law_361 rfl rfl ?_
        refine L_Mi (n := 0) hX (k_drafted d' τ ) (lw_V q296 q297 q298 q21 q299) rfl rfl (by decide +kernel) ⟨Nat.le_of_ble_eq_true rfl, Nat.le_of_ble_eq_true rfl⟩ rfl rfl (Nat.le_of_ble_eq_true rfl) dL_law_362 (fun r2 τ2 h2 => ?_)
        obtain ⟨rfl, h2⟩ := h2
        refine V_ic_eq hX (tgt := 415) dL_law_365 (by decide) (fun c365 => ?_) (fun c365 => ?_)
        · exact j415 _ _ (hr.mono (by omega))
        · exact absurd (h1.trans h2.symm) c365
      · refine V_tin hX (off := 338) (tgt := 370) dL_law_32 (by decide +kernel) (by decide +kernel) (by decide +kernel) (by decide) ?_
        refine V_aln hX 1 dL_law_370 rfl rfl ?_
        refine L_Fi (n := 0) hX (c_digest d σ hr) (lw_V q202 q203 q204 q20 q205) rfl rfl (by decide +kernel) ⟨Nat.le_of_ble_eq_true rfl, Nat.le_of_ble_eq_true rfl⟩ rfl rfl (Nat.le_of_ble_eq_true rfl) dL_law_371 (fun r1 σ1 h1 => ?_)
        obtain ⟨rfl, h1⟩ := h1
        refine V_aln hX 2 dL_law_374 rfl rfl ?_
        refine L_Mi (n := 0) hX (k_digest d' τ hr.mi) (lw_V q300 q301 q302 q21 q303) rfl rfl (by decide +kernel) ⟨Nat.le_of_ble_eq_true rfl, Nat.le_of_ble_eq_true rfl⟩ rfl rfl (Nat.le_of_ble_eq_true rfl) dL_law_375 (fun r2 τ2 h2 => ?_)
        obtain ⟨rfl, h2⟩ := h2
        refine V_ic_eq hX (tgt := 415) dL_law_378 (by decide) (fun c378 => ?_) (fun c378 => ?_)
        · exact j415 _ _ (hr.mono (by omega))
        · exact absurd (h1.trans h2.symm) c378
      · refine V_tin hX (off := 351) (tgt := 383) dL_law_32 (by decide +kernel) (by decide +kernel) (by decide +kernel) (by decide) ?_
        refine V_aln hX 1 dL_law_383 rfl rfl ?_
        refine V_aln hX 0 dL_law_384 rfl rfl ?_
        refine V_iln hX 3 dL_law_385 rfl rfl ?_
        refine V_iconst hX (v := 1) dL_law_386 (by decide +kernel) ?_
        refine V_iadd hX dL_law_387 ?_
        refine V_top (y := nI (i + 1)) (by simp only [pk_mul, nI_add, nI_1]) ?_
        refine L_sld hX hL (by omega) (by omega) dL_law_388 ?_
        refine L_Fv (n := 1) hX (c_rest d σ (xs (i + 1)) hr (by omega)) (lw_V q206 q207 q208 q20 q209) rfl rfl (by decide +kernel) ⟨Nat.le_of_ble_eq_true rfl, Nat.le_of_ble_eq_true rfl⟩ rfl rfl (Nat.le_of_ble_eq_true rfl) dL_law_389 (fun σ1 h1 => ?_)
        refine V_aln hX 2 dL_law_392 rfl rfl ?_
        refine V_aln hX 0 dL_law_393 rfl rfl ?_
        refine V_iln hX 3 dL_law_394 rfl rfl ?_
        refine V_iconst hX (v := 1) dL_law_395 (by decide +kernel) ?_
        refine V_iadd hX dL_law_396 ?_
        refine V_top (y := nI (i + 1)) (by simp only [pk_mul, nI_add, nI_1]) ?_
        refine L_sld hX hL (by omega) (by omega) dL_law_397 ?_
        refine L_Mv (n := 1) hX (k_rest d' τ (xs (i + 1))) (lw_V q304 q305 q306 q21 q307) rfl rfl (by decide +kernel) ⟨Nat.le_of_ble_eq_true rfl, Nat.le_of_ble_eq_true rfl⟩ rfl rfl (Nat.le_of_ble_eq_true rfl) dL_law_398 (fun τ2 h2 => ?_)
        subst h2
        refine V_goto hX (tgt := 415) dL_law_401 (by decide) ?_
        exact j415 _ _ (h1.mono (by omega))
      · refine V_tin hX (off := 372) (tgt := 404) dL_law_32 (by decide +kernel) (by decide +kernel) (by decide +kernel) (by decide) ?_
        refine V_aln hX 1 dL_law_404 rfl rfl ?_
        refine L_Fv (n := 0) hX (c_fail d σ hr) (lw_V q214 q215 q216 q20 q217) rfl rfl (by decide +kernel) ⟨Nat.le_of_ble_eq_true rfl, Nat.le_of_ble_eq_true rfl⟩ rfl rfl (Nat.le_of_ble_eq_true rfl) dL_law_405 (fun σ1 h1 => ?_)
        refine V_aln hX 2 dL_law_408 rfl rfl ?_
        refine L_Mv (n := 0) hX (k_fail d' τ ) (lw_V q308 q309 q310 q21 q311) rfl rfl (by decide +kernel) ⟨Nat.le_of_ble_eq_true rfl, Nat.le_of_ble_eq_true rfl⟩ rfl rfl (Nat.le_of_ble_eq_true rfl) dL_law_409 (fun τ2 h2 => ?_)
        subst h2
        refine V_goto hX (tgt := 415) dL_law_412 (by decide) ?_
        exact j415 _ _ (h1.mono (by omega))
      · refine V_tout hX (tgt := 415) dL_law_32 (by decide +kernel) (by decide) ?_
        exact j415 _ _ (hr.mono (by omega))
end
section
set_option maxRecDepth 100000
set_option maxHeartbeats 8000000 in
theorem whole_start {p : Program} {e : Env} {s : State} {m : MethodId} {below : List Frame} {meth : Method} {c : Code} (l : Launch) {b L : Nat} {xs : Nat → Int32} (hL : L ≤ 192) (C0 : lw_At p s m meth c b L xs) : W p l e room_1 s m #[Value.ref b] below meth c s.heap [] 0 0 (lw_Z below #[Value.ref b] s) (entryFrame m ([Value.ref b] : List Value).toArray 4) := by
  obtain ⟨hx, hb, hr, hml, hown, hts0, hXs, hbl, hlocks, hgv⟩ := id C0
  have hts : ∀ w ∈ lw_all, w.before #[Value.ref b] s = true := fun w h => hts0 w (lw_all_tbl h)
  have hA : ∀ q : Nat, s.heap.size ≤ q → (fun q : Nat => s.heap.size ≤ q) q := fun _ h => h
  have hbA : ¬ (fun q : Nat => s.heap.size ≤ q) b := Nat.not_le.mpr hbl
  obtain ⟨c0, iS0, hKn0⟩ := u_known (C := RX0) (T := TX0) (N := 19) (n := 19) hts in_X0 (hts _ q23)
  obtain ⟨c1, iS1, hKn1⟩ := u_known (C := RX1) (T := TX1) (N := 6) (n := 6) hts in_X1 (hts _ q219)
  obtain ⟨dC, dI, hKc⟩ : ∃ (dC : Nat → ClassId) (dI : Nat → Nat → Nat), ∀ (k : Nat) (q : vw_C), vwCl[k]? = some q → u_Kn s q.1 q.2.1 q.2.2 (dC k) (dI k) := by
    refine ⟨fun k => if k = 0 then c0 else c1, fun k => if k = 0 then iS0 else iS1, ?_⟩
    intro k q hq
    match k, hq with
    | 0, hq => cases hq; exact hKn0
    | 1, hq => cases hq; exact hKn1
    | k + 2, hq => simp [vwCl] at hq
  have hS : va_S (fun q : Nat => s.heap.size ≤ q) s.heap s.heap [] := va_S.rf
  have hK : va_K (dC, dI) vwCl [] s := ⟨hKc, fun k q h => by simp at h⟩
  have hP : va_P (dC, dI) vwCl [] s.heap := fun k q h => by simp at h
  have hD : va_D (fun q : Nat => s.heap.size ≤ q) [] := ⟨fun i j p q h => by simp at h, fun k q h => by simp at h⟩
  have hl := lv_entry ([.ref b]) (n := 4) (Nat.le_of_ble_eq_true rfl)
  rw [lg_entry_eq]
  generalize (lg_sl ([.ref b]) ++ List.replicate (4 - (lg_sl ([.ref b])).length) Slot.unset).toArray = ls at hl ⊢
  have hl : lv_has ls 4 [(0, .ref b)] := hl
  refine va_new (ci := 0) (fs := fsF0) (C := RX0) (T := TX0) (N := 19) hx hb hts in_X0 tyX0 tyX0_ok hown (hts _ q22) (hts _ q23) (hts _ q20) hK hP hD hS hA rfl (fun j hj => by rcases (show j = 0 ∨ j = 1 ∨ j = 2 ∨ j = 3 ∨ j = 4 ∨ j = 5 ∨ j = 6 ∨ j = 7 ∨ j = 8 ∨ j = 9 ∨ j = 10 ∨ j = 11 ∨ j = 12 ∨ j = 13 ∨ j = 14 ∨ j = 15 ∨ j = 16 ∨ j = 17 ∨ j = 18 by omega) with rfl | rfl | rfl | rfl | rfl | rfl | rfl | rfl | rfl | rfl | rfl | rfl | rfl | rfl | rfl | rfl | rfl | rfl | rfl <;> rfl) (Nat.le_of_ble_eq_true rfl) (Nat.le_of_ble_eq_true rfl) dL_law_0 (fun q0 H hP hD hS => ?_)
  have hP : va_P (dC, dI) vwCl [(q0, .inr (0, fsF0))] H := hP
  have hD : va_D (fun q : Nat => s.heap.size ≤ q) [(q0, .inr (0, fsF0))] := hD
  refine W.widen (k := 1) (n := 19) (by omega) (by first | omega | (dsimp only; omega)) ?_
  refine lv_dup hx hb dL_law_3 rfl ?_
  have hFc := va_free (wc := [(q0, .inr (0, fsF0))]) hD hS hA [0] rfl
  have hKc := hK.sub (tys' := []) [] rfl
  have hPc := hP
  have hDc := hD
  refine va_callv (va_runI (As := []) (rest := [.ref q0]) ⟨hx, hb, hml, hown, hts⟩ (c_init l dC dI q0 H.size) (cwI 0 hts (lw_meth q26) rfl rfl rfl (hts _ q20) (hts _ q24) (hts _ q25) rfl (by decide +kernel) ⟨Nat.le_of_ble_eq_true rfl, Nat.le_of_ble_eq_true rfl⟩) ⟨fun a U g mk q => by obtain ⟨q0, q1, qP, qK, qD⟩ := q; exact ⟨q0, q1, qP, va_K.moved (u := U) (U := U.calling g mk a) (Vm.Alike.refl U.vm) qK, qD⟩, fun U hU hW => ⟨rfl, by rw [hU], by rw [hU]; exact hPc, va_K.moved hW.alike hKc, hDc.weaken (fun _ _ _ _ => trivial)⟩⟩ rfl rfl hl.1 rfl (lv_room (Nat.le_of_ble_eq_true rfl)) dL_law_4 ⟨Nat.le_of_ble_eq_true rfl, Nat.le_of_ble_eq_true rfl⟩) hS (fun q _ h => hFc q h) hFc (fun u t H1 locs ht hvm hw hB hz1 hk1 hS => ?_)
  obtain ⟨d, σ⟩ := u
  obtain ⟨hd19, hrel⟩ := hw
  have hd19 : d 19 = q0 := hd19
  have hrel : Rel σ z0 1 := hrel
  subst hd19
  obtain ⟨hP1, hK1, hD1⟩ := hB
  rw [ht] at hP1
  have hK1 := va_K.moved hvm.symm hK1
  obtain ⟨hP, hD⟩ := va_join (wr := []) (w1 := wF d σ) hP hD [0] [] rfl rfl (by decide) (by decide) hk1 hFc hP1 hD1
  have hK := (hK.sub (tys' := []) [] rfl).app hK1
  generalize H1 = H at hP hS ⊢
  have hP : va_P (dC, dI) vwCl (wF d σ) H := hP
  have hD : va_D (fun q : Nat => s.heap.size ≤ q) (wF d σ) := hD
  have hK : va_K (dC, dI) vwCl (tF d) s := hK
  refine W.widen (k := 14) (n := 243) (by omega) (by first | omega | (dsimp only; omega)) ?_
  refine lv_astore_n (lv' := [(1, .ref (d 19)), (0, .ref b)]) hx hb dL_law_7 rfl hl (by decide) rfl (fun ls hl => ?_)
  refine va_new (ci := 1) (fs := fsM0) (C := RX1) (T := TX1) (N := 6) hx hb hts in_X1 tyX1 tyX1_ok hown (hts _ q218) (hts _ q219) (hts _ q21) hK hP hD hS hA rfl (fun j hj => by rcases (show j = 0 ∨ j = 1 ∨ j = 2 ∨ j = 3 ∨ j = 4 ∨ j = 5 by omega) with rfl | rfl | rfl | rfl | rfl | rfl <;> rfl) (Nat.le_of_ble_eq_true rfl) (Nat.le_of_ble_eq_true rfl) dL_law_8 (fun q1 H hP hD hS => ?_)
  refine W.widen (k := 15) (n := 249) (by omega) (by first | omega | (dsimp only; omega)) ?_
  refine lv_dup hx hb dL_law_11 rfl ?_
  have hFc := va_free (wc := [(q1, .inr (1, fsM0))]) hD hS hA [14] rfl
  have hKc := hK.sub (tys' := []) [] rfl
  have hPc := hP.sub (ws' := [(q1, .inr (1, fsM0))]) [14] rfl
  have hDc := hD.sub (ws' := [(q1, .inr (1, fsM0))]) [14] (by decide) rfl
  refine va_callv (va_runI (As := []) (rest := [.ref q1]) ⟨hx, hb, hml, hown, hts⟩ (k_init l dC dI q1 H.size) (cwI 0 hts (lw_meth q222) rfl rfl rfl (hts _ q21) (hts _ q220) (hts _ q221) rfl (by decide +kernel) ⟨Nat.le_of_ble_eq_true rfl, Nat.le_of_ble_eq_true rfl⟩) ⟨fun a U g mk q => by obtain ⟨q0, q1, qP, qK, qD⟩ := q; exact ⟨q0, q1, qP, va_K.moved (u := U) (U := U.calling g mk a) (Vm.Alike.refl U.vm) qK, qD⟩, fun U hU hW => ⟨rfl, by rw [hU], by rw [hU]; exact hPc, va_K.moved hW.alike hKc, hDc.weaken (fun _ _ _ _ => trivial)⟩⟩ rfl rfl hl.1 rfl (lv_room (Nat.le_of_ble_eq_true rfl)) dL_law_12 ⟨Nat.le_of_ble_eq_true rfl, Nat.le_of_ble_eq_true rfl⟩) hS (fun q _ h => hFc q h) hFc (fun u t H1 locs ht hvm hw hB hz1 hk1 hS => ?_)
  obtain ⟨d', τ⟩ := u
  obtain ⟨hd6, hτ⟩ := hw
  have hd6 : d' 6 = q1 := hd6
  have hτ : τ = z0 := hτ
  subst hτ
  subst hd6
  obtain ⟨hP1, hK1, hD1⟩ := hB
  rw [ht] at hP1
  have hK1 := va_K.moved hvm.symm hK1
  obtain ⟨hP, hD⟩ := va_join (wr := wF d σ) (w1 := wM d' z0) hP hD [14] [0, 1, 2, 3, 4, 5, 6, 7, 8, 9, 10, 11, 12, 13] rfl rfl (by decide) (by decide) hk1 hFc hP1 hD1
  have hK := hK.app hK1
  generalize H1 = H at hP hS ⊢
  have hK : va_K (dC, dI) vwCl (tF d ++ tM d') s := hK
  refine W.widen (k := 18) (n := 293) (by omega) (by first | omega | (dsimp only; omega)) ?_
  refine lv_astore_n (lv' := [(2, .ref (d' 6)), (1, .ref (d 19)), (0, .ref b)]) hx hb dL_law_15 rfl hl (by decide) rfl (fun ls hl => ?_)
  have hlh : lh ls c.maxLocals [.ref b, .ref (d 19), .ref (d' 6)] := by
    rw [hml]
    refine ⟨hl.1, hl.2.1, by simp [Value.category], fun i v hi => ?_⟩
    match i, hi with
    | 0, hi => cases hi; exact lv_at hl 2 rfl
    | 1, hi => cases hi; exact lv_at hl 1 rfl
    | 2, hi => cases hi; exact lv_at hl 0 rfl
    | i + 3, hi => simp at hi
  have hV : V (p, l, e, room_1, s, m, #[Value.ref b], below, meth, c, (dC, dI), (fun q : Nat => s.heap.size ≤ q), lw_Z below #[Value.ref b] s, 18, 293) (wF d σ ++ wM d' z0) [.ref b, .ref (d 19), .ref (d' 6)] 16 [] := by
    have hX : Ok (p, l, e, room_1, s, m, #[Value.ref b], below, meth, c, (dC, dI), (fun q : Nat => s.heap.size ≤ q), lw_Z below #[Value.ref b] s, 18, 293) cL_law 4 R_law room_1 (tF d ++ tM d') := ⟨hx, hb, hml, hown, hts, hK, hA, rfl, by decide +kernel, by decide +kernel⟩
    have hLo : LOk (p, l, e, room_1, s, m, #[Value.ref b], below, meth, c, (dC, dI), (fun q : Nat => s.heap.size ≤ q), lw_Z below #[Value.ref b] s, 18, 293) b L xs := ⟨hXs, hbl, hbA⟩
    have hRt : ∀ (w : va_W) (Lv : List Value) (pc : Nat), decode cL_law pc = .ok (.ireturn, 1) → V (p, l, e, room_1, s, m, #[Value.ref b], below, meth, c, (dC, dI), (fun q : Nat => s.heap.size ≤ q), lw_Z below #[Value.ref b] s, 18, 293) w Lv pc [.int 1] := by
      intro w Lv pc hdg H locs ls hP hD hS hl
      refine va_forget (fun q hq => hS.2.2 q hq) ?_
      refine W.widen (k := 600000) (n := 7290000) (by decide) (by decide) ?_
      exact lw_ret hx hb hr hlocks hdg
    generalize (p, l, e, room_1, s, m, #[Value.ref b], below, meth, c, (dC, dI), (fun q : Nat => s.heap.size ≤ q), lw_Z below #[Value.ref b] s, 18, 293) = X at hX hLo hRt ⊢
    refine V_iconst hX (v := 0) dL_law_16 (by decide +kernel) ?_
    refine V_isn hX 3 dL_law_17 rfl (Nat.le_of_ble_eq_true rfl) (Nat.le_of_ble_eq_true rfl) ?_
    dsimp only [lput]
    exact law_loop d d' hX hLo hL hRt (L + 1) 0 σ z0 (Nat.zero_le _) (by omega) hrel
  exact hV H locs ls hP hD hS hlh
-- ===== YOUR PART ENDS =====
set_option maxHeartbeats 4000000 in
theorem lw_walk (l : Launch) (b : Addr) (xs : List Int32) : MetFree l x (headSpec (Jvm.Cond.code x code maxLocals ret :: tables_1) room_1) (lw_P b xs) (fun _ _ _ _ _ => True) lw_Q := by
  refine MetFree.of_bodyS (code := code) (maxLocals := maxLocals) (ret := ret) (by decide) ?_ ?_
  · intro args s m h hn
    obtain ⟨meth, c, h1, h2, h3, h4, h5, h6, -, -⟩ := Cond.code_spec hn (atoms_spec (ws := Jvm.Cond.code x code maxLocals ret :: tables_1) h _ List.mem_cons_self)
    exact ⟨meth, c, h1, h2, h3, h4, h5, h6⟩
  · intro p e s m args below meth c s₁ B hml0 hP _
    obtain ⟨rfl, hx, hbd, hgv⟩ := hP
    obtain ⟨scr, harrAt, hlist, hof, hsmall⟩ := hx
    obtain ⟨hcb, hkn, -, -⟩ := State.arrayAt?_spec harrAt
    have hown : s.vm.findClass R_law = some m.cls := findClass_of_methodNamed B.named
    have hts0 : ∀ c ∈ (Jvm.Cond.code x code maxLocals ret :: tables_1), c.before #[Value.ref b] s = true := atoms_spec (ws := Jvm.Cond.code x code maxLocals ret :: tables_1) B.pre
    have hts : ∀ w ∈ lw_tbl, w.before #[Value.ref b] s = true := k2_hts_sels lw_privs (fun w hw => hts0 w (List.mem_cons_of_mem _ hw)) lw_privs_ok
    have hml : c.maxLocals = 4 := B.maxLocals_eq (hts0 _ List.mem_cons_self)
    have X₀ : Stand p l e room_1 s m #[Value.ref b] below meth c s₁ [] 0 0 := Stand.of_body B
    have hh0 : s₁.heap = s.heap := by rw [B.state]; rfl
    have hsz : scr.slots.size = xs.length := by rw [← Array.length_toList, hlist, List.length_map]
    have hval : ∀ j : Nat, j < xs.length → scr.slots[j]? = some (.int (xs.getD j 0)) := fun j hj => by
      rw [← Array.getElem?_toList, hlist]
      simp [hj]
    have hbl : b < s.heap.size := (Array.getElem?_eq_some_iff.mp hcb).1
    have hX : va_X b xs.length (fun j => xs.getD j 0) s s.heap := ⟨scr, hcb, hof, hkn, hsz, hval⟩
    have K : W p l e room_1 s m #[Value.ref b] below meth c s₁.heap [] 0 0 (lw_Z below #[Value.ref b] s) (entryFrame m ([Value.ref b] : List Value).toArray 4) := by
      rw [hh0]
      exact whole_start l hbd ⟨B.exec, B.bytes, B.returns, hml, hown, hts, hX, hbl, B.notSynchronized, hgv⟩
    obtain ⟨t, a1, o, b1, b2, b3⟩ := K s₁ rfl X₀
    exact ⟨t, o, a1, b1, b2, b3⟩
theorem lw_pre_spec {args : Array Value} {s : State} (h : (Jvm.Cond.and given_1 narrow_1).before args s = true) (hr : rest_1_c.before args s = true) : ∃ (b : Addr) (xs : List Int32), lw_P b xs args s := by
  have hs := flat_of_before _ h
  have hq := flat_of_before _ hr
  have hc : (Cond.count 1).before args s = true := hs _ (by decide +kernel)
  have harr : (Cond.arrayOf (.arg 0) .int).before args s = true := hs _ (by decide +kernel)
  have hle : (Cond.le (.length (.arg 0)) (.int 192)).before args s = true := hs _ (by decide +kernel)
  have hlen : (Cond.isInt (.length (.arg 0))).before args s = true := hq _ (by decide +kernel)
  have hall : (Cond.all (.arg 0) (.isInt (.elem (.arg 0) (.index 0)))).before args s = true := hq _ (by decide +kernel)
  obtain ⟨b, xs, hb, hx⟩ := State.ints_of_pre rfl harr hlen hall
  have hsm : xs.length < 2 ^ 31 := hx.choose_spec.2.2.2
  have hev : (Term.length (.arg 0)).eval args s none [] s = some (.int xs.length.toInt32) := hx.length_eval hb
  have hv := Cond.le_ints hev (show (Term.int 192).eval args s none [] s = some (.int 192) from rfl)
  have hd : xs.length.toInt32 ≤ 192 := by
    simpa [Cond.before, Cond.holds, hv] using hle
  have hN : xs.length ≤ 192 := (Int32.ofNat_le_ofNat hsm (by decide)).mp (show Int32.ofNat xs.length ≤ Int32.ofNat 192 from hd)
  exact ⟨b, xs, Cond.one_arg hc (show args[0]? = some (.ref b) from hb), hx, hN, h⟩
theorem lw_comes (l : Launch) : Comes l x (Jvm.Cond.code x code maxLocals ret :: tables_1) room_1 (fun tb e args s => Calls_1 tb e args s ∧ rest_1 tb e args s ∧ Pre_1 tb e args s)
    (fun _ _ args s o t => lw_Q args s o t) := by
  intro p e ha hc hk s m args below hf hfit hheap happ hpre
  obtain ⟨b, xs, hP⟩ := lw_pre_spec hpre.2.2 hpre.2.1
  obtain ⟨k, o, h1, h2, h3, hQ⟩ := lw_walk l b xs p e ha hc hk s m args below hf ((Spec.applies_iff_loose hf).mp happ).1 hP trivial
  exact ⟨k, o, h1, h2, h3, hQ⟩
theorem lw_frame {s t : State} {o : Outcome} {args : Array Value} (h : Framed s o t [] 600000 7290000) :
    Framed s o t (fieldLocs frame_1_writes args s ++ arrayLocs frame_1_arrays args s ++ staticLocs frame_1_statics s) 600000 7290000 := h
theorem lw_limb (L : Cond) (hL : ∀ (args : Array Value) (s t : State), L.after args s (.returned (some (.int 1))) t = true) :
    ArmFor flags0 classFile x code maxLocals ret World_1 tables_1 room_1 Calls_1 rest_1 Pre_1
      (fun tb e a s o t => postC L tb e a s o t ∧ Framed s o t (fieldLocs frame_1_writes a s ++ arrayLocs frame_1_arrays a s ++ staticLocs frame_1_statics s) 600000 7290000) := by
  intro l _ _ _ p e ha hc hk s m args below hf hfit hheap happ hpre
  obtain ⟨k, o, h1, h2, h3, rfl, hF⟩ := lw_comes l p e ha hc hk s m args below hf hfit hheap happ hpre
  exact ⟨k, _, h1, h2, h3, hL args s _, lw_frame hF⟩
theorem i_vc : Claimed_1_1 ∧ Claimed_1_2 := ⟨lw_limb limb_1_1 (fun args s t => by simp [limb_1_1, Cond.after, Cond.holds, Cond.value]), lw_limb limb_1_2 (fun args s t => Cond.after_iff.mpr (by
  first | (rw [show limb_1_2 = Cond.eq .result (.int 1) from rfl, Cond.eq_ints (x := 1) (y := 1) rfl rfl]; simp; done) | (simp [limb_1_2, Cond.value, Term.eval]; done)))⟩
end
