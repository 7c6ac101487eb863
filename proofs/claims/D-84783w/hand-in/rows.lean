section
-- ===== PART A: goes FIRST, ahead of the names: the tables' words, and 'selects' of the private methods out of them =====
/-- a private method of a class that the tables say can be made, by its rows of tables_1 -/
def lw_okq (q : MethodName × Nat) : Prop := (q.1.cls ≠ "java/lang/invoke/MethodHandle" ∧ q.1.cls ≠ "java/lang/invoke/VarHandle") ∧ Cond.instantiable q.1.cls q.2 ∈ tables_1 ∧ Cond.privateMethod q.1 ∈ tables_1 ∧ Cond.instanceMethod q.1 ∈ tables_1
set_option maxRecDepth 100000
theorem lw_t1 {w : Cond} (h : w ∈ tables_1_1) : w ∈ tables_1 := List.mem_append_left _ h
theorem lw_t2 {w : Cond} (h : w ∈ tables_1_2) : w ∈ tables_1 := List.mem_append_right _ h
theorem lw_p0 : lw_okq (⟨"ClaimBench", "isThere", "(I)Z"⟩, 11) := ⟨⟨by decide +kernel, by decide +kernel⟩, lw_t1 (List.mem_of_getElem? (i := 4) rfl), lw_t1 (List.mem_of_getElem? (i := 71) rfl), lw_t1 (List.mem_of_getElem? (i := 72) rfl)⟩
theorem lw_p1 : lw_okq (⟨"ClaimBench", "listens", "(I)Z"⟩, 11) := ⟨⟨by decide +kernel, by decide +kernel⟩, lw_t1 (List.mem_of_getElem? (i := 4) rfl), lw_t1 (List.mem_of_getElem? (i := 83) rfl), lw_t1 (List.mem_of_getElem? (i := 84) rfl)⟩
theorem lw_p2 : lw_okq (⟨"ClaimBench", "isSending", "(II)Z"⟩, 11) := ⟨⟨by decide +kernel, by decide +kernel⟩, lw_t1 (List.mem_of_getElem? (i := 4) rfl), lw_t1 (List.mem_of_getElem? (i := 87) rfl), lw_t1 (List.mem_of_getElem? (i := 88) rfl)⟩
theorem lw_p3 : lw_okq (⟨"ClaimBench", "isLost", "(II)Z"⟩, 11) := ⟨⟨by decide +kernel, by decide +kernel⟩, lw_t1 (List.mem_of_getElem? (i := 4) rfl), lw_t1 (List.mem_of_getElem? (i := 91) rfl), lw_t1 (List.mem_of_getElem? (i := 92) rfl)⟩
theorem lw_p4 : lw_okq (⟨"ClaimBench", "held", "(II)I"⟩, 11) := ⟨⟨by decide +kernel, by decide +kernel⟩, lw_t1 (List.mem_of_getElem? (i := 4) rfl), lw_t1 (List.mem_of_getElem? (i := 95) rfl), lw_t1 (List.mem_of_getElem? (i := 96) rfl)⟩
theorem lw_p5 : lw_okq (⟨"ClaimBench", "own", "(II)I"⟩, 11) := ⟨⟨by decide +kernel, by decide +kernel⟩, lw_t1 (List.mem_of_getElem? (i := 4) rfl), lw_t1 (List.mem_of_getElem? (i := 99) rfl), lw_t1 (List.mem_of_getElem? (i := 100) rfl)⟩
theorem lw_p6 : lw_okq (⟨"ClaimBench", "say", "(II)V"⟩, 11) := ⟨⟨by decide +kernel, by decide +kernel⟩, lw_t1 (List.mem_of_getElem? (i := 4) rfl), lw_t1 (List.mem_of_getElem? (i := 107) rfl), lw_t1 (List.mem_of_getElem? (i := 108) rfl)⟩
theorem lw_p7 : lw_okq (⟨"ClaimBench", "hear", "(III)V"⟩, 11) := ⟨⟨by decide +kernel, by decide +kernel⟩, lw_t1 (List.mem_of_getElem? (i := 4) rfl), lw_t1 (List.mem_of_getElem? (i := 111) rfl), lw_t1 (List.mem_of_getElem? (i := 112) rfl)⟩
theorem lw_p8 : lw_okq (⟨"ClaimBenchModel", "isSending", "(II)Z"⟩, 11) := ⟨⟨by decide +kernel, by decide +kernel⟩, lw_t1 (List.mem_of_getElem? (i := 139) rfl), lw_t1 (List.mem_of_getElem? (i := 210) rfl), lw_t1 (List.mem_of_getElem? (i := 211) rfl)⟩
theorem lw_p9 : lw_okq (⟨"ClaimBenchModel", "isLost", "(II)Z"⟩, 11) := ⟨⟨by decide +kernel, by decide +kernel⟩, lw_t1 (List.mem_of_getElem? (i := 139) rfl), lw_t1 (List.mem_of_getElem? (i := 214) rfl), lw_t1 (List.mem_of_getElem? (i := 215) rfl)⟩
theorem lw_p10 : lw_okq (⟨"ClaimBenchModel", "keeps", "(II)I"⟩, 11) := ⟨⟨by decide +kernel, by decide +kernel⟩, lw_t1 (List.mem_of_getElem? (i := 139) rfl), lw_t1 (List.mem_of_getElem? (i := 218) rfl), lw_t1 (List.mem_of_getElem? (i := 219) rfl)⟩
theorem lw_p11 : lw_okq (⟨"ClaimBenchModel", "own", "(II)I"⟩, 11) := ⟨⟨by decide +kernel, by decide +kernel⟩, lw_t1 (List.mem_of_getElem? (i := 139) rfl), lw_t1 (List.mem_of_getElem? (i := 222) rfl), lw_t1 (List.mem_of_getElem? (i := 223) rfl)⟩
theorem lw_p12 : lw_okq (⟨"ClaimBenchModel", "say", "(II)V"⟩, 11) := ⟨⟨by decide +kernel, by decide +kernel⟩, lw_t1 (List.mem_of_getElem? (i := 139) rfl), lw_t1 (List.mem_of_getElem? (i := 230) rfl), lw_t1 (List.mem_of_getElem? (i := 231) rfl)⟩
theorem lw_p13 : lw_okq (⟨"ClaimBenchModel", "hear", "(III)V"⟩, 11) := ⟨⟨by decide +kernel, by decide +kernel⟩, lw_t1 (List.mem_of_getElem? (i := 139) rfl), lw_t1 (List.mem_of_getElem? (i := 234) rfl), lw_t1 (List.mem_of_getElem? (i := 235) rfl)⟩
def lw_privs_1 : List (MethodName × Nat) := [(⟨"ClaimBench", "isThere", "(I)Z"⟩, 11), (⟨"ClaimBench", "listens", "(I)Z"⟩, 11), (⟨"ClaimBench", "isSending", "(II)Z"⟩, 11), (⟨"ClaimBench", "isLost", "(II)Z"⟩, 11), (⟨"ClaimBench", "held", "(II)I"⟩, 11), (⟨"ClaimBench", "own", "(II)I"⟩, 11), (⟨"ClaimBench", "say", "(II)V"⟩, 11), (⟨"ClaimBench", "hear", "(III)V"⟩, 11), (⟨"ClaimBenchModel", "isSending", "(II)Z"⟩, 11), (⟨"ClaimBenchModel", "isLost", "(II)Z"⟩, 11), (⟨"ClaimBenchModel", "keeps", "(II)I"⟩, 11), (⟨"ClaimBenchModel", "own", "(II)I"⟩, 11), (⟨"ClaimBenchModel", "say", "(II)V"⟩, 11), (⟨"ClaimBenchModel", "hear", "(III)V"⟩, 11)]
theorem lw_r1 : ∀ q ∈ lw_privs_1, lw_okq q := List.forall_mem_cons.mpr ⟨lw_p0, List.forall_mem_cons.mpr ⟨lw_p1, List.forall_mem_cons.mpr ⟨lw_p2, List.forall_mem_cons.mpr ⟨lw_p3, List.forall_mem_cons.mpr ⟨lw_p4, List.forall_mem_cons.mpr ⟨lw_p5, List.forall_mem_cons.mpr ⟨lw_p6, List.forall_mem_cons.mpr ⟨lw_p7, List.forall_mem_cons.mpr ⟨lw_p8, List.forall_mem_cons.mpr ⟨lw_p9, List.forall_mem_cons.mpr ⟨lw_p10, List.forall_mem_cons.mpr ⟨lw_p11, List.forall_mem_cons.mpr ⟨lw_p12, List.forall_mem_cons.mpr ⟨lw_p13, fun _ h => absurd h List.not_mem_nil⟩⟩⟩⟩⟩⟩⟩⟩⟩⟩⟩⟩⟩⟩
def lw_privs : List (MethodName × Nat) := lw_privs_1
def lw_tbl : List Cond := k2_sels lw_privs ++ tables_1
theorem lw_privs_ok : ∀ q ∈ lw_privs, lw_okq q := lw_r1
-- ===== ONE list of words for every method: the tables' words that hold all through a run =====
def lw_all : List Cond := lw_tbl.filter goodWord
/-- a word of the tables by its place: claim/WORDS.tsv -/
theorem lw_w {w : Cond} (i : Nat) (h : lw_tbl[i]? = some w) (g : goodWord w = true) : w ∈ lw_all := List.mem_filter.mpr ⟨List.mem_of_getElem? h, g⟩
theorem lw_all_tbl {w : Cond} (h : w ∈ lw_all) : w ∈ lw_tbl := (List.mem_filter.mp h).1
theorem lw_self : GoodIn lw_all lw_all := fun w h => ⟨h, good_of_word (List.mem_filter.mp h).2⟩
/-- a class's field words, by their places -/
theorem lw_in (ws : List Cond) (ps : List Nat) (hp : ws = ps.filterMap (fun i => lw_tbl[i]?)) (hg : ws.all goodWord = true) : ∀ w ∈ ws, w ∈ lw_all := by
  intro w h
  have h1 := List.all_eq_true.mp hg w h
  rw [hp] at h
  obtain ⟨i, -, hi⟩ := List.mem_filterMap.mp h
  exact lw_w i hi h1
/-- the words of a contract for the method y with code b, L locals, answer r -/
abbrev ws_ (y : MethodName) (b : ByteArray) (L : Nat) (r : Option FieldType) : List Cond := Cond.code y b L r :: lw_all
theorem lw_meth {y : MethodName} {b : ByteArray} {L : Nat} {r : Option FieldType} (h : Cond.code y b L r ∈ lw_all) : GoodIn lw_all (ws_ y b L r) := by
  intro w hw
  rcases List.mem_cons.mp hw with e | e
  · rw [e]
    exact lw_self _ h
  · exact lw_self _ e
theorem lw_app {a c : List Cond} (ha : ∀ w ∈ a, w ∈ lw_all) (hc : GoodIn lw_all c) : GoodIn lw_all (a ++ c) := by
  intro w hw
  rcases List.mem_append.mp hw with e | e
  · exact lw_self w (ha w e)
  · exact hc w e
/-- what a call through an object asks: cwV n hts (lw_V ..) -/
theorem lw_V {own : String} {idx : Nat} {C : String} {y : MethodName} {b : ByteArray} {L : Nat} {r : Option FieldType} (h1 : Cond.methodLink own idx y ∈ lw_all) (h2 : Cond.instanceMethod y ∈ lw_all) (h3 : Cond.selects C y y ∈ lw_all) (h4 : Cond.initialized C ∈ lw_all) (h5 : Cond.code y b L r ∈ lw_all) : GoodIn lw_all (wsV own idx C y (ws_ y b L r)) := by
  refine lw_app ?_ (lw_meth h5)
  intro w hw
  simp only [List.mem_cons, List.not_mem_nil, or_false] at hw
  rcases hw with e | e | e | e
  · rw [e]; exact h1
  · rw [e]; exact h2
  · rw [e]; exact h3
  · rw [e]; exact h4
/-- what a static call asks: va_cwS n hts (lw_S ..) -/
theorem lw_S {own : String} {idx : Nat} {y : MethodName} {b : ByteArray} {L : Nat} {r : Option FieldType} (h1 : Cond.methodLink own idx y ∈ lw_all) (h2 : Cond.static y ∈ lw_all) (h3 : Cond.initialized y.cls ∈ lw_all) (h4 : Cond.code y b L r ∈ lw_all) : GoodIn lw_all (va_wsS own idx y (ws_ y b L r)) := by
  refine lw_app ?_ (lw_meth h4)
  intro w hw
  simp only [List.mem_cons, List.not_mem_nil, or_false] at hw
  rcases hw with e | e | e
  · rw [e]; exact h1
  · rw [e]; exact h2
  · rw [e]; exact h3
/-- the words of a contract for a method WITH HANDLERS (hh: its table) -/
abbrev wsW_ (y : MethodName) (b : ByteArray) (L : Nat) (r : Option FieldType) (hh : List (Nat × Nat × Nat × Nat)) : List Cond := Cond.codeWith y b L r hh :: lw_all
theorem lw_methW {y : MethodName} {b : ByteArray} {L : Nat} {r : Option FieldType} {hh : List (Nat × Nat × Nat × Nat)} (h : Cond.codeWith y b L r hh ∈ lw_all) : GoodIn lw_all (wsW_ y b L r hh) := by
  intro w hw
  rcases List.mem_cons.mp hw with e | e
  · rw [e]
    exact lw_self _ h
  · exact lw_self _ e
/-- any list of words by their places (lw_in), good -/
theorem lw_good {ws : List Cond} (h : ∀ w ∈ ws, w ∈ lw_all) : GoodIn lw_all ws := fun w hw => lw_self w (h w hw)
/-- what a call of a method with handlers asks: vx_cwVW n hts (lw_VW ..), vx_cwSW n hts (lw_SW ..) -/
theorem lw_VW {own : String} {idx : Nat} {C : String} {y : MethodName} {b : ByteArray} {L : Nat} {r : Option FieldType} {hh : List (Nat × Nat × Nat × Nat)} (h1 : Cond.methodLink own idx y ∈ lw_all) (h2 : Cond.instanceMethod y ∈ lw_all) (h3 : Cond.selects C y y ∈ lw_all) (h4 : Cond.initialized C ∈ lw_all) (h5 : Cond.codeWith y b L r hh ∈ lw_all) : GoodIn lw_all (wsV own idx C y (wsW_ y b L r hh)) := by
  refine lw_app ?_ (lw_methW h5)
  intro w hw
  simp only [List.mem_cons, List.not_mem_nil, or_false] at hw
  rcases hw with e | e | e | e
  · rw [e]; exact h1
  · rw [e]; exact h2
  · rw [e]; exact h3
  · rw [e]; exact h4
theorem lw_SW {own : String} {idx : Nat} {y : MethodName} {b : ByteArray} {L : Nat} {r : Option FieldType} {hh : List (Nat × Nat × Nat × Nat)} (h1 : Cond.methodLink own idx y ∈ lw_all) (h2 : Cond.static y ∈ lw_all) (h3 : Cond.initialized y.cls ∈ lw_all) (h4 : Cond.codeWith y b L r hh ∈ lw_all) : GoodIn lw_all (va_wsS own idx y (wsW_ y b L r hh)) := by
  refine lw_app ?_ (lw_methW h4)
  intro w hw
  simp only [List.mem_cons, List.not_mem_nil, or_false] at hw
  rcases hw with e | e | e
  · rw [e]; exact h1
  · rw [e]; exact h2
  · rw [e]; exact h3
/-- a word by its place in its run of the tables -/
theorem lw_at {r : List Cond} (hr : ∀ w ∈ r, w ∈ lw_tbl) {w : Cond} (i : Nat) (h : r[i]? = some w) : w ∈ lw_tbl := hr w (List.mem_of_getElem? h)
theorem lw_g {w : Cond} (h : w ∈ lw_tbl) (g : goodWord w = true) : w ∈ lw_all := List.mem_filter.mpr ⟨h, g⟩
theorem lw_ms : ∀ w ∈ k2_sels lw_privs, w ∈ lw_tbl := fun w h => show w ∈ k2_sels lw_privs ++ tables_1 from List.mem_append_left _ h
theorem lw_m1 : ∀ w ∈ tables_1_1, w ∈ lw_tbl := fun w h => show w ∈ k2_sels lw_privs ++ tables_1 from List.mem_append_right (k2_sels lw_privs) (show w ∈ tables_1 from List.mem_append_left _ h)
theorem lw_m2 : ∀ w ∈ tables_1_2, w ∈ lw_tbl := fun w h => show w ∈ k2_sels lw_privs ++ tables_1 from List.mem_append_right (k2_sels lw_privs) (show w ∈ tables_1 from List.mem_append_right _ h)
theorem qs0 : (Cond.selects "ClaimBench" ⟨"ClaimBench", "isThere", "(I)Z"⟩ ⟨"ClaimBench", "isThere", "(I)Z"⟩) ∈ lw_all := lw_g (lw_at lw_ms 0 rfl) rfl
theorem qs1 : (Cond.selects "ClaimBench" ⟨"ClaimBench", "listens", "(I)Z"⟩ ⟨"ClaimBench", "listens", "(I)Z"⟩) ∈ lw_all := lw_g (lw_at lw_ms 1 rfl) rfl
theorem qs2 : (Cond.selects "ClaimBench" ⟨"ClaimBench", "isSending", "(II)Z"⟩ ⟨"ClaimBench", "isSending", "(II)Z"⟩) ∈ lw_all := lw_g (lw_at lw_ms 2 rfl) rfl
theorem qs3 : (Cond.selects "ClaimBench" ⟨"ClaimBench", "isLost", "(II)Z"⟩ ⟨"ClaimBench", "isLost", "(II)Z"⟩) ∈ lw_all := lw_g (lw_at lw_ms 3 rfl) rfl
theorem qs4 : (Cond.selects "ClaimBench" ⟨"ClaimBench", "held", "(II)I"⟩ ⟨"ClaimBench", "held", "(II)I"⟩) ∈ lw_all := lw_g (lw_at lw_ms 4 rfl) rfl
theorem qs5 : (Cond.selects "ClaimBench" ⟨"ClaimBench", "own", "(II)I"⟩ ⟨"ClaimBench", "own", "(II)I"⟩) ∈ lw_all := lw_g (lw_at lw_ms 5 rfl) rfl
theorem qs6 : (Cond.selects "ClaimBench" ⟨"ClaimBench", "say", "(II)V"⟩ ⟨"ClaimBench", "say", "(II)V"⟩) ∈ lw_all := lw_g (lw_at lw_ms 6 rfl) rfl
theorem qs7 : (Cond.selects "ClaimBench" ⟨"ClaimBench", "hear", "(III)V"⟩ ⟨"ClaimBench", "hear", "(III)V"⟩) ∈ lw_all := lw_g (lw_at lw_ms 7 rfl) rfl
theorem qs8 : (Cond.selects "ClaimBenchModel" ⟨"ClaimBenchModel", "isSending", "(II)Z"⟩ ⟨"ClaimBenchModel", "isSending", "(II)Z"⟩) ∈ lw_all := lw_g (lw_at lw_ms 8 rfl) rfl
theorem qs9 : (Cond.selects "ClaimBenchModel" ⟨"ClaimBenchModel", "isLost", "(II)Z"⟩ ⟨"ClaimBenchModel", "isLost", "(II)Z"⟩) ∈ lw_all := lw_g (lw_at lw_ms 9 rfl) rfl
theorem qs10 : (Cond.selects "ClaimBenchModel" ⟨"ClaimBenchModel", "keeps", "(II)I"⟩ ⟨"ClaimBenchModel", "keeps", "(II)I"⟩) ∈ lw_all := lw_g (lw_at lw_ms 10 rfl) rfl
theorem qs11 : (Cond.selects "ClaimBenchModel" ⟨"ClaimBenchModel", "own", "(II)I"⟩ ⟨"ClaimBenchModel", "own", "(II)I"⟩) ∈ lw_all := lw_g (lw_at lw_ms 11 rfl) rfl
theorem qs12 : (Cond.selects "ClaimBenchModel" ⟨"ClaimBenchModel", "say", "(II)V"⟩ ⟨"ClaimBenchModel", "say", "(II)V"⟩) ∈ lw_all := lw_g (lw_at lw_ms 12 rfl) rfl
theorem qs13 : (Cond.selects "ClaimBenchModel" ⟨"ClaimBenchModel", "hear", "(III)V"⟩ ⟨"ClaimBenchModel", "hear", "(III)V"⟩) ∈ lw_all := lw_g (lw_at lw_ms 13 rfl) rfl
end
section
/-! THE STATE that both objects hold, and what their methods do to it: plain, no program in sight.
MS: time, all, said, there, deaf, fw, st, di, kc, ti, row -/
abbrev MS : Type := Nat × Int32 × Nat × (Nat → Bool) × (Nat → Bool) × (Nat → Bool) × (Nat → Bool) × (Nat → Nat) × (Nat → Nat) × (Nat → Nat) × (Nat → Nat)
def m_time (M : MS) : Nat := M.1
def m_all (M : MS) : Int32 := M.2.1
def m_said (M : MS) : Nat := M.2.2.1
def m_there (M : MS) : Nat → Bool := M.2.2.2.1
def m_deaf (M : MS) : Nat → Bool := M.2.2.2.2.1
def m_fw (M : MS) : Nat → Bool := M.2.2.2.2.2.1
def m_st (M : MS) : Nat → Bool := M.2.2.2.2.2.2.1
def m_di (M : MS) : Nat → Nat := M.2.2.2.2.2.2.2.1
def m_kc (M : MS) : Nat → Nat := M.2.2.2.2.2.2.2.2.1
def m_ti (M : MS) : Nat → Nat := M.2.2.2.2.2.2.2.2.2.1
def m_row (M : MS) : Nat → Nat := M.2.2.2.2.2.2.2.2.2.2
def n_time (M : MS) (v : Nat) : MS := (v, m_all M, m_said M, m_there M, m_deaf M, m_fw M, m_st M, m_di M, m_kc M, m_ti M, m_row M)
def n_all (M : MS) (v : Int32) : MS := (m_time M, v, m_said M, m_there M, m_deaf M, m_fw M, m_st M, m_di M, m_kc M, m_ti M, m_row M)
def n_said (M : MS) (v : Nat) : MS := (m_time M, m_all M, v, m_there M, m_deaf M, m_fw M, m_st M, m_di M, m_kc M, m_ti M, m_row M)
def n_there (M : MS) (k : Nat) (v : Bool) : MS := (m_time M, m_all M, m_said M, va_up (m_there M) k v, m_deaf M, m_fw M, m_st M, m_di M, m_kc M, m_ti M, m_row M)
def n_deaf (M : MS) (k : Nat) (v : Bool) : MS := (m_time M, m_all M, m_said M, m_there M, va_up (m_deaf M) k v, m_fw M, m_st M, m_di M, m_kc M, m_ti M, m_row M)
def n_fw (M : MS) (k : Nat) (v : Bool) : MS := (m_time M, m_all M, m_said M, m_there M, m_deaf M, va_up (m_fw M) k v, m_st M, m_di M, m_kc M, m_ti M, m_row M)
def n_st (M : MS) (k : Nat) (v : Bool) : MS := (m_time M, m_all M, m_said M, m_there M, m_deaf M, m_fw M, va_up (m_st M) k v, m_di M, m_kc M, m_ti M, m_row M)
def n_di (M : MS) (k : Nat) (v : Nat) : MS := (m_time M, m_all M, m_said M, m_there M, m_deaf M, m_fw M, m_st M, va_up (m_di M) k v, m_kc M, m_ti M, m_row M)
def n_kc (M : MS) (k : Nat) (v : Nat) : MS := (m_time M, m_all M, m_said M, m_there M, m_deaf M, m_fw M, m_st M, m_di M, va_up (m_kc M) k v, m_ti M, m_row M)
def n_ti (M : MS) (k : Nat) (v : Nat) : MS := (m_time M, m_all M, m_said M, m_there M, m_deaf M, m_fw M, m_st M, m_di M, m_kc M, va_up (m_ti M) k v, m_row M)
/-- what is kept, and till when: one act -/
def n_kt (M : MS) (k : Nat) (v t : Nat) : MS := (m_time M, m_all M, m_said M, m_there M, m_deaf M, m_fw M, m_st M, m_di M, va_up (m_kc M) k v, va_up (m_ti M) k t, m_row M)
def n_row (M : MS) (k : Nat) (v : Nat) : MS := (m_time M, m_all M, m_said M, m_there M, m_deaf M, m_fw M, m_st M, m_di M, m_kc M, m_ti M, va_up (m_row M) k v)
/-! booleans as ints -/
def b2i : Bool → Int32
  | true => 1
  | false => 0
theorem b2i_0 {b : Bool} (h : b2i b = 0) : b = false := by
  cases b
  · rfl
  · exact absurd h (by decide)
theorem b2i_n0 {b : Bool} (h : ¬ b2i b = 0) : b = true := by
  cases b
  · exact absurd rfl h
  · rfl
theorem b2i_1 {b : Bool} (h : b2i b = 1) : b = true := by
  cases b
  · exact absurd h (by decide)
  · rfl
theorem b2i_n1 {b : Bool} (h : ¬ b2i b = 1) : b = false := by
  cases b
  · rfl
  · exact absurd rfl h
theorem b2i_nar (b : Bool) : narrow .boolean (.int (b2i b)) = .int (b2i b) := by cases b <;> rfl
theorem b2i_vn (b : Bool) : vp_nar .boolean (b2i b) = b2i b := by cases b <;> rfl
theorem b2i_t : b2i true = 1 := rfl
theorem b2i_f : b2i false = 0 := rfl
/-! bits (BITS.to-paste: the first family, and nx_and's like) -/
def bt (x : Int32) (i : Nat) : Bool := x.toBitVec.getLsbD i
theorem b_ext {x y : Int32} (h : ∀ i, i < 32 → bt x i = bt y i) : x = y := Int32.toBitVec_inj.mp (BitVec.eq_of_getLsbD_eq (fun i hi => h i hi))
theorem b_and (x y : Int32) (i : Nat) : bt (x &&& y) i = (bt x i && bt y i) := by unfold bt; rw [Int32.toBitVec_and, BitVec.getLsbD_and]
theorem b_xor (x y : Int32) (i : Nat) : bt (x ^^^ y) i = (bt x i ^^ bt y i) := by unfold bt; rw [Int32.toBitVec_xor, BitVec.getLsbD_xor]
theorem b_m1 : ∀ i, i < 32 → bt (-1) i = true := by decide +kernel
theorem s_l : ∀ n, n < 32 → ((nI n &&& 31).toBitVec.smod 32).toNat = n := by decide +kernel
theorem bt_nI {n i : Nat} (hi : i < 32) : bt (nI n) i = n.testBit i := by
  show (BitVec.ofNat 32 n).getLsbD i = _
  rw [BitVec.getLsbD_ofNat, decide_eq_true hi, Bool.true_and]
theorem nx_or (a b : Nat) : nI a ||| nI b = nI (a ||| b) := by
  apply Int32.toBitVec_inj.1
  show BitVec.ofNat 32 a ||| BitVec.ofNat 32 b = BitVec.ofNat 32 (a ||| b)
  apply BitVec.eq_of_getLsbD_eq
  intro i hi
  simp [hi]
/-! the mask of the first n bits of f -/
def mb_mk (f : Nat → Bool) : Nat → Nat
  | 0 => 0
  | n + 1 => mb_mk f n + (if f n = true then 2 ^ n else 0)
theorem mb_mk_lt (f : Nat → Bool) (n : Nat) : mb_mk f n < 2 ^ n := by
  induction n with
  | zero => simp [mb_mk]
  | succ n ih =>
    simp only [mb_mk, Nat.pow_succ]
    split <;> omega
theorem mb_mk_bit (f : Nat → Bool) (n i : Nat) : (mb_mk f n).testBit i = (decide (i < n) && f i) := by
  induction n with
  | zero => simp [mb_mk]
  | succ n ih =>
    have hlt := mb_mk_lt f n
    cases hf : f n with
    | true =>
      have e : mb_mk f (n + 1) = 2 ^ n * 1 + mb_mk f n := by
        simp only [mb_mk, hf, if_true]
        omega
      rw [e, Nat.testBit_two_pow_mul_add 1 hlt i]
      by_cases h : i < n
      · rw [if_pos h, ih]
        simp [h, Nat.lt_succ_of_lt h]
      · rw [if_neg h]
        by_cases h2 : i = n
        · subst h2
          simp [hf]
        · have h3 : 1 < 2 ^ (i - n) := Nat.one_lt_two_pow (by omega)
          rw [Nat.testBit_lt_two_pow h3]
          simp [show ¬ i < n + 1 by omega]
    | false =>
      have e : mb_mk f (n + 1) = mb_mk f n := by
        simp [mb_mk, hf]
      rw [e, ih]
      by_cases h2 : i = n
      · subst h2
        simp [hf]
      · by_cases h : i < n
        · simp [h, Nat.lt_succ_of_lt h]
        · simp [h, show ¬ i < n + 1 by omega]
theorem mb_mk_get (f : Nat → Bool) {r : Nat} (hr : r < 10) : (nI (mb_mk f 10) >>> (nI r &&& 31)) &&& 1 = b2i (f r) := by
  have hlt : mb_mk f 10 < 1024 := mb_mk_lt f 10
  have hd : mb_mk f 10 / 2 ^ r ≤ mb_mk f 10 := Nat.div_le_self _ _
  have h := mb_mk_bit f 10 r
  rw [Nat.testBit_eq_decide_div_mod_eq] at h
  rw [pk_shrN (by omega) _ r (s_l r (by omega)), pk_andN (by omega) 1 (by decide)]
  generalize mb_mk f 10 / 2 ^ r = z at h
  simp only [hr, decide_true, Bool.true_and] at h
  rw [← h]
  have hz : z % 2 = 0 ∨ z % 2 = 1 := by omega
  rcases hz with e | e
  · show nI (z % 2) = _
    rw [e]
    rfl
  · show nI (z % 2) = _
    rw [e]
    rfl
theorem mb_shl : ∀ r, r < 10 → (1 : Int32) <<< (nI r &&& 31) = nI (2 ^ r) := by decide +kernel
theorem mb_mk_set1 (f : Nat → Bool) {r : Nat} (hr : r < 10) : nI (mb_mk f 10) ||| ((1 : Int32) <<< (nI r &&& 31)) = nI (mb_mk (va_up f r true) 10) := by
  rw [mb_shl r hr, nx_or]
  refine congrArg nI (Nat.eq_of_testBit_eq fun i => ?_)
  rw [Nat.testBit_or, mb_mk_bit, mb_mk_bit, Nat.testBit_two_pow]
  by_cases h : i = r
  · subst h
    simp [va_up, hr]
  · simp [va_up, h, Ne.symm h]
theorem mb_mk_set0 (f : Nat → Bool) {r : Nat} (hr : r < 10) : nI (mb_mk f 10) &&& (((1 : Int32) <<< (nI r &&& 31)) ^^^ (-1)) = nI (mb_mk (va_up f r false) 10) := by
  apply b_ext
  intro i hi
  rw [mb_shl r hr, b_and, b_xor, b_m1 i hi, bt_nI hi, bt_nI hi, bt_nI hi, mb_mk_bit, mb_mk_bit, Nat.testBit_two_pow]
  by_cases h : i = r
  · subst h
    simp [va_up, hr]
  · simp [va_up, h, Ne.symm h]
theorem mb_mk_set (f : Nat → Bool) {r : Nat} (hr : r < 10) (b : Bool) : nI (mb_mk (va_up f r b) 10) = if b = true then nI (mb_mk f 10) ||| ((1 : Int32) <<< (nI r &&& 31)) else nI (mb_mk f 10) &&& (((1 : Int32) <<< (nI r &&& 31)) ^^^ (-1)) := by
  cases b
  · rw [if_neg (by decide), mb_mk_set0 f hr]
  · rw [if_pos rfl, mb_mk_set1 f hr]
theorem mb_mk_t (f : Nat → Bool) {n : Nat} (hn : n < 10) (hf : f n = true) : nI (mb_mk f n) ||| ((1 : Int32) <<< (nI n &&& 31)) = nI (mb_mk f (n + 1)) := by
  rw [mb_shl n hn, nx_or]
  refine congrArg nI ?_
  have h := Nat.two_pow_add_eq_or_of_lt (mb_mk_lt f n) 1
  rw [Nat.mul_one] at h
  simp only [mb_mk, hf, if_true]
  rw [Nat.or_comm, ← h]
  omega
theorem mb_mk_f (f : Nat → Bool) {n : Nat} (hf : f n = false) : mb_mk f (n + 1) = mb_mk f n := by
  simp [mb_mk, hf]
theorem mb_mk_ext {f g : Nat → Bool} {n : Nat} (h : ∀ i, i < n → f i = g i) : mb_mk f n = mb_mk g n := by
  induction n with
  | zero => rfl
  | succ n ih =>
    simp only [mb_mk]
    rw [ih (fun i hi => h i (by omega)), h n (by omega)]
/-! arithmetic of the code -/
theorem mb_ix (r s : Nat) : nI r * 16 + nI s = nI (16 * r + s) := by
  show nI r * nI 16 + nI s = _
  rw [pk_mul, nI_add]
  exact congrArg nI (by omega)
theorem mb_ixY (r s : Nat) : 16 * nI r + nI s = nI (16 * r + s) := by
  show nI 16 * nI r + nI s = _
  rw [pk_mul, nI_add]
theorem mb_rem {a : Nat} (h : a < 2 ^ 31) : nI a - nI a / 100 * 100 = nI (a % 100) := pk_rem (d := 100) h (by decide) (by decide)
theorem mb_div {a : Nat} (h : a < 2 ^ 31) : nI a / 100 = nI (a / 100) := pk_div (d := 100) h (by decide) (by decide)
theorem mb_own0 (d r : Nat) : (0 : Int32) + 100 * nI d + nI r = nI (0 + 100 * d + r) := by
  show nI 0 + nI 100 * nI d + nI r = _
  rw [pk_mul, nI_add, nI_add]
theorem mb_own1 (d r : Nat) : (1000000 : Int32) + 100 * nI d + nI r = nI (1000000 + 100 * d + r) := by
  show nI 1000000 + nI 100 * nI d + nI r = _
  rw [pk_mul, nI_add, nI_add]
theorem up_nI (f : Nat → Nat) (k v : Nat) : upd (fun j => nI (f j)) k (nI v) = fun j => nI (va_up f k v j) := by
  funext j
  simp only [upd, va_up]
  split <;> rfl
theorem up_b2i (f : Nat → Bool) (k : Nat) (v : Bool) : upd (fun j => b2i (f j)) k (b2i v) = fun j => b2i (va_up f k v j) := by
  funext j
  simp only [upd, va_up]
  split <;> rfl
theorem up_b2n (f : Nat → Bool) (k : Nat) (v : Bool) : upd (fun j => b2i (!f j)) k (b2i (!v)) = fun j => b2i (!va_up f k v j) := by
  funext j
  simp only [upd, va_up]
  split <;> rfl
end
section
/-! what the methods answer and do -/
def mb_own (M : MS) (r s : Nat) : Nat := (if m_st M (16 * r + s) = true then 0 else 1000000) + 100 * m_di M (16 * r + s) + r
def mb_bet (a b : Nat) : Bool := decide (a / 100 < b / 100) || (decide (a / 100 = b / 100) && decide (b % 100 < a % 100))
def mb_hb (M : MS) (r s : Nat) : Bool := decide (m_time M < m_ti M (16 * r + s)) && m_there M (m_kc M (16 * r + s) % 100)
def mb_held (M : MS) (r s : Nat) : Int32 := if mb_hb M r s = true then nI (m_kc M (16 * r + s)) else -1
def mb_lost (M : MS) (r s : Nat) : Bool := mb_hb M r s && mb_bet (m_kc M (16 * r + s)) (mb_own M r s)
def mb_snd (M : MS) (r s : Nat) : Bool := m_there M r && (m_fw M (16 * r + s) && !mb_lost M r s)
def mb_lis (M : MS) (r : Nat) : Bool := m_there M r && !m_deaf M r
def mb_say (M : MS) (r s : Nat) : MS := n_all (n_said (n_row M (m_said M) (mb_own M r s)) (m_said M + 1)) (m_all M + 1)
def mb_keep (M : MS) (r s c : Nat) : MS := n_kt M (16 * r + s) c (m_time M + 60)
def mb_hc (M : MS) (r s c : Nat) : Bool := !mb_hb M r s || (mb_bet c (m_kc M (16 * r + s)) || decide (m_kc M (16 * r + s) % 100 = c % 100))
def mb_h1 (M : MS) (r s c : Nat) : MS := if mb_hc M r s c = true then mb_keep M r s c else M
def mb_h2 (M : MS) (r s c : Nat) : MS := if mb_snd M r s = true ∧ mb_bet (mb_own M r s) c = true then mb_say M r s else M
def mb_hear (M : MS) (r s c : Nat) : MS := mb_h2 (mb_h1 M r s c) r s c
def mb_first (M : MS) (r s : Nat) : Nat → MS
  | 0 => M
  | n + 1 => if n ≠ r ∧ mb_lis (mb_first M r s n) n = true ∧ mb_snd (mb_first M r s n) n s = true then mb_say (mb_first M r s n) n s else mb_first M r s n
def mb_inner (M : MS) (s c : Nat) : Nat → MS
  | 0 => M
  | n + 1 => if n ≠ c % 100 ∧ mb_lis (mb_inner M s c n) n = true then mb_hear (mb_inner M s c n) n s c else mb_inner M s c n
def mb_loop (s : Nat) : Nat → Nat → MS → MS
  | 0, _, M => M
  | f + 1, k, M => if k < m_said M then mb_loop s f (k + 1) (mb_inner M s (m_row M k) 10) else M
def mb_data (M : MS) (r s : Nat) : MS := mb_loop s 1024 0 (mb_first (n_said M 0) r s 10)
/-! the public methods, by their ints -/
def iN (x : Int32) : Nat := x.toNatClampNeg
theorem iN_nI {n : Nat} (h : n < 2 ^ 31) : iN (nI n) = n := nI_clamp h
def mq_rt (r : Int32) : Bool := !decide (r < 0) && decide (r < 10)
def mq_sr (s : Int32) : Bool := !decide (s < 0) && decide (s < 16)
def mq_pr (r s : Int32) : Bool := mq_rt r && mq_sr s
theorem mq_rt_of {r : Int32} (h : mq_rt r = true) : ∃ j : Nat, j < 10 ∧ r = nI j := by
  simp only [mq_rt, Bool.and_eq_true, Bool.not_eq_true', decide_eq_false_iff_not, decide_eq_true_eq] at h
  obtain ⟨j, hj, rfl⟩ := nI_of h.1
  exact ⟨j, (nI_ltI hj (by decide)).mp (show nI j < nI 10 from h.2), rfl⟩
theorem mq_sr_of {r : Int32} (h : mq_sr r = true) : ∃ j : Nat, j < 16 ∧ r = nI j := by
  simp only [mq_sr, Bool.and_eq_true, Bool.not_eq_true', decide_eq_false_iff_not, decide_eq_true_eq] at h
  obtain ⟨j, hj, rfl⟩ := nI_of h.1
  exact ⟨j, (nI_ltI hj (by decide)).mp (show nI j < nI 16 from h.2), rfl⟩
theorem mq_pr_of {r s : Int32} (h : mq_pr r s = true) : ∃ j k : Nat, j < 10 ∧ k < 16 ∧ r = nI j ∧ s = nI k := by
  simp only [mq_pr, Bool.and_eq_true] at h
  obtain ⟨j, hj, rfl⟩ := mq_rt_of h.1
  obtain ⟨k, hk, rfl⟩ := mq_sr_of h.2
  exact ⟨j, k, hj, hk, rfl, rfl⟩
def mo_tick (M : MS) (n : Int32) : Int32 × MS := if n < 1 ∨ 100 < n ∨ 100000 < nI (m_time M) + n then (-1, M) else (nI (m_time M + iN n), n_time M (m_time M + iN n))
def mo_forward (M : MS) (r s : Int32) (on : Bool) : Int32 × MS := if mq_pr r s = true then (1, n_fw M (16 * iN r + iN s) on) else (0, M)
def mo_place (M : MS) (r s : Int32) (b : Bool) (far : Int32) : Int32 × MS := if mq_pr r s = true ∧ ¬ far < 0 ∧ far ≤ 9999 then (1, n_di (n_st M (16 * iN r + iN s) b) (16 * iN r + iN s) (iN far)) else (0, M)
def mo_there (M : MS) (r : Int32) (on : Bool) : Int32 × MS := if mq_rt r = true then (b2i (m_there M (iN r)), n_there M (iN r) on) else (0, M)
def mo_deaf (M : MS) (r : Int32) (on : Bool) : Int32 × MS := if mq_rt r = true then (b2i (m_deaf M (iN r)), n_deaf M (iN r) on) else (0, M)
def mo_data (M : MS) (r s : Int32) : Int32 × MS := if mq_pr r s = true ∧ m_there M (iN r) = true then (nI (m_said (mb_data M (iN r) (iN s))), mb_data M (iN r) (iN s)) else (-1, M)
def mo_said (M : MS) (k : Int32) : Int32 := if k < 0 ∨ nI (m_said M) ≤ k then -1 else nI (m_row M (iN k) % 100)
def mo_claim (M : MS) (r s : Int32) : Int32 := if mq_pr r s = true then nI (mb_own M (iN r) (iN s)) else -1
def mo_kept (M : MS) (r s : Int32) : Int32 := if mq_pr r s = true then mb_held M (iN r) (iN s) else -1
def mo_lost (M : MS) (r s : Int32) : Bool := mq_pr r s && mb_lost M (iN r) (iN s)
def mo_sends (M : MS) (s : Int32) : Int32 := if mq_sr s = true then nI (mb_mk (fun r => mb_snd M r (iN s)) 10) else -1
def mo_look (M : MS) (w : Int32) : Int32 := if w = 0 then nI (m_time M) else if w = 1 then nI (mb_mk (m_there M) 10) else if w = 2 then nI (mb_mk (m_deaf M) 10) else if w = 3 then m_all M else -1
/-! what always holds -/
def JN (M : MS) : Prop := m_time M ≤ 100000 ∧ (∀ k, k < 160 → m_di M k ≤ 9999) ∧ (∀ k, k < 160 → m_kc M k < 2000000 ∧ m_kc M k % 100 < 10) ∧ (∀ k, k < 160 → m_ti M k ≤ 100060)
def JJ (M : MS) : Prop := JN M ∧ m_said M ≤ 1023 ∧ ∀ k, k < m_said M → m_row M k < 2000000
theorem mb_own_lt {M : MS} (hJ : JN M) {r s : Nat} (hr : r < 10) (hs : s < 16) : mb_own M r s < 2000000 := by
  have h := hJ.2.1 (16 * r + s) (by omega)
  unfold mb_own
  split <;> omega
theorem mb_own_mod (M : MS) {r : Nat} (s : Nat) (hr : r < 10) : mb_own M r s % 100 = r := by
  unfold mb_own
  split <;> omega
def mb_key (c : Nat) : Nat := c / 100 * 100 + (99 - c % 100)
theorem mb_bet_key {a b : Nat} : mb_bet a b = true ↔ mb_key a < mb_key b := by
  unfold mb_bet mb_key
  simp only [Bool.or_eq_true, Bool.and_eq_true, decide_eq_true_eq]
  omega
theorem mb_key_inj {a b : Nat} (h : mb_key a = mb_key b) : a = b := by
  unfold mb_key at h
  omega
theorem mb_key_lt {a : Nat} (h : a < 2000000) : mb_key a < 3000000 := by
  unfold mb_key
  omega
/-! sums over the routers below a bound -/
def mb_sm (f : Nat → Nat) (B : Nat) (g : Nat → Nat) : Nat → Nat
  | 0 => 0
  | n + 1 => mb_sm f B g n + (if f n < B then g n else 0)
def mb_se (f : Nat → Nat) (B : Nat) (g : Nat → Nat) : Nat → Nat
  | 0 => 0
  | n + 1 => mb_se f B g n + (if f n = B then g n else 0)
theorem mb_sm_succ (f : Nat → Nat) (B : Nat) (g : Nat → Nat) (N : Nat) : mb_sm f (B + 1) g N = mb_sm f B g N + mb_se f B g N := by
  induction N with
  | zero => rfl
  | succ n ih =>
    simp only [mb_sm, mb_se, ih]
    rcases Nat.lt_trichotomy (f n) B with h | h | h
    · rw [if_pos (by omega), if_pos h, if_neg (by omega)]; omega
    · rw [if_pos (by omega), if_neg (by omega), if_pos h]; omega
    · rw [if_neg (by omega), if_neg (by omega), if_neg (by omega)]; omega
theorem mb_sm_zero (f : Nat → Nat) (g : Nat → Nat) (N : Nat) : mb_sm f 0 g N = 0 := by
  induction N with
  | zero => rfl
  | succ n ih =>
    simp only [mb_sm, ih]
    rw [if_neg (by omega)]
theorem mb_se_none {f : Nat → Nat} {B : Nat} {g : Nat → Nat} {N : Nat} (h : ∀ n, n < N → f n ≠ B) : mb_se f B g N = 0 := by
  induction N with
  | zero => rfl
  | succ n ih =>
    simp only [mb_se]
    rw [if_neg (h n (by omega)), ih (fun m hm => h m (by omega))]
theorem mb_se_one {f : Nat → Nat} {B : Nat} {g : Nat → Nat} {n : Nat} {N : Nat} (hi : ∀ a b, a < N → b < N → f a = f b → a = b) (hn : n < N) (hf : f n = B) : mb_se f B g N = g n := by
  induction N with
  | zero => omega
  | succ k ih =>
    simp only [mb_se]
    by_cases hk : n = k
    · rw [← hk, if_pos hf, mb_se_none (fun m hm e => by have := hi m n (by omega) (by omega) (e.trans hf.symm); omega)]
      omega
    · rw [if_neg (fun e => hk (hi n k hn (by omega) (hf.trans e.symm))), ih (fun a b ha hb => hi a b (by omega) (by omega)) (by omega)]
      omega
theorem mb_pow {f : Nat → Nat} {N : Nat} (hi : ∀ a b, a < N → b < N → f a = f b → a = b) (B : Nat) : mb_sm f B (fun n => 2 ^ (mb_sm f (f n) (fun _ => 1) N)) N + 1 = 2 ^ (mb_sm f B (fun _ => 1) N) := by
  induction B with
  | zero =>
    rw [mb_sm_zero, mb_sm_zero]
  | succ B ih =>
    rw [mb_sm_succ, mb_sm_succ]
    by_cases h : ∃ n, n < N ∧ f n = B
    · obtain ⟨n, hn, hf⟩ := h
      have e1 : mb_se f B (fun n => 2 ^ (mb_sm f (f n) (fun _ => 1) N)) N = 2 ^ (mb_sm f B (fun _ => 1) N) := by
        rw [mb_se_one hi hn hf]
        show 2 ^ (mb_sm f (f n) (fun _ => 1) N) = _
        rw [hf]
      have e2 : mb_se f B (fun _ => 1) N = 1 := by
        rw [mb_se_one hi hn hf]
      rw [e1, e2, Nat.pow_succ]
      omega
    · rw [mb_se_none (fun n hn e => h ⟨n, hn, e⟩), mb_se_none (fun n hn e => h ⟨n, hn, e⟩)]
      exact ih
theorem mb_sm_cnt (f : Nat → Nat) (B N : Nat) : mb_sm f B (fun _ => 1) N ≤ N := by
  induction N with
  | zero => exact Nat.le_refl _
  | succ n ih =>
    simp only [mb_sm]
    split <;> omega
theorem mb_sm_mono (f : Nat → Nat) (B : Nat) (g : Nat → Nat) {n N : Nat} (h : n ≤ N) : mb_sm f B g n ≤ mb_sm f B g N := by
  induction N with
  | zero =>
    have e : n = 0 := by omega
    rw [e]
    exact Nat.le_refl _
  | succ k ih =>
    by_cases hk : n = k + 1
    · rw [hk]
      exact Nat.le_refl _
    · have := ih (by omega)
      simp only [mb_sm]
      omega
/-! the queue's weight -/
def mb_qs (w : Nat → Nat) (row : Nat → Nat) (k : Nat) : Nat → Nat
  | 0 => 0
  | n + 1 => mb_qs w row k n + w (row (k + n))
theorem mb_qs_ge {w row : Nat → Nat} (hw : ∀ c, 1 ≤ w c) (k n : Nat) : n ≤ mb_qs w row k n := by
  induction n with
  | zero => exact Nat.le_refl _
  | succ n ih =>
    have := hw (row (k + n))
    simp only [mb_qs]
    omega
theorem mb_qs_head (w row : Nat → Nat) (k n : Nat) : mb_qs w row k (n + 1) = w (row k) + mb_qs w row (k + 1) n := by
  induction n with
  | zero => simp [mb_qs]
  | succ n ih =>
    rw [mb_qs, ih]
    simp only [mb_qs]
    rw [show k + (n + 1) = k + 1 + n by omega]
    omega
theorem mb_qs_congr {w row row' : Nat → Nat} {k n : Nat} (h : ∀ j, k ≤ j → j < k + n → row' j = row j) : mb_qs w row' k n = mb_qs w row k n := by
  induction n with
  | zero => rfl
  | succ n ih =>
    simp only [mb_qs]
    rw [ih (fun j h1 h2 => h j h1 (by omega)), h (k + n) (by omega) (by omega)]
end
section
/-! one call of data: each claim's weight is 2 ^ (how many routers are better); what is said stays below 1024 -/
def mb_fk (M0 : MS) (s : Nat) : Nat → Nat := fun n => mb_key (mb_own M0 n s)
def mb_w (M0 : MS) (s c : Nat) : Nat := 2 ^ (mb_sm (mb_fk M0 s) (mb_key c) (fun _ => 1) 10)
theorem mb_w_pos (M0 : MS) (s c : Nat) : 1 ≤ mb_w M0 s c := Nat.one_le_two_pow
theorem mb_fk_inj (M0 : MS) (s : Nat) : ∀ a b, a < 10 → b < 10 → mb_fk M0 s a = mb_fk M0 s b → a = b := by
  intro a b ha hb h
  have e : mb_own M0 a s = mb_own M0 b s := mb_key_inj h
  have h1 := mb_own_mod M0 s ha
  have h2 := mb_own_mod M0 s hb
  rw [e] at h1
  omega
/-- the sum of the weights of the routers' own claims that are below B -/
def mb_ws (M0 : MS) (s B n : Nat) : Nat := mb_sm (mb_fk M0 s) B (fun i => mb_w M0 s (mb_own M0 i s)) n
theorem mb_ws_all (M0 : MS) (s B : Nat) : mb_ws M0 s B 10 + 1 = 2 ^ (mb_sm (mb_fk M0 s) B (fun _ => 1) 10) := mb_pow (mb_fk_inj M0 s) B
theorem mb_ws_w (M0 : MS) (s c : Nat) : mb_w M0 s c = mb_ws M0 s (mb_key c) 10 + 1 := (mb_ws_all M0 s (mb_key c)).symm
theorem mb_ws_max (M0 : MS) (s B : Nat) : mb_ws M0 s B 10 ≤ 1023 := by
  have h1 := mb_ws_all M0 s B
  have h2 := mb_sm_cnt (mb_fk M0 s) B 10
  have h3 : 2 ^ (mb_sm (mb_fk M0 s) B (fun _ => 1) 10) ≤ 2 ^ 10 := Nat.pow_le_pow_right (by decide) h2
  omega
theorem mb_ws_mono (M0 : MS) (s B : Nat) {n N : Nat} (h : n ≤ N) : mb_ws M0 s B n ≤ mb_ws M0 s B N := mb_sm_mono _ _ _ h
theorem mb_ws_succ (M0 : MS) (s B n : Nat) (h : mb_fk M0 s n < B) : mb_ws M0 s B (n + 1) = mb_ws M0 s B n + mb_w M0 s (mb_own M0 n s) := by
  show mb_sm _ _ _ n + (if mb_fk M0 s n < B then _ else 0) = _
  rw [if_pos h]
  rfl
def mb_same (M0 M : MS) : Prop := m_st M = m_st M0 ∧ m_di M = m_di M0
theorem mb_own_same {M0 M : MS} (h : mb_same M0 M) (n s : Nat) : mb_own M n s = mb_own M0 n s := by
  unfold mb_own
  rw [h.1, h.2]
def mb_rows (M0 M : MS) (s : Nat) : Prop := ∀ j, j < m_said M → ∃ n, n < 10 ∧ m_row M j = mb_own M0 n s
def IO (M0 : MS) (s k : Nat) (M : MS) : Prop := JN M ∧ mb_same M0 M ∧ mb_rows M0 M s ∧ k ≤ m_said M ∧ k + mb_qs (mb_w M0 s) (m_row M) k (m_said M - k) ≤ 1023
def II (M0 : MS) (s k c n : Nat) (M : MS) : Prop := JN M ∧ mb_same M0 M ∧ mb_rows M0 M s ∧ k + 1 ≤ m_said M ∧ m_row M k = c ∧ (k + 1) + mb_qs (mb_w M0 s) (m_row M) (k + 1) (m_said M - (k + 1)) + mb_ws M0 s (mb_key c) 10 ≤ 1023 + mb_ws M0 s (mb_key c) n
def IF (M0 : MS) (s n : Nat) (M : MS) : Prop := JN M ∧ mb_same M0 M ∧ mb_rows M0 M s ∧ mb_qs (mb_w M0 s) (m_row M) 0 (m_said M) ≤ mb_ws M0 s 3000000 n
theorem JN_keep {M : MS} (hJ : JN M) {r s c : Nat} (hc : c < 2000000) (hc2 : c % 100 < 10) : JN (mb_keep M r s c) := by
  obtain ⟨h1, h2, h3, h4⟩ := hJ
  refine ⟨h1, h2, fun k hk => ?_, fun k hk => ?_⟩
  · show va_up (m_kc M) (16 * r + s) c k < 2000000 ∧ va_up (m_kc M) (16 * r + s) c k % 100 < 10
    unfold va_up
    split
    · exact ⟨hc, hc2⟩
    · exact h3 k hk
  · show va_up (m_ti M) (16 * r + s) (m_time M + 60) k ≤ 100060
    unfold va_up
    split
    · omega
    · exact h4 k hk
theorem rows_say {M0 M : MS} {s n : Nat} (hn : n < 10) (hs : mb_same M0 M) (h : mb_rows M0 M s) : mb_rows M0 (mb_say M n s) s := by
  intro j hj
  have hj : j < m_said M + 1 := hj
  show ∃ i, i < 10 ∧ va_up (m_row M) (m_said M) (mb_own M n s) j = mb_own M0 i s
  by_cases e : j = m_said M
  · exact ⟨n, hn, by rw [e, va_up_self, mb_own_same hs]⟩
  · rw [va_up_ne _ _ e]
    exact h j (by omega)
theorem qs_say {M0 M : MS} {s n k : Nat} (hs : mb_same M0 M) (hk : k ≤ m_said M) : mb_qs (mb_w M0 s) (m_row (mb_say M n s)) k (m_said (mb_say M n s) - k) = mb_qs (mb_w M0 s) (m_row M) k (m_said M - k) + mb_w M0 s (mb_own M0 n s) := by
  show mb_qs (mb_w M0 s) (va_up (m_row M) (m_said M) (mb_own M n s)) k (m_said M + 1 - k) = _
  rw [show m_said M + 1 - k = (m_said M - k) + 1 by omega]
  simp only [mb_qs]
  rw [mb_qs_congr (row := m_row M) (fun j h1 h2 => va_up_ne _ _ (by omega)), show k + (m_said M - k) = m_said M by omega, va_up_self, mb_own_same hs]
theorem IO_in {M0 M : MS} {s k : Nat} (h : IO M0 s k M) (hk : k < m_said M) : II M0 s k (m_row M k) 0 M := by
  obtain ⟨h1, h2, h3, h4, h5⟩ := h
  refine ⟨h1, h2, h3, hk, rfl, ?_⟩
  rw [show m_said M - k = (m_said M - (k + 1)) + 1 by omega, mb_qs_head, mb_ws_w] at h5
  show _ ≤ 1023 + 0
  omega
theorem II_skip {M0 M : MS} {s k c n : Nat} (h : II M0 s k c n M) : II M0 s k c (n + 1) M := by
  obtain ⟨h1, h2, h3, h4, h5, h6⟩ := h
  have := mb_ws_mono M0 s (mb_key c) (show n ≤ n + 1 by omega)
  exact ⟨h1, h2, h3, h4, h5, by omega⟩
theorem II_keep {M0 M : MS} {s k c n r : Nat} (h : II M0 s k c n M) (hc : c < 2000000) (hc2 : c % 100 < 10) : II M0 s k c n (mb_keep M r s c) := by
  obtain ⟨h1, h2, h3, h4, h5, h6⟩ := h
  exact ⟨JN_keep h1 hc hc2, h2, h3, h4, h5, h6⟩
theorem II_say {M0 M : MS} {s k c n : Nat} (h : II M0 s k c n M) (hn : n < 10) (hb : mb_bet (mb_own M n s) c = true) : II M0 s k c (n + 1) (mb_say M n s) := by
  obtain ⟨h1, h2, h3, h4, h5, h6⟩ := h
  have hlt : mb_fk M0 s n < mb_key c := by
    rw [mb_own_same h2] at hb
    exact mb_bet_key.mp hb
  refine ⟨h1, h2, rows_say hn h2 h3, Nat.le_trans h4 (Nat.le_succ _), ?_, ?_⟩
  · show va_up (m_row M) (m_said M) (mb_own M n s) k = c
    rw [va_up_ne _ _ (by omega)]
    exact h5
  · rw [qs_say h2 h4, mb_ws_succ M0 s (mb_key c) n hlt]
    omega
theorem II_out {M0 M : MS} {s k c : Nat} (h : II M0 s k c 10 M) : IO M0 s (k + 1) M := by
  obtain ⟨h1, h2, h3, h4, h5, h6⟩ := h
  exact ⟨h1, h2, h3, h4, by omega⟩
theorem II_said {M0 M : MS} {s k c n : Nat} (h : II M0 s k c n M) (hn : n ≤ 10) : m_said M ≤ 1023 := by
  obtain ⟨h1, h2, h3, h4, h5, h6⟩ := h
  have a := mb_ws_mono M0 s (mb_key c) hn
  have b := mb_qs_ge (row := m_row M) (mb_w_pos M0 s) (k + 1) (m_said M - (k + 1))
  omega
theorem IO_said {M0 M : MS} {s k : Nat} (h : IO M0 s k M) : m_said M ≤ 1023 := by
  obtain ⟨h1, h2, h3, h4, h5⟩ := h
  have b := mb_qs_ge (row := m_row M) (mb_w_pos M0 s) k (m_said M - k)
  omega
theorem rows_c {M0 M : MS} {s k : Nat} (hJ : JN M) (hs : s < 16) (h2 : mb_same M0 M) (h : mb_rows M0 M s) (hk : k < m_said M) : m_row M k < 2000000 ∧ m_row M k % 100 < 10 := by
  obtain ⟨n, hn, e⟩ := h k hk
  rw [e, ← mb_own_same h2]
  exact ⟨mb_own_lt hJ hn hs, by rw [mb_own_mod M s hn]; exact hn⟩
theorem II_hear {M0 M : MS} {s k c n : Nat} (h : II M0 s k c n M) (hn : n < 10) (hc : c < 2000000) (hc2 : c % 100 < 10) : II M0 s k c (n + 1) (mb_hear M n s c) := by
  have a : II M0 s k c n (mb_h1 M n s c) := by
    unfold mb_h1
    split
    · exact II_keep h hc hc2
    · exact h
  unfold mb_hear mb_h2
  split
  · rename_i q
    exact II_say a hn q.2
  · exact II_skip a
theorem mb_inner_II {M0 M : MS} {s k : Nat} (hs : s < 16) (h : IO M0 s k M) (hk : k < m_said M) (n : Nat) (hn : n ≤ 10) : II M0 s k (m_row M k) n (mb_inner M s (m_row M k) n) := by
  have hc := rows_c h.1 hs h.2.1 h.2.2.1 hk
  induction n with
  | zero => exact IO_in h hk
  | succ n ih =>
    have a := ih (by omega)
    simp only [mb_inner]
    split
    · exact II_hear a (by omega) hc.1 hc.2
    · exact II_skip a
theorem mb_inner_IO {M0 M : MS} {s k : Nat} (hs : s < 16) (h : IO M0 s k M) (hk : k < m_said M) : IO M0 s (k + 1) (mb_inner M s (m_row M k) 10) := II_out (mb_inner_II hs h hk 10 (Nat.le_refl _))
theorem IF_skip {M0 M : MS} {s n : Nat} (h : IF M0 s n M) : IF M0 s (n + 1) M := by
  obtain ⟨h1, h2, h3, h4⟩ := h
  exact ⟨h1, h2, h3, Nat.le_trans h4 (mb_ws_mono M0 s 3000000 (Nat.le_succ n))⟩
theorem IF_say {M0 M : MS} {s n : Nat} (hs : s < 16) (h : IF M0 s n M) (hn : n < 10) : IF M0 s (n + 1) (mb_say M n s) := by
  obtain ⟨h1, h2, h3, h4⟩ := h
  have hlt : mb_fk M0 s n < 3000000 := by
    show mb_key (mb_own M0 n s) < 3000000
    rw [← mb_own_same h2]
    exact mb_key_lt (mb_own_lt h1 hn hs)
  refine ⟨h1, h2, rows_say hn h2 h3, ?_⟩
  have e := qs_say (n := n) (s := s) (k := 0) h2 (Nat.zero_le _)
  rw [Nat.sub_zero, Nat.sub_zero] at e
  rw [e, mb_ws_succ M0 s 3000000 n hlt]
  omega
theorem IF_out {M0 M : MS} {s : Nat} (h : IF M0 s 10 M) : IO M0 s 0 M := by
  obtain ⟨h1, h2, h3, h4⟩ := h
  have := mb_ws_max M0 s 3000000
  exact ⟨h1, h2, h3, Nat.zero_le _, by rw [Nat.sub_zero]; omega⟩
theorem IF_said {M0 M : MS} {s n : Nat} (h : IF M0 s n M) (hn : n ≤ 10) : m_said M ≤ 1023 := by
  obtain ⟨h1, h2, h3, h4⟩ := h
  have a := mb_ws_mono M0 s 3000000 hn
  have c := mb_ws_max M0 s 3000000
  have b := mb_qs_ge (row := m_row M) (mb_w_pos M0 s) 0 (m_said M)
  omega
theorem IF_0 {M : MS} (s : Nat) (h : JN M) : IF M s 0 (n_said M 0) := ⟨h, ⟨rfl, rfl⟩, fun j hj => absurd hj (Nat.not_lt_zero j), Nat.le_refl _⟩
theorem mb_first_IF {M : MS} {r s : Nat} (hs : s < 16) (h : JN M) (n : Nat) (hn : n ≤ 10) : IF M s n (mb_first (n_said M 0) r s n) := by
  induction n with
  | zero => exact IF_0 s h
  | succ n ih =>
    have a := ih (by omega)
    simp only [mb_first]
    split
    · exact IF_say hs a (by omega)
    · exact IF_skip a
theorem IO_JJ {M0 M : MS} {s k : Nat} (hs : s < 16) (h : IO M0 s k M) : JJ M := ⟨h.1, IO_said h, fun j hj => (rows_c h.1 hs h.2.1 h.2.2.1 hj).1⟩
theorem mb_loop_JJ {M0 : MS} {s : Nat} (hs : s < 16) (f : Nat) : ∀ (k : Nat) (M : MS), IO M0 s k M → JJ (mb_loop s f k M) := by
  induction f with
  | zero => exact fun k M h => IO_JJ hs h
  | succ f ih =>
    intro k M h
    simp only [mb_loop]
    split
    · rename_i hk
      exact ih (k + 1) _ (mb_inner_IO hs h hk)
    · exact IO_JJ hs h
theorem mb_data_JJ {M : MS} {r s : Nat} (hs : s < 16) (h : JN M) : JJ (mb_data M r s) := mb_loop_JJ hs 1024 0 _ (IF_out (mb_first_IF hs h 10 (Nat.le_refl _)))
/-! every call leaves what always holds -/
theorem JJ_tick {M : MS} (h : JJ M) (n : Int32) : JJ (mo_tick M n).2 := by
  unfold mo_tick
  split
  · exact h
  · rename_i q
    have q0 : ¬ n < 0 := fun e => q (Or.inl (by
      rw [Int32.lt_iff_toInt_lt] at e ⊢
      have a : (0 : Int32).toInt = 0 := rfl
      have b : (1 : Int32).toInt = 1 := rfl
      omega))
    obtain ⟨j, hj, rfl⟩ := nI_of q0
    have q1 : j ≤ 100 := by
      rcases Nat.lt_or_ge 100 j with z | z
      · exact absurd (Or.inr (Or.inl (nI_lt z hj))) q
      · exact z
    have ht := h.1.1
    have q2 : m_time M + j ≤ 100000 := by
      rcases Nat.lt_or_ge 100000 (m_time M + j) with z | z
      · exact absurd (Or.inr (Or.inr (by rw [nI_add]; exact nI_lt z (by omega)))) q
      · exact z
    refine ⟨⟨?_, h.1.2.1, h.1.2.2.1, h.1.2.2.2⟩, h.2.1, h.2.2⟩
    show m_time M + iN (nI j) ≤ 100000
    rw [iN_nI hj]
    exact q2
theorem JJ_forward {M : MS} (h : JJ M) (r s : Int32) (on : Bool) : JJ (mo_forward M r s on).2 := by
  unfold mo_forward
  split <;> exact h
theorem JJ_place {M : MS} (h : JJ M) (r s : Int32) (b : Bool) (far : Int32) : JJ (mo_place M r s b far).2 := by
  unfold mo_place
  split
  · rename_i q
    refine ⟨⟨h.1.1, fun k hk => ?_, h.1.2.2.1, h.1.2.2.2⟩, h.2.1, h.2.2⟩
    show va_up (m_di M) (16 * iN r + iN s) (iN far) k ≤ 9999
    unfold va_up
    split
    · obtain ⟨j, hj, rfl⟩ := nI_of q.2.1
      rw [iN_nI hj]
      exact (nI_leI hj (by decide)).mp (show nI j ≤ nI 9999 from q.2.2)
    · exact h.1.2.1 k hk
  · exact h
theorem JJ_there {M : MS} (h : JJ M) (r : Int32) (on : Bool) : JJ (mo_there M r on).2 := by
  unfold mo_there
  split <;> exact h
theorem JJ_deaf {M : MS} (h : JJ M) (r : Int32) (on : Bool) : JJ (mo_deaf M r on).2 := by
  unfold mo_deaf
  split <;> exact h
theorem JJ_data {M : MS} (h : JJ M) (r s : Int32) : JJ (mo_data M r s).2 := by
  unfold mo_data
  split
  · rename_i q
    obtain ⟨j, k, hj, hk, rfl, rfl⟩ := mq_pr_of q.1
    show JJ (mb_data M (iN (nI j)) (iN (nI k)))
    rw [iN_nI (by omega), iN_nI (by omega)]
    exact mb_data_JJ hk h.1
  · exact h
end
section
theorem q59 : (Jvm.Cond.arrayClass Jvm.ClassFile.FieldType.boolean) ∈ lw_all := lw_g (lw_at lw_m1 45 rfl) rfl
set_option maxRecDepth 100000
theorem q60 : (Jvm.Cond.arrayClass Jvm.ClassFile.FieldType.int) ∈ lw_all := lw_g (lw_at lw_m1 46 rfl) rfl
/-! java/lang/Object -/
set_option maxRecDepth 100000
def RJ0 : String := "java/lang/Object"
abbrev cJ0_init : ByteArray := object_method_1_code
def yJ0_init : MethodName := ⟨RJ0, "<init>", "()V"⟩
theorem dJ0_init_0 : decode cJ0_init 0 = .ok (.return_, 1) := by decide +kernel
theorem q23 : (Jvm.Cond.instanceMethod ({ cls := "java/lang/Object", name := "<init>", desc := "()V" } : Jvm.MethodName)) ∈ lw_all := lw_g (lw_at lw_m1 9 rfl) rfl
theorem q24 : (Jvm.Cond.code ({ cls := "java/lang/Object", name := "<init>", desc := "()V" } : Jvm.MethodName) object_method_1_code (1 : Nat) (Option.none : Option Jvm.ClassFile.FieldType)) ∈ lw_all := lw_g (lw_at lw_m1 10 rfl) rfl
/-! ClaimBench -/
set_option maxRecDepth 100000
def RX0 : String := "ClaimBench"
def TX0 : u_T := fun k => match k with
  | 0 => ("ClaimBench", "time", "I", false)
  | 1 => ("ClaimBench", "inAll", "I", false)
  | 2 => ("ClaimBench", "there", "I", false)
  | 3 => ("ClaimBench", "deaf", "I", false)
  | 4 => ("ClaimBench", "forwards", "[Z", true)
  | 5 => ("ClaimBench", "straight", "[Z", true)
  | 6 => ("ClaimBench", "distance", "[I", true)
  | 7 => ("ClaimBench", "keeps", "[I", true)
  | 8 => ("ClaimBench", "till", "[I", true)
  | 9 => ("ClaimBench", "row", "[I", true)
  | _ => ("ClaimBench", "said", "I", false)
def tyX0 : Nat → FieldType := fun k => match k with
  | 0 => .int
  | 1 => .int
  | 2 => .int
  | 3 => .int
  | 4 => .array .boolean
  | 5 => .array .boolean
  | 6 => .array .int
  | 7 => .array .int
  | 8 => .array .int
  | 9 => .array .int
  | _ => .int
abbrev wsX00 : List Cond := u_ws RX0 TX0 11
theorem nmX0 : ∀ a, a < 11 → ∀ b, b < 11 → a ≠ b → (TX0 a).2.1 ≠ (TX0 b).2.1 := by decide +kernel
theorem tyX0_ok : ∀ k, k < 11 → parseFieldDescriptor (TX0 k).2.2.1 = some (tyX0 k) := by decide +kernel
abbrev cX0_init : ByteArray := prog_1_method_1_code
def yX0_init : MethodName := ⟨RX0, "<init>", "()V"⟩
theorem dX0_init_0 : decode cX0_init 0 = .ok (.aload_n 0, 1) := by decide +kernel
theorem dX0_init_1 : decode cX0_init 1 = .ok (.invokespecial 1, 3) := by decide +kernel
theorem dX0_init_4 : decode cX0_init 4 = .ok (.aload_n 0, 1) := by decide +kernel
theorem dX0_init_5 : decode cX0_init 5 = .ok (.sipush 1023, 3) := by decide +kernel
theorem dX0_init_8 : decode cX0_init 8 = .ok (.putfield 7, 3) := by decide +kernel
theorem dX0_init_11 : decode cX0_init 11 = .ok (.aload_n 0, 1) := by decide +kernel
theorem dX0_init_12 : decode cX0_init 12 = .ok (.sipush 160, 3) := by decide +kernel
theorem dX0_init_15 : decode cX0_init 15 = .ok (.newarray .boolean, 2) := by decide +kernel
theorem dX0_init_17 : decode cX0_init 17 = .ok (.putfield 13, 3) := by decide +kernel
theorem dX0_init_20 : decode cX0_init 20 = .ok (.aload_n 0, 1) := by decide +kernel
theorem dX0_init_21 : decode cX0_init 21 = .ok (.sipush 160, 3) := by decide +kernel
theorem dX0_init_24 : decode cX0_init 24 = .ok (.newarray .boolean, 2) := by decide +kernel
theorem dX0_init_26 : decode cX0_init 26 = .ok (.putfield 17, 3) := by decide +kernel
theorem dX0_init_29 : decode cX0_init 29 = .ok (.aload_n 0, 1) := by decide +kernel
theorem dX0_init_30 : decode cX0_init 30 = .ok (.sipush 160, 3) := by decide +kernel
theorem dX0_init_33 : decode cX0_init 33 = .ok (.newarray .int, 2) := by decide +kernel
theorem dX0_init_35 : decode cX0_init 35 = .ok (.putfield 20, 3) := by decide +kernel
theorem dX0_init_38 : decode cX0_init 38 = .ok (.aload_n 0, 1) := by decide +kernel
theorem dX0_init_39 : decode cX0_init 39 = .ok (.sipush 160, 3) := by decide +kernel
theorem dX0_init_42 : decode cX0_init 42 = .ok (.newarray .int, 2) := by decide +kernel
theorem dX0_init_44 : decode cX0_init 44 = .ok (.putfield 24, 3) := by decide +kernel
theorem dX0_init_47 : decode cX0_init 47 = .ok (.aload_n 0, 1) := by decide +kernel
theorem dX0_init_48 : decode cX0_init 48 = .ok (.sipush 160, 3) := by decide +kernel
theorem dX0_init_51 : decode cX0_init 51 = .ok (.newarray .int, 2) := by decide +kernel
theorem dX0_init_53 : decode cX0_init 53 = .ok (.putfield 27, 3) := by decide +kernel
theorem dX0_init_56 : decode cX0_init 56 = .ok (.aload_n 0, 1) := by decide +kernel
theorem dX0_init_57 : decode cX0_init 57 = .ok (.sipush 1024, 3) := by decide +kernel
theorem dX0_init_60 : decode cX0_init 60 = .ok (.newarray .int, 2) := by decide +kernel
theorem dX0_init_62 : decode cX0_init 62 = .ok (.putfield 30, 3) := by decide +kernel
theorem dX0_init_65 : decode cX0_init 65 = .ok (.return_, 1) := by decide +kernel
abbrev cX0_tick : ByteArray := prog_1_method_2_code
def yX0_tick : MethodName := ⟨RX0, "tick", "(I)I"⟩
theorem dX0_tick_0 : decode cX0_tick 0 = .ok (.iload_n 1, 1) := by decide +kernel
theorem dX0_tick_1 : decode cX0_tick 1 = .ok (.iconst 1, 1) := by decide +kernel
theorem dX0_tick_2 : decode cX0_tick 2 = .ok (.if_icmp .lt 20, 3) := by decide +kernel
theorem dX0_tick_5 : decode cX0_tick 5 = .ok (.iload_n 1, 1) := by decide +kernel
theorem dX0_tick_6 : decode cX0_tick 6 = .ok (.bipush 100, 2) := by decide +kernel
theorem dX0_tick_8 : decode cX0_tick 8 = .ok (.if_icmp .gt 14, 3) := by decide +kernel
theorem dX0_tick_11 : decode cX0_tick 11 = .ok (.aload_n 0, 1) := by decide +kernel
theorem dX0_tick_12 : decode cX0_tick 12 = .ok (.getfield 33, 3) := by decide +kernel
theorem dX0_tick_15 : decode cX0_tick 15 = .ok (.iload_n 1, 1) := by decide +kernel
theorem dX0_tick_16 : decode cX0_tick 16 = .ok (.iadd, 1) := by decide +kernel
theorem dX0_tick_17 : decode cX0_tick 17 = .ok (.ldc 36, 2) := by decide +kernel
theorem dX0_tick_19 : decode cX0_tick 19 = .ok (.if_icmp .le 5, 3) := by decide +kernel
theorem dX0_tick_22 : decode cX0_tick 22 = .ok (.iconst (-1), 1) := by decide +kernel
theorem dX0_tick_23 : decode cX0_tick 23 = .ok (.ireturn, 1) := by decide +kernel
theorem dX0_tick_24 : decode cX0_tick 24 = .ok (.aload_n 0, 1) := by decide +kernel
theorem dX0_tick_25 : decode cX0_tick 25 = .ok (.dup, 1) := by decide +kernel
theorem dX0_tick_26 : decode cX0_tick 26 = .ok (.getfield 33, 3) := by decide +kernel
theorem dX0_tick_29 : decode cX0_tick 29 = .ok (.iload_n 1, 1) := by decide +kernel
theorem dX0_tick_30 : decode cX0_tick 30 = .ok (.iadd, 1) := by decide +kernel
theorem dX0_tick_31 : decode cX0_tick 31 = .ok (.putfield 33, 3) := by decide +kernel
theorem dX0_tick_34 : decode cX0_tick 34 = .ok (.aload_n 0, 1) := by decide +kernel
theorem dX0_tick_35 : decode cX0_tick 35 = .ok (.getfield 33, 3) := by decide +kernel
theorem dX0_tick_38 : decode cX0_tick 38 = .ok (.ireturn, 1) := by decide +kernel
abbrev cX0_forward : ByteArray := prog_1_method_5_code
def yX0_forward : MethodName := ⟨RX0, "forward", "(IIZ)Z"⟩
theorem dX0_forward_0 : decode cX0_forward 0 = .ok (.iload_n 1, 1) := by decide +kernel
theorem dX0_forward_1 : decode cX0_forward 1 = .ok (.iload_n 2, 1) := by decide +kernel
theorem dX0_forward_2 : decode cX0_forward 2 = .ok (.invokestatic 41, 3) := by decide +kernel
theorem dX0_forward_5 : decode cX0_forward 5 = .ok (.ifCond .ne 5, 3) := by decide +kernel
theorem dX0_forward_8 : decode cX0_forward 8 = .ok (.iconst 0, 1) := by decide +kernel
theorem dX0_forward_9 : decode cX0_forward 9 = .ok (.ireturn, 1) := by decide +kernel
theorem dX0_forward_10 : decode cX0_forward 10 = .ok (.aload_n 0, 1) := by decide +kernel
theorem dX0_forward_11 : decode cX0_forward 11 = .ok (.getfield 13, 3) := by decide +kernel
theorem dX0_forward_14 : decode cX0_forward 14 = .ok (.iload_n 1, 1) := by decide +kernel
theorem dX0_forward_15 : decode cX0_forward 15 = .ok (.bipush 16, 2) := by decide +kernel
theorem dX0_forward_17 : decode cX0_forward 17 = .ok (.imul, 1) := by decide +kernel
theorem dX0_forward_18 : decode cX0_forward 18 = .ok (.iload_n 2, 1) := by decide +kernel
theorem dX0_forward_19 : decode cX0_forward 19 = .ok (.iadd, 1) := by decide +kernel
theorem dX0_forward_20 : decode cX0_forward 20 = .ok (.iload_n 3, 1) := by decide +kernel
theorem dX0_forward_21 : decode cX0_forward 21 = .ok (.bastore, 1) := by decide +kernel
theorem dX0_forward_22 : decode cX0_forward 22 = .ok (.iconst 1, 1) := by decide +kernel
theorem dX0_forward_23 : decode cX0_forward 23 = .ok (.ireturn, 1) := by decide +kernel
abbrev cX0_isPair : ByteArray := prog_1_method_4_code
def yX0_isPair : MethodName := ⟨RX0, "isPair", "(II)Z"⟩
theorem dX0_isPair_0 : decode cX0_isPair 0 = .ok (.iload_n 0, 1) := by decide +kernel
theorem dX0_isPair_1 : decode cX0_isPair 1 = .ok (.invokestatic 37, 3) := by decide +kernel
theorem dX0_isPair_4 : decode cX0_isPair 4 = .ok (.ifCond .eq 17, 3) := by decide +kernel
theorem dX0_isPair_7 : decode cX0_isPair 7 = .ok (.iload_n 1, 1) := by decide +kernel
theorem dX0_isPair_8 : decode cX0_isPair 8 = .ok (.ifCond .lt 13, 3) := by decide +kernel
theorem dX0_isPair_11 : decode cX0_isPair 11 = .ok (.iload_n 1, 1) := by decide +kernel
theorem dX0_isPair_12 : decode cX0_isPair 12 = .ok (.bipush 16, 2) := by decide +kernel
theorem dX0_isPair_14 : decode cX0_isPair 14 = .ok (.if_icmp .ge 7, 3) := by decide +kernel
theorem dX0_isPair_17 : decode cX0_isPair 17 = .ok (.iconst 1, 1) := by decide +kernel
theorem dX0_isPair_18 : decode cX0_isPair 18 = .ok (.goto 4, 3) := by decide +kernel
theorem dX0_isPair_21 : decode cX0_isPair 21 = .ok (.iconst 0, 1) := by decide +kernel
theorem dX0_isPair_22 : decode cX0_isPair 22 = .ok (.ireturn, 1) := by decide +kernel
abbrev cX0_isRouter : ByteArray := prog_1_method_3_code
def yX0_isRouter : MethodName := ⟨RX0, "isRouter", "(I)Z"⟩
theorem dX0_isRouter_0 : decode cX0_isRouter 0 = .ok (.iload_n 0, 1) := by decide +kernel
theorem dX0_isRouter_1 : decode cX0_isRouter 1 = .ok (.ifCond .lt 13, 3) := by decide +kernel
theorem dX0_isRouter_4 : decode cX0_isRouter 4 = .ok (.iload_n 0, 1) := by decide +kernel
theorem dX0_isRouter_5 : decode cX0_isRouter 5 = .ok (.bipush 10, 2) := by decide +kernel
theorem dX0_isRouter_7 : decode cX0_isRouter 7 = .ok (.if_icmp .ge 7, 3) := by decide +kernel
theorem dX0_isRouter_10 : decode cX0_isRouter 10 = .ok (.iconst 1, 1) := by decide +kernel
theorem dX0_isRouter_11 : decode cX0_isRouter 11 = .ok (.goto 4, 3) := by decide +kernel
theorem dX0_isRouter_14 : decode cX0_isRouter 14 = .ok (.iconst 0, 1) := by decide +kernel
theorem dX0_isRouter_15 : decode cX0_isRouter 15 = .ok (.ireturn, 1) := by decide +kernel
abbrev cX0_place : ByteArray := prog_1_method_6_code
def yX0_place : MethodName := ⟨RX0, "place", "(IIZI)Z"⟩
theorem dX0_place_0 : decode cX0_place 0 = .ok (.iload_n 1, 1) := by decide +kernel
theorem dX0_place_1 : decode cX0_place 1 = .ok (.iload_n 2, 1) := by decide +kernel
theorem dX0_place_2 : decode cX0_place 2 = .ok (.invokestatic 41, 3) := by decide +kernel
theorem dX0_place_5 : decode cX0_place 5 = .ok (.ifCond .eq 16, 3) := by decide +kernel
theorem dX0_place_8 : decode cX0_place 8 = .ok (.iload 4, 2) := by decide +kernel
theorem dX0_place_10 : decode cX0_place 10 = .ok (.ifCond .lt 11, 3) := by decide +kernel
theorem dX0_place_13 : decode cX0_place 13 = .ok (.iload 4, 2) := by decide +kernel
theorem dX0_place_15 : decode cX0_place 15 = .ok (.sipush 9999, 3) := by decide +kernel
theorem dX0_place_18 : decode cX0_place 18 = .ok (.if_icmp .le 5, 3) := by decide +kernel
theorem dX0_place_21 : decode cX0_place 21 = .ok (.iconst 0, 1) := by decide +kernel
theorem dX0_place_22 : decode cX0_place 22 = .ok (.ireturn, 1) := by decide +kernel
theorem dX0_place_23 : decode cX0_place 23 = .ok (.aload_n 0, 1) := by decide +kernel
theorem dX0_place_24 : decode cX0_place 24 = .ok (.getfield 17, 3) := by decide +kernel
theorem dX0_place_27 : decode cX0_place 27 = .ok (.iload_n 1, 1) := by decide +kernel
theorem dX0_place_28 : decode cX0_place 28 = .ok (.bipush 16, 2) := by decide +kernel
theorem dX0_place_30 : decode cX0_place 30 = .ok (.imul, 1) := by decide +kernel
theorem dX0_place_31 : decode cX0_place 31 = .ok (.iload_n 2, 1) := by decide +kernel
theorem dX0_place_32 : decode cX0_place 32 = .ok (.iadd, 1) := by decide +kernel
theorem dX0_place_33 : decode cX0_place 33 = .ok (.iload_n 3, 1) := by decide +kernel
theorem dX0_place_34 : decode cX0_place 34 = .ok (.bastore, 1) := by decide +kernel
theorem dX0_place_35 : decode cX0_place 35 = .ok (.aload_n 0, 1) := by decide +kernel
theorem dX0_place_36 : decode cX0_place 36 = .ok (.getfield 20, 3) := by decide +kernel
theorem dX0_place_39 : decode cX0_place 39 = .ok (.iload_n 1, 1) := by decide +kernel
theorem dX0_place_40 : decode cX0_place 40 = .ok (.bipush 16, 2) := by decide +kernel
theorem dX0_place_42 : decode cX0_place 42 = .ok (.imul, 1) := by decide +kernel
theorem dX0_place_43 : decode cX0_place 43 = .ok (.iload_n 2, 1) := by decide +kernel
theorem dX0_place_44 : decode cX0_place 44 = .ok (.iadd, 1) := by decide +kernel
theorem dX0_place_45 : decode cX0_place 45 = .ok (.iload 4, 2) := by decide +kernel
theorem dX0_place_47 : decode cX0_place 47 = .ok (.iastore, 1) := by decide +kernel
theorem dX0_place_48 : decode cX0_place 48 = .ok (.iconst 1, 1) := by decide +kernel
theorem dX0_place_49 : decode cX0_place 49 = .ok (.ireturn, 1) := by decide +kernel
abbrev cX0_there : ByteArray := prog_1_method_7_code
def yX0_there : MethodName := ⟨RX0, "there", "(IZ)Z"⟩
theorem dX0_there_0 : decode cX0_there 0 = .ok (.iload_n 1, 1) := by decide +kernel
theorem dX0_there_1 : decode cX0_there 1 = .ok (.invokestatic 37, 3) := by decide +kernel
theorem dX0_there_4 : decode cX0_there 4 = .ok (.ifCond .ne 5, 3) := by decide +kernel
theorem dX0_there_7 : decode cX0_there 7 = .ok (.iconst 0, 1) := by decide +kernel
theorem dX0_there_8 : decode cX0_there 8 = .ok (.ireturn, 1) := by decide +kernel
theorem dX0_there_9 : decode cX0_there 9 = .ok (.aload_n 0, 1) := by decide +kernel
theorem dX0_there_10 : decode cX0_there 10 = .ok (.iload_n 1, 1) := by decide +kernel
theorem dX0_there_11 : decode cX0_there 11 = .ok (.invokevirtual 45, 3) := by decide +kernel
theorem dX0_there_14 : decode cX0_there 14 = .ok (.istore_n 3, 1) := by decide +kernel
theorem dX0_there_15 : decode cX0_there 15 = .ok (.aload_n 0, 1) := by decide +kernel
theorem dX0_there_16 : decode cX0_there 16 = .ok (.iload_n 2, 1) := by decide +kernel
theorem dX0_there_17 : decode cX0_there 17 = .ok (.ifCond .eq 14, 3) := by decide +kernel
theorem dX0_there_20 : decode cX0_there 20 = .ok (.aload_n 0, 1) := by decide +kernel
theorem dX0_there_21 : decode cX0_there 21 = .ok (.getfield 7, 3) := by decide +kernel
theorem dX0_there_24 : decode cX0_there 24 = .ok (.iconst 1, 1) := by decide +kernel
theorem dX0_there_25 : decode cX0_there 25 = .ok (.iload_n 1, 1) := by decide +kernel
theorem dX0_there_26 : decode cX0_there 26 = .ok (.ishl, 1) := by decide +kernel
theorem dX0_there_27 : decode cX0_there 27 = .ok (.ior, 1) := by decide +kernel
theorem dX0_there_28 : decode cX0_there 28 = .ok (.goto 13, 3) := by decide +kernel
theorem dX0_there_31 : decode cX0_there 31 = .ok (.aload_n 0, 1) := by decide +kernel
theorem dX0_there_32 : decode cX0_there 32 = .ok (.getfield 7, 3) := by decide +kernel
theorem dX0_there_35 : decode cX0_there 35 = .ok (.iconst 1, 1) := by decide +kernel
theorem dX0_there_36 : decode cX0_there 36 = .ok (.iload_n 1, 1) := by decide +kernel
theorem dX0_there_37 : decode cX0_there 37 = .ok (.ishl, 1) := by decide +kernel
theorem dX0_there_38 : decode cX0_there 38 = .ok (.iconst (-1), 1) := by decide +kernel
theorem dX0_there_39 : decode cX0_there 39 = .ok (.ixor, 1) := by decide +kernel
theorem dX0_there_40 : decode cX0_there 40 = .ok (.iand, 1) := by decide +kernel
theorem dX0_there_41 : decode cX0_there 41 = .ok (.putfield 7, 3) := by decide +kernel
theorem dX0_there_44 : decode cX0_there 44 = .ok (.iload_n 3, 1) := by decide +kernel
theorem dX0_there_45 : decode cX0_there 45 = .ok (.ireturn, 1) := by decide +kernel
abbrev cX0_isThere : ByteArray := prog_1_method_9_code
def yX0_isThere : MethodName := ⟨RX0, "isThere", "(I)Z"⟩
theorem dX0_isThere_0 : decode cX0_isThere 0 = .ok (.aload_n 0, 1) := by decide +kernel
theorem dX0_isThere_1 : decode cX0_isThere 1 = .ok (.getfield 7, 3) := by decide +kernel
theorem dX0_isThere_4 : decode cX0_isThere 4 = .ok (.iload_n 1, 1) := by decide +kernel
theorem dX0_isThere_5 : decode cX0_isThere 5 = .ok (.ishr, 1) := by decide +kernel
theorem dX0_isThere_6 : decode cX0_isThere 6 = .ok (.iconst 1, 1) := by decide +kernel
theorem dX0_isThere_7 : decode cX0_isThere 7 = .ok (.iand, 1) := by decide +kernel
theorem dX0_isThere_8 : decode cX0_isThere 8 = .ok (.iconst 1, 1) := by decide +kernel
theorem dX0_isThere_9 : decode cX0_isThere 9 = .ok (.if_icmp .ne 7, 3) := by decide +kernel
theorem dX0_isThere_12 : decode cX0_isThere 12 = .ok (.iconst 1, 1) := by decide +kernel
theorem dX0_isThere_13 : decode cX0_isThere 13 = .ok (.goto 4, 3) := by decide +kernel
theorem dX0_isThere_16 : decode cX0_isThere 16 = .ok (.iconst 0, 1) := by decide +kernel
theorem dX0_isThere_17 : decode cX0_isThere 17 = .ok (.ireturn, 1) := by decide +kernel
abbrev cX0_deaf : ByteArray := prog_1_method_8_code
def yX0_deaf : MethodName := ⟨RX0, "deaf", "(IZ)Z"⟩
theorem dX0_deaf_0 : decode cX0_deaf 0 = .ok (.iload_n 1, 1) := by decide +kernel
theorem dX0_deaf_1 : decode cX0_deaf 1 = .ok (.invokestatic 37, 3) := by decide +kernel
theorem dX0_deaf_4 : decode cX0_deaf 4 = .ok (.ifCond .ne 5, 3) := by decide +kernel
theorem dX0_deaf_7 : decode cX0_deaf 7 = .ok (.iconst 0, 1) := by decide +kernel
theorem dX0_deaf_8 : decode cX0_deaf 8 = .ok (.ireturn, 1) := by decide +kernel
theorem dX0_deaf_9 : decode cX0_deaf 9 = .ok (.aload_n 0, 1) := by decide +kernel
theorem dX0_deaf_10 : decode cX0_deaf 10 = .ok (.getfield 48, 3) := by decide +kernel
theorem dX0_deaf_13 : decode cX0_deaf 13 = .ok (.iload_n 1, 1) := by decide +kernel
theorem dX0_deaf_14 : decode cX0_deaf 14 = .ok (.ishr, 1) := by decide +kernel
theorem dX0_deaf_15 : decode cX0_deaf 15 = .ok (.iconst 1, 1) := by decide +kernel
theorem dX0_deaf_16 : decode cX0_deaf 16 = .ok (.iand, 1) := by decide +kernel
theorem dX0_deaf_17 : decode cX0_deaf 17 = .ok (.iconst 1, 1) := by decide +kernel
theorem dX0_deaf_18 : decode cX0_deaf 18 = .ok (.if_icmp .ne 7, 3) := by decide +kernel
theorem dX0_deaf_21 : decode cX0_deaf 21 = .ok (.iconst 1, 1) := by decide +kernel
theorem dX0_deaf_22 : decode cX0_deaf 22 = .ok (.goto 4, 3) := by decide +kernel
theorem dX0_deaf_25 : decode cX0_deaf 25 = .ok (.iconst 0, 1) := by decide +kernel
theorem dX0_deaf_26 : decode cX0_deaf 26 = .ok (.istore_n 3, 1) := by decide +kernel
theorem dX0_deaf_27 : decode cX0_deaf 27 = .ok (.aload_n 0, 1) := by decide +kernel
theorem dX0_deaf_28 : decode cX0_deaf 28 = .ok (.iload_n 2, 1) := by decide +kernel
theorem dX0_deaf_29 : decode cX0_deaf 29 = .ok (.ifCond .eq 14, 3) := by decide +kernel
theorem dX0_deaf_32 : decode cX0_deaf 32 = .ok (.aload_n 0, 1) := by decide +kernel
theorem dX0_deaf_33 : decode cX0_deaf 33 = .ok (.getfield 48, 3) := by decide +kernel
theorem dX0_deaf_36 : decode cX0_deaf 36 = .ok (.iconst 1, 1) := by decide +kernel
theorem dX0_deaf_37 : decode cX0_deaf 37 = .ok (.iload_n 1, 1) := by decide +kernel
theorem dX0_deaf_38 : decode cX0_deaf 38 = .ok (.ishl, 1) := by decide +kernel
theorem dX0_deaf_39 : decode cX0_deaf 39 = .ok (.ior, 1) := by decide +kernel
theorem dX0_deaf_40 : decode cX0_deaf 40 = .ok (.goto 13, 3) := by decide +kernel
theorem dX0_deaf_43 : decode cX0_deaf 43 = .ok (.aload_n 0, 1) := by decide +kernel
theorem dX0_deaf_44 : decode cX0_deaf 44 = .ok (.getfield 48, 3) := by decide +kernel
theorem dX0_deaf_47 : decode cX0_deaf 47 = .ok (.iconst 1, 1) := by decide +kernel
theorem dX0_deaf_48 : decode cX0_deaf 48 = .ok (.iload_n 1, 1) := by decide +kernel
theorem dX0_deaf_49 : decode cX0_deaf 49 = .ok (.ishl, 1) := by decide +kernel
theorem dX0_deaf_50 : decode cX0_deaf 50 = .ok (.iconst (-1), 1) := by decide +kernel
theorem dX0_deaf_51 : decode cX0_deaf 51 = .ok (.ixor, 1) := by decide +kernel
theorem dX0_deaf_52 : decode cX0_deaf 52 = .ok (.iand, 1) := by decide +kernel
theorem dX0_deaf_53 : decode cX0_deaf 53 = .ok (.putfield 48, 3) := by decide +kernel
theorem dX0_deaf_56 : decode cX0_deaf 56 = .ok (.iload_n 3, 1) := by decide +kernel
theorem dX0_deaf_57 : decode cX0_deaf 57 = .ok (.ireturn, 1) := by decide +kernel
abbrev cX0_data : ByteArray := prog_1_method_18_code
def yX0_data : MethodName := ⟨RX0, "data", "(II)I"⟩
theorem dX0_data_0 : decode cX0_data 0 = .ok (.iload_n 1, 1) := by decide +kernel
theorem dX0_data_1 : decode cX0_data 1 = .ok (.iload_n 2, 1) := by decide +kernel
theorem dX0_data_2 : decode cX0_data 2 = .ok (.invokestatic 41, 3) := by decide +kernel
theorem dX0_data_5 : decode cX0_data 5 = .ok (.ifCond .eq 11, 3) := by decide +kernel
theorem dX0_data_8 : decode cX0_data 8 = .ok (.aload_n 0, 1) := by decide +kernel
theorem dX0_data_9 : decode cX0_data 9 = .ok (.iload_n 1, 1) := by decide +kernel
theorem dX0_data_10 : decode cX0_data 10 = .ok (.invokevirtual 45, 3) := by decide +kernel
theorem dX0_data_13 : decode cX0_data 13 = .ok (.ifCond .ne 5, 3) := by decide +kernel
theorem dX0_data_16 : decode cX0_data 16 = .ok (.iconst (-1), 1) := by decide +kernel
theorem dX0_data_17 : decode cX0_data 17 = .ok (.ireturn, 1) := by decide +kernel
theorem dX0_data_18 : decode cX0_data 18 = .ok (.aload_n 0, 1) := by decide +kernel
theorem dX0_data_19 : decode cX0_data 19 = .ok (.iconst 0, 1) := by decide +kernel
theorem dX0_data_20 : decode cX0_data 20 = .ok (.putfield 65, 3) := by decide +kernel
theorem dX0_data_23 : decode cX0_data 23 = .ok (.iconst 0, 1) := by decide +kernel
theorem dX0_data_24 : decode cX0_data 24 = .ok (.istore_n 3, 1) := by decide +kernel
theorem dX0_data_25 : decode cX0_data 25 = .ok (.iload_n 3, 1) := by decide +kernel
theorem dX0_data_26 : decode cX0_data 26 = .ok (.bipush 10, 2) := by decide +kernel
theorem dX0_data_28 : decode cX0_data 28 = .ok (.if_icmp .ge 37, 3) := by decide +kernel
theorem dX0_data_31 : decode cX0_data 31 = .ok (.iload_n 3, 1) := by decide +kernel
theorem dX0_data_32 : decode cX0_data 32 = .ok (.iload_n 1, 1) := by decide +kernel
theorem dX0_data_33 : decode cX0_data 33 = .ok (.if_icmp .eq 26, 3) := by decide +kernel
theorem dX0_data_36 : decode cX0_data 36 = .ok (.aload_n 0, 1) := by decide +kernel
theorem dX0_data_37 : decode cX0_data 37 = .ok (.iload_n 3, 1) := by decide +kernel
theorem dX0_data_38 : decode cX0_data 38 = .ok (.invokevirtual 78, 3) := by decide +kernel
theorem dX0_data_41 : decode cX0_data 41 = .ok (.ifCond .eq 18, 3) := by decide +kernel
theorem dX0_data_44 : decode cX0_data 44 = .ok (.aload_n 0, 1) := by decide +kernel
theorem dX0_data_45 : decode cX0_data 45 = .ok (.iload_n 3, 1) := by decide +kernel
theorem dX0_data_46 : decode cX0_data 46 = .ok (.iload_n 2, 1) := by decide +kernel
theorem dX0_data_47 : decode cX0_data 47 = .ok (.invokevirtual 71, 3) := by decide +kernel
theorem dX0_data_50 : decode cX0_data 50 = .ok (.ifCond .eq 9, 3) := by decide +kernel
theorem dX0_data_53 : decode cX0_data 53 = .ok (.aload_n 0, 1) := by decide +kernel
theorem dX0_data_54 : decode cX0_data 54 = .ok (.iload_n 3, 1) := by decide +kernel
theorem dX0_data_55 : decode cX0_data 55 = .ok (.iload_n 2, 1) := by decide +kernel
theorem dX0_data_56 : decode cX0_data 56 = .ok (.invokevirtual 74, 3) := by decide +kernel
theorem dX0_data_59 : decode cX0_data 59 = .ok (.iinc 3 1, 3) := by decide +kernel
theorem dX0_data_62 : decode cX0_data 62 = .ok (.goto (-37), 3) := by decide +kernel
theorem dX0_data_65 : decode cX0_data 65 = .ok (.iconst 0, 1) := by decide +kernel
theorem dX0_data_66 : decode cX0_data 66 = .ok (.istore_n 3, 1) := by decide +kernel
theorem dX0_data_67 : decode cX0_data 67 = .ok (.iload_n 3, 1) := by decide +kernel
theorem dX0_data_68 : decode cX0_data 68 = .ok (.aload_n 0, 1) := by decide +kernel
theorem dX0_data_69 : decode cX0_data 69 = .ok (.getfield 65, 3) := by decide +kernel
theorem dX0_data_72 : decode cX0_data 72 = .ok (.if_icmp .ge 61, 3) := by decide +kernel
theorem dX0_data_75 : decode cX0_data 75 = .ok (.aload_n 0, 1) := by decide +kernel
theorem dX0_data_76 : decode cX0_data 76 = .ok (.getfield 30, 3) := by decide +kernel
theorem dX0_data_79 : decode cX0_data 79 = .ok (.iload_n 3, 1) := by decide +kernel
theorem dX0_data_80 : decode cX0_data 80 = .ok (.iaload, 1) := by decide +kernel
theorem dX0_data_81 : decode cX0_data 81 = .ok (.istore 4, 2) := by decide +kernel
theorem dX0_data_83 : decode cX0_data 83 = .ok (.iconst 0, 1) := by decide +kernel
theorem dX0_data_84 : decode cX0_data 84 = .ok (.istore 5, 2) := by decide +kernel
theorem dX0_data_86 : decode cX0_data 86 = .ok (.iload 5, 2) := by decide +kernel
theorem dX0_data_88 : decode cX0_data 88 = .ok (.bipush 10, 2) := by decide +kernel
theorem dX0_data_90 : decode cX0_data 90 = .ok (.if_icmp .ge 37, 3) := by decide +kernel
theorem dX0_data_93 : decode cX0_data 93 = .ok (.iload 5, 2) := by decide +kernel
theorem dX0_data_95 : decode cX0_data 95 = .ok (.iload 4, 2) := by decide +kernel
theorem dX0_data_97 : decode cX0_data 97 = .ok (.bipush 100, 2) := by decide +kernel
theorem dX0_data_99 : decode cX0_data 99 = .ok (.irem, 1) := by decide +kernel
theorem dX0_data_100 : decode cX0_data 100 = .ok (.if_icmp .eq 21, 3) := by decide +kernel
theorem dX0_data_103 : decode cX0_data 103 = .ok (.aload_n 0, 1) := by decide +kernel
theorem dX0_data_104 : decode cX0_data 104 = .ok (.iload 5, 2) := by decide +kernel
theorem dX0_data_106 : decode cX0_data 106 = .ok (.invokevirtual 78, 3) := by decide +kernel
theorem dX0_data_109 : decode cX0_data 109 = .ok (.ifCond .eq 12, 3) := by decide +kernel
theorem dX0_data_112 : decode cX0_data 112 = .ok (.aload_n 0, 1) := by decide +kernel
theorem dX0_data_113 : decode cX0_data 113 = .ok (.iload 5, 2) := by decide +kernel
theorem dX0_data_115 : decode cX0_data 115 = .ok (.iload_n 2, 1) := by decide +kernel
theorem dX0_data_116 : decode cX0_data 116 = .ok (.iload 4, 2) := by decide +kernel
theorem dX0_data_118 : decode cX0_data 118 = .ok (.invokevirtual 81, 3) := by decide +kernel
theorem dX0_data_121 : decode cX0_data 121 = .ok (.iinc 5 1, 3) := by decide +kernel
theorem dX0_data_124 : decode cX0_data 124 = .ok (.goto (-38), 3) := by decide +kernel
theorem dX0_data_127 : decode cX0_data 127 = .ok (.iinc 3 1, 3) := by decide +kernel
theorem dX0_data_130 : decode cX0_data 130 = .ok (.goto (-63), 3) := by decide +kernel
theorem dX0_data_133 : decode cX0_data 133 = .ok (.aload_n 0, 1) := by decide +kernel
theorem dX0_data_134 : decode cX0_data 134 = .ok (.getfield 65, 3) := by decide +kernel
theorem dX0_data_137 : decode cX0_data 137 = .ok (.ireturn, 1) := by decide +kernel
abbrev cX0_listens : ByteArray := prog_1_method_10_code
def yX0_listens : MethodName := ⟨RX0, "listens", "(I)Z"⟩
theorem dX0_listens_0 : decode cX0_listens 0 = .ok (.aload_n 0, 1) := by decide +kernel
theorem dX0_listens_1 : decode cX0_listens 1 = .ok (.iload_n 1, 1) := by decide +kernel
theorem dX0_listens_2 : decode cX0_listens 2 = .ok (.invokevirtual 45, 3) := by decide +kernel
theorem dX0_listens_5 : decode cX0_listens 5 = .ok (.ifCond .eq 18, 3) := by decide +kernel
theorem dX0_listens_8 : decode cX0_listens 8 = .ok (.aload_n 0, 1) := by decide +kernel
theorem dX0_listens_9 : decode cX0_listens 9 = .ok (.getfield 48, 3) := by decide +kernel
theorem dX0_listens_12 : decode cX0_listens 12 = .ok (.iload_n 1, 1) := by decide +kernel
theorem dX0_listens_13 : decode cX0_listens 13 = .ok (.ishr, 1) := by decide +kernel
theorem dX0_listens_14 : decode cX0_listens 14 = .ok (.iconst 1, 1) := by decide +kernel
theorem dX0_listens_15 : decode cX0_listens 15 = .ok (.iand, 1) := by decide +kernel
theorem dX0_listens_16 : decode cX0_listens 16 = .ok (.ifCond .ne 7, 3) := by decide +kernel
theorem dX0_listens_19 : decode cX0_listens 19 = .ok (.iconst 1, 1) := by decide +kernel
theorem dX0_listens_20 : decode cX0_listens 20 = .ok (.goto 4, 3) := by decide +kernel
theorem dX0_listens_23 : decode cX0_listens 23 = .ok (.iconst 0, 1) := by decide +kernel
theorem dX0_listens_24 : decode cX0_listens 24 = .ok (.ireturn, 1) := by decide +kernel
abbrev cX0_isSending : ByteArray := prog_1_method_15_code
def yX0_isSending : MethodName := ⟨RX0, "isSending", "(II)Z"⟩
theorem dX0_isSending_0 : decode cX0_isSending 0 = .ok (.aload_n 0, 1) := by decide +kernel
theorem dX0_isSending_1 : decode cX0_isSending 1 = .ok (.iload_n 1, 1) := by decide +kernel
theorem dX0_isSending_2 : decode cX0_isSending 2 = .ok (.invokevirtual 45, 3) := by decide +kernel
theorem dX0_isSending_5 : decode cX0_isSending 5 = .ok (.ifCond .eq 30, 3) := by decide +kernel
theorem dX0_isSending_8 : decode cX0_isSending 8 = .ok (.aload_n 0, 1) := by decide +kernel
theorem dX0_isSending_9 : decode cX0_isSending 9 = .ok (.getfield 13, 3) := by decide +kernel
theorem dX0_isSending_12 : decode cX0_isSending 12 = .ok (.iload_n 1, 1) := by decide +kernel
theorem dX0_isSending_13 : decode cX0_isSending 13 = .ok (.bipush 16, 2) := by decide +kernel
theorem dX0_isSending_15 : decode cX0_isSending 15 = .ok (.imul, 1) := by decide +kernel
theorem dX0_isSending_16 : decode cX0_isSending 16 = .ok (.iload_n 2, 1) := by decide +kernel
theorem dX0_isSending_17 : decode cX0_isSending 17 = .ok (.iadd, 1) := by decide +kernel
theorem dX0_isSending_18 : decode cX0_isSending 18 = .ok (.baload, 1) := by decide +kernel
theorem dX0_isSending_19 : decode cX0_isSending 19 = .ok (.ifCond .eq 16, 3) := by decide +kernel
theorem dX0_isSending_22 : decode cX0_isSending 22 = .ok (.aload_n 0, 1) := by decide +kernel
theorem dX0_isSending_23 : decode cX0_isSending 23 = .ok (.iload_n 1, 1) := by decide +kernel
theorem dX0_isSending_24 : decode cX0_isSending 24 = .ok (.iload_n 2, 1) := by decide +kernel
theorem dX0_isSending_25 : decode cX0_isSending 25 = .ok (.invokevirtual 62, 3) := by decide +kernel
theorem dX0_isSending_28 : decode cX0_isSending 28 = .ok (.ifCond .ne 7, 3) := by decide +kernel
theorem dX0_isSending_31 : decode cX0_isSending 31 = .ok (.iconst 1, 1) := by decide +kernel
theorem dX0_isSending_32 : decode cX0_isSending 32 = .ok (.goto 4, 3) := by decide +kernel
theorem dX0_isSending_35 : decode cX0_isSending 35 = .ok (.iconst 0, 1) := by decide +kernel
theorem dX0_isSending_36 : decode cX0_isSending 36 = .ok (.ireturn, 1) := by decide +kernel
abbrev cX0_isLost : ByteArray := prog_1_method_14_code
def yX0_isLost : MethodName := ⟨RX0, "isLost", "(II)Z"⟩
theorem dX0_isLost_0 : decode cX0_isLost 0 = .ok (.aload_n 0, 1) := by decide +kernel
theorem dX0_isLost_1 : decode cX0_isLost 1 = .ok (.iload_n 1, 1) := by decide +kernel
theorem dX0_isLost_2 : decode cX0_isLost 2 = .ok (.iload_n 2, 1) := by decide +kernel
theorem dX0_isLost_3 : decode cX0_isLost 3 = .ok (.invokevirtual 52, 3) := by decide +kernel
theorem dX0_isLost_6 : decode cX0_isLost 6 = .ok (.istore_n 3, 1) := by decide +kernel
theorem dX0_isLost_7 : decode cX0_isLost 7 = .ok (.iload_n 3, 1) := by decide +kernel
theorem dX0_isLost_8 : decode cX0_isLost 8 = .ok (.iconst (-1), 1) := by decide +kernel
theorem dX0_isLost_9 : decode cX0_isLost 9 = .ok (.if_icmp .eq 20, 3) := by decide +kernel
theorem dX0_isLost_12 : decode cX0_isLost 12 = .ok (.iload_n 3, 1) := by decide +kernel
theorem dX0_isLost_13 : decode cX0_isLost 13 = .ok (.aload_n 0, 1) := by decide +kernel
theorem dX0_isLost_14 : decode cX0_isLost 14 = .ok (.iload_n 1, 1) := by decide +kernel
theorem dX0_isLost_15 : decode cX0_isLost 15 = .ok (.iload_n 2, 1) := by decide +kernel
theorem dX0_isLost_16 : decode cX0_isLost 16 = .ok (.invokevirtual 56, 3) := by decide +kernel
theorem dX0_isLost_19 : decode cX0_isLost 19 = .ok (.invokestatic 59, 3) := by decide +kernel
theorem dX0_isLost_22 : decode cX0_isLost 22 = .ok (.ifCond .eq 7, 3) := by decide +kernel
theorem dX0_isLost_25 : decode cX0_isLost 25 = .ok (.iconst 1, 1) := by decide +kernel
theorem dX0_isLost_26 : decode cX0_isLost 26 = .ok (.goto 4, 3) := by decide +kernel
theorem dX0_isLost_29 : decode cX0_isLost 29 = .ok (.iconst 0, 1) := by decide +kernel
theorem dX0_isLost_30 : decode cX0_isLost 30 = .ok (.ireturn, 1) := by decide +kernel
abbrev cX0_held : ByteArray := prog_1_method_13_code
def yX0_held : MethodName := ⟨RX0, "held", "(II)I"⟩
theorem dX0_held_0 : decode cX0_held 0 = .ok (.iload_n 1, 1) := by decide +kernel
theorem dX0_held_1 : decode cX0_held 1 = .ok (.bipush 16, 2) := by decide +kernel
theorem dX0_held_3 : decode cX0_held 3 = .ok (.imul, 1) := by decide +kernel
theorem dX0_held_4 : decode cX0_held 4 = .ok (.iload_n 2, 1) := by decide +kernel
theorem dX0_held_5 : decode cX0_held 5 = .ok (.iadd, 1) := by decide +kernel
theorem dX0_held_6 : decode cX0_held 6 = .ok (.istore_n 3, 1) := by decide +kernel
theorem dX0_held_7 : decode cX0_held 7 = .ok (.aload_n 0, 1) := by decide +kernel
theorem dX0_held_8 : decode cX0_held 8 = .ok (.getfield 33, 3) := by decide +kernel
theorem dX0_held_11 : decode cX0_held 11 = .ok (.aload_n 0, 1) := by decide +kernel
theorem dX0_held_12 : decode cX0_held 12 = .ok (.getfield 27, 3) := by decide +kernel
theorem dX0_held_15 : decode cX0_held 15 = .ok (.iload_n 3, 1) := by decide +kernel
theorem dX0_held_16 : decode cX0_held 16 = .ok (.iaload, 1) := by decide +kernel
theorem dX0_held_17 : decode cX0_held 17 = .ok (.if_icmp .ge 28, 3) := by decide +kernel
theorem dX0_held_20 : decode cX0_held 20 = .ok (.aload_n 0, 1) := by decide +kernel
theorem dX0_held_21 : decode cX0_held 21 = .ok (.aload_n 0, 1) := by decide +kernel
theorem dX0_held_22 : decode cX0_held 22 = .ok (.getfield 24, 3) := by decide +kernel
theorem dX0_held_25 : decode cX0_held 25 = .ok (.iload_n 3, 1) := by decide +kernel
theorem dX0_held_26 : decode cX0_held 26 = .ok (.iaload, 1) := by decide +kernel
theorem dX0_held_27 : decode cX0_held 27 = .ok (.bipush 100, 2) := by decide +kernel
theorem dX0_held_29 : decode cX0_held 29 = .ok (.irem, 1) := by decide +kernel
theorem dX0_held_30 : decode cX0_held 30 = .ok (.invokevirtual 45, 3) := by decide +kernel
theorem dX0_held_33 : decode cX0_held 33 = .ok (.ifCond .eq 12, 3) := by decide +kernel
theorem dX0_held_36 : decode cX0_held 36 = .ok (.aload_n 0, 1) := by decide +kernel
theorem dX0_held_37 : decode cX0_held 37 = .ok (.getfield 24, 3) := by decide +kernel
theorem dX0_held_40 : decode cX0_held 40 = .ok (.iload_n 3, 1) := by decide +kernel
theorem dX0_held_41 : decode cX0_held 41 = .ok (.iaload, 1) := by decide +kernel
theorem dX0_held_42 : decode cX0_held 42 = .ok (.goto 4, 3) := by decide +kernel
theorem dX0_held_45 : decode cX0_held 45 = .ok (.iconst (-1), 1) := by decide +kernel
theorem dX0_held_46 : decode cX0_held 46 = .ok (.ireturn, 1) := by decide +kernel
abbrev cX0_own : ByteArray := prog_1_method_11_code
def yX0_own : MethodName := ⟨RX0, "own", "(II)I"⟩
theorem dX0_own_0 : decode cX0_own 0 = .ok (.iload_n 1, 1) := by decide +kernel
theorem dX0_own_1 : decode cX0_own 1 = .ok (.bipush 16, 2) := by decide +kernel
theorem dX0_own_3 : decode cX0_own 3 = .ok (.imul, 1) := by decide +kernel
theorem dX0_own_4 : decode cX0_own 4 = .ok (.iload_n 2, 1) := by decide +kernel
theorem dX0_own_5 : decode cX0_own 5 = .ok (.iadd, 1) := by decide +kernel
theorem dX0_own_6 : decode cX0_own 6 = .ok (.istore_n 3, 1) := by decide +kernel
theorem dX0_own_7 : decode cX0_own 7 = .ok (.aload_n 0, 1) := by decide +kernel
theorem dX0_own_8 : decode cX0_own 8 = .ok (.getfield 17, 3) := by decide +kernel
theorem dX0_own_11 : decode cX0_own 11 = .ok (.iload_n 3, 1) := by decide +kernel
theorem dX0_own_12 : decode cX0_own 12 = .ok (.baload, 1) := by decide +kernel
theorem dX0_own_13 : decode cX0_own 13 = .ok (.ifCond .eq 7, 3) := by decide +kernel
theorem dX0_own_16 : decode cX0_own 16 = .ok (.iconst 0, 1) := by decide +kernel
theorem dX0_own_17 : decode cX0_own 17 = .ok (.goto 5, 3) := by decide +kernel
theorem dX0_own_20 : decode cX0_own 20 = .ok (.ldc 51, 2) := by decide +kernel
theorem dX0_own_22 : decode cX0_own 22 = .ok (.bipush 100, 2) := by decide +kernel
theorem dX0_own_24 : decode cX0_own 24 = .ok (.aload_n 0, 1) := by decide +kernel
theorem dX0_own_25 : decode cX0_own 25 = .ok (.getfield 20, 3) := by decide +kernel
theorem dX0_own_28 : decode cX0_own 28 = .ok (.iload_n 3, 1) := by decide +kernel
theorem dX0_own_29 : decode cX0_own 29 = .ok (.iaload, 1) := by decide +kernel
theorem dX0_own_30 : decode cX0_own 30 = .ok (.imul, 1) := by decide +kernel
theorem dX0_own_31 : decode cX0_own 31 = .ok (.iadd, 1) := by decide +kernel
theorem dX0_own_32 : decode cX0_own 32 = .ok (.iload_n 1, 1) := by decide +kernel
theorem dX0_own_33 : decode cX0_own 33 = .ok (.iadd, 1) := by decide +kernel
theorem dX0_own_34 : decode cX0_own 34 = .ok (.ireturn, 1) := by decide +kernel
abbrev cX0_isBetter : ByteArray := prog_1_method_12_code
def yX0_isBetter : MethodName := ⟨RX0, "isBetter", "(II)Z"⟩
theorem dX0_isBetter_0 : decode cX0_isBetter 0 = .ok (.iload_n 0, 1) := by decide +kernel
theorem dX0_isBetter_1 : decode cX0_isBetter 1 = .ok (.bipush 100, 2) := by decide +kernel
theorem dX0_isBetter_3 : decode cX0_isBetter 3 = .ok (.idiv, 1) := by decide +kernel
theorem dX0_isBetter_4 : decode cX0_isBetter 4 = .ok (.iload_n 1, 1) := by decide +kernel
theorem dX0_isBetter_5 : decode cX0_isBetter 5 = .ok (.bipush 100, 2) := by decide +kernel
theorem dX0_isBetter_7 : decode cX0_isBetter 7 = .ok (.idiv, 1) := by decide +kernel
theorem dX0_isBetter_8 : decode cX0_isBetter 8 = .ok (.if_icmp .lt 25, 3) := by decide +kernel
theorem dX0_isBetter_11 : decode cX0_isBetter 11 = .ok (.iload_n 0, 1) := by decide +kernel
theorem dX0_isBetter_12 : decode cX0_isBetter 12 = .ok (.bipush 100, 2) := by decide +kernel
theorem dX0_isBetter_14 : decode cX0_isBetter 14 = .ok (.idiv, 1) := by decide +kernel
theorem dX0_isBetter_15 : decode cX0_isBetter 15 = .ok (.iload_n 1, 1) := by decide +kernel
theorem dX0_isBetter_16 : decode cX0_isBetter 16 = .ok (.bipush 100, 2) := by decide +kernel
theorem dX0_isBetter_18 : decode cX0_isBetter 18 = .ok (.idiv, 1) := by decide +kernel
theorem dX0_isBetter_19 : decode cX0_isBetter 19 = .ok (.if_icmp .ne 18, 3) := by decide +kernel
theorem dX0_isBetter_22 : decode cX0_isBetter 22 = .ok (.iload_n 0, 1) := by decide +kernel
theorem dX0_isBetter_23 : decode cX0_isBetter 23 = .ok (.bipush 100, 2) := by decide +kernel
theorem dX0_isBetter_25 : decode cX0_isBetter 25 = .ok (.irem, 1) := by decide +kernel
theorem dX0_isBetter_26 : decode cX0_isBetter 26 = .ok (.iload_n 1, 1) := by decide +kernel
theorem dX0_isBetter_27 : decode cX0_isBetter 27 = .ok (.bipush 100, 2) := by decide +kernel
theorem dX0_isBetter_29 : decode cX0_isBetter 29 = .ok (.irem, 1) := by decide +kernel
theorem dX0_isBetter_30 : decode cX0_isBetter 30 = .ok (.if_icmp .le 7, 3) := by decide +kernel
theorem dX0_isBetter_33 : decode cX0_isBetter 33 = .ok (.iconst 1, 1) := by decide +kernel
theorem dX0_isBetter_34 : decode cX0_isBetter 34 = .ok (.goto 4, 3) := by decide +kernel
theorem dX0_isBetter_37 : decode cX0_isBetter 37 = .ok (.iconst 0, 1) := by decide +kernel
theorem dX0_isBetter_38 : decode cX0_isBetter 38 = .ok (.ireturn, 1) := by decide +kernel
abbrev cX0_say : ByteArray := prog_1_method_16_code
def yX0_say : MethodName := ⟨RX0, "say", "(II)V"⟩
theorem dX0_say_0 : decode cX0_say 0 = .ok (.aload_n 0, 1) := by decide +kernel
theorem dX0_say_1 : decode cX0_say 1 = .ok (.getfield 30, 3) := by decide +kernel
theorem dX0_say_4 : decode cX0_say 4 = .ok (.aload_n 0, 1) := by decide +kernel
theorem dX0_say_5 : decode cX0_say 5 = .ok (.getfield 65, 3) := by decide +kernel
theorem dX0_say_8 : decode cX0_say 8 = .ok (.aload_n 0, 1) := by decide +kernel
theorem dX0_say_9 : decode cX0_say 9 = .ok (.iload_n 1, 1) := by decide +kernel
theorem dX0_say_10 : decode cX0_say 10 = .ok (.iload_n 2, 1) := by decide +kernel
theorem dX0_say_11 : decode cX0_say 11 = .ok (.invokevirtual 56, 3) := by decide +kernel
theorem dX0_say_14 : decode cX0_say 14 = .ok (.iastore, 1) := by decide +kernel
theorem dX0_say_15 : decode cX0_say 15 = .ok (.aload_n 0, 1) := by decide +kernel
theorem dX0_say_16 : decode cX0_say 16 = .ok (.dup, 1) := by decide +kernel
theorem dX0_say_17 : decode cX0_say 17 = .ok (.getfield 65, 3) := by decide +kernel
theorem dX0_say_20 : decode cX0_say 20 = .ok (.iconst 1, 1) := by decide +kernel
theorem dX0_say_21 : decode cX0_say 21 = .ok (.iadd, 1) := by decide +kernel
theorem dX0_say_22 : decode cX0_say 22 = .ok (.putfield 65, 3) := by decide +kernel
theorem dX0_say_25 : decode cX0_say 25 = .ok (.aload_n 0, 1) := by decide +kernel
theorem dX0_say_26 : decode cX0_say 26 = .ok (.dup, 1) := by decide +kernel
theorem dX0_say_27 : decode cX0_say 27 = .ok (.getfield 68, 3) := by decide +kernel
theorem dX0_say_30 : decode cX0_say 30 = .ok (.iconst 1, 1) := by decide +kernel
theorem dX0_say_31 : decode cX0_say 31 = .ok (.iadd, 1) := by decide +kernel
theorem dX0_say_32 : decode cX0_say 32 = .ok (.putfield 68, 3) := by decide +kernel
theorem dX0_say_35 : decode cX0_say 35 = .ok (.return_, 1) := by decide +kernel
abbrev cX0_hear : ByteArray := prog_1_method_17_code
def yX0_hear : MethodName := ⟨RX0, "hear", "(III)V"⟩
theorem dX0_hear_0 : decode cX0_hear 0 = .ok (.aload_n 0, 1) := by decide +kernel
theorem dX0_hear_1 : decode cX0_hear 1 = .ok (.iload_n 1, 1) := by decide +kernel
theorem dX0_hear_2 : decode cX0_hear 2 = .ok (.iload_n 2, 1) := by decide +kernel
theorem dX0_hear_3 : decode cX0_hear 3 = .ok (.invokevirtual 52, 3) := by decide +kernel
theorem dX0_hear_6 : decode cX0_hear 6 = .ok (.istore 4, 2) := by decide +kernel
theorem dX0_hear_8 : decode cX0_hear 8 = .ok (.iload 4, 2) := by decide +kernel
theorem dX0_hear_10 : decode cX0_hear 10 = .ok (.iconst (-1), 1) := by decide +kernel
theorem dX0_hear_11 : decode cX0_hear 11 = .ok (.if_icmp .eq 24, 3) := by decide +kernel
theorem dX0_hear_14 : decode cX0_hear 14 = .ok (.iload_n 3, 1) := by decide +kernel
theorem dX0_hear_15 : decode cX0_hear 15 = .ok (.iload 4, 2) := by decide +kernel
theorem dX0_hear_17 : decode cX0_hear 17 = .ok (.invokestatic 59, 3) := by decide +kernel
theorem dX0_hear_20 : decode cX0_hear 20 = .ok (.ifCond .ne 15, 3) := by decide +kernel
theorem dX0_hear_23 : decode cX0_hear 23 = .ok (.iload 4, 2) := by decide +kernel
theorem dX0_hear_25 : decode cX0_hear 25 = .ok (.bipush 100, 2) := by decide +kernel
theorem dX0_hear_27 : decode cX0_hear 27 = .ok (.irem, 1) := by decide +kernel
theorem dX0_hear_28 : decode cX0_hear 28 = .ok (.iload_n 3, 1) := by decide +kernel
theorem dX0_hear_29 : decode cX0_hear 29 = .ok (.bipush 100, 2) := by decide +kernel
theorem dX0_hear_31 : decode cX0_hear 31 = .ok (.irem, 1) := by decide +kernel
theorem dX0_hear_32 : decode cX0_hear 32 = .ok (.if_icmp .ne 33, 3) := by decide +kernel
theorem dX0_hear_35 : decode cX0_hear 35 = .ok (.aload_n 0, 1) := by decide +kernel
theorem dX0_hear_36 : decode cX0_hear 36 = .ok (.getfield 24, 3) := by decide +kernel
theorem dX0_hear_39 : decode cX0_hear 39 = .ok (.iload_n 1, 1) := by decide +kernel
theorem dX0_hear_40 : decode cX0_hear 40 = .ok (.bipush 16, 2) := by decide +kernel
theorem dX0_hear_42 : decode cX0_hear 42 = .ok (.imul, 1) := by decide +kernel
theorem dX0_hear_43 : decode cX0_hear 43 = .ok (.iload_n 2, 1) := by decide +kernel
theorem dX0_hear_44 : decode cX0_hear 44 = .ok (.iadd, 1) := by decide +kernel
theorem dX0_hear_45 : decode cX0_hear 45 = .ok (.iload_n 3, 1) := by decide +kernel
theorem dX0_hear_46 : decode cX0_hear 46 = .ok (.iastore, 1) := by decide +kernel
theorem dX0_hear_47 : decode cX0_hear 47 = .ok (.aload_n 0, 1) := by decide +kernel
theorem dX0_hear_48 : decode cX0_hear 48 = .ok (.getfield 27, 3) := by decide +kernel
theorem dX0_hear_51 : decode cX0_hear 51 = .ok (.iload_n 1, 1) := by decide +kernel
theorem dX0_hear_52 : decode cX0_hear 52 = .ok (.bipush 16, 2) := by decide +kernel
theorem dX0_hear_54 : decode cX0_hear 54 = .ok (.imul, 1) := by decide +kernel
theorem dX0_hear_55 : decode cX0_hear 55 = .ok (.iload_n 2, 1) := by decide +kernel
theorem dX0_hear_56 : decode cX0_hear 56 = .ok (.iadd, 1) := by decide +kernel
theorem dX0_hear_57 : decode cX0_hear 57 = .ok (.aload_n 0, 1) := by decide +kernel
theorem dX0_hear_58 : decode cX0_hear 58 = .ok (.getfield 33, 3) := by decide +kernel
theorem dX0_hear_61 : decode cX0_hear 61 = .ok (.bipush 60, 2) := by decide +kernel
theorem dX0_hear_63 : decode cX0_hear 63 = .ok (.iadd, 1) := by decide +kernel
theorem dX0_hear_64 : decode cX0_hear 64 = .ok (.iastore, 1) := by decide +kernel
theorem dX0_hear_65 : decode cX0_hear 65 = .ok (.aload_n 0, 1) := by decide +kernel
theorem dX0_hear_66 : decode cX0_hear 66 = .ok (.iload_n 1, 1) := by decide +kernel
theorem dX0_hear_67 : decode cX0_hear 67 = .ok (.iload_n 2, 1) := by decide +kernel
theorem dX0_hear_68 : decode cX0_hear 68 = .ok (.invokevirtual 71, 3) := by decide +kernel
theorem dX0_hear_71 : decode cX0_hear 71 = .ok (.ifCond .eq 22, 3) := by decide +kernel
theorem dX0_hear_74 : decode cX0_hear 74 = .ok (.aload_n 0, 1) := by decide +kernel
theorem dX0_hear_75 : decode cX0_hear 75 = .ok (.iload_n 1, 1) := by decide +kernel
theorem dX0_hear_76 : decode cX0_hear 76 = .ok (.iload_n 2, 1) := by decide +kernel
theorem dX0_hear_77 : decode cX0_hear 77 = .ok (.invokevirtual 56, 3) := by decide +kernel
theorem dX0_hear_80 : decode cX0_hear 80 = .ok (.iload_n 3, 1) := by decide +kernel
theorem dX0_hear_81 : decode cX0_hear 81 = .ok (.invokestatic 59, 3) := by decide +kernel
theorem dX0_hear_84 : decode cX0_hear 84 = .ok (.ifCond .eq 9, 3) := by decide +kernel
theorem dX0_hear_87 : decode cX0_hear 87 = .ok (.aload_n 0, 1) := by decide +kernel
theorem dX0_hear_88 : decode cX0_hear 88 = .ok (.iload_n 1, 1) := by decide +kernel
theorem dX0_hear_89 : decode cX0_hear 89 = .ok (.iload_n 2, 1) := by decide +kernel
theorem dX0_hear_90 : decode cX0_hear 90 = .ok (.invokevirtual 74, 3) := by decide +kernel
theorem dX0_hear_93 : decode cX0_hear 93 = .ok (.return_, 1) := by decide +kernel
abbrev cX0_said : ByteArray := prog_1_method_19_code
def yX0_said : MethodName := ⟨RX0, "said", "(I)I"⟩
theorem dX0_said_0 : decode cX0_said 0 = .ok (.iload_n 1, 1) := by decide +kernel
theorem dX0_said_1 : decode cX0_said 1 = .ok (.ifCond .lt 23, 3) := by decide +kernel
theorem dX0_said_4 : decode cX0_said 4 = .ok (.iload_n 1, 1) := by decide +kernel
theorem dX0_said_5 : decode cX0_said 5 = .ok (.aload_n 0, 1) := by decide +kernel
theorem dX0_said_6 : decode cX0_said 6 = .ok (.getfield 65, 3) := by decide +kernel
theorem dX0_said_9 : decode cX0_said 9 = .ok (.if_icmp .ge 15, 3) := by decide +kernel
theorem dX0_said_12 : decode cX0_said 12 = .ok (.aload_n 0, 1) := by decide +kernel
theorem dX0_said_13 : decode cX0_said 13 = .ok (.getfield 30, 3) := by decide +kernel
theorem dX0_said_16 : decode cX0_said 16 = .ok (.iload_n 1, 1) := by decide +kernel
theorem dX0_said_17 : decode cX0_said 17 = .ok (.iaload, 1) := by decide +kernel
theorem dX0_said_18 : decode cX0_said 18 = .ok (.bipush 100, 2) := by decide +kernel
theorem dX0_said_20 : decode cX0_said 20 = .ok (.irem, 1) := by decide +kernel
theorem dX0_said_21 : decode cX0_said 21 = .ok (.goto 4, 3) := by decide +kernel
theorem dX0_said_24 : decode cX0_said 24 = .ok (.iconst (-1), 1) := by decide +kernel
theorem dX0_said_25 : decode cX0_said 25 = .ok (.ireturn, 1) := by decide +kernel
abbrev cX0_claim : ByteArray := prog_1_method_20_code
def yX0_claim : MethodName := ⟨RX0, "claim", "(II)I"⟩
theorem dX0_claim_0 : decode cX0_claim 0 = .ok (.iload_n 1, 1) := by decide +kernel
theorem dX0_claim_1 : decode cX0_claim 1 = .ok (.iload_n 2, 1) := by decide +kernel
theorem dX0_claim_2 : decode cX0_claim 2 = .ok (.invokestatic 41, 3) := by decide +kernel
theorem dX0_claim_5 : decode cX0_claim 5 = .ok (.ifCond .eq 12, 3) := by decide +kernel
theorem dX0_claim_8 : decode cX0_claim 8 = .ok (.aload_n 0, 1) := by decide +kernel
theorem dX0_claim_9 : decode cX0_claim 9 = .ok (.iload_n 1, 1) := by decide +kernel
theorem dX0_claim_10 : decode cX0_claim 10 = .ok (.iload_n 2, 1) := by decide +kernel
theorem dX0_claim_11 : decode cX0_claim 11 = .ok (.invokevirtual 56, 3) := by decide +kernel
theorem dX0_claim_14 : decode cX0_claim 14 = .ok (.goto 4, 3) := by decide +kernel
theorem dX0_claim_17 : decode cX0_claim 17 = .ok (.iconst (-1), 1) := by decide +kernel
theorem dX0_claim_18 : decode cX0_claim 18 = .ok (.ireturn, 1) := by decide +kernel
abbrev cX0_kept : ByteArray := prog_1_method_21_code
def yX0_kept : MethodName := ⟨RX0, "kept", "(II)I"⟩
theorem dX0_kept_0 : decode cX0_kept 0 = .ok (.iload_n 1, 1) := by decide +kernel
theorem dX0_kept_1 : decode cX0_kept 1 = .ok (.iload_n 2, 1) := by decide +kernel
theorem dX0_kept_2 : decode cX0_kept 2 = .ok (.invokestatic 41, 3) := by decide +kernel
theorem dX0_kept_5 : decode cX0_kept 5 = .ok (.ifCond .eq 12, 3) := by decide +kernel
theorem dX0_kept_8 : decode cX0_kept 8 = .ok (.aload_n 0, 1) := by decide +kernel
theorem dX0_kept_9 : decode cX0_kept 9 = .ok (.iload_n 1, 1) := by decide +kernel
theorem dX0_kept_10 : decode cX0_kept 10 = .ok (.iload_n 2, 1) := by decide +kernel
theorem dX0_kept_11 : decode cX0_kept 11 = .ok (.invokevirtual 52, 3) := by decide +kernel
theorem dX0_kept_14 : decode cX0_kept 14 = .ok (.goto 4, 3) := by decide +kernel
theorem dX0_kept_17 : decode cX0_kept 17 = .ok (.iconst (-1), 1) := by decide +kernel
theorem dX0_kept_18 : decode cX0_kept 18 = .ok (.ireturn, 1) := by decide +kernel
abbrev cX0_lost : ByteArray := prog_1_method_22_code
def yX0_lost : MethodName := ⟨RX0, "lost", "(II)Z"⟩
theorem dX0_lost_0 : decode cX0_lost 0 = .ok (.iload_n 1, 1) := by decide +kernel
theorem dX0_lost_1 : decode cX0_lost 1 = .ok (.iload_n 2, 1) := by decide +kernel
theorem dX0_lost_2 : decode cX0_lost 2 = .ok (.invokestatic 41, 3) := by decide +kernel
theorem dX0_lost_5 : decode cX0_lost 5 = .ok (.ifCond .eq 16, 3) := by decide +kernel
theorem dX0_lost_8 : decode cX0_lost 8 = .ok (.aload_n 0, 1) := by decide +kernel
theorem dX0_lost_9 : decode cX0_lost 9 = .ok (.iload_n 1, 1) := by decide +kernel
theorem dX0_lost_10 : decode cX0_lost 10 = .ok (.iload_n 2, 1) := by decide +kernel
theorem dX0_lost_11 : decode cX0_lost 11 = .ok (.invokevirtual 62, 3) := by decide +kernel
theorem dX0_lost_14 : decode cX0_lost 14 = .ok (.ifCond .eq 7, 3) := by decide +kernel
theorem dX0_lost_17 : decode cX0_lost 17 = .ok (.iconst 1, 1) := by decide +kernel
theorem dX0_lost_18 : decode cX0_lost 18 = .ok (.goto 4, 3) := by decide +kernel
theorem dX0_lost_21 : decode cX0_lost 21 = .ok (.iconst 0, 1) := by decide +kernel
theorem dX0_lost_22 : decode cX0_lost 22 = .ok (.ireturn, 1) := by decide +kernel
abbrev cX0_sends : ByteArray := prog_1_method_23_code
def yX0_sends : MethodName := ⟨RX0, "sends", "(I)I"⟩
theorem dX0_sends_0 : decode cX0_sends 0 = .ok (.iload_n 1, 1) := by decide +kernel
theorem dX0_sends_1 : decode cX0_sends 1 = .ok (.ifCond .lt 9, 3) := by decide +kernel
theorem dX0_sends_4 : decode cX0_sends 4 = .ok (.iload_n 1, 1) := by decide +kernel
theorem dX0_sends_5 : decode cX0_sends 5 = .ok (.bipush 16, 2) := by decide +kernel
theorem dX0_sends_7 : decode cX0_sends 7 = .ok (.if_icmp .lt 5, 3) := by decide +kernel
theorem dX0_sends_10 : decode cX0_sends 10 = .ok (.iconst (-1), 1) := by decide +kernel
theorem dX0_sends_11 : decode cX0_sends 11 = .ok (.ireturn, 1) := by decide +kernel
theorem dX0_sends_12 : decode cX0_sends 12 = .ok (.iconst 0, 1) := by decide +kernel
theorem dX0_sends_13 : decode cX0_sends 13 = .ok (.istore_n 2, 1) := by decide +kernel
theorem dX0_sends_14 : decode cX0_sends 14 = .ok (.iconst 0, 1) := by decide +kernel
theorem dX0_sends_15 : decode cX0_sends 15 = .ok (.istore_n 3, 1) := by decide +kernel
theorem dX0_sends_16 : decode cX0_sends 16 = .ok (.iload_n 3, 1) := by decide +kernel
theorem dX0_sends_17 : decode cX0_sends 17 = .ok (.bipush 10, 2) := by decide +kernel
theorem dX0_sends_19 : decode cX0_sends 19 = .ok (.if_icmp .ge 28, 3) := by decide +kernel
theorem dX0_sends_22 : decode cX0_sends 22 = .ok (.iload_n 2, 1) := by decide +kernel
theorem dX0_sends_23 : decode cX0_sends 23 = .ok (.aload_n 0, 1) := by decide +kernel
theorem dX0_sends_24 : decode cX0_sends 24 = .ok (.iload_n 3, 1) := by decide +kernel
theorem dX0_sends_25 : decode cX0_sends 25 = .ok (.iload_n 1, 1) := by decide +kernel
theorem dX0_sends_26 : decode cX0_sends 26 = .ok (.invokevirtual 71, 3) := by decide +kernel
theorem dX0_sends_29 : decode cX0_sends 29 = .ok (.ifCond .eq 9, 3) := by decide +kernel
theorem dX0_sends_32 : decode cX0_sends 32 = .ok (.iconst 1, 1) := by decide +kernel
theorem dX0_sends_33 : decode cX0_sends 33 = .ok (.iload_n 3, 1) := by decide +kernel
theorem dX0_sends_34 : decode cX0_sends 34 = .ok (.ishl, 1) := by decide +kernel
theorem dX0_sends_35 : decode cX0_sends 35 = .ok (.goto 4, 3) := by decide +kernel
theorem dX0_sends_38 : decode cX0_sends 38 = .ok (.iconst 0, 1) := by decide +kernel
theorem dX0_sends_39 : decode cX0_sends 39 = .ok (.ior, 1) := by decide +kernel
theorem dX0_sends_40 : decode cX0_sends 40 = .ok (.istore_n 2, 1) := by decide +kernel
theorem dX0_sends_41 : decode cX0_sends 41 = .ok (.iinc 3 1, 3) := by decide +kernel
theorem dX0_sends_44 : decode cX0_sends 44 = .ok (.goto (-28), 3) := by decide +kernel
theorem dX0_sends_47 : decode cX0_sends 47 = .ok (.iload_n 2, 1) := by decide +kernel
theorem dX0_sends_48 : decode cX0_sends 48 = .ok (.ireturn, 1) := by decide +kernel
abbrev cX0_look : ByteArray := prog_1_method_24_code
def yX0_look : MethodName := ⟨RX0, "look", "(I)I"⟩
theorem dX0_look_0 : decode cX0_look 0 = .ok (.iload_n 1, 1) := by decide +kernel
theorem dX0_look_1 : decode cX0_look 1 = .ok (.tableswitch 51 0 3 #[31, 36, 41, 46], 31) := by decide +kernel
theorem dX0_look_32 : decode cX0_look 32 = .ok (.aload_n 0, 1) := by decide +kernel
theorem dX0_look_33 : decode cX0_look 33 = .ok (.getfield 33, 3) := by decide +kernel
theorem dX0_look_36 : decode cX0_look 36 = .ok (.ireturn, 1) := by decide +kernel
theorem dX0_look_37 : decode cX0_look 37 = .ok (.aload_n 0, 1) := by decide +kernel
theorem dX0_look_38 : decode cX0_look 38 = .ok (.getfield 7, 3) := by decide +kernel
theorem dX0_look_41 : decode cX0_look 41 = .ok (.ireturn, 1) := by decide +kernel
theorem dX0_look_42 : decode cX0_look 42 = .ok (.aload_n 0, 1) := by decide +kernel
theorem dX0_look_43 : decode cX0_look 43 = .ok (.getfield 48, 3) := by decide +kernel
theorem dX0_look_46 : decode cX0_look 46 = .ok (.ireturn, 1) := by decide +kernel
theorem dX0_look_47 : decode cX0_look 47 = .ok (.aload_n 0, 1) := by decide +kernel
theorem dX0_look_48 : decode cX0_look 48 = .ok (.getfield 68, 3) := by decide +kernel
theorem dX0_look_51 : decode cX0_look 51 = .ok (.ireturn, 1) := by decide +kernel
theorem dX0_look_52 : decode cX0_look 52 = .ok (.iconst (-1), 1) := by decide +kernel
theorem dX0_look_53 : decode cX0_look 53 = .ok (.ireturn, 1) := by decide +kernel
theorem q15 : (Jvm.Cond.initialized "ClaimBench") ∈ lw_all := lw_g (lw_at lw_m1 1 rfl) rfl
theorem q18 : (Jvm.Cond.instantiable "ClaimBench" (11 : Nat)) ∈ lw_all := lw_g (lw_at lw_m1 4 rfl) rfl
theorem q20 : (Jvm.Cond.instanceMethod ({ cls := "ClaimBench", name := "<init>", desc := "()V" } : Jvm.MethodName)) ∈ lw_all := lw_g (lw_at lw_m1 6 rfl) rfl
theorem q21 : (Jvm.Cond.code ({ cls := "ClaimBench", name := "<init>", desc := "()V" } : Jvm.MethodName) prog_1_method_1_code (1 : Nat) (Option.none : Option Jvm.ClassFile.FieldType)) ∈ lw_all := lw_g (lw_at lw_m1 7 rfl) rfl
theorem q22 : (Jvm.Cond.methodLink "ClaimBench" (1 : Nat) ({ cls := "java/lang/Object", name := "<init>", desc := "()V" } : Jvm.MethodName)) ∈ lw_all := lw_g (lw_at lw_m1 8 rfl) rfl
theorem q25 : (Jvm.Cond.fieldLink "ClaimBench" (33 : Nat) "ClaimBench" "time" "I") ∈ lw_all := lw_g (lw_at lw_m1 11 rfl) rfl
theorem q26 : (Jvm.Cond.fieldLink "ClaimBench" (68 : Nat) "ClaimBench" "inAll" "I") ∈ lw_all := lw_g (lw_at lw_m1 12 rfl) rfl
theorem q27 : (Jvm.Cond.fieldLink "ClaimBench" (7 : Nat) "ClaimBench" "there" "I") ∈ lw_all := lw_g (lw_at lw_m1 13 rfl) rfl
theorem q28 : (Jvm.Cond.fieldLink "ClaimBench" (48 : Nat) "ClaimBench" "deaf" "I") ∈ lw_all := lw_g (lw_at lw_m1 14 rfl) rfl
theorem q29 : (Jvm.Cond.fieldLink "ClaimBench" (13 : Nat) "ClaimBench" "forwards" "[Z") ∈ lw_all := lw_g (lw_at lw_m1 15 rfl) rfl
theorem q30 : (Jvm.Cond.fieldLink "ClaimBench" (17 : Nat) "ClaimBench" "straight" "[Z") ∈ lw_all := lw_g (lw_at lw_m1 16 rfl) rfl
theorem q31 : (Jvm.Cond.fieldLink "ClaimBench" (20 : Nat) "ClaimBench" "distance" "[I") ∈ lw_all := lw_g (lw_at lw_m1 17 rfl) rfl
theorem q32 : (Jvm.Cond.fieldLink "ClaimBench" (24 : Nat) "ClaimBench" "keeps" "[I") ∈ lw_all := lw_g (lw_at lw_m1 18 rfl) rfl
theorem q33 : (Jvm.Cond.fieldLink "ClaimBench" (27 : Nat) "ClaimBench" "till" "[I") ∈ lw_all := lw_g (lw_at lw_m1 19 rfl) rfl
theorem q34 : (Jvm.Cond.fieldLink "ClaimBench" (30 : Nat) "ClaimBench" "row" "[I") ∈ lw_all := lw_g (lw_at lw_m1 20 rfl) rfl
theorem q35 : (Jvm.Cond.fieldLink "ClaimBench" (65 : Nat) "ClaimBench" "said" "I") ∈ lw_all := lw_g (lw_at lw_m1 21 rfl) rfl
theorem q36 : (Jvm.Cond.lays "ClaimBench" "ClaimBench" "time" "I") ∈ lw_all := lw_g (lw_at lw_m1 22 rfl) rfl
theorem q37 : (Jvm.Cond.soleField "ClaimBench" "time") ∈ lw_all := lw_g (lw_at lw_m1 23 rfl) rfl
theorem q38 : (Jvm.Cond.lays "ClaimBench" "ClaimBench" "inAll" "I") ∈ lw_all := lw_g (lw_at lw_m1 24 rfl) rfl
theorem q39 : (Jvm.Cond.soleField "ClaimBench" "inAll") ∈ lw_all := lw_g (lw_at lw_m1 25 rfl) rfl
theorem q40 : (Jvm.Cond.lays "ClaimBench" "ClaimBench" "there" "I") ∈ lw_all := lw_g (lw_at lw_m1 26 rfl) rfl
theorem q41 : (Jvm.Cond.soleField "ClaimBench" "there") ∈ lw_all := lw_g (lw_at lw_m1 27 rfl) rfl
theorem q42 : (Jvm.Cond.lays "ClaimBench" "ClaimBench" "deaf" "I") ∈ lw_all := lw_g (lw_at lw_m1 28 rfl) rfl
theorem q43 : (Jvm.Cond.soleField "ClaimBench" "deaf") ∈ lw_all := lw_g (lw_at lw_m1 29 rfl) rfl
theorem q44 : (Jvm.Cond.laysFinal "ClaimBench" "ClaimBench" "forwards" "[Z") ∈ lw_all := lw_g (lw_at lw_m1 30 rfl) rfl
theorem q45 : (Jvm.Cond.soleField "ClaimBench" "forwards") ∈ lw_all := lw_g (lw_at lw_m1 31 rfl) rfl
theorem q46 : (Jvm.Cond.laysFinal "ClaimBench" "ClaimBench" "straight" "[Z") ∈ lw_all := lw_g (lw_at lw_m1 32 rfl) rfl
theorem q47 : (Jvm.Cond.soleField "ClaimBench" "straight") ∈ lw_all := lw_g (lw_at lw_m1 33 rfl) rfl
theorem q48 : (Jvm.Cond.laysFinal "ClaimBench" "ClaimBench" "distance" "[I") ∈ lw_all := lw_g (lw_at lw_m1 34 rfl) rfl
theorem q49 : (Jvm.Cond.soleField "ClaimBench" "distance") ∈ lw_all := lw_g (lw_at lw_m1 35 rfl) rfl
theorem q50 : (Jvm.Cond.laysFinal "ClaimBench" "ClaimBench" "keeps" "[I") ∈ lw_all := lw_g (lw_at lw_m1 36 rfl) rfl
theorem q51 : (Jvm.Cond.soleField "ClaimBench" "keeps") ∈ lw_all := lw_g (lw_at lw_m1 37 rfl) rfl
theorem q52 : (Jvm.Cond.laysFinal "ClaimBench" "ClaimBench" "till" "[I") ∈ lw_all := lw_g (lw_at lw_m1 38 rfl) rfl
theorem q53 : (Jvm.Cond.soleField "ClaimBench" "till") ∈ lw_all := lw_g (lw_at lw_m1 39 rfl) rfl
theorem q54 : (Jvm.Cond.laysFinal "ClaimBench" "ClaimBench" "row" "[I") ∈ lw_all := lw_g (lw_at lw_m1 40 rfl) rfl
theorem q55 : (Jvm.Cond.soleField "ClaimBench" "row") ∈ lw_all := lw_g (lw_at lw_m1 41 rfl) rfl
theorem q56 : (Jvm.Cond.lays "ClaimBench" "ClaimBench" "said" "I") ∈ lw_all := lw_g (lw_at lw_m1 42 rfl) rfl
theorem q57 : (Jvm.Cond.soleField "ClaimBench" "said") ∈ lw_all := lw_g (lw_at lw_m1 43 rfl) rfl
theorem q58 : (Jvm.Cond.superclass "ClaimBench" "java/lang/Object") ∈ lw_all := lw_g (lw_at lw_m1 44 rfl) rfl
theorem q62 : (Jvm.Cond.instanceMethod ({ cls := "ClaimBench", name := "tick", desc := "(I)I" } : Jvm.MethodName)) ∈ lw_all := lw_g (lw_at lw_m1 48 rfl) rfl
theorem q63 : (Jvm.Cond.selects "ClaimBench" ({ cls := "ClaimBench", name := "tick", desc := "(I)I" } : Jvm.MethodName) ({ cls := "ClaimBench", name := "tick", desc := "(I)I" } : Jvm.MethodName)) ∈ lw_all := lw_g (lw_at lw_m1 49 rfl) rfl
theorem q64 : (Jvm.Cond.code ({ cls := "ClaimBench", name := "tick", desc := "(I)I" } : Jvm.MethodName) prog_1_method_2_code (2 : Nat) (Option.some Jvm.ClassFile.FieldType.int)) ∈ lw_all := lw_g (lw_at lw_m1 50 rfl) rfl
theorem q65 : (Jvm.Cond.constant "ClaimBench" (36 : Nat) (100000 : Int32)) ∈ lw_all := lw_g (lw_at lw_m1 51 rfl) rfl
theorem q67 : (Jvm.Cond.instanceMethod ({ cls := "ClaimBench", name := "forward", desc := "(IIZ)Z" } : Jvm.MethodName)) ∈ lw_all := lw_g (lw_at lw_m1 53 rfl) rfl
theorem q68 : (Jvm.Cond.selects "ClaimBench" ({ cls := "ClaimBench", name := "forward", desc := "(IIZ)Z" } : Jvm.MethodName) ({ cls := "ClaimBench", name := "forward", desc := "(IIZ)Z" } : Jvm.MethodName)) ∈ lw_all := lw_g (lw_at lw_m1 54 rfl) rfl
theorem q69 : (Jvm.Cond.code ({ cls := "ClaimBench", name := "forward", desc := "(IIZ)Z" } : Jvm.MethodName) prog_1_method_5_code (4 : Nat) (Option.some Jvm.ClassFile.FieldType.boolean)) ∈ lw_all := lw_g (lw_at lw_m1 55 rfl) rfl
theorem q70 : (Jvm.Cond.methodLink "ClaimBench" (41 : Nat) ({ cls := "ClaimBench", name := "isPair", desc := "(II)Z" } : Jvm.MethodName)) ∈ lw_all := lw_g (lw_at lw_m1 56 rfl) rfl
theorem q71 : (Jvm.Cond.static ({ cls := "ClaimBench", name := "isPair", desc := "(II)Z" } : Jvm.MethodName)) ∈ lw_all := lw_g (lw_at lw_m1 57 rfl) rfl
theorem q72 : (Jvm.Cond.code ({ cls := "ClaimBench", name := "isPair", desc := "(II)Z" } : Jvm.MethodName) prog_1_method_4_code (2 : Nat) (Option.some Jvm.ClassFile.FieldType.boolean)) ∈ lw_all := lw_g (lw_at lw_m1 58 rfl) rfl
theorem q73 : (Jvm.Cond.methodLink "ClaimBench" (37 : Nat) ({ cls := "ClaimBench", name := "isRouter", desc := "(I)Z" } : Jvm.MethodName)) ∈ lw_all := lw_g (lw_at lw_m1 59 rfl) rfl
theorem q74 : (Jvm.Cond.static ({ cls := "ClaimBench", name := "isRouter", desc := "(I)Z" } : Jvm.MethodName)) ∈ lw_all := lw_g (lw_at lw_m1 60 rfl) rfl
theorem q75 : (Jvm.Cond.code ({ cls := "ClaimBench", name := "isRouter", desc := "(I)Z" } : Jvm.MethodName) prog_1_method_3_code (1 : Nat) (Option.some Jvm.ClassFile.FieldType.boolean)) ∈ lw_all := lw_g (lw_at lw_m1 61 rfl) rfl
theorem q77 : (Jvm.Cond.instanceMethod ({ cls := "ClaimBench", name := "place", desc := "(IIZI)Z" } : Jvm.MethodName)) ∈ lw_all := lw_g (lw_at lw_m1 63 rfl) rfl
theorem q78 : (Jvm.Cond.selects "ClaimBench" ({ cls := "ClaimBench", name := "place", desc := "(IIZI)Z" } : Jvm.MethodName) ({ cls := "ClaimBench", name := "place", desc := "(IIZI)Z" } : Jvm.MethodName)) ∈ lw_all := lw_g (lw_at lw_m1 64 rfl) rfl
theorem q79 : (Jvm.Cond.code ({ cls := "ClaimBench", name := "place", desc := "(IIZI)Z" } : Jvm.MethodName) prog_1_method_6_code (5 : Nat) (Option.some Jvm.ClassFile.FieldType.boolean)) ∈ lw_all := lw_g (lw_at lw_m1 65 rfl) rfl
theorem q81 : (Jvm.Cond.instanceMethod ({ cls := "ClaimBench", name := "there", desc := "(IZ)Z" } : Jvm.MethodName)) ∈ lw_all := lw_g (lw_at lw_m1 67 rfl) rfl
theorem q82 : (Jvm.Cond.selects "ClaimBench" ({ cls := "ClaimBench", name := "there", desc := "(IZ)Z" } : Jvm.MethodName) ({ cls := "ClaimBench", name := "there", desc := "(IZ)Z" } : Jvm.MethodName)) ∈ lw_all := lw_g (lw_at lw_m1 68 rfl) rfl
theorem q83 : (Jvm.Cond.code ({ cls := "ClaimBench", name := "there", desc := "(IZ)Z" } : Jvm.MethodName) prog_1_method_7_code (4 : Nat) (Option.some Jvm.ClassFile.FieldType.boolean)) ∈ lw_all := lw_g (lw_at lw_m1 69 rfl) rfl
theorem q84 : (Jvm.Cond.methodLink "ClaimBench" (45 : Nat) ({ cls := "ClaimBench", name := "isThere", desc := "(I)Z" } : Jvm.MethodName)) ∈ lw_all := lw_g (lw_at lw_m1 70 rfl) rfl
theorem q85 : (Jvm.Cond.privateMethod ({ cls := "ClaimBench", name := "isThere", desc := "(I)Z" } : Jvm.MethodName)) ∈ lw_tbl := lw_at lw_m1 71 rfl
theorem q86 : (Jvm.Cond.instanceMethod ({ cls := "ClaimBench", name := "isThere", desc := "(I)Z" } : Jvm.MethodName)) ∈ lw_all := lw_g (lw_at lw_m1 72 rfl) rfl
theorem q87 : (Jvm.Cond.code ({ cls := "ClaimBench", name := "isThere", desc := "(I)Z" } : Jvm.MethodName) prog_1_method_9_code (2 : Nat) (Option.some Jvm.ClassFile.FieldType.boolean)) ∈ lw_all := lw_g (lw_at lw_m1 73 rfl) rfl
theorem q89 : (Jvm.Cond.instanceMethod ({ cls := "ClaimBench", name := "deaf", desc := "(IZ)Z" } : Jvm.MethodName)) ∈ lw_all := lw_g (lw_at lw_m1 75 rfl) rfl
theorem q90 : (Jvm.Cond.selects "ClaimBench" ({ cls := "ClaimBench", name := "deaf", desc := "(IZ)Z" } : Jvm.MethodName) ({ cls := "ClaimBench", name := "deaf", desc := "(IZ)Z" } : Jvm.MethodName)) ∈ lw_all := lw_g (lw_at lw_m1 76 rfl) rfl
theorem q91 : (Jvm.Cond.code ({ cls := "ClaimBench", name := "deaf", desc := "(IZ)Z" } : Jvm.MethodName) prog_1_method_8_code (4 : Nat) (Option.some Jvm.ClassFile.FieldType.boolean)) ∈ lw_all := lw_g (lw_at lw_m1 77 rfl) rfl
theorem q93 : (Jvm.Cond.instanceMethod ({ cls := "ClaimBench", name := "data", desc := "(II)I" } : Jvm.MethodName)) ∈ lw_all := lw_g (lw_at lw_m1 79 rfl) rfl
theorem q94 : (Jvm.Cond.selects "ClaimBench" ({ cls := "ClaimBench", name := "data", desc := "(II)I" } : Jvm.MethodName) ({ cls := "ClaimBench", name := "data", desc := "(II)I" } : Jvm.MethodName)) ∈ lw_all := lw_g (lw_at lw_m1 80 rfl) rfl
theorem q95 : (Jvm.Cond.code ({ cls := "ClaimBench", name := "data", desc := "(II)I" } : Jvm.MethodName) prog_1_method_18_code (6 : Nat) (Option.some Jvm.ClassFile.FieldType.int)) ∈ lw_all := lw_g (lw_at lw_m1 81 rfl) rfl
theorem q96 : (Jvm.Cond.methodLink "ClaimBench" (78 : Nat) ({ cls := "ClaimBench", name := "listens", desc := "(I)Z" } : Jvm.MethodName)) ∈ lw_all := lw_g (lw_at lw_m1 82 rfl) rfl
theorem q97 : (Jvm.Cond.privateMethod ({ cls := "ClaimBench", name := "listens", desc := "(I)Z" } : Jvm.MethodName)) ∈ lw_tbl := lw_at lw_m1 83 rfl
theorem q98 : (Jvm.Cond.instanceMethod ({ cls := "ClaimBench", name := "listens", desc := "(I)Z" } : Jvm.MethodName)) ∈ lw_all := lw_g (lw_at lw_m1 84 rfl) rfl
theorem q99 : (Jvm.Cond.code ({ cls := "ClaimBench", name := "listens", desc := "(I)Z" } : Jvm.MethodName) prog_1_method_10_code (2 : Nat) (Option.some Jvm.ClassFile.FieldType.boolean)) ∈ lw_all := lw_g (lw_at lw_m1 85 rfl) rfl
theorem q100 : (Jvm.Cond.methodLink "ClaimBench" (71 : Nat) ({ cls := "ClaimBench", name := "isSending", desc := "(II)Z" } : Jvm.MethodName)) ∈ lw_all := lw_g (lw_at lw_m1 86 rfl) rfl
theorem q101 : (Jvm.Cond.privateMethod ({ cls := "ClaimBench", name := "isSending", desc := "(II)Z" } : Jvm.MethodName)) ∈ lw_tbl := lw_at lw_m1 87 rfl
theorem q102 : (Jvm.Cond.instanceMethod ({ cls := "ClaimBench", name := "isSending", desc := "(II)Z" } : Jvm.MethodName)) ∈ lw_all := lw_g (lw_at lw_m1 88 rfl) rfl
theorem q103 : (Jvm.Cond.code ({ cls := "ClaimBench", name := "isSending", desc := "(II)Z" } : Jvm.MethodName) prog_1_method_15_code (3 : Nat) (Option.some Jvm.ClassFile.FieldType.boolean)) ∈ lw_all := lw_g (lw_at lw_m1 89 rfl) rfl
theorem q104 : (Jvm.Cond.methodLink "ClaimBench" (62 : Nat) ({ cls := "ClaimBench", name := "isLost", desc := "(II)Z" } : Jvm.MethodName)) ∈ lw_all := lw_g (lw_at lw_m1 90 rfl) rfl
theorem q105 : (Jvm.Cond.privateMethod ({ cls := "ClaimBench", name := "isLost", desc := "(II)Z" } : Jvm.MethodName)) ∈ lw_tbl := lw_at lw_m1 91 rfl
theorem q106 : (Jvm.Cond.instanceMethod ({ cls := "ClaimBench", name := "isLost", desc := "(II)Z" } : Jvm.MethodName)) ∈ lw_all := lw_g (lw_at lw_m1 92 rfl) rfl
theorem q107 : (Jvm.Cond.code ({ cls := "ClaimBench", name := "isLost", desc := "(II)Z" } : Jvm.MethodName) prog_1_method_14_code (4 : Nat) (Option.some Jvm.ClassFile.FieldType.boolean)) ∈ lw_all := lw_g (lw_at lw_m1 93 rfl) rfl
theorem q108 : (Jvm.Cond.methodLink "ClaimBench" (52 : Nat) ({ cls := "ClaimBench", name := "held", desc := "(II)I" } : Jvm.MethodName)) ∈ lw_all := lw_g (lw_at lw_m1 94 rfl) rfl
theorem q109 : (Jvm.Cond.privateMethod ({ cls := "ClaimBench", name := "held", desc := "(II)I" } : Jvm.MethodName)) ∈ lw_tbl := lw_at lw_m1 95 rfl
theorem q110 : (Jvm.Cond.instanceMethod ({ cls := "ClaimBench", name := "held", desc := "(II)I" } : Jvm.MethodName)) ∈ lw_all := lw_g (lw_at lw_m1 96 rfl) rfl
theorem q111 : (Jvm.Cond.code ({ cls := "ClaimBench", name := "held", desc := "(II)I" } : Jvm.MethodName) prog_1_method_13_code (4 : Nat) (Option.some Jvm.ClassFile.FieldType.int)) ∈ lw_all := lw_g (lw_at lw_m1 97 rfl) rfl
theorem q112 : (Jvm.Cond.methodLink "ClaimBench" (56 : Nat) ({ cls := "ClaimBench", name := "own", desc := "(II)I" } : Jvm.MethodName)) ∈ lw_all := lw_g (lw_at lw_m1 98 rfl) rfl
theorem q113 : (Jvm.Cond.privateMethod ({ cls := "ClaimBench", name := "own", desc := "(II)I" } : Jvm.MethodName)) ∈ lw_tbl := lw_at lw_m1 99 rfl
theorem q114 : (Jvm.Cond.instanceMethod ({ cls := "ClaimBench", name := "own", desc := "(II)I" } : Jvm.MethodName)) ∈ lw_all := lw_g (lw_at lw_m1 100 rfl) rfl
theorem q115 : (Jvm.Cond.code ({ cls := "ClaimBench", name := "own", desc := "(II)I" } : Jvm.MethodName) prog_1_method_11_code (4 : Nat) (Option.some Jvm.ClassFile.FieldType.int)) ∈ lw_all := lw_g (lw_at lw_m1 101 rfl) rfl
theorem q116 : (Jvm.Cond.constant "ClaimBench" (51 : Nat) (1000000 : Int32)) ∈ lw_all := lw_g (lw_at lw_m1 102 rfl) rfl
theorem q117 : (Jvm.Cond.methodLink "ClaimBench" (59 : Nat) ({ cls := "ClaimBench", name := "isBetter", desc := "(II)Z" } : Jvm.MethodName)) ∈ lw_all := lw_g (lw_at lw_m1 103 rfl) rfl
theorem q118 : (Jvm.Cond.static ({ cls := "ClaimBench", name := "isBetter", desc := "(II)Z" } : Jvm.MethodName)) ∈ lw_all := lw_g (lw_at lw_m1 104 rfl) rfl
theorem q119 : (Jvm.Cond.code ({ cls := "ClaimBench", name := "isBetter", desc := "(II)Z" } : Jvm.MethodName) prog_1_method_12_code (2 : Nat) (Option.some Jvm.ClassFile.FieldType.boolean)) ∈ lw_all := lw_g (lw_at lw_m1 105 rfl) rfl
theorem q120 : (Jvm.Cond.methodLink "ClaimBench" (74 : Nat) ({ cls := "ClaimBench", name := "say", desc := "(II)V" } : Jvm.MethodName)) ∈ lw_all := lw_g (lw_at lw_m1 106 rfl) rfl
theorem q121 : (Jvm.Cond.privateMethod ({ cls := "ClaimBench", name := "say", desc := "(II)V" } : Jvm.MethodName)) ∈ lw_tbl := lw_at lw_m1 107 rfl
theorem q122 : (Jvm.Cond.instanceMethod ({ cls := "ClaimBench", name := "say", desc := "(II)V" } : Jvm.MethodName)) ∈ lw_all := lw_g (lw_at lw_m1 108 rfl) rfl
theorem q123 : (Jvm.Cond.code ({ cls := "ClaimBench", name := "say", desc := "(II)V" } : Jvm.MethodName) prog_1_method_16_code (3 : Nat) (Option.none : Option Jvm.ClassFile.FieldType)) ∈ lw_all := lw_g (lw_at lw_m1 109 rfl) rfl
theorem q124 : (Jvm.Cond.methodLink "ClaimBench" (81 : Nat) ({ cls := "ClaimBench", name := "hear", desc := "(III)V" } : Jvm.MethodName)) ∈ lw_all := lw_g (lw_at lw_m1 110 rfl) rfl
theorem q125 : (Jvm.Cond.privateMethod ({ cls := "ClaimBench", name := "hear", desc := "(III)V" } : Jvm.MethodName)) ∈ lw_tbl := lw_at lw_m1 111 rfl
theorem q126 : (Jvm.Cond.instanceMethod ({ cls := "ClaimBench", name := "hear", desc := "(III)V" } : Jvm.MethodName)) ∈ lw_all := lw_g (lw_at lw_m1 112 rfl) rfl
theorem q127 : (Jvm.Cond.code ({ cls := "ClaimBench", name := "hear", desc := "(III)V" } : Jvm.MethodName) prog_1_method_17_code (5 : Nat) (Option.none : Option Jvm.ClassFile.FieldType)) ∈ lw_all := lw_g (lw_at lw_m1 113 rfl) rfl
theorem q129 : (Jvm.Cond.instanceMethod ({ cls := "ClaimBench", name := "said", desc := "(I)I" } : Jvm.MethodName)) ∈ lw_all := lw_g (lw_at lw_m1 115 rfl) rfl
theorem q130 : (Jvm.Cond.selects "ClaimBench" ({ cls := "ClaimBench", name := "said", desc := "(I)I" } : Jvm.MethodName) ({ cls := "ClaimBench", name := "said", desc := "(I)I" } : Jvm.MethodName)) ∈ lw_all := lw_g (lw_at lw_m1 116 rfl) rfl
theorem q131 : (Jvm.Cond.code ({ cls := "ClaimBench", name := "said", desc := "(I)I" } : Jvm.MethodName) prog_1_method_19_code (2 : Nat) (Option.some Jvm.ClassFile.FieldType.int)) ∈ lw_all := lw_g (lw_at lw_m1 117 rfl) rfl
theorem q133 : (Jvm.Cond.instanceMethod ({ cls := "ClaimBench", name := "claim", desc := "(II)I" } : Jvm.MethodName)) ∈ lw_all := lw_g (lw_at lw_m1 119 rfl) rfl
theorem q134 : (Jvm.Cond.selects "ClaimBench" ({ cls := "ClaimBench", name := "claim", desc := "(II)I" } : Jvm.MethodName) ({ cls := "ClaimBench", name := "claim", desc := "(II)I" } : Jvm.MethodName)) ∈ lw_all := lw_g (lw_at lw_m1 120 rfl) rfl
theorem q135 : (Jvm.Cond.code ({ cls := "ClaimBench", name := "claim", desc := "(II)I" } : Jvm.MethodName) prog_1_method_20_code (3 : Nat) (Option.some Jvm.ClassFile.FieldType.int)) ∈ lw_all := lw_g (lw_at lw_m1 121 rfl) rfl
theorem q137 : (Jvm.Cond.instanceMethod ({ cls := "ClaimBench", name := "kept", desc := "(II)I" } : Jvm.MethodName)) ∈ lw_all := lw_g (lw_at lw_m1 123 rfl) rfl
theorem q138 : (Jvm.Cond.selects "ClaimBench" ({ cls := "ClaimBench", name := "kept", desc := "(II)I" } : Jvm.MethodName) ({ cls := "ClaimBench", name := "kept", desc := "(II)I" } : Jvm.MethodName)) ∈ lw_all := lw_g (lw_at lw_m1 124 rfl) rfl
theorem q139 : (Jvm.Cond.code ({ cls := "ClaimBench", name := "kept", desc := "(II)I" } : Jvm.MethodName) prog_1_method_21_code (3 : Nat) (Option.some Jvm.ClassFile.FieldType.int)) ∈ lw_all := lw_g (lw_at lw_m1 125 rfl) rfl
theorem q141 : (Jvm.Cond.instanceMethod ({ cls := "ClaimBench", name := "lost", desc := "(II)Z" } : Jvm.MethodName)) ∈ lw_all := lw_g (lw_at lw_m1 127 rfl) rfl
theorem q142 : (Jvm.Cond.selects "ClaimBench" ({ cls := "ClaimBench", name := "lost", desc := "(II)Z" } : Jvm.MethodName) ({ cls := "ClaimBench", name := "lost", desc := "(II)Z" } : Jvm.MethodName)) ∈ lw_all := lw_g (lw_at lw_m1 128 rfl) rfl
theorem q143 : (Jvm.Cond.code ({ cls := "ClaimBench", name := "lost", desc := "(II)Z" } : Jvm.MethodName) prog_1_method_22_code (3 : Nat) (Option.some Jvm.ClassFile.FieldType.boolean)) ∈ lw_all := lw_g (lw_at lw_m1 129 rfl) rfl
theorem q145 : (Jvm.Cond.instanceMethod ({ cls := "ClaimBench", name := "sends", desc := "(I)I" } : Jvm.MethodName)) ∈ lw_all := lw_g (lw_at lw_m1 131 rfl) rfl
theorem q146 : (Jvm.Cond.selects "ClaimBench" ({ cls := "ClaimBench", name := "sends", desc := "(I)I" } : Jvm.MethodName) ({ cls := "ClaimBench", name := "sends", desc := "(I)I" } : Jvm.MethodName)) ∈ lw_all := lw_g (lw_at lw_m1 132 rfl) rfl
theorem q147 : (Jvm.Cond.code ({ cls := "ClaimBench", name := "sends", desc := "(I)I" } : Jvm.MethodName) prog_1_method_23_code (4 : Nat) (Option.some Jvm.ClassFile.FieldType.int)) ∈ lw_all := lw_g (lw_at lw_m1 133 rfl) rfl
theorem q149 : (Jvm.Cond.instanceMethod ({ cls := "ClaimBench", name := "look", desc := "(I)I" } : Jvm.MethodName)) ∈ lw_all := lw_g (lw_at lw_m1 135 rfl) rfl
theorem q150 : (Jvm.Cond.selects "ClaimBench" ({ cls := "ClaimBench", name := "look", desc := "(I)I" } : Jvm.MethodName) ({ cls := "ClaimBench", name := "look", desc := "(I)I" } : Jvm.MethodName)) ∈ lw_all := lw_g (lw_at lw_m1 136 rfl) rfl
theorem q151 : (Jvm.Cond.code ({ cls := "ClaimBench", name := "look", desc := "(I)I" } : Jvm.MethodName) prog_1_method_24_code (2 : Nat) (Option.some Jvm.ClassFile.FieldType.int)) ∈ lw_all := lw_g (lw_at lw_m1 137 rfl) rfl
theorem in_X0 : ∀ w ∈ wsX00, w ∈ lw_all := lw_in wsX00 [36, 38, 40, 42, 44, 46, 48, 50, 52, 54, 56] (by decide +kernel) (by decide +kernel)
end
section
/-! ClaimBenchModel -/
set_option maxRecDepth 100000
def RX1 : String := "ClaimBenchModel"
def TX1 : u_T := fun k => match k with
  | 0 => ("ClaimBenchModel", "time", "I", false)
  | 1 => ("ClaimBenchModel", "all", "I", false)
  | 2 => ("ClaimBenchModel", "isGone", "[Z", true)
  | 3 => ("ClaimBenchModel", "isDeaf", "[Z", true)
  | 4 => ("ClaimBenchModel", "forwards", "[Z", true)
  | 5 => ("ClaimBenchModel", "isStraight", "[Z", true)
  | 6 => ("ClaimBenchModel", "distance", "[I", true)
  | 7 => ("ClaimBenchModel", "keptClaim", "[I", true)
  | 8 => ("ClaimBenchModel", "keptTill", "[I", true)
  | 9 => ("ClaimBenchModel", "row", "[I", true)
  | _ => ("ClaimBenchModel", "many", "I", false)
def tyX1 : Nat → FieldType := fun k => match k with
  | 0 => .int
  | 1 => .int
  | 2 => .array .boolean
  | 3 => .array .boolean
  | 4 => .array .boolean
  | 5 => .array .boolean
  | 6 => .array .int
  | 7 => .array .int
  | 8 => .array .int
  | 9 => .array .int
  | _ => .int
abbrev wsX10 : List Cond := u_ws RX1 TX1 11
theorem nmX1 : ∀ a, a < 11 → ∀ b, b < 11 → a ≠ b → (TX1 a).2.1 ≠ (TX1 b).2.1 := by decide +kernel
theorem tyX1_ok : ∀ k, k < 11 → parseFieldDescriptor (TX1 k).2.2.1 = some (tyX1 k) := by decide +kernel
abbrev cX1_init : ByteArray := prog_3_method_1_code
def yX1_init : MethodName := ⟨RX1, "<init>", "()V"⟩
theorem dX1_init_0 : decode cX1_init 0 = .ok (.aload_n 0, 1) := by decide +kernel
theorem dX1_init_1 : decode cX1_init 1 = .ok (.invokespecial 1, 3) := by decide +kernel
theorem dX1_init_4 : decode cX1_init 4 = .ok (.aload_n 0, 1) := by decide +kernel
theorem dX1_init_5 : decode cX1_init 5 = .ok (.bipush 10, 2) := by decide +kernel
theorem dX1_init_7 : decode cX1_init 7 = .ok (.newarray .boolean, 2) := by decide +kernel
theorem dX1_init_9 : decode cX1_init 9 = .ok (.putfield 7, 3) := by decide +kernel
theorem dX1_init_12 : decode cX1_init 12 = .ok (.aload_n 0, 1) := by decide +kernel
theorem dX1_init_13 : decode cX1_init 13 = .ok (.bipush 10, 2) := by decide +kernel
theorem dX1_init_15 : decode cX1_init 15 = .ok (.newarray .boolean, 2) := by decide +kernel
theorem dX1_init_17 : decode cX1_init 17 = .ok (.putfield 13, 3) := by decide +kernel
theorem dX1_init_20 : decode cX1_init 20 = .ok (.aload_n 0, 1) := by decide +kernel
theorem dX1_init_21 : decode cX1_init 21 = .ok (.sipush 160, 3) := by decide +kernel
theorem dX1_init_24 : decode cX1_init 24 = .ok (.newarray .boolean, 2) := by decide +kernel
theorem dX1_init_26 : decode cX1_init 26 = .ok (.putfield 16, 3) := by decide +kernel
theorem dX1_init_29 : decode cX1_init 29 = .ok (.aload_n 0, 1) := by decide +kernel
theorem dX1_init_30 : decode cX1_init 30 = .ok (.sipush 160, 3) := by decide +kernel
theorem dX1_init_33 : decode cX1_init 33 = .ok (.newarray .boolean, 2) := by decide +kernel
theorem dX1_init_35 : decode cX1_init 35 = .ok (.putfield 19, 3) := by decide +kernel
theorem dX1_init_38 : decode cX1_init 38 = .ok (.aload_n 0, 1) := by decide +kernel
theorem dX1_init_39 : decode cX1_init 39 = .ok (.sipush 160, 3) := by decide +kernel
theorem dX1_init_42 : decode cX1_init 42 = .ok (.newarray .int, 2) := by decide +kernel
theorem dX1_init_44 : decode cX1_init 44 = .ok (.putfield 22, 3) := by decide +kernel
theorem dX1_init_47 : decode cX1_init 47 = .ok (.aload_n 0, 1) := by decide +kernel
theorem dX1_init_48 : decode cX1_init 48 = .ok (.sipush 160, 3) := by decide +kernel
theorem dX1_init_51 : decode cX1_init 51 = .ok (.newarray .int, 2) := by decide +kernel
theorem dX1_init_53 : decode cX1_init 53 = .ok (.putfield 26, 3) := by decide +kernel
theorem dX1_init_56 : decode cX1_init 56 = .ok (.aload_n 0, 1) := by decide +kernel
theorem dX1_init_57 : decode cX1_init 57 = .ok (.sipush 160, 3) := by decide +kernel
theorem dX1_init_60 : decode cX1_init 60 = .ok (.newarray .int, 2) := by decide +kernel
theorem dX1_init_62 : decode cX1_init 62 = .ok (.putfield 29, 3) := by decide +kernel
theorem dX1_init_65 : decode cX1_init 65 = .ok (.aload_n 0, 1) := by decide +kernel
theorem dX1_init_66 : decode cX1_init 66 = .ok (.sipush 1024, 3) := by decide +kernel
theorem dX1_init_69 : decode cX1_init 69 = .ok (.newarray .int, 2) := by decide +kernel
theorem dX1_init_71 : decode cX1_init 71 = .ok (.putfield 32, 3) := by decide +kernel
theorem dX1_init_74 : decode cX1_init 74 = .ok (.iconst 0, 1) := by decide +kernel
theorem dX1_init_75 : decode cX1_init 75 = .ok (.istore_n 1, 1) := by decide +kernel
theorem dX1_init_76 : decode cX1_init 76 = .ok (.iload_n 1, 1) := by decide +kernel
theorem dX1_init_77 : decode cX1_init 77 = .ok (.sipush 160, 3) := by decide +kernel
theorem dX1_init_80 : decode cX1_init 80 = .ok (.if_icmp .ge 16, 3) := by decide +kernel
theorem dX1_init_83 : decode cX1_init 83 = .ok (.aload_n 0, 1) := by decide +kernel
theorem dX1_init_84 : decode cX1_init 84 = .ok (.getfield 26, 3) := by decide +kernel
theorem dX1_init_87 : decode cX1_init 87 = .ok (.iload_n 1, 1) := by decide +kernel
theorem dX1_init_88 : decode cX1_init 88 = .ok (.iconst (-1), 1) := by decide +kernel
theorem dX1_init_89 : decode cX1_init 89 = .ok (.iastore, 1) := by decide +kernel
theorem dX1_init_90 : decode cX1_init 90 = .ok (.iinc 1 1, 3) := by decide +kernel
theorem dX1_init_93 : decode cX1_init 93 = .ok (.goto (-17), 3) := by decide +kernel
theorem dX1_init_96 : decode cX1_init 96 = .ok (.return_, 1) := by decide +kernel
abbrev cX1_tick : ByteArray := prog_3_method_5_code
def yX1_tick : MethodName := ⟨RX1, "tick", "(I)I"⟩
theorem dX1_tick_0 : decode cX1_tick 0 = .ok (.iload_n 1, 1) := by decide +kernel
theorem dX1_tick_1 : decode cX1_tick 1 = .ok (.iconst 1, 1) := by decide +kernel
theorem dX1_tick_2 : decode cX1_tick 2 = .ok (.if_icmp .lt 20, 3) := by decide +kernel
theorem dX1_tick_5 : decode cX1_tick 5 = .ok (.iload_n 1, 1) := by decide +kernel
theorem dX1_tick_6 : decode cX1_tick 6 = .ok (.bipush 100, 2) := by decide +kernel
theorem dX1_tick_8 : decode cX1_tick 8 = .ok (.if_icmp .gt 14, 3) := by decide +kernel
theorem dX1_tick_11 : decode cX1_tick 11 = .ok (.aload_n 0, 1) := by decide +kernel
theorem dX1_tick_12 : decode cX1_tick 12 = .ok (.getfield 39, 3) := by decide +kernel
theorem dX1_tick_15 : decode cX1_tick 15 = .ok (.iload_n 1, 1) := by decide +kernel
theorem dX1_tick_16 : decode cX1_tick 16 = .ok (.iadd, 1) := by decide +kernel
theorem dX1_tick_17 : decode cX1_tick 17 = .ok (.ldc 43, 2) := by decide +kernel
theorem dX1_tick_19 : decode cX1_tick 19 = .ok (.if_icmp .le 5, 3) := by decide +kernel
theorem dX1_tick_22 : decode cX1_tick 22 = .ok (.iconst (-1), 1) := by decide +kernel
theorem dX1_tick_23 : decode cX1_tick 23 = .ok (.ireturn, 1) := by decide +kernel
theorem dX1_tick_24 : decode cX1_tick 24 = .ok (.aload_n 0, 1) := by decide +kernel
theorem dX1_tick_25 : decode cX1_tick 25 = .ok (.dup, 1) := by decide +kernel
theorem dX1_tick_26 : decode cX1_tick 26 = .ok (.getfield 39, 3) := by decide +kernel
theorem dX1_tick_29 : decode cX1_tick 29 = .ok (.iload_n 1, 1) := by decide +kernel
theorem dX1_tick_30 : decode cX1_tick 30 = .ok (.iadd, 1) := by decide +kernel
theorem dX1_tick_31 : decode cX1_tick 31 = .ok (.putfield 39, 3) := by decide +kernel
theorem dX1_tick_34 : decode cX1_tick 34 = .ok (.aload_n 0, 1) := by decide +kernel
theorem dX1_tick_35 : decode cX1_tick 35 = .ok (.getfield 39, 3) := by decide +kernel
theorem dX1_tick_38 : decode cX1_tick 38 = .ok (.ireturn, 1) := by decide +kernel
abbrev cX1_forward : ByteArray := prog_3_method_6_code
def yX1_forward : MethodName := ⟨RX1, "forward", "(IIZ)Z"⟩
theorem dX1_forward_0 : decode cX1_forward 0 = .ok (.iload_n 1, 1) := by decide +kernel
theorem dX1_forward_1 : decode cX1_forward 1 = .ok (.iload_n 2, 1) := by decide +kernel
theorem dX1_forward_2 : decode cX1_forward 2 = .ok (.invokestatic 44, 3) := by decide +kernel
theorem dX1_forward_5 : decode cX1_forward 5 = .ok (.ifCond .ne 5, 3) := by decide +kernel
theorem dX1_forward_8 : decode cX1_forward 8 = .ok (.iconst 0, 1) := by decide +kernel
theorem dX1_forward_9 : decode cX1_forward 9 = .ok (.ireturn, 1) := by decide +kernel
theorem dX1_forward_10 : decode cX1_forward 10 = .ok (.aload_n 0, 1) := by decide +kernel
theorem dX1_forward_11 : decode cX1_forward 11 = .ok (.getfield 16, 3) := by decide +kernel
theorem dX1_forward_14 : decode cX1_forward 14 = .ok (.bipush 16, 2) := by decide +kernel
theorem dX1_forward_16 : decode cX1_forward 16 = .ok (.iload_n 1, 1) := by decide +kernel
theorem dX1_forward_17 : decode cX1_forward 17 = .ok (.imul, 1) := by decide +kernel
theorem dX1_forward_18 : decode cX1_forward 18 = .ok (.iload_n 2, 1) := by decide +kernel
theorem dX1_forward_19 : decode cX1_forward 19 = .ok (.iadd, 1) := by decide +kernel
theorem dX1_forward_20 : decode cX1_forward 20 = .ok (.iload_n 3, 1) := by decide +kernel
theorem dX1_forward_21 : decode cX1_forward 21 = .ok (.bastore, 1) := by decide +kernel
theorem dX1_forward_22 : decode cX1_forward 22 = .ok (.iconst 1, 1) := by decide +kernel
theorem dX1_forward_23 : decode cX1_forward 23 = .ok (.ireturn, 1) := by decide +kernel
abbrev cX1_isPair : ByteArray := prog_3_method_4_code
def yX1_isPair : MethodName := ⟨RX1, "isPair", "(II)Z"⟩
theorem dX1_isPair_0 : decode cX1_isPair 0 = .ok (.iload_n 0, 1) := by decide +kernel
theorem dX1_isPair_1 : decode cX1_isPair 1 = .ok (.invokestatic 35, 3) := by decide +kernel
theorem dX1_isPair_4 : decode cX1_isPair 4 = .ok (.ifCond .eq 17, 3) := by decide +kernel
theorem dX1_isPair_7 : decode cX1_isPair 7 = .ok (.iload_n 1, 1) := by decide +kernel
theorem dX1_isPair_8 : decode cX1_isPair 8 = .ok (.ifCond .lt 13, 3) := by decide +kernel
theorem dX1_isPair_11 : decode cX1_isPair 11 = .ok (.iload_n 1, 1) := by decide +kernel
theorem dX1_isPair_12 : decode cX1_isPair 12 = .ok (.bipush 16, 2) := by decide +kernel
theorem dX1_isPair_14 : decode cX1_isPair 14 = .ok (.if_icmp .ge 7, 3) := by decide +kernel
theorem dX1_isPair_17 : decode cX1_isPair 17 = .ok (.iconst 1, 1) := by decide +kernel
theorem dX1_isPair_18 : decode cX1_isPair 18 = .ok (.goto 4, 3) := by decide +kernel
theorem dX1_isPair_21 : decode cX1_isPair 21 = .ok (.iconst 0, 1) := by decide +kernel
theorem dX1_isPair_22 : decode cX1_isPair 22 = .ok (.ireturn, 1) := by decide +kernel
abbrev cX1_isRouter : ByteArray := prog_3_method_3_code
def yX1_isRouter : MethodName := ⟨RX1, "isRouter", "(I)Z"⟩
theorem dX1_isRouter_0 : decode cX1_isRouter 0 = .ok (.iload_n 0, 1) := by decide +kernel
theorem dX1_isRouter_1 : decode cX1_isRouter 1 = .ok (.ifCond .lt 13, 3) := by decide +kernel
theorem dX1_isRouter_4 : decode cX1_isRouter 4 = .ok (.iload_n 0, 1) := by decide +kernel
theorem dX1_isRouter_5 : decode cX1_isRouter 5 = .ok (.bipush 10, 2) := by decide +kernel
theorem dX1_isRouter_7 : decode cX1_isRouter 7 = .ok (.if_icmp .ge 7, 3) := by decide +kernel
theorem dX1_isRouter_10 : decode cX1_isRouter 10 = .ok (.iconst 1, 1) := by decide +kernel
theorem dX1_isRouter_11 : decode cX1_isRouter 11 = .ok (.goto 4, 3) := by decide +kernel
theorem dX1_isRouter_14 : decode cX1_isRouter 14 = .ok (.iconst 0, 1) := by decide +kernel
theorem dX1_isRouter_15 : decode cX1_isRouter 15 = .ok (.ireturn, 1) := by decide +kernel
abbrev cX1_place : ByteArray := prog_3_method_7_code
def yX1_place : MethodName := ⟨RX1, "place", "(IIZI)Z"⟩
theorem dX1_place_0 : decode cX1_place 0 = .ok (.iload_n 1, 1) := by decide +kernel
theorem dX1_place_1 : decode cX1_place 1 = .ok (.iload_n 2, 1) := by decide +kernel
theorem dX1_place_2 : decode cX1_place 2 = .ok (.invokestatic 44, 3) := by decide +kernel
theorem dX1_place_5 : decode cX1_place 5 = .ok (.ifCond .eq 16, 3) := by decide +kernel
theorem dX1_place_8 : decode cX1_place 8 = .ok (.iload 4, 2) := by decide +kernel
theorem dX1_place_10 : decode cX1_place 10 = .ok (.ifCond .lt 11, 3) := by decide +kernel
theorem dX1_place_13 : decode cX1_place 13 = .ok (.iload 4, 2) := by decide +kernel
theorem dX1_place_15 : decode cX1_place 15 = .ok (.sipush 9999, 3) := by decide +kernel
theorem dX1_place_18 : decode cX1_place 18 = .ok (.if_icmp .le 5, 3) := by decide +kernel
theorem dX1_place_21 : decode cX1_place 21 = .ok (.iconst 0, 1) := by decide +kernel
theorem dX1_place_22 : decode cX1_place 22 = .ok (.ireturn, 1) := by decide +kernel
theorem dX1_place_23 : decode cX1_place 23 = .ok (.aload_n 0, 1) := by decide +kernel
theorem dX1_place_24 : decode cX1_place 24 = .ok (.getfield 19, 3) := by decide +kernel
theorem dX1_place_27 : decode cX1_place 27 = .ok (.bipush 16, 2) := by decide +kernel
theorem dX1_place_29 : decode cX1_place 29 = .ok (.iload_n 1, 1) := by decide +kernel
theorem dX1_place_30 : decode cX1_place 30 = .ok (.imul, 1) := by decide +kernel
theorem dX1_place_31 : decode cX1_place 31 = .ok (.iload_n 2, 1) := by decide +kernel
theorem dX1_place_32 : decode cX1_place 32 = .ok (.iadd, 1) := by decide +kernel
theorem dX1_place_33 : decode cX1_place 33 = .ok (.iload_n 3, 1) := by decide +kernel
theorem dX1_place_34 : decode cX1_place 34 = .ok (.bastore, 1) := by decide +kernel
theorem dX1_place_35 : decode cX1_place 35 = .ok (.aload_n 0, 1) := by decide +kernel
theorem dX1_place_36 : decode cX1_place 36 = .ok (.getfield 22, 3) := by decide +kernel
theorem dX1_place_39 : decode cX1_place 39 = .ok (.bipush 16, 2) := by decide +kernel
theorem dX1_place_41 : decode cX1_place 41 = .ok (.iload_n 1, 1) := by decide +kernel
theorem dX1_place_42 : decode cX1_place 42 = .ok (.imul, 1) := by decide +kernel
theorem dX1_place_43 : decode cX1_place 43 = .ok (.iload_n 2, 1) := by decide +kernel
theorem dX1_place_44 : decode cX1_place 44 = .ok (.iadd, 1) := by decide +kernel
theorem dX1_place_45 : decode cX1_place 45 = .ok (.iload 4, 2) := by decide +kernel
theorem dX1_place_47 : decode cX1_place 47 = .ok (.iastore, 1) := by decide +kernel
theorem dX1_place_48 : decode cX1_place 48 = .ok (.iconst 1, 1) := by decide +kernel
theorem dX1_place_49 : decode cX1_place 49 = .ok (.ireturn, 1) := by decide +kernel
abbrev cX1_there : ByteArray := prog_3_method_8_code
def yX1_there : MethodName := ⟨RX1, "there", "(IZ)Z"⟩
theorem dX1_there_0 : decode cX1_there 0 = .ok (.iload_n 1, 1) := by decide +kernel
theorem dX1_there_1 : decode cX1_there 1 = .ok (.invokestatic 35, 3) := by decide +kernel
theorem dX1_there_4 : decode cX1_there 4 = .ok (.ifCond .ne 5, 3) := by decide +kernel
theorem dX1_there_7 : decode cX1_there 7 = .ok (.iconst 0, 1) := by decide +kernel
theorem dX1_there_8 : decode cX1_there 8 = .ok (.ireturn, 1) := by decide +kernel
theorem dX1_there_9 : decode cX1_there 9 = .ok (.aload_n 0, 1) := by decide +kernel
theorem dX1_there_10 : decode cX1_there 10 = .ok (.getfield 7, 3) := by decide +kernel
theorem dX1_there_13 : decode cX1_there 13 = .ok (.iload_n 1, 1) := by decide +kernel
theorem dX1_there_14 : decode cX1_there 14 = .ok (.baload, 1) := by decide +kernel
theorem dX1_there_15 : decode cX1_there 15 = .ok (.ifCond .ne 7, 3) := by decide +kernel
theorem dX1_there_18 : decode cX1_there 18 = .ok (.iconst 1, 1) := by decide +kernel
theorem dX1_there_19 : decode cX1_there 19 = .ok (.goto 4, 3) := by decide +kernel
theorem dX1_there_22 : decode cX1_there 22 = .ok (.iconst 0, 1) := by decide +kernel
theorem dX1_there_23 : decode cX1_there 23 = .ok (.istore_n 3, 1) := by decide +kernel
theorem dX1_there_24 : decode cX1_there 24 = .ok (.aload_n 0, 1) := by decide +kernel
theorem dX1_there_25 : decode cX1_there 25 = .ok (.getfield 7, 3) := by decide +kernel
theorem dX1_there_28 : decode cX1_there 28 = .ok (.iload_n 1, 1) := by decide +kernel
theorem dX1_there_29 : decode cX1_there 29 = .ok (.iload_n 2, 1) := by decide +kernel
theorem dX1_there_30 : decode cX1_there 30 = .ok (.ifCond .ne 7, 3) := by decide +kernel
theorem dX1_there_33 : decode cX1_there 33 = .ok (.iconst 1, 1) := by decide +kernel
theorem dX1_there_34 : decode cX1_there 34 = .ok (.goto 4, 3) := by decide +kernel
theorem dX1_there_37 : decode cX1_there 37 = .ok (.iconst 0, 1) := by decide +kernel
theorem dX1_there_38 : decode cX1_there 38 = .ok (.bastore, 1) := by decide +kernel
theorem dX1_there_39 : decode cX1_there 39 = .ok (.iload_n 3, 1) := by decide +kernel
theorem dX1_there_40 : decode cX1_there 40 = .ok (.ireturn, 1) := by decide +kernel
abbrev cX1_deaf : ByteArray := prog_3_method_9_code
def yX1_deaf : MethodName := ⟨RX1, "deaf", "(IZ)Z"⟩
theorem dX1_deaf_0 : decode cX1_deaf 0 = .ok (.iload_n 1, 1) := by decide +kernel
theorem dX1_deaf_1 : decode cX1_deaf 1 = .ok (.invokestatic 35, 3) := by decide +kernel
theorem dX1_deaf_4 : decode cX1_deaf 4 = .ok (.ifCond .ne 5, 3) := by decide +kernel
theorem dX1_deaf_7 : decode cX1_deaf 7 = .ok (.iconst 0, 1) := by decide +kernel
theorem dX1_deaf_8 : decode cX1_deaf 8 = .ok (.ireturn, 1) := by decide +kernel
theorem dX1_deaf_9 : decode cX1_deaf 9 = .ok (.aload_n 0, 1) := by decide +kernel
theorem dX1_deaf_10 : decode cX1_deaf 10 = .ok (.getfield 13, 3) := by decide +kernel
theorem dX1_deaf_13 : decode cX1_deaf 13 = .ok (.iload_n 1, 1) := by decide +kernel
theorem dX1_deaf_14 : decode cX1_deaf 14 = .ok (.baload, 1) := by decide +kernel
theorem dX1_deaf_15 : decode cX1_deaf 15 = .ok (.istore_n 3, 1) := by decide +kernel
theorem dX1_deaf_16 : decode cX1_deaf 16 = .ok (.aload_n 0, 1) := by decide +kernel
theorem dX1_deaf_17 : decode cX1_deaf 17 = .ok (.getfield 13, 3) := by decide +kernel
theorem dX1_deaf_20 : decode cX1_deaf 20 = .ok (.iload_n 1, 1) := by decide +kernel
theorem dX1_deaf_21 : decode cX1_deaf 21 = .ok (.iload_n 2, 1) := by decide +kernel
theorem dX1_deaf_22 : decode cX1_deaf 22 = .ok (.bastore, 1) := by decide +kernel
theorem dX1_deaf_23 : decode cX1_deaf 23 = .ok (.iload_n 3, 1) := by decide +kernel
theorem dX1_deaf_24 : decode cX1_deaf 24 = .ok (.ireturn, 1) := by decide +kernel
abbrev cX1_data : ByteArray := prog_3_method_17_code
def yX1_data : MethodName := ⟨RX1, "data", "(II)I"⟩
theorem dX1_data_0 : decode cX1_data 0 = .ok (.iload_n 1, 1) := by decide +kernel
theorem dX1_data_1 : decode cX1_data 1 = .ok (.iload_n 2, 1) := by decide +kernel
theorem dX1_data_2 : decode cX1_data 2 = .ok (.invokestatic 44, 3) := by decide +kernel
theorem dX1_data_5 : decode cX1_data 5 = .ok (.ifCond .eq 12, 3) := by decide +kernel
theorem dX1_data_8 : decode cX1_data 8 = .ok (.aload_n 0, 1) := by decide +kernel
theorem dX1_data_9 : decode cX1_data 9 = .ok (.getfield 7, 3) := by decide +kernel
theorem dX1_data_12 : decode cX1_data 12 = .ok (.iload_n 1, 1) := by decide +kernel
theorem dX1_data_13 : decode cX1_data 13 = .ok (.baload, 1) := by decide +kernel
theorem dX1_data_14 : decode cX1_data 14 = .ok (.ifCond .eq 5, 3) := by decide +kernel
theorem dX1_data_17 : decode cX1_data 17 = .ok (.iconst (-1), 1) := by decide +kernel
theorem dX1_data_18 : decode cX1_data 18 = .ok (.ireturn, 1) := by decide +kernel
theorem dX1_data_19 : decode cX1_data 19 = .ok (.aload_n 0, 1) := by decide +kernel
theorem dX1_data_20 : decode cX1_data 20 = .ok (.iconst 0, 1) := by decide +kernel
theorem dX1_data_21 : decode cX1_data 21 = .ok (.putfield 62, 3) := by decide +kernel
theorem dX1_data_24 : decode cX1_data 24 = .ok (.iconst 0, 1) := by decide +kernel
theorem dX1_data_25 : decode cX1_data 25 = .ok (.istore_n 3, 1) := by decide +kernel
theorem dX1_data_26 : decode cX1_data 26 = .ok (.iload_n 3, 1) := by decide +kernel
theorem dX1_data_27 : decode cX1_data 27 = .ok (.bipush 10, 2) := by decide +kernel
theorem dX1_data_29 : decode cX1_data 29 = .ok (.if_icmp .ge 38, 3) := by decide +kernel
theorem dX1_data_32 : decode cX1_data 32 = .ok (.iload_n 3, 1) := by decide +kernel
theorem dX1_data_33 : decode cX1_data 33 = .ok (.iload_n 1, 1) := by decide +kernel
theorem dX1_data_34 : decode cX1_data 34 = .ok (.if_icmp .eq 27, 3) := by decide +kernel
theorem dX1_data_37 : decode cX1_data 37 = .ok (.aload_n 0, 1) := by decide +kernel
theorem dX1_data_38 : decode cX1_data 38 = .ok (.getfield 13, 3) := by decide +kernel
theorem dX1_data_41 : decode cX1_data 41 = .ok (.iload_n 3, 1) := by decide +kernel
theorem dX1_data_42 : decode cX1_data 42 = .ok (.baload, 1) := by decide +kernel
theorem dX1_data_43 : decode cX1_data 43 = .ok (.ifCond .ne 18, 3) := by decide +kernel
theorem dX1_data_46 : decode cX1_data 46 = .ok (.aload_n 0, 1) := by decide +kernel
theorem dX1_data_47 : decode cX1_data 47 = .ok (.iload_n 3, 1) := by decide +kernel
theorem dX1_data_48 : decode cX1_data 48 = .ok (.iload_n 2, 1) := by decide +kernel
theorem dX1_data_49 : decode cX1_data 49 = .ok (.invokevirtual 68, 3) := by decide +kernel
theorem dX1_data_52 : decode cX1_data 52 = .ok (.ifCond .eq 9, 3) := by decide +kernel
theorem dX1_data_55 : decode cX1_data 55 = .ok (.aload_n 0, 1) := by decide +kernel
theorem dX1_data_56 : decode cX1_data 56 = .ok (.iload_n 3, 1) := by decide +kernel
theorem dX1_data_57 : decode cX1_data 57 = .ok (.iload_n 2, 1) := by decide +kernel
theorem dX1_data_58 : decode cX1_data 58 = .ok (.invokevirtual 71, 3) := by decide +kernel
theorem dX1_data_61 : decode cX1_data 61 = .ok (.iinc 3 1, 3) := by decide +kernel
theorem dX1_data_64 : decode cX1_data 64 = .ok (.goto (-38), 3) := by decide +kernel
theorem dX1_data_67 : decode cX1_data 67 = .ok (.iconst 0, 1) := by decide +kernel
theorem dX1_data_68 : decode cX1_data 68 = .ok (.istore_n 3, 1) := by decide +kernel
theorem dX1_data_69 : decode cX1_data 69 = .ok (.iload_n 3, 1) := by decide +kernel
theorem dX1_data_70 : decode cX1_data 70 = .ok (.aload_n 0, 1) := by decide +kernel
theorem dX1_data_71 : decode cX1_data 71 = .ok (.getfield 62, 3) := by decide +kernel
theorem dX1_data_74 : decode cX1_data 74 = .ok (.if_icmp .ge 72, 3) := by decide +kernel
theorem dX1_data_77 : decode cX1_data 77 = .ok (.iconst 0, 1) := by decide +kernel
theorem dX1_data_78 : decode cX1_data 78 = .ok (.istore 4, 2) := by decide +kernel
theorem dX1_data_80 : decode cX1_data 80 = .ok (.iload 4, 2) := by decide +kernel
theorem dX1_data_82 : decode cX1_data 82 = .ok (.bipush 10, 2) := by decide +kernel
theorem dX1_data_84 : decode cX1_data 84 = .ok (.if_icmp .ge 56, 3) := by decide +kernel
theorem dX1_data_87 : decode cX1_data 87 = .ok (.iload 4, 2) := by decide +kernel
theorem dX1_data_89 : decode cX1_data 89 = .ok (.aload_n 0, 1) := by decide +kernel
theorem dX1_data_90 : decode cX1_data 90 = .ok (.getfield 32, 3) := by decide +kernel
theorem dX1_data_93 : decode cX1_data 93 = .ok (.iload_n 3, 1) := by decide +kernel
theorem dX1_data_94 : decode cX1_data 94 = .ok (.iaload, 1) := by decide +kernel
theorem dX1_data_95 : decode cX1_data 95 = .ok (.bipush 100, 2) := by decide +kernel
theorem dX1_data_97 : decode cX1_data 97 = .ok (.irem, 1) := by decide +kernel
theorem dX1_data_98 : decode cX1_data 98 = .ok (.if_icmp .eq 36, 3) := by decide +kernel
theorem dX1_data_101 : decode cX1_data 101 = .ok (.aload_n 0, 1) := by decide +kernel
theorem dX1_data_102 : decode cX1_data 102 = .ok (.getfield 7, 3) := by decide +kernel
theorem dX1_data_105 : decode cX1_data 105 = .ok (.iload 4, 2) := by decide +kernel
theorem dX1_data_107 : decode cX1_data 107 = .ok (.baload, 1) := by decide +kernel
theorem dX1_data_108 : decode cX1_data 108 = .ok (.ifCond .ne 26, 3) := by decide +kernel
theorem dX1_data_111 : decode cX1_data 111 = .ok (.aload_n 0, 1) := by decide +kernel
theorem dX1_data_112 : decode cX1_data 112 = .ok (.getfield 13, 3) := by decide +kernel
theorem dX1_data_115 : decode cX1_data 115 = .ok (.iload 4, 2) := by decide +kernel
theorem dX1_data_117 : decode cX1_data 117 = .ok (.baload, 1) := by decide +kernel
theorem dX1_data_118 : decode cX1_data 118 = .ok (.ifCond .ne 16, 3) := by decide +kernel
theorem dX1_data_121 : decode cX1_data 121 = .ok (.aload_n 0, 1) := by decide +kernel
theorem dX1_data_122 : decode cX1_data 122 = .ok (.iload 4, 2) := by decide +kernel
theorem dX1_data_124 : decode cX1_data 124 = .ok (.iload_n 2, 1) := by decide +kernel
theorem dX1_data_125 : decode cX1_data 125 = .ok (.aload_n 0, 1) := by decide +kernel
theorem dX1_data_126 : decode cX1_data 126 = .ok (.getfield 32, 3) := by decide +kernel
theorem dX1_data_129 : decode cX1_data 129 = .ok (.iload_n 3, 1) := by decide +kernel
theorem dX1_data_130 : decode cX1_data 130 = .ok (.iaload, 1) := by decide +kernel
theorem dX1_data_131 : decode cX1_data 131 = .ok (.invokevirtual 75, 3) := by decide +kernel
theorem dX1_data_134 : decode cX1_data 134 = .ok (.iinc 4 1, 3) := by decide +kernel
theorem dX1_data_137 : decode cX1_data 137 = .ok (.goto (-57), 3) := by decide +kernel
theorem dX1_data_140 : decode cX1_data 140 = .ok (.iinc 3 1, 3) := by decide +kernel
theorem dX1_data_143 : decode cX1_data 143 = .ok (.goto (-74), 3) := by decide +kernel
theorem dX1_data_146 : decode cX1_data 146 = .ok (.aload_n 0, 1) := by decide +kernel
theorem dX1_data_147 : decode cX1_data 147 = .ok (.getfield 62, 3) := by decide +kernel
theorem dX1_data_150 : decode cX1_data 150 = .ok (.ireturn, 1) := by decide +kernel
abbrev cX1_isSending : ByteArray := prog_3_method_14_code
def yX1_isSending : MethodName := ⟨RX1, "isSending", "(II)Z"⟩
theorem dX1_isSending_0 : decode cX1_isSending 0 = .ok (.aload_n 0, 1) := by decide +kernel
theorem dX1_isSending_1 : decode cX1_isSending 1 = .ok (.getfield 7, 3) := by decide +kernel
theorem dX1_isSending_4 : decode cX1_isSending 4 = .ok (.iload_n 1, 1) := by decide +kernel
theorem dX1_isSending_5 : decode cX1_isSending 5 = .ok (.baload, 1) := by decide +kernel
theorem dX1_isSending_6 : decode cX1_isSending 6 = .ok (.ifCond .ne 30, 3) := by decide +kernel
theorem dX1_isSending_9 : decode cX1_isSending 9 = .ok (.aload_n 0, 1) := by decide +kernel
theorem dX1_isSending_10 : decode cX1_isSending 10 = .ok (.getfield 16, 3) := by decide +kernel
theorem dX1_isSending_13 : decode cX1_isSending 13 = .ok (.bipush 16, 2) := by decide +kernel
theorem dX1_isSending_15 : decode cX1_isSending 15 = .ok (.iload_n 1, 1) := by decide +kernel
theorem dX1_isSending_16 : decode cX1_isSending 16 = .ok (.imul, 1) := by decide +kernel
theorem dX1_isSending_17 : decode cX1_isSending 17 = .ok (.iload_n 2, 1) := by decide +kernel
theorem dX1_isSending_18 : decode cX1_isSending 18 = .ok (.iadd, 1) := by decide +kernel
theorem dX1_isSending_19 : decode cX1_isSending 19 = .ok (.baload, 1) := by decide +kernel
theorem dX1_isSending_20 : decode cX1_isSending 20 = .ok (.ifCond .eq 16, 3) := by decide +kernel
theorem dX1_isSending_23 : decode cX1_isSending 23 = .ok (.aload_n 0, 1) := by decide +kernel
theorem dX1_isSending_24 : decode cX1_isSending 24 = .ok (.iload_n 1, 1) := by decide +kernel
theorem dX1_isSending_25 : decode cX1_isSending 25 = .ok (.iload_n 2, 1) := by decide +kernel
theorem dX1_isSending_26 : decode cX1_isSending 26 = .ok (.invokevirtual 59, 3) := by decide +kernel
theorem dX1_isSending_29 : decode cX1_isSending 29 = .ok (.ifCond .ne 7, 3) := by decide +kernel
theorem dX1_isSending_32 : decode cX1_isSending 32 = .ok (.iconst 1, 1) := by decide +kernel
theorem dX1_isSending_33 : decode cX1_isSending 33 = .ok (.goto 4, 3) := by decide +kernel
theorem dX1_isSending_36 : decode cX1_isSending 36 = .ok (.iconst 0, 1) := by decide +kernel
theorem dX1_isSending_37 : decode cX1_isSending 37 = .ok (.ireturn, 1) := by decide +kernel
abbrev cX1_isLost : ByteArray := prog_3_method_13_code
def yX1_isLost : MethodName := ⟨RX1, "isLost", "(II)Z"⟩
theorem dX1_isLost_0 : decode cX1_isLost 0 = .ok (.aload_n 0, 1) := by decide +kernel
theorem dX1_isLost_1 : decode cX1_isLost 1 = .ok (.iload_n 1, 1) := by decide +kernel
theorem dX1_isLost_2 : decode cX1_isLost 2 = .ok (.iload_n 2, 1) := by decide +kernel
theorem dX1_isLost_3 : decode cX1_isLost 3 = .ok (.invokevirtual 49, 3) := by decide +kernel
theorem dX1_isLost_6 : decode cX1_isLost 6 = .ok (.istore_n 3, 1) := by decide +kernel
theorem dX1_isLost_7 : decode cX1_isLost 7 = .ok (.iload_n 3, 1) := by decide +kernel
theorem dX1_isLost_8 : decode cX1_isLost 8 = .ok (.iconst (-1), 1) := by decide +kernel
theorem dX1_isLost_9 : decode cX1_isLost 9 = .ok (.if_icmp .eq 20, 3) := by decide +kernel
theorem dX1_isLost_12 : decode cX1_isLost 12 = .ok (.iload_n 3, 1) := by decide +kernel
theorem dX1_isLost_13 : decode cX1_isLost 13 = .ok (.aload_n 0, 1) := by decide +kernel
theorem dX1_isLost_14 : decode cX1_isLost 14 = .ok (.iload_n 1, 1) := by decide +kernel
theorem dX1_isLost_15 : decode cX1_isLost 15 = .ok (.iload_n 2, 1) := by decide +kernel
theorem dX1_isLost_16 : decode cX1_isLost 16 = .ok (.invokevirtual 53, 3) := by decide +kernel
theorem dX1_isLost_19 : decode cX1_isLost 19 = .ok (.invokestatic 56, 3) := by decide +kernel
theorem dX1_isLost_22 : decode cX1_isLost 22 = .ok (.ifCond .eq 7, 3) := by decide +kernel
theorem dX1_isLost_25 : decode cX1_isLost 25 = .ok (.iconst 1, 1) := by decide +kernel
theorem dX1_isLost_26 : decode cX1_isLost 26 = .ok (.goto 4, 3) := by decide +kernel
theorem dX1_isLost_29 : decode cX1_isLost 29 = .ok (.iconst 0, 1) := by decide +kernel
theorem dX1_isLost_30 : decode cX1_isLost 30 = .ok (.ireturn, 1) := by decide +kernel
abbrev cX1_keeps : ByteArray := prog_3_method_12_code
def yX1_keeps : MethodName := ⟨RX1, "keeps", "(II)I"⟩
theorem dX1_keeps_0 : decode cX1_keeps 0 = .ok (.aload_n 0, 1) := by decide +kernel
theorem dX1_keeps_1 : decode cX1_keeps 1 = .ok (.getfield 26, 3) := by decide +kernel
theorem dX1_keeps_4 : decode cX1_keeps 4 = .ok (.bipush 16, 2) := by decide +kernel
theorem dX1_keeps_6 : decode cX1_keeps 6 = .ok (.iload_n 1, 1) := by decide +kernel
theorem dX1_keeps_7 : decode cX1_keeps 7 = .ok (.imul, 1) := by decide +kernel
theorem dX1_keeps_8 : decode cX1_keeps 8 = .ok (.iload_n 2, 1) := by decide +kernel
theorem dX1_keeps_9 : decode cX1_keeps 9 = .ok (.iadd, 1) := by decide +kernel
theorem dX1_keeps_10 : decode cX1_keeps 10 = .ok (.iaload, 1) := by decide +kernel
theorem dX1_keeps_11 : decode cX1_keeps 11 = .ok (.istore_n 3, 1) := by decide +kernel
theorem dX1_keeps_12 : decode cX1_keeps 12 = .ok (.iload_n 3, 1) := by decide +kernel
theorem dX1_keeps_13 : decode cX1_keeps 13 = .ok (.iconst (-1), 1) := by decide +kernel
theorem dX1_keeps_14 : decode cX1_keeps 14 = .ok (.if_icmp .eq 37, 3) := by decide +kernel
theorem dX1_keeps_17 : decode cX1_keeps 17 = .ok (.aload_n 0, 1) := by decide +kernel
theorem dX1_keeps_18 : decode cX1_keeps 18 = .ok (.getfield 39, 3) := by decide +kernel
theorem dX1_keeps_21 : decode cX1_keeps 21 = .ok (.aload_n 0, 1) := by decide +kernel
theorem dX1_keeps_22 : decode cX1_keeps 22 = .ok (.getfield 29, 3) := by decide +kernel
theorem dX1_keeps_25 : decode cX1_keeps 25 = .ok (.bipush 16, 2) := by decide +kernel
theorem dX1_keeps_27 : decode cX1_keeps 27 = .ok (.iload_n 1, 1) := by decide +kernel
theorem dX1_keeps_28 : decode cX1_keeps 28 = .ok (.imul, 1) := by decide +kernel
theorem dX1_keeps_29 : decode cX1_keeps 29 = .ok (.iload_n 2, 1) := by decide +kernel
theorem dX1_keeps_30 : decode cX1_keeps 30 = .ok (.iadd, 1) := by decide +kernel
theorem dX1_keeps_31 : decode cX1_keeps 31 = .ok (.iaload, 1) := by decide +kernel
theorem dX1_keeps_32 : decode cX1_keeps 32 = .ok (.if_icmp .ge 19, 3) := by decide +kernel
theorem dX1_keeps_35 : decode cX1_keeps 35 = .ok (.aload_n 0, 1) := by decide +kernel
theorem dX1_keeps_36 : decode cX1_keeps 36 = .ok (.getfield 7, 3) := by decide +kernel
theorem dX1_keeps_39 : decode cX1_keeps 39 = .ok (.iload_n 3, 1) := by decide +kernel
theorem dX1_keeps_40 : decode cX1_keeps 40 = .ok (.bipush 100, 2) := by decide +kernel
theorem dX1_keeps_42 : decode cX1_keeps 42 = .ok (.irem, 1) := by decide +kernel
theorem dX1_keeps_43 : decode cX1_keeps 43 = .ok (.baload, 1) := by decide +kernel
theorem dX1_keeps_44 : decode cX1_keeps 44 = .ok (.ifCond .ne 7, 3) := by decide +kernel
theorem dX1_keeps_47 : decode cX1_keeps 47 = .ok (.iload_n 3, 1) := by decide +kernel
theorem dX1_keeps_48 : decode cX1_keeps 48 = .ok (.goto 4, 3) := by decide +kernel
theorem dX1_keeps_51 : decode cX1_keeps 51 = .ok (.iconst (-1), 1) := by decide +kernel
theorem dX1_keeps_52 : decode cX1_keeps 52 = .ok (.ireturn, 1) := by decide +kernel
abbrev cX1_own : ByteArray := prog_3_method_10_code
def yX1_own : MethodName := ⟨RX1, "own", "(II)I"⟩
theorem dX1_own_0 : decode cX1_own 0 = .ok (.aload_n 0, 1) := by decide +kernel
theorem dX1_own_1 : decode cX1_own 1 = .ok (.getfield 19, 3) := by decide +kernel
theorem dX1_own_4 : decode cX1_own 4 = .ok (.bipush 16, 2) := by decide +kernel
theorem dX1_own_6 : decode cX1_own 6 = .ok (.iload_n 1, 1) := by decide +kernel
theorem dX1_own_7 : decode cX1_own 7 = .ok (.imul, 1) := by decide +kernel
theorem dX1_own_8 : decode cX1_own 8 = .ok (.iload_n 2, 1) := by decide +kernel
theorem dX1_own_9 : decode cX1_own 9 = .ok (.iadd, 1) := by decide +kernel
theorem dX1_own_10 : decode cX1_own 10 = .ok (.baload, 1) := by decide +kernel
theorem dX1_own_11 : decode cX1_own 11 = .ok (.ifCond .eq 7, 3) := by decide +kernel
theorem dX1_own_14 : decode cX1_own 14 = .ok (.iconst 0, 1) := by decide +kernel
theorem dX1_own_15 : decode cX1_own 15 = .ok (.goto 5, 3) := by decide +kernel
theorem dX1_own_18 : decode cX1_own 18 = .ok (.ldc 48, 2) := by decide +kernel
theorem dX1_own_20 : decode cX1_own 20 = .ok (.bipush 100, 2) := by decide +kernel
theorem dX1_own_22 : decode cX1_own 22 = .ok (.aload_n 0, 1) := by decide +kernel
theorem dX1_own_23 : decode cX1_own 23 = .ok (.getfield 22, 3) := by decide +kernel
theorem dX1_own_26 : decode cX1_own 26 = .ok (.bipush 16, 2) := by decide +kernel
theorem dX1_own_28 : decode cX1_own 28 = .ok (.iload_n 1, 1) := by decide +kernel
theorem dX1_own_29 : decode cX1_own 29 = .ok (.imul, 1) := by decide +kernel
theorem dX1_own_30 : decode cX1_own 30 = .ok (.iload_n 2, 1) := by decide +kernel
theorem dX1_own_31 : decode cX1_own 31 = .ok (.iadd, 1) := by decide +kernel
theorem dX1_own_32 : decode cX1_own 32 = .ok (.iaload, 1) := by decide +kernel
theorem dX1_own_33 : decode cX1_own 33 = .ok (.imul, 1) := by decide +kernel
theorem dX1_own_34 : decode cX1_own 34 = .ok (.iadd, 1) := by decide +kernel
theorem dX1_own_35 : decode cX1_own 35 = .ok (.iload_n 1, 1) := by decide +kernel
theorem dX1_own_36 : decode cX1_own 36 = .ok (.iadd, 1) := by decide +kernel
theorem dX1_own_37 : decode cX1_own 37 = .ok (.ireturn, 1) := by decide +kernel
abbrev cX1_isBetter : ByteArray := prog_3_method_11_code
def yX1_isBetter : MethodName := ⟨RX1, "isBetter", "(II)Z"⟩
theorem dX1_isBetter_0 : decode cX1_isBetter 0 = .ok (.iload_n 0, 1) := by decide +kernel
theorem dX1_isBetter_1 : decode cX1_isBetter 1 = .ok (.bipush 100, 2) := by decide +kernel
theorem dX1_isBetter_3 : decode cX1_isBetter 3 = .ok (.idiv, 1) := by decide +kernel
theorem dX1_isBetter_4 : decode cX1_isBetter 4 = .ok (.iload_n 1, 1) := by decide +kernel
theorem dX1_isBetter_5 : decode cX1_isBetter 5 = .ok (.bipush 100, 2) := by decide +kernel
theorem dX1_isBetter_7 : decode cX1_isBetter 7 = .ok (.idiv, 1) := by decide +kernel
theorem dX1_isBetter_8 : decode cX1_isBetter 8 = .ok (.if_icmp .lt 25, 3) := by decide +kernel
theorem dX1_isBetter_11 : decode cX1_isBetter 11 = .ok (.iload_n 0, 1) := by decide +kernel
theorem dX1_isBetter_12 : decode cX1_isBetter 12 = .ok (.bipush 100, 2) := by decide +kernel
theorem dX1_isBetter_14 : decode cX1_isBetter 14 = .ok (.idiv, 1) := by decide +kernel
theorem dX1_isBetter_15 : decode cX1_isBetter 15 = .ok (.iload_n 1, 1) := by decide +kernel
theorem dX1_isBetter_16 : decode cX1_isBetter 16 = .ok (.bipush 100, 2) := by decide +kernel
theorem dX1_isBetter_18 : decode cX1_isBetter 18 = .ok (.idiv, 1) := by decide +kernel
theorem dX1_isBetter_19 : decode cX1_isBetter 19 = .ok (.if_icmp .ne 18, 3) := by decide +kernel
theorem dX1_isBetter_22 : decode cX1_isBetter 22 = .ok (.iload_n 0, 1) := by decide +kernel
theorem dX1_isBetter_23 : decode cX1_isBetter 23 = .ok (.bipush 100, 2) := by decide +kernel
theorem dX1_isBetter_25 : decode cX1_isBetter 25 = .ok (.irem, 1) := by decide +kernel
theorem dX1_isBetter_26 : decode cX1_isBetter 26 = .ok (.iload_n 1, 1) := by decide +kernel
theorem dX1_isBetter_27 : decode cX1_isBetter 27 = .ok (.bipush 100, 2) := by decide +kernel
theorem dX1_isBetter_29 : decode cX1_isBetter 29 = .ok (.irem, 1) := by decide +kernel
theorem dX1_isBetter_30 : decode cX1_isBetter 30 = .ok (.if_icmp .le 7, 3) := by decide +kernel
theorem dX1_isBetter_33 : decode cX1_isBetter 33 = .ok (.iconst 1, 1) := by decide +kernel
theorem dX1_isBetter_34 : decode cX1_isBetter 34 = .ok (.goto 4, 3) := by decide +kernel
theorem dX1_isBetter_37 : decode cX1_isBetter 37 = .ok (.iconst 0, 1) := by decide +kernel
theorem dX1_isBetter_38 : decode cX1_isBetter 38 = .ok (.ireturn, 1) := by decide +kernel
abbrev cX1_say : ByteArray := prog_3_method_15_code
def yX1_say : MethodName := ⟨RX1, "say", "(II)V"⟩
theorem dX1_say_0 : decode cX1_say 0 = .ok (.aload_n 0, 1) := by decide +kernel
theorem dX1_say_1 : decode cX1_say 1 = .ok (.getfield 62, 3) := by decide +kernel
theorem dX1_say_4 : decode cX1_say 4 = .ok (.sipush 1024, 3) := by decide +kernel
theorem dX1_say_7 : decode cX1_say 7 = .ok (.if_icmp .ne 4, 3) := by decide +kernel
theorem dX1_say_10 : decode cX1_say 10 = .ok (.return_, 1) := by decide +kernel
theorem dX1_say_11 : decode cX1_say 11 = .ok (.aload_n 0, 1) := by decide +kernel
theorem dX1_say_12 : decode cX1_say 12 = .ok (.getfield 32, 3) := by decide +kernel
theorem dX1_say_15 : decode cX1_say 15 = .ok (.aload_n 0, 1) := by decide +kernel
theorem dX1_say_16 : decode cX1_say 16 = .ok (.getfield 62, 3) := by decide +kernel
theorem dX1_say_19 : decode cX1_say 19 = .ok (.aload_n 0, 1) := by decide +kernel
theorem dX1_say_20 : decode cX1_say 20 = .ok (.iload_n 1, 1) := by decide +kernel
theorem dX1_say_21 : decode cX1_say 21 = .ok (.iload_n 2, 1) := by decide +kernel
theorem dX1_say_22 : decode cX1_say 22 = .ok (.invokevirtual 53, 3) := by decide +kernel
theorem dX1_say_25 : decode cX1_say 25 = .ok (.iastore, 1) := by decide +kernel
theorem dX1_say_26 : decode cX1_say 26 = .ok (.aload_n 0, 1) := by decide +kernel
theorem dX1_say_27 : decode cX1_say 27 = .ok (.dup, 1) := by decide +kernel
theorem dX1_say_28 : decode cX1_say 28 = .ok (.getfield 62, 3) := by decide +kernel
theorem dX1_say_31 : decode cX1_say 31 = .ok (.iconst 1, 1) := by decide +kernel
theorem dX1_say_32 : decode cX1_say 32 = .ok (.iadd, 1) := by decide +kernel
theorem dX1_say_33 : decode cX1_say 33 = .ok (.putfield 62, 3) := by decide +kernel
theorem dX1_say_36 : decode cX1_say 36 = .ok (.aload_n 0, 1) := by decide +kernel
theorem dX1_say_37 : decode cX1_say 37 = .ok (.dup, 1) := by decide +kernel
theorem dX1_say_38 : decode cX1_say 38 = .ok (.getfield 65, 3) := by decide +kernel
theorem dX1_say_41 : decode cX1_say 41 = .ok (.iconst 1, 1) := by decide +kernel
theorem dX1_say_42 : decode cX1_say 42 = .ok (.iadd, 1) := by decide +kernel
theorem dX1_say_43 : decode cX1_say 43 = .ok (.putfield 65, 3) := by decide +kernel
theorem dX1_say_46 : decode cX1_say 46 = .ok (.return_, 1) := by decide +kernel
abbrev cX1_hear : ByteArray := prog_3_method_16_code
def yX1_hear : MethodName := ⟨RX1, "hear", "(III)V"⟩
theorem dX1_hear_0 : decode cX1_hear 0 = .ok (.aload_n 0, 1) := by decide +kernel
theorem dX1_hear_1 : decode cX1_hear 1 = .ok (.iload_n 1, 1) := by decide +kernel
theorem dX1_hear_2 : decode cX1_hear 2 = .ok (.iload_n 2, 1) := by decide +kernel
theorem dX1_hear_3 : decode cX1_hear 3 = .ok (.invokevirtual 49, 3) := by decide +kernel
theorem dX1_hear_6 : decode cX1_hear 6 = .ok (.istore 4, 2) := by decide +kernel
theorem dX1_hear_8 : decode cX1_hear 8 = .ok (.iload 4, 2) := by decide +kernel
theorem dX1_hear_10 : decode cX1_hear 10 = .ok (.iconst (-1), 1) := by decide +kernel
theorem dX1_hear_11 : decode cX1_hear 11 = .ok (.if_icmp .eq 24, 3) := by decide +kernel
theorem dX1_hear_14 : decode cX1_hear 14 = .ok (.iload_n 3, 1) := by decide +kernel
theorem dX1_hear_15 : decode cX1_hear 15 = .ok (.iload 4, 2) := by decide +kernel
theorem dX1_hear_17 : decode cX1_hear 17 = .ok (.invokestatic 56, 3) := by decide +kernel
theorem dX1_hear_20 : decode cX1_hear 20 = .ok (.ifCond .ne 15, 3) := by decide +kernel
theorem dX1_hear_23 : decode cX1_hear 23 = .ok (.iload 4, 2) := by decide +kernel
theorem dX1_hear_25 : decode cX1_hear 25 = .ok (.bipush 100, 2) := by decide +kernel
theorem dX1_hear_27 : decode cX1_hear 27 = .ok (.irem, 1) := by decide +kernel
theorem dX1_hear_28 : decode cX1_hear 28 = .ok (.iload_n 3, 1) := by decide +kernel
theorem dX1_hear_29 : decode cX1_hear 29 = .ok (.bipush 100, 2) := by decide +kernel
theorem dX1_hear_31 : decode cX1_hear 31 = .ok (.irem, 1) := by decide +kernel
theorem dX1_hear_32 : decode cX1_hear 32 = .ok (.if_icmp .ne 33, 3) := by decide +kernel
theorem dX1_hear_35 : decode cX1_hear 35 = .ok (.aload_n 0, 1) := by decide +kernel
theorem dX1_hear_36 : decode cX1_hear 36 = .ok (.getfield 26, 3) := by decide +kernel
theorem dX1_hear_39 : decode cX1_hear 39 = .ok (.bipush 16, 2) := by decide +kernel
theorem dX1_hear_41 : decode cX1_hear 41 = .ok (.iload_n 1, 1) := by decide +kernel
theorem dX1_hear_42 : decode cX1_hear 42 = .ok (.imul, 1) := by decide +kernel
theorem dX1_hear_43 : decode cX1_hear 43 = .ok (.iload_n 2, 1) := by decide +kernel
theorem dX1_hear_44 : decode cX1_hear 44 = .ok (.iadd, 1) := by decide +kernel
theorem dX1_hear_45 : decode cX1_hear 45 = .ok (.iload_n 3, 1) := by decide +kernel
theorem dX1_hear_46 : decode cX1_hear 46 = .ok (.iastore, 1) := by decide +kernel
theorem dX1_hear_47 : decode cX1_hear 47 = .ok (.aload_n 0, 1) := by decide +kernel
theorem dX1_hear_48 : decode cX1_hear 48 = .ok (.getfield 29, 3) := by decide +kernel
theorem dX1_hear_51 : decode cX1_hear 51 = .ok (.bipush 16, 2) := by decide +kernel
theorem dX1_hear_53 : decode cX1_hear 53 = .ok (.iload_n 1, 1) := by decide +kernel
theorem dX1_hear_54 : decode cX1_hear 54 = .ok (.imul, 1) := by decide +kernel
theorem dX1_hear_55 : decode cX1_hear 55 = .ok (.iload_n 2, 1) := by decide +kernel
theorem dX1_hear_56 : decode cX1_hear 56 = .ok (.iadd, 1) := by decide +kernel
theorem dX1_hear_57 : decode cX1_hear 57 = .ok (.aload_n 0, 1) := by decide +kernel
theorem dX1_hear_58 : decode cX1_hear 58 = .ok (.getfield 39, 3) := by decide +kernel
theorem dX1_hear_61 : decode cX1_hear 61 = .ok (.bipush 60, 2) := by decide +kernel
theorem dX1_hear_63 : decode cX1_hear 63 = .ok (.iadd, 1) := by decide +kernel
theorem dX1_hear_64 : decode cX1_hear 64 = .ok (.iastore, 1) := by decide +kernel
theorem dX1_hear_65 : decode cX1_hear 65 = .ok (.aload_n 0, 1) := by decide +kernel
theorem dX1_hear_66 : decode cX1_hear 66 = .ok (.iload_n 1, 1) := by decide +kernel
theorem dX1_hear_67 : decode cX1_hear 67 = .ok (.iload_n 2, 1) := by decide +kernel
theorem dX1_hear_68 : decode cX1_hear 68 = .ok (.invokevirtual 68, 3) := by decide +kernel
theorem dX1_hear_71 : decode cX1_hear 71 = .ok (.ifCond .eq 22, 3) := by decide +kernel
theorem dX1_hear_74 : decode cX1_hear 74 = .ok (.aload_n 0, 1) := by decide +kernel
theorem dX1_hear_75 : decode cX1_hear 75 = .ok (.iload_n 1, 1) := by decide +kernel
theorem dX1_hear_76 : decode cX1_hear 76 = .ok (.iload_n 2, 1) := by decide +kernel
theorem dX1_hear_77 : decode cX1_hear 77 = .ok (.invokevirtual 53, 3) := by decide +kernel
theorem dX1_hear_80 : decode cX1_hear 80 = .ok (.iload_n 3, 1) := by decide +kernel
theorem dX1_hear_81 : decode cX1_hear 81 = .ok (.invokestatic 56, 3) := by decide +kernel
theorem dX1_hear_84 : decode cX1_hear 84 = .ok (.ifCond .eq 9, 3) := by decide +kernel
theorem dX1_hear_87 : decode cX1_hear 87 = .ok (.aload_n 0, 1) := by decide +kernel
theorem dX1_hear_88 : decode cX1_hear 88 = .ok (.iload_n 1, 1) := by decide +kernel
theorem dX1_hear_89 : decode cX1_hear 89 = .ok (.iload_n 2, 1) := by decide +kernel
theorem dX1_hear_90 : decode cX1_hear 90 = .ok (.invokevirtual 71, 3) := by decide +kernel
theorem dX1_hear_93 : decode cX1_hear 93 = .ok (.return_, 1) := by decide +kernel
abbrev cX1_said : ByteArray := prog_3_method_18_code
def yX1_said : MethodName := ⟨RX1, "said", "(I)I"⟩
theorem dX1_said_0 : decode cX1_said 0 = .ok (.iload_n 1, 1) := by decide +kernel
theorem dX1_said_1 : decode cX1_said 1 = .ok (.ifCond .lt 23, 3) := by decide +kernel
theorem dX1_said_4 : decode cX1_said 4 = .ok (.iload_n 1, 1) := by decide +kernel
theorem dX1_said_5 : decode cX1_said 5 = .ok (.aload_n 0, 1) := by decide +kernel
theorem dX1_said_6 : decode cX1_said 6 = .ok (.getfield 62, 3) := by decide +kernel
theorem dX1_said_9 : decode cX1_said 9 = .ok (.if_icmp .ge 15, 3) := by decide +kernel
theorem dX1_said_12 : decode cX1_said 12 = .ok (.aload_n 0, 1) := by decide +kernel
theorem dX1_said_13 : decode cX1_said 13 = .ok (.getfield 32, 3) := by decide +kernel
theorem dX1_said_16 : decode cX1_said 16 = .ok (.iload_n 1, 1) := by decide +kernel
theorem dX1_said_17 : decode cX1_said 17 = .ok (.iaload, 1) := by decide +kernel
theorem dX1_said_18 : decode cX1_said 18 = .ok (.bipush 100, 2) := by decide +kernel
theorem dX1_said_20 : decode cX1_said 20 = .ok (.irem, 1) := by decide +kernel
theorem dX1_said_21 : decode cX1_said 21 = .ok (.goto 4, 3) := by decide +kernel
theorem dX1_said_24 : decode cX1_said 24 = .ok (.iconst (-1), 1) := by decide +kernel
theorem dX1_said_25 : decode cX1_said 25 = .ok (.ireturn, 1) := by decide +kernel
abbrev cX1_claim : ByteArray := prog_3_method_19_code
def yX1_claim : MethodName := ⟨RX1, "claim", "(II)I"⟩
theorem dX1_claim_0 : decode cX1_claim 0 = .ok (.iload_n 1, 1) := by decide +kernel
theorem dX1_claim_1 : decode cX1_claim 1 = .ok (.iload_n 2, 1) := by decide +kernel
theorem dX1_claim_2 : decode cX1_claim 2 = .ok (.invokestatic 44, 3) := by decide +kernel
theorem dX1_claim_5 : decode cX1_claim 5 = .ok (.ifCond .eq 12, 3) := by decide +kernel
theorem dX1_claim_8 : decode cX1_claim 8 = .ok (.aload_n 0, 1) := by decide +kernel
theorem dX1_claim_9 : decode cX1_claim 9 = .ok (.iload_n 1, 1) := by decide +kernel
theorem dX1_claim_10 : decode cX1_claim 10 = .ok (.iload_n 2, 1) := by decide +kernel
theorem dX1_claim_11 : decode cX1_claim 11 = .ok (.invokevirtual 53, 3) := by decide +kernel
theorem dX1_claim_14 : decode cX1_claim 14 = .ok (.goto 4, 3) := by decide +kernel
theorem dX1_claim_17 : decode cX1_claim 17 = .ok (.iconst (-1), 1) := by decide +kernel
theorem dX1_claim_18 : decode cX1_claim 18 = .ok (.ireturn, 1) := by decide +kernel
abbrev cX1_kept : ByteArray := prog_3_method_20_code
def yX1_kept : MethodName := ⟨RX1, "kept", "(II)I"⟩
theorem dX1_kept_0 : decode cX1_kept 0 = .ok (.iload_n 1, 1) := by decide +kernel
theorem dX1_kept_1 : decode cX1_kept 1 = .ok (.iload_n 2, 1) := by decide +kernel
theorem dX1_kept_2 : decode cX1_kept 2 = .ok (.invokestatic 44, 3) := by decide +kernel
theorem dX1_kept_5 : decode cX1_kept 5 = .ok (.ifCond .eq 12, 3) := by decide +kernel
theorem dX1_kept_8 : decode cX1_kept 8 = .ok (.aload_n 0, 1) := by decide +kernel
theorem dX1_kept_9 : decode cX1_kept 9 = .ok (.iload_n 1, 1) := by decide +kernel
theorem dX1_kept_10 : decode cX1_kept 10 = .ok (.iload_n 2, 1) := by decide +kernel
theorem dX1_kept_11 : decode cX1_kept 11 = .ok (.invokevirtual 49, 3) := by decide +kernel
theorem dX1_kept_14 : decode cX1_kept 14 = .ok (.goto 4, 3) := by decide +kernel
theorem dX1_kept_17 : decode cX1_kept 17 = .ok (.iconst (-1), 1) := by decide +kernel
theorem dX1_kept_18 : decode cX1_kept 18 = .ok (.ireturn, 1) := by decide +kernel
abbrev cX1_lost : ByteArray := prog_3_method_21_code
def yX1_lost : MethodName := ⟨RX1, "lost", "(II)Z"⟩
theorem dX1_lost_0 : decode cX1_lost 0 = .ok (.iload_n 1, 1) := by decide +kernel
theorem dX1_lost_1 : decode cX1_lost 1 = .ok (.iload_n 2, 1) := by decide +kernel
theorem dX1_lost_2 : decode cX1_lost 2 = .ok (.invokestatic 44, 3) := by decide +kernel
theorem dX1_lost_5 : decode cX1_lost 5 = .ok (.ifCond .eq 16, 3) := by decide +kernel
theorem dX1_lost_8 : decode cX1_lost 8 = .ok (.aload_n 0, 1) := by decide +kernel
theorem dX1_lost_9 : decode cX1_lost 9 = .ok (.iload_n 1, 1) := by decide +kernel
theorem dX1_lost_10 : decode cX1_lost 10 = .ok (.iload_n 2, 1) := by decide +kernel
theorem dX1_lost_11 : decode cX1_lost 11 = .ok (.invokevirtual 59, 3) := by decide +kernel
theorem dX1_lost_14 : decode cX1_lost 14 = .ok (.ifCond .eq 7, 3) := by decide +kernel
theorem dX1_lost_17 : decode cX1_lost 17 = .ok (.iconst 1, 1) := by decide +kernel
theorem dX1_lost_18 : decode cX1_lost 18 = .ok (.goto 4, 3) := by decide +kernel
theorem dX1_lost_21 : decode cX1_lost 21 = .ok (.iconst 0, 1) := by decide +kernel
theorem dX1_lost_22 : decode cX1_lost 22 = .ok (.ireturn, 1) := by decide +kernel
abbrev cX1_sends : ByteArray := prog_3_method_22_code
def yX1_sends : MethodName := ⟨RX1, "sends", "(I)I"⟩
theorem dX1_sends_0 : decode cX1_sends 0 = .ok (.iconst 0, 1) := by decide +kernel
theorem dX1_sends_1 : decode cX1_sends 1 = .ok (.iload_n 1, 1) := by decide +kernel
theorem dX1_sends_2 : decode cX1_sends 2 = .ok (.invokestatic 44, 3) := by decide +kernel
theorem dX1_sends_5 : decode cX1_sends 5 = .ok (.ifCond .ne 5, 3) := by decide +kernel
theorem dX1_sends_8 : decode cX1_sends 8 = .ok (.iconst (-1), 1) := by decide +kernel
theorem dX1_sends_9 : decode cX1_sends 9 = .ok (.ireturn, 1) := by decide +kernel
theorem dX1_sends_10 : decode cX1_sends 10 = .ok (.iconst 0, 1) := by decide +kernel
theorem dX1_sends_11 : decode cX1_sends 11 = .ok (.istore_n 2, 1) := by decide +kernel
theorem dX1_sends_12 : decode cX1_sends 12 = .ok (.iconst 0, 1) := by decide +kernel
theorem dX1_sends_13 : decode cX1_sends 13 = .ok (.istore_n 3, 1) := by decide +kernel
theorem dX1_sends_14 : decode cX1_sends 14 = .ok (.iload_n 3, 1) := by decide +kernel
theorem dX1_sends_15 : decode cX1_sends 15 = .ok (.bipush 10, 2) := by decide +kernel
theorem dX1_sends_17 : decode cX1_sends 17 = .ok (.if_icmp .ge 24, 3) := by decide +kernel
theorem dX1_sends_20 : decode cX1_sends 20 = .ok (.aload_n 0, 1) := by decide +kernel
theorem dX1_sends_21 : decode cX1_sends 21 = .ok (.iload_n 3, 1) := by decide +kernel
theorem dX1_sends_22 : decode cX1_sends 22 = .ok (.iload_n 1, 1) := by decide +kernel
theorem dX1_sends_23 : decode cX1_sends 23 = .ok (.invokevirtual 68, 3) := by decide +kernel
theorem dX1_sends_26 : decode cX1_sends 26 = .ok (.ifCond .eq 9, 3) := by decide +kernel
theorem dX1_sends_29 : decode cX1_sends 29 = .ok (.iload_n 2, 1) := by decide +kernel
theorem dX1_sends_30 : decode cX1_sends 30 = .ok (.iconst 1, 1) := by decide +kernel
theorem dX1_sends_31 : decode cX1_sends 31 = .ok (.iload_n 3, 1) := by decide +kernel
theorem dX1_sends_32 : decode cX1_sends 32 = .ok (.ishl, 1) := by decide +kernel
theorem dX1_sends_33 : decode cX1_sends 33 = .ok (.ior, 1) := by decide +kernel
theorem dX1_sends_34 : decode cX1_sends 34 = .ok (.istore_n 2, 1) := by decide +kernel
theorem dX1_sends_35 : decode cX1_sends 35 = .ok (.iinc 3 1, 3) := by decide +kernel
theorem dX1_sends_38 : decode cX1_sends 38 = .ok (.goto (-24), 3) := by decide +kernel
theorem dX1_sends_41 : decode cX1_sends 41 = .ok (.iload_n 2, 1) := by decide +kernel
theorem dX1_sends_42 : decode cX1_sends 42 = .ok (.ireturn, 1) := by decide +kernel
abbrev cX1_look : ByteArray := prog_3_method_23_code
def yX1_look : MethodName := ⟨RX1, "look", "(I)I"⟩
theorem dX1_look_0 : decode cX1_look 0 = .ok (.iload_n 1, 1) := by decide +kernel
theorem dX1_look_1 : decode cX1_look 1 = .ok (.ifCond .ne 8, 3) := by decide +kernel
theorem dX1_look_4 : decode cX1_look 4 = .ok (.aload_n 0, 1) := by decide +kernel
theorem dX1_look_5 : decode cX1_look 5 = .ok (.getfield 39, 3) := by decide +kernel
theorem dX1_look_8 : decode cX1_look 8 = .ok (.ireturn, 1) := by decide +kernel
theorem dX1_look_9 : decode cX1_look 9 = .ok (.iload_n 1, 1) := by decide +kernel
theorem dX1_look_10 : decode cX1_look 10 = .ok (.iconst 3, 1) := by decide +kernel
theorem dX1_look_11 : decode cX1_look 11 = .ok (.if_icmp .ne 8, 3) := by decide +kernel
theorem dX1_look_14 : decode cX1_look 14 = .ok (.aload_n 0, 1) := by decide +kernel
theorem dX1_look_15 : decode cX1_look 15 = .ok (.getfield 65, 3) := by decide +kernel
theorem dX1_look_18 : decode cX1_look 18 = .ok (.ireturn, 1) := by decide +kernel
theorem dX1_look_19 : decode cX1_look 19 = .ok (.iload_n 1, 1) := by decide +kernel
theorem dX1_look_20 : decode cX1_look 20 = .ok (.iconst 1, 1) := by decide +kernel
theorem dX1_look_21 : decode cX1_look 21 = .ok (.if_icmp .eq 10, 3) := by decide +kernel
theorem dX1_look_24 : decode cX1_look 24 = .ok (.iload_n 1, 1) := by decide +kernel
theorem dX1_look_25 : decode cX1_look 25 = .ok (.iconst 2, 1) := by decide +kernel
theorem dX1_look_26 : decode cX1_look 26 = .ok (.if_icmp .eq 5, 3) := by decide +kernel
theorem dX1_look_29 : decode cX1_look 29 = .ok (.iconst (-1), 1) := by decide +kernel
theorem dX1_look_30 : decode cX1_look 30 = .ok (.ireturn, 1) := by decide +kernel
theorem dX1_look_31 : decode cX1_look 31 = .ok (.iconst 0, 1) := by decide +kernel
theorem dX1_look_32 : decode cX1_look 32 = .ok (.istore_n 2, 1) := by decide +kernel
theorem dX1_look_33 : decode cX1_look 33 = .ok (.iconst 0, 1) := by decide +kernel
theorem dX1_look_34 : decode cX1_look 34 = .ok (.istore_n 3, 1) := by decide +kernel
theorem dX1_look_35 : decode cX1_look 35 = .ok (.iload_n 3, 1) := by decide +kernel
theorem dX1_look_36 : decode cX1_look 36 = .ok (.bipush 10, 2) := by decide +kernel
theorem dX1_look_38 : decode cX1_look 38 = .ok (.if_icmp .ge 50, 3) := by decide +kernel
theorem dX1_look_41 : decode cX1_look 41 = .ok (.iload_n 1, 1) := by decide +kernel
theorem dX1_look_42 : decode cX1_look 42 = .ok (.iconst 1, 1) := by decide +kernel
theorem dX1_look_43 : decode cX1_look 43 = .ok (.if_icmp .ne 20, 3) := by decide +kernel
theorem dX1_look_46 : decode cX1_look 46 = .ok (.aload_n 0, 1) := by decide +kernel
theorem dX1_look_47 : decode cX1_look 47 = .ok (.getfield 7, 3) := by decide +kernel
theorem dX1_look_50 : decode cX1_look 50 = .ok (.iload_n 3, 1) := by decide +kernel
theorem dX1_look_51 : decode cX1_look 51 = .ok (.baload, 1) := by decide +kernel
theorem dX1_look_52 : decode cX1_look 52 = .ok (.ifCond .ne 7, 3) := by decide +kernel
theorem dX1_look_55 : decode cX1_look 55 = .ok (.iconst 1, 1) := by decide +kernel
theorem dX1_look_56 : decode cX1_look 56 = .ok (.goto 13, 3) := by decide +kernel
theorem dX1_look_59 : decode cX1_look 59 = .ok (.iconst 0, 1) := by decide +kernel
theorem dX1_look_60 : decode cX1_look 60 = .ok (.goto 9, 3) := by decide +kernel
theorem dX1_look_63 : decode cX1_look 63 = .ok (.aload_n 0, 1) := by decide +kernel
theorem dX1_look_64 : decode cX1_look 64 = .ok (.getfield 13, 3) := by decide +kernel
theorem dX1_look_67 : decode cX1_look 67 = .ok (.iload_n 3, 1) := by decide +kernel
theorem dX1_look_68 : decode cX1_look 68 = .ok (.baload, 1) := by decide +kernel
theorem dX1_look_69 : decode cX1_look 69 = .ok (.istore 4, 2) := by decide +kernel
theorem dX1_look_71 : decode cX1_look 71 = .ok (.iload 4, 2) := by decide +kernel
theorem dX1_look_73 : decode cX1_look 73 = .ok (.ifCond .eq 9, 3) := by decide +kernel
theorem dX1_look_76 : decode cX1_look 76 = .ok (.iload_n 2, 1) := by decide +kernel
theorem dX1_look_77 : decode cX1_look 77 = .ok (.iconst 1, 1) := by decide +kernel
theorem dX1_look_78 : decode cX1_look 78 = .ok (.iload_n 3, 1) := by decide +kernel
theorem dX1_look_79 : decode cX1_look 79 = .ok (.ishl, 1) := by decide +kernel
theorem dX1_look_80 : decode cX1_look 80 = .ok (.ior, 1) := by decide +kernel
theorem dX1_look_81 : decode cX1_look 81 = .ok (.istore_n 2, 1) := by decide +kernel
theorem dX1_look_82 : decode cX1_look 82 = .ok (.iinc 3 1, 3) := by decide +kernel
theorem dX1_look_85 : decode cX1_look 85 = .ok (.goto (-50), 3) := by decide +kernel
theorem dX1_look_88 : decode cX1_look 88 = .ok (.iload_n 2, 1) := by decide +kernel
theorem dX1_look_89 : decode cX1_look 89 = .ok (.ireturn, 1) := by decide +kernel
theorem q16 : (Jvm.Cond.initialized "ClaimBenchModel") ∈ lw_all := lw_g (lw_at lw_m1 2 rfl) rfl
theorem q153 : (Jvm.Cond.instantiable "ClaimBenchModel" (11 : Nat)) ∈ lw_all := lw_g (lw_at lw_m1 139 rfl) rfl
theorem q155 : (Jvm.Cond.instanceMethod ({ cls := "ClaimBenchModel", name := "<init>", desc := "()V" } : Jvm.MethodName)) ∈ lw_all := lw_g (lw_at lw_m1 141 rfl) rfl
theorem q156 : (Jvm.Cond.code ({ cls := "ClaimBenchModel", name := "<init>", desc := "()V" } : Jvm.MethodName) prog_3_method_1_code (2 : Nat) (Option.none : Option Jvm.ClassFile.FieldType)) ∈ lw_all := lw_g (lw_at lw_m1 142 rfl) rfl
theorem q157 : (Jvm.Cond.methodLink "ClaimBenchModel" (1 : Nat) ({ cls := "java/lang/Object", name := "<init>", desc := "()V" } : Jvm.MethodName)) ∈ lw_all := lw_g (lw_at lw_m1 143 rfl) rfl
theorem q158 : (Jvm.Cond.fieldLink "ClaimBenchModel" (39 : Nat) "ClaimBenchModel" "time" "I") ∈ lw_all := lw_g (lw_at lw_m1 144 rfl) rfl
theorem q159 : (Jvm.Cond.fieldLink "ClaimBenchModel" (65 : Nat) "ClaimBenchModel" "all" "I") ∈ lw_all := lw_g (lw_at lw_m1 145 rfl) rfl
theorem q160 : (Jvm.Cond.fieldLink "ClaimBenchModel" (7 : Nat) "ClaimBenchModel" "isGone" "[Z") ∈ lw_all := lw_g (lw_at lw_m1 146 rfl) rfl
theorem q161 : (Jvm.Cond.fieldLink "ClaimBenchModel" (13 : Nat) "ClaimBenchModel" "isDeaf" "[Z") ∈ lw_all := lw_g (lw_at lw_m1 147 rfl) rfl
theorem q162 : (Jvm.Cond.fieldLink "ClaimBenchModel" (16 : Nat) "ClaimBenchModel" "forwards" "[Z") ∈ lw_all := lw_g (lw_at lw_m1 148 rfl) rfl
theorem q163 : (Jvm.Cond.fieldLink "ClaimBenchModel" (19 : Nat) "ClaimBenchModel" "isStraight" "[Z") ∈ lw_all := lw_g (lw_at lw_m1 149 rfl) rfl
theorem q164 : (Jvm.Cond.fieldLink "ClaimBenchModel" (22 : Nat) "ClaimBenchModel" "distance" "[I") ∈ lw_all := lw_g (lw_at lw_m1 150 rfl) rfl
theorem q165 : (Jvm.Cond.fieldLink "ClaimBenchModel" (26 : Nat) "ClaimBenchModel" "keptClaim" "[I") ∈ lw_all := lw_g (lw_at lw_m1 151 rfl) rfl
theorem q166 : (Jvm.Cond.fieldLink "ClaimBenchModel" (29 : Nat) "ClaimBenchModel" "keptTill" "[I") ∈ lw_all := lw_g (lw_at lw_m1 152 rfl) rfl
theorem q167 : (Jvm.Cond.fieldLink "ClaimBenchModel" (32 : Nat) "ClaimBenchModel" "row" "[I") ∈ lw_all := lw_g (lw_at lw_m1 153 rfl) rfl
theorem q168 : (Jvm.Cond.fieldLink "ClaimBenchModel" (62 : Nat) "ClaimBenchModel" "many" "I") ∈ lw_all := lw_g (lw_at lw_m1 154 rfl) rfl
theorem q169 : (Jvm.Cond.lays "ClaimBenchModel" "ClaimBenchModel" "time" "I") ∈ lw_all := lw_g (lw_at lw_m1 155 rfl) rfl
theorem q170 : (Jvm.Cond.soleField "ClaimBenchModel" "time") ∈ lw_all := lw_g (lw_at lw_m1 156 rfl) rfl
theorem q171 : (Jvm.Cond.lays "ClaimBenchModel" "ClaimBenchModel" "all" "I") ∈ lw_all := lw_g (lw_at lw_m1 157 rfl) rfl
theorem q172 : (Jvm.Cond.soleField "ClaimBenchModel" "all") ∈ lw_all := lw_g (lw_at lw_m1 158 rfl) rfl
theorem q173 : (Jvm.Cond.laysFinal "ClaimBenchModel" "ClaimBenchModel" "isGone" "[Z") ∈ lw_all := lw_g (lw_at lw_m1 159 rfl) rfl
theorem q174 : (Jvm.Cond.soleField "ClaimBenchModel" "isGone") ∈ lw_all := lw_g (lw_at lw_m1 160 rfl) rfl
theorem q175 : (Jvm.Cond.laysFinal "ClaimBenchModel" "ClaimBenchModel" "isDeaf" "[Z") ∈ lw_all := lw_g (lw_at lw_m1 161 rfl) rfl
theorem q176 : (Jvm.Cond.soleField "ClaimBenchModel" "isDeaf") ∈ lw_all := lw_g (lw_at lw_m1 162 rfl) rfl
theorem q177 : (Jvm.Cond.laysFinal "ClaimBenchModel" "ClaimBenchModel" "forwards" "[Z") ∈ lw_all := lw_g (lw_at lw_m1 163 rfl) rfl
theorem q178 : (Jvm.Cond.soleField "ClaimBenchModel" "forwards") ∈ lw_all := lw_g (lw_at lw_m1 164 rfl) rfl
theorem q179 : (Jvm.Cond.laysFinal "ClaimBenchModel" "ClaimBenchModel" "isStraight" "[Z") ∈ lw_all := lw_g (lw_at lw_m1 165 rfl) rfl
theorem q180 : (Jvm.Cond.soleField "ClaimBenchModel" "isStraight") ∈ lw_all := lw_g (lw_at lw_m1 166 rfl) rfl
theorem q181 : (Jvm.Cond.laysFinal "ClaimBenchModel" "ClaimBenchModel" "distance" "[I") ∈ lw_all := lw_g (lw_at lw_m1 167 rfl) rfl
theorem q182 : (Jvm.Cond.soleField "ClaimBenchModel" "distance") ∈ lw_all := lw_g (lw_at lw_m1 168 rfl) rfl
theorem q183 : (Jvm.Cond.laysFinal "ClaimBenchModel" "ClaimBenchModel" "keptClaim" "[I") ∈ lw_all := lw_g (lw_at lw_m1 169 rfl) rfl
theorem q184 : (Jvm.Cond.soleField "ClaimBenchModel" "keptClaim") ∈ lw_all := lw_g (lw_at lw_m1 170 rfl) rfl
theorem q185 : (Jvm.Cond.laysFinal "ClaimBenchModel" "ClaimBenchModel" "keptTill" "[I") ∈ lw_all := lw_g (lw_at lw_m1 171 rfl) rfl
theorem q186 : (Jvm.Cond.soleField "ClaimBenchModel" "keptTill") ∈ lw_all := lw_g (lw_at lw_m1 172 rfl) rfl
theorem q187 : (Jvm.Cond.laysFinal "ClaimBenchModel" "ClaimBenchModel" "row" "[I") ∈ lw_all := lw_g (lw_at lw_m1 173 rfl) rfl
theorem q188 : (Jvm.Cond.soleField "ClaimBenchModel" "row") ∈ lw_all := lw_g (lw_at lw_m1 174 rfl) rfl
theorem q189 : (Jvm.Cond.lays "ClaimBenchModel" "ClaimBenchModel" "many" "I") ∈ lw_all := lw_g (lw_at lw_m1 175 rfl) rfl
theorem q190 : (Jvm.Cond.soleField "ClaimBenchModel" "many") ∈ lw_all := lw_g (lw_at lw_m1 176 rfl) rfl
theorem q191 : (Jvm.Cond.superclass "ClaimBenchModel" "java/lang/Object") ∈ lw_all := lw_g (lw_at lw_m1 177 rfl) rfl
theorem q193 : (Jvm.Cond.instanceMethod ({ cls := "ClaimBenchModel", name := "tick", desc := "(I)I" } : Jvm.MethodName)) ∈ lw_all := lw_g (lw_at lw_m1 179 rfl) rfl
theorem q194 : (Jvm.Cond.selects "ClaimBenchModel" ({ cls := "ClaimBenchModel", name := "tick", desc := "(I)I" } : Jvm.MethodName) ({ cls := "ClaimBenchModel", name := "tick", desc := "(I)I" } : Jvm.MethodName)) ∈ lw_all := lw_g (lw_at lw_m1 180 rfl) rfl
theorem q195 : (Jvm.Cond.code ({ cls := "ClaimBenchModel", name := "tick", desc := "(I)I" } : Jvm.MethodName) prog_3_method_5_code (2 : Nat) (Option.some Jvm.ClassFile.FieldType.int)) ∈ lw_all := lw_g (lw_at lw_m1 181 rfl) rfl
theorem q196 : (Jvm.Cond.constant "ClaimBenchModel" (43 : Nat) (100000 : Int32)) ∈ lw_all := lw_g (lw_at lw_m1 182 rfl) rfl
theorem q198 : (Jvm.Cond.instanceMethod ({ cls := "ClaimBenchModel", name := "forward", desc := "(IIZ)Z" } : Jvm.MethodName)) ∈ lw_all := lw_g (lw_at lw_m1 184 rfl) rfl
theorem q199 : (Jvm.Cond.selects "ClaimBenchModel" ({ cls := "ClaimBenchModel", name := "forward", desc := "(IIZ)Z" } : Jvm.MethodName) ({ cls := "ClaimBenchModel", name := "forward", desc := "(IIZ)Z" } : Jvm.MethodName)) ∈ lw_all := lw_g (lw_at lw_m1 185 rfl) rfl
theorem q200 : (Jvm.Cond.code ({ cls := "ClaimBenchModel", name := "forward", desc := "(IIZ)Z" } : Jvm.MethodName) prog_3_method_6_code (4 : Nat) (Option.some Jvm.ClassFile.FieldType.boolean)) ∈ lw_all := lw_g (lw_at lw_m1 186 rfl) rfl
theorem q201 : (Jvm.Cond.methodLink "ClaimBenchModel" (44 : Nat) ({ cls := "ClaimBenchModel", name := "isPair", desc := "(II)Z" } : Jvm.MethodName)) ∈ lw_all := lw_g (lw_at lw_m1 187 rfl) rfl
theorem q202 : (Jvm.Cond.static ({ cls := "ClaimBenchModel", name := "isPair", desc := "(II)Z" } : Jvm.MethodName)) ∈ lw_all := lw_g (lw_at lw_m1 188 rfl) rfl
theorem q203 : (Jvm.Cond.code ({ cls := "ClaimBenchModel", name := "isPair", desc := "(II)Z" } : Jvm.MethodName) prog_3_method_4_code (2 : Nat) (Option.some Jvm.ClassFile.FieldType.boolean)) ∈ lw_all := lw_g (lw_at lw_m1 189 rfl) rfl
theorem q204 : (Jvm.Cond.methodLink "ClaimBenchModel" (35 : Nat) ({ cls := "ClaimBenchModel", name := "isRouter", desc := "(I)Z" } : Jvm.MethodName)) ∈ lw_all := lw_g (lw_at lw_m1 190 rfl) rfl
theorem q205 : (Jvm.Cond.static ({ cls := "ClaimBenchModel", name := "isRouter", desc := "(I)Z" } : Jvm.MethodName)) ∈ lw_all := lw_g (lw_at lw_m1 191 rfl) rfl
theorem q206 : (Jvm.Cond.code ({ cls := "ClaimBenchModel", name := "isRouter", desc := "(I)Z" } : Jvm.MethodName) prog_3_method_3_code (1 : Nat) (Option.some Jvm.ClassFile.FieldType.boolean)) ∈ lw_all := lw_g (lw_at lw_m1 192 rfl) rfl
theorem q208 : (Jvm.Cond.instanceMethod ({ cls := "ClaimBenchModel", name := "place", desc := "(IIZI)Z" } : Jvm.MethodName)) ∈ lw_all := lw_g (lw_at lw_m1 194 rfl) rfl
theorem q209 : (Jvm.Cond.selects "ClaimBenchModel" ({ cls := "ClaimBenchModel", name := "place", desc := "(IIZI)Z" } : Jvm.MethodName) ({ cls := "ClaimBenchModel", name := "place", desc := "(IIZI)Z" } : Jvm.MethodName)) ∈ lw_all := lw_g (lw_at lw_m1 195 rfl) rfl
theorem q210 : (Jvm.Cond.code ({ cls := "ClaimBenchModel", name := "place", desc := "(IIZI)Z" } : Jvm.MethodName) prog_3_method_7_code (5 : Nat) (Option.some Jvm.ClassFile.FieldType.boolean)) ∈ lw_all := lw_g (lw_at lw_m1 196 rfl) rfl
theorem q212 : (Jvm.Cond.instanceMethod ({ cls := "ClaimBenchModel", name := "there", desc := "(IZ)Z" } : Jvm.MethodName)) ∈ lw_all := lw_g (lw_at lw_m1 198 rfl) rfl
theorem q213 : (Jvm.Cond.selects "ClaimBenchModel" ({ cls := "ClaimBenchModel", name := "there", desc := "(IZ)Z" } : Jvm.MethodName) ({ cls := "ClaimBenchModel", name := "there", desc := "(IZ)Z" } : Jvm.MethodName)) ∈ lw_all := lw_g (lw_at lw_m1 199 rfl) rfl
theorem q214 : (Jvm.Cond.code ({ cls := "ClaimBenchModel", name := "there", desc := "(IZ)Z" } : Jvm.MethodName) prog_3_method_8_code (4 : Nat) (Option.some Jvm.ClassFile.FieldType.boolean)) ∈ lw_all := lw_g (lw_at lw_m1 200 rfl) rfl
theorem q216 : (Jvm.Cond.instanceMethod ({ cls := "ClaimBenchModel", name := "deaf", desc := "(IZ)Z" } : Jvm.MethodName)) ∈ lw_all := lw_g (lw_at lw_m1 202 rfl) rfl
theorem q217 : (Jvm.Cond.selects "ClaimBenchModel" ({ cls := "ClaimBenchModel", name := "deaf", desc := "(IZ)Z" } : Jvm.MethodName) ({ cls := "ClaimBenchModel", name := "deaf", desc := "(IZ)Z" } : Jvm.MethodName)) ∈ lw_all := lw_g (lw_at lw_m1 203 rfl) rfl
theorem q218 : (Jvm.Cond.code ({ cls := "ClaimBenchModel", name := "deaf", desc := "(IZ)Z" } : Jvm.MethodName) prog_3_method_9_code (4 : Nat) (Option.some Jvm.ClassFile.FieldType.boolean)) ∈ lw_all := lw_g (lw_at lw_m1 204 rfl) rfl
theorem q220 : (Jvm.Cond.instanceMethod ({ cls := "ClaimBenchModel", name := "data", desc := "(II)I" } : Jvm.MethodName)) ∈ lw_all := lw_g (lw_at lw_m1 206 rfl) rfl
theorem q221 : (Jvm.Cond.selects "ClaimBenchModel" ({ cls := "ClaimBenchModel", name := "data", desc := "(II)I" } : Jvm.MethodName) ({ cls := "ClaimBenchModel", name := "data", desc := "(II)I" } : Jvm.MethodName)) ∈ lw_all := lw_g (lw_at lw_m1 207 rfl) rfl
theorem q222 : (Jvm.Cond.code ({ cls := "ClaimBenchModel", name := "data", desc := "(II)I" } : Jvm.MethodName) prog_3_method_17_code (5 : Nat) (Option.some Jvm.ClassFile.FieldType.int)) ∈ lw_all := lw_g (lw_at lw_m1 208 rfl) rfl
theorem q223 : (Jvm.Cond.methodLink "ClaimBenchModel" (68 : Nat) ({ cls := "ClaimBenchModel", name := "isSending", desc := "(II)Z" } : Jvm.MethodName)) ∈ lw_all := lw_g (lw_at lw_m1 209 rfl) rfl
theorem q224 : (Jvm.Cond.privateMethod ({ cls := "ClaimBenchModel", name := "isSending", desc := "(II)Z" } : Jvm.MethodName)) ∈ lw_tbl := lw_at lw_m1 210 rfl
theorem q225 : (Jvm.Cond.instanceMethod ({ cls := "ClaimBenchModel", name := "isSending", desc := "(II)Z" } : Jvm.MethodName)) ∈ lw_all := lw_g (lw_at lw_m1 211 rfl) rfl
theorem q226 : (Jvm.Cond.code ({ cls := "ClaimBenchModel", name := "isSending", desc := "(II)Z" } : Jvm.MethodName) prog_3_method_14_code (3 : Nat) (Option.some Jvm.ClassFile.FieldType.boolean)) ∈ lw_all := lw_g (lw_at lw_m1 212 rfl) rfl
theorem q227 : (Jvm.Cond.methodLink "ClaimBenchModel" (59 : Nat) ({ cls := "ClaimBenchModel", name := "isLost", desc := "(II)Z" } : Jvm.MethodName)) ∈ lw_all := lw_g (lw_at lw_m1 213 rfl) rfl
theorem q228 : (Jvm.Cond.privateMethod ({ cls := "ClaimBenchModel", name := "isLost", desc := "(II)Z" } : Jvm.MethodName)) ∈ lw_tbl := lw_at lw_m1 214 rfl
theorem q229 : (Jvm.Cond.instanceMethod ({ cls := "ClaimBenchModel", name := "isLost", desc := "(II)Z" } : Jvm.MethodName)) ∈ lw_all := lw_g (lw_at lw_m1 215 rfl) rfl
theorem q230 : (Jvm.Cond.code ({ cls := "ClaimBenchModel", name := "isLost", desc := "(II)Z" } : Jvm.MethodName) prog_3_method_13_code (4 : Nat) (Option.some Jvm.ClassFile.FieldType.boolean)) ∈ lw_all := lw_g (lw_at lw_m1 216 rfl) rfl
theorem q231 : (Jvm.Cond.methodLink "ClaimBenchModel" (49 : Nat) ({ cls := "ClaimBenchModel", name := "keeps", desc := "(II)I" } : Jvm.MethodName)) ∈ lw_all := lw_g (lw_at lw_m1 217 rfl) rfl
theorem q232 : (Jvm.Cond.privateMethod ({ cls := "ClaimBenchModel", name := "keeps", desc := "(II)I" } : Jvm.MethodName)) ∈ lw_tbl := lw_at lw_m1 218 rfl
theorem q233 : (Jvm.Cond.instanceMethod ({ cls := "ClaimBenchModel", name := "keeps", desc := "(II)I" } : Jvm.MethodName)) ∈ lw_all := lw_g (lw_at lw_m1 219 rfl) rfl
theorem q234 : (Jvm.Cond.code ({ cls := "ClaimBenchModel", name := "keeps", desc := "(II)I" } : Jvm.MethodName) prog_3_method_12_code (4 : Nat) (Option.some Jvm.ClassFile.FieldType.int)) ∈ lw_all := lw_g (lw_at lw_m1 220 rfl) rfl
theorem q235 : (Jvm.Cond.methodLink "ClaimBenchModel" (53 : Nat) ({ cls := "ClaimBenchModel", name := "own", desc := "(II)I" } : Jvm.MethodName)) ∈ lw_all := lw_g (lw_at lw_m1 221 rfl) rfl
theorem q236 : (Jvm.Cond.privateMethod ({ cls := "ClaimBenchModel", name := "own", desc := "(II)I" } : Jvm.MethodName)) ∈ lw_tbl := lw_at lw_m1 222 rfl
theorem q237 : (Jvm.Cond.instanceMethod ({ cls := "ClaimBenchModel", name := "own", desc := "(II)I" } : Jvm.MethodName)) ∈ lw_all := lw_g (lw_at lw_m1 223 rfl) rfl
theorem q238 : (Jvm.Cond.code ({ cls := "ClaimBenchModel", name := "own", desc := "(II)I" } : Jvm.MethodName) prog_3_method_10_code (3 : Nat) (Option.some Jvm.ClassFile.FieldType.int)) ∈ lw_all := lw_g (lw_at lw_m1 224 rfl) rfl
theorem q239 : (Jvm.Cond.constant "ClaimBenchModel" (48 : Nat) (1000000 : Int32)) ∈ lw_all := lw_g (lw_at lw_m1 225 rfl) rfl
theorem q240 : (Jvm.Cond.methodLink "ClaimBenchModel" (56 : Nat) ({ cls := "ClaimBenchModel", name := "isBetter", desc := "(II)Z" } : Jvm.MethodName)) ∈ lw_all := lw_g (lw_at lw_m1 226 rfl) rfl
theorem q241 : (Jvm.Cond.static ({ cls := "ClaimBenchModel", name := "isBetter", desc := "(II)Z" } : Jvm.MethodName)) ∈ lw_all := lw_g (lw_at lw_m1 227 rfl) rfl
theorem q242 : (Jvm.Cond.code ({ cls := "ClaimBenchModel", name := "isBetter", desc := "(II)Z" } : Jvm.MethodName) prog_3_method_11_code (2 : Nat) (Option.some Jvm.ClassFile.FieldType.boolean)) ∈ lw_all := lw_g (lw_at lw_m1 228 rfl) rfl
theorem q243 : (Jvm.Cond.methodLink "ClaimBenchModel" (71 : Nat) ({ cls := "ClaimBenchModel", name := "say", desc := "(II)V" } : Jvm.MethodName)) ∈ lw_all := lw_g (lw_at lw_m1 229 rfl) rfl
theorem q244 : (Jvm.Cond.privateMethod ({ cls := "ClaimBenchModel", name := "say", desc := "(II)V" } : Jvm.MethodName)) ∈ lw_tbl := lw_at lw_m1 230 rfl
theorem q245 : (Jvm.Cond.instanceMethod ({ cls := "ClaimBenchModel", name := "say", desc := "(II)V" } : Jvm.MethodName)) ∈ lw_all := lw_g (lw_at lw_m1 231 rfl) rfl
theorem q246 : (Jvm.Cond.code ({ cls := "ClaimBenchModel", name := "say", desc := "(II)V" } : Jvm.MethodName) prog_3_method_15_code (3 : Nat) (Option.none : Option Jvm.ClassFile.FieldType)) ∈ lw_all := lw_g (lw_at lw_m1 232 rfl) rfl
theorem q247 : (Jvm.Cond.methodLink "ClaimBenchModel" (75 : Nat) ({ cls := "ClaimBenchModel", name := "hear", desc := "(III)V" } : Jvm.MethodName)) ∈ lw_all := lw_g (lw_at lw_m1 233 rfl) rfl
theorem q248 : (Jvm.Cond.privateMethod ({ cls := "ClaimBenchModel", name := "hear", desc := "(III)V" } : Jvm.MethodName)) ∈ lw_tbl := lw_at lw_m1 234 rfl
theorem q249 : (Jvm.Cond.instanceMethod ({ cls := "ClaimBenchModel", name := "hear", desc := "(III)V" } : Jvm.MethodName)) ∈ lw_all := lw_g (lw_at lw_m1 235 rfl) rfl
theorem q250 : (Jvm.Cond.code ({ cls := "ClaimBenchModel", name := "hear", desc := "(III)V" } : Jvm.MethodName) prog_3_method_16_code (5 : Nat) (Option.none : Option Jvm.ClassFile.FieldType)) ∈ lw_all := lw_g (lw_at lw_m1 236 rfl) rfl
theorem q252 : (Jvm.Cond.instanceMethod ({ cls := "ClaimBenchModel", name := "said", desc := "(I)I" } : Jvm.MethodName)) ∈ lw_all := lw_g (lw_at lw_m1 238 rfl) rfl
theorem q253 : (Jvm.Cond.selects "ClaimBenchModel" ({ cls := "ClaimBenchModel", name := "said", desc := "(I)I" } : Jvm.MethodName) ({ cls := "ClaimBenchModel", name := "said", desc := "(I)I" } : Jvm.MethodName)) ∈ lw_all := lw_g (lw_at lw_m1 239 rfl) rfl
theorem q254 : (Jvm.Cond.code ({ cls := "ClaimBenchModel", name := "said", desc := "(I)I" } : Jvm.MethodName) prog_3_method_18_code (2 : Nat) (Option.some Jvm.ClassFile.FieldType.int)) ∈ lw_all := lw_g (lw_at lw_m2 0 rfl) rfl
theorem q256 : (Jvm.Cond.instanceMethod ({ cls := "ClaimBenchModel", name := "claim", desc := "(II)I" } : Jvm.MethodName)) ∈ lw_all := lw_g (lw_at lw_m2 2 rfl) rfl
theorem q257 : (Jvm.Cond.selects "ClaimBenchModel" ({ cls := "ClaimBenchModel", name := "claim", desc := "(II)I" } : Jvm.MethodName) ({ cls := "ClaimBenchModel", name := "claim", desc := "(II)I" } : Jvm.MethodName)) ∈ lw_all := lw_g (lw_at lw_m2 3 rfl) rfl
theorem q258 : (Jvm.Cond.code ({ cls := "ClaimBenchModel", name := "claim", desc := "(II)I" } : Jvm.MethodName) prog_3_method_19_code (3 : Nat) (Option.some Jvm.ClassFile.FieldType.int)) ∈ lw_all := lw_g (lw_at lw_m2 4 rfl) rfl
theorem q260 : (Jvm.Cond.instanceMethod ({ cls := "ClaimBenchModel", name := "kept", desc := "(II)I" } : Jvm.MethodName)) ∈ lw_all := lw_g (lw_at lw_m2 6 rfl) rfl
theorem q261 : (Jvm.Cond.selects "ClaimBenchModel" ({ cls := "ClaimBenchModel", name := "kept", desc := "(II)I" } : Jvm.MethodName) ({ cls := "ClaimBenchModel", name := "kept", desc := "(II)I" } : Jvm.MethodName)) ∈ lw_all := lw_g (lw_at lw_m2 7 rfl) rfl
theorem q262 : (Jvm.Cond.code ({ cls := "ClaimBenchModel", name := "kept", desc := "(II)I" } : Jvm.MethodName) prog_3_method_20_code (3 : Nat) (Option.some Jvm.ClassFile.FieldType.int)) ∈ lw_all := lw_g (lw_at lw_m2 8 rfl) rfl
theorem q264 : (Jvm.Cond.instanceMethod ({ cls := "ClaimBenchModel", name := "lost", desc := "(II)Z" } : Jvm.MethodName)) ∈ lw_all := lw_g (lw_at lw_m2 10 rfl) rfl
theorem q265 : (Jvm.Cond.selects "ClaimBenchModel" ({ cls := "ClaimBenchModel", name := "lost", desc := "(II)Z" } : Jvm.MethodName) ({ cls := "ClaimBenchModel", name := "lost", desc := "(II)Z" } : Jvm.MethodName)) ∈ lw_all := lw_g (lw_at lw_m2 11 rfl) rfl
theorem q266 : (Jvm.Cond.code ({ cls := "ClaimBenchModel", name := "lost", desc := "(II)Z" } : Jvm.MethodName) prog_3_method_21_code (3 : Nat) (Option.some Jvm.ClassFile.FieldType.boolean)) ∈ lw_all := lw_g (lw_at lw_m2 12 rfl) rfl
theorem q268 : (Jvm.Cond.instanceMethod ({ cls := "ClaimBenchModel", name := "sends", desc := "(I)I" } : Jvm.MethodName)) ∈ lw_all := lw_g (lw_at lw_m2 14 rfl) rfl
theorem q269 : (Jvm.Cond.selects "ClaimBenchModel" ({ cls := "ClaimBenchModel", name := "sends", desc := "(I)I" } : Jvm.MethodName) ({ cls := "ClaimBenchModel", name := "sends", desc := "(I)I" } : Jvm.MethodName)) ∈ lw_all := lw_g (lw_at lw_m2 15 rfl) rfl
theorem q270 : (Jvm.Cond.code ({ cls := "ClaimBenchModel", name := "sends", desc := "(I)I" } : Jvm.MethodName) prog_3_method_22_code (4 : Nat) (Option.some Jvm.ClassFile.FieldType.int)) ∈ lw_all := lw_g (lw_at lw_m2 16 rfl) rfl
theorem q272 : (Jvm.Cond.instanceMethod ({ cls := "ClaimBenchModel", name := "look", desc := "(I)I" } : Jvm.MethodName)) ∈ lw_all := lw_g (lw_at lw_m2 18 rfl) rfl
theorem q273 : (Jvm.Cond.selects "ClaimBenchModel" ({ cls := "ClaimBenchModel", name := "look", desc := "(I)I" } : Jvm.MethodName) ({ cls := "ClaimBenchModel", name := "look", desc := "(I)I" } : Jvm.MethodName)) ∈ lw_all := lw_g (lw_at lw_m2 19 rfl) rfl
theorem q274 : (Jvm.Cond.code ({ cls := "ClaimBenchModel", name := "look", desc := "(I)I" } : Jvm.MethodName) prog_3_method_23_code (5 : Nat) (Option.some Jvm.ClassFile.FieldType.int)) ∈ lw_all := lw_g (lw_at lw_m2 20 rfl) rfl
theorem in_X1 : ∀ w ∈ wsX10, w ∈ lw_all := lw_in wsX10 [169, 171, 173, 175, 177, 179, 181, 183, 185, 187, 189] (by decide +kernel) (by decide +kernel)
end
section
theorem q14 : (Jvm.Cond.initialized "ClaimBenchLaw") ∈ lw_all := lw_g (lw_at lw_m1 0 rfl) rfl
set_option maxRecDepth 100000
theorem q17 : (Jvm.Cond.classLink "ClaimBenchLaw" (7 : Nat) "ClaimBench") ∈ lw_all := lw_g (lw_at lw_m1 3 rfl) rfl
theorem q19 : (Jvm.Cond.methodLink "ClaimBenchLaw" (9 : Nat) ({ cls := "ClaimBench", name := "<init>", desc := "()V" } : Jvm.MethodName)) ∈ lw_all := lw_g (lw_at lw_m1 5 rfl) rfl
theorem q61 : (Jvm.Cond.methodLink "ClaimBenchLaw" (13 : Nat) ({ cls := "ClaimBench", name := "tick", desc := "(I)I" } : Jvm.MethodName)) ∈ lw_all := lw_g (lw_at lw_m1 47 rfl) rfl
theorem q66 : (Jvm.Cond.methodLink "ClaimBenchLaw" (18 : Nat) ({ cls := "ClaimBench", name := "forward", desc := "(IIZ)Z" } : Jvm.MethodName)) ∈ lw_all := lw_g (lw_at lw_m1 52 rfl) rfl
theorem q76 : (Jvm.Cond.methodLink "ClaimBenchLaw" (23 : Nat) ({ cls := "ClaimBench", name := "place", desc := "(IIZI)Z" } : Jvm.MethodName)) ∈ lw_all := lw_g (lw_at lw_m1 62 rfl) rfl
theorem q80 : (Jvm.Cond.methodLink "ClaimBenchLaw" (28 : Nat) ({ cls := "ClaimBench", name := "there", desc := "(IZ)Z" } : Jvm.MethodName)) ∈ lw_all := lw_g (lw_at lw_m1 66 rfl) rfl
theorem q88 : (Jvm.Cond.methodLink "ClaimBenchLaw" (33 : Nat) ({ cls := "ClaimBench", name := "deaf", desc := "(IZ)Z" } : Jvm.MethodName)) ∈ lw_all := lw_g (lw_at lw_m1 74 rfl) rfl
theorem q92 : (Jvm.Cond.methodLink "ClaimBenchLaw" (37 : Nat) ({ cls := "ClaimBench", name := "data", desc := "(II)I" } : Jvm.MethodName)) ∈ lw_all := lw_g (lw_at lw_m1 78 rfl) rfl
theorem q128 : (Jvm.Cond.methodLink "ClaimBenchLaw" (42 : Nat) ({ cls := "ClaimBench", name := "said", desc := "(I)I" } : Jvm.MethodName)) ∈ lw_all := lw_g (lw_at lw_m1 114 rfl) rfl
theorem q132 : (Jvm.Cond.methodLink "ClaimBenchLaw" (46 : Nat) ({ cls := "ClaimBench", name := "claim", desc := "(II)I" } : Jvm.MethodName)) ∈ lw_all := lw_g (lw_at lw_m1 118 rfl) rfl
theorem q136 : (Jvm.Cond.methodLink "ClaimBenchLaw" (50 : Nat) ({ cls := "ClaimBench", name := "kept", desc := "(II)I" } : Jvm.MethodName)) ∈ lw_all := lw_g (lw_at lw_m1 122 rfl) rfl
theorem q140 : (Jvm.Cond.methodLink "ClaimBenchLaw" (54 : Nat) ({ cls := "ClaimBench", name := "lost", desc := "(II)Z" } : Jvm.MethodName)) ∈ lw_all := lw_g (lw_at lw_m1 126 rfl) rfl
theorem q144 : (Jvm.Cond.methodLink "ClaimBenchLaw" (59 : Nat) ({ cls := "ClaimBench", name := "sends", desc := "(I)I" } : Jvm.MethodName)) ∈ lw_all := lw_g (lw_at lw_m1 130 rfl) rfl
theorem q148 : (Jvm.Cond.methodLink "ClaimBenchLaw" (63 : Nat) ({ cls := "ClaimBench", name := "look", desc := "(I)I" } : Jvm.MethodName)) ∈ lw_all := lw_g (lw_at lw_m1 134 rfl) rfl
theorem q152 : (Jvm.Cond.classLink "ClaimBenchLaw" (10 : Nat) "ClaimBenchModel") ∈ lw_all := lw_g (lw_at lw_m1 138 rfl) rfl
theorem q154 : (Jvm.Cond.methodLink "ClaimBenchLaw" (12 : Nat) ({ cls := "ClaimBenchModel", name := "<init>", desc := "()V" } : Jvm.MethodName)) ∈ lw_all := lw_g (lw_at lw_m1 140 rfl) rfl
theorem q192 : (Jvm.Cond.methodLink "ClaimBenchLaw" (17 : Nat) ({ cls := "ClaimBenchModel", name := "tick", desc := "(I)I" } : Jvm.MethodName)) ∈ lw_all := lw_g (lw_at lw_m1 178 rfl) rfl
theorem q197 : (Jvm.Cond.methodLink "ClaimBenchLaw" (22 : Nat) ({ cls := "ClaimBenchModel", name := "forward", desc := "(IIZ)Z" } : Jvm.MethodName)) ∈ lw_all := lw_g (lw_at lw_m1 183 rfl) rfl
theorem q207 : (Jvm.Cond.methodLink "ClaimBenchLaw" (27 : Nat) ({ cls := "ClaimBenchModel", name := "place", desc := "(IIZI)Z" } : Jvm.MethodName)) ∈ lw_all := lw_g (lw_at lw_m1 193 rfl) rfl
theorem q211 : (Jvm.Cond.methodLink "ClaimBenchLaw" (32 : Nat) ({ cls := "ClaimBenchModel", name := "there", desc := "(IZ)Z" } : Jvm.MethodName)) ∈ lw_all := lw_g (lw_at lw_m1 197 rfl) rfl
theorem q215 : (Jvm.Cond.methodLink "ClaimBenchLaw" (36 : Nat) ({ cls := "ClaimBenchModel", name := "deaf", desc := "(IZ)Z" } : Jvm.MethodName)) ∈ lw_all := lw_g (lw_at lw_m1 201 rfl) rfl
theorem q219 : (Jvm.Cond.methodLink "ClaimBenchLaw" (41 : Nat) ({ cls := "ClaimBenchModel", name := "data", desc := "(II)I" } : Jvm.MethodName)) ∈ lw_all := lw_g (lw_at lw_m1 205 rfl) rfl
theorem q251 : (Jvm.Cond.methodLink "ClaimBenchLaw" (45 : Nat) ({ cls := "ClaimBenchModel", name := "said", desc := "(I)I" } : Jvm.MethodName)) ∈ lw_all := lw_g (lw_at lw_m1 237 rfl) rfl
theorem q255 : (Jvm.Cond.methodLink "ClaimBenchLaw" (49 : Nat) ({ cls := "ClaimBenchModel", name := "claim", desc := "(II)I" } : Jvm.MethodName)) ∈ lw_all := lw_g (lw_at lw_m2 1 rfl) rfl
theorem q259 : (Jvm.Cond.methodLink "ClaimBenchLaw" (53 : Nat) ({ cls := "ClaimBenchModel", name := "kept", desc := "(II)I" } : Jvm.MethodName)) ∈ lw_all := lw_g (lw_at lw_m2 5 rfl) rfl
theorem q263 : (Jvm.Cond.methodLink "ClaimBenchLaw" (58 : Nat) ({ cls := "ClaimBenchModel", name := "lost", desc := "(II)Z" } : Jvm.MethodName)) ∈ lw_all := lw_g (lw_at lw_m2 9 rfl) rfl
theorem q267 : (Jvm.Cond.methodLink "ClaimBenchLaw" (62 : Nat) ({ cls := "ClaimBenchModel", name := "sends", desc := "(I)I" } : Jvm.MethodName)) ∈ lw_all := lw_g (lw_at lw_m2 13 rfl) rfl
theorem q271 : (Jvm.Cond.methodLink "ClaimBenchLaw" (66 : Nat) ({ cls := "ClaimBenchModel", name := "look", desc := "(I)I" } : Jvm.MethodName)) ∈ lw_all := lw_g (lw_at lw_m2 17 rfl) rfl
/-! the law's own entry -/
set_option maxRecDepth 100000
abbrev cL_law : ByteArray := code
theorem dL_law_0 : decode cL_law 0 = .ok (.new 7, 3) := by decide +kernel
theorem dL_law_3 : decode cL_law 3 = .ok (.dup, 1) := by decide +kernel
theorem dL_law_4 : decode cL_law 4 = .ok (.invokespecial 9, 3) := by decide +kernel
theorem dL_law_7 : decode cL_law 7 = .ok (.astore_n 1, 1) := by decide +kernel
theorem dL_law_8 : decode cL_law 8 = .ok (.new 10, 3) := by decide +kernel
theorem dL_law_11 : decode cL_law 11 = .ok (.dup, 1) := by decide +kernel
theorem dL_law_12 : decode cL_law 12 = .ok (.invokespecial 12, 3) := by decide +kernel
theorem dL_law_15 : decode cL_law 15 = .ok (.astore_n 2, 1) := by decide +kernel
theorem dL_law_16 : decode cL_law 16 = .ok (.iconst 0, 1) := by decide +kernel
theorem dL_law_17 : decode cL_law 17 = .ok (.istore_n 3, 1) := by decide +kernel
theorem dL_law_18 : decode cL_law 18 = .ok (.iload_n 3, 1) := by decide +kernel
theorem dL_law_19 : decode cL_law 19 = .ok (.aload_n 0, 1) := by decide +kernel
theorem dL_law_20 : decode cL_law 20 = .ok (.arraylength, 1) := by decide +kernel
theorem dL_law_21 : decode cL_law 21 = .ok (.iconst 5, 1) := by decide +kernel
theorem dL_law_22 : decode cL_law 22 = .ok (.isub, 1) := by decide +kernel
theorem dL_law_23 : decode cL_law 23 = .ok (.if_icmp .gt 529, 3) := by decide +kernel
theorem dL_law_26 : decode cL_law 26 = .ok (.aload_n 0, 1) := by decide +kernel
theorem dL_law_27 : decode cL_law 27 = .ok (.iload_n 3, 1) := by decide +kernel
theorem dL_law_28 : decode cL_law 28 = .ok (.iaload, 1) := by decide +kernel
theorem dL_law_29 : decode cL_law 29 = .ok (.bipush 15, 2) := by decide +kernel
theorem dL_law_31 : decode cL_law 31 = .ok (.iand, 1) := by decide +kernel
theorem dL_law_32 : decode cL_law 32 = .ok (.tableswitch 514 0 11 #[64, 87, 146, 215, 264, 313, 346, 369, 402, 435, 468, 491], 64) := by decide +kernel
theorem dL_law_96 : decode cL_law 96 = .ok (.aload_n 1, 1) := by decide +kernel
theorem dL_law_97 : decode cL_law 97 = .ok (.aload_n 0, 1) := by decide +kernel
theorem dL_law_98 : decode cL_law 98 = .ok (.iload_n 3, 1) := by decide +kernel
theorem dL_law_99 : decode cL_law 99 = .ok (.iconst 1, 1) := by decide +kernel
theorem dL_law_100 : decode cL_law 100 = .ok (.iadd, 1) := by decide +kernel
theorem dL_law_101 : decode cL_law 101 = .ok (.iaload, 1) := by decide +kernel
theorem dL_law_102 : decode cL_law 102 = .ok (.invokevirtual 13, 3) := by decide +kernel
theorem dL_law_105 : decode cL_law 105 = .ok (.aload_n 2, 1) := by decide +kernel
theorem dL_law_106 : decode cL_law 106 = .ok (.aload_n 0, 1) := by decide +kernel
theorem dL_law_107 : decode cL_law 107 = .ok (.iload_n 3, 1) := by decide +kernel
theorem dL_law_108 : decode cL_law 108 = .ok (.iconst 1, 1) := by decide +kernel
theorem dL_law_109 : decode cL_law 109 = .ok (.iadd, 1) := by decide +kernel
theorem dL_law_110 : decode cL_law 110 = .ok (.iaload, 1) := by decide +kernel
theorem dL_law_111 : decode cL_law 111 = .ok (.invokevirtual 17, 3) := by decide +kernel
theorem dL_law_114 : decode cL_law 114 = .ok (.if_icmp .eq 432, 3) := by decide +kernel
theorem dL_law_117 : decode cL_law 117 = .ok (.iconst 0, 1) := by decide +kernel
theorem dL_law_118 : decode cL_law 118 = .ok (.ireturn, 1) := by decide +kernel
theorem dL_law_119 : decode cL_law 119 = .ok (.aload_n 1, 1) := by decide +kernel
theorem dL_law_120 : decode cL_law 120 = .ok (.aload_n 0, 1) := by decide +kernel
theorem dL_law_121 : decode cL_law 121 = .ok (.iload_n 3, 1) := by decide +kernel
theorem dL_law_122 : decode cL_law 122 = .ok (.iconst 1, 1) := by decide +kernel
theorem dL_law_123 : decode cL_law 123 = .ok (.iadd, 1) := by decide +kernel
theorem dL_law_124 : decode cL_law 124 = .ok (.iaload, 1) := by decide +kernel
theorem dL_law_125 : decode cL_law 125 = .ok (.aload_n 0, 1) := by decide +kernel
theorem dL_law_126 : decode cL_law 126 = .ok (.iload_n 3, 1) := by decide +kernel
theorem dL_law_127 : decode cL_law 127 = .ok (.iconst 2, 1) := by decide +kernel
theorem dL_law_128 : decode cL_law 128 = .ok (.iadd, 1) := by decide +kernel
theorem dL_law_129 : decode cL_law 129 = .ok (.iaload, 1) := by decide +kernel
theorem dL_law_130 : decode cL_law 130 = .ok (.aload_n 0, 1) := by decide +kernel
theorem dL_law_131 : decode cL_law 131 = .ok (.iload_n 3, 1) := by decide +kernel
theorem dL_law_132 : decode cL_law 132 = .ok (.iconst 3, 1) := by decide +kernel
theorem dL_law_133 : decode cL_law 133 = .ok (.iadd, 1) := by decide +kernel
theorem dL_law_134 : decode cL_law 134 = .ok (.iaload, 1) := by decide +kernel
theorem dL_law_135 : decode cL_law 135 = .ok (.ifCond .eq 7, 3) := by decide +kernel
theorem dL_law_138 : decode cL_law 138 = .ok (.iconst 1, 1) := by decide +kernel
theorem dL_law_139 : decode cL_law 139 = .ok (.goto 4, 3) := by decide +kernel
theorem dL_law_142 : decode cL_law 142 = .ok (.iconst 0, 1) := by decide +kernel
theorem dL_law_143 : decode cL_law 143 = .ok (.invokevirtual 18, 3) := by decide +kernel
theorem dL_law_146 : decode cL_law 146 = .ok (.aload_n 2, 1) := by decide +kernel
theorem dL_law_147 : decode cL_law 147 = .ok (.aload_n 0, 1) := by decide +kernel
theorem dL_law_148 : decode cL_law 148 = .ok (.iload_n 3, 1) := by decide +kernel
theorem dL_law_149 : decode cL_law 149 = .ok (.iconst 1, 1) := by decide +kernel
theorem dL_law_150 : decode cL_law 150 = .ok (.iadd, 1) := by decide +kernel
theorem dL_law_151 : decode cL_law 151 = .ok (.iaload, 1) := by decide +kernel
theorem dL_law_152 : decode cL_law 152 = .ok (.aload_n 0, 1) := by decide +kernel
theorem dL_law_153 : decode cL_law 153 = .ok (.iload_n 3, 1) := by decide +kernel
theorem dL_law_154 : decode cL_law 154 = .ok (.iconst 2, 1) := by decide +kernel
theorem dL_law_155 : decode cL_law 155 = .ok (.iadd, 1) := by decide +kernel
theorem dL_law_156 : decode cL_law 156 = .ok (.iaload, 1) := by decide +kernel
theorem dL_law_157 : decode cL_law 157 = .ok (.aload_n 0, 1) := by decide +kernel
theorem dL_law_158 : decode cL_law 158 = .ok (.iload_n 3, 1) := by decide +kernel
theorem dL_law_159 : decode cL_law 159 = .ok (.iconst 3, 1) := by decide +kernel
theorem dL_law_160 : decode cL_law 160 = .ok (.iadd, 1) := by decide +kernel
theorem dL_law_161 : decode cL_law 161 = .ok (.iaload, 1) := by decide +kernel
theorem dL_law_162 : decode cL_law 162 = .ok (.ifCond .eq 7, 3) := by decide +kernel
theorem dL_law_165 : decode cL_law 165 = .ok (.iconst 1, 1) := by decide +kernel
theorem dL_law_166 : decode cL_law 166 = .ok (.goto 4, 3) := by decide +kernel
theorem dL_law_169 : decode cL_law 169 = .ok (.iconst 0, 1) := by decide +kernel
theorem dL_law_170 : decode cL_law 170 = .ok (.invokevirtual 22, 3) := by decide +kernel
theorem dL_law_173 : decode cL_law 173 = .ok (.if_icmp .eq 373, 3) := by decide +kernel
theorem dL_law_176 : decode cL_law 176 = .ok (.iconst 0, 1) := by decide +kernel
theorem dL_law_177 : decode cL_law 177 = .ok (.ireturn, 1) := by decide +kernel
theorem dL_law_178 : decode cL_law 178 = .ok (.aload_n 1, 1) := by decide +kernel
theorem dL_law_179 : decode cL_law 179 = .ok (.aload_n 0, 1) := by decide +kernel
theorem dL_law_180 : decode cL_law 180 = .ok (.iload_n 3, 1) := by decide +kernel
theorem dL_law_181 : decode cL_law 181 = .ok (.iconst 1, 1) := by decide +kernel
theorem dL_law_182 : decode cL_law 182 = .ok (.iadd, 1) := by decide +kernel
theorem dL_law_183 : decode cL_law 183 = .ok (.iaload, 1) := by decide +kernel
theorem dL_law_184 : decode cL_law 184 = .ok (.aload_n 0, 1) := by decide +kernel
theorem dL_law_185 : decode cL_law 185 = .ok (.iload_n 3, 1) := by decide +kernel
theorem dL_law_186 : decode cL_law 186 = .ok (.iconst 2, 1) := by decide +kernel
theorem dL_law_187 : decode cL_law 187 = .ok (.iadd, 1) := by decide +kernel
theorem dL_law_188 : decode cL_law 188 = .ok (.iaload, 1) := by decide +kernel
theorem dL_law_189 : decode cL_law 189 = .ok (.aload_n 0, 1) := by decide +kernel
theorem dL_law_190 : decode cL_law 190 = .ok (.iload_n 3, 1) := by decide +kernel
theorem dL_law_191 : decode cL_law 191 = .ok (.iconst 3, 1) := by decide +kernel
theorem dL_law_192 : decode cL_law 192 = .ok (.iadd, 1) := by decide +kernel
theorem dL_law_193 : decode cL_law 193 = .ok (.iaload, 1) := by decide +kernel
theorem dL_law_194 : decode cL_law 194 = .ok (.ifCond .eq 7, 3) := by decide +kernel
theorem dL_law_197 : decode cL_law 197 = .ok (.iconst 1, 1) := by decide +kernel
theorem dL_law_198 : decode cL_law 198 = .ok (.goto 4, 3) := by decide +kernel
theorem dL_law_201 : decode cL_law 201 = .ok (.iconst 0, 1) := by decide +kernel
theorem dL_law_202 : decode cL_law 202 = .ok (.aload_n 0, 1) := by decide +kernel
theorem dL_law_203 : decode cL_law 203 = .ok (.iload_n 3, 1) := by decide +kernel
theorem dL_law_204 : decode cL_law 204 = .ok (.iconst 4, 1) := by decide +kernel
theorem dL_law_205 : decode cL_law 205 = .ok (.iadd, 1) := by decide +kernel
theorem dL_law_206 : decode cL_law 206 = .ok (.iaload, 1) := by decide +kernel
theorem dL_law_207 : decode cL_law 207 = .ok (.invokevirtual 23, 3) := by decide +kernel
theorem dL_law_210 : decode cL_law 210 = .ok (.aload_n 2, 1) := by decide +kernel
theorem dL_law_211 : decode cL_law 211 = .ok (.aload_n 0, 1) := by decide +kernel
theorem dL_law_212 : decode cL_law 212 = .ok (.iload_n 3, 1) := by decide +kernel
theorem dL_law_213 : decode cL_law 213 = .ok (.iconst 1, 1) := by decide +kernel
theorem dL_law_214 : decode cL_law 214 = .ok (.iadd, 1) := by decide +kernel
theorem dL_law_215 : decode cL_law 215 = .ok (.iaload, 1) := by decide +kernel
theorem dL_law_216 : decode cL_law 216 = .ok (.aload_n 0, 1) := by decide +kernel
theorem dL_law_217 : decode cL_law 217 = .ok (.iload_n 3, 1) := by decide +kernel
theorem dL_law_218 : decode cL_law 218 = .ok (.iconst 2, 1) := by decide +kernel
theorem dL_law_219 : decode cL_law 219 = .ok (.iadd, 1) := by decide +kernel
theorem dL_law_220 : decode cL_law 220 = .ok (.iaload, 1) := by decide +kernel
theorem dL_law_221 : decode cL_law 221 = .ok (.aload_n 0, 1) := by decide +kernel
theorem dL_law_222 : decode cL_law 222 = .ok (.iload_n 3, 1) := by decide +kernel
theorem dL_law_223 : decode cL_law 223 = .ok (.iconst 3, 1) := by decide +kernel
theorem dL_law_224 : decode cL_law 224 = .ok (.iadd, 1) := by decide +kernel
theorem dL_law_225 : decode cL_law 225 = .ok (.iaload, 1) := by decide +kernel
theorem dL_law_226 : decode cL_law 226 = .ok (.ifCond .eq 7, 3) := by decide +kernel
theorem dL_law_229 : decode cL_law 229 = .ok (.iconst 1, 1) := by decide +kernel
theorem dL_law_230 : decode cL_law 230 = .ok (.goto 4, 3) := by decide +kernel
theorem dL_law_233 : decode cL_law 233 = .ok (.iconst 0, 1) := by decide +kernel
theorem dL_law_234 : decode cL_law 234 = .ok (.aload_n 0, 1) := by decide +kernel
theorem dL_law_235 : decode cL_law 235 = .ok (.iload_n 3, 1) := by decide +kernel
theorem dL_law_236 : decode cL_law 236 = .ok (.iconst 4, 1) := by decide +kernel
theorem dL_law_237 : decode cL_law 237 = .ok (.iadd, 1) := by decide +kernel
theorem dL_law_238 : decode cL_law 238 = .ok (.iaload, 1) := by decide +kernel
theorem dL_law_239 : decode cL_law 239 = .ok (.invokevirtual 27, 3) := by decide +kernel
theorem dL_law_242 : decode cL_law 242 = .ok (.if_icmp .eq 304, 3) := by decide +kernel
theorem dL_law_245 : decode cL_law 245 = .ok (.iconst 0, 1) := by decide +kernel
theorem dL_law_246 : decode cL_law 246 = .ok (.ireturn, 1) := by decide +kernel
theorem dL_law_247 : decode cL_law 247 = .ok (.aload_n 1, 1) := by decide +kernel
theorem dL_law_248 : decode cL_law 248 = .ok (.aload_n 0, 1) := by decide +kernel
theorem dL_law_249 : decode cL_law 249 = .ok (.iload_n 3, 1) := by decide +kernel
theorem dL_law_250 : decode cL_law 250 = .ok (.iconst 1, 1) := by decide +kernel
theorem dL_law_251 : decode cL_law 251 = .ok (.iadd, 1) := by decide +kernel
theorem dL_law_252 : decode cL_law 252 = .ok (.iaload, 1) := by decide +kernel
theorem dL_law_253 : decode cL_law 253 = .ok (.aload_n 0, 1) := by decide +kernel
theorem dL_law_254 : decode cL_law 254 = .ok (.iload_n 3, 1) := by decide +kernel
theorem dL_law_255 : decode cL_law 255 = .ok (.iconst 2, 1) := by decide +kernel
theorem dL_law_256 : decode cL_law 256 = .ok (.iadd, 1) := by decide +kernel
theorem dL_law_257 : decode cL_law 257 = .ok (.iaload, 1) := by decide +kernel
theorem dL_law_258 : decode cL_law 258 = .ok (.ifCond .eq 7, 3) := by decide +kernel
theorem dL_law_261 : decode cL_law 261 = .ok (.iconst 1, 1) := by decide +kernel
theorem dL_law_262 : decode cL_law 262 = .ok (.goto 4, 3) := by decide +kernel
theorem dL_law_265 : decode cL_law 265 = .ok (.iconst 0, 1) := by decide +kernel
theorem dL_law_266 : decode cL_law 266 = .ok (.invokevirtual 28, 3) := by decide +kernel
theorem dL_law_269 : decode cL_law 269 = .ok (.aload_n 2, 1) := by decide +kernel
theorem dL_law_270 : decode cL_law 270 = .ok (.aload_n 0, 1) := by decide +kernel
theorem dL_law_271 : decode cL_law 271 = .ok (.iload_n 3, 1) := by decide +kernel
theorem dL_law_272 : decode cL_law 272 = .ok (.iconst 1, 1) := by decide +kernel
theorem dL_law_273 : decode cL_law 273 = .ok (.iadd, 1) := by decide +kernel
theorem dL_law_274 : decode cL_law 274 = .ok (.iaload, 1) := by decide +kernel
theorem dL_law_275 : decode cL_law 275 = .ok (.aload_n 0, 1) := by decide +kernel
theorem dL_law_276 : decode cL_law 276 = .ok (.iload_n 3, 1) := by decide +kernel
theorem dL_law_277 : decode cL_law 277 = .ok (.iconst 2, 1) := by decide +kernel
theorem dL_law_278 : decode cL_law 278 = .ok (.iadd, 1) := by decide +kernel
theorem dL_law_279 : decode cL_law 279 = .ok (.iaload, 1) := by decide +kernel
theorem dL_law_280 : decode cL_law 280 = .ok (.ifCond .eq 7, 3) := by decide +kernel
theorem dL_law_283 : decode cL_law 283 = .ok (.iconst 1, 1) := by decide +kernel
theorem dL_law_284 : decode cL_law 284 = .ok (.goto 4, 3) := by decide +kernel
theorem dL_law_287 : decode cL_law 287 = .ok (.iconst 0, 1) := by decide +kernel
theorem dL_law_288 : decode cL_law 288 = .ok (.invokevirtual 32, 3) := by decide +kernel
theorem dL_law_291 : decode cL_law 291 = .ok (.if_icmp .eq 255, 3) := by decide +kernel
theorem dL_law_294 : decode cL_law 294 = .ok (.iconst 0, 1) := by decide +kernel
theorem dL_law_295 : decode cL_law 295 = .ok (.ireturn, 1) := by decide +kernel
theorem dL_law_296 : decode cL_law 296 = .ok (.aload_n 1, 1) := by decide +kernel
theorem dL_law_297 : decode cL_law 297 = .ok (.aload_n 0, 1) := by decide +kernel
theorem dL_law_298 : decode cL_law 298 = .ok (.iload_n 3, 1) := by decide +kernel
theorem dL_law_299 : decode cL_law 299 = .ok (.iconst 1, 1) := by decide +kernel
theorem dL_law_300 : decode cL_law 300 = .ok (.iadd, 1) := by decide +kernel
theorem dL_law_301 : decode cL_law 301 = .ok (.iaload, 1) := by decide +kernel
theorem dL_law_302 : decode cL_law 302 = .ok (.aload_n 0, 1) := by decide +kernel
theorem dL_law_303 : decode cL_law 303 = .ok (.iload_n 3, 1) := by decide +kernel
theorem dL_law_304 : decode cL_law 304 = .ok (.iconst 2, 1) := by decide +kernel
theorem dL_law_305 : decode cL_law 305 = .ok (.iadd, 1) := by decide +kernel
theorem dL_law_306 : decode cL_law 306 = .ok (.iaload, 1) := by decide +kernel
theorem dL_law_307 : decode cL_law 307 = .ok (.ifCond .eq 7, 3) := by decide +kernel
theorem dL_law_310 : decode cL_law 310 = .ok (.iconst 1, 1) := by decide +kernel
theorem dL_law_311 : decode cL_law 311 = .ok (.goto 4, 3) := by decide +kernel
theorem dL_law_314 : decode cL_law 314 = .ok (.iconst 0, 1) := by decide +kernel
theorem dL_law_315 : decode cL_law 315 = .ok (.invokevirtual 33, 3) := by decide +kernel
theorem dL_law_318 : decode cL_law 318 = .ok (.aload_n 2, 1) := by decide +kernel
theorem dL_law_319 : decode cL_law 319 = .ok (.aload_n 0, 1) := by decide +kernel
theorem dL_law_320 : decode cL_law 320 = .ok (.iload_n 3, 1) := by decide +kernel
theorem dL_law_321 : decode cL_law 321 = .ok (.iconst 1, 1) := by decide +kernel
theorem dL_law_322 : decode cL_law 322 = .ok (.iadd, 1) := by decide +kernel
theorem dL_law_323 : decode cL_law 323 = .ok (.iaload, 1) := by decide +kernel
theorem dL_law_324 : decode cL_law 324 = .ok (.aload_n 0, 1) := by decide +kernel
theorem dL_law_325 : decode cL_law 325 = .ok (.iload_n 3, 1) := by decide +kernel
theorem dL_law_326 : decode cL_law 326 = .ok (.iconst 2, 1) := by decide +kernel
theorem dL_law_327 : decode cL_law 327 = .ok (.iadd, 1) := by decide +kernel
theorem dL_law_328 : decode cL_law 328 = .ok (.iaload, 1) := by decide +kernel
theorem dL_law_329 : decode cL_law 329 = .ok (.ifCond .eq 7, 3) := by decide +kernel
theorem dL_law_332 : decode cL_law 332 = .ok (.iconst 1, 1) := by decide +kernel
theorem dL_law_333 : decode cL_law 333 = .ok (.goto 4, 3) := by decide +kernel
theorem dL_law_336 : decode cL_law 336 = .ok (.iconst 0, 1) := by decide +kernel
theorem dL_law_337 : decode cL_law 337 = .ok (.invokevirtual 36, 3) := by decide +kernel
theorem dL_law_340 : decode cL_law 340 = .ok (.if_icmp .eq 206, 3) := by decide +kernel
theorem dL_law_343 : decode cL_law 343 = .ok (.iconst 0, 1) := by decide +kernel
theorem dL_law_344 : decode cL_law 344 = .ok (.ireturn, 1) := by decide +kernel
theorem dL_law_345 : decode cL_law 345 = .ok (.aload_n 1, 1) := by decide +kernel
theorem dL_law_346 : decode cL_law 346 = .ok (.aload_n 0, 1) := by decide +kernel
theorem dL_law_347 : decode cL_law 347 = .ok (.iload_n 3, 1) := by decide +kernel
theorem dL_law_348 : decode cL_law 348 = .ok (.iconst 1, 1) := by decide +kernel
theorem dL_law_349 : decode cL_law 349 = .ok (.iadd, 1) := by decide +kernel
theorem dL_law_350 : decode cL_law 350 = .ok (.iaload, 1) := by decide +kernel
theorem dL_law_351 : decode cL_law 351 = .ok (.aload_n 0, 1) := by decide +kernel
theorem dL_law_352 : decode cL_law 352 = .ok (.iload_n 3, 1) := by decide +kernel
theorem dL_law_353 : decode cL_law 353 = .ok (.iconst 2, 1) := by decide +kernel
theorem dL_law_354 : decode cL_law 354 = .ok (.iadd, 1) := by decide +kernel
theorem dL_law_355 : decode cL_law 355 = .ok (.iaload, 1) := by decide +kernel
theorem dL_law_356 : decode cL_law 356 = .ok (.invokevirtual 37, 3) := by decide +kernel
theorem dL_law_359 : decode cL_law 359 = .ok (.aload_n 2, 1) := by decide +kernel
theorem dL_law_360 : decode cL_law 360 = .ok (.aload_n 0, 1) := by decide +kernel
theorem dL_law_361 : decode cL_law 361 = .ok (.iload_n 3, 1) := by decide +kernel
theorem dL_law_362 : decode cL_law 362 = .ok (.iconst 1, 1) := by decide +kernel
theorem dL_law_363 : decode cL_law 363 = .ok (.iadd, 1) := by decide +kernel
theorem dL_law_364 : decode cL_law 364 = .ok (.iaload, 1) := by decide +kernel
theorem dL_law_365 : decode cL_law 365 = .ok (.aload_n 0, 1) := by decide +kernel
theorem dL_law_366 : decode cL_law 366 = .ok (.iload_n 3, 1) := by decide +kernel
theorem dL_law_367 : decode cL_law 367 = .ok (.iconst 2, 1) := by decide +kernel
theorem dL_law_368 : decode cL_law 368 = .ok (.iadd, 1) := by decide +kernel
theorem dL_law_369 : decode cL_law 369 = .ok (.iaload, 1) := by decide +kernel
theorem dL_law_370 : decode cL_law 370 = .ok (.invokevirtual 41, 3) := by decide +kernel
theorem dL_law_373 : decode cL_law 373 = .ok (.if_icmp .eq 173, 3) := by decide +kernel
theorem dL_law_376 : decode cL_law 376 = .ok (.iconst 0, 1) := by decide +kernel
theorem dL_law_377 : decode cL_law 377 = .ok (.ireturn, 1) := by decide +kernel
theorem dL_law_378 : decode cL_law 378 = .ok (.aload_n 1, 1) := by decide +kernel
theorem dL_law_379 : decode cL_law 379 = .ok (.aload_n 0, 1) := by decide +kernel
theorem dL_law_380 : decode cL_law 380 = .ok (.iload_n 3, 1) := by decide +kernel
theorem dL_law_381 : decode cL_law 381 = .ok (.iconst 1, 1) := by decide +kernel
theorem dL_law_382 : decode cL_law 382 = .ok (.iadd, 1) := by decide +kernel
theorem dL_law_383 : decode cL_law 383 = .ok (.iaload, 1) := by decide +kernel
theorem dL_law_384 : decode cL_law 384 = .ok (.invokevirtual 42, 3) := by decide +kernel
theorem dL_law_387 : decode cL_law 387 = .ok (.aload_n 2, 1) := by decide +kernel
theorem dL_law_388 : decode cL_law 388 = .ok (.aload_n 0, 1) := by decide +kernel
theorem dL_law_389 : decode cL_law 389 = .ok (.iload_n 3, 1) := by decide +kernel
theorem dL_law_390 : decode cL_law 390 = .ok (.iconst 1, 1) := by decide +kernel
theorem dL_law_391 : decode cL_law 391 = .ok (.iadd, 1) := by decide +kernel
theorem dL_law_392 : decode cL_law 392 = .ok (.iaload, 1) := by decide +kernel
theorem dL_law_393 : decode cL_law 393 = .ok (.invokevirtual 45, 3) := by decide +kernel
theorem dL_law_396 : decode cL_law 396 = .ok (.if_icmp .eq 150, 3) := by decide +kernel
theorem dL_law_399 : decode cL_law 399 = .ok (.iconst 0, 1) := by decide +kernel
theorem dL_law_400 : decode cL_law 400 = .ok (.ireturn, 1) := by decide +kernel
theorem dL_law_401 : decode cL_law 401 = .ok (.aload_n 1, 1) := by decide +kernel
theorem dL_law_402 : decode cL_law 402 = .ok (.aload_n 0, 1) := by decide +kernel
theorem dL_law_403 : decode cL_law 403 = .ok (.iload_n 3, 1) := by decide +kernel
theorem dL_law_404 : decode cL_law 404 = .ok (.iconst 1, 1) := by decide +kernel
theorem dL_law_405 : decode cL_law 405 = .ok (.iadd, 1) := by decide +kernel
theorem dL_law_406 : decode cL_law 406 = .ok (.iaload, 1) := by decide +kernel
theorem dL_law_407 : decode cL_law 407 = .ok (.aload_n 0, 1) := by decide +kernel
theorem dL_law_408 : decode cL_law 408 = .ok (.iload_n 3, 1) := by decide +kernel
theorem dL_law_409 : decode cL_law 409 = .ok (.iconst 2, 1) := by decide +kernel
theorem dL_law_410 : decode cL_law 410 = .ok (.iadd, 1) := by decide +kernel
theorem dL_law_411 : decode cL_law 411 = .ok (.iaload, 1) := by decide +kernel
theorem dL_law_412 : decode cL_law 412 = .ok (.invokevirtual 46, 3) := by decide +kernel
theorem dL_law_415 : decode cL_law 415 = .ok (.aload_n 2, 1) := by decide +kernel
theorem dL_law_416 : decode cL_law 416 = .ok (.aload_n 0, 1) := by decide +kernel
theorem dL_law_417 : decode cL_law 417 = .ok (.iload_n 3, 1) := by decide +kernel
theorem dL_law_418 : decode cL_law 418 = .ok (.iconst 1, 1) := by decide +kernel
theorem dL_law_419 : decode cL_law 419 = .ok (.iadd, 1) := by decide +kernel
theorem dL_law_420 : decode cL_law 420 = .ok (.iaload, 1) := by decide +kernel
theorem dL_law_421 : decode cL_law 421 = .ok (.aload_n 0, 1) := by decide +kernel
theorem dL_law_422 : decode cL_law 422 = .ok (.iload_n 3, 1) := by decide +kernel
theorem dL_law_423 : decode cL_law 423 = .ok (.iconst 2, 1) := by decide +kernel
theorem dL_law_424 : decode cL_law 424 = .ok (.iadd, 1) := by decide +kernel
theorem dL_law_425 : decode cL_law 425 = .ok (.iaload, 1) := by decide +kernel
theorem dL_law_426 : decode cL_law 426 = .ok (.invokevirtual 49, 3) := by decide +kernel
theorem dL_law_429 : decode cL_law 429 = .ok (.if_icmp .eq 117, 3) := by decide +kernel
theorem dL_law_432 : decode cL_law 432 = .ok (.iconst 0, 1) := by decide +kernel
theorem dL_law_433 : decode cL_law 433 = .ok (.ireturn, 1) := by decide +kernel
theorem dL_law_434 : decode cL_law 434 = .ok (.aload_n 1, 1) := by decide +kernel
theorem dL_law_435 : decode cL_law 435 = .ok (.aload_n 0, 1) := by decide +kernel
theorem dL_law_436 : decode cL_law 436 = .ok (.iload_n 3, 1) := by decide +kernel
theorem dL_law_437 : decode cL_law 437 = .ok (.iconst 1, 1) := by decide +kernel
theorem dL_law_438 : decode cL_law 438 = .ok (.iadd, 1) := by decide +kernel
theorem dL_law_439 : decode cL_law 439 = .ok (.iaload, 1) := by decide +kernel
theorem dL_law_440 : decode cL_law 440 = .ok (.aload_n 0, 1) := by decide +kernel
theorem dL_law_441 : decode cL_law 441 = .ok (.iload_n 3, 1) := by decide +kernel
theorem dL_law_442 : decode cL_law 442 = .ok (.iconst 2, 1) := by decide +kernel
theorem dL_law_443 : decode cL_law 443 = .ok (.iadd, 1) := by decide +kernel
theorem dL_law_444 : decode cL_law 444 = .ok (.iaload, 1) := by decide +kernel
theorem dL_law_445 : decode cL_law 445 = .ok (.invokevirtual 50, 3) := by decide +kernel
theorem dL_law_448 : decode cL_law 448 = .ok (.aload_n 2, 1) := by decide +kernel
theorem dL_law_449 : decode cL_law 449 = .ok (.aload_n 0, 1) := by decide +kernel
theorem dL_law_450 : decode cL_law 450 = .ok (.iload_n 3, 1) := by decide +kernel
theorem dL_law_451 : decode cL_law 451 = .ok (.iconst 1, 1) := by decide +kernel
theorem dL_law_452 : decode cL_law 452 = .ok (.iadd, 1) := by decide +kernel
theorem dL_law_453 : decode cL_law 453 = .ok (.iaload, 1) := by decide +kernel
theorem dL_law_454 : decode cL_law 454 = .ok (.aload_n 0, 1) := by decide +kernel
theorem dL_law_455 : decode cL_law 455 = .ok (.iload_n 3, 1) := by decide +kernel
theorem dL_law_456 : decode cL_law 456 = .ok (.iconst 2, 1) := by decide +kernel
theorem dL_law_457 : decode cL_law 457 = .ok (.iadd, 1) := by decide +kernel
theorem dL_law_458 : decode cL_law 458 = .ok (.iaload, 1) := by decide +kernel
theorem dL_law_459 : decode cL_law 459 = .ok (.invokevirtual 53, 3) := by decide +kernel
theorem dL_law_462 : decode cL_law 462 = .ok (.if_icmp .eq 84, 3) := by decide +kernel
theorem dL_law_465 : decode cL_law 465 = .ok (.iconst 0, 1) := by decide +kernel
theorem dL_law_466 : decode cL_law 466 = .ok (.ireturn, 1) := by decide +kernel
theorem dL_law_467 : decode cL_law 467 = .ok (.aload_n 1, 1) := by decide +kernel
theorem dL_law_468 : decode cL_law 468 = .ok (.aload_n 0, 1) := by decide +kernel
theorem dL_law_469 : decode cL_law 469 = .ok (.iload_n 3, 1) := by decide +kernel
theorem dL_law_470 : decode cL_law 470 = .ok (.iconst 1, 1) := by decide +kernel
theorem dL_law_471 : decode cL_law 471 = .ok (.iadd, 1) := by decide +kernel
theorem dL_law_472 : decode cL_law 472 = .ok (.iaload, 1) := by decide +kernel
theorem dL_law_473 : decode cL_law 473 = .ok (.aload_n 0, 1) := by decide +kernel
theorem dL_law_474 : decode cL_law 474 = .ok (.iload_n 3, 1) := by decide +kernel
theorem dL_law_475 : decode cL_law 475 = .ok (.iconst 2, 1) := by decide +kernel
theorem dL_law_476 : decode cL_law 476 = .ok (.iadd, 1) := by decide +kernel
theorem dL_law_477 : decode cL_law 477 = .ok (.iaload, 1) := by decide +kernel
theorem dL_law_478 : decode cL_law 478 = .ok (.invokevirtual 54, 3) := by decide +kernel
theorem dL_law_481 : decode cL_law 481 = .ok (.aload_n 2, 1) := by decide +kernel
theorem dL_law_482 : decode cL_law 482 = .ok (.aload_n 0, 1) := by decide +kernel
theorem dL_law_483 : decode cL_law 483 = .ok (.iload_n 3, 1) := by decide +kernel
theorem dL_law_484 : decode cL_law 484 = .ok (.iconst 1, 1) := by decide +kernel
theorem dL_law_485 : decode cL_law 485 = .ok (.iadd, 1) := by decide +kernel
theorem dL_law_486 : decode cL_law 486 = .ok (.iaload, 1) := by decide +kernel
theorem dL_law_487 : decode cL_law 487 = .ok (.aload_n 0, 1) := by decide +kernel
theorem dL_law_488 : decode cL_law 488 = .ok (.iload_n 3, 1) := by decide +kernel
theorem dL_law_489 : decode cL_law 489 = .ok (.iconst 2, 1) := by decide +kernel
theorem dL_law_490 : decode cL_law 490 = .ok (.iadd, 1) := by decide +kernel
theorem dL_law_491 : decode cL_law 491 = .ok (.iaload, 1) := by decide +kernel
theorem dL_law_492 : decode cL_law 492 = .ok (.invokevirtual 58, 3) := by decide +kernel
theorem dL_law_495 : decode cL_law 495 = .ok (.if_icmp .eq 51, 3) := by decide +kernel
theorem dL_law_498 : decode cL_law 498 = .ok (.iconst 0, 1) := by decide +kernel
theorem dL_law_499 : decode cL_law 499 = .ok (.ireturn, 1) := by decide +kernel
theorem dL_law_500 : decode cL_law 500 = .ok (.aload_n 1, 1) := by decide +kernel
theorem dL_law_501 : decode cL_law 501 = .ok (.aload_n 0, 1) := by decide +kernel
theorem dL_law_502 : decode cL_law 502 = .ok (.iload_n 3, 1) := by decide +kernel
theorem dL_law_503 : decode cL_law 503 = .ok (.iconst 1, 1) := by decide +kernel
theorem dL_law_504 : decode cL_law 504 = .ok (.iadd, 1) := by decide +kernel
theorem dL_law_505 : decode cL_law 505 = .ok (.iaload, 1) := by decide +kernel
theorem dL_law_506 : decode cL_law 506 = .ok (.invokevirtual 59, 3) := by decide +kernel
theorem dL_law_509 : decode cL_law 509 = .ok (.aload_n 2, 1) := by decide +kernel
theorem dL_law_510 : decode cL_law 510 = .ok (.aload_n 0, 1) := by decide +kernel
theorem dL_law_511 : decode cL_law 511 = .ok (.iload_n 3, 1) := by decide +kernel
theorem dL_law_512 : decode cL_law 512 = .ok (.iconst 1, 1) := by decide +kernel
theorem dL_law_513 : decode cL_law 513 = .ok (.iadd, 1) := by decide +kernel
theorem dL_law_514 : decode cL_law 514 = .ok (.iaload, 1) := by decide +kernel
theorem dL_law_515 : decode cL_law 515 = .ok (.invokevirtual 62, 3) := by decide +kernel
theorem dL_law_518 : decode cL_law 518 = .ok (.if_icmp .eq 28, 3) := by decide +kernel
theorem dL_law_521 : decode cL_law 521 = .ok (.iconst 0, 1) := by decide +kernel
theorem dL_law_522 : decode cL_law 522 = .ok (.ireturn, 1) := by decide +kernel
theorem dL_law_523 : decode cL_law 523 = .ok (.aload_n 1, 1) := by decide +kernel
theorem dL_law_524 : decode cL_law 524 = .ok (.aload_n 0, 1) := by decide +kernel
theorem dL_law_525 : decode cL_law 525 = .ok (.iload_n 3, 1) := by decide +kernel
theorem dL_law_526 : decode cL_law 526 = .ok (.iconst 1, 1) := by decide +kernel
theorem dL_law_527 : decode cL_law 527 = .ok (.iadd, 1) := by decide +kernel
theorem dL_law_528 : decode cL_law 528 = .ok (.iaload, 1) := by decide +kernel
theorem dL_law_529 : decode cL_law 529 = .ok (.invokevirtual 63, 3) := by decide +kernel
theorem dL_law_532 : decode cL_law 532 = .ok (.aload_n 2, 1) := by decide +kernel
theorem dL_law_533 : decode cL_law 533 = .ok (.aload_n 0, 1) := by decide +kernel
theorem dL_law_534 : decode cL_law 534 = .ok (.iload_n 3, 1) := by decide +kernel
theorem dL_law_535 : decode cL_law 535 = .ok (.iconst 1, 1) := by decide +kernel
theorem dL_law_536 : decode cL_law 536 = .ok (.iadd, 1) := by decide +kernel
theorem dL_law_537 : decode cL_law 537 = .ok (.iaload, 1) := by decide +kernel
theorem dL_law_538 : decode cL_law 538 = .ok (.invokevirtual 66, 3) := by decide +kernel
theorem dL_law_541 : decode cL_law 541 = .ok (.if_icmp .eq 5, 3) := by decide +kernel
theorem dL_law_544 : decode cL_law 544 = .ok (.iconst 0, 1) := by decide +kernel
theorem dL_law_545 : decode cL_law 545 = .ok (.ireturn, 1) := by decide +kernel
theorem dL_law_546 : decode cL_law 546 = .ok (.iinc 3 5, 3) := by decide +kernel
theorem dL_law_549 : decode cL_law 549 = .ok (.goto (-531), 3) := by decide +kernel
theorem dL_law_552 : decode cL_law 552 = .ok (.iconst 1, 1) := by decide +kernel
theorem dL_law_553 : decode cL_law 553 = .ok (.ireturn, 1) := by decide +kernel
end
section
/-! CONTRACTS by worlds: a method called with av in the world w answers r and leaves the world w2. How one is opened (mk), how one is used (cV, cV1, cS) -/
abbrev vwCl : List vw_C := [(RX0, TX0, 11), (RX1, TX1, 11)]
def ctP (D : va_G) (tys : List (ClassId × FieldType)) (w : va_W) (sz : Nat) : State → Prop := fun U => U.heap.size = sz ∧ va_P D vwCl w U.heap ∧ va_K D vwCl tys U ∧ va_D (fun _ => True) w
def ctB (D : va_G) (tys : List (ClassId × FieldType)) (A : Nat → Prop) (w : va_W) (t : State) : Prop := va_P D vwCl w t.heap ∧ va_K D vwCl tys t ∧ va_D A w
abbrev rm_ (fr lo : Nat) : Room := { frames := fr, cells := 0, slots := 0, locals := lo }
def CtI (l : Launch) (y : MethodName) (cc : ByteArray) (nL : Nat) (rt : FieldType) (fr lo : Nat) (D : va_G) (tys : List (ClassId × FieldType)) (av : List Value) (w : va_W) (r : Int32) (w2 : va_W) : Prop :=
  ∀ sz : Nat, Met l y (ws_ y cc nL (some rt)) (rm_ fr lo) (va_Pc av (ctP D tys w sz)) (va_Qi (fun (v : Int32) (_ : Unit) => v = r) (fun (_ : Unit) t => ctB D tys (va_A w sz) w2 t) (va_A w sz)) 0 0 (va_A w sz)
def CtV (l : Launch) (y : MethodName) (cc : ByteArray) (nL : Nat) (fr lo : Nat) (D : va_G) (tys : List (ClassId × FieldType)) (av : List Value) (w : va_W) (w2 : va_W) : Prop :=
  ∀ sz : Nat, Met l y (ws_ y cc nL none) (rm_ fr lo) (va_Pc av (ctP D tys w sz)) (va_Qv (fun (_ : Unit) => True) (fun (_ : Unit) t => ctB D tys (va_A w sz) w2 t) (va_A w sz)) 0 0 (va_A w sz)
set_option maxHeartbeats 4000000 in
theorem CtI.mk {l : Launch} {y : MethodName} {cc : ByteArray} {nL : Nat} {rt : FieldType} {fr lo : Nat} {D : va_G} {tys : List (ClassId × FieldType)} {av : List Value} {w w2 : va_W} {r : Int32}
    (hy : plainName y.cls = true) (hn : narrow rt (.int r) = .int r) (hlen : (lg_sl av).length ≤ nL)
    (body : ∀ (p : Program) (e : Env) (s : State) (m : MethodId) (args : Array Value) (below : List Frame) (meth : Method) (c : Code) (A : Nat → Prop) (Q : State → Prop), CallFix p m c cc nL s args lw_all y.cls → va_K D vwCl tys s → va_P D vwCl w s.heap → va_D A w → (∀ q : Nat, s.heap.size ≤ q → A q) → va_S A s.heap s.heap [] →
      (∀ (H : Heap) (locs : List Loc) (pc : Nat) (ls : Array Slot) (v : Int32) (w3 : va_W), decode cc pc = .ok (.ireturn, 1) → v = r → w3 = w2 → va_P D vwCl w3 H → va_D A w3 → va_S A s.heap H locs → W p l e (rm_ fr lo) s m args below meth c H locs 0 0 Q (F0 m pc ls [.int v])) →
      ∀ ls : Array Slot, lv_has ls nL (lv_args 0 av) → W p l e (rm_ fr lo) s m args below meth c s.heap [] 0 0 Q (F0 m 0 ls [])) :
    CtI l y cc nL rt fr lo D tys av w r w2 := by
  intro sz
  refine Met.ofW (cc := cc) (maxL := nL) (ret := some rt) hy rfl ?_
  intro p e s m args below meth c s₁ B hml hv
  obtain ⟨rfl, hsz, hP, hK, hD0⟩ := hv
  have hx := B.exec
  have hb := B.bytes
  have hr := B.returns
  have hts := atoms_spec (ws := ws_ y cc nL (some rt)) B.pre
  have hts : ∀ w ∈ lw_all, w.before _ s = true := fun w h => hts w (List.mem_cons_of_mem _ h)
  have hown : s.vm.findClass y.cls = some m.cls := findClass_of_methodNamed B.named
  have hlocks := B.notSynchronized
  subst hsz
  have hD := hD0.self (sz := s.heap.size)
  have hl := lv_entry av (n := nL) hlen
  rw [lg_entry_eq]
  refine body p e s m _ below meth c (va_A w s.heap.size) _ ⟨hx, hb, hml, hown, hts⟩ hK hP hD (fun q h => Or.inr h) va_S.rf ?_ _ hl
  intro H locs pc ls v w3 hd hv hw hP hD hS
  subst hv
  subst hw
  exact W.zret hx hb hr hn (fun t ht hW => ⟨⟨v, (), rfl, rfl, by rw [ht]; exact hP, va_K.moved hW.alike hK, hD⟩, hS.F ht⟩) hS.2.2 hd
set_option maxHeartbeats 4000000 in
theorem CtV.mk {l : Launch} {y : MethodName} {cc : ByteArray} {nL : Nat} {fr lo : Nat} {D : va_G} {tys : List (ClassId × FieldType)} {av : List Value} {w w2 : va_W}
    (hy : plainName y.cls = true) (hlen : (lg_sl av).length ≤ nL)
    (body : ∀ (p : Program) (e : Env) (s : State) (m : MethodId) (args : Array Value) (below : List Frame) (meth : Method) (c : Code) (A : Nat → Prop) (Q : State → Prop), CallFix p m c cc nL s args lw_all y.cls → va_K D vwCl tys s → va_P D vwCl w s.heap → va_D A w → (∀ q : Nat, s.heap.size ≤ q → A q) → va_S A s.heap s.heap [] →
      (∀ (H : Heap) (locs : List Loc) (pc : Nat) (ls : Array Slot) (w3 : va_W), decode cc pc = .ok (.return_, 1) → w3 = w2 → va_P D vwCl w3 H → va_D A w3 → va_S A s.heap H locs → W p l e (rm_ fr lo) s m args below meth c H locs 0 0 Q (F0 m pc ls [])) →
      ∀ ls : Array Slot, lv_has ls nL (lv_args 0 av) → W p l e (rm_ fr lo) s m args below meth c s.heap [] 0 0 Q (F0 m 0 ls [])) :
    CtV l y cc nL fr lo D tys av w w2 := by
  intro sz
  refine Met.ofW (cc := cc) (maxL := nL) (ret := none) hy rfl ?_
  intro p e s m args below meth c s₁ B hml hv
  obtain ⟨rfl, hsz, hP, hK, hD0⟩ := hv
  have hx := B.exec
  have hb := B.bytes
  have hr := B.returns
  have hts := atoms_spec (ws := ws_ y cc nL none) B.pre
  have hts : ∀ w ∈ lw_all, w.before _ s = true := fun w h => hts w (List.mem_cons_of_mem _ h)
  have hown : s.vm.findClass y.cls = some m.cls := findClass_of_methodNamed B.named
  have hlocks := B.notSynchronized
  subst hsz
  have hD := hD0.self (sz := s.heap.size)
  have hl := lv_entry av (n := nL) hlen
  rw [lg_entry_eq]
  refine body p e s m _ below meth c (va_A w s.heap.size) _ ⟨hx, hb, hml, hown, hts⟩ hK hP hD (fun q h => Or.inr h) va_S.rf ?_ _ hl
  intro H locs pc ls w3 hd hw hP hD hS
  subst hw
  exact W.vret hx hb hr (fun t ht hW => ⟨⟨(), rfl, trivial, by rw [ht]; exact hP, va_K.moved hW.alike hK, hD⟩, hS.F ht⟩) hS.2.2 hd
/-! worlds side by side -/
theorem ct_l {D : va_G} {w wr : va_W} {H : Heap} (h : va_P D vwCl (w ++ wr) H) : va_P D vwCl w H := fun k q hk => h k q (by rw [List.getElem?_append_left (List.getElem?_eq_some_iff.mp hk).1]; exact hk)
theorem ct_r {D : va_G} {w wr : va_W} {H : Heap} (h : va_P D vwCl (w ++ wr) H) : va_P D vwCl wr H := fun k q hk => h (w.length + k) q (by rw [List.getElem?_append_right (by omega), Nat.add_sub_cancel_left]; exact hk)
theorem ctD_at {w wr : va_W} {k : Nat} {q : Nat × va_E} (hk : wr[k]? = some q) : (w ++ wr)[w.length + k]? = some q := by
  rw [List.getElem?_append_right (by omega), Nat.add_sub_cancel_left]
  exact hk
theorem ctD_al {w wr : va_W} {k : Nat} {q : Nat × va_E} (hk : w[k]? = some q) : (w ++ wr)[k]? = some q := by
  rw [List.getElem?_append_left (List.getElem?_eq_some_iff.mp hk).1]
  exact hk
theorem ctD_l {A : Nat → Prop} {w wr : va_W} (h : va_D A (w ++ wr)) : va_D A w := ⟨fun i j p q hi hj e => h.1 i j p q (ctD_al hi) (ctD_al hj) e, fun k q hk => h.2 k q (ctD_al hk)⟩
theorem ctD_r {A : Nat → Prop} {w wr : va_W} (h : va_D A (w ++ wr)) : va_D A wr := ⟨fun i j p q hi hj e => by have := h.1 _ _ p q (ctD_at hi) (ctD_at hj) e; omega, fun k q hk => h.2 _ q (ctD_at hk)⟩
theorem ctD_x {A : Nat → Prop} {w wr : va_W} (h : va_D A (w ++ wr)) {i j : Nat} {x y : Nat × va_E} (hi : w[i]? = some x) (hj : wr[j]? = some y) : x.1 ≠ y.1 := by
  intro e
  have h1 := h.1 _ _ x y (ctD_al hi) (ctD_at hj) e
  have h2 := (List.getElem?_eq_some_iff.mp hi).1
  omega
section CTC
variable {p : Program} {l : Launch} {e : Env} {R : Room} {s : State} {m : MethodId} {args : Array Value} {below : List Frame} {meth : Method} {c : Code} {H : Heap} {locs : List Loc} {cells slots : Nat} {Q : State → Prop}
variable {pc : Nat} {ls : Array Slot} {rest st0 : List Value} {a : Array Value} {A : Nat → Prop} {D : va_G} {tys : List (ClassId × FieldType)} {w w2 wr : va_W} {r : Int32}
theorem ct_fr (hD : va_D A (w ++ wr)) (hS : va_S A s.heap H locs) (hA : ∀ q : Nat, s.heap.size ≤ q → A q) : ∀ q, va_A w H.size q → A q := by
  intro q h
  rcases h with ⟨k, e2, h⟩ | h
  · exact hD.2 k (q, e2) (ctD_al h)
  · exact hA q (Nat.le_trans hS.1 h)
theorem ct_back {H1 : Heap} (hP : va_P D vwCl (w ++ wr) H) (hD : va_D A (w ++ wr)) (hF : ∀ q, va_A w H.size q → A q) (hk : ∀ q : Nat, q < H.size → ¬ va_A w H.size q → H1[q]? = H[q]?) (hP1 : va_P D vwCl w2 H1) (hD1 : va_D (va_A w H.size) w2) : va_P D vwCl (wr ++ w2) H1 ∧ va_D A (wr ++ w2) := by
  have hap : ∀ (k : Nat) (q : Nat × va_E), wr[k]? = some q → q.1 < H.size ∧ ¬ va_A w H.size q.1 := by
    intro k q hq
    have h1 := ct_r hP k q hq
    refine ⟨h1.lt, fun h => ?_⟩
    rcases h with ⟨i, e2, h⟩ | h
    · exact ctD_x hD h hq rfl
    · have := h1.lt
      omega
  exact ⟨va_P.app (fun k q hq => (ct_r hP k q hq).kept (hk q.1 (hap k q hq).1 (hap k q hq).2)) hP1, va_D.app (ctD_r hD) (hD1.weaken (fun k q _ h => hF q.1 h)) (fun i j x y hx hy hxy => (hap i x hx).2 (by rw [hxy]; exact hD1.2 j y hy))⟩
theorem ct_goI (hr : va_Run p l e R s m args below meth c H locs cells slots 0 0 (F0 m pc ls st0) rest (va_Qi (fun (v : Int32) (_ : Unit) => v = r) (fun (_ : Unit) t => ctB D tys (va_A w H.size) w2 t) (va_A w H.size) a) (va_A w H.size)) (hP : va_P D vwCl (w ++ wr) H) (hD : va_D A (w ++ wr)) (hS : va_S A s.heap H locs) (hA : ∀ q : Nat, s.heap.size ≤ q → A q)
    (kk : ∀ (H1 : Heap) (locs1 : List Loc), va_P D vwCl (wr ++ w2) H1 → va_D A (wr ++ w2) → va_S A s.heap H1 locs1 → W p l e R s m args below meth c H1 locs1 cells slots Q (F0 m (pc + 3) ls (.int r :: rest))) : W p l e R s m args below meth c H locs cells slots Q (F0 m pc ls st0) := by
  have hF := ct_fr hD hS hA
  refine va_calli hr hS (fun q _ h => hF q h) hF (fun v u t H1 locs1 ht hvm hw hB hz hk hS1 => ?_)
  have hw : v = r := hw
  subst hw
  have hB : ctB D tys (va_A w H.size) w2 t := hB
  obtain ⟨hP1, -, hD1⟩ := hB
  rw [ht] at hP1
  obtain ⟨h1, h2⟩ := ct_back hP hD hF hk hP1 hD1
  exact kk H1 locs1 h1 h2 hS1
theorem ct_goV (hr : va_Run p l e R s m args below meth c H locs cells slots 0 0 (F0 m pc ls st0) rest (va_Qv (fun (_ : Unit) => True) (fun (_ : Unit) t => ctB D tys (va_A w H.size) w2 t) (va_A w H.size) a) (va_A w H.size)) (hP : va_P D vwCl (w ++ wr) H) (hD : va_D A (w ++ wr)) (hS : va_S A s.heap H locs) (hA : ∀ q : Nat, s.heap.size ≤ q → A q)
    (kk : ∀ (H1 : Heap) (locs1 : List Loc), va_P D vwCl (wr ++ w2) H1 → va_D A (wr ++ w2) → va_S A s.heap H1 locs1 → W p l e R s m args below meth c H1 locs1 cells slots Q (F0 m (pc + 3) ls rest)) : W p l e R s m args below meth c H locs cells slots Q (F0 m pc ls st0) := by
  have hF := ct_fr hD hS hA
  refine va_callv hr hS (fun q _ h => hF q h) hF (fun u t H1 locs1 ht hvm hw hB hz hk hS1 => ?_)
  have hB : ctB D tys (va_A w H.size) w2 t := hB
  obtain ⟨hP1, -, hD1⟩ := hB
  rw [ht] at hP1
  obtain ⟨h1, h2⟩ := ct_back hP hD hF hk hP1 hD1
  exact kk H1 locs1 h1 h2 hS1
variable {y : MethodName} {cy cc : ByteArray} {nLy nL n idx fr lo ci b : Nat} {rt : FieldType} {own C : String} {T : u_T} {N : Nat} {As fs : List Value}
theorem ct_blind {av : List Value} {sz : Nat} : FrameBlind (va_Pc av (ctP D tys w sz)) := by
  intro a U g mk q
  obtain ⟨q0, q1, qP, qK, qD⟩ := q
  exact ⟨q0, q1, qP, va_K.moved (u := U) (U := U.calling g mk a) (Vm.Alike.refl U.vm) qK, qD⟩
theorem ct_pre (hK : va_K D vwCl tys s) (hPc : va_P D vwCl w H) (hDc : va_D A w) (av : List Value) : ∀ U : State, U.heap = H → s.WarmedH U.vm → va_Pc av (ctP D tys w H.size) av.toArray U := by
  intro U hU hW
  exact ⟨rfl, by rw [hU], by rw [hU]; exact hPc, va_K.moved hW.alike hK, hDc.weaken (fun _ _ _ _ => trivial)⟩
/-- a call of an int method of the object at the head of w; wr rides along -/
theorem CtI.cV (hC : CtI l y cy nLy rt fr lo D tys (.ref b :: As) w r w2) (S : CallFix p m c cc nL s args lw_all own) (hw : GoodIn lw_all (wsV own idx C y (ws_ y cy nLy (some rt)))) (hd : y.cls = C ∧ y.cls ≠ "java/lang/invoke/MethodHandle" ∧ y.cls ≠ "java/lang/invoke/VarHandle" ∧ (parseMethodDescriptor y.desc).map (fun d => d.parameters.length) = some n) (hn : As.length = n) (hR : fr + 1 ≤ R.frames ∧ 8 + (nLy + 11) + lo ≤ R.locals) (hc : vwCl[ci]? = some (C, T, N)) (he : w[0]? = some (b, .inr (ci, fs)))
    (hK : va_K D vwCl tys s) (hP : va_P D vwCl (w ++ wr) H) (hD : va_D A (w ++ wr)) (hS : va_S A s.heap H locs) (hA : ∀ q : Nat, s.heap.size ≤ q → A q) (hsz : ls.size = nL) (hst : st0 = As.reverse ++ .ref b :: rest) (hrm : (rest.map fun v => v.category).sum ≤ 8) (hf : cells ≤ R.cells ∧ slots ≤ R.slots) (hdg : decode cc pc = .ok (.invokevirtual idx, 3))
    (kk : ∀ (H1 : Heap) (locs1 : List Loc), va_P D vwCl (wr ++ w2) H1 → va_D A (wr ++ w2) → va_S A s.heap H1 locs1 → W p l e R s m args below meth c H1 locs1 cells slots Q (F0 m (pc + 3) ls (.int r :: rest))) : W p l e R s m args below meth c H locs cells slots Q (F0 m pc ls st0) :=
  ct_goI (a := (Value.ref b :: As).toArray) (va_runV S (hC H.size) (cwV n S.2.2.2.2 hw rfl rfl rfl hd hR) ⟨ct_blind, va_recv hK (ct_l hP) hc he, ct_pre hK (ct_l hP) (ctD_l hD) _⟩ rfl hn hsz hst (lv_room hrm) hdg hf) hP hD hS hA kk
theorem CtV.cV (hC : CtV l y cy nLy fr lo D tys (.ref b :: As) w w2) (S : CallFix p m c cc nL s args lw_all own) (hw : GoodIn lw_all (wsV own idx C y (ws_ y cy nLy none))) (hd : y.cls = C ∧ y.cls ≠ "java/lang/invoke/MethodHandle" ∧ y.cls ≠ "java/lang/invoke/VarHandle" ∧ (parseMethodDescriptor y.desc).map (fun d => d.parameters.length) = some n) (hn : As.length = n) (hR : fr + 1 ≤ R.frames ∧ 8 + (nLy + 11) + lo ≤ R.locals) (hc : vwCl[ci]? = some (C, T, N)) (he : w[0]? = some (b, .inr (ci, fs)))
    (hK : va_K D vwCl tys s) (hP : va_P D vwCl (w ++ wr) H) (hD : va_D A (w ++ wr)) (hS : va_S A s.heap H locs) (hA : ∀ q : Nat, s.heap.size ≤ q → A q) (hsz : ls.size = nL) (hst : st0 = As.reverse ++ .ref b :: rest) (hrm : (rest.map fun v => v.category).sum ≤ 8) (hf : cells ≤ R.cells ∧ slots ≤ R.slots) (hdg : decode cc pc = .ok (.invokevirtual idx, 3))
    (kk : ∀ (H1 : Heap) (locs1 : List Loc), va_P D vwCl (wr ++ w2) H1 → va_D A (wr ++ w2) → va_S A s.heap H1 locs1 → W p l e R s m args below meth c H1 locs1 cells slots Q (F0 m (pc + 3) ls rest)) : W p l e R s m args below meth c H locs cells slots Q (F0 m pc ls st0) :=
  ct_goV (a := (Value.ref b :: As).toArray) (va_runV S (hC H.size) (cwV n S.2.2.2.2 hw rfl rfl rfl hd hR) ⟨ct_blind, va_recv hK (ct_l hP) hc he, ct_pre hK (ct_l hP) (ctD_l hD) _⟩ rfl hn hsz hst (lv_room hrm) hdg hf) hP hD hS hA kk
theorem ct_nilP {D : va_G} {H : Heap} : va_P D vwCl [] H := fun k q h => by simp at h
theorem ct_nilD {A : Nat → Prop} : va_D A [] := ⟨fun i j p q h => by simp at h, fun k q h => by simp at h⟩
/-- the same, nothing else in the world -/
theorem CtI.cV1 (hC : CtI l y cy nLy rt fr lo D tys (.ref b :: As) w r w2) (S : CallFix p m c cc nL s args lw_all own) (hw : GoodIn lw_all (wsV own idx C y (ws_ y cy nLy (some rt)))) (hd : y.cls = C ∧ y.cls ≠ "java/lang/invoke/MethodHandle" ∧ y.cls ≠ "java/lang/invoke/VarHandle" ∧ (parseMethodDescriptor y.desc).map (fun d => d.parameters.length) = some n) (hn : As.length = n) (hR : fr + 1 ≤ R.frames ∧ 8 + (nLy + 11) + lo ≤ R.locals) (hc : vwCl[ci]? = some (C, T, N)) (he : w[0]? = some (b, .inr (ci, fs)))
    (hK : va_K D vwCl tys s) (hP : va_P D vwCl w H) (hD : va_D A w) (hS : va_S A s.heap H locs) (hA : ∀ q : Nat, s.heap.size ≤ q → A q) (hsz : ls.size = nL) (hst : st0 = As.reverse ++ .ref b :: rest) (hrm : (rest.map fun v => v.category).sum ≤ 8) (hf : cells ≤ R.cells ∧ slots ≤ R.slots) (hdg : decode cc pc = .ok (.invokevirtual idx, 3))
    (kk : ∀ (H1 : Heap) (locs1 : List Loc), va_P D vwCl w2 H1 → va_D A w2 → va_S A s.heap H1 locs1 → W p l e R s m args below meth c H1 locs1 cells slots Q (F0 m (pc + 3) ls (.int r :: rest))) : W p l e R s m args below meth c H locs cells slots Q (F0 m pc ls st0) :=
  CtI.cV (wr := []) hC S hw hd hn hR hc he hK (by rw [List.append_nil]; exact hP) (by rw [List.append_nil]; exact hD) hS hA hsz hst hrm hf hdg kk
theorem CtV.cV1 (hC : CtV l y cy nLy fr lo D tys (.ref b :: As) w w2) (S : CallFix p m c cc nL s args lw_all own) (hw : GoodIn lw_all (wsV own idx C y (ws_ y cy nLy none))) (hd : y.cls = C ∧ y.cls ≠ "java/lang/invoke/MethodHandle" ∧ y.cls ≠ "java/lang/invoke/VarHandle" ∧ (parseMethodDescriptor y.desc).map (fun d => d.parameters.length) = some n) (hn : As.length = n) (hR : fr + 1 ≤ R.frames ∧ 8 + (nLy + 11) + lo ≤ R.locals) (hc : vwCl[ci]? = some (C, T, N)) (he : w[0]? = some (b, .inr (ci, fs)))
    (hK : va_K D vwCl tys s) (hP : va_P D vwCl w H) (hD : va_D A w) (hS : va_S A s.heap H locs) (hA : ∀ q : Nat, s.heap.size ≤ q → A q) (hsz : ls.size = nL) (hst : st0 = As.reverse ++ .ref b :: rest) (hrm : (rest.map fun v => v.category).sum ≤ 8) (hf : cells ≤ R.cells ∧ slots ≤ R.slots) (hdg : decode cc pc = .ok (.invokevirtual idx, 3))
    (kk : ∀ (H1 : Heap) (locs1 : List Loc), va_P D vwCl w2 H1 → va_D A w2 → va_S A s.heap H1 locs1 → W p l e R s m args below meth c H1 locs1 cells slots Q (F0 m (pc + 3) ls rest)) : W p l e R s m args below meth c H locs cells slots Q (F0 m pc ls st0) :=
  CtV.cV (wr := []) hC S hw hd hn hR hc he hK (by rw [List.append_nil]; exact hP) (by rw [List.append_nil]; exact hD) hS hA hsz hst hrm hf hdg kk
/-- a call of a static int method without a world -/
theorem CtI.cS (hC : CtI l y cy nLy rt fr lo D tys As [] r []) (S : CallFix p m c cc nL s args lw_all own) (hw : GoodIn lw_all (va_wsS own idx y (ws_ y cy nLy (some rt)))) (hd : y.cls ≠ "java/lang/invoke/MethodHandle" ∧ y.cls ≠ "java/lang/invoke/VarHandle" ∧ (parseMethodDescriptor y.desc).map (fun d => d.parameters.length) = some n) (hn : As.length = n) (hR : fr + 1 ≤ R.frames ∧ 8 + (nLy + 11) + lo ≤ R.locals)
    (hK : va_K D vwCl tys s) (hP : va_P D vwCl wr H) (hD : va_D A wr) (hS : va_S A s.heap H locs) (hA : ∀ q : Nat, s.heap.size ≤ q → A q) (hsz : ls.size = nL) (hst : st0 = As.reverse ++ rest) (hrm : (rest.map fun v => v.category).sum ≤ 8) (hf : cells ≤ R.cells ∧ slots ≤ R.slots) (hdg : decode cc pc = .ok (.invokestatic idx, 3))
    (kk : ∀ (H1 : Heap) (locs1 : List Loc), va_P D vwCl wr H1 → va_D A wr → va_S A s.heap H1 locs1 → W p l e R s m args below meth c H1 locs1 cells slots Q (F0 m (pc + 3) ls (.int r :: rest))) : W p l e R s m args below meth c H locs cells slots Q (F0 m pc ls st0) :=
  ct_goI (w := []) (w2 := []) (wr := wr) (a := As.toArray) (va_runS S (hC H.size) (va_cwS n S.2.2.2.2 hw rfl rfl rfl hd hR) ⟨ct_blind, ct_pre hK ct_nilP (ct_nilD (A := A)) _⟩ rfl hn hsz hst (lv_room hrm) hdg hf) hP hD hS hA (fun H1 locs1 h1 h2 h3 => kk H1 locs1 (by rwa [List.append_nil] at h1) (by rwa [List.append_nil] at h2) h3)
/-- another form for the int on top -/
theorem lv_tv {x v : Int32} (h : x = v) (k : W p l e R s m args below meth c H locs cells slots Q (F0 m pc ls (.int v :: rest))) : W p l e R s m args below meth c H locs cells slots Q (F0 m pc ls (.int x :: rest)) := by
  rw [h]
  exact k
end CTC
end
section
/-! THE TWO WORLDS over one state M, and a row a step: by program (gen/steps.py). ad: the addresses; zC, iC: the classes boolean[], int[] -/
abbrev tyZ (zC iC : ClassId) : List (ClassId × FieldType) := [(zC, .boolean), (iC, .int)]
def fX (ad : Nat → Nat) (M : MS) : List Value := [.int (nI (m_time M)), .int (m_all M), .int (nI (mb_mk (m_there M) 10)), .int (nI (mb_mk (m_deaf M) 10)), .ref (ad 1), .ref (ad 2), .ref (ad 3), .ref (ad 4), .ref (ad 5), .ref (ad 6), .int (nI (m_said M))]
def wX (ad : Nat → Nat) (zC iC : ClassId) (M : MS) : va_W := [(ad 0, .inr (0, fX ad M)), (ad 1, .inl (zC, 160, .inl (fun j => b2i (m_fw M j)))), (ad 2, .inl (zC, 160, .inl (fun j => b2i (m_st M j)))), (ad 3, .inl (iC, 160, .inl (fun j => nI (m_di M j)))), (ad 4, .inl (iC, 160, .inl (fun j => nI (m_kc M j)))), (ad 5, .inl (iC, 160, .inl (fun j => nI (m_ti M j)))), (ad 6, .inl (iC, 1024, .inl (fun j => nI (m_row M j))))]
def fY (ad : Nat → Nat) (M : MS) : List Value := [.int (nI (m_time M)), .int (m_all M), .ref (ad 1), .ref (ad 2), .ref (ad 3), .ref (ad 4), .ref (ad 5), .ref (ad 6), .ref (ad 7), .ref (ad 8), .int (nI (m_said M))]
/-- K: what keptClaim holds -/
def wY (ad : Nat → Nat) (zC iC : ClassId) (K : Nat → Int32) (M : MS) : va_W := [(ad 0, .inr (1, fY ad M)), (ad 1, .inl (zC, 10, .inl (fun j => b2i (!m_there M j)))), (ad 2, .inl (zC, 10, .inl (fun j => b2i (m_deaf M j)))), (ad 3, .inl (zC, 160, .inl (fun j => b2i (m_fw M j)))), (ad 4, .inl (zC, 160, .inl (fun j => b2i (m_st M j)))), (ad 5, .inl (iC, 160, .inl (fun j => nI (m_di M j)))), (ad 6, .inl (iC, 160, .inl K)), (ad 7, .inl (iC, 160, .inl (fun j => nI (m_ti M j)))), (ad 8, .inl (iC, 1024, .inl (fun j => nI (m_row M j))))]
def kY (M : MS) : Nat → Int32 := fun j => if m_ti M j = 0 then -1 else nI (m_kc M j)
section STP
variable {p : Program} {l : Launch} {e : Env} {R : Room} {s : State} {m : MethodId} {args : Array Value} {below : List Frame} {meth : Method} {c : Code} {H : Heap} {locs : List Loc} {cells slots : Nat} {Q : State → Prop}
variable {cc : ByteArray} {nL pc : Nat} {ls : Array Slot} {rest : List Value} {A : Nat → Prop} {D : va_G} {ad : Nat → Nat} {zC iC : ClassId} {M : MS} {K : Nat → Int32}
theorem xg_time (S : CallFix p m c cc nL s args lw_all RX0) (hK : va_K D vwCl (tyZ zC iC) s) (hP : va_P D vwCl (wX ad zC iC M) H) (hdg : decode cc pc = .ok (.getfield 33, 3)) (kk : W p l e R s m args below meth c H locs cells slots Q (F0 m (pc + 3) ls (.int (nI (m_time M)) :: rest))) : W p l e R s m args below meth c H locs cells slots Q (F0 m pc ls (.ref (ad 0) :: rest)) :=
  va_get (D := D) (ci := 0) (v := .int (nI (m_time M))) (C := RX0) (T := TX0) (N := 11) S.1 S.2.1 S.2.2.2.2 in_X0 S.2.2.2.1 hK hP 0 rfl rfl 0 (by decide) (S.2.2.2.2 _ q25) (fun _ h9 => h9) rfl hdg kk
theorem xg_all (S : CallFix p m c cc nL s args lw_all RX0) (hK : va_K D vwCl (tyZ zC iC) s) (hP : va_P D vwCl (wX ad zC iC M) H) (hdg : decode cc pc = .ok (.getfield 68, 3)) (kk : W p l e R s m args below meth c H locs cells slots Q (F0 m (pc + 3) ls (.int (m_all M) :: rest))) : W p l e R s m args below meth c H locs cells slots Q (F0 m pc ls (.ref (ad 0) :: rest)) :=
  va_get (D := D) (ci := 0) (v := .int (m_all M)) (C := RX0) (T := TX0) (N := 11) S.1 S.2.1 S.2.2.2.2 in_X0 S.2.2.2.1 hK hP 0 rfl rfl 1 (by decide) (S.2.2.2.2 _ q26) (fun _ h9 => h9) rfl hdg kk
theorem xg_there (S : CallFix p m c cc nL s args lw_all RX0) (hK : va_K D vwCl (tyZ zC iC) s) (hP : va_P D vwCl (wX ad zC iC M) H) (hdg : decode cc pc = .ok (.getfield 7, 3)) (kk : W p l e R s m args below meth c H locs cells slots Q (F0 m (pc + 3) ls (.int (nI (mb_mk (m_there M) 10)) :: rest))) : W p l e R s m args below meth c H locs cells slots Q (F0 m pc ls (.ref (ad 0) :: rest)) :=
  va_get (D := D) (ci := 0) (v := .int (nI (mb_mk (m_there M) 10))) (C := RX0) (T := TX0) (N := 11) S.1 S.2.1 S.2.2.2.2 in_X0 S.2.2.2.1 hK hP 0 rfl rfl 2 (by decide) (S.2.2.2.2 _ q27) (fun _ h9 => h9) rfl hdg kk
theorem xg_deaf (S : CallFix p m c cc nL s args lw_all RX0) (hK : va_K D vwCl (tyZ zC iC) s) (hP : va_P D vwCl (wX ad zC iC M) H) (hdg : decode cc pc = .ok (.getfield 48, 3)) (kk : W p l e R s m args below meth c H locs cells slots Q (F0 m (pc + 3) ls (.int (nI (mb_mk (m_deaf M) 10)) :: rest))) : W p l e R s m args below meth c H locs cells slots Q (F0 m pc ls (.ref (ad 0) :: rest)) :=
  va_get (D := D) (ci := 0) (v := .int (nI (mb_mk (m_deaf M) 10))) (C := RX0) (T := TX0) (N := 11) S.1 S.2.1 S.2.2.2.2 in_X0 S.2.2.2.1 hK hP 0 rfl rfl 3 (by decide) (S.2.2.2.2 _ q28) (fun _ h9 => h9) rfl hdg kk
theorem xg_fw (S : CallFix p m c cc nL s args lw_all RX0) (hK : va_K D vwCl (tyZ zC iC) s) (hP : va_P D vwCl (wX ad zC iC M) H) (hdg : decode cc pc = .ok (.getfield 13, 3)) (kk : W p l e R s m args below meth c H locs cells slots Q (F0 m (pc + 3) ls (.ref (ad 1) :: rest))) : W p l e R s m args below meth c H locs cells slots Q (F0 m pc ls (.ref (ad 0) :: rest)) :=
  va_get (D := D) (ci := 0) (v := .ref (ad 1)) (C := RX0) (T := TX0) (N := 11) S.1 S.2.1 S.2.2.2.2 in_X0 S.2.2.2.1 hK hP 0 rfl rfl 4 (by decide) (S.2.2.2.2 _ q29) (fun _ h9 => h9) rfl hdg kk
theorem xg_st (S : CallFix p m c cc nL s args lw_all RX0) (hK : va_K D vwCl (tyZ zC iC) s) (hP : va_P D vwCl (wX ad zC iC M) H) (hdg : decode cc pc = .ok (.getfield 17, 3)) (kk : W p l e R s m args below meth c H locs cells slots Q (F0 m (pc + 3) ls (.ref (ad 2) :: rest))) : W p l e R s m args below meth c H locs cells slots Q (F0 m pc ls (.ref (ad 0) :: rest)) :=
  va_get (D := D) (ci := 0) (v := .ref (ad 2)) (C := RX0) (T := TX0) (N := 11) S.1 S.2.1 S.2.2.2.2 in_X0 S.2.2.2.1 hK hP 0 rfl rfl 5 (by decide) (S.2.2.2.2 _ q30) (fun _ h9 => h9) rfl hdg kk
theorem xg_di (S : CallFix p m c cc nL s args lw_all RX0) (hK : va_K D vwCl (tyZ zC iC) s) (hP : va_P D vwCl (wX ad zC iC M) H) (hdg : decode cc pc = .ok (.getfield 20, 3)) (kk : W p l e R s m args below meth c H locs cells slots Q (F0 m (pc + 3) ls (.ref (ad 3) :: rest))) : W p l e R s m args below meth c H locs cells slots Q (F0 m pc ls (.ref (ad 0) :: rest)) :=
  va_get (D := D) (ci := 0) (v := .ref (ad 3)) (C := RX0) (T := TX0) (N := 11) S.1 S.2.1 S.2.2.2.2 in_X0 S.2.2.2.1 hK hP 0 rfl rfl 6 (by decide) (S.2.2.2.2 _ q31) (fun _ h9 => h9) rfl hdg kk
theorem xg_kc (S : CallFix p m c cc nL s args lw_all RX0) (hK : va_K D vwCl (tyZ zC iC) s) (hP : va_P D vwCl (wX ad zC iC M) H) (hdg : decode cc pc = .ok (.getfield 24, 3)) (kk : W p l e R s m args below meth c H locs cells slots Q (F0 m (pc + 3) ls (.ref (ad 4) :: rest))) : W p l e R s m args below meth c H locs cells slots Q (F0 m pc ls (.ref (ad 0) :: rest)) :=
  va_get (D := D) (ci := 0) (v := .ref (ad 4)) (C := RX0) (T := TX0) (N := 11) S.1 S.2.1 S.2.2.2.2 in_X0 S.2.2.2.1 hK hP 0 rfl rfl 7 (by decide) (S.2.2.2.2 _ q32) (fun _ h9 => h9) rfl hdg kk
theorem xg_ti (S : CallFix p m c cc nL s args lw_all RX0) (hK : va_K D vwCl (tyZ zC iC) s) (hP : va_P D vwCl (wX ad zC iC M) H) (hdg : decode cc pc = .ok (.getfield 27, 3)) (kk : W p l e R s m args below meth c H locs cells slots Q (F0 m (pc + 3) ls (.ref (ad 5) :: rest))) : W p l e R s m args below meth c H locs cells slots Q (F0 m pc ls (.ref (ad 0) :: rest)) :=
  va_get (D := D) (ci := 0) (v := .ref (ad 5)) (C := RX0) (T := TX0) (N := 11) S.1 S.2.1 S.2.2.2.2 in_X0 S.2.2.2.1 hK hP 0 rfl rfl 8 (by decide) (S.2.2.2.2 _ q33) (fun _ h9 => h9) rfl hdg kk
theorem xg_row (S : CallFix p m c cc nL s args lw_all RX0) (hK : va_K D vwCl (tyZ zC iC) s) (hP : va_P D vwCl (wX ad zC iC M) H) (hdg : decode cc pc = .ok (.getfield 30, 3)) (kk : W p l e R s m args below meth c H locs cells slots Q (F0 m (pc + 3) ls (.ref (ad 6) :: rest))) : W p l e R s m args below meth c H locs cells slots Q (F0 m pc ls (.ref (ad 0) :: rest)) :=
  va_get (D := D) (ci := 0) (v := .ref (ad 6)) (C := RX0) (T := TX0) (N := 11) S.1 S.2.1 S.2.2.2.2 in_X0 S.2.2.2.1 hK hP 0 rfl rfl 9 (by decide) (S.2.2.2.2 _ q34) (fun _ h9 => h9) rfl hdg kk
theorem xg_said (S : CallFix p m c cc nL s args lw_all RX0) (hK : va_K D vwCl (tyZ zC iC) s) (hP : va_P D vwCl (wX ad zC iC M) H) (hdg : decode cc pc = .ok (.getfield 65, 3)) (kk : W p l e R s m args below meth c H locs cells slots Q (F0 m (pc + 3) ls (.int (nI (m_said M)) :: rest))) : W p l e R s m args below meth c H locs cells slots Q (F0 m pc ls (.ref (ad 0) :: rest)) :=
  va_get (D := D) (ci := 0) (v := .int (nI (m_said M))) (C := RX0) (T := TX0) (N := 11) S.1 S.2.1 S.2.2.2.2 in_X0 S.2.2.2.1 hK hP 0 rfl rfl 10 (by decide) (S.2.2.2.2 _ q35) (fun _ h9 => h9) rfl hdg kk
theorem xp_time {v : Nat} (S : CallFix p m c cc nL s args lw_all RX0) (hK : va_K D vwCl (tyZ zC iC) s) (hP : va_P D vwCl (wX ad zC iC M) H) (hD : va_D A (wX ad zC iC M)) (hS : va_S A s.heap H locs) (hdg : decode cc pc = .ok (.putfield 33, 3)) (kk : ∀ (H1 : Heap) (locs1 : List Loc), va_P D vwCl (wX ad zC iC (n_time M v)) H1 → va_D A (wX ad zC iC (n_time M v)) → va_S A s.heap H1 locs1 → W p l e R s m args below meth c H1 locs1 cells slots Q (F0 m (pc + 3) ls rest)) : W p l e R s m args below meth c H locs cells slots Q (F0 m pc ls (.int (nI v) :: .ref (ad 0) :: rest)) :=
  va_put (D := D) (ci := 0) (v := .int (nI v)) (ty := .int) (C := RX0) (T := TX0) (N := 11) S.1 S.2.1 S.2.2.2.2 in_X0 tyX0 tyX0_ok nmX0 S.2.2.2.1 hK hP hD hS 0 rfl rfl 0 (by decide) (S.2.2.2.2 _ q25) (fun _ h9 => h9) rfl (by decide +kernel) rfl rfl (Nat.le_of_ble_eq_true rfl) hdg kk
theorem xp_all {v : Int32} (S : CallFix p m c cc nL s args lw_all RX0) (hK : va_K D vwCl (tyZ zC iC) s) (hP : va_P D vwCl (wX ad zC iC M) H) (hD : va_D A (wX ad zC iC M)) (hS : va_S A s.heap H locs) (hdg : decode cc pc = .ok (.putfield 68, 3)) (kk : ∀ (H1 : Heap) (locs1 : List Loc), va_P D vwCl (wX ad zC iC (n_all M v)) H1 → va_D A (wX ad zC iC (n_all M v)) → va_S A s.heap H1 locs1 → W p l e R s m args below meth c H1 locs1 cells slots Q (F0 m (pc + 3) ls rest)) : W p l e R s m args below meth c H locs cells slots Q (F0 m pc ls (.int v :: .ref (ad 0) :: rest)) :=
  va_put (D := D) (ci := 0) (v := .int v) (ty := .int) (C := RX0) (T := TX0) (N := 11) S.1 S.2.1 S.2.2.2.2 in_X0 tyX0 tyX0_ok nmX0 S.2.2.2.1 hK hP hD hS 0 rfl rfl 1 (by decide) (S.2.2.2.2 _ q26) (fun _ h9 => h9) rfl (by decide +kernel) rfl rfl (Nat.le_of_ble_eq_true rfl) hdg kk
theorem xp_there {k : Nat} {v : Bool} (S : CallFix p m c cc nL s args lw_all RX0) (hK : va_K D vwCl (tyZ zC iC) s) (hP : va_P D vwCl (wX ad zC iC M) H) (hD : va_D A (wX ad zC iC M)) (hS : va_S A s.heap H locs) (hdg : decode cc pc = .ok (.putfield 7, 3)) (kk : ∀ (H1 : Heap) (locs1 : List Loc), va_P D vwCl (wX ad zC iC (n_there M k v)) H1 → va_D A (wX ad zC iC (n_there M k v)) → va_S A s.heap H1 locs1 → W p l e R s m args below meth c H1 locs1 cells slots Q (F0 m (pc + 3) ls rest)) : W p l e R s m args below meth c H locs cells slots Q (F0 m pc ls (.int (nI (mb_mk (va_up (m_there M) k v) 10)) :: .ref (ad 0) :: rest)) :=
  va_put (D := D) (ci := 0) (v := .int (nI (mb_mk (va_up (m_there M) k v) 10))) (ty := .int) (C := RX0) (T := TX0) (N := 11) S.1 S.2.1 S.2.2.2.2 in_X0 tyX0 tyX0_ok nmX0 S.2.2.2.1 hK hP hD hS 0 rfl rfl 2 (by decide) (S.2.2.2.2 _ q27) (fun _ h9 => h9) rfl (by decide +kernel) rfl rfl (Nat.le_of_ble_eq_true rfl) hdg kk
theorem xp_deaf {k : Nat} {v : Bool} (S : CallFix p m c cc nL s args lw_all RX0) (hK : va_K D vwCl (tyZ zC iC) s) (hP : va_P D vwCl (wX ad zC iC M) H) (hD : va_D A (wX ad zC iC M)) (hS : va_S A s.heap H locs) (hdg : decode cc pc = .ok (.putfield 48, 3)) (kk : ∀ (H1 : Heap) (locs1 : List Loc), va_P D vwCl (wX ad zC iC (n_deaf M k v)) H1 → va_D A (wX ad zC iC (n_deaf M k v)) → va_S A s.heap H1 locs1 → W p l e R s m args below meth c H1 locs1 cells slots Q (F0 m (pc + 3) ls rest)) : W p l e R s m args below meth c H locs cells slots Q (F0 m pc ls (.int (nI (mb_mk (va_up (m_deaf M) k v) 10)) :: .ref (ad 0) :: rest)) :=
  va_put (D := D) (ci := 0) (v := .int (nI (mb_mk (va_up (m_deaf M) k v) 10))) (ty := .int) (C := RX0) (T := TX0) (N := 11) S.1 S.2.1 S.2.2.2.2 in_X0 tyX0 tyX0_ok nmX0 S.2.2.2.1 hK hP hD hS 0 rfl rfl 3 (by decide) (S.2.2.2.2 _ q28) (fun _ h9 => h9) rfl (by decide +kernel) rfl rfl (Nat.le_of_ble_eq_true rfl) hdg kk
theorem xp_said {v : Nat} (S : CallFix p m c cc nL s args lw_all RX0) (hK : va_K D vwCl (tyZ zC iC) s) (hP : va_P D vwCl (wX ad zC iC M) H) (hD : va_D A (wX ad zC iC M)) (hS : va_S A s.heap H locs) (hdg : decode cc pc = .ok (.putfield 65, 3)) (kk : ∀ (H1 : Heap) (locs1 : List Loc), va_P D vwCl (wX ad zC iC (n_said M v)) H1 → va_D A (wX ad zC iC (n_said M v)) → va_S A s.heap H1 locs1 → W p l e R s m args below meth c H1 locs1 cells slots Q (F0 m (pc + 3) ls rest)) : W p l e R s m args below meth c H locs cells slots Q (F0 m pc ls (.int (nI v) :: .ref (ad 0) :: rest)) :=
  va_put (D := D) (ci := 0) (v := .int (nI v)) (ty := .int) (C := RX0) (T := TX0) (N := 11) S.1 S.2.1 S.2.2.2.2 in_X0 tyX0 tyX0_ok nmX0 S.2.2.2.1 hK hP hD hS 0 rfl rfl 10 (by decide) (S.2.2.2.2 _ q35) (fun _ h9 => h9) rfl (by decide +kernel) rfl rfl (Nat.le_of_ble_eq_true rfl) hdg kk
theorem xl_fw {k : Nat} (hk : k < 160) (S : CallFix p m c cc nL s args lw_all RX0) (hK : va_K D vwCl (tyZ zC iC) s) (hP : va_P D vwCl (wX ad zC iC M) H) (hdg : decode cc pc = .ok (.baload, 1)) (kk : W p l e R s m args below meth c H locs cells slots Q (F0 m (pc + 1) ls (.int (b2i (m_fw M k)) :: rest))) : W p l e R s m args below meth c H locs cells slots Q (F0 m pc ls (.int (nI k) :: .ref (ad 1) :: rest)) := by
  refine va_zald (D := D) S.1 S.2.1 hK hP 1 0 rfl rfl (vp_in_nI hk (by decide)) hdg ?_
  rw [nI_clamp (by omega)]
  exact kk
theorem xs_fw {k : Nat} {v : Bool} (hk : k < 160) (S : CallFix p m c cc nL s args lw_all RX0) (hK : va_K D vwCl (tyZ zC iC) s) (hP : va_P D vwCl (wX ad zC iC M) H) (hD : va_D A (wX ad zC iC M)) (hS : va_S A s.heap H locs) (hdg : decode cc pc = .ok (.bastore, 1)) (kk : ∀ (H1 : Heap) (locs1 : List Loc), va_P D vwCl (wX ad zC iC (n_fw M k v)) H1 → va_D A (wX ad zC iC (n_fw M k v)) → va_S A s.heap H1 locs1 → W p l e R s m args below meth c H1 locs1 cells slots Q (F0 m (pc + 1) ls rest)) : W p l e R s m args below meth c H locs cells slots Q (F0 m pc ls (.int (b2i v) :: .int (nI k) :: .ref (ad 1) :: rest)) := by
  refine va_zast (D := D) S.1 S.2.1 hK hP hD hS 1 0 rfl rfl (vp_in_nI hk (by decide)) hdg (fun H1 locs1 h1 h2 h3 => ?_)
  rw [nI_clamp (by omega), b2i_vn, up_b2i (m_fw M) k v] at h1 h2
  exact kk H1 locs1 h1 h2 h3
theorem xl_st {k : Nat} (hk : k < 160) (S : CallFix p m c cc nL s args lw_all RX0) (hK : va_K D vwCl (tyZ zC iC) s) (hP : va_P D vwCl (wX ad zC iC M) H) (hdg : decode cc pc = .ok (.baload, 1)) (kk : W p l e R s m args below meth c H locs cells slots Q (F0 m (pc + 1) ls (.int (b2i (m_st M k)) :: rest))) : W p l e R s m args below meth c H locs cells slots Q (F0 m pc ls (.int (nI k) :: .ref (ad 2) :: rest)) := by
  refine va_zald (D := D) S.1 S.2.1 hK hP 2 0 rfl rfl (vp_in_nI hk (by decide)) hdg ?_
  rw [nI_clamp (by omega)]
  exact kk
theorem xs_st {k : Nat} {v : Bool} (hk : k < 160) (S : CallFix p m c cc nL s args lw_all RX0) (hK : va_K D vwCl (tyZ zC iC) s) (hP : va_P D vwCl (wX ad zC iC M) H) (hD : va_D A (wX ad zC iC M)) (hS : va_S A s.heap H locs) (hdg : decode cc pc = .ok (.bastore, 1)) (kk : ∀ (H1 : Heap) (locs1 : List Loc), va_P D vwCl (wX ad zC iC (n_st M k v)) H1 → va_D A (wX ad zC iC (n_st M k v)) → va_S A s.heap H1 locs1 → W p l e R s m args below meth c H1 locs1 cells slots Q (F0 m (pc + 1) ls rest)) : W p l e R s m args below meth c H locs cells slots Q (F0 m pc ls (.int (b2i v) :: .int (nI k) :: .ref (ad 2) :: rest)) := by
  refine va_zast (D := D) S.1 S.2.1 hK hP hD hS 2 0 rfl rfl (vp_in_nI hk (by decide)) hdg (fun H1 locs1 h1 h2 h3 => ?_)
  rw [nI_clamp (by omega), b2i_vn, up_b2i (m_st M) k v] at h1 h2
  exact kk H1 locs1 h1 h2 h3
theorem xl_di {k : Nat} (hk : k < 160) (S : CallFix p m c cc nL s args lw_all RX0) (hK : va_K D vwCl (tyZ zC iC) s) (hP : va_P D vwCl (wX ad zC iC M) H) (hdg : decode cc pc = .ok (.iaload, 1)) (kk : W p l e R s m args below meth c H locs cells slots Q (F0 m (pc + 1) ls (.int (nI (m_di M k)) :: rest))) : W p l e R s m args below meth c H locs cells slots Q (F0 m pc ls (.int (nI k) :: .ref (ad 3) :: rest)) := by
  refine va_iald (D := D) S.1 S.2.1 hK hP 3 1 rfl rfl (vp_in_nI hk (by decide)) hdg ?_
  rw [nI_clamp (by omega)]
  exact kk
theorem xs_di {k : Nat} {v : Nat} (hk : k < 160) (S : CallFix p m c cc nL s args lw_all RX0) (hK : va_K D vwCl (tyZ zC iC) s) (hP : va_P D vwCl (wX ad zC iC M) H) (hD : va_D A (wX ad zC iC M)) (hS : va_S A s.heap H locs) (hdg : decode cc pc = .ok (.iastore, 1)) (kk : ∀ (H1 : Heap) (locs1 : List Loc), va_P D vwCl (wX ad zC iC (n_di M k v)) H1 → va_D A (wX ad zC iC (n_di M k v)) → va_S A s.heap H1 locs1 → W p l e R s m args below meth c H1 locs1 cells slots Q (F0 m (pc + 1) ls rest)) : W p l e R s m args below meth c H locs cells slots Q (F0 m pc ls (.int (nI v) :: .int (nI k) :: .ref (ad 3) :: rest)) := by
  refine va_iast (D := D) S.1 S.2.1 hK hP hD hS 3 1 rfl rfl (vp_in_nI hk (by decide)) hdg (fun H1 locs1 h1 h2 h3 => ?_)
  rw [nI_clamp (by omega), up_nI (m_di M) k v] at h1 h2
  exact kk H1 locs1 h1 h2 h3
theorem xl_kc {k : Nat} (hk : k < 160) (S : CallFix p m c cc nL s args lw_all RX0) (hK : va_K D vwCl (tyZ zC iC) s) (hP : va_P D vwCl (wX ad zC iC M) H) (hdg : decode cc pc = .ok (.iaload, 1)) (kk : W p l e R s m args below meth c H locs cells slots Q (F0 m (pc + 1) ls (.int (nI (m_kc M k)) :: rest))) : W p l e R s m args below meth c H locs cells slots Q (F0 m pc ls (.int (nI k) :: .ref (ad 4) :: rest)) := by
  refine va_iald (D := D) S.1 S.2.1 hK hP 4 1 rfl rfl (vp_in_nI hk (by decide)) hdg ?_
  rw [nI_clamp (by omega)]
  exact kk
theorem xs_kc {k : Nat} {v : Nat} (hk : k < 160) (S : CallFix p m c cc nL s args lw_all RX0) (hK : va_K D vwCl (tyZ zC iC) s) (hP : va_P D vwCl (wX ad zC iC M) H) (hD : va_D A (wX ad zC iC M)) (hS : va_S A s.heap H locs) (hdg : decode cc pc = .ok (.iastore, 1)) (kk : ∀ (H1 : Heap) (locs1 : List Loc), va_P D vwCl (wX ad zC iC (n_kc M k v)) H1 → va_D A (wX ad zC iC (n_kc M k v)) → va_S A s.heap H1 locs1 → W p l e R s m args below meth c H1 locs1 cells slots Q (F0 m (pc + 1) ls rest)) : W p l e R s m args below meth c H locs cells slots Q (F0 m pc ls (.int (nI v) :: .int (nI k) :: .ref (ad 4) :: rest)) := by
  refine va_iast (D := D) S.1 S.2.1 hK hP hD hS 4 1 rfl rfl (vp_in_nI hk (by decide)) hdg (fun H1 locs1 h1 h2 h3 => ?_)
  rw [nI_clamp (by omega), up_nI (m_kc M) k v] at h1 h2
  exact kk H1 locs1 h1 h2 h3
theorem xl_ti {k : Nat} (hk : k < 160) (S : CallFix p m c cc nL s args lw_all RX0) (hK : va_K D vwCl (tyZ zC iC) s) (hP : va_P D vwCl (wX ad zC iC M) H) (hdg : decode cc pc = .ok (.iaload, 1)) (kk : W p l e R s m args below meth c H locs cells slots Q (F0 m (pc + 1) ls (.int (nI (m_ti M k)) :: rest))) : W p l e R s m args below meth c H locs cells slots Q (F0 m pc ls (.int (nI k) :: .ref (ad 5) :: rest)) := by
  refine va_iald (D := D) S.1 S.2.1 hK hP 5 1 rfl rfl (vp_in_nI hk (by decide)) hdg ?_
  rw [nI_clamp (by omega)]
  exact kk
theorem xs_ti {k : Nat} {v : Nat} (hk : k < 160) (S : CallFix p m c cc nL s args lw_all RX0) (hK : va_K D vwCl (tyZ zC iC) s) (hP : va_P D vwCl (wX ad zC iC M) H) (hD : va_D A (wX ad zC iC M)) (hS : va_S A s.heap H locs) (hdg : decode cc pc = .ok (.iastore, 1)) (kk : ∀ (H1 : Heap) (locs1 : List Loc), va_P D vwCl (wX ad zC iC (n_ti M k v)) H1 → va_D A (wX ad zC iC (n_ti M k v)) → va_S A s.heap H1 locs1 → W p l e R s m args below meth c H1 locs1 cells slots Q (F0 m (pc + 1) ls rest)) : W p l e R s m args below meth c H locs cells slots Q (F0 m pc ls (.int (nI v) :: .int (nI k) :: .ref (ad 5) :: rest)) := by
  refine va_iast (D := D) S.1 S.2.1 hK hP hD hS 5 1 rfl rfl (vp_in_nI hk (by decide)) hdg (fun H1 locs1 h1 h2 h3 => ?_)
  rw [nI_clamp (by omega), up_nI (m_ti M) k v] at h1 h2
  exact kk H1 locs1 h1 h2 h3
theorem xl_row {k : Nat} (hk : k < 1024) (S : CallFix p m c cc nL s args lw_all RX0) (hK : va_K D vwCl (tyZ zC iC) s) (hP : va_P D vwCl (wX ad zC iC M) H) (hdg : decode cc pc = .ok (.iaload, 1)) (kk : W p l e R s m args below meth c H locs cells slots Q (F0 m (pc + 1) ls (.int (nI (m_row M k)) :: rest))) : W p l e R s m args below meth c H locs cells slots Q (F0 m pc ls (.int (nI k) :: .ref (ad 6) :: rest)) := by
  refine va_iald (D := D) S.1 S.2.1 hK hP 6 1 rfl rfl (vp_in_nI hk (by decide)) hdg ?_
  rw [nI_clamp (by omega)]
  exact kk
theorem xs_row {k : Nat} {v : Nat} (hk : k < 1024) (S : CallFix p m c cc nL s args lw_all RX0) (hK : va_K D vwCl (tyZ zC iC) s) (hP : va_P D vwCl (wX ad zC iC M) H) (hD : va_D A (wX ad zC iC M)) (hS : va_S A s.heap H locs) (hdg : decode cc pc = .ok (.iastore, 1)) (kk : ∀ (H1 : Heap) (locs1 : List Loc), va_P D vwCl (wX ad zC iC (n_row M k v)) H1 → va_D A (wX ad zC iC (n_row M k v)) → va_S A s.heap H1 locs1 → W p l e R s m args below meth c H1 locs1 cells slots Q (F0 m (pc + 1) ls rest)) : W p l e R s m args below meth c H locs cells slots Q (F0 m pc ls (.int (nI v) :: .int (nI k) :: .ref (ad 6) :: rest)) := by
  refine va_iast (D := D) S.1 S.2.1 hK hP hD hS 6 1 rfl rfl (vp_in_nI hk (by decide)) hdg (fun H1 locs1 h1 h2 h3 => ?_)
  rw [nI_clamp (by omega), up_nI (m_row M) k v] at h1 h2
  exact kk H1 locs1 h1 h2 h3
theorem yg_time (S : CallFix p m c cc nL s args lw_all RX1) (hK : va_K D vwCl (tyZ zC iC) s) (hP : va_P D vwCl (wY ad zC iC K M) H) (hdg : decode cc pc = .ok (.getfield 39, 3)) (kk : W p l e R s m args below meth c H locs cells slots Q (F0 m (pc + 3) ls (.int (nI (m_time M)) :: rest))) : W p l e R s m args below meth c H locs cells slots Q (F0 m pc ls (.ref (ad 0) :: rest)) :=
  va_get (D := D) (ci := 1) (v := .int (nI (m_time M))) (C := RX1) (T := TX1) (N := 11) S.1 S.2.1 S.2.2.2.2 in_X1 S.2.2.2.1 hK hP 0 rfl rfl 0 (by decide) (S.2.2.2.2 _ q158) (fun _ h9 => h9) rfl hdg kk
theorem yg_all (S : CallFix p m c cc nL s args lw_all RX1) (hK : va_K D vwCl (tyZ zC iC) s) (hP : va_P D vwCl (wY ad zC iC K M) H) (hdg : decode cc pc = .ok (.getfield 65, 3)) (kk : W p l e R s m args below meth c H locs cells slots Q (F0 m (pc + 3) ls (.int (m_all M) :: rest))) : W p l e R s m args below meth c H locs cells slots Q (F0 m pc ls (.ref (ad 0) :: rest)) :=
  va_get (D := D) (ci := 1) (v := .int (m_all M)) (C := RX1) (T := TX1) (N := 11) S.1 S.2.1 S.2.2.2.2 in_X1 S.2.2.2.1 hK hP 0 rfl rfl 1 (by decide) (S.2.2.2.2 _ q159) (fun _ h9 => h9) rfl hdg kk
theorem yg_gone (S : CallFix p m c cc nL s args lw_all RX1) (hK : va_K D vwCl (tyZ zC iC) s) (hP : va_P D vwCl (wY ad zC iC K M) H) (hdg : decode cc pc = .ok (.getfield 7, 3)) (kk : W p l e R s m args below meth c H locs cells slots Q (F0 m (pc + 3) ls (.ref (ad 1) :: rest))) : W p l e R s m args below meth c H locs cells slots Q (F0 m pc ls (.ref (ad 0) :: rest)) :=
  va_get (D := D) (ci := 1) (v := .ref (ad 1)) (C := RX1) (T := TX1) (N := 11) S.1 S.2.1 S.2.2.2.2 in_X1 S.2.2.2.1 hK hP 0 rfl rfl 2 (by decide) (S.2.2.2.2 _ q160) (fun _ h9 => h9) rfl hdg kk
theorem yg_deaf (S : CallFix p m c cc nL s args lw_all RX1) (hK : va_K D vwCl (tyZ zC iC) s) (hP : va_P D vwCl (wY ad zC iC K M) H) (hdg : decode cc pc = .ok (.getfield 13, 3)) (kk : W p l e R s m args below meth c H locs cells slots Q (F0 m (pc + 3) ls (.ref (ad 2) :: rest))) : W p l e R s m args below meth c H locs cells slots Q (F0 m pc ls (.ref (ad 0) :: rest)) :=
  va_get (D := D) (ci := 1) (v := .ref (ad 2)) (C := RX1) (T := TX1) (N := 11) S.1 S.2.1 S.2.2.2.2 in_X1 S.2.2.2.1 hK hP 0 rfl rfl 3 (by decide) (S.2.2.2.2 _ q161) (fun _ h9 => h9) rfl hdg kk
theorem yg_fw (S : CallFix p m c cc nL s args lw_all RX1) (hK : va_K D vwCl (tyZ zC iC) s) (hP : va_P D vwCl (wY ad zC iC K M) H) (hdg : decode cc pc = .ok (.getfield 16, 3)) (kk : W p l e R s m args below meth c H locs cells slots Q (F0 m (pc + 3) ls (.ref (ad 3) :: rest))) : W p l e R s m args below meth c H locs cells slots Q (F0 m pc ls (.ref (ad 0) :: rest)) :=
  va_get (D := D) (ci := 1) (v := .ref (ad 3)) (C := RX1) (T := TX1) (N := 11) S.1 S.2.1 S.2.2.2.2 in_X1 S.2.2.2.1 hK hP 0 rfl rfl 4 (by decide) (S.2.2.2.2 _ q162) (fun _ h9 => h9) rfl hdg kk
theorem yg_st (S : CallFix p m c cc nL s args lw_all RX1) (hK : va_K D vwCl (tyZ zC iC) s) (hP : va_P D vwCl (wY ad zC iC K M) H) (hdg : decode cc pc = .ok (.getfield 19, 3)) (kk : W p l e R s m args below meth c H locs cells slots Q (F0 m (pc + 3) ls (.ref (ad 4) :: rest))) : W p l e R s m args below meth c H locs cells slots Q (F0 m pc ls (.ref (ad 0) :: rest)) :=
  va_get (D := D) (ci := 1) (v := .ref (ad 4)) (C := RX1) (T := TX1) (N := 11) S.1 S.2.1 S.2.2.2.2 in_X1 S.2.2.2.1 hK hP 0 rfl rfl 5 (by decide) (S.2.2.2.2 _ q163) (fun _ h9 => h9) rfl hdg kk
theorem yg_di (S : CallFix p m c cc nL s args lw_all RX1) (hK : va_K D vwCl (tyZ zC iC) s) (hP : va_P D vwCl (wY ad zC iC K M) H) (hdg : decode cc pc = .ok (.getfield 22, 3)) (kk : W p l e R s m args below meth c H locs cells slots Q (F0 m (pc + 3) ls (.ref (ad 5) :: rest))) : W p l e R s m args below meth c H locs cells slots Q (F0 m pc ls (.ref (ad 0) :: rest)) :=
  va_get (D := D) (ci := 1) (v := .ref (ad 5)) (C := RX1) (T := TX1) (N := 11) S.1 S.2.1 S.2.2.2.2 in_X1 S.2.2.2.1 hK hP 0 rfl rfl 6 (by decide) (S.2.2.2.2 _ q164) (fun _ h9 => h9) rfl hdg kk
theorem yg_kc (S : CallFix p m c cc nL s args lw_all RX1) (hK : va_K D vwCl (tyZ zC iC) s) (hP : va_P D vwCl (wY ad zC iC K M) H) (hdg : decode cc pc = .ok (.getfield 26, 3)) (kk : W p l e R s m args below meth c H locs cells slots Q (F0 m (pc + 3) ls (.ref (ad 6) :: rest))) : W p l e R s m args below meth c H locs cells slots Q (F0 m pc ls (.ref (ad 0) :: rest)) :=
  va_get (D := D) (ci := 1) (v := .ref (ad 6)) (C := RX1) (T := TX1) (N := 11) S.1 S.2.1 S.2.2.2.2 in_X1 S.2.2.2.1 hK hP 0 rfl rfl 7 (by decide) (S.2.2.2.2 _ q165) (fun _ h9 => h9) rfl hdg kk
theorem yg_ti (S : CallFix p m c cc nL s args lw_all RX1) (hK : va_K D vwCl (tyZ zC iC) s) (hP : va_P D vwCl (wY ad zC iC K M) H) (hdg : decode cc pc = .ok (.getfield 29, 3)) (kk : W p l e R s m args below meth c H locs cells slots Q (F0 m (pc + 3) ls (.ref (ad 7) :: rest))) : W p l e R s m args below meth c H locs cells slots Q (F0 m pc ls (.ref (ad 0) :: rest)) :=
  va_get (D := D) (ci := 1) (v := .ref (ad 7)) (C := RX1) (T := TX1) (N := 11) S.1 S.2.1 S.2.2.2.2 in_X1 S.2.2.2.1 hK hP 0 rfl rfl 8 (by decide) (S.2.2.2.2 _ q166) (fun _ h9 => h9) rfl hdg kk
theorem yg_row (S : CallFix p m c cc nL s args lw_all RX1) (hK : va_K D vwCl (tyZ zC iC) s) (hP : va_P D vwCl (wY ad zC iC K M) H) (hdg : decode cc pc = .ok (.getfield 32, 3)) (kk : W p l e R s m args below meth c H locs cells slots Q (F0 m (pc + 3) ls (.ref (ad 8) :: rest))) : W p l e R s m args below meth c H locs cells slots Q (F0 m pc ls (.ref (ad 0) :: rest)) :=
  va_get (D := D) (ci := 1) (v := .ref (ad 8)) (C := RX1) (T := TX1) (N := 11) S.1 S.2.1 S.2.2.2.2 in_X1 S.2.2.2.1 hK hP 0 rfl rfl 9 (by decide) (S.2.2.2.2 _ q167) (fun _ h9 => h9) rfl hdg kk
theorem yg_said (S : CallFix p m c cc nL s args lw_all RX1) (hK : va_K D vwCl (tyZ zC iC) s) (hP : va_P D vwCl (wY ad zC iC K M) H) (hdg : decode cc pc = .ok (.getfield 62, 3)) (kk : W p l e R s m args below meth c H locs cells slots Q (F0 m (pc + 3) ls (.int (nI (m_said M)) :: rest))) : W p l e R s m args below meth c H locs cells slots Q (F0 m pc ls (.ref (ad 0) :: rest)) :=
  va_get (D := D) (ci := 1) (v := .int (nI (m_said M))) (C := RX1) (T := TX1) (N := 11) S.1 S.2.1 S.2.2.2.2 in_X1 S.2.2.2.1 hK hP 0 rfl rfl 10 (by decide) (S.2.2.2.2 _ q168) (fun _ h9 => h9) rfl hdg kk
theorem yp_time {v : Nat} (S : CallFix p m c cc nL s args lw_all RX1) (hK : va_K D vwCl (tyZ zC iC) s) (hP : va_P D vwCl (wY ad zC iC K M) H) (hD : va_D A (wY ad zC iC K M)) (hS : va_S A s.heap H locs) (hdg : decode cc pc = .ok (.putfield 39, 3)) (kk : ∀ (H1 : Heap) (locs1 : List Loc), va_P D vwCl (wY ad zC iC K (n_time M v)) H1 → va_D A (wY ad zC iC K (n_time M v)) → va_S A s.heap H1 locs1 → W p l e R s m args below meth c H1 locs1 cells slots Q (F0 m (pc + 3) ls rest)) : W p l e R s m args below meth c H locs cells slots Q (F0 m pc ls (.int (nI v) :: .ref (ad 0) :: rest)) :=
  va_put (D := D) (ci := 1) (v := .int (nI v)) (ty := .int) (C := RX1) (T := TX1) (N := 11) S.1 S.2.1 S.2.2.2.2 in_X1 tyX1 tyX1_ok nmX1 S.2.2.2.1 hK hP hD hS 0 rfl rfl 0 (by decide) (S.2.2.2.2 _ q158) (fun _ h9 => h9) rfl (by decide +kernel) rfl rfl (Nat.le_of_ble_eq_true rfl) hdg kk
theorem yp_all {v : Int32} (S : CallFix p m c cc nL s args lw_all RX1) (hK : va_K D vwCl (tyZ zC iC) s) (hP : va_P D vwCl (wY ad zC iC K M) H) (hD : va_D A (wY ad zC iC K M)) (hS : va_S A s.heap H locs) (hdg : decode cc pc = .ok (.putfield 65, 3)) (kk : ∀ (H1 : Heap) (locs1 : List Loc), va_P D vwCl (wY ad zC iC K (n_all M v)) H1 → va_D A (wY ad zC iC K (n_all M v)) → va_S A s.heap H1 locs1 → W p l e R s m args below meth c H1 locs1 cells slots Q (F0 m (pc + 3) ls rest)) : W p l e R s m args below meth c H locs cells slots Q (F0 m pc ls (.int v :: .ref (ad 0) :: rest)) :=
  va_put (D := D) (ci := 1) (v := .int v) (ty := .int) (C := RX1) (T := TX1) (N := 11) S.1 S.2.1 S.2.2.2.2 in_X1 tyX1 tyX1_ok nmX1 S.2.2.2.1 hK hP hD hS 0 rfl rfl 1 (by decide) (S.2.2.2.2 _ q159) (fun _ h9 => h9) rfl (by decide +kernel) rfl rfl (Nat.le_of_ble_eq_true rfl) hdg kk
theorem yp_said {v : Nat} (S : CallFix p m c cc nL s args lw_all RX1) (hK : va_K D vwCl (tyZ zC iC) s) (hP : va_P D vwCl (wY ad zC iC K M) H) (hD : va_D A (wY ad zC iC K M)) (hS : va_S A s.heap H locs) (hdg : decode cc pc = .ok (.putfield 62, 3)) (kk : ∀ (H1 : Heap) (locs1 : List Loc), va_P D vwCl (wY ad zC iC K (n_said M v)) H1 → va_D A (wY ad zC iC K (n_said M v)) → va_S A s.heap H1 locs1 → W p l e R s m args below meth c H1 locs1 cells slots Q (F0 m (pc + 3) ls rest)) : W p l e R s m args below meth c H locs cells slots Q (F0 m pc ls (.int (nI v) :: .ref (ad 0) :: rest)) :=
  va_put (D := D) (ci := 1) (v := .int (nI v)) (ty := .int) (C := RX1) (T := TX1) (N := 11) S.1 S.2.1 S.2.2.2.2 in_X1 tyX1 tyX1_ok nmX1 S.2.2.2.1 hK hP hD hS 0 rfl rfl 10 (by decide) (S.2.2.2.2 _ q168) (fun _ h9 => h9) rfl (by decide +kernel) rfl rfl (Nat.le_of_ble_eq_true rfl) hdg kk
theorem yl_gone {k : Nat} (hk : k < 10) (S : CallFix p m c cc nL s args lw_all RX1) (hK : va_K D vwCl (tyZ zC iC) s) (hP : va_P D vwCl (wY ad zC iC K M) H) (hdg : decode cc pc = .ok (.baload, 1)) (kk : W p l e R s m args below meth c H locs cells slots Q (F0 m (pc + 1) ls (.int (b2i (!m_there M k)) :: rest))) : W p l e R s m args below meth c H locs cells slots Q (F0 m pc ls (.int (nI k) :: .ref (ad 1) :: rest)) := by
  refine va_zald (D := D) S.1 S.2.1 hK hP 1 0 rfl rfl (vp_in_nI hk (by decide)) hdg ?_
  rw [nI_clamp (by omega)]
  exact kk
theorem ys_gone {k : Nat} {v : Bool} (hk : k < 10) (S : CallFix p m c cc nL s args lw_all RX1) (hK : va_K D vwCl (tyZ zC iC) s) (hP : va_P D vwCl (wY ad zC iC K M) H) (hD : va_D A (wY ad zC iC K M)) (hS : va_S A s.heap H locs) (hdg : decode cc pc = .ok (.bastore, 1)) (kk : ∀ (H1 : Heap) (locs1 : List Loc), va_P D vwCl (wY ad zC iC K (n_there M k v)) H1 → va_D A (wY ad zC iC K (n_there M k v)) → va_S A s.heap H1 locs1 → W p l e R s m args below meth c H1 locs1 cells slots Q (F0 m (pc + 1) ls rest)) : W p l e R s m args below meth c H locs cells slots Q (F0 m pc ls (.int (b2i (!v)) :: .int (nI k) :: .ref (ad 1) :: rest)) := by
  refine va_zast (D := D) S.1 S.2.1 hK hP hD hS 1 0 rfl rfl (vp_in_nI hk (by decide)) hdg (fun H1 locs1 h1 h2 h3 => ?_)
  rw [nI_clamp (by omega), b2i_vn, up_b2n (m_there M) k v] at h1 h2
  exact kk H1 locs1 h1 h2 h3
theorem yl_deaf {k : Nat} (hk : k < 10) (S : CallFix p m c cc nL s args lw_all RX1) (hK : va_K D vwCl (tyZ zC iC) s) (hP : va_P D vwCl (wY ad zC iC K M) H) (hdg : decode cc pc = .ok (.baload, 1)) (kk : W p l e R s m args below meth c H locs cells slots Q (F0 m (pc + 1) ls (.int (b2i (m_deaf M k)) :: rest))) : W p l e R s m args below meth c H locs cells slots Q (F0 m pc ls (.int (nI k) :: .ref (ad 2) :: rest)) := by
  refine va_zald (D := D) S.1 S.2.1 hK hP 2 0 rfl rfl (vp_in_nI hk (by decide)) hdg ?_
  rw [nI_clamp (by omega)]
  exact kk
theorem ys_deaf {k : Nat} {v : Bool} (hk : k < 10) (S : CallFix p m c cc nL s args lw_all RX1) (hK : va_K D vwCl (tyZ zC iC) s) (hP : va_P D vwCl (wY ad zC iC K M) H) (hD : va_D A (wY ad zC iC K M)) (hS : va_S A s.heap H locs) (hdg : decode cc pc = .ok (.bastore, 1)) (kk : ∀ (H1 : Heap) (locs1 : List Loc), va_P D vwCl (wY ad zC iC K (n_deaf M k v)) H1 → va_D A (wY ad zC iC K (n_deaf M k v)) → va_S A s.heap H1 locs1 → W p l e R s m args below meth c H1 locs1 cells slots Q (F0 m (pc + 1) ls rest)) : W p l e R s m args below meth c H locs cells slots Q (F0 m pc ls (.int (b2i v) :: .int (nI k) :: .ref (ad 2) :: rest)) := by
  refine va_zast (D := D) S.1 S.2.1 hK hP hD hS 2 0 rfl rfl (vp_in_nI hk (by decide)) hdg (fun H1 locs1 h1 h2 h3 => ?_)
  rw [nI_clamp (by omega), b2i_vn, up_b2i (m_deaf M) k v] at h1 h2
  exact kk H1 locs1 h1 h2 h3
theorem yl_fw {k : Nat} (hk : k < 160) (S : CallFix p m c cc nL s args lw_all RX1) (hK : va_K D vwCl (tyZ zC iC) s) (hP : va_P D vwCl (wY ad zC iC K M) H) (hdg : decode cc pc = .ok (.baload, 1)) (kk : W p l e R s m args below meth c H locs cells slots Q (F0 m (pc + 1) ls (.int (b2i (m_fw M k)) :: rest))) : W p l e R s m args below meth c H locs cells slots Q (F0 m pc ls (.int (nI k) :: .ref (ad 3) :: rest)) := by
  refine va_zald (D := D) S.1 S.2.1 hK hP 3 0 rfl rfl (vp_in_nI hk (by decide)) hdg ?_
  rw [nI_clamp (by omega)]
  exact kk
theorem ys_fw {k : Nat} {v : Bool} (hk : k < 160) (S : CallFix p m c cc nL s args lw_all RX1) (hK : va_K D vwCl (tyZ zC iC) s) (hP : va_P D vwCl (wY ad zC iC K M) H) (hD : va_D A (wY ad zC iC K M)) (hS : va_S A s.heap H locs) (hdg : decode cc pc = .ok (.bastore, 1)) (kk : ∀ (H1 : Heap) (locs1 : List Loc), va_P D vwCl (wY ad zC iC K (n_fw M k v)) H1 → va_D A (wY ad zC iC K (n_fw M k v)) → va_S A s.heap H1 locs1 → W p l e R s m args below meth c H1 locs1 cells slots Q (F0 m (pc + 1) ls rest)) : W p l e R s m args below meth c H locs cells slots Q (F0 m pc ls (.int (b2i v) :: .int (nI k) :: .ref (ad 3) :: rest)) := by
  refine va_zast (D := D) S.1 S.2.1 hK hP hD hS 3 0 rfl rfl (vp_in_nI hk (by decide)) hdg (fun H1 locs1 h1 h2 h3 => ?_)
  rw [nI_clamp (by omega), b2i_vn, up_b2i (m_fw M) k v] at h1 h2
  exact kk H1 locs1 h1 h2 h3
theorem yl_st {k : Nat} (hk : k < 160) (S : CallFix p m c cc nL s args lw_all RX1) (hK : va_K D vwCl (tyZ zC iC) s) (hP : va_P D vwCl (wY ad zC iC K M) H) (hdg : decode cc pc = .ok (.baload, 1)) (kk : W p l e R s m args below meth c H locs cells slots Q (F0 m (pc + 1) ls (.int (b2i (m_st M k)) :: rest))) : W p l e R s m args below meth c H locs cells slots Q (F0 m pc ls (.int (nI k) :: .ref (ad 4) :: rest)) := by
  refine va_zald (D := D) S.1 S.2.1 hK hP 4 0 rfl rfl (vp_in_nI hk (by decide)) hdg ?_
  rw [nI_clamp (by omega)]
  exact kk
theorem ys_st {k : Nat} {v : Bool} (hk : k < 160) (S : CallFix p m c cc nL s args lw_all RX1) (hK : va_K D vwCl (tyZ zC iC) s) (hP : va_P D vwCl (wY ad zC iC K M) H) (hD : va_D A (wY ad zC iC K M)) (hS : va_S A s.heap H locs) (hdg : decode cc pc = .ok (.bastore, 1)) (kk : ∀ (H1 : Heap) (locs1 : List Loc), va_P D vwCl (wY ad zC iC K (n_st M k v)) H1 → va_D A (wY ad zC iC K (n_st M k v)) → va_S A s.heap H1 locs1 → W p l e R s m args below meth c H1 locs1 cells slots Q (F0 m (pc + 1) ls rest)) : W p l e R s m args below meth c H locs cells slots Q (F0 m pc ls (.int (b2i v) :: .int (nI k) :: .ref (ad 4) :: rest)) := by
  refine va_zast (D := D) S.1 S.2.1 hK hP hD hS 4 0 rfl rfl (vp_in_nI hk (by decide)) hdg (fun H1 locs1 h1 h2 h3 => ?_)
  rw [nI_clamp (by omega), b2i_vn, up_b2i (m_st M) k v] at h1 h2
  exact kk H1 locs1 h1 h2 h3
theorem yl_di {k : Nat} (hk : k < 160) (S : CallFix p m c cc nL s args lw_all RX1) (hK : va_K D vwCl (tyZ zC iC) s) (hP : va_P D vwCl (wY ad zC iC K M) H) (hdg : decode cc pc = .ok (.iaload, 1)) (kk : W p l e R s m args below meth c H locs cells slots Q (F0 m (pc + 1) ls (.int (nI (m_di M k)) :: rest))) : W p l e R s m args below meth c H locs cells slots Q (F0 m pc ls (.int (nI k) :: .ref (ad 5) :: rest)) := by
  refine va_iald (D := D) S.1 S.2.1 hK hP 5 1 rfl rfl (vp_in_nI hk (by decide)) hdg ?_
  rw [nI_clamp (by omega)]
  exact kk
theorem ys_di {k : Nat} {v : Nat} (hk : k < 160) (S : CallFix p m c cc nL s args lw_all RX1) (hK : va_K D vwCl (tyZ zC iC) s) (hP : va_P D vwCl (wY ad zC iC K M) H) (hD : va_D A (wY ad zC iC K M)) (hS : va_S A s.heap H locs) (hdg : decode cc pc = .ok (.iastore, 1)) (kk : ∀ (H1 : Heap) (locs1 : List Loc), va_P D vwCl (wY ad zC iC K (n_di M k v)) H1 → va_D A (wY ad zC iC K (n_di M k v)) → va_S A s.heap H1 locs1 → W p l e R s m args below meth c H1 locs1 cells slots Q (F0 m (pc + 1) ls rest)) : W p l e R s m args below meth c H locs cells slots Q (F0 m pc ls (.int (nI v) :: .int (nI k) :: .ref (ad 5) :: rest)) := by
  refine va_iast (D := D) S.1 S.2.1 hK hP hD hS 5 1 rfl rfl (vp_in_nI hk (by decide)) hdg (fun H1 locs1 h1 h2 h3 => ?_)
  rw [nI_clamp (by omega), up_nI (m_di M) k v] at h1 h2
  exact kk H1 locs1 h1 h2 h3
theorem yl_ti {k : Nat} (hk : k < 160) (S : CallFix p m c cc nL s args lw_all RX1) (hK : va_K D vwCl (tyZ zC iC) s) (hP : va_P D vwCl (wY ad zC iC K M) H) (hdg : decode cc pc = .ok (.iaload, 1)) (kk : W p l e R s m args below meth c H locs cells slots Q (F0 m (pc + 1) ls (.int (nI (m_ti M k)) :: rest))) : W p l e R s m args below meth c H locs cells slots Q (F0 m pc ls (.int (nI k) :: .ref (ad 7) :: rest)) := by
  refine va_iald (D := D) S.1 S.2.1 hK hP 7 1 rfl rfl (vp_in_nI hk (by decide)) hdg ?_
  rw [nI_clamp (by omega)]
  exact kk
theorem ys_ti {k : Nat} {v : Nat} (hk : k < 160) (S : CallFix p m c cc nL s args lw_all RX1) (hK : va_K D vwCl (tyZ zC iC) s) (hP : va_P D vwCl (wY ad zC iC K M) H) (hD : va_D A (wY ad zC iC K M)) (hS : va_S A s.heap H locs) (hdg : decode cc pc = .ok (.iastore, 1)) (kk : ∀ (H1 : Heap) (locs1 : List Loc), va_P D vwCl (wY ad zC iC K (n_ti M k v)) H1 → va_D A (wY ad zC iC K (n_ti M k v)) → va_S A s.heap H1 locs1 → W p l e R s m args below meth c H1 locs1 cells slots Q (F0 m (pc + 1) ls rest)) : W p l e R s m args below meth c H locs cells slots Q (F0 m pc ls (.int (nI v) :: .int (nI k) :: .ref (ad 7) :: rest)) := by
  refine va_iast (D := D) S.1 S.2.1 hK hP hD hS 7 1 rfl rfl (vp_in_nI hk (by decide)) hdg (fun H1 locs1 h1 h2 h3 => ?_)
  rw [nI_clamp (by omega), up_nI (m_ti M) k v] at h1 h2
  exact kk H1 locs1 h1 h2 h3
theorem yl_row {k : Nat} (hk : k < 1024) (S : CallFix p m c cc nL s args lw_all RX1) (hK : va_K D vwCl (tyZ zC iC) s) (hP : va_P D vwCl (wY ad zC iC K M) H) (hdg : decode cc pc = .ok (.iaload, 1)) (kk : W p l e R s m args below meth c H locs cells slots Q (F0 m (pc + 1) ls (.int (nI (m_row M k)) :: rest))) : W p l e R s m args below meth c H locs cells slots Q (F0 m pc ls (.int (nI k) :: .ref (ad 8) :: rest)) := by
  refine va_iald (D := D) S.1 S.2.1 hK hP 8 1 rfl rfl (vp_in_nI hk (by decide)) hdg ?_
  rw [nI_clamp (by omega)]
  exact kk
theorem ys_row {k : Nat} {v : Nat} (hk : k < 1024) (S : CallFix p m c cc nL s args lw_all RX1) (hK : va_K D vwCl (tyZ zC iC) s) (hP : va_P D vwCl (wY ad zC iC K M) H) (hD : va_D A (wY ad zC iC K M)) (hS : va_S A s.heap H locs) (hdg : decode cc pc = .ok (.iastore, 1)) (kk : ∀ (H1 : Heap) (locs1 : List Loc), va_P D vwCl (wY ad zC iC K (n_row M k v)) H1 → va_D A (wY ad zC iC K (n_row M k v)) → va_S A s.heap H1 locs1 → W p l e R s m args below meth c H1 locs1 cells slots Q (F0 m (pc + 1) ls rest)) : W p l e R s m args below meth c H locs cells slots Q (F0 m pc ls (.int (nI v) :: .int (nI k) :: .ref (ad 8) :: rest)) := by
  refine va_iast (D := D) S.1 S.2.1 hK hP hD hS 8 1 rfl rfl (vp_in_nI hk (by decide)) hdg (fun H1 locs1 h1 h2 h3 => ?_)
  rw [nI_clamp (by omega), up_nI (m_row M) k v] at h1 h2
  exact kk H1 locs1 h1 h2 h3
theorem yl_kc {k : Nat} (hk : k < 160) (S : CallFix p m c cc nL s args lw_all RX1) (hK : va_K D vwCl (tyZ zC iC) s) (hP : va_P D vwCl (wY ad zC iC K M) H) (hdg : decode cc pc = .ok (.iaload, 1)) (kk : W p l e R s m args below meth c H locs cells slots Q (F0 m (pc + 1) ls (.int (K k) :: rest))) : W p l e R s m args below meth c H locs cells slots Q (F0 m pc ls (.int (nI k) :: .ref (ad 6) :: rest)) := by
  refine va_iald (D := D) S.1 S.2.1 hK hP 6 1 rfl rfl (vp_in_nI hk (by decide)) hdg ?_
  rw [nI_clamp (by omega)]
  exact kk
theorem ys_kc {k : Nat} {v : Int32} (hk : k < 160) (S : CallFix p m c cc nL s args lw_all RX1) (hK : va_K D vwCl (tyZ zC iC) s) (hP : va_P D vwCl (wY ad zC iC K M) H) (hD : va_D A (wY ad zC iC K M)) (hS : va_S A s.heap H locs) (hdg : decode cc pc = .ok (.iastore, 1)) (kk : ∀ (H1 : Heap) (locs1 : List Loc), va_P D vwCl (wY ad zC iC (upd K k v) M) H1 → va_D A (wY ad zC iC (upd K k v) M) → va_S A s.heap H1 locs1 → W p l e R s m args below meth c H1 locs1 cells slots Q (F0 m (pc + 1) ls rest)) : W p l e R s m args below meth c H locs cells slots Q (F0 m pc ls (.int (v) :: .int (nI k) :: .ref (ad 6) :: rest)) := by
  refine va_iast (D := D) S.1 S.2.1 hK hP hD hS 6 1 rfl rfl (vp_in_nI hk (by decide)) hdg (fun H1 locs1 h1 h2 h3 => ?_)
  rw [nI_clamp (by omega)] at h1 h2
  exact kk H1 locs1 h1 h2 h3
end STP
theorem hdX0_isRouter : yX0_isRouter.cls ≠ "java/lang/invoke/MethodHandle" ∧ yX0_isRouter.cls ≠ "java/lang/invoke/VarHandle" ∧ (parseMethodDescriptor yX0_isRouter.desc).map (fun d => d.parameters.length) = some 1 := by decide +kernel
theorem hdX0_isPair : yX0_isPair.cls ≠ "java/lang/invoke/MethodHandle" ∧ yX0_isPair.cls ≠ "java/lang/invoke/VarHandle" ∧ (parseMethodDescriptor yX0_isPair.desc).map (fun d => d.parameters.length) = some 2 := by decide +kernel
theorem hdX0_isBetter : yX0_isBetter.cls ≠ "java/lang/invoke/MethodHandle" ∧ yX0_isBetter.cls ≠ "java/lang/invoke/VarHandle" ∧ (parseMethodDescriptor yX0_isBetter.desc).map (fun d => d.parameters.length) = some 2 := by decide +kernel
theorem hdX0_tick : yX0_tick.cls = RX0 ∧ yX0_tick.cls ≠ "java/lang/invoke/MethodHandle" ∧ yX0_tick.cls ≠ "java/lang/invoke/VarHandle" ∧ (parseMethodDescriptor yX0_tick.desc).map (fun d => d.parameters.length) = some 1 := by decide +kernel
theorem hdX0_forward : yX0_forward.cls = RX0 ∧ yX0_forward.cls ≠ "java/lang/invoke/MethodHandle" ∧ yX0_forward.cls ≠ "java/lang/invoke/VarHandle" ∧ (parseMethodDescriptor yX0_forward.desc).map (fun d => d.parameters.length) = some 3 := by decide +kernel
theorem hdX0_place : yX0_place.cls = RX0 ∧ yX0_place.cls ≠ "java/lang/invoke/MethodHandle" ∧ yX0_place.cls ≠ "java/lang/invoke/VarHandle" ∧ (parseMethodDescriptor yX0_place.desc).map (fun d => d.parameters.length) = some 4 := by decide +kernel
theorem hdX0_there : yX0_there.cls = RX0 ∧ yX0_there.cls ≠ "java/lang/invoke/MethodHandle" ∧ yX0_there.cls ≠ "java/lang/invoke/VarHandle" ∧ (parseMethodDescriptor yX0_there.desc).map (fun d => d.parameters.length) = some 2 := by decide +kernel
theorem hdX0_deaf : yX0_deaf.cls = RX0 ∧ yX0_deaf.cls ≠ "java/lang/invoke/MethodHandle" ∧ yX0_deaf.cls ≠ "java/lang/invoke/VarHandle" ∧ (parseMethodDescriptor yX0_deaf.desc).map (fun d => d.parameters.length) = some 2 := by decide +kernel
theorem hdX0_own : yX0_own.cls = RX0 ∧ yX0_own.cls ≠ "java/lang/invoke/MethodHandle" ∧ yX0_own.cls ≠ "java/lang/invoke/VarHandle" ∧ (parseMethodDescriptor yX0_own.desc).map (fun d => d.parameters.length) = some 2 := by decide +kernel
theorem hdX0_isLost : yX0_isLost.cls = RX0 ∧ yX0_isLost.cls ≠ "java/lang/invoke/MethodHandle" ∧ yX0_isLost.cls ≠ "java/lang/invoke/VarHandle" ∧ (parseMethodDescriptor yX0_isLost.desc).map (fun d => d.parameters.length) = some 2 := by decide +kernel
theorem hdX0_isSending : yX0_isSending.cls = RX0 ∧ yX0_isSending.cls ≠ "java/lang/invoke/MethodHandle" ∧ yX0_isSending.cls ≠ "java/lang/invoke/VarHandle" ∧ (parseMethodDescriptor yX0_isSending.desc).map (fun d => d.parameters.length) = some 2 := by decide +kernel
theorem hdX0_say : yX0_say.cls = RX0 ∧ yX0_say.cls ≠ "java/lang/invoke/MethodHandle" ∧ yX0_say.cls ≠ "java/lang/invoke/VarHandle" ∧ (parseMethodDescriptor yX0_say.desc).map (fun d => d.parameters.length) = some 2 := by decide +kernel
theorem hdX0_hear : yX0_hear.cls = RX0 ∧ yX0_hear.cls ≠ "java/lang/invoke/MethodHandle" ∧ yX0_hear.cls ≠ "java/lang/invoke/VarHandle" ∧ (parseMethodDescriptor yX0_hear.desc).map (fun d => d.parameters.length) = some 3 := by decide +kernel
theorem hdX0_data : yX0_data.cls = RX0 ∧ yX0_data.cls ≠ "java/lang/invoke/MethodHandle" ∧ yX0_data.cls ≠ "java/lang/invoke/VarHandle" ∧ (parseMethodDescriptor yX0_data.desc).map (fun d => d.parameters.length) = some 2 := by decide +kernel
theorem hdX0_said : yX0_said.cls = RX0 ∧ yX0_said.cls ≠ "java/lang/invoke/MethodHandle" ∧ yX0_said.cls ≠ "java/lang/invoke/VarHandle" ∧ (parseMethodDescriptor yX0_said.desc).map (fun d => d.parameters.length) = some 1 := by decide +kernel
theorem hdX0_claim : yX0_claim.cls = RX0 ∧ yX0_claim.cls ≠ "java/lang/invoke/MethodHandle" ∧ yX0_claim.cls ≠ "java/lang/invoke/VarHandle" ∧ (parseMethodDescriptor yX0_claim.desc).map (fun d => d.parameters.length) = some 2 := by decide +kernel
theorem hdX0_kept : yX0_kept.cls = RX0 ∧ yX0_kept.cls ≠ "java/lang/invoke/MethodHandle" ∧ yX0_kept.cls ≠ "java/lang/invoke/VarHandle" ∧ (parseMethodDescriptor yX0_kept.desc).map (fun d => d.parameters.length) = some 2 := by decide +kernel
theorem hdX0_lost : yX0_lost.cls = RX0 ∧ yX0_lost.cls ≠ "java/lang/invoke/MethodHandle" ∧ yX0_lost.cls ≠ "java/lang/invoke/VarHandle" ∧ (parseMethodDescriptor yX0_lost.desc).map (fun d => d.parameters.length) = some 2 := by decide +kernel
theorem hdX0_sends : yX0_sends.cls = RX0 ∧ yX0_sends.cls ≠ "java/lang/invoke/MethodHandle" ∧ yX0_sends.cls ≠ "java/lang/invoke/VarHandle" ∧ (parseMethodDescriptor yX0_sends.desc).map (fun d => d.parameters.length) = some 1 := by decide +kernel
theorem hdX0_look : yX0_look.cls = RX0 ∧ yX0_look.cls ≠ "java/lang/invoke/MethodHandle" ∧ yX0_look.cls ≠ "java/lang/invoke/VarHandle" ∧ (parseMethodDescriptor yX0_look.desc).map (fun d => d.parameters.length) = some 1 := by decide +kernel
theorem hdX1_isRouter : yX1_isRouter.cls ≠ "java/lang/invoke/MethodHandle" ∧ yX1_isRouter.cls ≠ "java/lang/invoke/VarHandle" ∧ (parseMethodDescriptor yX1_isRouter.desc).map (fun d => d.parameters.length) = some 1 := by decide +kernel
theorem hdX1_isPair : yX1_isPair.cls ≠ "java/lang/invoke/MethodHandle" ∧ yX1_isPair.cls ≠ "java/lang/invoke/VarHandle" ∧ (parseMethodDescriptor yX1_isPair.desc).map (fun d => d.parameters.length) = some 2 := by decide +kernel
theorem hdX1_isBetter : yX1_isBetter.cls ≠ "java/lang/invoke/MethodHandle" ∧ yX1_isBetter.cls ≠ "java/lang/invoke/VarHandle" ∧ (parseMethodDescriptor yX1_isBetter.desc).map (fun d => d.parameters.length) = some 2 := by decide +kernel
theorem hdX1_tick : yX1_tick.cls = RX1 ∧ yX1_tick.cls ≠ "java/lang/invoke/MethodHandle" ∧ yX1_tick.cls ≠ "java/lang/invoke/VarHandle" ∧ (parseMethodDescriptor yX1_tick.desc).map (fun d => d.parameters.length) = some 1 := by decide +kernel
theorem hdX1_forward : yX1_forward.cls = RX1 ∧ yX1_forward.cls ≠ "java/lang/invoke/MethodHandle" ∧ yX1_forward.cls ≠ "java/lang/invoke/VarHandle" ∧ (parseMethodDescriptor yX1_forward.desc).map (fun d => d.parameters.length) = some 3 := by decide +kernel
theorem hdX1_place : yX1_place.cls = RX1 ∧ yX1_place.cls ≠ "java/lang/invoke/MethodHandle" ∧ yX1_place.cls ≠ "java/lang/invoke/VarHandle" ∧ (parseMethodDescriptor yX1_place.desc).map (fun d => d.parameters.length) = some 4 := by decide +kernel
theorem hdX1_there : yX1_there.cls = RX1 ∧ yX1_there.cls ≠ "java/lang/invoke/MethodHandle" ∧ yX1_there.cls ≠ "java/lang/invoke/VarHandle" ∧ (parseMethodDescriptor yX1_there.desc).map (fun d => d.parameters.length) = some 2 := by decide +kernel
theorem hdX1_deaf : yX1_deaf.cls = RX1 ∧ yX1_deaf.cls ≠ "java/lang/invoke/MethodHandle" ∧ yX1_deaf.cls ≠ "java/lang/invoke/VarHandle" ∧ (parseMethodDescriptor yX1_deaf.desc).map (fun d => d.parameters.length) = some 2 := by decide +kernel
theorem hdX1_own : yX1_own.cls = RX1 ∧ yX1_own.cls ≠ "java/lang/invoke/MethodHandle" ∧ yX1_own.cls ≠ "java/lang/invoke/VarHandle" ∧ (parseMethodDescriptor yX1_own.desc).map (fun d => d.parameters.length) = some 2 := by decide +kernel
theorem hdX1_isLost : yX1_isLost.cls = RX1 ∧ yX1_isLost.cls ≠ "java/lang/invoke/MethodHandle" ∧ yX1_isLost.cls ≠ "java/lang/invoke/VarHandle" ∧ (parseMethodDescriptor yX1_isLost.desc).map (fun d => d.parameters.length) = some 2 := by decide +kernel
theorem hdX1_isSending : yX1_isSending.cls = RX1 ∧ yX1_isSending.cls ≠ "java/lang/invoke/MethodHandle" ∧ yX1_isSending.cls ≠ "java/lang/invoke/VarHandle" ∧ (parseMethodDescriptor yX1_isSending.desc).map (fun d => d.parameters.length) = some 2 := by decide +kernel
theorem hdX1_say : yX1_say.cls = RX1 ∧ yX1_say.cls ≠ "java/lang/invoke/MethodHandle" ∧ yX1_say.cls ≠ "java/lang/invoke/VarHandle" ∧ (parseMethodDescriptor yX1_say.desc).map (fun d => d.parameters.length) = some 2 := by decide +kernel
theorem hdX1_hear : yX1_hear.cls = RX1 ∧ yX1_hear.cls ≠ "java/lang/invoke/MethodHandle" ∧ yX1_hear.cls ≠ "java/lang/invoke/VarHandle" ∧ (parseMethodDescriptor yX1_hear.desc).map (fun d => d.parameters.length) = some 3 := by decide +kernel
theorem hdX1_data : yX1_data.cls = RX1 ∧ yX1_data.cls ≠ "java/lang/invoke/MethodHandle" ∧ yX1_data.cls ≠ "java/lang/invoke/VarHandle" ∧ (parseMethodDescriptor yX1_data.desc).map (fun d => d.parameters.length) = some 2 := by decide +kernel
theorem hdX1_said : yX1_said.cls = RX1 ∧ yX1_said.cls ≠ "java/lang/invoke/MethodHandle" ∧ yX1_said.cls ≠ "java/lang/invoke/VarHandle" ∧ (parseMethodDescriptor yX1_said.desc).map (fun d => d.parameters.length) = some 1 := by decide +kernel
theorem hdX1_claim : yX1_claim.cls = RX1 ∧ yX1_claim.cls ≠ "java/lang/invoke/MethodHandle" ∧ yX1_claim.cls ≠ "java/lang/invoke/VarHandle" ∧ (parseMethodDescriptor yX1_claim.desc).map (fun d => d.parameters.length) = some 2 := by decide +kernel
theorem hdX1_kept : yX1_kept.cls = RX1 ∧ yX1_kept.cls ≠ "java/lang/invoke/MethodHandle" ∧ yX1_kept.cls ≠ "java/lang/invoke/VarHandle" ∧ (parseMethodDescriptor yX1_kept.desc).map (fun d => d.parameters.length) = some 2 := by decide +kernel
theorem hdX1_lost : yX1_lost.cls = RX1 ∧ yX1_lost.cls ≠ "java/lang/invoke/MethodHandle" ∧ yX1_lost.cls ≠ "java/lang/invoke/VarHandle" ∧ (parseMethodDescriptor yX1_lost.desc).map (fun d => d.parameters.length) = some 2 := by decide +kernel
theorem hdX1_sends : yX1_sends.cls = RX1 ∧ yX1_sends.cls ≠ "java/lang/invoke/MethodHandle" ∧ yX1_sends.cls ≠ "java/lang/invoke/VarHandle" ∧ (parseMethodDescriptor yX1_sends.desc).map (fun d => d.parameters.length) = some 1 := by decide +kernel
theorem hdX1_look : yX1_look.cls = RX1 ∧ yX1_look.cls ≠ "java/lang/invoke/MethodHandle" ∧ yX1_look.cls ≠ "java/lang/invoke/VarHandle" ∧ (parseMethodDescriptor yX1_look.desc).map (fun d => d.parameters.length) = some 1 := by decide +kernel
theorem hdX0_isThere : yX0_isThere.cls = RX0 ∧ yX0_isThere.cls ≠ "java/lang/invoke/MethodHandle" ∧ yX0_isThere.cls ≠ "java/lang/invoke/VarHandle" ∧ (parseMethodDescriptor yX0_isThere.desc).map (fun d => d.parameters.length) = some 1 := by decide +kernel
theorem hdX0_listens : yX0_listens.cls = RX0 ∧ yX0_listens.cls ≠ "java/lang/invoke/MethodHandle" ∧ yX0_listens.cls ≠ "java/lang/invoke/VarHandle" ∧ (parseMethodDescriptor yX0_listens.desc).map (fun d => d.parameters.length) = some 1 := by decide +kernel
theorem hdX0_held : yX0_held.cls = RX0 ∧ yX0_held.cls ≠ "java/lang/invoke/MethodHandle" ∧ yX0_held.cls ≠ "java/lang/invoke/VarHandle" ∧ (parseMethodDescriptor yX0_held.desc).map (fun d => d.parameters.length) = some 2 := by decide +kernel
theorem hdX1_keeps : yX1_keeps.cls = RX1 ∧ yX1_keeps.cls ≠ "java/lang/invoke/MethodHandle" ∧ yX1_keeps.cls ≠ "java/lang/invoke/VarHandle" ∧ (parseMethodDescriptor yX1_keeps.desc).map (fun d => d.parameters.length) = some 2 := by decide +kernel
end
section
/-! the operations' cases, one by one: what a walk's leaves need -/
theorem mq_rt_0 {r : Int32} (h : r < 0) : mq_rt r = false := by
  unfold mq_rt
  rw [decide_eq_true h]
  rfl
theorem mq_rt_1 {r : Int32} (h : 10 ≤ r) : mq_rt r = false := by
  unfold mq_rt
  rw [decide_eq_false (Int32.not_lt.mpr h)]
  exact Bool.and_false _
theorem mq_rt_2 {r : Int32} (h0 : ¬ r < 0) (h : ¬ 10 ≤ r) : mq_rt r = true := by
  unfold mq_rt
  rw [decide_eq_false h0, decide_eq_true (Int32.not_le.mp h)]
  rfl
theorem mq_sr_0 {r : Int32} (h : r < 0) : mq_sr r = false := by
  unfold mq_sr
  rw [decide_eq_true h]
  rfl
theorem mq_sr_1 {r : Int32} (h : 16 ≤ r) : mq_sr r = false := by
  unfold mq_sr
  rw [decide_eq_false (Int32.not_lt.mpr h)]
  exact Bool.and_false _
theorem mq_sr_2 {r : Int32} (h0 : ¬ r < 0) (h : ¬ 16 ≤ r) : mq_sr r = true := by
  unfold mq_sr
  rw [decide_eq_false h0, decide_eq_true (Int32.not_le.mp h)]
  rfl
theorem mq_pr_1 {r s : Int32} (h : mq_rt r = false) : mq_pr r s = false := by
  unfold mq_pr
  rw [h]
  rfl
theorem mq_pr_2 {r s : Int32} (h : mq_sr s = false) : mq_pr r s = false := by
  unfold mq_pr
  rw [h]
  exact Bool.and_false _
theorem mq_pr_t {r s : Int32} (h : mq_rt r = true) (h2 : mq_sr s = true) : mq_pr r s = true := by
  unfold mq_pr
  rw [h, h2]
  rfl
theorem mq_rt_nI {j : Nat} (hj : j < 10) : mq_rt (nI j) = true := mq_rt_2 (nI_pos (by omega)) (show ¬ nI 10 ≤ nI j from nI_ge hj (by omega))
theorem mq_sr_nI {j : Nat} (hj : j < 16) : mq_sr (nI j) = true := mq_sr_2 (nI_pos (by omega)) (show ¬ nI 16 ≤ nI j from nI_ge hj (by omega))
theorem mq_pr_nI {j k : Nat} (hj : j < 10) (hk : k < 16) : mq_pr (nI j) (nI k) = true := mq_pr_t (mq_rt_nI hj) (mq_sr_nI hk)
theorem mq_not {b : Bool} (h : b = false) : ¬ b = true := by
  rw [h]
  decide
theorem tick_n {n : Int32} (t : Nat) (h : ¬ n < 1) : nI t + n = nI (t + iN n) := by
  have q0 : ¬ n < 0 := fun e => h (by
    rw [Int32.lt_iff_toInt_lt] at e ⊢
    have a : (0 : Int32).toInt = 0 := rfl
    have b : (1 : Int32).toInt = 1 := rfl
    omega)
  obtain ⟨j, hj, rfl⟩ := nI_of q0
  rw [iN_nI hj, nI_add]
theorem mo_tick_f {M : MS} {n : Int32} (h : n < 1 ∨ 100 < n ∨ 100000 < nI (m_time M) + n) : mo_tick M n = (-1, M) := if_pos h
theorem mo_tick_t {M : MS} {n : Int32} (h1 : ¬ n < 1) (h2 : ¬ 100 < n) (h3 : nI (m_time M) + n ≤ 100000) : mo_tick M n = (nI (m_time M + iN n), n_time M (m_time M + iN n)) := if_neg (by
  rintro (h | h | h)
  · exact h1 h
  · exact h2 h
  · exact absurd h (Int32.not_lt.mpr h3))
theorem mo_forward_f {M : MS} {r s : Int32} {on : Bool} (h : mq_pr r s = false) : mo_forward M r s on = (0, M) := if_neg (mq_not h)
theorem mo_forward_t {M : MS} {j k : Nat} {on : Bool} (hj : j < 10) (hk : k < 16) : mo_forward M (nI j) (nI k) on = (1, n_fw M (16 * j + k) on) := by
  unfold mo_forward
  rw [if_pos (mq_pr_nI hj hk), iN_nI (by omega), iN_nI (by omega)]
theorem mo_place_1 {M : MS} {r s far : Int32} {b : Bool} (h : mq_pr r s = false) : mo_place M r s b far = (0, M) := if_neg (fun z => mq_not h z.1)
theorem mo_place_2 {M : MS} {r s far : Int32} {b : Bool} (h : far < 0) : mo_place M r s b far = (0, M) := if_neg (fun z => z.2.1 h)
theorem mo_place_3 {M : MS} {r s far : Int32} {b : Bool} (h : ¬ far ≤ 9999) : mo_place M r s b far = (0, M) := if_neg (fun z => h z.2.2)
theorem mo_place_t {M : MS} {j k f : Nat} {b : Bool} (hj : j < 10) (hk : k < 16) (hf : f ≤ 9999) : mo_place M (nI j) (nI k) b (nI f) = (1, n_di (n_st M (16 * j + k) b) (16 * j + k) f) := by
  unfold mo_place
  rw [if_pos ⟨mq_pr_nI hj hk, nI_pos (by omega), show nI f ≤ nI 9999 from nI_le hf (by omega)⟩, iN_nI (by omega), iN_nI (by omega), iN_nI (by omega)]
theorem mo_there_f {M : MS} {r : Int32} {on : Bool} (h : mq_rt r = false) : mo_there M r on = (0, M) := if_neg (mq_not h)
theorem mo_there_t {M : MS} {j : Nat} {on : Bool} (hj : j < 10) : mo_there M (nI j) on = (b2i (m_there M j), n_there M j on) := by
  unfold mo_there
  rw [if_pos (mq_rt_nI hj), iN_nI (by omega)]
theorem mo_deaf_f {M : MS} {r : Int32} {on : Bool} (h : mq_rt r = false) : mo_deaf M r on = (0, M) := if_neg (mq_not h)
theorem mo_deaf_t {M : MS} {j : Nat} {on : Bool} (hj : j < 10) : mo_deaf M (nI j) on = (b2i (m_deaf M j), n_deaf M j on) := by
  unfold mo_deaf
  rw [if_pos (mq_rt_nI hj), iN_nI (by omega)]
theorem mo_deaf_tb {M : MS} {j : Nat} {on b : Bool} (hj : j < 10) (h : m_deaf M j = b) : mo_deaf M (nI j) on = (b2i b, n_deaf M j on) := by
  rw [mo_deaf_t hj, h]
theorem mo_there_tb {M : MS} {j : Nat} {on b : Bool} (hj : j < 10) (h : m_there M j = b) : mo_there M (nI j) on = (b2i b, n_there M j on) := by
  rw [mo_there_t hj, h]
theorem mo_data_1 {M : MS} {r s : Int32} (h : mq_pr r s = false) : mo_data M r s = (-1, M) := if_neg (fun z => mq_not h z.1)
theorem mo_data_2 {M : MS} {j : Nat} {s : Int32} (hj : j < 10) (h : m_there M j = false) : mo_data M (nI j) s = (-1, M) := if_neg (fun z => mq_not h (by have := z.2; rwa [iN_nI (by omega)] at this))
theorem mo_data_t {M : MS} {j k : Nat} (hj : j < 10) (hk : k < 16) (h : m_there M j = true) : mo_data M (nI j) (nI k) = (nI (m_said (mb_data M j k)), mb_data M j k) := by
  unfold mo_data
  rw [iN_nI (show j < 2 ^ 31 by omega), iN_nI (show k < 2 ^ 31 by omega), if_pos ⟨mq_pr_nI hj hk, h⟩]
theorem mo_said_1 {M : MS} {k : Int32} (h : k < 0) : mo_said M k = -1 := if_pos (Or.inl h)
theorem mo_said_2 {M : MS} {k : Int32} (h : nI (m_said M) ≤ k) : mo_said M k = -1 := if_pos (Or.inr h)
theorem mo_said_t {M : MS} {j : Nat} (hs : m_said M ≤ 1023) (hj : j < m_said M) : mo_said M (nI j) = nI (m_row M j % 100) := by
  unfold mo_said
  rw [if_neg, iN_nI (by omega)]
  rintro (h | h)
  · exact nI_pos (by omega) h
  · exact nI_ge hj (by omega) h
theorem mo_claim_f {M : MS} {r s : Int32} (h : mq_pr r s = false) : mo_claim M r s = -1 := if_neg (mq_not h)
theorem mo_claim_t {M : MS} {j k : Nat} (hj : j < 10) (hk : k < 16) : mo_claim M (nI j) (nI k) = nI (mb_own M j k) := by
  unfold mo_claim
  rw [if_pos (mq_pr_nI hj hk), iN_nI (by omega), iN_nI (by omega)]
theorem mo_kept_f {M : MS} {r s : Int32} (h : mq_pr r s = false) : mo_kept M r s = -1 := if_neg (mq_not h)
theorem mo_kept_t {M : MS} {j k : Nat} (hj : j < 10) (hk : k < 16) : mo_kept M (nI j) (nI k) = mb_held M j k := by
  unfold mo_kept
  rw [if_pos (mq_pr_nI hj hk), iN_nI (by omega), iN_nI (by omega)]
theorem mo_lost_f {M : MS} {r s : Int32} (h : mq_pr r s = false) : mo_lost M r s = false := by
  unfold mo_lost
  rw [h]
  rfl
theorem mo_lost_t {M : MS} {j k : Nat} (hj : j < 10) (hk : k < 16) {b : Bool} (h : mb_lost M j k = b) : mo_lost M (nI j) (nI k) = b := by
  unfold mo_lost
  rw [mq_pr_nI hj hk, iN_nI (by omega), iN_nI (by omega), h]
  rfl
theorem mo_sends_1 {M : MS} {s : Int32} (h : mq_sr s = false) : mo_sends M s = -1 := if_neg (mq_not h)
theorem mo_sends_t {M : MS} {k : Nat} (hk : k < 16) : mo_sends M (nI k) = nI (mb_mk (fun r => mb_snd M r k) 10) := by
  unfold mo_sends
  rw [if_pos (mq_sr_nI hk), iN_nI (by omega)]
/-! better, held, lost, sending -/
theorem mb_bet_1 {a b : Nat} (h : a / 100 < b / 100) : mb_bet a b = true := by
  unfold mb_bet
  rw [decide_eq_true h]
  rfl
theorem mb_bet_2 {a b : Nat} (h : ¬ a / 100 < b / 100) (h2 : ¬ a / 100 = b / 100) : mb_bet a b = false := by
  unfold mb_bet
  rw [decide_eq_false h, decide_eq_false h2]
  rfl
theorem mb_bet_3 {a b : Nat} (h : ¬ a / 100 < b / 100) (h3 : a % 100 ≤ b % 100) : mb_bet a b = false := by
  unfold mb_bet
  rw [decide_eq_false h, decide_eq_false (show ¬ b % 100 < a % 100 by omega)]
  exact Bool.and_false _
theorem mb_bet_4 {a b : Nat} (h2 : a / 100 = b / 100) (h3 : ¬ a % 100 ≤ b % 100) : mb_bet a b = true := by
  unfold mb_bet
  rw [decide_eq_true h2, decide_eq_true (show b % 100 < a % 100 by omega)]
  exact Bool.or_true _
theorem mb_hb_1 {M : MS} {r s : Nat} (h : m_ti M (16 * r + s) ≤ m_time M) : mb_hb M r s = false := by
  unfold mb_hb
  rw [decide_eq_false (show ¬ m_time M < m_ti M (16 * r + s) by omega)]
  rfl
theorem mb_hb_2 {M : MS} {r s : Nat} (h : m_there M (m_kc M (16 * r + s) % 100) = false) : mb_hb M r s = false := by
  unfold mb_hb
  rw [h]
  exact Bool.and_false _
theorem mb_hb_t {M : MS} {r s : Nat} (h : ¬ m_ti M (16 * r + s) ≤ m_time M) (h2 : m_there M (m_kc M (16 * r + s) % 100) = true) : mb_hb M r s = true := by
  unfold mb_hb
  rw [h2, decide_eq_true (show m_time M < m_ti M (16 * r + s) by omega)]
  rfl
theorem mb_held_f {M : MS} {r s : Nat} (h : mb_hb M r s = false) : mb_held M r s = -1 := if_neg (mq_not h)
theorem mb_held_t {M : MS} {r s : Nat} (h : mb_hb M r s = true) : mb_held M r s = nI (m_kc M (16 * r + s)) := if_pos h
theorem nI_nm1 {n : Nat} (h : n < 2 ^ 31) : ¬ nI n = -1 := by
  intro e
  have a := nI_toInt h
  rw [e] at a
  have b : (-1 : Int32).toInt = -1 := rfl
  omega
theorem mb_hb_m1 {M : MS} (hJ : JN M) {r s : Nat} (hr : r < 10) (hs : s < 16) (h : mb_held M r s = -1) : mb_hb M r s = false := by
  cases e : mb_hb M r s with
  | false => rfl
  | true =>
    rw [mb_held_t e] at h
    have := (hJ.2.2.1 (16 * r + s) (by omega)).1
    exact absurd h (nI_nm1 (by omega))
theorem mb_hb_n1 {M : MS} {r s : Nat} (h : ¬ mb_held M r s = -1) : mb_hb M r s = true := by
  cases e : mb_hb M r s with
  | true => rfl
  | false => exact absurd (mb_held_f e) h
theorem mb_lost_1 {M : MS} {r s : Nat} (h : mb_hb M r s = false) : mb_lost M r s = false := by
  unfold mb_lost
  rw [h]
  rfl
theorem mb_lost_2 {M : MS} {r s : Nat} (h : mb_hb M r s = true) {b : Bool} (h2 : mb_bet (m_kc M (16 * r + s)) (mb_own M r s) = b) : mb_lost M r s = b := by
  unfold mb_lost
  rw [h, h2]
  rfl
theorem mb_snd_1 {M : MS} {r s : Nat} (h : m_there M r = false) : mb_snd M r s = false := by
  unfold mb_snd
  rw [h]
  rfl
theorem mb_snd_2 {M : MS} {r s : Nat} (h : m_fw M (16 * r + s) = false) : mb_snd M r s = false := by
  unfold mb_snd
  rw [h]
  exact Bool.and_false _
theorem mb_snd_3 {M : MS} {r s : Nat} (h : mb_lost M r s = true) : mb_snd M r s = false := by
  unfold mb_snd
  rw [h]
  cases m_there M r <;> cases m_fw M (16 * r + s) <;> rfl
theorem mb_snd_t {M : MS} {r s : Nat} (h1 : m_there M r = true) (h2 : m_fw M (16 * r + s) = true) (h3 : mb_lost M r s = false) : mb_snd M r s = true := by
  unfold mb_snd
  rw [h1, h2, h3]
  rfl
theorem mb_lis_1 {M : MS} {r : Nat} (h : m_there M r = false) : mb_lis M r = false := by
  unfold mb_lis
  rw [h]
  rfl
theorem mb_lis_2 {M : MS} {r : Nat} (h : m_deaf M r = true) : mb_lis M r = false := by
  unfold mb_lis
  rw [h]
  exact Bool.and_false _
theorem mb_lis_t {M : MS} {r : Nat} (h : m_there M r = true) (h2 : m_deaf M r = false) : mb_lis M r = true := by
  unfold mb_lis
  rw [h, h2]
  rfl
theorem mb_own_t {M : MS} {r s : Nat} (h : m_st M (16 * r + s) = true) : mb_own M r s = 0 + 100 * m_di M (16 * r + s) + r := by
  unfold mb_own
  rw [if_pos h]
theorem mb_own_f {M : MS} {r s : Nat} (h : m_st M (16 * r + s) = false) : mb_own M r s = 1000000 + 100 * m_di M (16 * r + s) + r := by
  unfold mb_own
  rw [if_neg (mq_not h)]
/-! hear, case by case -/
theorem mb_hc_1 {M : MS} {r s c : Nat} (h : mb_hb M r s = false) : mb_hc M r s c = true := by
  unfold mb_hc
  rw [h]
  rfl
theorem mb_hc_2 {M : MS} {r s c : Nat} (h : mb_bet c (m_kc M (16 * r + s)) = true) : mb_hc M r s c = true := by
  unfold mb_hc
  rw [h]
  exact Bool.or_true _
theorem mb_hc_3 {M : MS} {r s c : Nat} (h : m_kc M (16 * r + s) % 100 = c % 100) : mb_hc M r s c = true := by
  unfold mb_hc
  rw [decide_eq_true h, Bool.or_true]
  exact Bool.or_true _
theorem mb_hc_f {M : MS} {r s c : Nat} (h1 : mb_hb M r s = true) (h2 : mb_bet c (m_kc M (16 * r + s)) = false) (h3 : ¬ m_kc M (16 * r + s) % 100 = c % 100) : mb_hc M r s c = false := by
  unfold mb_hc
  rw [h1, h2, decide_eq_false h3]
  rfl
theorem mb_h1_t {M : MS} {r s c : Nat} (h : mb_hc M r s c = true) : mb_h1 M r s c = n_kt M (16 * r + s) c (m_time M + 60) := if_pos h
theorem mb_h1_f {M : MS} {r s c : Nat} (h : mb_hc M r s c = false) : mb_h1 M r s c = M := if_neg (mq_not h)
theorem mb_h2_1 {M : MS} {r s c : Nat} (h : mb_snd M r s = false) : mb_h2 M r s c = M := if_neg (fun z => mq_not h z.1)
theorem mb_h2_2 {M : MS} {r s c : Nat} (h : mb_bet (mb_own M r s) c = false) : mb_h2 M r s c = M := if_neg (fun z => mq_not h z.2)
theorem mb_h2_t {M : MS} {r s c : Nat} (h : mb_snd M r s = true) (h2 : mb_bet (mb_own M r s) c = true) : mb_h2 M r s c = mb_say M r s := if_pos ⟨h, h2⟩
/-! Model's keptClaim -/
theorem kY_keep (M : MS) (k v : Nat) (t : Nat) (ht : 0 < t) : kY (n_kt M k v t) = upd (kY M) k (nI v) := by
  funext j
  show (if va_up (m_ti M) k t j = 0 then -1 else nI (va_up (m_kc M) k v j)) = if j = k then nI v else kY M j
  by_cases h : j = k
  · rw [if_pos h, h, va_up_self, va_up_self, if_neg (by omega)]
  · rw [if_neg h, va_up_ne _ _ h, va_up_ne _ _ h]
    rfl
theorem kY_0 {M : MS} {k : Nat} (hk : m_kc M k < 2 ^ 31) (h : kY M k = -1) : m_ti M k = 0 := by
  rcases Nat.eq_zero_or_pos (m_ti M k) with e | e
  · exact e
  · have : kY M k = nI (m_kc M k) := if_neg (by omega)
    rw [this] at h
    exact absurd h (nI_nm1 hk)
theorem kY_n {M : MS} {k : Nat} (h : ¬ kY M k = -1) : kY M k = nI (m_kc M k) := if_neg (fun e => h (if_pos e))
theorem mo_forward_nar (M : MS) (r s : Int32) (on : Bool) : narrow .boolean (.int (mo_forward M r s on).1) = .int (mo_forward M r s on).1 := by
  unfold mo_forward
  split
  · exact narrow_b1
  · exact narrow_b0
theorem mo_place_nar (M : MS) (r s : Int32) (b : Bool) (far : Int32) : narrow .boolean (.int (mo_place M r s b far).1) = .int (mo_place M r s b far).1 := by
  unfold mo_place
  split
  · exact narrow_b1
  · exact narrow_b0
theorem mo_there_nar (M : MS) (r : Int32) (on : Bool) : narrow .boolean (.int (mo_there M r on).1) = .int (mo_there M r on).1 := by
  unfold mo_there
  split
  · exact b2i_nar _
  · exact narrow_b0
theorem mo_deaf_nar (M : MS) (r : Int32) (on : Bool) : narrow .boolean (.int (mo_deaf M r on).1) = .int (mo_deaf M r on).1 := by
  unfold mo_deaf
  split
  · exact b2i_nar _
  · exact narrow_b0
end
section
/-! by program (gen/methods.py X) -/
set_option maxHeartbeats 4000000 in
set_option maxRecDepth 100000 in
theorem cX_isRouter (l : Launch) (D : va_G) (tys : List (ClassId × FieldType)) (rr : Int32) : CtI l yX0_isRouter cX0_isRouter 1 .boolean 0 0 D tys [.int rr] [] (b2i (mq_rt rr)) [] := by
  refine CtI.mk (by decide) (b2i_nar _) (Nat.le_of_ble_eq_true rfl) ?_
  intro p e s m args below meth c A Q S hK hP hD hA hS hret ls hl
  have S : CallFix p m c cX0_isRouter 1 s args lw_all RX0 := S
  have hx := S.1
  have hb := S.2.1
  have hl : lv_has ls 1 [(0, .int rr)] := hl
  refine lv_iload_n hx hb dX0_isRouter_0 rfl (lv_at hl 0 rfl) ?_
  refine lv_if_lt (tgt := 14) hx hb dX0_isRouter_1 (by decide) (fun c1 => ?_) (fun c1 => ?_)
  · refine lv_iconst (v := 0) hx hb dX0_isRouter_14 (by decide) ?_
    exact hret _ _ _ _ _ _ dX0_isRouter_15 (by rw [mq_rt_0 c1] <;> rfl) rfl hP hD hS
  · refine lv_iload_n hx hb dX0_isRouter_4 rfl (lv_at hl 0 rfl) ?_
    refine lv_bipush (v := 10) hx hb dX0_isRouter_5 (by decide) ?_
    refine lv_icmp_ge (tgt := 14) hx hb dX0_isRouter_7 (by decide) (fun c7 => ?_) (fun c7 => ?_)
    · refine lv_iconst (v := 0) hx hb dX0_isRouter_14 (by decide) ?_
      exact hret _ _ _ _ _ _ dX0_isRouter_15 (by rw [mq_rt_1 c7] <;> rfl) rfl hP hD hS
    · refine lv_iconst (v := 1) hx hb dX0_isRouter_10 (by decide) ?_
      refine lv_goto (tgt := 15) hx hb dX0_isRouter_11 (by decide) ?_
      exact hret _ _ _ _ _ _ dX0_isRouter_15 (by rw [mq_rt_2 c1 c7] <;> rfl) rfl hP hD hS
set_option maxHeartbeats 4000000 in
set_option maxRecDepth 100000 in
theorem cX_isPair (l : Launch) (D : va_G) (tys : List (ClassId × FieldType)) (rr ss : Int32) : CtI l yX0_isPair cX0_isPair 2 .boolean 1 20 D tys [.int rr, .int ss] [] (b2i (mq_pr rr ss)) [] := by
  refine CtI.mk (by decide) (b2i_nar _) (Nat.le_of_ble_eq_true rfl) ?_
  intro p e s m args below meth c A Q S hK hP hD hA hS hret ls hl
  have S : CallFix p m c cX0_isPair 2 s args lw_all RX0 := S
  have hx := S.1
  have hb := S.2.1
  have hl : lv_has ls 2 [(0, .int rr), (1, .int ss)] := hl
  refine lv_iload_n hx hb dX0_isPair_0 rfl (lv_at hl 0 rfl) ?_
  refine CtI.cS (rest := []) (cX_isRouter l D tys rr) S (lw_S q73 q74 q15 q75) hdX0_isRouter rfl ⟨Nat.le_of_ble_eq_true rfl, Nat.le_of_ble_eq_true rfl⟩ hK hP hD hS hA hl.1 rfl (Nat.le_of_ble_eq_true rfl) ⟨Nat.zero_le _, Nat.zero_le _⟩ dX0_isPair_1 (fun H locs hP hD hS => ?_)
  refine lv_if_eq (tgt := 21) hx hb dX0_isPair_4 (by decide) (fun c4 => ?_) (fun c4 => ?_)
  · have c4 := b2i_0 c4
    refine lv_iconst (v := 0) hx hb dX0_isPair_21 (by decide) ?_
    exact hret _ _ _ _ _ _ dX0_isPair_22 (by rw [mq_pr_1 c4] <;> rfl) rfl hP hD hS
  · have c4 := b2i_n0 c4
    refine lv_iload_n hx hb dX0_isPair_7 rfl (lv_at hl 1 rfl) ?_
    refine lv_if_lt (tgt := 21) hx hb dX0_isPair_8 (by decide) (fun c8 => ?_) (fun c8 => ?_)
    · refine lv_iconst (v := 0) hx hb dX0_isPair_21 (by decide) ?_
      exact hret _ _ _ _ _ _ dX0_isPair_22 (by rw [mq_pr_2 (mq_sr_0 c8)] <;> rfl) rfl hP hD hS
    · refine lv_iload_n hx hb dX0_isPair_11 rfl (lv_at hl 1 rfl) ?_
      refine lv_bipush (v := 16) hx hb dX0_isPair_12 (by decide) ?_
      refine lv_icmp_ge (tgt := 21) hx hb dX0_isPair_14 (by decide) (fun c14 => ?_) (fun c14 => ?_)
      · refine lv_iconst (v := 0) hx hb dX0_isPair_21 (by decide) ?_
        exact hret _ _ _ _ _ _ dX0_isPair_22 (by rw [mq_pr_2 (mq_sr_1 c14)] <;> rfl) rfl hP hD hS
      · refine lv_iconst (v := 1) hx hb dX0_isPair_17 (by decide) ?_
        refine lv_goto (tgt := 22) hx hb dX0_isPair_18 (by decide) ?_
        exact hret _ _ _ _ _ _ dX0_isPair_22 (by rw [mq_pr_t c4 (mq_sr_2 c8 c14)] <;> rfl) rfl hP hD hS
set_option maxHeartbeats 4000000 in
set_option maxRecDepth 100000 in
theorem cX_isBetter (l : Launch) (D : va_G) (tys : List (ClassId × FieldType)) (ca cb : Nat) (ha : ca < 2000000) (hb' : cb < 2000000) : CtI l yX0_isBetter cX0_isBetter 2 .boolean 0 0 D tys [.int (nI ca), .int (nI cb)] [] (b2i (mb_bet ca cb)) [] := by
  refine CtI.mk (by decide) (b2i_nar _) (Nat.le_of_ble_eq_true rfl) ?_
  intro p e s m args below meth c A Q S hK hP hD hA hS hret ls hl
  have S : CallFix p m c cX0_isBetter 2 s args lw_all RX0 := S
  have hx := S.1
  have hb := S.2.1
  have hl : lv_has ls 2 [(0, .int (nI ca)), (1, .int (nI cb))] := hl
  refine lv_iload_n hx hb dX0_isBetter_0 rfl (lv_at hl 0 rfl) ?_
  refine lv_bipush (v := 100) hx hb dX0_isBetter_1 (by decide) ?_
  refine lv_idiv hx hb dX0_isBetter_3 (by decide) ?_
  refine lv_tv (v := nI (ca / 100)) (mb_div (by omega)) ?_
  refine lv_iload_n hx hb dX0_isBetter_4 rfl (lv_at hl 1 rfl) ?_
  refine lv_bipush (v := 100) hx hb dX0_isBetter_5 (by decide) ?_
  refine lv_idiv hx hb dX0_isBetter_7 (by decide) ?_
  refine lv_tv (v := nI (cb / 100)) (mb_div (by omega)) ?_
  refine lv_icmp_lt (tgt := 33) hx hb dX0_isBetter_8 (by decide) (fun c8 => ?_) (fun c8 => ?_)
  · have c8 := (nI_ltI (by omega) (by omega)).mp c8
    refine lv_iconst (v := 1) hx hb dX0_isBetter_33 (by decide) ?_
    refine lv_goto (tgt := 38) hx hb dX0_isBetter_34 (by decide) ?_
    exact hret _ _ _ _ _ _ dX0_isBetter_38 (by rw [mb_bet_1 c8] <;> rfl) rfl hP hD hS
  · have c8 : ¬ _ := fun z => c8 ((nI_ltI (by omega) (by omega)).mpr z)
    refine lv_iload_n hx hb dX0_isBetter_11 rfl (lv_at hl 0 rfl) ?_
    refine lv_bipush (v := 100) hx hb dX0_isBetter_12 (by decide) ?_
    refine lv_idiv hx hb dX0_isBetter_14 (by decide) ?_
    refine lv_tv (v := nI (ca / 100)) (mb_div (by omega)) ?_
    refine lv_iload_n hx hb dX0_isBetter_15 rfl (lv_at hl 1 rfl) ?_
    refine lv_bipush (v := 100) hx hb dX0_isBetter_16 (by decide) ?_
    refine lv_idiv hx hb dX0_isBetter_18 (by decide) ?_
    refine lv_tv (v := nI (cb / 100)) (mb_div (by omega)) ?_
    refine lv_icmp_ne (tgt := 37) hx hb dX0_isBetter_19 (by decide) (fun c19 => ?_) (fun c19 => ?_)
    · have c19 : ¬ _ := fun z => c19 ((nI_eq (by omega) (by omega)).mpr z)
      refine lv_iconst (v := 0) hx hb dX0_isBetter_37 (by decide) ?_
      exact hret _ _ _ _ _ _ dX0_isBetter_38 (by rw [mb_bet_2 c8 c19] <;> rfl) rfl hP hD hS
    · have c19 := (nI_eq (by omega) (by omega)).mp c19
      refine lv_iload_n hx hb dX0_isBetter_22 rfl (lv_at hl 0 rfl) ?_
      refine lv_bipush (v := 100) hx hb dX0_isBetter_23 (by decide) ?_
      refine lv_irem hx hb dX0_isBetter_25 (by decide) ?_
      refine lv_tv (v := nI (ca % 100)) (mb_rem (by omega)) ?_
      refine lv_iload_n hx hb dX0_isBetter_26 rfl (lv_at hl 1 rfl) ?_
      refine lv_bipush (v := 100) hx hb dX0_isBetter_27 (by decide) ?_
      refine lv_irem hx hb dX0_isBetter_29 (by decide) ?_
      refine lv_tv (v := nI (cb % 100)) (mb_rem (by omega)) ?_
      refine lv_icmp_le (tgt := 37) hx hb dX0_isBetter_30 (by decide) (fun c30 => ?_) (fun c30 => ?_)
      · have c30 := (nI_leI (by omega) (by omega)).mp c30
        refine lv_iconst (v := 0) hx hb dX0_isBetter_37 (by decide) ?_
        exact hret _ _ _ _ _ _ dX0_isBetter_38 (by rw [mb_bet_3 c8 c30] <;> rfl) rfl hP hD hS
      · have c30 : ¬ _ := fun z => c30 ((nI_leI (by omega) (by omega)).mpr z)
        refine lv_iconst (v := 1) hx hb dX0_isBetter_33 (by decide) ?_
        refine lv_goto (tgt := 38) hx hb dX0_isBetter_34 (by decide) ?_
        exact hret _ _ _ _ _ _ dX0_isBetter_38 (by rw [mb_bet_4 c19 c30] <;> rfl) rfl hP hD hS
set_option maxHeartbeats 4000000 in
set_option maxRecDepth 100000 in
theorem cX_isThere (l : Launch) (D : va_G) (ad : Nat → Nat) (zC iC : ClassId) (M : MS) (rr : Nat) (hr : rr < 10) : CtI l yX0_isThere cX0_isThere 2 .boolean 0 0 D (tyZ zC iC) [.ref (ad 0), .int (nI rr)] (wX ad zC iC M) (b2i (m_there M rr)) (wX ad zC iC M) := by
  refine CtI.mk (by decide) (b2i_nar _) (Nat.le_of_ble_eq_true rfl) ?_
  intro p e s m args below meth c A Q S hK hP hD hA hS hret ls hl
  have S : CallFix p m c cX0_isThere 2 s args lw_all RX0 := S
  have hx := S.1
  have hb := S.2.1
  have hl : lv_has ls 2 [(0, .ref (ad 0)), (1, .int (nI rr))] := hl
  refine lv_aload_n hx hb dX0_isThere_0 rfl (lv_at hl 0 rfl) ?_
  refine xg_there S hK hP dX0_isThere_1 ?_
  refine lv_iload_n hx hb dX0_isThere_4 rfl (lv_at hl 1 rfl) ?_
  refine lv_ishr hx hb dX0_isThere_5 ?_
  refine lv_iconst (v := 1) hx hb dX0_isThere_6 (by decide) ?_
  refine lv_iand hx hb dX0_isThere_7 ?_
  refine lv_tv (v := b2i (m_there M rr)) (mb_mk_get _ hr) ?_
  refine lv_iconst (v := 1) hx hb dX0_isThere_8 (by decide) ?_
  refine lv_icmp_ne (tgt := 16) hx hb dX0_isThere_9 (by decide) (fun c9 => ?_) (fun c9 => ?_)
  · have c9 := b2i_n1 c9
    refine lv_iconst (v := 0) hx hb dX0_isThere_16 (by decide) ?_
    exact hret _ _ _ _ _ _ dX0_isThere_17 (by rw [c9] <;> rfl) rfl hP hD hS
  · have c9 := b2i_1 c9
    refine lv_iconst (v := 1) hx hb dX0_isThere_12 (by decide) ?_
    refine lv_goto (tgt := 17) hx hb dX0_isThere_13 (by decide) ?_
    exact hret _ _ _ _ _ _ dX0_isThere_17 (by rw [c9] <;> rfl) rfl hP hD hS
set_option maxHeartbeats 4000000 in
set_option maxRecDepth 100000 in
theorem cX_listens (l : Launch) (D : va_G) (ad : Nat → Nat) (zC iC : ClassId) (M : MS) (rr : Nat) (hr : rr < 10) : CtI l yX0_listens cX0_listens 2 .boolean 1 21 D (tyZ zC iC) [.ref (ad 0), .int (nI rr)] (wX ad zC iC M) (b2i (mb_lis M rr)) (wX ad zC iC M) := by
  refine CtI.mk (by decide) (b2i_nar _) (Nat.le_of_ble_eq_true rfl) ?_
  intro p e s m args below meth c A Q S hK hP hD hA hS hret ls hl
  have S : CallFix p m c cX0_listens 2 s args lw_all RX0 := S
  have hx := S.1
  have hb := S.2.1
  have hl : lv_has ls 2 [(0, .ref (ad 0)), (1, .int (nI rr))] := hl
  refine lv_aload_n hx hb dX0_listens_0 rfl (lv_at hl 0 rfl) ?_
  refine lv_iload_n hx hb dX0_listens_1 rfl (lv_at hl 1 rfl) ?_
  refine CtI.cV1 (rest := []) (ci := 0) (C := RX0) (T := TX0) (N := 11) (cX_isThere l D ad zC iC M rr hr) S (lw_V q84 q86 qs0 q15 q87) hdX0_isThere rfl ⟨Nat.le_of_ble_eq_true rfl, Nat.le_of_ble_eq_true rfl⟩ rfl rfl hK hP hD hS hA hl.1 rfl (Nat.le_of_ble_eq_true rfl) ⟨Nat.zero_le _, Nat.zero_le _⟩ dX0_listens_2 (fun H locs hP hD hS => ?_)
  refine lv_if_eq (tgt := 23) hx hb dX0_listens_5 (by decide) (fun c5 => ?_) (fun c5 => ?_)
  · have c5 := b2i_0 c5
    refine lv_iconst (v := 0) hx hb dX0_listens_23 (by decide) ?_
    exact hret _ _ _ _ _ _ dX0_listens_24 (by rw [mb_lis_1 c5] <;> rfl) rfl hP hD hS
  · have c5 := b2i_n0 c5
    refine lv_aload_n hx hb dX0_listens_8 rfl (lv_at hl 0 rfl) ?_
    refine xg_deaf S hK hP dX0_listens_9 ?_
    refine lv_iload_n hx hb dX0_listens_12 rfl (lv_at hl 1 rfl) ?_
    refine lv_ishr hx hb dX0_listens_13 ?_
    refine lv_iconst (v := 1) hx hb dX0_listens_14 (by decide) ?_
    refine lv_iand hx hb dX0_listens_15 ?_
    refine lv_tv (v := b2i (m_deaf M rr)) (mb_mk_get _ hr) ?_
    refine lv_if_ne (tgt := 23) hx hb dX0_listens_16 (by decide) (fun c16 => ?_) (fun c16 => ?_)
    · have c16 := b2i_n0 c16
      refine lv_iconst (v := 0) hx hb dX0_listens_23 (by decide) ?_
      exact hret _ _ _ _ _ _ dX0_listens_24 (by rw [mb_lis_2 c16] <;> rfl) rfl hP hD hS
    · have c16 := b2i_0 c16
      refine lv_iconst (v := 1) hx hb dX0_listens_19 (by decide) ?_
      refine lv_goto (tgt := 24) hx hb dX0_listens_20 (by decide) ?_
      exact hret _ _ _ _ _ _ dX0_listens_24 (by rw [mb_lis_t c5 c16] <;> rfl) rfl hP hD hS
set_option maxHeartbeats 4000000 in
set_option maxRecDepth 100000 in
theorem cX_own (l : Launch) (D : va_G) (ad : Nat → Nat) (zC iC : ClassId) (M : MS) (rr ss : Nat) (hr : rr < 10) (hs : ss < 16) : CtI l yX0_own cX0_own 4 .int 0 0 D (tyZ zC iC) [.ref (ad 0), .int (nI rr), .int (nI ss)] (wX ad zC iC M) (nI (mb_own M rr ss)) (wX ad zC iC M) := by
  refine CtI.mk (by decide) rfl (Nat.le_of_ble_eq_true rfl) ?_
  intro p e s m args below meth c A Q S hK hP hD hA hS hret ls hl
  have S : CallFix p m c cX0_own 4 s args lw_all RX0 := S
  have hx := S.1
  have hb := S.2.1
  have hl : lv_has ls 4 [(0, .ref (ad 0)), (1, .int (nI rr)), (2, .int (nI ss))] := hl
  refine lv_iload_n hx hb dX0_own_0 rfl (lv_at hl 1 rfl) ?_
  refine lv_bipush (v := 16) hx hb dX0_own_1 (by decide) ?_
  refine lv_imul hx hb dX0_own_3 ?_
  refine lv_iload_n hx hb dX0_own_4 rfl (lv_at hl 2 rfl) ?_
  refine lv_iadd hx hb dX0_own_5 ?_
  refine lv_tv (v := nI (16 * rr + ss)) (mb_ix rr ss) ?_
  refine lv_istore_n (lv' := [(3, .int (nI (16 * rr + ss))), (0, .ref (ad 0)), (1, .int (nI rr)), (2, .int (nI ss))]) hx hb dX0_own_6 rfl hl (by decide) rfl (fun ls hl => ?_)
  refine lv_aload_n hx hb dX0_own_7 rfl (lv_at hl 1 rfl) ?_
  refine xg_st S hK hP dX0_own_8 ?_
  refine lv_iload_n hx hb dX0_own_11 rfl (lv_at hl 0 rfl) ?_
  refine xl_st (k := 16 * rr + ss) (by omega) S hK hP dX0_own_12 ?_
  refine lv_if_eq (tgt := 20) hx hb dX0_own_13 (by decide) (fun c13 => ?_) (fun c13 => ?_)
  · have c13 := b2i_0 c13
    refine lv_ldc (v := 1000000) hx hb S.2.2.2.1 (S.2.2.2.2 _ q116) dX0_own_20 ?_
    refine lv_bipush (v := 100) hx hb dX0_own_22 (by decide) ?_
    refine lv_aload_n hx hb dX0_own_24 rfl (lv_at hl 1 rfl) ?_
    refine xg_di S hK hP dX0_own_25 ?_
    refine lv_iload_n hx hb dX0_own_28 rfl (lv_at hl 0 rfl) ?_
    refine xl_di (k := 16 * rr + ss) (by omega) S hK hP dX0_own_29 ?_
    refine lv_imul hx hb dX0_own_30 ?_
    refine lv_iadd hx hb dX0_own_31 ?_
    refine lv_iload_n hx hb dX0_own_32 rfl (lv_at hl 2 rfl) ?_
    refine lv_iadd hx hb dX0_own_33 ?_
    exact hret _ _ _ _ _ _ dX0_own_34 (by rw [mb_own_f c13, ← mb_own1] <;> rfl) rfl hP hD hS
  · have c13 := b2i_n0 c13
    refine lv_iconst (v := 0) hx hb dX0_own_16 (by decide) ?_
    refine lv_goto (tgt := 22) hx hb dX0_own_17 (by decide) ?_
    refine lv_bipush (v := 100) hx hb dX0_own_22 (by decide) ?_
    refine lv_aload_n hx hb dX0_own_24 rfl (lv_at hl 1 rfl) ?_
    refine xg_di S hK hP dX0_own_25 ?_
    refine lv_iload_n hx hb dX0_own_28 rfl (lv_at hl 0 rfl) ?_
    refine xl_di (k := 16 * rr + ss) (by omega) S hK hP dX0_own_29 ?_
    refine lv_imul hx hb dX0_own_30 ?_
    refine lv_iadd hx hb dX0_own_31 ?_
    refine lv_iload_n hx hb dX0_own_32 rfl (lv_at hl 2 rfl) ?_
    refine lv_iadd hx hb dX0_own_33 ?_
    exact hret _ _ _ _ _ _ dX0_own_34 (by rw [mb_own_t c13, ← mb_own0] <;> rfl) rfl hP hD hS
set_option maxHeartbeats 4000000 in
set_option maxRecDepth 100000 in
theorem cX_held (l : Launch) (D : va_G) (ad : Nat → Nat) (zC iC : ClassId) (M : MS) (hJ : JN M) (rr ss : Nat) (hr : rr < 10) (hs : ss < 16) : CtI l yX0_held cX0_held 4 .int 1 21 D (tyZ zC iC) [.ref (ad 0), .int (nI rr), .int (nI ss)] (wX ad zC iC M) (mb_held M rr ss) (wX ad zC iC M) := by
  refine CtI.mk (by decide) rfl (Nat.le_of_ble_eq_true rfl) ?_
  intro p e s m args below meth c A Q S hK hP hD hA hS hret ls hl
  have S : CallFix p m c cX0_held 4 s args lw_all RX0 := S
  have hx := S.1
  have hb := S.2.1
  have hl : lv_has ls 4 [(0, .ref (ad 0)), (1, .int (nI rr)), (2, .int (nI ss))] := hl
  have hk0 := hJ.1
  obtain ⟨hk1, hk2⟩ := hJ.2.2.1 (16 * rr + ss) (by omega)
  have hk3 := hJ.2.2.2 (16 * rr + ss) (by omega)
  refine lv_iload_n hx hb dX0_held_0 rfl (lv_at hl 1 rfl) ?_
  refine lv_bipush (v := 16) hx hb dX0_held_1 (by decide) ?_
  refine lv_imul hx hb dX0_held_3 ?_
  refine lv_iload_n hx hb dX0_held_4 rfl (lv_at hl 2 rfl) ?_
  refine lv_iadd hx hb dX0_held_5 ?_
  refine lv_tv (v := nI (16 * rr + ss)) (mb_ix rr ss) ?_
  refine lv_istore_n (lv' := [(3, .int (nI (16 * rr + ss))), (0, .ref (ad 0)), (1, .int (nI rr)), (2, .int (nI ss))]) hx hb dX0_held_6 rfl hl (by decide) rfl (fun ls hl => ?_)
  refine lv_aload_n hx hb dX0_held_7 rfl (lv_at hl 1 rfl) ?_
  refine xg_time S hK hP dX0_held_8 ?_
  refine lv_aload_n hx hb dX0_held_11 rfl (lv_at hl 1 rfl) ?_
  refine xg_ti S hK hP dX0_held_12 ?_
  refine lv_iload_n hx hb dX0_held_15 rfl (lv_at hl 0 rfl) ?_
  refine xl_ti (k := 16 * rr + ss) (by omega) S hK hP dX0_held_16 ?_
  refine lv_icmp_ge (tgt := 45) hx hb dX0_held_17 (by decide) (fun c17 => ?_) (fun c17 => ?_)
  · have c17 := (nI_leI (by omega) (by omega)).mp c17
    refine lv_iconst (v := (-1)) hx hb dX0_held_45 (by decide) ?_
    exact hret _ _ _ _ _ _ dX0_held_46 (by rw [mb_held_f (mb_hb_1 c17)] <;> rfl) rfl hP hD hS
  · have c17 : ¬ _ := fun z => c17 ((nI_leI (by omega) (by omega)).mpr z)
    refine lv_aload_n hx hb dX0_held_20 rfl (lv_at hl 1 rfl) ?_
    refine lv_aload_n hx hb dX0_held_21 rfl (lv_at hl 1 rfl) ?_
    refine xg_kc S hK hP dX0_held_22 ?_
    refine lv_iload_n hx hb dX0_held_25 rfl (lv_at hl 0 rfl) ?_
    refine xl_kc (k := 16 * rr + ss) (by omega) S hK hP dX0_held_26 ?_
    refine lv_bipush (v := 100) hx hb dX0_held_27 (by decide) ?_
    refine lv_irem hx hb dX0_held_29 (by decide) ?_
    refine lv_tv (v := nI (m_kc M (16 * rr + ss) % 100)) (mb_rem (by omega)) ?_
    refine CtI.cV1 (rest := []) (ci := 0) (C := RX0) (T := TX0) (N := 11) (cX_isThere l D ad zC iC M (m_kc M (16 * rr + ss) % 100) hk2) S (lw_V q84 q86 qs0 q15 q87) hdX0_isThere rfl ⟨Nat.le_of_ble_eq_true rfl, Nat.le_of_ble_eq_true rfl⟩ rfl rfl hK hP hD hS hA hl.1 rfl (Nat.le_of_ble_eq_true rfl) ⟨Nat.zero_le _, Nat.zero_le _⟩ dX0_held_30 (fun H locs hP hD hS => ?_)
    refine lv_if_eq (tgt := 45) hx hb dX0_held_33 (by decide) (fun c33 => ?_) (fun c33 => ?_)
    · have c33 := b2i_0 c33
      refine lv_iconst (v := (-1)) hx hb dX0_held_45 (by decide) ?_
      exact hret _ _ _ _ _ _ dX0_held_46 (by rw [mb_held_f (mb_hb_2 c33)] <;> rfl) rfl hP hD hS
    · have c33 := b2i_n0 c33
      refine lv_aload_n hx hb dX0_held_36 rfl (lv_at hl 1 rfl) ?_
      refine xg_kc S hK hP dX0_held_37 ?_
      refine lv_iload_n hx hb dX0_held_40 rfl (lv_at hl 0 rfl) ?_
      refine xl_kc (k := 16 * rr + ss) (by omega) S hK hP dX0_held_41 ?_
      refine lv_goto (tgt := 46) hx hb dX0_held_42 (by decide) ?_
      exact hret _ _ _ _ _ _ dX0_held_46 (by rw [mb_held_t (mb_hb_t c17 c33)] <;> rfl) rfl hP hD hS
set_option maxHeartbeats 4000000 in
set_option maxRecDepth 100000 in
theorem cX_isLost (l : Launch) (D : va_G) (ad : Nat → Nat) (zC iC : ClassId) (M : MS) (hJ : JN M) (rr ss : Nat) (hr : rr < 10) (hs : ss < 16) : CtI l yX0_isLost cX0_isLost 4 .boolean 2 44 D (tyZ zC iC) [.ref (ad 0), .int (nI rr), .int (nI ss)] (wX ad zC iC M) (b2i (mb_lost M rr ss)) (wX ad zC iC M) := by
  refine CtI.mk (by decide) (b2i_nar _) (Nat.le_of_ble_eq_true rfl) ?_
  intro p e s m args below meth c A Q S hK hP hD hA hS hret ls hl
  have S : CallFix p m c cX0_isLost 4 s args lw_all RX0 := S
  have hx := S.1
  have hb := S.2.1
  have hl : lv_has ls 4 [(0, .ref (ad 0)), (1, .int (nI rr)), (2, .int (nI ss))] := hl
  obtain ⟨hk1, hk2⟩ := hJ.2.2.1 (16 * rr + ss) (by omega)
  refine lv_aload_n hx hb dX0_isLost_0 rfl (lv_at hl 0 rfl) ?_
  refine lv_iload_n hx hb dX0_isLost_1 rfl (lv_at hl 1 rfl) ?_
  refine lv_iload_n hx hb dX0_isLost_2 rfl (lv_at hl 2 rfl) ?_
  refine CtI.cV1 (rest := []) (ci := 0) (C := RX0) (T := TX0) (N := 11) (cX_held l D ad zC iC M hJ rr ss hr hs) S (lw_V q108 q110 qs4 q15 q111) hdX0_held rfl ⟨Nat.le_of_ble_eq_true rfl, Nat.le_of_ble_eq_true rfl⟩ rfl rfl hK hP hD hS hA hl.1 rfl (Nat.le_of_ble_eq_true rfl) ⟨Nat.zero_le _, Nat.zero_le _⟩ dX0_isLost_3 (fun H locs hP hD hS => ?_)
  refine lv_istore_n (lv' := [(3, .int (mb_held M rr ss)), (0, .ref (ad 0)), (1, .int (nI rr)), (2, .int (nI ss))]) hx hb dX0_isLost_6 rfl hl (by decide) rfl (fun ls hl => ?_)
  refine lv_iload_n hx hb dX0_isLost_7 rfl (lv_at hl 0 rfl) ?_
  refine lv_iconst (v := (-1)) hx hb dX0_isLost_8 (by decide) ?_
  refine lv_icmp_eq (tgt := 29) hx hb dX0_isLost_9 (by decide) (fun c9 => ?_) (fun c9 => ?_)
  · refine lv_iconst (v := 0) hx hb dX0_isLost_29 (by decide) ?_
    exact hret _ _ _ _ _ _ dX0_isLost_30 (by rw [mb_lost_1 (mb_hb_m1 hJ hr hs c9)] <;> rfl) rfl hP hD hS
  · have c9 := mb_hb_n1 c9
    rw [mb_held_t c9] at hl
    refine lv_iload_n hx hb dX0_isLost_12 rfl (lv_at hl 0 rfl) ?_
    refine lv_aload_n hx hb dX0_isLost_13 rfl (lv_at hl 1 rfl) ?_
    refine lv_iload_n hx hb dX0_isLost_14 rfl (lv_at hl 2 rfl) ?_
    refine lv_iload_n hx hb dX0_isLost_15 rfl (lv_at hl 3 rfl) ?_
    refine CtI.cV1 (rest := [.int (nI (m_kc M (16 * rr + ss)))]) (ci := 0) (C := RX0) (T := TX0) (N := 11) (cX_own l D ad zC iC M rr ss hr hs) S (lw_V q112 q114 qs5 q15 q115) hdX0_own rfl ⟨Nat.le_of_ble_eq_true rfl, Nat.le_of_ble_eq_true rfl⟩ rfl rfl hK hP hD hS hA hl.1 rfl (Nat.le_of_ble_eq_true rfl) ⟨Nat.zero_le _, Nat.zero_le _⟩ dX0_isLost_16 (fun H locs hP hD hS => ?_)
    refine CtI.cS (rest := []) (cX_isBetter l D (tyZ zC iC) (m_kc M (16 * rr + ss)) (mb_own M rr ss) hk1 (mb_own_lt hJ hr hs)) S (lw_S q117 q118 q15 q119) hdX0_isBetter rfl ⟨Nat.le_of_ble_eq_true rfl, Nat.le_of_ble_eq_true rfl⟩ hK hP hD hS hA hl.1 rfl (Nat.le_of_ble_eq_true rfl) ⟨Nat.zero_le _, Nat.zero_le _⟩ dX0_isLost_19 (fun H locs hP hD hS => ?_)
    refine lv_if_eq (tgt := 29) hx hb dX0_isLost_22 (by decide) (fun c22 => ?_) (fun c22 => ?_)
    · have c22 := b2i_0 c22
      refine lv_iconst (v := 0) hx hb dX0_isLost_29 (by decide) ?_
      exact hret _ _ _ _ _ _ dX0_isLost_30 (by rw [mb_lost_2 c9 c22] <;> rfl) rfl hP hD hS
    · have c22 := b2i_n0 c22
      refine lv_iconst (v := 1) hx hb dX0_isLost_25 (by decide) ?_
      refine lv_goto (tgt := 30) hx hb dX0_isLost_26 (by decide) ?_
      exact hret _ _ _ _ _ _ dX0_isLost_30 (by rw [mb_lost_2 c9 c22] <;> rfl) rfl hP hD hS
set_option maxHeartbeats 4000000 in
set_option maxRecDepth 100000 in
theorem cX_isSending (l : Launch) (D : va_G) (ad : Nat → Nat) (zC iC : ClassId) (M : MS) (hJ : JN M) (rr ss : Nat) (hr : rr < 10) (hs : ss < 16) : CtI l yX0_isSending cX0_isSending 3 .boolean 3 67 D (tyZ zC iC) [.ref (ad 0), .int (nI rr), .int (nI ss)] (wX ad zC iC M) (b2i (mb_snd M rr ss)) (wX ad zC iC M) := by
  refine CtI.mk (by decide) (b2i_nar _) (Nat.le_of_ble_eq_true rfl) ?_
  intro p e s m args below meth c A Q S hK hP hD hA hS hret ls hl
  have S : CallFix p m c cX0_isSending 3 s args lw_all RX0 := S
  have hx := S.1
  have hb := S.2.1
  have hl : lv_has ls 3 [(0, .ref (ad 0)), (1, .int (nI rr)), (2, .int (nI ss))] := hl
  refine lv_aload_n hx hb dX0_isSending_0 rfl (lv_at hl 0 rfl) ?_
  refine lv_iload_n hx hb dX0_isSending_1 rfl (lv_at hl 1 rfl) ?_
  refine CtI.cV1 (rest := []) (ci := 0) (C := RX0) (T := TX0) (N := 11) (cX_isThere l D ad zC iC M rr hr) S (lw_V q84 q86 qs0 q15 q87) hdX0_isThere rfl ⟨Nat.le_of_ble_eq_true rfl, Nat.le_of_ble_eq_true rfl⟩ rfl rfl hK hP hD hS hA hl.1 rfl (Nat.le_of_ble_eq_true rfl) ⟨Nat.zero_le _, Nat.zero_le _⟩ dX0_isSending_2 (fun H locs hP hD hS => ?_)
  refine lv_if_eq (tgt := 35) hx hb dX0_isSending_5 (by decide) (fun c5 => ?_) (fun c5 => ?_)
  · have c5 := b2i_0 c5
    refine lv_iconst (v := 0) hx hb dX0_isSending_35 (by decide) ?_
    exact hret _ _ _ _ _ _ dX0_isSending_36 (by rw [mb_snd_1 c5] <;> rfl) rfl hP hD hS
  · have c5 := b2i_n0 c5
    refine lv_aload_n hx hb dX0_isSending_8 rfl (lv_at hl 0 rfl) ?_
    refine xg_fw S hK hP dX0_isSending_9 ?_
    refine lv_iload_n hx hb dX0_isSending_12 rfl (lv_at hl 1 rfl) ?_
    refine lv_bipush (v := 16) hx hb dX0_isSending_13 (by decide) ?_
    refine lv_imul hx hb dX0_isSending_15 ?_
    refine lv_iload_n hx hb dX0_isSending_16 rfl (lv_at hl 2 rfl) ?_
    refine lv_iadd hx hb dX0_isSending_17 ?_
    refine lv_tv (v := nI (16 * rr + ss)) (mb_ix rr ss) ?_
    refine xl_fw (k := 16 * rr + ss) (by omega) S hK hP dX0_isSending_18 ?_
    refine lv_if_eq (tgt := 35) hx hb dX0_isSending_19 (by decide) (fun c19 => ?_) (fun c19 => ?_)
    · have c19 := b2i_0 c19
      refine lv_iconst (v := 0) hx hb dX0_isSending_35 (by decide) ?_
      exact hret _ _ _ _ _ _ dX0_isSending_36 (by rw [mb_snd_2 c19] <;> rfl) rfl hP hD hS
    · have c19 := b2i_n0 c19
      refine lv_aload_n hx hb dX0_isSending_22 rfl (lv_at hl 0 rfl) ?_
      refine lv_iload_n hx hb dX0_isSending_23 rfl (lv_at hl 1 rfl) ?_
      refine lv_iload_n hx hb dX0_isSending_24 rfl (lv_at hl 2 rfl) ?_
      refine CtI.cV1 (rest := []) (ci := 0) (C := RX0) (T := TX0) (N := 11) (cX_isLost l D ad zC iC M hJ rr ss hr hs) S (lw_V q104 q106 qs3 q15 q107) hdX0_isLost rfl ⟨Nat.le_of_ble_eq_true rfl, Nat.le_of_ble_eq_true rfl⟩ rfl rfl hK hP hD hS hA hl.1 rfl (Nat.le_of_ble_eq_true rfl) ⟨Nat.zero_le _, Nat.zero_le _⟩ dX0_isSending_25 (fun H locs hP hD hS => ?_)
      refine lv_if_ne (tgt := 35) hx hb dX0_isSending_28 (by decide) (fun c28 => ?_) (fun c28 => ?_)
      · have c28 := b2i_n0 c28
        refine lv_iconst (v := 0) hx hb dX0_isSending_35 (by decide) ?_
        exact hret _ _ _ _ _ _ dX0_isSending_36 (by rw [mb_snd_3 c28] <;> rfl) rfl hP hD hS
      · have c28 := b2i_0 c28
        refine lv_iconst (v := 1) hx hb dX0_isSending_31 (by decide) ?_
        refine lv_goto (tgt := 36) hx hb dX0_isSending_32 (by decide) ?_
        exact hret _ _ _ _ _ _ dX0_isSending_36 (by rw [mb_snd_t c5 c19 c28] <;> rfl) rfl hP hD hS
set_option maxHeartbeats 4000000 in
set_option maxRecDepth 100000 in
theorem cX_say (l : Launch) (D : va_G) (ad : Nat → Nat) (zC iC : ClassId) (M : MS) (rr ss : Nat) (hr : rr < 10) (hs : ss < 16) (hm : m_said M < 1024) : CtV l yX0_say cX0_say 3 1 23 D (tyZ zC iC) [.ref (ad 0), .int (nI rr), .int (nI ss)] (wX ad zC iC M) (wX ad zC iC (mb_say M rr ss)) := by
  refine CtV.mk (by decide) (Nat.le_of_ble_eq_true rfl) ?_
  intro p e s m args below meth c A Q S hK hP hD hA hS hret ls hl
  have S : CallFix p m c cX0_say 3 s args lw_all RX0 := S
  have hx := S.1
  have hb := S.2.1
  have hl : lv_has ls 3 [(0, .ref (ad 0)), (1, .int (nI rr)), (2, .int (nI ss))] := hl
  refine lv_aload_n hx hb dX0_say_0 rfl (lv_at hl 0 rfl) ?_
  refine xg_row S hK hP dX0_say_1 ?_
  refine lv_aload_n hx hb dX0_say_4 rfl (lv_at hl 0 rfl) ?_
  refine xg_said S hK hP dX0_say_5 ?_
  refine lv_aload_n hx hb dX0_say_8 rfl (lv_at hl 0 rfl) ?_
  refine lv_iload_n hx hb dX0_say_9 rfl (lv_at hl 1 rfl) ?_
  refine lv_iload_n hx hb dX0_say_10 rfl (lv_at hl 2 rfl) ?_
  refine CtI.cV1 (rest := [.int (nI (m_said M)), .ref (ad 6)]) (ci := 0) (C := RX0) (T := TX0) (N := 11) (cX_own l D ad zC iC M rr ss hr hs) S (lw_V q112 q114 qs5 q15 q115) hdX0_own rfl ⟨Nat.le_of_ble_eq_true rfl, Nat.le_of_ble_eq_true rfl⟩ rfl rfl hK hP hD hS hA hl.1 rfl (Nat.le_of_ble_eq_true rfl) ⟨Nat.zero_le _, Nat.zero_le _⟩ dX0_say_11 (fun H locs hP hD hS => ?_)
  refine xs_row (k := m_said M) (by omega) S hK hP hD hS dX0_say_14 (fun H locs hP hD hS => ?_)
  refine lv_aload_n hx hb dX0_say_15 rfl (lv_at hl 0 rfl) ?_
  refine lv_dup hx hb dX0_say_16 rfl ?_
  refine xg_said S hK hP dX0_say_17 ?_
  refine lv_iconst (v := 1) hx hb dX0_say_20 (by decide) ?_
  refine lv_iadd hx hb dX0_say_21 ?_
  refine lv_tv (v := nI (m_said M + 1)) (nI_1 (m_said M)) ?_
  refine xp_said S hK hP hD hS dX0_say_22 (fun H locs hP hD hS => ?_)
  refine lv_aload_n hx hb dX0_say_25 rfl (lv_at hl 0 rfl) ?_
  refine lv_dup hx hb dX0_say_26 rfl ?_
  refine xg_all S hK hP dX0_say_27 ?_
  refine lv_iconst (v := 1) hx hb dX0_say_30 (by decide) ?_
  refine lv_iadd hx hb dX0_say_31 ?_
  refine lv_tv (v := m_all M + 1) rfl ?_
  refine xp_all S hK hP hD hS dX0_say_32 (fun H locs hP hD hS => ?_)
  exact hret _ _ _ _ _ dX0_say_35 rfl hP hD hS
set_option maxHeartbeats 4000000 in
set_option maxRecDepth 100000 in
theorem cX_hear (l : Launch) (D : va_G) (ad : Nat → Nat) (zC iC : ClassId) (M : MS) (hJ : JN M) (hm : m_said M < 1024) (rr ss : Nat) (hr : rr < 10) (hs : ss < 16) (cm : Nat) (hcm : cm < 2000000) (hcm2 : cm % 100 < 10) : CtV l yX0_hear cX0_hear 5 4 89 D (tyZ zC iC) [.ref (ad 0), .int (nI rr), .int (nI ss), .int (nI cm)] (wX ad zC iC M) (wX ad zC iC (mb_hear M rr ss cm)) := by
  refine CtV.mk (by decide) (Nat.le_of_ble_eq_true rfl) ?_
  intro p e s m args below meth c A Q S hK hP hD hA hS hret ls hl
  have S : CallFix p m c cX0_hear 5 s args lw_all RX0 := S
  have hx := S.1
  have hb := S.2.1
  have hl : lv_has ls 5 [(0, .ref (ad 0)), (1, .int (nI rr)), (2, .int (nI ss)), (3, .int (nI cm))] := hl
  obtain ⟨hk1, hk2⟩ := hJ.2.2.1 (16 * rr + ss) (by omega)
  have tail : ∀ (M1 : MS) (H : Heap) (locs : List Loc) (ls : Array Slot), JN M1 → m_said M1 < 1024 → mb_h2 M1 rr ss cm = mb_hear M rr ss cm → va_P D vwCl (wX ad zC iC M1) H → va_D A (wX ad zC iC M1) → va_S A s.heap H locs → lv_has ls 5 [(0, .ref (ad 0)), (1, .int (nI rr)), (2, .int (nI ss)), (3, .int (nI cm))] → W p l e (rm_ 4 89) s m args below meth c H locs 0 0 Q (F0 m 65 ls []) := by
    intro M1 H locs ls hJ1 hm1 he1 hP hD hS hl
    refine lv_aload_n hx hb dX0_hear_65 rfl (lv_at hl 0 rfl) ?_
    refine lv_iload_n hx hb dX0_hear_66 rfl (lv_at hl 1 rfl) ?_
    refine lv_iload_n hx hb dX0_hear_67 rfl (lv_at hl 2 rfl) ?_
    refine CtI.cV1 (rest := []) (ci := 0) (C := RX0) (T := TX0) (N := 11) (cX_isSending l D ad zC iC M1 hJ1 rr ss hr hs) S (lw_V q100 q102 qs2 q15 q103) hdX0_isSending rfl ⟨Nat.le_of_ble_eq_true rfl, Nat.le_of_ble_eq_true rfl⟩ rfl rfl hK hP hD hS hA hl.1 rfl (Nat.le_of_ble_eq_true rfl) ⟨Nat.zero_le _, Nat.zero_le _⟩ dX0_hear_68 (fun H locs hP hD hS => ?_)
    refine lv_if_eq (tgt := 93) hx hb dX0_hear_71 (by decide) (fun c71 => ?_) (fun c71 => ?_)
    · have c71 := b2i_0 c71
      exact hret _ _ _ _ _ dX0_hear_93 (by rw [← he1, mb_h2_1 c71]) hP hD hS
    · have c71 := b2i_n0 c71
      refine lv_aload_n hx hb dX0_hear_74 rfl (lv_at hl 0 rfl) ?_
      refine lv_iload_n hx hb dX0_hear_75 rfl (lv_at hl 1 rfl) ?_
      refine lv_iload_n hx hb dX0_hear_76 rfl (lv_at hl 2 rfl) ?_
      refine CtI.cV1 (rest := []) (ci := 0) (C := RX0) (T := TX0) (N := 11) (cX_own l D ad zC iC M1 rr ss hr hs) S (lw_V q112 q114 qs5 q15 q115) hdX0_own rfl ⟨Nat.le_of_ble_eq_true rfl, Nat.le_of_ble_eq_true rfl⟩ rfl rfl hK hP hD hS hA hl.1 rfl (Nat.le_of_ble_eq_true rfl) ⟨Nat.zero_le _, Nat.zero_le _⟩ dX0_hear_77 (fun H locs hP hD hS => ?_)
      refine lv_iload_n hx hb dX0_hear_80 rfl (lv_at hl 3 rfl) ?_
      refine CtI.cS (rest := []) (cX_isBetter l D (tyZ zC iC) (mb_own M1 rr ss) cm (mb_own_lt hJ1 hr hs) hcm) S (lw_S q117 q118 q15 q119) hdX0_isBetter rfl ⟨Nat.le_of_ble_eq_true rfl, Nat.le_of_ble_eq_true rfl⟩ hK hP hD hS hA hl.1 rfl (Nat.le_of_ble_eq_true rfl) ⟨Nat.zero_le _, Nat.zero_le _⟩ dX0_hear_81 (fun H locs hP hD hS => ?_)
      refine lv_if_eq (tgt := 93) hx hb dX0_hear_84 (by decide) (fun c84 => ?_) (fun c84 => ?_)
      · have c84 := b2i_0 c84
        exact hret _ _ _ _ _ dX0_hear_93 (by rw [← he1, mb_h2_2 c84]) hP hD hS
      · have c84 := b2i_n0 c84
        refine lv_aload_n hx hb dX0_hear_87 rfl (lv_at hl 0 rfl) ?_
        refine lv_iload_n hx hb dX0_hear_88 rfl (lv_at hl 1 rfl) ?_
        refine lv_iload_n hx hb dX0_hear_89 rfl (lv_at hl 2 rfl) ?_
        refine CtV.cV1 (rest := []) (ci := 0) (C := RX0) (T := TX0) (N := 11) (cX_say l D ad zC iC M1 rr ss hr hs hm1) S (lw_V q120 q122 qs6 q15 q123) hdX0_say rfl ⟨Nat.le_of_ble_eq_true rfl, Nat.le_of_ble_eq_true rfl⟩ rfl rfl hK hP hD hS hA hl.1 rfl (Nat.le_of_ble_eq_true rfl) ⟨Nat.zero_le _, Nat.zero_le _⟩ dX0_hear_90 (fun H locs hP hD hS => ?_)
        exact hret _ _ _ _ _ dX0_hear_93 (by rw [← he1, mb_h2_t c71 c84]) hP hD hS
  refine lv_aload_n hx hb dX0_hear_0 rfl (lv_at hl 0 rfl) ?_
  refine lv_iload_n hx hb dX0_hear_1 rfl (lv_at hl 1 rfl) ?_
  refine lv_iload_n hx hb dX0_hear_2 rfl (lv_at hl 2 rfl) ?_
  refine CtI.cV1 (rest := []) (ci := 0) (C := RX0) (T := TX0) (N := 11) (cX_held l D ad zC iC M hJ rr ss hr hs) S (lw_V q108 q110 qs4 q15 q111) hdX0_held rfl ⟨Nat.le_of_ble_eq_true rfl, Nat.le_of_ble_eq_true rfl⟩ rfl rfl hK hP hD hS hA hl.1 rfl (Nat.le_of_ble_eq_true rfl) ⟨Nat.zero_le _, Nat.zero_le _⟩ dX0_hear_3 (fun H locs hP hD hS => ?_)
  refine lv_istore (lv' := [(4, .int (mb_held M rr ss)), (0, .ref (ad 0)), (1, .int (nI rr)), (2, .int (nI ss)), (3, .int (nI cm))]) hx hb dX0_hear_6 hl (by decide) rfl (fun ls hl => ?_)
  refine lv_iload hx hb dX0_hear_8 (lv_at hl 0 rfl) ?_
  refine lv_iconst (v := (-1)) hx hb dX0_hear_10 (by decide) ?_
  refine lv_icmp_eq (tgt := 35) hx hb dX0_hear_11 (by decide) (fun c11 => ?_) (fun c11 => ?_)
  · have hhc := mb_hc_1 (c := cm) (mb_hb_m1 hJ hr hs c11)
    refine lv_aload_n hx hb dX0_hear_35 rfl (lv_at hl 1 rfl) ?_
    refine xg_kc S hK hP dX0_hear_36 ?_
    refine lv_iload_n hx hb dX0_hear_39 rfl (lv_at hl 2 rfl) ?_
    refine lv_bipush (v := 16) hx hb dX0_hear_40 (by decide) ?_
    refine lv_imul hx hb dX0_hear_42 ?_
    refine lv_iload_n hx hb dX0_hear_43 rfl (lv_at hl 3 rfl) ?_
    refine lv_iadd hx hb dX0_hear_44 ?_
    refine lv_tv (v := nI (16 * rr + ss)) (mb_ix rr ss) ?_
    refine lv_iload_n hx hb dX0_hear_45 rfl (lv_at hl 4 rfl) ?_
    refine xs_kc (k := 16 * rr + ss) (by omega) S hK hP hD hS dX0_hear_46 (fun H locs hP hD hS => ?_)
    refine lv_aload_n hx hb dX0_hear_47 rfl (lv_at hl 1 rfl) ?_
    refine xg_ti S hK hP dX0_hear_48 ?_
    refine lv_iload_n hx hb dX0_hear_51 rfl (lv_at hl 2 rfl) ?_
    refine lv_bipush (v := 16) hx hb dX0_hear_52 (by decide) ?_
    refine lv_imul hx hb dX0_hear_54 ?_
    refine lv_iload_n hx hb dX0_hear_55 rfl (lv_at hl 3 rfl) ?_
    refine lv_iadd hx hb dX0_hear_56 ?_
    refine lv_tv (v := nI (16 * rr + ss)) (mb_ix rr ss) ?_
    refine lv_aload_n hx hb dX0_hear_57 rfl (lv_at hl 1 rfl) ?_
    refine xg_time S hK hP dX0_hear_58 ?_
    refine lv_bipush (v := 60) hx hb dX0_hear_61 (by decide) ?_
    refine lv_iadd hx hb dX0_hear_63 ?_
    refine lv_tv (v := nI (m_time M + 60)) (nI_add (m_time M) 60) ?_
    refine xs_ti (k := 16 * rr + ss) (by omega) S hK hP hD hS dX0_hear_64 (fun H locs hP hD hS => ?_)
    exact tail (n_kt M (16 * rr + ss) cm (m_time M + 60)) _ _ _ (JN_keep (r := rr) (s := ss) hJ hcm hcm2) hm (by rw [mb_hear, mb_h1_t hhc]) hP hD hS (lv_sub hl [1, 2, 3, 4] rfl)
  · have c11 := mb_hb_n1 c11
    rw [mb_held_t c11] at hl
    refine lv_iload_n hx hb dX0_hear_14 rfl (lv_at hl 4 rfl) ?_
    refine lv_iload hx hb dX0_hear_15 (lv_at hl 0 rfl) ?_
    refine CtI.cS (rest := []) (cX_isBetter l D (tyZ zC iC) cm (m_kc M (16 * rr + ss)) hcm hk1) S (lw_S q117 q118 q15 q119) hdX0_isBetter rfl ⟨Nat.le_of_ble_eq_true rfl, Nat.le_of_ble_eq_true rfl⟩ hK hP hD hS hA hl.1 rfl (Nat.le_of_ble_eq_true rfl) ⟨Nat.zero_le _, Nat.zero_le _⟩ dX0_hear_17 (fun H locs hP hD hS => ?_)
    refine lv_if_ne (tgt := 35) hx hb dX0_hear_20 (by decide) (fun c20 => ?_) (fun c20 => ?_)
    · have c20 := b2i_n0 c20
      have hhc := mb_hc_2 c20
      refine lv_aload_n hx hb dX0_hear_35 rfl (lv_at hl 1 rfl) ?_
      refine xg_kc S hK hP dX0_hear_36 ?_
      refine lv_iload_n hx hb dX0_hear_39 rfl (lv_at hl 2 rfl) ?_
      refine lv_bipush (v := 16) hx hb dX0_hear_40 (by decide) ?_
      refine lv_imul hx hb dX0_hear_42 ?_
      refine lv_iload_n hx hb dX0_hear_43 rfl (lv_at hl 3 rfl) ?_
      refine lv_iadd hx hb dX0_hear_44 ?_
      refine lv_tv (v := nI (16 * rr + ss)) (mb_ix rr ss) ?_
      refine lv_iload_n hx hb dX0_hear_45 rfl (lv_at hl 4 rfl) ?_
      refine xs_kc (k := 16 * rr + ss) (by omega) S hK hP hD hS dX0_hear_46 (fun H locs hP hD hS => ?_)
      refine lv_aload_n hx hb dX0_hear_47 rfl (lv_at hl 1 rfl) ?_
      refine xg_ti S hK hP dX0_hear_48 ?_
      refine lv_iload_n hx hb dX0_hear_51 rfl (lv_at hl 2 rfl) ?_
      refine lv_bipush (v := 16) hx hb dX0_hear_52 (by decide) ?_
      refine lv_imul hx hb dX0_hear_54 ?_
      refine lv_iload_n hx hb dX0_hear_55 rfl (lv_at hl 3 rfl) ?_
      refine lv_iadd hx hb dX0_hear_56 ?_
      refine lv_tv (v := nI (16 * rr + ss)) (mb_ix rr ss) ?_
      refine lv_aload_n hx hb dX0_hear_57 rfl (lv_at hl 1 rfl) ?_
      refine xg_time S hK hP dX0_hear_58 ?_
      refine lv_bipush (v := 60) hx hb dX0_hear_61 (by decide) ?_
      refine lv_iadd hx hb dX0_hear_63 ?_
      refine lv_tv (v := nI (m_time M + 60)) (nI_add (m_time M) 60) ?_
      refine xs_ti (k := 16 * rr + ss) (by omega) S hK hP hD hS dX0_hear_64 (fun H locs hP hD hS => ?_)
      exact tail (n_kt M (16 * rr + ss) cm (m_time M + 60)) _ _ _ (JN_keep (r := rr) (s := ss) hJ hcm hcm2) hm (by rw [mb_hear, mb_h1_t hhc]) hP hD hS (lv_sub hl [1, 2, 3, 4] rfl)
    · have c20 := b2i_0 c20
      refine lv_iload hx hb dX0_hear_23 (lv_at hl 0 rfl) ?_
      refine lv_bipush (v := 100) hx hb dX0_hear_25 (by decide) ?_
      refine lv_irem hx hb dX0_hear_27 (by decide) ?_
      refine lv_tv (v := nI (m_kc M (16 * rr + ss) % 100)) (mb_rem (by omega)) ?_
      refine lv_iload_n hx hb dX0_hear_28 rfl (lv_at hl 4 rfl) ?_
      refine lv_bipush (v := 100) hx hb dX0_hear_29 (by decide) ?_
      refine lv_irem hx hb dX0_hear_31 (by decide) ?_
      refine lv_tv (v := nI (cm % 100)) (mb_rem (by omega)) ?_
      refine lv_icmp_ne (tgt := 65) hx hb dX0_hear_32 (by decide) (fun c32 => ?_) (fun c32 => ?_)
      · have c32 : ¬ _ := fun z => c32 ((nI_eq (by omega) (by omega)).mpr z)
        exact tail M _ _ _ hJ hm (by rw [mb_hear, mb_h1_f (mb_hc_f c11 c20 c32)]) hP hD hS (lv_sub hl [1, 2, 3, 4] rfl)
      · have c32 := (nI_eq (by omega) (by omega)).mp c32
        have hhc := mb_hc_3 c32
        refine lv_aload_n hx hb dX0_hear_35 rfl (lv_at hl 1 rfl) ?_
        refine xg_kc S hK hP dX0_hear_36 ?_
        refine lv_iload_n hx hb dX0_hear_39 rfl (lv_at hl 2 rfl) ?_
        refine lv_bipush (v := 16) hx hb dX0_hear_40 (by decide) ?_
        refine lv_imul hx hb dX0_hear_42 ?_
        refine lv_iload_n hx hb dX0_hear_43 rfl (lv_at hl 3 rfl) ?_
        refine lv_iadd hx hb dX0_hear_44 ?_
        refine lv_tv (v := nI (16 * rr + ss)) (mb_ix rr ss) ?_
        refine lv_iload_n hx hb dX0_hear_45 rfl (lv_at hl 4 rfl) ?_
        refine xs_kc (k := 16 * rr + ss) (by omega) S hK hP hD hS dX0_hear_46 (fun H locs hP hD hS => ?_)
        refine lv_aload_n hx hb dX0_hear_47 rfl (lv_at hl 1 rfl) ?_
        refine xg_ti S hK hP dX0_hear_48 ?_
        refine lv_iload_n hx hb dX0_hear_51 rfl (lv_at hl 2 rfl) ?_
        refine lv_bipush (v := 16) hx hb dX0_hear_52 (by decide) ?_
        refine lv_imul hx hb dX0_hear_54 ?_
        refine lv_iload_n hx hb dX0_hear_55 rfl (lv_at hl 3 rfl) ?_
        refine lv_iadd hx hb dX0_hear_56 ?_
        refine lv_tv (v := nI (16 * rr + ss)) (mb_ix rr ss) ?_
        refine lv_aload_n hx hb dX0_hear_57 rfl (lv_at hl 1 rfl) ?_
        refine xg_time S hK hP dX0_hear_58 ?_
        refine lv_bipush (v := 60) hx hb dX0_hear_61 (by decide) ?_
        refine lv_iadd hx hb dX0_hear_63 ?_
        refine lv_tv (v := nI (m_time M + 60)) (nI_add (m_time M) 60) ?_
        refine xs_ti (k := 16 * rr + ss) (by omega) S hK hP hD hS dX0_hear_64 (fun H locs hP hD hS => ?_)
        exact tail (n_kt M (16 * rr + ss) cm (m_time M + 60)) _ _ _ (JN_keep (r := rr) (s := ss) hJ hcm hcm2) hm (by rw [mb_hear, mb_h1_t hhc]) hP hD hS (lv_sub hl [1, 2, 3, 4] rfl)
end
section
/-! by program (gen/methods.py Xpub) -/
set_option maxHeartbeats 4000000 in
set_option maxRecDepth 100000 in
theorem cX_tick (l : Launch) (D : va_G) (ad : Nat → Nat) (zC iC : ClassId) (M : MS) (nn : Int32) : CtI l yX0_tick cX0_tick 2 .int 0 0 D (tyZ zC iC) [.ref (ad 0), .int nn] (wX ad zC iC M) ((mo_tick M nn).1) (wX ad zC iC ((mo_tick M nn).2)) := by
  refine CtI.mk (by decide) rfl (Nat.le_of_ble_eq_true rfl) ?_
  intro p e s m args below meth c A Q S hK hP hD hA hS hret ls hl
  have S : CallFix p m c cX0_tick 2 s args lw_all RX0 := S
  have hx := S.1
  have hb := S.2.1
  have hl : lv_has ls 2 [(0, .ref (ad 0)), (1, .int nn)] := hl
  refine lv_iload_n hx hb dX0_tick_0 rfl (lv_at hl 1 rfl) ?_
  refine lv_iconst (v := 1) hx hb dX0_tick_1 (by decide) ?_
  refine lv_icmp_lt (tgt := 22) hx hb dX0_tick_2 (by decide) (fun c2 => ?_) (fun c2 => ?_)
  · refine lv_iconst (v := (-1)) hx hb dX0_tick_22 (by decide) ?_
    exact hret _ _ _ _ _ _ dX0_tick_23 (by rw [mo_tick_f (Or.inl c2)] <;> rfl) (by rw [mo_tick_f (Or.inl c2)] <;> rfl) hP hD hS
  · refine lv_iload_n hx hb dX0_tick_5 rfl (lv_at hl 1 rfl) ?_
    refine lv_bipush (v := 100) hx hb dX0_tick_6 (by decide) ?_
    refine lv_icmp_gt (tgt := 22) hx hb dX0_tick_8 (by decide) (fun c8 => ?_) (fun c8 => ?_)
    · refine lv_iconst (v := (-1)) hx hb dX0_tick_22 (by decide) ?_
      exact hret _ _ _ _ _ _ dX0_tick_23 (by rw [mo_tick_f (Or.inr (Or.inl c8))] <;> rfl) (by rw [mo_tick_f (Or.inr (Or.inl c8))] <;> rfl) hP hD hS
    · refine lv_aload_n hx hb dX0_tick_11 rfl (lv_at hl 0 rfl) ?_
      refine xg_time S hK hP dX0_tick_12 ?_
      refine lv_iload_n hx hb dX0_tick_15 rfl (lv_at hl 1 rfl) ?_
      refine lv_iadd hx hb dX0_tick_16 ?_
      refine lv_ldc (v := 100000) hx hb S.2.2.2.1 (S.2.2.2.2 _ q65) dX0_tick_17 ?_
      refine lv_icmp_le (tgt := 24) hx hb dX0_tick_19 (by decide) (fun c19 => ?_) (fun c19 => ?_)
      · refine lv_aload_n hx hb dX0_tick_24 rfl (lv_at hl 0 rfl) ?_
        refine lv_dup hx hb dX0_tick_25 rfl ?_
        refine xg_time S hK hP dX0_tick_26 ?_
        refine lv_iload_n hx hb dX0_tick_29 rfl (lv_at hl 1 rfl) ?_
        refine lv_iadd hx hb dX0_tick_30 ?_
        refine lv_tv (v := nI (m_time M + iN nn)) (tick_n _ c2) ?_
        refine xp_time S hK hP hD hS dX0_tick_31 (fun H locs hP hD hS => ?_)
        refine lv_aload_n hx hb dX0_tick_34 rfl (lv_at hl 0 rfl) ?_
        refine xg_time S hK hP dX0_tick_35 ?_
        exact hret _ _ _ _ _ _ dX0_tick_38 (by rw [mo_tick_t c2 c8 c19] <;> rfl) (by rw [mo_tick_t c2 c8 c19] <;> rfl) hP hD hS
      · refine lv_iconst (v := (-1)) hx hb dX0_tick_22 (by decide) ?_
        exact hret _ _ _ _ _ _ dX0_tick_23 (by rw [mo_tick_f (Or.inr (Or.inr (Int32.not_le.mp c19)))] <;> rfl) (by rw [mo_tick_f (Or.inr (Or.inr (Int32.not_le.mp c19)))] <;> rfl) hP hD hS
set_option maxHeartbeats 4000000 in
set_option maxRecDepth 100000 in
theorem cX_forward (l : Launch) (D : va_G) (ad : Nat → Nat) (zC iC : ClassId) (M : MS) (rr ss : Int32) (on : Bool) : CtI l yX0_forward cX0_forward 4 .boolean 2 41 D (tyZ zC iC) [.ref (ad 0), .int rr, .int ss, .int (b2i on)] (wX ad zC iC M) ((mo_forward M rr ss on).1) (wX ad zC iC ((mo_forward M rr ss on).2)) := by
  refine CtI.mk (by decide) (mo_forward_nar M rr ss on) (Nat.le_of_ble_eq_true rfl) ?_
  intro p e s m args below meth c A Q S hK hP hD hA hS hret ls hl
  have S : CallFix p m c cX0_forward 4 s args lw_all RX0 := S
  have hx := S.1
  have hb := S.2.1
  have hl : lv_has ls 4 [(0, .ref (ad 0)), (1, .int rr), (2, .int ss), (3, .int (b2i on))] := hl
  refine lv_iload_n hx hb dX0_forward_0 rfl (lv_at hl 1 rfl) ?_
  refine lv_iload_n hx hb dX0_forward_1 rfl (lv_at hl 2 rfl) ?_
  refine CtI.cS (rest := []) (cX_isPair l D (tyZ zC iC) rr ss) S (lw_S q70 q71 q15 q72) hdX0_isPair rfl ⟨Nat.le_of_ble_eq_true rfl, Nat.le_of_ble_eq_true rfl⟩ hK hP hD hS hA hl.1 rfl (Nat.le_of_ble_eq_true rfl) ⟨Nat.zero_le _, Nat.zero_le _⟩ dX0_forward_2 (fun H locs hP hD hS => ?_)
  refine lv_if_ne (tgt := 10) hx hb dX0_forward_5 (by decide) (fun c5 => ?_) (fun c5 => ?_)
  · have c5 := b2i_n0 c5
    obtain ⟨j, k, hj, hk, rfl, rfl⟩ := mq_pr_of c5
    refine lv_aload_n hx hb dX0_forward_10 rfl (lv_at hl 0 rfl) ?_
    refine xg_fw S hK hP dX0_forward_11 ?_
    refine lv_iload_n hx hb dX0_forward_14 rfl (lv_at hl 1 rfl) ?_
    refine lv_bipush (v := 16) hx hb dX0_forward_15 (by decide) ?_
    refine lv_imul hx hb dX0_forward_17 ?_
    refine lv_iload_n hx hb dX0_forward_18 rfl (lv_at hl 2 rfl) ?_
    refine lv_iadd hx hb dX0_forward_19 ?_
    refine lv_tv (v := nI (16 * j + k)) (mb_ix j k) ?_
    refine lv_iload_n hx hb dX0_forward_20 rfl (lv_at hl 3 rfl) ?_
    refine xs_fw (k := 16 * j + k) (by omega) S hK hP hD hS dX0_forward_21 (fun H locs hP hD hS => ?_)
    refine lv_iconst (v := 1) hx hb dX0_forward_22 (by decide) ?_
    exact hret _ _ _ _ _ _ dX0_forward_23 (by rw [mo_forward_t hj hk] <;> rfl) (by rw [mo_forward_t hj hk] <;> rfl) hP hD hS
  · have c5 := b2i_0 c5
    refine lv_iconst (v := 0) hx hb dX0_forward_8 (by decide) ?_
    exact hret _ _ _ _ _ _ dX0_forward_9 (by rw [mo_forward_f c5] <;> rfl) (by rw [mo_forward_f c5] <;> rfl) hP hD hS
set_option maxHeartbeats 4000000 in
set_option maxRecDepth 100000 in
theorem cX_place (l : Launch) (D : va_G) (ad : Nat → Nat) (zC iC : ClassId) (M : MS) (rr ss : Int32) (bb : Bool) (far : Int32) : CtI l yX0_place cX0_place 5 .boolean 2 41 D (tyZ zC iC) [.ref (ad 0), .int rr, .int ss, .int (b2i bb), .int far] (wX ad zC iC M) ((mo_place M rr ss bb far).1) (wX ad zC iC ((mo_place M rr ss bb far).2)) := by
  refine CtI.mk (by decide) (mo_place_nar M rr ss bb far) (Nat.le_of_ble_eq_true rfl) ?_
  intro p e s m args below meth c A Q S hK hP hD hA hS hret ls hl
  have S : CallFix p m c cX0_place 5 s args lw_all RX0 := S
  have hx := S.1
  have hb := S.2.1
  have hl : lv_has ls 5 [(0, .ref (ad 0)), (1, .int rr), (2, .int ss), (3, .int (b2i bb)), (4, .int far)] := hl
  refine lv_iload_n hx hb dX0_place_0 rfl (lv_at hl 1 rfl) ?_
  refine lv_iload_n hx hb dX0_place_1 rfl (lv_at hl 2 rfl) ?_
  refine CtI.cS (rest := []) (cX_isPair l D (tyZ zC iC) rr ss) S (lw_S q70 q71 q15 q72) hdX0_isPair rfl ⟨Nat.le_of_ble_eq_true rfl, Nat.le_of_ble_eq_true rfl⟩ hK hP hD hS hA hl.1 rfl (Nat.le_of_ble_eq_true rfl) ⟨Nat.zero_le _, Nat.zero_le _⟩ dX0_place_2 (fun H locs hP hD hS => ?_)
  refine lv_if_eq (tgt := 21) hx hb dX0_place_5 (by decide) (fun c5 => ?_) (fun c5 => ?_)
  · have c5 := b2i_0 c5
    refine lv_iconst (v := 0) hx hb dX0_place_21 (by decide) ?_
    exact hret _ _ _ _ _ _ dX0_place_22 (by rw [mo_place_1 c5] <;> rfl) (by rw [mo_place_1 c5] <;> rfl) hP hD hS
  · have c5 := b2i_n0 c5
    obtain ⟨j, k, hj, hk, rfl, rfl⟩ := mq_pr_of c5
    refine lv_iload hx hb dX0_place_8 (lv_at hl 4 rfl) ?_
    refine lv_if_lt (tgt := 21) hx hb dX0_place_10 (by decide) (fun c10 => ?_) (fun c10 => ?_)
    · refine lv_iconst (v := 0) hx hb dX0_place_21 (by decide) ?_
      exact hret _ _ _ _ _ _ dX0_place_22 (by rw [mo_place_2 c10] <;> rfl) (by rw [mo_place_2 c10] <;> rfl) hP hD hS
    · refine lv_iload hx hb dX0_place_13 (lv_at hl 4 rfl) ?_
      refine lv_sipush (v := 9999) hx hb dX0_place_15 (by decide) ?_
      refine lv_icmp_le (tgt := 23) hx hb dX0_place_18 (by decide) (fun c18 => ?_) (fun c18 => ?_)
      · obtain ⟨ff, hff, rfl⟩ := nI_of c10
        have hf9 : ff ≤ 9999 := (nI_leI hff (by decide)).mp (show nI ff ≤ nI 9999 from c18)
        refine lv_aload_n hx hb dX0_place_23 rfl (lv_at hl 0 rfl) ?_
        refine xg_st S hK hP dX0_place_24 ?_
        refine lv_iload_n hx hb dX0_place_27 rfl (lv_at hl 1 rfl) ?_
        refine lv_bipush (v := 16) hx hb dX0_place_28 (by decide) ?_
        refine lv_imul hx hb dX0_place_30 ?_
        refine lv_iload_n hx hb dX0_place_31 rfl (lv_at hl 2 rfl) ?_
        refine lv_iadd hx hb dX0_place_32 ?_
        refine lv_tv (v := nI (16 * j + k)) (mb_ix j k) ?_
        refine lv_iload_n hx hb dX0_place_33 rfl (lv_at hl 3 rfl) ?_
        refine xs_st (k := 16 * j + k) (by omega) S hK hP hD hS dX0_place_34 (fun H locs hP hD hS => ?_)
        refine lv_aload_n hx hb dX0_place_35 rfl (lv_at hl 0 rfl) ?_
        refine xg_di S hK hP dX0_place_36 ?_
        refine lv_iload_n hx hb dX0_place_39 rfl (lv_at hl 1 rfl) ?_
        refine lv_bipush (v := 16) hx hb dX0_place_40 (by decide) ?_
        refine lv_imul hx hb dX0_place_42 ?_
        refine lv_iload_n hx hb dX0_place_43 rfl (lv_at hl 2 rfl) ?_
        refine lv_iadd hx hb dX0_place_44 ?_
        refine lv_tv (v := nI (16 * j + k)) (mb_ix j k) ?_
        refine lv_iload hx hb dX0_place_45 (lv_at hl 4 rfl) ?_
        refine xs_di (k := 16 * j + k) (by omega) S hK hP hD hS dX0_place_47 (fun H locs hP hD hS => ?_)
        refine lv_iconst (v := 1) hx hb dX0_place_48 (by decide) ?_
        exact hret _ _ _ _ _ _ dX0_place_49 (by rw [mo_place_t hj hk hf9] <;> rfl) (by rw [mo_place_t hj hk hf9] <;> rfl) hP hD hS
      · refine lv_iconst (v := 0) hx hb dX0_place_21 (by decide) ?_
        exact hret _ _ _ _ _ _ dX0_place_22 (by rw [mo_place_3 c18] <;> rfl) (by rw [mo_place_3 c18] <;> rfl) hP hD hS
set_option maxHeartbeats 4000000 in
set_option maxRecDepth 100000 in
theorem cX_there (l : Launch) (D : va_G) (ad : Nat → Nat) (zC iC : ClassId) (M : MS) (rr : Int32) (on : Bool) : CtI l yX0_there cX0_there 4 .boolean 1 21 D (tyZ zC iC) [.ref (ad 0), .int rr, .int (b2i on)] (wX ad zC iC M) ((mo_there M rr on).1) (wX ad zC iC ((mo_there M rr on).2)) := by
  refine CtI.mk (by decide) (mo_there_nar M rr on) (Nat.le_of_ble_eq_true rfl) ?_
  intro p e s m args below meth c A Q S hK hP hD hA hS hret ls hl
  have S : CallFix p m c cX0_there 4 s args lw_all RX0 := S
  have hx := S.1
  have hb := S.2.1
  have hl : lv_has ls 4 [(0, .ref (ad 0)), (1, .int rr), (2, .int (b2i on))] := hl
  refine lv_iload_n hx hb dX0_there_0 rfl (lv_at hl 1 rfl) ?_
  refine CtI.cS (rest := []) (cX_isRouter l D (tyZ zC iC) rr) S (lw_S q73 q74 q15 q75) hdX0_isRouter rfl ⟨Nat.le_of_ble_eq_true rfl, Nat.le_of_ble_eq_true rfl⟩ hK hP hD hS hA hl.1 rfl (Nat.le_of_ble_eq_true rfl) ⟨Nat.zero_le _, Nat.zero_le _⟩ dX0_there_1 (fun H locs hP hD hS => ?_)
  refine lv_if_ne (tgt := 9) hx hb dX0_there_4 (by decide) (fun c4 => ?_) (fun c4 => ?_)
  · have c4 := b2i_n0 c4
    obtain ⟨j, hj, rfl⟩ := mq_rt_of c4
    refine lv_aload_n hx hb dX0_there_9 rfl (lv_at hl 0 rfl) ?_
    refine lv_iload_n hx hb dX0_there_10 rfl (lv_at hl 1 rfl) ?_
    refine CtI.cV1 (rest := []) (ci := 0) (C := RX0) (T := TX0) (N := 11) (cX_isThere l D ad zC iC M j hj) S (lw_V q84 q86 qs0 q15 q87) hdX0_isThere rfl ⟨Nat.le_of_ble_eq_true rfl, Nat.le_of_ble_eq_true rfl⟩ rfl rfl hK hP hD hS hA hl.1 rfl (Nat.le_of_ble_eq_true rfl) ⟨Nat.zero_le _, Nat.zero_le _⟩ dX0_there_11 (fun H locs hP hD hS => ?_)
    refine lv_istore_n (lv' := [(3, .int (b2i (m_there M j))), (0, .ref (ad 0)), (1, .int (nI j)), (2, .int (b2i on))]) hx hb dX0_there_14 rfl hl (by decide) rfl (fun ls hl => ?_)
    refine lv_aload_n hx hb dX0_there_15 rfl (lv_at hl 1 rfl) ?_
    refine lv_iload_n hx hb dX0_there_16 rfl (lv_at hl 3 rfl) ?_
    refine lv_if_eq (tgt := 31) hx hb dX0_there_17 (by decide) (fun c17 => ?_) (fun c17 => ?_)
    · have c17 := b2i_0 c17
      subst c17
      refine lv_aload_n hx hb dX0_there_31 rfl (lv_at hl 1 rfl) ?_
      refine xg_there S hK hP dX0_there_32 ?_
      refine lv_iconst (v := 1) hx hb dX0_there_35 (by decide) ?_
      refine lv_iload_n hx hb dX0_there_36 rfl (lv_at hl 2 rfl) ?_
      refine lv_ishl hx hb dX0_there_37 ?_
      refine lv_iconst (v := (-1)) hx hb dX0_there_38 (by decide) ?_
      refine lv_ixor hx hb dX0_there_39 ?_
      refine lv_iand hx hb dX0_there_40 ?_
      refine lv_tv (v := nI (mb_mk (va_up (m_there M) j false) 10)) (mb_mk_set0 _ hj) ?_
      refine xp_there S hK hP hD hS dX0_there_41 (fun H locs hP hD hS => ?_)
      refine lv_iload_n hx hb dX0_there_44 rfl (lv_at hl 0 rfl) ?_
      exact hret _ _ _ _ _ _ dX0_there_45 (by rw [mo_there_t hj] <;> rfl) (by rw [mo_there_t hj] <;> rfl) hP hD hS
    · have c17 := b2i_n0 c17
      subst c17
      refine lv_aload_n hx hb dX0_there_20 rfl (lv_at hl 1 rfl) ?_
      refine xg_there S hK hP dX0_there_21 ?_
      refine lv_iconst (v := 1) hx hb dX0_there_24 (by decide) ?_
      refine lv_iload_n hx hb dX0_there_25 rfl (lv_at hl 2 rfl) ?_
      refine lv_ishl hx hb dX0_there_26 ?_
      refine lv_ior hx hb dX0_there_27 ?_
      refine lv_tv (v := nI (mb_mk (va_up (m_there M) j true) 10)) (mb_mk_set1 _ hj) ?_
      refine lv_goto (tgt := 41) hx hb dX0_there_28 (by decide) ?_
      refine xp_there S hK hP hD hS dX0_there_41 (fun H locs hP hD hS => ?_)
      refine lv_iload_n hx hb dX0_there_44 rfl (lv_at hl 0 rfl) ?_
      exact hret _ _ _ _ _ _ dX0_there_45 (by rw [mo_there_t hj] <;> rfl) (by rw [mo_there_t hj] <;> rfl) hP hD hS
  · have c4 := b2i_0 c4
    refine lv_iconst (v := 0) hx hb dX0_there_7 (by decide) ?_
    exact hret _ _ _ _ _ _ dX0_there_8 (by rw [mo_there_f c4] <;> rfl) (by rw [mo_there_f c4] <;> rfl) hP hD hS
set_option maxHeartbeats 4000000 in
set_option maxRecDepth 100000 in
theorem cX_deaf (l : Launch) (D : va_G) (ad : Nat → Nat) (zC iC : ClassId) (M : MS) (rr : Int32) (on : Bool) : CtI l yX0_deaf cX0_deaf 4 .boolean 1 20 D (tyZ zC iC) [.ref (ad 0), .int rr, .int (b2i on)] (wX ad zC iC M) ((mo_deaf M rr on).1) (wX ad zC iC ((mo_deaf M rr on).2)) := by
  refine CtI.mk (by decide) (mo_deaf_nar M rr on) (Nat.le_of_ble_eq_true rfl) ?_
  intro p e s m args below meth c A Q S hK hP hD hA hS hret ls hl
  have S : CallFix p m c cX0_deaf 4 s args lw_all RX0 := S
  have hx := S.1
  have hb := S.2.1
  have hl : lv_has ls 4 [(0, .ref (ad 0)), (1, .int rr), (2, .int (b2i on))] := hl
  refine lv_iload_n hx hb dX0_deaf_0 rfl (lv_at hl 1 rfl) ?_
  refine CtI.cS (rest := []) (cX_isRouter l D (tyZ zC iC) rr) S (lw_S q73 q74 q15 q75) hdX0_isRouter rfl ⟨Nat.le_of_ble_eq_true rfl, Nat.le_of_ble_eq_true rfl⟩ hK hP hD hS hA hl.1 rfl (Nat.le_of_ble_eq_true rfl) ⟨Nat.zero_le _, Nat.zero_le _⟩ dX0_deaf_1 (fun H locs hP hD hS => ?_)
  refine lv_if_ne (tgt := 9) hx hb dX0_deaf_4 (by decide) (fun c4 => ?_) (fun c4 => ?_)
  · have c4 := b2i_n0 c4
    obtain ⟨j, hj, rfl⟩ := mq_rt_of c4
    refine lv_aload_n hx hb dX0_deaf_9 rfl (lv_at hl 0 rfl) ?_
    refine xg_deaf S hK hP dX0_deaf_10 ?_
    refine lv_iload_n hx hb dX0_deaf_13 rfl (lv_at hl 1 rfl) ?_
    refine lv_ishr hx hb dX0_deaf_14 ?_
    refine lv_iconst (v := 1) hx hb dX0_deaf_15 (by decide) ?_
    refine lv_iand hx hb dX0_deaf_16 ?_
    refine lv_tv (v := b2i (m_deaf M j)) (mb_mk_get _ hj) ?_
    refine lv_iconst (v := 1) hx hb dX0_deaf_17 (by decide) ?_
    refine lv_icmp_ne (tgt := 25) hx hb dX0_deaf_18 (by decide) (fun c18 => ?_) (fun c18 => ?_)
    · have c18 := b2i_n1 c18
      refine lv_iconst (v := 0) hx hb dX0_deaf_25 (by decide) ?_
      refine lv_istore_n (lv' := [(3, .int 0), (0, .ref (ad 0)), (1, .int (nI j)), (2, .int (b2i on))]) hx hb dX0_deaf_26 rfl hl (by decide) rfl (fun ls hl => ?_)
      refine lv_aload_n hx hb dX0_deaf_27 rfl (lv_at hl 1 rfl) ?_
      refine lv_iload_n hx hb dX0_deaf_28 rfl (lv_at hl 3 rfl) ?_
      refine lv_if_eq (tgt := 43) hx hb dX0_deaf_29 (by decide) (fun c29 => ?_) (fun c29 => ?_)
      · have c29 := b2i_0 c29
        subst c29
        refine lv_aload_n hx hb dX0_deaf_43 rfl (lv_at hl 1 rfl) ?_
        refine xg_deaf S hK hP dX0_deaf_44 ?_
        refine lv_iconst (v := 1) hx hb dX0_deaf_47 (by decide) ?_
        refine lv_iload_n hx hb dX0_deaf_48 rfl (lv_at hl 2 rfl) ?_
        refine lv_ishl hx hb dX0_deaf_49 ?_
        refine lv_iconst (v := (-1)) hx hb dX0_deaf_50 (by decide) ?_
        refine lv_ixor hx hb dX0_deaf_51 ?_
        refine lv_iand hx hb dX0_deaf_52 ?_
        refine lv_tv (v := nI (mb_mk (va_up (m_deaf M) j false) 10)) (mb_mk_set0 _ hj) ?_
        refine xp_deaf S hK hP hD hS dX0_deaf_53 (fun H locs hP hD hS => ?_)
        refine lv_iload_n hx hb dX0_deaf_56 rfl (lv_at hl 0 rfl) ?_
        exact hret _ _ _ _ _ _ dX0_deaf_57 (by rw [mo_deaf_tb hj c18] <;> rfl) (by rw [mo_deaf_tb hj c18] <;> rfl) hP hD hS
      · have c29 := b2i_n0 c29
        subst c29
        refine lv_aload_n hx hb dX0_deaf_32 rfl (lv_at hl 1 rfl) ?_
        refine xg_deaf S hK hP dX0_deaf_33 ?_
        refine lv_iconst (v := 1) hx hb dX0_deaf_36 (by decide) ?_
        refine lv_iload_n hx hb dX0_deaf_37 rfl (lv_at hl 2 rfl) ?_
        refine lv_ishl hx hb dX0_deaf_38 ?_
        refine lv_ior hx hb dX0_deaf_39 ?_
        refine lv_tv (v := nI (mb_mk (va_up (m_deaf M) j true) 10)) (mb_mk_set1 _ hj) ?_
        refine lv_goto (tgt := 53) hx hb dX0_deaf_40 (by decide) ?_
        refine xp_deaf S hK hP hD hS dX0_deaf_53 (fun H locs hP hD hS => ?_)
        refine lv_iload_n hx hb dX0_deaf_56 rfl (lv_at hl 0 rfl) ?_
        exact hret _ _ _ _ _ _ dX0_deaf_57 (by rw [mo_deaf_tb hj c18] <;> rfl) (by rw [mo_deaf_tb hj c18] <;> rfl) hP hD hS
    · have c18 := b2i_1 c18
      refine lv_iconst (v := 1) hx hb dX0_deaf_21 (by decide) ?_
      refine lv_goto (tgt := 26) hx hb dX0_deaf_22 (by decide) ?_
      refine lv_istore_n (lv' := [(3, .int 1), (0, .ref (ad 0)), (1, .int (nI j)), (2, .int (b2i on))]) hx hb dX0_deaf_26 rfl hl (by decide) rfl (fun ls hl => ?_)
      refine lv_aload_n hx hb dX0_deaf_27 rfl (lv_at hl 1 rfl) ?_
      refine lv_iload_n hx hb dX0_deaf_28 rfl (lv_at hl 3 rfl) ?_
      refine lv_if_eq (tgt := 43) hx hb dX0_deaf_29 (by decide) (fun c29 => ?_) (fun c29 => ?_)
      · have c29 := b2i_0 c29
        subst c29
        refine lv_aload_n hx hb dX0_deaf_43 rfl (lv_at hl 1 rfl) ?_
        refine xg_deaf S hK hP dX0_deaf_44 ?_
        refine lv_iconst (v := 1) hx hb dX0_deaf_47 (by decide) ?_
        refine lv_iload_n hx hb dX0_deaf_48 rfl (lv_at hl 2 rfl) ?_
        refine lv_ishl hx hb dX0_deaf_49 ?_
        refine lv_iconst (v := (-1)) hx hb dX0_deaf_50 (by decide) ?_
        refine lv_ixor hx hb dX0_deaf_51 ?_
        refine lv_iand hx hb dX0_deaf_52 ?_
        refine lv_tv (v := nI (mb_mk (va_up (m_deaf M) j false) 10)) (mb_mk_set0 _ hj) ?_
        refine xp_deaf S hK hP hD hS dX0_deaf_53 (fun H locs hP hD hS => ?_)
        refine lv_iload_n hx hb dX0_deaf_56 rfl (lv_at hl 0 rfl) ?_
        exact hret _ _ _ _ _ _ dX0_deaf_57 (by rw [mo_deaf_tb hj c18] <;> rfl) (by rw [mo_deaf_tb hj c18] <;> rfl) hP hD hS
      · have c29 := b2i_n0 c29
        subst c29
        refine lv_aload_n hx hb dX0_deaf_32 rfl (lv_at hl 1 rfl) ?_
        refine xg_deaf S hK hP dX0_deaf_33 ?_
        refine lv_iconst (v := 1) hx hb dX0_deaf_36 (by decide) ?_
        refine lv_iload_n hx hb dX0_deaf_37 rfl (lv_at hl 2 rfl) ?_
        refine lv_ishl hx hb dX0_deaf_38 ?_
        refine lv_ior hx hb dX0_deaf_39 ?_
        refine lv_tv (v := nI (mb_mk (va_up (m_deaf M) j true) 10)) (mb_mk_set1 _ hj) ?_
        refine lv_goto (tgt := 53) hx hb dX0_deaf_40 (by decide) ?_
        refine xp_deaf S hK hP hD hS dX0_deaf_53 (fun H locs hP hD hS => ?_)
        refine lv_iload_n hx hb dX0_deaf_56 rfl (lv_at hl 0 rfl) ?_
        exact hret _ _ _ _ _ _ dX0_deaf_57 (by rw [mo_deaf_tb hj c18] <;> rfl) (by rw [mo_deaf_tb hj c18] <;> rfl) hP hD hS
  · have c4 := b2i_0 c4
    refine lv_iconst (v := 0) hx hb dX0_deaf_7 (by decide) ?_
    exact hret _ _ _ _ _ _ dX0_deaf_8 (by rw [mo_deaf_f c4] <;> rfl) (by rw [mo_deaf_f c4] <;> rfl) hP hD hS
set_option maxHeartbeats 4000000 in
set_option maxRecDepth 100000 in
theorem cX_said (l : Launch) (D : va_G) (ad : Nat → Nat) (zC iC : ClassId) (M : MS) (hJ : JJ M) (kk : Int32) : CtI l yX0_said cX0_said 2 .int 0 0 D (tyZ zC iC) [.ref (ad 0), .int kk] (wX ad zC iC M) (mo_said M kk) (wX ad zC iC M) := by
  refine CtI.mk (by decide) rfl (Nat.le_of_ble_eq_true rfl) ?_
  intro p e s m args below meth c A Q S hK hP hD hA hS hret ls hl
  have S : CallFix p m c cX0_said 2 s args lw_all RX0 := S
  have hx := S.1
  have hb := S.2.1
  have hl : lv_has ls 2 [(0, .ref (ad 0)), (1, .int kk)] := hl
  refine lv_iload_n hx hb dX0_said_0 rfl (lv_at hl 1 rfl) ?_
  refine lv_if_lt (tgt := 24) hx hb dX0_said_1 (by decide) (fun c1 => ?_) (fun c1 => ?_)
  · refine lv_iconst (v := (-1)) hx hb dX0_said_24 (by decide) ?_
    exact hret _ _ _ _ _ _ dX0_said_25 (by rw [mo_said_1 c1] <;> rfl) rfl hP hD hS
  · refine lv_iload_n hx hb dX0_said_4 rfl (lv_at hl 1 rfl) ?_
    refine lv_aload_n hx hb dX0_said_5 rfl (lv_at hl 0 rfl) ?_
    refine xg_said S hK hP dX0_said_6 ?_
    refine lv_icmp_ge (tgt := 24) hx hb dX0_said_9 (by decide) (fun c9 => ?_) (fun c9 => ?_)
    · refine lv_iconst (v := (-1)) hx hb dX0_said_24 (by decide) ?_
      exact hret _ _ _ _ _ _ dX0_said_25 (by rw [mo_said_2 c9] <;> rfl) rfl hP hD hS
    · obtain ⟨j, hj, rfl⟩ := nI_of c1
      have hjs : j < m_said M := by
        rcases Nat.lt_or_ge j (m_said M) with z | z
        · exact z
        · exact absurd (nI_le z hj) c9
      have hs := hJ.2.1
      have hrw := hJ.2.2 j hjs
      refine lv_aload_n hx hb dX0_said_12 rfl (lv_at hl 0 rfl) ?_
      refine xg_row S hK hP dX0_said_13 ?_
      refine lv_iload_n hx hb dX0_said_16 rfl (lv_at hl 1 rfl) ?_
      refine xl_row (k := j) (by omega) S hK hP dX0_said_17 ?_
      refine lv_bipush (v := 100) hx hb dX0_said_18 (by decide) ?_
      refine lv_irem hx hb dX0_said_20 (by decide) ?_
      refine lv_tv (v := nI (m_row M j % 100)) (mb_rem (by omega)) ?_
      refine lv_goto (tgt := 25) hx hb dX0_said_21 (by decide) ?_
      exact hret _ _ _ _ _ _ dX0_said_25 (by rw [mo_said_t hs hjs] <;> rfl) rfl hP hD hS
set_option maxHeartbeats 4000000 in
set_option maxRecDepth 100000 in
theorem cX_claim (l : Launch) (D : va_G) (ad : Nat → Nat) (zC iC : ClassId) (M : MS) (rr ss : Int32) : CtI l yX0_claim cX0_claim 3 .int 2 41 D (tyZ zC iC) [.ref (ad 0), .int rr, .int ss] (wX ad zC iC M) (mo_claim M rr ss) (wX ad zC iC M) := by
  refine CtI.mk (by decide) rfl (Nat.le_of_ble_eq_true rfl) ?_
  intro p e s m args below meth c A Q S hK hP hD hA hS hret ls hl
  have S : CallFix p m c cX0_claim 3 s args lw_all RX0 := S
  have hx := S.1
  have hb := S.2.1
  have hl : lv_has ls 3 [(0, .ref (ad 0)), (1, .int rr), (2, .int ss)] := hl
  refine lv_iload_n hx hb dX0_claim_0 rfl (lv_at hl 1 rfl) ?_
  refine lv_iload_n hx hb dX0_claim_1 rfl (lv_at hl 2 rfl) ?_
  refine CtI.cS (rest := []) (cX_isPair l D (tyZ zC iC) rr ss) S (lw_S q70 q71 q15 q72) hdX0_isPair rfl ⟨Nat.le_of_ble_eq_true rfl, Nat.le_of_ble_eq_true rfl⟩ hK hP hD hS hA hl.1 rfl (Nat.le_of_ble_eq_true rfl) ⟨Nat.zero_le _, Nat.zero_le _⟩ dX0_claim_2 (fun H locs hP hD hS => ?_)
  refine lv_if_eq (tgt := 17) hx hb dX0_claim_5 (by decide) (fun c5 => ?_) (fun c5 => ?_)
  · have c5 := b2i_0 c5
    refine lv_iconst (v := (-1)) hx hb dX0_claim_17 (by decide) ?_
    exact hret _ _ _ _ _ _ dX0_claim_18 (by rw [mo_claim_f c5] <;> rfl) rfl hP hD hS
  · have c5 := b2i_n0 c5
    obtain ⟨j, k, hj, hk, rfl, rfl⟩ := mq_pr_of c5
    refine lv_aload_n hx hb dX0_claim_8 rfl (lv_at hl 0 rfl) ?_
    refine lv_iload_n hx hb dX0_claim_9 rfl (lv_at hl 1 rfl) ?_
    refine lv_iload_n hx hb dX0_claim_10 rfl (lv_at hl 2 rfl) ?_
    refine CtI.cV1 (rest := []) (ci := 0) (C := RX0) (T := TX0) (N := 11) (cX_own l D ad zC iC M j k hj hk) S (lw_V q112 q114 qs5 q15 q115) hdX0_own rfl ⟨Nat.le_of_ble_eq_true rfl, Nat.le_of_ble_eq_true rfl⟩ rfl rfl hK hP hD hS hA hl.1 rfl (Nat.le_of_ble_eq_true rfl) ⟨Nat.zero_le _, Nat.zero_le _⟩ dX0_claim_11 (fun H locs hP hD hS => ?_)
    refine lv_goto (tgt := 18) hx hb dX0_claim_14 (by decide) ?_
    exact hret _ _ _ _ _ _ dX0_claim_18 (by rw [mo_claim_t hj hk] <;> rfl) rfl hP hD hS
set_option maxHeartbeats 4000000 in
set_option maxRecDepth 100000 in
theorem cX_kept (l : Launch) (D : va_G) (ad : Nat → Nat) (zC iC : ClassId) (M : MS) (hJ : JN M) (rr ss : Int32) : CtI l yX0_kept cX0_kept 3 .int 2 44 D (tyZ zC iC) [.ref (ad 0), .int rr, .int ss] (wX ad zC iC M) (mo_kept M rr ss) (wX ad zC iC M) := by
  refine CtI.mk (by decide) rfl (Nat.le_of_ble_eq_true rfl) ?_
  intro p e s m args below meth c A Q S hK hP hD hA hS hret ls hl
  have S : CallFix p m c cX0_kept 3 s args lw_all RX0 := S
  have hx := S.1
  have hb := S.2.1
  have hl : lv_has ls 3 [(0, .ref (ad 0)), (1, .int rr), (2, .int ss)] := hl
  refine lv_iload_n hx hb dX0_kept_0 rfl (lv_at hl 1 rfl) ?_
  refine lv_iload_n hx hb dX0_kept_1 rfl (lv_at hl 2 rfl) ?_
  refine CtI.cS (rest := []) (cX_isPair l D (tyZ zC iC) rr ss) S (lw_S q70 q71 q15 q72) hdX0_isPair rfl ⟨Nat.le_of_ble_eq_true rfl, Nat.le_of_ble_eq_true rfl⟩ hK hP hD hS hA hl.1 rfl (Nat.le_of_ble_eq_true rfl) ⟨Nat.zero_le _, Nat.zero_le _⟩ dX0_kept_2 (fun H locs hP hD hS => ?_)
  refine lv_if_eq (tgt := 17) hx hb dX0_kept_5 (by decide) (fun c5 => ?_) (fun c5 => ?_)
  · have c5 := b2i_0 c5
    refine lv_iconst (v := (-1)) hx hb dX0_kept_17 (by decide) ?_
    exact hret _ _ _ _ _ _ dX0_kept_18 (by rw [mo_kept_f c5] <;> rfl) rfl hP hD hS
  · have c5 := b2i_n0 c5
    obtain ⟨j, k, hj, hk, rfl, rfl⟩ := mq_pr_of c5
    refine lv_aload_n hx hb dX0_kept_8 rfl (lv_at hl 0 rfl) ?_
    refine lv_iload_n hx hb dX0_kept_9 rfl (lv_at hl 1 rfl) ?_
    refine lv_iload_n hx hb dX0_kept_10 rfl (lv_at hl 2 rfl) ?_
    refine CtI.cV1 (rest := []) (ci := 0) (C := RX0) (T := TX0) (N := 11) (cX_held l D ad zC iC M hJ j k hj hk) S (lw_V q108 q110 qs4 q15 q111) hdX0_held rfl ⟨Nat.le_of_ble_eq_true rfl, Nat.le_of_ble_eq_true rfl⟩ rfl rfl hK hP hD hS hA hl.1 rfl (Nat.le_of_ble_eq_true rfl) ⟨Nat.zero_le _, Nat.zero_le _⟩ dX0_kept_11 (fun H locs hP hD hS => ?_)
    refine lv_goto (tgt := 18) hx hb dX0_kept_14 (by decide) ?_
    exact hret _ _ _ _ _ _ dX0_kept_18 (by rw [mo_kept_t hj hk] <;> rfl) rfl hP hD hS
set_option maxHeartbeats 4000000 in
set_option maxRecDepth 100000 in
theorem cX_lost (l : Launch) (D : va_G) (ad : Nat → Nat) (zC iC : ClassId) (M : MS) (hJ : JN M) (rr ss : Int32) : CtI l yX0_lost cX0_lost 3 .boolean 3 67 D (tyZ zC iC) [.ref (ad 0), .int rr, .int ss] (wX ad zC iC M) (b2i (mo_lost M rr ss)) (wX ad zC iC M) := by
  refine CtI.mk (by decide) (b2i_nar _) (Nat.le_of_ble_eq_true rfl) ?_
  intro p e s m args below meth c A Q S hK hP hD hA hS hret ls hl
  have S : CallFix p m c cX0_lost 3 s args lw_all RX0 := S
  have hx := S.1
  have hb := S.2.1
  have hl : lv_has ls 3 [(0, .ref (ad 0)), (1, .int rr), (2, .int ss)] := hl
  refine lv_iload_n hx hb dX0_lost_0 rfl (lv_at hl 1 rfl) ?_
  refine lv_iload_n hx hb dX0_lost_1 rfl (lv_at hl 2 rfl) ?_
  refine CtI.cS (rest := []) (cX_isPair l D (tyZ zC iC) rr ss) S (lw_S q70 q71 q15 q72) hdX0_isPair rfl ⟨Nat.le_of_ble_eq_true rfl, Nat.le_of_ble_eq_true rfl⟩ hK hP hD hS hA hl.1 rfl (Nat.le_of_ble_eq_true rfl) ⟨Nat.zero_le _, Nat.zero_le _⟩ dX0_lost_2 (fun H locs hP hD hS => ?_)
  refine lv_if_eq (tgt := 21) hx hb dX0_lost_5 (by decide) (fun c5 => ?_) (fun c5 => ?_)
  · have c5 := b2i_0 c5
    refine lv_iconst (v := 0) hx hb dX0_lost_21 (by decide) ?_
    exact hret _ _ _ _ _ _ dX0_lost_22 (by rw [mo_lost_f c5] <;> rfl) rfl hP hD hS
  · have c5 := b2i_n0 c5
    obtain ⟨j, k, hj, hk, rfl, rfl⟩ := mq_pr_of c5
    refine lv_aload_n hx hb dX0_lost_8 rfl (lv_at hl 0 rfl) ?_
    refine lv_iload_n hx hb dX0_lost_9 rfl (lv_at hl 1 rfl) ?_
    refine lv_iload_n hx hb dX0_lost_10 rfl (lv_at hl 2 rfl) ?_
    refine CtI.cV1 (rest := []) (ci := 0) (C := RX0) (T := TX0) (N := 11) (cX_isLost l D ad zC iC M hJ j k hj hk) S (lw_V q104 q106 qs3 q15 q107) hdX0_isLost rfl ⟨Nat.le_of_ble_eq_true rfl, Nat.le_of_ble_eq_true rfl⟩ rfl rfl hK hP hD hS hA hl.1 rfl (Nat.le_of_ble_eq_true rfl) ⟨Nat.zero_le _, Nat.zero_le _⟩ dX0_lost_11 (fun H locs hP hD hS => ?_)
    refine lv_if_eq (tgt := 21) hx hb dX0_lost_14 (by decide) (fun c14 => ?_) (fun c14 => ?_)
    · have c14 := b2i_0 c14
      refine lv_iconst (v := 0) hx hb dX0_lost_21 (by decide) ?_
      exact hret _ _ _ _ _ _ dX0_lost_22 (by rw [mo_lost_t hj hk c14] <;> rfl) rfl hP hD hS
    · have c14 := b2i_n0 c14
      refine lv_iconst (v := 1) hx hb dX0_lost_17 (by decide) ?_
      refine lv_goto (tgt := 22) hx hb dX0_lost_18 (by decide) ?_
      exact hret _ _ _ _ _ _ dX0_lost_22 (by rw [mo_lost_t hj hk c14] <;> rfl) rfl hP hD hS
end
section
/-! the loops, step by step -/
theorem mb_first_f {M : MS} {r s n : Nat} (h : ¬ (n ≠ r ∧ mb_lis (mb_first M r s n) n = true ∧ mb_snd (mb_first M r s n) n s = true)) : mb_first M r s (n + 1) = mb_first M r s n := if_neg h
theorem mb_first_t {M : MS} {r s n : Nat} (h1 : ¬ n = r) (h2 : mb_lis (mb_first M r s n) n = true) (h3 : mb_snd (mb_first M r s n) n s = true) : mb_first M r s (n + 1) = mb_say (mb_first M r s n) n s := if_pos ⟨h1, h2, h3⟩
theorem mb_inner_f {M : MS} {s c n : Nat} (h : ¬ (n ≠ c % 100 ∧ mb_lis (mb_inner M s c n) n = true)) : mb_inner M s c (n + 1) = mb_inner M s c n := if_neg h
theorem mb_inner_t {M : MS} {s c n : Nat} (h1 : ¬ n = c % 100) (h2 : mb_lis (mb_inner M s c n) n = true) : mb_inner M s c (n + 1) = mb_hear (mb_inner M s c n) n s c := if_pos ⟨h1, h2⟩
theorem mb_loop_t {M : MS} {s f k : Nat} (h : k < m_said M) : mb_loop s (f + 1) k M = mb_loop s f (k + 1) (mb_inner M s (m_row M k) 10) := if_pos h
theorem mb_loop_f {M : MS} {s f k : Nat} (h : ¬ k < m_said M) : mb_loop s (f + 1) k M = M := if_neg h
theorem bnot_f {b : Bool} (h : (!b) = false) : b = true := by
  cases b
  · exact absurd h (by decide)
  · rfl
theorem bnot_t {b : Bool} (h : (!b) = true) : b = false := by
  cases b
  · rfl
  · exact absurd h (by decide)
theorem mb_snd_there {M : MS} {r s : Nat} (h : mb_snd M r s = true) : m_there M r = true := by
  cases e : m_there M r with
  | true => rfl
  | false => exact absurd h (mq_not (mb_snd_1 e))
theorem mo_look_0 {M : MS} : mo_look M 0 = nI (m_time M) := if_pos rfl
theorem mo_look_1 {M : MS} : mo_look M 1 = nI (mb_mk (m_there M) 10) := by
  unfold mo_look
  rw [if_neg (by decide), if_pos rfl]
theorem mo_look_2 {M : MS} : mo_look M 2 = nI (mb_mk (m_deaf M) 10) := by
  unfold mo_look
  rw [if_neg (by decide), if_neg (by decide), if_pos rfl]
theorem mo_look_3 {M : MS} : mo_look M 3 = m_all M := by
  unfold mo_look
  rw [if_neg (by decide), if_neg (by decide), if_neg (by decide), if_pos rfl]
theorem mo_look_n {M : MS} {w : Int32} (h0 : ¬ w = 0) (h1 : ¬ w = 1) (h2 : ¬ w = 2) (h3 : ¬ w = 3) : mo_look M w = -1 := by
  unfold mo_look
  rw [if_neg h0, if_neg h1, if_neg h2, if_neg h3]
end
section
/-! by program (gen/loops.py X) -/
set_option maxHeartbeats 4000000 in
set_option maxRecDepth 100000 in
theorem cX_sends (l : Launch) (D : va_G) (ad : Nat → Nat) (zC iC : ClassId) (M : MS) (hJ : JN M) (ss : Int32) : CtI l yX0_sends cX0_sends 4 .int 4 89 D (tyZ zC iC) [.ref (ad 0), .int ss] (wX ad zC iC M) (mo_sends M ss) (wX ad zC iC M) := by
  refine CtI.mk (by decide) rfl (Nat.le_of_ble_eq_true rfl) ?_
  intro p e s m args below meth c A Q S hK hP hD hA hS hret ls hl
  have S : CallFix p m c cX0_sends 4 s args lw_all RX0 := S
  have hx := S.1
  have hb := S.2.1
  have hl : lv_has ls 4 [(0, .ref (ad 0)), (1, .int ss)] := hl
  refine lv_iload_n hx hb dX0_sends_0 rfl (lv_at hl 1 rfl) ?_
  refine lv_if_lt (tgt := 10) hx hb dX0_sends_1 (by decide) (fun c1 => ?_) (fun c1 => ?_)
  · refine lv_iconst (v := (-1)) hx hb dX0_sends_10 (by decide) ?_
    exact hret _ _ _ _ _ _ dX0_sends_11 (by rw [mo_sends_1 (mq_sr_0 c1)] <;> rfl) rfl hP hD hS
  · refine lv_iload_n hx hb dX0_sends_4 rfl (lv_at hl 1 rfl) ?_
    refine lv_bipush (v := 16) hx hb dX0_sends_5 (by decide) ?_
    refine lv_icmp_lt (tgt := 12) hx hb dX0_sends_7 (by decide) (fun c7 => ?_) (fun c7 => ?_)
    · obtain ⟨k, hk, rfl⟩ := mq_sr_of (mq_sr_2 c1 (Int32.not_le.mpr c7))
      refine lv_iconst (v := 0) hx hb dX0_sends_12 (by decide) ?_
      refine lv_istore_n (lv' := [(2, .int 0), (0, .ref (ad 0)), (1, .int (nI k))]) hx hb dX0_sends_13 rfl hl (by decide) rfl (fun ls hl => ?_)
      refine lv_iconst (v := 0) hx hb dX0_sends_14 (by decide) ?_
      refine lv_istore_n (lv' := [(3, .int 0), (2, .int 0), (0, .ref (ad 0)), (1, .int (nI k))]) hx hb dX0_sends_15 rfl hl (by decide) rfl (fun ls hl => ?_)
      have loop : ∀ (n i : Nat) (H : Heap) (locs : List Loc) (ls : Array Slot), i ≤ 10 → 11 ≤ i + n → va_P D vwCl (wX ad zC iC M) H → va_D A (wX ad zC iC M) → va_S A s.heap H locs → lv_has ls 4 [(0, .ref (ad 0)), (1, .int (nI k)), (2, .int (nI (mb_mk (fun r => mb_snd M r k) i))), (3, .int (nI i))] → W p l e (rm_ 4 89) s m args below meth c H locs 0 0 Q (F0 m 16 ls []) := by
        intro n
        induction n with
        | zero =>
          intro i H locs ls h1 h2
          exact absurd h2 (by omega)
        | succ n ih =>
          intro i H locs ls h1 h2 hP hD hS hl
          refine lv_iload_n hx hb dX0_sends_16 rfl (lv_at hl 3 rfl) ?_
          refine lv_bipush (v := nI 10) hx hb dX0_sends_17 (by decide) ?_
          refine lv_icmp_ge (tgt := 47) hx hb dX0_sends_19 (by decide) (fun c19 => ?_) (fun c19 => ?_)
          · have c19 := (nI_leI (by omega) (by omega)).mp c19
            have hi10 : i = 10 := by omega
            subst hi10
            refine lv_iload_n hx hb dX0_sends_47 rfl (lv_at hl 2 rfl) ?_
            exact hret _ _ _ _ _ _ dX0_sends_48 (by rw [mo_sends_t hk] <;> rfl) rfl hP hD hS
          · have c19 : ¬ _ := fun z => c19 ((nI_leI (by omega) (by omega)).mpr z)
            refine lv_iload_n hx hb dX0_sends_22 rfl (lv_at hl 2 rfl) ?_
            refine lv_aload_n hx hb dX0_sends_23 rfl (lv_at hl 0 rfl) ?_
            refine lv_iload_n hx hb dX0_sends_24 rfl (lv_at hl 3 rfl) ?_
            refine lv_iload_n hx hb dX0_sends_25 rfl (lv_at hl 1 rfl) ?_
            refine CtI.cV1 (rest := [.int (nI (mb_mk (fun r => mb_snd M r k) i))]) (ci := 0) (C := RX0) (T := TX0) (N := 11) (cX_isSending l D ad zC iC M hJ i k (by omega) hk) S (lw_V q100 q102 qs2 q15 q103) hdX0_isSending rfl ⟨Nat.le_of_ble_eq_true rfl, Nat.le_of_ble_eq_true rfl⟩ rfl rfl hK hP hD hS hA hl.1 rfl (Nat.le_of_ble_eq_true rfl) ⟨Nat.zero_le _, Nat.zero_le _⟩ dX0_sends_26 (fun H locs hP hD hS => ?_)
            refine lv_if_eq (tgt := 38) hx hb dX0_sends_29 (by decide) (fun c29 => ?_) (fun c29 => ?_)
            · have c29 := b2i_0 c29
              refine lv_iconst (v := 0) hx hb dX0_sends_38 (by decide) ?_
              refine lv_ior hx hb dX0_sends_39 ?_
              refine lv_tv (v := nI (mb_mk (fun r => mb_snd M r k) (i + 1))) (by rw [mb_mk_f (fun r => mb_snd M r k) c29]; exact Int32.or_zero) ?_
              refine lv_istore_n (lv' := [(2, .int (nI (mb_mk (fun r => mb_snd M r k) (i + 1)))), (0, .ref (ad 0)), (1, .int (nI k)), (3, .int (nI i))]) hx hb dX0_sends_40 rfl hl (by decide) rfl (fun ls hl => ?_)
              refine lv_iinc (v := nI (i + 1)) (lv' := [(3, .int (nI (i + 1))), (2, .int (nI (mb_mk (fun r => mb_snd M r k) (i + 1)))), (0, .ref (ad 0)), (1, .int (nI k))]) hx hb dX0_sends_41 hl (k := 3) rfl (show nI i + 1 = nI (i + 1) from nI_1 i) (by decide) rfl (fun ls hl => ?_)
              refine lv_goto (tgt := 16) hx hb dX0_sends_44 (by decide) ?_
              exact ih (i + 1) _ _ _ (by omega) (by omega) hP hD hS (lv_sub hl [2, 3, 1, 0] rfl)
            · have c29 := b2i_n0 c29
              refine lv_iconst (v := 1) hx hb dX0_sends_32 (by decide) ?_
              refine lv_iload_n hx hb dX0_sends_33 rfl (lv_at hl 3 rfl) ?_
              refine lv_ishl hx hb dX0_sends_34 ?_
              refine lv_goto (tgt := 39) hx hb dX0_sends_35 (by decide) ?_
              refine lv_ior hx hb dX0_sends_39 ?_
              refine lv_tv (v := nI (mb_mk (fun r => mb_snd M r k) (i + 1))) (mb_mk_t (fun r => mb_snd M r k) (by omega) c29) ?_
              refine lv_istore_n (lv' := [(2, .int (nI (mb_mk (fun r => mb_snd M r k) (i + 1)))), (0, .ref (ad 0)), (1, .int (nI k)), (3, .int (nI i))]) hx hb dX0_sends_40 rfl hl (by decide) rfl (fun ls hl => ?_)
              refine lv_iinc (v := nI (i + 1)) (lv' := [(3, .int (nI (i + 1))), (2, .int (nI (mb_mk (fun r => mb_snd M r k) (i + 1)))), (0, .ref (ad 0)), (1, .int (nI k))]) hx hb dX0_sends_41 hl (k := 3) rfl (show nI i + 1 = nI (i + 1) from nI_1 i) (by decide) rfl (fun ls hl => ?_)
              refine lv_goto (tgt := 16) hx hb dX0_sends_44 (by decide) ?_
              exact ih (i + 1) _ _ _ (by omega) (by omega) hP hD hS (lv_sub hl [2, 3, 1, 0] rfl)
      exact loop 11 0 _ _ _ (by omega) (by omega) hP hD hS (lv_sub hl [2, 3, 1, 0] rfl)
    · refine lv_iconst (v := (-1)) hx hb dX0_sends_10 (by decide) ?_
      exact hret _ _ _ _ _ _ dX0_sends_11 (by rw [mo_sends_1 (mq_sr_1 (Int32.not_lt.mp c7))] <;> rfl) rfl hP hD hS
set_option maxHeartbeats 4000000 in
set_option maxRecDepth 100000 in
theorem cX_look (l : Launch) (D : va_G) (ad : Nat → Nat) (zC iC : ClassId) (M : MS) (ww : Int32) : CtI l yX0_look cX0_look 2 .int 0 0 D (tyZ zC iC) [.ref (ad 0), .int ww] (wX ad zC iC M) (mo_look M ww) (wX ad zC iC M) := by
  refine CtI.mk (by decide) rfl (Nat.le_of_ble_eq_true rfl) ?_
  intro p e s m args below meth c A Q S hK hP hD hA hS hret ls hl
  have S : CallFix p m c cX0_look 2 s args lw_all RX0 := S
  have hx := S.1
  have hb := S.2.1
  have hl : lv_has ls 2 [(0, .ref (ad 0)), (1, .int ww)] := hl
  refine lv_iload_n hx hb dX0_look_0 rfl (lv_at hl 1 rfl) ?_
  by_cases h0 : ww = 0
  · subst h0
    refine lv_tableIn (off := 31) (tgt := 32) hx hb dX0_look_1 (by decide) (by decide) rfl (by decide) ?_
    refine lv_aload_n hx hb dX0_look_32 rfl (lv_at hl 0 rfl) ?_
    refine xg_time S hK hP dX0_look_33 ?_
    exact hret _ _ _ _ _ _ dX0_look_36 (by rw [mo_look_0] <;> rfl) rfl hP hD hS
  · skip
    by_cases h1 : ww = 1
    · subst h1
      refine lv_tableIn (off := 36) (tgt := 37) hx hb dX0_look_1 (by decide) (by decide) rfl (by decide) ?_
      refine lv_aload_n hx hb dX0_look_37 rfl (lv_at hl 0 rfl) ?_
      refine xg_there S hK hP dX0_look_38 ?_
      exact hret _ _ _ _ _ _ dX0_look_41 (by rw [mo_look_1] <;> rfl) rfl hP hD hS
    · skip
      by_cases h2 : ww = 2
      · subst h2
        refine lv_tableIn (off := 41) (tgt := 42) hx hb dX0_look_1 (by decide) (by decide) rfl (by decide) ?_
        refine lv_aload_n hx hb dX0_look_42 rfl (lv_at hl 0 rfl) ?_
        refine xg_deaf S hK hP dX0_look_43 ?_
        exact hret _ _ _ _ _ _ dX0_look_46 (by rw [mo_look_2] <;> rfl) rfl hP hD hS
      · skip
        by_cases h3 : ww = 3
        · subst h3
          refine lv_tableIn (off := 46) (tgt := 47) hx hb dX0_look_1 (by decide) (by decide) rfl (by decide) ?_
          refine lv_aload_n hx hb dX0_look_47 rfl (lv_at hl 0 rfl) ?_
          refine xg_all S hK hP dX0_look_48 ?_
          exact hret _ _ _ _ _ _ dX0_look_51 (by rw [mo_look_3] <;> rfl) rfl hP hD hS
        · skip
          have e0 := lv_neT (a := 0) h0 rfl
          have e1 := lv_neT (a := 1) h1 rfl
          have e2 := lv_neT (a := 2) h2 rfl
          have e3 := lv_neT (a := 3) h3 rfl
          refine lv_tableOut (tgt := 52) hx hb dX0_look_1 (by omega) (by decide) ?_
          refine lv_iconst (v := (-1)) hx hb dX0_look_52 (by decide) ?_
          exact hret _ _ _ _ _ _ dX0_look_53 (by rw [mo_look_n h0 h1 h2 h3] <;> rfl) rfl hP hD hS
set_option maxHeartbeats 4000000 in
set_option maxRecDepth 100000 in
theorem cX_data (l : Launch) (D : va_G) (ad : Nat → Nat) (zC iC : ClassId) (M : MS) (hJ : JN M) (rr ss : Int32) : CtI l yX0_data cX0_data 6 .int 5 113 D (tyZ zC iC) [.ref (ad 0), .int rr, .int ss] (wX ad zC iC M) ((mo_data M rr ss).1) (wX ad zC iC ((mo_data M rr ss).2)) := by
  refine CtI.mk (by decide) rfl (Nat.le_of_ble_eq_true rfl) ?_
  intro p e s m args below meth c A Q S hK hP hD hA hS hret ls hl
  have S : CallFix p m c cX0_data 6 s args lw_all RX0 := S
  have hx := S.1
  have hb := S.2.1
  have hl : lv_has ls 6 [(0, .ref (ad 0)), (1, .int rr), (2, .int ss)] := hl
  refine lv_iload_n hx hb dX0_data_0 rfl (lv_at hl 1 rfl) ?_
  refine lv_iload_n hx hb dX0_data_1 rfl (lv_at hl 2 rfl) ?_
  refine CtI.cS (rest := []) (cX_isPair l D (tyZ zC iC) rr ss) S (lw_S q70 q71 q15 q72) hdX0_isPair rfl ⟨Nat.le_of_ble_eq_true rfl, Nat.le_of_ble_eq_true rfl⟩ hK hP hD hS hA hl.1 rfl (Nat.le_of_ble_eq_true rfl) ⟨Nat.zero_le _, Nat.zero_le _⟩ dX0_data_2 (fun H locs hP hD hS => ?_)
  refine lv_if_eq (tgt := 16) hx hb dX0_data_5 (by decide) (fun c5 => ?_) (fun c5 => ?_)
  · have c5 := b2i_0 c5
    refine lv_iconst (v := (-1)) hx hb dX0_data_16 (by decide) ?_
    exact hret _ _ _ _ _ _ dX0_data_17 (by rw [mo_data_1 c5] <;> rfl) (by rw [mo_data_1 c5] <;> rfl) hP hD hS
  · have c5 := b2i_n0 c5
    obtain ⟨j, k, hj, hk, rfl, rfl⟩ := mq_pr_of c5
    refine lv_aload_n hx hb dX0_data_8 rfl (lv_at hl 0 rfl) ?_
    refine lv_iload_n hx hb dX0_data_9 rfl (lv_at hl 1 rfl) ?_
    refine CtI.cV1 (rest := []) (ci := 0) (C := RX0) (T := TX0) (N := 11) (cX_isThere l D ad zC iC M j hj) S (lw_V q84 q86 qs0 q15 q87) hdX0_isThere rfl ⟨Nat.le_of_ble_eq_true rfl, Nat.le_of_ble_eq_true rfl⟩ rfl rfl hK hP hD hS hA hl.1 rfl (Nat.le_of_ble_eq_true rfl) ⟨Nat.zero_le _, Nat.zero_le _⟩ dX0_data_10 (fun H locs hP hD hS => ?_)
    refine lv_if_ne (tgt := 18) hx hb dX0_data_13 (by decide) (fun c13 => ?_) (fun c13 => ?_)
    · have c13 := b2i_n0 c13
      have hth := c13
      refine lv_aload_n hx hb dX0_data_18 rfl (lv_at hl 0 rfl) ?_
      refine lv_iconst (v := nI 0) hx hb dX0_data_19 (by decide) ?_
      refine xp_said S hK hP hD hS dX0_data_20 (fun H locs hP hD hS => ?_)
      refine lv_iconst (v := nI 0) hx hb dX0_data_23 (by decide) ?_
      refine lv_istore_n (lv' := [(3, .int (nI 0)), (0, .ref (ad 0)), (1, .int (nI j)), (2, .int (nI k))]) hx hb dX0_data_24 rfl hl (by decide) rfl (fun ls hl => ?_)
      have loop2 : ∀ (f q : Nat) (Mq : MS) (H : Heap) (locs : List Loc) (ls : Array Slot), IO M k q Mq → 1024 ≤ q + f → mb_loop k f q Mq = mb_data M j k → va_P D vwCl (wX ad zC iC Mq) H → va_D A (wX ad zC iC Mq) → va_S A s.heap H locs → lv_has ls 6 [(0, .ref (ad 0)), (1, .int (nI j)), (2, .int (nI k)), (3, .int (nI q))] → W p l e (rm_ 5 113) s m args below meth c H locs 0 0 Q (F0 m 67 ls []) := by
        intro f
        induction f with
        | zero =>
          intro q Mq H locs ls hIO h2
          have a1 := IO_said hIO
          have a2 := hIO.2.2.2.1
          exact absurd h2 (by omega)
        | succ f ih2 =>
          intro q Mq H locs ls hIO h2 hfin hP hD hS hl
          have hsq := IO_said hIO
          have hqs := hIO.2.2.2.1
          refine lv_iload_n hx hb dX0_data_67 rfl (lv_at hl 3 rfl) ?_
          refine lv_aload_n hx hb dX0_data_68 rfl (lv_at hl 0 rfl) ?_
          refine xg_said S hK hP dX0_data_69 ?_
          refine lv_icmp_ge (tgt := 133) hx hb dX0_data_72 (by decide) (fun c72 => ?_) (fun c72 => ?_)
          · have c72 := (nI_leI (by omega) (by omega)).mp c72
            rw [mb_loop_f (by omega)] at hfin
            refine lv_aload_n hx hb dX0_data_133 rfl (lv_at hl 0 rfl) ?_
            refine xg_said S hK hP dX0_data_134 ?_
            exact hret _ _ _ _ _ _ dX0_data_137 (by rw [mo_data_t hj hk hth, ← hfin] <;> rfl) (by rw [mo_data_t hj hk hth, ← hfin] <;> rfl) hP hD hS
          · have c72 : ¬ _ := fun z => c72 ((nI_leI (by omega) (by omega)).mpr z)
            have hq : q < m_said Mq := by omega
            have hcm := rows_c hIO.1 hk hIO.2.1 hIO.2.2.1 hq
            refine lv_aload_n hx hb dX0_data_75 rfl (lv_at hl 0 rfl) ?_
            refine xg_row S hK hP dX0_data_76 ?_
            refine lv_iload_n hx hb dX0_data_79 rfl (lv_at hl 3 rfl) ?_
            refine xl_row (k := q) (by omega) S hK hP dX0_data_80 ?_
            refine lv_istore (lv' := [(4, .int (nI (m_row Mq q))), (0, .ref (ad 0)), (1, .int (nI j)), (2, .int (nI k)), (3, .int (nI q))]) hx hb dX0_data_81 hl (by decide) rfl (fun ls hl => ?_)
            refine lv_iconst (v := nI 0) hx hb dX0_data_83 (by decide) ?_
            refine lv_istore (lv' := [(5, .int (nI 0)), (4, .int (nI (m_row Mq q))), (0, .ref (ad 0)), (1, .int (nI j)), (2, .int (nI k)), (3, .int (nI q))]) hx hb dX0_data_84 hl (by decide) rfl (fun ls hl => ?_)
            have inner : ∀ (n i : Nat) (Mi : MS) (H : Heap) (locs : List Loc) (ls : Array Slot), i ≤ 10 → 11 ≤ i + n → Mi = mb_inner Mq k (m_row Mq q) i → va_P D vwCl (wX ad zC iC Mi) H → va_D A (wX ad zC iC Mi) → va_S A s.heap H locs → lv_has ls 6 [(0, .ref (ad 0)), (1, .int (nI j)), (2, .int (nI k)), (3, .int (nI q)), (4, .int (nI (m_row Mq q))), (5, .int (nI i))] → W p l e (rm_ 5 113) s m args below meth c H locs 0 0 Q (F0 m 86 ls []) := by
              intro n
              induction n with
              | zero =>
                intro i Mi H locs ls h1 h2
                exact absurd h2 (by omega)
              | succ n ih =>
                intro i Mi H locs ls h1 h2 eMi hP hD hS hl
                have hII : II M k q (m_row Mq q) i Mi := by rw [eMi]; exact mb_inner_II hk hIO hq i h1
                have hJi := hII.1
                have hsi := II_said hII h1
                refine lv_iload hx hb dX0_data_86 (lv_at hl 5 rfl) ?_
                refine lv_bipush (v := nI 10) hx hb dX0_data_88 (by decide) ?_
                refine lv_icmp_ge (tgt := 127) hx hb dX0_data_90 (by decide) (fun c90 => ?_) (fun c90 => ?_)
                · have c90 := (nI_leI (by omega) (by omega)).mp c90
                  have hi10 : i = 10 := by omega
                  subst hi10
                  refine lv_iinc (v := nI (q + 1)) (lv' := [(3, .int (nI (q + 1))), (0, .ref (ad 0)), (1, .int (nI j)), (2, .int (nI k)), (4, .int (nI (m_row Mq q))), (5, .int (nI 10))]) hx hb dX0_data_127 hl (k := 3) rfl (show nI q + 1 = nI (q + 1) from nI_1 q) (by decide) rfl (fun ls hl => ?_)
                  refine lv_goto (tgt := 67) hx hb dX0_data_130 (by decide) ?_
                  exact ih2 (q + 1) Mi _ _ _ (by rw [eMi]; exact mb_inner_IO hk hIO hq) (by omega) (by rw [← hfin, mb_loop_t hq, eMi]) hP hD hS (lv_sub hl [1, 2, 3, 0] rfl)
                · have c90 : ¬ _ := fun z => c90 ((nI_leI (by omega) (by omega)).mpr z)
                  refine lv_iload hx hb dX0_data_93 (lv_at hl 5 rfl) ?_
                  refine lv_iload hx hb dX0_data_95 (lv_at hl 4 rfl) ?_
                  refine lv_bipush (v := 100) hx hb dX0_data_97 (by decide) ?_
                  refine lv_irem hx hb dX0_data_99 (by decide) ?_
                  refine lv_tv (v := nI ((m_row Mq q) % 100)) (mb_rem (by omega)) ?_
                  refine lv_icmp_eq (tgt := 121) hx hb dX0_data_100 (by decide) (fun c100 => ?_) (fun c100 => ?_)
                  · have c100 := (nI_eq (by omega) (by omega)).mp c100
                    have hst : mb_inner Mq k (m_row Mq q) (i + 1) = Mi := by rw [mb_inner_f (by rw [← eMi]; exact fun z => z.1 c100), eMi]
                    refine lv_iinc (v := nI (i + 1)) (lv' := [(5, .int (nI (i + 1))), (0, .ref (ad 0)), (1, .int (nI j)), (2, .int (nI k)), (3, .int (nI q)), (4, .int (nI (m_row Mq q)))]) hx hb dX0_data_121 hl (k := 5) rfl (show nI i + 1 = nI (i + 1) from nI_1 i) (by decide) rfl (fun ls hl => ?_)
                    refine lv_goto (tgt := 86) hx hb dX0_data_124 (by decide) ?_
                    exact ih (i + 1) _ _ _ _ (by omega) (by omega) (by rw [hst]) hP hD hS (lv_sub hl [1, 2, 3, 4, 5, 0] rfl)
                  · have c100 : ¬ _ := fun z => c100 ((nI_eq (by omega) (by omega)).mpr z)
                    refine lv_aload_n hx hb dX0_data_103 rfl (lv_at hl 0 rfl) ?_
                    refine lv_iload hx hb dX0_data_104 (lv_at hl 5 rfl) ?_
                    refine CtI.cV1 (rest := []) (ci := 0) (C := RX0) (T := TX0) (N := 11) (cX_listens l D ad zC iC Mi i (by omega)) S (lw_V q96 q98 qs1 q15 q99) hdX0_listens rfl ⟨Nat.le_of_ble_eq_true rfl, Nat.le_of_ble_eq_true rfl⟩ rfl rfl hK hP hD hS hA hl.1 rfl (Nat.le_of_ble_eq_true rfl) ⟨Nat.zero_le _, Nat.zero_le _⟩ dX0_data_106 (fun H locs hP hD hS => ?_)
                    refine lv_if_eq (tgt := 121) hx hb dX0_data_109 (by decide) (fun c109 => ?_) (fun c109 => ?_)
                    · have c109 := b2i_0 c109
                      have hst : mb_inner Mq k (m_row Mq q) (i + 1) = Mi := by rw [mb_inner_f (by rw [← eMi]; exact fun z => mq_not c109 z.2), eMi]
                      refine lv_iinc (v := nI (i + 1)) (lv' := [(5, .int (nI (i + 1))), (0, .ref (ad 0)), (1, .int (nI j)), (2, .int (nI k)), (3, .int (nI q)), (4, .int (nI (m_row Mq q)))]) hx hb dX0_data_121 hl (k := 5) rfl (show nI i + 1 = nI (i + 1) from nI_1 i) (by decide) rfl (fun ls hl => ?_)
                      refine lv_goto (tgt := 86) hx hb dX0_data_124 (by decide) ?_
                      exact ih (i + 1) _ _ _ _ (by omega) (by omega) (by rw [hst]) hP hD hS (lv_sub hl [1, 2, 3, 4, 5, 0] rfl)
                    · have c109 := b2i_n0 c109
                      refine lv_aload_n hx hb dX0_data_112 rfl (lv_at hl 0 rfl) ?_
                      refine lv_iload hx hb dX0_data_113 (lv_at hl 5 rfl) ?_
                      refine lv_iload_n hx hb dX0_data_115 rfl (lv_at hl 2 rfl) ?_
                      refine lv_iload hx hb dX0_data_116 (lv_at hl 4 rfl) ?_
                      refine CtV.cV1 (rest := []) (ci := 0) (C := RX0) (T := TX0) (N := 11) (cX_hear l D ad zC iC Mi hJi (by omega) i k (by omega) hk (m_row Mq q) hcm.1 hcm.2) S (lw_V q124 q126 qs7 q15 q127) hdX0_hear rfl ⟨Nat.le_of_ble_eq_true rfl, Nat.le_of_ble_eq_true rfl⟩ rfl rfl hK hP hD hS hA hl.1 rfl (Nat.le_of_ble_eq_true rfl) ⟨Nat.zero_le _, Nat.zero_le _⟩ dX0_data_118 (fun H locs hP hD hS => ?_)
                      have hst : mb_inner Mq k (m_row Mq q) (i + 1) = mb_hear Mi i k (m_row Mq q) := by rw [mb_inner_t c100 (by rw [← eMi]; exact c109), ← eMi]
                      refine lv_iinc (v := nI (i + 1)) (lv' := [(5, .int (nI (i + 1))), (0, .ref (ad 0)), (1, .int (nI j)), (2, .int (nI k)), (3, .int (nI q)), (4, .int (nI (m_row Mq q)))]) hx hb dX0_data_121 hl (k := 5) rfl (show nI i + 1 = nI (i + 1) from nI_1 i) (by decide) rfl (fun ls hl => ?_)
                      refine lv_goto (tgt := 86) hx hb dX0_data_124 (by decide) ?_
                      exact ih (i + 1) _ _ _ _ (by omega) (by omega) (by rw [hst]) hP hD hS (lv_sub hl [1, 2, 3, 4, 5, 0] rfl)
            exact inner 11 0 Mq _ _ _ (by omega) (by omega) rfl hP hD hS (lv_sub hl [2, 3, 4, 5, 1, 0] rfl)
      have loop1 : ∀ (n i : Nat) (Mi : MS) (H : Heap) (locs : List Loc) (ls : Array Slot), i ≤ 10 → 11 ≤ i + n → Mi = mb_first (n_said M 0) j k i → va_P D vwCl (wX ad zC iC Mi) H → va_D A (wX ad zC iC Mi) → va_S A s.heap H locs → lv_has ls 6 [(0, .ref (ad 0)), (1, .int (nI j)), (2, .int (nI k)), (3, .int (nI i))] → W p l e (rm_ 5 113) s m args below meth c H locs 0 0 Q (F0 m 25 ls []) := by
        intro n
        induction n with
        | zero =>
          intro i Mi H locs ls h1 h2
          exact absurd h2 (by omega)
        | succ n ih =>
          intro i Mi H locs ls h1 h2 eMi hP hD hS hl
          have hIF : IF M k i Mi := by rw [eMi]; exact mb_first_IF hk hJ i h1
          have hJi := hIF.1
          have hsi := IF_said hIF h1
          refine lv_iload_n hx hb dX0_data_25 rfl (lv_at hl 3 rfl) ?_
          refine lv_bipush (v := nI 10) hx hb dX0_data_26 (by decide) ?_
          refine lv_icmp_ge (tgt := 65) hx hb dX0_data_28 (by decide) (fun c28 => ?_) (fun c28 => ?_)
          · have c28 := (nI_leI (by omega) (by omega)).mp c28
            have hi10 : i = 10 := by omega
            subst hi10
            refine lv_iconst (v := nI 0) hx hb dX0_data_65 (by decide) ?_
            refine lv_istore_n (lv' := [(3, .int (nI 0)), (0, .ref (ad 0)), (1, .int (nI j)), (2, .int (nI k))]) hx hb dX0_data_66 rfl hl (by decide) rfl (fun ls hl => ?_)
            exact loop2 1024 0 Mi _ _ _ (by rw [eMi]; exact IF_out (mb_first_IF hk hJ 10 (Nat.le_refl _))) (by omega) (by rw [eMi]; rfl) hP hD hS (lv_sub hl [1, 2, 3, 0] rfl)
          · have c28 : ¬ _ := fun z => c28 ((nI_leI (by omega) (by omega)).mpr z)
            refine lv_iload_n hx hb dX0_data_31 rfl (lv_at hl 3 rfl) ?_
            refine lv_iload_n hx hb dX0_data_32 rfl (lv_at hl 1 rfl) ?_
            refine lv_icmp_eq (tgt := 59) hx hb dX0_data_33 (by decide) (fun c33 => ?_) (fun c33 => ?_)
            · have c33 := (nI_eq (by omega) (by omega)).mp c33
              have hst : mb_first (n_said M 0) j k (i + 1) = Mi := by rw [mb_first_f (by rw [← eMi]; exact fun z => z.1 c33), eMi]
              refine lv_iinc (v := nI (i + 1)) (lv' := [(3, .int (nI (i + 1))), (0, .ref (ad 0)), (1, .int (nI j)), (2, .int (nI k))]) hx hb dX0_data_59 hl (k := 3) rfl (show nI i + 1 = nI (i + 1) from nI_1 i) (by decide) rfl (fun ls hl => ?_)
              refine lv_goto (tgt := 25) hx hb dX0_data_62 (by decide) ?_
              exact ih (i + 1) _ _ _ _ (by omega) (by omega) (by rw [hst]) hP hD hS (lv_sub hl [1, 2, 3, 0] rfl)
            · have c33 : ¬ _ := fun z => c33 ((nI_eq (by omega) (by omega)).mpr z)
              refine lv_aload_n hx hb dX0_data_36 rfl (lv_at hl 0 rfl) ?_
              refine lv_iload_n hx hb dX0_data_37 rfl (lv_at hl 3 rfl) ?_
              refine CtI.cV1 (rest := []) (ci := 0) (C := RX0) (T := TX0) (N := 11) (cX_listens l D ad zC iC Mi i (by omega)) S (lw_V q96 q98 qs1 q15 q99) hdX0_listens rfl ⟨Nat.le_of_ble_eq_true rfl, Nat.le_of_ble_eq_true rfl⟩ rfl rfl hK hP hD hS hA hl.1 rfl (Nat.le_of_ble_eq_true rfl) ⟨Nat.zero_le _, Nat.zero_le _⟩ dX0_data_38 (fun H locs hP hD hS => ?_)
              refine lv_if_eq (tgt := 59) hx hb dX0_data_41 (by decide) (fun c41 => ?_) (fun c41 => ?_)
              · have c41 := b2i_0 c41
                have hst : mb_first (n_said M 0) j k (i + 1) = Mi := by rw [mb_first_f (by rw [← eMi]; exact fun z => mq_not c41 z.2.1), eMi]
                refine lv_iinc (v := nI (i + 1)) (lv' := [(3, .int (nI (i + 1))), (0, .ref (ad 0)), (1, .int (nI j)), (2, .int (nI k))]) hx hb dX0_data_59 hl (k := 3) rfl (show nI i + 1 = nI (i + 1) from nI_1 i) (by decide) rfl (fun ls hl => ?_)
                refine lv_goto (tgt := 25) hx hb dX0_data_62 (by decide) ?_
                exact ih (i + 1) _ _ _ _ (by omega) (by omega) (by rw [hst]) hP hD hS (lv_sub hl [1, 2, 3, 0] rfl)
              · have c41 := b2i_n0 c41
                refine lv_aload_n hx hb dX0_data_44 rfl (lv_at hl 0 rfl) ?_
                refine lv_iload_n hx hb dX0_data_45 rfl (lv_at hl 3 rfl) ?_
                refine lv_iload_n hx hb dX0_data_46 rfl (lv_at hl 2 rfl) ?_
                refine CtI.cV1 (rest := []) (ci := 0) (C := RX0) (T := TX0) (N := 11) (cX_isSending l D ad zC iC Mi hJi i k (by omega) hk) S (lw_V q100 q102 qs2 q15 q103) hdX0_isSending rfl ⟨Nat.le_of_ble_eq_true rfl, Nat.le_of_ble_eq_true rfl⟩ rfl rfl hK hP hD hS hA hl.1 rfl (Nat.le_of_ble_eq_true rfl) ⟨Nat.zero_le _, Nat.zero_le _⟩ dX0_data_47 (fun H locs hP hD hS => ?_)
                refine lv_if_eq (tgt := 59) hx hb dX0_data_50 (by decide) (fun c50 => ?_) (fun c50 => ?_)
                · have c50 := b2i_0 c50
                  have hst : mb_first (n_said M 0) j k (i + 1) = Mi := by rw [mb_first_f (by rw [← eMi]; exact fun z => mq_not c50 z.2.2), eMi]
                  refine lv_iinc (v := nI (i + 1)) (lv' := [(3, .int (nI (i + 1))), (0, .ref (ad 0)), (1, .int (nI j)), (2, .int (nI k))]) hx hb dX0_data_59 hl (k := 3) rfl (show nI i + 1 = nI (i + 1) from nI_1 i) (by decide) rfl (fun ls hl => ?_)
                  refine lv_goto (tgt := 25) hx hb dX0_data_62 (by decide) ?_
                  exact ih (i + 1) _ _ _ _ (by omega) (by omega) (by rw [hst]) hP hD hS (lv_sub hl [1, 2, 3, 0] rfl)
                · have c50 := b2i_n0 c50
                  refine lv_aload_n hx hb dX0_data_53 rfl (lv_at hl 0 rfl) ?_
                  refine lv_iload_n hx hb dX0_data_54 rfl (lv_at hl 3 rfl) ?_
                  refine lv_iload_n hx hb dX0_data_55 rfl (lv_at hl 2 rfl) ?_
                  refine CtV.cV1 (rest := []) (ci := 0) (C := RX0) (T := TX0) (N := 11) (cX_say l D ad zC iC Mi i k (by omega) hk (by omega)) S (lw_V q120 q122 qs6 q15 q123) hdX0_say rfl ⟨Nat.le_of_ble_eq_true rfl, Nat.le_of_ble_eq_true rfl⟩ rfl rfl hK hP hD hS hA hl.1 rfl (Nat.le_of_ble_eq_true rfl) ⟨Nat.zero_le _, Nat.zero_le _⟩ dX0_data_56 (fun H locs hP hD hS => ?_)
                  have hst : mb_first (n_said M 0) j k (i + 1) = mb_say Mi i k := by rw [mb_first_t c33 (by rw [← eMi]; exact c41) (by rw [← eMi]; exact c50), ← eMi]
                  refine lv_iinc (v := nI (i + 1)) (lv' := [(3, .int (nI (i + 1))), (0, .ref (ad 0)), (1, .int (nI j)), (2, .int (nI k))]) hx hb dX0_data_59 hl (k := 3) rfl (show nI i + 1 = nI (i + 1) from nI_1 i) (by decide) rfl (fun ls hl => ?_)
                  refine lv_goto (tgt := 25) hx hb dX0_data_62 (by decide) ?_
                  exact ih (i + 1) _ _ _ _ (by omega) (by omega) (by rw [hst]) hP hD hS (lv_sub hl [1, 2, 3, 0] rfl)
      exact loop1 11 0 (n_said M 0) _ _ _ (by omega) (by omega) rfl hP hD hS (lv_sub hl [1, 2, 3, 0] rfl)
    · have c13 := b2i_0 c13
      refine lv_iconst (v := (-1)) hx hb dX0_data_16 (by decide) ?_
      exact hret _ _ _ _ _ _ dX0_data_17 (by rw [mo_data_2 hj c13] <;> rfl) (by rw [mo_data_2 hj c13] <;> rfl) hP hD hS
end
section
/-! by program (gen/methods.py Y) -/
set_option maxHeartbeats 4000000 in
set_option maxRecDepth 100000 in
theorem cY_isRouter (l : Launch) (D : va_G) (tys : List (ClassId × FieldType)) (rr : Int32) : CtI l yX1_isRouter cX1_isRouter 1 .boolean 0 0 D tys [.int rr] [] (b2i (mq_rt rr)) [] := by
  refine CtI.mk (by decide) (b2i_nar _) (Nat.le_of_ble_eq_true rfl) ?_
  intro p e s m args below meth c A Q S hK hP hD hA hS hret ls hl
  have S : CallFix p m c cX1_isRouter 1 s args lw_all RX1 := S
  have hx := S.1
  have hb := S.2.1
  have hl : lv_has ls 1 [(0, .int rr)] := hl
  refine lv_iload_n hx hb dX1_isRouter_0 rfl (lv_at hl 0 rfl) ?_
  refine lv_if_lt (tgt := 14) hx hb dX1_isRouter_1 (by decide) (fun c1 => ?_) (fun c1 => ?_)
  · refine lv_iconst (v := 0) hx hb dX1_isRouter_14 (by decide) ?_
    exact hret _ _ _ _ _ _ dX1_isRouter_15 (by rw [mq_rt_0 c1] <;> rfl) rfl hP hD hS
  · refine lv_iload_n hx hb dX1_isRouter_4 rfl (lv_at hl 0 rfl) ?_
    refine lv_bipush (v := 10) hx hb dX1_isRouter_5 (by decide) ?_
    refine lv_icmp_ge (tgt := 14) hx hb dX1_isRouter_7 (by decide) (fun c7 => ?_) (fun c7 => ?_)
    · refine lv_iconst (v := 0) hx hb dX1_isRouter_14 (by decide) ?_
      exact hret _ _ _ _ _ _ dX1_isRouter_15 (by rw [mq_rt_1 c7] <;> rfl) rfl hP hD hS
    · refine lv_iconst (v := 1) hx hb dX1_isRouter_10 (by decide) ?_
      refine lv_goto (tgt := 15) hx hb dX1_isRouter_11 (by decide) ?_
      exact hret _ _ _ _ _ _ dX1_isRouter_15 (by rw [mq_rt_2 c1 c7] <;> rfl) rfl hP hD hS
set_option maxHeartbeats 4000000 in
set_option maxRecDepth 100000 in
theorem cY_isPair (l : Launch) (D : va_G) (tys : List (ClassId × FieldType)) (rr ss : Int32) : CtI l yX1_isPair cX1_isPair 2 .boolean 1 20 D tys [.int rr, .int ss] [] (b2i (mq_pr rr ss)) [] := by
  refine CtI.mk (by decide) (b2i_nar _) (Nat.le_of_ble_eq_true rfl) ?_
  intro p e s m args below meth c A Q S hK hP hD hA hS hret ls hl
  have S : CallFix p m c cX1_isPair 2 s args lw_all RX1 := S
  have hx := S.1
  have hb := S.2.1
  have hl : lv_has ls 2 [(0, .int rr), (1, .int ss)] := hl
  refine lv_iload_n hx hb dX1_isPair_0 rfl (lv_at hl 0 rfl) ?_
  refine CtI.cS (rest := []) (cY_isRouter l D tys rr) S (lw_S q204 q205 q16 q206) hdX1_isRouter rfl ⟨Nat.le_of_ble_eq_true rfl, Nat.le_of_ble_eq_true rfl⟩ hK hP hD hS hA hl.1 rfl (Nat.le_of_ble_eq_true rfl) ⟨Nat.zero_le _, Nat.zero_le _⟩ dX1_isPair_1 (fun H locs hP hD hS => ?_)
  refine lv_if_eq (tgt := 21) hx hb dX1_isPair_4 (by decide) (fun c4 => ?_) (fun c4 => ?_)
  · have c4 := b2i_0 c4
    refine lv_iconst (v := 0) hx hb dX1_isPair_21 (by decide) ?_
    exact hret _ _ _ _ _ _ dX1_isPair_22 (by rw [mq_pr_1 c4] <;> rfl) rfl hP hD hS
  · have c4 := b2i_n0 c4
    refine lv_iload_n hx hb dX1_isPair_7 rfl (lv_at hl 1 rfl) ?_
    refine lv_if_lt (tgt := 21) hx hb dX1_isPair_8 (by decide) (fun c8 => ?_) (fun c8 => ?_)
    · refine lv_iconst (v := 0) hx hb dX1_isPair_21 (by decide) ?_
      exact hret _ _ _ _ _ _ dX1_isPair_22 (by rw [mq_pr_2 (mq_sr_0 c8)] <;> rfl) rfl hP hD hS
    · refine lv_iload_n hx hb dX1_isPair_11 rfl (lv_at hl 1 rfl) ?_
      refine lv_bipush (v := 16) hx hb dX1_isPair_12 (by decide) ?_
      refine lv_icmp_ge (tgt := 21) hx hb dX1_isPair_14 (by decide) (fun c14 => ?_) (fun c14 => ?_)
      · refine lv_iconst (v := 0) hx hb dX1_isPair_21 (by decide) ?_
        exact hret _ _ _ _ _ _ dX1_isPair_22 (by rw [mq_pr_2 (mq_sr_1 c14)] <;> rfl) rfl hP hD hS
      · refine lv_iconst (v := 1) hx hb dX1_isPair_17 (by decide) ?_
        refine lv_goto (tgt := 22) hx hb dX1_isPair_18 (by decide) ?_
        exact hret _ _ _ _ _ _ dX1_isPair_22 (by rw [mq_pr_t c4 (mq_sr_2 c8 c14)] <;> rfl) rfl hP hD hS
set_option maxHeartbeats 4000000 in
set_option maxRecDepth 100000 in
theorem cY_isBetter (l : Launch) (D : va_G) (tys : List (ClassId × FieldType)) (ca cb : Nat) (ha : ca < 2000000) (hb' : cb < 2000000) : CtI l yX1_isBetter cX1_isBetter 2 .boolean 0 0 D tys [.int (nI ca), .int (nI cb)] [] (b2i (mb_bet ca cb)) [] := by
  refine CtI.mk (by decide) (b2i_nar _) (Nat.le_of_ble_eq_true rfl) ?_
  intro p e s m args below meth c A Q S hK hP hD hA hS hret ls hl
  have S : CallFix p m c cX1_isBetter 2 s args lw_all RX1 := S
  have hx := S.1
  have hb := S.2.1
  have hl : lv_has ls 2 [(0, .int (nI ca)), (1, .int (nI cb))] := hl
  refine lv_iload_n hx hb dX1_isBetter_0 rfl (lv_at hl 0 rfl) ?_
  refine lv_bipush (v := 100) hx hb dX1_isBetter_1 (by decide) ?_
  refine lv_idiv hx hb dX1_isBetter_3 (by decide) ?_
  refine lv_tv (v := nI (ca / 100)) (mb_div (by omega)) ?_
  refine lv_iload_n hx hb dX1_isBetter_4 rfl (lv_at hl 1 rfl) ?_
  refine lv_bipush (v := 100) hx hb dX1_isBetter_5 (by decide) ?_
  refine lv_idiv hx hb dX1_isBetter_7 (by decide) ?_
  refine lv_tv (v := nI (cb / 100)) (mb_div (by omega)) ?_
  refine lv_icmp_lt (tgt := 33) hx hb dX1_isBetter_8 (by decide) (fun c8 => ?_) (fun c8 => ?_)
  · have c8 := (nI_ltI (by omega) (by omega)).mp c8
    refine lv_iconst (v := 1) hx hb dX1_isBetter_33 (by decide) ?_
    refine lv_goto (tgt := 38) hx hb dX1_isBetter_34 (by decide) ?_
    exact hret _ _ _ _ _ _ dX1_isBetter_38 (by rw [mb_bet_1 c8] <;> rfl) rfl hP hD hS
  · have c8 : ¬ _ := fun z => c8 ((nI_ltI (by omega) (by omega)).mpr z)
    refine lv_iload_n hx hb dX1_isBetter_11 rfl (lv_at hl 0 rfl) ?_
    refine lv_bipush (v := 100) hx hb dX1_isBetter_12 (by decide) ?_
    refine lv_idiv hx hb dX1_isBetter_14 (by decide) ?_
    refine lv_tv (v := nI (ca / 100)) (mb_div (by omega)) ?_
    refine lv_iload_n hx hb dX1_isBetter_15 rfl (lv_at hl 1 rfl) ?_
    refine lv_bipush (v := 100) hx hb dX1_isBetter_16 (by decide) ?_
    refine lv_idiv hx hb dX1_isBetter_18 (by decide) ?_
    refine lv_tv (v := nI (cb / 100)) (mb_div (by omega)) ?_
    refine lv_icmp_ne (tgt := 37) hx hb dX1_isBetter_19 (by decide) (fun c19 => ?_) (fun c19 => ?_)
    · have c19 : ¬ _ := fun z => c19 ((nI_eq (by omega) (by omega)).mpr z)
      refine lv_iconst (v := 0) hx hb dX1_isBetter_37 (by decide) ?_
      exact hret _ _ _ _ _ _ dX1_isBetter_38 (by rw [mb_bet_2 c8 c19] <;> rfl) rfl hP hD hS
    · have c19 := (nI_eq (by omega) (by omega)).mp c19
      refine lv_iload_n hx hb dX1_isBetter_22 rfl (lv_at hl 0 rfl) ?_
      refine lv_bipush (v := 100) hx hb dX1_isBetter_23 (by decide) ?_
      refine lv_irem hx hb dX1_isBetter_25 (by decide) ?_
      refine lv_tv (v := nI (ca % 100)) (mb_rem (by omega)) ?_
      refine lv_iload_n hx hb dX1_isBetter_26 rfl (lv_at hl 1 rfl) ?_
      refine lv_bipush (v := 100) hx hb dX1_isBetter_27 (by decide) ?_
      refine lv_irem hx hb dX1_isBetter_29 (by decide) ?_
      refine lv_tv (v := nI (cb % 100)) (mb_rem (by omega)) ?_
      refine lv_icmp_le (tgt := 37) hx hb dX1_isBetter_30 (by decide) (fun c30 => ?_) (fun c30 => ?_)
      · have c30 := (nI_leI (by omega) (by omega)).mp c30
        refine lv_iconst (v := 0) hx hb dX1_isBetter_37 (by decide) ?_
        exact hret _ _ _ _ _ _ dX1_isBetter_38 (by rw [mb_bet_3 c8 c30] <;> rfl) rfl hP hD hS
      · have c30 : ¬ _ := fun z => c30 ((nI_leI (by omega) (by omega)).mpr z)
        refine lv_iconst (v := 1) hx hb dX1_isBetter_33 (by decide) ?_
        refine lv_goto (tgt := 38) hx hb dX1_isBetter_34 (by decide) ?_
        exact hret _ _ _ _ _ _ dX1_isBetter_38 (by rw [mb_bet_4 c19 c30] <;> rfl) rfl hP hD hS
set_option maxHeartbeats 4000000 in
set_option maxRecDepth 100000 in
theorem cY_own (l : Launch) (D : va_G) (ad : Nat → Nat) (zC iC : ClassId) (M : MS) (rr ss : Nat) (hr : rr < 10) (hs : ss < 16) : CtI l yX1_own cX1_own 3 .int 0 0 D (tyZ zC iC) [.ref (ad 0), .int (nI rr), .int (nI ss)] (wY ad zC iC (kY M) M) (nI (mb_own M rr ss)) (wY ad zC iC (kY M) M) := by
  refine CtI.mk (by decide) rfl (Nat.le_of_ble_eq_true rfl) ?_
  intro p e s m args below meth c A Q S hK hP hD hA hS hret ls hl
  have S : CallFix p m c cX1_own 3 s args lw_all RX1 := S
  have hx := S.1
  have hb := S.2.1
  have hl : lv_has ls 3 [(0, .ref (ad 0)), (1, .int (nI rr)), (2, .int (nI ss))] := hl
  refine lv_aload_n hx hb dX1_own_0 rfl (lv_at hl 0 rfl) ?_
  refine yg_st S hK hP dX1_own_1 ?_
  refine lv_bipush (v := 16) hx hb dX1_own_4 (by decide) ?_
  refine lv_iload_n hx hb dX1_own_6 rfl (lv_at hl 1 rfl) ?_
  refine lv_imul hx hb dX1_own_7 ?_
  refine lv_iload_n hx hb dX1_own_8 rfl (lv_at hl 2 rfl) ?_
  refine lv_iadd hx hb dX1_own_9 ?_
  refine lv_tv (v := nI (16 * rr + ss)) (mb_ixY rr ss) ?_
  refine yl_st (k := 16 * rr + ss) (by omega) S hK hP dX1_own_10 ?_
  refine lv_if_eq (tgt := 18) hx hb dX1_own_11 (by decide) (fun c11 => ?_) (fun c11 => ?_)
  · have c11 := b2i_0 c11
    refine lv_ldc (v := 1000000) hx hb S.2.2.2.1 (S.2.2.2.2 _ q239) dX1_own_18 ?_
    refine lv_bipush (v := 100) hx hb dX1_own_20 (by decide) ?_
    refine lv_aload_n hx hb dX1_own_22 rfl (lv_at hl 0 rfl) ?_
    refine yg_di S hK hP dX1_own_23 ?_
    refine lv_bipush (v := 16) hx hb dX1_own_26 (by decide) ?_
    refine lv_iload_n hx hb dX1_own_28 rfl (lv_at hl 1 rfl) ?_
    refine lv_imul hx hb dX1_own_29 ?_
    refine lv_iload_n hx hb dX1_own_30 rfl (lv_at hl 2 rfl) ?_
    refine lv_iadd hx hb dX1_own_31 ?_
    refine lv_tv (v := nI (16 * rr + ss)) (mb_ixY rr ss) ?_
    refine yl_di (k := 16 * rr + ss) (by omega) S hK hP dX1_own_32 ?_
    refine lv_imul hx hb dX1_own_33 ?_
    refine lv_iadd hx hb dX1_own_34 ?_
    refine lv_iload_n hx hb dX1_own_35 rfl (lv_at hl 1 rfl) ?_
    refine lv_iadd hx hb dX1_own_36 ?_
    exact hret _ _ _ _ _ _ dX1_own_37 (by rw [mb_own_f c11, ← mb_own1] <;> rfl) rfl hP hD hS
  · have c11 := b2i_n0 c11
    refine lv_iconst (v := 0) hx hb dX1_own_14 (by decide) ?_
    refine lv_goto (tgt := 20) hx hb dX1_own_15 (by decide) ?_
    refine lv_bipush (v := 100) hx hb dX1_own_20 (by decide) ?_
    refine lv_aload_n hx hb dX1_own_22 rfl (lv_at hl 0 rfl) ?_
    refine yg_di S hK hP dX1_own_23 ?_
    refine lv_bipush (v := 16) hx hb dX1_own_26 (by decide) ?_
    refine lv_iload_n hx hb dX1_own_28 rfl (lv_at hl 1 rfl) ?_
    refine lv_imul hx hb dX1_own_29 ?_
    refine lv_iload_n hx hb dX1_own_30 rfl (lv_at hl 2 rfl) ?_
    refine lv_iadd hx hb dX1_own_31 ?_
    refine lv_tv (v := nI (16 * rr + ss)) (mb_ixY rr ss) ?_
    refine yl_di (k := 16 * rr + ss) (by omega) S hK hP dX1_own_32 ?_
    refine lv_imul hx hb dX1_own_33 ?_
    refine lv_iadd hx hb dX1_own_34 ?_
    refine lv_iload_n hx hb dX1_own_35 rfl (lv_at hl 1 rfl) ?_
    refine lv_iadd hx hb dX1_own_36 ?_
    exact hret _ _ _ _ _ _ dX1_own_37 (by rw [mb_own_t c11, ← mb_own0] <;> rfl) rfl hP hD hS
set_option maxHeartbeats 4000000 in
set_option maxRecDepth 100000 in
theorem cY_keeps (l : Launch) (D : va_G) (ad : Nat → Nat) (zC iC : ClassId) (M : MS) (hJ : JN M) (rr ss : Nat) (hr : rr < 10) (hs : ss < 16) : CtI l yX1_keeps cX1_keeps 4 .int 0 0 D (tyZ zC iC) [.ref (ad 0), .int (nI rr), .int (nI ss)] (wY ad zC iC (kY M) M) (mb_held M rr ss) (wY ad zC iC (kY M) M) := by
  refine CtI.mk (by decide) rfl (Nat.le_of_ble_eq_true rfl) ?_
  intro p e s m args below meth c A Q S hK hP hD hA hS hret ls hl
  have S : CallFix p m c cX1_keeps 4 s args lw_all RX1 := S
  have hx := S.1
  have hb := S.2.1
  have hl : lv_has ls 4 [(0, .ref (ad 0)), (1, .int (nI rr)), (2, .int (nI ss))] := hl
  have hk0 := hJ.1
  obtain ⟨hk1, hk2⟩ := hJ.2.2.1 (16 * rr + ss) (by omega)
  have hk3 := hJ.2.2.2 (16 * rr + ss) (by omega)
  refine lv_aload_n hx hb dX1_keeps_0 rfl (lv_at hl 0 rfl) ?_
  refine yg_kc S hK hP dX1_keeps_1 ?_
  refine lv_bipush (v := 16) hx hb dX1_keeps_4 (by decide) ?_
  refine lv_iload_n hx hb dX1_keeps_6 rfl (lv_at hl 1 rfl) ?_
  refine lv_imul hx hb dX1_keeps_7 ?_
  refine lv_iload_n hx hb dX1_keeps_8 rfl (lv_at hl 2 rfl) ?_
  refine lv_iadd hx hb dX1_keeps_9 ?_
  refine lv_tv (v := nI (16 * rr + ss)) (mb_ixY rr ss) ?_
  refine yl_kc (k := 16 * rr + ss) (by omega) S hK hP dX1_keeps_10 ?_
  refine lv_istore_n (lv' := [(3, .int (kY M (16 * rr + ss))), (0, .ref (ad 0)), (1, .int (nI rr)), (2, .int (nI ss))]) hx hb dX1_keeps_11 rfl hl (by decide) rfl (fun ls hl => ?_)
  refine lv_iload_n hx hb dX1_keeps_12 rfl (lv_at hl 0 rfl) ?_
  refine lv_iconst (v := (-1)) hx hb dX1_keeps_13 (by decide) ?_
  refine lv_icmp_eq (tgt := 51) hx hb dX1_keeps_14 (by decide) (fun c14 => ?_) (fun c14 => ?_)
  · have c14 := kY_0 (by omega) c14
    refine lv_iconst (v := (-1)) hx hb dX1_keeps_51 (by decide) ?_
    exact hret _ _ _ _ _ _ dX1_keeps_52 (by rw [mb_held_f (mb_hb_1 (by omega))] <;> rfl) rfl hP hD hS
  · rw [kY_n c14] at hl
    refine lv_aload_n hx hb dX1_keeps_17 rfl (lv_at hl 1 rfl) ?_
    refine yg_time S hK hP dX1_keeps_18 ?_
    refine lv_aload_n hx hb dX1_keeps_21 rfl (lv_at hl 1 rfl) ?_
    refine yg_ti S hK hP dX1_keeps_22 ?_
    refine lv_bipush (v := 16) hx hb dX1_keeps_25 (by decide) ?_
    refine lv_iload_n hx hb dX1_keeps_27 rfl (lv_at hl 2 rfl) ?_
    refine lv_imul hx hb dX1_keeps_28 ?_
    refine lv_iload_n hx hb dX1_keeps_29 rfl (lv_at hl 3 rfl) ?_
    refine lv_iadd hx hb dX1_keeps_30 ?_
    refine lv_tv (v := nI (16 * rr + ss)) (mb_ixY rr ss) ?_
    refine yl_ti (k := 16 * rr + ss) (by omega) S hK hP dX1_keeps_31 ?_
    refine lv_icmp_ge (tgt := 51) hx hb dX1_keeps_32 (by decide) (fun c32 => ?_) (fun c32 => ?_)
    · have c32 := (nI_leI (by omega) (by omega)).mp c32
      refine lv_iconst (v := (-1)) hx hb dX1_keeps_51 (by decide) ?_
      exact hret _ _ _ _ _ _ dX1_keeps_52 (by rw [mb_held_f (mb_hb_1 c32)] <;> rfl) rfl hP hD hS
    · have c32 : ¬ _ := fun z => c32 ((nI_leI (by omega) (by omega)).mpr z)
      refine lv_aload_n hx hb dX1_keeps_35 rfl (lv_at hl 1 rfl) ?_
      refine yg_gone S hK hP dX1_keeps_36 ?_
      refine lv_iload_n hx hb dX1_keeps_39 rfl (lv_at hl 0 rfl) ?_
      refine lv_bipush (v := 100) hx hb dX1_keeps_40 (by decide) ?_
      refine lv_irem hx hb dX1_keeps_42 (by decide) ?_
      refine lv_tv (v := nI (m_kc M (16 * rr + ss) % 100)) (mb_rem (by omega)) ?_
      refine yl_gone (k := m_kc M (16 * rr + ss) % 100) (by omega) S hK hP dX1_keeps_43 ?_
      refine lv_if_ne (tgt := 51) hx hb dX1_keeps_44 (by decide) (fun c44 => ?_) (fun c44 => ?_)
      · have c44 := b2i_n0 c44
        have c44 := bnot_t c44
        refine lv_iconst (v := (-1)) hx hb dX1_keeps_51 (by decide) ?_
        exact hret _ _ _ _ _ _ dX1_keeps_52 (by rw [mb_held_f (mb_hb_2 c44)] <;> rfl) rfl hP hD hS
      · have c44 := b2i_0 c44
        have c44 := bnot_f c44
        refine lv_iload_n hx hb dX1_keeps_47 rfl (lv_at hl 0 rfl) ?_
        refine lv_goto (tgt := 52) hx hb dX1_keeps_48 (by decide) ?_
        exact hret _ _ _ _ _ _ dX1_keeps_52 (by rw [mb_held_t (mb_hb_t c32 c44)] <;> rfl) rfl hP hD hS
set_option maxHeartbeats 4000000 in
set_option maxRecDepth 100000 in
theorem cY_isLost (l : Launch) (D : va_G) (ad : Nat → Nat) (zC iC : ClassId) (M : MS) (hJ : JN M) (rr ss : Nat) (hr : rr < 10) (hs : ss < 16) : CtI l yX1_isLost cX1_isLost 4 .boolean 2 44 D (tyZ zC iC) [.ref (ad 0), .int (nI rr), .int (nI ss)] (wY ad zC iC (kY M) M) (b2i (mb_lost M rr ss)) (wY ad zC iC (kY M) M) := by
  refine CtI.mk (by decide) (b2i_nar _) (Nat.le_of_ble_eq_true rfl) ?_
  intro p e s m args below meth c A Q S hK hP hD hA hS hret ls hl
  have S : CallFix p m c cX1_isLost 4 s args lw_all RX1 := S
  have hx := S.1
  have hb := S.2.1
  have hl : lv_has ls 4 [(0, .ref (ad 0)), (1, .int (nI rr)), (2, .int (nI ss))] := hl
  obtain ⟨hk1, hk2⟩ := hJ.2.2.1 (16 * rr + ss) (by omega)
  refine lv_aload_n hx hb dX1_isLost_0 rfl (lv_at hl 0 rfl) ?_
  refine lv_iload_n hx hb dX1_isLost_1 rfl (lv_at hl 1 rfl) ?_
  refine lv_iload_n hx hb dX1_isLost_2 rfl (lv_at hl 2 rfl) ?_
  refine CtI.cV1 (rest := []) (ci := 1) (C := RX1) (T := TX1) (N := 11) (cY_keeps l D ad zC iC M hJ rr ss hr hs) S (lw_V q231 q233 qs10 q16 q234) hdX1_keeps rfl ⟨Nat.le_of_ble_eq_true rfl, Nat.le_of_ble_eq_true rfl⟩ rfl rfl hK hP hD hS hA hl.1 rfl (Nat.le_of_ble_eq_true rfl) ⟨Nat.zero_le _, Nat.zero_le _⟩ dX1_isLost_3 (fun H locs hP hD hS => ?_)
  refine lv_istore_n (lv' := [(3, .int (mb_held M rr ss)), (0, .ref (ad 0)), (1, .int (nI rr)), (2, .int (nI ss))]) hx hb dX1_isLost_6 rfl hl (by decide) rfl (fun ls hl => ?_)
  refine lv_iload_n hx hb dX1_isLost_7 rfl (lv_at hl 0 rfl) ?_
  refine lv_iconst (v := (-1)) hx hb dX1_isLost_8 (by decide) ?_
  refine lv_icmp_eq (tgt := 29) hx hb dX1_isLost_9 (by decide) (fun c9 => ?_) (fun c9 => ?_)
  · refine lv_iconst (v := 0) hx hb dX1_isLost_29 (by decide) ?_
    exact hret _ _ _ _ _ _ dX1_isLost_30 (by rw [mb_lost_1 (mb_hb_m1 hJ hr hs c9)] <;> rfl) rfl hP hD hS
  · have c9 := mb_hb_n1 c9
    rw [mb_held_t c9] at hl
    refine lv_iload_n hx hb dX1_isLost_12 rfl (lv_at hl 0 rfl) ?_
    refine lv_aload_n hx hb dX1_isLost_13 rfl (lv_at hl 1 rfl) ?_
    refine lv_iload_n hx hb dX1_isLost_14 rfl (lv_at hl 2 rfl) ?_
    refine lv_iload_n hx hb dX1_isLost_15 rfl (lv_at hl 3 rfl) ?_
    refine CtI.cV1 (rest := [.int (nI (m_kc M (16 * rr + ss)))]) (ci := 1) (C := RX1) (T := TX1) (N := 11) (cY_own l D ad zC iC M rr ss hr hs) S (lw_V q235 q237 qs11 q16 q238) hdX1_own rfl ⟨Nat.le_of_ble_eq_true rfl, Nat.le_of_ble_eq_true rfl⟩ rfl rfl hK hP hD hS hA hl.1 rfl (Nat.le_of_ble_eq_true rfl) ⟨Nat.zero_le _, Nat.zero_le _⟩ dX1_isLost_16 (fun H locs hP hD hS => ?_)
    refine CtI.cS (rest := []) (cY_isBetter l D (tyZ zC iC) (m_kc M (16 * rr + ss)) (mb_own M rr ss) hk1 (mb_own_lt hJ hr hs)) S (lw_S q240 q241 q16 q242) hdX1_isBetter rfl ⟨Nat.le_of_ble_eq_true rfl, Nat.le_of_ble_eq_true rfl⟩ hK hP hD hS hA hl.1 rfl (Nat.le_of_ble_eq_true rfl) ⟨Nat.zero_le _, Nat.zero_le _⟩ dX1_isLost_19 (fun H locs hP hD hS => ?_)
    refine lv_if_eq (tgt := 29) hx hb dX1_isLost_22 (by decide) (fun c22 => ?_) (fun c22 => ?_)
    · have c22 := b2i_0 c22
      refine lv_iconst (v := 0) hx hb dX1_isLost_29 (by decide) ?_
      exact hret _ _ _ _ _ _ dX1_isLost_30 (by rw [mb_lost_2 c9 c22] <;> rfl) rfl hP hD hS
    · have c22 := b2i_n0 c22
      refine lv_iconst (v := 1) hx hb dX1_isLost_25 (by decide) ?_
      refine lv_goto (tgt := 30) hx hb dX1_isLost_26 (by decide) ?_
      exact hret _ _ _ _ _ _ dX1_isLost_30 (by rw [mb_lost_2 c9 c22] <;> rfl) rfl hP hD hS
set_option maxHeartbeats 4000000 in
set_option maxRecDepth 100000 in
theorem cY_isSending (l : Launch) (D : va_G) (ad : Nat → Nat) (zC iC : ClassId) (M : MS) (hJ : JN M) (rr ss : Nat) (hr : rr < 10) (hs : ss < 16) : CtI l yX1_isSending cX1_isSending 3 .boolean 3 67 D (tyZ zC iC) [.ref (ad 0), .int (nI rr), .int (nI ss)] (wY ad zC iC (kY M) M) (b2i (mb_snd M rr ss)) (wY ad zC iC (kY M) M) := by
  refine CtI.mk (by decide) (b2i_nar _) (Nat.le_of_ble_eq_true rfl) ?_
  intro p e s m args below meth c A Q S hK hP hD hA hS hret ls hl
  have S : CallFix p m c cX1_isSending 3 s args lw_all RX1 := S
  have hx := S.1
  have hb := S.2.1
  have hl : lv_has ls 3 [(0, .ref (ad 0)), (1, .int (nI rr)), (2, .int (nI ss))] := hl
  refine lv_aload_n hx hb dX1_isSending_0 rfl (lv_at hl 0 rfl) ?_
  refine yg_gone S hK hP dX1_isSending_1 ?_
  refine lv_iload_n hx hb dX1_isSending_4 rfl (lv_at hl 1 rfl) ?_
  refine yl_gone (k := rr) (by omega) S hK hP dX1_isSending_5 ?_
  refine lv_if_ne (tgt := 36) hx hb dX1_isSending_6 (by decide) (fun c6 => ?_) (fun c6 => ?_)
  · have c6 := b2i_n0 c6
    have c6 := bnot_t c6
    refine lv_iconst (v := 0) hx hb dX1_isSending_36 (by decide) ?_
    exact hret _ _ _ _ _ _ dX1_isSending_37 (by rw [mb_snd_1 c6] <;> rfl) rfl hP hD hS
  · have c6 := b2i_0 c6
    have c6 := bnot_f c6
    refine lv_aload_n hx hb dX1_isSending_9 rfl (lv_at hl 0 rfl) ?_
    refine yg_fw S hK hP dX1_isSending_10 ?_
    refine lv_bipush (v := 16) hx hb dX1_isSending_13 (by decide) ?_
    refine lv_iload_n hx hb dX1_isSending_15 rfl (lv_at hl 1 rfl) ?_
    refine lv_imul hx hb dX1_isSending_16 ?_
    refine lv_iload_n hx hb dX1_isSending_17 rfl (lv_at hl 2 rfl) ?_
    refine lv_iadd hx hb dX1_isSending_18 ?_
    refine lv_tv (v := nI (16 * rr + ss)) (mb_ixY rr ss) ?_
    refine yl_fw (k := 16 * rr + ss) (by omega) S hK hP dX1_isSending_19 ?_
    refine lv_if_eq (tgt := 36) hx hb dX1_isSending_20 (by decide) (fun c20 => ?_) (fun c20 => ?_)
    · have c20 := b2i_0 c20
      refine lv_iconst (v := 0) hx hb dX1_isSending_36 (by decide) ?_
      exact hret _ _ _ _ _ _ dX1_isSending_37 (by rw [mb_snd_2 c20] <;> rfl) rfl hP hD hS
    · have c20 := b2i_n0 c20
      refine lv_aload_n hx hb dX1_isSending_23 rfl (lv_at hl 0 rfl) ?_
      refine lv_iload_n hx hb dX1_isSending_24 rfl (lv_at hl 1 rfl) ?_
      refine lv_iload_n hx hb dX1_isSending_25 rfl (lv_at hl 2 rfl) ?_
      refine CtI.cV1 (rest := []) (ci := 1) (C := RX1) (T := TX1) (N := 11) (cY_isLost l D ad zC iC M hJ rr ss hr hs) S (lw_V q227 q229 qs9 q16 q230) hdX1_isLost rfl ⟨Nat.le_of_ble_eq_true rfl, Nat.le_of_ble_eq_true rfl⟩ rfl rfl hK hP hD hS hA hl.1 rfl (Nat.le_of_ble_eq_true rfl) ⟨Nat.zero_le _, Nat.zero_le _⟩ dX1_isSending_26 (fun H locs hP hD hS => ?_)
      refine lv_if_ne (tgt := 36) hx hb dX1_isSending_29 (by decide) (fun c29 => ?_) (fun c29 => ?_)
      · have c29 := b2i_n0 c29
        refine lv_iconst (v := 0) hx hb dX1_isSending_36 (by decide) ?_
        exact hret _ _ _ _ _ _ dX1_isSending_37 (by rw [mb_snd_3 c29] <;> rfl) rfl hP hD hS
      · have c29 := b2i_0 c29
        refine lv_iconst (v := 1) hx hb dX1_isSending_32 (by decide) ?_
        refine lv_goto (tgt := 37) hx hb dX1_isSending_33 (by decide) ?_
        exact hret _ _ _ _ _ _ dX1_isSending_37 (by rw [mb_snd_t c6 c20 c29] <;> rfl) rfl hP hD hS
set_option maxHeartbeats 4000000 in
set_option maxRecDepth 100000 in
theorem cY_say (l : Launch) (D : va_G) (ad : Nat → Nat) (zC iC : ClassId) (M : MS) (rr ss : Nat) (hr : rr < 10) (hs : ss < 16) (hm : m_said M < 1024) : CtV l yX1_say cX1_say 3 1 23 D (tyZ zC iC) [.ref (ad 0), .int (nI rr), .int (nI ss)] (wY ad zC iC (kY M) M) (wY ad zC iC (kY (mb_say M rr ss)) (mb_say M rr ss)) := by
  refine CtV.mk (by decide) (Nat.le_of_ble_eq_true rfl) ?_
  intro p e s m args below meth c A Q S hK hP hD hA hS hret ls hl
  have S : CallFix p m c cX1_say 3 s args lw_all RX1 := S
  have hx := S.1
  have hb := S.2.1
  have hl : lv_has ls 3 [(0, .ref (ad 0)), (1, .int (nI rr)), (2, .int (nI ss))] := hl
  refine lv_aload_n hx hb dX1_say_0 rfl (lv_at hl 0 rfl) ?_
  refine yg_said S hK hP dX1_say_1 ?_
  refine lv_sipush (v := nI 1024) hx hb dX1_say_4 (by decide) ?_
  refine lv_icmp_ne (tgt := 11) hx hb dX1_say_7 (by decide) (fun c7 => ?_) (fun c7 => ?_)
  · have c7 : ¬ _ := fun z => c7 ((nI_eq (by omega) (by omega)).mpr z)
    refine lv_aload_n hx hb dX1_say_11 rfl (lv_at hl 0 rfl) ?_
    refine yg_row S hK hP dX1_say_12 ?_
    refine lv_aload_n hx hb dX1_say_15 rfl (lv_at hl 0 rfl) ?_
    refine yg_said S hK hP dX1_say_16 ?_
    refine lv_aload_n hx hb dX1_say_19 rfl (lv_at hl 0 rfl) ?_
    refine lv_iload_n hx hb dX1_say_20 rfl (lv_at hl 1 rfl) ?_
    refine lv_iload_n hx hb dX1_say_21 rfl (lv_at hl 2 rfl) ?_
    refine CtI.cV1 (rest := [.int (nI (m_said M)), .ref (ad 8)]) (ci := 1) (C := RX1) (T := TX1) (N := 11) (cY_own l D ad zC iC M rr ss hr hs) S (lw_V q235 q237 qs11 q16 q238) hdX1_own rfl ⟨Nat.le_of_ble_eq_true rfl, Nat.le_of_ble_eq_true rfl⟩ rfl rfl hK hP hD hS hA hl.1 rfl (Nat.le_of_ble_eq_true rfl) ⟨Nat.zero_le _, Nat.zero_le _⟩ dX1_say_22 (fun H locs hP hD hS => ?_)
    refine ys_row (k := m_said M) (by omega) S hK hP hD hS dX1_say_25 (fun H locs hP hD hS => ?_)
    refine lv_aload_n hx hb dX1_say_26 rfl (lv_at hl 0 rfl) ?_
    refine lv_dup hx hb dX1_say_27 rfl ?_
    refine yg_said S hK hP dX1_say_28 ?_
    refine lv_iconst (v := 1) hx hb dX1_say_31 (by decide) ?_
    refine lv_iadd hx hb dX1_say_32 ?_
    refine lv_tv (v := nI (m_said M + 1)) (nI_1 (m_said M)) ?_
    refine yp_said S hK hP hD hS dX1_say_33 (fun H locs hP hD hS => ?_)
    refine lv_aload_n hx hb dX1_say_36 rfl (lv_at hl 0 rfl) ?_
    refine lv_dup hx hb dX1_say_37 rfl ?_
    refine yg_all S hK hP dX1_say_38 ?_
    refine lv_iconst (v := 1) hx hb dX1_say_41 (by decide) ?_
    refine lv_iadd hx hb dX1_say_42 ?_
    refine lv_tv (v := m_all M + 1) rfl ?_
    refine yp_all S hK hP hD hS dX1_say_43 (fun H locs hP hD hS => ?_)
    exact hret _ _ _ _ _ dX1_say_46 rfl hP hD hS
  · exact absurd ((nI_eq (by omega) (by omega)).mp c7) (by omega)
set_option maxHeartbeats 4000000 in
set_option maxRecDepth 100000 in
theorem cY_hear (l : Launch) (D : va_G) (ad : Nat → Nat) (zC iC : ClassId) (M : MS) (hJ : JN M) (hm : m_said M < 1024) (rr ss : Nat) (hr : rr < 10) (hs : ss < 16) (cm : Nat) (hcm : cm < 2000000) (hcm2 : cm % 100 < 10) : CtV l yX1_hear cX1_hear 5 4 89 D (tyZ zC iC) [.ref (ad 0), .int (nI rr), .int (nI ss), .int (nI cm)] (wY ad zC iC (kY M) M) (wY ad zC iC (kY (mb_hear M rr ss cm)) (mb_hear M rr ss cm)) := by
  refine CtV.mk (by decide) (Nat.le_of_ble_eq_true rfl) ?_
  intro p e s m args below meth c A Q S hK hP hD hA hS hret ls hl
  have S : CallFix p m c cX1_hear 5 s args lw_all RX1 := S
  have hx := S.1
  have hb := S.2.1
  have hl : lv_has ls 5 [(0, .ref (ad 0)), (1, .int (nI rr)), (2, .int (nI ss)), (3, .int (nI cm))] := hl
  obtain ⟨hk1, hk2⟩ := hJ.2.2.1 (16 * rr + ss) (by omega)
  have tail : ∀ (M1 : MS) (H : Heap) (locs : List Loc) (ls : Array Slot), JN M1 → m_said M1 < 1024 → mb_h2 M1 rr ss cm = mb_hear M rr ss cm → va_P D vwCl (wY ad zC iC (kY M1) M1) H → va_D A (wY ad zC iC (kY M1) M1) → va_S A s.heap H locs → lv_has ls 5 [(0, .ref (ad 0)), (1, .int (nI rr)), (2, .int (nI ss)), (3, .int (nI cm))] → W p l e (rm_ 4 89) s m args below meth c H locs 0 0 Q (F0 m 65 ls []) := by
    intro M1 H locs ls hJ1 hm1 he1 hP hD hS hl
    refine lv_aload_n hx hb dX1_hear_65 rfl (lv_at hl 0 rfl) ?_
    refine lv_iload_n hx hb dX1_hear_66 rfl (lv_at hl 1 rfl) ?_
    refine lv_iload_n hx hb dX1_hear_67 rfl (lv_at hl 2 rfl) ?_
    refine CtI.cV1 (rest := []) (ci := 1) (C := RX1) (T := TX1) (N := 11) (cY_isSending l D ad zC iC M1 hJ1 rr ss hr hs) S (lw_V q223 q225 qs8 q16 q226) hdX1_isSending rfl ⟨Nat.le_of_ble_eq_true rfl, Nat.le_of_ble_eq_true rfl⟩ rfl rfl hK hP hD hS hA hl.1 rfl (Nat.le_of_ble_eq_true rfl) ⟨Nat.zero_le _, Nat.zero_le _⟩ dX1_hear_68 (fun H locs hP hD hS => ?_)
    refine lv_if_eq (tgt := 93) hx hb dX1_hear_71 (by decide) (fun c71 => ?_) (fun c71 => ?_)
    · have c71 := b2i_0 c71
      exact hret _ _ _ _ _ dX1_hear_93 (by rw [← he1, mb_h2_1 c71]) hP hD hS
    · have c71 := b2i_n0 c71
      refine lv_aload_n hx hb dX1_hear_74 rfl (lv_at hl 0 rfl) ?_
      refine lv_iload_n hx hb dX1_hear_75 rfl (lv_at hl 1 rfl) ?_
      refine lv_iload_n hx hb dX1_hear_76 rfl (lv_at hl 2 rfl) ?_
      refine CtI.cV1 (rest := []) (ci := 1) (C := RX1) (T := TX1) (N := 11) (cY_own l D ad zC iC M1 rr ss hr hs) S (lw_V q235 q237 qs11 q16 q238) hdX1_own rfl ⟨Nat.le_of_ble_eq_true rfl, Nat.le_of_ble_eq_true rfl⟩ rfl rfl hK hP hD hS hA hl.1 rfl (Nat.le_of_ble_eq_true rfl) ⟨Nat.zero_le _, Nat.zero_le _⟩ dX1_hear_77 (fun H locs hP hD hS => ?_)
      refine lv_iload_n hx hb dX1_hear_80 rfl (lv_at hl 3 rfl) ?_
      refine CtI.cS (rest := []) (cY_isBetter l D (tyZ zC iC) (mb_own M1 rr ss) cm (mb_own_lt hJ1 hr hs) hcm) S (lw_S q240 q241 q16 q242) hdX1_isBetter rfl ⟨Nat.le_of_ble_eq_true rfl, Nat.le_of_ble_eq_true rfl⟩ hK hP hD hS hA hl.1 rfl (Nat.le_of_ble_eq_true rfl) ⟨Nat.zero_le _, Nat.zero_le _⟩ dX1_hear_81 (fun H locs hP hD hS => ?_)
      refine lv_if_eq (tgt := 93) hx hb dX1_hear_84 (by decide) (fun c84 => ?_) (fun c84 => ?_)
      · have c84 := b2i_0 c84
        exact hret _ _ _ _ _ dX1_hear_93 (by rw [← he1, mb_h2_2 c84]) hP hD hS
      · have c84 := b2i_n0 c84
        refine lv_aload_n hx hb dX1_hear_87 rfl (lv_at hl 0 rfl) ?_
        refine lv_iload_n hx hb dX1_hear_88 rfl (lv_at hl 1 rfl) ?_
        refine lv_iload_n hx hb dX1_hear_89 rfl (lv_at hl 2 rfl) ?_
        refine CtV.cV1 (rest := []) (ci := 1) (C := RX1) (T := TX1) (N := 11) (cY_say l D ad zC iC M1 rr ss hr hs hm1) S (lw_V q243 q245 qs12 q16 q246) hdX1_say rfl ⟨Nat.le_of_ble_eq_true rfl, Nat.le_of_ble_eq_true rfl⟩ rfl rfl hK hP hD hS hA hl.1 rfl (Nat.le_of_ble_eq_true rfl) ⟨Nat.zero_le _, Nat.zero_le _⟩ dX1_hear_90 (fun H locs hP hD hS => ?_)
        exact hret _ _ _ _ _ dX1_hear_93 (by rw [← he1, mb_h2_t c71 c84]) hP hD hS
  refine lv_aload_n hx hb dX1_hear_0 rfl (lv_at hl 0 rfl) ?_
  refine lv_iload_n hx hb dX1_hear_1 rfl (lv_at hl 1 rfl) ?_
  refine lv_iload_n hx hb dX1_hear_2 rfl (lv_at hl 2 rfl) ?_
  refine CtI.cV1 (rest := []) (ci := 1) (C := RX1) (T := TX1) (N := 11) (cY_keeps l D ad zC iC M hJ rr ss hr hs) S (lw_V q231 q233 qs10 q16 q234) hdX1_keeps rfl ⟨Nat.le_of_ble_eq_true rfl, Nat.le_of_ble_eq_true rfl⟩ rfl rfl hK hP hD hS hA hl.1 rfl (Nat.le_of_ble_eq_true rfl) ⟨Nat.zero_le _, Nat.zero_le _⟩ dX1_hear_3 (fun H locs hP hD hS => ?_)
  refine lv_istore (lv' := [(4, .int (mb_held M rr ss)), (0, .ref (ad 0)), (1, .int (nI rr)), (2, .int (nI ss)), (3, .int (nI cm))]) hx hb dX1_hear_6 hl (by decide) rfl (fun ls hl => ?_)
  refine lv_iload hx hb dX1_hear_8 (lv_at hl 0 rfl) ?_
  refine lv_iconst (v := (-1)) hx hb dX1_hear_10 (by decide) ?_
  refine lv_icmp_eq (tgt := 35) hx hb dX1_hear_11 (by decide) (fun c11 => ?_) (fun c11 => ?_)
  · have hhc := mb_hc_1 (c := cm) (mb_hb_m1 hJ hr hs c11)
    refine lv_aload_n hx hb dX1_hear_35 rfl (lv_at hl 1 rfl) ?_
    refine yg_kc S hK hP dX1_hear_36 ?_
    refine lv_bipush (v := 16) hx hb dX1_hear_39 (by decide) ?_
    refine lv_iload_n hx hb dX1_hear_41 rfl (lv_at hl 2 rfl) ?_
    refine lv_imul hx hb dX1_hear_42 ?_
    refine lv_iload_n hx hb dX1_hear_43 rfl (lv_at hl 3 rfl) ?_
    refine lv_iadd hx hb dX1_hear_44 ?_
    refine lv_tv (v := nI (16 * rr + ss)) (mb_ixY rr ss) ?_
    refine lv_iload_n hx hb dX1_hear_45 rfl (lv_at hl 4 rfl) ?_
    refine ys_kc (k := 16 * rr + ss) (by omega) S hK hP hD hS dX1_hear_46 (fun H locs hP hD hS => ?_)
    refine lv_aload_n hx hb dX1_hear_47 rfl (lv_at hl 1 rfl) ?_
    refine yg_ti S hK hP dX1_hear_48 ?_
    refine lv_bipush (v := 16) hx hb dX1_hear_51 (by decide) ?_
    refine lv_iload_n hx hb dX1_hear_53 rfl (lv_at hl 2 rfl) ?_
    refine lv_imul hx hb dX1_hear_54 ?_
    refine lv_iload_n hx hb dX1_hear_55 rfl (lv_at hl 3 rfl) ?_
    refine lv_iadd hx hb dX1_hear_56 ?_
    refine lv_tv (v := nI (16 * rr + ss)) (mb_ixY rr ss) ?_
    refine lv_aload_n hx hb dX1_hear_57 rfl (lv_at hl 1 rfl) ?_
    refine yg_time S hK hP dX1_hear_58 ?_
    refine lv_bipush (v := 60) hx hb dX1_hear_61 (by decide) ?_
    refine lv_iadd hx hb dX1_hear_63 ?_
    refine lv_tv (v := nI (m_time M + 60)) (nI_add (m_time M) 60) ?_
    refine ys_ti (k := 16 * rr + ss) (by omega) S hK hP hD hS dX1_hear_64 (fun H locs hP hD hS => ?_)
    have hkk := kY_keep M (16 * rr + ss) cm (m_time M + 60) (by omega)
    exact tail (n_kt M (16 * rr + ss) cm (m_time M + 60)) _ _ _ (JN_keep (r := rr) (s := ss) hJ hcm hcm2) hm (by rw [mb_hear, mb_h1_t hhc]) (by rw [hkk]; exact hP) (by rw [hkk]; exact hD) hS (lv_sub hl [1, 2, 3, 4] rfl)
  · have c11 := mb_hb_n1 c11
    rw [mb_held_t c11] at hl
    refine lv_iload_n hx hb dX1_hear_14 rfl (lv_at hl 4 rfl) ?_
    refine lv_iload hx hb dX1_hear_15 (lv_at hl 0 rfl) ?_
    refine CtI.cS (rest := []) (cY_isBetter l D (tyZ zC iC) cm (m_kc M (16 * rr + ss)) hcm hk1) S (lw_S q240 q241 q16 q242) hdX1_isBetter rfl ⟨Nat.le_of_ble_eq_true rfl, Nat.le_of_ble_eq_true rfl⟩ hK hP hD hS hA hl.1 rfl (Nat.le_of_ble_eq_true rfl) ⟨Nat.zero_le _, Nat.zero_le _⟩ dX1_hear_17 (fun H locs hP hD hS => ?_)
    refine lv_if_ne (tgt := 35) hx hb dX1_hear_20 (by decide) (fun c20 => ?_) (fun c20 => ?_)
    · have c20 := b2i_n0 c20
      have hhc := mb_hc_2 c20
      refine lv_aload_n hx hb dX1_hear_35 rfl (lv_at hl 1 rfl) ?_
      refine yg_kc S hK hP dX1_hear_36 ?_
      refine lv_bipush (v := 16) hx hb dX1_hear_39 (by decide) ?_
      refine lv_iload_n hx hb dX1_hear_41 rfl (lv_at hl 2 rfl) ?_
      refine lv_imul hx hb dX1_hear_42 ?_
      refine lv_iload_n hx hb dX1_hear_43 rfl (lv_at hl 3 rfl) ?_
      refine lv_iadd hx hb dX1_hear_44 ?_
      refine lv_tv (v := nI (16 * rr + ss)) (mb_ixY rr ss) ?_
      refine lv_iload_n hx hb dX1_hear_45 rfl (lv_at hl 4 rfl) ?_
      refine ys_kc (k := 16 * rr + ss) (by omega) S hK hP hD hS dX1_hear_46 (fun H locs hP hD hS => ?_)
      refine lv_aload_n hx hb dX1_hear_47 rfl (lv_at hl 1 rfl) ?_
      refine yg_ti S hK hP dX1_hear_48 ?_
      refine lv_bipush (v := 16) hx hb dX1_hear_51 (by decide) ?_
      refine lv_iload_n hx hb dX1_hear_53 rfl (lv_at hl 2 rfl) ?_
      refine lv_imul hx hb dX1_hear_54 ?_
      refine lv_iload_n hx hb dX1_hear_55 rfl (lv_at hl 3 rfl) ?_
      refine lv_iadd hx hb dX1_hear_56 ?_
      refine lv_tv (v := nI (16 * rr + ss)) (mb_ixY rr ss) ?_
      refine lv_aload_n hx hb dX1_hear_57 rfl (lv_at hl 1 rfl) ?_
      refine yg_time S hK hP dX1_hear_58 ?_
      refine lv_bipush (v := 60) hx hb dX1_hear_61 (by decide) ?_
      refine lv_iadd hx hb dX1_hear_63 ?_
      refine lv_tv (v := nI (m_time M + 60)) (nI_add (m_time M) 60) ?_
      refine ys_ti (k := 16 * rr + ss) (by omega) S hK hP hD hS dX1_hear_64 (fun H locs hP hD hS => ?_)
      have hkk := kY_keep M (16 * rr + ss) cm (m_time M + 60) (by omega)
      exact tail (n_kt M (16 * rr + ss) cm (m_time M + 60)) _ _ _ (JN_keep (r := rr) (s := ss) hJ hcm hcm2) hm (by rw [mb_hear, mb_h1_t hhc]) (by rw [hkk]; exact hP) (by rw [hkk]; exact hD) hS (lv_sub hl [1, 2, 3, 4] rfl)
    · have c20 := b2i_0 c20
      refine lv_iload hx hb dX1_hear_23 (lv_at hl 0 rfl) ?_
      refine lv_bipush (v := 100) hx hb dX1_hear_25 (by decide) ?_
      refine lv_irem hx hb dX1_hear_27 (by decide) ?_
      refine lv_tv (v := nI (m_kc M (16 * rr + ss) % 100)) (mb_rem (by omega)) ?_
      refine lv_iload_n hx hb dX1_hear_28 rfl (lv_at hl 4 rfl) ?_
      refine lv_bipush (v := 100) hx hb dX1_hear_29 (by decide) ?_
      refine lv_irem hx hb dX1_hear_31 (by decide) ?_
      refine lv_tv (v := nI (cm % 100)) (mb_rem (by omega)) ?_
      refine lv_icmp_ne (tgt := 65) hx hb dX1_hear_32 (by decide) (fun c32 => ?_) (fun c32 => ?_)
      · have c32 : ¬ _ := fun z => c32 ((nI_eq (by omega) (by omega)).mpr z)
        exact tail M _ _ _ hJ hm (by rw [mb_hear, mb_h1_f (mb_hc_f c11 c20 c32)]) hP hD hS (lv_sub hl [1, 2, 3, 4] rfl)
      · have c32 := (nI_eq (by omega) (by omega)).mp c32
        have hhc := mb_hc_3 c32
        refine lv_aload_n hx hb dX1_hear_35 rfl (lv_at hl 1 rfl) ?_
        refine yg_kc S hK hP dX1_hear_36 ?_
        refine lv_bipush (v := 16) hx hb dX1_hear_39 (by decide) ?_
        refine lv_iload_n hx hb dX1_hear_41 rfl (lv_at hl 2 rfl) ?_
        refine lv_imul hx hb dX1_hear_42 ?_
        refine lv_iload_n hx hb dX1_hear_43 rfl (lv_at hl 3 rfl) ?_
        refine lv_iadd hx hb dX1_hear_44 ?_
        refine lv_tv (v := nI (16 * rr + ss)) (mb_ixY rr ss) ?_
        refine lv_iload_n hx hb dX1_hear_45 rfl (lv_at hl 4 rfl) ?_
        refine ys_kc (k := 16 * rr + ss) (by omega) S hK hP hD hS dX1_hear_46 (fun H locs hP hD hS => ?_)
        refine lv_aload_n hx hb dX1_hear_47 rfl (lv_at hl 1 rfl) ?_
        refine yg_ti S hK hP dX1_hear_48 ?_
        refine lv_bipush (v := 16) hx hb dX1_hear_51 (by decide) ?_
        refine lv_iload_n hx hb dX1_hear_53 rfl (lv_at hl 2 rfl) ?_
        refine lv_imul hx hb dX1_hear_54 ?_
        refine lv_iload_n hx hb dX1_hear_55 rfl (lv_at hl 3 rfl) ?_
        refine lv_iadd hx hb dX1_hear_56 ?_
        refine lv_tv (v := nI (16 * rr + ss)) (mb_ixY rr ss) ?_
        refine lv_aload_n hx hb dX1_hear_57 rfl (lv_at hl 1 rfl) ?_
        refine yg_time S hK hP dX1_hear_58 ?_
        refine lv_bipush (v := 60) hx hb dX1_hear_61 (by decide) ?_
        refine lv_iadd hx hb dX1_hear_63 ?_
        refine lv_tv (v := nI (m_time M + 60)) (nI_add (m_time M) 60) ?_
        refine ys_ti (k := 16 * rr + ss) (by omega) S hK hP hD hS dX1_hear_64 (fun H locs hP hD hS => ?_)
        have hkk := kY_keep M (16 * rr + ss) cm (m_time M + 60) (by omega)
        exact tail (n_kt M (16 * rr + ss) cm (m_time M + 60)) _ _ _ (JN_keep (r := rr) (s := ss) hJ hcm hcm2) hm (by rw [mb_hear, mb_h1_t hhc]) (by rw [hkk]; exact hP) (by rw [hkk]; exact hD) hS (lv_sub hl [1, 2, 3, 4] rfl)
end
section
/-! by program (gen/methods.py Ypub) -/
set_option maxHeartbeats 4000000 in
set_option maxRecDepth 100000 in
theorem cY_tick (l : Launch) (D : va_G) (ad : Nat → Nat) (zC iC : ClassId) (M : MS) (nn : Int32) : CtI l yX1_tick cX1_tick 2 .int 0 0 D (tyZ zC iC) [.ref (ad 0), .int nn] (wY ad zC iC (kY M) M) ((mo_tick M nn).1) (wY ad zC iC (kY ((mo_tick M nn).2)) ((mo_tick M nn).2)) := by
  refine CtI.mk (by decide) rfl (Nat.le_of_ble_eq_true rfl) ?_
  intro p e s m args below meth c A Q S hK hP hD hA hS hret ls hl
  have S : CallFix p m c cX1_tick 2 s args lw_all RX1 := S
  have hx := S.1
  have hb := S.2.1
  have hl : lv_has ls 2 [(0, .ref (ad 0)), (1, .int nn)] := hl
  refine lv_iload_n hx hb dX1_tick_0 rfl (lv_at hl 1 rfl) ?_
  refine lv_iconst (v := 1) hx hb dX1_tick_1 (by decide) ?_
  refine lv_icmp_lt (tgt := 22) hx hb dX1_tick_2 (by decide) (fun c2 => ?_) (fun c2 => ?_)
  · refine lv_iconst (v := (-1)) hx hb dX1_tick_22 (by decide) ?_
    exact hret _ _ _ _ _ _ dX1_tick_23 (by rw [mo_tick_f (Or.inl c2)] <;> rfl) (by rw [mo_tick_f (Or.inl c2)] <;> rfl) hP hD hS
  · refine lv_iload_n hx hb dX1_tick_5 rfl (lv_at hl 1 rfl) ?_
    refine lv_bipush (v := 100) hx hb dX1_tick_6 (by decide) ?_
    refine lv_icmp_gt (tgt := 22) hx hb dX1_tick_8 (by decide) (fun c8 => ?_) (fun c8 => ?_)
    · refine lv_iconst (v := (-1)) hx hb dX1_tick_22 (by decide) ?_
      exact hret _ _ _ _ _ _ dX1_tick_23 (by rw [mo_tick_f (Or.inr (Or.inl c8))] <;> rfl) (by rw [mo_tick_f (Or.inr (Or.inl c8))] <;> rfl) hP hD hS
    · refine lv_aload_n hx hb dX1_tick_11 rfl (lv_at hl 0 rfl) ?_
      refine yg_time S hK hP dX1_tick_12 ?_
      refine lv_iload_n hx hb dX1_tick_15 rfl (lv_at hl 1 rfl) ?_
      refine lv_iadd hx hb dX1_tick_16 ?_
      refine lv_ldc (v := 100000) hx hb S.2.2.2.1 (S.2.2.2.2 _ q196) dX1_tick_17 ?_
      refine lv_icmp_le (tgt := 24) hx hb dX1_tick_19 (by decide) (fun c19 => ?_) (fun c19 => ?_)
      · refine lv_aload_n hx hb dX1_tick_24 rfl (lv_at hl 0 rfl) ?_
        refine lv_dup hx hb dX1_tick_25 rfl ?_
        refine yg_time S hK hP dX1_tick_26 ?_
        refine lv_iload_n hx hb dX1_tick_29 rfl (lv_at hl 1 rfl) ?_
        refine lv_iadd hx hb dX1_tick_30 ?_
        refine lv_tv (v := nI (m_time M + iN nn)) (tick_n _ c2) ?_
        refine yp_time S hK hP hD hS dX1_tick_31 (fun H locs hP hD hS => ?_)
        refine lv_aload_n hx hb dX1_tick_34 rfl (lv_at hl 0 rfl) ?_
        refine yg_time S hK hP dX1_tick_35 ?_
        exact hret _ _ _ _ _ _ dX1_tick_38 (by rw [mo_tick_t c2 c8 c19] <;> rfl) (by rw [mo_tick_t c2 c8 c19] <;> rfl) hP hD hS
      · refine lv_iconst (v := (-1)) hx hb dX1_tick_22 (by decide) ?_
        exact hret _ _ _ _ _ _ dX1_tick_23 (by rw [mo_tick_f (Or.inr (Or.inr (Int32.not_le.mp c19)))] <;> rfl) (by rw [mo_tick_f (Or.inr (Or.inr (Int32.not_le.mp c19)))] <;> rfl) hP hD hS
set_option maxHeartbeats 4000000 in
set_option maxRecDepth 100000 in
theorem cY_forward (l : Launch) (D : va_G) (ad : Nat → Nat) (zC iC : ClassId) (M : MS) (rr ss : Int32) (on : Bool) : CtI l yX1_forward cX1_forward 4 .boolean 2 41 D (tyZ zC iC) [.ref (ad 0), .int rr, .int ss, .int (b2i on)] (wY ad zC iC (kY M) M) ((mo_forward M rr ss on).1) (wY ad zC iC (kY ((mo_forward M rr ss on).2)) ((mo_forward M rr ss on).2)) := by
  refine CtI.mk (by decide) (mo_forward_nar M rr ss on) (Nat.le_of_ble_eq_true rfl) ?_
  intro p e s m args below meth c A Q S hK hP hD hA hS hret ls hl
  have S : CallFix p m c cX1_forward 4 s args lw_all RX1 := S
  have hx := S.1
  have hb := S.2.1
  have hl : lv_has ls 4 [(0, .ref (ad 0)), (1, .int rr), (2, .int ss), (3, .int (b2i on))] := hl
  refine lv_iload_n hx hb dX1_forward_0 rfl (lv_at hl 1 rfl) ?_
  refine lv_iload_n hx hb dX1_forward_1 rfl (lv_at hl 2 rfl) ?_
  refine CtI.cS (rest := []) (cY_isPair l D (tyZ zC iC) rr ss) S (lw_S q201 q202 q16 q203) hdX1_isPair rfl ⟨Nat.le_of_ble_eq_true rfl, Nat.le_of_ble_eq_true rfl⟩ hK hP hD hS hA hl.1 rfl (Nat.le_of_ble_eq_true rfl) ⟨Nat.zero_le _, Nat.zero_le _⟩ dX1_forward_2 (fun H locs hP hD hS => ?_)
  refine lv_if_ne (tgt := 10) hx hb dX1_forward_5 (by decide) (fun c5 => ?_) (fun c5 => ?_)
  · have c5 := b2i_n0 c5
    obtain ⟨j, k, hj, hk, rfl, rfl⟩ := mq_pr_of c5
    refine lv_aload_n hx hb dX1_forward_10 rfl (lv_at hl 0 rfl) ?_
    refine yg_fw S hK hP dX1_forward_11 ?_
    refine lv_bipush (v := 16) hx hb dX1_forward_14 (by decide) ?_
    refine lv_iload_n hx hb dX1_forward_16 rfl (lv_at hl 1 rfl) ?_
    refine lv_imul hx hb dX1_forward_17 ?_
    refine lv_iload_n hx hb dX1_forward_18 rfl (lv_at hl 2 rfl) ?_
    refine lv_iadd hx hb dX1_forward_19 ?_
    refine lv_tv (v := nI (16 * j + k)) (mb_ixY j k) ?_
    refine lv_iload_n hx hb dX1_forward_20 rfl (lv_at hl 3 rfl) ?_
    refine ys_fw (k := 16 * j + k) (by omega) S hK hP hD hS dX1_forward_21 (fun H locs hP hD hS => ?_)
    refine lv_iconst (v := 1) hx hb dX1_forward_22 (by decide) ?_
    exact hret _ _ _ _ _ _ dX1_forward_23 (by rw [mo_forward_t hj hk] <;> rfl) (by rw [mo_forward_t hj hk] <;> rfl) hP hD hS
  · have c5 := b2i_0 c5
    refine lv_iconst (v := 0) hx hb dX1_forward_8 (by decide) ?_
    exact hret _ _ _ _ _ _ dX1_forward_9 (by rw [mo_forward_f c5] <;> rfl) (by rw [mo_forward_f c5] <;> rfl) hP hD hS
set_option maxHeartbeats 4000000 in
set_option maxRecDepth 100000 in
theorem cY_place (l : Launch) (D : va_G) (ad : Nat → Nat) (zC iC : ClassId) (M : MS) (rr ss : Int32) (bb : Bool) (far : Int32) : CtI l yX1_place cX1_place 5 .boolean 2 41 D (tyZ zC iC) [.ref (ad 0), .int rr, .int ss, .int (b2i bb), .int far] (wY ad zC iC (kY M) M) ((mo_place M rr ss bb far).1) (wY ad zC iC (kY ((mo_place M rr ss bb far).2)) ((mo_place M rr ss bb far).2)) := by
  refine CtI.mk (by decide) (mo_place_nar M rr ss bb far) (Nat.le_of_ble_eq_true rfl) ?_
  intro p e s m args below meth c A Q S hK hP hD hA hS hret ls hl
  have S : CallFix p m c cX1_place 5 s args lw_all RX1 := S
  have hx := S.1
  have hb := S.2.1
  have hl : lv_has ls 5 [(0, .ref (ad 0)), (1, .int rr), (2, .int ss), (3, .int (b2i bb)), (4, .int far)] := hl
  refine lv_iload_n hx hb dX1_place_0 rfl (lv_at hl 1 rfl) ?_
  refine lv_iload_n hx hb dX1_place_1 rfl (lv_at hl 2 rfl) ?_
  refine CtI.cS (rest := []) (cY_isPair l D (tyZ zC iC) rr ss) S (lw_S q201 q202 q16 q203) hdX1_isPair rfl ⟨Nat.le_of_ble_eq_true rfl, Nat.le_of_ble_eq_true rfl⟩ hK hP hD hS hA hl.1 rfl (Nat.le_of_ble_eq_true rfl) ⟨Nat.zero_le _, Nat.zero_le _⟩ dX1_place_2 (fun H locs hP hD hS => ?_)
  refine lv_if_eq (tgt := 21) hx hb dX1_place_5 (by decide) (fun c5 => ?_) (fun c5 => ?_)
  · have c5 := b2i_0 c5
    refine lv_iconst (v := 0) hx hb dX1_place_21 (by decide) ?_
    exact hret _ _ _ _ _ _ dX1_place_22 (by rw [mo_place_1 c5] <;> rfl) (by rw [mo_place_1 c5] <;> rfl) hP hD hS
  · have c5 := b2i_n0 c5
    obtain ⟨j, k, hj, hk, rfl, rfl⟩ := mq_pr_of c5
    refine lv_iload hx hb dX1_place_8 (lv_at hl 4 rfl) ?_
    refine lv_if_lt (tgt := 21) hx hb dX1_place_10 (by decide) (fun c10 => ?_) (fun c10 => ?_)
    · refine lv_iconst (v := 0) hx hb dX1_place_21 (by decide) ?_
      exact hret _ _ _ _ _ _ dX1_place_22 (by rw [mo_place_2 c10] <;> rfl) (by rw [mo_place_2 c10] <;> rfl) hP hD hS
    · refine lv_iload hx hb dX1_place_13 (lv_at hl 4 rfl) ?_
      refine lv_sipush (v := 9999) hx hb dX1_place_15 (by decide) ?_
      refine lv_icmp_le (tgt := 23) hx hb dX1_place_18 (by decide) (fun c18 => ?_) (fun c18 => ?_)
      · obtain ⟨ff, hff, rfl⟩ := nI_of c10
        have hf9 : ff ≤ 9999 := (nI_leI hff (by decide)).mp (show nI ff ≤ nI 9999 from c18)
        refine lv_aload_n hx hb dX1_place_23 rfl (lv_at hl 0 rfl) ?_
        refine yg_st S hK hP dX1_place_24 ?_
        refine lv_bipush (v := 16) hx hb dX1_place_27 (by decide) ?_
        refine lv_iload_n hx hb dX1_place_29 rfl (lv_at hl 1 rfl) ?_
        refine lv_imul hx hb dX1_place_30 ?_
        refine lv_iload_n hx hb dX1_place_31 rfl (lv_at hl 2 rfl) ?_
        refine lv_iadd hx hb dX1_place_32 ?_
        refine lv_tv (v := nI (16 * j + k)) (mb_ixY j k) ?_
        refine lv_iload_n hx hb dX1_place_33 rfl (lv_at hl 3 rfl) ?_
        refine ys_st (k := 16 * j + k) (by omega) S hK hP hD hS dX1_place_34 (fun H locs hP hD hS => ?_)
        refine lv_aload_n hx hb dX1_place_35 rfl (lv_at hl 0 rfl) ?_
        refine yg_di S hK hP dX1_place_36 ?_
        refine lv_bipush (v := 16) hx hb dX1_place_39 (by decide) ?_
        refine lv_iload_n hx hb dX1_place_41 rfl (lv_at hl 1 rfl) ?_
        refine lv_imul hx hb dX1_place_42 ?_
        refine lv_iload_n hx hb dX1_place_43 rfl (lv_at hl 2 rfl) ?_
        refine lv_iadd hx hb dX1_place_44 ?_
        refine lv_tv (v := nI (16 * j + k)) (mb_ixY j k) ?_
        refine lv_iload hx hb dX1_place_45 (lv_at hl 4 rfl) ?_
        refine ys_di (k := 16 * j + k) (by omega) S hK hP hD hS dX1_place_47 (fun H locs hP hD hS => ?_)
        refine lv_iconst (v := 1) hx hb dX1_place_48 (by decide) ?_
        exact hret _ _ _ _ _ _ dX1_place_49 (by rw [mo_place_t hj hk hf9] <;> rfl) (by rw [mo_place_t hj hk hf9] <;> rfl) hP hD hS
      · refine lv_iconst (v := 0) hx hb dX1_place_21 (by decide) ?_
        exact hret _ _ _ _ _ _ dX1_place_22 (by rw [mo_place_3 c18] <;> rfl) (by rw [mo_place_3 c18] <;> rfl) hP hD hS
set_option maxHeartbeats 4000000 in
set_option maxRecDepth 100000 in
theorem cY_there (l : Launch) (D : va_G) (ad : Nat → Nat) (zC iC : ClassId) (M : MS) (rr : Int32) (on : Bool) : CtI l yX1_there cX1_there 4 .boolean 1 20 D (tyZ zC iC) [.ref (ad 0), .int rr, .int (b2i on)] (wY ad zC iC (kY M) M) ((mo_there M rr on).1) (wY ad zC iC (kY ((mo_there M rr on).2)) ((mo_there M rr on).2)) := by
  refine CtI.mk (by decide) (mo_there_nar M rr on) (Nat.le_of_ble_eq_true rfl) ?_
  intro p e s m args below meth c A Q S hK hP hD hA hS hret ls hl
  have S : CallFix p m c cX1_there 4 s args lw_all RX1 := S
  have hx := S.1
  have hb := S.2.1
  have hl : lv_has ls 4 [(0, .ref (ad 0)), (1, .int rr), (2, .int (b2i on))] := hl
  refine lv_iload_n hx hb dX1_there_0 rfl (lv_at hl 1 rfl) ?_
  refine CtI.cS (rest := []) (cY_isRouter l D (tyZ zC iC) rr) S (lw_S q204 q205 q16 q206) hdX1_isRouter rfl ⟨Nat.le_of_ble_eq_true rfl, Nat.le_of_ble_eq_true rfl⟩ hK hP hD hS hA hl.1 rfl (Nat.le_of_ble_eq_true rfl) ⟨Nat.zero_le _, Nat.zero_le _⟩ dX1_there_1 (fun H locs hP hD hS => ?_)
  refine lv_if_ne (tgt := 9) hx hb dX1_there_4 (by decide) (fun c4 => ?_) (fun c4 => ?_)
  · have c4 := b2i_n0 c4
    obtain ⟨j, hj, rfl⟩ := mq_rt_of c4
    refine lv_aload_n hx hb dX1_there_9 rfl (lv_at hl 0 rfl) ?_
    refine yg_gone S hK hP dX1_there_10 ?_
    refine lv_iload_n hx hb dX1_there_13 rfl (lv_at hl 1 rfl) ?_
    refine yl_gone (k := j) (by omega) S hK hP dX1_there_14 ?_
    refine lv_if_ne (tgt := 22) hx hb dX1_there_15 (by decide) (fun c15 => ?_) (fun c15 => ?_)
    · have c15 := b2i_n0 c15
      have c15 := bnot_t c15
      refine lv_iconst (v := 0) hx hb dX1_there_22 (by decide) ?_
      refine lv_istore_n (lv' := [(3, .int 0), (0, .ref (ad 0)), (1, .int (nI j)), (2, .int (b2i on))]) hx hb dX1_there_23 rfl hl (by decide) rfl (fun ls hl => ?_)
      refine lv_aload_n hx hb dX1_there_24 rfl (lv_at hl 1 rfl) ?_
      refine yg_gone S hK hP dX1_there_25 ?_
      refine lv_iload_n hx hb dX1_there_28 rfl (lv_at hl 2 rfl) ?_
      refine lv_iload_n hx hb dX1_there_29 rfl (lv_at hl 3 rfl) ?_
      refine lv_if_ne (tgt := 37) hx hb dX1_there_30 (by decide) (fun c30 => ?_) (fun c30 => ?_)
      · have c30 := b2i_n0 c30
        subst c30
        refine lv_iconst (v := 0) hx hb dX1_there_37 (by decide) ?_
        refine lv_tv (v := b2i (!true)) rfl ?_
        refine ys_gone (k := j) (by omega) S hK hP hD hS dX1_there_38 (fun H locs hP hD hS => ?_)
        refine lv_iload_n hx hb dX1_there_39 rfl (lv_at hl 0 rfl) ?_
        exact hret _ _ _ _ _ _ dX1_there_40 (by rw [mo_there_tb hj c15] <;> rfl) (by rw [mo_there_tb hj c15] <;> rfl) hP hD hS
      · have c30 := b2i_0 c30
        subst c30
        refine lv_iconst (v := 1) hx hb dX1_there_33 (by decide) ?_
        refine lv_tv (v := b2i (!false)) rfl ?_
        refine lv_goto (tgt := 38) hx hb dX1_there_34 (by decide) ?_
        refine ys_gone (k := j) (by omega) S hK hP hD hS dX1_there_38 (fun H locs hP hD hS => ?_)
        refine lv_iload_n hx hb dX1_there_39 rfl (lv_at hl 0 rfl) ?_
        exact hret _ _ _ _ _ _ dX1_there_40 (by rw [mo_there_tb hj c15] <;> rfl) (by rw [mo_there_tb hj c15] <;> rfl) hP hD hS
    · have c15 := b2i_0 c15
      have c15 := bnot_f c15
      refine lv_iconst (v := 1) hx hb dX1_there_18 (by decide) ?_
      refine lv_goto (tgt := 23) hx hb dX1_there_19 (by decide) ?_
      refine lv_istore_n (lv' := [(3, .int 1), (0, .ref (ad 0)), (1, .int (nI j)), (2, .int (b2i on))]) hx hb dX1_there_23 rfl hl (by decide) rfl (fun ls hl => ?_)
      refine lv_aload_n hx hb dX1_there_24 rfl (lv_at hl 1 rfl) ?_
      refine yg_gone S hK hP dX1_there_25 ?_
      refine lv_iload_n hx hb dX1_there_28 rfl (lv_at hl 2 rfl) ?_
      refine lv_iload_n hx hb dX1_there_29 rfl (lv_at hl 3 rfl) ?_
      refine lv_if_ne (tgt := 37) hx hb dX1_there_30 (by decide) (fun c30 => ?_) (fun c30 => ?_)
      · have c30 := b2i_n0 c30
        subst c30
        refine lv_iconst (v := 0) hx hb dX1_there_37 (by decide) ?_
        refine lv_tv (v := b2i (!true)) rfl ?_
        refine ys_gone (k := j) (by omega) S hK hP hD hS dX1_there_38 (fun H locs hP hD hS => ?_)
        refine lv_iload_n hx hb dX1_there_39 rfl (lv_at hl 0 rfl) ?_
        exact hret _ _ _ _ _ _ dX1_there_40 (by rw [mo_there_tb hj c15] <;> rfl) (by rw [mo_there_tb hj c15] <;> rfl) hP hD hS
      · have c30 := b2i_0 c30
        subst c30
        refine lv_iconst (v := 1) hx hb dX1_there_33 (by decide) ?_
        refine lv_tv (v := b2i (!false)) rfl ?_
        refine lv_goto (tgt := 38) hx hb dX1_there_34 (by decide) ?_
        refine ys_gone (k := j) (by omega) S hK hP hD hS dX1_there_38 (fun H locs hP hD hS => ?_)
        refine lv_iload_n hx hb dX1_there_39 rfl (lv_at hl 0 rfl) ?_
        exact hret _ _ _ _ _ _ dX1_there_40 (by rw [mo_there_tb hj c15] <;> rfl) (by rw [mo_there_tb hj c15] <;> rfl) hP hD hS
  · have c4 := b2i_0 c4
    refine lv_iconst (v := 0) hx hb dX1_there_7 (by decide) ?_
    exact hret _ _ _ _ _ _ dX1_there_8 (by rw [mo_there_f c4] <;> rfl) (by rw [mo_there_f c4] <;> rfl) hP hD hS
set_option maxHeartbeats 4000000 in
set_option maxRecDepth 100000 in
theorem cY_deaf (l : Launch) (D : va_G) (ad : Nat → Nat) (zC iC : ClassId) (M : MS) (rr : Int32) (on : Bool) : CtI l yX1_deaf cX1_deaf 4 .boolean 1 20 D (tyZ zC iC) [.ref (ad 0), .int rr, .int (b2i on)] (wY ad zC iC (kY M) M) ((mo_deaf M rr on).1) (wY ad zC iC (kY ((mo_deaf M rr on).2)) ((mo_deaf M rr on).2)) := by
  refine CtI.mk (by decide) (mo_deaf_nar M rr on) (Nat.le_of_ble_eq_true rfl) ?_
  intro p e s m args below meth c A Q S hK hP hD hA hS hret ls hl
  have S : CallFix p m c cX1_deaf 4 s args lw_all RX1 := S
  have hx := S.1
  have hb := S.2.1
  have hl : lv_has ls 4 [(0, .ref (ad 0)), (1, .int rr), (2, .int (b2i on))] := hl
  refine lv_iload_n hx hb dX1_deaf_0 rfl (lv_at hl 1 rfl) ?_
  refine CtI.cS (rest := []) (cY_isRouter l D (tyZ zC iC) rr) S (lw_S q204 q205 q16 q206) hdX1_isRouter rfl ⟨Nat.le_of_ble_eq_true rfl, Nat.le_of_ble_eq_true rfl⟩ hK hP hD hS hA hl.1 rfl (Nat.le_of_ble_eq_true rfl) ⟨Nat.zero_le _, Nat.zero_le _⟩ dX1_deaf_1 (fun H locs hP hD hS => ?_)
  refine lv_if_ne (tgt := 9) hx hb dX1_deaf_4 (by decide) (fun c4 => ?_) (fun c4 => ?_)
  · have c4 := b2i_n0 c4
    obtain ⟨j, hj, rfl⟩ := mq_rt_of c4
    refine lv_aload_n hx hb dX1_deaf_9 rfl (lv_at hl 0 rfl) ?_
    refine yg_deaf S hK hP dX1_deaf_10 ?_
    refine lv_iload_n hx hb dX1_deaf_13 rfl (lv_at hl 1 rfl) ?_
    refine yl_deaf (k := j) (by omega) S hK hP dX1_deaf_14 ?_
    refine lv_istore_n (lv' := [(3, .int (b2i (m_deaf M j))), (0, .ref (ad 0)), (1, .int (nI j)), (2, .int (b2i on))]) hx hb dX1_deaf_15 rfl hl (by decide) rfl (fun ls hl => ?_)
    refine lv_aload_n hx hb dX1_deaf_16 rfl (lv_at hl 1 rfl) ?_
    refine yg_deaf S hK hP dX1_deaf_17 ?_
    refine lv_iload_n hx hb dX1_deaf_20 rfl (lv_at hl 2 rfl) ?_
    refine lv_iload_n hx hb dX1_deaf_21 rfl (lv_at hl 3 rfl) ?_
    refine ys_deaf (k := j) (by omega) S hK hP hD hS dX1_deaf_22 (fun H locs hP hD hS => ?_)
    refine lv_iload_n hx hb dX1_deaf_23 rfl (lv_at hl 0 rfl) ?_
    exact hret _ _ _ _ _ _ dX1_deaf_24 (by rw [mo_deaf_t hj] <;> rfl) (by rw [mo_deaf_t hj] <;> rfl) hP hD hS
  · have c4 := b2i_0 c4
    refine lv_iconst (v := 0) hx hb dX1_deaf_7 (by decide) ?_
    exact hret _ _ _ _ _ _ dX1_deaf_8 (by rw [mo_deaf_f c4] <;> rfl) (by rw [mo_deaf_f c4] <;> rfl) hP hD hS
set_option maxHeartbeats 4000000 in
set_option maxRecDepth 100000 in
theorem cY_said (l : Launch) (D : va_G) (ad : Nat → Nat) (zC iC : ClassId) (M : MS) (hJ : JJ M) (kk : Int32) : CtI l yX1_said cX1_said 2 .int 0 0 D (tyZ zC iC) [.ref (ad 0), .int kk] (wY ad zC iC (kY M) M) (mo_said M kk) (wY ad zC iC (kY M) M) := by
  refine CtI.mk (by decide) rfl (Nat.le_of_ble_eq_true rfl) ?_
  intro p e s m args below meth c A Q S hK hP hD hA hS hret ls hl
  have S : CallFix p m c cX1_said 2 s args lw_all RX1 := S
  have hx := S.1
  have hb := S.2.1
  have hl : lv_has ls 2 [(0, .ref (ad 0)), (1, .int kk)] := hl
  refine lv_iload_n hx hb dX1_said_0 rfl (lv_at hl 1 rfl) ?_
  refine lv_if_lt (tgt := 24) hx hb dX1_said_1 (by decide) (fun c1 => ?_) (fun c1 => ?_)
  · refine lv_iconst (v := (-1)) hx hb dX1_said_24 (by decide) ?_
    exact hret _ _ _ _ _ _ dX1_said_25 (by rw [mo_said_1 c1] <;> rfl) rfl hP hD hS
  · refine lv_iload_n hx hb dX1_said_4 rfl (lv_at hl 1 rfl) ?_
    refine lv_aload_n hx hb dX1_said_5 rfl (lv_at hl 0 rfl) ?_
    refine yg_said S hK hP dX1_said_6 ?_
    refine lv_icmp_ge (tgt := 24) hx hb dX1_said_9 (by decide) (fun c9 => ?_) (fun c9 => ?_)
    · refine lv_iconst (v := (-1)) hx hb dX1_said_24 (by decide) ?_
      exact hret _ _ _ _ _ _ dX1_said_25 (by rw [mo_said_2 c9] <;> rfl) rfl hP hD hS
    · obtain ⟨j, hj, rfl⟩ := nI_of c1
      have hjs : j < m_said M := by
        rcases Nat.lt_or_ge j (m_said M) with z | z
        · exact z
        · exact absurd (nI_le z hj) c9
      have hs := hJ.2.1
      have hrw := hJ.2.2 j hjs
      refine lv_aload_n hx hb dX1_said_12 rfl (lv_at hl 0 rfl) ?_
      refine yg_row S hK hP dX1_said_13 ?_
      refine lv_iload_n hx hb dX1_said_16 rfl (lv_at hl 1 rfl) ?_
      refine yl_row (k := j) (by omega) S hK hP dX1_said_17 ?_
      refine lv_bipush (v := 100) hx hb dX1_said_18 (by decide) ?_
      refine lv_irem hx hb dX1_said_20 (by decide) ?_
      refine lv_tv (v := nI (m_row M j % 100)) (mb_rem (by omega)) ?_
      refine lv_goto (tgt := 25) hx hb dX1_said_21 (by decide) ?_
      exact hret _ _ _ _ _ _ dX1_said_25 (by rw [mo_said_t hs hjs] <;> rfl) rfl hP hD hS
set_option maxHeartbeats 4000000 in
set_option maxRecDepth 100000 in
theorem cY_claim (l : Launch) (D : va_G) (ad : Nat → Nat) (zC iC : ClassId) (M : MS) (rr ss : Int32) : CtI l yX1_claim cX1_claim 3 .int 2 41 D (tyZ zC iC) [.ref (ad 0), .int rr, .int ss] (wY ad zC iC (kY M) M) (mo_claim M rr ss) (wY ad zC iC (kY M) M) := by
  refine CtI.mk (by decide) rfl (Nat.le_of_ble_eq_true rfl) ?_
  intro p e s m args below meth c A Q S hK hP hD hA hS hret ls hl
  have S : CallFix p m c cX1_claim 3 s args lw_all RX1 := S
  have hx := S.1
  have hb := S.2.1
  have hl : lv_has ls 3 [(0, .ref (ad 0)), (1, .int rr), (2, .int ss)] := hl
  refine lv_iload_n hx hb dX1_claim_0 rfl (lv_at hl 1 rfl) ?_
  refine lv_iload_n hx hb dX1_claim_1 rfl (lv_at hl 2 rfl) ?_
  refine CtI.cS (rest := []) (cY_isPair l D (tyZ zC iC) rr ss) S (lw_S q201 q202 q16 q203) hdX1_isPair rfl ⟨Nat.le_of_ble_eq_true rfl, Nat.le_of_ble_eq_true rfl⟩ hK hP hD hS hA hl.1 rfl (Nat.le_of_ble_eq_true rfl) ⟨Nat.zero_le _, Nat.zero_le _⟩ dX1_claim_2 (fun H locs hP hD hS => ?_)
  refine lv_if_eq (tgt := 17) hx hb dX1_claim_5 (by decide) (fun c5 => ?_) (fun c5 => ?_)
  · have c5 := b2i_0 c5
    refine lv_iconst (v := (-1)) hx hb dX1_claim_17 (by decide) ?_
    exact hret _ _ _ _ _ _ dX1_claim_18 (by rw [mo_claim_f c5] <;> rfl) rfl hP hD hS
  · have c5 := b2i_n0 c5
    obtain ⟨j, k, hj, hk, rfl, rfl⟩ := mq_pr_of c5
    refine lv_aload_n hx hb dX1_claim_8 rfl (lv_at hl 0 rfl) ?_
    refine lv_iload_n hx hb dX1_claim_9 rfl (lv_at hl 1 rfl) ?_
    refine lv_iload_n hx hb dX1_claim_10 rfl (lv_at hl 2 rfl) ?_
    refine CtI.cV1 (rest := []) (ci := 1) (C := RX1) (T := TX1) (N := 11) (cY_own l D ad zC iC M j k hj hk) S (lw_V q235 q237 qs11 q16 q238) hdX1_own rfl ⟨Nat.le_of_ble_eq_true rfl, Nat.le_of_ble_eq_true rfl⟩ rfl rfl hK hP hD hS hA hl.1 rfl (Nat.le_of_ble_eq_true rfl) ⟨Nat.zero_le _, Nat.zero_le _⟩ dX1_claim_11 (fun H locs hP hD hS => ?_)
    refine lv_goto (tgt := 18) hx hb dX1_claim_14 (by decide) ?_
    exact hret _ _ _ _ _ _ dX1_claim_18 (by rw [mo_claim_t hj hk] <;> rfl) rfl hP hD hS
set_option maxHeartbeats 4000000 in
set_option maxRecDepth 100000 in
theorem cY_kept (l : Launch) (D : va_G) (ad : Nat → Nat) (zC iC : ClassId) (M : MS) (hJ : JN M) (rr ss : Int32) : CtI l yX1_kept cX1_kept 3 .int 2 44 D (tyZ zC iC) [.ref (ad 0), .int rr, .int ss] (wY ad zC iC (kY M) M) (mo_kept M rr ss) (wY ad zC iC (kY M) M) := by
  refine CtI.mk (by decide) rfl (Nat.le_of_ble_eq_true rfl) ?_
  intro p e s m args below meth c A Q S hK hP hD hA hS hret ls hl
  have S : CallFix p m c cX1_kept 3 s args lw_all RX1 := S
  have hx := S.1
  have hb := S.2.1
  have hl : lv_has ls 3 [(0, .ref (ad 0)), (1, .int rr), (2, .int ss)] := hl
  refine lv_iload_n hx hb dX1_kept_0 rfl (lv_at hl 1 rfl) ?_
  refine lv_iload_n hx hb dX1_kept_1 rfl (lv_at hl 2 rfl) ?_
  refine CtI.cS (rest := []) (cY_isPair l D (tyZ zC iC) rr ss) S (lw_S q201 q202 q16 q203) hdX1_isPair rfl ⟨Nat.le_of_ble_eq_true rfl, Nat.le_of_ble_eq_true rfl⟩ hK hP hD hS hA hl.1 rfl (Nat.le_of_ble_eq_true rfl) ⟨Nat.zero_le _, Nat.zero_le _⟩ dX1_kept_2 (fun H locs hP hD hS => ?_)
  refine lv_if_eq (tgt := 17) hx hb dX1_kept_5 (by decide) (fun c5 => ?_) (fun c5 => ?_)
  · have c5 := b2i_0 c5
    refine lv_iconst (v := (-1)) hx hb dX1_kept_17 (by decide) ?_
    exact hret _ _ _ _ _ _ dX1_kept_18 (by rw [mo_kept_f c5] <;> rfl) rfl hP hD hS
  · have c5 := b2i_n0 c5
    obtain ⟨j, k, hj, hk, rfl, rfl⟩ := mq_pr_of c5
    refine lv_aload_n hx hb dX1_kept_8 rfl (lv_at hl 0 rfl) ?_
    refine lv_iload_n hx hb dX1_kept_9 rfl (lv_at hl 1 rfl) ?_
    refine lv_iload_n hx hb dX1_kept_10 rfl (lv_at hl 2 rfl) ?_
    refine CtI.cV1 (rest := []) (ci := 1) (C := RX1) (T := TX1) (N := 11) (cY_keeps l D ad zC iC M hJ j k hj hk) S (lw_V q231 q233 qs10 q16 q234) hdX1_keeps rfl ⟨Nat.le_of_ble_eq_true rfl, Nat.le_of_ble_eq_true rfl⟩ rfl rfl hK hP hD hS hA hl.1 rfl (Nat.le_of_ble_eq_true rfl) ⟨Nat.zero_le _, Nat.zero_le _⟩ dX1_kept_11 (fun H locs hP hD hS => ?_)
    refine lv_goto (tgt := 18) hx hb dX1_kept_14 (by decide) ?_
    exact hret _ _ _ _ _ _ dX1_kept_18 (by rw [mo_kept_t hj hk] <;> rfl) rfl hP hD hS
set_option maxHeartbeats 4000000 in
set_option maxRecDepth 100000 in
theorem cY_lost (l : Launch) (D : va_G) (ad : Nat → Nat) (zC iC : ClassId) (M : MS) (hJ : JN M) (rr ss : Int32) : CtI l yX1_lost cX1_lost 3 .boolean 3 67 D (tyZ zC iC) [.ref (ad 0), .int rr, .int ss] (wY ad zC iC (kY M) M) (b2i (mo_lost M rr ss)) (wY ad zC iC (kY M) M) := by
  refine CtI.mk (by decide) (b2i_nar _) (Nat.le_of_ble_eq_true rfl) ?_
  intro p e s m args below meth c A Q S hK hP hD hA hS hret ls hl
  have S : CallFix p m c cX1_lost 3 s args lw_all RX1 := S
  have hx := S.1
  have hb := S.2.1
  have hl : lv_has ls 3 [(0, .ref (ad 0)), (1, .int rr), (2, .int ss)] := hl
  refine lv_iload_n hx hb dX1_lost_0 rfl (lv_at hl 1 rfl) ?_
  refine lv_iload_n hx hb dX1_lost_1 rfl (lv_at hl 2 rfl) ?_
  refine CtI.cS (rest := []) (cY_isPair l D (tyZ zC iC) rr ss) S (lw_S q201 q202 q16 q203) hdX1_isPair rfl ⟨Nat.le_of_ble_eq_true rfl, Nat.le_of_ble_eq_true rfl⟩ hK hP hD hS hA hl.1 rfl (Nat.le_of_ble_eq_true rfl) ⟨Nat.zero_le _, Nat.zero_le _⟩ dX1_lost_2 (fun H locs hP hD hS => ?_)
  refine lv_if_eq (tgt := 21) hx hb dX1_lost_5 (by decide) (fun c5 => ?_) (fun c5 => ?_)
  · have c5 := b2i_0 c5
    refine lv_iconst (v := 0) hx hb dX1_lost_21 (by decide) ?_
    exact hret _ _ _ _ _ _ dX1_lost_22 (by rw [mo_lost_f c5] <;> rfl) rfl hP hD hS
  · have c5 := b2i_n0 c5
    obtain ⟨j, k, hj, hk, rfl, rfl⟩ := mq_pr_of c5
    refine lv_aload_n hx hb dX1_lost_8 rfl (lv_at hl 0 rfl) ?_
    refine lv_iload_n hx hb dX1_lost_9 rfl (lv_at hl 1 rfl) ?_
    refine lv_iload_n hx hb dX1_lost_10 rfl (lv_at hl 2 rfl) ?_
    refine CtI.cV1 (rest := []) (ci := 1) (C := RX1) (T := TX1) (N := 11) (cY_isLost l D ad zC iC M hJ j k hj hk) S (lw_V q227 q229 qs9 q16 q230) hdX1_isLost rfl ⟨Nat.le_of_ble_eq_true rfl, Nat.le_of_ble_eq_true rfl⟩ rfl rfl hK hP hD hS hA hl.1 rfl (Nat.le_of_ble_eq_true rfl) ⟨Nat.zero_le _, Nat.zero_le _⟩ dX1_lost_11 (fun H locs hP hD hS => ?_)
    refine lv_if_eq (tgt := 21) hx hb dX1_lost_14 (by decide) (fun c14 => ?_) (fun c14 => ?_)
    · have c14 := b2i_0 c14
      refine lv_iconst (v := 0) hx hb dX1_lost_21 (by decide) ?_
      exact hret _ _ _ _ _ _ dX1_lost_22 (by rw [mo_lost_t hj hk c14] <;> rfl) rfl hP hD hS
    · have c14 := b2i_n0 c14
      refine lv_iconst (v := 1) hx hb dX1_lost_17 (by decide) ?_
      refine lv_goto (tgt := 22) hx hb dX1_lost_18 (by decide) ?_
      exact hret _ _ _ _ _ _ dX1_lost_22 (by rw [mo_lost_t hj hk c14] <;> rfl) rfl hP hD hS
end
section
/-! by program (gen/loops.py Y) -/
set_option maxHeartbeats 4000000 in
set_option maxRecDepth 100000 in
theorem cY_sends (l : Launch) (D : va_G) (ad : Nat → Nat) (zC iC : ClassId) (M : MS) (hJ : JN M) (ss : Int32) : CtI l yX1_sends cX1_sends 4 .int 4 89 D (tyZ zC iC) [.ref (ad 0), .int ss] (wY ad zC iC (kY M) M) (mo_sends M ss) (wY ad zC iC (kY M) M) := by
  refine CtI.mk (by decide) rfl (Nat.le_of_ble_eq_true rfl) ?_
  intro p e s m args below meth c A Q S hK hP hD hA hS hret ls hl
  have S : CallFix p m c cX1_sends 4 s args lw_all RX1 := S
  have hx := S.1
  have hb := S.2.1
  have hl : lv_has ls 4 [(0, .ref (ad 0)), (1, .int ss)] := hl
  refine lv_iconst (v := 0) hx hb dX1_sends_0 (by decide) ?_
  refine lv_iload_n hx hb dX1_sends_1 rfl (lv_at hl 1 rfl) ?_
  refine CtI.cS (rest := []) (cY_isPair l D (tyZ zC iC) 0 ss) S (lw_S q201 q202 q16 q203) hdX1_isPair rfl ⟨Nat.le_of_ble_eq_true rfl, Nat.le_of_ble_eq_true rfl⟩ hK hP hD hS hA hl.1 rfl (Nat.le_of_ble_eq_true rfl) ⟨Nat.zero_le _, Nat.zero_le _⟩ dX1_sends_2 (fun H locs hP hD hS => ?_)
  refine lv_if_ne (tgt := 10) hx hb dX1_sends_5 (by decide) (fun c5 => ?_) (fun c5 => ?_)
  · have c5 := b2i_n0 c5
    obtain ⟨j, k, hj, hk, ej, rfl⟩ := mq_pr_of c5
    refine lv_iconst (v := 0) hx hb dX1_sends_10 (by decide) ?_
    refine lv_istore_n (lv' := [(2, .int 0), (0, .ref (ad 0)), (1, .int (nI k))]) hx hb dX1_sends_11 rfl hl (by decide) rfl (fun ls hl => ?_)
    refine lv_iconst (v := 0) hx hb dX1_sends_12 (by decide) ?_
    refine lv_istore_n (lv' := [(3, .int 0), (2, .int 0), (0, .ref (ad 0)), (1, .int (nI k))]) hx hb dX1_sends_13 rfl hl (by decide) rfl (fun ls hl => ?_)
    have loop : ∀ (n i : Nat) (H : Heap) (locs : List Loc) (ls : Array Slot), i ≤ 10 → 11 ≤ i + n → va_P D vwCl (wY ad zC iC (kY M) M) H → va_D A (wY ad zC iC (kY M) M) → va_S A s.heap H locs → lv_has ls 4 [(0, .ref (ad 0)), (1, .int (nI k)), (2, .int (nI (mb_mk (fun r => mb_snd M r k) i))), (3, .int (nI i))] → W p l e (rm_ 4 89) s m args below meth c H locs 0 0 Q (F0 m 14 ls []) := by
      intro n
      induction n with
      | zero =>
        intro i H locs ls h1 h2
        exact absurd h2 (by omega)
      | succ n ih =>
        intro i H locs ls h1 h2 hP hD hS hl
        refine lv_iload_n hx hb dX1_sends_14 rfl (lv_at hl 3 rfl) ?_
        refine lv_bipush (v := nI 10) hx hb dX1_sends_15 (by decide) ?_
        refine lv_icmp_ge (tgt := 41) hx hb dX1_sends_17 (by decide) (fun c17 => ?_) (fun c17 => ?_)
        · have c17 := (nI_leI (by omega) (by omega)).mp c17
          have hi10 : i = 10 := by omega
          subst hi10
          refine lv_iload_n hx hb dX1_sends_41 rfl (lv_at hl 2 rfl) ?_
          exact hret _ _ _ _ _ _ dX1_sends_42 (by rw [mo_sends_t hk] <;> rfl) rfl hP hD hS
        · have c17 : ¬ _ := fun z => c17 ((nI_leI (by omega) (by omega)).mpr z)
          refine lv_aload_n hx hb dX1_sends_20 rfl (lv_at hl 0 rfl) ?_
          refine lv_iload_n hx hb dX1_sends_21 rfl (lv_at hl 3 rfl) ?_
          refine lv_iload_n hx hb dX1_sends_22 rfl (lv_at hl 1 rfl) ?_
          refine CtI.cV1 (rest := []) (ci := 1) (C := RX1) (T := TX1) (N := 11) (cY_isSending l D ad zC iC M hJ i k (by omega) hk) S (lw_V q223 q225 qs8 q16 q226) hdX1_isSending rfl ⟨Nat.le_of_ble_eq_true rfl, Nat.le_of_ble_eq_true rfl⟩ rfl rfl hK hP hD hS hA hl.1 rfl (Nat.le_of_ble_eq_true rfl) ⟨Nat.zero_le _, Nat.zero_le _⟩ dX1_sends_23 (fun H locs hP hD hS => ?_)
          refine lv_if_eq (tgt := 35) hx hb dX1_sends_26 (by decide) (fun c26 => ?_) (fun c26 => ?_)
          · have c26 := b2i_0 c26
            rw [← mb_mk_f (fun r => mb_snd M r k) c26] at hl
            refine lv_iinc (v := nI (i + 1)) (lv' := [(3, .int (nI (i + 1))), (0, .ref (ad 0)), (1, .int (nI k)), (2, .int (nI (mb_mk (fun r => mb_snd M r k) (i + 1))))]) hx hb dX1_sends_35 hl (k := 3) rfl (show nI i + 1 = nI (i + 1) from nI_1 i) (by decide) rfl (fun ls hl => ?_)
            refine lv_goto (tgt := 14) hx hb dX1_sends_38 (by decide) ?_
            exact ih (i + 1) _ _ _ (by omega) (by omega) hP hD hS (lv_sub hl [1, 2, 3, 0] rfl)
          · have c26 := b2i_n0 c26
            refine lv_iload_n hx hb dX1_sends_29 rfl (lv_at hl 2 rfl) ?_
            refine lv_iconst (v := 1) hx hb dX1_sends_30 (by decide) ?_
            refine lv_iload_n hx hb dX1_sends_31 rfl (lv_at hl 3 rfl) ?_
            refine lv_ishl hx hb dX1_sends_32 ?_
            refine lv_ior hx hb dX1_sends_33 ?_
            refine lv_tv (v := nI (mb_mk (fun r => mb_snd M r k) (i + 1))) (mb_mk_t (fun r => mb_snd M r k) (by omega) c26) ?_
            refine lv_istore_n (lv' := [(2, .int (nI (mb_mk (fun r => mb_snd M r k) (i + 1)))), (0, .ref (ad 0)), (1, .int (nI k)), (3, .int (nI i))]) hx hb dX1_sends_34 rfl hl (by decide) rfl (fun ls hl => ?_)
            refine lv_iinc (v := nI (i + 1)) (lv' := [(3, .int (nI (i + 1))), (2, .int (nI (mb_mk (fun r => mb_snd M r k) (i + 1)))), (0, .ref (ad 0)), (1, .int (nI k))]) hx hb dX1_sends_35 hl (k := 3) rfl (show nI i + 1 = nI (i + 1) from nI_1 i) (by decide) rfl (fun ls hl => ?_)
            refine lv_goto (tgt := 14) hx hb dX1_sends_38 (by decide) ?_
            exact ih (i + 1) _ _ _ (by omega) (by omega) hP hD hS (lv_sub hl [2, 3, 1, 0] rfl)
    exact loop 11 0 _ _ _ (by omega) (by omega) hP hD hS (lv_sub hl [2, 3, 1, 0] rfl)
  · have c5 := b2i_0 c5
    have c5 : mq_sr ss = false := by
      cases z : mq_sr ss with
      | false => rfl
      | true => exact absurd (mq_pr_t (mq_rt_nI (j := 0) (by decide)) z) (mq_not c5)
    refine lv_iconst (v := (-1)) hx hb dX1_sends_8 (by decide) ?_
    exact hret _ _ _ _ _ _ dX1_sends_9 (by rw [mo_sends_1 c5] <;> rfl) rfl hP hD hS
set_option maxHeartbeats 4000000 in
set_option maxRecDepth 100000 in
theorem cY_look (l : Launch) (D : va_G) (ad : Nat → Nat) (zC iC : ClassId) (M : MS) (ww : Int32) : CtI l yX1_look cX1_look 5 .int 0 0 D (tyZ zC iC) [.ref (ad 0), .int ww] (wY ad zC iC (kY M) M) (mo_look M ww) (wY ad zC iC (kY M) M) := by
  refine CtI.mk (by decide) rfl (Nat.le_of_ble_eq_true rfl) ?_
  intro p e s m args below meth c A Q S hK hP hD hA hS hret ls hl
  have S : CallFix p m c cX1_look 5 s args lw_all RX1 := S
  have hx := S.1
  have hb := S.2.1
  have hl : lv_has ls 5 [(0, .ref (ad 0)), (1, .int ww)] := hl
  refine lv_iload_n hx hb dX1_look_0 rfl (lv_at hl 1 rfl) ?_
  refine lv_if_ne (tgt := 9) hx hb dX1_look_1 (by decide) (fun c1 => ?_) (fun c1 => ?_)
  · refine lv_iload_n hx hb dX1_look_9 rfl (lv_at hl 1 rfl) ?_
    refine lv_iconst (v := 3) hx hb dX1_look_10 (by decide) ?_
    refine lv_icmp_ne (tgt := 19) hx hb dX1_look_11 (by decide) (fun c11 => ?_) (fun c11 => ?_)
    · refine lv_iload_n hx hb dX1_look_19 rfl (lv_at hl 1 rfl) ?_
      refine lv_iconst (v := 1) hx hb dX1_look_20 (by decide) ?_
      refine lv_icmp_eq (tgt := 31) hx hb dX1_look_21 (by decide) (fun c21 => ?_) (fun c21 => ?_)
      · subst c21
        refine lv_iconst (v := nI 0) hx hb dX1_look_31 (by decide) ?_
        refine lv_istore_n (lv' := [(2, .int (nI 0)), (0, .ref (ad 0)), (1, .int 1)]) hx hb dX1_look_32 rfl hl (by decide) rfl (fun ls hl => ?_)
        refine lv_iconst (v := nI 0) hx hb dX1_look_33 (by decide) ?_
        refine lv_istore_n (lv' := [(3, .int (nI 0)), (2, .int (nI 0)), (0, .ref (ad 0)), (1, .int 1)]) hx hb dX1_look_34 rfl hl (by decide) rfl (fun ls hl => ?_)
        have loop : ∀ (n i : Nat) (H : Heap) (locs : List Loc) (ls : Array Slot), i ≤ 10 → 11 ≤ i + n → va_P D vwCl (wY ad zC iC (kY M) M) H → va_D A (wY ad zC iC (kY M) M) → va_S A s.heap H locs → lv_has ls 5 [(0, .ref (ad 0)), (1, .int 1), (2, .int (nI (mb_mk (m_there M) i))), (3, .int (nI i))] → W p l e (rm_ 0 0) s m args below meth c H locs 0 0 Q (F0 m 35 ls []) := by
          intro n
          induction n with
          | zero =>
            intro i H locs ls h1 h2
            exact absurd h2 (by omega)
          | succ n ih =>
            intro i H locs ls h1 h2 hP hD hS hl
            refine lv_iload_n hx hb dX1_look_35 rfl (lv_at hl 3 rfl) ?_
            refine lv_bipush (v := nI 10) hx hb dX1_look_36 (by decide) ?_
            refine lv_icmp_ge (tgt := 88) hx hb dX1_look_38 (by decide) (fun c38 => ?_) (fun c38 => ?_)
            · have c38 := (nI_leI (by omega) (by omega)).mp c38
              have hi10 : i = 10 := by omega
              subst hi10
              refine lv_iload_n hx hb dX1_look_88 rfl (lv_at hl 2 rfl) ?_
              exact hret _ _ _ _ _ _ dX1_look_89 (by rw [mo_look_1] <;> rfl) rfl hP hD hS
            · have c38 : ¬ _ := fun z => c38 ((nI_leI (by omega) (by omega)).mpr z)
              refine lv_iload_n hx hb dX1_look_41 rfl (lv_at hl 1 rfl) ?_
              refine lv_iconst (v := 1) hx hb dX1_look_42 (by decide) ?_
              refine lv_icmp_ne (tgt := 63) hx hb dX1_look_43 (by decide) (fun c43 => ?_) (fun c43 => ?_)
              · exact absurd rfl c43
              · refine lv_aload_n hx hb dX1_look_46 rfl (lv_at hl 0 rfl) ?_
                refine yg_gone S hK hP dX1_look_47 ?_
                refine lv_iload_n hx hb dX1_look_50 rfl (lv_at hl 3 rfl) ?_
                refine yl_gone (k := i) (by omega) S hK hP dX1_look_51 ?_
                refine lv_if_ne (tgt := 59) hx hb dX1_look_52 (by decide) (fun c52 => ?_) (fun c52 => ?_)
                · have c52 := b2i_n0 c52
                  have c52 := bnot_t c52
                  refine lv_iconst (v := 0) hx hb dX1_look_59 (by decide) ?_
                  refine lv_tv (v := b2i (m_there M i)) (by rw [c52]; rfl) ?_
                  refine lv_goto (tgt := 69) hx hb dX1_look_60 (by decide) ?_
                  refine lv_istore (lv' := [(4, .int (b2i (m_there M i))), (0, .ref (ad 0)), (1, .int 1), (2, .int (nI (mb_mk (m_there M) i))), (3, .int (nI i))]) hx hb dX1_look_69 hl (by decide) rfl (fun ls hl => ?_)
                  refine lv_iload hx hb dX1_look_71 (lv_at hl 0 rfl) ?_
                  refine lv_if_eq (tgt := 82) hx hb dX1_look_73 (by decide) (fun c73 => ?_) (fun c73 => ?_)
                  · have c73 := b2i_0 c73
                    rw [← mb_mk_f (m_there M) c73] at hl
                    refine lv_iinc (v := nI (i + 1)) (lv' := [(3, .int (nI (i + 1))), (4, .int (b2i (m_there M i))), (0, .ref (ad 0)), (1, .int 1), (2, .int (nI (mb_mk (m_there M) (i + 1))))]) hx hb dX1_look_82 hl (k := 4) rfl (show nI i + 1 = nI (i + 1) from nI_1 i) (by decide) rfl (fun ls hl => ?_)
                    refine lv_goto (tgt := 35) hx hb dX1_look_85 (by decide) ?_
                    exact ih (i + 1) _ _ _ (by omega) (by omega) hP hD hS (lv_sub hl [2, 3, 4, 0] rfl)
                  · have c73 := b2i_n0 c73
                    refine lv_iload_n hx hb dX1_look_76 rfl (lv_at hl 3 rfl) ?_
                    refine lv_iconst (v := 1) hx hb dX1_look_77 (by decide) ?_
                    refine lv_iload_n hx hb dX1_look_78 rfl (lv_at hl 4 rfl) ?_
                    refine lv_ishl hx hb dX1_look_79 ?_
                    refine lv_ior hx hb dX1_look_80 ?_
                    refine lv_tv (v := nI (mb_mk (m_there M) (i + 1))) (mb_mk_t (m_there M) (by omega) c73) ?_
                    refine lv_istore_n (lv' := [(2, .int (nI (mb_mk (m_there M) (i + 1)))), (4, .int (b2i (m_there M i))), (0, .ref (ad 0)), (1, .int 1), (3, .int (nI i))]) hx hb dX1_look_81 rfl hl (by decide) rfl (fun ls hl => ?_)
                    refine lv_iinc (v := nI (i + 1)) (lv' := [(3, .int (nI (i + 1))), (2, .int (nI (mb_mk (m_there M) (i + 1)))), (4, .int (b2i (m_there M i))), (0, .ref (ad 0)), (1, .int 1)]) hx hb dX1_look_82 hl (k := 4) rfl (show nI i + 1 = nI (i + 1) from nI_1 i) (by decide) rfl (fun ls hl => ?_)
                    refine lv_goto (tgt := 35) hx hb dX1_look_85 (by decide) ?_
                    exact ih (i + 1) _ _ _ (by omega) (by omega) hP hD hS (lv_sub hl [3, 4, 1, 0] rfl)
                · have c52 := b2i_0 c52
                  have c52 := bnot_f c52
                  refine lv_iconst (v := 1) hx hb dX1_look_55 (by decide) ?_
                  refine lv_tv (v := b2i (m_there M i)) (by rw [c52]; rfl) ?_
                  refine lv_goto (tgt := 69) hx hb dX1_look_56 (by decide) ?_
                  refine lv_istore (lv' := [(4, .int (b2i (m_there M i))), (0, .ref (ad 0)), (1, .int 1), (2, .int (nI (mb_mk (m_there M) i))), (3, .int (nI i))]) hx hb dX1_look_69 hl (by decide) rfl (fun ls hl => ?_)
                  refine lv_iload hx hb dX1_look_71 (lv_at hl 0 rfl) ?_
                  refine lv_if_eq (tgt := 82) hx hb dX1_look_73 (by decide) (fun c73 => ?_) (fun c73 => ?_)
                  · have c73 := b2i_0 c73
                    rw [← mb_mk_f (m_there M) c73] at hl
                    refine lv_iinc (v := nI (i + 1)) (lv' := [(3, .int (nI (i + 1))), (4, .int (b2i (m_there M i))), (0, .ref (ad 0)), (1, .int 1), (2, .int (nI (mb_mk (m_there M) (i + 1))))]) hx hb dX1_look_82 hl (k := 4) rfl (show nI i + 1 = nI (i + 1) from nI_1 i) (by decide) rfl (fun ls hl => ?_)
                    refine lv_goto (tgt := 35) hx hb dX1_look_85 (by decide) ?_
                    exact ih (i + 1) _ _ _ (by omega) (by omega) hP hD hS (lv_sub hl [2, 3, 4, 0] rfl)
                  · have c73 := b2i_n0 c73
                    refine lv_iload_n hx hb dX1_look_76 rfl (lv_at hl 3 rfl) ?_
                    refine lv_iconst (v := 1) hx hb dX1_look_77 (by decide) ?_
                    refine lv_iload_n hx hb dX1_look_78 rfl (lv_at hl 4 rfl) ?_
                    refine lv_ishl hx hb dX1_look_79 ?_
                    refine lv_ior hx hb dX1_look_80 ?_
                    refine lv_tv (v := nI (mb_mk (m_there M) (i + 1))) (mb_mk_t (m_there M) (by omega) c73) ?_
                    refine lv_istore_n (lv' := [(2, .int (nI (mb_mk (m_there M) (i + 1)))), (4, .int (b2i (m_there M i))), (0, .ref (ad 0)), (1, .int 1), (3, .int (nI i))]) hx hb dX1_look_81 rfl hl (by decide) rfl (fun ls hl => ?_)
                    refine lv_iinc (v := nI (i + 1)) (lv' := [(3, .int (nI (i + 1))), (2, .int (nI (mb_mk (m_there M) (i + 1)))), (4, .int (b2i (m_there M i))), (0, .ref (ad 0)), (1, .int 1)]) hx hb dX1_look_82 hl (k := 4) rfl (show nI i + 1 = nI (i + 1) from nI_1 i) (by decide) rfl (fun ls hl => ?_)
                    refine lv_goto (tgt := 35) hx hb dX1_look_85 (by decide) ?_
                    exact ih (i + 1) _ _ _ (by omega) (by omega) hP hD hS (lv_sub hl [3, 4, 1, 0] rfl)
        exact loop 11 0 _ _ _ (by omega) (by omega) hP hD hS (lv_sub hl [2, 3, 1, 0] rfl)
      · refine lv_iload_n hx hb dX1_look_24 rfl (lv_at hl 1 rfl) ?_
        refine lv_iconst (v := 2) hx hb dX1_look_25 (by decide) ?_
        refine lv_icmp_eq (tgt := 31) hx hb dX1_look_26 (by decide) (fun c26 => ?_) (fun c26 => ?_)
        · subst c26
          refine lv_iconst (v := nI 0) hx hb dX1_look_31 (by decide) ?_
          refine lv_istore_n (lv' := [(2, .int (nI 0)), (0, .ref (ad 0)), (1, .int 2)]) hx hb dX1_look_32 rfl hl (by decide) rfl (fun ls hl => ?_)
          refine lv_iconst (v := nI 0) hx hb dX1_look_33 (by decide) ?_
          refine lv_istore_n (lv' := [(3, .int (nI 0)), (2, .int (nI 0)), (0, .ref (ad 0)), (1, .int 2)]) hx hb dX1_look_34 rfl hl (by decide) rfl (fun ls hl => ?_)
          have loop : ∀ (n i : Nat) (H : Heap) (locs : List Loc) (ls : Array Slot), i ≤ 10 → 11 ≤ i + n → va_P D vwCl (wY ad zC iC (kY M) M) H → va_D A (wY ad zC iC (kY M) M) → va_S A s.heap H locs → lv_has ls 5 [(0, .ref (ad 0)), (1, .int 2), (2, .int (nI (mb_mk (m_deaf M) i))), (3, .int (nI i))] → W p l e (rm_ 0 0) s m args below meth c H locs 0 0 Q (F0 m 35 ls []) := by
            intro n
            induction n with
            | zero =>
              intro i H locs ls h1 h2
              exact absurd h2 (by omega)
            | succ n ih =>
              intro i H locs ls h1 h2 hP hD hS hl
              refine lv_iload_n hx hb dX1_look_35 rfl (lv_at hl 3 rfl) ?_
              refine lv_bipush (v := nI 10) hx hb dX1_look_36 (by decide) ?_
              refine lv_icmp_ge (tgt := 88) hx hb dX1_look_38 (by decide) (fun c38 => ?_) (fun c38 => ?_)
              · have c38 := (nI_leI (by omega) (by omega)).mp c38
                have hi10 : i = 10 := by omega
                subst hi10
                refine lv_iload_n hx hb dX1_look_88 rfl (lv_at hl 2 rfl) ?_
                exact hret _ _ _ _ _ _ dX1_look_89 (by rw [mo_look_2] <;> rfl) rfl hP hD hS
              · have c38 : ¬ _ := fun z => c38 ((nI_leI (by omega) (by omega)).mpr z)
                refine lv_iload_n hx hb dX1_look_41 rfl (lv_at hl 1 rfl) ?_
                refine lv_iconst (v := 1) hx hb dX1_look_42 (by decide) ?_
                refine lv_icmp_ne (tgt := 63) hx hb dX1_look_43 (by decide) (fun c43 => ?_) (fun c43 => ?_)
                · refine lv_aload_n hx hb dX1_look_63 rfl (lv_at hl 0 rfl) ?_
                  refine yg_deaf S hK hP dX1_look_64 ?_
                  refine lv_iload_n hx hb dX1_look_67 rfl (lv_at hl 3 rfl) ?_
                  refine yl_deaf (k := i) (by omega) S hK hP dX1_look_68 ?_
                  refine lv_istore (lv' := [(4, .int (b2i (m_deaf M i))), (0, .ref (ad 0)), (1, .int 2), (2, .int (nI (mb_mk (m_deaf M) i))), (3, .int (nI i))]) hx hb dX1_look_69 hl (by decide) rfl (fun ls hl => ?_)
                  refine lv_iload hx hb dX1_look_71 (lv_at hl 0 rfl) ?_
                  refine lv_if_eq (tgt := 82) hx hb dX1_look_73 (by decide) (fun c73 => ?_) (fun c73 => ?_)
                  · have c73 := b2i_0 c73
                    rw [← mb_mk_f (m_deaf M) c73] at hl
                    refine lv_iinc (v := nI (i + 1)) (lv' := [(3, .int (nI (i + 1))), (4, .int (b2i (m_deaf M i))), (0, .ref (ad 0)), (1, .int 2), (2, .int (nI (mb_mk (m_deaf M) (i + 1))))]) hx hb dX1_look_82 hl (k := 4) rfl (show nI i + 1 = nI (i + 1) from nI_1 i) (by decide) rfl (fun ls hl => ?_)
                    refine lv_goto (tgt := 35) hx hb dX1_look_85 (by decide) ?_
                    exact ih (i + 1) _ _ _ (by omega) (by omega) hP hD hS (lv_sub hl [2, 3, 4, 0] rfl)
                  · have c73 := b2i_n0 c73
                    refine lv_iload_n hx hb dX1_look_76 rfl (lv_at hl 3 rfl) ?_
                    refine lv_iconst (v := 1) hx hb dX1_look_77 (by decide) ?_
                    refine lv_iload_n hx hb dX1_look_78 rfl (lv_at hl 4 rfl) ?_
                    refine lv_ishl hx hb dX1_look_79 ?_
                    refine lv_ior hx hb dX1_look_80 ?_
                    refine lv_tv (v := nI (mb_mk (m_deaf M) (i + 1))) (mb_mk_t (m_deaf M) (by omega) c73) ?_
                    refine lv_istore_n (lv' := [(2, .int (nI (mb_mk (m_deaf M) (i + 1)))), (4, .int (b2i (m_deaf M i))), (0, .ref (ad 0)), (1, .int 2), (3, .int (nI i))]) hx hb dX1_look_81 rfl hl (by decide) rfl (fun ls hl => ?_)
                    refine lv_iinc (v := nI (i + 1)) (lv' := [(3, .int (nI (i + 1))), (2, .int (nI (mb_mk (m_deaf M) (i + 1)))), (4, .int (b2i (m_deaf M i))), (0, .ref (ad 0)), (1, .int 2)]) hx hb dX1_look_82 hl (k := 4) rfl (show nI i + 1 = nI (i + 1) from nI_1 i) (by decide) rfl (fun ls hl => ?_)
                    refine lv_goto (tgt := 35) hx hb dX1_look_85 (by decide) ?_
                    exact ih (i + 1) _ _ _ (by omega) (by omega) hP hD hS (lv_sub hl [3, 4, 1, 0] rfl)
                · exact absurd c43 (by decide)
          exact loop 11 0 _ _ _ (by omega) (by omega) hP hD hS (lv_sub hl [2, 3, 1, 0] rfl)
        · refine lv_iconst (v := (-1)) hx hb dX1_look_29 (by decide) ?_
          exact hret _ _ _ _ _ _ dX1_look_30 (by rw [mo_look_n c1 c21 c26 c11] <;> rfl) rfl hP hD hS
    · subst c11
      refine lv_aload_n hx hb dX1_look_14 rfl (lv_at hl 0 rfl) ?_
      refine yg_all S hK hP dX1_look_15 ?_
      exact hret _ _ _ _ _ _ dX1_look_18 (by rw [mo_look_3] <;> rfl) rfl hP hD hS
  · subst c1
    refine lv_aload_n hx hb dX1_look_4 rfl (lv_at hl 0 rfl) ?_
    refine yg_time S hK hP dX1_look_5 ?_
    exact hret _ _ _ _ _ _ dX1_look_8 (by rw [mo_look_0] <;> rfl) rfl hP hD hS
set_option maxHeartbeats 4000000 in
set_option maxRecDepth 100000 in
theorem cY_data (l : Launch) (D : va_G) (ad : Nat → Nat) (zC iC : ClassId) (M : MS) (hJ : JN M) (rr ss : Int32) : CtI l yX1_data cX1_data 5 .int 5 113 D (tyZ zC iC) [.ref (ad 0), .int rr, .int ss] (wY ad zC iC (kY M) M) ((mo_data M rr ss).1) (wY ad zC iC (kY ((mo_data M rr ss).2)) ((mo_data M rr ss).2)) := by
  refine CtI.mk (by decide) rfl (Nat.le_of_ble_eq_true rfl) ?_
  intro p e s m args below meth c A Q S hK hP hD hA hS hret ls hl
  have S : CallFix p m c cX1_data 5 s args lw_all RX1 := S
  have hx := S.1
  have hb := S.2.1
  have hl : lv_has ls 5 [(0, .ref (ad 0)), (1, .int rr), (2, .int ss)] := hl
  refine lv_iload_n hx hb dX1_data_0 rfl (lv_at hl 1 rfl) ?_
  refine lv_iload_n hx hb dX1_data_1 rfl (lv_at hl 2 rfl) ?_
  refine CtI.cS (rest := []) (cY_isPair l D (tyZ zC iC) rr ss) S (lw_S q201 q202 q16 q203) hdX1_isPair rfl ⟨Nat.le_of_ble_eq_true rfl, Nat.le_of_ble_eq_true rfl⟩ hK hP hD hS hA hl.1 rfl (Nat.le_of_ble_eq_true rfl) ⟨Nat.zero_le _, Nat.zero_le _⟩ dX1_data_2 (fun H locs hP hD hS => ?_)
  refine lv_if_eq (tgt := 17) hx hb dX1_data_5 (by decide) (fun c5 => ?_) (fun c5 => ?_)
  · have c5 := b2i_0 c5
    refine lv_iconst (v := (-1)) hx hb dX1_data_17 (by decide) ?_
    exact hret _ _ _ _ _ _ dX1_data_18 (by rw [mo_data_1 c5] <;> rfl) (by rw [mo_data_1 c5] <;> rfl) hP hD hS
  · have c5 := b2i_n0 c5
    obtain ⟨j, k, hj, hk, rfl, rfl⟩ := mq_pr_of c5
    refine lv_aload_n hx hb dX1_data_8 rfl (lv_at hl 0 rfl) ?_
    refine yg_gone S hK hP dX1_data_9 ?_
    refine lv_iload_n hx hb dX1_data_12 rfl (lv_at hl 1 rfl) ?_
    refine yl_gone (k := j) (by omega) S hK hP dX1_data_13 ?_
    refine lv_if_eq (tgt := 19) hx hb dX1_data_14 (by decide) (fun c14 => ?_) (fun c14 => ?_)
    · have c14 := b2i_0 c14
      have hth := bnot_f c14
      refine lv_aload_n hx hb dX1_data_19 rfl (lv_at hl 0 rfl) ?_
      refine lv_iconst (v := nI 0) hx hb dX1_data_20 (by decide) ?_
      refine yp_said S hK hP hD hS dX1_data_21 (fun H locs hP hD hS => ?_)
      refine lv_iconst (v := nI 0) hx hb dX1_data_24 (by decide) ?_
      refine lv_istore_n (lv' := [(3, .int (nI 0)), (0, .ref (ad 0)), (1, .int (nI j)), (2, .int (nI k))]) hx hb dX1_data_25 rfl hl (by decide) rfl (fun ls hl => ?_)
      have loop2 : ∀ (f q : Nat) (Mq : MS) (H : Heap) (locs : List Loc) (ls : Array Slot), IO M k q Mq → 1024 ≤ q + f → mb_loop k f q Mq = mb_data M j k → va_P D vwCl (wY ad zC iC (kY Mq) Mq) H → va_D A (wY ad zC iC (kY Mq) Mq) → va_S A s.heap H locs → lv_has ls 5 [(0, .ref (ad 0)), (1, .int (nI j)), (2, .int (nI k)), (3, .int (nI q))] → W p l e (rm_ 5 113) s m args below meth c H locs 0 0 Q (F0 m 69 ls []) := by
        intro f
        induction f with
        | zero =>
          intro q Mq H locs ls hIO h2
          have a1 := IO_said hIO
          have a2 := hIO.2.2.2.1
          exact absurd h2 (by omega)
        | succ f ih2 =>
          intro q Mq H locs ls hIO h2 hfin hP hD hS hl
          have hsq := IO_said hIO
          have hqs := hIO.2.2.2.1
          refine lv_iload_n hx hb dX1_data_69 rfl (lv_at hl 3 rfl) ?_
          refine lv_aload_n hx hb dX1_data_70 rfl (lv_at hl 0 rfl) ?_
          refine yg_said S hK hP dX1_data_71 ?_
          refine lv_icmp_ge (tgt := 146) hx hb dX1_data_74 (by decide) (fun c74 => ?_) (fun c74 => ?_)
          · have c74 := (nI_leI (by omega) (by omega)).mp c74
            rw [mb_loop_f (by omega)] at hfin
            refine lv_aload_n hx hb dX1_data_146 rfl (lv_at hl 0 rfl) ?_
            refine yg_said S hK hP dX1_data_147 ?_
            exact hret _ _ _ _ _ _ dX1_data_150 (by rw [mo_data_t hj hk hth, ← hfin] <;> rfl) (by rw [mo_data_t hj hk hth, ← hfin] <;> rfl) hP hD hS
          · have c74 : ¬ _ := fun z => c74 ((nI_leI (by omega) (by omega)).mpr z)
            have hq : q < m_said Mq := by omega
            have hcm := rows_c hIO.1 hk hIO.2.1 hIO.2.2.1 hq
            refine lv_iconst (v := nI 0) hx hb dX1_data_77 (by decide) ?_
            refine lv_istore (lv' := [(4, .int (nI 0)), (0, .ref (ad 0)), (1, .int (nI j)), (2, .int (nI k)), (3, .int (nI q))]) hx hb dX1_data_78 hl (by decide) rfl (fun ls hl => ?_)
            have inner : ∀ (n i : Nat) (Mi : MS) (H : Heap) (locs : List Loc) (ls : Array Slot), i ≤ 10 → 11 ≤ i + n → Mi = mb_inner Mq k (m_row Mq q) i → va_P D vwCl (wY ad zC iC (kY Mi) Mi) H → va_D A (wY ad zC iC (kY Mi) Mi) → va_S A s.heap H locs → lv_has ls 5 [(0, .ref (ad 0)), (1, .int (nI j)), (2, .int (nI k)), (3, .int (nI q)), (4, .int (nI i))] → W p l e (rm_ 5 113) s m args below meth c H locs 0 0 Q (F0 m 80 ls []) := by
              intro n
              induction n with
              | zero =>
                intro i Mi H locs ls h1 h2
                exact absurd h2 (by omega)
              | succ n ih =>
                intro i Mi H locs ls h1 h2 eMi hP hD hS hl
                have hII : II M k q (m_row Mq q) i Mi := by rw [eMi]; exact mb_inner_II hk hIO hq i h1
                have hJi := hII.1
                have hsi := II_said hII h1
                have hrow : m_row Mi q = (m_row Mq q) := hII.2.2.2.2.1
                refine lv_iload hx hb dX1_data_80 (lv_at hl 4 rfl) ?_
                refine lv_bipush (v := nI 10) hx hb dX1_data_82 (by decide) ?_
                refine lv_icmp_ge (tgt := 140) hx hb dX1_data_84 (by decide) (fun c84 => ?_) (fun c84 => ?_)
                · have c84 := (nI_leI (by omega) (by omega)).mp c84
                  have hi10 : i = 10 := by omega
                  subst hi10
                  refine lv_iinc (v := nI (q + 1)) (lv' := [(3, .int (nI (q + 1))), (0, .ref (ad 0)), (1, .int (nI j)), (2, .int (nI k)), (4, .int (nI 10))]) hx hb dX1_data_140 hl (k := 3) rfl (show nI q + 1 = nI (q + 1) from nI_1 q) (by decide) rfl (fun ls hl => ?_)
                  refine lv_goto (tgt := 69) hx hb dX1_data_143 (by decide) ?_
                  exact ih2 (q + 1) Mi _ _ _ (by rw [eMi]; exact mb_inner_IO hk hIO hq) (by omega) (by rw [← hfin, mb_loop_t hq, eMi]) hP hD hS (lv_sub hl [1, 2, 3, 0] rfl)
                · have c84 : ¬ _ := fun z => c84 ((nI_leI (by omega) (by omega)).mpr z)
                  refine lv_iload hx hb dX1_data_87 (lv_at hl 4 rfl) ?_
                  refine lv_aload_n hx hb dX1_data_89 rfl (lv_at hl 0 rfl) ?_
                  refine yg_row S hK hP dX1_data_90 ?_
                  refine lv_iload_n hx hb dX1_data_93 rfl (lv_at hl 3 rfl) ?_
                  refine yl_row (k := q) (by omega) S hK hP dX1_data_94 ?_
                  refine lv_tv (v := nI (m_row Mq q)) (by rw [hrow]) ?_
                  refine lv_bipush (v := 100) hx hb dX1_data_95 (by decide) ?_
                  refine lv_irem hx hb dX1_data_97 (by decide) ?_
                  refine lv_tv (v := nI ((m_row Mq q) % 100)) (mb_rem (by omega)) ?_
                  refine lv_icmp_eq (tgt := 134) hx hb dX1_data_98 (by decide) (fun c98 => ?_) (fun c98 => ?_)
                  · have c98 := (nI_eq (by omega) (by omega)).mp c98
                    have hst : mb_inner Mq k (m_row Mq q) (i + 1) = Mi := by rw [mb_inner_f (by rw [← eMi]; exact fun z => z.1 c98), eMi]
                    refine lv_iinc (v := nI (i + 1)) (lv' := [(4, .int (nI (i + 1))), (0, .ref (ad 0)), (1, .int (nI j)), (2, .int (nI k)), (3, .int (nI q))]) hx hb dX1_data_134 hl (k := 4) rfl (show nI i + 1 = nI (i + 1) from nI_1 i) (by decide) rfl (fun ls hl => ?_)
                    refine lv_goto (tgt := 80) hx hb dX1_data_137 (by decide) ?_
                    exact ih (i + 1) _ _ _ _ (by omega) (by omega) (by rw [hst]) hP hD hS (lv_sub hl [1, 2, 3, 4, 0] rfl)
                  · have c98 : ¬ _ := fun z => c98 ((nI_eq (by omega) (by omega)).mpr z)
                    refine lv_aload_n hx hb dX1_data_101 rfl (lv_at hl 0 rfl) ?_
                    refine yg_gone S hK hP dX1_data_102 ?_
                    refine lv_iload hx hb dX1_data_105 (lv_at hl 4 rfl) ?_
                    refine yl_gone (k := i) (by omega) S hK hP dX1_data_107 ?_
                    refine lv_if_ne (tgt := 134) hx hb dX1_data_108 (by decide) (fun c108 => ?_) (fun c108 => ?_)
                    · have c108 := b2i_n0 c108
                      have c108 := bnot_t c108
                      have hst : mb_inner Mq k (m_row Mq q) (i + 1) = Mi := by rw [mb_inner_f (by rw [← eMi]; exact fun z => mq_not (mb_lis_1 c108) z.2), eMi]
                      refine lv_iinc (v := nI (i + 1)) (lv' := [(4, .int (nI (i + 1))), (0, .ref (ad 0)), (1, .int (nI j)), (2, .int (nI k)), (3, .int (nI q))]) hx hb dX1_data_134 hl (k := 4) rfl (show nI i + 1 = nI (i + 1) from nI_1 i) (by decide) rfl (fun ls hl => ?_)
                      refine lv_goto (tgt := 80) hx hb dX1_data_137 (by decide) ?_
                      exact ih (i + 1) _ _ _ _ (by omega) (by omega) (by rw [hst]) hP hD hS (lv_sub hl [1, 2, 3, 4, 0] rfl)
                    · have c108 := b2i_0 c108
                      have c108 := bnot_f c108
                      refine lv_aload_n hx hb dX1_data_111 rfl (lv_at hl 0 rfl) ?_
                      refine yg_deaf S hK hP dX1_data_112 ?_
                      refine lv_iload hx hb dX1_data_115 (lv_at hl 4 rfl) ?_
                      refine yl_deaf (k := i) (by omega) S hK hP dX1_data_117 ?_
                      refine lv_if_ne (tgt := 134) hx hb dX1_data_118 (by decide) (fun c118 => ?_) (fun c118 => ?_)
                      · have c118 := b2i_n0 c118
                        have hst : mb_inner Mq k (m_row Mq q) (i + 1) = Mi := by rw [mb_inner_f (by rw [← eMi]; exact fun z => mq_not (mb_lis_2 c118) z.2), eMi]
                        refine lv_iinc (v := nI (i + 1)) (lv' := [(4, .int (nI (i + 1))), (0, .ref (ad 0)), (1, .int (nI j)), (2, .int (nI k)), (3, .int (nI q))]) hx hb dX1_data_134 hl (k := 4) rfl (show nI i + 1 = nI (i + 1) from nI_1 i) (by decide) rfl (fun ls hl => ?_)
                        refine lv_goto (tgt := 80) hx hb dX1_data_137 (by decide) ?_
                        exact ih (i + 1) _ _ _ _ (by omega) (by omega) (by rw [hst]) hP hD hS (lv_sub hl [1, 2, 3, 4, 0] rfl)
                      · have c118 := b2i_0 c118
                        refine lv_aload_n hx hb dX1_data_121 rfl (lv_at hl 0 rfl) ?_
                        refine lv_iload hx hb dX1_data_122 (lv_at hl 4 rfl) ?_
                        refine lv_iload_n hx hb dX1_data_124 rfl (lv_at hl 2 rfl) ?_
                        refine lv_aload_n hx hb dX1_data_125 rfl (lv_at hl 0 rfl) ?_
                        refine yg_row S hK hP dX1_data_126 ?_
                        refine lv_iload_n hx hb dX1_data_129 rfl (lv_at hl 3 rfl) ?_
                        refine yl_row (k := q) (by omega) S hK hP dX1_data_130 ?_
                        refine lv_tv (v := nI (m_row Mq q)) (by rw [hrow]) ?_
                        refine CtV.cV1 (rest := []) (ci := 1) (C := RX1) (T := TX1) (N := 11) (cY_hear l D ad zC iC Mi hJi (by omega) i k (by omega) hk (m_row Mq q) hcm.1 hcm.2) S (lw_V q247 q249 qs13 q16 q250) hdX1_hear rfl ⟨Nat.le_of_ble_eq_true rfl, Nat.le_of_ble_eq_true rfl⟩ rfl rfl hK hP hD hS hA hl.1 rfl (Nat.le_of_ble_eq_true rfl) ⟨Nat.zero_le _, Nat.zero_le _⟩ dX1_data_131 (fun H locs hP hD hS => ?_)
                        have hst : mb_inner Mq k (m_row Mq q) (i + 1) = mb_hear Mi i k (m_row Mq q) := by rw [mb_inner_t c98 (by rw [← eMi]; exact (mb_lis_t c108 c118)), ← eMi]
                        refine lv_iinc (v := nI (i + 1)) (lv' := [(4, .int (nI (i + 1))), (0, .ref (ad 0)), (1, .int (nI j)), (2, .int (nI k)), (3, .int (nI q))]) hx hb dX1_data_134 hl (k := 4) rfl (show nI i + 1 = nI (i + 1) from nI_1 i) (by decide) rfl (fun ls hl => ?_)
                        refine lv_goto (tgt := 80) hx hb dX1_data_137 (by decide) ?_
                        exact ih (i + 1) _ _ _ _ (by omega) (by omega) (by rw [hst]) hP hD hS (lv_sub hl [1, 2, 3, 4, 0] rfl)
            exact inner 11 0 Mq _ _ _ (by omega) (by omega) rfl hP hD hS (lv_sub hl [1, 2, 3, 4, 0] rfl)
      have loop1 : ∀ (n i : Nat) (Mi : MS) (H : Heap) (locs : List Loc) (ls : Array Slot), i ≤ 10 → 11 ≤ i + n → Mi = mb_first (n_said M 0) j k i → va_P D vwCl (wY ad zC iC (kY Mi) Mi) H → va_D A (wY ad zC iC (kY Mi) Mi) → va_S A s.heap H locs → lv_has ls 5 [(0, .ref (ad 0)), (1, .int (nI j)), (2, .int (nI k)), (3, .int (nI i))] → W p l e (rm_ 5 113) s m args below meth c H locs 0 0 Q (F0 m 26 ls []) := by
        intro n
        induction n with
        | zero =>
          intro i Mi H locs ls h1 h2
          exact absurd h2 (by omega)
        | succ n ih =>
          intro i Mi H locs ls h1 h2 eMi hP hD hS hl
          have hIF : IF M k i Mi := by rw [eMi]; exact mb_first_IF hk hJ i h1
          have hJi := hIF.1
          have hsi := IF_said hIF h1
          refine lv_iload_n hx hb dX1_data_26 rfl (lv_at hl 3 rfl) ?_
          refine lv_bipush (v := nI 10) hx hb dX1_data_27 (by decide) ?_
          refine lv_icmp_ge (tgt := 67) hx hb dX1_data_29 (by decide) (fun c29 => ?_) (fun c29 => ?_)
          · have c29 := (nI_leI (by omega) (by omega)).mp c29
            have hi10 : i = 10 := by omega
            subst hi10
            refine lv_iconst (v := nI 0) hx hb dX1_data_67 (by decide) ?_
            refine lv_istore_n (lv' := [(3, .int (nI 0)), (0, .ref (ad 0)), (1, .int (nI j)), (2, .int (nI k))]) hx hb dX1_data_68 rfl hl (by decide) rfl (fun ls hl => ?_)
            exact loop2 1024 0 Mi _ _ _ (by rw [eMi]; exact IF_out (mb_first_IF hk hJ 10 (Nat.le_refl _))) (by omega) (by rw [eMi]; rfl) hP hD hS (lv_sub hl [1, 2, 3, 0] rfl)
          · have c29 : ¬ _ := fun z => c29 ((nI_leI (by omega) (by omega)).mpr z)
            refine lv_iload_n hx hb dX1_data_32 rfl (lv_at hl 3 rfl) ?_
            refine lv_iload_n hx hb dX1_data_33 rfl (lv_at hl 1 rfl) ?_
            refine lv_icmp_eq (tgt := 61) hx hb dX1_data_34 (by decide) (fun c34 => ?_) (fun c34 => ?_)
            · have c34 := (nI_eq (by omega) (by omega)).mp c34
              have hst : mb_first (n_said M 0) j k (i + 1) = Mi := by rw [mb_first_f (by rw [← eMi]; exact fun z => z.1 c34), eMi]
              refine lv_iinc (v := nI (i + 1)) (lv' := [(3, .int (nI (i + 1))), (0, .ref (ad 0)), (1, .int (nI j)), (2, .int (nI k))]) hx hb dX1_data_61 hl (k := 3) rfl (show nI i + 1 = nI (i + 1) from nI_1 i) (by decide) rfl (fun ls hl => ?_)
              refine lv_goto (tgt := 26) hx hb dX1_data_64 (by decide) ?_
              exact ih (i + 1) _ _ _ _ (by omega) (by omega) (by rw [hst]) hP hD hS (lv_sub hl [1, 2, 3, 0] rfl)
            · have c34 : ¬ _ := fun z => c34 ((nI_eq (by omega) (by omega)).mpr z)
              refine lv_aload_n hx hb dX1_data_37 rfl (lv_at hl 0 rfl) ?_
              refine yg_deaf S hK hP dX1_data_38 ?_
              refine lv_iload_n hx hb dX1_data_41 rfl (lv_at hl 3 rfl) ?_
              refine yl_deaf (k := i) (by omega) S hK hP dX1_data_42 ?_
              refine lv_if_ne (tgt := 61) hx hb dX1_data_43 (by decide) (fun c43 => ?_) (fun c43 => ?_)
              · have c43 := b2i_n0 c43
                have hst : mb_first (n_said M 0) j k (i + 1) = Mi := by rw [mb_first_f (by rw [← eMi]; exact fun z => mq_not (mb_lis_2 c43) z.2.1), eMi]
                refine lv_iinc (v := nI (i + 1)) (lv' := [(3, .int (nI (i + 1))), (0, .ref (ad 0)), (1, .int (nI j)), (2, .int (nI k))]) hx hb dX1_data_61 hl (k := 3) rfl (show nI i + 1 = nI (i + 1) from nI_1 i) (by decide) rfl (fun ls hl => ?_)
                refine lv_goto (tgt := 26) hx hb dX1_data_64 (by decide) ?_
                exact ih (i + 1) _ _ _ _ (by omega) (by omega) (by rw [hst]) hP hD hS (lv_sub hl [1, 2, 3, 0] rfl)
              · have c43 := b2i_0 c43
                refine lv_aload_n hx hb dX1_data_46 rfl (lv_at hl 0 rfl) ?_
                refine lv_iload_n hx hb dX1_data_47 rfl (lv_at hl 3 rfl) ?_
                refine lv_iload_n hx hb dX1_data_48 rfl (lv_at hl 2 rfl) ?_
                refine CtI.cV1 (rest := []) (ci := 1) (C := RX1) (T := TX1) (N := 11) (cY_isSending l D ad zC iC Mi hJi i k (by omega) hk) S (lw_V q223 q225 qs8 q16 q226) hdX1_isSending rfl ⟨Nat.le_of_ble_eq_true rfl, Nat.le_of_ble_eq_true rfl⟩ rfl rfl hK hP hD hS hA hl.1 rfl (Nat.le_of_ble_eq_true rfl) ⟨Nat.zero_le _, Nat.zero_le _⟩ dX1_data_49 (fun H locs hP hD hS => ?_)
                refine lv_if_eq (tgt := 61) hx hb dX1_data_52 (by decide) (fun c52 => ?_) (fun c52 => ?_)
                · have c52 := b2i_0 c52
                  have hst : mb_first (n_said M 0) j k (i + 1) = Mi := by rw [mb_first_f (by rw [← eMi]; exact fun z => mq_not c52 z.2.2), eMi]
                  refine lv_iinc (v := nI (i + 1)) (lv' := [(3, .int (nI (i + 1))), (0, .ref (ad 0)), (1, .int (nI j)), (2, .int (nI k))]) hx hb dX1_data_61 hl (k := 3) rfl (show nI i + 1 = nI (i + 1) from nI_1 i) (by decide) rfl (fun ls hl => ?_)
                  refine lv_goto (tgt := 26) hx hb dX1_data_64 (by decide) ?_
                  exact ih (i + 1) _ _ _ _ (by omega) (by omega) (by rw [hst]) hP hD hS (lv_sub hl [1, 2, 3, 0] rfl)
                · have c52 := b2i_n0 c52
                  refine lv_aload_n hx hb dX1_data_55 rfl (lv_at hl 0 rfl) ?_
                  refine lv_iload_n hx hb dX1_data_56 rfl (lv_at hl 3 rfl) ?_
                  refine lv_iload_n hx hb dX1_data_57 rfl (lv_at hl 2 rfl) ?_
                  refine CtV.cV1 (rest := []) (ci := 1) (C := RX1) (T := TX1) (N := 11) (cY_say l D ad zC iC Mi i k (by omega) hk (by omega)) S (lw_V q243 q245 qs12 q16 q246) hdX1_say rfl ⟨Nat.le_of_ble_eq_true rfl, Nat.le_of_ble_eq_true rfl⟩ rfl rfl hK hP hD hS hA hl.1 rfl (Nat.le_of_ble_eq_true rfl) ⟨Nat.zero_le _, Nat.zero_le _⟩ dX1_data_58 (fun H locs hP hD hS => ?_)
                  have hst : mb_first (n_said M 0) j k (i + 1) = mb_say Mi i k := by rw [mb_first_t c34 (by rw [← eMi]; exact (mb_lis_t (mb_snd_there c52) c43)) (by rw [← eMi]; exact c52), ← eMi]
                  refine lv_iinc (v := nI (i + 1)) (lv' := [(3, .int (nI (i + 1))), (0, .ref (ad 0)), (1, .int (nI j)), (2, .int (nI k))]) hx hb dX1_data_61 hl (k := 3) rfl (show nI i + 1 = nI (i + 1) from nI_1 i) (by decide) rfl (fun ls hl => ?_)
                  refine lv_goto (tgt := 26) hx hb dX1_data_64 (by decide) ?_
                  exact ih (i + 1) _ _ _ _ (by omega) (by omega) (by rw [hst]) hP hD hS (lv_sub hl [1, 2, 3, 0] rfl)
      exact loop1 11 0 (n_said M 0) _ _ _ (by omega) (by omega) rfl hP hD hS (lv_sub hl [1, 2, 3, 0] rfl)
    · have c14 := b2i_n0 c14
      have c14 := bnot_t c14
      refine lv_iconst (v := (-1)) hx hb dX1_data_17 (by decide) ?_
      exact hret _ _ _ _ _ _ dX1_data_18 (by rw [mo_data_2 hj c14] <;> rfl) (by rw [mo_data_2 hj c14] <;> rfl) hP hD hS
end
section
/-! the two constructors (gen/inits.py): new worlds at addresses that come with the answer -/
def M0_ : MS := (0, 0, 0, fun _ => true, fun _ => false, fun _ => false, fun _ => false, fun _ => 0, fun _ => 0, fun _ => 0, fun _ => 0)
def ad7 (a0 a1 a2 a3 a4 a5 a6 : Nat) : Nat → Nat := fun k => match k with
  | 0 => a0
  | 1 => a1
  | 2 => a2
  | 3 => a3
  | 4 => a4
  | 5 => a5
  | _ => a6
def ad9 (a0 a1 a2 a3 a4 a5 a6 a7 a8 : Nat) : Nat → Nat := fun k => match k with
  | 0 => a0
  | 1 => a1
  | 2 => a2
  | 3 => a3
  | 4 => a4
  | 5 => a5
  | 6 => a6
  | 7 => a7
  | _ => a8
theorem JJ_0 : JJ M0_ := ⟨⟨Nat.zero_le _, fun _ _ => Nat.zero_le _, fun _ _ => ⟨show (0 : Nat) < 2000000 by decide, show 0 % 100 < 10 by decide⟩, fun _ _ => Nat.zero_le _⟩, Nat.zero_le _, fun k hk => absurd hk (Nat.not_lt_zero k)⟩
theorem mk_0t : nI (mb_mk (m_there M0_) 10) = 1023 := by decide
theorem mk_0f : nI (mb_mk (m_deaf M0_) 10) = 0 := by decide
theorem ra_b {s : State} {a b : ClassId} (h1 : va_RA s a .boolean) (h2 : va_RA s b .boolean) : b = a := Option.some.inj (Eq.trans (show some b = s.vm.findClass _ from Eq.symm h2) h1)
theorem ra_i {s : State} {a b : ClassId} (h1 : va_RA s a .int) (h2 : va_RA s b .int) : b = a := Option.some.inj (Eq.trans (show some b = s.vm.findClass _ from Eq.symm h2) h1)
abbrev f0X : List Value := [.int 0, .int 0, .int 0, .int 0, .null, .null, .null, .null, .null, .null, .int 0]
abbrev f0Y : List Value := [.int 0, .int 0, .null, .null, .null, .null, .null, .null, .null, .null, .int 0]
theorem wX_0 (h0 q1 q2 q3 q4 q5 q6 : Nat) (zC iC : ClassId) : wX (ad7 h0 q1 q2 q3 q4 q5 q6) zC iC M0_ = [(h0, .inr (0, [.int 0, .int 0, .int 1023, .int 0, .ref q1, .ref q2, .ref q3, .ref q4, .ref q5, .ref q6, .int 0])), (q1, .inl (zC, 160, .inl (fun _ => 0))), (q2, .inl (zC, 160, .inl (fun _ => 0))), (q3, .inl (iC, 160, .inl (fun _ => 0))), (q4, .inl (iC, 160, .inl (fun _ => 0))), (q5, .inl (iC, 160, .inl (fun _ => 0))), (q6, .inl (iC, 1024, .inl (fun _ => 0)))] := by
  unfold wX fX
  rw [mk_0t, mk_0f]
  rfl
theorem wY_0 (h0 q1 q2 q3 q4 q5 q6 q7 q8 : Nat) (zC iC : ClassId) (K : Nat → Int32) : wY (ad9 h0 q1 q2 q3 q4 q5 q6 q7 q8) zC iC K M0_ = [(h0, .inr (1, [.int 0, .int 0, .ref q1, .ref q2, .ref q3, .ref q4, .ref q5, .ref q6, .ref q7, .ref q8, .int 0])), (q1, .inl (zC, 10, .inl (fun _ => 0))), (q2, .inl (zC, 10, .inl (fun _ => 0))), (q3, .inl (zC, 160, .inl (fun _ => 0))), (q4, .inl (zC, 160, .inl (fun _ => 0))), (q5, .inl (iC, 160, .inl (fun _ => 0))), (q6, .inl (iC, 160, .inl K)), (q7, .inl (iC, 160, .inl (fun _ => 0))), (q8, .inl (iC, 1024, .inl (fun _ => 0)))] := by
  rfl
theorem arrV_congr (cA : ClassId) (n : Nat) {K K' : Nat → Int32} (h : ∀ j, j < n → K j = K' j) : arrV cA n (fun j => Value.int (K j)) = arrV cA n (fun j => Value.int (K' j)) := by
  have e : (fun j : Fin n => Value.int (K j.val)) = fun j : Fin n => Value.int (K' j.val) := by
    funext j
    rw [h j.val j.isLt]
  show ({ cls := cA, slots := Array.ofFn (n := n) fun j => Value.int (K j.val), vm := .none } : Cell) = { cls := cA, slots := Array.ofFn (n := n) fun j => Value.int (K' j.val), vm := .none }
  rw [e]
theorem wY_congr {D : va_G} {A : Nat → Prop} {ad : Nat → Nat} {zC iC : ClassId} {K K' : Nat → Int32} {M : MS} {H : Heap} (hP : va_P D vwCl (wY ad zC iC K M) H) (hD : va_D A (wY ad zC iC K M)) (h : ∀ j, j < 160 → K j = K' j) : va_P D vwCl (wY ad zC iC K' M) H := by
  have h6 : H[ad 6]? = some (vp_cell iC (160, .inl K)) := hP 6 _ rfl
  have he : va_at D vwCl (ad 6, .inl (iC, 160, .inl K')) H := by
    show H[ad 6]? = some (arrV iC 160 (fun j => Value.int (K' j)))
    rw [h6, ← arrV_congr iC 160 h]
    rfl
  exact hP.set (p := 6) (e0 := .inl (iC, 160, .inl K)) hD rfl he (fun _ _ => rfl)
theorem wY_congrD {A : Nat → Prop} {ad : Nat → Nat} {zC iC : ClassId} {K K' : Nat → Int32} {M : MS} (hD : va_D A (wY ad zC iC K M)) : va_D A (wY ad zC iC K' M) := hD.set (p := 6) (e0 := .inl (iC, 160, .inl K)) (e := .inl (iC, 160, .inl K')) rfl
set_option maxHeartbeats 4000000 in
set_option maxRecDepth 100000 in
theorem cX_init (l : Launch) (D : va_G) (h0 sz : Nat) : Met l yX0_init (ws_ yX0_init cX0_init 1 none) ({ frames := 1, cells := 6, slots := 1824, locals := 12 }) (va_Pc [.ref h0] (ctP D [] [(h0, .inr (0, f0X))] sz)) (va_Qv (fun (u : (Nat → Nat) × ClassId × ClassId) => u.1 0 = h0) (fun u t => ctB D (tyZ u.2.1 u.2.2) (va_A [(h0, .inr (0, f0X))] sz) (wX u.1 u.2.1 u.2.2 M0_) t) (va_A [(h0, .inr (0, f0X))] sz)) 6 1824 (va_A [(h0, .inr (0, f0X))] sz) := by
  refine Met.ofW (cc := cX0_init) (maxL := 1) (ret := none) (by decide) rfl ?_
  intro p e s m args below meth c s₁ B hml hv
  obtain ⟨rfl, hsz, hP, hK, hD0⟩ := hv
  have hx := B.exec
  have hb := B.bytes
  have hr := B.returns
  have hts := atoms_spec (ws := ws_ yX0_init cX0_init 1 none) B.pre
  have hts : ∀ w ∈ lw_all, w.before _ s = true := fun w h => hts w (List.mem_cons_of_mem _ h)
  have hown : s.vm.findClass RX0 = some m.cls := findClass_of_methodNamed B.named
  have hlocks := B.notSynchronized
  have hin : meth.name = "<init>" := (name_of_methodNamed B.named B.method).1
  subst hsz
  have hD := hD0.self (sz := s.heap.size)
  generalize hAe : va_A [(h0, .inr (0, f0X))] s.heap.size = A at hD ⊢
  have hA : ∀ q : Nat, s.heap.size ≤ q → A q := fun q h => by rw [← hAe]; exact Or.inr h
  have hS : va_S A s.heap s.heap [] := va_S.rf
  have hl := lv_entry ([.ref h0]) (n := 1) (Nat.le_of_ble_eq_true rfl)
  rw [lg_entry_eq]
  generalize (lg_sl ([.ref h0]) ++ List.replicate (1 - (lg_sl ([.ref h0])).length) Slot.unset).toArray = ls at hl ⊢
  have hl : lv_has ls 1 [(0, .ref h0)] := hl
  have hP : va_P D vwCl [(h0, .inr (0, [.int 0, .int 0, .int 0, .int 0, .null, .null, .null, .null, .null, .null, .int 0]))] s.heap := hP
  refine lv_aload_n hx hb dX0_init_0 rfl (lv_at hl 0 rfl) ?_
  refine W.objInit hx hb hown (hts _ q22) (hts _ q23) (hts _ q24) rfl (by rw [hml]; exact hl.1) rfl dX0_init_1 (Nat.le_of_ble_eq_true rfl) (Nat.le_of_ble_eq_true rfl) ?_
  refine W.eq (g2 := F0 m 4 ls []) rfl ?_
  refine lv_aload_n hx hb dX0_init_4 rfl (lv_at hl 0 rfl) ?_
  refine lv_sipush (v := 1023) hx hb dX0_init_5 (by decide) ?_
  refine va_put (D := D) (ci := 0) (v := .int 1023) (ty := .int) (C := RX0) (T := TX0) (N := 11) hx hb hts in_X0 tyX0 tyX0_ok nmX0 hown hK hP hD hS 0 rfl rfl 2 (by decide) (hts _ q27) (fun _ h9 => h9) rfl (by decide +kernel) rfl rfl (Nat.le_of_ble_eq_true rfl) dX0_init_8 (fun H locs hP hD hS => ?_)
  have hP : va_P D vwCl [(h0, .inr (0, [.int 0, .int 0, .int 1023, .int 0, .null, .null, .null, .null, .null, .null, .int 0]))] H := hP
  have hD : va_D A [(h0, .inr (0, [.int 0, .int 0, .int 1023, .int 0, .null, .null, .null, .null, .null, .null, .int 0]))] := hD
  refine lv_aload_n hx hb dX0_init_11 rfl (lv_at hl 0 rfl) ?_
  refine lv_sipush (v := 160) hx hb dX0_init_12 (by decide) ?_
  refine va_newa (atype := .boolean) (ty := .boolean) (n := 160) (a0 := (160, .inl (fun _ => 0))) (N' := 160) hx hb (hts _ q59) rfl hK hP hD hS hA (fun _ => rfl) (by decide) (by decide) (by decide) (Nat.le_of_ble_eq_true rfl) (Nat.le_of_ble_eq_true rfl) dX0_init_15 (fun q1 t1 H hK hP hD hS => ?_)
  refine W.widen (k := 1) (n := 160) (by omega) (by omega) ?_
  have hK : va_K D vwCl [(t1, .boolean)] s := hK
  have hP : va_P D vwCl [(h0, .inr (0, [.int 0, .int 0, .int 1023, .int 0, .null, .null, .null, .null, .null, .null, .int 0])), (q1, .inl (t1, 160, .inl (fun _ => 0)))] H := hP
  have hD : va_D A [(h0, .inr (0, [.int 0, .int 0, .int 1023, .int 0, .null, .null, .null, .null, .null, .null, .int 0])), (q1, .inl (t1, 160, .inl (fun _ => 0)))] := hD
  refine va_putF (D := D) (ci := 0) (v := .ref q1) (ty := .array .boolean) (C := RX0) (T := TX0) (N := 11) hx hb hts in_X0 tyX0 tyX0_ok nmX0 hown hK hP hD hS 0 rfl rfl 4 (by decide) (hts _ q29) (fun _ h9 => h9) rfl hin rfl (by decide +kernel) rfl rfl (Nat.le_of_ble_eq_true rfl) dX0_init_17 (fun H locs hP hD hS => ?_)
  have hP : va_P D vwCl [(h0, .inr (0, [.int 0, .int 0, .int 1023, .int 0, .ref q1, .null, .null, .null, .null, .null, .int 0])), (q1, .inl (t1, 160, .inl (fun _ => 0)))] H := hP
  have hD : va_D A [(h0, .inr (0, [.int 0, .int 0, .int 1023, .int 0, .ref q1, .null, .null, .null, .null, .null, .int 0])), (q1, .inl (t1, 160, .inl (fun _ => 0)))] := hD
  refine lv_aload_n hx hb dX0_init_20 rfl (lv_at hl 0 rfl) ?_
  refine lv_sipush (v := 160) hx hb dX0_init_21 (by decide) ?_
  refine va_newa (atype := .boolean) (ty := .boolean) (n := 160) (a0 := (160, .inl (fun _ => 0))) (N' := 160) hx hb (hts _ q59) rfl hK hP hD hS hA (fun _ => rfl) (by decide) (by decide) (by decide) (Nat.le_of_ble_eq_true rfl) (Nat.le_of_ble_eq_true rfl) dX0_init_24 (fun q2 t2 H hK hP hD hS => ?_)
  refine W.widen (k := 2) (n := 320) (by omega) (by omega) ?_
  have et : t1 = t2 := (ra_b (hK.2 0 _ rfl).2 (hK.2 1 _ rfl).2).symm
  subst et
  have hK : va_K D vwCl [(t1, .boolean)] s := hK.sub [0] rfl
  have hP : va_P D vwCl [(h0, .inr (0, [.int 0, .int 0, .int 1023, .int 0, .ref q1, .null, .null, .null, .null, .null, .int 0])), (q1, .inl (t1, 160, .inl (fun _ => 0))), (q2, .inl (t1, 160, .inl (fun _ => 0)))] H := hP
  have hD : va_D A [(h0, .inr (0, [.int 0, .int 0, .int 1023, .int 0, .ref q1, .null, .null, .null, .null, .null, .int 0])), (q1, .inl (t1, 160, .inl (fun _ => 0))), (q2, .inl (t1, 160, .inl (fun _ => 0)))] := hD
  refine va_putF (D := D) (ci := 0) (v := .ref q2) (ty := .array .boolean) (C := RX0) (T := TX0) (N := 11) hx hb hts in_X0 tyX0 tyX0_ok nmX0 hown hK hP hD hS 0 rfl rfl 5 (by decide) (hts _ q30) (fun _ h9 => h9) rfl hin rfl (by decide +kernel) rfl rfl (Nat.le_of_ble_eq_true rfl) dX0_init_26 (fun H locs hP hD hS => ?_)
  have hP : va_P D vwCl [(h0, .inr (0, [.int 0, .int 0, .int 1023, .int 0, .ref q1, .ref q2, .null, .null, .null, .null, .int 0])), (q1, .inl (t1, 160, .inl (fun _ => 0))), (q2, .inl (t1, 160, .inl (fun _ => 0)))] H := hP
  have hD : va_D A [(h0, .inr (0, [.int 0, .int 0, .int 1023, .int 0, .ref q1, .ref q2, .null, .null, .null, .null, .int 0])), (q1, .inl (t1, 160, .inl (fun _ => 0))), (q2, .inl (t1, 160, .inl (fun _ => 0)))] := hD
  refine lv_aload_n hx hb dX0_init_29 rfl (lv_at hl 0 rfl) ?_
  refine lv_sipush (v := 160) hx hb dX0_init_30 (by decide) ?_
  refine va_newa (atype := .int) (ty := .int) (n := 160) (a0 := (160, .inl (fun _ => 0))) (N' := 160) hx hb (hts _ q60) rfl hK hP hD hS hA (fun _ => rfl) (by decide) (by decide) (by decide) (Nat.le_of_ble_eq_true rfl) (Nat.le_of_ble_eq_true rfl) dX0_init_33 (fun q3 t3 H hK hP hD hS => ?_)
  refine W.widen (k := 3) (n := 480) (by omega) (by omega) ?_
  have hK : va_K D vwCl [(t1, .boolean), (t3, .int)] s := hK
  have hP : va_P D vwCl [(h0, .inr (0, [.int 0, .int 0, .int 1023, .int 0, .ref q1, .ref q2, .null, .null, .null, .null, .int 0])), (q1, .inl (t1, 160, .inl (fun _ => 0))), (q2, .inl (t1, 160, .inl (fun _ => 0))), (q3, .inl (t3, 160, .inl (fun _ => 0)))] H := hP
  have hD : va_D A [(h0, .inr (0, [.int 0, .int 0, .int 1023, .int 0, .ref q1, .ref q2, .null, .null, .null, .null, .int 0])), (q1, .inl (t1, 160, .inl (fun _ => 0))), (q2, .inl (t1, 160, .inl (fun _ => 0))), (q3, .inl (t3, 160, .inl (fun _ => 0)))] := hD
  refine va_putF (D := D) (ci := 0) (v := .ref q3) (ty := .array .int) (C := RX0) (T := TX0) (N := 11) hx hb hts in_X0 tyX0 tyX0_ok nmX0 hown hK hP hD hS 0 rfl rfl 6 (by decide) (hts _ q31) (fun _ h9 => h9) rfl hin rfl (by decide +kernel) rfl rfl (Nat.le_of_ble_eq_true rfl) dX0_init_35 (fun H locs hP hD hS => ?_)
  have hP : va_P D vwCl [(h0, .inr (0, [.int 0, .int 0, .int 1023, .int 0, .ref q1, .ref q2, .ref q3, .null, .null, .null, .int 0])), (q1, .inl (t1, 160, .inl (fun _ => 0))), (q2, .inl (t1, 160, .inl (fun _ => 0))), (q3, .inl (t3, 160, .inl (fun _ => 0)))] H := hP
  have hD : va_D A [(h0, .inr (0, [.int 0, .int 0, .int 1023, .int 0, .ref q1, .ref q2, .ref q3, .null, .null, .null, .int 0])), (q1, .inl (t1, 160, .inl (fun _ => 0))), (q2, .inl (t1, 160, .inl (fun _ => 0))), (q3, .inl (t3, 160, .inl (fun _ => 0)))] := hD
  refine lv_aload_n hx hb dX0_init_38 rfl (lv_at hl 0 rfl) ?_
  refine lv_sipush (v := 160) hx hb dX0_init_39 (by decide) ?_
  refine va_newa (atype := .int) (ty := .int) (n := 160) (a0 := (160, .inl (fun _ => 0))) (N' := 160) hx hb (hts _ q60) rfl hK hP hD hS hA (fun _ => rfl) (by decide) (by decide) (by decide) (Nat.le_of_ble_eq_true rfl) (Nat.le_of_ble_eq_true rfl) dX0_init_42 (fun q4 t4 H hK hP hD hS => ?_)
  refine W.widen (k := 4) (n := 640) (by omega) (by omega) ?_
  have et : t3 = t4 := (ra_i (hK.2 1 _ rfl).2 (hK.2 2 _ rfl).2).symm
  subst et
  have hK : va_K D vwCl [(t1, .boolean), (t3, .int)] s := hK.sub [0, 1] rfl
  have hP : va_P D vwCl [(h0, .inr (0, [.int 0, .int 0, .int 1023, .int 0, .ref q1, .ref q2, .ref q3, .null, .null, .null, .int 0])), (q1, .inl (t1, 160, .inl (fun _ => 0))), (q2, .inl (t1, 160, .inl (fun _ => 0))), (q3, .inl (t3, 160, .inl (fun _ => 0))), (q4, .inl (t3, 160, .inl (fun _ => 0)))] H := hP
  have hD : va_D A [(h0, .inr (0, [.int 0, .int 0, .int 1023, .int 0, .ref q1, .ref q2, .ref q3, .null, .null, .null, .int 0])), (q1, .inl (t1, 160, .inl (fun _ => 0))), (q2, .inl (t1, 160, .inl (fun _ => 0))), (q3, .inl (t3, 160, .inl (fun _ => 0))), (q4, .inl (t3, 160, .inl (fun _ => 0)))] := hD
  refine va_putF (D := D) (ci := 0) (v := .ref q4) (ty := .array .int) (C := RX0) (T := TX0) (N := 11) hx hb hts in_X0 tyX0 tyX0_ok nmX0 hown hK hP hD hS 0 rfl rfl 7 (by decide) (hts _ q32) (fun _ h9 => h9) rfl hin rfl (by decide +kernel) rfl rfl (Nat.le_of_ble_eq_true rfl) dX0_init_44 (fun H locs hP hD hS => ?_)
  have hP : va_P D vwCl [(h0, .inr (0, [.int 0, .int 0, .int 1023, .int 0, .ref q1, .ref q2, .ref q3, .ref q4, .null, .null, .int 0])), (q1, .inl (t1, 160, .inl (fun _ => 0))), (q2, .inl (t1, 160, .inl (fun _ => 0))), (q3, .inl (t3, 160, .inl (fun _ => 0))), (q4, .inl (t3, 160, .inl (fun _ => 0)))] H := hP
  have hD : va_D A [(h0, .inr (0, [.int 0, .int 0, .int 1023, .int 0, .ref q1, .ref q2, .ref q3, .ref q4, .null, .null, .int 0])), (q1, .inl (t1, 160, .inl (fun _ => 0))), (q2, .inl (t1, 160, .inl (fun _ => 0))), (q3, .inl (t3, 160, .inl (fun _ => 0))), (q4, .inl (t3, 160, .inl (fun _ => 0)))] := hD
  refine lv_aload_n hx hb dX0_init_47 rfl (lv_at hl 0 rfl) ?_
  refine lv_sipush (v := 160) hx hb dX0_init_48 (by decide) ?_
  refine va_newa (atype := .int) (ty := .int) (n := 160) (a0 := (160, .inl (fun _ => 0))) (N' := 160) hx hb (hts _ q60) rfl hK hP hD hS hA (fun _ => rfl) (by decide) (by decide) (by decide) (Nat.le_of_ble_eq_true rfl) (Nat.le_of_ble_eq_true rfl) dX0_init_51 (fun q5 t5 H hK hP hD hS => ?_)
  refine W.widen (k := 5) (n := 800) (by omega) (by omega) ?_
  have et : t3 = t5 := (ra_i (hK.2 1 _ rfl).2 (hK.2 2 _ rfl).2).symm
  subst et
  have hK : va_K D vwCl [(t1, .boolean), (t3, .int)] s := hK.sub [0, 1] rfl
  have hP : va_P D vwCl [(h0, .inr (0, [.int 0, .int 0, .int 1023, .int 0, .ref q1, .ref q2, .ref q3, .ref q4, .null, .null, .int 0])), (q1, .inl (t1, 160, .inl (fun _ => 0))), (q2, .inl (t1, 160, .inl (fun _ => 0))), (q3, .inl (t3, 160, .inl (fun _ => 0))), (q4, .inl (t3, 160, .inl (fun _ => 0))), (q5, .inl (t3, 160, .inl (fun _ => 0)))] H := hP
  have hD : va_D A [(h0, .inr (0, [.int 0, .int 0, .int 1023, .int 0, .ref q1, .ref q2, .ref q3, .ref q4, .null, .null, .int 0])), (q1, .inl (t1, 160, .inl (fun _ => 0))), (q2, .inl (t1, 160, .inl (fun _ => 0))), (q3, .inl (t3, 160, .inl (fun _ => 0))), (q4, .inl (t3, 160, .inl (fun _ => 0))), (q5, .inl (t3, 160, .inl (fun _ => 0)))] := hD
  refine va_putF (D := D) (ci := 0) (v := .ref q5) (ty := .array .int) (C := RX0) (T := TX0) (N := 11) hx hb hts in_X0 tyX0 tyX0_ok nmX0 hown hK hP hD hS 0 rfl rfl 8 (by decide) (hts _ q33) (fun _ h9 => h9) rfl hin rfl (by decide +kernel) rfl rfl (Nat.le_of_ble_eq_true rfl) dX0_init_53 (fun H locs hP hD hS => ?_)
  have hP : va_P D vwCl [(h0, .inr (0, [.int 0, .int 0, .int 1023, .int 0, .ref q1, .ref q2, .ref q3, .ref q4, .ref q5, .null, .int 0])), (q1, .inl (t1, 160, .inl (fun _ => 0))), (q2, .inl (t1, 160, .inl (fun _ => 0))), (q3, .inl (t3, 160, .inl (fun _ => 0))), (q4, .inl (t3, 160, .inl (fun _ => 0))), (q5, .inl (t3, 160, .inl (fun _ => 0)))] H := hP
  have hD : va_D A [(h0, .inr (0, [.int 0, .int 0, .int 1023, .int 0, .ref q1, .ref q2, .ref q3, .ref q4, .ref q5, .null, .int 0])), (q1, .inl (t1, 160, .inl (fun _ => 0))), (q2, .inl (t1, 160, .inl (fun _ => 0))), (q3, .inl (t3, 160, .inl (fun _ => 0))), (q4, .inl (t3, 160, .inl (fun _ => 0))), (q5, .inl (t3, 160, .inl (fun _ => 0)))] := hD
  refine lv_aload_n hx hb dX0_init_56 rfl (lv_at hl 0 rfl) ?_
  refine lv_sipush (v := 1024) hx hb dX0_init_57 (by decide) ?_
  refine va_newa (atype := .int) (ty := .int) (n := 1024) (a0 := (1024, .inl (fun _ => 0))) (N' := 1024) hx hb (hts _ q60) rfl hK hP hD hS hA (fun _ => rfl) (by decide) (by decide) (by decide) (Nat.le_of_ble_eq_true rfl) (Nat.le_of_ble_eq_true rfl) dX0_init_60 (fun q6 t6 H hK hP hD hS => ?_)
  refine W.widen (k := 6) (n := 1824) (by omega) (by omega) ?_
  have et : t3 = t6 := (ra_i (hK.2 1 _ rfl).2 (hK.2 2 _ rfl).2).symm
  subst et
  have hK : va_K D vwCl [(t1, .boolean), (t3, .int)] s := hK.sub [0, 1] rfl
  have hP : va_P D vwCl [(h0, .inr (0, [.int 0, .int 0, .int 1023, .int 0, .ref q1, .ref q2, .ref q3, .ref q4, .ref q5, .null, .int 0])), (q1, .inl (t1, 160, .inl (fun _ => 0))), (q2, .inl (t1, 160, .inl (fun _ => 0))), (q3, .inl (t3, 160, .inl (fun _ => 0))), (q4, .inl (t3, 160, .inl (fun _ => 0))), (q5, .inl (t3, 160, .inl (fun _ => 0))), (q6, .inl (t3, 1024, .inl (fun _ => 0)))] H := hP
  have hD : va_D A [(h0, .inr (0, [.int 0, .int 0, .int 1023, .int 0, .ref q1, .ref q2, .ref q3, .ref q4, .ref q5, .null, .int 0])), (q1, .inl (t1, 160, .inl (fun _ => 0))), (q2, .inl (t1, 160, .inl (fun _ => 0))), (q3, .inl (t3, 160, .inl (fun _ => 0))), (q4, .inl (t3, 160, .inl (fun _ => 0))), (q5, .inl (t3, 160, .inl (fun _ => 0))), (q6, .inl (t3, 1024, .inl (fun _ => 0)))] := hD
  refine va_putF (D := D) (ci := 0) (v := .ref q6) (ty := .array .int) (C := RX0) (T := TX0) (N := 11) hx hb hts in_X0 tyX0 tyX0_ok nmX0 hown hK hP hD hS 0 rfl rfl 9 (by decide) (hts _ q34) (fun _ h9 => h9) rfl hin rfl (by decide +kernel) rfl rfl (Nat.le_of_ble_eq_true rfl) dX0_init_62 (fun H locs hP hD hS => ?_)
  have hP : va_P D vwCl [(h0, .inr (0, [.int 0, .int 0, .int 1023, .int 0, .ref q1, .ref q2, .ref q3, .ref q4, .ref q5, .ref q6, .int 0])), (q1, .inl (t1, 160, .inl (fun _ => 0))), (q2, .inl (t1, 160, .inl (fun _ => 0))), (q3, .inl (t3, 160, .inl (fun _ => 0))), (q4, .inl (t3, 160, .inl (fun _ => 0))), (q5, .inl (t3, 160, .inl (fun _ => 0))), (q6, .inl (t3, 1024, .inl (fun _ => 0)))] H := hP
  have hD : va_D A [(h0, .inr (0, [.int 0, .int 0, .int 1023, .int 0, .ref q1, .ref q2, .ref q3, .ref q4, .ref q5, .ref q6, .int 0])), (q1, .inl (t1, 160, .inl (fun _ => 0))), (q2, .inl (t1, 160, .inl (fun _ => 0))), (q3, .inl (t3, 160, .inl (fun _ => 0))), (q4, .inl (t3, 160, .inl (fun _ => 0))), (q5, .inl (t3, 160, .inl (fun _ => 0))), (q6, .inl (t3, 1024, .inl (fun _ => 0)))] := hD
  rw [← wX_0 h0 q1 q2 q3 q4 q5 q6 t1 t3] at hP hD
  exact W.vret hx hb hr (fun t ht hW => ⟨⟨(ad7 h0 q1 q2 q3 q4 q5 q6, t1, t3), rfl, rfl, by rw [ht]; exact hP, va_K.moved hW.alike hK, hD⟩, hS.F ht⟩) hS.2.2 dX0_init_65
set_option maxHeartbeats 4000000 in
set_option maxRecDepth 100000 in
theorem cY_init (l : Launch) (D : va_G) (h0 sz : Nat) : Met l yX1_init (ws_ yX1_init cX1_init 2 none) ({ frames := 1, cells := 8, slots := 1844, locals := 12 }) (va_Pc [.ref h0] (ctP D [] [(h0, .inr (1, f0Y))] sz)) (va_Qv (fun (u : (Nat → Nat) × ClassId × ClassId) => u.1 0 = h0) (fun u t => ctB D (tyZ u.2.1 u.2.2) (va_A [(h0, .inr (1, f0Y))] sz) (wY u.1 u.2.1 u.2.2 (kY M0_) M0_) t) (va_A [(h0, .inr (1, f0Y))] sz)) 8 1844 (va_A [(h0, .inr (1, f0Y))] sz) := by
  refine Met.ofW (cc := cX1_init) (maxL := 2) (ret := none) (by decide) rfl ?_
  intro p e s m args below meth c s₁ B hml hv
  obtain ⟨rfl, hsz, hP, hK, hD0⟩ := hv
  have hx := B.exec
  have hb := B.bytes
  have hr := B.returns
  have hts := atoms_spec (ws := ws_ yX1_init cX1_init 2 none) B.pre
  have hts : ∀ w ∈ lw_all, w.before _ s = true := fun w h => hts w (List.mem_cons_of_mem _ h)
  have hown : s.vm.findClass RX1 = some m.cls := findClass_of_methodNamed B.named
  have hlocks := B.notSynchronized
  have hin : meth.name = "<init>" := (name_of_methodNamed B.named B.method).1
  subst hsz
  have hD := hD0.self (sz := s.heap.size)
  generalize hAe : va_A [(h0, .inr (1, f0Y))] s.heap.size = A at hD ⊢
  have hA : ∀ q : Nat, s.heap.size ≤ q → A q := fun q h => by rw [← hAe]; exact Or.inr h
  have hS : va_S A s.heap s.heap [] := va_S.rf
  have hl := lv_entry ([.ref h0]) (n := 2) (Nat.le_of_ble_eq_true rfl)
  rw [lg_entry_eq]
  generalize (lg_sl ([.ref h0]) ++ List.replicate (2 - (lg_sl ([.ref h0])).length) Slot.unset).toArray = ls at hl ⊢
  have hl : lv_has ls 2 [(0, .ref h0)] := hl
  have hP : va_P D vwCl [(h0, .inr (1, [.int 0, .int 0, .null, .null, .null, .null, .null, .null, .null, .null, .int 0]))] s.heap := hP
  refine lv_aload_n hx hb dX1_init_0 rfl (lv_at hl 0 rfl) ?_
  refine W.objInit hx hb hown (hts _ q157) (hts _ q23) (hts _ q24) rfl (by rw [hml]; exact hl.1) rfl dX1_init_1 (Nat.le_of_ble_eq_true rfl) (Nat.le_of_ble_eq_true rfl) ?_
  refine W.eq (g2 := F0 m 4 ls []) rfl ?_
  refine lv_aload_n hx hb dX1_init_4 rfl (lv_at hl 0 rfl) ?_
  refine lv_bipush (v := 10) hx hb dX1_init_5 (by decide) ?_
  refine va_newa (atype := .boolean) (ty := .boolean) (n := 10) (a0 := (10, .inl (fun _ => 0))) (N' := 10) hx hb (hts _ q59) rfl hK hP hD hS hA (fun _ => rfl) (by decide) (by decide) (by decide) (Nat.le_of_ble_eq_true rfl) (Nat.le_of_ble_eq_true rfl) dX1_init_7 (fun q1 t1 H hK hP hD hS => ?_)
  refine W.widen (k := 1) (n := 10) (by omega) (by omega) ?_
  have hK : va_K D vwCl [(t1, .boolean)] s := hK
  have hP : va_P D vwCl [(h0, .inr (1, [.int 0, .int 0, .null, .null, .null, .null, .null, .null, .null, .null, .int 0])), (q1, .inl (t1, 10, .inl (fun _ => 0)))] H := hP
  have hD : va_D A [(h0, .inr (1, [.int 0, .int 0, .null, .null, .null, .null, .null, .null, .null, .null, .int 0])), (q1, .inl (t1, 10, .inl (fun _ => 0)))] := hD
  refine va_putF (D := D) (ci := 1) (v := .ref q1) (ty := .array .boolean) (C := RX1) (T := TX1) (N := 11) hx hb hts in_X1 tyX1 tyX1_ok nmX1 hown hK hP hD hS 0 rfl rfl 2 (by decide) (hts _ q160) (fun _ h9 => h9) rfl hin rfl (by decide +kernel) rfl rfl (Nat.le_of_ble_eq_true rfl) dX1_init_9 (fun H locs hP hD hS => ?_)
  have hP : va_P D vwCl [(h0, .inr (1, [.int 0, .int 0, .ref q1, .null, .null, .null, .null, .null, .null, .null, .int 0])), (q1, .inl (t1, 10, .inl (fun _ => 0)))] H := hP
  have hD : va_D A [(h0, .inr (1, [.int 0, .int 0, .ref q1, .null, .null, .null, .null, .null, .null, .null, .int 0])), (q1, .inl (t1, 10, .inl (fun _ => 0)))] := hD
  refine lv_aload_n hx hb dX1_init_12 rfl (lv_at hl 0 rfl) ?_
  refine lv_bipush (v := 10) hx hb dX1_init_13 (by decide) ?_
  refine va_newa (atype := .boolean) (ty := .boolean) (n := 10) (a0 := (10, .inl (fun _ => 0))) (N' := 10) hx hb (hts _ q59) rfl hK hP hD hS hA (fun _ => rfl) (by decide) (by decide) (by decide) (Nat.le_of_ble_eq_true rfl) (Nat.le_of_ble_eq_true rfl) dX1_init_15 (fun q2 t2 H hK hP hD hS => ?_)
  refine W.widen (k := 2) (n := 20) (by omega) (by omega) ?_
  have et : t1 = t2 := (ra_b (hK.2 0 _ rfl).2 (hK.2 1 _ rfl).2).symm
  subst et
  have hK : va_K D vwCl [(t1, .boolean)] s := hK.sub [0] rfl
  have hP : va_P D vwCl [(h0, .inr (1, [.int 0, .int 0, .ref q1, .null, .null, .null, .null, .null, .null, .null, .int 0])), (q1, .inl (t1, 10, .inl (fun _ => 0))), (q2, .inl (t1, 10, .inl (fun _ => 0)))] H := hP
  have hD : va_D A [(h0, .inr (1, [.int 0, .int 0, .ref q1, .null, .null, .null, .null, .null, .null, .null, .int 0])), (q1, .inl (t1, 10, .inl (fun _ => 0))), (q2, .inl (t1, 10, .inl (fun _ => 0)))] := hD
  refine va_putF (D := D) (ci := 1) (v := .ref q2) (ty := .array .boolean) (C := RX1) (T := TX1) (N := 11) hx hb hts in_X1 tyX1 tyX1_ok nmX1 hown hK hP hD hS 0 rfl rfl 3 (by decide) (hts _ q161) (fun _ h9 => h9) rfl hin rfl (by decide +kernel) rfl rfl (Nat.le_of_ble_eq_true rfl) dX1_init_17 (fun H locs hP hD hS => ?_)
  have hP : va_P D vwCl [(h0, .inr (1, [.int 0, .int 0, .ref q1, .ref q2, .null, .null, .null, .null, .null, .null, .int 0])), (q1, .inl (t1, 10, .inl (fun _ => 0))), (q2, .inl (t1, 10, .inl (fun _ => 0)))] H := hP
  have hD : va_D A [(h0, .inr (1, [.int 0, .int 0, .ref q1, .ref q2, .null, .null, .null, .null, .null, .null, .int 0])), (q1, .inl (t1, 10, .inl (fun _ => 0))), (q2, .inl (t1, 10, .inl (fun _ => 0)))] := hD
  refine lv_aload_n hx hb dX1_init_20 rfl (lv_at hl 0 rfl) ?_
  refine lv_sipush (v := 160) hx hb dX1_init_21 (by decide) ?_
  refine va_newa (atype := .boolean) (ty := .boolean) (n := 160) (a0 := (160, .inl (fun _ => 0))) (N' := 160) hx hb (hts _ q59) rfl hK hP hD hS hA (fun _ => rfl) (by decide) (by decide) (by decide) (Nat.le_of_ble_eq_true rfl) (Nat.le_of_ble_eq_true rfl) dX1_init_24 (fun q3 t3 H hK hP hD hS => ?_)
  refine W.widen (k := 3) (n := 180) (by omega) (by omega) ?_
  have et : t1 = t3 := (ra_b (hK.2 0 _ rfl).2 (hK.2 1 _ rfl).2).symm
  subst et
  have hK : va_K D vwCl [(t1, .boolean)] s := hK.sub [0] rfl
  have hP : va_P D vwCl [(h0, .inr (1, [.int 0, .int 0, .ref q1, .ref q2, .null, .null, .null, .null, .null, .null, .int 0])), (q1, .inl (t1, 10, .inl (fun _ => 0))), (q2, .inl (t1, 10, .inl (fun _ => 0))), (q3, .inl (t1, 160, .inl (fun _ => 0)))] H := hP
  have hD : va_D A [(h0, .inr (1, [.int 0, .int 0, .ref q1, .ref q2, .null, .null, .null, .null, .null, .null, .int 0])), (q1, .inl (t1, 10, .inl (fun _ => 0))), (q2, .inl (t1, 10, .inl (fun _ => 0))), (q3, .inl (t1, 160, .inl (fun _ => 0)))] := hD
  refine va_putF (D := D) (ci := 1) (v := .ref q3) (ty := .array .boolean) (C := RX1) (T := TX1) (N := 11) hx hb hts in_X1 tyX1 tyX1_ok nmX1 hown hK hP hD hS 0 rfl rfl 4 (by decide) (hts _ q162) (fun _ h9 => h9) rfl hin rfl (by decide +kernel) rfl rfl (Nat.le_of_ble_eq_true rfl) dX1_init_26 (fun H locs hP hD hS => ?_)
  have hP : va_P D vwCl [(h0, .inr (1, [.int 0, .int 0, .ref q1, .ref q2, .ref q3, .null, .null, .null, .null, .null, .int 0])), (q1, .inl (t1, 10, .inl (fun _ => 0))), (q2, .inl (t1, 10, .inl (fun _ => 0))), (q3, .inl (t1, 160, .inl (fun _ => 0)))] H := hP
  have hD : va_D A [(h0, .inr (1, [.int 0, .int 0, .ref q1, .ref q2, .ref q3, .null, .null, .null, .null, .null, .int 0])), (q1, .inl (t1, 10, .inl (fun _ => 0))), (q2, .inl (t1, 10, .inl (fun _ => 0))), (q3, .inl (t1, 160, .inl (fun _ => 0)))] := hD
  refine lv_aload_n hx hb dX1_init_29 rfl (lv_at hl 0 rfl) ?_
  refine lv_sipush (v := 160) hx hb dX1_init_30 (by decide) ?_
  refine va_newa (atype := .boolean) (ty := .boolean) (n := 160) (a0 := (160, .inl (fun _ => 0))) (N' := 160) hx hb (hts _ q59) rfl hK hP hD hS hA (fun _ => rfl) (by decide) (by decide) (by decide) (Nat.le_of_ble_eq_true rfl) (Nat.le_of_ble_eq_true rfl) dX1_init_33 (fun q4 t4 H hK hP hD hS => ?_)
  refine W.widen (k := 4) (n := 340) (by omega) (by omega) ?_
  have et : t1 = t4 := (ra_b (hK.2 0 _ rfl).2 (hK.2 1 _ rfl).2).symm
  subst et
  have hK : va_K D vwCl [(t1, .boolean)] s := hK.sub [0] rfl
  have hP : va_P D vwCl [(h0, .inr (1, [.int 0, .int 0, .ref q1, .ref q2, .ref q3, .null, .null, .null, .null, .null, .int 0])), (q1, .inl (t1, 10, .inl (fun _ => 0))), (q2, .inl (t1, 10, .inl (fun _ => 0))), (q3, .inl (t1, 160, .inl (fun _ => 0))), (q4, .inl (t1, 160, .inl (fun _ => 0)))] H := hP
  have hD : va_D A [(h0, .inr (1, [.int 0, .int 0, .ref q1, .ref q2, .ref q3, .null, .null, .null, .null, .null, .int 0])), (q1, .inl (t1, 10, .inl (fun _ => 0))), (q2, .inl (t1, 10, .inl (fun _ => 0))), (q3, .inl (t1, 160, .inl (fun _ => 0))), (q4, .inl (t1, 160, .inl (fun _ => 0)))] := hD
  refine va_putF (D := D) (ci := 1) (v := .ref q4) (ty := .array .boolean) (C := RX1) (T := TX1) (N := 11) hx hb hts in_X1 tyX1 tyX1_ok nmX1 hown hK hP hD hS 0 rfl rfl 5 (by decide) (hts _ q163) (fun _ h9 => h9) rfl hin rfl (by decide +kernel) rfl rfl (Nat.le_of_ble_eq_true rfl) dX1_init_35 (fun H locs hP hD hS => ?_)
  have hP : va_P D vwCl [(h0, .inr (1, [.int 0, .int 0, .ref q1, .ref q2, .ref q3, .ref q4, .null, .null, .null, .null, .int 0])), (q1, .inl (t1, 10, .inl (fun _ => 0))), (q2, .inl (t1, 10, .inl (fun _ => 0))), (q3, .inl (t1, 160, .inl (fun _ => 0))), (q4, .inl (t1, 160, .inl (fun _ => 0)))] H := hP
  have hD : va_D A [(h0, .inr (1, [.int 0, .int 0, .ref q1, .ref q2, .ref q3, .ref q4, .null, .null, .null, .null, .int 0])), (q1, .inl (t1, 10, .inl (fun _ => 0))), (q2, .inl (t1, 10, .inl (fun _ => 0))), (q3, .inl (t1, 160, .inl (fun _ => 0))), (q4, .inl (t1, 160, .inl (fun _ => 0)))] := hD
  refine lv_aload_n hx hb dX1_init_38 rfl (lv_at hl 0 rfl) ?_
  refine lv_sipush (v := 160) hx hb dX1_init_39 (by decide) ?_
  refine va_newa (atype := .int) (ty := .int) (n := 160) (a0 := (160, .inl (fun _ => 0))) (N' := 160) hx hb (hts _ q60) rfl hK hP hD hS hA (fun _ => rfl) (by decide) (by decide) (by decide) (Nat.le_of_ble_eq_true rfl) (Nat.le_of_ble_eq_true rfl) dX1_init_42 (fun q5 t5 H hK hP hD hS => ?_)
  refine W.widen (k := 5) (n := 500) (by omega) (by omega) ?_
  have hK : va_K D vwCl [(t1, .boolean), (t5, .int)] s := hK
  have hP : va_P D vwCl [(h0, .inr (1, [.int 0, .int 0, .ref q1, .ref q2, .ref q3, .ref q4, .null, .null, .null, .null, .int 0])), (q1, .inl (t1, 10, .inl (fun _ => 0))), (q2, .inl (t1, 10, .inl (fun _ => 0))), (q3, .inl (t1, 160, .inl (fun _ => 0))), (q4, .inl (t1, 160, .inl (fun _ => 0))), (q5, .inl (t5, 160, .inl (fun _ => 0)))] H := hP
  have hD : va_D A [(h0, .inr (1, [.int 0, .int 0, .ref q1, .ref q2, .ref q3, .ref q4, .null, .null, .null, .null, .int 0])), (q1, .inl (t1, 10, .inl (fun _ => 0))), (q2, .inl (t1, 10, .inl (fun _ => 0))), (q3, .inl (t1, 160, .inl (fun _ => 0))), (q4, .inl (t1, 160, .inl (fun _ => 0))), (q5, .inl (t5, 160, .inl (fun _ => 0)))] := hD
  refine va_putF (D := D) (ci := 1) (v := .ref q5) (ty := .array .int) (C := RX1) (T := TX1) (N := 11) hx hb hts in_X1 tyX1 tyX1_ok nmX1 hown hK hP hD hS 0 rfl rfl 6 (by decide) (hts _ q164) (fun _ h9 => h9) rfl hin rfl (by decide +kernel) rfl rfl (Nat.le_of_ble_eq_true rfl) dX1_init_44 (fun H locs hP hD hS => ?_)
  have hP : va_P D vwCl [(h0, .inr (1, [.int 0, .int 0, .ref q1, .ref q2, .ref q3, .ref q4, .ref q5, .null, .null, .null, .int 0])), (q1, .inl (t1, 10, .inl (fun _ => 0))), (q2, .inl (t1, 10, .inl (fun _ => 0))), (q3, .inl (t1, 160, .inl (fun _ => 0))), (q4, .inl (t1, 160, .inl (fun _ => 0))), (q5, .inl (t5, 160, .inl (fun _ => 0)))] H := hP
  have hD : va_D A [(h0, .inr (1, [.int 0, .int 0, .ref q1, .ref q2, .ref q3, .ref q4, .ref q5, .null, .null, .null, .int 0])), (q1, .inl (t1, 10, .inl (fun _ => 0))), (q2, .inl (t1, 10, .inl (fun _ => 0))), (q3, .inl (t1, 160, .inl (fun _ => 0))), (q4, .inl (t1, 160, .inl (fun _ => 0))), (q5, .inl (t5, 160, .inl (fun _ => 0)))] := hD
  refine lv_aload_n hx hb dX1_init_47 rfl (lv_at hl 0 rfl) ?_
  refine lv_sipush (v := 160) hx hb dX1_init_48 (by decide) ?_
  refine va_newa (atype := .int) (ty := .int) (n := 160) (a0 := (160, .inl (fun _ => 0))) (N' := 160) hx hb (hts _ q60) rfl hK hP hD hS hA (fun _ => rfl) (by decide) (by decide) (by decide) (Nat.le_of_ble_eq_true rfl) (Nat.le_of_ble_eq_true rfl) dX1_init_51 (fun q6 t6 H hK hP hD hS => ?_)
  refine W.widen (k := 6) (n := 660) (by omega) (by omega) ?_
  have et : t5 = t6 := (ra_i (hK.2 1 _ rfl).2 (hK.2 2 _ rfl).2).symm
  subst et
  have hK : va_K D vwCl [(t1, .boolean), (t5, .int)] s := hK.sub [0, 1] rfl
  have hP : va_P D vwCl [(h0, .inr (1, [.int 0, .int 0, .ref q1, .ref q2, .ref q3, .ref q4, .ref q5, .null, .null, .null, .int 0])), (q1, .inl (t1, 10, .inl (fun _ => 0))), (q2, .inl (t1, 10, .inl (fun _ => 0))), (q3, .inl (t1, 160, .inl (fun _ => 0))), (q4, .inl (t1, 160, .inl (fun _ => 0))), (q5, .inl (t5, 160, .inl (fun _ => 0))), (q6, .inl (t5, 160, .inl (fun _ => 0)))] H := hP
  have hD : va_D A [(h0, .inr (1, [.int 0, .int 0, .ref q1, .ref q2, .ref q3, .ref q4, .ref q5, .null, .null, .null, .int 0])), (q1, .inl (t1, 10, .inl (fun _ => 0))), (q2, .inl (t1, 10, .inl (fun _ => 0))), (q3, .inl (t1, 160, .inl (fun _ => 0))), (q4, .inl (t1, 160, .inl (fun _ => 0))), (q5, .inl (t5, 160, .inl (fun _ => 0))), (q6, .inl (t5, 160, .inl (fun _ => 0)))] := hD
  refine va_putF (D := D) (ci := 1) (v := .ref q6) (ty := .array .int) (C := RX1) (T := TX1) (N := 11) hx hb hts in_X1 tyX1 tyX1_ok nmX1 hown hK hP hD hS 0 rfl rfl 7 (by decide) (hts _ q165) (fun _ h9 => h9) rfl hin rfl (by decide +kernel) rfl rfl (Nat.le_of_ble_eq_true rfl) dX1_init_53 (fun H locs hP hD hS => ?_)
  have hP : va_P D vwCl [(h0, .inr (1, [.int 0, .int 0, .ref q1, .ref q2, .ref q3, .ref q4, .ref q5, .ref q6, .null, .null, .int 0])), (q1, .inl (t1, 10, .inl (fun _ => 0))), (q2, .inl (t1, 10, .inl (fun _ => 0))), (q3, .inl (t1, 160, .inl (fun _ => 0))), (q4, .inl (t1, 160, .inl (fun _ => 0))), (q5, .inl (t5, 160, .inl (fun _ => 0))), (q6, .inl (t5, 160, .inl (fun _ => 0)))] H := hP
  have hD : va_D A [(h0, .inr (1, [.int 0, .int 0, .ref q1, .ref q2, .ref q3, .ref q4, .ref q5, .ref q6, .null, .null, .int 0])), (q1, .inl (t1, 10, .inl (fun _ => 0))), (q2, .inl (t1, 10, .inl (fun _ => 0))), (q3, .inl (t1, 160, .inl (fun _ => 0))), (q4, .inl (t1, 160, .inl (fun _ => 0))), (q5, .inl (t5, 160, .inl (fun _ => 0))), (q6, .inl (t5, 160, .inl (fun _ => 0)))] := hD
  refine lv_aload_n hx hb dX1_init_56 rfl (lv_at hl 0 rfl) ?_
  refine lv_sipush (v := 160) hx hb dX1_init_57 (by decide) ?_
  refine va_newa (atype := .int) (ty := .int) (n := 160) (a0 := (160, .inl (fun _ => 0))) (N' := 160) hx hb (hts _ q60) rfl hK hP hD hS hA (fun _ => rfl) (by decide) (by decide) (by decide) (Nat.le_of_ble_eq_true rfl) (Nat.le_of_ble_eq_true rfl) dX1_init_60 (fun q7 t7 H hK hP hD hS => ?_)
  refine W.widen (k := 7) (n := 820) (by omega) (by omega) ?_
  have et : t5 = t7 := (ra_i (hK.2 1 _ rfl).2 (hK.2 2 _ rfl).2).symm
  subst et
  have hK : va_K D vwCl [(t1, .boolean), (t5, .int)] s := hK.sub [0, 1] rfl
  have hP : va_P D vwCl [(h0, .inr (1, [.int 0, .int 0, .ref q1, .ref q2, .ref q3, .ref q4, .ref q5, .ref q6, .null, .null, .int 0])), (q1, .inl (t1, 10, .inl (fun _ => 0))), (q2, .inl (t1, 10, .inl (fun _ => 0))), (q3, .inl (t1, 160, .inl (fun _ => 0))), (q4, .inl (t1, 160, .inl (fun _ => 0))), (q5, .inl (t5, 160, .inl (fun _ => 0))), (q6, .inl (t5, 160, .inl (fun _ => 0))), (q7, .inl (t5, 160, .inl (fun _ => 0)))] H := hP
  have hD : va_D A [(h0, .inr (1, [.int 0, .int 0, .ref q1, .ref q2, .ref q3, .ref q4, .ref q5, .ref q6, .null, .null, .int 0])), (q1, .inl (t1, 10, .inl (fun _ => 0))), (q2, .inl (t1, 10, .inl (fun _ => 0))), (q3, .inl (t1, 160, .inl (fun _ => 0))), (q4, .inl (t1, 160, .inl (fun _ => 0))), (q5, .inl (t5, 160, .inl (fun _ => 0))), (q6, .inl (t5, 160, .inl (fun _ => 0))), (q7, .inl (t5, 160, .inl (fun _ => 0)))] := hD
  refine va_putF (D := D) (ci := 1) (v := .ref q7) (ty := .array .int) (C := RX1) (T := TX1) (N := 11) hx hb hts in_X1 tyX1 tyX1_ok nmX1 hown hK hP hD hS 0 rfl rfl 8 (by decide) (hts _ q166) (fun _ h9 => h9) rfl hin rfl (by decide +kernel) rfl rfl (Nat.le_of_ble_eq_true rfl) dX1_init_62 (fun H locs hP hD hS => ?_)
  have hP : va_P D vwCl [(h0, .inr (1, [.int 0, .int 0, .ref q1, .ref q2, .ref q3, .ref q4, .ref q5, .ref q6, .ref q7, .null, .int 0])), (q1, .inl (t1, 10, .inl (fun _ => 0))), (q2, .inl (t1, 10, .inl (fun _ => 0))), (q3, .inl (t1, 160, .inl (fun _ => 0))), (q4, .inl (t1, 160, .inl (fun _ => 0))), (q5, .inl (t5, 160, .inl (fun _ => 0))), (q6, .inl (t5, 160, .inl (fun _ => 0))), (q7, .inl (t5, 160, .inl (fun _ => 0)))] H := hP
  have hD : va_D A [(h0, .inr (1, [.int 0, .int 0, .ref q1, .ref q2, .ref q3, .ref q4, .ref q5, .ref q6, .ref q7, .null, .int 0])), (q1, .inl (t1, 10, .inl (fun _ => 0))), (q2, .inl (t1, 10, .inl (fun _ => 0))), (q3, .inl (t1, 160, .inl (fun _ => 0))), (q4, .inl (t1, 160, .inl (fun _ => 0))), (q5, .inl (t5, 160, .inl (fun _ => 0))), (q6, .inl (t5, 160, .inl (fun _ => 0))), (q7, .inl (t5, 160, .inl (fun _ => 0)))] := hD
  refine lv_aload_n hx hb dX1_init_65 rfl (lv_at hl 0 rfl) ?_
  refine lv_sipush (v := 1024) hx hb dX1_init_66 (by decide) ?_
  refine va_newa (atype := .int) (ty := .int) (n := 1024) (a0 := (1024, .inl (fun _ => 0))) (N' := 1024) hx hb (hts _ q60) rfl hK hP hD hS hA (fun _ => rfl) (by decide) (by decide) (by decide) (Nat.le_of_ble_eq_true rfl) (Nat.le_of_ble_eq_true rfl) dX1_init_69 (fun q8 t8 H hK hP hD hS => ?_)
  refine W.widen (k := 8) (n := 1844) (by omega) (by omega) ?_
  have et : t5 = t8 := (ra_i (hK.2 1 _ rfl).2 (hK.2 2 _ rfl).2).symm
  subst et
  have hK : va_K D vwCl [(t1, .boolean), (t5, .int)] s := hK.sub [0, 1] rfl
  have hP : va_P D vwCl [(h0, .inr (1, [.int 0, .int 0, .ref q1, .ref q2, .ref q3, .ref q4, .ref q5, .ref q6, .ref q7, .null, .int 0])), (q1, .inl (t1, 10, .inl (fun _ => 0))), (q2, .inl (t1, 10, .inl (fun _ => 0))), (q3, .inl (t1, 160, .inl (fun _ => 0))), (q4, .inl (t1, 160, .inl (fun _ => 0))), (q5, .inl (t5, 160, .inl (fun _ => 0))), (q6, .inl (t5, 160, .inl (fun _ => 0))), (q7, .inl (t5, 160, .inl (fun _ => 0))), (q8, .inl (t5, 1024, .inl (fun _ => 0)))] H := hP
  have hD : va_D A [(h0, .inr (1, [.int 0, .int 0, .ref q1, .ref q2, .ref q3, .ref q4, .ref q5, .ref q6, .ref q7, .null, .int 0])), (q1, .inl (t1, 10, .inl (fun _ => 0))), (q2, .inl (t1, 10, .inl (fun _ => 0))), (q3, .inl (t1, 160, .inl (fun _ => 0))), (q4, .inl (t1, 160, .inl (fun _ => 0))), (q5, .inl (t5, 160, .inl (fun _ => 0))), (q6, .inl (t5, 160, .inl (fun _ => 0))), (q7, .inl (t5, 160, .inl (fun _ => 0))), (q8, .inl (t5, 1024, .inl (fun _ => 0)))] := hD
  refine va_putF (D := D) (ci := 1) (v := .ref q8) (ty := .array .int) (C := RX1) (T := TX1) (N := 11) hx hb hts in_X1 tyX1 tyX1_ok nmX1 hown hK hP hD hS 0 rfl rfl 9 (by decide) (hts _ q167) (fun _ h9 => h9) rfl hin rfl (by decide +kernel) rfl rfl (Nat.le_of_ble_eq_true rfl) dX1_init_71 (fun H locs hP hD hS => ?_)
  have hP : va_P D vwCl [(h0, .inr (1, [.int 0, .int 0, .ref q1, .ref q2, .ref q3, .ref q4, .ref q5, .ref q6, .ref q7, .ref q8, .int 0])), (q1, .inl (t1, 10, .inl (fun _ => 0))), (q2, .inl (t1, 10, .inl (fun _ => 0))), (q3, .inl (t1, 160, .inl (fun _ => 0))), (q4, .inl (t1, 160, .inl (fun _ => 0))), (q5, .inl (t5, 160, .inl (fun _ => 0))), (q6, .inl (t5, 160, .inl (fun _ => 0))), (q7, .inl (t5, 160, .inl (fun _ => 0))), (q8, .inl (t5, 1024, .inl (fun _ => 0)))] H := hP
  have hD : va_D A [(h0, .inr (1, [.int 0, .int 0, .ref q1, .ref q2, .ref q3, .ref q4, .ref q5, .ref q6, .ref q7, .ref q8, .int 0])), (q1, .inl (t1, 10, .inl (fun _ => 0))), (q2, .inl (t1, 10, .inl (fun _ => 0))), (q3, .inl (t1, 160, .inl (fun _ => 0))), (q4, .inl (t1, 160, .inl (fun _ => 0))), (q5, .inl (t5, 160, .inl (fun _ => 0))), (q6, .inl (t5, 160, .inl (fun _ => 0))), (q7, .inl (t5, 160, .inl (fun _ => 0))), (q8, .inl (t5, 1024, .inl (fun _ => 0)))] := hD
  have hP : va_P D vwCl (wY (ad9 h0 q1 q2 q3 q4 q5 q6 q7 q8) t1 t5 (fun _ => 0) M0_) H := hP
  have hD : va_D A (wY (ad9 h0 q1 q2 q3 q4 q5 q6 q7 q8) t1 t5 (fun _ => 0) M0_) := hD
  obtain ⟨ad, ead⟩ : ∃ z : Nat → Nat, z = (ad9 h0 q1 q2 q3 q4 q5 q6 q7 q8) := ⟨_, rfl⟩
  have ea0 : ad 0 = h0 := by rw [ead]; rfl
  rw [← ead] at hP hD
  have hl : lv_has ls 2 [(0, .ref (ad 0))] := by rw [ea0]; exact hl
  have S : CallFix p m c cX1_init 2 s _ lw_all RX1 := ⟨hx, hb, hml, hown, hts⟩
  have loop : ∀ (n i : Nat) (K : Nat → Int32) (H : Heap) (locs : List Loc) (ls : Array Slot), i ≤ 160 → 161 ≤ i + n → (∀ j, j < i → K j = -1) → va_P D vwCl (wY ad t1 t5 K M0_) H → va_D A (wY ad t1 t5 K M0_) → va_S A s.heap H locs → lv_has ls 2 [(0, .ref (ad 0)), (1, .int (nI i))] → W p l e (headSpec (ws_ yX1_init cX1_init 2 none) ({ frames := 1, cells := 8, slots := 1844, locals := 12 })).room s m ([.ref h0] : List Value).toArray below meth c H locs 8 1844 (MQ below (va_Qv (fun (u : (Nat → Nat) × ClassId × ClassId) => u.1 0 = h0) (fun u t => ctB D (tyZ u.2.1 u.2.2) A (wY u.1 u.2.1 u.2.2 (kY M0_) M0_) t) A) ([.ref h0] : List Value).toArray s 8 1844 A) (F0 m 76 ls []) := by
    intro n
    induction n with
    | zero =>
      intro i K H locs ls h1 h2
      exact absurd h2 (by omega)
    | succ n ih =>
      intro i K H locs ls h1 h2 hKj hP hD hS hl
      refine lv_iload_n hx hb dX1_init_76 rfl (lv_at hl 1 rfl) ?_
      refine lv_sipush (v := nI 160) hx hb dX1_init_77 (by decide) ?_
      refine lv_icmp_ge (tgt := 96) hx hb dX1_init_80 (by decide) (fun c80 => ?_) (fun c80 => ?_)
      · have c80 := (nI_leI (by omega) (by omega)).mp c80
        have hP := wY_congr (K' := kY M0_) hP hD (fun j hj => by rw [hKj j (by omega)]; rfl)
        have hD := wY_congrD (K' := kY M0_) hD
        exact W.vret hx hb hr (fun t ht hW => ⟨⟨(ad, t1, t5), rfl, ea0, by rw [ht]; exact hP, va_K.moved hW.alike hK, hD⟩, hS.F ht⟩) hS.2.2 dX1_init_96
      · have c80 : ¬ _ := fun z => c80 ((nI_leI (by omega) (by omega)).mpr z)
        refine lv_aload_n hx hb dX1_init_83 rfl (lv_at hl 0 rfl) ?_
        refine yg_kc S hK hP dX1_init_84 ?_
        refine lv_iload_n hx hb dX1_init_87 rfl (lv_at hl 1 rfl) ?_
        refine lv_iconst (v := (-1)) hx hb dX1_init_88 (by decide) ?_
        refine ys_kc (k := i) (by omega) S hK hP hD hS dX1_init_89 (fun H locs hP hD hS => ?_)
        refine lv_iinc (v := nI (i + 1)) (lv' := [(1, .int (nI (i + 1))), (0, .ref (ad 0))]) hx hb dX1_init_90 hl (k := 1) rfl (show nI i + 1 = nI (i + 1) from nI_1 i) (by decide) rfl (fun ls hl => ?_)
        refine lv_goto (tgt := 76) hx hb dX1_init_93 (by decide) ?_
        exact ih (i + 1) _ _ _ _ (by omega) (by omega) (fun j hj => by
          by_cases e : j = i
          · rw [e]
            exact pk_us
          · rw [pk_un e]
            exact hKj j (by omega)) hP hD hS (lv_sub hl [1, 0] rfl)
  refine lv_iconst (v := nI 0) hx hb dX1_init_74 (by decide) ?_
  refine lv_istore_n (lv' := [(1, .int (nI 0)), (0, .ref (ad 0))]) hx hb dX1_init_75 rfl hl (by decide) rfl (fun ls hl => ?_)
  exact loop 161 0 _ _ _ _ (by omega) (by omega) (fun j hj => absurd hj (Nat.not_lt_zero j)) hP hD hS (lv_sub hl [1, 0] rfl)
end
section
/-! THE CLAIM OUT OF ONE WALK OF THE LAW'S BODY. Your part is whole_start (and what it stands on); all else here is the same for every law, but numbers. -/
def R_law : String := "ClaimBenchLaw"
def lw_P (b : Addr) (xs : List Int32) (args : Array Value) (s : State) : Prop := args = #[.ref b] ∧ s.IntsAt b xs ∧ xs.length ≤ 320 ∧ (Jvm.Cond.and given_1 narrow_1).before args s = true
def lw_Q (_ : Array Value) (s : State) (o : Outcome) (t : State) : Prop := o = .returned (some (.int 1)) ∧ Framed s o t [] 600000 7290000
def lw_Z (below : List Frame) (a : Array Value) (s : State) : State → Prop := fun t => ∃ o, t.status = .running ∧ Ended t below o ∧ lw_Q a s o t
/-- the law's own end, with 1 on the stack, nothing written that was there before, its room as the claim has it -/
theorem lw_ret {p : Program} {l : Launch} {e : Env} {s : State} {m : MethodId} {below : List Frame} {meth : Method} {c : Code} {b : Nat} (hx : p.tables.exec = Jvm.exec) (hb : c.code = code) (hr : meth.sig.returnType = ret) (hlocks : meth.locks = false) {pc : Nat} {H : Heap} {ls : Array Slot} (hdg : decode code pc = .ok (.ireturn, 1)) : W p l e room_1 s m #[Value.ref b] below meth c H [] 600000 7290000 (lw_Z below #[Value.ref b] s) (F0 m pc ls [.int 1]) := by
  intro T hT X
  obtain ⟨fs, hret, hrun, hended, hW, hframe⟩ := X.leave (v := some (.int 1)) (hlocks := hlocks) (fun h => by rw [hr] at h; cases h)
  have hmeth' : T.vm.method? m = some meth := X.method'
  refine ⟨T.setFrames fs, ?_, .returned (some (.int 1)), hrun, hended, rfl, ⟨_, rfl⟩, hW, hframe⟩
  jvm_step X.here [X.here.top, hx, hb, hdg, hmeth', hr, ret, narrow_b1]
  (try refine ⟨rfl, ?_⟩); (try refine ⟨rfl, ?_⟩)
  first | (intro acts; rw [hret _ acts rfl rfl rfl]) | rw [hret _ _ rfl rfl rfl]
  exact Steps.refl _
/-- what holds at the law's entry: the machine, the code, the tables' words (any of lw_tbl by 'hts w (by decide +kernel)'), the script of L ints xs at the cell b, what the Statement gives of the start (any of its parts by flat_of_before) -/
def lw_At (p : Program) (s : State) (m : MethodId) (meth : Method) (c : Code) (b L : Nat) (xs : Nat → Int32) : Prop :=
  p.tables.exec = Jvm.exec ∧ c.code = code ∧ meth.sig.returnType = ret ∧ c.maxLocals = 4 ∧ s.vm.findClass R_law = some m.cls ∧ (∀ w ∈ lw_tbl, w.before #[Value.ref b] s = true) ∧ va_X b L xs s s.heap ∧ b < s.heap.size ∧ meth.locks = false ∧ (Jvm.Cond.and given_1 narrow_1).before #[Value.ref b] s = true
section LW
variable {p : Program} {l : Launch} {e : Env} {R : Room} {s : State} {m : MethodId} {args : Array Value} {below : List Frame} {meth : Method} {c : Code} {H : Heap} {locs : List Loc} {cells slots : Nat} {Q : State → Prop}
variable {cc : ByteArray} {pc : Nat} {ls : Array Slot} {rest : List Value}
/-- 'x != 0' as a boolean on the stack -/
theorem law_nz {x : Int32} (hx : p.tables.exec = Jvm.exec) (hb : c.code = cc) (d1 : decode cc pc = .ok (.ifCond .eq 7, 3)) (d2 : decode cc (pc + 3) = .ok (.iconst 1, 1)) (d3 : decode cc (pc + 4) = .ok (.goto 4, 3)) (d4 : decode cc (pc + 7) = .ok (.iconst 0, 1)) (kk : W p l e R s m args below meth c H locs cells slots Q (F0 m (pc + 8) ls (.int (b2i (decide (¬ x = 0))) :: rest))) : W p l e R s m args below meth c H locs cells slots Q (F0 m pc ls (.int x :: rest)) := by
  refine lv_if_eq (tgt := pc + 7) hx hb d1 (by omega) (fun h => ?_) (fun h => ?_)
  · refine lv_iconst (v := 0) hx hb d4 (by decide) ?_
    have e2 : b2i (decide (¬ x = 0)) = 0 := by
      rw [decide_eq_false (fun z => z h)]
      rfl
    rw [e2] at kk
    exact kk
  · refine lv_iconst (v := 1) hx hb d2 (by decide) ?_
    refine lv_goto (tgt := pc + 8) hx hb d3 (by omega) ?_
    have e2 : b2i (decide (¬ x = 0)) = 1 := by
      rw [decide_eq_true h]
      rfl
    rw [e2] at kk
    exact kk
end LW
theorem law_cmp {L i : Nat} (hL : L ≤ 320) (hi : i ≤ 400) : (nI L - 5 < nI i) ↔ L < i + 5 := by
  rw [Int32.lt_iff_toInt_lt]
  show (nI L - nI 5).toInt < (nI i).toInt ↔ _
  rw [pk_sub_toInt (by omega) (by omega), nI_toInt (by omega)]
  omega
theorem law_swP {D : va_G} {w1 w2 : va_W} {H : Heap} (h : va_P D vwCl (w1 ++ w2) H) : va_P D vwCl (w2 ++ w1) H := va_P.app (ct_r h) (ct_l h)
theorem law_swD {A : Nat → Prop} {w1 w2 : va_W} (h : va_D A (w1 ++ w2)) : va_D A (w2 ++ w1) := va_D.app (ctD_r h) (ctD_l h) (fun i j x y hx hy => (ctD_x h hy hx).symm)
abbrev wXY (aX aY : Nat → Nat) (zX iX zY iY : ClassId) (M : MS) : va_W := wX aX zX iX M ++ wY aY zY iY (kY M) M
set_option maxHeartbeats 4000000 in
set_option maxRecDepth 100000 in
/-- the law's case 0: tick -/
theorem law_case0 {p : Program} {e : Env} {s : State} {m : MethodId} {below : List Frame} {meth : Method} {c : Code} (l : Launch) {b L : Nat} {xs : Nat → Int32} (hL : L ≤ 320) (C0 : lw_At p s m meth c b L xs) {D : va_G} {aX aY : Nat → Nat} {zX iX zY iY : ClassId} (hKX : va_K D vwCl (tyZ zX iX) s) (hKY : va_K D vwCl (tyZ zY iY) s) {i : Nat} (hi : i + 5 ≤ L) {M : MS} (hJ : JJ M) (kk : ∀ (M : MS) (H : Heap) (locs : List Loc) (ls : Array Slot), JJ M → va_P D vwCl (wXY aX aY zX iX zY iY M) H → va_D (fun q : Nat => s.heap.size ≤ q) (wXY aX aY zX iX zY iY M) → va_S (fun q : Nat => s.heap.size ≤ q) s.heap H locs → lv_has ls 4 [(0, .ref b), (1, .ref (aX 0)), (2, .ref (aY 0)), (3, .int (nI i))] → W p l e room_1 s m #[Value.ref b] below meth c H locs 16 3690 (lw_Z below #[Value.ref b] s) (F0 m 546 ls [])) {H : Heap} {locs : List Loc} {ls : Array Slot} (hP : va_P D vwCl (wXY aX aY zX iX zY iY M) H) (hD : va_D (fun q : Nat => s.heap.size ≤ q) (wXY aX aY zX iX zY iY M)) (hS : va_S (fun q : Nat => s.heap.size ≤ q) s.heap H locs) (hl : lv_has ls 4 [(0, .ref b), (1, .ref (aX 0)), (2, .ref (aY 0)), (3, .int (nI i))]) : W p l e room_1 s m #[Value.ref b] below meth c H locs 16 3690 (lw_Z below #[Value.ref b] s) (F0 m 96 ls []) := by
  obtain ⟨hx, hb, hr, hml, hown, hts0, hX, hbl, hlocks, hgv⟩ := id C0
  have hts : ∀ w ∈ lw_all, w.before #[Value.ref b] s = true := fun w h => hts0 w (lw_all_tbl h)
  have S : CallFix p m c cL_law 4 s #[Value.ref b] lw_all R_law := ⟨hx, hb, hml, hown, hts⟩
  have hA : ∀ q : Nat, s.heap.size ≤ q → (fun q : Nat => s.heap.size ≤ q) q := fun _ h => h
  have hbA : ¬ (fun q : Nat => s.heap.size ≤ q) b := Nat.not_le.mpr hbl
  refine lv_aload_n hx hb dL_law_96 rfl (lv_at hl 1 rfl) ?_
  refine lv_aload_n hx hb dL_law_97 rfl (lv_at hl 0 rfl) ?_
  refine lv_iload_n hx hb dL_law_98 rfl (lv_at hl 3 rfl) ?_
  refine lv_iconst (v := nI 1) hx hb dL_law_99 (by decide) ?_
  refine lv_iadd hx hb dL_law_100 ?_
  refine lv_tv (v := nI (i + 1)) (nI_add i 1) ?_
  refine va_sld hx hb hX hbl hbA hS (vp_in_nI (n := i + 1) (by omega) (by omega)) dL_law_101 ?_
  refine lv_tv (v := xs (i + 1)) (by rw [nI_clamp (by omega)]) ?_
  refine CtI.cV (rest := []) (ci := 0) (C := RX0) (T := TX0) (N := 11) (cX_tick l D aX zX iX M (xs (i + 1))) S (lw_V q61 q62 q63 q15 q64) hdX0_tick rfl ⟨Nat.le_of_ble_eq_true rfl, Nat.le_of_ble_eq_true rfl⟩ rfl rfl hKX hP hD hS hA hl.1 rfl (Nat.le_of_ble_eq_true rfl) ⟨Nat.le_of_ble_eq_true rfl, Nat.le_of_ble_eq_true rfl⟩ dL_law_102 (fun H locs hP hD hS => ?_)
  refine lv_aload_n hx hb dL_law_105 rfl (lv_at hl 2 rfl) ?_
  refine lv_aload_n hx hb dL_law_106 rfl (lv_at hl 0 rfl) ?_
  refine lv_iload_n hx hb dL_law_107 rfl (lv_at hl 3 rfl) ?_
  refine lv_iconst (v := nI 1) hx hb dL_law_108 (by decide) ?_
  refine lv_iadd hx hb dL_law_109 ?_
  refine lv_tv (v := nI (i + 1)) (nI_add i 1) ?_
  refine va_sld hx hb hX hbl hbA hS (vp_in_nI (n := i + 1) (by omega) (by omega)) dL_law_110 ?_
  refine lv_tv (v := xs (i + 1)) (by rw [nI_clamp (by omega)]) ?_
  refine CtI.cV (rest := [.int ((mo_tick M (xs (i + 1))).1)]) (ci := 1) (C := RX1) (T := TX1) (N := 11) (cY_tick l D aY zY iY M (xs (i + 1))) S (lw_V q192 q193 q194 q16 q195) hdX1_tick rfl ⟨Nat.le_of_ble_eq_true rfl, Nat.le_of_ble_eq_true rfl⟩ rfl rfl hKY hP hD hS hA hl.1 rfl (Nat.le_of_ble_eq_true rfl) ⟨Nat.le_of_ble_eq_true rfl, Nat.le_of_ble_eq_true rfl⟩ dL_law_111 (fun H locs hP hD hS => ?_)
  refine lv_icmp_eq (tgt := 546) hx hb dL_law_114 (by decide) (fun c114 => ?_) (fun c114 => ?_)
  · exact kk ((mo_tick M (xs (i + 1))).2) _ _ _ (JJ_tick hJ _) hP hD hS hl
  · exact absurd rfl c114
set_option maxHeartbeats 4000000 in
set_option maxRecDepth 100000 in
/-- the law's case 1: forward -/
theorem law_case1 {p : Program} {e : Env} {s : State} {m : MethodId} {below : List Frame} {meth : Method} {c : Code} (l : Launch) {b L : Nat} {xs : Nat → Int32} (hL : L ≤ 320) (C0 : lw_At p s m meth c b L xs) {D : va_G} {aX aY : Nat → Nat} {zX iX zY iY : ClassId} (hKX : va_K D vwCl (tyZ zX iX) s) (hKY : va_K D vwCl (tyZ zY iY) s) {i : Nat} (hi : i + 5 ≤ L) {M : MS} (hJ : JJ M) (kk : ∀ (M : MS) (H : Heap) (locs : List Loc) (ls : Array Slot), JJ M → va_P D vwCl (wXY aX aY zX iX zY iY M) H → va_D (fun q : Nat => s.heap.size ≤ q) (wXY aX aY zX iX zY iY M) → va_S (fun q : Nat => s.heap.size ≤ q) s.heap H locs → lv_has ls 4 [(0, .ref b), (1, .ref (aX 0)), (2, .ref (aY 0)), (3, .int (nI i))] → W p l e room_1 s m #[Value.ref b] below meth c H locs 16 3690 (lw_Z below #[Value.ref b] s) (F0 m 546 ls [])) {H : Heap} {locs : List Loc} {ls : Array Slot} (hP : va_P D vwCl (wXY aX aY zX iX zY iY M) H) (hD : va_D (fun q : Nat => s.heap.size ≤ q) (wXY aX aY zX iX zY iY M)) (hS : va_S (fun q : Nat => s.heap.size ≤ q) s.heap H locs) (hl : lv_has ls 4 [(0, .ref b), (1, .ref (aX 0)), (2, .ref (aY 0)), (3, .int (nI i))]) : W p l e room_1 s m #[Value.ref b] below meth c H locs 16 3690 (lw_Z below #[Value.ref b] s) (F0 m 119 ls []) := by
  obtain ⟨hx, hb, hr, hml, hown, hts0, hX, hbl, hlocks, hgv⟩ := id C0
  have hts : ∀ w ∈ lw_all, w.before #[Value.ref b] s = true := fun w h => hts0 w (lw_all_tbl h)
  have S : CallFix p m c cL_law 4 s #[Value.ref b] lw_all R_law := ⟨hx, hb, hml, hown, hts⟩
  have hA : ∀ q : Nat, s.heap.size ≤ q → (fun q : Nat => s.heap.size ≤ q) q := fun _ h => h
  have hbA : ¬ (fun q : Nat => s.heap.size ≤ q) b := Nat.not_le.mpr hbl
  refine lv_aload_n hx hb dL_law_119 rfl (lv_at hl 1 rfl) ?_
  refine lv_aload_n hx hb dL_law_120 rfl (lv_at hl 0 rfl) ?_
  refine lv_iload_n hx hb dL_law_121 rfl (lv_at hl 3 rfl) ?_
  refine lv_iconst (v := nI 1) hx hb dL_law_122 (by decide) ?_
  refine lv_iadd hx hb dL_law_123 ?_
  refine lv_tv (v := nI (i + 1)) (nI_add i 1) ?_
  refine va_sld hx hb hX hbl hbA hS (vp_in_nI (n := i + 1) (by omega) (by omega)) dL_law_124 ?_
  refine lv_tv (v := xs (i + 1)) (by rw [nI_clamp (by omega)]) ?_
  refine lv_aload_n hx hb dL_law_125 rfl (lv_at hl 0 rfl) ?_
  refine lv_iload_n hx hb dL_law_126 rfl (lv_at hl 3 rfl) ?_
  refine lv_iconst (v := nI 2) hx hb dL_law_127 (by decide) ?_
  refine lv_iadd hx hb dL_law_128 ?_
  refine lv_tv (v := nI (i + 2)) (nI_add i 2) ?_
  refine va_sld hx hb hX hbl hbA hS (vp_in_nI (n := i + 2) (by omega) (by omega)) dL_law_129 ?_
  refine lv_tv (v := xs (i + 2)) (by rw [nI_clamp (by omega)]) ?_
  refine lv_aload_n hx hb dL_law_130 rfl (lv_at hl 0 rfl) ?_
  refine lv_iload_n hx hb dL_law_131 rfl (lv_at hl 3 rfl) ?_
  refine lv_iconst (v := nI 3) hx hb dL_law_132 (by decide) ?_
  refine lv_iadd hx hb dL_law_133 ?_
  refine lv_tv (v := nI (i + 3)) (nI_add i 3) ?_
  refine va_sld hx hb hX hbl hbA hS (vp_in_nI (n := i + 3) (by omega) (by omega)) dL_law_134 ?_
  refine lv_tv (v := xs (i + 3)) (by rw [nI_clamp (by omega)]) ?_
  refine law_nz hx hb dL_law_135 dL_law_138 dL_law_139 dL_law_142 ?_
  refine CtI.cV (rest := []) (ci := 0) (C := RX0) (T := TX0) (N := 11) (cX_forward l D aX zX iX M (xs (i + 1)) (xs (i + 2)) (decide (¬ xs (i + 3) = 0))) S (lw_V q66 q67 q68 q15 q69) hdX0_forward rfl ⟨Nat.le_of_ble_eq_true rfl, Nat.le_of_ble_eq_true rfl⟩ rfl rfl hKX hP hD hS hA hl.1 rfl (Nat.le_of_ble_eq_true rfl) ⟨Nat.le_of_ble_eq_true rfl, Nat.le_of_ble_eq_true rfl⟩ dL_law_143 (fun H locs hP hD hS => ?_)
  refine lv_aload_n hx hb dL_law_146 rfl (lv_at hl 2 rfl) ?_
  refine lv_aload_n hx hb dL_law_147 rfl (lv_at hl 0 rfl) ?_
  refine lv_iload_n hx hb dL_law_148 rfl (lv_at hl 3 rfl) ?_
  refine lv_iconst (v := nI 1) hx hb dL_law_149 (by decide) ?_
  refine lv_iadd hx hb dL_law_150 ?_
  refine lv_tv (v := nI (i + 1)) (nI_add i 1) ?_
  refine va_sld hx hb hX hbl hbA hS (vp_in_nI (n := i + 1) (by omega) (by omega)) dL_law_151 ?_
  refine lv_tv (v := xs (i + 1)) (by rw [nI_clamp (by omega)]) ?_
  refine lv_aload_n hx hb dL_law_152 rfl (lv_at hl 0 rfl) ?_
  refine lv_iload_n hx hb dL_law_153 rfl (lv_at hl 3 rfl) ?_
  refine lv_iconst (v := nI 2) hx hb dL_law_154 (by decide) ?_
  refine lv_iadd hx hb dL_law_155 ?_
  refine lv_tv (v := nI (i + 2)) (nI_add i 2) ?_
  refine va_sld hx hb hX hbl hbA hS (vp_in_nI (n := i + 2) (by omega) (by omega)) dL_law_156 ?_
  refine lv_tv (v := xs (i + 2)) (by rw [nI_clamp (by omega)]) ?_
  refine lv_aload_n hx hb dL_law_157 rfl (lv_at hl 0 rfl) ?_
  refine lv_iload_n hx hb dL_law_158 rfl (lv_at hl 3 rfl) ?_
  refine lv_iconst (v := nI 3) hx hb dL_law_159 (by decide) ?_
  refine lv_iadd hx hb dL_law_160 ?_
  refine lv_tv (v := nI (i + 3)) (nI_add i 3) ?_
  refine va_sld hx hb hX hbl hbA hS (vp_in_nI (n := i + 3) (by omega) (by omega)) dL_law_161 ?_
  refine lv_tv (v := xs (i + 3)) (by rw [nI_clamp (by omega)]) ?_
  refine law_nz hx hb dL_law_162 dL_law_165 dL_law_166 dL_law_169 ?_
  refine CtI.cV (rest := [.int ((mo_forward M (xs (i + 1)) (xs (i + 2)) (decide (¬ xs (i + 3) = 0))).1)]) (ci := 1) (C := RX1) (T := TX1) (N := 11) (cY_forward l D aY zY iY M (xs (i + 1)) (xs (i + 2)) (decide (¬ xs (i + 3) = 0))) S (lw_V q197 q198 q199 q16 q200) hdX1_forward rfl ⟨Nat.le_of_ble_eq_true rfl, Nat.le_of_ble_eq_true rfl⟩ rfl rfl hKY hP hD hS hA hl.1 rfl (Nat.le_of_ble_eq_true rfl) ⟨Nat.le_of_ble_eq_true rfl, Nat.le_of_ble_eq_true rfl⟩ dL_law_170 (fun H locs hP hD hS => ?_)
  refine lv_icmp_eq (tgt := 546) hx hb dL_law_173 (by decide) (fun c173 => ?_) (fun c173 => ?_)
  · exact kk ((mo_forward M (xs (i + 1)) (xs (i + 2)) (decide (¬ xs (i + 3) = 0))).2) _ _ _ (JJ_forward hJ _ _ _) hP hD hS hl
  · exact absurd rfl c173
set_option maxHeartbeats 4000000 in
set_option maxRecDepth 100000 in
/-- the law's case 2: place -/
theorem law_case2 {p : Program} {e : Env} {s : State} {m : MethodId} {below : List Frame} {meth : Method} {c : Code} (l : Launch) {b L : Nat} {xs : Nat → Int32} (hL : L ≤ 320) (C0 : lw_At p s m meth c b L xs) {D : va_G} {aX aY : Nat → Nat} {zX iX zY iY : ClassId} (hKX : va_K D vwCl (tyZ zX iX) s) (hKY : va_K D vwCl (tyZ zY iY) s) {i : Nat} (hi : i + 5 ≤ L) {M : MS} (hJ : JJ M) (kk : ∀ (M : MS) (H : Heap) (locs : List Loc) (ls : Array Slot), JJ M → va_P D vwCl (wXY aX aY zX iX zY iY M) H → va_D (fun q : Nat => s.heap.size ≤ q) (wXY aX aY zX iX zY iY M) → va_S (fun q : Nat => s.heap.size ≤ q) s.heap H locs → lv_has ls 4 [(0, .ref b), (1, .ref (aX 0)), (2, .ref (aY 0)), (3, .int (nI i))] → W p l e room_1 s m #[Value.ref b] below meth c H locs 16 3690 (lw_Z below #[Value.ref b] s) (F0 m 546 ls [])) {H : Heap} {locs : List Loc} {ls : Array Slot} (hP : va_P D vwCl (wXY aX aY zX iX zY iY M) H) (hD : va_D (fun q : Nat => s.heap.size ≤ q) (wXY aX aY zX iX zY iY M)) (hS : va_S (fun q : Nat => s.heap.size ≤ q) s.heap H locs) (hl : lv_has ls 4 [(0, .ref b), (1, .ref (aX 0)), (2, .ref (aY 0)), (3, .int (nI i))]) : W p l e room_1 s m #[Value.ref b] below meth c H locs 16 3690 (lw_Z below #[Value.ref b] s) (F0 m 178 ls []) := by
  obtain ⟨hx, hb, hr, hml, hown, hts0, hX, hbl, hlocks, hgv⟩ := id C0
  have hts : ∀ w ∈ lw_all, w.before #[Value.ref b] s = true := fun w h => hts0 w (lw_all_tbl h)
  have S : CallFix p m c cL_law 4 s #[Value.ref b] lw_all R_law := ⟨hx, hb, hml, hown, hts⟩
  have hA : ∀ q : Nat, s.heap.size ≤ q → (fun q : Nat => s.heap.size ≤ q) q := fun _ h => h
  have hbA : ¬ (fun q : Nat => s.heap.size ≤ q) b := Nat.not_le.mpr hbl
  refine lv_aload_n hx hb dL_law_178 rfl (lv_at hl 1 rfl) ?_
  refine lv_aload_n hx hb dL_law_179 rfl (lv_at hl 0 rfl) ?_
  refine lv_iload_n hx hb dL_law_180 rfl (lv_at hl 3 rfl) ?_
  refine lv_iconst (v := nI 1) hx hb dL_law_181 (by decide) ?_
  refine lv_iadd hx hb dL_law_182 ?_
  refine lv_tv (v := nI (i + 1)) (nI_add i 1) ?_
  refine va_sld hx hb hX hbl hbA hS (vp_in_nI (n := i + 1) (by omega) (by omega)) dL_law_183 ?_
  refine lv_tv (v := xs (i + 1)) (by rw [nI_clamp (by omega)]) ?_
  refine lv_aload_n hx hb dL_law_184 rfl (lv_at hl 0 rfl) ?_
  refine lv_iload_n hx hb dL_law_185 rfl (lv_at hl 3 rfl) ?_
  refine lv_iconst (v := nI 2) hx hb dL_law_186 (by decide) ?_
  refine lv_iadd hx hb dL_law_187 ?_
  refine lv_tv (v := nI (i + 2)) (nI_add i 2) ?_
  refine va_sld hx hb hX hbl hbA hS (vp_in_nI (n := i + 2) (by omega) (by omega)) dL_law_188 ?_
  refine lv_tv (v := xs (i + 2)) (by rw [nI_clamp (by omega)]) ?_
  refine lv_aload_n hx hb dL_law_189 rfl (lv_at hl 0 rfl) ?_
  refine lv_iload_n hx hb dL_law_190 rfl (lv_at hl 3 rfl) ?_
  refine lv_iconst (v := nI 3) hx hb dL_law_191 (by decide) ?_
  refine lv_iadd hx hb dL_law_192 ?_
  refine lv_tv (v := nI (i + 3)) (nI_add i 3) ?_
  refine va_sld hx hb hX hbl hbA hS (vp_in_nI (n := i + 3) (by omega) (by omega)) dL_law_193 ?_
  refine lv_tv (v := xs (i + 3)) (by rw [nI_clamp (by omega)]) ?_
  refine law_nz hx hb dL_law_194 dL_law_197 dL_law_198 dL_law_201 ?_
  refine lv_aload_n hx hb dL_law_202 rfl (lv_at hl 0 rfl) ?_
  refine lv_iload_n hx hb dL_law_203 rfl (lv_at hl 3 rfl) ?_
  refine lv_iconst (v := nI 4) hx hb dL_law_204 (by decide) ?_
  refine lv_iadd hx hb dL_law_205 ?_
  refine lv_tv (v := nI (i + 4)) (nI_add i 4) ?_
  refine va_sld hx hb hX hbl hbA hS (vp_in_nI (n := i + 4) (by omega) (by omega)) dL_law_206 ?_
  refine lv_tv (v := xs (i + 4)) (by rw [nI_clamp (by omega)]) ?_
  refine CtI.cV (rest := []) (ci := 0) (C := RX0) (T := TX0) (N := 11) (cX_place l D aX zX iX M (xs (i + 1)) (xs (i + 2)) (decide (¬ xs (i + 3) = 0)) (xs (i + 4))) S (lw_V q76 q77 q78 q15 q79) hdX0_place rfl ⟨Nat.le_of_ble_eq_true rfl, Nat.le_of_ble_eq_true rfl⟩ rfl rfl hKX hP hD hS hA hl.1 rfl (Nat.le_of_ble_eq_true rfl) ⟨Nat.le_of_ble_eq_true rfl, Nat.le_of_ble_eq_true rfl⟩ dL_law_207 (fun H locs hP hD hS => ?_)
  refine lv_aload_n hx hb dL_law_210 rfl (lv_at hl 2 rfl) ?_
  refine lv_aload_n hx hb dL_law_211 rfl (lv_at hl 0 rfl) ?_
  refine lv_iload_n hx hb dL_law_212 rfl (lv_at hl 3 rfl) ?_
  refine lv_iconst (v := nI 1) hx hb dL_law_213 (by decide) ?_
  refine lv_iadd hx hb dL_law_214 ?_
  refine lv_tv (v := nI (i + 1)) (nI_add i 1) ?_
  refine va_sld hx hb hX hbl hbA hS (vp_in_nI (n := i + 1) (by omega) (by omega)) dL_law_215 ?_
  refine lv_tv (v := xs (i + 1)) (by rw [nI_clamp (by omega)]) ?_
  refine lv_aload_n hx hb dL_law_216 rfl (lv_at hl 0 rfl) ?_
  refine lv_iload_n hx hb dL_law_217 rfl (lv_at hl 3 rfl) ?_
  refine lv_iconst (v := nI 2) hx hb dL_law_218 (by decide) ?_
  refine lv_iadd hx hb dL_law_219 ?_
  refine lv_tv (v := nI (i + 2)) (nI_add i 2) ?_
  refine va_sld hx hb hX hbl hbA hS (vp_in_nI (n := i + 2) (by omega) (by omega)) dL_law_220 ?_
  refine lv_tv (v := xs (i + 2)) (by rw [nI_clamp (by omega)]) ?_
  refine lv_aload_n hx hb dL_law_221 rfl (lv_at hl 0 rfl) ?_
  refine lv_iload_n hx hb dL_law_222 rfl (lv_at hl 3 rfl) ?_
  refine lv_iconst (v := nI 3) hx hb dL_law_223 (by decide) ?_
  refine lv_iadd hx hb dL_law_224 ?_
  refine lv_tv (v := nI (i + 3)) (nI_add i 3) ?_
  refine va_sld hx hb hX hbl hbA hS (vp_in_nI (n := i + 3) (by omega) (by omega)) dL_law_225 ?_
  refine lv_tv (v := xs (i + 3)) (by rw [nI_clamp (by omega)]) ?_
  refine law_nz hx hb dL_law_226 dL_law_229 dL_law_230 dL_law_233 ?_
  refine lv_aload_n hx hb dL_law_234 rfl (lv_at hl 0 rfl) ?_
  refine lv_iload_n hx hb dL_law_235 rfl (lv_at hl 3 rfl) ?_
  refine lv_iconst (v := nI 4) hx hb dL_law_236 (by decide) ?_
  refine lv_iadd hx hb dL_law_237 ?_
  refine lv_tv (v := nI (i + 4)) (nI_add i 4) ?_
  refine va_sld hx hb hX hbl hbA hS (vp_in_nI (n := i + 4) (by omega) (by omega)) dL_law_238 ?_
  refine lv_tv (v := xs (i + 4)) (by rw [nI_clamp (by omega)]) ?_
  refine CtI.cV (rest := [.int ((mo_place M (xs (i + 1)) (xs (i + 2)) (decide (¬ xs (i + 3) = 0)) (xs (i + 4))).1)]) (ci := 1) (C := RX1) (T := TX1) (N := 11) (cY_place l D aY zY iY M (xs (i + 1)) (xs (i + 2)) (decide (¬ xs (i + 3) = 0)) (xs (i + 4))) S (lw_V q207 q208 q209 q16 q210) hdX1_place rfl ⟨Nat.le_of_ble_eq_true rfl, Nat.le_of_ble_eq_true rfl⟩ rfl rfl hKY hP hD hS hA hl.1 rfl (Nat.le_of_ble_eq_true rfl) ⟨Nat.le_of_ble_eq_true rfl, Nat.le_of_ble_eq_true rfl⟩ dL_law_239 (fun H locs hP hD hS => ?_)
  refine lv_icmp_eq (tgt := 546) hx hb dL_law_242 (by decide) (fun c242 => ?_) (fun c242 => ?_)
  · exact kk ((mo_place M (xs (i + 1)) (xs (i + 2)) (decide (¬ xs (i + 3) = 0)) (xs (i + 4))).2) _ _ _ (JJ_place hJ _ _ _ _) hP hD hS hl
  · exact absurd rfl c242
set_option maxHeartbeats 4000000 in
set_option maxRecDepth 100000 in
/-- the law's case 3: there -/
theorem law_case3 {p : Program} {e : Env} {s : State} {m : MethodId} {below : List Frame} {meth : Method} {c : Code} (l : Launch) {b L : Nat} {xs : Nat → Int32} (hL : L ≤ 320) (C0 : lw_At p s m meth c b L xs) {D : va_G} {aX aY : Nat → Nat} {zX iX zY iY : ClassId} (hKX : va_K D vwCl (tyZ zX iX) s) (hKY : va_K D vwCl (tyZ zY iY) s) {i : Nat} (hi : i + 5 ≤ L) {M : MS} (hJ : JJ M) (kk : ∀ (M : MS) (H : Heap) (locs : List Loc) (ls : Array Slot), JJ M → va_P D vwCl (wXY aX aY zX iX zY iY M) H → va_D (fun q : Nat => s.heap.size ≤ q) (wXY aX aY zX iX zY iY M) → va_S (fun q : Nat => s.heap.size ≤ q) s.heap H locs → lv_has ls 4 [(0, .ref b), (1, .ref (aX 0)), (2, .ref (aY 0)), (3, .int (nI i))] → W p l e room_1 s m #[Value.ref b] below meth c H locs 16 3690 (lw_Z below #[Value.ref b] s) (F0 m 546 ls [])) {H : Heap} {locs : List Loc} {ls : Array Slot} (hP : va_P D vwCl (wXY aX aY zX iX zY iY M) H) (hD : va_D (fun q : Nat => s.heap.size ≤ q) (wXY aX aY zX iX zY iY M)) (hS : va_S (fun q : Nat => s.heap.size ≤ q) s.heap H locs) (hl : lv_has ls 4 [(0, .ref b), (1, .ref (aX 0)), (2, .ref (aY 0)), (3, .int (nI i))]) : W p l e room_1 s m #[Value.ref b] below meth c H locs 16 3690 (lw_Z below #[Value.ref b] s) (F0 m 247 ls []) := by
  obtain ⟨hx, hb, hr, hml, hown, hts0, hX, hbl, hlocks, hgv⟩ := id C0
  have hts : ∀ w ∈ lw_all, w.before #[Value.ref b] s = true := fun w h => hts0 w (lw_all_tbl h)
  have S : CallFix p m c cL_law 4 s #[Value.ref b] lw_all R_law := ⟨hx, hb, hml, hown, hts⟩
  have hA : ∀ q : Nat, s.heap.size ≤ q → (fun q : Nat => s.heap.size ≤ q) q := fun _ h => h
  have hbA : ¬ (fun q : Nat => s.heap.size ≤ q) b := Nat.not_le.mpr hbl
  refine lv_aload_n hx hb dL_law_247 rfl (lv_at hl 1 rfl) ?_
  refine lv_aload_n hx hb dL_law_248 rfl (lv_at hl 0 rfl) ?_
  refine lv_iload_n hx hb dL_law_249 rfl (lv_at hl 3 rfl) ?_
  refine lv_iconst (v := nI 1) hx hb dL_law_250 (by decide) ?_
  refine lv_iadd hx hb dL_law_251 ?_
  refine lv_tv (v := nI (i + 1)) (nI_add i 1) ?_
  refine va_sld hx hb hX hbl hbA hS (vp_in_nI (n := i + 1) (by omega) (by omega)) dL_law_252 ?_
  refine lv_tv (v := xs (i + 1)) (by rw [nI_clamp (by omega)]) ?_
  refine lv_aload_n hx hb dL_law_253 rfl (lv_at hl 0 rfl) ?_
  refine lv_iload_n hx hb dL_law_254 rfl (lv_at hl 3 rfl) ?_
  refine lv_iconst (v := nI 2) hx hb dL_law_255 (by decide) ?_
  refine lv_iadd hx hb dL_law_256 ?_
  refine lv_tv (v := nI (i + 2)) (nI_add i 2) ?_
  refine va_sld hx hb hX hbl hbA hS (vp_in_nI (n := i + 2) (by omega) (by omega)) dL_law_257 ?_
  refine lv_tv (v := xs (i + 2)) (by rw [nI_clamp (by omega)]) ?_
  refine law_nz hx hb dL_law_258 dL_law_261 dL_law_262 dL_law_265 ?_
  refine CtI.cV (rest := []) (ci := 0) (C := RX0) (T := TX0) (N := 11) (cX_there l D aX zX iX M (xs (i + 1)) (decide (¬ xs (i + 2) = 0))) S (lw_V q80 q81 q82 q15 q83) hdX0_there rfl ⟨Nat.le_of_ble_eq_true rfl, Nat.le_of_ble_eq_true rfl⟩ rfl rfl hKX hP hD hS hA hl.1 rfl (Nat.le_of_ble_eq_true rfl) ⟨Nat.le_of_ble_eq_true rfl, Nat.le_of_ble_eq_true rfl⟩ dL_law_266 (fun H locs hP hD hS => ?_)
  refine lv_aload_n hx hb dL_law_269 rfl (lv_at hl 2 rfl) ?_
  refine lv_aload_n hx hb dL_law_270 rfl (lv_at hl 0 rfl) ?_
  refine lv_iload_n hx hb dL_law_271 rfl (lv_at hl 3 rfl) ?_
  refine lv_iconst (v := nI 1) hx hb dL_law_272 (by decide) ?_
  refine lv_iadd hx hb dL_law_273 ?_
  refine lv_tv (v := nI (i + 1)) (nI_add i 1) ?_
  refine va_sld hx hb hX hbl hbA hS (vp_in_nI (n := i + 1) (by omega) (by omega)) dL_law_274 ?_
  refine lv_tv (v := xs (i + 1)) (by rw [nI_clamp (by omega)]) ?_
  refine lv_aload_n hx hb dL_law_275 rfl (lv_at hl 0 rfl) ?_
  refine lv_iload_n hx hb dL_law_276 rfl (lv_at hl 3 rfl) ?_
  refine lv_iconst (v := nI 2) hx hb dL_law_277 (by decide) ?_
  refine lv_iadd hx hb dL_law_278 ?_
  refine lv_tv (v := nI (i + 2)) (nI_add i 2) ?_
  refine va_sld hx hb hX hbl hbA hS (vp_in_nI (n := i + 2) (by omega) (by omega)) dL_law_279 ?_
  refine lv_tv (v := xs (i + 2)) (by rw [nI_clamp (by omega)]) ?_
  refine law_nz hx hb dL_law_280 dL_law_283 dL_law_284 dL_law_287 ?_
  refine CtI.cV (rest := [.int ((mo_there M (xs (i + 1)) (decide (¬ xs (i + 2) = 0))).1)]) (ci := 1) (C := RX1) (T := TX1) (N := 11) (cY_there l D aY zY iY M (xs (i + 1)) (decide (¬ xs (i + 2) = 0))) S (lw_V q211 q212 q213 q16 q214) hdX1_there rfl ⟨Nat.le_of_ble_eq_true rfl, Nat.le_of_ble_eq_true rfl⟩ rfl rfl hKY hP hD hS hA hl.1 rfl (Nat.le_of_ble_eq_true rfl) ⟨Nat.le_of_ble_eq_true rfl, Nat.le_of_ble_eq_true rfl⟩ dL_law_288 (fun H locs hP hD hS => ?_)
  refine lv_icmp_eq (tgt := 546) hx hb dL_law_291 (by decide) (fun c291 => ?_) (fun c291 => ?_)
  · exact kk ((mo_there M (xs (i + 1)) (decide (¬ xs (i + 2) = 0))).2) _ _ _ (JJ_there hJ _ _) hP hD hS hl
  · exact absurd rfl c291
set_option maxHeartbeats 4000000 in
set_option maxRecDepth 100000 in
/-- the law's case 4: deaf -/
theorem law_case4 {p : Program} {e : Env} {s : State} {m : MethodId} {below : List Frame} {meth : Method} {c : Code} (l : Launch) {b L : Nat} {xs : Nat → Int32} (hL : L ≤ 320) (C0 : lw_At p s m meth c b L xs) {D : va_G} {aX aY : Nat → Nat} {zX iX zY iY : ClassId} (hKX : va_K D vwCl (tyZ zX iX) s) (hKY : va_K D vwCl (tyZ zY iY) s) {i : Nat} (hi : i + 5 ≤ L) {M : MS} (hJ : JJ M) (kk : ∀ (M : MS) (H : Heap) (locs : List Loc) (ls : Array Slot), JJ M → va_P D vwCl (wXY aX aY zX iX zY iY M) H → va_D (fun q : Nat => s.heap.size ≤ q) (wXY aX aY zX iX zY iY M) → va_S (fun q : Nat => s.heap.size ≤ q) s.heap H locs → lv_has ls 4 [(0, .ref b), (1, .ref (aX 0)), (2, .ref (aY 0)), (3, .int (nI i))] → W p l e room_1 s m #[Value.ref b] below meth c H locs 16 3690 (lw_Z below #[Value.ref b] s) (F0 m 546 ls [])) {H : Heap} {locs : List Loc} {ls : Array Slot} (hP : va_P D vwCl (wXY aX aY zX iX zY iY M) H) (hD : va_D (fun q : Nat => s.heap.size ≤ q) (wXY aX aY zX iX zY iY M)) (hS : va_S (fun q : Nat => s.heap.size ≤ q) s.heap H locs) (hl : lv_has ls 4 [(0, .ref b), (1, .ref (aX 0)), (2, .ref (aY 0)), (3, .int (nI i))]) : W p l e room_1 s m #[Value.ref b] below meth c H locs 16 3690 (lw_Z below #[Value.ref b] s) (F0 m 296 ls []) := by
  obtain ⟨hx, hb, hr, hml, hown, hts0, hX, hbl, hlocks, hgv⟩ := id C0
  have hts : ∀ w ∈ lw_all, w.before #[Value.ref b] s = true := fun w h => hts0 w (lw_all_tbl h)
  have S : CallFix p m c cL_law 4 s #[Value.ref b] lw_all R_law := ⟨hx, hb, hml, hown, hts⟩
  have hA : ∀ q : Nat, s.heap.size ≤ q → (fun q : Nat => s.heap.size ≤ q) q := fun _ h => h
  have hbA : ¬ (fun q : Nat => s.heap.size ≤ q) b := Nat.not_le.mpr hbl
  refine lv_aload_n hx hb dL_law_296 rfl (lv_at hl 1 rfl) ?_
  refine lv_aload_n hx hb dL_law_297 rfl (lv_at hl 0 rfl) ?_
  refine lv_iload_n hx hb dL_law_298 rfl (lv_at hl 3 rfl) ?_
  refine lv_iconst (v := nI 1) hx hb dL_law_299 (by decide) ?_
  refine lv_iadd hx hb dL_law_300 ?_
  refine lv_tv (v := nI (i + 1)) (nI_add i 1) ?_
  refine va_sld hx hb hX hbl hbA hS (vp_in_nI (n := i + 1) (by omega) (by omega)) dL_law_301 ?_
  refine lv_tv (v := xs (i + 1)) (by rw [nI_clamp (by omega)]) ?_
  refine lv_aload_n hx hb dL_law_302 rfl (lv_at hl 0 rfl) ?_
  refine lv_iload_n hx hb dL_law_303 rfl (lv_at hl 3 rfl) ?_
  refine lv_iconst (v := nI 2) hx hb dL_law_304 (by decide) ?_
  refine lv_iadd hx hb dL_law_305 ?_
  refine lv_tv (v := nI (i + 2)) (nI_add i 2) ?_
  refine va_sld hx hb hX hbl hbA hS (vp_in_nI (n := i + 2) (by omega) (by omega)) dL_law_306 ?_
  refine lv_tv (v := xs (i + 2)) (by rw [nI_clamp (by omega)]) ?_
  refine law_nz hx hb dL_law_307 dL_law_310 dL_law_311 dL_law_314 ?_
  refine CtI.cV (rest := []) (ci := 0) (C := RX0) (T := TX0) (N := 11) (cX_deaf l D aX zX iX M (xs (i + 1)) (decide (¬ xs (i + 2) = 0))) S (lw_V q88 q89 q90 q15 q91) hdX0_deaf rfl ⟨Nat.le_of_ble_eq_true rfl, Nat.le_of_ble_eq_true rfl⟩ rfl rfl hKX hP hD hS hA hl.1 rfl (Nat.le_of_ble_eq_true rfl) ⟨Nat.le_of_ble_eq_true rfl, Nat.le_of_ble_eq_true rfl⟩ dL_law_315 (fun H locs hP hD hS => ?_)
  refine lv_aload_n hx hb dL_law_318 rfl (lv_at hl 2 rfl) ?_
  refine lv_aload_n hx hb dL_law_319 rfl (lv_at hl 0 rfl) ?_
  refine lv_iload_n hx hb dL_law_320 rfl (lv_at hl 3 rfl) ?_
  refine lv_iconst (v := nI 1) hx hb dL_law_321 (by decide) ?_
  refine lv_iadd hx hb dL_law_322 ?_
  refine lv_tv (v := nI (i + 1)) (nI_add i 1) ?_
  refine va_sld hx hb hX hbl hbA hS (vp_in_nI (n := i + 1) (by omega) (by omega)) dL_law_323 ?_
  refine lv_tv (v := xs (i + 1)) (by rw [nI_clamp (by omega)]) ?_
  refine lv_aload_n hx hb dL_law_324 rfl (lv_at hl 0 rfl) ?_
  refine lv_iload_n hx hb dL_law_325 rfl (lv_at hl 3 rfl) ?_
  refine lv_iconst (v := nI 2) hx hb dL_law_326 (by decide) ?_
  refine lv_iadd hx hb dL_law_327 ?_
  refine lv_tv (v := nI (i + 2)) (nI_add i 2) ?_
  refine va_sld hx hb hX hbl hbA hS (vp_in_nI (n := i + 2) (by omega) (by omega)) dL_law_328 ?_
  refine lv_tv (v := xs (i + 2)) (by rw [nI_clamp (by omega)]) ?_
  refine law_nz hx hb dL_law_329 dL_law_332 dL_law_333 dL_law_336 ?_
  refine CtI.cV (rest := [.int ((mo_deaf M (xs (i + 1)) (decide (¬ xs (i + 2) = 0))).1)]) (ci := 1) (C := RX1) (T := TX1) (N := 11) (cY_deaf l D aY zY iY M (xs (i + 1)) (decide (¬ xs (i + 2) = 0))) S (lw_V q215 q216 q217 q16 q218) hdX1_deaf rfl ⟨Nat.le_of_ble_eq_true rfl, Nat.le_of_ble_eq_true rfl⟩ rfl rfl hKY hP hD hS hA hl.1 rfl (Nat.le_of_ble_eq_true rfl) ⟨Nat.le_of_ble_eq_true rfl, Nat.le_of_ble_eq_true rfl⟩ dL_law_337 (fun H locs hP hD hS => ?_)
  refine lv_icmp_eq (tgt := 546) hx hb dL_law_340 (by decide) (fun c340 => ?_) (fun c340 => ?_)
  · exact kk ((mo_deaf M (xs (i + 1)) (decide (¬ xs (i + 2) = 0))).2) _ _ _ (JJ_deaf hJ _ _) hP hD hS hl
  · exact absurd rfl c340
set_option maxHeartbeats 4000000 in
set_option maxRecDepth 100000 in
/-- the law's case 5: data -/
theorem law_case5 {p : Program} {e : Env} {s : State} {m : MethodId} {below : List Frame} {meth : Method} {c : Code} (l : Launch) {b L : Nat} {xs : Nat → Int32} (hL : L ≤ 320) (C0 : lw_At p s m meth c b L xs) {D : va_G} {aX aY : Nat → Nat} {zX iX zY iY : ClassId} (hKX : va_K D vwCl (tyZ zX iX) s) (hKY : va_K D vwCl (tyZ zY iY) s) {i : Nat} (hi : i + 5 ≤ L) {M : MS} (hJ : JJ M) (kk : ∀ (M : MS) (H : Heap) (locs : List Loc) (ls : Array Slot), JJ M → va_P D vwCl (wXY aX aY zX iX zY iY M) H → va_D (fun q : Nat => s.heap.size ≤ q) (wXY aX aY zX iX zY iY M) → va_S (fun q : Nat => s.heap.size ≤ q) s.heap H locs → lv_has ls 4 [(0, .ref b), (1, .ref (aX 0)), (2, .ref (aY 0)), (3, .int (nI i))] → W p l e room_1 s m #[Value.ref b] below meth c H locs 16 3690 (lw_Z below #[Value.ref b] s) (F0 m 546 ls [])) {H : Heap} {locs : List Loc} {ls : Array Slot} (hP : va_P D vwCl (wXY aX aY zX iX zY iY M) H) (hD : va_D (fun q : Nat => s.heap.size ≤ q) (wXY aX aY zX iX zY iY M)) (hS : va_S (fun q : Nat => s.heap.size ≤ q) s.heap H locs) (hl : lv_has ls 4 [(0, .ref b), (1, .ref (aX 0)), (2, .ref (aY 0)), (3, .int (nI i))]) : W p l e room_1 s m #[Value.ref b] below meth c H locs 16 3690 (lw_Z below #[Value.ref b] s) (F0 m 345 ls []) := by
  obtain ⟨hx, hb, hr, hml, hown, hts0, hX, hbl, hlocks, hgv⟩ := id C0
  have hts : ∀ w ∈ lw_all, w.before #[Value.ref b] s = true := fun w h => hts0 w (lw_all_tbl h)
  have S : CallFix p m c cL_law 4 s #[Value.ref b] lw_all R_law := ⟨hx, hb, hml, hown, hts⟩
  have hA : ∀ q : Nat, s.heap.size ≤ q → (fun q : Nat => s.heap.size ≤ q) q := fun _ h => h
  have hbA : ¬ (fun q : Nat => s.heap.size ≤ q) b := Nat.not_le.mpr hbl
  refine lv_aload_n hx hb dL_law_345 rfl (lv_at hl 1 rfl) ?_
  refine lv_aload_n hx hb dL_law_346 rfl (lv_at hl 0 rfl) ?_
  refine lv_iload_n hx hb dL_law_347 rfl (lv_at hl 3 rfl) ?_
  refine lv_iconst (v := nI 1) hx hb dL_law_348 (by decide) ?_
  refine lv_iadd hx hb dL_law_349 ?_
  refine lv_tv (v := nI (i + 1)) (nI_add i 1) ?_
  refine va_sld hx hb hX hbl hbA hS (vp_in_nI (n := i + 1) (by omega) (by omega)) dL_law_350 ?_
  refine lv_tv (v := xs (i + 1)) (by rw [nI_clamp (by omega)]) ?_
  refine lv_aload_n hx hb dL_law_351 rfl (lv_at hl 0 rfl) ?_
  refine lv_iload_n hx hb dL_law_352 rfl (lv_at hl 3 rfl) ?_
  refine lv_iconst (v := nI 2) hx hb dL_law_353 (by decide) ?_
  refine lv_iadd hx hb dL_law_354 ?_
  refine lv_tv (v := nI (i + 2)) (nI_add i 2) ?_
  refine va_sld hx hb hX hbl hbA hS (vp_in_nI (n := i + 2) (by omega) (by omega)) dL_law_355 ?_
  refine lv_tv (v := xs (i + 2)) (by rw [nI_clamp (by omega)]) ?_
  refine CtI.cV (rest := []) (ci := 0) (C := RX0) (T := TX0) (N := 11) (cX_data l D aX zX iX M hJ.1 (xs (i + 1)) (xs (i + 2))) S (lw_V q92 q93 q94 q15 q95) hdX0_data rfl ⟨Nat.le_of_ble_eq_true rfl, Nat.le_of_ble_eq_true rfl⟩ rfl rfl hKX hP hD hS hA hl.1 rfl (Nat.le_of_ble_eq_true rfl) ⟨Nat.le_of_ble_eq_true rfl, Nat.le_of_ble_eq_true rfl⟩ dL_law_356 (fun H locs hP hD hS => ?_)
  refine lv_aload_n hx hb dL_law_359 rfl (lv_at hl 2 rfl) ?_
  refine lv_aload_n hx hb dL_law_360 rfl (lv_at hl 0 rfl) ?_
  refine lv_iload_n hx hb dL_law_361 rfl (lv_at hl 3 rfl) ?_
  refine lv_iconst (v := nI 1) hx hb dL_law_362 (by decide) ?_
  refine lv_iadd hx hb dL_law_363 ?_
  refine lv_tv (v := nI (i + 1)) (nI_add i 1) ?_
  refine va_sld hx hb hX hbl hbA hS (vp_in_nI (n := i + 1) (by omega) (by omega)) dL_law_364 ?_
  refine lv_tv (v := xs (i + 1)) (by rw [nI_clamp (by omega)]) ?_
  refine lv_aload_n hx hb dL_law_365 rfl (lv_at hl 0 rfl) ?_
  refine lv_iload_n hx hb dL_law_366 rfl (lv_at hl 3 rfl) ?_
  refine lv_iconst (v := nI 2) hx hb dL_law_367 (by decide) ?_
  refine lv_iadd hx hb dL_law_368 ?_
  refine lv_tv (v := nI (i + 2)) (nI_add i 2) ?_
  refine va_sld hx hb hX hbl hbA hS (vp_in_nI (n := i + 2) (by omega) (by omega)) dL_law_369 ?_
  refine lv_tv (v := xs (i + 2)) (by rw [nI_clamp (by omega)]) ?_
  refine CtI.cV (rest := [.int ((mo_data M (xs (i + 1)) (xs (i + 2))).1)]) (ci := 1) (C := RX1) (T := TX1) (N := 11) (cY_data l D aY zY iY M hJ.1 (xs (i + 1)) (xs (i + 2))) S (lw_V q219 q220 q221 q16 q222) hdX1_data rfl ⟨Nat.le_of_ble_eq_true rfl, Nat.le_of_ble_eq_true rfl⟩ rfl rfl hKY hP hD hS hA hl.1 rfl (Nat.le_of_ble_eq_true rfl) ⟨Nat.le_of_ble_eq_true rfl, Nat.le_of_ble_eq_true rfl⟩ dL_law_370 (fun H locs hP hD hS => ?_)
  refine lv_icmp_eq (tgt := 546) hx hb dL_law_373 (by decide) (fun c373 => ?_) (fun c373 => ?_)
  · exact kk ((mo_data M (xs (i + 1)) (xs (i + 2))).2) _ _ _ (JJ_data hJ _ _) hP hD hS hl
  · exact absurd rfl c373
set_option maxHeartbeats 4000000 in
set_option maxRecDepth 100000 in
/-- the law's case 6: said -/
theorem law_case6 {p : Program} {e : Env} {s : State} {m : MethodId} {below : List Frame} {meth : Method} {c : Code} (l : Launch) {b L : Nat} {xs : Nat → Int32} (hL : L ≤ 320) (C0 : lw_At p s m meth c b L xs) {D : va_G} {aX aY : Nat → Nat} {zX iX zY iY : ClassId} (hKX : va_K D vwCl (tyZ zX iX) s) (hKY : va_K D vwCl (tyZ zY iY) s) {i : Nat} (hi : i + 5 ≤ L) {M : MS} (hJ : JJ M) (kk : ∀ (M : MS) (H : Heap) (locs : List Loc) (ls : Array Slot), JJ M → va_P D vwCl (wXY aX aY zX iX zY iY M) H → va_D (fun q : Nat => s.heap.size ≤ q) (wXY aX aY zX iX zY iY M) → va_S (fun q : Nat => s.heap.size ≤ q) s.heap H locs → lv_has ls 4 [(0, .ref b), (1, .ref (aX 0)), (2, .ref (aY 0)), (3, .int (nI i))] → W p l e room_1 s m #[Value.ref b] below meth c H locs 16 3690 (lw_Z below #[Value.ref b] s) (F0 m 546 ls [])) {H : Heap} {locs : List Loc} {ls : Array Slot} (hP : va_P D vwCl (wXY aX aY zX iX zY iY M) H) (hD : va_D (fun q : Nat => s.heap.size ≤ q) (wXY aX aY zX iX zY iY M)) (hS : va_S (fun q : Nat => s.heap.size ≤ q) s.heap H locs) (hl : lv_has ls 4 [(0, .ref b), (1, .ref (aX 0)), (2, .ref (aY 0)), (3, .int (nI i))]) : W p l e room_1 s m #[Value.ref b] below meth c H locs 16 3690 (lw_Z below #[Value.ref b] s) (F0 m 378 ls []) := by
  obtain ⟨hx, hb, hr, hml, hown, hts0, hX, hbl, hlocks, hgv⟩ := id C0
  have hts : ∀ w ∈ lw_all, w.before #[Value.ref b] s = true := fun w h => hts0 w (lw_all_tbl h)
  have S : CallFix p m c cL_law 4 s #[Value.ref b] lw_all R_law := ⟨hx, hb, hml, hown, hts⟩
  have hA : ∀ q : Nat, s.heap.size ≤ q → (fun q : Nat => s.heap.size ≤ q) q := fun _ h => h
  have hbA : ¬ (fun q : Nat => s.heap.size ≤ q) b := Nat.not_le.mpr hbl
  refine lv_aload_n hx hb dL_law_378 rfl (lv_at hl 1 rfl) ?_
  refine lv_aload_n hx hb dL_law_379 rfl (lv_at hl 0 rfl) ?_
  refine lv_iload_n hx hb dL_law_380 rfl (lv_at hl 3 rfl) ?_
  refine lv_iconst (v := nI 1) hx hb dL_law_381 (by decide) ?_
  refine lv_iadd hx hb dL_law_382 ?_
  refine lv_tv (v := nI (i + 1)) (nI_add i 1) ?_
  refine va_sld hx hb hX hbl hbA hS (vp_in_nI (n := i + 1) (by omega) (by omega)) dL_law_383 ?_
  refine lv_tv (v := xs (i + 1)) (by rw [nI_clamp (by omega)]) ?_
  refine CtI.cV (rest := []) (ci := 0) (C := RX0) (T := TX0) (N := 11) (cX_said l D aX zX iX M hJ (xs (i + 1))) S (lw_V q128 q129 q130 q15 q131) hdX0_said rfl ⟨Nat.le_of_ble_eq_true rfl, Nat.le_of_ble_eq_true rfl⟩ rfl rfl hKX hP hD hS hA hl.1 rfl (Nat.le_of_ble_eq_true rfl) ⟨Nat.le_of_ble_eq_true rfl, Nat.le_of_ble_eq_true rfl⟩ dL_law_384 (fun H locs hP hD hS => ?_)
  refine lv_aload_n hx hb dL_law_387 rfl (lv_at hl 2 rfl) ?_
  refine lv_aload_n hx hb dL_law_388 rfl (lv_at hl 0 rfl) ?_
  refine lv_iload_n hx hb dL_law_389 rfl (lv_at hl 3 rfl) ?_
  refine lv_iconst (v := nI 1) hx hb dL_law_390 (by decide) ?_
  refine lv_iadd hx hb dL_law_391 ?_
  refine lv_tv (v := nI (i + 1)) (nI_add i 1) ?_
  refine va_sld hx hb hX hbl hbA hS (vp_in_nI (n := i + 1) (by omega) (by omega)) dL_law_392 ?_
  refine lv_tv (v := xs (i + 1)) (by rw [nI_clamp (by omega)]) ?_
  refine CtI.cV (rest := [.int (mo_said M (xs (i + 1)))]) (ci := 1) (C := RX1) (T := TX1) (N := 11) (cY_said l D aY zY iY M hJ (xs (i + 1))) S (lw_V q251 q252 q253 q16 q254) hdX1_said rfl ⟨Nat.le_of_ble_eq_true rfl, Nat.le_of_ble_eq_true rfl⟩ rfl rfl hKY hP hD hS hA hl.1 rfl (Nat.le_of_ble_eq_true rfl) ⟨Nat.le_of_ble_eq_true rfl, Nat.le_of_ble_eq_true rfl⟩ dL_law_393 (fun H locs hP hD hS => ?_)
  refine lv_icmp_eq (tgt := 546) hx hb dL_law_396 (by decide) (fun c396 => ?_) (fun c396 => ?_)
  · exact kk M _ _ _ hJ hP hD hS hl
  · exact absurd rfl c396
set_option maxHeartbeats 4000000 in
set_option maxRecDepth 100000 in
/-- the law's case 7: claim -/
theorem law_case7 {p : Program} {e : Env} {s : State} {m : MethodId} {below : List Frame} {meth : Method} {c : Code} (l : Launch) {b L : Nat} {xs : Nat → Int32} (hL : L ≤ 320) (C0 : lw_At p s m meth c b L xs) {D : va_G} {aX aY : Nat → Nat} {zX iX zY iY : ClassId} (hKX : va_K D vwCl (tyZ zX iX) s) (hKY : va_K D vwCl (tyZ zY iY) s) {i : Nat} (hi : i + 5 ≤ L) {M : MS} (hJ : JJ M) (kk : ∀ (M : MS) (H : Heap) (locs : List Loc) (ls : Array Slot), JJ M → va_P D vwCl (wXY aX aY zX iX zY iY M) H → va_D (fun q : Nat => s.heap.size ≤ q) (wXY aX aY zX iX zY iY M) → va_S (fun q : Nat => s.heap.size ≤ q) s.heap H locs → lv_has ls 4 [(0, .ref b), (1, .ref (aX 0)), (2, .ref (aY 0)), (3, .int (nI i))] → W p l e room_1 s m #[Value.ref b] below meth c H locs 16 3690 (lw_Z below #[Value.ref b] s) (F0 m 546 ls [])) {H : Heap} {locs : List Loc} {ls : Array Slot} (hP : va_P D vwCl (wXY aX aY zX iX zY iY M) H) (hD : va_D (fun q : Nat => s.heap.size ≤ q) (wXY aX aY zX iX zY iY M)) (hS : va_S (fun q : Nat => s.heap.size ≤ q) s.heap H locs) (hl : lv_has ls 4 [(0, .ref b), (1, .ref (aX 0)), (2, .ref (aY 0)), (3, .int (nI i))]) : W p l e room_1 s m #[Value.ref b] below meth c H locs 16 3690 (lw_Z below #[Value.ref b] s) (F0 m 401 ls []) := by
  obtain ⟨hx, hb, hr, hml, hown, hts0, hX, hbl, hlocks, hgv⟩ := id C0
  have hts : ∀ w ∈ lw_all, w.before #[Value.ref b] s = true := fun w h => hts0 w (lw_all_tbl h)
  have S : CallFix p m c cL_law 4 s #[Value.ref b] lw_all R_law := ⟨hx, hb, hml, hown, hts⟩
  have hA : ∀ q : Nat, s.heap.size ≤ q → (fun q : Nat => s.heap.size ≤ q) q := fun _ h => h
  have hbA : ¬ (fun q : Nat => s.heap.size ≤ q) b := Nat.not_le.mpr hbl
  refine lv_aload_n hx hb dL_law_401 rfl (lv_at hl 1 rfl) ?_
  refine lv_aload_n hx hb dL_law_402 rfl (lv_at hl 0 rfl) ?_
  refine lv_iload_n hx hb dL_law_403 rfl (lv_at hl 3 rfl) ?_
  refine lv_iconst (v := nI 1) hx hb dL_law_404 (by decide) ?_
  refine lv_iadd hx hb dL_law_405 ?_
  refine lv_tv (v := nI (i + 1)) (nI_add i 1) ?_
  refine va_sld hx hb hX hbl hbA hS (vp_in_nI (n := i + 1) (by omega) (by omega)) dL_law_406 ?_
  refine lv_tv (v := xs (i + 1)) (by rw [nI_clamp (by omega)]) ?_
  refine lv_aload_n hx hb dL_law_407 rfl (lv_at hl 0 rfl) ?_
  refine lv_iload_n hx hb dL_law_408 rfl (lv_at hl 3 rfl) ?_
  refine lv_iconst (v := nI 2) hx hb dL_law_409 (by decide) ?_
  refine lv_iadd hx hb dL_law_410 ?_
  refine lv_tv (v := nI (i + 2)) (nI_add i 2) ?_
  refine va_sld hx hb hX hbl hbA hS (vp_in_nI (n := i + 2) (by omega) (by omega)) dL_law_411 ?_
  refine lv_tv (v := xs (i + 2)) (by rw [nI_clamp (by omega)]) ?_
  refine CtI.cV (rest := []) (ci := 0) (C := RX0) (T := TX0) (N := 11) (cX_claim l D aX zX iX M (xs (i + 1)) (xs (i + 2))) S (lw_V q132 q133 q134 q15 q135) hdX0_claim rfl ⟨Nat.le_of_ble_eq_true rfl, Nat.le_of_ble_eq_true rfl⟩ rfl rfl hKX hP hD hS hA hl.1 rfl (Nat.le_of_ble_eq_true rfl) ⟨Nat.le_of_ble_eq_true rfl, Nat.le_of_ble_eq_true rfl⟩ dL_law_412 (fun H locs hP hD hS => ?_)
  refine lv_aload_n hx hb dL_law_415 rfl (lv_at hl 2 rfl) ?_
  refine lv_aload_n hx hb dL_law_416 rfl (lv_at hl 0 rfl) ?_
  refine lv_iload_n hx hb dL_law_417 rfl (lv_at hl 3 rfl) ?_
  refine lv_iconst (v := nI 1) hx hb dL_law_418 (by decide) ?_
  refine lv_iadd hx hb dL_law_419 ?_
  refine lv_tv (v := nI (i + 1)) (nI_add i 1) ?_
  refine va_sld hx hb hX hbl hbA hS (vp_in_nI (n := i + 1) (by omega) (by omega)) dL_law_420 ?_
  refine lv_tv (v := xs (i + 1)) (by rw [nI_clamp (by omega)]) ?_
  refine lv_aload_n hx hb dL_law_421 rfl (lv_at hl 0 rfl) ?_
  refine lv_iload_n hx hb dL_law_422 rfl (lv_at hl 3 rfl) ?_
  refine lv_iconst (v := nI 2) hx hb dL_law_423 (by decide) ?_
  refine lv_iadd hx hb dL_law_424 ?_
  refine lv_tv (v := nI (i + 2)) (nI_add i 2) ?_
  refine va_sld hx hb hX hbl hbA hS (vp_in_nI (n := i + 2) (by omega) (by omega)) dL_law_425 ?_
  refine lv_tv (v := xs (i + 2)) (by rw [nI_clamp (by omega)]) ?_
  refine CtI.cV (rest := [.int (mo_claim M (xs (i + 1)) (xs (i + 2)))]) (ci := 1) (C := RX1) (T := TX1) (N := 11) (cY_claim l D aY zY iY M (xs (i + 1)) (xs (i + 2))) S (lw_V q255 q256 q257 q16 q258) hdX1_claim rfl ⟨Nat.le_of_ble_eq_true rfl, Nat.le_of_ble_eq_true rfl⟩ rfl rfl hKY hP hD hS hA hl.1 rfl (Nat.le_of_ble_eq_true rfl) ⟨Nat.le_of_ble_eq_true rfl, Nat.le_of_ble_eq_true rfl⟩ dL_law_426 (fun H locs hP hD hS => ?_)
  refine lv_icmp_eq (tgt := 546) hx hb dL_law_429 (by decide) (fun c429 => ?_) (fun c429 => ?_)
  · exact kk M _ _ _ hJ hP hD hS hl
  · exact absurd rfl c429
set_option maxHeartbeats 4000000 in
set_option maxRecDepth 100000 in
/-- the law's case 8: kept -/
theorem law_case8 {p : Program} {e : Env} {s : State} {m : MethodId} {below : List Frame} {meth : Method} {c : Code} (l : Launch) {b L : Nat} {xs : Nat → Int32} (hL : L ≤ 320) (C0 : lw_At p s m meth c b L xs) {D : va_G} {aX aY : Nat → Nat} {zX iX zY iY : ClassId} (hKX : va_K D vwCl (tyZ zX iX) s) (hKY : va_K D vwCl (tyZ zY iY) s) {i : Nat} (hi : i + 5 ≤ L) {M : MS} (hJ : JJ M) (kk : ∀ (M : MS) (H : Heap) (locs : List Loc) (ls : Array Slot), JJ M → va_P D vwCl (wXY aX aY zX iX zY iY M) H → va_D (fun q : Nat => s.heap.size ≤ q) (wXY aX aY zX iX zY iY M) → va_S (fun q : Nat => s.heap.size ≤ q) s.heap H locs → lv_has ls 4 [(0, .ref b), (1, .ref (aX 0)), (2, .ref (aY 0)), (3, .int (nI i))] → W p l e room_1 s m #[Value.ref b] below meth c H locs 16 3690 (lw_Z below #[Value.ref b] s) (F0 m 546 ls [])) {H : Heap} {locs : List Loc} {ls : Array Slot} (hP : va_P D vwCl (wXY aX aY zX iX zY iY M) H) (hD : va_D (fun q : Nat => s.heap.size ≤ q) (wXY aX aY zX iX zY iY M)) (hS : va_S (fun q : Nat => s.heap.size ≤ q) s.heap H locs) (hl : lv_has ls 4 [(0, .ref b), (1, .ref (aX 0)), (2, .ref (aY 0)), (3, .int (nI i))]) : W p l e room_1 s m #[Value.ref b] below meth c H locs 16 3690 (lw_Z below #[Value.ref b] s) (F0 m 434 ls []) := by
  obtain ⟨hx, hb, hr, hml, hown, hts0, hX, hbl, hlocks, hgv⟩ := id C0
  have hts : ∀ w ∈ lw_all, w.before #[Value.ref b] s = true := fun w h => hts0 w (lw_all_tbl h)
  have S : CallFix p m c cL_law 4 s #[Value.ref b] lw_all R_law := ⟨hx, hb, hml, hown, hts⟩
  have hA : ∀ q : Nat, s.heap.size ≤ q → (fun q : Nat => s.heap.size ≤ q) q := fun _ h => h
  have hbA : ¬ (fun q : Nat => s.heap.size ≤ q) b := Nat.not_le.mpr hbl
  refine lv_aload_n hx hb dL_law_434 rfl (lv_at hl 1 rfl) ?_
  refine lv_aload_n hx hb dL_law_435 rfl (lv_at hl 0 rfl) ?_
  refine lv_iload_n hx hb dL_law_436 rfl (lv_at hl 3 rfl) ?_
  refine lv_iconst (v := nI 1) hx hb dL_law_437 (by decide) ?_
  refine lv_iadd hx hb dL_law_438 ?_
  refine lv_tv (v := nI (i + 1)) (nI_add i 1) ?_
  refine va_sld hx hb hX hbl hbA hS (vp_in_nI (n := i + 1) (by omega) (by omega)) dL_law_439 ?_
  refine lv_tv (v := xs (i + 1)) (by rw [nI_clamp (by omega)]) ?_
  refine lv_aload_n hx hb dL_law_440 rfl (lv_at hl 0 rfl) ?_
  refine lv_iload_n hx hb dL_law_441 rfl (lv_at hl 3 rfl) ?_
  refine lv_iconst (v := nI 2) hx hb dL_law_442 (by decide) ?_
  refine lv_iadd hx hb dL_law_443 ?_
  refine lv_tv (v := nI (i + 2)) (nI_add i 2) ?_
  refine va_sld hx hb hX hbl hbA hS (vp_in_nI (n := i + 2) (by omega) (by omega)) dL_law_444 ?_
  refine lv_tv (v := xs (i + 2)) (by rw [nI_clamp (by omega)]) ?_
  refine CtI.cV (rest := []) (ci := 0) (C := RX0) (T := TX0) (N := 11) (cX_kept l D aX zX iX M hJ.1 (xs (i + 1)) (xs (i + 2))) S (lw_V q136 q137 q138 q15 q139) hdX0_kept rfl ⟨Nat.le_of_ble_eq_true rfl, Nat.le_of_ble_eq_true rfl⟩ rfl rfl hKX hP hD hS hA hl.1 rfl (Nat.le_of_ble_eq_true rfl) ⟨Nat.le_of_ble_eq_true rfl, Nat.le_of_ble_eq_true rfl⟩ dL_law_445 (fun H locs hP hD hS => ?_)
  refine lv_aload_n hx hb dL_law_448 rfl (lv_at hl 2 rfl) ?_
  refine lv_aload_n hx hb dL_law_449 rfl (lv_at hl 0 rfl) ?_
  refine lv_iload_n hx hb dL_law_450 rfl (lv_at hl 3 rfl) ?_
  refine lv_iconst (v := nI 1) hx hb dL_law_451 (by decide) ?_
  refine lv_iadd hx hb dL_law_452 ?_
  refine lv_tv (v := nI (i + 1)) (nI_add i 1) ?_
  refine va_sld hx hb hX hbl hbA hS (vp_in_nI (n := i + 1) (by omega) (by omega)) dL_law_453 ?_
  refine lv_tv (v := xs (i + 1)) (by rw [nI_clamp (by omega)]) ?_
  refine lv_aload_n hx hb dL_law_454 rfl (lv_at hl 0 rfl) ?_
  refine lv_iload_n hx hb dL_law_455 rfl (lv_at hl 3 rfl) ?_
  refine lv_iconst (v := nI 2) hx hb dL_law_456 (by decide) ?_
  refine lv_iadd hx hb dL_law_457 ?_
  refine lv_tv (v := nI (i + 2)) (nI_add i 2) ?_
  refine va_sld hx hb hX hbl hbA hS (vp_in_nI (n := i + 2) (by omega) (by omega)) dL_law_458 ?_
  refine lv_tv (v := xs (i + 2)) (by rw [nI_clamp (by omega)]) ?_
  refine CtI.cV (rest := [.int (mo_kept M (xs (i + 1)) (xs (i + 2)))]) (ci := 1) (C := RX1) (T := TX1) (N := 11) (cY_kept l D aY zY iY M hJ.1 (xs (i + 1)) (xs (i + 2))) S (lw_V q259 q260 q261 q16 q262) hdX1_kept rfl ⟨Nat.le_of_ble_eq_true rfl, Nat.le_of_ble_eq_true rfl⟩ rfl rfl hKY hP hD hS hA hl.1 rfl (Nat.le_of_ble_eq_true rfl) ⟨Nat.le_of_ble_eq_true rfl, Nat.le_of_ble_eq_true rfl⟩ dL_law_459 (fun H locs hP hD hS => ?_)
  refine lv_icmp_eq (tgt := 546) hx hb dL_law_462 (by decide) (fun c462 => ?_) (fun c462 => ?_)
  · exact kk M _ _ _ hJ hP hD hS hl
  · exact absurd rfl c462
set_option maxHeartbeats 4000000 in
set_option maxRecDepth 100000 in
/-- the law's case 9: lost -/
theorem law_case9 {p : Program} {e : Env} {s : State} {m : MethodId} {below : List Frame} {meth : Method} {c : Code} (l : Launch) {b L : Nat} {xs : Nat → Int32} (hL : L ≤ 320) (C0 : lw_At p s m meth c b L xs) {D : va_G} {aX aY : Nat → Nat} {zX iX zY iY : ClassId} (hKX : va_K D vwCl (tyZ zX iX) s) (hKY : va_K D vwCl (tyZ zY iY) s) {i : Nat} (hi : i + 5 ≤ L) {M : MS} (hJ : JJ M) (kk : ∀ (M : MS) (H : Heap) (locs : List Loc) (ls : Array Slot), JJ M → va_P D vwCl (wXY aX aY zX iX zY iY M) H → va_D (fun q : Nat => s.heap.size ≤ q) (wXY aX aY zX iX zY iY M) → va_S (fun q : Nat => s.heap.size ≤ q) s.heap H locs → lv_has ls 4 [(0, .ref b), (1, .ref (aX 0)), (2, .ref (aY 0)), (3, .int (nI i))] → W p l e room_1 s m #[Value.ref b] below meth c H locs 16 3690 (lw_Z below #[Value.ref b] s) (F0 m 546 ls [])) {H : Heap} {locs : List Loc} {ls : Array Slot} (hP : va_P D vwCl (wXY aX aY zX iX zY iY M) H) (hD : va_D (fun q : Nat => s.heap.size ≤ q) (wXY aX aY zX iX zY iY M)) (hS : va_S (fun q : Nat => s.heap.size ≤ q) s.heap H locs) (hl : lv_has ls 4 [(0, .ref b), (1, .ref (aX 0)), (2, .ref (aY 0)), (3, .int (nI i))]) : W p l e room_1 s m #[Value.ref b] below meth c H locs 16 3690 (lw_Z below #[Value.ref b] s) (F0 m 467 ls []) := by
  obtain ⟨hx, hb, hr, hml, hown, hts0, hX, hbl, hlocks, hgv⟩ := id C0
  have hts : ∀ w ∈ lw_all, w.before #[Value.ref b] s = true := fun w h => hts0 w (lw_all_tbl h)
  have S : CallFix p m c cL_law 4 s #[Value.ref b] lw_all R_law := ⟨hx, hb, hml, hown, hts⟩
  have hA : ∀ q : Nat, s.heap.size ≤ q → (fun q : Nat => s.heap.size ≤ q) q := fun _ h => h
  have hbA : ¬ (fun q : Nat => s.heap.size ≤ q) b := Nat.not_le.mpr hbl
  refine lv_aload_n hx hb dL_law_467 rfl (lv_at hl 1 rfl) ?_
  refine lv_aload_n hx hb dL_law_468 rfl (lv_at hl 0 rfl) ?_
  refine lv_iload_n hx hb dL_law_469 rfl (lv_at hl 3 rfl) ?_
  refine lv_iconst (v := nI 1) hx hb dL_law_470 (by decide) ?_
  refine lv_iadd hx hb dL_law_471 ?_
  refine lv_tv (v := nI (i + 1)) (nI_add i 1) ?_
  refine va_sld hx hb hX hbl hbA hS (vp_in_nI (n := i + 1) (by omega) (by omega)) dL_law_472 ?_
  refine lv_tv (v := xs (i + 1)) (by rw [nI_clamp (by omega)]) ?_
  refine lv_aload_n hx hb dL_law_473 rfl (lv_at hl 0 rfl) ?_
  refine lv_iload_n hx hb dL_law_474 rfl (lv_at hl 3 rfl) ?_
  refine lv_iconst (v := nI 2) hx hb dL_law_475 (by decide) ?_
  refine lv_iadd hx hb dL_law_476 ?_
  refine lv_tv (v := nI (i + 2)) (nI_add i 2) ?_
  refine va_sld hx hb hX hbl hbA hS (vp_in_nI (n := i + 2) (by omega) (by omega)) dL_law_477 ?_
  refine lv_tv (v := xs (i + 2)) (by rw [nI_clamp (by omega)]) ?_
  refine CtI.cV (rest := []) (ci := 0) (C := RX0) (T := TX0) (N := 11) (cX_lost l D aX zX iX M hJ.1 (xs (i + 1)) (xs (i + 2))) S (lw_V q140 q141 q142 q15 q143) hdX0_lost rfl ⟨Nat.le_of_ble_eq_true rfl, Nat.le_of_ble_eq_true rfl⟩ rfl rfl hKX hP hD hS hA hl.1 rfl (Nat.le_of_ble_eq_true rfl) ⟨Nat.le_of_ble_eq_true rfl, Nat.le_of_ble_eq_true rfl⟩ dL_law_478 (fun H locs hP hD hS => ?_)
  refine lv_aload_n hx hb dL_law_481 rfl (lv_at hl 2 rfl) ?_
  refine lv_aload_n hx hb dL_law_482 rfl (lv_at hl 0 rfl) ?_
  refine lv_iload_n hx hb dL_law_483 rfl (lv_at hl 3 rfl) ?_
  refine lv_iconst (v := nI 1) hx hb dL_law_484 (by decide) ?_
  refine lv_iadd hx hb dL_law_485 ?_
  refine lv_tv (v := nI (i + 1)) (nI_add i 1) ?_
  refine va_sld hx hb hX hbl hbA hS (vp_in_nI (n := i + 1) (by omega) (by omega)) dL_law_486 ?_
  refine lv_tv (v := xs (i + 1)) (by rw [nI_clamp (by omega)]) ?_
  refine lv_aload_n hx hb dL_law_487 rfl (lv_at hl 0 rfl) ?_
  refine lv_iload_n hx hb dL_law_488 rfl (lv_at hl 3 rfl) ?_
  refine lv_iconst (v := nI 2) hx hb dL_law_489 (by decide) ?_
  refine lv_iadd hx hb dL_law_490 ?_
  refine lv_tv (v := nI (i + 2)) (nI_add i 2) ?_
  refine va_sld hx hb hX hbl hbA hS (vp_in_nI (n := i + 2) (by omega) (by omega)) dL_law_491 ?_
  refine lv_tv (v := xs (i + 2)) (by rw [nI_clamp (by omega)]) ?_
  refine CtI.cV (rest := [.int (b2i (mo_lost M (xs (i + 1)) (xs (i + 2))))]) (ci := 1) (C := RX1) (T := TX1) (N := 11) (cY_lost l D aY zY iY M hJ.1 (xs (i + 1)) (xs (i + 2))) S (lw_V q263 q264 q265 q16 q266) hdX1_lost rfl ⟨Nat.le_of_ble_eq_true rfl, Nat.le_of_ble_eq_true rfl⟩ rfl rfl hKY hP hD hS hA hl.1 rfl (Nat.le_of_ble_eq_true rfl) ⟨Nat.le_of_ble_eq_true rfl, Nat.le_of_ble_eq_true rfl⟩ dL_law_492 (fun H locs hP hD hS => ?_)
  refine lv_icmp_eq (tgt := 546) hx hb dL_law_495 (by decide) (fun c495 => ?_) (fun c495 => ?_)
  · exact kk M _ _ _ hJ hP hD hS hl
  · exact absurd rfl c495
set_option maxHeartbeats 4000000 in
set_option maxRecDepth 100000 in
/-- the law's case 10: sends -/
theorem law_case10 {p : Program} {e : Env} {s : State} {m : MethodId} {below : List Frame} {meth : Method} {c : Code} (l : Launch) {b L : Nat} {xs : Nat → Int32} (hL : L ≤ 320) (C0 : lw_At p s m meth c b L xs) {D : va_G} {aX aY : Nat → Nat} {zX iX zY iY : ClassId} (hKX : va_K D vwCl (tyZ zX iX) s) (hKY : va_K D vwCl (tyZ zY iY) s) {i : Nat} (hi : i + 5 ≤ L) {M : MS} (hJ : JJ M) (kk : ∀ (M : MS) (H : Heap) (locs : List Loc) (ls : Array Slot), JJ M → va_P D vwCl (wXY aX aY zX iX zY iY M) H → va_D (fun q : Nat => s.heap.size ≤ q) (wXY aX aY zX iX zY iY M) → va_S (fun q : Nat => s.heap.size ≤ q) s.heap H locs → lv_has ls 4 [(0, .ref b), (1, .ref (aX 0)), (2, .ref (aY 0)), (3, .int (nI i))] → W p l e room_1 s m #[Value.ref b] below meth c H locs 16 3690 (lw_Z below #[Value.ref b] s) (F0 m 546 ls [])) {H : Heap} {locs : List Loc} {ls : Array Slot} (hP : va_P D vwCl (wXY aX aY zX iX zY iY M) H) (hD : va_D (fun q : Nat => s.heap.size ≤ q) (wXY aX aY zX iX zY iY M)) (hS : va_S (fun q : Nat => s.heap.size ≤ q) s.heap H locs) (hl : lv_has ls 4 [(0, .ref b), (1, .ref (aX 0)), (2, .ref (aY 0)), (3, .int (nI i))]) : W p l e room_1 s m #[Value.ref b] below meth c H locs 16 3690 (lw_Z below #[Value.ref b] s) (F0 m 500 ls []) := by
  obtain ⟨hx, hb, hr, hml, hown, hts0, hX, hbl, hlocks, hgv⟩ := id C0
  have hts : ∀ w ∈ lw_all, w.before #[Value.ref b] s = true := fun w h => hts0 w (lw_all_tbl h)
  have S : CallFix p m c cL_law 4 s #[Value.ref b] lw_all R_law := ⟨hx, hb, hml, hown, hts⟩
  have hA : ∀ q : Nat, s.heap.size ≤ q → (fun q : Nat => s.heap.size ≤ q) q := fun _ h => h
  have hbA : ¬ (fun q : Nat => s.heap.size ≤ q) b := Nat.not_le.mpr hbl
  refine lv_aload_n hx hb dL_law_500 rfl (lv_at hl 1 rfl) ?_
  refine lv_aload_n hx hb dL_law_501 rfl (lv_at hl 0 rfl) ?_
  refine lv_iload_n hx hb dL_law_502 rfl (lv_at hl 3 rfl) ?_
  refine lv_iconst (v := nI 1) hx hb dL_law_503 (by decide) ?_
  refine lv_iadd hx hb dL_law_504 ?_
  refine lv_tv (v := nI (i + 1)) (nI_add i 1) ?_
  refine va_sld hx hb hX hbl hbA hS (vp_in_nI (n := i + 1) (by omega) (by omega)) dL_law_505 ?_
  refine lv_tv (v := xs (i + 1)) (by rw [nI_clamp (by omega)]) ?_
  refine CtI.cV (rest := []) (ci := 0) (C := RX0) (T := TX0) (N := 11) (cX_sends l D aX zX iX M hJ.1 (xs (i + 1))) S (lw_V q144 q145 q146 q15 q147) hdX0_sends rfl ⟨Nat.le_of_ble_eq_true rfl, Nat.le_of_ble_eq_true rfl⟩ rfl rfl hKX hP hD hS hA hl.1 rfl (Nat.le_of_ble_eq_true rfl) ⟨Nat.le_of_ble_eq_true rfl, Nat.le_of_ble_eq_true rfl⟩ dL_law_506 (fun H locs hP hD hS => ?_)
  refine lv_aload_n hx hb dL_law_509 rfl (lv_at hl 2 rfl) ?_
  refine lv_aload_n hx hb dL_law_510 rfl (lv_at hl 0 rfl) ?_
  refine lv_iload_n hx hb dL_law_511 rfl (lv_at hl 3 rfl) ?_
  refine lv_iconst (v := nI 1) hx hb dL_law_512 (by decide) ?_
  refine lv_iadd hx hb dL_law_513 ?_
  refine lv_tv (v := nI (i + 1)) (nI_add i 1) ?_
  refine va_sld hx hb hX hbl hbA hS (vp_in_nI (n := i + 1) (by omega) (by omega)) dL_law_514 ?_
  refine lv_tv (v := xs (i + 1)) (by rw [nI_clamp (by omega)]) ?_
  refine CtI.cV (rest := [.int (mo_sends M (xs (i + 1)))]) (ci := 1) (C := RX1) (T := TX1) (N := 11) (cY_sends l D aY zY iY M hJ.1 (xs (i + 1))) S (lw_V q267 q268 q269 q16 q270) hdX1_sends rfl ⟨Nat.le_of_ble_eq_true rfl, Nat.le_of_ble_eq_true rfl⟩ rfl rfl hKY hP hD hS hA hl.1 rfl (Nat.le_of_ble_eq_true rfl) ⟨Nat.le_of_ble_eq_true rfl, Nat.le_of_ble_eq_true rfl⟩ dL_law_515 (fun H locs hP hD hS => ?_)
  refine lv_icmp_eq (tgt := 546) hx hb dL_law_518 (by decide) (fun c518 => ?_) (fun c518 => ?_)
  · exact kk M _ _ _ hJ hP hD hS hl
  · exact absurd rfl c518
set_option maxHeartbeats 4000000 in
set_option maxRecDepth 100000 in
/-- the law's case 11: look -/
theorem law_case11 {p : Program} {e : Env} {s : State} {m : MethodId} {below : List Frame} {meth : Method} {c : Code} (l : Launch) {b L : Nat} {xs : Nat → Int32} (hL : L ≤ 320) (C0 : lw_At p s m meth c b L xs) {D : va_G} {aX aY : Nat → Nat} {zX iX zY iY : ClassId} (hKX : va_K D vwCl (tyZ zX iX) s) (hKY : va_K D vwCl (tyZ zY iY) s) {i : Nat} (hi : i + 5 ≤ L) {M : MS} (hJ : JJ M) (kk : ∀ (M : MS) (H : Heap) (locs : List Loc) (ls : Array Slot), JJ M → va_P D vwCl (wXY aX aY zX iX zY iY M) H → va_D (fun q : Nat => s.heap.size ≤ q) (wXY aX aY zX iX zY iY M) → va_S (fun q : Nat => s.heap.size ≤ q) s.heap H locs → lv_has ls 4 [(0, .ref b), (1, .ref (aX 0)), (2, .ref (aY 0)), (3, .int (nI i))] → W p l e room_1 s m #[Value.ref b] below meth c H locs 16 3690 (lw_Z below #[Value.ref b] s) (F0 m 546 ls [])) {H : Heap} {locs : List Loc} {ls : Array Slot} (hP : va_P D vwCl (wXY aX aY zX iX zY iY M) H) (hD : va_D (fun q : Nat => s.heap.size ≤ q) (wXY aX aY zX iX zY iY M)) (hS : va_S (fun q : Nat => s.heap.size ≤ q) s.heap H locs) (hl : lv_has ls 4 [(0, .ref b), (1, .ref (aX 0)), (2, .ref (aY 0)), (3, .int (nI i))]) : W p l e room_1 s m #[Value.ref b] below meth c H locs 16 3690 (lw_Z below #[Value.ref b] s) (F0 m 523 ls []) := by
  obtain ⟨hx, hb, hr, hml, hown, hts0, hX, hbl, hlocks, hgv⟩ := id C0
  have hts : ∀ w ∈ lw_all, w.before #[Value.ref b] s = true := fun w h => hts0 w (lw_all_tbl h)
  have S : CallFix p m c cL_law 4 s #[Value.ref b] lw_all R_law := ⟨hx, hb, hml, hown, hts⟩
  have hA : ∀ q : Nat, s.heap.size ≤ q → (fun q : Nat => s.heap.size ≤ q) q := fun _ h => h
  have hbA : ¬ (fun q : Nat => s.heap.size ≤ q) b := Nat.not_le.mpr hbl
  refine lv_aload_n hx hb dL_law_523 rfl (lv_at hl 1 rfl) ?_
  refine lv_aload_n hx hb dL_law_524 rfl (lv_at hl 0 rfl) ?_
  refine lv_iload_n hx hb dL_law_525 rfl (lv_at hl 3 rfl) ?_
  refine lv_iconst (v := nI 1) hx hb dL_law_526 (by decide) ?_
  refine lv_iadd hx hb dL_law_527 ?_
  refine lv_tv (v := nI (i + 1)) (nI_add i 1) ?_
  refine va_sld hx hb hX hbl hbA hS (vp_in_nI (n := i + 1) (by omega) (by omega)) dL_law_528 ?_
  refine lv_tv (v := xs (i + 1)) (by rw [nI_clamp (by omega)]) ?_
  refine CtI.cV (rest := []) (ci := 0) (C := RX0) (T := TX0) (N := 11) (cX_look l D aX zX iX M (xs (i + 1))) S (lw_V q148 q149 q150 q15 q151) hdX0_look rfl ⟨Nat.le_of_ble_eq_true rfl, Nat.le_of_ble_eq_true rfl⟩ rfl rfl hKX hP hD hS hA hl.1 rfl (Nat.le_of_ble_eq_true rfl) ⟨Nat.le_of_ble_eq_true rfl, Nat.le_of_ble_eq_true rfl⟩ dL_law_529 (fun H locs hP hD hS => ?_)
  refine lv_aload_n hx hb dL_law_532 rfl (lv_at hl 2 rfl) ?_
  refine lv_aload_n hx hb dL_law_533 rfl (lv_at hl 0 rfl) ?_
  refine lv_iload_n hx hb dL_law_534 rfl (lv_at hl 3 rfl) ?_
  refine lv_iconst (v := nI 1) hx hb dL_law_535 (by decide) ?_
  refine lv_iadd hx hb dL_law_536 ?_
  refine lv_tv (v := nI (i + 1)) (nI_add i 1) ?_
  refine va_sld hx hb hX hbl hbA hS (vp_in_nI (n := i + 1) (by omega) (by omega)) dL_law_537 ?_
  refine lv_tv (v := xs (i + 1)) (by rw [nI_clamp (by omega)]) ?_
  refine CtI.cV (rest := [.int (mo_look M (xs (i + 1)))]) (ci := 1) (C := RX1) (T := TX1) (N := 11) (cY_look l D aY zY iY M (xs (i + 1))) S (lw_V q271 q272 q273 q16 q274) hdX1_look rfl ⟨Nat.le_of_ble_eq_true rfl, Nat.le_of_ble_eq_true rfl⟩ rfl rfl hKY hP hD hS hA hl.1 rfl (Nat.le_of_ble_eq_true rfl) ⟨Nat.le_of_ble_eq_true rfl, Nat.le_of_ble_eq_true rfl⟩ dL_law_538 (fun H locs hP hD hS => ?_)
  refine lv_icmp_eq (tgt := 546) hx hb dL_law_541 (by decide) (fun c541 => ?_) (fun c541 => ?_)
  · exact kk M _ _ _ hJ hP hD hS hl
  · exact absurd rfl c541
set_option maxHeartbeats 4000000 in
set_option maxRecDepth 100000 in
/-- the law's loop at its head: i ints read; both objects hold M -/
theorem law_loop {p : Program} {e : Env} {s : State} {m : MethodId} {below : List Frame} {meth : Method} {c : Code} (l : Launch) {b L : Nat} {xs : Nat → Int32} (hL : L ≤ 320) (C0 : lw_At p s m meth c b L xs) {D : va_G} {aX aY : Nat → Nat} {zX iX zY iY : ClassId} (hKX : va_K D vwCl (tyZ zX iX) s) (hKY : va_K D vwCl (tyZ zY iY) s) : ∀ (n i : Nat) (M : MS) (H : Heap) (locs : List Loc) (ls : Array Slot), i ≤ 400 → L + 1 ≤ i + n → JJ M → va_P D vwCl (wXY aX aY zX iX zY iY M) H → va_D (fun q : Nat => s.heap.size ≤ q) (wXY aX aY zX iX zY iY M) → va_S (fun q : Nat => s.heap.size ≤ q) s.heap H locs → lv_has ls 4 [(0, .ref b), (1, .ref (aX 0)), (2, .ref (aY 0)), (3, .int (nI i))] → W p l e room_1 s m #[Value.ref b] below meth c H locs 16 3690 (lw_Z below #[Value.ref b] s) (F0 m 18 ls []) := by
  obtain ⟨hx, hb, hr, hml, hown, hts0, hX, hbl, hlocks, hgv⟩ := id C0
  have hts : ∀ w ∈ lw_all, w.before #[Value.ref b] s = true := fun w h => hts0 w (lw_all_tbl h)
  have S : CallFix p m c cL_law 4 s #[Value.ref b] lw_all R_law := ⟨hx, hb, hml, hown, hts⟩
  have hA : ∀ q : Nat, s.heap.size ≤ q → (fun q : Nat => s.heap.size ≤ q) q := fun _ h => h
  have hbA : ¬ (fun q : Nat => s.heap.size ≤ q) b := Nat.not_le.mpr hbl
  intro n
  induction n with
  | zero =>
    intro i M H locs ls hi h2 hJ hP hD hS hl
    have hd : ∀ q : Nat, q = 0 → q < 1 := fun q h => by omega
    refine lv_iload_n hx hb dL_law_18 rfl (lv_at hl 3 rfl) ?_
    refine lv_aload_n hx hb dL_law_19 rfl (lv_at hl 0 rfl) ?_
    refine va_slen hx hb hX hbl hbA hS dL_law_20 ?_
    refine lv_iconst (v := 5) hx hb dL_law_21 (by decide) ?_
    refine lv_isub hx hb dL_law_22 ?_
    refine lv_icmp_gt (tgt := 552) hx hb dL_law_23 (by decide) (fun c23 => ?_) (fun c23 => ?_)
    · refine lv_iconst (v := 1) hx hb dL_law_552 (by decide) ?_
      refine va_forget hS.2.2 ?_
      refine W.widen (k := 600000) (n := 7290000) (by omega) (by omega) ?_
      exact lw_ret hx hb hr hlocks dL_law_553
    · exact absurd ((law_cmp hL hi).mpr (by omega)) c23
  | succ n ih =>
    intro i M H locs ls hi h2 hJ hP hD hS hl
    refine lv_iload_n hx hb dL_law_18 rfl (lv_at hl 3 rfl) ?_
    refine lv_aload_n hx hb dL_law_19 rfl (lv_at hl 0 rfl) ?_
    refine va_slen hx hb hX hbl hbA hS dL_law_20 ?_
    refine lv_iconst (v := 5) hx hb dL_law_21 (by decide) ?_
    refine lv_isub hx hb dL_law_22 ?_
    refine lv_icmp_gt (tgt := 552) hx hb dL_law_23 (by decide) (fun c23 => ?_) (fun c23 => ?_)
    · refine lv_iconst (v := 1) hx hb dL_law_552 (by decide) ?_
      refine va_forget hS.2.2 ?_
      refine W.widen (k := 600000) (n := 7290000) (by omega) (by omega) ?_
      exact lw_ret hx hb hr hlocks dL_law_553
    · have hi5 : i + 5 ≤ L := by
        rcases Nat.lt_or_ge L (i + 5) with z | z
        · exact absurd ((law_cmp hL hi).mpr z) c23
        · exact z
      have kk : ∀ (M : MS) (H : Heap) (locs : List Loc) (ls : Array Slot), JJ M → va_P D vwCl (wXY aX aY zX iX zY iY M) H → va_D (fun q : Nat => s.heap.size ≤ q) (wXY aX aY zX iX zY iY M) → va_S (fun q : Nat => s.heap.size ≤ q) s.heap H locs → lv_has ls 4 [(0, .ref b), (1, .ref (aX 0)), (2, .ref (aY 0)), (3, .int (nI i))] → W p l e room_1 s m #[Value.ref b] below meth c H locs 16 3690 (lw_Z below #[Value.ref b] s) (F0 m 546 ls []) := by
        intro M H locs ls hJ hP hD hS hl
        refine lv_iinc (v := nI (i + 5)) (lv' := [(3, .int (nI (i + 5))), (0, .ref b), (1, .ref (aX 0)), (2, .ref (aY 0))]) hx hb dL_law_546 hl (k := 3) rfl (show nI i + nI 5 = nI (i + 5) from nI_add i 5) (by decide) rfl (fun ls hl => ?_)
        refine lv_goto (tgt := 18) hx hb dL_law_549 (by decide) ?_
        exact ih (i + 5) M _ _ _ (by omega) (by omega) hJ hP hD hS (lv_sub hl [1, 2, 3, 0] rfl)
      refine lv_aload_n hx hb dL_law_26 rfl (lv_at hl 0 rfl) ?_
      refine lv_iload_n hx hb dL_law_27 rfl (lv_at hl 3 rfl) ?_
      refine va_sld hx hb hX hbl hbA hS (vp_in_nI (n := i) (by omega) (by omega)) dL_law_28 ?_
      refine lv_bipush (v := 15) hx hb dL_law_29 (by decide) ?_
      refine lv_iand hx hb dL_law_31 ?_
      obtain ⟨v, hv, ev⟩ := pk_andE (xs (nI i).toNatClampNeg) (m := 15) 4 (by decide)
      refine lv_tv ev ?_
      by_cases h0 : v = 0
      · subst h0
        refine lv_tableIn (off := 64) (tgt := 96) hx hb dL_law_32 (by decide) (by decide) rfl (by decide) ?_
        exact law_case0 l hL C0 hKX hKY hi5 hJ kk hP hD hS hl
      · skip
        by_cases h1 : v = 1
        · subst h1
          refine lv_tableIn (off := 87) (tgt := 119) hx hb dL_law_32 (by decide) (by decide) rfl (by decide) ?_
          exact law_case1 l hL C0 hKX hKY hi5 hJ kk hP hD hS hl
        · skip
          by_cases h2 : v = 2
          · subst h2
            refine lv_tableIn (off := 146) (tgt := 178) hx hb dL_law_32 (by decide) (by decide) rfl (by decide) ?_
            exact law_case2 l hL C0 hKX hKY hi5 hJ kk hP hD hS hl
          · skip
            by_cases h3 : v = 3
            · subst h3
              refine lv_tableIn (off := 215) (tgt := 247) hx hb dL_law_32 (by decide) (by decide) rfl (by decide) ?_
              exact law_case3 l hL C0 hKX hKY hi5 hJ kk hP hD hS hl
            · skip
              by_cases h4 : v = 4
              · subst h4
                refine lv_tableIn (off := 264) (tgt := 296) hx hb dL_law_32 (by decide) (by decide) rfl (by decide) ?_
                exact law_case4 l hL C0 hKX hKY hi5 hJ kk hP hD hS hl
              · skip
                by_cases h5 : v = 5
                · subst h5
                  refine lv_tableIn (off := 313) (tgt := 345) hx hb dL_law_32 (by decide) (by decide) rfl (by decide) ?_
                  exact law_case5 l hL C0 hKX hKY hi5 hJ kk hP hD hS hl
                · skip
                  by_cases h6 : v = 6
                  · subst h6
                    refine lv_tableIn (off := 346) (tgt := 378) hx hb dL_law_32 (by decide) (by decide) rfl (by decide) ?_
                    exact law_case6 l hL C0 hKX hKY hi5 hJ kk hP hD hS hl
                  · skip
                    by_cases h7 : v = 7
                    · subst h7
                      refine lv_tableIn (off := 369) (tgt := 401) hx hb dL_law_32 (by decide) (by decide) rfl (by decide) ?_
                      exact law_case7 l hL C0 hKX hKY hi5 hJ kk hP hD hS hl
                    · skip
                      by_cases h8 : v = 8
                      · subst h8
                        refine lv_tableIn (off := 402) (tgt := 434) hx hb dL_law_32 (by decide) (by decide) rfl (by decide) ?_
                        exact law_case8 l hL C0 hKX hKY hi5 hJ kk hP hD hS hl
                      · skip
                        by_cases h9 : v = 9
                        · subst h9
                          refine lv_tableIn (off := 435) (tgt := 467) hx hb dL_law_32 (by decide) (by decide) rfl (by decide) ?_
                          exact law_case9 l hL C0 hKX hKY hi5 hJ kk hP hD hS hl
                        · skip
                          by_cases h10 : v = 10
                          · subst h10
                            refine lv_tableIn (off := 468) (tgt := 500) hx hb dL_law_32 (by decide) (by decide) rfl (by decide) ?_
                            exact law_case10 l hL C0 hKX hKY hi5 hJ kk hP hD hS hl
                          · skip
                            by_cases h11 : v = 11
                            · subst h11
                              refine lv_tableIn (off := 491) (tgt := 523) hx hb dL_law_32 (by decide) (by decide) rfl (by decide) ?_
                              exact law_case11 l hL C0 hKX hKY hi5 hJ kk hP hD hS hl
                            · skip
                              refine lv_tableOut (tgt := 546) hx hb dL_law_32 (Or.inr (by rw [nI_toInt (by omega)]; omega)) (by decide) ?_
                              exact kk M _ _ _ hJ hP hD hS hl
set_option maxHeartbeats 4000000 in
set_option maxRecDepth 100000 in
/-- THE LAW, from its entry -/
theorem whole_start {p : Program} {e : Env} {s : State} {m : MethodId} {below : List Frame} {meth : Method} {c : Code} (l : Launch) {b L : Nat} {xs : Nat → Int32} (hL : L ≤ 320) (C0 : lw_At p s m meth c b L xs) : W p l e room_1 s m #[Value.ref b] below meth c s.heap [] 0 0 (lw_Z below #[Value.ref b] s) (entryFrame m ([Value.ref b] : List Value).toArray 4) := by
  obtain ⟨hx, hb, hr, hml, hown, hts0, hX, hbl, hlocks, hgv⟩ := id C0
  have hts : ∀ w ∈ lw_all, w.before #[Value.ref b] s = true := fun w h => hts0 w (lw_all_tbl h)
  have S : CallFix p m c cL_law 4 s #[Value.ref b] lw_all R_law := ⟨hx, hb, hml, hown, hts⟩
  have hA : ∀ q : Nat, s.heap.size ≤ q → (fun q : Nat => s.heap.size ≤ q) q := fun _ h => h
  have hbA : ¬ (fun q : Nat => s.heap.size ≤ q) b := Nat.not_le.mpr hbl
  obtain ⟨c0, iS0, hKn0⟩ := u_known (C := RX0) (T := TX0) (N := 11) (n := 11) hts in_X0 (hts _ q18)
  obtain ⟨c1, iS1, hKn1⟩ := u_known (C := RX1) (T := TX1) (N := 11) (n := 11) hts in_X1 (hts _ q153)
  obtain ⟨D, hKc⟩ : ∃ D : va_G, ∀ (k : Nat) (q : vw_C), vwCl[k]? = some q → u_Kn s q.1 q.2.1 q.2.2 (D.1 k) (D.2 k) := by
    refine ⟨(fun k => if k = 0 then c0 else c1, fun k => if k = 0 then iS0 else iS1), ?_⟩
    intro k q hq
    match k, hq with
    | 0, hq => cases hq; exact hKn0
    | 1, hq => cases hq; exact hKn1
    | k + 2, hq => simp [vwCl] at hq
  have hS : va_S (fun q : Nat => s.heap.size ≤ q) s.heap s.heap [] := va_S.rf
  have hK : va_K D vwCl [] s := ⟨hKc, fun k q h => by simp at h⟩
  have hP : va_P D vwCl [] s.heap := ct_nilP
  have hD : va_D (fun q : Nat => s.heap.size ≤ q) [] := ct_nilD
  have hl := lv_entry ([.ref b]) (n := 4) (Nat.le_of_ble_eq_true rfl)
  rw [lg_entry_eq]
  generalize (lg_sl ([.ref b]) ++ List.replicate (4 - (lg_sl ([.ref b])).length) Slot.unset).toArray = ls at hl ⊢
  have hl : lv_has ls 4 [(0, .ref b)] := hl
  refine va_new (ci := 0) (fs := f0X) (C := RX0) (T := TX0) (N := 11) hx hb hts in_X0 tyX0 tyX0_ok hown (hts _ q17) (hts _ q18) (hts _ q15) hK hP hD hS hA rfl (fun j hj => by rcases (show j = 0 ∨ j = 1 ∨ j = 2 ∨ j = 3 ∨ j = 4 ∨ j = 5 ∨ j = 6 ∨ j = 7 ∨ j = 8 ∨ j = 9 ∨ j = 10 by omega) with rfl | rfl | rfl | rfl | rfl | rfl | rfl | rfl | rfl | rfl | rfl <;> rfl) (Nat.le_of_ble_eq_true rfl) (Nat.le_of_ble_eq_true rfl) dL_law_0 (fun qX H hP hD hS => ?_)
  have hP : va_P D vwCl ([(qX, .inr (0, f0X))] ++ []) H := hP
  have hD : va_D (fun q : Nat => s.heap.size ≤ q) ([(qX, .inr (0, f0X))] ++ []) := hD
  refine W.widen (k := 1) (n := 11) (by omega) (by omega) ?_
  refine lv_dup hx hb dL_law_3 rfl ?_
  have hFc := ct_fr hD hS hA
  refine va_callv (va_runI (As := []) (rest := [.ref qX]) S (cX_init l D qX H.size) (cwI 0 hts (lw_meth q21) rfl rfl rfl (hts _ q15) (hts _ q19) (hts _ q20) rfl (by decide +kernel) ⟨Nat.le_of_ble_eq_true rfl, Nat.le_of_ble_eq_true rfl⟩) ⟨ct_blind, ct_pre hK (ct_l hP) (ctD_l hD) _⟩ rfl rfl hl.1 rfl (lv_room (Nat.le_of_ble_eq_true rfl)) dL_law_4 ⟨Nat.le_of_ble_eq_true rfl, Nat.le_of_ble_eq_true rfl⟩) hS (fun q _ h => hFc q h) hFc (fun u t H1 locs1 ht hvm hw hB hz hk hS => ?_)
  obtain ⟨aX, zX, iX⟩ := u
  have hw : aX 0 = qX := hw
  subst hw
  have hB : ctB D (tyZ zX iX) (va_A [(aX 0, .inr (0, f0X))] H.size) (wX aX zX iX M0_) t := hB
  obtain ⟨hP1, hK1, hD1⟩ := hB
  rw [ht] at hP1
  have hKX := va_K.moved hvm.symm hK1
  obtain ⟨hP, hD⟩ := ct_back hP hD hFc hk hP1 hD1
  have hP : va_P D vwCl (wX aX zX iX M0_) H1 := hP
  have hD : va_D (fun q : Nat => s.heap.size ≤ q) (wX aX zX iX M0_) := hD
  refine W.widen (k := 7) (n := 1835) (by omega) (by omega) ?_
  refine lv_astore_n (lv' := [(1, .ref (aX 0)), (0, .ref b)]) hx hb dL_law_7 rfl hl (by decide) rfl (fun ls hl => ?_)
  refine va_new (ci := 1) (fs := f0Y) (C := RX1) (T := TX1) (N := 11) hx hb hts in_X1 tyX1 tyX1_ok hown (hts _ q152) (hts _ q153) (hts _ q16) hK hP hD hS hA rfl (fun j hj => by rcases (show j = 0 ∨ j = 1 ∨ j = 2 ∨ j = 3 ∨ j = 4 ∨ j = 5 ∨ j = 6 ∨ j = 7 ∨ j = 8 ∨ j = 9 ∨ j = 10 by omega) with rfl | rfl | rfl | rfl | rfl | rfl | rfl | rfl | rfl | rfl | rfl <;> rfl) (Nat.le_of_ble_eq_true rfl) (Nat.le_of_ble_eq_true rfl) dL_law_8 (fun qY H hP hD hS => ?_)
  have hP := law_swP hP
  have hD := law_swD hD
  refine W.widen (k := 8) (n := 1846) (by omega) (by omega) ?_
  refine lv_dup hx hb dL_law_11 rfl ?_
  have hFc := ct_fr hD hS hA
  refine va_callv (va_runI (As := []) (rest := [.ref qY]) S (cY_init l D qY H.size) (cwI 0 hts (lw_meth q156) rfl rfl rfl (hts _ q16) (hts _ q154) (hts _ q155) rfl (by decide +kernel) ⟨Nat.le_of_ble_eq_true rfl, Nat.le_of_ble_eq_true rfl⟩) ⟨ct_blind, ct_pre hK (ct_l hP) (ctD_l hD) _⟩ rfl rfl hl.1 rfl (lv_room (Nat.le_of_ble_eq_true rfl)) dL_law_12 ⟨Nat.le_of_ble_eq_true rfl, Nat.le_of_ble_eq_true rfl⟩) hS (fun q _ h => hFc q h) hFc (fun u t H1 locs1 ht hvm hw hB hz hk hS => ?_)
  obtain ⟨aY, zY, iY⟩ := u
  have hw : aY 0 = qY := hw
  subst hw
  have hB : ctB D (tyZ zY iY) (va_A [(aY 0, .inr (1, f0Y))] H.size) (wY aY zY iY (kY M0_) M0_) t := hB
  obtain ⟨hP1, hK1, hD1⟩ := hB
  rw [ht] at hP1
  have hKY := va_K.moved hvm.symm hK1
  obtain ⟨hP, hD⟩ := ct_back hP hD hFc hk hP1 hD1
  refine W.widen (k := 16) (n := 3690) (by omega) (by omega) ?_
  refine lv_astore_n (lv' := [(2, .ref (aY 0)), (1, .ref (aX 0)), (0, .ref b)]) hx hb dL_law_15 rfl hl (by decide) rfl (fun ls hl => ?_)
  refine lv_iconst (v := nI 0) hx hb dL_law_16 (by decide) ?_
  refine lv_istore_n (lv' := [(3, .int (nI 0)), (2, .ref (aY 0)), (1, .ref (aX 0)), (0, .ref b)]) hx hb dL_law_17 rfl hl (by decide) rfl (fun ls hl => ?_)
  exact law_loop l hL C0 hKX hKY (L + 1) 0 M0_ _ _ _ (by omega) (by omega) JJ_0 hP hD hS (lv_sub hl [3, 2, 1, 0] rfl)
end
section
set_option maxHeartbeats 4000000 in
theorem lw_walk (l : Launch) (b : Addr) (xs : List Int32) : MetFree l x (headSpec (Jvm.Cond.code x code maxLocals ret :: tables_1) room_1) (lw_P b xs) (fun _ _ _ _ _ => True) lw_Q := by
  refine MetFree.of_bodyS (code := code) (maxLocals := maxLocals) (ret := ret) (by decide) ?_ ?_
  · intro args s m h hn
    obtain ⟨meth, c, h1, h2, h3, h4, h5, h6, -, -⟩ := Cond.code_spec hn (atoms_spec (ws := Jvm.Cond.code x code maxLocals ret :: tables_1) h _ List.mem_cons_self)
    exact ⟨meth, c, h1, h2, h3, h4, h5, h6⟩
  · intro p e s m args below meth c s₁ B hml0 hP _
    obtain ⟨rfl, hx, hbd, hgv⟩ := hP
    obtain ⟨scr, harrAt, hlist, hof, hsmall⟩ := hx
    obtain ⟨hcb, hkn, -, -⟩ := State.arrayAt?_spec harrAt
    have hown : s.vm.findClass R_law = some m.cls := findClass_of_methodNamed B.named
    have hts0 : ∀ c ∈ (Jvm.Cond.code x code maxLocals ret :: tables_1), c.before #[Value.ref b] s = true := atoms_spec (ws := Jvm.Cond.code x code maxLocals ret :: tables_1) B.pre
    have hts : ∀ w ∈ lw_tbl, w.before #[Value.ref b] s = true := k2_hts_sels lw_privs (fun w hw => hts0 w (List.mem_cons_of_mem _ hw)) lw_privs_ok
    have hml : c.maxLocals = 4 := B.maxLocals_eq (hts0 _ List.mem_cons_self)
    have X₀ : Stand p l e room_1 s m #[Value.ref b] below meth c s₁ [] 0 0 := Stand.of_body B
    have hh0 : s₁.heap = s.heap := by rw [B.state]; rfl
    have hsz : scr.slots.size = xs.length := by rw [← Array.length_toList, hlist, List.length_map]
    have hval : ∀ j : Nat, j < xs.length → scr.slots[j]? = some (.int (xs.getD j 0)) := fun j hj => by
      rw [← Array.getElem?_toList, hlist]
      simp [hj]
    have hbl : b < s.heap.size := (Array.getElem?_eq_some_iff.mp hcb).1
    have hX : va_X b xs.length (fun j => xs.getD j 0) s s.heap := ⟨scr, hcb, hof, hkn, hsz, hval⟩
    have K : W p l e room_1 s m #[Value.ref b] below meth c s₁.heap [] 0 0 (lw_Z below #[Value.ref b] s) (entryFrame m ([Value.ref b] : List Value).toArray 4) := by
      rw [hh0]
      exact whole_start l hbd ⟨B.exec, B.bytes, B.returns, hml, hown, hts, hX, hbl, B.notSynchronized, hgv⟩
    obtain ⟨t, a1, o, b1, b2, b3⟩ := K s₁ rfl X₀
    exact ⟨t, o, a1, b1, b2, b3⟩
theorem lw_pre_spec {args : Array Value} {s : State} (h : (Jvm.Cond.and given_1 narrow_1).before args s = true) (hr : rest_1_c.before args s = true) : ∃ (b : Addr) (xs : List Int32), lw_P b xs args s := by
  have hs := flat_of_before _ h
  have hq := flat_of_before _ hr
  have hc : (Cond.count 1).before args s = true := hs _ (by decide +kernel)
  have harr : (Cond.arrayOf (.arg 0) .int).before args s = true := hs _ (by decide +kernel)
  have hle : (Cond.le (.length (.arg 0)) (.int 320)).before args s = true := hs _ (by decide +kernel)
  have hlen : (Cond.isInt (.length (.arg 0))).before args s = true := hq _ (by decide +kernel)
  have hall : (Cond.all (.arg 0) (.isInt (.elem (.arg 0) (.index 0)))).before args s = true := hq _ (by decide +kernel)
  obtain ⟨b, xs, hb, hx⟩ := State.ints_of_pre rfl harr hlen hall
  have hsm : xs.length < 2 ^ 31 := hx.choose_spec.2.2.2
  have hev : (Term.length (.arg 0)).eval args s none [] s = some (.int xs.length.toInt32) := hx.length_eval hb
  have hv := Cond.le_ints hev (show (Term.int 320).eval args s none [] s = some (.int 320) from rfl)
  have hd : xs.length.toInt32 ≤ 320 := by
    simpa [Cond.before, Cond.holds, hv] using hle
  have hN : xs.length ≤ 320 := (Int32.ofNat_le_ofNat hsm (by decide)).mp (show Int32.ofNat xs.length ≤ Int32.ofNat 320 from hd)
  exact ⟨b, xs, Cond.one_arg hc (show args[0]? = some (.ref b) from hb), hx, hN, h⟩
theorem lw_comes (l : Launch) : Comes l x (Jvm.Cond.code x code maxLocals ret :: tables_1) room_1 (fun tb e args s => Calls_1 tb e args s ∧ rest_1 tb e args s ∧ Pre_1 tb e args s)
    (fun _ _ args s o t => lw_Q args s o t) := by
  intro p e ha hc hk s m args below hf hfit hheap happ hpre
  obtain ⟨b, xs, hP⟩ := lw_pre_spec hpre.2.2 hpre.2.1
  obtain ⟨k, o, h1, h2, h3, hQ⟩ := lw_walk l b xs p e ha hc hk s m args below hf ((Spec.applies_iff_loose hf).mp happ).1 hP trivial
  exact ⟨k, o, h1, h2, h3, hQ⟩
theorem lw_frame {s t : State} {o : Outcome} {args : Array Value} (h : Framed s o t [] 600000 7290000) :
    Framed s o t (fieldLocs frame_1_writes args s ++ arrayLocs frame_1_arrays args s ++ staticLocs frame_1_statics s) 600000 7290000 := h
theorem lw_limb (L : Cond) (hL : ∀ (args : Array Value) (s t : State), L.after args s (.returned (some (.int 1))) t = true) :
    ArmFor flags0 classFile x code maxLocals ret World_1 tables_1 room_1 Calls_1 rest_1 Pre_1
      (fun tb e a s o t => postC L tb e a s o t ∧ Framed s o t (fieldLocs frame_1_writes a s ++ arrayLocs frame_1_arrays a s ++ staticLocs frame_1_statics s) 600000 7290000) := by
  intro l _ _ _ p e ha hc hk s m args below hf hfit hheap happ hpre
  obtain ⟨k, o, h1, h2, h3, rfl, hF⟩ := lw_comes l p e ha hc hk s m args below hf hfit hheap happ hpre
  exact ⟨k, _, h1, h2, h3, hL args s _, lw_frame hF⟩
theorem i_vc : Claimed_1_1 ∧ Claimed_1_2 := ⟨lw_limb limb_1_1 (fun args s t => by simp [limb_1_1, Cond.after, Cond.holds, Cond.value]), lw_limb limb_1_2 (fun args s t => Cond.after_iff.mpr (by
  first | (rw [show limb_1_2 = Cond.eq .result (.int 1) from rfl, Cond.eq_ints (x := 1) (y := 1) rfl rfl]; simp; done) | (simp [limb_1_2, Cond.value, Term.eval]; done)))⟩
end
