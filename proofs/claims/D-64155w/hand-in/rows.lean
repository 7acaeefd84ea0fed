section
-- ===== PART A: goes FIRST, ahead of the names: the tables' words, and 'selects' of the private methods out of them =====
/-- a private method of a class that the tables say can be made, by its rows of tables_1 -/
def lw_okq (q : MethodName × Nat) : Prop := (q.1.cls ≠ "java/lang/invoke/MethodHandle" ∧ q.1.cls ≠ "java/lang/invoke/VarHandle") ∧ Cond.instantiable q.1.cls q.2 ∈ tables_1 ∧ Cond.privateMethod q.1 ∈ tables_1 ∧ Cond.instanceMethod q.1 ∈ tables_1
set_option maxRecDepth 100000
theorem lw_t1 {w : Cond} (h : w ∈ tables_1_1) : w ∈ tables_1 := List.mem_append_left _ h
theorem lw_t2 {w : Cond} (h : w ∈ tables_1_2) : w ∈ tables_1 := List.mem_append_right _ h
theorem lw_p0 : lw_okq (⟨"ProcessNetwork", "restart", "()V"⟩, 13) := ⟨⟨by decide +kernel, by decide +kernel⟩, lw_t1 (List.mem_of_getElem? (i := 4) rfl), lw_t1 (List.mem_of_getElem? (i := 12) rfl), lw_t1 (List.mem_of_getElem? (i := 13) rfl)⟩
theorem lw_p1 : lw_okq (⟨"ProcessNetwork", "wake", "(I)V"⟩, 13) := ⟨⟨by decide +kernel, by decide +kernel⟩, lw_t1 (List.mem_of_getElem? (i := 4) rfl), lw_t1 (List.mem_of_getElem? (i := 16) rfl), lw_t1 (List.mem_of_getElem? (i := 17) rfl)⟩
theorem lw_p2 : lw_okq (⟨"ProcessNetwork", "run", "(II)V"⟩, 13) := ⟨⟨by decide +kernel, by decide +kernel⟩, lw_t1 (List.mem_of_getElem? (i := 4) rfl), lw_t1 (List.mem_of_getElem? (i := 73) rfl), lw_t1 (List.mem_of_getElem? (i := 74) rfl)⟩
theorem lw_p3 : lw_okq (⟨"ProcessNetwork", "step", "(I)Z"⟩, 13) := ⟨⟨by decide +kernel, by decide +kernel⟩, lw_t1 (List.mem_of_getElem? (i := 4) rfl), lw_t1 (List.mem_of_getElem? (i := 77) rfl), lw_t1 (List.mem_of_getElem? (i := 78) rfl)⟩
theorem lw_p4 : lw_okq (⟨"ProcessNetwork", "make", "(II)Z"⟩, 13) := ⟨⟨by decide +kernel, by decide +kernel⟩, lw_t1 (List.mem_of_getElem? (i := 4) rfl), lw_t1 (List.mem_of_getElem? (i := 81) rfl), lw_t1 (List.mem_of_getElem? (i := 82) rfl)⟩
theorem lw_p5 : lw_okq (⟨"ProcessNetwork", "stepPair", "(I)Z"⟩, 13) := ⟨⟨by decide +kernel, by decide +kernel⟩, lw_t1 (List.mem_of_getElem? (i := 4) rfl), lw_t1 (List.mem_of_getElem? (i := 85) rfl), lw_t1 (List.mem_of_getElem? (i := 86) rfl)⟩
theorem lw_p6 : lw_okq (⟨"ProcessNetwork", "hasX", "(I)Z"⟩, 13) := ⟨⟨by decide +kernel, by decide +kernel⟩, lw_t1 (List.mem_of_getElem? (i := 4) rfl), lw_t1 (List.mem_of_getElem? (i := 89) rfl), lw_t1 (List.mem_of_getElem? (i := 90) rfl)⟩
theorem lw_p7 : lw_okq (⟨"ProcessNetwork", "hasY", "(I)Z"⟩, 13) := ⟨⟨by decide +kernel, by decide +kernel⟩, lw_t1 (List.mem_of_getElem? (i := 4) rfl), lw_t1 (List.mem_of_getElem? (i := 93) rfl), lw_t1 (List.mem_of_getElem? (i := 94) rfl)⟩
theorem lw_p8 : lw_okq (⟨"ProcessNetwork", "takeX", "(I)I"⟩, 13) := ⟨⟨by decide +kernel, by decide +kernel⟩, lw_t1 (List.mem_of_getElem? (i := 4) rfl), lw_t1 (List.mem_of_getElem? (i := 97) rfl), lw_t1 (List.mem_of_getElem? (i := 98) rfl)⟩
theorem lw_p9 : lw_okq (⟨"ProcessNetwork", "takeY", "(I)I"⟩, 13) := ⟨⟨by decide +kernel, by decide +kernel⟩, lw_t1 (List.mem_of_getElem? (i := 4) rfl), lw_t1 (List.mem_of_getElem? (i := 101) rfl), lw_t1 (List.mem_of_getElem? (i := 102) rfl)⟩
theorem lw_p10 : lw_okq (⟨"ProcessNetwork", "stepTurn", "(I)Z"⟩, 13) := ⟨⟨by decide +kernel, by decide +kernel⟩, lw_t1 (List.mem_of_getElem? (i := 4) rfl), lw_t1 (List.mem_of_getElem? (i := 105) rfl), lw_t1 (List.mem_of_getElem? (i := 106) rfl)⟩
theorem lw_p11 : lw_okq (⟨"ProcessNetwork", "stepOdd", "(I)Z"⟩, 13) := ⟨⟨by decide +kernel, by decide +kernel⟩, lw_t1 (List.mem_of_getElem? (i := 4) rfl), lw_t1 (List.mem_of_getElem? (i := 109) rfl), lw_t1 (List.mem_of_getElem? (i := 110) rfl)⟩
theorem lw_p12 : lw_okq (⟨"ProcessNetwork", "stepDelay", "(I)Z"⟩, 13) := ⟨⟨by decide +kernel, by decide +kernel⟩, lw_t1 (List.mem_of_getElem? (i := 4) rfl), lw_t1 (List.mem_of_getElem? (i := 113) rfl), lw_t1 (List.mem_of_getElem? (i := 114) rfl)⟩
theorem lw_p13 : lw_okq (⟨"ProcessNetwork", "stepSum", "(I)Z"⟩, 13) := ⟨⟨by decide +kernel, by decide +kernel⟩, lw_t1 (List.mem_of_getElem? (i := 4) rfl), lw_t1 (List.mem_of_getElem? (i := 117) rfl), lw_t1 (List.mem_of_getElem? (i := 118) rfl)⟩
theorem lw_p14 : lw_okq (⟨"ProcessNetwork", "settle", "()V"⟩, 13) := ⟨⟨by decide +kernel, by decide +kernel⟩, lw_t1 (List.mem_of_getElem? (i := 4) rfl), lw_t1 (List.mem_of_getElem? (i := 129) rfl), lw_t1 (List.mem_of_getElem? (i := 130) rfl)⟩
theorem lw_p15 : lw_okq (⟨"ProcessNetworkModel", "bad", "(I)Z"⟩, 7) := ⟨⟨by decide +kernel, by decide +kernel⟩, lw_t1 (List.mem_of_getElem? (i := 153) rfl), lw_t1 (List.mem_of_getElem? (i := 185) rfl), lw_t1 (List.mem_of_getElem? (i := 186) rfl)⟩
def lw_privs_1 : List (MethodName × Nat) := [(⟨"ProcessNetwork", "restart", "()V"⟩, 13), (⟨"ProcessNetwork", "wake", "(I)V"⟩, 13), (⟨"ProcessNetwork", "run", "(II)V"⟩, 13), (⟨"ProcessNetwork", "step", "(I)Z"⟩, 13), (⟨"ProcessNetwork", "make", "(II)Z"⟩, 13), (⟨"ProcessNetwork", "stepPair", "(I)Z"⟩, 13), (⟨"ProcessNetwork", "hasX", "(I)Z"⟩, 13), (⟨"ProcessNetwork", "hasY", "(I)Z"⟩, 13), (⟨"ProcessNetwork", "takeX", "(I)I"⟩, 13), (⟨"ProcessNetwork", "takeY", "(I)I"⟩, 13), (⟨"ProcessNetwork", "stepTurn", "(I)Z"⟩, 13), (⟨"ProcessNetwork", "stepOdd", "(I)Z"⟩, 13), (⟨"ProcessNetwork", "stepDelay", "(I)Z"⟩, 13), (⟨"ProcessNetwork", "stepSum", "(I)Z"⟩, 13), (⟨"ProcessNetwork", "settle", "()V"⟩, 13), (⟨"ProcessNetworkModel", "bad", "(I)Z"⟩, 7)]
theorem lw_r1 : ∀ q ∈ lw_privs_1, lw_okq q := List.forall_mem_cons.mpr ⟨lw_p0, List.forall_mem_cons.mpr ⟨lw_p1, List.forall_mem_cons.mpr ⟨lw_p2, List.forall_mem_cons.mpr ⟨lw_p3, List.forall_mem_cons.mpr ⟨lw_p4, List.forall_mem_cons.mpr ⟨lw_p5, List.forall_mem_cons.mpr ⟨lw_p6, List.forall_mem_cons.mpr ⟨lw_p7, List.forall_mem_cons.mpr ⟨lw_p8, List.forall_mem_cons.mpr ⟨lw_p9, List.forall_mem_cons.mpr ⟨lw_p10, List.forall_mem_cons.mpr ⟨lw_p11, List.forall_mem_cons.mpr ⟨lw_p12, List.forall_mem_cons.mpr ⟨lw_p13, List.forall_mem_cons.mpr ⟨lw_p14, List.forall_mem_cons.mpr ⟨lw_p15, fun _ h => absurd h List.not_mem_nil⟩⟩⟩⟩⟩⟩⟩⟩⟩⟩⟩⟩⟩⟩⟩⟩
theorem lw_p16 : lw_okq (⟨"ProcessNetworkModel", "workOut", "()V"⟩, 7) := ⟨⟨by decide +kernel, by decide +kernel⟩, lw_t1 (List.mem_of_getElem? (i := 153) rfl), lw_t1 (List.mem_of_getElem? (i := 201) rfl), lw_t1 (List.mem_of_getElem? (i := 202) rfl)⟩
theorem lw_p17 : lw_okq (⟨"ProcessNetworkModel", "stream", "(I)I"⟩, 7) := ⟨⟨by decide +kernel, by decide +kernel⟩, lw_t1 (List.mem_of_getElem? (i := 153) rfl), lw_t1 (List.mem_of_getElem? (i := 205) rfl), lw_t1 (List.mem_of_getElem? (i := 206) rfl)⟩
theorem lw_p18 : lw_okq (⟨"ProcessNetworkModel", "start", "(I)I"⟩, 7) := ⟨⟨by decide +kernel, by decide +kernel⟩, lw_t1 (List.mem_of_getElem? (i := 153) rfl), lw_t1 (List.mem_of_getElem? (i := 209) rfl), lw_t1 (List.mem_of_getElem? (i := 210) rfl)⟩
theorem lw_p19 : lw_okq (⟨"ProcessNetworkModel", "put", "(III)I"⟩, 7) := ⟨⟨by decide +kernel, by decide +kernel⟩, lw_t1 (List.mem_of_getElem? (i := 153) rfl), lw_t1 (List.mem_of_getElem? (i := 213) rfl), lw_t1 (List.mem_of_getElem? (i := 214) rfl)⟩
theorem lw_p20 : lw_okq (⟨"ProcessNetworkModel", "add", "(I)I"⟩, 7) := ⟨⟨by decide +kernel, by decide +kernel⟩, lw_t1 (List.mem_of_getElem? (i := 153) rfl), lw_t1 (List.mem_of_getElem? (i := 217) rfl), lw_t1 (List.mem_of_getElem? (i := 218) rfl)⟩
theorem lw_p21 : lw_okq (⟨"ProcessNetworkModel", "turn", "(I)I"⟩, 7) := ⟨⟨by decide +kernel, by decide +kernel⟩, lw_t1 (List.mem_of_getElem? (i := 153) rfl), lw_t1 (List.mem_of_getElem? (i := 221) rfl), lw_t1 (List.mem_of_getElem? (i := 222) rfl)⟩
theorem lw_p22 : lw_okq (⟨"ProcessNetworkModel", "merge", "(I)I"⟩, 7) := ⟨⟨by decide +kernel, by decide +kernel⟩, lw_t1 (List.mem_of_getElem? (i := 153) rfl), lw_t1 (List.mem_of_getElem? (i := 225) rfl), lw_t1 (List.mem_of_getElem? (i := 226) rfl)⟩
theorem lw_p23 : lw_okq (⟨"ProcessNetworkModel", "one", "(I)I"⟩, 7) := ⟨⟨by decide +kernel, by decide +kernel⟩, lw_t1 (List.mem_of_getElem? (i := 153) rfl), lw_t1 (List.mem_of_getElem? (i := 229) rfl), lw_t1 (List.mem_of_getElem? (i := 230) rfl)⟩
def lw_privs_2 : List (MethodName × Nat) := [(⟨"ProcessNetworkModel", "workOut", "()V"⟩, 7), (⟨"ProcessNetworkModel", "stream", "(I)I"⟩, 7), (⟨"ProcessNetworkModel", "start", "(I)I"⟩, 7), (⟨"ProcessNetworkModel", "put", "(III)I"⟩, 7), (⟨"ProcessNetworkModel", "add", "(I)I"⟩, 7), (⟨"ProcessNetworkModel", "turn", "(I)I"⟩, 7), (⟨"ProcessNetworkModel", "merge", "(I)I"⟩, 7), (⟨"ProcessNetworkModel", "one", "(I)I"⟩, 7)]
theorem lw_r2 : ∀ q ∈ lw_privs_2, lw_okq q := List.forall_mem_cons.mpr ⟨lw_p16, List.forall_mem_cons.mpr ⟨lw_p17, List.forall_mem_cons.mpr ⟨lw_p18, List.forall_mem_cons.mpr ⟨lw_p19, List.forall_mem_cons.mpr ⟨lw_p20, List.forall_mem_cons.mpr ⟨lw_p21, List.forall_mem_cons.mpr ⟨lw_p22, List.forall_mem_cons.mpr ⟨lw_p23, fun _ h => absurd h List.not_mem_nil⟩⟩⟩⟩⟩⟩⟩⟩
def lw_privs : List (MethodName × Nat) := lw_privs_1 ++ (lw_privs_2)
def lw_tbl : List Cond := k2_sels lw_privs ++ tables_1
theorem lw_privs_ok : ∀ q ∈ lw_privs, lw_okq q := by
  show ∀ q ∈ lw_privs_1 ++ (lw_privs_2), lw_okq q
  exact List.forall_mem_append.mpr ⟨lw_r1, lw_r2⟩
-- ===== ONE list of words for every method: the tables' words that hold all through a run =====
def lw_all : List Cond := lw_tbl.filter goodWord
/-- a word of the tables by its place: claim/WORDS.tsv -/
theorem lw_w {w : Cond} (i : Nat) (h : lw_tbl[i]? = some w) (g : goodWord w = true) : w ∈ lw_all := List.mem_filter.mpr ⟨List.mem_of_getElem? h, g⟩
theorem lw_all_tbl {w : Cond} (h : w ∈ lw_all) : w ∈ lw_tbl := (List.mem_filter.mp h).1
theorem lw_self : GoodIn lw_all lw_all := fun w h => ⟨h, good_of_word (List.mem_filter.mp h).2⟩
/-- a class's field words, by their places -/
theorem lw_in (ws : List Cond) (ps : List Nat) (hp : ws = ps.filterMap (fun i => lw_tbl[i]?)) (hg : ws.all goodWord = true) : ∀ w ∈ ws, w ∈ lw_all := by
  intro w h
  have h1 := List.all_eq_true.mp hg w h
  rw [hp] at h
  obtain ⟨i, -, hi⟩ := List.mem_filterMap.mp h
  exact lw_w i hi h1
/-- the words of a contract for the method y with code b, L locals, answer r -/
abbrev ws_ (y : MethodName) (b : ByteArray) (L : Nat) (r : Option FieldType) : List Cond := Cond.code y b L r :: lw_all
theorem lw_meth {y : MethodName} {b : ByteArray} {L : Nat} {r : Option FieldType} (h : Cond.code y b L r ∈ lw_all) : GoodIn lw_all (ws_ y b L r) := by
  intro w hw
  rcases List.mem_cons.mp hw with e | e
  · rw [e]
    exact lw_self _ h
  · exact lw_self _ e
theorem lw_app {a c : List Cond} (ha : ∀ w ∈ a, w ∈ lw_all) (hc : GoodIn lw_all c) : GoodIn lw_all (a ++ c) := by
  intro w hw
  rcases List.mem_append.mp hw with e | e
  · exact lw_self w (ha w e)
  · exact hc w e
/-- what a call through an object asks: cwV n hts (lw_V ..) -/
theorem lw_V {own : String} {idx : Nat} {C : String} {y : MethodName} {b : ByteArray} {L : Nat} {r : Option FieldType} (h1 : Cond.methodLink own idx y ∈ lw_all) (h2 : Cond.instanceMethod y ∈ lw_all) (h3 : Cond.selects C y y ∈ lw_all) (h4 : Cond.initialized C ∈ lw_all) (h5 : Cond.code y b L r ∈ lw_all) : GoodIn lw_all (wsV own idx C y (ws_ y b L r)) := by
  refine lw_app ?_ (lw_meth h5)
  intro w hw
  simp only [List.mem_cons, List.not_mem_nil, or_false] at hw
  rcases hw with e | e | e | e
  · rw [e]; exact h1
  · rw [e]; exact h2
  · rw [e]; exact h3
  · rw [e]; exact h4
/-- what a static call asks: va_cwS n hts (lw_S ..) -/
theorem lw_S {own : String} {idx : Nat} {y : MethodName} {b : ByteArray} {L : Nat} {r : Option FieldType} (h1 : Cond.methodLink own idx y ∈ lw_all) (h2 : Cond.static y ∈ lw_all) (h3 : Cond.initialized y.cls ∈ lw_all) (h4 : Cond.code y b L r ∈ lw_all) : GoodIn lw_all (va_wsS own idx y (ws_ y b L r)) := by
  refine lw_app ?_ (lw_meth h4)
  intro w hw
  simp only [List.mem_cons, List.not_mem_nil, or_false] at hw
  rcases hw with e | e | e
  · rw [e]; exact h1
  · rw [e]; exact h2
  · rw [e]; exact h3
/-- the words of a contract for a method WITH HANDLERS (hh: its table) -/
abbrev wsW_ (y : MethodName) (b : ByteArray) (L : Nat) (r : Option FieldType) (hh : List (Nat × Nat × Nat × Nat)) : List Cond := Cond.codeWith y b L r hh :: lw_all
theorem lw_methW {y : MethodName} {b : ByteArray} {L : Nat} {r : Option FieldType} {hh : List (Nat × Nat × Nat × Nat)} (h : Cond.codeWith y b L r hh ∈ lw_all) : GoodIn lw_all (wsW_ y b L r hh) := by
  intro w hw
  rcases List.mem_cons.mp hw with e | e
  · rw [e]
    exact lw_self _ h
  · exact lw_self _ e
/-- any list of words by their places (lw_in), good -/
theorem lw_good {ws : List Cond} (h : ∀ w ∈ ws, w ∈ lw_all) : GoodIn lw_all ws := fun w hw => lw_self w (h w hw)
/-- what a call of a method with handlers asks: vx_cwVW n hts (lw_VW ..), vx_cwSW n hts (lw_SW ..) -/
theorem lw_VW {own : String} {idx : Nat} {C : String} {y : MethodName} {b : ByteArray} {L : Nat} {r : Option FieldType} {hh : List (Nat × Nat × Nat × Nat)} (h1 : Cond.methodLink own idx y ∈ lw_all) (h2 : Cond.instanceMethod y ∈ lw_all) (h3 : Cond.selects C y y ∈ lw_all) (h4 : Cond.initialized C ∈ lw_all) (h5 : Cond.codeWith y b L r hh ∈ lw_all) : GoodIn lw_all (wsV own idx C y (wsW_ y b L r hh)) := by
  refine lw_app ?_ (lw_methW h5)
  intro w hw
  simp only [List.mem_cons, List.not_mem_nil, or_false] at hw
  rcases hw with e | e | e | e
  · rw [e]; exact h1
  · rw [e]; exact h2
  · rw [e]; exact h3
  · rw [e]; exact h4
theorem lw_SW {own : String} {idx : Nat} {y : MethodName} {b : ByteArray} {L : Nat} {r : Option FieldType} {hh : List (Nat × Nat × Nat × Nat)} (h1 : Cond.methodLink own idx y ∈ lw_all) (h2 : Cond.static y ∈ lw_all) (h3 : Cond.initialized y.cls ∈ lw_all) (h4 : Cond.codeWith y b L r hh ∈ lw_all) : GoodIn lw_all (va_wsS own idx y (wsW_ y b L r hh)) := by
  refine lw_app ?_ (lw_methW h4)
  intro w hw
  simp only [List.mem_cons, List.not_mem_nil, or_false] at hw
  rcases hw with e | e | e
  · rw [e]; exact h1
  · rw [e]; exact h2
  · rw [e]; exact h3
/-- a word by its place in its run of the tables -/
theorem lw_at {r : List Cond} (hr : ∀ w ∈ r, w ∈ lw_tbl) {w : Cond} (i : Nat) (h : r[i]? = some w) : w ∈ lw_tbl := hr w (List.mem_of_getElem? h)
theorem lw_g {w : Cond} (h : w ∈ lw_tbl) (g : goodWord w = true) : w ∈ lw_all := List.mem_filter.mpr ⟨h, g⟩
theorem lw_ms : ∀ w ∈ k2_sels lw_privs, w ∈ lw_tbl := fun w h => show w ∈ k2_sels lw_privs ++ tables_1 from List.mem_append_left _ h
theorem lw_m1 : ∀ w ∈ tables_1_1, w ∈ lw_tbl := fun w h => show w ∈ k2_sels lw_privs ++ tables_1 from List.mem_append_right (k2_sels lw_privs) (show w ∈ tables_1 from List.mem_append_left _ h)
theorem lw_m2 : ∀ w ∈ tables_1_2, w ∈ lw_tbl := fun w h => show w ∈ k2_sels lw_privs ++ tables_1 from List.mem_append_right (k2_sels lw_privs) (show w ∈ tables_1 from List.mem_append_right _ h)
theorem qs0 : (Cond.selects "ProcessNetwork" ⟨"ProcessNetwork", "restart", "()V"⟩ ⟨"ProcessNetwork", "restart", "()V"⟩) ∈ lw_all := lw_g (lw_at lw_ms 0 rfl) rfl
theorem qs1 : (Cond.selects "ProcessNetwork" ⟨"ProcessNetwork", "wake", "(I)V"⟩ ⟨"ProcessNetwork", "wake", "(I)V"⟩) ∈ lw_all := lw_g (lw_at lw_ms 1 rfl) rfl
theorem qs2 : (Cond.selects "ProcessNetwork" ⟨"ProcessNetwork", "run", "(II)V"⟩ ⟨"ProcessNetwork", "run", "(II)V"⟩) ∈ lw_all := lw_g (lw_at lw_ms 2 rfl) rfl
theorem qs3 : (Cond.selects "ProcessNetwork" ⟨"ProcessNetwork", "step", "(I)Z"⟩ ⟨"ProcessNetwork", "step", "(I)Z"⟩) ∈ lw_all := lw_g (lw_at lw_ms 3 rfl) rfl
theorem qs4 : (Cond.selects "ProcessNetwork" ⟨"ProcessNetwork", "make", "(II)Z"⟩ ⟨"ProcessNetwork", "make", "(II)Z"⟩) ∈ lw_all := lw_g (lw_at lw_ms 4 rfl) rfl
theorem qs5 : (Cond.selects "ProcessNetwork" ⟨"ProcessNetwork", "stepPair", "(I)Z"⟩ ⟨"ProcessNetwork", "stepPair", "(I)Z"⟩) ∈ lw_all := lw_g (lw_at lw_ms 5 rfl) rfl
theorem qs6 : (Cond.selects "ProcessNetwork" ⟨"ProcessNetwork", "hasX", "(I)Z"⟩ ⟨"ProcessNetwork", "hasX", "(I)Z"⟩) ∈ lw_all := lw_g (lw_at lw_ms 6 rfl) rfl
theorem qs7 : (Cond.selects "ProcessNetwork" ⟨"ProcessNetwork", "hasY", "(I)Z"⟩ ⟨"ProcessNetwork", "hasY", "(I)Z"⟩) ∈ lw_all := lw_g (lw_at lw_ms 7 rfl) rfl
theorem qs8 : (Cond.selects "ProcessNetwork" ⟨"ProcessNetwork", "takeX", "(I)I"⟩ ⟨"ProcessNetwork", "takeX", "(I)I"⟩) ∈ lw_all := lw_g (lw_at lw_ms 8 rfl) rfl
theorem qs9 : (Cond.selects "ProcessNetwork" ⟨"ProcessNetwork", "takeY", "(I)I"⟩ ⟨"ProcessNetwork", "takeY", "(I)I"⟩) ∈ lw_all := lw_g (lw_at lw_ms 9 rfl) rfl
theorem qs10 : (Cond.selects "ProcessNetwork" ⟨"ProcessNetwork", "stepTurn", "(I)Z"⟩ ⟨"ProcessNetwork", "stepTurn", "(I)Z"⟩) ∈ lw_all := lw_g (lw_at lw_ms 10 rfl) rfl
theorem qs11 : (Cond.selects "ProcessNetwork" ⟨"ProcessNetwork", "stepOdd", "(I)Z"⟩ ⟨"ProcessNetwork", "stepOdd", "(I)Z"⟩) ∈ lw_all := lw_g (lw_at lw_ms 11 rfl) rfl
theorem qs12 : (Cond.selects "ProcessNetwork" ⟨"ProcessNetwork", "stepDelay", "(I)Z"⟩ ⟨"ProcessNetwork", "stepDelay", "(I)Z"⟩) ∈ lw_all := lw_g (lw_at lw_ms 12 rfl) rfl
theorem qs13 : (Cond.selects "ProcessNetwork" ⟨"ProcessNetwork", "stepSum", "(I)Z"⟩ ⟨"ProcessNetwork", "stepSum", "(I)Z"⟩) ∈ lw_all := lw_g (lw_at lw_ms 13 rfl) rfl
theorem qs14 : (Cond.selects "ProcessNetwork" ⟨"ProcessNetwork", "settle", "()V"⟩ ⟨"ProcessNetwork", "settle", "()V"⟩) ∈ lw_all := lw_g (lw_at lw_ms 14 rfl) rfl
theorem qs15 : (Cond.selects "ProcessNetworkModel" ⟨"ProcessNetworkModel", "bad", "(I)Z"⟩ ⟨"ProcessNetworkModel", "bad", "(I)Z"⟩) ∈ lw_all := lw_g (lw_at lw_ms 15 rfl) rfl
theorem qs16 : (Cond.selects "ProcessNetworkModel" ⟨"ProcessNetworkModel", "workOut", "()V"⟩ ⟨"ProcessNetworkModel", "workOut", "()V"⟩) ∈ lw_all := lw_g (lw_at lw_ms 16 rfl) rfl
theorem qs17 : (Cond.selects "ProcessNetworkModel" ⟨"ProcessNetworkModel", "stream", "(I)I"⟩ ⟨"ProcessNetworkModel", "stream", "(I)I"⟩) ∈ lw_all := lw_g (lw_at lw_ms 17 rfl) rfl
theorem qs18 : (Cond.selects "ProcessNetworkModel" ⟨"ProcessNetworkModel", "start", "(I)I"⟩ ⟨"ProcessNetworkModel", "start", "(I)I"⟩) ∈ lw_all := lw_g (lw_at lw_ms 18 rfl) rfl
theorem qs19 : (Cond.selects "ProcessNetworkModel" ⟨"ProcessNetworkModel", "put", "(III)I"⟩ ⟨"ProcessNetworkModel", "put", "(III)I"⟩) ∈ lw_all := lw_g (lw_at lw_ms 19 rfl) rfl
theorem qs20 : (Cond.selects "ProcessNetworkModel" ⟨"ProcessNetworkModel", "add", "(I)I"⟩ ⟨"ProcessNetworkModel", "add", "(I)I"⟩) ∈ lw_all := lw_g (lw_at lw_ms 20 rfl) rfl
theorem qs21 : (Cond.selects "ProcessNetworkModel" ⟨"ProcessNetworkModel", "turn", "(I)I"⟩ ⟨"ProcessNetworkModel", "turn", "(I)I"⟩) ∈ lw_all := lw_g (lw_at lw_ms 21 rfl) rfl
theorem qs22 : (Cond.selects "ProcessNetworkModel" ⟨"ProcessNetworkModel", "merge", "(I)I"⟩ ⟨"ProcessNetworkModel", "merge", "(I)I"⟩) ∈ lw_all := lw_g (lw_at lw_ms 22 rfl) rfl
theorem qs23 : (Cond.selects "ProcessNetworkModel" ⟨"ProcessNetworkModel", "one", "(I)I"⟩ ⟨"ProcessNetworkModel", "one", "(I)I"⟩) ∈ lw_all := lw_g (lw_at lw_ms 23 rfl) rfl
end
section
/-! ProcessNetwork -/
set_option maxRecDepth 100000
def RX0 : String := "ProcessNetwork"
def TX0 : u_T := fun k => match k with
  | 0 => ("ProcessNetwork", "kind", "[I", true)
  | 1 => ("ProcessNetwork", "inputX", "[I", true)
  | 2 => ("ProcessNetwork", "inputY", "[I", true)
  | 3 => ("ProcessNetwork", "number", "[I", true)
  | 4 => ("ProcessNetwork", "made", "[I", true)
  | 5 => ("ProcessNetwork", "readX", "[I", true)
  | 6 => ("ProcessNetwork", "readY", "[I", true)
  | 7 => ("ProcessNetwork", "total", "[I", true)
  | 8 => ("ProcessNetwork", "items", "[I", true)
  | 9 => ("ProcessNetwork", "waiting", "I", false)
  | 10 => ("ProcessNetwork", "head", "I", false)
  | 11 => ("ProcessNetwork", "ring", "[I", true)
  | _ => ("ProcessNetwork", "listed", "[Z", true)
def tyX0 : Nat → FieldType := fun k => match k with
  | 0 => .array .int
  | 1 => .array .int
  | 2 => .array .int
  | 3 => .array .int
  | 4 => .array .int
  | 5 => .array .int
  | 6 => .array .int
  | 7 => .array .int
  | 8 => .array .int
  | 9 => .int
  | 10 => .int
  | 11 => .array .int
  | _ => .array .boolean
abbrev wsX00 : List Cond := u_ws RX0 TX0 13
set_option maxRecDepth 100000 in
theorem nmX0 : ∀ a, a < 13 → ∀ b, b < 13 → a ≠ b → (TX0 a).2.1 ≠ (TX0 b).2.1 := by decide +kernel
set_option maxRecDepth 100000 in
theorem tyX0_ok : ∀ k, k < 13 → parseFieldDescriptor (TX0 k).2.2.1 = some (tyX0 k) := by decide +kernel
abbrev cX0_init : ByteArray := prog_1_method_1_code
def yX0_init : MethodName := ⟨RX0, "<init>", "()V"⟩
theorem dX0_init_0 : decode cX0_init 0 = .ok (.aload_n 0, 1) := by decide +kernel
theorem dX0_init_1 : decode cX0_init 1 = .ok (.invokespecial 1, 3) := by decide +kernel
theorem dX0_init_4 : decode cX0_init 4 = .ok (.aload_n 0, 1) := by decide +kernel
theorem dX0_init_5 : decode cX0_init 5 = .ok (.bipush 8, 2) := by decide +kernel
theorem dX0_init_7 : decode cX0_init 7 = .ok (.newarray .int, 2) := by decide +kernel
theorem dX0_init_9 : decode cX0_init 9 = .ok (.putfield 7, 3) := by decide +kernel
theorem dX0_init_12 : decode cX0_init 12 = .ok (.aload_n 0, 1) := by decide +kernel
theorem dX0_init_13 : decode cX0_init 13 = .ok (.bipush 8, 2) := by decide +kernel
theorem dX0_init_15 : decode cX0_init 15 = .ok (.newarray .int, 2) := by decide +kernel
theorem dX0_init_17 : decode cX0_init 17 = .ok (.putfield 13, 3) := by decide +kernel
theorem dX0_init_20 : decode cX0_init 20 = .ok (.aload_n 0, 1) := by decide +kernel
theorem dX0_init_21 : decode cX0_init 21 = .ok (.bipush 8, 2) := by decide +kernel
theorem dX0_init_23 : decode cX0_init 23 = .ok (.newarray .int, 2) := by decide +kernel
theorem dX0_init_25 : decode cX0_init 25 = .ok (.putfield 16, 3) := by decide +kernel
theorem dX0_init_28 : decode cX0_init 28 = .ok (.aload_n 0, 1) := by decide +kernel
theorem dX0_init_29 : decode cX0_init 29 = .ok (.bipush 8, 2) := by decide +kernel
theorem dX0_init_31 : decode cX0_init 31 = .ok (.newarray .int, 2) := by decide +kernel
theorem dX0_init_33 : decode cX0_init 33 = .ok (.putfield 19, 3) := by decide +kernel
theorem dX0_init_36 : decode cX0_init 36 = .ok (.aload_n 0, 1) := by decide +kernel
theorem dX0_init_37 : decode cX0_init 37 = .ok (.bipush 8, 2) := by decide +kernel
theorem dX0_init_39 : decode cX0_init 39 = .ok (.newarray .int, 2) := by decide +kernel
theorem dX0_init_41 : decode cX0_init 41 = .ok (.putfield 22, 3) := by decide +kernel
theorem dX0_init_44 : decode cX0_init 44 = .ok (.aload_n 0, 1) := by decide +kernel
theorem dX0_init_45 : decode cX0_init 45 = .ok (.bipush 8, 2) := by decide +kernel
theorem dX0_init_47 : decode cX0_init 47 = .ok (.newarray .int, 2) := by decide +kernel
theorem dX0_init_49 : decode cX0_init 49 = .ok (.putfield 25, 3) := by decide +kernel
theorem dX0_init_52 : decode cX0_init 52 = .ok (.aload_n 0, 1) := by decide +kernel
theorem dX0_init_53 : decode cX0_init 53 = .ok (.bipush 8, 2) := by decide +kernel
theorem dX0_init_55 : decode cX0_init 55 = .ok (.newarray .int, 2) := by decide +kernel
theorem dX0_init_57 : decode cX0_init 57 = .ok (.putfield 28, 3) := by decide +kernel
theorem dX0_init_60 : decode cX0_init 60 = .ok (.aload_n 0, 1) := by decide +kernel
theorem dX0_init_61 : decode cX0_init 61 = .ok (.bipush 8, 2) := by decide +kernel
theorem dX0_init_63 : decode cX0_init 63 = .ok (.newarray .int, 2) := by decide +kernel
theorem dX0_init_65 : decode cX0_init 65 = .ok (.putfield 31, 3) := by decide +kernel
theorem dX0_init_68 : decode cX0_init 68 = .ok (.aload_n 0, 1) := by decide +kernel
theorem dX0_init_69 : decode cX0_init 69 = .ok (.sipush 320, 3) := by decide +kernel
theorem dX0_init_72 : decode cX0_init 72 = .ok (.newarray .int, 2) := by decide +kernel
theorem dX0_init_74 : decode cX0_init 74 = .ok (.putfield 34, 3) := by decide +kernel
theorem dX0_init_77 : decode cX0_init 77 = .ok (.aload_n 0, 1) := by decide +kernel
theorem dX0_init_78 : decode cX0_init 78 = .ok (.bipush 8, 2) := by decide +kernel
theorem dX0_init_80 : decode cX0_init 80 = .ok (.newarray .int, 2) := by decide +kernel
theorem dX0_init_82 : decode cX0_init 82 = .ok (.putfield 37, 3) := by decide +kernel
theorem dX0_init_85 : decode cX0_init 85 = .ok (.aload_n 0, 1) := by decide +kernel
theorem dX0_init_86 : decode cX0_init 86 = .ok (.bipush 8, 2) := by decide +kernel
theorem dX0_init_88 : decode cX0_init 88 = .ok (.newarray .boolean, 2) := by decide +kernel
theorem dX0_init_90 : decode cX0_init 90 = .ok (.putfield 40, 3) := by decide +kernel
theorem dX0_init_93 : decode cX0_init 93 = .ok (.iconst 0, 1) := by decide +kernel
theorem dX0_init_94 : decode cX0_init 94 = .ok (.istore_n 1, 1) := by decide +kernel
theorem dX0_init_95 : decode cX0_init 95 = .ok (.iload_n 1, 1) := by decide +kernel
theorem dX0_init_96 : decode cX0_init 96 = .ok (.bipush 8, 2) := by decide +kernel
theorem dX0_init_98 : decode cX0_init 98 = .ok (.if_icmp .ge 16, 3) := by decide +kernel
theorem dX0_init_101 : decode cX0_init 101 = .ok (.aload_n 0, 1) := by decide +kernel
theorem dX0_init_102 : decode cX0_init 102 = .ok (.getfield 7, 3) := by decide +kernel
theorem dX0_init_105 : decode cX0_init 105 = .ok (.iload_n 1, 1) := by decide +kernel
theorem dX0_init_106 : decode cX0_init 106 = .ok (.iconst 1, 1) := by decide +kernel
theorem dX0_init_107 : decode cX0_init 107 = .ok (.iastore, 1) := by decide +kernel
theorem dX0_init_108 : decode cX0_init 108 = .ok (.iinc 1 1, 3) := by decide +kernel
theorem dX0_init_111 : decode cX0_init 111 = .ok (.goto (-16), 3) := by decide +kernel
theorem dX0_init_114 : decode cX0_init 114 = .ok (.aload_n 0, 1) := by decide +kernel
theorem dX0_init_115 : decode cX0_init 115 = .ok (.invokevirtual 44, 3) := by decide +kernel
theorem dX0_init_118 : decode cX0_init 118 = .ok (.return_, 1) := by decide +kernel
abbrev cX0_restart : ByteArray := prog_1_method_3_code
def yX0_restart : MethodName := ⟨RX0, "restart", "()V"⟩
theorem dX0_restart_0 : decode cX0_restart 0 = .ok (.aload_n 0, 1) := by decide +kernel
theorem dX0_restart_1 : decode cX0_restart 1 = .ok (.iconst 0, 1) := by decide +kernel
theorem dX0_restart_2 : decode cX0_restart 2 = .ok (.putfield 47, 3) := by decide +kernel
theorem dX0_restart_5 : decode cX0_restart 5 = .ok (.aload_n 0, 1) := by decide +kernel
theorem dX0_restart_6 : decode cX0_restart 6 = .ok (.iconst 0, 1) := by decide +kernel
theorem dX0_restart_7 : decode cX0_restart 7 = .ok (.putfield 51, 3) := by decide +kernel
theorem dX0_restart_10 : decode cX0_restart 10 = .ok (.iconst 0, 1) := by decide +kernel
theorem dX0_restart_11 : decode cX0_restart 11 = .ok (.istore_n 1, 1) := by decide +kernel
theorem dX0_restart_12 : decode cX0_restart 12 = .ok (.iload_n 1, 1) := by decide +kernel
theorem dX0_restart_13 : decode cX0_restart 13 = .ok (.bipush 8, 2) := by decide +kernel
theorem dX0_restart_15 : decode cX0_restart 15 = .ok (.if_icmp .ge 44, 3) := by decide +kernel
theorem dX0_restart_18 : decode cX0_restart 18 = .ok (.aload_n 0, 1) := by decide +kernel
theorem dX0_restart_19 : decode cX0_restart 19 = .ok (.getfield 22, 3) := by decide +kernel
theorem dX0_restart_22 : decode cX0_restart 22 = .ok (.iload_n 1, 1) := by decide +kernel
theorem dX0_restart_23 : decode cX0_restart 23 = .ok (.iconst 0, 1) := by decide +kernel
theorem dX0_restart_24 : decode cX0_restart 24 = .ok (.iastore, 1) := by decide +kernel
theorem dX0_restart_25 : decode cX0_restart 25 = .ok (.aload_n 0, 1) := by decide +kernel
theorem dX0_restart_26 : decode cX0_restart 26 = .ok (.getfield 25, 3) := by decide +kernel
theorem dX0_restart_29 : decode cX0_restart 29 = .ok (.iload_n 1, 1) := by decide +kernel
theorem dX0_restart_30 : decode cX0_restart 30 = .ok (.iconst 0, 1) := by decide +kernel
theorem dX0_restart_31 : decode cX0_restart 31 = .ok (.iastore, 1) := by decide +kernel
theorem dX0_restart_32 : decode cX0_restart 32 = .ok (.aload_n 0, 1) := by decide +kernel
theorem dX0_restart_33 : decode cX0_restart 33 = .ok (.getfield 28, 3) := by decide +kernel
theorem dX0_restart_36 : decode cX0_restart 36 = .ok (.iload_n 1, 1) := by decide +kernel
theorem dX0_restart_37 : decode cX0_restart 37 = .ok (.iconst 0, 1) := by decide +kernel
theorem dX0_restart_38 : decode cX0_restart 38 = .ok (.iastore, 1) := by decide +kernel
theorem dX0_restart_39 : decode cX0_restart 39 = .ok (.aload_n 0, 1) := by decide +kernel
theorem dX0_restart_40 : decode cX0_restart 40 = .ok (.getfield 31, 3) := by decide +kernel
theorem dX0_restart_43 : decode cX0_restart 43 = .ok (.iload_n 1, 1) := by decide +kernel
theorem dX0_restart_44 : decode cX0_restart 44 = .ok (.iconst 0, 1) := by decide +kernel
theorem dX0_restart_45 : decode cX0_restart 45 = .ok (.iastore, 1) := by decide +kernel
theorem dX0_restart_46 : decode cX0_restart 46 = .ok (.aload_n 0, 1) := by decide +kernel
theorem dX0_restart_47 : decode cX0_restart 47 = .ok (.getfield 40, 3) := by decide +kernel
theorem dX0_restart_50 : decode cX0_restart 50 = .ok (.iload_n 1, 1) := by decide +kernel
theorem dX0_restart_51 : decode cX0_restart 51 = .ok (.iconst 0, 1) := by decide +kernel
theorem dX0_restart_52 : decode cX0_restart 52 = .ok (.bastore, 1) := by decide +kernel
theorem dX0_restart_53 : decode cX0_restart 53 = .ok (.iinc 1 1, 3) := by decide +kernel
theorem dX0_restart_56 : decode cX0_restart 56 = .ok (.goto (-44), 3) := by decide +kernel
theorem dX0_restart_59 : decode cX0_restart 59 = .ok (.iconst 0, 1) := by decide +kernel
theorem dX0_restart_60 : decode cX0_restart 60 = .ok (.istore_n 1, 1) := by decide +kernel
theorem dX0_restart_61 : decode cX0_restart 61 = .ok (.iload_n 1, 1) := by decide +kernel
theorem dX0_restart_62 : decode cX0_restart 62 = .ok (.bipush 8, 2) := by decide +kernel
theorem dX0_restart_64 : decode cX0_restart 64 = .ok (.if_icmp .ge 14, 3) := by decide +kernel
theorem dX0_restart_67 : decode cX0_restart 67 = .ok (.aload_n 0, 1) := by decide +kernel
theorem dX0_restart_68 : decode cX0_restart 68 = .ok (.iload_n 1, 1) := by decide +kernel
theorem dX0_restart_69 : decode cX0_restart 69 = .ok (.invokevirtual 54, 3) := by decide +kernel
theorem dX0_restart_72 : decode cX0_restart 72 = .ok (.iinc 1 1, 3) := by decide +kernel
theorem dX0_restart_75 : decode cX0_restart 75 = .ok (.goto (-14), 3) := by decide +kernel
theorem dX0_restart_78 : decode cX0_restart 78 = .ok (.return_, 1) := by decide +kernel
abbrev cX0_wake : ByteArray := prog_1_method_4_code
def yX0_wake : MethodName := ⟨RX0, "wake", "(I)V"⟩
theorem dX0_wake_0 : decode cX0_wake 0 = .ok (.aload_n 0, 1) := by decide +kernel
theorem dX0_wake_1 : decode cX0_wake 1 = .ok (.getfield 40, 3) := by decide +kernel
theorem dX0_wake_4 : decode cX0_wake 4 = .ok (.iload_n 1, 1) := by decide +kernel
theorem dX0_wake_5 : decode cX0_wake 5 = .ok (.baload, 1) := by decide +kernel
theorem dX0_wake_6 : decode cX0_wake 6 = .ok (.ifCond .eq 4, 3) := by decide +kernel
theorem dX0_wake_9 : decode cX0_wake 9 = .ok (.return_, 1) := by decide +kernel
theorem dX0_wake_10 : decode cX0_wake 10 = .ok (.aload_n 0, 1) := by decide +kernel
theorem dX0_wake_11 : decode cX0_wake 11 = .ok (.getfield 40, 3) := by decide +kernel
theorem dX0_wake_14 : decode cX0_wake 14 = .ok (.iload_n 1, 1) := by decide +kernel
theorem dX0_wake_15 : decode cX0_wake 15 = .ok (.iconst 1, 1) := by decide +kernel
theorem dX0_wake_16 : decode cX0_wake 16 = .ok (.bastore, 1) := by decide +kernel
theorem dX0_wake_17 : decode cX0_wake 17 = .ok (.aload_n 0, 1) := by decide +kernel
theorem dX0_wake_18 : decode cX0_wake 18 = .ok (.getfield 37, 3) := by decide +kernel
theorem dX0_wake_21 : decode cX0_wake 21 = .ok (.aload_n 0, 1) := by decide +kernel
theorem dX0_wake_22 : decode cX0_wake 22 = .ok (.getfield 51, 3) := by decide +kernel
theorem dX0_wake_25 : decode cX0_wake 25 = .ok (.aload_n 0, 1) := by decide +kernel
theorem dX0_wake_26 : decode cX0_wake 26 = .ok (.getfield 47, 3) := by decide +kernel
theorem dX0_wake_29 : decode cX0_wake 29 = .ok (.iadd, 1) := by decide +kernel
theorem dX0_wake_30 : decode cX0_wake 30 = .ok (.bipush 7, 2) := by decide +kernel
theorem dX0_wake_32 : decode cX0_wake 32 = .ok (.iand, 1) := by decide +kernel
theorem dX0_wake_33 : decode cX0_wake 33 = .ok (.iload_n 1, 1) := by decide +kernel
theorem dX0_wake_34 : decode cX0_wake 34 = .ok (.iastore, 1) := by decide +kernel
theorem dX0_wake_35 : decode cX0_wake 35 = .ok (.aload_n 0, 1) := by decide +kernel
theorem dX0_wake_36 : decode cX0_wake 36 = .ok (.dup, 1) := by decide +kernel
theorem dX0_wake_37 : decode cX0_wake 37 = .ok (.getfield 47, 3) := by decide +kernel
theorem dX0_wake_40 : decode cX0_wake 40 = .ok (.iconst 1, 1) := by decide +kernel
theorem dX0_wake_41 : decode cX0_wake 41 = .ok (.iadd, 1) := by decide +kernel
theorem dX0_wake_42 : decode cX0_wake 42 = .ok (.putfield 47, 3) := by decide +kernel
theorem dX0_wake_45 : decode cX0_wake 45 = .ok (.return_, 1) := by decide +kernel
abbrev cX0_set : ByteArray := prog_1_method_5_code
def yX0_set : MethodName := ⟨RX0, "set", "(IIII)I"⟩
theorem dX0_set_0 : decode cX0_set 0 = .ok (.iload_n 1, 1) := by decide +kernel
theorem dX0_set_1 : decode cX0_set 1 = .ok (.invokestatic 58, 3) := by decide +kernel
theorem dX0_set_4 : decode cX0_set 4 = .ok (.ifCond .eq 5, 3) := by decide +kernel
theorem dX0_set_7 : decode cX0_set 7 = .ok (.iconst (-1), 1) := by decide +kernel
theorem dX0_set_8 : decode cX0_set 8 = .ok (.ireturn, 1) := by decide +kernel
theorem dX0_set_9 : decode cX0_set 9 = .ok (.iload_n 2, 1) := by decide +kernel
theorem dX0_set_10 : decode cX0_set 10 = .ok (.ifCond .lt 9, 3) := by decide +kernel
theorem dX0_set_13 : decode cX0_set 13 = .ok (.iload_n 2, 1) := by decide +kernel
theorem dX0_set_14 : decode cX0_set 14 = .ok (.bipush 7, 2) := by decide +kernel
theorem dX0_set_16 : decode cX0_set 16 = .ok (.if_icmp .le 6, 3) := by decide +kernel
theorem dX0_set_19 : decode cX0_set 19 = .ok (.bipush (-2), 2) := by decide +kernel
theorem dX0_set_21 : decode cX0_set 21 = .ok (.ireturn, 1) := by decide +kernel
theorem dX0_set_22 : decode cX0_set 22 = .ok (.aload_n 0, 1) := by decide +kernel
theorem dX0_set_23 : decode cX0_set 23 = .ok (.getfield 7, 3) := by decide +kernel
theorem dX0_set_26 : decode cX0_set 26 = .ok (.iload_n 1, 1) := by decide +kernel
theorem dX0_set_27 : decode cX0_set 27 = .ok (.iload_n 2, 1) := by decide +kernel
theorem dX0_set_28 : decode cX0_set 28 = .ok (.iastore, 1) := by decide +kernel
theorem dX0_set_29 : decode cX0_set 29 = .ok (.aload_n 0, 1) := by decide +kernel
theorem dX0_set_30 : decode cX0_set 30 = .ok (.getfield 13, 3) := by decide +kernel
theorem dX0_set_33 : decode cX0_set 33 = .ok (.iload_n 1, 1) := by decide +kernel
theorem dX0_set_34 : decode cX0_set 34 = .ok (.iload_n 3, 1) := by decide +kernel
theorem dX0_set_35 : decode cX0_set 35 = .ok (.bipush 7, 2) := by decide +kernel
theorem dX0_set_37 : decode cX0_set 37 = .ok (.iand, 1) := by decide +kernel
theorem dX0_set_38 : decode cX0_set 38 = .ok (.iastore, 1) := by decide +kernel
theorem dX0_set_39 : decode cX0_set 39 = .ok (.aload_n 0, 1) := by decide +kernel
theorem dX0_set_40 : decode cX0_set 40 = .ok (.getfield 16, 3) := by decide +kernel
theorem dX0_set_43 : decode cX0_set 43 = .ok (.iload_n 1, 1) := by decide +kernel
theorem dX0_set_44 : decode cX0_set 44 = .ok (.iload_n 3, 1) := by decide +kernel
theorem dX0_set_45 : decode cX0_set 45 = .ok (.iconst 3, 1) := by decide +kernel
theorem dX0_set_46 : decode cX0_set 46 = .ok (.ishr, 1) := by decide +kernel
theorem dX0_set_47 : decode cX0_set 47 = .ok (.bipush 7, 2) := by decide +kernel
theorem dX0_set_49 : decode cX0_set 49 = .ok (.iand, 1) := by decide +kernel
theorem dX0_set_50 : decode cX0_set 50 = .ok (.iastore, 1) := by decide +kernel
theorem dX0_set_51 : decode cX0_set 51 = .ok (.aload_n 0, 1) := by decide +kernel
theorem dX0_set_52 : decode cX0_set 52 = .ok (.getfield 19, 3) := by decide +kernel
theorem dX0_set_55 : decode cX0_set 55 = .ok (.iload_n 1, 1) := by decide +kernel
theorem dX0_set_56 : decode cX0_set 56 = .ok (.iload 4, 2) := by decide +kernel
theorem dX0_set_58 : decode cX0_set 58 = .ok (.iastore, 1) := by decide +kernel
theorem dX0_set_59 : decode cX0_set 59 = .ok (.aload_n 0, 1) := by decide +kernel
theorem dX0_set_60 : decode cX0_set 60 = .ok (.invokevirtual 44, 3) := by decide +kernel
theorem dX0_set_63 : decode cX0_set 63 = .ok (.iconst 0, 1) := by decide +kernel
theorem dX0_set_64 : decode cX0_set 64 = .ok (.ireturn, 1) := by decide +kernel
abbrev cX0_bad : ByteArray := prog_1_method_2_code
def yX0_bad : MethodName := ⟨RX0, "bad", "(I)Z"⟩
theorem dX0_bad_0 : decode cX0_bad 0 = .ok (.iload_n 0, 1) := by decide +kernel
theorem dX0_bad_1 : decode cX0_bad 1 = .ok (.ifCond .lt 9, 3) := by decide +kernel
theorem dX0_bad_4 : decode cX0_bad 4 = .ok (.iload_n 0, 1) := by decide +kernel
theorem dX0_bad_5 : decode cX0_bad 5 = .ok (.bipush 8, 2) := by decide +kernel
theorem dX0_bad_7 : decode cX0_bad 7 = .ok (.if_icmp .lt 7, 3) := by decide +kernel
theorem dX0_bad_10 : decode cX0_bad 10 = .ok (.iconst 1, 1) := by decide +kernel
theorem dX0_bad_11 : decode cX0_bad 11 = .ok (.goto 4, 3) := by decide +kernel
theorem dX0_bad_14 : decode cX0_bad 14 = .ok (.iconst 0, 1) := by decide +kernel
theorem dX0_bad_15 : decode cX0_bad 15 = .ok (.ireturn, 1) := by decide +kernel
abbrev cX0_fire : ByteArray := prog_1_method_19_code
def yX0_fire : MethodName := ⟨RX0, "fire", "(II)I"⟩
theorem dX0_fire_0 : decode cX0_fire 0 = .ok (.iload_n 1, 1) := by decide +kernel
theorem dX0_fire_1 : decode cX0_fire 1 = .ok (.invokestatic 58, 3) := by decide +kernel
theorem dX0_fire_4 : decode cX0_fire 4 = .ok (.ifCond .eq 5, 3) := by decide +kernel
theorem dX0_fire_7 : decode cX0_fire 7 = .ok (.iconst (-1), 1) := by decide +kernel
theorem dX0_fire_8 : decode cX0_fire 8 = .ok (.ireturn, 1) := by decide +kernel
theorem dX0_fire_9 : decode cX0_fire 9 = .ok (.aload_n 0, 1) := by decide +kernel
theorem dX0_fire_10 : decode cX0_fire 10 = .ok (.iload_n 1, 1) := by decide +kernel
theorem dX0_fire_11 : decode cX0_fire 11 = .ok (.iload_n 2, 1) := by decide +kernel
theorem dX0_fire_12 : decode cX0_fire 12 = .ok (.invokevirtual 97, 3) := by decide +kernel
theorem dX0_fire_15 : decode cX0_fire 15 = .ok (.iconst 0, 1) := by decide +kernel
theorem dX0_fire_16 : decode cX0_fire 16 = .ok (.ireturn, 1) := by decide +kernel
abbrev cX0_run : ByteArray := prog_1_method_17_code
def yX0_run : MethodName := ⟨RX0, "run", "(II)V"⟩
theorem dX0_run_0 : decode cX0_run 0 = .ok (.aload_n 0, 1) := by decide +kernel
theorem dX0_run_1 : decode cX0_run 1 = .ok (.getfield 22, 3) := by decide +kernel
theorem dX0_run_4 : decode cX0_run 4 = .ok (.iload_n 1, 1) := by decide +kernel
theorem dX0_run_5 : decode cX0_run 5 = .ok (.iaload, 1) := by decide +kernel
theorem dX0_run_6 : decode cX0_run 6 = .ok (.istore_n 3, 1) := by decide +kernel
theorem dX0_run_7 : decode cX0_run 7 = .ok (.iconst 1, 1) := by decide +kernel
theorem dX0_run_8 : decode cX0_run 8 = .ok (.istore 4, 2) := by decide +kernel
theorem dX0_run_10 : decode cX0_run 10 = .ok (.iconst 0, 1) := by decide +kernel
theorem dX0_run_11 : decode cX0_run 11 = .ok (.istore 5, 2) := by decide +kernel
theorem dX0_run_13 : decode cX0_run 13 = .ok (.iload 5, 2) := by decide +kernel
theorem dX0_run_15 : decode cX0_run 15 = .ok (.iload_n 2, 1) := by decide +kernel
theorem dX0_run_16 : decode cX0_run 16 = .ok (.if_icmp .ge 28, 3) := by decide +kernel
theorem dX0_run_19 : decode cX0_run 19 = .ok (.iload 5, 2) := by decide +kernel
theorem dX0_run_21 : decode cX0_run 21 = .ok (.bipush 120, 2) := by decide +kernel
theorem dX0_run_23 : decode cX0_run 23 = .ok (.if_icmp .ge 21, 3) := by decide +kernel
theorem dX0_run_26 : decode cX0_run 26 = .ok (.iload 4, 2) := by decide +kernel
theorem dX0_run_28 : decode cX0_run 28 = .ok (.ifCond .eq 16, 3) := by decide +kernel
theorem dX0_run_31 : decode cX0_run 31 = .ok (.aload_n 0, 1) := by decide +kernel
theorem dX0_run_32 : decode cX0_run 32 = .ok (.iload_n 1, 1) := by decide +kernel
theorem dX0_run_33 : decode cX0_run 33 = .ok (.invokevirtual 94, 3) := by decide +kernel
theorem dX0_run_36 : decode cX0_run 36 = .ok (.istore 4, 2) := by decide +kernel
theorem dX0_run_38 : decode cX0_run 38 = .ok (.iinc 5 1, 3) := by decide +kernel
theorem dX0_run_41 : decode cX0_run 41 = .ok (.goto (-28), 3) := by decide +kernel
theorem dX0_run_44 : decode cX0_run 44 = .ok (.iload 4, 2) := by decide +kernel
theorem dX0_run_46 : decode cX0_run 46 = .ok (.ifCond .eq 8, 3) := by decide +kernel
theorem dX0_run_49 : decode cX0_run 49 = .ok (.aload_n 0, 1) := by decide +kernel
theorem dX0_run_50 : decode cX0_run 50 = .ok (.iload_n 1, 1) := by decide +kernel
theorem dX0_run_51 : decode cX0_run 51 = .ok (.invokevirtual 54, 3) := by decide +kernel
theorem dX0_run_54 : decode cX0_run 54 = .ok (.aload_n 0, 1) := by decide +kernel
theorem dX0_run_55 : decode cX0_run 55 = .ok (.getfield 22, 3) := by decide +kernel
theorem dX0_run_58 : decode cX0_run 58 = .ok (.iload_n 1, 1) := by decide +kernel
theorem dX0_run_59 : decode cX0_run 59 = .ok (.iaload, 1) := by decide +kernel
theorem dX0_run_60 : decode cX0_run 60 = .ok (.iload_n 3, 1) := by decide +kernel
theorem dX0_run_61 : decode cX0_run 61 = .ok (.if_icmp .ne 4, 3) := by decide +kernel
theorem dX0_run_64 : decode cX0_run 64 = .ok (.return_, 1) := by decide +kernel
theorem dX0_run_65 : decode cX0_run 65 = .ok (.iconst 0, 1) := by decide +kernel
theorem dX0_run_66 : decode cX0_run 66 = .ok (.istore 5, 2) := by decide +kernel
theorem dX0_run_68 : decode cX0_run 68 = .ok (.iload 5, 2) := by decide +kernel
theorem dX0_run_70 : decode cX0_run 70 = .ok (.bipush 8, 2) := by decide +kernel
theorem dX0_run_72 : decode cX0_run 72 = .ok (.if_icmp .ge 37, 3) := by decide +kernel
theorem dX0_run_75 : decode cX0_run 75 = .ok (.aload_n 0, 1) := by decide +kernel
theorem dX0_run_76 : decode cX0_run 76 = .ok (.getfield 13, 3) := by decide +kernel
theorem dX0_run_79 : decode cX0_run 79 = .ok (.iload 5, 2) := by decide +kernel
theorem dX0_run_81 : decode cX0_run 81 = .ok (.iaload, 1) := by decide +kernel
theorem dX0_run_82 : decode cX0_run 82 = .ok (.iload_n 1, 1) := by decide +kernel
theorem dX0_run_83 : decode cX0_run 83 = .ok (.if_icmp .eq 14, 3) := by decide +kernel
theorem dX0_run_86 : decode cX0_run 86 = .ok (.aload_n 0, 1) := by decide +kernel
theorem dX0_run_87 : decode cX0_run 87 = .ok (.getfield 16, 3) := by decide +kernel
theorem dX0_run_90 : decode cX0_run 90 = .ok (.iload 5, 2) := by decide +kernel
theorem dX0_run_92 : decode cX0_run 92 = .ok (.iaload, 1) := by decide +kernel
theorem dX0_run_93 : decode cX0_run 93 = .ok (.iload_n 1, 1) := by decide +kernel
theorem dX0_run_94 : decode cX0_run 94 = .ok (.if_icmp .ne 9, 3) := by decide +kernel
theorem dX0_run_97 : decode cX0_run 97 = .ok (.aload_n 0, 1) := by decide +kernel
theorem dX0_run_98 : decode cX0_run 98 = .ok (.iload 5, 2) := by decide +kernel
theorem dX0_run_100 : decode cX0_run 100 = .ok (.invokevirtual 54, 3) := by decide +kernel
theorem dX0_run_103 : decode cX0_run 103 = .ok (.iinc 5 1, 3) := by decide +kernel
theorem dX0_run_106 : decode cX0_run 106 = .ok (.goto (-38), 3) := by decide +kernel
theorem dX0_run_109 : decode cX0_run 109 = .ok (.return_, 1) := by decide +kernel
end
section
set_option maxRecDepth 100000
abbrev cX0_step : ByteArray := prog_1_method_16_code
def yX0_step : MethodName := ⟨RX0, "step", "(I)Z"⟩
theorem dX0_step_0 : decode cX0_step 0 = .ok (.aload_n 0, 1) := by decide +kernel
theorem dX0_step_1 : decode cX0_step 1 = .ok (.getfield 22, 3) := by decide +kernel
theorem dX0_step_4 : decode cX0_step 4 = .ok (.iload_n 1, 1) := by decide +kernel
theorem dX0_step_5 : decode cX0_step 5 = .ok (.iaload, 1) := by decide +kernel
theorem dX0_step_6 : decode cX0_step 6 = .ok (.istore_n 2, 1) := by decide +kernel
theorem dX0_step_7 : decode cX0_step 7 = .ok (.iload_n 2, 1) := by decide +kernel
theorem dX0_step_8 : decode cX0_step 8 = .ok (.bipush 40, 2) := by decide +kernel
theorem dX0_step_10 : decode cX0_step 10 = .ok (.if_icmp .lt 5, 3) := by decide +kernel
theorem dX0_step_13 : decode cX0_step 13 = .ok (.iconst 0, 1) := by decide +kernel
theorem dX0_step_14 : decode cX0_step 14 = .ok (.ireturn, 1) := by decide +kernel
theorem dX0_step_15 : decode cX0_step 15 = .ok (.aload_n 0, 1) := by decide +kernel
theorem dX0_step_16 : decode cX0_step 16 = .ok (.getfield 7, 3) := by decide +kernel
theorem dX0_step_19 : decode cX0_step 19 = .ok (.iload_n 1, 1) := by decide +kernel
theorem dX0_step_20 : decode cX0_step 20 = .ok (.iaload, 1) := by decide +kernel
theorem dX0_step_21 : decode cX0_step 21 = .ok (.tableswitch 112 0 6 #[43, 57, 88, 94, 100, 106, 88], 43) := by decide +kernel
theorem dX0_step_64 : decode cX0_step 64 = .ok (.aload_n 0, 1) := by decide +kernel
theorem dX0_step_65 : decode cX0_step 65 = .ok (.iload_n 1, 1) := by decide +kernel
theorem dX0_step_66 : decode cX0_step 66 = .ok (.aload_n 0, 1) := by decide +kernel
theorem dX0_step_67 : decode cX0_step 67 = .ok (.getfield 19, 3) := by decide +kernel
theorem dX0_step_70 : decode cX0_step 70 = .ok (.iload_n 1, 1) := by decide +kernel
theorem dX0_step_71 : decode cX0_step 71 = .ok (.iaload, 1) := by decide +kernel
theorem dX0_step_72 : decode cX0_step 72 = .ok (.iload_n 2, 1) := by decide +kernel
theorem dX0_step_73 : decode cX0_step 73 = .ok (.iadd, 1) := by decide +kernel
theorem dX0_step_74 : decode cX0_step 74 = .ok (.invokevirtual 75, 3) := by decide +kernel
theorem dX0_step_77 : decode cX0_step 77 = .ok (.ireturn, 1) := by decide +kernel
theorem dX0_step_78 : decode cX0_step 78 = .ok (.iload_n 2, 1) := by decide +kernel
theorem dX0_step_79 : decode cX0_step 79 = .ok (.iconst 5, 1) := by decide +kernel
theorem dX0_step_80 : decode cX0_step 80 = .ok (.if_icmp .ge 27, 3) := by decide +kernel
theorem dX0_step_83 : decode cX0_step 83 = .ok (.aload_n 0, 1) := by decide +kernel
theorem dX0_step_84 : decode cX0_step 84 = .ok (.iload_n 1, 1) := by decide +kernel
theorem dX0_step_85 : decode cX0_step 85 = .ok (.aload_n 0, 1) := by decide +kernel
theorem dX0_step_86 : decode cX0_step 86 = .ok (.getfield 19, 3) := by decide +kernel
theorem dX0_step_89 : decode cX0_step 89 = .ok (.iload_n 1, 1) := by decide +kernel
theorem dX0_step_90 : decode cX0_step 90 = .ok (.iaload, 1) := by decide +kernel
theorem dX0_step_91 : decode cX0_step 91 = .ok (.iconst 2, 1) := by decide +kernel
theorem dX0_step_92 : decode cX0_step 92 = .ok (.iload_n 2, 1) := by decide +kernel
theorem dX0_step_93 : decode cX0_step 93 = .ok (.imul, 1) := by decide +kernel
theorem dX0_step_94 : decode cX0_step 94 = .ok (.iconst 1, 1) := by decide +kernel
theorem dX0_step_95 : decode cX0_step 95 = .ok (.iadd, 1) := by decide +kernel
theorem dX0_step_96 : decode cX0_step 96 = .ok (.imul, 1) := by decide +kernel
theorem dX0_step_97 : decode cX0_step 97 = .ok (.invokevirtual 75, 3) := by decide +kernel
theorem dX0_step_100 : decode cX0_step 100 = .ok (.ifCond .eq 7, 3) := by decide +kernel
theorem dX0_step_103 : decode cX0_step 103 = .ok (.iconst 1, 1) := by decide +kernel
theorem dX0_step_104 : decode cX0_step 104 = .ok (.goto 4, 3) := by decide +kernel
theorem dX0_step_107 : decode cX0_step 107 = .ok (.iconst 0, 1) := by decide +kernel
theorem dX0_step_108 : decode cX0_step 108 = .ok (.ireturn, 1) := by decide +kernel
theorem dX0_step_109 : decode cX0_step 109 = .ok (.aload_n 0, 1) := by decide +kernel
theorem dX0_step_110 : decode cX0_step 110 = .ok (.iload_n 1, 1) := by decide +kernel
theorem dX0_step_111 : decode cX0_step 111 = .ok (.invokevirtual 79, 3) := by decide +kernel
theorem dX0_step_114 : decode cX0_step 114 = .ok (.ireturn, 1) := by decide +kernel
theorem dX0_step_115 : decode cX0_step 115 = .ok (.aload_n 0, 1) := by decide +kernel
theorem dX0_step_116 : decode cX0_step 116 = .ok (.iload_n 1, 1) := by decide +kernel
theorem dX0_step_117 : decode cX0_step 117 = .ok (.invokevirtual 82, 3) := by decide +kernel
theorem dX0_step_120 : decode cX0_step 120 = .ok (.ireturn, 1) := by decide +kernel
theorem dX0_step_121 : decode cX0_step 121 = .ok (.aload_n 0, 1) := by decide +kernel
theorem dX0_step_122 : decode cX0_step 122 = .ok (.iload_n 1, 1) := by decide +kernel
theorem dX0_step_123 : decode cX0_step 123 = .ok (.invokevirtual 85, 3) := by decide +kernel
theorem dX0_step_126 : decode cX0_step 126 = .ok (.ireturn, 1) := by decide +kernel
theorem dX0_step_127 : decode cX0_step 127 = .ok (.aload_n 0, 1) := by decide +kernel
theorem dX0_step_128 : decode cX0_step 128 = .ok (.iload_n 1, 1) := by decide +kernel
theorem dX0_step_129 : decode cX0_step 129 = .ok (.invokevirtual 88, 3) := by decide +kernel
theorem dX0_step_132 : decode cX0_step 132 = .ok (.ireturn, 1) := by decide +kernel
theorem dX0_step_133 : decode cX0_step 133 = .ok (.aload_n 0, 1) := by decide +kernel
theorem dX0_step_134 : decode cX0_step 134 = .ok (.iload_n 1, 1) := by decide +kernel
theorem dX0_step_135 : decode cX0_step 135 = .ok (.invokevirtual 91, 3) := by decide +kernel
theorem dX0_step_138 : decode cX0_step 138 = .ok (.ireturn, 1) := by decide +kernel
abbrev cX0_make : ByteArray := prog_1_method_10_code
def yX0_make : MethodName := ⟨RX0, "make", "(II)Z"⟩
theorem dX0_make_0 : decode cX0_make 0 = .ok (.aload_n 0, 1) := by decide +kernel
theorem dX0_make_1 : decode cX0_make 1 = .ok (.getfield 34, 3) := by decide +kernel
theorem dX0_make_4 : decode cX0_make 4 = .ok (.iload_n 1, 1) := by decide +kernel
theorem dX0_make_5 : decode cX0_make 5 = .ok (.bipush 40, 2) := by decide +kernel
theorem dX0_make_7 : decode cX0_make 7 = .ok (.imul, 1) := by decide +kernel
theorem dX0_make_8 : decode cX0_make 8 = .ok (.aload_n 0, 1) := by decide +kernel
theorem dX0_make_9 : decode cX0_make 9 = .ok (.getfield 22, 3) := by decide +kernel
theorem dX0_make_12 : decode cX0_make 12 = .ok (.iload_n 1, 1) := by decide +kernel
theorem dX0_make_13 : decode cX0_make 13 = .ok (.iaload, 1) := by decide +kernel
theorem dX0_make_14 : decode cX0_make 14 = .ok (.iadd, 1) := by decide +kernel
theorem dX0_make_15 : decode cX0_make 15 = .ok (.iload_n 2, 1) := by decide +kernel
theorem dX0_make_16 : decode cX0_make 16 = .ok (.iastore, 1) := by decide +kernel
theorem dX0_make_17 : decode cX0_make 17 = .ok (.aload_n 0, 1) := by decide +kernel
theorem dX0_make_18 : decode cX0_make 18 = .ok (.getfield 22, 3) := by decide +kernel
theorem dX0_make_21 : decode cX0_make 21 = .ok (.iload_n 1, 1) := by decide +kernel
theorem dX0_make_22 : decode cX0_make 22 = .ok (.dup2, 1) := by decide +kernel
theorem dX0_make_23 : decode cX0_make 23 = .ok (.iaload, 1) := by decide +kernel
theorem dX0_make_24 : decode cX0_make 24 = .ok (.iconst 1, 1) := by decide +kernel
theorem dX0_make_25 : decode cX0_make 25 = .ok (.iadd, 1) := by decide +kernel
theorem dX0_make_26 : decode cX0_make 26 = .ok (.iastore, 1) := by decide +kernel
theorem dX0_make_27 : decode cX0_make 27 = .ok (.iconst 1, 1) := by decide +kernel
theorem dX0_make_28 : decode cX0_make 28 = .ok (.ireturn, 1) := by decide +kernel
abbrev cX0_stepPair : ByteArray := prog_1_method_14_code
def yX0_stepPair : MethodName := ⟨RX0, "stepPair", "(I)Z"⟩
theorem dX0_stepPair_0 : decode cX0_stepPair 0 = .ok (.aload_n 0, 1) := by decide +kernel
theorem dX0_stepPair_1 : decode cX0_stepPair 1 = .ok (.iload_n 1, 1) := by decide +kernel
theorem dX0_stepPair_2 : decode cX0_stepPair 2 = .ok (.invokevirtual 62, 3) := by decide +kernel
theorem dX0_stepPair_5 : decode cX0_stepPair 5 = .ok (.ifCond .eq 15, 3) := by decide +kernel
theorem dX0_stepPair_8 : decode cX0_stepPair 8 = .ok (.aload_n 0, 1) := by decide +kernel
theorem dX0_stepPair_9 : decode cX0_stepPair 9 = .ok (.iload_n 1, 1) := by decide +kernel
theorem dX0_stepPair_10 : decode cX0_stepPair 10 = .ok (.invokevirtual 65, 3) := by decide +kernel
theorem dX0_stepPair_13 : decode cX0_stepPair 13 = .ok (.ifCond .eq 7, 3) := by decide +kernel
theorem dX0_stepPair_16 : decode cX0_stepPair 16 = .ok (.iconst 1, 1) := by decide +kernel
theorem dX0_stepPair_17 : decode cX0_stepPair 17 = .ok (.goto 4, 3) := by decide +kernel
theorem dX0_stepPair_20 : decode cX0_stepPair 20 = .ok (.iconst 0, 1) := by decide +kernel
theorem dX0_stepPair_21 : decode cX0_stepPair 21 = .ok (.istore_n 2, 1) := by decide +kernel
theorem dX0_stepPair_22 : decode cX0_stepPair 22 = .ok (.iload_n 2, 1) := by decide +kernel
theorem dX0_stepPair_23 : decode cX0_stepPair 23 = .ok (.ifCond .ne 5, 3) := by decide +kernel
theorem dX0_stepPair_26 : decode cX0_stepPair 26 = .ok (.iconst 0, 1) := by decide +kernel
theorem dX0_stepPair_27 : decode cX0_stepPair 27 = .ok (.ireturn, 1) := by decide +kernel
theorem dX0_stepPair_28 : decode cX0_stepPair 28 = .ok (.aload_n 0, 1) := by decide +kernel
theorem dX0_stepPair_29 : decode cX0_stepPair 29 = .ok (.getfield 7, 3) := by decide +kernel
theorem dX0_stepPair_32 : decode cX0_stepPair 32 = .ok (.iload_n 1, 1) := by decide +kernel
theorem dX0_stepPair_33 : decode cX0_stepPair 33 = .ok (.iaload, 1) := by decide +kernel
theorem dX0_stepPair_34 : decode cX0_stepPair 34 = .ok (.iconst 2, 1) := by decide +kernel
theorem dX0_stepPair_35 : decode cX0_stepPair 35 = .ok (.if_icmp .ne 26, 3) := by decide +kernel
theorem dX0_stepPair_38 : decode cX0_stepPair 38 = .ok (.aload_n 0, 1) := by decide +kernel
theorem dX0_stepPair_39 : decode cX0_stepPair 39 = .ok (.iload_n 1, 1) := by decide +kernel
theorem dX0_stepPair_40 : decode cX0_stepPair 40 = .ok (.invokevirtual 68, 3) := by decide +kernel
theorem dX0_stepPair_43 : decode cX0_stepPair 43 = .ok (.istore_n 3, 1) := by decide +kernel
theorem dX0_stepPair_44 : decode cX0_stepPair 44 = .ok (.aload_n 0, 1) := by decide +kernel
theorem dX0_stepPair_45 : decode cX0_stepPair 45 = .ok (.iload_n 1, 1) := by decide +kernel
theorem dX0_stepPair_46 : decode cX0_stepPair 46 = .ok (.invokevirtual 72, 3) := by decide +kernel
theorem dX0_stepPair_49 : decode cX0_stepPair 49 = .ok (.istore 4, 2) := by decide +kernel
theorem dX0_stepPair_51 : decode cX0_stepPair 51 = .ok (.aload_n 0, 1) := by decide +kernel
theorem dX0_stepPair_52 : decode cX0_stepPair 52 = .ok (.iload_n 1, 1) := by decide +kernel
theorem dX0_stepPair_53 : decode cX0_stepPair 53 = .ok (.iload_n 3, 1) := by decide +kernel
theorem dX0_stepPair_54 : decode cX0_stepPair 54 = .ok (.iload 4, 2) := by decide +kernel
theorem dX0_stepPair_56 : decode cX0_stepPair 56 = .ok (.iadd, 1) := by decide +kernel
theorem dX0_stepPair_57 : decode cX0_stepPair 57 = .ok (.invokevirtual 75, 3) := by decide +kernel
theorem dX0_stepPair_60 : decode cX0_stepPair 60 = .ok (.ireturn, 1) := by decide +kernel
theorem dX0_stepPair_61 : decode cX0_stepPair 61 = .ok (.aload_n 0, 1) := by decide +kernel
theorem dX0_stepPair_62 : decode cX0_stepPair 62 = .ok (.getfield 34, 3) := by decide +kernel
theorem dX0_stepPair_65 : decode cX0_stepPair 65 = .ok (.aload_n 0, 1) := by decide +kernel
theorem dX0_stepPair_66 : decode cX0_stepPair 66 = .ok (.getfield 13, 3) := by decide +kernel
theorem dX0_stepPair_69 : decode cX0_stepPair 69 = .ok (.iload_n 1, 1) := by decide +kernel
theorem dX0_stepPair_70 : decode cX0_stepPair 70 = .ok (.iaload, 1) := by decide +kernel
theorem dX0_stepPair_71 : decode cX0_stepPair 71 = .ok (.bipush 40, 2) := by decide +kernel
theorem dX0_stepPair_73 : decode cX0_stepPair 73 = .ok (.imul, 1) := by decide +kernel
theorem dX0_stepPair_74 : decode cX0_stepPair 74 = .ok (.aload_n 0, 1) := by decide +kernel
theorem dX0_stepPair_75 : decode cX0_stepPair 75 = .ok (.getfield 25, 3) := by decide +kernel
theorem dX0_stepPair_78 : decode cX0_stepPair 78 = .ok (.iload_n 1, 1) := by decide +kernel
theorem dX0_stepPair_79 : decode cX0_stepPair 79 = .ok (.iaload, 1) := by decide +kernel
theorem dX0_stepPair_80 : decode cX0_stepPair 80 = .ok (.iadd, 1) := by decide +kernel
theorem dX0_stepPair_81 : decode cX0_stepPair 81 = .ok (.iaload, 1) := by decide +kernel
theorem dX0_stepPair_82 : decode cX0_stepPair 82 = .ok (.aload_n 0, 1) := by decide +kernel
theorem dX0_stepPair_83 : decode cX0_stepPair 83 = .ok (.getfield 34, 3) := by decide +kernel
theorem dX0_stepPair_86 : decode cX0_stepPair 86 = .ok (.aload_n 0, 1) := by decide +kernel
theorem dX0_stepPair_87 : decode cX0_stepPair 87 = .ok (.getfield 16, 3) := by decide +kernel
theorem dX0_stepPair_90 : decode cX0_stepPair 90 = .ok (.iload_n 1, 1) := by decide +kernel
theorem dX0_stepPair_91 : decode cX0_stepPair 91 = .ok (.iaload, 1) := by decide +kernel
theorem dX0_stepPair_92 : decode cX0_stepPair 92 = .ok (.bipush 40, 2) := by decide +kernel
theorem dX0_stepPair_94 : decode cX0_stepPair 94 = .ok (.imul, 1) := by decide +kernel
theorem dX0_stepPair_95 : decode cX0_stepPair 95 = .ok (.aload_n 0, 1) := by decide +kernel
theorem dX0_stepPair_96 : decode cX0_stepPair 96 = .ok (.getfield 28, 3) := by decide +kernel
theorem dX0_stepPair_99 : decode cX0_stepPair 99 = .ok (.iload_n 1, 1) := by decide +kernel
theorem dX0_stepPair_100 : decode cX0_stepPair 100 = .ok (.iaload, 1) := by decide +kernel
theorem dX0_stepPair_101 : decode cX0_stepPair 101 = .ok (.iadd, 1) := by decide +kernel
theorem dX0_stepPair_102 : decode cX0_stepPair 102 = .ok (.iaload, 1) := by decide +kernel
theorem dX0_stepPair_103 : decode cX0_stepPair 103 = .ok (.if_icmp .gt 7, 3) := by decide +kernel
theorem dX0_stepPair_106 : decode cX0_stepPair 106 = .ok (.iconst 1, 1) := by decide +kernel
theorem dX0_stepPair_107 : decode cX0_stepPair 107 = .ok (.goto 4, 3) := by decide +kernel
theorem dX0_stepPair_110 : decode cX0_stepPair 110 = .ok (.iconst 0, 1) := by decide +kernel
theorem dX0_stepPair_111 : decode cX0_stepPair 111 = .ok (.istore_n 3, 1) := by decide +kernel
theorem dX0_stepPair_112 : decode cX0_stepPair 112 = .ok (.iload_n 3, 1) := by decide +kernel
theorem dX0_stepPair_113 : decode cX0_stepPair 113 = .ok (.ifCond .eq 11, 3) := by decide +kernel
theorem dX0_stepPair_116 : decode cX0_stepPair 116 = .ok (.aload_n 0, 1) := by decide +kernel
theorem dX0_stepPair_117 : decode cX0_stepPair 117 = .ok (.iload_n 1, 1) := by decide +kernel
theorem dX0_stepPair_118 : decode cX0_stepPair 118 = .ok (.invokevirtual 68, 3) := by decide +kernel
theorem dX0_stepPair_121 : decode cX0_stepPair 121 = .ok (.goto 8, 3) := by decide +kernel
theorem dX0_stepPair_124 : decode cX0_stepPair 124 = .ok (.aload_n 0, 1) := by decide +kernel
theorem dX0_stepPair_125 : decode cX0_stepPair 125 = .ok (.iload_n 1, 1) := by decide +kernel
theorem dX0_stepPair_126 : decode cX0_stepPair 126 = .ok (.invokevirtual 72, 3) := by decide +kernel
theorem dX0_stepPair_129 : decode cX0_stepPair 129 = .ok (.istore 4, 2) := by decide +kernel
theorem dX0_stepPair_131 : decode cX0_stepPair 131 = .ok (.aload_n 0, 1) := by decide +kernel
theorem dX0_stepPair_132 : decode cX0_stepPair 132 = .ok (.iload_n 1, 1) := by decide +kernel
theorem dX0_stepPair_133 : decode cX0_stepPair 133 = .ok (.iload 4, 2) := by decide +kernel
theorem dX0_stepPair_135 : decode cX0_stepPair 135 = .ok (.invokevirtual 75, 3) := by decide +kernel
theorem dX0_stepPair_138 : decode cX0_stepPair 138 = .ok (.ireturn, 1) := by decide +kernel
abbrev cX0_hasX : ByteArray := prog_1_method_6_code
def yX0_hasX : MethodName := ⟨RX0, "hasX", "(I)Z"⟩
theorem dX0_hasX_0 : decode cX0_hasX 0 = .ok (.aload_n 0, 1) := by decide +kernel
theorem dX0_hasX_1 : decode cX0_hasX 1 = .ok (.getfield 25, 3) := by decide +kernel
theorem dX0_hasX_4 : decode cX0_hasX 4 = .ok (.iload_n 1, 1) := by decide +kernel
theorem dX0_hasX_5 : decode cX0_hasX 5 = .ok (.iaload, 1) := by decide +kernel
theorem dX0_hasX_6 : decode cX0_hasX 6 = .ok (.aload_n 0, 1) := by decide +kernel
theorem dX0_hasX_7 : decode cX0_hasX 7 = .ok (.getfield 22, 3) := by decide +kernel
theorem dX0_hasX_10 : decode cX0_hasX 10 = .ok (.aload_n 0, 1) := by decide +kernel
theorem dX0_hasX_11 : decode cX0_hasX 11 = .ok (.getfield 13, 3) := by decide +kernel
theorem dX0_hasX_14 : decode cX0_hasX 14 = .ok (.iload_n 1, 1) := by decide +kernel
theorem dX0_hasX_15 : decode cX0_hasX 15 = .ok (.iaload, 1) := by decide +kernel
theorem dX0_hasX_16 : decode cX0_hasX 16 = .ok (.iaload, 1) := by decide +kernel
theorem dX0_hasX_17 : decode cX0_hasX 17 = .ok (.if_icmp .ge 7, 3) := by decide +kernel
theorem dX0_hasX_20 : decode cX0_hasX 20 = .ok (.iconst 1, 1) := by decide +kernel
theorem dX0_hasX_21 : decode cX0_hasX 21 = .ok (.goto 4, 3) := by decide +kernel
theorem dX0_hasX_24 : decode cX0_hasX 24 = .ok (.iconst 0, 1) := by decide +kernel
theorem dX0_hasX_25 : decode cX0_hasX 25 = .ok (.ireturn, 1) := by decide +kernel
abbrev cX0_hasY : ByteArray := prog_1_method_7_code
def yX0_hasY : MethodName := ⟨RX0, "hasY", "(I)Z"⟩
theorem dX0_hasY_0 : decode cX0_hasY 0 = .ok (.aload_n 0, 1) := by decide +kernel
theorem dX0_hasY_1 : decode cX0_hasY 1 = .ok (.getfield 28, 3) := by decide +kernel
theorem dX0_hasY_4 : decode cX0_hasY 4 = .ok (.iload_n 1, 1) := by decide +kernel
theorem dX0_hasY_5 : decode cX0_hasY 5 = .ok (.iaload, 1) := by decide +kernel
theorem dX0_hasY_6 : decode cX0_hasY 6 = .ok (.aload_n 0, 1) := by decide +kernel
theorem dX0_hasY_7 : decode cX0_hasY 7 = .ok (.getfield 22, 3) := by decide +kernel
theorem dX0_hasY_10 : decode cX0_hasY 10 = .ok (.aload_n 0, 1) := by decide +kernel
theorem dX0_hasY_11 : decode cX0_hasY 11 = .ok (.getfield 16, 3) := by decide +kernel
theorem dX0_hasY_14 : decode cX0_hasY 14 = .ok (.iload_n 1, 1) := by decide +kernel
theorem dX0_hasY_15 : decode cX0_hasY 15 = .ok (.iaload, 1) := by decide +kernel
theorem dX0_hasY_16 : decode cX0_hasY 16 = .ok (.iaload, 1) := by decide +kernel
theorem dX0_hasY_17 : decode cX0_hasY 17 = .ok (.if_icmp .ge 7, 3) := by decide +kernel
theorem dX0_hasY_20 : decode cX0_hasY 20 = .ok (.iconst 1, 1) := by decide +kernel
theorem dX0_hasY_21 : decode cX0_hasY 21 = .ok (.goto 4, 3) := by decide +kernel
theorem dX0_hasY_24 : decode cX0_hasY 24 = .ok (.iconst 0, 1) := by decide +kernel
theorem dX0_hasY_25 : decode cX0_hasY 25 = .ok (.ireturn, 1) := by decide +kernel
abbrev cX0_takeX : ByteArray := prog_1_method_8_code
def yX0_takeX : MethodName := ⟨RX0, "takeX", "(I)I"⟩
theorem dX0_takeX_0 : decode cX0_takeX 0 = .ok (.aload_n 0, 1) := by decide +kernel
theorem dX0_takeX_1 : decode cX0_takeX 1 = .ok (.getfield 34, 3) := by decide +kernel
theorem dX0_takeX_4 : decode cX0_takeX 4 = .ok (.aload_n 0, 1) := by decide +kernel
theorem dX0_takeX_5 : decode cX0_takeX 5 = .ok (.getfield 13, 3) := by decide +kernel
theorem dX0_takeX_8 : decode cX0_takeX 8 = .ok (.iload_n 1, 1) := by decide +kernel
theorem dX0_takeX_9 : decode cX0_takeX 9 = .ok (.iaload, 1) := by decide +kernel
theorem dX0_takeX_10 : decode cX0_takeX 10 = .ok (.bipush 40, 2) := by decide +kernel
theorem dX0_takeX_12 : decode cX0_takeX 12 = .ok (.imul, 1) := by decide +kernel
theorem dX0_takeX_13 : decode cX0_takeX 13 = .ok (.aload_n 0, 1) := by decide +kernel
theorem dX0_takeX_14 : decode cX0_takeX 14 = .ok (.getfield 25, 3) := by decide +kernel
theorem dX0_takeX_17 : decode cX0_takeX 17 = .ok (.iload_n 1, 1) := by decide +kernel
theorem dX0_takeX_18 : decode cX0_takeX 18 = .ok (.iaload, 1) := by decide +kernel
theorem dX0_takeX_19 : decode cX0_takeX 19 = .ok (.iadd, 1) := by decide +kernel
theorem dX0_takeX_20 : decode cX0_takeX 20 = .ok (.iaload, 1) := by decide +kernel
theorem dX0_takeX_21 : decode cX0_takeX 21 = .ok (.istore_n 2, 1) := by decide +kernel
theorem dX0_takeX_22 : decode cX0_takeX 22 = .ok (.aload_n 0, 1) := by decide +kernel
theorem dX0_takeX_23 : decode cX0_takeX 23 = .ok (.getfield 25, 3) := by decide +kernel
theorem dX0_takeX_26 : decode cX0_takeX 26 = .ok (.iload_n 1, 1) := by decide +kernel
theorem dX0_takeX_27 : decode cX0_takeX 27 = .ok (.dup2, 1) := by decide +kernel
theorem dX0_takeX_28 : decode cX0_takeX 28 = .ok (.iaload, 1) := by decide +kernel
theorem dX0_takeX_29 : decode cX0_takeX 29 = .ok (.iconst 1, 1) := by decide +kernel
theorem dX0_takeX_30 : decode cX0_takeX 30 = .ok (.iadd, 1) := by decide +kernel
theorem dX0_takeX_31 : decode cX0_takeX 31 = .ok (.iastore, 1) := by decide +kernel
theorem dX0_takeX_32 : decode cX0_takeX 32 = .ok (.iload_n 2, 1) := by decide +kernel
theorem dX0_takeX_33 : decode cX0_takeX 33 = .ok (.ireturn, 1) := by decide +kernel
abbrev cX0_takeY : ByteArray := prog_1_method_9_code
def yX0_takeY : MethodName := ⟨RX0, "takeY", "(I)I"⟩
theorem dX0_takeY_0 : decode cX0_takeY 0 = .ok (.aload_n 0, 1) := by decide +kernel
theorem dX0_takeY_1 : decode cX0_takeY 1 = .ok (.getfield 34, 3) := by decide +kernel
theorem dX0_takeY_4 : decode cX0_takeY 4 = .ok (.aload_n 0, 1) := by decide +kernel
theorem dX0_takeY_5 : decode cX0_takeY 5 = .ok (.getfield 16, 3) := by decide +kernel
theorem dX0_takeY_8 : decode cX0_takeY 8 = .ok (.iload_n 1, 1) := by decide +kernel
theorem dX0_takeY_9 : decode cX0_takeY 9 = .ok (.iaload, 1) := by decide +kernel
theorem dX0_takeY_10 : decode cX0_takeY 10 = .ok (.bipush 40, 2) := by decide +kernel
theorem dX0_takeY_12 : decode cX0_takeY 12 = .ok (.imul, 1) := by decide +kernel
theorem dX0_takeY_13 : decode cX0_takeY 13 = .ok (.aload_n 0, 1) := by decide +kernel
theorem dX0_takeY_14 : decode cX0_takeY 14 = .ok (.getfield 28, 3) := by decide +kernel
theorem dX0_takeY_17 : decode cX0_takeY 17 = .ok (.iload_n 1, 1) := by decide +kernel
theorem dX0_takeY_18 : decode cX0_takeY 18 = .ok (.iaload, 1) := by decide +kernel
theorem dX0_takeY_19 : decode cX0_takeY 19 = .ok (.iadd, 1) := by decide +kernel
theorem dX0_takeY_20 : decode cX0_takeY 20 = .ok (.iaload, 1) := by decide +kernel
theorem dX0_takeY_21 : decode cX0_takeY 21 = .ok (.istore_n 2, 1) := by decide +kernel
theorem dX0_takeY_22 : decode cX0_takeY 22 = .ok (.aload_n 0, 1) := by decide +kernel
theorem dX0_takeY_23 : decode cX0_takeY 23 = .ok (.getfield 28, 3) := by decide +kernel
theorem dX0_takeY_26 : decode cX0_takeY 26 = .ok (.iload_n 1, 1) := by decide +kernel
theorem dX0_takeY_27 : decode cX0_takeY 27 = .ok (.dup2, 1) := by decide +kernel
theorem dX0_takeY_28 : decode cX0_takeY 28 = .ok (.iaload, 1) := by decide +kernel
theorem dX0_takeY_29 : decode cX0_takeY 29 = .ok (.iconst 1, 1) := by decide +kernel
theorem dX0_takeY_30 : decode cX0_takeY 30 = .ok (.iadd, 1) := by decide +kernel
theorem dX0_takeY_31 : decode cX0_takeY 31 = .ok (.iastore, 1) := by decide +kernel
theorem dX0_takeY_32 : decode cX0_takeY 32 = .ok (.iload_n 2, 1) := by decide +kernel
theorem dX0_takeY_33 : decode cX0_takeY 33 = .ok (.ireturn, 1) := by decide +kernel
abbrev cX0_stepTurn : ByteArray := prog_1_method_11_code
def yX0_stepTurn : MethodName := ⟨RX0, "stepTurn", "(I)Z"⟩
theorem dX0_stepTurn_0 : decode cX0_stepTurn 0 = .ok (.aload_n 0, 1) := by decide +kernel
theorem dX0_stepTurn_1 : decode cX0_stepTurn 1 = .ok (.getfield 22, 3) := by decide +kernel
theorem dX0_stepTurn_4 : decode cX0_stepTurn 4 = .ok (.iload_n 1, 1) := by decide +kernel
theorem dX0_stepTurn_5 : decode cX0_stepTurn 5 = .ok (.iaload, 1) := by decide +kernel
theorem dX0_stepTurn_6 : decode cX0_stepTurn 6 = .ok (.iconst 1, 1) := by decide +kernel
theorem dX0_stepTurn_7 : decode cX0_stepTurn 7 = .ok (.iand, 1) := by decide +kernel
theorem dX0_stepTurn_8 : decode cX0_stepTurn 8 = .ok (.ifCond .ne 7, 3) := by decide +kernel
theorem dX0_stepTurn_11 : decode cX0_stepTurn 11 = .ok (.iconst 1, 1) := by decide +kernel
theorem dX0_stepTurn_12 : decode cX0_stepTurn 12 = .ok (.goto 4, 3) := by decide +kernel
theorem dX0_stepTurn_15 : decode cX0_stepTurn 15 = .ok (.iconst 0, 1) := by decide +kernel
theorem dX0_stepTurn_16 : decode cX0_stepTurn 16 = .ok (.istore_n 2, 1) := by decide +kernel
theorem dX0_stepTurn_17 : decode cX0_stepTurn 17 = .ok (.iload_n 2, 1) := by decide +kernel
theorem dX0_stepTurn_18 : decode cX0_stepTurn 18 = .ok (.ifCond .eq 11, 3) := by decide +kernel
theorem dX0_stepTurn_21 : decode cX0_stepTurn 21 = .ok (.aload_n 0, 1) := by decide +kernel
theorem dX0_stepTurn_22 : decode cX0_stepTurn 22 = .ok (.iload_n 1, 1) := by decide +kernel
theorem dX0_stepTurn_23 : decode cX0_stepTurn 23 = .ok (.invokevirtual 62, 3) := by decide +kernel
theorem dX0_stepTurn_26 : decode cX0_stepTurn 26 = .ok (.goto 8, 3) := by decide +kernel
theorem dX0_stepTurn_29 : decode cX0_stepTurn 29 = .ok (.aload_n 0, 1) := by decide +kernel
theorem dX0_stepTurn_30 : decode cX0_stepTurn 30 = .ok (.iload_n 1, 1) := by decide +kernel
theorem dX0_stepTurn_31 : decode cX0_stepTurn 31 = .ok (.invokevirtual 65, 3) := by decide +kernel
theorem dX0_stepTurn_34 : decode cX0_stepTurn 34 = .ok (.istore_n 3, 1) := by decide +kernel
theorem dX0_stepTurn_35 : decode cX0_stepTurn 35 = .ok (.iload_n 3, 1) := by decide +kernel
theorem dX0_stepTurn_36 : decode cX0_stepTurn 36 = .ok (.ifCond .ne 5, 3) := by decide +kernel
theorem dX0_stepTurn_39 : decode cX0_stepTurn 39 = .ok (.iconst 0, 1) := by decide +kernel
theorem dX0_stepTurn_40 : decode cX0_stepTurn 40 = .ok (.ireturn, 1) := by decide +kernel
theorem dX0_stepTurn_41 : decode cX0_stepTurn 41 = .ok (.iload_n 2, 1) := by decide +kernel
theorem dX0_stepTurn_42 : decode cX0_stepTurn 42 = .ok (.ifCond .eq 11, 3) := by decide +kernel
theorem dX0_stepTurn_45 : decode cX0_stepTurn 45 = .ok (.aload_n 0, 1) := by decide +kernel
theorem dX0_stepTurn_46 : decode cX0_stepTurn 46 = .ok (.iload_n 1, 1) := by decide +kernel
theorem dX0_stepTurn_47 : decode cX0_stepTurn 47 = .ok (.invokevirtual 68, 3) := by decide +kernel
theorem dX0_stepTurn_50 : decode cX0_stepTurn 50 = .ok (.goto 8, 3) := by decide +kernel
theorem dX0_stepTurn_53 : decode cX0_stepTurn 53 = .ok (.aload_n 0, 1) := by decide +kernel
theorem dX0_stepTurn_54 : decode cX0_stepTurn 54 = .ok (.iload_n 1, 1) := by decide +kernel
theorem dX0_stepTurn_55 : decode cX0_stepTurn 55 = .ok (.invokevirtual 72, 3) := by decide +kernel
theorem dX0_stepTurn_58 : decode cX0_stepTurn 58 = .ok (.istore 4, 2) := by decide +kernel
theorem dX0_stepTurn_60 : decode cX0_stepTurn 60 = .ok (.aload_n 0, 1) := by decide +kernel
theorem dX0_stepTurn_61 : decode cX0_stepTurn 61 = .ok (.iload_n 1, 1) := by decide +kernel
theorem dX0_stepTurn_62 : decode cX0_stepTurn 62 = .ok (.iload 4, 2) := by decide +kernel
theorem dX0_stepTurn_64 : decode cX0_stepTurn 64 = .ok (.invokevirtual 75, 3) := by decide +kernel
theorem dX0_stepTurn_67 : decode cX0_stepTurn 67 = .ok (.ireturn, 1) := by decide +kernel
abbrev cX0_stepOdd : ByteArray := prog_1_method_12_code
def yX0_stepOdd : MethodName := ⟨RX0, "stepOdd", "(I)Z"⟩
theorem dX0_stepOdd_0 : decode cX0_stepOdd 0 = .ok (.aload_n 0, 1) := by decide +kernel
theorem dX0_stepOdd_1 : decode cX0_stepOdd 1 = .ok (.iload_n 1, 1) := by decide +kernel
theorem dX0_stepOdd_2 : decode cX0_stepOdd 2 = .ok (.invokevirtual 62, 3) := by decide +kernel
theorem dX0_stepOdd_5 : decode cX0_stepOdd 5 = .ok (.istore_n 2, 1) := by decide +kernel
theorem dX0_stepOdd_6 : decode cX0_stepOdd 6 = .ok (.iload_n 2, 1) := by decide +kernel
theorem dX0_stepOdd_7 : decode cX0_stepOdd 7 = .ok (.ifCond .ne 5, 3) := by decide +kernel
theorem dX0_stepOdd_10 : decode cX0_stepOdd 10 = .ok (.iconst 0, 1) := by decide +kernel
theorem dX0_stepOdd_11 : decode cX0_stepOdd 11 = .ok (.ireturn, 1) := by decide +kernel
theorem dX0_stepOdd_12 : decode cX0_stepOdd 12 = .ok (.aload_n 0, 1) := by decide +kernel
theorem dX0_stepOdd_13 : decode cX0_stepOdd 13 = .ok (.iload_n 1, 1) := by decide +kernel
theorem dX0_stepOdd_14 : decode cX0_stepOdd 14 = .ok (.invokevirtual 68, 3) := by decide +kernel
theorem dX0_stepOdd_17 : decode cX0_stepOdd 17 = .ok (.istore_n 3, 1) := by decide +kernel
theorem dX0_stepOdd_18 : decode cX0_stepOdd 18 = .ok (.iload_n 3, 1) := by decide +kernel
theorem dX0_stepOdd_19 : decode cX0_stepOdd 19 = .ok (.iconst 1, 1) := by decide +kernel
theorem dX0_stepOdd_20 : decode cX0_stepOdd 20 = .ok (.iand, 1) := by decide +kernel
theorem dX0_stepOdd_21 : decode cX0_stepOdd 21 = .ok (.iconst 1, 1) := by decide +kernel
theorem dX0_stepOdd_22 : decode cX0_stepOdd 22 = .ok (.if_icmp .ne 10, 3) := by decide +kernel
theorem dX0_stepOdd_25 : decode cX0_stepOdd 25 = .ok (.aload_n 0, 1) := by decide +kernel
theorem dX0_stepOdd_26 : decode cX0_stepOdd 26 = .ok (.iload_n 1, 1) := by decide +kernel
theorem dX0_stepOdd_27 : decode cX0_stepOdd 27 = .ok (.iload_n 3, 1) := by decide +kernel
theorem dX0_stepOdd_28 : decode cX0_stepOdd 28 = .ok (.invokevirtual 75, 3) := by decide +kernel
theorem dX0_stepOdd_31 : decode cX0_stepOdd 31 = .ok (.pop, 1) := by decide +kernel
theorem dX0_stepOdd_32 : decode cX0_stepOdd 32 = .ok (.iconst 1, 1) := by decide +kernel
theorem dX0_stepOdd_33 : decode cX0_stepOdd 33 = .ok (.ireturn, 1) := by decide +kernel
abbrev cX0_stepDelay : ByteArray := prog_1_method_13_code
def yX0_stepDelay : MethodName := ⟨RX0, "stepDelay", "(I)Z"⟩
theorem dX0_stepDelay_0 : decode cX0_stepDelay 0 = .ok (.aload_n 0, 1) := by decide +kernel
theorem dX0_stepDelay_1 : decode cX0_stepDelay 1 = .ok (.getfield 22, 3) := by decide +kernel
theorem dX0_stepDelay_4 : decode cX0_stepDelay 4 = .ok (.iload_n 1, 1) := by decide +kernel
theorem dX0_stepDelay_5 : decode cX0_stepDelay 5 = .ok (.iaload, 1) := by decide +kernel
theorem dX0_stepDelay_6 : decode cX0_stepDelay 6 = .ok (.ifCond .ne 15, 3) := by decide +kernel
theorem dX0_stepDelay_9 : decode cX0_stepDelay 9 = .ok (.aload_n 0, 1) := by decide +kernel
theorem dX0_stepDelay_10 : decode cX0_stepDelay 10 = .ok (.iload_n 1, 1) := by decide +kernel
theorem dX0_stepDelay_11 : decode cX0_stepDelay 11 = .ok (.aload_n 0, 1) := by decide +kernel
theorem dX0_stepDelay_12 : decode cX0_stepDelay 12 = .ok (.getfield 19, 3) := by decide +kernel
theorem dX0_stepDelay_15 : decode cX0_stepDelay 15 = .ok (.iload_n 1, 1) := by decide +kernel
theorem dX0_stepDelay_16 : decode cX0_stepDelay 16 = .ok (.iaload, 1) := by decide +kernel
theorem dX0_stepDelay_17 : decode cX0_stepDelay 17 = .ok (.invokevirtual 75, 3) := by decide +kernel
theorem dX0_stepDelay_20 : decode cX0_stepDelay 20 = .ok (.ireturn, 1) := by decide +kernel
theorem dX0_stepDelay_21 : decode cX0_stepDelay 21 = .ok (.aload_n 0, 1) := by decide +kernel
theorem dX0_stepDelay_22 : decode cX0_stepDelay 22 = .ok (.iload_n 1, 1) := by decide +kernel
theorem dX0_stepDelay_23 : decode cX0_stepDelay 23 = .ok (.invokevirtual 62, 3) := by decide +kernel
theorem dX0_stepDelay_26 : decode cX0_stepDelay 26 = .ok (.istore_n 2, 1) := by decide +kernel
theorem dX0_stepDelay_27 : decode cX0_stepDelay 27 = .ok (.iload_n 2, 1) := by decide +kernel
theorem dX0_stepDelay_28 : decode cX0_stepDelay 28 = .ok (.ifCond .ne 5, 3) := by decide +kernel
theorem dX0_stepDelay_31 : decode cX0_stepDelay 31 = .ok (.iconst 0, 1) := by decide +kernel
theorem dX0_stepDelay_32 : decode cX0_stepDelay 32 = .ok (.ireturn, 1) := by decide +kernel
theorem dX0_stepDelay_33 : decode cX0_stepDelay 33 = .ok (.aload_n 0, 1) := by decide +kernel
theorem dX0_stepDelay_34 : decode cX0_stepDelay 34 = .ok (.iload_n 1, 1) := by decide +kernel
theorem dX0_stepDelay_35 : decode cX0_stepDelay 35 = .ok (.invokevirtual 68, 3) := by decide +kernel
theorem dX0_stepDelay_38 : decode cX0_stepDelay 38 = .ok (.istore_n 3, 1) := by decide +kernel
theorem dX0_stepDelay_39 : decode cX0_stepDelay 39 = .ok (.aload_n 0, 1) := by decide +kernel
theorem dX0_stepDelay_40 : decode cX0_stepDelay 40 = .ok (.iload_n 1, 1) := by decide +kernel
theorem dX0_stepDelay_41 : decode cX0_stepDelay 41 = .ok (.iload_n 3, 1) := by decide +kernel
theorem dX0_stepDelay_42 : decode cX0_stepDelay 42 = .ok (.invokevirtual 75, 3) := by decide +kernel
theorem dX0_stepDelay_45 : decode cX0_stepDelay 45 = .ok (.ireturn, 1) := by decide +kernel
abbrev cX0_stepSum : ByteArray := prog_1_method_15_code
def yX0_stepSum : MethodName := ⟨RX0, "stepSum", "(I)Z"⟩
theorem dX0_stepSum_0 : decode cX0_stepSum 0 = .ok (.aload_n 0, 1) := by decide +kernel
theorem dX0_stepSum_1 : decode cX0_stepSum 1 = .ok (.iload_n 1, 1) := by decide +kernel
theorem dX0_stepSum_2 : decode cX0_stepSum 2 = .ok (.invokevirtual 62, 3) := by decide +kernel
theorem dX0_stepSum_5 : decode cX0_stepSum 5 = .ok (.istore_n 2, 1) := by decide +kernel
theorem dX0_stepSum_6 : decode cX0_stepSum 6 = .ok (.iload_n 2, 1) := by decide +kernel
theorem dX0_stepSum_7 : decode cX0_stepSum 7 = .ok (.ifCond .ne 5, 3) := by decide +kernel
theorem dX0_stepSum_10 : decode cX0_stepSum 10 = .ok (.iconst 0, 1) := by decide +kernel
theorem dX0_stepSum_11 : decode cX0_stepSum 11 = .ok (.ireturn, 1) := by decide +kernel
theorem dX0_stepSum_12 : decode cX0_stepSum 12 = .ok (.aload_n 0, 1) := by decide +kernel
theorem dX0_stepSum_13 : decode cX0_stepSum 13 = .ok (.getfield 31, 3) := by decide +kernel
theorem dX0_stepSum_16 : decode cX0_stepSum 16 = .ok (.iload_n 1, 1) := by decide +kernel
theorem dX0_stepSum_17 : decode cX0_stepSum 17 = .ok (.dup2, 1) := by decide +kernel
theorem dX0_stepSum_18 : decode cX0_stepSum 18 = .ok (.iaload, 1) := by decide +kernel
theorem dX0_stepSum_19 : decode cX0_stepSum 19 = .ok (.aload_n 0, 1) := by decide +kernel
theorem dX0_stepSum_20 : decode cX0_stepSum 20 = .ok (.iload_n 1, 1) := by decide +kernel
theorem dX0_stepSum_21 : decode cX0_stepSum 21 = .ok (.invokevirtual 68, 3) := by decide +kernel
theorem dX0_stepSum_24 : decode cX0_stepSum 24 = .ok (.iadd, 1) := by decide +kernel
theorem dX0_stepSum_25 : decode cX0_stepSum 25 = .ok (.iastore, 1) := by decide +kernel
theorem dX0_stepSum_26 : decode cX0_stepSum 26 = .ok (.aload_n 0, 1) := by decide +kernel
theorem dX0_stepSum_27 : decode cX0_stepSum 27 = .ok (.iload_n 1, 1) := by decide +kernel
theorem dX0_stepSum_28 : decode cX0_stepSum 28 = .ok (.aload_n 0, 1) := by decide +kernel
theorem dX0_stepSum_29 : decode cX0_stepSum 29 = .ok (.getfield 31, 3) := by decide +kernel
theorem dX0_stepSum_32 : decode cX0_stepSum 32 = .ok (.iload_n 1, 1) := by decide +kernel
theorem dX0_stepSum_33 : decode cX0_stepSum 33 = .ok (.iaload, 1) := by decide +kernel
theorem dX0_stepSum_34 : decode cX0_stepSum 34 = .ok (.invokevirtual 75, 3) := by decide +kernel
theorem dX0_stepSum_37 : decode cX0_stepSum 37 = .ok (.ireturn, 1) := by decide +kernel
end
section
set_option maxRecDepth 100000
abbrev cX0_exchange : ByteArray := prog_1_method_20_code
def yX0_exchange : MethodName := ⟨RX0, "exchange", "(II)I"⟩
theorem dX0_exchange_0 : decode cX0_exchange 0 = .ok (.iload_n 1, 1) := by decide +kernel
theorem dX0_exchange_1 : decode cX0_exchange 1 = .ok (.invokestatic 58, 3) := by decide +kernel
theorem dX0_exchange_4 : decode cX0_exchange 4 = .ok (.ifCond .ne 10, 3) := by decide +kernel
theorem dX0_exchange_7 : decode cX0_exchange 7 = .ok (.iload_n 2, 1) := by decide +kernel
theorem dX0_exchange_8 : decode cX0_exchange 8 = .ok (.invokestatic 58, 3) := by decide +kernel
theorem dX0_exchange_11 : decode cX0_exchange 11 = .ok (.ifCond .eq 5, 3) := by decide +kernel
theorem dX0_exchange_14 : decode cX0_exchange 14 = .ok (.iconst (-1), 1) := by decide +kernel
theorem dX0_exchange_15 : decode cX0_exchange 15 = .ok (.ireturn, 1) := by decide +kernel
theorem dX0_exchange_16 : decode cX0_exchange 16 = .ok (.aload_n 0, 1) := by decide +kernel
theorem dX0_exchange_17 : decode cX0_exchange 17 = .ok (.getfield 7, 3) := by decide +kernel
theorem dX0_exchange_20 : decode cX0_exchange 20 = .ok (.iload_n 1, 1) := by decide +kernel
theorem dX0_exchange_21 : decode cX0_exchange 21 = .ok (.iaload, 1) := by decide +kernel
theorem dX0_exchange_22 : decode cX0_exchange 22 = .ok (.istore_n 3, 1) := by decide +kernel
theorem dX0_exchange_23 : decode cX0_exchange 23 = .ok (.aload_n 0, 1) := by decide +kernel
theorem dX0_exchange_24 : decode cX0_exchange 24 = .ok (.getfield 7, 3) := by decide +kernel
theorem dX0_exchange_27 : decode cX0_exchange 27 = .ok (.iload_n 1, 1) := by decide +kernel
theorem dX0_exchange_28 : decode cX0_exchange 28 = .ok (.aload_n 0, 1) := by decide +kernel
theorem dX0_exchange_29 : decode cX0_exchange 29 = .ok (.getfield 7, 3) := by decide +kernel
theorem dX0_exchange_32 : decode cX0_exchange 32 = .ok (.iload_n 2, 1) := by decide +kernel
theorem dX0_exchange_33 : decode cX0_exchange 33 = .ok (.iaload, 1) := by decide +kernel
theorem dX0_exchange_34 : decode cX0_exchange 34 = .ok (.iastore, 1) := by decide +kernel
theorem dX0_exchange_35 : decode cX0_exchange 35 = .ok (.aload_n 0, 1) := by decide +kernel
theorem dX0_exchange_36 : decode cX0_exchange 36 = .ok (.getfield 7, 3) := by decide +kernel
theorem dX0_exchange_39 : decode cX0_exchange 39 = .ok (.iload_n 2, 1) := by decide +kernel
theorem dX0_exchange_40 : decode cX0_exchange 40 = .ok (.iload_n 3, 1) := by decide +kernel
theorem dX0_exchange_41 : decode cX0_exchange 41 = .ok (.iastore, 1) := by decide +kernel
theorem dX0_exchange_42 : decode cX0_exchange 42 = .ok (.aload_n 0, 1) := by decide +kernel
theorem dX0_exchange_43 : decode cX0_exchange 43 = .ok (.getfield 13, 3) := by decide +kernel
theorem dX0_exchange_46 : decode cX0_exchange 46 = .ok (.iload_n 1, 1) := by decide +kernel
theorem dX0_exchange_47 : decode cX0_exchange 47 = .ok (.iaload, 1) := by decide +kernel
theorem dX0_exchange_48 : decode cX0_exchange 48 = .ok (.istore 4, 2) := by decide +kernel
theorem dX0_exchange_50 : decode cX0_exchange 50 = .ok (.aload_n 0, 1) := by decide +kernel
theorem dX0_exchange_51 : decode cX0_exchange 51 = .ok (.getfield 13, 3) := by decide +kernel
theorem dX0_exchange_54 : decode cX0_exchange 54 = .ok (.iload_n 1, 1) := by decide +kernel
theorem dX0_exchange_55 : decode cX0_exchange 55 = .ok (.aload_n 0, 1) := by decide +kernel
theorem dX0_exchange_56 : decode cX0_exchange 56 = .ok (.getfield 13, 3) := by decide +kernel
theorem dX0_exchange_59 : decode cX0_exchange 59 = .ok (.iload_n 2, 1) := by decide +kernel
theorem dX0_exchange_60 : decode cX0_exchange 60 = .ok (.iaload, 1) := by decide +kernel
theorem dX0_exchange_61 : decode cX0_exchange 61 = .ok (.iastore, 1) := by decide +kernel
theorem dX0_exchange_62 : decode cX0_exchange 62 = .ok (.aload_n 0, 1) := by decide +kernel
theorem dX0_exchange_63 : decode cX0_exchange 63 = .ok (.getfield 13, 3) := by decide +kernel
theorem dX0_exchange_66 : decode cX0_exchange 66 = .ok (.iload_n 2, 1) := by decide +kernel
theorem dX0_exchange_67 : decode cX0_exchange 67 = .ok (.iload 4, 2) := by decide +kernel
theorem dX0_exchange_69 : decode cX0_exchange 69 = .ok (.iastore, 1) := by decide +kernel
theorem dX0_exchange_70 : decode cX0_exchange 70 = .ok (.aload_n 0, 1) := by decide +kernel
theorem dX0_exchange_71 : decode cX0_exchange 71 = .ok (.getfield 16, 3) := by decide +kernel
theorem dX0_exchange_74 : decode cX0_exchange 74 = .ok (.iload_n 1, 1) := by decide +kernel
theorem dX0_exchange_75 : decode cX0_exchange 75 = .ok (.iaload, 1) := by decide +kernel
theorem dX0_exchange_76 : decode cX0_exchange 76 = .ok (.istore 5, 2) := by decide +kernel
theorem dX0_exchange_78 : decode cX0_exchange 78 = .ok (.aload_n 0, 1) := by decide +kernel
theorem dX0_exchange_79 : decode cX0_exchange 79 = .ok (.getfield 16, 3) := by decide +kernel
theorem dX0_exchange_82 : decode cX0_exchange 82 = .ok (.iload_n 1, 1) := by decide +kernel
theorem dX0_exchange_83 : decode cX0_exchange 83 = .ok (.aload_n 0, 1) := by decide +kernel
theorem dX0_exchange_84 : decode cX0_exchange 84 = .ok (.getfield 16, 3) := by decide +kernel
theorem dX0_exchange_87 : decode cX0_exchange 87 = .ok (.iload_n 2, 1) := by decide +kernel
theorem dX0_exchange_88 : decode cX0_exchange 88 = .ok (.iaload, 1) := by decide +kernel
theorem dX0_exchange_89 : decode cX0_exchange 89 = .ok (.iastore, 1) := by decide +kernel
theorem dX0_exchange_90 : decode cX0_exchange 90 = .ok (.aload_n 0, 1) := by decide +kernel
theorem dX0_exchange_91 : decode cX0_exchange 91 = .ok (.getfield 16, 3) := by decide +kernel
theorem dX0_exchange_94 : decode cX0_exchange 94 = .ok (.iload_n 2, 1) := by decide +kernel
theorem dX0_exchange_95 : decode cX0_exchange 95 = .ok (.iload 5, 2) := by decide +kernel
theorem dX0_exchange_97 : decode cX0_exchange 97 = .ok (.iastore, 1) := by decide +kernel
theorem dX0_exchange_98 : decode cX0_exchange 98 = .ok (.aload_n 0, 1) := by decide +kernel
theorem dX0_exchange_99 : decode cX0_exchange 99 = .ok (.getfield 19, 3) := by decide +kernel
theorem dX0_exchange_102 : decode cX0_exchange 102 = .ok (.iload_n 1, 1) := by decide +kernel
theorem dX0_exchange_103 : decode cX0_exchange 103 = .ok (.iaload, 1) := by decide +kernel
theorem dX0_exchange_104 : decode cX0_exchange 104 = .ok (.istore 6, 2) := by decide +kernel
theorem dX0_exchange_106 : decode cX0_exchange 106 = .ok (.aload_n 0, 1) := by decide +kernel
theorem dX0_exchange_107 : decode cX0_exchange 107 = .ok (.getfield 19, 3) := by decide +kernel
theorem dX0_exchange_110 : decode cX0_exchange 110 = .ok (.iload_n 1, 1) := by decide +kernel
theorem dX0_exchange_111 : decode cX0_exchange 111 = .ok (.aload_n 0, 1) := by decide +kernel
theorem dX0_exchange_112 : decode cX0_exchange 112 = .ok (.getfield 19, 3) := by decide +kernel
theorem dX0_exchange_115 : decode cX0_exchange 115 = .ok (.iload_n 2, 1) := by decide +kernel
theorem dX0_exchange_116 : decode cX0_exchange 116 = .ok (.iaload, 1) := by decide +kernel
theorem dX0_exchange_117 : decode cX0_exchange 117 = .ok (.iastore, 1) := by decide +kernel
theorem dX0_exchange_118 : decode cX0_exchange 118 = .ok (.aload_n 0, 1) := by decide +kernel
theorem dX0_exchange_119 : decode cX0_exchange 119 = .ok (.getfield 19, 3) := by decide +kernel
theorem dX0_exchange_122 : decode cX0_exchange 122 = .ok (.iload_n 2, 1) := by decide +kernel
theorem dX0_exchange_123 : decode cX0_exchange 123 = .ok (.iload 6, 2) := by decide +kernel
theorem dX0_exchange_125 : decode cX0_exchange 125 = .ok (.iastore, 1) := by decide +kernel
theorem dX0_exchange_126 : decode cX0_exchange 126 = .ok (.aload_n 0, 1) := by decide +kernel
theorem dX0_exchange_127 : decode cX0_exchange 127 = .ok (.invokevirtual 44, 3) := by decide +kernel
theorem dX0_exchange_130 : decode cX0_exchange 130 = .ok (.iconst 0, 1) := by decide +kernel
theorem dX0_exchange_131 : decode cX0_exchange 131 = .ok (.ireturn, 1) := by decide +kernel
abbrev cX0_length : ByteArray := prog_1_method_21_code
def yX0_length : MethodName := ⟨RX0, "length", "(I)I"⟩
theorem dX0_length_0 : decode cX0_length 0 = .ok (.iload_n 1, 1) := by decide +kernel
theorem dX0_length_1 : decode cX0_length 1 = .ok (.invokestatic 58, 3) := by decide +kernel
theorem dX0_length_4 : decode cX0_length 4 = .ok (.ifCond .eq 5, 3) := by decide +kernel
theorem dX0_length_7 : decode cX0_length 7 = .ok (.iconst (-1), 1) := by decide +kernel
theorem dX0_length_8 : decode cX0_length 8 = .ok (.ireturn, 1) := by decide +kernel
theorem dX0_length_9 : decode cX0_length 9 = .ok (.aload_n 0, 1) := by decide +kernel
theorem dX0_length_10 : decode cX0_length 10 = .ok (.invokevirtual 101, 3) := by decide +kernel
theorem dX0_length_13 : decode cX0_length 13 = .ok (.aload_n 0, 1) := by decide +kernel
theorem dX0_length_14 : decode cX0_length 14 = .ok (.getfield 22, 3) := by decide +kernel
theorem dX0_length_17 : decode cX0_length 17 = .ok (.iload_n 1, 1) := by decide +kernel
theorem dX0_length_18 : decode cX0_length 18 = .ok (.iaload, 1) := by decide +kernel
theorem dX0_length_19 : decode cX0_length 19 = .ok (.ireturn, 1) := by decide +kernel
abbrev cX0_settle : ByteArray := prog_1_method_18_code
def yX0_settle : MethodName := ⟨RX0, "settle", "()V"⟩
theorem dX0_settle_0 : decode cX0_settle 0 = .ok (.iconst 0, 1) := by decide +kernel
theorem dX0_settle_1 : decode cX0_settle 1 = .ok (.istore_n 1, 1) := by decide +kernel
theorem dX0_settle_2 : decode cX0_settle 2 = .ok (.iload_n 1, 1) := by decide +kernel
theorem dX0_settle_3 : decode cX0_settle 3 = .ok (.sipush 4000, 3) := by decide +kernel
theorem dX0_settle_6 : decode cX0_settle 6 = .ok (.if_icmp .ge 63, 3) := by decide +kernel
theorem dX0_settle_9 : decode cX0_settle 9 = .ok (.aload_n 0, 1) := by decide +kernel
theorem dX0_settle_10 : decode cX0_settle 10 = .ok (.getfield 47, 3) := by decide +kernel
theorem dX0_settle_13 : decode cX0_settle 13 = .ok (.ifCond .le 56, 3) := by decide +kernel
theorem dX0_settle_16 : decode cX0_settle 16 = .ok (.aload_n 0, 1) := by decide +kernel
theorem dX0_settle_17 : decode cX0_settle 17 = .ok (.getfield 37, 3) := by decide +kernel
theorem dX0_settle_20 : decode cX0_settle 20 = .ok (.aload_n 0, 1) := by decide +kernel
theorem dX0_settle_21 : decode cX0_settle 21 = .ok (.getfield 51, 3) := by decide +kernel
theorem dX0_settle_24 : decode cX0_settle 24 = .ok (.iaload, 1) := by decide +kernel
theorem dX0_settle_25 : decode cX0_settle 25 = .ok (.istore_n 2, 1) := by decide +kernel
theorem dX0_settle_26 : decode cX0_settle 26 = .ok (.aload_n 0, 1) := by decide +kernel
theorem dX0_settle_27 : decode cX0_settle 27 = .ok (.aload_n 0, 1) := by decide +kernel
theorem dX0_settle_28 : decode cX0_settle 28 = .ok (.getfield 51, 3) := by decide +kernel
theorem dX0_settle_31 : decode cX0_settle 31 = .ok (.iconst 1, 1) := by decide +kernel
theorem dX0_settle_32 : decode cX0_settle 32 = .ok (.iadd, 1) := by decide +kernel
theorem dX0_settle_33 : decode cX0_settle 33 = .ok (.bipush 7, 2) := by decide +kernel
theorem dX0_settle_35 : decode cX0_settle 35 = .ok (.iand, 1) := by decide +kernel
theorem dX0_settle_36 : decode cX0_settle 36 = .ok (.putfield 51, 3) := by decide +kernel
theorem dX0_settle_39 : decode cX0_settle 39 = .ok (.aload_n 0, 1) := by decide +kernel
theorem dX0_settle_40 : decode cX0_settle 40 = .ok (.dup, 1) := by decide +kernel
theorem dX0_settle_41 : decode cX0_settle 41 = .ok (.getfield 47, 3) := by decide +kernel
theorem dX0_settle_44 : decode cX0_settle 44 = .ok (.iconst 1, 1) := by decide +kernel
theorem dX0_settle_45 : decode cX0_settle 45 = .ok (.isub, 1) := by decide +kernel
theorem dX0_settle_46 : decode cX0_settle 46 = .ok (.putfield 47, 3) := by decide +kernel
theorem dX0_settle_49 : decode cX0_settle 49 = .ok (.aload_n 0, 1) := by decide +kernel
theorem dX0_settle_50 : decode cX0_settle 50 = .ok (.getfield 40, 3) := by decide +kernel
theorem dX0_settle_53 : decode cX0_settle 53 = .ok (.iload_n 2, 1) := by decide +kernel
theorem dX0_settle_54 : decode cX0_settle 54 = .ok (.iconst 0, 1) := by decide +kernel
theorem dX0_settle_55 : decode cX0_settle 55 = .ok (.bastore, 1) := by decide +kernel
theorem dX0_settle_56 : decode cX0_settle 56 = .ok (.aload_n 0, 1) := by decide +kernel
theorem dX0_settle_57 : decode cX0_settle 57 = .ok (.iload_n 2, 1) := by decide +kernel
theorem dX0_settle_58 : decode cX0_settle 58 = .ok (.bipush 120, 2) := by decide +kernel
theorem dX0_settle_60 : decode cX0_settle 60 = .ok (.invokevirtual 97, 3) := by decide +kernel
theorem dX0_settle_63 : decode cX0_settle 63 = .ok (.iinc 1 1, 3) := by decide +kernel
theorem dX0_settle_66 : decode cX0_settle 66 = .ok (.goto (-64), 3) := by decide +kernel
theorem dX0_settle_69 : decode cX0_settle 69 = .ok (.return_, 1) := by decide +kernel
abbrev cX0_item : ByteArray := prog_1_method_22_code
def yX0_item : MethodName := ⟨RX0, "item", "(II)I"⟩
theorem dX0_item_0 : decode cX0_item 0 = .ok (.iload_n 1, 1) := by decide +kernel
theorem dX0_item_1 : decode cX0_item 1 = .ok (.invokestatic 58, 3) := by decide +kernel
theorem dX0_item_4 : decode cX0_item 4 = .ok (.ifCond .eq 5, 3) := by decide +kernel
theorem dX0_item_7 : decode cX0_item 7 = .ok (.iconst (-1), 1) := by decide +kernel
theorem dX0_item_8 : decode cX0_item 8 = .ok (.ireturn, 1) := by decide +kernel
theorem dX0_item_9 : decode cX0_item 9 = .ok (.aload_n 0, 1) := by decide +kernel
theorem dX0_item_10 : decode cX0_item 10 = .ok (.invokevirtual 101, 3) := by decide +kernel
theorem dX0_item_13 : decode cX0_item 13 = .ok (.iload_n 2, 1) := by decide +kernel
theorem dX0_item_14 : decode cX0_item 14 = .ok (.ifCond .lt 13, 3) := by decide +kernel
theorem dX0_item_17 : decode cX0_item 17 = .ok (.iload_n 2, 1) := by decide +kernel
theorem dX0_item_18 : decode cX0_item 18 = .ok (.aload_n 0, 1) := by decide +kernel
theorem dX0_item_19 : decode cX0_item 19 = .ok (.getfield 22, 3) := by decide +kernel
theorem dX0_item_22 : decode cX0_item 22 = .ok (.iload_n 1, 1) := by decide +kernel
theorem dX0_item_23 : decode cX0_item 23 = .ok (.iaload, 1) := by decide +kernel
theorem dX0_item_24 : decode cX0_item 24 = .ok (.if_icmp .lt 8, 3) := by decide +kernel
theorem dX0_item_27 : decode cX0_item 27 = .ok (.bipush (-3), 2) := by decide +kernel
theorem dX0_item_29 : decode cX0_item 29 = .ok (.goto 14, 3) := by decide +kernel
theorem dX0_item_32 : decode cX0_item 32 = .ok (.aload_n 0, 1) := by decide +kernel
theorem dX0_item_33 : decode cX0_item 33 = .ok (.getfield 34, 3) := by decide +kernel
theorem dX0_item_36 : decode cX0_item 36 = .ok (.iload_n 1, 1) := by decide +kernel
theorem dX0_item_37 : decode cX0_item 37 = .ok (.bipush 40, 2) := by decide +kernel
theorem dX0_item_39 : decode cX0_item 39 = .ok (.imul, 1) := by decide +kernel
theorem dX0_item_40 : decode cX0_item 40 = .ok (.iload_n 2, 1) := by decide +kernel
theorem dX0_item_41 : decode cX0_item 41 = .ok (.iadd, 1) := by decide +kernel
theorem dX0_item_42 : decode cX0_item 42 = .ok (.iaload, 1) := by decide +kernel
theorem dX0_item_43 : decode cX0_item 43 = .ok (.ireturn, 1) := by decide +kernel
abbrev cX0_sum : ByteArray := prog_1_method_23_code
def yX0_sum : MethodName := ⟨RX0, "sum", "(I)I"⟩
theorem dX0_sum_0 : decode cX0_sum 0 = .ok (.iload_n 1, 1) := by decide +kernel
theorem dX0_sum_1 : decode cX0_sum 1 = .ok (.invokestatic 58, 3) := by decide +kernel
theorem dX0_sum_4 : decode cX0_sum 4 = .ok (.ifCond .eq 5, 3) := by decide +kernel
theorem dX0_sum_7 : decode cX0_sum 7 = .ok (.iconst (-1), 1) := by decide +kernel
theorem dX0_sum_8 : decode cX0_sum 8 = .ok (.ireturn, 1) := by decide +kernel
theorem dX0_sum_9 : decode cX0_sum 9 = .ok (.aload_n 0, 1) := by decide +kernel
theorem dX0_sum_10 : decode cX0_sum 10 = .ok (.invokevirtual 101, 3) := by decide +kernel
theorem dX0_sum_13 : decode cX0_sum 13 = .ok (.iconst 0, 1) := by decide +kernel
theorem dX0_sum_14 : decode cX0_sum 14 = .ok (.istore_n 2, 1) := by decide +kernel
theorem dX0_sum_15 : decode cX0_sum 15 = .ok (.iconst 0, 1) := by decide +kernel
theorem dX0_sum_16 : decode cX0_sum 16 = .ok (.istore_n 3, 1) := by decide +kernel
theorem dX0_sum_17 : decode cX0_sum 17 = .ok (.iload_n 3, 1) := by decide +kernel
theorem dX0_sum_18 : decode cX0_sum 18 = .ok (.aload_n 0, 1) := by decide +kernel
theorem dX0_sum_19 : decode cX0_sum 19 = .ok (.getfield 22, 3) := by decide +kernel
theorem dX0_sum_22 : decode cX0_sum 22 = .ok (.iload_n 1, 1) := by decide +kernel
theorem dX0_sum_23 : decode cX0_sum 23 = .ok (.iaload, 1) := by decide +kernel
theorem dX0_sum_24 : decode cX0_sum 24 = .ok (.if_icmp .ge 23, 3) := by decide +kernel
theorem dX0_sum_27 : decode cX0_sum 27 = .ok (.iload_n 2, 1) := by decide +kernel
theorem dX0_sum_28 : decode cX0_sum 28 = .ok (.aload_n 0, 1) := by decide +kernel
theorem dX0_sum_29 : decode cX0_sum 29 = .ok (.getfield 34, 3) := by decide +kernel
theorem dX0_sum_32 : decode cX0_sum 32 = .ok (.iload_n 1, 1) := by decide +kernel
theorem dX0_sum_33 : decode cX0_sum 33 = .ok (.bipush 40, 2) := by decide +kernel
theorem dX0_sum_35 : decode cX0_sum 35 = .ok (.imul, 1) := by decide +kernel
theorem dX0_sum_36 : decode cX0_sum 36 = .ok (.iload_n 3, 1) := by decide +kernel
theorem dX0_sum_37 : decode cX0_sum 37 = .ok (.iadd, 1) := by decide +kernel
theorem dX0_sum_38 : decode cX0_sum 38 = .ok (.iaload, 1) := by decide +kernel
theorem dX0_sum_39 : decode cX0_sum 39 = .ok (.iadd, 1) := by decide +kernel
theorem dX0_sum_40 : decode cX0_sum 40 = .ok (.istore_n 2, 1) := by decide +kernel
theorem dX0_sum_41 : decode cX0_sum 41 = .ok (.iinc 3 1, 3) := by decide +kernel
theorem dX0_sum_44 : decode cX0_sum 44 = .ok (.goto (-27), 3) := by decide +kernel
theorem dX0_sum_47 : decode cX0_sum 47 = .ok (.iload_n 2, 1) := by decide +kernel
theorem dX0_sum_48 : decode cX0_sum 48 = .ok (.ireturn, 1) := by decide +kernel
abbrev cX0_find : ByteArray := prog_1_method_24_code
def yX0_find : MethodName := ⟨RX0, "find", "(II)I"⟩
theorem dX0_find_0 : decode cX0_find 0 = .ok (.iload_n 1, 1) := by decide +kernel
theorem dX0_find_1 : decode cX0_find 1 = .ok (.invokestatic 58, 3) := by decide +kernel
theorem dX0_find_4 : decode cX0_find 4 = .ok (.ifCond .eq 5, 3) := by decide +kernel
theorem dX0_find_7 : decode cX0_find 7 = .ok (.iconst (-1), 1) := by decide +kernel
theorem dX0_find_8 : decode cX0_find 8 = .ok (.ireturn, 1) := by decide +kernel
theorem dX0_find_9 : decode cX0_find 9 = .ok (.aload_n 0, 1) := by decide +kernel
theorem dX0_find_10 : decode cX0_find 10 = .ok (.invokevirtual 101, 3) := by decide +kernel
theorem dX0_find_13 : decode cX0_find 13 = .ok (.iconst 0, 1) := by decide +kernel
theorem dX0_find_14 : decode cX0_find 14 = .ok (.istore_n 3, 1) := by decide +kernel
theorem dX0_find_15 : decode cX0_find 15 = .ok (.iload_n 3, 1) := by decide +kernel
theorem dX0_find_16 : decode cX0_find 16 = .ok (.aload_n 0, 1) := by decide +kernel
theorem dX0_find_17 : decode cX0_find 17 = .ok (.getfield 22, 3) := by decide +kernel
theorem dX0_find_20 : decode cX0_find 20 = .ok (.iload_n 1, 1) := by decide +kernel
theorem dX0_find_21 : decode cX0_find 21 = .ok (.iaload, 1) := by decide +kernel
theorem dX0_find_22 : decode cX0_find 22 = .ok (.if_icmp .ge 26, 3) := by decide +kernel
theorem dX0_find_25 : decode cX0_find 25 = .ok (.aload_n 0, 1) := by decide +kernel
theorem dX0_find_26 : decode cX0_find 26 = .ok (.getfield 34, 3) := by decide +kernel
theorem dX0_find_29 : decode cX0_find 29 = .ok (.iload_n 1, 1) := by decide +kernel
theorem dX0_find_30 : decode cX0_find 30 = .ok (.bipush 40, 2) := by decide +kernel
theorem dX0_find_32 : decode cX0_find 32 = .ok (.imul, 1) := by decide +kernel
theorem dX0_find_33 : decode cX0_find 33 = .ok (.iload_n 3, 1) := by decide +kernel
theorem dX0_find_34 : decode cX0_find 34 = .ok (.iadd, 1) := by decide +kernel
theorem dX0_find_35 : decode cX0_find 35 = .ok (.iaload, 1) := by decide +kernel
theorem dX0_find_36 : decode cX0_find 36 = .ok (.iload_n 2, 1) := by decide +kernel
theorem dX0_find_37 : decode cX0_find 37 = .ok (.if_icmp .ne 5, 3) := by decide +kernel
theorem dX0_find_40 : decode cX0_find 40 = .ok (.iload_n 3, 1) := by decide +kernel
theorem dX0_find_41 : decode cX0_find 41 = .ok (.ireturn, 1) := by decide +kernel
theorem dX0_find_42 : decode cX0_find 42 = .ok (.iinc 3 1, 3) := by decide +kernel
theorem dX0_find_45 : decode cX0_find 45 = .ok (.goto (-30), 3) := by decide +kernel
theorem dX0_find_48 : decode cX0_find 48 = .ok (.bipush (-3), 2) := by decide +kernel
theorem dX0_find_50 : decode cX0_find 50 = .ok (.ireturn, 1) := by decide +kernel
abbrev cX0_same : ByteArray := prog_1_method_25_code
def yX0_same : MethodName := ⟨RX0, "same", "(II)Z"⟩
theorem dX0_same_0 : decode cX0_same 0 = .ok (.iload_n 1, 1) := by decide +kernel
theorem dX0_same_1 : decode cX0_same 1 = .ok (.invokestatic 58, 3) := by decide +kernel
theorem dX0_same_4 : decode cX0_same 4 = .ok (.ifCond .ne 10, 3) := by decide +kernel
theorem dX0_same_7 : decode cX0_same 7 = .ok (.iload_n 2, 1) := by decide +kernel
theorem dX0_same_8 : decode cX0_same 8 = .ok (.invokestatic 58, 3) := by decide +kernel
theorem dX0_same_11 : decode cX0_same 11 = .ok (.ifCond .eq 5, 3) := by decide +kernel
theorem dX0_same_14 : decode cX0_same 14 = .ok (.iconst 0, 1) := by decide +kernel
theorem dX0_same_15 : decode cX0_same 15 = .ok (.ireturn, 1) := by decide +kernel
theorem dX0_same_16 : decode cX0_same 16 = .ok (.aload_n 0, 1) := by decide +kernel
theorem dX0_same_17 : decode cX0_same 17 = .ok (.invokevirtual 101, 3) := by decide +kernel
theorem dX0_same_20 : decode cX0_same 20 = .ok (.aload_n 0, 1) := by decide +kernel
theorem dX0_same_21 : decode cX0_same 21 = .ok (.getfield 22, 3) := by decide +kernel
theorem dX0_same_24 : decode cX0_same 24 = .ok (.iload_n 1, 1) := by decide +kernel
theorem dX0_same_25 : decode cX0_same 25 = .ok (.iaload, 1) := by decide +kernel
theorem dX0_same_26 : decode cX0_same 26 = .ok (.aload_n 0, 1) := by decide +kernel
theorem dX0_same_27 : decode cX0_same 27 = .ok (.getfield 22, 3) := by decide +kernel
theorem dX0_same_30 : decode cX0_same 30 = .ok (.iload_n 2, 1) := by decide +kernel
theorem dX0_same_31 : decode cX0_same 31 = .ok (.iaload, 1) := by decide +kernel
theorem dX0_same_32 : decode cX0_same 32 = .ok (.if_icmp .eq 5, 3) := by decide +kernel
theorem dX0_same_35 : decode cX0_same 35 = .ok (.iconst 0, 1) := by decide +kernel
theorem dX0_same_36 : decode cX0_same 36 = .ok (.ireturn, 1) := by decide +kernel
theorem dX0_same_37 : decode cX0_same 37 = .ok (.iconst 0, 1) := by decide +kernel
theorem dX0_same_38 : decode cX0_same 38 = .ok (.istore_n 3, 1) := by decide +kernel
theorem dX0_same_39 : decode cX0_same 39 = .ok (.iload_n 3, 1) := by decide +kernel
theorem dX0_same_40 : decode cX0_same 40 = .ok (.aload_n 0, 1) := by decide +kernel
theorem dX0_same_41 : decode cX0_same 41 = .ok (.getfield 22, 3) := by decide +kernel
theorem dX0_same_44 : decode cX0_same 44 = .ok (.iload_n 1, 1) := by decide +kernel
theorem dX0_same_45 : decode cX0_same 45 = .ok (.iaload, 1) := by decide +kernel
theorem dX0_same_46 : decode cX0_same 46 = .ok (.if_icmp .ge 36, 3) := by decide +kernel
theorem dX0_same_49 : decode cX0_same 49 = .ok (.aload_n 0, 1) := by decide +kernel
theorem dX0_same_50 : decode cX0_same 50 = .ok (.getfield 34, 3) := by decide +kernel
theorem dX0_same_53 : decode cX0_same 53 = .ok (.iload_n 1, 1) := by decide +kernel
theorem dX0_same_54 : decode cX0_same 54 = .ok (.bipush 40, 2) := by decide +kernel
theorem dX0_same_56 : decode cX0_same 56 = .ok (.imul, 1) := by decide +kernel
theorem dX0_same_57 : decode cX0_same 57 = .ok (.iload_n 3, 1) := by decide +kernel
theorem dX0_same_58 : decode cX0_same 58 = .ok (.iadd, 1) := by decide +kernel
theorem dX0_same_59 : decode cX0_same 59 = .ok (.iaload, 1) := by decide +kernel
theorem dX0_same_60 : decode cX0_same 60 = .ok (.aload_n 0, 1) := by decide +kernel
theorem dX0_same_61 : decode cX0_same 61 = .ok (.getfield 34, 3) := by decide +kernel
theorem dX0_same_64 : decode cX0_same 64 = .ok (.iload_n 2, 1) := by decide +kernel
theorem dX0_same_65 : decode cX0_same 65 = .ok (.bipush 40, 2) := by decide +kernel
theorem dX0_same_67 : decode cX0_same 67 = .ok (.imul, 1) := by decide +kernel
theorem dX0_same_68 : decode cX0_same 68 = .ok (.iload_n 3, 1) := by decide +kernel
theorem dX0_same_69 : decode cX0_same 69 = .ok (.iadd, 1) := by decide +kernel
theorem dX0_same_70 : decode cX0_same 70 = .ok (.iaload, 1) := by decide +kernel
theorem dX0_same_71 : decode cX0_same 71 = .ok (.if_icmp .eq 5, 3) := by decide +kernel
theorem dX0_same_74 : decode cX0_same 74 = .ok (.iconst 0, 1) := by decide +kernel
theorem dX0_same_75 : decode cX0_same 75 = .ok (.ireturn, 1) := by decide +kernel
theorem dX0_same_76 : decode cX0_same 76 = .ok (.iinc 3 1, 3) := by decide +kernel
theorem dX0_same_79 : decode cX0_same 79 = .ok (.goto (-40), 3) := by decide +kernel
theorem dX0_same_82 : decode cX0_same 82 = .ok (.iconst 1, 1) := by decide +kernel
theorem dX0_same_83 : decode cX0_same 83 = .ok (.ireturn, 1) := by decide +kernel
abbrev cX0_full : ByteArray := prog_1_method_26_code
def yX0_full : MethodName := ⟨RX0, "full", "()I"⟩
theorem dX0_full_0 : decode cX0_full 0 = .ok (.aload_n 0, 1) := by decide +kernel
theorem dX0_full_1 : decode cX0_full 1 = .ok (.invokevirtual 101, 3) := by decide +kernel
theorem dX0_full_4 : decode cX0_full 4 = .ok (.iconst 0, 1) := by decide +kernel
theorem dX0_full_5 : decode cX0_full 5 = .ok (.istore_n 1, 1) := by decide +kernel
theorem dX0_full_6 : decode cX0_full 6 = .ok (.iconst 0, 1) := by decide +kernel
theorem dX0_full_7 : decode cX0_full 7 = .ok (.istore_n 2, 1) := by decide +kernel
theorem dX0_full_8 : decode cX0_full 8 = .ok (.iload_n 2, 1) := by decide +kernel
theorem dX0_full_9 : decode cX0_full 9 = .ok (.bipush 8, 2) := by decide +kernel
theorem dX0_full_11 : decode cX0_full 11 = .ok (.if_icmp .ge 23, 3) := by decide +kernel
theorem dX0_full_14 : decode cX0_full 14 = .ok (.aload_n 0, 1) := by decide +kernel
theorem dX0_full_15 : decode cX0_full 15 = .ok (.getfield 22, 3) := by decide +kernel
theorem dX0_full_18 : decode cX0_full 18 = .ok (.iload_n 2, 1) := by decide +kernel
theorem dX0_full_19 : decode cX0_full 19 = .ok (.iaload, 1) := by decide +kernel
theorem dX0_full_20 : decode cX0_full 20 = .ok (.bipush 40, 2) := by decide +kernel
theorem dX0_full_22 : decode cX0_full 22 = .ok (.if_icmp .ne 6, 3) := by decide +kernel
theorem dX0_full_25 : decode cX0_full 25 = .ok (.iinc 1 1, 3) := by decide +kernel
theorem dX0_full_28 : decode cX0_full 28 = .ok (.iinc 2 1, 3) := by decide +kernel
theorem dX0_full_31 : decode cX0_full 31 = .ok (.goto (-23), 3) := by decide +kernel
theorem dX0_full_34 : decode cX0_full 34 = .ok (.iload_n 1, 1) := by decide +kernel
theorem dX0_full_35 : decode cX0_full 35 = .ok (.ireturn, 1) := by decide +kernel
end
section
set_option maxRecDepth 100000
theorem q25 : (Jvm.Cond.initialized "ProcessNetwork") ∈ lw_all := lw_g (lw_at lw_m1 1 rfl) rfl
theorem q28 : (Jvm.Cond.instantiable "ProcessNetwork" (13 : Nat)) ∈ lw_all := lw_g (lw_at lw_m1 4 rfl) rfl
theorem q30 : (Jvm.Cond.instanceMethod ({ cls := "ProcessNetwork", name := "<init>", desc := "()V" } : Jvm.MethodName)) ∈ lw_all := lw_g (lw_at lw_m1 6 rfl) rfl
theorem q31 : (Jvm.Cond.code ({ cls := "ProcessNetwork", name := "<init>", desc := "()V" } : Jvm.MethodName) prog_1_method_1_code (2 : Nat) (Option.none : Option Jvm.ClassFile.FieldType)) ∈ lw_all := lw_g (lw_at lw_m1 7 rfl) rfl
theorem q32 : (Jvm.Cond.methodLink "ProcessNetwork" (1 : Nat) ({ cls := "java/lang/Object", name := "<init>", desc := "()V" } : Jvm.MethodName)) ∈ lw_all := lw_g (lw_at lw_m1 8 rfl) rfl
theorem q35 : (Jvm.Cond.methodLink "ProcessNetwork" (44 : Nat) ({ cls := "ProcessNetwork", name := "restart", desc := "()V" } : Jvm.MethodName)) ∈ lw_all := lw_g (lw_at lw_m1 11 rfl) rfl
theorem q36 : (Jvm.Cond.privateMethod ({ cls := "ProcessNetwork", name := "restart", desc := "()V" } : Jvm.MethodName)) ∈ lw_tbl := lw_at lw_m1 12 rfl
theorem q37 : (Jvm.Cond.instanceMethod ({ cls := "ProcessNetwork", name := "restart", desc := "()V" } : Jvm.MethodName)) ∈ lw_all := lw_g (lw_at lw_m1 13 rfl) rfl
theorem q38 : (Jvm.Cond.code ({ cls := "ProcessNetwork", name := "restart", desc := "()V" } : Jvm.MethodName) prog_1_method_3_code (2 : Nat) (Option.none : Option Jvm.ClassFile.FieldType)) ∈ lw_all := lw_g (lw_at lw_m1 14 rfl) rfl
theorem q39 : (Jvm.Cond.methodLink "ProcessNetwork" (54 : Nat) ({ cls := "ProcessNetwork", name := "wake", desc := "(I)V" } : Jvm.MethodName)) ∈ lw_all := lw_g (lw_at lw_m1 15 rfl) rfl
theorem q40 : (Jvm.Cond.privateMethod ({ cls := "ProcessNetwork", name := "wake", desc := "(I)V" } : Jvm.MethodName)) ∈ lw_tbl := lw_at lw_m1 16 rfl
theorem q41 : (Jvm.Cond.instanceMethod ({ cls := "ProcessNetwork", name := "wake", desc := "(I)V" } : Jvm.MethodName)) ∈ lw_all := lw_g (lw_at lw_m1 17 rfl) rfl
theorem q42 : (Jvm.Cond.code ({ cls := "ProcessNetwork", name := "wake", desc := "(I)V" } : Jvm.MethodName) prog_1_method_4_code (2 : Nat) (Option.none : Option Jvm.ClassFile.FieldType)) ∈ lw_all := lw_g (lw_at lw_m1 18 rfl) rfl
theorem q43 : (Jvm.Cond.fieldLink "ProcessNetwork" (7 : Nat) "ProcessNetwork" "kind" "[I") ∈ lw_all := lw_g (lw_at lw_m1 19 rfl) rfl
theorem q44 : (Jvm.Cond.fieldLink "ProcessNetwork" (13 : Nat) "ProcessNetwork" "inputX" "[I") ∈ lw_all := lw_g (lw_at lw_m1 20 rfl) rfl
theorem q45 : (Jvm.Cond.fieldLink "ProcessNetwork" (16 : Nat) "ProcessNetwork" "inputY" "[I") ∈ lw_all := lw_g (lw_at lw_m1 21 rfl) rfl
theorem q46 : (Jvm.Cond.fieldLink "ProcessNetwork" (19 : Nat) "ProcessNetwork" "number" "[I") ∈ lw_all := lw_g (lw_at lw_m1 22 rfl) rfl
theorem q47 : (Jvm.Cond.fieldLink "ProcessNetwork" (22 : Nat) "ProcessNetwork" "made" "[I") ∈ lw_all := lw_g (lw_at lw_m1 23 rfl) rfl
theorem q48 : (Jvm.Cond.fieldLink "ProcessNetwork" (25 : Nat) "ProcessNetwork" "readX" "[I") ∈ lw_all := lw_g (lw_at lw_m1 24 rfl) rfl
theorem q49 : (Jvm.Cond.fieldLink "ProcessNetwork" (28 : Nat) "ProcessNetwork" "readY" "[I") ∈ lw_all := lw_g (lw_at lw_m1 25 rfl) rfl
theorem q50 : (Jvm.Cond.fieldLink "ProcessNetwork" (31 : Nat) "ProcessNetwork" "total" "[I") ∈ lw_all := lw_g (lw_at lw_m1 26 rfl) rfl
theorem q51 : (Jvm.Cond.fieldLink "ProcessNetwork" (34 : Nat) "ProcessNetwork" "items" "[I") ∈ lw_all := lw_g (lw_at lw_m1 27 rfl) rfl
theorem q52 : (Jvm.Cond.fieldLink "ProcessNetwork" (47 : Nat) "ProcessNetwork" "waiting" "I") ∈ lw_all := lw_g (lw_at lw_m1 28 rfl) rfl
theorem q53 : (Jvm.Cond.fieldLink "ProcessNetwork" (51 : Nat) "ProcessNetwork" "head" "I") ∈ lw_all := lw_g (lw_at lw_m1 29 rfl) rfl
theorem q54 : (Jvm.Cond.fieldLink "ProcessNetwork" (37 : Nat) "ProcessNetwork" "ring" "[I") ∈ lw_all := lw_g (lw_at lw_m1 30 rfl) rfl
theorem q55 : (Jvm.Cond.fieldLink "ProcessNetwork" (40 : Nat) "ProcessNetwork" "listed" "[Z") ∈ lw_all := lw_g (lw_at lw_m1 31 rfl) rfl
theorem q56 : (Jvm.Cond.laysFinal "ProcessNetwork" "ProcessNetwork" "kind" "[I") ∈ lw_all := lw_g (lw_at lw_m1 32 rfl) rfl
theorem q57 : (Jvm.Cond.soleField "ProcessNetwork" "kind") ∈ lw_all := lw_g (lw_at lw_m1 33 rfl) rfl
theorem q58 : (Jvm.Cond.laysFinal "ProcessNetwork" "ProcessNetwork" "inputX" "[I") ∈ lw_all := lw_g (lw_at lw_m1 34 rfl) rfl
theorem q59 : (Jvm.Cond.soleField "ProcessNetwork" "inputX") ∈ lw_all := lw_g (lw_at lw_m1 35 rfl) rfl
theorem q60 : (Jvm.Cond.laysFinal "ProcessNetwork" "ProcessNetwork" "inputY" "[I") ∈ lw_all := lw_g (lw_at lw_m1 36 rfl) rfl
theorem q61 : (Jvm.Cond.soleField "ProcessNetwork" "inputY") ∈ lw_all := lw_g (lw_at lw_m1 37 rfl) rfl
theorem q62 : (Jvm.Cond.laysFinal "ProcessNetwork" "ProcessNetwork" "number" "[I") ∈ lw_all := lw_g (lw_at lw_m1 38 rfl) rfl
theorem q63 : (Jvm.Cond.soleField "ProcessNetwork" "number") ∈ lw_all := lw_g (lw_at lw_m1 39 rfl) rfl
theorem q64 : (Jvm.Cond.laysFinal "ProcessNetwork" "ProcessNetwork" "made" "[I") ∈ lw_all := lw_g (lw_at lw_m1 40 rfl) rfl
theorem q65 : (Jvm.Cond.soleField "ProcessNetwork" "made") ∈ lw_all := lw_g (lw_at lw_m1 41 rfl) rfl
theorem q66 : (Jvm.Cond.laysFinal "ProcessNetwork" "ProcessNetwork" "readX" "[I") ∈ lw_all := lw_g (lw_at lw_m1 42 rfl) rfl
theorem q67 : (Jvm.Cond.soleField "ProcessNetwork" "readX") ∈ lw_all := lw_g (lw_at lw_m1 43 rfl) rfl
theorem q68 : (Jvm.Cond.laysFinal "ProcessNetwork" "ProcessNetwork" "readY" "[I") ∈ lw_all := lw_g (lw_at lw_m1 44 rfl) rfl
theorem q69 : (Jvm.Cond.soleField "ProcessNetwork" "readY") ∈ lw_all := lw_g (lw_at lw_m1 45 rfl) rfl
theorem q70 : (Jvm.Cond.laysFinal "ProcessNetwork" "ProcessNetwork" "total" "[I") ∈ lw_all := lw_g (lw_at lw_m1 46 rfl) rfl
theorem q71 : (Jvm.Cond.soleField "ProcessNetwork" "total") ∈ lw_all := lw_g (lw_at lw_m1 47 rfl) rfl
theorem q72 : (Jvm.Cond.laysFinal "ProcessNetwork" "ProcessNetwork" "items" "[I") ∈ lw_all := lw_g (lw_at lw_m1 48 rfl) rfl
theorem q73 : (Jvm.Cond.soleField "ProcessNetwork" "items") ∈ lw_all := lw_g (lw_at lw_m1 49 rfl) rfl
theorem q74 : (Jvm.Cond.lays "ProcessNetwork" "ProcessNetwork" "waiting" "I") ∈ lw_all := lw_g (lw_at lw_m1 50 rfl) rfl
theorem q75 : (Jvm.Cond.soleField "ProcessNetwork" "waiting") ∈ lw_all := lw_g (lw_at lw_m1 51 rfl) rfl
theorem q76 : (Jvm.Cond.lays "ProcessNetwork" "ProcessNetwork" "head" "I") ∈ lw_all := lw_g (lw_at lw_m1 52 rfl) rfl
theorem q77 : (Jvm.Cond.soleField "ProcessNetwork" "head") ∈ lw_all := lw_g (lw_at lw_m1 53 rfl) rfl
theorem q78 : (Jvm.Cond.laysFinal "ProcessNetwork" "ProcessNetwork" "ring" "[I") ∈ lw_all := lw_g (lw_at lw_m1 54 rfl) rfl
theorem q79 : (Jvm.Cond.soleField "ProcessNetwork" "ring") ∈ lw_all := lw_g (lw_at lw_m1 55 rfl) rfl
theorem q80 : (Jvm.Cond.laysFinal "ProcessNetwork" "ProcessNetwork" "listed" "[Z") ∈ lw_all := lw_g (lw_at lw_m1 56 rfl) rfl
theorem q81 : (Jvm.Cond.soleField "ProcessNetwork" "listed") ∈ lw_all := lw_g (lw_at lw_m1 57 rfl) rfl
theorem q82 : (Jvm.Cond.superclass "ProcessNetwork" "java/lang/Object") ∈ lw_all := lw_g (lw_at lw_m1 58 rfl) rfl
theorem q86 : (Jvm.Cond.instanceMethod ({ cls := "ProcessNetwork", name := "set", desc := "(IIII)I" } : Jvm.MethodName)) ∈ lw_all := lw_g (lw_at lw_m1 62 rfl) rfl
theorem q87 : (Jvm.Cond.selects "ProcessNetwork" ({ cls := "ProcessNetwork", name := "set", desc := "(IIII)I" } : Jvm.MethodName) ({ cls := "ProcessNetwork", name := "set", desc := "(IIII)I" } : Jvm.MethodName)) ∈ lw_all := lw_g (lw_at lw_m1 63 rfl) rfl
theorem q88 : (Jvm.Cond.code ({ cls := "ProcessNetwork", name := "set", desc := "(IIII)I" } : Jvm.MethodName) prog_1_method_5_code (5 : Nat) (Option.some Jvm.ClassFile.FieldType.int)) ∈ lw_all := lw_g (lw_at lw_m1 64 rfl) rfl
theorem q89 : (Jvm.Cond.methodLink "ProcessNetwork" (58 : Nat) ({ cls := "ProcessNetwork", name := "bad", desc := "(I)Z" } : Jvm.MethodName)) ∈ lw_all := lw_g (lw_at lw_m1 65 rfl) rfl
theorem q90 : (Jvm.Cond.static ({ cls := "ProcessNetwork", name := "bad", desc := "(I)Z" } : Jvm.MethodName)) ∈ lw_all := lw_g (lw_at lw_m1 66 rfl) rfl
theorem q91 : (Jvm.Cond.code ({ cls := "ProcessNetwork", name := "bad", desc := "(I)Z" } : Jvm.MethodName) prog_1_method_2_code (1 : Nat) (Option.some Jvm.ClassFile.FieldType.boolean)) ∈ lw_all := lw_g (lw_at lw_m1 67 rfl) rfl
theorem q93 : (Jvm.Cond.instanceMethod ({ cls := "ProcessNetwork", name := "fire", desc := "(II)I" } : Jvm.MethodName)) ∈ lw_all := lw_g (lw_at lw_m1 69 rfl) rfl
theorem q94 : (Jvm.Cond.selects "ProcessNetwork" ({ cls := "ProcessNetwork", name := "fire", desc := "(II)I" } : Jvm.MethodName) ({ cls := "ProcessNetwork", name := "fire", desc := "(II)I" } : Jvm.MethodName)) ∈ lw_all := lw_g (lw_at lw_m1 70 rfl) rfl
theorem q95 : (Jvm.Cond.code ({ cls := "ProcessNetwork", name := "fire", desc := "(II)I" } : Jvm.MethodName) prog_1_method_19_code (3 : Nat) (Option.some Jvm.ClassFile.FieldType.int)) ∈ lw_all := lw_g (lw_at lw_m1 71 rfl) rfl
theorem q96 : (Jvm.Cond.methodLink "ProcessNetwork" (97 : Nat) ({ cls := "ProcessNetwork", name := "run", desc := "(II)V" } : Jvm.MethodName)) ∈ lw_all := lw_g (lw_at lw_m1 72 rfl) rfl
theorem q97 : (Jvm.Cond.privateMethod ({ cls := "ProcessNetwork", name := "run", desc := "(II)V" } : Jvm.MethodName)) ∈ lw_tbl := lw_at lw_m1 73 rfl
theorem q98 : (Jvm.Cond.instanceMethod ({ cls := "ProcessNetwork", name := "run", desc := "(II)V" } : Jvm.MethodName)) ∈ lw_all := lw_g (lw_at lw_m1 74 rfl) rfl
theorem q99 : (Jvm.Cond.code ({ cls := "ProcessNetwork", name := "run", desc := "(II)V" } : Jvm.MethodName) prog_1_method_17_code (6 : Nat) (Option.none : Option Jvm.ClassFile.FieldType)) ∈ lw_all := lw_g (lw_at lw_m1 75 rfl) rfl
theorem q100 : (Jvm.Cond.methodLink "ProcessNetwork" (94 : Nat) ({ cls := "ProcessNetwork", name := "step", desc := "(I)Z" } : Jvm.MethodName)) ∈ lw_all := lw_g (lw_at lw_m1 76 rfl) rfl
theorem q101 : (Jvm.Cond.privateMethod ({ cls := "ProcessNetwork", name := "step", desc := "(I)Z" } : Jvm.MethodName)) ∈ lw_tbl := lw_at lw_m1 77 rfl
theorem q102 : (Jvm.Cond.instanceMethod ({ cls := "ProcessNetwork", name := "step", desc := "(I)Z" } : Jvm.MethodName)) ∈ lw_all := lw_g (lw_at lw_m1 78 rfl) rfl
theorem q103 : (Jvm.Cond.code ({ cls := "ProcessNetwork", name := "step", desc := "(I)Z" } : Jvm.MethodName) prog_1_method_16_code (3 : Nat) (Option.some Jvm.ClassFile.FieldType.boolean)) ∈ lw_all := lw_g (lw_at lw_m1 79 rfl) rfl
theorem q104 : (Jvm.Cond.methodLink "ProcessNetwork" (75 : Nat) ({ cls := "ProcessNetwork", name := "make", desc := "(II)Z" } : Jvm.MethodName)) ∈ lw_all := lw_g (lw_at lw_m1 80 rfl) rfl
theorem q105 : (Jvm.Cond.privateMethod ({ cls := "ProcessNetwork", name := "make", desc := "(II)Z" } : Jvm.MethodName)) ∈ lw_tbl := lw_at lw_m1 81 rfl
theorem q106 : (Jvm.Cond.instanceMethod ({ cls := "ProcessNetwork", name := "make", desc := "(II)Z" } : Jvm.MethodName)) ∈ lw_all := lw_g (lw_at lw_m1 82 rfl) rfl
theorem q107 : (Jvm.Cond.code ({ cls := "ProcessNetwork", name := "make", desc := "(II)Z" } : Jvm.MethodName) prog_1_method_10_code (3 : Nat) (Option.some Jvm.ClassFile.FieldType.boolean)) ∈ lw_all := lw_g (lw_at lw_m1 83 rfl) rfl
theorem q108 : (Jvm.Cond.methodLink "ProcessNetwork" (79 : Nat) ({ cls := "ProcessNetwork", name := "stepPair", desc := "(I)Z" } : Jvm.MethodName)) ∈ lw_all := lw_g (lw_at lw_m1 84 rfl) rfl
theorem q109 : (Jvm.Cond.privateMethod ({ cls := "ProcessNetwork", name := "stepPair", desc := "(I)Z" } : Jvm.MethodName)) ∈ lw_tbl := lw_at lw_m1 85 rfl
theorem q110 : (Jvm.Cond.instanceMethod ({ cls := "ProcessNetwork", name := "stepPair", desc := "(I)Z" } : Jvm.MethodName)) ∈ lw_all := lw_g (lw_at lw_m1 86 rfl) rfl
theorem q111 : (Jvm.Cond.code ({ cls := "ProcessNetwork", name := "stepPair", desc := "(I)Z" } : Jvm.MethodName) prog_1_method_14_code (5 : Nat) (Option.some Jvm.ClassFile.FieldType.boolean)) ∈ lw_all := lw_g (lw_at lw_m1 87 rfl) rfl
theorem q112 : (Jvm.Cond.methodLink "ProcessNetwork" (62 : Nat) ({ cls := "ProcessNetwork", name := "hasX", desc := "(I)Z" } : Jvm.MethodName)) ∈ lw_all := lw_g (lw_at lw_m1 88 rfl) rfl
theorem q113 : (Jvm.Cond.privateMethod ({ cls := "ProcessNetwork", name := "hasX", desc := "(I)Z" } : Jvm.MethodName)) ∈ lw_tbl := lw_at lw_m1 89 rfl
theorem q114 : (Jvm.Cond.instanceMethod ({ cls := "ProcessNetwork", name := "hasX", desc := "(I)Z" } : Jvm.MethodName)) ∈ lw_all := lw_g (lw_at lw_m1 90 rfl) rfl
theorem q115 : (Jvm.Cond.code ({ cls := "ProcessNetwork", name := "hasX", desc := "(I)Z" } : Jvm.MethodName) prog_1_method_6_code (2 : Nat) (Option.some Jvm.ClassFile.FieldType.boolean)) ∈ lw_all := lw_g (lw_at lw_m1 91 rfl) rfl
theorem q116 : (Jvm.Cond.methodLink "ProcessNetwork" (65 : Nat) ({ cls := "ProcessNetwork", name := "hasY", desc := "(I)Z" } : Jvm.MethodName)) ∈ lw_all := lw_g (lw_at lw_m1 92 rfl) rfl
theorem q117 : (Jvm.Cond.privateMethod ({ cls := "ProcessNetwork", name := "hasY", desc := "(I)Z" } : Jvm.MethodName)) ∈ lw_tbl := lw_at lw_m1 93 rfl
theorem q118 : (Jvm.Cond.instanceMethod ({ cls := "ProcessNetwork", name := "hasY", desc := "(I)Z" } : Jvm.MethodName)) ∈ lw_all := lw_g (lw_at lw_m1 94 rfl) rfl
theorem q119 : (Jvm.Cond.code ({ cls := "ProcessNetwork", name := "hasY", desc := "(I)Z" } : Jvm.MethodName) prog_1_method_7_code (2 : Nat) (Option.some Jvm.ClassFile.FieldType.boolean)) ∈ lw_all := lw_g (lw_at lw_m1 95 rfl) rfl
theorem q120 : (Jvm.Cond.methodLink "ProcessNetwork" (68 : Nat) ({ cls := "ProcessNetwork", name := "takeX", desc := "(I)I" } : Jvm.MethodName)) ∈ lw_all := lw_g (lw_at lw_m1 96 rfl) rfl
theorem q121 : (Jvm.Cond.privateMethod ({ cls := "ProcessNetwork", name := "takeX", desc := "(I)I" } : Jvm.MethodName)) ∈ lw_tbl := lw_at lw_m1 97 rfl
theorem q122 : (Jvm.Cond.instanceMethod ({ cls := "ProcessNetwork", name := "takeX", desc := "(I)I" } : Jvm.MethodName)) ∈ lw_all := lw_g (lw_at lw_m1 98 rfl) rfl
theorem q123 : (Jvm.Cond.code ({ cls := "ProcessNetwork", name := "takeX", desc := "(I)I" } : Jvm.MethodName) prog_1_method_8_code (3 : Nat) (Option.some Jvm.ClassFile.FieldType.int)) ∈ lw_all := lw_g (lw_at lw_m1 99 rfl) rfl
theorem q124 : (Jvm.Cond.methodLink "ProcessNetwork" (72 : Nat) ({ cls := "ProcessNetwork", name := "takeY", desc := "(I)I" } : Jvm.MethodName)) ∈ lw_all := lw_g (lw_at lw_m1 100 rfl) rfl
theorem q125 : (Jvm.Cond.privateMethod ({ cls := "ProcessNetwork", name := "takeY", desc := "(I)I" } : Jvm.MethodName)) ∈ lw_tbl := lw_at lw_m1 101 rfl
theorem q126 : (Jvm.Cond.instanceMethod ({ cls := "ProcessNetwork", name := "takeY", desc := "(I)I" } : Jvm.MethodName)) ∈ lw_all := lw_g (lw_at lw_m1 102 rfl) rfl
theorem q127 : (Jvm.Cond.code ({ cls := "ProcessNetwork", name := "takeY", desc := "(I)I" } : Jvm.MethodName) prog_1_method_9_code (3 : Nat) (Option.some Jvm.ClassFile.FieldType.int)) ∈ lw_all := lw_g (lw_at lw_m1 103 rfl) rfl
theorem q128 : (Jvm.Cond.methodLink "ProcessNetwork" (82 : Nat) ({ cls := "ProcessNetwork", name := "stepTurn", desc := "(I)Z" } : Jvm.MethodName)) ∈ lw_all := lw_g (lw_at lw_m1 104 rfl) rfl
theorem q129 : (Jvm.Cond.privateMethod ({ cls := "ProcessNetwork", name := "stepTurn", desc := "(I)Z" } : Jvm.MethodName)) ∈ lw_tbl := lw_at lw_m1 105 rfl
theorem q130 : (Jvm.Cond.instanceMethod ({ cls := "ProcessNetwork", name := "stepTurn", desc := "(I)Z" } : Jvm.MethodName)) ∈ lw_all := lw_g (lw_at lw_m1 106 rfl) rfl
theorem q131 : (Jvm.Cond.code ({ cls := "ProcessNetwork", name := "stepTurn", desc := "(I)Z" } : Jvm.MethodName) prog_1_method_11_code (5 : Nat) (Option.some Jvm.ClassFile.FieldType.boolean)) ∈ lw_all := lw_g (lw_at lw_m1 107 rfl) rfl
theorem q132 : (Jvm.Cond.methodLink "ProcessNetwork" (85 : Nat) ({ cls := "ProcessNetwork", name := "stepOdd", desc := "(I)Z" } : Jvm.MethodName)) ∈ lw_all := lw_g (lw_at lw_m1 108 rfl) rfl
theorem q133 : (Jvm.Cond.privateMethod ({ cls := "ProcessNetwork", name := "stepOdd", desc := "(I)Z" } : Jvm.MethodName)) ∈ lw_tbl := lw_at lw_m1 109 rfl
theorem q134 : (Jvm.Cond.instanceMethod ({ cls := "ProcessNetwork", name := "stepOdd", desc := "(I)Z" } : Jvm.MethodName)) ∈ lw_all := lw_g (lw_at lw_m1 110 rfl) rfl
theorem q135 : (Jvm.Cond.code ({ cls := "ProcessNetwork", name := "stepOdd", desc := "(I)Z" } : Jvm.MethodName) prog_1_method_12_code (4 : Nat) (Option.some Jvm.ClassFile.FieldType.boolean)) ∈ lw_all := lw_g (lw_at lw_m1 111 rfl) rfl
theorem q136 : (Jvm.Cond.methodLink "ProcessNetwork" (88 : Nat) ({ cls := "ProcessNetwork", name := "stepDelay", desc := "(I)Z" } : Jvm.MethodName)) ∈ lw_all := lw_g (lw_at lw_m1 112 rfl) rfl
theorem q137 : (Jvm.Cond.privateMethod ({ cls := "ProcessNetwork", name := "stepDelay", desc := "(I)Z" } : Jvm.MethodName)) ∈ lw_tbl := lw_at lw_m1 113 rfl
theorem q138 : (Jvm.Cond.instanceMethod ({ cls := "ProcessNetwork", name := "stepDelay", desc := "(I)Z" } : Jvm.MethodName)) ∈ lw_all := lw_g (lw_at lw_m1 114 rfl) rfl
theorem q139 : (Jvm.Cond.code ({ cls := "ProcessNetwork", name := "stepDelay", desc := "(I)Z" } : Jvm.MethodName) prog_1_method_13_code (4 : Nat) (Option.some Jvm.ClassFile.FieldType.boolean)) ∈ lw_all := lw_g (lw_at lw_m1 115 rfl) rfl
theorem q140 : (Jvm.Cond.methodLink "ProcessNetwork" (91 : Nat) ({ cls := "ProcessNetwork", name := "stepSum", desc := "(I)Z" } : Jvm.MethodName)) ∈ lw_all := lw_g (lw_at lw_m1 116 rfl) rfl
theorem q141 : (Jvm.Cond.privateMethod ({ cls := "ProcessNetwork", name := "stepSum", desc := "(I)Z" } : Jvm.MethodName)) ∈ lw_tbl := lw_at lw_m1 117 rfl
theorem q142 : (Jvm.Cond.instanceMethod ({ cls := "ProcessNetwork", name := "stepSum", desc := "(I)Z" } : Jvm.MethodName)) ∈ lw_all := lw_g (lw_at lw_m1 118 rfl) rfl
theorem q143 : (Jvm.Cond.code ({ cls := "ProcessNetwork", name := "stepSum", desc := "(I)Z" } : Jvm.MethodName) prog_1_method_15_code (3 : Nat) (Option.some Jvm.ClassFile.FieldType.boolean)) ∈ lw_all := lw_g (lw_at lw_m1 119 rfl) rfl
theorem q145 : (Jvm.Cond.instanceMethod ({ cls := "ProcessNetwork", name := "exchange", desc := "(II)I" } : Jvm.MethodName)) ∈ lw_all := lw_g (lw_at lw_m1 121 rfl) rfl
theorem q146 : (Jvm.Cond.selects "ProcessNetwork" ({ cls := "ProcessNetwork", name := "exchange", desc := "(II)I" } : Jvm.MethodName) ({ cls := "ProcessNetwork", name := "exchange", desc := "(II)I" } : Jvm.MethodName)) ∈ lw_all := lw_g (lw_at lw_m1 122 rfl) rfl
theorem q147 : (Jvm.Cond.code ({ cls := "ProcessNetwork", name := "exchange", desc := "(II)I" } : Jvm.MethodName) prog_1_method_20_code (7 : Nat) (Option.some Jvm.ClassFile.FieldType.int)) ∈ lw_all := lw_g (lw_at lw_m1 123 rfl) rfl
theorem q149 : (Jvm.Cond.instanceMethod ({ cls := "ProcessNetwork", name := "length", desc := "(I)I" } : Jvm.MethodName)) ∈ lw_all := lw_g (lw_at lw_m1 125 rfl) rfl
theorem q150 : (Jvm.Cond.selects "ProcessNetwork" ({ cls := "ProcessNetwork", name := "length", desc := "(I)I" } : Jvm.MethodName) ({ cls := "ProcessNetwork", name := "length", desc := "(I)I" } : Jvm.MethodName)) ∈ lw_all := lw_g (lw_at lw_m1 126 rfl) rfl
theorem q151 : (Jvm.Cond.code ({ cls := "ProcessNetwork", name := "length", desc := "(I)I" } : Jvm.MethodName) prog_1_method_21_code (2 : Nat) (Option.some Jvm.ClassFile.FieldType.int)) ∈ lw_all := lw_g (lw_at lw_m1 127 rfl) rfl
theorem q152 : (Jvm.Cond.methodLink "ProcessNetwork" (101 : Nat) ({ cls := "ProcessNetwork", name := "settle", desc := "()V" } : Jvm.MethodName)) ∈ lw_all := lw_g (lw_at lw_m1 128 rfl) rfl
theorem q153 : (Jvm.Cond.privateMethod ({ cls := "ProcessNetwork", name := "settle", desc := "()V" } : Jvm.MethodName)) ∈ lw_tbl := lw_at lw_m1 129 rfl
theorem q154 : (Jvm.Cond.instanceMethod ({ cls := "ProcessNetwork", name := "settle", desc := "()V" } : Jvm.MethodName)) ∈ lw_all := lw_g (lw_at lw_m1 130 rfl) rfl
theorem q155 : (Jvm.Cond.code ({ cls := "ProcessNetwork", name := "settle", desc := "()V" } : Jvm.MethodName) prog_1_method_18_code (3 : Nat) (Option.none : Option Jvm.ClassFile.FieldType)) ∈ lw_all := lw_g (lw_at lw_m1 131 rfl) rfl
theorem q157 : (Jvm.Cond.instanceMethod ({ cls := "ProcessNetwork", name := "item", desc := "(II)I" } : Jvm.MethodName)) ∈ lw_all := lw_g (lw_at lw_m1 133 rfl) rfl
theorem q158 : (Jvm.Cond.selects "ProcessNetwork" ({ cls := "ProcessNetwork", name := "item", desc := "(II)I" } : Jvm.MethodName) ({ cls := "ProcessNetwork", name := "item", desc := "(II)I" } : Jvm.MethodName)) ∈ lw_all := lw_g (lw_at lw_m1 134 rfl) rfl
theorem q159 : (Jvm.Cond.code ({ cls := "ProcessNetwork", name := "item", desc := "(II)I" } : Jvm.MethodName) prog_1_method_22_code (3 : Nat) (Option.some Jvm.ClassFile.FieldType.int)) ∈ lw_all := lw_g (lw_at lw_m1 135 rfl) rfl
theorem q161 : (Jvm.Cond.instanceMethod ({ cls := "ProcessNetwork", name := "sum", desc := "(I)I" } : Jvm.MethodName)) ∈ lw_all := lw_g (lw_at lw_m1 137 rfl) rfl
theorem q162 : (Jvm.Cond.selects "ProcessNetwork" ({ cls := "ProcessNetwork", name := "sum", desc := "(I)I" } : Jvm.MethodName) ({ cls := "ProcessNetwork", name := "sum", desc := "(I)I" } : Jvm.MethodName)) ∈ lw_all := lw_g (lw_at lw_m1 138 rfl) rfl
theorem q163 : (Jvm.Cond.code ({ cls := "ProcessNetwork", name := "sum", desc := "(I)I" } : Jvm.MethodName) prog_1_method_23_code (4 : Nat) (Option.some Jvm.ClassFile.FieldType.int)) ∈ lw_all := lw_g (lw_at lw_m1 139 rfl) rfl
theorem q165 : (Jvm.Cond.instanceMethod ({ cls := "ProcessNetwork", name := "find", desc := "(II)I" } : Jvm.MethodName)) ∈ lw_all := lw_g (lw_at lw_m1 141 rfl) rfl
theorem q166 : (Jvm.Cond.selects "ProcessNetwork" ({ cls := "ProcessNetwork", name := "find", desc := "(II)I" } : Jvm.MethodName) ({ cls := "ProcessNetwork", name := "find", desc := "(II)I" } : Jvm.MethodName)) ∈ lw_all := lw_g (lw_at lw_m1 142 rfl) rfl
theorem q167 : (Jvm.Cond.code ({ cls := "ProcessNetwork", name := "find", desc := "(II)I" } : Jvm.MethodName) prog_1_method_24_code (4 : Nat) (Option.some Jvm.ClassFile.FieldType.int)) ∈ lw_all := lw_g (lw_at lw_m1 143 rfl) rfl
theorem q169 : (Jvm.Cond.instanceMethod ({ cls := "ProcessNetwork", name := "same", desc := "(II)Z" } : Jvm.MethodName)) ∈ lw_all := lw_g (lw_at lw_m1 145 rfl) rfl
theorem q170 : (Jvm.Cond.selects "ProcessNetwork" ({ cls := "ProcessNetwork", name := "same", desc := "(II)Z" } : Jvm.MethodName) ({ cls := "ProcessNetwork", name := "same", desc := "(II)Z" } : Jvm.MethodName)) ∈ lw_all := lw_g (lw_at lw_m1 146 rfl) rfl
theorem q171 : (Jvm.Cond.code ({ cls := "ProcessNetwork", name := "same", desc := "(II)Z" } : Jvm.MethodName) prog_1_method_25_code (4 : Nat) (Option.some Jvm.ClassFile.FieldType.boolean)) ∈ lw_all := lw_g (lw_at lw_m1 147 rfl) rfl
theorem q173 : (Jvm.Cond.instanceMethod ({ cls := "ProcessNetwork", name := "full", desc := "()I" } : Jvm.MethodName)) ∈ lw_all := lw_g (lw_at lw_m1 149 rfl) rfl
theorem q174 : (Jvm.Cond.selects "ProcessNetwork" ({ cls := "ProcessNetwork", name := "full", desc := "()I" } : Jvm.MethodName) ({ cls := "ProcessNetwork", name := "full", desc := "()I" } : Jvm.MethodName)) ∈ lw_all := lw_g (lw_at lw_m1 150 rfl) rfl
theorem q175 : (Jvm.Cond.code ({ cls := "ProcessNetwork", name := "full", desc := "()I" } : Jvm.MethodName) prog_1_method_26_code (3 : Nat) (Option.some Jvm.ClassFile.FieldType.int)) ∈ lw_all := lw_g (lw_at lw_m1 151 rfl) rfl
theorem in_X0 : ∀ w ∈ wsX00, w ∈ lw_all := lw_in wsX00 [56, 58, 60, 62, 64, 66, 68, 70, 72, 74, 76, 78, 80] (by decide +kernel) (by decide +kernel)
end
section
/-! ProcessNetworkModel -/
set_option maxRecDepth 100000
def RX1 : String := "ProcessNetworkModel"
def TX1 : u_T := fun k => match k with
  | 0 => ("ProcessNetworkModel", "kinds", "[I", true)
  | 1 => ("ProcessNetworkModel", "xs", "[I", true)
  | 2 => ("ProcessNetworkModel", "ys", "[I", true)
  | 3 => ("ProcessNetworkModel", "numbers", "[I", true)
  | 4 => ("ProcessNetworkModel", "known", "Z", false)
  | 5 => ("ProcessNetworkModel", "items", "[I", true)
  | _ => ("ProcessNetworkModel", "lengths", "[I", true)
def tyX1 : Nat → FieldType := fun k => match k with
  | 0 => .array .int
  | 1 => .array .int
  | 2 => .array .int
  | 3 => .array .int
  | 4 => .boolean
  | 5 => .array .int
  | _ => .array .int
abbrev wsX10 : List Cond := u_ws RX1 TX1 7
theorem nmX1 : ∀ a, a < 7 → ∀ b, b < 7 → a ≠ b → (TX1 a).2.1 ≠ (TX1 b).2.1 := by decide +kernel
theorem tyX1_ok : ∀ k, k < 7 → parseFieldDescriptor (TX1 k).2.2.1 = some (tyX1 k) := by decide +kernel
abbrev cX1_init : ByteArray := prog_3_method_1_code
def yX1_init : MethodName := ⟨RX1, "<init>", "()V"⟩
theorem dX1_init_0 : decode cX1_init 0 = .ok (.aload_n 0, 1) := by decide +kernel
theorem dX1_init_1 : decode cX1_init 1 = .ok (.invokespecial 1, 3) := by decide +kernel
theorem dX1_init_4 : decode cX1_init 4 = .ok (.aload_n 0, 1) := by decide +kernel
theorem dX1_init_5 : decode cX1_init 5 = .ok (.bipush 8, 2) := by decide +kernel
theorem dX1_init_7 : decode cX1_init 7 = .ok (.newarray .int, 2) := by decide +kernel
theorem dX1_init_9 : decode cX1_init 9 = .ok (.putfield 7, 3) := by decide +kernel
theorem dX1_init_12 : decode cX1_init 12 = .ok (.aload_n 0, 1) := by decide +kernel
theorem dX1_init_13 : decode cX1_init 13 = .ok (.bipush 8, 2) := by decide +kernel
theorem dX1_init_15 : decode cX1_init 15 = .ok (.newarray .int, 2) := by decide +kernel
theorem dX1_init_17 : decode cX1_init 17 = .ok (.putfield 13, 3) := by decide +kernel
theorem dX1_init_20 : decode cX1_init 20 = .ok (.aload_n 0, 1) := by decide +kernel
theorem dX1_init_21 : decode cX1_init 21 = .ok (.bipush 8, 2) := by decide +kernel
theorem dX1_init_23 : decode cX1_init 23 = .ok (.newarray .int, 2) := by decide +kernel
theorem dX1_init_25 : decode cX1_init 25 = .ok (.putfield 16, 3) := by decide +kernel
theorem dX1_init_28 : decode cX1_init 28 = .ok (.aload_n 0, 1) := by decide +kernel
theorem dX1_init_29 : decode cX1_init 29 = .ok (.bipush 8, 2) := by decide +kernel
theorem dX1_init_31 : decode cX1_init 31 = .ok (.newarray .int, 2) := by decide +kernel
theorem dX1_init_33 : decode cX1_init 33 = .ok (.putfield 19, 3) := by decide +kernel
theorem dX1_init_36 : decode cX1_init 36 = .ok (.aload_n 0, 1) := by decide +kernel
theorem dX1_init_37 : decode cX1_init 37 = .ok (.sipush 320, 3) := by decide +kernel
theorem dX1_init_40 : decode cX1_init 40 = .ok (.newarray .int, 2) := by decide +kernel
theorem dX1_init_42 : decode cX1_init 42 = .ok (.putfield 22, 3) := by decide +kernel
theorem dX1_init_45 : decode cX1_init 45 = .ok (.aload_n 0, 1) := by decide +kernel
theorem dX1_init_46 : decode cX1_init 46 = .ok (.bipush 8, 2) := by decide +kernel
theorem dX1_init_48 : decode cX1_init 48 = .ok (.newarray .int, 2) := by decide +kernel
theorem dX1_init_50 : decode cX1_init 50 = .ok (.putfield 25, 3) := by decide +kernel
theorem dX1_init_53 : decode cX1_init 53 = .ok (.iconst 0, 1) := by decide +kernel
theorem dX1_init_54 : decode cX1_init 54 = .ok (.istore_n 1, 1) := by decide +kernel
theorem dX1_init_55 : decode cX1_init 55 = .ok (.iload_n 1, 1) := by decide +kernel
theorem dX1_init_56 : decode cX1_init 56 = .ok (.bipush 8, 2) := by decide +kernel
theorem dX1_init_58 : decode cX1_init 58 = .ok (.if_icmp .ge 16, 3) := by decide +kernel
theorem dX1_init_61 : decode cX1_init 61 = .ok (.aload_n 0, 1) := by decide +kernel
theorem dX1_init_62 : decode cX1_init 62 = .ok (.getfield 7, 3) := by decide +kernel
theorem dX1_init_65 : decode cX1_init 65 = .ok (.iload_n 1, 1) := by decide +kernel
theorem dX1_init_66 : decode cX1_init 66 = .ok (.iconst 1, 1) := by decide +kernel
theorem dX1_init_67 : decode cX1_init 67 = .ok (.iastore, 1) := by decide +kernel
theorem dX1_init_68 : decode cX1_init 68 = .ok (.iinc 1 1, 3) := by decide +kernel
theorem dX1_init_71 : decode cX1_init 71 = .ok (.goto (-16), 3) := by decide +kernel
theorem dX1_init_74 : decode cX1_init 74 = .ok (.return_, 1) := by decide +kernel
abbrev cX1_set : ByteArray := prog_3_method_3_code
def yX1_set : MethodName := ⟨RX1, "set", "(IIII)I"⟩
theorem dX1_set_0 : decode cX1_set 0 = .ok (.aload_n 0, 1) := by decide +kernel
theorem dX1_set_1 : decode cX1_set 1 = .ok (.iload_n 1, 1) := by decide +kernel
theorem dX1_set_2 : decode cX1_set 2 = .ok (.invokevirtual 28, 3) := by decide +kernel
theorem dX1_set_5 : decode cX1_set 5 = .ok (.ifCond .eq 5, 3) := by decide +kernel
theorem dX1_set_8 : decode cX1_set 8 = .ok (.iconst (-1), 1) := by decide +kernel
theorem dX1_set_9 : decode cX1_set 9 = .ok (.ireturn, 1) := by decide +kernel
theorem dX1_set_10 : decode cX1_set 10 = .ok (.iload_n 2, 1) := by decide +kernel
theorem dX1_set_11 : decode cX1_set 11 = .ok (.ifCond .lt 9, 3) := by decide +kernel
theorem dX1_set_14 : decode cX1_set 14 = .ok (.iload_n 2, 1) := by decide +kernel
theorem dX1_set_15 : decode cX1_set 15 = .ok (.bipush 7, 2) := by decide +kernel
theorem dX1_set_17 : decode cX1_set 17 = .ok (.if_icmp .le 6, 3) := by decide +kernel
theorem dX1_set_20 : decode cX1_set 20 = .ok (.bipush (-2), 2) := by decide +kernel
theorem dX1_set_22 : decode cX1_set 22 = .ok (.ireturn, 1) := by decide +kernel
theorem dX1_set_23 : decode cX1_set 23 = .ok (.aload_n 0, 1) := by decide +kernel
theorem dX1_set_24 : decode cX1_set 24 = .ok (.getfield 7, 3) := by decide +kernel
theorem dX1_set_27 : decode cX1_set 27 = .ok (.iload_n 1, 1) := by decide +kernel
theorem dX1_set_28 : decode cX1_set 28 = .ok (.iload_n 2, 1) := by decide +kernel
theorem dX1_set_29 : decode cX1_set 29 = .ok (.iastore, 1) := by decide +kernel
theorem dX1_set_30 : decode cX1_set 30 = .ok (.aload_n 0, 1) := by decide +kernel
theorem dX1_set_31 : decode cX1_set 31 = .ok (.getfield 13, 3) := by decide +kernel
theorem dX1_set_34 : decode cX1_set 34 = .ok (.iload_n 1, 1) := by decide +kernel
theorem dX1_set_35 : decode cX1_set 35 = .ok (.iload_n 3, 1) := by decide +kernel
theorem dX1_set_36 : decode cX1_set 36 = .ok (.bipush 7, 2) := by decide +kernel
theorem dX1_set_38 : decode cX1_set 38 = .ok (.iand, 1) := by decide +kernel
theorem dX1_set_39 : decode cX1_set 39 = .ok (.iastore, 1) := by decide +kernel
theorem dX1_set_40 : decode cX1_set 40 = .ok (.aload_n 0, 1) := by decide +kernel
theorem dX1_set_41 : decode cX1_set 41 = .ok (.getfield 16, 3) := by decide +kernel
theorem dX1_set_44 : decode cX1_set 44 = .ok (.iload_n 1, 1) := by decide +kernel
theorem dX1_set_45 : decode cX1_set 45 = .ok (.iload_n 3, 1) := by decide +kernel
theorem dX1_set_46 : decode cX1_set 46 = .ok (.iconst 3, 1) := by decide +kernel
theorem dX1_set_47 : decode cX1_set 47 = .ok (.ishr, 1) := by decide +kernel
theorem dX1_set_48 : decode cX1_set 48 = .ok (.bipush 7, 2) := by decide +kernel
theorem dX1_set_50 : decode cX1_set 50 = .ok (.iand, 1) := by decide +kernel
theorem dX1_set_51 : decode cX1_set 51 = .ok (.iastore, 1) := by decide +kernel
theorem dX1_set_52 : decode cX1_set 52 = .ok (.aload_n 0, 1) := by decide +kernel
theorem dX1_set_53 : decode cX1_set 53 = .ok (.getfield 19, 3) := by decide +kernel
theorem dX1_set_56 : decode cX1_set 56 = .ok (.iload_n 1, 1) := by decide +kernel
theorem dX1_set_57 : decode cX1_set 57 = .ok (.iload 4, 2) := by decide +kernel
theorem dX1_set_59 : decode cX1_set 59 = .ok (.iastore, 1) := by decide +kernel
theorem dX1_set_60 : decode cX1_set 60 = .ok (.aload_n 0, 1) := by decide +kernel
theorem dX1_set_61 : decode cX1_set 61 = .ok (.iconst 0, 1) := by decide +kernel
theorem dX1_set_62 : decode cX1_set 62 = .ok (.putfield 32, 3) := by decide +kernel
theorem dX1_set_65 : decode cX1_set 65 = .ok (.iconst 0, 1) := by decide +kernel
theorem dX1_set_66 : decode cX1_set 66 = .ok (.ireturn, 1) := by decide +kernel
abbrev cX1_bad : ByteArray := prog_3_method_2_code
def yX1_bad : MethodName := ⟨RX1, "bad", "(I)Z"⟩
theorem dX1_bad_0 : decode cX1_bad 0 = .ok (.iload_n 1, 1) := by decide +kernel
theorem dX1_bad_1 : decode cX1_bad 1 = .ok (.ifCond .lt 9, 3) := by decide +kernel
theorem dX1_bad_4 : decode cX1_bad 4 = .ok (.iload_n 1, 1) := by decide +kernel
theorem dX1_bad_5 : decode cX1_bad 5 = .ok (.bipush 7, 2) := by decide +kernel
theorem dX1_bad_7 : decode cX1_bad 7 = .ok (.if_icmp .le 7, 3) := by decide +kernel
theorem dX1_bad_10 : decode cX1_bad 10 = .ok (.iconst 1, 1) := by decide +kernel
theorem dX1_bad_11 : decode cX1_bad 11 = .ok (.goto 4, 3) := by decide +kernel
theorem dX1_bad_14 : decode cX1_bad 14 = .ok (.iconst 0, 1) := by decide +kernel
theorem dX1_bad_15 : decode cX1_bad 15 = .ok (.ireturn, 1) := by decide +kernel
abbrev cX1_fire : ByteArray := prog_3_method_4_code
def yX1_fire : MethodName := ⟨RX1, "fire", "(II)I"⟩
theorem dX1_fire_0 : decode cX1_fire 0 = .ok (.aload_n 0, 1) := by decide +kernel
theorem dX1_fire_1 : decode cX1_fire 1 = .ok (.iload_n 1, 1) := by decide +kernel
theorem dX1_fire_2 : decode cX1_fire 2 = .ok (.invokevirtual 28, 3) := by decide +kernel
theorem dX1_fire_5 : decode cX1_fire 5 = .ok (.ifCond .eq 7, 3) := by decide +kernel
theorem dX1_fire_8 : decode cX1_fire 8 = .ok (.iconst (-1), 1) := by decide +kernel
theorem dX1_fire_9 : decode cX1_fire 9 = .ok (.goto 4, 3) := by decide +kernel
theorem dX1_fire_12 : decode cX1_fire 12 = .ok (.iconst 0, 1) := by decide +kernel
theorem dX1_fire_13 : decode cX1_fire 13 = .ok (.ireturn, 1) := by decide +kernel
abbrev cX1_exchange : ByteArray := prog_3_method_5_code
def yX1_exchange : MethodName := ⟨RX1, "exchange", "(II)I"⟩
theorem dX1_exchange_0 : decode cX1_exchange 0 = .ok (.aload_n 0, 1) := by decide +kernel
theorem dX1_exchange_1 : decode cX1_exchange 1 = .ok (.iload_n 1, 1) := by decide +kernel
theorem dX1_exchange_2 : decode cX1_exchange 2 = .ok (.invokevirtual 28, 3) := by decide +kernel
theorem dX1_exchange_5 : decode cX1_exchange 5 = .ok (.ifCond .ne 11, 3) := by decide +kernel
theorem dX1_exchange_8 : decode cX1_exchange 8 = .ok (.aload_n 0, 1) := by decide +kernel
theorem dX1_exchange_9 : decode cX1_exchange 9 = .ok (.iload_n 2, 1) := by decide +kernel
theorem dX1_exchange_10 : decode cX1_exchange 10 = .ok (.invokevirtual 28, 3) := by decide +kernel
theorem dX1_exchange_13 : decode cX1_exchange 13 = .ok (.ifCond .eq 5, 3) := by decide +kernel
theorem dX1_exchange_16 : decode cX1_exchange 16 = .ok (.iconst (-1), 1) := by decide +kernel
theorem dX1_exchange_17 : decode cX1_exchange 17 = .ok (.ireturn, 1) := by decide +kernel
theorem dX1_exchange_18 : decode cX1_exchange 18 = .ok (.aload_n 0, 1) := by decide +kernel
theorem dX1_exchange_19 : decode cX1_exchange 19 = .ok (.getfield 7, 3) := by decide +kernel
theorem dX1_exchange_22 : decode cX1_exchange 22 = .ok (.iload_n 1, 1) := by decide +kernel
theorem dX1_exchange_23 : decode cX1_exchange 23 = .ok (.iaload, 1) := by decide +kernel
theorem dX1_exchange_24 : decode cX1_exchange 24 = .ok (.istore_n 3, 1) := by decide +kernel
theorem dX1_exchange_25 : decode cX1_exchange 25 = .ok (.aload_n 0, 1) := by decide +kernel
theorem dX1_exchange_26 : decode cX1_exchange 26 = .ok (.getfield 13, 3) := by decide +kernel
theorem dX1_exchange_29 : decode cX1_exchange 29 = .ok (.iload_n 1, 1) := by decide +kernel
theorem dX1_exchange_30 : decode cX1_exchange 30 = .ok (.iaload, 1) := by decide +kernel
theorem dX1_exchange_31 : decode cX1_exchange 31 = .ok (.istore 4, 2) := by decide +kernel
theorem dX1_exchange_33 : decode cX1_exchange 33 = .ok (.aload_n 0, 1) := by decide +kernel
theorem dX1_exchange_34 : decode cX1_exchange 34 = .ok (.getfield 16, 3) := by decide +kernel
theorem dX1_exchange_37 : decode cX1_exchange 37 = .ok (.iload_n 1, 1) := by decide +kernel
theorem dX1_exchange_38 : decode cX1_exchange 38 = .ok (.iaload, 1) := by decide +kernel
theorem dX1_exchange_39 : decode cX1_exchange 39 = .ok (.istore 5, 2) := by decide +kernel
theorem dX1_exchange_41 : decode cX1_exchange 41 = .ok (.aload_n 0, 1) := by decide +kernel
theorem dX1_exchange_42 : decode cX1_exchange 42 = .ok (.getfield 19, 3) := by decide +kernel
theorem dX1_exchange_45 : decode cX1_exchange 45 = .ok (.iload_n 1, 1) := by decide +kernel
theorem dX1_exchange_46 : decode cX1_exchange 46 = .ok (.iaload, 1) := by decide +kernel
theorem dX1_exchange_47 : decode cX1_exchange 47 = .ok (.istore 6, 2) := by decide +kernel
theorem dX1_exchange_49 : decode cX1_exchange 49 = .ok (.aload_n 0, 1) := by decide +kernel
theorem dX1_exchange_50 : decode cX1_exchange 50 = .ok (.getfield 7, 3) := by decide +kernel
theorem dX1_exchange_53 : decode cX1_exchange 53 = .ok (.iload_n 1, 1) := by decide +kernel
theorem dX1_exchange_54 : decode cX1_exchange 54 = .ok (.aload_n 0, 1) := by decide +kernel
theorem dX1_exchange_55 : decode cX1_exchange 55 = .ok (.getfield 7, 3) := by decide +kernel
theorem dX1_exchange_58 : decode cX1_exchange 58 = .ok (.iload_n 2, 1) := by decide +kernel
theorem dX1_exchange_59 : decode cX1_exchange 59 = .ok (.iaload, 1) := by decide +kernel
theorem dX1_exchange_60 : decode cX1_exchange 60 = .ok (.iastore, 1) := by decide +kernel
theorem dX1_exchange_61 : decode cX1_exchange 61 = .ok (.aload_n 0, 1) := by decide +kernel
theorem dX1_exchange_62 : decode cX1_exchange 62 = .ok (.getfield 13, 3) := by decide +kernel
theorem dX1_exchange_65 : decode cX1_exchange 65 = .ok (.iload_n 1, 1) := by decide +kernel
theorem dX1_exchange_66 : decode cX1_exchange 66 = .ok (.aload_n 0, 1) := by decide +kernel
theorem dX1_exchange_67 : decode cX1_exchange 67 = .ok (.getfield 13, 3) := by decide +kernel
theorem dX1_exchange_70 : decode cX1_exchange 70 = .ok (.iload_n 2, 1) := by decide +kernel
theorem dX1_exchange_71 : decode cX1_exchange 71 = .ok (.iaload, 1) := by decide +kernel
theorem dX1_exchange_72 : decode cX1_exchange 72 = .ok (.iastore, 1) := by decide +kernel
theorem dX1_exchange_73 : decode cX1_exchange 73 = .ok (.aload_n 0, 1) := by decide +kernel
theorem dX1_exchange_74 : decode cX1_exchange 74 = .ok (.getfield 16, 3) := by decide +kernel
theorem dX1_exchange_77 : decode cX1_exchange 77 = .ok (.iload_n 1, 1) := by decide +kernel
theorem dX1_exchange_78 : decode cX1_exchange 78 = .ok (.aload_n 0, 1) := by decide +kernel
theorem dX1_exchange_79 : decode cX1_exchange 79 = .ok (.getfield 16, 3) := by decide +kernel
theorem dX1_exchange_82 : decode cX1_exchange 82 = .ok (.iload_n 2, 1) := by decide +kernel
theorem dX1_exchange_83 : decode cX1_exchange 83 = .ok (.iaload, 1) := by decide +kernel
theorem dX1_exchange_84 : decode cX1_exchange 84 = .ok (.iastore, 1) := by decide +kernel
theorem dX1_exchange_85 : decode cX1_exchange 85 = .ok (.aload_n 0, 1) := by decide +kernel
theorem dX1_exchange_86 : decode cX1_exchange 86 = .ok (.getfield 19, 3) := by decide +kernel
theorem dX1_exchange_89 : decode cX1_exchange 89 = .ok (.iload_n 1, 1) := by decide +kernel
theorem dX1_exchange_90 : decode cX1_exchange 90 = .ok (.aload_n 0, 1) := by decide +kernel
theorem dX1_exchange_91 : decode cX1_exchange 91 = .ok (.getfield 19, 3) := by decide +kernel
theorem dX1_exchange_94 : decode cX1_exchange 94 = .ok (.iload_n 2, 1) := by decide +kernel
theorem dX1_exchange_95 : decode cX1_exchange 95 = .ok (.iaload, 1) := by decide +kernel
theorem dX1_exchange_96 : decode cX1_exchange 96 = .ok (.iastore, 1) := by decide +kernel
theorem dX1_exchange_97 : decode cX1_exchange 97 = .ok (.aload_n 0, 1) := by decide +kernel
theorem dX1_exchange_98 : decode cX1_exchange 98 = .ok (.getfield 7, 3) := by decide +kernel
theorem dX1_exchange_101 : decode cX1_exchange 101 = .ok (.iload_n 2, 1) := by decide +kernel
theorem dX1_exchange_102 : decode cX1_exchange 102 = .ok (.iload_n 3, 1) := by decide +kernel
theorem dX1_exchange_103 : decode cX1_exchange 103 = .ok (.iastore, 1) := by decide +kernel
theorem dX1_exchange_104 : decode cX1_exchange 104 = .ok (.aload_n 0, 1) := by decide +kernel
theorem dX1_exchange_105 : decode cX1_exchange 105 = .ok (.getfield 13, 3) := by decide +kernel
theorem dX1_exchange_108 : decode cX1_exchange 108 = .ok (.iload_n 2, 1) := by decide +kernel
theorem dX1_exchange_109 : decode cX1_exchange 109 = .ok (.iload 4, 2) := by decide +kernel
theorem dX1_exchange_111 : decode cX1_exchange 111 = .ok (.iastore, 1) := by decide +kernel
theorem dX1_exchange_112 : decode cX1_exchange 112 = .ok (.aload_n 0, 1) := by decide +kernel
theorem dX1_exchange_113 : decode cX1_exchange 113 = .ok (.getfield 16, 3) := by decide +kernel
theorem dX1_exchange_116 : decode cX1_exchange 116 = .ok (.iload_n 2, 1) := by decide +kernel
theorem dX1_exchange_117 : decode cX1_exchange 117 = .ok (.iload 5, 2) := by decide +kernel
theorem dX1_exchange_119 : decode cX1_exchange 119 = .ok (.iastore, 1) := by decide +kernel
theorem dX1_exchange_120 : decode cX1_exchange 120 = .ok (.aload_n 0, 1) := by decide +kernel
theorem dX1_exchange_121 : decode cX1_exchange 121 = .ok (.getfield 19, 3) := by decide +kernel
theorem dX1_exchange_124 : decode cX1_exchange 124 = .ok (.iload_n 2, 1) := by decide +kernel
theorem dX1_exchange_125 : decode cX1_exchange 125 = .ok (.iload 6, 2) := by decide +kernel
theorem dX1_exchange_127 : decode cX1_exchange 127 = .ok (.iastore, 1) := by decide +kernel
theorem dX1_exchange_128 : decode cX1_exchange 128 = .ok (.aload_n 0, 1) := by decide +kernel
theorem dX1_exchange_129 : decode cX1_exchange 129 = .ok (.iconst 0, 1) := by decide +kernel
theorem dX1_exchange_130 : decode cX1_exchange 130 = .ok (.putfield 32, 3) := by decide +kernel
theorem dX1_exchange_133 : decode cX1_exchange 133 = .ok (.iconst 0, 1) := by decide +kernel
theorem dX1_exchange_134 : decode cX1_exchange 134 = .ok (.ireturn, 1) := by decide +kernel
abbrev cX1_length : ByteArray := prog_3_method_14_code
def yX1_length : MethodName := ⟨RX1, "length", "(I)I"⟩
theorem dX1_length_0 : decode cX1_length 0 = .ok (.aload_n 0, 1) := by decide +kernel
theorem dX1_length_1 : decode cX1_length 1 = .ok (.iload_n 1, 1) := by decide +kernel
theorem dX1_length_2 : decode cX1_length 2 = .ok (.invokevirtual 28, 3) := by decide +kernel
theorem dX1_length_5 : decode cX1_length 5 = .ok (.ifCond .eq 5, 3) := by decide +kernel
theorem dX1_length_8 : decode cX1_length 8 = .ok (.iconst (-1), 1) := by decide +kernel
theorem dX1_length_9 : decode cX1_length 9 = .ok (.ireturn, 1) := by decide +kernel
theorem dX1_length_10 : decode cX1_length 10 = .ok (.aload_n 0, 1) := by decide +kernel
theorem dX1_length_11 : decode cX1_length 11 = .ok (.invokevirtual 59, 3) := by decide +kernel
theorem dX1_length_14 : decode cX1_length 14 = .ok (.aload_n 0, 1) := by decide +kernel
theorem dX1_length_15 : decode cX1_length 15 = .ok (.getfield 25, 3) := by decide +kernel
theorem dX1_length_18 : decode cX1_length 18 = .ok (.iload_n 1, 1) := by decide +kernel
theorem dX1_length_19 : decode cX1_length 19 = .ok (.iaload, 1) := by decide +kernel
theorem dX1_length_20 : decode cX1_length 20 = .ok (.ireturn, 1) := by decide +kernel
abbrev cX1_workOut : ByteArray := prog_3_method_13_code
def yX1_workOut : MethodName := ⟨RX1, "workOut", "()V"⟩
theorem dX1_workOut_0 : decode cX1_workOut 0 = .ok (.aload_n 0, 1) := by decide +kernel
theorem dX1_workOut_1 : decode cX1_workOut 1 = .ok (.getfield 32, 3) := by decide +kernel
theorem dX1_workOut_4 : decode cX1_workOut 4 = .ok (.ifCond .eq 4, 3) := by decide +kernel
theorem dX1_workOut_7 : decode cX1_workOut 7 = .ok (.return_, 1) := by decide +kernel
theorem dX1_workOut_8 : decode cX1_workOut 8 = .ok (.aload_n 0, 1) := by decide +kernel
theorem dX1_workOut_9 : decode cX1_workOut 9 = .ok (.iconst 1, 1) := by decide +kernel
theorem dX1_workOut_10 : decode cX1_workOut 10 = .ok (.putfield 32, 3) := by decide +kernel
theorem dX1_workOut_13 : decode cX1_workOut 13 = .ok (.iconst 0, 1) := by decide +kernel
theorem dX1_workOut_14 : decode cX1_workOut 14 = .ok (.istore_n 1, 1) := by decide +kernel
theorem dX1_workOut_15 : decode cX1_workOut 15 = .ok (.iload_n 1, 1) := by decide +kernel
theorem dX1_workOut_16 : decode cX1_workOut 16 = .ok (.bipush 8, 2) := by decide +kernel
theorem dX1_workOut_18 : decode cX1_workOut 18 = .ok (.if_icmp .ge 16, 3) := by decide +kernel
theorem dX1_workOut_21 : decode cX1_workOut 21 = .ok (.aload_n 0, 1) := by decide +kernel
theorem dX1_workOut_22 : decode cX1_workOut 22 = .ok (.getfield 25, 3) := by decide +kernel
theorem dX1_workOut_25 : decode cX1_workOut 25 = .ok (.iload_n 1, 1) := by decide +kernel
theorem dX1_workOut_26 : decode cX1_workOut 26 = .ok (.iconst 0, 1) := by decide +kernel
theorem dX1_workOut_27 : decode cX1_workOut 27 = .ok (.iastore, 1) := by decide +kernel
theorem dX1_workOut_28 : decode cX1_workOut 28 = .ok (.iinc 1 1, 3) := by decide +kernel
theorem dX1_workOut_31 : decode cX1_workOut 31 = .ok (.goto (-16), 3) := by decide +kernel
theorem dX1_workOut_34 : decode cX1_workOut 34 = .ok (.iconst 1, 1) := by decide +kernel
theorem dX1_workOut_35 : decode cX1_workOut 35 = .ok (.istore_n 1, 1) := by decide +kernel
theorem dX1_workOut_36 : decode cX1_workOut 36 = .ok (.iconst 0, 1) := by decide +kernel
theorem dX1_workOut_37 : decode cX1_workOut 37 = .ok (.istore_n 2, 1) := by decide +kernel
theorem dX1_workOut_38 : decode cX1_workOut 38 = .ok (.iload_n 2, 1) := by decide +kernel
theorem dX1_workOut_39 : decode cX1_workOut 39 = .ok (.sipush 321, 3) := by decide +kernel
theorem dX1_workOut_42 : decode cX1_workOut 42 = .ok (.if_icmp .ge 57, 3) := by decide +kernel
theorem dX1_workOut_45 : decode cX1_workOut 45 = .ok (.iload_n 1, 1) := by decide +kernel
theorem dX1_workOut_46 : decode cX1_workOut 46 = .ok (.ifCond .eq 53, 3) := by decide +kernel
theorem dX1_workOut_49 : decode cX1_workOut 49 = .ok (.iconst 0, 1) := by decide +kernel
theorem dX1_workOut_50 : decode cX1_workOut 50 = .ok (.istore_n 1, 1) := by decide +kernel
theorem dX1_workOut_51 : decode cX1_workOut 51 = .ok (.iconst 0, 1) := by decide +kernel
theorem dX1_workOut_52 : decode cX1_workOut 52 = .ok (.istore_n 3, 1) := by decide +kernel
theorem dX1_workOut_53 : decode cX1_workOut 53 = .ok (.iload_n 3, 1) := by decide +kernel
theorem dX1_workOut_54 : decode cX1_workOut 54 = .ok (.bipush 8, 2) := by decide +kernel
theorem dX1_workOut_56 : decode cX1_workOut 56 = .ok (.if_icmp .ge 37, 3) := by decide +kernel
theorem dX1_workOut_59 : decode cX1_workOut 59 = .ok (.aload_n 0, 1) := by decide +kernel
theorem dX1_workOut_60 : decode cX1_workOut 60 = .ok (.iload_n 3, 1) := by decide +kernel
theorem dX1_workOut_61 : decode cX1_workOut 61 = .ok (.invokevirtual 56, 3) := by decide +kernel
theorem dX1_workOut_64 : decode cX1_workOut 64 = .ok (.istore 4, 2) := by decide +kernel
theorem dX1_workOut_66 : decode cX1_workOut 66 = .ok (.iload 4, 2) := by decide +kernel
theorem dX1_workOut_68 : decode cX1_workOut 68 = .ok (.aload_n 0, 1) := by decide +kernel
theorem dX1_workOut_69 : decode cX1_workOut 69 = .ok (.getfield 25, 3) := by decide +kernel
theorem dX1_workOut_72 : decode cX1_workOut 72 = .ok (.iload_n 3, 1) := by decide +kernel
theorem dX1_workOut_73 : decode cX1_workOut 73 = .ok (.iaload, 1) := by decide +kernel
theorem dX1_workOut_74 : decode cX1_workOut 74 = .ok (.if_icmp .eq 13, 3) := by decide +kernel
theorem dX1_workOut_77 : decode cX1_workOut 77 = .ok (.aload_n 0, 1) := by decide +kernel
theorem dX1_workOut_78 : decode cX1_workOut 78 = .ok (.getfield 25, 3) := by decide +kernel
theorem dX1_workOut_81 : decode cX1_workOut 81 = .ok (.iload_n 3, 1) := by decide +kernel
theorem dX1_workOut_82 : decode cX1_workOut 82 = .ok (.iload 4, 2) := by decide +kernel
theorem dX1_workOut_84 : decode cX1_workOut 84 = .ok (.iastore, 1) := by decide +kernel
theorem dX1_workOut_85 : decode cX1_workOut 85 = .ok (.iconst 1, 1) := by decide +kernel
theorem dX1_workOut_86 : decode cX1_workOut 86 = .ok (.istore_n 1, 1) := by decide +kernel
theorem dX1_workOut_87 : decode cX1_workOut 87 = .ok (.iinc 3 1, 3) := by decide +kernel
theorem dX1_workOut_90 : decode cX1_workOut 90 = .ok (.goto (-37), 3) := by decide +kernel
theorem dX1_workOut_93 : decode cX1_workOut 93 = .ok (.iinc 2 1, 3) := by decide +kernel
theorem dX1_workOut_96 : decode cX1_workOut 96 = .ok (.goto (-58), 3) := by decide +kernel
theorem dX1_workOut_99 : decode cX1_workOut 99 = .ok (.return_, 1) := by decide +kernel
abbrev cX1_stream : ByteArray := prog_3_method_12_code
def yX1_stream : MethodName := ⟨RX1, "stream", "(I)I"⟩
theorem dX1_stream_0 : decode cX1_stream 0 = .ok (.aload_n 0, 1) := by decide +kernel
theorem dX1_stream_1 : decode cX1_stream 1 = .ok (.getfield 7, 3) := by decide +kernel
theorem dX1_stream_4 : decode cX1_stream 4 = .ok (.iload_n 1, 1) := by decide +kernel
theorem dX1_stream_5 : decode cX1_stream 5 = .ok (.iaload, 1) := by decide +kernel
theorem dX1_stream_6 : decode cX1_stream 6 = .ok (.iconst 2, 1) := by decide +kernel
theorem dX1_stream_7 : decode cX1_stream 7 = .ok (.if_icmp .ge 9, 3) := by decide +kernel
theorem dX1_stream_10 : decode cX1_stream 10 = .ok (.aload_n 0, 1) := by decide +kernel
theorem dX1_stream_11 : decode cX1_stream 11 = .ok (.iload_n 1, 1) := by decide +kernel
theorem dX1_stream_12 : decode cX1_stream 12 = .ok (.invokevirtual 40, 3) := by decide +kernel
theorem dX1_stream_15 : decode cX1_stream 15 = .ok (.ireturn, 1) := by decide +kernel
theorem dX1_stream_16 : decode cX1_stream 16 = .ok (.aload_n 0, 1) := by decide +kernel
theorem dX1_stream_17 : decode cX1_stream 17 = .ok (.getfield 7, 3) := by decide +kernel
theorem dX1_stream_20 : decode cX1_stream 20 = .ok (.iload_n 1, 1) := by decide +kernel
theorem dX1_stream_21 : decode cX1_stream 21 = .ok (.iaload, 1) := by decide +kernel
theorem dX1_stream_22 : decode cX1_stream 22 = .ok (.iconst 2, 1) := by decide +kernel
theorem dX1_stream_23 : decode cX1_stream 23 = .ok (.if_icmp .ne 9, 3) := by decide +kernel
theorem dX1_stream_26 : decode cX1_stream 26 = .ok (.aload_n 0, 1) := by decide +kernel
theorem dX1_stream_27 : decode cX1_stream 27 = .ok (.iload_n 1, 1) := by decide +kernel
theorem dX1_stream_28 : decode cX1_stream 28 = .ok (.invokevirtual 44, 3) := by decide +kernel
theorem dX1_stream_31 : decode cX1_stream 31 = .ok (.ireturn, 1) := by decide +kernel
theorem dX1_stream_32 : decode cX1_stream 32 = .ok (.aload_n 0, 1) := by decide +kernel
theorem dX1_stream_33 : decode cX1_stream 33 = .ok (.getfield 7, 3) := by decide +kernel
theorem dX1_stream_36 : decode cX1_stream 36 = .ok (.iload_n 1, 1) := by decide +kernel
theorem dX1_stream_37 : decode cX1_stream 37 = .ok (.iaload, 1) := by decide +kernel
theorem dX1_stream_38 : decode cX1_stream 38 = .ok (.iconst 3, 1) := by decide +kernel
theorem dX1_stream_39 : decode cX1_stream 39 = .ok (.if_icmp .ne 9, 3) := by decide +kernel
theorem dX1_stream_42 : decode cX1_stream 42 = .ok (.aload_n 0, 1) := by decide +kernel
theorem dX1_stream_43 : decode cX1_stream 43 = .ok (.iload_n 1, 1) := by decide +kernel
theorem dX1_stream_44 : decode cX1_stream 44 = .ok (.invokevirtual 47, 3) := by decide +kernel
theorem dX1_stream_47 : decode cX1_stream 47 = .ok (.ireturn, 1) := by decide +kernel
theorem dX1_stream_48 : decode cX1_stream 48 = .ok (.aload_n 0, 1) := by decide +kernel
theorem dX1_stream_49 : decode cX1_stream 49 = .ok (.getfield 7, 3) := by decide +kernel
theorem dX1_stream_52 : decode cX1_stream 52 = .ok (.iload_n 1, 1) := by decide +kernel
theorem dX1_stream_53 : decode cX1_stream 53 = .ok (.iaload, 1) := by decide +kernel
theorem dX1_stream_54 : decode cX1_stream 54 = .ok (.bipush 6, 2) := by decide +kernel
theorem dX1_stream_56 : decode cX1_stream 56 = .ok (.if_icmp .ne 11, 3) := by decide +kernel
theorem dX1_stream_59 : decode cX1_stream 59 = .ok (.aload_n 0, 1) := by decide +kernel
theorem dX1_stream_60 : decode cX1_stream 60 = .ok (.iload_n 1, 1) := by decide +kernel
theorem dX1_stream_61 : decode cX1_stream 61 = .ok (.invokevirtual 50, 3) := by decide +kernel
theorem dX1_stream_64 : decode cX1_stream 64 = .ok (.goto 8, 3) := by decide +kernel
theorem dX1_stream_67 : decode cX1_stream 67 = .ok (.aload_n 0, 1) := by decide +kernel
theorem dX1_stream_68 : decode cX1_stream 68 = .ok (.iload_n 1, 1) := by decide +kernel
theorem dX1_stream_69 : decode cX1_stream 69 = .ok (.invokevirtual 53, 3) := by decide +kernel
theorem dX1_stream_72 : decode cX1_stream 72 = .ok (.ireturn, 1) := by decide +kernel
abbrev cX1_start : ByteArray := prog_3_method_7_code
def yX1_start : MethodName := ⟨RX1, "start", "(I)I"⟩
theorem dX1_start_0 : decode cX1_start 0 = .ok (.iconst 0, 1) := by decide +kernel
theorem dX1_start_1 : decode cX1_start 1 = .ok (.istore_n 2, 1) := by decide +kernel
theorem dX1_start_2 : decode cX1_start 2 = .ok (.iconst 0, 1) := by decide +kernel
theorem dX1_start_3 : decode cX1_start 3 = .ok (.istore_n 3, 1) := by decide +kernel
theorem dX1_start_4 : decode cX1_start 4 = .ok (.iload_n 3, 1) := by decide +kernel
theorem dX1_start_5 : decode cX1_start 5 = .ok (.aload_n 0, 1) := by decide +kernel
theorem dX1_start_6 : decode cX1_start 6 = .ok (.getfield 7, 3) := by decide +kernel
theorem dX1_start_9 : decode cX1_start 9 = .ok (.iload_n 1, 1) := by decide +kernel
theorem dX1_start_10 : decode cX1_start 10 = .ok (.iaload, 1) := by decide +kernel
theorem dX1_start_11 : decode cX1_start 11 = .ok (.ifCond .ne 8, 3) := by decide +kernel
theorem dX1_start_14 : decode cX1_start 14 = .ok (.bipush 40, 2) := by decide +kernel
theorem dX1_start_16 : decode cX1_start 16 = .ok (.goto 4, 3) := by decide +kernel
theorem dX1_start_19 : decode cX1_start 19 = .ok (.iconst 5, 1) := by decide +kernel
theorem dX1_start_20 : decode cX1_start 20 = .ok (.if_icmp .ge 48, 3) := by decide +kernel
theorem dX1_start_23 : decode cX1_start 23 = .ok (.aload_n 0, 1) := by decide +kernel
theorem dX1_start_24 : decode cX1_start 24 = .ok (.iload_n 1, 1) := by decide +kernel
theorem dX1_start_25 : decode cX1_start 25 = .ok (.iload_n 2, 1) := by decide +kernel
theorem dX1_start_26 : decode cX1_start 26 = .ok (.aload_n 0, 1) := by decide +kernel
theorem dX1_start_27 : decode cX1_start 27 = .ok (.getfield 7, 3) := by decide +kernel
theorem dX1_start_30 : decode cX1_start 30 = .ok (.iload_n 1, 1) := by decide +kernel
theorem dX1_start_31 : decode cX1_start 31 = .ok (.iaload, 1) := by decide +kernel
theorem dX1_start_32 : decode cX1_start 32 = .ok (.ifCond .ne 14, 3) := by decide +kernel
theorem dX1_start_35 : decode cX1_start 35 = .ok (.aload_n 0, 1) := by decide +kernel
theorem dX1_start_36 : decode cX1_start 36 = .ok (.getfield 19, 3) := by decide +kernel
theorem dX1_start_39 : decode cX1_start 39 = .ok (.iload_n 1, 1) := by decide +kernel
theorem dX1_start_40 : decode cX1_start 40 = .ok (.iaload, 1) := by decide +kernel
theorem dX1_start_41 : decode cX1_start 41 = .ok (.iload_n 3, 1) := by decide +kernel
theorem dX1_start_42 : decode cX1_start 42 = .ok (.iadd, 1) := by decide +kernel
theorem dX1_start_43 : decode cX1_start 43 = .ok (.goto 15, 3) := by decide +kernel
theorem dX1_start_46 : decode cX1_start 46 = .ok (.aload_n 0, 1) := by decide +kernel
theorem dX1_start_47 : decode cX1_start 47 = .ok (.getfield 19, 3) := by decide +kernel
theorem dX1_start_50 : decode cX1_start 50 = .ok (.iload_n 1, 1) := by decide +kernel
theorem dX1_start_51 : decode cX1_start 51 = .ok (.iaload, 1) := by decide +kernel
theorem dX1_start_52 : decode cX1_start 52 = .ok (.iconst 2, 1) := by decide +kernel
theorem dX1_start_53 : decode cX1_start 53 = .ok (.iload_n 3, 1) := by decide +kernel
theorem dX1_start_54 : decode cX1_start 54 = .ok (.imul, 1) := by decide +kernel
theorem dX1_start_55 : decode cX1_start 55 = .ok (.iconst 1, 1) := by decide +kernel
theorem dX1_start_56 : decode cX1_start 56 = .ok (.iadd, 1) := by decide +kernel
theorem dX1_start_57 : decode cX1_start 57 = .ok (.imul, 1) := by decide +kernel
theorem dX1_start_58 : decode cX1_start 58 = .ok (.invokevirtual 36, 3) := by decide +kernel
theorem dX1_start_61 : decode cX1_start 61 = .ok (.istore_n 2, 1) := by decide +kernel
theorem dX1_start_62 : decode cX1_start 62 = .ok (.iinc 3 1, 3) := by decide +kernel
theorem dX1_start_65 : decode cX1_start 65 = .ok (.goto (-61), 3) := by decide +kernel
theorem dX1_start_68 : decode cX1_start 68 = .ok (.iload_n 2, 1) := by decide +kernel
theorem dX1_start_69 : decode cX1_start 69 = .ok (.ireturn, 1) := by decide +kernel
abbrev cX1_put : ByteArray := prog_3_method_6_code
def yX1_put : MethodName := ⟨RX1, "put", "(III)I"⟩
theorem dX1_put_0 : decode cX1_put 0 = .ok (.iload_n 2, 1) := by decide +kernel
theorem dX1_put_1 : decode cX1_put 1 = .ok (.bipush 40, 2) := by decide +kernel
theorem dX1_put_3 : decode cX1_put 3 = .ok (.if_icmp .ne 5, 3) := by decide +kernel
theorem dX1_put_6 : decode cX1_put 6 = .ok (.iload_n 2, 1) := by decide +kernel
theorem dX1_put_7 : decode cX1_put 7 = .ok (.ireturn, 1) := by decide +kernel
theorem dX1_put_8 : decode cX1_put 8 = .ok (.aload_n 0, 1) := by decide +kernel
theorem dX1_put_9 : decode cX1_put 9 = .ok (.getfield 22, 3) := by decide +kernel
theorem dX1_put_12 : decode cX1_put 12 = .ok (.iload_n 1, 1) := by decide +kernel
theorem dX1_put_13 : decode cX1_put 13 = .ok (.bipush 40, 2) := by decide +kernel
theorem dX1_put_15 : decode cX1_put 15 = .ok (.imul, 1) := by decide +kernel
theorem dX1_put_16 : decode cX1_put 16 = .ok (.iload_n 2, 1) := by decide +kernel
theorem dX1_put_17 : decode cX1_put 17 = .ok (.iadd, 1) := by decide +kernel
theorem dX1_put_18 : decode cX1_put 18 = .ok (.iload_n 3, 1) := by decide +kernel
theorem dX1_put_19 : decode cX1_put 19 = .ok (.iastore, 1) := by decide +kernel
theorem dX1_put_20 : decode cX1_put 20 = .ok (.iload_n 2, 1) := by decide +kernel
theorem dX1_put_21 : decode cX1_put 21 = .ok (.iconst 1, 1) := by decide +kernel
theorem dX1_put_22 : decode cX1_put 22 = .ok (.iadd, 1) := by decide +kernel
theorem dX1_put_23 : decode cX1_put 23 = .ok (.ireturn, 1) := by decide +kernel
end
section
set_option maxRecDepth 100000
abbrev cX1_add : ByteArray := prog_3_method_8_code
def yX1_add : MethodName := ⟨RX1, "add", "(I)I"⟩
theorem dX1_add_0 : decode cX1_add 0 = .ok (.iconst 0, 1) := by decide +kernel
theorem dX1_add_1 : decode cX1_add 1 = .ok (.istore_n 2, 1) := by decide +kernel
theorem dX1_add_2 : decode cX1_add 2 = .ok (.iconst 0, 1) := by decide +kernel
theorem dX1_add_3 : decode cX1_add 3 = .ok (.istore_n 3, 1) := by decide +kernel
theorem dX1_add_4 : decode cX1_add 4 = .ok (.iload_n 3, 1) := by decide +kernel
theorem dX1_add_5 : decode cX1_add 5 = .ok (.bipush 40, 2) := by decide +kernel
theorem dX1_add_7 : decode cX1_add 7 = .ok (.if_icmp .ge 79, 3) := by decide +kernel
theorem dX1_add_10 : decode cX1_add 10 = .ok (.iload_n 3, 1) := by decide +kernel
theorem dX1_add_11 : decode cX1_add 11 = .ok (.aload_n 0, 1) := by decide +kernel
theorem dX1_add_12 : decode cX1_add 12 = .ok (.getfield 25, 3) := by decide +kernel
theorem dX1_add_15 : decode cX1_add 15 = .ok (.aload_n 0, 1) := by decide +kernel
theorem dX1_add_16 : decode cX1_add 16 = .ok (.getfield 13, 3) := by decide +kernel
theorem dX1_add_19 : decode cX1_add 19 = .ok (.iload_n 1, 1) := by decide +kernel
theorem dX1_add_20 : decode cX1_add 20 = .ok (.iaload, 1) := by decide +kernel
theorem dX1_add_21 : decode cX1_add 21 = .ok (.iaload, 1) := by decide +kernel
theorem dX1_add_22 : decode cX1_add 22 = .ok (.if_icmp .ge 58, 3) := by decide +kernel
theorem dX1_add_25 : decode cX1_add 25 = .ok (.iload_n 3, 1) := by decide +kernel
theorem dX1_add_26 : decode cX1_add 26 = .ok (.aload_n 0, 1) := by decide +kernel
theorem dX1_add_27 : decode cX1_add 27 = .ok (.getfield 25, 3) := by decide +kernel
theorem dX1_add_30 : decode cX1_add 30 = .ok (.aload_n 0, 1) := by decide +kernel
theorem dX1_add_31 : decode cX1_add 31 = .ok (.getfield 16, 3) := by decide +kernel
theorem dX1_add_34 : decode cX1_add 34 = .ok (.iload_n 1, 1) := by decide +kernel
theorem dX1_add_35 : decode cX1_add 35 = .ok (.iaload, 1) := by decide +kernel
theorem dX1_add_36 : decode cX1_add 36 = .ok (.iaload, 1) := by decide +kernel
theorem dX1_add_37 : decode cX1_add 37 = .ok (.if_icmp .ge 43, 3) := by decide +kernel
theorem dX1_add_40 : decode cX1_add 40 = .ok (.aload_n 0, 1) := by decide +kernel
theorem dX1_add_41 : decode cX1_add 41 = .ok (.iload_n 1, 1) := by decide +kernel
theorem dX1_add_42 : decode cX1_add 42 = .ok (.iload_n 2, 1) := by decide +kernel
theorem dX1_add_43 : decode cX1_add 43 = .ok (.aload_n 0, 1) := by decide +kernel
theorem dX1_add_44 : decode cX1_add 44 = .ok (.getfield 22, 3) := by decide +kernel
theorem dX1_add_47 : decode cX1_add 47 = .ok (.aload_n 0, 1) := by decide +kernel
theorem dX1_add_48 : decode cX1_add 48 = .ok (.getfield 13, 3) := by decide +kernel
theorem dX1_add_51 : decode cX1_add 51 = .ok (.iload_n 1, 1) := by decide +kernel
theorem dX1_add_52 : decode cX1_add 52 = .ok (.iaload, 1) := by decide +kernel
theorem dX1_add_53 : decode cX1_add 53 = .ok (.bipush 40, 2) := by decide +kernel
theorem dX1_add_55 : decode cX1_add 55 = .ok (.imul, 1) := by decide +kernel
theorem dX1_add_56 : decode cX1_add 56 = .ok (.iload_n 3, 1) := by decide +kernel
theorem dX1_add_57 : decode cX1_add 57 = .ok (.iadd, 1) := by decide +kernel
theorem dX1_add_58 : decode cX1_add 58 = .ok (.iaload, 1) := by decide +kernel
theorem dX1_add_59 : decode cX1_add 59 = .ok (.aload_n 0, 1) := by decide +kernel
theorem dX1_add_60 : decode cX1_add 60 = .ok (.getfield 22, 3) := by decide +kernel
theorem dX1_add_63 : decode cX1_add 63 = .ok (.aload_n 0, 1) := by decide +kernel
theorem dX1_add_64 : decode cX1_add 64 = .ok (.getfield 16, 3) := by decide +kernel
theorem dX1_add_67 : decode cX1_add 67 = .ok (.iload_n 1, 1) := by decide +kernel
theorem dX1_add_68 : decode cX1_add 68 = .ok (.iaload, 1) := by decide +kernel
theorem dX1_add_69 : decode cX1_add 69 = .ok (.bipush 40, 2) := by decide +kernel
theorem dX1_add_71 : decode cX1_add 71 = .ok (.imul, 1) := by decide +kernel
theorem dX1_add_72 : decode cX1_add 72 = .ok (.iload_n 3, 1) := by decide +kernel
theorem dX1_add_73 : decode cX1_add 73 = .ok (.iadd, 1) := by decide +kernel
theorem dX1_add_74 : decode cX1_add 74 = .ok (.iaload, 1) := by decide +kernel
theorem dX1_add_75 : decode cX1_add 75 = .ok (.iadd, 1) := by decide +kernel
theorem dX1_add_76 : decode cX1_add 76 = .ok (.invokevirtual 36, 3) := by decide +kernel
theorem dX1_add_79 : decode cX1_add 79 = .ok (.istore_n 2, 1) := by decide +kernel
theorem dX1_add_80 : decode cX1_add 80 = .ok (.iinc 3 1, 3) := by decide +kernel
theorem dX1_add_83 : decode cX1_add 83 = .ok (.goto (-79), 3) := by decide +kernel
theorem dX1_add_86 : decode cX1_add 86 = .ok (.iload_n 2, 1) := by decide +kernel
theorem dX1_add_87 : decode cX1_add 87 = .ok (.ireturn, 1) := by decide +kernel
abbrev cX1_turn : ByteArray := prog_3_method_9_code
def yX1_turn : MethodName := ⟨RX1, "turn", "(I)I"⟩
theorem dX1_turn_0 : decode cX1_turn 0 = .ok (.iconst 0, 1) := by decide +kernel
theorem dX1_turn_1 : decode cX1_turn 1 = .ok (.istore_n 2, 1) := by decide +kernel
theorem dX1_turn_2 : decode cX1_turn 2 = .ok (.iconst 0, 1) := by decide +kernel
theorem dX1_turn_3 : decode cX1_turn 3 = .ok (.istore_n 3, 1) := by decide +kernel
theorem dX1_turn_4 : decode cX1_turn 4 = .ok (.iload_n 3, 1) := by decide +kernel
theorem dX1_turn_5 : decode cX1_turn 5 = .ok (.bipush 40, 2) := by decide +kernel
theorem dX1_turn_7 : decode cX1_turn 7 = .ok (.if_icmp .ge 71, 3) := by decide +kernel
theorem dX1_turn_10 : decode cX1_turn 10 = .ok (.iload_n 3, 1) := by decide +kernel
theorem dX1_turn_11 : decode cX1_turn 11 = .ok (.iconst 2, 1) := by decide +kernel
theorem dX1_turn_12 : decode cX1_turn 12 = .ok (.irem, 1) := by decide +kernel
theorem dX1_turn_13 : decode cX1_turn 13 = .ok (.ifCond .ne 12, 3) := by decide +kernel
theorem dX1_turn_16 : decode cX1_turn 16 = .ok (.aload_n 0, 1) := by decide +kernel
theorem dX1_turn_17 : decode cX1_turn 17 = .ok (.getfield 13, 3) := by decide +kernel
theorem dX1_turn_20 : decode cX1_turn 20 = .ok (.iload_n 1, 1) := by decide +kernel
theorem dX1_turn_21 : decode cX1_turn 21 = .ok (.iaload, 1) := by decide +kernel
theorem dX1_turn_22 : decode cX1_turn 22 = .ok (.goto 9, 3) := by decide +kernel
theorem dX1_turn_25 : decode cX1_turn 25 = .ok (.aload_n 0, 1) := by decide +kernel
theorem dX1_turn_26 : decode cX1_turn 26 = .ok (.getfield 16, 3) := by decide +kernel
theorem dX1_turn_29 : decode cX1_turn 29 = .ok (.iload_n 1, 1) := by decide +kernel
theorem dX1_turn_30 : decode cX1_turn 30 = .ok (.iaload, 1) := by decide +kernel
theorem dX1_turn_31 : decode cX1_turn 31 = .ok (.istore 4, 2) := by decide +kernel
theorem dX1_turn_33 : decode cX1_turn 33 = .ok (.iload_n 2, 1) := by decide +kernel
theorem dX1_turn_34 : decode cX1_turn 34 = .ok (.iload_n 3, 1) := by decide +kernel
theorem dX1_turn_35 : decode cX1_turn 35 = .ok (.if_icmp .ne 37, 3) := by decide +kernel
theorem dX1_turn_38 : decode cX1_turn 38 = .ok (.iload_n 3, 1) := by decide +kernel
theorem dX1_turn_39 : decode cX1_turn 39 = .ok (.iconst 2, 1) := by decide +kernel
theorem dX1_turn_40 : decode cX1_turn 40 = .ok (.idiv, 1) := by decide +kernel
theorem dX1_turn_41 : decode cX1_turn 41 = .ok (.aload_n 0, 1) := by decide +kernel
theorem dX1_turn_42 : decode cX1_turn 42 = .ok (.getfield 25, 3) := by decide +kernel
theorem dX1_turn_45 : decode cX1_turn 45 = .ok (.iload 4, 2) := by decide +kernel
theorem dX1_turn_47 : decode cX1_turn 47 = .ok (.iaload, 1) := by decide +kernel
theorem dX1_turn_48 : decode cX1_turn 48 = .ok (.if_icmp .ge 24, 3) := by decide +kernel
theorem dX1_turn_51 : decode cX1_turn 51 = .ok (.aload_n 0, 1) := by decide +kernel
theorem dX1_turn_52 : decode cX1_turn 52 = .ok (.iload_n 1, 1) := by decide +kernel
theorem dX1_turn_53 : decode cX1_turn 53 = .ok (.iload_n 2, 1) := by decide +kernel
theorem dX1_turn_54 : decode cX1_turn 54 = .ok (.aload_n 0, 1) := by decide +kernel
theorem dX1_turn_55 : decode cX1_turn 55 = .ok (.getfield 22, 3) := by decide +kernel
theorem dX1_turn_58 : decode cX1_turn 58 = .ok (.iload 4, 2) := by decide +kernel
theorem dX1_turn_60 : decode cX1_turn 60 = .ok (.bipush 40, 2) := by decide +kernel
theorem dX1_turn_62 : decode cX1_turn 62 = .ok (.imul, 1) := by decide +kernel
theorem dX1_turn_63 : decode cX1_turn 63 = .ok (.iload_n 3, 1) := by decide +kernel
theorem dX1_turn_64 : decode cX1_turn 64 = .ok (.iconst 2, 1) := by decide +kernel
theorem dX1_turn_65 : decode cX1_turn 65 = .ok (.idiv, 1) := by decide +kernel
theorem dX1_turn_66 : decode cX1_turn 66 = .ok (.iadd, 1) := by decide +kernel
theorem dX1_turn_67 : decode cX1_turn 67 = .ok (.iaload, 1) := by decide +kernel
theorem dX1_turn_68 : decode cX1_turn 68 = .ok (.invokevirtual 36, 3) := by decide +kernel
theorem dX1_turn_71 : decode cX1_turn 71 = .ok (.istore_n 2, 1) := by decide +kernel
theorem dX1_turn_72 : decode cX1_turn 72 = .ok (.iinc 3 1, 3) := by decide +kernel
theorem dX1_turn_75 : decode cX1_turn 75 = .ok (.goto (-71), 3) := by decide +kernel
theorem dX1_turn_78 : decode cX1_turn 78 = .ok (.iload_n 2, 1) := by decide +kernel
theorem dX1_turn_79 : decode cX1_turn 79 = .ok (.ireturn, 1) := by decide +kernel
abbrev cX1_merge : ByteArray := prog_3_method_11_code
def yX1_merge : MethodName := ⟨RX1, "merge", "(I)I"⟩
theorem dX1_merge_0 : decode cX1_merge 0 = .ok (.iconst 0, 1) := by decide +kernel
theorem dX1_merge_1 : decode cX1_merge 1 = .ok (.istore_n 2, 1) := by decide +kernel
theorem dX1_merge_2 : decode cX1_merge 2 = .ok (.iconst 0, 1) := by decide +kernel
theorem dX1_merge_3 : decode cX1_merge 3 = .ok (.istore_n 3, 1) := by decide +kernel
theorem dX1_merge_4 : decode cX1_merge 4 = .ok (.iconst 0, 1) := by decide +kernel
theorem dX1_merge_5 : decode cX1_merge 5 = .ok (.istore 4, 2) := by decide +kernel
theorem dX1_merge_7 : decode cX1_merge 7 = .ok (.iconst 0, 1) := by decide +kernel
theorem dX1_merge_8 : decode cX1_merge 8 = .ok (.istore 5, 2) := by decide +kernel
theorem dX1_merge_10 : decode cX1_merge 10 = .ok (.iload 5, 2) := by decide +kernel
theorem dX1_merge_12 : decode cX1_merge 12 = .ok (.bipush 40, 2) := by decide +kernel
theorem dX1_merge_14 : decode cX1_merge 14 = .ok (.if_icmp .ge 111, 3) := by decide +kernel
theorem dX1_merge_17 : decode cX1_merge 17 = .ok (.iload_n 3, 1) := by decide +kernel
theorem dX1_merge_18 : decode cX1_merge 18 = .ok (.aload_n 0, 1) := by decide +kernel
theorem dX1_merge_19 : decode cX1_merge 19 = .ok (.getfield 25, 3) := by decide +kernel
theorem dX1_merge_22 : decode cX1_merge 22 = .ok (.aload_n 0, 1) := by decide +kernel
theorem dX1_merge_23 : decode cX1_merge 23 = .ok (.getfield 13, 3) := by decide +kernel
theorem dX1_merge_26 : decode cX1_merge 26 = .ok (.iload_n 1, 1) := by decide +kernel
theorem dX1_merge_27 : decode cX1_merge 27 = .ok (.iaload, 1) := by decide +kernel
theorem dX1_merge_28 : decode cX1_merge 28 = .ok (.iaload, 1) := by decide +kernel
theorem dX1_merge_29 : decode cX1_merge 29 = .ok (.if_icmp .ge 90, 3) := by decide +kernel
theorem dX1_merge_32 : decode cX1_merge 32 = .ok (.iload 4, 2) := by decide +kernel
theorem dX1_merge_34 : decode cX1_merge 34 = .ok (.aload_n 0, 1) := by decide +kernel
theorem dX1_merge_35 : decode cX1_merge 35 = .ok (.getfield 25, 3) := by decide +kernel
theorem dX1_merge_38 : decode cX1_merge 38 = .ok (.aload_n 0, 1) := by decide +kernel
theorem dX1_merge_39 : decode cX1_merge 39 = .ok (.getfield 16, 3) := by decide +kernel
theorem dX1_merge_42 : decode cX1_merge 42 = .ok (.iload_n 1, 1) := by decide +kernel
theorem dX1_merge_43 : decode cX1_merge 43 = .ok (.iaload, 1) := by decide +kernel
theorem dX1_merge_44 : decode cX1_merge 44 = .ok (.iaload, 1) := by decide +kernel
theorem dX1_merge_45 : decode cX1_merge 45 = .ok (.if_icmp .ge 74, 3) := by decide +kernel
theorem dX1_merge_48 : decode cX1_merge 48 = .ok (.aload_n 0, 1) := by decide +kernel
theorem dX1_merge_49 : decode cX1_merge 49 = .ok (.getfield 22, 3) := by decide +kernel
theorem dX1_merge_52 : decode cX1_merge 52 = .ok (.aload_n 0, 1) := by decide +kernel
theorem dX1_merge_53 : decode cX1_merge 53 = .ok (.getfield 13, 3) := by decide +kernel
theorem dX1_merge_56 : decode cX1_merge 56 = .ok (.iload_n 1, 1) := by decide +kernel
theorem dX1_merge_57 : decode cX1_merge 57 = .ok (.iaload, 1) := by decide +kernel
theorem dX1_merge_58 : decode cX1_merge 58 = .ok (.bipush 40, 2) := by decide +kernel
theorem dX1_merge_60 : decode cX1_merge 60 = .ok (.imul, 1) := by decide +kernel
theorem dX1_merge_61 : decode cX1_merge 61 = .ok (.iload_n 3, 1) := by decide +kernel
theorem dX1_merge_62 : decode cX1_merge 62 = .ok (.iadd, 1) := by decide +kernel
theorem dX1_merge_63 : decode cX1_merge 63 = .ok (.iaload, 1) := by decide +kernel
theorem dX1_merge_64 : decode cX1_merge 64 = .ok (.istore 6, 2) := by decide +kernel
theorem dX1_merge_66 : decode cX1_merge 66 = .ok (.aload_n 0, 1) := by decide +kernel
theorem dX1_merge_67 : decode cX1_merge 67 = .ok (.getfield 22, 3) := by decide +kernel
theorem dX1_merge_70 : decode cX1_merge 70 = .ok (.aload_n 0, 1) := by decide +kernel
theorem dX1_merge_71 : decode cX1_merge 71 = .ok (.getfield 16, 3) := by decide +kernel
theorem dX1_merge_74 : decode cX1_merge 74 = .ok (.iload_n 1, 1) := by decide +kernel
theorem dX1_merge_75 : decode cX1_merge 75 = .ok (.iaload, 1) := by decide +kernel
theorem dX1_merge_76 : decode cX1_merge 76 = .ok (.bipush 40, 2) := by decide +kernel
theorem dX1_merge_78 : decode cX1_merge 78 = .ok (.imul, 1) := by decide +kernel
theorem dX1_merge_79 : decode cX1_merge 79 = .ok (.iload 4, 2) := by decide +kernel
theorem dX1_merge_81 : decode cX1_merge 81 = .ok (.iadd, 1) := by decide +kernel
theorem dX1_merge_82 : decode cX1_merge 82 = .ok (.iaload, 1) := by decide +kernel
theorem dX1_merge_83 : decode cX1_merge 83 = .ok (.istore 7, 2) := by decide +kernel
theorem dX1_merge_85 : decode cX1_merge 85 = .ok (.iload 7, 2) := by decide +kernel
theorem dX1_merge_87 : decode cX1_merge 87 = .ok (.iload 6, 2) := by decide +kernel
theorem dX1_merge_89 : decode cX1_merge 89 = .ok (.if_icmp .ge 18, 3) := by decide +kernel
theorem dX1_merge_92 : decode cX1_merge 92 = .ok (.aload_n 0, 1) := by decide +kernel
theorem dX1_merge_93 : decode cX1_merge 93 = .ok (.iload_n 1, 1) := by decide +kernel
theorem dX1_merge_94 : decode cX1_merge 94 = .ok (.iload_n 2, 1) := by decide +kernel
theorem dX1_merge_95 : decode cX1_merge 95 = .ok (.iload 7, 2) := by decide +kernel
theorem dX1_merge_97 : decode cX1_merge 97 = .ok (.invokevirtual 36, 3) := by decide +kernel
theorem dX1_merge_100 : decode cX1_merge 100 = .ok (.istore_n 2, 1) := by decide +kernel
theorem dX1_merge_101 : decode cX1_merge 101 = .ok (.iinc 4 1, 3) := by decide +kernel
theorem dX1_merge_104 : decode cX1_merge 104 = .ok (.goto 15, 3) := by decide +kernel
theorem dX1_merge_107 : decode cX1_merge 107 = .ok (.aload_n 0, 1) := by decide +kernel
theorem dX1_merge_108 : decode cX1_merge 108 = .ok (.iload_n 1, 1) := by decide +kernel
theorem dX1_merge_109 : decode cX1_merge 109 = .ok (.iload_n 2, 1) := by decide +kernel
theorem dX1_merge_110 : decode cX1_merge 110 = .ok (.iload 6, 2) := by decide +kernel
theorem dX1_merge_112 : decode cX1_merge 112 = .ok (.invokevirtual 36, 3) := by decide +kernel
theorem dX1_merge_115 : decode cX1_merge 115 = .ok (.istore_n 2, 1) := by decide +kernel
theorem dX1_merge_116 : decode cX1_merge 116 = .ok (.iinc 3 1, 3) := by decide +kernel
theorem dX1_merge_119 : decode cX1_merge 119 = .ok (.iinc 5 1, 3) := by decide +kernel
theorem dX1_merge_122 : decode cX1_merge 122 = .ok (.goto (-112), 3) := by decide +kernel
theorem dX1_merge_125 : decode cX1_merge 125 = .ok (.iload_n 2, 1) := by decide +kernel
theorem dX1_merge_126 : decode cX1_merge 126 = .ok (.ireturn, 1) := by decide +kernel
abbrev cX1_one : ByteArray := prog_3_method_10_code
def yX1_one : MethodName := ⟨RX1, "one", "(I)I"⟩
theorem dX1_one_0 : decode cX1_one 0 = .ok (.aload_n 0, 1) := by decide +kernel
theorem dX1_one_1 : decode cX1_one 1 = .ok (.getfield 13, 3) := by decide +kernel
theorem dX1_one_4 : decode cX1_one 4 = .ok (.iload_n 1, 1) := by decide +kernel
theorem dX1_one_5 : decode cX1_one 5 = .ok (.iaload, 1) := by decide +kernel
theorem dX1_one_6 : decode cX1_one 6 = .ok (.istore_n 2, 1) := by decide +kernel
theorem dX1_one_7 : decode cX1_one 7 = .ok (.aload_n 0, 1) := by decide +kernel
theorem dX1_one_8 : decode cX1_one 8 = .ok (.getfield 25, 3) := by decide +kernel
theorem dX1_one_11 : decode cX1_one 11 = .ok (.iload_n 2, 1) := by decide +kernel
theorem dX1_one_12 : decode cX1_one 12 = .ok (.iaload, 1) := by decide +kernel
theorem dX1_one_13 : decode cX1_one 13 = .ok (.istore_n 3, 1) := by decide +kernel
theorem dX1_one_14 : decode cX1_one 14 = .ok (.iconst 0, 1) := by decide +kernel
theorem dX1_one_15 : decode cX1_one 15 = .ok (.istore 4, 2) := by decide +kernel
theorem dX1_one_17 : decode cX1_one 17 = .ok (.iconst 0, 1) := by decide +kernel
theorem dX1_one_18 : decode cX1_one 18 = .ok (.istore 5, 2) := by decide +kernel
theorem dX1_one_20 : decode cX1_one 20 = .ok (.aload_n 0, 1) := by decide +kernel
theorem dX1_one_21 : decode cX1_one 21 = .ok (.getfield 7, 3) := by decide +kernel
theorem dX1_one_24 : decode cX1_one 24 = .ok (.iload_n 1, 1) := by decide +kernel
theorem dX1_one_25 : decode cX1_one 25 = .ok (.iaload, 1) := by decide +kernel
theorem dX1_one_26 : decode cX1_one 26 = .ok (.iconst 5, 1) := by decide +kernel
theorem dX1_one_27 : decode cX1_one 27 = .ok (.if_icmp .ne 84, 3) := by decide +kernel
theorem dX1_one_30 : decode cX1_one 30 = .ok (.iload_n 3, 1) := by decide +kernel
theorem dX1_one_31 : decode cX1_one 31 = .ok (.bipush 39, 2) := by decide +kernel
theorem dX1_one_33 : decode cX1_one 33 = .ok (.if_icmp .ge 7, 3) := by decide +kernel
theorem dX1_one_36 : decode cX1_one 36 = .ok (.iload_n 3, 1) := by decide +kernel
theorem dX1_one_37 : decode cX1_one 37 = .ok (.goto 5, 3) := by decide +kernel
theorem dX1_one_40 : decode cX1_one 40 = .ok (.bipush 39, 2) := by decide +kernel
theorem dX1_one_42 : decode cX1_one 42 = .ok (.istore 6, 2) := by decide +kernel
theorem dX1_one_44 : decode cX1_one 44 = .ok (.iload 6, 2) := by decide +kernel
theorem dX1_one_46 : decode cX1_one 46 = .ok (.ifCond .le 35, 3) := by decide +kernel
theorem dX1_one_49 : decode cX1_one 49 = .ok (.aload_n 0, 1) := by decide +kernel
theorem dX1_one_50 : decode cX1_one 50 = .ok (.getfield 22, 3) := by decide +kernel
theorem dX1_one_53 : decode cX1_one 53 = .ok (.iload_n 1, 1) := by decide +kernel
theorem dX1_one_54 : decode cX1_one 54 = .ok (.bipush 40, 2) := by decide +kernel
theorem dX1_one_56 : decode cX1_one 56 = .ok (.imul, 1) := by decide +kernel
theorem dX1_one_57 : decode cX1_one 57 = .ok (.iload 6, 2) := by decide +kernel
theorem dX1_one_59 : decode cX1_one 59 = .ok (.iadd, 1) := by decide +kernel
theorem dX1_one_60 : decode cX1_one 60 = .ok (.aload_n 0, 1) := by decide +kernel
theorem dX1_one_61 : decode cX1_one 61 = .ok (.getfield 22, 3) := by decide +kernel
theorem dX1_one_64 : decode cX1_one 64 = .ok (.iload_n 2, 1) := by decide +kernel
theorem dX1_one_65 : decode cX1_one 65 = .ok (.bipush 40, 2) := by decide +kernel
theorem dX1_one_67 : decode cX1_one 67 = .ok (.imul, 1) := by decide +kernel
theorem dX1_one_68 : decode cX1_one 68 = .ok (.iload 6, 2) := by decide +kernel
theorem dX1_one_70 : decode cX1_one 70 = .ok (.iadd, 1) := by decide +kernel
theorem dX1_one_71 : decode cX1_one 71 = .ok (.iconst 1, 1) := by decide +kernel
theorem dX1_one_72 : decode cX1_one 72 = .ok (.isub, 1) := by decide +kernel
theorem dX1_one_73 : decode cX1_one 73 = .ok (.iaload, 1) := by decide +kernel
theorem dX1_one_74 : decode cX1_one 74 = .ok (.iastore, 1) := by decide +kernel
theorem dX1_one_75 : decode cX1_one 75 = .ok (.iinc 6 (-1), 3) := by decide +kernel
theorem dX1_one_78 : decode cX1_one 78 = .ok (.goto (-34), 3) := by decide +kernel
theorem dX1_one_81 : decode cX1_one 81 = .ok (.aload_n 0, 1) := by decide +kernel
theorem dX1_one_82 : decode cX1_one 82 = .ok (.getfield 22, 3) := by decide +kernel
theorem dX1_one_85 : decode cX1_one 85 = .ok (.iload_n 1, 1) := by decide +kernel
theorem dX1_one_86 : decode cX1_one 86 = .ok (.bipush 40, 2) := by decide +kernel
theorem dX1_one_88 : decode cX1_one 88 = .ok (.imul, 1) := by decide +kernel
theorem dX1_one_89 : decode cX1_one 89 = .ok (.aload_n 0, 1) := by decide +kernel
theorem dX1_one_90 : decode cX1_one 90 = .ok (.getfield 19, 3) := by decide +kernel
theorem dX1_one_93 : decode cX1_one 93 = .ok (.iload_n 1, 1) := by decide +kernel
theorem dX1_one_94 : decode cX1_one 94 = .ok (.iaload, 1) := by decide +kernel
theorem dX1_one_95 : decode cX1_one 95 = .ok (.iastore, 1) := by decide +kernel
theorem dX1_one_96 : decode cX1_one 96 = .ok (.iload_n 3, 1) := by decide +kernel
theorem dX1_one_97 : decode cX1_one 97 = .ok (.bipush 39, 2) := by decide +kernel
theorem dX1_one_99 : decode cX1_one 99 = .ok (.if_icmp .ge 9, 3) := by decide +kernel
theorem dX1_one_102 : decode cX1_one 102 = .ok (.iload_n 3, 1) := by decide +kernel
theorem dX1_one_103 : decode cX1_one 103 = .ok (.iconst 1, 1) := by decide +kernel
theorem dX1_one_104 : decode cX1_one 104 = .ok (.iadd, 1) := by decide +kernel
theorem dX1_one_105 : decode cX1_one 105 = .ok (.goto 5, 3) := by decide +kernel
theorem dX1_one_108 : decode cX1_one 108 = .ok (.bipush 40, 2) := by decide +kernel
theorem dX1_one_110 : decode cX1_one 110 = .ok (.ireturn, 1) := by decide +kernel
theorem dX1_one_111 : decode cX1_one 111 = .ok (.iconst 0, 1) := by decide +kernel
theorem dX1_one_112 : decode cX1_one 112 = .ok (.istore 6, 2) := by decide +kernel
theorem dX1_one_114 : decode cX1_one 114 = .ok (.iload 6, 2) := by decide +kernel
theorem dX1_one_116 : decode cX1_one 116 = .ok (.iload_n 3, 1) := by decide +kernel
theorem dX1_one_117 : decode cX1_one 117 = .ok (.if_icmp .ge 74, 3) := by decide +kernel
theorem dX1_one_120 : decode cX1_one 120 = .ok (.aload_n 0, 1) := by decide +kernel
theorem dX1_one_121 : decode cX1_one 121 = .ok (.getfield 22, 3) := by decide +kernel
theorem dX1_one_124 : decode cX1_one 124 = .ok (.iload_n 2, 1) := by decide +kernel
theorem dX1_one_125 : decode cX1_one 125 = .ok (.bipush 40, 2) := by decide +kernel
theorem dX1_one_127 : decode cX1_one 127 = .ok (.imul, 1) := by decide +kernel
theorem dX1_one_128 : decode cX1_one 128 = .ok (.iload 6, 2) := by decide +kernel
theorem dX1_one_130 : decode cX1_one 130 = .ok (.iadd, 1) := by decide +kernel
theorem dX1_one_131 : decode cX1_one 131 = .ok (.iaload, 1) := by decide +kernel
theorem dX1_one_132 : decode cX1_one 132 = .ok (.istore 7, 2) := by decide +kernel
theorem dX1_one_134 : decode cX1_one 134 = .ok (.iload 5, 2) := by decide +kernel
theorem dX1_one_136 : decode cX1_one 136 = .ok (.iload 7, 2) := by decide +kernel
theorem dX1_one_138 : decode cX1_one 138 = .ok (.iadd, 1) := by decide +kernel
theorem dX1_one_139 : decode cX1_one 139 = .ok (.istore 5, 2) := by decide +kernel
theorem dX1_one_141 : decode cX1_one 141 = .ok (.aload_n 0, 1) := by decide +kernel
theorem dX1_one_142 : decode cX1_one 142 = .ok (.getfield 7, 3) := by decide +kernel
theorem dX1_one_145 : decode cX1_one 145 = .ok (.iload_n 1, 1) := by decide +kernel
theorem dX1_one_146 : decode cX1_one 146 = .ok (.iaload, 1) := by decide +kernel
theorem dX1_one_147 : decode cX1_one 147 = .ok (.bipush 7, 2) := by decide +kernel
theorem dX1_one_149 : decode cX1_one 149 = .ok (.if_icmp .ne 17, 3) := by decide +kernel
theorem dX1_one_152 : decode cX1_one 152 = .ok (.aload_n 0, 1) := by decide +kernel
theorem dX1_one_153 : decode cX1_one 153 = .ok (.iload_n 1, 1) := by decide +kernel
theorem dX1_one_154 : decode cX1_one 154 = .ok (.iload 4, 2) := by decide +kernel
theorem dX1_one_156 : decode cX1_one 156 = .ok (.iload 5, 2) := by decide +kernel
theorem dX1_one_158 : decode cX1_one 158 = .ok (.invokevirtual 36, 3) := by decide +kernel
theorem dX1_one_161 : decode cX1_one 161 = .ok (.istore 4, 2) := by decide +kernel
theorem dX1_one_163 : decode cX1_one 163 = .ok (.goto 22, 3) := by decide +kernel
theorem dX1_one_166 : decode cX1_one 166 = .ok (.iload 7, 2) := by decide +kernel
theorem dX1_one_168 : decode cX1_one 168 = .ok (.iconst 1, 1) := by decide +kernel
theorem dX1_one_169 : decode cX1_one 169 = .ok (.iand, 1) := by decide +kernel
theorem dX1_one_170 : decode cX1_one 170 = .ok (.iconst 1, 1) := by decide +kernel
theorem dX1_one_171 : decode cX1_one 171 = .ok (.if_icmp .ne 14, 3) := by decide +kernel
theorem dX1_one_174 : decode cX1_one 174 = .ok (.aload_n 0, 1) := by decide +kernel
theorem dX1_one_175 : decode cX1_one 175 = .ok (.iload_n 1, 1) := by decide +kernel
theorem dX1_one_176 : decode cX1_one 176 = .ok (.iload 4, 2) := by decide +kernel
theorem dX1_one_178 : decode cX1_one 178 = .ok (.iload 7, 2) := by decide +kernel
theorem dX1_one_180 : decode cX1_one 180 = .ok (.invokevirtual 36, 3) := by decide +kernel
theorem dX1_one_183 : decode cX1_one 183 = .ok (.istore 4, 2) := by decide +kernel
theorem dX1_one_185 : decode cX1_one 185 = .ok (.iinc 6 1, 3) := by decide +kernel
theorem dX1_one_188 : decode cX1_one 188 = .ok (.goto (-74), 3) := by decide +kernel
theorem dX1_one_191 : decode cX1_one 191 = .ok (.iload 4, 2) := by decide +kernel
theorem dX1_one_193 : decode cX1_one 193 = .ok (.ireturn, 1) := by decide +kernel
end
section
set_option maxRecDepth 100000
abbrev cX1_item : ByteArray := prog_3_method_15_code
def yX1_item : MethodName := ⟨RX1, "item", "(II)I"⟩
theorem dX1_item_0 : decode cX1_item 0 = .ok (.aload_n 0, 1) := by decide +kernel
theorem dX1_item_1 : decode cX1_item 1 = .ok (.iload_n 1, 1) := by decide +kernel
theorem dX1_item_2 : decode cX1_item 2 = .ok (.invokevirtual 28, 3) := by decide +kernel
theorem dX1_item_5 : decode cX1_item 5 = .ok (.ifCond .eq 5, 3) := by decide +kernel
theorem dX1_item_8 : decode cX1_item 8 = .ok (.iconst (-1), 1) := by decide +kernel
theorem dX1_item_9 : decode cX1_item 9 = .ok (.ireturn, 1) := by decide +kernel
theorem dX1_item_10 : decode cX1_item 10 = .ok (.aload_n 0, 1) := by decide +kernel
theorem dX1_item_11 : decode cX1_item 11 = .ok (.invokevirtual 59, 3) := by decide +kernel
theorem dX1_item_14 : decode cX1_item 14 = .ok (.iload_n 2, 1) := by decide +kernel
theorem dX1_item_15 : decode cX1_item 15 = .ok (.ifCond .lt 13, 3) := by decide +kernel
theorem dX1_item_18 : decode cX1_item 18 = .ok (.iload_n 2, 1) := by decide +kernel
theorem dX1_item_19 : decode cX1_item 19 = .ok (.aload_n 0, 1) := by decide +kernel
theorem dX1_item_20 : decode cX1_item 20 = .ok (.getfield 25, 3) := by decide +kernel
theorem dX1_item_23 : decode cX1_item 23 = .ok (.iload_n 1, 1) := by decide +kernel
theorem dX1_item_24 : decode cX1_item 24 = .ok (.iaload, 1) := by decide +kernel
theorem dX1_item_25 : decode cX1_item 25 = .ok (.if_icmp .lt 8, 3) := by decide +kernel
theorem dX1_item_28 : decode cX1_item 28 = .ok (.bipush (-3), 2) := by decide +kernel
theorem dX1_item_30 : decode cX1_item 30 = .ok (.goto 14, 3) := by decide +kernel
theorem dX1_item_33 : decode cX1_item 33 = .ok (.aload_n 0, 1) := by decide +kernel
theorem dX1_item_34 : decode cX1_item 34 = .ok (.getfield 22, 3) := by decide +kernel
theorem dX1_item_37 : decode cX1_item 37 = .ok (.iload_n 1, 1) := by decide +kernel
theorem dX1_item_38 : decode cX1_item 38 = .ok (.bipush 40, 2) := by decide +kernel
theorem dX1_item_40 : decode cX1_item 40 = .ok (.imul, 1) := by decide +kernel
theorem dX1_item_41 : decode cX1_item 41 = .ok (.iload_n 2, 1) := by decide +kernel
theorem dX1_item_42 : decode cX1_item 42 = .ok (.iadd, 1) := by decide +kernel
theorem dX1_item_43 : decode cX1_item 43 = .ok (.iaload, 1) := by decide +kernel
theorem dX1_item_44 : decode cX1_item 44 = .ok (.ireturn, 1) := by decide +kernel
abbrev cX1_sum : ByteArray := prog_3_method_16_code
def yX1_sum : MethodName := ⟨RX1, "sum", "(I)I"⟩
theorem dX1_sum_0 : decode cX1_sum 0 = .ok (.aload_n 0, 1) := by decide +kernel
theorem dX1_sum_1 : decode cX1_sum 1 = .ok (.iload_n 1, 1) := by decide +kernel
theorem dX1_sum_2 : decode cX1_sum 2 = .ok (.invokevirtual 28, 3) := by decide +kernel
theorem dX1_sum_5 : decode cX1_sum 5 = .ok (.ifCond .eq 5, 3) := by decide +kernel
theorem dX1_sum_8 : decode cX1_sum 8 = .ok (.iconst (-1), 1) := by decide +kernel
theorem dX1_sum_9 : decode cX1_sum 9 = .ok (.ireturn, 1) := by decide +kernel
theorem dX1_sum_10 : decode cX1_sum 10 = .ok (.aload_n 0, 1) := by decide +kernel
theorem dX1_sum_11 : decode cX1_sum 11 = .ok (.invokevirtual 59, 3) := by decide +kernel
theorem dX1_sum_14 : decode cX1_sum 14 = .ok (.iconst 0, 1) := by decide +kernel
theorem dX1_sum_15 : decode cX1_sum 15 = .ok (.istore_n 2, 1) := by decide +kernel
theorem dX1_sum_16 : decode cX1_sum 16 = .ok (.iconst 0, 1) := by decide +kernel
theorem dX1_sum_17 : decode cX1_sum 17 = .ok (.istore_n 3, 1) := by decide +kernel
theorem dX1_sum_18 : decode cX1_sum 18 = .ok (.iload_n 3, 1) := by decide +kernel
theorem dX1_sum_19 : decode cX1_sum 19 = .ok (.aload_n 0, 1) := by decide +kernel
theorem dX1_sum_20 : decode cX1_sum 20 = .ok (.getfield 25, 3) := by decide +kernel
theorem dX1_sum_23 : decode cX1_sum 23 = .ok (.iload_n 1, 1) := by decide +kernel
theorem dX1_sum_24 : decode cX1_sum 24 = .ok (.iaload, 1) := by decide +kernel
theorem dX1_sum_25 : decode cX1_sum 25 = .ok (.if_icmp .ge 23, 3) := by decide +kernel
theorem dX1_sum_28 : decode cX1_sum 28 = .ok (.iload_n 2, 1) := by decide +kernel
theorem dX1_sum_29 : decode cX1_sum 29 = .ok (.aload_n 0, 1) := by decide +kernel
theorem dX1_sum_30 : decode cX1_sum 30 = .ok (.getfield 22, 3) := by decide +kernel
theorem dX1_sum_33 : decode cX1_sum 33 = .ok (.iload_n 1, 1) := by decide +kernel
theorem dX1_sum_34 : decode cX1_sum 34 = .ok (.bipush 40, 2) := by decide +kernel
theorem dX1_sum_36 : decode cX1_sum 36 = .ok (.imul, 1) := by decide +kernel
theorem dX1_sum_37 : decode cX1_sum 37 = .ok (.iload_n 3, 1) := by decide +kernel
theorem dX1_sum_38 : decode cX1_sum 38 = .ok (.iadd, 1) := by decide +kernel
theorem dX1_sum_39 : decode cX1_sum 39 = .ok (.iaload, 1) := by decide +kernel
theorem dX1_sum_40 : decode cX1_sum 40 = .ok (.iadd, 1) := by decide +kernel
theorem dX1_sum_41 : decode cX1_sum 41 = .ok (.istore_n 2, 1) := by decide +kernel
theorem dX1_sum_42 : decode cX1_sum 42 = .ok (.iinc 3 1, 3) := by decide +kernel
theorem dX1_sum_45 : decode cX1_sum 45 = .ok (.goto (-27), 3) := by decide +kernel
theorem dX1_sum_48 : decode cX1_sum 48 = .ok (.iload_n 2, 1) := by decide +kernel
theorem dX1_sum_49 : decode cX1_sum 49 = .ok (.ireturn, 1) := by decide +kernel
abbrev cX1_find : ByteArray := prog_3_method_17_code
def yX1_find : MethodName := ⟨RX1, "find", "(II)I"⟩
theorem dX1_find_0 : decode cX1_find 0 = .ok (.aload_n 0, 1) := by decide +kernel
theorem dX1_find_1 : decode cX1_find 1 = .ok (.iload_n 1, 1) := by decide +kernel
theorem dX1_find_2 : decode cX1_find 2 = .ok (.invokevirtual 28, 3) := by decide +kernel
theorem dX1_find_5 : decode cX1_find 5 = .ok (.ifCond .eq 5, 3) := by decide +kernel
theorem dX1_find_8 : decode cX1_find 8 = .ok (.iconst (-1), 1) := by decide +kernel
theorem dX1_find_9 : decode cX1_find 9 = .ok (.ireturn, 1) := by decide +kernel
theorem dX1_find_10 : decode cX1_find 10 = .ok (.aload_n 0, 1) := by decide +kernel
theorem dX1_find_11 : decode cX1_find 11 = .ok (.invokevirtual 59, 3) := by decide +kernel
theorem dX1_find_14 : decode cX1_find 14 = .ok (.iconst 0, 1) := by decide +kernel
theorem dX1_find_15 : decode cX1_find 15 = .ok (.istore_n 3, 1) := by decide +kernel
theorem dX1_find_16 : decode cX1_find 16 = .ok (.iload_n 3, 1) := by decide +kernel
theorem dX1_find_17 : decode cX1_find 17 = .ok (.aload_n 0, 1) := by decide +kernel
theorem dX1_find_18 : decode cX1_find 18 = .ok (.getfield 25, 3) := by decide +kernel
theorem dX1_find_21 : decode cX1_find 21 = .ok (.iload_n 1, 1) := by decide +kernel
theorem dX1_find_22 : decode cX1_find 22 = .ok (.iaload, 1) := by decide +kernel
theorem dX1_find_23 : decode cX1_find 23 = .ok (.if_icmp .ge 26, 3) := by decide +kernel
theorem dX1_find_26 : decode cX1_find 26 = .ok (.aload_n 0, 1) := by decide +kernel
theorem dX1_find_27 : decode cX1_find 27 = .ok (.getfield 22, 3) := by decide +kernel
theorem dX1_find_30 : decode cX1_find 30 = .ok (.iload_n 1, 1) := by decide +kernel
theorem dX1_find_31 : decode cX1_find 31 = .ok (.bipush 40, 2) := by decide +kernel
theorem dX1_find_33 : decode cX1_find 33 = .ok (.imul, 1) := by decide +kernel
theorem dX1_find_34 : decode cX1_find 34 = .ok (.iload_n 3, 1) := by decide +kernel
theorem dX1_find_35 : decode cX1_find 35 = .ok (.iadd, 1) := by decide +kernel
theorem dX1_find_36 : decode cX1_find 36 = .ok (.iaload, 1) := by decide +kernel
theorem dX1_find_37 : decode cX1_find 37 = .ok (.iload_n 2, 1) := by decide +kernel
theorem dX1_find_38 : decode cX1_find 38 = .ok (.if_icmp .ne 5, 3) := by decide +kernel
theorem dX1_find_41 : decode cX1_find 41 = .ok (.iload_n 3, 1) := by decide +kernel
theorem dX1_find_42 : decode cX1_find 42 = .ok (.ireturn, 1) := by decide +kernel
theorem dX1_find_43 : decode cX1_find 43 = .ok (.iinc 3 1, 3) := by decide +kernel
theorem dX1_find_46 : decode cX1_find 46 = .ok (.goto (-30), 3) := by decide +kernel
theorem dX1_find_49 : decode cX1_find 49 = .ok (.bipush (-3), 2) := by decide +kernel
theorem dX1_find_51 : decode cX1_find 51 = .ok (.ireturn, 1) := by decide +kernel
abbrev cX1_same : ByteArray := prog_3_method_18_code
def yX1_same : MethodName := ⟨RX1, "same", "(II)Z"⟩
theorem dX1_same_0 : decode cX1_same 0 = .ok (.aload_n 0, 1) := by decide +kernel
theorem dX1_same_1 : decode cX1_same 1 = .ok (.iload_n 1, 1) := by decide +kernel
theorem dX1_same_2 : decode cX1_same 2 = .ok (.invokevirtual 28, 3) := by decide +kernel
theorem dX1_same_5 : decode cX1_same 5 = .ok (.ifCond .ne 11, 3) := by decide +kernel
theorem dX1_same_8 : decode cX1_same 8 = .ok (.aload_n 0, 1) := by decide +kernel
theorem dX1_same_9 : decode cX1_same 9 = .ok (.iload_n 2, 1) := by decide +kernel
theorem dX1_same_10 : decode cX1_same 10 = .ok (.invokevirtual 28, 3) := by decide +kernel
theorem dX1_same_13 : decode cX1_same 13 = .ok (.ifCond .eq 5, 3) := by decide +kernel
theorem dX1_same_16 : decode cX1_same 16 = .ok (.iconst 0, 1) := by decide +kernel
theorem dX1_same_17 : decode cX1_same 17 = .ok (.ireturn, 1) := by decide +kernel
theorem dX1_same_18 : decode cX1_same 18 = .ok (.aload_n 0, 1) := by decide +kernel
theorem dX1_same_19 : decode cX1_same 19 = .ok (.invokevirtual 59, 3) := by decide +kernel
theorem dX1_same_22 : decode cX1_same 22 = .ok (.aload_n 0, 1) := by decide +kernel
theorem dX1_same_23 : decode cX1_same 23 = .ok (.getfield 25, 3) := by decide +kernel
theorem dX1_same_26 : decode cX1_same 26 = .ok (.iload_n 1, 1) := by decide +kernel
theorem dX1_same_27 : decode cX1_same 27 = .ok (.iaload, 1) := by decide +kernel
theorem dX1_same_28 : decode cX1_same 28 = .ok (.aload_n 0, 1) := by decide +kernel
theorem dX1_same_29 : decode cX1_same 29 = .ok (.getfield 25, 3) := by decide +kernel
theorem dX1_same_32 : decode cX1_same 32 = .ok (.iload_n 2, 1) := by decide +kernel
theorem dX1_same_33 : decode cX1_same 33 = .ok (.iaload, 1) := by decide +kernel
theorem dX1_same_34 : decode cX1_same 34 = .ok (.if_icmp .eq 5, 3) := by decide +kernel
theorem dX1_same_37 : decode cX1_same 37 = .ok (.iconst 0, 1) := by decide +kernel
theorem dX1_same_38 : decode cX1_same 38 = .ok (.ireturn, 1) := by decide +kernel
theorem dX1_same_39 : decode cX1_same 39 = .ok (.iconst 0, 1) := by decide +kernel
theorem dX1_same_40 : decode cX1_same 40 = .ok (.istore_n 3, 1) := by decide +kernel
theorem dX1_same_41 : decode cX1_same 41 = .ok (.iload_n 3, 1) := by decide +kernel
theorem dX1_same_42 : decode cX1_same 42 = .ok (.aload_n 0, 1) := by decide +kernel
theorem dX1_same_43 : decode cX1_same 43 = .ok (.getfield 25, 3) := by decide +kernel
theorem dX1_same_46 : decode cX1_same 46 = .ok (.iload_n 1, 1) := by decide +kernel
theorem dX1_same_47 : decode cX1_same 47 = .ok (.iaload, 1) := by decide +kernel
theorem dX1_same_48 : decode cX1_same 48 = .ok (.if_icmp .ge 36, 3) := by decide +kernel
theorem dX1_same_51 : decode cX1_same 51 = .ok (.aload_n 0, 1) := by decide +kernel
theorem dX1_same_52 : decode cX1_same 52 = .ok (.getfield 22, 3) := by decide +kernel
theorem dX1_same_55 : decode cX1_same 55 = .ok (.iload_n 1, 1) := by decide +kernel
theorem dX1_same_56 : decode cX1_same 56 = .ok (.bipush 40, 2) := by decide +kernel
theorem dX1_same_58 : decode cX1_same 58 = .ok (.imul, 1) := by decide +kernel
theorem dX1_same_59 : decode cX1_same 59 = .ok (.iload_n 3, 1) := by decide +kernel
theorem dX1_same_60 : decode cX1_same 60 = .ok (.iadd, 1) := by decide +kernel
theorem dX1_same_61 : decode cX1_same 61 = .ok (.iaload, 1) := by decide +kernel
theorem dX1_same_62 : decode cX1_same 62 = .ok (.aload_n 0, 1) := by decide +kernel
theorem dX1_same_63 : decode cX1_same 63 = .ok (.getfield 22, 3) := by decide +kernel
theorem dX1_same_66 : decode cX1_same 66 = .ok (.iload_n 2, 1) := by decide +kernel
theorem dX1_same_67 : decode cX1_same 67 = .ok (.bipush 40, 2) := by decide +kernel
theorem dX1_same_69 : decode cX1_same 69 = .ok (.imul, 1) := by decide +kernel
theorem dX1_same_70 : decode cX1_same 70 = .ok (.iload_n 3, 1) := by decide +kernel
theorem dX1_same_71 : decode cX1_same 71 = .ok (.iadd, 1) := by decide +kernel
theorem dX1_same_72 : decode cX1_same 72 = .ok (.iaload, 1) := by decide +kernel
theorem dX1_same_73 : decode cX1_same 73 = .ok (.if_icmp .eq 5, 3) := by decide +kernel
theorem dX1_same_76 : decode cX1_same 76 = .ok (.iconst 0, 1) := by decide +kernel
theorem dX1_same_77 : decode cX1_same 77 = .ok (.ireturn, 1) := by decide +kernel
theorem dX1_same_78 : decode cX1_same 78 = .ok (.iinc 3 1, 3) := by decide +kernel
theorem dX1_same_81 : decode cX1_same 81 = .ok (.goto (-40), 3) := by decide +kernel
theorem dX1_same_84 : decode cX1_same 84 = .ok (.iconst 1, 1) := by decide +kernel
theorem dX1_same_85 : decode cX1_same 85 = .ok (.ireturn, 1) := by decide +kernel
abbrev cX1_full : ByteArray := prog_3_method_19_code
def yX1_full : MethodName := ⟨RX1, "full", "()I"⟩
theorem dX1_full_0 : decode cX1_full 0 = .ok (.aload_n 0, 1) := by decide +kernel
theorem dX1_full_1 : decode cX1_full 1 = .ok (.invokevirtual 59, 3) := by decide +kernel
theorem dX1_full_4 : decode cX1_full 4 = .ok (.iconst 0, 1) := by decide +kernel
theorem dX1_full_5 : decode cX1_full 5 = .ok (.istore_n 1, 1) := by decide +kernel
theorem dX1_full_6 : decode cX1_full 6 = .ok (.iconst 0, 1) := by decide +kernel
theorem dX1_full_7 : decode cX1_full 7 = .ok (.istore_n 2, 1) := by decide +kernel
theorem dX1_full_8 : decode cX1_full 8 = .ok (.iload_n 2, 1) := by decide +kernel
theorem dX1_full_9 : decode cX1_full 9 = .ok (.bipush 8, 2) := by decide +kernel
theorem dX1_full_11 : decode cX1_full 11 = .ok (.if_icmp .ge 23, 3) := by decide +kernel
theorem dX1_full_14 : decode cX1_full 14 = .ok (.aload_n 0, 1) := by decide +kernel
theorem dX1_full_15 : decode cX1_full 15 = .ok (.getfield 25, 3) := by decide +kernel
theorem dX1_full_18 : decode cX1_full 18 = .ok (.iload_n 2, 1) := by decide +kernel
theorem dX1_full_19 : decode cX1_full 19 = .ok (.iaload, 1) := by decide +kernel
theorem dX1_full_20 : decode cX1_full 20 = .ok (.bipush 40, 2) := by decide +kernel
theorem dX1_full_22 : decode cX1_full 22 = .ok (.if_icmp .ne 6, 3) := by decide +kernel
theorem dX1_full_25 : decode cX1_full 25 = .ok (.iinc 1 1, 3) := by decide +kernel
theorem dX1_full_28 : decode cX1_full 28 = .ok (.iinc 2 1, 3) := by decide +kernel
theorem dX1_full_31 : decode cX1_full 31 = .ok (.goto (-23), 3) := by decide +kernel
theorem dX1_full_34 : decode cX1_full 34 = .ok (.iload_n 1, 1) := by decide +kernel
theorem dX1_full_35 : decode cX1_full 35 = .ok (.ireturn, 1) := by decide +kernel
end
section
set_option maxRecDepth 100000
theorem q26 : (Jvm.Cond.initialized "ProcessNetworkModel") ∈ lw_all := lw_g (lw_at lw_m1 2 rfl) rfl
theorem q177 : (Jvm.Cond.instantiable "ProcessNetworkModel" (7 : Nat)) ∈ lw_all := lw_g (lw_at lw_m1 153 rfl) rfl
theorem q179 : (Jvm.Cond.instanceMethod ({ cls := "ProcessNetworkModel", name := "<init>", desc := "()V" } : Jvm.MethodName)) ∈ lw_all := lw_g (lw_at lw_m1 155 rfl) rfl
theorem q180 : (Jvm.Cond.code ({ cls := "ProcessNetworkModel", name := "<init>", desc := "()V" } : Jvm.MethodName) prog_3_method_1_code (2 : Nat) (Option.none : Option Jvm.ClassFile.FieldType)) ∈ lw_all := lw_g (lw_at lw_m1 156 rfl) rfl
theorem q181 : (Jvm.Cond.methodLink "ProcessNetworkModel" (1 : Nat) ({ cls := "java/lang/Object", name := "<init>", desc := "()V" } : Jvm.MethodName)) ∈ lw_all := lw_g (lw_at lw_m1 157 rfl) rfl
theorem q182 : (Jvm.Cond.fieldLink "ProcessNetworkModel" (7 : Nat) "ProcessNetworkModel" "kinds" "[I") ∈ lw_all := lw_g (lw_at lw_m1 158 rfl) rfl
theorem q183 : (Jvm.Cond.fieldLink "ProcessNetworkModel" (13 : Nat) "ProcessNetworkModel" "xs" "[I") ∈ lw_all := lw_g (lw_at lw_m1 159 rfl) rfl
theorem q184 : (Jvm.Cond.fieldLink "ProcessNetworkModel" (16 : Nat) "ProcessNetworkModel" "ys" "[I") ∈ lw_all := lw_g (lw_at lw_m1 160 rfl) rfl
theorem q185 : (Jvm.Cond.fieldLink "ProcessNetworkModel" (19 : Nat) "ProcessNetworkModel" "numbers" "[I") ∈ lw_all := lw_g (lw_at lw_m1 161 rfl) rfl
theorem q186 : (Jvm.Cond.fieldLink "ProcessNetworkModel" (32 : Nat) "ProcessNetworkModel" "known" "Z") ∈ lw_all := lw_g (lw_at lw_m1 162 rfl) rfl
theorem q187 : (Jvm.Cond.fieldLink "ProcessNetworkModel" (22 : Nat) "ProcessNetworkModel" "items" "[I") ∈ lw_all := lw_g (lw_at lw_m1 163 rfl) rfl
theorem q188 : (Jvm.Cond.fieldLink "ProcessNetworkModel" (25 : Nat) "ProcessNetworkModel" "lengths" "[I") ∈ lw_all := lw_g (lw_at lw_m1 164 rfl) rfl
theorem q189 : (Jvm.Cond.laysFinal "ProcessNetworkModel" "ProcessNetworkModel" "kinds" "[I") ∈ lw_all := lw_g (lw_at lw_m1 165 rfl) rfl
theorem q190 : (Jvm.Cond.soleField "ProcessNetworkModel" "kinds") ∈ lw_all := lw_g (lw_at lw_m1 166 rfl) rfl
theorem q191 : (Jvm.Cond.laysFinal "ProcessNetworkModel" "ProcessNetworkModel" "xs" "[I") ∈ lw_all := lw_g (lw_at lw_m1 167 rfl) rfl
theorem q192 : (Jvm.Cond.soleField "ProcessNetworkModel" "xs") ∈ lw_all := lw_g (lw_at lw_m1 168 rfl) rfl
theorem q193 : (Jvm.Cond.laysFinal "ProcessNetworkModel" "ProcessNetworkModel" "ys" "[I") ∈ lw_all := lw_g (lw_at lw_m1 169 rfl) rfl
theorem q194 : (Jvm.Cond.soleField "ProcessNetworkModel" "ys") ∈ lw_all := lw_g (lw_at lw_m1 170 rfl) rfl
theorem q195 : (Jvm.Cond.laysFinal "ProcessNetworkModel" "ProcessNetworkModel" "numbers" "[I") ∈ lw_all := lw_g (lw_at lw_m1 171 rfl) rfl
theorem q196 : (Jvm.Cond.soleField "ProcessNetworkModel" "numbers") ∈ lw_all := lw_g (lw_at lw_m1 172 rfl) rfl
theorem q197 : (Jvm.Cond.lays "ProcessNetworkModel" "ProcessNetworkModel" "known" "Z") ∈ lw_all := lw_g (lw_at lw_m1 173 rfl) rfl
theorem q198 : (Jvm.Cond.soleField "ProcessNetworkModel" "known") ∈ lw_all := lw_g (lw_at lw_m1 174 rfl) rfl
theorem q199 : (Jvm.Cond.laysFinal "ProcessNetworkModel" "ProcessNetworkModel" "items" "[I") ∈ lw_all := lw_g (lw_at lw_m1 175 rfl) rfl
theorem q200 : (Jvm.Cond.soleField "ProcessNetworkModel" "items") ∈ lw_all := lw_g (lw_at lw_m1 176 rfl) rfl
theorem q201 : (Jvm.Cond.laysFinal "ProcessNetworkModel" "ProcessNetworkModel" "lengths" "[I") ∈ lw_all := lw_g (lw_at lw_m1 177 rfl) rfl
theorem q202 : (Jvm.Cond.soleField "ProcessNetworkModel" "lengths") ∈ lw_all := lw_g (lw_at lw_m1 178 rfl) rfl
theorem q203 : (Jvm.Cond.superclass "ProcessNetworkModel" "java/lang/Object") ∈ lw_all := lw_g (lw_at lw_m1 179 rfl) rfl
theorem q205 : (Jvm.Cond.instanceMethod ({ cls := "ProcessNetworkModel", name := "set", desc := "(IIII)I" } : Jvm.MethodName)) ∈ lw_all := lw_g (lw_at lw_m1 181 rfl) rfl
theorem q206 : (Jvm.Cond.selects "ProcessNetworkModel" ({ cls := "ProcessNetworkModel", name := "set", desc := "(IIII)I" } : Jvm.MethodName) ({ cls := "ProcessNetworkModel", name := "set", desc := "(IIII)I" } : Jvm.MethodName)) ∈ lw_all := lw_g (lw_at lw_m1 182 rfl) rfl
theorem q207 : (Jvm.Cond.code ({ cls := "ProcessNetworkModel", name := "set", desc := "(IIII)I" } : Jvm.MethodName) prog_3_method_3_code (5 : Nat) (Option.some Jvm.ClassFile.FieldType.int)) ∈ lw_all := lw_g (lw_at lw_m1 183 rfl) rfl
theorem q208 : (Jvm.Cond.methodLink "ProcessNetworkModel" (28 : Nat) ({ cls := "ProcessNetworkModel", name := "bad", desc := "(I)Z" } : Jvm.MethodName)) ∈ lw_all := lw_g (lw_at lw_m1 184 rfl) rfl
theorem q209 : (Jvm.Cond.privateMethod ({ cls := "ProcessNetworkModel", name := "bad", desc := "(I)Z" } : Jvm.MethodName)) ∈ lw_tbl := lw_at lw_m1 185 rfl
theorem q210 : (Jvm.Cond.instanceMethod ({ cls := "ProcessNetworkModel", name := "bad", desc := "(I)Z" } : Jvm.MethodName)) ∈ lw_all := lw_g (lw_at lw_m1 186 rfl) rfl
theorem q211 : (Jvm.Cond.code ({ cls := "ProcessNetworkModel", name := "bad", desc := "(I)Z" } : Jvm.MethodName) prog_3_method_2_code (2 : Nat) (Option.some Jvm.ClassFile.FieldType.boolean)) ∈ lw_all := lw_g (lw_at lw_m1 187 rfl) rfl
theorem q213 : (Jvm.Cond.instanceMethod ({ cls := "ProcessNetworkModel", name := "fire", desc := "(II)I" } : Jvm.MethodName)) ∈ lw_all := lw_g (lw_at lw_m1 189 rfl) rfl
theorem q214 : (Jvm.Cond.selects "ProcessNetworkModel" ({ cls := "ProcessNetworkModel", name := "fire", desc := "(II)I" } : Jvm.MethodName) ({ cls := "ProcessNetworkModel", name := "fire", desc := "(II)I" } : Jvm.MethodName)) ∈ lw_all := lw_g (lw_at lw_m1 190 rfl) rfl
theorem q215 : (Jvm.Cond.code ({ cls := "ProcessNetworkModel", name := "fire", desc := "(II)I" } : Jvm.MethodName) prog_3_method_4_code (3 : Nat) (Option.some Jvm.ClassFile.FieldType.int)) ∈ lw_all := lw_g (lw_at lw_m1 191 rfl) rfl
theorem q217 : (Jvm.Cond.instanceMethod ({ cls := "ProcessNetworkModel", name := "exchange", desc := "(II)I" } : Jvm.MethodName)) ∈ lw_all := lw_g (lw_at lw_m1 193 rfl) rfl
theorem q218 : (Jvm.Cond.selects "ProcessNetworkModel" ({ cls := "ProcessNetworkModel", name := "exchange", desc := "(II)I" } : Jvm.MethodName) ({ cls := "ProcessNetworkModel", name := "exchange", desc := "(II)I" } : Jvm.MethodName)) ∈ lw_all := lw_g (lw_at lw_m1 194 rfl) rfl
theorem q219 : (Jvm.Cond.code ({ cls := "ProcessNetworkModel", name := "exchange", desc := "(II)I" } : Jvm.MethodName) prog_3_method_5_code (7 : Nat) (Option.some Jvm.ClassFile.FieldType.int)) ∈ lw_all := lw_g (lw_at lw_m1 195 rfl) rfl
theorem q221 : (Jvm.Cond.instanceMethod ({ cls := "ProcessNetworkModel", name := "length", desc := "(I)I" } : Jvm.MethodName)) ∈ lw_all := lw_g (lw_at lw_m1 197 rfl) rfl
theorem q222 : (Jvm.Cond.selects "ProcessNetworkModel" ({ cls := "ProcessNetworkModel", name := "length", desc := "(I)I" } : Jvm.MethodName) ({ cls := "ProcessNetworkModel", name := "length", desc := "(I)I" } : Jvm.MethodName)) ∈ lw_all := lw_g (lw_at lw_m1 198 rfl) rfl
theorem q223 : (Jvm.Cond.code ({ cls := "ProcessNetworkModel", name := "length", desc := "(I)I" } : Jvm.MethodName) prog_3_method_14_code (2 : Nat) (Option.some Jvm.ClassFile.FieldType.int)) ∈ lw_all := lw_g (lw_at lw_m1 199 rfl) rfl
theorem q224 : (Jvm.Cond.methodLink "ProcessNetworkModel" (59 : Nat) ({ cls := "ProcessNetworkModel", name := "workOut", desc := "()V" } : Jvm.MethodName)) ∈ lw_all := lw_g (lw_at lw_m1 200 rfl) rfl
theorem q225 : (Jvm.Cond.privateMethod ({ cls := "ProcessNetworkModel", name := "workOut", desc := "()V" } : Jvm.MethodName)) ∈ lw_tbl := lw_at lw_m1 201 rfl
theorem q226 : (Jvm.Cond.instanceMethod ({ cls := "ProcessNetworkModel", name := "workOut", desc := "()V" } : Jvm.MethodName)) ∈ lw_all := lw_g (lw_at lw_m1 202 rfl) rfl
theorem q227 : (Jvm.Cond.code ({ cls := "ProcessNetworkModel", name := "workOut", desc := "()V" } : Jvm.MethodName) prog_3_method_13_code (5 : Nat) (Option.none : Option Jvm.ClassFile.FieldType)) ∈ lw_all := lw_g (lw_at lw_m1 203 rfl) rfl
theorem q228 : (Jvm.Cond.methodLink "ProcessNetworkModel" (56 : Nat) ({ cls := "ProcessNetworkModel", name := "stream", desc := "(I)I" } : Jvm.MethodName)) ∈ lw_all := lw_g (lw_at lw_m1 204 rfl) rfl
theorem q229 : (Jvm.Cond.privateMethod ({ cls := "ProcessNetworkModel", name := "stream", desc := "(I)I" } : Jvm.MethodName)) ∈ lw_tbl := lw_at lw_m1 205 rfl
theorem q230 : (Jvm.Cond.instanceMethod ({ cls := "ProcessNetworkModel", name := "stream", desc := "(I)I" } : Jvm.MethodName)) ∈ lw_all := lw_g (lw_at lw_m1 206 rfl) rfl
theorem q231 : (Jvm.Cond.code ({ cls := "ProcessNetworkModel", name := "stream", desc := "(I)I" } : Jvm.MethodName) prog_3_method_12_code (2 : Nat) (Option.some Jvm.ClassFile.FieldType.int)) ∈ lw_all := lw_g (lw_at lw_m1 207 rfl) rfl
theorem q232 : (Jvm.Cond.methodLink "ProcessNetworkModel" (40 : Nat) ({ cls := "ProcessNetworkModel", name := "start", desc := "(I)I" } : Jvm.MethodName)) ∈ lw_all := lw_g (lw_at lw_m1 208 rfl) rfl
theorem q233 : (Jvm.Cond.privateMethod ({ cls := "ProcessNetworkModel", name := "start", desc := "(I)I" } : Jvm.MethodName)) ∈ lw_tbl := lw_at lw_m1 209 rfl
theorem q234 : (Jvm.Cond.instanceMethod ({ cls := "ProcessNetworkModel", name := "start", desc := "(I)I" } : Jvm.MethodName)) ∈ lw_all := lw_g (lw_at lw_m1 210 rfl) rfl
theorem q235 : (Jvm.Cond.code ({ cls := "ProcessNetworkModel", name := "start", desc := "(I)I" } : Jvm.MethodName) prog_3_method_7_code (4 : Nat) (Option.some Jvm.ClassFile.FieldType.int)) ∈ lw_all := lw_g (lw_at lw_m1 211 rfl) rfl
theorem q236 : (Jvm.Cond.methodLink "ProcessNetworkModel" (36 : Nat) ({ cls := "ProcessNetworkModel", name := "put", desc := "(III)I" } : Jvm.MethodName)) ∈ lw_all := lw_g (lw_at lw_m1 212 rfl) rfl
theorem q237 : (Jvm.Cond.privateMethod ({ cls := "ProcessNetworkModel", name := "put", desc := "(III)I" } : Jvm.MethodName)) ∈ lw_tbl := lw_at lw_m1 213 rfl
theorem q238 : (Jvm.Cond.instanceMethod ({ cls := "ProcessNetworkModel", name := "put", desc := "(III)I" } : Jvm.MethodName)) ∈ lw_all := lw_g (lw_at lw_m1 214 rfl) rfl
theorem q239 : (Jvm.Cond.code ({ cls := "ProcessNetworkModel", name := "put", desc := "(III)I" } : Jvm.MethodName) prog_3_method_6_code (4 : Nat) (Option.some Jvm.ClassFile.FieldType.int)) ∈ lw_all := lw_g (lw_at lw_m1 215 rfl) rfl
theorem q240 : (Jvm.Cond.methodLink "ProcessNetworkModel" (44 : Nat) ({ cls := "ProcessNetworkModel", name := "add", desc := "(I)I" } : Jvm.MethodName)) ∈ lw_all := lw_g (lw_at lw_m1 216 rfl) rfl
theorem q241 : (Jvm.Cond.privateMethod ({ cls := "ProcessNetworkModel", name := "add", desc := "(I)I" } : Jvm.MethodName)) ∈ lw_tbl := lw_at lw_m1 217 rfl
theorem q242 : (Jvm.Cond.instanceMethod ({ cls := "ProcessNetworkModel", name := "add", desc := "(I)I" } : Jvm.MethodName)) ∈ lw_all := lw_g (lw_at lw_m1 218 rfl) rfl
theorem q243 : (Jvm.Cond.code ({ cls := "ProcessNetworkModel", name := "add", desc := "(I)I" } : Jvm.MethodName) prog_3_method_8_code (4 : Nat) (Option.some Jvm.ClassFile.FieldType.int)) ∈ lw_all := lw_g (lw_at lw_m1 219 rfl) rfl
theorem q244 : (Jvm.Cond.methodLink "ProcessNetworkModel" (47 : Nat) ({ cls := "ProcessNetworkModel", name := "turn", desc := "(I)I" } : Jvm.MethodName)) ∈ lw_all := lw_g (lw_at lw_m1 220 rfl) rfl
theorem q245 : (Jvm.Cond.privateMethod ({ cls := "ProcessNetworkModel", name := "turn", desc := "(I)I" } : Jvm.MethodName)) ∈ lw_tbl := lw_at lw_m1 221 rfl
theorem q246 : (Jvm.Cond.instanceMethod ({ cls := "ProcessNetworkModel", name := "turn", desc := "(I)I" } : Jvm.MethodName)) ∈ lw_all := lw_g (lw_at lw_m1 222 rfl) rfl
theorem q247 : (Jvm.Cond.code ({ cls := "ProcessNetworkModel", name := "turn", desc := "(I)I" } : Jvm.MethodName) prog_3_method_9_code (5 : Nat) (Option.some Jvm.ClassFile.FieldType.int)) ∈ lw_all := lw_g (lw_at lw_m1 223 rfl) rfl
theorem q248 : (Jvm.Cond.methodLink "ProcessNetworkModel" (50 : Nat) ({ cls := "ProcessNetworkModel", name := "merge", desc := "(I)I" } : Jvm.MethodName)) ∈ lw_all := lw_g (lw_at lw_m1 224 rfl) rfl
theorem q249 : (Jvm.Cond.privateMethod ({ cls := "ProcessNetworkModel", name := "merge", desc := "(I)I" } : Jvm.MethodName)) ∈ lw_tbl := lw_at lw_m1 225 rfl
theorem q250 : (Jvm.Cond.instanceMethod ({ cls := "ProcessNetworkModel", name := "merge", desc := "(I)I" } : Jvm.MethodName)) ∈ lw_all := lw_g (lw_at lw_m1 226 rfl) rfl
theorem q251 : (Jvm.Cond.code ({ cls := "ProcessNetworkModel", name := "merge", desc := "(I)I" } : Jvm.MethodName) prog_3_method_11_code (8 : Nat) (Option.some Jvm.ClassFile.FieldType.int)) ∈ lw_all := lw_g (lw_at lw_m1 227 rfl) rfl
theorem q252 : (Jvm.Cond.methodLink "ProcessNetworkModel" (53 : Nat) ({ cls := "ProcessNetworkModel", name := "one", desc := "(I)I" } : Jvm.MethodName)) ∈ lw_all := lw_g (lw_at lw_m1 228 rfl) rfl
theorem q253 : (Jvm.Cond.privateMethod ({ cls := "ProcessNetworkModel", name := "one", desc := "(I)I" } : Jvm.MethodName)) ∈ lw_tbl := lw_at lw_m1 229 rfl
theorem q254 : (Jvm.Cond.instanceMethod ({ cls := "ProcessNetworkModel", name := "one", desc := "(I)I" } : Jvm.MethodName)) ∈ lw_all := lw_g (lw_at lw_m1 230 rfl) rfl
theorem q255 : (Jvm.Cond.code ({ cls := "ProcessNetworkModel", name := "one", desc := "(I)I" } : Jvm.MethodName) prog_3_method_10_code (8 : Nat) (Option.some Jvm.ClassFile.FieldType.int)) ∈ lw_all := lw_g (lw_at lw_m1 231 rfl) rfl
theorem q257 : (Jvm.Cond.instanceMethod ({ cls := "ProcessNetworkModel", name := "item", desc := "(II)I" } : Jvm.MethodName)) ∈ lw_all := lw_g (lw_at lw_m1 233 rfl) rfl
theorem q258 : (Jvm.Cond.selects "ProcessNetworkModel" ({ cls := "ProcessNetworkModel", name := "item", desc := "(II)I" } : Jvm.MethodName) ({ cls := "ProcessNetworkModel", name := "item", desc := "(II)I" } : Jvm.MethodName)) ∈ lw_all := lw_g (lw_at lw_m1 234 rfl) rfl
theorem q259 : (Jvm.Cond.code ({ cls := "ProcessNetworkModel", name := "item", desc := "(II)I" } : Jvm.MethodName) prog_3_method_15_code (3 : Nat) (Option.some Jvm.ClassFile.FieldType.int)) ∈ lw_all := lw_g (lw_at lw_m1 235 rfl) rfl
theorem q261 : (Jvm.Cond.instanceMethod ({ cls := "ProcessNetworkModel", name := "sum", desc := "(I)I" } : Jvm.MethodName)) ∈ lw_all := lw_g (lw_at lw_m1 237 rfl) rfl
theorem q262 : (Jvm.Cond.selects "ProcessNetworkModel" ({ cls := "ProcessNetworkModel", name := "sum", desc := "(I)I" } : Jvm.MethodName) ({ cls := "ProcessNetworkModel", name := "sum", desc := "(I)I" } : Jvm.MethodName)) ∈ lw_all := lw_g (lw_at lw_m1 238 rfl) rfl
theorem q263 : (Jvm.Cond.code ({ cls := "ProcessNetworkModel", name := "sum", desc := "(I)I" } : Jvm.MethodName) prog_3_method_16_code (4 : Nat) (Option.some Jvm.ClassFile.FieldType.int)) ∈ lw_all := lw_g (lw_at lw_m1 239 rfl) rfl
theorem q265 : (Jvm.Cond.instanceMethod ({ cls := "ProcessNetworkModel", name := "find", desc := "(II)I" } : Jvm.MethodName)) ∈ lw_all := lw_g (lw_at lw_m2 1 rfl) rfl
theorem q266 : (Jvm.Cond.selects "ProcessNetworkModel" ({ cls := "ProcessNetworkModel", name := "find", desc := "(II)I" } : Jvm.MethodName) ({ cls := "ProcessNetworkModel", name := "find", desc := "(II)I" } : Jvm.MethodName)) ∈ lw_all := lw_g (lw_at lw_m2 2 rfl) rfl
theorem q267 : (Jvm.Cond.code ({ cls := "ProcessNetworkModel", name := "find", desc := "(II)I" } : Jvm.MethodName) prog_3_method_17_code (4 : Nat) (Option.some Jvm.ClassFile.FieldType.int)) ∈ lw_all := lw_g (lw_at lw_m2 3 rfl) rfl
theorem q269 : (Jvm.Cond.instanceMethod ({ cls := "ProcessNetworkModel", name := "same", desc := "(II)Z" } : Jvm.MethodName)) ∈ lw_all := lw_g (lw_at lw_m2 5 rfl) rfl
theorem q270 : (Jvm.Cond.selects "ProcessNetworkModel" ({ cls := "ProcessNetworkModel", name := "same", desc := "(II)Z" } : Jvm.MethodName) ({ cls := "ProcessNetworkModel", name := "same", desc := "(II)Z" } : Jvm.MethodName)) ∈ lw_all := lw_g (lw_at lw_m2 6 rfl) rfl
theorem q271 : (Jvm.Cond.code ({ cls := "ProcessNetworkModel", name := "same", desc := "(II)Z" } : Jvm.MethodName) prog_3_method_18_code (4 : Nat) (Option.some Jvm.ClassFile.FieldType.boolean)) ∈ lw_all := lw_g (lw_at lw_m2 7 rfl) rfl
theorem q273 : (Jvm.Cond.instanceMethod ({ cls := "ProcessNetworkModel", name := "full", desc := "()I" } : Jvm.MethodName)) ∈ lw_all := lw_g (lw_at lw_m2 9 rfl) rfl
theorem q274 : (Jvm.Cond.selects "ProcessNetworkModel" ({ cls := "ProcessNetworkModel", name := "full", desc := "()I" } : Jvm.MethodName) ({ cls := "ProcessNetworkModel", name := "full", desc := "()I" } : Jvm.MethodName)) ∈ lw_all := lw_g (lw_at lw_m2 10 rfl) rfl
theorem q275 : (Jvm.Cond.code ({ cls := "ProcessNetworkModel", name := "full", desc := "()I" } : Jvm.MethodName) prog_3_method_19_code (3 : Nat) (Option.some Jvm.ClassFile.FieldType.int)) ∈ lw_all := lw_g (lw_at lw_m2 11 rfl) rfl
theorem in_X1 : ∀ w ∈ wsX10, w ∈ lw_all := lw_in wsX10 [189, 191, 193, 195, 197, 199, 201] (by decide +kernel) (by decide +kernel)
end
section
set_option maxRecDepth 100000
/-! the law's own entry -/
set_option maxRecDepth 100000
abbrev cL_law : ByteArray := code
theorem dL_law_0 : decode cL_law 0 = .ok (.new 7, 3) := by decide +kernel
theorem dL_law_3 : decode cL_law 3 = .ok (.dup, 1) := by decide +kernel
theorem dL_law_4 : decode cL_law 4 = .ok (.invokespecial 9, 3) := by decide +kernel
theorem dL_law_7 : decode cL_law 7 = .ok (.astore_n 1, 1) := by decide +kernel
theorem dL_law_8 : decode cL_law 8 = .ok (.new 10, 3) := by decide +kernel
theorem dL_law_11 : decode cL_law 11 = .ok (.dup, 1) := by decide +kernel
theorem dL_law_12 : decode cL_law 12 = .ok (.invokespecial 12, 3) := by decide +kernel
theorem dL_law_15 : decode cL_law 15 = .ok (.astore_n 2, 1) := by decide +kernel
theorem dL_law_16 : decode cL_law 16 = .ok (.iconst 0, 1) := by decide +kernel
theorem dL_law_17 : decode cL_law 17 = .ok (.istore_n 3, 1) := by decide +kernel
theorem dL_law_18 : decode cL_law 18 = .ok (.iload_n 3, 1) := by decide +kernel
theorem dL_law_19 : decode cL_law 19 = .ok (.aload_n 0, 1) := by decide +kernel
theorem dL_law_20 : decode cL_law 20 = .ok (.arraylength, 1) := by decide +kernel
theorem dL_law_21 : decode cL_law 21 = .ok (.iconst 5, 1) := by decide +kernel
theorem dL_law_22 : decode cL_law 22 = .ok (.isub, 1) := by decide +kernel
theorem dL_law_23 : decode cL_law 23 = .ok (.if_icmp .gt 344, 3) := by decide +kernel
theorem dL_law_26 : decode cL_law 26 = .ok (.aload_n 0, 1) := by decide +kernel
theorem dL_law_27 : decode cL_law 27 = .ok (.iload_n 3, 1) := by decide +kernel
theorem dL_law_28 : decode cL_law 28 = .ok (.iaload, 1) := by decide +kernel
theorem dL_law_29 : decode cL_law 29 = .ok (.bipush 15, 2) := by decide +kernel
theorem dL_law_31 : decode cL_law 31 = .ok (.iand, 1) := by decide +kernel
theorem dL_law_32 : decode cL_law 32 = .ok (.tableswitch 329 0 8 #[52, 105, 138, 171, 194, 227, 250, 283, 316], 52) := by decide +kernel
theorem dL_law_84 : decode cL_law 84 = .ok (.aload_n 1, 1) := by decide +kernel
theorem dL_law_85 : decode cL_law 85 = .ok (.aload_n 0, 1) := by decide +kernel
theorem dL_law_86 : decode cL_law 86 = .ok (.iload_n 3, 1) := by decide +kernel
theorem dL_law_87 : decode cL_law 87 = .ok (.iconst 1, 1) := by decide +kernel
theorem dL_law_88 : decode cL_law 88 = .ok (.iadd, 1) := by decide +kernel
theorem dL_law_89 : decode cL_law 89 = .ok (.iaload, 1) := by decide +kernel
theorem dL_law_90 : decode cL_law 90 = .ok (.aload_n 0, 1) := by decide +kernel
theorem dL_law_91 : decode cL_law 91 = .ok (.iload_n 3, 1) := by decide +kernel
theorem dL_law_92 : decode cL_law 92 = .ok (.iconst 2, 1) := by decide +kernel
theorem dL_law_93 : decode cL_law 93 = .ok (.iadd, 1) := by decide +kernel
theorem dL_law_94 : decode cL_law 94 = .ok (.iaload, 1) := by decide +kernel
theorem dL_law_95 : decode cL_law 95 = .ok (.aload_n 0, 1) := by decide +kernel
theorem dL_law_96 : decode cL_law 96 = .ok (.iload_n 3, 1) := by decide +kernel
theorem dL_law_97 : decode cL_law 97 = .ok (.iconst 3, 1) := by decide +kernel
theorem dL_law_98 : decode cL_law 98 = .ok (.iadd, 1) := by decide +kernel
theorem dL_law_99 : decode cL_law 99 = .ok (.iaload, 1) := by decide +kernel
theorem dL_law_100 : decode cL_law 100 = .ok (.aload_n 0, 1) := by decide +kernel
theorem dL_law_101 : decode cL_law 101 = .ok (.iload_n 3, 1) := by decide +kernel
theorem dL_law_102 : decode cL_law 102 = .ok (.iconst 4, 1) := by decide +kernel
theorem dL_law_103 : decode cL_law 103 = .ok (.iadd, 1) := by decide +kernel
theorem dL_law_104 : decode cL_law 104 = .ok (.iaload, 1) := by decide +kernel
theorem dL_law_105 : decode cL_law 105 = .ok (.invokevirtual 13, 3) := by decide +kernel
theorem dL_law_108 : decode cL_law 108 = .ok (.aload_n 2, 1) := by decide +kernel
theorem dL_law_109 : decode cL_law 109 = .ok (.aload_n 0, 1) := by decide +kernel
theorem dL_law_110 : decode cL_law 110 = .ok (.iload_n 3, 1) := by decide +kernel
theorem dL_law_111 : decode cL_law 111 = .ok (.iconst 1, 1) := by decide +kernel
theorem dL_law_112 : decode cL_law 112 = .ok (.iadd, 1) := by decide +kernel
theorem dL_law_113 : decode cL_law 113 = .ok (.iaload, 1) := by decide +kernel
theorem dL_law_114 : decode cL_law 114 = .ok (.aload_n 0, 1) := by decide +kernel
theorem dL_law_115 : decode cL_law 115 = .ok (.iload_n 3, 1) := by decide +kernel
theorem dL_law_116 : decode cL_law 116 = .ok (.iconst 2, 1) := by decide +kernel
theorem dL_law_117 : decode cL_law 117 = .ok (.iadd, 1) := by decide +kernel
theorem dL_law_118 : decode cL_law 118 = .ok (.iaload, 1) := by decide +kernel
theorem dL_law_119 : decode cL_law 119 = .ok (.aload_n 0, 1) := by decide +kernel
theorem dL_law_120 : decode cL_law 120 = .ok (.iload_n 3, 1) := by decide +kernel
theorem dL_law_121 : decode cL_law 121 = .ok (.iconst 3, 1) := by decide +kernel
theorem dL_law_122 : decode cL_law 122 = .ok (.iadd, 1) := by decide +kernel
theorem dL_law_123 : decode cL_law 123 = .ok (.iaload, 1) := by decide +kernel
theorem dL_law_124 : decode cL_law 124 = .ok (.aload_n 0, 1) := by decide +kernel
theorem dL_law_125 : decode cL_law 125 = .ok (.iload_n 3, 1) := by decide +kernel
theorem dL_law_126 : decode cL_law 126 = .ok (.iconst 4, 1) := by decide +kernel
theorem dL_law_127 : decode cL_law 127 = .ok (.iadd, 1) := by decide +kernel
theorem dL_law_128 : decode cL_law 128 = .ok (.iaload, 1) := by decide +kernel
theorem dL_law_129 : decode cL_law 129 = .ok (.invokevirtual 17, 3) := by decide +kernel
theorem dL_law_132 : decode cL_law 132 = .ok (.if_icmp .eq 229, 3) := by decide +kernel
theorem dL_law_135 : decode cL_law 135 = .ok (.iconst 0, 1) := by decide +kernel
theorem dL_law_136 : decode cL_law 136 = .ok (.ireturn, 1) := by decide +kernel
theorem dL_law_137 : decode cL_law 137 = .ok (.aload_n 1, 1) := by decide +kernel
theorem dL_law_138 : decode cL_law 138 = .ok (.aload_n 0, 1) := by decide +kernel
theorem dL_law_139 : decode cL_law 139 = .ok (.iload_n 3, 1) := by decide +kernel
theorem dL_law_140 : decode cL_law 140 = .ok (.iconst 1, 1) := by decide +kernel
theorem dL_law_141 : decode cL_law 141 = .ok (.iadd, 1) := by decide +kernel
theorem dL_law_142 : decode cL_law 142 = .ok (.iaload, 1) := by decide +kernel
theorem dL_law_143 : decode cL_law 143 = .ok (.aload_n 0, 1) := by decide +kernel
theorem dL_law_144 : decode cL_law 144 = .ok (.iload_n 3, 1) := by decide +kernel
theorem dL_law_145 : decode cL_law 145 = .ok (.iconst 2, 1) := by decide +kernel
theorem dL_law_146 : decode cL_law 146 = .ok (.iadd, 1) := by decide +kernel
theorem dL_law_147 : decode cL_law 147 = .ok (.iaload, 1) := by decide +kernel
theorem dL_law_148 : decode cL_law 148 = .ok (.invokevirtual 18, 3) := by decide +kernel
theorem dL_law_151 : decode cL_law 151 = .ok (.aload_n 2, 1) := by decide +kernel
theorem dL_law_152 : decode cL_law 152 = .ok (.aload_n 0, 1) := by decide +kernel
theorem dL_law_153 : decode cL_law 153 = .ok (.iload_n 3, 1) := by decide +kernel
theorem dL_law_154 : decode cL_law 154 = .ok (.iconst 1, 1) := by decide +kernel
theorem dL_law_155 : decode cL_law 155 = .ok (.iadd, 1) := by decide +kernel
theorem dL_law_156 : decode cL_law 156 = .ok (.iaload, 1) := by decide +kernel
theorem dL_law_157 : decode cL_law 157 = .ok (.aload_n 0, 1) := by decide +kernel
theorem dL_law_158 : decode cL_law 158 = .ok (.iload_n 3, 1) := by decide +kernel
theorem dL_law_159 : decode cL_law 159 = .ok (.iconst 2, 1) := by decide +kernel
theorem dL_law_160 : decode cL_law 160 = .ok (.iadd, 1) := by decide +kernel
theorem dL_law_161 : decode cL_law 161 = .ok (.iaload, 1) := by decide +kernel
theorem dL_law_162 : decode cL_law 162 = .ok (.invokevirtual 22, 3) := by decide +kernel
theorem dL_law_165 : decode cL_law 165 = .ok (.if_icmp .eq 196, 3) := by decide +kernel
theorem dL_law_168 : decode cL_law 168 = .ok (.iconst 0, 1) := by decide +kernel
theorem dL_law_169 : decode cL_law 169 = .ok (.ireturn, 1) := by decide +kernel
theorem dL_law_170 : decode cL_law 170 = .ok (.aload_n 1, 1) := by decide +kernel
theorem dL_law_171 : decode cL_law 171 = .ok (.aload_n 0, 1) := by decide +kernel
theorem dL_law_172 : decode cL_law 172 = .ok (.iload_n 3, 1) := by decide +kernel
theorem dL_law_173 : decode cL_law 173 = .ok (.iconst 1, 1) := by decide +kernel
theorem dL_law_174 : decode cL_law 174 = .ok (.iadd, 1) := by decide +kernel
theorem dL_law_175 : decode cL_law 175 = .ok (.iaload, 1) := by decide +kernel
theorem dL_law_176 : decode cL_law 176 = .ok (.aload_n 0, 1) := by decide +kernel
theorem dL_law_177 : decode cL_law 177 = .ok (.iload_n 3, 1) := by decide +kernel
theorem dL_law_178 : decode cL_law 178 = .ok (.iconst 2, 1) := by decide +kernel
theorem dL_law_179 : decode cL_law 179 = .ok (.iadd, 1) := by decide +kernel
theorem dL_law_180 : decode cL_law 180 = .ok (.iaload, 1) := by decide +kernel
theorem dL_law_181 : decode cL_law 181 = .ok (.invokevirtual 23, 3) := by decide +kernel
theorem dL_law_184 : decode cL_law 184 = .ok (.aload_n 2, 1) := by decide +kernel
theorem dL_law_185 : decode cL_law 185 = .ok (.aload_n 0, 1) := by decide +kernel
theorem dL_law_186 : decode cL_law 186 = .ok (.iload_n 3, 1) := by decide +kernel
theorem dL_law_187 : decode cL_law 187 = .ok (.iconst 1, 1) := by decide +kernel
theorem dL_law_188 : decode cL_law 188 = .ok (.iadd, 1) := by decide +kernel
theorem dL_law_189 : decode cL_law 189 = .ok (.iaload, 1) := by decide +kernel
theorem dL_law_190 : decode cL_law 190 = .ok (.aload_n 0, 1) := by decide +kernel
theorem dL_law_191 : decode cL_law 191 = .ok (.iload_n 3, 1) := by decide +kernel
theorem dL_law_192 : decode cL_law 192 = .ok (.iconst 2, 1) := by decide +kernel
theorem dL_law_193 : decode cL_law 193 = .ok (.iadd, 1) := by decide +kernel
theorem dL_law_194 : decode cL_law 194 = .ok (.iaload, 1) := by decide +kernel
theorem dL_law_195 : decode cL_law 195 = .ok (.invokevirtual 26, 3) := by decide +kernel
theorem dL_law_198 : decode cL_law 198 = .ok (.if_icmp .eq 163, 3) := by decide +kernel
theorem dL_law_201 : decode cL_law 201 = .ok (.iconst 0, 1) := by decide +kernel
theorem dL_law_202 : decode cL_law 202 = .ok (.ireturn, 1) := by decide +kernel
theorem dL_law_203 : decode cL_law 203 = .ok (.aload_n 1, 1) := by decide +kernel
theorem dL_law_204 : decode cL_law 204 = .ok (.aload_n 0, 1) := by decide +kernel
theorem dL_law_205 : decode cL_law 205 = .ok (.iload_n 3, 1) := by decide +kernel
theorem dL_law_206 : decode cL_law 206 = .ok (.iconst 1, 1) := by decide +kernel
theorem dL_law_207 : decode cL_law 207 = .ok (.iadd, 1) := by decide +kernel
theorem dL_law_208 : decode cL_law 208 = .ok (.iaload, 1) := by decide +kernel
theorem dL_law_209 : decode cL_law 209 = .ok (.invokevirtual 27, 3) := by decide +kernel
theorem dL_law_212 : decode cL_law 212 = .ok (.aload_n 2, 1) := by decide +kernel
theorem dL_law_213 : decode cL_law 213 = .ok (.aload_n 0, 1) := by decide +kernel
theorem dL_law_214 : decode cL_law 214 = .ok (.iload_n 3, 1) := by decide +kernel
theorem dL_law_215 : decode cL_law 215 = .ok (.iconst 1, 1) := by decide +kernel
theorem dL_law_216 : decode cL_law 216 = .ok (.iadd, 1) := by decide +kernel
theorem dL_law_217 : decode cL_law 217 = .ok (.iaload, 1) := by decide +kernel
theorem dL_law_218 : decode cL_law 218 = .ok (.invokevirtual 31, 3) := by decide +kernel
theorem dL_law_221 : decode cL_law 221 = .ok (.if_icmp .eq 140, 3) := by decide +kernel
theorem dL_law_224 : decode cL_law 224 = .ok (.iconst 0, 1) := by decide +kernel
theorem dL_law_225 : decode cL_law 225 = .ok (.ireturn, 1) := by decide +kernel
theorem dL_law_226 : decode cL_law 226 = .ok (.aload_n 1, 1) := by decide +kernel
theorem dL_law_227 : decode cL_law 227 = .ok (.aload_n 0, 1) := by decide +kernel
theorem dL_law_228 : decode cL_law 228 = .ok (.iload_n 3, 1) := by decide +kernel
theorem dL_law_229 : decode cL_law 229 = .ok (.iconst 1, 1) := by decide +kernel
theorem dL_law_230 : decode cL_law 230 = .ok (.iadd, 1) := by decide +kernel
theorem dL_law_231 : decode cL_law 231 = .ok (.iaload, 1) := by decide +kernel
theorem dL_law_232 : decode cL_law 232 = .ok (.aload_n 0, 1) := by decide +kernel
theorem dL_law_233 : decode cL_law 233 = .ok (.iload_n 3, 1) := by decide +kernel
theorem dL_law_234 : decode cL_law 234 = .ok (.iconst 2, 1) := by decide +kernel
theorem dL_law_235 : decode cL_law 235 = .ok (.iadd, 1) := by decide +kernel
theorem dL_law_236 : decode cL_law 236 = .ok (.iaload, 1) := by decide +kernel
theorem dL_law_237 : decode cL_law 237 = .ok (.invokevirtual 32, 3) := by decide +kernel
theorem dL_law_240 : decode cL_law 240 = .ok (.aload_n 2, 1) := by decide +kernel
theorem dL_law_241 : decode cL_law 241 = .ok (.aload_n 0, 1) := by decide +kernel
theorem dL_law_242 : decode cL_law 242 = .ok (.iload_n 3, 1) := by decide +kernel
theorem dL_law_243 : decode cL_law 243 = .ok (.iconst 1, 1) := by decide +kernel
theorem dL_law_244 : decode cL_law 244 = .ok (.iadd, 1) := by decide +kernel
theorem dL_law_245 : decode cL_law 245 = .ok (.iaload, 1) := by decide +kernel
theorem dL_law_246 : decode cL_law 246 = .ok (.aload_n 0, 1) := by decide +kernel
theorem dL_law_247 : decode cL_law 247 = .ok (.iload_n 3, 1) := by decide +kernel
theorem dL_law_248 : decode cL_law 248 = .ok (.iconst 2, 1) := by decide +kernel
theorem dL_law_249 : decode cL_law 249 = .ok (.iadd, 1) := by decide +kernel
theorem dL_law_250 : decode cL_law 250 = .ok (.iaload, 1) := by decide +kernel
theorem dL_law_251 : decode cL_law 251 = .ok (.invokevirtual 35, 3) := by decide +kernel
theorem dL_law_254 : decode cL_law 254 = .ok (.if_icmp .eq 107, 3) := by decide +kernel
theorem dL_law_257 : decode cL_law 257 = .ok (.iconst 0, 1) := by decide +kernel
theorem dL_law_258 : decode cL_law 258 = .ok (.ireturn, 1) := by decide +kernel
theorem dL_law_259 : decode cL_law 259 = .ok (.aload_n 1, 1) := by decide +kernel
theorem dL_law_260 : decode cL_law 260 = .ok (.aload_n 0, 1) := by decide +kernel
theorem dL_law_261 : decode cL_law 261 = .ok (.iload_n 3, 1) := by decide +kernel
theorem dL_law_262 : decode cL_law 262 = .ok (.iconst 1, 1) := by decide +kernel
theorem dL_law_263 : decode cL_law 263 = .ok (.iadd, 1) := by decide +kernel
theorem dL_law_264 : decode cL_law 264 = .ok (.iaload, 1) := by decide +kernel
theorem dL_law_265 : decode cL_law 265 = .ok (.invokevirtual 36, 3) := by decide +kernel
theorem dL_law_268 : decode cL_law 268 = .ok (.aload_n 2, 1) := by decide +kernel
theorem dL_law_269 : decode cL_law 269 = .ok (.aload_n 0, 1) := by decide +kernel
theorem dL_law_270 : decode cL_law 270 = .ok (.iload_n 3, 1) := by decide +kernel
theorem dL_law_271 : decode cL_law 271 = .ok (.iconst 1, 1) := by decide +kernel
theorem dL_law_272 : decode cL_law 272 = .ok (.iadd, 1) := by decide +kernel
theorem dL_law_273 : decode cL_law 273 = .ok (.iaload, 1) := by decide +kernel
theorem dL_law_274 : decode cL_law 274 = .ok (.invokevirtual 39, 3) := by decide +kernel
theorem dL_law_277 : decode cL_law 277 = .ok (.if_icmp .eq 84, 3) := by decide +kernel
theorem dL_law_280 : decode cL_law 280 = .ok (.iconst 0, 1) := by decide +kernel
theorem dL_law_281 : decode cL_law 281 = .ok (.ireturn, 1) := by decide +kernel
theorem dL_law_282 : decode cL_law 282 = .ok (.aload_n 1, 1) := by decide +kernel
theorem dL_law_283 : decode cL_law 283 = .ok (.aload_n 0, 1) := by decide +kernel
theorem dL_law_284 : decode cL_law 284 = .ok (.iload_n 3, 1) := by decide +kernel
theorem dL_law_285 : decode cL_law 285 = .ok (.iconst 1, 1) := by decide +kernel
theorem dL_law_286 : decode cL_law 286 = .ok (.iadd, 1) := by decide +kernel
theorem dL_law_287 : decode cL_law 287 = .ok (.iaload, 1) := by decide +kernel
theorem dL_law_288 : decode cL_law 288 = .ok (.aload_n 0, 1) := by decide +kernel
theorem dL_law_289 : decode cL_law 289 = .ok (.iload_n 3, 1) := by decide +kernel
theorem dL_law_290 : decode cL_law 290 = .ok (.iconst 2, 1) := by decide +kernel
theorem dL_law_291 : decode cL_law 291 = .ok (.iadd, 1) := by decide +kernel
theorem dL_law_292 : decode cL_law 292 = .ok (.iaload, 1) := by decide +kernel
theorem dL_law_293 : decode cL_law 293 = .ok (.invokevirtual 40, 3) := by decide +kernel
theorem dL_law_296 : decode cL_law 296 = .ok (.aload_n 2, 1) := by decide +kernel
theorem dL_law_297 : decode cL_law 297 = .ok (.aload_n 0, 1) := by decide +kernel
theorem dL_law_298 : decode cL_law 298 = .ok (.iload_n 3, 1) := by decide +kernel
theorem dL_law_299 : decode cL_law 299 = .ok (.iconst 1, 1) := by decide +kernel
theorem dL_law_300 : decode cL_law 300 = .ok (.iadd, 1) := by decide +kernel
theorem dL_law_301 : decode cL_law 301 = .ok (.iaload, 1) := by decide +kernel
theorem dL_law_302 : decode cL_law 302 = .ok (.aload_n 0, 1) := by decide +kernel
theorem dL_law_303 : decode cL_law 303 = .ok (.iload_n 3, 1) := by decide +kernel
theorem dL_law_304 : decode cL_law 304 = .ok (.iconst 2, 1) := by decide +kernel
theorem dL_law_305 : decode cL_law 305 = .ok (.iadd, 1) := by decide +kernel
theorem dL_law_306 : decode cL_law 306 = .ok (.iaload, 1) := by decide +kernel
theorem dL_law_307 : decode cL_law 307 = .ok (.invokevirtual 43, 3) := by decide +kernel
theorem dL_law_310 : decode cL_law 310 = .ok (.if_icmp .eq 51, 3) := by decide +kernel
theorem dL_law_313 : decode cL_law 313 = .ok (.iconst 0, 1) := by decide +kernel
theorem dL_law_314 : decode cL_law 314 = .ok (.ireturn, 1) := by decide +kernel
theorem dL_law_315 : decode cL_law 315 = .ok (.aload_n 1, 1) := by decide +kernel
theorem dL_law_316 : decode cL_law 316 = .ok (.aload_n 0, 1) := by decide +kernel
theorem dL_law_317 : decode cL_law 317 = .ok (.iload_n 3, 1) := by decide +kernel
theorem dL_law_318 : decode cL_law 318 = .ok (.iconst 1, 1) := by decide +kernel
theorem dL_law_319 : decode cL_law 319 = .ok (.iadd, 1) := by decide +kernel
theorem dL_law_320 : decode cL_law 320 = .ok (.iaload, 1) := by decide +kernel
theorem dL_law_321 : decode cL_law 321 = .ok (.aload_n 0, 1) := by decide +kernel
theorem dL_law_322 : decode cL_law 322 = .ok (.iload_n 3, 1) := by decide +kernel
theorem dL_law_323 : decode cL_law 323 = .ok (.iconst 2, 1) := by decide +kernel
theorem dL_law_324 : decode cL_law 324 = .ok (.iadd, 1) := by decide +kernel
theorem dL_law_325 : decode cL_law 325 = .ok (.iaload, 1) := by decide +kernel
theorem dL_law_326 : decode cL_law 326 = .ok (.invokevirtual 44, 3) := by decide +kernel
theorem dL_law_329 : decode cL_law 329 = .ok (.aload_n 2, 1) := by decide +kernel
theorem dL_law_330 : decode cL_law 330 = .ok (.aload_n 0, 1) := by decide +kernel
theorem dL_law_331 : decode cL_law 331 = .ok (.iload_n 3, 1) := by decide +kernel
theorem dL_law_332 : decode cL_law 332 = .ok (.iconst 1, 1) := by decide +kernel
theorem dL_law_333 : decode cL_law 333 = .ok (.iadd, 1) := by decide +kernel
theorem dL_law_334 : decode cL_law 334 = .ok (.iaload, 1) := by decide +kernel
theorem dL_law_335 : decode cL_law 335 = .ok (.aload_n 0, 1) := by decide +kernel
theorem dL_law_336 : decode cL_law 336 = .ok (.iload_n 3, 1) := by decide +kernel
theorem dL_law_337 : decode cL_law 337 = .ok (.iconst 2, 1) := by decide +kernel
theorem dL_law_338 : decode cL_law 338 = .ok (.iadd, 1) := by decide +kernel
theorem dL_law_339 : decode cL_law 339 = .ok (.iaload, 1) := by decide +kernel
theorem dL_law_340 : decode cL_law 340 = .ok (.invokevirtual 48, 3) := by decide +kernel
theorem dL_law_343 : decode cL_law 343 = .ok (.if_icmp .eq 18, 3) := by decide +kernel
theorem dL_law_346 : decode cL_law 346 = .ok (.iconst 0, 1) := by decide +kernel
theorem dL_law_347 : decode cL_law 347 = .ok (.ireturn, 1) := by decide +kernel
theorem dL_law_348 : decode cL_law 348 = .ok (.aload_n 1, 1) := by decide +kernel
theorem dL_law_349 : decode cL_law 349 = .ok (.invokevirtual 49, 3) := by decide +kernel
theorem dL_law_352 : decode cL_law 352 = .ok (.aload_n 2, 1) := by decide +kernel
theorem dL_law_353 : decode cL_law 353 = .ok (.invokevirtual 53, 3) := by decide +kernel
theorem dL_law_356 : decode cL_law 356 = .ok (.if_icmp .eq 5, 3) := by decide +kernel
theorem dL_law_359 : decode cL_law 359 = .ok (.iconst 0, 1) := by decide +kernel
theorem dL_law_360 : decode cL_law 360 = .ok (.ireturn, 1) := by decide +kernel
theorem dL_law_361 : decode cL_law 361 = .ok (.iinc 3 5, 3) := by decide +kernel
theorem dL_law_364 : decode cL_law 364 = .ok (.goto (-346), 3) := by decide +kernel
theorem dL_law_367 : decode cL_law 367 = .ok (.iconst 1, 1) := by decide +kernel
theorem dL_law_368 : decode cL_law 368 = .ok (.ireturn, 1) := by decide +kernel
theorem q24 : (Jvm.Cond.initialized "ProcessNetworkLaw") ∈ lw_all := lw_g (lw_at lw_m1 0 rfl) rfl
set_option maxRecDepth 100000
theorem q27 : (Jvm.Cond.classLink "ProcessNetworkLaw" (7 : Nat) "ProcessNetwork") ∈ lw_all := lw_g (lw_at lw_m1 3 rfl) rfl
theorem q29 : (Jvm.Cond.methodLink "ProcessNetworkLaw" (9 : Nat) ({ cls := "ProcessNetwork", name := "<init>", desc := "()V" } : Jvm.MethodName)) ∈ lw_all := lw_g (lw_at lw_m1 5 rfl) rfl
theorem q85 : (Jvm.Cond.methodLink "ProcessNetworkLaw" (13 : Nat) ({ cls := "ProcessNetwork", name := "set", desc := "(IIII)I" } : Jvm.MethodName)) ∈ lw_all := lw_g (lw_at lw_m1 61 rfl) rfl
theorem q92 : (Jvm.Cond.methodLink "ProcessNetworkLaw" (18 : Nat) ({ cls := "ProcessNetwork", name := "fire", desc := "(II)I" } : Jvm.MethodName)) ∈ lw_all := lw_g (lw_at lw_m1 68 rfl) rfl
theorem q144 : (Jvm.Cond.methodLink "ProcessNetworkLaw" (23 : Nat) ({ cls := "ProcessNetwork", name := "exchange", desc := "(II)I" } : Jvm.MethodName)) ∈ lw_all := lw_g (lw_at lw_m1 120 rfl) rfl
theorem q148 : (Jvm.Cond.methodLink "ProcessNetworkLaw" (27 : Nat) ({ cls := "ProcessNetwork", name := "length", desc := "(I)I" } : Jvm.MethodName)) ∈ lw_all := lw_g (lw_at lw_m1 124 rfl) rfl
theorem q156 : (Jvm.Cond.methodLink "ProcessNetworkLaw" (32 : Nat) ({ cls := "ProcessNetwork", name := "item", desc := "(II)I" } : Jvm.MethodName)) ∈ lw_all := lw_g (lw_at lw_m1 132 rfl) rfl
theorem q160 : (Jvm.Cond.methodLink "ProcessNetworkLaw" (36 : Nat) ({ cls := "ProcessNetwork", name := "sum", desc := "(I)I" } : Jvm.MethodName)) ∈ lw_all := lw_g (lw_at lw_m1 136 rfl) rfl
theorem q164 : (Jvm.Cond.methodLink "ProcessNetworkLaw" (40 : Nat) ({ cls := "ProcessNetwork", name := "find", desc := "(II)I" } : Jvm.MethodName)) ∈ lw_all := lw_g (lw_at lw_m1 140 rfl) rfl
theorem q168 : (Jvm.Cond.methodLink "ProcessNetworkLaw" (44 : Nat) ({ cls := "ProcessNetwork", name := "same", desc := "(II)Z" } : Jvm.MethodName)) ∈ lw_all := lw_g (lw_at lw_m1 144 rfl) rfl
theorem q172 : (Jvm.Cond.methodLink "ProcessNetworkLaw" (49 : Nat) ({ cls := "ProcessNetwork", name := "full", desc := "()I" } : Jvm.MethodName)) ∈ lw_all := lw_g (lw_at lw_m1 148 rfl) rfl
theorem q176 : (Jvm.Cond.classLink "ProcessNetworkLaw" (10 : Nat) "ProcessNetworkModel") ∈ lw_all := lw_g (lw_at lw_m1 152 rfl) rfl
theorem q178 : (Jvm.Cond.methodLink "ProcessNetworkLaw" (12 : Nat) ({ cls := "ProcessNetworkModel", name := "<init>", desc := "()V" } : Jvm.MethodName)) ∈ lw_all := lw_g (lw_at lw_m1 154 rfl) rfl
theorem q204 : (Jvm.Cond.methodLink "ProcessNetworkLaw" (17 : Nat) ({ cls := "ProcessNetworkModel", name := "set", desc := "(IIII)I" } : Jvm.MethodName)) ∈ lw_all := lw_g (lw_at lw_m1 180 rfl) rfl
theorem q212 : (Jvm.Cond.methodLink "ProcessNetworkLaw" (22 : Nat) ({ cls := "ProcessNetworkModel", name := "fire", desc := "(II)I" } : Jvm.MethodName)) ∈ lw_all := lw_g (lw_at lw_m1 188 rfl) rfl
theorem q216 : (Jvm.Cond.methodLink "ProcessNetworkLaw" (26 : Nat) ({ cls := "ProcessNetworkModel", name := "exchange", desc := "(II)I" } : Jvm.MethodName)) ∈ lw_all := lw_g (lw_at lw_m1 192 rfl) rfl
theorem q220 : (Jvm.Cond.methodLink "ProcessNetworkLaw" (31 : Nat) ({ cls := "ProcessNetworkModel", name := "length", desc := "(I)I" } : Jvm.MethodName)) ∈ lw_all := lw_g (lw_at lw_m1 196 rfl) rfl
theorem q256 : (Jvm.Cond.methodLink "ProcessNetworkLaw" (35 : Nat) ({ cls := "ProcessNetworkModel", name := "item", desc := "(II)I" } : Jvm.MethodName)) ∈ lw_all := lw_g (lw_at lw_m1 232 rfl) rfl
theorem q260 : (Jvm.Cond.methodLink "ProcessNetworkLaw" (39 : Nat) ({ cls := "ProcessNetworkModel", name := "sum", desc := "(I)I" } : Jvm.MethodName)) ∈ lw_all := lw_g (lw_at lw_m1 236 rfl) rfl
theorem q264 : (Jvm.Cond.methodLink "ProcessNetworkLaw" (43 : Nat) ({ cls := "ProcessNetworkModel", name := "find", desc := "(II)I" } : Jvm.MethodName)) ∈ lw_all := lw_g (lw_at lw_m2 0 rfl) rfl
theorem q268 : (Jvm.Cond.methodLink "ProcessNetworkLaw" (48 : Nat) ({ cls := "ProcessNetworkModel", name := "same", desc := "(II)Z" } : Jvm.MethodName)) ∈ lw_all := lw_g (lw_at lw_m2 4 rfl) rfl
theorem q272 : (Jvm.Cond.methodLink "ProcessNetworkLaw" (53 : Nat) ({ cls := "ProcessNetworkModel", name := "full", desc := "()I" } : Jvm.MethodName)) ∈ lw_all := lw_g (lw_at lw_m2 8 rfl) rfl

theorem q83 : (Jvm.Cond.arrayClass Jvm.ClassFile.FieldType.int) ∈ lw_all := lw_g (lw_at lw_m1 59 rfl) rfl
set_option maxRecDepth 100000
theorem q84 : (Jvm.Cond.arrayClass Jvm.ClassFile.FieldType.boolean) ∈ lw_all := lw_g (lw_at lw_m1 60 rfl) rfl

/-! java/lang/Object -/
set_option maxRecDepth 100000
def RJ0 : String := "java/lang/Object"
abbrev cJ0_init : ByteArray := object_method_1_code
def yJ0_init : MethodName := ⟨RJ0, "<init>", "()V"⟩
theorem dJ0_init_0 : decode cJ0_init 0 = .ok (.return_, 1) := by decide +kernel
theorem q33 : (Jvm.Cond.instanceMethod ({ cls := "java/lang/Object", name := "<init>", desc := "()V" } : Jvm.MethodName)) ∈ lw_all := lw_g (lw_at lw_m1 9 rfl) rfl
theorem q34 : (Jvm.Cond.code ({ cls := "java/lang/Object", name := "<init>", desc := "()V" } : Jvm.MethodName) object_method_1_code (1 : Nat) (Option.none : Option Jvm.ClassFile.FieldType)) ∈ lw_all := lw_g (lw_at lw_m1 10 rfl) rfl
end
section
/-! PURE 1: processes as machines. A process's own state: (items made, items read of x, of y, the sum so far). Streams: how many items each has, and the items. -/
abbrev pn_S : Type := Nat × Nat × Nat × Int32
abbrev pn_T : Type := (Nat → Nat) × (Nat → Nat → Int32)
/-- one step of a process of kind kk and number a, that reads lx items fx and ly items fy: none if it can't go on -/
def pn_ps (kk : Nat) (a : Int32) (lx : Nat) (fx : Nat → Int32) (ly : Nat) (fy : Nat → Int32) (q : pn_S) : Option (pn_S × Option Int32) :=
  if 40 ≤ q.1 then none
  else if kk = 0 then some ((q.1 + 1, q.2.1, q.2.2.1, q.2.2.2), some (a + nI q.1))
  else if kk = 1 then (if q.1 < 5 then some ((q.1 + 1, q.2.1, q.2.2.1, q.2.2.2), some (a * nI (2 * q.1 + 1))) else none)
  else if kk = 2 then (if q.2.1 < lx ∧ q.2.2.1 < ly then some ((q.1 + 1, q.2.1 + 1, q.2.2.1 + 1, q.2.2.2), some (fx q.2.1 + fy q.2.2.1)) else none)
  else if kk = 3 then
    (if q.1 % 2 = 0 then (if q.2.1 < lx then some ((q.1 + 1, q.2.1 + 1, q.2.2.1, q.2.2.2), some (fx q.2.1)) else none)
     else (if q.2.2.1 < ly then some ((q.1 + 1, q.2.1, q.2.2.1 + 1, q.2.2.2), some (fy q.2.2.1)) else none))
  else if kk = 4 then
    (if q.2.1 < lx then (if fx q.2.1 &&& 1 = 1 then some ((q.1 + 1, q.2.1 + 1, q.2.2.1, q.2.2.2), some (fx q.2.1)) else some ((q.1, q.2.1 + 1, q.2.2.1, q.2.2.2), none)) else none)
  else if kk = 5 then
    (if q.1 = 0 then some ((q.1 + 1, q.2.1, q.2.2.1, q.2.2.2), some a)
     else (if q.2.1 < lx then some ((q.1 + 1, q.2.1 + 1, q.2.2.1, q.2.2.2), some (fx q.2.1)) else none))
  else if kk = 6 then
    (if q.2.1 < lx ∧ q.2.2.1 < ly then (if fx q.2.1 ≤ fy q.2.2.1 then some ((q.1 + 1, q.2.1 + 1, q.2.2.1, q.2.2.2), some (fx q.2.1)) else some ((q.1 + 1, q.2.1, q.2.2.1 + 1, q.2.2.2), some (fy q.2.2.1))) else none)
  else (if q.2.1 < lx then some ((q.1 + 1, q.2.1 + 1, q.2.2.1, q.2.2.2 + fx q.2.1), some (q.2.2.2 + fx q.2.1)) else none)
theorem pn_mono {kk : Nat} {a : Int32} {lx lx' ly ly' : Nat} {fx fx' fy fy' : Nat → Int32} {q : pn_S} {r : pn_S × Option Int32} (hx : lx ≤ lx') (ex : ∀ k, k < lx → fx k = fx' k) (hy : ly ≤ ly') (ey : ∀ k, k < ly → fy k = fy' k)
    (h : pn_ps kk a lx fx ly fy q = some r) : pn_ps kk a lx' fx' ly' fy' q = some r := by
  unfold pn_ps at h ⊢
  by_cases h40 : 40 ≤ q.1
  · simp [h40] at h
  simp only [h40, if_false] at h ⊢
  by_cases k0 : kk = 0
  · simp only [k0, if_true] at h ⊢; exact h
  simp only [k0, if_false] at h ⊢
  by_cases k1 : kk = 1
  · simp only [k1, if_true] at h ⊢; exact h
  simp only [k1, if_false] at h ⊢
  have cx : q.2.1 < lx → q.2.1 < lx' ∧ fx' q.2.1 = fx q.2.1 := fun z => ⟨Nat.lt_of_lt_of_le z hx, (ex _ z).symm⟩
  have cy : q.2.2.1 < ly → q.2.2.1 < ly' ∧ fy' q.2.2.1 = fy q.2.2.1 := fun z => ⟨Nat.lt_of_lt_of_le z hy, (ey _ z).symm⟩
  by_cases k2 : kk = 2
  · simp only [k2, if_true] at h ⊢
    by_cases z : q.2.1 < lx ∧ q.2.2.1 < ly
    · rw [if_pos z] at h
      rw [if_pos ⟨(cx z.1).1, (cy z.2).1⟩, (cx z.1).2, (cy z.2).2]; exact h
    · rw [if_neg z] at h; cases h
  simp only [k2, if_false] at h ⊢
  by_cases k3 : kk = 3
  · simp only [k3, if_true] at h ⊢
    by_cases e : q.1 % 2 = 0
    · rw [if_pos e] at h ⊢
      by_cases z : q.2.1 < lx
      · rw [if_pos z] at h
        rw [if_pos (cx z).1, (cx z).2]; exact h
      · rw [if_neg z] at h; cases h
    · rw [if_neg e] at h ⊢
      by_cases z : q.2.2.1 < ly
      · rw [if_pos z] at h
        rw [if_pos (cy z).1, (cy z).2]; exact h
      · rw [if_neg z] at h; cases h
  simp only [k3, if_false] at h ⊢
  by_cases k4 : kk = 4
  · simp only [k4, if_true] at h ⊢
    by_cases z : q.2.1 < lx
    · rw [if_pos z] at h
      rw [if_pos (cx z).1, (cx z).2]; exact h
    · rw [if_neg z] at h; cases h
  simp only [k4, if_false] at h ⊢
  by_cases k5 : kk = 5
  · simp only [k5, if_true] at h ⊢
    by_cases e : q.1 = 0
    · rw [if_pos e] at h ⊢; exact h
    · rw [if_neg e] at h ⊢
      by_cases z : q.2.1 < lx
      · rw [if_pos z] at h
        rw [if_pos (cx z).1, (cx z).2]; exact h
      · rw [if_neg z] at h; cases h
  simp only [k5, if_false] at h ⊢
  by_cases k6 : kk = 6
  · simp only [k6, if_true] at h ⊢
    by_cases z : q.2.1 < lx ∧ q.2.2.1 < ly
    · rw [if_pos z] at h
      rw [if_pos ⟨(cx z.1).1, (cy z.2).1⟩, (cx z.1).2, (cy z.2).2]; exact h
    · rw [if_neg z] at h; cases h
  simp only [k6, if_false] at h ⊢
  by_cases z : q.2.1 < lx
  · rw [if_pos z] at h
    rw [if_pos (cx z).1, (cx z).2]; exact h
  · rw [if_neg z] at h; cases h
/-- what a step does to the numbers: at most one item more, and something is made or read -/
theorem pn_ps_facts {kk : Nat} {a : Int32} {lx ly : Nat} {fx fy : Nat → Int32} {q q' : pn_S} {o : Option Int32} (h : pn_ps kk a lx fx ly fy q = some (q', o)) :
    q.1 < 40 ∧ ((o = none ∧ q'.1 = q.1) ∨ (∃ v, o = some v ∧ q'.1 = q.1 + 1)) ∧ q.1 + q.2.1 + 1 ≤ q'.1 + q'.2.1 ∧ (q'.2.1 = q.2.1 ∨ (q'.2.1 = q.2.1 + 1 ∧ q.2.1 < lx)) ∧ (q'.2.2.1 = q.2.2.1 ∨ (q'.2.2.1 = q.2.2.1 + 1 ∧ q.2.2.1 < ly)) := by
  unfold pn_ps at h
  by_cases h40 : 40 ≤ q.1
  · simp [h40] at h
  rw [if_neg h40] at h
  refine ⟨by omega, ?_⟩
  repeat' split at h
  all_goals first
    | (cases h; done)
    | (obtain ⟨rfl, rfl⟩ := Prod.mk.inj (Option.some.inj h)
       first
         | (refine ⟨Or.inr ⟨_, rfl, rfl⟩, ?_, ?_, ?_⟩ <;> (dsimp only; omega))
         | (refine ⟨Or.inl ⟨rfl, rfl⟩, ?_, ?_, ?_⟩ <;> (dsimp only; omega)))
/-! a network: kk 0 p the kind, kk 1 p and kk 2 p the inputs, nu p the number -/
def pn_P (kk : Nat → Nat → Nat) (nu : Nat → Int32) (Z : pn_T) (p : Nat) (q : pn_S) : Option (pn_S × Option Int32) := pn_ps (kk 0 p) (nu p) (Z.1 (kk 1 p)) (Z.2 (kk 1 p)) (Z.1 (kk 2 p)) (Z.2 (kk 2 p)) q
/-- the state behind n steps -/
def pn_R (kk : Nat → Nat → Nat) (nu : Nat → Int32) (Z : pn_T) (p : Nat) : Nat → Option pn_S
  | 0 => some (0, 0, 0, 0)
  | n + 1 => match pn_R kk nu Z p n with
    | none => none
    | some q => match pn_P kk nu Z p q with
      | none => none
      | some r => some r.1
def pn_ok (kk : Nat → Nat → Nat) : Prop := ∀ p, p < 8 → kk 0 p ≤ 7 ∧ kk 1 p < 8 ∧ kk 2 p < 8
def pn_LE (Z Z' : pn_T) : Prop := ∀ p, p < 8 → Z.1 p ≤ Z'.1 p ∧ ∀ k, k < Z.1 p → Z.2 p k = Z'.2 p k
section PN
variable {kk : Nat → Nat → Nat} {nu : Nat → Int32} {Z Z' Z2 : pn_T} {p : Nat}
theorem pn_LE.rfl' : pn_LE Z Z := fun _ _ => ⟨Nat.le_refl _, fun _ _ => rfl⟩
theorem pn_LE.trans (h : pn_LE Z Z') (h2 : pn_LE Z' Z2) : pn_LE Z Z2 := fun p hp => ⟨Nat.le_trans (h p hp).1 (h2 p hp).1, fun k hk => ((h p hp).2 k hk).trans ((h2 p hp).2 k (Nat.lt_of_lt_of_le hk (h p hp).1))⟩
theorem pn_P_mono (hk : pn_ok kk) (hp : p < 8) (h : pn_LE Z Z') {q : pn_S} {r : pn_S × Option Int32} (hr : pn_P kk nu Z p q = some r) : pn_P kk nu Z' p q = some r :=
  pn_mono (h _ (hk p hp).2.1).1 (h _ (hk p hp).2.1).2 (h _ (hk p hp).2.2).1 (h _ (hk p hp).2.2).2 hr
theorem pn_R_succ {n : Nat} {q : pn_S} {r : pn_S × Option Int32} (h : pn_R kk nu Z p n = some q) (h2 : pn_P kk nu Z p q = some r) : pn_R kk nu Z p (n + 1) = some r.1 := by
  show (match pn_R kk nu Z p n with
    | none => none
    | some q => match pn_P kk nu Z p q with
      | none => none
      | some r => some r.1) = some r.1
  rw [h]; dsimp only; rw [h2]
theorem pn_R_pred {n : Nat} {q' : pn_S} (h : pn_R kk nu Z p (n + 1) = some q') : ∃ q o, pn_R kk nu Z p n = some q ∧ pn_P kk nu Z p q = some (q', o) := by
  have h : (match pn_R kk nu Z p n with
    | none => none
    | some q => match pn_P kk nu Z p q with
      | none => none
      | some r => some r.1) = some q' := h
  cases h1 : pn_R kk nu Z p n with
  | none => rw [h1] at h; cases h
  | some q =>
    rw [h1] at h
    dsimp only at h
    cases h2 : pn_P kk nu Z p q with
    | none => rw [h2] at h; cases h
    | some r =>
      rw [h2] at h
      refine ⟨q, r.2, rfl, ?_⟩
      rw [h2]
      rw [← Option.some.inj h]
/-- earlier states, and how many items they have -/
theorem pn_R_down : ∀ (d n : Nat) (q : pn_S), pn_R kk nu Z p (n + d) = some q → ∃ q0, pn_R kk nu Z p n = some q0 ∧ q0.1 ≤ q.1
  | 0, n, q, h => ⟨q, h, Nat.le_refl _⟩
  | d + 1, n, q, h => by
    obtain ⟨q1, o, h1, h2⟩ := pn_R_pred (n := n + d) h
    obtain ⟨q0, h3, h4⟩ := pn_R_down d n q1 h1
    refine ⟨q0, h3, ?_⟩
    rcases (pn_ps_facts h2).2.1 with ⟨-, e⟩ | ⟨-, -, e⟩ <;> omega
theorem pn_R_le {n n' : Nat} {q q' : pn_S} (hn : n ≤ n') (h : pn_R kk nu Z p n = some q) (h' : pn_R kk nu Z p n' = some q') : q.1 ≤ q'.1 := by
  obtain ⟨d, rfl⟩ := Nat.le.dest hn
  obtain ⟨q0, h3, h4⟩ := pn_R_down d n q' h'
  rw [h] at h3
  rw [Option.some.inj h3]
  exact h4
theorem pn_R_some {n n' : Nat} {q' : pn_S} (hn : n ≤ n') (h' : pn_R kk nu Z p n' = some q') : ∃ q, pn_R kk nu Z p n = some q := by
  obtain ⟨d, rfl⟩ := Nat.le.dest hn
  obtain ⟨q0, h3, -⟩ := pn_R_down d n q' h'
  exact ⟨q0, h3⟩
/-- a stuck state is the last -/
theorem pn_R_stuck {n n' : Nat} {q q' : pn_S} (h : pn_R kk nu Z p n = some q) (hs : pn_P kk nu Z p q = none) (h' : pn_R kk nu Z p n' = some q') : n' ≤ n := by
  rcases Nat.lt_or_ge n n' with hl | hl
  · obtain ⟨q2, h2⟩ := pn_R_some (n := n + 1) hl h'
    obtain ⟨q3, o, h3, h4⟩ := pn_R_pred h2
    rw [h] at h3
    rw [← Option.some.inj h3, hs] at h4
    cases h4
  · exact hl
theorem pn_R_mono (hk : pn_ok kk) (hp : p < 8) (h : pn_LE Z Z') : ∀ (n : Nat) (q : pn_S), pn_R kk nu Z p n = some q → pn_R kk nu Z' p n = some q
  | 0, q, hq => hq
  | n + 1, q, hq => by
    obtain ⟨q1, o, h1, h2⟩ := pn_R_pred hq
    exact pn_R_succ (pn_R_mono hk hp h n q1 h1) (pn_P_mono hk hp h h2)
/-- every item was put out by a step -/
theorem pn_R_hit : ∀ (n : Nat) (q : pn_S), pn_R kk nu Z p n = some q → ∀ j, j < q.1 → ∃ n' q1 q2 v, n' < n ∧ pn_R kk nu Z p n' = some q1 ∧ q1.1 = j ∧ pn_P kk nu Z p q1 = some (q2, some v)
  | 0, q, hq, j, hj => by
    have e : (0, 0, 0, 0) = q := Option.some.inj hq
    rw [← e] at hj
    exact absurd hj (Nat.not_lt_zero _)
  | n + 1, q, hq, j, hj => by
    obtain ⟨q1, o, h1, h2⟩ := pn_R_pred hq
    by_cases hc : j < q1.1
    · obtain ⟨n', q3, q4, v, a1, a2⟩ := pn_R_hit n q1 h1 j hc
      exact ⟨n', q3, q4, v, Nat.lt_succ_of_lt a1, a2⟩
    · rcases (pn_ps_facts h2).2.1 with ⟨-, e⟩ | ⟨v, rfl, e⟩
      · omega
      · exact ⟨n, q1, q, v, Nat.lt_succ_self n, h1, by omega, h2⟩
end PN
/-- the items that the first n steps of process p put out stand in V -/
def pn_Rec (kk : Nat → Nat → Nat) (nu : Nat → Int32) (Z : pn_T) (p n : Nat) (V : Nat → Int32) : Prop := ∀ n' q q' v, n' < n → pn_R kk nu Z p n' = some q → pn_P kk nu Z p q = some (q', some v) → V q.1 = v
/-- the streams are what the processes have put out, their own states are pi -/
def pn_I1 (kk : Nat → Nat → Nat) (nu : Nat → Int32) (Z : pn_T) (pi : Nat → pn_S) : Prop := ∀ p, p < 8 → (pi p).1 = Z.1 p ∧ ∃ n, pn_R kk nu Z p n = some (pi p) ∧ pn_Rec kk nu Z p n (Z.2 p)
/-- and no process can go on -/
def pn_Fix (kk : Nat → Nat → Nat) (nu : Nat → Int32) (Z : pn_T) : Prop := ∃ pi, pn_I1 kk nu Z pi ∧ ∀ p, p < 8 → pn_P kk nu Z p (pi p) = none
def pn_I2 (kk : Nat → Nat → Nat) (nu : Nat → Int32) (Z : pn_T) : Prop := ∀ Z', pn_Fix kk nu Z' → pn_LE Z Z'
section PN2
variable {kk : Nat → Nat → Nat} {nu : Nat → Int32} {Z Z' : pn_T} {p : Nat} {pi : Nat → pn_S}
theorem pn_Rec_mono (hk : pn_ok kk) (hp : p < 8) (h : pn_LE Z Z') {n : Nat} {q : pn_S} {V : Nat → Int32} (hn : pn_R kk nu Z p n = some q) (hR : pn_Rec kk nu Z p n V) : pn_Rec kk nu Z' p n V := by
  intro n' q1 q2 v hl h1 h2
  obtain ⟨q3, h3⟩ := pn_R_some (n := n' + 1) hl hn
  obtain ⟨q4, o, h4, h5⟩ := pn_R_pred h3
  have e1 := pn_R_mono hk hp h _ _ h4
  rw [h1] at e1
  obtain rfl := Option.some.inj e1
  have e2 := pn_P_mono hk hp h h5
  rw [h2] at e2
  rw [← Option.some.inj e2] at h5
  exact hR n' q1 q2 v hl h4 h5
theorem pn_Rec_eq {n : Nat} {q : pn_S} {V V' : Nat → Int32} (hn : pn_R kk nu Z p n = some q) (hR : pn_Rec kk nu Z p n V) (hV : ∀ j, j < q.1 → V' j = V j) : pn_Rec kk nu Z p n V' := by
  intro n' q1 q2 v hl h1 h2
  have h3 := pn_R_succ h1 h2
  have h4 := pn_R_le (n := n' + 1) hl h3 hn
  rcases (pn_ps_facts h2).2.1 with ⟨e, -⟩ | ⟨w, -, e⟩
  · cases e
  · rw [hV q1.1 (by dsimp only at h4; omega)]
    exact hR n' q1 q2 v hl h1 h2
/-- two records of one machine agree -/
theorem pn_Rec_agree {n k : Nat} {q r : pn_S} {V V' : Nat → Int32} (hn : pn_R kk nu Z p n = some q) (hR : pn_Rec kk nu Z p n V) (hk : pn_R kk nu Z p k = some r) (hR' : pn_Rec kk nu Z p k V') {j : Nat} (h1 : j < q.1) (h2 : j < r.1) : V j = V' j := by
  obtain ⟨n', q1, q2, v, a1, a2, a3, a4⟩ := pn_R_hit n q hn j h1
  have hlt : n' < k := by
    rcases Nat.lt_or_ge n' k with z | z
    · exact z
    · have := pn_R_le z hk a2
      omega
  rw [← a3, hR n' q1 q2 v a1 a2 a4, hR' n' q1 q2 v hlt a2 a4]
/-- ONE process goes on to a later state of its run: the streams grow, and all invariants stay -/
theorem pn_ext (hk : pn_ok kk) (hI : pn_I1 kk nu Z pi) (hp : p < 8) {k : Nat} {q : pn_S} (hR : pn_R kk nu Z p k = some q) (hq : Z.1 p ≤ q.1) (hrec : pn_Rec kk nu Z p k (Z'.2 p)) (hl : Z'.1 p = q.1) (ho : ∀ r, r < 8 → r ≠ p → Z'.1 r = Z.1 r ∧ ∀ j, j < Z.1 r → Z'.2 r j = Z.2 r j) :
    pn_LE Z Z' ∧ pn_I1 kk nu Z' (fun r => if r = p then q else pi r) ∧ (pn_I2 kk nu Z → pn_I2 kk nu Z') := by
  have hLE : pn_LE Z Z' := by
    intro r hr
    by_cases e : r = p
    · subst e
      obtain ⟨e1, n, h1, h2⟩ := hI r hr
      exact ⟨by omega, fun j hj => pn_Rec_agree h1 h2 hR hrec (by omega) (by omega)⟩
    · exact ⟨by rw [(ho r hr e).1]; exact Nat.le_refl _, fun j hj => ((ho r hr e).2 j hj).symm⟩
  refine ⟨hLE, ?_, ?_⟩
  · intro r hr
    by_cases e : r = p
    · subst e
      dsimp only
      rw [if_pos rfl]
      exact ⟨hl.symm, k, pn_R_mono hk hr hLE _ _ hR, pn_Rec_mono hk hr hLE hR hrec⟩
    · dsimp only
      rw [if_neg e]
      obtain ⟨e1, n, h1, h2⟩ := hI r hr
      exact ⟨by rw [(ho r hr e).1]; exact e1, n, pn_R_mono hk hr hLE _ _ h1, pn_Rec_mono hk hr hLE h1 (pn_Rec_eq h1 h2 (fun j hj => (ho r hr e).2 j (by omega)))⟩
  · intro h2 W hW r hr
    have hLW := h2 W hW
    by_cases e : r = p
    · subst e
      obtain ⟨pw, hw1, hw2⟩ := hW
      obtain ⟨e1, n, w1, w2⟩ := hw1 r hr
      have hRW := pn_R_mono hk hr hLW _ _ hR
      have hkn : k ≤ n := pn_R_stuck w1 (hw2 r hr) hRW
      have hle := pn_R_le hkn hRW w1
      refine ⟨by omega, fun j hj => ?_⟩
      exact pn_Rec_agree hRW (pn_Rec_mono hk hr hLW hR hrec) w1 w2 (by omega) (by omega)
    · exact ⟨by rw [(ho r hr e).1]; exact (hLW r hr).1, fun j hj => by rw [(ho r hr e).1] at hj; rw [(ho r hr e).2 j hj]; exact (hLW r hr).2 j hj⟩
/-- two least fixed streams are one -/
theorem pn_same (h1 : pn_Fix kk nu Z) (l1 : pn_I2 kk nu Z) (h2 : pn_Fix kk nu Z') (l2 : pn_I2 kk nu Z') (hp : p < 8) : Z.1 p = Z'.1 p ∧ ∀ k, k < Z.1 p → Z.2 p k = Z'.2 p k :=
  ⟨Nat.le_antisymm (l1 _ h2 p hp).1 (l2 _ h1 p hp).1, (l1 _ h2 p hp).2⟩
/-- all streams empty -/
theorem pn_I1_0 (h0 : ∀ p, p < 8 → Z.1 p = 0) : pn_I1 kk nu Z (fun _ => (0, 0, 0, 0)) := fun p hp => ⟨(h0 p hp).symm, 0, rfl, fun _ _ _ _ h => absurd h (Nat.not_lt_zero _)⟩
theorem pn_I2_0 (h0 : ∀ p, p < 8 → Z.1 p = 0) : pn_I2 kk nu Z := fun _ _ p hp => ⟨by rw [h0 p hp]; exact Nat.zero_le _, fun k hk => by rw [h0 p hp] at hk; exact absurd hk (Nat.not_lt_zero _)⟩
/-- a state can't go on where it couldn't, if its inputs are as they were -/
theorem pn_stay {q : pn_S} (hs : pn_P kk nu Z p q = none) (hx : Z'.1 (kk 1 p) = Z.1 (kk 1 p) ∧ ∀ j, j < Z.1 (kk 1 p) → Z'.2 (kk 1 p) j = Z.2 (kk 1 p) j) (hy : Z'.1 (kk 2 p) = Z.1 (kk 2 p) ∧ ∀ j, j < Z.1 (kk 2 p) → Z'.2 (kk 2 p) j = Z.2 (kk 2 p) j) : pn_P kk nu Z' p q = none := by
  cases h : pn_P kk nu Z' p q with
  | none => rfl
  | some r =>
    have h2 : pn_P kk nu Z p q = some r := pn_mono (by rw [hx.1]; exact Nat.le_refl _) (fun j hj => hx.2 j (by rw [← hx.1]; exact hj)) (by rw [hy.1]; exact Nat.le_refl _) (fun j hj => hy.2 j (by rw [← hy.1]; exact hj)) h
    rw [hs] at h2
    cases h2
end PN2
end
section
/-! PURE 2: the class. A state: Nat fields and Int32 fields by number: 0 kind, 1 inputX, 2 inputY, 3 number (second), 4 made, 5 readX, 6 readY, 7 total (second), 8 items (second), 9 waiting, 10 head (both at place 0), 11 ring, 12 listed -/
abbrev us_S : Type := (Nat → Nat → Nat) × (Nat → Nat → Int32)
def us_N (σ : us_S) (k i v : Nat) : us_S := (fun a => bif Nat.beq a k then (fun j => if j = i then v else σ.1 a j) else σ.1 a, σ.2)
def us_V (σ : us_S) (k i : Nat) (v : Int32) : us_S := (σ.1, fun a => bif Nat.beq a k then (fun j => if j = i then v else σ.2 a j) else σ.2 a)
theorem us_beq {a k : Nat} (h : a ≠ k) : Nat.beq a k = false := by
  cases e : Nat.beq a k with
  | false => rfl
  | true => exact absurd (Nat.eq_of_beq_eq_true e) h
theorem us_beq' (k : Nat) : Nat.beq k k = true := Nat.beq_refl k
theorem us_N1 (σ : us_S) (k i v a j : Nat) : (us_N σ k i v).1 a j = if a = k ∧ j = i then v else σ.1 a j := by
  unfold us_N
  by_cases h : a = k
  · subst h
    simp only [us_beq', cond_true, true_and]
  · simp only [us_beq h, cond_false, h, false_and, if_false]
theorem us_Nf {σ : us_S} {k i v a : Nat} (h : a ≠ k) : (us_N σ k i v).1 a = σ.1 a := by
  funext j
  rw [us_N1, if_neg (fun z => h z.1)]
theorem us_N2 (σ : us_S) (k i v : Nat) : (us_N σ k i v).2 = σ.2 := rfl
theorem us_V1 (σ : us_S) (k i : Nat) (v : Int32) : (us_V σ k i v).1 = σ.1 := rfl
theorem us_V2 (σ : us_S) (k i : Nat) (v : Int32) (a j : Nat) : (us_V σ k i v).2 a j = if a = k ∧ j = i then v else σ.2 a j := by
  unfold us_V
  by_cases h : a = k
  · subst h
    simp only [us_beq', cond_true, true_and]
  · simp only [us_beq h, cond_false, h, false_and, if_false]
theorem us_Vf {σ : us_S} {k i a : Nat} {v : Int32} (h : a ≠ k) : (us_V σ k i v).2 a = σ.2 a := by
  funext j
  rw [us_V2, if_neg (fun z => h z.1)]
/-! one step of a process -/
def xc_hX (σ : us_S) (p : Nat) : Bool := decide (σ.1 5 p < σ.1 4 (σ.1 1 p))
def xc_hY (σ : us_S) (p : Nat) : Bool := decide (σ.1 6 p < σ.1 4 (σ.1 2 p))
def xc_iX (σ : us_S) (p : Nat) : Int32 := σ.2 8 (σ.1 1 p * 40 + σ.1 5 p)
def xc_iY (σ : us_S) (p : Nat) : Int32 := σ.2 8 (σ.1 2 p * 40 + σ.1 6 p)
def xc_tX (σ : us_S) (p : Nat) : us_S := us_N σ 5 p (σ.1 5 p + 1)
def xc_tY (σ : us_S) (p : Nat) : us_S := us_N σ 6 p (σ.1 6 p + 1)
def xc_mk (σ : us_S) (p : Nat) (v : Int32) : us_S := us_N (us_V σ 8 (p * 40 + σ.1 4 p) v) 4 p (σ.1 4 p + 1)
def xc_turn (σ : us_S) (p : Nat) : Bool × us_S :=
  if σ.1 4 p % 2 = 0 then (if xc_hX σ p = true then (true, xc_mk (xc_tX σ p) p (xc_iX σ p)) else (false, σ))
  else (if xc_hY σ p = true then (true, xc_mk (xc_tY σ p) p (xc_iY σ p)) else (false, σ))
def xc_odd (σ : us_S) (p : Nat) : Bool × us_S :=
  if xc_hX σ p = true then (true, if xc_iX σ p &&& 1 = 1 then xc_mk (xc_tX σ p) p (xc_iX σ p) else xc_tX σ p) else (false, σ)
def xc_delay (σ : us_S) (p : Nat) : Bool × us_S :=
  if σ.1 4 p = 0 then (true, xc_mk σ p (σ.2 3 p))
  else if xc_hX σ p = true then (true, xc_mk (xc_tX σ p) p (xc_iX σ p)) else (false, σ)
def xc_pair (σ : us_S) (p : Nat) : Bool × us_S :=
  if (xc_hX σ p && xc_hY σ p) = true then
    (true, if σ.1 0 p = 2 then xc_mk (xc_tY (xc_tX σ p) p) p (xc_iX σ p + xc_iY σ p)
      else if xc_iX σ p ≤ xc_iY σ p then xc_mk (xc_tX σ p) p (xc_iX σ p) else xc_mk (xc_tY σ p) p (xc_iY σ p))
  else (false, σ)
def xc_sum (σ : us_S) (p : Nat) : Bool × us_S :=
  if xc_hX σ p = true then (true, xc_mk (us_V (xc_tX σ p) 7 p (σ.2 7 p + xc_iX σ p)) p (σ.2 7 p + xc_iX σ p)) else (false, σ)
def xc_step (σ : us_S) (p : Nat) : Bool × us_S :=
  if 40 ≤ σ.1 4 p then (false, σ)
  else if σ.1 0 p = 0 then (true, xc_mk σ p (σ.2 3 p + nI (σ.1 4 p)))
  else if σ.1 0 p = 1 then (if σ.1 4 p < 5 then (true, xc_mk σ p (σ.2 3 p * nI (2 * σ.1 4 p + 1))) else (false, σ))
  else if σ.1 0 p = 2 ∨ σ.1 0 p = 6 then xc_pair σ p
  else if σ.1 0 p = 3 then xc_turn σ p
  else if σ.1 0 p = 4 then xc_odd σ p
  else if σ.1 0 p = 5 then xc_delay σ p
  else xc_sum σ p
/-! the same, as the machine's step -/
def xc_k (σ : us_S) : Nat → Nat → Nat := fun a => if a < 3 then σ.1 a else fun _ => 0
theorem xc_k_eq {σ τ : us_S} (h0 : τ.1 0 = σ.1 0) (h1 : τ.1 1 = σ.1 1) (h2 : τ.1 2 = σ.1 2) : xc_k τ = xc_k σ := by
  funext a
  unfold xc_k
  by_cases h : a < 3
  · rw [if_pos h, if_pos h]
    match a, h with
    | 0, _ => exact h0
    | 1, _ => exact h1
    | 2, _ => exact h2
  · rw [if_neg h, if_neg h]
def xc_Z (σ : us_S) : pn_T := (σ.1 4, fun p k => σ.2 8 (p * 40 + k))
def xc_pi (σ : us_S) (p : Nat) : pn_S := (σ.1 4 p, σ.1 5 p, σ.1 6 p, σ.2 7 p)
def xc_P (σ : us_S) (p : Nat) : Option (pn_S × Option Int32) := pn_P (xc_k σ) (σ.2 3) (xc_Z σ) p (xc_pi σ p)
/-- only what process p has read, and its sum, may differ -/
def xc_R0 (σ : us_S) (p : Nat) (τ : us_S) : Prop := (∀ a, a ≠ 5 → a ≠ 6 → τ.1 a = σ.1 a) ∧ (∀ a r, r ≠ p → τ.1 a r = σ.1 a r) ∧ (∀ a, a ≠ 7 → τ.2 a = σ.2 a) ∧ (∀ r, r ≠ p → τ.2 7 r = σ.2 7 r)
/-- a step of process p: its own state is q then, and it put out o -/
def xc_SR (σ : us_S) (p : Nat) (q : pn_S) (o : Option Int32) (τ : us_S) : Prop := (∀ a, a ≠ 4 → a ≠ 5 → a ≠ 6 → τ.1 a = σ.1 a) ∧ (∀ a r, r ≠ p → τ.1 a r = σ.1 a r) ∧ xc_pi τ p = q ∧ (∀ a, a ≠ 7 → a ≠ 8 → τ.2 a = σ.2 a) ∧ (∀ r, r ≠ p → τ.2 7 r = σ.2 7 r) ∧ (o = none → τ.2 8 = σ.2 8) ∧ ∀ v, o = some v → ∀ i, τ.2 8 i = if i = p * 40 + σ.1 4 p then v else σ.2 8 i
theorem xc_R0.rf {σ : us_S} {p : Nat} : xc_R0 σ p σ := ⟨fun _ _ _ => rfl, fun _ _ _ => rfl, fun _ _ => rfl, fun _ _ => rfl⟩
theorem xc_R0.N {σ τ : us_S} {p k v : Nat} (h : xc_R0 σ p τ) (hk : k = 5 ∨ k = 6) : xc_R0 σ p (us_N τ k p v) :=
  ⟨fun a h5 h6 => by rw [us_Nf (by omega)]; exact h.1 a h5 h6, fun a r hr => by rw [us_N1, if_neg (fun z => hr z.2)]; exact h.2.1 a r hr, h.2.2.1, h.2.2.2⟩
theorem xc_R0.V {σ τ : us_S} {p : Nat} {v : Int32} (h : xc_R0 σ p τ) : xc_R0 σ p (us_V τ 7 p v) :=
  ⟨h.1, h.2.1, fun a ha => by rw [us_Vf ha]; exact h.2.2.1 a ha, fun r hr => by rw [us_V2, if_neg (fun z => hr z.2)]; exact h.2.2.2 r hr⟩
theorem xc_R0.no {σ τ : us_S} {p : Nat} (h : xc_R0 σ p τ) : xc_SR σ p (σ.1 4 p, τ.1 5 p, τ.1 6 p, τ.2 7 p) none τ :=
  ⟨fun a _ h5 h6 => h.1 a h5 h6, h.2.1, by unfold xc_pi; rw [h.1 4 (by decide) (by decide)], fun a h7 _ => h.2.2.1 a h7, h.2.2.2, fun _ => h.2.2.1 8 (by decide), fun _ z => by cases z⟩
theorem xc_R0.mk {σ τ : us_S} {p : Nat} (h : xc_R0 σ p τ) (v : Int32) : xc_SR σ p (σ.1 4 p + 1, τ.1 5 p, τ.1 6 p, τ.2 7 p) (some v) (xc_mk τ p v) := by
  have h4 : τ.1 4 = σ.1 4 := h.1 4 (by decide) (by decide)
  refine ⟨fun a h4 h5 h6 => ?_, fun a r hr => ?_, ?_, fun a h7 h8 => ?_, fun r hr => ?_, (fun z => by cases z), fun w hw i => ?_⟩
  · unfold xc_mk
    rw [us_Nf h4, us_V1]
    exact h.1 a h5 h6
  · unfold xc_mk
    rw [us_N1, if_neg (fun z => hr z.2), us_V1]
    exact h.2.1 a r hr
  · unfold xc_mk xc_pi
    rw [us_N1, us_Nf (by decide), us_Nf (by decide), us_N2, us_V1, us_Vf (by decide), h4]
    simp
  · unfold xc_mk
    rw [us_N2, us_Vf h8]
    exact h.2.2.1 a h7
  · unfold xc_mk
    rw [us_N2, us_Vf (by decide)]
    exact h.2.2.2 r hr
  · unfold xc_mk
    rw [us_N2, us_V2, h4]
    rw [← Option.some.inj hw]
    rw [h.2.2.1 8 (by decide)]
    simp
theorem pn_psE (kk : Nat) (a : Int32) (lx : Nat) (fx : Nat → Int32) (ly : Nat) (fy : Nat → Int32) (m i j : Nat) (t : Int32) : pn_ps kk a lx fx ly fy (m, i, j, t) =
  (if 40 ≤ m then none
  else if kk = 0 then some ((m + 1, i, j, t), some (a + nI m))
  else if kk = 1 then (if m < 5 then some ((m + 1, i, j, t), some (a * nI (2 * m + 1))) else none)
  else if kk = 2 then (if i < lx ∧ j < ly then some ((m + 1, i + 1, j + 1, t), some (fx i + fy j)) else none)
  else if kk = 3 then
    (if m % 2 = 0 then (if i < lx then some ((m + 1, i + 1, j, t), some (fx i)) else none)
     else (if j < ly then some ((m + 1, i, j + 1, t), some (fy j)) else none))
  else if kk = 4 then
    (if i < lx then (if fx i &&& 1 = 1 then some ((m + 1, i + 1, j, t), some (fx i)) else some ((m, i + 1, j, t), none)) else none)
  else if kk = 5 then
    (if m = 0 then some ((m + 1, i, j, t), some a)
     else (if i < lx then some ((m + 1, i + 1, j, t), some (fx i)) else none))
  else if kk = 6 then
    (if i < lx ∧ j < ly then (if fx i ≤ fy j then some ((m + 1, i + 1, j, t), some (fx i)) else some ((m + 1, i, j + 1, t), some (fy j))) else none)
  else (if i < lx then some ((m + 1, i + 1, j, t + fx i), some (t + fx i)) else none)) := rfl
theorem xc_link (σ : us_S) (p : Nat) : (xc_P σ p = none ∧ xc_step σ p = (false, σ)) ∨ ∃ q o τ, xc_P σ p = some (q, o) ∧ xc_step σ p = (true, τ) ∧ xc_SR σ p q o τ := by
  have e0 : xc_k σ 0 p = σ.1 0 p := rfl
  have e1 : xc_k σ 1 p = σ.1 1 p := rfl
  have e2 : xc_k σ 2 p = σ.1 2 p := rfl
  have eX : xc_hX σ p = true ↔ σ.1 5 p < σ.1 4 (σ.1 1 p) := by unfold xc_hX; exact decide_eq_true_iff
  have eY : xc_hY σ p = true ↔ σ.1 6 p < σ.1 4 (σ.1 2 p) := by unfold xc_hY; exact decide_eq_true_iff
  have tX5 : (xc_tX σ p).1 5 p = σ.1 5 p + 1 := by unfold xc_tX; rw [us_N1]; simp
  have tX6 : (xc_tX σ p).1 6 p = σ.1 6 p := by unfold xc_tX; rw [us_N1]; simp
  have tY5 : (xc_tY σ p).1 5 p = σ.1 5 p := by unfold xc_tY; rw [us_N1]; simp
  have tY6 : (xc_tY σ p).1 6 p = σ.1 6 p + 1 := by unfold xc_tY; rw [us_N1]; simp
  have rX : xc_R0 σ p (xc_tX σ p) := xc_R0.rf.N (Or.inl rfl)
  have rY : xc_R0 σ p (xc_tY σ p) := xc_R0.rf.N (Or.inr rfl)
  have sX : ∀ v, xc_SR σ p (σ.1 4 p + 1, σ.1 5 p + 1, σ.1 6 p, σ.2 7 p) (some v) (xc_mk (xc_tX σ p) p v) := fun v => by
    have h := rX.mk v
    rw [tX5, tX6] at h
    exact h
  have sY : ∀ v, xc_SR σ p (σ.1 4 p + 1, σ.1 5 p, σ.1 6 p + 1, σ.2 7 p) (some v) (xc_mk (xc_tY σ p) p v) := fun v => by
    have h := rY.mk v
    rw [tY5, tY6] at h
    exact h
  have s0 : ∀ v, xc_SR σ p (σ.1 4 p + 1, σ.1 5 p, σ.1 6 p, σ.2 7 p) (some v) (xc_mk σ p v) := fun v => xc_R0.rf.mk v
  rw [show xc_P σ p = _ from pn_psE (σ.1 0 p) (σ.2 3 p) (σ.1 4 (σ.1 1 p)) (fun k => σ.2 8 (σ.1 1 p * 40 + k)) (σ.1 4 (σ.1 2 p)) (fun k => σ.2 8 (σ.1 2 p * 40 + k)) (σ.1 4 p) (σ.1 5 p) (σ.1 6 p) (σ.2 7 p)]
  unfold xc_step
  by_cases h40 : 40 ≤ σ.1 4 p
  · rw [if_pos h40, if_pos h40]; exact Or.inl ⟨rfl, rfl⟩
  rw [if_neg h40, if_neg h40]
  by_cases k0 : σ.1 0 p = 0
  · rw [if_pos k0, if_pos k0]; exact Or.inr ⟨_, _, _, rfl, rfl, s0 _⟩
  rw [if_neg k0, if_neg k0]
  by_cases k1 : σ.1 0 p = 1
  · rw [if_pos k1, if_pos k1]
    by_cases h5 : σ.1 4 p < 5
    · rw [if_pos h5, if_pos h5]; exact Or.inr ⟨_, _, _, rfl, rfl, s0 _⟩
    · rw [if_neg h5, if_neg h5]; exact Or.inl ⟨rfl, rfl⟩
  rw [if_neg k1, if_neg k1]
  by_cases k2 : σ.1 0 p = 2
  · rw [if_pos k2, if_pos (Or.inl k2)]
    unfold xc_pair
    by_cases z : σ.1 5 p < σ.1 4 (σ.1 1 p) ∧ σ.1 6 p < σ.1 4 (σ.1 2 p)
    · rw [if_pos z, if_pos (show (xc_hX σ p && xc_hY σ p) = true by rw [Bool.and_eq_true]; exact ⟨eX.mpr z.1, eY.mpr z.2⟩), if_pos k2]
      have h := (rX.N (k := 6) (v := (xc_tX σ p).1 6 p + 1) (Or.inr rfl)).mk (xc_iX σ p + xc_iY σ p)
      rw [us_N1, us_N1, tX5, tX6] at h
      simp only [Nat.reduceEqDiff, false_and, if_false, true_and, if_true] at h
      exact Or.inr ⟨_, _, _, rfl, rfl, h⟩
    · rw [if_neg z, if_neg (show ¬ (xc_hX σ p && xc_hY σ p) = true by rw [Bool.and_eq_true]; exact fun w => z ⟨eX.mp w.1, eY.mp w.2⟩)]; exact Or.inl ⟨rfl, rfl⟩
  rw [if_neg k2]
  by_cases k3 : σ.1 0 p = 3
  · rw [if_pos k3, if_neg (show ¬ (σ.1 0 p = 2 ∨ σ.1 0 p = 6) by omega), if_pos k3]
    unfold xc_turn
    by_cases ev : σ.1 4 p % 2 = 0
    · rw [if_pos ev, if_pos ev]
      by_cases z : σ.1 5 p < σ.1 4 (σ.1 1 p)
      · rw [if_pos z, if_pos (eX.mpr z)]; exact Or.inr ⟨_, _, _, rfl, rfl, sX _⟩
      · rw [if_neg z, if_neg (fun w => z (eX.mp w))]; exact Or.inl ⟨rfl, rfl⟩
    · rw [if_neg ev, if_neg ev]
      by_cases z : σ.1 6 p < σ.1 4 (σ.1 2 p)
      · rw [if_pos z, if_pos (eY.mpr z)]; exact Or.inr ⟨_, _, _, rfl, rfl, sY _⟩
      · rw [if_neg z, if_neg (fun w => z (eY.mp w))]; exact Or.inl ⟨rfl, rfl⟩
  rw [if_neg k3]
  by_cases k4 : σ.1 0 p = 4
  · rw [if_pos k4, if_neg (show ¬ (σ.1 0 p = 2 ∨ σ.1 0 p = 6) by omega), if_neg k3, if_pos k4]
    unfold xc_odd
    by_cases z : σ.1 5 p < σ.1 4 (σ.1 1 p)
    · rw [if_pos z, if_pos (eX.mpr z)]
      by_cases od : σ.2 8 (σ.1 1 p * 40 + σ.1 5 p) &&& 1 = 1
      · rw [if_pos od, if_pos (show xc_iX σ p &&& 1 = 1 from od)]; exact Or.inr ⟨_, _, _, rfl, rfl, sX _⟩
      · rw [if_neg od, if_neg (show ¬ xc_iX σ p &&& 1 = 1 from od)]
        have h := rX.no
        rw [tX5, tX6] at h
        exact Or.inr ⟨_, _, _, rfl, rfl, h⟩
    · rw [if_neg z, if_neg (fun w => z (eX.mp w))]; exact Or.inl ⟨rfl, rfl⟩
  rw [if_neg k4]
  by_cases k5 : σ.1 0 p = 5
  · rw [if_pos k5, if_neg (show ¬ (σ.1 0 p = 2 ∨ σ.1 0 p = 6) by omega), if_neg k3, if_neg k4, if_pos k5]
    unfold xc_delay
    by_cases m0 : σ.1 4 p = 0
    · rw [if_pos m0, if_pos m0]; exact Or.inr ⟨_, _, _, rfl, rfl, s0 _⟩
    · rw [if_neg m0, if_neg m0]
      by_cases z : σ.1 5 p < σ.1 4 (σ.1 1 p)
      · rw [if_pos z, if_pos (eX.mpr z)]; exact Or.inr ⟨_, _, _, rfl, rfl, sX _⟩
      · rw [if_neg z, if_neg (fun w => z (eX.mp w))]; exact Or.inl ⟨rfl, rfl⟩
  rw [if_neg k5]
  by_cases k6 : σ.1 0 p = 6
  · rw [if_pos k6, if_pos (Or.inr k6)]
    unfold xc_pair
    by_cases z : σ.1 5 p < σ.1 4 (σ.1 1 p) ∧ σ.1 6 p < σ.1 4 (σ.1 2 p)
    · rw [if_pos z, if_pos (show (xc_hX σ p && xc_hY σ p) = true by rw [Bool.and_eq_true]; exact ⟨eX.mpr z.1, eY.mpr z.2⟩), if_neg k2]
      by_cases le : σ.2 8 (σ.1 1 p * 40 + σ.1 5 p) ≤ σ.2 8 (σ.1 2 p * 40 + σ.1 6 p)
      · rw [if_pos le, if_pos (show xc_iX σ p ≤ xc_iY σ p from le)]; exact Or.inr ⟨_, _, _, rfl, rfl, sX _⟩
      · rw [if_neg le, if_neg (show ¬ xc_iX σ p ≤ xc_iY σ p from le)]; exact Or.inr ⟨_, _, _, rfl, rfl, sY _⟩
    · rw [if_neg z, if_neg (show ¬ (xc_hX σ p && xc_hY σ p) = true by rw [Bool.and_eq_true]; exact fun w => z ⟨eX.mp w.1, eY.mp w.2⟩)]; exact Or.inl ⟨rfl, rfl⟩
  rw [if_neg k6, if_neg (show ¬ (σ.1 0 p = 2 ∨ σ.1 0 p = 6) by omega), if_neg k3, if_neg k4, if_neg k5]
  unfold xc_sum
  by_cases z : σ.1 5 p < σ.1 4 (σ.1 1 p)
  · rw [if_pos z, if_pos (eX.mpr z)]
    have h := (rX.V (v := σ.2 7 p + xc_iX σ p)).mk (σ.2 7 p + xc_iX σ p)
    rw [us_V1, us_V2, tX5, tX6] at h
    simp only [true_and, if_true] at h
    exact Or.inr ⟨_, _, _, rfl, rfl, h⟩
  · rw [if_neg z, if_neg (fun w => z (eX.mp w))]; exact Or.inl ⟨rfl, rfl⟩
end
section
/-! PURE 3: the class's invariant; run, settle and restart keep it; settle ends with nobody waiting -/
def xc_s8 (f : Nat → Nat) : Nat := f 0 + f 1 + f 2 + f 3 + f 4 + f 5 + f 6 + f 7
theorem xc_c8 {P : Nat → Prop} (h0 : P 0) (h1 : P 1) (h2 : P 2) (h3 : P 3) (h4 : P 4) (h5 : P 5) (h6 : P 6) (h7 : P 7) : ∀ p, p < 8 → P p
  | 0, _ => h0
  | 1, _ => h1
  | 2, _ => h2
  | 3, _ => h3
  | 4, _ => h4
  | 5, _ => h5
  | 6, _ => h6
  | 7, _ => h7
  | n + 8, h => absurd h (by omega)
theorem xc_s8_up (f g : Nat → Nat) (v : Nat) : ∀ p, p < 8 → (∀ r, g r = if r = p then v else f r) → xc_s8 g + f p = xc_s8 f + v := by
  have key : ∀ p, p < 8 → xc_s8 (fun r => if r = p then v else f r) + f p = xc_s8 f + v := by
    apply xc_c8 <;> (simp [xc_s8]; omega)
  intro p hp hg
  rw [show g = fun r => if r = p then v else f r from funext hg]
  exact key p hp
theorem xc_s8_le {f : Nat → Nat} {b : Nat} (h : ∀ p, p < 8 → f p ≤ b) : xc_s8 f ≤ 8 * b := by
  have h0 := h 0 (by decide); have h1 := h 1 (by decide); have h2 := h 2 (by decide); have h3 := h 3 (by decide)
  have h4 := h 4 (by decide); have h5 := h 5 (by decide); have h6 := h 6 (by decide); have h7 := h 7 (by decide)
  unfold xc_s8; omega
theorem xc_s8_0 {f : Nat → Nat} (h : xc_s8 f = 0) : ∀ p, p < 8 → f p = 0 := by
  unfold xc_s8 at h
  apply xc_c8 <;> omega
theorem xc_s8_eq {f g : Nat → Nat} (h : ∀ p, p < 8 → f p = g p) : xc_s8 f = xc_s8 g := by
  unfold xc_s8
  rw [h 0 (by decide), h 1 (by decide), h 2 (by decide), h 3 (by decide), h 4 (by decide), h 5 (by decide), h 6 (by decide), h 7 (by decide)]
def xc_B (σ : us_S) : Prop := pn_ok (xc_k σ) ∧ ∀ p, p < 8 → σ.1 4 p ≤ 40 ∧ σ.1 5 p ≤ 40 ∧ σ.1 6 p ≤ 40
def xc_ring (σ : us_S) : Prop := σ.1 10 0 < 8 ∧ (∀ p, p < 8 → σ.1 12 p ≤ 1) ∧ σ.1 9 0 = xc_s8 (σ.1 12) ∧ (∀ i, i < σ.1 9 0 → σ.1 11 ((σ.1 10 0 + i) % 8) < 8 ∧ σ.1 12 (σ.1 11 ((σ.1 10 0 + i) % 8)) = 1) ∧ ∀ i j, i < σ.1 9 0 → j < σ.1 9 0 → σ.1 11 ((σ.1 10 0 + i) % 8) = σ.1 11 ((σ.1 10 0 + j) % 8) → i = j
def xc_J (σ : us_S) : Prop := xc_B σ ∧ xc_ring σ ∧ pn_I1 (xc_k σ) (σ.2 3) (xc_Z σ) (xc_pi σ) ∧ pn_I2 (xc_k σ) (σ.2 3) (xc_Z σ)
def xc_SL (σ : us_S) : Prop := ∀ p, p < 8 → σ.1 12 p = 0 → xc_P σ p = none
def xc_SLx (σ : us_S) (p : Nat) : Prop := ∀ r, r < 8 → r ≠ p → σ.1 12 r = 0 → xc_P σ r = none
def xc_Inv (σ : us_S) : Prop := xc_J σ ∧ xc_SL σ
/-- process p went on: the rest is as it was -/
def xc_same (σ τ : us_S) (p : Nat) : Prop := (∀ a, a ≠ 4 → a ≠ 5 → a ≠ 6 → τ.1 a = σ.1 a) ∧ (∀ a r, r ≠ p → τ.1 a r = σ.1 a r) ∧ τ.2 3 = σ.2 3 ∧ (∀ r, r ≠ p → τ.2 7 r = σ.2 7 r) ∧ (∀ i, ¬ (p * 40 ≤ i ∧ i < p * 40 + 40) → τ.2 8 i = σ.2 8 i) ∧ (∀ k, k < σ.1 4 p → τ.2 8 (p * 40 + k) = σ.2 8 (p * 40 + k)) ∧ σ.1 4 p ≤ τ.1 4 p
theorem xc_same.rf {σ : us_S} {p : Nat} : xc_same σ σ p := ⟨fun _ _ _ _ => rfl, fun _ _ _ => rfl, rfl, fun _ _ => rfl, fun _ _ => rfl, fun _ _ => rfl, Nat.le_refl _⟩
theorem xc_same.trans {σ τ υ : us_S} {p : Nat} (h : xc_same σ τ p) (g : xc_same τ υ p) : xc_same σ υ p :=
  ⟨fun a h4 h5 h6 => (g.1 a h4 h5 h6).trans (h.1 a h4 h5 h6), fun a r hr => (g.2.1 a r hr).trans (h.2.1 a r hr), g.2.2.1.trans h.2.2.1, fun r hr => (g.2.2.2.1 r hr).trans (h.2.2.2.1 r hr), fun i hi => (g.2.2.2.2.1 i hi).trans (h.2.2.2.2.1 i hi), fun k hk => (g.2.2.2.2.2.1 k (Nat.lt_of_lt_of_le hk h.2.2.2.2.2.2)).trans (h.2.2.2.2.2.1 k hk), Nat.le_trans h.2.2.2.2.2.2 g.2.2.2.2.2.2⟩
theorem xc_same.k {σ τ : us_S} {p : Nat} (h : xc_same σ τ p) : xc_k τ = xc_k σ := xc_k_eq (h.1 0 (by decide) (by decide) (by decide)) (h.1 1 (by decide) (by decide) (by decide)) (h.1 2 (by decide) (by decide) (by decide))
theorem pn_I1_congr {kk : Nat → Nat → Nat} {nu : Nat → Int32} {Z : pn_T} {pi pi' : Nat → pn_S} (h : pn_I1 kk nu Z pi) (e : ∀ p, p < 8 → pi p = pi' p) : pn_I1 kk nu Z pi' := fun p hp => by
  rw [← e p hp]; exact h p hp
theorem xc_J_step {σ τ : us_S} {p : Nat} {q : pn_S} {o : Option Int32} (hJ : xc_J σ) (hp : p < 8) (hP : xc_P σ p = some (q, o)) (hS : xc_SR σ p q o τ) : xc_J τ ∧ xc_same σ τ p ∧ σ.1 4 p + σ.1 5 p + 1 ≤ τ.1 4 p + τ.1 5 p := by
  obtain ⟨⟨hok, hb⟩, hr, h1, h2⟩ := hJ
  obtain ⟨s1, s2, s3, s4, s5, s6, s7⟩ := hS
  have hk : xc_k τ = xc_k σ := xc_k_eq (s1 0 (by decide) (by decide) (by decide)) (s1 1 (by decide) (by decide) (by decide)) (s1 2 (by decide) (by decide) (by decide))
  have hn : τ.2 3 = σ.2 3 := s4 3 (by decide) (by decide)
  obtain ⟨f40, fo, fsum, fx, fy⟩ := pn_ps_facts hP
  subst s3
  have f40 : σ.1 4 p < 40 := f40
  have fm : σ.1 4 p ≤ τ.1 4 p ∧ τ.1 4 p ≤ 40 := by
    rcases fo with ⟨-, e⟩ | ⟨v, -, e⟩
    · have e : τ.1 4 p = σ.1 4 p := e
      omega
    · have e : τ.1 4 p = σ.1 4 p + 1 := e
      omega
  have fx : τ.1 5 p = σ.1 5 p ∨ (τ.1 5 p = σ.1 5 p + 1 ∧ σ.1 5 p < σ.1 4 (σ.1 1 p)) := fx
  have fy : τ.1 6 p = σ.1 6 p ∨ (τ.1 6 p = σ.1 6 p + 1 ∧ σ.1 6 p < σ.1 4 (σ.1 2 p)) := fy
  have fsum : σ.1 4 p + σ.1 5 p + 1 ≤ τ.1 4 p + τ.1 5 p := fsum
  have bx : σ.1 4 (σ.1 1 p) ≤ 40 := (hb _ (hok p hp).2.1).1
  have bY : σ.1 4 (σ.1 2 p) ≤ 40 := (hb _ (hok p hp).2.2).1
  have hit : ∀ i, i ≠ p * 40 + σ.1 4 p → τ.2 8 i = σ.2 8 i := by
    intro i hi
    cases o with
    | none => rw [s6 rfl]
    | some v => rw [s7 v rfl i, if_neg hi]
  have hsame : xc_same σ τ p := ⟨s1, s2, hn, s5, fun i hi => hit i (by omega), fun k hk => hit _ (by omega), fm.1⟩
  obtain ⟨e1, n, r1, r2⟩ := h1 p hp
  have hext := pn_ext (Z' := xc_Z τ) hok h1 hp (k := n + 1) (q := xc_pi τ p) (pn_R_succ r1 hP) fm.1 (by
      intro n' q1 q2 v hl h3 h4
      rcases Nat.lt_or_ge n' n with hlt | hge
      · have hle := pn_R_le (n := n' + 1) hlt (pn_R_succ h3 h4) r1
        have hq : q2.1 = q1.1 + 1 := by
          rcases (pn_ps_facts h4).2.1 with ⟨z, -⟩ | ⟨w, -, z⟩
          · cases z
          · exact z
        have hle : q2.1 ≤ σ.1 4 p := hle
        show τ.2 8 (p * 40 + q1.1) = v
        rw [hit _ (by omega)]
        exact r2 n' q1 q2 v hlt h3 h4
      · have e : n' = n := by omega
        subst e
        have hq : xc_pi σ p = q1 := Option.some.inj (r1.symm.trans h3)
        subst hq
        have ho : (xc_pi τ p, o) = (q2, some v) := Option.some.inj (hP.symm.trans h4)
        have ho : o = some v := congrArg Prod.snd ho
        show τ.2 8 (p * 40 + σ.1 4 p) = v
        rw [s7 v ho, if_pos rfl]) rfl (by
      intro r hr8 hrp
      refine ⟨s2 4 r hrp, fun j hj => hit _ ?_⟩
      have hj : j < σ.1 4 r := hj
      have := (hb r hr8).1
      omega)
  refine ⟨⟨⟨by rw [hk]; exact hok, fun r hr8 => ?_⟩, ?_, ?_, ?_⟩, hsame, fsum⟩
  · by_cases e : r = p
    · subst e
      have := hb r hr8
      omega
    · rw [s2 4 r e, s2 5 r e, s2 6 r e]
      exact hb r hr8
  · unfold xc_ring
    rw [s1 9 (by decide) (by decide) (by decide), s1 10 (by decide) (by decide) (by decide), s1 11 (by decide) (by decide) (by decide), s1 12 (by decide) (by decide) (by decide)]
    exact hr
  · rw [hk, hn]
    refine pn_I1_congr hext.2.1 (fun r hr8 => ?_)
    by_cases e : r = p
    · subst e
      rw [if_pos rfl]
    · rw [if_neg e]
      unfold xc_pi
      rw [s2 4 r e, s2 5 r e, s2 6 r e, s5 r e]
  · rw [hk, hn]
    exact hext.2.2 h2
/-! a process goes on as long as it can, at most n steps -/
def xc_loop : Nat → us_S → Nat → Bool × us_S
  | 0, σ, _ => (true, σ)
  | n + 1, σ, p => bif (xc_step σ p).1 then xc_loop n (xc_step σ p).2 p else (false, (xc_step σ p).2)
theorem xc_loop_J {p : Nat} (hp : p < 8) : ∀ (n : Nat) (σ : us_S), xc_J σ → xc_J (xc_loop n σ p).2 ∧ xc_same σ (xc_loop n σ p).2 p ∧ ((xc_loop n σ p).1 = false → xc_P (xc_loop n σ p).2 p = none) ∧ ((xc_loop n σ p).1 = true → σ.1 4 p + σ.1 5 p + n ≤ (xc_loop n σ p).2.1 4 p + (xc_loop n σ p).2.1 5 p)
  | 0, σ, hJ => ⟨hJ, xc_same.rf, (fun h => by cases h), (fun _ => Nat.le_refl _)⟩
  | n + 1, σ, hJ => by
    rcases xc_link σ p with ⟨h1, h2⟩ | ⟨q, o, τ, h1, h2, h3⟩
    · have e : xc_loop (n + 1) σ p = (false, σ) := by
        show (bif (xc_step σ p).1 then xc_loop n (xc_step σ p).2 p else (false, (xc_step σ p).2)) = _
        rw [h2]; rfl
      rw [e]
      exact ⟨hJ, xc_same.rf, (fun _ => h1), (fun h => by cases h)⟩
    · have e : xc_loop (n + 1) σ p = xc_loop n τ p := by
        show (bif (xc_step σ p).1 then xc_loop n (xc_step σ p).2 p else (false, (xc_step σ p).2)) = _
        rw [h2]; rfl
      rw [e]
      obtain ⟨g1, g2, g3⟩ := xc_J_step hJ hp h1 h3
      obtain ⟨k1, k2, k3, k4⟩ := xc_loop_J hp n τ g1
      exact ⟨k1, g2.trans k2, k3, fun h => by have := k4 h; omega⟩
/-! the ring -/
def xc_wake (σ : us_S) (p : Nat) : us_S := if σ.1 12 p = 0 then us_N (us_N (us_N σ 12 p 1) 11 ((σ.1 10 0 + σ.1 9 0) % 8) p) 9 0 (σ.1 9 0 + 1) else σ
theorem xc_wake_f {σ : us_S} {p a : Nat} (h9 : a ≠ 9) (h11 : a ≠ 11) (h12 : a ≠ 12) : (xc_wake σ p).1 a = σ.1 a := by
  unfold xc_wake
  by_cases h : σ.1 12 p = 0
  · rw [if_pos h, us_Nf h9, us_Nf h11, us_Nf h12]
  · rw [if_neg h]
theorem xc_wake_2 {σ : us_S} {p : Nat} : (xc_wake σ p).2 = σ.2 := by
  unfold xc_wake
  by_cases h : σ.1 12 p = 0
  · rw [if_pos h]; rfl
  · rw [if_neg h]
theorem xc_wake_l {σ : us_S} {p r : Nat} : (xc_wake σ p).1 12 r = if σ.1 12 p = 0 ∧ r = p then 1 else σ.1 12 r := by
  unfold xc_wake
  by_cases h : σ.1 12 p = 0
  · rw [if_pos h, us_Nf (by decide), us_Nf (by decide), us_N1]
    simp [h]
  · rw [if_neg h]
    simp [h]
theorem xc_wake_on {σ : us_S} {p : Nat} : (xc_wake σ p).1 12 p ≠ 0 := by
  rw [xc_wake_l]
  by_cases h : σ.1 12 p = 0
  · simp [h]
  · simp [h]
theorem xc_wake_off {σ : us_S} {p r : Nat} (h : (xc_wake σ p).1 12 r = 0) : σ.1 12 r = 0 := by
  rw [xc_wake_l] at h
  by_cases g : σ.1 12 p = 0 ∧ r = p
  · rw [if_pos g] at h; cases h
  · rw [if_neg g] at h; exact h
theorem xc_wake_ring {σ : us_S} {p : Nat} (hp : p < 8) (h : xc_ring σ) : xc_ring (xc_wake σ p) := by
  by_cases h0 : σ.1 12 p = 0
  · have hl : ∀ r, (xc_wake σ p).1 12 r = if r = p then 1 else σ.1 12 r := fun r => by rw [xc_wake_l]; simp [h0]
    have e9 : (xc_wake σ p).1 9 0 = σ.1 9 0 + 1 := by unfold xc_wake; rw [if_pos h0, us_N1]; simp
    have e10 : (xc_wake σ p).1 10 0 = σ.1 10 0 := by rw [xc_wake_f (by decide) (by decide) (by decide)]
    have e11 : ∀ i, (xc_wake σ p).1 11 i = if i = (σ.1 10 0 + σ.1 9 0) % 8 then p else σ.1 11 i := fun i => by
      unfold xc_wake; rw [if_pos h0, us_Nf (by decide), us_N1, us_Nf (by decide)]; simp
    obtain ⟨a1, a2, a3, a4, a5⟩ := h
    have b2 : ∀ r, r < 8 → (xc_wake σ p).1 12 r ≤ 1 := fun r hr => by
      rw [hl]
      by_cases e : r = p
      · rw [if_pos e]; exact Nat.le_refl _
      · rw [if_neg e]; exact a2 r hr
    have hs := xc_s8_up (σ.1 12) ((xc_wake σ p).1 12) 1 p hp hl
    have hle := xc_s8_le b2
    have hw : σ.1 9 0 < 8 := by omega
    refine ⟨by rw [e10]; exact a1, b2, by rw [e9]; omega, ?_, ?_⟩
    · intro i hi
      rw [e9] at hi
      rw [e10, e11, hl]
      by_cases e : i = σ.1 9 0
      · subst e
        simp [hp]
      · have hi2 : i < σ.1 9 0 := by omega
        rw [if_neg (show ¬ (σ.1 10 0 + i) % 8 = (σ.1 10 0 + σ.1 9 0) % 8 by omega)]
        refine ⟨(a4 i hi2).1, ?_⟩
        by_cases e2 : σ.1 11 ((σ.1 10 0 + i) % 8) = p
        · rw [if_pos e2]
        · rw [if_neg e2]; exact (a4 i hi2).2
    · intro i j hi hj
      rw [e9] at hi hj
      rw [e10, e11, e11]
      by_cases ei : i = σ.1 9 0
      · by_cases ej : j = σ.1 9 0
        · intro _; omega
        · have hj2 : j < σ.1 9 0 := by omega
          rw [if_pos (by rw [ei]), if_neg (show ¬ (σ.1 10 0 + j) % 8 = (σ.1 10 0 + σ.1 9 0) % 8 by omega)]
          intro z
          have := (a4 j hj2).2
          rw [← z, h0] at this
          cases this
      · have hi2 : i < σ.1 9 0 := by omega
        rw [if_neg (show ¬ (σ.1 10 0 + i) % 8 = (σ.1 10 0 + σ.1 9 0) % 8 by omega)]
        by_cases ej : j = σ.1 9 0
        · rw [if_pos (by rw [ej])]
          intro z
          have := (a4 i hi2).2
          rw [z, h0] at this
          cases this
        · have hj2 : j < σ.1 9 0 := by omega
          rw [if_neg (show ¬ (σ.1 10 0 + j) % 8 = (σ.1 10 0 + σ.1 9 0) % 8 by omega)]
          exact a5 i j hi2 hj2
  · unfold xc_wake
    rw [if_neg h0]
    exact h
/-- only the ring differs -/
def xc_eq8 (σ τ : us_S) : Prop := (∀ a, a ≤ 8 → τ.1 a = σ.1 a) ∧ τ.2 = σ.2
theorem xc_eq8.rf {σ : us_S} : xc_eq8 σ σ := ⟨fun _ _ => rfl, rfl⟩
theorem xc_eq8.trans {σ τ υ : us_S} (h : xc_eq8 σ τ) (g : xc_eq8 τ υ) : xc_eq8 σ υ := ⟨fun a ha => (g.1 a ha).trans (h.1 a ha), g.2.trans h.2⟩
theorem xc_eq8.k {σ τ : us_S} (h : xc_eq8 σ τ) : xc_k τ = xc_k σ := xc_k_eq (h.1 0 (by decide)) (h.1 1 (by decide)) (h.1 2 (by decide))
theorem xc_eq8.Z {σ τ : us_S} (h : xc_eq8 σ τ) : xc_Z τ = xc_Z σ := by unfold xc_Z; rw [h.1 4 (by decide), h.2]
theorem xc_eq8.pi {σ τ : us_S} (h : xc_eq8 σ τ) : xc_pi τ = xc_pi σ := by funext p; unfold xc_pi; rw [h.1 4 (by decide), h.1 5 (by decide), h.1 6 (by decide), h.2]
theorem xc_eq8.P {σ τ : us_S} (h : xc_eq8 σ τ) (p : Nat) : xc_P τ p = xc_P σ p := by unfold xc_P; rw [h.k, h.Z, h.pi, h.2]
theorem xc_eq8.J {σ τ : us_S} (h : xc_eq8 σ τ) (hr : xc_ring τ) (hJ : xc_J σ) : xc_J τ := by
  refine ⟨⟨by rw [h.k]; exact hJ.1.1, by rw [h.1 4 (by decide), h.1 5 (by decide), h.1 6 (by decide)]; exact hJ.1.2⟩, hr, ?_, ?_⟩
  · rw [h.k, h.Z, h.pi, h.2]; exact hJ.2.2.1
  · rw [h.k, h.Z, h.2]; exact hJ.2.2.2
theorem xc_wake_8 {σ : us_S} {p : Nat} : xc_eq8 σ (xc_wake σ p) := ⟨fun a ha => xc_wake_f (by omega) (by omega) (by omega), xc_wake_2⟩
/-- those that read p are woken: from process q on, f of them -/
def xc_wr : Nat → Nat → us_S → Nat → us_S
  | 0, _, σ, _ => σ
  | f + 1, q, σ, p => xc_wr f (q + 1) (if σ.1 1 q = p ∨ σ.1 2 q = p then xc_wake σ q else σ) p
theorem xc_wr_J {p : Nat} : ∀ (f q : Nat) (σ : us_S), q + f = 8 → xc_ring σ → xc_ring (xc_wr f q σ p) ∧ xc_eq8 σ (xc_wr f q σ p) ∧ (∀ r, (xc_wr f q σ p).1 12 r = 0 → σ.1 12 r = 0) ∧ ∀ r, q ≤ r → r < 8 → (σ.1 1 r = p ∨ σ.1 2 r = p) → (xc_wr f q σ p).1 12 r ≠ 0
  | 0, q, σ, hq, h => ⟨h, xc_eq8.rf, fun _ z => z, fun r h1 h2 => absurd h1 (by omega)⟩
  | f + 1, q, σ, hq, h => by
    have hq8 : q < 8 := by omega
    show xc_ring (xc_wr f (q + 1) (if σ.1 1 q = p ∨ σ.1 2 q = p then xc_wake σ q else σ) p) ∧ xc_eq8 σ (xc_wr f (q + 1) (if σ.1 1 q = p ∨ σ.1 2 q = p then xc_wake σ q else σ) p) ∧ (∀ r, (xc_wr f (q + 1) (if σ.1 1 q = p ∨ σ.1 2 q = p then xc_wake σ q else σ) p).1 12 r = 0 → σ.1 12 r = 0) ∧ ∀ r, q ≤ r → r < 8 → (σ.1 1 r = p ∨ σ.1 2 r = p) → (xc_wr f (q + 1) (if σ.1 1 q = p ∨ σ.1 2 q = p then xc_wake σ q else σ) p).1 12 r ≠ 0
    by_cases hc : σ.1 1 q = p ∨ σ.1 2 q = p
    · rw [if_pos hc]
      obtain ⟨g1, g2, g3, g4⟩ := xc_wr_J (p := p) f (q + 1) (xc_wake σ q) (by omega) (xc_wake_ring hq8 h)
      refine ⟨g1, xc_wake_8.trans g2, fun r z => xc_wake_off (g3 r z), fun r h1 h2 h3 => ?_⟩
      by_cases e : r = q
      · subst e
        exact fun z => xc_wake_on (g3 r z)
      · exact g4 r (by omega) h2 (by rw [xc_wake_f (by decide) (by decide) (by decide), xc_wake_f (by decide) (by decide) (by decide)]; exact h3)
    · rw [if_neg hc]
      obtain ⟨g1, g2, g3, g4⟩ := xc_wr_J (p := p) f (q + 1) σ (by omega) h
      refine ⟨g1, g2, g3, fun r h1 h2 h3 => ?_⟩
      by_cases e : r = q
      · subst e
        exact absurd h3 hc
      · exact g4 r (by omega) h2 h3
end
section
/-! PURE 4: run, settle, restart -/
def xc_run (σ : us_S) (p n : Nat) : us_S :=
  if (if (xc_loop n σ p).1 = true then xc_wake (xc_loop n σ p).2 p else (xc_loop n σ p).2).1 4 p = σ.1 4 p then (if (xc_loop n σ p).1 = true then xc_wake (xc_loop n σ p).2 p else (xc_loop n σ p).2)
  else xc_wr 8 0 (if (xc_loop n σ p).1 = true then xc_wake (xc_loop n σ p).2 p else (xc_loop n σ p).2) p
/-- what is still to come: those that wait, and eight for each item that can still be made -/
def xc_mu (σ : us_S) : Nat := σ.1 9 0 + 8 * (320 - xc_s8 (σ.1 4))
def xc_cfg (σ τ : us_S) : Prop := xc_k τ = xc_k σ ∧ τ.2 3 = σ.2 3
theorem xc_cfg.trans {σ τ υ : us_S} (h : xc_cfg σ τ) (g : xc_cfg τ υ) : xc_cfg σ υ := ⟨g.1.trans h.1, g.2.trans h.2⟩
/-- an input of another process is as it was -/
theorem xc_in_same {σ τ : us_S} {p x : Nat} (hb : ∀ r, r < 8 → σ.1 4 r ≤ 40) (hx : x < 8) (hs : xc_same σ τ p) (h : x ≠ p ∨ τ.1 4 p = σ.1 4 p) : (xc_Z τ).1 x = (xc_Z σ).1 x ∧ ∀ j, j < (xc_Z σ).1 x → (xc_Z τ).2 x j = (xc_Z σ).2 x j := by
  by_cases e : x = p
  · subst e
    have h : τ.1 4 x = σ.1 4 x := h.resolve_left (fun z => z rfl)
    exact ⟨h, fun j hj => hs.2.2.2.2.2.1 j hj⟩
  · refine ⟨hs.2.1 4 x e, fun j hj => hs.2.2.2.2.1 _ ?_⟩
    have hj : j < σ.1 4 x := hj
    have := hb x hx
    omega
theorem xc_stay {σ τ : us_S} {p r : Nat} (hJ : xc_J σ) (hr : r < 8) (hrp : r ≠ p) (hs : xc_same σ τ p) (hx : σ.1 1 r ≠ p ∨ τ.1 4 p = σ.1 4 p) (hy : σ.1 2 r ≠ p ∨ τ.1 4 p = σ.1 4 p) (h : xc_P σ r = none) : xc_P τ r = none := by
  have hb : ∀ r, r < 8 → σ.1 4 r ≤ 40 := fun r h => (hJ.1.2 r h).1
  have hpi : xc_pi τ r = xc_pi σ r := by
    unfold xc_pi
    rw [hs.2.1 4 r hrp, hs.2.1 5 r hrp, hs.2.1 6 r hrp, hs.2.2.2.1 r hrp]
  unfold xc_P
  rw [hs.k, hs.2.2.1, hpi]
  exact pn_stay h (xc_in_same hb (hJ.1.1 r hr).2.1 hs hx) (xc_in_same hb (hJ.1.1 r hr).2.2 hs hy)
theorem xc_run_J {σ : us_S} {p : Nat} (n : Nat) (hJ : xc_J σ) (hp : p < 8) (hs : xc_SLx σ p) : xc_Inv (xc_run σ p n) ∧ xc_cfg σ (xc_run σ p n) ∧ (n = 120 → xc_mu (xc_run σ p n) ≤ xc_mu σ) := by
  obtain ⟨g1, g2, g3, g4⟩ := xc_loop_J hp n σ hJ
  unfold xc_run
  generalize hL : xc_loop n σ p = L at g1 g2 g3 g4 ⊢
  obtain ⟨b, τ⟩ := L
  dsimp only at g1 g2 g3 g4 ⊢
  -- behind the loop, and the wake of p if it could go on
  have hm : xc_J (if b = true then xc_wake τ p else τ) ∧ xc_eq8 τ (if b = true then xc_wake τ p else τ) ∧ (∀ r, (if b = true then xc_wake τ p else τ).1 12 r = 0 → τ.1 12 r = 0) ∧ ((if b = true then xc_wake τ p else τ).1 12 p = 0 → b = false) := by
    cases b with
    | true =>
      rw [if_pos rfl]
      exact ⟨xc_wake_8.J (xc_wake_ring hp g1.2.1) g1, xc_wake_8, fun r z => xc_wake_off z, fun z => absurd z xc_wake_on⟩
    | false =>
      rw [if_neg (fun z => by cases z)]
      exact ⟨g1, xc_eq8.rf, fun r z => z, fun _ => rfl⟩
  have hb120 : n = 120 → b = false := by
    intro e
    cases b with
    | false => rfl
    | true =>
      have h1 := g4 rfl
      have h2 := g1.1.2 p hp
      omega
  have hc : xc_cfg σ τ := ⟨g2.k, g2.2.2.1⟩
  have hmu : (if b = true then xc_wake τ p else τ).1 4 p = τ.1 4 p := by rw [hm.2.1.1 4 (by decide)]
  have hnb : n = 120 → (if b = true then xc_wake τ p else τ) = τ := fun e => by rw [hb120 e]; rfl
  generalize hM : (if b = true then xc_wake τ p else τ) = υ at hm hmu hnb ⊢
  obtain ⟨m1, m2, m3, m4⟩ := hm
  have c12 : τ.1 12 = σ.1 12 := g2.1 12 (by decide) (by decide) (by decide)
  have hpst : υ.1 12 p = 0 → xc_P υ p = none := fun z => by rw [m2.P]; exact g3 (m4 z)
  by_cases hE : υ.1 4 p = σ.1 4 p
  · rw [if_pos hE]
    refine ⟨⟨m1, fun r hr h0 => ?_⟩, hc.trans ⟨m2.k, by rw [m2.2]⟩, fun e => ?_⟩
    · by_cases e : r = p
      · subst e
        exact hpst h0
      · rw [m2.P]
        have h00 := m3 r h0
        rw [c12] at h00
        exact xc_stay hJ hr e g2 (Or.inr (by rw [← hmu]; exact hE)) (Or.inr (by rw [← hmu]; exact hE)) (hs r hr e h00)
    · rw [hnb e]
      unfold xc_mu
      rw [g2.1 9 (by decide) (by decide) (by decide)]
      rw [xc_s8_eq (f := τ.1 4) (g := σ.1 4) (fun r _ => by
        by_cases e : r = p
        · subst e; rw [← hmu]; exact hE
        · exact g2.2.1 4 r e)]
      exact Nat.le_refl _
  · rw [if_neg hE]
    obtain ⟨w1, w2, w3, w4⟩ := xc_wr_J (p := p) 8 0 υ rfl m1.2.1
    refine ⟨⟨w2.J w1 m1, fun r hr h0 => ?_⟩, hc.trans (xc_cfg.trans ⟨m2.k, by rw [m2.2]⟩ ⟨w2.k, by rw [w2.2]⟩), fun e => ?_⟩
    · rw [w2.P]
      by_cases e : r = p
      · subst e
        exact hpst (w3 r h0)
      · rw [m2.P]
        have h00 := m3 r (w3 r h0)
        rw [c12] at h00
        have i1 : υ.1 1 r = σ.1 1 r := by rw [m2.1 1 (by decide), g2.1 1 (by decide) (by decide) (by decide)]
        have i2 : υ.1 2 r = σ.1 2 r := by rw [m2.1 2 (by decide), g2.1 2 (by decide) (by decide) (by decide)]
        exact xc_stay hJ hr e g2 (Or.inl (fun z => w4 r (Nat.zero_le _) hr (Or.inl (by rw [i1]; exact z)) h0)) (Or.inl (fun z => w4 r (Nat.zero_le _) hr (Or.inr (by rw [i2]; exact z)) h0)) (hs r hr e h00)
    · have hw : (xc_wr 8 0 υ p).1 9 0 ≤ 8 := by
        rw [w1.2.2.1]
        exact xc_s8_le w1.2.1
      have e4 : (xc_wr 8 0 υ p).1 4 = τ.1 4 := (w2.1 4 (by decide)).trans (m2.1 4 (by decide))
      have hle : xc_s8 (τ.1 4) ≤ 8 * 40 := xc_s8_le (fun r hr => (g1.1.2 r hr).1)
      have hup := xc_s8_up (σ.1 4) (τ.1 4) (τ.1 4 p) p hp (fun r => by
        by_cases e : r = p
        · subst e; rw [if_pos rfl]
        · rw [if_neg e]; exact g2.2.1 4 r e)
      have hgt : σ.1 4 p < τ.1 4 p := by
        have := g2.2.2.2.2.2.2
        rw [hmu] at hE
        omega
      unfold xc_mu
      rw [e4]
      omega
/-! settle -/
def xc_pop (σ : us_S) : us_S := us_N (us_N (us_N σ 10 0 ((σ.1 10 0 + 1) % 8)) 9 0 (σ.1 9 0 - 1)) 12 (σ.1 11 (σ.1 10 0)) 0
theorem xc_pop_8 {σ : us_S} : xc_eq8 σ (xc_pop σ) := ⟨fun a ha => by unfold xc_pop; rw [us_Nf (by omega), us_Nf (by omega), us_Nf (by omega)], rfl⟩
theorem xc_pop_J {σ : us_S} (hI : xc_Inv σ) (hw : σ.1 9 0 ≠ 0) : σ.1 11 (σ.1 10 0) < 8 ∧ xc_J (xc_pop σ) ∧ xc_SLx (xc_pop σ) (σ.1 11 (σ.1 10 0)) ∧ xc_mu (xc_pop σ) + 1 = xc_mu σ ∧ xc_cfg σ (xc_pop σ) := by
  obtain ⟨hJ, hS⟩ := hI
  have e9 : (xc_pop σ).1 9 0 = σ.1 9 0 - 1 := by unfold xc_pop; rw [us_Nf (by decide), us_N1]; simp
  have e10 : (xc_pop σ).1 10 0 = (σ.1 10 0 + 1) % 8 := by unfold xc_pop; rw [us_Nf (by decide), us_Nf (by decide), us_N1]; simp
  have e11 : (xc_pop σ).1 11 = σ.1 11 := by unfold xc_pop; rw [us_Nf (by decide), us_Nf (by decide), us_Nf (by decide)]
  have e12 : ∀ r, (xc_pop σ).1 12 r = if r = σ.1 11 (σ.1 10 0) then 0 else σ.1 12 r := fun r => by
    unfold xc_pop; rw [us_N1, us_Nf (by decide), us_Nf (by decide)]; simp
  obtain ⟨a1, a2, a3, a4, a5⟩ := hJ.2.1
  have h0 := a4 0 (by omega)
  rw [Nat.add_zero, Nat.mod_eq_of_lt a1] at h0
  have hs := xc_s8_up (σ.1 12) ((xc_pop σ).1 12) 0 _ h0.1 e12
  have hring : xc_ring (xc_pop σ) := by
    refine ⟨by rw [e10]; omega, fun r hr => ?_, by rw [e9]; omega, fun i hi => ?_, fun i j hi hj => ?_⟩
    · rw [e12]
      by_cases e : r = σ.1 11 (σ.1 10 0)
      · rw [if_pos e]; exact Nat.zero_le _
      · rw [if_neg e]; exact a2 r hr
    · rw [e9] at hi
      rw [e10, e11, e12]
      have em : ((σ.1 10 0 + 1) % 8 + i) % 8 = (σ.1 10 0 + (i + 1)) % 8 := by omega
      rw [em]
      have h4 := a4 (i + 1) (by omega)
      refine ⟨h4.1, ?_⟩
      rw [if_neg (fun z => by
        have := a5 (i + 1) 0 (by omega) (by omega) (by rw [z, Nat.add_zero, Nat.mod_eq_of_lt a1])
        omega)]
      exact h4.2
    · rw [e9] at hi hj
      rw [e10, e11]
      have em : ∀ i, ((σ.1 10 0 + 1) % 8 + i) % 8 = (σ.1 10 0 + (i + 1)) % 8 := fun i => by omega
      rw [em, em]
      intro z
      have := a5 (i + 1) (j + 1) (by omega) (by omega) z
      omega
  refine ⟨h0.1, xc_pop_8.J hring hJ, fun r hr hne z => ?_, ?_, ⟨xc_pop_8.k, by rw [xc_pop_8.2]⟩⟩
  · rw [xc_pop_8.P]
    rw [e12, if_neg hne] at z
    exact hS r hr z
  · unfold xc_mu
    rw [e9, xc_pop_8.1 4 (by decide)]
    omega
def xc_settle : Nat → us_S → us_S
  | 0, σ => σ
  | f + 1, σ => if σ.1 9 0 = 0 then σ else xc_settle f (xc_run (xc_pop σ) (σ.1 11 (σ.1 10 0)) 120)
theorem xc_settle_J : ∀ (f : Nat) (σ : us_S), xc_Inv σ → xc_mu σ ≤ f → xc_Inv (xc_settle f σ) ∧ (xc_settle f σ).1 9 0 = 0 ∧ xc_cfg σ (xc_settle f σ)
  | 0, σ, hI, hm => ⟨hI, by have hm : xc_mu σ ≤ 0 := hm; unfold xc_mu at hm; show σ.1 9 0 = 0; omega, rfl, rfl⟩
  | f + 1, σ, hI, hm => by
    show xc_Inv (if σ.1 9 0 = 0 then σ else xc_settle f (xc_run (xc_pop σ) (σ.1 11 (σ.1 10 0)) 120)) ∧ (if σ.1 9 0 = 0 then σ else xc_settle f (xc_run (xc_pop σ) (σ.1 11 (σ.1 10 0)) 120)).1 9 0 = 0 ∧ xc_cfg σ (if σ.1 9 0 = 0 then σ else xc_settle f (xc_run (xc_pop σ) (σ.1 11 (σ.1 10 0)) 120))
    by_cases h : σ.1 9 0 = 0
    · rw [if_pos h]; exact ⟨hI, h, rfl, rfl⟩
    · rw [if_neg h]
      obtain ⟨p1, p2, p3, p4, p5⟩ := xc_pop_J hI h
      obtain ⟨r1, r2, r3⟩ := xc_run_J 120 p2 p1 p3
      have r3 := r3 rfl
      obtain ⟨s1, s2, s3⟩ := xc_settle_J f _ r1 (by omega)
      exact ⟨s1, s2, p5.trans (r2.trans s3)⟩
theorem xc_mu_le {σ : us_S} (hI : xc_Inv σ) : xc_mu σ ≤ 4000 := by
  have h := hI.1.2.1
  have := xc_s8_le h.2.1
  unfold xc_mu
  rw [h.2.2.1]
  omega
/-- behind settle the streams are the least fixed ones -/
theorem xc_Fix {σ : us_S} (hI : xc_Inv σ) (hw : σ.1 9 0 = 0) : pn_Fix (xc_k σ) (σ.2 3) (xc_Z σ) ∧ pn_I2 (xc_k σ) (σ.2 3) (xc_Z σ) := by
  refine ⟨⟨xc_pi σ, hI.1.2.2.1, fun p hp => ?_⟩, hI.1.2.2.2⟩
  have h := hI.1.2.1.2.2.1
  rw [hw] at h
  exact hI.2 p hp (xc_s8_0 h.symm p hp)
/-! restart -/
def xc_z : Nat → Nat → us_S → us_S
  | 0, _, σ => σ
  | f + 1, p, σ => xc_z f (p + 1) (us_N (us_V (us_N (us_N (us_N σ 4 p 0) 5 p 0) 6 p 0) 7 p 0) 12 p 0)
theorem xc_z_J : ∀ (f p : Nat) (σ : us_S), p + f = 8 → (∀ a, a ≠ 4 → a ≠ 5 → a ≠ 6 → a ≠ 12 → (xc_z f p σ).1 a = σ.1 a) ∧ (∀ a, a ≠ 7 → (xc_z f p σ).2 a = σ.2 a) ∧ (∀ r, r < 8 → (p ≤ r ∨ (σ.1 4 r = 0 ∧ σ.1 5 r = 0 ∧ σ.1 6 r = 0 ∧ σ.1 12 r = 0 ∧ σ.2 7 r = 0)) → (xc_z f p σ).1 4 r = 0 ∧ (xc_z f p σ).1 5 r = 0 ∧ (xc_z f p σ).1 6 r = 0 ∧ (xc_z f p σ).1 12 r = 0 ∧ (xc_z f p σ).2 7 r = 0)
  | 0, p, σ, hp => ⟨fun _ _ _ _ _ => rfl, fun _ _ => rfl, fun r hr h => h.resolve_left (by omega)⟩
  | f + 1, p, σ, hp => by
    obtain ⟨g1, g2, g3⟩ := xc_z_J f (p + 1) (us_N (us_V (us_N (us_N (us_N σ 4 p 0) 5 p 0) 6 p 0) 7 p 0) 12 p 0) (by omega)
    refine ⟨fun a h4 h5 h6 h12 => ?_, fun a h7 => ?_, fun r hr h => ?_⟩
    · show (xc_z f (p + 1) _).1 a = _
      rw [g1 a h4 h5 h6 h12, us_Nf h12, us_V1, us_Nf h6, us_Nf h5, us_Nf h4]
    · show (xc_z f (p + 1) _).2 a = _
      rw [g2 a h7, us_N2, us_Vf h7]
      rfl
    · refine g3 r hr ?_
      by_cases e : p + 1 ≤ r
      · exact Or.inl e
      · refine Or.inr ?_
        by_cases e2 : r = p
        · subst e2
          simp [us_N1, us_V2, us_N2, us_V1]
        · have h := h.resolve_left (by omega)
          simp [us_N1, us_V2, us_N2, us_V1, e2]
          exact h
def xc_wall : Nat → Nat → us_S → us_S
  | 0, _, σ => σ
  | f + 1, q, σ => xc_wall f (q + 1) (xc_wake σ q)
theorem xc_wall_J : ∀ (f q : Nat) (σ : us_S), q + f = 8 → xc_ring σ → xc_ring (xc_wall f q σ) ∧ xc_eq8 σ (xc_wall f q σ) ∧ (∀ r, (xc_wall f q σ).1 12 r = 0 → σ.1 12 r = 0) ∧ ∀ r, q ≤ r → r < 8 → (xc_wall f q σ).1 12 r ≠ 0
  | 0, q, σ, hq, h => ⟨h, xc_eq8.rf, fun _ z => z, fun r h1 h2 => absurd h1 (by omega)⟩
  | f + 1, q, σ, hq, h => by
    obtain ⟨g1, g2, g3, g4⟩ := xc_wall_J f (q + 1) (xc_wake σ q) (by omega) (xc_wake_ring (by omega) h)
    refine ⟨g1, xc_wake_8.trans g2, fun r z => xc_wake_off (g3 r z), fun r h1 h2 => ?_⟩
    by_cases e : r = q
    · subst e
      exact fun z => xc_wake_on (g3 r z)
    · exact g4 r (by omega) h2
def xc_restart (σ : us_S) : us_S := xc_wall 8 0 (xc_z 8 0 (us_N (us_N σ 9 0 0) 10 0 0))
theorem xc_restart_J {σ : us_S} (hok : pn_ok (xc_k σ)) : xc_Inv (xc_restart σ) ∧ xc_cfg σ (xc_restart σ) := by
  obtain ⟨z1, z2, z3⟩ := xc_z_J 8 0 (us_N (us_N σ 9 0 0) 10 0 0) rfl
  have z3 := fun r hr => z3 r hr (Or.inl (Nat.zero_le _))
  have e9 : (xc_z 8 0 (us_N (us_N σ 9 0 0) 10 0 0)).1 9 0 = 0 := by rw [z1 9 (by decide) (by decide) (by decide) (by decide), us_Nf (by decide), us_N1]; simp
  have e10 : (xc_z 8 0 (us_N (us_N σ 9 0 0) 10 0 0)).1 10 0 = 0 := by rw [z1 10 (by decide) (by decide) (by decide) (by decide), us_N1]; simp
  have hk : xc_k (xc_z 8 0 (us_N (us_N σ 9 0 0) 10 0 0)) = xc_k σ := xc_k_eq (by rw [z1 0 (by decide) (by decide) (by decide) (by decide), us_Nf (by decide), us_Nf (by decide)]) (by rw [z1 1 (by decide) (by decide) (by decide) (by decide), us_Nf (by decide), us_Nf (by decide)]) (by rw [z1 2 (by decide) (by decide) (by decide) (by decide), us_Nf (by decide), us_Nf (by decide)])
  have hn : (xc_z 8 0 (us_N (us_N σ 9 0 0) 10 0 0)).2 3 = σ.2 3 := z2 3 (by decide)
  unfold xc_restart
  generalize xc_z 8 0 (us_N (us_N σ 9 0 0) 10 0 0) = τ at z3 e9 e10 hk hn ⊢
  have hring : xc_ring τ := by
    refine ⟨by rw [e10]; decide, fun p hp => by rw [(z3 p hp).2.2.2.1]; exact Nat.zero_le _, ?_, fun i hi => ?_, fun i j hi => ?_⟩
    · rw [e9, xc_s8_eq (g := fun _ => 0) (fun p hp => (z3 p hp).2.2.2.1)]
      rfl
    · rw [e9] at hi; exact absurd hi (Nat.not_lt_zero _)
    · rw [e9] at hi; exact absurd hi (Nat.not_lt_zero _)
  have hJ : xc_J τ := by
    refine ⟨⟨by rw [hk]; exact hok, fun p hp => ?_⟩, hring, ?_, ?_⟩
    · obtain ⟨a, b, c, -⟩ := z3 p hp
      rw [a, b, c]; decide
    · refine pn_I1_congr (pn_I1_0 (fun p hp => (z3 p hp).1)) (fun p hp => ?_)
      obtain ⟨a, b, c, -, d⟩ := z3 p hp
      unfold xc_pi
      rw [a, b, c, d]
    · exact pn_I2_0 (fun p hp => (z3 p hp).1)
  obtain ⟨w1, w2, w3, w4⟩ := xc_wall_J 8 0 τ rfl hring
  exact ⟨⟨w2.J w1 hJ, fun p hp h => absurd h (w4 p (Nat.zero_le _) hp)⟩, ⟨by rw [w2.k, hk], by rw [w2.2, hn]⟩⟩
end
section
/-! PURE 5: the reference. Its state: 0 kinds, 1 xs, 2 ys, 3 numbers (second), 4 known (at place 0), 5 items (second), 6 lengths -/
def mt_put (μ : us_S) (p n : Nat) (v : Int32) : Nat × us_S := if n = 40 then (n, μ) else (n + 1, us_V μ 5 (p * 40 + n) v)
def mt_start (p : Nat) : Nat → Nat → Nat × us_S → Nat × us_S
  | 0, _, s => s
  | f + 1, i, s => mt_start p f (i + 1) (mt_put s.2 p s.1 (if s.2.1 0 p = 0 then s.2.2 3 p + nI i else s.2.2 3 p * nI (2 * i + 1)))
def mt_add (p : Nat) : Nat → Nat → Nat × us_S → Nat × us_S
  | 0, _, s => s
  | f + 1, i, s => mt_add p f (i + 1) (if i < s.2.1 6 (s.2.1 1 p) ∧ i < s.2.1 6 (s.2.1 2 p) then mt_put s.2 p s.1 (s.2.2 5 (s.2.1 1 p * 40 + i) + s.2.2 5 (s.2.1 2 p * 40 + i)) else s)
def mt_from (μ : us_S) (p i : Nat) : Nat := if i % 2 = 0 then μ.1 1 p else μ.1 2 p
def mt_turn (p : Nat) : Nat → Nat → Nat × us_S → Nat × us_S
  | 0, _, s => s
  | f + 1, i, s => mt_turn p f (i + 1) (if s.1 = i ∧ i / 2 < s.2.1 6 (mt_from s.2 p i) then mt_put s.2 p s.1 (s.2.2 5 (mt_from s.2 p i * 40 + i / 2)) else s)
def mt_one (p x : Nat) : Nat → Nat → Int32 → Nat × us_S → Nat × us_S
  | 0, _, _, s => s
  | f + 1, i, t, s => mt_one p x f (i + 1) (t + s.2.2 5 (x * 40 + i)) (if s.2.1 0 p = 7 then mt_put s.2 p s.1 (t + s.2.2 5 (x * 40 + i)) else if s.2.2 5 (x * 40 + i) &&& 1 = 1 then mt_put s.2 p s.1 (s.2.2 5 (x * 40 + i)) else s)
def mt_del (p x : Nat) : Nat → us_S → us_S
  | 0, μ => μ
  | i + 1, μ => mt_del p x i (us_V μ 5 (p * 40 + (i + 1)) (μ.2 5 (x * 40 + i)))
def mt_merge (p : Nat) : Nat → Nat → Nat → Nat × us_S → Nat × us_S
  | 0, _, _, s => s
  | f + 1, i, j, s =>
    if i < s.2.1 6 (s.2.1 1 p) ∧ j < s.2.1 6 (s.2.1 2 p) then
      (if s.2.2 5 (s.2.1 2 p * 40 + j) < s.2.2 5 (s.2.1 1 p * 40 + i) then mt_merge p f i (j + 1) (mt_put s.2 p s.1 (s.2.2 5 (s.2.1 2 p * 40 + j)))
       else mt_merge p f (i + 1) j (mt_put s.2 p s.1 (s.2.2 5 (s.2.1 1 p * 40 + i))))
    else mt_merge p f i j s
def mt_delay (μ : us_S) (p : Nat) : Nat × us_S := (if μ.1 6 (μ.1 1 p) < 39 then μ.1 6 (μ.1 1 p) + 1 else 40, us_V (mt_del p (μ.1 1 p) (if μ.1 6 (μ.1 1 p) < 39 then μ.1 6 (μ.1 1 p) else 39) μ) 5 (p * 40) (μ.2 3 p))
def mt_ones (μ : us_S) (p : Nat) : Nat × us_S := if μ.1 0 p = 5 then mt_delay μ p else mt_one p (μ.1 1 p) (μ.1 6 (μ.1 1 p)) 0 0 (0, μ)
def mt_stream (μ : us_S) (p : Nat) : Nat × us_S :=
  if μ.1 0 p < 2 then mt_start p (if μ.1 0 p = 0 then 40 else 5) 0 (0, μ)
  else if μ.1 0 p = 2 then mt_add p 40 0 (0, μ)
  else if μ.1 0 p = 3 then mt_turn p 40 0 (0, μ)
  else if μ.1 0 p = 6 then mt_merge p 40 0 0 (0, μ)
  else mt_ones μ p
def mt_Z (μ : us_S) : pn_T := (μ.1 6, fun p k => μ.2 5 (p * 40 + k))
def mt_P (M : us_S) (p : Nat) (q : pn_S) : Option (pn_S × Option Int32) := pn_P (xc_k M) (M.2 3) (mt_Z M) p q
def mt_WI (μ : us_S) (pi : Nat → pn_S) : Prop := pn_ok (xc_k μ) ∧ (∀ p, p < 8 → μ.1 6 p ≤ 40) ∧ pn_I1 (xc_k μ) (μ.2 3) (mt_Z μ) pi ∧ pn_I2 (xc_k μ) (μ.2 3) (mt_Z μ)
/-- s is what the reference has behind j steps of the machine of process p, over the streams of M -/
def mt_E (M : us_S) (p j : Nat) (q : pn_S) (s : Nat × us_S) : Prop := pn_R (xc_k M) (M.2 3) (mt_Z M) p j = some q ∧ q.1 = s.1 ∧ s.2.1 = M.1 ∧ (∀ a, a ≠ 5 → s.2.2 a = M.2 a) ∧ (∀ i, ¬ (p * 40 ≤ i ∧ i < p * 40 + 40) → s.2.2 5 i = M.2 5 i) ∧ pn_Rec (xc_k M) (M.2 3) (mt_Z M) p j (fun k => s.2.2 5 (p * 40 + k)) ∧ ∀ k, k < M.1 6 p → s.2.2 5 (p * 40 + k) = M.2 5 (p * 40 + k)
def mt_done (M : us_S) (p : Nat) (s : Nat × us_S) : Prop := ∃ j q, mt_E M p j q s ∧ mt_P M p q = none
section MT
variable {M : us_S} {pi : Nat → pn_S} {p : Nat}
theorem mt_E0 : mt_E M p 0 (0, 0, 0, 0) (0, M) := ⟨rfl, rfl, rfl, fun _ _ => rfl, fun _ _ => rfl, fun _ _ _ _ h => absurd h (Nat.not_lt_zero _), fun _ _ => rfl⟩
/-- the old items of p stay, as they are what the machine puts out -/
theorem mt_old (hW : mt_WI M pi) (hp : p < 8) {j : Nat} {q : pn_S} {V : Nat → Int32} (hR : pn_R (xc_k M) (M.2 3) (mt_Z M) p j = some q) (hrec : pn_Rec (xc_k M) (M.2 3) (mt_Z M) p j V) (ho : ∀ k, q.1 ≤ k → k < M.1 6 p → V k = M.2 5 (p * 40 + k)) : ∀ k, k < M.1 6 p → V k = M.2 5 (p * 40 + k) := by
  intro k hk
  rcases Nat.lt_or_ge k q.1 with h | h
  · obtain ⟨e1, n, r1, r2⟩ := hW.2.2.1 p hp
    exact pn_Rec_agree hR hrec r1 r2 h (by rw [e1]; exact hk)
  · exact ho k h hk
theorem mt_E.read {j : Nat} {q : pn_S} {s : Nat × us_S} (hE : mt_E M p j q s) (hW : mt_WI M pi) {r k : Nat} (hr : r < 8) (hk : k < M.1 6 r) : s.2.2 5 (r * 40 + k) = M.2 5 (r * 40 + k) := by
  by_cases e : r = p
  · subst e
    exact hE.2.2.2.2.2.2 k hk
  · have := hW.2.1 r hr
    exact hE.2.2.2.2.1 _ (by omega)
theorem mt_E.no {j : Nat} {q q' : pn_S} {s : Nat × us_S} (hE : mt_E M p j q s) (hP : mt_P M p q = some (q', none)) : mt_E M p (j + 1) q' s := by
  obtain ⟨h1, h2, h3, h4, h5, h6, h7⟩ := hE
  refine ⟨pn_R_succ h1 hP, ?_, h3, h4, h5, ?_, h7⟩
  · rcases (pn_ps_facts hP).2.1 with ⟨-, e⟩ | ⟨v, e, -⟩
    · exact e.trans h2
    · cases e
  · intro n' q1 q2 v hl a b
    rcases Nat.lt_or_ge n' j with hlt | hge
    · exact h6 n' q1 q2 v hlt a b
    · have e : n' = j := by omega
      subst e
      have e1 : q = q1 := Option.some.inj (h1.symm.trans a)
      subst e1
      have e2 : (q', (none : Option Int32)) = (q2, some v) := Option.some.inj (hP.symm.trans b)
      have e3 := congrArg Prod.snd e2
      cases e3
theorem mt_E.out (hW : mt_WI M pi) (hp : p < 8) {j : Nat} {q q' : pn_S} {v : Int32} {s : Nat × us_S} (hE : mt_E M p j q s) (hP : mt_P M p q = some (q', some v)) : mt_E M p (j + 1) q' (mt_put s.2 p s.1 v) := by
  obtain ⟨h1, h2, h3, h4, h5, h6, h7⟩ := hE
  have f40 := (pn_ps_facts hP).1
  have fq : q'.1 = q.1 + 1 := by
    rcases (pn_ps_facts hP).2.1 with ⟨e, -⟩ | ⟨w, -, e⟩
    · cases e
    · exact e
  have e : mt_put s.2 p s.1 v = (s.1 + 1, us_V s.2 5 (p * 40 + s.1) v) := by
    unfold mt_put
    rw [if_neg (by omega)]
  rw [e]
  have hR := pn_R_succ h1 hP
  have hrec : pn_Rec (xc_k M) (M.2 3) (mt_Z M) p (j + 1) (fun k => (us_V s.2 5 (p * 40 + s.1) v).2 5 (p * 40 + k)) := by
    intro n' q1 q2 w hl a b
    dsimp only
    rw [us_V2]
    rcases Nat.lt_or_ge n' j with hlt | hge
    · have hle := pn_R_le (n := n' + 1) hlt (pn_R_succ a b) h1
      have hq2 : q2.1 = q1.1 + 1 := by
        rcases (pn_ps_facts b).2.1 with ⟨z, -⟩ | ⟨w, -, z⟩
        · cases z
        · exact z
      have hle : q2.1 ≤ q.1 := hle
      rw [if_neg (fun z => by have := z.2; omega)]
      exact h6 n' q1 q2 w hlt a b
    · have e : n' = j := by omega
      subst e
      have e1 : q = q1 := Option.some.inj (h1.symm.trans a)
      subst e1
      have e2 : (q', some v) = (q2, some w) := Option.some.inj (hP.symm.trans b)
      have e3 : some v = some w := congrArg Prod.snd e2
      rw [if_pos ⟨rfl, by rw [h2]⟩]
      exact Option.some.inj e3
  refine ⟨hR, by dsimp only; omega, h3, fun a ha => by dsimp only; rw [us_Vf ha]; exact h4 a ha, fun i hi => ?_, hrec, ?_⟩
  · dsimp only
    rw [us_V2, if_neg (fun z => by have := z.2; omega)]
    exact h5 i hi
  · refine mt_old hW hp hR hrec (fun k hk1 hk2 => ?_)
    dsimp only at hk1 ⊢
    rw [us_V2, if_neg (fun z => by have := z.2; omega)]
    exact h7 k hk2
theorem mt_PE (m i j : Nat) (t : Int32) : mt_P M p (m, i, j, t) =
  (if 40 ≤ m then none
  else if M.1 0 p = 0 then some ((m + 1, i, j, t), some (M.2 3 p + nI m))
  else if M.1 0 p = 1 then (if m < 5 then some ((m + 1, i, j, t), some (M.2 3 p * nI (2 * m + 1))) else none)
  else if M.1 0 p = 2 then (if i < M.1 6 (M.1 1 p) ∧ j < M.1 6 (M.1 2 p) then some ((m + 1, i + 1, j + 1, t), some (M.2 5 (M.1 1 p * 40 + i) + M.2 5 (M.1 2 p * 40 + j))) else none)
  else if M.1 0 p = 3 then
    (if m % 2 = 0 then (if i < M.1 6 (M.1 1 p) then some ((m + 1, i + 1, j, t), some (M.2 5 (M.1 1 p * 40 + i))) else none)
     else (if j < M.1 6 (M.1 2 p) then some ((m + 1, i, j + 1, t), some (M.2 5 (M.1 2 p * 40 + j))) else none))
  else if M.1 0 p = 4 then
    (if i < M.1 6 (M.1 1 p) then (if M.2 5 (M.1 1 p * 40 + i) &&& 1 = 1 then some ((m + 1, i + 1, j, t), some (M.2 5 (M.1 1 p * 40 + i))) else some ((m, i + 1, j, t), none)) else none)
  else if M.1 0 p = 5 then
    (if m = 0 then some ((m + 1, i, j, t), some (M.2 3 p))
     else (if i < M.1 6 (M.1 1 p) then some ((m + 1, i + 1, j, t), some (M.2 5 (M.1 1 p * 40 + i))) else none))
  else if M.1 0 p = 6 then
    (if i < M.1 6 (M.1 1 p) ∧ j < M.1 6 (M.1 2 p) then (if M.2 5 (M.1 1 p * 40 + i) ≤ M.2 5 (M.1 2 p * 40 + j) then some ((m + 1, i + 1, j, t), some (M.2 5 (M.1 1 p * 40 + i))) else some ((m + 1, i, j + 1, t), some (M.2 5 (M.1 2 p * 40 + j)))) else none)
  else (if i < M.1 6 (M.1 1 p) then some ((m + 1, i + 1, j, t + M.2 5 (M.1 1 p * 40 + i)), some (t + M.2 5 (M.1 1 p * 40 + i))) else none)) := rfl
theorem mt_start0 (hW : mt_WI M pi) (hp : p < 8) (hk : M.1 0 p = 0) : ∀ (f i : Nat) (s : Nat × us_S), i + f = 40 → mt_E M p i (i, 0, 0, 0) s → mt_done M p (mt_start p f i s)
  | 0, i, s, hi, hE => ⟨i, _, hE, by rw [mt_PE, if_pos (by omega)]⟩
  | f + 1, i, s, hi, hE => by
    show mt_done M p (mt_start p f (i + 1) (mt_put s.2 p s.1 (if s.2.1 0 p = 0 then s.2.2 3 p + nI i else s.2.2 3 p * nI (2 * i + 1))))
    rw [hE.2.2.1, hE.2.2.2.1 3 (by decide), if_pos hk]
    exact mt_start0 hW hp hk f (i + 1) _ (by omega) (hE.out hW hp (by rw [mt_PE, if_neg (by omega), if_pos hk]))
theorem mt_start1 (hW : mt_WI M pi) (hp : p < 8) (hk : M.1 0 p = 1) : ∀ (f i : Nat) (s : Nat × us_S), i + f = 5 → mt_E M p i (i, 0, 0, 0) s → mt_done M p (mt_start p f i s)
  | 0, i, s, hi, hE => ⟨i, _, hE, by rw [mt_PE, if_neg (by omega), if_neg (by omega), if_pos hk, if_neg (by omega)]⟩
  | f + 1, i, s, hi, hE => by
    show mt_done M p (mt_start p f (i + 1) (mt_put s.2 p s.1 (if s.2.1 0 p = 0 then s.2.2 3 p + nI i else s.2.2 3 p * nI (2 * i + 1))))
    rw [hE.2.2.1, hE.2.2.2.1 3 (by decide), if_neg (by omega)]
    exact mt_start1 hW hp hk f (i + 1) _ (by omega) (hE.out hW hp (by rw [mt_PE, if_neg (by omega), if_neg (by omega), if_pos hk, if_pos (by omega)]))
theorem mt_done_1 {s : Nat × us_S} (h : mt_done M p s) : s.2.1 = M.1 := by
  obtain ⟨j, q, hE, -⟩ := h
  exact hE.2.2.1
theorem mt_add_done (hW : mt_WI M pi) (hp : p < 8) (hk : M.1 0 p = 2) : ∀ (f i : Nat) (s : Nat × us_S), i + f = 40 → (mt_E M p i (i, i, i, 0) s ∨ (mt_done M p s ∧ ¬ (i < M.1 6 (M.1 1 p) ∧ i < M.1 6 (M.1 2 p)))) → mt_done M p (mt_add p f i s)
  | 0, i, s, hi, hE => by
    rcases hE with hE | hE
    · exact ⟨i, _, hE, by rw [mt_PE, if_pos (by omega)]⟩
    · exact hE.1
  | f + 1, i, s, hi, hE => by
    show mt_done M p (mt_add p f (i + 1) (if i < s.2.1 6 (s.2.1 1 p) ∧ i < s.2.1 6 (s.2.1 2 p) then mt_put s.2 p s.1 (s.2.2 5 (s.2.1 1 p * 40 + i) + s.2.2 5 (s.2.1 2 p * 40 + i)) else s))
    have e1 : s.2.1 = M.1 := by
      rcases hE with hE | hE
      · exact hE.2.2.1
      · exact mt_done_1 hE.1
    rw [e1]
    by_cases hc : i < M.1 6 (M.1 1 p) ∧ i < M.1 6 (M.1 2 p)
    · rw [if_pos hc]
      have hE := hE.resolve_right (fun z => z.2 hc)
      rw [hE.read hW (r := M.1 1 p) (hW.1 p hp).2.1 hc.1, hE.read hW (r := M.1 2 p) (hW.1 p hp).2.2 hc.2]
      exact mt_add_done hW hp hk f (i + 1) _ (by omega) (Or.inl (hE.out hW hp (by rw [mt_PE, if_neg (by omega), if_neg (by omega), if_neg (by omega), if_pos hk, if_pos hc])))
    · rw [if_neg hc]
      refine mt_add_done hW hp hk f (i + 1) _ (by omega) (Or.inr ⟨?_, fun z => hc ⟨by omega, by omega⟩⟩)
      rcases hE with hE | hE
      · exact ⟨i, _, hE, by rw [mt_PE, if_neg (by omega), if_neg (by omega), if_neg (by omega), if_pos hk, if_neg hc]⟩
      · exact hE.1
theorem mt_turn_done (hW : mt_WI M pi) (hp : p < 8) (hk : M.1 0 p = 3) : ∀ (f i : Nat) (s : Nat × us_S), i + f = 40 → (mt_E M p i (i, (i + 1) / 2, i / 2, 0) s ∨ (mt_done M p s ∧ s.1 < i)) → mt_done M p (mt_turn p f i s)
  | 0, i, s, hi, hE => by
    rcases hE with hE | hE
    · exact ⟨i, _, hE, by rw [mt_PE, if_pos (by omega)]⟩
    · exact hE.1
  | f + 1, i, s, hi, hE => by
    show mt_done M p (mt_turn p f (i + 1) (if s.1 = i ∧ i / 2 < s.2.1 6 (mt_from s.2 p i) then mt_put s.2 p s.1 (s.2.2 5 (mt_from s.2 p i * 40 + i / 2)) else s))
    have e1 : s.2.1 = M.1 := by
      rcases hE with hE | hE
      · exact hE.2.2.1
      · exact mt_done_1 hE.1
    have ef : mt_from s.2 p i = mt_from M p i := by unfold mt_from; rw [e1]
    rw [e1, ef]
    have hf8 : mt_from M p i < 8 := by
      unfold mt_from
      by_cases e : i % 2 = 0
      · rw [if_pos e]; exact (hW.1 p hp).2.1
      · rw [if_neg e]; exact (hW.1 p hp).2.2
    by_cases hc : s.1 = i ∧ i / 2 < M.1 6 (mt_from M p i)
    · rw [if_pos hc]
      have hE := hE.resolve_right (fun z => by have := hc.1; omega)
      rw [hE.read hW hf8 hc.2]
      refine mt_turn_done hW hp hk f (i + 1) _ (by omega) (Or.inl (hE.out hW hp ?_))
      rw [mt_PE, if_neg (by omega), if_neg (by omega), if_neg (by omega), if_neg (by omega), if_pos hk]
      by_cases e : i % 2 = 0
      · have hc2 := hc.2
        unfold mt_from at hc2 ⊢
        rw [if_pos e] at hc2
        rw [if_pos e, if_pos e]
        have d1 : (i + 1) / 2 = i / 2 := by omega
        have d2 : (i + 1 + 1) / 2 = i / 2 + 1 := by omega
        rw [d1, d2, if_pos hc2]
      · have hc2 := hc.2
        unfold mt_from at hc2 ⊢
        rw [if_neg e] at hc2
        rw [if_neg e, if_neg e]
        have d1 : (i + 1) / 2 = i / 2 + 1 := by omega
        have d2 : (i + 1 + 1) / 2 = i / 2 + 1 := by omega
        rw [d1, d2, if_pos hc2]
    · rw [if_neg hc]
      refine mt_turn_done hW hp hk f (i + 1) _ (by omega) (Or.inr ?_)
      rcases hE with hE | hE
      · have hs : s.1 = i := hE.2.1.symm
        refine ⟨⟨i, _, hE, ?_⟩, by omega⟩
        rw [mt_PE, if_neg (by omega), if_neg (by omega), if_neg (by omega), if_neg (by omega), if_pos hk]
        have hc2 : ¬ i / 2 < M.1 6 (mt_from M p i) := fun z => hc ⟨hs, z⟩
        by_cases e : i % 2 = 0
        · unfold mt_from at hc2
          rw [if_pos e] at hc2
          have d1 : (i + 1) / 2 = i / 2 := by omega
          rw [if_pos e, d1, if_neg hc2]
        · unfold mt_from at hc2
          rw [if_neg e] at hc2
          rw [if_neg e, if_neg hc2]
      · exact ⟨hE.1, by omega⟩
theorem mt_merge_done (hW : mt_WI M pi) (hp : p < 8) (hk : M.1 0 p = 6) : ∀ (f i j : Nat) (s : Nat × us_S), ((∃ k, k + f = 40 ∧ mt_E M p k (k, i, j, 0) s) ∨ (mt_done M p s ∧ ¬ (i < M.1 6 (M.1 1 p) ∧ j < M.1 6 (M.1 2 p)))) → mt_done M p (mt_merge p f i j s)
  | 0, i, j, s, hE => by
    rcases hE with ⟨k, hf, hE⟩ | hE
    · exact ⟨k, _, hE, by rw [mt_PE, if_pos (by omega)]⟩
    · exact hE.1
  | f + 1, i, j, s, hE => by
    show mt_done M p (if i < s.2.1 6 (s.2.1 1 p) ∧ j < s.2.1 6 (s.2.1 2 p) then
      (if s.2.2 5 (s.2.1 2 p * 40 + j) < s.2.2 5 (s.2.1 1 p * 40 + i) then mt_merge p f i (j + 1) (mt_put s.2 p s.1 (s.2.2 5 (s.2.1 2 p * 40 + j)))
       else mt_merge p f (i + 1) j (mt_put s.2 p s.1 (s.2.2 5 (s.2.1 1 p * 40 + i))))
    else mt_merge p f i j s)
    have e1 : s.2.1 = M.1 := by
      rcases hE with ⟨k, hf, hE⟩ | hE
      · exact hE.2.2.1
      · exact mt_done_1 hE.1
    rw [e1]
    by_cases hc : i < M.1 6 (M.1 1 p) ∧ j < M.1 6 (M.1 2 p)
    · rw [if_pos hc]
      obtain ⟨k, hf, hE⟩ := hE.resolve_right (fun z => z.2 hc)
      rw [hE.read hW (r := M.1 1 p) (hW.1 p hp).2.1 hc.1, hE.read hW (r := M.1 2 p) (hW.1 p hp).2.2 hc.2]
      by_cases hlt : M.2 5 (M.1 2 p * 40 + j) < M.2 5 (M.1 1 p * 40 + i)
      · rw [if_pos hlt]
        exact mt_merge_done hW hp hk f i (j + 1) _ (Or.inl ⟨k + 1, by omega, hE.out hW hp (by rw [mt_PE, if_neg (by omega), if_neg (by omega), if_neg (by omega), if_neg (by omega), if_neg (by omega), if_neg (by omega), if_neg (by omega), if_pos hk, if_pos hc, if_neg (Int32.not_le.mpr hlt)])⟩)
      · rw [if_neg hlt]
        exact mt_merge_done hW hp hk f (i + 1) j _ (Or.inl ⟨k + 1, by omega, hE.out hW hp (by rw [mt_PE, if_neg (by omega), if_neg (by omega), if_neg (by omega), if_neg (by omega), if_neg (by omega), if_neg (by omega), if_neg (by omega), if_pos hk, if_pos hc, if_pos (Int32.not_lt.mp hlt)])⟩)
    · rw [if_neg hc]
      refine mt_merge_done hW hp hk f i j s (Or.inr ⟨?_, hc⟩)
      rcases hE with ⟨k, hf, hE⟩ | hE
      · exact ⟨k, _, hE, by rw [mt_PE, if_neg (by omega), if_neg (by omega), if_neg (by omega), if_neg (by omega), if_neg (by omega), if_neg (by omega), if_neg (by omega), if_pos hk, if_neg hc]⟩
      · exact hE.1
theorem mt_sum_done (hW : mt_WI M pi) (hp : p < 8) (hk : M.1 0 p = 7) : ∀ (f i : Nat) (t : Int32) (s : Nat × us_S), i + f = M.1 6 (M.1 1 p) → mt_E M p i (i, i, 0, t) s → mt_done M p (mt_one p (M.1 1 p) f i t s)
  | 0, i, t, s, hi, hE => ⟨i, _, hE, by
      rw [mt_PE, if_neg (show ¬ M.1 0 p = 0 by omega), if_neg (show ¬ M.1 0 p = 1 by omega), if_neg (show ¬ M.1 0 p = 2 by omega), if_neg (show ¬ M.1 0 p = 3 by omega), if_neg (show ¬ M.1 0 p = 4 by omega), if_neg (show ¬ M.1 0 p = 5 by omega), if_neg (show ¬ M.1 0 p = 6 by omega), if_neg (show ¬ i < M.1 6 (M.1 1 p) by omega)]
      exact ite_self _⟩
  | f + 1, i, t, s, hi, hE => by
    show mt_done M p (mt_one p (M.1 1 p) f (i + 1) (t + s.2.2 5 (M.1 1 p * 40 + i)) (if s.2.1 0 p = 7 then mt_put s.2 p s.1 (t + s.2.2 5 (M.1 1 p * 40 + i)) else if s.2.2 5 (M.1 1 p * 40 + i) &&& 1 = 1 then mt_put s.2 p s.1 (s.2.2 5 (M.1 1 p * 40 + i)) else s))
    have hb := hW.2.1 _ (hW.1 p hp).2.1
    have hb : M.1 6 (M.1 1 p) ≤ 40 := hb
    rw [hE.2.2.1, if_pos hk, hE.read hW (r := M.1 1 p) (hW.1 p hp).2.1 (show i < M.1 6 (M.1 1 p) by omega)]
    exact mt_sum_done hW hp hk f (i + 1) _ _ (by omega) (hE.out hW hp (by rw [mt_PE, if_neg (show ¬ 40 ≤ i by omega), if_neg (show ¬ M.1 0 p = 0 by omega), if_neg (show ¬ M.1 0 p = 1 by omega), if_neg (show ¬ M.1 0 p = 2 by omega), if_neg (show ¬ M.1 0 p = 3 by omega), if_neg (show ¬ M.1 0 p = 4 by omega), if_neg (show ¬ M.1 0 p = 5 by omega), if_neg (show ¬ M.1 0 p = 6 by omega), if_pos (show i < M.1 6 (M.1 1 p) by omega)]))
theorem mt_odd_done (hW : mt_WI M pi) (hp : p < 8) (hk : M.1 0 p = 4) : ∀ (f i : Nat) (t : Int32) (s : Nat × us_S), i + f = M.1 6 (M.1 1 p) → s.1 ≤ i → mt_E M p i (s.1, i, 0, 0) s → mt_done M p (mt_one p (M.1 1 p) f i t s)
  | 0, i, t, s, hi, hle, hE => ⟨i, _, hE, by
      rw [mt_PE, if_neg (show ¬ M.1 0 p = 0 by omega), if_neg (show ¬ M.1 0 p = 1 by omega), if_neg (show ¬ M.1 0 p = 2 by omega), if_neg (show ¬ M.1 0 p = 3 by omega), if_pos hk, if_neg (show ¬ i < M.1 6 (M.1 1 p) by omega)]
      exact ite_self _⟩
  | f + 1, i, t, s, hi, hle, hE => by
    show mt_done M p (mt_one p (M.1 1 p) f (i + 1) (t + s.2.2 5 (M.1 1 p * 40 + i)) (if s.2.1 0 p = 7 then mt_put s.2 p s.1 (t + s.2.2 5 (M.1 1 p * 40 + i)) else if s.2.2 5 (M.1 1 p * 40 + i) &&& 1 = 1 then mt_put s.2 p s.1 (s.2.2 5 (M.1 1 p * 40 + i)) else s))
    have hb := hW.2.1 _ (hW.1 p hp).2.1
    have hb : M.1 6 (M.1 1 p) ≤ 40 := hb
    rw [hE.2.2.1, if_neg (show ¬ M.1 0 p = 7 by omega), hE.read hW (r := M.1 1 p) (hW.1 p hp).2.1 (show i < M.1 6 (M.1 1 p) by omega)]
    by_cases od : M.2 5 (M.1 1 p * 40 + i) &&& 1 = 1
    · rw [if_pos od]
      have h := hE.out hW hp (q' := (s.1 + 1, i + 1, 0, 0)) (v := M.2 5 (M.1 1 p * 40 + i)) (by rw [mt_PE, if_neg (show ¬ 40 ≤ s.1 by omega), if_neg (show ¬ M.1 0 p = 0 by omega), if_neg (show ¬ M.1 0 p = 1 by omega), if_neg (show ¬ M.1 0 p = 2 by omega), if_neg (show ¬ M.1 0 p = 3 by omega), if_pos hk, if_pos (show i < M.1 6 (M.1 1 p) by omega), if_pos od])
      have e : (mt_put s.2 p s.1 (M.2 5 (M.1 1 p * 40 + i))).1 = s.1 + 1 := by unfold mt_put; rw [if_neg (by omega)]
      refine mt_odd_done hW hp hk f (i + 1) _ _ (by omega) (by rw [e]; omega) ?_
      rw [e]; exact h
    · rw [if_neg od]
      exact mt_odd_done hW hp hk f (i + 1) _ _ (by omega) (by omega) (hE.no (by rw [mt_PE, if_neg (show ¬ 40 ≤ s.1 by omega), if_neg (show ¬ M.1 0 p = 0 by omega), if_neg (show ¬ M.1 0 p = 1 by omega), if_neg (show ¬ M.1 0 p = 2 by omega), if_neg (show ¬ M.1 0 p = 3 by omega), if_pos hk, if_pos (show i < M.1 6 (M.1 1 p) by omega), if_neg od]))
end MT
end
section
/-! PURE 6: the reference: DELAY, a stream, a pass, workOut -/
theorem mt_del_at {p x : Nat} : ∀ (t : Nat) (μ : us_S), t ≤ 39 → (mt_del p x t μ).1 = μ.1 ∧ (∀ a, a ≠ 5 → (mt_del p x t μ).2 a = μ.2 a) ∧ (∀ k, k < t → (mt_del p x t μ).2 5 (p * 40 + (k + 1)) = μ.2 5 (x * 40 + k)) ∧ ∀ i, ¬ (p * 40 + 1 ≤ i ∧ i ≤ p * 40 + t) → (mt_del p x t μ).2 5 i = μ.2 5 i
  | 0, μ, _ => ⟨rfl, fun _ _ => rfl, fun k hk => absurd hk (Nat.not_lt_zero _), fun _ _ => rfl⟩
  | t + 1, μ, ht => by
    obtain ⟨g1, g2, g3, g4⟩ := mt_del_at (p := p) (x := x) t (us_V μ 5 (p * 40 + (t + 1)) (μ.2 5 (x * 40 + t))) (by omega)
    refine ⟨g1, fun a ha => ?_, fun k hk => ?_, fun i hi => ?_⟩
    · show (mt_del p x t _).2 a = _
      rw [g2 a ha, us_Vf ha]
    · show (mt_del p x t _).2 5 _ = _
      rcases Nat.lt_or_ge k t with h | h
      · rw [g3 k h, us_V2, if_neg (fun z => by have := z.2; omega)]
      · have e : k = t := by omega
        subst e
        rw [g4 _ (by omega), us_V2, if_pos ⟨rfl, rfl⟩]
    · show (mt_del p x t _).2 5 _ = _
      rw [g4 i (by omega), us_V2, if_neg (fun z => by have := z.2; omega)]
section MT2
variable {M : us_S} {pi : Nat → pn_S} {p : Nat}
theorem mt_delay_run (hk : M.1 0 p = 5) : ∀ (k : Nat), k ≤ M.1 6 (M.1 1 p) → k ≤ 39 → pn_R (xc_k M) (M.2 3) (mt_Z M) p (k + 1) = some (k + 1, k, 0, 0)
  | 0, _, _ => by
    have hP : mt_P M p (0, 0, 0, 0) = some ((1, 0, 0, 0), some (M.2 3 p)) := by
      rw [mt_PE, if_neg (by omega), if_neg (by omega), if_neg (by omega), if_neg (by omega), if_neg (by omega), if_neg (by omega), if_pos hk, if_pos rfl]
    exact pn_R_succ (r := ((1, 0, 0, 0), some (M.2 3 p))) rfl hP
  | k + 1, h1, h2 => by
    have hP : mt_P M p (k + 1, k, 0, 0) = some ((k + 1 + 1, k + 1, 0, 0), some (M.2 5 (M.1 1 p * 40 + k))) := by
      rw [mt_PE, if_neg (show ¬ 40 ≤ k + 1 by omega), if_neg (show ¬ M.1 0 p = 0 by omega), if_neg (show ¬ M.1 0 p = 1 by omega), if_neg (show ¬ M.1 0 p = 2 by omega), if_neg (show ¬ M.1 0 p = 3 by omega), if_neg (show ¬ M.1 0 p = 4 by omega), if_pos hk, if_neg (show ¬ k + 1 = 0 by omega), if_pos (show k < M.1 6 (M.1 1 p) by omega)]
    exact pn_R_succ (mt_delay_run hk k (by omega) (by omega)) hP
theorem mt_delay_done (hW : mt_WI M pi) (hp : p < 8) (hk : M.1 0 p = 5) : mt_done M p (mt_delay M p) := by
  have hb : M.1 6 (M.1 1 p) ≤ 40 := hW.2.1 _ (hW.1 p hp).2.1
  obtain ⟨T, hT⟩ : ∃ T, T = if M.1 6 (M.1 1 p) < 39 then M.1 6 (M.1 1 p) else 39 := ⟨_, rfl⟩
  have hT1 : T ≤ 39 ∧ T ≤ M.1 6 (M.1 1 p) ∧ (T = M.1 6 (M.1 1 p) ∨ T = 39) := by
    by_cases e : M.1 6 (M.1 1 p) < 39
    · rw [if_pos e] at hT; omega
    · rw [if_neg e] at hT; omega
  have hn : (if M.1 6 (M.1 1 p) < 39 then M.1 6 (M.1 1 p) + 1 else 40) = T + 1 := by
    by_cases e : M.1 6 (M.1 1 p) < 39
    · rw [if_pos e] at hT ⊢; omega
    · rw [if_neg e] at hT ⊢; omega
  obtain ⟨g1, g2, g3, g4⟩ := mt_del_at (p := p) (x := M.1 1 p) T M hT1.1
  have hR := mt_delay_run hk T hT1.2.1 hT1.1
  unfold mt_delay
  rw [hn, ← hT]
  generalize mt_del p (M.1 1 p) T M = D at g1 g2 g3 g4 ⊢
  have hrec : pn_Rec (xc_k M) (M.2 3) (mt_Z M) p (T + 1) (fun k => (us_V D 5 (p * 40) (M.2 3 p)).2 5 (p * 40 + k)) := by
    intro n' q q' v hl h1 h2
    dsimp only
    rw [us_V2]
    cases n' with
    | zero =>
      have e : (0, 0, 0, 0) = q := Option.some.inj h1
      subst e
      have h2 : mt_P M p (0, 0, 0, 0) = some (q', some v) := h2
      rw [mt_PE, if_neg (by omega), if_neg (by omega), if_neg (by omega), if_neg (by omega), if_neg (by omega), if_neg (by omega), if_pos hk, if_pos rfl] at h2
      rw [if_pos ⟨rfl, rfl⟩]
      exact Option.some.inj (congrArg Prod.snd (Option.some.inj h2))
    | succ k =>
      have e : (k + 1, k, 0, 0) = q := Option.some.inj ((mt_delay_run hk k (by omega) (by omega)).symm.trans h1)
      subst e
      have h2 : mt_P M p (k + 1, k, 0, 0) = some (q', some v) := h2
      rw [mt_PE, if_neg (show ¬ 40 ≤ k + 1 by omega), if_neg (show ¬ M.1 0 p = 0 by omega), if_neg (show ¬ M.1 0 p = 1 by omega), if_neg (show ¬ M.1 0 p = 2 by omega), if_neg (show ¬ M.1 0 p = 3 by omega), if_neg (show ¬ M.1 0 p = 4 by omega), if_pos hk, if_neg (show ¬ k + 1 = 0 by omega), if_pos (show k < M.1 6 (M.1 1 p) by omega)] at h2
      rw [if_neg (fun z => by have := z.2; dsimp only at this; omega)]
      dsimp only
      rw [g3 k (by omega)]
      exact Option.some.inj (congrArg Prod.snd (Option.some.inj h2))
  refine ⟨T + 1, (T + 1, T, 0, 0), ⟨hR, rfl, ?_, fun a ha => ?_, fun i hi => ?_, hrec, ?_⟩, ?_⟩
  · exact g1
  · dsimp only
    rw [us_Vf ha]; exact g2 a ha
  · dsimp only
    rw [us_V2, if_neg (fun z => by have := z.2; omega)]
    exact g4 i (by omega)
  · refine mt_old hW hp hR hrec (fun k hk1 hk2 => ?_)
    dsimp only at hk1 ⊢
    rw [us_V2, if_neg (fun z => by have := z.2; omega)]
    exact g4 _ (by omega)
  · rw [mt_PE, if_neg (show ¬ M.1 0 p = 0 by omega), if_neg (show ¬ M.1 0 p = 1 by omega), if_neg (show ¬ M.1 0 p = 2 by omega), if_neg (show ¬ M.1 0 p = 3 by omega), if_neg (show ¬ M.1 0 p = 4 by omega), if_pos hk, if_neg (show ¬ T + 1 = 0 by omega)]
    by_cases e : 40 ≤ T + 1
    · rw [if_pos e]
    · rw [if_neg e, if_neg (show ¬ T < M.1 6 (M.1 1 p) by omega)]
theorem mt_stream_done (hW : mt_WI M pi) (hp : p < 8) : mt_done M p (mt_stream M p) := by
  have h7 : M.1 0 p ≤ 7 := (hW.1 p hp).1
  unfold mt_stream
  by_cases h2 : M.1 0 p < 2
  · rw [if_pos h2]
    by_cases h0 : M.1 0 p = 0
    · rw [if_pos h0]
      exact mt_start0 hW hp h0 40 0 _ rfl mt_E0
    · rw [if_neg h0]
      exact mt_start1 hW hp (by omega) 5 0 _ rfl mt_E0
  rw [if_neg h2]
  by_cases k2 : M.1 0 p = 2
  · rw [if_pos k2]; exact mt_add_done hW hp k2 40 0 _ rfl (Or.inl mt_E0)
  rw [if_neg k2]
  by_cases k3 : M.1 0 p = 3
  · rw [if_pos k3]; exact mt_turn_done hW hp k3 40 0 _ rfl (Or.inl mt_E0)
  rw [if_neg k3]
  by_cases k6 : M.1 0 p = 6
  · rw [if_pos k6]; exact mt_merge_done hW hp k6 40 0 0 _ (Or.inl ⟨0, rfl, mt_E0⟩)
  rw [if_neg k6]
  unfold mt_ones
  by_cases k5 : M.1 0 p = 5
  · rw [if_pos k5]; exact mt_delay_done hW hp k5
  rw [if_neg k5]
  by_cases k4 : M.1 0 p = 4
  · exact mt_odd_done hW hp k4 _ 0 0 (0, M) (Nat.zero_add _) (Nat.le_refl _) mt_E0
  · exact mt_sum_done hW hp (by omega) _ 0 0 _ (Nat.zero_add _) mt_E0
end MT2
/-! a pass over all processes -/
def mt_st1 (g : Bool × us_S) (p : Nat) : Bool × us_S := if (mt_stream g.2 p).1 = (mt_stream g.2 p).2.1 6 p then (g.1, (mt_stream g.2 p).2) else (true, us_N (mt_stream g.2 p).2 6 p (mt_stream g.2 p).1)
def mt_PI (p : Nat) (g : Bool × us_S) : Prop := ∃ pi, mt_WI g.2 pi ∧ (g.1 = false → ∀ r, r < p → mt_P g.2 r (pi r) = none)
theorem mt_st1_J {p : Nat} {g : Bool × us_S} (hp : p < 8) (h : mt_PI p g) : mt_PI (p + 1) (mt_st1 g p) ∧ xc_cfg g.2 (mt_st1 g p).2 ∧ xc_s8 (g.2.1 6) ≤ xc_s8 ((mt_st1 g p).2.1 6) ∧ ((mt_st1 g p).1 = true → g.1 = true ∨ xc_s8 (g.2.1 6) + 1 ≤ xc_s8 ((mt_st1 g p).2.1 6)) ∧ (mt_st1 g p).2.1 4 = g.2.1 4 := by
  obtain ⟨b, M⟩ := g
  obtain ⟨pi, hW, hst⟩ := h
  dsimp only at hW hst ⊢
  obtain ⟨j, q, hE, hP⟩ := mt_stream_done hW hp
  unfold mt_st1
  dsimp only
  generalize hs : mt_stream M p = s at hE ⊢
  obtain ⟨n, ν⟩ := s
  dsimp only at hE ⊢
  obtain ⟨e1, e2, e3, e4, e5, e6, e7⟩ := hE
  dsimp only at e2 e3 e4 e5 e6 e7
  obtain ⟨i1, n0, r1, r2⟩ := hW.2.2.1 p hp
  have hq : M.1 6 p ≤ q.1 := by
    have h1 := pn_R_le (pn_R_stuck e1 hP r1) r1 e1
    rw [i1] at h1
    exact h1
  have h40 : q.1 ≤ 40 := by
    cases j with
    | zero =>
      have e : (0, 0, 0, 0) = q := Option.some.inj e1
      rw [← e]; exact Nat.zero_le _
    | succ j =>
      obtain ⟨q0, o, a1, a2⟩ := pn_R_pred e1
      have f := pn_ps_facts a2
      rcases f.2.1 with ⟨-, z⟩ | ⟨v, -, z⟩ <;> omega
  -- the state behind it, whether or not the length is new
  have key : ∀ τ : us_S, (∀ r, τ.1 6 r = if r = p then q.1 else M.1 6 r) → (∀ a, a ≠ 6 → τ.1 a = M.1 a) → τ.2 = ν.2 →
      pn_LE (mt_Z M) (mt_Z τ) ∧ mt_WI τ (fun r => if r = p then q else pi r) ∧ xc_cfg M τ ∧ xc_s8 (M.1 6) + (q.1 - M.1 6 p) = xc_s8 (τ.1 6) := by
    intro τ t1 t2 t3
    have hk : xc_k τ = xc_k M := xc_k_eq (t2 0 (by decide)) (t2 1 (by decide)) (t2 2 (by decide))
    have hn : τ.2 3 = M.2 3 := by rw [t3]; exact e4 3 (by decide)
    have hx := pn_ext (Z' := mt_Z τ) hW.1 hW.2.2.1 hp e1 hq (by
      show pn_Rec _ _ _ _ _ (fun k => τ.2 5 (p * 40 + k))
      rw [t3]; exact e6) (by show τ.1 6 p = q.1; rw [t1, if_pos rfl]) (by
      intro r hr hne
      refine ⟨by show τ.1 6 r = M.1 6 r; rw [t1, if_neg hne], fun k hk2 => ?_⟩
      show τ.2 5 (r * 40 + k) = M.2 5 (r * 40 + k)
      have hk2 : k < M.1 6 r := hk2
      have := hW.2.1 r hr
      rw [t3]
      exact e5 _ (by omega))
    refine ⟨hx.1, ⟨by rw [hk]; exact hW.1, fun r hr => ?_, ?_, ?_⟩, ⟨hk, hn⟩, ?_⟩
    · rw [t1]
      by_cases e : r = p
      · rw [if_pos e]; exact h40
      · rw [if_neg e]; exact hW.2.1 r hr
    · rw [hk, hn]; exact hx.2.1
    · rw [hk, hn]; exact hx.2.2 hW.2.2.2
    · have := xc_s8_up (M.1 6) (τ.1 6) q.1 p hp t1
      omega
  rw [e3]
  by_cases hc : n = M.1 6 p
  · rw [if_pos hc]
    have t1 : ∀ r, ν.1 6 r = if r = p then q.1 else M.1 6 r := fun r => by
      rw [e3]
      by_cases e : r = p
      · rw [if_pos e, e]; omega
      · rw [if_neg e]
    obtain ⟨k1, k2, k3, k4⟩ := key ν t1 (fun a _ => by rw [e3]) rfl
    refine ⟨⟨_, k2, fun hb r hr => ?_⟩, k3, by dsimp only; omega, fun z => Or.inl z, by rw [e3]⟩
    dsimp only at hb ⊢
    have hsame : ∀ x, x < 8 → (mt_Z ν).1 x = (mt_Z M).1 x ∧ ∀ k, k < (mt_Z M).1 x → (mt_Z ν).2 x k = (mt_Z M).2 x k := fun x hx8 => ⟨by show ν.1 6 x = M.1 6 x; rw [e3], fun k hk2 => ((k1 x hx8).2 k hk2).symm⟩
    have hr8 : r < 8 := by omega
    unfold mt_P
    rw [k3.1, k3.2]
    refine pn_stay (Z := mt_Z M) ?_ (hsame _ (hW.1 r hr8).2.1) (hsame _ (hW.1 r hr8).2.2)
    by_cases e : r = p
    · rw [if_pos e, e]; exact hP
    · rw [if_neg e]; exact hst hb r (by omega)
  · rw [if_neg hc]
    have t1 : ∀ r, (us_N ν 6 p n).1 6 r = if r = p then q.1 else M.1 6 r := fun r => by
      rw [us_N1, e3]
      by_cases e : r = p
      · rw [if_pos e, if_pos ⟨rfl, e⟩]; exact e2.symm
      · rw [if_neg e, if_neg (fun z => e z.2)]
    obtain ⟨k1, k2, k3, k4⟩ := key (us_N ν 6 p n) t1 (fun a ha => by rw [us_Nf ha, e3]) rfl
    exact ⟨⟨_, k2, fun hb => by cases hb⟩, k3, by dsimp only; omega, fun _ => Or.inr (by dsimp only; omega), by dsimp only; rw [us_Nf (by decide), e3]⟩
def mt_pass : Nat → Nat → Bool × us_S → Bool × us_S
  | 0, _, g => g
  | f + 1, p, g => mt_pass f (p + 1) (mt_st1 g p)
theorem mt_pass_J : ∀ (f p : Nat) (g : Bool × us_S), p + f = 8 → mt_PI p g → mt_PI 8 (mt_pass f p g) ∧ xc_cfg g.2 (mt_pass f p g).2 ∧ xc_s8 (g.2.1 6) ≤ xc_s8 ((mt_pass f p g).2.1 6) ∧ ((mt_pass f p g).1 = true → g.1 = true ∨ xc_s8 (g.2.1 6) + 1 ≤ xc_s8 ((mt_pass f p g).2.1 6)) ∧ (mt_pass f p g).2.1 4 = g.2.1 4
  | 0, p, g, hp, h => by
    have e : p = 8 := by omega
    subst e
    exact ⟨h, ⟨rfl, rfl⟩, Nat.le_refl _, fun z => Or.inl z, rfl⟩
  | f + 1, p, g, hp, h => by
    obtain ⟨a1, a2, a3, a4, a5⟩ := mt_st1_J (by omega) h
    obtain ⟨b1, b2, b3, b4, b5⟩ := mt_pass_J f (p + 1) (mt_st1 g p) (by omega) a1
    refine ⟨b1, a2.trans b2, Nat.le_trans a3 b3, fun z => ?_, b5.trans a5⟩
    rcases b4 z with w | w
    · rcases a4 w with y | y
      · exact Or.inl y
      · exact Or.inr (Nat.le_trans y b3)
    · exact Or.inr (Nat.le_trans (Nat.succ_le_succ a3) w)
def mt_wl : Nat → Bool × us_S → us_S
  | 0, g => g.2
  | f + 1, g => if g.1 = true then mt_wl f (mt_pass 8 0 (false, g.2)) else g.2
/-- the streams are the least fixed ones -/
def mt_set (μ : us_S) : Prop := pn_Fix (xc_k μ) (μ.2 3) (mt_Z μ) ∧ pn_I2 (xc_k μ) (μ.2 3) (mt_Z μ) ∧ ∀ p, p < 8 → μ.1 6 p ≤ 40
theorem mt_wl_J : ∀ (f : Nat) (g : Bool × us_S), mt_PI (if g.1 = true then 0 else 8) g → (g.1 = true → 321 ≤ xc_s8 (g.2.1 6) + f) → mt_set (mt_wl f g) ∧ xc_cfg g.2 (mt_wl f g) ∧ (mt_wl f g).1 4 = g.2.1 4
  | f, (false, μ), h, _ => by
    obtain ⟨pi, hW, hst⟩ := h
    have e : mt_wl f (false, μ) = μ := by
      cases f with
      | zero => rfl
      | succ f => rfl
    rw [e]
    exact ⟨⟨⟨pi, hW.2.2.1, fun p hp => hst rfl p hp⟩, hW.2.2.2, hW.2.1⟩, ⟨rfl, rfl⟩, rfl⟩
  | 0, (true, μ), h, hf => by
    obtain ⟨pi, hW, -⟩ := h
    have h1 := hf rfl
    have h2 := xc_s8_le hW.2.1
    dsimp only at h1 h2
    omega
  | f + 1, (true, μ), h, hf => by
    obtain ⟨pi, hW, -⟩ := h
    have h1 := hf rfl
    obtain ⟨b1, b2, b3, b4, b5⟩ := mt_pass_J 8 0 (false, μ) rfl ⟨pi, hW, fun _ r hr => absurd hr (Nat.not_lt_zero _)⟩
    have e : mt_wl (f + 1) (true, μ) = mt_wl f (mt_pass 8 0 (false, μ)) := rfl
    rw [e]
    obtain ⟨c1, c2, c3⟩ := mt_wl_J f (mt_pass 8 0 (false, μ)) (by
      obtain ⟨pj, w1, w2⟩ := b1
      exact ⟨pj, w1, fun z r hr => w2 z r (by rw [z] at hr; exact hr)⟩) (fun z => by
      rcases b4 z with y | y
      · cases y
      · dsimp only at h1 y
        omega)
    exact ⟨c1, b2.trans c2, c3.trans b5⟩
def mt_z : Nat → Nat → us_S → us_S
  | 0, _, μ => μ
  | f + 1, p, μ => mt_z f (p + 1) (us_N μ 6 p 0)
theorem mt_z_J : ∀ (f p : Nat) (μ : us_S), p + f = 8 → (∀ a, a ≠ 6 → (mt_z f p μ).1 a = μ.1 a) ∧ (mt_z f p μ).2 = μ.2 ∧ ∀ r, r < 8 → (p ≤ r ∨ μ.1 6 r = 0) → (mt_z f p μ).1 6 r = 0
  | 0, p, μ, hp => ⟨fun _ _ => rfl, rfl, fun r hr h => h.resolve_left (by omega)⟩
  | f + 1, p, μ, hp => by
    obtain ⟨g1, g2, g3⟩ := mt_z_J f (p + 1) (us_N μ 6 p 0) (by omega)
    refine ⟨fun a ha => ?_, g2, fun r hr h => ?_⟩
    · show (mt_z f (p + 1) _).1 a = _
      rw [g1 a ha, us_Nf ha]
    · refine g3 r hr ?_
      rw [us_N1]
      by_cases e : r = p
      · rw [if_pos ⟨rfl, e⟩]; exact Or.inr rfl
      · rw [if_neg (fun z => e z.2)]
        rcases h with h | h
        · exact Or.inl (by omega)
        · exact Or.inr h
def mt_workOut (μ : us_S) : us_S := if μ.1 4 0 = 0 then mt_wl 321 (true, mt_z 8 0 (us_N μ 4 0 1)) else μ
def mt_Inv (μ : us_S) : Prop := pn_ok (xc_k μ) ∧ μ.1 4 0 ≤ 1 ∧ (μ.1 4 0 ≠ 0 → mt_set μ)
theorem mt_workOut_J {μ : us_S} (h : mt_Inv μ) : mt_Inv (mt_workOut μ) ∧ mt_set (mt_workOut μ) ∧ xc_cfg μ (mt_workOut μ) := by
  unfold mt_workOut
  by_cases h0 : μ.1 4 0 = 0
  · rw [if_pos h0]
    obtain ⟨z1, z2, z3⟩ := mt_z_J 8 0 (us_N μ 4 0 1) rfl
    have z3 := fun r hr => z3 r hr (Or.inl (Nat.zero_le _))
    have hk : xc_k (mt_z 8 0 (us_N μ 4 0 1)) = xc_k μ := xc_k_eq (by rw [z1 0 (by decide), us_Nf (by decide)]) (by rw [z1 1 (by decide), us_Nf (by decide)]) (by rw [z1 2 (by decide), us_Nf (by decide)])
    have hn : (mt_z 8 0 (us_N μ 4 0 1)).2 3 = μ.2 3 := by rw [z2]; rfl
    have h4 : (mt_z 8 0 (us_N μ 4 0 1)).1 4 0 = 1 := by rw [z1 4 (by decide), us_N1]; simp
    generalize mt_z 8 0 (us_N μ 4 0 1) = τ at z3 hk hn h4 ⊢
    have hW : mt_WI τ (fun _ => (0, 0, 0, 0)) := ⟨by rw [hk]; exact h.1, fun p hp => by rw [z3 p hp]; exact Nat.zero_le _, pn_I1_0 z3, pn_I2_0 z3⟩
    obtain ⟨a1, a2, a3⟩ := mt_wl_J 321 (true, τ) ⟨_, hW, fun z => by cases z⟩ (fun _ => by
      dsimp only
      omega)
    have c : xc_cfg μ (mt_wl 321 (true, τ)) := xc_cfg.trans ⟨hk, hn⟩ a2
    refine ⟨⟨by rw [c.1]; exact h.1, by rw [a3, h4]; exact Nat.le_refl _, fun _ => a1⟩, a1, c⟩
  · rw [if_neg h0]
    exact ⟨h, h.2.2 h0, ⟨rfl, rfl⟩⟩
/-! answers, out of streams -/
def qa_sum (g : Nat → Int32) : Nat → Int32
  | 0 => 0
  | n + 1 => qa_sum g n + g n
def qa_find (g : Nat → Int32) (v : Int32) : Nat → Nat → Int32
  | 0, _ => -3
  | f + 1, i => if g i = v then nI i else qa_find g v f (i + 1)
def qa_same (g h : Nat → Int32) : Nat → Nat → Bool
  | 0, _ => true
  | f + 1, i => if g i = h i then qa_same g h f (i + 1) else false
def qa_full (l : Nat → Nat) : Nat → Nat
  | 0 => 0
  | n + 1 => if l n = 40 then qa_full l n + 1 else qa_full l n
theorem qa_sum_eq {g h : Nat → Int32} : ∀ n, (∀ k, k < n → g k = h k) → qa_sum g n = qa_sum h n
  | 0, _ => rfl
  | n + 1, e => by
    show qa_sum g n + g n = qa_sum h n + h n
    rw [qa_sum_eq n (fun k hk => e k (by omega)), e n (by omega)]
theorem qa_find_eq {g h : Nat → Int32} {v : Int32} : ∀ f i, (∀ k, k < i + f → g k = h k) → qa_find g v f i = qa_find h v f i
  | 0, _, _ => rfl
  | f + 1, i, e => by
    show (if g i = v then nI i else qa_find g v f (i + 1)) = (if h i = v then nI i else qa_find h v f (i + 1))
    rw [e i (by omega), qa_find_eq f (i + 1) (fun k hk => e k (by omega))]
theorem qa_same_eq {g h g' h' : Nat → Int32} : ∀ f i, (∀ k, k < i + f → g k = g' k ∧ h k = h' k) → qa_same g h f i = qa_same g' h' f i
  | 0, _, _ => rfl
  | f + 1, i, e => by
    show (if g i = h i then qa_same g h f (i + 1) else false) = (if g' i = h' i then qa_same g' h' f (i + 1) else false)
    rw [(e i (by omega)).1, (e i (by omega)).2, qa_same_eq f (i + 1) (fun k hk => e k (by omega))]
theorem qa_full_eq {l l' : Nat → Nat} : ∀ n, (∀ k, k < n → l k = l' k) → qa_full l n = qa_full l' n
  | 0, _ => rfl
  | n + 1, e => by
    show (if l n = 40 then qa_full l n + 1 else qa_full l n) = (if l' n = 40 then qa_full l' n + 1 else qa_full l' n)
    rw [e n (by omega), qa_full_eq n (fun k hk => e k (by omega))]
end
section
/-! ROWS on numbers: what stands on the stack is .int (nI n) with n a Nat, or .int (bz b) with b a Bool -/
def bz (b : Bool) : Int32 := bif b then 1 else 0
theorem bz_nar (b : Bool) : narrow .boolean (.int (bz b)) = .int (bz b) := by cases b <;> rfl
theorem bz_d1 {c : Prop} [Decidable c] (h : c) : bz (decide c) = nI 1 := by rw [decide_eq_true h]; rfl
theorem bz_d0 {c : Prop} [Decidable c] (h : ¬ c) : bz (decide c) = nI 0 := by rw [decide_eq_false h]; rfl
section WN
variable {p : Program} {l : Launch} {e : Env} {R : Room} {s : State} {m : MethodId} {args : Array Value} {below : List Frame} {meth : Method} {c : Code} {H : Heap} {locs : List Loc} {cells slots : Nat} {Q : State → Prop}
variable {cc : ByteArray} {pc : Nat} {ls : Array Slot} {rest : List Value}
theorem wn_add (hx : p.tables.exec = Jvm.exec) (hb : c.code = cc) {a b : Nat} (hd : decode cc pc = .ok (.iadd, 1)) (k : W p l e R s m args below meth c H locs cells slots Q (F0 m (pc + 1) ls (.int (nI (a + b)) :: rest))) : W p l e R s m args below meth c H locs cells slots Q (F0 m pc ls (.int (nI b) :: .int (nI a) :: rest)) :=
  lv_iadd hx hb hd (by rw [nI_add]; exact k)
theorem wn_mul (hx : p.tables.exec = Jvm.exec) (hb : c.code = cc) {a b : Nat} (hd : decode cc pc = .ok (.imul, 1)) (k : W p l e R s m args below meth c H locs cells slots Q (F0 m (pc + 1) ls (.int (nI (a * b)) :: rest))) : W p l e R s m args below meth c H locs cells slots Q (F0 m pc ls (.int (nI b) :: .int (nI a) :: rest)) :=
  lv_imul hx hb hd (by rw [pk_mul]; exact k)
theorem wn_sub (hx : p.tables.exec = Jvm.exec) (hb : c.code = cc) {a b : Nat} (h : b ≤ a) (hd : decode cc pc = .ok (.isub, 1)) (k : W p l e R s m args below meth c H locs cells slots Q (F0 m (pc + 1) ls (.int (nI (a - b)) :: rest))) : W p l e R s m args below meth c H locs cells slots Q (F0 m pc ls (.int (nI b) :: .int (nI a) :: rest)) :=
  lv_isub hx hb hd (by rw [pk_sub h]; exact k)
theorem wn_and7 (hx : p.tables.exec = Jvm.exec) (hb : c.code = cc) {a : Nat} (h : a < 2 ^ 32) (hd : decode cc pc = .ok (.iand, 1)) (k : W p l e R s m args below meth c H locs cells slots Q (F0 m (pc + 1) ls (.int (nI (a % 8)) :: rest))) : W p l e R s m args below meth c H locs cells slots Q (F0 m pc ls (.int (nI 7) :: .int (nI a) :: rest)) :=
  lv_iand hx hb hd (by rw [pk_andN h 3 (by decide)]; exact k)
theorem wn_and1 (hx : p.tables.exec = Jvm.exec) (hb : c.code = cc) {a : Nat} (h : a < 2 ^ 32) (hd : decode cc pc = .ok (.iand, 1)) (k : W p l e R s m args below meth c H locs cells slots Q (F0 m (pc + 1) ls (.int (nI (a % 2)) :: rest))) : W p l e R s m args below meth c H locs cells slots Q (F0 m pc ls (.int (nI 1) :: .int (nI a) :: rest)) :=
  lv_iand hx hb hd (by rw [pk_andN h 1 (by decide)]; exact k)
theorem wn_div2 (hx : p.tables.exec = Jvm.exec) (hb : c.code = cc) {a : Nat} (h : a < 2 ^ 31) (hd : decode cc pc = .ok (.idiv, 1)) (k : W p l e R s m args below meth c H locs cells slots Q (F0 m (pc + 1) ls (.int (nI (a / 2)) :: rest))) : W p l e R s m args below meth c H locs cells slots Q (F0 m pc ls (.int (nI 2) :: .int (nI a) :: rest)) :=
  lv_idiv hx hb hd (by decide) (by rw [pk_div h (by decide) (by decide)]; exact k)
theorem wn_rem2 (hx : p.tables.exec = Jvm.exec) (hb : c.code = cc) {a : Nat} (h : a < 2 ^ 31) (hd : decode cc pc = .ok (.irem, 1)) (k : W p l e R s m args below meth c H locs cells slots Q (F0 m (pc + 1) ls (.int (nI (a % 2)) :: rest))) : W p l e R s m args below meth c H locs cells slots Q (F0 m pc ls (.int (nI 2) :: .int (nI a) :: rest)) :=
  lv_irem hx hb hd (by decide) (by rw [pk_rem h (by decide) (by decide)]; exact k)
theorem wn_ge (hx : p.tables.exec = Jvm.exec) (hb : c.code = cc) {a b : Nat} {off : Int} {tgt : Nat} (ha : a < 2 ^ 31) (hb2 : b < 2 ^ 31) (hd : decode cc pc = .ok (.if_icmp .ge off, 3)) (ht : (pc : Int) + off = (tgt : Int)) (kt : b ≤ a → W p l e R s m args below meth c H locs cells slots Q (F0 m tgt ls rest)) (kf : a < b → W p l e R s m args below meth c H locs cells slots Q (F0 m (pc + 3) ls rest)) : W p l e R s m args below meth c H locs cells slots Q (F0 m pc ls (.int (nI b) :: .int (nI a) :: rest)) :=
  lv_icmp_ge hx hb hd ht (fun h => kt ((nI_leI hb2 ha).mp h)) (fun h => kf (Nat.not_le.mp (fun z => h ((nI_leI hb2 ha).mpr z))))
theorem wn_lt (hx : p.tables.exec = Jvm.exec) (hb : c.code = cc) {a b : Nat} {off : Int} {tgt : Nat} (ha : a < 2 ^ 31) (hb2 : b < 2 ^ 31) (hd : decode cc pc = .ok (.if_icmp .lt off, 3)) (ht : (pc : Int) + off = (tgt : Int)) (kt : a < b → W p l e R s m args below meth c H locs cells slots Q (F0 m tgt ls rest)) (kf : b ≤ a → W p l e R s m args below meth c H locs cells slots Q (F0 m (pc + 3) ls rest)) : W p l e R s m args below meth c H locs cells slots Q (F0 m pc ls (.int (nI b) :: .int (nI a) :: rest)) :=
  lv_icmp_lt hx hb hd ht (fun h => kt ((nI_ltI ha hb2).mp h)) (fun h => kf (Nat.not_lt.mp (fun z => h ((nI_ltI ha hb2).mpr z))))
theorem wn_eq (hx : p.tables.exec = Jvm.exec) (hb : c.code = cc) {a b : Nat} {off : Int} {tgt : Nat} (ha : a < 2 ^ 31) (hb2 : b < 2 ^ 31) (hd : decode cc pc = .ok (.if_icmp .eq off, 3)) (ht : (pc : Int) + off = (tgt : Int)) (kt : a = b → W p l e R s m args below meth c H locs cells slots Q (F0 m tgt ls rest)) (kf : ¬ a = b → W p l e R s m args below meth c H locs cells slots Q (F0 m (pc + 3) ls rest)) : W p l e R s m args below meth c H locs cells slots Q (F0 m pc ls (.int (nI b) :: .int (nI a) :: rest)) :=
  lv_icmp_eq hx hb hd ht (fun h => kt ((nI_eq ha hb2).mp h)) (fun h => kf (fun z => h ((nI_eq ha hb2).mpr z)))
theorem wn_ne (hx : p.tables.exec = Jvm.exec) (hb : c.code = cc) {a b : Nat} {off : Int} {tgt : Nat} (ha : a < 2 ^ 31) (hb2 : b < 2 ^ 31) (hd : decode cc pc = .ok (.if_icmp .ne off, 3)) (ht : (pc : Int) + off = (tgt : Int)) (kt : ¬ a = b → W p l e R s m args below meth c H locs cells slots Q (F0 m tgt ls rest)) (kf : a = b → W p l e R s m args below meth c H locs cells slots Q (F0 m (pc + 3) ls rest)) : W p l e R s m args below meth c H locs cells slots Q (F0 m pc ls (.int (nI b) :: .int (nI a) :: rest)) :=
  lv_icmp_ne hx hb hd ht (fun h => kt (fun z => h ((nI_eq ha hb2).mpr z))) (fun h => kf ((nI_eq ha hb2).mp h))
theorem wn_if0 (hx : p.tables.exec = Jvm.exec) (hb : c.code = cc) {a : Nat} {off : Int} {tgt : Nat} (ha : a < 2 ^ 31) (hd : decode cc pc = .ok (.ifCond .eq off, 3)) (ht : (pc : Int) + off = (tgt : Int)) (kt : a = 0 → W p l e R s m args below meth c H locs cells slots Q (F0 m tgt ls rest)) (kf : ¬ a = 0 → W p l e R s m args below meth c H locs cells slots Q (F0 m (pc + 3) ls rest)) : W p l e R s m args below meth c H locs cells slots Q (F0 m pc ls (.int (nI a) :: rest)) :=
  lv_if_eq hx hb hd ht (fun h => kt ((nI_eq ha (by decide)).mp (h.trans nI_0.symm))) (fun h => kf (fun z => h (by rw [z]; exact nI_0)))
theorem wn_ifn (hx : p.tables.exec = Jvm.exec) (hb : c.code = cc) {a : Nat} {off : Int} {tgt : Nat} (ha : a < 2 ^ 31) (hd : decode cc pc = .ok (.ifCond .ne off, 3)) (ht : (pc : Int) + off = (tgt : Int)) (kt : ¬ a = 0 → W p l e R s m args below meth c H locs cells slots Q (F0 m tgt ls rest)) (kf : a = 0 → W p l e R s m args below meth c H locs cells slots Q (F0 m (pc + 3) ls rest)) : W p l e R s m args below meth c H locs cells slots Q (F0 m pc ls (.int (nI a) :: rest)) :=
  lv_if_ne hx hb hd ht (fun h => kt (fun z => h (by rw [z]; exact nI_0))) (fun h => kf ((nI_eq ha (by decide)).mp (h.trans nI_0.symm)))
theorem wn_ifle (hx : p.tables.exec = Jvm.exec) (hb : c.code = cc) {a : Nat} {off : Int} {tgt : Nat} (ha : a < 2 ^ 31) (hd : decode cc pc = .ok (.ifCond .le off, 3)) (ht : (pc : Int) + off = (tgt : Int)) (kt : a = 0 → W p l e R s m args below meth c H locs cells slots Q (F0 m tgt ls rest)) (kf : ¬ a = 0 → W p l e R s m args below meth c H locs cells slots Q (F0 m (pc + 3) ls rest)) : W p l e R s m args below meth c H locs cells slots Q (F0 m pc ls (.int (nI a) :: rest)) :=
  lv_if_le hx hb hd ht (fun h => kt (by rcases Nat.eq_zero_or_pos a with z | z; exact z; exact absurd h (nI_nle z ha))) (fun h => kf (fun z => h (by rw [z]; decide)))
theorem wn_ifzB (hx : p.tables.exec = Jvm.exec) (hb : c.code = cc) {b : Bool} {off : Int} {tgt : Nat} (hd : decode cc pc = .ok (.ifCond .eq off, 3)) (ht : (pc : Int) + off = (tgt : Int)) (kt : b = false → W p l e R s m args below meth c H locs cells slots Q (F0 m tgt ls rest)) (kf : b = true → W p l e R s m args below meth c H locs cells slots Q (F0 m (pc + 3) ls rest)) : W p l e R s m args below meth c H locs cells slots Q (F0 m pc ls (.int (bz b) :: rest)) :=
  lv_if_eq hx hb hd ht (fun h => kt (by cases b; rfl; exact absurd h (by decide))) (fun h => kf (by cases b; exact absurd rfl h; rfl))
theorem wn_ifnB (hx : p.tables.exec = Jvm.exec) (hb : c.code = cc) {b : Bool} {off : Int} {tgt : Nat} (hd : decode cc pc = .ok (.ifCond .ne off, 3)) (ht : (pc : Int) + off = (tgt : Int)) (kt : b = true → W p l e R s m args below meth c H locs cells slots Q (F0 m tgt ls rest)) (kf : b = false → W p l e R s m args below meth c H locs cells slots Q (F0 m (pc + 3) ls rest)) : W p l e R s m args below meth c H locs cells slots Q (F0 m pc ls (.int (bz b) :: rest)) :=
  lv_if_ne hx hb hd ht (fun h => kt (by cases b; exact absurd rfl h; rfl)) (fun h => kf (by cases b; rfl; exact absurd h (by decide)))
end WN
theorem wn_inc (i : Nat) : nI i + Int32.ofInt 1 = nI (i + 1) := nI_1 i
theorem wn_dec (i : Nat) : nI (i + 1) + Int32.ofInt (-1) = nI i := pk_m1 i
/-! THE CLASSES, and the worlds of the two objects -/
abbrev vwCl : List vw_C := [(RX0, TX0, 13), (RX1, TX1, 7)]
def xw_fs (ad : Nat → Nat) (σ : us_S) : List Value := [.ref (ad 0), .ref (ad 1), .ref (ad 2), .ref (ad 3), .ref (ad 4), .ref (ad 5), .ref (ad 6), .ref (ad 7), .ref (ad 8), .int (nI (σ.1 9 0)), .int (nI (σ.1 10 0)), .ref (ad 11), .ref (ad 12)]
def xw_W (ad : Nat → Nat) (dA dB : ClassId) (σ : us_S) : va_W := [(ad 13, .inr (0, xw_fs ad σ)),
  (ad 0, .inl (dA, 8, .inl (fun j => nI (σ.1 0 j)))), (ad 1, .inl (dA, 8, .inl (fun j => nI (σ.1 1 j)))), (ad 2, .inl (dA, 8, .inl (fun j => nI (σ.1 2 j)))), (ad 3, .inl (dA, 8, .inl (fun j => σ.2 3 j))),
  (ad 4, .inl (dA, 8, .inl (fun j => nI (σ.1 4 j)))), (ad 5, .inl (dA, 8, .inl (fun j => nI (σ.1 5 j)))), (ad 6, .inl (dA, 8, .inl (fun j => nI (σ.1 6 j)))), (ad 7, .inl (dA, 8, .inl (fun j => σ.2 7 j))), (ad 8, .inl (dA, 320, .inl (fun j => σ.2 8 j))),
  (ad 11, .inl (dA, 8, .inl (fun j => nI (σ.1 11 j)))), (ad 12, .inl (dB, 8, .inl (fun j => nI (σ.1 12 j))))]
def mw_fs (ad : Nat → Nat) (σ : us_S) : List Value := [.ref (ad 0), .ref (ad 1), .ref (ad 2), .ref (ad 3), .int (nI (σ.1 4 0)), .ref (ad 5), .ref (ad 6)]
def mw_W (ad : Nat → Nat) (dA : ClassId) (σ : us_S) : va_W := [(ad 13, .inr (1, mw_fs ad σ)),
  (ad 0, .inl (dA, 8, .inl (fun j => nI (σ.1 0 j)))), (ad 1, .inl (dA, 8, .inl (fun j => nI (σ.1 1 j)))), (ad 2, .inl (dA, 8, .inl (fun j => nI (σ.1 2 j)))), (ad 3, .inl (dA, 8, .inl (fun j => σ.2 3 j))),
  (ad 5, .inl (dA, 320, .inl (fun j => σ.2 5 j))), (ad 6, .inl (dA, 8, .inl (fun j => nI (σ.1 6 j))))]
theorem us_updN (σ : us_S) (k i v : Nat) : upd (fun j => nI (σ.1 k j)) i (nI v) = fun j => nI ((us_N σ k i v).1 k j) := by
  funext j
  show (if j = i then nI v else nI (σ.1 k j)) = nI ((us_N σ k i v).1 k j)
  rw [us_N1]
  by_cases h : j = i
  · rw [if_pos h, if_pos ⟨rfl, h⟩]
  · rw [if_neg h, if_neg (fun z => h z.2)]
theorem us_updV (σ : us_S) (k i : Nat) (v : Int32) : upd (fun j => σ.2 k j) i v = fun j => (us_V σ k i v).2 k j := by
  funext j
  show (if j = i then v else σ.2 k j) = (us_V σ k i v).2 k j
  rw [us_V2]
  by_cases h : j = i
  · rw [if_pos h, if_pos ⟨rfl, h⟩]
  · rw [if_neg h, if_neg (fun z => h z.2)]
theorem us_zero (σ : us_S) (k v : Nat) : (us_N σ k 0 v).1 k 0 = v := by rw [us_N1, if_pos ⟨rfl, rfl⟩]
end
section
/-! ROWS for ProcessNetwork (by wip/D-64155w/gen/rows.py) -/
set_option maxRecDepth 100000
/-- what holds all through a method of ProcessNetwork -/
def xw_C (D : va_G) (dA dB : ClassId) (p : Program) (s : State) (m : MethodId) (args : Array Value) (c : Code) (cc : ByteArray) : Prop := p.tables.exec = Jvm.exec ∧ c.code = cc ∧ (∀ w ∈ lw_all, w.before args s = true) ∧ s.vm.findClass RX0 = some m.cls ∧ va_K D vwCl [(dA, .int), (dB, .boolean)] s
/-- the heap holds the object, in state σ; nothing else than its cells and new ones has changed -/
def xw_H (D : va_G) (ad : Nat → Nat) (dA dB : ClassId) (A : Nat → Prop) (s : State) (H : Heap) (locs : List Loc) (σ : us_S) : Prop := va_P D vwCl (xw_W ad dA dB σ) H ∧ va_D A (xw_W ad dA dB σ) ∧ va_S A s.heap H locs ∧ ∀ q, s.heap.size ≤ q → A q
abbrev xw_Pre (D : va_G) (ad : Nat → Nat) (dA dB : ClassId) (sz : Nat) (σ : us_S) : State → Prop := fun U => U.heap.size = sz ∧ va_P D vwCl (xw_W ad dA dB σ) U.heap ∧ va_K D vwCl [(dA, .int), (dB, .boolean)] U ∧ va_D (fun _ => True) (xw_W ad dA dB σ)
abbrev xw_B (D : va_G) (ad : Nat → Nat) (dA dB : ClassId) (A : Nat → Prop) : us_S → State → Prop := fun u t => va_P D vwCl (xw_W ad dA dB u) t.heap ∧ va_K D vwCl [(dA, .int), (dB, .boolean)] t ∧ va_D A (xw_W ad dA dB u)
/-- the contract of a method of ProcessNetwork that answers an int (or a boolean): from state σ with the arguments av it answers r and leaves state τ -/
def xw_Mi (l : Launch) (y : MethodName) (cc : ByteArray) (nL : Nat) (ret : Option FieldType) (rm : Room) (D : va_G) (ad : Nat → Nat) (dA dB : ClassId) (sz : Nat) (σ : us_S) (av : List Value) (r : Int32) (τ : us_S) : Prop := Met l y (ws_ y cc nL ret) rm (va_Pc (.ref (ad 13) :: av) (xw_Pre D ad dA dB sz σ)) (va_Qi (fun r' u => r' = r ∧ u = τ) (xw_B D ad dA dB (va_A (xw_W ad dA dB σ) sz)) (va_A (xw_W ad dA dB σ) sz)) 0 0 (va_A (xw_W ad dA dB σ) sz)
/-- the same of a void method -/
def xw_Mv (l : Launch) (y : MethodName) (cc : ByteArray) (nL : Nat) (rm : Room) (D : va_G) (ad : Nat → Nat) (dA dB : ClassId) (sz : Nat) (σ : us_S) (av : List Value) (τ : us_S) : Prop := Met l y (ws_ y cc nL none) rm (va_Pc (.ref (ad 13) :: av) (xw_Pre D ad dA dB sz σ)) (va_Qv (fun u => u = τ) (xw_B D ad dA dB (va_A (xw_W ad dA dB σ) sz)) (va_A (xw_W ad dA dB σ) sz)) 0 0 (va_A (xw_W ad dA dB σ) sz)
section XWR
variable {p : Program} {l : Launch} {e : Env} {R : Room} {s : State} {m : MethodId} {args : Array Value} {below : List Frame} {meth : Method} {c : Code} {H : Heap} {locs : List Loc} {cells slots : Nat} {Q : State → Prop}
variable {cc : ByteArray} {pc : Nat} {ls : Array Slot} {rest : List Value} {D : va_G} {ad : Nat → Nat} {dA dB : ClassId} {A : Nat → Prop} {σ : us_S}
theorem xg0 (C : xw_C D dA dB p s m args c cc) (h : xw_H D ad dA dB A s H locs σ) (hd : decode cc pc = .ok (.getfield 7, 3)) (kk : W p l e R s m args below meth c H locs cells slots Q (F0 m (pc + 3) ls (.ref (ad 0) :: rest))) : W p l e R s m args below meth c H locs cells slots Q (F0 m pc ls (.ref (ad 13) :: rest)) :=
  va_get (D := D) (ci := 0) (v := .ref (ad 0)) (C := RX0) (T := TX0) (N := 13) C.1 C.2.1 C.2.2.1 in_X0 C.2.2.2.1 C.2.2.2.2 h.1 0 rfl rfl 0 (by decide) (C.2.2.1 _ q43) (fun _ h9 => h9) rfl hd kk
theorem xl0 (C : xw_C D dA dB p s m args c cc) (h : xw_H D ad dA dB A s H locs σ) {i w : Nat} (hi : i < 8) (hw : σ.1 0 i = w) (hd : decode cc pc = .ok (.iaload, 1)) (kk : W p l e R s m args below meth c H locs cells slots Q (F0 m (pc + 1) ls (.int (nI w) :: rest))) : W p l e R s m args below meth c H locs cells slots Q (F0 m pc ls (.int (nI i) :: .ref (ad 0) :: rest)) := by
  refine va_iald C.1 C.2.1 C.2.2.2.2 h.1 1 0 rfl rfl (vp_in_nI hi (by decide)) hd ?_
  rw [nI_clamp (by omega), hw]; exact kk
theorem xs0 (C : xw_C D dA dB p s m args c cc) (h : xw_H D ad dA dB A s H locs σ) {i v : Nat} (hi : i < 8) (hd : decode cc pc = .ok (.iastore, 1)) (kk : ∀ (H1 : Heap) (locs1 : List Loc), xw_H D ad dA dB A s H1 locs1 (us_N σ 0 i v) → W p l e R s m args below meth c H1 locs1 cells slots Q (F0 m (pc + 1) ls rest)) : W p l e R s m args below meth c H locs cells slots Q (F0 m pc ls (.int (nI v) :: .int (nI i) :: .ref (ad 0) :: rest)) := by
  refine va_iast C.1 C.2.1 C.2.2.2.2 h.1 h.2.1 h.2.2.1 1 0 rfl rfl (vp_in_nI hi (by decide)) hd (fun H1 locs1 hP hD hS => ?_)
  rw [nI_clamp (by omega), us_updN] at hP hD
  exact kk H1 locs1 ⟨hP, hD, hS, h.2.2.2⟩
theorem xg1 (C : xw_C D dA dB p s m args c cc) (h : xw_H D ad dA dB A s H locs σ) (hd : decode cc pc = .ok (.getfield 13, 3)) (kk : W p l e R s m args below meth c H locs cells slots Q (F0 m (pc + 3) ls (.ref (ad 1) :: rest))) : W p l e R s m args below meth c H locs cells slots Q (F0 m pc ls (.ref (ad 13) :: rest)) :=
  va_get (D := D) (ci := 0) (v := .ref (ad 1)) (C := RX0) (T := TX0) (N := 13) C.1 C.2.1 C.2.2.1 in_X0 C.2.2.2.1 C.2.2.2.2 h.1 0 rfl rfl 1 (by decide) (C.2.2.1 _ q44) (fun _ h9 => h9) rfl hd kk
theorem xl1 (C : xw_C D dA dB p s m args c cc) (h : xw_H D ad dA dB A s H locs σ) {i w : Nat} (hi : i < 8) (hw : σ.1 1 i = w) (hd : decode cc pc = .ok (.iaload, 1)) (kk : W p l e R s m args below meth c H locs cells slots Q (F0 m (pc + 1) ls (.int (nI w) :: rest))) : W p l e R s m args below meth c H locs cells slots Q (F0 m pc ls (.int (nI i) :: .ref (ad 1) :: rest)) := by
  refine va_iald C.1 C.2.1 C.2.2.2.2 h.1 2 0 rfl rfl (vp_in_nI hi (by decide)) hd ?_
  rw [nI_clamp (by omega), hw]; exact kk
theorem xs1 (C : xw_C D dA dB p s m args c cc) (h : xw_H D ad dA dB A s H locs σ) {i v : Nat} (hi : i < 8) (hd : decode cc pc = .ok (.iastore, 1)) (kk : ∀ (H1 : Heap) (locs1 : List Loc), xw_H D ad dA dB A s H1 locs1 (us_N σ 1 i v) → W p l e R s m args below meth c H1 locs1 cells slots Q (F0 m (pc + 1) ls rest)) : W p l e R s m args below meth c H locs cells slots Q (F0 m pc ls (.int (nI v) :: .int (nI i) :: .ref (ad 1) :: rest)) := by
  refine va_iast C.1 C.2.1 C.2.2.2.2 h.1 h.2.1 h.2.2.1 2 0 rfl rfl (vp_in_nI hi (by decide)) hd (fun H1 locs1 hP hD hS => ?_)
  rw [nI_clamp (by omega), us_updN] at hP hD
  exact kk H1 locs1 ⟨hP, hD, hS, h.2.2.2⟩
theorem xg2 (C : xw_C D dA dB p s m args c cc) (h : xw_H D ad dA dB A s H locs σ) (hd : decode cc pc = .ok (.getfield 16, 3)) (kk : W p l e R s m args below meth c H locs cells slots Q (F0 m (pc + 3) ls (.ref (ad 2) :: rest))) : W p l e R s m args below meth c H locs cells slots Q (F0 m pc ls (.ref (ad 13) :: rest)) :=
  va_get (D := D) (ci := 0) (v := .ref (ad 2)) (C := RX0) (T := TX0) (N := 13) C.1 C.2.1 C.2.2.1 in_X0 C.2.2.2.1 C.2.2.2.2 h.1 0 rfl rfl 2 (by decide) (C.2.2.1 _ q45) (fun _ h9 => h9) rfl hd kk
theorem xl2 (C : xw_C D dA dB p s m args c cc) (h : xw_H D ad dA dB A s H locs σ) {i w : Nat} (hi : i < 8) (hw : σ.1 2 i = w) (hd : decode cc pc = .ok (.iaload, 1)) (kk : W p l e R s m args below meth c H locs cells slots Q (F0 m (pc + 1) ls (.int (nI w) :: rest))) : W p l e R s m args below meth c H locs cells slots Q (F0 m pc ls (.int (nI i) :: .ref (ad 2) :: rest)) := by
  refine va_iald C.1 C.2.1 C.2.2.2.2 h.1 3 0 rfl rfl (vp_in_nI hi (by decide)) hd ?_
  rw [nI_clamp (by omega), hw]; exact kk
theorem xs2 (C : xw_C D dA dB p s m args c cc) (h : xw_H D ad dA dB A s H locs σ) {i v : Nat} (hi : i < 8) (hd : decode cc pc = .ok (.iastore, 1)) (kk : ∀ (H1 : Heap) (locs1 : List Loc), xw_H D ad dA dB A s H1 locs1 (us_N σ 2 i v) → W p l e R s m args below meth c H1 locs1 cells slots Q (F0 m (pc + 1) ls rest)) : W p l e R s m args below meth c H locs cells slots Q (F0 m pc ls (.int (nI v) :: .int (nI i) :: .ref (ad 2) :: rest)) := by
  refine va_iast C.1 C.2.1 C.2.2.2.2 h.1 h.2.1 h.2.2.1 3 0 rfl rfl (vp_in_nI hi (by decide)) hd (fun H1 locs1 hP hD hS => ?_)
  rw [nI_clamp (by omega), us_updN] at hP hD
  exact kk H1 locs1 ⟨hP, hD, hS, h.2.2.2⟩
theorem xg3 (C : xw_C D dA dB p s m args c cc) (h : xw_H D ad dA dB A s H locs σ) (hd : decode cc pc = .ok (.getfield 19, 3)) (kk : W p l e R s m args below meth c H locs cells slots Q (F0 m (pc + 3) ls (.ref (ad 3) :: rest))) : W p l e R s m args below meth c H locs cells slots Q (F0 m pc ls (.ref (ad 13) :: rest)) :=
  va_get (D := D) (ci := 0) (v := .ref (ad 3)) (C := RX0) (T := TX0) (N := 13) C.1 C.2.1 C.2.2.1 in_X0 C.2.2.2.1 C.2.2.2.2 h.1 0 rfl rfl 3 (by decide) (C.2.2.1 _ q46) (fun _ h9 => h9) rfl hd kk
theorem xl3 (C : xw_C D dA dB p s m args c cc) (h : xw_H D ad dA dB A s H locs σ) {i : Nat} {w : Int32} (hi : i < 8) (hw : σ.2 3 i = w) (hd : decode cc pc = .ok (.iaload, 1)) (kk : W p l e R s m args below meth c H locs cells slots Q (F0 m (pc + 1) ls (.int w :: rest))) : W p l e R s m args below meth c H locs cells slots Q (F0 m pc ls (.int (nI i) :: .ref (ad 3) :: rest)) := by
  refine va_iald C.1 C.2.1 C.2.2.2.2 h.1 4 0 rfl rfl (vp_in_nI hi (by decide)) hd ?_
  rw [nI_clamp (by omega), hw]; exact kk
theorem xs3 (C : xw_C D dA dB p s m args c cc) (h : xw_H D ad dA dB A s H locs σ) {i : Nat} {v : Int32} (hi : i < 8) (hd : decode cc pc = .ok (.iastore, 1)) (kk : ∀ (H1 : Heap) (locs1 : List Loc), xw_H D ad dA dB A s H1 locs1 (us_V σ 3 i v) → W p l e R s m args below meth c H1 locs1 cells slots Q (F0 m (pc + 1) ls rest)) : W p l e R s m args below meth c H locs cells slots Q (F0 m pc ls (.int v :: .int (nI i) :: .ref (ad 3) :: rest)) := by
  refine va_iast C.1 C.2.1 C.2.2.2.2 h.1 h.2.1 h.2.2.1 4 0 rfl rfl (vp_in_nI hi (by decide)) hd (fun H1 locs1 hP hD hS => ?_)
  rw [nI_clamp (by omega), us_updV] at hP hD
  exact kk H1 locs1 ⟨hP, hD, hS, h.2.2.2⟩
theorem xg4 (C : xw_C D dA dB p s m args c cc) (h : xw_H D ad dA dB A s H locs σ) (hd : decode cc pc = .ok (.getfield 22, 3)) (kk : W p l e R s m args below meth c H locs cells slots Q (F0 m (pc + 3) ls (.ref (ad 4) :: rest))) : W p l e R s m args below meth c H locs cells slots Q (F0 m pc ls (.ref (ad 13) :: rest)) :=
  va_get (D := D) (ci := 0) (v := .ref (ad 4)) (C := RX0) (T := TX0) (N := 13) C.1 C.2.1 C.2.2.1 in_X0 C.2.2.2.1 C.2.2.2.2 h.1 0 rfl rfl 4 (by decide) (C.2.2.1 _ q47) (fun _ h9 => h9) rfl hd kk
theorem xl4 (C : xw_C D dA dB p s m args c cc) (h : xw_H D ad dA dB A s H locs σ) {i w : Nat} (hi : i < 8) (hw : σ.1 4 i = w) (hd : decode cc pc = .ok (.iaload, 1)) (kk : W p l e R s m args below meth c H locs cells slots Q (F0 m (pc + 1) ls (.int (nI w) :: rest))) : W p l e R s m args below meth c H locs cells slots Q (F0 m pc ls (.int (nI i) :: .ref (ad 4) :: rest)) := by
  refine va_iald C.1 C.2.1 C.2.2.2.2 h.1 5 0 rfl rfl (vp_in_nI hi (by decide)) hd ?_
  rw [nI_clamp (by omega), hw]; exact kk
theorem xs4 (C : xw_C D dA dB p s m args c cc) (h : xw_H D ad dA dB A s H locs σ) {i v : Nat} (hi : i < 8) (hd : decode cc pc = .ok (.iastore, 1)) (kk : ∀ (H1 : Heap) (locs1 : List Loc), xw_H D ad dA dB A s H1 locs1 (us_N σ 4 i v) → W p l e R s m args below meth c H1 locs1 cells slots Q (F0 m (pc + 1) ls rest)) : W p l e R s m args below meth c H locs cells slots Q (F0 m pc ls (.int (nI v) :: .int (nI i) :: .ref (ad 4) :: rest)) := by
  refine va_iast C.1 C.2.1 C.2.2.2.2 h.1 h.2.1 h.2.2.1 5 0 rfl rfl (vp_in_nI hi (by decide)) hd (fun H1 locs1 hP hD hS => ?_)
  rw [nI_clamp (by omega), us_updN] at hP hD
  exact kk H1 locs1 ⟨hP, hD, hS, h.2.2.2⟩
theorem xg5 (C : xw_C D dA dB p s m args c cc) (h : xw_H D ad dA dB A s H locs σ) (hd : decode cc pc = .ok (.getfield 25, 3)) (kk : W p l e R s m args below meth c H locs cells slots Q (F0 m (pc + 3) ls (.ref (ad 5) :: rest))) : W p l e R s m args below meth c H locs cells slots Q (F0 m pc ls (.ref (ad 13) :: rest)) :=
  va_get (D := D) (ci := 0) (v := .ref (ad 5)) (C := RX0) (T := TX0) (N := 13) C.1 C.2.1 C.2.2.1 in_X0 C.2.2.2.1 C.2.2.2.2 h.1 0 rfl rfl 5 (by decide) (C.2.2.1 _ q48) (fun _ h9 => h9) rfl hd kk
theorem xl5 (C : xw_C D dA dB p s m args c cc) (h : xw_H D ad dA dB A s H locs σ) {i w : Nat} (hi : i < 8) (hw : σ.1 5 i = w) (hd : decode cc pc = .ok (.iaload, 1)) (kk : W p l e R s m args below meth c H locs cells slots Q (F0 m (pc + 1) ls (.int (nI w) :: rest))) : W p l e R s m args below meth c H locs cells slots Q (F0 m pc ls (.int (nI i) :: .ref (ad 5) :: rest)) := by
  refine va_iald C.1 C.2.1 C.2.2.2.2 h.1 6 0 rfl rfl (vp_in_nI hi (by decide)) hd ?_
  rw [nI_clamp (by omega), hw]; exact kk
theorem xs5 (C : xw_C D dA dB p s m args c cc) (h : xw_H D ad dA dB A s H locs σ) {i v : Nat} (hi : i < 8) (hd : decode cc pc = .ok (.iastore, 1)) (kk : ∀ (H1 : Heap) (locs1 : List Loc), xw_H D ad dA dB A s H1 locs1 (us_N σ 5 i v) → W p l e R s m args below meth c H1 locs1 cells slots Q (F0 m (pc + 1) ls rest)) : W p l e R s m args below meth c H locs cells slots Q (F0 m pc ls (.int (nI v) :: .int (nI i) :: .ref (ad 5) :: rest)) := by
  refine va_iast C.1 C.2.1 C.2.2.2.2 h.1 h.2.1 h.2.2.1 6 0 rfl rfl (vp_in_nI hi (by decide)) hd (fun H1 locs1 hP hD hS => ?_)
  rw [nI_clamp (by omega), us_updN] at hP hD
  exact kk H1 locs1 ⟨hP, hD, hS, h.2.2.2⟩
theorem xg6 (C : xw_C D dA dB p s m args c cc) (h : xw_H D ad dA dB A s H locs σ) (hd : decode cc pc = .ok (.getfield 28, 3)) (kk : W p l e R s m args below meth c H locs cells slots Q (F0 m (pc + 3) ls (.ref (ad 6) :: rest))) : W p l e R s m args below meth c H locs cells slots Q (F0 m pc ls (.ref (ad 13) :: rest)) :=
  va_get (D := D) (ci := 0) (v := .ref (ad 6)) (C := RX0) (T := TX0) (N := 13) C.1 C.2.1 C.2.2.1 in_X0 C.2.2.2.1 C.2.2.2.2 h.1 0 rfl rfl 6 (by decide) (C.2.2.1 _ q49) (fun _ h9 => h9) rfl hd kk
theorem xl6 (C : xw_C D dA dB p s m args c cc) (h : xw_H D ad dA dB A s H locs σ) {i w : Nat} (hi : i < 8) (hw : σ.1 6 i = w) (hd : decode cc pc = .ok (.iaload, 1)) (kk : W p l e R s m args below meth c H locs cells slots Q (F0 m (pc + 1) ls (.int (nI w) :: rest))) : W p l e R s m args below meth c H locs cells slots Q (F0 m pc ls (.int (nI i) :: .ref (ad 6) :: rest)) := by
  refine va_iald C.1 C.2.1 C.2.2.2.2 h.1 7 0 rfl rfl (vp_in_nI hi (by decide)) hd ?_
  rw [nI_clamp (by omega), hw]; exact kk
theorem xs6 (C : xw_C D dA dB p s m args c cc) (h : xw_H D ad dA dB A s H locs σ) {i v : Nat} (hi : i < 8) (hd : decode cc pc = .ok (.iastore, 1)) (kk : ∀ (H1 : Heap) (locs1 : List Loc), xw_H D ad dA dB A s H1 locs1 (us_N σ 6 i v) → W p l e R s m args below meth c H1 locs1 cells slots Q (F0 m (pc + 1) ls rest)) : W p l e R s m args below meth c H locs cells slots Q (F0 m pc ls (.int (nI v) :: .int (nI i) :: .ref (ad 6) :: rest)) := by
  refine va_iast C.1 C.2.1 C.2.2.2.2 h.1 h.2.1 h.2.2.1 7 0 rfl rfl (vp_in_nI hi (by decide)) hd (fun H1 locs1 hP hD hS => ?_)
  rw [nI_clamp (by omega), us_updN] at hP hD
  exact kk H1 locs1 ⟨hP, hD, hS, h.2.2.2⟩
theorem xg7 (C : xw_C D dA dB p s m args c cc) (h : xw_H D ad dA dB A s H locs σ) (hd : decode cc pc = .ok (.getfield 31, 3)) (kk : W p l e R s m args below meth c H locs cells slots Q (F0 m (pc + 3) ls (.ref (ad 7) :: rest))) : W p l e R s m args below meth c H locs cells slots Q (F0 m pc ls (.ref (ad 13) :: rest)) :=
  va_get (D := D) (ci := 0) (v := .ref (ad 7)) (C := RX0) (T := TX0) (N := 13) C.1 C.2.1 C.2.2.1 in_X0 C.2.2.2.1 C.2.2.2.2 h.1 0 rfl rfl 7 (by decide) (C.2.2.1 _ q50) (fun _ h9 => h9) rfl hd kk
theorem xl7 (C : xw_C D dA dB p s m args c cc) (h : xw_H D ad dA dB A s H locs σ) {i : Nat} {w : Int32} (hi : i < 8) (hw : σ.2 7 i = w) (hd : decode cc pc = .ok (.iaload, 1)) (kk : W p l e R s m args below meth c H locs cells slots Q (F0 m (pc + 1) ls (.int w :: rest))) : W p l e R s m args below meth c H locs cells slots Q (F0 m pc ls (.int (nI i) :: .ref (ad 7) :: rest)) := by
  refine va_iald C.1 C.2.1 C.2.2.2.2 h.1 8 0 rfl rfl (vp_in_nI hi (by decide)) hd ?_
  rw [nI_clamp (by omega), hw]; exact kk
theorem xs7 (C : xw_C D dA dB p s m args c cc) (h : xw_H D ad dA dB A s H locs σ) {i : Nat} {v : Int32} (hi : i < 8) (hd : decode cc pc = .ok (.iastore, 1)) (kk : ∀ (H1 : Heap) (locs1 : List Loc), xw_H D ad dA dB A s H1 locs1 (us_V σ 7 i v) → W p l e R s m args below meth c H1 locs1 cells slots Q (F0 m (pc + 1) ls rest)) : W p l e R s m args below meth c H locs cells slots Q (F0 m pc ls (.int v :: .int (nI i) :: .ref (ad 7) :: rest)) := by
  refine va_iast C.1 C.2.1 C.2.2.2.2 h.1 h.2.1 h.2.2.1 8 0 rfl rfl (vp_in_nI hi (by decide)) hd (fun H1 locs1 hP hD hS => ?_)
  rw [nI_clamp (by omega), us_updV] at hP hD
  exact kk H1 locs1 ⟨hP, hD, hS, h.2.2.2⟩
theorem xg8 (C : xw_C D dA dB p s m args c cc) (h : xw_H D ad dA dB A s H locs σ) (hd : decode cc pc = .ok (.getfield 34, 3)) (kk : W p l e R s m args below meth c H locs cells slots Q (F0 m (pc + 3) ls (.ref (ad 8) :: rest))) : W p l e R s m args below meth c H locs cells slots Q (F0 m pc ls (.ref (ad 13) :: rest)) :=
  va_get (D := D) (ci := 0) (v := .ref (ad 8)) (C := RX0) (T := TX0) (N := 13) C.1 C.2.1 C.2.2.1 in_X0 C.2.2.2.1 C.2.2.2.2 h.1 0 rfl rfl 8 (by decide) (C.2.2.1 _ q51) (fun _ h9 => h9) rfl hd kk
theorem xl8 (C : xw_C D dA dB p s m args c cc) (h : xw_H D ad dA dB A s H locs σ) {i : Nat} {w : Int32} (hi : i < 320) (hw : σ.2 8 i = w) (hd : decode cc pc = .ok (.iaload, 1)) (kk : W p l e R s m args below meth c H locs cells slots Q (F0 m (pc + 1) ls (.int w :: rest))) : W p l e R s m args below meth c H locs cells slots Q (F0 m pc ls (.int (nI i) :: .ref (ad 8) :: rest)) := by
  refine va_iald C.1 C.2.1 C.2.2.2.2 h.1 9 0 rfl rfl (vp_in_nI hi (by decide)) hd ?_
  rw [nI_clamp (by omega), hw]; exact kk
theorem xs8 (C : xw_C D dA dB p s m args c cc) (h : xw_H D ad dA dB A s H locs σ) {i : Nat} {v : Int32} (hi : i < 320) (hd : decode cc pc = .ok (.iastore, 1)) (kk : ∀ (H1 : Heap) (locs1 : List Loc), xw_H D ad dA dB A s H1 locs1 (us_V σ 8 i v) → W p l e R s m args below meth c H1 locs1 cells slots Q (F0 m (pc + 1) ls rest)) : W p l e R s m args below meth c H locs cells slots Q (F0 m pc ls (.int v :: .int (nI i) :: .ref (ad 8) :: rest)) := by
  refine va_iast C.1 C.2.1 C.2.2.2.2 h.1 h.2.1 h.2.2.1 9 0 rfl rfl (vp_in_nI hi (by decide)) hd (fun H1 locs1 hP hD hS => ?_)
  rw [nI_clamp (by omega), us_updV] at hP hD
  exact kk H1 locs1 ⟨hP, hD, hS, h.2.2.2⟩
theorem xg9 (C : xw_C D dA dB p s m args c cc) (h : xw_H D ad dA dB A s H locs σ) {w : Nat} (hw : σ.1 9 0 = w) (hd : decode cc pc = .ok (.getfield 47, 3)) (kk : W p l e R s m args below meth c H locs cells slots Q (F0 m (pc + 3) ls (.int (nI w) :: rest))) : W p l e R s m args below meth c H locs cells slots Q (F0 m pc ls (.ref (ad 13) :: rest)) :=
  va_get (D := D) (ci := 0) (v := .int (nI (σ.1 9 0))) (C := RX0) (T := TX0) (N := 13) C.1 C.2.1 C.2.2.1 in_X0 C.2.2.2.1 C.2.2.2.2 h.1 0 rfl rfl 9 (by decide) (C.2.2.1 _ q52) (fun _ h9 => h9) rfl hd (by rw [hw]; exact kk)
theorem xp9 (C : xw_C D dA dB p s m args c cc) (h : xw_H D ad dA dB A s H locs σ) {v : Nat} (hd : decode cc pc = .ok (.putfield 47, 3)) (kk : ∀ (H1 : Heap) (locs1 : List Loc), xw_H D ad dA dB A s H1 locs1 (us_N σ 9 0 v) → W p l e R s m args below meth c H1 locs1 cells slots Q (F0 m (pc + 3) ls rest)) : W p l e R s m args below meth c H locs cells slots Q (F0 m pc ls (.int (nI v) :: .ref (ad 13) :: rest)) := by
  refine va_put (D := D) (ci := 0) (v := .int (nI v)) (ty := .int) (C := RX0) (T := TX0) (N := 13) C.1 C.2.1 C.2.2.1 in_X0 tyX0 tyX0_ok nmX0 C.2.2.2.1 C.2.2.2.2 h.1 h.2.1 h.2.2.1 0 rfl rfl 9 (by decide) (C.2.2.1 _ q52) (fun _ h9 => h9) rfl (by decide +kernel) rfl rfl (Nat.le_of_ble_eq_true rfl) hd (fun H1 locs1 hP hD hS => ?_)
  have e : (xw_W ad dA dB σ).set 0 (ad 13, .inr (0, (xw_fs ad σ).set 9 (.int (nI v)))) = xw_W ad dA dB (us_N σ 9 0 v) := by
    rw [← us_zero σ 9 v]; rfl
  exact kk H1 locs1 ⟨e ▸ hP, e ▸ hD, hS, h.2.2.2⟩
theorem xg10 (C : xw_C D dA dB p s m args c cc) (h : xw_H D ad dA dB A s H locs σ) {w : Nat} (hw : σ.1 10 0 = w) (hd : decode cc pc = .ok (.getfield 51, 3)) (kk : W p l e R s m args below meth c H locs cells slots Q (F0 m (pc + 3) ls (.int (nI w) :: rest))) : W p l e R s m args below meth c H locs cells slots Q (F0 m pc ls (.ref (ad 13) :: rest)) :=
  va_get (D := D) (ci := 0) (v := .int (nI (σ.1 10 0))) (C := RX0) (T := TX0) (N := 13) C.1 C.2.1 C.2.2.1 in_X0 C.2.2.2.1 C.2.2.2.2 h.1 0 rfl rfl 10 (by decide) (C.2.2.1 _ q53) (fun _ h9 => h9) rfl hd (by rw [hw]; exact kk)
theorem xp10 (C : xw_C D dA dB p s m args c cc) (h : xw_H D ad dA dB A s H locs σ) {v : Nat} (hd : decode cc pc = .ok (.putfield 51, 3)) (kk : ∀ (H1 : Heap) (locs1 : List Loc), xw_H D ad dA dB A s H1 locs1 (us_N σ 10 0 v) → W p l e R s m args below meth c H1 locs1 cells slots Q (F0 m (pc + 3) ls rest)) : W p l e R s m args below meth c H locs cells slots Q (F0 m pc ls (.int (nI v) :: .ref (ad 13) :: rest)) := by
  refine va_put (D := D) (ci := 0) (v := .int (nI v)) (ty := .int) (C := RX0) (T := TX0) (N := 13) C.1 C.2.1 C.2.2.1 in_X0 tyX0 tyX0_ok nmX0 C.2.2.2.1 C.2.2.2.2 h.1 h.2.1 h.2.2.1 0 rfl rfl 10 (by decide) (C.2.2.1 _ q53) (fun _ h9 => h9) rfl (by decide +kernel) rfl rfl (Nat.le_of_ble_eq_true rfl) hd (fun H1 locs1 hP hD hS => ?_)
  have e : (xw_W ad dA dB σ).set 0 (ad 13, .inr (0, (xw_fs ad σ).set 10 (.int (nI v)))) = xw_W ad dA dB (us_N σ 10 0 v) := by
    rw [← us_zero σ 10 v]; rfl
  exact kk H1 locs1 ⟨e ▸ hP, e ▸ hD, hS, h.2.2.2⟩
theorem xg11 (C : xw_C D dA dB p s m args c cc) (h : xw_H D ad dA dB A s H locs σ) (hd : decode cc pc = .ok (.getfield 37, 3)) (kk : W p l e R s m args below meth c H locs cells slots Q (F0 m (pc + 3) ls (.ref (ad 11) :: rest))) : W p l e R s m args below meth c H locs cells slots Q (F0 m pc ls (.ref (ad 13) :: rest)) :=
  va_get (D := D) (ci := 0) (v := .ref (ad 11)) (C := RX0) (T := TX0) (N := 13) C.1 C.2.1 C.2.2.1 in_X0 C.2.2.2.1 C.2.2.2.2 h.1 0 rfl rfl 11 (by decide) (C.2.2.1 _ q54) (fun _ h9 => h9) rfl hd kk
theorem xl11 (C : xw_C D dA dB p s m args c cc) (h : xw_H D ad dA dB A s H locs σ) {i w : Nat} (hi : i < 8) (hw : σ.1 11 i = w) (hd : decode cc pc = .ok (.iaload, 1)) (kk : W p l e R s m args below meth c H locs cells slots Q (F0 m (pc + 1) ls (.int (nI w) :: rest))) : W p l e R s m args below meth c H locs cells slots Q (F0 m pc ls (.int (nI i) :: .ref (ad 11) :: rest)) := by
  refine va_iald C.1 C.2.1 C.2.2.2.2 h.1 10 0 rfl rfl (vp_in_nI hi (by decide)) hd ?_
  rw [nI_clamp (by omega), hw]; exact kk
theorem xs11 (C : xw_C D dA dB p s m args c cc) (h : xw_H D ad dA dB A s H locs σ) {i v : Nat} (hi : i < 8) (hd : decode cc pc = .ok (.iastore, 1)) (kk : ∀ (H1 : Heap) (locs1 : List Loc), xw_H D ad dA dB A s H1 locs1 (us_N σ 11 i v) → W p l e R s m args below meth c H1 locs1 cells slots Q (F0 m (pc + 1) ls rest)) : W p l e R s m args below meth c H locs cells slots Q (F0 m pc ls (.int (nI v) :: .int (nI i) :: .ref (ad 11) :: rest)) := by
  refine va_iast C.1 C.2.1 C.2.2.2.2 h.1 h.2.1 h.2.2.1 10 0 rfl rfl (vp_in_nI hi (by decide)) hd (fun H1 locs1 hP hD hS => ?_)
  rw [nI_clamp (by omega), us_updN] at hP hD
  exact kk H1 locs1 ⟨hP, hD, hS, h.2.2.2⟩
theorem xg12 (C : xw_C D dA dB p s m args c cc) (h : xw_H D ad dA dB A s H locs σ) (hd : decode cc pc = .ok (.getfield 40, 3)) (kk : W p l e R s m args below meth c H locs cells slots Q (F0 m (pc + 3) ls (.ref (ad 12) :: rest))) : W p l e R s m args below meth c H locs cells slots Q (F0 m pc ls (.ref (ad 13) :: rest)) :=
  va_get (D := D) (ci := 0) (v := .ref (ad 12)) (C := RX0) (T := TX0) (N := 13) C.1 C.2.1 C.2.2.1 in_X0 C.2.2.2.1 C.2.2.2.2 h.1 0 rfl rfl 12 (by decide) (C.2.2.1 _ q55) (fun _ h9 => h9) rfl hd kk
theorem xl12 (C : xw_C D dA dB p s m args c cc) (h : xw_H D ad dA dB A s H locs σ) {i w : Nat} (hi : i < 8) (hw : σ.1 12 i = w) (hd : decode cc pc = .ok (.baload, 1)) (kk : W p l e R s m args below meth c H locs cells slots Q (F0 m (pc + 1) ls (.int (nI w) :: rest))) : W p l e R s m args below meth c H locs cells slots Q (F0 m pc ls (.int (nI i) :: .ref (ad 12) :: rest)) := by
  refine va_zald C.1 C.2.1 C.2.2.2.2 h.1 11 1 rfl rfl (vp_in_nI hi (by decide)) hd ?_
  rw [nI_clamp (by omega), hw]; exact kk
theorem xs12 (C : xw_C D dA dB p s m args c cc) (h : xw_H D ad dA dB A s H locs σ) {i v : Nat} (hi : i < 8) (hv : vp_nar .boolean (nI v) = nI v) (hd : decode cc pc = .ok (.bastore, 1)) (kk : ∀ (H1 : Heap) (locs1 : List Loc), xw_H D ad dA dB A s H1 locs1 (us_N σ 12 i v) → W p l e R s m args below meth c H1 locs1 cells slots Q (F0 m (pc + 1) ls rest)) : W p l e R s m args below meth c H locs cells slots Q (F0 m pc ls (.int (nI v) :: .int (nI i) :: .ref (ad 12) :: rest)) := by
  refine va_zast C.1 C.2.1 C.2.2.2.2 h.1 h.2.1 h.2.2.1 11 1 rfl rfl (vp_in_nI hi (by decide)) hd (fun H1 locs1 hP hD hS => ?_)
  rw [hv, nI_clamp (by omega), us_updN] at hP hD
  exact kk H1 locs1 ⟨hP, hD, hS, h.2.2.2⟩
theorem xw_Mi_of {y : MethodName} {nL : Nat} {ret : Option FieldType} {rm : Room} {sz : Nat} {av : List Value} {r : Int32} {τ : us_S} (hy : plainName y.cls = true) (hc : y.cls = RX0) (hn : (lg_sl (Value.ref (ad 13) :: av)).length ≤ nL)
    (body : ∀ (p : Program) (e : Env) (s : State) (m : MethodId) (below : List Frame) (meth : Method) (c : Code) (A : Nat → Prop) (ls : Array Slot), xw_C D dA dB p s m (Value.ref (ad 13) :: av).toArray c cc → c.maxLocals = nL → meth.sig.returnType = ret → meth.locks = false → xw_H D ad dA dB A s s.heap [] σ → lv_has ls nL (lv_args 0 (Value.ref (ad 13) :: av)) →
      W p l e rm s m (Value.ref (ad 13) :: av).toArray below meth c s.heap [] 0 0 (MQ below (va_Qi (fun r' u => r' = r ∧ u = τ) (xw_B D ad dA dB A) A) (Value.ref (ad 13) :: av).toArray s 0 0 A) (F0 m 0 ls [])) : xw_Mi l y cc nL ret rm D ad dA dB sz σ av r τ := by
  refine Met.ofW (cc := cc) (maxL := nL) (ret := ret) hy rfl ?_
  intro p e s m args below meth c s₁ B hml hv
  obtain ⟨rfl, hsz, hP, hK, hD0⟩ := hv
  have hts := atoms_spec (ws := ws_ y cc nL ret) B.pre
  have hts : ∀ w ∈ lw_all, w.before _ s = true := fun w h => hts w (List.mem_cons_of_mem _ h)
  have hown : s.vm.findClass RX0 = some m.cls := by rw [← hc]; exact findClass_of_methodNamed B.named
  have hlk := B.notSynchronized
  subst hsz
  have hD := hD0.self (sz := s.heap.size)
  have hA : ∀ q : Nat, s.heap.size ≤ q → va_A (xw_W ad dA dB σ) s.heap.size q := fun q h => Or.inr h
  have hl := lv_entry (Value.ref (ad 13) :: av) (n := nL) hn
  rw [lg_entry_eq]
  exact body p e s m below meth c _ _ ⟨B.exec, B.bytes, hts, hown, hK⟩ hml B.returns hlk ⟨hP, hD, va_S.rf, hA⟩ hl
theorem xw_Mv_of {y : MethodName} {nL : Nat} {rm : Room} {sz : Nat} {av : List Value} {τ : us_S} (hy : plainName y.cls = true) (hc : y.cls = RX0) (hn : (lg_sl (Value.ref (ad 13) :: av)).length ≤ nL)
    (body : ∀ (p : Program) (e : Env) (s : State) (m : MethodId) (below : List Frame) (meth : Method) (c : Code) (A : Nat → Prop) (ls : Array Slot), xw_C D dA dB p s m (Value.ref (ad 13) :: av).toArray c cc → c.maxLocals = nL → meth.sig.returnType = none → meth.locks = false → xw_H D ad dA dB A s s.heap [] σ → lv_has ls nL (lv_args 0 (Value.ref (ad 13) :: av)) →
      W p l e rm s m (Value.ref (ad 13) :: av).toArray below meth c s.heap [] 0 0 (MQ below (va_Qv (fun u => u = τ) (xw_B D ad dA dB A) A) (Value.ref (ad 13) :: av).toArray s 0 0 A) (F0 m 0 ls [])) : xw_Mv l y cc nL rm D ad dA dB sz σ av τ := by
  refine Met.ofW (cc := cc) (maxL := nL) (ret := none) hy rfl ?_
  intro p e s m args below meth c s₁ B hml hv
  obtain ⟨rfl, hsz, hP, hK, hD0⟩ := hv
  have hts := atoms_spec (ws := ws_ y cc nL none) B.pre
  have hts : ∀ w ∈ lw_all, w.before _ s = true := fun w h => hts w (List.mem_cons_of_mem _ h)
  have hown : s.vm.findClass RX0 = some m.cls := by rw [← hc]; exact findClass_of_methodNamed B.named
  have hlk := B.notSynchronized
  subst hsz
  have hD := hD0.self (sz := s.heap.size)
  have hA : ∀ q : Nat, s.heap.size ≤ q → va_A (xw_W ad dA dB σ) s.heap.size q := fun q h => Or.inr h
  have hl := lv_entry (Value.ref (ad 13) :: av) (n := nL) hn
  rw [lg_entry_eq]
  exact body p e s m below meth c _ _ ⟨B.exec, B.bytes, hts, hown, hK⟩ hml B.returns hlk ⟨hP, hD, va_S.rf, hA⟩ hl
theorem xw_iret (C : xw_C D dA dB p s m args c cc) (h : xw_H D ad dA dB A s H locs σ) (hr : meth.sig.returnType = some .int) (hlk : meth.locks = false) {v r : Int32} {τ : us_S} (hv : v = r) (ht : σ = τ) (hd : decode cc pc = .ok (.ireturn, 1)) : W p l e R s m args below meth c H locs 0 0 (MQ below (va_Qi (fun r' u => r' = r ∧ u = τ) (xw_B D ad dA dB A) A) args s 0 0 A) (F0 m pc ls [.int v]) :=
  W.iret C.1 C.2.1 hr (fun t ht2 hW => ⟨⟨v, σ, rfl, ⟨hv, ht⟩, by rw [ht2]; exact h.1, va_K.moved hW.alike C.2.2.2.2, h.2.1⟩, h.2.2.1.F ht2⟩) h.2.2.1.2.2 hd hlk
theorem xw_zret (C : xw_C D dA dB p s m args c cc) (h : xw_H D ad dA dB A s H locs σ) (hr : meth.sig.returnType = some .boolean) (hlk : meth.locks = false) {v : Int32} {b : Bool} {τ : us_S} (hv : v = bz b) (ht : σ = τ) (hd : decode cc pc = .ok (.ireturn, 1)) : W p l e R s m args below meth c H locs 0 0 (MQ below (va_Qi (fun r' u => r' = bz b ∧ u = τ) (xw_B D ad dA dB A) A) args s 0 0 A) (F0 m pc ls [.int v]) :=
  W.zret C.1 C.2.1 hr (by rw [hv]; exact bz_nar b) (fun t ht2 hW => ⟨⟨v, σ, rfl, ⟨hv, ht⟩, by rw [ht2]; exact h.1, va_K.moved hW.alike C.2.2.2.2, h.2.1⟩, h.2.2.1.F ht2⟩) h.2.2.1.2.2 hd hlk
theorem xw_vret (C : xw_C D dA dB p s m args c cc) (h : xw_H D ad dA dB A s H locs σ) (hr : meth.sig.returnType = none) (hlk : meth.locks = false) {τ : us_S} (ht : σ = τ) (hd : decode cc pc = .ok (.return_, 1)) : W p l e R s m args below meth c H locs 0 0 (MQ below (va_Qv (fun u => u = τ) (xw_B D ad dA dB A) A) args s 0 0 A) (F0 m pc ls []) :=
  W.vret C.1 C.2.1 hr (fun t ht2 hW => ⟨⟨σ, rfl, ht, by rw [ht2]; exact h.1, va_K.moved hW.alike C.2.2.2.2, h.2.1⟩, h.2.2.1.F ht2⟩) h.2.2.1.2.2 hd hlk
theorem xw_calli {y : MethodName} {b : ByteArray} {L nL n index : Nat} {ret : Option FieldType} {rm : Room} {As st0 : List Value} {r : Int32} {τ : us_S} (C : xw_C D dA dB p s m args c cc) (hml : c.maxLocals = nL) (h : xw_H D ad dA dB A s H locs σ) (hM : xw_Mi l y b L ret rm D ad dA dB H.size σ As r τ)
    (q1 : Cond.methodLink RX0 index y ∈ lw_all) (q2 : Cond.instanceMethod y ∈ lw_all) (q3 : Cond.selects RX0 y y ∈ lw_all) (q5 : Cond.code y b L ret ∈ lw_all) (hy : y.cls = RX0) (hds : (parseMethodDescriptor y.desc).map (fun d => d.parameters.length) = some n) (hrc : rm.cells = 0) (hrs : rm.slots = 0) (hR : rm.frames + 1 ≤ R.frames ∧ 8 + (L + 11) + rm.locals ≤ R.locals) (hn : As.length = n) (hsz : ls.size = nL) (hst : st0 = As.reverse ++ .ref (ad 13) :: rest) (hrm : (rest.map fun v => v.category).sum ≤ 8) (hd : decode cc pc = .ok (.invokevirtual index, 3)) (hf : cells ≤ R.cells ∧ slots ≤ R.slots)
    (kk : ∀ (H1 : Heap) (locs1 : List Loc), xw_H D ad dA dB A s H1 locs1 τ → W p l e R s m args below meth c H1 locs1 cells slots Q (F0 m (pc + 3) ls (.int r :: rest))) : W p l e R s m args below meth c H locs cells slots Q (F0 m pc ls st0) := by
  have hPc := h.1
  have hFc := va_free (wc := xw_W ad dA dB σ) h.2.1 h.2.2.1 h.2.2.2 [0, 1, 2, 3, 4, 5, 6, 7, 8, 9, 10, 11] rfl
  have hin : Cond.initialized RX0 ∈ lw_all := q25
  have hne : y.cls = RX0 ∧ y.cls ≠ "java/lang/invoke/MethodHandle" ∧ y.cls ≠ "java/lang/invoke/VarHandle" ∧ (parseMethodDescriptor y.desc).map (fun d => d.parameters.length) = some n := ⟨hy, by rw [hy]; decide +kernel, by rw [hy]; decide +kernel, hds⟩
  refine va_calli (va_runV (As := As) (rest := rest) (b := ad 13) (C := RX0) ⟨C.1, C.2.1, hml, C.2.2.2.1, C.2.2.1⟩ hM (cwV n C.2.2.1 (lw_V q1 q2 q3 hin q5) rfl hrc hrs hne hR) ⟨fun a U g mk q => by obtain ⟨q0, q1, qP, qK, qD⟩ := q; exact ⟨q0, q1, qP, va_K.moved (u := U) (U := U.calling g mk a) (Vm.Alike.refl U.vm) qK, qD⟩, va_recv C.2.2.2.2 hPc (ci := 0) (q0 := 0) rfl rfl, fun U hU hW => ⟨rfl, by rw [hU], by rw [hU]; exact hPc, va_K.moved hW.alike C.2.2.2.2, h.2.1.weaken (fun _ _ _ _ => trivial)⟩⟩ rfl hn hsz hst (lv_room hrm) hd hf) h.2.2.1 (fun q _ z => hFc q z) hFc (fun r_1 u t H1 locs1 ht hvm hw hB hz hk hS => ?_)
  obtain ⟨rfl, rfl⟩ := hw
  obtain ⟨hP1, -, hD1⟩ := hB
  rw [ht] at hP1
  exact kk H1 locs1 ⟨hP1, hD1.weaken (fun _ q _ z => hFc q.1 z), hS, h.2.2.2⟩
theorem xw_callv {y : MethodName} {b : ByteArray} {L nL n index : Nat} {rm : Room} {As st0 : List Value} {τ : us_S} (C : xw_C D dA dB p s m args c cc) (hml : c.maxLocals = nL) (h : xw_H D ad dA dB A s H locs σ) (hM : xw_Mv l y b L rm D ad dA dB H.size σ As τ)
    (q1 : Cond.methodLink RX0 index y ∈ lw_all) (q2 : Cond.instanceMethod y ∈ lw_all) (q3 : Cond.selects RX0 y y ∈ lw_all) (q5 : Cond.code y b L none ∈ lw_all) (hy : y.cls = RX0) (hds : (parseMethodDescriptor y.desc).map (fun d => d.parameters.length) = some n) (hrc : rm.cells = 0) (hrs : rm.slots = 0) (hR : rm.frames + 1 ≤ R.frames ∧ 8 + (L + 11) + rm.locals ≤ R.locals) (hn : As.length = n) (hsz : ls.size = nL) (hst : st0 = As.reverse ++ .ref (ad 13) :: rest) (hrm : (rest.map fun v => v.category).sum ≤ 8) (hd : decode cc pc = .ok (.invokevirtual index, 3)) (hf : cells ≤ R.cells ∧ slots ≤ R.slots)
    (kk : ∀ (H1 : Heap) (locs1 : List Loc), xw_H D ad dA dB A s H1 locs1 τ → W p l e R s m args below meth c H1 locs1 cells slots Q (F0 m (pc + 3) ls (rest))) : W p l e R s m args below meth c H locs cells slots Q (F0 m pc ls st0) := by
  have hPc := h.1
  have hFc := va_free (wc := xw_W ad dA dB σ) h.2.1 h.2.2.1 h.2.2.2 [0, 1, 2, 3, 4, 5, 6, 7, 8, 9, 10, 11] rfl
  have hin : Cond.initialized RX0 ∈ lw_all := q25
  have hne : y.cls = RX0 ∧ y.cls ≠ "java/lang/invoke/MethodHandle" ∧ y.cls ≠ "java/lang/invoke/VarHandle" ∧ (parseMethodDescriptor y.desc).map (fun d => d.parameters.length) = some n := ⟨hy, by rw [hy]; decide +kernel, by rw [hy]; decide +kernel, hds⟩
  refine va_callv (va_runV (As := As) (rest := rest) (b := ad 13) (C := RX0) ⟨C.1, C.2.1, hml, C.2.2.2.1, C.2.2.1⟩ hM (cwV n C.2.2.1 (lw_V q1 q2 q3 hin q5) rfl hrc hrs hne hR) ⟨fun a U g mk q => by obtain ⟨q0, q1, qP, qK, qD⟩ := q; exact ⟨q0, q1, qP, va_K.moved (u := U) (U := U.calling g mk a) (Vm.Alike.refl U.vm) qK, qD⟩, va_recv C.2.2.2.2 hPc (ci := 0) (q0 := 0) rfl rfl, fun U hU hW => ⟨rfl, by rw [hU], by rw [hU]; exact hPc, va_K.moved hW.alike C.2.2.2.2, h.2.1.weaken (fun _ _ _ _ => trivial)⟩⟩ rfl hn hsz hst (lv_room hrm) hd hf) h.2.2.1 (fun q _ z => hFc q z) hFc (fun u t H1 locs1 ht hvm hw hB hz hk hS => ?_)
  have hw : u = τ := hw
  subst hw
  obtain ⟨hP1, -, hD1⟩ := hB
  rw [ht] at hP1
  exact kk H1 locs1 ⟨hP1, hD1.weaken (fun _ q _ z => hFc q.1 z), hS, h.2.2.2⟩
end XWR
end
section
/-! ROWS for ProcessNetworkModel (by wip/D-64155w/gen/rows.py) -/
set_option maxRecDepth 100000
/-- what holds all through a method of ProcessNetworkModel -/
def mw_C (D : va_G) (dA : ClassId) (p : Program) (s : State) (m : MethodId) (args : Array Value) (c : Code) (cc : ByteArray) : Prop := p.tables.exec = Jvm.exec ∧ c.code = cc ∧ (∀ w ∈ lw_all, w.before args s = true) ∧ s.vm.findClass RX1 = some m.cls ∧ va_K D vwCl [(dA, .int)] s
/-- the heap holds the object, in state σ; nothing else than its cells and new ones has changed -/
def mw_H (D : va_G) (ad : Nat → Nat) (dA : ClassId) (A : Nat → Prop) (s : State) (H : Heap) (locs : List Loc) (σ : us_S) : Prop := va_P D vwCl (mw_W ad dA σ) H ∧ va_D A (mw_W ad dA σ) ∧ va_S A s.heap H locs ∧ ∀ q, s.heap.size ≤ q → A q
abbrev mw_Pre (D : va_G) (ad : Nat → Nat) (dA : ClassId) (sz : Nat) (σ : us_S) : State → Prop := fun U => U.heap.size = sz ∧ va_P D vwCl (mw_W ad dA σ) U.heap ∧ va_K D vwCl [(dA, .int)] U ∧ va_D (fun _ => True) (mw_W ad dA σ)
abbrev mw_B (D : va_G) (ad : Nat → Nat) (dA : ClassId) (A : Nat → Prop) : us_S → State → Prop := fun u t => va_P D vwCl (mw_W ad dA u) t.heap ∧ va_K D vwCl [(dA, .int)] t ∧ va_D A (mw_W ad dA u)
/-- the contract of a method of ProcessNetworkModel that answers an int (or a boolean): from state σ with the arguments av it answers r and leaves state τ -/
def mw_Mi (l : Launch) (y : MethodName) (cc : ByteArray) (nL : Nat) (ret : Option FieldType) (rm : Room) (D : va_G) (ad : Nat → Nat) (dA : ClassId) (sz : Nat) (σ : us_S) (av : List Value) (r : Int32) (τ : us_S) : Prop := Met l y (ws_ y cc nL ret) rm (va_Pc (.ref (ad 13) :: av) (mw_Pre D ad dA sz σ)) (va_Qi (fun r' u => r' = r ∧ u = τ) (mw_B D ad dA (va_A (mw_W ad dA σ) sz)) (va_A (mw_W ad dA σ) sz)) 0 0 (va_A (mw_W ad dA σ) sz)
/-- the same of a void method -/
def mw_Mv (l : Launch) (y : MethodName) (cc : ByteArray) (nL : Nat) (rm : Room) (D : va_G) (ad : Nat → Nat) (dA : ClassId) (sz : Nat) (σ : us_S) (av : List Value) (τ : us_S) : Prop := Met l y (ws_ y cc nL none) rm (va_Pc (.ref (ad 13) :: av) (mw_Pre D ad dA sz σ)) (va_Qv (fun u => u = τ) (mw_B D ad dA (va_A (mw_W ad dA σ) sz)) (va_A (mw_W ad dA σ) sz)) 0 0 (va_A (mw_W ad dA σ) sz)
section MWR
variable {p : Program} {l : Launch} {e : Env} {R : Room} {s : State} {m : MethodId} {args : Array Value} {below : List Frame} {meth : Method} {c : Code} {H : Heap} {locs : List Loc} {cells slots : Nat} {Q : State → Prop}
variable {cc : ByteArray} {pc : Nat} {ls : Array Slot} {rest : List Value} {D : va_G} {ad : Nat → Nat} {dA : ClassId} {A : Nat → Prop} {σ : us_S}
theorem mg0 (C : mw_C D dA p s m args c cc) (h : mw_H D ad dA A s H locs σ) (hd : decode cc pc = .ok (.getfield 7, 3)) (kk : W p l e R s m args below meth c H locs cells slots Q (F0 m (pc + 3) ls (.ref (ad 0) :: rest))) : W p l e R s m args below meth c H locs cells slots Q (F0 m pc ls (.ref (ad 13) :: rest)) :=
  va_get (D := D) (ci := 1) (v := .ref (ad 0)) (C := RX1) (T := TX1) (N := 7) C.1 C.2.1 C.2.2.1 in_X1 C.2.2.2.1 C.2.2.2.2 h.1 0 rfl rfl 0 (by decide) (C.2.2.1 _ q182) (fun _ h9 => h9) rfl hd kk
theorem ml0 (C : mw_C D dA p s m args c cc) (h : mw_H D ad dA A s H locs σ) {i w : Nat} (hi : i < 8) (hw : σ.1 0 i = w) (hd : decode cc pc = .ok (.iaload, 1)) (kk : W p l e R s m args below meth c H locs cells slots Q (F0 m (pc + 1) ls (.int (nI w) :: rest))) : W p l e R s m args below meth c H locs cells slots Q (F0 m pc ls (.int (nI i) :: .ref (ad 0) :: rest)) := by
  refine va_iald C.1 C.2.1 C.2.2.2.2 h.1 1 0 rfl rfl (vp_in_nI hi (by decide)) hd ?_
  rw [nI_clamp (by omega), hw]; exact kk
theorem ms0 (C : mw_C D dA p s m args c cc) (h : mw_H D ad dA A s H locs σ) {i v : Nat} (hi : i < 8) (hd : decode cc pc = .ok (.iastore, 1)) (kk : ∀ (H1 : Heap) (locs1 : List Loc), mw_H D ad dA A s H1 locs1 (us_N σ 0 i v) → W p l e R s m args below meth c H1 locs1 cells slots Q (F0 m (pc + 1) ls rest)) : W p l e R s m args below meth c H locs cells slots Q (F0 m pc ls (.int (nI v) :: .int (nI i) :: .ref (ad 0) :: rest)) := by
  refine va_iast C.1 C.2.1 C.2.2.2.2 h.1 h.2.1 h.2.2.1 1 0 rfl rfl (vp_in_nI hi (by decide)) hd (fun H1 locs1 hP hD hS => ?_)
  rw [nI_clamp (by omega), us_updN] at hP hD
  exact kk H1 locs1 ⟨hP, hD, hS, h.2.2.2⟩
theorem mg1 (C : mw_C D dA p s m args c cc) (h : mw_H D ad dA A s H locs σ) (hd : decode cc pc = .ok (.getfield 13, 3)) (kk : W p l e R s m args below meth c H locs cells slots Q (F0 m (pc + 3) ls (.ref (ad 1) :: rest))) : W p l e R s m args below meth c H locs cells slots Q (F0 m pc ls (.ref (ad 13) :: rest)) :=
  va_get (D := D) (ci := 1) (v := .ref (ad 1)) (C := RX1) (T := TX1) (N := 7) C.1 C.2.1 C.2.2.1 in_X1 C.2.2.2.1 C.2.2.2.2 h.1 0 rfl rfl 1 (by decide) (C.2.2.1 _ q183) (fun _ h9 => h9) rfl hd kk
theorem ml1 (C : mw_C D dA p s m args c cc) (h : mw_H D ad dA A s H locs σ) {i w : Nat} (hi : i < 8) (hw : σ.1 1 i = w) (hd : decode cc pc = .ok (.iaload, 1)) (kk : W p l e R s m args below meth c H locs cells slots Q (F0 m (pc + 1) ls (.int (nI w) :: rest))) : W p l e R s m args below meth c H locs cells slots Q (F0 m pc ls (.int (nI i) :: .ref (ad 1) :: rest)) := by
  refine va_iald C.1 C.2.1 C.2.2.2.2 h.1 2 0 rfl rfl (vp_in_nI hi (by decide)) hd ?_
  rw [nI_clamp (by omega), hw]; exact kk
theorem ms1 (C : mw_C D dA p s m args c cc) (h : mw_H D ad dA A s H locs σ) {i v : Nat} (hi : i < 8) (hd : decode cc pc = .ok (.iastore, 1)) (kk : ∀ (H1 : Heap) (locs1 : List Loc), mw_H D ad dA A s H1 locs1 (us_N σ 1 i v) → W p l e R s m args below meth c H1 locs1 cells slots Q (F0 m (pc + 1) ls rest)) : W p l e R s m args below meth c H locs cells slots Q (F0 m pc ls (.int (nI v) :: .int (nI i) :: .ref (ad 1) :: rest)) := by
  refine va_iast C.1 C.2.1 C.2.2.2.2 h.1 h.2.1 h.2.2.1 2 0 rfl rfl (vp_in_nI hi (by decide)) hd (fun H1 locs1 hP hD hS => ?_)
  rw [nI_clamp (by omega), us_updN] at hP hD
  exact kk H1 locs1 ⟨hP, hD, hS, h.2.2.2⟩
theorem mg2 (C : mw_C D dA p s m args c cc) (h : mw_H D ad dA A s H locs σ) (hd : decode cc pc = .ok (.getfield 16, 3)) (kk : W p l e R s m args below meth c H locs cells slots Q (F0 m (pc + 3) ls (.ref (ad 2) :: rest))) : W p l e R s m args below meth c H locs cells slots Q (F0 m pc ls (.ref (ad 13) :: rest)) :=
  va_get (D := D) (ci := 1) (v := .ref (ad 2)) (C := RX1) (T := TX1) (N := 7) C.1 C.2.1 C.2.2.1 in_X1 C.2.2.2.1 C.2.2.2.2 h.1 0 rfl rfl 2 (by decide) (C.2.2.1 _ q184) (fun _ h9 => h9) rfl hd kk
theorem ml2 (C : mw_C D dA p s m args c cc) (h : mw_H D ad dA A s H locs σ) {i w : Nat} (hi : i < 8) (hw : σ.1 2 i = w) (hd : decode cc pc = .ok (.iaload, 1)) (kk : W p l e R s m args below meth c H locs cells slots Q (F0 m (pc + 1) ls (.int (nI w) :: rest))) : W p l e R s m args below meth c H locs cells slots Q (F0 m pc ls (.int (nI i) :: .ref (ad 2) :: rest)) := by
  refine va_iald C.1 C.2.1 C.2.2.2.2 h.1 3 0 rfl rfl (vp_in_nI hi (by decide)) hd ?_
  rw [nI_clamp (by omega), hw]; exact kk
theorem ms2 (C : mw_C D dA p s m args c cc) (h : mw_H D ad dA A s H locs σ) {i v : Nat} (hi : i < 8) (hd : decode cc pc = .ok (.iastore, 1)) (kk : ∀ (H1 : Heap) (locs1 : List Loc), mw_H D ad dA A s H1 locs1 (us_N σ 2 i v) → W p l e R s m args below meth c H1 locs1 cells slots Q (F0 m (pc + 1) ls rest)) : W p l e R s m args below meth c H locs cells slots Q (F0 m pc ls (.int (nI v) :: .int (nI i) :: .ref (ad 2) :: rest)) := by
  refine va_iast C.1 C.2.1 C.2.2.2.2 h.1 h.2.1 h.2.2.1 3 0 rfl rfl (vp_in_nI hi (by decide)) hd (fun H1 locs1 hP hD hS => ?_)
  rw [nI_clamp (by omega), us_updN] at hP hD
  exact kk H1 locs1 ⟨hP, hD, hS, h.2.2.2⟩
theorem mg3 (C : mw_C D dA p s m args c cc) (h : mw_H D ad dA A s H locs σ) (hd : decode cc pc = .ok (.getfield 19, 3)) (kk : W p l e R s m args below meth c H locs cells slots Q (F0 m (pc + 3) ls (.ref (ad 3) :: rest))) : W p l e R s m args below meth c H locs cells slots Q (F0 m pc ls (.ref (ad 13) :: rest)) :=
  va_get (D := D) (ci := 1) (v := .ref (ad 3)) (C := RX1) (T := TX1) (N := 7) C.1 C.2.1 C.2.2.1 in_X1 C.2.2.2.1 C.2.2.2.2 h.1 0 rfl rfl 3 (by decide) (C.2.2.1 _ q185) (fun _ h9 => h9) rfl hd kk
theorem ml3 (C : mw_C D dA p s m args c cc) (h : mw_H D ad dA A s H locs σ) {i : Nat} {w : Int32} (hi : i < 8) (hw : σ.2 3 i = w) (hd : decode cc pc = .ok (.iaload, 1)) (kk : W p l e R s m args below meth c H locs cells slots Q (F0 m (pc + 1) ls (.int w :: rest))) : W p l e R s m args below meth c H locs cells slots Q (F0 m pc ls (.int (nI i) :: .ref (ad 3) :: rest)) := by
  refine va_iald C.1 C.2.1 C.2.2.2.2 h.1 4 0 rfl rfl (vp_in_nI hi (by decide)) hd ?_
  rw [nI_clamp (by omega), hw]; exact kk
theorem ms3 (C : mw_C D dA p s m args c cc) (h : mw_H D ad dA A s H locs σ) {i : Nat} {v : Int32} (hi : i < 8) (hd : decode cc pc = .ok (.iastore, 1)) (kk : ∀ (H1 : Heap) (locs1 : List Loc), mw_H D ad dA A s H1 locs1 (us_V σ 3 i v) → W p l e R s m args below meth c H1 locs1 cells slots Q (F0 m (pc + 1) ls rest)) : W p l e R s m args below meth c H locs cells slots Q (F0 m pc ls (.int v :: .int (nI i) :: .ref (ad 3) :: rest)) := by
  refine va_iast C.1 C.2.1 C.2.2.2.2 h.1 h.2.1 h.2.2.1 4 0 rfl rfl (vp_in_nI hi (by decide)) hd (fun H1 locs1 hP hD hS => ?_)
  rw [nI_clamp (by omega), us_updV] at hP hD
  exact kk H1 locs1 ⟨hP, hD, hS, h.2.2.2⟩
theorem mg4 (C : mw_C D dA p s m args c cc) (h : mw_H D ad dA A s H locs σ) {w : Nat} (hw : σ.1 4 0 = w) (hd : decode cc pc = .ok (.getfield 32, 3)) (kk : W p l e R s m args below meth c H locs cells slots Q (F0 m (pc + 3) ls (.int (nI w) :: rest))) : W p l e R s m args below meth c H locs cells slots Q (F0 m pc ls (.ref (ad 13) :: rest)) :=
  va_get (D := D) (ci := 1) (v := .int (nI (σ.1 4 0))) (C := RX1) (T := TX1) (N := 7) C.1 C.2.1 C.2.2.1 in_X1 C.2.2.2.1 C.2.2.2.2 h.1 0 rfl rfl 4 (by decide) (C.2.2.1 _ q186) (fun _ h9 => h9) rfl hd (by rw [hw]; exact kk)
theorem mp4 (C : mw_C D dA p s m args c cc) (h : mw_H D ad dA A s H locs σ) {v : Nat} (hn : narrow .boolean (.int (nI v)) = .int (nI v)) (hfit : fits .boolean (.int (nI v)) = true) (hd : decode cc pc = .ok (.putfield 32, 3)) (kk : ∀ (H1 : Heap) (locs1 : List Loc), mw_H D ad dA A s H1 locs1 (us_N σ 4 0 v) → W p l e R s m args below meth c H1 locs1 cells slots Q (F0 m (pc + 3) ls rest)) : W p l e R s m args below meth c H locs cells slots Q (F0 m pc ls (.int (nI v) :: .ref (ad 13) :: rest)) := by
  refine va_put (D := D) (ci := 1) (v := .int (nI v)) (ty := .boolean) (C := RX1) (T := TX1) (N := 7) C.1 C.2.1 C.2.2.1 in_X1 tyX1 tyX1_ok nmX1 C.2.2.2.1 C.2.2.2.2 h.1 h.2.1 h.2.2.1 0 rfl rfl 4 (by decide) (C.2.2.1 _ q186) (fun _ h9 => h9) rfl (by decide +kernel) hn hfit (Nat.le_of_ble_eq_true rfl) hd (fun H1 locs1 hP hD hS => ?_)
  have e : (mw_W ad dA σ).set 0 (ad 13, .inr (1, (mw_fs ad σ).set 4 (.int (nI v)))) = mw_W ad dA (us_N σ 4 0 v) := by
    rw [← us_zero σ 4 v]; rfl
  exact kk H1 locs1 ⟨e ▸ hP, e ▸ hD, hS, h.2.2.2⟩
theorem mg5 (C : mw_C D dA p s m args c cc) (h : mw_H D ad dA A s H locs σ) (hd : decode cc pc = .ok (.getfield 22, 3)) (kk : W p l e R s m args below meth c H locs cells slots Q (F0 m (pc + 3) ls (.ref (ad 5) :: rest))) : W p l e R s m args below meth c H locs cells slots Q (F0 m pc ls (.ref (ad 13) :: rest)) :=
  va_get (D := D) (ci := 1) (v := .ref (ad 5)) (C := RX1) (T := TX1) (N := 7) C.1 C.2.1 C.2.2.1 in_X1 C.2.2.2.1 C.2.2.2.2 h.1 0 rfl rfl 5 (by decide) (C.2.2.1 _ q187) (fun _ h9 => h9) rfl hd kk
theorem ml5 (C : mw_C D dA p s m args c cc) (h : mw_H D ad dA A s H locs σ) {i : Nat} {w : Int32} (hi : i < 320) (hw : σ.2 5 i = w) (hd : decode cc pc = .ok (.iaload, 1)) (kk : W p l e R s m args below meth c H locs cells slots Q (F0 m (pc + 1) ls (.int w :: rest))) : W p l e R s m args below meth c H locs cells slots Q (F0 m pc ls (.int (nI i) :: .ref (ad 5) :: rest)) := by
  refine va_iald C.1 C.2.1 C.2.2.2.2 h.1 5 0 rfl rfl (vp_in_nI hi (by decide)) hd ?_
  rw [nI_clamp (by omega), hw]; exact kk
theorem ms5 (C : mw_C D dA p s m args c cc) (h : mw_H D ad dA A s H locs σ) {i : Nat} {v : Int32} (hi : i < 320) (hd : decode cc pc = .ok (.iastore, 1)) (kk : ∀ (H1 : Heap) (locs1 : List Loc), mw_H D ad dA A s H1 locs1 (us_V σ 5 i v) → W p l e R s m args below meth c H1 locs1 cells slots Q (F0 m (pc + 1) ls rest)) : W p l e R s m args below meth c H locs cells slots Q (F0 m pc ls (.int v :: .int (nI i) :: .ref (ad 5) :: rest)) := by
  refine va_iast C.1 C.2.1 C.2.2.2.2 h.1 h.2.1 h.2.2.1 5 0 rfl rfl (vp_in_nI hi (by decide)) hd (fun H1 locs1 hP hD hS => ?_)
  rw [nI_clamp (by omega), us_updV] at hP hD
  exact kk H1 locs1 ⟨hP, hD, hS, h.2.2.2⟩
theorem mg6 (C : mw_C D dA p s m args c cc) (h : mw_H D ad dA A s H locs σ) (hd : decode cc pc = .ok (.getfield 25, 3)) (kk : W p l e R s m args below meth c H locs cells slots Q (F0 m (pc + 3) ls (.ref (ad 6) :: rest))) : W p l e R s m args below meth c H locs cells slots Q (F0 m pc ls (.ref (ad 13) :: rest)) :=
  va_get (D := D) (ci := 1) (v := .ref (ad 6)) (C := RX1) (T := TX1) (N := 7) C.1 C.2.1 C.2.2.1 in_X1 C.2.2.2.1 C.2.2.2.2 h.1 0 rfl rfl 6 (by decide) (C.2.2.1 _ q188) (fun _ h9 => h9) rfl hd kk
theorem ml6 (C : mw_C D dA p s m args c cc) (h : mw_H D ad dA A s H locs σ) {i w : Nat} (hi : i < 8) (hw : σ.1 6 i = w) (hd : decode cc pc = .ok (.iaload, 1)) (kk : W p l e R s m args below meth c H locs cells slots Q (F0 m (pc + 1) ls (.int (nI w) :: rest))) : W p l e R s m args below meth c H locs cells slots Q (F0 m pc ls (.int (nI i) :: .ref (ad 6) :: rest)) := by
  refine va_iald C.1 C.2.1 C.2.2.2.2 h.1 6 0 rfl rfl (vp_in_nI hi (by decide)) hd ?_
  rw [nI_clamp (by omega), hw]; exact kk
theorem ms6 (C : mw_C D dA p s m args c cc) (h : mw_H D ad dA A s H locs σ) {i v : Nat} (hi : i < 8) (hd : decode cc pc = .ok (.iastore, 1)) (kk : ∀ (H1 : Heap) (locs1 : List Loc), mw_H D ad dA A s H1 locs1 (us_N σ 6 i v) → W p l e R s m args below meth c H1 locs1 cells slots Q (F0 m (pc + 1) ls rest)) : W p l e R s m args below meth c H locs cells slots Q (F0 m pc ls (.int (nI v) :: .int (nI i) :: .ref (ad 6) :: rest)) := by
  refine va_iast C.1 C.2.1 C.2.2.2.2 h.1 h.2.1 h.2.2.1 6 0 rfl rfl (vp_in_nI hi (by decide)) hd (fun H1 locs1 hP hD hS => ?_)
  rw [nI_clamp (by omega), us_updN] at hP hD
  exact kk H1 locs1 ⟨hP, hD, hS, h.2.2.2⟩
theorem mw_Mi_of {y : MethodName} {nL : Nat} {ret : Option FieldType} {rm : Room} {sz : Nat} {av : List Value} {r : Int32} {τ : us_S} (hy : plainName y.cls = true) (hc : y.cls = RX1) (hn : (lg_sl (Value.ref (ad 13) :: av)).length ≤ nL)
    (body : ∀ (p : Program) (e : Env) (s : State) (m : MethodId) (below : List Frame) (meth : Method) (c : Code) (A : Nat → Prop) (ls : Array Slot), mw_C D dA p s m (Value.ref (ad 13) :: av).toArray c cc → c.maxLocals = nL → meth.sig.returnType = ret → meth.locks = false → mw_H D ad dA A s s.heap [] σ → lv_has ls nL (lv_args 0 (Value.ref (ad 13) :: av)) →
      W p l e rm s m (Value.ref (ad 13) :: av).toArray below meth c s.heap [] 0 0 (MQ below (va_Qi (fun r' u => r' = r ∧ u = τ) (mw_B D ad dA A) A) (Value.ref (ad 13) :: av).toArray s 0 0 A) (F0 m 0 ls [])) : mw_Mi l y cc nL ret rm D ad dA sz σ av r τ := by
  refine Met.ofW (cc := cc) (maxL := nL) (ret := ret) hy rfl ?_
  intro p e s m args below meth c s₁ B hml hv
  obtain ⟨rfl, hsz, hP, hK, hD0⟩ := hv
  have hts := atoms_spec (ws := ws_ y cc nL ret) B.pre
  have hts : ∀ w ∈ lw_all, w.before _ s = true := fun w h => hts w (List.mem_cons_of_mem _ h)
  have hown : s.vm.findClass RX1 = some m.cls := by rw [← hc]; exact findClass_of_methodNamed B.named
  have hlk := B.notSynchronized
  subst hsz
  have hD := hD0.self (sz := s.heap.size)
  have hA : ∀ q : Nat, s.heap.size ≤ q → va_A (mw_W ad dA σ) s.heap.size q := fun q h => Or.inr h
  have hl := lv_entry (Value.ref (ad 13) :: av) (n := nL) hn
  rw [lg_entry_eq]
  exact body p e s m below meth c _ _ ⟨B.exec, B.bytes, hts, hown, hK⟩ hml B.returns hlk ⟨hP, hD, va_S.rf, hA⟩ hl
theorem mw_Mv_of {y : MethodName} {nL : Nat} {rm : Room} {sz : Nat} {av : List Value} {τ : us_S} (hy : plainName y.cls = true) (hc : y.cls = RX1) (hn : (lg_sl (Value.ref (ad 13) :: av)).length ≤ nL)
    (body : ∀ (p : Program) (e : Env) (s : State) (m : MethodId) (below : List Frame) (meth : Method) (c : Code) (A : Nat → Prop) (ls : Array Slot), mw_C D dA p s m (Value.ref (ad 13) :: av).toArray c cc → c.maxLocals = nL → meth.sig.returnType = none → meth.locks = false → mw_H D ad dA A s s.heap [] σ → lv_has ls nL (lv_args 0 (Value.ref (ad 13) :: av)) →
      W p l e rm s m (Value.ref (ad 13) :: av).toArray below meth c s.heap [] 0 0 (MQ below (va_Qv (fun u => u = τ) (mw_B D ad dA A) A) (Value.ref (ad 13) :: av).toArray s 0 0 A) (F0 m 0 ls [])) : mw_Mv l y cc nL rm D ad dA sz σ av τ := by
  refine Met.ofW (cc := cc) (maxL := nL) (ret := none) hy rfl ?_
  intro p e s m args below meth c s₁ B hml hv
  obtain ⟨rfl, hsz, hP, hK, hD0⟩ := hv
  have hts := atoms_spec (ws := ws_ y cc nL none) B.pre
  have hts : ∀ w ∈ lw_all, w.before _ s = true := fun w h => hts w (List.mem_cons_of_mem _ h)
  have hown : s.vm.findClass RX1 = some m.cls := by rw [← hc]; exact findClass_of_methodNamed B.named
  have hlk := B.notSynchronized
  subst hsz
  have hD := hD0.self (sz := s.heap.size)
  have hA : ∀ q : Nat, s.heap.size ≤ q → va_A (mw_W ad dA σ) s.heap.size q := fun q h => Or.inr h
  have hl := lv_entry (Value.ref (ad 13) :: av) (n := nL) hn
  rw [lg_entry_eq]
  exact body p e s m below meth c _ _ ⟨B.exec, B.bytes, hts, hown, hK⟩ hml B.returns hlk ⟨hP, hD, va_S.rf, hA⟩ hl
theorem mw_iret (C : mw_C D dA p s m args c cc) (h : mw_H D ad dA A s H locs σ) (hr : meth.sig.returnType = some .int) (hlk : meth.locks = false) {v r : Int32} {τ : us_S} (hv : v = r) (ht : σ = τ) (hd : decode cc pc = .ok (.ireturn, 1)) : W p l e R s m args below meth c H locs 0 0 (MQ below (va_Qi (fun r' u => r' = r ∧ u = τ) (mw_B D ad dA A) A) args s 0 0 A) (F0 m pc ls [.int v]) :=
  W.iret C.1 C.2.1 hr (fun t ht2 hW => ⟨⟨v, σ, rfl, ⟨hv, ht⟩, by rw [ht2]; exact h.1, va_K.moved hW.alike C.2.2.2.2, h.2.1⟩, h.2.2.1.F ht2⟩) h.2.2.1.2.2 hd hlk
theorem mw_zret (C : mw_C D dA p s m args c cc) (h : mw_H D ad dA A s H locs σ) (hr : meth.sig.returnType = some .boolean) (hlk : meth.locks = false) {v : Int32} {b : Bool} {τ : us_S} (hv : v = bz b) (ht : σ = τ) (hd : decode cc pc = .ok (.ireturn, 1)) : W p l e R s m args below meth c H locs 0 0 (MQ below (va_Qi (fun r' u => r' = bz b ∧ u = τ) (mw_B D ad dA A) A) args s 0 0 A) (F0 m pc ls [.int v]) :=
  W.zret C.1 C.2.1 hr (by rw [hv]; exact bz_nar b) (fun t ht2 hW => ⟨⟨v, σ, rfl, ⟨hv, ht⟩, by rw [ht2]; exact h.1, va_K.moved hW.alike C.2.2.2.2, h.2.1⟩, h.2.2.1.F ht2⟩) h.2.2.1.2.2 hd hlk
theorem mw_vret (C : mw_C D dA p s m args c cc) (h : mw_H D ad dA A s H locs σ) (hr : meth.sig.returnType = none) (hlk : meth.locks = false) {τ : us_S} (ht : σ = τ) (hd : decode cc pc = .ok (.return_, 1)) : W p l e R s m args below meth c H locs 0 0 (MQ below (va_Qv (fun u => u = τ) (mw_B D ad dA A) A) args s 0 0 A) (F0 m pc ls []) :=
  W.vret C.1 C.2.1 hr (fun t ht2 hW => ⟨⟨σ, rfl, ht, by rw [ht2]; exact h.1, va_K.moved hW.alike C.2.2.2.2, h.2.1⟩, h.2.2.1.F ht2⟩) h.2.2.1.2.2 hd hlk
theorem mw_calli {y : MethodName} {b : ByteArray} {L nL n index : Nat} {ret : Option FieldType} {rm : Room} {As st0 : List Value} {r : Int32} {τ : us_S} (C : mw_C D dA p s m args c cc) (hml : c.maxLocals = nL) (h : mw_H D ad dA A s H locs σ) (hM : mw_Mi l y b L ret rm D ad dA H.size σ As r τ)
    (q1 : Cond.methodLink RX1 index y ∈ lw_all) (q2 : Cond.instanceMethod y ∈ lw_all) (q3 : Cond.selects RX1 y y ∈ lw_all) (q5 : Cond.code y b L ret ∈ lw_all) (hy : y.cls = RX1) (hds : (parseMethodDescriptor y.desc).map (fun d => d.parameters.length) = some n) (hrc : rm.cells = 0) (hrs : rm.slots = 0) (hR : rm.frames + 1 ≤ R.frames ∧ 8 + (L + 11) + rm.locals ≤ R.locals) (hn : As.length = n) (hsz : ls.size = nL) (hst : st0 = As.reverse ++ .ref (ad 13) :: rest) (hrm : (rest.map fun v => v.category).sum ≤ 8) (hd : decode cc pc = .ok (.invokevirtual index, 3)) (hf : cells ≤ R.cells ∧ slots ≤ R.slots)
    (kk : ∀ (H1 : Heap) (locs1 : List Loc), mw_H D ad dA A s H1 locs1 τ → W p l e R s m args below meth c H1 locs1 cells slots Q (F0 m (pc + 3) ls (.int r :: rest))) : W p l e R s m args below meth c H locs cells slots Q (F0 m pc ls st0) := by
  have hPc := h.1
  have hFc := va_free (wc := mw_W ad dA σ) h.2.1 h.2.2.1 h.2.2.2 [0, 1, 2, 3, 4, 5, 6] rfl
  have hin : Cond.initialized RX1 ∈ lw_all := q26
  have hne : y.cls = RX1 ∧ y.cls ≠ "java/lang/invoke/MethodHandle" ∧ y.cls ≠ "java/lang/invoke/VarHandle" ∧ (parseMethodDescriptor y.desc).map (fun d => d.parameters.length) = some n := ⟨hy, by rw [hy]; decide +kernel, by rw [hy]; decide +kernel, hds⟩
  refine va_calli (va_runV (As := As) (rest := rest) (b := ad 13) (C := RX1) ⟨C.1, C.2.1, hml, C.2.2.2.1, C.2.2.1⟩ hM (cwV n C.2.2.1 (lw_V q1 q2 q3 hin q5) rfl hrc hrs hne hR) ⟨fun a U g mk q => by obtain ⟨q0, q1, qP, qK, qD⟩ := q; exact ⟨q0, q1, qP, va_K.moved (u := U) (U := U.calling g mk a) (Vm.Alike.refl U.vm) qK, qD⟩, va_recv C.2.2.2.2 hPc (ci := 1) (q0 := 0) rfl rfl, fun U hU hW => ⟨rfl, by rw [hU], by rw [hU]; exact hPc, va_K.moved hW.alike C.2.2.2.2, h.2.1.weaken (fun _ _ _ _ => trivial)⟩⟩ rfl hn hsz hst (lv_room hrm) hd hf) h.2.2.1 (fun q _ z => hFc q z) hFc (fun r_1 u t H1 locs1 ht hvm hw hB hz hk hS => ?_)
  obtain ⟨rfl, rfl⟩ := hw
  obtain ⟨hP1, -, hD1⟩ := hB
  rw [ht] at hP1
  exact kk H1 locs1 ⟨hP1, hD1.weaken (fun _ q _ z => hFc q.1 z), hS, h.2.2.2⟩
theorem mw_callv {y : MethodName} {b : ByteArray} {L nL n index : Nat} {rm : Room} {As st0 : List Value} {τ : us_S} (C : mw_C D dA p s m args c cc) (hml : c.maxLocals = nL) (h : mw_H D ad dA A s H locs σ) (hM : mw_Mv l y b L rm D ad dA H.size σ As τ)
    (q1 : Cond.methodLink RX1 index y ∈ lw_all) (q2 : Cond.instanceMethod y ∈ lw_all) (q3 : Cond.selects RX1 y y ∈ lw_all) (q5 : Cond.code y b L none ∈ lw_all) (hy : y.cls = RX1) (hds : (parseMethodDescriptor y.desc).map (fun d => d.parameters.length) = some n) (hrc : rm.cells = 0) (hrs : rm.slots = 0) (hR : rm.frames + 1 ≤ R.frames ∧ 8 + (L + 11) + rm.locals ≤ R.locals) (hn : As.length = n) (hsz : ls.size = nL) (hst : st0 = As.reverse ++ .ref (ad 13) :: rest) (hrm : (rest.map fun v => v.category).sum ≤ 8) (hd : decode cc pc = .ok (.invokevirtual index, 3)) (hf : cells ≤ R.cells ∧ slots ≤ R.slots)
    (kk : ∀ (H1 : Heap) (locs1 : List Loc), mw_H D ad dA A s H1 locs1 τ → W p l e R s m args below meth c H1 locs1 cells slots Q (F0 m (pc + 3) ls (rest))) : W p l e R s m args below meth c H locs cells slots Q (F0 m pc ls st0) := by
  have hPc := h.1
  have hFc := va_free (wc := mw_W ad dA σ) h.2.1 h.2.2.1 h.2.2.2 [0, 1, 2, 3, 4, 5, 6] rfl
  have hin : Cond.initialized RX1 ∈ lw_all := q26
  have hne : y.cls = RX1 ∧ y.cls ≠ "java/lang/invoke/MethodHandle" ∧ y.cls ≠ "java/lang/invoke/VarHandle" ∧ (parseMethodDescriptor y.desc).map (fun d => d.parameters.length) = some n := ⟨hy, by rw [hy]; decide +kernel, by rw [hy]; decide +kernel, hds⟩
  refine va_callv (va_runV (As := As) (rest := rest) (b := ad 13) (C := RX1) ⟨C.1, C.2.1, hml, C.2.2.2.1, C.2.2.1⟩ hM (cwV n C.2.2.1 (lw_V q1 q2 q3 hin q5) rfl hrc hrs hne hR) ⟨fun a U g mk q => by obtain ⟨q0, q1, qP, qK, qD⟩ := q; exact ⟨q0, q1, qP, va_K.moved (u := U) (U := U.calling g mk a) (Vm.Alike.refl U.vm) qK, qD⟩, va_recv C.2.2.2.2 hPc (ci := 1) (q0 := 0) rfl rfl, fun U hU hW => ⟨rfl, by rw [hU], by rw [hU]; exact hPc, va_K.moved hW.alike C.2.2.2.2, h.2.1.weaken (fun _ _ _ _ => trivial)⟩⟩ rfl hn hsz hst (lv_room hrm) hd hf) h.2.2.1 (fun q _ z => hFc q z) hFc (fun u t H1 locs1 ht hvm hw hB hz hk hS => ?_)
  have hw : u = τ := hw
  subst hw
  obtain ⟨hP1, -, hD1⟩ := hB
  rw [ht] at hP1
  exact kk H1 locs1 ⟨hP1, hD1.weaken (fun _ q _ z => hFc q.1 z), hS, h.2.2.2⟩
end MWR
end
section
/-! CONTRACTS of ProcessNetwork: one step of a process (by wip/D-64155w/gen/x1.py) -/
theorem bz_0 : nI 0 = bz false := by decide
theorem bz_1 : nI 1 = bz true := by decide
set_option maxHeartbeats 4000000 in
set_option maxRecDepth 100000 in
theorem x_hasX (l : Launch) (D : va_G) (ad : Nat → Nat) (dA dB : ClassId) (sz : Nat) (σ : us_S) {p : Nat} (hp : p < 8) (hx : σ.1 1 p < 8) (h1 : σ.1 5 p ≤ 40) (h2 : σ.1 4 (σ.1 1 p) ≤ 40) : xw_Mi l yX0_hasX cX0_hasX 2 (some .boolean) ({ frames := 0, cells := 0, slots := 0, locals := 0 } : Room) D ad dA dB sz σ [.int (nI p)] (bz (xc_hX σ p)) σ := by
  refine xw_Mi_of (by decide) rfl (Nat.le_of_ble_eq_true rfl) (fun p_ e s m below meth c A ls C hml hr hlk h hl => ?_)
  have hl : lv_has ls 2 [(0, .ref (ad 13)), (1, .int (nI p))] := hl
  refine lv_aload_n C.1 C.2.1 dX0_hasX_0 rfl (lv_at hl 0 rfl) ?_
  refine xg5 C h dX0_hasX_1 ?_
  refine lv_iload_n C.1 C.2.1 dX0_hasX_4 rfl (lv_at hl 1 rfl) ?_
  refine xl5 (i := p) (w := σ.1 5 p) C h (by omega) rfl dX0_hasX_5 ?_
  refine lv_aload_n C.1 C.2.1 dX0_hasX_6 rfl (lv_at hl 0 rfl) ?_
  refine xg4 C h dX0_hasX_7 ?_
  refine lv_aload_n C.1 C.2.1 dX0_hasX_10 rfl (lv_at hl 0 rfl) ?_
  refine xg1 C h dX0_hasX_11 ?_
  refine lv_iload_n C.1 C.2.1 dX0_hasX_14 rfl (lv_at hl 1 rfl) ?_
  refine xl1 (i := p) (w := σ.1 1 p) C h (by omega) rfl dX0_hasX_15 ?_
  refine xl4 (i := σ.1 1 p) (w := σ.1 4 (σ.1 1 p)) C h (by omega) rfl dX0_hasX_16 ?_
  refine wn_ge (tgt := 24) C.1 C.2.1 (by omega) (by omega) dX0_hasX_17 (by decide) (fun c17 => ?_) (fun c17 => ?_)
  · refine lv_iconst (v := nI 0) C.1 C.2.1 dX0_hasX_24 (by decide) ?_
    exact xw_zret C h hr hlk (bz_d0 (Nat.not_lt.mpr c17)).symm rfl dX0_hasX_25
  · refine lv_iconst (v := nI 1) C.1 C.2.1 dX0_hasX_20 (by decide) ?_
    refine lv_goto (tgt := 25) C.1 C.2.1 dX0_hasX_21 (by decide) ?_
    exact xw_zret C h hr hlk (bz_d1 c17).symm rfl dX0_hasX_25
set_option maxHeartbeats 4000000 in
set_option maxRecDepth 100000 in
theorem x_hasY (l : Launch) (D : va_G) (ad : Nat → Nat) (dA dB : ClassId) (sz : Nat) (σ : us_S) {p : Nat} (hp : p < 8) (hx : σ.1 2 p < 8) (h1 : σ.1 6 p ≤ 40) (h2 : σ.1 4 (σ.1 2 p) ≤ 40) : xw_Mi l yX0_hasY cX0_hasY 2 (some .boolean) ({ frames := 0, cells := 0, slots := 0, locals := 0 } : Room) D ad dA dB sz σ [.int (nI p)] (bz (xc_hY σ p)) σ := by
  refine xw_Mi_of (by decide) rfl (Nat.le_of_ble_eq_true rfl) (fun p_ e s m below meth c A ls C hml hr hlk h hl => ?_)
  have hl : lv_has ls 2 [(0, .ref (ad 13)), (1, .int (nI p))] := hl
  refine lv_aload_n C.1 C.2.1 dX0_hasY_0 rfl (lv_at hl 0 rfl) ?_
  refine xg6 C h dX0_hasY_1 ?_
  refine lv_iload_n C.1 C.2.1 dX0_hasY_4 rfl (lv_at hl 1 rfl) ?_
  refine xl6 (i := p) (w := σ.1 6 p) C h (by omega) rfl dX0_hasY_5 ?_
  refine lv_aload_n C.1 C.2.1 dX0_hasY_6 rfl (lv_at hl 0 rfl) ?_
  refine xg4 C h dX0_hasY_7 ?_
  refine lv_aload_n C.1 C.2.1 dX0_hasY_10 rfl (lv_at hl 0 rfl) ?_
  refine xg2 C h dX0_hasY_11 ?_
  refine lv_iload_n C.1 C.2.1 dX0_hasY_14 rfl (lv_at hl 1 rfl) ?_
  refine xl2 (i := p) (w := σ.1 2 p) C h (by omega) rfl dX0_hasY_15 ?_
  refine xl4 (i := σ.1 2 p) (w := σ.1 4 (σ.1 2 p)) C h (by omega) rfl dX0_hasY_16 ?_
  refine wn_ge (tgt := 24) C.1 C.2.1 (by omega) (by omega) dX0_hasY_17 (by decide) (fun c17 => ?_) (fun c17 => ?_)
  · refine lv_iconst (v := nI 0) C.1 C.2.1 dX0_hasY_24 (by decide) ?_
    exact xw_zret C h hr hlk (bz_d0 (Nat.not_lt.mpr c17)).symm rfl dX0_hasY_25
  · refine lv_iconst (v := nI 1) C.1 C.2.1 dX0_hasY_20 (by decide) ?_
    refine lv_goto (tgt := 25) C.1 C.2.1 dX0_hasY_21 (by decide) ?_
    exact xw_zret C h hr hlk (bz_d1 c17).symm rfl dX0_hasY_25
set_option maxHeartbeats 4000000 in
set_option maxRecDepth 100000 in
theorem x_takeX (l : Launch) (D : va_G) (ad : Nat → Nat) (dA dB : ClassId) (sz : Nat) (σ : us_S) {p : Nat} (hp : p < 8) (hx : σ.1 1 p < 8) (h1 : σ.1 5 p < 40) : xw_Mi l yX0_takeX cX0_takeX 3 (some .int) ({ frames := 0, cells := 0, slots := 0, locals := 0 } : Room) D ad dA dB sz σ [.int (nI p)] (xc_iX σ p) (xc_tX σ p) := by
  refine xw_Mi_of (by decide) rfl (Nat.le_of_ble_eq_true rfl) (fun p_ e s m below meth c A ls C hml hr hlk h hl => ?_)
  have hl : lv_has ls 3 [(0, .ref (ad 13)), (1, .int (nI p))] := hl
  refine lv_aload_n C.1 C.2.1 dX0_takeX_0 rfl (lv_at hl 0 rfl) ?_
  refine xg8 C h dX0_takeX_1 ?_
  refine lv_aload_n C.1 C.2.1 dX0_takeX_4 rfl (lv_at hl 0 rfl) ?_
  refine xg1 C h dX0_takeX_5 ?_
  refine lv_iload_n C.1 C.2.1 dX0_takeX_8 rfl (lv_at hl 1 rfl) ?_
  refine xl1 (i := p) (w := σ.1 1 p) C h (by omega) rfl dX0_takeX_9 ?_
  refine lv_bipush (v := nI 40) C.1 C.2.1 dX0_takeX_10 (by decide) ?_
  refine wn_mul C.1 C.2.1 dX0_takeX_12 ?_
  refine lv_aload_n C.1 C.2.1 dX0_takeX_13 rfl (lv_at hl 0 rfl) ?_
  refine xg5 C h dX0_takeX_14 ?_
  refine lv_iload_n C.1 C.2.1 dX0_takeX_17 rfl (lv_at hl 1 rfl) ?_
  refine xl5 (i := p) (w := σ.1 5 p) C h (by omega) rfl dX0_takeX_18 ?_
  refine wn_add C.1 C.2.1 dX0_takeX_19 ?_
  refine xl8 (i := (σ.1 1 p) * 40 + σ.1 5 p) (w := σ.2 8 ((σ.1 1 p) * 40 + σ.1 5 p)) C h (by omega) rfl dX0_takeX_20 ?_
  refine lv_istore_n (lv' := [(2, .int (σ.2 8 ((σ.1 1 p) * 40 + σ.1 5 p))), (0, .ref (ad 13)), (1, .int (nI p))]) C.1 C.2.1 dX0_takeX_21 rfl hl (by decide) rfl (fun ls hl => ?_)
  refine lv_aload_n C.1 C.2.1 dX0_takeX_22 rfl (lv_at hl 1 rfl) ?_
  refine xg5 C h dX0_takeX_23 ?_
  refine lv_iload_n C.1 C.2.1 dX0_takeX_26 rfl (lv_at hl 2 rfl) ?_
  refine lv_dup2_11 C.1 C.2.1 dX0_takeX_27 rfl rfl ?_
  refine xl5 (i := p) (w := σ.1 5 p) C h (by omega) rfl dX0_takeX_28 ?_
  refine lv_iconst (v := nI 1) C.1 C.2.1 dX0_takeX_29 (by decide) ?_
  refine wn_add C.1 C.2.1 dX0_takeX_30 ?_
  refine xs5 (i := p) (v := σ.1 5 p + 1) C h (by omega) dX0_takeX_31 (fun H locs h => ?_)
  refine lv_iload_n C.1 C.2.1 dX0_takeX_32 rfl (lv_at hl 0 rfl) ?_
  exact xw_iret C h hr hlk rfl rfl dX0_takeX_33
set_option maxHeartbeats 4000000 in
set_option maxRecDepth 100000 in
theorem x_takeY (l : Launch) (D : va_G) (ad : Nat → Nat) (dA dB : ClassId) (sz : Nat) (σ : us_S) {p : Nat} (hp : p < 8) (hx : σ.1 2 p < 8) (h1 : σ.1 6 p < 40) : xw_Mi l yX0_takeY cX0_takeY 3 (some .int) ({ frames := 0, cells := 0, slots := 0, locals := 0 } : Room) D ad dA dB sz σ [.int (nI p)] (xc_iY σ p) (xc_tY σ p) := by
  refine xw_Mi_of (by decide) rfl (Nat.le_of_ble_eq_true rfl) (fun p_ e s m below meth c A ls C hml hr hlk h hl => ?_)
  have hl : lv_has ls 3 [(0, .ref (ad 13)), (1, .int (nI p))] := hl
  refine lv_aload_n C.1 C.2.1 dX0_takeY_0 rfl (lv_at hl 0 rfl) ?_
  refine xg8 C h dX0_takeY_1 ?_
  refine lv_aload_n C.1 C.2.1 dX0_takeY_4 rfl (lv_at hl 0 rfl) ?_
  refine xg2 C h dX0_takeY_5 ?_
  refine lv_iload_n C.1 C.2.1 dX0_takeY_8 rfl (lv_at hl 1 rfl) ?_
  refine xl2 (i := p) (w := σ.1 2 p) C h (by omega) rfl dX0_takeY_9 ?_
  refine lv_bipush (v := nI 40) C.1 C.2.1 dX0_takeY_10 (by decide) ?_
  refine wn_mul C.1 C.2.1 dX0_takeY_12 ?_
  refine lv_aload_n C.1 C.2.1 dX0_takeY_13 rfl (lv_at hl 0 rfl) ?_
  refine xg6 C h dX0_takeY_14 ?_
  refine lv_iload_n C.1 C.2.1 dX0_takeY_17 rfl (lv_at hl 1 rfl) ?_
  refine xl6 (i := p) (w := σ.1 6 p) C h (by omega) rfl dX0_takeY_18 ?_
  refine wn_add C.1 C.2.1 dX0_takeY_19 ?_
  refine xl8 (i := (σ.1 2 p) * 40 + σ.1 6 p) (w := σ.2 8 ((σ.1 2 p) * 40 + σ.1 6 p)) C h (by omega) rfl dX0_takeY_20 ?_
  refine lv_istore_n (lv' := [(2, .int (σ.2 8 ((σ.1 2 p) * 40 + σ.1 6 p))), (0, .ref (ad 13)), (1, .int (nI p))]) C.1 C.2.1 dX0_takeY_21 rfl hl (by decide) rfl (fun ls hl => ?_)
  refine lv_aload_n C.1 C.2.1 dX0_takeY_22 rfl (lv_at hl 1 rfl) ?_
  refine xg6 C h dX0_takeY_23 ?_
  refine lv_iload_n C.1 C.2.1 dX0_takeY_26 rfl (lv_at hl 2 rfl) ?_
  refine lv_dup2_11 C.1 C.2.1 dX0_takeY_27 rfl rfl ?_
  refine xl6 (i := p) (w := σ.1 6 p) C h (by omega) rfl dX0_takeY_28 ?_
  refine lv_iconst (v := nI 1) C.1 C.2.1 dX0_takeY_29 (by decide) ?_
  refine wn_add C.1 C.2.1 dX0_takeY_30 ?_
  refine xs6 (i := p) (v := σ.1 6 p + 1) C h (by omega) dX0_takeY_31 (fun H locs h => ?_)
  refine lv_iload_n C.1 C.2.1 dX0_takeY_32 rfl (lv_at hl 0 rfl) ?_
  exact xw_iret C h hr hlk rfl rfl dX0_takeY_33
set_option maxHeartbeats 4000000 in
set_option maxRecDepth 100000 in
theorem x_make (l : Launch) (D : va_G) (ad : Nat → Nat) (dA dB : ClassId) (sz : Nat) (σ : us_S) {p : Nat} {v : Int32} (hp : p < 8) (h1 : σ.1 4 p < 40) : xw_Mi l yX0_make cX0_make 3 (some .boolean) ({ frames := 0, cells := 0, slots := 0, locals := 0 } : Room) D ad dA dB sz σ [.int (nI p), .int v] (bz true) (xc_mk σ p v) := by
  refine xw_Mi_of (by decide) rfl (Nat.le_of_ble_eq_true rfl) (fun p_ e s m below meth c A ls C hml hr hlk h hl => ?_)
  have hl : lv_has ls 3 [(0, .ref (ad 13)), (1, .int (nI p)), (2, .int v)] := hl
  refine lv_aload_n C.1 C.2.1 dX0_make_0 rfl (lv_at hl 0 rfl) ?_
  refine xg8 C h dX0_make_1 ?_
  refine lv_iload_n C.1 C.2.1 dX0_make_4 rfl (lv_at hl 1 rfl) ?_
  refine lv_bipush (v := nI 40) C.1 C.2.1 dX0_make_5 (by decide) ?_
  refine wn_mul C.1 C.2.1 dX0_make_7 ?_
  refine lv_aload_n C.1 C.2.1 dX0_make_8 rfl (lv_at hl 0 rfl) ?_
  refine xg4 C h dX0_make_9 ?_
  refine lv_iload_n C.1 C.2.1 dX0_make_12 rfl (lv_at hl 1 rfl) ?_
  refine xl4 (i := p) (w := σ.1 4 p) C h (by omega) rfl dX0_make_13 ?_
  refine wn_add C.1 C.2.1 dX0_make_14 ?_
  refine lv_iload_n C.1 C.2.1 dX0_make_15 rfl (lv_at hl 2 rfl) ?_
  refine xs8 (i := p * 40 + σ.1 4 p) (v := v) C h (by omega) dX0_make_16 (fun H locs h => ?_)
  refine lv_aload_n C.1 C.2.1 dX0_make_17 rfl (lv_at hl 0 rfl) ?_
  refine xg4 C h dX0_make_18 ?_
  refine lv_iload_n C.1 C.2.1 dX0_make_21 rfl (lv_at hl 1 rfl) ?_
  refine lv_dup2_11 C.1 C.2.1 dX0_make_22 rfl rfl ?_
  refine xl4 (i := p) (w := σ.1 4 p) C h (by omega) rfl dX0_make_23 ?_
  refine lv_iconst (v := nI 1) C.1 C.2.1 dX0_make_24 (by decide) ?_
  refine wn_add C.1 C.2.1 dX0_make_25 ?_
  refine xs4 (i := p) (v := σ.1 4 p + 1) C h (by omega) dX0_make_26 (fun H locs h => ?_)
  refine lv_iconst (v := nI 1) C.1 C.2.1 dX0_make_27 (by decide) ?_
  exact xw_zret C h hr hlk bz_1 rfl dX0_make_28
set_option maxHeartbeats 4000000 in
set_option maxRecDepth 100000 in
theorem x_stepTurn (l : Launch) (D : va_G) (ad : Nat → Nat) (dA dB : ClassId) (sz : Nat) (σ : us_S) {p : Nat} (hp : p < 8) (hb : xc_B σ) (hm : σ.1 4 p < 40) : xw_Mi l yX0_stepTurn cX0_stepTurn 5 (some .boolean) ({ frames := 1, cells := 0, slots := 0, locals := 22 } : Room) D ad dA dB sz σ [.int (nI p)] (bz (xc_turn σ p).1) ((xc_turn σ p).2) := by
  refine xw_Mi_of (by decide) rfl (Nat.le_of_ble_eq_true rfl) (fun p_ e s m below meth c A ls C hml hr hlk h hl => ?_)
  have hl : lv_has ls 5 [(0, .ref (ad 13)), (1, .int (nI p))] := hl
  have hx : σ.1 1 p < 8 := (hb.1 p hp).2.1
  have hy : σ.1 2 p < 8 := (hb.1 p hp).2.2
  have b5 : σ.1 5 p ≤ 40 := (hb.2 p hp).2.1
  have b6 : σ.1 6 p ≤ 40 := (hb.2 p hp).2.2
  have bX : σ.1 4 (σ.1 1 p) ≤ 40 := (hb.2 _ hx).1
  have bY : σ.1 4 (σ.1 2 p) ≤ 40 := (hb.2 _ hy).1
  have eX : xc_hX σ p = true → σ.1 5 p < 40 := fun z => Nat.lt_of_lt_of_le (of_decide_eq_true z) bX
  have eY : xc_hY σ p = true → σ.1 6 p < 40 := fun z => Nat.lt_of_lt_of_le (of_decide_eq_true z) bY
  refine lv_aload_n C.1 C.2.1 dX0_stepTurn_0 rfl (lv_at hl 0 rfl) ?_
  refine xg4 C h dX0_stepTurn_1 ?_
  refine lv_iload_n C.1 C.2.1 dX0_stepTurn_4 rfl (lv_at hl 1 rfl) ?_
  refine xl4 (i := p) (w := σ.1 4 p) C h (by omega) rfl dX0_stepTurn_5 ?_
  refine lv_iconst (v := nI 1) C.1 C.2.1 dX0_stepTurn_6 (by decide) ?_
  refine wn_and1 C.1 C.2.1 (by omega) dX0_stepTurn_7 ?_
  refine wn_ifn (tgt := 15) C.1 C.2.1 (by omega) dX0_stepTurn_8 (by decide) (fun c8 => ?_) (fun c8 => ?_)
  · refine lv_iconst (v := nI 0) C.1 C.2.1 dX0_stepTurn_15 (by decide) ?_
    refine lv_istore_n (lv' := [(2, .int (nI 0)), (0, .ref (ad 13)), (1, .int (nI p))]) C.1 C.2.1 dX0_stepTurn_16 rfl hl (by decide) rfl (fun ls hl => ?_)
    refine lv_iload_n C.1 C.2.1 dX0_stepTurn_17 rfl (lv_at hl 0 rfl) ?_
    refine wn_if0 (tgt := 29) C.1 C.2.1 (by omega) dX0_stepTurn_18 (by decide) (fun _ => ?_) (fun z => absurd z (by decide))
    refine lv_aload_n C.1 C.2.1 dX0_stepTurn_29 rfl (lv_at hl 1 rfl) ?_
    refine lv_iload_n C.1 C.2.1 dX0_stepTurn_30 rfl (lv_at hl 2 rfl) ?_
    refine xw_calli (n := 1) (As := [.int (nI p)]) (rest := []) C hml h (x_hasY l D ad dA dB _ σ hp hy b6 bY) q116 q118 qs7 q119 rfl (by decide +kernel) rfl rfl ⟨Nat.le_of_ble_eq_true rfl, Nat.le_of_ble_eq_true rfl⟩ rfl hl.1 rfl (Nat.le_of_ble_eq_true rfl) dX0_stepTurn_31 ⟨Nat.zero_le _, Nat.zero_le _⟩ (fun H locs h => ?_)
    refine lv_istore_n (lv' := [(3, .int (bz (xc_hY σ p))), (2, .int (nI 0)), (0, .ref (ad 13)), (1, .int (nI p))]) C.1 C.2.1 dX0_stepTurn_34 rfl hl (by decide) rfl (fun ls hl => ?_)
    refine lv_iload_n C.1 C.2.1 dX0_stepTurn_35 rfl (lv_at hl 0 rfl) ?_
    refine wn_ifnB (tgt := 41) C.1 C.2.1 dX0_stepTurn_36 (by decide) (fun c36 => ?_) (fun c36 => ?_)
    · refine lv_iload_n C.1 C.2.1 dX0_stepTurn_41 rfl (lv_at hl 1 rfl) ?_
      refine wn_if0 (tgt := 53) C.1 C.2.1 (by omega) dX0_stepTurn_42 (by decide) (fun _ => ?_) (fun z => absurd z (by decide))
      refine lv_aload_n C.1 C.2.1 dX0_stepTurn_53 rfl (lv_at hl 2 rfl) ?_
      refine lv_iload_n C.1 C.2.1 dX0_stepTurn_54 rfl (lv_at hl 3 rfl) ?_
      refine xw_calli (n := 1) (As := [.int (nI p)]) (rest := []) C hml h (x_takeY l D ad dA dB _ σ hp hy (eY c36)) q124 q126 qs9 q127 rfl (by decide +kernel) rfl rfl ⟨Nat.le_of_ble_eq_true rfl, Nat.le_of_ble_eq_true rfl⟩ rfl hl.1 rfl (Nat.le_of_ble_eq_true rfl) dX0_stepTurn_55 ⟨Nat.zero_le _, Nat.zero_le _⟩ (fun H locs h => ?_)
      refine lv_istore (lv' := [(4, .int (xc_iY σ p)), (3, .int (bz (xc_hY σ p))), (2, .int (nI 0)), (0, .ref (ad 13)), (1, .int (nI p))]) C.1 C.2.1 dX0_stepTurn_58 hl (by decide) rfl (fun ls hl => ?_)
      refine lv_aload_n C.1 C.2.1 dX0_stepTurn_60 rfl (lv_at hl 3 rfl) ?_
      refine lv_iload_n C.1 C.2.1 dX0_stepTurn_61 rfl (lv_at hl 4 rfl) ?_
      refine lv_iload C.1 C.2.1 dX0_stepTurn_62 (lv_at hl 0 rfl) ?_
      refine xw_calli (n := 2) (As := [.int (nI p), .int (xc_iY σ p)]) (rest := []) C hml h (x_make l D ad dA dB _ (xc_tY σ p) hp hm) q104 q106 qs4 q107 rfl (by decide +kernel) rfl rfl ⟨Nat.le_of_ble_eq_true rfl, Nat.le_of_ble_eq_true rfl⟩ rfl hl.1 rfl (Nat.le_of_ble_eq_true rfl) dX0_stepTurn_64 ⟨Nat.zero_le _, Nat.zero_le _⟩ (fun H locs h => ?_)
      have e9 : xc_turn σ p = (true, xc_mk (xc_tY σ p) p (xc_iY σ p)) := by unfold xc_turn; rw [if_neg c8, if_pos c36]
      exact xw_zret C h hr hlk (by rw [e9]) (by rw [e9]) dX0_stepTurn_67
    · refine lv_iconst (v := nI 0) C.1 C.2.1 dX0_stepTurn_39 (by decide) ?_
      have e9 : xc_turn σ p = (false, σ) := by unfold xc_turn; rw [if_neg c8, if_neg (by rw [c36]; decide)]
      exact xw_zret C h hr hlk (by rw [e9]; exact bz_0) (by rw [e9]) dX0_stepTurn_40
  · refine lv_iconst (v := nI 1) C.1 C.2.1 dX0_stepTurn_11 (by decide) ?_
    refine lv_goto (tgt := 16) C.1 C.2.1 dX0_stepTurn_12 (by decide) ?_
    refine lv_istore_n (lv' := [(2, .int (nI 1)), (0, .ref (ad 13)), (1, .int (nI p))]) C.1 C.2.1 dX0_stepTurn_16 rfl hl (by decide) rfl (fun ls hl => ?_)
    refine lv_iload_n C.1 C.2.1 dX0_stepTurn_17 rfl (lv_at hl 0 rfl) ?_
    refine wn_if0 (tgt := 29) C.1 C.2.1 (by omega) dX0_stepTurn_18 (by decide) (fun z => absurd z (by decide)) (fun _ => ?_)
    refine lv_aload_n C.1 C.2.1 dX0_stepTurn_21 rfl (lv_at hl 1 rfl) ?_
    refine lv_iload_n C.1 C.2.1 dX0_stepTurn_22 rfl (lv_at hl 2 rfl) ?_
    refine xw_calli (n := 1) (As := [.int (nI p)]) (rest := []) C hml h (x_hasX l D ad dA dB _ σ hp hx b5 bX) q112 q114 qs6 q115 rfl (by decide +kernel) rfl rfl ⟨Nat.le_of_ble_eq_true rfl, Nat.le_of_ble_eq_true rfl⟩ rfl hl.1 rfl (Nat.le_of_ble_eq_true rfl) dX0_stepTurn_23 ⟨Nat.zero_le _, Nat.zero_le _⟩ (fun H locs h => ?_)
    refine lv_goto (tgt := 34) C.1 C.2.1 dX0_stepTurn_26 (by decide) ?_
    refine lv_istore_n (lv' := [(3, .int (bz (xc_hX σ p))), (2, .int (nI 1)), (0, .ref (ad 13)), (1, .int (nI p))]) C.1 C.2.1 dX0_stepTurn_34 rfl hl (by decide) rfl (fun ls hl => ?_)
    refine lv_iload_n C.1 C.2.1 dX0_stepTurn_35 rfl (lv_at hl 0 rfl) ?_
    refine wn_ifnB (tgt := 41) C.1 C.2.1 dX0_stepTurn_36 (by decide) (fun c36 => ?_) (fun c36 => ?_)
    · refine lv_iload_n C.1 C.2.1 dX0_stepTurn_41 rfl (lv_at hl 1 rfl) ?_
      refine wn_if0 (tgt := 53) C.1 C.2.1 (by omega) dX0_stepTurn_42 (by decide) (fun z => absurd z (by decide)) (fun _ => ?_)
      refine lv_aload_n C.1 C.2.1 dX0_stepTurn_45 rfl (lv_at hl 2 rfl) ?_
      refine lv_iload_n C.1 C.2.1 dX0_stepTurn_46 rfl (lv_at hl 3 rfl) ?_
      refine xw_calli (n := 1) (As := [.int (nI p)]) (rest := []) C hml h (x_takeX l D ad dA dB _ σ hp hx (eX c36)) q120 q122 qs8 q123 rfl (by decide +kernel) rfl rfl ⟨Nat.le_of_ble_eq_true rfl, Nat.le_of_ble_eq_true rfl⟩ rfl hl.1 rfl (Nat.le_of_ble_eq_true rfl) dX0_stepTurn_47 ⟨Nat.zero_le _, Nat.zero_le _⟩ (fun H locs h => ?_)
      refine lv_goto (tgt := 58) C.1 C.2.1 dX0_stepTurn_50 (by decide) ?_
      refine lv_istore (lv' := [(4, .int (xc_iX σ p)), (3, .int (bz (xc_hX σ p))), (2, .int (nI 1)), (0, .ref (ad 13)), (1, .int (nI p))]) C.1 C.2.1 dX0_stepTurn_58 hl (by decide) rfl (fun ls hl => ?_)
      refine lv_aload_n C.1 C.2.1 dX0_stepTurn_60 rfl (lv_at hl 3 rfl) ?_
      refine lv_iload_n C.1 C.2.1 dX0_stepTurn_61 rfl (lv_at hl 4 rfl) ?_
      refine lv_iload C.1 C.2.1 dX0_stepTurn_62 (lv_at hl 0 rfl) ?_
      refine xw_calli (n := 2) (As := [.int (nI p), .int (xc_iX σ p)]) (rest := []) C hml h (x_make l D ad dA dB _ (xc_tX σ p) hp hm) q104 q106 qs4 q107 rfl (by decide +kernel) rfl rfl ⟨Nat.le_of_ble_eq_true rfl, Nat.le_of_ble_eq_true rfl⟩ rfl hl.1 rfl (Nat.le_of_ble_eq_true rfl) dX0_stepTurn_64 ⟨Nat.zero_le _, Nat.zero_le _⟩ (fun H locs h => ?_)
      have e9 : xc_turn σ p = (true, xc_mk (xc_tX σ p) p (xc_iX σ p)) := by unfold xc_turn; rw [if_pos c8, if_pos c36]
      exact xw_zret C h hr hlk (by rw [e9]) (by rw [e9]) dX0_stepTurn_67
    · refine lv_iconst (v := nI 0) C.1 C.2.1 dX0_stepTurn_39 (by decide) ?_
      have e9 : xc_turn σ p = (false, σ) := by unfold xc_turn; rw [if_pos c8, if_neg (by rw [c36]; decide)]
      exact xw_zret C h hr hlk (by rw [e9]; exact bz_0) (by rw [e9]) dX0_stepTurn_40
set_option maxHeartbeats 4000000 in
set_option maxRecDepth 100000 in
theorem x_stepOdd (l : Launch) (D : va_G) (ad : Nat → Nat) (dA dB : ClassId) (sz : Nat) (σ : us_S) {p : Nat} (hp : p < 8) (hb : xc_B σ) (hm : σ.1 4 p < 40) : xw_Mi l yX0_stepOdd cX0_stepOdd 4 (some .boolean) ({ frames := 1, cells := 0, slots := 0, locals := 22 } : Room) D ad dA dB sz σ [.int (nI p)] (bz (xc_odd σ p).1) ((xc_odd σ p).2) := by
  refine xw_Mi_of (by decide) rfl (Nat.le_of_ble_eq_true rfl) (fun p_ e s m below meth c A ls C hml hr hlk h hl => ?_)
  have hl : lv_has ls 4 [(0, .ref (ad 13)), (1, .int (nI p))] := hl
  have hx : σ.1 1 p < 8 := (hb.1 p hp).2.1
  have hy : σ.1 2 p < 8 := (hb.1 p hp).2.2
  have b5 : σ.1 5 p ≤ 40 := (hb.2 p hp).2.1
  have b6 : σ.1 6 p ≤ 40 := (hb.2 p hp).2.2
  have bX : σ.1 4 (σ.1 1 p) ≤ 40 := (hb.2 _ hx).1
  have bY : σ.1 4 (σ.1 2 p) ≤ 40 := (hb.2 _ hy).1
  have eX : xc_hX σ p = true → σ.1 5 p < 40 := fun z => Nat.lt_of_lt_of_le (of_decide_eq_true z) bX
  have eY : xc_hY σ p = true → σ.1 6 p < 40 := fun z => Nat.lt_of_lt_of_le (of_decide_eq_true z) bY
  refine lv_aload_n C.1 C.2.1 dX0_stepOdd_0 rfl (lv_at hl 0 rfl) ?_
  refine lv_iload_n C.1 C.2.1 dX0_stepOdd_1 rfl (lv_at hl 1 rfl) ?_
  refine xw_calli (n := 1) (As := [.int (nI p)]) (rest := []) C hml h (x_hasX l D ad dA dB _ σ hp hx b5 bX) q112 q114 qs6 q115 rfl (by decide +kernel) rfl rfl ⟨Nat.le_of_ble_eq_true rfl, Nat.le_of_ble_eq_true rfl⟩ rfl hl.1 rfl (Nat.le_of_ble_eq_true rfl) dX0_stepOdd_2 ⟨Nat.zero_le _, Nat.zero_le _⟩ (fun H locs h => ?_)
  refine lv_istore_n (lv' := [(2, .int (bz (xc_hX σ p))), (0, .ref (ad 13)), (1, .int (nI p))]) C.1 C.2.1 dX0_stepOdd_5 rfl hl (by decide) rfl (fun ls hl => ?_)
  refine lv_iload_n C.1 C.2.1 dX0_stepOdd_6 rfl (lv_at hl 0 rfl) ?_
  refine wn_ifnB (tgt := 12) C.1 C.2.1 dX0_stepOdd_7 (by decide) (fun c7 => ?_) (fun c7 => ?_)
  · refine lv_aload_n C.1 C.2.1 dX0_stepOdd_12 rfl (lv_at hl 1 rfl) ?_
    refine lv_iload_n C.1 C.2.1 dX0_stepOdd_13 rfl (lv_at hl 2 rfl) ?_
    refine xw_calli (n := 1) (As := [.int (nI p)]) (rest := []) C hml h (x_takeX l D ad dA dB _ σ hp hx (eX c7)) q120 q122 qs8 q123 rfl (by decide +kernel) rfl rfl ⟨Nat.le_of_ble_eq_true rfl, Nat.le_of_ble_eq_true rfl⟩ rfl hl.1 rfl (Nat.le_of_ble_eq_true rfl) dX0_stepOdd_14 ⟨Nat.zero_le _, Nat.zero_le _⟩ (fun H locs h => ?_)
    refine lv_istore_n (lv' := [(3, .int (xc_iX σ p)), (2, .int (bz (xc_hX σ p))), (0, .ref (ad 13)), (1, .int (nI p))]) C.1 C.2.1 dX0_stepOdd_17 rfl hl (by decide) rfl (fun ls hl => ?_)
    refine lv_iload_n C.1 C.2.1 dX0_stepOdd_18 rfl (lv_at hl 0 rfl) ?_
    refine lv_iconst (v := nI 1) C.1 C.2.1 dX0_stepOdd_19 (by decide) ?_
    refine lv_iand C.1 C.2.1 dX0_stepOdd_20 ?_
    refine lv_iconst (v := nI 1) C.1 C.2.1 dX0_stepOdd_21 (by decide) ?_
    refine lv_icmp_ne (tgt := 32) C.1 C.2.1 dX0_stepOdd_22 (by decide) (fun c22 => ?_) (fun c22 => ?_)
    · refine lv_iconst (v := nI 1) C.1 C.2.1 dX0_stepOdd_32 (by decide) ?_
      have e9 : xc_odd σ p = (true, xc_tX σ p) := by unfold xc_odd; rw [if_pos c7, if_neg (show ¬ xc_iX σ p &&& 1 = 1 from c22)]
      exact xw_zret C h hr hlk (by rw [e9]; exact bz_1) (by rw [e9]) dX0_stepOdd_33
    · refine lv_aload_n C.1 C.2.1 dX0_stepOdd_25 rfl (lv_at hl 2 rfl) ?_
      refine lv_iload_n C.1 C.2.1 dX0_stepOdd_26 rfl (lv_at hl 3 rfl) ?_
      refine lv_iload_n C.1 C.2.1 dX0_stepOdd_27 rfl (lv_at hl 0 rfl) ?_
      refine xw_calli (n := 2) (As := [.int (nI p), .int (xc_iX σ p)]) (rest := []) C hml h (x_make l D ad dA dB _ (xc_tX σ p) hp hm) q104 q106 qs4 q107 rfl (by decide +kernel) rfl rfl ⟨Nat.le_of_ble_eq_true rfl, Nat.le_of_ble_eq_true rfl⟩ rfl hl.1 rfl (Nat.le_of_ble_eq_true rfl) dX0_stepOdd_28 ⟨Nat.zero_le _, Nat.zero_le _⟩ (fun H locs h => ?_)
      refine lv_pop C.1 C.2.1 dX0_stepOdd_31 rfl ?_
      refine lv_iconst (v := nI 1) C.1 C.2.1 dX0_stepOdd_32 (by decide) ?_
      have e9 : xc_odd σ p = (true, xc_mk (xc_tX σ p) p (xc_iX σ p)) := by unfold xc_odd; rw [if_pos c7, if_pos (show xc_iX σ p &&& 1 = 1 from c22)]
      exact xw_zret C h hr hlk (by rw [e9]; exact bz_1) (by rw [e9]) dX0_stepOdd_33
  · refine lv_iconst (v := nI 0) C.1 C.2.1 dX0_stepOdd_10 (by decide) ?_
    have e9 : xc_odd σ p = (false, σ) := by unfold xc_odd; rw [if_neg (by rw [c7]; decide)]
    exact xw_zret C h hr hlk (by rw [e9]; exact bz_0) (by rw [e9]) dX0_stepOdd_11
set_option maxHeartbeats 4000000 in
set_option maxRecDepth 100000 in
theorem x_stepDelay (l : Launch) (D : va_G) (ad : Nat → Nat) (dA dB : ClassId) (sz : Nat) (σ : us_S) {p : Nat} (hp : p < 8) (hb : xc_B σ) (hm : σ.1 4 p < 40) : xw_Mi l yX0_stepDelay cX0_stepDelay 4 (some .boolean) ({ frames := 1, cells := 0, slots := 0, locals := 22 } : Room) D ad dA dB sz σ [.int (nI p)] (bz (xc_delay σ p).1) ((xc_delay σ p).2) := by
  refine xw_Mi_of (by decide) rfl (Nat.le_of_ble_eq_true rfl) (fun p_ e s m below meth c A ls C hml hr hlk h hl => ?_)
  have hl : lv_has ls 4 [(0, .ref (ad 13)), (1, .int (nI p))] := hl
  have hx : σ.1 1 p < 8 := (hb.1 p hp).2.1
  have hy : σ.1 2 p < 8 := (hb.1 p hp).2.2
  have b5 : σ.1 5 p ≤ 40 := (hb.2 p hp).2.1
  have b6 : σ.1 6 p ≤ 40 := (hb.2 p hp).2.2
  have bX : σ.1 4 (σ.1 1 p) ≤ 40 := (hb.2 _ hx).1
  have bY : σ.1 4 (σ.1 2 p) ≤ 40 := (hb.2 _ hy).1
  have eX : xc_hX σ p = true → σ.1 5 p < 40 := fun z => Nat.lt_of_lt_of_le (of_decide_eq_true z) bX
  have eY : xc_hY σ p = true → σ.1 6 p < 40 := fun z => Nat.lt_of_lt_of_le (of_decide_eq_true z) bY
  refine lv_aload_n C.1 C.2.1 dX0_stepDelay_0 rfl (lv_at hl 0 rfl) ?_
  refine xg4 C h dX0_stepDelay_1 ?_
  refine lv_iload_n C.1 C.2.1 dX0_stepDelay_4 rfl (lv_at hl 1 rfl) ?_
  refine xl4 (i := p) (w := σ.1 4 p) C h (by omega) rfl dX0_stepDelay_5 ?_
  refine wn_ifn (tgt := 21) C.1 C.2.1 (by omega) dX0_stepDelay_6 (by decide) (fun c6 => ?_) (fun c6 => ?_)
  · refine lv_aload_n C.1 C.2.1 dX0_stepDelay_21 rfl (lv_at hl 0 rfl) ?_
    refine lv_iload_n C.1 C.2.1 dX0_stepDelay_22 rfl (lv_at hl 1 rfl) ?_
    refine xw_calli (n := 1) (As := [.int (nI p)]) (rest := []) C hml h (x_hasX l D ad dA dB _ σ hp hx b5 bX) q112 q114 qs6 q115 rfl (by decide +kernel) rfl rfl ⟨Nat.le_of_ble_eq_true rfl, Nat.le_of_ble_eq_true rfl⟩ rfl hl.1 rfl (Nat.le_of_ble_eq_true rfl) dX0_stepDelay_23 ⟨Nat.zero_le _, Nat.zero_le _⟩ (fun H locs h => ?_)
    refine lv_istore_n (lv' := [(2, .int (bz (xc_hX σ p))), (0, .ref (ad 13)), (1, .int (nI p))]) C.1 C.2.1 dX0_stepDelay_26 rfl hl (by decide) rfl (fun ls hl => ?_)
    refine lv_iload_n C.1 C.2.1 dX0_stepDelay_27 rfl (lv_at hl 0 rfl) ?_
    refine wn_ifnB (tgt := 33) C.1 C.2.1 dX0_stepDelay_28 (by decide) (fun c28 => ?_) (fun c28 => ?_)
    · refine lv_aload_n C.1 C.2.1 dX0_stepDelay_33 rfl (lv_at hl 1 rfl) ?_
      refine lv_iload_n C.1 C.2.1 dX0_stepDelay_34 rfl (lv_at hl 2 rfl) ?_
      refine xw_calli (n := 1) (As := [.int (nI p)]) (rest := []) C hml h (x_takeX l D ad dA dB _ σ hp hx (eX c28)) q120 q122 qs8 q123 rfl (by decide +kernel) rfl rfl ⟨Nat.le_of_ble_eq_true rfl, Nat.le_of_ble_eq_true rfl⟩ rfl hl.1 rfl (Nat.le_of_ble_eq_true rfl) dX0_stepDelay_35 ⟨Nat.zero_le _, Nat.zero_le _⟩ (fun H locs h => ?_)
      refine lv_istore_n (lv' := [(3, .int (xc_iX σ p)), (2, .int (bz (xc_hX σ p))), (0, .ref (ad 13)), (1, .int (nI p))]) C.1 C.2.1 dX0_stepDelay_38 rfl hl (by decide) rfl (fun ls hl => ?_)
      refine lv_aload_n C.1 C.2.1 dX0_stepDelay_39 rfl (lv_at hl 2 rfl) ?_
      refine lv_iload_n C.1 C.2.1 dX0_stepDelay_40 rfl (lv_at hl 3 rfl) ?_
      refine lv_iload_n C.1 C.2.1 dX0_stepDelay_41 rfl (lv_at hl 0 rfl) ?_
      refine xw_calli (n := 2) (As := [.int (nI p), .int (xc_iX σ p)]) (rest := []) C hml h (x_make l D ad dA dB _ (xc_tX σ p) hp hm) q104 q106 qs4 q107 rfl (by decide +kernel) rfl rfl ⟨Nat.le_of_ble_eq_true rfl, Nat.le_of_ble_eq_true rfl⟩ rfl hl.1 rfl (Nat.le_of_ble_eq_true rfl) dX0_stepDelay_42 ⟨Nat.zero_le _, Nat.zero_le _⟩ (fun H locs h => ?_)
      have e9 : xc_delay σ p = (true, xc_mk (xc_tX σ p) p (xc_iX σ p)) := by unfold xc_delay; rw [if_neg c6, if_pos c28]
      exact xw_zret C h hr hlk (by rw [e9]) (by rw [e9]) dX0_stepDelay_45
    · refine lv_iconst (v := nI 0) C.1 C.2.1 dX0_stepDelay_31 (by decide) ?_
      have e9 : xc_delay σ p = (false, σ) := by unfold xc_delay; rw [if_neg c6, if_neg (by rw [c28]; decide)]
      exact xw_zret C h hr hlk (by rw [e9]; exact bz_0) (by rw [e9]) dX0_stepDelay_32
  · refine lv_aload_n C.1 C.2.1 dX0_stepDelay_9 rfl (lv_at hl 0 rfl) ?_
    refine lv_iload_n C.1 C.2.1 dX0_stepDelay_10 rfl (lv_at hl 1 rfl) ?_
    refine lv_aload_n C.1 C.2.1 dX0_stepDelay_11 rfl (lv_at hl 0 rfl) ?_
    refine xg3 C h dX0_stepDelay_12 ?_
    refine lv_iload_n C.1 C.2.1 dX0_stepDelay_15 rfl (lv_at hl 1 rfl) ?_
    refine xl3 (i := p) (w := σ.2 3 p) C h (by omega) rfl dX0_stepDelay_16 ?_
    refine xw_calli (n := 2) (As := [.int (nI p), .int (σ.2 3 p)]) (rest := []) C hml h (x_make l D ad dA dB _ σ hp hm) q104 q106 qs4 q107 rfl (by decide +kernel) rfl rfl ⟨Nat.le_of_ble_eq_true rfl, Nat.le_of_ble_eq_true rfl⟩ rfl hl.1 rfl (Nat.le_of_ble_eq_true rfl) dX0_stepDelay_17 ⟨Nat.zero_le _, Nat.zero_le _⟩ (fun H locs h => ?_)
    have e9 : xc_delay σ p = (true, xc_mk σ p (σ.2 3 p)) := by unfold xc_delay; rw [if_pos c6]
    exact xw_zret C h hr hlk (by rw [e9]) (by rw [e9]) dX0_stepDelay_20
set_option maxHeartbeats 4000000 in
set_option maxRecDepth 100000 in
theorem x_stepSum (l : Launch) (D : va_G) (ad : Nat → Nat) (dA dB : ClassId) (sz : Nat) (σ : us_S) {p : Nat} (hp : p < 8) (hb : xc_B σ) (hm : σ.1 4 p < 40) : xw_Mi l yX0_stepSum cX0_stepSum 3 (some .boolean) ({ frames := 1, cells := 0, slots := 0, locals := 22 } : Room) D ad dA dB sz σ [.int (nI p)] (bz (xc_sum σ p).1) ((xc_sum σ p).2) := by
  refine xw_Mi_of (by decide) rfl (Nat.le_of_ble_eq_true rfl) (fun p_ e s m below meth c A ls C hml hr hlk h hl => ?_)
  have hl : lv_has ls 3 [(0, .ref (ad 13)), (1, .int (nI p))] := hl
  have hx : σ.1 1 p < 8 := (hb.1 p hp).2.1
  have hy : σ.1 2 p < 8 := (hb.1 p hp).2.2
  have b5 : σ.1 5 p ≤ 40 := (hb.2 p hp).2.1
  have b6 : σ.1 6 p ≤ 40 := (hb.2 p hp).2.2
  have bX : σ.1 4 (σ.1 1 p) ≤ 40 := (hb.2 _ hx).1
  have bY : σ.1 4 (σ.1 2 p) ≤ 40 := (hb.2 _ hy).1
  have eX : xc_hX σ p = true → σ.1 5 p < 40 := fun z => Nat.lt_of_lt_of_le (of_decide_eq_true z) bX
  have eY : xc_hY σ p = true → σ.1 6 p < 40 := fun z => Nat.lt_of_lt_of_le (of_decide_eq_true z) bY
  refine lv_aload_n C.1 C.2.1 dX0_stepSum_0 rfl (lv_at hl 0 rfl) ?_
  refine lv_iload_n C.1 C.2.1 dX0_stepSum_1 rfl (lv_at hl 1 rfl) ?_
  refine xw_calli (n := 1) (As := [.int (nI p)]) (rest := []) C hml h (x_hasX l D ad dA dB _ σ hp hx b5 bX) q112 q114 qs6 q115 rfl (by decide +kernel) rfl rfl ⟨Nat.le_of_ble_eq_true rfl, Nat.le_of_ble_eq_true rfl⟩ rfl hl.1 rfl (Nat.le_of_ble_eq_true rfl) dX0_stepSum_2 ⟨Nat.zero_le _, Nat.zero_le _⟩ (fun H locs h => ?_)
  refine lv_istore_n (lv' := [(2, .int (bz (xc_hX σ p))), (0, .ref (ad 13)), (1, .int (nI p))]) C.1 C.2.1 dX0_stepSum_5 rfl hl (by decide) rfl (fun ls hl => ?_)
  refine lv_iload_n C.1 C.2.1 dX0_stepSum_6 rfl (lv_at hl 0 rfl) ?_
  refine wn_ifnB (tgt := 12) C.1 C.2.1 dX0_stepSum_7 (by decide) (fun c7 => ?_) (fun c7 => ?_)
  · refine lv_aload_n C.1 C.2.1 dX0_stepSum_12 rfl (lv_at hl 1 rfl) ?_
    refine xg7 C h dX0_stepSum_13 ?_
    refine lv_iload_n C.1 C.2.1 dX0_stepSum_16 rfl (lv_at hl 2 rfl) ?_
    refine lv_dup2_11 C.1 C.2.1 dX0_stepSum_17 rfl rfl ?_
    refine xl7 (i := p) (w := σ.2 7 p) C h (by omega) rfl dX0_stepSum_18 ?_
    refine lv_aload_n C.1 C.2.1 dX0_stepSum_19 rfl (lv_at hl 1 rfl) ?_
    refine lv_iload_n C.1 C.2.1 dX0_stepSum_20 rfl (lv_at hl 2 rfl) ?_
    refine xw_calli (n := 1) (As := [.int (nI p)]) (rest := [.int (σ.2 7 p), .int (nI p), .ref (ad 7)]) C hml h (x_takeX l D ad dA dB _ σ hp hx (eX c7)) q120 q122 qs8 q123 rfl (by decide +kernel) rfl rfl ⟨Nat.le_of_ble_eq_true rfl, Nat.le_of_ble_eq_true rfl⟩ rfl hl.1 rfl (Nat.le_of_ble_eq_true rfl) dX0_stepSum_21 ⟨Nat.zero_le _, Nat.zero_le _⟩ (fun H locs h => ?_)
    refine lv_iadd C.1 C.2.1 dX0_stepSum_24 ?_
    refine xs7 (i := p) (v := (σ.2 7 p) + (xc_iX σ p)) C h (by omega) dX0_stepSum_25 (fun H locs h => ?_)
    refine lv_aload_n C.1 C.2.1 dX0_stepSum_26 rfl (lv_at hl 1 rfl) ?_
    refine lv_iload_n C.1 C.2.1 dX0_stepSum_27 rfl (lv_at hl 2 rfl) ?_
    refine lv_aload_n C.1 C.2.1 dX0_stepSum_28 rfl (lv_at hl 1 rfl) ?_
    refine xg7 C h dX0_stepSum_29 ?_
    refine lv_iload_n C.1 C.2.1 dX0_stepSum_32 rfl (lv_at hl 2 rfl) ?_
    refine xl7 (i := p) (w := (σ.2 7 p) + (xc_iX σ p)) C h (by omega) (show (us_V (xc_tX σ p) 7 p ((σ.2 7 p) + (xc_iX σ p))).2 7 p = (σ.2 7 p) + (xc_iX σ p) by rw [us_V2, if_pos ⟨rfl, rfl⟩]) dX0_stepSum_33 ?_
    refine xw_calli (n := 2) (As := [.int (nI p), .int ((σ.2 7 p) + (xc_iX σ p))]) (rest := []) C hml h (x_make l D ad dA dB _ (us_V (xc_tX σ p) 7 p ((σ.2 7 p) + (xc_iX σ p))) hp hm) q104 q106 qs4 q107 rfl (by decide +kernel) rfl rfl ⟨Nat.le_of_ble_eq_true rfl, Nat.le_of_ble_eq_true rfl⟩ rfl hl.1 rfl (Nat.le_of_ble_eq_true rfl) dX0_stepSum_34 ⟨Nat.zero_le _, Nat.zero_le _⟩ (fun H locs h => ?_)
    have e9 : xc_sum σ p = (true, xc_mk (us_V (xc_tX σ p) 7 p ((σ.2 7 p) + (xc_iX σ p))) p ((σ.2 7 p) + (xc_iX σ p))) := by unfold xc_sum; rw [if_pos c7]
    exact xw_zret C h hr hlk (by rw [e9]) (by rw [e9]) dX0_stepSum_37
  · refine lv_iconst (v := nI 0) C.1 C.2.1 dX0_stepSum_10 (by decide) ?_
    have e9 : xc_sum σ p = (false, σ) := by unfold xc_sum; rw [if_neg (by rw [c7]; decide)]
    exact xw_zret C h hr hlk (by rw [e9]; exact bz_0) (by rw [e9]) dX0_stepSum_11
set_option maxHeartbeats 4000000 in
set_option maxRecDepth 100000 in
theorem x_stepPair (l : Launch) (D : va_G) (ad : Nat → Nat) (dA dB : ClassId) (sz : Nat) (σ : us_S) {p : Nat} (hp : p < 8) (hb : xc_B σ) (hm : σ.1 4 p < 40) : xw_Mi l yX0_stepPair cX0_stepPair 5 (some .boolean) ({ frames := 1, cells := 0, slots := 0, locals := 22 } : Room) D ad dA dB sz σ [.int (nI p)] (bz (xc_pair σ p).1) ((xc_pair σ p).2) := by
  refine xw_Mi_of (by decide) rfl (Nat.le_of_ble_eq_true rfl) (fun p_ e s m below meth c A ls C hml hr hlk h hl => ?_)
  have hl : lv_has ls 5 [(0, .ref (ad 13)), (1, .int (nI p))] := hl
  have hx : σ.1 1 p < 8 := (hb.1 p hp).2.1
  have hy : σ.1 2 p < 8 := (hb.1 p hp).2.2
  have b5 : σ.1 5 p ≤ 40 := (hb.2 p hp).2.1
  have b6 : σ.1 6 p ≤ 40 := (hb.2 p hp).2.2
  have bX : σ.1 4 (σ.1 1 p) ≤ 40 := (hb.2 _ hx).1
  have bY : σ.1 4 (σ.1 2 p) ≤ 40 := (hb.2 _ hy).1
  have eX : xc_hX σ p = true → σ.1 5 p < 40 := fun z => Nat.lt_of_lt_of_le (of_decide_eq_true z) bX
  have eY : xc_hY σ p = true → σ.1 6 p < 40 := fun z => Nat.lt_of_lt_of_le (of_decide_eq_true z) bY
  have k7 : σ.1 0 p ≤ 7 := (hb.1 p hp).1
  have e40 : xc_hX σ p = true → σ.1 1 p * 40 + σ.1 5 p < 320 := fun z => by have := eX z; omega
  have e41 : xc_hY σ p = true → σ.1 2 p * 40 + σ.1 6 p < 320 := fun z => by have := eY z; omega
  refine lv_aload_n C.1 C.2.1 dX0_stepPair_0 rfl (lv_at hl 0 rfl) ?_
  refine lv_iload_n C.1 C.2.1 dX0_stepPair_1 rfl (lv_at hl 1 rfl) ?_
  refine xw_calli (n := 1) (As := [.int (nI p)]) (rest := []) C hml h (x_hasX l D ad dA dB _ σ hp hx b5 bX) q112 q114 qs6 q115 rfl (by decide +kernel) rfl rfl ⟨Nat.le_of_ble_eq_true rfl, Nat.le_of_ble_eq_true rfl⟩ rfl hl.1 rfl (Nat.le_of_ble_eq_true rfl) dX0_stepPair_2 ⟨Nat.zero_le _, Nat.zero_le _⟩ (fun H locs h => ?_)
  refine wn_ifzB (tgt := 20) C.1 C.2.1 dX0_stepPair_5 (by decide) (fun c5 => ?_) (fun c5 => ?_)
  · refine lv_iconst (v := nI 0) C.1 C.2.1 dX0_stepPair_20 (by decide) ?_
    refine lv_istore_n (lv' := [(2, .int (nI 0)), (0, .ref (ad 13)), (1, .int (nI p))]) C.1 C.2.1 dX0_stepPair_21 rfl hl (by decide) rfl (fun ls hl => ?_)
    refine lv_iload_n C.1 C.2.1 dX0_stepPair_22 rfl (lv_at hl 0 rfl) ?_
    refine wn_ifn (tgt := 28) C.1 C.2.1 (by omega) dX0_stepPair_23 (by decide) (fun z => absurd z (by decide)) (fun _ => ?_)
    refine lv_iconst (v := nI 0) C.1 C.2.1 dX0_stepPair_26 (by decide) ?_
    have e9 : xc_pair σ p = (false, σ) := by unfold xc_pair; rw [if_neg (show ¬ (xc_hX σ p && xc_hY σ p) = true by rw [c5]; exact Bool.false_ne_true)]
    exact xw_zret C h hr hlk (by rw [e9]; exact bz_0) (by rw [e9]) dX0_stepPair_27
  · refine lv_aload_n C.1 C.2.1 dX0_stepPair_8 rfl (lv_at hl 0 rfl) ?_
    refine lv_iload_n C.1 C.2.1 dX0_stepPair_9 rfl (lv_at hl 1 rfl) ?_
    refine xw_calli (n := 1) (As := [.int (nI p)]) (rest := []) C hml h (x_hasY l D ad dA dB _ σ hp hy b6 bY) q116 q118 qs7 q119 rfl (by decide +kernel) rfl rfl ⟨Nat.le_of_ble_eq_true rfl, Nat.le_of_ble_eq_true rfl⟩ rfl hl.1 rfl (Nat.le_of_ble_eq_true rfl) dX0_stepPair_10 ⟨Nat.zero_le _, Nat.zero_le _⟩ (fun H locs h => ?_)
    refine wn_ifzB (tgt := 20) C.1 C.2.1 dX0_stepPair_13 (by decide) (fun c13 => ?_) (fun c13 => ?_)
    · refine lv_iconst (v := nI 0) C.1 C.2.1 dX0_stepPair_20 (by decide) ?_
      refine lv_istore_n (lv' := [(2, .int (nI 0)), (0, .ref (ad 13)), (1, .int (nI p))]) C.1 C.2.1 dX0_stepPair_21 rfl hl (by decide) rfl (fun ls hl => ?_)
      refine lv_iload_n C.1 C.2.1 dX0_stepPair_22 rfl (lv_at hl 0 rfl) ?_
      refine wn_ifn (tgt := 28) C.1 C.2.1 (by omega) dX0_stepPair_23 (by decide) (fun z => absurd z (by decide)) (fun _ => ?_)
      refine lv_iconst (v := nI 0) C.1 C.2.1 dX0_stepPair_26 (by decide) ?_
      have e9 : xc_pair σ p = (false, σ) := by unfold xc_pair; rw [if_neg (show ¬ (xc_hX σ p && xc_hY σ p) = true by rw [c5, c13]; exact Bool.false_ne_true)]
      exact xw_zret C h hr hlk (by rw [e9]; exact bz_0) (by rw [e9]) dX0_stepPair_27
    · refine lv_iconst (v := nI 1) C.1 C.2.1 dX0_stepPair_16 (by decide) ?_
      refine lv_goto (tgt := 21) C.1 C.2.1 dX0_stepPair_17 (by decide) ?_
      refine lv_istore_n (lv' := [(2, .int (nI 1)), (0, .ref (ad 13)), (1, .int (nI p))]) C.1 C.2.1 dX0_stepPair_21 rfl hl (by decide) rfl (fun ls hl => ?_)
      refine lv_iload_n C.1 C.2.1 dX0_stepPair_22 rfl (lv_at hl 0 rfl) ?_
      refine wn_ifn (tgt := 28) C.1 C.2.1 (by omega) dX0_stepPair_23 (by decide) (fun _ => ?_) (fun z => absurd z (by decide))
      refine lv_aload_n C.1 C.2.1 dX0_stepPair_28 rfl (lv_at hl 1 rfl) ?_
      refine xg0 C h dX0_stepPair_29 ?_
      refine lv_iload_n C.1 C.2.1 dX0_stepPair_32 rfl (lv_at hl 2 rfl) ?_
      refine xl0 (i := p) (w := σ.1 0 p) C h (by omega) rfl dX0_stepPair_33 ?_
      refine lv_iconst (v := nI 2) C.1 C.2.1 dX0_stepPair_34 (by decide) ?_
      refine wn_ne (tgt := 61) C.1 C.2.1 (by omega) (by omega) dX0_stepPair_35 (by decide) (fun c35 => ?_) (fun c35 => ?_)
      · refine lv_aload_n C.1 C.2.1 dX0_stepPair_61 rfl (lv_at hl 1 rfl) ?_
        refine xg8 C h dX0_stepPair_62 ?_
        refine lv_aload_n C.1 C.2.1 dX0_stepPair_65 rfl (lv_at hl 1 rfl) ?_
        refine xg1 C h dX0_stepPair_66 ?_
        refine lv_iload_n C.1 C.2.1 dX0_stepPair_69 rfl (lv_at hl 2 rfl) ?_
        refine xl1 (i := p) (w := σ.1 1 p) C h (by omega) rfl dX0_stepPair_70 ?_
        refine lv_bipush (v := nI 40) C.1 C.2.1 dX0_stepPair_71 (by decide) ?_
        refine wn_mul C.1 C.2.1 dX0_stepPair_73 ?_
        refine lv_aload_n C.1 C.2.1 dX0_stepPair_74 rfl (lv_at hl 1 rfl) ?_
        refine xg5 C h dX0_stepPair_75 ?_
        refine lv_iload_n C.1 C.2.1 dX0_stepPair_78 rfl (lv_at hl 2 rfl) ?_
        refine xl5 (i := p) (w := σ.1 5 p) C h (by omega) rfl dX0_stepPair_79 ?_
        refine wn_add C.1 C.2.1 dX0_stepPair_80 ?_
        refine xl8 (i := (σ.1 1 p) * 40 + σ.1 5 p) (w := σ.2 8 ((σ.1 1 p) * 40 + σ.1 5 p)) C h (e40 c5) rfl dX0_stepPair_81 ?_
        refine lv_aload_n C.1 C.2.1 dX0_stepPair_82 rfl (lv_at hl 1 rfl) ?_
        refine xg8 C h dX0_stepPair_83 ?_
        refine lv_aload_n C.1 C.2.1 dX0_stepPair_86 rfl (lv_at hl 1 rfl) ?_
        refine xg2 C h dX0_stepPair_87 ?_
        refine lv_iload_n C.1 C.2.1 dX0_stepPair_90 rfl (lv_at hl 2 rfl) ?_
        refine xl2 (i := p) (w := σ.1 2 p) C h (by omega) rfl dX0_stepPair_91 ?_
        refine lv_bipush (v := nI 40) C.1 C.2.1 dX0_stepPair_92 (by decide) ?_
        refine wn_mul C.1 C.2.1 dX0_stepPair_94 ?_
        refine lv_aload_n C.1 C.2.1 dX0_stepPair_95 rfl (lv_at hl 1 rfl) ?_
        refine xg6 C h dX0_stepPair_96 ?_
        refine lv_iload_n C.1 C.2.1 dX0_stepPair_99 rfl (lv_at hl 2 rfl) ?_
        refine xl6 (i := p) (w := σ.1 6 p) C h (by omega) rfl dX0_stepPair_100 ?_
        refine wn_add C.1 C.2.1 dX0_stepPair_101 ?_
        refine xl8 (i := (σ.1 2 p) * 40 + σ.1 6 p) (w := σ.2 8 ((σ.1 2 p) * 40 + σ.1 6 p)) C h (e41 c13) rfl dX0_stepPair_102 ?_
        refine lv_icmp_gt (tgt := 110) C.1 C.2.1 dX0_stepPair_103 (by decide) (fun c103 => ?_) (fun c103 => ?_)
        · refine lv_iconst (v := nI 0) C.1 C.2.1 dX0_stepPair_110 (by decide) ?_
          refine lv_istore_n (lv' := [(3, .int (nI 0)), (2, .int (nI 1)), (0, .ref (ad 13)), (1, .int (nI p))]) C.1 C.2.1 dX0_stepPair_111 rfl hl (by decide) rfl (fun ls hl => ?_)
          refine lv_iload_n C.1 C.2.1 dX0_stepPair_112 rfl (lv_at hl 0 rfl) ?_
          refine wn_if0 (tgt := 124) C.1 C.2.1 (by omega) dX0_stepPair_113 (by decide) (fun _ => ?_) (fun z => absurd z (by decide))
          refine lv_aload_n C.1 C.2.1 dX0_stepPair_124 rfl (lv_at hl 2 rfl) ?_
          refine lv_iload_n C.1 C.2.1 dX0_stepPair_125 rfl (lv_at hl 3 rfl) ?_
          refine xw_calli (n := 1) (As := [.int (nI p)]) (rest := []) C hml h (x_takeY l D ad dA dB _ σ hp hy (eY c13)) q124 q126 qs9 q127 rfl (by decide +kernel) rfl rfl ⟨Nat.le_of_ble_eq_true rfl, Nat.le_of_ble_eq_true rfl⟩ rfl hl.1 rfl (Nat.le_of_ble_eq_true rfl) dX0_stepPair_126 ⟨Nat.zero_le _, Nat.zero_le _⟩ (fun H locs h => ?_)
          refine lv_istore (lv' := [(4, .int (xc_iY σ p)), (3, .int (nI 0)), (2, .int (nI 1)), (0, .ref (ad 13)), (1, .int (nI p))]) C.1 C.2.1 dX0_stepPair_129 hl (by decide) rfl (fun ls hl => ?_)
          refine lv_aload_n C.1 C.2.1 dX0_stepPair_131 rfl (lv_at hl 3 rfl) ?_
          refine lv_iload_n C.1 C.2.1 dX0_stepPair_132 rfl (lv_at hl 4 rfl) ?_
          refine lv_iload C.1 C.2.1 dX0_stepPair_133 (lv_at hl 0 rfl) ?_
          refine xw_calli (n := 2) (As := [.int (nI p), .int (xc_iY σ p)]) (rest := []) C hml h (x_make l D ad dA dB _ (xc_tY σ p) hp hm) q104 q106 qs4 q107 rfl (by decide +kernel) rfl rfl ⟨Nat.le_of_ble_eq_true rfl, Nat.le_of_ble_eq_true rfl⟩ rfl hl.1 rfl (Nat.le_of_ble_eq_true rfl) dX0_stepPair_135 ⟨Nat.zero_le _, Nat.zero_le _⟩ (fun H locs h => ?_)
          have e9 : xc_pair σ p = (true, xc_mk (xc_tY σ p) p (xc_iY σ p)) := by unfold xc_pair; rw [if_pos (show (xc_hX σ p && xc_hY σ p) = true by rw [c5, c13]; rfl), if_neg c35, if_neg (show ¬ xc_iX σ p ≤ xc_iY σ p from Int32.not_le.mpr c103)]
          exact xw_zret C h hr hlk (by rw [e9]) (by rw [e9]) dX0_stepPair_138
        · refine lv_iconst (v := nI 1) C.1 C.2.1 dX0_stepPair_106 (by decide) ?_
          refine lv_goto (tgt := 111) C.1 C.2.1 dX0_stepPair_107 (by decide) ?_
          refine lv_istore_n (lv' := [(3, .int (nI 1)), (2, .int (nI 1)), (0, .ref (ad 13)), (1, .int (nI p))]) C.1 C.2.1 dX0_stepPair_111 rfl hl (by decide) rfl (fun ls hl => ?_)
          refine lv_iload_n C.1 C.2.1 dX0_stepPair_112 rfl (lv_at hl 0 rfl) ?_
          refine wn_if0 (tgt := 124) C.1 C.2.1 (by omega) dX0_stepPair_113 (by decide) (fun z => absurd z (by decide)) (fun _ => ?_)
          refine lv_aload_n C.1 C.2.1 dX0_stepPair_116 rfl (lv_at hl 2 rfl) ?_
          refine lv_iload_n C.1 C.2.1 dX0_stepPair_117 rfl (lv_at hl 3 rfl) ?_
          refine xw_calli (n := 1) (As := [.int (nI p)]) (rest := []) C hml h (x_takeX l D ad dA dB _ σ hp hx (eX c5)) q120 q122 qs8 q123 rfl (by decide +kernel) rfl rfl ⟨Nat.le_of_ble_eq_true rfl, Nat.le_of_ble_eq_true rfl⟩ rfl hl.1 rfl (Nat.le_of_ble_eq_true rfl) dX0_stepPair_118 ⟨Nat.zero_le _, Nat.zero_le _⟩ (fun H locs h => ?_)
          refine lv_goto (tgt := 129) C.1 C.2.1 dX0_stepPair_121 (by decide) ?_
          refine lv_istore (lv' := [(4, .int (xc_iX σ p)), (3, .int (nI 1)), (2, .int (nI 1)), (0, .ref (ad 13)), (1, .int (nI p))]) C.1 C.2.1 dX0_stepPair_129 hl (by decide) rfl (fun ls hl => ?_)
          refine lv_aload_n C.1 C.2.1 dX0_stepPair_131 rfl (lv_at hl 3 rfl) ?_
          refine lv_iload_n C.1 C.2.1 dX0_stepPair_132 rfl (lv_at hl 4 rfl) ?_
          refine lv_iload C.1 C.2.1 dX0_stepPair_133 (lv_at hl 0 rfl) ?_
          refine xw_calli (n := 2) (As := [.int (nI p), .int (xc_iX σ p)]) (rest := []) C hml h (x_make l D ad dA dB _ (xc_tX σ p) hp hm) q104 q106 qs4 q107 rfl (by decide +kernel) rfl rfl ⟨Nat.le_of_ble_eq_true rfl, Nat.le_of_ble_eq_true rfl⟩ rfl hl.1 rfl (Nat.le_of_ble_eq_true rfl) dX0_stepPair_135 ⟨Nat.zero_le _, Nat.zero_le _⟩ (fun H locs h => ?_)
          have e9 : xc_pair σ p = (true, xc_mk (xc_tX σ p) p (xc_iX σ p)) := by unfold xc_pair; rw [if_pos (show (xc_hX σ p && xc_hY σ p) = true by rw [c5, c13]; rfl), if_neg c35, if_pos (show xc_iX σ p ≤ xc_iY σ p from Int32.not_lt.mp c103)]
          exact xw_zret C h hr hlk (by rw [e9]) (by rw [e9]) dX0_stepPair_138
      · refine lv_aload_n C.1 C.2.1 dX0_stepPair_38 rfl (lv_at hl 1 rfl) ?_
        refine lv_iload_n C.1 C.2.1 dX0_stepPair_39 rfl (lv_at hl 2 rfl) ?_
        refine xw_calli (n := 1) (As := [.int (nI p)]) (rest := []) C hml h (x_takeX l D ad dA dB _ σ hp hx (eX c5)) q120 q122 qs8 q123 rfl (by decide +kernel) rfl rfl ⟨Nat.le_of_ble_eq_true rfl, Nat.le_of_ble_eq_true rfl⟩ rfl hl.1 rfl (Nat.le_of_ble_eq_true rfl) dX0_stepPair_40 ⟨Nat.zero_le _, Nat.zero_le _⟩ (fun H locs h => ?_)
        refine lv_istore_n (lv' := [(3, .int (xc_iX σ p)), (2, .int (nI 1)), (0, .ref (ad 13)), (1, .int (nI p))]) C.1 C.2.1 dX0_stepPair_43 rfl hl (by decide) rfl (fun ls hl => ?_)
        refine lv_aload_n C.1 C.2.1 dX0_stepPair_44 rfl (lv_at hl 2 rfl) ?_
        refine lv_iload_n C.1 C.2.1 dX0_stepPair_45 rfl (lv_at hl 3 rfl) ?_
        refine xw_calli (n := 1) (As := [.int (nI p)]) (rest := []) C hml h (x_takeY l D ad dA dB _ (xc_tX σ p) hp hy (eY c13)) q124 q126 qs9 q127 rfl (by decide +kernel) rfl rfl ⟨Nat.le_of_ble_eq_true rfl, Nat.le_of_ble_eq_true rfl⟩ rfl hl.1 rfl (Nat.le_of_ble_eq_true rfl) dX0_stepPair_46 ⟨Nat.zero_le _, Nat.zero_le _⟩ (fun H locs h => ?_)
        refine lv_istore (lv' := [(4, .int (xc_iY σ p)), (3, .int (xc_iX σ p)), (2, .int (nI 1)), (0, .ref (ad 13)), (1, .int (nI p))]) C.1 C.2.1 dX0_stepPair_49 hl (by decide) rfl (fun ls hl => ?_)
        refine lv_aload_n C.1 C.2.1 dX0_stepPair_51 rfl (lv_at hl 3 rfl) ?_
        refine lv_iload_n C.1 C.2.1 dX0_stepPair_52 rfl (lv_at hl 4 rfl) ?_
        refine lv_iload_n C.1 C.2.1 dX0_stepPair_53 rfl (lv_at hl 1 rfl) ?_
        refine lv_iload C.1 C.2.1 dX0_stepPair_54 (lv_at hl 0 rfl) ?_
        refine lv_iadd C.1 C.2.1 dX0_stepPair_56 ?_
        refine xw_calli (n := 2) (As := [.int (nI p), .int ((xc_iX σ p) + (xc_iY σ p))]) (rest := []) C hml h (x_make l D ad dA dB _ (xc_tY (xc_tX σ p) p) hp hm) q104 q106 qs4 q107 rfl (by decide +kernel) rfl rfl ⟨Nat.le_of_ble_eq_true rfl, Nat.le_of_ble_eq_true rfl⟩ rfl hl.1 rfl (Nat.le_of_ble_eq_true rfl) dX0_stepPair_57 ⟨Nat.zero_le _, Nat.zero_le _⟩ (fun H locs h => ?_)
        have e9 : xc_pair σ p = (true, xc_mk (xc_tY (xc_tX σ p) p) p ((xc_iX σ p) + (xc_iY σ p))) := by unfold xc_pair; rw [if_pos (show (xc_hX σ p && xc_hY σ p) = true by rw [c5, c13]; rfl), if_pos c35]
        exact xw_zret C h hr hlk (by rw [e9]) (by rw [e9]) dX0_stepPair_60
set_option maxHeartbeats 4000000 in
set_option maxRecDepth 100000 in
theorem x_step (l : Launch) (D : va_G) (ad : Nat → Nat) (dA dB : ClassId) (sz : Nat) (σ : us_S) {p : Nat} (hp : p < 8) (hb : xc_B σ) : xw_Mi l yX0_step cX0_step 3 (some .boolean) ({ frames := 2, cells := 0, slots := 0, locals := 46 } : Room) D ad dA dB sz σ [.int (nI p)] (bz (xc_step σ p).1) ((xc_step σ p).2) := by
  refine xw_Mi_of (by decide) rfl (Nat.le_of_ble_eq_true rfl) (fun p_ e s m below meth c A ls C hml hr hlk h hl => ?_)
  have hl : lv_has ls 3 [(0, .ref (ad 13)), (1, .int (nI p))] := hl
  have b4 : σ.1 4 p ≤ 40 := (hb.2 p hp).1
  refine lv_aload_n C.1 C.2.1 dX0_step_0 rfl (lv_at hl 0 rfl) ?_
  refine xg4 C h dX0_step_1 ?_
  refine lv_iload_n C.1 C.2.1 dX0_step_4 rfl (lv_at hl 1 rfl) ?_
  refine xl4 (i := p) (w := σ.1 4 p) C h (by omega) rfl dX0_step_5 ?_
  refine lv_istore_n (lv' := [(2, .int (nI (σ.1 4 p))), (0, .ref (ad 13)), (1, .int (nI p))]) C.1 C.2.1 dX0_step_6 rfl hl (by decide) rfl (fun ls hl => ?_)
  refine lv_iload_n C.1 C.2.1 dX0_step_7 rfl (lv_at hl 0 rfl) ?_
  refine lv_bipush (v := nI 40) C.1 C.2.1 dX0_step_8 (by decide) ?_
  refine wn_lt (tgt := 15) C.1 C.2.1 (by omega) (by omega) dX0_step_10 (by decide) (fun c10 => ?_) (fun c10 => ?_)
  · refine lv_aload_n C.1 C.2.1 dX0_step_15 rfl (lv_at hl 1 rfl) ?_
    refine xg0 C h dX0_step_16 ?_
    refine lv_iload_n C.1 C.2.1 dX0_step_19 rfl (lv_at hl 2 rfl) ?_
    refine xl0 (i := p) (w := σ.1 0 p) C h (by omega) rfl dX0_step_20 ?_
    have hm : σ.1 4 p < 40 := c10
    have k7 : σ.1 0 p ≤ 7 := (hb.1 p hp).1
    have kc : σ.1 0 p = 0 ∨ σ.1 0 p = 1 ∨ σ.1 0 p = 2 ∨ σ.1 0 p = 3 ∨ σ.1 0 p = 4 ∨ σ.1 0 p = 5 ∨ σ.1 0 p = 6 ∨ σ.1 0 p = 7 := by omega
    rcases kc with k0 | k0 | k0 | k0 | k0 | k0 | k0 | k0
    · refine lv_tableIn (tgt := 64) C.1 C.2.1 dX0_step_21 (by rw [k0]; decide) (by rw [k0]; decide) (by rw [k0]; rfl) (by decide) ?_
      refine lv_aload_n C.1 C.2.1 dX0_step_64 rfl (lv_at hl 1 rfl) ?_
      refine lv_iload_n C.1 C.2.1 dX0_step_65 rfl (lv_at hl 2 rfl) ?_
      refine lv_aload_n C.1 C.2.1 dX0_step_66 rfl (lv_at hl 1 rfl) ?_
      refine xg3 C h dX0_step_67 ?_
      refine lv_iload_n C.1 C.2.1 dX0_step_70 rfl (lv_at hl 2 rfl) ?_
      refine xl3 (i := p) (w := σ.2 3 p) C h (by omega) rfl dX0_step_71 ?_
      refine lv_iload_n C.1 C.2.1 dX0_step_72 rfl (lv_at hl 0 rfl) ?_
      refine lv_iadd C.1 C.2.1 dX0_step_73 ?_
      refine xw_calli (n := 2) (As := [.int (nI p), .int ((σ.2 3 p) + (nI (σ.1 4 p)))]) (rest := []) C hml h (x_make l D ad dA dB _ σ hp hm) q104 q106 qs4 q107 rfl (by decide +kernel) rfl rfl ⟨Nat.le_of_ble_eq_true rfl, Nat.le_of_ble_eq_true rfl⟩ rfl hl.1 rfl (Nat.le_of_ble_eq_true rfl) dX0_step_74 ⟨Nat.zero_le _, Nat.zero_le _⟩ (fun H locs h => ?_)
      have e9 : xc_step σ p = (true, xc_mk σ p ((σ.2 3 p) + (nI (σ.1 4 p)))) := by unfold xc_step; rw [if_neg (show ¬ 40 ≤ σ.1 4 p by omega), if_pos k0]
      exact xw_zret C h hr hlk (by rw [e9]) (by rw [e9]) dX0_step_77
    · refine lv_tableIn (tgt := 78) C.1 C.2.1 dX0_step_21 (by rw [k0]; decide) (by rw [k0]; decide) (by rw [k0]; rfl) (by decide) ?_
      refine lv_iload_n C.1 C.2.1 dX0_step_78 rfl (lv_at hl 0 rfl) ?_
      refine lv_iconst (v := nI 5) C.1 C.2.1 dX0_step_79 (by decide) ?_
      refine wn_ge (tgt := 107) C.1 C.2.1 (by omega) (by omega) dX0_step_80 (by decide) (fun c80 => ?_) (fun c80 => ?_)
      · refine lv_iconst (v := nI 0) C.1 C.2.1 dX0_step_107 (by decide) ?_
        have e9 : xc_step σ p = (false, σ) := by unfold xc_step; rw [if_neg (show ¬ 40 ≤ σ.1 4 p by omega), if_neg (show ¬ σ.1 0 p = 0 by omega), if_pos k0, if_neg (show ¬ σ.1 4 p < 5 by omega)]
        exact xw_zret C h hr hlk (by rw [e9]; exact bz_0) (by rw [e9]) dX0_step_108
      · refine lv_aload_n C.1 C.2.1 dX0_step_83 rfl (lv_at hl 1 rfl) ?_
        refine lv_iload_n C.1 C.2.1 dX0_step_84 rfl (lv_at hl 2 rfl) ?_
        refine lv_aload_n C.1 C.2.1 dX0_step_85 rfl (lv_at hl 1 rfl) ?_
        refine xg3 C h dX0_step_86 ?_
        refine lv_iload_n C.1 C.2.1 dX0_step_89 rfl (lv_at hl 2 rfl) ?_
        refine xl3 (i := p) (w := σ.2 3 p) C h (by omega) rfl dX0_step_90 ?_
        refine lv_iconst (v := nI 2) C.1 C.2.1 dX0_step_91 (by decide) ?_
        refine lv_iload_n C.1 C.2.1 dX0_step_92 rfl (lv_at hl 0 rfl) ?_
        refine wn_mul C.1 C.2.1 dX0_step_93 ?_
        refine lv_iconst (v := nI 1) C.1 C.2.1 dX0_step_94 (by decide) ?_
        refine wn_add C.1 C.2.1 dX0_step_95 ?_
        refine lv_imul C.1 C.2.1 dX0_step_96 ?_
        refine xw_calli (n := 2) (As := [.int (nI p), .int ((σ.2 3 p) * (nI (2 * (σ.1 4 p) + 1)))]) (rest := []) C hml h (x_make l D ad dA dB _ σ hp hm) q104 q106 qs4 q107 rfl (by decide +kernel) rfl rfl ⟨Nat.le_of_ble_eq_true rfl, Nat.le_of_ble_eq_true rfl⟩ rfl hl.1 rfl (Nat.le_of_ble_eq_true rfl) dX0_step_97 ⟨Nat.zero_le _, Nat.zero_le _⟩ (fun H locs h => ?_)
        refine wn_ifzB (tgt := 107) C.1 C.2.1 dX0_step_100 (by decide) (fun z => absurd z (by decide)) (fun c100 => ?_)
        refine lv_iconst (v := nI 1) C.1 C.2.1 dX0_step_103 (by decide) ?_
        refine lv_goto (tgt := 108) C.1 C.2.1 dX0_step_104 (by decide) ?_
        have e9 : xc_step σ p = (true, xc_mk σ p ((σ.2 3 p) * (nI (2 * (σ.1 4 p) + 1)))) := by unfold xc_step; rw [if_neg (show ¬ 40 ≤ σ.1 4 p by omega), if_neg (show ¬ σ.1 0 p = 0 by omega), if_pos k0, if_pos c80]
        exact xw_zret C h hr hlk (by rw [e9]; exact bz_1) (by rw [e9]) dX0_step_108
    · refine lv_tableIn (tgt := 109) C.1 C.2.1 dX0_step_21 (by rw [k0]; decide) (by rw [k0]; decide) (by rw [k0]; rfl) (by decide) ?_
      refine lv_aload_n C.1 C.2.1 dX0_step_109 rfl (lv_at hl 1 rfl) ?_
      refine lv_iload_n C.1 C.2.1 dX0_step_110 rfl (lv_at hl 2 rfl) ?_
      refine xw_calli (n := 1) (As := [.int (nI p)]) (rest := []) C hml h (x_stepPair l D ad dA dB _ σ hp hb hm) q108 q110 qs5 q111 rfl (by decide +kernel) rfl rfl ⟨Nat.le_of_ble_eq_true rfl, Nat.le_of_ble_eq_true rfl⟩ rfl hl.1 rfl (Nat.le_of_ble_eq_true rfl) dX0_step_111 ⟨Nat.zero_le _, Nat.zero_le _⟩ (fun H locs h => ?_)
      have e9 : xc_step σ p = xc_pair σ p := by unfold xc_step; rw [if_neg (show ¬ 40 ≤ σ.1 4 p by omega), if_neg (show ¬ σ.1 0 p = 0 by omega), if_neg (show ¬ σ.1 0 p = 1 by omega), if_pos (by omega)]
      exact xw_zret C h hr hlk (by rw [e9]) (by rw [e9]) dX0_step_114
    · refine lv_tableIn (tgt := 115) C.1 C.2.1 dX0_step_21 (by rw [k0]; decide) (by rw [k0]; decide) (by rw [k0]; rfl) (by decide) ?_
      refine lv_aload_n C.1 C.2.1 dX0_step_115 rfl (lv_at hl 1 rfl) ?_
      refine lv_iload_n C.1 C.2.1 dX0_step_116 rfl (lv_at hl 2 rfl) ?_
      refine xw_calli (n := 1) (As := [.int (nI p)]) (rest := []) C hml h (x_stepTurn l D ad dA dB _ σ hp hb hm) q128 q130 qs10 q131 rfl (by decide +kernel) rfl rfl ⟨Nat.le_of_ble_eq_true rfl, Nat.le_of_ble_eq_true rfl⟩ rfl hl.1 rfl (Nat.le_of_ble_eq_true rfl) dX0_step_117 ⟨Nat.zero_le _, Nat.zero_le _⟩ (fun H locs h => ?_)
      have e9 : xc_step σ p = xc_turn σ p := by unfold xc_step; rw [if_neg (show ¬ 40 ≤ σ.1 4 p by omega), if_neg (show ¬ σ.1 0 p = 0 by omega), if_neg (show ¬ σ.1 0 p = 1 by omega), if_neg (show ¬ (σ.1 0 p = 2 ∨ σ.1 0 p = 6) by omega), if_pos k0]
      exact xw_zret C h hr hlk (by rw [e9]) (by rw [e9]) dX0_step_120
    · refine lv_tableIn (tgt := 121) C.1 C.2.1 dX0_step_21 (by rw [k0]; decide) (by rw [k0]; decide) (by rw [k0]; rfl) (by decide) ?_
      refine lv_aload_n C.1 C.2.1 dX0_step_121 rfl (lv_at hl 1 rfl) ?_
      refine lv_iload_n C.1 C.2.1 dX0_step_122 rfl (lv_at hl 2 rfl) ?_
      refine xw_calli (n := 1) (As := [.int (nI p)]) (rest := []) C hml h (x_stepOdd l D ad dA dB _ σ hp hb hm) q132 q134 qs11 q135 rfl (by decide +kernel) rfl rfl ⟨Nat.le_of_ble_eq_true rfl, Nat.le_of_ble_eq_true rfl⟩ rfl hl.1 rfl (Nat.le_of_ble_eq_true rfl) dX0_step_123 ⟨Nat.zero_le _, Nat.zero_le _⟩ (fun H locs h => ?_)
      have e9 : xc_step σ p = xc_odd σ p := by unfold xc_step; rw [if_neg (show ¬ 40 ≤ σ.1 4 p by omega), if_neg (show ¬ σ.1 0 p = 0 by omega), if_neg (show ¬ σ.1 0 p = 1 by omega), if_neg (show ¬ (σ.1 0 p = 2 ∨ σ.1 0 p = 6) by omega), if_neg (show ¬ σ.1 0 p = 3 by omega), if_pos k0]
      exact xw_zret C h hr hlk (by rw [e9]) (by rw [e9]) dX0_step_126
    · refine lv_tableIn (tgt := 127) C.1 C.2.1 dX0_step_21 (by rw [k0]; decide) (by rw [k0]; decide) (by rw [k0]; rfl) (by decide) ?_
      refine lv_aload_n C.1 C.2.1 dX0_step_127 rfl (lv_at hl 1 rfl) ?_
      refine lv_iload_n C.1 C.2.1 dX0_step_128 rfl (lv_at hl 2 rfl) ?_
      refine xw_calli (n := 1) (As := [.int (nI p)]) (rest := []) C hml h (x_stepDelay l D ad dA dB _ σ hp hb hm) q136 q138 qs12 q139 rfl (by decide +kernel) rfl rfl ⟨Nat.le_of_ble_eq_true rfl, Nat.le_of_ble_eq_true rfl⟩ rfl hl.1 rfl (Nat.le_of_ble_eq_true rfl) dX0_step_129 ⟨Nat.zero_le _, Nat.zero_le _⟩ (fun H locs h => ?_)
      have e9 : xc_step σ p = xc_delay σ p := by unfold xc_step; rw [if_neg (show ¬ 40 ≤ σ.1 4 p by omega), if_neg (show ¬ σ.1 0 p = 0 by omega), if_neg (show ¬ σ.1 0 p = 1 by omega), if_neg (show ¬ (σ.1 0 p = 2 ∨ σ.1 0 p = 6) by omega), if_neg (show ¬ σ.1 0 p = 3 by omega), if_neg (show ¬ σ.1 0 p = 4 by omega), if_pos k0]
      exact xw_zret C h hr hlk (by rw [e9]) (by rw [e9]) dX0_step_132
    · refine lv_tableIn (tgt := 109) C.1 C.2.1 dX0_step_21 (by rw [k0]; decide) (by rw [k0]; decide) (by rw [k0]; rfl) (by decide) ?_
      refine lv_aload_n C.1 C.2.1 dX0_step_109 rfl (lv_at hl 1 rfl) ?_
      refine lv_iload_n C.1 C.2.1 dX0_step_110 rfl (lv_at hl 2 rfl) ?_
      refine xw_calli (n := 1) (As := [.int (nI p)]) (rest := []) C hml h (x_stepPair l D ad dA dB _ σ hp hb hm) q108 q110 qs5 q111 rfl (by decide +kernel) rfl rfl ⟨Nat.le_of_ble_eq_true rfl, Nat.le_of_ble_eq_true rfl⟩ rfl hl.1 rfl (Nat.le_of_ble_eq_true rfl) dX0_step_111 ⟨Nat.zero_le _, Nat.zero_le _⟩ (fun H locs h => ?_)
      have e9 : xc_step σ p = xc_pair σ p := by unfold xc_step; rw [if_neg (show ¬ 40 ≤ σ.1 4 p by omega), if_neg (show ¬ σ.1 0 p = 0 by omega), if_neg (show ¬ σ.1 0 p = 1 by omega), if_pos (by omega)]
      exact xw_zret C h hr hlk (by rw [e9]) (by rw [e9]) dX0_step_114
    · refine lv_tableOut (tgt := 133) C.1 C.2.1 dX0_step_21 (by rw [k0]; decide) (by decide) ?_
      refine lv_aload_n C.1 C.2.1 dX0_step_133 rfl (lv_at hl 1 rfl) ?_
      refine lv_iload_n C.1 C.2.1 dX0_step_134 rfl (lv_at hl 2 rfl) ?_
      refine xw_calli (n := 1) (As := [.int (nI p)]) (rest := []) C hml h (x_stepSum l D ad dA dB _ σ hp hb hm) q140 q142 qs13 q143 rfl (by decide +kernel) rfl rfl ⟨Nat.le_of_ble_eq_true rfl, Nat.le_of_ble_eq_true rfl⟩ rfl hl.1 rfl (Nat.le_of_ble_eq_true rfl) dX0_step_135 ⟨Nat.zero_le _, Nat.zero_le _⟩ (fun H locs h => ?_)
      have e9 : xc_step σ p = xc_sum σ p := by unfold xc_step; rw [if_neg (show ¬ 40 ≤ σ.1 4 p by omega), if_neg (show ¬ σ.1 0 p = 0 by omega), if_neg (show ¬ σ.1 0 p = 1 by omega), if_neg (show ¬ (σ.1 0 p = 2 ∨ σ.1 0 p = 6) by omega), if_neg (show ¬ σ.1 0 p = 3 by omega), if_neg (show ¬ σ.1 0 p = 4 by omega), if_neg (show ¬ σ.1 0 p = 5 by omega)]
      exact xw_zret C h hr hlk (by rw [e9]) (by rw [e9]) dX0_step_138
  · refine lv_iconst (v := nI 0) C.1 C.2.1 dX0_step_13 (by decide) ?_
    have e9 : xc_step σ p = (false, σ) := by unfold xc_step; rw [if_pos c10]
    exact xw_zret C h hr hlk (by rw [e9]; exact bz_0) (by rw [e9]) dX0_step_14
end
section
/-! CONTRACTS of ProcessNetwork: the scheduler (by wip/D-64155w/gen/x2.py) -/
theorem xc_ring.w8 {σ : us_S} (h : xc_ring σ) : σ.1 9 0 ≤ 8 := by
  rw [h.2.2.1]; exact xc_s8_le h.2.1
def xr_n (n : Int32) : Nat := min n.toNatClampNeg 120
theorem xr_le {n : Int32} {i : Nat} (hi : i < 2 ^ 31) : n ≤ nI i ↔ n.toNatClampNeg ≤ i := by
  rw [Int32.le_iff_toInt_le, nI_toInt hi]
  show n.toInt ≤ (i : Int) ↔ n.toInt.toNat ≤ i
  omega
theorem xr_120 : xr_n (nI 120) = 120 := by
  unfold xr_n
  rw [nI_clamp (by decide)]
  rfl
theorem xc_z_ring (σ : us_S) : xc_ring (xc_z 8 0 (us_N (us_N σ 9 0 0) 10 0 0)) := by
  obtain ⟨z1, z2, z3⟩ := xc_z_J 8 0 (us_N (us_N σ 9 0 0) 10 0 0) rfl
  have z3 := fun r hr => z3 r hr (Or.inl (Nat.zero_le _))
  have e9 : (xc_z 8 0 (us_N (us_N σ 9 0 0) 10 0 0)).1 9 0 = 0 := by rw [z1 9 (by decide) (by decide) (by decide) (by decide), us_Nf (by decide), us_N1]; simp
  have e10 : (xc_z 8 0 (us_N (us_N σ 9 0 0) 10 0 0)).1 10 0 = 0 := by rw [z1 10 (by decide) (by decide) (by decide) (by decide), us_N1]; simp
  generalize xc_z 8 0 (us_N (us_N σ 9 0 0) 10 0 0) = τ at z3 e9 e10 ⊢
  refine ⟨by rw [e10]; decide, fun p hp => by rw [(z3 p hp).2.2.2.1]; exact Nat.zero_le _, ?_, fun i hi => ?_, fun i j hi => ?_⟩
  · rw [e9, xc_s8_eq (g := fun _ => 0) (fun p hp => (z3 p hp).2.2.2.1)]
    rfl
  · rw [e9] at hi; exact absurd hi (Nat.not_lt_zero _)
  · rw [e9] at hi; exact absurd hi (Nat.not_lt_zero _)
set_option maxHeartbeats 4000000 in
set_option maxRecDepth 100000 in
theorem x_wake (l : Launch) (D : va_G) (ad : Nat → Nat) (dA dB : ClassId) (sz : Nat) (σ : us_S) {p : Nat} (hp : p < 8) (hg : xc_ring σ) : xw_Mv l yX0_wake cX0_wake 2 ({ frames := 0, cells := 0, slots := 0, locals := 0 } : Room) D ad dA dB sz σ [.int (nI p)] (xc_wake σ p) := by
  refine xw_Mv_of (by decide) rfl (Nat.le_of_ble_eq_true rfl) (fun p_ e s m below meth c A ls C hml hr hlk h hl => ?_)
  have hl : lv_has ls 2 [(0, .ref (ad 13)), (1, .int (nI p))] := hl
  have w8 := hg.w8
  have h8 := hg.1
  have l1 := hg.2.1 p hp
  refine lv_aload_n C.1 C.2.1 dX0_wake_0 rfl (lv_at hl 0 rfl) ?_
  refine xg12 C h dX0_wake_1 ?_
  refine lv_iload_n C.1 C.2.1 dX0_wake_4 rfl (lv_at hl 1 rfl) ?_
  refine xl12 (i := p) (w := σ.1 12 p) C h (by omega) rfl dX0_wake_5 ?_
  refine wn_if0 (tgt := 10) C.1 C.2.1 (by omega) dX0_wake_6 (by decide) (fun c6 => ?_) (fun c6 => ?_)
  · refine lv_aload_n C.1 C.2.1 dX0_wake_10 rfl (lv_at hl 0 rfl) ?_
    refine xg12 C h dX0_wake_11 ?_
    refine lv_iload_n C.1 C.2.1 dX0_wake_14 rfl (lv_at hl 1 rfl) ?_
    refine lv_iconst (v := nI 1) C.1 C.2.1 dX0_wake_15 (by decide) ?_
    refine xs12 (i := p) (v := 1) C h (by omega) rfl dX0_wake_16 (fun H locs h => ?_)
    refine lv_aload_n C.1 C.2.1 dX0_wake_17 rfl (lv_at hl 0 rfl) ?_
    refine xg11 C h dX0_wake_18 ?_
    refine lv_aload_n C.1 C.2.1 dX0_wake_21 rfl (lv_at hl 0 rfl) ?_
    refine xg10 (w := σ.1 10 0) C h rfl dX0_wake_22 ?_
    refine lv_aload_n C.1 C.2.1 dX0_wake_25 rfl (lv_at hl 0 rfl) ?_
    refine xg9 (w := σ.1 9 0) C h rfl dX0_wake_26 ?_
    refine wn_add C.1 C.2.1 dX0_wake_29 ?_
    refine lv_bipush (v := nI 7) C.1 C.2.1 dX0_wake_30 (by decide) ?_
    refine wn_and7 C.1 C.2.1 (by omega) dX0_wake_32 ?_
    refine lv_iload_n C.1 C.2.1 dX0_wake_33 rfl (lv_at hl 1 rfl) ?_
    refine xs11 (i := (σ.1 10 0 + σ.1 9 0) % 8) (v := p) C h (by omega) dX0_wake_34 (fun H locs h => ?_)
    refine lv_aload_n C.1 C.2.1 dX0_wake_35 rfl (lv_at hl 0 rfl) ?_
    refine lv_dup C.1 C.2.1 dX0_wake_36 rfl ?_
    refine xg9 (w := σ.1 9 0) C h rfl dX0_wake_37 ?_
    refine lv_iconst (v := nI 1) C.1 C.2.1 dX0_wake_40 (by decide) ?_
    refine wn_add C.1 C.2.1 dX0_wake_41 ?_
    refine xp9 (v := σ.1 9 0 + 1) C h dX0_wake_42 (fun H locs h => ?_)
    exact xw_vret C h hr hlk (by unfold xc_wake; rw [if_pos c6]) dX0_wake_45
  · exact xw_vret C h hr hlk (by unfold xc_wake; rw [if_neg c6]) dX0_wake_9
set_option maxHeartbeats 4000000 in
set_option maxRecDepth 100000 in
theorem x_run_l2 {l : Launch} {D : va_G} {ad : Nat → Nat} {dA dB : ClassId} {p_ : Program} {e : Env} {s : State} {m : MethodId} {args : Array Value} {below : List Frame} {meth : Method} {c : Code} {A : Nat → Prop} (C : xw_C D dA dB p_ s m args c cX0_run) (hml : c.maxLocals = 6) (hr : meth.sig.returnType = none) (hlk : meth.locks = false) {p : Nat} (hp : p < 8) {τ : us_S} : ∀ (f q : Nat) (σ : us_S) (H : Heap) (locs : List Loc) (ls : Array Slot), q + f = 8 → xc_ring σ → (∀ r, r < 8 → σ.1 1 r < 8 ∧ σ.1 2 r < 8) → xc_wr f q σ p = τ → xw_H D ad dA dB A s H locs σ → lv_has ls 6 [(5, .int (nI q)), (0, .ref (ad 13)), (1, .int (nI p))] → W p_ l e ({ frames := 3, cells := 0, slots := 0, locals := 68 } : Room) s m args below meth c H locs 0 0 (MQ below (va_Qv (fun u => u = τ) (xw_B D ad dA dB A) A) args s 0 0 A) (F0 m 68 ls []) := by
  intro f
  induction f with
  | zero =>
    intro q σ H locs ls hq hg hi hτ h hl
    refine lv_iload C.1 C.2.1 dX0_run_68 (lv_at hl 0 rfl) ?_
    refine lv_bipush (v := nI 8) C.1 C.2.1 dX0_run_70 (by decide) ?_
    refine wn_ge (tgt := 109) C.1 C.2.1 (by omega) (by omega) dX0_run_72 (by decide) (fun c72 => ?_) (fun z => absurd z (by omega))
    exact xw_vret C h hr hlk hτ dX0_run_109
  | succ f ih =>
    intro q σ H locs ls hq hg hi hτ h hl
    have hq8 : q < 8 := by omega
    have i1 := (hi q hq8).1
    have i2 := (hi q hq8).2
    refine lv_iload C.1 C.2.1 dX0_run_68 (lv_at hl 0 rfl) ?_
    refine lv_bipush (v := nI 8) C.1 C.2.1 dX0_run_70 (by decide) ?_
    refine wn_ge (tgt := 109) C.1 C.2.1 (by omega) (by omega) dX0_run_72 (by decide) (fun z => absurd z (by omega)) (fun c72 => ?_)
    refine lv_aload_n C.1 C.2.1 dX0_run_75 rfl (lv_at hl 1 rfl) ?_
    refine xg1 C h dX0_run_76 ?_
    refine lv_iload C.1 C.2.1 dX0_run_79 (lv_at hl 0 rfl) ?_
    refine xl1 (i := q) (w := σ.1 1 q) C h (by omega) rfl dX0_run_81 ?_
    refine lv_iload_n C.1 C.2.1 dX0_run_82 rfl (lv_at hl 2 rfl) ?_
    refine wn_eq (tgt := 97) C.1 C.2.1 (by omega) (by omega) dX0_run_83 (by decide) (fun c83 => ?_) (fun c83 => ?_)
    · refine lv_aload_n C.1 C.2.1 dX0_run_97 rfl (lv_at hl 1 rfl) ?_
      refine lv_iload C.1 C.2.1 dX0_run_98 (lv_at hl 0 rfl) ?_
      refine xw_callv (n := 1) (As := [.int (nI q)]) (rest := []) C hml h (x_wake l D ad dA dB _ σ hq8 hg) q39 q41 qs1 q42 rfl (by decide +kernel) rfl rfl ⟨Nat.le_of_ble_eq_true rfl, Nat.le_of_ble_eq_true rfl⟩ rfl hl.1 rfl (Nat.le_of_ble_eq_true rfl) dX0_run_100 ⟨Nat.zero_le _, Nat.zero_le _⟩ (fun H locs h => ?_)
      refine lv_iinc (v := nI (q + 1)) (lv' := [(5, .int (nI (q + 1))), (0, .ref (ad 13)), (1, .int (nI p))]) C.1 C.2.1 dX0_run_103 hl (k := 0) rfl (wn_inc _) (by decide) rfl (fun ls hl => ?_)
      refine lv_goto (tgt := 68) C.1 C.2.1 dX0_run_106 (by decide) ?_
      exact ih (q + 1) (xc_wake σ q) H locs ls (by omega) (xc_wake_ring hq8 hg) (fun r hr8 => by rw [xc_wake_f (by decide) (by decide) (by decide), xc_wake_f (by decide) (by decide) (by decide)]; exact hi r hr8) (by rw [← hτ]; show _ = xc_wr f (q + 1) (if σ.1 1 q = p ∨ σ.1 2 q = p then xc_wake σ q else σ) p; rw [if_pos (Or.inl c83)]) h (lv_sub hl [0, 1, 2] rfl)
    · refine lv_aload_n C.1 C.2.1 dX0_run_86 rfl (lv_at hl 1 rfl) ?_
      refine xg2 C h dX0_run_87 ?_
      refine lv_iload C.1 C.2.1 dX0_run_90 (lv_at hl 0 rfl) ?_
      refine xl2 (i := q) (w := σ.1 2 q) C h (by omega) rfl dX0_run_92 ?_
      refine lv_iload_n C.1 C.2.1 dX0_run_93 rfl (lv_at hl 2 rfl) ?_
      refine wn_ne (tgt := 103) C.1 C.2.1 (by omega) (by omega) dX0_run_94 (by decide) (fun c94 => ?_) (fun c94 => ?_)
      · refine lv_iinc (v := nI (q + 1)) (lv' := [(5, .int (nI (q + 1))), (0, .ref (ad 13)), (1, .int (nI p))]) C.1 C.2.1 dX0_run_103 hl (k := 0) rfl (wn_inc _) (by decide) rfl (fun ls hl => ?_)
        refine lv_goto (tgt := 68) C.1 C.2.1 dX0_run_106 (by decide) ?_
        exact ih (q + 1) σ H locs ls (by omega) hg hi (by rw [← hτ]; show _ = xc_wr f (q + 1) (if σ.1 1 q = p ∨ σ.1 2 q = p then xc_wake σ q else σ) p; rw [if_neg (fun z => z.elim c83 c94)]) h (lv_sub hl [0, 1, 2] rfl)
      · refine lv_aload_n C.1 C.2.1 dX0_run_97 rfl (lv_at hl 1 rfl) ?_
        refine lv_iload C.1 C.2.1 dX0_run_98 (lv_at hl 0 rfl) ?_
        refine xw_callv (n := 1) (As := [.int (nI q)]) (rest := []) C hml h (x_wake l D ad dA dB _ σ hq8 hg) q39 q41 qs1 q42 rfl (by decide +kernel) rfl rfl ⟨Nat.le_of_ble_eq_true rfl, Nat.le_of_ble_eq_true rfl⟩ rfl hl.1 rfl (Nat.le_of_ble_eq_true rfl) dX0_run_100 ⟨Nat.zero_le _, Nat.zero_le _⟩ (fun H locs h => ?_)
        refine lv_iinc (v := nI (q + 1)) (lv' := [(5, .int (nI (q + 1))), (0, .ref (ad 13)), (1, .int (nI p))]) C.1 C.2.1 dX0_run_103 hl (k := 0) rfl (wn_inc _) (by decide) rfl (fun ls hl => ?_)
        refine lv_goto (tgt := 68) C.1 C.2.1 dX0_run_106 (by decide) ?_
        exact ih (q + 1) (xc_wake σ q) H locs ls (by omega) (xc_wake_ring hq8 hg) (fun r hr8 => by rw [xc_wake_f (by decide) (by decide) (by decide), xc_wake_f (by decide) (by decide) (by decide)]; exact hi r hr8) (by rw [← hτ]; show _ = xc_wr f (q + 1) (if σ.1 1 q = p ∨ σ.1 2 q = p then xc_wake σ q else σ) p; rw [if_pos (Or.inr c94)]) h (lv_sub hl [0, 1, 2] rfl)
set_option maxHeartbeats 4000000 in
set_option maxRecDepth 100000 in
theorem x_run_l1 {l : Launch} {D : va_G} {ad : Nat → Nat} {dA dB : ClassId} {p_ : Program} {e : Env} {s : State} {m : MethodId} {args : Array Value} {below : List Frame} {meth : Method} {c : Code} {A : Nat → Prop} {Q : State → Prop} (C : xw_C D dA dB p_ s m args c cX0_run) (hml : c.maxLocals = 6) {p : Nat} (hp : p < 8) (n : Int32) (m0 : Nat) : ∀ (f i : Nat) (σ : us_S) (H : Heap) (locs : List Loc) (ls : Array Slot), i + f = xr_n n → xc_J σ → xw_H D ad dA dB A s H locs σ → lv_has ls 6 [(5, .int (nI i)), (4, .int (bz true)), (3, .int (nI m0)), (0, .ref (ad 13)), (1, .int (nI p)), (2, .int n)] → (∀ (H : Heap) (locs : List Loc) (ls : Array Slot) (i : Nat), xw_H D ad dA dB A s H locs ((xc_loop f σ p).2) → lv_has ls 6 [(5, .int (nI i)), (4, .int (bz ((xc_loop f σ p).1))), (3, .int (nI m0)), (0, .ref (ad 13)), (1, .int (nI p)), (2, .int n)] → W p_ l e ({ frames := 3, cells := 0, slots := 0, locals := 68 } : Room) s m args below meth c H locs 0 0 Q (F0 m 44 ls [])) → W p_ l e ({ frames := 3, cells := 0, slots := 0, locals := 68 } : Room) s m args below meth c H locs 0 0 Q (F0 m 13 ls []) := by
  intro f
  induction f with
  | zero =>
    intro i σ H locs ls hi hJ h hl K
    unfold xr_n at hi
    have hi120 : i ≤ 120 := by omega
    refine lv_iload C.1 C.2.1 dX0_run_13 (lv_at hl 0 rfl) ?_
    refine lv_iload_n C.1 C.2.1 dX0_run_15 rfl (lv_at hl 5 rfl) ?_
    refine lv_icmp_ge (tgt := 44) C.1 C.2.1 dX0_run_16 (by decide) (fun c16 => ?_) (fun c16 => ?_)
    · exact K H locs ls i h hl
    · refine lv_iload C.1 C.2.1 dX0_run_19 (lv_at hl 0 rfl) ?_
      refine lv_bipush (v := nI 120) C.1 C.2.1 dX0_run_21 (by decide) ?_
      refine wn_ge (tgt := 44) C.1 C.2.1 (by omega) (by omega) dX0_run_23 (by decide) (fun c23 => ?_) (fun z => absurd (Nat.not_le.mp (fun y => c16 ((xr_le (by omega)).mpr y))) (by omega))
      exact K H locs ls i h hl
  | succ f ih =>
    intro i σ H locs ls hi hJ h hl K
    have hi0 := hi
    unfold xr_n at hi
    have hi120 : i < 120 := by omega
    refine lv_iload C.1 C.2.1 dX0_run_13 (lv_at hl 0 rfl) ?_
    refine lv_iload_n C.1 C.2.1 dX0_run_15 rfl (lv_at hl 5 rfl) ?_
    refine lv_icmp_ge (tgt := 44) C.1 C.2.1 dX0_run_16 (by decide) (fun z => absurd ((xr_le (by omega)).mp z) (by omega)) (fun c16 => ?_)
    refine lv_iload C.1 C.2.1 dX0_run_19 (lv_at hl 0 rfl) ?_
    refine lv_bipush (v := nI 120) C.1 C.2.1 dX0_run_21 (by decide) ?_
    refine wn_ge (tgt := 44) C.1 C.2.1 (by omega) (by omega) dX0_run_23 (by decide) (fun z => absurd z (by omega)) (fun c23 => ?_)
    refine lv_iload C.1 C.2.1 dX0_run_26 (lv_at hl 1 rfl) ?_
    refine wn_ifzB (tgt := 44) C.1 C.2.1 dX0_run_28 (by decide) (fun z => absurd z (by decide)) (fun c28 => ?_)
    refine lv_aload_n C.1 C.2.1 dX0_run_31 rfl (lv_at hl 3 rfl) ?_
    refine lv_iload_n C.1 C.2.1 dX0_run_32 rfl (lv_at hl 4 rfl) ?_
    refine xw_calli (n := 1) (As := [.int (nI p)]) (rest := []) C hml h (x_step l D ad dA dB _ σ hp hJ.1) q100 q102 qs3 q103 rfl (by decide +kernel) rfl rfl ⟨Nat.le_of_ble_eq_true rfl, Nat.le_of_ble_eq_true rfl⟩ rfl hl.1 rfl (Nat.le_of_ble_eq_true rfl) dX0_run_33 ⟨Nat.zero_le _, Nat.zero_le _⟩ (fun H locs h => ?_)
    refine lv_istore (lv' := [(4, .int (bz ((xc_step σ p).1))), (5, .int (nI i)), (3, .int (nI m0)), (0, .ref (ad 13)), (1, .int (nI p)), (2, .int n)]) C.1 C.2.1 dX0_run_36 hl (by decide) rfl (fun ls hl => ?_)
    refine lv_iinc (v := nI (i + 1)) (lv' := [(5, .int (nI (i + 1))), (4, .int (bz ((xc_step σ p).1))), (3, .int (nI m0)), (0, .ref (ad 13)), (1, .int (nI p)), (2, .int n)]) C.1 C.2.1 dX0_run_38 hl (k := 1) rfl (wn_inc _) (by decide) rfl (fun ls hl => ?_)
    refine lv_goto (tgt := 13) C.1 C.2.1 dX0_run_41 (by decide) ?_
    rcases xc_link σ p with ⟨y1, y2⟩ | ⟨q, oo, τ, y1, y2, y3⟩
    · have e0 : xc_loop (f + 1) σ p = (false, σ) := by
        show (bif (xc_step σ p).1 then xc_loop f (xc_step σ p).2 p else (false, (xc_step σ p).2)) = _
        rw [y2]; rfl
      rw [e0] at K
      rw [y2] at h hl
      have hl : lv_has ls 6 [(5, .int (nI (i + 1))), (4, .int (bz false)), (3, .int (nI m0)), (0, .ref (ad 13)), (1, .int (nI p)), (2, .int n)] := hl
      refine lv_iload C.1 C.2.1 dX0_run_13 (lv_at hl 0 rfl) ?_
      refine lv_iload_n C.1 C.2.1 dX0_run_15 rfl (lv_at hl 5 rfl) ?_
      refine lv_icmp_ge (tgt := 44) C.1 C.2.1 dX0_run_16 (by decide) (fun c16 => ?_) (fun c16 => ?_)
      · exact K H locs ls (i + 1) h (lv_sub hl [0, 1, 2, 3, 4, 5] rfl)
      · refine lv_iload C.1 C.2.1 dX0_run_19 (lv_at hl 0 rfl) ?_
        refine lv_bipush (v := nI 120) C.1 C.2.1 dX0_run_21 (by decide) ?_
        refine wn_ge (tgt := 44) C.1 C.2.1 (by omega) (by omega) dX0_run_23 (by decide) (fun c23 => ?_) (fun c23 => ?_)
        · exact K H locs ls (i + 1) h (lv_sub hl [0, 1, 2, 3, 4, 5] rfl)
        · refine lv_iload C.1 C.2.1 dX0_run_26 (lv_at hl 1 rfl) ?_
          refine wn_ifzB (tgt := 44) C.1 C.2.1 dX0_run_28 (by decide) (fun c28 => ?_) (fun z => absurd z (by decide))
          exact K H locs ls (i + 1) h (lv_sub hl [0, 1, 2, 3, 4, 5] rfl)
    · have e0 : xc_loop (f + 1) σ p = xc_loop f τ p := by
        show (bif (xc_step σ p).1 then xc_loop f (xc_step σ p).2 p else (false, (xc_step σ p).2)) = _
        rw [y2]; rfl
      rw [e0] at K
      rw [y2] at h hl
      exact ih (i + 1) τ H locs ls (by omega) (xc_J_step hJ hp y1 y3).1 h (lv_sub hl [0, 1, 2, 3, 4, 5] rfl) K
set_option maxHeartbeats 4000000 in
set_option maxRecDepth 100000 in
theorem x_run (l : Launch) (D : va_G) (ad : Nat → Nat) (dA dB : ClassId) (sz : Nat) (σ : us_S) {p : Nat} (hp : p < 8) (hJ : xc_J σ) (n : Int32) : xw_Mv l yX0_run cX0_run 6 ({ frames := 3, cells := 0, slots := 0, locals := 68 } : Room) D ad dA dB sz σ [.int (nI p), .int n] (xc_run σ p (xr_n n)) := by
  refine xw_Mv_of (by decide) rfl (Nat.le_of_ble_eq_true rfl) (fun p_ e s m below meth c A ls C hml hr hlk h hl => ?_)
  have hl : lv_has ls 6 [(0, .ref (ad 13)), (1, .int (nI p)), (2, .int n)] := hl
  have b4 : σ.1 4 p ≤ 40 := (hJ.1.2 p hp).1
  refine lv_aload_n C.1 C.2.1 dX0_run_0 rfl (lv_at hl 0 rfl) ?_
  refine xg4 C h dX0_run_1 ?_
  refine lv_iload_n C.1 C.2.1 dX0_run_4 rfl (lv_at hl 1 rfl) ?_
  refine xl4 (i := p) (w := σ.1 4 p) C h (by omega) rfl dX0_run_5 ?_
  refine lv_istore_n (lv' := [(3, .int (nI (σ.1 4 p))), (0, .ref (ad 13)), (1, .int (nI p)), (2, .int n)]) C.1 C.2.1 dX0_run_6 rfl hl (by decide) rfl (fun ls hl => ?_)
  refine lv_iconst (v := nI 1) C.1 C.2.1 dX0_run_7 (by decide) ?_
  refine lv_istore (lv' := [(4, .int (nI 1)), (3, .int (nI (σ.1 4 p))), (0, .ref (ad 13)), (1, .int (nI p)), (2, .int n)]) C.1 C.2.1 dX0_run_8 hl (by decide) rfl (fun ls hl => ?_)
  refine lv_iconst (v := nI 0) C.1 C.2.1 dX0_run_10 (by decide) ?_
  refine lv_istore (lv' := [(5, .int (nI 0)), (4, .int (nI 1)), (3, .int (nI (σ.1 4 p))), (0, .ref (ad 13)), (1, .int (nI p)), (2, .int n)]) C.1 C.2.1 dX0_run_11 hl (by decide) rfl (fun ls hl => ?_)
  refine x_run_l1 C hml hp n (σ.1 4 p) (xr_n n) 0 σ _ _ ls (Nat.zero_add _) hJ h (by rw [bz_1] at hl; exact hl) (fun H locs ls i h hl => ?_)
  obtain ⟨g1, g2, g3, g4⟩ := xc_loop_J hp (xr_n n) σ hJ
  generalize hL : xc_loop (xr_n n) σ p = L at g1 g2 g3 g4 h hl
  obtain ⟨b, τ⟩ := L
  dsimp only at g1 g2 g3 g4 h hl
  have t4 : τ.1 4 p ≤ 40 := (g1.1.2 p hp).1
  have hrun : xc_run σ p (xr_n n) = if (if b = true then xc_wake τ p else τ).1 4 p = σ.1 4 p then (if b = true then xc_wake τ p else τ) else xc_wr 8 0 (if b = true then xc_wake τ p else τ) p := by unfold xc_run; rw [hL]
  refine lv_iload C.1 C.2.1 dX0_run_44 (lv_at hl 1 rfl) ?_
  refine wn_ifzB (tgt := 54) C.1 C.2.1 dX0_run_46 (by decide) (fun c46 => ?_) (fun c46 => ?_)
  · refine lv_aload_n C.1 C.2.1 dX0_run_54 rfl (lv_at hl 3 rfl) ?_
    refine xg4 C h dX0_run_55 ?_
    refine lv_iload_n C.1 C.2.1 dX0_run_58 rfl (lv_at hl 4 rfl) ?_
    refine xl4 (i := p) (w := τ.1 4 p) C h (by omega) rfl dX0_run_59 ?_
    refine lv_iload_n C.1 C.2.1 dX0_run_60 rfl (lv_at hl 2 rfl) ?_
    refine wn_ne (tgt := 65) C.1 C.2.1 (by omega) (by omega) dX0_run_61 (by decide) (fun c61 => ?_) (fun c61 => ?_)
    · refine lv_iconst (v := nI 0) C.1 C.2.1 dX0_run_65 (by decide) ?_
      refine lv_istore (lv' := [(5, .int (nI 0)), (4, .int (bz b)), (3, .int (nI (σ.1 4 p))), (0, .ref (ad 13)), (1, .int (nI p)), (2, .int n)]) C.1 C.2.1 dX0_run_66 hl (by decide) rfl (fun ls hl => ?_)
      exact x_run_l2 C hml hr hlk hp 8 0 τ _ _ ls rfl g1.2.1 (fun r hr8 => ⟨(g1.1.1 r hr8).2.1, (g1.1.1 r hr8).2.2⟩) (by rw [hrun, if_neg (show ¬ b = true by rw [c46]; decide), if_neg c61]) h (lv_sub hl [0, 3, 4] rfl)
    · exact xw_vret C h hr hlk (by rw [hrun, if_neg (show ¬ b = true by rw [c46]; decide), if_pos c61]) dX0_run_64
  · refine lv_aload_n C.1 C.2.1 dX0_run_49 rfl (lv_at hl 3 rfl) ?_
    refine lv_iload_n C.1 C.2.1 dX0_run_50 rfl (lv_at hl 4 rfl) ?_
    refine xw_callv (n := 1) (As := [.int (nI p)]) (rest := []) C hml h (x_wake l D ad dA dB _ τ hp g1.2.1) q39 q41 qs1 q42 rfl (by decide +kernel) rfl rfl ⟨Nat.le_of_ble_eq_true rfl, Nat.le_of_ble_eq_true rfl⟩ rfl hl.1 rfl (Nat.le_of_ble_eq_true rfl) dX0_run_51 ⟨Nat.zero_le _, Nat.zero_le _⟩ (fun H locs h => ?_)
    have e4 : (xc_wake τ p).1 4 p = τ.1 4 p := by rw [xc_wake_f (by decide) (by decide) (by decide)]
    have t4 : (xc_wake τ p).1 4 p ≤ 40 := by rw [e4]; exact t4
    refine lv_aload_n C.1 C.2.1 dX0_run_54 rfl (lv_at hl 3 rfl) ?_
    refine xg4 C h dX0_run_55 ?_
    refine lv_iload_n C.1 C.2.1 dX0_run_58 rfl (lv_at hl 4 rfl) ?_
    refine xl4 (i := p) (w := (xc_wake τ p).1 4 p) C h (by omega) rfl dX0_run_59 ?_
    refine lv_iload_n C.1 C.2.1 dX0_run_60 rfl (lv_at hl 2 rfl) ?_
    refine wn_ne (tgt := 65) C.1 C.2.1 (by omega) (by omega) dX0_run_61 (by decide) (fun c61 => ?_) (fun c61 => ?_)
    · refine lv_iconst (v := nI 0) C.1 C.2.1 dX0_run_65 (by decide) ?_
      refine lv_istore (lv' := [(5, .int (nI 0)), (4, .int (bz b)), (3, .int (nI (σ.1 4 p))), (0, .ref (ad 13)), (1, .int (nI p)), (2, .int n)]) C.1 C.2.1 dX0_run_66 hl (by decide) rfl (fun ls hl => ?_)
      exact x_run_l2 C hml hr hlk hp 8 0 (xc_wake τ p) _ _ ls rfl (xc_wake_ring hp g1.2.1) (fun r hr8 => by rw [xc_wake_f (by decide) (by decide) (by decide), xc_wake_f (by decide) (by decide) (by decide)]; exact ⟨(g1.1.1 r hr8).2.1, (g1.1.1 r hr8).2.2⟩) (by rw [hrun, if_pos c46, if_neg c61]) h (lv_sub hl [0, 3, 4] rfl)
    · exact xw_vret C h hr hlk (by rw [hrun, if_pos c46, if_pos c61]) dX0_run_64
theorem x_run120 (l : Launch) (D : va_G) (ad : Nat → Nat) (dA dB : ClassId) (sz : Nat) (σ : us_S) {p : Nat} (hp : p < 8) (hJ : xc_J σ) : xw_Mv l yX0_run cX0_run 6 ({ frames := 3, cells := 0, slots := 0, locals := 68 } : Room) D ad dA dB sz σ [.int (nI p), .int (nI 120)] (xc_run σ p 120) := by
  have z := x_run l D ad dA dB sz σ hp hJ (nI 120)
  rw [xr_120] at z
  exact z
set_option maxHeartbeats 4000000 in
set_option maxRecDepth 100000 in
theorem x_settle_l {l : Launch} {D : va_G} {ad : Nat → Nat} {dA dB : ClassId} {p_ : Program} {e : Env} {s : State} {m : MethodId} {args : Array Value} {below : List Frame} {meth : Method} {c : Code} {A : Nat → Prop} (C : xw_C D dA dB p_ s m args c cX0_settle) (hml : c.maxLocals = 3) (hr : meth.sig.returnType = none) (hlk : meth.locks = false) {τ : us_S} : ∀ (f i : Nat) (σ : us_S) (H : Heap) (locs : List Loc) (ls : Array Slot), i + f = 4000 → xc_Inv σ → xc_settle f σ = τ → xw_H D ad dA dB A s H locs σ → lv_has ls 3 [(1, .int (nI i)), (0, .ref (ad 13))] → W p_ l e ({ frames := 4, cells := 0, slots := 0, locals := 93 } : Room) s m args below meth c H locs 0 0 (MQ below (va_Qv (fun u => u = τ) (xw_B D ad dA dB A) A) args s 0 0 A) (F0 m 2 ls []) := by
  intro f
  induction f with
  | zero =>
    intro i σ H locs ls hi hI hτ h hl
    refine lv_iload_n C.1 C.2.1 dX0_settle_2 rfl (lv_at hl 0 rfl) ?_
    refine lv_sipush (v := nI 4000) C.1 C.2.1 dX0_settle_3 (by decide) ?_
    refine wn_ge (tgt := 69) C.1 C.2.1 (by omega) (by omega) dX0_settle_6 (by decide) (fun c6 => ?_) (fun z => absurd z (by omega))
    exact xw_vret C h hr hlk hτ dX0_settle_69
  | succ f ih =>
    intro i σ H locs ls hi hI hτ h hl
    have hτ : (if σ.1 9 0 = 0 then σ else xc_settle f (xc_run (xc_pop σ) (σ.1 11 (σ.1 10 0)) 120)) = τ := hτ
    have w8 := hI.1.2.1.w8
    have h8 := hI.1.2.1.1
    refine lv_iload_n C.1 C.2.1 dX0_settle_2 rfl (lv_at hl 0 rfl) ?_
    refine lv_sipush (v := nI 4000) C.1 C.2.1 dX0_settle_3 (by decide) ?_
    refine wn_ge (tgt := 69) C.1 C.2.1 (by omega) (by omega) dX0_settle_6 (by decide) (fun z => absurd z (by omega)) (fun c6 => ?_)
    refine lv_aload_n C.1 C.2.1 dX0_settle_9 rfl (lv_at hl 1 rfl) ?_
    refine xg9 (w := σ.1 9 0) C h rfl dX0_settle_10 ?_
    refine wn_ifle (tgt := 69) C.1 C.2.1 (by omega) dX0_settle_13 (by decide) (fun c13 => ?_) (fun c13 => ?_)
    · exact xw_vret C h hr hlk (by rw [if_pos c13] at hτ; exact hτ) dX0_settle_69
    · rw [if_neg c13] at hτ
      obtain ⟨p1, p2, p3, p4, p5⟩ := xc_pop_J hI c13
      refine lv_aload_n C.1 C.2.1 dX0_settle_16 rfl (lv_at hl 1 rfl) ?_
      refine xg11 C h dX0_settle_17 ?_
      refine lv_aload_n C.1 C.2.1 dX0_settle_20 rfl (lv_at hl 1 rfl) ?_
      refine xg10 (w := σ.1 10 0) C h rfl dX0_settle_21 ?_
      refine xl11 (i := σ.1 10 0) (w := σ.1 11 (σ.1 10 0)) C h (by omega) rfl dX0_settle_24 ?_
      refine lv_istore_n (lv' := [(2, .int (nI (σ.1 11 (σ.1 10 0)))), (1, .int (nI i)), (0, .ref (ad 13))]) C.1 C.2.1 dX0_settle_25 rfl hl (by decide) rfl (fun ls hl => ?_)
      refine lv_aload_n C.1 C.2.1 dX0_settle_26 rfl (lv_at hl 2 rfl) ?_
      refine lv_aload_n C.1 C.2.1 dX0_settle_27 rfl (lv_at hl 2 rfl) ?_
      refine xg10 (w := σ.1 10 0) C h rfl dX0_settle_28 ?_
      refine lv_iconst (v := nI 1) C.1 C.2.1 dX0_settle_31 (by decide) ?_
      refine wn_add C.1 C.2.1 dX0_settle_32 ?_
      refine lv_bipush (v := nI 7) C.1 C.2.1 dX0_settle_33 (by decide) ?_
      refine wn_and7 C.1 C.2.1 (by omega) dX0_settle_35 ?_
      refine xp10 (v := (σ.1 10 0 + 1) % 8) C h dX0_settle_36 (fun H locs h => ?_)
      refine lv_aload_n C.1 C.2.1 dX0_settle_39 rfl (lv_at hl 2 rfl) ?_
      refine lv_dup C.1 C.2.1 dX0_settle_40 rfl ?_
      refine xg9 (w := σ.1 9 0) C h rfl dX0_settle_41 ?_
      refine lv_iconst (v := nI 1) C.1 C.2.1 dX0_settle_44 (by decide) ?_
      refine wn_sub C.1 C.2.1 (by omega) dX0_settle_45 ?_
      refine xp9 (v := (σ.1 9 0) - 1) C h dX0_settle_46 (fun H locs h => ?_)
      refine lv_aload_n C.1 C.2.1 dX0_settle_49 rfl (lv_at hl 2 rfl) ?_
      refine xg12 C h dX0_settle_50 ?_
      refine lv_iload_n C.1 C.2.1 dX0_settle_53 rfl (lv_at hl 0 rfl) ?_
      refine lv_iconst (v := nI 0) C.1 C.2.1 dX0_settle_54 (by decide) ?_
      refine xs12 (i := σ.1 11 (σ.1 10 0)) (v := 0) C h (by omega) rfl dX0_settle_55 (fun H locs h => ?_)
      refine lv_aload_n C.1 C.2.1 dX0_settle_56 rfl (lv_at hl 2 rfl) ?_
      refine lv_iload_n C.1 C.2.1 dX0_settle_57 rfl (lv_at hl 0 rfl) ?_
      refine lv_bipush (v := nI 120) C.1 C.2.1 dX0_settle_58 (by decide) ?_
      refine xw_callv (n := 2) (As := [.int (nI (σ.1 11 (σ.1 10 0))), .int (nI 120)]) (rest := []) C hml h (x_run120 l D ad dA dB _ (xc_pop σ) p1 p2) q96 q98 qs2 q99 rfl (by decide +kernel) rfl rfl ⟨Nat.le_of_ble_eq_true rfl, Nat.le_of_ble_eq_true rfl⟩ rfl hl.1 rfl (Nat.le_of_ble_eq_true rfl) dX0_settle_60 ⟨Nat.zero_le _, Nat.zero_le _⟩ (fun H locs h => ?_)
      refine lv_iinc (v := nI (i + 1)) (lv' := [(1, .int (nI (i + 1))), (2, .int (nI (σ.1 11 (σ.1 10 0)))), (0, .ref (ad 13))]) C.1 C.2.1 dX0_settle_63 hl (k := 1) rfl (wn_inc _) (by decide) rfl (fun ls hl => ?_)
      refine lv_goto (tgt := 2) C.1 C.2.1 dX0_settle_66 (by decide) ?_
      obtain ⟨r1, r2, r3⟩ := xc_run_J 120 p2 p1 p3
      exact ih (i + 1) _ H locs ls (by omega) r1 hτ h (lv_sub hl [0, 2] rfl)
set_option maxHeartbeats 4000000 in
set_option maxRecDepth 100000 in
theorem x_settle (l : Launch) (D : va_G) (ad : Nat → Nat) (dA dB : ClassId) (sz : Nat) (σ : us_S) (hI : xc_Inv σ) : xw_Mv l yX0_settle cX0_settle 3 ({ frames := 4, cells := 0, slots := 0, locals := 93 } : Room) D ad dA dB sz σ [] (xc_settle 4000 σ) := by
  refine xw_Mv_of (by decide) rfl (Nat.le_of_ble_eq_true rfl) (fun p_ e s m below meth c A ls C hml hr hlk h hl => ?_)
  have hl : lv_has ls 3 [(0, .ref (ad 13))] := hl
  refine lv_iconst (v := nI 0) C.1 C.2.1 dX0_settle_0 (by decide) ?_
  refine lv_istore_n (lv' := [(1, .int (nI 0)), (0, .ref (ad 13))]) C.1 C.2.1 dX0_settle_1 rfl hl (by decide) rfl (fun ls hl => ?_)
  exact x_settle_l C hml hr hlk 4000 0 σ _ _ ls rfl hI rfl h hl
set_option maxHeartbeats 4000000 in
set_option maxRecDepth 100000 in
theorem x_restart_l2 {l : Launch} {D : va_G} {ad : Nat → Nat} {dA dB : ClassId} {p_ : Program} {e : Env} {s : State} {m : MethodId} {args : Array Value} {below : List Frame} {meth : Method} {c : Code} {A : Nat → Prop} (C : xw_C D dA dB p_ s m args c cX0_restart) (hml : c.maxLocals = 2) (hr : meth.sig.returnType = none) (hlk : meth.locks = false) {τ : us_S} : ∀ (f q : Nat) (σ : us_S) (H : Heap) (locs : List Loc) (ls : Array Slot), q + f = 8 → xc_ring σ → xc_wall f q σ = τ → xw_H D ad dA dB A s H locs σ → lv_has ls 2 [(1, .int (nI q)), (0, .ref (ad 13))] → W p_ l e ({ frames := 1, cells := 0, slots := 0, locals := 21 } : Room) s m args below meth c H locs 0 0 (MQ below (va_Qv (fun u => u = τ) (xw_B D ad dA dB A) A) args s 0 0 A) (F0 m 61 ls []) := by
  intro f
  induction f with
  | zero =>
    intro q σ H locs ls hq hg hτ h hl
    refine lv_iload_n C.1 C.2.1 dX0_restart_61 rfl (lv_at hl 0 rfl) ?_
    refine lv_bipush (v := nI 8) C.1 C.2.1 dX0_restart_62 (by decide) ?_
    refine wn_ge (tgt := 78) C.1 C.2.1 (by omega) (by omega) dX0_restart_64 (by decide) (fun c64 => ?_) (fun z => absurd z (by omega))
    exact xw_vret C h hr hlk hτ dX0_restart_78
  | succ f ih =>
    intro q σ H locs ls hq hg hτ h hl
    have hq8 : q < 8 := by omega
    refine lv_iload_n C.1 C.2.1 dX0_restart_61 rfl (lv_at hl 0 rfl) ?_
    refine lv_bipush (v := nI 8) C.1 C.2.1 dX0_restart_62 (by decide) ?_
    refine wn_ge (tgt := 78) C.1 C.2.1 (by omega) (by omega) dX0_restart_64 (by decide) (fun z => absurd z (by omega)) (fun c64 => ?_)
    refine lv_aload_n C.1 C.2.1 dX0_restart_67 rfl (lv_at hl 1 rfl) ?_
    refine lv_iload_n C.1 C.2.1 dX0_restart_68 rfl (lv_at hl 0 rfl) ?_
    refine xw_callv (n := 1) (As := [.int (nI q)]) (rest := []) C hml h (x_wake l D ad dA dB _ σ hq8 hg) q39 q41 qs1 q42 rfl (by decide +kernel) rfl rfl ⟨Nat.le_of_ble_eq_true rfl, Nat.le_of_ble_eq_true rfl⟩ rfl hl.1 rfl (Nat.le_of_ble_eq_true rfl) dX0_restart_69 ⟨Nat.zero_le _, Nat.zero_le _⟩ (fun H locs h => ?_)
    refine lv_iinc (v := nI (q + 1)) (lv' := [(1, .int (nI (q + 1))), (0, .ref (ad 13))]) C.1 C.2.1 dX0_restart_72 hl (k := 0) rfl (wn_inc _) (by decide) rfl (fun ls hl => ?_)
    refine lv_goto (tgt := 61) C.1 C.2.1 dX0_restart_75 (by decide) ?_
    exact ih (q + 1) (xc_wake σ q) H locs ls (by omega) (xc_wake_ring hq8 hg) hτ h hl
set_option maxHeartbeats 4000000 in
set_option maxRecDepth 100000 in
theorem x_restart_l1 {l : Launch} {D : va_G} {ad : Nat → Nat} {dA dB : ClassId} {p_ : Program} {e : Env} {s : State} {m : MethodId} {args : Array Value} {below : List Frame} {meth : Method} {c : Code} {A : Nat → Prop} (C : xw_C D dA dB p_ s m args c cX0_restart) (hml : c.maxLocals = 2) (hr : meth.sig.returnType = none) (hlk : meth.locks = false) {τ : us_S} : ∀ (f q : Nat) (σ : us_S) (H : Heap) (locs : List Loc) (ls : Array Slot), q + f = 8 → xc_ring (xc_z f q σ) → xc_wall 8 0 (xc_z f q σ) = τ → xw_H D ad dA dB A s H locs σ → lv_has ls 2 [(1, .int (nI q)), (0, .ref (ad 13))] → W p_ l e ({ frames := 1, cells := 0, slots := 0, locals := 21 } : Room) s m args below meth c H locs 0 0 (MQ below (va_Qv (fun u => u = τ) (xw_B D ad dA dB A) A) args s 0 0 A) (F0 m 12 ls []) := by
  intro f
  induction f with
  | zero =>
    intro q σ H locs ls hq hg hτ h hl
    refine lv_iload_n C.1 C.2.1 dX0_restart_12 rfl (lv_at hl 0 rfl) ?_
    refine lv_bipush (v := nI 8) C.1 C.2.1 dX0_restart_13 (by decide) ?_
    refine wn_ge (tgt := 59) C.1 C.2.1 (by omega) (by omega) dX0_restart_15 (by decide) (fun c15 => ?_) (fun z => absurd z (by omega))
    refine lv_iconst (v := nI 0) C.1 C.2.1 dX0_restart_59 (by decide) ?_
    refine lv_istore_n (lv' := [(1, .int (nI 0)), (0, .ref (ad 13))]) C.1 C.2.1 dX0_restart_60 rfl hl (by decide) rfl (fun ls hl => ?_)
    exact x_restart_l2 C hml hr hlk 8 0 σ H locs ls rfl hg hτ h hl
  | succ f ih =>
    intro q σ H locs ls hq hg hτ h hl
    have hq8 : q < 8 := by omega
    refine lv_iload_n C.1 C.2.1 dX0_restart_12 rfl (lv_at hl 0 rfl) ?_
    refine lv_bipush (v := nI 8) C.1 C.2.1 dX0_restart_13 (by decide) ?_
    refine wn_ge (tgt := 59) C.1 C.2.1 (by omega) (by omega) dX0_restart_15 (by decide) (fun z => absurd z (by omega)) (fun c15 => ?_)
    refine lv_aload_n C.1 C.2.1 dX0_restart_18 rfl (lv_at hl 1 rfl) ?_
    refine xg4 C h dX0_restart_19 ?_
    refine lv_iload_n C.1 C.2.1 dX0_restart_22 rfl (lv_at hl 0 rfl) ?_
    refine lv_iconst (v := nI 0) C.1 C.2.1 dX0_restart_23 (by decide) ?_
    refine xs4 (i := q) (v := 0) C h (by omega) dX0_restart_24 (fun H locs h => ?_)
    refine lv_aload_n C.1 C.2.1 dX0_restart_25 rfl (lv_at hl 1 rfl) ?_
    refine xg5 C h dX0_restart_26 ?_
    refine lv_iload_n C.1 C.2.1 dX0_restart_29 rfl (lv_at hl 0 rfl) ?_
    refine lv_iconst (v := nI 0) C.1 C.2.1 dX0_restart_30 (by decide) ?_
    refine xs5 (i := q) (v := 0) C h (by omega) dX0_restart_31 (fun H locs h => ?_)
    refine lv_aload_n C.1 C.2.1 dX0_restart_32 rfl (lv_at hl 1 rfl) ?_
    refine xg6 C h dX0_restart_33 ?_
    refine lv_iload_n C.1 C.2.1 dX0_restart_36 rfl (lv_at hl 0 rfl) ?_
    refine lv_iconst (v := nI 0) C.1 C.2.1 dX0_restart_37 (by decide) ?_
    refine xs6 (i := q) (v := 0) C h (by omega) dX0_restart_38 (fun H locs h => ?_)
    refine lv_aload_n C.1 C.2.1 dX0_restart_39 rfl (lv_at hl 1 rfl) ?_
    refine xg7 C h dX0_restart_40 ?_
    refine lv_iload_n C.1 C.2.1 dX0_restart_43 rfl (lv_at hl 0 rfl) ?_
    refine lv_iconst (v := 0) C.1 C.2.1 dX0_restart_44 (by decide) ?_
    refine xs7 (i := q) (v := 0) C h (by omega) dX0_restart_45 (fun H locs h => ?_)
    refine lv_aload_n C.1 C.2.1 dX0_restart_46 rfl (lv_at hl 1 rfl) ?_
    refine xg12 C h dX0_restart_47 ?_
    refine lv_iload_n C.1 C.2.1 dX0_restart_50 rfl (lv_at hl 0 rfl) ?_
    refine lv_iconst (v := nI 0) C.1 C.2.1 dX0_restart_51 (by decide) ?_
    refine xs12 (i := q) (v := 0) C h (by omega) rfl dX0_restart_52 (fun H locs h => ?_)
    refine lv_iinc (v := nI (q + 1)) (lv' := [(1, .int (nI (q + 1))), (0, .ref (ad 13))]) C.1 C.2.1 dX0_restart_53 hl (k := 0) rfl (wn_inc _) (by decide) rfl (fun ls hl => ?_)
    refine lv_goto (tgt := 12) C.1 C.2.1 dX0_restart_56 (by decide) ?_
    exact ih (q + 1) _ H locs ls (by omega) hg hτ h hl
set_option maxHeartbeats 4000000 in
set_option maxRecDepth 100000 in
theorem x_restart (l : Launch) (D : va_G) (ad : Nat → Nat) (dA dB : ClassId) (sz : Nat) (σ : us_S)  : xw_Mv l yX0_restart cX0_restart 2 ({ frames := 1, cells := 0, slots := 0, locals := 21 } : Room) D ad dA dB sz σ [] (xc_restart σ) := by
  refine xw_Mv_of (by decide) rfl (Nat.le_of_ble_eq_true rfl) (fun p_ e s m below meth c A ls C hml hr hlk h hl => ?_)
  have hl : lv_has ls 2 [(0, .ref (ad 13))] := hl
  refine lv_aload_n C.1 C.2.1 dX0_restart_0 rfl (lv_at hl 0 rfl) ?_
  refine lv_iconst (v := nI 0) C.1 C.2.1 dX0_restart_1 (by decide) ?_
  refine xp9 (v := 0) C h dX0_restart_2 (fun H locs h => ?_)
  refine lv_aload_n C.1 C.2.1 dX0_restart_5 rfl (lv_at hl 0 rfl) ?_
  refine lv_iconst (v := nI 0) C.1 C.2.1 dX0_restart_6 (by decide) ?_
  refine xp10 (v := 0) C h dX0_restart_7 (fun H locs h => ?_)
  refine lv_iconst (v := nI 0) C.1 C.2.1 dX0_restart_10 (by decide) ?_
  refine lv_istore_n (lv' := [(1, .int (nI 0)), (0, .ref (ad 13))]) C.1 C.2.1 dX0_restart_11 rfl hl (by decide) rfl (fun ls hl => ?_)
  exact x_restart_l1 C hml hr hlk 8 0 _ _ _ ls rfl (xc_z_ring σ) rfl h hl
end
section
/-! 'bad' of both classes, and what the public methods answer, as functions -/
def qb (x : Int32) : Bool := decide (x < 0 ∨ nI 8 ≤ x)
theorem qb_no {x : Int32} (h : qb x = false) : ∃ p : Nat, p < 8 ∧ x = nI p := by
  have h := of_decide_eq_false h
  rcases pk_ix x (n := 8) (by decide) with z | z | z
  · exact absurd (Or.inl z) h
  · exact absurd (Or.inr z) h
  · exact z
theorem qb_yes {p : Nat} (h : p < 8) : qb (nI p) = false := by
  refine decide_eq_false (fun z => ?_)
  rcases z with z | z
  · exact nI_pos (by omega) z
  · exact nI_ge h (by decide) z
theorem qb_7 {x : Int32} : nI 8 ≤ x ↔ ¬ x ≤ nI 7 := by
  rw [Int32.le_iff_toInt_le, Int32.le_iff_toInt_le, nI_toInt (by decide), nI_toInt (by decide)]
  omega
set_option maxHeartbeats 4000000 in
set_option maxRecDepth 100000 in
theorem x_bad (l : Launch) (x : Int32) : Met l yX0_bad (ws_ yX0_bad cX0_bad 1 (some .boolean)) ({ frames := 0, cells := 0, slots := 0, locals := 0 } : Room) (va_Pc [.int x] (fun _ => True)) (QcRead (bz (qb x))) 0 0 (fun _ => False) := by
  refine Met.ofW (cc := cX0_bad) (maxL := 1) (ret := some .boolean) (by decide) rfl ?_
  intro p e s m args below meth c s₁ B hml hv
  obtain ⟨rfl, -⟩ := hv
  have hx := B.exec
  have hb := B.bytes
  have hr := B.returns
  have hlk := B.notSynchronized
  have hl := lv_entry ([.int x]) (n := 1) (Nat.le_of_ble_eq_true rfl)
  rw [lg_entry_eq]
  generalize (lg_sl ([.int x]) ++ List.replicate (1 - (lg_sl ([.int x])).length) Slot.unset).toArray = ls at hl ⊢
  have hl : lv_has ls 1 [(0, .int x)] := hl
  have yes : ∀ hc : (x < 0 ∨ nI 8 ≤ x), nI 1 = bz (qb x) := fun hc => (bz_d1 hc).symm
  refine lv_iload_n hx hb dX0_bad_0 rfl (lv_at hl 0 rfl) ?_
  refine lv_if_lt (tgt := 10) hx hb dX0_bad_1 (by decide) (fun c1 => ?_) (fun c1 => ?_)
  · refine lv_iconst (v := nI 1) hx hb dX0_bad_10 (by decide) ?_
    refine lv_goto (tgt := 15) hx hb dX0_bad_11 (by decide) ?_
    exact W.zret (v := nI 1) hx hb hr rfl (fun t ht hW => ⟨by rw [yes (Or.inl c1)], ht⟩) (fun q h => by cases h) dX0_bad_15
  · refine lv_iload_n hx hb dX0_bad_4 rfl (lv_at hl 0 rfl) ?_
    refine lv_bipush (v := nI 8) hx hb dX0_bad_5 (by decide) ?_
    refine lv_icmp_lt (tgt := 14) hx hb dX0_bad_7 (by decide) (fun c7 => ?_) (fun c7 => ?_)
    · refine lv_iconst (v := nI 0) hx hb dX0_bad_14 (by decide) ?_
      exact W.zret (v := nI 0) hx hb hr rfl (fun t ht hW => ⟨by rw [show bz (qb x) = nI 0 from bz_d0 (fun z => z.elim c1 (fun y => Int32.not_le.mpr c7 y))], ht⟩) (fun q h => by cases h) dX0_bad_15
    · refine lv_iconst (v := nI 1) hx hb dX0_bad_10 (by decide) ?_
      refine lv_goto (tgt := 15) hx hb dX0_bad_11 (by decide) ?_
      exact W.zret (v := nI 1) hx hb hr rfl (fun t ht hW => ⟨by rw [yes (Or.inr (Int32.not_lt.mp c7))], ht⟩) (fun q h => by cases h) dX0_bad_15
set_option maxHeartbeats 4000000 in
set_option maxRecDepth 100000 in
theorem m_bad (l : Launch) (b : Nat) (x : Int32) : Met l yX1_bad (ws_ yX1_bad cX1_bad 2 (some .boolean)) ({ frames := 0, cells := 0, slots := 0, locals := 0 } : Room) (va_Pc [.ref b, .int x] (fun _ => True)) (QcRead (bz (qb x))) 0 0 (fun _ => False) := by
  refine Met.ofW (cc := cX1_bad) (maxL := 2) (ret := some .boolean) (by decide) rfl ?_
  intro p e s m args below meth c s₁ B hml hv
  obtain ⟨rfl, -⟩ := hv
  have hx := B.exec
  have hb := B.bytes
  have hr := B.returns
  have hlk := B.notSynchronized
  have hl := lv_entry ([.ref b, .int x]) (n := 2) (Nat.le_of_ble_eq_true rfl)
  rw [lg_entry_eq]
  generalize (lg_sl ([.ref b, .int x]) ++ List.replicate (2 - (lg_sl ([.ref b, .int x])).length) Slot.unset).toArray = ls at hl ⊢
  have hl : lv_has ls 2 [(0, .ref b), (1, .int x)] := hl
  have yes : ∀ hc : (x < 0 ∨ nI 8 ≤ x), nI 1 = bz (qb x) := fun hc => (bz_d1 hc).symm
  refine lv_iload_n hx hb dX1_bad_0 rfl (lv_at hl 1 rfl) ?_
  refine lv_if_lt (tgt := 10) hx hb dX1_bad_1 (by decide) (fun c1 => ?_) (fun c1 => ?_)
  · refine lv_iconst (v := nI 1) hx hb dX1_bad_10 (by decide) ?_
    refine lv_goto (tgt := 15) hx hb dX1_bad_11 (by decide) ?_
    exact W.zret (v := nI 1) hx hb hr rfl (fun t ht hW => ⟨by rw [yes (Or.inl c1)], ht⟩) (fun q h => by cases h) dX1_bad_15
  · refine lv_iload_n hx hb dX1_bad_4 rfl (lv_at hl 1 rfl) ?_
    refine lv_bipush (v := nI 7) hx hb dX1_bad_5 (by decide) ?_
    refine lv_icmp_le (tgt := 14) hx hb dX1_bad_7 (by decide) (fun c7 => ?_) (fun c7 => ?_)
    · refine lv_iconst (v := nI 0) hx hb dX1_bad_14 (by decide) ?_
      exact W.zret (v := nI 0) hx hb hr rfl (fun t ht hW => ⟨by rw [show bz (qb x) = nI 0 from bz_d0 (fun z => z.elim c1 (fun y => qb_7.mp y c7))], ht⟩) (fun q h => by cases h) dX1_bad_15
    · refine lv_iconst (v := nI 1) hx hb dX1_bad_10 (by decide) ?_
      refine lv_goto (tgt := 15) hx hb dX1_bad_11 (by decide) ?_
      exact W.zret (v := nI 1) hx hb hr rfl (fun t ht hW => ⟨by rw [yes (Or.inr (qb_7.mpr c7))], ht⟩) (fun q h => by cases h) dX1_bad_15
section BADC
variable {p : Program} {l : Launch} {e : Env} {R : Room} {s : State} {m : MethodId} {args : Array Value} {below : List Frame} {meth : Method} {c : Code} {H : Heap} {locs : List Loc} {cells slots : Nat} {Q : State → Prop}
variable {cc : ByteArray} {pc : Nat} {ls : Array Slot} {rest st0 : List Value} {D : va_G} {ad : Nat → Nat} {dA dB : ClassId} {A : Nat → Prop} {σ : us_S}
theorem xw_bad {nL : Nat} {x : Int32} (C : xw_C D dA dB p s m args c cc) (hml : c.maxLocals = nL) (hR : 0 + 1 ≤ R.frames ∧ 8 + (1 + 11) + 0 ≤ R.locals) (hsz : ls.size = nL) (hst : st0 = .int x :: rest) (hrm : (rest.map fun v => v.category).sum ≤ 8) (hd : decode cc pc = .ok (.invokestatic 58, 3)) (hf : cells ≤ R.cells ∧ slots ≤ R.slots)
    (kk : W p l e R s m args below meth c H locs cells slots Q (F0 m (pc + 3) ls (.int (bz (qb x)) :: rest))) : W p l e R s m args below meth c H locs cells slots Q (F0 m pc ls st0) := by
  refine W.callR (W.runS (As := [.int x]) (rest := rest) ⟨C.1, C.2.1, hml, C.2.2.2.1, C.2.2.1⟩ (x_bad l x) (va_cwS 1 C.2.2.1 (lw_S q89 q90 q25 q91) rfl rfl rfl (by decide +kernel) hR) ⟨fun a U g mk q => q, fun U hU hW => ⟨rfl, trivial⟩⟩ rfl rfl hsz hst (lv_room hrm) hd hf) ?_
  exact kk
theorem mw_bad {nL : Nat} {x : Int32} (C : mw_C D dA p s m args c cc) (hml : c.maxLocals = nL) (h : mw_H D ad dA A s H locs σ) (hR : 0 + 1 ≤ R.frames ∧ 8 + (2 + 11) + 0 ≤ R.locals) (hsz : ls.size = nL) (hst : st0 = .int x :: .ref (ad 13) :: rest) (hrm : (rest.map fun v => v.category).sum ≤ 8) (hd : decode cc pc = .ok (.invokevirtual 28, 3)) (hf : cells ≤ R.cells ∧ slots ≤ R.slots)
    (kk : W p l e R s m args below meth c H locs cells slots Q (F0 m (pc + 3) ls (.int (bz (qb x)) :: rest))) : W p l e R s m args below meth c H locs cells slots Q (F0 m pc ls st0) := by
  refine W.callR (W.runV (C := RX1) (b := ad 13) (As := [.int x]) (rest := rest) ⟨C.1, C.2.1, hml, C.2.2.2.1, C.2.2.1⟩ (m_bad l (ad 13) x) (cwV 1 C.2.2.1 (lw_V q208 q210 qs15 q26 q211) rfl rfl rfl (by decide +kernel) hR) ⟨fun a U g mk q => q, va_recv C.2.2.2.2 h.1 (ci := 1) (q0 := 0) rfl rfl, fun U hU hW => ⟨rfl, trivial⟩⟩ rfl rfl hsz hst (lv_room hrm) hd hf) ?_
  exact kk
theorem wn_andV7 (hx : p.tables.exec = Jvm.exec) (hb : c.code = cc) {x : Int32} (hd : decode cc pc = .ok (.iand, 1)) (k : W p l e R s m args below meth c H locs cells slots Q (F0 m (pc + 1) ls (.int (nI (x.toBitVec.toNat % 8)) :: rest))) : W p l e R s m args below meth c H locs cells slots Q (F0 m pc ls (.int (nI 7) :: .int x :: rest)) :=
  lv_iand hx hb hd (by rw [pk_and x 3 (by decide)]; exact k)
end BADC
/-! what the public methods answer and leave: f is what settles, k the field with the lengths, kv the items -/
def us_set (σ : us_S) (p k : Nat) (y a : Int32) : us_S := us_V (us_N (us_N (us_N σ 0 p k) 1 p (y.toBitVec.toNat % 8)) 2 p ((y >>> (nI 3 &&& 31)).toBitVec.toNat % 8)) 3 p a
def qr_set (f : us_S → us_S) (σ : us_S) (x k y a : Int32) : Int32 × us_S := if qb x = true then (-1, σ) else if k < 0 ∨ nI 7 < k then (-2, σ) else (0, f (us_set σ x.toNatClampNeg k.toNatClampNeg y a))
def us_swN (σ : us_S) (k p q : Nat) : us_S := us_N (us_N σ k p (σ.1 k q)) k q (σ.1 k p)
def us_swV (σ : us_S) (k p q : Nat) : us_S := us_V (us_V σ k p (σ.2 k q)) k q (σ.2 k p)
def us_exch (σ : us_S) (p q : Nat) : us_S := us_swV (us_swN (us_swN (us_swN σ 0 p q) 1 p q) 2 p q) 3 p q
def mt_exch (μ : us_S) (p q : Nat) : us_S := us_V (us_N (us_N (us_N (us_V (us_N (us_N (us_N μ 0 p (μ.1 0 q)) 1 p (μ.1 1 q)) 2 p (μ.1 2 q)) 3 p (μ.2 3 q)) 0 q (μ.1 0 p)) 1 q (μ.1 1 p)) 2 q (μ.1 2 p)) 3 q (μ.2 3 p)
def qr_exch (f : us_S → Nat → Nat → us_S) (σ : us_S) (x y : Int32) : Int32 × us_S := if qb x = true ∨ qb y = true then (-1, σ) else (0, f σ x.toNatClampNeg y.toNatClampNeg)
def qr_fire (f : us_S → Nat → us_S) (σ : us_S) (x : Int32) : Int32 × us_S := if qb x = true then (-1, σ) else (0, f σ x.toNatClampNeg)
def qr_len (f : us_S → us_S) (k : Nat) (σ : us_S) (x : Int32) : Int32 × us_S := if qb x = true then (-1, σ) else (nI ((f σ).1 k x.toNatClampNeg), f σ)
def qr_item (f : us_S → us_S) (k kv : Nat) (σ : us_S) (x i : Int32) : Int32 × us_S := if qb x = true then (-1, σ) else (if i < 0 ∨ nI ((f σ).1 k x.toNatClampNeg) ≤ i then -3 else (f σ).2 kv (x.toNatClampNeg * 40 + i.toNatClampNeg), f σ)
def qr_sum (f : us_S → us_S) (k kv : Nat) (σ : us_S) (x : Int32) : Int32 × us_S := if qb x = true then (-1, σ) else (qa_sum (fun j => (f σ).2 kv (x.toNatClampNeg * 40 + j)) ((f σ).1 k x.toNatClampNeg), f σ)
def qr_find (f : us_S → us_S) (k kv : Nat) (σ : us_S) (x v : Int32) : Int32 × us_S := if qb x = true then (-1, σ) else (qa_find (fun j => (f σ).2 kv (x.toNatClampNeg * 40 + j)) v ((f σ).1 k x.toNatClampNeg) 0, f σ)
def qr_same (f : us_S → us_S) (k kv : Nat) (σ : us_S) (x y : Int32) : Bool × us_S := if qb x = true ∨ qb y = true then (false, σ) else (if (f σ).1 k x.toNatClampNeg = (f σ).1 k y.toNatClampNeg then qa_same (fun j => (f σ).2 kv (x.toNatClampNeg * 40 + j)) (fun j => (f σ).2 kv (y.toNatClampNeg * 40 + j)) ((f σ).1 k x.toNatClampNeg) 0 else false, f σ)
def qr_full (f : us_S → us_S) (k : Nat) (σ : us_S) : Int32 × us_S := (nI (qa_full ((f σ).1 k) 8), f σ)
end
section
/-! CONTRACTS of ProcessNetworkModel: streams and workOut (by wip/D-64155w/gen/m1.py) -/
def mt_b (μ : us_S) : Prop := pn_ok (xc_k μ) ∧ ∀ p, p < 8 → μ.1 6 p ≤ 40
theorem mt_put_1 (μ : us_S) (p n : Nat) (v : Int32) : (mt_put μ p n v).2.1 = μ.1 := by
  unfold mt_put
  by_cases h : n = 40
  · rw [if_pos h]
  · rw [if_neg h]; rfl
theorem mt_put_le {μ : us_S} {p n : Nat} {v : Int32} (h : n ≤ 40) : (mt_put μ p n v).1 ≤ 40 := by
  unfold mt_put
  by_cases h2 : n = 40
  · rw [if_pos h2]; exact h
  · rw [if_neg h2]; show n + 1 ≤ 40; omega
theorem mt_b_eq {μ ν : us_S} (e : ν.1 = μ.1) (h : mt_b μ) : mt_b ν := by
  obtain ⟨h1, h2⟩ := h
  refine ⟨?_, by rw [e]; exact h2⟩
  rw [show xc_k ν = xc_k μ from xc_k_eq (by rw [e]) (by rw [e]) (by rw [e])]; exact h1
theorem mt_b_put {μ : us_S} {p n : Nat} {v : Int32} (h : mt_b μ) : mt_b (mt_put μ p n v).2 := mt_b_eq (mt_put_1 μ p n v) h
set_option maxHeartbeats 4000000 in
set_option maxRecDepth 100000 in
theorem m_put (l : Launch) (D : va_G) (ad : Nat → Nat) (dA : ClassId) (sz : Nat) (σ : us_S) {p n : Nat} {v : Int32} (hp : p < 8) (hn : n ≤ 40) : mw_Mi l yX1_put cX1_put 4 (some .int) ({ frames := 0, cells := 0, slots := 0, locals := 0 } : Room) D ad dA sz σ [.int (nI p), .int (nI n), .int v] (nI (mt_put σ p n v).1) ((mt_put σ p n v).2) := by
  refine mw_Mi_of (by decide) rfl (Nat.le_of_ble_eq_true rfl) (fun p_ e s m below meth c A ls C hml hr hlk h hl => ?_)
  have hl : lv_has ls 4 [(0, .ref (ad 13)), (1, .int (nI p)), (2, .int (nI n)), (3, .int v)] := hl
  refine lv_iload_n C.1 C.2.1 dX1_put_0 rfl (lv_at hl 2 rfl) ?_
  refine lv_bipush (v := nI 40) C.1 C.2.1 dX1_put_1 (by decide) ?_
  refine wn_ne (tgt := 8) C.1 C.2.1 (by omega) (by omega) dX1_put_3 (by decide) (fun c3 => ?_) (fun c3 => ?_)
  · refine lv_aload_n C.1 C.2.1 dX1_put_8 rfl (lv_at hl 0 rfl) ?_
    refine mg5 C h dX1_put_9 ?_
    refine lv_iload_n C.1 C.2.1 dX1_put_12 rfl (lv_at hl 1 rfl) ?_
    refine lv_bipush (v := nI 40) C.1 C.2.1 dX1_put_13 (by decide) ?_
    refine wn_mul C.1 C.2.1 dX1_put_15 ?_
    refine lv_iload_n C.1 C.2.1 dX1_put_16 rfl (lv_at hl 2 rfl) ?_
    refine wn_add C.1 C.2.1 dX1_put_17 ?_
    refine lv_iload_n C.1 C.2.1 dX1_put_18 rfl (lv_at hl 3 rfl) ?_
    refine ms5 (i := p * 40 + n) (v := v) C h (by omega) dX1_put_19 (fun H locs h => ?_)
    refine lv_iload_n C.1 C.2.1 dX1_put_20 rfl (lv_at hl 2 rfl) ?_
    refine lv_iconst (v := nI 1) C.1 C.2.1 dX1_put_21 (by decide) ?_
    refine wn_add C.1 C.2.1 dX1_put_22 ?_
    have e9 : mt_put σ p n v = (n + 1, us_V σ 5 (p * 40 + n) v) := by unfold mt_put; rw [if_neg c3]
    exact mw_iret C h hr hlk (by rw [e9]) (by rw [e9]) dX1_put_23
  · refine lv_iload_n C.1 C.2.1 dX1_put_6 rfl (lv_at hl 2 rfl) ?_
    have e9 : mt_put σ p n v = (n, σ) := by unfold mt_put; rw [if_pos c3]
    exact mw_iret C h hr hlk (by rw [e9]) (by rw [e9]) dX1_put_7
set_option maxHeartbeats 4000000 in
set_option maxRecDepth 100000 in
theorem m_start_l {l : Launch} {D : va_G} {ad : Nat → Nat} {dA : ClassId} {p_ : Program} {e : Env} {s : State} {m : MethodId} {args : Array Value} {below : List Frame} {meth : Method} {c : Code} {A : Nat → Prop} (C : mw_C D dA p_ s m args c cX1_start) (hml : c.maxLocals = 4) (hr : meth.sig.returnType = some .int) (hlk : meth.locks = false) {p : Nat} (hp : p < 8) {r : Int32} {τ : us_S} : ∀ (f : Nat) (i n : Nat) (σ : us_S) (H : Heap) (locs : List Loc) (ls : Array Slot), i + f = (if σ.1 0 p = 0 then 40 else 5) → n ≤ 40 → mt_b σ → nI (mt_start p f i (n, σ)).1 = r → (mt_start p f i (n, σ)).2 = τ → mw_H D ad dA A s H locs σ → lv_has ls 4 [(3, .int (nI i)), (2, .int (nI n)), (0, .ref (ad 13)), (1, .int (nI p))] → W p_ l e ({ frames := 1, cells := 0, slots := 0, locals := 23 } : Room) s m args below meth c H locs 0 0 (MQ below (va_Qi (fun r' u => r' = r ∧ u = τ) (mw_B D ad dA A) A) args s 0 0 A) (F0 m 4 ls []) := by
  intro f
  induction f with
  | zero =>
    intro i n σ H locs ls hi hn hb hv hτ h hl
    have k7 : σ.1 0 p ≤ 7 := (hb.1 p hp).1
    refine lv_iload_n C.1 C.2.1 dX1_start_4 rfl (lv_at hl 0 rfl) ?_
    refine lv_aload_n C.1 C.2.1 dX1_start_5 rfl (lv_at hl 2 rfl) ?_
    refine mg0 C h dX1_start_6 ?_
    refine lv_iload_n C.1 C.2.1 dX1_start_9 rfl (lv_at hl 3 rfl) ?_
    refine ml0 (i := p) (w := σ.1 0 p) C h (by omega) rfl dX1_start_10 ?_
    refine wn_ifn (tgt := 19) C.1 C.2.1 (by omega) dX1_start_11 (by decide) (fun c11 => ?_) (fun c11 => ?_)
    · refine lv_iconst (v := nI 5) C.1 C.2.1 dX1_start_19 (by decide) ?_
      rw [if_neg c11] at hi
      refine wn_ge (tgt := 68) C.1 C.2.1 (by omega) (by omega) dX1_start_20 (by decide) (fun c20 => ?_) (fun z => absurd z (by omega))
      refine lv_iload_n C.1 C.2.1 dX1_start_68 rfl (lv_at hl 1 rfl) ?_
      exact mw_iret C h hr hlk hv hτ dX1_start_69
    · refine lv_bipush (v := nI 40) C.1 C.2.1 dX1_start_14 (by decide) ?_
      refine lv_goto (tgt := 20) C.1 C.2.1 dX1_start_16 (by decide) ?_
      rw [if_pos c11] at hi
      refine wn_ge (tgt := 68) C.1 C.2.1 (by omega) (by omega) dX1_start_20 (by decide) (fun c20 => ?_) (fun z => absurd z (by omega))
      refine lv_iload_n C.1 C.2.1 dX1_start_68 rfl (lv_at hl 1 rfl) ?_
      exact mw_iret C h hr hlk hv hτ dX1_start_69
  | succ f ih =>
    intro i n σ H locs ls hi hn hb hv hτ h hl
    have k7 : σ.1 0 p ≤ 7 := (hb.1 p hp).1
    have hi0 := hi
    refine lv_iload_n C.1 C.2.1 dX1_start_4 rfl (lv_at hl 0 rfl) ?_
    refine lv_aload_n C.1 C.2.1 dX1_start_5 rfl (lv_at hl 2 rfl) ?_
    refine mg0 C h dX1_start_6 ?_
    refine lv_iload_n C.1 C.2.1 dX1_start_9 rfl (lv_at hl 3 rfl) ?_
    refine ml0 (i := p) (w := σ.1 0 p) C h (by omega) rfl dX1_start_10 ?_
    refine wn_ifn (tgt := 19) C.1 C.2.1 (by omega) dX1_start_11 (by decide) (fun c11 => ?_) (fun c11 => ?_)
    · refine lv_iconst (v := nI 5) C.1 C.2.1 dX1_start_19 (by decide) ?_
      rw [if_neg c11] at hi
      refine wn_ge (tgt := 68) C.1 C.2.1 (by omega) (by omega) dX1_start_20 (by decide) (fun z => absurd z (by omega)) (fun c20 => ?_)
      refine lv_aload_n C.1 C.2.1 dX1_start_23 rfl (lv_at hl 2 rfl) ?_
      refine lv_iload_n C.1 C.2.1 dX1_start_24 rfl (lv_at hl 3 rfl) ?_
      refine lv_iload_n C.1 C.2.1 dX1_start_25 rfl (lv_at hl 1 rfl) ?_
      refine lv_aload_n C.1 C.2.1 dX1_start_26 rfl (lv_at hl 2 rfl) ?_
      refine mg0 C h dX1_start_27 ?_
      refine lv_iload_n C.1 C.2.1 dX1_start_30 rfl (lv_at hl 3 rfl) ?_
      refine ml0 (i := p) (w := σ.1 0 p) C h (by omega) rfl dX1_start_31 ?_
      refine wn_ifn (tgt := 46) C.1 C.2.1 (by omega) dX1_start_32 (by decide) (fun c32 => ?_) (fun z => absurd z c11)
      refine lv_aload_n C.1 C.2.1 dX1_start_46 rfl (lv_at hl 2 rfl) ?_
      refine mg3 C h dX1_start_47 ?_
      refine lv_iload_n C.1 C.2.1 dX1_start_50 rfl (lv_at hl 3 rfl) ?_
      refine ml3 (i := p) (w := σ.2 3 p) C h (by omega) rfl dX1_start_51 ?_
      refine lv_iconst (v := nI 2) C.1 C.2.1 dX1_start_52 (by decide) ?_
      refine lv_iload_n C.1 C.2.1 dX1_start_53 rfl (lv_at hl 0 rfl) ?_
      refine wn_mul C.1 C.2.1 dX1_start_54 ?_
      refine lv_iconst (v := nI 1) C.1 C.2.1 dX1_start_55 (by decide) ?_
      refine wn_add C.1 C.2.1 dX1_start_56 ?_
      refine lv_imul C.1 C.2.1 dX1_start_57 ?_
      refine mw_calli (n := 3) (As := [.int (nI p), .int (nI n), .int ((σ.2 3 p) * (nI (2 * i + 1)))]) (rest := []) C hml h (m_put l D ad dA _ σ hp hn) q236 q238 qs19 q239 rfl (by decide +kernel) rfl rfl ⟨Nat.le_of_ble_eq_true rfl, Nat.le_of_ble_eq_true rfl⟩ rfl hl.1 rfl (Nat.le_of_ble_eq_true rfl) dX1_start_58 ⟨Nat.zero_le _, Nat.zero_le _⟩ (fun H locs h => ?_)
      refine lv_istore_n (lv' := [(2, .int (nI ((mt_put σ p n ((σ.2 3 p) * (nI (2 * i + 1)))).1))), (3, .int (nI i)), (0, .ref (ad 13)), (1, .int (nI p))]) C.1 C.2.1 dX1_start_61 rfl hl (by decide) rfl (fun ls hl => ?_)
      refine lv_iinc (v := nI (i + 1)) (lv' := [(3, .int (nI (i + 1))), (2, .int (nI ((mt_put σ p n ((σ.2 3 p) * (nI (2 * i + 1)))).1))), (0, .ref (ad 13)), (1, .int (nI p))]) C.1 C.2.1 dX1_start_62 hl (k := 1) rfl (wn_inc _) (by decide) rfl (fun ls hl => ?_)
      refine lv_goto (tgt := 4) C.1 C.2.1 dX1_start_65 (by decide) ?_
      have e0 : mt_start p (f + 1) i (n, σ) = mt_start p f (i + 1) (mt_put σ p n (if σ.1 0 p = 0 then σ.2 3 p + nI i else σ.2 3 p * nI (2 * i + 1))) := rfl
      rw [if_neg c11] at e0
      rw [e0] at hv hτ
      exact ih (i + 1) _ _ H locs ls (by rw [mt_put_1]; omega) (mt_put_le hn) (mt_b_put hb) hv hτ h (lv_sub hl [0, 1, 2, 3] rfl)
    · refine lv_bipush (v := nI 40) C.1 C.2.1 dX1_start_14 (by decide) ?_
      refine lv_goto (tgt := 20) C.1 C.2.1 dX1_start_16 (by decide) ?_
      rw [if_pos c11] at hi
      refine wn_ge (tgt := 68) C.1 C.2.1 (by omega) (by omega) dX1_start_20 (by decide) (fun z => absurd z (by omega)) (fun c20 => ?_)
      refine lv_aload_n C.1 C.2.1 dX1_start_23 rfl (lv_at hl 2 rfl) ?_
      refine lv_iload_n C.1 C.2.1 dX1_start_24 rfl (lv_at hl 3 rfl) ?_
      refine lv_iload_n C.1 C.2.1 dX1_start_25 rfl (lv_at hl 1 rfl) ?_
      refine lv_aload_n C.1 C.2.1 dX1_start_26 rfl (lv_at hl 2 rfl) ?_
      refine mg0 C h dX1_start_27 ?_
      refine lv_iload_n C.1 C.2.1 dX1_start_30 rfl (lv_at hl 3 rfl) ?_
      refine ml0 (i := p) (w := σ.1 0 p) C h (by omega) rfl dX1_start_31 ?_
      refine wn_ifn (tgt := 46) C.1 C.2.1 (by omega) dX1_start_32 (by decide) (fun z => absurd c11 z) (fun c32 => ?_)
      refine lv_aload_n C.1 C.2.1 dX1_start_35 rfl (lv_at hl 2 rfl) ?_
      refine mg3 C h dX1_start_36 ?_
      refine lv_iload_n C.1 C.2.1 dX1_start_39 rfl (lv_at hl 3 rfl) ?_
      refine ml3 (i := p) (w := σ.2 3 p) C h (by omega) rfl dX1_start_40 ?_
      refine lv_iload_n C.1 C.2.1 dX1_start_41 rfl (lv_at hl 0 rfl) ?_
      refine lv_iadd C.1 C.2.1 dX1_start_42 ?_
      refine lv_goto (tgt := 58) C.1 C.2.1 dX1_start_43 (by decide) ?_
      refine mw_calli (n := 3) (As := [.int (nI p), .int (nI n), .int ((σ.2 3 p) + (nI i))]) (rest := []) C hml h (m_put l D ad dA _ σ hp hn) q236 q238 qs19 q239 rfl (by decide +kernel) rfl rfl ⟨Nat.le_of_ble_eq_true rfl, Nat.le_of_ble_eq_true rfl⟩ rfl hl.1 rfl (Nat.le_of_ble_eq_true rfl) dX1_start_58 ⟨Nat.zero_le _, Nat.zero_le _⟩ (fun H locs h => ?_)
      refine lv_istore_n (lv' := [(2, .int (nI ((mt_put σ p n ((σ.2 3 p) + (nI i))).1))), (3, .int (nI i)), (0, .ref (ad 13)), (1, .int (nI p))]) C.1 C.2.1 dX1_start_61 rfl hl (by decide) rfl (fun ls hl => ?_)
      refine lv_iinc (v := nI (i + 1)) (lv' := [(3, .int (nI (i + 1))), (2, .int (nI ((mt_put σ p n ((σ.2 3 p) + (nI i))).1))), (0, .ref (ad 13)), (1, .int (nI p))]) C.1 C.2.1 dX1_start_62 hl (k := 1) rfl (wn_inc _) (by decide) rfl (fun ls hl => ?_)
      refine lv_goto (tgt := 4) C.1 C.2.1 dX1_start_65 (by decide) ?_
      have e0 : mt_start p (f + 1) i (n, σ) = mt_start p f (i + 1) (mt_put σ p n (if σ.1 0 p = 0 then σ.2 3 p + nI i else σ.2 3 p * nI (2 * i + 1))) := rfl
      rw [if_pos c11] at e0
      rw [e0] at hv hτ
      exact ih (i + 1) _ _ H locs ls (by rw [mt_put_1]; omega) (mt_put_le hn) (mt_b_put hb) hv hτ h (lv_sub hl [0, 1, 2, 3] rfl)
set_option maxHeartbeats 4000000 in
set_option maxRecDepth 100000 in
theorem m_start (l : Launch) (D : va_G) (ad : Nat → Nat) (dA : ClassId) (sz : Nat) (σ : us_S) {p : Nat} (hp : p < 8) (hb : mt_b σ) : mw_Mi l yX1_start cX1_start 4 (some .int) ({ frames := 1, cells := 0, slots := 0, locals := 23 } : Room) D ad dA sz σ [.int (nI p)] (nI (mt_start p (if σ.1 0 p = 0 then 40 else 5) 0 (0, σ)).1) ((mt_start p (if σ.1 0 p = 0 then 40 else 5) 0 (0, σ)).2) := by
  refine mw_Mi_of (by decide) rfl (Nat.le_of_ble_eq_true rfl) (fun p_ e s m below meth c A ls C hml hr hlk h hl => ?_)
  have hl : lv_has ls 4 [(0, .ref (ad 13)), (1, .int (nI p))] := hl
  refine lv_iconst (v := nI 0) C.1 C.2.1 dX1_start_0 (by decide) ?_
  refine lv_istore_n (lv' := [(2, .int (nI 0)), (0, .ref (ad 13)), (1, .int (nI p))]) C.1 C.2.1 dX1_start_1 rfl hl (by decide) rfl (fun ls hl => ?_)
  refine lv_iconst (v := nI 0) C.1 C.2.1 dX1_start_2 (by decide) ?_
  refine lv_istore_n (lv' := [(3, .int (nI 0)), (2, .int (nI 0)), (0, .ref (ad 13)), (1, .int (nI p))]) C.1 C.2.1 dX1_start_3 rfl hl (by decide) rfl (fun ls hl => ?_)
  exact m_start_l C hml hr hlk hp _ 0 0 σ _ _ ls (Nat.zero_add _) (by decide) hb rfl rfl h hl
set_option maxHeartbeats 4000000 in
set_option maxRecDepth 100000 in
theorem m_add_l {l : Launch} {D : va_G} {ad : Nat → Nat} {dA : ClassId} {p_ : Program} {e : Env} {s : State} {m : MethodId} {args : Array Value} {below : List Frame} {meth : Method} {c : Code} {A : Nat → Prop} (C : mw_C D dA p_ s m args c cX1_add) (hml : c.maxLocals = 4) (hr : meth.sig.returnType = some .int) (hlk : meth.locks = false) {p : Nat} (hp : p < 8) {r : Int32} {τ : us_S} : ∀ (f : Nat) (i n : Nat) (σ : us_S) (H : Heap) (locs : List Loc) (ls : Array Slot), i + f = 40 → n ≤ 40 → mt_b σ → nI (mt_add p f i (n, σ)).1 = r → (mt_add p f i (n, σ)).2 = τ → mw_H D ad dA A s H locs σ → lv_has ls 4 [(3, .int (nI i)), (2, .int (nI n)), (0, .ref (ad 13)), (1, .int (nI p))] → W p_ l e ({ frames := 1, cells := 0, slots := 0, locals := 23 } : Room) s m args below meth c H locs 0 0 (MQ below (va_Qi (fun r' u => r' = r ∧ u = τ) (mw_B D ad dA A) A) args s 0 0 A) (F0 m 4 ls []) := by
  intro f
  induction f with
  | zero =>
    intro i n σ H locs ls hi hn hb hv hτ h hl
    refine lv_iload_n C.1 C.2.1 dX1_add_4 rfl (lv_at hl 0 rfl) ?_
    refine lv_bipush (v := nI 40) C.1 C.2.1 dX1_add_5 (by decide) ?_
    refine wn_ge (tgt := 86) C.1 C.2.1 (by omega) (by omega) dX1_add_7 (by decide) (fun c7 => ?_) (fun z => absurd z (by omega))
    refine lv_iload_n C.1 C.2.1 dX1_add_86 rfl (lv_at hl 1 rfl) ?_
    exact mw_iret C h hr hlk hv hτ dX1_add_87
  | succ f ih =>
    intro i n σ H locs ls hi hn hb hv hτ h hl
    have hx : σ.1 1 p < 8 := (hb.1 p hp).2.1
    have hy : σ.1 2 p < 8 := (hb.1 p hp).2.2
    have k7 : σ.1 0 p ≤ 7 := (hb.1 p hp).1
    have bX : σ.1 6 (σ.1 1 p) ≤ 40 := hb.2 _ hx
    have bY : σ.1 6 (σ.1 2 p) ≤ 40 := hb.2 _ hy
    refine lv_iload_n C.1 C.2.1 dX1_add_4 rfl (lv_at hl 0 rfl) ?_
    refine lv_bipush (v := nI 40) C.1 C.2.1 dX1_add_5 (by decide) ?_
    refine wn_ge (tgt := 86) C.1 C.2.1 (by omega) (by omega) dX1_add_7 (by decide) (fun z => absurd z (by omega)) (fun c7 => ?_)
    refine lv_iload_n C.1 C.2.1 dX1_add_10 rfl (lv_at hl 0 rfl) ?_
    refine lv_aload_n C.1 C.2.1 dX1_add_11 rfl (lv_at hl 2 rfl) ?_
    refine mg6 C h dX1_add_12 ?_
    refine lv_aload_n C.1 C.2.1 dX1_add_15 rfl (lv_at hl 2 rfl) ?_
    refine mg1 C h dX1_add_16 ?_
    refine lv_iload_n C.1 C.2.1 dX1_add_19 rfl (lv_at hl 3 rfl) ?_
    refine ml1 (i := p) (w := σ.1 1 p) C h (by omega) rfl dX1_add_20 ?_
    refine ml6 (i := σ.1 1 p) (w := σ.1 6 (σ.1 1 p)) C h (by omega) rfl dX1_add_21 ?_
    refine wn_ge (tgt := 80) C.1 C.2.1 (by omega) (by omega) dX1_add_22 (by decide) (fun c22 => ?_) (fun c22 => ?_)
    · refine lv_iinc (v := nI (i + 1)) (lv' := [(3, .int (nI (i + 1))), (2, .int (nI n)), (0, .ref (ad 13)), (1, .int (nI p))]) C.1 C.2.1 dX1_add_80 hl (k := 0) rfl (wn_inc _) (by decide) rfl (fun ls hl => ?_)
      refine lv_goto (tgt := 4) C.1 C.2.1 dX1_add_83 (by decide) ?_
      have e0 : mt_add p (f + 1) i (n, σ) = mt_add p f (i + 1) (if i < σ.1 6 (σ.1 1 p) ∧ i < σ.1 6 (σ.1 2 p) then mt_put σ p n (σ.2 5 (σ.1 1 p * 40 + i) + σ.2 5 (σ.1 2 p * 40 + i)) else (n, σ)) := rfl
      rw [if_neg (fun z => absurd z.1 (by omega))] at e0
      rw [e0] at hv hτ
      exact ih (i + 1) n σ H locs ls (by omega) hn hb hv hτ h (lv_sub hl [0, 1, 2, 3] rfl)
    · refine lv_iload_n C.1 C.2.1 dX1_add_25 rfl (lv_at hl 0 rfl) ?_
      refine lv_aload_n C.1 C.2.1 dX1_add_26 rfl (lv_at hl 2 rfl) ?_
      refine mg6 C h dX1_add_27 ?_
      refine lv_aload_n C.1 C.2.1 dX1_add_30 rfl (lv_at hl 2 rfl) ?_
      refine mg2 C h dX1_add_31 ?_
      refine lv_iload_n C.1 C.2.1 dX1_add_34 rfl (lv_at hl 3 rfl) ?_
      refine ml2 (i := p) (w := σ.1 2 p) C h (by omega) rfl dX1_add_35 ?_
      refine ml6 (i := σ.1 2 p) (w := σ.1 6 (σ.1 2 p)) C h (by omega) rfl dX1_add_36 ?_
      refine wn_ge (tgt := 80) C.1 C.2.1 (by omega) (by omega) dX1_add_37 (by decide) (fun c37 => ?_) (fun c37 => ?_)
      · refine lv_iinc (v := nI (i + 1)) (lv' := [(3, .int (nI (i + 1))), (2, .int (nI n)), (0, .ref (ad 13)), (1, .int (nI p))]) C.1 C.2.1 dX1_add_80 hl (k := 0) rfl (wn_inc _) (by decide) rfl (fun ls hl => ?_)
        refine lv_goto (tgt := 4) C.1 C.2.1 dX1_add_83 (by decide) ?_
        have e0 : mt_add p (f + 1) i (n, σ) = mt_add p f (i + 1) (if i < σ.1 6 (σ.1 1 p) ∧ i < σ.1 6 (σ.1 2 p) then mt_put σ p n (σ.2 5 (σ.1 1 p * 40 + i) + σ.2 5 (σ.1 2 p * 40 + i)) else (n, σ)) := rfl
        rw [if_neg (fun z => absurd z.2 (by omega))] at e0
        rw [e0] at hv hτ
        exact ih (i + 1) n σ H locs ls (by omega) hn hb hv hτ h (lv_sub hl [0, 1, 2, 3] rfl)
      · refine lv_aload_n C.1 C.2.1 dX1_add_40 rfl (lv_at hl 2 rfl) ?_
        refine lv_iload_n C.1 C.2.1 dX1_add_41 rfl (lv_at hl 3 rfl) ?_
        refine lv_iload_n C.1 C.2.1 dX1_add_42 rfl (lv_at hl 1 rfl) ?_
        refine lv_aload_n C.1 C.2.1 dX1_add_43 rfl (lv_at hl 2 rfl) ?_
        refine mg5 C h dX1_add_44 ?_
        refine lv_aload_n C.1 C.2.1 dX1_add_47 rfl (lv_at hl 2 rfl) ?_
        refine mg1 C h dX1_add_48 ?_
        refine lv_iload_n C.1 C.2.1 dX1_add_51 rfl (lv_at hl 3 rfl) ?_
        refine ml1 (i := p) (w := σ.1 1 p) C h (by omega) rfl dX1_add_52 ?_
        refine lv_bipush (v := nI 40) C.1 C.2.1 dX1_add_53 (by decide) ?_
        refine wn_mul C.1 C.2.1 dX1_add_55 ?_
        refine lv_iload_n C.1 C.2.1 dX1_add_56 rfl (lv_at hl 0 rfl) ?_
        refine wn_add C.1 C.2.1 dX1_add_57 ?_
        refine ml5 (i := (σ.1 1 p) * 40 + i) (w := σ.2 5 ((σ.1 1 p) * 40 + i)) C h (by omega) rfl dX1_add_58 ?_
        refine lv_aload_n C.1 C.2.1 dX1_add_59 rfl (lv_at hl 2 rfl) ?_
        refine mg5 C h dX1_add_60 ?_
        refine lv_aload_n C.1 C.2.1 dX1_add_63 rfl (lv_at hl 2 rfl) ?_
        refine mg2 C h dX1_add_64 ?_
        refine lv_iload_n C.1 C.2.1 dX1_add_67 rfl (lv_at hl 3 rfl) ?_
        refine ml2 (i := p) (w := σ.1 2 p) C h (by omega) rfl dX1_add_68 ?_
        refine lv_bipush (v := nI 40) C.1 C.2.1 dX1_add_69 (by decide) ?_
        refine wn_mul C.1 C.2.1 dX1_add_71 ?_
        refine lv_iload_n C.1 C.2.1 dX1_add_72 rfl (lv_at hl 0 rfl) ?_
        refine wn_add C.1 C.2.1 dX1_add_73 ?_
        refine ml5 (i := (σ.1 2 p) * 40 + i) (w := σ.2 5 ((σ.1 2 p) * 40 + i)) C h (by omega) rfl dX1_add_74 ?_
        refine lv_iadd C.1 C.2.1 dX1_add_75 ?_
        refine mw_calli (n := 3) (As := [.int (nI p), .int (nI n), .int ((σ.2 5 ((σ.1 1 p) * 40 + i)) + (σ.2 5 ((σ.1 2 p) * 40 + i)))]) (rest := []) C hml h (m_put l D ad dA _ σ hp hn) q236 q238 qs19 q239 rfl (by decide +kernel) rfl rfl ⟨Nat.le_of_ble_eq_true rfl, Nat.le_of_ble_eq_true rfl⟩ rfl hl.1 rfl (Nat.le_of_ble_eq_true rfl) dX1_add_76 ⟨Nat.zero_le _, Nat.zero_le _⟩ (fun H locs h => ?_)
        refine lv_istore_n (lv' := [(2, .int (nI ((mt_put σ p n ((σ.2 5 ((σ.1 1 p) * 40 + i)) + (σ.2 5 ((σ.1 2 p) * 40 + i)))).1))), (3, .int (nI i)), (0, .ref (ad 13)), (1, .int (nI p))]) C.1 C.2.1 dX1_add_79 rfl hl (by decide) rfl (fun ls hl => ?_)
        refine lv_iinc (v := nI (i + 1)) (lv' := [(3, .int (nI (i + 1))), (2, .int (nI ((mt_put σ p n ((σ.2 5 ((σ.1 1 p) * 40 + i)) + (σ.2 5 ((σ.1 2 p) * 40 + i)))).1))), (0, .ref (ad 13)), (1, .int (nI p))]) C.1 C.2.1 dX1_add_80 hl (k := 1) rfl (wn_inc _) (by decide) rfl (fun ls hl => ?_)
        refine lv_goto (tgt := 4) C.1 C.2.1 dX1_add_83 (by decide) ?_
        have e0 : mt_add p (f + 1) i (n, σ) = mt_add p f (i + 1) (if i < σ.1 6 (σ.1 1 p) ∧ i < σ.1 6 (σ.1 2 p) then mt_put σ p n (σ.2 5 (σ.1 1 p * 40 + i) + σ.2 5 (σ.1 2 p * 40 + i)) else (n, σ)) := rfl
        rw [if_pos ⟨c22, c37⟩] at e0
        rw [e0] at hv hτ
        exact ih (i + 1) _ _ H locs ls (by omega) (mt_put_le hn) (mt_b_put hb) hv hτ h (lv_sub hl [0, 1, 2, 3] rfl)
set_option maxHeartbeats 4000000 in
set_option maxRecDepth 100000 in
theorem m_add (l : Launch) (D : va_G) (ad : Nat → Nat) (dA : ClassId) (sz : Nat) (σ : us_S) {p : Nat} (hp : p < 8) (hb : mt_b σ) : mw_Mi l yX1_add cX1_add 4 (some .int) ({ frames := 1, cells := 0, slots := 0, locals := 23 } : Room) D ad dA sz σ [.int (nI p)] (nI (mt_add p 40 0 (0, σ)).1) ((mt_add p 40 0 (0, σ)).2) := by
  refine mw_Mi_of (by decide) rfl (Nat.le_of_ble_eq_true rfl) (fun p_ e s m below meth c A ls C hml hr hlk h hl => ?_)
  have hl : lv_has ls 4 [(0, .ref (ad 13)), (1, .int (nI p))] := hl
  refine lv_iconst (v := nI 0) C.1 C.2.1 dX1_add_0 (by decide) ?_
  refine lv_istore_n (lv' := [(2, .int (nI 0)), (0, .ref (ad 13)), (1, .int (nI p))]) C.1 C.2.1 dX1_add_1 rfl hl (by decide) rfl (fun ls hl => ?_)
  refine lv_iconst (v := nI 0) C.1 C.2.1 dX1_add_2 (by decide) ?_
  refine lv_istore_n (lv' := [(3, .int (nI 0)), (2, .int (nI 0)), (0, .ref (ad 13)), (1, .int (nI p))]) C.1 C.2.1 dX1_add_3 rfl hl (by decide) rfl (fun ls hl => ?_)
  exact m_add_l C hml hr hlk hp 40 0 0 σ _ _ ls rfl (by decide) hb rfl rfl h hl
set_option maxHeartbeats 4000000 in
set_option maxRecDepth 100000 in
theorem m_turn_l {l : Launch} {D : va_G} {ad : Nat → Nat} {dA : ClassId} {p_ : Program} {e : Env} {s : State} {m : MethodId} {args : Array Value} {below : List Frame} {meth : Method} {c : Code} {A : Nat → Prop} (C : mw_C D dA p_ s m args c cX1_turn) (hml : c.maxLocals = 5) (hr : meth.sig.returnType = some .int) (hlk : meth.locks = false) {p : Nat} (hp : p < 8) {r : Int32} {τ : us_S} : ∀ (f : Nat) (i n : Nat) (σ : us_S) (H : Heap) (locs : List Loc) (ls : Array Slot), i + f = 40 → n ≤ 40 → mt_b σ → nI (mt_turn p f i (n, σ)).1 = r → (mt_turn p f i (n, σ)).2 = τ → mw_H D ad dA A s H locs σ → lv_has ls 5 [(3, .int (nI i)), (2, .int (nI n)), (0, .ref (ad 13)), (1, .int (nI p))] → W p_ l e ({ frames := 1, cells := 0, slots := 0, locals := 23 } : Room) s m args below meth c H locs 0 0 (MQ below (va_Qi (fun r' u => r' = r ∧ u = τ) (mw_B D ad dA A) A) args s 0 0 A) (F0 m 4 ls []) := by
  intro f
  induction f with
  | zero =>
    intro i n σ H locs ls hi hn hb hv hτ h hl
    refine lv_iload_n C.1 C.2.1 dX1_turn_4 rfl (lv_at hl 0 rfl) ?_
    refine lv_bipush (v := nI 40) C.1 C.2.1 dX1_turn_5 (by decide) ?_
    refine wn_ge (tgt := 78) C.1 C.2.1 (by omega) (by omega) dX1_turn_7 (by decide) (fun c7 => ?_) (fun z => absurd z (by omega))
    refine lv_iload_n C.1 C.2.1 dX1_turn_78 rfl (lv_at hl 1 rfl) ?_
    exact mw_iret C h hr hlk hv hτ dX1_turn_79
  | succ f ih =>
    intro i n σ H locs ls hi hn hb hv hτ h hl
    have hx : σ.1 1 p < 8 := (hb.1 p hp).2.1
    have hy : σ.1 2 p < 8 := (hb.1 p hp).2.2
    have k7 : σ.1 0 p ≤ 7 := (hb.1 p hp).1
    have bX : σ.1 6 (σ.1 1 p) ≤ 40 := hb.2 _ hx
    have bY : σ.1 6 (σ.1 2 p) ≤ 40 := hb.2 _ hy
    refine lv_iload_n C.1 C.2.1 dX1_turn_4 rfl (lv_at hl 0 rfl) ?_
    refine lv_bipush (v := nI 40) C.1 C.2.1 dX1_turn_5 (by decide) ?_
    refine wn_ge (tgt := 78) C.1 C.2.1 (by omega) (by omega) dX1_turn_7 (by decide) (fun z => absurd z (by omega)) (fun c7 => ?_)
    refine lv_iload_n C.1 C.2.1 dX1_turn_10 rfl (lv_at hl 0 rfl) ?_
    refine lv_iconst (v := nI 2) C.1 C.2.1 dX1_turn_11 (by decide) ?_
    refine wn_rem2 C.1 C.2.1 (by omega) dX1_turn_12 ?_
    refine wn_ifn (tgt := 25) C.1 C.2.1 (by omega) dX1_turn_13 (by decide) (fun c13 => ?_) (fun c13 => ?_)
    · refine lv_aload_n C.1 C.2.1 dX1_turn_25 rfl (lv_at hl 2 rfl) ?_
      refine mg2 C h dX1_turn_26 ?_
      refine lv_iload_n C.1 C.2.1 dX1_turn_29 rfl (lv_at hl 3 rfl) ?_
      refine ml2 (i := p) (w := σ.1 2 p) C h (by omega) rfl dX1_turn_30 ?_
      refine lv_istore (lv' := [(4, .int (nI (σ.1 2 p))), (3, .int (nI i)), (2, .int (nI n)), (0, .ref (ad 13)), (1, .int (nI p))]) C.1 C.2.1 dX1_turn_31 hl (by decide) rfl (fun ls hl => ?_)
      refine lv_iload_n C.1 C.2.1 dX1_turn_33 rfl (lv_at hl 2 rfl) ?_
      refine lv_iload_n C.1 C.2.1 dX1_turn_34 rfl (lv_at hl 1 rfl) ?_
      refine wn_ne (tgt := 72) C.1 C.2.1 (by omega) (by omega) dX1_turn_35 (by decide) (fun c35 => ?_) (fun c35 => ?_)
      · refine lv_iinc (v := nI (i + 1)) (lv' := [(3, .int (nI (i + 1))), (4, .int (nI (σ.1 2 p))), (2, .int (nI n)), (0, .ref (ad 13)), (1, .int (nI p))]) C.1 C.2.1 dX1_turn_72 hl (k := 1) rfl (wn_inc _) (by decide) rfl (fun ls hl => ?_)
        refine lv_goto (tgt := 4) C.1 C.2.1 dX1_turn_75 (by decide) ?_
        have ef : mt_from σ p i = σ.1 2 p := by unfold mt_from; rw [if_neg c13]
        have e0 : mt_turn p (f + 1) i (n, σ) = mt_turn p f (i + 1) (if n = i ∧ i / 2 < σ.1 6 (mt_from σ p i) then mt_put σ p n (σ.2 5 (mt_from σ p i * 40 + i / 2)) else (n, σ)) := rfl
        rw [ef] at e0
        rw [if_neg (fun z => c35 z.1)] at e0
        rw [e0] at hv hτ
        exact ih (i + 1) n σ H locs ls (by omega) hn hb hv hτ h (lv_sub hl [0, 2, 3, 4] rfl)
      · refine lv_iload_n C.1 C.2.1 dX1_turn_38 rfl (lv_at hl 1 rfl) ?_
        refine lv_iconst (v := nI 2) C.1 C.2.1 dX1_turn_39 (by decide) ?_
        refine wn_div2 C.1 C.2.1 (by omega) dX1_turn_40 ?_
        refine lv_aload_n C.1 C.2.1 dX1_turn_41 rfl (lv_at hl 3 rfl) ?_
        refine mg6 C h dX1_turn_42 ?_
        refine lv_iload C.1 C.2.1 dX1_turn_45 (lv_at hl 0 rfl) ?_
        refine ml6 (i := σ.1 2 p) (w := σ.1 6 (σ.1 2 p)) C h (by omega) rfl dX1_turn_47 ?_
        refine wn_ge (tgt := 72) C.1 C.2.1 (by omega) (by omega) dX1_turn_48 (by decide) (fun c48 => ?_) (fun c48 => ?_)
        · refine lv_iinc (v := nI (i + 1)) (lv' := [(3, .int (nI (i + 1))), (4, .int (nI (σ.1 2 p))), (2, .int (nI n)), (0, .ref (ad 13)), (1, .int (nI p))]) C.1 C.2.1 dX1_turn_72 hl (k := 1) rfl (wn_inc _) (by decide) rfl (fun ls hl => ?_)
          refine lv_goto (tgt := 4) C.1 C.2.1 dX1_turn_75 (by decide) ?_
          have ef : mt_from σ p i = σ.1 2 p := by unfold mt_from; rw [if_neg c13]
          have e0 : mt_turn p (f + 1) i (n, σ) = mt_turn p f (i + 1) (if n = i ∧ i / 2 < σ.1 6 (mt_from σ p i) then mt_put σ p n (σ.2 5 (mt_from σ p i * 40 + i / 2)) else (n, σ)) := rfl
          rw [ef] at e0
          rw [if_neg (fun z => absurd z.2 (by omega))] at e0
          rw [e0] at hv hτ
          exact ih (i + 1) n σ H locs ls (by omega) hn hb hv hτ h (lv_sub hl [0, 2, 3, 4] rfl)
        · refine lv_aload_n C.1 C.2.1 dX1_turn_51 rfl (lv_at hl 3 rfl) ?_
          refine lv_iload_n C.1 C.2.1 dX1_turn_52 rfl (lv_at hl 4 rfl) ?_
          refine lv_iload_n C.1 C.2.1 dX1_turn_53 rfl (lv_at hl 2 rfl) ?_
          refine lv_aload_n C.1 C.2.1 dX1_turn_54 rfl (lv_at hl 3 rfl) ?_
          refine mg5 C h dX1_turn_55 ?_
          refine lv_iload C.1 C.2.1 dX1_turn_58 (lv_at hl 0 rfl) ?_
          refine lv_bipush (v := nI 40) C.1 C.2.1 dX1_turn_60 (by decide) ?_
          refine wn_mul C.1 C.2.1 dX1_turn_62 ?_
          refine lv_iload_n C.1 C.2.1 dX1_turn_63 rfl (lv_at hl 1 rfl) ?_
          refine lv_iconst (v := nI 2) C.1 C.2.1 dX1_turn_64 (by decide) ?_
          refine wn_div2 C.1 C.2.1 (by omega) dX1_turn_65 ?_
          refine wn_add C.1 C.2.1 dX1_turn_66 ?_
          refine ml5 (i := (σ.1 2 p) * 40 + i / 2) (w := σ.2 5 ((σ.1 2 p) * 40 + i / 2)) C h (by omega) rfl dX1_turn_67 ?_
          refine mw_calli (n := 3) (As := [.int (nI p), .int (nI n), .int (σ.2 5 ((σ.1 2 p) * 40 + i / 2))]) (rest := []) C hml h (m_put l D ad dA _ σ hp hn) q236 q238 qs19 q239 rfl (by decide +kernel) rfl rfl ⟨Nat.le_of_ble_eq_true rfl, Nat.le_of_ble_eq_true rfl⟩ rfl hl.1 rfl (Nat.le_of_ble_eq_true rfl) dX1_turn_68 ⟨Nat.zero_le _, Nat.zero_le _⟩ (fun H locs h => ?_)
          refine lv_istore_n (lv' := [(2, .int (nI ((mt_put σ p n (σ.2 5 ((σ.1 2 p) * 40 + i / 2))).1))), (4, .int (nI (σ.1 2 p))), (3, .int (nI i)), (0, .ref (ad 13)), (1, .int (nI p))]) C.1 C.2.1 dX1_turn_71 rfl hl (by decide) rfl (fun ls hl => ?_)
          refine lv_iinc (v := nI (i + 1)) (lv' := [(3, .int (nI (i + 1))), (2, .int (nI ((mt_put σ p n (σ.2 5 ((σ.1 2 p) * 40 + i / 2))).1))), (4, .int (nI (σ.1 2 p))), (0, .ref (ad 13)), (1, .int (nI p))]) C.1 C.2.1 dX1_turn_72 hl (k := 2) rfl (wn_inc _) (by decide) rfl (fun ls hl => ?_)
          refine lv_goto (tgt := 4) C.1 C.2.1 dX1_turn_75 (by decide) ?_
          have ef : mt_from σ p i = σ.1 2 p := by unfold mt_from; rw [if_neg c13]
          have e0 : mt_turn p (f + 1) i (n, σ) = mt_turn p f (i + 1) (if n = i ∧ i / 2 < σ.1 6 (mt_from σ p i) then mt_put σ p n (σ.2 5 (mt_from σ p i * 40 + i / 2)) else (n, σ)) := rfl
          rw [ef] at e0
          rw [if_pos ⟨c35, c48⟩] at e0
          rw [e0] at hv hτ
          exact ih (i + 1) _ _ H locs ls (by omega) (mt_put_le hn) (mt_b_put hb) hv hτ h (lv_sub hl [0, 1, 3, 4] rfl)
    · refine lv_aload_n C.1 C.2.1 dX1_turn_16 rfl (lv_at hl 2 rfl) ?_
      refine mg1 C h dX1_turn_17 ?_
      refine lv_iload_n C.1 C.2.1 dX1_turn_20 rfl (lv_at hl 3 rfl) ?_
      refine ml1 (i := p) (w := σ.1 1 p) C h (by omega) rfl dX1_turn_21 ?_
      refine lv_goto (tgt := 31) C.1 C.2.1 dX1_turn_22 (by decide) ?_
      refine lv_istore (lv' := [(4, .int (nI (σ.1 1 p))), (3, .int (nI i)), (2, .int (nI n)), (0, .ref (ad 13)), (1, .int (nI p))]) C.1 C.2.1 dX1_turn_31 hl (by decide) rfl (fun ls hl => ?_)
      refine lv_iload_n C.1 C.2.1 dX1_turn_33 rfl (lv_at hl 2 rfl) ?_
      refine lv_iload_n C.1 C.2.1 dX1_turn_34 rfl (lv_at hl 1 rfl) ?_
      refine wn_ne (tgt := 72) C.1 C.2.1 (by omega) (by omega) dX1_turn_35 (by decide) (fun c35 => ?_) (fun c35 => ?_)
      · refine lv_iinc (v := nI (i + 1)) (lv' := [(3, .int (nI (i + 1))), (4, .int (nI (σ.1 1 p))), (2, .int (nI n)), (0, .ref (ad 13)), (1, .int (nI p))]) C.1 C.2.1 dX1_turn_72 hl (k := 1) rfl (wn_inc _) (by decide) rfl (fun ls hl => ?_)
        refine lv_goto (tgt := 4) C.1 C.2.1 dX1_turn_75 (by decide) ?_
        have ef : mt_from σ p i = σ.1 1 p := by unfold mt_from; rw [if_pos c13]
        have e0 : mt_turn p (f + 1) i (n, σ) = mt_turn p f (i + 1) (if n = i ∧ i / 2 < σ.1 6 (mt_from σ p i) then mt_put σ p n (σ.2 5 (mt_from σ p i * 40 + i / 2)) else (n, σ)) := rfl
        rw [ef] at e0
        rw [if_neg (fun z => c35 z.1)] at e0
        rw [e0] at hv hτ
        exact ih (i + 1) n σ H locs ls (by omega) hn hb hv hτ h (lv_sub hl [0, 2, 3, 4] rfl)
      · refine lv_iload_n C.1 C.2.1 dX1_turn_38 rfl (lv_at hl 1 rfl) ?_
        refine lv_iconst (v := nI 2) C.1 C.2.1 dX1_turn_39 (by decide) ?_
        refine wn_div2 C.1 C.2.1 (by omega) dX1_turn_40 ?_
        refine lv_aload_n C.1 C.2.1 dX1_turn_41 rfl (lv_at hl 3 rfl) ?_
        refine mg6 C h dX1_turn_42 ?_
        refine lv_iload C.1 C.2.1 dX1_turn_45 (lv_at hl 0 rfl) ?_
        refine ml6 (i := σ.1 1 p) (w := σ.1 6 (σ.1 1 p)) C h (by omega) rfl dX1_turn_47 ?_
        refine wn_ge (tgt := 72) C.1 C.2.1 (by omega) (by omega) dX1_turn_48 (by decide) (fun c48 => ?_) (fun c48 => ?_)
        · refine lv_iinc (v := nI (i + 1)) (lv' := [(3, .int (nI (i + 1))), (4, .int (nI (σ.1 1 p))), (2, .int (nI n)), (0, .ref (ad 13)), (1, .int (nI p))]) C.1 C.2.1 dX1_turn_72 hl (k := 1) rfl (wn_inc _) (by decide) rfl (fun ls hl => ?_)
          refine lv_goto (tgt := 4) C.1 C.2.1 dX1_turn_75 (by decide) ?_
          have ef : mt_from σ p i = σ.1 1 p := by unfold mt_from; rw [if_pos c13]
          have e0 : mt_turn p (f + 1) i (n, σ) = mt_turn p f (i + 1) (if n = i ∧ i / 2 < σ.1 6 (mt_from σ p i) then mt_put σ p n (σ.2 5 (mt_from σ p i * 40 + i / 2)) else (n, σ)) := rfl
          rw [ef] at e0
          rw [if_neg (fun z => absurd z.2 (by omega))] at e0
          rw [e0] at hv hτ
          exact ih (i + 1) n σ H locs ls (by omega) hn hb hv hτ h (lv_sub hl [0, 2, 3, 4] rfl)
        · refine lv_aload_n C.1 C.2.1 dX1_turn_51 rfl (lv_at hl 3 rfl) ?_
          refine lv_iload_n C.1 C.2.1 dX1_turn_52 rfl (lv_at hl 4 rfl) ?_
          refine lv_iload_n C.1 C.2.1 dX1_turn_53 rfl (lv_at hl 2 rfl) ?_
          refine lv_aload_n C.1 C.2.1 dX1_turn_54 rfl (lv_at hl 3 rfl) ?_
          refine mg5 C h dX1_turn_55 ?_
          refine lv_iload C.1 C.2.1 dX1_turn_58 (lv_at hl 0 rfl) ?_
          refine lv_bipush (v := nI 40) C.1 C.2.1 dX1_turn_60 (by decide) ?_
          refine wn_mul C.1 C.2.1 dX1_turn_62 ?_
          refine lv_iload_n C.1 C.2.1 dX1_turn_63 rfl (lv_at hl 1 rfl) ?_
          refine lv_iconst (v := nI 2) C.1 C.2.1 dX1_turn_64 (by decide) ?_
          refine wn_div2 C.1 C.2.1 (by omega) dX1_turn_65 ?_
          refine wn_add C.1 C.2.1 dX1_turn_66 ?_
          refine ml5 (i := (σ.1 1 p) * 40 + i / 2) (w := σ.2 5 ((σ.1 1 p) * 40 + i / 2)) C h (by omega) rfl dX1_turn_67 ?_
          refine mw_calli (n := 3) (As := [.int (nI p), .int (nI n), .int (σ.2 5 ((σ.1 1 p) * 40 + i / 2))]) (rest := []) C hml h (m_put l D ad dA _ σ hp hn) q236 q238 qs19 q239 rfl (by decide +kernel) rfl rfl ⟨Nat.le_of_ble_eq_true rfl, Nat.le_of_ble_eq_true rfl⟩ rfl hl.1 rfl (Nat.le_of_ble_eq_true rfl) dX1_turn_68 ⟨Nat.zero_le _, Nat.zero_le _⟩ (fun H locs h => ?_)
          refine lv_istore_n (lv' := [(2, .int (nI ((mt_put σ p n (σ.2 5 ((σ.1 1 p) * 40 + i / 2))).1))), (4, .int (nI (σ.1 1 p))), (3, .int (nI i)), (0, .ref (ad 13)), (1, .int (nI p))]) C.1 C.2.1 dX1_turn_71 rfl hl (by decide) rfl (fun ls hl => ?_)
          refine lv_iinc (v := nI (i + 1)) (lv' := [(3, .int (nI (i + 1))), (2, .int (nI ((mt_put σ p n (σ.2 5 ((σ.1 1 p) * 40 + i / 2))).1))), (4, .int (nI (σ.1 1 p))), (0, .ref (ad 13)), (1, .int (nI p))]) C.1 C.2.1 dX1_turn_72 hl (k := 2) rfl (wn_inc _) (by decide) rfl (fun ls hl => ?_)
          refine lv_goto (tgt := 4) C.1 C.2.1 dX1_turn_75 (by decide) ?_
          have ef : mt_from σ p i = σ.1 1 p := by unfold mt_from; rw [if_pos c13]
          have e0 : mt_turn p (f + 1) i (n, σ) = mt_turn p f (i + 1) (if n = i ∧ i / 2 < σ.1 6 (mt_from σ p i) then mt_put σ p n (σ.2 5 (mt_from σ p i * 40 + i / 2)) else (n, σ)) := rfl
          rw [ef] at e0
          rw [if_pos ⟨c35, c48⟩] at e0
          rw [e0] at hv hτ
          exact ih (i + 1) _ _ H locs ls (by omega) (mt_put_le hn) (mt_b_put hb) hv hτ h (lv_sub hl [0, 1, 3, 4] rfl)
set_option maxHeartbeats 4000000 in
set_option maxRecDepth 100000 in
theorem m_turn (l : Launch) (D : va_G) (ad : Nat → Nat) (dA : ClassId) (sz : Nat) (σ : us_S) {p : Nat} (hp : p < 8) (hb : mt_b σ) : mw_Mi l yX1_turn cX1_turn 5 (some .int) ({ frames := 1, cells := 0, slots := 0, locals := 23 } : Room) D ad dA sz σ [.int (nI p)] (nI (mt_turn p 40 0 (0, σ)).1) ((mt_turn p 40 0 (0, σ)).2) := by
  refine mw_Mi_of (by decide) rfl (Nat.le_of_ble_eq_true rfl) (fun p_ e s m below meth c A ls C hml hr hlk h hl => ?_)
  have hl : lv_has ls 5 [(0, .ref (ad 13)), (1, .int (nI p))] := hl
  refine lv_iconst (v := nI 0) C.1 C.2.1 dX1_turn_0 (by decide) ?_
  refine lv_istore_n (lv' := [(2, .int (nI 0)), (0, .ref (ad 13)), (1, .int (nI p))]) C.1 C.2.1 dX1_turn_1 rfl hl (by decide) rfl (fun ls hl => ?_)
  refine lv_iconst (v := nI 0) C.1 C.2.1 dX1_turn_2 (by decide) ?_
  refine lv_istore_n (lv' := [(3, .int (nI 0)), (2, .int (nI 0)), (0, .ref (ad 13)), (1, .int (nI p))]) C.1 C.2.1 dX1_turn_3 rfl hl (by decide) rfl (fun ls hl => ?_)
  exact m_turn_l C hml hr hlk hp 40 0 0 σ _ _ ls rfl (by decide) hb rfl rfl h hl
set_option maxHeartbeats 4000000 in
set_option maxRecDepth 100000 in
theorem m_merge_l {l : Launch} {D : va_G} {ad : Nat → Nat} {dA : ClassId} {p_ : Program} {e : Env} {s : State} {m : MethodId} {args : Array Value} {below : List Frame} {meth : Method} {c : Code} {A : Nat → Prop} (C : mw_C D dA p_ s m args c cX1_merge) (hml : c.maxLocals = 8) (hr : meth.sig.returnType = some .int) (hlk : meth.locks = false) {p : Nat} (hp : p < 8) {r : Int32} {τ : us_S} : ∀ (f : Nat) (k i j n : Nat) (σ : us_S) (H : Heap) (locs : List Loc) (ls : Array Slot), k + f = 40 → i ≤ k → j ≤ k → n ≤ 40 → mt_b σ → nI (mt_merge p f i j (n, σ)).1 = r → (mt_merge p f i j (n, σ)).2 = τ → mw_H D ad dA A s H locs σ → lv_has ls 8 [(5, .int (nI k)), (4, .int (nI j)), (3, .int (nI i)), (2, .int (nI n)), (0, .ref (ad 13)), (1, .int (nI p))] → W p_ l e ({ frames := 1, cells := 0, slots := 0, locals := 23 } : Room) s m args below meth c H locs 0 0 (MQ below (va_Qi (fun r' u => r' = r ∧ u = τ) (mw_B D ad dA A) A) args s 0 0 A) (F0 m 10 ls []) := by
  intro f
  induction f with
  | zero =>
    intro k i j n σ H locs ls hi hik hjk hn hb hv hτ h hl
    refine lv_iload C.1 C.2.1 dX1_merge_10 (lv_at hl 0 rfl) ?_
    refine lv_bipush (v := nI 40) C.1 C.2.1 dX1_merge_12 (by decide) ?_
    refine wn_ge (tgt := 125) C.1 C.2.1 (by omega) (by omega) dX1_merge_14 (by decide) (fun c14 => ?_) (fun z => absurd z (by omega))
    refine lv_iload_n C.1 C.2.1 dX1_merge_125 rfl (lv_at hl 3 rfl) ?_
    exact mw_iret C h hr hlk hv hτ dX1_merge_126
  | succ f ih =>
    intro k i j n σ H locs ls hi hik hjk hn hb hv hτ h hl
    have hx : σ.1 1 p < 8 := (hb.1 p hp).2.1
    have hy : σ.1 2 p < 8 := (hb.1 p hp).2.2
    have k7 : σ.1 0 p ≤ 7 := (hb.1 p hp).1
    have bX : σ.1 6 (σ.1 1 p) ≤ 40 := hb.2 _ hx
    have bY : σ.1 6 (σ.1 2 p) ≤ 40 := hb.2 _ hy
    refine lv_iload C.1 C.2.1 dX1_merge_10 (lv_at hl 0 rfl) ?_
    refine lv_bipush (v := nI 40) C.1 C.2.1 dX1_merge_12 (by decide) ?_
    refine wn_ge (tgt := 125) C.1 C.2.1 (by omega) (by omega) dX1_merge_14 (by decide) (fun z => absurd z (by omega)) (fun c14 => ?_)
    refine lv_iload_n C.1 C.2.1 dX1_merge_17 rfl (lv_at hl 2 rfl) ?_
    refine lv_aload_n C.1 C.2.1 dX1_merge_18 rfl (lv_at hl 4 rfl) ?_
    refine mg6 C h dX1_merge_19 ?_
    refine lv_aload_n C.1 C.2.1 dX1_merge_22 rfl (lv_at hl 4 rfl) ?_
    refine mg1 C h dX1_merge_23 ?_
    refine lv_iload_n C.1 C.2.1 dX1_merge_26 rfl (lv_at hl 5 rfl) ?_
    refine ml1 (i := p) (w := σ.1 1 p) C h (by omega) rfl dX1_merge_27 ?_
    refine ml6 (i := σ.1 1 p) (w := σ.1 6 (σ.1 1 p)) C h (by omega) rfl dX1_merge_28 ?_
    refine wn_ge (tgt := 119) C.1 C.2.1 (by omega) (by omega) dX1_merge_29 (by decide) (fun c29 => ?_) (fun c29 => ?_)
    · refine lv_iinc (v := nI (k + 1)) (lv' := [(5, .int (nI (k + 1))), (4, .int (nI j)), (3, .int (nI i)), (2, .int (nI n)), (0, .ref (ad 13)), (1, .int (nI p))]) C.1 C.2.1 dX1_merge_119 hl (k := 0) rfl (wn_inc _) (by decide) rfl (fun ls hl => ?_)
      refine lv_goto (tgt := 10) C.1 C.2.1 dX1_merge_122 (by decide) ?_
      have e0 : mt_merge p (f + 1) i j (n, σ) = (if i < σ.1 6 (σ.1 1 p) ∧ j < σ.1 6 (σ.1 2 p) then
          (if σ.2 5 (σ.1 2 p * 40 + j) < σ.2 5 (σ.1 1 p * 40 + i) then mt_merge p f i (j + 1) (mt_put σ p n (σ.2 5 (σ.1 2 p * 40 + j)))
           else mt_merge p f (i + 1) j (mt_put σ p n (σ.2 5 (σ.1 1 p * 40 + i))))
        else mt_merge p f i j (n, σ)) := rfl
      rw [if_neg (fun z => absurd z.1 (by omega))] at e0
      rw [e0] at hv hτ
      exact ih (k + 1) i j n σ H locs ls (by omega) (by omega) (by omega) hn hb hv hτ h (lv_sub hl [0, 1, 2, 3, 4, 5] rfl)
    · refine lv_iload C.1 C.2.1 dX1_merge_32 (lv_at hl 1 rfl) ?_
      refine lv_aload_n C.1 C.2.1 dX1_merge_34 rfl (lv_at hl 4 rfl) ?_
      refine mg6 C h dX1_merge_35 ?_
      refine lv_aload_n C.1 C.2.1 dX1_merge_38 rfl (lv_at hl 4 rfl) ?_
      refine mg2 C h dX1_merge_39 ?_
      refine lv_iload_n C.1 C.2.1 dX1_merge_42 rfl (lv_at hl 5 rfl) ?_
      refine ml2 (i := p) (w := σ.1 2 p) C h (by omega) rfl dX1_merge_43 ?_
      refine ml6 (i := σ.1 2 p) (w := σ.1 6 (σ.1 2 p)) C h (by omega) rfl dX1_merge_44 ?_
      refine wn_ge (tgt := 119) C.1 C.2.1 (by omega) (by omega) dX1_merge_45 (by decide) (fun c45 => ?_) (fun c45 => ?_)
      · refine lv_iinc (v := nI (k + 1)) (lv' := [(5, .int (nI (k + 1))), (4, .int (nI j)), (3, .int (nI i)), (2, .int (nI n)), (0, .ref (ad 13)), (1, .int (nI p))]) C.1 C.2.1 dX1_merge_119 hl (k := 0) rfl (wn_inc _) (by decide) rfl (fun ls hl => ?_)
        refine lv_goto (tgt := 10) C.1 C.2.1 dX1_merge_122 (by decide) ?_
        have e0 : mt_merge p (f + 1) i j (n, σ) = (if i < σ.1 6 (σ.1 1 p) ∧ j < σ.1 6 (σ.1 2 p) then
            (if σ.2 5 (σ.1 2 p * 40 + j) < σ.2 5 (σ.1 1 p * 40 + i) then mt_merge p f i (j + 1) (mt_put σ p n (σ.2 5 (σ.1 2 p * 40 + j)))
             else mt_merge p f (i + 1) j (mt_put σ p n (σ.2 5 (σ.1 1 p * 40 + i))))
          else mt_merge p f i j (n, σ)) := rfl
        rw [if_neg (fun z => absurd z.2 (by omega))] at e0
        rw [e0] at hv hτ
        exact ih (k + 1) i j n σ H locs ls (by omega) (by omega) (by omega) hn hb hv hτ h (lv_sub hl [0, 1, 2, 3, 4, 5] rfl)
      · refine lv_aload_n C.1 C.2.1 dX1_merge_48 rfl (lv_at hl 4 rfl) ?_
        refine mg5 C h dX1_merge_49 ?_
        refine lv_aload_n C.1 C.2.1 dX1_merge_52 rfl (lv_at hl 4 rfl) ?_
        refine mg1 C h dX1_merge_53 ?_
        refine lv_iload_n C.1 C.2.1 dX1_merge_56 rfl (lv_at hl 5 rfl) ?_
        refine ml1 (i := p) (w := σ.1 1 p) C h (by omega) rfl dX1_merge_57 ?_
        refine lv_bipush (v := nI 40) C.1 C.2.1 dX1_merge_58 (by decide) ?_
        refine wn_mul C.1 C.2.1 dX1_merge_60 ?_
        refine lv_iload_n C.1 C.2.1 dX1_merge_61 rfl (lv_at hl 2 rfl) ?_
        refine wn_add C.1 C.2.1 dX1_merge_62 ?_
        refine ml5 (i := (σ.1 1 p) * 40 + i) (w := σ.2 5 ((σ.1 1 p) * 40 + i)) C h (by omega) rfl dX1_merge_63 ?_
        refine lv_istore (lv' := [(6, .int (σ.2 5 ((σ.1 1 p) * 40 + i))), (5, .int (nI k)), (4, .int (nI j)), (3, .int (nI i)), (2, .int (nI n)), (0, .ref (ad 13)), (1, .int (nI p))]) C.1 C.2.1 dX1_merge_64 hl (by decide) rfl (fun ls hl => ?_)
        refine lv_aload_n C.1 C.2.1 dX1_merge_66 rfl (lv_at hl 5 rfl) ?_
        refine mg5 C h dX1_merge_67 ?_
        refine lv_aload_n C.1 C.2.1 dX1_merge_70 rfl (lv_at hl 5 rfl) ?_
        refine mg2 C h dX1_merge_71 ?_
        refine lv_iload_n C.1 C.2.1 dX1_merge_74 rfl (lv_at hl 6 rfl) ?_
        refine ml2 (i := p) (w := σ.1 2 p) C h (by omega) rfl dX1_merge_75 ?_
        refine lv_bipush (v := nI 40) C.1 C.2.1 dX1_merge_76 (by decide) ?_
        refine wn_mul C.1 C.2.1 dX1_merge_78 ?_
        refine lv_iload C.1 C.2.1 dX1_merge_79 (lv_at hl 2 rfl) ?_
        refine wn_add C.1 C.2.1 dX1_merge_81 ?_
        refine ml5 (i := (σ.1 2 p) * 40 + j) (w := σ.2 5 ((σ.1 2 p) * 40 + j)) C h (by omega) rfl dX1_merge_82 ?_
        refine lv_istore (lv' := [(7, .int (σ.2 5 ((σ.1 2 p) * 40 + j))), (6, .int (σ.2 5 ((σ.1 1 p) * 40 + i))), (5, .int (nI k)), (4, .int (nI j)), (3, .int (nI i)), (2, .int (nI n)), (0, .ref (ad 13)), (1, .int (nI p))]) C.1 C.2.1 dX1_merge_83 hl (by decide) rfl (fun ls hl => ?_)
        refine lv_iload C.1 C.2.1 dX1_merge_85 (lv_at hl 0 rfl) ?_
        refine lv_iload C.1 C.2.1 dX1_merge_87 (lv_at hl 1 rfl) ?_
        refine lv_icmp_ge (tgt := 107) C.1 C.2.1 dX1_merge_89 (by decide) (fun c89 => ?_) (fun c89 => ?_)
        · refine lv_aload_n C.1 C.2.1 dX1_merge_107 rfl (lv_at hl 6 rfl) ?_
          refine lv_iload_n C.1 C.2.1 dX1_merge_108 rfl (lv_at hl 7 rfl) ?_
          refine lv_iload_n C.1 C.2.1 dX1_merge_109 rfl (lv_at hl 5 rfl) ?_
          refine lv_iload C.1 C.2.1 dX1_merge_110 (lv_at hl 1 rfl) ?_
          refine mw_calli (n := 3) (As := [.int (nI p), .int (nI n), .int (σ.2 5 ((σ.1 1 p) * 40 + i))]) (rest := []) C hml h (m_put l D ad dA _ σ hp hn) q236 q238 qs19 q239 rfl (by decide +kernel) rfl rfl ⟨Nat.le_of_ble_eq_true rfl, Nat.le_of_ble_eq_true rfl⟩ rfl hl.1 rfl (Nat.le_of_ble_eq_true rfl) dX1_merge_112 ⟨Nat.zero_le _, Nat.zero_le _⟩ (fun H locs h => ?_)
          refine lv_istore_n (lv' := [(2, .int (nI ((mt_put σ p n (σ.2 5 ((σ.1 1 p) * 40 + i))).1))), (7, .int (σ.2 5 ((σ.1 2 p) * 40 + j))), (6, .int (σ.2 5 ((σ.1 1 p) * 40 + i))), (5, .int (nI k)), (4, .int (nI j)), (3, .int (nI i)), (0, .ref (ad 13)), (1, .int (nI p))]) C.1 C.2.1 dX1_merge_115 rfl hl (by decide) rfl (fun ls hl => ?_)
          refine lv_iinc (v := nI (i + 1)) (lv' := [(3, .int (nI (i + 1))), (2, .int (nI ((mt_put σ p n (σ.2 5 ((σ.1 1 p) * 40 + i))).1))), (7, .int (σ.2 5 ((σ.1 2 p) * 40 + j))), (6, .int (σ.2 5 ((σ.1 1 p) * 40 + i))), (5, .int (nI k)), (4, .int (nI j)), (0, .ref (ad 13)), (1, .int (nI p))]) C.1 C.2.1 dX1_merge_116 hl (k := 5) rfl (wn_inc _) (by decide) rfl (fun ls hl => ?_)
          refine lv_iinc (v := nI (k + 1)) (lv' := [(5, .int (nI (k + 1))), (3, .int (nI (i + 1))), (2, .int (nI ((mt_put σ p n (σ.2 5 ((σ.1 1 p) * 40 + i))).1))), (7, .int (σ.2 5 ((σ.1 2 p) * 40 + j))), (6, .int (σ.2 5 ((σ.1 1 p) * 40 + i))), (4, .int (nI j)), (0, .ref (ad 13)), (1, .int (nI p))]) C.1 C.2.1 dX1_merge_119 hl (k := 4) rfl (wn_inc _) (by decide) rfl (fun ls hl => ?_)
          refine lv_goto (tgt := 10) C.1 C.2.1 dX1_merge_122 (by decide) ?_
          have e0 : mt_merge p (f + 1) i j (n, σ) = (if i < σ.1 6 (σ.1 1 p) ∧ j < σ.1 6 (σ.1 2 p) then
              (if σ.2 5 (σ.1 2 p * 40 + j) < σ.2 5 (σ.1 1 p * 40 + i) then mt_merge p f i (j + 1) (mt_put σ p n (σ.2 5 (σ.1 2 p * 40 + j)))
               else mt_merge p f (i + 1) j (mt_put σ p n (σ.2 5 (σ.1 1 p * 40 + i))))
            else mt_merge p f i j (n, σ)) := rfl
          rw [if_pos ⟨c29, c45⟩, if_neg (Int32.not_lt.mpr c89)] at e0
          rw [e0] at hv hτ
          exact ih (k + 1) (i + 1) j _ _ H locs ls (by omega) (by omega) (by omega) (mt_put_le hn) (mt_b_put hb) hv hτ h (lv_sub hl [0, 5, 1, 2, 6, 7] rfl)
        · refine lv_aload_n C.1 C.2.1 dX1_merge_92 rfl (lv_at hl 6 rfl) ?_
          refine lv_iload_n C.1 C.2.1 dX1_merge_93 rfl (lv_at hl 7 rfl) ?_
          refine lv_iload_n C.1 C.2.1 dX1_merge_94 rfl (lv_at hl 5 rfl) ?_
          refine lv_iload C.1 C.2.1 dX1_merge_95 (lv_at hl 0 rfl) ?_
          refine mw_calli (n := 3) (As := [.int (nI p), .int (nI n), .int (σ.2 5 ((σ.1 2 p) * 40 + j))]) (rest := []) C hml h (m_put l D ad dA _ σ hp hn) q236 q238 qs19 q239 rfl (by decide +kernel) rfl rfl ⟨Nat.le_of_ble_eq_true rfl, Nat.le_of_ble_eq_true rfl⟩ rfl hl.1 rfl (Nat.le_of_ble_eq_true rfl) dX1_merge_97 ⟨Nat.zero_le _, Nat.zero_le _⟩ (fun H locs h => ?_)
          refine lv_istore_n (lv' := [(2, .int (nI ((mt_put σ p n (σ.2 5 ((σ.1 2 p) * 40 + j))).1))), (7, .int (σ.2 5 ((σ.1 2 p) * 40 + j))), (6, .int (σ.2 5 ((σ.1 1 p) * 40 + i))), (5, .int (nI k)), (4, .int (nI j)), (3, .int (nI i)), (0, .ref (ad 13)), (1, .int (nI p))]) C.1 C.2.1 dX1_merge_100 rfl hl (by decide) rfl (fun ls hl => ?_)
          refine lv_iinc (v := nI (j + 1)) (lv' := [(4, .int (nI (j + 1))), (2, .int (nI ((mt_put σ p n (σ.2 5 ((σ.1 2 p) * 40 + j))).1))), (7, .int (σ.2 5 ((σ.1 2 p) * 40 + j))), (6, .int (σ.2 5 ((σ.1 1 p) * 40 + i))), (5, .int (nI k)), (3, .int (nI i)), (0, .ref (ad 13)), (1, .int (nI p))]) C.1 C.2.1 dX1_merge_101 hl (k := 4) rfl (wn_inc _) (by decide) rfl (fun ls hl => ?_)
          refine lv_goto (tgt := 119) C.1 C.2.1 dX1_merge_104 (by decide) ?_
          refine lv_iinc (v := nI (k + 1)) (lv' := [(5, .int (nI (k + 1))), (4, .int (nI (j + 1))), (2, .int (nI ((mt_put σ p n (σ.2 5 ((σ.1 2 p) * 40 + j))).1))), (7, .int (σ.2 5 ((σ.1 2 p) * 40 + j))), (6, .int (σ.2 5 ((σ.1 1 p) * 40 + i))), (3, .int (nI i)), (0, .ref (ad 13)), (1, .int (nI p))]) C.1 C.2.1 dX1_merge_119 hl (k := 4) rfl (wn_inc _) (by decide) rfl (fun ls hl => ?_)
          refine lv_goto (tgt := 10) C.1 C.2.1 dX1_merge_122 (by decide) ?_
          have e0 : mt_merge p (f + 1) i j (n, σ) = (if i < σ.1 6 (σ.1 1 p) ∧ j < σ.1 6 (σ.1 2 p) then
              (if σ.2 5 (σ.1 2 p * 40 + j) < σ.2 5 (σ.1 1 p * 40 + i) then mt_merge p f i (j + 1) (mt_put σ p n (σ.2 5 (σ.1 2 p * 40 + j)))
               else mt_merge p f (i + 1) j (mt_put σ p n (σ.2 5 (σ.1 1 p * 40 + i))))
            else mt_merge p f i j (n, σ)) := rfl
          rw [if_pos ⟨c29, c45⟩, if_pos (Int32.not_le.mp c89)] at e0
          rw [e0] at hv hτ
          exact ih (k + 1) i (j + 1) _ _ H locs ls (by omega) (by omega) (by omega) (mt_put_le hn) (mt_b_put hb) hv hτ h (lv_sub hl [0, 1, 5, 2, 6, 7] rfl)
set_option maxHeartbeats 4000000 in
set_option maxRecDepth 100000 in
theorem m_merge (l : Launch) (D : va_G) (ad : Nat → Nat) (dA : ClassId) (sz : Nat) (σ : us_S) {p : Nat} (hp : p < 8) (hb : mt_b σ) : mw_Mi l yX1_merge cX1_merge 8 (some .int) ({ frames := 1, cells := 0, slots := 0, locals := 23 } : Room) D ad dA sz σ [.int (nI p)] (nI (mt_merge p 40 0 0 (0, σ)).1) ((mt_merge p 40 0 0 (0, σ)).2) := by
  refine mw_Mi_of (by decide) rfl (Nat.le_of_ble_eq_true rfl) (fun p_ e s m below meth c A ls C hml hr hlk h hl => ?_)
  have hl : lv_has ls 8 [(0, .ref (ad 13)), (1, .int (nI p))] := hl
  refine lv_iconst (v := nI 0) C.1 C.2.1 dX1_merge_0 (by decide) ?_
  refine lv_istore_n (lv' := [(2, .int (nI 0)), (0, .ref (ad 13)), (1, .int (nI p))]) C.1 C.2.1 dX1_merge_1 rfl hl (by decide) rfl (fun ls hl => ?_)
  refine lv_iconst (v := nI 0) C.1 C.2.1 dX1_merge_2 (by decide) ?_
  refine lv_istore_n (lv' := [(3, .int (nI 0)), (2, .int (nI 0)), (0, .ref (ad 13)), (1, .int (nI p))]) C.1 C.2.1 dX1_merge_3 rfl hl (by decide) rfl (fun ls hl => ?_)
  refine lv_iconst (v := nI 0) C.1 C.2.1 dX1_merge_4 (by decide) ?_
  refine lv_istore (lv' := [(4, .int (nI 0)), (3, .int (nI 0)), (2, .int (nI 0)), (0, .ref (ad 13)), (1, .int (nI p))]) C.1 C.2.1 dX1_merge_5 hl (by decide) rfl (fun ls hl => ?_)
  refine lv_iconst (v := nI 0) C.1 C.2.1 dX1_merge_7 (by decide) ?_
  refine lv_istore (lv' := [(5, .int (nI 0)), (4, .int (nI 0)), (3, .int (nI 0)), (2, .int (nI 0)), (0, .ref (ad 13)), (1, .int (nI p))]) C.1 C.2.1 dX1_merge_8 hl (by decide) rfl (fun ls hl => ?_)
  exact m_merge_l C hml hr hlk hp 40 0 0 0 0 σ _ _ ls rfl (Nat.le_refl _) (Nat.le_refl _) (by decide) hb rfl rfl h hl
set_option maxHeartbeats 4000000 in
set_option maxRecDepth 100000 in
theorem m_one_l {l : Launch} {D : va_G} {ad : Nat → Nat} {dA : ClassId} {p_ : Program} {e : Env} {s : State} {m : MethodId} {args : Array Value} {below : List Frame} {meth : Method} {c : Code} {A : Nat → Prop} (C : mw_C D dA p_ s m args c cX1_one) (hml : c.maxLocals = 8) (hr : meth.sig.returnType = some .int) (hlk : meth.locks = false) {p x hv_ : Nat} (hp : p < 8) {r : Int32} {τ : us_S} : ∀ (f : Nat) (i n : Nat) (t : Int32) (σ : us_S) (H : Heap) (locs : List Loc) (ls : Array Slot), i + f = hv_ → hv_ ≤ 40 → x < 8 → n ≤ 40 → mt_b σ → nI (mt_one p x f i t (n, σ)).1 = r → (mt_one p x f i t (n, σ)).2 = τ → mw_H D ad dA A s H locs σ → lv_has ls 8 [(6, .int (nI i)), (5, .int t), (4, .int (nI n)), (3, .int (nI hv_)), (2, .int (nI x)), (0, .ref (ad 13)), (1, .int (nI p))] → W p_ l e ({ frames := 1, cells := 0, slots := 0, locals := 23 } : Room) s m args below meth c H locs 0 0 (MQ below (va_Qi (fun r' u => r' = r ∧ u = τ) (mw_B D ad dA A) A) args s 0 0 A) (F0 m 114 ls []) := by
  intro f
  induction f with
  | zero =>
    intro i n t σ H locs ls hi h40 hx hn hb hv hτ h hl
    refine lv_iload C.1 C.2.1 dX1_one_114 (lv_at hl 0 rfl) ?_
    refine lv_iload_n C.1 C.2.1 dX1_one_116 rfl (lv_at hl 3 rfl) ?_
    refine wn_ge (tgt := 191) C.1 C.2.1 (by omega) (by omega) dX1_one_117 (by decide) (fun c117 => ?_) (fun z => absurd z (by omega))
    refine lv_iload C.1 C.2.1 dX1_one_191 (lv_at hl 2 rfl) ?_
    exact mw_iret C h hr hlk hv hτ dX1_one_193
  | succ f ih =>
    intro i n t σ H locs ls hi h40 hx hn hb hv hτ h hl
    have k7 : σ.1 0 p ≤ 7 := (hb.1 p hp).1
    refine lv_iload C.1 C.2.1 dX1_one_114 (lv_at hl 0 rfl) ?_
    refine lv_iload_n C.1 C.2.1 dX1_one_116 rfl (lv_at hl 3 rfl) ?_
    refine wn_ge (tgt := 191) C.1 C.2.1 (by omega) (by omega) dX1_one_117 (by decide) (fun z => absurd z (by omega)) (fun c117 => ?_)
    refine lv_aload_n C.1 C.2.1 dX1_one_120 rfl (lv_at hl 5 rfl) ?_
    refine mg5 C h dX1_one_121 ?_
    refine lv_iload_n C.1 C.2.1 dX1_one_124 rfl (lv_at hl 4 rfl) ?_
    refine lv_bipush (v := nI 40) C.1 C.2.1 dX1_one_125 (by decide) ?_
    refine wn_mul C.1 C.2.1 dX1_one_127 ?_
    refine lv_iload C.1 C.2.1 dX1_one_128 (lv_at hl 0 rfl) ?_
    refine wn_add C.1 C.2.1 dX1_one_130 ?_
    refine ml5 (i := x * 40 + i) (w := σ.2 5 (x * 40 + i)) C h (by omega) rfl dX1_one_131 ?_
    refine lv_istore (lv' := [(7, .int (σ.2 5 (x * 40 + i))), (6, .int (nI i)), (5, .int t), (4, .int (nI n)), (3, .int (nI hv_)), (2, .int (nI x)), (0, .ref (ad 13)), (1, .int (nI p))]) C.1 C.2.1 dX1_one_132 hl (by decide) rfl (fun ls hl => ?_)
    refine lv_iload C.1 C.2.1 dX1_one_134 (lv_at hl 2 rfl) ?_
    refine lv_iload C.1 C.2.1 dX1_one_136 (lv_at hl 0 rfl) ?_
    refine lv_iadd C.1 C.2.1 dX1_one_138 ?_
    refine lv_istore (lv' := [(5, .int (t + (σ.2 5 (x * 40 + i)))), (7, .int (σ.2 5 (x * 40 + i))), (6, .int (nI i)), (4, .int (nI n)), (3, .int (nI hv_)), (2, .int (nI x)), (0, .ref (ad 13)), (1, .int (nI p))]) C.1 C.2.1 dX1_one_139 hl (by decide) rfl (fun ls hl => ?_)
    refine lv_aload_n C.1 C.2.1 dX1_one_141 rfl (lv_at hl 6 rfl) ?_
    refine mg0 C h dX1_one_142 ?_
    refine lv_iload_n C.1 C.2.1 dX1_one_145 rfl (lv_at hl 7 rfl) ?_
    refine ml0 (i := p) (w := σ.1 0 p) C h (by omega) rfl dX1_one_146 ?_
    refine lv_bipush (v := nI 7) C.1 C.2.1 dX1_one_147 (by decide) ?_
    refine wn_ne (tgt := 166) C.1 C.2.1 (by omega) (by omega) dX1_one_149 (by decide) (fun c149 => ?_) (fun c149 => ?_)
    · refine lv_iload C.1 C.2.1 dX1_one_166 (lv_at hl 1 rfl) ?_
      refine lv_iconst (v := nI 1) C.1 C.2.1 dX1_one_168 (by decide) ?_
      refine lv_iand C.1 C.2.1 dX1_one_169 ?_
      refine lv_iconst (v := nI 1) C.1 C.2.1 dX1_one_170 (by decide) ?_
      refine lv_icmp_ne (tgt := 185) C.1 C.2.1 dX1_one_171 (by decide) (fun c171 => ?_) (fun c171 => ?_)
      · refine lv_iinc (v := nI (i + 1)) (lv' := [(6, .int (nI (i + 1))), (5, .int (t + (σ.2 5 (x * 40 + i)))), (7, .int (σ.2 5 (x * 40 + i))), (4, .int (nI n)), (3, .int (nI hv_)), (2, .int (nI x)), (0, .ref (ad 13)), (1, .int (nI p))]) C.1 C.2.1 dX1_one_185 hl (k := 2) rfl (wn_inc _) (by decide) rfl (fun ls hl => ?_)
        refine lv_goto (tgt := 114) C.1 C.2.1 dX1_one_188 (by decide) ?_
        have e0 : mt_one p x (f + 1) i t (n, σ) = mt_one p x f (i + 1) (t + σ.2 5 (x * 40 + i)) (if σ.1 0 p = 7 then mt_put σ p n (t + σ.2 5 (x * 40 + i)) else if σ.2 5 (x * 40 + i) &&& 1 = 1 then mt_put σ p n (σ.2 5 (x * 40 + i)) else (n, σ)) := rfl
        rw [if_neg c149, if_neg (show ¬ σ.2 5 (x * 40 + i) &&& 1 = 1 from c171)] at e0
        rw [e0] at hv hτ
        exact ih (i + 1) n _ σ H locs ls (by omega) h40 hx hn hb hv hτ h (lv_sub hl [0, 1, 3, 4, 5, 6, 7] rfl)
      · refine lv_aload_n C.1 C.2.1 dX1_one_174 rfl (lv_at hl 6 rfl) ?_
        refine lv_iload_n C.1 C.2.1 dX1_one_175 rfl (lv_at hl 7 rfl) ?_
        refine lv_iload C.1 C.2.1 dX1_one_176 (lv_at hl 3 rfl) ?_
        refine lv_iload C.1 C.2.1 dX1_one_178 (lv_at hl 1 rfl) ?_
        refine mw_calli (n := 3) (As := [.int (nI p), .int (nI n), .int (σ.2 5 (x * 40 + i))]) (rest := []) C hml h (m_put l D ad dA _ σ hp hn) q236 q238 qs19 q239 rfl (by decide +kernel) rfl rfl ⟨Nat.le_of_ble_eq_true rfl, Nat.le_of_ble_eq_true rfl⟩ rfl hl.1 rfl (Nat.le_of_ble_eq_true rfl) dX1_one_180 ⟨Nat.zero_le _, Nat.zero_le _⟩ (fun H locs h => ?_)
        refine lv_istore (lv' := [(4, .int (nI ((mt_put σ p n (σ.2 5 (x * 40 + i))).1))), (5, .int (t + (σ.2 5 (x * 40 + i)))), (7, .int (σ.2 5 (x * 40 + i))), (6, .int (nI i)), (3, .int (nI hv_)), (2, .int (nI x)), (0, .ref (ad 13)), (1, .int (nI p))]) C.1 C.2.1 dX1_one_183 hl (by decide) rfl (fun ls hl => ?_)
        refine lv_iinc (v := nI (i + 1)) (lv' := [(6, .int (nI (i + 1))), (4, .int (nI ((mt_put σ p n (σ.2 5 (x * 40 + i))).1))), (5, .int (t + (σ.2 5 (x * 40 + i)))), (7, .int (σ.2 5 (x * 40 + i))), (3, .int (nI hv_)), (2, .int (nI x)), (0, .ref (ad 13)), (1, .int (nI p))]) C.1 C.2.1 dX1_one_185 hl (k := 3) rfl (wn_inc _) (by decide) rfl (fun ls hl => ?_)
        refine lv_goto (tgt := 114) C.1 C.2.1 dX1_one_188 (by decide) ?_
        have e0 : mt_one p x (f + 1) i t (n, σ) = mt_one p x f (i + 1) (t + σ.2 5 (x * 40 + i)) (if σ.1 0 p = 7 then mt_put σ p n (t + σ.2 5 (x * 40 + i)) else if σ.2 5 (x * 40 + i) &&& 1 = 1 then mt_put σ p n (σ.2 5 (x * 40 + i)) else (n, σ)) := rfl
        rw [if_neg c149, if_pos (show σ.2 5 (x * 40 + i) &&& 1 = 1 from c171)] at e0
        rw [e0] at hv hτ
        exact ih (i + 1) _ _ _ H locs ls (by omega) h40 hx (mt_put_le hn) (mt_b_put hb) hv hτ h (lv_sub hl [0, 2, 1, 4, 5, 6, 7] rfl)
    · refine lv_aload_n C.1 C.2.1 dX1_one_152 rfl (lv_at hl 6 rfl) ?_
      refine lv_iload_n C.1 C.2.1 dX1_one_153 rfl (lv_at hl 7 rfl) ?_
      refine lv_iload C.1 C.2.1 dX1_one_154 (lv_at hl 3 rfl) ?_
      refine lv_iload C.1 C.2.1 dX1_one_156 (lv_at hl 0 rfl) ?_
      refine mw_calli (n := 3) (As := [.int (nI p), .int (nI n), .int (t + (σ.2 5 (x * 40 + i)))]) (rest := []) C hml h (m_put l D ad dA _ σ hp hn) q236 q238 qs19 q239 rfl (by decide +kernel) rfl rfl ⟨Nat.le_of_ble_eq_true rfl, Nat.le_of_ble_eq_true rfl⟩ rfl hl.1 rfl (Nat.le_of_ble_eq_true rfl) dX1_one_158 ⟨Nat.zero_le _, Nat.zero_le _⟩ (fun H locs h => ?_)
      refine lv_istore (lv' := [(4, .int (nI ((mt_put σ p n (t + (σ.2 5 (x * 40 + i)))).1))), (5, .int (t + (σ.2 5 (x * 40 + i)))), (7, .int (σ.2 5 (x * 40 + i))), (6, .int (nI i)), (3, .int (nI hv_)), (2, .int (nI x)), (0, .ref (ad 13)), (1, .int (nI p))]) C.1 C.2.1 dX1_one_161 hl (by decide) rfl (fun ls hl => ?_)
      refine lv_goto (tgt := 185) C.1 C.2.1 dX1_one_163 (by decide) ?_
      refine lv_iinc (v := nI (i + 1)) (lv' := [(6, .int (nI (i + 1))), (4, .int (nI ((mt_put σ p n (t + (σ.2 5 (x * 40 + i)))).1))), (5, .int (t + (σ.2 5 (x * 40 + i)))), (7, .int (σ.2 5 (x * 40 + i))), (3, .int (nI hv_)), (2, .int (nI x)), (0, .ref (ad 13)), (1, .int (nI p))]) C.1 C.2.1 dX1_one_185 hl (k := 3) rfl (wn_inc _) (by decide) rfl (fun ls hl => ?_)
      refine lv_goto (tgt := 114) C.1 C.2.1 dX1_one_188 (by decide) ?_
      have e0 : mt_one p x (f + 1) i t (n, σ) = mt_one p x f (i + 1) (t + σ.2 5 (x * 40 + i)) (if σ.1 0 p = 7 then mt_put σ p n (t + σ.2 5 (x * 40 + i)) else if σ.2 5 (x * 40 + i) &&& 1 = 1 then mt_put σ p n (σ.2 5 (x * 40 + i)) else (n, σ)) := rfl
      rw [if_pos c149] at e0
      rw [e0] at hv hτ
      exact ih (i + 1) _ _ _ H locs ls (by omega) h40 hx (mt_put_le hn) (mt_b_put hb) hv hτ h (lv_sub hl [0, 2, 1, 4, 5, 6, 7] rfl)
set_option maxHeartbeats 4000000 in
set_option maxRecDepth 100000 in
theorem m_del_l {l : Launch} {D : va_G} {ad : Nat → Nat} {dA : ClassId} {p_ : Program} {e : Env} {s : State} {m : MethodId} {args : Array Value} {below : List Frame} {meth : Method} {c : Code} {A : Nat → Prop} (C : mw_C D dA p_ s m args c cX1_one) (hml : c.maxLocals = 8) (hr : meth.sig.returnType = some .int) (hlk : meth.locks = false) {p x hv_ : Nat} (hp : p < 8) {r : Int32} {τ : us_S} : ∀ (f : Nat) (σ : us_S) (H : Heap) (locs : List Loc) (ls : Array Slot), f ≤ 39 → hv_ ≤ 40 → x < 8 → nI (if hv_ < 39 then hv_ + 1 else 40) = r → us_V (mt_del p x f σ) 5 (p * 40) ((mt_del p x f σ).2 3 p) = τ → mw_H D ad dA A s H locs σ → lv_has ls 8 [(6, .int (nI f)), (3, .int (nI hv_)), (2, .int (nI x)), (0, .ref (ad 13)), (1, .int (nI p))] → W p_ l e ({ frames := 1, cells := 0, slots := 0, locals := 23 } : Room) s m args below meth c H locs 0 0 (MQ below (va_Qi (fun r' u => r' = r ∧ u = τ) (mw_B D ad dA A) A) args s 0 0 A) (F0 m 44 ls []) := by
  intro f
  induction f with
  | zero =>
    intro σ H locs ls hf h40 hx hv hτ h hl
    refine lv_iload C.1 C.2.1 dX1_one_44 (lv_at hl 0 rfl) ?_
    refine wn_ifle (tgt := 81) C.1 C.2.1 (by omega) dX1_one_46 (by decide) (fun _ => ?_) (fun z => absurd z (by decide))
    refine lv_aload_n C.1 C.2.1 dX1_one_81 rfl (lv_at hl 3 rfl) ?_
    refine mg5 C h dX1_one_82 ?_
    refine lv_iload_n C.1 C.2.1 dX1_one_85 rfl (lv_at hl 4 rfl) ?_
    refine lv_bipush (v := nI 40) C.1 C.2.1 dX1_one_86 (by decide) ?_
    refine wn_mul C.1 C.2.1 dX1_one_88 ?_
    refine lv_aload_n C.1 C.2.1 dX1_one_89 rfl (lv_at hl 3 rfl) ?_
    refine mg3 C h dX1_one_90 ?_
    refine lv_iload_n C.1 C.2.1 dX1_one_93 rfl (lv_at hl 4 rfl) ?_
    refine ml3 (i := p) (w := σ.2 3 p) C h (by omega) rfl dX1_one_94 ?_
    refine ms5 (i := p * 40) (v := σ.2 3 p) C h (by omega) dX1_one_95 (fun H locs h => ?_)
    refine lv_iload_n C.1 C.2.1 dX1_one_96 rfl (lv_at hl 1 rfl) ?_
    refine lv_bipush (v := nI 39) C.1 C.2.1 dX1_one_97 (by decide) ?_
    refine wn_ge (tgt := 108) C.1 C.2.1 (by omega) (by omega) dX1_one_99 (by decide) (fun c99 => ?_) (fun c99 => ?_)
    · refine lv_bipush (v := nI 40) C.1 C.2.1 dX1_one_108 (by decide) ?_
      exact mw_iret C h hr hlk (by rw [if_neg (show ¬ hv_ < 39 by omega)] at hv; exact hv) hτ dX1_one_110
    · refine lv_iload_n C.1 C.2.1 dX1_one_102 rfl (lv_at hl 1 rfl) ?_
      refine lv_iconst (v := nI 1) C.1 C.2.1 dX1_one_103 (by decide) ?_
      refine wn_add C.1 C.2.1 dX1_one_104 ?_
      refine lv_goto (tgt := 110) C.1 C.2.1 dX1_one_105 (by decide) ?_
      exact mw_iret C h hr hlk (by rw [if_pos c99] at hv; exact hv) hτ dX1_one_110
  | succ f ih =>
    intro σ H locs ls hf h40 hx hv hτ h hl
    refine lv_iload C.1 C.2.1 dX1_one_44 (lv_at hl 0 rfl) ?_
    refine wn_ifle (tgt := 81) C.1 C.2.1 (by omega) dX1_one_46 (by decide) (fun z => absurd z (by omega)) (fun c46 => ?_)
    refine lv_aload_n C.1 C.2.1 dX1_one_49 rfl (lv_at hl 3 rfl) ?_
    refine mg5 C h dX1_one_50 ?_
    refine lv_iload_n C.1 C.2.1 dX1_one_53 rfl (lv_at hl 4 rfl) ?_
    refine lv_bipush (v := nI 40) C.1 C.2.1 dX1_one_54 (by decide) ?_
    refine wn_mul C.1 C.2.1 dX1_one_56 ?_
    refine lv_iload C.1 C.2.1 dX1_one_57 (lv_at hl 0 rfl) ?_
    refine wn_add C.1 C.2.1 dX1_one_59 ?_
    refine lv_aload_n C.1 C.2.1 dX1_one_60 rfl (lv_at hl 3 rfl) ?_
    refine mg5 C h dX1_one_61 ?_
    refine lv_iload_n C.1 C.2.1 dX1_one_64 rfl (lv_at hl 2 rfl) ?_
    refine lv_bipush (v := nI 40) C.1 C.2.1 dX1_one_65 (by decide) ?_
    refine wn_mul C.1 C.2.1 dX1_one_67 ?_
    refine lv_iload C.1 C.2.1 dX1_one_68 (lv_at hl 0 rfl) ?_
    refine wn_add C.1 C.2.1 dX1_one_70 ?_
    refine lv_iconst (v := nI 1) C.1 C.2.1 dX1_one_71 (by decide) ?_
    refine wn_sub C.1 C.2.1 (by omega) dX1_one_72 ?_
    refine ml5 (i := (x * 40 + (f + 1)) - 1) (w := σ.2 5 (x * 40 + f)) C h (by omega) (by rw [show x * 40 + (f + 1) - 1 = x * 40 + f by omega]) dX1_one_73 ?_
    refine ms5 (i := p * 40 + (f + 1)) (v := σ.2 5 (x * 40 + f)) C h (by omega) dX1_one_74 (fun H locs h => ?_)
    refine lv_iinc (v := nI f) (lv' := [(6, .int (nI f)), (3, .int (nI hv_)), (2, .int (nI x)), (0, .ref (ad 13)), (1, .int (nI p))]) C.1 C.2.1 dX1_one_75 hl (k := 0) rfl (wn_dec f) (by decide) rfl (fun ls hl => ?_)
    refine lv_goto (tgt := 44) C.1 C.2.1 dX1_one_78 (by decide) ?_
    exact ih _ H locs ls (by omega) h40 hx hv hτ h (lv_sub hl [0, 1, 2, 3, 4] rfl)
set_option maxHeartbeats 4000000 in
set_option maxRecDepth 100000 in
theorem m_one (l : Launch) (D : va_G) (ad : Nat → Nat) (dA : ClassId) (sz : Nat) (σ : us_S) {p : Nat} (hp : p < 8) (hb : mt_b σ) : mw_Mi l yX1_one cX1_one 8 (some .int) ({ frames := 1, cells := 0, slots := 0, locals := 23 } : Room) D ad dA sz σ [.int (nI p)] (nI (mt_ones σ p).1) ((mt_ones σ p).2) := by
  refine mw_Mi_of (by decide) rfl (Nat.le_of_ble_eq_true rfl) (fun p_ e s m below meth c A ls C hml hr hlk h hl => ?_)
  have hl : lv_has ls 8 [(0, .ref (ad 13)), (1, .int (nI p))] := hl
  have hx : σ.1 1 p < 8 := (hb.1 p hp).2.1
  have hy : σ.1 2 p < 8 := (hb.1 p hp).2.2
  have k7 : σ.1 0 p ≤ 7 := (hb.1 p hp).1
  have bX : σ.1 6 (σ.1 1 p) ≤ 40 := hb.2 _ hx
  have bY : σ.1 6 (σ.1 2 p) ≤ 40 := hb.2 _ hy
  refine lv_aload_n C.1 C.2.1 dX1_one_0 rfl (lv_at hl 0 rfl) ?_
  refine mg1 C h dX1_one_1 ?_
  refine lv_iload_n C.1 C.2.1 dX1_one_4 rfl (lv_at hl 1 rfl) ?_
  refine ml1 (i := p) (w := σ.1 1 p) C h (by omega) rfl dX1_one_5 ?_
  refine lv_istore_n (lv' := [(2, .int (nI (σ.1 1 p))), (0, .ref (ad 13)), (1, .int (nI p))]) C.1 C.2.1 dX1_one_6 rfl hl (by decide) rfl (fun ls hl => ?_)
  refine lv_aload_n C.1 C.2.1 dX1_one_7 rfl (lv_at hl 1 rfl) ?_
  refine mg6 C h dX1_one_8 ?_
  refine lv_iload_n C.1 C.2.1 dX1_one_11 rfl (lv_at hl 0 rfl) ?_
  refine ml6 (i := σ.1 1 p) (w := σ.1 6 (σ.1 1 p)) C h (by omega) rfl dX1_one_12 ?_
  refine lv_istore_n (lv' := [(3, .int (nI (σ.1 6 (σ.1 1 p)))), (2, .int (nI (σ.1 1 p))), (0, .ref (ad 13)), (1, .int (nI p))]) C.1 C.2.1 dX1_one_13 rfl hl (by decide) rfl (fun ls hl => ?_)
  refine lv_iconst (v := nI 0) C.1 C.2.1 dX1_one_14 (by decide) ?_
  refine lv_istore (lv' := [(4, .int (nI 0)), (3, .int (nI (σ.1 6 (σ.1 1 p)))), (2, .int (nI (σ.1 1 p))), (0, .ref (ad 13)), (1, .int (nI p))]) C.1 C.2.1 dX1_one_15 hl (by decide) rfl (fun ls hl => ?_)
  refine lv_iconst (v := 0) C.1 C.2.1 dX1_one_17 (by decide) ?_
  refine lv_istore (lv' := [(5, .int 0), (4, .int (nI 0)), (3, .int (nI (σ.1 6 (σ.1 1 p)))), (2, .int (nI (σ.1 1 p))), (0, .ref (ad 13)), (1, .int (nI p))]) C.1 C.2.1 dX1_one_18 hl (by decide) rfl (fun ls hl => ?_)
  refine lv_aload_n C.1 C.2.1 dX1_one_20 rfl (lv_at hl 4 rfl) ?_
  refine mg0 C h dX1_one_21 ?_
  refine lv_iload_n C.1 C.2.1 dX1_one_24 rfl (lv_at hl 5 rfl) ?_
  refine ml0 (i := p) (w := σ.1 0 p) C h (by omega) rfl dX1_one_25 ?_
  refine lv_iconst (v := nI 5) C.1 C.2.1 dX1_one_26 (by decide) ?_
  refine wn_ne (tgt := 111) C.1 C.2.1 (by omega) (by omega) dX1_one_27 (by decide) (fun c27 => ?_) (fun c27 => ?_)
  · refine lv_iconst (v := nI 0) C.1 C.2.1 dX1_one_111 (by decide) ?_
    refine lv_istore (lv' := [(6, .int (nI 0)), (5, .int 0), (4, .int (nI 0)), (3, .int (nI (σ.1 6 (σ.1 1 p)))), (2, .int (nI (σ.1 1 p))), (0, .ref (ad 13)), (1, .int (nI p))]) C.1 C.2.1 dX1_one_112 hl (by decide) rfl (fun ls hl => ?_)
    have e9 : mt_ones σ p = mt_one p (σ.1 1 p) (σ.1 6 (σ.1 1 p)) 0 0 (0, σ) := by unfold mt_ones; rw [if_neg c27]
    exact m_one_l C hml hr hlk hp _ 0 0 0 σ _ _ ls (Nat.zero_add _) bX hx (by decide) hb (by rw [e9]) (by rw [e9]) h (lv_sub hl [0, 1, 2, 3, 4, 5, 6] rfl)
  · refine lv_iload_n C.1 C.2.1 dX1_one_30 rfl (lv_at hl 2 rfl) ?_
    refine lv_bipush (v := nI 39) C.1 C.2.1 dX1_one_31 (by decide) ?_
    refine wn_ge (tgt := 40) C.1 C.2.1 (by omega) (by omega) dX1_one_33 (by decide) (fun c33 => ?_) (fun c33 => ?_)
    · refine lv_bipush (v := nI 39) C.1 C.2.1 dX1_one_40 (by decide) ?_
      refine lv_istore (lv' := [(6, .int (nI 39)), (5, .int 0), (4, .int (nI 0)), (3, .int (nI (σ.1 6 (σ.1 1 p)))), (2, .int (nI (σ.1 1 p))), (0, .ref (ad 13)), (1, .int (nI p))]) C.1 C.2.1 dX1_one_42 hl (by decide) rfl (fun ls hl => ?_)
      have e9 : mt_ones σ p = (if σ.1 6 (σ.1 1 p) < 39 then σ.1 6 (σ.1 1 p) + 1 else 40, us_V (mt_del p (σ.1 1 p) (39) σ) 5 (p * 40) (σ.2 3 p)) := by
        unfold mt_ones mt_delay; rw [if_pos c27, if_neg (show ¬ σ.1 6 (σ.1 1 p) < 39 by omega), if_neg (show ¬ σ.1 6 (σ.1 1 p) < 39 by omega)]
      have e3 : (mt_del p (σ.1 1 p) (39) σ).2 3 = σ.2 3 := (mt_del_at (39) σ (by omega)).2.1 3 (by decide)
      exact m_del_l C hml hr hlk hp (39) σ _ _ ls (by omega) bX hx (by rw [e9]) (by rw [e9, e3]) h (lv_sub hl [0, 3, 4, 5, 6] rfl)
    · refine lv_iload_n C.1 C.2.1 dX1_one_36 rfl (lv_at hl 2 rfl) ?_
      refine lv_goto (tgt := 42) C.1 C.2.1 dX1_one_37 (by decide) ?_
      refine lv_istore (lv' := [(6, .int (nI (σ.1 6 (σ.1 1 p)))), (5, .int 0), (4, .int (nI 0)), (3, .int (nI (σ.1 6 (σ.1 1 p)))), (2, .int (nI (σ.1 1 p))), (0, .ref (ad 13)), (1, .int (nI p))]) C.1 C.2.1 dX1_one_42 hl (by decide) rfl (fun ls hl => ?_)
      have e9 : mt_ones σ p = (if σ.1 6 (σ.1 1 p) < 39 then σ.1 6 (σ.1 1 p) + 1 else 40, us_V (mt_del p (σ.1 1 p) (σ.1 6 (σ.1 1 p)) σ) 5 (p * 40) (σ.2 3 p)) := by
        unfold mt_ones mt_delay; rw [if_pos c27, if_pos c33, if_pos c33]
      have e3 : (mt_del p (σ.1 1 p) (σ.1 6 (σ.1 1 p)) σ).2 3 = σ.2 3 := (mt_del_at (σ.1 6 (σ.1 1 p)) σ (by omega)).2.1 3 (by decide)
      exact m_del_l C hml hr hlk hp (σ.1 6 (σ.1 1 p)) σ _ _ ls (by omega) bX hx (by rw [e9]) (by rw [e9, e3]) h (lv_sub hl [0, 3, 4, 5, 6] rfl)
set_option maxHeartbeats 4000000 in
set_option maxRecDepth 100000 in
theorem m_stream (l : Launch) (D : va_G) (ad : Nat → Nat) (dA : ClassId) (sz : Nat) (σ : us_S) {p : Nat} (hp : p < 8) (hb : mt_b σ) : mw_Mi l yX1_stream cX1_stream 2 (some .int) ({ frames := 2, cells := 0, slots := 0, locals := 50 } : Room) D ad dA sz σ [.int (nI p)] (nI (mt_stream σ p).1) ((mt_stream σ p).2) := by
  refine mw_Mi_of (by decide) rfl (Nat.le_of_ble_eq_true rfl) (fun p_ e s m below meth c A ls C hml hr hlk h hl => ?_)
  have hl : lv_has ls 2 [(0, .ref (ad 13)), (1, .int (nI p))] := hl
  have k7 : σ.1 0 p ≤ 7 := (hb.1 p hp).1
  refine lv_aload_n C.1 C.2.1 dX1_stream_0 rfl (lv_at hl 0 rfl) ?_
  refine mg0 C h dX1_stream_1 ?_
  refine lv_iload_n C.1 C.2.1 dX1_stream_4 rfl (lv_at hl 1 rfl) ?_
  refine ml0 (i := p) (w := σ.1 0 p) C h (by omega) rfl dX1_stream_5 ?_
  refine lv_iconst (v := nI 2) C.1 C.2.1 dX1_stream_6 (by decide) ?_
  refine wn_ge (tgt := 16) C.1 C.2.1 (by omega) (by omega) dX1_stream_7 (by decide) (fun c7 => ?_) (fun c7 => ?_)
  · refine lv_aload_n C.1 C.2.1 dX1_stream_16 rfl (lv_at hl 0 rfl) ?_
    refine mg0 C h dX1_stream_17 ?_
    refine lv_iload_n C.1 C.2.1 dX1_stream_20 rfl (lv_at hl 1 rfl) ?_
    refine ml0 (i := p) (w := σ.1 0 p) C h (by omega) rfl dX1_stream_21 ?_
    refine lv_iconst (v := nI 2) C.1 C.2.1 dX1_stream_22 (by decide) ?_
    refine wn_ne (tgt := 32) C.1 C.2.1 (by omega) (by omega) dX1_stream_23 (by decide) (fun c23 => ?_) (fun c23 => ?_)
    · refine lv_aload_n C.1 C.2.1 dX1_stream_32 rfl (lv_at hl 0 rfl) ?_
      refine mg0 C h dX1_stream_33 ?_
      refine lv_iload_n C.1 C.2.1 dX1_stream_36 rfl (lv_at hl 1 rfl) ?_
      refine ml0 (i := p) (w := σ.1 0 p) C h (by omega) rfl dX1_stream_37 ?_
      refine lv_iconst (v := nI 3) C.1 C.2.1 dX1_stream_38 (by decide) ?_
      refine wn_ne (tgt := 48) C.1 C.2.1 (by omega) (by omega) dX1_stream_39 (by decide) (fun c39 => ?_) (fun c39 => ?_)
      · refine lv_aload_n C.1 C.2.1 dX1_stream_48 rfl (lv_at hl 0 rfl) ?_
        refine mg0 C h dX1_stream_49 ?_
        refine lv_iload_n C.1 C.2.1 dX1_stream_52 rfl (lv_at hl 1 rfl) ?_
        refine ml0 (i := p) (w := σ.1 0 p) C h (by omega) rfl dX1_stream_53 ?_
        refine lv_bipush (v := nI 6) C.1 C.2.1 dX1_stream_54 (by decide) ?_
        refine wn_ne (tgt := 67) C.1 C.2.1 (by omega) (by omega) dX1_stream_56 (by decide) (fun c56 => ?_) (fun c56 => ?_)
        · refine lv_aload_n C.1 C.2.1 dX1_stream_67 rfl (lv_at hl 0 rfl) ?_
          refine lv_iload_n C.1 C.2.1 dX1_stream_68 rfl (lv_at hl 1 rfl) ?_
          refine mw_calli (n := 1) (As := [.int (nI p)]) (rest := []) C hml h (m_one l D ad dA _ σ hp hb) q252 q254 qs23 q255 rfl (by decide +kernel) rfl rfl ⟨Nat.le_of_ble_eq_true rfl, Nat.le_of_ble_eq_true rfl⟩ rfl hl.1 rfl (Nat.le_of_ble_eq_true rfl) dX1_stream_69 ⟨Nat.zero_le _, Nat.zero_le _⟩ (fun H locs h => ?_)
          have e9 : mt_stream σ p = mt_ones σ p := by unfold mt_stream; rw [if_neg (show ¬ σ.1 0 p < 2 by omega), if_neg c23, if_neg c39, if_neg c56]
          exact mw_iret C h hr hlk (by rw [e9]) (by rw [e9]) dX1_stream_72
        · refine lv_aload_n C.1 C.2.1 dX1_stream_59 rfl (lv_at hl 0 rfl) ?_
          refine lv_iload_n C.1 C.2.1 dX1_stream_60 rfl (lv_at hl 1 rfl) ?_
          refine mw_calli (n := 1) (As := [.int (nI p)]) (rest := []) C hml h (m_merge l D ad dA _ σ hp hb) q248 q250 qs22 q251 rfl (by decide +kernel) rfl rfl ⟨Nat.le_of_ble_eq_true rfl, Nat.le_of_ble_eq_true rfl⟩ rfl hl.1 rfl (Nat.le_of_ble_eq_true rfl) dX1_stream_61 ⟨Nat.zero_le _, Nat.zero_le _⟩ (fun H locs h => ?_)
          refine lv_goto (tgt := 72) C.1 C.2.1 dX1_stream_64 (by decide) ?_
          have e9 : mt_stream σ p = mt_merge p 40 0 0 (0, σ) := by unfold mt_stream; rw [if_neg (show ¬ σ.1 0 p < 2 by omega), if_neg c23, if_neg c39, if_pos c56]
          exact mw_iret C h hr hlk (by rw [e9]) (by rw [e9]) dX1_stream_72
      · refine lv_aload_n C.1 C.2.1 dX1_stream_42 rfl (lv_at hl 0 rfl) ?_
        refine lv_iload_n C.1 C.2.1 dX1_stream_43 rfl (lv_at hl 1 rfl) ?_
        refine mw_calli (n := 1) (As := [.int (nI p)]) (rest := []) C hml h (m_turn l D ad dA _ σ hp hb) q244 q246 qs21 q247 rfl (by decide +kernel) rfl rfl ⟨Nat.le_of_ble_eq_true rfl, Nat.le_of_ble_eq_true rfl⟩ rfl hl.1 rfl (Nat.le_of_ble_eq_true rfl) dX1_stream_44 ⟨Nat.zero_le _, Nat.zero_le _⟩ (fun H locs h => ?_)
        have e9 : mt_stream σ p = mt_turn p 40 0 (0, σ) := by unfold mt_stream; rw [if_neg (show ¬ σ.1 0 p < 2 by omega), if_neg c23, if_pos c39]
        exact mw_iret C h hr hlk (by rw [e9]) (by rw [e9]) dX1_stream_47
    · refine lv_aload_n C.1 C.2.1 dX1_stream_26 rfl (lv_at hl 0 rfl) ?_
      refine lv_iload_n C.1 C.2.1 dX1_stream_27 rfl (lv_at hl 1 rfl) ?_
      refine mw_calli (n := 1) (As := [.int (nI p)]) (rest := []) C hml h (m_add l D ad dA _ σ hp hb) q240 q242 qs20 q243 rfl (by decide +kernel) rfl rfl ⟨Nat.le_of_ble_eq_true rfl, Nat.le_of_ble_eq_true rfl⟩ rfl hl.1 rfl (Nat.le_of_ble_eq_true rfl) dX1_stream_28 ⟨Nat.zero_le _, Nat.zero_le _⟩ (fun H locs h => ?_)
      have e9 : mt_stream σ p = mt_add p 40 0 (0, σ) := by unfold mt_stream; rw [if_neg (show ¬ σ.1 0 p < 2 by omega), if_pos c23]
      exact mw_iret C h hr hlk (by rw [e9]) (by rw [e9]) dX1_stream_31
  · refine lv_aload_n C.1 C.2.1 dX1_stream_10 rfl (lv_at hl 0 rfl) ?_
    refine lv_iload_n C.1 C.2.1 dX1_stream_11 rfl (lv_at hl 1 rfl) ?_
    refine mw_calli (n := 1) (As := [.int (nI p)]) (rest := []) C hml h (m_start l D ad dA _ σ hp hb) q232 q234 qs18 q235 rfl (by decide +kernel) rfl rfl ⟨Nat.le_of_ble_eq_true rfl, Nat.le_of_ble_eq_true rfl⟩ rfl hl.1 rfl (Nat.le_of_ble_eq_true rfl) dX1_stream_12 ⟨Nat.zero_le _, Nat.zero_le _⟩ (fun H locs h => ?_)
    have e9 : mt_stream σ p = mt_start p (if σ.1 0 p = 0 then 40 else 5) 0 (0, σ) := by unfold mt_stream; rw [if_pos c7]
    exact mw_iret C h hr hlk (by rw [e9]) (by rw [e9]) dX1_stream_15
end
section
/-! CONTRACT of ProcessNetworkModel.workOut (by wip/D-64155w/gen/m2.py) -/
theorem mt_stream_le {M : us_S} {pi : Nat → pn_S} {p : Nat} (hW : mt_WI M pi) (hp : p < 8) : (mt_stream M p).1 ≤ 40 ∧ (mt_stream M p).2.1 = M.1 := by
  obtain ⟨j, q, hE, hP⟩ := mt_stream_done hW hp
  refine ⟨?_, hE.2.2.1⟩
  rw [← hE.2.1]
  have e1 := hE.1
  cases j with
  | zero =>
    have e : (0, 0, 0, 0) = q := Option.some.inj e1
    rw [← e]; exact Nat.zero_le _
  | succ j =>
    obtain ⟨q0, o, a1, a2⟩ := pn_R_pred e1
    have f := pn_ps_facts a2
    rcases f.2.1 with ⟨-, z⟩ | ⟨v, -, z⟩ <;> omega
theorem mt_z_WI {σ : us_S} (h : pn_ok (xc_k σ)) : mt_WI (mt_z 8 0 (us_N σ 4 0 1)) (fun _ => (0, 0, 0, 0)) := by
  obtain ⟨z1, z2, z3⟩ := mt_z_J 8 0 (us_N σ 4 0 1) rfl
  have z3 := fun r hr => z3 r hr (Or.inl (Nat.zero_le _))
  have hk : xc_k (mt_z 8 0 (us_N σ 4 0 1)) = xc_k σ := xc_k_eq (by rw [z1 0 (by decide), us_Nf (by decide)]) (by rw [z1 1 (by decide), us_Nf (by decide)]) (by rw [z1 2 (by decide), us_Nf (by decide)])
  exact ⟨by rw [hk]; exact h, fun p hp => by rw [z3 p hp]; exact Nat.zero_le _, pn_I1_0 z3, pn_I2_0 z3⟩
theorem mt_WI.b {σ : us_S} {pi : Nat → pn_S} (h : mt_WI σ pi) : mt_b σ := ⟨h.1, h.2.1⟩
set_option maxHeartbeats 4000000 in
set_option maxRecDepth 100000 in
theorem m_wo_z {l : Launch} {D : va_G} {ad : Nat → Nat} {dA : ClassId} {p_ : Program} {e : Env} {s : State} {m : MethodId} {args : Array Value} {below : List Frame} {meth : Method} {c : Code} {A : Nat → Prop} {Q : State → Prop} (C : mw_C D dA p_ s m args c cX1_workOut) (hml : c.maxLocals = 5) : ∀ (f i : Nat) (σ : us_S) (H : Heap) (locs : List Loc) (ls : Array Slot), i + f = 8 → mw_H D ad dA A s H locs σ → lv_has ls 5 [(1, .int (nI i)), (0, .ref (ad 13))] → (∀ (H : Heap) (locs : List Loc) (ls : Array Slot), mw_H D ad dA A s H locs (mt_z f i σ) → lv_has ls 5 [(0, .ref (ad 13))] → W p_ l e ({ frames := 3, cells := 0, slots := 0, locals := 71 } : Room) s m args below meth c H locs 0 0 Q (F0 m 34 ls [])) → W p_ l e ({ frames := 3, cells := 0, slots := 0, locals := 71 } : Room) s m args below meth c H locs 0 0 Q (F0 m 15 ls []) := by
  intro f
  induction f with
  | zero =>
    intro i σ H locs ls hi h hl K
    refine lv_iload_n C.1 C.2.1 dX1_workOut_15 rfl (lv_at hl 0 rfl) ?_
    refine lv_bipush (v := nI 8) C.1 C.2.1 dX1_workOut_16 (by decide) ?_
    refine wn_ge (tgt := 34) C.1 C.2.1 (by omega) (by omega) dX1_workOut_18 (by decide) (fun c18 => ?_) (fun z => absurd z (by omega))
    exact K H locs ls h (lv_sub hl [1] rfl)
  | succ f ih =>
    intro i σ H locs ls hi h hl K
    have hi8 : i < 8 := by omega
    refine lv_iload_n C.1 C.2.1 dX1_workOut_15 rfl (lv_at hl 0 rfl) ?_
    refine lv_bipush (v := nI 8) C.1 C.2.1 dX1_workOut_16 (by decide) ?_
    refine wn_ge (tgt := 34) C.1 C.2.1 (by omega) (by omega) dX1_workOut_18 (by decide) (fun z => absurd z (by omega)) (fun c18 => ?_)
    refine lv_aload_n C.1 C.2.1 dX1_workOut_21 rfl (lv_at hl 1 rfl) ?_
    refine mg6 C h dX1_workOut_22 ?_
    refine lv_iload_n C.1 C.2.1 dX1_workOut_25 rfl (lv_at hl 0 rfl) ?_
    refine lv_iconst (v := nI 0) C.1 C.2.1 dX1_workOut_26 (by decide) ?_
    refine ms6 (i := i) (v := 0) C h (by omega) dX1_workOut_27 (fun H locs h => ?_)
    refine lv_iinc (v := nI (i + 1)) (lv' := [(1, .int (nI (i + 1))), (0, .ref (ad 13))]) C.1 C.2.1 dX1_workOut_28 hl (k := 0) rfl (wn_inc _) (by decide) rfl (fun ls hl => ?_)
    refine lv_goto (tgt := 15) C.1 C.2.1 dX1_workOut_31 (by decide) ?_
    exact ih (i + 1) _ H locs ls (by omega) h hl K
set_option maxHeartbeats 4000000 in
set_option maxRecDepth 100000 in
theorem m_wo_p {l : Launch} {D : va_G} {ad : Nat → Nat} {dA : ClassId} {p_ : Program} {e : Env} {s : State} {m : MethodId} {args : Array Value} {below : List Frame} {meth : Method} {c : Code} {A : Nat → Prop} {Q : State → Prop} (C : mw_C D dA p_ s m args c cX1_workOut) (hml : c.maxLocals = 5) (k : Nat) : ∀ (f p : Nat) (g : Bool) (σ : us_S) (H : Heap) (locs : List Loc) (ls : Array Slot), p + f = 8 → mt_PI p (g, σ) → mw_H D ad dA A s H locs σ → lv_has ls 5 [(3, .int (nI p)), (1, .int (bz g)), (2, .int (nI k)), (0, .ref (ad 13))] → (∀ (H : Heap) (locs : List Loc) (ls : Array Slot), mw_H D ad dA A s H locs ((mt_pass f p (g, σ)).2) → lv_has ls 5 [(1, .int (bz ((mt_pass f p (g, σ)).1))), (2, .int (nI k)), (0, .ref (ad 13))] → W p_ l e ({ frames := 3, cells := 0, slots := 0, locals := 71 } : Room) s m args below meth c H locs 0 0 Q (F0 m 93 ls [])) → W p_ l e ({ frames := 3, cells := 0, slots := 0, locals := 71 } : Room) s m args below meth c H locs 0 0 Q (F0 m 53 ls []) := by
  intro f
  induction f with
  | zero =>
    intro p g σ H locs ls hp hI h hl K
    refine lv_iload_n C.1 C.2.1 dX1_workOut_53 rfl (lv_at hl 0 rfl) ?_
    refine lv_bipush (v := nI 8) C.1 C.2.1 dX1_workOut_54 (by decide) ?_
    refine wn_ge (tgt := 93) C.1 C.2.1 (by omega) (by omega) dX1_workOut_56 (by decide) (fun c56 => ?_) (fun z => absurd z (by omega))
    exact K H locs ls h (lv_sub hl [1, 2, 3] rfl)
  | succ f ih =>
    intro p g σ H locs ls hpf hI h hl K
    have hp : p < 8 := by omega
    have hJ := mt_st1_J hp hI
    obtain ⟨pi, hW, -⟩ := hI
    have hb := hW.b
    have nn := mt_stream_le hW hp
    have n40 : (mt_stream σ p).1 ≤ 40 := nn.1
    have n1 : (mt_stream σ p).2.1 = σ.1 := nn.2
    have l40 : (mt_stream σ p).2.1 6 p ≤ 40 := by rw [n1]; exact hW.2.1 p hp
    have e0 : mt_pass (f + 1) p (g, σ) = mt_pass f (p + 1) (mt_st1 (g, σ) p) := rfl
    rw [e0] at K
    have e1 : mt_st1 (g, σ) p = if (mt_stream σ p).1 = (mt_stream σ p).2.1 6 p then (g, (mt_stream σ p).2) else (true, us_N (mt_stream σ p).2 6 p (mt_stream σ p).1) := rfl
    dsimp only at hW
    refine lv_iload_n C.1 C.2.1 dX1_workOut_53 rfl (lv_at hl 0 rfl) ?_
    refine lv_bipush (v := nI 8) C.1 C.2.1 dX1_workOut_54 (by decide) ?_
    refine wn_ge (tgt := 93) C.1 C.2.1 (by omega) (by omega) dX1_workOut_56 (by decide) (fun z => absurd z (by omega)) (fun c56 => ?_)
    refine lv_aload_n C.1 C.2.1 dX1_workOut_59 rfl (lv_at hl 3 rfl) ?_
    refine lv_iload_n C.1 C.2.1 dX1_workOut_60 rfl (lv_at hl 0 rfl) ?_
    refine mw_calli (n := 1) (As := [.int (nI p)]) (rest := []) C hml h (m_stream l D ad dA _ σ hp hb) q228 q230 qs17 q231 rfl (by decide +kernel) rfl rfl ⟨Nat.le_of_ble_eq_true rfl, Nat.le_of_ble_eq_true rfl⟩ rfl hl.1 rfl (Nat.le_of_ble_eq_true rfl) dX1_workOut_61 ⟨Nat.zero_le _, Nat.zero_le _⟩ (fun H locs h => ?_)
    refine lv_istore (lv' := [(4, .int (nI ((mt_stream σ p).1))), (3, .int (nI p)), (1, .int (bz g)), (2, .int (nI k)), (0, .ref (ad 13))]) C.1 C.2.1 dX1_workOut_64 hl (by decide) rfl (fun ls hl => ?_)
    refine lv_iload C.1 C.2.1 dX1_workOut_66 (lv_at hl 0 rfl) ?_
    refine lv_aload_n C.1 C.2.1 dX1_workOut_68 rfl (lv_at hl 4 rfl) ?_
    refine mg6 C h dX1_workOut_69 ?_
    refine lv_iload_n C.1 C.2.1 dX1_workOut_72 rfl (lv_at hl 1 rfl) ?_
    refine ml6 (i := p) (w := ((mt_stream σ p).2).1 6 p) C h (by omega) rfl dX1_workOut_73 ?_
    refine wn_eq (tgt := 87) C.1 C.2.1 (by omega) (by omega) dX1_workOut_74 (by decide) (fun c74 => ?_) (fun c74 => ?_)
    · refine lv_iinc (v := nI (p + 1)) (lv' := [(3, .int (nI (p + 1))), (4, .int (nI ((mt_stream σ p).1))), (1, .int (bz g)), (2, .int (nI k)), (0, .ref (ad 13))]) C.1 C.2.1 dX1_workOut_87 hl (k := 1) rfl (wn_inc _) (by decide) rfl (fun ls hl => ?_)
      refine lv_goto (tgt := 53) C.1 C.2.1 dX1_workOut_90 (by decide) ?_
      rw [if_pos c74] at e1
      rw [e1] at K hJ
      exact ih (p + 1) _ _ H locs ls (by omega) hJ.1 h (lv_sub hl [0, 2, 3, 4] rfl) K
    · refine lv_aload_n C.1 C.2.1 dX1_workOut_77 rfl (lv_at hl 4 rfl) ?_
      refine mg6 C h dX1_workOut_78 ?_
      refine lv_iload_n C.1 C.2.1 dX1_workOut_81 rfl (lv_at hl 1 rfl) ?_
      refine lv_iload C.1 C.2.1 dX1_workOut_82 (lv_at hl 0 rfl) ?_
      refine ms6 (i := p) (v := (mt_stream σ p).1) C h (by omega) dX1_workOut_84 (fun H locs h => ?_)
      refine lv_iconst (v := nI 1) C.1 C.2.1 dX1_workOut_85 (by decide) ?_
      refine lv_istore_n (lv' := [(1, .int (nI 1)), (4, .int (nI ((mt_stream σ p).1))), (3, .int (nI p)), (2, .int (nI k)), (0, .ref (ad 13))]) C.1 C.2.1 dX1_workOut_86 rfl hl (by decide) rfl (fun ls hl => ?_)
      refine lv_iinc (v := nI (p + 1)) (lv' := [(3, .int (nI (p + 1))), (1, .int (nI 1)), (4, .int (nI ((mt_stream σ p).1))), (2, .int (nI k)), (0, .ref (ad 13))]) C.1 C.2.1 dX1_workOut_87 hl (k := 2) rfl (wn_inc _) (by decide) rfl (fun ls hl => ?_)
      refine lv_goto (tgt := 53) C.1 C.2.1 dX1_workOut_90 (by decide) ?_
      rw [if_neg c74] at e1
      rw [e1] at K hJ
      rw [bz_1] at hl
      exact ih (p + 1) _ _ H locs ls (by omega) hJ.1 h (lv_sub hl [0, 1, 3, 4] rfl) K
set_option maxHeartbeats 4000000 in
set_option maxRecDepth 100000 in
theorem m_wo_k {l : Launch} {D : va_G} {ad : Nat → Nat} {dA : ClassId} {p_ : Program} {e : Env} {s : State} {m : MethodId} {args : Array Value} {below : List Frame} {meth : Method} {c : Code} {A : Nat → Prop} (C : mw_C D dA p_ s m args c cX1_workOut) (hml : c.maxLocals = 5) (hr : meth.sig.returnType = none) (hlk : meth.locks = false) {τ : us_S} : ∀ (f k : Nat) (g : Bool) (σ : us_S) (H : Heap) (locs : List Loc) (ls : Array Slot), k + f = 321 → (∃ pi, mt_WI σ pi) → mt_wl f (g, σ) = τ → mw_H D ad dA A s H locs σ → lv_has ls 5 [(1, .int (bz g)), (2, .int (nI k)), (0, .ref (ad 13))] → W p_ l e ({ frames := 3, cells := 0, slots := 0, locals := 71 } : Room) s m args below meth c H locs 0 0 (MQ below (va_Qv (fun u => u = τ) (mw_B D ad dA A) A) args s 0 0 A) (F0 m 38 ls []) := by
  intro f
  induction f with
  | zero =>
    intro k g σ H locs ls hk hI hτ h hl
    refine lv_iload_n C.1 C.2.1 dX1_workOut_38 rfl (lv_at hl 1 rfl) ?_
    refine lv_sipush (v := nI 321) C.1 C.2.1 dX1_workOut_39 (by decide) ?_
    refine wn_ge (tgt := 99) C.1 C.2.1 (by omega) (by omega) dX1_workOut_42 (by decide) (fun c42 => ?_) (fun z => absurd z (by omega))
    exact mw_vret C h hr hlk hτ dX1_workOut_99
  | succ f ih =>
    intro k g σ H locs ls hk hI hτ h hl
    have hτ : (if g = true then mt_wl f (mt_pass 8 0 (false, σ)) else σ) = τ := hτ
    refine lv_iload_n C.1 C.2.1 dX1_workOut_38 rfl (lv_at hl 1 rfl) ?_
    refine lv_sipush (v := nI 321) C.1 C.2.1 dX1_workOut_39 (by decide) ?_
    refine wn_ge (tgt := 99) C.1 C.2.1 (by omega) (by omega) dX1_workOut_42 (by decide) (fun z => absurd z (by omega)) (fun c42 => ?_)
    refine lv_iload_n C.1 C.2.1 dX1_workOut_45 rfl (lv_at hl 0 rfl) ?_
    refine wn_ifzB (tgt := 99) C.1 C.2.1 dX1_workOut_46 (by decide) (fun c46 => ?_) (fun c46 => ?_)
    · exact mw_vret C h hr hlk (by rw [if_neg (by rw [c46]; decide)] at hτ; exact hτ) dX1_workOut_99
    · refine lv_iconst (v := nI 0) C.1 C.2.1 dX1_workOut_49 (by decide) ?_
      refine lv_istore_n (lv' := [(1, .int (nI 0)), (2, .int (nI k)), (0, .ref (ad 13))]) C.1 C.2.1 dX1_workOut_50 rfl hl (by decide) rfl (fun ls hl => ?_)
      refine lv_iconst (v := nI 0) C.1 C.2.1 dX1_workOut_51 (by decide) ?_
      refine lv_istore_n (lv' := [(3, .int (nI 0)), (1, .int (nI 0)), (2, .int (nI k)), (0, .ref (ad 13))]) C.1 C.2.1 dX1_workOut_52 rfl hl (by decide) rfl (fun ls hl => ?_)
      rw [if_pos c46] at hτ
      obtain ⟨pi, hW⟩ := hI
      have hP0 : mt_PI 0 (false, σ) := ⟨pi, hW, fun _ r hr => absurd hr (Nat.not_lt_zero _)⟩
      refine m_wo_p C hml k 8 0 false σ _ _ ls rfl hP0 h (lv_sub (show lv_has ls 5 [(3, .int (nI 0)), (1, .int (bz false)), (2, .int (nI k)), (0, .ref (ad 13))] from hl) [0, 1, 2, 3] rfl) (fun H locs ls h hl => ?_)
      refine lv_iinc (v := nI (k + 1)) (lv' := [(2, .int (nI (k + 1))), (1, .int (bz ((mt_pass 8 0 (false, σ)).1))), (0, .ref (ad 13))]) C.1 C.2.1 dX1_workOut_93 hl (k := 1) rfl (wn_inc _) (by decide) rfl (fun ls hl => ?_)
      refine lv_goto (tgt := 38) C.1 C.2.1 dX1_workOut_96 (by decide) ?_
      obtain ⟨⟨pj, w1, -⟩, -⟩ := mt_pass_J 8 0 (false, σ) rfl hP0
      generalize mt_pass 8 0 (false, σ) = G at hτ h hl w1
      obtain ⟨g2, σ2⟩ := G
      exact ih (k + 1) g2 σ2 H locs ls (by omega) ⟨pj, w1⟩ hτ h (lv_sub hl [1, 0, 2] rfl)
set_option maxHeartbeats 4000000 in
set_option maxRecDepth 100000 in
theorem m_workOut (l : Launch) (D : va_G) (ad : Nat → Nat) (dA : ClassId) (sz : Nat) (σ : us_S) (hI : mt_Inv σ) : mw_Mv l yX1_workOut cX1_workOut 5 ({ frames := 3, cells := 0, slots := 0, locals := 71 } : Room) D ad dA sz σ [] (mt_workOut σ) := by
  refine mw_Mv_of (by decide) rfl (Nat.le_of_ble_eq_true rfl) (fun p_ e s m below meth c A ls C hml hr hlk h hl => ?_)
  have hl : lv_has ls 5 [(0, .ref (ad 13))] := hl
  have k1 : σ.1 4 0 ≤ 1 := hI.2.1
  refine lv_aload_n C.1 C.2.1 dX1_workOut_0 rfl (lv_at hl 0 rfl) ?_
  refine mg4 (w := σ.1 4 0) C h rfl dX1_workOut_1 ?_
  refine wn_if0 (tgt := 8) C.1 C.2.1 (by omega) dX1_workOut_4 (by decide) (fun c4 => ?_) (fun c4 => ?_)
  · refine lv_aload_n C.1 C.2.1 dX1_workOut_8 rfl (lv_at hl 0 rfl) ?_
    refine lv_iconst (v := nI 1) C.1 C.2.1 dX1_workOut_9 (by decide) ?_
    refine mp4 (v := 1) C h rfl rfl dX1_workOut_10 (fun H locs h => ?_)
    refine lv_iconst (v := nI 0) C.1 C.2.1 dX1_workOut_13 (by decide) ?_
    refine lv_istore_n (lv' := [(1, .int (nI 0)), (0, .ref (ad 13))]) C.1 C.2.1 dX1_workOut_14 rfl hl (by decide) rfl (fun ls hl => ?_)
    have e9 : mt_workOut σ = mt_wl 321 (true, mt_z 8 0 (us_N σ 4 0 1)) := by unfold mt_workOut; rw [if_pos c4]
    refine m_wo_z C hml 8 0 _ _ _ ls rfl h hl (fun H locs ls h hl => ?_)
    refine lv_iconst (v := nI 1) C.1 C.2.1 dX1_workOut_34 (by decide) ?_
    refine lv_istore_n (lv' := [(1, .int (nI 1)), (0, .ref (ad 13))]) C.1 C.2.1 dX1_workOut_35 rfl hl (by decide) rfl (fun ls hl => ?_)
    refine lv_iconst (v := nI 0) C.1 C.2.1 dX1_workOut_36 (by decide) ?_
    refine lv_istore_n (lv' := [(2, .int (nI 0)), (1, .int (nI 1)), (0, .ref (ad 13))]) C.1 C.2.1 dX1_workOut_37 rfl hl (by decide) rfl (fun ls hl => ?_)
    exact m_wo_k C hml hr hlk 321 0 true _ _ _ ls rfl ⟨_, mt_z_WI hI.1⟩ e9.symm h (lv_sub (show lv_has ls 5 [(2, .int (nI 0)), (1, .int (bz true)), (0, .ref (ad 13))] from hl) [1, 0, 2] rfl)
  · exact mw_vret C h hr hlk (by unfold mt_workOut; rw [if_neg c4]) dX1_workOut_7
end
section
/-! CONTRACTS of the public methods of ProcessNetwork (by wip/D-64155w/gen/pub.py) -/
set_option maxHeartbeats 4000000 in
set_option maxRecDepth 100000 in
theorem x_length (l : Launch) (D : va_G) (ad : Nat → Nat) (dA dB : ClassId) (sz : Nat) (σ : us_S) (x : Int32) (hI : xc_Inv σ) : xw_Mi l yX0_length cX0_length 2 (some .int) ({ frames := 5, cells := 0, slots := 0, locals := 115 } : Room) D ad dA dB sz σ [.int x] ((qr_len (xc_settle 4000) 4 σ x).1) ((qr_len (xc_settle 4000) 4 σ x).2) := by
  refine xw_Mi_of (by decide) rfl (Nat.le_of_ble_eq_true rfl) (fun p_ e s m below meth c A ls C hml hr hlk h hl => ?_)
  have hl : lv_has ls 2 [(0, .ref (ad 13)), (1, .int x)] := hl
  refine lv_iload_n C.1 C.2.1 dX0_length_0 rfl (lv_at hl 1 rfl) ?_
  refine xw_bad (rest := []) C hml ⟨Nat.le_of_ble_eq_true rfl, Nat.le_of_ble_eq_true rfl⟩ hl.1 rfl (Nat.le_of_ble_eq_true rfl) dX0_length_1 ⟨Nat.zero_le _, Nat.zero_le _⟩ ?_
  refine wn_ifzB (tgt := 9) C.1 C.2.1 dX0_length_4 (by decide) (fun c4 => ?_) (fun c4 => ?_)
  · obtain ⟨p, hp, rfl⟩ := qb_no c4
    refine lv_aload_n C.1 C.2.1 dX0_length_9 rfl (lv_at hl 0 rfl) ?_
    refine xw_callv (n := 0) (As := []) (rest := []) C hml h (x_settle l D ad dA dB _ σ hI) q152 q154 qs14 q155 rfl (by decide +kernel) rfl rfl ⟨Nat.le_of_ble_eq_true rfl, Nat.le_of_ble_eq_true rfl⟩ rfl hl.1 rfl (Nat.le_of_ble_eq_true rfl) dX0_length_10 ⟨Nat.zero_le _, Nat.zero_le _⟩ (fun H locs h => ?_)
    obtain ⟨τ, hT⟩ : ∃ τ, xc_settle 4000 σ = τ := ⟨_, rfl⟩
    have t40 : ∀ r, r < 8 → τ.1 4 r ≤ 40 := fun r hr8 => by rw [← hT]; exact ((xc_settle_J 4000 σ hI (xc_mu_le hI)).1.1.1.2 r hr8).1
    rw [hT] at h
    refine lv_aload_n C.1 C.2.1 dX0_length_13 rfl (lv_at hl 0 rfl) ?_
    refine xg4 C h dX0_length_14 ?_
    refine lv_iload_n C.1 C.2.1 dX0_length_17 rfl (lv_at hl 1 rfl) ?_
    refine xl4 (i := p) (w := τ.1 4 p) C h hp rfl dX0_length_18 ?_
    have e9 : qr_len (xc_settle 4000) 4 σ (nI p) = (nI (τ.1 4 p), τ) := by unfold qr_len; rw [if_neg (show ¬ qb (nI p) = true by rw [qb_yes hp]; decide), nI_clamp (show p < 2 ^ 31 by omega), hT]
    exact xw_iret C h hr hlk (by rw [e9]) (by rw [e9]) dX0_length_19
  · refine lv_iconst (v := (-1)) C.1 C.2.1 dX0_length_7 (by decide) ?_
    have e9 : qr_len (xc_settle 4000) 4 σ x = (-1, σ) := by unfold qr_len; rw [if_pos c4]
    exact xw_iret C h hr hlk (by rw [e9]) (by rw [e9]) dX0_length_8
set_option maxHeartbeats 4000000 in
set_option maxRecDepth 100000 in
theorem x_item (l : Launch) (D : va_G) (ad : Nat → Nat) (dA dB : ClassId) (sz : Nat) (σ : us_S) (x i : Int32) (hI : xc_Inv σ) : xw_Mi l yX0_item cX0_item 3 (some .int) ({ frames := 5, cells := 0, slots := 0, locals := 115 } : Room) D ad dA dB sz σ [.int x, .int i] ((qr_item (xc_settle 4000) 4 8 σ x i).1) ((qr_item (xc_settle 4000) 4 8 σ x i).2) := by
  refine xw_Mi_of (by decide) rfl (Nat.le_of_ble_eq_true rfl) (fun p_ e s m below meth c A ls C hml hr hlk h hl => ?_)
  have hl : lv_has ls 3 [(0, .ref (ad 13)), (1, .int x), (2, .int i)] := hl
  refine lv_iload_n C.1 C.2.1 dX0_item_0 rfl (lv_at hl 1 rfl) ?_
  refine xw_bad (rest := []) C hml ⟨Nat.le_of_ble_eq_true rfl, Nat.le_of_ble_eq_true rfl⟩ hl.1 rfl (Nat.le_of_ble_eq_true rfl) dX0_item_1 ⟨Nat.zero_le _, Nat.zero_le _⟩ ?_
  refine wn_ifzB (tgt := 9) C.1 C.2.1 dX0_item_4 (by decide) (fun c4 => ?_) (fun c4 => ?_)
  · obtain ⟨p, hp, rfl⟩ := qb_no c4
    refine lv_aload_n C.1 C.2.1 dX0_item_9 rfl (lv_at hl 0 rfl) ?_
    refine xw_callv (n := 0) (As := []) (rest := []) C hml h (x_settle l D ad dA dB _ σ hI) q152 q154 qs14 q155 rfl (by decide +kernel) rfl rfl ⟨Nat.le_of_ble_eq_true rfl, Nat.le_of_ble_eq_true rfl⟩ rfl hl.1 rfl (Nat.le_of_ble_eq_true rfl) dX0_item_10 ⟨Nat.zero_le _, Nat.zero_le _⟩ (fun H locs h => ?_)
    obtain ⟨τ, hT⟩ : ∃ τ, xc_settle 4000 σ = τ := ⟨_, rfl⟩
    have t40 : ∀ r, r < 8 → τ.1 4 r ≤ 40 := fun r hr8 => by rw [← hT]; exact ((xc_settle_J 4000 σ hI (xc_mu_le hI)).1.1.1.2 r hr8).1
    rw [hT] at h
    have tp := t40 p hp
    refine lv_iload_n C.1 C.2.1 dX0_item_13 rfl (lv_at hl 2 rfl) ?_
    refine lv_if_lt (tgt := 27) C.1 C.2.1 dX0_item_14 (by decide) (fun c14 => ?_) (fun c14 => ?_)
    · refine lv_bipush (v := (-3)) C.1 C.2.1 dX0_item_27 (by decide) ?_
      refine lv_goto (tgt := 43) C.1 C.2.1 dX0_item_29 (by decide) ?_
      have e9 : qr_item (xc_settle 4000) 4 8 σ (nI p) i = (-3, τ) := by unfold qr_item; rw [if_neg (show ¬ qb (nI p) = true by rw [qb_yes hp]; decide), nI_clamp (show p < 2 ^ 31 by omega), hT, if_pos (Or.inl c14)]
      exact xw_iret C h hr hlk (by rw [e9]) (by rw [e9]) dX0_item_43
    · refine lv_iload_n C.1 C.2.1 dX0_item_17 rfl (lv_at hl 2 rfl) ?_
      refine lv_aload_n C.1 C.2.1 dX0_item_18 rfl (lv_at hl 0 rfl) ?_
      refine xg4 C h dX0_item_19 ?_
      refine lv_iload_n C.1 C.2.1 dX0_item_22 rfl (lv_at hl 1 rfl) ?_
      refine xl4 (i := p) (w := τ.1 4 p) C h (by omega) rfl dX0_item_23 ?_
      refine lv_icmp_lt (tgt := 32) C.1 C.2.1 dX0_item_24 (by decide) (fun c24 => ?_) (fun c24 => ?_)
      · obtain ⟨j, hj31, rfl⟩ := nI_of c14
        have hj := (nI_ltI hj31 (by omega)).mp c24
        refine lv_aload_n C.1 C.2.1 dX0_item_32 rfl (lv_at hl 0 rfl) ?_
        refine xg8 C h dX0_item_33 ?_
        refine lv_iload_n C.1 C.2.1 dX0_item_36 rfl (lv_at hl 1 rfl) ?_
        refine lv_bipush (v := nI 40) C.1 C.2.1 dX0_item_37 (by decide) ?_
        refine wn_mul C.1 C.2.1 dX0_item_39 ?_
        refine lv_iload_n C.1 C.2.1 dX0_item_40 rfl (lv_at hl 2 rfl) ?_
        refine wn_add C.1 C.2.1 dX0_item_41 ?_
        refine xl8 (i := p * 40 + j) (w := τ.2 8 (p * 40 + j)) C h (by omega) rfl dX0_item_42 ?_
        have e9 : qr_item (xc_settle 4000) 4 8 σ (nI p) (nI j) = (τ.2 8 (p * 40 + j), τ) := by unfold qr_item; rw [if_neg (show ¬ qb (nI p) = true by rw [qb_yes hp]; decide), nI_clamp (show p < 2 ^ 31 by omega), hT, if_neg (fun z => z.elim c14 (fun y => Int32.not_le.mpr c24 y)), nI_clamp (show j < 2 ^ 31 by omega)]
        exact xw_iret C h hr hlk (by rw [e9]) (by rw [e9]) dX0_item_43
      · refine lv_bipush (v := (-3)) C.1 C.2.1 dX0_item_27 (by decide) ?_
        refine lv_goto (tgt := 43) C.1 C.2.1 dX0_item_29 (by decide) ?_
        have e9 : qr_item (xc_settle 4000) 4 8 σ (nI p) i = (-3, τ) := by unfold qr_item; rw [if_neg (show ¬ qb (nI p) = true by rw [qb_yes hp]; decide), nI_clamp (show p < 2 ^ 31 by omega), hT, if_pos (Or.inr (Int32.not_lt.mp c24))]
        exact xw_iret C h hr hlk (by rw [e9]) (by rw [e9]) dX0_item_43
  · refine lv_iconst (v := (-1)) C.1 C.2.1 dX0_item_7 (by decide) ?_
    have e9 : qr_item (xc_settle 4000) 4 8 σ x i = (-1, σ) := by unfold qr_item; rw [if_pos c4]
    exact xw_iret C h hr hlk (by rw [e9]) (by rw [e9]) dX0_item_8
set_option maxHeartbeats 4000000 in
set_option maxRecDepth 100000 in
theorem x_sum_l {l : Launch} {D : va_G} {ad : Nat → Nat} {dA dB : ClassId} {p_ : Program} {e : Env} {s : State} {m : MethodId} {args : Array Value} {below : List Frame} {meth : Method} {c : Code} {A : Nat → Prop} (C : xw_C D dA dB p_ s m args c cX0_sum) (hml : c.maxLocals = 4) (hr : meth.sig.returnType = some .int) (hlk : meth.locks = false) {p : Nat} (hp : p < 8) {τ : us_S} (tp : τ.1 4 p ≤ 40) {r : Int32} (hv : qa_sum (fun j => τ.2 8 (p * 40 + j)) (τ.1 4 p) = r) : ∀ (f i : Nat) (H : Heap) (locs : List Loc) (ls : Array Slot), i + f = τ.1 4 p → xw_H D ad dA dB A s H locs τ → lv_has ls 4 [(3, .int (nI i)), (2, .int (qa_sum (fun j => τ.2 8 (p * 40 + j)) i)), (0, .ref (ad 13)), (1, .int (nI p))] → W p_ l e ({ frames := 5, cells := 0, slots := 0, locals := 115 } : Room) s m args below meth c H locs 0 0 (MQ below (va_Qi (fun r' u => r' = r ∧ u = τ) (xw_B D ad dA dB A) A) args s 0 0 A) (F0 m 17 ls []) := by
  intro f
  induction f with
  | zero =>
    intro i H locs ls hi h hl
    refine lv_iload_n C.1 C.2.1 dX0_sum_17 rfl (lv_at hl 0 rfl) ?_
    refine lv_aload_n C.1 C.2.1 dX0_sum_18 rfl (lv_at hl 2 rfl) ?_
    refine xg4 C h dX0_sum_19 ?_
    refine lv_iload_n C.1 C.2.1 dX0_sum_22 rfl (lv_at hl 3 rfl) ?_
    refine xl4 (i := p) (w := τ.1 4 p) C h (by omega) rfl dX0_sum_23 ?_
    refine wn_ge (tgt := 47) C.1 C.2.1 (by omega) (by omega) dX0_sum_24 (by decide) (fun c24 => ?_) (fun z => absurd z (by omega))
    refine lv_iload_n C.1 C.2.1 dX0_sum_47 rfl (lv_at hl 1 rfl) ?_
    exact xw_iret C h hr hlk (by rw [← hv, ← hi]; rfl) rfl dX0_sum_48
  | succ f ih =>
    intro i H locs ls hi h hl
    refine lv_iload_n C.1 C.2.1 dX0_sum_17 rfl (lv_at hl 0 rfl) ?_
    refine lv_aload_n C.1 C.2.1 dX0_sum_18 rfl (lv_at hl 2 rfl) ?_
    refine xg4 C h dX0_sum_19 ?_
    refine lv_iload_n C.1 C.2.1 dX0_sum_22 rfl (lv_at hl 3 rfl) ?_
    refine xl4 (i := p) (w := τ.1 4 p) C h (by omega) rfl dX0_sum_23 ?_
    refine wn_ge (tgt := 47) C.1 C.2.1 (by omega) (by omega) dX0_sum_24 (by decide) (fun z => absurd z (by omega)) (fun c24 => ?_)
    refine lv_iload_n C.1 C.2.1 dX0_sum_27 rfl (lv_at hl 1 rfl) ?_
    refine lv_aload_n C.1 C.2.1 dX0_sum_28 rfl (lv_at hl 2 rfl) ?_
    refine xg8 C h dX0_sum_29 ?_
    refine lv_iload_n C.1 C.2.1 dX0_sum_32 rfl (lv_at hl 3 rfl) ?_
    refine lv_bipush (v := nI 40) C.1 C.2.1 dX0_sum_33 (by decide) ?_
    refine wn_mul C.1 C.2.1 dX0_sum_35 ?_
    refine lv_iload_n C.1 C.2.1 dX0_sum_36 rfl (lv_at hl 0 rfl) ?_
    refine wn_add C.1 C.2.1 dX0_sum_37 ?_
    refine xl8 (i := p * 40 + i) (w := τ.2 8 (p * 40 + i)) C h (by omega) rfl dX0_sum_38 ?_
    refine lv_iadd C.1 C.2.1 dX0_sum_39 ?_
    refine lv_istore_n (lv' := [(2, .int ((qa_sum (fun j => τ.2 8 (p * 40 + j)) i) + (τ.2 8 (p * 40 + i)))), (3, .int (nI i)), (0, .ref (ad 13)), (1, .int (nI p))]) C.1 C.2.1 dX0_sum_40 rfl hl (by decide) rfl (fun ls hl => ?_)
    refine lv_iinc (v := nI (i + 1)) (lv' := [(3, .int (nI (i + 1))), (2, .int ((qa_sum (fun j => τ.2 8 (p * 40 + j)) i) + (τ.2 8 (p * 40 + i)))), (0, .ref (ad 13)), (1, .int (nI p))]) C.1 C.2.1 dX0_sum_41 hl (k := 1) rfl (wn_inc _) (by decide) rfl (fun ls hl => ?_)
    refine lv_goto (tgt := 17) C.1 C.2.1 dX0_sum_44 (by decide) ?_
    exact ih (i + 1) H locs ls (by omega) h (lv_sub hl [0, 1, 2, 3] rfl)
set_option maxHeartbeats 4000000 in
set_option maxRecDepth 100000 in
theorem x_sum (l : Launch) (D : va_G) (ad : Nat → Nat) (dA dB : ClassId) (sz : Nat) (σ : us_S) (x : Int32) (hI : xc_Inv σ) : xw_Mi l yX0_sum cX0_sum 4 (some .int) ({ frames := 5, cells := 0, slots := 0, locals := 115 } : Room) D ad dA dB sz σ [.int x] ((qr_sum (xc_settle 4000) 4 8 σ x).1) ((qr_sum (xc_settle 4000) 4 8 σ x).2) := by
  refine xw_Mi_of (by decide) rfl (Nat.le_of_ble_eq_true rfl) (fun p_ e s m below meth c A ls C hml hr hlk h hl => ?_)
  have hl : lv_has ls 4 [(0, .ref (ad 13)), (1, .int x)] := hl
  refine lv_iload_n C.1 C.2.1 dX0_sum_0 rfl (lv_at hl 1 rfl) ?_
  refine xw_bad (rest := []) C hml ⟨Nat.le_of_ble_eq_true rfl, Nat.le_of_ble_eq_true rfl⟩ hl.1 rfl (Nat.le_of_ble_eq_true rfl) dX0_sum_1 ⟨Nat.zero_le _, Nat.zero_le _⟩ ?_
  refine wn_ifzB (tgt := 9) C.1 C.2.1 dX0_sum_4 (by decide) (fun c4 => ?_) (fun c4 => ?_)
  · obtain ⟨p, hp, rfl⟩ := qb_no c4
    refine lv_aload_n C.1 C.2.1 dX0_sum_9 rfl (lv_at hl 0 rfl) ?_
    refine xw_callv (n := 0) (As := []) (rest := []) C hml h (x_settle l D ad dA dB _ σ hI) q152 q154 qs14 q155 rfl (by decide +kernel) rfl rfl ⟨Nat.le_of_ble_eq_true rfl, Nat.le_of_ble_eq_true rfl⟩ rfl hl.1 rfl (Nat.le_of_ble_eq_true rfl) dX0_sum_10 ⟨Nat.zero_le _, Nat.zero_le _⟩ (fun H locs h => ?_)
    obtain ⟨τ, hT⟩ : ∃ τ, xc_settle 4000 σ = τ := ⟨_, rfl⟩
    have t40 : ∀ r, r < 8 → τ.1 4 r ≤ 40 := fun r hr8 => by rw [← hT]; exact ((xc_settle_J 4000 σ hI (xc_mu_le hI)).1.1.1.2 r hr8).1
    rw [hT] at h
    refine lv_iconst (v := 0) C.1 C.2.1 dX0_sum_13 (by decide) ?_
    refine lv_istore_n (lv' := [(2, .int 0), (0, .ref (ad 13)), (1, .int (nI p))]) C.1 C.2.1 dX0_sum_14 rfl hl (by decide) rfl (fun ls hl => ?_)
    refine lv_iconst (v := nI 0) C.1 C.2.1 dX0_sum_15 (by decide) ?_
    refine lv_istore_n (lv' := [(3, .int (nI 0)), (2, .int 0), (0, .ref (ad 13)), (1, .int (nI p))]) C.1 C.2.1 dX0_sum_16 rfl hl (by decide) rfl (fun ls hl => ?_)
    have e9 : qr_sum (xc_settle 4000) 4 8 σ (nI p) = (qa_sum (fun j => τ.2 8 (p * 40 + j)) (τ.1 4 p), τ) := by unfold qr_sum; rw [if_neg (show ¬ qb (nI p) = true by rw [qb_yes hp]; decide), nI_clamp (show p < 2 ^ 31 by omega), hT]
    rw [e9]
    exact x_sum_l C hml hr hlk hp (t40 p hp) rfl (τ.1 4 p) 0 _ _ ls (Nat.zero_add _) h (lv_sub hl [0, 1, 2, 3] rfl)
  · refine lv_iconst (v := (-1)) C.1 C.2.1 dX0_sum_7 (by decide) ?_
    have e9 : qr_sum (xc_settle 4000) 4 8 σ x = (-1, σ) := by unfold qr_sum; rw [if_pos c4]
    exact xw_iret C h hr hlk (by rw [e9]) (by rw [e9]) dX0_sum_8
set_option maxHeartbeats 4000000 in
set_option maxRecDepth 100000 in
theorem x_find_l {l : Launch} {D : va_G} {ad : Nat → Nat} {dA dB : ClassId} {p_ : Program} {e : Env} {s : State} {m : MethodId} {args : Array Value} {below : List Frame} {meth : Method} {c : Code} {A : Nat → Prop} (C : xw_C D dA dB p_ s m args c cX0_find) (hml : c.maxLocals = 4) (hr : meth.sig.returnType = some .int) (hlk : meth.locks = false) {p : Nat} (hp : p < 8) {v : Int32} {τ : us_S} (tp : τ.1 4 p ≤ 40) {r : Int32} : ∀ (f i : Nat) (H : Heap) (locs : List Loc) (ls : Array Slot), i + f = τ.1 4 p → qa_find (fun j => τ.2 8 (p * 40 + j)) v f i = r → xw_H D ad dA dB A s H locs τ → lv_has ls 4 [(3, .int (nI i)), (0, .ref (ad 13)), (1, .int (nI p)), (2, .int v)] → W p_ l e ({ frames := 5, cells := 0, slots := 0, locals := 115 } : Room) s m args below meth c H locs 0 0 (MQ below (va_Qi (fun r' u => r' = r ∧ u = τ) (xw_B D ad dA dB A) A) args s 0 0 A) (F0 m 15 ls []) := by
  intro f
  induction f with
  | zero =>
    intro i H locs ls hi hv h hl
    refine lv_iload_n C.1 C.2.1 dX0_find_15 rfl (lv_at hl 0 rfl) ?_
    refine lv_aload_n C.1 C.2.1 dX0_find_16 rfl (lv_at hl 1 rfl) ?_
    refine xg4 C h dX0_find_17 ?_
    refine lv_iload_n C.1 C.2.1 dX0_find_20 rfl (lv_at hl 2 rfl) ?_
    refine xl4 (i := p) (w := τ.1 4 p) C h (by omega) rfl dX0_find_21 ?_
    refine wn_ge (tgt := 48) C.1 C.2.1 (by omega) (by omega) dX0_find_22 (by decide) (fun c22 => ?_) (fun z => absurd z (by omega))
    refine lv_bipush (v := (-3)) C.1 C.2.1 dX0_find_48 (by decide) ?_
    exact xw_iret C h hr hlk hv rfl dX0_find_50
  | succ f ih =>
    intro i H locs ls hi hv h hl
    have hv : (if τ.2 8 (p * 40 + i) = v then nI i else qa_find (fun j => τ.2 8 (p * 40 + j)) v f (i + 1)) = r := hv
    refine lv_iload_n C.1 C.2.1 dX0_find_15 rfl (lv_at hl 0 rfl) ?_
    refine lv_aload_n C.1 C.2.1 dX0_find_16 rfl (lv_at hl 1 rfl) ?_
    refine xg4 C h dX0_find_17 ?_
    refine lv_iload_n C.1 C.2.1 dX0_find_20 rfl (lv_at hl 2 rfl) ?_
    refine xl4 (i := p) (w := τ.1 4 p) C h (by omega) rfl dX0_find_21 ?_
    refine wn_ge (tgt := 48) C.1 C.2.1 (by omega) (by omega) dX0_find_22 (by decide) (fun z => absurd z (by omega)) (fun c22 => ?_)
    refine lv_aload_n C.1 C.2.1 dX0_find_25 rfl (lv_at hl 1 rfl) ?_
    refine xg8 C h dX0_find_26 ?_
    refine lv_iload_n C.1 C.2.1 dX0_find_29 rfl (lv_at hl 2 rfl) ?_
    refine lv_bipush (v := nI 40) C.1 C.2.1 dX0_find_30 (by decide) ?_
    refine wn_mul C.1 C.2.1 dX0_find_32 ?_
    refine lv_iload_n C.1 C.2.1 dX0_find_33 rfl (lv_at hl 0 rfl) ?_
    refine wn_add C.1 C.2.1 dX0_find_34 ?_
    refine xl8 (i := p * 40 + i) (w := τ.2 8 (p * 40 + i)) C h (by omega) rfl dX0_find_35 ?_
    refine lv_iload_n C.1 C.2.1 dX0_find_36 rfl (lv_at hl 3 rfl) ?_
    refine lv_icmp_ne (tgt := 42) C.1 C.2.1 dX0_find_37 (by decide) (fun c37 => ?_) (fun c37 => ?_)
    · refine lv_iinc (v := nI (i + 1)) (lv' := [(3, .int (nI (i + 1))), (0, .ref (ad 13)), (1, .int (nI p)), (2, .int v)]) C.1 C.2.1 dX0_find_42 hl (k := 0) rfl (wn_inc _) (by decide) rfl (fun ls hl => ?_)
      refine lv_goto (tgt := 15) C.1 C.2.1 dX0_find_45 (by decide) ?_
      rw [if_neg c37] at hv
      exact ih (i + 1) H locs ls (by omega) hv h (lv_sub hl [0, 1, 2, 3] rfl)
    · refine lv_iload_n C.1 C.2.1 dX0_find_40 rfl (lv_at hl 0 rfl) ?_
      exact xw_iret C h hr hlk (by rw [if_pos c37] at hv; exact hv) rfl dX0_find_41
set_option maxHeartbeats 4000000 in
set_option maxRecDepth 100000 in
theorem x_find (l : Launch) (D : va_G) (ad : Nat → Nat) (dA dB : ClassId) (sz : Nat) (σ : us_S) (x v : Int32) (hI : xc_Inv σ) : xw_Mi l yX0_find cX0_find 4 (some .int) ({ frames := 5, cells := 0, slots := 0, locals := 115 } : Room) D ad dA dB sz σ [.int x, .int v] ((qr_find (xc_settle 4000) 4 8 σ x v).1) ((qr_find (xc_settle 4000) 4 8 σ x v).2) := by
  refine xw_Mi_of (by decide) rfl (Nat.le_of_ble_eq_true rfl) (fun p_ e s m below meth c A ls C hml hr hlk h hl => ?_)
  have hl : lv_has ls 4 [(0, .ref (ad 13)), (1, .int x), (2, .int v)] := hl
  refine lv_iload_n C.1 C.2.1 dX0_find_0 rfl (lv_at hl 1 rfl) ?_
  refine xw_bad (rest := []) C hml ⟨Nat.le_of_ble_eq_true rfl, Nat.le_of_ble_eq_true rfl⟩ hl.1 rfl (Nat.le_of_ble_eq_true rfl) dX0_find_1 ⟨Nat.zero_le _, Nat.zero_le _⟩ ?_
  refine wn_ifzB (tgt := 9) C.1 C.2.1 dX0_find_4 (by decide) (fun c4 => ?_) (fun c4 => ?_)
  · obtain ⟨p, hp, rfl⟩ := qb_no c4
    refine lv_aload_n C.1 C.2.1 dX0_find_9 rfl (lv_at hl 0 rfl) ?_
    refine xw_callv (n := 0) (As := []) (rest := []) C hml h (x_settle l D ad dA dB _ σ hI) q152 q154 qs14 q155 rfl (by decide +kernel) rfl rfl ⟨Nat.le_of_ble_eq_true rfl, Nat.le_of_ble_eq_true rfl⟩ rfl hl.1 rfl (Nat.le_of_ble_eq_true rfl) dX0_find_10 ⟨Nat.zero_le _, Nat.zero_le _⟩ (fun H locs h => ?_)
    obtain ⟨τ, hT⟩ : ∃ τ, xc_settle 4000 σ = τ := ⟨_, rfl⟩
    have t40 : ∀ r, r < 8 → τ.1 4 r ≤ 40 := fun r hr8 => by rw [← hT]; exact ((xc_settle_J 4000 σ hI (xc_mu_le hI)).1.1.1.2 r hr8).1
    rw [hT] at h
    refine lv_iconst (v := nI 0) C.1 C.2.1 dX0_find_13 (by decide) ?_
    refine lv_istore_n (lv' := [(3, .int (nI 0)), (0, .ref (ad 13)), (1, .int (nI p)), (2, .int v)]) C.1 C.2.1 dX0_find_14 rfl hl (by decide) rfl (fun ls hl => ?_)
    have e9 : qr_find (xc_settle 4000) 4 8 σ (nI p) v = (qa_find (fun j => τ.2 8 (p * 40 + j)) v (τ.1 4 p) 0, τ) := by unfold qr_find; rw [if_neg (show ¬ qb (nI p) = true by rw [qb_yes hp]; decide), nI_clamp (show p < 2 ^ 31 by omega), hT]
    rw [e9]
    exact x_find_l C hml hr hlk hp (t40 p hp) (τ.1 4 p) 0 _ _ ls (Nat.zero_add _) rfl h (lv_sub hl [0, 1, 2, 3] rfl)
  · refine lv_iconst (v := (-1)) C.1 C.2.1 dX0_find_7 (by decide) ?_
    have e9 : qr_find (xc_settle 4000) 4 8 σ x v = (-1, σ) := by unfold qr_find; rw [if_pos c4]
    exact xw_iret C h hr hlk (by rw [e9]) (by rw [e9]) dX0_find_8
set_option maxHeartbeats 4000000 in
set_option maxRecDepth 100000 in
theorem x_same_l {l : Launch} {D : va_G} {ad : Nat → Nat} {dA dB : ClassId} {p_ : Program} {e : Env} {s : State} {m : MethodId} {args : Array Value} {below : List Frame} {meth : Method} {c : Code} {A : Nat → Prop} (C : xw_C D dA dB p_ s m args c cX0_same) (hml : c.maxLocals = 4) (hr : meth.sig.returnType = some .boolean) (hlk : meth.locks = false) {p q : Nat} (hp : p < 8) (hq : q < 8) {τ : us_S} (tp : τ.1 4 p ≤ 40) {b : Bool} : ∀ (f i : Nat) (H : Heap) (locs : List Loc) (ls : Array Slot), i + f = τ.1 4 p → qa_same (fun j => τ.2 8 (p * 40 + j)) (fun j => τ.2 8 (q * 40 + j)) f i = b → xw_H D ad dA dB A s H locs τ → lv_has ls 4 [(3, .int (nI i)), (0, .ref (ad 13)), (1, .int (nI p)), (2, .int (nI q))] → W p_ l e ({ frames := 5, cells := 0, slots := 0, locals := 115 } : Room) s m args below meth c H locs 0 0 (MQ below (va_Qi (fun r' u => r' = bz b ∧ u = τ) (xw_B D ad dA dB A) A) args s 0 0 A) (F0 m 39 ls []) := by
  intro f
  induction f with
  | zero =>
    intro i H locs ls hi hv h hl
    refine lv_iload_n C.1 C.2.1 dX0_same_39 rfl (lv_at hl 0 rfl) ?_
    refine lv_aload_n C.1 C.2.1 dX0_same_40 rfl (lv_at hl 1 rfl) ?_
    refine xg4 C h dX0_same_41 ?_
    refine lv_iload_n C.1 C.2.1 dX0_same_44 rfl (lv_at hl 2 rfl) ?_
    refine xl4 (i := p) (w := τ.1 4 p) C h (by omega) rfl dX0_same_45 ?_
    refine wn_ge (tgt := 82) C.1 C.2.1 (by omega) (by omega) dX0_same_46 (by decide) (fun c46 => ?_) (fun z => absurd z (by omega))
    refine lv_iconst (v := nI 1) C.1 C.2.1 dX0_same_82 (by decide) ?_
    exact xw_zret C h hr hlk (by rw [← hv]; exact bz_1) rfl dX0_same_83
  | succ f ih =>
    intro i H locs ls hi hv h hl
    have hv : (if τ.2 8 (p * 40 + i) = τ.2 8 (q * 40 + i) then qa_same (fun j => τ.2 8 (p * 40 + j)) (fun j => τ.2 8 (q * 40 + j)) f (i + 1) else false) = b := hv
    refine lv_iload_n C.1 C.2.1 dX0_same_39 rfl (lv_at hl 0 rfl) ?_
    refine lv_aload_n C.1 C.2.1 dX0_same_40 rfl (lv_at hl 1 rfl) ?_
    refine xg4 C h dX0_same_41 ?_
    refine lv_iload_n C.1 C.2.1 dX0_same_44 rfl (lv_at hl 2 rfl) ?_
    refine xl4 (i := p) (w := τ.1 4 p) C h (by omega) rfl dX0_same_45 ?_
    refine wn_ge (tgt := 82) C.1 C.2.1 (by omega) (by omega) dX0_same_46 (by decide) (fun z => absurd z (by omega)) (fun c46 => ?_)
    refine lv_aload_n C.1 C.2.1 dX0_same_49 rfl (lv_at hl 1 rfl) ?_
    refine xg8 C h dX0_same_50 ?_
    refine lv_iload_n C.1 C.2.1 dX0_same_53 rfl (lv_at hl 2 rfl) ?_
    refine lv_bipush (v := nI 40) C.1 C.2.1 dX0_same_54 (by decide) ?_
    refine wn_mul C.1 C.2.1 dX0_same_56 ?_
    refine lv_iload_n C.1 C.2.1 dX0_same_57 rfl (lv_at hl 0 rfl) ?_
    refine wn_add C.1 C.2.1 dX0_same_58 ?_
    refine xl8 (i := p * 40 + i) (w := τ.2 8 (p * 40 + i)) C h (by omega) rfl dX0_same_59 ?_
    refine lv_aload_n C.1 C.2.1 dX0_same_60 rfl (lv_at hl 1 rfl) ?_
    refine xg8 C h dX0_same_61 ?_
    refine lv_iload_n C.1 C.2.1 dX0_same_64 rfl (lv_at hl 3 rfl) ?_
    refine lv_bipush (v := nI 40) C.1 C.2.1 dX0_same_65 (by decide) ?_
    refine wn_mul C.1 C.2.1 dX0_same_67 ?_
    refine lv_iload_n C.1 C.2.1 dX0_same_68 rfl (lv_at hl 0 rfl) ?_
    refine wn_add C.1 C.2.1 dX0_same_69 ?_
    refine xl8 (i := q * 40 + i) (w := τ.2 8 (q * 40 + i)) C h (by omega) rfl dX0_same_70 ?_
    refine lv_icmp_eq (tgt := 76) C.1 C.2.1 dX0_same_71 (by decide) (fun c71 => ?_) (fun c71 => ?_)
    · refine lv_iinc (v := nI (i + 1)) (lv' := [(3, .int (nI (i + 1))), (0, .ref (ad 13)), (1, .int (nI p)), (2, .int (nI q))]) C.1 C.2.1 dX0_same_76 hl (k := 0) rfl (wn_inc _) (by decide) rfl (fun ls hl => ?_)
      refine lv_goto (tgt := 39) C.1 C.2.1 dX0_same_79 (by decide) ?_
      rw [if_pos c71] at hv
      exact ih (i + 1) H locs ls (by omega) hv h (lv_sub hl [0, 1, 2, 3] rfl)
    · refine lv_iconst (v := nI 0) C.1 C.2.1 dX0_same_74 (by decide) ?_
      exact xw_zret C h hr hlk (by rw [if_neg c71] at hv; rw [← hv]; exact bz_0) rfl dX0_same_75
set_option maxHeartbeats 4000000 in
set_option maxRecDepth 100000 in
theorem x_same (l : Launch) (D : va_G) (ad : Nat → Nat) (dA dB : ClassId) (sz : Nat) (σ : us_S) (x y : Int32) (hI : xc_Inv σ) : xw_Mi l yX0_same cX0_same 4 (some .boolean) ({ frames := 5, cells := 0, slots := 0, locals := 115 } : Room) D ad dA dB sz σ [.int x, .int y] (bz (qr_same (xc_settle 4000) 4 8 σ x y).1) ((qr_same (xc_settle 4000) 4 8 σ x y).2) := by
  refine xw_Mi_of (by decide) rfl (Nat.le_of_ble_eq_true rfl) (fun p_ e s m below meth c A ls C hml hr hlk h hl => ?_)
  have hl : lv_has ls 4 [(0, .ref (ad 13)), (1, .int x), (2, .int y)] := hl
  refine lv_iload_n C.1 C.2.1 dX0_same_0 rfl (lv_at hl 1 rfl) ?_
  refine xw_bad (rest := []) C hml ⟨Nat.le_of_ble_eq_true rfl, Nat.le_of_ble_eq_true rfl⟩ hl.1 rfl (Nat.le_of_ble_eq_true rfl) dX0_same_1 ⟨Nat.zero_le _, Nat.zero_le _⟩ ?_
  refine wn_ifnB (tgt := 14) C.1 C.2.1 dX0_same_4 (by decide) (fun c4 => ?_) (fun c4 => ?_)
  · refine lv_iconst (v := nI 0) C.1 C.2.1 dX0_same_14 (by decide) ?_
    have e9 : qr_same (xc_settle 4000) 4 8 σ x y = (false, σ) := by unfold qr_same; rw [if_pos (Or.inl c4)]
    exact xw_zret C h hr hlk (by rw [e9]; exact bz_0) (by rw [e9]) dX0_same_15
  · refine lv_iload_n C.1 C.2.1 dX0_same_7 rfl (lv_at hl 2 rfl) ?_
    refine xw_bad (rest := []) C hml ⟨Nat.le_of_ble_eq_true rfl, Nat.le_of_ble_eq_true rfl⟩ hl.1 rfl (Nat.le_of_ble_eq_true rfl) dX0_same_8 ⟨Nat.zero_le _, Nat.zero_le _⟩ ?_
    refine wn_ifzB (tgt := 16) C.1 C.2.1 dX0_same_11 (by decide) (fun c11 => ?_) (fun c11 => ?_)
    · obtain ⟨p, hp, rfl⟩ := qb_no c4
      obtain ⟨q, hq, rfl⟩ := qb_no c11
      refine lv_aload_n C.1 C.2.1 dX0_same_16 rfl (lv_at hl 0 rfl) ?_
      refine xw_callv (n := 0) (As := []) (rest := []) C hml h (x_settle l D ad dA dB _ σ hI) q152 q154 qs14 q155 rfl (by decide +kernel) rfl rfl ⟨Nat.le_of_ble_eq_true rfl, Nat.le_of_ble_eq_true rfl⟩ rfl hl.1 rfl (Nat.le_of_ble_eq_true rfl) dX0_same_17 ⟨Nat.zero_le _, Nat.zero_le _⟩ (fun H locs h => ?_)
      obtain ⟨τ, hT⟩ : ∃ τ, xc_settle 4000 σ = τ := ⟨_, rfl⟩
      have t40 : ∀ r, r < 8 → τ.1 4 r ≤ 40 := fun r hr8 => by rw [← hT]; exact ((xc_settle_J 4000 σ hI (xc_mu_le hI)).1.1.1.2 r hr8).1
      rw [hT] at h
      have tp := t40 p hp
      have tq := t40 q hq
      refine lv_aload_n C.1 C.2.1 dX0_same_20 rfl (lv_at hl 0 rfl) ?_
      refine xg4 C h dX0_same_21 ?_
      refine lv_iload_n C.1 C.2.1 dX0_same_24 rfl (lv_at hl 1 rfl) ?_
      refine xl4 (i := p) (w := τ.1 4 p) C h (by omega) rfl dX0_same_25 ?_
      refine lv_aload_n C.1 C.2.1 dX0_same_26 rfl (lv_at hl 0 rfl) ?_
      refine xg4 C h dX0_same_27 ?_
      refine lv_iload_n C.1 C.2.1 dX0_same_30 rfl (lv_at hl 2 rfl) ?_
      refine xl4 (i := q) (w := τ.1 4 q) C h (by omega) rfl dX0_same_31 ?_
      refine wn_eq (tgt := 37) C.1 C.2.1 (by omega) (by omega) dX0_same_32 (by decide) (fun c32 => ?_) (fun c32 => ?_)
      · refine lv_iconst (v := nI 0) C.1 C.2.1 dX0_same_37 (by decide) ?_
        refine lv_istore_n (lv' := [(3, .int (nI 0)), (0, .ref (ad 13)), (1, .int (nI p)), (2, .int (nI q))]) C.1 C.2.1 dX0_same_38 rfl hl (by decide) rfl (fun ls hl => ?_)
        have e9 : qr_same (xc_settle 4000) 4 8 σ (nI p) (nI q) = (qa_same (fun j => τ.2 8 (p * 40 + j)) (fun j => τ.2 8 (q * 40 + j)) (τ.1 4 p) 0, τ) := by unfold qr_same; rw [if_neg (show ¬ (qb (nI p) = true ∨ qb (nI q) = true) by rw [qb_yes hp, qb_yes hq]; decide), nI_clamp (show p < 2 ^ 31 by omega), nI_clamp (show q < 2 ^ 31 by omega), hT, if_pos c32]
        rw [e9]
        exact x_same_l C hml hr hlk hp hq (t40 p hp) (τ.1 4 p) 0 _ _ ls (Nat.zero_add _) rfl h (lv_sub hl [0, 1, 2, 3] rfl)
      · refine lv_iconst (v := nI 0) C.1 C.2.1 dX0_same_35 (by decide) ?_
        have e9 : qr_same (xc_settle 4000) 4 8 σ (nI p) (nI q) = (false, τ) := by unfold qr_same; rw [if_neg (show ¬ (qb (nI p) = true ∨ qb (nI q) = true) by rw [qb_yes hp, qb_yes hq]; decide), nI_clamp (show p < 2 ^ 31 by omega), nI_clamp (show q < 2 ^ 31 by omega), hT, if_neg c32]
        exact xw_zret C h hr hlk (by rw [e9]; exact bz_0) (by rw [e9]) dX0_same_36
    · refine lv_iconst (v := nI 0) C.1 C.2.1 dX0_same_14 (by decide) ?_
      have e9 : qr_same (xc_settle 4000) 4 8 σ x y = (false, σ) := by unfold qr_same; rw [if_pos (Or.inr c11)]
      exact xw_zret C h hr hlk (by rw [e9]; exact bz_0) (by rw [e9]) dX0_same_15
set_option maxHeartbeats 4000000 in
set_option maxRecDepth 100000 in
theorem x_full_l {l : Launch} {D : va_G} {ad : Nat → Nat} {dA dB : ClassId} {p_ : Program} {e : Env} {s : State} {m : MethodId} {args : Array Value} {below : List Frame} {meth : Method} {c : Code} {A : Nat → Prop} (C : xw_C D dA dB p_ s m args c cX0_full) (hml : c.maxLocals = 3) (hr : meth.sig.returnType = some .int) (hlk : meth.locks = false) {τ : us_S} (t40 : ∀ r, r < 8 → τ.1 4 r ≤ 40) : ∀ (f p : Nat) (H : Heap) (locs : List Loc) (ls : Array Slot), p + f = 8 → xw_H D ad dA dB A s H locs τ → lv_has ls 3 [(2, .int (nI p)), (1, .int (nI (qa_full (τ.1 4) p))), (0, .ref (ad 13))] → W p_ l e ({ frames := 5, cells := 0, slots := 0, locals := 115 } : Room) s m args below meth c H locs 0 0 (MQ below (va_Qi (fun r' u => r' = nI (qa_full (τ.1 4) 8) ∧ u = τ) (xw_B D ad dA dB A) A) args s 0 0 A) (F0 m 8 ls []) := by
  intro f
  induction f with
  | zero =>
    intro p H locs ls hi h hl
    refine lv_iload_n C.1 C.2.1 dX0_full_8 rfl (lv_at hl 0 rfl) ?_
    refine lv_bipush (v := nI 8) C.1 C.2.1 dX0_full_9 (by decide) ?_
    refine wn_ge (tgt := 34) C.1 C.2.1 (by omega) (by omega) dX0_full_11 (by decide) (fun c11 => ?_) (fun z => absurd z (by omega))
    refine lv_iload_n C.1 C.2.1 dX0_full_34 rfl (lv_at hl 1 rfl) ?_
    exact xw_iret C h hr hlk (by rw [← hi]; rfl) rfl dX0_full_35
  | succ f ih =>
    intro p H locs ls hi h hl
    have hp : p < 8 := by omega
    have tp := t40 p hp
    refine lv_iload_n C.1 C.2.1 dX0_full_8 rfl (lv_at hl 0 rfl) ?_
    refine lv_bipush (v := nI 8) C.1 C.2.1 dX0_full_9 (by decide) ?_
    refine wn_ge (tgt := 34) C.1 C.2.1 (by omega) (by omega) dX0_full_11 (by decide) (fun z => absurd z (by omega)) (fun c11 => ?_)
    refine lv_aload_n C.1 C.2.1 dX0_full_14 rfl (lv_at hl 2 rfl) ?_
    refine xg4 C h dX0_full_15 ?_
    refine lv_iload_n C.1 C.2.1 dX0_full_18 rfl (lv_at hl 0 rfl) ?_
    refine xl4 (i := p) (w := τ.1 4 p) C h (by omega) rfl dX0_full_19 ?_
    refine lv_bipush (v := nI 40) C.1 C.2.1 dX0_full_20 (by decide) ?_
    refine wn_ne (tgt := 28) C.1 C.2.1 (by omega) (by omega) dX0_full_22 (by decide) (fun c22 => ?_) (fun c22 => ?_)
    · refine lv_iinc (v := nI (p + 1)) (lv' := [(2, .int (nI (p + 1))), (1, .int (nI (qa_full (τ.1 4) p))), (0, .ref (ad 13))]) C.1 C.2.1 dX0_full_28 hl (k := 0) rfl (wn_inc _) (by decide) rfl (fun ls hl => ?_)
      refine lv_goto (tgt := 8) C.1 C.2.1 dX0_full_31 (by decide) ?_
      have e0 : qa_full (τ.1 4) (p + 1) = qa_full (τ.1 4) p := by show (if τ.1 4 p = 40 then qa_full (τ.1 4) p + 1 else qa_full (τ.1 4) p) = _; rw [if_neg c22]
      rw [← e0] at hl
      exact ih (p + 1) H locs ls (by omega) h (lv_sub hl [0, 1, 2] rfl)
    · refine lv_iinc (v := nI (qa_full (τ.1 4) p + 1)) (lv' := [(1, .int (nI (qa_full (τ.1 4) p + 1))), (2, .int (nI p)), (0, .ref (ad 13))]) C.1 C.2.1 dX0_full_25 hl (k := 1) rfl (wn_inc _) (by decide) rfl (fun ls hl => ?_)
      refine lv_iinc (v := nI (p + 1)) (lv' := [(2, .int (nI (p + 1))), (1, .int (nI (qa_full (τ.1 4) p + 1))), (0, .ref (ad 13))]) C.1 C.2.1 dX0_full_28 hl (k := 1) rfl (wn_inc _) (by decide) rfl (fun ls hl => ?_)
      refine lv_goto (tgt := 8) C.1 C.2.1 dX0_full_31 (by decide) ?_
      have e0 : qa_full (τ.1 4) (p + 1) = qa_full (τ.1 4) p + 1 := by show (if τ.1 4 p = 40 then qa_full (τ.1 4) p + 1 else qa_full (τ.1 4) p) = _; rw [if_pos c22]
      rw [← e0] at hl
      exact ih (p + 1) H locs ls (by omega) h (lv_sub hl [0, 1, 2] rfl)
set_option maxHeartbeats 4000000 in
set_option maxRecDepth 100000 in
theorem x_full (l : Launch) (D : va_G) (ad : Nat → Nat) (dA dB : ClassId) (sz : Nat) (σ : us_S) (hI : xc_Inv σ) : xw_Mi l yX0_full cX0_full 3 (some .int) ({ frames := 5, cells := 0, slots := 0, locals := 115 } : Room) D ad dA dB sz σ [] ((qr_full (xc_settle 4000) 4 σ).1) ((qr_full (xc_settle 4000) 4 σ).2) := by
  refine xw_Mi_of (by decide) rfl (Nat.le_of_ble_eq_true rfl) (fun p_ e s m below meth c A ls C hml hr hlk h hl => ?_)
  have hl : lv_has ls 3 [(0, .ref (ad 13))] := hl
  refine lv_aload_n C.1 C.2.1 dX0_full_0 rfl (lv_at hl 0 rfl) ?_
  refine xw_callv (n := 0) (As := []) (rest := []) C hml h (x_settle l D ad dA dB _ σ hI) q152 q154 qs14 q155 rfl (by decide +kernel) rfl rfl ⟨Nat.le_of_ble_eq_true rfl, Nat.le_of_ble_eq_true rfl⟩ rfl hl.1 rfl (Nat.le_of_ble_eq_true rfl) dX0_full_1 ⟨Nat.zero_le _, Nat.zero_le _⟩ (fun H locs h => ?_)
  obtain ⟨τ, hT⟩ : ∃ τ, xc_settle 4000 σ = τ := ⟨_, rfl⟩
  have t40 : ∀ r, r < 8 → τ.1 4 r ≤ 40 := fun r hr8 => by rw [← hT]; exact ((xc_settle_J 4000 σ hI (xc_mu_le hI)).1.1.1.2 r hr8).1
  rw [hT] at h
  refine lv_iconst (v := nI 0) C.1 C.2.1 dX0_full_4 (by decide) ?_
  refine lv_istore_n (lv' := [(1, .int (nI 0)), (0, .ref (ad 13))]) C.1 C.2.1 dX0_full_5 rfl hl (by decide) rfl (fun ls hl => ?_)
  refine lv_iconst (v := nI 0) C.1 C.2.1 dX0_full_6 (by decide) ?_
  refine lv_istore_n (lv' := [(2, .int (nI 0)), (1, .int (nI 0)), (0, .ref (ad 13))]) C.1 C.2.1 dX0_full_7 rfl hl (by decide) rfl (fun ls hl => ?_)
  have e9 : qr_full (xc_settle 4000) 4 σ = (nI (qa_full (τ.1 4) 8), τ) := by unfold qr_full; rw [hT]
  rw [e9]
  exact x_full_l C hml hr hlk t40 8 0 _ _ ls rfl h (lv_sub hl [0, 1, 2] rfl)
set_option maxHeartbeats 4000000 in
set_option maxRecDepth 100000 in
theorem x_set (l : Launch) (D : va_G) (ad : Nat → Nat) (dA dB : ClassId) (sz : Nat) (σ : us_S) (x k y a : Int32) : xw_Mi l yX0_set cX0_set 5 (some .int) ({ frames := 2, cells := 0, slots := 0, locals := 42 } : Room) D ad dA dB sz σ [.int x, .int k, .int y, .int a] ((qr_set xc_restart σ x k y a).1) ((qr_set xc_restart σ x k y a).2) := by
  refine xw_Mi_of (by decide) rfl (Nat.le_of_ble_eq_true rfl) (fun p_ e s m below meth c A ls C hml hr hlk h hl => ?_)
  have hl : lv_has ls 5 [(0, .ref (ad 13)), (1, .int x), (2, .int k), (3, .int y), (4, .int a)] := hl
  refine lv_iload_n C.1 C.2.1 dX0_set_0 rfl (lv_at hl 1 rfl) ?_
  refine xw_bad (rest := []) C hml ⟨Nat.le_of_ble_eq_true rfl, Nat.le_of_ble_eq_true rfl⟩ hl.1 rfl (Nat.le_of_ble_eq_true rfl) dX0_set_1 ⟨Nat.zero_le _, Nat.zero_le _⟩ ?_
  refine wn_ifzB (tgt := 9) C.1 C.2.1 dX0_set_4 (by decide) (fun c4 => ?_) (fun c4 => ?_)
  · obtain ⟨p, hp, rfl⟩ := qb_no c4
    refine lv_iload_n C.1 C.2.1 dX0_set_9 rfl (lv_at hl 2 rfl) ?_
    refine lv_if_lt (tgt := 19) C.1 C.2.1 dX0_set_10 (by decide) (fun c10 => ?_) (fun c10 => ?_)
    · refine lv_bipush (v := (-2)) C.1 C.2.1 dX0_set_19 (by decide) ?_
      have e9 : qr_set xc_restart σ (nI p) k y a = (-2, σ) := by unfold qr_set; rw [if_neg (show ¬ qb (nI p) = true by rw [qb_yes hp]; decide), if_pos (Or.inl c10)]
      exact xw_iret C h hr hlk (by rw [e9]) (by rw [e9]) dX0_set_21
    · refine lv_iload_n C.1 C.2.1 dX0_set_13 rfl (lv_at hl 2 rfl) ?_
      refine lv_bipush (v := nI 7) C.1 C.2.1 dX0_set_14 (by decide) ?_
      refine lv_icmp_le (tgt := 22) C.1 C.2.1 dX0_set_16 (by decide) (fun c16 => ?_) (fun c16 => ?_)
      · obtain ⟨kn, hk31, rfl⟩ := nI_of c10
        have hkn : kn ≤ 7 := (nI_leI hk31 (by decide)).mp c16
        refine lv_aload_n C.1 C.2.1 dX0_set_22 rfl (lv_at hl 0 rfl) ?_
        refine xg0 C h dX0_set_23 ?_
        refine lv_iload_n C.1 C.2.1 dX0_set_26 rfl (lv_at hl 1 rfl) ?_
        refine lv_iload_n C.1 C.2.1 dX0_set_27 rfl (lv_at hl 2 rfl) ?_
        refine xs0 (i := p) (v := kn) C h (by omega) dX0_set_28 (fun H locs h => ?_)
        refine lv_aload_n C.1 C.2.1 dX0_set_29 rfl (lv_at hl 0 rfl) ?_
        refine xg1 C h dX0_set_30 ?_
        refine lv_iload_n C.1 C.2.1 dX0_set_33 rfl (lv_at hl 1 rfl) ?_
        refine lv_iload_n C.1 C.2.1 dX0_set_34 rfl (lv_at hl 3 rfl) ?_
        refine lv_bipush (v := nI 7) C.1 C.2.1 dX0_set_35 (by decide) ?_
        refine wn_andV7 C.1 C.2.1 dX0_set_37 ?_
        refine xs1 (i := p) (v := y.toBitVec.toNat % 8) C h (by omega) dX0_set_38 (fun H locs h => ?_)
        refine lv_aload_n C.1 C.2.1 dX0_set_39 rfl (lv_at hl 0 rfl) ?_
        refine xg2 C h dX0_set_40 ?_
        refine lv_iload_n C.1 C.2.1 dX0_set_43 rfl (lv_at hl 1 rfl) ?_
        refine lv_iload_n C.1 C.2.1 dX0_set_44 rfl (lv_at hl 3 rfl) ?_
        refine lv_iconst (v := nI 3) C.1 C.2.1 dX0_set_45 (by decide) ?_
        refine lv_ishr C.1 C.2.1 dX0_set_46 ?_
        refine lv_bipush (v := nI 7) C.1 C.2.1 dX0_set_47 (by decide) ?_
        refine wn_andV7 C.1 C.2.1 dX0_set_49 ?_
        refine xs2 (i := p) (v := (y >>> ((nI 3) &&& 31)).toBitVec.toNat % 8) C h (by omega) dX0_set_50 (fun H locs h => ?_)
        refine lv_aload_n C.1 C.2.1 dX0_set_51 rfl (lv_at hl 0 rfl) ?_
        refine xg3 C h dX0_set_52 ?_
        refine lv_iload_n C.1 C.2.1 dX0_set_55 rfl (lv_at hl 1 rfl) ?_
        refine lv_iload C.1 C.2.1 dX0_set_56 (lv_at hl 4 rfl) ?_
        refine xs3 (i := p) (v := a) C h (by omega) dX0_set_58 (fun H locs h => ?_)
        refine lv_aload_n C.1 C.2.1 dX0_set_59 rfl (lv_at hl 0 rfl) ?_
        refine xw_callv (n := 0) (As := []) (rest := []) C hml h (x_restart l D ad dA dB _ (us_V (us_N (us_N (us_N σ 0 p kn) 1 p (y.toBitVec.toNat % 8)) 2 p ((y >>> ((nI 3) &&& 31)).toBitVec.toNat % 8)) 3 p a)) q35 q37 qs0 q38 rfl (by decide +kernel) rfl rfl ⟨Nat.le_of_ble_eq_true rfl, Nat.le_of_ble_eq_true rfl⟩ rfl hl.1 rfl (Nat.le_of_ble_eq_true rfl) dX0_set_60 ⟨Nat.zero_le _, Nat.zero_le _⟩ (fun H locs h => ?_)
        refine lv_iconst (v := nI 0) C.1 C.2.1 dX0_set_63 (by decide) ?_
        have e9 : qr_set xc_restart σ (nI p) (nI kn) y a = (0, xc_restart (us_V (us_N (us_N (us_N σ 0 p kn) 1 p (y.toBitVec.toNat % 8)) 2 p ((y >>> ((nI 3) &&& 31)).toBitVec.toNat % 8)) 3 p a)) := by unfold qr_set; rw [if_neg (show ¬ qb (nI p) = true by rw [qb_yes hp]; decide), if_neg (fun z => z.elim c10 (fun y => Int32.not_lt.mpr c16 y)), nI_clamp (show p < 2 ^ 31 by omega), nI_clamp (show kn < 2 ^ 31 by omega)]; rfl
        exact xw_iret C h hr hlk (by rw [e9]; rfl) (by rw [e9]) dX0_set_64
      · refine lv_bipush (v := (-2)) C.1 C.2.1 dX0_set_19 (by decide) ?_
        have e9 : qr_set xc_restart σ (nI p) k y a = (-2, σ) := by unfold qr_set; rw [if_neg (show ¬ qb (nI p) = true by rw [qb_yes hp]; decide), if_pos (Or.inr (Int32.not_le.mp c16))]
        exact xw_iret C h hr hlk (by rw [e9]) (by rw [e9]) dX0_set_21
  · refine lv_iconst (v := (-1)) C.1 C.2.1 dX0_set_7 (by decide) ?_
    have e9 : qr_set xc_restart σ x k y a = (-1, σ) := by unfold qr_set; rw [if_pos c4]
    exact xw_iret C h hr hlk (by rw [e9]) (by rw [e9]) dX0_set_8
set_option maxHeartbeats 4000000 in
set_option maxRecDepth 100000 in
theorem x_exchange (l : Launch) (D : va_G) (ad : Nat → Nat) (dA dB : ClassId) (sz : Nat) (σ : us_S) (x y : Int32) : xw_Mi l yX0_exchange cX0_exchange 7 (some .int) ({ frames := 2, cells := 0, slots := 0, locals := 42 } : Room) D ad dA dB sz σ [.int x, .int y] ((qr_exch (fun σ p q => xc_restart (us_exch σ p q)) σ x y).1) ((qr_exch (fun σ p q => xc_restart (us_exch σ p q)) σ x y).2) := by
  refine xw_Mi_of (by decide) rfl (Nat.le_of_ble_eq_true rfl) (fun p_ e s m below meth c A ls C hml hr hlk h hl => ?_)
  have hl : lv_has ls 7 [(0, .ref (ad 13)), (1, .int x), (2, .int y)] := hl
  refine lv_iload_n C.1 C.2.1 dX0_exchange_0 rfl (lv_at hl 1 rfl) ?_
  refine xw_bad (rest := []) C hml ⟨Nat.le_of_ble_eq_true rfl, Nat.le_of_ble_eq_true rfl⟩ hl.1 rfl (Nat.le_of_ble_eq_true rfl) dX0_exchange_1 ⟨Nat.zero_le _, Nat.zero_le _⟩ ?_
  refine wn_ifnB (tgt := 14) C.1 C.2.1 dX0_exchange_4 (by decide) (fun c4 => ?_) (fun c4 => ?_)
  · refine lv_iconst (v := (-1)) C.1 C.2.1 dX0_exchange_14 (by decide) ?_
    have e9 : qr_exch (fun σ p q => xc_restart (us_exch σ p q)) σ x y = (-1, σ) := by unfold qr_exch; rw [if_pos (Or.inl c4)]
    exact xw_iret C h hr hlk (by rw [e9]) (by rw [e9]) dX0_exchange_15
  · refine lv_iload_n C.1 C.2.1 dX0_exchange_7 rfl (lv_at hl 2 rfl) ?_
    refine xw_bad (rest := []) C hml ⟨Nat.le_of_ble_eq_true rfl, Nat.le_of_ble_eq_true rfl⟩ hl.1 rfl (Nat.le_of_ble_eq_true rfl) dX0_exchange_8 ⟨Nat.zero_le _, Nat.zero_le _⟩ ?_
    refine wn_ifzB (tgt := 16) C.1 C.2.1 dX0_exchange_11 (by decide) (fun c11 => ?_) (fun c11 => ?_)
    · obtain ⟨p, hp, rfl⟩ := qb_no c4
      obtain ⟨q, hq, rfl⟩ := qb_no c11
      refine lv_aload_n C.1 C.2.1 dX0_exchange_16 rfl (lv_at hl 0 rfl) ?_
      refine xg0 C h dX0_exchange_17 ?_
      refine lv_iload_n C.1 C.2.1 dX0_exchange_20 rfl (lv_at hl 1 rfl) ?_
      refine xl0 (i := p) (w := σ.1 0 p) C h (by omega) rfl dX0_exchange_21 ?_
      refine lv_istore_n (lv' := [(3, .int (nI (σ.1 0 p))), (0, .ref (ad 13)), (1, .int (nI p)), (2, .int (nI q))]) C.1 C.2.1 dX0_exchange_22 rfl hl (by decide) rfl (fun ls hl => ?_)
      refine lv_aload_n C.1 C.2.1 dX0_exchange_23 rfl (lv_at hl 1 rfl) ?_
      refine xg0 C h dX0_exchange_24 ?_
      refine lv_iload_n C.1 C.2.1 dX0_exchange_27 rfl (lv_at hl 2 rfl) ?_
      refine lv_aload_n C.1 C.2.1 dX0_exchange_28 rfl (lv_at hl 1 rfl) ?_
      refine xg0 C h dX0_exchange_29 ?_
      refine lv_iload_n C.1 C.2.1 dX0_exchange_32 rfl (lv_at hl 3 rfl) ?_
      refine xl0 (i := q) (w := σ.1 0 q) C h (by omega) rfl dX0_exchange_33 ?_
      refine xs0 (i := p) (v := σ.1 0 q) C h (by omega) dX0_exchange_34 (fun H locs h => ?_)
      refine lv_aload_n C.1 C.2.1 dX0_exchange_35 rfl (lv_at hl 1 rfl) ?_
      refine xg0 C h dX0_exchange_36 ?_
      refine lv_iload_n C.1 C.2.1 dX0_exchange_39 rfl (lv_at hl 3 rfl) ?_
      refine lv_iload_n C.1 C.2.1 dX0_exchange_40 rfl (lv_at hl 0 rfl) ?_
      refine xs0 (i := q) (v := σ.1 0 p) C h (by omega) dX0_exchange_41 (fun H locs h => ?_)
      refine lv_aload_n C.1 C.2.1 dX0_exchange_42 rfl (lv_at hl 1 rfl) ?_
      refine xg1 C h dX0_exchange_43 ?_
      refine lv_iload_n C.1 C.2.1 dX0_exchange_46 rfl (lv_at hl 2 rfl) ?_
      refine xl1 (i := p) (w := σ.1 1 p) C h (by omega) rfl dX0_exchange_47 ?_
      refine lv_istore (lv' := [(4, .int (nI (σ.1 1 p))), (3, .int (nI (σ.1 0 p))), (0, .ref (ad 13)), (1, .int (nI p)), (2, .int (nI q))]) C.1 C.2.1 dX0_exchange_48 hl (by decide) rfl (fun ls hl => ?_)
      refine lv_aload_n C.1 C.2.1 dX0_exchange_50 rfl (lv_at hl 2 rfl) ?_
      refine xg1 C h dX0_exchange_51 ?_
      refine lv_iload_n C.1 C.2.1 dX0_exchange_54 rfl (lv_at hl 3 rfl) ?_
      refine lv_aload_n C.1 C.2.1 dX0_exchange_55 rfl (lv_at hl 2 rfl) ?_
      refine xg1 C h dX0_exchange_56 ?_
      refine lv_iload_n C.1 C.2.1 dX0_exchange_59 rfl (lv_at hl 4 rfl) ?_
      refine xl1 (i := q) (w := σ.1 1 q) C h (by omega) rfl dX0_exchange_60 ?_
      refine xs1 (i := p) (v := σ.1 1 q) C h (by omega) dX0_exchange_61 (fun H locs h => ?_)
      refine lv_aload_n C.1 C.2.1 dX0_exchange_62 rfl (lv_at hl 2 rfl) ?_
      refine xg1 C h dX0_exchange_63 ?_
      refine lv_iload_n C.1 C.2.1 dX0_exchange_66 rfl (lv_at hl 4 rfl) ?_
      refine lv_iload C.1 C.2.1 dX0_exchange_67 (lv_at hl 0 rfl) ?_
      refine xs1 (i := q) (v := σ.1 1 p) C h (by omega) dX0_exchange_69 (fun H locs h => ?_)
      refine lv_aload_n C.1 C.2.1 dX0_exchange_70 rfl (lv_at hl 2 rfl) ?_
      refine xg2 C h dX0_exchange_71 ?_
      refine lv_iload_n C.1 C.2.1 dX0_exchange_74 rfl (lv_at hl 3 rfl) ?_
      refine xl2 (i := p) (w := σ.1 2 p) C h (by omega) rfl dX0_exchange_75 ?_
      refine lv_istore (lv' := [(5, .int (nI (σ.1 2 p))), (4, .int (nI (σ.1 1 p))), (3, .int (nI (σ.1 0 p))), (0, .ref (ad 13)), (1, .int (nI p)), (2, .int (nI q))]) C.1 C.2.1 dX0_exchange_76 hl (by decide) rfl (fun ls hl => ?_)
      refine lv_aload_n C.1 C.2.1 dX0_exchange_78 rfl (lv_at hl 3 rfl) ?_
      refine xg2 C h dX0_exchange_79 ?_
      refine lv_iload_n C.1 C.2.1 dX0_exchange_82 rfl (lv_at hl 4 rfl) ?_
      refine lv_aload_n C.1 C.2.1 dX0_exchange_83 rfl (lv_at hl 3 rfl) ?_
      refine xg2 C h dX0_exchange_84 ?_
      refine lv_iload_n C.1 C.2.1 dX0_exchange_87 rfl (lv_at hl 5 rfl) ?_
      refine xl2 (i := q) (w := σ.1 2 q) C h (by omega) rfl dX0_exchange_88 ?_
      refine xs2 (i := p) (v := σ.1 2 q) C h (by omega) dX0_exchange_89 (fun H locs h => ?_)
      refine lv_aload_n C.1 C.2.1 dX0_exchange_90 rfl (lv_at hl 3 rfl) ?_
      refine xg2 C h dX0_exchange_91 ?_
      refine lv_iload_n C.1 C.2.1 dX0_exchange_94 rfl (lv_at hl 5 rfl) ?_
      refine lv_iload C.1 C.2.1 dX0_exchange_95 (lv_at hl 0 rfl) ?_
      refine xs2 (i := q) (v := σ.1 2 p) C h (by omega) dX0_exchange_97 (fun H locs h => ?_)
      refine lv_aload_n C.1 C.2.1 dX0_exchange_98 rfl (lv_at hl 3 rfl) ?_
      refine xg3 C h dX0_exchange_99 ?_
      refine lv_iload_n C.1 C.2.1 dX0_exchange_102 rfl (lv_at hl 4 rfl) ?_
      refine xl3 (i := p) (w := σ.2 3 p) C h (by omega) rfl dX0_exchange_103 ?_
      refine lv_istore (lv' := [(6, .int (σ.2 3 p)), (5, .int (nI (σ.1 2 p))), (4, .int (nI (σ.1 1 p))), (3, .int (nI (σ.1 0 p))), (0, .ref (ad 13)), (1, .int (nI p)), (2, .int (nI q))]) C.1 C.2.1 dX0_exchange_104 hl (by decide) rfl (fun ls hl => ?_)
      refine lv_aload_n C.1 C.2.1 dX0_exchange_106 rfl (lv_at hl 4 rfl) ?_
      refine xg3 C h dX0_exchange_107 ?_
      refine lv_iload_n C.1 C.2.1 dX0_exchange_110 rfl (lv_at hl 5 rfl) ?_
      refine lv_aload_n C.1 C.2.1 dX0_exchange_111 rfl (lv_at hl 4 rfl) ?_
      refine xg3 C h dX0_exchange_112 ?_
      refine lv_iload_n C.1 C.2.1 dX0_exchange_115 rfl (lv_at hl 6 rfl) ?_
      refine xl3 (i := q) (w := σ.2 3 q) C h (by omega) rfl dX0_exchange_116 ?_
      refine xs3 (i := p) (v := σ.2 3 q) C h (by omega) dX0_exchange_117 (fun H locs h => ?_)
      refine lv_aload_n C.1 C.2.1 dX0_exchange_118 rfl (lv_at hl 4 rfl) ?_
      refine xg3 C h dX0_exchange_119 ?_
      refine lv_iload_n C.1 C.2.1 dX0_exchange_122 rfl (lv_at hl 6 rfl) ?_
      refine lv_iload C.1 C.2.1 dX0_exchange_123 (lv_at hl 0 rfl) ?_
      refine xs3 (i := q) (v := σ.2 3 p) C h (by omega) dX0_exchange_125 (fun H locs h => ?_)
      refine lv_aload_n C.1 C.2.1 dX0_exchange_126 rfl (lv_at hl 4 rfl) ?_
      refine xw_callv (n := 0) (As := []) (rest := []) C hml h (x_restart l D ad dA dB _ (us_V (us_V (us_N (us_N (us_N (us_N (us_N (us_N σ 0 p (σ.1 0 q)) 0 q (σ.1 0 p)) 1 p (σ.1 1 q)) 1 q (σ.1 1 p)) 2 p (σ.1 2 q)) 2 q (σ.1 2 p)) 3 p (σ.2 3 q)) 3 q (σ.2 3 p))) q35 q37 qs0 q38 rfl (by decide +kernel) rfl rfl ⟨Nat.le_of_ble_eq_true rfl, Nat.le_of_ble_eq_true rfl⟩ rfl hl.1 rfl (Nat.le_of_ble_eq_true rfl) dX0_exchange_127 ⟨Nat.zero_le _, Nat.zero_le _⟩ (fun H locs h => ?_)
      refine lv_iconst (v := nI 0) C.1 C.2.1 dX0_exchange_130 (by decide) ?_
      have e9 : qr_exch (fun σ p q => xc_restart (us_exch σ p q)) σ (nI p) (nI q) = (0, xc_restart (us_V (us_V (us_N (us_N (us_N (us_N (us_N (us_N σ 0 p (σ.1 0 q)) 0 q (σ.1 0 p)) 1 p (σ.1 1 q)) 1 q (σ.1 1 p)) 2 p (σ.1 2 q)) 2 q (σ.1 2 p)) 3 p (σ.2 3 q)) 3 q (σ.2 3 p))) := by unfold qr_exch; rw [if_neg (show ¬ (qb (nI p) = true ∨ qb (nI q) = true) by rw [qb_yes hp, qb_yes hq]; decide), nI_clamp (show p < 2 ^ 31 by omega), nI_clamp (show q < 2 ^ 31 by omega)]; rfl
      exact xw_iret C h hr hlk (by rw [e9]; rfl) (by rw [e9]) dX0_exchange_131
    · refine lv_iconst (v := (-1)) C.1 C.2.1 dX0_exchange_14 (by decide) ?_
      have e9 : qr_exch (fun σ p q => xc_restart (us_exch σ p q)) σ x y = (-1, σ) := by unfold qr_exch; rw [if_pos (Or.inr c11)]
      exact xw_iret C h hr hlk (by rw [e9]) (by rw [e9]) dX0_exchange_15
set_option maxHeartbeats 4000000 in
set_option maxRecDepth 100000 in
theorem x_fire (l : Launch) (D : va_G) (ad : Nat → Nat) (dA dB : ClassId) (sz : Nat) (σ : us_S) (x n : Int32) (hI : xc_Inv σ) : xw_Mi l yX0_fire cX0_fire 3 (some .int) ({ frames := 4, cells := 0, slots := 0, locals := 93 } : Room) D ad dA dB sz σ [.int x, .int n] ((qr_fire (fun σ p => xc_run σ p (xr_n n)) σ x).1) ((qr_fire (fun σ p => xc_run σ p (xr_n n)) σ x).2) := by
  refine xw_Mi_of (by decide) rfl (Nat.le_of_ble_eq_true rfl) (fun p_ e s m below meth c A ls C hml hr hlk h hl => ?_)
  have hl : lv_has ls 3 [(0, .ref (ad 13)), (1, .int x), (2, .int n)] := hl
  refine lv_iload_n C.1 C.2.1 dX0_fire_0 rfl (lv_at hl 1 rfl) ?_
  refine xw_bad (rest := []) C hml ⟨Nat.le_of_ble_eq_true rfl, Nat.le_of_ble_eq_true rfl⟩ hl.1 rfl (Nat.le_of_ble_eq_true rfl) dX0_fire_1 ⟨Nat.zero_le _, Nat.zero_le _⟩ ?_
  refine wn_ifzB (tgt := 9) C.1 C.2.1 dX0_fire_4 (by decide) (fun c4 => ?_) (fun c4 => ?_)
  · obtain ⟨p, hp, rfl⟩ := qb_no c4
    refine lv_aload_n C.1 C.2.1 dX0_fire_9 rfl (lv_at hl 0 rfl) ?_
    refine lv_iload_n C.1 C.2.1 dX0_fire_10 rfl (lv_at hl 1 rfl) ?_
    refine lv_iload_n C.1 C.2.1 dX0_fire_11 rfl (lv_at hl 2 rfl) ?_
    refine xw_callv (n := 2) (As := [.int (nI p), .int n]) (rest := []) C hml h (x_run l D ad dA dB _ σ hp hI.1 n) q96 q98 qs2 q99 rfl (by decide +kernel) rfl rfl ⟨Nat.le_of_ble_eq_true rfl, Nat.le_of_ble_eq_true rfl⟩ rfl hl.1 rfl (Nat.le_of_ble_eq_true rfl) dX0_fire_12 ⟨Nat.zero_le _, Nat.zero_le _⟩ (fun H locs h => ?_)
    refine lv_iconst (v := nI 0) C.1 C.2.1 dX0_fire_15 (by decide) ?_
    have e9 : qr_fire (fun σ p => xc_run σ p (xr_n n)) σ (nI p) = (0, xc_run σ p (xr_n n)) := by unfold qr_fire; rw [if_neg (show ¬ qb (nI p) = true by rw [qb_yes hp]; decide), nI_clamp (show p < 2 ^ 31 by omega)]
    exact xw_iret C h hr hlk (by rw [e9]; rfl) (by rw [e9]) dX0_fire_16
  · refine lv_iconst (v := (-1)) C.1 C.2.1 dX0_fire_7 (by decide) ?_
    have e9 : qr_fire (fun σ p => xc_run σ p (xr_n n)) σ x = (-1, σ) := by unfold qr_fire; rw [if_pos c4]
    exact xw_iret C h hr hlk (by rw [e9]) (by rw [e9]) dX0_fire_8
end
section
/-! CONTRACTS of the public methods of ProcessNetworkModel (by wip/D-64155w/gen/pub.py) -/
set_option maxHeartbeats 4000000 in
set_option maxRecDepth 100000 in
theorem m_length (l : Launch) (D : va_G) (ad : Nat → Nat) (dA : ClassId) (sz : Nat) (σ : us_S) (x : Int32) (hI : mt_Inv σ) : mw_Mi l yX1_length cX1_length 2 (some .int) ({ frames := 4, cells := 0, slots := 0, locals := 95 } : Room) D ad dA sz σ [.int x] ((qr_len mt_workOut 6 σ x).1) ((qr_len mt_workOut 6 σ x).2) := by
  refine mw_Mi_of (by decide) rfl (Nat.le_of_ble_eq_true rfl) (fun p_ e s m below meth c A ls C hml hr hlk h hl => ?_)
  have hl : lv_has ls 2 [(0, .ref (ad 13)), (1, .int x)] := hl
  refine lv_aload_n C.1 C.2.1 dX1_length_0 rfl (lv_at hl 0 rfl) ?_
  refine lv_iload_n C.1 C.2.1 dX1_length_1 rfl (lv_at hl 1 rfl) ?_
  refine mw_bad (rest := []) C hml h ⟨Nat.le_of_ble_eq_true rfl, Nat.le_of_ble_eq_true rfl⟩ hl.1 rfl (Nat.le_of_ble_eq_true rfl) dX1_length_2 ⟨Nat.zero_le _, Nat.zero_le _⟩ ?_
  refine wn_ifzB (tgt := 10) C.1 C.2.1 dX1_length_5 (by decide) (fun c5 => ?_) (fun c5 => ?_)
  · obtain ⟨p, hp, rfl⟩ := qb_no c5
    refine lv_aload_n C.1 C.2.1 dX1_length_10 rfl (lv_at hl 0 rfl) ?_
    refine mw_callv (n := 0) (As := []) (rest := []) C hml h (m_workOut l D ad dA _ σ hI) q224 q226 qs16 q227 rfl (by decide +kernel) rfl rfl ⟨Nat.le_of_ble_eq_true rfl, Nat.le_of_ble_eq_true rfl⟩ rfl hl.1 rfl (Nat.le_of_ble_eq_true rfl) dX1_length_11 ⟨Nat.zero_le _, Nat.zero_le _⟩ (fun H locs h => ?_)
    obtain ⟨τ, hT⟩ : ∃ τ, mt_workOut σ = τ := ⟨_, rfl⟩
    have t40 : ∀ r, r < 8 → τ.1 6 r ≤ 40 := fun r hr8 => by rw [← hT]; exact (mt_workOut_J hI).2.1.2.2 r hr8
    rw [hT] at h
    refine lv_aload_n C.1 C.2.1 dX1_length_14 rfl (lv_at hl 0 rfl) ?_
    refine mg6 C h dX1_length_15 ?_
    refine lv_iload_n C.1 C.2.1 dX1_length_18 rfl (lv_at hl 1 rfl) ?_
    refine ml6 (i := p) (w := τ.1 6 p) C h hp rfl dX1_length_19 ?_
    have e9 : qr_len mt_workOut 6 σ (nI p) = (nI (τ.1 6 p), τ) := by unfold qr_len; rw [if_neg (show ¬ qb (nI p) = true by rw [qb_yes hp]; decide), nI_clamp (show p < 2 ^ 31 by omega), hT]
    exact mw_iret C h hr hlk (by rw [e9]) (by rw [e9]) dX1_length_20
  · refine lv_iconst (v := (-1)) C.1 C.2.1 dX1_length_8 (by decide) ?_
    have e9 : qr_len mt_workOut 6 σ x = (-1, σ) := by unfold qr_len; rw [if_pos c5]
    exact mw_iret C h hr hlk (by rw [e9]) (by rw [e9]) dX1_length_9
set_option maxHeartbeats 4000000 in
set_option maxRecDepth 100000 in
theorem m_item (l : Launch) (D : va_G) (ad : Nat → Nat) (dA : ClassId) (sz : Nat) (σ : us_S) (x i : Int32) (hI : mt_Inv σ) : mw_Mi l yX1_item cX1_item 3 (some .int) ({ frames := 4, cells := 0, slots := 0, locals := 95 } : Room) D ad dA sz σ [.int x, .int i] ((qr_item mt_workOut 6 5 σ x i).1) ((qr_item mt_workOut 6 5 σ x i).2) := by
  refine mw_Mi_of (by decide) rfl (Nat.le_of_ble_eq_true rfl) (fun p_ e s m below meth c A ls C hml hr hlk h hl => ?_)
  have hl : lv_has ls 3 [(0, .ref (ad 13)), (1, .int x), (2, .int i)] := hl
  refine lv_aload_n C.1 C.2.1 dX1_item_0 rfl (lv_at hl 0 rfl) ?_
  refine lv_iload_n C.1 C.2.1 dX1_item_1 rfl (lv_at hl 1 rfl) ?_
  refine mw_bad (rest := []) C hml h ⟨Nat.le_of_ble_eq_true rfl, Nat.le_of_ble_eq_true rfl⟩ hl.1 rfl (Nat.le_of_ble_eq_true rfl) dX1_item_2 ⟨Nat.zero_le _, Nat.zero_le _⟩ ?_
  refine wn_ifzB (tgt := 10) C.1 C.2.1 dX1_item_5 (by decide) (fun c5 => ?_) (fun c5 => ?_)
  · obtain ⟨p, hp, rfl⟩ := qb_no c5
    refine lv_aload_n C.1 C.2.1 dX1_item_10 rfl (lv_at hl 0 rfl) ?_
    refine mw_callv (n := 0) (As := []) (rest := []) C hml h (m_workOut l D ad dA _ σ hI) q224 q226 qs16 q227 rfl (by decide +kernel) rfl rfl ⟨Nat.le_of_ble_eq_true rfl, Nat.le_of_ble_eq_true rfl⟩ rfl hl.1 rfl (Nat.le_of_ble_eq_true rfl) dX1_item_11 ⟨Nat.zero_le _, Nat.zero_le _⟩ (fun H locs h => ?_)
    obtain ⟨τ, hT⟩ : ∃ τ, mt_workOut σ = τ := ⟨_, rfl⟩
    have t40 : ∀ r, r < 8 → τ.1 6 r ≤ 40 := fun r hr8 => by rw [← hT]; exact (mt_workOut_J hI).2.1.2.2 r hr8
    rw [hT] at h
    have tp := t40 p hp
    refine lv_iload_n C.1 C.2.1 dX1_item_14 rfl (lv_at hl 2 rfl) ?_
    refine lv_if_lt (tgt := 28) C.1 C.2.1 dX1_item_15 (by decide) (fun c15 => ?_) (fun c15 => ?_)
    · refine lv_bipush (v := (-3)) C.1 C.2.1 dX1_item_28 (by decide) ?_
      refine lv_goto (tgt := 44) C.1 C.2.1 dX1_item_30 (by decide) ?_
      have e9 : qr_item mt_workOut 6 5 σ (nI p) i = (-3, τ) := by unfold qr_item; rw [if_neg (show ¬ qb (nI p) = true by rw [qb_yes hp]; decide), nI_clamp (show p < 2 ^ 31 by omega), hT, if_pos (Or.inl c15)]
      exact mw_iret C h hr hlk (by rw [e9]) (by rw [e9]) dX1_item_44
    · refine lv_iload_n C.1 C.2.1 dX1_item_18 rfl (lv_at hl 2 rfl) ?_
      refine lv_aload_n C.1 C.2.1 dX1_item_19 rfl (lv_at hl 0 rfl) ?_
      refine mg6 C h dX1_item_20 ?_
      refine lv_iload_n C.1 C.2.1 dX1_item_23 rfl (lv_at hl 1 rfl) ?_
      refine ml6 (i := p) (w := τ.1 6 p) C h (by omega) rfl dX1_item_24 ?_
      refine lv_icmp_lt (tgt := 33) C.1 C.2.1 dX1_item_25 (by decide) (fun c25 => ?_) (fun c25 => ?_)
      · obtain ⟨j, hj31, rfl⟩ := nI_of c15
        have hj := (nI_ltI hj31 (by omega)).mp c25
        refine lv_aload_n C.1 C.2.1 dX1_item_33 rfl (lv_at hl 0 rfl) ?_
        refine mg5 C h dX1_item_34 ?_
        refine lv_iload_n C.1 C.2.1 dX1_item_37 rfl (lv_at hl 1 rfl) ?_
        refine lv_bipush (v := nI 40) C.1 C.2.1 dX1_item_38 (by decide) ?_
        refine wn_mul C.1 C.2.1 dX1_item_40 ?_
        refine lv_iload_n C.1 C.2.1 dX1_item_41 rfl (lv_at hl 2 rfl) ?_
        refine wn_add C.1 C.2.1 dX1_item_42 ?_
        refine ml5 (i := p * 40 + j) (w := τ.2 5 (p * 40 + j)) C h (by omega) rfl dX1_item_43 ?_
        have e9 : qr_item mt_workOut 6 5 σ (nI p) (nI j) = (τ.2 5 (p * 40 + j), τ) := by unfold qr_item; rw [if_neg (show ¬ qb (nI p) = true by rw [qb_yes hp]; decide), nI_clamp (show p < 2 ^ 31 by omega), hT, if_neg (fun z => z.elim c15 (fun y => Int32.not_le.mpr c25 y)), nI_clamp (show j < 2 ^ 31 by omega)]
        exact mw_iret C h hr hlk (by rw [e9]) (by rw [e9]) dX1_item_44
      · refine lv_bipush (v := (-3)) C.1 C.2.1 dX1_item_28 (by decide) ?_
        refine lv_goto (tgt := 44) C.1 C.2.1 dX1_item_30 (by decide) ?_
        have e9 : qr_item mt_workOut 6 5 σ (nI p) i = (-3, τ) := by unfold qr_item; rw [if_neg (show ¬ qb (nI p) = true by rw [qb_yes hp]; decide), nI_clamp (show p < 2 ^ 31 by omega), hT, if_pos (Or.inr (Int32.not_lt.mp c25))]
        exact mw_iret C h hr hlk (by rw [e9]) (by rw [e9]) dX1_item_44
  · refine lv_iconst (v := (-1)) C.1 C.2.1 dX1_item_8 (by decide) ?_
    have e9 : qr_item mt_workOut 6 5 σ x i = (-1, σ) := by unfold qr_item; rw [if_pos c5]
    exact mw_iret C h hr hlk (by rw [e9]) (by rw [e9]) dX1_item_9
set_option maxHeartbeats 4000000 in
set_option maxRecDepth 100000 in
theorem m_sum_l {l : Launch} {D : va_G} {ad : Nat → Nat} {dA : ClassId} {p_ : Program} {e : Env} {s : State} {m : MethodId} {args : Array Value} {below : List Frame} {meth : Method} {c : Code} {A : Nat → Prop} (C : mw_C D dA p_ s m args c cX1_sum) (hml : c.maxLocals = 4) (hr : meth.sig.returnType = some .int) (hlk : meth.locks = false) {p : Nat} (hp : p < 8) {τ : us_S} (tp : τ.1 6 p ≤ 40) {r : Int32} (hv : qa_sum (fun j => τ.2 5 (p * 40 + j)) (τ.1 6 p) = r) : ∀ (f i : Nat) (H : Heap) (locs : List Loc) (ls : Array Slot), i + f = τ.1 6 p → mw_H D ad dA A s H locs τ → lv_has ls 4 [(3, .int (nI i)), (2, .int (qa_sum (fun j => τ.2 5 (p * 40 + j)) i)), (0, .ref (ad 13)), (1, .int (nI p))] → W p_ l e ({ frames := 4, cells := 0, slots := 0, locals := 95 } : Room) s m args below meth c H locs 0 0 (MQ below (va_Qi (fun r' u => r' = r ∧ u = τ) (mw_B D ad dA A) A) args s 0 0 A) (F0 m 18 ls []) := by
  intro f
  induction f with
  | zero =>
    intro i H locs ls hi h hl
    refine lv_iload_n C.1 C.2.1 dX1_sum_18 rfl (lv_at hl 0 rfl) ?_
    refine lv_aload_n C.1 C.2.1 dX1_sum_19 rfl (lv_at hl 2 rfl) ?_
    refine mg6 C h dX1_sum_20 ?_
    refine lv_iload_n C.1 C.2.1 dX1_sum_23 rfl (lv_at hl 3 rfl) ?_
    refine ml6 (i := p) (w := τ.1 6 p) C h (by omega) rfl dX1_sum_24 ?_
    refine wn_ge (tgt := 48) C.1 C.2.1 (by omega) (by omega) dX1_sum_25 (by decide) (fun c25 => ?_) (fun z => absurd z (by omega))
    refine lv_iload_n C.1 C.2.1 dX1_sum_48 rfl (lv_at hl 1 rfl) ?_
    exact mw_iret C h hr hlk (by rw [← hv, ← hi]; rfl) rfl dX1_sum_49
  | succ f ih =>
    intro i H locs ls hi h hl
    refine lv_iload_n C.1 C.2.1 dX1_sum_18 rfl (lv_at hl 0 rfl) ?_
    refine lv_aload_n C.1 C.2.1 dX1_sum_19 rfl (lv_at hl 2 rfl) ?_
    refine mg6 C h dX1_sum_20 ?_
    refine lv_iload_n C.1 C.2.1 dX1_sum_23 rfl (lv_at hl 3 rfl) ?_
    refine ml6 (i := p) (w := τ.1 6 p) C h (by omega) rfl dX1_sum_24 ?_
    refine wn_ge (tgt := 48) C.1 C.2.1 (by omega) (by omega) dX1_sum_25 (by decide) (fun z => absurd z (by omega)) (fun c25 => ?_)
    refine lv_iload_n C.1 C.2.1 dX1_sum_28 rfl (lv_at hl 1 rfl) ?_
    refine lv_aload_n C.1 C.2.1 dX1_sum_29 rfl (lv_at hl 2 rfl) ?_
    refine mg5 C h dX1_sum_30 ?_
    refine lv_iload_n C.1 C.2.1 dX1_sum_33 rfl (lv_at hl 3 rfl) ?_
    refine lv_bipush (v := nI 40) C.1 C.2.1 dX1_sum_34 (by decide) ?_
    refine wn_mul C.1 C.2.1 dX1_sum_36 ?_
    refine lv_iload_n C.1 C.2.1 dX1_sum_37 rfl (lv_at hl 0 rfl) ?_
    refine wn_add C.1 C.2.1 dX1_sum_38 ?_
    refine ml5 (i := p * 40 + i) (w := τ.2 5 (p * 40 + i)) C h (by omega) rfl dX1_sum_39 ?_
    refine lv_iadd C.1 C.2.1 dX1_sum_40 ?_
    refine lv_istore_n (lv' := [(2, .int ((qa_sum (fun j => τ.2 5 (p * 40 + j)) i) + (τ.2 5 (p * 40 + i)))), (3, .int (nI i)), (0, .ref (ad 13)), (1, .int (nI p))]) C.1 C.2.1 dX1_sum_41 rfl hl (by decide) rfl (fun ls hl => ?_)
    refine lv_iinc (v := nI (i + 1)) (lv' := [(3, .int (nI (i + 1))), (2, .int ((qa_sum (fun j => τ.2 5 (p * 40 + j)) i) + (τ.2 5 (p * 40 + i)))), (0, .ref (ad 13)), (1, .int (nI p))]) C.1 C.2.1 dX1_sum_42 hl (k := 1) rfl (wn_inc _) (by decide) rfl (fun ls hl => ?_)
    refine lv_goto (tgt := 18) C.1 C.2.1 dX1_sum_45 (by decide) ?_
    exact ih (i + 1) H locs ls (by omega) h (lv_sub hl [0, 1, 2, 3] rfl)
set_option maxHeartbeats 4000000 in
set_option maxRecDepth 100000 in
theorem m_sum (l : Launch) (D : va_G) (ad : Nat → Nat) (dA : ClassId) (sz : Nat) (σ : us_S) (x : Int32) (hI : mt_Inv σ) : mw_Mi l yX1_sum cX1_sum 4 (some .int) ({ frames := 4, cells := 0, slots := 0, locals := 95 } : Room) D ad dA sz σ [.int x] ((qr_sum mt_workOut 6 5 σ x).1) ((qr_sum mt_workOut 6 5 σ x).2) := by
  refine mw_Mi_of (by decide) rfl (Nat.le_of_ble_eq_true rfl) (fun p_ e s m below meth c A ls C hml hr hlk h hl => ?_)
  have hl : lv_has ls 4 [(0, .ref (ad 13)), (1, .int x)] := hl
  refine lv_aload_n C.1 C.2.1 dX1_sum_0 rfl (lv_at hl 0 rfl) ?_
  refine lv_iload_n C.1 C.2.1 dX1_sum_1 rfl (lv_at hl 1 rfl) ?_
  refine mw_bad (rest := []) C hml h ⟨Nat.le_of_ble_eq_true rfl, Nat.le_of_ble_eq_true rfl⟩ hl.1 rfl (Nat.le_of_ble_eq_true rfl) dX1_sum_2 ⟨Nat.zero_le _, Nat.zero_le _⟩ ?_
  refine wn_ifzB (tgt := 10) C.1 C.2.1 dX1_sum_5 (by decide) (fun c5 => ?_) (fun c5 => ?_)
  · obtain ⟨p, hp, rfl⟩ := qb_no c5
    refine lv_aload_n C.1 C.2.1 dX1_sum_10 rfl (lv_at hl 0 rfl) ?_
    refine mw_callv (n := 0) (As := []) (rest := []) C hml h (m_workOut l D ad dA _ σ hI) q224 q226 qs16 q227 rfl (by decide +kernel) rfl rfl ⟨Nat.le_of_ble_eq_true rfl, Nat.le_of_ble_eq_true rfl⟩ rfl hl.1 rfl (Nat.le_of_ble_eq_true rfl) dX1_sum_11 ⟨Nat.zero_le _, Nat.zero_le _⟩ (fun H locs h => ?_)
    obtain ⟨τ, hT⟩ : ∃ τ, mt_workOut σ = τ := ⟨_, rfl⟩
    have t40 : ∀ r, r < 8 → τ.1 6 r ≤ 40 := fun r hr8 => by rw [← hT]; exact (mt_workOut_J hI).2.1.2.2 r hr8
    rw [hT] at h
    refine lv_iconst (v := 0) C.1 C.2.1 dX1_sum_14 (by decide) ?_
    refine lv_istore_n (lv' := [(2, .int 0), (0, .ref (ad 13)), (1, .int (nI p))]) C.1 C.2.1 dX1_sum_15 rfl hl (by decide) rfl (fun ls hl => ?_)
    refine lv_iconst (v := nI 0) C.1 C.2.1 dX1_sum_16 (by decide) ?_
    refine lv_istore_n (lv' := [(3, .int (nI 0)), (2, .int 0), (0, .ref (ad 13)), (1, .int (nI p))]) C.1 C.2.1 dX1_sum_17 rfl hl (by decide) rfl (fun ls hl => ?_)
    have e9 : qr_sum mt_workOut 6 5 σ (nI p) = (qa_sum (fun j => τ.2 5 (p * 40 + j)) (τ.1 6 p), τ) := by unfold qr_sum; rw [if_neg (show ¬ qb (nI p) = true by rw [qb_yes hp]; decide), nI_clamp (show p < 2 ^ 31 by omega), hT]
    rw [e9]
    exact m_sum_l C hml hr hlk hp (t40 p hp) rfl (τ.1 6 p) 0 _ _ ls (Nat.zero_add _) h (lv_sub hl [0, 1, 2, 3] rfl)
  · refine lv_iconst (v := (-1)) C.1 C.2.1 dX1_sum_8 (by decide) ?_
    have e9 : qr_sum mt_workOut 6 5 σ x = (-1, σ) := by unfold qr_sum; rw [if_pos c5]
    exact mw_iret C h hr hlk (by rw [e9]) (by rw [e9]) dX1_sum_9
set_option maxHeartbeats 4000000 in
set_option maxRecDepth 100000 in
theorem m_find_l {l : Launch} {D : va_G} {ad : Nat → Nat} {dA : ClassId} {p_ : Program} {e : Env} {s : State} {m : MethodId} {args : Array Value} {below : List Frame} {meth : Method} {c : Code} {A : Nat → Prop} (C : mw_C D dA p_ s m args c cX1_find) (hml : c.maxLocals = 4) (hr : meth.sig.returnType = some .int) (hlk : meth.locks = false) {p : Nat} (hp : p < 8) {v : Int32} {τ : us_S} (tp : τ.1 6 p ≤ 40) {r : Int32} : ∀ (f i : Nat) (H : Heap) (locs : List Loc) (ls : Array Slot), i + f = τ.1 6 p → qa_find (fun j => τ.2 5 (p * 40 + j)) v f i = r → mw_H D ad dA A s H locs τ → lv_has ls 4 [(3, .int (nI i)), (0, .ref (ad 13)), (1, .int (nI p)), (2, .int v)] → W p_ l e ({ frames := 4, cells := 0, slots := 0, locals := 95 } : Room) s m args below meth c H locs 0 0 (MQ below (va_Qi (fun r' u => r' = r ∧ u = τ) (mw_B D ad dA A) A) args s 0 0 A) (F0 m 16 ls []) := by
  intro f
  induction f with
  | zero =>
    intro i H locs ls hi hv h hl
    refine lv_iload_n C.1 C.2.1 dX1_find_16 rfl (lv_at hl 0 rfl) ?_
    refine lv_aload_n C.1 C.2.1 dX1_find_17 rfl (lv_at hl 1 rfl) ?_
    refine mg6 C h dX1_find_18 ?_
    refine lv_iload_n C.1 C.2.1 dX1_find_21 rfl (lv_at hl 2 rfl) ?_
    refine ml6 (i := p) (w := τ.1 6 p) C h (by omega) rfl dX1_find_22 ?_
    refine wn_ge (tgt := 49) C.1 C.2.1 (by omega) (by omega) dX1_find_23 (by decide) (fun c23 => ?_) (fun z => absurd z (by omega))
    refine lv_bipush (v := (-3)) C.1 C.2.1 dX1_find_49 (by decide) ?_
    exact mw_iret C h hr hlk hv rfl dX1_find_51
  | succ f ih =>
    intro i H locs ls hi hv h hl
    have hv : (if τ.2 5 (p * 40 + i) = v then nI i else qa_find (fun j => τ.2 5 (p * 40 + j)) v f (i + 1)) = r := hv
    refine lv_iload_n C.1 C.2.1 dX1_find_16 rfl (lv_at hl 0 rfl) ?_
    refine lv_aload_n C.1 C.2.1 dX1_find_17 rfl (lv_at hl 1 rfl) ?_
    refine mg6 C h dX1_find_18 ?_
    refine lv_iload_n C.1 C.2.1 dX1_find_21 rfl (lv_at hl 2 rfl) ?_
    refine ml6 (i := p) (w := τ.1 6 p) C h (by omega) rfl dX1_find_22 ?_
    refine wn_ge (tgt := 49) C.1 C.2.1 (by omega) (by omega) dX1_find_23 (by decide) (fun z => absurd z (by omega)) (fun c23 => ?_)
    refine lv_aload_n C.1 C.2.1 dX1_find_26 rfl (lv_at hl 1 rfl) ?_
    refine mg5 C h dX1_find_27 ?_
    refine lv_iload_n C.1 C.2.1 dX1_find_30 rfl (lv_at hl 2 rfl) ?_
    refine lv_bipush (v := nI 40) C.1 C.2.1 dX1_find_31 (by decide) ?_
    refine wn_mul C.1 C.2.1 dX1_find_33 ?_
    refine lv_iload_n C.1 C.2.1 dX1_find_34 rfl (lv_at hl 0 rfl) ?_
    refine wn_add C.1 C.2.1 dX1_find_35 ?_
    refine ml5 (i := p * 40 + i) (w := τ.2 5 (p * 40 + i)) C h (by omega) rfl dX1_find_36 ?_
    refine lv_iload_n C.1 C.2.1 dX1_find_37 rfl (lv_at hl 3 rfl) ?_
    refine lv_icmp_ne (tgt := 43) C.1 C.2.1 dX1_find_38 (by decide) (fun c38 => ?_) (fun c38 => ?_)
    · refine lv_iinc (v := nI (i + 1)) (lv' := [(3, .int (nI (i + 1))), (0, .ref (ad 13)), (1, .int (nI p)), (2, .int v)]) C.1 C.2.1 dX1_find_43 hl (k := 0) rfl (wn_inc _) (by decide) rfl (fun ls hl => ?_)
      refine lv_goto (tgt := 16) C.1 C.2.1 dX1_find_46 (by decide) ?_
      rw [if_neg c38] at hv
      exact ih (i + 1) H locs ls (by omega) hv h (lv_sub hl [0, 1, 2, 3] rfl)
    · refine lv_iload_n C.1 C.2.1 dX1_find_41 rfl (lv_at hl 0 rfl) ?_
      exact mw_iret C h hr hlk (by rw [if_pos c38] at hv; exact hv) rfl dX1_find_42
set_option maxHeartbeats 4000000 in
set_option maxRecDepth 100000 in
theorem m_find (l : Launch) (D : va_G) (ad : Nat → Nat) (dA : ClassId) (sz : Nat) (σ : us_S) (x v : Int32) (hI : mt_Inv σ) : mw_Mi l yX1_find cX1_find 4 (some .int) ({ frames := 4, cells := 0, slots := 0, locals := 95 } : Room) D ad dA sz σ [.int x, .int v] ((qr_find mt_workOut 6 5 σ x v).1) ((qr_find mt_workOut 6 5 σ x v).2) := by
  refine mw_Mi_of (by decide) rfl (Nat.le_of_ble_eq_true rfl) (fun p_ e s m below meth c A ls C hml hr hlk h hl => ?_)
  have hl : lv_has ls 4 [(0, .ref (ad 13)), (1, .int x), (2, .int v)] := hl
  refine lv_aload_n C.1 C.2.1 dX1_find_0 rfl (lv_at hl 0 rfl) ?_
  refine lv_iload_n C.1 C.2.1 dX1_find_1 rfl (lv_at hl 1 rfl) ?_
  refine mw_bad (rest := []) C hml h ⟨Nat.le_of_ble_eq_true rfl, Nat.le_of_ble_eq_true rfl⟩ hl.1 rfl (Nat.le_of_ble_eq_true rfl) dX1_find_2 ⟨Nat.zero_le _, Nat.zero_le _⟩ ?_
  refine wn_ifzB (tgt := 10) C.1 C.2.1 dX1_find_5 (by decide) (fun c5 => ?_) (fun c5 => ?_)
  · obtain ⟨p, hp, rfl⟩ := qb_no c5
    refine lv_aload_n C.1 C.2.1 dX1_find_10 rfl (lv_at hl 0 rfl) ?_
    refine mw_callv (n := 0) (As := []) (rest := []) C hml h (m_workOut l D ad dA _ σ hI) q224 q226 qs16 q227 rfl (by decide +kernel) rfl rfl ⟨Nat.le_of_ble_eq_true rfl, Nat.le_of_ble_eq_true rfl⟩ rfl hl.1 rfl (Nat.le_of_ble_eq_true rfl) dX1_find_11 ⟨Nat.zero_le _, Nat.zero_le _⟩ (fun H locs h => ?_)
    obtain ⟨τ, hT⟩ : ∃ τ, mt_workOut σ = τ := ⟨_, rfl⟩
    have t40 : ∀ r, r < 8 → τ.1 6 r ≤ 40 := fun r hr8 => by rw [← hT]; exact (mt_workOut_J hI).2.1.2.2 r hr8
    rw [hT] at h
    refine lv_iconst (v := nI 0) C.1 C.2.1 dX1_find_14 (by decide) ?_
    refine lv_istore_n (lv' := [(3, .int (nI 0)), (0, .ref (ad 13)), (1, .int (nI p)), (2, .int v)]) C.1 C.2.1 dX1_find_15 rfl hl (by decide) rfl (fun ls hl => ?_)
    have e9 : qr_find mt_workOut 6 5 σ (nI p) v = (qa_find (fun j => τ.2 5 (p * 40 + j)) v (τ.1 6 p) 0, τ) := by unfold qr_find; rw [if_neg (show ¬ qb (nI p) = true by rw [qb_yes hp]; decide), nI_clamp (show p < 2 ^ 31 by omega), hT]
    rw [e9]
    exact m_find_l C hml hr hlk hp (t40 p hp) (τ.1 6 p) 0 _ _ ls (Nat.zero_add _) rfl h (lv_sub hl [0, 1, 2, 3] rfl)
  · refine lv_iconst (v := (-1)) C.1 C.2.1 dX1_find_8 (by decide) ?_
    have e9 : qr_find mt_workOut 6 5 σ x v = (-1, σ) := by unfold qr_find; rw [if_pos c5]
    exact mw_iret C h hr hlk (by rw [e9]) (by rw [e9]) dX1_find_9
set_option maxHeartbeats 4000000 in
set_option maxRecDepth 100000 in
theorem m_same_l {l : Launch} {D : va_G} {ad : Nat → Nat} {dA : ClassId} {p_ : Program} {e : Env} {s : State} {m : MethodId} {args : Array Value} {below : List Frame} {meth : Method} {c : Code} {A : Nat → Prop} (C : mw_C D dA p_ s m args c cX1_same) (hml : c.maxLocals = 4) (hr : meth.sig.returnType = some .boolean) (hlk : meth.locks = false) {p q : Nat} (hp : p < 8) (hq : q < 8) {τ : us_S} (tp : τ.1 6 p ≤ 40) {b : Bool} : ∀ (f i : Nat) (H : Heap) (locs : List Loc) (ls : Array Slot), i + f = τ.1 6 p → qa_same (fun j => τ.2 5 (p * 40 + j)) (fun j => τ.2 5 (q * 40 + j)) f i = b → mw_H D ad dA A s H locs τ → lv_has ls 4 [(3, .int (nI i)), (0, .ref (ad 13)), (1, .int (nI p)), (2, .int (nI q))] → W p_ l e ({ frames := 4, cells := 0, slots := 0, locals := 95 } : Room) s m args below meth c H locs 0 0 (MQ below (va_Qi (fun r' u => r' = bz b ∧ u = τ) (mw_B D ad dA A) A) args s 0 0 A) (F0 m 41 ls []) := by
  intro f
  induction f with
  | zero =>
    intro i H locs ls hi hv h hl
    refine lv_iload_n C.1 C.2.1 dX1_same_41 rfl (lv_at hl 0 rfl) ?_
    refine lv_aload_n C.1 C.2.1 dX1_same_42 rfl (lv_at hl 1 rfl) ?_
    refine mg6 C h dX1_same_43 ?_
    refine lv_iload_n C.1 C.2.1 dX1_same_46 rfl (lv_at hl 2 rfl) ?_
    refine ml6 (i := p) (w := τ.1 6 p) C h (by omega) rfl dX1_same_47 ?_
    refine wn_ge (tgt := 84) C.1 C.2.1 (by omega) (by omega) dX1_same_48 (by decide) (fun c48 => ?_) (fun z => absurd z (by omega))
    refine lv_iconst (v := nI 1) C.1 C.2.1 dX1_same_84 (by decide) ?_
    exact mw_zret C h hr hlk (by rw [← hv]; exact bz_1) rfl dX1_same_85
  | succ f ih =>
    intro i H locs ls hi hv h hl
    have hv : (if τ.2 5 (p * 40 + i) = τ.2 5 (q * 40 + i) then qa_same (fun j => τ.2 5 (p * 40 + j)) (fun j => τ.2 5 (q * 40 + j)) f (i + 1) else false) = b := hv
    refine lv_iload_n C.1 C.2.1 dX1_same_41 rfl (lv_at hl 0 rfl) ?_
    refine lv_aload_n C.1 C.2.1 dX1_same_42 rfl (lv_at hl 1 rfl) ?_
    refine mg6 C h dX1_same_43 ?_
    refine lv_iload_n C.1 C.2.1 dX1_same_46 rfl (lv_at hl 2 rfl) ?_
    refine ml6 (i := p) (w := τ.1 6 p) C h (by omega) rfl dX1_same_47 ?_
    refine wn_ge (tgt := 84) C.1 C.2.1 (by omega) (by omega) dX1_same_48 (by decide) (fun z => absurd z (by omega)) (fun c48 => ?_)
    refine lv_aload_n C.1 C.2.1 dX1_same_51 rfl (lv_at hl 1 rfl) ?_
    refine mg5 C h dX1_same_52 ?_
    refine lv_iload_n C.1 C.2.1 dX1_same_55 rfl (lv_at hl 2 rfl) ?_
    refine lv_bipush (v := nI 40) C.1 C.2.1 dX1_same_56 (by decide) ?_
    refine wn_mul C.1 C.2.1 dX1_same_58 ?_
    refine lv_iload_n C.1 C.2.1 dX1_same_59 rfl (lv_at hl 0 rfl) ?_
    refine wn_add C.1 C.2.1 dX1_same_60 ?_
    refine ml5 (i := p * 40 + i) (w := τ.2 5 (p * 40 + i)) C h (by omega) rfl dX1_same_61 ?_
    refine lv_aload_n C.1 C.2.1 dX1_same_62 rfl (lv_at hl 1 rfl) ?_
    refine mg5 C h dX1_same_63 ?_
    refine lv_iload_n C.1 C.2.1 dX1_same_66 rfl (lv_at hl 3 rfl) ?_
    refine lv_bipush (v := nI 40) C.1 C.2.1 dX1_same_67 (by decide) ?_
    refine wn_mul C.1 C.2.1 dX1_same_69 ?_
    refine lv_iload_n C.1 C.2.1 dX1_same_70 rfl (lv_at hl 0 rfl) ?_
    refine wn_add C.1 C.2.1 dX1_same_71 ?_
    refine ml5 (i := q * 40 + i) (w := τ.2 5 (q * 40 + i)) C h (by omega) rfl dX1_same_72 ?_
    refine lv_icmp_eq (tgt := 78) C.1 C.2.1 dX1_same_73 (by decide) (fun c73 => ?_) (fun c73 => ?_)
    · refine lv_iinc (v := nI (i + 1)) (lv' := [(3, .int (nI (i + 1))), (0, .ref (ad 13)), (1, .int (nI p)), (2, .int (nI q))]) C.1 C.2.1 dX1_same_78 hl (k := 0) rfl (wn_inc _) (by decide) rfl (fun ls hl => ?_)
      refine lv_goto (tgt := 41) C.1 C.2.1 dX1_same_81 (by decide) ?_
      rw [if_pos c73] at hv
      exact ih (i + 1) H locs ls (by omega) hv h (lv_sub hl [0, 1, 2, 3] rfl)
    · refine lv_iconst (v := nI 0) C.1 C.2.1 dX1_same_76 (by decide) ?_
      exact mw_zret C h hr hlk (by rw [if_neg c73] at hv; rw [← hv]; exact bz_0) rfl dX1_same_77
set_option maxHeartbeats 4000000 in
set_option maxRecDepth 100000 in
theorem m_same (l : Launch) (D : va_G) (ad : Nat → Nat) (dA : ClassId) (sz : Nat) (σ : us_S) (x y : Int32) (hI : mt_Inv σ) : mw_Mi l yX1_same cX1_same 4 (some .boolean) ({ frames := 4, cells := 0, slots := 0, locals := 95 } : Room) D ad dA sz σ [.int x, .int y] (bz (qr_same mt_workOut 6 5 σ x y).1) ((qr_same mt_workOut 6 5 σ x y).2) := by
  refine mw_Mi_of (by decide) rfl (Nat.le_of_ble_eq_true rfl) (fun p_ e s m below meth c A ls C hml hr hlk h hl => ?_)
  have hl : lv_has ls 4 [(0, .ref (ad 13)), (1, .int x), (2, .int y)] := hl
  refine lv_aload_n C.1 C.2.1 dX1_same_0 rfl (lv_at hl 0 rfl) ?_
  refine lv_iload_n C.1 C.2.1 dX1_same_1 rfl (lv_at hl 1 rfl) ?_
  refine mw_bad (rest := []) C hml h ⟨Nat.le_of_ble_eq_true rfl, Nat.le_of_ble_eq_true rfl⟩ hl.1 rfl (Nat.le_of_ble_eq_true rfl) dX1_same_2 ⟨Nat.zero_le _, Nat.zero_le _⟩ ?_
  refine wn_ifnB (tgt := 16) C.1 C.2.1 dX1_same_5 (by decide) (fun c5 => ?_) (fun c5 => ?_)
  · refine lv_iconst (v := nI 0) C.1 C.2.1 dX1_same_16 (by decide) ?_
    have e9 : qr_same mt_workOut 6 5 σ x y = (false, σ) := by unfold qr_same; rw [if_pos (Or.inl c5)]
    exact mw_zret C h hr hlk (by rw [e9]; exact bz_0) (by rw [e9]) dX1_same_17
  · refine lv_aload_n C.1 C.2.1 dX1_same_8 rfl (lv_at hl 0 rfl) ?_
    refine lv_iload_n C.1 C.2.1 dX1_same_9 rfl (lv_at hl 2 rfl) ?_
    refine mw_bad (rest := []) C hml h ⟨Nat.le_of_ble_eq_true rfl, Nat.le_of_ble_eq_true rfl⟩ hl.1 rfl (Nat.le_of_ble_eq_true rfl) dX1_same_10 ⟨Nat.zero_le _, Nat.zero_le _⟩ ?_
    refine wn_ifzB (tgt := 18) C.1 C.2.1 dX1_same_13 (by decide) (fun c13 => ?_) (fun c13 => ?_)
    · obtain ⟨p, hp, rfl⟩ := qb_no c5
      obtain ⟨q, hq, rfl⟩ := qb_no c13
      refine lv_aload_n C.1 C.2.1 dX1_same_18 rfl (lv_at hl 0 rfl) ?_
      refine mw_callv (n := 0) (As := []) (rest := []) C hml h (m_workOut l D ad dA _ σ hI) q224 q226 qs16 q227 rfl (by decide +kernel) rfl rfl ⟨Nat.le_of_ble_eq_true rfl, Nat.le_of_ble_eq_true rfl⟩ rfl hl.1 rfl (Nat.le_of_ble_eq_true rfl) dX1_same_19 ⟨Nat.zero_le _, Nat.zero_le _⟩ (fun H locs h => ?_)
      obtain ⟨τ, hT⟩ : ∃ τ, mt_workOut σ = τ := ⟨_, rfl⟩
      have t40 : ∀ r, r < 8 → τ.1 6 r ≤ 40 := fun r hr8 => by rw [← hT]; exact (mt_workOut_J hI).2.1.2.2 r hr8
      rw [hT] at h
      have tp := t40 p hp
      have tq := t40 q hq
      refine lv_aload_n C.1 C.2.1 dX1_same_22 rfl (lv_at hl 0 rfl) ?_
      refine mg6 C h dX1_same_23 ?_
      refine lv_iload_n C.1 C.2.1 dX1_same_26 rfl (lv_at hl 1 rfl) ?_
      refine ml6 (i := p) (w := τ.1 6 p) C h (by omega) rfl dX1_same_27 ?_
      refine lv_aload_n C.1 C.2.1 dX1_same_28 rfl (lv_at hl 0 rfl) ?_
      refine mg6 C h dX1_same_29 ?_
      refine lv_iload_n C.1 C.2.1 dX1_same_32 rfl (lv_at hl 2 rfl) ?_
      refine ml6 (i := q) (w := τ.1 6 q) C h (by omega) rfl dX1_same_33 ?_
      refine wn_eq (tgt := 39) C.1 C.2.1 (by omega) (by omega) dX1_same_34 (by decide) (fun c34 => ?_) (fun c34 => ?_)
      · refine lv_iconst (v := nI 0) C.1 C.2.1 dX1_same_39 (by decide) ?_
        refine lv_istore_n (lv' := [(3, .int (nI 0)), (0, .ref (ad 13)), (1, .int (nI p)), (2, .int (nI q))]) C.1 C.2.1 dX1_same_40 rfl hl (by decide) rfl (fun ls hl => ?_)
        have e9 : qr_same mt_workOut 6 5 σ (nI p) (nI q) = (qa_same (fun j => τ.2 5 (p * 40 + j)) (fun j => τ.2 5 (q * 40 + j)) (τ.1 6 p) 0, τ) := by unfold qr_same; rw [if_neg (show ¬ (qb (nI p) = true ∨ qb (nI q) = true) by rw [qb_yes hp, qb_yes hq]; decide), nI_clamp (show p < 2 ^ 31 by omega), nI_clamp (show q < 2 ^ 31 by omega), hT, if_pos c34]
        rw [e9]
        exact m_same_l C hml hr hlk hp hq (t40 p hp) (τ.1 6 p) 0 _ _ ls (Nat.zero_add _) rfl h (lv_sub hl [0, 1, 2, 3] rfl)
      · refine lv_iconst (v := nI 0) C.1 C.2.1 dX1_same_37 (by decide) ?_
        have e9 : qr_same mt_workOut 6 5 σ (nI p) (nI q) = (false, τ) := by unfold qr_same; rw [if_neg (show ¬ (qb (nI p) = true ∨ qb (nI q) = true) by rw [qb_yes hp, qb_yes hq]; decide), nI_clamp (show p < 2 ^ 31 by omega), nI_clamp (show q < 2 ^ 31 by omega), hT, if_neg c34]
        exact mw_zret C h hr hlk (by rw [e9]; exact bz_0) (by rw [e9]) dX1_same_38
    · refine lv_iconst (v := nI 0) C.1 C.2.1 dX1_same_16 (by decide) ?_
      have e9 : qr_same mt_workOut 6 5 σ x y = (false, σ) := by unfold qr_same; rw [if_pos (Or.inr c13)]
      exact mw_zret C h hr hlk (by rw [e9]; exact bz_0) (by rw [e9]) dX1_same_17
set_option maxHeartbeats 4000000 in
set_option maxRecDepth 100000 in
theorem m_full_l {l : Launch} {D : va_G} {ad : Nat → Nat} {dA : ClassId} {p_ : Program} {e : Env} {s : State} {m : MethodId} {args : Array Value} {below : List Frame} {meth : Method} {c : Code} {A : Nat → Prop} (C : mw_C D dA p_ s m args c cX1_full) (hml : c.maxLocals = 3) (hr : meth.sig.returnType = some .int) (hlk : meth.locks = false) {τ : us_S} (t40 : ∀ r, r < 8 → τ.1 6 r ≤ 40) : ∀ (f p : Nat) (H : Heap) (locs : List Loc) (ls : Array Slot), p + f = 8 → mw_H D ad dA A s H locs τ → lv_has ls 3 [(2, .int (nI p)), (1, .int (nI (qa_full (τ.1 6) p))), (0, .ref (ad 13))] → W p_ l e ({ frames := 4, cells := 0, slots := 0, locals := 95 } : Room) s m args below meth c H locs 0 0 (MQ below (va_Qi (fun r' u => r' = nI (qa_full (τ.1 6) 8) ∧ u = τ) (mw_B D ad dA A) A) args s 0 0 A) (F0 m 8 ls []) := by
  intro f
  induction f with
  | zero =>
    intro p H locs ls hi h hl
    refine lv_iload_n C.1 C.2.1 dX1_full_8 rfl (lv_at hl 0 rfl) ?_
    refine lv_bipush (v := nI 8) C.1 C.2.1 dX1_full_9 (by decide) ?_
    refine wn_ge (tgt := 34) C.1 C.2.1 (by omega) (by omega) dX1_full_11 (by decide) (fun c11 => ?_) (fun z => absurd z (by omega))
    refine lv_iload_n C.1 C.2.1 dX1_full_34 rfl (lv_at hl 1 rfl) ?_
    exact mw_iret C h hr hlk (by rw [← hi]; rfl) rfl dX1_full_35
  | succ f ih =>
    intro p H locs ls hi h hl
    have hp : p < 8 := by omega
    have tp := t40 p hp
    refine lv_iload_n C.1 C.2.1 dX1_full_8 rfl (lv_at hl 0 rfl) ?_
    refine lv_bipush (v := nI 8) C.1 C.2.1 dX1_full_9 (by decide) ?_
    refine wn_ge (tgt := 34) C.1 C.2.1 (by omega) (by omega) dX1_full_11 (by decide) (fun z => absurd z (by omega)) (fun c11 => ?_)
    refine lv_aload_n C.1 C.2.1 dX1_full_14 rfl (lv_at hl 2 rfl) ?_
    refine mg6 C h dX1_full_15 ?_
    refine lv_iload_n C.1 C.2.1 dX1_full_18 rfl (lv_at hl 0 rfl) ?_
    refine ml6 (i := p) (w := τ.1 6 p) C h (by omega) rfl dX1_full_19 ?_
    refine lv_bipush (v := nI 40) C.1 C.2.1 dX1_full_20 (by decide) ?_
    refine wn_ne (tgt := 28) C.1 C.2.1 (by omega) (by omega) dX1_full_22 (by decide) (fun c22 => ?_) (fun c22 => ?_)
    · refine lv_iinc (v := nI (p + 1)) (lv' := [(2, .int (nI (p + 1))), (1, .int (nI (qa_full (τ.1 6) p))), (0, .ref (ad 13))]) C.1 C.2.1 dX1_full_28 hl (k := 0) rfl (wn_inc _) (by decide) rfl (fun ls hl => ?_)
      refine lv_goto (tgt := 8) C.1 C.2.1 dX1_full_31 (by decide) ?_
      have e0 : qa_full (τ.1 6) (p + 1) = qa_full (τ.1 6) p := by show (if τ.1 6 p = 40 then qa_full (τ.1 6) p + 1 else qa_full (τ.1 6) p) = _; rw [if_neg c22]
      rw [← e0] at hl
      exact ih (p + 1) H locs ls (by omega) h (lv_sub hl [0, 1, 2] rfl)
    · refine lv_iinc (v := nI (qa_full (τ.1 6) p + 1)) (lv' := [(1, .int (nI (qa_full (τ.1 6) p + 1))), (2, .int (nI p)), (0, .ref (ad 13))]) C.1 C.2.1 dX1_full_25 hl (k := 1) rfl (wn_inc _) (by decide) rfl (fun ls hl => ?_)
      refine lv_iinc (v := nI (p + 1)) (lv' := [(2, .int (nI (p + 1))), (1, .int (nI (qa_full (τ.1 6) p + 1))), (0, .ref (ad 13))]) C.1 C.2.1 dX1_full_28 hl (k := 1) rfl (wn_inc _) (by decide) rfl (fun ls hl => ?_)
      refine lv_goto (tgt := 8) C.1 C.2.1 dX1_full_31 (by decide) ?_
      have e0 : qa_full (τ.1 6) (p + 1) = qa_full (τ.1 6) p + 1 := by show (if τ.1 6 p = 40 then qa_full (τ.1 6) p + 1 else qa_full (τ.1 6) p) = _; rw [if_pos c22]
      rw [← e0] at hl
      exact ih (p + 1) H locs ls (by omega) h (lv_sub hl [0, 1, 2] rfl)
set_option maxHeartbeats 4000000 in
set_option maxRecDepth 100000 in
theorem m_full (l : Launch) (D : va_G) (ad : Nat → Nat) (dA : ClassId) (sz : Nat) (σ : us_S) (hI : mt_Inv σ) : mw_Mi l yX1_full cX1_full 3 (some .int) ({ frames := 4, cells := 0, slots := 0, locals := 95 } : Room) D ad dA sz σ [] ((qr_full mt_workOut 6 σ).1) ((qr_full mt_workOut 6 σ).2) := by
  refine mw_Mi_of (by decide) rfl (Nat.le_of_ble_eq_true rfl) (fun p_ e s m below meth c A ls C hml hr hlk h hl => ?_)
  have hl : lv_has ls 3 [(0, .ref (ad 13))] := hl
  refine lv_aload_n C.1 C.2.1 dX1_full_0 rfl (lv_at hl 0 rfl) ?_
  refine mw_callv (n := 0) (As := []) (rest := []) C hml h (m_workOut l D ad dA _ σ hI) q224 q226 qs16 q227 rfl (by decide +kernel) rfl rfl ⟨Nat.le_of_ble_eq_true rfl, Nat.le_of_ble_eq_true rfl⟩ rfl hl.1 rfl (Nat.le_of_ble_eq_true rfl) dX1_full_1 ⟨Nat.zero_le _, Nat.zero_le _⟩ (fun H locs h => ?_)
  obtain ⟨τ, hT⟩ : ∃ τ, mt_workOut σ = τ := ⟨_, rfl⟩
  have t40 : ∀ r, r < 8 → τ.1 6 r ≤ 40 := fun r hr8 => by rw [← hT]; exact (mt_workOut_J hI).2.1.2.2 r hr8
  rw [hT] at h
  refine lv_iconst (v := nI 0) C.1 C.2.1 dX1_full_4 (by decide) ?_
  refine lv_istore_n (lv' := [(1, .int (nI 0)), (0, .ref (ad 13))]) C.1 C.2.1 dX1_full_5 rfl hl (by decide) rfl (fun ls hl => ?_)
  refine lv_iconst (v := nI 0) C.1 C.2.1 dX1_full_6 (by decide) ?_
  refine lv_istore_n (lv' := [(2, .int (nI 0)), (1, .int (nI 0)), (0, .ref (ad 13))]) C.1 C.2.1 dX1_full_7 rfl hl (by decide) rfl (fun ls hl => ?_)
  have e9 : qr_full mt_workOut 6 σ = (nI (qa_full (τ.1 6) 8), τ) := by unfold qr_full; rw [hT]
  rw [e9]
  exact m_full_l C hml hr hlk t40 8 0 _ _ ls rfl h (lv_sub hl [0, 1, 2] rfl)
set_option maxHeartbeats 4000000 in
set_option maxRecDepth 100000 in
theorem m_set (l : Launch) (D : va_G) (ad : Nat → Nat) (dA : ClassId) (sz : Nat) (σ : us_S) (x k y a : Int32) : mw_Mi l yX1_set cX1_set 5 (some .int) ({ frames := 1, cells := 0, slots := 0, locals := 21 } : Room) D ad dA sz σ [.int x, .int k, .int y, .int a] ((qr_set (fun μ => us_N μ 4 0 0) σ x k y a).1) ((qr_set (fun μ => us_N μ 4 0 0) σ x k y a).2) := by
  refine mw_Mi_of (by decide) rfl (Nat.le_of_ble_eq_true rfl) (fun p_ e s m below meth c A ls C hml hr hlk h hl => ?_)
  have hl : lv_has ls 5 [(0, .ref (ad 13)), (1, .int x), (2, .int k), (3, .int y), (4, .int a)] := hl
  refine lv_aload_n C.1 C.2.1 dX1_set_0 rfl (lv_at hl 0 rfl) ?_
  refine lv_iload_n C.1 C.2.1 dX1_set_1 rfl (lv_at hl 1 rfl) ?_
  refine mw_bad (rest := []) C hml h ⟨Nat.le_of_ble_eq_true rfl, Nat.le_of_ble_eq_true rfl⟩ hl.1 rfl (Nat.le_of_ble_eq_true rfl) dX1_set_2 ⟨Nat.zero_le _, Nat.zero_le _⟩ ?_
  refine wn_ifzB (tgt := 10) C.1 C.2.1 dX1_set_5 (by decide) (fun c5 => ?_) (fun c5 => ?_)
  · obtain ⟨p, hp, rfl⟩ := qb_no c5
    refine lv_iload_n C.1 C.2.1 dX1_set_10 rfl (lv_at hl 2 rfl) ?_
    refine lv_if_lt (tgt := 20) C.1 C.2.1 dX1_set_11 (by decide) (fun c11 => ?_) (fun c11 => ?_)
    · refine lv_bipush (v := (-2)) C.1 C.2.1 dX1_set_20 (by decide) ?_
      have e9 : qr_set (fun μ => us_N μ 4 0 0) σ (nI p) k y a = (-2, σ) := by unfold qr_set; rw [if_neg (show ¬ qb (nI p) = true by rw [qb_yes hp]; decide), if_pos (Or.inl c11)]
      exact mw_iret C h hr hlk (by rw [e9]) (by rw [e9]) dX1_set_22
    · refine lv_iload_n C.1 C.2.1 dX1_set_14 rfl (lv_at hl 2 rfl) ?_
      refine lv_bipush (v := nI 7) C.1 C.2.1 dX1_set_15 (by decide) ?_
      refine lv_icmp_le (tgt := 23) C.1 C.2.1 dX1_set_17 (by decide) (fun c17 => ?_) (fun c17 => ?_)
      · obtain ⟨kn, hk31, rfl⟩ := nI_of c11
        have hkn : kn ≤ 7 := (nI_leI hk31 (by decide)).mp c17
        refine lv_aload_n C.1 C.2.1 dX1_set_23 rfl (lv_at hl 0 rfl) ?_
        refine mg0 C h dX1_set_24 ?_
        refine lv_iload_n C.1 C.2.1 dX1_set_27 rfl (lv_at hl 1 rfl) ?_
        refine lv_iload_n C.1 C.2.1 dX1_set_28 rfl (lv_at hl 2 rfl) ?_
        refine ms0 (i := p) (v := kn) C h (by omega) dX1_set_29 (fun H locs h => ?_)
        refine lv_aload_n C.1 C.2.1 dX1_set_30 rfl (lv_at hl 0 rfl) ?_
        refine mg1 C h dX1_set_31 ?_
        refine lv_iload_n C.1 C.2.1 dX1_set_34 rfl (lv_at hl 1 rfl) ?_
        refine lv_iload_n C.1 C.2.1 dX1_set_35 rfl (lv_at hl 3 rfl) ?_
        refine lv_bipush (v := nI 7) C.1 C.2.1 dX1_set_36 (by decide) ?_
        refine wn_andV7 C.1 C.2.1 dX1_set_38 ?_
        refine ms1 (i := p) (v := y.toBitVec.toNat % 8) C h (by omega) dX1_set_39 (fun H locs h => ?_)
        refine lv_aload_n C.1 C.2.1 dX1_set_40 rfl (lv_at hl 0 rfl) ?_
        refine mg2 C h dX1_set_41 ?_
        refine lv_iload_n C.1 C.2.1 dX1_set_44 rfl (lv_at hl 1 rfl) ?_
        refine lv_iload_n C.1 C.2.1 dX1_set_45 rfl (lv_at hl 3 rfl) ?_
        refine lv_iconst (v := nI 3) C.1 C.2.1 dX1_set_46 (by decide) ?_
        refine lv_ishr C.1 C.2.1 dX1_set_47 ?_
        refine lv_bipush (v := nI 7) C.1 C.2.1 dX1_set_48 (by decide) ?_
        refine wn_andV7 C.1 C.2.1 dX1_set_50 ?_
        refine ms2 (i := p) (v := (y >>> ((nI 3) &&& 31)).toBitVec.toNat % 8) C h (by omega) dX1_set_51 (fun H locs h => ?_)
        refine lv_aload_n C.1 C.2.1 dX1_set_52 rfl (lv_at hl 0 rfl) ?_
        refine mg3 C h dX1_set_53 ?_
        refine lv_iload_n C.1 C.2.1 dX1_set_56 rfl (lv_at hl 1 rfl) ?_
        refine lv_iload C.1 C.2.1 dX1_set_57 (lv_at hl 4 rfl) ?_
        refine ms3 (i := p) (v := a) C h (by omega) dX1_set_59 (fun H locs h => ?_)
        refine lv_aload_n C.1 C.2.1 dX1_set_60 rfl (lv_at hl 0 rfl) ?_
        refine lv_iconst (v := nI 0) C.1 C.2.1 dX1_set_61 (by decide) ?_
        refine mp4 (v := 0) C h rfl rfl dX1_set_62 (fun H locs h => ?_)
        refine lv_iconst (v := nI 0) C.1 C.2.1 dX1_set_65 (by decide) ?_
        have e9 : qr_set (fun μ => us_N μ 4 0 0) σ (nI p) (nI kn) y a = (0, us_N (us_V (us_N (us_N (us_N σ 0 p kn) 1 p (y.toBitVec.toNat % 8)) 2 p ((y >>> ((nI 3) &&& 31)).toBitVec.toNat % 8)) 3 p a) 4 0 0) := by unfold qr_set; rw [if_neg (show ¬ qb (nI p) = true by rw [qb_yes hp]; decide), if_neg (fun z => z.elim c11 (fun y => Int32.not_lt.mpr c17 y)), nI_clamp (show p < 2 ^ 31 by omega), nI_clamp (show kn < 2 ^ 31 by omega)]; rfl
        exact mw_iret C h hr hlk (by rw [e9]; rfl) (by rw [e9]) dX1_set_66
      · refine lv_bipush (v := (-2)) C.1 C.2.1 dX1_set_20 (by decide) ?_
        have e9 : qr_set (fun μ => us_N μ 4 0 0) σ (nI p) k y a = (-2, σ) := by unfold qr_set; rw [if_neg (show ¬ qb (nI p) = true by rw [qb_yes hp]; decide), if_pos (Or.inr (Int32.not_le.mp c17))]
        exact mw_iret C h hr hlk (by rw [e9]) (by rw [e9]) dX1_set_22
  · refine lv_iconst (v := (-1)) C.1 C.2.1 dX1_set_8 (by decide) ?_
    have e9 : qr_set (fun μ => us_N μ 4 0 0) σ x k y a = (-1, σ) := by unfold qr_set; rw [if_pos c5]
    exact mw_iret C h hr hlk (by rw [e9]) (by rw [e9]) dX1_set_9
set_option maxHeartbeats 4000000 in
set_option maxRecDepth 100000 in
theorem m_exchange (l : Launch) (D : va_G) (ad : Nat → Nat) (dA : ClassId) (sz : Nat) (σ : us_S) (x y : Int32) : mw_Mi l yX1_exchange cX1_exchange 7 (some .int) ({ frames := 1, cells := 0, slots := 0, locals := 21 } : Room) D ad dA sz σ [.int x, .int y] ((qr_exch (fun μ p q => us_N (mt_exch μ p q) 4 0 0) σ x y).1) ((qr_exch (fun μ p q => us_N (mt_exch μ p q) 4 0 0) σ x y).2) := by
  refine mw_Mi_of (by decide) rfl (Nat.le_of_ble_eq_true rfl) (fun p_ e s m below meth c A ls C hml hr hlk h hl => ?_)
  have hl : lv_has ls 7 [(0, .ref (ad 13)), (1, .int x), (2, .int y)] := hl
  refine lv_aload_n C.1 C.2.1 dX1_exchange_0 rfl (lv_at hl 0 rfl) ?_
  refine lv_iload_n C.1 C.2.1 dX1_exchange_1 rfl (lv_at hl 1 rfl) ?_
  refine mw_bad (rest := []) C hml h ⟨Nat.le_of_ble_eq_true rfl, Nat.le_of_ble_eq_true rfl⟩ hl.1 rfl (Nat.le_of_ble_eq_true rfl) dX1_exchange_2 ⟨Nat.zero_le _, Nat.zero_le _⟩ ?_
  refine wn_ifnB (tgt := 16) C.1 C.2.1 dX1_exchange_5 (by decide) (fun c5 => ?_) (fun c5 => ?_)
  · refine lv_iconst (v := (-1)) C.1 C.2.1 dX1_exchange_16 (by decide) ?_
    have e9 : qr_exch (fun μ p q => us_N (mt_exch μ p q) 4 0 0) σ x y = (-1, σ) := by unfold qr_exch; rw [if_pos (Or.inl c5)]
    exact mw_iret C h hr hlk (by rw [e9]) (by rw [e9]) dX1_exchange_17
  · refine lv_aload_n C.1 C.2.1 dX1_exchange_8 rfl (lv_at hl 0 rfl) ?_
    refine lv_iload_n C.1 C.2.1 dX1_exchange_9 rfl (lv_at hl 2 rfl) ?_
    refine mw_bad (rest := []) C hml h ⟨Nat.le_of_ble_eq_true rfl, Nat.le_of_ble_eq_true rfl⟩ hl.1 rfl (Nat.le_of_ble_eq_true rfl) dX1_exchange_10 ⟨Nat.zero_le _, Nat.zero_le _⟩ ?_
    refine wn_ifzB (tgt := 18) C.1 C.2.1 dX1_exchange_13 (by decide) (fun c13 => ?_) (fun c13 => ?_)
    · obtain ⟨p, hp, rfl⟩ := qb_no c5
      obtain ⟨q, hq, rfl⟩ := qb_no c13
      refine lv_aload_n C.1 C.2.1 dX1_exchange_18 rfl (lv_at hl 0 rfl) ?_
      refine mg0 C h dX1_exchange_19 ?_
      refine lv_iload_n C.1 C.2.1 dX1_exchange_22 rfl (lv_at hl 1 rfl) ?_
      refine ml0 (i := p) (w := σ.1 0 p) C h (by omega) rfl dX1_exchange_23 ?_
      refine lv_istore_n (lv' := [(3, .int (nI (σ.1 0 p))), (0, .ref (ad 13)), (1, .int (nI p)), (2, .int (nI q))]) C.1 C.2.1 dX1_exchange_24 rfl hl (by decide) rfl (fun ls hl => ?_)
      refine lv_aload_n C.1 C.2.1 dX1_exchange_25 rfl (lv_at hl 1 rfl) ?_
      refine mg1 C h dX1_exchange_26 ?_
      refine lv_iload_n C.1 C.2.1 dX1_exchange_29 rfl (lv_at hl 2 rfl) ?_
      refine ml1 (i := p) (w := σ.1 1 p) C h (by omega) rfl dX1_exchange_30 ?_
      refine lv_istore (lv' := [(4, .int (nI (σ.1 1 p))), (3, .int (nI (σ.1 0 p))), (0, .ref (ad 13)), (1, .int (nI p)), (2, .int (nI q))]) C.1 C.2.1 dX1_exchange_31 hl (by decide) rfl (fun ls hl => ?_)
      refine lv_aload_n C.1 C.2.1 dX1_exchange_33 rfl (lv_at hl 2 rfl) ?_
      refine mg2 C h dX1_exchange_34 ?_
      refine lv_iload_n C.1 C.2.1 dX1_exchange_37 rfl (lv_at hl 3 rfl) ?_
      refine ml2 (i := p) (w := σ.1 2 p) C h (by omega) rfl dX1_exchange_38 ?_
      refine lv_istore (lv' := [(5, .int (nI (σ.1 2 p))), (4, .int (nI (σ.1 1 p))), (3, .int (nI (σ.1 0 p))), (0, .ref (ad 13)), (1, .int (nI p)), (2, .int (nI q))]) C.1 C.2.1 dX1_exchange_39 hl (by decide) rfl (fun ls hl => ?_)
      refine lv_aload_n C.1 C.2.1 dX1_exchange_41 rfl (lv_at hl 3 rfl) ?_
      refine mg3 C h dX1_exchange_42 ?_
      refine lv_iload_n C.1 C.2.1 dX1_exchange_45 rfl (lv_at hl 4 rfl) ?_
      refine ml3 (i := p) (w := σ.2 3 p) C h (by omega) rfl dX1_exchange_46 ?_
      refine lv_istore (lv' := [(6, .int (σ.2 3 p)), (5, .int (nI (σ.1 2 p))), (4, .int (nI (σ.1 1 p))), (3, .int (nI (σ.1 0 p))), (0, .ref (ad 13)), (1, .int (nI p)), (2, .int (nI q))]) C.1 C.2.1 dX1_exchange_47 hl (by decide) rfl (fun ls hl => ?_)
      refine lv_aload_n C.1 C.2.1 dX1_exchange_49 rfl (lv_at hl 4 rfl) ?_
      refine mg0 C h dX1_exchange_50 ?_
      refine lv_iload_n C.1 C.2.1 dX1_exchange_53 rfl (lv_at hl 5 rfl) ?_
      refine lv_aload_n C.1 C.2.1 dX1_exchange_54 rfl (lv_at hl 4 rfl) ?_
      refine mg0 C h dX1_exchange_55 ?_
      refine lv_iload_n C.1 C.2.1 dX1_exchange_58 rfl (lv_at hl 6 rfl) ?_
      refine ml0 (i := q) (w := σ.1 0 q) C h (by omega) rfl dX1_exchange_59 ?_
      refine ms0 (i := p) (v := σ.1 0 q) C h (by omega) dX1_exchange_60 (fun H locs h => ?_)
      refine lv_aload_n C.1 C.2.1 dX1_exchange_61 rfl (lv_at hl 4 rfl) ?_
      refine mg1 C h dX1_exchange_62 ?_
      refine lv_iload_n C.1 C.2.1 dX1_exchange_65 rfl (lv_at hl 5 rfl) ?_
      refine lv_aload_n C.1 C.2.1 dX1_exchange_66 rfl (lv_at hl 4 rfl) ?_
      refine mg1 C h dX1_exchange_67 ?_
      refine lv_iload_n C.1 C.2.1 dX1_exchange_70 rfl (lv_at hl 6 rfl) ?_
      refine ml1 (i := q) (w := σ.1 1 q) C h (by omega) rfl dX1_exchange_71 ?_
      refine ms1 (i := p) (v := σ.1 1 q) C h (by omega) dX1_exchange_72 (fun H locs h => ?_)
      refine lv_aload_n C.1 C.2.1 dX1_exchange_73 rfl (lv_at hl 4 rfl) ?_
      refine mg2 C h dX1_exchange_74 ?_
      refine lv_iload_n C.1 C.2.1 dX1_exchange_77 rfl (lv_at hl 5 rfl) ?_
      refine lv_aload_n C.1 C.2.1 dX1_exchange_78 rfl (lv_at hl 4 rfl) ?_
      refine mg2 C h dX1_exchange_79 ?_
      refine lv_iload_n C.1 C.2.1 dX1_exchange_82 rfl (lv_at hl 6 rfl) ?_
      refine ml2 (i := q) (w := σ.1 2 q) C h (by omega) rfl dX1_exchange_83 ?_
      refine ms2 (i := p) (v := σ.1 2 q) C h (by omega) dX1_exchange_84 (fun H locs h => ?_)
      refine lv_aload_n C.1 C.2.1 dX1_exchange_85 rfl (lv_at hl 4 rfl) ?_
      refine mg3 C h dX1_exchange_86 ?_
      refine lv_iload_n C.1 C.2.1 dX1_exchange_89 rfl (lv_at hl 5 rfl) ?_
      refine lv_aload_n C.1 C.2.1 dX1_exchange_90 rfl (lv_at hl 4 rfl) ?_
      refine mg3 C h dX1_exchange_91 ?_
      refine lv_iload_n C.1 C.2.1 dX1_exchange_94 rfl (lv_at hl 6 rfl) ?_
      refine ml3 (i := q) (w := σ.2 3 q) C h (by omega) rfl dX1_exchange_95 ?_
      refine ms3 (i := p) (v := σ.2 3 q) C h (by omega) dX1_exchange_96 (fun H locs h => ?_)
      refine lv_aload_n C.1 C.2.1 dX1_exchange_97 rfl (lv_at hl 4 rfl) ?_
      refine mg0 C h dX1_exchange_98 ?_
      refine lv_iload_n C.1 C.2.1 dX1_exchange_101 rfl (lv_at hl 6 rfl) ?_
      refine lv_iload_n C.1 C.2.1 dX1_exchange_102 rfl (lv_at hl 3 rfl) ?_
      refine ms0 (i := q) (v := σ.1 0 p) C h (by omega) dX1_exchange_103 (fun H locs h => ?_)
      refine lv_aload_n C.1 C.2.1 dX1_exchange_104 rfl (lv_at hl 4 rfl) ?_
      refine mg1 C h dX1_exchange_105 ?_
      refine lv_iload_n C.1 C.2.1 dX1_exchange_108 rfl (lv_at hl 6 rfl) ?_
      refine lv_iload C.1 C.2.1 dX1_exchange_109 (lv_at hl 2 rfl) ?_
      refine ms1 (i := q) (v := σ.1 1 p) C h (by omega) dX1_exchange_111 (fun H locs h => ?_)
      refine lv_aload_n C.1 C.2.1 dX1_exchange_112 rfl (lv_at hl 4 rfl) ?_
      refine mg2 C h dX1_exchange_113 ?_
      refine lv_iload_n C.1 C.2.1 dX1_exchange_116 rfl (lv_at hl 6 rfl) ?_
      refine lv_iload C.1 C.2.1 dX1_exchange_117 (lv_at hl 1 rfl) ?_
      refine ms2 (i := q) (v := σ.1 2 p) C h (by omega) dX1_exchange_119 (fun H locs h => ?_)
      refine lv_aload_n C.1 C.2.1 dX1_exchange_120 rfl (lv_at hl 4 rfl) ?_
      refine mg3 C h dX1_exchange_121 ?_
      refine lv_iload_n C.1 C.2.1 dX1_exchange_124 rfl (lv_at hl 6 rfl) ?_
      refine lv_iload C.1 C.2.1 dX1_exchange_125 (lv_at hl 0 rfl) ?_
      refine ms3 (i := q) (v := σ.2 3 p) C h (by omega) dX1_exchange_127 (fun H locs h => ?_)
      refine lv_aload_n C.1 C.2.1 dX1_exchange_128 rfl (lv_at hl 4 rfl) ?_
      refine lv_iconst (v := nI 0) C.1 C.2.1 dX1_exchange_129 (by decide) ?_
      refine mp4 (v := 0) C h rfl rfl dX1_exchange_130 (fun H locs h => ?_)
      refine lv_iconst (v := nI 0) C.1 C.2.1 dX1_exchange_133 (by decide) ?_
      have e9 : qr_exch (fun μ p q => us_N (mt_exch μ p q) 4 0 0) σ (nI p) (nI q) = (0, us_N (us_V (us_N (us_N (us_N (us_V (us_N (us_N (us_N σ 0 p (σ.1 0 q)) 1 p (σ.1 1 q)) 2 p (σ.1 2 q)) 3 p (σ.2 3 q)) 0 q (σ.1 0 p)) 1 q (σ.1 1 p)) 2 q (σ.1 2 p)) 3 q (σ.2 3 p)) 4 0 0) := by unfold qr_exch; rw [if_neg (show ¬ (qb (nI p) = true ∨ qb (nI q) = true) by rw [qb_yes hp, qb_yes hq]; decide), nI_clamp (show p < 2 ^ 31 by omega), nI_clamp (show q < 2 ^ 31 by omega)]; rfl
      exact mw_iret C h hr hlk (by rw [e9]; rfl) (by rw [e9]) dX1_exchange_134
    · refine lv_iconst (v := (-1)) C.1 C.2.1 dX1_exchange_16 (by decide) ?_
      have e9 : qr_exch (fun μ p q => us_N (mt_exch μ p q) 4 0 0) σ x y = (-1, σ) := by unfold qr_exch; rw [if_pos (Or.inr c13)]
      exact mw_iret C h hr hlk (by rw [e9]) (by rw [e9]) dX1_exchange_17
set_option maxHeartbeats 4000000 in
set_option maxRecDepth 100000 in
theorem m_fire (l : Launch) (D : va_G) (ad : Nat → Nat) (dA : ClassId) (sz : Nat) (σ : us_S) (x n : Int32) : mw_Mi l yX1_fire cX1_fire 3 (some .int) ({ frames := 1, cells := 0, slots := 0, locals := 21 } : Room) D ad dA sz σ [.int x, .int n] ((qr_fire (fun μ _ => μ) σ x).1) ((qr_fire (fun μ _ => μ) σ x).2) := by
  refine mw_Mi_of (by decide) rfl (Nat.le_of_ble_eq_true rfl) (fun p_ e s m below meth c A ls C hml hr hlk h hl => ?_)
  have hl : lv_has ls 3 [(0, .ref (ad 13)), (1, .int x), (2, .int n)] := hl
  refine lv_aload_n C.1 C.2.1 dX1_fire_0 rfl (lv_at hl 0 rfl) ?_
  refine lv_iload_n C.1 C.2.1 dX1_fire_1 rfl (lv_at hl 1 rfl) ?_
  refine mw_bad (rest := []) C hml h ⟨Nat.le_of_ble_eq_true rfl, Nat.le_of_ble_eq_true rfl⟩ hl.1 rfl (Nat.le_of_ble_eq_true rfl) dX1_fire_2 ⟨Nat.zero_le _, Nat.zero_le _⟩ ?_
  refine wn_ifzB (tgt := 12) C.1 C.2.1 dX1_fire_5 (by decide) (fun c5 => ?_) (fun c5 => ?_)
  · obtain ⟨p, hp, rfl⟩ := qb_no c5
    refine lv_iconst (v := nI 0) C.1 C.2.1 dX1_fire_12 (by decide) ?_
    have e9 : qr_fire (fun μ _ => μ) σ (nI p) = (0, σ) := by unfold qr_fire; rw [if_neg (show ¬ qb (nI p) = true by rw [qb_yes hp]; decide)]
    exact mw_iret C h hr hlk (by rw [e9]; rfl) (by rw [e9]) dX1_fire_13
  · refine lv_iconst (v := (-1)) C.1 C.2.1 dX1_fire_8 (by decide) ?_
    refine lv_goto (tgt := 13) C.1 C.2.1 dX1_fire_9 (by decide) ?_
    have e9 : qr_fire (fun μ _ => μ) σ x = (-1, σ) := by unfold qr_fire; rw [if_pos c5]
    exact mw_iret C h hr hlk (by rw [e9]) (by rw [e9]) dX1_fire_13
end
section
/-! CONTRACTS of the constructors (by wip/D-64155w/gen/init.py) -/
def us_0 : us_S := (fun _ _ => 0, fun _ _ => 0)
def xc_i8 : Nat → Nat → us_S → us_S
  | 0, _, σ => σ
  | f + 1, p, σ => xc_i8 f (p + 1) (us_N σ 0 p 1)
theorem xc_i8_J : ∀ (f p : Nat) (σ : us_S), p + f = 8 → (∀ a, a ≠ 0 → (xc_i8 f p σ).1 a = σ.1 a) ∧ (xc_i8 f p σ).2 = σ.2 ∧ ∀ r, r < 8 → (p ≤ r ∨ σ.1 0 r = 1) → (xc_i8 f p σ).1 0 r = 1
  | 0, p, σ, hp => ⟨fun _ _ => rfl, rfl, fun r hr h => h.resolve_left (by omega)⟩
  | f + 1, p, σ, hp => by
    obtain ⟨g1, g2, g3⟩ := xc_i8_J f (p + 1) (us_N σ 0 p 1) (by omega)
    refine ⟨fun a ha => ?_, g2, fun r hr h => ?_⟩
    · show (xc_i8 f (p + 1) _).1 a = _
      rw [g1 a ha, us_Nf ha]
    · refine g3 r hr ?_
      rw [us_N1]
      by_cases e : r = p
      · rw [if_pos ⟨rfl, e⟩]; exact Or.inr rfl
      · rw [if_neg (fun z => e z.2)]
        rcases h with h | h
        · exact Or.inl (by omega)
        · exact Or.inr h
theorem xc_i8_ok : pn_ok (xc_k (xc_i8 8 0 us_0)) := by
  obtain ⟨g1, g2, g3⟩ := xc_i8_J 8 0 us_0 rfl
  intro p hp
  have e0 : xc_k (xc_i8 8 0 us_0) 0 p = 1 := g3 p hp (Or.inl (Nat.zero_le _))
  have e1 : xc_k (xc_i8 8 0 us_0) 1 p = 0 := by
    show (xc_i8 8 0 us_0).1 1 p = 0
    rw [g1 1 (by decide)]; rfl
  have e2 : xc_k (xc_i8 8 0 us_0) 2 p = 0 := by
    show (xc_i8 8 0 us_0).1 2 p = 0
    rw [g1 2 (by decide)]; rfl
  rw [e0, e1, e2]; decide
theorem xc_i8_4 : (xc_i8 8 0 us_0).1 4 0 = 0 := by
  rw [(xc_i8_J 8 0 us_0 rfl).1 4 (by decide)]; rfl
set_option maxHeartbeats 4000000 in
set_option maxRecDepth 100000 in
theorem x_init_l {l : Launch} {D : va_G} {ad : Nat → Nat} {dA dB : ClassId} {p_ : Program} {e : Env} {s : State} {m : MethodId} {args : Array Value} {below : List Frame} {meth : Method} {c : Code} {A : Nat → Prop} {Q : State → Prop} (C : xw_C D dA dB p_ s m args c cX0_init) : ∀ (f p : Nat) (σ : us_S) (H : Heap) (locs : List Loc) (ls : Array Slot), p + f = 8 → xw_H D ad dA dB A s H locs σ → lv_has ls 2 [(1, .int (nI p)), (0, .ref (ad 13))] → (∀ (H : Heap) (locs : List Loc) (ls : Array Slot), xw_H D ad dA dB A s H locs (xc_i8 f p σ) → lv_has ls 2 [(0, .ref (ad 13))] → W p_ l e ({ frames := 2, cells := 11, slots := 400, locals := 42 } : Room) s m args below meth c H locs 11 400 Q (F0 m 114 ls [])) → W p_ l e ({ frames := 2, cells := 11, slots := 400, locals := 42 } : Room) s m args below meth c H locs 11 400 Q (F0 m 95 ls []) := by
  intro f
  induction f with
  | zero =>
    intro p σ H locs ls hi h hl K
    refine lv_iload_n C.1 C.2.1 dX0_init_95 rfl (lv_at hl 0 rfl) ?_
    refine lv_bipush (v := nI 8) C.1 C.2.1 dX0_init_96 (by decide) ?_
    refine wn_ge (tgt := 114) C.1 C.2.1 (by omega) (by omega) dX0_init_98 (by decide) (fun c98 => ?_) (fun z => absurd z (by omega))
    exact K H locs ls h (lv_sub hl [1] rfl)
  | succ f ih =>
    intro p σ H locs ls hi h hl K
    have hp : p < 8 := by omega
    refine lv_iload_n C.1 C.2.1 dX0_init_95 rfl (lv_at hl 0 rfl) ?_
    refine lv_bipush (v := nI 8) C.1 C.2.1 dX0_init_96 (by decide) ?_
    refine wn_ge (tgt := 114) C.1 C.2.1 (by omega) (by omega) dX0_init_98 (by decide) (fun z => absurd z (by omega)) (fun c98 => ?_)
    refine lv_aload_n C.1 C.2.1 dX0_init_101 rfl (lv_at hl 1 rfl) ?_
    refine xg0 C h dX0_init_102 ?_
    refine lv_iload_n C.1 C.2.1 dX0_init_105 rfl (lv_at hl 0 rfl) ?_
    refine lv_iconst (v := nI 1) C.1 C.2.1 dX0_init_106 (by decide) ?_
    refine xs0 (i := p) (v := 1) C h (by omega) dX0_init_107 (fun H locs h => ?_)
    refine lv_iinc (v := nI (p + 1)) (lv' := [(1, .int (nI (p + 1))), (0, .ref (ad 13))]) C.1 C.2.1 dX0_init_108 hl (k := 0) rfl (wn_inc _) (by decide) rfl (fun ls hl => ?_)
    refine lv_goto (tgt := 95) C.1 C.2.1 dX0_init_111 (by decide) ?_
    exact ih (p + 1) _ H locs ls (by omega) h hl K
set_option maxHeartbeats 4000000 in
set_option maxRecDepth 100000 in
theorem x_init (l : Launch) (D : va_G) (h0 sz : Nat) : Met l yX0_init (ws_ yX0_init cX0_init 2 none) ({ frames := 2, cells := 11, slots := 400, locals := 42 } : Room) (va_Pc [.ref h0] (fun U => U.heap.size = sz ∧ va_P D vwCl [(h0, .inr (0, [.null, .null, .null, .null, .null, .null, .null, .null, .null, .int 0, .int 0, .null, .null]))] U.heap ∧ va_K D vwCl [] U ∧ va_D (fun _ => True) [(h0, .inr (0, [.null, .null, .null, .null, .null, .null, .null, .null, .null, .int 0, .int 0, .null, .null]))])) (va_Qv (fun u : (Nat → Nat) × ClassId × ClassId => u.1 13 = h0) (fun u t => va_P D vwCl (xw_W u.1 u.2.1 u.2.2 (xc_restart (xc_i8 8 0 us_0))) t.heap ∧ va_K D vwCl [(u.2.1, .int), (u.2.2, .boolean)] t ∧ va_D (va_A [(h0, .inr (0, [.null, .null, .null, .null, .null, .null, .null, .null, .null, .int 0, .int 0, .null, .null]))] sz) (xw_W u.1 u.2.1 u.2.2 (xc_restart (xc_i8 8 0 us_0)))) (va_A [(h0, .inr (0, [.null, .null, .null, .null, .null, .null, .null, .null, .null, .int 0, .int 0, .null, .null]))] sz)) 11 400 (va_A [(h0, .inr (0, [.null, .null, .null, .null, .null, .null, .null, .null, .null, .int 0, .int 0, .null, .null]))] sz) := by
  refine Met.ofW (cc := cX0_init) (maxL := 2) (ret := none) (by decide) rfl ?_
  intro p e s m args below meth c s₁ B hml hv
  obtain ⟨rfl, hsz, hP, hK, hD0⟩ := hv
  have hx := B.exec
  have hb := B.bytes
  have hr := B.returns
  have hts := atoms_spec (ws := ws_ yX0_init cX0_init 2 none) B.pre
  have hts : ∀ w ∈ lw_all, w.before _ s = true := fun w h => hts w (List.mem_cons_of_mem _ h)
  have hown : s.vm.findClass RX0 = some m.cls := findClass_of_methodNamed B.named
  have hlk := B.notSynchronized
  have hin : meth.name = "<init>" := (name_of_methodNamed B.named B.method).1
  subst hsz
  have hD := hD0.self (sz := s.heap.size)
  generalize hAe : va_A [(h0, .inr (0, [.null, .null, .null, .null, .null, .null, .null, .null, .null, .int 0, .int 0, .null, .null]))] s.heap.size = A at hD ⊢
  have hA : ∀ q : Nat, s.heap.size ≤ q → A q := fun q h => by rw [← hAe]; exact Or.inr h
  have hS : va_S A s.heap s.heap [] := va_S.rf
  have hl := lv_entry ([.ref h0]) (n := 2) (Nat.le_of_ble_eq_true rfl)
  rw [lg_entry_eq]
  generalize (lg_sl ([.ref h0]) ++ List.replicate (2 - (lg_sl ([.ref h0])).length) Slot.unset).toArray = ls at hl ⊢
  have hl : lv_has ls 2 [(0, .ref h0)] := hl
  refine lv_aload_n hx hb dX0_init_0 rfl (lv_at hl 0 rfl) ?_
  refine W.objInit hx hb hown (hts _ q32) (hts _ q33) (hts _ q34) rfl (by rw [hml]; exact hl.1) rfl dX0_init_1 (Nat.le_of_ble_eq_true rfl) (Nat.le_of_ble_eq_true rfl) ?_
  refine W.eq (g2 := F0 m 4 ls []) rfl ?_
  refine lv_aload_n hx hb dX0_init_4 rfl (lv_at hl 0 rfl) ?_
  refine lv_bipush (v := nI 8) hx hb dX0_init_5 (by decide) ?_
  refine va_newa (atype := .int) (ty := .int) (n := nI 8) (N' := 8) (a0 := (8, .inl (fun _ => nI 0))) hx hb (hts _ q83) rfl hK hP hD hS hA (fun _ => rfl) (by decide) (by decide) (by decide) (Nat.le_of_ble_eq_true rfl) (Nat.le_of_ble_eq_true rfl) dX0_init_7 (fun q0 dA H hK hP hD hS => ?_)
  have hK : va_K D vwCl [(dA, .int)] s := hK
  have hP : va_P D vwCl [(h0, .inr (0, [.null, .null, .null, .null, .null, .null, .null, .null, .null, .int 0, .int 0, .null, .null])), (q0, .inl (dA, 8, .inl (fun _ => nI 0)))] H := hP
  have hD : va_D A [(h0, .inr (0, [.null, .null, .null, .null, .null, .null, .null, .null, .null, .int 0, .int 0, .null, .null])), (q0, .inl (dA, 8, .inl (fun _ => nI 0)))] := hD
  refine va_putF (D := D) (ci := 0) (v := .ref q0) (ty := .array .int) (C := RX0) (T := TX0) (N := 13) hx hb hts in_X0 tyX0 tyX0_ok nmX0 hown hK hP hD hS 0 rfl rfl 0 (by decide) (hts _ q43) (fun _ h9 => h9) rfl hin rfl (by decide +kernel) rfl rfl (Nat.le_of_ble_eq_true rfl) dX0_init_9 (fun H locs hP hD hS => ?_)
  have hP : va_P D vwCl [(h0, .inr (0, [.ref q0, .null, .null, .null, .null, .null, .null, .null, .null, .int 0, .int 0, .null, .null])), (q0, .inl (dA, 8, .inl (fun _ => nI 0)))] H := hP
  have hD : va_D A [(h0, .inr (0, [.ref q0, .null, .null, .null, .null, .null, .null, .null, .null, .int 0, .int 0, .null, .null])), (q0, .inl (dA, 8, .inl (fun _ => nI 0)))] := hD
  refine lv_aload_n hx hb dX0_init_12 rfl (lv_at hl 0 rfl) ?_
  refine lv_bipush (v := nI 8) hx hb dX0_init_13 (by decide) ?_
  refine va_newa (atype := .int) (ty := .int) (n := nI 8) (N' := 8) (a0 := (8, .inl (fun _ => nI 0))) hx hb (hts _ q83) rfl hK hP hD hS hA (fun _ => rfl) (by decide) (by decide) (by decide) (Nat.le_of_ble_eq_true rfl) (Nat.le_of_ble_eq_true rfl) dX0_init_15 (fun q1 cA1 H hK hP hD hS => ?_)
  have eC : cA1 = dA := Option.some.inj (((hK.2 1 (cA1, .int) rfl).2 : s.vm.findClass _ = some cA1).symm.trans ((hK.2 0 (dA, .int) rfl).2 : s.vm.findClass _ = some dA))
  subst eC
  have hK : va_K D vwCl [(cA1, .int)] s := hK.sub [0] rfl
  obtain ⟨dA, eD⟩ : ∃ d, d = cA1 := ⟨_, rfl⟩
  rw [← eD] at hK hP hD
  clear eD
  have hP : va_P D vwCl [(h0, .inr (0, [.ref q0, .null, .null, .null, .null, .null, .null, .null, .null, .int 0, .int 0, .null, .null])), (q0, .inl (dA, 8, .inl (fun _ => nI 0))), (q1, .inl (dA, 8, .inl (fun _ => nI 0)))] H := hP
  have hD : va_D A [(h0, .inr (0, [.ref q0, .null, .null, .null, .null, .null, .null, .null, .null, .int 0, .int 0, .null, .null])), (q0, .inl (dA, 8, .inl (fun _ => nI 0))), (q1, .inl (dA, 8, .inl (fun _ => nI 0)))] := hD
  refine va_putF (D := D) (ci := 0) (v := .ref q1) (ty := .array .int) (C := RX0) (T := TX0) (N := 13) hx hb hts in_X0 tyX0 tyX0_ok nmX0 hown hK hP hD hS 0 rfl rfl 1 (by decide) (hts _ q44) (fun _ h9 => h9) rfl hin rfl (by decide +kernel) rfl rfl (Nat.le_of_ble_eq_true rfl) dX0_init_17 (fun H locs hP hD hS => ?_)
  have hP : va_P D vwCl [(h0, .inr (0, [.ref q0, .ref q1, .null, .null, .null, .null, .null, .null, .null, .int 0, .int 0, .null, .null])), (q0, .inl (dA, 8, .inl (fun _ => nI 0))), (q1, .inl (dA, 8, .inl (fun _ => nI 0)))] H := hP
  have hD : va_D A [(h0, .inr (0, [.ref q0, .ref q1, .null, .null, .null, .null, .null, .null, .null, .int 0, .int 0, .null, .null])), (q0, .inl (dA, 8, .inl (fun _ => nI 0))), (q1, .inl (dA, 8, .inl (fun _ => nI 0)))] := hD
  refine lv_aload_n hx hb dX0_init_20 rfl (lv_at hl 0 rfl) ?_
  refine lv_bipush (v := nI 8) hx hb dX0_init_21 (by decide) ?_
  refine va_newa (atype := .int) (ty := .int) (n := nI 8) (N' := 8) (a0 := (8, .inl (fun _ => nI 0))) hx hb (hts _ q83) rfl hK hP hD hS hA (fun _ => rfl) (by decide) (by decide) (by decide) (Nat.le_of_ble_eq_true rfl) (Nat.le_of_ble_eq_true rfl) dX0_init_23 (fun q2 cA2 H hK hP hD hS => ?_)
  have eC : cA2 = dA := Option.some.inj (((hK.2 1 (cA2, .int) rfl).2 : s.vm.findClass _ = some cA2).symm.trans ((hK.2 0 (dA, .int) rfl).2 : s.vm.findClass _ = some dA))
  subst eC
  have hK : va_K D vwCl [(cA2, .int)] s := hK.sub [0] rfl
  obtain ⟨dA, eD⟩ : ∃ d, d = cA2 := ⟨_, rfl⟩
  rw [← eD] at hK hP hD
  clear eD
  have hP : va_P D vwCl [(h0, .inr (0, [.ref q0, .ref q1, .null, .null, .null, .null, .null, .null, .null, .int 0, .int 0, .null, .null])), (q0, .inl (dA, 8, .inl (fun _ => nI 0))), (q1, .inl (dA, 8, .inl (fun _ => nI 0))), (q2, .inl (dA, 8, .inl (fun _ => nI 0)))] H := hP
  have hD : va_D A [(h0, .inr (0, [.ref q0, .ref q1, .null, .null, .null, .null, .null, .null, .null, .int 0, .int 0, .null, .null])), (q0, .inl (dA, 8, .inl (fun _ => nI 0))), (q1, .inl (dA, 8, .inl (fun _ => nI 0))), (q2, .inl (dA, 8, .inl (fun _ => nI 0)))] := hD
  refine va_putF (D := D) (ci := 0) (v := .ref q2) (ty := .array .int) (C := RX0) (T := TX0) (N := 13) hx hb hts in_X0 tyX0 tyX0_ok nmX0 hown hK hP hD hS 0 rfl rfl 2 (by decide) (hts _ q45) (fun _ h9 => h9) rfl hin rfl (by decide +kernel) rfl rfl (Nat.le_of_ble_eq_true rfl) dX0_init_25 (fun H locs hP hD hS => ?_)
  have hP : va_P D vwCl [(h0, .inr (0, [.ref q0, .ref q1, .ref q2, .null, .null, .null, .null, .null, .null, .int 0, .int 0, .null, .null])), (q0, .inl (dA, 8, .inl (fun _ => nI 0))), (q1, .inl (dA, 8, .inl (fun _ => nI 0))), (q2, .inl (dA, 8, .inl (fun _ => nI 0)))] H := hP
  have hD : va_D A [(h0, .inr (0, [.ref q0, .ref q1, .ref q2, .null, .null, .null, .null, .null, .null, .int 0, .int 0, .null, .null])), (q0, .inl (dA, 8, .inl (fun _ => nI 0))), (q1, .inl (dA, 8, .inl (fun _ => nI 0))), (q2, .inl (dA, 8, .inl (fun _ => nI 0)))] := hD
  refine lv_aload_n hx hb dX0_init_28 rfl (lv_at hl 0 rfl) ?_
  refine lv_bipush (v := nI 8) hx hb dX0_init_29 (by decide) ?_
  refine va_newa (atype := .int) (ty := .int) (n := nI 8) (N' := 8) (a0 := (8, .inl (fun _ => 0))) hx hb (hts _ q83) rfl hK hP hD hS hA (fun _ => rfl) (by decide) (by decide) (by decide) (Nat.le_of_ble_eq_true rfl) (Nat.le_of_ble_eq_true rfl) dX0_init_31 (fun q3 cA3 H hK hP hD hS => ?_)
  have eC : cA3 = dA := Option.some.inj (((hK.2 1 (cA3, .int) rfl).2 : s.vm.findClass _ = some cA3).symm.trans ((hK.2 0 (dA, .int) rfl).2 : s.vm.findClass _ = some dA))
  subst eC
  have hK : va_K D vwCl [(cA3, .int)] s := hK.sub [0] rfl
  obtain ⟨dA, eD⟩ : ∃ d, d = cA3 := ⟨_, rfl⟩
  rw [← eD] at hK hP hD
  clear eD
  have hP : va_P D vwCl [(h0, .inr (0, [.ref q0, .ref q1, .ref q2, .null, .null, .null, .null, .null, .null, .int 0, .int 0, .null, .null])), (q0, .inl (dA, 8, .inl (fun _ => nI 0))), (q1, .inl (dA, 8, .inl (fun _ => nI 0))), (q2, .inl (dA, 8, .inl (fun _ => nI 0))), (q3, .inl (dA, 8, .inl (fun _ => 0)))] H := hP
  have hD : va_D A [(h0, .inr (0, [.ref q0, .ref q1, .ref q2, .null, .null, .null, .null, .null, .null, .int 0, .int 0, .null, .null])), (q0, .inl (dA, 8, .inl (fun _ => nI 0))), (q1, .inl (dA, 8, .inl (fun _ => nI 0))), (q2, .inl (dA, 8, .inl (fun _ => nI 0))), (q3, .inl (dA, 8, .inl (fun _ => 0)))] := hD
  refine va_putF (D := D) (ci := 0) (v := .ref q3) (ty := .array .int) (C := RX0) (T := TX0) (N := 13) hx hb hts in_X0 tyX0 tyX0_ok nmX0 hown hK hP hD hS 0 rfl rfl 3 (by decide) (hts _ q46) (fun _ h9 => h9) rfl hin rfl (by decide +kernel) rfl rfl (Nat.le_of_ble_eq_true rfl) dX0_init_33 (fun H locs hP hD hS => ?_)
  have hP : va_P D vwCl [(h0, .inr (0, [.ref q0, .ref q1, .ref q2, .ref q3, .null, .null, .null, .null, .null, .int 0, .int 0, .null, .null])), (q0, .inl (dA, 8, .inl (fun _ => nI 0))), (q1, .inl (dA, 8, .inl (fun _ => nI 0))), (q2, .inl (dA, 8, .inl (fun _ => nI 0))), (q3, .inl (dA, 8, .inl (fun _ => 0)))] H := hP
  have hD : va_D A [(h0, .inr (0, [.ref q0, .ref q1, .ref q2, .ref q3, .null, .null, .null, .null, .null, .int 0, .int 0, .null, .null])), (q0, .inl (dA, 8, .inl (fun _ => nI 0))), (q1, .inl (dA, 8, .inl (fun _ => nI 0))), (q2, .inl (dA, 8, .inl (fun _ => nI 0))), (q3, .inl (dA, 8, .inl (fun _ => 0)))] := hD
  refine lv_aload_n hx hb dX0_init_36 rfl (lv_at hl 0 rfl) ?_
  refine lv_bipush (v := nI 8) hx hb dX0_init_37 (by decide) ?_
  refine va_newa (atype := .int) (ty := .int) (n := nI 8) (N' := 8) (a0 := (8, .inl (fun _ => nI 0))) hx hb (hts _ q83) rfl hK hP hD hS hA (fun _ => rfl) (by decide) (by decide) (by decide) (Nat.le_of_ble_eq_true rfl) (Nat.le_of_ble_eq_true rfl) dX0_init_39 (fun q4 cA4 H hK hP hD hS => ?_)
  have eC : cA4 = dA := Option.some.inj (((hK.2 1 (cA4, .int) rfl).2 : s.vm.findClass _ = some cA4).symm.trans ((hK.2 0 (dA, .int) rfl).2 : s.vm.findClass _ = some dA))
  subst eC
  have hK : va_K D vwCl [(cA4, .int)] s := hK.sub [0] rfl
  obtain ⟨dA, eD⟩ : ∃ d, d = cA4 := ⟨_, rfl⟩
  rw [← eD] at hK hP hD
  clear eD
  have hP : va_P D vwCl [(h0, .inr (0, [.ref q0, .ref q1, .ref q2, .ref q3, .null, .null, .null, .null, .null, .int 0, .int 0, .null, .null])), (q0, .inl (dA, 8, .inl (fun _ => nI 0))), (q1, .inl (dA, 8, .inl (fun _ => nI 0))), (q2, .inl (dA, 8, .inl (fun _ => nI 0))), (q3, .inl (dA, 8, .inl (fun _ => 0))), (q4, .inl (dA, 8, .inl (fun _ => nI 0)))] H := hP
  have hD : va_D A [(h0, .inr (0, [.ref q0, .ref q1, .ref q2, .ref q3, .null, .null, .null, .null, .null, .int 0, .int 0, .null, .null])), (q0, .inl (dA, 8, .inl (fun _ => nI 0))), (q1, .inl (dA, 8, .inl (fun _ => nI 0))), (q2, .inl (dA, 8, .inl (fun _ => nI 0))), (q3, .inl (dA, 8, .inl (fun _ => 0))), (q4, .inl (dA, 8, .inl (fun _ => nI 0)))] := hD
  refine va_putF (D := D) (ci := 0) (v := .ref q4) (ty := .array .int) (C := RX0) (T := TX0) (N := 13) hx hb hts in_X0 tyX0 tyX0_ok nmX0 hown hK hP hD hS 0 rfl rfl 4 (by decide) (hts _ q47) (fun _ h9 => h9) rfl hin rfl (by decide +kernel) rfl rfl (Nat.le_of_ble_eq_true rfl) dX0_init_41 (fun H locs hP hD hS => ?_)
  have hP : va_P D vwCl [(h0, .inr (0, [.ref q0, .ref q1, .ref q2, .ref q3, .ref q4, .null, .null, .null, .null, .int 0, .int 0, .null, .null])), (q0, .inl (dA, 8, .inl (fun _ => nI 0))), (q1, .inl (dA, 8, .inl (fun _ => nI 0))), (q2, .inl (dA, 8, .inl (fun _ => nI 0))), (q3, .inl (dA, 8, .inl (fun _ => 0))), (q4, .inl (dA, 8, .inl (fun _ => nI 0)))] H := hP
  have hD : va_D A [(h0, .inr (0, [.ref q0, .ref q1, .ref q2, .ref q3, .ref q4, .null, .null, .null, .null, .int 0, .int 0, .null, .null])), (q0, .inl (dA, 8, .inl (fun _ => nI 0))), (q1, .inl (dA, 8, .inl (fun _ => nI 0))), (q2, .inl (dA, 8, .inl (fun _ => nI 0))), (q3, .inl (dA, 8, .inl (fun _ => 0))), (q4, .inl (dA, 8, .inl (fun _ => nI 0)))] := hD
  refine lv_aload_n hx hb dX0_init_44 rfl (lv_at hl 0 rfl) ?_
  refine lv_bipush (v := nI 8) hx hb dX0_init_45 (by decide) ?_
  refine va_newa (atype := .int) (ty := .int) (n := nI 8) (N' := 8) (a0 := (8, .inl (fun _ => nI 0))) hx hb (hts _ q83) rfl hK hP hD hS hA (fun _ => rfl) (by decide) (by decide) (by decide) (Nat.le_of_ble_eq_true rfl) (Nat.le_of_ble_eq_true rfl) dX0_init_47 (fun q5 cA5 H hK hP hD hS => ?_)
  have eC : cA5 = dA := Option.some.inj (((hK.2 1 (cA5, .int) rfl).2 : s.vm.findClass _ = some cA5).symm.trans ((hK.2 0 (dA, .int) rfl).2 : s.vm.findClass _ = some dA))
  subst eC
  have hK : va_K D vwCl [(cA5, .int)] s := hK.sub [0] rfl
  obtain ⟨dA, eD⟩ : ∃ d, d = cA5 := ⟨_, rfl⟩
  rw [← eD] at hK hP hD
  clear eD
  have hP : va_P D vwCl [(h0, .inr (0, [.ref q0, .ref q1, .ref q2, .ref q3, .ref q4, .null, .null, .null, .null, .int 0, .int 0, .null, .null])), (q0, .inl (dA, 8, .inl (fun _ => nI 0))), (q1, .inl (dA, 8, .inl (fun _ => nI 0))), (q2, .inl (dA, 8, .inl (fun _ => nI 0))), (q3, .inl (dA, 8, .inl (fun _ => 0))), (q4, .inl (dA, 8, .inl (fun _ => nI 0))), (q5, .inl (dA, 8, .inl (fun _ => nI 0)))] H := hP
  have hD : va_D A [(h0, .inr (0, [.ref q0, .ref q1, .ref q2, .ref q3, .ref q4, .null, .null, .null, .null, .int 0, .int 0, .null, .null])), (q0, .inl (dA, 8, .inl (fun _ => nI 0))), (q1, .inl (dA, 8, .inl (fun _ => nI 0))), (q2, .inl (dA, 8, .inl (fun _ => nI 0))), (q3, .inl (dA, 8, .inl (fun _ => 0))), (q4, .inl (dA, 8, .inl (fun _ => nI 0))), (q5, .inl (dA, 8, .inl (fun _ => nI 0)))] := hD
  refine va_putF (D := D) (ci := 0) (v := .ref q5) (ty := .array .int) (C := RX0) (T := TX0) (N := 13) hx hb hts in_X0 tyX0 tyX0_ok nmX0 hown hK hP hD hS 0 rfl rfl 5 (by decide) (hts _ q48) (fun _ h9 => h9) rfl hin rfl (by decide +kernel) rfl rfl (Nat.le_of_ble_eq_true rfl) dX0_init_49 (fun H locs hP hD hS => ?_)
  have hP : va_P D vwCl [(h0, .inr (0, [.ref q0, .ref q1, .ref q2, .ref q3, .ref q4, .ref q5, .null, .null, .null, .int 0, .int 0, .null, .null])), (q0, .inl (dA, 8, .inl (fun _ => nI 0))), (q1, .inl (dA, 8, .inl (fun _ => nI 0))), (q2, .inl (dA, 8, .inl (fun _ => nI 0))), (q3, .inl (dA, 8, .inl (fun _ => 0))), (q4, .inl (dA, 8, .inl (fun _ => nI 0))), (q5, .inl (dA, 8, .inl (fun _ => nI 0)))] H := hP
  have hD : va_D A [(h0, .inr (0, [.ref q0, .ref q1, .ref q2, .ref q3, .ref q4, .ref q5, .null, .null, .null, .int 0, .int 0, .null, .null])), (q0, .inl (dA, 8, .inl (fun _ => nI 0))), (q1, .inl (dA, 8, .inl (fun _ => nI 0))), (q2, .inl (dA, 8, .inl (fun _ => nI 0))), (q3, .inl (dA, 8, .inl (fun _ => 0))), (q4, .inl (dA, 8, .inl (fun _ => nI 0))), (q5, .inl (dA, 8, .inl (fun _ => nI 0)))] := hD
  refine lv_aload_n hx hb dX0_init_52 rfl (lv_at hl 0 rfl) ?_
  refine lv_bipush (v := nI 8) hx hb dX0_init_53 (by decide) ?_
  refine va_newa (atype := .int) (ty := .int) (n := nI 8) (N' := 8) (a0 := (8, .inl (fun _ => nI 0))) hx hb (hts _ q83) rfl hK hP hD hS hA (fun _ => rfl) (by decide) (by decide) (by decide) (Nat.le_of_ble_eq_true rfl) (Nat.le_of_ble_eq_true rfl) dX0_init_55 (fun q6 cA6 H hK hP hD hS => ?_)
  have eC : cA6 = dA := Option.some.inj (((hK.2 1 (cA6, .int) rfl).2 : s.vm.findClass _ = some cA6).symm.trans ((hK.2 0 (dA, .int) rfl).2 : s.vm.findClass _ = some dA))
  subst eC
  have hK : va_K D vwCl [(cA6, .int)] s := hK.sub [0] rfl
  obtain ⟨dA, eD⟩ : ∃ d, d = cA6 := ⟨_, rfl⟩
  rw [← eD] at hK hP hD
  clear eD
  have hP : va_P D vwCl [(h0, .inr (0, [.ref q0, .ref q1, .ref q2, .ref q3, .ref q4, .ref q5, .null, .null, .null, .int 0, .int 0, .null, .null])), (q0, .inl (dA, 8, .inl (fun _ => nI 0))), (q1, .inl (dA, 8, .inl (fun _ => nI 0))), (q2, .inl (dA, 8, .inl (fun _ => nI 0))), (q3, .inl (dA, 8, .inl (fun _ => 0))), (q4, .inl (dA, 8, .inl (fun _ => nI 0))), (q5, .inl (dA, 8, .inl (fun _ => nI 0))), (q6, .inl (dA, 8, .inl (fun _ => nI 0)))] H := hP
  have hD : va_D A [(h0, .inr (0, [.ref q0, .ref q1, .ref q2, .ref q3, .ref q4, .ref q5, .null, .null, .null, .int 0, .int 0, .null, .null])), (q0, .inl (dA, 8, .inl (fun _ => nI 0))), (q1, .inl (dA, 8, .inl (fun _ => nI 0))), (q2, .inl (dA, 8, .inl (fun _ => nI 0))), (q3, .inl (dA, 8, .inl (fun _ => 0))), (q4, .inl (dA, 8, .inl (fun _ => nI 0))), (q5, .inl (dA, 8, .inl (fun _ => nI 0))), (q6, .inl (dA, 8, .inl (fun _ => nI 0)))] := hD
  refine va_putF (D := D) (ci := 0) (v := .ref q6) (ty := .array .int) (C := RX0) (T := TX0) (N := 13) hx hb hts in_X0 tyX0 tyX0_ok nmX0 hown hK hP hD hS 0 rfl rfl 6 (by decide) (hts _ q49) (fun _ h9 => h9) rfl hin rfl (by decide +kernel) rfl rfl (Nat.le_of_ble_eq_true rfl) dX0_init_57 (fun H locs hP hD hS => ?_)
  have hP : va_P D vwCl [(h0, .inr (0, [.ref q0, .ref q1, .ref q2, .ref q3, .ref q4, .ref q5, .ref q6, .null, .null, .int 0, .int 0, .null, .null])), (q0, .inl (dA, 8, .inl (fun _ => nI 0))), (q1, .inl (dA, 8, .inl (fun _ => nI 0))), (q2, .inl (dA, 8, .inl (fun _ => nI 0))), (q3, .inl (dA, 8, .inl (fun _ => 0))), (q4, .inl (dA, 8, .inl (fun _ => nI 0))), (q5, .inl (dA, 8, .inl (fun _ => nI 0))), (q6, .inl (dA, 8, .inl (fun _ => nI 0)))] H := hP
  have hD : va_D A [(h0, .inr (0, [.ref q0, .ref q1, .ref q2, .ref q3, .ref q4, .ref q5, .ref q6, .null, .null, .int 0, .int 0, .null, .null])), (q0, .inl (dA, 8, .inl (fun _ => nI 0))), (q1, .inl (dA, 8, .inl (fun _ => nI 0))), (q2, .inl (dA, 8, .inl (fun _ => nI 0))), (q3, .inl (dA, 8, .inl (fun _ => 0))), (q4, .inl (dA, 8, .inl (fun _ => nI 0))), (q5, .inl (dA, 8, .inl (fun _ => nI 0))), (q6, .inl (dA, 8, .inl (fun _ => nI 0)))] := hD
  refine lv_aload_n hx hb dX0_init_60 rfl (lv_at hl 0 rfl) ?_
  refine lv_bipush (v := nI 8) hx hb dX0_init_61 (by decide) ?_
  refine va_newa (atype := .int) (ty := .int) (n := nI 8) (N' := 8) (a0 := (8, .inl (fun _ => 0))) hx hb (hts _ q83) rfl hK hP hD hS hA (fun _ => rfl) (by decide) (by decide) (by decide) (Nat.le_of_ble_eq_true rfl) (Nat.le_of_ble_eq_true rfl) dX0_init_63 (fun q7 cA7 H hK hP hD hS => ?_)
  have eC : cA7 = dA := Option.some.inj (((hK.2 1 (cA7, .int) rfl).2 : s.vm.findClass _ = some cA7).symm.trans ((hK.2 0 (dA, .int) rfl).2 : s.vm.findClass _ = some dA))
  subst eC
  have hK : va_K D vwCl [(cA7, .int)] s := hK.sub [0] rfl
  obtain ⟨dA, eD⟩ : ∃ d, d = cA7 := ⟨_, rfl⟩
  rw [← eD] at hK hP hD
  clear eD
  have hP : va_P D vwCl [(h0, .inr (0, [.ref q0, .ref q1, .ref q2, .ref q3, .ref q4, .ref q5, .ref q6, .null, .null, .int 0, .int 0, .null, .null])), (q0, .inl (dA, 8, .inl (fun _ => nI 0))), (q1, .inl (dA, 8, .inl (fun _ => nI 0))), (q2, .inl (dA, 8, .inl (fun _ => nI 0))), (q3, .inl (dA, 8, .inl (fun _ => 0))), (q4, .inl (dA, 8, .inl (fun _ => nI 0))), (q5, .inl (dA, 8, .inl (fun _ => nI 0))), (q6, .inl (dA, 8, .inl (fun _ => nI 0))), (q7, .inl (dA, 8, .inl (fun _ => 0)))] H := hP
  have hD : va_D A [(h0, .inr (0, [.ref q0, .ref q1, .ref q2, .ref q3, .ref q4, .ref q5, .ref q6, .null, .null, .int 0, .int 0, .null, .null])), (q0, .inl (dA, 8, .inl (fun _ => nI 0))), (q1, .inl (dA, 8, .inl (fun _ => nI 0))), (q2, .inl (dA, 8, .inl (fun _ => nI 0))), (q3, .inl (dA, 8, .inl (fun _ => 0))), (q4, .inl (dA, 8, .inl (fun _ => nI 0))), (q5, .inl (dA, 8, .inl (fun _ => nI 0))), (q6, .inl (dA, 8, .inl (fun _ => nI 0))), (q7, .inl (dA, 8, .inl (fun _ => 0)))] := hD
  refine va_putF (D := D) (ci := 0) (v := .ref q7) (ty := .array .int) (C := RX0) (T := TX0) (N := 13) hx hb hts in_X0 tyX0 tyX0_ok nmX0 hown hK hP hD hS 0 rfl rfl 7 (by decide) (hts _ q50) (fun _ h9 => h9) rfl hin rfl (by decide +kernel) rfl rfl (Nat.le_of_ble_eq_true rfl) dX0_init_65 (fun H locs hP hD hS => ?_)
  have hP : va_P D vwCl [(h0, .inr (0, [.ref q0, .ref q1, .ref q2, .ref q3, .ref q4, .ref q5, .ref q6, .ref q7, .null, .int 0, .int 0, .null, .null])), (q0, .inl (dA, 8, .inl (fun _ => nI 0))), (q1, .inl (dA, 8, .inl (fun _ => nI 0))), (q2, .inl (dA, 8, .inl (fun _ => nI 0))), (q3, .inl (dA, 8, .inl (fun _ => 0))), (q4, .inl (dA, 8, .inl (fun _ => nI 0))), (q5, .inl (dA, 8, .inl (fun _ => nI 0))), (q6, .inl (dA, 8, .inl (fun _ => nI 0))), (q7, .inl (dA, 8, .inl (fun _ => 0)))] H := hP
  have hD : va_D A [(h0, .inr (0, [.ref q0, .ref q1, .ref q2, .ref q3, .ref q4, .ref q5, .ref q6, .ref q7, .null, .int 0, .int 0, .null, .null])), (q0, .inl (dA, 8, .inl (fun _ => nI 0))), (q1, .inl (dA, 8, .inl (fun _ => nI 0))), (q2, .inl (dA, 8, .inl (fun _ => nI 0))), (q3, .inl (dA, 8, .inl (fun _ => 0))), (q4, .inl (dA, 8, .inl (fun _ => nI 0))), (q5, .inl (dA, 8, .inl (fun _ => nI 0))), (q6, .inl (dA, 8, .inl (fun _ => nI 0))), (q7, .inl (dA, 8, .inl (fun _ => 0)))] := hD
  refine lv_aload_n hx hb dX0_init_68 rfl (lv_at hl 0 rfl) ?_
  refine lv_sipush (v := nI 320) hx hb dX0_init_69 (by decide) ?_
  refine va_newa (atype := .int) (ty := .int) (n := nI 320) (N' := 320) (a0 := (320, .inl (fun _ => 0))) hx hb (hts _ q83) rfl hK hP hD hS hA (fun _ => rfl) (by decide) (by decide) (by decide) (Nat.le_of_ble_eq_true rfl) (Nat.le_of_ble_eq_true rfl) dX0_init_72 (fun q8 cA8 H hK hP hD hS => ?_)
  have eC : cA8 = dA := Option.some.inj (((hK.2 1 (cA8, .int) rfl).2 : s.vm.findClass _ = some cA8).symm.trans ((hK.2 0 (dA, .int) rfl).2 : s.vm.findClass _ = some dA))
  subst eC
  have hK : va_K D vwCl [(cA8, .int)] s := hK.sub [0] rfl
  obtain ⟨dA, eD⟩ : ∃ d, d = cA8 := ⟨_, rfl⟩
  rw [← eD] at hK hP hD
  clear eD
  have hP : va_P D vwCl [(h0, .inr (0, [.ref q0, .ref q1, .ref q2, .ref q3, .ref q4, .ref q5, .ref q6, .ref q7, .null, .int 0, .int 0, .null, .null])), (q0, .inl (dA, 8, .inl (fun _ => nI 0))), (q1, .inl (dA, 8, .inl (fun _ => nI 0))), (q2, .inl (dA, 8, .inl (fun _ => nI 0))), (q3, .inl (dA, 8, .inl (fun _ => 0))), (q4, .inl (dA, 8, .inl (fun _ => nI 0))), (q5, .inl (dA, 8, .inl (fun _ => nI 0))), (q6, .inl (dA, 8, .inl (fun _ => nI 0))), (q7, .inl (dA, 8, .inl (fun _ => 0))), (q8, .inl (dA, 320, .inl (fun _ => 0)))] H := hP
  have hD : va_D A [(h0, .inr (0, [.ref q0, .ref q1, .ref q2, .ref q3, .ref q4, .ref q5, .ref q6, .ref q7, .null, .int 0, .int 0, .null, .null])), (q0, .inl (dA, 8, .inl (fun _ => nI 0))), (q1, .inl (dA, 8, .inl (fun _ => nI 0))), (q2, .inl (dA, 8, .inl (fun _ => nI 0))), (q3, .inl (dA, 8, .inl (fun _ => 0))), (q4, .inl (dA, 8, .inl (fun _ => nI 0))), (q5, .inl (dA, 8, .inl (fun _ => nI 0))), (q6, .inl (dA, 8, .inl (fun _ => nI 0))), (q7, .inl (dA, 8, .inl (fun _ => 0))), (q8, .inl (dA, 320, .inl (fun _ => 0)))] := hD
  refine va_putF (D := D) (ci := 0) (v := .ref q8) (ty := .array .int) (C := RX0) (T := TX0) (N := 13) hx hb hts in_X0 tyX0 tyX0_ok nmX0 hown hK hP hD hS 0 rfl rfl 8 (by decide) (hts _ q51) (fun _ h9 => h9) rfl hin rfl (by decide +kernel) rfl rfl (Nat.le_of_ble_eq_true rfl) dX0_init_74 (fun H locs hP hD hS => ?_)
  have hP : va_P D vwCl [(h0, .inr (0, [.ref q0, .ref q1, .ref q2, .ref q3, .ref q4, .ref q5, .ref q6, .ref q7, .ref q8, .int 0, .int 0, .null, .null])), (q0, .inl (dA, 8, .inl (fun _ => nI 0))), (q1, .inl (dA, 8, .inl (fun _ => nI 0))), (q2, .inl (dA, 8, .inl (fun _ => nI 0))), (q3, .inl (dA, 8, .inl (fun _ => 0))), (q4, .inl (dA, 8, .inl (fun _ => nI 0))), (q5, .inl (dA, 8, .inl (fun _ => nI 0))), (q6, .inl (dA, 8, .inl (fun _ => nI 0))), (q7, .inl (dA, 8, .inl (fun _ => 0))), (q8, .inl (dA, 320, .inl (fun _ => 0)))] H := hP
  have hD : va_D A [(h0, .inr (0, [.ref q0, .ref q1, .ref q2, .ref q3, .ref q4, .ref q5, .ref q6, .ref q7, .ref q8, .int 0, .int 0, .null, .null])), (q0, .inl (dA, 8, .inl (fun _ => nI 0))), (q1, .inl (dA, 8, .inl (fun _ => nI 0))), (q2, .inl (dA, 8, .inl (fun _ => nI 0))), (q3, .inl (dA, 8, .inl (fun _ => 0))), (q4, .inl (dA, 8, .inl (fun _ => nI 0))), (q5, .inl (dA, 8, .inl (fun _ => nI 0))), (q6, .inl (dA, 8, .inl (fun _ => nI 0))), (q7, .inl (dA, 8, .inl (fun _ => 0))), (q8, .inl (dA, 320, .inl (fun _ => 0)))] := hD
  refine lv_aload_n hx hb dX0_init_77 rfl (lv_at hl 0 rfl) ?_
  refine lv_bipush (v := nI 8) hx hb dX0_init_78 (by decide) ?_
  refine va_newa (atype := .int) (ty := .int) (n := nI 8) (N' := 8) (a0 := (8, .inl (fun _ => nI 0))) hx hb (hts _ q83) rfl hK hP hD hS hA (fun _ => rfl) (by decide) (by decide) (by decide) (Nat.le_of_ble_eq_true rfl) (Nat.le_of_ble_eq_true rfl) dX0_init_80 (fun q11 cA11 H hK hP hD hS => ?_)
  have eC : cA11 = dA := Option.some.inj (((hK.2 1 (cA11, .int) rfl).2 : s.vm.findClass _ = some cA11).symm.trans ((hK.2 0 (dA, .int) rfl).2 : s.vm.findClass _ = some dA))
  subst eC
  have hK : va_K D vwCl [(cA11, .int)] s := hK.sub [0] rfl
  obtain ⟨dA, eD⟩ : ∃ d, d = cA11 := ⟨_, rfl⟩
  rw [← eD] at hK hP hD
  clear eD
  have hP : va_P D vwCl [(h0, .inr (0, [.ref q0, .ref q1, .ref q2, .ref q3, .ref q4, .ref q5, .ref q6, .ref q7, .ref q8, .int 0, .int 0, .null, .null])), (q0, .inl (dA, 8, .inl (fun _ => nI 0))), (q1, .inl (dA, 8, .inl (fun _ => nI 0))), (q2, .inl (dA, 8, .inl (fun _ => nI 0))), (q3, .inl (dA, 8, .inl (fun _ => 0))), (q4, .inl (dA, 8, .inl (fun _ => nI 0))), (q5, .inl (dA, 8, .inl (fun _ => nI 0))), (q6, .inl (dA, 8, .inl (fun _ => nI 0))), (q7, .inl (dA, 8, .inl (fun _ => 0))), (q8, .inl (dA, 320, .inl (fun _ => 0))), (q11, .inl (dA, 8, .inl (fun _ => nI 0)))] H := hP
  have hD : va_D A [(h0, .inr (0, [.ref q0, .ref q1, .ref q2, .ref q3, .ref q4, .ref q5, .ref q6, .ref q7, .ref q8, .int 0, .int 0, .null, .null])), (q0, .inl (dA, 8, .inl (fun _ => nI 0))), (q1, .inl (dA, 8, .inl (fun _ => nI 0))), (q2, .inl (dA, 8, .inl (fun _ => nI 0))), (q3, .inl (dA, 8, .inl (fun _ => 0))), (q4, .inl (dA, 8, .inl (fun _ => nI 0))), (q5, .inl (dA, 8, .inl (fun _ => nI 0))), (q6, .inl (dA, 8, .inl (fun _ => nI 0))), (q7, .inl (dA, 8, .inl (fun _ => 0))), (q8, .inl (dA, 320, .inl (fun _ => 0))), (q11, .inl (dA, 8, .inl (fun _ => nI 0)))] := hD
  refine va_putF (D := D) (ci := 0) (v := .ref q11) (ty := .array .int) (C := RX0) (T := TX0) (N := 13) hx hb hts in_X0 tyX0 tyX0_ok nmX0 hown hK hP hD hS 0 rfl rfl 11 (by decide) (hts _ q54) (fun _ h9 => h9) rfl hin rfl (by decide +kernel) rfl rfl (Nat.le_of_ble_eq_true rfl) dX0_init_82 (fun H locs hP hD hS => ?_)
  have hP : va_P D vwCl [(h0, .inr (0, [.ref q0, .ref q1, .ref q2, .ref q3, .ref q4, .ref q5, .ref q6, .ref q7, .ref q8, .int 0, .int 0, .ref q11, .null])), (q0, .inl (dA, 8, .inl (fun _ => nI 0))), (q1, .inl (dA, 8, .inl (fun _ => nI 0))), (q2, .inl (dA, 8, .inl (fun _ => nI 0))), (q3, .inl (dA, 8, .inl (fun _ => 0))), (q4, .inl (dA, 8, .inl (fun _ => nI 0))), (q5, .inl (dA, 8, .inl (fun _ => nI 0))), (q6, .inl (dA, 8, .inl (fun _ => nI 0))), (q7, .inl (dA, 8, .inl (fun _ => 0))), (q8, .inl (dA, 320, .inl (fun _ => 0))), (q11, .inl (dA, 8, .inl (fun _ => nI 0)))] H := hP
  have hD : va_D A [(h0, .inr (0, [.ref q0, .ref q1, .ref q2, .ref q3, .ref q4, .ref q5, .ref q6, .ref q7, .ref q8, .int 0, .int 0, .ref q11, .null])), (q0, .inl (dA, 8, .inl (fun _ => nI 0))), (q1, .inl (dA, 8, .inl (fun _ => nI 0))), (q2, .inl (dA, 8, .inl (fun _ => nI 0))), (q3, .inl (dA, 8, .inl (fun _ => 0))), (q4, .inl (dA, 8, .inl (fun _ => nI 0))), (q5, .inl (dA, 8, .inl (fun _ => nI 0))), (q6, .inl (dA, 8, .inl (fun _ => nI 0))), (q7, .inl (dA, 8, .inl (fun _ => 0))), (q8, .inl (dA, 320, .inl (fun _ => 0))), (q11, .inl (dA, 8, .inl (fun _ => nI 0)))] := hD
  refine lv_aload_n hx hb dX0_init_85 rfl (lv_at hl 0 rfl) ?_
  refine lv_bipush (v := nI 8) hx hb dX0_init_86 (by decide) ?_
  refine va_newa (atype := .boolean) (ty := .boolean) (n := nI 8) (N' := 8) (a0 := (8, .inl (fun _ => nI 0))) hx hb (hts _ q84) rfl hK hP hD hS hA (fun _ => rfl) (by decide) (by decide) (by decide) (Nat.le_of_ble_eq_true rfl) (Nat.le_of_ble_eq_true rfl) dX0_init_88 (fun q12 dB H hK hP hD hS => ?_)
  have hK : va_K D vwCl [(dA, .int), (dB, .boolean)] s := hK
  have hP : va_P D vwCl [(h0, .inr (0, [.ref q0, .ref q1, .ref q2, .ref q3, .ref q4, .ref q5, .ref q6, .ref q7, .ref q8, .int 0, .int 0, .ref q11, .null])), (q0, .inl (dA, 8, .inl (fun _ => nI 0))), (q1, .inl (dA, 8, .inl (fun _ => nI 0))), (q2, .inl (dA, 8, .inl (fun _ => nI 0))), (q3, .inl (dA, 8, .inl (fun _ => 0))), (q4, .inl (dA, 8, .inl (fun _ => nI 0))), (q5, .inl (dA, 8, .inl (fun _ => nI 0))), (q6, .inl (dA, 8, .inl (fun _ => nI 0))), (q7, .inl (dA, 8, .inl (fun _ => 0))), (q8, .inl (dA, 320, .inl (fun _ => 0))), (q11, .inl (dA, 8, .inl (fun _ => nI 0))), (q12, .inl (dB, 8, .inl (fun _ => nI 0)))] H := hP
  have hD : va_D A [(h0, .inr (0, [.ref q0, .ref q1, .ref q2, .ref q3, .ref q4, .ref q5, .ref q6, .ref q7, .ref q8, .int 0, .int 0, .ref q11, .null])), (q0, .inl (dA, 8, .inl (fun _ => nI 0))), (q1, .inl (dA, 8, .inl (fun _ => nI 0))), (q2, .inl (dA, 8, .inl (fun _ => nI 0))), (q3, .inl (dA, 8, .inl (fun _ => 0))), (q4, .inl (dA, 8, .inl (fun _ => nI 0))), (q5, .inl (dA, 8, .inl (fun _ => nI 0))), (q6, .inl (dA, 8, .inl (fun _ => nI 0))), (q7, .inl (dA, 8, .inl (fun _ => 0))), (q8, .inl (dA, 320, .inl (fun _ => 0))), (q11, .inl (dA, 8, .inl (fun _ => nI 0))), (q12, .inl (dB, 8, .inl (fun _ => nI 0)))] := hD
  refine va_putF (D := D) (ci := 0) (v := .ref q12) (ty := .array .boolean) (C := RX0) (T := TX0) (N := 13) hx hb hts in_X0 tyX0 tyX0_ok nmX0 hown hK hP hD hS 0 rfl rfl 12 (by decide) (hts _ q55) (fun _ h9 => h9) rfl hin rfl (by decide +kernel) rfl rfl (Nat.le_of_ble_eq_true rfl) dX0_init_90 (fun H locs hP hD hS => ?_)
  have hP : va_P D vwCl [(h0, .inr (0, [.ref q0, .ref q1, .ref q2, .ref q3, .ref q4, .ref q5, .ref q6, .ref q7, .ref q8, .int 0, .int 0, .ref q11, .ref q12])), (q0, .inl (dA, 8, .inl (fun _ => nI 0))), (q1, .inl (dA, 8, .inl (fun _ => nI 0))), (q2, .inl (dA, 8, .inl (fun _ => nI 0))), (q3, .inl (dA, 8, .inl (fun _ => 0))), (q4, .inl (dA, 8, .inl (fun _ => nI 0))), (q5, .inl (dA, 8, .inl (fun _ => nI 0))), (q6, .inl (dA, 8, .inl (fun _ => nI 0))), (q7, .inl (dA, 8, .inl (fun _ => 0))), (q8, .inl (dA, 320, .inl (fun _ => 0))), (q11, .inl (dA, 8, .inl (fun _ => nI 0))), (q12, .inl (dB, 8, .inl (fun _ => nI 0)))] H := hP
  have hD : va_D A [(h0, .inr (0, [.ref q0, .ref q1, .ref q2, .ref q3, .ref q4, .ref q5, .ref q6, .ref q7, .ref q8, .int 0, .int 0, .ref q11, .ref q12])), (q0, .inl (dA, 8, .inl (fun _ => nI 0))), (q1, .inl (dA, 8, .inl (fun _ => nI 0))), (q2, .inl (dA, 8, .inl (fun _ => nI 0))), (q3, .inl (dA, 8, .inl (fun _ => 0))), (q4, .inl (dA, 8, .inl (fun _ => nI 0))), (q5, .inl (dA, 8, .inl (fun _ => nI 0))), (q6, .inl (dA, 8, .inl (fun _ => nI 0))), (q7, .inl (dA, 8, .inl (fun _ => 0))), (q8, .inl (dA, 320, .inl (fun _ => 0))), (q11, .inl (dA, 8, .inl (fun _ => nI 0))), (q12, .inl (dB, 8, .inl (fun _ => nI 0)))] := hD
  obtain ⟨ad, ead⟩ : ∃ ad : Nat → Nat, ad = (fun k => match k with | 0 => q0 | 1 => q1 | 2 => q2 | 3 => q3 | 4 => q4 | 5 => q5 | 6 => q6 | 7 => q7 | 8 => q8 | 11 => q11 | 12 => q12 | _ => h0) := ⟨_, rfl⟩
  have h : xw_H D ad dA dB A s H locs us_0 := by
    rw [ead]; exact ⟨hP, hD, hS, hA⟩
  have e13 : h0 = ad 13 := by rw [ead]; rfl
  rw [e13] at hl
  have C : xw_C D dA dB p s m #[Value.ref h0] c cX0_init := ⟨hx, hb, hts, hown, hK⟩
  refine lv_iconst (v := nI 0) hx hb dX0_init_93 (by decide) ?_
  refine lv_istore_n (lv' := [(1, .int (nI 0)), (0, .ref (ad 13))]) hx hb dX0_init_94 rfl hl (by decide) rfl (fun ls hl => ?_)
  refine W.widen (k := 11) (n := 400) (Nat.le_of_ble_eq_true rfl) (Nat.le_of_ble_eq_true rfl) ?_
  refine x_init_l C 8 0 us_0 _ _ ls rfl h hl (fun H locs ls h hl => ?_)
  refine lv_aload_n hx hb dX0_init_114 rfl (lv_at hl 0 rfl) ?_
  refine xw_callv (n := 0) (As := []) (rest := []) C hml h (x_restart l D ad dA dB _ (xc_i8 8 0 us_0)) q35 q37 qs0 q38 rfl (by decide +kernel) rfl rfl ⟨Nat.le_of_ble_eq_true rfl, Nat.le_of_ble_eq_true rfl⟩ rfl hl.1 rfl (Nat.le_of_ble_eq_true rfl) dX0_init_115 ⟨Nat.le_of_ble_eq_true rfl, Nat.le_of_ble_eq_true rfl⟩ (fun H locs h => ?_)
  exact W.vret hx hb hr (fun t ht hW => ⟨⟨(ad, dA, dB), rfl, e13.symm, by rw [ht]; exact h.1, va_K.moved hW.alike C.2.2.2.2, h.2.1⟩, h.2.2.1.F ht⟩) h.2.2.1.2.2 dX0_init_118
set_option maxHeartbeats 4000000 in
set_option maxRecDepth 100000 in
theorem m_init_l {l : Launch} {D : va_G} {ad : Nat → Nat} {dA : ClassId} {p_ : Program} {e : Env} {s : State} {m : MethodId} {args : Array Value} {below : List Frame} {meth : Method} {c : Code} {A : Nat → Prop} {Q : State → Prop} (C : mw_C D dA p_ s m args c cX1_init) : ∀ (f p : Nat) (σ : us_S) (H : Heap) (locs : List Loc) (ls : Array Slot), p + f = 8 → mw_H D ad dA A s H locs σ → lv_has ls 2 [(1, .int (nI p)), (0, .ref (ad 13))] → (∀ (H : Heap) (locs : List Loc) (ls : Array Slot), mw_H D ad dA A s H locs (xc_i8 f p σ) → lv_has ls 2 [(0, .ref (ad 13))] → W p_ l e ({ frames := 1, cells := 6, slots := 360, locals := 12 } : Room) s m args below meth c H locs 6 360 Q (F0 m 74 ls [])) → W p_ l e ({ frames := 1, cells := 6, slots := 360, locals := 12 } : Room) s m args below meth c H locs 6 360 Q (F0 m 55 ls []) := by
  intro f
  induction f with
  | zero =>
    intro p σ H locs ls hi h hl K
    refine lv_iload_n C.1 C.2.1 dX1_init_55 rfl (lv_at hl 0 rfl) ?_
    refine lv_bipush (v := nI 8) C.1 C.2.1 dX1_init_56 (by decide) ?_
    refine wn_ge (tgt := 74) C.1 C.2.1 (by omega) (by omega) dX1_init_58 (by decide) (fun c58 => ?_) (fun z => absurd z (by omega))
    exact K H locs ls h (lv_sub hl [1] rfl)
  | succ f ih =>
    intro p σ H locs ls hi h hl K
    have hp : p < 8 := by omega
    refine lv_iload_n C.1 C.2.1 dX1_init_55 rfl (lv_at hl 0 rfl) ?_
    refine lv_bipush (v := nI 8) C.1 C.2.1 dX1_init_56 (by decide) ?_
    refine wn_ge (tgt := 74) C.1 C.2.1 (by omega) (by omega) dX1_init_58 (by decide) (fun z => absurd z (by omega)) (fun c58 => ?_)
    refine lv_aload_n C.1 C.2.1 dX1_init_61 rfl (lv_at hl 1 rfl) ?_
    refine mg0 C h dX1_init_62 ?_
    refine lv_iload_n C.1 C.2.1 dX1_init_65 rfl (lv_at hl 0 rfl) ?_
    refine lv_iconst (v := nI 1) C.1 C.2.1 dX1_init_66 (by decide) ?_
    refine ms0 (i := p) (v := 1) C h (by omega) dX1_init_67 (fun H locs h => ?_)
    refine lv_iinc (v := nI (p + 1)) (lv' := [(1, .int (nI (p + 1))), (0, .ref (ad 13))]) C.1 C.2.1 dX1_init_68 hl (k := 0) rfl (wn_inc _) (by decide) rfl (fun ls hl => ?_)
    refine lv_goto (tgt := 55) C.1 C.2.1 dX1_init_71 (by decide) ?_
    exact ih (p + 1) _ H locs ls (by omega) h hl K
set_option maxHeartbeats 4000000 in
set_option maxRecDepth 100000 in
theorem m_init (l : Launch) (D : va_G) (h0 sz : Nat) : Met l yX1_init (ws_ yX1_init cX1_init 2 none) ({ frames := 1, cells := 6, slots := 360, locals := 12 } : Room) (va_Pc [.ref h0] (fun U => U.heap.size = sz ∧ va_P D vwCl [(h0, .inr (1, [.null, .null, .null, .null, .int 0, .null, .null]))] U.heap ∧ va_K D vwCl [] U ∧ va_D (fun _ => True) [(h0, .inr (1, [.null, .null, .null, .null, .int 0, .null, .null]))])) (va_Qv (fun u : (Nat → Nat) × ClassId => u.1 13 = h0) (fun u t => va_P D vwCl (mw_W u.1 u.2 (xc_i8 8 0 us_0)) t.heap ∧ va_K D vwCl [(u.2, .int)] t ∧ va_D (va_A [(h0, .inr (1, [.null, .null, .null, .null, .int 0, .null, .null]))] sz) (mw_W u.1 u.2 (xc_i8 8 0 us_0))) (va_A [(h0, .inr (1, [.null, .null, .null, .null, .int 0, .null, .null]))] sz)) 6 360 (va_A [(h0, .inr (1, [.null, .null, .null, .null, .int 0, .null, .null]))] sz) := by
  refine Met.ofW (cc := cX1_init) (maxL := 2) (ret := none) (by decide) rfl ?_
  intro p e s m args below meth c s₁ B hml hv
  obtain ⟨rfl, hsz, hP, hK, hD0⟩ := hv
  have hx := B.exec
  have hb := B.bytes
  have hr := B.returns
  have hts := atoms_spec (ws := ws_ yX1_init cX1_init 2 none) B.pre
  have hts : ∀ w ∈ lw_all, w.before _ s = true := fun w h => hts w (List.mem_cons_of_mem _ h)
  have hown : s.vm.findClass RX1 = some m.cls := findClass_of_methodNamed B.named
  have hlk := B.notSynchronized
  have hin : meth.name = "<init>" := (name_of_methodNamed B.named B.method).1
  subst hsz
  have hD := hD0.self (sz := s.heap.size)
  generalize hAe : va_A [(h0, .inr (1, [.null, .null, .null, .null, .int 0, .null, .null]))] s.heap.size = A at hD ⊢
  have hA : ∀ q : Nat, s.heap.size ≤ q → A q := fun q h => by rw [← hAe]; exact Or.inr h
  have hS : va_S A s.heap s.heap [] := va_S.rf
  have hl := lv_entry ([.ref h0]) (n := 2) (Nat.le_of_ble_eq_true rfl)
  rw [lg_entry_eq]
  generalize (lg_sl ([.ref h0]) ++ List.replicate (2 - (lg_sl ([.ref h0])).length) Slot.unset).toArray = ls at hl ⊢
  have hl : lv_has ls 2 [(0, .ref h0)] := hl
  refine lv_aload_n hx hb dX1_init_0 rfl (lv_at hl 0 rfl) ?_
  refine W.objInit hx hb hown (hts _ q181) (hts _ q33) (hts _ q34) rfl (by rw [hml]; exact hl.1) rfl dX1_init_1 (Nat.le_of_ble_eq_true rfl) (Nat.le_of_ble_eq_true rfl) ?_
  refine W.eq (g2 := F0 m 4 ls []) rfl ?_
  refine lv_aload_n hx hb dX1_init_4 rfl (lv_at hl 0 rfl) ?_
  refine lv_bipush (v := nI 8) hx hb dX1_init_5 (by decide) ?_
  refine va_newa (atype := .int) (ty := .int) (n := nI 8) (N' := 8) (a0 := (8, .inl (fun _ => nI 0))) hx hb (hts _ q83) rfl hK hP hD hS hA (fun _ => rfl) (by decide) (by decide) (by decide) (Nat.le_of_ble_eq_true rfl) (Nat.le_of_ble_eq_true rfl) dX1_init_7 (fun q0 dA H hK hP hD hS => ?_)
  have hK : va_K D vwCl [(dA, .int)] s := hK
  have hP : va_P D vwCl [(h0, .inr (1, [.null, .null, .null, .null, .int 0, .null, .null])), (q0, .inl (dA, 8, .inl (fun _ => nI 0)))] H := hP
  have hD : va_D A [(h0, .inr (1, [.null, .null, .null, .null, .int 0, .null, .null])), (q0, .inl (dA, 8, .inl (fun _ => nI 0)))] := hD
  refine va_putF (D := D) (ci := 1) (v := .ref q0) (ty := .array .int) (C := RX1) (T := TX1) (N := 7) hx hb hts in_X1 tyX1 tyX1_ok nmX1 hown hK hP hD hS 0 rfl rfl 0 (by decide) (hts _ q182) (fun _ h9 => h9) rfl hin rfl (by decide +kernel) rfl rfl (Nat.le_of_ble_eq_true rfl) dX1_init_9 (fun H locs hP hD hS => ?_)
  have hP : va_P D vwCl [(h0, .inr (1, [.ref q0, .null, .null, .null, .int 0, .null, .null])), (q0, .inl (dA, 8, .inl (fun _ => nI 0)))] H := hP
  have hD : va_D A [(h0, .inr (1, [.ref q0, .null, .null, .null, .int 0, .null, .null])), (q0, .inl (dA, 8, .inl (fun _ => nI 0)))] := hD
  refine lv_aload_n hx hb dX1_init_12 rfl (lv_at hl 0 rfl) ?_
  refine lv_bipush (v := nI 8) hx hb dX1_init_13 (by decide) ?_
  refine va_newa (atype := .int) (ty := .int) (n := nI 8) (N' := 8) (a0 := (8, .inl (fun _ => nI 0))) hx hb (hts _ q83) rfl hK hP hD hS hA (fun _ => rfl) (by decide) (by decide) (by decide) (Nat.le_of_ble_eq_true rfl) (Nat.le_of_ble_eq_true rfl) dX1_init_15 (fun q1 cA1 H hK hP hD hS => ?_)
  have eC : cA1 = dA := Option.some.inj (((hK.2 1 (cA1, .int) rfl).2 : s.vm.findClass _ = some cA1).symm.trans ((hK.2 0 (dA, .int) rfl).2 : s.vm.findClass _ = some dA))
  subst eC
  have hK : va_K D vwCl [(cA1, .int)] s := hK.sub [0] rfl
  obtain ⟨dA, eD⟩ : ∃ d, d = cA1 := ⟨_, rfl⟩
  rw [← eD] at hK hP hD
  clear eD
  have hP : va_P D vwCl [(h0, .inr (1, [.ref q0, .null, .null, .null, .int 0, .null, .null])), (q0, .inl (dA, 8, .inl (fun _ => nI 0))), (q1, .inl (dA, 8, .inl (fun _ => nI 0)))] H := hP
  have hD : va_D A [(h0, .inr (1, [.ref q0, .null, .null, .null, .int 0, .null, .null])), (q0, .inl (dA, 8, .inl (fun _ => nI 0))), (q1, .inl (dA, 8, .inl (fun _ => nI 0)))] := hD
  refine va_putF (D := D) (ci := 1) (v := .ref q1) (ty := .array .int) (C := RX1) (T := TX1) (N := 7) hx hb hts in_X1 tyX1 tyX1_ok nmX1 hown hK hP hD hS 0 rfl rfl 1 (by decide) (hts _ q183) (fun _ h9 => h9) rfl hin rfl (by decide +kernel) rfl rfl (Nat.le_of_ble_eq_true rfl) dX1_init_17 (fun H locs hP hD hS => ?_)
  have hP : va_P D vwCl [(h0, .inr (1, [.ref q0, .ref q1, .null, .null, .int 0, .null, .null])), (q0, .inl (dA, 8, .inl (fun _ => nI 0))), (q1, .inl (dA, 8, .inl (fun _ => nI 0)))] H := hP
  have hD : va_D A [(h0, .inr (1, [.ref q0, .ref q1, .null, .null, .int 0, .null, .null])), (q0, .inl (dA, 8, .inl (fun _ => nI 0))), (q1, .inl (dA, 8, .inl (fun _ => nI 0)))] := hD
  refine lv_aload_n hx hb dX1_init_20 rfl (lv_at hl 0 rfl) ?_
  refine lv_bipush (v := nI 8) hx hb dX1_init_21 (by decide) ?_
  refine va_newa (atype := .int) (ty := .int) (n := nI 8) (N' := 8) (a0 := (8, .inl (fun _ => nI 0))) hx hb (hts _ q83) rfl hK hP hD hS hA (fun _ => rfl) (by decide) (by decide) (by decide) (Nat.le_of_ble_eq_true rfl) (Nat.le_of_ble_eq_true rfl) dX1_init_23 (fun q2 cA2 H hK hP hD hS => ?_)
  have eC : cA2 = dA := Option.some.inj (((hK.2 1 (cA2, .int) rfl).2 : s.vm.findClass _ = some cA2).symm.trans ((hK.2 0 (dA, .int) rfl).2 : s.vm.findClass _ = some dA))
  subst eC
  have hK : va_K D vwCl [(cA2, .int)] s := hK.sub [0] rfl
  obtain ⟨dA, eD⟩ : ∃ d, d = cA2 := ⟨_, rfl⟩
  rw [← eD] at hK hP hD
  clear eD
  have hP : va_P D vwCl [(h0, .inr (1, [.ref q0, .ref q1, .null, .null, .int 0, .null, .null])), (q0, .inl (dA, 8, .inl (fun _ => nI 0))), (q1, .inl (dA, 8, .inl (fun _ => nI 0))), (q2, .inl (dA, 8, .inl (fun _ => nI 0)))] H := hP
  have hD : va_D A [(h0, .inr (1, [.ref q0, .ref q1, .null, .null, .int 0, .null, .null])), (q0, .inl (dA, 8, .inl (fun _ => nI 0))), (q1, .inl (dA, 8, .inl (fun _ => nI 0))), (q2, .inl (dA, 8, .inl (fun _ => nI 0)))] := hD
  refine va_putF (D := D) (ci := 1) (v := .ref q2) (ty := .array .int) (C := RX1) (T := TX1) (N := 7) hx hb hts in_X1 tyX1 tyX1_ok nmX1 hown hK hP hD hS 0 rfl rfl 2 (by decide) (hts _ q184) (fun _ h9 => h9) rfl hin rfl (by decide +kernel) rfl rfl (Nat.le_of_ble_eq_true rfl) dX1_init_25 (fun H locs hP hD hS => ?_)
  have hP : va_P D vwCl [(h0, .inr (1, [.ref q0, .ref q1, .ref q2, .null, .int 0, .null, .null])), (q0, .inl (dA, 8, .inl (fun _ => nI 0))), (q1, .inl (dA, 8, .inl (fun _ => nI 0))), (q2, .inl (dA, 8, .inl (fun _ => nI 0)))] H := hP
  have hD : va_D A [(h0, .inr (1, [.ref q0, .ref q1, .ref q2, .null, .int 0, .null, .null])), (q0, .inl (dA, 8, .inl (fun _ => nI 0))), (q1, .inl (dA, 8, .inl (fun _ => nI 0))), (q2, .inl (dA, 8, .inl (fun _ => nI 0)))] := hD
  refine lv_aload_n hx hb dX1_init_28 rfl (lv_at hl 0 rfl) ?_
  refine lv_bipush (v := nI 8) hx hb dX1_init_29 (by decide) ?_
  refine va_newa (atype := .int) (ty := .int) (n := nI 8) (N' := 8) (a0 := (8, .inl (fun _ => 0))) hx hb (hts _ q83) rfl hK hP hD hS hA (fun _ => rfl) (by decide) (by decide) (by decide) (Nat.le_of_ble_eq_true rfl) (Nat.le_of_ble_eq_true rfl) dX1_init_31 (fun q3 cA3 H hK hP hD hS => ?_)
  have eC : cA3 = dA := Option.some.inj (((hK.2 1 (cA3, .int) rfl).2 : s.vm.findClass _ = some cA3).symm.trans ((hK.2 0 (dA, .int) rfl).2 : s.vm.findClass _ = some dA))
  subst eC
  have hK : va_K D vwCl [(cA3, .int)] s := hK.sub [0] rfl
  obtain ⟨dA, eD⟩ : ∃ d, d = cA3 := ⟨_, rfl⟩
  rw [← eD] at hK hP hD
  clear eD
  have hP : va_P D vwCl [(h0, .inr (1, [.ref q0, .ref q1, .ref q2, .null, .int 0, .null, .null])), (q0, .inl (dA, 8, .inl (fun _ => nI 0))), (q1, .inl (dA, 8, .inl (fun _ => nI 0))), (q2, .inl (dA, 8, .inl (fun _ => nI 0))), (q3, .inl (dA, 8, .inl (fun _ => 0)))] H := hP
  have hD : va_D A [(h0, .inr (1, [.ref q0, .ref q1, .ref q2, .null, .int 0, .null, .null])), (q0, .inl (dA, 8, .inl (fun _ => nI 0))), (q1, .inl (dA, 8, .inl (fun _ => nI 0))), (q2, .inl (dA, 8, .inl (fun _ => nI 0))), (q3, .inl (dA, 8, .inl (fun _ => 0)))] := hD
  refine va_putF (D := D) (ci := 1) (v := .ref q3) (ty := .array .int) (C := RX1) (T := TX1) (N := 7) hx hb hts in_X1 tyX1 tyX1_ok nmX1 hown hK hP hD hS 0 rfl rfl 3 (by decide) (hts _ q185) (fun _ h9 => h9) rfl hin rfl (by decide +kernel) rfl rfl (Nat.le_of_ble_eq_true rfl) dX1_init_33 (fun H locs hP hD hS => ?_)
  have hP : va_P D vwCl [(h0, .inr (1, [.ref q0, .ref q1, .ref q2, .ref q3, .int 0, .null, .null])), (q0, .inl (dA, 8, .inl (fun _ => nI 0))), (q1, .inl (dA, 8, .inl (fun _ => nI 0))), (q2, .inl (dA, 8, .inl (fun _ => nI 0))), (q3, .inl (dA, 8, .inl (fun _ => 0)))] H := hP
  have hD : va_D A [(h0, .inr (1, [.ref q0, .ref q1, .ref q2, .ref q3, .int 0, .null, .null])), (q0, .inl (dA, 8, .inl (fun _ => nI 0))), (q1, .inl (dA, 8, .inl (fun _ => nI 0))), (q2, .inl (dA, 8, .inl (fun _ => nI 0))), (q3, .inl (dA, 8, .inl (fun _ => 0)))] := hD
  refine lv_aload_n hx hb dX1_init_36 rfl (lv_at hl 0 rfl) ?_
  refine lv_sipush (v := nI 320) hx hb dX1_init_37 (by decide) ?_
  refine va_newa (atype := .int) (ty := .int) (n := nI 320) (N' := 320) (a0 := (320, .inl (fun _ => 0))) hx hb (hts _ q83) rfl hK hP hD hS hA (fun _ => rfl) (by decide) (by decide) (by decide) (Nat.le_of_ble_eq_true rfl) (Nat.le_of_ble_eq_true rfl) dX1_init_40 (fun q5 cA5 H hK hP hD hS => ?_)
  have eC : cA5 = dA := Option.some.inj (((hK.2 1 (cA5, .int) rfl).2 : s.vm.findClass _ = some cA5).symm.trans ((hK.2 0 (dA, .int) rfl).2 : s.vm.findClass _ = some dA))
  subst eC
  have hK : va_K D vwCl [(cA5, .int)] s := hK.sub [0] rfl
  obtain ⟨dA, eD⟩ : ∃ d, d = cA5 := ⟨_, rfl⟩
  rw [← eD] at hK hP hD
  clear eD
  have hP : va_P D vwCl [(h0, .inr (1, [.ref q0, .ref q1, .ref q2, .ref q3, .int 0, .null, .null])), (q0, .inl (dA, 8, .inl (fun _ => nI 0))), (q1, .inl (dA, 8, .inl (fun _ => nI 0))), (q2, .inl (dA, 8, .inl (fun _ => nI 0))), (q3, .inl (dA, 8, .inl (fun _ => 0))), (q5, .inl (dA, 320, .inl (fun _ => 0)))] H := hP
  have hD : va_D A [(h0, .inr (1, [.ref q0, .ref q1, .ref q2, .ref q3, .int 0, .null, .null])), (q0, .inl (dA, 8, .inl (fun _ => nI 0))), (q1, .inl (dA, 8, .inl (fun _ => nI 0))), (q2, .inl (dA, 8, .inl (fun _ => nI 0))), (q3, .inl (dA, 8, .inl (fun _ => 0))), (q5, .inl (dA, 320, .inl (fun _ => 0)))] := hD
  refine va_putF (D := D) (ci := 1) (v := .ref q5) (ty := .array .int) (C := RX1) (T := TX1) (N := 7) hx hb hts in_X1 tyX1 tyX1_ok nmX1 hown hK hP hD hS 0 rfl rfl 5 (by decide) (hts _ q187) (fun _ h9 => h9) rfl hin rfl (by decide +kernel) rfl rfl (Nat.le_of_ble_eq_true rfl) dX1_init_42 (fun H locs hP hD hS => ?_)
  have hP : va_P D vwCl [(h0, .inr (1, [.ref q0, .ref q1, .ref q2, .ref q3, .int 0, .ref q5, .null])), (q0, .inl (dA, 8, .inl (fun _ => nI 0))), (q1, .inl (dA, 8, .inl (fun _ => nI 0))), (q2, .inl (dA, 8, .inl (fun _ => nI 0))), (q3, .inl (dA, 8, .inl (fun _ => 0))), (q5, .inl (dA, 320, .inl (fun _ => 0)))] H := hP
  have hD : va_D A [(h0, .inr (1, [.ref q0, .ref q1, .ref q2, .ref q3, .int 0, .ref q5, .null])), (q0, .inl (dA, 8, .inl (fun _ => nI 0))), (q1, .inl (dA, 8, .inl (fun _ => nI 0))), (q2, .inl (dA, 8, .inl (fun _ => nI 0))), (q3, .inl (dA, 8, .inl (fun _ => 0))), (q5, .inl (dA, 320, .inl (fun _ => 0)))] := hD
  refine lv_aload_n hx hb dX1_init_45 rfl (lv_at hl 0 rfl) ?_
  refine lv_bipush (v := nI 8) hx hb dX1_init_46 (by decide) ?_
  refine va_newa (atype := .int) (ty := .int) (n := nI 8) (N' := 8) (a0 := (8, .inl (fun _ => nI 0))) hx hb (hts _ q83) rfl hK hP hD hS hA (fun _ => rfl) (by decide) (by decide) (by decide) (Nat.le_of_ble_eq_true rfl) (Nat.le_of_ble_eq_true rfl) dX1_init_48 (fun q6 cA6 H hK hP hD hS => ?_)
  have eC : cA6 = dA := Option.some.inj (((hK.2 1 (cA6, .int) rfl).2 : s.vm.findClass _ = some cA6).symm.trans ((hK.2 0 (dA, .int) rfl).2 : s.vm.findClass _ = some dA))
  subst eC
  have hK : va_K D vwCl [(cA6, .int)] s := hK.sub [0] rfl
  obtain ⟨dA, eD⟩ : ∃ d, d = cA6 := ⟨_, rfl⟩
  rw [← eD] at hK hP hD
  clear eD
  have hP : va_P D vwCl [(h0, .inr (1, [.ref q0, .ref q1, .ref q2, .ref q3, .int 0, .ref q5, .null])), (q0, .inl (dA, 8, .inl (fun _ => nI 0))), (q1, .inl (dA, 8, .inl (fun _ => nI 0))), (q2, .inl (dA, 8, .inl (fun _ => nI 0))), (q3, .inl (dA, 8, .inl (fun _ => 0))), (q5, .inl (dA, 320, .inl (fun _ => 0))), (q6, .inl (dA, 8, .inl (fun _ => nI 0)))] H := hP
  have hD : va_D A [(h0, .inr (1, [.ref q0, .ref q1, .ref q2, .ref q3, .int 0, .ref q5, .null])), (q0, .inl (dA, 8, .inl (fun _ => nI 0))), (q1, .inl (dA, 8, .inl (fun _ => nI 0))), (q2, .inl (dA, 8, .inl (fun _ => nI 0))), (q3, .inl (dA, 8, .inl (fun _ => 0))), (q5, .inl (dA, 320, .inl (fun _ => 0))), (q6, .inl (dA, 8, .inl (fun _ => nI 0)))] := hD
  refine va_putF (D := D) (ci := 1) (v := .ref q6) (ty := .array .int) (C := RX1) (T := TX1) (N := 7) hx hb hts in_X1 tyX1 tyX1_ok nmX1 hown hK hP hD hS 0 rfl rfl 6 (by decide) (hts _ q188) (fun _ h9 => h9) rfl hin rfl (by decide +kernel) rfl rfl (Nat.le_of_ble_eq_true rfl) dX1_init_50 (fun H locs hP hD hS => ?_)
  have hP : va_P D vwCl [(h0, .inr (1, [.ref q0, .ref q1, .ref q2, .ref q3, .int 0, .ref q5, .ref q6])), (q0, .inl (dA, 8, .inl (fun _ => nI 0))), (q1, .inl (dA, 8, .inl (fun _ => nI 0))), (q2, .inl (dA, 8, .inl (fun _ => nI 0))), (q3, .inl (dA, 8, .inl (fun _ => 0))), (q5, .inl (dA, 320, .inl (fun _ => 0))), (q6, .inl (dA, 8, .inl (fun _ => nI 0)))] H := hP
  have hD : va_D A [(h0, .inr (1, [.ref q0, .ref q1, .ref q2, .ref q3, .int 0, .ref q5, .ref q6])), (q0, .inl (dA, 8, .inl (fun _ => nI 0))), (q1, .inl (dA, 8, .inl (fun _ => nI 0))), (q2, .inl (dA, 8, .inl (fun _ => nI 0))), (q3, .inl (dA, 8, .inl (fun _ => 0))), (q5, .inl (dA, 320, .inl (fun _ => 0))), (q6, .inl (dA, 8, .inl (fun _ => nI 0)))] := hD
  obtain ⟨ad, ead⟩ : ∃ ad : Nat → Nat, ad = (fun k => match k with | 0 => q0 | 1 => q1 | 2 => q2 | 3 => q3 | 5 => q5 | 6 => q6 | _ => h0) := ⟨_, rfl⟩
  have h : mw_H D ad dA A s H locs us_0 := by
    rw [ead]; exact ⟨hP, hD, hS, hA⟩
  have e13 : h0 = ad 13 := by rw [ead]; rfl
  rw [e13] at hl
  have C : mw_C D dA p s m #[Value.ref h0] c cX1_init := ⟨hx, hb, hts, hown, hK⟩
  refine lv_iconst (v := nI 0) hx hb dX1_init_53 (by decide) ?_
  refine lv_istore_n (lv' := [(1, .int (nI 0)), (0, .ref (ad 13))]) hx hb dX1_init_54 rfl hl (by decide) rfl (fun ls hl => ?_)
  refine W.widen (k := 6) (n := 360) (Nat.le_of_ble_eq_true rfl) (Nat.le_of_ble_eq_true rfl) ?_
  refine m_init_l C 8 0 us_0 _ _ ls rfl h hl (fun H locs ls h hl => ?_)
  exact W.vret hx hb hr (fun t ht hW => ⟨⟨(ad, dA), rfl, e13.symm, by rw [ht]; exact h.1, va_K.moved hW.alike C.2.2.2.2, h.2.1⟩, h.2.2.1.F ht⟩) h.2.2.1.2.2 dX1_init_74
end
section
/-! THE RELATION between the class and the reference, and that every public method keeps it and answers alike -/
def lr_R (σ μ : us_S) : Prop := xc_Inv σ ∧ mt_Inv μ ∧ xc_k μ = xc_k σ ∧ μ.2 3 = σ.2 3
theorem lr_rows {σ μ : us_S} (h : xc_k μ = xc_k σ) : μ.1 0 = σ.1 0 ∧ μ.1 1 = σ.1 1 ∧ μ.1 2 = σ.1 2 := ⟨congrFun h 0, congrFun h 1, congrFun h 2⟩
theorem us_N_row {σ μ : us_S} {a : Nat} (k i v : Nat) (h : μ.1 a = σ.1 a) : (us_N μ k i v).1 a = (us_N σ k i v).1 a := by
  funext j
  rw [us_N1, us_N1, h]
theorem us_V_row {σ μ : us_S} {a : Nat} (k i : Nat) (v : Int32) (h : μ.2 a = σ.2 a) : (us_V μ k i v).2 a = (us_V σ k i v).2 a := by
  funext j
  rw [us_V2, us_V2, h]
/-- behind a question both hold the same streams -/
theorem lr_settle {σ μ : us_S} (h : lr_R σ μ) : lr_R (xc_settle 4000 σ) (mt_workOut μ) ∧ ∀ p, p < 8 → (xc_settle 4000 σ).1 4 p = (mt_workOut μ).1 6 p ∧ (xc_settle 4000 σ).1 4 p ≤ 40 ∧ ∀ k, k < (xc_settle 4000 σ).1 4 p → (xc_settle 4000 σ).2 8 (p * 40 + k) = (mt_workOut μ).2 5 (p * 40 + k) := by
  obtain ⟨hI, hM, hk, hn⟩ := h
  obtain ⟨s1, s2, s3⟩ := xc_settle_J 4000 σ hI (xc_mu_le hI)
  obtain ⟨w1, w2, w3⟩ := mt_workOut_J hM
  generalize xc_settle 4000 σ = τ at s1 s2 s3 ⊢
  generalize mt_workOut μ = ν at w1 w2 w3 ⊢
  have ek : xc_k ν = xc_k τ := by rw [w3.1, s3.1, hk]
  have en : ν.2 3 = τ.2 3 := by rw [w3.2, s3.2, hn]
  obtain ⟨f1, f2⟩ := xc_Fix s1 s2
  obtain ⟨g1, g2, g3⟩ := w2
  rw [ek, en] at g1 g2
  refine ⟨⟨s1, w1, ek, en⟩, fun p hp => ?_⟩
  have e := pn_same f1 f2 g1 g2 hp
  exact ⟨e.1, (s1.1.1.2 p hp).1, e.2⟩
theorem lr_len {σ μ : us_S} (h : lr_R σ μ) (x : Int32) : (qr_len (xc_settle 4000) 4 σ x).1 = (qr_len mt_workOut 6 μ x).1 ∧ lr_R (qr_len (xc_settle 4000) 4 σ x).2 (qr_len mt_workOut 6 μ x).2 := by
  unfold qr_len
  cases hb : qb x with
  | true => rw [if_pos rfl, if_pos rfl]; exact ⟨rfl, h⟩
  | false =>
    rw [if_neg Bool.false_ne_true, if_neg Bool.false_ne_true]
    obtain ⟨p, hp, rfl⟩ := qb_no hb
    rw [nI_clamp (by omega)]
    obtain ⟨a, b⟩ := lr_settle h
    exact ⟨by rw [(b p hp).1], a⟩
theorem lr_item {σ μ : us_S} (h : lr_R σ μ) (x i : Int32) : (qr_item (xc_settle 4000) 4 8 σ x i).1 = (qr_item mt_workOut 6 5 μ x i).1 ∧ lr_R (qr_item (xc_settle 4000) 4 8 σ x i).2 (qr_item mt_workOut 6 5 μ x i).2 := by
  unfold qr_item
  cases hb : qb x with
  | true => rw [if_pos rfl, if_pos rfl]; exact ⟨rfl, h⟩
  | false =>
    rw [if_neg Bool.false_ne_true, if_neg Bool.false_ne_true]
    obtain ⟨p, hp, rfl⟩ := qb_no hb
    rw [nI_clamp (by omega)]
    obtain ⟨a, b⟩ := lr_settle h
    obtain ⟨b1, b2, b3⟩ := b p hp
    refine ⟨?_, a⟩
    dsimp only
    rw [← b1]
    by_cases hc : i < 0 ∨ nI ((xc_settle 4000 σ).1 4 p) ≤ i
    · rw [if_pos hc, if_pos hc]
    · rw [if_neg hc, if_neg hc]
      obtain ⟨j, hj31, rfl⟩ := nI_of (fun z => hc (Or.inl z))
      rw [nI_clamp hj31]
      refine b3 j ?_
      rcases Nat.lt_or_ge j ((xc_settle 4000 σ).1 4 p) with z | z
      · exact z
      · exact absurd (Or.inr (nI_le z hj31)) hc
theorem lr_sum {σ μ : us_S} (h : lr_R σ μ) (x : Int32) : (qr_sum (xc_settle 4000) 4 8 σ x).1 = (qr_sum mt_workOut 6 5 μ x).1 ∧ lr_R (qr_sum (xc_settle 4000) 4 8 σ x).2 (qr_sum mt_workOut 6 5 μ x).2 := by
  unfold qr_sum
  cases hb : qb x with
  | true => rw [if_pos rfl, if_pos rfl]; exact ⟨rfl, h⟩
  | false =>
    rw [if_neg Bool.false_ne_true, if_neg Bool.false_ne_true]
    obtain ⟨p, hp, rfl⟩ := qb_no hb
    rw [nI_clamp (by omega)]
    obtain ⟨a, b⟩ := lr_settle h
    obtain ⟨b1, b2, b3⟩ := b p hp
    refine ⟨?_, a⟩
    dsimp only
    rw [← b1]
    exact qa_sum_eq _ b3
theorem lr_find {σ μ : us_S} (h : lr_R σ μ) (x v : Int32) : (qr_find (xc_settle 4000) 4 8 σ x v).1 = (qr_find mt_workOut 6 5 μ x v).1 ∧ lr_R (qr_find (xc_settle 4000) 4 8 σ x v).2 (qr_find mt_workOut 6 5 μ x v).2 := by
  unfold qr_find
  cases hb : qb x with
  | true => rw [if_pos rfl, if_pos rfl]; exact ⟨rfl, h⟩
  | false =>
    rw [if_neg Bool.false_ne_true, if_neg Bool.false_ne_true]
    obtain ⟨p, hp, rfl⟩ := qb_no hb
    rw [nI_clamp (by omega)]
    obtain ⟨a, b⟩ := lr_settle h
    obtain ⟨b1, b2, b3⟩ := b p hp
    refine ⟨?_, a⟩
    dsimp only
    rw [← b1]
    exact qa_find_eq _ 0 (fun k hk => b3 k (by omega))
theorem lr_same {σ μ : us_S} (h : lr_R σ μ) (x y : Int32) : (qr_same (xc_settle 4000) 4 8 σ x y).1 = (qr_same mt_workOut 6 5 μ x y).1 ∧ lr_R (qr_same (xc_settle 4000) 4 8 σ x y).2 (qr_same mt_workOut 6 5 μ x y).2 := by
  unfold qr_same
  by_cases hb : qb x = true ∨ qb y = true
  · rw [if_pos hb, if_pos hb]; exact ⟨rfl, h⟩
  · rw [if_neg hb, if_neg hb]
    obtain ⟨p, hp, rfl⟩ := qb_no (x := x) (by cases e : qb x with | false => rfl | true => exact absurd (Or.inl e) hb)
    obtain ⟨q, hq, rfl⟩ := qb_no (x := y) (by cases e : qb y with | false => rfl | true => exact absurd (Or.inr e) hb)
    rw [nI_clamp (show p < 2 ^ 31 by omega), nI_clamp (show q < 2 ^ 31 by omega)]
    obtain ⟨a, b⟩ := lr_settle h
    obtain ⟨b1, b2, b3⟩ := b p hp
    obtain ⟨d1, d2, d3⟩ := b q hq
    refine ⟨?_, a⟩
    dsimp only
    rw [← b1, ← d1]
    by_cases e : (xc_settle 4000 σ).1 4 p = (xc_settle 4000 σ).1 4 q
    · rw [if_pos e, if_pos e]
      exact qa_same_eq _ 0 (fun k hk => ⟨b3 k (by omega), d3 k (by omega)⟩)
    · rw [if_neg e, if_neg e]
theorem lr_full {σ μ : us_S} (h : lr_R σ μ) : (qr_full (xc_settle 4000) 4 σ).1 = (qr_full mt_workOut 6 μ).1 ∧ lr_R (qr_full (xc_settle 4000) 4 σ).2 (qr_full mt_workOut 6 μ).2 := by
  obtain ⟨a, b⟩ := lr_settle h
  unfold qr_full
  exact ⟨by dsimp only; rw [qa_full_eq 8 (fun k hk => (b k hk).1)], a⟩
theorem lr_fire {σ μ : us_S} (h : lr_R σ μ) (x n : Int32) : (qr_fire (fun σ p => xc_run σ p (xr_n n)) σ x).1 = (qr_fire (fun μ _ => μ) μ x).1 ∧ lr_R (qr_fire (fun σ p => xc_run σ p (xr_n n)) σ x).2 (qr_fire (fun μ _ => μ) μ x).2 := by
  unfold qr_fire
  cases hb : qb x with
  | true => rw [if_pos rfl, if_pos rfl]; exact ⟨rfl, h⟩
  | false =>
    rw [if_neg Bool.false_ne_true, if_neg Bool.false_ne_true]
    obtain ⟨p, hp, rfl⟩ := qb_no hb
    rw [nI_clamp (by omega)]
    obtain ⟨hI, hM, hk, hn⟩ := h
    obtain ⟨r1, r2, -⟩ := xc_run_J (xr_n n) hI.1 hp (fun r hr _ => hI.2 r hr)
    exact ⟨rfl, r1, hM, by rw [r2.1]; exact hk, by rw [r2.2]; exact hn⟩
/-- a new configuration: the class starts anew, the reference forgets -/
theorem lr_new {σ μ : us_S} (hok : pn_ok (xc_k σ)) (h0 : μ.1 0 = σ.1 0) (h1 : μ.1 1 = σ.1 1) (h2 : μ.1 2 = σ.1 2) (h3 : μ.2 3 = σ.2 3) : lr_R (xc_restart σ) (us_N μ 4 0 0) := by
  obtain ⟨r1, r2⟩ := xc_restart_J hok
  have ek : xc_k (us_N μ 4 0 0) = xc_k σ := xc_k_eq (by rw [us_Nf (by decide), h0]) (by rw [us_Nf (by decide), h1]) (by rw [us_Nf (by decide), h2])
  have e4 : (us_N μ 4 0 0).1 4 0 = 0 := us_zero μ 4 0
  exact ⟨r1, ⟨by rw [ek]; exact hok, by rw [e4]; exact Nat.zero_le _, fun z => absurd e4 z⟩, by rw [r2.1]; exact ek, by rw [r2.2, us_N2]; exact h3⟩
theorem lr_set {σ μ : us_S} (h : lr_R σ μ) (x k y a : Int32) : (qr_set xc_restart σ x k y a).1 = (qr_set (fun μ => us_N μ 4 0 0) μ x k y a).1 ∧ lr_R (qr_set xc_restart σ x k y a).2 (qr_set (fun μ => us_N μ 4 0 0) μ x k y a).2 := by
  unfold qr_set
  cases hb : qb x with
  | true => rw [if_pos rfl, if_pos rfl]; exact ⟨rfl, h⟩
  | false =>
    rw [if_neg Bool.false_ne_true, if_neg Bool.false_ne_true]
    by_cases hc : k < 0 ∨ nI 7 < k
    · rw [if_pos hc, if_pos hc]; exact ⟨rfl, h⟩
    · rw [if_neg hc, if_neg hc]
      obtain ⟨p, hp, rfl⟩ := qb_no hb
      obtain ⟨kn, hk31, rfl⟩ := nI_of (fun z => hc (Or.inl z))
      have hkn : kn ≤ 7 := by
        rcases Nat.lt_or_ge 7 kn with z | z
        · exact absurd (Or.inr (nI_lt z hk31)) hc
        · exact z
      rw [nI_clamp (show p < 2 ^ 31 by omega), nI_clamp hk31]
      obtain ⟨hI, hM, hk, hn⟩ := h
      obtain ⟨k0, k1, k2⟩ := lr_rows hk
      refine ⟨rfl, lr_new ?_ ?_ ?_ ?_ ?_⟩
      · have hok := hI.1.1.1
        intro r hr
        have e := hok r hr
        refine ⟨?_, ?_, ?_⟩
        · show (us_set σ p kn y a).1 0 r ≤ 7
          unfold us_set
          rw [us_V1, us_Nf (by decide), us_Nf (by decide), us_N1]
          by_cases z : r = p
          · rw [if_pos ⟨rfl, z⟩]; exact hkn
          · rw [if_neg (fun w => z w.2)]; exact e.1
        · show (us_set σ p kn y a).1 1 r < 8
          unfold us_set
          rw [us_V1, us_Nf (by decide), us_N1, us_Nf (by decide)]
          by_cases z : r = p
          · rw [if_pos ⟨rfl, z⟩]; exact Nat.mod_lt _ (by decide)
          · rw [if_neg (fun w => z w.2)]; exact e.2.1
        · show (us_set σ p kn y a).1 2 r < 8
          unfold us_set
          rw [us_V1, us_N1, us_Nf (by decide), us_Nf (by decide)]
          by_cases z : r = p
          · rw [if_pos ⟨rfl, z⟩]; exact Nat.mod_lt _ (by decide)
          · rw [if_neg (fun w => z w.2)]; exact e.2.2
      · unfold us_set
        rw [us_V1, us_V1]
        exact us_N_row _ _ _ (us_N_row _ _ _ (us_N_row _ _ _ k0))
      · unfold us_set
        rw [us_V1, us_V1]
        exact us_N_row _ _ _ (us_N_row _ _ _ (us_N_row _ _ _ k1))
      · unfold us_set
        rw [us_V1, us_V1]
        exact us_N_row _ _ _ (us_N_row _ _ _ (us_N_row _ _ _ k2))
      · unfold us_set
        exact us_V_row _ _ _ hn
def ex_f {α : Type} (f : Nat → α) (p q : Nat) : Nat → α := fun j => if j = q then f p else if j = p then f q else f j
theorem ex_swN (σ : us_S) (k p q : Nat) : (us_swN σ k p q).1 k = ex_f (σ.1 k) p q := by
  funext j
  unfold us_swN ex_f
  rw [us_N1, us_N1]
  simp
theorem ex_swN' {σ : us_S} {k p q a : Nat} (h : a ≠ k) : (us_swN σ k p q).1 a = σ.1 a := by
  unfold us_swN
  rw [us_Nf h, us_Nf h]
theorem ex_exch (σ : us_S) (p q : Nat) : (us_exch σ p q).1 0 = ex_f (σ.1 0) p q ∧ (us_exch σ p q).1 1 = ex_f (σ.1 1) p q ∧ (us_exch σ p q).1 2 = ex_f (σ.1 2) p q ∧ (us_exch σ p q).2 3 = ex_f (σ.2 3) p q := by
  have e : (us_exch σ p q).1 = (us_swN (us_swN (us_swN σ 0 p q) 1 p q) 2 p q).1 := rfl
  refine ⟨?_, ?_, ?_, ?_⟩
  · rw [e, ex_swN' (by decide), ex_swN' (by decide), ex_swN]
  · rw [e, ex_swN' (by decide), ex_swN, ex_swN' (by decide)]
  · rw [e, ex_swN, ex_swN' (by decide), ex_swN' (by decide)]
  · funext j
    unfold us_exch us_swV ex_f
    rw [us_V2, us_V2]
    simp only [true_and]
    rfl
theorem ex_mt (μ : us_S) (p q : Nat) : (mt_exch μ p q).1 0 = ex_f (μ.1 0) p q ∧ (mt_exch μ p q).1 1 = ex_f (μ.1 1) p q ∧ (mt_exch μ p q).1 2 = ex_f (μ.1 2) p q ∧ (mt_exch μ p q).2 3 = ex_f (μ.2 3) p q := by
  refine ⟨?_, ?_, ?_, ?_⟩ <;> funext j <;> unfold mt_exch ex_f <;> simp [us_N1, us_V1, us_N2, us_V2]
theorem lr_exch {σ μ : us_S} (h : lr_R σ μ) (x y : Int32) : (qr_exch (fun σ p q => xc_restart (us_exch σ p q)) σ x y).1 = (qr_exch (fun μ p q => us_N (mt_exch μ p q) 4 0 0) μ x y).1 ∧ lr_R (qr_exch (fun σ p q => xc_restart (us_exch σ p q)) σ x y).2 (qr_exch (fun μ p q => us_N (mt_exch μ p q) 4 0 0) μ x y).2 := by
  unfold qr_exch
  by_cases hb : qb x = true ∨ qb y = true
  · rw [if_pos hb, if_pos hb]; exact ⟨rfl, h⟩
  · rw [if_neg hb, if_neg hb]
    obtain ⟨p, hp, rfl⟩ := qb_no (x := x) (by cases e : qb x with | false => rfl | true => exact absurd (Or.inl e) hb)
    obtain ⟨q, hq, rfl⟩ := qb_no (x := y) (by cases e : qb y with | false => rfl | true => exact absurd (Or.inr e) hb)
    rw [nI_clamp (show p < 2 ^ 31 by omega), nI_clamp (show q < 2 ^ 31 by omega)]
    obtain ⟨hI, hM, hk, hn⟩ := h
    obtain ⟨k0, k1, k2⟩ := lr_rows hk
    obtain ⟨e0, e1, e2, e3⟩ := ex_exch σ p q
    obtain ⟨m0, m1, m2, m3⟩ := ex_mt μ p q
    refine ⟨rfl, lr_new ?_ (by rw [m0, e0, k0]) (by rw [m1, e1, k1]) (by rw [m2, e2, k2]) (by rw [m3, e3, hn])⟩
    have hok := hI.1.1.1
    have key : ∀ (f : Nat → Nat) (P : Nat → Prop), (∀ r, r < 8 → P (f r)) → ∀ r, r < 8 → P (ex_f f p q r) := by
      intro f P hf r hr
      unfold ex_f
      by_cases z : r = q
      · rw [if_pos z]; exact hf p hp
      · rw [if_neg z]
        by_cases z2 : r = p
        · rw [if_pos z2]; exact hf q hq
        · rw [if_neg z2]; exact hf r hr
    intro r hr
    refine ⟨?_, ?_, ?_⟩
    · show (us_exch σ p q).1 0 r ≤ 7
      rw [e0]; exact key (σ.1 0) (fun v => v ≤ 7) (fun r hr => (hok r hr).1) r hr
    · show (us_exch σ p q).1 1 r < 8
      rw [e1]; exact key (σ.1 1) (fun v => v < 8) (fun r hr => (hok r hr).2.1) r hr
    · show (us_exch σ p q).1 2 r < 8
      rw [e2]; exact key (σ.1 2) (fun v => v < 8) (fun r hr => (hok r hr).2.2) r hr
theorem lr_init : lr_R (xc_restart (xc_i8 8 0 us_0)) (xc_i8 8 0 us_0) := by
  obtain ⟨r1, r2⟩ := xc_restart_J xc_i8_ok
  exact ⟨r1, ⟨xc_i8_ok, by rw [xc_i8_4]; exact Nat.zero_le _, fun z => absurd xc_i8_4 z⟩, r2.1.symm, r2.2.symm⟩
end
section
set_option maxRecDepth 100000
/-! THE CLAIM OUT OF ONE WALK OF THE LAW'S BODY. Your part is whole_start (and what it stands on); all else here is the same for every law, but numbers. -/
def R_law : String := "ProcessNetworkLaw"
def lw_P (b : Addr) (xs : List Int32) (args : Array Value) (s : State) : Prop := args = #[.ref b] ∧ s.IntsAt b xs ∧ xs.length ≤ 320 ∧ (Jvm.Cond.and given_1 narrow_1).before args s = true
def lw_Q (_ : Array Value) (s : State) (o : Outcome) (t : State) : Prop := o = .returned (some (.int 1)) ∧ Framed s o t [] 600000 7290000
def lw_Z (below : List Frame) (a : Array Value) (s : State) : State → Prop := fun t => ∃ o, t.status = .running ∧ Ended t below o ∧ lw_Q a s o t
/-- the law's own end, with 1 on the stack, nothing written that was there before, its room as the claim has it -/
theorem lw_ret {p : Program} {l : Launch} {e : Env} {s : State} {m : MethodId} {below : List Frame} {meth : Method} {c : Code} {b : Nat} (hx : p.tables.exec = Jvm.exec) (hb : c.code = code) (hr : meth.sig.returnType = ret) (hlocks : meth.locks = false) {pc : Nat} {H : Heap} {ls : Array Slot} (hdg : decode code pc = .ok (.ireturn, 1)) : W p l e room_1 s m #[Value.ref b] below meth c H [] 600000 7290000 (lw_Z below #[Value.ref b] s) (F0 m pc ls [.int 1]) := by
  intro T hT X
  obtain ⟨fs, hret, hrun, hended, hW, hframe⟩ := X.leave (v := some (.int 1)) (hlocks := hlocks) (fun h => by rw [hr] at h; cases h)
  have hmeth' : T.vm.method? m = some meth := X.method'
  refine ⟨T.setFrames fs, ?_, .returned (some (.int 1)), hrun, hended, rfl, ⟨_, rfl⟩, hW, hframe⟩
  jvm_step X.here [X.here.top, hx, hb, hdg, hmeth', hr, ret, narrow_b1]
  (try refine ⟨rfl, ?_⟩); (try refine ⟨rfl, ?_⟩)
  first | (intro acts; rw [hret _ acts rfl rfl rfl]) | rw [hret _ _ rfl rfl rfl]
  exact Steps.refl _
/-- what holds at the law's entry: the machine, the code, the tables' words (any of lw_tbl by 'hts w (by decide +kernel)'), the script of L ints xs at the cell b, what the Statement gives of the start (any of its parts by flat_of_before) -/
def lw_At (p : Program) (s : State) (m : MethodId) (meth : Method) (c : Code) (b L : Nat) (xs : Nat → Int32) : Prop :=
  p.tables.exec = Jvm.exec ∧ c.code = code ∧ meth.sig.returnType = ret ∧ c.maxLocals = 4 ∧ s.vm.findClass R_law = some m.cls ∧ (∀ w ∈ lw_tbl, w.before #[Value.ref b] s = true) ∧ va_X b L xs s s.heap ∧ b < s.heap.size ∧ meth.locks = false ∧ (Jvm.Cond.and given_1 narrow_1).before #[Value.ref b] s = true
end
section
/-! ROWS for the law (by wip/D-64155w/gen/law.py) -/
set_option maxRecDepth 100000
/-- what holds all through the law -/
def lk_C (D : va_G) (dA dB eA : ClassId) (p : Program) (s : State) (m : MethodId) (c : Code) (b L : Nat) (xs : Nat → Int32) : Prop := p.tables.exec = Jvm.exec ∧ c.code = cL_law ∧ (∀ w ∈ lw_all, w.before #[Value.ref b] s = true) ∧ s.vm.findClass R_law = some m.cls ∧ va_K D vwCl [(dA, .int), (dB, .boolean), (eA, .int)] s ∧ va_X b L xs s s.heap ∧ b < s.heap.size ∧ L ≤ 320
/-- the heap holds both objects, in the states σ and μ; nothing old has changed -/
def lk_H (D : va_G) (ad bd : Nat → Nat) (dA dB eA : ClassId) (s : State) (H : Heap) (locs : List Loc) (σ μ : us_S) : Prop := va_P D vwCl (xw_W ad dA dB σ ++ mw_W bd eA μ) H ∧ va_D (fun q : Nat => s.heap.size ≤ q) (xw_W ad dA dB σ ++ mw_W bd eA μ) ∧ va_S (fun q : Nat => s.heap.size ≤ q) s.heap H locs
theorem lk_gt {i L : Nat} (hi : i < 2 ^ 31) (hL : L ≤ 320) (h : ¬ nI L - nI 5 < nI i) : i + 5 ≤ L := by
  rcases Nat.lt_or_ge L 5 with z | z
  · have h0 : nI L - nI 5 < 0 := by
      match L, z with
      | 0, _ => decide +kernel
      | 1, _ => decide +kernel
      | 2, _ => decide +kernel
      | 3, _ => decide +kernel
      | 4, _ => decide +kernel
      | L + 5, z => exact absurd z (by omega)
    exact absurd (Int32.lt_of_lt_of_le h0 (nI_pos' hi)) h
  · have e : nI L - nI 5 = nI (L - 5) := pk_sub z
    rw [e] at h
    rcases Nat.lt_or_ge (L - 5) i with y | y
    · exact absurd (nI_lt y hi) h
    · omega
section LKR
variable {p : Program} {l : Launch} {e : Env} {R : Room} {s : State} {m : MethodId} {below : List Frame} {meth : Method} {c : Code} {H : Heap} {locs : List Loc} {cells slots : Nat} {Q : State → Prop}
variable {pc : Nat} {ls : Array Slot} {rest : List Value} {D : va_G} {ad bd : Nat → Nat} {dA dB eA : ClassId} {σ μ : us_S} {b L : Nat} {xs : Nat → Int32}
theorem lk_sld (C : lk_C D dA dB eA p s m c b L xs) (h : lk_H D ad bd dA dB eA s H locs σ μ) {i : Nat} (hi : i < L) (hd : decode cL_law pc = .ok (.iaload, 1)) (kk : W p l e R s m #[Value.ref b] below meth c H locs cells slots Q (F0 m (pc + 1) ls (.int (xs i) :: rest))) : W p l e R s m #[Value.ref b] below meth c H locs cells slots Q (F0 m pc ls (.int (nI i) :: .ref b :: rest)) := by
  have hL := C.2.2.2.2.2.2.2
  refine va_sld C.1 C.2.1 C.2.2.2.2.2.1 C.2.2.2.2.2.2.1 (show ¬ (fun q : Nat => s.heap.size ≤ q) b from Nat.not_le.mpr C.2.2.2.2.2.2.1) h.2.2 (vp_in_nI hi (by omega)) hd ?_
  rw [nI_clamp (by omega)]; exact kk
theorem lk_slen (C : lk_C D dA dB eA p s m c b L xs) (h : lk_H D ad bd dA dB eA s H locs σ μ) (hd : decode cL_law pc = .ok (.arraylength, 1)) (kk : W p l e R s m #[Value.ref b] below meth c H locs cells slots Q (F0 m (pc + 1) ls (.int (nI L) :: rest))) : W p l e R s m #[Value.ref b] below meth c H locs cells slots Q (F0 m pc ls (.ref b :: rest)) :=
  va_slen C.1 C.2.1 C.2.2.2.2.2.1 C.2.2.2.2.2.2.1 (show ¬ (fun q : Nat => s.heap.size ≤ q) b from Nat.not_le.mpr C.2.2.2.2.2.2.1) h.2.2 hd kk
theorem lk_callx {y : MethodName} {bb : ByteArray} {Lm n index : Nat} {ret : Option FieldType} {rm : Room} {As st0 : List Value} {r : Int32} {τ : us_S} (C : lk_C D dA dB eA p s m c b L xs) (hml : c.maxLocals = 4) (h : lk_H D ad bd dA dB eA s H locs σ μ) (hM : xw_Mi l y bb Lm ret rm D ad dA dB H.size σ As r τ)
    (q1 : Cond.methodLink R_law index y ∈ lw_all) (q2 : Cond.instanceMethod y ∈ lw_all) (q3 : Cond.selects RX0 y y ∈ lw_all) (q5 : Cond.code y bb Lm ret ∈ lw_all) (hy : y.cls = RX0) (hds : (parseMethodDescriptor y.desc).map (fun d => d.parameters.length) = some n) (hrc : rm.cells = 0) (hrs : rm.slots = 0) (hR : rm.frames + 1 ≤ R.frames ∧ 8 + (Lm + 11) + rm.locals ≤ R.locals) (hn : As.length = n) (hsz : ls.size = 4) (hst : st0 = As.reverse ++ .ref (ad 13) :: rest) (hrm : (rest.map fun v => v.category).sum ≤ 8) (hd : decode cL_law pc = .ok (.invokevirtual index, 3)) (hf : cells ≤ R.cells ∧ slots ≤ R.slots)
    (kk : ∀ (H1 : Heap) (locs1 : List Loc), lk_H D ad bd dA dB eA s H1 locs1 τ μ → W p l e R s m #[Value.ref b] below meth c H1 locs1 cells slots Q (F0 m (pc + 3) ls (.int r :: rest))) : W p l e R s m #[Value.ref b] below meth c H locs cells slots Q (F0 m pc ls st0) := by
  obtain ⟨hP, hD, hS⟩ := h
  have hA : ∀ q : Nat, s.heap.size ≤ q → (fun q : Nat => s.heap.size ≤ q) q := fun _ z => z
  have hPc : va_P D vwCl (xw_W ad dA dB σ) H := hP.sub [0, 1, 2, 3, 4, 5, 6, 7, 8, 9, 10, 11] rfl
  have hDc : va_D (fun q : Nat => s.heap.size ≤ q) (xw_W ad dA dB σ) := hD.sub [0, 1, 2, 3, 4, 5, 6, 7, 8, 9, 10, 11] (by decide) rfl
  have hKc : va_K D vwCl [(dA, .int), (dB, .boolean)] s := C.2.2.2.2.1.sub [0, 1] rfl
  have hFc := va_free (wc := xw_W ad dA dB σ) hD hS hA [0, 1, 2, 3, 4, 5, 6, 7, 8, 9, 10, 11] rfl
  have hin : Cond.initialized RX0 ∈ lw_all := q25
  have hne : y.cls = RX0 ∧ y.cls ≠ "java/lang/invoke/MethodHandle" ∧ y.cls ≠ "java/lang/invoke/VarHandle" ∧ (parseMethodDescriptor y.desc).map (fun d => d.parameters.length) = some n := ⟨hy, by rw [hy]; decide +kernel, by rw [hy]; decide +kernel, hds⟩
  refine va_calli (va_runV (As := As) (rest := rest) (b := ad 13) (C := RX0) ⟨C.1, C.2.1, hml, C.2.2.2.1, C.2.2.1⟩ hM (cwV n C.2.2.1 (lw_V q1 q2 q3 hin q5) rfl hrc hrs hne hR) ⟨fun a U g mk q => by obtain ⟨q0, q1, qP, qK, qD⟩ := q; exact ⟨q0, q1, qP, va_K.moved (u := U) (U := U.calling g mk a) (Vm.Alike.refl U.vm) qK, qD⟩, va_recv hKc hPc (ci := 0) (q0 := 0) rfl rfl, fun U hU hW => ⟨rfl, by rw [hU], by rw [hU]; exact hPc, va_K.moved hW.alike hKc, hDc.weaken (fun _ _ _ _ => trivial)⟩⟩ rfl hn hsz hst (lv_room hrm) hd hf) hS (fun q _ z => hFc q z) hFc (fun r_1 u t H1 locs1 ht hvm hw hB hz hk hS => ?_)
  obtain ⟨rfl, rfl⟩ := hw
  obtain ⟨hP1, -, hD1⟩ := hB
  rw [ht] at hP1
  obtain ⟨hP, hD⟩ := va_join (wr := mw_W bd eA μ) (w1 := xw_W ad dA dB u) hP hD [0, 1, 2, 3, 4, 5, 6, 7, 8, 9, 10, 11] [12, 13, 14, 15, 16, 17, 18] rfl rfl (by decide) (by decide) hk hFc hP1 hD1
  exact kk H1 locs1 ⟨hP.sub [7, 8, 9, 10, 11, 12, 13, 14, 15, 16, 17, 18, 0, 1, 2, 3, 4, 5, 6] rfl, hD.sub [7, 8, 9, 10, 11, 12, 13, 14, 15, 16, 17, 18, 0, 1, 2, 3, 4, 5, 6] (by decide) rfl, hS⟩
theorem lk_callm {y : MethodName} {bb : ByteArray} {Lm n index : Nat} {ret : Option FieldType} {rm : Room} {As st0 : List Value} {r : Int32} {τ : us_S} (C : lk_C D dA dB eA p s m c b L xs) (hml : c.maxLocals = 4) (h : lk_H D ad bd dA dB eA s H locs σ μ) (hM : mw_Mi l y bb Lm ret rm D bd eA H.size μ As r τ)
    (q1 : Cond.methodLink R_law index y ∈ lw_all) (q2 : Cond.instanceMethod y ∈ lw_all) (q3 : Cond.selects RX1 y y ∈ lw_all) (q5 : Cond.code y bb Lm ret ∈ lw_all) (hy : y.cls = RX1) (hds : (parseMethodDescriptor y.desc).map (fun d => d.parameters.length) = some n) (hrc : rm.cells = 0) (hrs : rm.slots = 0) (hR : rm.frames + 1 ≤ R.frames ∧ 8 + (Lm + 11) + rm.locals ≤ R.locals) (hn : As.length = n) (hsz : ls.size = 4) (hst : st0 = As.reverse ++ .ref (bd 13) :: rest) (hrm : (rest.map fun v => v.category).sum ≤ 8) (hd : decode cL_law pc = .ok (.invokevirtual index, 3)) (hf : cells ≤ R.cells ∧ slots ≤ R.slots)
    (kk : ∀ (H1 : Heap) (locs1 : List Loc), lk_H D ad bd dA dB eA s H1 locs1 σ τ → W p l e R s m #[Value.ref b] below meth c H1 locs1 cells slots Q (F0 m (pc + 3) ls (.int r :: rest))) : W p l e R s m #[Value.ref b] below meth c H locs cells slots Q (F0 m pc ls st0) := by
  obtain ⟨hP, hD, hS⟩ := h
  have hA : ∀ q : Nat, s.heap.size ≤ q → (fun q : Nat => s.heap.size ≤ q) q := fun _ z => z
  have hPc : va_P D vwCl (mw_W bd eA μ) H := hP.sub [12, 13, 14, 15, 16, 17, 18] rfl
  have hDc : va_D (fun q : Nat => s.heap.size ≤ q) (mw_W bd eA μ) := hD.sub [12, 13, 14, 15, 16, 17, 18] (by decide) rfl
  have hKc : va_K D vwCl [(eA, .int)] s := C.2.2.2.2.1.sub [2] rfl
  have hFc := va_free (wc := mw_W bd eA μ) hD hS hA [12, 13, 14, 15, 16, 17, 18] rfl
  have hin : Cond.initialized RX1 ∈ lw_all := q26
  have hne : y.cls = RX1 ∧ y.cls ≠ "java/lang/invoke/MethodHandle" ∧ y.cls ≠ "java/lang/invoke/VarHandle" ∧ (parseMethodDescriptor y.desc).map (fun d => d.parameters.length) = some n := ⟨hy, by rw [hy]; decide +kernel, by rw [hy]; decide +kernel, hds⟩
  refine va_calli (va_runV (As := As) (rest := rest) (b := bd 13) (C := RX1) ⟨C.1, C.2.1, hml, C.2.2.2.1, C.2.2.1⟩ hM (cwV n C.2.2.1 (lw_V q1 q2 q3 hin q5) rfl hrc hrs hne hR) ⟨fun a U g mk q => by obtain ⟨q0, q1, qP, qK, qD⟩ := q; exact ⟨q0, q1, qP, va_K.moved (u := U) (U := U.calling g mk a) (Vm.Alike.refl U.vm) qK, qD⟩, va_recv hKc hPc (ci := 1) (q0 := 0) rfl rfl, fun U hU hW => ⟨rfl, by rw [hU], by rw [hU]; exact hPc, va_K.moved hW.alike hKc, hDc.weaken (fun _ _ _ _ => trivial)⟩⟩ rfl hn hsz hst (lv_room hrm) hd hf) hS (fun q _ z => hFc q z) hFc (fun r_1 u t H1 locs1 ht hvm hw hB hz hk hS => ?_)
  obtain ⟨rfl, rfl⟩ := hw
  obtain ⟨hP1, -, hD1⟩ := hB
  rw [ht] at hP1
  obtain ⟨hP, hD⟩ := va_join (wr := xw_W ad dA dB σ) (w1 := mw_W bd eA u) hP hD [12, 13, 14, 15, 16, 17, 18] [0, 1, 2, 3, 4, 5, 6, 7, 8, 9, 10, 11] rfl rfl (by decide) (by decide) hk hFc hP1 hD1
  exact kk H1 locs1 ⟨hP, hD, hS⟩
end LKR
end
section
/-! THE LAW'S CASES (by wip/D-64155w/gen/law.py): from a case's head the law comes to 361, and the two objects are related again -/
set_option maxRecDepth 100000
set_option maxHeartbeats 4000000 in
theorem lk_set {p : Program} {l : Launch} {e : Env} {s : State} {m : MethodId} {below : List Frame} {meth : Method} {c : Code} {D : va_G} {ad bd : Nat → Nat} {dA dB eA : ClassId} {b L : Nat} {xs : Nat → Int32} {Q : State → Prop} (C : lk_C D dA dB eA p s m c b L xs) (hml : c.maxLocals = 4) {i : Nat} (hi : i + 5 ≤ L) {σ μ : us_S} (hR : lr_R σ μ) {H : Heap} {locs : List Loc} {ls : Array Slot} (h : lk_H D ad bd dA dB eA s H locs σ μ) (hl : lv_has ls 4 [(3, .int (nI i)), (0, .ref b), (1, .ref (ad 13)), (2, .ref (bd 13))]) (K : ∀ (σ μ : us_S) (H : Heap) (locs : List Loc) (ls : Array Slot), lr_R σ μ → lk_H D ad bd dA dB eA s H locs σ μ → lv_has ls 4 [(3, .int (nI i)), (0, .ref b), (1, .ref (ad 13)), (2, .ref (bd 13))] → W p l e room_1 s m #[Value.ref b] below meth c H locs 19 780 Q (F0 m 361 ls [])) : W p l e room_1 s m #[Value.ref b] below meth c H locs 19 780 Q (F0 m 84 ls []) := by
  refine lv_aload_n C.1 C.2.1 dL_law_84 rfl (lv_at hl 2 rfl) ?_
  refine lv_aload_n C.1 C.2.1 dL_law_85 rfl (lv_at hl 1 rfl) ?_
  refine lv_iload_n C.1 C.2.1 dL_law_86 rfl (lv_at hl 0 rfl) ?_
  refine lv_iconst (v := nI 1) C.1 C.2.1 dL_law_87 (by decide) ?_
  refine wn_add C.1 C.2.1 dL_law_88 ?_
  refine lk_sld C h (i := i + 1) (by omega) dL_law_89 ?_
  refine lv_aload_n C.1 C.2.1 dL_law_90 rfl (lv_at hl 1 rfl) ?_
  refine lv_iload_n C.1 C.2.1 dL_law_91 rfl (lv_at hl 0 rfl) ?_
  refine lv_iconst (v := nI 2) C.1 C.2.1 dL_law_92 (by decide) ?_
  refine wn_add C.1 C.2.1 dL_law_93 ?_
  refine lk_sld C h (i := i + 2) (by omega) dL_law_94 ?_
  refine lv_aload_n C.1 C.2.1 dL_law_95 rfl (lv_at hl 1 rfl) ?_
  refine lv_iload_n C.1 C.2.1 dL_law_96 rfl (lv_at hl 0 rfl) ?_
  refine lv_iconst (v := nI 3) C.1 C.2.1 dL_law_97 (by decide) ?_
  refine wn_add C.1 C.2.1 dL_law_98 ?_
  refine lk_sld C h (i := i + 3) (by omega) dL_law_99 ?_
  refine lv_aload_n C.1 C.2.1 dL_law_100 rfl (lv_at hl 1 rfl) ?_
  refine lv_iload_n C.1 C.2.1 dL_law_101 rfl (lv_at hl 0 rfl) ?_
  refine lv_iconst (v := nI 4) C.1 C.2.1 dL_law_102 (by decide) ?_
  refine wn_add C.1 C.2.1 dL_law_103 ?_
  refine lk_sld C h (i := i + 4) (by omega) dL_law_104 ?_
  refine lk_callx (n := 4) (As := [.int (xs (i + 1)), .int (xs (i + 2)), .int (xs (i + 3)), .int (xs (i + 4))]) (rest := []) C hml h (x_set l D ad dA dB _ σ (xs (i + 1)) (xs (i + 2)) (xs (i + 3)) (xs (i + 4))) q85 q86 q87 q88 rfl (by decide +kernel) rfl rfl ⟨Nat.le_of_ble_eq_true rfl, Nat.le_of_ble_eq_true rfl⟩ rfl hl.1 rfl (Nat.le_of_ble_eq_true rfl) dL_law_105 ⟨Nat.le_of_ble_eq_true rfl, Nat.le_of_ble_eq_true rfl⟩ (fun H locs h => ?_)
  refine lv_aload_n C.1 C.2.1 dL_law_108 rfl (lv_at hl 3 rfl) ?_
  refine lv_aload_n C.1 C.2.1 dL_law_109 rfl (lv_at hl 1 rfl) ?_
  refine lv_iload_n C.1 C.2.1 dL_law_110 rfl (lv_at hl 0 rfl) ?_
  refine lv_iconst (v := nI 1) C.1 C.2.1 dL_law_111 (by decide) ?_
  refine wn_add C.1 C.2.1 dL_law_112 ?_
  refine lk_sld C h (i := i + 1) (by omega) dL_law_113 ?_
  refine lv_aload_n C.1 C.2.1 dL_law_114 rfl (lv_at hl 1 rfl) ?_
  refine lv_iload_n C.1 C.2.1 dL_law_115 rfl (lv_at hl 0 rfl) ?_
  refine lv_iconst (v := nI 2) C.1 C.2.1 dL_law_116 (by decide) ?_
  refine wn_add C.1 C.2.1 dL_law_117 ?_
  refine lk_sld C h (i := i + 2) (by omega) dL_law_118 ?_
  refine lv_aload_n C.1 C.2.1 dL_law_119 rfl (lv_at hl 1 rfl) ?_
  refine lv_iload_n C.1 C.2.1 dL_law_120 rfl (lv_at hl 0 rfl) ?_
  refine lv_iconst (v := nI 3) C.1 C.2.1 dL_law_121 (by decide) ?_
  refine wn_add C.1 C.2.1 dL_law_122 ?_
  refine lk_sld C h (i := i + 3) (by omega) dL_law_123 ?_
  refine lv_aload_n C.1 C.2.1 dL_law_124 rfl (lv_at hl 1 rfl) ?_
  refine lv_iload_n C.1 C.2.1 dL_law_125 rfl (lv_at hl 0 rfl) ?_
  refine lv_iconst (v := nI 4) C.1 C.2.1 dL_law_126 (by decide) ?_
  refine wn_add C.1 C.2.1 dL_law_127 ?_
  refine lk_sld C h (i := i + 4) (by omega) dL_law_128 ?_
  refine lk_callm (n := 4) (As := [.int (xs (i + 1)), .int (xs (i + 2)), .int (xs (i + 3)), .int (xs (i + 4))]) (rest := [.int _]) C hml h (m_set l D bd eA _ μ (xs (i + 1)) (xs (i + 2)) (xs (i + 3)) (xs (i + 4))) q204 q205 q206 q207 rfl (by decide +kernel) rfl rfl ⟨Nat.le_of_ble_eq_true rfl, Nat.le_of_ble_eq_true rfl⟩ rfl hl.1 rfl (Nat.le_of_ble_eq_true rfl) dL_law_129 ⟨Nat.le_of_ble_eq_true rfl, Nat.le_of_ble_eq_true rfl⟩ (fun H locs h => ?_)
  obtain ⟨e1, e2⟩ := lr_set hR (xs (i + 1)) (xs (i + 2)) (xs (i + 3)) (xs (i + 4))
  exact lv_icmp_eq (tgt := 361) C.1 C.2.1 dL_law_132 (by decide) (fun _ => K _ _ _ _ _ e2 h hl) (fun z => absurd e1 z)
set_option maxHeartbeats 4000000 in
theorem lk_fire {p : Program} {l : Launch} {e : Env} {s : State} {m : MethodId} {below : List Frame} {meth : Method} {c : Code} {D : va_G} {ad bd : Nat → Nat} {dA dB eA : ClassId} {b L : Nat} {xs : Nat → Int32} {Q : State → Prop} (C : lk_C D dA dB eA p s m c b L xs) (hml : c.maxLocals = 4) {i : Nat} (hi : i + 5 ≤ L) {σ μ : us_S} (hR : lr_R σ μ) {H : Heap} {locs : List Loc} {ls : Array Slot} (h : lk_H D ad bd dA dB eA s H locs σ μ) (hl : lv_has ls 4 [(3, .int (nI i)), (0, .ref b), (1, .ref (ad 13)), (2, .ref (bd 13))]) (K : ∀ (σ μ : us_S) (H : Heap) (locs : List Loc) (ls : Array Slot), lr_R σ μ → lk_H D ad bd dA dB eA s H locs σ μ → lv_has ls 4 [(3, .int (nI i)), (0, .ref b), (1, .ref (ad 13)), (2, .ref (bd 13))] → W p l e room_1 s m #[Value.ref b] below meth c H locs 19 780 Q (F0 m 361 ls [])) : W p l e room_1 s m #[Value.ref b] below meth c H locs 19 780 Q (F0 m 137 ls []) := by
  refine lv_aload_n C.1 C.2.1 dL_law_137 rfl (lv_at hl 2 rfl) ?_
  refine lv_aload_n C.1 C.2.1 dL_law_138 rfl (lv_at hl 1 rfl) ?_
  refine lv_iload_n C.1 C.2.1 dL_law_139 rfl (lv_at hl 0 rfl) ?_
  refine lv_iconst (v := nI 1) C.1 C.2.1 dL_law_140 (by decide) ?_
  refine wn_add C.1 C.2.1 dL_law_141 ?_
  refine lk_sld C h (i := i + 1) (by omega) dL_law_142 ?_
  refine lv_aload_n C.1 C.2.1 dL_law_143 rfl (lv_at hl 1 rfl) ?_
  refine lv_iload_n C.1 C.2.1 dL_law_144 rfl (lv_at hl 0 rfl) ?_
  refine lv_iconst (v := nI 2) C.1 C.2.1 dL_law_145 (by decide) ?_
  refine wn_add C.1 C.2.1 dL_law_146 ?_
  refine lk_sld C h (i := i + 2) (by omega) dL_law_147 ?_
  refine lk_callx (n := 2) (As := [.int (xs (i + 1)), .int (xs (i + 2))]) (rest := []) C hml h (x_fire l D ad dA dB _ σ (xs (i + 1)) (xs (i + 2)) hR.1) q92 q93 q94 q95 rfl (by decide +kernel) rfl rfl ⟨Nat.le_of_ble_eq_true rfl, Nat.le_of_ble_eq_true rfl⟩ rfl hl.1 rfl (Nat.le_of_ble_eq_true rfl) dL_law_148 ⟨Nat.le_of_ble_eq_true rfl, Nat.le_of_ble_eq_true rfl⟩ (fun H locs h => ?_)
  refine lv_aload_n C.1 C.2.1 dL_law_151 rfl (lv_at hl 3 rfl) ?_
  refine lv_aload_n C.1 C.2.1 dL_law_152 rfl (lv_at hl 1 rfl) ?_
  refine lv_iload_n C.1 C.2.1 dL_law_153 rfl (lv_at hl 0 rfl) ?_
  refine lv_iconst (v := nI 1) C.1 C.2.1 dL_law_154 (by decide) ?_
  refine wn_add C.1 C.2.1 dL_law_155 ?_
  refine lk_sld C h (i := i + 1) (by omega) dL_law_156 ?_
  refine lv_aload_n C.1 C.2.1 dL_law_157 rfl (lv_at hl 1 rfl) ?_
  refine lv_iload_n C.1 C.2.1 dL_law_158 rfl (lv_at hl 0 rfl) ?_
  refine lv_iconst (v := nI 2) C.1 C.2.1 dL_law_159 (by decide) ?_
  refine wn_add C.1 C.2.1 dL_law_160 ?_
  refine lk_sld C h (i := i + 2) (by omega) dL_law_161 ?_
  refine lk_callm (n := 2) (As := [.int (xs (i + 1)), .int (xs (i + 2))]) (rest := [.int _]) C hml h (m_fire l D bd eA _ μ (xs (i + 1)) (xs (i + 2))) q212 q213 q214 q215 rfl (by decide +kernel) rfl rfl ⟨Nat.le_of_ble_eq_true rfl, Nat.le_of_ble_eq_true rfl⟩ rfl hl.1 rfl (Nat.le_of_ble_eq_true rfl) dL_law_162 ⟨Nat.le_of_ble_eq_true rfl, Nat.le_of_ble_eq_true rfl⟩ (fun H locs h => ?_)
  obtain ⟨e1, e2⟩ := lr_fire hR (xs (i + 1)) (xs (i + 2))
  exact lv_icmp_eq (tgt := 361) C.1 C.2.1 dL_law_165 (by decide) (fun _ => K _ _ _ _ _ e2 h hl) (fun z => absurd e1 z)
set_option maxHeartbeats 4000000 in
theorem lk_exchange {p : Program} {l : Launch} {e : Env} {s : State} {m : MethodId} {below : List Frame} {meth : Method} {c : Code} {D : va_G} {ad bd : Nat → Nat} {dA dB eA : ClassId} {b L : Nat} {xs : Nat → Int32} {Q : State → Prop} (C : lk_C D dA dB eA p s m c b L xs) (hml : c.maxLocals = 4) {i : Nat} (hi : i + 5 ≤ L) {σ μ : us_S} (hR : lr_R σ μ) {H : Heap} {locs : List Loc} {ls : Array Slot} (h : lk_H D ad bd dA dB eA s H locs σ μ) (hl : lv_has ls 4 [(3, .int (nI i)), (0, .ref b), (1, .ref (ad 13)), (2, .ref (bd 13))]) (K : ∀ (σ μ : us_S) (H : Heap) (locs : List Loc) (ls : Array Slot), lr_R σ μ → lk_H D ad bd dA dB eA s H locs σ μ → lv_has ls 4 [(3, .int (nI i)), (0, .ref b), (1, .ref (ad 13)), (2, .ref (bd 13))] → W p l e room_1 s m #[Value.ref b] below meth c H locs 19 780 Q (F0 m 361 ls [])) : W p l e room_1 s m #[Value.ref b] below meth c H locs 19 780 Q (F0 m 170 ls []) := by
  refine lv_aload_n C.1 C.2.1 dL_law_170 rfl (lv_at hl 2 rfl) ?_
  refine lv_aload_n C.1 C.2.1 dL_law_171 rfl (lv_at hl 1 rfl) ?_
  refine lv_iload_n C.1 C.2.1 dL_law_172 rfl (lv_at hl 0 rfl) ?_
  refine lv_iconst (v := nI 1) C.1 C.2.1 dL_law_173 (by decide) ?_
  refine wn_add C.1 C.2.1 dL_law_174 ?_
  refine lk_sld C h (i := i + 1) (by omega) dL_law_175 ?_
  refine lv_aload_n C.1 C.2.1 dL_law_176 rfl (lv_at hl 1 rfl) ?_
  refine lv_iload_n C.1 C.2.1 dL_law_177 rfl (lv_at hl 0 rfl) ?_
  refine lv_iconst (v := nI 2) C.1 C.2.1 dL_law_178 (by decide) ?_
  refine wn_add C.1 C.2.1 dL_law_179 ?_
  refine lk_sld C h (i := i + 2) (by omega) dL_law_180 ?_
  refine lk_callx (n := 2) (As := [.int (xs (i + 1)), .int (xs (i + 2))]) (rest := []) C hml h (x_exchange l D ad dA dB _ σ (xs (i + 1)) (xs (i + 2))) q144 q145 q146 q147 rfl (by decide +kernel) rfl rfl ⟨Nat.le_of_ble_eq_true rfl, Nat.le_of_ble_eq_true rfl⟩ rfl hl.1 rfl (Nat.le_of_ble_eq_true rfl) dL_law_181 ⟨Nat.le_of_ble_eq_true rfl, Nat.le_of_ble_eq_true rfl⟩ (fun H locs h => ?_)
  refine lv_aload_n C.1 C.2.1 dL_law_184 rfl (lv_at hl 3 rfl) ?_
  refine lv_aload_n C.1 C.2.1 dL_law_185 rfl (lv_at hl 1 rfl) ?_
  refine lv_iload_n C.1 C.2.1 dL_law_186 rfl (lv_at hl 0 rfl) ?_
  refine lv_iconst (v := nI 1) C.1 C.2.1 dL_law_187 (by decide) ?_
  refine wn_add C.1 C.2.1 dL_law_188 ?_
  refine lk_sld C h (i := i + 1) (by omega) dL_law_189 ?_
  refine lv_aload_n C.1 C.2.1 dL_law_190 rfl (lv_at hl 1 rfl) ?_
  refine lv_iload_n C.1 C.2.1 dL_law_191 rfl (lv_at hl 0 rfl) ?_
  refine lv_iconst (v := nI 2) C.1 C.2.1 dL_law_192 (by decide) ?_
  refine wn_add C.1 C.2.1 dL_law_193 ?_
  refine lk_sld C h (i := i + 2) (by omega) dL_law_194 ?_
  refine lk_callm (n := 2) (As := [.int (xs (i + 1)), .int (xs (i + 2))]) (rest := [.int _]) C hml h (m_exchange l D bd eA _ μ (xs (i + 1)) (xs (i + 2))) q216 q217 q218 q219 rfl (by decide +kernel) rfl rfl ⟨Nat.le_of_ble_eq_true rfl, Nat.le_of_ble_eq_true rfl⟩ rfl hl.1 rfl (Nat.le_of_ble_eq_true rfl) dL_law_195 ⟨Nat.le_of_ble_eq_true rfl, Nat.le_of_ble_eq_true rfl⟩ (fun H locs h => ?_)
  obtain ⟨e1, e2⟩ := lr_exch hR (xs (i + 1)) (xs (i + 2))
  exact lv_icmp_eq (tgt := 361) C.1 C.2.1 dL_law_198 (by decide) (fun _ => K _ _ _ _ _ e2 h hl) (fun z => absurd e1 z)
set_option maxHeartbeats 4000000 in
theorem lk_length {p : Program} {l : Launch} {e : Env} {s : State} {m : MethodId} {below : List Frame} {meth : Method} {c : Code} {D : va_G} {ad bd : Nat → Nat} {dA dB eA : ClassId} {b L : Nat} {xs : Nat → Int32} {Q : State → Prop} (C : lk_C D dA dB eA p s m c b L xs) (hml : c.maxLocals = 4) {i : Nat} (hi : i + 5 ≤ L) {σ μ : us_S} (hR : lr_R σ μ) {H : Heap} {locs : List Loc} {ls : Array Slot} (h : lk_H D ad bd dA dB eA s H locs σ μ) (hl : lv_has ls 4 [(3, .int (nI i)), (0, .ref b), (1, .ref (ad 13)), (2, .ref (bd 13))]) (K : ∀ (σ μ : us_S) (H : Heap) (locs : List Loc) (ls : Array Slot), lr_R σ μ → lk_H D ad bd dA dB eA s H locs σ μ → lv_has ls 4 [(3, .int (nI i)), (0, .ref b), (1, .ref (ad 13)), (2, .ref (bd 13))] → W p l e room_1 s m #[Value.ref b] below meth c H locs 19 780 Q (F0 m 361 ls [])) : W p l e room_1 s m #[Value.ref b] below meth c H locs 19 780 Q (F0 m 203 ls []) := by
  refine lv_aload_n C.1 C.2.1 dL_law_203 rfl (lv_at hl 2 rfl) ?_
  refine lv_aload_n C.1 C.2.1 dL_law_204 rfl (lv_at hl 1 rfl) ?_
  refine lv_iload_n C.1 C.2.1 dL_law_205 rfl (lv_at hl 0 rfl) ?_
  refine lv_iconst (v := nI 1) C.1 C.2.1 dL_law_206 (by decide) ?_
  refine wn_add C.1 C.2.1 dL_law_207 ?_
  refine lk_sld C h (i := i + 1) (by omega) dL_law_208 ?_
  refine lk_callx (n := 1) (As := [.int (xs (i + 1))]) (rest := []) C hml h (x_length l D ad dA dB _ σ (xs (i + 1)) hR.1) q148 q149 q150 q151 rfl (by decide +kernel) rfl rfl ⟨Nat.le_of_ble_eq_true rfl, Nat.le_of_ble_eq_true rfl⟩ rfl hl.1 rfl (Nat.le_of_ble_eq_true rfl) dL_law_209 ⟨Nat.le_of_ble_eq_true rfl, Nat.le_of_ble_eq_true rfl⟩ (fun H locs h => ?_)
  refine lv_aload_n C.1 C.2.1 dL_law_212 rfl (lv_at hl 3 rfl) ?_
  refine lv_aload_n C.1 C.2.1 dL_law_213 rfl (lv_at hl 1 rfl) ?_
  refine lv_iload_n C.1 C.2.1 dL_law_214 rfl (lv_at hl 0 rfl) ?_
  refine lv_iconst (v := nI 1) C.1 C.2.1 dL_law_215 (by decide) ?_
  refine wn_add C.1 C.2.1 dL_law_216 ?_
  refine lk_sld C h (i := i + 1) (by omega) dL_law_217 ?_
  refine lk_callm (n := 1) (As := [.int (xs (i + 1))]) (rest := [.int _]) C hml h (m_length l D bd eA _ μ (xs (i + 1)) hR.2.1) q220 q221 q222 q223 rfl (by decide +kernel) rfl rfl ⟨Nat.le_of_ble_eq_true rfl, Nat.le_of_ble_eq_true rfl⟩ rfl hl.1 rfl (Nat.le_of_ble_eq_true rfl) dL_law_218 ⟨Nat.le_of_ble_eq_true rfl, Nat.le_of_ble_eq_true rfl⟩ (fun H locs h => ?_)
  obtain ⟨e1, e2⟩ := lr_len hR (xs (i + 1))
  exact lv_icmp_eq (tgt := 361) C.1 C.2.1 dL_law_221 (by decide) (fun _ => K _ _ _ _ _ e2 h hl) (fun z => absurd e1 z)
set_option maxHeartbeats 4000000 in
theorem lk_item {p : Program} {l : Launch} {e : Env} {s : State} {m : MethodId} {below : List Frame} {meth : Method} {c : Code} {D : va_G} {ad bd : Nat → Nat} {dA dB eA : ClassId} {b L : Nat} {xs : Nat → Int32} {Q : State → Prop} (C : lk_C D dA dB eA p s m c b L xs) (hml : c.maxLocals = 4) {i : Nat} (hi : i + 5 ≤ L) {σ μ : us_S} (hR : lr_R σ μ) {H : Heap} {locs : List Loc} {ls : Array Slot} (h : lk_H D ad bd dA dB eA s H locs σ μ) (hl : lv_has ls 4 [(3, .int (nI i)), (0, .ref b), (1, .ref (ad 13)), (2, .ref (bd 13))]) (K : ∀ (σ μ : us_S) (H : Heap) (locs : List Loc) (ls : Array Slot), lr_R σ μ → lk_H D ad bd dA dB eA s H locs σ μ → lv_has ls 4 [(3, .int (nI i)), (0, .ref b), (1, .ref (ad 13)), (2, .ref (bd 13))] → W p l e room_1 s m #[Value.ref b] below meth c H locs 19 780 Q (F0 m 361 ls [])) : W p l e room_1 s m #[Value.ref b] below meth c H locs 19 780 Q (F0 m 226 ls []) := by
  refine lv_aload_n C.1 C.2.1 dL_law_226 rfl (lv_at hl 2 rfl) ?_
  refine lv_aload_n C.1 C.2.1 dL_law_227 rfl (lv_at hl 1 rfl) ?_
  refine lv_iload_n C.1 C.2.1 dL_law_228 rfl (lv_at hl 0 rfl) ?_
  refine lv_iconst (v := nI 1) C.1 C.2.1 dL_law_229 (by decide) ?_
  refine wn_add C.1 C.2.1 dL_law_230 ?_
  refine lk_sld C h (i := i + 1) (by omega) dL_law_231 ?_
  refine lv_aload_n C.1 C.2.1 dL_law_232 rfl (lv_at hl 1 rfl) ?_
  refine lv_iload_n C.1 C.2.1 dL_law_233 rfl (lv_at hl 0 rfl) ?_
  refine lv_iconst (v := nI 2) C.1 C.2.1 dL_law_234 (by decide) ?_
  refine wn_add C.1 C.2.1 dL_law_235 ?_
  refine lk_sld C h (i := i + 2) (by omega) dL_law_236 ?_
  refine lk_callx (n := 2) (As := [.int (xs (i + 1)), .int (xs (i + 2))]) (rest := []) C hml h (x_item l D ad dA dB _ σ (xs (i + 1)) (xs (i + 2)) hR.1) q156 q157 q158 q159 rfl (by decide +kernel) rfl rfl ⟨Nat.le_of_ble_eq_true rfl, Nat.le_of_ble_eq_true rfl⟩ rfl hl.1 rfl (Nat.le_of_ble_eq_true rfl) dL_law_237 ⟨Nat.le_of_ble_eq_true rfl, Nat.le_of_ble_eq_true rfl⟩ (fun H locs h => ?_)
  refine lv_aload_n C.1 C.2.1 dL_law_240 rfl (lv_at hl 3 rfl) ?_
  refine lv_aload_n C.1 C.2.1 dL_law_241 rfl (lv_at hl 1 rfl) ?_
  refine lv_iload_n C.1 C.2.1 dL_law_242 rfl (lv_at hl 0 rfl) ?_
  refine lv_iconst (v := nI 1) C.1 C.2.1 dL_law_243 (by decide) ?_
  refine wn_add C.1 C.2.1 dL_law_244 ?_
  refine lk_sld C h (i := i + 1) (by omega) dL_law_245 ?_
  refine lv_aload_n C.1 C.2.1 dL_law_246 rfl (lv_at hl 1 rfl) ?_
  refine lv_iload_n C.1 C.2.1 dL_law_247 rfl (lv_at hl 0 rfl) ?_
  refine lv_iconst (v := nI 2) C.1 C.2.1 dL_law_248 (by decide) ?_
  refine wn_add C.1 C.2.1 dL_law_249 ?_
  refine lk_sld C h (i := i + 2) (by omega) dL_law_250 ?_
  refine lk_callm (n := 2) (As := [.int (xs (i + 1)), .int (xs (i + 2))]) (rest := [.int _]) C hml h (m_item l D bd eA _ μ (xs (i + 1)) (xs (i + 2)) hR.2.1) q256 q257 q258 q259 rfl (by decide +kernel) rfl rfl ⟨Nat.le_of_ble_eq_true rfl, Nat.le_of_ble_eq_true rfl⟩ rfl hl.1 rfl (Nat.le_of_ble_eq_true rfl) dL_law_251 ⟨Nat.le_of_ble_eq_true rfl, Nat.le_of_ble_eq_true rfl⟩ (fun H locs h => ?_)
  obtain ⟨e1, e2⟩ := lr_item hR (xs (i + 1)) (xs (i + 2))
  exact lv_icmp_eq (tgt := 361) C.1 C.2.1 dL_law_254 (by decide) (fun _ => K _ _ _ _ _ e2 h hl) (fun z => absurd e1 z)
set_option maxHeartbeats 4000000 in
theorem lk_sum {p : Program} {l : Launch} {e : Env} {s : State} {m : MethodId} {below : List Frame} {meth : Method} {c : Code} {D : va_G} {ad bd : Nat → Nat} {dA dB eA : ClassId} {b L : Nat} {xs : Nat → Int32} {Q : State → Prop} (C : lk_C D dA dB eA p s m c b L xs) (hml : c.maxLocals = 4) {i : Nat} (hi : i + 5 ≤ L) {σ μ : us_S} (hR : lr_R σ μ) {H : Heap} {locs : List Loc} {ls : Array Slot} (h : lk_H D ad bd dA dB eA s H locs σ μ) (hl : lv_has ls 4 [(3, .int (nI i)), (0, .ref b), (1, .ref (ad 13)), (2, .ref (bd 13))]) (K : ∀ (σ μ : us_S) (H : Heap) (locs : List Loc) (ls : Array Slot), lr_R σ μ → lk_H D ad bd dA dB eA s H locs σ μ → lv_has ls 4 [(3, .int (nI i)), (0, .ref b), (1, .ref (ad 13)), (2, .ref (bd 13))] → W p l e room_1 s m #[Value.ref b] below meth c H locs 19 780 Q (F0 m 361 ls [])) : W p l e room_1 s m #[Value.ref b] below meth c H locs 19 780 Q (F0 m 259 ls []) := by
  refine lv_aload_n C.1 C.2.1 dL_law_259 rfl (lv_at hl 2 rfl) ?_
  refine lv_aload_n C.1 C.2.1 dL_law_260 rfl (lv_at hl 1 rfl) ?_
  refine lv_iload_n C.1 C.2.1 dL_law_261 rfl (lv_at hl 0 rfl) ?_
  refine lv_iconst (v := nI 1) C.1 C.2.1 dL_law_262 (by decide) ?_
  refine wn_add C.1 C.2.1 dL_law_263 ?_
  refine lk_sld C h (i := i + 1) (by omega) dL_law_264 ?_
  refine lk_callx (n := 1) (As := [.int (xs (i + 1))]) (rest := []) C hml h (x_sum l D ad dA dB _ σ (xs (i + 1)) hR.1) q160 q161 q162 q163 rfl (by decide +kernel) rfl rfl ⟨Nat.le_of_ble_eq_true rfl, Nat.le_of_ble_eq_true rfl⟩ rfl hl.1 rfl (Nat.le_of_ble_eq_true rfl) dL_law_265 ⟨Nat.le_of_ble_eq_true rfl, Nat.le_of_ble_eq_true rfl⟩ (fun H locs h => ?_)
  refine lv_aload_n C.1 C.2.1 dL_law_268 rfl (lv_at hl 3 rfl) ?_
  refine lv_aload_n C.1 C.2.1 dL_law_269 rfl (lv_at hl 1 rfl) ?_
  refine lv_iload_n C.1 C.2.1 dL_law_270 rfl (lv_at hl 0 rfl) ?_
  refine lv_iconst (v := nI 1) C.1 C.2.1 dL_law_271 (by decide) ?_
  refine wn_add C.1 C.2.1 dL_law_272 ?_
  refine lk_sld C h (i := i + 1) (by omega) dL_law_273 ?_
  refine lk_callm (n := 1) (As := [.int (xs (i + 1))]) (rest := [.int _]) C hml h (m_sum l D bd eA _ μ (xs (i + 1)) hR.2.1) q260 q261 q262 q263 rfl (by decide +kernel) rfl rfl ⟨Nat.le_of_ble_eq_true rfl, Nat.le_of_ble_eq_true rfl⟩ rfl hl.1 rfl (Nat.le_of_ble_eq_true rfl) dL_law_274 ⟨Nat.le_of_ble_eq_true rfl, Nat.le_of_ble_eq_true rfl⟩ (fun H locs h => ?_)
  obtain ⟨e1, e2⟩ := lr_sum hR (xs (i + 1))
  exact lv_icmp_eq (tgt := 361) C.1 C.2.1 dL_law_277 (by decide) (fun _ => K _ _ _ _ _ e2 h hl) (fun z => absurd e1 z)
set_option maxHeartbeats 4000000 in
theorem lk_find {p : Program} {l : Launch} {e : Env} {s : State} {m : MethodId} {below : List Frame} {meth : Method} {c : Code} {D : va_G} {ad bd : Nat → Nat} {dA dB eA : ClassId} {b L : Nat} {xs : Nat → Int32} {Q : State → Prop} (C : lk_C D dA dB eA p s m c b L xs) (hml : c.maxLocals = 4) {i : Nat} (hi : i + 5 ≤ L) {σ μ : us_S} (hR : lr_R σ μ) {H : Heap} {locs : List Loc} {ls : Array Slot} (h : lk_H D ad bd dA dB eA s H locs σ μ) (hl : lv_has ls 4 [(3, .int (nI i)), (0, .ref b), (1, .ref (ad 13)), (2, .ref (bd 13))]) (K : ∀ (σ μ : us_S) (H : Heap) (locs : List Loc) (ls : Array Slot), lr_R σ μ → lk_H D ad bd dA dB eA s H locs σ μ → lv_has ls 4 [(3, .int (nI i)), (0, .ref b), (1, .ref (ad 13)), (2, .ref (bd 13))] → W p l e room_1 s m #[Value.ref b] below meth c H locs 19 780 Q (F0 m 361 ls [])) : W p l e room_1 s m #[Value.ref b] below meth c H locs 19 780 Q (F0 m 282 ls []) := by
  refine lv_aload_n C.1 C.2.1 dL_law_282 rfl (lv_at hl 2 rfl) ?_
  refine lv_aload_n C.1 C.2.1 dL_law_283 rfl (lv_at hl 1 rfl) ?_
  refine lv_iload_n C.1 C.2.1 dL_law_284 rfl (lv_at hl 0 rfl) ?_
  refine lv_iconst (v := nI 1) C.1 C.2.1 dL_law_285 (by decide) ?_
  refine wn_add C.1 C.2.1 dL_law_286 ?_
  refine lk_sld C h (i := i + 1) (by omega) dL_law_287 ?_
  refine lv_aload_n C.1 C.2.1 dL_law_288 rfl (lv_at hl 1 rfl) ?_
  refine lv_iload_n C.1 C.2.1 dL_law_289 rfl (lv_at hl 0 rfl) ?_
  refine lv_iconst (v := nI 2) C.1 C.2.1 dL_law_290 (by decide) ?_
  refine wn_add C.1 C.2.1 dL_law_291 ?_
  refine lk_sld C h (i := i + 2) (by omega) dL_law_292 ?_
  refine lk_callx (n := 2) (As := [.int (xs (i + 1)), .int (xs (i + 2))]) (rest := []) C hml h (x_find l D ad dA dB _ σ (xs (i + 1)) (xs (i + 2)) hR.1) q164 q165 q166 q167 rfl (by decide +kernel) rfl rfl ⟨Nat.le_of_ble_eq_true rfl, Nat.le_of_ble_eq_true rfl⟩ rfl hl.1 rfl (Nat.le_of_ble_eq_true rfl) dL_law_293 ⟨Nat.le_of_ble_eq_true rfl, Nat.le_of_ble_eq_true rfl⟩ (fun H locs h => ?_)
  refine lv_aload_n C.1 C.2.1 dL_law_296 rfl (lv_at hl 3 rfl) ?_
  refine lv_aload_n C.1 C.2.1 dL_law_297 rfl (lv_at hl 1 rfl) ?_
  refine lv_iload_n C.1 C.2.1 dL_law_298 rfl (lv_at hl 0 rfl) ?_
  refine lv_iconst (v := nI 1) C.1 C.2.1 dL_law_299 (by decide) ?_
  refine wn_add C.1 C.2.1 dL_law_300 ?_
  refine lk_sld C h (i := i + 1) (by omega) dL_law_301 ?_
  refine lv_aload_n C.1 C.2.1 dL_law_302 rfl (lv_at hl 1 rfl) ?_
  refine lv_iload_n C.1 C.2.1 dL_law_303 rfl (lv_at hl 0 rfl) ?_
  refine lv_iconst (v := nI 2) C.1 C.2.1 dL_law_304 (by decide) ?_
  refine wn_add C.1 C.2.1 dL_law_305 ?_
  refine lk_sld C h (i := i + 2) (by omega) dL_law_306 ?_
  refine lk_callm (n := 2) (As := [.int (xs (i + 1)), .int (xs (i + 2))]) (rest := [.int _]) C hml h (m_find l D bd eA _ μ (xs (i + 1)) (xs (i + 2)) hR.2.1) q264 q265 q266 q267 rfl (by decide +kernel) rfl rfl ⟨Nat.le_of_ble_eq_true rfl, Nat.le_of_ble_eq_true rfl⟩ rfl hl.1 rfl (Nat.le_of_ble_eq_true rfl) dL_law_307 ⟨Nat.le_of_ble_eq_true rfl, Nat.le_of_ble_eq_true rfl⟩ (fun H locs h => ?_)
  obtain ⟨e1, e2⟩ := lr_find hR (xs (i + 1)) (xs (i + 2))
  exact lv_icmp_eq (tgt := 361) C.1 C.2.1 dL_law_310 (by decide) (fun _ => K _ _ _ _ _ e2 h hl) (fun z => absurd e1 z)
set_option maxHeartbeats 4000000 in
theorem lk_same {p : Program} {l : Launch} {e : Env} {s : State} {m : MethodId} {below : List Frame} {meth : Method} {c : Code} {D : va_G} {ad bd : Nat → Nat} {dA dB eA : ClassId} {b L : Nat} {xs : Nat → Int32} {Q : State → Prop} (C : lk_C D dA dB eA p s m c b L xs) (hml : c.maxLocals = 4) {i : Nat} (hi : i + 5 ≤ L) {σ μ : us_S} (hR : lr_R σ μ) {H : Heap} {locs : List Loc} {ls : Array Slot} (h : lk_H D ad bd dA dB eA s H locs σ μ) (hl : lv_has ls 4 [(3, .int (nI i)), (0, .ref b), (1, .ref (ad 13)), (2, .ref (bd 13))]) (K : ∀ (σ μ : us_S) (H : Heap) (locs : List Loc) (ls : Array Slot), lr_R σ μ → lk_H D ad bd dA dB eA s H locs σ μ → lv_has ls 4 [(3, .int (nI i)), (0, .ref b), (1, .ref (ad 13)), (2, .ref (bd 13))] → W p l e room_1 s m #[Value.ref b] below meth c H locs 19 780 Q (F0 m 361 ls [])) : W p l e room_1 s m #[Value.ref b] below meth c H locs 19 780 Q (F0 m 315 ls []) := by
  refine lv_aload_n C.1 C.2.1 dL_law_315 rfl (lv_at hl 2 rfl) ?_
  refine lv_aload_n C.1 C.2.1 dL_law_316 rfl (lv_at hl 1 rfl) ?_
  refine lv_iload_n C.1 C.2.1 dL_law_317 rfl (lv_at hl 0 rfl) ?_
  refine lv_iconst (v := nI 1) C.1 C.2.1 dL_law_318 (by decide) ?_
  refine wn_add C.1 C.2.1 dL_law_319 ?_
  refine lk_sld C h (i := i + 1) (by omega) dL_law_320 ?_
  refine lv_aload_n C.1 C.2.1 dL_law_321 rfl (lv_at hl 1 rfl) ?_
  refine lv_iload_n C.1 C.2.1 dL_law_322 rfl (lv_at hl 0 rfl) ?_
  refine lv_iconst (v := nI 2) C.1 C.2.1 dL_law_323 (by decide) ?_
  refine wn_add C.1 C.2.1 dL_law_324 ?_
  refine lk_sld C h (i := i + 2) (by omega) dL_law_325 ?_
  refine lk_callx (n := 2) (As := [.int (xs (i + 1)), .int (xs (i + 2))]) (rest := []) C hml h (x_same l D ad dA dB _ σ (xs (i + 1)) (xs (i + 2)) hR.1) q168 q169 q170 q171 rfl (by decide +kernel) rfl rfl ⟨Nat.le_of_ble_eq_true rfl, Nat.le_of_ble_eq_true rfl⟩ rfl hl.1 rfl (Nat.le_of_ble_eq_true rfl) dL_law_326 ⟨Nat.le_of_ble_eq_true rfl, Nat.le_of_ble_eq_true rfl⟩ (fun H locs h => ?_)
  refine lv_aload_n C.1 C.2.1 dL_law_329 rfl (lv_at hl 3 rfl) ?_
  refine lv_aload_n C.1 C.2.1 dL_law_330 rfl (lv_at hl 1 rfl) ?_
  refine lv_iload_n C.1 C.2.1 dL_law_331 rfl (lv_at hl 0 rfl) ?_
  refine lv_iconst (v := nI 1) C.1 C.2.1 dL_law_332 (by decide) ?_
  refine wn_add C.1 C.2.1 dL_law_333 ?_
  refine lk_sld C h (i := i + 1) (by omega) dL_law_334 ?_
  refine lv_aload_n C.1 C.2.1 dL_law_335 rfl (lv_at hl 1 rfl) ?_
  refine lv_iload_n C.1 C.2.1 dL_law_336 rfl (lv_at hl 0 rfl) ?_
  refine lv_iconst (v := nI 2) C.1 C.2.1 dL_law_337 (by decide) ?_
  refine wn_add C.1 C.2.1 dL_law_338 ?_
  refine lk_sld C h (i := i + 2) (by omega) dL_law_339 ?_
  refine lk_callm (n := 2) (As := [.int (xs (i + 1)), .int (xs (i + 2))]) (rest := [.int _]) C hml h (m_same l D bd eA _ μ (xs (i + 1)) (xs (i + 2)) hR.2.1) q268 q269 q270 q271 rfl (by decide +kernel) rfl rfl ⟨Nat.le_of_ble_eq_true rfl, Nat.le_of_ble_eq_true rfl⟩ rfl hl.1 rfl (Nat.le_of_ble_eq_true rfl) dL_law_340 ⟨Nat.le_of_ble_eq_true rfl, Nat.le_of_ble_eq_true rfl⟩ (fun H locs h => ?_)
  obtain ⟨e1, e2⟩ := lr_same hR (xs (i + 1)) (xs (i + 2))
  exact lv_icmp_eq (tgt := 361) C.1 C.2.1 dL_law_343 (by decide) (fun _ => K _ _ _ _ _ e2 h hl) (fun z => absurd (by rw [e1]) z)
set_option maxHeartbeats 4000000 in
theorem lk_full {p : Program} {l : Launch} {e : Env} {s : State} {m : MethodId} {below : List Frame} {meth : Method} {c : Code} {D : va_G} {ad bd : Nat → Nat} {dA dB eA : ClassId} {b L : Nat} {xs : Nat → Int32} {Q : State → Prop} (C : lk_C D dA dB eA p s m c b L xs) (hml : c.maxLocals = 4) {i : Nat} (hi : i + 5 ≤ L) {σ μ : us_S} (hR : lr_R σ μ) {H : Heap} {locs : List Loc} {ls : Array Slot} (h : lk_H D ad bd dA dB eA s H locs σ μ) (hl : lv_has ls 4 [(3, .int (nI i)), (0, .ref b), (1, .ref (ad 13)), (2, .ref (bd 13))]) (K : ∀ (σ μ : us_S) (H : Heap) (locs : List Loc) (ls : Array Slot), lr_R σ μ → lk_H D ad bd dA dB eA s H locs σ μ → lv_has ls 4 [(3, .int (nI i)), (0, .ref b), (1, .ref (ad 13)), (2, .ref (bd 13))] → W p l e room_1 s m #[Value.ref b] below meth c H locs 19 780 Q (F0 m 361 ls [])) : W p l e room_1 s m #[Value.ref b] below meth c H locs 19 780 Q (F0 m 348 ls []) := by
  refine lv_aload_n C.1 C.2.1 dL_law_348 rfl (lv_at hl 2 rfl) ?_
  refine lk_callx (n := 0) (As := []) (rest := []) C hml h (x_full l D ad dA dB _ σ  hR.1) q172 q173 q174 q175 rfl (by decide +kernel) rfl rfl ⟨Nat.le_of_ble_eq_true rfl, Nat.le_of_ble_eq_true rfl⟩ rfl hl.1 rfl (Nat.le_of_ble_eq_true rfl) dL_law_349 ⟨Nat.le_of_ble_eq_true rfl, Nat.le_of_ble_eq_true rfl⟩ (fun H locs h => ?_)
  refine lv_aload_n C.1 C.2.1 dL_law_352 rfl (lv_at hl 3 rfl) ?_
  refine lk_callm (n := 0) (As := []) (rest := [.int _]) C hml h (m_full l D bd eA _ μ  hR.2.1) q272 q273 q274 q275 rfl (by decide +kernel) rfl rfl ⟨Nat.le_of_ble_eq_true rfl, Nat.le_of_ble_eq_true rfl⟩ rfl hl.1 rfl (Nat.le_of_ble_eq_true rfl) dL_law_353 ⟨Nat.le_of_ble_eq_true rfl, Nat.le_of_ble_eq_true rfl⟩ (fun H locs h => ?_)
  obtain ⟨e1, e2⟩ := lr_full hR
  exact lv_icmp_eq (tgt := 361) C.1 C.2.1 dL_law_356 (by decide) (fun _ => K _ _ _ _ _ e2 h hl) (fun z => absurd e1 z)
end
section
/-! THE LAW'S LOOP, and the law from its entry (by wip/D-64155w/gen/law.py) -/
set_option maxRecDepth 100000
set_option maxHeartbeats 4000000 in
theorem lk_loop {p : Program} {l : Launch} {e : Env} {s : State} {m : MethodId} {below : List Frame} {meth : Method} {c : Code} {D : va_G} {ad bd : Nat → Nat} {dA dB eA : ClassId} {b L : Nat} {xs : Nat → Int32} (C : lk_C D dA dB eA p s m c b L xs) (hml : c.maxLocals = 4) (hr : meth.sig.returnType = ret) (hlk : meth.locks = false) : ∀ (n i : Nat) (σ μ : us_S) (H : Heap) (locs : List Loc) (ls : Array Slot), i ≤ L → L + 1 ≤ i + n → lr_R σ μ → lk_H D ad bd dA dB eA s H locs σ μ → lv_has ls 4 [(3, .int (nI i)), (0, .ref b), (1, .ref (ad 13)), (2, .ref (bd 13))] → W p l e room_1 s m #[Value.ref b] below meth c H locs 19 780 (lw_Z below #[Value.ref b] s) (F0 m 18 ls []) := by
  have hL := C.2.2.2.2.2.2.2
  intro n
  induction n with
  | zero =>
    intro i σ μ H locs ls h1 h2
    exact absurd h2 (by omega)
  | succ n ih =>
    intro i σ μ H locs ls hi hin hR h hl
    refine lv_iload_n C.1 C.2.1 dL_law_18 rfl (lv_at hl 0 rfl) ?_
    refine lv_aload_n C.1 C.2.1 dL_law_19 rfl (lv_at hl 1 rfl) ?_
    refine lk_slen C h dL_law_20 ?_
    refine lv_iconst (v := nI 5) C.1 C.2.1 dL_law_21 (by decide) ?_
    refine lv_isub C.1 C.2.1 dL_law_22 ?_
    refine lv_icmp_gt (tgt := 367) C.1 C.2.1 dL_law_23 (by decide) (fun _ => ?_) (fun c23 => ?_)
    · refine lv_iconst (v := 1) C.1 C.2.1 dL_law_367 (by decide) ?_
      refine va_forget (fun q hq => h.2.2.2.2 q hq) ?_
      refine W.widen (k := 600000) (n := 7290000) (Nat.le_of_ble_eq_true rfl) (Nat.le_of_ble_eq_true rfl) ?_
      exact lw_ret C.1 C.2.1 hr hlk dL_law_368
    · have hi5 : i + 5 ≤ L := lk_gt (by omega) hL c23
      have K : ∀ (σ μ : us_S) (H : Heap) (locs : List Loc) (ls : Array Slot), lr_R σ μ → lk_H D ad bd dA dB eA s H locs σ μ → lv_has ls 4 [(3, .int (nI i)), (0, .ref b), (1, .ref (ad 13)), (2, .ref (bd 13))] → W p l e room_1 s m #[Value.ref b] below meth c H locs 19 780 (lw_Z below #[Value.ref b] s) (F0 m 361 ls []) := by
        intro σ μ H locs ls hR h hl
        refine lv_iinc (v := nI (i + 5)) (lv' := [(3, .int (nI (i + 5))), (0, .ref b), (1, .ref (ad 13)), (2, .ref (bd 13))]) C.1 C.2.1 dL_law_361 hl (k := 0) rfl (nI_add i 5) (by decide) rfl (fun ls hl => ?_)
        refine lv_goto (tgt := 18) C.1 C.2.1 dL_law_364 (by decide) ?_
        exact ih (i + 5) σ μ H locs ls hi5 (by omega) hR h hl
      refine lv_aload_n C.1 C.2.1 dL_law_26 rfl (lv_at hl 1 rfl) ?_
      refine lv_iload_n C.1 C.2.1 dL_law_27 rfl (lv_at hl 0 rfl) ?_
      refine lk_sld C h (i := i) (by omega) dL_law_28 ?_
      refine lv_bipush (v := nI 15) C.1 C.2.1 dL_law_29 (by decide) ?_
      refine lv_iand C.1 C.2.1 dL_law_31 ?_
      refine lv_topi (fun x _ => ?_)
      rcases (show x.toInt = 0 ∨ x.toInt = 1 ∨ x.toInt = 2 ∨ x.toInt = 3 ∨ x.toInt = 4 ∨ x.toInt = 5 ∨ x.toInt = 6 ∨ x.toInt = 7 ∨ x.toInt = 8 ∨ (x.toInt < 0 ∨ 8 < x.toInt) by omega) with z | z | z | z | z | z | z | z | z | z
      · refine lv_tableIn (tgt := 84) C.1 C.2.1 dL_law_32 (by rw [z]; decide) (by rw [z]; decide) (by rw [z]; rfl) (by decide) ?_
        exact lk_set C hml hi5 hR h hl K
      · refine lv_tableIn (tgt := 137) C.1 C.2.1 dL_law_32 (by rw [z]; decide) (by rw [z]; decide) (by rw [z]; rfl) (by decide) ?_
        exact lk_fire C hml hi5 hR h hl K
      · refine lv_tableIn (tgt := 170) C.1 C.2.1 dL_law_32 (by rw [z]; decide) (by rw [z]; decide) (by rw [z]; rfl) (by decide) ?_
        exact lk_exchange C hml hi5 hR h hl K
      · refine lv_tableIn (tgt := 203) C.1 C.2.1 dL_law_32 (by rw [z]; decide) (by rw [z]; decide) (by rw [z]; rfl) (by decide) ?_
        exact lk_length C hml hi5 hR h hl K
      · refine lv_tableIn (tgt := 226) C.1 C.2.1 dL_law_32 (by rw [z]; decide) (by rw [z]; decide) (by rw [z]; rfl) (by decide) ?_
        exact lk_item C hml hi5 hR h hl K
      · refine lv_tableIn (tgt := 259) C.1 C.2.1 dL_law_32 (by rw [z]; decide) (by rw [z]; decide) (by rw [z]; rfl) (by decide) ?_
        exact lk_sum C hml hi5 hR h hl K
      · refine lv_tableIn (tgt := 282) C.1 C.2.1 dL_law_32 (by rw [z]; decide) (by rw [z]; decide) (by rw [z]; rfl) (by decide) ?_
        exact lk_find C hml hi5 hR h hl K
      · refine lv_tableIn (tgt := 315) C.1 C.2.1 dL_law_32 (by rw [z]; decide) (by rw [z]; decide) (by rw [z]; rfl) (by decide) ?_
        exact lk_same C hml hi5 hR h hl K
      · refine lv_tableIn (tgt := 348) C.1 C.2.1 dL_law_32 (by rw [z]; decide) (by rw [z]; decide) (by rw [z]; rfl) (by decide) ?_
        exact lk_full C hml hi5 hR h hl K
      · refine lv_tableOut (tgt := 361) C.1 C.2.1 dL_law_32 z (by decide) ?_
        exact K σ μ H locs ls hR h hl
set_option maxHeartbeats 4000000 in
/-- from the entry, for every script of at most 320 ints, the law comes to its end with true -/
theorem whole_start {p : Program} {e : Env} {s : State} {m : MethodId} {below : List Frame} {meth : Method} {c : Code} (l : Launch) {b L : Nat} {xs : Nat → Int32} (hL : L ≤ 320) (C0 : lw_At p s m meth c b L xs) : W p l e room_1 s m #[Value.ref b] below meth c s.heap [] 0 0 (lw_Z below #[Value.ref b] s) (entryFrame m ([Value.ref b] : List Value).toArray 4) := by
  obtain ⟨hx, hb, hr, hml, hown, hts, hX, hbl, hlocks, hgv⟩ := id C0
  have hta : ∀ w ∈ lw_all, w.before #[Value.ref b] s = true := fun w h => hts w (lw_all_tbl h)
  have hb : c.code = cL_law := hb
  have hA : ∀ q : Nat, s.heap.size ≤ q → (fun q : Nat => s.heap.size ≤ q) q := fun _ h => h
  obtain ⟨c0, iS0, hKn0⟩ := u_known (C := RX0) (T := TX0) (N := 13) (n := 13) hta in_X0 (hta _ q28)
  obtain ⟨c1, iS1, hKn1⟩ := u_known (C := RX1) (T := TX1) (N := 7) (n := 7) hta in_X1 (hta _ q177)
  obtain ⟨D, hKc⟩ : ∃ D : va_G, ∀ (k : Nat) (q : vw_C), vwCl[k]? = some q → u_Kn s q.1 q.2.1 q.2.2 (D.1 k) (D.2 k) := by
    refine ⟨(fun k => if k = 0 then c0 else c1, fun k => if k = 0 then iS0 else iS1), ?_⟩
    intro k q hq
    match k, hq with
    | 0, hq => cases hq; exact hKn0
    | 1, hq => cases hq; exact hKn1
    | k + 2, hq => simp [vwCl] at hq
  have hS : va_S (fun q : Nat => s.heap.size ≤ q) s.heap s.heap [] := va_S.rf
  have hK : va_K D vwCl [] s := ⟨hKc, fun k q h => by simp at h⟩
  have hP : va_P D vwCl [] s.heap := fun k q h => by simp at h
  have hD : va_D (fun q : Nat => s.heap.size ≤ q) [] := ⟨fun i j p q h => by simp at h, fun k q h => by simp at h⟩
  have hl := lv_entry ([.ref b]) (n := 4) (Nat.le_of_ble_eq_true rfl)
  rw [lg_entry_eq]
  generalize (lg_sl ([.ref b]) ++ List.replicate (4 - (lg_sl ([.ref b])).length) Slot.unset).toArray = ls at hl ⊢
  have hl : lv_has ls 4 [(0, .ref b)] := hl
  refine va_new (ci := 0) (fs := [.null, .null, .null, .null, .null, .null, .null, .null, .null, .int 0, .int 0, .null, .null]) (C := RX0) (T := TX0) (N := 13) hx hb hta in_X0 tyX0 tyX0_ok hown (hta _ q27) (hta _ q28) (hta _ q25) hK hP hD hS hA rfl (fun j hj => by rcases (show j = 0 ∨ j = 1 ∨ j = 2 ∨ j = 3 ∨ j = 4 ∨ j = 5 ∨ j = 6 ∨ j = 7 ∨ j = 8 ∨ j = 9 ∨ j = 10 ∨ j = 11 ∨ j = 12 by omega) with rfl | rfl | rfl | rfl | rfl | rfl | rfl | rfl | rfl | rfl | rfl | rfl | rfl <;> rfl) (Nat.le_of_ble_eq_true rfl) (Nat.le_of_ble_eq_true rfl) dL_law_0 (fun qx H hP hD hS => ?_)
  have hP : va_P D vwCl ([(qx, .inr (0, [.null, .null, .null, .null, .null, .null, .null, .null, .null, .int 0, .int 0, .null, .null]))]) H := hP
  have hD : va_D (fun q : Nat => s.heap.size ≤ q) ([(qx, .inr (0, [.null, .null, .null, .null, .null, .null, .null, .null, .null, .int 0, .int 0, .null, .null]))]) := hD
  refine W.widen (k := 1) (n := 13) (Nat.le_of_ble_eq_true rfl) (Nat.le_of_ble_eq_true rfl) ?_
  refine lv_dup hx hb dL_law_3 rfl ?_
  have hPc := hP.sub (ws' := [(qx, .inr (0, [.null, .null, .null, .null, .null, .null, .null, .null, .null, .int 0, .int 0, .null, .null]))]) [0] rfl
  have hDc := hD.sub (ws' := [(qx, .inr (0, [.null, .null, .null, .null, .null, .null, .null, .null, .null, .int 0, .int 0, .null, .null]))]) [0] (by decide) rfl
  have hKc : va_K D vwCl [] s := hK.sub (tys' := []) [] rfl
  have hFc := va_free (wc := [(qx, .inr (0, [.null, .null, .null, .null, .null, .null, .null, .null, .null, .int 0, .int 0, .null, .null]))]) hD hS hA [0] rfl
  refine va_callv (va_runI (As := []) (rest := [.ref qx]) ⟨hx, hb, hml, hown, hta⟩ (x_init l D qx H.size) (cwI 0 hta (lw_meth q31) rfl rfl rfl (hta _ q25) (hta _ q29) (hta _ q30) rfl (by decide +kernel) ⟨Nat.le_of_ble_eq_true rfl, Nat.le_of_ble_eq_true rfl⟩) ⟨fun a U g mk q => by obtain ⟨q0, q1, qP, qK, qD⟩ := q; exact ⟨q0, q1, qP, va_K.moved (u := U) (U := U.calling g mk a) (Vm.Alike.refl U.vm) qK, qD⟩, fun U hU hW => ⟨rfl, by rw [hU], by rw [hU]; exact hPc, va_K.moved hW.alike hKc, hDc.weaken (fun _ _ _ _ => trivial)⟩⟩ rfl rfl hl.1 rfl (lv_room (Nat.le_of_ble_eq_true rfl)) dL_law_4 ⟨Nat.le_of_ble_eq_true rfl, Nat.le_of_ble_eq_true rfl⟩) hS (fun q _ h => hFc q h) hFc (fun u t H1 locs ht hvm hw hB hz1 hk1 hS => ?_)
  obtain ⟨ad, dA, dB⟩ := u
  obtain ⟨hP1, hK1, hD1⟩ := hB
  have hw1 : ad 13 = qx := hw
  dsimp only at hP1 hK1 hD1
  rw [ht] at hP1
  have hK1 := va_K.moved hvm.symm hK1
  generalize hσ : xc_restart (xc_i8 8 0 us_0) = σ at hP1 hD1
  obtain ⟨hP, hD⟩ := va_join (wr := []) (w1 := xw_W ad dA dB σ) hP hD [0] [] rfl rfl (by decide) (by decide) hk1 hFc hP1 hD1
  have hK : va_K D vwCl [(dA, .int), (dB, .boolean)] s := hK1
  generalize H1 = H at hP hS ⊢
  have hP : va_P D vwCl (xw_W ad dA dB σ) H := hP
  have hD : va_D (fun q : Nat => s.heap.size ≤ q) (xw_W ad dA dB σ) := hD
  refine W.widen (k := 12) (n := 413) (Nat.le_of_ble_eq_true rfl) (Nat.le_of_ble_eq_true rfl) ?_
  refine lv_astore_n (lv' := [(1, .ref qx), (0, .ref b)]) hx hb dL_law_7 rfl hl (by decide) rfl (fun ls hl => ?_)
  refine va_new (ci := 1) (fs := [.null, .null, .null, .null, .int 0, .null, .null]) (C := RX1) (T := TX1) (N := 7) hx hb hta in_X1 tyX1 tyX1_ok hown (hta _ q176) (hta _ q177) (hta _ q26) hK hP hD hS hA rfl (fun j hj => by rcases (show j = 0 ∨ j = 1 ∨ j = 2 ∨ j = 3 ∨ j = 4 ∨ j = 5 ∨ j = 6 by omega) with rfl | rfl | rfl | rfl | rfl | rfl | rfl <;> rfl) (Nat.le_of_ble_eq_true rfl) (Nat.le_of_ble_eq_true rfl) dL_law_8 (fun qm H hP hD hS => ?_)
  have hP : va_P D vwCl (xw_W ad dA dB σ ++ [(qm, .inr (1, [.null, .null, .null, .null, .int 0, .null, .null]))]) H := hP
  have hD : va_D (fun q : Nat => s.heap.size ≤ q) (xw_W ad dA dB σ ++ [(qm, .inr (1, [.null, .null, .null, .null, .int 0, .null, .null]))]) := hD
  refine W.widen (k := 13) (n := 420) (Nat.le_of_ble_eq_true rfl) (Nat.le_of_ble_eq_true rfl) ?_
  refine lv_dup hx hb dL_law_11 rfl ?_
  have hPc := hP.sub (ws' := [(qm, .inr (1, [.null, .null, .null, .null, .int 0, .null, .null]))]) [12] rfl
  have hDc := hD.sub (ws' := [(qm, .inr (1, [.null, .null, .null, .null, .int 0, .null, .null]))]) [12] (by decide) rfl
  have hKc : va_K D vwCl [] s := hK.sub (tys' := []) [] rfl
  have hFc := va_free (wc := [(qm, .inr (1, [.null, .null, .null, .null, .int 0, .null, .null]))]) hD hS hA [12] rfl
  refine va_callv (va_runI (As := []) (rest := [.ref qm]) ⟨hx, hb, hml, hown, hta⟩ (m_init l D qm H.size) (cwI 0 hta (lw_meth q180) rfl rfl rfl (hta _ q26) (hta _ q178) (hta _ q179) rfl (by decide +kernel) ⟨Nat.le_of_ble_eq_true rfl, Nat.le_of_ble_eq_true rfl⟩) ⟨fun a U g mk q => by obtain ⟨q0, q1, qP, qK, qD⟩ := q; exact ⟨q0, q1, qP, va_K.moved (u := U) (U := U.calling g mk a) (Vm.Alike.refl U.vm) qK, qD⟩, fun U hU hW => ⟨rfl, by rw [hU], by rw [hU]; exact hPc, va_K.moved hW.alike hKc, hDc.weaken (fun _ _ _ _ => trivial)⟩⟩ rfl rfl hl.1 rfl (lv_room (Nat.le_of_ble_eq_true rfl)) dL_law_12 ⟨Nat.le_of_ble_eq_true rfl, Nat.le_of_ble_eq_true rfl⟩) hS (fun q _ h => hFc q h) hFc (fun u t H1 locs ht hvm hw hB hz1 hk1 hS => ?_)
  obtain ⟨bd, eA⟩ := u
  obtain ⟨hP1, hK1, hD1⟩ := hB
  have hw2 : bd 13 = qm := hw
  dsimp only at hP1 hK1 hD1
  rw [ht] at hP1
  have hK1 := va_K.moved hvm.symm hK1
  generalize hμ : xc_i8 8 0 us_0 = μ at hP1 hD1
  obtain ⟨hP, hD⟩ := va_join (wr := xw_W ad dA dB σ) (w1 := mw_W bd eA μ) hP hD [12] [0, 1, 2, 3, 4, 5, 6, 7, 8, 9, 10, 11] rfl rfl (by decide) (by decide) hk1 hFc hP1 hD1
  have hK : va_K D vwCl [(dA, .int), (dB, .boolean), (eA, .int)] s := hK.app hK1
  generalize H1 = H at hP hS ⊢
  refine W.widen (k := 19) (n := 780) (Nat.le_of_ble_eq_true rfl) (Nat.le_of_ble_eq_true rfl) ?_
  refine lv_astore_n (lv' := [(2, .ref qm), (1, .ref qx), (0, .ref b)]) hx hb dL_law_15 rfl hl (by decide) rfl (fun ls hl => ?_)
  refine lv_iconst (v := nI 0) hx hb dL_law_16 (by decide) ?_
  refine lv_istore_n (lv' := [(3, .int (nI 0)), (2, .ref qm), (1, .ref qx), (0, .ref b)]) hx hb dL_law_17 rfl hl (by decide) rfl (fun ls hl => ?_)
  rw [← hw2, ← hw1] at hl
  have C : lk_C D dA dB eA p s m c b L xs := ⟨hx, hb, hta, hown, hK, hX, hbl, hL⟩
  exact lk_loop C hml hr hlocks (L + 1) 0 σ μ H _ ls (Nat.zero_le _) (by omega) (by rw [← hσ, ← hμ]; exact lr_init) ⟨hP, hD, hS⟩ (lv_sub hl [0, 3, 2, 1] rfl)
end
section
set_option maxRecDepth 100000
set_option maxHeartbeats 4000000 in
theorem lw_walk (l : Launch) (b : Addr) (xs : List Int32) : MetFree l x (headSpec (Jvm.Cond.code x code maxLocals ret :: tables_1) room_1) (lw_P b xs) (fun _ _ _ _ _ => True) lw_Q := by
  refine MetFree.of_bodyS (code := code) (maxLocals := maxLocals) (ret := ret) (by decide) ?_ ?_
  · intro args s m h hn
    obtain ⟨meth, c, h1, h2, h3, h4, h5, h6, -, -⟩ := Cond.code_spec hn (atoms_spec (ws := Jvm.Cond.code x code maxLocals ret :: tables_1) h _ List.mem_cons_self)
    exact ⟨meth, c, h1, h2, h3, h4, h5, h6⟩
  · intro p e s m args below meth c s₁ B hml0 hP _
    obtain ⟨rfl, hx, hbd, hgv⟩ := hP
    obtain ⟨scr, harrAt, hlist, hof, hsmall⟩ := hx
    obtain ⟨hcb, hkn, -, -⟩ := State.arrayAt?_spec harrAt
    have hown : s.vm.findClass R_law = some m.cls := findClass_of_methodNamed B.named
    have hts0 : ∀ c ∈ (Jvm.Cond.code x code maxLocals ret :: tables_1), c.before #[Value.ref b] s = true := atoms_spec (ws := Jvm.Cond.code x code maxLocals ret :: tables_1) B.pre
    have hts : ∀ w ∈ lw_tbl, w.before #[Value.ref b] s = true := k2_hts_sels lw_privs (fun w hw => hts0 w (List.mem_cons_of_mem _ hw)) lw_privs_ok
    have hml : c.maxLocals = 4 := B.maxLocals_eq (hts0 _ List.mem_cons_self)
    have X₀ : Stand p l e room_1 s m #[Value.ref b] below meth c s₁ [] 0 0 := Stand.of_body B
    have hh0 : s₁.heap = s.heap := by rw [B.state]; rfl
    have hsz : scr.slots.size = xs.length := by rw [← Array.length_toList, hlist, List.length_map]
    have hval : ∀ j : Nat, j < xs.length → scr.slots[j]? = some (.int (xs.getD j 0)) := fun j hj => by
      rw [← Array.getElem?_toList, hlist]
      simp [hj]
    have hbl : b < s.heap.size := (Array.getElem?_eq_some_iff.mp hcb).1
    have hX : va_X b xs.length (fun j => xs.getD j 0) s s.heap := ⟨scr, hcb, hof, hkn, hsz, hval⟩
    have K : W p l e room_1 s m #[Value.ref b] below meth c s₁.heap [] 0 0 (lw_Z below #[Value.ref b] s) (entryFrame m ([Value.ref b] : List Value).toArray 4) := by
      rw [hh0]
      exact whole_start l hbd ⟨B.exec, B.bytes, B.returns, hml, hown, hts, hX, hbl, B.notSynchronized, hgv⟩
    obtain ⟨t, a1, o, b1, b2, b3⟩ := K s₁ rfl X₀
    exact ⟨t, o, a1, b1, b2, b3⟩
theorem lw_pre_spec {args : Array Value} {s : State} (h : (Jvm.Cond.and given_1 narrow_1).before args s = true) (hr : rest_1_c.before args s = true) : ∃ (b : Addr) (xs : List Int32), lw_P b xs args s := by
  have hs := flat_of_before _ h
  have hq := flat_of_before _ hr
  have hc : (Cond.count 1).before args s = true := hs _ (by decide +kernel)
  have harr : (Cond.arrayOf (.arg 0) .int).before args s = true := hs _ (by decide +kernel)
  have hle : (Cond.le (.length (.arg 0)) (.int 320)).before args s = true := hs _ (by decide +kernel)
  have hlen : (Cond.isInt (.length (.arg 0))).before args s = true := hq _ (by decide +kernel)
  have hall : (Cond.all (.arg 0) (.isInt (.elem (.arg 0) (.index 0)))).before args s = true := hq _ (by decide +kernel)
  obtain ⟨b, xs, hb, hx⟩ := State.ints_of_pre rfl harr hlen hall
  have hsm : xs.length < 2 ^ 31 := hx.choose_spec.2.2.2
  have hev : (Term.length (.arg 0)).eval args s none [] s = some (.int xs.length.toInt32) := hx.length_eval hb
  have hv := Cond.le_ints hev (show (Term.int 320).eval args s none [] s = some (.int 320) from rfl)
  have hd : xs.length.toInt32 ≤ 320 := by
    simpa [Cond.before, Cond.holds, hv] using hle
  have hN : xs.length ≤ 320 := (Int32.ofNat_le_ofNat hsm (by decide)).mp (show Int32.ofNat xs.length ≤ Int32.ofNat 320 from hd)
  exact ⟨b, xs, Cond.one_arg hc (show args[0]? = some (.ref b) from hb), hx, hN, h⟩
theorem lw_comes (l : Launch) : Comes l x (Jvm.Cond.code x code maxLocals ret :: tables_1) room_1 (fun tb e args s => Calls_1 tb e args s ∧ rest_1 tb e args s ∧ Pre_1 tb e args s)
    (fun _ _ args s o t => lw_Q args s o t) := by
  intro p e ha hc hk s m args below hf hfit hheap happ hpre
  obtain ⟨b, xs, hP⟩ := lw_pre_spec hpre.2.2 hpre.2.1
  obtain ⟨k, o, h1, h2, h3, hQ⟩ := lw_walk l b xs p e ha hc hk s m args below hf ((Spec.applies_iff_loose hf).mp happ).1 hP trivial
  exact ⟨k, o, h1, h2, h3, hQ⟩
theorem lw_frame {s t : State} {o : Outcome} {args : Array Value} (h : Framed s o t [] 600000 7290000) :
    Framed s o t (fieldLocs frame_1_writes args s ++ arrayLocs frame_1_arrays args s ++ staticLocs frame_1_statics s) 600000 7290000 := h
theorem lw_limb (L : Cond) (hL : ∀ (args : Array Value) (s t : State), L.after args s (.returned (some (.int 1))) t = true) :
    ArmFor flags0 classFile x code maxLocals ret World_1 tables_1 room_1 Calls_1 rest_1 Pre_1
      (fun tb e a s o t => postC L tb e a s o t ∧ Framed s o t (fieldLocs frame_1_writes a s ++ arrayLocs frame_1_arrays a s ++ staticLocs frame_1_statics s) 600000 7290000) := by
  intro l _ _ _ p e ha hc hk s m args below hf hfit hheap happ hpre
  obtain ⟨k, o, h1, h2, h3, rfl, hF⟩ := lw_comes l p e ha hc hk s m args below hf hfit hheap happ hpre
  exact ⟨k, _, h1, h2, h3, hL args s _, lw_frame hF⟩
theorem i_vc : Claimed_1_1 ∧ Claimed_1_2 := ⟨lw_limb limb_1_1 (fun args s t => by simp [limb_1_1, Cond.after, Cond.holds, Cond.value]), lw_limb limb_1_2 (fun args s t => Cond.after_iff.mpr (by
  first | (rw [show limb_1_2 = Cond.eq .result (.int 1) from rfl, Cond.eq_ints (x := 1) (y := 1) rfl rfl]; simp; done) | (simp [limb_1_2, Cond.value, Term.eval]; done)))⟩
end
