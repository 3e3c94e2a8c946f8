section
-- ===== PART A: goes FIRST, ahead of the names: the tables' words, and 'selects' of the private methods out of them =====
/-- a private method of a class that the tables say can be made, by its rows of tables_1 -/
def lw_okq (q : MethodName × Nat) : Prop := (q.1.cls ≠ "java/lang/invoke/MethodHandle" ∧ q.1.cls ≠ "java/lang/invoke/VarHandle") ∧ Cond.instantiable q.1.cls q.2 ∈ tables_1 ∧ Cond.privateMethod q.1 ∈ tables_1 ∧ Cond.instanceMethod q.1 ∈ tables_1
set_option maxRecDepth 100000
theorem lw_t1 {w : Cond} (h : w ∈ tables_1_1) : w ∈ tables_1 := List.mem_append_left _ h
theorem lw_t2 {w : Cond} (h : w ∈ tables_1_2) : w ∈ tables_1 := List.mem_append_right _ h
theorem lw_p0 : lw_okq (⟨"BundleMachine", "isRegister", "(I)Z"⟩, 25) := ⟨⟨by decide +kernel, by decide +kernel⟩, lw_t1 (List.mem_of_getElem? (i := 4) rfl), lw_t1 (List.mem_of_getElem? (i := 95) rfl), lw_t1 (List.mem_of_getElem? (i := 96) rfl)⟩
theorem lw_p1 : lw_okq (⟨"BundleMachine", "pack", "()V"⟩, 25) := ⟨⟨by decide +kernel, by decide +kernel⟩, lw_t1 (List.mem_of_getElem? (i := 4) rfl), lw_t1 (List.mem_of_getElem? (i := 111) rfl), lw_t1 (List.mem_of_getElem? (i := 112) rfl)⟩
theorem lw_p2 : lw_okq (⟨"BundleMachine", "lower", "()V"⟩, 25) := ⟨⟨by decide +kernel, by decide +kernel⟩, lw_t1 (List.mem_of_getElem? (i := 4) rfl), lw_t1 (List.mem_of_getElem? (i := 115) rfl), lw_t1 (List.mem_of_getElem? (i := 116) rfl)⟩
theorem lw_p3 : lw_okq (⟨"BundleMachine", "clusterOf", "(I)I"⟩, 25) := ⟨⟨by decide +kernel, by decide +kernel⟩, lw_t1 (List.mem_of_getElem? (i := 4) rfl), lw_t1 (List.mem_of_getElem? (i := 119) rfl), lw_t1 (List.mem_of_getElem? (i := 120) rfl)⟩
theorem lw_p4 : lw_okq (⟨"BundleMachine", "localCopy", "(II)I"⟩, 25) := ⟨⟨by decide +kernel, by decide +kernel⟩, lw_t1 (List.mem_of_getElem? (i := 4) rfl), lw_t1 (List.mem_of_getElem? (i := 123) rfl), lw_t1 (List.mem_of_getElem? (i := 124) rfl)⟩
theorem lw_p5 : lw_okq (⟨"BundleMachine", "addOp", "(IIIII)V"⟩, 25) := ⟨⟨by decide +kernel, by decide +kernel⟩, lw_t1 (List.mem_of_getElem? (i := 4) rfl), lw_t1 (List.mem_of_getElem? (i := 127) rfl), lw_t1 (List.mem_of_getElem? (i := 128) rfl)⟩
theorem lw_p6 : lw_okq (⟨"BundleMachine", "findUrgency", "()V"⟩, 25) := ⟨⟨by decide +kernel, by decide +kernel⟩, lw_t1 (List.mem_of_getElem? (i := 4) rfl), lw_t1 (List.mem_of_getElem? (i := 131) rfl), lw_t1 (List.mem_of_getElem? (i := 132) rfl)⟩
theorem lw_p7 : lw_okq (⟨"BundleMachine", "timeOf", "(I)I"⟩, 25) := ⟨⟨by decide +kernel, by decide +kernel⟩, lw_t1 (List.mem_of_getElem? (i := 4) rfl), lw_t1 (List.mem_of_getElem? (i := 135) rfl), lw_t1 (List.mem_of_getElem? (i := 136) rfl)⟩
theorem lw_p8 : lw_okq (⟨"BundleMachine", "separation", "(II)I"⟩, 25) := ⟨⟨by decide +kernel, by decide +kernel⟩, lw_t1 (List.mem_of_getElem? (i := 4) rfl), lw_t1 (List.mem_of_getElem? (i := 139) rfl), lw_t1 (List.mem_of_getElem? (i := 140) rfl)⟩
theorem lw_p9 : lw_okq (⟨"BundleMachine", "readSet", "(I)I"⟩, 25) := ⟨⟨by decide +kernel, by decide +kernel⟩, lw_t1 (List.mem_of_getElem? (i := 4) rfl), lw_t1 (List.mem_of_getElem? (i := 143) rfl), lw_t1 (List.mem_of_getElem? (i := 144) rfl)⟩
theorem lw_p10 : lw_okq (⟨"BundleMachine", "touchesMemory", "(I)Z"⟩, 25) := ⟨⟨by decide +kernel, by decide +kernel⟩, lw_t1 (List.mem_of_getElem? (i := 4) rfl), lw_t1 (List.mem_of_getElem? (i := 147) rfl), lw_t1 (List.mem_of_getElem? (i := 148) rfl)⟩
theorem lw_p11 : lw_okq (⟨"BundleMachine", "schedule", "()V"⟩, 25) := ⟨⟨by decide +kernel, by decide +kernel⟩, lw_t1 (List.mem_of_getElem? (i := 4) rfl), lw_t1 (List.mem_of_getElem? (i := 151) rfl), lw_t1 (List.mem_of_getElem? (i := 152) rfl)⟩
theorem lw_p12 : lw_okq (⟨"BundleMachine", "mostUrgent", "()I"⟩, 25) := ⟨⟨by decide +kernel, by decide +kernel⟩, lw_t1 (List.mem_of_getElem? (i := 4) rfl), lw_t1 (List.mem_of_getElem? (i := 155) rfl), lw_t1 (List.mem_of_getElem? (i := 156) rfl)⟩
theorem lw_p13 : lw_okq (⟨"BundleMachine", "isFree", "(I)Z"⟩, 25) := ⟨⟨by decide +kernel, by decide +kernel⟩, lw_t1 (List.mem_of_getElem? (i := 4) rfl), lw_t1 (List.mem_of_getElem? (i := 159) rfl), lw_t1 (List.mem_of_getElem? (i := 160) rfl)⟩
theorem lw_p14 : lw_okq (⟨"BundleMachine", "earliest", "(I)I"⟩, 25) := ⟨⟨by decide +kernel, by decide +kernel⟩, lw_t1 (List.mem_of_getElem? (i := 4) rfl), lw_t1 (List.mem_of_getElem? (i := 163) rfl), lw_t1 (List.mem_of_getElem? (i := 164) rfl)⟩
theorem lw_p15 : lw_okq (⟨"BundleMachine", "unitOf", "(I)I"⟩, 25) := ⟨⟨by decide +kernel, by decide +kernel⟩, lw_t1 (List.mem_of_getElem? (i := 4) rfl), lw_t1 (List.mem_of_getElem? (i := 167) rfl), lw_t1 (List.mem_of_getElem? (i := 168) rfl)⟩
def lw_privs_1 : List (MethodName × Nat) := [(⟨"BundleMachine", "isRegister", "(I)Z"⟩, 25), (⟨"BundleMachine", "pack", "()V"⟩, 25), (⟨"BundleMachine", "lower", "()V"⟩, 25), (⟨"BundleMachine", "clusterOf", "(I)I"⟩, 25), (⟨"BundleMachine", "localCopy", "(II)I"⟩, 25), (⟨"BundleMachine", "addOp", "(IIIII)V"⟩, 25), (⟨"BundleMachine", "findUrgency", "()V"⟩, 25), (⟨"BundleMachine", "timeOf", "(I)I"⟩, 25), (⟨"BundleMachine", "separation", "(II)I"⟩, 25), (⟨"BundleMachine", "readSet", "(I)I"⟩, 25), (⟨"BundleMachine", "touchesMemory", "(I)Z"⟩, 25), (⟨"BundleMachine", "schedule", "()V"⟩, 25), (⟨"BundleMachine", "mostUrgent", "()I"⟩, 25), (⟨"BundleMachine", "isFree", "(I)Z"⟩, 25), (⟨"BundleMachine", "earliest", "(I)I"⟩, 25), (⟨"BundleMachine", "unitOf", "(I)I"⟩, 25)]
theorem lw_r1 : ∀ q ∈ lw_privs_1, lw_okq q := List.forall_mem_cons.mpr ⟨lw_p0, List.forall_mem_cons.mpr ⟨lw_p1, List.forall_mem_cons.mpr ⟨lw_p2, List.forall_mem_cons.mpr ⟨lw_p3, List.forall_mem_cons.mpr ⟨lw_p4, List.forall_mem_cons.mpr ⟨lw_p5, List.forall_mem_cons.mpr ⟨lw_p6, List.forall_mem_cons.mpr ⟨lw_p7, List.forall_mem_cons.mpr ⟨lw_p8, List.forall_mem_cons.mpr ⟨lw_p9, List.forall_mem_cons.mpr ⟨lw_p10, List.forall_mem_cons.mpr ⟨lw_p11, List.forall_mem_cons.mpr ⟨lw_p12, List.forall_mem_cons.mpr ⟨lw_p13, List.forall_mem_cons.mpr ⟨lw_p14, List.forall_mem_cons.mpr ⟨lw_p15, fun _ h => absurd h List.not_mem_nil⟩⟩⟩⟩⟩⟩⟩⟩⟩⟩⟩⟩⟩⟩⟩⟩
theorem lw_p16 : lw_okq (⟨"BundleMachine", "encode", "()V"⟩, 25) := ⟨⟨by decide +kernel, by decide +kernel⟩, lw_t1 (List.mem_of_getElem? (i := 4) rfl), lw_t1 (List.mem_of_getElem? (i := 171) rfl), lw_t1 (List.mem_of_getElem? (i := 172) rfl)⟩
theorem lw_p17 : lw_okq (⟨"BundleMachine", "encoded", "(I)I"⟩, 25) := ⟨⟨by decide +kernel, by decide +kernel⟩, lw_t1 (List.mem_of_getElem? (i := 4) rfl), lw_t1 (List.mem_of_getElem? (i := 175) rfl), lw_t1 (List.mem_of_getElem? (i := 176) rfl)⟩
theorem lw_p18 : lw_okq (⟨"BundleMachine", "execute", "()V"⟩, 25) := ⟨⟨by decide +kernel, by decide +kernel⟩, lw_t1 (List.mem_of_getElem? (i := 4) rfl), lw_t1 (List.mem_of_getElem? (i := 181) rfl), lw_t1 (List.mem_of_getElem? (i := 182) rfl)⟩
theorem lw_p19 : lw_okq (⟨"BundleMachine", "landResults", "()V"⟩, 25) := ⟨⟨by decide +kernel, by decide +kernel⟩, lw_t1 (List.mem_of_getElem? (i := 4) rfl), lw_t1 (List.mem_of_getElem? (i := 185) rfl), lw_t1 (List.mem_of_getElem? (i := 186) rfl)⟩
theorem lw_p20 : lw_okq (⟨"BundleMachine", "issue", "(I)V"⟩, 25) := ⟨⟨by decide +kernel, by decide +kernel⟩, lw_t1 (List.mem_of_getElem? (i := 4) rfl), lw_t1 (List.mem_of_getElem? (i := 189) rfl), lw_t1 (List.mem_of_getElem? (i := 190) rfl)⟩
theorem lw_p21 : lw_okq (⟨"BundleMachine", "fly", "(III)V"⟩, 25) := ⟨⟨by decide +kernel, by decide +kernel⟩, lw_t1 (List.mem_of_getElem? (i := 4) rfl), lw_t1 (List.mem_of_getElem? (i := 193) rfl), lw_t1 (List.mem_of_getElem? (i := 194) rfl)⟩
theorem lw_p22 : lw_okq (⟨"BundleMachine", "combined", "(III)I"⟩, 25) := ⟨⟨by decide +kernel, by decide +kernel⟩, lw_t1 (List.mem_of_getElem? (i := 4) rfl), lw_t1 (List.mem_of_getElem? (i := 197) rfl), lw_t1 (List.mem_of_getElem? (i := 198) rfl)⟩
theorem lw_p23 : lw_okq (⟨"BundleMachine", "weigh", "()V"⟩, 25) := ⟨⟨by decide +kernel, by decide +kernel⟩, lw_t1 (List.mem_of_getElem? (i := 4) rfl), lw_t1 (List.mem_of_getElem? (i := 221) rfl), lw_t1 (List.mem_of_getElem? (i := 222) rfl)⟩
theorem lw_p24 : lw_okq (⟨"BundleMachine", "hangsOn", "(I)I"⟩, 25) := ⟨⟨by decide +kernel, by decide +kernel⟩, lw_t1 (List.mem_of_getElem? (i := 4) rfl), lw_t1 (List.mem_of_getElem? (i := 225) rfl), lw_t1 (List.mem_of_getElem? (i := 226) rfl)⟩
theorem lw_p25 : lw_okq (⟨"BundleMachine", "readBySource", "(I)I"⟩, 25) := ⟨⟨by decide +kernel, by decide +kernel⟩, lw_t1 (List.mem_of_getElem? (i := 4) rfl), lw_t1 (List.mem_of_getElem? (i := 229) rfl), lw_t1 (List.mem_of_getElem? (i := 230) rfl)⟩
theorem lw_p26 : lw_okq (⟨"BundleMachineModel", "isRegister", "(I)Z"⟩, 8) := ⟨⟨by decide +kernel, by decide +kernel⟩, lw_t2 (List.mem_of_getElem? (i := 1) rfl), lw_t2 (List.mem_of_getElem? (i := 36) rfl), lw_t2 (List.mem_of_getElem? (i := 37) rfl)⟩
theorem lw_p27 : lw_okq (⟨"BundleMachineModel", "execute", "(I)V"⟩, 8) := ⟨⟨by decide +kernel, by decide +kernel⟩, lw_t2 (List.mem_of_getElem? (i := 1) rfl), lw_t2 (List.mem_of_getElem? (i := 52) rfl), lw_t2 (List.mem_of_getElem? (i := 53) rfl)⟩
theorem lw_p28 : lw_okq (⟨"BundleMachineModel", "weighAll", "()V"⟩, 8) := ⟨⟨by decide +kernel, by decide +kernel⟩, lw_t2 (List.mem_of_getElem? (i := 1) rfl), lw_t2 (List.mem_of_getElem? (i := 76) rfl), lw_t2 (List.mem_of_getElem? (i := 77) rfl)⟩
theorem lw_p29 : lw_okq (⟨"BundleMachineModel", "hangs", "(II)Z"⟩, 8) := ⟨⟨by decide +kernel, by decide +kernel⟩, lw_t2 (List.mem_of_getElem? (i := 1) rfl), lw_t2 (List.mem_of_getElem? (i := 80) rfl), lw_t2 (List.mem_of_getElem? (i := 81) rfl)⟩
theorem lw_p30 : lw_okq (⟨"BundleMachineModel", "writes", "(II)Z"⟩, 8) := ⟨⟨by decide +kernel, by decide +kernel⟩, lw_t2 (List.mem_of_getElem? (i := 1) rfl), lw_t2 (List.mem_of_getElem? (i := 84) rfl), lw_t2 (List.mem_of_getElem? (i := 85) rfl)⟩
theorem lw_p31 : lw_okq (⟨"BundleMachineModel", "reads", "(II)Z"⟩, 8) := ⟨⟨by decide +kernel, by decide +kernel⟩, lw_t2 (List.mem_of_getElem? (i := 1) rfl), lw_t2 (List.mem_of_getElem? (i := 88) rfl), lw_t2 (List.mem_of_getElem? (i := 89) rfl)⟩
def lw_privs_2 : List (MethodName × Nat) := [(⟨"BundleMachine", "encode", "()V"⟩, 25), (⟨"BundleMachine", "encoded", "(I)I"⟩, 25), (⟨"BundleMachine", "execute", "()V"⟩, 25), (⟨"BundleMachine", "landResults", "()V"⟩, 25), (⟨"BundleMachine", "issue", "(I)V"⟩, 25), (⟨"BundleMachine", "fly", "(III)V"⟩, 25), (⟨"BundleMachine", "combined", "(III)I"⟩, 25), (⟨"BundleMachine", "weigh", "()V"⟩, 25), (⟨"BundleMachine", "hangsOn", "(I)I"⟩, 25), (⟨"BundleMachine", "readBySource", "(I)I"⟩, 25), (⟨"BundleMachineModel", "isRegister", "(I)Z"⟩, 8), (⟨"BundleMachineModel", "execute", "(I)V"⟩, 8), (⟨"BundleMachineModel", "weighAll", "()V"⟩, 8), (⟨"BundleMachineModel", "hangs", "(II)Z"⟩, 8), (⟨"BundleMachineModel", "writes", "(II)Z"⟩, 8), (⟨"BundleMachineModel", "reads", "(II)Z"⟩, 8)]
theorem lw_r2 : ∀ q ∈ lw_privs_2, lw_okq q := List.forall_mem_cons.mpr ⟨lw_p16, List.forall_mem_cons.mpr ⟨lw_p17, List.forall_mem_cons.mpr ⟨lw_p18, List.forall_mem_cons.mpr ⟨lw_p19, List.forall_mem_cons.mpr ⟨lw_p20, List.forall_mem_cons.mpr ⟨lw_p21, List.forall_mem_cons.mpr ⟨lw_p22, List.forall_mem_cons.mpr ⟨lw_p23, List.forall_mem_cons.mpr ⟨lw_p24, List.forall_mem_cons.mpr ⟨lw_p25, List.forall_mem_cons.mpr ⟨lw_p26, List.forall_mem_cons.mpr ⟨lw_p27, List.forall_mem_cons.mpr ⟨lw_p28, List.forall_mem_cons.mpr ⟨lw_p29, List.forall_mem_cons.mpr ⟨lw_p30, List.forall_mem_cons.mpr ⟨lw_p31, fun _ h => absurd h List.not_mem_nil⟩⟩⟩⟩⟩⟩⟩⟩⟩⟩⟩⟩⟩⟩⟩⟩
def lw_privs : List (MethodName × Nat) := lw_privs_1 ++ (lw_privs_2)
def lw_tbl : List Cond := k2_sels lw_privs ++ tables_1
theorem lw_privs_ok : ∀ q ∈ lw_privs, lw_okq q := by
  show ∀ q ∈ lw_privs_1 ++ (lw_privs_2), lw_okq q
  exact List.forall_mem_append.mpr ⟨lw_r1, lw_r2⟩
-- ===== ONE list of words for every method: the tables' words that hold all through a run =====
def lw_all : List Cond := lw_tbl.filter goodWord
/-- a word of the tables by its place: claim/WORDS.tsv -/
theorem lw_w {w : Cond} (i : Nat) (h : lw_tbl[i]? = some w) (g : goodWord w = true) : w ∈ lw_all := List.mem_filter.mpr ⟨List.mem_of_getElem? h, g⟩
theorem lw_all_tbl {w : Cond} (h : w ∈ lw_all) : w ∈ lw_tbl := (List.mem_filter.mp h).1
theorem lw_self : GoodIn lw_all lw_all := fun w h => ⟨h, good_of_word (List.mem_filter.mp h).2⟩
/-- a class's field words, by their places -/
theorem lw_in (ws : List Cond) (ps : List Nat) (hp : ws = ps.filterMap (fun i => lw_tbl[i]?)) (hg : ws.all goodWord = true) : ∀ w ∈ ws, w ∈ lw_all := by
  intro w h
  have h1 := List.all_eq_true.mp hg w h
  rw [hp] at h
  obtain ⟨i, -, hi⟩ := List.mem_filterMap.mp h
  exact lw_w i hi h1
/-- the words of a contract for the method y with code b, L locals, answer r -/
abbrev ws_ (y : MethodName) (b : ByteArray) (L : Nat) (r : Option FieldType) : List Cond := Cond.code y b L r :: lw_all
theorem lw_meth {y : MethodName} {b : ByteArray} {L : Nat} {r : Option FieldType} (h : Cond.code y b L r ∈ lw_all) : GoodIn lw_all (ws_ y b L r) := by
  intro w hw
  rcases List.mem_cons.mp hw with e | e
  · rw [e]
    exact lw_self _ h
  · exact lw_self _ e
theorem lw_app {a c : List Cond} (ha : ∀ w ∈ a, w ∈ lw_all) (hc : GoodIn lw_all c) : GoodIn lw_all (a ++ c) := by
  intro w hw
  rcases List.mem_append.mp hw with e | e
  · exact lw_self w (ha w e)
  · exact hc w e
/-- what a call through an object asks: cwV n hts (lw_V ..) -/
theorem lw_V {own : String} {idx : Nat} {C : String} {y : MethodName} {b : ByteArray} {L : Nat} {r : Option FieldType} (h1 : Cond.methodLink own idx y ∈ lw_all) (h2 : Cond.instanceMethod y ∈ lw_all) (h3 : Cond.selects C y y ∈ lw_all) (h4 : Cond.initialized C ∈ lw_all) (h5 : Cond.code y b L r ∈ lw_all) : GoodIn lw_all (wsV own idx C y (ws_ y b L r)) := by
  refine lw_app ?_ (lw_meth h5)
  intro w hw
  simp only [List.mem_cons, List.not_mem_nil, or_false] at hw
  rcases hw with e | e | e | e
  · rw [e]; exact h1
  · rw [e]; exact h2
  · rw [e]; exact h3
  · rw [e]; exact h4
/-- what a static call asks: va_cwS n hts (lw_S ..) -/
theorem lw_S {own : String} {idx : Nat} {y : MethodName} {b : ByteArray} {L : Nat} {r : Option FieldType} (h1 : Cond.methodLink own idx y ∈ lw_all) (h2 : Cond.static y ∈ lw_all) (h3 : Cond.initialized y.cls ∈ lw_all) (h4 : Cond.code y b L r ∈ lw_all) : GoodIn lw_all (va_wsS own idx y (ws_ y b L r)) := by
  refine lw_app ?_ (lw_meth h4)
  intro w hw
  simp only [List.mem_cons, List.not_mem_nil, or_false] at hw
  rcases hw with e | e | e
  · rw [e]; exact h1
  · rw [e]; exact h2
  · rw [e]; exact h3
/-- the words of a contract for a method WITH HANDLERS (hh: its table) -/
abbrev wsW_ (y : MethodName) (b : ByteArray) (L : Nat) (r : Option FieldType) (hh : List (Nat × Nat × Nat × Nat)) : List Cond := Cond.codeWith y b L r hh :: lw_all
theorem lw_methW {y : MethodName} {b : ByteArray} {L : Nat} {r : Option FieldType} {hh : List (Nat × Nat × Nat × Nat)} (h : Cond.codeWith y b L r hh ∈ lw_all) : GoodIn lw_all (wsW_ y b L r hh) := by
  intro w hw
  rcases List.mem_cons.mp hw with e | e
  · rw [e]
    exact lw_self _ h
  · exact lw_self _ e
/-- any list of words by their places (lw_in), good -/
theorem lw_good {ws : List Cond} (h : ∀ w ∈ ws, w ∈ lw_all) : GoodIn lw_all ws := fun w hw => lw_self w (h w hw)
/-- what a call of a method with handlers asks: vx_cwVW n hts (lw_VW ..), vx_cwSW n hts (lw_SW ..) -/
theorem lw_VW {own : String} {idx : Nat} {C : String} {y : MethodName} {b : ByteArray} {L : Nat} {r : Option FieldType} {hh : List (Nat × Nat × Nat × Nat)} (h1 : Cond.methodLink own idx y ∈ lw_all) (h2 : Cond.instanceMethod y ∈ lw_all) (h3 : Cond.selects C y y ∈ lw_all) (h4 : Cond.initialized C ∈ lw_all) (h5 : Cond.codeWith y b L r hh ∈ lw_all) : GoodIn lw_all (wsV own idx C y (wsW_ y b L r hh)) := by
  refine lw_app ?_ (lw_methW h5)
  intro w hw
  simp only [List.mem_cons, List.not_mem_nil, or_false] at hw
  rcases hw with e | e | e | e
  · rw [e]; exact h1
  · rw [e]; exact h2
  · rw [e]; exact h3
  · rw [e]; exact h4
theorem lw_SW {own : String} {idx : Nat} {y : MethodName} {b : ByteArray} {L : Nat} {r : Option FieldType} {hh : List (Nat × Nat × Nat × Nat)} (h1 : Cond.methodLink own idx y ∈ lw_all) (h2 : Cond.static y ∈ lw_all) (h3 : Cond.initialized y.cls ∈ lw_all) (h4 : Cond.codeWith y b L r hh ∈ lw_all) : GoodIn lw_all (va_wsS own idx y (wsW_ y b L r hh)) := by
  refine lw_app ?_ (lw_methW h4)
  intro w hw
  simp only [List.mem_cons, List.not_mem_nil, or_false] at hw
  rcases hw with e | e | e
  · rw [e]; exact h1
  · rw [e]; exact h2
  · rw [e]; exact h3
/-- a word by its place in its run of the tables -/
theorem lw_at {r : List Cond} (hr : ∀ w ∈ r, w ∈ lw_tbl) {w : Cond} (i : Nat) (h : r[i]? = some w) : w ∈ lw_tbl := hr w (List.mem_of_getElem? h)
theorem lw_g {w : Cond} (h : w ∈ lw_tbl) (g : goodWord w = true) : w ∈ lw_all := List.mem_filter.mpr ⟨h, g⟩
theorem lw_ms : ∀ w ∈ k2_sels lw_privs, w ∈ lw_tbl := fun w h => show w ∈ k2_sels lw_privs ++ tables_1 from List.mem_append_left _ h
theorem lw_m1 : ∀ w ∈ tables_1_1, w ∈ lw_tbl := fun w h => show w ∈ k2_sels lw_privs ++ tables_1 from List.mem_append_right (k2_sels lw_privs) (show w ∈ tables_1 from List.mem_append_left _ h)
theorem lw_m2 : ∀ w ∈ tables_1_2, w ∈ lw_tbl := fun w h => show w ∈ k2_sels lw_privs ++ tables_1 from List.mem_append_right (k2_sels lw_privs) (show w ∈ tables_1 from List.mem_append_right _ h)
theorem qs0 : (Cond.selects "BundleMachine" ⟨"BundleMachine", "isRegister", "(I)Z"⟩ ⟨"BundleMachine", "isRegister", "(I)Z"⟩) ∈ lw_all := lw_g (lw_at lw_ms 0 rfl) rfl
theorem qs1 : (Cond.selects "BundleMachine" ⟨"BundleMachine", "pack", "()V"⟩ ⟨"BundleMachine", "pack", "()V"⟩) ∈ lw_all := lw_g (lw_at lw_ms 1 rfl) rfl
theorem qs2 : (Cond.selects "BundleMachine" ⟨"BundleMachine", "lower", "()V"⟩ ⟨"BundleMachine", "lower", "()V"⟩) ∈ lw_all := lw_g (lw_at lw_ms 2 rfl) rfl
theorem qs3 : (Cond.selects "BundleMachine" ⟨"BundleMachine", "clusterOf", "(I)I"⟩ ⟨"BundleMachine", "clusterOf", "(I)I"⟩) ∈ lw_all := lw_g (lw_at lw_ms 3 rfl) rfl
theorem qs4 : (Cond.selects "BundleMachine" ⟨"BundleMachine", "localCopy", "(II)I"⟩ ⟨"BundleMachine", "localCopy", "(II)I"⟩) ∈ lw_all := lw_g (lw_at lw_ms 4 rfl) rfl
theorem qs5 : (Cond.selects "BundleMachine" ⟨"BundleMachine", "addOp", "(IIIII)V"⟩ ⟨"BundleMachine", "addOp", "(IIIII)V"⟩) ∈ lw_all := lw_g (lw_at lw_ms 5 rfl) rfl
theorem qs6 : (Cond.selects "BundleMachine" ⟨"BundleMachine", "findUrgency", "()V"⟩ ⟨"BundleMachine", "findUrgency", "()V"⟩) ∈ lw_all := lw_g (lw_at lw_ms 6 rfl) rfl
theorem qs7 : (Cond.selects "BundleMachine" ⟨"BundleMachine", "timeOf", "(I)I"⟩ ⟨"BundleMachine", "timeOf", "(I)I"⟩) ∈ lw_all := lw_g (lw_at lw_ms 7 rfl) rfl
theorem qs8 : (Cond.selects "BundleMachine" ⟨"BundleMachine", "separation", "(II)I"⟩ ⟨"BundleMachine", "separation", "(II)I"⟩) ∈ lw_all := lw_g (lw_at lw_ms 8 rfl) rfl
theorem qs9 : (Cond.selects "BundleMachine" ⟨"BundleMachine", "readSet", "(I)I"⟩ ⟨"BundleMachine", "readSet", "(I)I"⟩) ∈ lw_all := lw_g (lw_at lw_ms 9 rfl) rfl
theorem qs10 : (Cond.selects "BundleMachine" ⟨"BundleMachine", "touchesMemory", "(I)Z"⟩ ⟨"BundleMachine", "touchesMemory", "(I)Z"⟩) ∈ lw_all := lw_g (lw_at lw_ms 10 rfl) rfl
theorem qs11 : (Cond.selects "BundleMachine" ⟨"BundleMachine", "schedule", "()V"⟩ ⟨"BundleMachine", "schedule", "()V"⟩) ∈ lw_all := lw_g (lw_at lw_ms 11 rfl) rfl
theorem qs12 : (Cond.selects "BundleMachine" ⟨"BundleMachine", "mostUrgent", "()I"⟩ ⟨"BundleMachine", "mostUrgent", "()I"⟩) ∈ lw_all := lw_g (lw_at lw_ms 12 rfl) rfl
theorem qs13 : (Cond.selects "BundleMachine" ⟨"BundleMachine", "isFree", "(I)Z"⟩ ⟨"BundleMachine", "isFree", "(I)Z"⟩) ∈ lw_all := lw_g (lw_at lw_ms 13 rfl) rfl
theorem qs14 : (Cond.selects "BundleMachine" ⟨"BundleMachine", "earliest", "(I)I"⟩ ⟨"BundleMachine", "earliest", "(I)I"⟩) ∈ lw_all := lw_g (lw_at lw_ms 14 rfl) rfl
theorem qs15 : (Cond.selects "BundleMachine" ⟨"BundleMachine", "unitOf", "(I)I"⟩ ⟨"BundleMachine", "unitOf", "(I)I"⟩) ∈ lw_all := lw_g (lw_at lw_ms 15 rfl) rfl
theorem qs16 : (Cond.selects "BundleMachine" ⟨"BundleMachine", "encode", "()V"⟩ ⟨"BundleMachine", "encode", "()V"⟩) ∈ lw_all := lw_g (lw_at lw_ms 16 rfl) rfl
theorem qs17 : (Cond.selects "BundleMachine" ⟨"BundleMachine", "encoded", "(I)I"⟩ ⟨"BundleMachine", "encoded", "(I)I"⟩) ∈ lw_all := lw_g (lw_at lw_ms 17 rfl) rfl
theorem qs18 : (Cond.selects "BundleMachine" ⟨"BundleMachine", "execute", "()V"⟩ ⟨"BundleMachine", "execute", "()V"⟩) ∈ lw_all := lw_g (lw_at lw_ms 18 rfl) rfl
theorem qs19 : (Cond.selects "BundleMachine" ⟨"BundleMachine", "landResults", "()V"⟩ ⟨"BundleMachine", "landResults", "()V"⟩) ∈ lw_all := lw_g (lw_at lw_ms 19 rfl) rfl
theorem qs20 : (Cond.selects "BundleMachine" ⟨"BundleMachine", "issue", "(I)V"⟩ ⟨"BundleMachine", "issue", "(I)V"⟩) ∈ lw_all := lw_g (lw_at lw_ms 20 rfl) rfl
theorem qs21 : (Cond.selects "BundleMachine" ⟨"BundleMachine", "fly", "(III)V"⟩ ⟨"BundleMachine", "fly", "(III)V"⟩) ∈ lw_all := lw_g (lw_at lw_ms 21 rfl) rfl
theorem qs22 : (Cond.selects "BundleMachine" ⟨"BundleMachine", "combined", "(III)I"⟩ ⟨"BundleMachine", "combined", "(III)I"⟩) ∈ lw_all := lw_g (lw_at lw_ms 22 rfl) rfl
theorem qs23 : (Cond.selects "BundleMachine" ⟨"BundleMachine", "weigh", "()V"⟩ ⟨"BundleMachine", "weigh", "()V"⟩) ∈ lw_all := lw_g (lw_at lw_ms 23 rfl) rfl
theorem qs24 : (Cond.selects "BundleMachine" ⟨"BundleMachine", "hangsOn", "(I)I"⟩ ⟨"BundleMachine", "hangsOn", "(I)I"⟩) ∈ lw_all := lw_g (lw_at lw_ms 24 rfl) rfl
theorem qs25 : (Cond.selects "BundleMachine" ⟨"BundleMachine", "readBySource", "(I)I"⟩ ⟨"BundleMachine", "readBySource", "(I)I"⟩) ∈ lw_all := lw_g (lw_at lw_ms 25 rfl) rfl
theorem qs26 : (Cond.selects "BundleMachineModel" ⟨"BundleMachineModel", "isRegister", "(I)Z"⟩ ⟨"BundleMachineModel", "isRegister", "(I)Z"⟩) ∈ lw_all := lw_g (lw_at lw_ms 26 rfl) rfl
theorem qs27 : (Cond.selects "BundleMachineModel" ⟨"BundleMachineModel", "execute", "(I)V"⟩ ⟨"BundleMachineModel", "execute", "(I)V"⟩) ∈ lw_all := lw_g (lw_at lw_ms 27 rfl) rfl
theorem qs28 : (Cond.selects "BundleMachineModel" ⟨"BundleMachineModel", "weighAll", "()V"⟩ ⟨"BundleMachineModel", "weighAll", "()V"⟩) ∈ lw_all := lw_g (lw_at lw_ms 28 rfl) rfl
theorem qs29 : (Cond.selects "BundleMachineModel" ⟨"BundleMachineModel", "hangs", "(II)Z"⟩ ⟨"BundleMachineModel", "hangs", "(II)Z"⟩) ∈ lw_all := lw_g (lw_at lw_ms 29 rfl) rfl
theorem qs30 : (Cond.selects "BundleMachineModel" ⟨"BundleMachineModel", "writes", "(II)Z"⟩ ⟨"BundleMachineModel", "writes", "(II)Z"⟩) ∈ lw_all := lw_g (lw_at lw_ms 30 rfl) rfl
theorem qs31 : (Cond.selects "BundleMachineModel" ⟨"BundleMachineModel", "reads", "(II)Z"⟩ ⟨"BundleMachineModel", "reads", "(II)Z"⟩) ∈ lw_all := lw_g (lw_at lw_ms 31 rfl) rfl
end
section
/-! BundleMachine -/
set_option maxRecDepth 100000
def RX0 : String := "BundleMachine"
def TX0 : u_T := fun k => match k with
  | 0 => ("BundleMachine", "length", "I", false)
  | 1 => ("BundleMachine", "sourceOp", "[B", true)
  | 2 => ("BundleMachine", "sourceD", "[B", true)
  | 3 => ("BundleMachine", "sourceA", "[B", true)
  | 4 => ("BundleMachine", "sourceB", "[I", true)
  | 5 => ("BundleMachine", "packed", "Z", false)
  | 6 => ("BundleMachine", "opCount", "I", false)
  | 7 => ("BundleMachine", "op", "[B", true)
  | 8 => ("BundleMachine", "target", "[B", true)
  | 9 => ("BundleMachine", "left", "[B", true)
  | 10 => ("BundleMachine", "right", "[B", true)
  | 11 => ("BundleMachine", "number", "[B", true)
  | 12 => ("BundleMachine", "nextCopy", "[B", true)
  | 13 => ("BundleMachine", "urgency", "[S", true)
  | 14 => ("BundleMachine", "cycleOf", "[S", true)
  | 15 => ("BundleMachine", "bundleUse", "[I", true)
  | 16 => ("BundleMachine", "codeEnd", "I", false)
  | 17 => ("BundleMachine", "code", "[I", true)
  | 18 => ("BundleMachine", "registers", "[I", true)
  | 19 => ("BundleMachine", "cells", "[I", true)
  | 20 => ("BundleMachine", "now", "I", false)
  | 21 => ("BundleMachine", "flying", "I", false)
  | 22 => ("BundleMachine", "flyTarget", "[B", true)
  | 23 => ("BundleMachine", "flyValue", "[I", true)
  | _ => ("BundleMachine", "flyLands", "[S", true)
def tyX0 : Nat → FieldType := fun k => match k with
  | 0 => .int
  | 1 => .array .byte
  | 2 => .array .byte
  | 3 => .array .byte
  | 4 => .array .int
  | 5 => .boolean
  | 6 => .int
  | 7 => .array .byte
  | 8 => .array .byte
  | 9 => .array .byte
  | 10 => .array .byte
  | 11 => .array .byte
  | 12 => .array .byte
  | 13 => .array .short
  | 14 => .array .short
  | 15 => .array .int
  | 16 => .int
  | 17 => .array .int
  | 18 => .array .int
  | 19 => .array .int
  | 20 => .int
  | 21 => .int
  | 22 => .array .byte
  | 23 => .array .int
  | _ => .array .short
abbrev wsX00 : List Cond := u_ws RX0 TX0 25
set_option maxRecDepth 100000 in
theorem nmX0 : ∀ a, a < 25 → ∀ b, b < 25 → a ≠ b → (TX0 a).2.1 ≠ (TX0 b).2.1 := by decide +kernel
set_option maxRecDepth 100000 in
theorem tyX0_ok : ∀ k, k < 25 → parseFieldDescriptor (TX0 k).2.2.1 = some (tyX0 k) := by decide +kernel
abbrev cX0_init : ByteArray := prog_1_method_1_code
def yX0_init : MethodName := ⟨RX0, "<init>", "()V"⟩
abbrev cX0_emit : ByteArray := prog_1_method_2_code
def yX0_emit : MethodName := ⟨RX0, "emit", "(IIII)I"⟩
abbrev cX0_isRegister : ByteArray := prog_1_method_10_code
def yX0_isRegister : MethodName := ⟨RX0, "isRegister", "(I)Z"⟩
abbrev cX0_retract : ByteArray := prog_1_method_3_code
def yX0_retract : MethodName := ⟨RX0, "retract", "()I"⟩
abbrev cX0_drop : ByteArray := prog_1_method_4_code
def yX0_drop : MethodName := ⟨RX0, "drop", "()I"⟩
abbrev cX0_run : ByteArray := prog_1_method_5_code
def yX0_run : MethodName := ⟨RX0, "run", "()I"⟩
abbrev cX0_pack : ByteArray := prog_1_method_25_code
def yX0_pack : MethodName := ⟨RX0, "pack", "()V"⟩
abbrev cX0_lower : ByteArray := prog_1_method_21_code
def yX0_lower : MethodName := ⟨RX0, "lower", "()V"⟩
abbrev cX0_clusterOf : ByteArray := prog_1_method_18_code
def yX0_clusterOf : MethodName := ⟨RX0, "clusterOf", "(I)I"⟩
abbrev cX0_localCopy : ByteArray := prog_1_method_20_code
def yX0_localCopy : MethodName := ⟨RX0, "localCopy", "(II)I"⟩
abbrev cX0_addOp : ByteArray := prog_1_method_19_code
def yX0_addOp : MethodName := ⟨RX0, "addOp", "(IIIII)V"⟩
abbrev cX0_findUrgency : ByteArray := prog_1_method_26_code
def yX0_findUrgency : MethodName := ⟨RX0, "findUrgency", "()V"⟩
abbrev cX0_timeOf : ByteArray := prog_1_method_11_code
def yX0_timeOf : MethodName := ⟨RX0, "timeOf", "(I)I"⟩
abbrev cX0_separation : ByteArray := prog_1_method_24_code
def yX0_separation : MethodName := ⟨RX0, "separation", "(II)I"⟩
abbrev cX0_readSet : ByteArray := prog_1_method_22_code
def yX0_readSet : MethodName := ⟨RX0, "readSet", "(I)I"⟩
abbrev cX0_touchesMemory : ByteArray := prog_1_method_23_code
def yX0_touchesMemory : MethodName := ⟨RX0, "touchesMemory", "(I)Z"⟩
abbrev cX0_schedule : ByteArray := prog_1_method_28_code
def yX0_schedule : MethodName := ⟨RX0, "schedule", "()V"⟩
abbrev cX0_mostUrgent : ByteArray := prog_1_method_29_code
def yX0_mostUrgent : MethodName := ⟨RX0, "mostUrgent", "()I"⟩
abbrev cX0_isFree : ByteArray := prog_1_method_30_code
def yX0_isFree : MethodName := ⟨RX0, "isFree", "(I)Z"⟩
abbrev cX0_earliest : ByteArray := prog_1_method_31_code
def yX0_earliest : MethodName := ⟨RX0, "earliest", "(I)I"⟩
abbrev cX0_unitOf : ByteArray := prog_1_method_27_code
def yX0_unitOf : MethodName := ⟨RX0, "unitOf", "(I)I"⟩
abbrev cX0_encode : ByteArray := prog_1_method_33_code
def yX0_encode : MethodName := ⟨RX0, "encode", "()V"⟩
abbrev cX0_encoded : ByteArray := prog_1_method_32_code
def yX0_encoded : MethodName := ⟨RX0, "encoded", "(I)I"⟩
abbrev cX0_execute : ByteArray := prog_1_method_34_code
def yX0_execute : MethodName := ⟨RX0, "execute", "()V"⟩
abbrev cX0_landResults : ByteArray := prog_1_method_35_code
def yX0_landResults : MethodName := ⟨RX0, "landResults", "()V"⟩
abbrev cX0_issue : ByteArray := prog_1_method_37_code
def yX0_issue : MethodName := ⟨RX0, "issue", "(I)V"⟩
abbrev cX0_fly : ByteArray := prog_1_method_36_code
def yX0_fly : MethodName := ⟨RX0, "fly", "(III)V"⟩
abbrev cX0_combined : ByteArray := prog_1_method_38_code
def yX0_combined : MethodName := ⟨RX0, "combined", "(III)I"⟩
abbrev cX0_register : ByteArray := prog_1_method_6_code
def yX0_register : MethodName := ⟨RX0, "register", "(I)I"⟩
abbrev cX0_setRegister : ByteArray := prog_1_method_7_code
def yX0_setRegister : MethodName := ⟨RX0, "setRegister", "(II)Z"⟩
abbrev cX0_memory : ByteArray := prog_1_method_8_code
def yX0_memory : MethodName := ⟨RX0, "memory", "(I)I"⟩
abbrev cX0_setMemory : ByteArray := prog_1_method_9_code
def yX0_setMemory : MethodName := ⟨RX0, "setMemory", "(II)Z"⟩
abbrev cX0_weight : ByteArray := prog_1_method_14_code
def yX0_weight : MethodName := ⟨RX0, "weight", "(I)I"⟩
abbrev cX0_weigh : ByteArray := prog_1_method_17_code
def yX0_weigh : MethodName := ⟨RX0, "weigh", "()V"⟩
abbrev cX0_hangsOn : ByteArray := prog_1_method_13_code
def yX0_hangsOn : MethodName := ⟨RX0, "hangsOn", "(I)I"⟩
abbrev cX0_readBySource : ByteArray := prog_1_method_12_code
def yX0_readBySource : MethodName := ⟨RX0, "readBySource", "(I)I"⟩
abbrev cX0_heaviest : ByteArray := prog_1_method_15_code
def yX0_heaviest : MethodName := ⟨RX0, "heaviest", "()I"⟩
abbrev cX0_links : ByteArray := prog_1_method_16_code
def yX0_links : MethodName := ⟨RX0, "links", "()I"⟩
/-! BundleMachineModel -/
set_option maxRecDepth 100000
def RX1 : String := "BundleMachineModel"
def TX1 : u_T := fun k => match k with
  | 0 => ("BundleMachineModel", "n", "I", false)
  | 1 => ("BundleMachineModel", "op", "[I", false)
  | 2 => ("BundleMachineModel", "d", "[I", false)
  | 3 => ("BundleMachineModel", "a", "[I", false)
  | 4 => ("BundleMachineModel", "b", "[I", false)
  | 5 => ("BundleMachineModel", "regs", "[I", false)
  | 6 => ("BundleMachineModel", "cells", "[I", false)
  | _ => ("BundleMachineModel", "weights", "[I", false)
def tyX1 : Nat → FieldType := fun k => match k with
  | 0 => .int
  | 1 => .array .int
  | 2 => .array .int
  | 3 => .array .int
  | 4 => .array .int
  | 5 => .array .int
  | 6 => .array .int
  | _ => .array .int
abbrev wsX10 : List Cond := u_ws RX1 TX1 8
theorem nmX1 : ∀ a, a < 8 → ∀ b, b < 8 → a ≠ b → (TX1 a).2.1 ≠ (TX1 b).2.1 := by decide +kernel
theorem tyX1_ok : ∀ k, k < 8 → parseFieldDescriptor (TX1 k).2.2.1 = some (tyX1 k) := by decide +kernel
abbrev cX1_init : ByteArray := prog_3_method_1_code
def yX1_init : MethodName := ⟨RX1, "<init>", "()V"⟩
abbrev cX1_emit : ByteArray := prog_3_method_3_code
def yX1_emit : MethodName := ⟨RX1, "emit", "(IIII)I"⟩
abbrev cX1_isRegister : ByteArray := prog_3_method_2_code
def yX1_isRegister : MethodName := ⟨RX1, "isRegister", "(I)Z"⟩
abbrev cX1_retract : ByteArray := prog_3_method_4_code
def yX1_retract : MethodName := ⟨RX1, "retract", "()I"⟩
abbrev cX1_drop : ByteArray := prog_3_method_5_code
def yX1_drop : MethodName := ⟨RX1, "drop", "()I"⟩
abbrev cX1_run : ByteArray := prog_3_method_7_code
def yX1_run : MethodName := ⟨RX1, "run", "()I"⟩
abbrev cX1_execute : ByteArray := prog_3_method_6_code
def yX1_execute : MethodName := ⟨RX1, "execute", "(I)V"⟩
abbrev cX1_register : ByteArray := prog_3_method_8_code
def yX1_register : MethodName := ⟨RX1, "register", "(I)I"⟩
abbrev cX1_setRegister : ByteArray := prog_3_method_9_code
def yX1_setRegister : MethodName := ⟨RX1, "setRegister", "(II)Z"⟩
abbrev cX1_memory : ByteArray := prog_3_method_10_code
def yX1_memory : MethodName := ⟨RX1, "memory", "(I)I"⟩
abbrev cX1_setMemory : ByteArray := prog_3_method_11_code
def yX1_setMemory : MethodName := ⟨RX1, "setMemory", "(II)Z"⟩
abbrev cX1_weight : ByteArray := prog_3_method_16_code
def yX1_weight : MethodName := ⟨RX1, "weight", "(I)I"⟩
abbrev cX1_weighAll : ByteArray := prog_3_method_15_code
def yX1_weighAll : MethodName := ⟨RX1, "weighAll", "()V"⟩
abbrev cX1_hangs : ByteArray := prog_3_method_14_code
def yX1_hangs : MethodName := ⟨RX1, "hangs", "(II)Z"⟩
abbrev cX1_writes : ByteArray := prog_3_method_13_code
def yX1_writes : MethodName := ⟨RX1, "writes", "(II)Z"⟩
abbrev cX1_reads : ByteArray := prog_3_method_12_code
def yX1_reads : MethodName := ⟨RX1, "reads", "(II)Z"⟩
abbrev cX1_heaviest : ByteArray := prog_3_method_17_code
def yX1_heaviest : MethodName := ⟨RX1, "heaviest", "()I"⟩
abbrev cX1_links : ByteArray := prog_3_method_18_code
def yX1_links : MethodName := ⟨RX1, "links", "()I"⟩
/-! java/lang/Object -/
set_option maxRecDepth 100000
def RJ0 : String := "java/lang/Object"
abbrev cJ0_init : ByteArray := object_method_1_code
def yJ0_init : MethodName := ⟨RJ0, "<init>", "()V"⟩
/-! the law's own entry -/
set_option maxRecDepth 100000
abbrev cL_law : ByteArray := code
set_option maxRecDepth 100000
theorem q33 : (Jvm.Cond.initialized "BundleMachine") ∈ lw_all := lw_g (lw_at lw_m1 1 rfl) rfl
theorem q36 : (Jvm.Cond.instantiable "BundleMachine" (25 : Nat)) ∈ lw_all := lw_g (lw_at lw_m1 4 rfl) rfl
theorem q38 : (Jvm.Cond.instanceMethod ({ cls := "BundleMachine", name := "<init>", desc := "()V" } : Jvm.MethodName)) ∈ lw_all := lw_g (lw_at lw_m1 6 rfl) rfl
theorem q39 : (Jvm.Cond.code ({ cls := "BundleMachine", name := "<init>", desc := "()V" } : Jvm.MethodName) prog_1_method_1_code (1 : Nat) (Option.none : Option Jvm.ClassFile.FieldType)) ∈ lw_all := lw_g (lw_at lw_m1 7 rfl) rfl
theorem q40 : (Jvm.Cond.methodLink "BundleMachine" (1 : Nat) ({ cls := "java/lang/Object", name := "<init>", desc := "()V" } : Jvm.MethodName)) ∈ lw_all := lw_g (lw_at lw_m1 8 rfl) rfl
theorem q43 : (Jvm.Cond.fieldLink "BundleMachine" (69 : Nat) "BundleMachine" "length" "I") ∈ lw_all := lw_g (lw_at lw_m1 11 rfl) rfl
theorem q44 : (Jvm.Cond.fieldLink "BundleMachine" (7 : Nat) "BundleMachine" "sourceOp" "[B") ∈ lw_all := lw_g (lw_at lw_m1 12 rfl) rfl
theorem q45 : (Jvm.Cond.fieldLink "BundleMachine" (13 : Nat) "BundleMachine" "sourceD" "[B") ∈ lw_all := lw_g (lw_at lw_m1 13 rfl) rfl
theorem q46 : (Jvm.Cond.fieldLink "BundleMachine" (16 : Nat) "BundleMachine" "sourceA" "[B") ∈ lw_all := lw_g (lw_at lw_m1 14 rfl) rfl
theorem q47 : (Jvm.Cond.fieldLink "BundleMachine" (19 : Nat) "BundleMachine" "sourceB" "[I") ∈ lw_all := lw_g (lw_at lw_m1 15 rfl) rfl
theorem q48 : (Jvm.Cond.fieldLink "BundleMachine" (77 : Nat) "BundleMachine" "packed" "Z") ∈ lw_all := lw_g (lw_at lw_m1 16 rfl) rfl
theorem q49 : (Jvm.Cond.fieldLink "BundleMachine" (100 : Nat) "BundleMachine" "opCount" "I") ∈ lw_all := lw_g (lw_at lw_m1 17 rfl) rfl
theorem q50 : (Jvm.Cond.fieldLink "BundleMachine" (23 : Nat) "BundleMachine" "op" "[B") ∈ lw_all := lw_g (lw_at lw_m1 18 rfl) rfl
theorem q51 : (Jvm.Cond.fieldLink "BundleMachine" (26 : Nat) "BundleMachine" "target" "[B") ∈ lw_all := lw_g (lw_at lw_m1 19 rfl) rfl
theorem q52 : (Jvm.Cond.fieldLink "BundleMachine" (29 : Nat) "BundleMachine" "left" "[B") ∈ lw_all := lw_g (lw_at lw_m1 20 rfl) rfl
theorem q53 : (Jvm.Cond.fieldLink "BundleMachine" (32 : Nat) "BundleMachine" "right" "[B") ∈ lw_all := lw_g (lw_at lw_m1 21 rfl) rfl
theorem q54 : (Jvm.Cond.fieldLink "BundleMachine" (35 : Nat) "BundleMachine" "number" "[B") ∈ lw_all := lw_g (lw_at lw_m1 22 rfl) rfl
theorem q55 : (Jvm.Cond.fieldLink "BundleMachine" (38 : Nat) "BundleMachine" "nextCopy" "[B") ∈ lw_all := lw_g (lw_at lw_m1 23 rfl) rfl
theorem q56 : (Jvm.Cond.fieldLink "BundleMachine" (41 : Nat) "BundleMachine" "urgency" "[S") ∈ lw_all := lw_g (lw_at lw_m1 24 rfl) rfl
theorem q57 : (Jvm.Cond.fieldLink "BundleMachine" (45 : Nat) "BundleMachine" "cycleOf" "[S") ∈ lw_all := lw_g (lw_at lw_m1 25 rfl) rfl
theorem q58 : (Jvm.Cond.fieldLink "BundleMachine" (48 : Nat) "BundleMachine" "bundleUse" "[I") ∈ lw_all := lw_g (lw_at lw_m1 26 rfl) rfl
theorem q59 : (Jvm.Cond.fieldLink "BundleMachine" (149 : Nat) "BundleMachine" "codeEnd" "I") ∈ lw_all := lw_g (lw_at lw_m1 27 rfl) rfl
theorem q60 : (Jvm.Cond.fieldLink "BundleMachine" (51 : Nat) "BundleMachine" "code" "[I") ∈ lw_all := lw_g (lw_at lw_m1 28 rfl) rfl
theorem q61 : (Jvm.Cond.fieldLink "BundleMachine" (54 : Nat) "BundleMachine" "registers" "[I") ∈ lw_all := lw_g (lw_at lw_m1 29 rfl) rfl
theorem q62 : (Jvm.Cond.fieldLink "BundleMachine" (57 : Nat) "BundleMachine" "cells" "[I") ∈ lw_all := lw_g (lw_at lw_m1 30 rfl) rfl
theorem q63 : (Jvm.Cond.fieldLink "BundleMachine" (159 : Nat) "BundleMachine" "now" "I") ∈ lw_all := lw_g (lw_at lw_m1 31 rfl) rfl
theorem q64 : (Jvm.Cond.fieldLink "BundleMachine" (156 : Nat) "BundleMachine" "flying" "I") ∈ lw_all := lw_g (lw_at lw_m1 32 rfl) rfl
theorem q65 : (Jvm.Cond.fieldLink "BundleMachine" (60 : Nat) "BundleMachine" "flyTarget" "[B") ∈ lw_all := lw_g (lw_at lw_m1 33 rfl) rfl
theorem q66 : (Jvm.Cond.fieldLink "BundleMachine" (63 : Nat) "BundleMachine" "flyValue" "[I") ∈ lw_all := lw_g (lw_at lw_m1 34 rfl) rfl
theorem q67 : (Jvm.Cond.fieldLink "BundleMachine" (66 : Nat) "BundleMachine" "flyLands" "[S") ∈ lw_all := lw_g (lw_at lw_m1 35 rfl) rfl
theorem q68 : (Jvm.Cond.lays "BundleMachine" "BundleMachine" "length" "I") ∈ lw_all := lw_g (lw_at lw_m1 36 rfl) rfl
theorem q69 : (Jvm.Cond.soleField "BundleMachine" "length") ∈ lw_all := lw_g (lw_at lw_m1 37 rfl) rfl
theorem q70 : (Jvm.Cond.laysFinal "BundleMachine" "BundleMachine" "sourceOp" "[B") ∈ lw_all := lw_g (lw_at lw_m1 38 rfl) rfl
theorem q71 : (Jvm.Cond.soleField "BundleMachine" "sourceOp") ∈ lw_all := lw_g (lw_at lw_m1 39 rfl) rfl
theorem q72 : (Jvm.Cond.laysFinal "BundleMachine" "BundleMachine" "sourceD" "[B") ∈ lw_all := lw_g (lw_at lw_m1 40 rfl) rfl
theorem q73 : (Jvm.Cond.soleField "BundleMachine" "sourceD") ∈ lw_all := lw_g (lw_at lw_m1 41 rfl) rfl
theorem q74 : (Jvm.Cond.laysFinal "BundleMachine" "BundleMachine" "sourceA" "[B") ∈ lw_all := lw_g (lw_at lw_m1 42 rfl) rfl
theorem q75 : (Jvm.Cond.soleField "BundleMachine" "sourceA") ∈ lw_all := lw_g (lw_at lw_m1 43 rfl) rfl
theorem q76 : (Jvm.Cond.laysFinal "BundleMachine" "BundleMachine" "sourceB" "[I") ∈ lw_all := lw_g (lw_at lw_m1 44 rfl) rfl
theorem q77 : (Jvm.Cond.soleField "BundleMachine" "sourceB") ∈ lw_all := lw_g (lw_at lw_m1 45 rfl) rfl
theorem q78 : (Jvm.Cond.lays "BundleMachine" "BundleMachine" "packed" "Z") ∈ lw_all := lw_g (lw_at lw_m1 46 rfl) rfl
theorem q79 : (Jvm.Cond.soleField "BundleMachine" "packed") ∈ lw_all := lw_g (lw_at lw_m1 47 rfl) rfl
theorem q80 : (Jvm.Cond.lays "BundleMachine" "BundleMachine" "opCount" "I") ∈ lw_all := lw_g (lw_at lw_m1 48 rfl) rfl
theorem q81 : (Jvm.Cond.soleField "BundleMachine" "opCount") ∈ lw_all := lw_g (lw_at lw_m1 49 rfl) rfl
theorem q82 : (Jvm.Cond.laysFinal "BundleMachine" "BundleMachine" "op" "[B") ∈ lw_all := lw_g (lw_at lw_m1 50 rfl) rfl
theorem q83 : (Jvm.Cond.soleField "BundleMachine" "op") ∈ lw_all := lw_g (lw_at lw_m1 51 rfl) rfl
theorem q84 : (Jvm.Cond.laysFinal "BundleMachine" "BundleMachine" "target" "[B") ∈ lw_all := lw_g (lw_at lw_m1 52 rfl) rfl
theorem q85 : (Jvm.Cond.soleField "BundleMachine" "target") ∈ lw_all := lw_g (lw_at lw_m1 53 rfl) rfl
theorem q86 : (Jvm.Cond.laysFinal "BundleMachine" "BundleMachine" "left" "[B") ∈ lw_all := lw_g (lw_at lw_m1 54 rfl) rfl
theorem q87 : (Jvm.Cond.soleField "BundleMachine" "left") ∈ lw_all := lw_g (lw_at lw_m1 55 rfl) rfl
theorem q88 : (Jvm.Cond.laysFinal "BundleMachine" "BundleMachine" "right" "[B") ∈ lw_all := lw_g (lw_at lw_m1 56 rfl) rfl
theorem q89 : (Jvm.Cond.soleField "BundleMachine" "right") ∈ lw_all := lw_g (lw_at lw_m1 57 rfl) rfl
theorem q90 : (Jvm.Cond.laysFinal "BundleMachine" "BundleMachine" "number" "[B") ∈ lw_all := lw_g (lw_at lw_m1 58 rfl) rfl
theorem q91 : (Jvm.Cond.soleField "BundleMachine" "number") ∈ lw_all := lw_g (lw_at lw_m1 59 rfl) rfl
theorem q92 : (Jvm.Cond.laysFinal "BundleMachine" "BundleMachine" "nextCopy" "[B") ∈ lw_all := lw_g (lw_at lw_m1 60 rfl) rfl
theorem q93 : (Jvm.Cond.soleField "BundleMachine" "nextCopy") ∈ lw_all := lw_g (lw_at lw_m1 61 rfl) rfl
theorem q94 : (Jvm.Cond.laysFinal "BundleMachine" "BundleMachine" "urgency" "[S") ∈ lw_all := lw_g (lw_at lw_m1 62 rfl) rfl
theorem q95 : (Jvm.Cond.soleField "BundleMachine" "urgency") ∈ lw_all := lw_g (lw_at lw_m1 63 rfl) rfl
theorem q96 : (Jvm.Cond.laysFinal "BundleMachine" "BundleMachine" "cycleOf" "[S") ∈ lw_all := lw_g (lw_at lw_m1 64 rfl) rfl
theorem q97 : (Jvm.Cond.soleField "BundleMachine" "cycleOf") ∈ lw_all := lw_g (lw_at lw_m1 65 rfl) rfl
theorem q98 : (Jvm.Cond.laysFinal "BundleMachine" "BundleMachine" "bundleUse" "[I") ∈ lw_all := lw_g (lw_at lw_m1 66 rfl) rfl
theorem q99 : (Jvm.Cond.soleField "BundleMachine" "bundleUse") ∈ lw_all := lw_g (lw_at lw_m1 67 rfl) rfl
theorem q100 : (Jvm.Cond.lays "BundleMachine" "BundleMachine" "codeEnd" "I") ∈ lw_all := lw_g (lw_at lw_m1 68 rfl) rfl
theorem q101 : (Jvm.Cond.soleField "BundleMachine" "codeEnd") ∈ lw_all := lw_g (lw_at lw_m1 69 rfl) rfl
theorem q102 : (Jvm.Cond.laysFinal "BundleMachine" "BundleMachine" "code" "[I") ∈ lw_all := lw_g (lw_at lw_m1 70 rfl) rfl
theorem q103 : (Jvm.Cond.soleField "BundleMachine" "code") ∈ lw_all := lw_g (lw_at lw_m1 71 rfl) rfl
theorem q104 : (Jvm.Cond.laysFinal "BundleMachine" "BundleMachine" "registers" "[I") ∈ lw_all := lw_g (lw_at lw_m1 72 rfl) rfl
theorem q105 : (Jvm.Cond.soleField "BundleMachine" "registers") ∈ lw_all := lw_g (lw_at lw_m1 73 rfl) rfl
theorem q106 : (Jvm.Cond.laysFinal "BundleMachine" "BundleMachine" "cells" "[I") ∈ lw_all := lw_g (lw_at lw_m1 74 rfl) rfl
theorem q107 : (Jvm.Cond.soleField "BundleMachine" "cells") ∈ lw_all := lw_g (lw_at lw_m1 75 rfl) rfl
theorem q108 : (Jvm.Cond.lays "BundleMachine" "BundleMachine" "now" "I") ∈ lw_all := lw_g (lw_at lw_m1 76 rfl) rfl
theorem q109 : (Jvm.Cond.soleField "BundleMachine" "now") ∈ lw_all := lw_g (lw_at lw_m1 77 rfl) rfl
theorem q110 : (Jvm.Cond.lays "BundleMachine" "BundleMachine" "flying" "I") ∈ lw_all := lw_g (lw_at lw_m1 78 rfl) rfl
theorem q111 : (Jvm.Cond.soleField "BundleMachine" "flying") ∈ lw_all := lw_g (lw_at lw_m1 79 rfl) rfl
theorem q112 : (Jvm.Cond.laysFinal "BundleMachine" "BundleMachine" "flyTarget" "[B") ∈ lw_all := lw_g (lw_at lw_m1 80 rfl) rfl
theorem q113 : (Jvm.Cond.soleField "BundleMachine" "flyTarget") ∈ lw_all := lw_g (lw_at lw_m1 81 rfl) rfl
theorem q114 : (Jvm.Cond.laysFinal "BundleMachine" "BundleMachine" "flyValue" "[I") ∈ lw_all := lw_g (lw_at lw_m1 82 rfl) rfl
theorem q115 : (Jvm.Cond.soleField "BundleMachine" "flyValue") ∈ lw_all := lw_g (lw_at lw_m1 83 rfl) rfl
theorem q116 : (Jvm.Cond.laysFinal "BundleMachine" "BundleMachine" "flyLands" "[S") ∈ lw_all := lw_g (lw_at lw_m1 84 rfl) rfl
theorem q117 : (Jvm.Cond.soleField "BundleMachine" "flyLands") ∈ lw_all := lw_g (lw_at lw_m1 85 rfl) rfl
theorem q118 : (Jvm.Cond.superclass "BundleMachine" "java/lang/Object") ∈ lw_all := lw_g (lw_at lw_m1 86 rfl) rfl
theorem q123 : (Jvm.Cond.instanceMethod ({ cls := "BundleMachine", name := "emit", desc := "(IIII)I" } : Jvm.MethodName)) ∈ lw_all := lw_g (lw_at lw_m1 91 rfl) rfl
theorem q124 : (Jvm.Cond.selects "BundleMachine" ({ cls := "BundleMachine", name := "emit", desc := "(IIII)I" } : Jvm.MethodName) ({ cls := "BundleMachine", name := "emit", desc := "(IIII)I" } : Jvm.MethodName)) ∈ lw_all := lw_g (lw_at lw_m1 92 rfl) rfl
theorem q125 : (Jvm.Cond.code ({ cls := "BundleMachine", name := "emit", desc := "(IIII)I" } : Jvm.MethodName) prog_1_method_2_code (5 : Nat) (Option.some Jvm.ClassFile.FieldType.int)) ∈ lw_all := lw_g (lw_at lw_m1 93 rfl) rfl
theorem q126 : (Jvm.Cond.methodLink "BundleMachine" (73 : Nat) ({ cls := "BundleMachine", name := "isRegister", desc := "(I)Z" } : Jvm.MethodName)) ∈ lw_all := lw_g (lw_at lw_m1 94 rfl) rfl
theorem q127 : (Jvm.Cond.privateMethod ({ cls := "BundleMachine", name := "isRegister", desc := "(I)Z" } : Jvm.MethodName)) ∈ lw_tbl := lw_at lw_m1 95 rfl
theorem q128 : (Jvm.Cond.instanceMethod ({ cls := "BundleMachine", name := "isRegister", desc := "(I)Z" } : Jvm.MethodName)) ∈ lw_all := lw_g (lw_at lw_m1 96 rfl) rfl
theorem q129 : (Jvm.Cond.code ({ cls := "BundleMachine", name := "isRegister", desc := "(I)Z" } : Jvm.MethodName) prog_1_method_10_code (2 : Nat) (Option.some Jvm.ClassFile.FieldType.boolean)) ∈ lw_all := lw_g (lw_at lw_m1 97 rfl) rfl
theorem q131 : (Jvm.Cond.instanceMethod ({ cls := "BundleMachine", name := "retract", desc := "()I" } : Jvm.MethodName)) ∈ lw_all := lw_g (lw_at lw_m1 99 rfl) rfl
theorem q132 : (Jvm.Cond.selects "BundleMachine" ({ cls := "BundleMachine", name := "retract", desc := "()I" } : Jvm.MethodName) ({ cls := "BundleMachine", name := "retract", desc := "()I" } : Jvm.MethodName)) ∈ lw_all := lw_g (lw_at lw_m1 100 rfl) rfl
theorem q133 : (Jvm.Cond.code ({ cls := "BundleMachine", name := "retract", desc := "()I" } : Jvm.MethodName) prog_1_method_3_code (1 : Nat) (Option.some Jvm.ClassFile.FieldType.int)) ∈ lw_all := lw_g (lw_at lw_m1 101 rfl) rfl
theorem q135 : (Jvm.Cond.instanceMethod ({ cls := "BundleMachine", name := "drop", desc := "()I" } : Jvm.MethodName)) ∈ lw_all := lw_g (lw_at lw_m1 103 rfl) rfl
theorem q136 : (Jvm.Cond.selects "BundleMachine" ({ cls := "BundleMachine", name := "drop", desc := "()I" } : Jvm.MethodName) ({ cls := "BundleMachine", name := "drop", desc := "()I" } : Jvm.MethodName)) ∈ lw_all := lw_g (lw_at lw_m1 104 rfl) rfl
theorem q137 : (Jvm.Cond.code ({ cls := "BundleMachine", name := "drop", desc := "()I" } : Jvm.MethodName) prog_1_method_4_code (2 : Nat) (Option.some Jvm.ClassFile.FieldType.int)) ∈ lw_all := lw_g (lw_at lw_m1 105 rfl) rfl
theorem q139 : (Jvm.Cond.instanceMethod ({ cls := "BundleMachine", name := "run", desc := "()I" } : Jvm.MethodName)) ∈ lw_all := lw_g (lw_at lw_m1 107 rfl) rfl
theorem q140 : (Jvm.Cond.selects "BundleMachine" ({ cls := "BundleMachine", name := "run", desc := "()I" } : Jvm.MethodName) ({ cls := "BundleMachine", name := "run", desc := "()I" } : Jvm.MethodName)) ∈ lw_all := lw_g (lw_at lw_m1 108 rfl) rfl
theorem q141 : (Jvm.Cond.code ({ cls := "BundleMachine", name := "run", desc := "()I" } : Jvm.MethodName) prog_1_method_5_code (1 : Nat) (Option.some Jvm.ClassFile.FieldType.int)) ∈ lw_all := lw_g (lw_at lw_m1 109 rfl) rfl
theorem q142 : (Jvm.Cond.methodLink "BundleMachine" (81 : Nat) ({ cls := "BundleMachine", name := "pack", desc := "()V" } : Jvm.MethodName)) ∈ lw_all := lw_g (lw_at lw_m1 110 rfl) rfl
theorem q143 : (Jvm.Cond.privateMethod ({ cls := "BundleMachine", name := "pack", desc := "()V" } : Jvm.MethodName)) ∈ lw_tbl := lw_at lw_m1 111 rfl
theorem q144 : (Jvm.Cond.instanceMethod ({ cls := "BundleMachine", name := "pack", desc := "()V" } : Jvm.MethodName)) ∈ lw_all := lw_g (lw_at lw_m1 112 rfl) rfl
theorem q145 : (Jvm.Cond.code ({ cls := "BundleMachine", name := "pack", desc := "()V" } : Jvm.MethodName) prog_1_method_25_code (1 : Nat) (Option.none : Option Jvm.ClassFile.FieldType)) ∈ lw_all := lw_g (lw_at lw_m1 113 rfl) rfl
theorem q146 : (Jvm.Cond.methodLink "BundleMachine" (120 : Nat) ({ cls := "BundleMachine", name := "lower", desc := "()V" } : Jvm.MethodName)) ∈ lw_all := lw_g (lw_at lw_m1 114 rfl) rfl
theorem q147 : (Jvm.Cond.privateMethod ({ cls := "BundleMachine", name := "lower", desc := "()V" } : Jvm.MethodName)) ∈ lw_tbl := lw_at lw_m1 115 rfl
theorem q148 : (Jvm.Cond.instanceMethod ({ cls := "BundleMachine", name := "lower", desc := "()V" } : Jvm.MethodName)) ∈ lw_all := lw_g (lw_at lw_m1 116 rfl) rfl
theorem q149 : (Jvm.Cond.code ({ cls := "BundleMachine", name := "lower", desc := "()V" } : Jvm.MethodName) prog_1_method_21_code (6 : Nat) (Option.none : Option Jvm.ClassFile.FieldType)) ∈ lw_all := lw_g (lw_at lw_m1 117 rfl) rfl
theorem q150 : (Jvm.Cond.methodLink "BundleMachine" (103 : Nat) ({ cls := "BundleMachine", name := "clusterOf", desc := "(I)I" } : Jvm.MethodName)) ∈ lw_all := lw_g (lw_at lw_m1 118 rfl) rfl
theorem q151 : (Jvm.Cond.privateMethod ({ cls := "BundleMachine", name := "clusterOf", desc := "(I)I" } : Jvm.MethodName)) ∈ lw_tbl := lw_at lw_m1 119 rfl
theorem q152 : (Jvm.Cond.instanceMethod ({ cls := "BundleMachine", name := "clusterOf", desc := "(I)I" } : Jvm.MethodName)) ∈ lw_all := lw_g (lw_at lw_m1 120 rfl) rfl
theorem q153 : (Jvm.Cond.code ({ cls := "BundleMachine", name := "clusterOf", desc := "(I)I" } : Jvm.MethodName) prog_1_method_18_code (2 : Nat) (Option.some Jvm.ClassFile.FieldType.int)) ∈ lw_all := lw_g (lw_at lw_m1 121 rfl) rfl
theorem q154 : (Jvm.Cond.methodLink "BundleMachine" (110 : Nat) ({ cls := "BundleMachine", name := "localCopy", desc := "(II)I" } : Jvm.MethodName)) ∈ lw_all := lw_g (lw_at lw_m1 122 rfl) rfl
theorem q155 : (Jvm.Cond.privateMethod ({ cls := "BundleMachine", name := "localCopy", desc := "(II)I" } : Jvm.MethodName)) ∈ lw_tbl := lw_at lw_m1 123 rfl
theorem q156 : (Jvm.Cond.instanceMethod ({ cls := "BundleMachine", name := "localCopy", desc := "(II)I" } : Jvm.MethodName)) ∈ lw_all := lw_g (lw_at lw_m1 124 rfl) rfl
theorem q157 : (Jvm.Cond.code ({ cls := "BundleMachine", name := "localCopy", desc := "(II)I" } : Jvm.MethodName) prog_1_method_20_code (4 : Nat) (Option.some Jvm.ClassFile.FieldType.int)) ∈ lw_all := lw_g (lw_at lw_m1 125 rfl) rfl
theorem q158 : (Jvm.Cond.methodLink "BundleMachine" (106 : Nat) ({ cls := "BundleMachine", name := "addOp", desc := "(IIIII)V" } : Jvm.MethodName)) ∈ lw_all := lw_g (lw_at lw_m1 126 rfl) rfl
theorem q159 : (Jvm.Cond.privateMethod ({ cls := "BundleMachine", name := "addOp", desc := "(IIIII)V" } : Jvm.MethodName)) ∈ lw_tbl := lw_at lw_m1 127 rfl
theorem q160 : (Jvm.Cond.instanceMethod ({ cls := "BundleMachine", name := "addOp", desc := "(IIIII)V" } : Jvm.MethodName)) ∈ lw_all := lw_g (lw_at lw_m1 128 rfl) rfl
theorem q161 : (Jvm.Cond.code ({ cls := "BundleMachine", name := "addOp", desc := "(IIIII)V" } : Jvm.MethodName) prog_1_method_19_code (6 : Nat) (Option.none : Option Jvm.ClassFile.FieldType)) ∈ lw_all := lw_g (lw_at lw_m1 129 rfl) rfl
theorem q162 : (Jvm.Cond.methodLink "BundleMachine" (123 : Nat) ({ cls := "BundleMachine", name := "findUrgency", desc := "()V" } : Jvm.MethodName)) ∈ lw_all := lw_g (lw_at lw_m1 130 rfl) rfl
theorem q163 : (Jvm.Cond.privateMethod ({ cls := "BundleMachine", name := "findUrgency", desc := "()V" } : Jvm.MethodName)) ∈ lw_tbl := lw_at lw_m1 131 rfl
theorem q164 : (Jvm.Cond.instanceMethod ({ cls := "BundleMachine", name := "findUrgency", desc := "()V" } : Jvm.MethodName)) ∈ lw_all := lw_g (lw_at lw_m1 132 rfl) rfl
theorem q165 : (Jvm.Cond.code ({ cls := "BundleMachine", name := "findUrgency", desc := "()V" } : Jvm.MethodName) prog_1_method_26_code (5 : Nat) (Option.none : Option Jvm.ClassFile.FieldType)) ∈ lw_all := lw_g (lw_at lw_m1 133 rfl) rfl
theorem q166 : (Jvm.Cond.methodLink "BundleMachine" (97 : Nat) ({ cls := "BundleMachine", name := "timeOf", desc := "(I)I" } : Jvm.MethodName)) ∈ lw_all := lw_g (lw_at lw_m1 134 rfl) rfl
theorem q167 : (Jvm.Cond.privateMethod ({ cls := "BundleMachine", name := "timeOf", desc := "(I)I" } : Jvm.MethodName)) ∈ lw_tbl := lw_at lw_m1 135 rfl
theorem q168 : (Jvm.Cond.instanceMethod ({ cls := "BundleMachine", name := "timeOf", desc := "(I)I" } : Jvm.MethodName)) ∈ lw_all := lw_g (lw_at lw_m1 136 rfl) rfl
theorem q169 : (Jvm.Cond.code ({ cls := "BundleMachine", name := "timeOf", desc := "(I)I" } : Jvm.MethodName) prog_1_method_11_code (2 : Nat) (Option.some Jvm.ClassFile.FieldType.int)) ∈ lw_all := lw_g (lw_at lw_m1 137 rfl) rfl
theorem q170 : (Jvm.Cond.methodLink "BundleMachine" (132 : Nat) ({ cls := "BundleMachine", name := "separation", desc := "(II)I" } : Jvm.MethodName)) ∈ lw_all := lw_g (lw_at lw_m1 138 rfl) rfl
theorem q171 : (Jvm.Cond.privateMethod ({ cls := "BundleMachine", name := "separation", desc := "(II)I" } : Jvm.MethodName)) ∈ lw_tbl := lw_at lw_m1 139 rfl
theorem q172 : (Jvm.Cond.instanceMethod ({ cls := "BundleMachine", name := "separation", desc := "(II)I" } : Jvm.MethodName)) ∈ lw_all := lw_g (lw_at lw_m1 140 rfl) rfl
theorem q173 : (Jvm.Cond.code ({ cls := "BundleMachine", name := "separation", desc := "(II)I" } : Jvm.MethodName) prog_1_method_24_code (7 : Nat) (Option.some Jvm.ClassFile.FieldType.int)) ∈ lw_all := lw_g (lw_at lw_m1 141 rfl) rfl
theorem q174 : (Jvm.Cond.methodLink "BundleMachine" (114 : Nat) ({ cls := "BundleMachine", name := "readSet", desc := "(I)I" } : Jvm.MethodName)) ∈ lw_all := lw_g (lw_at lw_m1 142 rfl) rfl
theorem q175 : (Jvm.Cond.privateMethod ({ cls := "BundleMachine", name := "readSet", desc := "(I)I" } : Jvm.MethodName)) ∈ lw_tbl := lw_at lw_m1 143 rfl
theorem q176 : (Jvm.Cond.instanceMethod ({ cls := "BundleMachine", name := "readSet", desc := "(I)I" } : Jvm.MethodName)) ∈ lw_all := lw_g (lw_at lw_m1 144 rfl) rfl
theorem q177 : (Jvm.Cond.code ({ cls := "BundleMachine", name := "readSet", desc := "(I)I" } : Jvm.MethodName) prog_1_method_22_code (3 : Nat) (Option.some Jvm.ClassFile.FieldType.int)) ∈ lw_all := lw_g (lw_at lw_m1 145 rfl) rfl
theorem q178 : (Jvm.Cond.methodLink "BundleMachine" (117 : Nat) ({ cls := "BundleMachine", name := "touchesMemory", desc := "(I)Z" } : Jvm.MethodName)) ∈ lw_all := lw_g (lw_at lw_m1 146 rfl) rfl
theorem q179 : (Jvm.Cond.privateMethod ({ cls := "BundleMachine", name := "touchesMemory", desc := "(I)Z" } : Jvm.MethodName)) ∈ lw_tbl := lw_at lw_m1 147 rfl
theorem q180 : (Jvm.Cond.instanceMethod ({ cls := "BundleMachine", name := "touchesMemory", desc := "(I)Z" } : Jvm.MethodName)) ∈ lw_all := lw_g (lw_at lw_m1 148 rfl) rfl
theorem q181 : (Jvm.Cond.code ({ cls := "BundleMachine", name := "touchesMemory", desc := "(I)Z" } : Jvm.MethodName) prog_1_method_23_code (2 : Nat) (Option.some Jvm.ClassFile.FieldType.boolean)) ∈ lw_all := lw_g (lw_at lw_m1 149 rfl) rfl
theorem q182 : (Jvm.Cond.methodLink "BundleMachine" (126 : Nat) ({ cls := "BundleMachine", name := "schedule", desc := "()V" } : Jvm.MethodName)) ∈ lw_all := lw_g (lw_at lw_m1 150 rfl) rfl
theorem q183 : (Jvm.Cond.privateMethod ({ cls := "BundleMachine", name := "schedule", desc := "()V" } : Jvm.MethodName)) ∈ lw_tbl := lw_at lw_m1 151 rfl
theorem q184 : (Jvm.Cond.instanceMethod ({ cls := "BundleMachine", name := "schedule", desc := "()V" } : Jvm.MethodName)) ∈ lw_all := lw_g (lw_at lw_m1 152 rfl) rfl
theorem q185 : (Jvm.Cond.code ({ cls := "BundleMachine", name := "schedule", desc := "()V" } : Jvm.MethodName) prog_1_method_28_code (5 : Nat) (Option.none : Option Jvm.ClassFile.FieldType)) ∈ lw_all := lw_g (lw_at lw_m1 153 rfl) rfl
theorem q186 : (Jvm.Cond.methodLink "BundleMachine" (135 : Nat) ({ cls := "BundleMachine", name := "mostUrgent", desc := "()I" } : Jvm.MethodName)) ∈ lw_all := lw_g (lw_at lw_m1 154 rfl) rfl
theorem q187 : (Jvm.Cond.privateMethod ({ cls := "BundleMachine", name := "mostUrgent", desc := "()I" } : Jvm.MethodName)) ∈ lw_tbl := lw_at lw_m1 155 rfl
theorem q188 : (Jvm.Cond.instanceMethod ({ cls := "BundleMachine", name := "mostUrgent", desc := "()I" } : Jvm.MethodName)) ∈ lw_all := lw_g (lw_at lw_m1 156 rfl) rfl
theorem q189 : (Jvm.Cond.code ({ cls := "BundleMachine", name := "mostUrgent", desc := "()I" } : Jvm.MethodName) prog_1_method_29_code (3 : Nat) (Option.some Jvm.ClassFile.FieldType.int)) ∈ lw_all := lw_g (lw_at lw_m1 157 rfl) rfl
theorem q190 : (Jvm.Cond.methodLink "BundleMachine" (145 : Nat) ({ cls := "BundleMachine", name := "isFree", desc := "(I)Z" } : Jvm.MethodName)) ∈ lw_all := lw_g (lw_at lw_m1 158 rfl) rfl
theorem q191 : (Jvm.Cond.privateMethod ({ cls := "BundleMachine", name := "isFree", desc := "(I)Z" } : Jvm.MethodName)) ∈ lw_tbl := lw_at lw_m1 159 rfl
theorem q192 : (Jvm.Cond.instanceMethod ({ cls := "BundleMachine", name := "isFree", desc := "(I)Z" } : Jvm.MethodName)) ∈ lw_all := lw_g (lw_at lw_m1 160 rfl) rfl
theorem q193 : (Jvm.Cond.code ({ cls := "BundleMachine", name := "isFree", desc := "(I)Z" } : Jvm.MethodName) prog_1_method_30_code (3 : Nat) (Option.some Jvm.ClassFile.FieldType.boolean)) ∈ lw_all := lw_g (lw_at lw_m1 161 rfl) rfl
theorem q194 : (Jvm.Cond.methodLink "BundleMachine" (139 : Nat) ({ cls := "BundleMachine", name := "earliest", desc := "(I)I" } : Jvm.MethodName)) ∈ lw_all := lw_g (lw_at lw_m1 162 rfl) rfl
theorem q195 : (Jvm.Cond.privateMethod ({ cls := "BundleMachine", name := "earliest", desc := "(I)I" } : Jvm.MethodName)) ∈ lw_tbl := lw_at lw_m1 163 rfl
theorem q196 : (Jvm.Cond.instanceMethod ({ cls := "BundleMachine", name := "earliest", desc := "(I)I" } : Jvm.MethodName)) ∈ lw_all := lw_g (lw_at lw_m1 164 rfl) rfl
theorem q197 : (Jvm.Cond.code ({ cls := "BundleMachine", name := "earliest", desc := "(I)I" } : Jvm.MethodName) prog_1_method_31_code (5 : Nat) (Option.some Jvm.ClassFile.FieldType.int)) ∈ lw_all := lw_g (lw_at lw_m1 165 rfl) rfl
theorem q198 : (Jvm.Cond.methodLink "BundleMachine" (142 : Nat) ({ cls := "BundleMachine", name := "unitOf", desc := "(I)I" } : Jvm.MethodName)) ∈ lw_all := lw_g (lw_at lw_m1 166 rfl) rfl
theorem q199 : (Jvm.Cond.privateMethod ({ cls := "BundleMachine", name := "unitOf", desc := "(I)I" } : Jvm.MethodName)) ∈ lw_tbl := lw_at lw_m1 167 rfl
theorem q200 : (Jvm.Cond.instanceMethod ({ cls := "BundleMachine", name := "unitOf", desc := "(I)I" } : Jvm.MethodName)) ∈ lw_all := lw_g (lw_at lw_m1 168 rfl) rfl
theorem q201 : (Jvm.Cond.code ({ cls := "BundleMachine", name := "unitOf", desc := "(I)I" } : Jvm.MethodName) prog_1_method_27_code (3 : Nat) (Option.some Jvm.ClassFile.FieldType.int)) ∈ lw_all := lw_g (lw_at lw_m1 169 rfl) rfl
theorem q202 : (Jvm.Cond.methodLink "BundleMachine" (129 : Nat) ({ cls := "BundleMachine", name := "encode", desc := "()V" } : Jvm.MethodName)) ∈ lw_all := lw_g (lw_at lw_m1 170 rfl) rfl
theorem q203 : (Jvm.Cond.privateMethod ({ cls := "BundleMachine", name := "encode", desc := "()V" } : Jvm.MethodName)) ∈ lw_tbl := lw_at lw_m1 171 rfl
theorem q204 : (Jvm.Cond.instanceMethod ({ cls := "BundleMachine", name := "encode", desc := "()V" } : Jvm.MethodName)) ∈ lw_all := lw_g (lw_at lw_m1 172 rfl) rfl
theorem q205 : (Jvm.Cond.code ({ cls := "BundleMachine", name := "encode", desc := "()V" } : Jvm.MethodName) prog_1_method_33_code (5 : Nat) (Option.none : Option Jvm.ClassFile.FieldType)) ∈ lw_all := lw_g (lw_at lw_m1 173 rfl) rfl
theorem q206 : (Jvm.Cond.methodLink "BundleMachine" (152 : Nat) ({ cls := "BundleMachine", name := "encoded", desc := "(I)I" } : Jvm.MethodName)) ∈ lw_all := lw_g (lw_at lw_m1 174 rfl) rfl
theorem q207 : (Jvm.Cond.privateMethod ({ cls := "BundleMachine", name := "encoded", desc := "(I)I" } : Jvm.MethodName)) ∈ lw_tbl := lw_at lw_m1 175 rfl
theorem q208 : (Jvm.Cond.instanceMethod ({ cls := "BundleMachine", name := "encoded", desc := "(I)I" } : Jvm.MethodName)) ∈ lw_all := lw_g (lw_at lw_m1 176 rfl) rfl
theorem q209 : (Jvm.Cond.code ({ cls := "BundleMachine", name := "encoded", desc := "(I)I" } : Jvm.MethodName) prog_1_method_32_code (2 : Nat) (Option.some Jvm.ClassFile.FieldType.int)) ∈ lw_all := lw_g (lw_at lw_m1 177 rfl) rfl
theorem q210 : (Jvm.Cond.constant "BundleMachine" (148 : Nat) (1073741824 : Int32)) ∈ lw_all := lw_g (lw_at lw_m1 178 rfl) rfl
theorem q211 : (Jvm.Cond.constant "BundleMachine" (155 : Nat) (-2147483648 : Int32)) ∈ lw_all := lw_g (lw_at lw_m1 179 rfl) rfl
theorem q212 : (Jvm.Cond.methodLink "BundleMachine" (84 : Nat) ({ cls := "BundleMachine", name := "execute", desc := "()V" } : Jvm.MethodName)) ∈ lw_all := lw_g (lw_at lw_m1 180 rfl) rfl
theorem q213 : (Jvm.Cond.privateMethod ({ cls := "BundleMachine", name := "execute", desc := "()V" } : Jvm.MethodName)) ∈ lw_tbl := lw_at lw_m1 181 rfl
theorem q214 : (Jvm.Cond.instanceMethod ({ cls := "BundleMachine", name := "execute", desc := "()V" } : Jvm.MethodName)) ∈ lw_all := lw_g (lw_at lw_m1 182 rfl) rfl
theorem q215 : (Jvm.Cond.code ({ cls := "BundleMachine", name := "execute", desc := "()V" } : Jvm.MethodName) prog_1_method_34_code (3 : Nat) (Option.none : Option Jvm.ClassFile.FieldType)) ∈ lw_all := lw_g (lw_at lw_m1 183 rfl) rfl
theorem q216 : (Jvm.Cond.methodLink "BundleMachine" (162 : Nat) ({ cls := "BundleMachine", name := "landResults", desc := "()V" } : Jvm.MethodName)) ∈ lw_all := lw_g (lw_at lw_m1 184 rfl) rfl
theorem q217 : (Jvm.Cond.privateMethod ({ cls := "BundleMachine", name := "landResults", desc := "()V" } : Jvm.MethodName)) ∈ lw_tbl := lw_at lw_m1 185 rfl
theorem q218 : (Jvm.Cond.instanceMethod ({ cls := "BundleMachine", name := "landResults", desc := "()V" } : Jvm.MethodName)) ∈ lw_all := lw_g (lw_at lw_m1 186 rfl) rfl
theorem q219 : (Jvm.Cond.code ({ cls := "BundleMachine", name := "landResults", desc := "()V" } : Jvm.MethodName) prog_1_method_35_code (3 : Nat) (Option.none : Option Jvm.ClassFile.FieldType)) ∈ lw_all := lw_g (lw_at lw_m1 187 rfl) rfl
theorem q220 : (Jvm.Cond.methodLink "BundleMachine" (165 : Nat) ({ cls := "BundleMachine", name := "issue", desc := "(I)V" } : Jvm.MethodName)) ∈ lw_all := lw_g (lw_at lw_m1 188 rfl) rfl
theorem q221 : (Jvm.Cond.privateMethod ({ cls := "BundleMachine", name := "issue", desc := "(I)V" } : Jvm.MethodName)) ∈ lw_tbl := lw_at lw_m1 189 rfl
theorem q222 : (Jvm.Cond.instanceMethod ({ cls := "BundleMachine", name := "issue", desc := "(I)V" } : Jvm.MethodName)) ∈ lw_all := lw_g (lw_at lw_m1 190 rfl) rfl
theorem q223 : (Jvm.Cond.code ({ cls := "BundleMachine", name := "issue", desc := "(I)V" } : Jvm.MethodName) prog_1_method_37_code (9 : Nat) (Option.none : Option Jvm.ClassFile.FieldType)) ∈ lw_all := lw_g (lw_at lw_m1 191 rfl) rfl
theorem q224 : (Jvm.Cond.methodLink "BundleMachine" (169 : Nat) ({ cls := "BundleMachine", name := "fly", desc := "(III)V" } : Jvm.MethodName)) ∈ lw_all := lw_g (lw_at lw_m1 192 rfl) rfl
theorem q225 : (Jvm.Cond.privateMethod ({ cls := "BundleMachine", name := "fly", desc := "(III)V" } : Jvm.MethodName)) ∈ lw_tbl := lw_at lw_m1 193 rfl
theorem q226 : (Jvm.Cond.instanceMethod ({ cls := "BundleMachine", name := "fly", desc := "(III)V" } : Jvm.MethodName)) ∈ lw_all := lw_g (lw_at lw_m1 194 rfl) rfl
theorem q227 : (Jvm.Cond.code ({ cls := "BundleMachine", name := "fly", desc := "(III)V" } : Jvm.MethodName) prog_1_method_36_code (4 : Nat) (Option.none : Option Jvm.ClassFile.FieldType)) ∈ lw_all := lw_g (lw_at lw_m1 195 rfl) rfl
theorem q228 : (Jvm.Cond.methodLink "BundleMachine" (173 : Nat) ({ cls := "BundleMachine", name := "combined", desc := "(III)I" } : Jvm.MethodName)) ∈ lw_all := lw_g (lw_at lw_m1 196 rfl) rfl
theorem q229 : (Jvm.Cond.privateMethod ({ cls := "BundleMachine", name := "combined", desc := "(III)I" } : Jvm.MethodName)) ∈ lw_tbl := lw_at lw_m1 197 rfl
theorem q230 : (Jvm.Cond.instanceMethod ({ cls := "BundleMachine", name := "combined", desc := "(III)I" } : Jvm.MethodName)) ∈ lw_all := lw_g (lw_at lw_m1 198 rfl) rfl
theorem q231 : (Jvm.Cond.code ({ cls := "BundleMachine", name := "combined", desc := "(III)I" } : Jvm.MethodName) prog_1_method_38_code (4 : Nat) (Option.some Jvm.ClassFile.FieldType.int)) ∈ lw_all := lw_g (lw_at lw_m1 199 rfl) rfl
theorem q233 : (Jvm.Cond.instanceMethod ({ cls := "BundleMachine", name := "register", desc := "(I)I" } : Jvm.MethodName)) ∈ lw_all := lw_g (lw_at lw_m1 201 rfl) rfl
theorem q234 : (Jvm.Cond.selects "BundleMachine" ({ cls := "BundleMachine", name := "register", desc := "(I)I" } : Jvm.MethodName) ({ cls := "BundleMachine", name := "register", desc := "(I)I" } : Jvm.MethodName)) ∈ lw_all := lw_g (lw_at lw_m1 202 rfl) rfl
theorem q235 : (Jvm.Cond.code ({ cls := "BundleMachine", name := "register", desc := "(I)I" } : Jvm.MethodName) prog_1_method_6_code (2 : Nat) (Option.some Jvm.ClassFile.FieldType.int)) ∈ lw_all := lw_g (lw_at lw_m1 203 rfl) rfl
theorem q237 : (Jvm.Cond.instanceMethod ({ cls := "BundleMachine", name := "setRegister", desc := "(II)Z" } : Jvm.MethodName)) ∈ lw_all := lw_g (lw_at lw_m1 205 rfl) rfl
theorem q238 : (Jvm.Cond.selects "BundleMachine" ({ cls := "BundleMachine", name := "setRegister", desc := "(II)Z" } : Jvm.MethodName) ({ cls := "BundleMachine", name := "setRegister", desc := "(II)Z" } : Jvm.MethodName)) ∈ lw_all := lw_g (lw_at lw_m1 206 rfl) rfl
theorem q239 : (Jvm.Cond.code ({ cls := "BundleMachine", name := "setRegister", desc := "(II)Z" } : Jvm.MethodName) prog_1_method_7_code (3 : Nat) (Option.some Jvm.ClassFile.FieldType.boolean)) ∈ lw_all := lw_g (lw_at lw_m1 207 rfl) rfl
theorem q241 : (Jvm.Cond.instanceMethod ({ cls := "BundleMachine", name := "memory", desc := "(I)I" } : Jvm.MethodName)) ∈ lw_all := lw_g (lw_at lw_m1 209 rfl) rfl
theorem q242 : (Jvm.Cond.selects "BundleMachine" ({ cls := "BundleMachine", name := "memory", desc := "(I)I" } : Jvm.MethodName) ({ cls := "BundleMachine", name := "memory", desc := "(I)I" } : Jvm.MethodName)) ∈ lw_all := lw_g (lw_at lw_m1 210 rfl) rfl
theorem q243 : (Jvm.Cond.code ({ cls := "BundleMachine", name := "memory", desc := "(I)I" } : Jvm.MethodName) prog_1_method_8_code (2 : Nat) (Option.some Jvm.ClassFile.FieldType.int)) ∈ lw_all := lw_g (lw_at lw_m1 211 rfl) rfl
theorem q245 : (Jvm.Cond.instanceMethod ({ cls := "BundleMachine", name := "setMemory", desc := "(II)Z" } : Jvm.MethodName)) ∈ lw_all := lw_g (lw_at lw_m1 213 rfl) rfl
theorem q246 : (Jvm.Cond.selects "BundleMachine" ({ cls := "BundleMachine", name := "setMemory", desc := "(II)Z" } : Jvm.MethodName) ({ cls := "BundleMachine", name := "setMemory", desc := "(II)Z" } : Jvm.MethodName)) ∈ lw_all := lw_g (lw_at lw_m1 214 rfl) rfl
theorem q247 : (Jvm.Cond.code ({ cls := "BundleMachine", name := "setMemory", desc := "(II)Z" } : Jvm.MethodName) prog_1_method_9_code (3 : Nat) (Option.some Jvm.ClassFile.FieldType.boolean)) ∈ lw_all := lw_g (lw_at lw_m1 215 rfl) rfl
theorem q249 : (Jvm.Cond.instanceMethod ({ cls := "BundleMachine", name := "weight", desc := "(I)I" } : Jvm.MethodName)) ∈ lw_all := lw_g (lw_at lw_m1 217 rfl) rfl
theorem q250 : (Jvm.Cond.selects "BundleMachine" ({ cls := "BundleMachine", name := "weight", desc := "(I)I" } : Jvm.MethodName) ({ cls := "BundleMachine", name := "weight", desc := "(I)I" } : Jvm.MethodName)) ∈ lw_all := lw_g (lw_at lw_m1 218 rfl) rfl
theorem q251 : (Jvm.Cond.code ({ cls := "BundleMachine", name := "weight", desc := "(I)I" } : Jvm.MethodName) prog_1_method_14_code (2 : Nat) (Option.some Jvm.ClassFile.FieldType.int)) ∈ lw_all := lw_g (lw_at lw_m1 219 rfl) rfl
theorem q252 : (Jvm.Cond.methodLink "BundleMachine" (91 : Nat) ({ cls := "BundleMachine", name := "weigh", desc := "()V" } : Jvm.MethodName)) ∈ lw_all := lw_g (lw_at lw_m1 220 rfl) rfl
theorem q253 : (Jvm.Cond.privateMethod ({ cls := "BundleMachine", name := "weigh", desc := "()V" } : Jvm.MethodName)) ∈ lw_tbl := lw_at lw_m1 221 rfl
theorem q254 : (Jvm.Cond.instanceMethod ({ cls := "BundleMachine", name := "weigh", desc := "()V" } : Jvm.MethodName)) ∈ lw_all := lw_g (lw_at lw_m1 222 rfl) rfl
theorem q255 : (Jvm.Cond.code ({ cls := "BundleMachine", name := "weigh", desc := "()V" } : Jvm.MethodName) prog_1_method_17_code (5 : Nat) (Option.none : Option Jvm.ClassFile.FieldType)) ∈ lw_all := lw_g (lw_at lw_m1 223 rfl) rfl
theorem q256 : (Jvm.Cond.methodLink "BundleMachine" (94 : Nat) ({ cls := "BundleMachine", name := "hangsOn", desc := "(I)I" } : Jvm.MethodName)) ∈ lw_all := lw_g (lw_at lw_m1 224 rfl) rfl
theorem q257 : (Jvm.Cond.privateMethod ({ cls := "BundleMachine", name := "hangsOn", desc := "(I)I" } : Jvm.MethodName)) ∈ lw_tbl := lw_at lw_m1 225 rfl
theorem q258 : (Jvm.Cond.instanceMethod ({ cls := "BundleMachine", name := "hangsOn", desc := "(I)I" } : Jvm.MethodName)) ∈ lw_all := lw_g (lw_at lw_m1 226 rfl) rfl
theorem q259 : (Jvm.Cond.code ({ cls := "BundleMachine", name := "hangsOn", desc := "(I)I" } : Jvm.MethodName) prog_1_method_13_code (5 : Nat) (Option.some Jvm.ClassFile.FieldType.int)) ∈ lw_all := lw_g (lw_at lw_m1 227 rfl) rfl
theorem q260 : (Jvm.Cond.methodLink "BundleMachine" (87 : Nat) ({ cls := "BundleMachine", name := "readBySource", desc := "(I)I" } : Jvm.MethodName)) ∈ lw_all := lw_g (lw_at lw_m1 228 rfl) rfl
theorem q261 : (Jvm.Cond.privateMethod ({ cls := "BundleMachine", name := "readBySource", desc := "(I)I" } : Jvm.MethodName)) ∈ lw_tbl := lw_at lw_m1 229 rfl
theorem q262 : (Jvm.Cond.instanceMethod ({ cls := "BundleMachine", name := "readBySource", desc := "(I)I" } : Jvm.MethodName)) ∈ lw_all := lw_g (lw_at lw_m1 230 rfl) rfl
theorem q263 : (Jvm.Cond.code ({ cls := "BundleMachine", name := "readBySource", desc := "(I)I" } : Jvm.MethodName) prog_1_method_12_code (3 : Nat) (Option.some Jvm.ClassFile.FieldType.int)) ∈ lw_all := lw_g (lw_at lw_m1 231 rfl) rfl
theorem q265 : (Jvm.Cond.instanceMethod ({ cls := "BundleMachine", name := "heaviest", desc := "()I" } : Jvm.MethodName)) ∈ lw_all := lw_g (lw_at lw_m1 233 rfl) rfl
theorem q266 : (Jvm.Cond.selects "BundleMachine" ({ cls := "BundleMachine", name := "heaviest", desc := "()I" } : Jvm.MethodName) ({ cls := "BundleMachine", name := "heaviest", desc := "()I" } : Jvm.MethodName)) ∈ lw_all := lw_g (lw_at lw_m1 234 rfl) rfl
theorem q267 : (Jvm.Cond.code ({ cls := "BundleMachine", name := "heaviest", desc := "()I" } : Jvm.MethodName) prog_1_method_15_code (3 : Nat) (Option.some Jvm.ClassFile.FieldType.int)) ∈ lw_all := lw_g (lw_at lw_m1 235 rfl) rfl
theorem q269 : (Jvm.Cond.instanceMethod ({ cls := "BundleMachine", name := "links", desc := "()I" } : Jvm.MethodName)) ∈ lw_all := lw_g (lw_at lw_m1 237 rfl) rfl
theorem q270 : (Jvm.Cond.selects "BundleMachine" ({ cls := "BundleMachine", name := "links", desc := "()I" } : Jvm.MethodName) ({ cls := "BundleMachine", name := "links", desc := "()I" } : Jvm.MethodName)) ∈ lw_all := lw_g (lw_at lw_m1 238 rfl) rfl
theorem q271 : (Jvm.Cond.code ({ cls := "BundleMachine", name := "links", desc := "()I" } : Jvm.MethodName) prog_1_method_16_code (5 : Nat) (Option.some Jvm.ClassFile.FieldType.int)) ∈ lw_all := lw_g (lw_at lw_m1 239 rfl) rfl
theorem in_X0 : ∀ w ∈ wsX00, w ∈ lw_all := lw_in wsX00 [68, 70, 72, 74, 76, 78, 80, 82, 84, 86, 88, 90, 92, 94, 96, 98, 100, 102, 104, 106, 108, 110, 112, 114, 116] (by decide +kernel) (by decide +kernel)
theorem q34 : (Jvm.Cond.initialized "BundleMachineModel") ∈ lw_all := lw_g (lw_at lw_m1 2 rfl) rfl
theorem q273 : (Jvm.Cond.instantiable "BundleMachineModel" (8 : Nat)) ∈ lw_all := lw_g (lw_at lw_m2 1 rfl) rfl
theorem q275 : (Jvm.Cond.instanceMethod ({ cls := "BundleMachineModel", name := "<init>", desc := "()V" } : Jvm.MethodName)) ∈ lw_all := lw_g (lw_at lw_m2 3 rfl) rfl
theorem q276 : (Jvm.Cond.code ({ cls := "BundleMachineModel", name := "<init>", desc := "()V" } : Jvm.MethodName) prog_3_method_1_code (1 : Nat) (Option.none : Option Jvm.ClassFile.FieldType)) ∈ lw_all := lw_g (lw_at lw_m2 4 rfl) rfl
theorem q277 : (Jvm.Cond.methodLink "BundleMachineModel" (1 : Nat) ({ cls := "java/lang/Object", name := "<init>", desc := "()V" } : Jvm.MethodName)) ∈ lw_all := lw_g (lw_at lw_m2 5 rfl) rfl
theorem q278 : (Jvm.Cond.fieldLink "BundleMachineModel" (7 : Nat) "BundleMachineModel" "n" "I") ∈ lw_all := lw_g (lw_at lw_m2 6 rfl) rfl
theorem q279 : (Jvm.Cond.fieldLink "BundleMachineModel" (13 : Nat) "BundleMachineModel" "op" "[I") ∈ lw_all := lw_g (lw_at lw_m2 7 rfl) rfl
theorem q280 : (Jvm.Cond.fieldLink "BundleMachineModel" (17 : Nat) "BundleMachineModel" "d" "[I") ∈ lw_all := lw_g (lw_at lw_m2 8 rfl) rfl
theorem q281 : (Jvm.Cond.fieldLink "BundleMachineModel" (20 : Nat) "BundleMachineModel" "a" "[I") ∈ lw_all := lw_g (lw_at lw_m2 9 rfl) rfl
theorem q282 : (Jvm.Cond.fieldLink "BundleMachineModel" (23 : Nat) "BundleMachineModel" "b" "[I") ∈ lw_all := lw_g (lw_at lw_m2 10 rfl) rfl
theorem q283 : (Jvm.Cond.fieldLink "BundleMachineModel" (26 : Nat) "BundleMachineModel" "regs" "[I") ∈ lw_all := lw_g (lw_at lw_m2 11 rfl) rfl
theorem q284 : (Jvm.Cond.fieldLink "BundleMachineModel" (29 : Nat) "BundleMachineModel" "cells" "[I") ∈ lw_all := lw_g (lw_at lw_m2 12 rfl) rfl
theorem q285 : (Jvm.Cond.fieldLink "BundleMachineModel" (32 : Nat) "BundleMachineModel" "weights" "[I") ∈ lw_all := lw_g (lw_at lw_m2 13 rfl) rfl
theorem q286 : (Jvm.Cond.lays "BundleMachineModel" "BundleMachineModel" "n" "I") ∈ lw_all := lw_g (lw_at lw_m2 14 rfl) rfl
theorem q287 : (Jvm.Cond.soleField "BundleMachineModel" "n") ∈ lw_all := lw_g (lw_at lw_m2 15 rfl) rfl
theorem q288 : (Jvm.Cond.lays "BundleMachineModel" "BundleMachineModel" "op" "[I") ∈ lw_all := lw_g (lw_at lw_m2 16 rfl) rfl
theorem q289 : (Jvm.Cond.soleField "BundleMachineModel" "op") ∈ lw_all := lw_g (lw_at lw_m2 17 rfl) rfl
theorem q290 : (Jvm.Cond.lays "BundleMachineModel" "BundleMachineModel" "d" "[I") ∈ lw_all := lw_g (lw_at lw_m2 18 rfl) rfl
theorem q291 : (Jvm.Cond.soleField "BundleMachineModel" "d") ∈ lw_all := lw_g (lw_at lw_m2 19 rfl) rfl
theorem q292 : (Jvm.Cond.lays "BundleMachineModel" "BundleMachineModel" "a" "[I") ∈ lw_all := lw_g (lw_at lw_m2 20 rfl) rfl
theorem q293 : (Jvm.Cond.soleField "BundleMachineModel" "a") ∈ lw_all := lw_g (lw_at lw_m2 21 rfl) rfl
theorem q294 : (Jvm.Cond.lays "BundleMachineModel" "BundleMachineModel" "b" "[I") ∈ lw_all := lw_g (lw_at lw_m2 22 rfl) rfl
theorem q295 : (Jvm.Cond.soleField "BundleMachineModel" "b") ∈ lw_all := lw_g (lw_at lw_m2 23 rfl) rfl
theorem q296 : (Jvm.Cond.lays "BundleMachineModel" "BundleMachineModel" "regs" "[I") ∈ lw_all := lw_g (lw_at lw_m2 24 rfl) rfl
theorem q297 : (Jvm.Cond.soleField "BundleMachineModel" "regs") ∈ lw_all := lw_g (lw_at lw_m2 25 rfl) rfl
theorem q298 : (Jvm.Cond.lays "BundleMachineModel" "BundleMachineModel" "cells" "[I") ∈ lw_all := lw_g (lw_at lw_m2 26 rfl) rfl
theorem q299 : (Jvm.Cond.soleField "BundleMachineModel" "cells") ∈ lw_all := lw_g (lw_at lw_m2 27 rfl) rfl
theorem q300 : (Jvm.Cond.lays "BundleMachineModel" "BundleMachineModel" "weights" "[I") ∈ lw_all := lw_g (lw_at lw_m2 28 rfl) rfl
theorem q301 : (Jvm.Cond.soleField "BundleMachineModel" "weights") ∈ lw_all := lw_g (lw_at lw_m2 29 rfl) rfl
theorem q302 : (Jvm.Cond.superclass "BundleMachineModel" "java/lang/Object") ∈ lw_all := lw_g (lw_at lw_m2 30 rfl) rfl
theorem q304 : (Jvm.Cond.instanceMethod ({ cls := "BundleMachineModel", name := "emit", desc := "(IIII)I" } : Jvm.MethodName)) ∈ lw_all := lw_g (lw_at lw_m2 32 rfl) rfl
theorem q305 : (Jvm.Cond.selects "BundleMachineModel" ({ cls := "BundleMachineModel", name := "emit", desc := "(IIII)I" } : Jvm.MethodName) ({ cls := "BundleMachineModel", name := "emit", desc := "(IIII)I" } : Jvm.MethodName)) ∈ lw_all := lw_g (lw_at lw_m2 33 rfl) rfl
theorem q306 : (Jvm.Cond.code ({ cls := "BundleMachineModel", name := "emit", desc := "(IIII)I" } : Jvm.MethodName) prog_3_method_3_code (5 : Nat) (Option.some Jvm.ClassFile.FieldType.int)) ∈ lw_all := lw_g (lw_at lw_m2 34 rfl) rfl
theorem q307 : (Jvm.Cond.methodLink "BundleMachineModel" (35 : Nat) ({ cls := "BundleMachineModel", name := "isRegister", desc := "(I)Z" } : Jvm.MethodName)) ∈ lw_all := lw_g (lw_at lw_m2 35 rfl) rfl
theorem q308 : (Jvm.Cond.privateMethod ({ cls := "BundleMachineModel", name := "isRegister", desc := "(I)Z" } : Jvm.MethodName)) ∈ lw_tbl := lw_at lw_m2 36 rfl
theorem q309 : (Jvm.Cond.instanceMethod ({ cls := "BundleMachineModel", name := "isRegister", desc := "(I)Z" } : Jvm.MethodName)) ∈ lw_all := lw_g (lw_at lw_m2 37 rfl) rfl
theorem q310 : (Jvm.Cond.code ({ cls := "BundleMachineModel", name := "isRegister", desc := "(I)Z" } : Jvm.MethodName) prog_3_method_2_code (2 : Nat) (Option.some Jvm.ClassFile.FieldType.boolean)) ∈ lw_all := lw_g (lw_at lw_m2 38 rfl) rfl
theorem q312 : (Jvm.Cond.instanceMethod ({ cls := "BundleMachineModel", name := "retract", desc := "()I" } : Jvm.MethodName)) ∈ lw_all := lw_g (lw_at lw_m2 40 rfl) rfl
theorem q313 : (Jvm.Cond.selects "BundleMachineModel" ({ cls := "BundleMachineModel", name := "retract", desc := "()I" } : Jvm.MethodName) ({ cls := "BundleMachineModel", name := "retract", desc := "()I" } : Jvm.MethodName)) ∈ lw_all := lw_g (lw_at lw_m2 41 rfl) rfl
theorem q314 : (Jvm.Cond.code ({ cls := "BundleMachineModel", name := "retract", desc := "()I" } : Jvm.MethodName) prog_3_method_4_code (1 : Nat) (Option.some Jvm.ClassFile.FieldType.int)) ∈ lw_all := lw_g (lw_at lw_m2 42 rfl) rfl
theorem q316 : (Jvm.Cond.instanceMethod ({ cls := "BundleMachineModel", name := "drop", desc := "()I" } : Jvm.MethodName)) ∈ lw_all := lw_g (lw_at lw_m2 44 rfl) rfl
theorem q317 : (Jvm.Cond.selects "BundleMachineModel" ({ cls := "BundleMachineModel", name := "drop", desc := "()I" } : Jvm.MethodName) ({ cls := "BundleMachineModel", name := "drop", desc := "()I" } : Jvm.MethodName)) ∈ lw_all := lw_g (lw_at lw_m2 45 rfl) rfl
theorem q318 : (Jvm.Cond.code ({ cls := "BundleMachineModel", name := "drop", desc := "()I" } : Jvm.MethodName) prog_3_method_5_code (2 : Nat) (Option.some Jvm.ClassFile.FieldType.int)) ∈ lw_all := lw_g (lw_at lw_m2 46 rfl) rfl
theorem q320 : (Jvm.Cond.instanceMethod ({ cls := "BundleMachineModel", name := "run", desc := "()I" } : Jvm.MethodName)) ∈ lw_all := lw_g (lw_at lw_m2 48 rfl) rfl
theorem q321 : (Jvm.Cond.selects "BundleMachineModel" ({ cls := "BundleMachineModel", name := "run", desc := "()I" } : Jvm.MethodName) ({ cls := "BundleMachineModel", name := "run", desc := "()I" } : Jvm.MethodName)) ∈ lw_all := lw_g (lw_at lw_m2 49 rfl) rfl
theorem q322 : (Jvm.Cond.code ({ cls := "BundleMachineModel", name := "run", desc := "()I" } : Jvm.MethodName) prog_3_method_7_code (2 : Nat) (Option.some Jvm.ClassFile.FieldType.int)) ∈ lw_all := lw_g (lw_at lw_m2 50 rfl) rfl
theorem q323 : (Jvm.Cond.methodLink "BundleMachineModel" (39 : Nat) ({ cls := "BundleMachineModel", name := "execute", desc := "(I)V" } : Jvm.MethodName)) ∈ lw_all := lw_g (lw_at lw_m2 51 rfl) rfl
theorem q324 : (Jvm.Cond.privateMethod ({ cls := "BundleMachineModel", name := "execute", desc := "(I)V" } : Jvm.MethodName)) ∈ lw_tbl := lw_at lw_m2 52 rfl
theorem q325 : (Jvm.Cond.instanceMethod ({ cls := "BundleMachineModel", name := "execute", desc := "(I)V" } : Jvm.MethodName)) ∈ lw_all := lw_g (lw_at lw_m2 53 rfl) rfl
theorem q326 : (Jvm.Cond.code ({ cls := "BundleMachineModel", name := "execute", desc := "(I)V" } : Jvm.MethodName) prog_3_method_6_code (5 : Nat) (Option.none : Option Jvm.ClassFile.FieldType)) ∈ lw_all := lw_g (lw_at lw_m2 54 rfl) rfl
theorem q328 : (Jvm.Cond.instanceMethod ({ cls := "BundleMachineModel", name := "register", desc := "(I)I" } : Jvm.MethodName)) ∈ lw_all := lw_g (lw_at lw_m2 56 rfl) rfl
theorem q329 : (Jvm.Cond.selects "BundleMachineModel" ({ cls := "BundleMachineModel", name := "register", desc := "(I)I" } : Jvm.MethodName) ({ cls := "BundleMachineModel", name := "register", desc := "(I)I" } : Jvm.MethodName)) ∈ lw_all := lw_g (lw_at lw_m2 57 rfl) rfl
theorem q330 : (Jvm.Cond.code ({ cls := "BundleMachineModel", name := "register", desc := "(I)I" } : Jvm.MethodName) prog_3_method_8_code (2 : Nat) (Option.some Jvm.ClassFile.FieldType.int)) ∈ lw_all := lw_g (lw_at lw_m2 58 rfl) rfl
theorem q332 : (Jvm.Cond.instanceMethod ({ cls := "BundleMachineModel", name := "setRegister", desc := "(II)Z" } : Jvm.MethodName)) ∈ lw_all := lw_g (lw_at lw_m2 60 rfl) rfl
theorem q333 : (Jvm.Cond.selects "BundleMachineModel" ({ cls := "BundleMachineModel", name := "setRegister", desc := "(II)Z" } : Jvm.MethodName) ({ cls := "BundleMachineModel", name := "setRegister", desc := "(II)Z" } : Jvm.MethodName)) ∈ lw_all := lw_g (lw_at lw_m2 61 rfl) rfl
theorem q334 : (Jvm.Cond.code ({ cls := "BundleMachineModel", name := "setRegister", desc := "(II)Z" } : Jvm.MethodName) prog_3_method_9_code (3 : Nat) (Option.some Jvm.ClassFile.FieldType.boolean)) ∈ lw_all := lw_g (lw_at lw_m2 62 rfl) rfl
theorem q336 : (Jvm.Cond.instanceMethod ({ cls := "BundleMachineModel", name := "memory", desc := "(I)I" } : Jvm.MethodName)) ∈ lw_all := lw_g (lw_at lw_m2 64 rfl) rfl
theorem q337 : (Jvm.Cond.selects "BundleMachineModel" ({ cls := "BundleMachineModel", name := "memory", desc := "(I)I" } : Jvm.MethodName) ({ cls := "BundleMachineModel", name := "memory", desc := "(I)I" } : Jvm.MethodName)) ∈ lw_all := lw_g (lw_at lw_m2 65 rfl) rfl
theorem q338 : (Jvm.Cond.code ({ cls := "BundleMachineModel", name := "memory", desc := "(I)I" } : Jvm.MethodName) prog_3_method_10_code (2 : Nat) (Option.some Jvm.ClassFile.FieldType.int)) ∈ lw_all := lw_g (lw_at lw_m2 66 rfl) rfl
theorem q340 : (Jvm.Cond.instanceMethod ({ cls := "BundleMachineModel", name := "setMemory", desc := "(II)Z" } : Jvm.MethodName)) ∈ lw_all := lw_g (lw_at lw_m2 68 rfl) rfl
theorem q341 : (Jvm.Cond.selects "BundleMachineModel" ({ cls := "BundleMachineModel", name := "setMemory", desc := "(II)Z" } : Jvm.MethodName) ({ cls := "BundleMachineModel", name := "setMemory", desc := "(II)Z" } : Jvm.MethodName)) ∈ lw_all := lw_g (lw_at lw_m2 69 rfl) rfl
theorem q342 : (Jvm.Cond.code ({ cls := "BundleMachineModel", name := "setMemory", desc := "(II)Z" } : Jvm.MethodName) prog_3_method_11_code (3 : Nat) (Option.some Jvm.ClassFile.FieldType.boolean)) ∈ lw_all := lw_g (lw_at lw_m2 70 rfl) rfl
theorem q344 : (Jvm.Cond.instanceMethod ({ cls := "BundleMachineModel", name := "weight", desc := "(I)I" } : Jvm.MethodName)) ∈ lw_all := lw_g (lw_at lw_m2 72 rfl) rfl
theorem q345 : (Jvm.Cond.selects "BundleMachineModel" ({ cls := "BundleMachineModel", name := "weight", desc := "(I)I" } : Jvm.MethodName) ({ cls := "BundleMachineModel", name := "weight", desc := "(I)I" } : Jvm.MethodName)) ∈ lw_all := lw_g (lw_at lw_m2 73 rfl) rfl
theorem q346 : (Jvm.Cond.code ({ cls := "BundleMachineModel", name := "weight", desc := "(I)I" } : Jvm.MethodName) prog_3_method_16_code (2 : Nat) (Option.some Jvm.ClassFile.FieldType.int)) ∈ lw_all := lw_g (lw_at lw_m2 74 rfl) rfl
theorem q347 : (Jvm.Cond.methodLink "BundleMachineModel" (53 : Nat) ({ cls := "BundleMachineModel", name := "weighAll", desc := "()V" } : Jvm.MethodName)) ∈ lw_all := lw_g (lw_at lw_m2 75 rfl) rfl
theorem q348 : (Jvm.Cond.privateMethod ({ cls := "BundleMachineModel", name := "weighAll", desc := "()V" } : Jvm.MethodName)) ∈ lw_tbl := lw_at lw_m2 76 rfl
theorem q349 : (Jvm.Cond.instanceMethod ({ cls := "BundleMachineModel", name := "weighAll", desc := "()V" } : Jvm.MethodName)) ∈ lw_all := lw_g (lw_at lw_m2 77 rfl) rfl
theorem q350 : (Jvm.Cond.code ({ cls := "BundleMachineModel", name := "weighAll", desc := "()V" } : Jvm.MethodName) prog_3_method_15_code (4 : Nat) (Option.none : Option Jvm.ClassFile.FieldType)) ∈ lw_all := lw_g (lw_at lw_m2 78 rfl) rfl
theorem q351 : (Jvm.Cond.methodLink "BundleMachineModel" (50 : Nat) ({ cls := "BundleMachineModel", name := "hangs", desc := "(II)Z" } : Jvm.MethodName)) ∈ lw_all := lw_g (lw_at lw_m2 79 rfl) rfl
theorem q352 : (Jvm.Cond.privateMethod ({ cls := "BundleMachineModel", name := "hangs", desc := "(II)Z" } : Jvm.MethodName)) ∈ lw_tbl := lw_at lw_m2 80 rfl
theorem q353 : (Jvm.Cond.instanceMethod ({ cls := "BundleMachineModel", name := "hangs", desc := "(II)Z" } : Jvm.MethodName)) ∈ lw_all := lw_g (lw_at lw_m2 81 rfl) rfl
theorem q354 : (Jvm.Cond.code ({ cls := "BundleMachineModel", name := "hangs", desc := "(II)Z" } : Jvm.MethodName) prog_3_method_14_code (5 : Nat) (Option.some Jvm.ClassFile.FieldType.boolean)) ∈ lw_all := lw_g (lw_at lw_m2 82 rfl) rfl
theorem q355 : (Jvm.Cond.methodLink "BundleMachineModel" (43 : Nat) ({ cls := "BundleMachineModel", name := "writes", desc := "(II)Z" } : Jvm.MethodName)) ∈ lw_all := lw_g (lw_at lw_m2 83 rfl) rfl
theorem q356 : (Jvm.Cond.privateMethod ({ cls := "BundleMachineModel", name := "writes", desc := "(II)Z" } : Jvm.MethodName)) ∈ lw_tbl := lw_at lw_m2 84 rfl
theorem q357 : (Jvm.Cond.instanceMethod ({ cls := "BundleMachineModel", name := "writes", desc := "(II)Z" } : Jvm.MethodName)) ∈ lw_all := lw_g (lw_at lw_m2 85 rfl) rfl
theorem q358 : (Jvm.Cond.code ({ cls := "BundleMachineModel", name := "writes", desc := "(II)Z" } : Jvm.MethodName) prog_3_method_13_code (3 : Nat) (Option.some Jvm.ClassFile.FieldType.boolean)) ∈ lw_all := lw_g (lw_at lw_m2 86 rfl) rfl
theorem q359 : (Jvm.Cond.methodLink "BundleMachineModel" (47 : Nat) ({ cls := "BundleMachineModel", name := "reads", desc := "(II)Z" } : Jvm.MethodName)) ∈ lw_all := lw_g (lw_at lw_m2 87 rfl) rfl
theorem q360 : (Jvm.Cond.privateMethod ({ cls := "BundleMachineModel", name := "reads", desc := "(II)Z" } : Jvm.MethodName)) ∈ lw_tbl := lw_at lw_m2 88 rfl
theorem q361 : (Jvm.Cond.instanceMethod ({ cls := "BundleMachineModel", name := "reads", desc := "(II)Z" } : Jvm.MethodName)) ∈ lw_all := lw_g (lw_at lw_m2 89 rfl) rfl
theorem q362 : (Jvm.Cond.code ({ cls := "BundleMachineModel", name := "reads", desc := "(II)Z" } : Jvm.MethodName) prog_3_method_12_code (3 : Nat) (Option.some Jvm.ClassFile.FieldType.boolean)) ∈ lw_all := lw_g (lw_at lw_m2 90 rfl) rfl
theorem q364 : (Jvm.Cond.instanceMethod ({ cls := "BundleMachineModel", name := "heaviest", desc := "()I" } : Jvm.MethodName)) ∈ lw_all := lw_g (lw_at lw_m2 92 rfl) rfl
theorem q365 : (Jvm.Cond.selects "BundleMachineModel" ({ cls := "BundleMachineModel", name := "heaviest", desc := "()I" } : Jvm.MethodName) ({ cls := "BundleMachineModel", name := "heaviest", desc := "()I" } : Jvm.MethodName)) ∈ lw_all := lw_g (lw_at lw_m2 93 rfl) rfl
theorem q366 : (Jvm.Cond.code ({ cls := "BundleMachineModel", name := "heaviest", desc := "()I" } : Jvm.MethodName) prog_3_method_17_code (3 : Nat) (Option.some Jvm.ClassFile.FieldType.int)) ∈ lw_all := lw_g (lw_at lw_m2 94 rfl) rfl
theorem q368 : (Jvm.Cond.instanceMethod ({ cls := "BundleMachineModel", name := "links", desc := "()I" } : Jvm.MethodName)) ∈ lw_all := lw_g (lw_at lw_m2 96 rfl) rfl
theorem q369 : (Jvm.Cond.selects "BundleMachineModel" ({ cls := "BundleMachineModel", name := "links", desc := "()I" } : Jvm.MethodName) ({ cls := "BundleMachineModel", name := "links", desc := "()I" } : Jvm.MethodName)) ∈ lw_all := lw_g (lw_at lw_m2 97 rfl) rfl
theorem q370 : (Jvm.Cond.code ({ cls := "BundleMachineModel", name := "links", desc := "()I" } : Jvm.MethodName) prog_3_method_18_code (4 : Nat) (Option.some Jvm.ClassFile.FieldType.int)) ∈ lw_all := lw_g (lw_at lw_m2 98 rfl) rfl
theorem in_X1 : ∀ w ∈ wsX10, w ∈ lw_all := lw_in wsX10 [286, 288, 290, 292, 294, 296, 298, 300] (by decide +kernel) (by decide +kernel)
theorem q41 : (Jvm.Cond.instanceMethod ({ cls := "java/lang/Object", name := "<init>", desc := "()V" } : Jvm.MethodName)) ∈ lw_all := lw_g (lw_at lw_m1 9 rfl) rfl
theorem q42 : (Jvm.Cond.code ({ cls := "java/lang/Object", name := "<init>", desc := "()V" } : Jvm.MethodName) object_method_1_code (1 : Nat) (Option.none : Option Jvm.ClassFile.FieldType)) ∈ lw_all := lw_g (lw_at lw_m1 10 rfl) rfl
theorem q119 : (Jvm.Cond.arrayClass Jvm.ClassFile.FieldType.byte) ∈ lw_all := lw_g (lw_at lw_m1 87 rfl) rfl
theorem q120 : (Jvm.Cond.arrayClass Jvm.ClassFile.FieldType.int) ∈ lw_all := lw_g (lw_at lw_m1 88 rfl) rfl
theorem q121 : (Jvm.Cond.arrayClass Jvm.ClassFile.FieldType.short) ∈ lw_all := lw_g (lw_at lw_m1 89 rfl) rfl
theorem q32 : (Jvm.Cond.initialized "BundleMachineLaw") ∈ lw_all := lw_g (lw_at lw_m1 0 rfl) rfl
theorem q35 : (Jvm.Cond.classLink "BundleMachineLaw" (7 : Nat) "BundleMachine") ∈ lw_all := lw_g (lw_at lw_m1 3 rfl) rfl
theorem q37 : (Jvm.Cond.methodLink "BundleMachineLaw" (9 : Nat) ({ cls := "BundleMachine", name := "<init>", desc := "()V" } : Jvm.MethodName)) ∈ lw_all := lw_g (lw_at lw_m1 5 rfl) rfl
theorem q122 : (Jvm.Cond.methodLink "BundleMachineLaw" (13 : Nat) ({ cls := "BundleMachine", name := "emit", desc := "(IIII)I" } : Jvm.MethodName)) ∈ lw_all := lw_g (lw_at lw_m1 90 rfl) rfl
theorem q130 : (Jvm.Cond.methodLink "BundleMachineLaw" (18 : Nat) ({ cls := "BundleMachine", name := "retract", desc := "()I" } : Jvm.MethodName)) ∈ lw_all := lw_g (lw_at lw_m1 98 rfl) rfl
theorem q134 : (Jvm.Cond.methodLink "BundleMachineLaw" (23 : Nat) ({ cls := "BundleMachine", name := "drop", desc := "()I" } : Jvm.MethodName)) ∈ lw_all := lw_g (lw_at lw_m1 102 rfl) rfl
theorem q138 : (Jvm.Cond.methodLink "BundleMachineLaw" (27 : Nat) ({ cls := "BundleMachine", name := "run", desc := "()I" } : Jvm.MethodName)) ∈ lw_all := lw_g (lw_at lw_m1 106 rfl) rfl
theorem q232 : (Jvm.Cond.methodLink "BundleMachineLaw" (31 : Nat) ({ cls := "BundleMachine", name := "register", desc := "(I)I" } : Jvm.MethodName)) ∈ lw_all := lw_g (lw_at lw_m1 200 rfl) rfl
theorem q236 : (Jvm.Cond.methodLink "BundleMachineLaw" (36 : Nat) ({ cls := "BundleMachine", name := "setRegister", desc := "(II)Z" } : Jvm.MethodName)) ∈ lw_all := lw_g (lw_at lw_m1 204 rfl) rfl
theorem q240 : (Jvm.Cond.methodLink "BundleMachineLaw" (41 : Nat) ({ cls := "BundleMachine", name := "memory", desc := "(I)I" } : Jvm.MethodName)) ∈ lw_all := lw_g (lw_at lw_m1 208 rfl) rfl
theorem q244 : (Jvm.Cond.methodLink "BundleMachineLaw" (45 : Nat) ({ cls := "BundleMachine", name := "setMemory", desc := "(II)Z" } : Jvm.MethodName)) ∈ lw_all := lw_g (lw_at lw_m1 212 rfl) rfl
theorem q248 : (Jvm.Cond.methodLink "BundleMachineLaw" (49 : Nat) ({ cls := "BundleMachine", name := "weight", desc := "(I)I" } : Jvm.MethodName)) ∈ lw_all := lw_g (lw_at lw_m1 216 rfl) rfl
theorem q264 : (Jvm.Cond.methodLink "BundleMachineLaw" (53 : Nat) ({ cls := "BundleMachine", name := "heaviest", desc := "()I" } : Jvm.MethodName)) ∈ lw_all := lw_g (lw_at lw_m1 232 rfl) rfl
theorem q268 : (Jvm.Cond.methodLink "BundleMachineLaw" (57 : Nat) ({ cls := "BundleMachine", name := "links", desc := "()I" } : Jvm.MethodName)) ∈ lw_all := lw_g (lw_at lw_m1 236 rfl) rfl
theorem q272 : (Jvm.Cond.classLink "BundleMachineLaw" (10 : Nat) "BundleMachineModel") ∈ lw_all := lw_g (lw_at lw_m2 0 rfl) rfl
theorem q274 : (Jvm.Cond.methodLink "BundleMachineLaw" (12 : Nat) ({ cls := "BundleMachineModel", name := "<init>", desc := "()V" } : Jvm.MethodName)) ∈ lw_all := lw_g (lw_at lw_m2 2 rfl) rfl
theorem q303 : (Jvm.Cond.methodLink "BundleMachineLaw" (17 : Nat) ({ cls := "BundleMachineModel", name := "emit", desc := "(IIII)I" } : Jvm.MethodName)) ∈ lw_all := lw_g (lw_at lw_m2 31 rfl) rfl
theorem q311 : (Jvm.Cond.methodLink "BundleMachineLaw" (22 : Nat) ({ cls := "BundleMachineModel", name := "retract", desc := "()I" } : Jvm.MethodName)) ∈ lw_all := lw_g (lw_at lw_m2 39 rfl) rfl
theorem q315 : (Jvm.Cond.methodLink "BundleMachineLaw" (26 : Nat) ({ cls := "BundleMachineModel", name := "drop", desc := "()I" } : Jvm.MethodName)) ∈ lw_all := lw_g (lw_at lw_m2 43 rfl) rfl
theorem q319 : (Jvm.Cond.methodLink "BundleMachineLaw" (30 : Nat) ({ cls := "BundleMachineModel", name := "run", desc := "()I" } : Jvm.MethodName)) ∈ lw_all := lw_g (lw_at lw_m2 47 rfl) rfl
theorem q327 : (Jvm.Cond.methodLink "BundleMachineLaw" (35 : Nat) ({ cls := "BundleMachineModel", name := "register", desc := "(I)I" } : Jvm.MethodName)) ∈ lw_all := lw_g (lw_at lw_m2 55 rfl) rfl
theorem q331 : (Jvm.Cond.methodLink "BundleMachineLaw" (40 : Nat) ({ cls := "BundleMachineModel", name := "setRegister", desc := "(II)Z" } : Jvm.MethodName)) ∈ lw_all := lw_g (lw_at lw_m2 59 rfl) rfl
theorem q335 : (Jvm.Cond.methodLink "BundleMachineLaw" (44 : Nat) ({ cls := "BundleMachineModel", name := "memory", desc := "(I)I" } : Jvm.MethodName)) ∈ lw_all := lw_g (lw_at lw_m2 63 rfl) rfl
theorem q339 : (Jvm.Cond.methodLink "BundleMachineLaw" (48 : Nat) ({ cls := "BundleMachineModel", name := "setMemory", desc := "(II)Z" } : Jvm.MethodName)) ∈ lw_all := lw_g (lw_at lw_m2 67 rfl) rfl
theorem q343 : (Jvm.Cond.methodLink "BundleMachineLaw" (52 : Nat) ({ cls := "BundleMachineModel", name := "weight", desc := "(I)I" } : Jvm.MethodName)) ∈ lw_all := lw_g (lw_at lw_m2 71 rfl) rfl
theorem q363 : (Jvm.Cond.methodLink "BundleMachineLaw" (56 : Nat) ({ cls := "BundleMachineModel", name := "heaviest", desc := "()I" } : Jvm.MethodName)) ∈ lw_all := lw_g (lw_at lw_m2 91 rfl) rfl
theorem q367 : (Jvm.Cond.methodLink "BundleMachineLaw" (60 : Nat) ({ cls := "BundleMachineModel", name := "links", desc := "()I" } : Jvm.MethodName)) ∈ lw_all := lw_g (lw_at lw_m2 95 rfl) rfl
end
section
set_option maxRecDepth 100000
theorem dX0_init_0 : decode cX0_init 0 = .ok (.aload_n 0, 1) := by decide +kernel
theorem dX0_init_1 : decode cX0_init 1 = .ok (.invokespecial 1, 3) := by decide +kernel
theorem dX0_init_4 : decode cX0_init 4 = .ok (.aload_n 0, 1) := by decide +kernel
theorem dX0_init_5 : decode cX0_init 5 = .ok (.bipush 24, 2) := by decide +kernel
theorem dX0_init_7 : decode cX0_init 7 = .ok (.newarray .byte, 2) := by decide +kernel
theorem dX0_init_9 : decode cX0_init 9 = .ok (.putfield 7, 3) := by decide +kernel
theorem dX0_init_12 : decode cX0_init 12 = .ok (.aload_n 0, 1) := by decide +kernel
theorem dX0_init_13 : decode cX0_init 13 = .ok (.bipush 24, 2) := by decide +kernel
theorem dX0_init_15 : decode cX0_init 15 = .ok (.newarray .byte, 2) := by decide +kernel
theorem dX0_init_17 : decode cX0_init 17 = .ok (.putfield 13, 3) := by decide +kernel
theorem dX0_init_20 : decode cX0_init 20 = .ok (.aload_n 0, 1) := by decide +kernel
theorem dX0_init_21 : decode cX0_init 21 = .ok (.bipush 24, 2) := by decide +kernel
theorem dX0_init_23 : decode cX0_init 23 = .ok (.newarray .byte, 2) := by decide +kernel
theorem dX0_init_25 : decode cX0_init 25 = .ok (.putfield 16, 3) := by decide +kernel
theorem dX0_init_28 : decode cX0_init 28 = .ok (.aload_n 0, 1) := by decide +kernel
theorem dX0_init_29 : decode cX0_init 29 = .ok (.bipush 24, 2) := by decide +kernel
theorem dX0_init_31 : decode cX0_init 31 = .ok (.newarray .int, 2) := by decide +kernel
theorem dX0_init_33 : decode cX0_init 33 = .ok (.putfield 19, 3) := by decide +kernel
theorem dX0_init_36 : decode cX0_init 36 = .ok (.aload_n 0, 1) := by decide +kernel
theorem dX0_init_37 : decode cX0_init 37 = .ok (.bipush 96, 2) := by decide +kernel
theorem dX0_init_39 : decode cX0_init 39 = .ok (.newarray .byte, 2) := by decide +kernel
theorem dX0_init_41 : decode cX0_init 41 = .ok (.putfield 23, 3) := by decide +kernel
theorem dX0_init_44 : decode cX0_init 44 = .ok (.aload_n 0, 1) := by decide +kernel
theorem dX0_init_45 : decode cX0_init 45 = .ok (.bipush 96, 2) := by decide +kernel
theorem dX0_init_47 : decode cX0_init 47 = .ok (.newarray .byte, 2) := by decide +kernel
theorem dX0_init_49 : decode cX0_init 49 = .ok (.putfield 26, 3) := by decide +kernel
theorem dX0_init_52 : decode cX0_init 52 = .ok (.aload_n 0, 1) := by decide +kernel
theorem dX0_init_53 : decode cX0_init 53 = .ok (.bipush 96, 2) := by decide +kernel
theorem dX0_init_55 : decode cX0_init 55 = .ok (.newarray .byte, 2) := by decide +kernel
theorem dX0_init_57 : decode cX0_init 57 = .ok (.putfield 29, 3) := by decide +kernel
theorem dX0_init_60 : decode cX0_init 60 = .ok (.aload_n 0, 1) := by decide +kernel
theorem dX0_init_61 : decode cX0_init 61 = .ok (.bipush 96, 2) := by decide +kernel
theorem dX0_init_63 : decode cX0_init 63 = .ok (.newarray .byte, 2) := by decide +kernel
theorem dX0_init_65 : decode cX0_init 65 = .ok (.putfield 32, 3) := by decide +kernel
theorem dX0_init_68 : decode cX0_init 68 = .ok (.aload_n 0, 1) := by decide +kernel
theorem dX0_init_69 : decode cX0_init 69 = .ok (.bipush 96, 2) := by decide +kernel
theorem dX0_init_71 : decode cX0_init 71 = .ok (.newarray .byte, 2) := by decide +kernel
theorem dX0_init_73 : decode cX0_init 73 = .ok (.putfield 35, 3) := by decide +kernel
theorem dX0_init_76 : decode cX0_init 76 = .ok (.aload_n 0, 1) := by decide +kernel
theorem dX0_init_77 : decode cX0_init 77 = .ok (.iconst 2, 1) := by decide +kernel
theorem dX0_init_78 : decode cX0_init 78 = .ok (.newarray .byte, 2) := by decide +kernel
theorem dX0_init_80 : decode cX0_init 80 = .ok (.putfield 38, 3) := by decide +kernel
theorem dX0_init_83 : decode cX0_init 83 = .ok (.aload_n 0, 1) := by decide +kernel
theorem dX0_init_84 : decode cX0_init 84 = .ok (.bipush 96, 2) := by decide +kernel
theorem dX0_init_86 : decode cX0_init 86 = .ok (.newarray .short, 2) := by decide +kernel
theorem dX0_init_88 : decode cX0_init 88 = .ok (.putfield 41, 3) := by decide +kernel
theorem dX0_init_91 : decode cX0_init 91 = .ok (.aload_n 0, 1) := by decide +kernel
theorem dX0_init_92 : decode cX0_init 92 = .ok (.bipush 96, 2) := by decide +kernel
theorem dX0_init_94 : decode cX0_init 94 = .ok (.newarray .short, 2) := by decide +kernel
theorem dX0_init_96 : decode cX0_init 96 = .ok (.putfield 45, 3) := by decide +kernel
theorem dX0_init_99 : decode cX0_init 99 = .ok (.aload_n 0, 1) := by decide +kernel
theorem dX0_init_100 : decode cX0_init 100 = .ok (.sipush 400, 3) := by decide +kernel
theorem dX0_init_103 : decode cX0_init 103 = .ok (.newarray .int, 2) := by decide +kernel
theorem dX0_init_105 : decode cX0_init 105 = .ok (.putfield 48, 3) := by decide +kernel
theorem dX0_init_108 : decode cX0_init 108 = .ok (.aload_n 0, 1) := by decide +kernel
theorem dX0_init_109 : decode cX0_init 109 = .ok (.sipush 500, 3) := by decide +kernel
theorem dX0_init_112 : decode cX0_init 112 = .ok (.newarray .int, 2) := by decide +kernel
theorem dX0_init_114 : decode cX0_init 114 = .ok (.putfield 51, 3) := by decide +kernel
theorem dX0_init_117 : decode cX0_init 117 = .ok (.aload_n 0, 1) := by decide +kernel
theorem dX0_init_118 : decode cX0_init 118 = .ok (.bipush 16, 2) := by decide +kernel
theorem dX0_init_120 : decode cX0_init 120 = .ok (.newarray .int, 2) := by decide +kernel
theorem dX0_init_122 : decode cX0_init 122 = .ok (.putfield 54, 3) := by decide +kernel
theorem dX0_init_125 : decode cX0_init 125 = .ok (.aload_n 0, 1) := by decide +kernel
theorem dX0_init_126 : decode cX0_init 126 = .ok (.bipush 16, 2) := by decide +kernel
theorem dX0_init_128 : decode cX0_init 128 = .ok (.newarray .int, 2) := by decide +kernel
theorem dX0_init_130 : decode cX0_init 130 = .ok (.putfield 57, 3) := by decide +kernel
theorem dX0_init_133 : decode cX0_init 133 = .ok (.aload_n 0, 1) := by decide +kernel
theorem dX0_init_134 : decode cX0_init 134 = .ok (.bipush 32, 2) := by decide +kernel
theorem dX0_init_136 : decode cX0_init 136 = .ok (.newarray .byte, 2) := by decide +kernel
theorem dX0_init_138 : decode cX0_init 138 = .ok (.putfield 60, 3) := by decide +kernel
theorem dX0_init_141 : decode cX0_init 141 = .ok (.aload_n 0, 1) := by decide +kernel
theorem dX0_init_142 : decode cX0_init 142 = .ok (.bipush 32, 2) := by decide +kernel
theorem dX0_init_144 : decode cX0_init 144 = .ok (.newarray .int, 2) := by decide +kernel
theorem dX0_init_146 : decode cX0_init 146 = .ok (.putfield 63, 3) := by decide +kernel
theorem dX0_init_149 : decode cX0_init 149 = .ok (.aload_n 0, 1) := by decide +kernel
theorem dX0_init_150 : decode cX0_init 150 = .ok (.bipush 32, 2) := by decide +kernel
theorem dX0_init_152 : decode cX0_init 152 = .ok (.newarray .short, 2) := by decide +kernel
theorem dX0_init_154 : decode cX0_init 154 = .ok (.putfield 66, 3) := by decide +kernel
theorem dX0_init_157 : decode cX0_init 157 = .ok (.return_, 1) := by decide +kernel
theorem dX0_emit_0 : decode cX0_emit 0 = .ok (.aload_n 0, 1) := by decide +kernel
theorem dX0_emit_1 : decode cX0_emit 1 = .ok (.getfield 69, 3) := by decide +kernel
theorem dX0_emit_4 : decode cX0_emit 4 = .ok (.bipush 24, 2) := by decide +kernel
theorem dX0_emit_6 : decode cX0_emit 6 = .ok (.if_icmp .lt 6, 3) := by decide +kernel
theorem dX0_emit_9 : decode cX0_emit 9 = .ok (.bipush (-2), 2) := by decide +kernel
theorem dX0_emit_11 : decode cX0_emit 11 = .ok (.ireturn, 1) := by decide +kernel
theorem dX0_emit_12 : decode cX0_emit 12 = .ok (.iload_n 1, 1) := by decide +kernel
theorem dX0_emit_13 : decode cX0_emit 13 = .ok (.ifCond .lt 25, 3) := by decide +kernel
theorem dX0_emit_16 : decode cX0_emit 16 = .ok (.iload_n 1, 1) := by decide +kernel
theorem dX0_emit_17 : decode cX0_emit 17 = .ok (.bipush 8, 2) := by decide +kernel
theorem dX0_emit_19 : decode cX0_emit 19 = .ok (.if_icmp .gt 19, 3) := by decide +kernel
theorem dX0_emit_22 : decode cX0_emit 22 = .ok (.aload_n 0, 1) := by decide +kernel
theorem dX0_emit_23 : decode cX0_emit 23 = .ok (.iload_n 2, 1) := by decide +kernel
theorem dX0_emit_24 : decode cX0_emit 24 = .ok (.invokevirtual 73, 3) := by decide +kernel
theorem dX0_emit_27 : decode cX0_emit 27 = .ok (.ifCond .eq 11, 3) := by decide +kernel
theorem dX0_emit_30 : decode cX0_emit 30 = .ok (.aload_n 0, 1) := by decide +kernel
theorem dX0_emit_31 : decode cX0_emit 31 = .ok (.iload_n 3, 1) := by decide +kernel
theorem dX0_emit_32 : decode cX0_emit 32 = .ok (.invokevirtual 73, 3) := by decide +kernel
theorem dX0_emit_35 : decode cX0_emit 35 = .ok (.ifCond .ne 5, 3) := by decide +kernel
theorem dX0_emit_38 : decode cX0_emit 38 = .ok (.iconst (-1), 1) := by decide +kernel
theorem dX0_emit_39 : decode cX0_emit 39 = .ok (.ireturn, 1) := by decide +kernel
theorem dX0_emit_40 : decode cX0_emit 40 = .ok (.iload_n 1, 1) := by decide +kernel
theorem dX0_emit_41 : decode cX0_emit 41 = .ok (.iconst 5, 1) := by decide +kernel
theorem dX0_emit_42 : decode cX0_emit 42 = .ok (.if_icmp .gt 14, 3) := by decide +kernel
theorem dX0_emit_45 : decode cX0_emit 45 = .ok (.aload_n 0, 1) := by decide +kernel
theorem dX0_emit_46 : decode cX0_emit 46 = .ok (.iload 4, 2) := by decide +kernel
theorem dX0_emit_48 : decode cX0_emit 48 = .ok (.invokevirtual 73, 3) := by decide +kernel
theorem dX0_emit_51 : decode cX0_emit 51 = .ok (.ifCond .ne 5, 3) := by decide +kernel
theorem dX0_emit_54 : decode cX0_emit 54 = .ok (.iconst (-1), 1) := by decide +kernel
theorem dX0_emit_55 : decode cX0_emit 55 = .ok (.ireturn, 1) := by decide +kernel
theorem dX0_emit_56 : decode cX0_emit 56 = .ok (.aload_n 0, 1) := by decide +kernel
theorem dX0_emit_57 : decode cX0_emit 57 = .ok (.getfield 7, 3) := by decide +kernel
theorem dX0_emit_60 : decode cX0_emit 60 = .ok (.aload_n 0, 1) := by decide +kernel
theorem dX0_emit_61 : decode cX0_emit 61 = .ok (.getfield 69, 3) := by decide +kernel
theorem dX0_emit_64 : decode cX0_emit 64 = .ok (.iload_n 1, 1) := by decide +kernel
theorem dX0_emit_65 : decode cX0_emit 65 = .ok (.i2b, 1) := by decide +kernel
theorem dX0_emit_66 : decode cX0_emit 66 = .ok (.bastore, 1) := by decide +kernel
theorem dX0_emit_67 : decode cX0_emit 67 = .ok (.aload_n 0, 1) := by decide +kernel
theorem dX0_emit_68 : decode cX0_emit 68 = .ok (.getfield 13, 3) := by decide +kernel
theorem dX0_emit_71 : decode cX0_emit 71 = .ok (.aload_n 0, 1) := by decide +kernel
theorem dX0_emit_72 : decode cX0_emit 72 = .ok (.getfield 69, 3) := by decide +kernel
theorem dX0_emit_75 : decode cX0_emit 75 = .ok (.iload_n 2, 1) := by decide +kernel
theorem dX0_emit_76 : decode cX0_emit 76 = .ok (.i2b, 1) := by decide +kernel
theorem dX0_emit_77 : decode cX0_emit 77 = .ok (.bastore, 1) := by decide +kernel
theorem dX0_emit_78 : decode cX0_emit 78 = .ok (.aload_n 0, 1) := by decide +kernel
theorem dX0_emit_79 : decode cX0_emit 79 = .ok (.getfield 16, 3) := by decide +kernel
theorem dX0_emit_82 : decode cX0_emit 82 = .ok (.aload_n 0, 1) := by decide +kernel
theorem dX0_emit_83 : decode cX0_emit 83 = .ok (.getfield 69, 3) := by decide +kernel
theorem dX0_emit_86 : decode cX0_emit 86 = .ok (.iload_n 3, 1) := by decide +kernel
theorem dX0_emit_87 : decode cX0_emit 87 = .ok (.i2b, 1) := by decide +kernel
theorem dX0_emit_88 : decode cX0_emit 88 = .ok (.bastore, 1) := by decide +kernel
theorem dX0_emit_89 : decode cX0_emit 89 = .ok (.aload_n 0, 1) := by decide +kernel
theorem dX0_emit_90 : decode cX0_emit 90 = .ok (.getfield 19, 3) := by decide +kernel
theorem dX0_emit_93 : decode cX0_emit 93 = .ok (.aload_n 0, 1) := by decide +kernel
theorem dX0_emit_94 : decode cX0_emit 94 = .ok (.getfield 69, 3) := by decide +kernel
theorem dX0_emit_97 : decode cX0_emit 97 = .ok (.iload 4, 2) := by decide +kernel
theorem dX0_emit_99 : decode cX0_emit 99 = .ok (.iastore, 1) := by decide +kernel
theorem dX0_emit_100 : decode cX0_emit 100 = .ok (.aload_n 0, 1) := by decide +kernel
theorem dX0_emit_101 : decode cX0_emit 101 = .ok (.dup, 1) := by decide +kernel
theorem dX0_emit_102 : decode cX0_emit 102 = .ok (.getfield 69, 3) := by decide +kernel
theorem dX0_emit_105 : decode cX0_emit 105 = .ok (.iconst 1, 1) := by decide +kernel
theorem dX0_emit_106 : decode cX0_emit 106 = .ok (.iadd, 1) := by decide +kernel
theorem dX0_emit_107 : decode cX0_emit 107 = .ok (.putfield 69, 3) := by decide +kernel
theorem dX0_emit_110 : decode cX0_emit 110 = .ok (.aload_n 0, 1) := by decide +kernel
theorem dX0_emit_111 : decode cX0_emit 111 = .ok (.iconst 0, 1) := by decide +kernel
theorem dX0_emit_112 : decode cX0_emit 112 = .ok (.putfield 77, 3) := by decide +kernel
theorem dX0_emit_115 : decode cX0_emit 115 = .ok (.aload_n 0, 1) := by decide +kernel
theorem dX0_emit_116 : decode cX0_emit 116 = .ok (.getfield 69, 3) := by decide +kernel
theorem dX0_emit_119 : decode cX0_emit 119 = .ok (.ireturn, 1) := by decide +kernel
theorem dX0_isRegister_0 : decode cX0_isRegister 0 = .ok (.iload_n 1, 1) := by decide +kernel
theorem dX0_isRegister_1 : decode cX0_isRegister 1 = .ok (.ifCond .lt 13, 3) := by decide +kernel
theorem dX0_isRegister_4 : decode cX0_isRegister 4 = .ok (.iload_n 1, 1) := by decide +kernel
theorem dX0_isRegister_5 : decode cX0_isRegister 5 = .ok (.bipush 7, 2) := by decide +kernel
theorem dX0_isRegister_7 : decode cX0_isRegister 7 = .ok (.if_icmp .gt 7, 3) := by decide +kernel
theorem dX0_isRegister_10 : decode cX0_isRegister 10 = .ok (.iconst 1, 1) := by decide +kernel
theorem dX0_isRegister_11 : decode cX0_isRegister 11 = .ok (.goto 4, 3) := by decide +kernel
theorem dX0_isRegister_14 : decode cX0_isRegister 14 = .ok (.iconst 0, 1) := by decide +kernel
theorem dX0_isRegister_15 : decode cX0_isRegister 15 = .ok (.ireturn, 1) := by decide +kernel
theorem dX0_retract_0 : decode cX0_retract 0 = .ok (.aload_n 0, 1) := by decide +kernel
theorem dX0_retract_1 : decode cX0_retract 1 = .ok (.getfield 69, 3) := by decide +kernel
theorem dX0_retract_4 : decode cX0_retract 4 = .ok (.ifCond .ne 5, 3) := by decide +kernel
theorem dX0_retract_7 : decode cX0_retract 7 = .ok (.iconst (-1), 1) := by decide +kernel
theorem dX0_retract_8 : decode cX0_retract 8 = .ok (.ireturn, 1) := by decide +kernel
theorem dX0_retract_9 : decode cX0_retract 9 = .ok (.aload_n 0, 1) := by decide +kernel
theorem dX0_retract_10 : decode cX0_retract 10 = .ok (.dup, 1) := by decide +kernel
theorem dX0_retract_11 : decode cX0_retract 11 = .ok (.getfield 69, 3) := by decide +kernel
theorem dX0_retract_14 : decode cX0_retract 14 = .ok (.iconst 1, 1) := by decide +kernel
theorem dX0_retract_15 : decode cX0_retract 15 = .ok (.isub, 1) := by decide +kernel
theorem dX0_retract_16 : decode cX0_retract 16 = .ok (.putfield 69, 3) := by decide +kernel
theorem dX0_retract_19 : decode cX0_retract 19 = .ok (.aload_n 0, 1) := by decide +kernel
theorem dX0_retract_20 : decode cX0_retract 20 = .ok (.iconst 0, 1) := by decide +kernel
theorem dX0_retract_21 : decode cX0_retract 21 = .ok (.putfield 77, 3) := by decide +kernel
theorem dX0_retract_24 : decode cX0_retract 24 = .ok (.aload_n 0, 1) := by decide +kernel
theorem dX0_retract_25 : decode cX0_retract 25 = .ok (.getfield 69, 3) := by decide +kernel
theorem dX0_retract_28 : decode cX0_retract 28 = .ok (.ireturn, 1) := by decide +kernel
theorem dX0_drop_0 : decode cX0_drop 0 = .ok (.aload_n 0, 1) := by decide +kernel
theorem dX0_drop_1 : decode cX0_drop 1 = .ok (.getfield 69, 3) := by decide +kernel
theorem dX0_drop_4 : decode cX0_drop 4 = .ok (.istore_n 1, 1) := by decide +kernel
theorem dX0_drop_5 : decode cX0_drop 5 = .ok (.aload_n 0, 1) := by decide +kernel
theorem dX0_drop_6 : decode cX0_drop 6 = .ok (.iconst 0, 1) := by decide +kernel
theorem dX0_drop_7 : decode cX0_drop 7 = .ok (.putfield 69, 3) := by decide +kernel
theorem dX0_drop_10 : decode cX0_drop 10 = .ok (.aload_n 0, 1) := by decide +kernel
theorem dX0_drop_11 : decode cX0_drop 11 = .ok (.iconst 0, 1) := by decide +kernel
theorem dX0_drop_12 : decode cX0_drop 12 = .ok (.putfield 77, 3) := by decide +kernel
theorem dX0_drop_15 : decode cX0_drop 15 = .ok (.iload_n 1, 1) := by decide +kernel
theorem dX0_drop_16 : decode cX0_drop 16 = .ok (.ireturn, 1) := by decide +kernel
theorem dX0_run_0 : decode cX0_run 0 = .ok (.aload_n 0, 1) := by decide +kernel
theorem dX0_run_1 : decode cX0_run 1 = .ok (.invokevirtual 81, 3) := by decide +kernel
theorem dX0_run_4 : decode cX0_run 4 = .ok (.aload_n 0, 1) := by decide +kernel
theorem dX0_run_5 : decode cX0_run 5 = .ok (.invokevirtual 84, 3) := by decide +kernel
theorem dX0_run_8 : decode cX0_run 8 = .ok (.aload_n 0, 1) := by decide +kernel
theorem dX0_run_9 : decode cX0_run 9 = .ok (.getfield 69, 3) := by decide +kernel
theorem dX0_run_12 : decode cX0_run 12 = .ok (.ireturn, 1) := by decide +kernel
theorem dX0_pack_0 : decode cX0_pack 0 = .ok (.aload_n 0, 1) := by decide +kernel
theorem dX0_pack_1 : decode cX0_pack 1 = .ok (.getfield 77, 3) := by decide +kernel
theorem dX0_pack_4 : decode cX0_pack 4 = .ok (.ifCond .eq 4, 3) := by decide +kernel
theorem dX0_pack_7 : decode cX0_pack 7 = .ok (.return_, 1) := by decide +kernel
theorem dX0_pack_8 : decode cX0_pack 8 = .ok (.aload_n 0, 1) := by decide +kernel
theorem dX0_pack_9 : decode cX0_pack 9 = .ok (.iconst 1, 1) := by decide +kernel
theorem dX0_pack_10 : decode cX0_pack 10 = .ok (.putfield 77, 3) := by decide +kernel
theorem dX0_pack_13 : decode cX0_pack 13 = .ok (.aload_n 0, 1) := by decide +kernel
theorem dX0_pack_14 : decode cX0_pack 14 = .ok (.invokevirtual 120, 3) := by decide +kernel
theorem dX0_pack_17 : decode cX0_pack 17 = .ok (.aload_n 0, 1) := by decide +kernel
theorem dX0_pack_18 : decode cX0_pack 18 = .ok (.invokevirtual 123, 3) := by decide +kernel
theorem dX0_pack_21 : decode cX0_pack 21 = .ok (.aload_n 0, 1) := by decide +kernel
theorem dX0_pack_22 : decode cX0_pack 22 = .ok (.invokevirtual 126, 3) := by decide +kernel
theorem dX0_pack_25 : decode cX0_pack 25 = .ok (.aload_n 0, 1) := by decide +kernel
theorem dX0_pack_26 : decode cX0_pack 26 = .ok (.invokevirtual 129, 3) := by decide +kernel
theorem dX0_pack_29 : decode cX0_pack 29 = .ok (.return_, 1) := by decide +kernel
theorem dX0_lower_0 : decode cX0_lower 0 = .ok (.aload_n 0, 1) := by decide +kernel
theorem dX0_lower_1 : decode cX0_lower 1 = .ok (.iconst 0, 1) := by decide +kernel
theorem dX0_lower_2 : decode cX0_lower 2 = .ok (.putfield 100, 3) := by decide +kernel
theorem dX0_lower_5 : decode cX0_lower 5 = .ok (.aload_n 0, 1) := by decide +kernel
theorem dX0_lower_6 : decode cX0_lower 6 = .ok (.getfield 38, 3) := by decide +kernel
theorem dX0_lower_9 : decode cX0_lower 9 = .ok (.iconst 0, 1) := by decide +kernel
theorem dX0_lower_10 : decode cX0_lower 10 = .ok (.iconst 0, 1) := by decide +kernel
theorem dX0_lower_11 : decode cX0_lower 11 = .ok (.bastore, 1) := by decide +kernel
theorem dX0_lower_12 : decode cX0_lower 12 = .ok (.aload_n 0, 1) := by decide +kernel
theorem dX0_lower_13 : decode cX0_lower 13 = .ok (.getfield 38, 3) := by decide +kernel
theorem dX0_lower_16 : decode cX0_lower 16 = .ok (.iconst 1, 1) := by decide +kernel
theorem dX0_lower_17 : decode cX0_lower 17 = .ok (.iconst 0, 1) := by decide +kernel
theorem dX0_lower_18 : decode cX0_lower 18 = .ok (.bastore, 1) := by decide +kernel
theorem dX0_lower_19 : decode cX0_lower 19 = .ok (.iconst 0, 1) := by decide +kernel
theorem dX0_lower_20 : decode cX0_lower 20 = .ok (.istore_n 1, 1) := by decide +kernel
theorem dX0_lower_21 : decode cX0_lower 21 = .ok (.iload_n 1, 1) := by decide +kernel
theorem dX0_lower_22 : decode cX0_lower 22 = .ok (.aload_n 0, 1) := by decide +kernel
theorem dX0_lower_23 : decode cX0_lower 23 = .ok (.getfield 69, 3) := by decide +kernel
theorem dX0_lower_26 : decode cX0_lower 26 = .ok (.if_icmp .ge 79, 3) := by decide +kernel
theorem dX0_lower_29 : decode cX0_lower 29 = .ok (.aload_n 0, 1) := by decide +kernel
theorem dX0_lower_30 : decode cX0_lower 30 = .ok (.getfield 13, 3) := by decide +kernel
theorem dX0_lower_33 : decode cX0_lower 33 = .ok (.iload_n 1, 1) := by decide +kernel
theorem dX0_lower_34 : decode cX0_lower 34 = .ok (.baload, 1) := by decide +kernel
theorem dX0_lower_35 : decode cX0_lower 35 = .ok (.istore_n 2, 1) := by decide +kernel
theorem dX0_lower_36 : decode cX0_lower 36 = .ok (.aload_n 0, 1) := by decide +kernel
theorem dX0_lower_37 : decode cX0_lower 37 = .ok (.iload_n 2, 1) := by decide +kernel
theorem dX0_lower_38 : decode cX0_lower 38 = .ok (.invokevirtual 103, 3) := by decide +kernel
theorem dX0_lower_41 : decode cX0_lower 41 = .ok (.istore_n 3, 1) := by decide +kernel
theorem dX0_lower_42 : decode cX0_lower 42 = .ok (.aload_n 0, 1) := by decide +kernel
theorem dX0_lower_43 : decode cX0_lower 43 = .ok (.aload_n 0, 1) := by decide +kernel
theorem dX0_lower_44 : decode cX0_lower 44 = .ok (.getfield 16, 3) := by decide +kernel
theorem dX0_lower_47 : decode cX0_lower 47 = .ok (.iload_n 1, 1) := by decide +kernel
theorem dX0_lower_48 : decode cX0_lower 48 = .ok (.baload, 1) := by decide +kernel
theorem dX0_lower_49 : decode cX0_lower 49 = .ok (.iload_n 3, 1) := by decide +kernel
theorem dX0_lower_50 : decode cX0_lower 50 = .ok (.invokevirtual 110, 3) := by decide +kernel
theorem dX0_lower_53 : decode cX0_lower 53 = .ok (.istore 4, 2) := by decide +kernel
theorem dX0_lower_55 : decode cX0_lower 55 = .ok (.aload_n 0, 1) := by decide +kernel
theorem dX0_lower_56 : decode cX0_lower 56 = .ok (.getfield 7, 3) := by decide +kernel
theorem dX0_lower_59 : decode cX0_lower 59 = .ok (.iload_n 1, 1) := by decide +kernel
theorem dX0_lower_60 : decode cX0_lower 60 = .ok (.baload, 1) := by decide +kernel
theorem dX0_lower_61 : decode cX0_lower 61 = .ok (.iconst 5, 1) := by decide +kernel
theorem dX0_lower_62 : decode cX0_lower 62 = .ok (.if_icmp .gt 17, 3) := by decide +kernel
theorem dX0_lower_65 : decode cX0_lower 65 = .ok (.aload_n 0, 1) := by decide +kernel
theorem dX0_lower_66 : decode cX0_lower 66 = .ok (.aload_n 0, 1) := by decide +kernel
theorem dX0_lower_67 : decode cX0_lower 67 = .ok (.getfield 19, 3) := by decide +kernel
theorem dX0_lower_70 : decode cX0_lower 70 = .ok (.iload_n 1, 1) := by decide +kernel
theorem dX0_lower_71 : decode cX0_lower 71 = .ok (.iaload, 1) := by decide +kernel
theorem dX0_lower_72 : decode cX0_lower 72 = .ok (.iload_n 3, 1) := by decide +kernel
theorem dX0_lower_73 : decode cX0_lower 73 = .ok (.invokevirtual 110, 3) := by decide +kernel
theorem dX0_lower_76 : decode cX0_lower 76 = .ok (.goto 5, 3) := by decide +kernel
theorem dX0_lower_79 : decode cX0_lower 79 = .ok (.iload 4, 2) := by decide +kernel
theorem dX0_lower_81 : decode cX0_lower 81 = .ok (.istore 5, 2) := by decide +kernel
theorem dX0_lower_83 : decode cX0_lower 83 = .ok (.aload_n 0, 1) := by decide +kernel
theorem dX0_lower_84 : decode cX0_lower 84 = .ok (.aload_n 0, 1) := by decide +kernel
theorem dX0_lower_85 : decode cX0_lower 85 = .ok (.getfield 7, 3) := by decide +kernel
theorem dX0_lower_88 : decode cX0_lower 88 = .ok (.iload_n 1, 1) := by decide +kernel
theorem dX0_lower_89 : decode cX0_lower 89 = .ok (.baload, 1) := by decide +kernel
theorem dX0_lower_90 : decode cX0_lower 90 = .ok (.iload_n 2, 1) := by decide +kernel
theorem dX0_lower_91 : decode cX0_lower 91 = .ok (.iload 4, 2) := by decide +kernel
theorem dX0_lower_93 : decode cX0_lower 93 = .ok (.iload 5, 2) := by decide +kernel
theorem dX0_lower_95 : decode cX0_lower 95 = .ok (.iload_n 1, 1) := by decide +kernel
theorem dX0_lower_96 : decode cX0_lower 96 = .ok (.invokevirtual 106, 3) := by decide +kernel
theorem dX0_lower_99 : decode cX0_lower 99 = .ok (.iinc 1 1, 3) := by decide +kernel
theorem dX0_lower_102 : decode cX0_lower 102 = .ok (.goto (-81), 3) := by decide +kernel
theorem dX0_lower_105 : decode cX0_lower 105 = .ok (.return_, 1) := by decide +kernel
theorem dX0_clusterOf_0 : decode cX0_clusterOf 0 = .ok (.iload_n 1, 1) := by decide +kernel
theorem dX0_clusterOf_1 : decode cX0_clusterOf 1 = .ok (.iconst 2, 1) := by decide +kernel
theorem dX0_clusterOf_2 : decode cX0_clusterOf 2 = .ok (.ishr, 1) := by decide +kernel
theorem dX0_clusterOf_3 : decode cX0_clusterOf 3 = .ok (.iconst 1, 1) := by decide +kernel
theorem dX0_clusterOf_4 : decode cX0_clusterOf 4 = .ok (.iand, 1) := by decide +kernel
theorem dX0_clusterOf_5 : decode cX0_clusterOf 5 = .ok (.ireturn, 1) := by decide +kernel
theorem dX0_localCopy_0 : decode cX0_localCopy 0 = .ok (.aload_n 0, 1) := by decide +kernel
theorem dX0_localCopy_1 : decode cX0_localCopy 1 = .ok (.iload_n 1, 1) := by decide +kernel
theorem dX0_localCopy_2 : decode cX0_localCopy 2 = .ok (.invokevirtual 103, 3) := by decide +kernel
theorem dX0_localCopy_5 : decode cX0_localCopy 5 = .ok (.iload_n 2, 1) := by decide +kernel
theorem dX0_localCopy_6 : decode cX0_localCopy 6 = .ok (.if_icmp .ne 5, 3) := by decide +kernel
theorem dX0_localCopy_9 : decode cX0_localCopy 9 = .ok (.iload_n 1, 1) := by decide +kernel
theorem dX0_localCopy_10 : decode cX0_localCopy 10 = .ok (.ireturn, 1) := by decide +kernel
theorem dX0_localCopy_11 : decode cX0_localCopy 11 = .ok (.bipush 8, 2) := by decide +kernel
theorem dX0_localCopy_13 : decode cX0_localCopy 13 = .ok (.iconst 4, 1) := by decide +kernel
theorem dX0_localCopy_14 : decode cX0_localCopy 14 = .ok (.iload_n 2, 1) := by decide +kernel
theorem dX0_localCopy_15 : decode cX0_localCopy 15 = .ok (.imul, 1) := by decide +kernel
theorem dX0_localCopy_16 : decode cX0_localCopy 16 = .ok (.iadd, 1) := by decide +kernel
theorem dX0_localCopy_17 : decode cX0_localCopy 17 = .ok (.aload_n 0, 1) := by decide +kernel
theorem dX0_localCopy_18 : decode cX0_localCopy 18 = .ok (.getfield 38, 3) := by decide +kernel
theorem dX0_localCopy_21 : decode cX0_localCopy 21 = .ok (.iload_n 2, 1) := by decide +kernel
theorem dX0_localCopy_22 : decode cX0_localCopy 22 = .ok (.baload, 1) := by decide +kernel
theorem dX0_localCopy_23 : decode cX0_localCopy 23 = .ok (.iadd, 1) := by decide +kernel
theorem dX0_localCopy_24 : decode cX0_localCopy 24 = .ok (.istore_n 3, 1) := by decide +kernel
theorem dX0_localCopy_25 : decode cX0_localCopy 25 = .ok (.aload_n 0, 1) := by decide +kernel
theorem dX0_localCopy_26 : decode cX0_localCopy 26 = .ok (.getfield 38, 3) := by decide +kernel
theorem dX0_localCopy_29 : decode cX0_localCopy 29 = .ok (.iload_n 2, 1) := by decide +kernel
theorem dX0_localCopy_30 : decode cX0_localCopy 30 = .ok (.aload_n 0, 1) := by decide +kernel
theorem dX0_localCopy_31 : decode cX0_localCopy 31 = .ok (.getfield 38, 3) := by decide +kernel
theorem dX0_localCopy_34 : decode cX0_localCopy 34 = .ok (.iload_n 2, 1) := by decide +kernel
theorem dX0_localCopy_35 : decode cX0_localCopy 35 = .ok (.baload, 1) := by decide +kernel
theorem dX0_localCopy_36 : decode cX0_localCopy 36 = .ok (.iconst 1, 1) := by decide +kernel
theorem dX0_localCopy_37 : decode cX0_localCopy 37 = .ok (.iadd, 1) := by decide +kernel
theorem dX0_localCopy_38 : decode cX0_localCopy 38 = .ok (.iconst 3, 1) := by decide +kernel
theorem dX0_localCopy_39 : decode cX0_localCopy 39 = .ok (.iand, 1) := by decide +kernel
theorem dX0_localCopy_40 : decode cX0_localCopy 40 = .ok (.i2b, 1) := by decide +kernel
theorem dX0_localCopy_41 : decode cX0_localCopy 41 = .ok (.bastore, 1) := by decide +kernel
theorem dX0_localCopy_42 : decode cX0_localCopy 42 = .ok (.aload_n 0, 1) := by decide +kernel
theorem dX0_localCopy_43 : decode cX0_localCopy 43 = .ok (.bipush 9, 2) := by decide +kernel
theorem dX0_localCopy_45 : decode cX0_localCopy 45 = .ok (.iload_n 3, 1) := by decide +kernel
theorem dX0_localCopy_46 : decode cX0_localCopy 46 = .ok (.iload_n 1, 1) := by decide +kernel
theorem dX0_localCopy_47 : decode cX0_localCopy 47 = .ok (.iload_n 1, 1) := by decide +kernel
theorem dX0_localCopy_48 : decode cX0_localCopy 48 = .ok (.iconst 0, 1) := by decide +kernel
theorem dX0_localCopy_49 : decode cX0_localCopy 49 = .ok (.invokevirtual 106, 3) := by decide +kernel
theorem dX0_localCopy_52 : decode cX0_localCopy 52 = .ok (.iload_n 3, 1) := by decide +kernel
theorem dX0_localCopy_53 : decode cX0_localCopy 53 = .ok (.ireturn, 1) := by decide +kernel
theorem dX0_addOp_0 : decode cX0_addOp 0 = .ok (.aload_n 0, 1) := by decide +kernel
theorem dX0_addOp_1 : decode cX0_addOp 1 = .ok (.getfield 23, 3) := by decide +kernel
theorem dX0_addOp_4 : decode cX0_addOp 4 = .ok (.aload_n 0, 1) := by decide +kernel
theorem dX0_addOp_5 : decode cX0_addOp 5 = .ok (.getfield 100, 3) := by decide +kernel
theorem dX0_addOp_8 : decode cX0_addOp 8 = .ok (.iload_n 1, 1) := by decide +kernel
theorem dX0_addOp_9 : decode cX0_addOp 9 = .ok (.i2b, 1) := by decide +kernel
theorem dX0_addOp_10 : decode cX0_addOp 10 = .ok (.bastore, 1) := by decide +kernel
theorem dX0_addOp_11 : decode cX0_addOp 11 = .ok (.aload_n 0, 1) := by decide +kernel
theorem dX0_addOp_12 : decode cX0_addOp 12 = .ok (.getfield 26, 3) := by decide +kernel
theorem dX0_addOp_15 : decode cX0_addOp 15 = .ok (.aload_n 0, 1) := by decide +kernel
theorem dX0_addOp_16 : decode cX0_addOp 16 = .ok (.getfield 100, 3) := by decide +kernel
theorem dX0_addOp_19 : decode cX0_addOp 19 = .ok (.iload_n 2, 1) := by decide +kernel
theorem dX0_addOp_20 : decode cX0_addOp 20 = .ok (.i2b, 1) := by decide +kernel
theorem dX0_addOp_21 : decode cX0_addOp 21 = .ok (.bastore, 1) := by decide +kernel
theorem dX0_addOp_22 : decode cX0_addOp 22 = .ok (.aload_n 0, 1) := by decide +kernel
theorem dX0_addOp_23 : decode cX0_addOp 23 = .ok (.getfield 29, 3) := by decide +kernel
theorem dX0_addOp_26 : decode cX0_addOp 26 = .ok (.aload_n 0, 1) := by decide +kernel
theorem dX0_addOp_27 : decode cX0_addOp 27 = .ok (.getfield 100, 3) := by decide +kernel
theorem dX0_addOp_30 : decode cX0_addOp 30 = .ok (.iload_n 3, 1) := by decide +kernel
theorem dX0_addOp_31 : decode cX0_addOp 31 = .ok (.i2b, 1) := by decide +kernel
theorem dX0_addOp_32 : decode cX0_addOp 32 = .ok (.bastore, 1) := by decide +kernel
theorem dX0_addOp_33 : decode cX0_addOp 33 = .ok (.aload_n 0, 1) := by decide +kernel
theorem dX0_addOp_34 : decode cX0_addOp 34 = .ok (.getfield 32, 3) := by decide +kernel
theorem dX0_addOp_37 : decode cX0_addOp 37 = .ok (.aload_n 0, 1) := by decide +kernel
theorem dX0_addOp_38 : decode cX0_addOp 38 = .ok (.getfield 100, 3) := by decide +kernel
theorem dX0_addOp_41 : decode cX0_addOp 41 = .ok (.iload 4, 2) := by decide +kernel
theorem dX0_addOp_43 : decode cX0_addOp 43 = .ok (.i2b, 1) := by decide +kernel
theorem dX0_addOp_44 : decode cX0_addOp 44 = .ok (.bastore, 1) := by decide +kernel
theorem dX0_addOp_45 : decode cX0_addOp 45 = .ok (.aload_n 0, 1) := by decide +kernel
theorem dX0_addOp_46 : decode cX0_addOp 46 = .ok (.getfield 35, 3) := by decide +kernel
theorem dX0_addOp_49 : decode cX0_addOp 49 = .ok (.aload_n 0, 1) := by decide +kernel
theorem dX0_addOp_50 : decode cX0_addOp 50 = .ok (.getfield 100, 3) := by decide +kernel
theorem dX0_addOp_53 : decode cX0_addOp 53 = .ok (.iload 5, 2) := by decide +kernel
theorem dX0_addOp_55 : decode cX0_addOp 55 = .ok (.i2b, 1) := by decide +kernel
theorem dX0_addOp_56 : decode cX0_addOp 56 = .ok (.bastore, 1) := by decide +kernel
theorem dX0_addOp_57 : decode cX0_addOp 57 = .ok (.aload_n 0, 1) := by decide +kernel
theorem dX0_addOp_58 : decode cX0_addOp 58 = .ok (.dup, 1) := by decide +kernel
theorem dX0_addOp_59 : decode cX0_addOp 59 = .ok (.getfield 100, 3) := by decide +kernel
theorem dX0_addOp_62 : decode cX0_addOp 62 = .ok (.iconst 1, 1) := by decide +kernel
theorem dX0_addOp_63 : decode cX0_addOp 63 = .ok (.iadd, 1) := by decide +kernel
theorem dX0_addOp_64 : decode cX0_addOp 64 = .ok (.putfield 100, 3) := by decide +kernel
theorem dX0_addOp_67 : decode cX0_addOp 67 = .ok (.return_, 1) := by decide +kernel
end
section
set_option maxRecDepth 100000
theorem dX0_findUrgency_0 : decode cX0_findUrgency 0 = .ok (.aload_n 0, 1) := by decide +kernel
theorem dX0_findUrgency_1 : decode cX0_findUrgency 1 = .ok (.getfield 100, 3) := by decide +kernel
theorem dX0_findUrgency_4 : decode cX0_findUrgency 4 = .ok (.iconst 1, 1) := by decide +kernel
theorem dX0_findUrgency_5 : decode cX0_findUrgency 5 = .ok (.isub, 1) := by decide +kernel
theorem dX0_findUrgency_6 : decode cX0_findUrgency 6 = .ok (.istore_n 1, 1) := by decide +kernel
theorem dX0_findUrgency_7 : decode cX0_findUrgency 7 = .ok (.iload_n 1, 1) := by decide +kernel
theorem dX0_findUrgency_8 : decode cX0_findUrgency 8 = .ok (.ifCond .lt 82, 3) := by decide +kernel
theorem dX0_findUrgency_11 : decode cX0_findUrgency 11 = .ok (.aload_n 0, 1) := by decide +kernel
theorem dX0_findUrgency_12 : decode cX0_findUrgency 12 = .ok (.aload_n 0, 1) := by decide +kernel
theorem dX0_findUrgency_13 : decode cX0_findUrgency 13 = .ok (.getfield 23, 3) := by decide +kernel
theorem dX0_findUrgency_16 : decode cX0_findUrgency 16 = .ok (.iload_n 1, 1) := by decide +kernel
theorem dX0_findUrgency_17 : decode cX0_findUrgency 17 = .ok (.baload, 1) := by decide +kernel
theorem dX0_findUrgency_18 : decode cX0_findUrgency 18 = .ok (.invokevirtual 97, 3) := by decide +kernel
theorem dX0_findUrgency_21 : decode cX0_findUrgency 21 = .ok (.istore_n 2, 1) := by decide +kernel
theorem dX0_findUrgency_22 : decode cX0_findUrgency 22 = .ok (.iload_n 1, 1) := by decide +kernel
theorem dX0_findUrgency_23 : decode cX0_findUrgency 23 = .ok (.iconst 1, 1) := by decide +kernel
theorem dX0_findUrgency_24 : decode cX0_findUrgency 24 = .ok (.iadd, 1) := by decide +kernel
theorem dX0_findUrgency_25 : decode cX0_findUrgency 25 = .ok (.istore_n 3, 1) := by decide +kernel
theorem dX0_findUrgency_26 : decode cX0_findUrgency 26 = .ok (.iload_n 3, 1) := by decide +kernel
theorem dX0_findUrgency_27 : decode cX0_findUrgency 27 = .ok (.aload_n 0, 1) := by decide +kernel
theorem dX0_findUrgency_28 : decode cX0_findUrgency 28 = .ok (.getfield 100, 3) := by decide +kernel
theorem dX0_findUrgency_31 : decode cX0_findUrgency 31 = .ok (.if_icmp .ge 45, 3) := by decide +kernel
theorem dX0_findUrgency_34 : decode cX0_findUrgency 34 = .ok (.aload_n 0, 1) := by decide +kernel
theorem dX0_findUrgency_35 : decode cX0_findUrgency 35 = .ok (.iload_n 1, 1) := by decide +kernel
theorem dX0_findUrgency_36 : decode cX0_findUrgency 36 = .ok (.iload_n 3, 1) := by decide +kernel
theorem dX0_findUrgency_37 : decode cX0_findUrgency 37 = .ok (.invokevirtual 132, 3) := by decide +kernel
theorem dX0_findUrgency_40 : decode cX0_findUrgency 40 = .ok (.istore 4, 2) := by decide +kernel
theorem dX0_findUrgency_42 : decode cX0_findUrgency 42 = .ok (.iload 4, 2) := by decide +kernel
theorem dX0_findUrgency_44 : decode cX0_findUrgency 44 = .ok (.ifCond .lt 26, 3) := by decide +kernel
theorem dX0_findUrgency_47 : decode cX0_findUrgency 47 = .ok (.iload 4, 2) := by decide +kernel
theorem dX0_findUrgency_49 : decode cX0_findUrgency 49 = .ok (.aload_n 0, 1) := by decide +kernel
theorem dX0_findUrgency_50 : decode cX0_findUrgency 50 = .ok (.getfield 41, 3) := by decide +kernel
theorem dX0_findUrgency_53 : decode cX0_findUrgency 53 = .ok (.iload_n 3, 1) := by decide +kernel
theorem dX0_findUrgency_54 : decode cX0_findUrgency 54 = .ok (.saload, 1) := by decide +kernel
theorem dX0_findUrgency_55 : decode cX0_findUrgency 55 = .ok (.iadd, 1) := by decide +kernel
theorem dX0_findUrgency_56 : decode cX0_findUrgency 56 = .ok (.iload_n 2, 1) := by decide +kernel
theorem dX0_findUrgency_57 : decode cX0_findUrgency 57 = .ok (.if_icmp .le 13, 3) := by decide +kernel
theorem dX0_findUrgency_60 : decode cX0_findUrgency 60 = .ok (.iload 4, 2) := by decide +kernel
theorem dX0_findUrgency_62 : decode cX0_findUrgency 62 = .ok (.aload_n 0, 1) := by decide +kernel
theorem dX0_findUrgency_63 : decode cX0_findUrgency 63 = .ok (.getfield 41, 3) := by decide +kernel
theorem dX0_findUrgency_66 : decode cX0_findUrgency 66 = .ok (.iload_n 3, 1) := by decide +kernel
theorem dX0_findUrgency_67 : decode cX0_findUrgency 67 = .ok (.saload, 1) := by decide +kernel
theorem dX0_findUrgency_68 : decode cX0_findUrgency 68 = .ok (.iadd, 1) := by decide +kernel
theorem dX0_findUrgency_69 : decode cX0_findUrgency 69 = .ok (.istore_n 2, 1) := by decide +kernel
theorem dX0_findUrgency_70 : decode cX0_findUrgency 70 = .ok (.iinc 3 1, 3) := by decide +kernel
theorem dX0_findUrgency_73 : decode cX0_findUrgency 73 = .ok (.goto (-47), 3) := by decide +kernel
theorem dX0_findUrgency_76 : decode cX0_findUrgency 76 = .ok (.aload_n 0, 1) := by decide +kernel
theorem dX0_findUrgency_77 : decode cX0_findUrgency 77 = .ok (.getfield 41, 3) := by decide +kernel
theorem dX0_findUrgency_80 : decode cX0_findUrgency 80 = .ok (.iload_n 1, 1) := by decide +kernel
theorem dX0_findUrgency_81 : decode cX0_findUrgency 81 = .ok (.iload_n 2, 1) := by decide +kernel
theorem dX0_findUrgency_82 : decode cX0_findUrgency 82 = .ok (.i2s, 1) := by decide +kernel
theorem dX0_findUrgency_83 : decode cX0_findUrgency 83 = .ok (.sastore, 1) := by decide +kernel
theorem dX0_findUrgency_84 : decode cX0_findUrgency 84 = .ok (.iinc 1 (-1), 3) := by decide +kernel
theorem dX0_findUrgency_87 : decode cX0_findUrgency 87 = .ok (.goto (-80), 3) := by decide +kernel
theorem dX0_findUrgency_90 : decode cX0_findUrgency 90 = .ok (.return_, 1) := by decide +kernel
theorem dX0_timeOf_0 : decode cX0_timeOf 0 = .ok (.iload_n 1, 1) := by decide +kernel
theorem dX0_timeOf_1 : decode cX0_timeOf 1 = .ok (.iconst 2, 1) := by decide +kernel
theorem dX0_timeOf_2 : decode cX0_timeOf 2 = .ok (.if_icmp .ne 7, 3) := by decide +kernel
theorem dX0_timeOf_5 : decode cX0_timeOf 5 = .ok (.iconst 3, 1) := by decide +kernel
theorem dX0_timeOf_6 : decode cX0_timeOf 6 = .ok (.goto 14, 3) := by decide +kernel
theorem dX0_timeOf_9 : decode cX0_timeOf 9 = .ok (.iload_n 1, 1) := by decide +kernel
theorem dX0_timeOf_10 : decode cX0_timeOf 10 = .ok (.bipush 7, 2) := by decide +kernel
theorem dX0_timeOf_12 : decode cX0_timeOf 12 = .ok (.if_icmp .ne 7, 3) := by decide +kernel
theorem dX0_timeOf_15 : decode cX0_timeOf 15 = .ok (.iconst 2, 1) := by decide +kernel
theorem dX0_timeOf_16 : decode cX0_timeOf 16 = .ok (.goto 4, 3) := by decide +kernel
theorem dX0_timeOf_19 : decode cX0_timeOf 19 = .ok (.iconst 1, 1) := by decide +kernel
theorem dX0_timeOf_20 : decode cX0_timeOf 20 = .ok (.ireturn, 1) := by decide +kernel
theorem dX0_separation_0 : decode cX0_separation 0 = .ok (.iconst (-1), 1) := by decide +kernel
theorem dX0_separation_1 : decode cX0_separation 1 = .ok (.istore_n 3, 1) := by decide +kernel
theorem dX0_separation_2 : decode cX0_separation 2 = .ok (.aload_n 0, 1) := by decide +kernel
theorem dX0_separation_3 : decode cX0_separation 3 = .ok (.getfield 23, 3) := by decide +kernel
theorem dX0_separation_6 : decode cX0_separation 6 = .ok (.iload_n 1, 1) := by decide +kernel
theorem dX0_separation_7 : decode cX0_separation 7 = .ok (.baload, 1) := by decide +kernel
theorem dX0_separation_8 : decode cX0_separation 8 = .ok (.bipush 8, 2) := by decide +kernel
theorem dX0_separation_10 : decode cX0_separation 10 = .ok (.if_icmp .eq 7, 3) := by decide +kernel
theorem dX0_separation_13 : decode cX0_separation 13 = .ok (.iconst 1, 1) := by decide +kernel
theorem dX0_separation_14 : decode cX0_separation 14 = .ok (.goto 4, 3) := by decide +kernel
theorem dX0_separation_17 : decode cX0_separation 17 = .ok (.iconst 0, 1) := by decide +kernel
theorem dX0_separation_18 : decode cX0_separation 18 = .ok (.istore 4, 2) := by decide +kernel
theorem dX0_separation_20 : decode cX0_separation 20 = .ok (.iload 4, 2) := by decide +kernel
theorem dX0_separation_22 : decode cX0_separation 22 = .ok (.ifCond .eq 31, 3) := by decide +kernel
theorem dX0_separation_25 : decode cX0_separation 25 = .ok (.aload_n 0, 1) := by decide +kernel
theorem dX0_separation_26 : decode cX0_separation 26 = .ok (.iload_n 2, 1) := by decide +kernel
theorem dX0_separation_27 : decode cX0_separation 27 = .ok (.invokevirtual 114, 3) := by decide +kernel
theorem dX0_separation_30 : decode cX0_separation 30 = .ok (.aload_n 0, 1) := by decide +kernel
theorem dX0_separation_31 : decode cX0_separation 31 = .ok (.getfield 26, 3) := by decide +kernel
theorem dX0_separation_34 : decode cX0_separation 34 = .ok (.iload_n 1, 1) := by decide +kernel
theorem dX0_separation_35 : decode cX0_separation 35 = .ok (.baload, 1) := by decide +kernel
theorem dX0_separation_36 : decode cX0_separation 36 = .ok (.ishr, 1) := by decide +kernel
theorem dX0_separation_37 : decode cX0_separation 37 = .ok (.iconst 1, 1) := by decide +kernel
theorem dX0_separation_38 : decode cX0_separation 38 = .ok (.iand, 1) := by decide +kernel
theorem dX0_separation_39 : decode cX0_separation 39 = .ok (.ifCond .eq 14, 3) := by decide +kernel
theorem dX0_separation_42 : decode cX0_separation 42 = .ok (.aload_n 0, 1) := by decide +kernel
theorem dX0_separation_43 : decode cX0_separation 43 = .ok (.aload_n 0, 1) := by decide +kernel
theorem dX0_separation_44 : decode cX0_separation 44 = .ok (.getfield 23, 3) := by decide +kernel
theorem dX0_separation_47 : decode cX0_separation 47 = .ok (.iload_n 1, 1) := by decide +kernel
theorem dX0_separation_48 : decode cX0_separation 48 = .ok (.baload, 1) := by decide +kernel
theorem dX0_separation_49 : decode cX0_separation 49 = .ok (.invokevirtual 97, 3) := by decide +kernel
theorem dX0_separation_52 : decode cX0_separation 52 = .ok (.istore_n 3, 1) := by decide +kernel
theorem dX0_separation_53 : decode cX0_separation 53 = .ok (.aload_n 0, 1) := by decide +kernel
theorem dX0_separation_54 : decode cX0_separation 54 = .ok (.getfield 23, 3) := by decide +kernel
theorem dX0_separation_57 : decode cX0_separation 57 = .ok (.iload_n 2, 1) := by decide +kernel
theorem dX0_separation_58 : decode cX0_separation 58 = .ok (.baload, 1) := by decide +kernel
theorem dX0_separation_59 : decode cX0_separation 59 = .ok (.bipush 8, 2) := by decide +kernel
theorem dX0_separation_61 : decode cX0_separation 61 = .ok (.if_icmp .eq 7, 3) := by decide +kernel
theorem dX0_separation_64 : decode cX0_separation 64 = .ok (.iconst 1, 1) := by decide +kernel
theorem dX0_separation_65 : decode cX0_separation 65 = .ok (.goto 4, 3) := by decide +kernel
theorem dX0_separation_68 : decode cX0_separation 68 = .ok (.iconst 0, 1) := by decide +kernel
theorem dX0_separation_69 : decode cX0_separation 69 = .ok (.istore 5, 2) := by decide +kernel
theorem dX0_separation_71 : decode cX0_separation 71 = .ok (.iload 5, 2) := by decide +kernel
theorem dX0_separation_73 : decode cX0_separation 73 = .ok (.ifCond .eq 26, 3) := by decide +kernel
theorem dX0_separation_76 : decode cX0_separation 76 = .ok (.aload_n 0, 1) := by decide +kernel
theorem dX0_separation_77 : decode cX0_separation 77 = .ok (.iload_n 1, 1) := by decide +kernel
theorem dX0_separation_78 : decode cX0_separation 78 = .ok (.invokevirtual 114, 3) := by decide +kernel
theorem dX0_separation_81 : decode cX0_separation 81 = .ok (.aload_n 0, 1) := by decide +kernel
theorem dX0_separation_82 : decode cX0_separation 82 = .ok (.getfield 26, 3) := by decide +kernel
theorem dX0_separation_85 : decode cX0_separation 85 = .ok (.iload_n 2, 1) := by decide +kernel
theorem dX0_separation_86 : decode cX0_separation 86 = .ok (.baload, 1) := by decide +kernel
theorem dX0_separation_87 : decode cX0_separation 87 = .ok (.ishr, 1) := by decide +kernel
theorem dX0_separation_88 : decode cX0_separation 88 = .ok (.iconst 1, 1) := by decide +kernel
theorem dX0_separation_89 : decode cX0_separation 89 = .ok (.iand, 1) := by decide +kernel
theorem dX0_separation_90 : decode cX0_separation 90 = .ok (.ifCond .eq 9, 3) := by decide +kernel
theorem dX0_separation_93 : decode cX0_separation 93 = .ok (.iload_n 3, 1) := by decide +kernel
theorem dX0_separation_94 : decode cX0_separation 94 = .ok (.ifCond .ge 5, 3) := by decide +kernel
theorem dX0_separation_97 : decode cX0_separation 97 = .ok (.iconst 0, 1) := by decide +kernel
theorem dX0_separation_98 : decode cX0_separation 98 = .ok (.istore_n 3, 1) := by decide +kernel
theorem dX0_separation_99 : decode cX0_separation 99 = .ok (.iload 4, 2) := by decide +kernel
theorem dX0_separation_101 : decode cX0_separation 101 = .ok (.ifCond .eq 65, 3) := by decide +kernel
theorem dX0_separation_104 : decode cX0_separation 104 = .ok (.iload 5, 2) := by decide +kernel
theorem dX0_separation_106 : decode cX0_separation 106 = .ok (.ifCond .eq 60, 3) := by decide +kernel
theorem dX0_separation_109 : decode cX0_separation 109 = .ok (.aload_n 0, 1) := by decide +kernel
theorem dX0_separation_110 : decode cX0_separation 110 = .ok (.getfield 26, 3) := by decide +kernel
theorem dX0_separation_113 : decode cX0_separation 113 = .ok (.iload_n 1, 1) := by decide +kernel
theorem dX0_separation_114 : decode cX0_separation 114 = .ok (.baload, 1) := by decide +kernel
theorem dX0_separation_115 : decode cX0_separation 115 = .ok (.aload_n 0, 1) := by decide +kernel
theorem dX0_separation_116 : decode cX0_separation 116 = .ok (.getfield 26, 3) := by decide +kernel
theorem dX0_separation_119 : decode cX0_separation 119 = .ok (.iload_n 2, 1) := by decide +kernel
theorem dX0_separation_120 : decode cX0_separation 120 = .ok (.baload, 1) := by decide +kernel
theorem dX0_separation_121 : decode cX0_separation 121 = .ok (.if_icmp .ne 45, 3) := by decide +kernel
theorem dX0_separation_124 : decode cX0_separation 124 = .ok (.aload_n 0, 1) := by decide +kernel
theorem dX0_separation_125 : decode cX0_separation 125 = .ok (.aload_n 0, 1) := by decide +kernel
theorem dX0_separation_126 : decode cX0_separation 126 = .ok (.getfield 23, 3) := by decide +kernel
theorem dX0_separation_129 : decode cX0_separation 129 = .ok (.iload_n 1, 1) := by decide +kernel
theorem dX0_separation_130 : decode cX0_separation 130 = .ok (.baload, 1) := by decide +kernel
theorem dX0_separation_131 : decode cX0_separation 131 = .ok (.invokevirtual 97, 3) := by decide +kernel
theorem dX0_separation_134 : decode cX0_separation 134 = .ok (.aload_n 0, 1) := by decide +kernel
theorem dX0_separation_135 : decode cX0_separation 135 = .ok (.aload_n 0, 1) := by decide +kernel
theorem dX0_separation_136 : decode cX0_separation 136 = .ok (.getfield 23, 3) := by decide +kernel
theorem dX0_separation_139 : decode cX0_separation 139 = .ok (.iload_n 2, 1) := by decide +kernel
theorem dX0_separation_140 : decode cX0_separation 140 = .ok (.baload, 1) := by decide +kernel
theorem dX0_separation_141 : decode cX0_separation 141 = .ok (.invokevirtual 97, 3) := by decide +kernel
theorem dX0_separation_144 : decode cX0_separation 144 = .ok (.isub, 1) := by decide +kernel
theorem dX0_separation_145 : decode cX0_separation 145 = .ok (.iconst 1, 1) := by decide +kernel
theorem dX0_separation_146 : decode cX0_separation 146 = .ok (.iadd, 1) := by decide +kernel
theorem dX0_separation_147 : decode cX0_separation 147 = .ok (.istore 6, 2) := by decide +kernel
theorem dX0_separation_149 : decode cX0_separation 149 = .ok (.iload 6, 2) := by decide +kernel
theorem dX0_separation_151 : decode cX0_separation 151 = .ok (.ifCond .ge 6, 3) := by decide +kernel
theorem dX0_separation_154 : decode cX0_separation 154 = .ok (.iconst 0, 1) := by decide +kernel
theorem dX0_separation_155 : decode cX0_separation 155 = .ok (.istore 6, 2) := by decide +kernel
theorem dX0_separation_157 : decode cX0_separation 157 = .ok (.iload 6, 2) := by decide +kernel
theorem dX0_separation_159 : decode cX0_separation 159 = .ok (.iload_n 3, 1) := by decide +kernel
theorem dX0_separation_160 : decode cX0_separation 160 = .ok (.if_icmp .le 6, 3) := by decide +kernel
theorem dX0_separation_163 : decode cX0_separation 163 = .ok (.iload 6, 2) := by decide +kernel
theorem dX0_separation_165 : decode cX0_separation 165 = .ok (.istore_n 3, 1) := by decide +kernel
theorem dX0_separation_166 : decode cX0_separation 166 = .ok (.aload_n 0, 1) := by decide +kernel
theorem dX0_separation_167 : decode cX0_separation 167 = .ok (.iload_n 1, 1) := by decide +kernel
theorem dX0_separation_168 : decode cX0_separation 168 = .ok (.invokevirtual 117, 3) := by decide +kernel
theorem dX0_separation_171 : decode cX0_separation 171 = .ok (.ifCond .eq 60, 3) := by decide +kernel
theorem dX0_separation_174 : decode cX0_separation 174 = .ok (.aload_n 0, 1) := by decide +kernel
theorem dX0_separation_175 : decode cX0_separation 175 = .ok (.iload_n 2, 1) := by decide +kernel
theorem dX0_separation_176 : decode cX0_separation 176 = .ok (.invokevirtual 117, 3) := by decide +kernel
theorem dX0_separation_179 : decode cX0_separation 179 = .ok (.ifCond .eq 52, 3) := by decide +kernel
theorem dX0_separation_182 : decode cX0_separation 182 = .ok (.aload_n 0, 1) := by decide +kernel
theorem dX0_separation_183 : decode cX0_separation 183 = .ok (.getfield 23, 3) := by decide +kernel
theorem dX0_separation_186 : decode cX0_separation 186 = .ok (.iload_n 1, 1) := by decide +kernel
theorem dX0_separation_187 : decode cX0_separation 187 = .ok (.baload, 1) := by decide +kernel
theorem dX0_separation_188 : decode cX0_separation 188 = .ok (.bipush 8, 2) := by decide +kernel
theorem dX0_separation_190 : decode cX0_separation 190 = .ok (.if_icmp .eq 14, 3) := by decide +kernel
theorem dX0_separation_193 : decode cX0_separation 193 = .ok (.aload_n 0, 1) := by decide +kernel
theorem dX0_separation_194 : decode cX0_separation 194 = .ok (.getfield 23, 3) := by decide +kernel
theorem dX0_separation_197 : decode cX0_separation 197 = .ok (.iload_n 2, 1) := by decide +kernel
theorem dX0_separation_198 : decode cX0_separation 198 = .ok (.baload, 1) := by decide +kernel
theorem dX0_separation_199 : decode cX0_separation 199 = .ok (.bipush 8, 2) := by decide +kernel
theorem dX0_separation_201 : decode cX0_separation 201 = .ok (.if_icmp .ne 30, 3) := by decide +kernel
theorem dX0_separation_204 : decode cX0_separation 204 = .ok (.aload_n 0, 1) := by decide +kernel
theorem dX0_separation_205 : decode cX0_separation 205 = .ok (.getfield 23, 3) := by decide +kernel
theorem dX0_separation_208 : decode cX0_separation 208 = .ok (.iload_n 1, 1) := by decide +kernel
theorem dX0_separation_209 : decode cX0_separation 209 = .ok (.baload, 1) := by decide +kernel
theorem dX0_separation_210 : decode cX0_separation 210 = .ok (.bipush 8, 2) := by decide +kernel
theorem dX0_separation_212 : decode cX0_separation 212 = .ok (.if_icmp .ne 7, 3) := by decide +kernel
theorem dX0_separation_215 : decode cX0_separation 215 = .ok (.iconst 1, 1) := by decide +kernel
theorem dX0_separation_216 : decode cX0_separation 216 = .ok (.goto 4, 3) := by decide +kernel
theorem dX0_separation_219 : decode cX0_separation 219 = .ok (.iconst 0, 1) := by decide +kernel
theorem dX0_separation_220 : decode cX0_separation 220 = .ok (.istore 6, 2) := by decide +kernel
theorem dX0_separation_222 : decode cX0_separation 222 = .ok (.iload 6, 2) := by decide +kernel
theorem dX0_separation_224 : decode cX0_separation 224 = .ok (.iload_n 3, 1) := by decide +kernel
theorem dX0_separation_225 : decode cX0_separation 225 = .ok (.if_icmp .le 6, 3) := by decide +kernel
theorem dX0_separation_228 : decode cX0_separation 228 = .ok (.iload 6, 2) := by decide +kernel
theorem dX0_separation_230 : decode cX0_separation 230 = .ok (.istore_n 3, 1) := by decide +kernel
theorem dX0_separation_231 : decode cX0_separation 231 = .ok (.iload_n 3, 1) := by decide +kernel
theorem dX0_separation_232 : decode cX0_separation 232 = .ok (.ireturn, 1) := by decide +kernel
theorem dX0_readSet_0 : decode cX0_readSet 0 = .ok (.iconst 1, 1) := by decide +kernel
theorem dX0_readSet_1 : decode cX0_readSet 1 = .ok (.aload_n 0, 1) := by decide +kernel
theorem dX0_readSet_2 : decode cX0_readSet 2 = .ok (.getfield 29, 3) := by decide +kernel
theorem dX0_readSet_5 : decode cX0_readSet 5 = .ok (.iload_n 1, 1) := by decide +kernel
theorem dX0_readSet_6 : decode cX0_readSet 6 = .ok (.baload, 1) := by decide +kernel
theorem dX0_readSet_7 : decode cX0_readSet 7 = .ok (.ishl, 1) := by decide +kernel
theorem dX0_readSet_8 : decode cX0_readSet 8 = .ok (.iconst 1, 1) := by decide +kernel
theorem dX0_readSet_9 : decode cX0_readSet 9 = .ok (.aload_n 0, 1) := by decide +kernel
theorem dX0_readSet_10 : decode cX0_readSet 10 = .ok (.getfield 32, 3) := by decide +kernel
theorem dX0_readSet_13 : decode cX0_readSet 13 = .ok (.iload_n 1, 1) := by decide +kernel
theorem dX0_readSet_14 : decode cX0_readSet 14 = .ok (.baload, 1) := by decide +kernel
theorem dX0_readSet_15 : decode cX0_readSet 15 = .ok (.ishl, 1) := by decide +kernel
theorem dX0_readSet_16 : decode cX0_readSet 16 = .ok (.ior, 1) := by decide +kernel
theorem dX0_readSet_17 : decode cX0_readSet 17 = .ok (.istore_n 2, 1) := by decide +kernel
theorem dX0_readSet_18 : decode cX0_readSet 18 = .ok (.aload_n 0, 1) := by decide +kernel
theorem dX0_readSet_19 : decode cX0_readSet 19 = .ok (.getfield 23, 3) := by decide +kernel
theorem dX0_readSet_22 : decode cX0_readSet 22 = .ok (.iload_n 1, 1) := by decide +kernel
theorem dX0_readSet_23 : decode cX0_readSet 23 = .ok (.baload, 1) := by decide +kernel
theorem dX0_readSet_24 : decode cX0_readSet 24 = .ok (.iconst 5, 1) := by decide +kernel
theorem dX0_readSet_25 : decode cX0_readSet 25 = .ok (.if_icmp .eq 14, 3) := by decide +kernel
theorem dX0_readSet_28 : decode cX0_readSet 28 = .ok (.aload_n 0, 1) := by decide +kernel
theorem dX0_readSet_29 : decode cX0_readSet 29 = .ok (.getfield 23, 3) := by decide +kernel
theorem dX0_readSet_32 : decode cX0_readSet 32 = .ok (.iload_n 1, 1) := by decide +kernel
theorem dX0_readSet_33 : decode cX0_readSet 33 = .ok (.baload, 1) := by decide +kernel
theorem dX0_readSet_34 : decode cX0_readSet 34 = .ok (.bipush 8, 2) := by decide +kernel
theorem dX0_readSet_36 : decode cX0_readSet 36 = .ok (.if_icmp .ne 16, 3) := by decide +kernel
theorem dX0_readSet_39 : decode cX0_readSet 39 = .ok (.iload_n 2, 1) := by decide +kernel
theorem dX0_readSet_40 : decode cX0_readSet 40 = .ok (.iconst 1, 1) := by decide +kernel
theorem dX0_readSet_41 : decode cX0_readSet 41 = .ok (.aload_n 0, 1) := by decide +kernel
theorem dX0_readSet_42 : decode cX0_readSet 42 = .ok (.getfield 26, 3) := by decide +kernel
theorem dX0_readSet_45 : decode cX0_readSet 45 = .ok (.iload_n 1, 1) := by decide +kernel
theorem dX0_readSet_46 : decode cX0_readSet 46 = .ok (.baload, 1) := by decide +kernel
theorem dX0_readSet_47 : decode cX0_readSet 47 = .ok (.ishl, 1) := by decide +kernel
theorem dX0_readSet_48 : decode cX0_readSet 48 = .ok (.ior, 1) := by decide +kernel
theorem dX0_readSet_49 : decode cX0_readSet 49 = .ok (.goto 4, 3) := by decide +kernel
theorem dX0_readSet_52 : decode cX0_readSet 52 = .ok (.iload_n 2, 1) := by decide +kernel
theorem dX0_readSet_53 : decode cX0_readSet 53 = .ok (.ireturn, 1) := by decide +kernel
theorem dX0_touchesMemory_0 : decode cX0_touchesMemory 0 = .ok (.aload_n 0, 1) := by decide +kernel
theorem dX0_touchesMemory_1 : decode cX0_touchesMemory 1 = .ok (.getfield 23, 3) := by decide +kernel
theorem dX0_touchesMemory_4 : decode cX0_touchesMemory 4 = .ok (.iload_n 1, 1) := by decide +kernel
theorem dX0_touchesMemory_5 : decode cX0_touchesMemory 5 = .ok (.baload, 1) := by decide +kernel
theorem dX0_touchesMemory_6 : decode cX0_touchesMemory 6 = .ok (.bipush 7, 2) := by decide +kernel
theorem dX0_touchesMemory_8 : decode cX0_touchesMemory 8 = .ok (.if_icmp .eq 14, 3) := by decide +kernel
theorem dX0_touchesMemory_11 : decode cX0_touchesMemory 11 = .ok (.aload_n 0, 1) := by decide +kernel
theorem dX0_touchesMemory_12 : decode cX0_touchesMemory 12 = .ok (.getfield 23, 3) := by decide +kernel
theorem dX0_touchesMemory_15 : decode cX0_touchesMemory 15 = .ok (.iload_n 1, 1) := by decide +kernel
theorem dX0_touchesMemory_16 : decode cX0_touchesMemory 16 = .ok (.baload, 1) := by decide +kernel
theorem dX0_touchesMemory_17 : decode cX0_touchesMemory 17 = .ok (.bipush 8, 2) := by decide +kernel
theorem dX0_touchesMemory_19 : decode cX0_touchesMemory 19 = .ok (.if_icmp .ne 7, 3) := by decide +kernel
theorem dX0_touchesMemory_22 : decode cX0_touchesMemory 22 = .ok (.iconst 1, 1) := by decide +kernel
theorem dX0_touchesMemory_23 : decode cX0_touchesMemory 23 = .ok (.goto 4, 3) := by decide +kernel
theorem dX0_touchesMemory_26 : decode cX0_touchesMemory 26 = .ok (.iconst 0, 1) := by decide +kernel
theorem dX0_touchesMemory_27 : decode cX0_touchesMemory 27 = .ok (.ireturn, 1) := by decide +kernel
theorem dX0_schedule_0 : decode cX0_schedule 0 = .ok (.iconst 0, 1) := by decide +kernel
theorem dX0_schedule_1 : decode cX0_schedule 1 = .ok (.istore_n 1, 1) := by decide +kernel
theorem dX0_schedule_2 : decode cX0_schedule 2 = .ok (.iload_n 1, 1) := by decide +kernel
theorem dX0_schedule_3 : decode cX0_schedule 3 = .ok (.sipush 400, 3) := by decide +kernel
theorem dX0_schedule_6 : decode cX0_schedule 6 = .ok (.if_icmp .ge 16, 3) := by decide +kernel
theorem dX0_schedule_9 : decode cX0_schedule 9 = .ok (.aload_n 0, 1) := by decide +kernel
theorem dX0_schedule_10 : decode cX0_schedule 10 = .ok (.getfield 48, 3) := by decide +kernel
theorem dX0_schedule_13 : decode cX0_schedule 13 = .ok (.iload_n 1, 1) := by decide +kernel
theorem dX0_schedule_14 : decode cX0_schedule 14 = .ok (.iconst 0, 1) := by decide +kernel
theorem dX0_schedule_15 : decode cX0_schedule 15 = .ok (.iastore, 1) := by decide +kernel
theorem dX0_schedule_16 : decode cX0_schedule 16 = .ok (.iinc 1 1, 3) := by decide +kernel
theorem dX0_schedule_19 : decode cX0_schedule 19 = .ok (.goto (-17), 3) := by decide +kernel
theorem dX0_schedule_22 : decode cX0_schedule 22 = .ok (.iconst 0, 1) := by decide +kernel
theorem dX0_schedule_23 : decode cX0_schedule 23 = .ok (.istore_n 1, 1) := by decide +kernel
theorem dX0_schedule_24 : decode cX0_schedule 24 = .ok (.iload_n 1, 1) := by decide +kernel
theorem dX0_schedule_25 : decode cX0_schedule 25 = .ok (.aload_n 0, 1) := by decide +kernel
theorem dX0_schedule_26 : decode cX0_schedule 26 = .ok (.getfield 100, 3) := by decide +kernel
theorem dX0_schedule_29 : decode cX0_schedule 29 = .ok (.if_icmp .ge 16, 3) := by decide +kernel
theorem dX0_schedule_32 : decode cX0_schedule 32 = .ok (.aload_n 0, 1) := by decide +kernel
theorem dX0_schedule_33 : decode cX0_schedule 33 = .ok (.getfield 45, 3) := by decide +kernel
theorem dX0_schedule_36 : decode cX0_schedule 36 = .ok (.iload_n 1, 1) := by decide +kernel
theorem dX0_schedule_37 : decode cX0_schedule 37 = .ok (.iconst (-1), 1) := by decide +kernel
theorem dX0_schedule_38 : decode cX0_schedule 38 = .ok (.sastore, 1) := by decide +kernel
theorem dX0_schedule_39 : decode cX0_schedule 39 = .ok (.iinc 1 1, 3) := by decide +kernel
theorem dX0_schedule_42 : decode cX0_schedule 42 = .ok (.goto (-18), 3) := by decide +kernel
theorem dX0_schedule_45 : decode cX0_schedule 45 = .ok (.iconst 0, 1) := by decide +kernel
theorem dX0_schedule_46 : decode cX0_schedule 46 = .ok (.istore_n 1, 1) := by decide +kernel
theorem dX0_schedule_47 : decode cX0_schedule 47 = .ok (.iload_n 1, 1) := by decide +kernel
theorem dX0_schedule_48 : decode cX0_schedule 48 = .ok (.aload_n 0, 1) := by decide +kernel
theorem dX0_schedule_49 : decode cX0_schedule 49 = .ok (.getfield 100, 3) := by decide +kernel
theorem dX0_schedule_52 : decode cX0_schedule 52 = .ok (.if_icmp .ge 64, 3) := by decide +kernel
theorem dX0_schedule_55 : decode cX0_schedule 55 = .ok (.aload_n 0, 1) := by decide +kernel
theorem dX0_schedule_56 : decode cX0_schedule 56 = .ok (.invokevirtual 135, 3) := by decide +kernel
theorem dX0_schedule_59 : decode cX0_schedule 59 = .ok (.istore_n 2, 1) := by decide +kernel
theorem dX0_schedule_60 : decode cX0_schedule 60 = .ok (.aload_n 0, 1) := by decide +kernel
theorem dX0_schedule_61 : decode cX0_schedule 61 = .ok (.iload_n 2, 1) := by decide +kernel
theorem dX0_schedule_62 : decode cX0_schedule 62 = .ok (.invokevirtual 139, 3) := by decide +kernel
theorem dX0_schedule_65 : decode cX0_schedule 65 = .ok (.istore_n 3, 1) := by decide +kernel
theorem dX0_schedule_66 : decode cX0_schedule 66 = .ok (.aload_n 0, 1) := by decide +kernel
theorem dX0_schedule_67 : decode cX0_schedule 67 = .ok (.iload_n 2, 1) := by decide +kernel
theorem dX0_schedule_68 : decode cX0_schedule 68 = .ok (.invokevirtual 142, 3) := by decide +kernel
theorem dX0_schedule_71 : decode cX0_schedule 71 = .ok (.istore 4, 2) := by decide +kernel
theorem dX0_schedule_73 : decode cX0_schedule 73 = .ok (.aload_n 0, 1) := by decide +kernel
theorem dX0_schedule_74 : decode cX0_schedule 74 = .ok (.getfield 48, 3) := by decide +kernel
theorem dX0_schedule_77 : decode cX0_schedule 77 = .ok (.iload_n 3, 1) := by decide +kernel
theorem dX0_schedule_78 : decode cX0_schedule 78 = .ok (.iaload, 1) := by decide +kernel
theorem dX0_schedule_79 : decode cX0_schedule 79 = .ok (.iload 4, 2) := by decide +kernel
theorem dX0_schedule_81 : decode cX0_schedule 81 = .ok (.iand, 1) := by decide +kernel
theorem dX0_schedule_82 : decode cX0_schedule 82 = .ok (.ifCond .eq 9, 3) := by decide +kernel
theorem dX0_schedule_85 : decode cX0_schedule 85 = .ok (.iinc 3 1, 3) := by decide +kernel
theorem dX0_schedule_88 : decode cX0_schedule 88 = .ok (.goto (-15), 3) := by decide +kernel
theorem dX0_schedule_91 : decode cX0_schedule 91 = .ok (.aload_n 0, 1) := by decide +kernel
theorem dX0_schedule_92 : decode cX0_schedule 92 = .ok (.getfield 48, 3) := by decide +kernel
theorem dX0_schedule_95 : decode cX0_schedule 95 = .ok (.iload_n 3, 1) := by decide +kernel
theorem dX0_schedule_96 : decode cX0_schedule 96 = .ok (.dup2, 1) := by decide +kernel
theorem dX0_schedule_97 : decode cX0_schedule 97 = .ok (.iaload, 1) := by decide +kernel
theorem dX0_schedule_98 : decode cX0_schedule 98 = .ok (.iload 4, 2) := by decide +kernel
theorem dX0_schedule_100 : decode cX0_schedule 100 = .ok (.ior, 1) := by decide +kernel
theorem dX0_schedule_101 : decode cX0_schedule 101 = .ok (.iastore, 1) := by decide +kernel
theorem dX0_schedule_102 : decode cX0_schedule 102 = .ok (.aload_n 0, 1) := by decide +kernel
theorem dX0_schedule_103 : decode cX0_schedule 103 = .ok (.getfield 45, 3) := by decide +kernel
theorem dX0_schedule_106 : decode cX0_schedule 106 = .ok (.iload_n 2, 1) := by decide +kernel
theorem dX0_schedule_107 : decode cX0_schedule 107 = .ok (.iload_n 3, 1) := by decide +kernel
theorem dX0_schedule_108 : decode cX0_schedule 108 = .ok (.i2s, 1) := by decide +kernel
theorem dX0_schedule_109 : decode cX0_schedule 109 = .ok (.sastore, 1) := by decide +kernel
theorem dX0_schedule_110 : decode cX0_schedule 110 = .ok (.iinc 1 1, 3) := by decide +kernel
theorem dX0_schedule_113 : decode cX0_schedule 113 = .ok (.goto (-66), 3) := by decide +kernel
theorem dX0_schedule_116 : decode cX0_schedule 116 = .ok (.return_, 1) := by decide +kernel
theorem dX0_mostUrgent_0 : decode cX0_mostUrgent 0 = .ok (.iconst (-1), 1) := by decide +kernel
theorem dX0_mostUrgent_1 : decode cX0_mostUrgent 1 = .ok (.istore_n 1, 1) := by decide +kernel
theorem dX0_mostUrgent_2 : decode cX0_mostUrgent 2 = .ok (.iconst 0, 1) := by decide +kernel
theorem dX0_mostUrgent_3 : decode cX0_mostUrgent 3 = .ok (.istore_n 2, 1) := by decide +kernel
theorem dX0_mostUrgent_4 : decode cX0_mostUrgent 4 = .ok (.iload_n 2, 1) := by decide +kernel
theorem dX0_mostUrgent_5 : decode cX0_mostUrgent 5 = .ok (.aload_n 0, 1) := by decide +kernel
theorem dX0_mostUrgent_6 : decode cX0_mostUrgent 6 = .ok (.getfield 100, 3) := by decide +kernel
theorem dX0_mostUrgent_9 : decode cX0_mostUrgent 9 = .ok (.if_icmp .ge 50, 3) := by decide +kernel
theorem dX0_mostUrgent_12 : decode cX0_mostUrgent 12 = .ok (.aload_n 0, 1) := by decide +kernel
theorem dX0_mostUrgent_13 : decode cX0_mostUrgent 13 = .ok (.getfield 45, 3) := by decide +kernel
theorem dX0_mostUrgent_16 : decode cX0_mostUrgent 16 = .ok (.iload_n 2, 1) := by decide +kernel
theorem dX0_mostUrgent_17 : decode cX0_mostUrgent 17 = .ok (.saload, 1) := by decide +kernel
theorem dX0_mostUrgent_18 : decode cX0_mostUrgent 18 = .ok (.ifCond .ge 35, 3) := by decide +kernel
theorem dX0_mostUrgent_21 : decode cX0_mostUrgent 21 = .ok (.aload_n 0, 1) := by decide +kernel
theorem dX0_mostUrgent_22 : decode cX0_mostUrgent 22 = .ok (.iload_n 2, 1) := by decide +kernel
theorem dX0_mostUrgent_23 : decode cX0_mostUrgent 23 = .ok (.invokevirtual 145, 3) := by decide +kernel
theorem dX0_mostUrgent_26 : decode cX0_mostUrgent 26 = .ok (.ifCond .ne 6, 3) := by decide +kernel
theorem dX0_mostUrgent_29 : decode cX0_mostUrgent 29 = .ok (.goto 24, 3) := by decide +kernel
theorem dX0_mostUrgent_32 : decode cX0_mostUrgent 32 = .ok (.iload_n 1, 1) := by decide +kernel
theorem dX0_mostUrgent_33 : decode cX0_mostUrgent 33 = .ok (.ifCond .lt 18, 3) := by decide +kernel
theorem dX0_mostUrgent_36 : decode cX0_mostUrgent 36 = .ok (.aload_n 0, 1) := by decide +kernel
theorem dX0_mostUrgent_37 : decode cX0_mostUrgent 37 = .ok (.getfield 41, 3) := by decide +kernel
theorem dX0_mostUrgent_40 : decode cX0_mostUrgent 40 = .ok (.iload_n 2, 1) := by decide +kernel
theorem dX0_mostUrgent_41 : decode cX0_mostUrgent 41 = .ok (.saload, 1) := by decide +kernel
theorem dX0_mostUrgent_42 : decode cX0_mostUrgent 42 = .ok (.aload_n 0, 1) := by decide +kernel
theorem dX0_mostUrgent_43 : decode cX0_mostUrgent 43 = .ok (.getfield 41, 3) := by decide +kernel
theorem dX0_mostUrgent_46 : decode cX0_mostUrgent 46 = .ok (.iload_n 1, 1) := by decide +kernel
theorem dX0_mostUrgent_47 : decode cX0_mostUrgent 47 = .ok (.saload, 1) := by decide +kernel
theorem dX0_mostUrgent_48 : decode cX0_mostUrgent 48 = .ok (.if_icmp .le 5, 3) := by decide +kernel
theorem dX0_mostUrgent_51 : decode cX0_mostUrgent 51 = .ok (.iload_n 2, 1) := by decide +kernel
theorem dX0_mostUrgent_52 : decode cX0_mostUrgent 52 = .ok (.istore_n 1, 1) := by decide +kernel
theorem dX0_mostUrgent_53 : decode cX0_mostUrgent 53 = .ok (.iinc 2 1, 3) := by decide +kernel
theorem dX0_mostUrgent_56 : decode cX0_mostUrgent 56 = .ok (.goto (-52), 3) := by decide +kernel
theorem dX0_mostUrgent_59 : decode cX0_mostUrgent 59 = .ok (.iload_n 1, 1) := by decide +kernel
theorem dX0_mostUrgent_60 : decode cX0_mostUrgent 60 = .ok (.ireturn, 1) := by decide +kernel
theorem dX0_isFree_0 : decode cX0_isFree 0 = .ok (.iconst 0, 1) := by decide +kernel
theorem dX0_isFree_1 : decode cX0_isFree 1 = .ok (.istore_n 2, 1) := by decide +kernel
theorem dX0_isFree_2 : decode cX0_isFree 2 = .ok (.iload_n 2, 1) := by decide +kernel
theorem dX0_isFree_3 : decode cX0_isFree 3 = .ok (.iload_n 1, 1) := by decide +kernel
theorem dX0_isFree_4 : decode cX0_isFree 4 = .ok (.if_icmp .ge 29, 3) := by decide +kernel
theorem dX0_isFree_7 : decode cX0_isFree 7 = .ok (.aload_n 0, 1) := by decide +kernel
theorem dX0_isFree_8 : decode cX0_isFree 8 = .ok (.getfield 45, 3) := by decide +kernel
theorem dX0_isFree_11 : decode cX0_isFree 11 = .ok (.iload_n 2, 1) := by decide +kernel
theorem dX0_isFree_12 : decode cX0_isFree 12 = .ok (.saload, 1) := by decide +kernel
theorem dX0_isFree_13 : decode cX0_isFree 13 = .ok (.ifCond .ge 14, 3) := by decide +kernel
theorem dX0_isFree_16 : decode cX0_isFree 16 = .ok (.aload_n 0, 1) := by decide +kernel
theorem dX0_isFree_17 : decode cX0_isFree 17 = .ok (.iload_n 2, 1) := by decide +kernel
theorem dX0_isFree_18 : decode cX0_isFree 18 = .ok (.iload_n 1, 1) := by decide +kernel
theorem dX0_isFree_19 : decode cX0_isFree 19 = .ok (.invokevirtual 132, 3) := by decide +kernel
theorem dX0_isFree_22 : decode cX0_isFree 22 = .ok (.ifCond .lt 5, 3) := by decide +kernel
theorem dX0_isFree_25 : decode cX0_isFree 25 = .ok (.iconst 0, 1) := by decide +kernel
theorem dX0_isFree_26 : decode cX0_isFree 26 = .ok (.ireturn, 1) := by decide +kernel
theorem dX0_isFree_27 : decode cX0_isFree 27 = .ok (.iinc 2 1, 3) := by decide +kernel
theorem dX0_isFree_30 : decode cX0_isFree 30 = .ok (.goto (-28), 3) := by decide +kernel
theorem dX0_isFree_33 : decode cX0_isFree 33 = .ok (.iconst 1, 1) := by decide +kernel
theorem dX0_isFree_34 : decode cX0_isFree 34 = .ok (.ireturn, 1) := by decide +kernel
end
section
set_option maxRecDepth 100000
theorem dX0_earliest_0 : decode cX0_earliest 0 = .ok (.iconst 0, 1) := by decide +kernel
theorem dX0_earliest_1 : decode cX0_earliest 1 = .ok (.istore_n 2, 1) := by decide +kernel
theorem dX0_earliest_2 : decode cX0_earliest 2 = .ok (.iconst 0, 1) := by decide +kernel
theorem dX0_earliest_3 : decode cX0_earliest 3 = .ok (.istore_n 3, 1) := by decide +kernel
theorem dX0_earliest_4 : decode cX0_earliest 4 = .ok (.iload_n 3, 1) := by decide +kernel
theorem dX0_earliest_5 : decode cX0_earliest 5 = .ok (.iload_n 1, 1) := by decide +kernel
theorem dX0_earliest_6 : decode cX0_earliest 6 = .ok (.if_icmp .ge 45, 3) := by decide +kernel
theorem dX0_earliest_9 : decode cX0_earliest 9 = .ok (.aload_n 0, 1) := by decide +kernel
theorem dX0_earliest_10 : decode cX0_earliest 10 = .ok (.iload_n 3, 1) := by decide +kernel
theorem dX0_earliest_11 : decode cX0_earliest 11 = .ok (.iload_n 1, 1) := by decide +kernel
theorem dX0_earliest_12 : decode cX0_earliest 12 = .ok (.invokevirtual 132, 3) := by decide +kernel
theorem dX0_earliest_15 : decode cX0_earliest 15 = .ok (.istore 4, 2) := by decide +kernel
theorem dX0_earliest_17 : decode cX0_earliest 17 = .ok (.iload 4, 2) := by decide +kernel
theorem dX0_earliest_19 : decode cX0_earliest 19 = .ok (.ifCond .lt 26, 3) := by decide +kernel
theorem dX0_earliest_22 : decode cX0_earliest 22 = .ok (.aload_n 0, 1) := by decide +kernel
theorem dX0_earliest_23 : decode cX0_earliest 23 = .ok (.getfield 45, 3) := by decide +kernel
theorem dX0_earliest_26 : decode cX0_earliest 26 = .ok (.iload_n 3, 1) := by decide +kernel
theorem dX0_earliest_27 : decode cX0_earliest 27 = .ok (.saload, 1) := by decide +kernel
theorem dX0_earliest_28 : decode cX0_earliest 28 = .ok (.iload 4, 2) := by decide +kernel
theorem dX0_earliest_30 : decode cX0_earliest 30 = .ok (.iadd, 1) := by decide +kernel
theorem dX0_earliest_31 : decode cX0_earliest 31 = .ok (.iload_n 2, 1) := by decide +kernel
theorem dX0_earliest_32 : decode cX0_earliest 32 = .ok (.if_icmp .le 13, 3) := by decide +kernel
theorem dX0_earliest_35 : decode cX0_earliest 35 = .ok (.aload_n 0, 1) := by decide +kernel
theorem dX0_earliest_36 : decode cX0_earliest 36 = .ok (.getfield 45, 3) := by decide +kernel
theorem dX0_earliest_39 : decode cX0_earliest 39 = .ok (.iload_n 3, 1) := by decide +kernel
theorem dX0_earliest_40 : decode cX0_earliest 40 = .ok (.saload, 1) := by decide +kernel
theorem dX0_earliest_41 : decode cX0_earliest 41 = .ok (.iload 4, 2) := by decide +kernel
theorem dX0_earliest_43 : decode cX0_earliest 43 = .ok (.iadd, 1) := by decide +kernel
theorem dX0_earliest_44 : decode cX0_earliest 44 = .ok (.istore_n 2, 1) := by decide +kernel
theorem dX0_earliest_45 : decode cX0_earliest 45 = .ok (.iinc 3 1, 3) := by decide +kernel
theorem dX0_earliest_48 : decode cX0_earliest 48 = .ok (.goto (-44), 3) := by decide +kernel
theorem dX0_earliest_51 : decode cX0_earliest 51 = .ok (.iload_n 2, 1) := by decide +kernel
theorem dX0_earliest_52 : decode cX0_earliest 52 = .ok (.ireturn, 1) := by decide +kernel
theorem dX0_unitOf_0 : decode cX0_unitOf 0 = .ok (.aload_n 0, 1) := by decide +kernel
theorem dX0_unitOf_1 : decode cX0_unitOf 1 = .ok (.getfield 23, 3) := by decide +kernel
theorem dX0_unitOf_4 : decode cX0_unitOf 4 = .ok (.iload_n 1, 1) := by decide +kernel
theorem dX0_unitOf_5 : decode cX0_unitOf 5 = .ok (.baload, 1) := by decide +kernel
theorem dX0_unitOf_6 : decode cX0_unitOf 6 = .ok (.bipush 9, 2) := by decide +kernel
theorem dX0_unitOf_8 : decode cX0_unitOf 8 = .ok (.if_icmp .ne 6, 3) := by decide +kernel
theorem dX0_unitOf_11 : decode cX0_unitOf 11 = .ok (.bipush 64, 2) := by decide +kernel
theorem dX0_unitOf_13 : decode cX0_unitOf 13 = .ok (.ireturn, 1) := by decide +kernel
theorem dX0_unitOf_14 : decode cX0_unitOf 14 = .ok (.aload_n 0, 1) := by decide +kernel
theorem dX0_unitOf_15 : decode cX0_unitOf 15 = .ok (.iload_n 1, 1) := by decide +kernel
theorem dX0_unitOf_16 : decode cX0_unitOf 16 = .ok (.invokevirtual 117, 3) := by decide +kernel
theorem dX0_unitOf_19 : decode cX0_unitOf 19 = .ok (.ifCond .eq 7, 3) := by decide +kernel
theorem dX0_unitOf_22 : decode cX0_unitOf 22 = .ok (.iconst 0, 1) := by decide +kernel
theorem dX0_unitOf_23 : decode cX0_unitOf 23 = .ok (.goto 18, 3) := by decide +kernel
theorem dX0_unitOf_26 : decode cX0_unitOf 26 = .ok (.aload_n 0, 1) := by decide +kernel
theorem dX0_unitOf_27 : decode cX0_unitOf 27 = .ok (.getfield 23, 3) := by decide +kernel
theorem dX0_unitOf_30 : decode cX0_unitOf 30 = .ok (.iload_n 1, 1) := by decide +kernel
theorem dX0_unitOf_31 : decode cX0_unitOf 31 = .ok (.baload, 1) := by decide +kernel
theorem dX0_unitOf_32 : decode cX0_unitOf 32 = .ok (.iconst 2, 1) := by decide +kernel
theorem dX0_unitOf_33 : decode cX0_unitOf 33 = .ok (.if_icmp .ne 7, 3) := by decide +kernel
theorem dX0_unitOf_36 : decode cX0_unitOf 36 = .ok (.iconst 1, 1) := by decide +kernel
theorem dX0_unitOf_37 : decode cX0_unitOf 37 = .ok (.goto 4, 3) := by decide +kernel
theorem dX0_unitOf_40 : decode cX0_unitOf 40 = .ok (.iconst 2, 1) := by decide +kernel
theorem dX0_unitOf_41 : decode cX0_unitOf 41 = .ok (.istore_n 2, 1) := by decide +kernel
theorem dX0_unitOf_42 : decode cX0_unitOf 42 = .ok (.iconst 1, 1) := by decide +kernel
theorem dX0_unitOf_43 : decode cX0_unitOf 43 = .ok (.iconst 3, 1) := by decide +kernel
theorem dX0_unitOf_44 : decode cX0_unitOf 44 = .ok (.aload_n 0, 1) := by decide +kernel
theorem dX0_unitOf_45 : decode cX0_unitOf 45 = .ok (.aload_n 0, 1) := by decide +kernel
theorem dX0_unitOf_46 : decode cX0_unitOf 46 = .ok (.getfield 26, 3) := by decide +kernel
theorem dX0_unitOf_49 : decode cX0_unitOf 49 = .ok (.iload_n 1, 1) := by decide +kernel
theorem dX0_unitOf_50 : decode cX0_unitOf 50 = .ok (.baload, 1) := by decide +kernel
theorem dX0_unitOf_51 : decode cX0_unitOf 51 = .ok (.invokevirtual 103, 3) := by decide +kernel
theorem dX0_unitOf_54 : decode cX0_unitOf 54 = .ok (.imul, 1) := by decide +kernel
theorem dX0_unitOf_55 : decode cX0_unitOf 55 = .ok (.iload_n 2, 1) := by decide +kernel
theorem dX0_unitOf_56 : decode cX0_unitOf 56 = .ok (.iadd, 1) := by decide +kernel
theorem dX0_unitOf_57 : decode cX0_unitOf 57 = .ok (.ishl, 1) := by decide +kernel
theorem dX0_unitOf_58 : decode cX0_unitOf 58 = .ok (.ireturn, 1) := by decide +kernel
theorem dX0_encode_0 : decode cX0_encode 0 = .ok (.iconst (-1), 1) := by decide +kernel
theorem dX0_encode_1 : decode cX0_encode 1 = .ok (.istore_n 1, 1) := by decide +kernel
theorem dX0_encode_2 : decode cX0_encode 2 = .ok (.iconst 0, 1) := by decide +kernel
theorem dX0_encode_3 : decode cX0_encode 3 = .ok (.istore_n 2, 1) := by decide +kernel
theorem dX0_encode_4 : decode cX0_encode 4 = .ok (.iload_n 2, 1) := by decide +kernel
theorem dX0_encode_5 : decode cX0_encode 5 = .ok (.aload_n 0, 1) := by decide +kernel
theorem dX0_encode_6 : decode cX0_encode 6 = .ok (.getfield 100, 3) := by decide +kernel
theorem dX0_encode_9 : decode cX0_encode 9 = .ok (.if_icmp .ge 26, 3) := by decide +kernel
theorem dX0_encode_12 : decode cX0_encode 12 = .ok (.aload_n 0, 1) := by decide +kernel
theorem dX0_encode_13 : decode cX0_encode 13 = .ok (.getfield 45, 3) := by decide +kernel
theorem dX0_encode_16 : decode cX0_encode 16 = .ok (.iload_n 2, 1) := by decide +kernel
theorem dX0_encode_17 : decode cX0_encode 17 = .ok (.saload, 1) := by decide +kernel
theorem dX0_encode_18 : decode cX0_encode 18 = .ok (.iload_n 1, 1) := by decide +kernel
theorem dX0_encode_19 : decode cX0_encode 19 = .ok (.if_icmp .le 10, 3) := by decide +kernel
theorem dX0_encode_22 : decode cX0_encode 22 = .ok (.aload_n 0, 1) := by decide +kernel
theorem dX0_encode_23 : decode cX0_encode 23 = .ok (.getfield 45, 3) := by decide +kernel
theorem dX0_encode_26 : decode cX0_encode 26 = .ok (.iload_n 2, 1) := by decide +kernel
theorem dX0_encode_27 : decode cX0_encode 27 = .ok (.saload, 1) := by decide +kernel
theorem dX0_encode_28 : decode cX0_encode 28 = .ok (.istore_n 1, 1) := by decide +kernel
theorem dX0_encode_29 : decode cX0_encode 29 = .ok (.iinc 2 1, 3) := by decide +kernel
theorem dX0_encode_32 : decode cX0_encode 32 = .ok (.goto (-28), 3) := by decide +kernel
theorem dX0_encode_35 : decode cX0_encode 35 = .ok (.aload_n 0, 1) := by decide +kernel
theorem dX0_encode_36 : decode cX0_encode 36 = .ok (.iconst 0, 1) := by decide +kernel
theorem dX0_encode_37 : decode cX0_encode 37 = .ok (.putfield 149, 3) := by decide +kernel
theorem dX0_encode_40 : decode cX0_encode 40 = .ok (.iconst 0, 1) := by decide +kernel
theorem dX0_encode_41 : decode cX0_encode 41 = .ok (.istore_n 2, 1) := by decide +kernel
theorem dX0_encode_42 : decode cX0_encode 42 = .ok (.iload_n 2, 1) := by decide +kernel
theorem dX0_encode_43 : decode cX0_encode 43 = .ok (.iload_n 1, 1) := by decide +kernel
theorem dX0_encode_44 : decode cX0_encode 44 = .ok (.if_icmp .gt 115, 3) := by decide +kernel
theorem dX0_encode_47 : decode cX0_encode 47 = .ok (.aload_n 0, 1) := by decide +kernel
theorem dX0_encode_48 : decode cX0_encode 48 = .ok (.getfield 149, 3) := by decide +kernel
theorem dX0_encode_51 : decode cX0_encode 51 = .ok (.istore_n 3, 1) := by decide +kernel
theorem dX0_encode_52 : decode cX0_encode 52 = .ok (.iconst 0, 1) := by decide +kernel
theorem dX0_encode_53 : decode cX0_encode 53 = .ok (.istore 4, 2) := by decide +kernel
theorem dX0_encode_55 : decode cX0_encode 55 = .ok (.iload 4, 2) := by decide +kernel
theorem dX0_encode_57 : decode cX0_encode 57 = .ok (.aload_n 0, 1) := by decide +kernel
theorem dX0_encode_58 : decode cX0_encode 58 = .ok (.getfield 100, 3) := by decide +kernel
theorem dX0_encode_61 : decode cX0_encode 61 = .ok (.if_icmp .ge 48, 3) := by decide +kernel
theorem dX0_encode_64 : decode cX0_encode 64 = .ok (.aload_n 0, 1) := by decide +kernel
theorem dX0_encode_65 : decode cX0_encode 65 = .ok (.getfield 45, 3) := by decide +kernel
theorem dX0_encode_68 : decode cX0_encode 68 = .ok (.iload 4, 2) := by decide +kernel
theorem dX0_encode_70 : decode cX0_encode 70 = .ok (.saload, 1) := by decide +kernel
theorem dX0_encode_71 : decode cX0_encode 71 = .ok (.iload_n 2, 1) := by decide +kernel
theorem dX0_encode_72 : decode cX0_encode 72 = .ok (.if_icmp .eq 6, 3) := by decide +kernel
theorem dX0_encode_75 : decode cX0_encode 75 = .ok (.goto 28, 3) := by decide +kernel
theorem dX0_encode_78 : decode cX0_encode 78 = .ok (.aload_n 0, 1) := by decide +kernel
theorem dX0_encode_79 : decode cX0_encode 79 = .ok (.getfield 51, 3) := by decide +kernel
theorem dX0_encode_82 : decode cX0_encode 82 = .ok (.aload_n 0, 1) := by decide +kernel
theorem dX0_encode_83 : decode cX0_encode 83 = .ok (.getfield 149, 3) := by decide +kernel
theorem dX0_encode_86 : decode cX0_encode 86 = .ok (.aload_n 0, 1) := by decide +kernel
theorem dX0_encode_87 : decode cX0_encode 87 = .ok (.iload 4, 2) := by decide +kernel
theorem dX0_encode_89 : decode cX0_encode 89 = .ok (.invokevirtual 152, 3) := by decide +kernel
theorem dX0_encode_92 : decode cX0_encode 92 = .ok (.iastore, 1) := by decide +kernel
theorem dX0_encode_93 : decode cX0_encode 93 = .ok (.aload_n 0, 1) := by decide +kernel
theorem dX0_encode_94 : decode cX0_encode 94 = .ok (.dup, 1) := by decide +kernel
theorem dX0_encode_95 : decode cX0_encode 95 = .ok (.getfield 149, 3) := by decide +kernel
theorem dX0_encode_98 : decode cX0_encode 98 = .ok (.iconst 1, 1) := by decide +kernel
theorem dX0_encode_99 : decode cX0_encode 99 = .ok (.iadd, 1) := by decide +kernel
theorem dX0_encode_100 : decode cX0_encode 100 = .ok (.putfield 149, 3) := by decide +kernel
theorem dX0_encode_103 : decode cX0_encode 103 = .ok (.iinc 4 1, 3) := by decide +kernel
theorem dX0_encode_106 : decode cX0_encode 106 = .ok (.goto (-51), 3) := by decide +kernel
theorem dX0_encode_109 : decode cX0_encode 109 = .ok (.aload_n 0, 1) := by decide +kernel
theorem dX0_encode_110 : decode cX0_encode 110 = .ok (.getfield 149, 3) := by decide +kernel
theorem dX0_encode_113 : decode cX0_encode 113 = .ok (.iload_n 3, 1) := by decide +kernel
theorem dX0_encode_114 : decode cX0_encode 114 = .ok (.if_icmp .ne 23, 3) := by decide +kernel
theorem dX0_encode_117 : decode cX0_encode 117 = .ok (.aload_n 0, 1) := by decide +kernel
theorem dX0_encode_118 : decode cX0_encode 118 = .ok (.getfield 51, 3) := by decide +kernel
theorem dX0_encode_121 : decode cX0_encode 121 = .ok (.aload_n 0, 1) := by decide +kernel
theorem dX0_encode_122 : decode cX0_encode 122 = .ok (.getfield 149, 3) := by decide +kernel
theorem dX0_encode_125 : decode cX0_encode 125 = .ok (.iconst 0, 1) := by decide +kernel
theorem dX0_encode_126 : decode cX0_encode 126 = .ok (.iastore, 1) := by decide +kernel
theorem dX0_encode_127 : decode cX0_encode 127 = .ok (.aload_n 0, 1) := by decide +kernel
theorem dX0_encode_128 : decode cX0_encode 128 = .ok (.dup, 1) := by decide +kernel
theorem dX0_encode_129 : decode cX0_encode 129 = .ok (.getfield 149, 3) := by decide +kernel
theorem dX0_encode_132 : decode cX0_encode 132 = .ok (.iconst 1, 1) := by decide +kernel
theorem dX0_encode_133 : decode cX0_encode 133 = .ok (.iadd, 1) := by decide +kernel
theorem dX0_encode_134 : decode cX0_encode 134 = .ok (.putfield 149, 3) := by decide +kernel
theorem dX0_encode_137 : decode cX0_encode 137 = .ok (.aload_n 0, 1) := by decide +kernel
theorem dX0_encode_138 : decode cX0_encode 138 = .ok (.getfield 51, 3) := by decide +kernel
theorem dX0_encode_141 : decode cX0_encode 141 = .ok (.aload_n 0, 1) := by decide +kernel
theorem dX0_encode_142 : decode cX0_encode 142 = .ok (.getfield 149, 3) := by decide +kernel
theorem dX0_encode_145 : decode cX0_encode 145 = .ok (.iconst 1, 1) := by decide +kernel
theorem dX0_encode_146 : decode cX0_encode 146 = .ok (.isub, 1) := by decide +kernel
theorem dX0_encode_147 : decode cX0_encode 147 = .ok (.dup2, 1) := by decide +kernel
theorem dX0_encode_148 : decode cX0_encode 148 = .ok (.iaload, 1) := by decide +kernel
theorem dX0_encode_149 : decode cX0_encode 149 = .ok (.ldc 155, 2) := by decide +kernel
theorem dX0_encode_151 : decode cX0_encode 151 = .ok (.ior, 1) := by decide +kernel
theorem dX0_encode_152 : decode cX0_encode 152 = .ok (.iastore, 1) := by decide +kernel
theorem dX0_encode_153 : decode cX0_encode 153 = .ok (.iinc 2 1, 3) := by decide +kernel
theorem dX0_encode_156 : decode cX0_encode 156 = .ok (.goto (-114), 3) := by decide +kernel
theorem dX0_encode_159 : decode cX0_encode 159 = .ok (.return_, 1) := by decide +kernel
theorem dX0_encoded_0 : decode cX0_encoded 0 = .ok (.aload_n 0, 1) := by decide +kernel
theorem dX0_encoded_1 : decode cX0_encoded 1 = .ok (.getfield 23, 3) := by decide +kernel
theorem dX0_encoded_4 : decode cX0_encoded 4 = .ok (.iload_n 1, 1) := by decide +kernel
theorem dX0_encoded_5 : decode cX0_encoded 5 = .ok (.baload, 1) := by decide +kernel
theorem dX0_encoded_6 : decode cX0_encoded 6 = .ok (.aload_n 0, 1) := by decide +kernel
theorem dX0_encoded_7 : decode cX0_encoded 7 = .ok (.getfield 26, 3) := by decide +kernel
theorem dX0_encoded_10 : decode cX0_encoded 10 = .ok (.iload_n 1, 1) := by decide +kernel
theorem dX0_encoded_11 : decode cX0_encoded 11 = .ok (.baload, 1) := by decide +kernel
theorem dX0_encoded_12 : decode cX0_encoded 12 = .ok (.iconst 4, 1) := by decide +kernel
theorem dX0_encoded_13 : decode cX0_encoded 13 = .ok (.ishl, 1) := by decide +kernel
theorem dX0_encoded_14 : decode cX0_encoded 14 = .ok (.ior, 1) := by decide +kernel
theorem dX0_encoded_15 : decode cX0_encoded 15 = .ok (.aload_n 0, 1) := by decide +kernel
theorem dX0_encoded_16 : decode cX0_encoded 16 = .ok (.getfield 29, 3) := by decide +kernel
theorem dX0_encoded_19 : decode cX0_encoded 19 = .ok (.iload_n 1, 1) := by decide +kernel
theorem dX0_encoded_20 : decode cX0_encoded 20 = .ok (.baload, 1) := by decide +kernel
theorem dX0_encoded_21 : decode cX0_encoded 21 = .ok (.bipush 8, 2) := by decide +kernel
theorem dX0_encoded_23 : decode cX0_encoded 23 = .ok (.ishl, 1) := by decide +kernel
theorem dX0_encoded_24 : decode cX0_encoded 24 = .ok (.ior, 1) := by decide +kernel
theorem dX0_encoded_25 : decode cX0_encoded 25 = .ok (.aload_n 0, 1) := by decide +kernel
theorem dX0_encoded_26 : decode cX0_encoded 26 = .ok (.getfield 32, 3) := by decide +kernel
theorem dX0_encoded_29 : decode cX0_encoded 29 = .ok (.iload_n 1, 1) := by decide +kernel
theorem dX0_encoded_30 : decode cX0_encoded 30 = .ok (.baload, 1) := by decide +kernel
theorem dX0_encoded_31 : decode cX0_encoded 31 = .ok (.bipush 12, 2) := by decide +kernel
theorem dX0_encoded_33 : decode cX0_encoded 33 = .ok (.ishl, 1) := by decide +kernel
theorem dX0_encoded_34 : decode cX0_encoded 34 = .ok (.ior, 1) := by decide +kernel
theorem dX0_encoded_35 : decode cX0_encoded 35 = .ok (.aload_n 0, 1) := by decide +kernel
theorem dX0_encoded_36 : decode cX0_encoded 36 = .ok (.getfield 35, 3) := by decide +kernel
theorem dX0_encoded_39 : decode cX0_encoded 39 = .ok (.iload_n 1, 1) := by decide +kernel
theorem dX0_encoded_40 : decode cX0_encoded 40 = .ok (.baload, 1) := by decide +kernel
theorem dX0_encoded_41 : decode cX0_encoded 41 = .ok (.bipush 16, 2) := by decide +kernel
theorem dX0_encoded_43 : decode cX0_encoded 43 = .ok (.ishl, 1) := by decide +kernel
theorem dX0_encoded_44 : decode cX0_encoded 44 = .ok (.ior, 1) := by decide +kernel
theorem dX0_encoded_45 : decode cX0_encoded 45 = .ok (.ldc 148, 2) := by decide +kernel
theorem dX0_encoded_47 : decode cX0_encoded 47 = .ok (.ior, 1) := by decide +kernel
theorem dX0_encoded_48 : decode cX0_encoded 48 = .ok (.ireturn, 1) := by decide +kernel
theorem dX0_execute_0 : decode cX0_execute 0 = .ok (.aload_n 0, 1) := by decide +kernel
theorem dX0_execute_1 : decode cX0_execute 1 = .ok (.iconst 0, 1) := by decide +kernel
theorem dX0_execute_2 : decode cX0_execute 2 = .ok (.putfield 156, 3) := by decide +kernel
theorem dX0_execute_5 : decode cX0_execute 5 = .ok (.aload_n 0, 1) := by decide +kernel
theorem dX0_execute_6 : decode cX0_execute 6 = .ok (.iconst 0, 1) := by decide +kernel
theorem dX0_execute_7 : decode cX0_execute 7 = .ok (.putfield 159, 3) := by decide +kernel
theorem dX0_execute_10 : decode cX0_execute 10 = .ok (.iconst 0, 1) := by decide +kernel
theorem dX0_execute_11 : decode cX0_execute 11 = .ok (.istore_n 1, 1) := by decide +kernel
theorem dX0_execute_12 : decode cX0_execute 12 = .ok (.iload_n 1, 1) := by decide +kernel
theorem dX0_execute_13 : decode cX0_execute 13 = .ok (.aload_n 0, 1) := by decide +kernel
theorem dX0_execute_14 : decode cX0_execute 14 = .ok (.getfield 149, 3) := by decide +kernel
theorem dX0_execute_17 : decode cX0_execute 17 = .ok (.if_icmp .ge 81, 3) := by decide +kernel
theorem dX0_execute_20 : decode cX0_execute 20 = .ok (.iload_n 1, 1) := by decide +kernel
theorem dX0_execute_21 : decode cX0_execute 21 = .ok (.ifCond .eq 14, 3) := by decide +kernel
theorem dX0_execute_24 : decode cX0_execute 24 = .ok (.aload_n 0, 1) := by decide +kernel
theorem dX0_execute_25 : decode cX0_execute 25 = .ok (.getfield 51, 3) := by decide +kernel
theorem dX0_execute_28 : decode cX0_execute 28 = .ok (.iload_n 1, 1) := by decide +kernel
theorem dX0_execute_29 : decode cX0_execute 29 = .ok (.iconst 1, 1) := by decide +kernel
theorem dX0_execute_30 : decode cX0_execute 30 = .ok (.isub, 1) := by decide +kernel
theorem dX0_execute_31 : decode cX0_execute 31 = .ok (.iaload, 1) := by decide +kernel
theorem dX0_execute_32 : decode cX0_execute 32 = .ok (.ifCond .ge 7, 3) := by decide +kernel
theorem dX0_execute_35 : decode cX0_execute 35 = .ok (.iconst 1, 1) := by decide +kernel
theorem dX0_execute_36 : decode cX0_execute 36 = .ok (.goto 4, 3) := by decide +kernel
theorem dX0_execute_39 : decode cX0_execute 39 = .ok (.iconst 0, 1) := by decide +kernel
theorem dX0_execute_40 : decode cX0_execute 40 = .ok (.istore_n 2, 1) := by decide +kernel
theorem dX0_execute_41 : decode cX0_execute 41 = .ok (.iload_n 2, 1) := by decide +kernel
theorem dX0_execute_42 : decode cX0_execute 42 = .ok (.ifCond .eq 7, 3) := by decide +kernel
theorem dX0_execute_45 : decode cX0_execute 45 = .ok (.aload_n 0, 1) := by decide +kernel
theorem dX0_execute_46 : decode cX0_execute 46 = .ok (.invokevirtual 162, 3) := by decide +kernel
theorem dX0_execute_49 : decode cX0_execute 49 = .ok (.aload_n 0, 1) := by decide +kernel
theorem dX0_execute_50 : decode cX0_execute 50 = .ok (.getfield 51, 3) := by decide +kernel
theorem dX0_execute_53 : decode cX0_execute 53 = .ok (.iload_n 1, 1) := by decide +kernel
theorem dX0_execute_54 : decode cX0_execute 54 = .ok (.iaload, 1) := by decide +kernel
theorem dX0_execute_55 : decode cX0_execute 55 = .ok (.bipush 30, 2) := by decide +kernel
theorem dX0_execute_57 : decode cX0_execute 57 = .ok (.ishr, 1) := by decide +kernel
theorem dX0_execute_58 : decode cX0_execute 58 = .ok (.iconst 1, 1) := by decide +kernel
theorem dX0_execute_59 : decode cX0_execute 59 = .ok (.iand, 1) := by decide +kernel
theorem dX0_execute_60 : decode cX0_execute 60 = .ok (.ifCond .eq 13, 3) := by decide +kernel
theorem dX0_execute_63 : decode cX0_execute 63 = .ok (.aload_n 0, 1) := by decide +kernel
theorem dX0_execute_64 : decode cX0_execute 64 = .ok (.aload_n 0, 1) := by decide +kernel
theorem dX0_execute_65 : decode cX0_execute 65 = .ok (.getfield 51, 3) := by decide +kernel
theorem dX0_execute_68 : decode cX0_execute 68 = .ok (.iload_n 1, 1) := by decide +kernel
theorem dX0_execute_69 : decode cX0_execute 69 = .ok (.iaload, 1) := by decide +kernel
theorem dX0_execute_70 : decode cX0_execute 70 = .ok (.invokevirtual 165, 3) := by decide +kernel
theorem dX0_execute_73 : decode cX0_execute 73 = .ok (.aload_n 0, 1) := by decide +kernel
theorem dX0_execute_74 : decode cX0_execute 74 = .ok (.getfield 51, 3) := by decide +kernel
theorem dX0_execute_77 : decode cX0_execute 77 = .ok (.iload_n 1, 1) := by decide +kernel
theorem dX0_execute_78 : decode cX0_execute 78 = .ok (.iaload, 1) := by decide +kernel
theorem dX0_execute_79 : decode cX0_execute 79 = .ok (.ifCond .ge 13, 3) := by decide +kernel
theorem dX0_execute_82 : decode cX0_execute 82 = .ok (.aload_n 0, 1) := by decide +kernel
theorem dX0_execute_83 : decode cX0_execute 83 = .ok (.dup, 1) := by decide +kernel
theorem dX0_execute_84 : decode cX0_execute 84 = .ok (.getfield 159, 3) := by decide +kernel
theorem dX0_execute_87 : decode cX0_execute 87 = .ok (.iconst 1, 1) := by decide +kernel
theorem dX0_execute_88 : decode cX0_execute 88 = .ok (.iadd, 1) := by decide +kernel
theorem dX0_execute_89 : decode cX0_execute 89 = .ok (.putfield 159, 3) := by decide +kernel
theorem dX0_execute_92 : decode cX0_execute 92 = .ok (.iinc 1 1, 3) := by decide +kernel
theorem dX0_execute_95 : decode cX0_execute 95 = .ok (.goto (-83), 3) := by decide +kernel
theorem dX0_execute_98 : decode cX0_execute 98 = .ok (.iconst 0, 1) := by decide +kernel
theorem dX0_execute_99 : decode cX0_execute 99 = .ok (.istore_n 1, 1) := by decide +kernel
theorem dX0_execute_100 : decode cX0_execute 100 = .ok (.iload_n 1, 1) := by decide +kernel
theorem dX0_execute_101 : decode cX0_execute 101 = .ok (.iconst 4, 1) := by decide +kernel
theorem dX0_execute_102 : decode cX0_execute 102 = .ok (.if_icmp .ge 23, 3) := by decide +kernel
theorem dX0_execute_105 : decode cX0_execute 105 = .ok (.aload_n 0, 1) := by decide +kernel
theorem dX0_execute_106 : decode cX0_execute 106 = .ok (.invokevirtual 162, 3) := by decide +kernel
theorem dX0_execute_109 : decode cX0_execute 109 = .ok (.aload_n 0, 1) := by decide +kernel
theorem dX0_execute_110 : decode cX0_execute 110 = .ok (.dup, 1) := by decide +kernel
theorem dX0_execute_111 : decode cX0_execute 111 = .ok (.getfield 159, 3) := by decide +kernel
theorem dX0_execute_114 : decode cX0_execute 114 = .ok (.iconst 1, 1) := by decide +kernel
theorem dX0_execute_115 : decode cX0_execute 115 = .ok (.iadd, 1) := by decide +kernel
theorem dX0_execute_116 : decode cX0_execute 116 = .ok (.putfield 159, 3) := by decide +kernel
theorem dX0_execute_119 : decode cX0_execute 119 = .ok (.iinc 1 1, 3) := by decide +kernel
theorem dX0_execute_122 : decode cX0_execute 122 = .ok (.goto (-22), 3) := by decide +kernel
theorem dX0_execute_125 : decode cX0_execute 125 = .ok (.return_, 1) := by decide +kernel
theorem dX0_landResults_0 : decode cX0_landResults 0 = .ok (.iconst 0, 1) := by decide +kernel
theorem dX0_landResults_1 : decode cX0_landResults 1 = .ok (.istore_n 1, 1) := by decide +kernel
theorem dX0_landResults_2 : decode cX0_landResults 2 = .ok (.iconst 0, 1) := by decide +kernel
theorem dX0_landResults_3 : decode cX0_landResults 3 = .ok (.istore_n 2, 1) := by decide +kernel
theorem dX0_landResults_4 : decode cX0_landResults 4 = .ok (.iload_n 2, 1) := by decide +kernel
theorem dX0_landResults_5 : decode cX0_landResults 5 = .ok (.aload_n 0, 1) := by decide +kernel
theorem dX0_landResults_6 : decode cX0_landResults 6 = .ok (.getfield 156, 3) := by decide +kernel
theorem dX0_landResults_9 : decode cX0_landResults 9 = .ok (.if_icmp .ge 115, 3) := by decide +kernel
theorem dX0_landResults_12 : decode cX0_landResults 12 = .ok (.aload_n 0, 1) := by decide +kernel
theorem dX0_landResults_13 : decode cX0_landResults 13 = .ok (.getfield 66, 3) := by decide +kernel
theorem dX0_landResults_16 : decode cX0_landResults 16 = .ok (.iload_n 2, 1) := by decide +kernel
theorem dX0_landResults_17 : decode cX0_landResults 17 = .ok (.saload, 1) := by decide +kernel
theorem dX0_landResults_18 : decode cX0_landResults 18 = .ok (.aload_n 0, 1) := by decide +kernel
theorem dX0_landResults_19 : decode cX0_landResults 19 = .ok (.getfield 159, 3) := by decide +kernel
theorem dX0_landResults_22 : decode cX0_landResults 22 = .ok (.if_icmp .le 45, 3) := by decide +kernel
theorem dX0_landResults_25 : decode cX0_landResults 25 = .ok (.aload_n 0, 1) := by decide +kernel
theorem dX0_landResults_26 : decode cX0_landResults 26 = .ok (.getfield 60, 3) := by decide +kernel
theorem dX0_landResults_29 : decode cX0_landResults 29 = .ok (.iload_n 1, 1) := by decide +kernel
theorem dX0_landResults_30 : decode cX0_landResults 30 = .ok (.aload_n 0, 1) := by decide +kernel
theorem dX0_landResults_31 : decode cX0_landResults 31 = .ok (.getfield 60, 3) := by decide +kernel
theorem dX0_landResults_34 : decode cX0_landResults 34 = .ok (.iload_n 2, 1) := by decide +kernel
theorem dX0_landResults_35 : decode cX0_landResults 35 = .ok (.baload, 1) := by decide +kernel
theorem dX0_landResults_36 : decode cX0_landResults 36 = .ok (.bastore, 1) := by decide +kernel
theorem dX0_landResults_37 : decode cX0_landResults 37 = .ok (.aload_n 0, 1) := by decide +kernel
theorem dX0_landResults_38 : decode cX0_landResults 38 = .ok (.getfield 63, 3) := by decide +kernel
theorem dX0_landResults_41 : decode cX0_landResults 41 = .ok (.iload_n 1, 1) := by decide +kernel
theorem dX0_landResults_42 : decode cX0_landResults 42 = .ok (.aload_n 0, 1) := by decide +kernel
theorem dX0_landResults_43 : decode cX0_landResults 43 = .ok (.getfield 63, 3) := by decide +kernel
theorem dX0_landResults_46 : decode cX0_landResults 46 = .ok (.iload_n 2, 1) := by decide +kernel
theorem dX0_landResults_47 : decode cX0_landResults 47 = .ok (.iaload, 1) := by decide +kernel
theorem dX0_landResults_48 : decode cX0_landResults 48 = .ok (.iastore, 1) := by decide +kernel
theorem dX0_landResults_49 : decode cX0_landResults 49 = .ok (.aload_n 0, 1) := by decide +kernel
theorem dX0_landResults_50 : decode cX0_landResults 50 = .ok (.getfield 66, 3) := by decide +kernel
theorem dX0_landResults_53 : decode cX0_landResults 53 = .ok (.iload_n 1, 1) := by decide +kernel
theorem dX0_landResults_54 : decode cX0_landResults 54 = .ok (.aload_n 0, 1) := by decide +kernel
theorem dX0_landResults_55 : decode cX0_landResults 55 = .ok (.getfield 66, 3) := by decide +kernel
theorem dX0_landResults_58 : decode cX0_landResults 58 = .ok (.iload_n 2, 1) := by decide +kernel
theorem dX0_landResults_59 : decode cX0_landResults 59 = .ok (.saload, 1) := by decide +kernel
theorem dX0_landResults_60 : decode cX0_landResults 60 = .ok (.sastore, 1) := by decide +kernel
theorem dX0_landResults_61 : decode cX0_landResults 61 = .ok (.iinc 1 1, 3) := by decide +kernel
theorem dX0_landResults_64 : decode cX0_landResults 64 = .ok (.goto 54, 3) := by decide +kernel
theorem dX0_landResults_67 : decode cX0_landResults 67 = .ok (.aload_n 0, 1) := by decide +kernel
theorem dX0_landResults_68 : decode cX0_landResults 68 = .ok (.getfield 60, 3) := by decide +kernel
theorem dX0_landResults_71 : decode cX0_landResults 71 = .ok (.iload_n 2, 1) := by decide +kernel
theorem dX0_landResults_72 : decode cX0_landResults 72 = .ok (.baload, 1) := by decide +kernel
theorem dX0_landResults_73 : decode cX0_landResults 73 = .ok (.bipush 16, 2) := by decide +kernel
theorem dX0_landResults_75 : decode cX0_landResults 75 = .ok (.if_icmp .lt 26, 3) := by decide +kernel
theorem dX0_landResults_78 : decode cX0_landResults 78 = .ok (.aload_n 0, 1) := by decide +kernel
theorem dX0_landResults_79 : decode cX0_landResults 79 = .ok (.getfield 57, 3) := by decide +kernel
theorem dX0_landResults_82 : decode cX0_landResults 82 = .ok (.aload_n 0, 1) := by decide +kernel
theorem dX0_landResults_83 : decode cX0_landResults 83 = .ok (.getfield 60, 3) := by decide +kernel
theorem dX0_landResults_86 : decode cX0_landResults 86 = .ok (.iload_n 2, 1) := by decide +kernel
theorem dX0_landResults_87 : decode cX0_landResults 87 = .ok (.baload, 1) := by decide +kernel
theorem dX0_landResults_88 : decode cX0_landResults 88 = .ok (.bipush 16, 2) := by decide +kernel
theorem dX0_landResults_90 : decode cX0_landResults 90 = .ok (.isub, 1) := by decide +kernel
theorem dX0_landResults_91 : decode cX0_landResults 91 = .ok (.aload_n 0, 1) := by decide +kernel
theorem dX0_landResults_92 : decode cX0_landResults 92 = .ok (.getfield 63, 3) := by decide +kernel
theorem dX0_landResults_95 : decode cX0_landResults 95 = .ok (.iload_n 2, 1) := by decide +kernel
theorem dX0_landResults_96 : decode cX0_landResults 96 = .ok (.iaload, 1) := by decide +kernel
theorem dX0_landResults_97 : decode cX0_landResults 97 = .ok (.iastore, 1) := by decide +kernel
theorem dX0_landResults_98 : decode cX0_landResults 98 = .ok (.goto 20, 3) := by decide +kernel
theorem dX0_landResults_101 : decode cX0_landResults 101 = .ok (.aload_n 0, 1) := by decide +kernel
theorem dX0_landResults_102 : decode cX0_landResults 102 = .ok (.getfield 54, 3) := by decide +kernel
theorem dX0_landResults_105 : decode cX0_landResults 105 = .ok (.aload_n 0, 1) := by decide +kernel
theorem dX0_landResults_106 : decode cX0_landResults 106 = .ok (.getfield 60, 3) := by decide +kernel
theorem dX0_landResults_109 : decode cX0_landResults 109 = .ok (.iload_n 2, 1) := by decide +kernel
theorem dX0_landResults_110 : decode cX0_landResults 110 = .ok (.baload, 1) := by decide +kernel
theorem dX0_landResults_111 : decode cX0_landResults 111 = .ok (.aload_n 0, 1) := by decide +kernel
theorem dX0_landResults_112 : decode cX0_landResults 112 = .ok (.getfield 63, 3) := by decide +kernel
theorem dX0_landResults_115 : decode cX0_landResults 115 = .ok (.iload_n 2, 1) := by decide +kernel
theorem dX0_landResults_116 : decode cX0_landResults 116 = .ok (.iaload, 1) := by decide +kernel
theorem dX0_landResults_117 : decode cX0_landResults 117 = .ok (.iastore, 1) := by decide +kernel
theorem dX0_landResults_118 : decode cX0_landResults 118 = .ok (.iinc 2 1, 3) := by decide +kernel
theorem dX0_landResults_121 : decode cX0_landResults 121 = .ok (.goto (-117), 3) := by decide +kernel
theorem dX0_landResults_124 : decode cX0_landResults 124 = .ok (.aload_n 0, 1) := by decide +kernel
theorem dX0_landResults_125 : decode cX0_landResults 125 = .ok (.iload_n 1, 1) := by decide +kernel
theorem dX0_landResults_126 : decode cX0_landResults 126 = .ok (.putfield 156, 3) := by decide +kernel
theorem dX0_landResults_129 : decode cX0_landResults 129 = .ok (.return_, 1) := by decide +kernel
end
section
set_option maxRecDepth 100000
theorem dX0_issue_0 : decode cX0_issue 0 = .ok (.iload_n 1, 1) := by decide +kernel
theorem dX0_issue_1 : decode cX0_issue 1 = .ok (.bipush 15, 2) := by decide +kernel
theorem dX0_issue_3 : decode cX0_issue 3 = .ok (.iand, 1) := by decide +kernel
theorem dX0_issue_4 : decode cX0_issue 4 = .ok (.istore_n 2, 1) := by decide +kernel
theorem dX0_issue_5 : decode cX0_issue 5 = .ok (.iload_n 1, 1) := by decide +kernel
theorem dX0_issue_6 : decode cX0_issue 6 = .ok (.iconst 4, 1) := by decide +kernel
theorem dX0_issue_7 : decode cX0_issue 7 = .ok (.ishr, 1) := by decide +kernel
theorem dX0_issue_8 : decode cX0_issue 8 = .ok (.bipush 15, 2) := by decide +kernel
theorem dX0_issue_10 : decode cX0_issue 10 = .ok (.iand, 1) := by decide +kernel
theorem dX0_issue_11 : decode cX0_issue 11 = .ok (.istore_n 3, 1) := by decide +kernel
theorem dX0_issue_12 : decode cX0_issue 12 = .ok (.aload_n 0, 1) := by decide +kernel
theorem dX0_issue_13 : decode cX0_issue 13 = .ok (.getfield 54, 3) := by decide +kernel
theorem dX0_issue_16 : decode cX0_issue 16 = .ok (.iload_n 1, 1) := by decide +kernel
theorem dX0_issue_17 : decode cX0_issue 17 = .ok (.bipush 8, 2) := by decide +kernel
theorem dX0_issue_19 : decode cX0_issue 19 = .ok (.ishr, 1) := by decide +kernel
theorem dX0_issue_20 : decode cX0_issue 20 = .ok (.bipush 15, 2) := by decide +kernel
theorem dX0_issue_22 : decode cX0_issue 22 = .ok (.iand, 1) := by decide +kernel
theorem dX0_issue_23 : decode cX0_issue 23 = .ok (.iaload, 1) := by decide +kernel
theorem dX0_issue_24 : decode cX0_issue 24 = .ok (.istore 4, 2) := by decide +kernel
theorem dX0_issue_26 : decode cX0_issue 26 = .ok (.aload_n 0, 1) := by decide +kernel
theorem dX0_issue_27 : decode cX0_issue 27 = .ok (.getfield 54, 3) := by decide +kernel
theorem dX0_issue_30 : decode cX0_issue 30 = .ok (.iload_n 1, 1) := by decide +kernel
theorem dX0_issue_31 : decode cX0_issue 31 = .ok (.bipush 12, 2) := by decide +kernel
theorem dX0_issue_33 : decode cX0_issue 33 = .ok (.ishr, 1) := by decide +kernel
theorem dX0_issue_34 : decode cX0_issue 34 = .ok (.bipush 15, 2) := by decide +kernel
theorem dX0_issue_36 : decode cX0_issue 36 = .ok (.iand, 1) := by decide +kernel
theorem dX0_issue_37 : decode cX0_issue 37 = .ok (.iaload, 1) := by decide +kernel
theorem dX0_issue_38 : decode cX0_issue 38 = .ok (.istore 5, 2) := by decide +kernel
theorem dX0_issue_40 : decode cX0_issue 40 = .ok (.aload_n 0, 1) := by decide +kernel
theorem dX0_issue_41 : decode cX0_issue 41 = .ok (.getfield 19, 3) := by decide +kernel
theorem dX0_issue_44 : decode cX0_issue 44 = .ok (.iload_n 1, 1) := by decide +kernel
theorem dX0_issue_45 : decode cX0_issue 45 = .ok (.bipush 16, 2) := by decide +kernel
theorem dX0_issue_47 : decode cX0_issue 47 = .ok (.ishr, 1) := by decide +kernel
theorem dX0_issue_48 : decode cX0_issue 48 = .ok (.bipush 31, 2) := by decide +kernel
theorem dX0_issue_50 : decode cX0_issue 50 = .ok (.iand, 1) := by decide +kernel
theorem dX0_issue_51 : decode cX0_issue 51 = .ok (.iaload, 1) := by decide +kernel
theorem dX0_issue_52 : decode cX0_issue 52 = .ok (.istore 6, 2) := by decide +kernel
theorem dX0_issue_54 : decode cX0_issue 54 = .ok (.iload_n 2, 1) := by decide +kernel
theorem dX0_issue_55 : decode cX0_issue 55 = .ok (.bipush 8, 2) := by decide +kernel
theorem dX0_issue_57 : decode cX0_issue 57 = .ok (.if_icmp .ne 26, 3) := by decide +kernel
theorem dX0_issue_60 : decode cX0_issue 60 = .ok (.aload_n 0, 1) := by decide +kernel
theorem dX0_issue_61 : decode cX0_issue 61 = .ok (.bipush 16, 2) := by decide +kernel
theorem dX0_issue_63 : decode cX0_issue 63 = .ok (.iload 4, 2) := by decide +kernel
theorem dX0_issue_65 : decode cX0_issue 65 = .ok (.iload 6, 2) := by decide +kernel
theorem dX0_issue_67 : decode cX0_issue 67 = .ok (.iadd, 1) := by decide +kernel
theorem dX0_issue_68 : decode cX0_issue 68 = .ok (.bipush 15, 2) := by decide +kernel
theorem dX0_issue_70 : decode cX0_issue 70 = .ok (.iand, 1) := by decide +kernel
theorem dX0_issue_71 : decode cX0_issue 71 = .ok (.iadd, 1) := by decide +kernel
theorem dX0_issue_72 : decode cX0_issue 72 = .ok (.aload_n 0, 1) := by decide +kernel
theorem dX0_issue_73 : decode cX0_issue 73 = .ok (.getfield 54, 3) := by decide +kernel
theorem dX0_issue_76 : decode cX0_issue 76 = .ok (.iload_n 3, 1) := by decide +kernel
theorem dX0_issue_77 : decode cX0_issue 77 = .ok (.iaload, 1) := by decide +kernel
theorem dX0_issue_78 : decode cX0_issue 78 = .ok (.iconst 1, 1) := by decide +kernel
theorem dX0_issue_79 : decode cX0_issue 79 = .ok (.invokevirtual 169, 3) := by decide +kernel
theorem dX0_issue_82 : decode cX0_issue 82 = .ok (.return_, 1) := by decide +kernel
theorem dX0_issue_83 : decode cX0_issue 83 = .ok (.iload 4, 2) := by decide +kernel
theorem dX0_issue_85 : decode cX0_issue 85 = .ok (.istore 7, 2) := by decide +kernel
theorem dX0_issue_87 : decode cX0_issue 87 = .ok (.iload_n 2, 1) := by decide +kernel
theorem dX0_issue_88 : decode cX0_issue 88 = .ok (.bipush 7, 2) := by decide +kernel
theorem dX0_issue_90 : decode cX0_issue 90 = .ok (.if_icmp .ne 21, 3) := by decide +kernel
theorem dX0_issue_93 : decode cX0_issue 93 = .ok (.aload_n 0, 1) := by decide +kernel
theorem dX0_issue_94 : decode cX0_issue 94 = .ok (.getfield 57, 3) := by decide +kernel
theorem dX0_issue_97 : decode cX0_issue 97 = .ok (.iload 4, 2) := by decide +kernel
theorem dX0_issue_99 : decode cX0_issue 99 = .ok (.iload 6, 2) := by decide +kernel
theorem dX0_issue_101 : decode cX0_issue 101 = .ok (.iadd, 1) := by decide +kernel
theorem dX0_issue_102 : decode cX0_issue 102 = .ok (.bipush 15, 2) := by decide +kernel
theorem dX0_issue_104 : decode cX0_issue 104 = .ok (.iand, 1) := by decide +kernel
theorem dX0_issue_105 : decode cX0_issue 105 = .ok (.iaload, 1) := by decide +kernel
theorem dX0_issue_106 : decode cX0_issue 106 = .ok (.istore 7, 2) := by decide +kernel
theorem dX0_issue_108 : decode cX0_issue 108 = .ok (.goto 62, 3) := by decide +kernel
theorem dX0_issue_111 : decode cX0_issue 111 = .ok (.iload_n 2, 1) := by decide +kernel
theorem dX0_issue_112 : decode cX0_issue 112 = .ok (.iconst 5, 1) := by decide +kernel
theorem dX0_issue_113 : decode cX0_issue 113 = .ok (.if_icmp .ne 24, 3) := by decide +kernel
theorem dX0_issue_116 : decode cX0_issue 116 = .ok (.aload_n 0, 1) := by decide +kernel
theorem dX0_issue_117 : decode cX0_issue 117 = .ok (.getfield 54, 3) := by decide +kernel
theorem dX0_issue_120 : decode cX0_issue 120 = .ok (.iload_n 3, 1) := by decide +kernel
theorem dX0_issue_121 : decode cX0_issue 121 = .ok (.iaload, 1) := by decide +kernel
theorem dX0_issue_122 : decode cX0_issue 122 = .ok (.ifCond .eq 8, 3) := by decide +kernel
theorem dX0_issue_125 : decode cX0_issue 125 = .ok (.iload 4, 2) := by decide +kernel
theorem dX0_issue_127 : decode cX0_issue 127 = .ok (.goto 5, 3) := by decide +kernel
theorem dX0_issue_130 : decode cX0_issue 130 = .ok (.iload 5, 2) := by decide +kernel
theorem dX0_issue_132 : decode cX0_issue 132 = .ok (.istore 7, 2) := by decide +kernel
theorem dX0_issue_134 : decode cX0_issue 134 = .ok (.goto 36, 3) := by decide +kernel
theorem dX0_issue_137 : decode cX0_issue 137 = .ok (.iload_n 2, 1) := by decide +kernel
theorem dX0_issue_138 : decode cX0_issue 138 = .ok (.bipush 6, 2) := by decide +kernel
theorem dX0_issue_140 : decode cX0_issue 140 = .ok (.if_icmp .ne 13, 3) := by decide +kernel
theorem dX0_issue_143 : decode cX0_issue 143 = .ok (.iload 4, 2) := by decide +kernel
theorem dX0_issue_145 : decode cX0_issue 145 = .ok (.iload 6, 2) := by decide +kernel
theorem dX0_issue_147 : decode cX0_issue 147 = .ok (.iadd, 1) := by decide +kernel
theorem dX0_issue_148 : decode cX0_issue 148 = .ok (.istore 7, 2) := by decide +kernel
theorem dX0_issue_150 : decode cX0_issue 150 = .ok (.goto 20, 3) := by decide +kernel
theorem dX0_issue_153 : decode cX0_issue 153 = .ok (.iload_n 2, 1) := by decide +kernel
theorem dX0_issue_154 : decode cX0_issue 154 = .ok (.bipush 9, 2) := by decide +kernel
theorem dX0_issue_156 : decode cX0_issue 156 = .ok (.if_icmp .eq 14, 3) := by decide +kernel
theorem dX0_issue_159 : decode cX0_issue 159 = .ok (.aload_n 0, 1) := by decide +kernel
theorem dX0_issue_160 : decode cX0_issue 160 = .ok (.iload_n 2, 1) := by decide +kernel
theorem dX0_issue_161 : decode cX0_issue 161 = .ok (.iload 4, 2) := by decide +kernel
theorem dX0_issue_163 : decode cX0_issue 163 = .ok (.iload 5, 2) := by decide +kernel
theorem dX0_issue_165 : decode cX0_issue 165 = .ok (.invokevirtual 173, 3) := by decide +kernel
theorem dX0_issue_168 : decode cX0_issue 168 = .ok (.istore 7, 2) := by decide +kernel
theorem dX0_issue_170 : decode cX0_issue 170 = .ok (.aload_n 0, 1) := by decide +kernel
theorem dX0_issue_171 : decode cX0_issue 171 = .ok (.iload_n 2, 1) := by decide +kernel
theorem dX0_issue_172 : decode cX0_issue 172 = .ok (.invokevirtual 97, 3) := by decide +kernel
theorem dX0_issue_175 : decode cX0_issue 175 = .ok (.istore 8, 2) := by decide +kernel
theorem dX0_issue_177 : decode cX0_issue 177 = .ok (.aload_n 0, 1) := by decide +kernel
theorem dX0_issue_178 : decode cX0_issue 178 = .ok (.iload_n 3, 1) := by decide +kernel
theorem dX0_issue_179 : decode cX0_issue 179 = .ok (.iload 7, 2) := by decide +kernel
theorem dX0_issue_181 : decode cX0_issue 181 = .ok (.iload 8, 2) := by decide +kernel
theorem dX0_issue_183 : decode cX0_issue 183 = .ok (.invokevirtual 169, 3) := by decide +kernel
theorem dX0_issue_186 : decode cX0_issue 186 = .ok (.return_, 1) := by decide +kernel
theorem dX0_fly_0 : decode cX0_fly 0 = .ok (.aload_n 0, 1) := by decide +kernel
theorem dX0_fly_1 : decode cX0_fly 1 = .ok (.getfield 60, 3) := by decide +kernel
theorem dX0_fly_4 : decode cX0_fly 4 = .ok (.aload_n 0, 1) := by decide +kernel
theorem dX0_fly_5 : decode cX0_fly 5 = .ok (.getfield 156, 3) := by decide +kernel
theorem dX0_fly_8 : decode cX0_fly 8 = .ok (.iload_n 1, 1) := by decide +kernel
theorem dX0_fly_9 : decode cX0_fly 9 = .ok (.i2b, 1) := by decide +kernel
theorem dX0_fly_10 : decode cX0_fly 10 = .ok (.bastore, 1) := by decide +kernel
theorem dX0_fly_11 : decode cX0_fly 11 = .ok (.aload_n 0, 1) := by decide +kernel
theorem dX0_fly_12 : decode cX0_fly 12 = .ok (.getfield 63, 3) := by decide +kernel
theorem dX0_fly_15 : decode cX0_fly 15 = .ok (.aload_n 0, 1) := by decide +kernel
theorem dX0_fly_16 : decode cX0_fly 16 = .ok (.getfield 156, 3) := by decide +kernel
theorem dX0_fly_19 : decode cX0_fly 19 = .ok (.iload_n 2, 1) := by decide +kernel
theorem dX0_fly_20 : decode cX0_fly 20 = .ok (.iastore, 1) := by decide +kernel
theorem dX0_fly_21 : decode cX0_fly 21 = .ok (.aload_n 0, 1) := by decide +kernel
theorem dX0_fly_22 : decode cX0_fly 22 = .ok (.getfield 66, 3) := by decide +kernel
theorem dX0_fly_25 : decode cX0_fly 25 = .ok (.aload_n 0, 1) := by decide +kernel
theorem dX0_fly_26 : decode cX0_fly 26 = .ok (.getfield 156, 3) := by decide +kernel
theorem dX0_fly_29 : decode cX0_fly 29 = .ok (.aload_n 0, 1) := by decide +kernel
theorem dX0_fly_30 : decode cX0_fly 30 = .ok (.getfield 159, 3) := by decide +kernel
theorem dX0_fly_33 : decode cX0_fly 33 = .ok (.iload_n 3, 1) := by decide +kernel
theorem dX0_fly_34 : decode cX0_fly 34 = .ok (.iadd, 1) := by decide +kernel
theorem dX0_fly_35 : decode cX0_fly 35 = .ok (.i2s, 1) := by decide +kernel
theorem dX0_fly_36 : decode cX0_fly 36 = .ok (.sastore, 1) := by decide +kernel
theorem dX0_fly_37 : decode cX0_fly 37 = .ok (.aload_n 0, 1) := by decide +kernel
theorem dX0_fly_38 : decode cX0_fly 38 = .ok (.dup, 1) := by decide +kernel
theorem dX0_fly_39 : decode cX0_fly 39 = .ok (.getfield 156, 3) := by decide +kernel
theorem dX0_fly_42 : decode cX0_fly 42 = .ok (.iconst 1, 1) := by decide +kernel
theorem dX0_fly_43 : decode cX0_fly 43 = .ok (.iadd, 1) := by decide +kernel
theorem dX0_fly_44 : decode cX0_fly 44 = .ok (.putfield 156, 3) := by decide +kernel
theorem dX0_fly_47 : decode cX0_fly 47 = .ok (.return_, 1) := by decide +kernel
theorem dX0_combined_0 : decode cX0_combined 0 = .ok (.iload_n 1, 1) := by decide +kernel
theorem dX0_combined_1 : decode cX0_combined 1 = .ok (.ifCond .ne 7, 3) := by decide +kernel
theorem dX0_combined_4 : decode cX0_combined 4 = .ok (.iload_n 2, 1) := by decide +kernel
theorem dX0_combined_5 : decode cX0_combined 5 = .ok (.iload_n 3, 1) := by decide +kernel
theorem dX0_combined_6 : decode cX0_combined 6 = .ok (.iadd, 1) := by decide +kernel
theorem dX0_combined_7 : decode cX0_combined 7 = .ok (.ireturn, 1) := by decide +kernel
theorem dX0_combined_8 : decode cX0_combined 8 = .ok (.iload_n 1, 1) := by decide +kernel
theorem dX0_combined_9 : decode cX0_combined 9 = .ok (.iconst 1, 1) := by decide +kernel
theorem dX0_combined_10 : decode cX0_combined 10 = .ok (.if_icmp .ne 7, 3) := by decide +kernel
theorem dX0_combined_13 : decode cX0_combined 13 = .ok (.iload_n 2, 1) := by decide +kernel
theorem dX0_combined_14 : decode cX0_combined 14 = .ok (.iload_n 3, 1) := by decide +kernel
theorem dX0_combined_15 : decode cX0_combined 15 = .ok (.isub, 1) := by decide +kernel
theorem dX0_combined_16 : decode cX0_combined 16 = .ok (.ireturn, 1) := by decide +kernel
theorem dX0_combined_17 : decode cX0_combined 17 = .ok (.iload_n 1, 1) := by decide +kernel
theorem dX0_combined_18 : decode cX0_combined 18 = .ok (.iconst 2, 1) := by decide +kernel
theorem dX0_combined_19 : decode cX0_combined 19 = .ok (.if_icmp .ne 7, 3) := by decide +kernel
theorem dX0_combined_22 : decode cX0_combined 22 = .ok (.iload_n 2, 1) := by decide +kernel
theorem dX0_combined_23 : decode cX0_combined 23 = .ok (.iload_n 3, 1) := by decide +kernel
theorem dX0_combined_24 : decode cX0_combined 24 = .ok (.imul, 1) := by decide +kernel
theorem dX0_combined_25 : decode cX0_combined 25 = .ok (.ireturn, 1) := by decide +kernel
theorem dX0_combined_26 : decode cX0_combined 26 = .ok (.iload_n 1, 1) := by decide +kernel
theorem dX0_combined_27 : decode cX0_combined 27 = .ok (.iconst 3, 1) := by decide +kernel
theorem dX0_combined_28 : decode cX0_combined 28 = .ok (.if_icmp .ne 7, 3) := by decide +kernel
theorem dX0_combined_31 : decode cX0_combined 31 = .ok (.iload_n 2, 1) := by decide +kernel
theorem dX0_combined_32 : decode cX0_combined 32 = .ok (.iload_n 3, 1) := by decide +kernel
theorem dX0_combined_33 : decode cX0_combined 33 = .ok (.ixor, 1) := by decide +kernel
theorem dX0_combined_34 : decode cX0_combined 34 = .ok (.ireturn, 1) := by decide +kernel
theorem dX0_combined_35 : decode cX0_combined 35 = .ok (.iload_n 2, 1) := by decide +kernel
theorem dX0_combined_36 : decode cX0_combined 36 = .ok (.iload_n 3, 1) := by decide +kernel
theorem dX0_combined_37 : decode cX0_combined 37 = .ok (.if_icmp .ge 7, 3) := by decide +kernel
theorem dX0_combined_40 : decode cX0_combined 40 = .ok (.iconst 1, 1) := by decide +kernel
theorem dX0_combined_41 : decode cX0_combined 41 = .ok (.goto 4, 3) := by decide +kernel
theorem dX0_combined_44 : decode cX0_combined 44 = .ok (.iconst 0, 1) := by decide +kernel
theorem dX0_combined_45 : decode cX0_combined 45 = .ok (.ireturn, 1) := by decide +kernel
theorem dX0_register_0 : decode cX0_register 0 = .ok (.aload_n 0, 1) := by decide +kernel
theorem dX0_register_1 : decode cX0_register 1 = .ok (.iload_n 1, 1) := by decide +kernel
theorem dX0_register_2 : decode cX0_register 2 = .ok (.invokevirtual 73, 3) := by decide +kernel
theorem dX0_register_5 : decode cX0_register 5 = .ok (.ifCond .eq 12, 3) := by decide +kernel
theorem dX0_register_8 : decode cX0_register 8 = .ok (.aload_n 0, 1) := by decide +kernel
theorem dX0_register_9 : decode cX0_register 9 = .ok (.getfield 54, 3) := by decide +kernel
theorem dX0_register_12 : decode cX0_register 12 = .ok (.iload_n 1, 1) := by decide +kernel
theorem dX0_register_13 : decode cX0_register 13 = .ok (.iaload, 1) := by decide +kernel
theorem dX0_register_14 : decode cX0_register 14 = .ok (.goto 4, 3) := by decide +kernel
theorem dX0_register_17 : decode cX0_register 17 = .ok (.iconst 0, 1) := by decide +kernel
theorem dX0_register_18 : decode cX0_register 18 = .ok (.ireturn, 1) := by decide +kernel
theorem dX0_setRegister_0 : decode cX0_setRegister 0 = .ok (.aload_n 0, 1) := by decide +kernel
theorem dX0_setRegister_1 : decode cX0_setRegister 1 = .ok (.iload_n 1, 1) := by decide +kernel
theorem dX0_setRegister_2 : decode cX0_setRegister 2 = .ok (.invokevirtual 73, 3) := by decide +kernel
theorem dX0_setRegister_5 : decode cX0_setRegister 5 = .ok (.ifCond .ne 5, 3) := by decide +kernel
theorem dX0_setRegister_8 : decode cX0_setRegister 8 = .ok (.iconst 0, 1) := by decide +kernel
theorem dX0_setRegister_9 : decode cX0_setRegister 9 = .ok (.ireturn, 1) := by decide +kernel
theorem dX0_setRegister_10 : decode cX0_setRegister 10 = .ok (.aload_n 0, 1) := by decide +kernel
theorem dX0_setRegister_11 : decode cX0_setRegister 11 = .ok (.getfield 54, 3) := by decide +kernel
theorem dX0_setRegister_14 : decode cX0_setRegister 14 = .ok (.iload_n 1, 1) := by decide +kernel
theorem dX0_setRegister_15 : decode cX0_setRegister 15 = .ok (.iload_n 2, 1) := by decide +kernel
theorem dX0_setRegister_16 : decode cX0_setRegister 16 = .ok (.iastore, 1) := by decide +kernel
theorem dX0_setRegister_17 : decode cX0_setRegister 17 = .ok (.iconst 1, 1) := by decide +kernel
theorem dX0_setRegister_18 : decode cX0_setRegister 18 = .ok (.ireturn, 1) := by decide +kernel
theorem dX0_memory_0 : decode cX0_memory 0 = .ok (.iload_n 1, 1) := by decide +kernel
theorem dX0_memory_1 : decode cX0_memory 1 = .ok (.ifCond .lt 9, 3) := by decide +kernel
theorem dX0_memory_4 : decode cX0_memory 4 = .ok (.iload_n 1, 1) := by decide +kernel
theorem dX0_memory_5 : decode cX0_memory 5 = .ok (.bipush 15, 2) := by decide +kernel
theorem dX0_memory_7 : decode cX0_memory 7 = .ok (.if_icmp .le 7, 3) := by decide +kernel
theorem dX0_memory_10 : decode cX0_memory 10 = .ok (.iconst 0, 1) := by decide +kernel
theorem dX0_memory_11 : decode cX0_memory 11 = .ok (.goto 9, 3) := by decide +kernel
theorem dX0_memory_14 : decode cX0_memory 14 = .ok (.aload_n 0, 1) := by decide +kernel
theorem dX0_memory_15 : decode cX0_memory 15 = .ok (.getfield 57, 3) := by decide +kernel
theorem dX0_memory_18 : decode cX0_memory 18 = .ok (.iload_n 1, 1) := by decide +kernel
theorem dX0_memory_19 : decode cX0_memory 19 = .ok (.iaload, 1) := by decide +kernel
theorem dX0_memory_20 : decode cX0_memory 20 = .ok (.ireturn, 1) := by decide +kernel
theorem dX0_setMemory_0 : decode cX0_setMemory 0 = .ok (.iload_n 1, 1) := by decide +kernel
theorem dX0_setMemory_1 : decode cX0_setMemory 1 = .ok (.ifCond .lt 9, 3) := by decide +kernel
theorem dX0_setMemory_4 : decode cX0_setMemory 4 = .ok (.iload_n 1, 1) := by decide +kernel
theorem dX0_setMemory_5 : decode cX0_setMemory 5 = .ok (.bipush 15, 2) := by decide +kernel
theorem dX0_setMemory_7 : decode cX0_setMemory 7 = .ok (.if_icmp .le 5, 3) := by decide +kernel
theorem dX0_setMemory_10 : decode cX0_setMemory 10 = .ok (.iconst 0, 1) := by decide +kernel
theorem dX0_setMemory_11 : decode cX0_setMemory 11 = .ok (.ireturn, 1) := by decide +kernel
theorem dX0_setMemory_12 : decode cX0_setMemory 12 = .ok (.aload_n 0, 1) := by decide +kernel
theorem dX0_setMemory_13 : decode cX0_setMemory 13 = .ok (.getfield 57, 3) := by decide +kernel
theorem dX0_setMemory_16 : decode cX0_setMemory 16 = .ok (.iload_n 1, 1) := by decide +kernel
theorem dX0_setMemory_17 : decode cX0_setMemory 17 = .ok (.iload_n 2, 1) := by decide +kernel
theorem dX0_setMemory_18 : decode cX0_setMemory 18 = .ok (.iastore, 1) := by decide +kernel
theorem dX0_setMemory_19 : decode cX0_setMemory 19 = .ok (.iconst 1, 1) := by decide +kernel
theorem dX0_setMemory_20 : decode cX0_setMemory 20 = .ok (.ireturn, 1) := by decide +kernel
theorem dX0_weight_0 : decode cX0_weight 0 = .ok (.iload_n 1, 1) := by decide +kernel
theorem dX0_weight_1 : decode cX0_weight 1 = .ok (.ifCond .lt 11, 3) := by decide +kernel
theorem dX0_weight_4 : decode cX0_weight 4 = .ok (.iload_n 1, 1) := by decide +kernel
theorem dX0_weight_5 : decode cX0_weight 5 = .ok (.aload_n 0, 1) := by decide +kernel
theorem dX0_weight_6 : decode cX0_weight 6 = .ok (.getfield 69, 3) := by decide +kernel
theorem dX0_weight_9 : decode cX0_weight 9 = .ok (.if_icmp .lt 5, 3) := by decide +kernel
theorem dX0_weight_12 : decode cX0_weight 12 = .ok (.iconst (-1), 1) := by decide +kernel
theorem dX0_weight_13 : decode cX0_weight 13 = .ok (.ireturn, 1) := by decide +kernel
theorem dX0_weight_14 : decode cX0_weight 14 = .ok (.aload_n 0, 1) := by decide +kernel
theorem dX0_weight_15 : decode cX0_weight 15 = .ok (.invokevirtual 91, 3) := by decide +kernel
theorem dX0_weight_18 : decode cX0_weight 18 = .ok (.aload_n 0, 1) := by decide +kernel
theorem dX0_weight_19 : decode cX0_weight 19 = .ok (.getfield 41, 3) := by decide +kernel
theorem dX0_weight_22 : decode cX0_weight 22 = .ok (.iload_n 1, 1) := by decide +kernel
theorem dX0_weight_23 : decode cX0_weight 23 = .ok (.saload, 1) := by decide +kernel
theorem dX0_weight_24 : decode cX0_weight 24 = .ok (.ireturn, 1) := by decide +kernel
theorem dX0_weigh_0 : decode cX0_weigh 0 = .ok (.aload_n 0, 1) := by decide +kernel
theorem dX0_weigh_1 : decode cX0_weigh 1 = .ok (.iconst 0, 1) := by decide +kernel
theorem dX0_weigh_2 : decode cX0_weigh 2 = .ok (.putfield 77, 3) := by decide +kernel
theorem dX0_weigh_5 : decode cX0_weigh 5 = .ok (.iconst 0, 1) := by decide +kernel
theorem dX0_weigh_6 : decode cX0_weigh 6 = .ok (.istore_n 1, 1) := by decide +kernel
theorem dX0_weigh_7 : decode cX0_weigh 7 = .ok (.iload_n 1, 1) := by decide +kernel
theorem dX0_weigh_8 : decode cX0_weigh 8 = .ok (.aload_n 0, 1) := by decide +kernel
theorem dX0_weigh_9 : decode cX0_weigh 9 = .ok (.getfield 69, 3) := by decide +kernel
theorem dX0_weigh_12 : decode cX0_weigh 12 = .ok (.if_icmp .ge 79, 3) := by decide +kernel
theorem dX0_weigh_15 : decode cX0_weigh 15 = .ok (.aload_n 0, 1) := by decide +kernel
theorem dX0_weigh_16 : decode cX0_weigh 16 = .ok (.iload_n 1, 1) := by decide +kernel
theorem dX0_weigh_17 : decode cX0_weigh 17 = .ok (.invokevirtual 94, 3) := by decide +kernel
theorem dX0_weigh_20 : decode cX0_weigh 20 = .ok (.istore_n 2, 1) := by decide +kernel
theorem dX0_weigh_21 : decode cX0_weigh 21 = .ok (.iconst 0, 1) := by decide +kernel
theorem dX0_weigh_22 : decode cX0_weigh 22 = .ok (.istore_n 3, 1) := by decide +kernel
theorem dX0_weigh_23 : decode cX0_weigh 23 = .ok (.iconst 0, 1) := by decide +kernel
theorem dX0_weigh_24 : decode cX0_weigh 24 = .ok (.istore 4, 2) := by decide +kernel
theorem dX0_weigh_26 : decode cX0_weigh 26 = .ok (.iload 4, 2) := by decide +kernel
theorem dX0_weigh_28 : decode cX0_weigh 28 = .ok (.iload_n 1, 1) := by decide +kernel
theorem dX0_weigh_29 : decode cX0_weigh 29 = .ok (.if_icmp .ge 37, 3) := by decide +kernel
theorem dX0_weigh_32 : decode cX0_weigh 32 = .ok (.iload_n 2, 1) := by decide +kernel
theorem dX0_weigh_33 : decode cX0_weigh 33 = .ok (.iload 4, 2) := by decide +kernel
theorem dX0_weigh_35 : decode cX0_weigh 35 = .ok (.ishr, 1) := by decide +kernel
theorem dX0_weigh_36 : decode cX0_weigh 36 = .ok (.iconst 1, 1) := by decide +kernel
theorem dX0_weigh_37 : decode cX0_weigh 37 = .ok (.iand, 1) := by decide +kernel
theorem dX0_weigh_38 : decode cX0_weigh 38 = .ok (.ifCond .eq 22, 3) := by decide +kernel
theorem dX0_weigh_41 : decode cX0_weigh 41 = .ok (.aload_n 0, 1) := by decide +kernel
theorem dX0_weigh_42 : decode cX0_weigh 42 = .ok (.getfield 41, 3) := by decide +kernel
theorem dX0_weigh_45 : decode cX0_weigh 45 = .ok (.iload 4, 2) := by decide +kernel
theorem dX0_weigh_47 : decode cX0_weigh 47 = .ok (.saload, 1) := by decide +kernel
theorem dX0_weigh_48 : decode cX0_weigh 48 = .ok (.iload_n 3, 1) := by decide +kernel
theorem dX0_weigh_49 : decode cX0_weigh 49 = .ok (.if_icmp .le 11, 3) := by decide +kernel
theorem dX0_weigh_52 : decode cX0_weigh 52 = .ok (.aload_n 0, 1) := by decide +kernel
theorem dX0_weigh_53 : decode cX0_weigh 53 = .ok (.getfield 41, 3) := by decide +kernel
theorem dX0_weigh_56 : decode cX0_weigh 56 = .ok (.iload 4, 2) := by decide +kernel
theorem dX0_weigh_58 : decode cX0_weigh 58 = .ok (.saload, 1) := by decide +kernel
theorem dX0_weigh_59 : decode cX0_weigh 59 = .ok (.istore_n 3, 1) := by decide +kernel
theorem dX0_weigh_60 : decode cX0_weigh 60 = .ok (.iinc 4 1, 3) := by decide +kernel
theorem dX0_weigh_63 : decode cX0_weigh 63 = .ok (.goto (-37), 3) := by decide +kernel
theorem dX0_weigh_66 : decode cX0_weigh 66 = .ok (.aload_n 0, 1) := by decide +kernel
theorem dX0_weigh_67 : decode cX0_weigh 67 = .ok (.getfield 41, 3) := by decide +kernel
theorem dX0_weigh_70 : decode cX0_weigh 70 = .ok (.iload_n 1, 1) := by decide +kernel
theorem dX0_weigh_71 : decode cX0_weigh 71 = .ok (.iload_n 3, 1) := by decide +kernel
theorem dX0_weigh_72 : decode cX0_weigh 72 = .ok (.aload_n 0, 1) := by decide +kernel
theorem dX0_weigh_73 : decode cX0_weigh 73 = .ok (.aload_n 0, 1) := by decide +kernel
theorem dX0_weigh_74 : decode cX0_weigh 74 = .ok (.getfield 7, 3) := by decide +kernel
theorem dX0_weigh_77 : decode cX0_weigh 77 = .ok (.iload_n 1, 1) := by decide +kernel
theorem dX0_weigh_78 : decode cX0_weigh 78 = .ok (.baload, 1) := by decide +kernel
theorem dX0_weigh_79 : decode cX0_weigh 79 = .ok (.invokevirtual 97, 3) := by decide +kernel
theorem dX0_weigh_82 : decode cX0_weigh 82 = .ok (.iadd, 1) := by decide +kernel
theorem dX0_weigh_83 : decode cX0_weigh 83 = .ok (.i2s, 1) := by decide +kernel
theorem dX0_weigh_84 : decode cX0_weigh 84 = .ok (.sastore, 1) := by decide +kernel
theorem dX0_weigh_85 : decode cX0_weigh 85 = .ok (.iinc 1 1, 3) := by decide +kernel
theorem dX0_weigh_88 : decode cX0_weigh 88 = .ok (.goto (-81), 3) := by decide +kernel
theorem dX0_weigh_91 : decode cX0_weigh 91 = .ok (.return_, 1) := by decide +kernel
theorem dX0_hangsOn_0 : decode cX0_hangsOn 0 = .ok (.aload_n 0, 1) := by decide +kernel
theorem dX0_hangsOn_1 : decode cX0_hangsOn 1 = .ok (.iload_n 1, 1) := by decide +kernel
theorem dX0_hangsOn_2 : decode cX0_hangsOn 2 = .ok (.invokevirtual 87, 3) := by decide +kernel
theorem dX0_hangsOn_5 : decode cX0_hangsOn 5 = .ok (.istore_n 2, 1) := by decide +kernel
theorem dX0_hangsOn_6 : decode cX0_hangsOn 6 = .ok (.iconst 0, 1) := by decide +kernel
theorem dX0_hangsOn_7 : decode cX0_hangsOn 7 = .ok (.istore_n 3, 1) := by decide +kernel
theorem dX0_hangsOn_8 : decode cX0_hangsOn 8 = .ok (.iload_n 1, 1) := by decide +kernel
theorem dX0_hangsOn_9 : decode cX0_hangsOn 9 = .ok (.iconst 1, 1) := by decide +kernel
theorem dX0_hangsOn_10 : decode cX0_hangsOn 10 = .ok (.isub, 1) := by decide +kernel
theorem dX0_hangsOn_11 : decode cX0_hangsOn 11 = .ok (.istore 4, 2) := by decide +kernel
theorem dX0_hangsOn_13 : decode cX0_hangsOn 13 = .ok (.iload 4, 2) := by decide +kernel
theorem dX0_hangsOn_15 : decode cX0_hangsOn 15 = .ok (.ifCond .lt 59, 3) := by decide +kernel
theorem dX0_hangsOn_18 : decode cX0_hangsOn 18 = .ok (.aload_n 0, 1) := by decide +kernel
theorem dX0_hangsOn_19 : decode cX0_hangsOn 19 = .ok (.getfield 7, 3) := by decide +kernel
theorem dX0_hangsOn_22 : decode cX0_hangsOn 22 = .ok (.iload 4, 2) := by decide +kernel
theorem dX0_hangsOn_24 : decode cX0_hangsOn 24 = .ok (.baload, 1) := by decide +kernel
theorem dX0_hangsOn_25 : decode cX0_hangsOn 25 = .ok (.bipush 8, 2) := by decide +kernel
theorem dX0_hangsOn_27 : decode cX0_hangsOn 27 = .ok (.if_icmp .eq 41, 3) := by decide +kernel
theorem dX0_hangsOn_30 : decode cX0_hangsOn 30 = .ok (.iload_n 2, 1) := by decide +kernel
theorem dX0_hangsOn_31 : decode cX0_hangsOn 31 = .ok (.aload_n 0, 1) := by decide +kernel
theorem dX0_hangsOn_32 : decode cX0_hangsOn 32 = .ok (.getfield 13, 3) := by decide +kernel
theorem dX0_hangsOn_35 : decode cX0_hangsOn 35 = .ok (.iload 4, 2) := by decide +kernel
theorem dX0_hangsOn_37 : decode cX0_hangsOn 37 = .ok (.baload, 1) := by decide +kernel
theorem dX0_hangsOn_38 : decode cX0_hangsOn 38 = .ok (.ishr, 1) := by decide +kernel
theorem dX0_hangsOn_39 : decode cX0_hangsOn 39 = .ok (.iconst 1, 1) := by decide +kernel
theorem dX0_hangsOn_40 : decode cX0_hangsOn 40 = .ok (.iand, 1) := by decide +kernel
theorem dX0_hangsOn_41 : decode cX0_hangsOn 41 = .ok (.ifCond .ne 6, 3) := by decide +kernel
theorem dX0_hangsOn_44 : decode cX0_hangsOn 44 = .ok (.goto 24, 3) := by decide +kernel
theorem dX0_hangsOn_47 : decode cX0_hangsOn 47 = .ok (.iload_n 3, 1) := by decide +kernel
theorem dX0_hangsOn_48 : decode cX0_hangsOn 48 = .ok (.iconst 1, 1) := by decide +kernel
theorem dX0_hangsOn_49 : decode cX0_hangsOn 49 = .ok (.iload 4, 2) := by decide +kernel
theorem dX0_hangsOn_51 : decode cX0_hangsOn 51 = .ok (.ishl, 1) := by decide +kernel
theorem dX0_hangsOn_52 : decode cX0_hangsOn 52 = .ok (.ior, 1) := by decide +kernel
theorem dX0_hangsOn_53 : decode cX0_hangsOn 53 = .ok (.istore_n 3, 1) := by decide +kernel
theorem dX0_hangsOn_54 : decode cX0_hangsOn 54 = .ok (.iload_n 2, 1) := by decide +kernel
theorem dX0_hangsOn_55 : decode cX0_hangsOn 55 = .ok (.iconst 1, 1) := by decide +kernel
theorem dX0_hangsOn_56 : decode cX0_hangsOn 56 = .ok (.aload_n 0, 1) := by decide +kernel
theorem dX0_hangsOn_57 : decode cX0_hangsOn 57 = .ok (.getfield 13, 3) := by decide +kernel
theorem dX0_hangsOn_60 : decode cX0_hangsOn 60 = .ok (.iload 4, 2) := by decide +kernel
theorem dX0_hangsOn_62 : decode cX0_hangsOn 62 = .ok (.baload, 1) := by decide +kernel
theorem dX0_hangsOn_63 : decode cX0_hangsOn 63 = .ok (.ishl, 1) := by decide +kernel
theorem dX0_hangsOn_64 : decode cX0_hangsOn 64 = .ok (.iconst (-1), 1) := by decide +kernel
theorem dX0_hangsOn_65 : decode cX0_hangsOn 65 = .ok (.ixor, 1) := by decide +kernel
theorem dX0_hangsOn_66 : decode cX0_hangsOn 66 = .ok (.iand, 1) := by decide +kernel
theorem dX0_hangsOn_67 : decode cX0_hangsOn 67 = .ok (.istore_n 2, 1) := by decide +kernel
theorem dX0_hangsOn_68 : decode cX0_hangsOn 68 = .ok (.iinc 4 (-1), 3) := by decide +kernel
theorem dX0_hangsOn_71 : decode cX0_hangsOn 71 = .ok (.goto (-58), 3) := by decide +kernel
theorem dX0_hangsOn_74 : decode cX0_hangsOn 74 = .ok (.iload_n 3, 1) := by decide +kernel
theorem dX0_hangsOn_75 : decode cX0_hangsOn 75 = .ok (.ireturn, 1) := by decide +kernel
theorem dX0_readBySource_0 : decode cX0_readBySource 0 = .ok (.iconst 1, 1) := by decide +kernel
theorem dX0_readBySource_1 : decode cX0_readBySource 1 = .ok (.aload_n 0, 1) := by decide +kernel
theorem dX0_readBySource_2 : decode cX0_readBySource 2 = .ok (.getfield 16, 3) := by decide +kernel
theorem dX0_readBySource_5 : decode cX0_readBySource 5 = .ok (.iload_n 1, 1) := by decide +kernel
theorem dX0_readBySource_6 : decode cX0_readBySource 6 = .ok (.baload, 1) := by decide +kernel
theorem dX0_readBySource_7 : decode cX0_readBySource 7 = .ok (.ishl, 1) := by decide +kernel
theorem dX0_readBySource_8 : decode cX0_readBySource 8 = .ok (.istore_n 2, 1) := by decide +kernel
theorem dX0_readBySource_9 : decode cX0_readBySource 9 = .ok (.aload_n 0, 1) := by decide +kernel
theorem dX0_readBySource_10 : decode cX0_readBySource 10 = .ok (.getfield 7, 3) := by decide +kernel
theorem dX0_readBySource_13 : decode cX0_readBySource 13 = .ok (.iload_n 1, 1) := by decide +kernel
theorem dX0_readBySource_14 : decode cX0_readBySource 14 = .ok (.baload, 1) := by decide +kernel
theorem dX0_readBySource_15 : decode cX0_readBySource 15 = .ok (.iconst 5, 1) := by decide +kernel
theorem dX0_readBySource_16 : decode cX0_readBySource 16 = .ok (.if_icmp .gt 14, 3) := by decide +kernel
theorem dX0_readBySource_19 : decode cX0_readBySource 19 = .ok (.iload_n 2, 1) := by decide +kernel
theorem dX0_readBySource_20 : decode cX0_readBySource 20 = .ok (.iconst 1, 1) := by decide +kernel
theorem dX0_readBySource_21 : decode cX0_readBySource 21 = .ok (.aload_n 0, 1) := by decide +kernel
theorem dX0_readBySource_22 : decode cX0_readBySource 22 = .ok (.getfield 19, 3) := by decide +kernel
theorem dX0_readBySource_25 : decode cX0_readBySource 25 = .ok (.iload_n 1, 1) := by decide +kernel
theorem dX0_readBySource_26 : decode cX0_readBySource 26 = .ok (.iaload, 1) := by decide +kernel
theorem dX0_readBySource_27 : decode cX0_readBySource 27 = .ok (.ishl, 1) := by decide +kernel
theorem dX0_readBySource_28 : decode cX0_readBySource 28 = .ok (.ior, 1) := by decide +kernel
theorem dX0_readBySource_29 : decode cX0_readBySource 29 = .ok (.istore_n 2, 1) := by decide +kernel
theorem dX0_readBySource_30 : decode cX0_readBySource 30 = .ok (.aload_n 0, 1) := by decide +kernel
theorem dX0_readBySource_31 : decode cX0_readBySource 31 = .ok (.getfield 7, 3) := by decide +kernel
theorem dX0_readBySource_34 : decode cX0_readBySource 34 = .ok (.iload_n 1, 1) := by decide +kernel
theorem dX0_readBySource_35 : decode cX0_readBySource 35 = .ok (.baload, 1) := by decide +kernel
theorem dX0_readBySource_36 : decode cX0_readBySource 36 = .ok (.iconst 5, 1) := by decide +kernel
theorem dX0_readBySource_37 : decode cX0_readBySource 37 = .ok (.if_icmp .eq 14, 3) := by decide +kernel
theorem dX0_readBySource_40 : decode cX0_readBySource 40 = .ok (.aload_n 0, 1) := by decide +kernel
theorem dX0_readBySource_41 : decode cX0_readBySource 41 = .ok (.getfield 7, 3) := by decide +kernel
theorem dX0_readBySource_44 : decode cX0_readBySource 44 = .ok (.iload_n 1, 1) := by decide +kernel
theorem dX0_readBySource_45 : decode cX0_readBySource 45 = .ok (.baload, 1) := by decide +kernel
theorem dX0_readBySource_46 : decode cX0_readBySource 46 = .ok (.bipush 8, 2) := by decide +kernel
theorem dX0_readBySource_48 : decode cX0_readBySource 48 = .ok (.if_icmp .ne 14, 3) := by decide +kernel
theorem dX0_readBySource_51 : decode cX0_readBySource 51 = .ok (.iload_n 2, 1) := by decide +kernel
theorem dX0_readBySource_52 : decode cX0_readBySource 52 = .ok (.iconst 1, 1) := by decide +kernel
theorem dX0_readBySource_53 : decode cX0_readBySource 53 = .ok (.aload_n 0, 1) := by decide +kernel
theorem dX0_readBySource_54 : decode cX0_readBySource 54 = .ok (.getfield 13, 3) := by decide +kernel
theorem dX0_readBySource_57 : decode cX0_readBySource 57 = .ok (.iload_n 1, 1) := by decide +kernel
theorem dX0_readBySource_58 : decode cX0_readBySource 58 = .ok (.baload, 1) := by decide +kernel
theorem dX0_readBySource_59 : decode cX0_readBySource 59 = .ok (.ishl, 1) := by decide +kernel
theorem dX0_readBySource_60 : decode cX0_readBySource 60 = .ok (.ior, 1) := by decide +kernel
theorem dX0_readBySource_61 : decode cX0_readBySource 61 = .ok (.istore_n 2, 1) := by decide +kernel
theorem dX0_readBySource_62 : decode cX0_readBySource 62 = .ok (.iload_n 2, 1) := by decide +kernel
theorem dX0_readBySource_63 : decode cX0_readBySource 63 = .ok (.ireturn, 1) := by decide +kernel
end
section
set_option maxRecDepth 100000
theorem dX0_heaviest_0 : decode cX0_heaviest 0 = .ok (.aload_n 0, 1) := by decide +kernel
theorem dX0_heaviest_1 : decode cX0_heaviest 1 = .ok (.invokevirtual 91, 3) := by decide +kernel
theorem dX0_heaviest_4 : decode cX0_heaviest 4 = .ok (.iconst 0, 1) := by decide +kernel
theorem dX0_heaviest_5 : decode cX0_heaviest 5 = .ok (.istore_n 1, 1) := by decide +kernel
theorem dX0_heaviest_6 : decode cX0_heaviest 6 = .ok (.iconst 0, 1) := by decide +kernel
theorem dX0_heaviest_7 : decode cX0_heaviest 7 = .ok (.istore_n 2, 1) := by decide +kernel
theorem dX0_heaviest_8 : decode cX0_heaviest 8 = .ok (.iload_n 2, 1) := by decide +kernel
theorem dX0_heaviest_9 : decode cX0_heaviest 9 = .ok (.aload_n 0, 1) := by decide +kernel
theorem dX0_heaviest_10 : decode cX0_heaviest 10 = .ok (.getfield 69, 3) := by decide +kernel
theorem dX0_heaviest_13 : decode cX0_heaviest 13 = .ok (.if_icmp .ge 26, 3) := by decide +kernel
theorem dX0_heaviest_16 : decode cX0_heaviest 16 = .ok (.aload_n 0, 1) := by decide +kernel
theorem dX0_heaviest_17 : decode cX0_heaviest 17 = .ok (.getfield 41, 3) := by decide +kernel
theorem dX0_heaviest_20 : decode cX0_heaviest 20 = .ok (.iload_n 2, 1) := by decide +kernel
theorem dX0_heaviest_21 : decode cX0_heaviest 21 = .ok (.saload, 1) := by decide +kernel
theorem dX0_heaviest_22 : decode cX0_heaviest 22 = .ok (.iload_n 1, 1) := by decide +kernel
theorem dX0_heaviest_23 : decode cX0_heaviest 23 = .ok (.if_icmp .le 10, 3) := by decide +kernel
theorem dX0_heaviest_26 : decode cX0_heaviest 26 = .ok (.aload_n 0, 1) := by decide +kernel
theorem dX0_heaviest_27 : decode cX0_heaviest 27 = .ok (.getfield 41, 3) := by decide +kernel
theorem dX0_heaviest_30 : decode cX0_heaviest 30 = .ok (.iload_n 2, 1) := by decide +kernel
theorem dX0_heaviest_31 : decode cX0_heaviest 31 = .ok (.saload, 1) := by decide +kernel
theorem dX0_heaviest_32 : decode cX0_heaviest 32 = .ok (.istore_n 1, 1) := by decide +kernel
theorem dX0_heaviest_33 : decode cX0_heaviest 33 = .ok (.iinc 2 1, 3) := by decide +kernel
theorem dX0_heaviest_36 : decode cX0_heaviest 36 = .ok (.goto (-28), 3) := by decide +kernel
theorem dX0_heaviest_39 : decode cX0_heaviest 39 = .ok (.iload_n 1, 1) := by decide +kernel
theorem dX0_heaviest_40 : decode cX0_heaviest 40 = .ok (.ireturn, 1) := by decide +kernel
theorem dX0_links_0 : decode cX0_links 0 = .ok (.iconst 0, 1) := by decide +kernel
theorem dX0_links_1 : decode cX0_links 1 = .ok (.istore_n 1, 1) := by decide +kernel
theorem dX0_links_2 : decode cX0_links 2 = .ok (.iconst 0, 1) := by decide +kernel
theorem dX0_links_3 : decode cX0_links 3 = .ok (.istore_n 2, 1) := by decide +kernel
theorem dX0_links_4 : decode cX0_links 4 = .ok (.iload_n 2, 1) := by decide +kernel
theorem dX0_links_5 : decode cX0_links 5 = .ok (.aload_n 0, 1) := by decide +kernel
theorem dX0_links_6 : decode cX0_links 6 = .ok (.getfield 69, 3) := by decide +kernel
theorem dX0_links_9 : decode cX0_links 9 = .ok (.if_icmp .ge 39, 3) := by decide +kernel
theorem dX0_links_12 : decode cX0_links 12 = .ok (.aload_n 0, 1) := by decide +kernel
theorem dX0_links_13 : decode cX0_links 13 = .ok (.iload_n 2, 1) := by decide +kernel
theorem dX0_links_14 : decode cX0_links 14 = .ok (.invokevirtual 94, 3) := by decide +kernel
theorem dX0_links_17 : decode cX0_links 17 = .ok (.istore_n 3, 1) := by decide +kernel
theorem dX0_links_18 : decode cX0_links 18 = .ok (.iconst 0, 1) := by decide +kernel
theorem dX0_links_19 : decode cX0_links 19 = .ok (.istore 4, 2) := by decide +kernel
theorem dX0_links_21 : decode cX0_links 21 = .ok (.iload 4, 2) := by decide +kernel
theorem dX0_links_23 : decode cX0_links 23 = .ok (.iload_n 2, 1) := by decide +kernel
theorem dX0_links_24 : decode cX0_links 24 = .ok (.if_icmp .ge 18, 3) := by decide +kernel
theorem dX0_links_27 : decode cX0_links 27 = .ok (.iload_n 1, 1) := by decide +kernel
theorem dX0_links_28 : decode cX0_links 28 = .ok (.iload_n 3, 1) := by decide +kernel
theorem dX0_links_29 : decode cX0_links 29 = .ok (.iload 4, 2) := by decide +kernel
theorem dX0_links_31 : decode cX0_links 31 = .ok (.ishr, 1) := by decide +kernel
theorem dX0_links_32 : decode cX0_links 32 = .ok (.iconst 1, 1) := by decide +kernel
theorem dX0_links_33 : decode cX0_links 33 = .ok (.iand, 1) := by decide +kernel
theorem dX0_links_34 : decode cX0_links 34 = .ok (.iadd, 1) := by decide +kernel
theorem dX0_links_35 : decode cX0_links 35 = .ok (.istore_n 1, 1) := by decide +kernel
theorem dX0_links_36 : decode cX0_links 36 = .ok (.iinc 4 1, 3) := by decide +kernel
theorem dX0_links_39 : decode cX0_links 39 = .ok (.goto (-18), 3) := by decide +kernel
theorem dX0_links_42 : decode cX0_links 42 = .ok (.iinc 2 1, 3) := by decide +kernel
theorem dX0_links_45 : decode cX0_links 45 = .ok (.goto (-41), 3) := by decide +kernel
theorem dX0_links_48 : decode cX0_links 48 = .ok (.iload_n 1, 1) := by decide +kernel
theorem dX0_links_49 : decode cX0_links 49 = .ok (.ireturn, 1) := by decide +kernel
end
section
set_option maxRecDepth 100000
theorem dX1_init_0 : decode cX1_init 0 = .ok (.aload_n 0, 1) := by decide +kernel
theorem dX1_init_1 : decode cX1_init 1 = .ok (.invokespecial 1, 3) := by decide +kernel
theorem dX1_init_4 : decode cX1_init 4 = .ok (.aload_n 0, 1) := by decide +kernel
theorem dX1_init_5 : decode cX1_init 5 = .ok (.iconst 0, 1) := by decide +kernel
theorem dX1_init_6 : decode cX1_init 6 = .ok (.putfield 7, 3) := by decide +kernel
theorem dX1_init_9 : decode cX1_init 9 = .ok (.aload_n 0, 1) := by decide +kernel
theorem dX1_init_10 : decode cX1_init 10 = .ok (.bipush 24, 2) := by decide +kernel
theorem dX1_init_12 : decode cX1_init 12 = .ok (.newarray .int, 2) := by decide +kernel
theorem dX1_init_14 : decode cX1_init 14 = .ok (.putfield 13, 3) := by decide +kernel
theorem dX1_init_17 : decode cX1_init 17 = .ok (.aload_n 0, 1) := by decide +kernel
theorem dX1_init_18 : decode cX1_init 18 = .ok (.bipush 24, 2) := by decide +kernel
theorem dX1_init_20 : decode cX1_init 20 = .ok (.newarray .int, 2) := by decide +kernel
theorem dX1_init_22 : decode cX1_init 22 = .ok (.putfield 17, 3) := by decide +kernel
theorem dX1_init_25 : decode cX1_init 25 = .ok (.aload_n 0, 1) := by decide +kernel
theorem dX1_init_26 : decode cX1_init 26 = .ok (.bipush 24, 2) := by decide +kernel
theorem dX1_init_28 : decode cX1_init 28 = .ok (.newarray .int, 2) := by decide +kernel
theorem dX1_init_30 : decode cX1_init 30 = .ok (.putfield 20, 3) := by decide +kernel
theorem dX1_init_33 : decode cX1_init 33 = .ok (.aload_n 0, 1) := by decide +kernel
theorem dX1_init_34 : decode cX1_init 34 = .ok (.bipush 24, 2) := by decide +kernel
theorem dX1_init_36 : decode cX1_init 36 = .ok (.newarray .int, 2) := by decide +kernel
theorem dX1_init_38 : decode cX1_init 38 = .ok (.putfield 23, 3) := by decide +kernel
theorem dX1_init_41 : decode cX1_init 41 = .ok (.aload_n 0, 1) := by decide +kernel
theorem dX1_init_42 : decode cX1_init 42 = .ok (.bipush 8, 2) := by decide +kernel
theorem dX1_init_44 : decode cX1_init 44 = .ok (.newarray .int, 2) := by decide +kernel
theorem dX1_init_46 : decode cX1_init 46 = .ok (.putfield 26, 3) := by decide +kernel
theorem dX1_init_49 : decode cX1_init 49 = .ok (.aload_n 0, 1) := by decide +kernel
theorem dX1_init_50 : decode cX1_init 50 = .ok (.bipush 16, 2) := by decide +kernel
theorem dX1_init_52 : decode cX1_init 52 = .ok (.newarray .int, 2) := by decide +kernel
theorem dX1_init_54 : decode cX1_init 54 = .ok (.putfield 29, 3) := by decide +kernel
theorem dX1_init_57 : decode cX1_init 57 = .ok (.aload_n 0, 1) := by decide +kernel
theorem dX1_init_58 : decode cX1_init 58 = .ok (.bipush 24, 2) := by decide +kernel
theorem dX1_init_60 : decode cX1_init 60 = .ok (.newarray .int, 2) := by decide +kernel
theorem dX1_init_62 : decode cX1_init 62 = .ok (.putfield 32, 3) := by decide +kernel
theorem dX1_init_65 : decode cX1_init 65 = .ok (.return_, 1) := by decide +kernel
theorem dX1_emit_0 : decode cX1_emit 0 = .ok (.aload_n 0, 1) := by decide +kernel
theorem dX1_emit_1 : decode cX1_emit 1 = .ok (.getfield 7, 3) := by decide +kernel
theorem dX1_emit_4 : decode cX1_emit 4 = .ok (.bipush 24, 2) := by decide +kernel
theorem dX1_emit_6 : decode cX1_emit 6 = .ok (.if_icmp .ne 6, 3) := by decide +kernel
theorem dX1_emit_9 : decode cX1_emit 9 = .ok (.bipush (-2), 2) := by decide +kernel
theorem dX1_emit_11 : decode cX1_emit 11 = .ok (.ireturn, 1) := by decide +kernel
theorem dX1_emit_12 : decode cX1_emit 12 = .ok (.iload_n 1, 1) := by decide +kernel
theorem dX1_emit_13 : decode cX1_emit 13 = .ok (.ifCond .lt 39, 3) := by decide +kernel
theorem dX1_emit_16 : decode cX1_emit 16 = .ok (.iload_n 1, 1) := by decide +kernel
theorem dX1_emit_17 : decode cX1_emit 17 = .ok (.bipush 8, 2) := by decide +kernel
theorem dX1_emit_19 : decode cX1_emit 19 = .ok (.if_icmp .gt 33, 3) := by decide +kernel
theorem dX1_emit_22 : decode cX1_emit 22 = .ok (.aload_n 0, 1) := by decide +kernel
theorem dX1_emit_23 : decode cX1_emit 23 = .ok (.iload_n 2, 1) := by decide +kernel
theorem dX1_emit_24 : decode cX1_emit 24 = .ok (.invokevirtual 35, 3) := by decide +kernel
theorem dX1_emit_27 : decode cX1_emit 27 = .ok (.ifCond .eq 25, 3) := by decide +kernel
theorem dX1_emit_30 : decode cX1_emit 30 = .ok (.aload_n 0, 1) := by decide +kernel
theorem dX1_emit_31 : decode cX1_emit 31 = .ok (.iload_n 3, 1) := by decide +kernel
theorem dX1_emit_32 : decode cX1_emit 32 = .ok (.invokevirtual 35, 3) := by decide +kernel
theorem dX1_emit_35 : decode cX1_emit 35 = .ok (.ifCond .eq 17, 3) := by decide +kernel
theorem dX1_emit_38 : decode cX1_emit 38 = .ok (.iload_n 1, 1) := by decide +kernel
theorem dX1_emit_39 : decode cX1_emit 39 = .ok (.iconst 5, 1) := by decide +kernel
theorem dX1_emit_40 : decode cX1_emit 40 = .ok (.if_icmp .gt 14, 3) := by decide +kernel
theorem dX1_emit_43 : decode cX1_emit 43 = .ok (.aload_n 0, 1) := by decide +kernel
theorem dX1_emit_44 : decode cX1_emit 44 = .ok (.iload 4, 2) := by decide +kernel
theorem dX1_emit_46 : decode cX1_emit 46 = .ok (.invokevirtual 35, 3) := by decide +kernel
theorem dX1_emit_49 : decode cX1_emit 49 = .ok (.ifCond .ne 5, 3) := by decide +kernel
theorem dX1_emit_52 : decode cX1_emit 52 = .ok (.iconst (-1), 1) := by decide +kernel
theorem dX1_emit_53 : decode cX1_emit 53 = .ok (.ireturn, 1) := by decide +kernel
theorem dX1_emit_54 : decode cX1_emit 54 = .ok (.aload_n 0, 1) := by decide +kernel
theorem dX1_emit_55 : decode cX1_emit 55 = .ok (.getfield 13, 3) := by decide +kernel
theorem dX1_emit_58 : decode cX1_emit 58 = .ok (.aload_n 0, 1) := by decide +kernel
theorem dX1_emit_59 : decode cX1_emit 59 = .ok (.getfield 7, 3) := by decide +kernel
theorem dX1_emit_62 : decode cX1_emit 62 = .ok (.iload_n 1, 1) := by decide +kernel
theorem dX1_emit_63 : decode cX1_emit 63 = .ok (.iastore, 1) := by decide +kernel
theorem dX1_emit_64 : decode cX1_emit 64 = .ok (.aload_n 0, 1) := by decide +kernel
theorem dX1_emit_65 : decode cX1_emit 65 = .ok (.getfield 17, 3) := by decide +kernel
theorem dX1_emit_68 : decode cX1_emit 68 = .ok (.aload_n 0, 1) := by decide +kernel
theorem dX1_emit_69 : decode cX1_emit 69 = .ok (.getfield 7, 3) := by decide +kernel
theorem dX1_emit_72 : decode cX1_emit 72 = .ok (.iload_n 2, 1) := by decide +kernel
theorem dX1_emit_73 : decode cX1_emit 73 = .ok (.iastore, 1) := by decide +kernel
theorem dX1_emit_74 : decode cX1_emit 74 = .ok (.aload_n 0, 1) := by decide +kernel
theorem dX1_emit_75 : decode cX1_emit 75 = .ok (.getfield 20, 3) := by decide +kernel
theorem dX1_emit_78 : decode cX1_emit 78 = .ok (.aload_n 0, 1) := by decide +kernel
theorem dX1_emit_79 : decode cX1_emit 79 = .ok (.getfield 7, 3) := by decide +kernel
theorem dX1_emit_82 : decode cX1_emit 82 = .ok (.iload_n 3, 1) := by decide +kernel
theorem dX1_emit_83 : decode cX1_emit 83 = .ok (.iastore, 1) := by decide +kernel
theorem dX1_emit_84 : decode cX1_emit 84 = .ok (.aload_n 0, 1) := by decide +kernel
theorem dX1_emit_85 : decode cX1_emit 85 = .ok (.getfield 23, 3) := by decide +kernel
theorem dX1_emit_88 : decode cX1_emit 88 = .ok (.aload_n 0, 1) := by decide +kernel
theorem dX1_emit_89 : decode cX1_emit 89 = .ok (.getfield 7, 3) := by decide +kernel
theorem dX1_emit_92 : decode cX1_emit 92 = .ok (.iload 4, 2) := by decide +kernel
theorem dX1_emit_94 : decode cX1_emit 94 = .ok (.iastore, 1) := by decide +kernel
theorem dX1_emit_95 : decode cX1_emit 95 = .ok (.aload_n 0, 1) := by decide +kernel
theorem dX1_emit_96 : decode cX1_emit 96 = .ok (.dup, 1) := by decide +kernel
theorem dX1_emit_97 : decode cX1_emit 97 = .ok (.getfield 7, 3) := by decide +kernel
theorem dX1_emit_100 : decode cX1_emit 100 = .ok (.iconst 1, 1) := by decide +kernel
theorem dX1_emit_101 : decode cX1_emit 101 = .ok (.iadd, 1) := by decide +kernel
theorem dX1_emit_102 : decode cX1_emit 102 = .ok (.putfield 7, 3) := by decide +kernel
theorem dX1_emit_105 : decode cX1_emit 105 = .ok (.aload_n 0, 1) := by decide +kernel
theorem dX1_emit_106 : decode cX1_emit 106 = .ok (.getfield 7, 3) := by decide +kernel
theorem dX1_emit_109 : decode cX1_emit 109 = .ok (.ireturn, 1) := by decide +kernel
theorem dX1_isRegister_0 : decode cX1_isRegister 0 = .ok (.iload_n 1, 1) := by decide +kernel
theorem dX1_isRegister_1 : decode cX1_isRegister 1 = .ok (.ifCond .lt 13, 3) := by decide +kernel
theorem dX1_isRegister_4 : decode cX1_isRegister 4 = .ok (.iload_n 1, 1) := by decide +kernel
theorem dX1_isRegister_5 : decode cX1_isRegister 5 = .ok (.bipush 7, 2) := by decide +kernel
theorem dX1_isRegister_7 : decode cX1_isRegister 7 = .ok (.if_icmp .gt 7, 3) := by decide +kernel
theorem dX1_isRegister_10 : decode cX1_isRegister 10 = .ok (.iconst 1, 1) := by decide +kernel
theorem dX1_isRegister_11 : decode cX1_isRegister 11 = .ok (.goto 4, 3) := by decide +kernel
theorem dX1_isRegister_14 : decode cX1_isRegister 14 = .ok (.iconst 0, 1) := by decide +kernel
theorem dX1_isRegister_15 : decode cX1_isRegister 15 = .ok (.ireturn, 1) := by decide +kernel
theorem dX1_retract_0 : decode cX1_retract 0 = .ok (.aload_n 0, 1) := by decide +kernel
theorem dX1_retract_1 : decode cX1_retract 1 = .ok (.getfield 7, 3) := by decide +kernel
theorem dX1_retract_4 : decode cX1_retract 4 = .ok (.ifCond .ne 5, 3) := by decide +kernel
theorem dX1_retract_7 : decode cX1_retract 7 = .ok (.iconst (-1), 1) := by decide +kernel
theorem dX1_retract_8 : decode cX1_retract 8 = .ok (.ireturn, 1) := by decide +kernel
theorem dX1_retract_9 : decode cX1_retract 9 = .ok (.aload_n 0, 1) := by decide +kernel
theorem dX1_retract_10 : decode cX1_retract 10 = .ok (.dup, 1) := by decide +kernel
theorem dX1_retract_11 : decode cX1_retract 11 = .ok (.getfield 7, 3) := by decide +kernel
theorem dX1_retract_14 : decode cX1_retract 14 = .ok (.iconst 1, 1) := by decide +kernel
theorem dX1_retract_15 : decode cX1_retract 15 = .ok (.isub, 1) := by decide +kernel
theorem dX1_retract_16 : decode cX1_retract 16 = .ok (.putfield 7, 3) := by decide +kernel
theorem dX1_retract_19 : decode cX1_retract 19 = .ok (.aload_n 0, 1) := by decide +kernel
theorem dX1_retract_20 : decode cX1_retract 20 = .ok (.getfield 7, 3) := by decide +kernel
theorem dX1_retract_23 : decode cX1_retract 23 = .ok (.ireturn, 1) := by decide +kernel
theorem dX1_drop_0 : decode cX1_drop 0 = .ok (.aload_n 0, 1) := by decide +kernel
theorem dX1_drop_1 : decode cX1_drop 1 = .ok (.getfield 7, 3) := by decide +kernel
theorem dX1_drop_4 : decode cX1_drop 4 = .ok (.istore_n 1, 1) := by decide +kernel
theorem dX1_drop_5 : decode cX1_drop 5 = .ok (.aload_n 0, 1) := by decide +kernel
theorem dX1_drop_6 : decode cX1_drop 6 = .ok (.iconst 0, 1) := by decide +kernel
theorem dX1_drop_7 : decode cX1_drop 7 = .ok (.putfield 7, 3) := by decide +kernel
theorem dX1_drop_10 : decode cX1_drop 10 = .ok (.iload_n 1, 1) := by decide +kernel
theorem dX1_drop_11 : decode cX1_drop 11 = .ok (.ireturn, 1) := by decide +kernel
theorem dX1_run_0 : decode cX1_run 0 = .ok (.iconst 0, 1) := by decide +kernel
theorem dX1_run_1 : decode cX1_run 1 = .ok (.istore_n 1, 1) := by decide +kernel
theorem dX1_run_2 : decode cX1_run 2 = .ok (.iload_n 1, 1) := by decide +kernel
theorem dX1_run_3 : decode cX1_run 3 = .ok (.aload_n 0, 1) := by decide +kernel
theorem dX1_run_4 : decode cX1_run 4 = .ok (.getfield 7, 3) := by decide +kernel
theorem dX1_run_7 : decode cX1_run 7 = .ok (.if_icmp .ge 14, 3) := by decide +kernel
theorem dX1_run_10 : decode cX1_run 10 = .ok (.aload_n 0, 1) := by decide +kernel
theorem dX1_run_11 : decode cX1_run 11 = .ok (.iload_n 1, 1) := by decide +kernel
theorem dX1_run_12 : decode cX1_run 12 = .ok (.invokevirtual 39, 3) := by decide +kernel
theorem dX1_run_15 : decode cX1_run 15 = .ok (.iinc 1 1, 3) := by decide +kernel
theorem dX1_run_18 : decode cX1_run 18 = .ok (.goto (-16), 3) := by decide +kernel
theorem dX1_run_21 : decode cX1_run 21 = .ok (.aload_n 0, 1) := by decide +kernel
theorem dX1_run_22 : decode cX1_run 22 = .ok (.getfield 7, 3) := by decide +kernel
theorem dX1_run_25 : decode cX1_run 25 = .ok (.ireturn, 1) := by decide +kernel
theorem dX1_execute_0 : decode cX1_execute 0 = .ok (.aload_n 0, 1) := by decide +kernel
theorem dX1_execute_1 : decode cX1_execute 1 = .ok (.getfield 26, 3) := by decide +kernel
theorem dX1_execute_4 : decode cX1_execute 4 = .ok (.aload_n 0, 1) := by decide +kernel
theorem dX1_execute_5 : decode cX1_execute 5 = .ok (.getfield 20, 3) := by decide +kernel
theorem dX1_execute_8 : decode cX1_execute 8 = .ok (.iload_n 1, 1) := by decide +kernel
theorem dX1_execute_9 : decode cX1_execute 9 = .ok (.iaload, 1) := by decide +kernel
theorem dX1_execute_10 : decode cX1_execute 10 = .ok (.iaload, 1) := by decide +kernel
theorem dX1_execute_11 : decode cX1_execute 11 = .ok (.istore_n 2, 1) := by decide +kernel
theorem dX1_execute_12 : decode cX1_execute 12 = .ok (.aload_n 0, 1) := by decide +kernel
theorem dX1_execute_13 : decode cX1_execute 13 = .ok (.getfield 13, 3) := by decide +kernel
theorem dX1_execute_16 : decode cX1_execute 16 = .ok (.iload_n 1, 1) := by decide +kernel
theorem dX1_execute_17 : decode cX1_execute 17 = .ok (.iaload, 1) := by decide +kernel
theorem dX1_execute_18 : decode cX1_execute 18 = .ok (.iconst 5, 1) := by decide +kernel
theorem dX1_execute_19 : decode cX1_execute 19 = .ok (.if_icmp .gt 17, 3) := by decide +kernel
theorem dX1_execute_22 : decode cX1_execute 22 = .ok (.aload_n 0, 1) := by decide +kernel
theorem dX1_execute_23 : decode cX1_execute 23 = .ok (.getfield 26, 3) := by decide +kernel
theorem dX1_execute_26 : decode cX1_execute 26 = .ok (.aload_n 0, 1) := by decide +kernel
theorem dX1_execute_27 : decode cX1_execute 27 = .ok (.getfield 23, 3) := by decide +kernel
theorem dX1_execute_30 : decode cX1_execute 30 = .ok (.iload_n 1, 1) := by decide +kernel
theorem dX1_execute_31 : decode cX1_execute 31 = .ok (.iaload, 1) := by decide +kernel
theorem dX1_execute_32 : decode cX1_execute 32 = .ok (.iaload, 1) := by decide +kernel
theorem dX1_execute_33 : decode cX1_execute 33 = .ok (.goto 4, 3) := by decide +kernel
theorem dX1_execute_36 : decode cX1_execute 36 = .ok (.iconst 0, 1) := by decide +kernel
theorem dX1_execute_37 : decode cX1_execute 37 = .ok (.istore_n 3, 1) := by decide +kernel
theorem dX1_execute_38 : decode cX1_execute 38 = .ok (.iload_n 2, 1) := by decide +kernel
theorem dX1_execute_39 : decode cX1_execute 39 = .ok (.aload_n 0, 1) := by decide +kernel
theorem dX1_execute_40 : decode cX1_execute 40 = .ok (.getfield 23, 3) := by decide +kernel
theorem dX1_execute_43 : decode cX1_execute 43 = .ok (.iload_n 1, 1) := by decide +kernel
theorem dX1_execute_44 : decode cX1_execute 44 = .ok (.iaload, 1) := by decide +kernel
theorem dX1_execute_45 : decode cX1_execute 45 = .ok (.iadd, 1) := by decide +kernel
theorem dX1_execute_46 : decode cX1_execute 46 = .ok (.bipush 15, 2) := by decide +kernel
theorem dX1_execute_48 : decode cX1_execute 48 = .ok (.iand, 1) := by decide +kernel
theorem dX1_execute_49 : decode cX1_execute 49 = .ok (.istore 4, 2) := by decide +kernel
theorem dX1_execute_51 : decode cX1_execute 51 = .ok (.aload_n 0, 1) := by decide +kernel
theorem dX1_execute_52 : decode cX1_execute 52 = .ok (.getfield 13, 3) := by decide +kernel
theorem dX1_execute_55 : decode cX1_execute 55 = .ok (.iload_n 1, 1) := by decide +kernel
theorem dX1_execute_56 : decode cX1_execute 56 = .ok (.iaload, 1) := by decide +kernel
theorem dX1_execute_57 : decode cX1_execute 57 = .ok (.ifCond .ne 17, 3) := by decide +kernel
theorem dX1_execute_60 : decode cX1_execute 60 = .ok (.aload_n 0, 1) := by decide +kernel
theorem dX1_execute_61 : decode cX1_execute 61 = .ok (.getfield 26, 3) := by decide +kernel
theorem dX1_execute_64 : decode cX1_execute 64 = .ok (.aload_n 0, 1) := by decide +kernel
theorem dX1_execute_65 : decode cX1_execute 65 = .ok (.getfield 17, 3) := by decide +kernel
theorem dX1_execute_68 : decode cX1_execute 68 = .ok (.iload_n 1, 1) := by decide +kernel
theorem dX1_execute_69 : decode cX1_execute 69 = .ok (.iaload, 1) := by decide +kernel
theorem dX1_execute_70 : decode cX1_execute 70 = .ok (.iload_n 2, 1) := by decide +kernel
theorem dX1_execute_71 : decode cX1_execute 71 = .ok (.iload_n 3, 1) := by decide +kernel
theorem dX1_execute_72 : decode cX1_execute 72 = .ok (.iadd, 1) := by decide +kernel
theorem dX1_execute_73 : decode cX1_execute 73 = .ok (.iastore, 1) := by decide +kernel
theorem dX1_execute_74 : decode cX1_execute 74 = .ok (.aload_n 0, 1) := by decide +kernel
theorem dX1_execute_75 : decode cX1_execute 75 = .ok (.getfield 13, 3) := by decide +kernel
theorem dX1_execute_78 : decode cX1_execute 78 = .ok (.iload_n 1, 1) := by decide +kernel
theorem dX1_execute_79 : decode cX1_execute 79 = .ok (.iaload, 1) := by decide +kernel
theorem dX1_execute_80 : decode cX1_execute 80 = .ok (.iconst 1, 1) := by decide +kernel
theorem dX1_execute_81 : decode cX1_execute 81 = .ok (.if_icmp .ne 17, 3) := by decide +kernel
theorem dX1_execute_84 : decode cX1_execute 84 = .ok (.aload_n 0, 1) := by decide +kernel
theorem dX1_execute_85 : decode cX1_execute 85 = .ok (.getfield 26, 3) := by decide +kernel
theorem dX1_execute_88 : decode cX1_execute 88 = .ok (.aload_n 0, 1) := by decide +kernel
theorem dX1_execute_89 : decode cX1_execute 89 = .ok (.getfield 17, 3) := by decide +kernel
theorem dX1_execute_92 : decode cX1_execute 92 = .ok (.iload_n 1, 1) := by decide +kernel
theorem dX1_execute_93 : decode cX1_execute 93 = .ok (.iaload, 1) := by decide +kernel
theorem dX1_execute_94 : decode cX1_execute 94 = .ok (.iload_n 2, 1) := by decide +kernel
theorem dX1_execute_95 : decode cX1_execute 95 = .ok (.iload_n 3, 1) := by decide +kernel
theorem dX1_execute_96 : decode cX1_execute 96 = .ok (.isub, 1) := by decide +kernel
theorem dX1_execute_97 : decode cX1_execute 97 = .ok (.iastore, 1) := by decide +kernel
theorem dX1_execute_98 : decode cX1_execute 98 = .ok (.aload_n 0, 1) := by decide +kernel
theorem dX1_execute_99 : decode cX1_execute 99 = .ok (.getfield 13, 3) := by decide +kernel
theorem dX1_execute_102 : decode cX1_execute 102 = .ok (.iload_n 1, 1) := by decide +kernel
theorem dX1_execute_103 : decode cX1_execute 103 = .ok (.iaload, 1) := by decide +kernel
theorem dX1_execute_104 : decode cX1_execute 104 = .ok (.iconst 2, 1) := by decide +kernel
theorem dX1_execute_105 : decode cX1_execute 105 = .ok (.if_icmp .ne 17, 3) := by decide +kernel
theorem dX1_execute_108 : decode cX1_execute 108 = .ok (.aload_n 0, 1) := by decide +kernel
theorem dX1_execute_109 : decode cX1_execute 109 = .ok (.getfield 26, 3) := by decide +kernel
theorem dX1_execute_112 : decode cX1_execute 112 = .ok (.aload_n 0, 1) := by decide +kernel
theorem dX1_execute_113 : decode cX1_execute 113 = .ok (.getfield 17, 3) := by decide +kernel
theorem dX1_execute_116 : decode cX1_execute 116 = .ok (.iload_n 1, 1) := by decide +kernel
theorem dX1_execute_117 : decode cX1_execute 117 = .ok (.iaload, 1) := by decide +kernel
theorem dX1_execute_118 : decode cX1_execute 118 = .ok (.iload_n 2, 1) := by decide +kernel
theorem dX1_execute_119 : decode cX1_execute 119 = .ok (.iload_n 3, 1) := by decide +kernel
theorem dX1_execute_120 : decode cX1_execute 120 = .ok (.imul, 1) := by decide +kernel
theorem dX1_execute_121 : decode cX1_execute 121 = .ok (.iastore, 1) := by decide +kernel
theorem dX1_execute_122 : decode cX1_execute 122 = .ok (.aload_n 0, 1) := by decide +kernel
theorem dX1_execute_123 : decode cX1_execute 123 = .ok (.getfield 13, 3) := by decide +kernel
theorem dX1_execute_126 : decode cX1_execute 126 = .ok (.iload_n 1, 1) := by decide +kernel
theorem dX1_execute_127 : decode cX1_execute 127 = .ok (.iaload, 1) := by decide +kernel
theorem dX1_execute_128 : decode cX1_execute 128 = .ok (.iconst 3, 1) := by decide +kernel
theorem dX1_execute_129 : decode cX1_execute 129 = .ok (.if_icmp .ne 17, 3) := by decide +kernel
theorem dX1_execute_132 : decode cX1_execute 132 = .ok (.aload_n 0, 1) := by decide +kernel
theorem dX1_execute_133 : decode cX1_execute 133 = .ok (.getfield 26, 3) := by decide +kernel
theorem dX1_execute_136 : decode cX1_execute 136 = .ok (.aload_n 0, 1) := by decide +kernel
theorem dX1_execute_137 : decode cX1_execute 137 = .ok (.getfield 17, 3) := by decide +kernel
theorem dX1_execute_140 : decode cX1_execute 140 = .ok (.iload_n 1, 1) := by decide +kernel
theorem dX1_execute_141 : decode cX1_execute 141 = .ok (.iaload, 1) := by decide +kernel
theorem dX1_execute_142 : decode cX1_execute 142 = .ok (.iload_n 2, 1) := by decide +kernel
theorem dX1_execute_143 : decode cX1_execute 143 = .ok (.iload_n 3, 1) := by decide +kernel
theorem dX1_execute_144 : decode cX1_execute 144 = .ok (.ixor, 1) := by decide +kernel
theorem dX1_execute_145 : decode cX1_execute 145 = .ok (.iastore, 1) := by decide +kernel
theorem dX1_execute_146 : decode cX1_execute 146 = .ok (.aload_n 0, 1) := by decide +kernel
theorem dX1_execute_147 : decode cX1_execute 147 = .ok (.getfield 13, 3) := by decide +kernel
theorem dX1_execute_150 : decode cX1_execute 150 = .ok (.iload_n 1, 1) := by decide +kernel
theorem dX1_execute_151 : decode cX1_execute 151 = .ok (.iaload, 1) := by decide +kernel
theorem dX1_execute_152 : decode cX1_execute 152 = .ok (.iconst 4, 1) := by decide +kernel
theorem dX1_execute_153 : decode cX1_execute 153 = .ok (.if_icmp .ne 24, 3) := by decide +kernel
theorem dX1_execute_156 : decode cX1_execute 156 = .ok (.aload_n 0, 1) := by decide +kernel
theorem dX1_execute_157 : decode cX1_execute 157 = .ok (.getfield 26, 3) := by decide +kernel
theorem dX1_execute_160 : decode cX1_execute 160 = .ok (.aload_n 0, 1) := by decide +kernel
theorem dX1_execute_161 : decode cX1_execute 161 = .ok (.getfield 17, 3) := by decide +kernel
theorem dX1_execute_164 : decode cX1_execute 164 = .ok (.iload_n 1, 1) := by decide +kernel
theorem dX1_execute_165 : decode cX1_execute 165 = .ok (.iaload, 1) := by decide +kernel
theorem dX1_execute_166 : decode cX1_execute 166 = .ok (.iload_n 2, 1) := by decide +kernel
theorem dX1_execute_167 : decode cX1_execute 167 = .ok (.iload_n 3, 1) := by decide +kernel
theorem dX1_execute_168 : decode cX1_execute 168 = .ok (.if_icmp .ge 7, 3) := by decide +kernel
theorem dX1_execute_171 : decode cX1_execute 171 = .ok (.iconst 1, 1) := by decide +kernel
theorem dX1_execute_172 : decode cX1_execute 172 = .ok (.goto 4, 3) := by decide +kernel
theorem dX1_execute_175 : decode cX1_execute 175 = .ok (.iconst 0, 1) := by decide +kernel
theorem dX1_execute_176 : decode cX1_execute 176 = .ok (.iastore, 1) := by decide +kernel
theorem dX1_execute_177 : decode cX1_execute 177 = .ok (.aload_n 0, 1) := by decide +kernel
theorem dX1_execute_178 : decode cX1_execute 178 = .ok (.getfield 13, 3) := by decide +kernel
theorem dX1_execute_181 : decode cX1_execute 181 = .ok (.iload_n 1, 1) := by decide +kernel
theorem dX1_execute_182 : decode cX1_execute 182 = .ok (.iaload, 1) := by decide +kernel
theorem dX1_execute_183 : decode cX1_execute 183 = .ok (.iconst 5, 1) := by decide +kernel
theorem dX1_execute_184 : decode cX1_execute 184 = .ok (.if_icmp .ne 33, 3) := by decide +kernel
theorem dX1_execute_187 : decode cX1_execute 187 = .ok (.aload_n 0, 1) := by decide +kernel
theorem dX1_execute_188 : decode cX1_execute 188 = .ok (.getfield 26, 3) := by decide +kernel
theorem dX1_execute_191 : decode cX1_execute 191 = .ok (.aload_n 0, 1) := by decide +kernel
theorem dX1_execute_192 : decode cX1_execute 192 = .ok (.getfield 17, 3) := by decide +kernel
theorem dX1_execute_195 : decode cX1_execute 195 = .ok (.iload_n 1, 1) := by decide +kernel
theorem dX1_execute_196 : decode cX1_execute 196 = .ok (.iaload, 1) := by decide +kernel
theorem dX1_execute_197 : decode cX1_execute 197 = .ok (.aload_n 0, 1) := by decide +kernel
theorem dX1_execute_198 : decode cX1_execute 198 = .ok (.getfield 26, 3) := by decide +kernel
theorem dX1_execute_201 : decode cX1_execute 201 = .ok (.aload_n 0, 1) := by decide +kernel
theorem dX1_execute_202 : decode cX1_execute 202 = .ok (.getfield 17, 3) := by decide +kernel
theorem dX1_execute_205 : decode cX1_execute 205 = .ok (.iload_n 1, 1) := by decide +kernel
theorem dX1_execute_206 : decode cX1_execute 206 = .ok (.iaload, 1) := by decide +kernel
theorem dX1_execute_207 : decode cX1_execute 207 = .ok (.iaload, 1) := by decide +kernel
theorem dX1_execute_208 : decode cX1_execute 208 = .ok (.ifCond .eq 7, 3) := by decide +kernel
theorem dX1_execute_211 : decode cX1_execute 211 = .ok (.iload_n 2, 1) := by decide +kernel
theorem dX1_execute_212 : decode cX1_execute 212 = .ok (.goto 4, 3) := by decide +kernel
theorem dX1_execute_215 : decode cX1_execute 215 = .ok (.iload_n 3, 1) := by decide +kernel
theorem dX1_execute_216 : decode cX1_execute 216 = .ok (.iastore, 1) := by decide +kernel
theorem dX1_execute_217 : decode cX1_execute 217 = .ok (.aload_n 0, 1) := by decide +kernel
theorem dX1_execute_218 : decode cX1_execute 218 = .ok (.getfield 13, 3) := by decide +kernel
theorem dX1_execute_221 : decode cX1_execute 221 = .ok (.iload_n 1, 1) := by decide +kernel
theorem dX1_execute_222 : decode cX1_execute 222 = .ok (.iaload, 1) := by decide +kernel
theorem dX1_execute_223 : decode cX1_execute 223 = .ok (.bipush 6, 2) := by decide +kernel
theorem dX1_execute_225 : decode cX1_execute 225 = .ok (.if_icmp .ne 22, 3) := by decide +kernel
theorem dX1_execute_228 : decode cX1_execute 228 = .ok (.aload_n 0, 1) := by decide +kernel
theorem dX1_execute_229 : decode cX1_execute 229 = .ok (.getfield 26, 3) := by decide +kernel
theorem dX1_execute_232 : decode cX1_execute 232 = .ok (.aload_n 0, 1) := by decide +kernel
theorem dX1_execute_233 : decode cX1_execute 233 = .ok (.getfield 17, 3) := by decide +kernel
theorem dX1_execute_236 : decode cX1_execute 236 = .ok (.iload_n 1, 1) := by decide +kernel
theorem dX1_execute_237 : decode cX1_execute 237 = .ok (.iaload, 1) := by decide +kernel
theorem dX1_execute_238 : decode cX1_execute 238 = .ok (.iload_n 2, 1) := by decide +kernel
theorem dX1_execute_239 : decode cX1_execute 239 = .ok (.aload_n 0, 1) := by decide +kernel
theorem dX1_execute_240 : decode cX1_execute 240 = .ok (.getfield 23, 3) := by decide +kernel
theorem dX1_execute_243 : decode cX1_execute 243 = .ok (.iload_n 1, 1) := by decide +kernel
theorem dX1_execute_244 : decode cX1_execute 244 = .ok (.iaload, 1) := by decide +kernel
theorem dX1_execute_245 : decode cX1_execute 245 = .ok (.iadd, 1) := by decide +kernel
theorem dX1_execute_246 : decode cX1_execute 246 = .ok (.iastore, 1) := by decide +kernel
theorem dX1_execute_247 : decode cX1_execute 247 = .ok (.aload_n 0, 1) := by decide +kernel
theorem dX1_execute_248 : decode cX1_execute 248 = .ok (.getfield 13, 3) := by decide +kernel
theorem dX1_execute_251 : decode cX1_execute 251 = .ok (.iload_n 1, 1) := by decide +kernel
theorem dX1_execute_252 : decode cX1_execute 252 = .ok (.iaload, 1) := by decide +kernel
theorem dX1_execute_253 : decode cX1_execute 253 = .ok (.bipush 7, 2) := by decide +kernel
theorem dX1_execute_255 : decode cX1_execute 255 = .ok (.if_icmp .ne 21, 3) := by decide +kernel
theorem dX1_execute_258 : decode cX1_execute 258 = .ok (.aload_n 0, 1) := by decide +kernel
theorem dX1_execute_259 : decode cX1_execute 259 = .ok (.getfield 26, 3) := by decide +kernel
theorem dX1_execute_262 : decode cX1_execute 262 = .ok (.aload_n 0, 1) := by decide +kernel
theorem dX1_execute_263 : decode cX1_execute 263 = .ok (.getfield 17, 3) := by decide +kernel
theorem dX1_execute_266 : decode cX1_execute 266 = .ok (.iload_n 1, 1) := by decide +kernel
theorem dX1_execute_267 : decode cX1_execute 267 = .ok (.iaload, 1) := by decide +kernel
theorem dX1_execute_268 : decode cX1_execute 268 = .ok (.aload_n 0, 1) := by decide +kernel
theorem dX1_execute_269 : decode cX1_execute 269 = .ok (.getfield 29, 3) := by decide +kernel
theorem dX1_execute_272 : decode cX1_execute 272 = .ok (.iload 4, 2) := by decide +kernel
theorem dX1_execute_274 : decode cX1_execute 274 = .ok (.iaload, 1) := by decide +kernel
theorem dX1_execute_275 : decode cX1_execute 275 = .ok (.iastore, 1) := by decide +kernel
theorem dX1_execute_276 : decode cX1_execute 276 = .ok (.aload_n 0, 1) := by decide +kernel
theorem dX1_execute_277 : decode cX1_execute 277 = .ok (.getfield 13, 3) := by decide +kernel
theorem dX1_execute_280 : decode cX1_execute 280 = .ok (.iload_n 1, 1) := by decide +kernel
theorem dX1_execute_281 : decode cX1_execute 281 = .ok (.iaload, 1) := by decide +kernel
theorem dX1_execute_282 : decode cX1_execute 282 = .ok (.bipush 8, 2) := by decide +kernel
theorem dX1_execute_284 : decode cX1_execute 284 = .ok (.if_icmp .ne 21, 3) := by decide +kernel
theorem dX1_execute_287 : decode cX1_execute 287 = .ok (.aload_n 0, 1) := by decide +kernel
theorem dX1_execute_288 : decode cX1_execute 288 = .ok (.getfield 29, 3) := by decide +kernel
theorem dX1_execute_291 : decode cX1_execute 291 = .ok (.iload 4, 2) := by decide +kernel
theorem dX1_execute_293 : decode cX1_execute 293 = .ok (.aload_n 0, 1) := by decide +kernel
theorem dX1_execute_294 : decode cX1_execute 294 = .ok (.getfield 26, 3) := by decide +kernel
theorem dX1_execute_297 : decode cX1_execute 297 = .ok (.aload_n 0, 1) := by decide +kernel
theorem dX1_execute_298 : decode cX1_execute 298 = .ok (.getfield 17, 3) := by decide +kernel
theorem dX1_execute_301 : decode cX1_execute 301 = .ok (.iload_n 1, 1) := by decide +kernel
theorem dX1_execute_302 : decode cX1_execute 302 = .ok (.iaload, 1) := by decide +kernel
theorem dX1_execute_303 : decode cX1_execute 303 = .ok (.iaload, 1) := by decide +kernel
theorem dX1_execute_304 : decode cX1_execute 304 = .ok (.iastore, 1) := by decide +kernel
theorem dX1_execute_305 : decode cX1_execute 305 = .ok (.return_, 1) := by decide +kernel
theorem dX1_register_0 : decode cX1_register 0 = .ok (.aload_n 0, 1) := by decide +kernel
theorem dX1_register_1 : decode cX1_register 1 = .ok (.iload_n 1, 1) := by decide +kernel
theorem dX1_register_2 : decode cX1_register 2 = .ok (.invokevirtual 35, 3) := by decide +kernel
theorem dX1_register_5 : decode cX1_register 5 = .ok (.ifCond .eq 12, 3) := by decide +kernel
theorem dX1_register_8 : decode cX1_register 8 = .ok (.aload_n 0, 1) := by decide +kernel
theorem dX1_register_9 : decode cX1_register 9 = .ok (.getfield 26, 3) := by decide +kernel
theorem dX1_register_12 : decode cX1_register 12 = .ok (.iload_n 1, 1) := by decide +kernel
theorem dX1_register_13 : decode cX1_register 13 = .ok (.iaload, 1) := by decide +kernel
theorem dX1_register_14 : decode cX1_register 14 = .ok (.goto 4, 3) := by decide +kernel
theorem dX1_register_17 : decode cX1_register 17 = .ok (.iconst 0, 1) := by decide +kernel
theorem dX1_register_18 : decode cX1_register 18 = .ok (.ireturn, 1) := by decide +kernel
theorem dX1_setRegister_0 : decode cX1_setRegister 0 = .ok (.aload_n 0, 1) := by decide +kernel
theorem dX1_setRegister_1 : decode cX1_setRegister 1 = .ok (.iload_n 1, 1) := by decide +kernel
theorem dX1_setRegister_2 : decode cX1_setRegister 2 = .ok (.invokevirtual 35, 3) := by decide +kernel
theorem dX1_setRegister_5 : decode cX1_setRegister 5 = .ok (.ifCond .ne 5, 3) := by decide +kernel
theorem dX1_setRegister_8 : decode cX1_setRegister 8 = .ok (.iconst 0, 1) := by decide +kernel
theorem dX1_setRegister_9 : decode cX1_setRegister 9 = .ok (.ireturn, 1) := by decide +kernel
theorem dX1_setRegister_10 : decode cX1_setRegister 10 = .ok (.aload_n 0, 1) := by decide +kernel
theorem dX1_setRegister_11 : decode cX1_setRegister 11 = .ok (.getfield 26, 3) := by decide +kernel
theorem dX1_setRegister_14 : decode cX1_setRegister 14 = .ok (.iload_n 1, 1) := by decide +kernel
theorem dX1_setRegister_15 : decode cX1_setRegister 15 = .ok (.iload_n 2, 1) := by decide +kernel
theorem dX1_setRegister_16 : decode cX1_setRegister 16 = .ok (.iastore, 1) := by decide +kernel
theorem dX1_setRegister_17 : decode cX1_setRegister 17 = .ok (.iconst 1, 1) := by decide +kernel
theorem dX1_setRegister_18 : decode cX1_setRegister 18 = .ok (.ireturn, 1) := by decide +kernel
theorem dX1_memory_0 : decode cX1_memory 0 = .ok (.iload_n 1, 1) := by decide +kernel
theorem dX1_memory_1 : decode cX1_memory 1 = .ok (.ifCond .lt 18, 3) := by decide +kernel
theorem dX1_memory_4 : decode cX1_memory 4 = .ok (.iload_n 1, 1) := by decide +kernel
theorem dX1_memory_5 : decode cX1_memory 5 = .ok (.bipush 15, 2) := by decide +kernel
theorem dX1_memory_7 : decode cX1_memory 7 = .ok (.if_icmp .gt 12, 3) := by decide +kernel
theorem dX1_memory_10 : decode cX1_memory 10 = .ok (.aload_n 0, 1) := by decide +kernel
theorem dX1_memory_11 : decode cX1_memory 11 = .ok (.getfield 29, 3) := by decide +kernel
theorem dX1_memory_14 : decode cX1_memory 14 = .ok (.iload_n 1, 1) := by decide +kernel
theorem dX1_memory_15 : decode cX1_memory 15 = .ok (.iaload, 1) := by decide +kernel
theorem dX1_memory_16 : decode cX1_memory 16 = .ok (.goto 4, 3) := by decide +kernel
theorem dX1_memory_19 : decode cX1_memory 19 = .ok (.iconst 0, 1) := by decide +kernel
theorem dX1_memory_20 : decode cX1_memory 20 = .ok (.ireturn, 1) := by decide +kernel
theorem dX1_setMemory_0 : decode cX1_setMemory 0 = .ok (.iload_n 1, 1) := by decide +kernel
theorem dX1_setMemory_1 : decode cX1_setMemory 1 = .ok (.ifCond .lt 9, 3) := by decide +kernel
theorem dX1_setMemory_4 : decode cX1_setMemory 4 = .ok (.iload_n 1, 1) := by decide +kernel
theorem dX1_setMemory_5 : decode cX1_setMemory 5 = .ok (.bipush 15, 2) := by decide +kernel
theorem dX1_setMemory_7 : decode cX1_setMemory 7 = .ok (.if_icmp .le 5, 3) := by decide +kernel
theorem dX1_setMemory_10 : decode cX1_setMemory 10 = .ok (.iconst 0, 1) := by decide +kernel
theorem dX1_setMemory_11 : decode cX1_setMemory 11 = .ok (.ireturn, 1) := by decide +kernel
theorem dX1_setMemory_12 : decode cX1_setMemory 12 = .ok (.aload_n 0, 1) := by decide +kernel
theorem dX1_setMemory_13 : decode cX1_setMemory 13 = .ok (.getfield 29, 3) := by decide +kernel
theorem dX1_setMemory_16 : decode cX1_setMemory 16 = .ok (.iload_n 1, 1) := by decide +kernel
theorem dX1_setMemory_17 : decode cX1_setMemory 17 = .ok (.iload_n 2, 1) := by decide +kernel
theorem dX1_setMemory_18 : decode cX1_setMemory 18 = .ok (.iastore, 1) := by decide +kernel
theorem dX1_setMemory_19 : decode cX1_setMemory 19 = .ok (.iconst 1, 1) := by decide +kernel
theorem dX1_setMemory_20 : decode cX1_setMemory 20 = .ok (.ireturn, 1) := by decide +kernel
theorem dX1_weight_0 : decode cX1_weight 0 = .ok (.iload_n 1, 1) := by decide +kernel
theorem dX1_weight_1 : decode cX1_weight 1 = .ok (.ifCond .lt 11, 3) := by decide +kernel
theorem dX1_weight_4 : decode cX1_weight 4 = .ok (.iload_n 1, 1) := by decide +kernel
theorem dX1_weight_5 : decode cX1_weight 5 = .ok (.aload_n 0, 1) := by decide +kernel
theorem dX1_weight_6 : decode cX1_weight 6 = .ok (.getfield 7, 3) := by decide +kernel
theorem dX1_weight_9 : decode cX1_weight 9 = .ok (.if_icmp .lt 5, 3) := by decide +kernel
theorem dX1_weight_12 : decode cX1_weight 12 = .ok (.iconst (-1), 1) := by decide +kernel
theorem dX1_weight_13 : decode cX1_weight 13 = .ok (.ireturn, 1) := by decide +kernel
theorem dX1_weight_14 : decode cX1_weight 14 = .ok (.aload_n 0, 1) := by decide +kernel
theorem dX1_weight_15 : decode cX1_weight 15 = .ok (.invokevirtual 53, 3) := by decide +kernel
theorem dX1_weight_18 : decode cX1_weight 18 = .ok (.aload_n 0, 1) := by decide +kernel
theorem dX1_weight_19 : decode cX1_weight 19 = .ok (.getfield 32, 3) := by decide +kernel
theorem dX1_weight_22 : decode cX1_weight 22 = .ok (.iload_n 1, 1) := by decide +kernel
theorem dX1_weight_23 : decode cX1_weight 23 = .ok (.iaload, 1) := by decide +kernel
theorem dX1_weight_24 : decode cX1_weight 24 = .ok (.ireturn, 1) := by decide +kernel
end
section
set_option maxRecDepth 100000
theorem dX1_weighAll_0 : decode cX1_weighAll 0 = .ok (.iconst 0, 1) := by decide +kernel
theorem dX1_weighAll_1 : decode cX1_weighAll 1 = .ok (.istore_n 1, 1) := by decide +kernel
theorem dX1_weighAll_2 : decode cX1_weighAll 2 = .ok (.iload_n 1, 1) := by decide +kernel
theorem dX1_weighAll_3 : decode cX1_weighAll 3 = .ok (.aload_n 0, 1) := by decide +kernel
theorem dX1_weighAll_4 : decode cX1_weighAll 4 = .ok (.getfield 7, 3) := by decide +kernel
theorem dX1_weighAll_7 : decode cX1_weighAll 7 = .ok (.if_icmp .ge 88, 3) := by decide +kernel
theorem dX1_weighAll_10 : decode cX1_weighAll 10 = .ok (.iconst 0, 1) := by decide +kernel
theorem dX1_weighAll_11 : decode cX1_weighAll 11 = .ok (.istore_n 2, 1) := by decide +kernel
theorem dX1_weighAll_12 : decode cX1_weighAll 12 = .ok (.iconst 0, 1) := by decide +kernel
theorem dX1_weighAll_13 : decode cX1_weighAll 13 = .ok (.istore_n 3, 1) := by decide +kernel
theorem dX1_weighAll_14 : decode cX1_weighAll 14 = .ok (.iload_n 3, 1) := by decide +kernel
theorem dX1_weighAll_15 : decode cX1_weighAll 15 = .ok (.iload_n 1, 1) := by decide +kernel
theorem dX1_weighAll_16 : decode cX1_weighAll 16 = .ok (.if_icmp .ge 35, 3) := by decide +kernel
theorem dX1_weighAll_19 : decode cX1_weighAll 19 = .ok (.aload_n 0, 1) := by decide +kernel
theorem dX1_weighAll_20 : decode cX1_weighAll 20 = .ok (.iload_n 1, 1) := by decide +kernel
theorem dX1_weighAll_21 : decode cX1_weighAll 21 = .ok (.iload_n 3, 1) := by decide +kernel
theorem dX1_weighAll_22 : decode cX1_weighAll 22 = .ok (.invokevirtual 50, 3) := by decide +kernel
theorem dX1_weighAll_25 : decode cX1_weighAll 25 = .ok (.ifCond .eq 20, 3) := by decide +kernel
theorem dX1_weighAll_28 : decode cX1_weighAll 28 = .ok (.aload_n 0, 1) := by decide +kernel
theorem dX1_weighAll_29 : decode cX1_weighAll 29 = .ok (.getfield 32, 3) := by decide +kernel
theorem dX1_weighAll_32 : decode cX1_weighAll 32 = .ok (.iload_n 3, 1) := by decide +kernel
theorem dX1_weighAll_33 : decode cX1_weighAll 33 = .ok (.iaload, 1) := by decide +kernel
theorem dX1_weighAll_34 : decode cX1_weighAll 34 = .ok (.iload_n 2, 1) := by decide +kernel
theorem dX1_weighAll_35 : decode cX1_weighAll 35 = .ok (.if_icmp .le 10, 3) := by decide +kernel
theorem dX1_weighAll_38 : decode cX1_weighAll 38 = .ok (.aload_n 0, 1) := by decide +kernel
theorem dX1_weighAll_39 : decode cX1_weighAll 39 = .ok (.getfield 32, 3) := by decide +kernel
theorem dX1_weighAll_42 : decode cX1_weighAll 42 = .ok (.iload_n 3, 1) := by decide +kernel
theorem dX1_weighAll_43 : decode cX1_weighAll 43 = .ok (.iaload, 1) := by decide +kernel
theorem dX1_weighAll_44 : decode cX1_weighAll 44 = .ok (.istore_n 2, 1) := by decide +kernel
theorem dX1_weighAll_45 : decode cX1_weighAll 45 = .ok (.iinc 3 1, 3) := by decide +kernel
theorem dX1_weighAll_48 : decode cX1_weighAll 48 = .ok (.goto (-34), 3) := by decide +kernel
theorem dX1_weighAll_51 : decode cX1_weighAll 51 = .ok (.aload_n 0, 1) := by decide +kernel
theorem dX1_weighAll_52 : decode cX1_weighAll 52 = .ok (.getfield 32, 3) := by decide +kernel
theorem dX1_weighAll_55 : decode cX1_weighAll 55 = .ok (.iload_n 1, 1) := by decide +kernel
theorem dX1_weighAll_56 : decode cX1_weighAll 56 = .ok (.iload_n 2, 1) := by decide +kernel
theorem dX1_weighAll_57 : decode cX1_weighAll 57 = .ok (.aload_n 0, 1) := by decide +kernel
theorem dX1_weighAll_58 : decode cX1_weighAll 58 = .ok (.getfield 13, 3) := by decide +kernel
theorem dX1_weighAll_61 : decode cX1_weighAll 61 = .ok (.iload_n 1, 1) := by decide +kernel
theorem dX1_weighAll_62 : decode cX1_weighAll 62 = .ok (.iaload, 1) := by decide +kernel
theorem dX1_weighAll_63 : decode cX1_weighAll 63 = .ok (.iconst 2, 1) := by decide +kernel
theorem dX1_weighAll_64 : decode cX1_weighAll 64 = .ok (.if_icmp .ne 7, 3) := by decide +kernel
theorem dX1_weighAll_67 : decode cX1_weighAll 67 = .ok (.iconst 3, 1) := by decide +kernel
theorem dX1_weighAll_68 : decode cX1_weighAll 68 = .ok (.goto 19, 3) := by decide +kernel
theorem dX1_weighAll_71 : decode cX1_weighAll 71 = .ok (.aload_n 0, 1) := by decide +kernel
theorem dX1_weighAll_72 : decode cX1_weighAll 72 = .ok (.getfield 13, 3) := by decide +kernel
theorem dX1_weighAll_75 : decode cX1_weighAll 75 = .ok (.iload_n 1, 1) := by decide +kernel
theorem dX1_weighAll_76 : decode cX1_weighAll 76 = .ok (.iaload, 1) := by decide +kernel
theorem dX1_weighAll_77 : decode cX1_weighAll 77 = .ok (.bipush 7, 2) := by decide +kernel
theorem dX1_weighAll_79 : decode cX1_weighAll 79 = .ok (.if_icmp .ne 7, 3) := by decide +kernel
theorem dX1_weighAll_82 : decode cX1_weighAll 82 = .ok (.iconst 2, 1) := by decide +kernel
theorem dX1_weighAll_83 : decode cX1_weighAll 83 = .ok (.goto 4, 3) := by decide +kernel
theorem dX1_weighAll_86 : decode cX1_weighAll 86 = .ok (.iconst 1, 1) := by decide +kernel
theorem dX1_weighAll_87 : decode cX1_weighAll 87 = .ok (.iadd, 1) := by decide +kernel
theorem dX1_weighAll_88 : decode cX1_weighAll 88 = .ok (.iastore, 1) := by decide +kernel
theorem dX1_weighAll_89 : decode cX1_weighAll 89 = .ok (.iinc 1 1, 3) := by decide +kernel
theorem dX1_weighAll_92 : decode cX1_weighAll 92 = .ok (.goto (-90), 3) := by decide +kernel
theorem dX1_weighAll_95 : decode cX1_weighAll 95 = .ok (.return_, 1) := by decide +kernel
theorem dX1_hangs_0 : decode cX1_hangs 0 = .ok (.aload_n 0, 1) := by decide +kernel
theorem dX1_hangs_1 : decode cX1_hangs 1 = .ok (.getfield 17, 3) := by decide +kernel
theorem dX1_hangs_4 : decode cX1_hangs 4 = .ok (.iload_n 2, 1) := by decide +kernel
theorem dX1_hangs_5 : decode cX1_hangs 5 = .ok (.iaload, 1) := by decide +kernel
theorem dX1_hangs_6 : decode cX1_hangs 6 = .ok (.istore_n 3, 1) := by decide +kernel
theorem dX1_hangs_7 : decode cX1_hangs 7 = .ok (.aload_n 0, 1) := by decide +kernel
theorem dX1_hangs_8 : decode cX1_hangs 8 = .ok (.iload_n 2, 1) := by decide +kernel
theorem dX1_hangs_9 : decode cX1_hangs 9 = .ok (.iload_n 3, 1) := by decide +kernel
theorem dX1_hangs_10 : decode cX1_hangs 10 = .ok (.invokevirtual 43, 3) := by decide +kernel
theorem dX1_hangs_13 : decode cX1_hangs 13 = .ok (.ifCond .eq 12, 3) := by decide +kernel
theorem dX1_hangs_16 : decode cX1_hangs 16 = .ok (.aload_n 0, 1) := by decide +kernel
theorem dX1_hangs_17 : decode cX1_hangs 17 = .ok (.iload_n 1, 1) := by decide +kernel
theorem dX1_hangs_18 : decode cX1_hangs 18 = .ok (.iload_n 3, 1) := by decide +kernel
theorem dX1_hangs_19 : decode cX1_hangs 19 = .ok (.invokevirtual 47, 3) := by decide +kernel
theorem dX1_hangs_22 : decode cX1_hangs 22 = .ok (.ifCond .ne 5, 3) := by decide +kernel
theorem dX1_hangs_25 : decode cX1_hangs 25 = .ok (.iconst 0, 1) := by decide +kernel
theorem dX1_hangs_26 : decode cX1_hangs 26 = .ok (.ireturn, 1) := by decide +kernel
theorem dX1_hangs_27 : decode cX1_hangs 27 = .ok (.iload_n 2, 1) := by decide +kernel
theorem dX1_hangs_28 : decode cX1_hangs 28 = .ok (.iconst 1, 1) := by decide +kernel
theorem dX1_hangs_29 : decode cX1_hangs 29 = .ok (.iadd, 1) := by decide +kernel
theorem dX1_hangs_30 : decode cX1_hangs 30 = .ok (.istore 4, 2) := by decide +kernel
theorem dX1_hangs_32 : decode cX1_hangs 32 = .ok (.iload 4, 2) := by decide +kernel
theorem dX1_hangs_34 : decode cX1_hangs 34 = .ok (.iload_n 1, 1) := by decide +kernel
theorem dX1_hangs_35 : decode cX1_hangs 35 = .ok (.if_icmp .ge 21, 3) := by decide +kernel
theorem dX1_hangs_38 : decode cX1_hangs 38 = .ok (.aload_n 0, 1) := by decide +kernel
theorem dX1_hangs_39 : decode cX1_hangs 39 = .ok (.iload 4, 2) := by decide +kernel
theorem dX1_hangs_41 : decode cX1_hangs 41 = .ok (.iload_n 3, 1) := by decide +kernel
theorem dX1_hangs_42 : decode cX1_hangs 42 = .ok (.invokevirtual 43, 3) := by decide +kernel
theorem dX1_hangs_45 : decode cX1_hangs 45 = .ok (.ifCond .eq 5, 3) := by decide +kernel
theorem dX1_hangs_48 : decode cX1_hangs 48 = .ok (.iconst 0, 1) := by decide +kernel
theorem dX1_hangs_49 : decode cX1_hangs 49 = .ok (.ireturn, 1) := by decide +kernel
theorem dX1_hangs_50 : decode cX1_hangs 50 = .ok (.iinc 4 1, 3) := by decide +kernel
theorem dX1_hangs_53 : decode cX1_hangs 53 = .ok (.goto (-21), 3) := by decide +kernel
theorem dX1_hangs_56 : decode cX1_hangs 56 = .ok (.iconst 1, 1) := by decide +kernel
theorem dX1_hangs_57 : decode cX1_hangs 57 = .ok (.ireturn, 1) := by decide +kernel
theorem dX1_writes_0 : decode cX1_writes 0 = .ok (.aload_n 0, 1) := by decide +kernel
theorem dX1_writes_1 : decode cX1_writes 1 = .ok (.getfield 13, 3) := by decide +kernel
theorem dX1_writes_4 : decode cX1_writes 4 = .ok (.iload_n 1, 1) := by decide +kernel
theorem dX1_writes_5 : decode cX1_writes 5 = .ok (.iaload, 1) := by decide +kernel
theorem dX1_writes_6 : decode cX1_writes 6 = .ok (.bipush 8, 2) := by decide +kernel
theorem dX1_writes_8 : decode cX1_writes 8 = .ok (.if_icmp .eq 17, 3) := by decide +kernel
theorem dX1_writes_11 : decode cX1_writes 11 = .ok (.aload_n 0, 1) := by decide +kernel
theorem dX1_writes_12 : decode cX1_writes 12 = .ok (.getfield 17, 3) := by decide +kernel
theorem dX1_writes_15 : decode cX1_writes 15 = .ok (.iload_n 1, 1) := by decide +kernel
theorem dX1_writes_16 : decode cX1_writes 16 = .ok (.iaload, 1) := by decide +kernel
theorem dX1_writes_17 : decode cX1_writes 17 = .ok (.iload_n 2, 1) := by decide +kernel
theorem dX1_writes_18 : decode cX1_writes 18 = .ok (.if_icmp .ne 7, 3) := by decide +kernel
theorem dX1_writes_21 : decode cX1_writes 21 = .ok (.iconst 1, 1) := by decide +kernel
theorem dX1_writes_22 : decode cX1_writes 22 = .ok (.goto 4, 3) := by decide +kernel
theorem dX1_writes_25 : decode cX1_writes 25 = .ok (.iconst 0, 1) := by decide +kernel
theorem dX1_writes_26 : decode cX1_writes 26 = .ok (.ireturn, 1) := by decide +kernel
theorem dX1_reads_0 : decode cX1_reads 0 = .ok (.aload_n 0, 1) := by decide +kernel
theorem dX1_reads_1 : decode cX1_reads 1 = .ok (.getfield 20, 3) := by decide +kernel
theorem dX1_reads_4 : decode cX1_reads 4 = .ok (.iload_n 1, 1) := by decide +kernel
theorem dX1_reads_5 : decode cX1_reads 5 = .ok (.iaload, 1) := by decide +kernel
theorem dX1_reads_6 : decode cX1_reads 6 = .ok (.iload_n 2, 1) := by decide +kernel
theorem dX1_reads_7 : decode cX1_reads 7 = .ok (.if_icmp .eq 23, 3) := by decide +kernel
theorem dX1_reads_10 : decode cX1_reads 10 = .ok (.aload_n 0, 1) := by decide +kernel
theorem dX1_reads_11 : decode cX1_reads 11 = .ok (.getfield 13, 3) := by decide +kernel
theorem dX1_reads_14 : decode cX1_reads 14 = .ok (.iload_n 1, 1) := by decide +kernel
theorem dX1_reads_15 : decode cX1_reads 15 = .ok (.iaload, 1) := by decide +kernel
theorem dX1_reads_16 : decode cX1_reads 16 = .ok (.iconst 5, 1) := by decide +kernel
theorem dX1_reads_17 : decode cX1_reads 17 = .ok (.if_icmp .gt 15, 3) := by decide +kernel
theorem dX1_reads_20 : decode cX1_reads 20 = .ok (.aload_n 0, 1) := by decide +kernel
theorem dX1_reads_21 : decode cX1_reads 21 = .ok (.getfield 23, 3) := by decide +kernel
theorem dX1_reads_24 : decode cX1_reads 24 = .ok (.iload_n 1, 1) := by decide +kernel
theorem dX1_reads_25 : decode cX1_reads 25 = .ok (.iaload, 1) := by decide +kernel
theorem dX1_reads_26 : decode cX1_reads 26 = .ok (.iload_n 2, 1) := by decide +kernel
theorem dX1_reads_27 : decode cX1_reads 27 = .ok (.if_icmp .ne 5, 3) := by decide +kernel
theorem dX1_reads_30 : decode cX1_reads 30 = .ok (.iconst 1, 1) := by decide +kernel
theorem dX1_reads_31 : decode cX1_reads 31 = .ok (.ireturn, 1) := by decide +kernel
theorem dX1_reads_32 : decode cX1_reads 32 = .ok (.aload_n 0, 1) := by decide +kernel
theorem dX1_reads_33 : decode cX1_reads 33 = .ok (.getfield 13, 3) := by decide +kernel
theorem dX1_reads_36 : decode cX1_reads 36 = .ok (.iload_n 1, 1) := by decide +kernel
theorem dX1_reads_37 : decode cX1_reads 37 = .ok (.iaload, 1) := by decide +kernel
theorem dX1_reads_38 : decode cX1_reads 38 = .ok (.iconst 5, 1) := by decide +kernel
theorem dX1_reads_39 : decode cX1_reads 39 = .ok (.if_icmp .eq 14, 3) := by decide +kernel
theorem dX1_reads_42 : decode cX1_reads 42 = .ok (.aload_n 0, 1) := by decide +kernel
theorem dX1_reads_43 : decode cX1_reads 43 = .ok (.getfield 13, 3) := by decide +kernel
theorem dX1_reads_46 : decode cX1_reads 46 = .ok (.iload_n 1, 1) := by decide +kernel
theorem dX1_reads_47 : decode cX1_reads 47 = .ok (.iaload, 1) := by decide +kernel
theorem dX1_reads_48 : decode cX1_reads 48 = .ok (.bipush 8, 2) := by decide +kernel
theorem dX1_reads_50 : decode cX1_reads 50 = .ok (.if_icmp .ne 17, 3) := by decide +kernel
theorem dX1_reads_53 : decode cX1_reads 53 = .ok (.aload_n 0, 1) := by decide +kernel
theorem dX1_reads_54 : decode cX1_reads 54 = .ok (.getfield 17, 3) := by decide +kernel
theorem dX1_reads_57 : decode cX1_reads 57 = .ok (.iload_n 1, 1) := by decide +kernel
theorem dX1_reads_58 : decode cX1_reads 58 = .ok (.iaload, 1) := by decide +kernel
theorem dX1_reads_59 : decode cX1_reads 59 = .ok (.iload_n 2, 1) := by decide +kernel
theorem dX1_reads_60 : decode cX1_reads 60 = .ok (.if_icmp .ne 7, 3) := by decide +kernel
theorem dX1_reads_63 : decode cX1_reads 63 = .ok (.iconst 1, 1) := by decide +kernel
theorem dX1_reads_64 : decode cX1_reads 64 = .ok (.goto 4, 3) := by decide +kernel
theorem dX1_reads_67 : decode cX1_reads 67 = .ok (.iconst 0, 1) := by decide +kernel
theorem dX1_reads_68 : decode cX1_reads 68 = .ok (.ireturn, 1) := by decide +kernel
theorem dX1_heaviest_0 : decode cX1_heaviest 0 = .ok (.aload_n 0, 1) := by decide +kernel
theorem dX1_heaviest_1 : decode cX1_heaviest 1 = .ok (.invokevirtual 53, 3) := by decide +kernel
theorem dX1_heaviest_4 : decode cX1_heaviest 4 = .ok (.iconst 0, 1) := by decide +kernel
theorem dX1_heaviest_5 : decode cX1_heaviest 5 = .ok (.istore_n 1, 1) := by decide +kernel
theorem dX1_heaviest_6 : decode cX1_heaviest 6 = .ok (.iconst 0, 1) := by decide +kernel
theorem dX1_heaviest_7 : decode cX1_heaviest 7 = .ok (.istore_n 2, 1) := by decide +kernel
theorem dX1_heaviest_8 : decode cX1_heaviest 8 = .ok (.iload_n 2, 1) := by decide +kernel
theorem dX1_heaviest_9 : decode cX1_heaviest 9 = .ok (.aload_n 0, 1) := by decide +kernel
theorem dX1_heaviest_10 : decode cX1_heaviest 10 = .ok (.getfield 7, 3) := by decide +kernel
theorem dX1_heaviest_13 : decode cX1_heaviest 13 = .ok (.if_icmp .ge 26, 3) := by decide +kernel
theorem dX1_heaviest_16 : decode cX1_heaviest 16 = .ok (.aload_n 0, 1) := by decide +kernel
theorem dX1_heaviest_17 : decode cX1_heaviest 17 = .ok (.getfield 32, 3) := by decide +kernel
theorem dX1_heaviest_20 : decode cX1_heaviest 20 = .ok (.iload_n 2, 1) := by decide +kernel
theorem dX1_heaviest_21 : decode cX1_heaviest 21 = .ok (.iaload, 1) := by decide +kernel
theorem dX1_heaviest_22 : decode cX1_heaviest 22 = .ok (.iload_n 1, 1) := by decide +kernel
theorem dX1_heaviest_23 : decode cX1_heaviest 23 = .ok (.if_icmp .le 10, 3) := by decide +kernel
theorem dX1_heaviest_26 : decode cX1_heaviest 26 = .ok (.aload_n 0, 1) := by decide +kernel
theorem dX1_heaviest_27 : decode cX1_heaviest 27 = .ok (.getfield 32, 3) := by decide +kernel
theorem dX1_heaviest_30 : decode cX1_heaviest 30 = .ok (.iload_n 2, 1) := by decide +kernel
theorem dX1_heaviest_31 : decode cX1_heaviest 31 = .ok (.iaload, 1) := by decide +kernel
theorem dX1_heaviest_32 : decode cX1_heaviest 32 = .ok (.istore_n 1, 1) := by decide +kernel
theorem dX1_heaviest_33 : decode cX1_heaviest 33 = .ok (.iinc 2 1, 3) := by decide +kernel
theorem dX1_heaviest_36 : decode cX1_heaviest 36 = .ok (.goto (-28), 3) := by decide +kernel
theorem dX1_heaviest_39 : decode cX1_heaviest 39 = .ok (.iload_n 1, 1) := by decide +kernel
theorem dX1_heaviest_40 : decode cX1_heaviest 40 = .ok (.ireturn, 1) := by decide +kernel
theorem dX1_links_0 : decode cX1_links 0 = .ok (.iconst 0, 1) := by decide +kernel
theorem dX1_links_1 : decode cX1_links 1 = .ok (.istore_n 1, 1) := by decide +kernel
theorem dX1_links_2 : decode cX1_links 2 = .ok (.iconst 0, 1) := by decide +kernel
theorem dX1_links_3 : decode cX1_links 3 = .ok (.istore_n 2, 1) := by decide +kernel
theorem dX1_links_4 : decode cX1_links 4 = .ok (.iload_n 2, 1) := by decide +kernel
theorem dX1_links_5 : decode cX1_links 5 = .ok (.aload_n 0, 1) := by decide +kernel
theorem dX1_links_6 : decode cX1_links 6 = .ok (.getfield 7, 3) := by decide +kernel
theorem dX1_links_9 : decode cX1_links 9 = .ok (.if_icmp .ge 34, 3) := by decide +kernel
theorem dX1_links_12 : decode cX1_links 12 = .ok (.iconst 0, 1) := by decide +kernel
theorem dX1_links_13 : decode cX1_links 13 = .ok (.istore_n 3, 1) := by decide +kernel
theorem dX1_links_14 : decode cX1_links 14 = .ok (.iload_n 3, 1) := by decide +kernel
theorem dX1_links_15 : decode cX1_links 15 = .ok (.iload_n 2, 1) := by decide +kernel
theorem dX1_links_16 : decode cX1_links 16 = .ok (.if_icmp .ge 21, 3) := by decide +kernel
theorem dX1_links_19 : decode cX1_links 19 = .ok (.aload_n 0, 1) := by decide +kernel
theorem dX1_links_20 : decode cX1_links 20 = .ok (.iload_n 2, 1) := by decide +kernel
theorem dX1_links_21 : decode cX1_links 21 = .ok (.iload_n 3, 1) := by decide +kernel
theorem dX1_links_22 : decode cX1_links 22 = .ok (.invokevirtual 50, 3) := by decide +kernel
theorem dX1_links_25 : decode cX1_links 25 = .ok (.ifCond .eq 6, 3) := by decide +kernel
theorem dX1_links_28 : decode cX1_links 28 = .ok (.iinc 1 1, 3) := by decide +kernel
theorem dX1_links_31 : decode cX1_links 31 = .ok (.iinc 3 1, 3) := by decide +kernel
theorem dX1_links_34 : decode cX1_links 34 = .ok (.goto (-20), 3) := by decide +kernel
theorem dX1_links_37 : decode cX1_links 37 = .ok (.iinc 2 1, 3) := by decide +kernel
theorem dX1_links_40 : decode cX1_links 40 = .ok (.goto (-36), 3) := by decide +kernel
theorem dX1_links_43 : decode cX1_links 43 = .ok (.iload_n 1, 1) := by decide +kernel
theorem dX1_links_44 : decode cX1_links 44 = .ok (.ireturn, 1) := by decide +kernel
end
section
set_option maxRecDepth 100000
theorem dL_law_0 : decode cL_law 0 = .ok (.new 7, 3) := by decide +kernel
theorem dL_law_3 : decode cL_law 3 = .ok (.dup, 1) := by decide +kernel
theorem dL_law_4 : decode cL_law 4 = .ok (.invokespecial 9, 3) := by decide +kernel
theorem dL_law_7 : decode cL_law 7 = .ok (.astore_n 1, 1) := by decide +kernel
theorem dL_law_8 : decode cL_law 8 = .ok (.new 10, 3) := by decide +kernel
theorem dL_law_11 : decode cL_law 11 = .ok (.dup, 1) := by decide +kernel
theorem dL_law_12 : decode cL_law 12 = .ok (.invokespecial 12, 3) := by decide +kernel
theorem dL_law_15 : decode cL_law 15 = .ok (.astore_n 2, 1) := by decide +kernel
theorem dL_law_16 : decode cL_law 16 = .ok (.iconst 0, 1) := by decide +kernel
theorem dL_law_17 : decode cL_law 17 = .ok (.istore_n 3, 1) := by decide +kernel
theorem dL_law_18 : decode cL_law 18 = .ok (.iload_n 3, 1) := by decide +kernel
theorem dL_law_19 : decode cL_law 19 = .ok (.aload_n 0, 1) := by decide +kernel
theorem dL_law_20 : decode cL_law 20 = .ok (.arraylength, 1) := by decide +kernel
theorem dL_law_21 : decode cL_law 21 = .ok (.iconst 5, 1) := by decide +kernel
theorem dL_law_22 : decode cL_law 22 = .ok (.isub, 1) := by decide +kernel
theorem dL_law_23 : decode cL_law 23 = .ok (.if_icmp .gt 328, 3) := by decide +kernel
theorem dL_law_26 : decode cL_law 26 = .ok (.aload_n 0, 1) := by decide +kernel
theorem dL_law_27 : decode cL_law 27 = .ok (.iload_n 3, 1) := by decide +kernel
theorem dL_law_28 : decode cL_law 28 = .ok (.iaload, 1) := by decide +kernel
theorem dL_law_29 : decode cL_law 29 = .ok (.bipush 15, 2) := by decide +kernel
theorem dL_law_31 : decode cL_law 31 = .ok (.iand, 1) := by decide +kernel
theorem dL_law_32 : decode cL_law 32 = .ok (.tableswitch 313 0 10 #[60, 113, 126, 139, 152, 175, 208, 231, 264, 287, 300], 60) := by decide +kernel
theorem dL_law_92 : decode cL_law 92 = .ok (.aload_n 1, 1) := by decide +kernel
theorem dL_law_93 : decode cL_law 93 = .ok (.aload_n 0, 1) := by decide +kernel
theorem dL_law_94 : decode cL_law 94 = .ok (.iload_n 3, 1) := by decide +kernel
theorem dL_law_95 : decode cL_law 95 = .ok (.iconst 1, 1) := by decide +kernel
theorem dL_law_96 : decode cL_law 96 = .ok (.iadd, 1) := by decide +kernel
theorem dL_law_97 : decode cL_law 97 = .ok (.iaload, 1) := by decide +kernel
theorem dL_law_98 : decode cL_law 98 = .ok (.aload_n 0, 1) := by decide +kernel
theorem dL_law_99 : decode cL_law 99 = .ok (.iload_n 3, 1) := by decide +kernel
theorem dL_law_100 : decode cL_law 100 = .ok (.iconst 2, 1) := by decide +kernel
theorem dL_law_101 : decode cL_law 101 = .ok (.iadd, 1) := by decide +kernel
theorem dL_law_102 : decode cL_law 102 = .ok (.iaload, 1) := by decide +kernel
theorem dL_law_103 : decode cL_law 103 = .ok (.aload_n 0, 1) := by decide +kernel
theorem dL_law_104 : decode cL_law 104 = .ok (.iload_n 3, 1) := by decide +kernel
theorem dL_law_105 : decode cL_law 105 = .ok (.iconst 3, 1) := by decide +kernel
theorem dL_law_106 : decode cL_law 106 = .ok (.iadd, 1) := by decide +kernel
theorem dL_law_107 : decode cL_law 107 = .ok (.iaload, 1) := by decide +kernel
theorem dL_law_108 : decode cL_law 108 = .ok (.aload_n 0, 1) := by decide +kernel
theorem dL_law_109 : decode cL_law 109 = .ok (.iload_n 3, 1) := by decide +kernel
theorem dL_law_110 : decode cL_law 110 = .ok (.iconst 4, 1) := by decide +kernel
theorem dL_law_111 : decode cL_law 111 = .ok (.iadd, 1) := by decide +kernel
theorem dL_law_112 : decode cL_law 112 = .ok (.iaload, 1) := by decide +kernel
theorem dL_law_113 : decode cL_law 113 = .ok (.invokevirtual 13, 3) := by decide +kernel
theorem dL_law_116 : decode cL_law 116 = .ok (.aload_n 2, 1) := by decide +kernel
theorem dL_law_117 : decode cL_law 117 = .ok (.aload_n 0, 1) := by decide +kernel
theorem dL_law_118 : decode cL_law 118 = .ok (.iload_n 3, 1) := by decide +kernel
theorem dL_law_119 : decode cL_law 119 = .ok (.iconst 1, 1) := by decide +kernel
theorem dL_law_120 : decode cL_law 120 = .ok (.iadd, 1) := by decide +kernel
theorem dL_law_121 : decode cL_law 121 = .ok (.iaload, 1) := by decide +kernel
theorem dL_law_122 : decode cL_law 122 = .ok (.aload_n 0, 1) := by decide +kernel
theorem dL_law_123 : decode cL_law 123 = .ok (.iload_n 3, 1) := by decide +kernel
theorem dL_law_124 : decode cL_law 124 = .ok (.iconst 2, 1) := by decide +kernel
theorem dL_law_125 : decode cL_law 125 = .ok (.iadd, 1) := by decide +kernel
theorem dL_law_126 : decode cL_law 126 = .ok (.iaload, 1) := by decide +kernel
theorem dL_law_127 : decode cL_law 127 = .ok (.aload_n 0, 1) := by decide +kernel
theorem dL_law_128 : decode cL_law 128 = .ok (.iload_n 3, 1) := by decide +kernel
theorem dL_law_129 : decode cL_law 129 = .ok (.iconst 3, 1) := by decide +kernel
theorem dL_law_130 : decode cL_law 130 = .ok (.iadd, 1) := by decide +kernel
theorem dL_law_131 : decode cL_law 131 = .ok (.iaload, 1) := by decide +kernel
theorem dL_law_132 : decode cL_law 132 = .ok (.aload_n 0, 1) := by decide +kernel
theorem dL_law_133 : decode cL_law 133 = .ok (.iload_n 3, 1) := by decide +kernel
theorem dL_law_134 : decode cL_law 134 = .ok (.iconst 4, 1) := by decide +kernel
theorem dL_law_135 : decode cL_law 135 = .ok (.iadd, 1) := by decide +kernel
theorem dL_law_136 : decode cL_law 136 = .ok (.iaload, 1) := by decide +kernel
theorem dL_law_137 : decode cL_law 137 = .ok (.invokevirtual 17, 3) := by decide +kernel
theorem dL_law_140 : decode cL_law 140 = .ok (.if_icmp .eq 205, 3) := by decide +kernel
theorem dL_law_143 : decode cL_law 143 = .ok (.iconst 0, 1) := by decide +kernel
theorem dL_law_144 : decode cL_law 144 = .ok (.ireturn, 1) := by decide +kernel
theorem dL_law_145 : decode cL_law 145 = .ok (.aload_n 1, 1) := by decide +kernel
theorem dL_law_146 : decode cL_law 146 = .ok (.invokevirtual 18, 3) := by decide +kernel
theorem dL_law_149 : decode cL_law 149 = .ok (.aload_n 2, 1) := by decide +kernel
theorem dL_law_150 : decode cL_law 150 = .ok (.invokevirtual 22, 3) := by decide +kernel
theorem dL_law_153 : decode cL_law 153 = .ok (.if_icmp .eq 192, 3) := by decide +kernel
theorem dL_law_156 : decode cL_law 156 = .ok (.iconst 0, 1) := by decide +kernel
theorem dL_law_157 : decode cL_law 157 = .ok (.ireturn, 1) := by decide +kernel
theorem dL_law_158 : decode cL_law 158 = .ok (.aload_n 1, 1) := by decide +kernel
theorem dL_law_159 : decode cL_law 159 = .ok (.invokevirtual 23, 3) := by decide +kernel
theorem dL_law_162 : decode cL_law 162 = .ok (.aload_n 2, 1) := by decide +kernel
theorem dL_law_163 : decode cL_law 163 = .ok (.invokevirtual 26, 3) := by decide +kernel
theorem dL_law_166 : decode cL_law 166 = .ok (.if_icmp .eq 179, 3) := by decide +kernel
theorem dL_law_169 : decode cL_law 169 = .ok (.iconst 0, 1) := by decide +kernel
theorem dL_law_170 : decode cL_law 170 = .ok (.ireturn, 1) := by decide +kernel
theorem dL_law_171 : decode cL_law 171 = .ok (.aload_n 1, 1) := by decide +kernel
theorem dL_law_172 : decode cL_law 172 = .ok (.invokevirtual 27, 3) := by decide +kernel
theorem dL_law_175 : decode cL_law 175 = .ok (.aload_n 2, 1) := by decide +kernel
theorem dL_law_176 : decode cL_law 176 = .ok (.invokevirtual 30, 3) := by decide +kernel
theorem dL_law_179 : decode cL_law 179 = .ok (.if_icmp .eq 166, 3) := by decide +kernel
theorem dL_law_182 : decode cL_law 182 = .ok (.iconst 0, 1) := by decide +kernel
theorem dL_law_183 : decode cL_law 183 = .ok (.ireturn, 1) := by decide +kernel
theorem dL_law_184 : decode cL_law 184 = .ok (.aload_n 1, 1) := by decide +kernel
theorem dL_law_185 : decode cL_law 185 = .ok (.aload_n 0, 1) := by decide +kernel
theorem dL_law_186 : decode cL_law 186 = .ok (.iload_n 3, 1) := by decide +kernel
theorem dL_law_187 : decode cL_law 187 = .ok (.iconst 1, 1) := by decide +kernel
theorem dL_law_188 : decode cL_law 188 = .ok (.iadd, 1) := by decide +kernel
theorem dL_law_189 : decode cL_law 189 = .ok (.iaload, 1) := by decide +kernel
theorem dL_law_190 : decode cL_law 190 = .ok (.invokevirtual 31, 3) := by decide +kernel
theorem dL_law_193 : decode cL_law 193 = .ok (.aload_n 2, 1) := by decide +kernel
theorem dL_law_194 : decode cL_law 194 = .ok (.aload_n 0, 1) := by decide +kernel
theorem dL_law_195 : decode cL_law 195 = .ok (.iload_n 3, 1) := by decide +kernel
theorem dL_law_196 : decode cL_law 196 = .ok (.iconst 1, 1) := by decide +kernel
theorem dL_law_197 : decode cL_law 197 = .ok (.iadd, 1) := by decide +kernel
theorem dL_law_198 : decode cL_law 198 = .ok (.iaload, 1) := by decide +kernel
theorem dL_law_199 : decode cL_law 199 = .ok (.invokevirtual 35, 3) := by decide +kernel
theorem dL_law_202 : decode cL_law 202 = .ok (.if_icmp .eq 143, 3) := by decide +kernel
theorem dL_law_205 : decode cL_law 205 = .ok (.iconst 0, 1) := by decide +kernel
theorem dL_law_206 : decode cL_law 206 = .ok (.ireturn, 1) := by decide +kernel
theorem dL_law_207 : decode cL_law 207 = .ok (.aload_n 1, 1) := by decide +kernel
theorem dL_law_208 : decode cL_law 208 = .ok (.aload_n 0, 1) := by decide +kernel
theorem dL_law_209 : decode cL_law 209 = .ok (.iload_n 3, 1) := by decide +kernel
theorem dL_law_210 : decode cL_law 210 = .ok (.iconst 1, 1) := by decide +kernel
theorem dL_law_211 : decode cL_law 211 = .ok (.iadd, 1) := by decide +kernel
theorem dL_law_212 : decode cL_law 212 = .ok (.iaload, 1) := by decide +kernel
theorem dL_law_213 : decode cL_law 213 = .ok (.aload_n 0, 1) := by decide +kernel
theorem dL_law_214 : decode cL_law 214 = .ok (.iload_n 3, 1) := by decide +kernel
theorem dL_law_215 : decode cL_law 215 = .ok (.iconst 2, 1) := by decide +kernel
theorem dL_law_216 : decode cL_law 216 = .ok (.iadd, 1) := by decide +kernel
theorem dL_law_217 : decode cL_law 217 = .ok (.iaload, 1) := by decide +kernel
theorem dL_law_218 : decode cL_law 218 = .ok (.invokevirtual 36, 3) := by decide +kernel
theorem dL_law_221 : decode cL_law 221 = .ok (.aload_n 2, 1) := by decide +kernel
theorem dL_law_222 : decode cL_law 222 = .ok (.aload_n 0, 1) := by decide +kernel
theorem dL_law_223 : decode cL_law 223 = .ok (.iload_n 3, 1) := by decide +kernel
theorem dL_law_224 : decode cL_law 224 = .ok (.iconst 1, 1) := by decide +kernel
theorem dL_law_225 : decode cL_law 225 = .ok (.iadd, 1) := by decide +kernel
theorem dL_law_226 : decode cL_law 226 = .ok (.iaload, 1) := by decide +kernel
theorem dL_law_227 : decode cL_law 227 = .ok (.aload_n 0, 1) := by decide +kernel
theorem dL_law_228 : decode cL_law 228 = .ok (.iload_n 3, 1) := by decide +kernel
theorem dL_law_229 : decode cL_law 229 = .ok (.iconst 2, 1) := by decide +kernel
theorem dL_law_230 : decode cL_law 230 = .ok (.iadd, 1) := by decide +kernel
theorem dL_law_231 : decode cL_law 231 = .ok (.iaload, 1) := by decide +kernel
theorem dL_law_232 : decode cL_law 232 = .ok (.invokevirtual 40, 3) := by decide +kernel
theorem dL_law_235 : decode cL_law 235 = .ok (.if_icmp .eq 110, 3) := by decide +kernel
theorem dL_law_238 : decode cL_law 238 = .ok (.iconst 0, 1) := by decide +kernel
theorem dL_law_239 : decode cL_law 239 = .ok (.ireturn, 1) := by decide +kernel
theorem dL_law_240 : decode cL_law 240 = .ok (.aload_n 1, 1) := by decide +kernel
theorem dL_law_241 : decode cL_law 241 = .ok (.aload_n 0, 1) := by decide +kernel
theorem dL_law_242 : decode cL_law 242 = .ok (.iload_n 3, 1) := by decide +kernel
theorem dL_law_243 : decode cL_law 243 = .ok (.iconst 1, 1) := by decide +kernel
theorem dL_law_244 : decode cL_law 244 = .ok (.iadd, 1) := by decide +kernel
theorem dL_law_245 : decode cL_law 245 = .ok (.iaload, 1) := by decide +kernel
theorem dL_law_246 : decode cL_law 246 = .ok (.invokevirtual 41, 3) := by decide +kernel
theorem dL_law_249 : decode cL_law 249 = .ok (.aload_n 2, 1) := by decide +kernel
theorem dL_law_250 : decode cL_law 250 = .ok (.aload_n 0, 1) := by decide +kernel
theorem dL_law_251 : decode cL_law 251 = .ok (.iload_n 3, 1) := by decide +kernel
theorem dL_law_252 : decode cL_law 252 = .ok (.iconst 1, 1) := by decide +kernel
theorem dL_law_253 : decode cL_law 253 = .ok (.iadd, 1) := by decide +kernel
theorem dL_law_254 : decode cL_law 254 = .ok (.iaload, 1) := by decide +kernel
theorem dL_law_255 : decode cL_law 255 = .ok (.invokevirtual 44, 3) := by decide +kernel
theorem dL_law_258 : decode cL_law 258 = .ok (.if_icmp .eq 87, 3) := by decide +kernel
theorem dL_law_261 : decode cL_law 261 = .ok (.iconst 0, 1) := by decide +kernel
theorem dL_law_262 : decode cL_law 262 = .ok (.ireturn, 1) := by decide +kernel
theorem dL_law_263 : decode cL_law 263 = .ok (.aload_n 1, 1) := by decide +kernel
theorem dL_law_264 : decode cL_law 264 = .ok (.aload_n 0, 1) := by decide +kernel
theorem dL_law_265 : decode cL_law 265 = .ok (.iload_n 3, 1) := by decide +kernel
theorem dL_law_266 : decode cL_law 266 = .ok (.iconst 1, 1) := by decide +kernel
theorem dL_law_267 : decode cL_law 267 = .ok (.iadd, 1) := by decide +kernel
theorem dL_law_268 : decode cL_law 268 = .ok (.iaload, 1) := by decide +kernel
theorem dL_law_269 : decode cL_law 269 = .ok (.aload_n 0, 1) := by decide +kernel
theorem dL_law_270 : decode cL_law 270 = .ok (.iload_n 3, 1) := by decide +kernel
theorem dL_law_271 : decode cL_law 271 = .ok (.iconst 2, 1) := by decide +kernel
theorem dL_law_272 : decode cL_law 272 = .ok (.iadd, 1) := by decide +kernel
theorem dL_law_273 : decode cL_law 273 = .ok (.iaload, 1) := by decide +kernel
theorem dL_law_274 : decode cL_law 274 = .ok (.invokevirtual 45, 3) := by decide +kernel
theorem dL_law_277 : decode cL_law 277 = .ok (.aload_n 2, 1) := by decide +kernel
theorem dL_law_278 : decode cL_law 278 = .ok (.aload_n 0, 1) := by decide +kernel
theorem dL_law_279 : decode cL_law 279 = .ok (.iload_n 3, 1) := by decide +kernel
theorem dL_law_280 : decode cL_law 280 = .ok (.iconst 1, 1) := by decide +kernel
theorem dL_law_281 : decode cL_law 281 = .ok (.iadd, 1) := by decide +kernel
theorem dL_law_282 : decode cL_law 282 = .ok (.iaload, 1) := by decide +kernel
theorem dL_law_283 : decode cL_law 283 = .ok (.aload_n 0, 1) := by decide +kernel
theorem dL_law_284 : decode cL_law 284 = .ok (.iload_n 3, 1) := by decide +kernel
theorem dL_law_285 : decode cL_law 285 = .ok (.iconst 2, 1) := by decide +kernel
theorem dL_law_286 : decode cL_law 286 = .ok (.iadd, 1) := by decide +kernel
theorem dL_law_287 : decode cL_law 287 = .ok (.iaload, 1) := by decide +kernel
theorem dL_law_288 : decode cL_law 288 = .ok (.invokevirtual 48, 3) := by decide +kernel
theorem dL_law_291 : decode cL_law 291 = .ok (.if_icmp .eq 54, 3) := by decide +kernel
theorem dL_law_294 : decode cL_law 294 = .ok (.iconst 0, 1) := by decide +kernel
theorem dL_law_295 : decode cL_law 295 = .ok (.ireturn, 1) := by decide +kernel
theorem dL_law_296 : decode cL_law 296 = .ok (.aload_n 1, 1) := by decide +kernel
theorem dL_law_297 : decode cL_law 297 = .ok (.aload_n 0, 1) := by decide +kernel
theorem dL_law_298 : decode cL_law 298 = .ok (.iload_n 3, 1) := by decide +kernel
theorem dL_law_299 : decode cL_law 299 = .ok (.iconst 1, 1) := by decide +kernel
theorem dL_law_300 : decode cL_law 300 = .ok (.iadd, 1) := by decide +kernel
theorem dL_law_301 : decode cL_law 301 = .ok (.iaload, 1) := by decide +kernel
theorem dL_law_302 : decode cL_law 302 = .ok (.invokevirtual 49, 3) := by decide +kernel
theorem dL_law_305 : decode cL_law 305 = .ok (.aload_n 2, 1) := by decide +kernel
theorem dL_law_306 : decode cL_law 306 = .ok (.aload_n 0, 1) := by decide +kernel
theorem dL_law_307 : decode cL_law 307 = .ok (.iload_n 3, 1) := by decide +kernel
theorem dL_law_308 : decode cL_law 308 = .ok (.iconst 1, 1) := by decide +kernel
theorem dL_law_309 : decode cL_law 309 = .ok (.iadd, 1) := by decide +kernel
theorem dL_law_310 : decode cL_law 310 = .ok (.iaload, 1) := by decide +kernel
theorem dL_law_311 : decode cL_law 311 = .ok (.invokevirtual 52, 3) := by decide +kernel
theorem dL_law_314 : decode cL_law 314 = .ok (.if_icmp .eq 31, 3) := by decide +kernel
theorem dL_law_317 : decode cL_law 317 = .ok (.iconst 0, 1) := by decide +kernel
theorem dL_law_318 : decode cL_law 318 = .ok (.ireturn, 1) := by decide +kernel
theorem dL_law_319 : decode cL_law 319 = .ok (.aload_n 1, 1) := by decide +kernel
theorem dL_law_320 : decode cL_law 320 = .ok (.invokevirtual 53, 3) := by decide +kernel
theorem dL_law_323 : decode cL_law 323 = .ok (.aload_n 2, 1) := by decide +kernel
theorem dL_law_324 : decode cL_law 324 = .ok (.invokevirtual 56, 3) := by decide +kernel
theorem dL_law_327 : decode cL_law 327 = .ok (.if_icmp .eq 18, 3) := by decide +kernel
theorem dL_law_330 : decode cL_law 330 = .ok (.iconst 0, 1) := by decide +kernel
theorem dL_law_331 : decode cL_law 331 = .ok (.ireturn, 1) := by decide +kernel
theorem dL_law_332 : decode cL_law 332 = .ok (.aload_n 1, 1) := by decide +kernel
theorem dL_law_333 : decode cL_law 333 = .ok (.invokevirtual 57, 3) := by decide +kernel
theorem dL_law_336 : decode cL_law 336 = .ok (.aload_n 2, 1) := by decide +kernel
theorem dL_law_337 : decode cL_law 337 = .ok (.invokevirtual 60, 3) := by decide +kernel
theorem dL_law_340 : decode cL_law 340 = .ok (.if_icmp .eq 5, 3) := by decide +kernel
theorem dL_law_343 : decode cL_law 343 = .ok (.iconst 0, 1) := by decide +kernel
theorem dL_law_344 : decode cL_law 344 = .ok (.ireturn, 1) := by decide +kernel
theorem dL_law_345 : decode cL_law 345 = .ok (.iinc 3 5, 3) := by decide +kernel
theorem dL_law_348 : decode cL_law 348 = .ok (.goto (-330), 3) := by decide +kernel
theorem dL_law_351 : decode cL_law 351 = .ok (.iconst 1, 1) := by decide +kernel
theorem dL_law_352 : decode cL_law 352 = .ok (.ireturn, 1) := by decide +kernel
end
section
/-! BASE: worlds of the two classes as functions of a state S : field -> index -> Int32 (scalar field k: S k 0), contexts, derived rows -/
abbrev vwCl : List vw_C := [(RX0, TX0, 25), (RX1, TX1, 8)]
abbrev St : Type := Nat → Nat → Int32
/-- field k of the state becomes g -/
def up (S : St) (k : Nat) (g : Nat → Int32) : St := fun j => if j = k then g else S j
theorem up_s (S : St) (k : Nat) (g : Nat → Int32) : up S k g k = g := by simp [up]
theorem up_n (S : St) {k j : Nat} (g : Nat → Int32) (h : j ≠ k) : up S k g j = S j := by simp [up, h]
def tyX (T : Nat → ClassId) : List (ClassId × FieldType) := [(T 0, .int), (T 1, .byte), (T 2, .short)]
def fX (Q : Nat → Nat) (S : St) : List Value := [.int (S 0 0), .ref (Q 1), .ref (Q 2), .ref (Q 3), .ref (Q 4), .int (S 5 0), .int (S 6 0), .ref (Q 7), .ref (Q 8), .ref (Q 9), .ref (Q 10), .ref (Q 11), .ref (Q 12), .ref (Q 13), .ref (Q 14), .ref (Q 15), .int (S 16 0), .ref (Q 17), .ref (Q 18), .ref (Q 19), .int (S 20 0), .int (S 21 0), .ref (Q 22), .ref (Q 23), .ref (Q 24)]
def wX (Q : Nat → Nat) (T : Nat → ClassId) (S : St) : va_W := [(Q 0, .inr (0, fX Q S)), (Q 1, .inl (T 1, 24, .inl (S 1))), (Q 2, .inl (T 1, 24, .inl (S 2))), (Q 3, .inl (T 1, 24, .inl (S 3))), (Q 4, .inl (T 0, 24, .inl (S 4))), (Q 7, .inl (T 1, 96, .inl (S 7))), (Q 8, .inl (T 1, 96, .inl (S 8))), (Q 9, .inl (T 1, 96, .inl (S 9))), (Q 10, .inl (T 1, 96, .inl (S 10))), (Q 11, .inl (T 1, 96, .inl (S 11))), (Q 12, .inl (T 1, 2, .inl (S 12))), (Q 13, .inl (T 2, 96, .inl (S 13))), (Q 14, .inl (T 2, 96, .inl (S 14))), (Q 15, .inl (T 0, 400, .inl (S 15))), (Q 17, .inl (T 0, 500, .inl (S 17))), (Q 18, .inl (T 0, 16, .inl (S 18))), (Q 19, .inl (T 0, 16, .inl (S 19))), (Q 22, .inl (T 1, 32, .inl (S 22))), (Q 23, .inl (T 0, 32, .inl (S 23))), (Q 24, .inl (T 2, 32, .inl (S 24)))]
def fM (Q : Nat → Nat) (S : St) : List Value := [.int (S 0 0), .ref (Q 1), .ref (Q 2), .ref (Q 3), .ref (Q 4), .ref (Q 5), .ref (Q 6), .ref (Q 7)]
def wM (Q : Nat → Nat) (T : Nat → ClassId) (S : St) : va_W := [(Q 0, .inr (1, fM Q S)), (Q 1, .inl (T 0, 24, .inl (S 1))), (Q 2, .inl (T 0, 24, .inl (S 2))), (Q 3, .inl (T 0, 24, .inl (S 3))), (Q 4, .inl (T 0, 24, .inl (S 4))), (Q 5, .inl (T 0, 8, .inl (S 5))), (Q 6, .inl (T 0, 16, .inl (S 6))), (Q 7, .inl (T 0, 24, .inl (S 7)))]
abbrev Wf : Type := (Nat → Nat) → (Nat → ClassId) → St → va_W
/-- the context of a method's body -/
def gC (p : Program) (s : State) (m : MethodId) (args : Array Value) (meth : Method) (c : Code) (own : String) (cc : ByteArray) (nL : Nat) (ret : Option FieldType) : Prop := p.tables.exec = Jvm.exec ∧ c.code = cc ∧ c.maxLocals = nL ∧ s.vm.findClass own = some m.cls ∧ (∀ w ∈ lw_all, w.before args s = true) ∧ meth.sig.returnType = ret ∧ meth.locks = false
/-- the world inside a method -/
def gW (wf : Wf) (D : va_G) (Q : Nat → Nat) (T : Nat → ClassId) (A : Nat → Prop) (s : State) (S : St) (H : Heap) (locs : List Loc) : Prop := va_P D vwCl (wf Q T S) H ∧ va_D A (wf Q T S) ∧ va_S A s.heap H locs ∧ va_K D vwCl (tyX T) s ∧ ∀ q : Nat, s.heap.size ≤ q → A q
def gB (wf : Wf) (D : va_G) (Q : Nat → Nat) (T : Nat → ClassId) (A : Nat → Prop) (S : St) (t : State) : Prop := va_P D vwCl (wf Q T S) t.heap ∧ va_K D vwCl (tyX T) t ∧ va_D A (wf Q T S)
def gP (wf : Wf) (D : va_G) (Q : Nat → Nat) (T : Nat → ClassId) (S : St) (sz : Nat) (U : State) : Prop := U.heap.size = sz ∧ va_P D vwCl (wf Q T S) U.heap ∧ va_K D vwCl (tyX T) U ∧ va_D (fun _ => True) (wf Q T S)
/-- the contract of a method that answers an int (or boolean) -/
def gM (wf : Wf) (l : Launch) (y : MethodName) (cc : ByteArray) (nL : Nat) (ret : Option FieldType) (rm : Room) (As : List Value) (S : St) (post : Int32 → St → Prop) : Prop := ∀ (D : va_G) (Q : Nat → Nat) (T : Nat → ClassId) (sz : Nat), Met l y (ws_ y cc nL ret) rm (va_Pc (.ref (Q 0) :: As) (gP wf D Q T S sz)) (va_Qi post (gB wf D Q T (va_A (wf Q T S) sz)) (va_A (wf Q T S) sz)) 0 0 (va_A (wf Q T S) sz)
/-- the contract of a void method -/
def gV (wf : Wf) (l : Launch) (y : MethodName) (cc : ByteArray) (nL : Nat) (rm : Room) (As : List Value) (S : St) (post : St → Prop) : Prop := ∀ (D : va_G) (Q : Nat → Nat) (T : Nat → ClassId) (sz : Nat), Met l y (ws_ y cc nL none) rm (va_Pc (.ref (Q 0) :: As) (gP wf D Q T S sz)) (va_Qv post (gB wf D Q T (va_A (wf Q T S) sz)) (va_A (wf Q T S) sz)) 0 0 (va_A (wf Q T S) sz)
/-- the goal of a body -/
def gE (wf : Wf) (D : va_G) (Q : Nat → Nat) (T : Nat → ClassId) (A : Nat → Prop) (below : List Frame) (args : Array Value) (s : State) (post : Int32 → St → Prop) : State → Prop := MQ below (va_Qi post (gB wf D Q T A) A) args s 0 0 A
def gEv (wf : Wf) (D : va_G) (Q : Nat → Nat) (T : Nat → ClassId) (A : Nat → Prop) (below : List Frame) (args : Array Value) (s : State) (post : St → Prop) : State → Prop := MQ below (va_Qv post (gB wf D Q T A) A) args s 0 0 A
section BR
variable {p : Program} {l : Launch} {e : Env} {R : Room} {s : State} {m : MethodId} {args : Array Value} {below : List Frame} {meth : Method} {c : Code} {H : Heap} {locs : List Loc} {cells slots : Nat} {QQ : State → Prop}
variable {wf : Wf} {D : va_G} {Q : Nat → Nat} {T : Nat → ClassId} {A : Nat → Prop} {S : St} {own : String} {cc : ByteArray} {nL : Nat} {ret : Option FieldType} {pc : Nat} {ls : Array Slot} {rest : List Value}
theorem g_start {y : MethodName} {rm : Room} {As : List Value} {post : Int32 → St → Prop} (hy : plainName y.cls = true) (hown : y.cls = own) (hn : ∀ b : Nat, (lg_sl (.ref b :: As)).length ≤ nL)
    (body : ∀ (p : Program) (e : Env) (s : State) (m : MethodId) (below : List Frame) (meth : Method) (c : Code) (D : va_G) (Q : Nat → Nat) (T : Nat → ClassId) (A : Nat → Prop) (ls : Array Slot), gC p s m ((.ref (Q 0) :: As).toArray) meth c own cc nL ret → gW wf D Q T A s S s.heap [] → lv_has ls nL (lv_args 0 (.ref (Q 0) :: As)) → W p l e rm s m ((.ref (Q 0) :: As).toArray) below meth c s.heap [] 0 0 (gE wf D Q T A below ((.ref (Q 0) :: As).toArray) s post) (F0 m 0 ls [])) : gM wf l y cc nL ret rm As S post := by
  intro D Q T sz
  refine Met.ofW (cc := cc) (maxL := nL) (ret := ret) hy rfl ?_
  intro p e s m args below meth c s₁ B hml hv
  obtain ⟨rfl, hsz, hP, hK, hD0⟩ := hv
  have hts := atoms_spec (ws := ws_ y cc nL ret) B.pre
  have hts : ∀ w ∈ lw_all, w.before _ s = true := fun w h => hts w (List.mem_cons_of_mem _ h)
  have ho : s.vm.findClass own = some m.cls := by rw [← hown]; exact findClass_of_methodNamed B.named
  subst hsz
  have hl := lv_entry (.ref (Q 0) :: As) (n := nL) (hn _)
  rw [lg_entry_eq]
  exact body p e s m below meth c D Q T (va_A (wf Q T S) s.heap.size) _ ⟨B.exec, B.bytes, hml, ho, hts, B.returns, B.notSynchronized⟩ ⟨hP, hD0.self, va_S.rf, hK, fun q h => Or.inr h⟩ hl
theorem g_startv {y : MethodName} {rm : Room} {As : List Value} {post : St → Prop} (hy : plainName y.cls = true) (hown : y.cls = own) (hn : ∀ b : Nat, (lg_sl (.ref b :: As)).length ≤ nL)
    (body : ∀ (p : Program) (e : Env) (s : State) (m : MethodId) (below : List Frame) (meth : Method) (c : Code) (D : va_G) (Q : Nat → Nat) (T : Nat → ClassId) (A : Nat → Prop) (ls : Array Slot), gC p s m ((.ref (Q 0) :: As).toArray) meth c own cc nL none → gW wf D Q T A s S s.heap [] → lv_has ls nL (lv_args 0 (.ref (Q 0) :: As)) → W p l e rm s m ((.ref (Q 0) :: As).toArray) below meth c s.heap [] 0 0 (gEv wf D Q T A below ((.ref (Q 0) :: As).toArray) s post) (F0 m 0 ls [])) : gV wf l y cc nL rm As S post := by
  intro D Q T sz
  refine Met.ofW (cc := cc) (maxL := nL) (ret := none) hy rfl ?_
  intro p e s m args below meth c s₁ B hml hv
  obtain ⟨rfl, hsz, hP, hK, hD0⟩ := hv
  have hts := atoms_spec (ws := ws_ y cc nL none) B.pre
  have hts : ∀ w ∈ lw_all, w.before _ s = true := fun w h => hts w (List.mem_cons_of_mem _ h)
  have ho : s.vm.findClass own = some m.cls := by rw [← hown]; exact findClass_of_methodNamed B.named
  subst hsz
  have hl := lv_entry (.ref (Q 0) :: As) (n := nL) (hn _)
  rw [lg_entry_eq]
  exact body p e s m below meth c D Q T (va_A (wf Q T S) s.heap.size) _ ⟨B.exec, B.bytes, hml, ho, hts, B.returns, B.notSynchronized⟩ ⟨hP, hD0.self, va_S.rf, hK, fun q h => Or.inr h⟩ hl
theorem g_iret {v : Int32} {post : Int32 → St → Prop} (C : gC p s m args meth c own cc nL (some .int)) (w : gW wf D Q T A s S H locs) (hp : post v S) (hd : decode cc pc = .ok (.ireturn, 1)) : W p l e R s m args below meth c H locs 0 0 (gE wf D Q T A below args s post) (F0 m pc ls [.int v]) :=
  W.iret (v := v) C.1 C.2.1 C.2.2.2.2.2.1 (fun t ht hW => ⟨⟨v, S, rfl, hp, by rw [ht]; exact w.1, va_K.moved hW.alike w.2.2.2.1, w.2.1⟩, w.2.2.1.F ht⟩) w.2.2.1.2.2 hd C.2.2.2.2.2.2
theorem g_zret {v : Int32} {post : Int32 → St → Prop} (C : gC p s m args meth c own cc nL (some .boolean)) (w : gW wf D Q T A s S H locs) (hn : narrow .boolean (.int v) = .int v) (hp : post v S) (hd : decode cc pc = .ok (.ireturn, 1)) : W p l e R s m args below meth c H locs 0 0 (gE wf D Q T A below args s post) (F0 m pc ls [.int v]) :=
  W.zret (v := v) C.1 C.2.1 C.2.2.2.2.2.1 hn (fun t ht hW => ⟨⟨v, S, rfl, hp, by rw [ht]; exact w.1, va_K.moved hW.alike w.2.2.2.1, w.2.1⟩, w.2.2.1.F ht⟩) w.2.2.1.2.2 hd C.2.2.2.2.2.2
theorem g_vret {post : St → Prop} (C : gC p s m args meth c own cc nL none) (w : gW wf D Q T A s S H locs) (hp : post S) (hd : decode cc pc = .ok (.return_, 1)) : W p l e R s m args below meth c H locs 0 0 (gEv wf D Q T A below args s post) (F0 m pc ls []) :=
  W.vret C.1 C.2.1 C.2.2.2.2.2.1 (fun t ht hW => ⟨⟨S, rfl, hp, by rw [ht]; exact w.1, va_K.moved hW.alike w.2.2.2.1, w.2.1⟩, w.2.2.1.F ht⟩) w.2.2.1.2.2 hd C.2.2.2.2.2.2
theorem gW.free (w : gW wf D Q T A s S H locs) : ∀ q, va_A (wf Q T S) H.size q → A q := by
  intro q h
  rcases h with ⟨k, e, h⟩ | h
  · exact w.2.1.2 k (q, e) h
  · exact w.2.2.2.2 q (Nat.le_trans w.2.2.1.1 h)
theorem g_blind {D : va_G} {Q : Nat → Nat} {T : Nat → ClassId} {S : St} {sz : Nat} {av : List Value} : FrameBlind (va_Pc av (gP wf D Q T S sz)) := fun a U g mk q => by
  obtain ⟨q0, q1, qP, qK, qD⟩ := q
  exact ⟨q0, q1, qP, va_K.moved (u := U) (U := U.calling g mk a) (Vm.Alike.refl U.vm) qK, qD⟩
/-- a call through the object, the answer an int or a boolean -/
theorem g_calli {y : MethodName} {rm : Room} {bytes : ByteArray} {maxL index ci : Nat} {r2 : Option FieldType} {fs : List Value} {st : List Value} {X : vw_C} {As : List Value} {post : Int32 → St → Prop} (C : gC p s m args meth c own cc nL ret) (w : gW wf D Q T A s S H locs) (hM : gM wf l y bytes maxL r2 rm As S post) (hrec : (wf Q T S)[0]? = some (Q 0, .inr (ci, fs))) (hX : vwCl[ci]? = some X)
    (hq : GoodIn lw_all (wsV own index X.1 y (ws_ y bytes maxL r2))) (hy : y.cls = X.1 ∧ y.cls ≠ "java/lang/invoke/MethodHandle" ∧ y.cls ≠ "java/lang/invoke/VarHandle" ∧ (parseMethodDescriptor y.desc).map (fun d => d.parameters.length) = some As.length) (hc : rm.cells = 0) (hs : rm.slots = 0)
    (hR : rm.frames + 1 ≤ R.frames ∧ 8 + (maxL + 11) + rm.locals ≤ R.locals) (hlc : cells ≤ R.cells ∧ slots ≤ R.slots) (hl : ls.size = nL) (hst : st = As.reverse ++ .ref (Q 0) :: rest) (hrm : (rest.map fun v => v.category).sum ≤ 8) (hd : decode cc pc = .ok (.invokevirtual index, 3))
    (kk : ∀ (r : Int32) (S1 : St) (H1 : Heap) (locs1 : List Loc), post r S1 → gW wf D Q T A s S1 H1 locs1 → W p l e R s m args below meth c H1 locs1 cells slots QQ (F0 m (pc + 3) ls (.int r :: rest))) : W p l e R s m args below meth c H locs cells slots QQ (F0 m pc ls st) := by
  refine va_calli (va_runV (As := As) (rest := rest) ⟨C.1, C.2.1, C.2.2.1, C.2.2.2.1, C.2.2.2.2.1⟩ (hM D Q T H.size) (cwV As.length C.2.2.2.2.1 hq rfl hc hs hy hR) ⟨g_blind, va_recv w.2.2.2.1 w.1 hX hrec, fun U hU hW => ⟨rfl, by rw [hU], by rw [hU]; exact w.1, va_K.moved hW.alike w.2.2.2.1, w.2.1.weaken (fun _ _ _ _ => trivial)⟩⟩ rfl rfl hl hst (lv_room hrm) hd hlc) w.2.2.1 (fun q _ h => w.free q h) w.free (fun r u t H1 locs1 ht hvm hp hB hz1 hk1 hS => ?_)
  obtain ⟨hP1, hK1, hD1⟩ := hB
  rw [ht] at hP1
  exact kk r u H1 locs1 hp ⟨hP1, hD1.weaken (fun _ q _ h => w.free q.1 h), hS, w.2.2.2.1, w.2.2.2.2⟩
theorem g_callv {y : MethodName} {rm : Room} {bytes : ByteArray} {maxL index ci : Nat} {fs : List Value} {st : List Value} {X : vw_C} {As : List Value} {post : St → Prop} (C : gC p s m args meth c own cc nL ret) (w : gW wf D Q T A s S H locs) (hM : gV wf l y bytes maxL rm As S post) (hrec : (wf Q T S)[0]? = some (Q 0, .inr (ci, fs))) (hX : vwCl[ci]? = some X)
    (hq : GoodIn lw_all (wsV own index X.1 y (ws_ y bytes maxL none))) (hy : y.cls = X.1 ∧ y.cls ≠ "java/lang/invoke/MethodHandle" ∧ y.cls ≠ "java/lang/invoke/VarHandle" ∧ (parseMethodDescriptor y.desc).map (fun d => d.parameters.length) = some As.length) (hc : rm.cells = 0) (hs : rm.slots = 0)
    (hR : rm.frames + 1 ≤ R.frames ∧ 8 + (maxL + 11) + rm.locals ≤ R.locals) (hlc : cells ≤ R.cells ∧ slots ≤ R.slots) (hl : ls.size = nL) (hst : st = As.reverse ++ .ref (Q 0) :: rest) (hrm : (rest.map fun v => v.category).sum ≤ 8) (hd : decode cc pc = .ok (.invokevirtual index, 3))
    (kk : ∀ (S1 : St) (H1 : Heap) (locs1 : List Loc), post S1 → gW wf D Q T A s S1 H1 locs1 → W p l e R s m args below meth c H1 locs1 cells slots QQ (F0 m (pc + 3) ls rest)) : W p l e R s m args below meth c H locs cells slots QQ (F0 m pc ls st) := by
  refine va_callv (va_runV (As := As) (rest := rest) ⟨C.1, C.2.1, C.2.2.1, C.2.2.2.1, C.2.2.2.2.1⟩ (hM D Q T H.size) (cwV As.length C.2.2.2.2.1 hq rfl hc hs hy hR) ⟨g_blind, va_recv w.2.2.2.1 w.1 hX hrec, fun U hU hW => ⟨rfl, by rw [hU], by rw [hU]; exact w.1, va_K.moved hW.alike w.2.2.2.1, w.2.1.weaken (fun _ _ _ _ => trivial)⟩⟩ rfl rfl hl hst (lv_room hrm) hd hlc) w.2.2.1 (fun q _ h => w.free q h) w.free (fun u t H1 locs1 ht hvm hp hB hz1 hk1 hS => ?_)
  obtain ⟨hP1, hK1, hD1⟩ := hB
  rw [ht] at hP1
  exact kk u H1 locs1 hp ⟨hP1, hD1.weaken (fun _ q _ h => w.free q.1 h), hS, w.2.2.2.1, w.2.2.2.2⟩
/-! plain rows with the context in one hypothesis; a computed value gets the form that hv says -/
theorem n_const {n : Int} {v : Int32} (C : gC p s m args meth c own cc nL ret) (hd : decode cc pc = .ok (.iconst n, 1)) (hv : Int32.ofInt n = v) (k : W p l e R s m args below meth c H locs cells slots QQ (F0 m (pc + 1) ls (.int v :: rest))) : W p l e R s m args below meth c H locs cells slots QQ (F0 m pc ls rest) := lv_iconst C.1 C.2.1 hd hv k
theorem n_bipush {n : Int} {v : Int32} (C : gC p s m args meth c own cc nL ret) (hd : decode cc pc = .ok (.bipush n, 2)) (hv : (Int8.ofInt n).toInt32 = v) (k : W p l e R s m args below meth c H locs cells slots QQ (F0 m (pc + 2) ls (.int v :: rest))) : W p l e R s m args below meth c H locs cells slots QQ (F0 m pc ls rest) := lv_bipush C.1 C.2.1 hd hv k
theorem n_sipush {n : Int} {v : Int32} (C : gC p s m args meth c own cc nL ret) (hd : decode cc pc = .ok (.sipush n, 3)) (hv : (Int16.ofInt n).toInt32 = v) (k : W p l e R s m args below meth c H locs cells slots QQ (F0 m (pc + 3) ls (.int v :: rest))) : W p l e R s m args below meth c H locs cells slots QQ (F0 m pc ls rest) := lv_sipush C.1 C.2.1 hd hv k
theorem n_iadd {x y v : Int32} (C : gC p s m args meth c own cc nL ret) (hd : decode cc pc = .ok (.iadd, 1)) (hv : x + y = v) (k : W p l e R s m args below meth c H locs cells slots QQ (F0 m (pc + 1) ls (.int v :: rest))) : W p l e R s m args below meth c H locs cells slots QQ (F0 m pc ls (.int y :: .int x :: rest)) := lv_iadd C.1 C.2.1 hd (by rw [hv]; exact k)
theorem n_isub {x y v : Int32} (C : gC p s m args meth c own cc nL ret) (hd : decode cc pc = .ok (.isub, 1)) (hv : x - y = v) (k : W p l e R s m args below meth c H locs cells slots QQ (F0 m (pc + 1) ls (.int v :: rest))) : W p l e R s m args below meth c H locs cells slots QQ (F0 m pc ls (.int y :: .int x :: rest)) := lv_isub C.1 C.2.1 hd (by rw [hv]; exact k)
theorem n_imul {x y v : Int32} (C : gC p s m args meth c own cc nL ret) (hd : decode cc pc = .ok (.imul, 1)) (hv : x * y = v) (k : W p l e R s m args below meth c H locs cells slots QQ (F0 m (pc + 1) ls (.int v :: rest))) : W p l e R s m args below meth c H locs cells slots QQ (F0 m pc ls (.int y :: .int x :: rest)) := lv_imul C.1 C.2.1 hd (by rw [hv]; exact k)
theorem n_iand {x y v : Int32} (C : gC p s m args meth c own cc nL ret) (hd : decode cc pc = .ok (.iand, 1)) (hv : x &&& y = v) (k : W p l e R s m args below meth c H locs cells slots QQ (F0 m (pc + 1) ls (.int v :: rest))) : W p l e R s m args below meth c H locs cells slots QQ (F0 m pc ls (.int y :: .int x :: rest)) := lv_iand C.1 C.2.1 hd (by rw [hv]; exact k)
theorem n_ior {x y v : Int32} (C : gC p s m args meth c own cc nL ret) (hd : decode cc pc = .ok (.ior, 1)) (hv : x ||| y = v) (k : W p l e R s m args below meth c H locs cells slots QQ (F0 m (pc + 1) ls (.int v :: rest))) : W p l e R s m args below meth c H locs cells slots QQ (F0 m pc ls (.int y :: .int x :: rest)) := lv_ior C.1 C.2.1 hd (by rw [hv]; exact k)
theorem n_ixor {x y v : Int32} (C : gC p s m args meth c own cc nL ret) (hd : decode cc pc = .ok (.ixor, 1)) (hv : x ^^^ y = v) (k : W p l e R s m args below meth c H locs cells slots QQ (F0 m (pc + 1) ls (.int v :: rest))) : W p l e R s m args below meth c H locs cells slots QQ (F0 m pc ls (.int y :: .int x :: rest)) := lv_ixor C.1 C.2.1 hd (by rw [hv]; exact k)
theorem n_ishl {x y v : Int32} (C : gC p s m args meth c own cc nL ret) (hd : decode cc pc = .ok (.ishl, 1)) (hv : x <<< (y &&& 31) = v) (k : W p l e R s m args below meth c H locs cells slots QQ (F0 m (pc + 1) ls (.int v :: rest))) : W p l e R s m args below meth c H locs cells slots QQ (F0 m pc ls (.int y :: .int x :: rest)) := lv_ishl C.1 C.2.1 hd (by rw [hv]; exact k)
theorem n_ishr {x y v : Int32} (C : gC p s m args meth c own cc nL ret) (hd : decode cc pc = .ok (.ishr, 1)) (hv : x >>> (y &&& 31) = v) (k : W p l e R s m args below meth c H locs cells slots QQ (F0 m (pc + 1) ls (.int v :: rest))) : W p l e R s m args below meth c H locs cells slots QQ (F0 m pc ls (.int y :: .int x :: rest)) := lv_ishr C.1 C.2.1 hd (by rw [hv]; exact k)
theorem n_icmp_eq {a b : Nat} {off : Int} {tgt : Nat} (C : gC p s m args meth c own cc nL ret) (ha : a < 2 ^ 31) (hb : b < 2 ^ 31) (hd : decode cc pc = .ok (.if_icmp .eq off, 3)) (ht : (pc : Int) + off = (tgt : Int)) (k1 : a = b → W p l e R s m args below meth c H locs cells slots QQ (F0 m tgt ls rest)) (k2 : a ≠ b → W p l e R s m args below meth c H locs cells slots QQ (F0 m (pc + 3) ls rest)) : W p l e R s m args below meth c H locs cells slots QQ (F0 m pc ls (.int (nI b) :: .int (nI a) :: rest)) := lv_icmp_eq C.1 C.2.1 hd ht (fun h => k1 ((nI_eq ha hb).mp h)) (fun h => k2 (fun q => h ((nI_eq ha hb).mpr q)))
theorem n_if_eq {a : Nat} {off : Int} {tgt : Nat} (C : gC p s m args meth c own cc nL ret) (ha : a < 2 ^ 31) (hd : decode cc pc = .ok (.ifCond .eq off, 3)) (ht : (pc : Int) + off = (tgt : Int)) (k1 : a = 0 → W p l e R s m args below meth c H locs cells slots QQ (F0 m tgt ls rest)) (k2 : a ≠ 0 → W p l e R s m args below meth c H locs cells slots QQ (F0 m (pc + 3) ls rest)) : W p l e R s m args below meth c H locs cells slots QQ (F0 m pc ls (.int (nI a) :: rest)) := by
  have hb : (0 : Nat) < 2 ^ 31 := by decide
  exact lv_if_eq C.1 C.2.1 hd ht (fun h => k1 (by rw [← nI_0] at h; exact (nI_eq ha hb).mp h)) (fun h => k2 (by rw [← nI_0] at h; exact fun q => h ((nI_eq ha hb).mpr q)))
theorem r_icmp_eq {x y : Int32} {off : Int} {tgt : Nat} (C : gC p s m args meth c own cc nL ret) (hd : decode cc pc = .ok (.if_icmp .eq off, 3)) (ht : (pc : Int) + off = (tgt : Int)) (k1 : x = y → W p l e R s m args below meth c H locs cells slots QQ (F0 m tgt ls rest)) (k2 : ¬ x = y → W p l e R s m args below meth c H locs cells slots QQ (F0 m (pc + 3) ls rest)) : W p l e R s m args below meth c H locs cells slots QQ (F0 m pc ls (.int y :: .int x :: rest)) := lv_icmp_eq C.1 C.2.1 hd ht k1 k2
theorem r_if_eq {x : Int32} {off : Int} {tgt : Nat} (C : gC p s m args meth c own cc nL ret) (hd : decode cc pc = .ok (.ifCond .eq off, 3)) (ht : (pc : Int) + off = (tgt : Int)) (k1 : x = 0 → W p l e R s m args below meth c H locs cells slots QQ (F0 m tgt ls rest)) (k2 : ¬ x = 0 → W p l e R s m args below meth c H locs cells slots QQ (F0 m (pc + 3) ls rest)) : W p l e R s m args below meth c H locs cells slots QQ (F0 m pc ls (.int x :: rest)) := lv_if_eq C.1 C.2.1 hd ht k1 k2
theorem n_icmp_ne {a b : Nat} {off : Int} {tgt : Nat} (C : gC p s m args meth c own cc nL ret) (ha : a < 2 ^ 31) (hb : b < 2 ^ 31) (hd : decode cc pc = .ok (.if_icmp .ne off, 3)) (ht : (pc : Int) + off = (tgt : Int)) (k1 : a ≠ b → W p l e R s m args below meth c H locs cells slots QQ (F0 m tgt ls rest)) (k2 : a = b → W p l e R s m args below meth c H locs cells slots QQ (F0 m (pc + 3) ls rest)) : W p l e R s m args below meth c H locs cells slots QQ (F0 m pc ls (.int (nI b) :: .int (nI a) :: rest)) := lv_icmp_ne C.1 C.2.1 hd ht (fun h => k1 (fun q => h ((nI_eq ha hb).mpr q))) (fun h => k2 ((nI_eq ha hb).mp h))
theorem n_if_ne {a : Nat} {off : Int} {tgt : Nat} (C : gC p s m args meth c own cc nL ret) (ha : a < 2 ^ 31) (hd : decode cc pc = .ok (.ifCond .ne off, 3)) (ht : (pc : Int) + off = (tgt : Int)) (k1 : a ≠ 0 → W p l e R s m args below meth c H locs cells slots QQ (F0 m tgt ls rest)) (k2 : a = 0 → W p l e R s m args below meth c H locs cells slots QQ (F0 m (pc + 3) ls rest)) : W p l e R s m args below meth c H locs cells slots QQ (F0 m pc ls (.int (nI a) :: rest)) := by
  have hb : (0 : Nat) < 2 ^ 31 := by decide
  exact lv_if_ne C.1 C.2.1 hd ht (fun h => k1 (by rw [← nI_0] at h; exact fun q => h ((nI_eq ha hb).mpr q))) (fun h => k2 (by rw [← nI_0] at h; exact (nI_eq ha hb).mp h))
theorem r_icmp_ne {x y : Int32} {off : Int} {tgt : Nat} (C : gC p s m args meth c own cc nL ret) (hd : decode cc pc = .ok (.if_icmp .ne off, 3)) (ht : (pc : Int) + off = (tgt : Int)) (k1 : ¬ x = y → W p l e R s m args below meth c H locs cells slots QQ (F0 m tgt ls rest)) (k2 : x = y → W p l e R s m args below meth c H locs cells slots QQ (F0 m (pc + 3) ls rest)) : W p l e R s m args below meth c H locs cells slots QQ (F0 m pc ls (.int y :: .int x :: rest)) := lv_icmp_ne C.1 C.2.1 hd ht k1 k2
theorem r_if_ne {x : Int32} {off : Int} {tgt : Nat} (C : gC p s m args meth c own cc nL ret) (hd : decode cc pc = .ok (.ifCond .ne off, 3)) (ht : (pc : Int) + off = (tgt : Int)) (k1 : ¬ x = 0 → W p l e R s m args below meth c H locs cells slots QQ (F0 m tgt ls rest)) (k2 : x = 0 → W p l e R s m args below meth c H locs cells slots QQ (F0 m (pc + 3) ls rest)) : W p l e R s m args below meth c H locs cells slots QQ (F0 m pc ls (.int x :: rest)) := lv_if_ne C.1 C.2.1 hd ht k1 k2
theorem n_icmp_lt {a b : Nat} {off : Int} {tgt : Nat} (C : gC p s m args meth c own cc nL ret) (ha : a < 2 ^ 31) (hb : b < 2 ^ 31) (hd : decode cc pc = .ok (.if_icmp .lt off, 3)) (ht : (pc : Int) + off = (tgt : Int)) (k1 : a < b → W p l e R s m args below meth c H locs cells slots QQ (F0 m tgt ls rest)) (k2 : b ≤ a → W p l e R s m args below meth c H locs cells slots QQ (F0 m (pc + 3) ls rest)) : W p l e R s m args below meth c H locs cells slots QQ (F0 m pc ls (.int (nI b) :: .int (nI a) :: rest)) := lv_icmp_lt C.1 C.2.1 hd ht (fun h => k1 ((nI_ltI ha hb).mp h)) (fun h => k2 (Nat.le_of_not_lt fun q => h ((nI_ltI ha hb).mpr q)))
theorem n_if_lt {a : Nat} {off : Int} {tgt : Nat} (C : gC p s m args meth c own cc nL ret) (ha : a < 2 ^ 31) (hd : decode cc pc = .ok (.ifCond .lt off, 3)) (ht : (pc : Int) + off = (tgt : Int)) (k1 : a < 0 → W p l e R s m args below meth c H locs cells slots QQ (F0 m tgt ls rest)) (k2 : 0 ≤ a → W p l e R s m args below meth c H locs cells slots QQ (F0 m (pc + 3) ls rest)) : W p l e R s m args below meth c H locs cells slots QQ (F0 m pc ls (.int (nI a) :: rest)) := by
  have hb : (0 : Nat) < 2 ^ 31 := by decide
  exact lv_if_lt C.1 C.2.1 hd ht (fun h => k1 (by rw [← nI_0] at h; exact (nI_ltI ha hb).mp h)) (fun h => k2 (by rw [← nI_0] at h; exact Nat.le_of_not_lt fun q => h ((nI_ltI ha hb).mpr q)))
theorem r_icmp_lt {x y : Int32} {off : Int} {tgt : Nat} (C : gC p s m args meth c own cc nL ret) (hd : decode cc pc = .ok (.if_icmp .lt off, 3)) (ht : (pc : Int) + off = (tgt : Int)) (k1 : x < y → W p l e R s m args below meth c H locs cells slots QQ (F0 m tgt ls rest)) (k2 : ¬ x < y → W p l e R s m args below meth c H locs cells slots QQ (F0 m (pc + 3) ls rest)) : W p l e R s m args below meth c H locs cells slots QQ (F0 m pc ls (.int y :: .int x :: rest)) := lv_icmp_lt C.1 C.2.1 hd ht k1 k2
theorem r_if_lt {x : Int32} {off : Int} {tgt : Nat} (C : gC p s m args meth c own cc nL ret) (hd : decode cc pc = .ok (.ifCond .lt off, 3)) (ht : (pc : Int) + off = (tgt : Int)) (k1 : x < 0 → W p l e R s m args below meth c H locs cells slots QQ (F0 m tgt ls rest)) (k2 : ¬ x < 0 → W p l e R s m args below meth c H locs cells slots QQ (F0 m (pc + 3) ls rest)) : W p l e R s m args below meth c H locs cells slots QQ (F0 m pc ls (.int x :: rest)) := lv_if_lt C.1 C.2.1 hd ht k1 k2
theorem n_icmp_ge {a b : Nat} {off : Int} {tgt : Nat} (C : gC p s m args meth c own cc nL ret) (ha : a < 2 ^ 31) (hb : b < 2 ^ 31) (hd : decode cc pc = .ok (.if_icmp .ge off, 3)) (ht : (pc : Int) + off = (tgt : Int)) (k1 : b ≤ a → W p l e R s m args below meth c H locs cells slots QQ (F0 m tgt ls rest)) (k2 : a < b → W p l e R s m args below meth c H locs cells slots QQ (F0 m (pc + 3) ls rest)) : W p l e R s m args below meth c H locs cells slots QQ (F0 m pc ls (.int (nI b) :: .int (nI a) :: rest)) := lv_icmp_ge C.1 C.2.1 hd ht (fun h => k1 ((nI_leI hb ha).mp h)) (fun h => k2 (Nat.lt_of_not_le fun q => h ((nI_leI hb ha).mpr q)))
theorem n_if_ge {a : Nat} {off : Int} {tgt : Nat} (C : gC p s m args meth c own cc nL ret) (ha : a < 2 ^ 31) (hd : decode cc pc = .ok (.ifCond .ge off, 3)) (ht : (pc : Int) + off = (tgt : Int)) (k1 : 0 ≤ a → W p l e R s m args below meth c H locs cells slots QQ (F0 m tgt ls rest)) (k2 : a < 0 → W p l e R s m args below meth c H locs cells slots QQ (F0 m (pc + 3) ls rest)) : W p l e R s m args below meth c H locs cells slots QQ (F0 m pc ls (.int (nI a) :: rest)) := by
  have hb : (0 : Nat) < 2 ^ 31 := by decide
  exact lv_if_ge C.1 C.2.1 hd ht (fun h => k1 (by rw [← nI_0] at h; exact (nI_leI hb ha).mp h)) (fun h => k2 (by rw [← nI_0] at h; exact Nat.lt_of_not_le fun q => h ((nI_leI hb ha).mpr q)))
theorem r_icmp_ge {x y : Int32} {off : Int} {tgt : Nat} (C : gC p s m args meth c own cc nL ret) (hd : decode cc pc = .ok (.if_icmp .ge off, 3)) (ht : (pc : Int) + off = (tgt : Int)) (k1 : y ≤ x → W p l e R s m args below meth c H locs cells slots QQ (F0 m tgt ls rest)) (k2 : ¬ y ≤ x → W p l e R s m args below meth c H locs cells slots QQ (F0 m (pc + 3) ls rest)) : W p l e R s m args below meth c H locs cells slots QQ (F0 m pc ls (.int y :: .int x :: rest)) := lv_icmp_ge C.1 C.2.1 hd ht k1 k2
theorem r_if_ge {x : Int32} {off : Int} {tgt : Nat} (C : gC p s m args meth c own cc nL ret) (hd : decode cc pc = .ok (.ifCond .ge off, 3)) (ht : (pc : Int) + off = (tgt : Int)) (k1 : 0 ≤ x → W p l e R s m args below meth c H locs cells slots QQ (F0 m tgt ls rest)) (k2 : ¬ 0 ≤ x → W p l e R s m args below meth c H locs cells slots QQ (F0 m (pc + 3) ls rest)) : W p l e R s m args below meth c H locs cells slots QQ (F0 m pc ls (.int x :: rest)) := lv_if_ge C.1 C.2.1 hd ht k1 k2
theorem n_icmp_gt {a b : Nat} {off : Int} {tgt : Nat} (C : gC p s m args meth c own cc nL ret) (ha : a < 2 ^ 31) (hb : b < 2 ^ 31) (hd : decode cc pc = .ok (.if_icmp .gt off, 3)) (ht : (pc : Int) + off = (tgt : Int)) (k1 : b < a → W p l e R s m args below meth c H locs cells slots QQ (F0 m tgt ls rest)) (k2 : a ≤ b → W p l e R s m args below meth c H locs cells slots QQ (F0 m (pc + 3) ls rest)) : W p l e R s m args below meth c H locs cells slots QQ (F0 m pc ls (.int (nI b) :: .int (nI a) :: rest)) := lv_icmp_gt C.1 C.2.1 hd ht (fun h => k1 ((nI_ltI hb ha).mp h)) (fun h => k2 (Nat.le_of_not_lt fun q => h ((nI_ltI hb ha).mpr q)))
theorem n_if_gt {a : Nat} {off : Int} {tgt : Nat} (C : gC p s m args meth c own cc nL ret) (ha : a < 2 ^ 31) (hd : decode cc pc = .ok (.ifCond .gt off, 3)) (ht : (pc : Int) + off = (tgt : Int)) (k1 : 0 < a → W p l e R s m args below meth c H locs cells slots QQ (F0 m tgt ls rest)) (k2 : a ≤ 0 → W p l e R s m args below meth c H locs cells slots QQ (F0 m (pc + 3) ls rest)) : W p l e R s m args below meth c H locs cells slots QQ (F0 m pc ls (.int (nI a) :: rest)) := by
  have hb : (0 : Nat) < 2 ^ 31 := by decide
  exact lv_if_gt C.1 C.2.1 hd ht (fun h => k1 (by rw [← nI_0] at h; exact (nI_ltI hb ha).mp h)) (fun h => k2 (by rw [← nI_0] at h; exact Nat.le_of_not_lt fun q => h ((nI_ltI hb ha).mpr q)))
theorem r_icmp_gt {x y : Int32} {off : Int} {tgt : Nat} (C : gC p s m args meth c own cc nL ret) (hd : decode cc pc = .ok (.if_icmp .gt off, 3)) (ht : (pc : Int) + off = (tgt : Int)) (k1 : y < x → W p l e R s m args below meth c H locs cells slots QQ (F0 m tgt ls rest)) (k2 : ¬ y < x → W p l e R s m args below meth c H locs cells slots QQ (F0 m (pc + 3) ls rest)) : W p l e R s m args below meth c H locs cells slots QQ (F0 m pc ls (.int y :: .int x :: rest)) := lv_icmp_gt C.1 C.2.1 hd ht k1 k2
theorem r_if_gt {x : Int32} {off : Int} {tgt : Nat} (C : gC p s m args meth c own cc nL ret) (hd : decode cc pc = .ok (.ifCond .gt off, 3)) (ht : (pc : Int) + off = (tgt : Int)) (k1 : 0 < x → W p l e R s m args below meth c H locs cells slots QQ (F0 m tgt ls rest)) (k2 : ¬ 0 < x → W p l e R s m args below meth c H locs cells slots QQ (F0 m (pc + 3) ls rest)) : W p l e R s m args below meth c H locs cells slots QQ (F0 m pc ls (.int x :: rest)) := lv_if_gt C.1 C.2.1 hd ht k1 k2
theorem n_icmp_le {a b : Nat} {off : Int} {tgt : Nat} (C : gC p s m args meth c own cc nL ret) (ha : a < 2 ^ 31) (hb : b < 2 ^ 31) (hd : decode cc pc = .ok (.if_icmp .le off, 3)) (ht : (pc : Int) + off = (tgt : Int)) (k1 : a ≤ b → W p l e R s m args below meth c H locs cells slots QQ (F0 m tgt ls rest)) (k2 : b < a → W p l e R s m args below meth c H locs cells slots QQ (F0 m (pc + 3) ls rest)) : W p l e R s m args below meth c H locs cells slots QQ (F0 m pc ls (.int (nI b) :: .int (nI a) :: rest)) := lv_icmp_le C.1 C.2.1 hd ht (fun h => k1 ((nI_leI ha hb).mp h)) (fun h => k2 (Nat.lt_of_not_le fun q => h ((nI_leI ha hb).mpr q)))
theorem n_if_le {a : Nat} {off : Int} {tgt : Nat} (C : gC p s m args meth c own cc nL ret) (ha : a < 2 ^ 31) (hd : decode cc pc = .ok (.ifCond .le off, 3)) (ht : (pc : Int) + off = (tgt : Int)) (k1 : a ≤ 0 → W p l e R s m args below meth c H locs cells slots QQ (F0 m tgt ls rest)) (k2 : 0 < a → W p l e R s m args below meth c H locs cells slots QQ (F0 m (pc + 3) ls rest)) : W p l e R s m args below meth c H locs cells slots QQ (F0 m pc ls (.int (nI a) :: rest)) := by
  have hb : (0 : Nat) < 2 ^ 31 := by decide
  exact lv_if_le C.1 C.2.1 hd ht (fun h => k1 (by rw [← nI_0] at h; exact (nI_leI ha hb).mp h)) (fun h => k2 (by rw [← nI_0] at h; exact Nat.lt_of_not_le fun q => h ((nI_leI ha hb).mpr q)))
theorem r_icmp_le {x y : Int32} {off : Int} {tgt : Nat} (C : gC p s m args meth c own cc nL ret) (hd : decode cc pc = .ok (.if_icmp .le off, 3)) (ht : (pc : Int) + off = (tgt : Int)) (k1 : x ≤ y → W p l e R s m args below meth c H locs cells slots QQ (F0 m tgt ls rest)) (k2 : ¬ x ≤ y → W p l e R s m args below meth c H locs cells slots QQ (F0 m (pc + 3) ls rest)) : W p l e R s m args below meth c H locs cells slots QQ (F0 m pc ls (.int y :: .int x :: rest)) := lv_icmp_le C.1 C.2.1 hd ht k1 k2
theorem r_if_le {x : Int32} {off : Int} {tgt : Nat} (C : gC p s m args meth c own cc nL ret) (hd : decode cc pc = .ok (.ifCond .le off, 3)) (ht : (pc : Int) + off = (tgt : Int)) (k1 : x ≤ 0 → W p l e R s m args below meth c H locs cells slots QQ (F0 m tgt ls rest)) (k2 : ¬ x ≤ 0 → W p l e R s m args below meth c H locs cells slots QQ (F0 m (pc + 3) ls rest)) : W p l e R s m args below meth c H locs cells slots QQ (F0 m pc ls (.int x :: rest)) := lv_if_le C.1 C.2.1 hd ht k1 k2
end BR
section Cx
variable {p : Program} {l : Launch} {e : Env} {R : Room} {s : State} {m : MethodId} {args : Array Value} {below : List Frame} {meth : Method} {c : Code} {H : Heap} {locs : List Loc} {cells slots : Nat} {QQ : State → Prop}
variable {D : va_G} {Q : Nat → Nat} {T : Nat → ClassId} {A : Nat → Prop} {S : St} {cc : ByteArray} {nL : Nat} {ret : Option FieldType} {pc : Nat} {ls : Array Slot} {rest : List Value}
theorem xg_0 (C : gC p s m args meth c RX0 cc nL ret) (w : gW wX D Q T A s S H locs) {v : Int32} (hv : S 0 0 = v) (hd : decode cc pc = .ok (.getfield 69, 3)) (k : W p l e R s m args below meth c H locs cells slots QQ (F0 m (pc + 3) ls (.int v :: rest))) : W p l e R s m args below meth c H locs cells slots QQ (F0 m pc ls (.ref (Q 0) :: rest)) := va_get (D := D) (ci := 0) (v := .int v) (C := RX0) (T := TX0) (N := 25) C.1 C.2.1 C.2.2.2.2.1 in_X0 C.2.2.2.1 w.2.2.2.1 w.1 0 rfl rfl 0 (by decide) (C.2.2.2.2.1 _ q43) (fun _ h9 => h9) (by subst hv; rfl) hd k
theorem xp_0 {v : Int32} (C : gC p s m args meth c RX0 cc nL ret) (w : gW wX D Q T A s S H locs) (hd : decode cc pc = .ok (.putfield 69, 3)) (k : ∀ (H1 : Heap) (locs1 : List Loc) (S1 : St), S1 = up S 0 (fun _ => v) → gW wX D Q T A s S1 H1 locs1 → W p l e R s m args below meth c H1 locs1 cells slots QQ (F0 m (pc + 3) ls rest)) : W p l e R s m args below meth c H locs cells slots QQ (F0 m pc ls (.int v :: .ref (Q 0) :: rest)) := va_put (D := D) (ci := 0) (v := .int v) (ty := .int) (C := RX0) (T := TX0) (N := 25) C.1 C.2.1 C.2.2.2.2.1 in_X0 tyX0 tyX0_ok nmX0 C.2.2.2.1 w.2.2.2.1 w.1 w.2.1 w.2.2.1 0 rfl rfl 0 (by decide) (C.2.2.2.2.1 _ q43) (fun _ h9 => h9) rfl (by decide +kernel) rfl rfl (Nat.le_of_ble_eq_true rfl) hd (fun H1 locs1 hP hD hS => k H1 locs1 _ rfl ⟨hP, hD, hS, w.2.2.2.1, w.2.2.2.2⟩)
theorem xg_1 (C : gC p s m args meth c RX0 cc nL ret) (w : gW wX D Q T A s S H locs) (hd : decode cc pc = .ok (.getfield 7, 3)) (k : W p l e R s m args below meth c H locs cells slots QQ (F0 m (pc + 3) ls (.ref (Q 1) :: rest))) : W p l e R s m args below meth c H locs cells slots QQ (F0 m pc ls (.ref (Q 0) :: rest)) := va_get (D := D) (ci := 0) (v := .ref (Q 1)) (C := RX0) (T := TX0) (N := 25) C.1 C.2.1 C.2.2.2.2.1 in_X0 C.2.2.2.1 w.2.2.2.1 w.1 0 rfl rfl 1 (by decide) (C.2.2.2.2.1 _ q44) (fun _ h9 => h9) (rfl) hd k
theorem xl_1 {j : Nat} {v : Int32} (C : gC p s m args meth c RX0 cc nL ret) (w : gW wX D Q T A s S H locs) (hj : j < 24) (hv : S 1 j = v) (hd : decode cc pc = .ok (.baload, 1)) (k : W p l e R s m args below meth c H locs cells slots QQ (F0 m (pc + 1) ls (.int v :: rest))) : W p l e R s m args below meth c H locs cells slots QQ (F0 m pc ls (.int (nI j) :: .ref (Q 1) :: rest)) := va_bald (f := S 1) C.1 C.2.1 w.2.2.2.1 w.1 1 1 rfl rfl (vp_in_nI hj (by decide)) hd (by rw [nI_clamp (by omega), hv]; exact k)
theorem xs_1 {j : Nat} {x v : Int32} (C : gC p s m args meth c RX0 cc nL ret) (w : gW wX D Q T A s S H locs) (hj : j < 24) (hv : vp_nar .byte x = v) (hd : decode cc pc = .ok (.bastore, 1)) (k : ∀ (H1 : Heap) (locs1 : List Loc) (S1 : St), S1 = up S 1 (upd (S 1) j v) → gW wX D Q T A s S1 H1 locs1 → W p l e R s m args below meth c H1 locs1 cells slots QQ (F0 m (pc + 1) ls rest)) : W p l e R s m args below meth c H locs cells slots QQ (F0 m pc ls (.int x :: .int (nI j) :: .ref (Q 1) :: rest)) := va_bast (f := S 1) C.1 C.2.1 w.2.2.2.1 w.1 w.2.1 w.2.2.1 1 1 rfl rfl (vp_in_nI hj (by decide)) hd (fun H1 locs1 hP hD hS => by rw [nI_clamp (by omega), hv] at hP hD; exact k H1 locs1 _ rfl ⟨hP, hD, hS, w.2.2.2.1, w.2.2.2.2⟩)
theorem xg_2 (C : gC p s m args meth c RX0 cc nL ret) (w : gW wX D Q T A s S H locs) (hd : decode cc pc = .ok (.getfield 13, 3)) (k : W p l e R s m args below meth c H locs cells slots QQ (F0 m (pc + 3) ls (.ref (Q 2) :: rest))) : W p l e R s m args below meth c H locs cells slots QQ (F0 m pc ls (.ref (Q 0) :: rest)) := va_get (D := D) (ci := 0) (v := .ref (Q 2)) (C := RX0) (T := TX0) (N := 25) C.1 C.2.1 C.2.2.2.2.1 in_X0 C.2.2.2.1 w.2.2.2.1 w.1 0 rfl rfl 2 (by decide) (C.2.2.2.2.1 _ q45) (fun _ h9 => h9) (rfl) hd k
theorem xl_2 {j : Nat} {v : Int32} (C : gC p s m args meth c RX0 cc nL ret) (w : gW wX D Q T A s S H locs) (hj : j < 24) (hv : S 2 j = v) (hd : decode cc pc = .ok (.baload, 1)) (k : W p l e R s m args below meth c H locs cells slots QQ (F0 m (pc + 1) ls (.int v :: rest))) : W p l e R s m args below meth c H locs cells slots QQ (F0 m pc ls (.int (nI j) :: .ref (Q 2) :: rest)) := va_bald (f := S 2) C.1 C.2.1 w.2.2.2.1 w.1 2 1 rfl rfl (vp_in_nI hj (by decide)) hd (by rw [nI_clamp (by omega), hv]; exact k)
theorem xs_2 {j : Nat} {x v : Int32} (C : gC p s m args meth c RX0 cc nL ret) (w : gW wX D Q T A s S H locs) (hj : j < 24) (hv : vp_nar .byte x = v) (hd : decode cc pc = .ok (.bastore, 1)) (k : ∀ (H1 : Heap) (locs1 : List Loc) (S1 : St), S1 = up S 2 (upd (S 2) j v) → gW wX D Q T A s S1 H1 locs1 → W p l e R s m args below meth c H1 locs1 cells slots QQ (F0 m (pc + 1) ls rest)) : W p l e R s m args below meth c H locs cells slots QQ (F0 m pc ls (.int x :: .int (nI j) :: .ref (Q 2) :: rest)) := va_bast (f := S 2) C.1 C.2.1 w.2.2.2.1 w.1 w.2.1 w.2.2.1 2 1 rfl rfl (vp_in_nI hj (by decide)) hd (fun H1 locs1 hP hD hS => by rw [nI_clamp (by omega), hv] at hP hD; exact k H1 locs1 _ rfl ⟨hP, hD, hS, w.2.2.2.1, w.2.2.2.2⟩)
theorem xg_3 (C : gC p s m args meth c RX0 cc nL ret) (w : gW wX D Q T A s S H locs) (hd : decode cc pc = .ok (.getfield 16, 3)) (k : W p l e R s m args below meth c H locs cells slots QQ (F0 m (pc + 3) ls (.ref (Q 3) :: rest))) : W p l e R s m args below meth c H locs cells slots QQ (F0 m pc ls (.ref (Q 0) :: rest)) := va_get (D := D) (ci := 0) (v := .ref (Q 3)) (C := RX0) (T := TX0) (N := 25) C.1 C.2.1 C.2.2.2.2.1 in_X0 C.2.2.2.1 w.2.2.2.1 w.1 0 rfl rfl 3 (by decide) (C.2.2.2.2.1 _ q46) (fun _ h9 => h9) (rfl) hd k
theorem xl_3 {j : Nat} {v : Int32} (C : gC p s m args meth c RX0 cc nL ret) (w : gW wX D Q T A s S H locs) (hj : j < 24) (hv : S 3 j = v) (hd : decode cc pc = .ok (.baload, 1)) (k : W p l e R s m args below meth c H locs cells slots QQ (F0 m (pc + 1) ls (.int v :: rest))) : W p l e R s m args below meth c H locs cells slots QQ (F0 m pc ls (.int (nI j) :: .ref (Q 3) :: rest)) := va_bald (f := S 3) C.1 C.2.1 w.2.2.2.1 w.1 3 1 rfl rfl (vp_in_nI hj (by decide)) hd (by rw [nI_clamp (by omega), hv]; exact k)
theorem xs_3 {j : Nat} {x v : Int32} (C : gC p s m args meth c RX0 cc nL ret) (w : gW wX D Q T A s S H locs) (hj : j < 24) (hv : vp_nar .byte x = v) (hd : decode cc pc = .ok (.bastore, 1)) (k : ∀ (H1 : Heap) (locs1 : List Loc) (S1 : St), S1 = up S 3 (upd (S 3) j v) → gW wX D Q T A s S1 H1 locs1 → W p l e R s m args below meth c H1 locs1 cells slots QQ (F0 m (pc + 1) ls rest)) : W p l e R s m args below meth c H locs cells slots QQ (F0 m pc ls (.int x :: .int (nI j) :: .ref (Q 3) :: rest)) := va_bast (f := S 3) C.1 C.2.1 w.2.2.2.1 w.1 w.2.1 w.2.2.1 3 1 rfl rfl (vp_in_nI hj (by decide)) hd (fun H1 locs1 hP hD hS => by rw [nI_clamp (by omega), hv] at hP hD; exact k H1 locs1 _ rfl ⟨hP, hD, hS, w.2.2.2.1, w.2.2.2.2⟩)
theorem xg_4 (C : gC p s m args meth c RX0 cc nL ret) (w : gW wX D Q T A s S H locs) (hd : decode cc pc = .ok (.getfield 19, 3)) (k : W p l e R s m args below meth c H locs cells slots QQ (F0 m (pc + 3) ls (.ref (Q 4) :: rest))) : W p l e R s m args below meth c H locs cells slots QQ (F0 m pc ls (.ref (Q 0) :: rest)) := va_get (D := D) (ci := 0) (v := .ref (Q 4)) (C := RX0) (T := TX0) (N := 25) C.1 C.2.1 C.2.2.2.2.1 in_X0 C.2.2.2.1 w.2.2.2.1 w.1 0 rfl rfl 4 (by decide) (C.2.2.2.2.1 _ q47) (fun _ h9 => h9) (rfl) hd k
theorem xl_4 {j : Nat} {v : Int32} (C : gC p s m args meth c RX0 cc nL ret) (w : gW wX D Q T A s S H locs) (hj : j < 24) (hv : S 4 j = v) (hd : decode cc pc = .ok (.iaload, 1)) (k : W p l e R s m args below meth c H locs cells slots QQ (F0 m (pc + 1) ls (.int v :: rest))) : W p l e R s m args below meth c H locs cells slots QQ (F0 m pc ls (.int (nI j) :: .ref (Q 4) :: rest)) := va_iald (f := S 4) C.1 C.2.1 w.2.2.2.1 w.1 4 0 rfl rfl (vp_in_nI hj (by decide)) hd (by rw [nI_clamp (by omega), hv]; exact k)
theorem xs_4 {j : Nat} {x : Int32} (C : gC p s m args meth c RX0 cc nL ret) (w : gW wX D Q T A s S H locs) (hj : j < 24) (hd : decode cc pc = .ok (.iastore, 1)) (k : ∀ (H1 : Heap) (locs1 : List Loc) (S1 : St), S1 = up S 4 (upd (S 4) j x) → gW wX D Q T A s S1 H1 locs1 → W p l e R s m args below meth c H1 locs1 cells slots QQ (F0 m (pc + 1) ls rest)) : W p l e R s m args below meth c H locs cells slots QQ (F0 m pc ls (.int x :: .int (nI j) :: .ref (Q 4) :: rest)) := va_iast (f := S 4) C.1 C.2.1 w.2.2.2.1 w.1 w.2.1 w.2.2.1 4 0 rfl rfl (vp_in_nI hj (by decide)) hd (fun H1 locs1 hP hD hS => by rw [nI_clamp (by omega)] at hP hD; exact k H1 locs1 _ rfl ⟨hP, hD, hS, w.2.2.2.1, w.2.2.2.2⟩)
theorem xg_5 (C : gC p s m args meth c RX0 cc nL ret) (w : gW wX D Q T A s S H locs) {v : Int32} (hv : S 5 0 = v) (hd : decode cc pc = .ok (.getfield 77, 3)) (k : W p l e R s m args below meth c H locs cells slots QQ (F0 m (pc + 3) ls (.int v :: rest))) : W p l e R s m args below meth c H locs cells slots QQ (F0 m pc ls (.ref (Q 0) :: rest)) := va_get (D := D) (ci := 0) (v := .int v) (C := RX0) (T := TX0) (N := 25) C.1 C.2.1 C.2.2.2.2.1 in_X0 C.2.2.2.1 w.2.2.2.1 w.1 0 rfl rfl 5 (by decide) (C.2.2.2.2.1 _ q48) (fun _ h9 => h9) (by subst hv; rfl) hd k
theorem xp_5 {v : Int32} (C : gC p s m args meth c RX0 cc nL ret) (w : gW wX D Q T A s S H locs) (hz : v = 0 ∨ v = 1) (hd : decode cc pc = .ok (.putfield 77, 3)) (k : ∀ (H1 : Heap) (locs1 : List Loc) (S1 : St), S1 = up S 5 (fun _ => v) → gW wX D Q T A s S1 H1 locs1 → W p l e R s m args below meth c H1 locs1 cells slots QQ (F0 m (pc + 3) ls rest)) : W p l e R s m args below meth c H locs cells slots QQ (F0 m pc ls (.int v :: .ref (Q 0) :: rest)) := va_put (D := D) (ci := 0) (v := .int v) (ty := .boolean) (C := RX0) (T := TX0) (N := 25) C.1 C.2.1 C.2.2.2.2.1 in_X0 tyX0 tyX0_ok nmX0 C.2.2.2.1 w.2.2.2.1 w.1 w.2.1 w.2.2.1 0 rfl rfl 5 (by decide) (C.2.2.2.2.1 _ q48) (fun _ h9 => h9) rfl (by decide +kernel) (by rcases hz with rfl | rfl <;> rfl) (by rcases hz with rfl | rfl <;> rfl) (Nat.le_of_ble_eq_true rfl) hd (fun H1 locs1 hP hD hS => k H1 locs1 _ rfl ⟨hP, hD, hS, w.2.2.2.1, w.2.2.2.2⟩)
theorem xg_6 (C : gC p s m args meth c RX0 cc nL ret) (w : gW wX D Q T A s S H locs) {v : Int32} (hv : S 6 0 = v) (hd : decode cc pc = .ok (.getfield 100, 3)) (k : W p l e R s m args below meth c H locs cells slots QQ (F0 m (pc + 3) ls (.int v :: rest))) : W p l e R s m args below meth c H locs cells slots QQ (F0 m pc ls (.ref (Q 0) :: rest)) := va_get (D := D) (ci := 0) (v := .int v) (C := RX0) (T := TX0) (N := 25) C.1 C.2.1 C.2.2.2.2.1 in_X0 C.2.2.2.1 w.2.2.2.1 w.1 0 rfl rfl 6 (by decide) (C.2.2.2.2.1 _ q49) (fun _ h9 => h9) (by subst hv; rfl) hd k
theorem xp_6 {v : Int32} (C : gC p s m args meth c RX0 cc nL ret) (w : gW wX D Q T A s S H locs) (hd : decode cc pc = .ok (.putfield 100, 3)) (k : ∀ (H1 : Heap) (locs1 : List Loc) (S1 : St), S1 = up S 6 (fun _ => v) → gW wX D Q T A s S1 H1 locs1 → W p l e R s m args below meth c H1 locs1 cells slots QQ (F0 m (pc + 3) ls rest)) : W p l e R s m args below meth c H locs cells slots QQ (F0 m pc ls (.int v :: .ref (Q 0) :: rest)) := va_put (D := D) (ci := 0) (v := .int v) (ty := .int) (C := RX0) (T := TX0) (N := 25) C.1 C.2.1 C.2.2.2.2.1 in_X0 tyX0 tyX0_ok nmX0 C.2.2.2.1 w.2.2.2.1 w.1 w.2.1 w.2.2.1 0 rfl rfl 6 (by decide) (C.2.2.2.2.1 _ q49) (fun _ h9 => h9) rfl (by decide +kernel) rfl rfl (Nat.le_of_ble_eq_true rfl) hd (fun H1 locs1 hP hD hS => k H1 locs1 _ rfl ⟨hP, hD, hS, w.2.2.2.1, w.2.2.2.2⟩)
theorem xg_7 (C : gC p s m args meth c RX0 cc nL ret) (w : gW wX D Q T A s S H locs) (hd : decode cc pc = .ok (.getfield 23, 3)) (k : W p l e R s m args below meth c H locs cells slots QQ (F0 m (pc + 3) ls (.ref (Q 7) :: rest))) : W p l e R s m args below meth c H locs cells slots QQ (F0 m pc ls (.ref (Q 0) :: rest)) := va_get (D := D) (ci := 0) (v := .ref (Q 7)) (C := RX0) (T := TX0) (N := 25) C.1 C.2.1 C.2.2.2.2.1 in_X0 C.2.2.2.1 w.2.2.2.1 w.1 0 rfl rfl 7 (by decide) (C.2.2.2.2.1 _ q50) (fun _ h9 => h9) (rfl) hd k
theorem xl_7 {j : Nat} {v : Int32} (C : gC p s m args meth c RX0 cc nL ret) (w : gW wX D Q T A s S H locs) (hj : j < 96) (hv : S 7 j = v) (hd : decode cc pc = .ok (.baload, 1)) (k : W p l e R s m args below meth c H locs cells slots QQ (F0 m (pc + 1) ls (.int v :: rest))) : W p l e R s m args below meth c H locs cells slots QQ (F0 m pc ls (.int (nI j) :: .ref (Q 7) :: rest)) := va_bald (f := S 7) C.1 C.2.1 w.2.2.2.1 w.1 5 1 rfl rfl (vp_in_nI hj (by decide)) hd (by rw [nI_clamp (by omega), hv]; exact k)
theorem xs_7 {j : Nat} {x v : Int32} (C : gC p s m args meth c RX0 cc nL ret) (w : gW wX D Q T A s S H locs) (hj : j < 96) (hv : vp_nar .byte x = v) (hd : decode cc pc = .ok (.bastore, 1)) (k : ∀ (H1 : Heap) (locs1 : List Loc) (S1 : St), S1 = up S 7 (upd (S 7) j v) → gW wX D Q T A s S1 H1 locs1 → W p l e R s m args below meth c H1 locs1 cells slots QQ (F0 m (pc + 1) ls rest)) : W p l e R s m args below meth c H locs cells slots QQ (F0 m pc ls (.int x :: .int (nI j) :: .ref (Q 7) :: rest)) := va_bast (f := S 7) C.1 C.2.1 w.2.2.2.1 w.1 w.2.1 w.2.2.1 5 1 rfl rfl (vp_in_nI hj (by decide)) hd (fun H1 locs1 hP hD hS => by rw [nI_clamp (by omega), hv] at hP hD; exact k H1 locs1 _ rfl ⟨hP, hD, hS, w.2.2.2.1, w.2.2.2.2⟩)
theorem xg_8 (C : gC p s m args meth c RX0 cc nL ret) (w : gW wX D Q T A s S H locs) (hd : decode cc pc = .ok (.getfield 26, 3)) (k : W p l e R s m args below meth c H locs cells slots QQ (F0 m (pc + 3) ls (.ref (Q 8) :: rest))) : W p l e R s m args below meth c H locs cells slots QQ (F0 m pc ls (.ref (Q 0) :: rest)) := va_get (D := D) (ci := 0) (v := .ref (Q 8)) (C := RX0) (T := TX0) (N := 25) C.1 C.2.1 C.2.2.2.2.1 in_X0 C.2.2.2.1 w.2.2.2.1 w.1 0 rfl rfl 8 (by decide) (C.2.2.2.2.1 _ q51) (fun _ h9 => h9) (rfl) hd k
theorem xl_8 {j : Nat} {v : Int32} (C : gC p s m args meth c RX0 cc nL ret) (w : gW wX D Q T A s S H locs) (hj : j < 96) (hv : S 8 j = v) (hd : decode cc pc = .ok (.baload, 1)) (k : W p l e R s m args below meth c H locs cells slots QQ (F0 m (pc + 1) ls (.int v :: rest))) : W p l e R s m args below meth c H locs cells slots QQ (F0 m pc ls (.int (nI j) :: .ref (Q 8) :: rest)) := va_bald (f := S 8) C.1 C.2.1 w.2.2.2.1 w.1 6 1 rfl rfl (vp_in_nI hj (by decide)) hd (by rw [nI_clamp (by omega), hv]; exact k)
theorem xs_8 {j : Nat} {x v : Int32} (C : gC p s m args meth c RX0 cc nL ret) (w : gW wX D Q T A s S H locs) (hj : j < 96) (hv : vp_nar .byte x = v) (hd : decode cc pc = .ok (.bastore, 1)) (k : ∀ (H1 : Heap) (locs1 : List Loc) (S1 : St), S1 = up S 8 (upd (S 8) j v) → gW wX D Q T A s S1 H1 locs1 → W p l e R s m args below meth c H1 locs1 cells slots QQ (F0 m (pc + 1) ls rest)) : W p l e R s m args below meth c H locs cells slots QQ (F0 m pc ls (.int x :: .int (nI j) :: .ref (Q 8) :: rest)) := va_bast (f := S 8) C.1 C.2.1 w.2.2.2.1 w.1 w.2.1 w.2.2.1 6 1 rfl rfl (vp_in_nI hj (by decide)) hd (fun H1 locs1 hP hD hS => by rw [nI_clamp (by omega), hv] at hP hD; exact k H1 locs1 _ rfl ⟨hP, hD, hS, w.2.2.2.1, w.2.2.2.2⟩)
theorem xg_9 (C : gC p s m args meth c RX0 cc nL ret) (w : gW wX D Q T A s S H locs) (hd : decode cc pc = .ok (.getfield 29, 3)) (k : W p l e R s m args below meth c H locs cells slots QQ (F0 m (pc + 3) ls (.ref (Q 9) :: rest))) : W p l e R s m args below meth c H locs cells slots QQ (F0 m pc ls (.ref (Q 0) :: rest)) := va_get (D := D) (ci := 0) (v := .ref (Q 9)) (C := RX0) (T := TX0) (N := 25) C.1 C.2.1 C.2.2.2.2.1 in_X0 C.2.2.2.1 w.2.2.2.1 w.1 0 rfl rfl 9 (by decide) (C.2.2.2.2.1 _ q52) (fun _ h9 => h9) (rfl) hd k
theorem xl_9 {j : Nat} {v : Int32} (C : gC p s m args meth c RX0 cc nL ret) (w : gW wX D Q T A s S H locs) (hj : j < 96) (hv : S 9 j = v) (hd : decode cc pc = .ok (.baload, 1)) (k : W p l e R s m args below meth c H locs cells slots QQ (F0 m (pc + 1) ls (.int v :: rest))) : W p l e R s m args below meth c H locs cells slots QQ (F0 m pc ls (.int (nI j) :: .ref (Q 9) :: rest)) := va_bald (f := S 9) C.1 C.2.1 w.2.2.2.1 w.1 7 1 rfl rfl (vp_in_nI hj (by decide)) hd (by rw [nI_clamp (by omega), hv]; exact k)
theorem xs_9 {j : Nat} {x v : Int32} (C : gC p s m args meth c RX0 cc nL ret) (w : gW wX D Q T A s S H locs) (hj : j < 96) (hv : vp_nar .byte x = v) (hd : decode cc pc = .ok (.bastore, 1)) (k : ∀ (H1 : Heap) (locs1 : List Loc) (S1 : St), S1 = up S 9 (upd (S 9) j v) → gW wX D Q T A s S1 H1 locs1 → W p l e R s m args below meth c H1 locs1 cells slots QQ (F0 m (pc + 1) ls rest)) : W p l e R s m args below meth c H locs cells slots QQ (F0 m pc ls (.int x :: .int (nI j) :: .ref (Q 9) :: rest)) := va_bast (f := S 9) C.1 C.2.1 w.2.2.2.1 w.1 w.2.1 w.2.2.1 7 1 rfl rfl (vp_in_nI hj (by decide)) hd (fun H1 locs1 hP hD hS => by rw [nI_clamp (by omega), hv] at hP hD; exact k H1 locs1 _ rfl ⟨hP, hD, hS, w.2.2.2.1, w.2.2.2.2⟩)
theorem xg_10 (C : gC p s m args meth c RX0 cc nL ret) (w : gW wX D Q T A s S H locs) (hd : decode cc pc = .ok (.getfield 32, 3)) (k : W p l e R s m args below meth c H locs cells slots QQ (F0 m (pc + 3) ls (.ref (Q 10) :: rest))) : W p l e R s m args below meth c H locs cells slots QQ (F0 m pc ls (.ref (Q 0) :: rest)) := va_get (D := D) (ci := 0) (v := .ref (Q 10)) (C := RX0) (T := TX0) (N := 25) C.1 C.2.1 C.2.2.2.2.1 in_X0 C.2.2.2.1 w.2.2.2.1 w.1 0 rfl rfl 10 (by decide) (C.2.2.2.2.1 _ q53) (fun _ h9 => h9) (rfl) hd k
theorem xl_10 {j : Nat} {v : Int32} (C : gC p s m args meth c RX0 cc nL ret) (w : gW wX D Q T A s S H locs) (hj : j < 96) (hv : S 10 j = v) (hd : decode cc pc = .ok (.baload, 1)) (k : W p l e R s m args below meth c H locs cells slots QQ (F0 m (pc + 1) ls (.int v :: rest))) : W p l e R s m args below meth c H locs cells slots QQ (F0 m pc ls (.int (nI j) :: .ref (Q 10) :: rest)) := va_bald (f := S 10) C.1 C.2.1 w.2.2.2.1 w.1 8 1 rfl rfl (vp_in_nI hj (by decide)) hd (by rw [nI_clamp (by omega), hv]; exact k)
theorem xs_10 {j : Nat} {x v : Int32} (C : gC p s m args meth c RX0 cc nL ret) (w : gW wX D Q T A s S H locs) (hj : j < 96) (hv : vp_nar .byte x = v) (hd : decode cc pc = .ok (.bastore, 1)) (k : ∀ (H1 : Heap) (locs1 : List Loc) (S1 : St), S1 = up S 10 (upd (S 10) j v) → gW wX D Q T A s S1 H1 locs1 → W p l e R s m args below meth c H1 locs1 cells slots QQ (F0 m (pc + 1) ls rest)) : W p l e R s m args below meth c H locs cells slots QQ (F0 m pc ls (.int x :: .int (nI j) :: .ref (Q 10) :: rest)) := va_bast (f := S 10) C.1 C.2.1 w.2.2.2.1 w.1 w.2.1 w.2.2.1 8 1 rfl rfl (vp_in_nI hj (by decide)) hd (fun H1 locs1 hP hD hS => by rw [nI_clamp (by omega), hv] at hP hD; exact k H1 locs1 _ rfl ⟨hP, hD, hS, w.2.2.2.1, w.2.2.2.2⟩)
theorem xg_11 (C : gC p s m args meth c RX0 cc nL ret) (w : gW wX D Q T A s S H locs) (hd : decode cc pc = .ok (.getfield 35, 3)) (k : W p l e R s m args below meth c H locs cells slots QQ (F0 m (pc + 3) ls (.ref (Q 11) :: rest))) : W p l e R s m args below meth c H locs cells slots QQ (F0 m pc ls (.ref (Q 0) :: rest)) := va_get (D := D) (ci := 0) (v := .ref (Q 11)) (C := RX0) (T := TX0) (N := 25) C.1 C.2.1 C.2.2.2.2.1 in_X0 C.2.2.2.1 w.2.2.2.1 w.1 0 rfl rfl 11 (by decide) (C.2.2.2.2.1 _ q54) (fun _ h9 => h9) (rfl) hd k
theorem xl_11 {j : Nat} {v : Int32} (C : gC p s m args meth c RX0 cc nL ret) (w : gW wX D Q T A s S H locs) (hj : j < 96) (hv : S 11 j = v) (hd : decode cc pc = .ok (.baload, 1)) (k : W p l e R s m args below meth c H locs cells slots QQ (F0 m (pc + 1) ls (.int v :: rest))) : W p l e R s m args below meth c H locs cells slots QQ (F0 m pc ls (.int (nI j) :: .ref (Q 11) :: rest)) := va_bald (f := S 11) C.1 C.2.1 w.2.2.2.1 w.1 9 1 rfl rfl (vp_in_nI hj (by decide)) hd (by rw [nI_clamp (by omega), hv]; exact k)
theorem xs_11 {j : Nat} {x v : Int32} (C : gC p s m args meth c RX0 cc nL ret) (w : gW wX D Q T A s S H locs) (hj : j < 96) (hv : vp_nar .byte x = v) (hd : decode cc pc = .ok (.bastore, 1)) (k : ∀ (H1 : Heap) (locs1 : List Loc) (S1 : St), S1 = up S 11 (upd (S 11) j v) → gW wX D Q T A s S1 H1 locs1 → W p l e R s m args below meth c H1 locs1 cells slots QQ (F0 m (pc + 1) ls rest)) : W p l e R s m args below meth c H locs cells slots QQ (F0 m pc ls (.int x :: .int (nI j) :: .ref (Q 11) :: rest)) := va_bast (f := S 11) C.1 C.2.1 w.2.2.2.1 w.1 w.2.1 w.2.2.1 9 1 rfl rfl (vp_in_nI hj (by decide)) hd (fun H1 locs1 hP hD hS => by rw [nI_clamp (by omega), hv] at hP hD; exact k H1 locs1 _ rfl ⟨hP, hD, hS, w.2.2.2.1, w.2.2.2.2⟩)
theorem xg_12 (C : gC p s m args meth c RX0 cc nL ret) (w : gW wX D Q T A s S H locs) (hd : decode cc pc = .ok (.getfield 38, 3)) (k : W p l e R s m args below meth c H locs cells slots QQ (F0 m (pc + 3) ls (.ref (Q 12) :: rest))) : W p l e R s m args below meth c H locs cells slots QQ (F0 m pc ls (.ref (Q 0) :: rest)) := va_get (D := D) (ci := 0) (v := .ref (Q 12)) (C := RX0) (T := TX0) (N := 25) C.1 C.2.1 C.2.2.2.2.1 in_X0 C.2.2.2.1 w.2.2.2.1 w.1 0 rfl rfl 12 (by decide) (C.2.2.2.2.1 _ q55) (fun _ h9 => h9) (rfl) hd k
theorem xl_12 {j : Nat} {v : Int32} (C : gC p s m args meth c RX0 cc nL ret) (w : gW wX D Q T A s S H locs) (hj : j < 2) (hv : S 12 j = v) (hd : decode cc pc = .ok (.baload, 1)) (k : W p l e R s m args below meth c H locs cells slots QQ (F0 m (pc + 1) ls (.int v :: rest))) : W p l e R s m args below meth c H locs cells slots QQ (F0 m pc ls (.int (nI j) :: .ref (Q 12) :: rest)) := va_bald (f := S 12) C.1 C.2.1 w.2.2.2.1 w.1 10 1 rfl rfl (vp_in_nI hj (by decide)) hd (by rw [nI_clamp (by omega), hv]; exact k)
theorem xs_12 {j : Nat} {x v : Int32} (C : gC p s m args meth c RX0 cc nL ret) (w : gW wX D Q T A s S H locs) (hj : j < 2) (hv : vp_nar .byte x = v) (hd : decode cc pc = .ok (.bastore, 1)) (k : ∀ (H1 : Heap) (locs1 : List Loc) (S1 : St), S1 = up S 12 (upd (S 12) j v) → gW wX D Q T A s S1 H1 locs1 → W p l e R s m args below meth c H1 locs1 cells slots QQ (F0 m (pc + 1) ls rest)) : W p l e R s m args below meth c H locs cells slots QQ (F0 m pc ls (.int x :: .int (nI j) :: .ref (Q 12) :: rest)) := va_bast (f := S 12) C.1 C.2.1 w.2.2.2.1 w.1 w.2.1 w.2.2.1 10 1 rfl rfl (vp_in_nI hj (by decide)) hd (fun H1 locs1 hP hD hS => by rw [nI_clamp (by omega), hv] at hP hD; exact k H1 locs1 _ rfl ⟨hP, hD, hS, w.2.2.2.1, w.2.2.2.2⟩)
theorem xg_13 (C : gC p s m args meth c RX0 cc nL ret) (w : gW wX D Q T A s S H locs) (hd : decode cc pc = .ok (.getfield 41, 3)) (k : W p l e R s m args below meth c H locs cells slots QQ (F0 m (pc + 3) ls (.ref (Q 13) :: rest))) : W p l e R s m args below meth c H locs cells slots QQ (F0 m pc ls (.ref (Q 0) :: rest)) := va_get (D := D) (ci := 0) (v := .ref (Q 13)) (C := RX0) (T := TX0) (N := 25) C.1 C.2.1 C.2.2.2.2.1 in_X0 C.2.2.2.1 w.2.2.2.1 w.1 0 rfl rfl 13 (by decide) (C.2.2.2.2.1 _ q56) (fun _ h9 => h9) (rfl) hd k
theorem xl_13 {j : Nat} {v : Int32} (C : gC p s m args meth c RX0 cc nL ret) (w : gW wX D Q T A s S H locs) (hj : j < 96) (hv : S 13 j = v) (hd : decode cc pc = .ok (.saload, 1)) (k : W p l e R s m args below meth c H locs cells slots QQ (F0 m (pc + 1) ls (.int v :: rest))) : W p l e R s m args below meth c H locs cells slots QQ (F0 m pc ls (.int (nI j) :: .ref (Q 13) :: rest)) := va_sald (f := S 13) C.1 C.2.1 w.2.2.2.1 w.1 11 2 rfl rfl (vp_in_nI hj (by decide)) hd (by rw [nI_clamp (by omega), hv]; exact k)
theorem xs_13 {j : Nat} {x v : Int32} (C : gC p s m args meth c RX0 cc nL ret) (w : gW wX D Q T A s S H locs) (hj : j < 96) (hv : vp_nar .short x = v) (hd : decode cc pc = .ok (.sastore, 1)) (k : ∀ (H1 : Heap) (locs1 : List Loc) (S1 : St), S1 = up S 13 (upd (S 13) j v) → gW wX D Q T A s S1 H1 locs1 → W p l e R s m args below meth c H1 locs1 cells slots QQ (F0 m (pc + 1) ls rest)) : W p l e R s m args below meth c H locs cells slots QQ (F0 m pc ls (.int x :: .int (nI j) :: .ref (Q 13) :: rest)) := va_sast (f := S 13) C.1 C.2.1 w.2.2.2.1 w.1 w.2.1 w.2.2.1 11 2 rfl rfl (vp_in_nI hj (by decide)) hd (fun H1 locs1 hP hD hS => by rw [nI_clamp (by omega), hv] at hP hD; exact k H1 locs1 _ rfl ⟨hP, hD, hS, w.2.2.2.1, w.2.2.2.2⟩)
theorem xg_14 (C : gC p s m args meth c RX0 cc nL ret) (w : gW wX D Q T A s S H locs) (hd : decode cc pc = .ok (.getfield 45, 3)) (k : W p l e R s m args below meth c H locs cells slots QQ (F0 m (pc + 3) ls (.ref (Q 14) :: rest))) : W p l e R s m args below meth c H locs cells slots QQ (F0 m pc ls (.ref (Q 0) :: rest)) := va_get (D := D) (ci := 0) (v := .ref (Q 14)) (C := RX0) (T := TX0) (N := 25) C.1 C.2.1 C.2.2.2.2.1 in_X0 C.2.2.2.1 w.2.2.2.1 w.1 0 rfl rfl 14 (by decide) (C.2.2.2.2.1 _ q57) (fun _ h9 => h9) (rfl) hd k
theorem xl_14 {j : Nat} {v : Int32} (C : gC p s m args meth c RX0 cc nL ret) (w : gW wX D Q T A s S H locs) (hj : j < 96) (hv : S 14 j = v) (hd : decode cc pc = .ok (.saload, 1)) (k : W p l e R s m args below meth c H locs cells slots QQ (F0 m (pc + 1) ls (.int v :: rest))) : W p l e R s m args below meth c H locs cells slots QQ (F0 m pc ls (.int (nI j) :: .ref (Q 14) :: rest)) := va_sald (f := S 14) C.1 C.2.1 w.2.2.2.1 w.1 12 2 rfl rfl (vp_in_nI hj (by decide)) hd (by rw [nI_clamp (by omega), hv]; exact k)
theorem xs_14 {j : Nat} {x v : Int32} (C : gC p s m args meth c RX0 cc nL ret) (w : gW wX D Q T A s S H locs) (hj : j < 96) (hv : vp_nar .short x = v) (hd : decode cc pc = .ok (.sastore, 1)) (k : ∀ (H1 : Heap) (locs1 : List Loc) (S1 : St), S1 = up S 14 (upd (S 14) j v) → gW wX D Q T A s S1 H1 locs1 → W p l e R s m args below meth c H1 locs1 cells slots QQ (F0 m (pc + 1) ls rest)) : W p l e R s m args below meth c H locs cells slots QQ (F0 m pc ls (.int x :: .int (nI j) :: .ref (Q 14) :: rest)) := va_sast (f := S 14) C.1 C.2.1 w.2.2.2.1 w.1 w.2.1 w.2.2.1 12 2 rfl rfl (vp_in_nI hj (by decide)) hd (fun H1 locs1 hP hD hS => by rw [nI_clamp (by omega), hv] at hP hD; exact k H1 locs1 _ rfl ⟨hP, hD, hS, w.2.2.2.1, w.2.2.2.2⟩)
theorem xg_15 (C : gC p s m args meth c RX0 cc nL ret) (w : gW wX D Q T A s S H locs) (hd : decode cc pc = .ok (.getfield 48, 3)) (k : W p l e R s m args below meth c H locs cells slots QQ (F0 m (pc + 3) ls (.ref (Q 15) :: rest))) : W p l e R s m args below meth c H locs cells slots QQ (F0 m pc ls (.ref (Q 0) :: rest)) := va_get (D := D) (ci := 0) (v := .ref (Q 15)) (C := RX0) (T := TX0) (N := 25) C.1 C.2.1 C.2.2.2.2.1 in_X0 C.2.2.2.1 w.2.2.2.1 w.1 0 rfl rfl 15 (by decide) (C.2.2.2.2.1 _ q58) (fun _ h9 => h9) (rfl) hd k
theorem xl_15 {j : Nat} {v : Int32} (C : gC p s m args meth c RX0 cc nL ret) (w : gW wX D Q T A s S H locs) (hj : j < 400) (hv : S 15 j = v) (hd : decode cc pc = .ok (.iaload, 1)) (k : W p l e R s m args below meth c H locs cells slots QQ (F0 m (pc + 1) ls (.int v :: rest))) : W p l e R s m args below meth c H locs cells slots QQ (F0 m pc ls (.int (nI j) :: .ref (Q 15) :: rest)) := va_iald (f := S 15) C.1 C.2.1 w.2.2.2.1 w.1 13 0 rfl rfl (vp_in_nI hj (by decide)) hd (by rw [nI_clamp (by omega), hv]; exact k)
theorem xs_15 {j : Nat} {x : Int32} (C : gC p s m args meth c RX0 cc nL ret) (w : gW wX D Q T A s S H locs) (hj : j < 400) (hd : decode cc pc = .ok (.iastore, 1)) (k : ∀ (H1 : Heap) (locs1 : List Loc) (S1 : St), S1 = up S 15 (upd (S 15) j x) → gW wX D Q T A s S1 H1 locs1 → W p l e R s m args below meth c H1 locs1 cells slots QQ (F0 m (pc + 1) ls rest)) : W p l e R s m args below meth c H locs cells slots QQ (F0 m pc ls (.int x :: .int (nI j) :: .ref (Q 15) :: rest)) := va_iast (f := S 15) C.1 C.2.1 w.2.2.2.1 w.1 w.2.1 w.2.2.1 13 0 rfl rfl (vp_in_nI hj (by decide)) hd (fun H1 locs1 hP hD hS => by rw [nI_clamp (by omega)] at hP hD; exact k H1 locs1 _ rfl ⟨hP, hD, hS, w.2.2.2.1, w.2.2.2.2⟩)
theorem xg_16 (C : gC p s m args meth c RX0 cc nL ret) (w : gW wX D Q T A s S H locs) {v : Int32} (hv : S 16 0 = v) (hd : decode cc pc = .ok (.getfield 149, 3)) (k : W p l e R s m args below meth c H locs cells slots QQ (F0 m (pc + 3) ls (.int v :: rest))) : W p l e R s m args below meth c H locs cells slots QQ (F0 m pc ls (.ref (Q 0) :: rest)) := va_get (D := D) (ci := 0) (v := .int v) (C := RX0) (T := TX0) (N := 25) C.1 C.2.1 C.2.2.2.2.1 in_X0 C.2.2.2.1 w.2.2.2.1 w.1 0 rfl rfl 16 (by decide) (C.2.2.2.2.1 _ q59) (fun _ h9 => h9) (by subst hv; rfl) hd k
theorem xp_16 {v : Int32} (C : gC p s m args meth c RX0 cc nL ret) (w : gW wX D Q T A s S H locs) (hd : decode cc pc = .ok (.putfield 149, 3)) (k : ∀ (H1 : Heap) (locs1 : List Loc) (S1 : St), S1 = up S 16 (fun _ => v) → gW wX D Q T A s S1 H1 locs1 → W p l e R s m args below meth c H1 locs1 cells slots QQ (F0 m (pc + 3) ls rest)) : W p l e R s m args below meth c H locs cells slots QQ (F0 m pc ls (.int v :: .ref (Q 0) :: rest)) := va_put (D := D) (ci := 0) (v := .int v) (ty := .int) (C := RX0) (T := TX0) (N := 25) C.1 C.2.1 C.2.2.2.2.1 in_X0 tyX0 tyX0_ok nmX0 C.2.2.2.1 w.2.2.2.1 w.1 w.2.1 w.2.2.1 0 rfl rfl 16 (by decide) (C.2.2.2.2.1 _ q59) (fun _ h9 => h9) rfl (by decide +kernel) rfl rfl (Nat.le_of_ble_eq_true rfl) hd (fun H1 locs1 hP hD hS => k H1 locs1 _ rfl ⟨hP, hD, hS, w.2.2.2.1, w.2.2.2.2⟩)
theorem xg_17 (C : gC p s m args meth c RX0 cc nL ret) (w : gW wX D Q T A s S H locs) (hd : decode cc pc = .ok (.getfield 51, 3)) (k : W p l e R s m args below meth c H locs cells slots QQ (F0 m (pc + 3) ls (.ref (Q 17) :: rest))) : W p l e R s m args below meth c H locs cells slots QQ (F0 m pc ls (.ref (Q 0) :: rest)) := va_get (D := D) (ci := 0) (v := .ref (Q 17)) (C := RX0) (T := TX0) (N := 25) C.1 C.2.1 C.2.2.2.2.1 in_X0 C.2.2.2.1 w.2.2.2.1 w.1 0 rfl rfl 17 (by decide) (C.2.2.2.2.1 _ q60) (fun _ h9 => h9) (rfl) hd k
theorem xl_17 {j : Nat} {v : Int32} (C : gC p s m args meth c RX0 cc nL ret) (w : gW wX D Q T A s S H locs) (hj : j < 500) (hv : S 17 j = v) (hd : decode cc pc = .ok (.iaload, 1)) (k : W p l e R s m args below meth c H locs cells slots QQ (F0 m (pc + 1) ls (.int v :: rest))) : W p l e R s m args below meth c H locs cells slots QQ (F0 m pc ls (.int (nI j) :: .ref (Q 17) :: rest)) := va_iald (f := S 17) C.1 C.2.1 w.2.2.2.1 w.1 14 0 rfl rfl (vp_in_nI hj (by decide)) hd (by rw [nI_clamp (by omega), hv]; exact k)
theorem xs_17 {j : Nat} {x : Int32} (C : gC p s m args meth c RX0 cc nL ret) (w : gW wX D Q T A s S H locs) (hj : j < 500) (hd : decode cc pc = .ok (.iastore, 1)) (k : ∀ (H1 : Heap) (locs1 : List Loc) (S1 : St), S1 = up S 17 (upd (S 17) j x) → gW wX D Q T A s S1 H1 locs1 → W p l e R s m args below meth c H1 locs1 cells slots QQ (F0 m (pc + 1) ls rest)) : W p l e R s m args below meth c H locs cells slots QQ (F0 m pc ls (.int x :: .int (nI j) :: .ref (Q 17) :: rest)) := va_iast (f := S 17) C.1 C.2.1 w.2.2.2.1 w.1 w.2.1 w.2.2.1 14 0 rfl rfl (vp_in_nI hj (by decide)) hd (fun H1 locs1 hP hD hS => by rw [nI_clamp (by omega)] at hP hD; exact k H1 locs1 _ rfl ⟨hP, hD, hS, w.2.2.2.1, w.2.2.2.2⟩)
theorem xg_18 (C : gC p s m args meth c RX0 cc nL ret) (w : gW wX D Q T A s S H locs) (hd : decode cc pc = .ok (.getfield 54, 3)) (k : W p l e R s m args below meth c H locs cells slots QQ (F0 m (pc + 3) ls (.ref (Q 18) :: rest))) : W p l e R s m args below meth c H locs cells slots QQ (F0 m pc ls (.ref (Q 0) :: rest)) := va_get (D := D) (ci := 0) (v := .ref (Q 18)) (C := RX0) (T := TX0) (N := 25) C.1 C.2.1 C.2.2.2.2.1 in_X0 C.2.2.2.1 w.2.2.2.1 w.1 0 rfl rfl 18 (by decide) (C.2.2.2.2.1 _ q61) (fun _ h9 => h9) (rfl) hd k
theorem xl_18 {j : Nat} {v : Int32} (C : gC p s m args meth c RX0 cc nL ret) (w : gW wX D Q T A s S H locs) (hj : j < 16) (hv : S 18 j = v) (hd : decode cc pc = .ok (.iaload, 1)) (k : W p l e R s m args below meth c H locs cells slots QQ (F0 m (pc + 1) ls (.int v :: rest))) : W p l e R s m args below meth c H locs cells slots QQ (F0 m pc ls (.int (nI j) :: .ref (Q 18) :: rest)) := va_iald (f := S 18) C.1 C.2.1 w.2.2.2.1 w.1 15 0 rfl rfl (vp_in_nI hj (by decide)) hd (by rw [nI_clamp (by omega), hv]; exact k)
theorem xs_18 {j : Nat} {x : Int32} (C : gC p s m args meth c RX0 cc nL ret) (w : gW wX D Q T A s S H locs) (hj : j < 16) (hd : decode cc pc = .ok (.iastore, 1)) (k : ∀ (H1 : Heap) (locs1 : List Loc) (S1 : St), S1 = up S 18 (upd (S 18) j x) → gW wX D Q T A s S1 H1 locs1 → W p l e R s m args below meth c H1 locs1 cells slots QQ (F0 m (pc + 1) ls rest)) : W p l e R s m args below meth c H locs cells slots QQ (F0 m pc ls (.int x :: .int (nI j) :: .ref (Q 18) :: rest)) := va_iast (f := S 18) C.1 C.2.1 w.2.2.2.1 w.1 w.2.1 w.2.2.1 15 0 rfl rfl (vp_in_nI hj (by decide)) hd (fun H1 locs1 hP hD hS => by rw [nI_clamp (by omega)] at hP hD; exact k H1 locs1 _ rfl ⟨hP, hD, hS, w.2.2.2.1, w.2.2.2.2⟩)
theorem xg_19 (C : gC p s m args meth c RX0 cc nL ret) (w : gW wX D Q T A s S H locs) (hd : decode cc pc = .ok (.getfield 57, 3)) (k : W p l e R s m args below meth c H locs cells slots QQ (F0 m (pc + 3) ls (.ref (Q 19) :: rest))) : W p l e R s m args below meth c H locs cells slots QQ (F0 m pc ls (.ref (Q 0) :: rest)) := va_get (D := D) (ci := 0) (v := .ref (Q 19)) (C := RX0) (T := TX0) (N := 25) C.1 C.2.1 C.2.2.2.2.1 in_X0 C.2.2.2.1 w.2.2.2.1 w.1 0 rfl rfl 19 (by decide) (C.2.2.2.2.1 _ q62) (fun _ h9 => h9) (rfl) hd k
theorem xl_19 {j : Nat} {v : Int32} (C : gC p s m args meth c RX0 cc nL ret) (w : gW wX D Q T A s S H locs) (hj : j < 16) (hv : S 19 j = v) (hd : decode cc pc = .ok (.iaload, 1)) (k : W p l e R s m args below meth c H locs cells slots QQ (F0 m (pc + 1) ls (.int v :: rest))) : W p l e R s m args below meth c H locs cells slots QQ (F0 m pc ls (.int (nI j) :: .ref (Q 19) :: rest)) := va_iald (f := S 19) C.1 C.2.1 w.2.2.2.1 w.1 16 0 rfl rfl (vp_in_nI hj (by decide)) hd (by rw [nI_clamp (by omega), hv]; exact k)
theorem xs_19 {j : Nat} {x : Int32} (C : gC p s m args meth c RX0 cc nL ret) (w : gW wX D Q T A s S H locs) (hj : j < 16) (hd : decode cc pc = .ok (.iastore, 1)) (k : ∀ (H1 : Heap) (locs1 : List Loc) (S1 : St), S1 = up S 19 (upd (S 19) j x) → gW wX D Q T A s S1 H1 locs1 → W p l e R s m args below meth c H1 locs1 cells slots QQ (F0 m (pc + 1) ls rest)) : W p l e R s m args below meth c H locs cells slots QQ (F0 m pc ls (.int x :: .int (nI j) :: .ref (Q 19) :: rest)) := va_iast (f := S 19) C.1 C.2.1 w.2.2.2.1 w.1 w.2.1 w.2.2.1 16 0 rfl rfl (vp_in_nI hj (by decide)) hd (fun H1 locs1 hP hD hS => by rw [nI_clamp (by omega)] at hP hD; exact k H1 locs1 _ rfl ⟨hP, hD, hS, w.2.2.2.1, w.2.2.2.2⟩)
theorem xg_20 (C : gC p s m args meth c RX0 cc nL ret) (w : gW wX D Q T A s S H locs) {v : Int32} (hv : S 20 0 = v) (hd : decode cc pc = .ok (.getfield 159, 3)) (k : W p l e R s m args below meth c H locs cells slots QQ (F0 m (pc + 3) ls (.int v :: rest))) : W p l e R s m args below meth c H locs cells slots QQ (F0 m pc ls (.ref (Q 0) :: rest)) := va_get (D := D) (ci := 0) (v := .int v) (C := RX0) (T := TX0) (N := 25) C.1 C.2.1 C.2.2.2.2.1 in_X0 C.2.2.2.1 w.2.2.2.1 w.1 0 rfl rfl 20 (by decide) (C.2.2.2.2.1 _ q63) (fun _ h9 => h9) (by subst hv; rfl) hd k
theorem xp_20 {v : Int32} (C : gC p s m args meth c RX0 cc nL ret) (w : gW wX D Q T A s S H locs) (hd : decode cc pc = .ok (.putfield 159, 3)) (k : ∀ (H1 : Heap) (locs1 : List Loc) (S1 : St), S1 = up S 20 (fun _ => v) → gW wX D Q T A s S1 H1 locs1 → W p l e R s m args below meth c H1 locs1 cells slots QQ (F0 m (pc + 3) ls rest)) : W p l e R s m args below meth c H locs cells slots QQ (F0 m pc ls (.int v :: .ref (Q 0) :: rest)) := va_put (D := D) (ci := 0) (v := .int v) (ty := .int) (C := RX0) (T := TX0) (N := 25) C.1 C.2.1 C.2.2.2.2.1 in_X0 tyX0 tyX0_ok nmX0 C.2.2.2.1 w.2.2.2.1 w.1 w.2.1 w.2.2.1 0 rfl rfl 20 (by decide) (C.2.2.2.2.1 _ q63) (fun _ h9 => h9) rfl (by decide +kernel) rfl rfl (Nat.le_of_ble_eq_true rfl) hd (fun H1 locs1 hP hD hS => k H1 locs1 _ rfl ⟨hP, hD, hS, w.2.2.2.1, w.2.2.2.2⟩)
theorem xg_21 (C : gC p s m args meth c RX0 cc nL ret) (w : gW wX D Q T A s S H locs) {v : Int32} (hv : S 21 0 = v) (hd : decode cc pc = .ok (.getfield 156, 3)) (k : W p l e R s m args below meth c H locs cells slots QQ (F0 m (pc + 3) ls (.int v :: rest))) : W p l e R s m args below meth c H locs cells slots QQ (F0 m pc ls (.ref (Q 0) :: rest)) := va_get (D := D) (ci := 0) (v := .int v) (C := RX0) (T := TX0) (N := 25) C.1 C.2.1 C.2.2.2.2.1 in_X0 C.2.2.2.1 w.2.2.2.1 w.1 0 rfl rfl 21 (by decide) (C.2.2.2.2.1 _ q64) (fun _ h9 => h9) (by subst hv; rfl) hd k
theorem xp_21 {v : Int32} (C : gC p s m args meth c RX0 cc nL ret) (w : gW wX D Q T A s S H locs) (hd : decode cc pc = .ok (.putfield 156, 3)) (k : ∀ (H1 : Heap) (locs1 : List Loc) (S1 : St), S1 = up S 21 (fun _ => v) → gW wX D Q T A s S1 H1 locs1 → W p l e R s m args below meth c H1 locs1 cells slots QQ (F0 m (pc + 3) ls rest)) : W p l e R s m args below meth c H locs cells slots QQ (F0 m pc ls (.int v :: .ref (Q 0) :: rest)) := va_put (D := D) (ci := 0) (v := .int v) (ty := .int) (C := RX0) (T := TX0) (N := 25) C.1 C.2.1 C.2.2.2.2.1 in_X0 tyX0 tyX0_ok nmX0 C.2.2.2.1 w.2.2.2.1 w.1 w.2.1 w.2.2.1 0 rfl rfl 21 (by decide) (C.2.2.2.2.1 _ q64) (fun _ h9 => h9) rfl (by decide +kernel) rfl rfl (Nat.le_of_ble_eq_true rfl) hd (fun H1 locs1 hP hD hS => k H1 locs1 _ rfl ⟨hP, hD, hS, w.2.2.2.1, w.2.2.2.2⟩)
theorem xg_22 (C : gC p s m args meth c RX0 cc nL ret) (w : gW wX D Q T A s S H locs) (hd : decode cc pc = .ok (.getfield 60, 3)) (k : W p l e R s m args below meth c H locs cells slots QQ (F0 m (pc + 3) ls (.ref (Q 22) :: rest))) : W p l e R s m args below meth c H locs cells slots QQ (F0 m pc ls (.ref (Q 0) :: rest)) := va_get (D := D) (ci := 0) (v := .ref (Q 22)) (C := RX0) (T := TX0) (N := 25) C.1 C.2.1 C.2.2.2.2.1 in_X0 C.2.2.2.1 w.2.2.2.1 w.1 0 rfl rfl 22 (by decide) (C.2.2.2.2.1 _ q65) (fun _ h9 => h9) (rfl) hd k
theorem xl_22 {j : Nat} {v : Int32} (C : gC p s m args meth c RX0 cc nL ret) (w : gW wX D Q T A s S H locs) (hj : j < 32) (hv : S 22 j = v) (hd : decode cc pc = .ok (.baload, 1)) (k : W p l e R s m args below meth c H locs cells slots QQ (F0 m (pc + 1) ls (.int v :: rest))) : W p l e R s m args below meth c H locs cells slots QQ (F0 m pc ls (.int (nI j) :: .ref (Q 22) :: rest)) := va_bald (f := S 22) C.1 C.2.1 w.2.2.2.1 w.1 17 1 rfl rfl (vp_in_nI hj (by decide)) hd (by rw [nI_clamp (by omega), hv]; exact k)
theorem xs_22 {j : Nat} {x v : Int32} (C : gC p s m args meth c RX0 cc nL ret) (w : gW wX D Q T A s S H locs) (hj : j < 32) (hv : vp_nar .byte x = v) (hd : decode cc pc = .ok (.bastore, 1)) (k : ∀ (H1 : Heap) (locs1 : List Loc) (S1 : St), S1 = up S 22 (upd (S 22) j v) → gW wX D Q T A s S1 H1 locs1 → W p l e R s m args below meth c H1 locs1 cells slots QQ (F0 m (pc + 1) ls rest)) : W p l e R s m args below meth c H locs cells slots QQ (F0 m pc ls (.int x :: .int (nI j) :: .ref (Q 22) :: rest)) := va_bast (f := S 22) C.1 C.2.1 w.2.2.2.1 w.1 w.2.1 w.2.2.1 17 1 rfl rfl (vp_in_nI hj (by decide)) hd (fun H1 locs1 hP hD hS => by rw [nI_clamp (by omega), hv] at hP hD; exact k H1 locs1 _ rfl ⟨hP, hD, hS, w.2.2.2.1, w.2.2.2.2⟩)
theorem xg_23 (C : gC p s m args meth c RX0 cc nL ret) (w : gW wX D Q T A s S H locs) (hd : decode cc pc = .ok (.getfield 63, 3)) (k : W p l e R s m args below meth c H locs cells slots QQ (F0 m (pc + 3) ls (.ref (Q 23) :: rest))) : W p l e R s m args below meth c H locs cells slots QQ (F0 m pc ls (.ref (Q 0) :: rest)) := va_get (D := D) (ci := 0) (v := .ref (Q 23)) (C := RX0) (T := TX0) (N := 25) C.1 C.2.1 C.2.2.2.2.1 in_X0 C.2.2.2.1 w.2.2.2.1 w.1 0 rfl rfl 23 (by decide) (C.2.2.2.2.1 _ q66) (fun _ h9 => h9) (rfl) hd k
theorem xl_23 {j : Nat} {v : Int32} (C : gC p s m args meth c RX0 cc nL ret) (w : gW wX D Q T A s S H locs) (hj : j < 32) (hv : S 23 j = v) (hd : decode cc pc = .ok (.iaload, 1)) (k : W p l e R s m args below meth c H locs cells slots QQ (F0 m (pc + 1) ls (.int v :: rest))) : W p l e R s m args below meth c H locs cells slots QQ (F0 m pc ls (.int (nI j) :: .ref (Q 23) :: rest)) := va_iald (f := S 23) C.1 C.2.1 w.2.2.2.1 w.1 18 0 rfl rfl (vp_in_nI hj (by decide)) hd (by rw [nI_clamp (by omega), hv]; exact k)
theorem xs_23 {j : Nat} {x : Int32} (C : gC p s m args meth c RX0 cc nL ret) (w : gW wX D Q T A s S H locs) (hj : j < 32) (hd : decode cc pc = .ok (.iastore, 1)) (k : ∀ (H1 : Heap) (locs1 : List Loc) (S1 : St), S1 = up S 23 (upd (S 23) j x) → gW wX D Q T A s S1 H1 locs1 → W p l e R s m args below meth c H1 locs1 cells slots QQ (F0 m (pc + 1) ls rest)) : W p l e R s m args below meth c H locs cells slots QQ (F0 m pc ls (.int x :: .int (nI j) :: .ref (Q 23) :: rest)) := va_iast (f := S 23) C.1 C.2.1 w.2.2.2.1 w.1 w.2.1 w.2.2.1 18 0 rfl rfl (vp_in_nI hj (by decide)) hd (fun H1 locs1 hP hD hS => by rw [nI_clamp (by omega)] at hP hD; exact k H1 locs1 _ rfl ⟨hP, hD, hS, w.2.2.2.1, w.2.2.2.2⟩)
theorem xg_24 (C : gC p s m args meth c RX0 cc nL ret) (w : gW wX D Q T A s S H locs) (hd : decode cc pc = .ok (.getfield 66, 3)) (k : W p l e R s m args below meth c H locs cells slots QQ (F0 m (pc + 3) ls (.ref (Q 24) :: rest))) : W p l e R s m args below meth c H locs cells slots QQ (F0 m pc ls (.ref (Q 0) :: rest)) := va_get (D := D) (ci := 0) (v := .ref (Q 24)) (C := RX0) (T := TX0) (N := 25) C.1 C.2.1 C.2.2.2.2.1 in_X0 C.2.2.2.1 w.2.2.2.1 w.1 0 rfl rfl 24 (by decide) (C.2.2.2.2.1 _ q67) (fun _ h9 => h9) (rfl) hd k
theorem xl_24 {j : Nat} {v : Int32} (C : gC p s m args meth c RX0 cc nL ret) (w : gW wX D Q T A s S H locs) (hj : j < 32) (hv : S 24 j = v) (hd : decode cc pc = .ok (.saload, 1)) (k : W p l e R s m args below meth c H locs cells slots QQ (F0 m (pc + 1) ls (.int v :: rest))) : W p l e R s m args below meth c H locs cells slots QQ (F0 m pc ls (.int (nI j) :: .ref (Q 24) :: rest)) := va_sald (f := S 24) C.1 C.2.1 w.2.2.2.1 w.1 19 2 rfl rfl (vp_in_nI hj (by decide)) hd (by rw [nI_clamp (by omega), hv]; exact k)
theorem xs_24 {j : Nat} {x v : Int32} (C : gC p s m args meth c RX0 cc nL ret) (w : gW wX D Q T A s S H locs) (hj : j < 32) (hv : vp_nar .short x = v) (hd : decode cc pc = .ok (.sastore, 1)) (k : ∀ (H1 : Heap) (locs1 : List Loc) (S1 : St), S1 = up S 24 (upd (S 24) j v) → gW wX D Q T A s S1 H1 locs1 → W p l e R s m args below meth c H1 locs1 cells slots QQ (F0 m (pc + 1) ls rest)) : W p l e R s m args below meth c H locs cells slots QQ (F0 m pc ls (.int x :: .int (nI j) :: .ref (Q 24) :: rest)) := va_sast (f := S 24) C.1 C.2.1 w.2.2.2.1 w.1 w.2.1 w.2.2.1 19 2 rfl rfl (vp_in_nI hj (by decide)) hd (fun H1 locs1 hP hD hS => by rw [nI_clamp (by omega), hv] at hP hD; exact k H1 locs1 _ rfl ⟨hP, hD, hS, w.2.2.2.1, w.2.2.2.2⟩)
end Cx
section Cy
variable {p : Program} {l : Launch} {e : Env} {R : Room} {s : State} {m : MethodId} {args : Array Value} {below : List Frame} {meth : Method} {c : Code} {H : Heap} {locs : List Loc} {cells slots : Nat} {QQ : State → Prop}
variable {D : va_G} {Q : Nat → Nat} {T : Nat → ClassId} {A : Nat → Prop} {S : St} {cc : ByteArray} {nL : Nat} {ret : Option FieldType} {pc : Nat} {ls : Array Slot} {rest : List Value}
theorem yg_0 (C : gC p s m args meth c RX1 cc nL ret) (w : gW wM D Q T A s S H locs) {v : Int32} (hv : S 0 0 = v) (hd : decode cc pc = .ok (.getfield 7, 3)) (k : W p l e R s m args below meth c H locs cells slots QQ (F0 m (pc + 3) ls (.int v :: rest))) : W p l e R s m args below meth c H locs cells slots QQ (F0 m pc ls (.ref (Q 0) :: rest)) := va_get (D := D) (ci := 1) (v := .int v) (C := RX1) (T := TX1) (N := 8) C.1 C.2.1 C.2.2.2.2.1 in_X1 C.2.2.2.1 w.2.2.2.1 w.1 0 rfl rfl 0 (by decide) (C.2.2.2.2.1 _ q278) (fun _ h9 => h9) (by subst hv; rfl) hd k
theorem yp_0 {v : Int32} (C : gC p s m args meth c RX1 cc nL ret) (w : gW wM D Q T A s S H locs) (hd : decode cc pc = .ok (.putfield 7, 3)) (k : ∀ (H1 : Heap) (locs1 : List Loc) (S1 : St), S1 = up S 0 (fun _ => v) → gW wM D Q T A s S1 H1 locs1 → W p l e R s m args below meth c H1 locs1 cells slots QQ (F0 m (pc + 3) ls rest)) : W p l e R s m args below meth c H locs cells slots QQ (F0 m pc ls (.int v :: .ref (Q 0) :: rest)) := va_put (D := D) (ci := 1) (v := .int v) (ty := .int) (C := RX1) (T := TX1) (N := 8) C.1 C.2.1 C.2.2.2.2.1 in_X1 tyX1 tyX1_ok nmX1 C.2.2.2.1 w.2.2.2.1 w.1 w.2.1 w.2.2.1 0 rfl rfl 0 (by decide) (C.2.2.2.2.1 _ q278) (fun _ h9 => h9) rfl (by decide +kernel) rfl rfl (Nat.le_of_ble_eq_true rfl) hd (fun H1 locs1 hP hD hS => k H1 locs1 _ rfl ⟨hP, hD, hS, w.2.2.2.1, w.2.2.2.2⟩)
theorem yg_1 (C : gC p s m args meth c RX1 cc nL ret) (w : gW wM D Q T A s S H locs) (hd : decode cc pc = .ok (.getfield 13, 3)) (k : W p l e R s m args below meth c H locs cells slots QQ (F0 m (pc + 3) ls (.ref (Q 1) :: rest))) : W p l e R s m args below meth c H locs cells slots QQ (F0 m pc ls (.ref (Q 0) :: rest)) := va_get (D := D) (ci := 1) (v := .ref (Q 1)) (C := RX1) (T := TX1) (N := 8) C.1 C.2.1 C.2.2.2.2.1 in_X1 C.2.2.2.1 w.2.2.2.1 w.1 0 rfl rfl 1 (by decide) (C.2.2.2.2.1 _ q279) (fun _ h9 => h9) (rfl) hd k
theorem yl_1 {j : Nat} {v : Int32} (C : gC p s m args meth c RX1 cc nL ret) (w : gW wM D Q T A s S H locs) (hj : j < 24) (hv : S 1 j = v) (hd : decode cc pc = .ok (.iaload, 1)) (k : W p l e R s m args below meth c H locs cells slots QQ (F0 m (pc + 1) ls (.int v :: rest))) : W p l e R s m args below meth c H locs cells slots QQ (F0 m pc ls (.int (nI j) :: .ref (Q 1) :: rest)) := va_iald (f := S 1) C.1 C.2.1 w.2.2.2.1 w.1 1 0 rfl rfl (vp_in_nI hj (by decide)) hd (by rw [nI_clamp (by omega), hv]; exact k)
theorem ys_1 {j : Nat} {x : Int32} (C : gC p s m args meth c RX1 cc nL ret) (w : gW wM D Q T A s S H locs) (hj : j < 24) (hd : decode cc pc = .ok (.iastore, 1)) (k : ∀ (H1 : Heap) (locs1 : List Loc) (S1 : St), S1 = up S 1 (upd (S 1) j x) → gW wM D Q T A s S1 H1 locs1 → W p l e R s m args below meth c H1 locs1 cells slots QQ (F0 m (pc + 1) ls rest)) : W p l e R s m args below meth c H locs cells slots QQ (F0 m pc ls (.int x :: .int (nI j) :: .ref (Q 1) :: rest)) := va_iast (f := S 1) C.1 C.2.1 w.2.2.2.1 w.1 w.2.1 w.2.2.1 1 0 rfl rfl (vp_in_nI hj (by decide)) hd (fun H1 locs1 hP hD hS => by rw [nI_clamp (by omega)] at hP hD; exact k H1 locs1 _ rfl ⟨hP, hD, hS, w.2.2.2.1, w.2.2.2.2⟩)
theorem yg_2 (C : gC p s m args meth c RX1 cc nL ret) (w : gW wM D Q T A s S H locs) (hd : decode cc pc = .ok (.getfield 17, 3)) (k : W p l e R s m args below meth c H locs cells slots QQ (F0 m (pc + 3) ls (.ref (Q 2) :: rest))) : W p l e R s m args below meth c H locs cells slots QQ (F0 m pc ls (.ref (Q 0) :: rest)) := va_get (D := D) (ci := 1) (v := .ref (Q 2)) (C := RX1) (T := TX1) (N := 8) C.1 C.2.1 C.2.2.2.2.1 in_X1 C.2.2.2.1 w.2.2.2.1 w.1 0 rfl rfl 2 (by decide) (C.2.2.2.2.1 _ q280) (fun _ h9 => h9) (rfl) hd k
theorem yl_2 {j : Nat} {v : Int32} (C : gC p s m args meth c RX1 cc nL ret) (w : gW wM D Q T A s S H locs) (hj : j < 24) (hv : S 2 j = v) (hd : decode cc pc = .ok (.iaload, 1)) (k : W p l e R s m args below meth c H locs cells slots QQ (F0 m (pc + 1) ls (.int v :: rest))) : W p l e R s m args below meth c H locs cells slots QQ (F0 m pc ls (.int (nI j) :: .ref (Q 2) :: rest)) := va_iald (f := S 2) C.1 C.2.1 w.2.2.2.1 w.1 2 0 rfl rfl (vp_in_nI hj (by decide)) hd (by rw [nI_clamp (by omega), hv]; exact k)
theorem ys_2 {j : Nat} {x : Int32} (C : gC p s m args meth c RX1 cc nL ret) (w : gW wM D Q T A s S H locs) (hj : j < 24) (hd : decode cc pc = .ok (.iastore, 1)) (k : ∀ (H1 : Heap) (locs1 : List Loc) (S1 : St), S1 = up S 2 (upd (S 2) j x) → gW wM D Q T A s S1 H1 locs1 → W p l e R s m args below meth c H1 locs1 cells slots QQ (F0 m (pc + 1) ls rest)) : W p l e R s m args below meth c H locs cells slots QQ (F0 m pc ls (.int x :: .int (nI j) :: .ref (Q 2) :: rest)) := va_iast (f := S 2) C.1 C.2.1 w.2.2.2.1 w.1 w.2.1 w.2.2.1 2 0 rfl rfl (vp_in_nI hj (by decide)) hd (fun H1 locs1 hP hD hS => by rw [nI_clamp (by omega)] at hP hD; exact k H1 locs1 _ rfl ⟨hP, hD, hS, w.2.2.2.1, w.2.2.2.2⟩)
theorem yg_3 (C : gC p s m args meth c RX1 cc nL ret) (w : gW wM D Q T A s S H locs) (hd : decode cc pc = .ok (.getfield 20, 3)) (k : W p l e R s m args below meth c H locs cells slots QQ (F0 m (pc + 3) ls (.ref (Q 3) :: rest))) : W p l e R s m args below meth c H locs cells slots QQ (F0 m pc ls (.ref (Q 0) :: rest)) := va_get (D := D) (ci := 1) (v := .ref (Q 3)) (C := RX1) (T := TX1) (N := 8) C.1 C.2.1 C.2.2.2.2.1 in_X1 C.2.2.2.1 w.2.2.2.1 w.1 0 rfl rfl 3 (by decide) (C.2.2.2.2.1 _ q281) (fun _ h9 => h9) (rfl) hd k
theorem yl_3 {j : Nat} {v : Int32} (C : gC p s m args meth c RX1 cc nL ret) (w : gW wM D Q T A s S H locs) (hj : j < 24) (hv : S 3 j = v) (hd : decode cc pc = .ok (.iaload, 1)) (k : W p l e R s m args below meth c H locs cells slots QQ (F0 m (pc + 1) ls (.int v :: rest))) : W p l e R s m args below meth c H locs cells slots QQ (F0 m pc ls (.int (nI j) :: .ref (Q 3) :: rest)) := va_iald (f := S 3) C.1 C.2.1 w.2.2.2.1 w.1 3 0 rfl rfl (vp_in_nI hj (by decide)) hd (by rw [nI_clamp (by omega), hv]; exact k)
theorem ys_3 {j : Nat} {x : Int32} (C : gC p s m args meth c RX1 cc nL ret) (w : gW wM D Q T A s S H locs) (hj : j < 24) (hd : decode cc pc = .ok (.iastore, 1)) (k : ∀ (H1 : Heap) (locs1 : List Loc) (S1 : St), S1 = up S 3 (upd (S 3) j x) → gW wM D Q T A s S1 H1 locs1 → W p l e R s m args below meth c H1 locs1 cells slots QQ (F0 m (pc + 1) ls rest)) : W p l e R s m args below meth c H locs cells slots QQ (F0 m pc ls (.int x :: .int (nI j) :: .ref (Q 3) :: rest)) := va_iast (f := S 3) C.1 C.2.1 w.2.2.2.1 w.1 w.2.1 w.2.2.1 3 0 rfl rfl (vp_in_nI hj (by decide)) hd (fun H1 locs1 hP hD hS => by rw [nI_clamp (by omega)] at hP hD; exact k H1 locs1 _ rfl ⟨hP, hD, hS, w.2.2.2.1, w.2.2.2.2⟩)
theorem yg_4 (C : gC p s m args meth c RX1 cc nL ret) (w : gW wM D Q T A s S H locs) (hd : decode cc pc = .ok (.getfield 23, 3)) (k : W p l e R s m args below meth c H locs cells slots QQ (F0 m (pc + 3) ls (.ref (Q 4) :: rest))) : W p l e R s m args below meth c H locs cells slots QQ (F0 m pc ls (.ref (Q 0) :: rest)) := va_get (D := D) (ci := 1) (v := .ref (Q 4)) (C := RX1) (T := TX1) (N := 8) C.1 C.2.1 C.2.2.2.2.1 in_X1 C.2.2.2.1 w.2.2.2.1 w.1 0 rfl rfl 4 (by decide) (C.2.2.2.2.1 _ q282) (fun _ h9 => h9) (rfl) hd k
theorem yl_4 {j : Nat} {v : Int32} (C : gC p s m args meth c RX1 cc nL ret) (w : gW wM D Q T A s S H locs) (hj : j < 24) (hv : S 4 j = v) (hd : decode cc pc = .ok (.iaload, 1)) (k : W p l e R s m args below meth c H locs cells slots QQ (F0 m (pc + 1) ls (.int v :: rest))) : W p l e R s m args below meth c H locs cells slots QQ (F0 m pc ls (.int (nI j) :: .ref (Q 4) :: rest)) := va_iald (f := S 4) C.1 C.2.1 w.2.2.2.1 w.1 4 0 rfl rfl (vp_in_nI hj (by decide)) hd (by rw [nI_clamp (by omega), hv]; exact k)
theorem ys_4 {j : Nat} {x : Int32} (C : gC p s m args meth c RX1 cc nL ret) (w : gW wM D Q T A s S H locs) (hj : j < 24) (hd : decode cc pc = .ok (.iastore, 1)) (k : ∀ (H1 : Heap) (locs1 : List Loc) (S1 : St), S1 = up S 4 (upd (S 4) j x) → gW wM D Q T A s S1 H1 locs1 → W p l e R s m args below meth c H1 locs1 cells slots QQ (F0 m (pc + 1) ls rest)) : W p l e R s m args below meth c H locs cells slots QQ (F0 m pc ls (.int x :: .int (nI j) :: .ref (Q 4) :: rest)) := va_iast (f := S 4) C.1 C.2.1 w.2.2.2.1 w.1 w.2.1 w.2.2.1 4 0 rfl rfl (vp_in_nI hj (by decide)) hd (fun H1 locs1 hP hD hS => by rw [nI_clamp (by omega)] at hP hD; exact k H1 locs1 _ rfl ⟨hP, hD, hS, w.2.2.2.1, w.2.2.2.2⟩)
theorem yg_5 (C : gC p s m args meth c RX1 cc nL ret) (w : gW wM D Q T A s S H locs) (hd : decode cc pc = .ok (.getfield 26, 3)) (k : W p l e R s m args below meth c H locs cells slots QQ (F0 m (pc + 3) ls (.ref (Q 5) :: rest))) : W p l e R s m args below meth c H locs cells slots QQ (F0 m pc ls (.ref (Q 0) :: rest)) := va_get (D := D) (ci := 1) (v := .ref (Q 5)) (C := RX1) (T := TX1) (N := 8) C.1 C.2.1 C.2.2.2.2.1 in_X1 C.2.2.2.1 w.2.2.2.1 w.1 0 rfl rfl 5 (by decide) (C.2.2.2.2.1 _ q283) (fun _ h9 => h9) (rfl) hd k
theorem yl_5 {j : Nat} {v : Int32} (C : gC p s m args meth c RX1 cc nL ret) (w : gW wM D Q T A s S H locs) (hj : j < 8) (hv : S 5 j = v) (hd : decode cc pc = .ok (.iaload, 1)) (k : W p l e R s m args below meth c H locs cells slots QQ (F0 m (pc + 1) ls (.int v :: rest))) : W p l e R s m args below meth c H locs cells slots QQ (F0 m pc ls (.int (nI j) :: .ref (Q 5) :: rest)) := va_iald (f := S 5) C.1 C.2.1 w.2.2.2.1 w.1 5 0 rfl rfl (vp_in_nI hj (by decide)) hd (by rw [nI_clamp (by omega), hv]; exact k)
theorem ys_5 {j : Nat} {x : Int32} (C : gC p s m args meth c RX1 cc nL ret) (w : gW wM D Q T A s S H locs) (hj : j < 8) (hd : decode cc pc = .ok (.iastore, 1)) (k : ∀ (H1 : Heap) (locs1 : List Loc) (S1 : St), S1 = up S 5 (upd (S 5) j x) → gW wM D Q T A s S1 H1 locs1 → W p l e R s m args below meth c H1 locs1 cells slots QQ (F0 m (pc + 1) ls rest)) : W p l e R s m args below meth c H locs cells slots QQ (F0 m pc ls (.int x :: .int (nI j) :: .ref (Q 5) :: rest)) := va_iast (f := S 5) C.1 C.2.1 w.2.2.2.1 w.1 w.2.1 w.2.2.1 5 0 rfl rfl (vp_in_nI hj (by decide)) hd (fun H1 locs1 hP hD hS => by rw [nI_clamp (by omega)] at hP hD; exact k H1 locs1 _ rfl ⟨hP, hD, hS, w.2.2.2.1, w.2.2.2.2⟩)
theorem yg_6 (C : gC p s m args meth c RX1 cc nL ret) (w : gW wM D Q T A s S H locs) (hd : decode cc pc = .ok (.getfield 29, 3)) (k : W p l e R s m args below meth c H locs cells slots QQ (F0 m (pc + 3) ls (.ref (Q 6) :: rest))) : W p l e R s m args below meth c H locs cells slots QQ (F0 m pc ls (.ref (Q 0) :: rest)) := va_get (D := D) (ci := 1) (v := .ref (Q 6)) (C := RX1) (T := TX1) (N := 8) C.1 C.2.1 C.2.2.2.2.1 in_X1 C.2.2.2.1 w.2.2.2.1 w.1 0 rfl rfl 6 (by decide) (C.2.2.2.2.1 _ q284) (fun _ h9 => h9) (rfl) hd k
theorem yl_6 {j : Nat} {v : Int32} (C : gC p s m args meth c RX1 cc nL ret) (w : gW wM D Q T A s S H locs) (hj : j < 16) (hv : S 6 j = v) (hd : decode cc pc = .ok (.iaload, 1)) (k : W p l e R s m args below meth c H locs cells slots QQ (F0 m (pc + 1) ls (.int v :: rest))) : W p l e R s m args below meth c H locs cells slots QQ (F0 m pc ls (.int (nI j) :: .ref (Q 6) :: rest)) := va_iald (f := S 6) C.1 C.2.1 w.2.2.2.1 w.1 6 0 rfl rfl (vp_in_nI hj (by decide)) hd (by rw [nI_clamp (by omega), hv]; exact k)
theorem ys_6 {j : Nat} {x : Int32} (C : gC p s m args meth c RX1 cc nL ret) (w : gW wM D Q T A s S H locs) (hj : j < 16) (hd : decode cc pc = .ok (.iastore, 1)) (k : ∀ (H1 : Heap) (locs1 : List Loc) (S1 : St), S1 = up S 6 (upd (S 6) j x) → gW wM D Q T A s S1 H1 locs1 → W p l e R s m args below meth c H1 locs1 cells slots QQ (F0 m (pc + 1) ls rest)) : W p l e R s m args below meth c H locs cells slots QQ (F0 m pc ls (.int x :: .int (nI j) :: .ref (Q 6) :: rest)) := va_iast (f := S 6) C.1 C.2.1 w.2.2.2.1 w.1 w.2.1 w.2.2.1 6 0 rfl rfl (vp_in_nI hj (by decide)) hd (fun H1 locs1 hP hD hS => by rw [nI_clamp (by omega)] at hP hD; exact k H1 locs1 _ rfl ⟨hP, hD, hS, w.2.2.2.1, w.2.2.2.2⟩)
theorem yg_7 (C : gC p s m args meth c RX1 cc nL ret) (w : gW wM D Q T A s S H locs) (hd : decode cc pc = .ok (.getfield 32, 3)) (k : W p l e R s m args below meth c H locs cells slots QQ (F0 m (pc + 3) ls (.ref (Q 7) :: rest))) : W p l e R s m args below meth c H locs cells slots QQ (F0 m pc ls (.ref (Q 0) :: rest)) := va_get (D := D) (ci := 1) (v := .ref (Q 7)) (C := RX1) (T := TX1) (N := 8) C.1 C.2.1 C.2.2.2.2.1 in_X1 C.2.2.2.1 w.2.2.2.1 w.1 0 rfl rfl 7 (by decide) (C.2.2.2.2.1 _ q285) (fun _ h9 => h9) (rfl) hd k
theorem yl_7 {j : Nat} {v : Int32} (C : gC p s m args meth c RX1 cc nL ret) (w : gW wM D Q T A s S H locs) (hj : j < 24) (hv : S 7 j = v) (hd : decode cc pc = .ok (.iaload, 1)) (k : W p l e R s m args below meth c H locs cells slots QQ (F0 m (pc + 1) ls (.int v :: rest))) : W p l e R s m args below meth c H locs cells slots QQ (F0 m pc ls (.int (nI j) :: .ref (Q 7) :: rest)) := va_iald (f := S 7) C.1 C.2.1 w.2.2.2.1 w.1 7 0 rfl rfl (vp_in_nI hj (by decide)) hd (by rw [nI_clamp (by omega), hv]; exact k)
theorem ys_7 {j : Nat} {x : Int32} (C : gC p s m args meth c RX1 cc nL ret) (w : gW wM D Q T A s S H locs) (hj : j < 24) (hd : decode cc pc = .ok (.iastore, 1)) (k : ∀ (H1 : Heap) (locs1 : List Loc) (S1 : St), S1 = up S 7 (upd (S 7) j x) → gW wM D Q T A s S1 H1 locs1 → W p l e R s m args below meth c H1 locs1 cells slots QQ (F0 m (pc + 1) ls rest)) : W p l e R s m args below meth c H locs cells slots QQ (F0 m pc ls (.int x :: .int (nI j) :: .ref (Q 7) :: rest)) := va_iast (f := S 7) C.1 C.2.1 w.2.2.2.1 w.1 w.2.1 w.2.2.1 7 0 rfl rfl (vp_in_nI hj (by decide)) hd (fun H1 locs1 hP hD hS => by rw [nI_clamp (by omega)] at hP hD; exact k H1 locs1 _ rfl ⟨hP, hD, hS, w.2.2.2.1, w.2.2.2.2⟩)
end Cy
end
section
/-! TOOLS: values bI, oI; loops and joins inline; numbers; what calls ask -/
def R_law : String := "BundleMachineLaw"
def bI (b : Bool) : Int32 := if b then 1 else 0
def oI (x : Option Nat) : Int32 := match x with
  | none => -1
  | some n => nI n
theorem nz_b (b : Bool) : narrow .boolean (.int (bI b)) = .int (bI b) := by cases b <;> rfl
theorem bI_0 {b : Bool} (h : bI b = 0) : b = false := by cases b; rfl; exact absurd h (by decide)
theorem bI_1 {b : Bool} (h : ¬ bI b = 0) : b = true := by cases b; exact absurd rfl h; rfl
theorem bI_n1 : nI 1 = bI true := rfl
theorem bI_n0 : nI 0 = bI false := rfl
theorem ib_ {v : Nat} (h : v < 128) : (nI v).toInt8.toInt32 = nI v := (by decide +kernel : ∀ v, v < 128 → (nI v).toInt8.toInt32 = nI v) v h
theorem nb_ {v : Nat} (h : v < 128) : vp_nar .byte (nI v) = nI v := ib_ h
theorem is_ {v : Nat} (h : v < 32768) : (nI v).toInt16.toInt32 = nI v := by
  apply Int32.toInt_inj.mp
  rw [Int16.toInt_toInt32, Int32.toInt_toInt16, nI_toInt (by omega)]
  exact Int.bmod_eq_of_le (by omega) (by omega)
theorem ns_ {v : Nat} (h : v < 32768) : vp_nar .short (nI v) = nI v := is_ h
theorem nx_and (a b : Nat) : nI a &&& nI b = nI (a &&& b) := by
  apply Int32.toBitVec_inj.1
  show BitVec.ofNat 32 a &&& BitVec.ofNat 32 b = BitVec.ofNat 32 (a &&& b)
  apply BitVec.eq_of_getLsbD_eq
  intro i hi
  simp [hi]
theorem nx_or (a b : Nat) : nI a ||| nI b = nI (a ||| b) := by
  apply Int32.toBitVec_inj.1
  show BitVec.ofNat 32 a ||| BitVec.ofNat 32 b = BitVec.ofNat 32 (a ||| b)
  apply BitVec.eq_of_getLsbD_eq
  intro i hi
  simp [hi]
theorem nx_xor (a b : Nat) : nI a ^^^ nI b = nI (a ^^^ b) := by
  apply Int32.toBitVec_inj.1
  show BitVec.ofNat 32 a ^^^ BitVec.ofNat 32 b = BitVec.ofNat 32 (a ^^^ b)
  apply BitVec.eq_of_getLsbD_eq
  intro i hi
  simp [hi]
theorem s_l : ∀ n, n < 32 → ((nI n &&& 31).toBitVec.smod 32).toNat = n := by decide +kernel
theorem nx_sh1 {b : Nat} (h : b < 31) : nI 1 <<< (nI b &&& 31) = nI (2 ^ b) := by
  have h2 : 2 ^ b < 2 ^ 32 := Nat.pow_lt_pow_right (by decide) (by omega)
  rw [pk_shlN (nI b &&& 31) b (s_l b (by omega)) (by omega), Nat.one_mul]
theorem nx_shl {a b : Nat} (h : b < 32) (h2 : a * 2 ^ b < 2 ^ 32) : nI a <<< (nI b &&& 31) = nI (a * 2 ^ b) := pk_shlN (nI b &&& 31) b (s_l b h) h2
theorem nx_shr {a b : Nat} (h : a < 2 ^ 31) (hb : b < 32) : nI a >>> (nI b &&& 31) = nI (a / 2 ^ b) := pk_shrN h (nI b &&& 31) b (s_l b hb)
theorem nx_bit {a b : Nat} : (a / 2 ^ b) % 2 = (a.testBit b).toNat := (Nat.toNat_testBit a b).symm
/-- a word of 32 bits as nI v, v < 2 ^ 32: a field of it -/
theorem nx_shrA {v s : Nat} (hv : v < 2 ^ 32) (hs : s < 28) {m : Int32} (k : Nat) (hm : m.toBitVec.toNat = 2 ^ k - 1) (hk : s + k ≤ 32) : (nI v >>> (nI s &&& 31)) &&& m = nI (v / 2 ^ s % 2 ^ k) := by
  rw [pk_and _ k hm]
  congr 1
  apply Nat.eq_of_testBit_eq
  intro i
  rw [Nat.testBit_mod_two_pow, Nat.testBit_mod_two_pow, Nat.testBit_div_two_pow]
  by_cases hi : i < k
  · have e : (nI v >>> (nI s &&& 31)).toBitVec = (nI v).toBitVec.sshiftRight s := by
      rw [Int32.toBitVec_shiftRight]
      show (nI v).toBitVec.sshiftRight ((nI s &&& 31).toBitVec.smod 32).toNat = _
      rw [s_l s (by omega)]
    rw [e, BitVec.testBit_toNat, BitVec.getLsbD_sshiftRight]
    have h3 : s + i < 32 := by omega
    have h4 : i < 32 := by omega
    have e2 : (nI v).toBitVec = BitVec.ofNat 32 v := rfl
    have h5 : ¬ 32 ≤ i := by omega
    simp [hi, h3, h4, h5, e2, ← BitVec.getLsbD_eq_getElem]
    rw [BitVec.getLsbD_ofNat, Nat.add_comm i s]
    simp [h3]
  · simp [hi]
theorem nI_neg {v : Nat} (hv : v < 2 ^ 32) : nI v < 0 ↔ 2 ^ 31 ≤ v := by
  rw [Int32.lt_iff_toInt_lt]
  have e : (nI v).toInt = if 2 * v < 2 ^ 32 then (v : Int) else (v : Int) - 2 ^ 32 := by
    show (BitVec.ofNat 32 v).toInt = _
    rw [BitVec.toInt_eq_toNat_cond, BitVec.toNat_ofNat, Nat.mod_eq_of_lt hv]
    rfl
  rw [e, show (0 : Int32).toInt = 0 from rfl]
  split <;> omega
theorem oI_ge {n : Nat} (h : n < 2 ^ 31) : 0 ≤ oI (some n) := nI_pos' h
theorem oI_neg : oI none < 0 := by decide
section TL
variable {p : Program} {l : Launch} {e : Env} {R : Room} {s : State} {m : MethodId} {args : Array Value} {below : List Frame} {meth : Method} {c : Code} {H : Heap} {locs : List Loc} {cells slots : Nat} {QQ : State → Prop}
variable {own : String} {cc : ByteArray} {nL : Nat} {ret : Option FieldType} {pc : Nat} {ls : Array Slot} {rest : List Value} {off : Int} {tgt : Nat}
theorem g_loop {pcL : Nat} {st : List Value} {n : Nat} {I : Nat → List Value → Array Slot → Heap → List Loc → Prop} (h0 : I n st ls H locs) (step : ∀ (n : Nat) (st : List Value) (ls : Array Slot) (H : Heap) (locs : List Loc), (∀ n', n' < n → ∀ (st : List Value) (ls : Array Slot) (H : Heap) (locs : List Loc), I n' st ls H locs → W p l e R s m args below meth c H locs cells slots QQ (F0 m pcL ls st)) → I n st ls H locs → W p l e R s m args below meth c H locs cells slots QQ (F0 m pcL ls st)) : W p l e R s m args below meth c H locs cells slots QQ (F0 m pcL ls st) := by
  have key : ∀ (n : Nat) (st : List Value) (ls : Array Slot) (H : Heap) (locs : List Loc), I n st ls H locs → W p l e R s m args below meth c H locs cells slots QQ (F0 m pcL ls st) := by
    intro n
    induction n using Nat.strongRecOn with
    | ind n ih => exact fun st ls H locs h => step n st ls H locs ih h
  exact key n st ls H locs h0
theorem g_join {pcL : Nat} {g : JFrame} {I : List Value → Array Slot → Heap → List Loc → Prop} (hj : ∀ (st : List Value) (ls : Array Slot) (H : Heap) (locs : List Loc), I st ls H locs → W p l e R s m args below meth c H locs cells slots QQ (F0 m pcL ls st)) (k : (∀ (st : List Value) (ls : Array Slot) (H : Heap) (locs : List Loc), I st ls H locs → W p l e R s m args below meth c H locs cells slots QQ (F0 m pcL ls st)) → W p l e R s m args below meth c H locs cells slots QQ g) : W p l e R s m args below meth c H locs cells slots QQ g := k hj
theorem b_if_eq {b : Bool} (C : gC p s m args meth c own cc nL ret) (hd : decode cc pc = .ok (.ifCond .eq off, 3)) (ht : (pc : Int) + off = (tgt : Int)) (k1 : b = false → W p l e R s m args below meth c H locs cells slots QQ (F0 m tgt ls rest)) (k2 : b = true → W p l e R s m args below meth c H locs cells slots QQ (F0 m (pc + 3) ls rest)) : W p l e R s m args below meth c H locs cells slots QQ (F0 m pc ls (.int (bI b) :: rest)) := lv_if_eq C.1 C.2.1 hd ht (fun h => k1 (bI_0 h)) (fun h => k2 (bI_1 h))
theorem b_if_ne {b : Bool} (C : gC p s m args meth c own cc nL ret) (hd : decode cc pc = .ok (.ifCond .ne off, 3)) (ht : (pc : Int) + off = (tgt : Int)) (k1 : b = true → W p l e R s m args below meth c H locs cells slots QQ (F0 m tgt ls rest)) (k2 : b = false → W p l e R s m args below meth c H locs cells slots QQ (F0 m (pc + 3) ls rest)) : W p l e R s m args below meth c H locs cells slots QQ (F0 m pc ls (.int (bI b) :: rest)) := lv_if_ne C.1 C.2.1 hd ht (fun h => k1 (bI_1 h)) (fun h => k2 (bI_0 h))
theorem o_if_lt {x : Option Nat} (C : gC p s m args meth c own cc nL ret) (hb : ∀ n, x = some n → n < 2 ^ 31) (hd : decode cc pc = .ok (.ifCond .lt off, 3)) (ht : (pc : Int) + off = (tgt : Int)) (k1 : x = none → W p l e R s m args below meth c H locs cells slots QQ (F0 m tgt ls rest)) (k2 : ∀ n : Nat, x = some n → W p l e R s m args below meth c H locs cells slots QQ (F0 m (pc + 3) ls rest)) : W p l e R s m args below meth c H locs cells slots QQ (F0 m pc ls (.int (oI x) :: rest)) := by
  refine lv_if_lt C.1 C.2.1 hd ht (fun h => ?_) (fun h => ?_)
  · cases x with
    | none => exact k1 rfl
    | some n => exact absurd h (nI_pos (hb n rfl))
  · cases x with
    | none => exact absurd oI_neg h
    | some n => exact k2 n rfl
theorem o_if_ge {x : Option Nat} (C : gC p s m args meth c own cc nL ret) (hb : ∀ n, x = some n → n < 2 ^ 31) (hd : decode cc pc = .ok (.ifCond .ge off, 3)) (ht : (pc : Int) + off = (tgt : Int)) (k1 : ∀ n : Nat, x = some n → W p l e R s m args below meth c H locs cells slots QQ (F0 m tgt ls rest)) (k2 : x = none → W p l e R s m args below meth c H locs cells slots QQ (F0 m (pc + 3) ls rest)) : W p l e R s m args below meth c H locs cells slots QQ (F0 m pc ls (.int (oI x) :: rest)) := by
  refine lv_if_ge C.1 C.2.1 hd ht (fun h => ?_) (fun h => ?_)
  · cases x with
    | none => exact absurd h (by decide)
    | some n => exact k1 n rfl
  · cases x with
    | none => exact k2 rfl
    | some n => exact absurd (oI_ge (hb n rfl)) h
/-- a ≤ x, x a number or -1 -/
theorem no_icmp_le {a : Nat} {x : Option Nat} (C : gC p s m args meth c own cc nL ret) (ha : a < 2 ^ 31) (hb : ∀ n, x = some n → n < 2 ^ 31) (hd : decode cc pc = .ok (.if_icmp .le off, 3)) (ht : (pc : Int) + off = (tgt : Int)) (k1 : (∃ n, x = some n ∧ a ≤ n) → W p l e R s m args below meth c H locs cells slots QQ (F0 m tgt ls rest)) (k2 : (∀ n, x = some n → n < a) → W p l e R s m args below meth c H locs cells slots QQ (F0 m (pc + 3) ls rest)) : W p l e R s m args below meth c H locs cells slots QQ (F0 m pc ls (.int (oI x) :: .int (nI a) :: rest)) := by
  refine lv_icmp_le C.1 C.2.1 hd ht (fun h => ?_) (fun h => ?_)
  · cases x with
    | none =>
      refine absurd h ?_
      rw [Int32.le_iff_toInt_le, nI_toInt ha]
      show ¬ (a : Int) ≤ -1
      omega
    | some n => exact k1 ⟨n, rfl, (nI_leI ha (hb n rfl)).mp h⟩
  · refine k2 fun n hn => ?_
    subst hn
    exact Nat.lt_of_not_le fun q => h ((nI_leI ha (hb n rfl)).mpr q)
end TL
theorem cq_L_X0_drop : GoodIn lw_all (wsV R_law 23 RX0 yX0_drop (ws_ yX0_drop cX0_drop 2 (some .int))) := lw_V q134 q135 q136 q33 q137
theorem cy_X0_drop : yX0_drop.cls = RX0 ∧ yX0_drop.cls ≠ "java/lang/invoke/MethodHandle" ∧ yX0_drop.cls ≠ "java/lang/invoke/VarHandle" ∧ (parseMethodDescriptor yX0_drop.desc).map (fun d => d.parameters.length) = some 0 := by decide +kernel
theorem cq_L_X0_emit : GoodIn lw_all (wsV R_law 13 RX0 yX0_emit (ws_ yX0_emit cX0_emit 5 (some .int))) := lw_V q122 q123 q124 q33 q125
theorem cy_X0_emit : yX0_emit.cls = RX0 ∧ yX0_emit.cls ≠ "java/lang/invoke/MethodHandle" ∧ yX0_emit.cls ≠ "java/lang/invoke/VarHandle" ∧ (parseMethodDescriptor yX0_emit.desc).map (fun d => d.parameters.length) = some 4 := by decide +kernel
theorem cq_L_X0_heaviest : GoodIn lw_all (wsV R_law 53 RX0 yX0_heaviest (ws_ yX0_heaviest cX0_heaviest 3 (some .int))) := lw_V q264 q265 q266 q33 q267
theorem cy_X0_heaviest : yX0_heaviest.cls = RX0 ∧ yX0_heaviest.cls ≠ "java/lang/invoke/MethodHandle" ∧ yX0_heaviest.cls ≠ "java/lang/invoke/VarHandle" ∧ (parseMethodDescriptor yX0_heaviest.desc).map (fun d => d.parameters.length) = some 0 := by decide +kernel
theorem cq_L_X0_links : GoodIn lw_all (wsV R_law 57 RX0 yX0_links (ws_ yX0_links cX0_links 5 (some .int))) := lw_V q268 q269 q270 q33 q271
theorem cy_X0_links : yX0_links.cls = RX0 ∧ yX0_links.cls ≠ "java/lang/invoke/MethodHandle" ∧ yX0_links.cls ≠ "java/lang/invoke/VarHandle" ∧ (parseMethodDescriptor yX0_links.desc).map (fun d => d.parameters.length) = some 0 := by decide +kernel
theorem cq_L_X0_memory : GoodIn lw_all (wsV R_law 41 RX0 yX0_memory (ws_ yX0_memory cX0_memory 2 (some .int))) := lw_V q240 q241 q242 q33 q243
theorem cy_X0_memory : yX0_memory.cls = RX0 ∧ yX0_memory.cls ≠ "java/lang/invoke/MethodHandle" ∧ yX0_memory.cls ≠ "java/lang/invoke/VarHandle" ∧ (parseMethodDescriptor yX0_memory.desc).map (fun d => d.parameters.length) = some 1 := by decide +kernel
theorem cq_L_X0_register : GoodIn lw_all (wsV R_law 31 RX0 yX0_register (ws_ yX0_register cX0_register 2 (some .int))) := lw_V q232 q233 q234 q33 q235
theorem cy_X0_register : yX0_register.cls = RX0 ∧ yX0_register.cls ≠ "java/lang/invoke/MethodHandle" ∧ yX0_register.cls ≠ "java/lang/invoke/VarHandle" ∧ (parseMethodDescriptor yX0_register.desc).map (fun d => d.parameters.length) = some 1 := by decide +kernel
theorem cq_L_X0_retract : GoodIn lw_all (wsV R_law 18 RX0 yX0_retract (ws_ yX0_retract cX0_retract 1 (some .int))) := lw_V q130 q131 q132 q33 q133
theorem cy_X0_retract : yX0_retract.cls = RX0 ∧ yX0_retract.cls ≠ "java/lang/invoke/MethodHandle" ∧ yX0_retract.cls ≠ "java/lang/invoke/VarHandle" ∧ (parseMethodDescriptor yX0_retract.desc).map (fun d => d.parameters.length) = some 0 := by decide +kernel
theorem cq_L_X0_run : GoodIn lw_all (wsV R_law 27 RX0 yX0_run (ws_ yX0_run cX0_run 1 (some .int))) := lw_V q138 q139 q140 q33 q141
theorem cy_X0_run : yX0_run.cls = RX0 ∧ yX0_run.cls ≠ "java/lang/invoke/MethodHandle" ∧ yX0_run.cls ≠ "java/lang/invoke/VarHandle" ∧ (parseMethodDescriptor yX0_run.desc).map (fun d => d.parameters.length) = some 0 := by decide +kernel
theorem cq_L_X0_setMemory : GoodIn lw_all (wsV R_law 45 RX0 yX0_setMemory (ws_ yX0_setMemory cX0_setMemory 3 (some .boolean))) := lw_V q244 q245 q246 q33 q247
theorem cy_X0_setMemory : yX0_setMemory.cls = RX0 ∧ yX0_setMemory.cls ≠ "java/lang/invoke/MethodHandle" ∧ yX0_setMemory.cls ≠ "java/lang/invoke/VarHandle" ∧ (parseMethodDescriptor yX0_setMemory.desc).map (fun d => d.parameters.length) = some 2 := by decide +kernel
theorem cq_L_X0_setRegister : GoodIn lw_all (wsV R_law 36 RX0 yX0_setRegister (ws_ yX0_setRegister cX0_setRegister 3 (some .boolean))) := lw_V q236 q237 q238 q33 q239
theorem cy_X0_setRegister : yX0_setRegister.cls = RX0 ∧ yX0_setRegister.cls ≠ "java/lang/invoke/MethodHandle" ∧ yX0_setRegister.cls ≠ "java/lang/invoke/VarHandle" ∧ (parseMethodDescriptor yX0_setRegister.desc).map (fun d => d.parameters.length) = some 2 := by decide +kernel
theorem cq_L_X0_weight : GoodIn lw_all (wsV R_law 49 RX0 yX0_weight (ws_ yX0_weight cX0_weight 2 (some .int))) := lw_V q248 q249 q250 q33 q251
theorem cy_X0_weight : yX0_weight.cls = RX0 ∧ yX0_weight.cls ≠ "java/lang/invoke/MethodHandle" ∧ yX0_weight.cls ≠ "java/lang/invoke/VarHandle" ∧ (parseMethodDescriptor yX0_weight.desc).map (fun d => d.parameters.length) = some 1 := by decide +kernel
theorem cq_L_X1_drop : GoodIn lw_all (wsV R_law 26 RX1 yX1_drop (ws_ yX1_drop cX1_drop 2 (some .int))) := lw_V q315 q316 q317 q34 q318
theorem cy_X1_drop : yX1_drop.cls = RX1 ∧ yX1_drop.cls ≠ "java/lang/invoke/MethodHandle" ∧ yX1_drop.cls ≠ "java/lang/invoke/VarHandle" ∧ (parseMethodDescriptor yX1_drop.desc).map (fun d => d.parameters.length) = some 0 := by decide +kernel
theorem cq_L_X1_emit : GoodIn lw_all (wsV R_law 17 RX1 yX1_emit (ws_ yX1_emit cX1_emit 5 (some .int))) := lw_V q303 q304 q305 q34 q306
theorem cy_X1_emit : yX1_emit.cls = RX1 ∧ yX1_emit.cls ≠ "java/lang/invoke/MethodHandle" ∧ yX1_emit.cls ≠ "java/lang/invoke/VarHandle" ∧ (parseMethodDescriptor yX1_emit.desc).map (fun d => d.parameters.length) = some 4 := by decide +kernel
theorem cq_L_X1_heaviest : GoodIn lw_all (wsV R_law 56 RX1 yX1_heaviest (ws_ yX1_heaviest cX1_heaviest 3 (some .int))) := lw_V q363 q364 q365 q34 q366
theorem cy_X1_heaviest : yX1_heaviest.cls = RX1 ∧ yX1_heaviest.cls ≠ "java/lang/invoke/MethodHandle" ∧ yX1_heaviest.cls ≠ "java/lang/invoke/VarHandle" ∧ (parseMethodDescriptor yX1_heaviest.desc).map (fun d => d.parameters.length) = some 0 := by decide +kernel
theorem cq_L_X1_links : GoodIn lw_all (wsV R_law 60 RX1 yX1_links (ws_ yX1_links cX1_links 4 (some .int))) := lw_V q367 q368 q369 q34 q370
theorem cy_X1_links : yX1_links.cls = RX1 ∧ yX1_links.cls ≠ "java/lang/invoke/MethodHandle" ∧ yX1_links.cls ≠ "java/lang/invoke/VarHandle" ∧ (parseMethodDescriptor yX1_links.desc).map (fun d => d.parameters.length) = some 0 := by decide +kernel
theorem cq_L_X1_memory : GoodIn lw_all (wsV R_law 44 RX1 yX1_memory (ws_ yX1_memory cX1_memory 2 (some .int))) := lw_V q335 q336 q337 q34 q338
theorem cy_X1_memory : yX1_memory.cls = RX1 ∧ yX1_memory.cls ≠ "java/lang/invoke/MethodHandle" ∧ yX1_memory.cls ≠ "java/lang/invoke/VarHandle" ∧ (parseMethodDescriptor yX1_memory.desc).map (fun d => d.parameters.length) = some 1 := by decide +kernel
theorem cq_L_X1_register : GoodIn lw_all (wsV R_law 35 RX1 yX1_register (ws_ yX1_register cX1_register 2 (some .int))) := lw_V q327 q328 q329 q34 q330
theorem cy_X1_register : yX1_register.cls = RX1 ∧ yX1_register.cls ≠ "java/lang/invoke/MethodHandle" ∧ yX1_register.cls ≠ "java/lang/invoke/VarHandle" ∧ (parseMethodDescriptor yX1_register.desc).map (fun d => d.parameters.length) = some 1 := by decide +kernel
theorem cq_L_X1_retract : GoodIn lw_all (wsV R_law 22 RX1 yX1_retract (ws_ yX1_retract cX1_retract 1 (some .int))) := lw_V q311 q312 q313 q34 q314
theorem cy_X1_retract : yX1_retract.cls = RX1 ∧ yX1_retract.cls ≠ "java/lang/invoke/MethodHandle" ∧ yX1_retract.cls ≠ "java/lang/invoke/VarHandle" ∧ (parseMethodDescriptor yX1_retract.desc).map (fun d => d.parameters.length) = some 0 := by decide +kernel
theorem cq_L_X1_run : GoodIn lw_all (wsV R_law 30 RX1 yX1_run (ws_ yX1_run cX1_run 2 (some .int))) := lw_V q319 q320 q321 q34 q322
theorem cy_X1_run : yX1_run.cls = RX1 ∧ yX1_run.cls ≠ "java/lang/invoke/MethodHandle" ∧ yX1_run.cls ≠ "java/lang/invoke/VarHandle" ∧ (parseMethodDescriptor yX1_run.desc).map (fun d => d.parameters.length) = some 0 := by decide +kernel
theorem cq_L_X1_setMemory : GoodIn lw_all (wsV R_law 48 RX1 yX1_setMemory (ws_ yX1_setMemory cX1_setMemory 3 (some .boolean))) := lw_V q339 q340 q341 q34 q342
theorem cy_X1_setMemory : yX1_setMemory.cls = RX1 ∧ yX1_setMemory.cls ≠ "java/lang/invoke/MethodHandle" ∧ yX1_setMemory.cls ≠ "java/lang/invoke/VarHandle" ∧ (parseMethodDescriptor yX1_setMemory.desc).map (fun d => d.parameters.length) = some 2 := by decide +kernel
theorem cq_L_X1_setRegister : GoodIn lw_all (wsV R_law 40 RX1 yX1_setRegister (ws_ yX1_setRegister cX1_setRegister 3 (some .boolean))) := lw_V q331 q332 q333 q34 q334
theorem cy_X1_setRegister : yX1_setRegister.cls = RX1 ∧ yX1_setRegister.cls ≠ "java/lang/invoke/MethodHandle" ∧ yX1_setRegister.cls ≠ "java/lang/invoke/VarHandle" ∧ (parseMethodDescriptor yX1_setRegister.desc).map (fun d => d.parameters.length) = some 2 := by decide +kernel
theorem cq_L_X1_weight : GoodIn lw_all (wsV R_law 52 RX1 yX1_weight (ws_ yX1_weight cX1_weight 2 (some .int))) := lw_V q343 q344 q345 q34 q346
theorem cy_X1_weight : yX1_weight.cls = RX1 ∧ yX1_weight.cls ≠ "java/lang/invoke/MethodHandle" ∧ yX1_weight.cls ≠ "java/lang/invoke/VarHandle" ∧ (parseMethodDescriptor yX1_weight.desc).map (fun d => d.parameters.length) = some 1 := by decide +kernel
theorem cq_X0_X0_addOp : GoodIn lw_all (wsV RX0 106 RX0 yX0_addOp (ws_ yX0_addOp cX0_addOp 6 none)) := lw_V q158 q160 qs5 q33 q161
theorem cy_X0_addOp : yX0_addOp.cls = RX0 ∧ yX0_addOp.cls ≠ "java/lang/invoke/MethodHandle" ∧ yX0_addOp.cls ≠ "java/lang/invoke/VarHandle" ∧ (parseMethodDescriptor yX0_addOp.desc).map (fun d => d.parameters.length) = some 5 := by decide +kernel
theorem cq_X0_X0_clusterOf : GoodIn lw_all (wsV RX0 103 RX0 yX0_clusterOf (ws_ yX0_clusterOf cX0_clusterOf 2 (some .int))) := lw_V q150 q152 qs3 q33 q153
theorem cy_X0_clusterOf : yX0_clusterOf.cls = RX0 ∧ yX0_clusterOf.cls ≠ "java/lang/invoke/MethodHandle" ∧ yX0_clusterOf.cls ≠ "java/lang/invoke/VarHandle" ∧ (parseMethodDescriptor yX0_clusterOf.desc).map (fun d => d.parameters.length) = some 1 := by decide +kernel
theorem cq_X0_X0_combined : GoodIn lw_all (wsV RX0 173 RX0 yX0_combined (ws_ yX0_combined cX0_combined 4 (some .int))) := lw_V q228 q230 qs22 q33 q231
theorem cy_X0_combined : yX0_combined.cls = RX0 ∧ yX0_combined.cls ≠ "java/lang/invoke/MethodHandle" ∧ yX0_combined.cls ≠ "java/lang/invoke/VarHandle" ∧ (parseMethodDescriptor yX0_combined.desc).map (fun d => d.parameters.length) = some 3 := by decide +kernel
theorem cq_X0_X0_earliest : GoodIn lw_all (wsV RX0 139 RX0 yX0_earliest (ws_ yX0_earliest cX0_earliest 5 (some .int))) := lw_V q194 q196 qs14 q33 q197
theorem cy_X0_earliest : yX0_earliest.cls = RX0 ∧ yX0_earliest.cls ≠ "java/lang/invoke/MethodHandle" ∧ yX0_earliest.cls ≠ "java/lang/invoke/VarHandle" ∧ (parseMethodDescriptor yX0_earliest.desc).map (fun d => d.parameters.length) = some 1 := by decide +kernel
theorem cq_X0_X0_encode : GoodIn lw_all (wsV RX0 129 RX0 yX0_encode (ws_ yX0_encode cX0_encode 5 none)) := lw_V q202 q204 qs16 q33 q205
theorem cy_X0_encode : yX0_encode.cls = RX0 ∧ yX0_encode.cls ≠ "java/lang/invoke/MethodHandle" ∧ yX0_encode.cls ≠ "java/lang/invoke/VarHandle" ∧ (parseMethodDescriptor yX0_encode.desc).map (fun d => d.parameters.length) = some 0 := by decide +kernel
theorem cq_X0_X0_encoded : GoodIn lw_all (wsV RX0 152 RX0 yX0_encoded (ws_ yX0_encoded cX0_encoded 2 (some .int))) := lw_V q206 q208 qs17 q33 q209
theorem cy_X0_encoded : yX0_encoded.cls = RX0 ∧ yX0_encoded.cls ≠ "java/lang/invoke/MethodHandle" ∧ yX0_encoded.cls ≠ "java/lang/invoke/VarHandle" ∧ (parseMethodDescriptor yX0_encoded.desc).map (fun d => d.parameters.length) = some 1 := by decide +kernel
theorem cq_X0_X0_execute : GoodIn lw_all (wsV RX0 84 RX0 yX0_execute (ws_ yX0_execute cX0_execute 3 none)) := lw_V q212 q214 qs18 q33 q215
theorem cy_X0_execute : yX0_execute.cls = RX0 ∧ yX0_execute.cls ≠ "java/lang/invoke/MethodHandle" ∧ yX0_execute.cls ≠ "java/lang/invoke/VarHandle" ∧ (parseMethodDescriptor yX0_execute.desc).map (fun d => d.parameters.length) = some 0 := by decide +kernel
theorem cq_X0_X0_findUrgency : GoodIn lw_all (wsV RX0 123 RX0 yX0_findUrgency (ws_ yX0_findUrgency cX0_findUrgency 5 none)) := lw_V q162 q164 qs6 q33 q165
theorem cy_X0_findUrgency : yX0_findUrgency.cls = RX0 ∧ yX0_findUrgency.cls ≠ "java/lang/invoke/MethodHandle" ∧ yX0_findUrgency.cls ≠ "java/lang/invoke/VarHandle" ∧ (parseMethodDescriptor yX0_findUrgency.desc).map (fun d => d.parameters.length) = some 0 := by decide +kernel
theorem cq_X0_X0_fly : GoodIn lw_all (wsV RX0 169 RX0 yX0_fly (ws_ yX0_fly cX0_fly 4 none)) := lw_V q224 q226 qs21 q33 q227
theorem cy_X0_fly : yX0_fly.cls = RX0 ∧ yX0_fly.cls ≠ "java/lang/invoke/MethodHandle" ∧ yX0_fly.cls ≠ "java/lang/invoke/VarHandle" ∧ (parseMethodDescriptor yX0_fly.desc).map (fun d => d.parameters.length) = some 3 := by decide +kernel
theorem cq_X0_X0_hangsOn : GoodIn lw_all (wsV RX0 94 RX0 yX0_hangsOn (ws_ yX0_hangsOn cX0_hangsOn 5 (some .int))) := lw_V q256 q258 qs24 q33 q259
theorem cy_X0_hangsOn : yX0_hangsOn.cls = RX0 ∧ yX0_hangsOn.cls ≠ "java/lang/invoke/MethodHandle" ∧ yX0_hangsOn.cls ≠ "java/lang/invoke/VarHandle" ∧ (parseMethodDescriptor yX0_hangsOn.desc).map (fun d => d.parameters.length) = some 1 := by decide +kernel
theorem cq_X0_X0_isFree : GoodIn lw_all (wsV RX0 145 RX0 yX0_isFree (ws_ yX0_isFree cX0_isFree 3 (some .boolean))) := lw_V q190 q192 qs13 q33 q193
theorem cy_X0_isFree : yX0_isFree.cls = RX0 ∧ yX0_isFree.cls ≠ "java/lang/invoke/MethodHandle" ∧ yX0_isFree.cls ≠ "java/lang/invoke/VarHandle" ∧ (parseMethodDescriptor yX0_isFree.desc).map (fun d => d.parameters.length) = some 1 := by decide +kernel
theorem cq_X0_X0_isRegister : GoodIn lw_all (wsV RX0 73 RX0 yX0_isRegister (ws_ yX0_isRegister cX0_isRegister 2 (some .boolean))) := lw_V q126 q128 qs0 q33 q129
theorem cy_X0_isRegister : yX0_isRegister.cls = RX0 ∧ yX0_isRegister.cls ≠ "java/lang/invoke/MethodHandle" ∧ yX0_isRegister.cls ≠ "java/lang/invoke/VarHandle" ∧ (parseMethodDescriptor yX0_isRegister.desc).map (fun d => d.parameters.length) = some 1 := by decide +kernel
theorem cq_X0_X0_issue : GoodIn lw_all (wsV RX0 165 RX0 yX0_issue (ws_ yX0_issue cX0_issue 9 none)) := lw_V q220 q222 qs20 q33 q223
theorem cy_X0_issue : yX0_issue.cls = RX0 ∧ yX0_issue.cls ≠ "java/lang/invoke/MethodHandle" ∧ yX0_issue.cls ≠ "java/lang/invoke/VarHandle" ∧ (parseMethodDescriptor yX0_issue.desc).map (fun d => d.parameters.length) = some 1 := by decide +kernel
theorem cq_X0_X0_landResults : GoodIn lw_all (wsV RX0 162 RX0 yX0_landResults (ws_ yX0_landResults cX0_landResults 3 none)) := lw_V q216 q218 qs19 q33 q219
theorem cy_X0_landResults : yX0_landResults.cls = RX0 ∧ yX0_landResults.cls ≠ "java/lang/invoke/MethodHandle" ∧ yX0_landResults.cls ≠ "java/lang/invoke/VarHandle" ∧ (parseMethodDescriptor yX0_landResults.desc).map (fun d => d.parameters.length) = some 0 := by decide +kernel
theorem cq_X0_X0_localCopy : GoodIn lw_all (wsV RX0 110 RX0 yX0_localCopy (ws_ yX0_localCopy cX0_localCopy 4 (some .int))) := lw_V q154 q156 qs4 q33 q157
theorem cy_X0_localCopy : yX0_localCopy.cls = RX0 ∧ yX0_localCopy.cls ≠ "java/lang/invoke/MethodHandle" ∧ yX0_localCopy.cls ≠ "java/lang/invoke/VarHandle" ∧ (parseMethodDescriptor yX0_localCopy.desc).map (fun d => d.parameters.length) = some 2 := by decide +kernel
theorem cq_X0_X0_lower : GoodIn lw_all (wsV RX0 120 RX0 yX0_lower (ws_ yX0_lower cX0_lower 6 none)) := lw_V q146 q148 qs2 q33 q149
theorem cy_X0_lower : yX0_lower.cls = RX0 ∧ yX0_lower.cls ≠ "java/lang/invoke/MethodHandle" ∧ yX0_lower.cls ≠ "java/lang/invoke/VarHandle" ∧ (parseMethodDescriptor yX0_lower.desc).map (fun d => d.parameters.length) = some 0 := by decide +kernel
theorem cq_X0_X0_mostUrgent : GoodIn lw_all (wsV RX0 135 RX0 yX0_mostUrgent (ws_ yX0_mostUrgent cX0_mostUrgent 3 (some .int))) := lw_V q186 q188 qs12 q33 q189
theorem cy_X0_mostUrgent : yX0_mostUrgent.cls = RX0 ∧ yX0_mostUrgent.cls ≠ "java/lang/invoke/MethodHandle" ∧ yX0_mostUrgent.cls ≠ "java/lang/invoke/VarHandle" ∧ (parseMethodDescriptor yX0_mostUrgent.desc).map (fun d => d.parameters.length) = some 0 := by decide +kernel
theorem cq_X0_X0_pack : GoodIn lw_all (wsV RX0 81 RX0 yX0_pack (ws_ yX0_pack cX0_pack 1 none)) := lw_V q142 q144 qs1 q33 q145
theorem cy_X0_pack : yX0_pack.cls = RX0 ∧ yX0_pack.cls ≠ "java/lang/invoke/MethodHandle" ∧ yX0_pack.cls ≠ "java/lang/invoke/VarHandle" ∧ (parseMethodDescriptor yX0_pack.desc).map (fun d => d.parameters.length) = some 0 := by decide +kernel
theorem cq_X0_X0_readBySource : GoodIn lw_all (wsV RX0 87 RX0 yX0_readBySource (ws_ yX0_readBySource cX0_readBySource 3 (some .int))) := lw_V q260 q262 qs25 q33 q263
theorem cy_X0_readBySource : yX0_readBySource.cls = RX0 ∧ yX0_readBySource.cls ≠ "java/lang/invoke/MethodHandle" ∧ yX0_readBySource.cls ≠ "java/lang/invoke/VarHandle" ∧ (parseMethodDescriptor yX0_readBySource.desc).map (fun d => d.parameters.length) = some 1 := by decide +kernel
theorem cq_X0_X0_readSet : GoodIn lw_all (wsV RX0 114 RX0 yX0_readSet (ws_ yX0_readSet cX0_readSet 3 (some .int))) := lw_V q174 q176 qs9 q33 q177
theorem cy_X0_readSet : yX0_readSet.cls = RX0 ∧ yX0_readSet.cls ≠ "java/lang/invoke/MethodHandle" ∧ yX0_readSet.cls ≠ "java/lang/invoke/VarHandle" ∧ (parseMethodDescriptor yX0_readSet.desc).map (fun d => d.parameters.length) = some 1 := by decide +kernel
theorem cq_X0_X0_schedule : GoodIn lw_all (wsV RX0 126 RX0 yX0_schedule (ws_ yX0_schedule cX0_schedule 5 none)) := lw_V q182 q184 qs11 q33 q185
theorem cy_X0_schedule : yX0_schedule.cls = RX0 ∧ yX0_schedule.cls ≠ "java/lang/invoke/MethodHandle" ∧ yX0_schedule.cls ≠ "java/lang/invoke/VarHandle" ∧ (parseMethodDescriptor yX0_schedule.desc).map (fun d => d.parameters.length) = some 0 := by decide +kernel
theorem cq_X0_X0_separation : GoodIn lw_all (wsV RX0 132 RX0 yX0_separation (ws_ yX0_separation cX0_separation 7 (some .int))) := lw_V q170 q172 qs8 q33 q173
theorem cy_X0_separation : yX0_separation.cls = RX0 ∧ yX0_separation.cls ≠ "java/lang/invoke/MethodHandle" ∧ yX0_separation.cls ≠ "java/lang/invoke/VarHandle" ∧ (parseMethodDescriptor yX0_separation.desc).map (fun d => d.parameters.length) = some 2 := by decide +kernel
theorem cq_X0_X0_timeOf : GoodIn lw_all (wsV RX0 97 RX0 yX0_timeOf (ws_ yX0_timeOf cX0_timeOf 2 (some .int))) := lw_V q166 q168 qs7 q33 q169
theorem cy_X0_timeOf : yX0_timeOf.cls = RX0 ∧ yX0_timeOf.cls ≠ "java/lang/invoke/MethodHandle" ∧ yX0_timeOf.cls ≠ "java/lang/invoke/VarHandle" ∧ (parseMethodDescriptor yX0_timeOf.desc).map (fun d => d.parameters.length) = some 1 := by decide +kernel
theorem cq_X0_X0_touchesMemory : GoodIn lw_all (wsV RX0 117 RX0 yX0_touchesMemory (ws_ yX0_touchesMemory cX0_touchesMemory 2 (some .boolean))) := lw_V q178 q180 qs10 q33 q181
theorem cy_X0_touchesMemory : yX0_touchesMemory.cls = RX0 ∧ yX0_touchesMemory.cls ≠ "java/lang/invoke/MethodHandle" ∧ yX0_touchesMemory.cls ≠ "java/lang/invoke/VarHandle" ∧ (parseMethodDescriptor yX0_touchesMemory.desc).map (fun d => d.parameters.length) = some 1 := by decide +kernel
theorem cq_X0_X0_unitOf : GoodIn lw_all (wsV RX0 142 RX0 yX0_unitOf (ws_ yX0_unitOf cX0_unitOf 3 (some .int))) := lw_V q198 q200 qs15 q33 q201
theorem cy_X0_unitOf : yX0_unitOf.cls = RX0 ∧ yX0_unitOf.cls ≠ "java/lang/invoke/MethodHandle" ∧ yX0_unitOf.cls ≠ "java/lang/invoke/VarHandle" ∧ (parseMethodDescriptor yX0_unitOf.desc).map (fun d => d.parameters.length) = some 1 := by decide +kernel
theorem cq_X0_X0_weigh : GoodIn lw_all (wsV RX0 91 RX0 yX0_weigh (ws_ yX0_weigh cX0_weigh 5 none)) := lw_V q252 q254 qs23 q33 q255
theorem cy_X0_weigh : yX0_weigh.cls = RX0 ∧ yX0_weigh.cls ≠ "java/lang/invoke/MethodHandle" ∧ yX0_weigh.cls ≠ "java/lang/invoke/VarHandle" ∧ (parseMethodDescriptor yX0_weigh.desc).map (fun d => d.parameters.length) = some 0 := by decide +kernel
theorem cq_X1_X1_execute : GoodIn lw_all (wsV RX1 39 RX1 yX1_execute (ws_ yX1_execute cX1_execute 5 none)) := lw_V q323 q325 qs27 q34 q326
theorem cy_X1_execute : yX1_execute.cls = RX1 ∧ yX1_execute.cls ≠ "java/lang/invoke/MethodHandle" ∧ yX1_execute.cls ≠ "java/lang/invoke/VarHandle" ∧ (parseMethodDescriptor yX1_execute.desc).map (fun d => d.parameters.length) = some 1 := by decide +kernel
theorem cq_X1_X1_hangs : GoodIn lw_all (wsV RX1 50 RX1 yX1_hangs (ws_ yX1_hangs cX1_hangs 5 (some .boolean))) := lw_V q351 q353 qs29 q34 q354
theorem cy_X1_hangs : yX1_hangs.cls = RX1 ∧ yX1_hangs.cls ≠ "java/lang/invoke/MethodHandle" ∧ yX1_hangs.cls ≠ "java/lang/invoke/VarHandle" ∧ (parseMethodDescriptor yX1_hangs.desc).map (fun d => d.parameters.length) = some 2 := by decide +kernel
theorem cq_X1_X1_isRegister : GoodIn lw_all (wsV RX1 35 RX1 yX1_isRegister (ws_ yX1_isRegister cX1_isRegister 2 (some .boolean))) := lw_V q307 q309 qs26 q34 q310
theorem cy_X1_isRegister : yX1_isRegister.cls = RX1 ∧ yX1_isRegister.cls ≠ "java/lang/invoke/MethodHandle" ∧ yX1_isRegister.cls ≠ "java/lang/invoke/VarHandle" ∧ (parseMethodDescriptor yX1_isRegister.desc).map (fun d => d.parameters.length) = some 1 := by decide +kernel
theorem cq_X1_X1_reads : GoodIn lw_all (wsV RX1 47 RX1 yX1_reads (ws_ yX1_reads cX1_reads 3 (some .boolean))) := lw_V q359 q361 qs31 q34 q362
theorem cy_X1_reads : yX1_reads.cls = RX1 ∧ yX1_reads.cls ≠ "java/lang/invoke/MethodHandle" ∧ yX1_reads.cls ≠ "java/lang/invoke/VarHandle" ∧ (parseMethodDescriptor yX1_reads.desc).map (fun d => d.parameters.length) = some 2 := by decide +kernel
theorem cq_X1_X1_weighAll : GoodIn lw_all (wsV RX1 53 RX1 yX1_weighAll (ws_ yX1_weighAll cX1_weighAll 4 none)) := lw_V q347 q349 qs28 q34 q350
theorem cy_X1_weighAll : yX1_weighAll.cls = RX1 ∧ yX1_weighAll.cls ≠ "java/lang/invoke/MethodHandle" ∧ yX1_weighAll.cls ≠ "java/lang/invoke/VarHandle" ∧ (parseMethodDescriptor yX1_weighAll.desc).map (fun d => d.parameters.length) = some 0 := by decide +kernel
theorem cq_X1_X1_writes : GoodIn lw_all (wsV RX1 43 RX1 yX1_writes (ws_ yX1_writes cX1_writes 3 (some .boolean))) := lw_V q355 q357 qs30 q34 q358
theorem cy_X1_writes : yX1_writes.cls = RX1 ∧ yX1_writes.cls ≠ "java/lang/invoke/MethodHandle" ∧ yX1_writes.cls ≠ "java/lang/invoke/VarHandle" ∧ (parseMethodDescriptor yX1_writes.desc).map (fun d => d.parameters.length) = some 2 := by decide +kernel
end
section
/-! LEAVES of BundleMachine: isRegister, timeOf, clusterOf, touchesMemory, readSet; and separation -/
/-- a register's number is one of 0 to 7 -/
def iR (x : Int32) : Bool := decide (¬ x < 0) && decide (¬ 7 < x)
def tm (v : Nat) : Nat := if v = 2 then 3 else if v = 7 then 2 else 1
def cluF (r : Nat) : Nat := r / 4 % 2
/-- the machine operations 0 .. K-1 in the arrays -/
def xOps (S : St) (K : Nat) (o t lf rt : Nat → Nat) : Prop := K ≤ 96 ∧ ∀ j, j < K → S 7 j = nI (o j) ∧ S 8 j = nI (t j) ∧ S 9 j = nI (lf j) ∧ S 10 j = nI (rt j) ∧ o j ≤ 9 ∧ t j ≤ 15 ∧ lf j ≤ 15 ∧ rt j ≤ 15
def memF (o : Nat → Nat) (k : Nat) : Bool := decide (o k = 7) || decide (o k = 8)
def rdF (o t lf rt : Nat → Nat) (k : Nat) : Nat := if o k = 5 ∨ o k = 8 then (2 ^ lf k ||| 2 ^ rt k) ||| 2 ^ t k else 2 ^ lf k ||| 2 ^ rt k

set_option maxHeartbeats 4000000 in
set_option maxRecDepth 100000 in
theorem met_X0_isRegister (l : Launch) (S : St) (x : Int32) : gM wX l yX0_isRegister cX0_isRegister 2 (some .boolean) ({ frames := 0, cells := 0, slots := 0, locals := 0 }) [.int (x)] S (fun r S1 => r = bI (iR x) ∧ S = S1) := by
  refine g_start (own := RX0) (by decide) rfl (fun b => Nat.le_of_ble_eq_true rfl) ?_
  intro p e s m below meth c D Q T A ls C w hl
  have hl : lv_has ls 2 [(0, .ref (Q 0)), (1, .int (x))] := hl
  refine lv_iload_n C.1 C.2.1 dX0_isRegister_0 rfl (lv_at hl 1 rfl) ?_
  refine r_if_lt (tgt := 14) C dX0_isRegister_1 (by decide) (fun c_1 => ?_) (fun c_1 => ?_)
  · skip
    refine n_const (v := bI false) C dX0_isRegister_14 (by decide) ?_
    exact g_zret (v := bI false) C w (nz_b _) ⟨by simp_all [iR], rfl⟩ dX0_isRegister_15
  · skip
    refine lv_iload_n C.1 C.2.1 dX0_isRegister_4 rfl (lv_at hl 1 rfl) ?_
    refine n_bipush (v := 7) C dX0_isRegister_5 (by decide) ?_
    refine r_icmp_gt (tgt := 14) C dX0_isRegister_7 (by decide) (fun c_7 => ?_) (fun c_7 => ?_)
    · skip
      refine n_const (v := bI false) C dX0_isRegister_14 (by decide) ?_
      exact g_zret (v := bI false) C w (nz_b _) ⟨by simp_all [iR], rfl⟩ dX0_isRegister_15
    · skip
      refine n_const (v := bI true) C dX0_isRegister_10 (by decide) ?_
      refine lv_goto (tgt := 15) C.1 C.2.1 dX0_isRegister_11 (by decide) ?_
      exact g_zret (v := bI true) C w (nz_b _) ⟨by simp [iR, c_1, c_7], rfl⟩ dX0_isRegister_15
set_option maxHeartbeats 4000000 in
set_option maxRecDepth 100000 in
theorem met_X0_timeOf (l : Launch) (S : St) (v : Nat) (hv : v < 2 ^ 31) : gM wX l yX0_timeOf cX0_timeOf 2 (some .int) ({ frames := 0, cells := 0, slots := 0, locals := 0 }) [.int (nI v)] S (fun r S1 => r = nI (tm v) ∧ S = S1) := by
  refine g_start (own := RX0) (by decide) rfl (fun b => Nat.le_of_ble_eq_true rfl) ?_
  intro p e s m below meth c D Q T A ls C w hl
  have hl : lv_has ls 2 [(0, .ref (Q 0)), (1, .int (nI v))] := hl
  refine lv_iload_n C.1 C.2.1 dX0_timeOf_0 rfl (lv_at hl 1 rfl) ?_
  refine n_const (v := nI 2) C dX0_timeOf_1 (by decide) ?_
  refine n_icmp_ne (tgt := 9) C (by omega) (by decide) dX0_timeOf_2 (by decide) (fun c_2 => ?_) (fun c_2 => ?_)
  · skip
    refine lv_iload_n C.1 C.2.1 dX0_timeOf_9 rfl (lv_at hl 1 rfl) ?_
    refine n_bipush (v := nI 7) C dX0_timeOf_10 (by decide) ?_
    refine n_icmp_ne (tgt := 19) C (by omega) (by decide) dX0_timeOf_12 (by decide) (fun c_12 => ?_) (fun c_12 => ?_)
    · skip
      refine n_const (v := nI 1) C dX0_timeOf_19 (by decide) ?_
      exact g_iret (v := nI 1) C w ⟨by simp_all [tm], rfl⟩ dX0_timeOf_20
    · skip
      refine n_const (v := nI 2) C dX0_timeOf_15 (by decide) ?_
      refine lv_goto (tgt := 20) C.1 C.2.1 dX0_timeOf_16 (by decide) ?_
      exact g_iret (v := nI 2) C w ⟨by simp_all [tm], rfl⟩ dX0_timeOf_20
  · skip
    refine n_const (v := nI 3) C dX0_timeOf_5 (by decide) ?_
    refine lv_goto (tgt := 20) C.1 C.2.1 dX0_timeOf_6 (by decide) ?_
    exact g_iret (v := nI 3) C w ⟨by simp_all [tm], rfl⟩ dX0_timeOf_20
set_option maxHeartbeats 4000000 in
set_option maxRecDepth 100000 in
theorem met_X0_clusterOf (l : Launch) (S : St) (v : Nat) (hv : v < 2 ^ 31) : gM wX l yX0_clusterOf cX0_clusterOf 2 (some .int) ({ frames := 0, cells := 0, slots := 0, locals := 0 }) [.int (nI v)] S (fun r S1 => r = nI (cluF v) ∧ S = S1) := by
  refine g_start (own := RX0) (by decide) rfl (fun b => Nat.le_of_ble_eq_true rfl) ?_
  intro p e s m below meth c D Q T A ls C w hl
  have hl : lv_has ls 2 [(0, .ref (Q 0)), (1, .int (nI v))] := hl
  refine lv_iload_n C.1 C.2.1 dX0_clusterOf_0 rfl (lv_at hl 1 rfl) ?_
  refine n_const (v := nI 2) C dX0_clusterOf_1 (by decide) ?_
  refine n_ishr (v := nI (v / 2 ^ 2)) C dX0_clusterOf_2 (nx_shr (by omega) (by decide)) ?_
  refine n_const (v := nI 1) C dX0_clusterOf_3 (by decide) ?_
  refine n_iand (v := nI (cluF v)) C dX0_clusterOf_4 (pk_andN (by omega) 1 (by decide)) ?_
  exact g_iret (v := nI (cluF v)) C w ⟨rfl, rfl⟩ dX0_clusterOf_5
set_option maxHeartbeats 4000000 in
set_option maxRecDepth 100000 in
theorem met_X0_touchesMemory (l : Launch) (S : St) (K : Nat) (o t lf rt : Nat → Nat) (k : Nat) (hO : xOps S K o t lf rt) (hk : k < K) : gM wX l yX0_touchesMemory cX0_touchesMemory 2 (some .boolean) ({ frames := 0, cells := 0, slots := 0, locals := 0 }) [.int (nI k)] S (fun r S1 => r = bI (memF o k) ∧ S = S1) := by
  refine g_start (own := RX0) (by decide) rfl (fun b => Nat.le_of_ble_eq_true rfl) ?_
  intro p e s m below meth c D Q T A ls C w hl
  have hl : lv_has ls 2 [(0, .ref (Q 0)), (1, .int (nI k))] := hl
  have hK := hO.1
  obtain ⟨-, -, -, -, ho, ht, hlf, hrt⟩ := hO.2 k hk
  refine lv_aload_n C.1 C.2.1 dX0_touchesMemory_0 rfl (lv_at hl 0 rfl) ?_
  refine xg_7 C w dX0_touchesMemory_1 ?_
  refine lv_iload_n C.1 C.2.1 dX0_touchesMemory_4 rfl (lv_at hl 1 rfl) ?_
  refine xl_7 (v := nI (o k)) C w (by omega) (hO.2 k (by omega)).1 dX0_touchesMemory_5 ?_
  refine n_bipush (v := nI 7) C dX0_touchesMemory_6 (by decide) ?_
  refine n_icmp_eq (tgt := 22) C (by omega) (by decide) dX0_touchesMemory_8 (by decide) (fun c_8 => ?_) (fun c_8 => ?_)
  · skip
    refine n_const (v := bI true) C dX0_touchesMemory_22 (by decide) ?_
    refine lv_goto (tgt := 27) C.1 C.2.1 dX0_touchesMemory_23 (by decide) ?_
    exact g_zret (v := bI true) C w (nz_b _) ⟨by simp_all [memF], rfl⟩ dX0_touchesMemory_27
  · skip
    refine lv_aload_n C.1 C.2.1 dX0_touchesMemory_11 rfl (lv_at hl 0 rfl) ?_
    refine xg_7 C w dX0_touchesMemory_12 ?_
    refine lv_iload_n C.1 C.2.1 dX0_touchesMemory_15 rfl (lv_at hl 1 rfl) ?_
    refine xl_7 (v := nI (o k)) C w (by omega) (hO.2 k (by omega)).1 dX0_touchesMemory_16 ?_
    refine n_bipush (v := nI 8) C dX0_touchesMemory_17 (by decide) ?_
    refine n_icmp_ne (tgt := 26) C (by omega) (by decide) dX0_touchesMemory_19 (by decide) (fun c_19 => ?_) (fun c_19 => ?_)
    · skip
      refine n_const (v := bI false) C dX0_touchesMemory_26 (by decide) ?_
      exact g_zret (v := bI false) C w (nz_b _) ⟨by simp_all [memF], rfl⟩ dX0_touchesMemory_27
    · skip
      refine n_const (v := bI true) C dX0_touchesMemory_22 (by decide) ?_
      refine lv_goto (tgt := 27) C.1 C.2.1 dX0_touchesMemory_23 (by decide) ?_
      exact g_zret (v := bI true) C w (nz_b _) ⟨by simp_all [memF], rfl⟩ dX0_touchesMemory_27
set_option maxHeartbeats 4000000 in
set_option maxRecDepth 100000 in
theorem met_X0_readSet (l : Launch) (S : St) (K : Nat) (o t lf rt : Nat → Nat) (k : Nat) (hO : xOps S K o t lf rt) (hk : k < K) : gM wX l yX0_readSet cX0_readSet 3 (some .int) ({ frames := 0, cells := 0, slots := 0, locals := 0 }) [.int (nI k)] S (fun r S1 => r = nI (rdF o t lf rt k) ∧ S = S1) := by
  refine g_start (own := RX0) (by decide) rfl (fun b => Nat.le_of_ble_eq_true rfl) ?_
  intro p e s m below meth c D Q T A ls C w hl
  have hl : lv_has ls 3 [(0, .ref (Q 0)), (1, .int (nI k))] := hl
  have hK := hO.1
  obtain ⟨-, -, -, -, ho, ht, hlf, hrt⟩ := hO.2 k hk
  refine n_const (v := nI 1) C dX0_readSet_0 (by decide) ?_
  refine lv_aload_n C.1 C.2.1 dX0_readSet_1 rfl (lv_at hl 0 rfl) ?_
  refine xg_9 C w dX0_readSet_2 ?_
  refine lv_iload_n C.1 C.2.1 dX0_readSet_5 rfl (lv_at hl 1 rfl) ?_
  refine xl_9 (v := nI (lf k)) C w (by omega) (hO.2 k (by omega)).2.2.1 dX0_readSet_6 ?_
  refine n_ishl (v := nI (2 ^ (lf k))) C dX0_readSet_7 (nx_sh1 (by omega)) ?_
  refine n_const (v := nI 1) C dX0_readSet_8 (by decide) ?_
  refine lv_aload_n C.1 C.2.1 dX0_readSet_9 rfl (lv_at hl 0 rfl) ?_
  refine xg_10 C w dX0_readSet_10 ?_
  refine lv_iload_n C.1 C.2.1 dX0_readSet_13 rfl (lv_at hl 1 rfl) ?_
  refine xl_10 (v := nI (rt k)) C w (by omega) (hO.2 k (by omega)).2.2.2.1 dX0_readSet_14 ?_
  refine n_ishl (v := nI (2 ^ (rt k))) C dX0_readSet_15 (nx_sh1 (by omega)) ?_
  refine n_ior (v := nI ((2 ^ (lf k)) ||| (2 ^ (rt k)))) C dX0_readSet_16 (nx_or _ _) ?_
  refine lv_istore_n (lv' := [(2, .int (nI ((2 ^ (lf k)) ||| (2 ^ (rt k))))), (0, .ref (Q 0)), (1, .int (nI k))]) C.1 C.2.1 dX0_readSet_17 rfl hl (by decide) rfl (fun ls hl => ?_)
  refine lv_aload_n C.1 C.2.1 dX0_readSet_18 rfl (lv_at hl 1 rfl) ?_
  refine xg_7 C w dX0_readSet_19 ?_
  refine lv_iload_n C.1 C.2.1 dX0_readSet_22 rfl (lv_at hl 2 rfl) ?_
  refine xl_7 (v := nI (o k)) C w (by omega) (hO.2 k (by omega)).1 dX0_readSet_23 ?_
  refine n_const (v := nI 5) C dX0_readSet_24 (by decide) ?_
  refine n_icmp_eq (tgt := 39) C (by omega) (by decide) dX0_readSet_25 (by decide) (fun c_25 => ?_) (fun c_25 => ?_)
  · skip
    refine lv_iload_n C.1 C.2.1 dX0_readSet_39 rfl (lv_at hl 0 rfl) ?_
    refine n_const (v := nI 1) C dX0_readSet_40 (by decide) ?_
    refine lv_aload_n C.1 C.2.1 dX0_readSet_41 rfl (lv_at hl 1 rfl) ?_
    refine xg_8 C w dX0_readSet_42 ?_
    refine lv_iload_n C.1 C.2.1 dX0_readSet_45 rfl (lv_at hl 2 rfl) ?_
    refine xl_8 (v := nI (t k)) C w (by omega) (hO.2 k (by omega)).2.1 dX0_readSet_46 ?_
    refine n_ishl (v := nI (2 ^ (t k))) C dX0_readSet_47 (nx_sh1 (by omega)) ?_
    refine n_ior (v := nI (((2 ^ (lf k)) ||| (2 ^ (rt k))) ||| (2 ^ (t k)))) C dX0_readSet_48 (nx_or _ _) ?_
    refine lv_goto (tgt := 53) C.1 C.2.1 dX0_readSet_49 (by decide) ?_
    exact g_iret (v := nI (((2 ^ (lf k)) ||| (2 ^ (rt k))) ||| (2 ^ (t k)))) C w ⟨by simp_all [rdF], rfl⟩ dX0_readSet_53
  · skip
    refine lv_aload_n C.1 C.2.1 dX0_readSet_28 rfl (lv_at hl 1 rfl) ?_
    refine xg_7 C w dX0_readSet_29 ?_
    refine lv_iload_n C.1 C.2.1 dX0_readSet_32 rfl (lv_at hl 2 rfl) ?_
    refine xl_7 (v := nI (o k)) C w (by omega) (hO.2 k (by omega)).1 dX0_readSet_33 ?_
    refine n_bipush (v := nI 8) C dX0_readSet_34 (by decide) ?_
    refine n_icmp_ne (tgt := 52) C (by omega) (by decide) dX0_readSet_36 (by decide) (fun c_36 => ?_) (fun c_36 => ?_)
    · skip
      refine lv_iload_n C.1 C.2.1 dX0_readSet_52 rfl (lv_at hl 0 rfl) ?_
      exact g_iret (v := nI ((2 ^ (lf k)) ||| (2 ^ (rt k)))) C w ⟨by simp_all [rdF], rfl⟩ dX0_readSet_53
    · skip
      refine lv_iload_n C.1 C.2.1 dX0_readSet_39 rfl (lv_at hl 0 rfl) ?_
      refine n_const (v := nI 1) C dX0_readSet_40 (by decide) ?_
      refine lv_aload_n C.1 C.2.1 dX0_readSet_41 rfl (lv_at hl 1 rfl) ?_
      refine xg_8 C w dX0_readSet_42 ?_
      refine lv_iload_n C.1 C.2.1 dX0_readSet_45 rfl (lv_at hl 2 rfl) ?_
      refine xl_8 (v := nI (t k)) C w (by omega) (hO.2 k (by omega)).2.1 dX0_readSet_46 ?_
      refine n_ishl (v := nI (2 ^ (t k))) C dX0_readSet_47 (nx_sh1 (by omega)) ?_
      refine n_ior (v := nI (((2 ^ (lf k)) ||| (2 ^ (rt k))) ||| (2 ^ (t k)))) C dX0_readSet_48 (nx_or _ _) ?_
      refine lv_goto (tgt := 53) C.1 C.2.1 dX0_readSet_49 (by decide) ?_
      exact g_iret (v := nI (((2 ^ (lf k)) ||| (2 ^ (rt k))) ||| (2 ^ (t k)))) C w ⟨by simp_all [rdF], rfl⟩ dX0_readSet_53
end
section
/-! separation: how far apart two operations must be; none: nothing to do with each other -/
def omx (x : Option Nat) (a : Nat) : Option Nat := match x with
  | none => some a
  | some n => some (max n a)
section SEP
variable (o t lf rt : Nat → Nat) (i j : Nat)
def sep0 : Option Nat := if o i ≠ 8 ∧ (rdF o t lf rt j).testBit (t i) = true then some (tm (o i)) else none
def sep1 : Option Nat := if o j ≠ 8 ∧ (rdF o t lf rt i).testBit (t j) = true then omx (sep0 o t lf rt i j) 0 else sep0 o t lf rt i j
def sep2 : Option Nat := if o i ≠ 8 ∧ o j ≠ 8 ∧ t i = t j then omx (sep1 o t lf rt i j) (tm (o i) + 1 - tm (o j)) else sep1 o t lf rt i j
def sepF : Option Nat := if memF o i = true ∧ memF o j = true ∧ (o i = 8 ∨ o j = 8) then omx (sep2 o t lf rt i j) (if o i = 8 then 1 else 0) else sep2 o t lf rt i j
end SEP
theorem tm_le (v : Nat) : tm v ≤ 3 := by unfold tm; split <;> (try split) <;> omega
theorem tm_pos (v : Nat) : 1 ≤ tm v := by unfold tm; split <;> (try split) <;> omega
theorem omx_le {x : Option Nat} {a b n : Nat} (hx : ∀ n, x = some n → n ≤ b) (ha : a ≤ b) (h : omx x a = some n) : n ≤ b := by
  cases x with
  | none => simp only [omx, Option.some.injEq] at h; omega
  | some q => have := hx q rfl; simp only [omx, Option.some.injEq] at h; omega
theorem omx_big {x : Option Nat} {a n : Nat} (hx : x = some n) (h : a ≤ n) : omx x a = x := by
  subst hx
  simp only [omx, Option.some.injEq]
  omega
theorem omx_new {x : Option Nat} {a : Nat} (h : ∀ n, x = some n → n < a) : omx x a = some a := by
  cases x with
  | none => rfl
  | some q => have := h q rfl; simp only [omx, Option.some.injEq]; omega
theorem omx_none {x : Option Nat} {a : Nat} (h : x = none) : omx x a = some a := by subst h; rfl
theorem rdF_lt {o t lf rt : Nat → Nat} {k : Nat} (h1 : t k ≤ 15) (h2 : lf k ≤ 15) (h3 : rt k ≤ 15) : rdF o t lf rt k < 65536 := by
  have a1 : 2 ^ t k < 2 ^ 16 := Nat.pow_lt_pow_right (by decide) (by omega)
  have a2 : 2 ^ lf k < 2 ^ 16 := Nat.pow_lt_pow_right (by decide) (by omega)
  have a3 : 2 ^ rt k < 2 ^ 16 := Nat.pow_lt_pow_right (by decide) (by omega)
  have a4 := Nat.or_lt_two_pow a2 a3
  have a5 := Nat.or_lt_two_pow a4 a1
  unfold rdF
  split <;> omega
theorem nx_tb {a b : Nat} (h : a < 2 ^ 31) : nI (a / 2 ^ b) &&& nI 1 = bI (a.testBit b) := by
  have h2 : a / 2 ^ b ≤ a := Nat.div_le_self _ _
  rw [pk_andN (by omega) 1 (by decide), Nat.testBit_eq_decide_div_mod_eq]
  rcases Nat.mod_two_eq_zero_or_one (a / 2 ^ b) with e | e
  · rw [show (2:Nat) ^ 1 = 2 from rfl, e]; rfl
  · rw [show (2:Nat) ^ 1 = 2 from rfl, e]; rfl
theorem apA : ∀ a, a ≤ 3 → ∀ b, b ≤ 3 → 0 ≤ nI a - nI b + nI 1 → nI a - nI b + nI 1 = nI (a + 1 - b) := by decide +kernel
theorem apB : ∀ a, a ≤ 3 → ∀ b, b ≤ 3 → ¬ 0 ≤ nI a - nI b + nI 1 → a + 1 - b = 0 := by decide +kernel
set_option maxHeartbeats 4000000 in
set_option maxRecDepth 100000 in
theorem met_X0_separation (l : Launch) (S : St) (K : Nat) (o t lf rt : Nat → Nat) (i j : Nat) (hO : xOps S K o t lf rt) (hi : i < K) (hj : j < K) : gM wX l yX0_separation cX0_separation 7 (some .int) ({ frames := 1, cells := 0, slots := 0, locals := 22 }) [.int (nI i), .int (nI j)] S (fun r S1 => r = oI (sepF o t lf rt i j) ∧ S = S1) := by
  refine g_start (own := RX0) (by decide) rfl (fun b => Nat.le_of_ble_eq_true rfl) ?_
  intro p e s m below meth c D Q T A ls C w hl
  have hl : lv_has ls 7 [(0, .ref (Q 0)), (1, .int (nI i)), (2, .int (nI j))] := hl
  have hK := hO.1
  obtain ⟨-, -, -, -, hoi, hti, hlfi, hrti⟩ := hO.2 i hi
  obtain ⟨-, -, -, -, hoj, htj, hlfj, hrtj⟩ := hO.2 j hj
  have hri := rdF_lt (o := o) (k := i) hti hlfi hrti
  have hrj := rdF_lt (o := o) (k := j) htj hlfj hrtj
  have htmi := tm_le (o i)
  have htmj := tm_le (o j)
  refine g_join (pcL := 231) (I := fun st ls H locs => ∃ (nd : Option Nat), (nd = sepF o t lf rt i j) ∧ (st = []) ∧ (gW wX D Q T A s S H locs) ∧ (lv_has ls 7 [(0, .ref (Q 0)), (1, .int (nI i)), (2, .int (nI j)), (3, .int (oI nd))])) (fun st_231 ls H locs hI => ?_) (fun J_231 => ?_)
  · obtain ⟨nd, hnd, rfl, w, hl⟩ := hI
    refine lv_iload_n C.1 C.2.1 dX0_separation_231 rfl (lv_at hl 3 rfl) ?_
    exact g_iret (v := oI nd) C w ⟨by rw [hnd], rfl⟩ dX0_separation_232
  · skip
    refine g_join (pcL := 166) (I := fun st ls H locs => ∃ (n2 : Option Nat), (n2 = sep2 o t lf rt i j) ∧ (∀ n, n2 = some n → n ≤ 3) ∧ (st = []) ∧ (gW wX D Q T A s S H locs) ∧ (lv_has ls 7 [(0, .ref (Q 0)), (1, .int (nI i)), (2, .int (nI j)), (3, .int (oI n2))])) (fun st_166 ls H locs hI => ?_) (fun J_166 => ?_)
    · obtain ⟨n2, hn2, hb2, rfl, w, hl⟩ := hI
      refine lv_aload_n C.1 C.2.1 dX0_separation_166 rfl (lv_at hl 0 rfl) ?_
      refine lv_iload_n C.1 C.2.1 dX0_separation_167 rfl (lv_at hl 1 rfl) ?_
      refine g_calli C w (met_X0_touchesMemory l _ K o t lf rt i hO (by omega)) rfl rfl cq_X0_X0_touchesMemory cy_X0_touchesMemory rfl rfl ⟨Nat.le_of_ble_eq_true rfl, Nat.le_of_ble_eq_true rfl⟩ ⟨Nat.zero_le _, Nat.zero_le _⟩ hl.1 rfl (Nat.le_of_ble_eq_true rfl) dX0_separation_168 (fun r_1 S1 H locs hp w => ?_)
      obtain ⟨rfl, rfl⟩ := hp
      refine b_if_eq (tgt := 231) C dX0_separation_171 (by decide) (fun c_171 => ?_) (fun c_171 => ?_)
      · skip
        have hg : n2 = sepF o t lf rt i j := by rw [sepF, if_neg (fun h => by rw [c_171] at h; cases h.1)]; exact hn2
        exact J_231 _ _ _ _ ⟨n2, hg, rfl, w, lv_sub hl [0, 1, 2, 3] rfl⟩
      · skip
        refine lv_aload_n C.1 C.2.1 dX0_separation_174 rfl (lv_at hl 0 rfl) ?_
        refine lv_iload_n C.1 C.2.1 dX0_separation_175 rfl (lv_at hl 2 rfl) ?_
        refine g_calli C w (met_X0_touchesMemory l _ K o t lf rt j hO (by omega)) rfl rfl cq_X0_X0_touchesMemory cy_X0_touchesMemory rfl rfl ⟨Nat.le_of_ble_eq_true rfl, Nat.le_of_ble_eq_true rfl⟩ ⟨Nat.zero_le _, Nat.zero_le _⟩ hl.1 rfl (Nat.le_of_ble_eq_true rfl) dX0_separation_176 (fun r_2 S2 H locs hp w => ?_)
        obtain ⟨rfl, rfl⟩ := hp
        refine b_if_eq (tgt := 231) C dX0_separation_179 (by decide) (fun c_179 => ?_) (fun c_179 => ?_)
        · skip
          have hg : n2 = sepF o t lf rt i j := by rw [sepF, if_neg (fun h => by rw [c_179] at h; cases h.2.1)]; exact hn2
          exact J_231 _ _ _ _ ⟨n2, hg, rfl, w, lv_sub hl [0, 1, 2, 3] rfl⟩
        · skip
          refine lv_aload_n C.1 C.2.1 dX0_separation_182 rfl (lv_at hl 0 rfl) ?_
          refine xg_7 C w dX0_separation_183 ?_
          refine lv_iload_n C.1 C.2.1 dX0_separation_186 rfl (lv_at hl 1 rfl) ?_
          refine xl_7 (v := nI (o i)) C w (by omega) (hO.2 i (by omega)).1 dX0_separation_187 ?_
          refine n_bipush (v := nI 8) C dX0_separation_188 (by decide) ?_
          refine n_icmp_eq (tgt := 204) C (by omega) (by decide) dX0_separation_190 (by decide) (fun c_190 => ?_) (fun c_190 => ?_)
          · skip
            refine lv_aload_n C.1 C.2.1 dX0_separation_204 rfl (lv_at hl 0 rfl) ?_
            refine xg_7 C w dX0_separation_205 ?_
            refine lv_iload_n C.1 C.2.1 dX0_separation_208 rfl (lv_at hl 1 rfl) ?_
            refine xl_7 (v := nI (o i)) C w (by omega) (hO.2 i (by omega)).1 dX0_separation_209 ?_
            refine n_bipush (v := nI 8) C dX0_separation_210 (by decide) ?_
            refine n_icmp_ne (tgt := 219) C (by omega) (by decide) dX0_separation_212 (by decide) (fun c_212 => ?_) (fun c_212 => ?_)
            · skip
              refine n_const (v := nI 0) C dX0_separation_219 (by decide) ?_
              refine lv_istore (lv' := [(6, .int (nI 0)), (0, .ref (Q 0)), (1, .int (nI i)), (2, .int (nI j)), (3, .int (oI n2))]) C.1 C.2.1 dX0_separation_220 hl (by decide) rfl (fun ls hl => ?_)
              refine lv_iload C.1 C.2.1 dX0_separation_222 (lv_at hl 0 rfl) ?_
              refine lv_iload_n C.1 C.2.1 dX0_separation_224 rfl (lv_at hl 4 rfl) ?_
              refine no_icmp_le (tgt := 231) C (by decide) (fun n hn => (by have := hb2 n hn; omega)) dX0_separation_225 (by decide) (fun c_225 => ?_) (fun c_225 => ?_)
              · skip
                have hg : n2 = sepF o t lf rt i j := by
                  obtain ⟨n, e1, e2⟩ := c_225
                  rw [sepF, if_pos ⟨c_171, c_179, Or.inl c_190⟩, if_neg c_212, ← hn2]
                  exact (omx_big e1 e2).symm
                exact J_231 _ _ _ _ ⟨n2, hg, rfl, w, lv_sub hl [1, 2, 3, 4] rfl⟩
              · skip
                refine lv_iload C.1 C.2.1 dX0_separation_228 (lv_at hl 0 rfl) ?_
                refine lv_istore_n (lv' := [(3, .int (nI 0)), (6, .int (nI 0)), (0, .ref (Q 0)), (1, .int (nI i)), (2, .int (nI j))]) C.1 C.2.1 dX0_separation_230 rfl hl (by decide) rfl (fun ls hl => ?_)
                have hg : (some 0) = sepF o t lf rt i j := by
                  rw [sepF, if_pos ⟨c_171, c_179, Or.inl c_190⟩, if_neg c_212, ← hn2]
                  exact (omx_new c_225).symm
                exact J_231 _ _ _ _ ⟨(some 0), hg, rfl, w, lv_sub hl [2, 3, 4, 0] rfl⟩
            · skip
              refine n_const (v := nI 1) C dX0_separation_215 (by decide) ?_
              refine lv_goto (tgt := 220) C.1 C.2.1 dX0_separation_216 (by decide) ?_
              refine lv_istore (lv' := [(6, .int (nI 1)), (0, .ref (Q 0)), (1, .int (nI i)), (2, .int (nI j)), (3, .int (oI n2))]) C.1 C.2.1 dX0_separation_220 hl (by decide) rfl (fun ls hl => ?_)
              refine lv_iload C.1 C.2.1 dX0_separation_222 (lv_at hl 0 rfl) ?_
              refine lv_iload_n C.1 C.2.1 dX0_separation_224 rfl (lv_at hl 4 rfl) ?_
              refine no_icmp_le (tgt := 231) C (by decide) (fun n hn => (by have := hb2 n hn; omega)) dX0_separation_225 (by decide) (fun c_225 => ?_) (fun c_225 => ?_)
              · skip
                have hg : n2 = sepF o t lf rt i j := by
                  obtain ⟨n, e1, e2⟩ := c_225
                  rw [sepF, if_pos ⟨c_171, c_179, Or.inl c_190⟩, if_pos c_212, ← hn2]
                  exact (omx_big e1 e2).symm
                exact J_231 _ _ _ _ ⟨n2, hg, rfl, w, lv_sub hl [1, 2, 3, 4] rfl⟩
              · skip
                refine lv_iload C.1 C.2.1 dX0_separation_228 (lv_at hl 0 rfl) ?_
                refine lv_istore_n (lv' := [(3, .int (nI 1)), (6, .int (nI 1)), (0, .ref (Q 0)), (1, .int (nI i)), (2, .int (nI j))]) C.1 C.2.1 dX0_separation_230 rfl hl (by decide) rfl (fun ls hl => ?_)
                have hg : (some 1) = sepF o t lf rt i j := by
                  rw [sepF, if_pos ⟨c_171, c_179, Or.inl c_190⟩, if_pos c_212, ← hn2]
                  exact (omx_new c_225).symm
                exact J_231 _ _ _ _ ⟨(some 1), hg, rfl, w, lv_sub hl [2, 3, 4, 0] rfl⟩
          · skip
            refine lv_aload_n C.1 C.2.1 dX0_separation_193 rfl (lv_at hl 0 rfl) ?_
            refine xg_7 C w dX0_separation_194 ?_
            refine lv_iload_n C.1 C.2.1 dX0_separation_197 rfl (lv_at hl 2 rfl) ?_
            refine xl_7 (v := nI (o j)) C w (by omega) (hO.2 j (by omega)).1 dX0_separation_198 ?_
            refine n_bipush (v := nI 8) C dX0_separation_199 (by decide) ?_
            refine n_icmp_ne (tgt := 231) C (by omega) (by decide) dX0_separation_201 (by decide) (fun c_201 => ?_) (fun c_201 => ?_)
            · skip
              have hg : n2 = sepF o t lf rt i j := by rw [sepF, if_neg (fun h => h.2.2.elim c_190 c_201)]; exact hn2
              exact J_231 _ _ _ _ ⟨n2, hg, rfl, w, lv_sub hl [0, 1, 2, 3] rfl⟩
            · skip
              refine lv_aload_n C.1 C.2.1 dX0_separation_204 rfl (lv_at hl 0 rfl) ?_
              refine xg_7 C w dX0_separation_205 ?_
              refine lv_iload_n C.1 C.2.1 dX0_separation_208 rfl (lv_at hl 1 rfl) ?_
              refine xl_7 (v := nI (o i)) C w (by omega) (hO.2 i (by omega)).1 dX0_separation_209 ?_
              refine n_bipush (v := nI 8) C dX0_separation_210 (by decide) ?_
              refine n_icmp_ne (tgt := 219) C (by omega) (by decide) dX0_separation_212 (by decide) (fun c_212 => ?_) (fun c_212 => ?_)
              · skip
                refine n_const (v := nI 0) C dX0_separation_219 (by decide) ?_
                refine lv_istore (lv' := [(6, .int (nI 0)), (0, .ref (Q 0)), (1, .int (nI i)), (2, .int (nI j)), (3, .int (oI n2))]) C.1 C.2.1 dX0_separation_220 hl (by decide) rfl (fun ls hl => ?_)
                refine lv_iload C.1 C.2.1 dX0_separation_222 (lv_at hl 0 rfl) ?_
                refine lv_iload_n C.1 C.2.1 dX0_separation_224 rfl (lv_at hl 4 rfl) ?_
                refine no_icmp_le (tgt := 231) C (by decide) (fun n hn => (by have := hb2 n hn; omega)) dX0_separation_225 (by decide) (fun c_225 => ?_) (fun c_225 => ?_)
                · skip
                  have hg : n2 = sepF o t lf rt i j := by
                    obtain ⟨n, e1, e2⟩ := c_225
                    rw [sepF, if_pos ⟨c_171, c_179, Or.inr c_201⟩, if_neg c_212, ← hn2]
                    exact (omx_big e1 e2).symm
                  exact J_231 _ _ _ _ ⟨n2, hg, rfl, w, lv_sub hl [1, 2, 3, 4] rfl⟩
                · skip
                  refine lv_iload C.1 C.2.1 dX0_separation_228 (lv_at hl 0 rfl) ?_
                  refine lv_istore_n (lv' := [(3, .int (nI 0)), (6, .int (nI 0)), (0, .ref (Q 0)), (1, .int (nI i)), (2, .int (nI j))]) C.1 C.2.1 dX0_separation_230 rfl hl (by decide) rfl (fun ls hl => ?_)
                  have hg : (some 0) = sepF o t lf rt i j := by
                    rw [sepF, if_pos ⟨c_171, c_179, Or.inr c_201⟩, if_neg c_212, ← hn2]
                    exact (omx_new c_225).symm
                  exact J_231 _ _ _ _ ⟨(some 0), hg, rfl, w, lv_sub hl [2, 3, 4, 0] rfl⟩
              · skip
                refine n_const (v := nI 1) C dX0_separation_215 (by decide) ?_
                refine lv_goto (tgt := 220) C.1 C.2.1 dX0_separation_216 (by decide) ?_
                refine lv_istore (lv' := [(6, .int (nI 1)), (0, .ref (Q 0)), (1, .int (nI i)), (2, .int (nI j)), (3, .int (oI n2))]) C.1 C.2.1 dX0_separation_220 hl (by decide) rfl (fun ls hl => ?_)
                refine lv_iload C.1 C.2.1 dX0_separation_222 (lv_at hl 0 rfl) ?_
                refine lv_iload_n C.1 C.2.1 dX0_separation_224 rfl (lv_at hl 4 rfl) ?_
                refine no_icmp_le (tgt := 231) C (by decide) (fun n hn => (by have := hb2 n hn; omega)) dX0_separation_225 (by decide) (fun c_225 => ?_) (fun c_225 => ?_)
                · skip
                  have hg : n2 = sepF o t lf rt i j := by
                    obtain ⟨n, e1, e2⟩ := c_225
                    rw [sepF, if_pos ⟨c_171, c_179, Or.inr c_201⟩, if_pos c_212, ← hn2]
                    exact (omx_big e1 e2).symm
                  exact J_231 _ _ _ _ ⟨n2, hg, rfl, w, lv_sub hl [1, 2, 3, 4] rfl⟩
                · skip
                  refine lv_iload C.1 C.2.1 dX0_separation_228 (lv_at hl 0 rfl) ?_
                  refine lv_istore_n (lv' := [(3, .int (nI 1)), (6, .int (nI 1)), (0, .ref (Q 0)), (1, .int (nI i)), (2, .int (nI j))]) C.1 C.2.1 dX0_separation_230 rfl hl (by decide) rfl (fun ls hl => ?_)
                  have hg : (some 1) = sepF o t lf rt i j := by
                    rw [sepF, if_pos ⟨c_171, c_179, Or.inr c_201⟩, if_pos c_212, ← hn2]
                    exact (omx_new c_225).symm
                  exact J_231 _ _ _ _ ⟨(some 1), hg, rfl, w, lv_sub hl [2, 3, 4, 0] rfl⟩
    · skip
      refine g_join (pcL := 99) (I := fun st ls H locs => ∃ (n1 : Option Nat) (wr : Bool) (ov : Bool), (wr = decide (o i ≠ 8)) ∧ (ov = decide (o j ≠ 8)) ∧ (n1 = sep1 o t lf rt i j) ∧ (∀ n, n1 = some n → n ≤ 3) ∧ (st = []) ∧ (gW wX D Q T A s S H locs) ∧ (lv_has ls 7 [(0, .ref (Q 0)), (1, .int (nI i)), (2, .int (nI j)), (3, .int (oI n1)), (4, .int (bI wr)), (5, .int (bI ov))])) (fun st_99 ls H locs hI => ?_) (fun J_99 => ?_)
      · obtain ⟨n1, wr, ov, hwr, hov, hn1, hb1, rfl, w, hl⟩ := hI
        refine lv_iload C.1 C.2.1 dX0_separation_99 (lv_at hl 4 rfl) ?_
        refine b_if_eq (tgt := 166) C dX0_separation_101 (by decide) (fun c_101 => ?_) (fun c_101 => ?_)
        · skip
          have hg : n1 = sep2 o t lf rt i j := by rw [sep2, if_neg (fun h => by rw [c_101] at hwr; simp [h.1] at hwr)]; exact hn1
          have hgb : ∀ n, n1 = some n → n ≤ 3 := hb1
          exact J_166 _ _ _ _ ⟨n1, hg, hgb, rfl, w, lv_sub hl [0, 1, 2, 3] rfl⟩
        · skip
          refine lv_iload C.1 C.2.1 dX0_separation_104 (lv_at hl 5 rfl) ?_
          refine b_if_eq (tgt := 166) C dX0_separation_106 (by decide) (fun c_106 => ?_) (fun c_106 => ?_)
          · skip
            have hg : n1 = sep2 o t lf rt i j := by rw [sep2, if_neg (fun h => by rw [c_106] at hov; simp [h.2.1] at hov)]; exact hn1
            have hgb : ∀ n, n1 = some n → n ≤ 3 := hb1
            exact J_166 _ _ _ _ ⟨n1, hg, hgb, rfl, w, lv_sub hl [0, 1, 2, 3] rfl⟩
          · skip
            refine lv_aload_n C.1 C.2.1 dX0_separation_109 rfl (lv_at hl 0 rfl) ?_
            refine xg_8 C w dX0_separation_110 ?_
            refine lv_iload_n C.1 C.2.1 dX0_separation_113 rfl (lv_at hl 1 rfl) ?_
            refine xl_8 (v := nI (t i)) C w (by omega) (hO.2 i (by omega)).2.1 dX0_separation_114 ?_
            refine lv_aload_n C.1 C.2.1 dX0_separation_115 rfl (lv_at hl 0 rfl) ?_
            refine xg_8 C w dX0_separation_116 ?_
            refine lv_iload_n C.1 C.2.1 dX0_separation_119 rfl (lv_at hl 2 rfl) ?_
            refine xl_8 (v := nI (t j)) C w (by omega) (hO.2 j (by omega)).2.1 dX0_separation_120 ?_
            refine n_icmp_ne (tgt := 166) C (by omega) (by omega) dX0_separation_121 (by decide) (fun c_121 => ?_) (fun c_121 => ?_)
            · skip
              have hg : n1 = sep2 o t lf rt i j := by rw [sep2, if_neg (fun h => c_121 h.2.2)]; exact hn1
              have hgb : ∀ n, n1 = some n → n ≤ 3 := hb1
              exact J_166 _ _ _ _ ⟨n1, hg, hgb, rfl, w, lv_sub hl [0, 1, 2, 3] rfl⟩
            · skip
              refine g_join (pcL := 157) (I := fun st ls H locs => ∃ (ap : Nat), (tm (o i) + 1 - tm (o j) = ap) ∧ (st = []) ∧ (gW wX D Q T A s S H locs) ∧ (lv_has ls 7 [(0, .ref (Q 0)), (1, .int (nI i)), (2, .int (nI j)), (3, .int (oI n1)), (6, .int (nI ap))])) (fun st_157 ls H locs hI => ?_) (fun J_157 => ?_)
              · obtain ⟨ap, hap, rfl, w, hl⟩ := hI
                refine lv_iload C.1 C.2.1 dX0_separation_157 (lv_at hl 4 rfl) ?_
                refine lv_iload_n C.1 C.2.1 dX0_separation_159 rfl (lv_at hl 3 rfl) ?_
                refine no_icmp_le (tgt := 166) C (by omega) (fun n hn => (by have := hb1 n hn; omega)) dX0_separation_160 (by decide) (fun c_160 => ?_) (fun c_160 => ?_)
                · skip
                  have hg : n1 = sep2 o t lf rt i j := by
                    obtain ⟨n, e1, e2⟩ := c_160
                    rw [sep2, if_pos ⟨by rw [c_101] at hwr; simpa using hwr.symm, by rw [c_106] at hov; simpa using hov.symm, c_121⟩, ← hn1]
                    exact (omx_big e1 (hap ▸ e2)).symm
                  have hgb : ∀ n, n1 = some n → n ≤ 3 := hb1
                  exact J_166 _ _ _ _ ⟨n1, hg, hgb, rfl, w, lv_sub hl [0, 1, 2, 3] rfl⟩
                · skip
                  refine lv_iload C.1 C.2.1 dX0_separation_163 (lv_at hl 4 rfl) ?_
                  refine lv_istore_n (lv' := [(3, .int (nI ap)), (0, .ref (Q 0)), (1, .int (nI i)), (2, .int (nI j)), (6, .int (nI ap))]) C.1 C.2.1 dX0_separation_165 rfl hl (by decide) rfl (fun ls hl => ?_)
                  have hg : some ap = sep2 o t lf rt i j := by
                    rw [sep2, if_pos ⟨by rw [c_101] at hwr; simpa using hwr.symm, by rw [c_106] at hov; simpa using hov.symm, c_121⟩, ← hn1]
                    rw [hap]
                    exact (omx_new c_160).symm
                  have hgb : ∀ n, some ap = some n → n ≤ 3 := fun n h => by have := tm_pos (o j); cases h; omega
                  exact J_166 _ _ _ _ ⟨(some ap), hg, hgb, rfl, w, lv_sub hl [1, 2, 3, 0] rfl⟩
              · skip
                refine lv_aload_n C.1 C.2.1 dX0_separation_124 rfl (lv_at hl 0 rfl) ?_
                refine lv_aload_n C.1 C.2.1 dX0_separation_125 rfl (lv_at hl 0 rfl) ?_
                refine xg_7 C w dX0_separation_126 ?_
                refine lv_iload_n C.1 C.2.1 dX0_separation_129 rfl (lv_at hl 1 rfl) ?_
                refine xl_7 (v := nI (o i)) C w (by omega) (hO.2 i (by omega)).1 dX0_separation_130 ?_
                refine g_calli C w (met_X0_timeOf l _ (o i) (by omega)) rfl rfl cq_X0_X0_timeOf cy_X0_timeOf rfl rfl ⟨Nat.le_of_ble_eq_true rfl, Nat.le_of_ble_eq_true rfl⟩ ⟨Nat.zero_le _, Nat.zero_le _⟩ hl.1 rfl (Nat.le_of_ble_eq_true rfl) dX0_separation_131 (fun r_3 S3 H locs hp w => ?_)
                obtain ⟨rfl, rfl⟩ := hp
                refine lv_aload_n C.1 C.2.1 dX0_separation_134 rfl (lv_at hl 0 rfl) ?_
                refine lv_aload_n C.1 C.2.1 dX0_separation_135 rfl (lv_at hl 0 rfl) ?_
                refine xg_7 C w dX0_separation_136 ?_
                refine lv_iload_n C.1 C.2.1 dX0_separation_139 rfl (lv_at hl 2 rfl) ?_
                refine xl_7 (v := nI (o j)) C w (by omega) (hO.2 j (by omega)).1 dX0_separation_140 ?_
                refine g_calli C w (met_X0_timeOf l _ (o j) (by omega)) rfl rfl cq_X0_X0_timeOf cy_X0_timeOf rfl rfl ⟨Nat.le_of_ble_eq_true rfl, Nat.le_of_ble_eq_true rfl⟩ ⟨Nat.zero_le _, Nat.zero_le _⟩ hl.1 rfl (Nat.le_of_ble_eq_true rfl) dX0_separation_141 (fun r_4 S4 H locs hp w => ?_)
                obtain ⟨rfl, rfl⟩ := hp
                refine n_isub (v := nI (tm (o i)) - nI (tm (o j))) C dX0_separation_144 rfl ?_
                refine n_const (v := nI 1) C dX0_separation_145 (by decide) ?_
                refine n_iadd (v := nI (tm (o i)) - nI (tm (o j)) + nI 1) C dX0_separation_146 rfl ?_
                refine lv_istore (lv' := [(6, .int (nI (tm (o i)) - nI (tm (o j)) + nI 1)), (0, .ref (Q 0)), (1, .int (nI i)), (2, .int (nI j)), (3, .int (oI n1)), (4, .int (bI wr)), (5, .int (bI ov))]) C.1 C.2.1 dX0_separation_147 hl (by decide) rfl (fun ls hl => ?_)
                refine lv_iload C.1 C.2.1 dX0_separation_149 (lv_at hl 0 rfl) ?_
                refine r_if_ge (tgt := 157) C dX0_separation_151 (by decide) (fun c_151 => ?_) (fun c_151 => ?_)
                · skip
                  rw [apA _ (tm_le _) _ (tm_le _) c_151] at hl
                  exact J_157 _ _ _ _ ⟨tm (o i) + 1 - tm (o j), rfl, rfl, w, lv_sub hl [1, 2, 3, 4, 0] rfl⟩
                · skip
                  refine n_const (v := nI 0) C dX0_separation_154 (by decide) ?_
                  refine lv_istore (lv' := [(6, .int (nI 0)), (0, .ref (Q 0)), (1, .int (nI i)), (2, .int (nI j)), (3, .int (oI n1)), (4, .int (bI wr)), (5, .int (bI ov))]) C.1 C.2.1 dX0_separation_155 hl (by decide) rfl (fun ls hl => ?_)
                  exact J_157 _ _ _ _ ⟨0, (apB _ htmi _ htmj c_151), rfl, w, lv_sub hl [1, 2, 3, 4, 0] rfl⟩
      · skip
        refine g_join (pcL := 71) (I := fun st ls H locs => ∃ (n0 : Option Nat) (wr : Bool) (ov : Bool), (wr = decide (o i ≠ 8)) ∧ (ov = decide (o j ≠ 8)) ∧ (n0 = sep0 o t lf rt i j) ∧ (∀ n, n0 = some n → n ≤ 3) ∧ (st = []) ∧ (gW wX D Q T A s S H locs) ∧ (lv_has ls 7 [(0, .ref (Q 0)), (1, .int (nI i)), (2, .int (nI j)), (3, .int (oI n0)), (4, .int (bI wr)), (5, .int (bI ov))])) (fun st_71 ls H locs hI => ?_) (fun J_71 => ?_)
        · obtain ⟨n0, wr, ov, hwr, hov, hn0, hb0, rfl, w, hl⟩ := hI
          refine lv_iload C.1 C.2.1 dX0_separation_71 (lv_at hl 5 rfl) ?_
          refine b_if_eq (tgt := 99) C dX0_separation_73 (by decide) (fun c_73 => ?_) (fun c_73 => ?_)
          · skip
            have hg : n0 = sep1 o t lf rt i j := by rw [sep1, if_neg (fun h => by rw [c_73] at hov; simp [h.1] at hov)]; exact hn0
            have hgb : ∀ n, n0 = some n → n ≤ 3 := hb0
            exact J_99 _ _ _ _ ⟨n0, wr, ov, hwr, hov, hg, hgb, rfl, w, lv_sub hl [0, 1, 2, 3, 4, 5] rfl⟩
          · skip
            refine lv_aload_n C.1 C.2.1 dX0_separation_76 rfl (lv_at hl 0 rfl) ?_
            refine lv_iload_n C.1 C.2.1 dX0_separation_77 rfl (lv_at hl 1 rfl) ?_
            refine g_calli C w (met_X0_readSet l _ K o t lf rt i hO (by omega)) rfl rfl cq_X0_X0_readSet cy_X0_readSet rfl rfl ⟨Nat.le_of_ble_eq_true rfl, Nat.le_of_ble_eq_true rfl⟩ ⟨Nat.zero_le _, Nat.zero_le _⟩ hl.1 rfl (Nat.le_of_ble_eq_true rfl) dX0_separation_78 (fun r_5 S5 H locs hp w => ?_)
            obtain ⟨rfl, rfl⟩ := hp
            refine lv_aload_n C.1 C.2.1 dX0_separation_81 rfl (lv_at hl 0 rfl) ?_
            refine xg_8 C w dX0_separation_82 ?_
            refine lv_iload_n C.1 C.2.1 dX0_separation_85 rfl (lv_at hl 2 rfl) ?_
            refine xl_8 (v := nI (t j)) C w (by omega) (hO.2 j (by omega)).2.1 dX0_separation_86 ?_
            refine n_ishr (v := nI ((rdF o t lf rt i) / 2 ^ (t j))) C dX0_separation_87 (nx_shr (by omega) (by omega)) ?_
            refine n_const (v := nI 1) C dX0_separation_88 (by decide) ?_
            refine n_iand (v := bI ((rdF o t lf rt i).testBit (t j))) C dX0_separation_89 (nx_tb (by omega)) ?_
            refine b_if_eq (tgt := 99) C dX0_separation_90 (by decide) (fun c_90 => ?_) (fun c_90 => ?_)
            · skip
              have hg : n0 = sep1 o t lf rt i j := by rw [sep1, if_neg (fun h => by rw [c_90] at h; cases h.2)]; exact hn0
              have hgb : ∀ n, n0 = some n → n ≤ 3 := hb0
              exact J_99 _ _ _ _ ⟨n0, wr, ov, hwr, hov, hg, hgb, rfl, w, lv_sub hl [0, 1, 2, 3, 4, 5] rfl⟩
            · skip
              refine lv_iload_n C.1 C.2.1 dX0_separation_93 rfl (lv_at hl 3 rfl) ?_
              refine o_if_ge (tgt := 99) C (fun n hn => (by have := hb0 n hn; omega)) dX0_separation_94 (by decide) (fun v_94 c_94 => ?_) (fun c_94 => ?_)
              · skip
                have hg : n0 = sep1 o t lf rt i j := by
                  rw [sep1, if_pos ⟨by rw [c_73] at hov; simpa using hov.symm, c_90⟩, ← hn0]
                  exact (omx_big c_94 (Nat.zero_le _)).symm
                have hgb : ∀ n, n0 = some n → n ≤ 3 := hb0
                exact J_99 _ _ _ _ ⟨n0, wr, ov, hwr, hov, hg, hgb, rfl, w, lv_sub hl [0, 1, 2, 3, 4, 5] rfl⟩
              · skip
                refine n_const (v := nI 0) C dX0_separation_97 (by decide) ?_
                refine lv_istore_n (lv' := [(3, .int (nI 0)), (0, .ref (Q 0)), (1, .int (nI i)), (2, .int (nI j)), (4, .int (bI wr)), (5, .int (bI ov))]) C.1 C.2.1 dX0_separation_98 rfl hl (by decide) rfl (fun ls hl => ?_)
                have hg : some 0 = sep1 o t lf rt i j := by
                  rw [sep1, if_pos ⟨by rw [c_73] at hov; simpa using hov.symm, c_90⟩, ← hn0]
                  exact (omx_none c_94).symm
                have hgb : ∀ n, some 0 = some n → n ≤ 3 := fun n h => by cases h; decide
                exact J_99 _ _ _ _ ⟨(some 0), wr, ov, hwr, hov, hg, hgb, rfl, w, lv_sub hl [1, 2, 3, 0, 4, 5] rfl⟩
        · skip
          refine g_join (pcL := 53) (I := fun st ls H locs => ∃ (n0 : Option Nat) (wr : Bool), (wr = decide (o i ≠ 8)) ∧ (n0 = sep0 o t lf rt i j) ∧ (∀ n, n0 = some n → n ≤ 3) ∧ (st = []) ∧ (gW wX D Q T A s S H locs) ∧ (lv_has ls 7 [(0, .ref (Q 0)), (1, .int (nI i)), (2, .int (nI j)), (3, .int (oI n0)), (4, .int (bI wr))])) (fun st_53 ls H locs hI => ?_) (fun J_53 => ?_)
          · obtain ⟨n0, wr, hwr, hn0, hb0, rfl, w, hl⟩ := hI
            refine lv_aload_n C.1 C.2.1 dX0_separation_53 rfl (lv_at hl 0 rfl) ?_
            refine xg_7 C w dX0_separation_54 ?_
            refine lv_iload_n C.1 C.2.1 dX0_separation_57 rfl (lv_at hl 2 rfl) ?_
            refine xl_7 (v := nI (o j)) C w (by omega) (hO.2 j (by omega)).1 dX0_separation_58 ?_
            refine n_bipush (v := nI 8) C dX0_separation_59 (by decide) ?_
            refine n_icmp_eq (tgt := 68) C (by omega) (by decide) dX0_separation_61 (by decide) (fun c_61 => ?_) (fun c_61 => ?_)
            · skip
              refine n_const (v := bI false) C dX0_separation_68 (by decide) ?_
              refine lv_istore (lv' := [(5, .int (bI false)), (0, .ref (Q 0)), (1, .int (nI i)), (2, .int (nI j)), (3, .int (oI n0)), (4, .int (bI wr))]) C.1 C.2.1 dX0_separation_69 hl (by decide) rfl (fun ls hl => ?_)
              exact J_71 _ _ _ _ ⟨n0, wr, false, hwr, (by simp [c_61]), hn0, hb0, rfl, w, lv_sub hl [1, 2, 3, 4, 5, 0] rfl⟩
            · skip
              refine n_const (v := bI true) C dX0_separation_64 (by decide) ?_
              refine lv_goto (tgt := 69) C.1 C.2.1 dX0_separation_65 (by decide) ?_
              refine lv_istore (lv' := [(5, .int (bI true)), (0, .ref (Q 0)), (1, .int (nI i)), (2, .int (nI j)), (3, .int (oI n0)), (4, .int (bI wr))]) C.1 C.2.1 dX0_separation_69 hl (by decide) rfl (fun ls hl => ?_)
              exact J_71 _ _ _ _ ⟨n0, wr, true, hwr, (by simp [c_61]), hn0, hb0, rfl, w, lv_sub hl [1, 2, 3, 4, 5, 0] rfl⟩
          · skip
            refine g_join (pcL := 20) (I := fun st ls H locs => ∃ (wr : Bool), (wr = decide (o i ≠ 8)) ∧ (st = []) ∧ (gW wX D Q T A s S H locs) ∧ (lv_has ls 7 [(0, .ref (Q 0)), (1, .int (nI i)), (2, .int (nI j)), (3, .int ((-1))), (4, .int (bI wr))])) (fun st_20 ls H locs hI => ?_) (fun J_20 => ?_)
            · obtain ⟨wr, hwr, rfl, w, hl⟩ := hI
              refine lv_iload C.1 C.2.1 dX0_separation_20 (lv_at hl 4 rfl) ?_
              refine b_if_eq (tgt := 53) C dX0_separation_22 (by decide) (fun c_22 => ?_) (fun c_22 => ?_)
              · skip
                have hg : none = sep0 o t lf rt i j := by rw [sep0, if_neg (fun h => by rw [c_22] at hwr; simp [h.1] at hwr)]
                have hgb : ∀ n, (none : Option Nat) = some n → n ≤ 3 := fun n h => by cases h
                exact J_53 _ _ _ _ ⟨none, wr, hwr, hg, hgb, rfl, w, lv_sub hl [0, 1, 2, 3, 4] rfl⟩
              · skip
                refine lv_aload_n C.1 C.2.1 dX0_separation_25 rfl (lv_at hl 0 rfl) ?_
                refine lv_iload_n C.1 C.2.1 dX0_separation_26 rfl (lv_at hl 2 rfl) ?_
                refine g_calli C w (met_X0_readSet l _ K o t lf rt j hO (by omega)) rfl rfl cq_X0_X0_readSet cy_X0_readSet rfl rfl ⟨Nat.le_of_ble_eq_true rfl, Nat.le_of_ble_eq_true rfl⟩ ⟨Nat.zero_le _, Nat.zero_le _⟩ hl.1 rfl (Nat.le_of_ble_eq_true rfl) dX0_separation_27 (fun r_6 S6 H locs hp w => ?_)
                obtain ⟨rfl, rfl⟩ := hp
                refine lv_aload_n C.1 C.2.1 dX0_separation_30 rfl (lv_at hl 0 rfl) ?_
                refine xg_8 C w dX0_separation_31 ?_
                refine lv_iload_n C.1 C.2.1 dX0_separation_34 rfl (lv_at hl 1 rfl) ?_
                refine xl_8 (v := nI (t i)) C w (by omega) (hO.2 i (by omega)).2.1 dX0_separation_35 ?_
                refine n_ishr (v := nI ((rdF o t lf rt j) / 2 ^ (t i))) C dX0_separation_36 (nx_shr (by omega) (by omega)) ?_
                refine n_const (v := nI 1) C dX0_separation_37 (by decide) ?_
                refine n_iand (v := bI ((rdF o t lf rt j).testBit (t i))) C dX0_separation_38 (nx_tb (by omega)) ?_
                refine b_if_eq (tgt := 53) C dX0_separation_39 (by decide) (fun c_39 => ?_) (fun c_39 => ?_)
                · skip
                  have hg : none = sep0 o t lf rt i j := by rw [sep0, if_neg (fun h => by rw [c_39] at h; cases h.2)]
                  have hgb : ∀ n, (none : Option Nat) = some n → n ≤ 3 := fun n h => by cases h
                  exact J_53 _ _ _ _ ⟨none, wr, hwr, hg, hgb, rfl, w, lv_sub hl [0, 1, 2, 3, 4] rfl⟩
                · skip
                  refine lv_aload_n C.1 C.2.1 dX0_separation_42 rfl (lv_at hl 0 rfl) ?_
                  refine lv_aload_n C.1 C.2.1 dX0_separation_43 rfl (lv_at hl 0 rfl) ?_
                  refine xg_7 C w dX0_separation_44 ?_
                  refine lv_iload_n C.1 C.2.1 dX0_separation_47 rfl (lv_at hl 1 rfl) ?_
                  refine xl_7 (v := nI (o i)) C w (by omega) (hO.2 i (by omega)).1 dX0_separation_48 ?_
                  refine g_calli C w (met_X0_timeOf l _ (o i) (by omega)) rfl rfl cq_X0_X0_timeOf cy_X0_timeOf rfl rfl ⟨Nat.le_of_ble_eq_true rfl, Nat.le_of_ble_eq_true rfl⟩ ⟨Nat.zero_le _, Nat.zero_le _⟩ hl.1 rfl (Nat.le_of_ble_eq_true rfl) dX0_separation_49 (fun r_7 S7 H locs hp w => ?_)
                  obtain ⟨rfl, rfl⟩ := hp
                  refine lv_istore_n (lv' := [(3, .int (nI (tm (o i)))), (0, .ref (Q 0)), (1, .int (nI i)), (2, .int (nI j)), (4, .int (bI wr))]) C.1 C.2.1 dX0_separation_52 rfl hl (by decide) rfl (fun ls hl => ?_)
                  have hg : some (tm (o i)) = sep0 o t lf rt i j := by rw [sep0, if_pos ⟨by rw [c_22] at hwr; simpa using hwr.symm, c_39⟩]
                  have hgb : ∀ n, some (tm (o i)) = some n → n ≤ 3 := fun n h => by cases h; exact htmi
                  exact J_53 _ _ _ _ ⟨(some (tm (o i))), wr, hwr, hg, hgb, rfl, w, lv_sub hl [1, 2, 3, 0, 4] rfl⟩
            · skip
              refine n_const (v := (-1)) C dX0_separation_0 (by decide) ?_
              refine lv_istore_n (lv' := [(3, .int ((-1))), (0, .ref (Q 0)), (1, .int (nI i)), (2, .int (nI j))]) C.1 C.2.1 dX0_separation_1 rfl hl (by decide) rfl (fun ls hl => ?_)
              refine lv_aload_n C.1 C.2.1 dX0_separation_2 rfl (lv_at hl 1 rfl) ?_
              refine xg_7 C w dX0_separation_3 ?_
              refine lv_iload_n C.1 C.2.1 dX0_separation_6 rfl (lv_at hl 2 rfl) ?_
              refine xl_7 (v := nI (o i)) C w (by omega) (hO.2 i (by omega)).1 dX0_separation_7 ?_
              refine n_bipush (v := nI 8) C dX0_separation_8 (by decide) ?_
              refine n_icmp_eq (tgt := 17) C (by omega) (by decide) dX0_separation_10 (by decide) (fun c_10 => ?_) (fun c_10 => ?_)
              · skip
                refine n_const (v := bI false) C dX0_separation_17 (by decide) ?_
                refine lv_istore (lv' := [(4, .int (bI false)), (3, .int ((-1))), (0, .ref (Q 0)), (1, .int (nI i)), (2, .int (nI j))]) C.1 C.2.1 dX0_separation_18 hl (by decide) rfl (fun ls hl => ?_)
                exact J_20 _ _ _ _ ⟨false, (by simp [c_10]), rfl, w, lv_sub hl [2, 3, 4, 1, 0] rfl⟩
              · skip
                refine n_const (v := bI true) C dX0_separation_13 (by decide) ?_
                refine lv_goto (tgt := 18) C.1 C.2.1 dX0_separation_14 (by decide) ?_
                refine lv_istore (lv' := [(4, .int (bI true)), (3, .int ((-1))), (0, .ref (Q 0)), (1, .int (nI i)), (2, .int (nI j))]) C.1 C.2.1 dX0_separation_18 hl (by decide) rfl (fun ls hl => ?_)
                exact J_20 _ _ _ _ ⟨true, (by simp [c_10]), rfl, w, lv_sub hl [2, 3, 4, 1, 0] rfl⟩
end
section
/-! the packer's questions: isFree, earliest, mostUrgent, unitOf, findUrgency -/
theorem sepF_le {o t lf rt : Nat → Nat} {i j n : Nat} (h : sepF o t lf rt i j = some n) : n ≤ 3 := by
  have h0 : ∀ n, sep0 o t lf rt i j = some n → n ≤ 3 := by
    intro n h
    unfold sep0 at h
    split at h
    · cases h; exact tm_le _
    · cases h
  have h1 : ∀ n, sep1 o t lf rt i j = some n → n ≤ 3 := by
    intro n h
    unfold sep1 at h
    split at h
    · exact omx_le h0 (by omega) h
    · exact h0 n h
  have h2 : ∀ n, sep2 o t lf rt i j = some n → n ≤ 3 := by
    intro n h
    unfold sep2 at h
    have := tm_le (o i)
    have := tm_pos (o j)
    split at h
    · exact omx_le h1 (by omega) h
    · exact h1 n h
  unfold sepF at h
  split at h
  · exact omx_le h2 (by split <;> omega) h
  · exact h2 n h
theorem up_up (S : St) (k : Nat) (g g' : Nat → Int32) : up (up S k g) k g' = up S k g' := by
  funext j
  unfold up
  split <;> rfl
theorem up_self (S : St) (k : Nat) : up S k (S k) = S := by
  funext j
  unfold up
  split
  · rename_i h; rw [h]
  · rfl
def xCyc (S : St) (K : Nat) (cy : Nat → Option Nat) : Prop := ∀ j, j < K → S 14 j = oI (cy j) ∧ ∀ n, cy j = some n → n ≤ 300
def frP (o t lf rt : Nat → Nat) (cy : Nat → Option Nat) (k : Nat) : Prop := ∀ i, i < k → cy i = none → sepF o t lf rt i k = none
def unF (o t : Nat → Nat) (k : Nat) : Nat := if o k = 9 then 6 else 3 * cluF (t k) + (if memF o k = true then 0 else if o k = 2 then 1 else 2)
theorem cluF_le (r : Nat) : cluF r ≤ 1 := by unfold cluF; omega
theorem unF_le (o t : Nat → Nat) (k : Nat) : unF o t k ≤ 6 := by
  have := cluF_le (t k)
  unfold unF
  split
  · omega
  · split
    · omega
    · split <;> omega
def dn (c : Nat) : Option Nat := match c with
  | 0 => none
  | c + 1 => some c
theorem dn_some {c v : Nat} (h : dn c = some v) : c = v + 1 := by
  cases c with
  | zero => cases h
  | succ c => simp only [dn, Option.some.injEq] at h; omega
theorem dn_none {c : Nat} (h : dn c = none) : c = 0 := by
  cases c with
  | zero => rfl
  | succ c => cases h
theorem dn_sub (c : Nat) : nI c - nI 1 = oI (dn c) := by
  cases c with
  | zero => rfl
  | succ c => exact nI_pred c
theorem dn_inc (c : Nat) : nI c + Int32.ofInt (-1) = oI (dn c) := by
  cases c with
  | zero => rfl
  | succ c => exact pk_m1 c
set_option maxHeartbeats 4000000 in
set_option maxRecDepth 100000 in
theorem met_X0_isFree (l : Launch) (S : St) (K : Nat) (o t lf rt : Nat → Nat) (cy : Nat → Option Nat) (k : Nat) (hO : xOps S K o t lf rt) (hC : xCyc S K cy) (hk : k < K) : gM wX l yX0_isFree cX0_isFree 3 (some .boolean) ({ frames := 2, cells := 0, slots := 0, locals := 48 }) [.int (nI k)] S (fun r S1 => ∃ b, r = bI b ∧ (b = true ↔ frP o t lf rt cy k) ∧ S = S1) := by
  refine g_start (own := RX0) (by decide) rfl (fun b => Nat.le_of_ble_eq_true rfl) ?_
  intro p e s m below meth c D Q T A ls C w hl
  have hl : lv_has ls 3 [(0, .ref (Q 0)), (1, .int (nI k))] := hl
  have hK := hO.1
  refine n_const (v := nI 0) C dX0_isFree_0 (by decide) ?_
  refine lv_istore_n (lv' := [(2, .int (nI 0)), (0, .ref (Q 0)), (1, .int (nI k))]) C.1 C.2.1 dX0_isFree_1 rfl hl (by decide) rfl (fun ls hl => ?_)
  refine g_loop (pcL := 2) (I := fun n st ls H locs => ∃ (i : Nat), (n = k - i) ∧ (i ≤ k) ∧ (∀ a, a < i → cy a = none → sepF o t lf rt a k = none) ∧ (st = []) ∧ (gW wX D Q T A s S H locs) ∧ (lv_has ls 3 [(0, .ref (Q 0)), (1, .int (nI k)), (2, .int (nI i))])) ⟨0, rfl, (Nat.zero_le _), (fun a h => absurd h (Nat.not_lt_zero a)), rfl, w, lv_sub hl [1, 2, 0] rfl⟩ (fun n_2 st_2 ls H locs ih_2 hI => ?_)
  obtain ⟨i, hn_2, hi, hf, rfl, w, hl⟩ := hI
  refine lv_iload_n C.1 C.2.1 dX0_isFree_2 rfl (lv_at hl 2 rfl) ?_
  refine lv_iload_n C.1 C.2.1 dX0_isFree_3 rfl (lv_at hl 1 rfl) ?_
  refine n_icmp_ge (tgt := 33) C (by omega) (by omega) dX0_isFree_4 (by decide) (fun c_4 => ?_) (fun c_4 => ?_)
  · skip
    refine n_const (v := bI true) C dX0_isFree_33 (by decide) ?_
    exact g_zret (v := bI true) C w (nz_b _) ⟨true, rfl, ⟨fun _ a ha => hf a (by omega), fun _ => rfl⟩, rfl⟩ dX0_isFree_34
  · skip
    refine lv_aload_n C.1 C.2.1 dX0_isFree_7 rfl (lv_at hl 0 rfl) ?_
    refine xg_14 C w dX0_isFree_8 ?_
    refine lv_iload_n C.1 C.2.1 dX0_isFree_11 rfl (lv_at hl 2 rfl) ?_
    refine xl_14 (v := oI (cy i)) C w (by omega) (hC i (by omega)).1 dX0_isFree_12 ?_
    refine o_if_ge (tgt := 27) C (fun n hn => by have := (hC i (by omega)).2 n hn; omega) dX0_isFree_13 (by decide) (fun v_13 c_13 => ?_) (fun c_13 => ?_)
    · skip
      refine lv_iinc (v := nI (i + 1)) (lv' := [(2, .int (nI (i + 1))), (0, .ref (Q 0)), (1, .int (nI k))]) C.1 C.2.1 dX0_isFree_27 hl (k := 2) rfl (nI_add i 1) (by decide) rfl (fun ls hl => ?_)
      refine lv_goto (tgt := 2) C.1 C.2.1 dX0_isFree_30 (by decide) ?_
      exact ih_2 _ (by omega) _ _ _ _ ⟨(i + 1), rfl, (by omega), (lt_s hf (fun hc => by rw [c_13] at hc; cases hc)), rfl, w, lv_sub hl [1, 2, 0] rfl⟩
    · skip
      refine lv_aload_n C.1 C.2.1 dX0_isFree_16 rfl (lv_at hl 0 rfl) ?_
      refine lv_iload_n C.1 C.2.1 dX0_isFree_17 rfl (lv_at hl 2 rfl) ?_
      refine lv_iload_n C.1 C.2.1 dX0_isFree_18 rfl (lv_at hl 1 rfl) ?_
      refine g_calli C w (met_X0_separation l _ K o t lf rt i k hO (by omega) (by omega)) rfl rfl cq_X0_X0_separation cy_X0_separation rfl rfl ⟨Nat.le_of_ble_eq_true rfl, Nat.le_of_ble_eq_true rfl⟩ ⟨Nat.zero_le _, Nat.zero_le _⟩ hl.1 rfl (Nat.le_of_ble_eq_true rfl) dX0_isFree_19 (fun r_1 S1 H locs hp w => ?_)
      obtain ⟨rfl, rfl⟩ := hp
      refine o_if_lt (tgt := 27) C (fun n hn => by have := sepF_le hn; omega) dX0_isFree_22 (by decide) (fun c_22 => ?_) (fun v_22 c_22 => ?_)
      · skip
        refine lv_iinc (v := nI (i + 1)) (lv' := [(2, .int (nI (i + 1))), (0, .ref (Q 0)), (1, .int (nI k))]) C.1 C.2.1 dX0_isFree_27 hl (k := 2) rfl (nI_add i 1) (by decide) rfl (fun ls hl => ?_)
        refine lv_goto (tgt := 2) C.1 C.2.1 dX0_isFree_30 (by decide) ?_
        exact ih_2 _ (by omega) _ _ _ _ ⟨(i + 1), rfl, (by omega), (lt_s hf (fun _ => c_22)), rfl, w, lv_sub hl [1, 2, 0] rfl⟩
      · skip
        refine n_const (v := bI false) C dX0_isFree_25 (by decide) ?_
        exact g_zret (v := bI false) C w (nz_b _) ⟨false, rfl, ⟨fun h => (by cases h), fun h => (by have := h i (by omega) c_13; rw [c_22] at this; cases this)⟩, rfl⟩ dX0_isFree_26
set_option maxHeartbeats 4000000 in
set_option maxRecDepth 100000 in
theorem met_X0_earliest (l : Launch) (S : St) (K : Nat) (o t lf rt : Nat → Nat) (cy : Nat → Option Nat) (k : Nat) (hO : xOps S K o t lf rt) (hC : xCyc S K cy) (hk : k < K) (hfr : ∀ i, i < k → ∀ d, sepF o t lf rt i k = some d → ∃ c, cy i = some c) : gM wX l yX0_earliest cX0_earliest 5 (some .int) ({ frames := 2, cells := 0, slots := 0, locals := 48 }) [.int (nI k)] S (fun r S1 => ∃ e, r = nI e ∧ (∀ i, i < k → ∀ d c, sepF o t lf rt i k = some d → cy i = some c → c + d ≤ e) ∧ (∀ B, (∀ i c, i < K → cy i = some c → c ≤ B) → e ≤ B + 3) ∧ S = S1) := by
  refine g_start (own := RX0) (by decide) rfl (fun b => Nat.le_of_ble_eq_true rfl) ?_
  intro p e s m below meth c D Q T A ls C w hl
  have hl : lv_has ls 5 [(0, .ref (Q 0)), (1, .int (nI k))] := hl
  have hK := hO.1
  refine n_const (v := nI 0) C dX0_earliest_0 (by decide) ?_
  refine lv_istore_n (lv' := [(2, .int (nI 0)), (0, .ref (Q 0)), (1, .int (nI k))]) C.1 C.2.1 dX0_earliest_1 rfl hl (by decide) rfl (fun ls hl => ?_)
  refine n_const (v := nI 0) C dX0_earliest_2 (by decide) ?_
  refine lv_istore_n (lv' := [(3, .int (nI 0)), (2, .int (nI 0)), (0, .ref (Q 0)), (1, .int (nI k))]) C.1 C.2.1 dX0_earliest_3 rfl hl (by decide) rfl (fun ls hl => ?_)
  refine g_loop (pcL := 4) (I := fun n st ls H locs => ∃ (e : Nat) (i : Nat), (n = k - i) ∧ (i ≤ k) ∧ (e ≤ 303) ∧ (∀ a, a < i → ∀ d c, sepF o t lf rt a k = some d → cy a = some c → c + d ≤ e) ∧ (∀ B, (∀ i c, i < K → cy i = some c → c ≤ B) → e ≤ B + 3) ∧ (st = []) ∧ (gW wX D Q T A s S H locs) ∧ (lv_has ls 5 [(0, .ref (Q 0)), (1, .int (nI k)), (2, .int (nI e)), (3, .int (nI i))])) ⟨0, 0, rfl, (Nat.zero_le _), (Nat.zero_le _), (fun a h => absurd h (Nat.not_lt_zero a)), (fun B _ => Nat.zero_le _), rfl, w, lv_sub hl [2, 3, 1, 0] rfl⟩ (fun n_4 st_4 ls H locs ih_4 hI => ?_)
  obtain ⟨e, i, hn_4, hi, he, hf, hB, rfl, w, hl⟩ := hI
  refine lv_iload_n C.1 C.2.1 dX0_earliest_4 rfl (lv_at hl 3 rfl) ?_
  refine lv_iload_n C.1 C.2.1 dX0_earliest_5 rfl (lv_at hl 1 rfl) ?_
  refine n_icmp_ge (tgt := 51) C (by omega) (by omega) dX0_earliest_6 (by decide) (fun c_6 => ?_) (fun c_6 => ?_)
  · skip
    refine lv_iload_n C.1 C.2.1 dX0_earliest_51 rfl (lv_at hl 2 rfl) ?_
    exact g_iret (v := nI e) C w ⟨e, rfl, fun a ha => hf a (by omega), hB, rfl⟩ dX0_earliest_52
  · skip
    refine lv_aload_n C.1 C.2.1 dX0_earliest_9 rfl (lv_at hl 0 rfl) ?_
    refine lv_iload_n C.1 C.2.1 dX0_earliest_10 rfl (lv_at hl 3 rfl) ?_
    refine lv_iload_n C.1 C.2.1 dX0_earliest_11 rfl (lv_at hl 1 rfl) ?_
    refine g_calli C w (met_X0_separation l _ K o t lf rt i k hO (by omega) (by omega)) rfl rfl cq_X0_X0_separation cy_X0_separation rfl rfl ⟨Nat.le_of_ble_eq_true rfl, Nat.le_of_ble_eq_true rfl⟩ ⟨Nat.zero_le _, Nat.zero_le _⟩ hl.1 rfl (Nat.le_of_ble_eq_true rfl) dX0_earliest_12 (fun r_1 S1 H locs hp w => ?_)
    obtain ⟨rfl, rfl⟩ := hp
    refine lv_istore (lv' := [(4, .int (oI (sepF o t lf rt i k))), (0, .ref (Q 0)), (1, .int (nI k)), (2, .int (nI e)), (3, .int (nI i))]) C.1 C.2.1 dX0_earliest_15 hl (by decide) rfl (fun ls hl => ?_)
    refine lv_iload C.1 C.2.1 dX0_earliest_17 (lv_at hl 0 rfl) ?_
    refine o_if_lt (tgt := 45) C (fun n hn => by have := sepF_le hn; omega) dX0_earliest_19 (by decide) (fun c_19 => ?_) (fun v_19 c_19 => ?_)
    · skip
      refine lv_iinc (v := nI (i + 1)) (lv' := [(3, .int (nI (i + 1))), (4, .int (oI (sepF o t lf rt i k))), (0, .ref (Q 0)), (1, .int (nI k)), (2, .int (nI e))]) C.1 C.2.1 dX0_earliest_45 hl (k := 4) rfl (nI_add i 1) (by decide) rfl (fun ls hl => ?_)
      refine lv_goto (tgt := 4) C.1 C.2.1 dX0_earliest_48 (by decide) ?_
      exact ih_4 _ (by omega) _ _ _ _ ⟨e, (i + 1), rfl, (by omega), he, (lt_s hf (fun d c h1 _ => by rw [c_19] at h1; cases h1)), hB, rfl, w, lv_sub hl [2, 3, 4, 0] rfl⟩
    · skip
      have hv3 := sepF_le c_19
      obtain ⟨cc, hcc⟩ := hfr i (by omega) _ c_19
      have hcb := (hC i (by omega)).2 _ hcc
      rw [c_19] at hl
      have hl : lv_has ls 5 [(4, .int (nI v_19)), (0, .ref (Q 0)), (1, .int (nI k)), (2, .int (nI e)), (3, .int (nI i))] := hl
      refine lv_aload_n C.1 C.2.1 dX0_earliest_22 rfl (lv_at hl 1 rfl) ?_
      refine xg_14 C w dX0_earliest_23 ?_
      refine lv_iload_n C.1 C.2.1 dX0_earliest_26 rfl (lv_at hl 4 rfl) ?_
      refine xl_14 (v := nI cc) C w (by omega) (by rw [(hC i (by omega)).1, hcc]; rfl) dX0_earliest_27 ?_
      refine lv_iload C.1 C.2.1 dX0_earliest_28 (lv_at hl 0 rfl) ?_
      refine n_iadd (v := nI (cc + v_19)) C dX0_earliest_30 (nI_add _ _) ?_
      refine lv_iload_n C.1 C.2.1 dX0_earliest_31 rfl (lv_at hl 3 rfl) ?_
      refine n_icmp_le (tgt := 45) C (by omega) (by omega) dX0_earliest_32 (by decide) (fun c_32 => ?_) (fun c_32 => ?_)
      · skip
        refine lv_iinc (v := nI (i + 1)) (lv' := [(3, .int (nI (i + 1))), (4, .int (nI v_19)), (0, .ref (Q 0)), (1, .int (nI k)), (2, .int (nI e))]) C.1 C.2.1 dX0_earliest_45 hl (k := 4) rfl (nI_add i 1) (by decide) rfl (fun ls hl => ?_)
        refine lv_goto (tgt := 4) C.1 C.2.1 dX0_earliest_48 (by decide) ?_
        exact ih_4 _ (by omega) _ _ _ _ ⟨e, (i + 1), rfl, (by omega), he, (lt_s hf (fun d c h1 h2 => by rw [c_19] at h1; rw [hcc] at h2; cases h1; cases h2; exact c_32)), hB, rfl, w, lv_sub hl [2, 3, 4, 0] rfl⟩
      · skip
        refine lv_aload_n C.1 C.2.1 dX0_earliest_35 rfl (lv_at hl 1 rfl) ?_
        refine xg_14 C w dX0_earliest_36 ?_
        refine lv_iload_n C.1 C.2.1 dX0_earliest_39 rfl (lv_at hl 4 rfl) ?_
        refine xl_14 (v := nI cc) C w (by omega) (by rw [(hC i (by omega)).1, hcc]; rfl) dX0_earliest_40 ?_
        refine lv_iload C.1 C.2.1 dX0_earliest_41 (lv_at hl 0 rfl) ?_
        refine n_iadd (v := nI (cc + v_19)) C dX0_earliest_43 (nI_add _ _) ?_
        refine lv_istore_n (lv' := [(2, .int (nI (cc + v_19))), (4, .int (nI v_19)), (0, .ref (Q 0)), (1, .int (nI k)), (3, .int (nI i))]) C.1 C.2.1 dX0_earliest_44 rfl hl (by decide) rfl (fun ls hl => ?_)
        refine lv_iinc (v := nI (i + 1)) (lv' := [(3, .int (nI (i + 1))), (2, .int (nI (cc + v_19))), (4, .int (nI v_19)), (0, .ref (Q 0)), (1, .int (nI k))]) C.1 C.2.1 dX0_earliest_45 hl (k := 4) rfl (nI_add i 1) (by decide) rfl (fun ls hl => ?_)
        refine lv_goto (tgt := 4) C.1 C.2.1 dX0_earliest_48 (by decide) ?_
        exact ih_4 _ (by omega) _ _ _ _ ⟨(cc + v_19), (i + 1), rfl, (by omega), (by omega), (lt_s (fun a ha d c h1 h2 => by have := hf a ha d c h1 h2; omega) (fun d c h1 h2 => by rw [c_19] at h1; rw [hcc] at h2; cases h1; cases h2; exact Nat.le_refl _)), (fun B hB1 => by have := hB1 i cc (by omega) hcc; omega), rfl, w, lv_sub hl [3, 4, 1, 0] rfl⟩
set_option maxHeartbeats 4000000 in
set_option maxRecDepth 100000 in
theorem met_X0_mostUrgent (l : Launch) (S : St) (K : Nat) (o t lf rt : Nat → Nat) (cy : Nat → Option Nat) (hO : xOps S K o t lf rt) (hC : xCyc S K cy) (h6 : S 6 0 = nI K) (hex : ∃ k, k < K ∧ cy k = none) : gM wX l yX0_mostUrgent cX0_mostUrgent 3 (some .int) ({ frames := 3, cells := 0, slots := 0, locals := 70 }) [] S (fun r S1 => ∃ k, r = nI k ∧ k < K ∧ cy k = none ∧ frP o t lf rt cy k ∧ S = S1) := by
  refine g_start (own := RX0) (by decide) rfl (fun b => Nat.le_of_ble_eq_true rfl) ?_
  intro p e s m below meth c D Q T A ls C w hl
  have hl : lv_has ls 3 [(0, .ref (Q 0))] := hl
  have hK := hO.1
  refine n_const (v := (-1)) C dX0_mostUrgent_0 (by decide) ?_
  refine lv_istore_n (lv' := [(1, .int ((-1))), (0, .ref (Q 0))]) C.1 C.2.1 dX0_mostUrgent_1 rfl hl (by decide) rfl (fun ls hl => ?_)
  refine n_const (v := nI 0) C dX0_mostUrgent_2 (by decide) ?_
  refine lv_istore_n (lv' := [(2, .int (nI 0)), (1, .int ((-1))), (0, .ref (Q 0))]) C.1 C.2.1 dX0_mostUrgent_3 rfl hl (by decide) rfl (fun ls hl => ?_)
  refine g_loop (pcL := 4) (I := fun n st ls H locs => ∃ (best : Option Nat) (k : Nat), (n = K - k) ∧ (k ≤ K) ∧ (∀ b, best = some b → b < k ∧ cy b = none ∧ frP o t lf rt cy b) ∧ (best = none → ∀ a, a < k → cy a = none → ¬ frP o t lf rt cy a) ∧ (st = []) ∧ (gW wX D Q T A s S H locs) ∧ (lv_has ls 3 [(0, .ref (Q 0)), (1, .int (oI best)), (2, .int (nI k))])) ⟨none, 0, rfl, (Nat.zero_le _), (fun b h => by cases h), (fun _ a h => absurd h (Nat.not_lt_zero a)), rfl, w, lv_sub hl [2, 1, 0] rfl⟩ (fun n_4 st_4 ls H locs ih_4 hI => ?_)
  obtain ⟨best, k, hn_4, hk, hbest, hnone, rfl, w, hl⟩ := hI
  refine lv_iload_n C.1 C.2.1 dX0_mostUrgent_4 rfl (lv_at hl 2 rfl) ?_
  refine lv_aload_n C.1 C.2.1 dX0_mostUrgent_5 rfl (lv_at hl 0 rfl) ?_
  refine xg_6 (v := nI K) C w h6 dX0_mostUrgent_6 ?_
  refine n_icmp_ge (tgt := 59) C (by omega) (by omega) dX0_mostUrgent_9 (by decide) (fun c_9 => ?_) (fun c_9 => ?_)
  · skip
    obtain ⟨b, rfl⟩ : ∃ b, best = some b := by
      cases best with
      | some b => exact ⟨b, rfl⟩
      | none =>
        obtain ⟨q, hq, hmin⟩ := pk_least (fun k => k < K ∧ cy k = none) hex
        exact absurd (fun a ha hc => absurd ⟨by omega, hc⟩ (hmin a ha)) (hnone rfl q (by omega) hq.2)
    have hl : lv_has ls 3 [(0, .ref (Q 0)), (1, .int (nI b)), (2, .int (nI k))] := hl
    refine lv_iload_n C.1 C.2.1 dX0_mostUrgent_59 rfl (lv_at hl 1 rfl) ?_
    exact g_iret (v := nI b) C w ⟨b, rfl, (by have := (hbest b rfl).1; omega), (hbest b rfl).2.1, (hbest b rfl).2.2, rfl⟩ dX0_mostUrgent_60
  · skip
    refine lv_aload_n C.1 C.2.1 dX0_mostUrgent_12 rfl (lv_at hl 0 rfl) ?_
    refine xg_14 C w dX0_mostUrgent_13 ?_
    refine lv_iload_n C.1 C.2.1 dX0_mostUrgent_16 rfl (lv_at hl 2 rfl) ?_
    refine xl_14 (v := oI (cy k)) C w (by omega) (hC k (by omega)).1 dX0_mostUrgent_17 ?_
    refine o_if_ge (tgt := 53) C (fun n hn => by have := (hC k (by omega)).2 n hn; omega) dX0_mostUrgent_18 (by decide) (fun v_18 c_18 => ?_) (fun c_18 => ?_)
    · skip
      refine lv_iinc (v := nI (k + 1)) (lv' := [(2, .int (nI (k + 1))), (0, .ref (Q 0)), (1, .int (oI best))]) C.1 C.2.1 dX0_mostUrgent_53 hl (k := 2) rfl (nI_add k 1) (by decide) rfl (fun ls hl => ?_)
      refine lv_goto (tgt := 4) C.1 C.2.1 dX0_mostUrgent_56 (by decide) ?_
      exact ih_4 _ (by omega) _ _ _ _ ⟨best, (k + 1), rfl, (by omega), (fun b hb => ⟨by have := (hbest b hb).1; omega, (hbest b hb).2⟩), (fun hb => lt_s (hnone hb) (fun hc => by rw [c_18] at hc; cases hc)), rfl, w, lv_sub hl [1, 2, 0] rfl⟩
    · skip
      refine lv_aload_n C.1 C.2.1 dX0_mostUrgent_21 rfl (lv_at hl 0 rfl) ?_
      refine lv_iload_n C.1 C.2.1 dX0_mostUrgent_22 rfl (lv_at hl 2 rfl) ?_
      refine g_calli C w (met_X0_isFree l _ K o t lf rt cy k hO hC (by omega)) rfl rfl cq_X0_X0_isFree cy_X0_isFree rfl rfl ⟨Nat.le_of_ble_eq_true rfl, Nat.le_of_ble_eq_true rfl⟩ ⟨Nat.zero_le _, Nat.zero_le _⟩ hl.1 rfl (Nat.le_of_ble_eq_true rfl) dX0_mostUrgent_23 (fun r_1 S1 H locs hp w => ?_)
      obtain ⟨fb, rfl, hfb, rfl⟩ := hp
      refine b_if_ne (tgt := 32) C dX0_mostUrgent_26 (by decide) (fun c_26 => ?_) (fun c_26 => ?_)
      · skip
        refine lv_iload_n C.1 C.2.1 dX0_mostUrgent_32 rfl (lv_at hl 1 rfl) ?_
        refine o_if_lt (tgt := 51) C (fun n hn => by have := (hbest n hn).1; omega) dX0_mostUrgent_33 (by decide) (fun c_33 => ?_) (fun v_33 c_33 => ?_)
        · skip
          refine lv_iload_n C.1 C.2.1 dX0_mostUrgent_51 rfl (lv_at hl 2 rfl) ?_
          refine lv_istore_n (lv' := [(1, .int (nI k)), (0, .ref (Q 0)), (2, .int (nI k))]) C.1 C.2.1 dX0_mostUrgent_52 rfl hl (by decide) rfl (fun ls hl => ?_)
          refine lv_iinc (v := nI (k + 1)) (lv' := [(2, .int (nI (k + 1))), (1, .int (nI k)), (0, .ref (Q 0))]) C.1 C.2.1 dX0_mostUrgent_53 hl (k := 2) rfl (nI_add k 1) (by decide) rfl (fun ls hl => ?_)
          refine lv_goto (tgt := 4) C.1 C.2.1 dX0_mostUrgent_56 (by decide) ?_
          exact ih_4 _ (by omega) _ _ _ _ ⟨(some k), (k + 1), rfl, (by omega), (fun b hb => by cases hb; exact ⟨by omega, c_18, hfb.mp c_26⟩), (fun h => by cases h), rfl, w, lv_sub hl [2, 1, 0] rfl⟩
        · skip
          have hbb := (hbest _ c_33).1
          rw [c_33] at hl
          have hl : lv_has ls 3 [(0, .ref (Q 0)), (1, .int (nI v_33)), (2, .int (nI k))] := hl
          refine lv_aload_n C.1 C.2.1 dX0_mostUrgent_36 rfl (lv_at hl 0 rfl) ?_
          refine xg_13 C w dX0_mostUrgent_37 ?_
          refine lv_iload_n C.1 C.2.1 dX0_mostUrgent_40 rfl (lv_at hl 2 rfl) ?_
          refine xl_13 (v := S 13 k) C w (by omega) rfl dX0_mostUrgent_41 ?_
          refine lv_aload_n C.1 C.2.1 dX0_mostUrgent_42 rfl (lv_at hl 0 rfl) ?_
          refine xg_13 C w dX0_mostUrgent_43 ?_
          refine lv_iload_n C.1 C.2.1 dX0_mostUrgent_46 rfl (lv_at hl 1 rfl) ?_
          refine xl_13 (v := S 13 v_33) C w (by omega) rfl dX0_mostUrgent_47 ?_
          refine r_icmp_le (tgt := 53) C dX0_mostUrgent_48 (by decide) (fun c_48 => ?_) (fun c_48 => ?_)
          · skip
            refine lv_iinc (v := nI (k + 1)) (lv' := [(2, .int (nI (k + 1))), (0, .ref (Q 0)), (1, .int (nI v_33))]) C.1 C.2.1 dX0_mostUrgent_53 hl (k := 2) rfl (nI_add k 1) (by decide) rfl (fun ls hl => ?_)
            refine lv_goto (tgt := 4) C.1 C.2.1 dX0_mostUrgent_56 (by decide) ?_
            exact ih_4 _ (by omega) _ _ _ _ ⟨(some v_33), (k + 1), rfl, (by omega), (fun b hb => by cases hb; have := hbest _ c_33; exact ⟨by omega, this.2⟩), (fun h => by cases h), rfl, w, lv_sub hl [1, 2, 0] rfl⟩
          · skip
            refine lv_iload_n C.1 C.2.1 dX0_mostUrgent_51 rfl (lv_at hl 2 rfl) ?_
            refine lv_istore_n (lv' := [(1, .int (nI k)), (0, .ref (Q 0)), (2, .int (nI k))]) C.1 C.2.1 dX0_mostUrgent_52 rfl hl (by decide) rfl (fun ls hl => ?_)
            refine lv_iinc (v := nI (k + 1)) (lv' := [(2, .int (nI (k + 1))), (1, .int (nI k)), (0, .ref (Q 0))]) C.1 C.2.1 dX0_mostUrgent_53 hl (k := 2) rfl (nI_add k 1) (by decide) rfl (fun ls hl => ?_)
            refine lv_goto (tgt := 4) C.1 C.2.1 dX0_mostUrgent_56 (by decide) ?_
            exact ih_4 _ (by omega) _ _ _ _ ⟨(some k), (k + 1), rfl, (by omega), (fun b hb => by cases hb; exact ⟨by omega, c_18, hfb.mp c_26⟩), (fun h => by cases h), rfl, w, lv_sub hl [2, 1, 0] rfl⟩
      · skip
        refine lv_goto (tgt := 53) C.1 C.2.1 dX0_mostUrgent_29 (by decide) ?_
        refine lv_iinc (v := nI (k + 1)) (lv' := [(2, .int (nI (k + 1))), (0, .ref (Q 0)), (1, .int (oI best))]) C.1 C.2.1 dX0_mostUrgent_53 hl (k := 2) rfl (nI_add k 1) (by decide) rfl (fun ls hl => ?_)
        refine lv_goto (tgt := 4) C.1 C.2.1 dX0_mostUrgent_56 (by decide) ?_
        exact ih_4 _ (by omega) _ _ _ _ ⟨best, (k + 1), rfl, (by omega), (fun b hb => ⟨by have := (hbest b hb).1; omega, (hbest b hb).2⟩), (fun hb => lt_s (hnone hb) (fun _ hf => by rw [hfb.mpr hf] at c_26; cases c_26)), rfl, w, lv_sub hl [1, 2, 0] rfl⟩
set_option maxHeartbeats 4000000 in
set_option maxRecDepth 100000 in
theorem met_X0_unitOf (l : Launch) (S : St) (K : Nat) (o t lf rt : Nat → Nat) (k : Nat) (hO : xOps S K o t lf rt) (hk : k < K) : gM wX l yX0_unitOf cX0_unitOf 3 (some .int) ({ frames := 1, cells := 0, slots := 0, locals := 21 }) [.int (nI k)] S (fun r S1 => r = nI (2 ^ unF o t k) ∧ S = S1) := by
  refine g_start (own := RX0) (by decide) rfl (fun b => Nat.le_of_ble_eq_true rfl) ?_
  intro p e s m below meth c D Q T A ls C w hl
  have hl : lv_has ls 3 [(0, .ref (Q 0)), (1, .int (nI k))] := hl
  have hK := hO.1
  obtain ⟨-, -, -, -, ho, ht, hlf, hrt⟩ := hO.2 k hk
  have hcl := cluF_le (t k)
  refine lv_aload_n C.1 C.2.1 dX0_unitOf_0 rfl (lv_at hl 0 rfl) ?_
  refine xg_7 C w dX0_unitOf_1 ?_
  refine lv_iload_n C.1 C.2.1 dX0_unitOf_4 rfl (lv_at hl 1 rfl) ?_
  refine xl_7 (v := nI (o k)) C w (by omega) (hO.2 k (by omega)).1 dX0_unitOf_5 ?_
  refine n_bipush (v := nI 9) C dX0_unitOf_6 (by decide) ?_
  refine n_icmp_ne (tgt := 14) C (by omega) (by decide) dX0_unitOf_8 (by decide) (fun c_8 => ?_) (fun c_8 => ?_)
  · skip
    refine lv_aload_n C.1 C.2.1 dX0_unitOf_14 rfl (lv_at hl 0 rfl) ?_
    refine lv_iload_n C.1 C.2.1 dX0_unitOf_15 rfl (lv_at hl 1 rfl) ?_
    refine g_calli C w (met_X0_touchesMemory l _ K o t lf rt k hO hk) rfl rfl cq_X0_X0_touchesMemory cy_X0_touchesMemory rfl rfl ⟨Nat.le_of_ble_eq_true rfl, Nat.le_of_ble_eq_true rfl⟩ ⟨Nat.zero_le _, Nat.zero_le _⟩ hl.1 rfl (Nat.le_of_ble_eq_true rfl) dX0_unitOf_16 (fun r_1 S1 H locs hp w => ?_)
    obtain ⟨rfl, rfl⟩ := hp
    refine b_if_eq (tgt := 26) C dX0_unitOf_19 (by decide) (fun c_19 => ?_) (fun c_19 => ?_)
    · skip
      refine lv_aload_n C.1 C.2.1 dX0_unitOf_26 rfl (lv_at hl 0 rfl) ?_
      refine xg_7 C w dX0_unitOf_27 ?_
      refine lv_iload_n C.1 C.2.1 dX0_unitOf_30 rfl (lv_at hl 1 rfl) ?_
      refine xl_7 (v := nI (o k)) C w (by omega) (hO.2 k (by omega)).1 dX0_unitOf_31 ?_
      refine n_const (v := nI 2) C dX0_unitOf_32 (by decide) ?_
      refine n_icmp_ne (tgt := 40) C (by omega) (by decide) dX0_unitOf_33 (by decide) (fun c_33 => ?_) (fun c_33 => ?_)
      · skip
        refine n_const (v := nI 2) C dX0_unitOf_40 (by decide) ?_
        refine lv_istore_n (lv' := [(2, .int (nI 2)), (0, .ref (Q 0)), (1, .int (nI k))]) C.1 C.2.1 dX0_unitOf_41 rfl hl (by decide) rfl (fun ls hl => ?_)
        refine n_const (v := nI 1) C dX0_unitOf_42 (by decide) ?_
        refine n_const (v := nI 3) C dX0_unitOf_43 (by decide) ?_
        refine lv_aload_n C.1 C.2.1 dX0_unitOf_44 rfl (lv_at hl 1 rfl) ?_
        refine lv_aload_n C.1 C.2.1 dX0_unitOf_45 rfl (lv_at hl 1 rfl) ?_
        refine xg_8 C w dX0_unitOf_46 ?_
        refine lv_iload_n C.1 C.2.1 dX0_unitOf_49 rfl (lv_at hl 2 rfl) ?_
        refine xl_8 (v := nI (t k)) C w (by omega) (hO.2 k (by omega)).2.1 dX0_unitOf_50 ?_
        refine g_calli C w (met_X0_clusterOf l _ (t k) (by omega)) rfl rfl cq_X0_X0_clusterOf cy_X0_clusterOf rfl rfl ⟨Nat.le_of_ble_eq_true rfl, Nat.le_of_ble_eq_true rfl⟩ ⟨Nat.zero_le _, Nat.zero_le _⟩ hl.1 rfl (Nat.le_of_ble_eq_true rfl) dX0_unitOf_51 (fun r_2 S2 H locs hp w => ?_)
        obtain ⟨rfl, rfl⟩ := hp
        refine n_imul (v := nI (3 * (cluF (t k)))) C dX0_unitOf_54 (pk_mul _ _) ?_
        refine lv_iload_n C.1 C.2.1 dX0_unitOf_55 rfl (lv_at hl 0 rfl) ?_
        refine n_iadd (v := nI ((3 * (cluF (t k))) + 2)) C dX0_unitOf_56 (nI_add _ _) ?_
        refine n_ishl (v := nI (2 ^ ((3 * (cluF (t k))) + 2))) C dX0_unitOf_57 (nx_sh1 (by omega)) ?_
        exact g_iret (v := nI (2 ^ ((3 * (cluF (t k))) + 2))) C w ⟨by rw [unF, if_neg c_8, if_neg (by rw [c_19]; decide), if_neg c_33], rfl⟩ dX0_unitOf_58
      · skip
        refine n_const (v := nI 1) C dX0_unitOf_36 (by decide) ?_
        refine lv_goto (tgt := 41) C.1 C.2.1 dX0_unitOf_37 (by decide) ?_
        refine lv_istore_n (lv' := [(2, .int (nI 1)), (0, .ref (Q 0)), (1, .int (nI k))]) C.1 C.2.1 dX0_unitOf_41 rfl hl (by decide) rfl (fun ls hl => ?_)
        refine n_const (v := nI 1) C dX0_unitOf_42 (by decide) ?_
        refine n_const (v := nI 3) C dX0_unitOf_43 (by decide) ?_
        refine lv_aload_n C.1 C.2.1 dX0_unitOf_44 rfl (lv_at hl 1 rfl) ?_
        refine lv_aload_n C.1 C.2.1 dX0_unitOf_45 rfl (lv_at hl 1 rfl) ?_
        refine xg_8 C w dX0_unitOf_46 ?_
        refine lv_iload_n C.1 C.2.1 dX0_unitOf_49 rfl (lv_at hl 2 rfl) ?_
        refine xl_8 (v := nI (t k)) C w (by omega) (hO.2 k (by omega)).2.1 dX0_unitOf_50 ?_
        refine g_calli C w (met_X0_clusterOf l _ (t k) (by omega)) rfl rfl cq_X0_X0_clusterOf cy_X0_clusterOf rfl rfl ⟨Nat.le_of_ble_eq_true rfl, Nat.le_of_ble_eq_true rfl⟩ ⟨Nat.zero_le _, Nat.zero_le _⟩ hl.1 rfl (Nat.le_of_ble_eq_true rfl) dX0_unitOf_51 (fun r_3 S3 H locs hp w => ?_)
        obtain ⟨rfl, rfl⟩ := hp
        refine n_imul (v := nI (3 * (cluF (t k)))) C dX0_unitOf_54 (pk_mul _ _) ?_
        refine lv_iload_n C.1 C.2.1 dX0_unitOf_55 rfl (lv_at hl 0 rfl) ?_
        refine n_iadd (v := nI ((3 * (cluF (t k))) + 1)) C dX0_unitOf_56 (nI_add _ _) ?_
        refine n_ishl (v := nI (2 ^ ((3 * (cluF (t k))) + 1))) C dX0_unitOf_57 (nx_sh1 (by omega)) ?_
        exact g_iret (v := nI (2 ^ ((3 * (cluF (t k))) + 1))) C w ⟨by rw [unF, if_neg c_8, if_neg (by rw [c_19]; decide), if_pos c_33], rfl⟩ dX0_unitOf_58
    · skip
      refine n_const (v := nI 0) C dX0_unitOf_22 (by decide) ?_
      refine lv_goto (tgt := 41) C.1 C.2.1 dX0_unitOf_23 (by decide) ?_
      refine lv_istore_n (lv' := [(2, .int (nI 0)), (0, .ref (Q 0)), (1, .int (nI k))]) C.1 C.2.1 dX0_unitOf_41 rfl hl (by decide) rfl (fun ls hl => ?_)
      refine n_const (v := nI 1) C dX0_unitOf_42 (by decide) ?_
      refine n_const (v := nI 3) C dX0_unitOf_43 (by decide) ?_
      refine lv_aload_n C.1 C.2.1 dX0_unitOf_44 rfl (lv_at hl 1 rfl) ?_
      refine lv_aload_n C.1 C.2.1 dX0_unitOf_45 rfl (lv_at hl 1 rfl) ?_
      refine xg_8 C w dX0_unitOf_46 ?_
      refine lv_iload_n C.1 C.2.1 dX0_unitOf_49 rfl (lv_at hl 2 rfl) ?_
      refine xl_8 (v := nI (t k)) C w (by omega) (hO.2 k (by omega)).2.1 dX0_unitOf_50 ?_
      refine g_calli C w (met_X0_clusterOf l _ (t k) (by omega)) rfl rfl cq_X0_X0_clusterOf cy_X0_clusterOf rfl rfl ⟨Nat.le_of_ble_eq_true rfl, Nat.le_of_ble_eq_true rfl⟩ ⟨Nat.zero_le _, Nat.zero_le _⟩ hl.1 rfl (Nat.le_of_ble_eq_true rfl) dX0_unitOf_51 (fun r_4 S4 H locs hp w => ?_)
      obtain ⟨rfl, rfl⟩ := hp
      refine n_imul (v := nI (3 * (cluF (t k)))) C dX0_unitOf_54 (pk_mul _ _) ?_
      refine lv_iload_n C.1 C.2.1 dX0_unitOf_55 rfl (lv_at hl 0 rfl) ?_
      refine n_iadd (v := nI ((3 * (cluF (t k))) + 0)) C dX0_unitOf_56 (nI_add _ _) ?_
      refine n_ishl (v := nI (2 ^ ((3 * (cluF (t k))) + 0))) C dX0_unitOf_57 (nx_sh1 (by omega)) ?_
      exact g_iret (v := nI (2 ^ ((3 * (cluF (t k))) + 0))) C w ⟨by rw [unF, if_neg c_8, if_pos c_19], rfl⟩ dX0_unitOf_58
  · skip
    refine n_bipush (v := nI 64) C dX0_unitOf_11 (by decide) ?_
    exact g_iret (v := nI 64) C w ⟨by rw [unF, if_pos c_8], rfl⟩ dX0_unitOf_13
set_option maxHeartbeats 4000000 in
set_option maxRecDepth 100000 in
theorem met_X0_findUrgency (l : Launch) (S : St) (K : Nat) (o t lf rt : Nat → Nat) (hO : xOps S K o t lf rt) (h6 : S 6 0 = nI K) : gV wX l yX0_findUrgency cX0_findUrgency 5 ({ frames := 2, cells := 0, slots := 0, locals := 48 }) [] S (fun S1 => ∃ u, S1 = up S 13 u) := by
  refine g_startv (own := RX0) (by decide) rfl (fun b => Nat.le_of_ble_eq_true rfl) ?_
  intro p e s m below meth c D Q T A ls C w hl
  have hl : lv_has ls 5 [(0, .ref (Q 0))] := hl
  have hK := hO.1
  rw [← up_self S 13] at w
  refine lv_aload_n C.1 C.2.1 dX0_findUrgency_0 rfl (lv_at hl 0 rfl) ?_
  refine xg_6 (v := nI K) C w h6 dX0_findUrgency_1 ?_
  refine n_const (v := nI 1) C dX0_findUrgency_4 (by decide) ?_
  refine n_isub (v := oI (dn K)) C dX0_findUrgency_5 (dn_sub K) ?_
  refine lv_istore_n (lv' := [(1, .int (oI (dn K))), (0, .ref (Q 0))]) C.1 C.2.1 dX0_findUrgency_6 rfl hl (by decide) rfl (fun ls hl => ?_)
  refine g_loop (pcL := 7) (I := fun n st ls H locs => ∃ (u : Nat → Int32) (c : Nat), (n = c) ∧ (c ≤ K) ∧ (st = []) ∧ (gW wX D Q T A s (up S 13 u) H locs) ∧ (lv_has ls 5 [(0, .ref (Q 0)), (1, .int (oI (dn c)))])) ⟨(S 13), K, rfl, (Nat.le_refl _), rfl, w, lv_sub hl [1, 0] rfl⟩ (fun n_7 st_7 ls H locs ih_7 hI => ?_)
  obtain ⟨u, c, hn_7, hc, rfl, w, hl⟩ := hI
  refine lv_iload_n C.1 C.2.1 dX0_findUrgency_7 rfl (lv_at hl 1 rfl) ?_
  refine o_if_lt (tgt := 90) C (fun n hn => by have := dn_some hn; omega) dX0_findUrgency_8 (by decide) (fun c_8 => ?_) (fun v_8 c_8 => ?_)
  · skip
    exact g_vret C w ⟨u, rfl⟩ dX0_findUrgency_90
  · skip
    have hv := dn_some c_8
    obtain ⟨-, -, -, -, ho, -⟩ := hO.2 v_8 (by omega)
    rw [c_8] at hl
    have hl : lv_has ls 5 [(0, .ref (Q 0)), (1, .int (nI v_8))] := hl
    refine lv_aload_n C.1 C.2.1 dX0_findUrgency_11 rfl (lv_at hl 0 rfl) ?_
    refine lv_aload_n C.1 C.2.1 dX0_findUrgency_12 rfl (lv_at hl 0 rfl) ?_
    refine xg_7 C w dX0_findUrgency_13 ?_
    refine lv_iload_n C.1 C.2.1 dX0_findUrgency_16 rfl (lv_at hl 1 rfl) ?_
    refine xl_7 (v := nI (o v_8)) C w (by omega) (hO.2 v_8 (by omega)).1 dX0_findUrgency_17 ?_
    refine g_calli C w (met_X0_timeOf l _ (o v_8) (by omega)) rfl rfl cq_X0_X0_timeOf cy_X0_timeOf rfl rfl ⟨Nat.le_of_ble_eq_true rfl, Nat.le_of_ble_eq_true rfl⟩ ⟨Nat.zero_le _, Nat.zero_le _⟩ hl.1 rfl (Nat.le_of_ble_eq_true rfl) dX0_findUrgency_18 (fun r_1 S1 H locs hp w => ?_)
    obtain ⟨rfl, rfl⟩ := hp
    refine lv_istore_n (lv' := [(2, .int (nI (tm (o v_8)))), (0, .ref (Q 0)), (1, .int (nI v_8))]) C.1 C.2.1 dX0_findUrgency_21 rfl hl (by decide) rfl (fun ls hl => ?_)
    refine lv_iload_n C.1 C.2.1 dX0_findUrgency_22 rfl (lv_at hl 2 rfl) ?_
    refine n_const (v := nI 1) C dX0_findUrgency_23 (by decide) ?_
    refine n_iadd (v := nI (v_8 + 1)) C dX0_findUrgency_24 (nI_add _ _) ?_
    refine lv_istore_n (lv' := [(3, .int (nI (v_8 + 1))), (2, .int (nI (tm (o v_8)))), (0, .ref (Q 0)), (1, .int (nI v_8))]) C.1 C.2.1 dX0_findUrgency_25 rfl hl (by decide) rfl (fun ls hl => ?_)
    refine g_loop (pcL := 26) (I := fun n st ls H locs => ∃ (mo : Int32) (j : Nat), (n = K - j) ∧ (j ≤ K) ∧ (st = []) ∧ (gW wX D Q T A s (up S 13 u) H locs) ∧ (lv_has ls 5 [(0, .ref (Q 0)), (1, .int (nI v_8)), (2, .int (mo)), (3, .int (nI j))])) ⟨nI (tm (o v_8)), (v_8 + 1), rfl, (by omega), rfl, w, lv_sub hl [2, 3, 1, 0] rfl⟩ (fun n_26 st_26 ls H locs ih_26 hI => ?_)
    obtain ⟨mo, j, hn_26, hj, rfl, w, hl⟩ := hI
    refine lv_iload_n C.1 C.2.1 dX0_findUrgency_26 rfl (lv_at hl 3 rfl) ?_
    refine lv_aload_n C.1 C.2.1 dX0_findUrgency_27 rfl (lv_at hl 0 rfl) ?_
    refine xg_6 (v := nI K) C w h6 dX0_findUrgency_28 ?_
    refine n_icmp_ge (tgt := 76) C (by omega) (by omega) dX0_findUrgency_31 (by decide) (fun c_31 => ?_) (fun c_31 => ?_)
    · skip
      refine lv_aload_n C.1 C.2.1 dX0_findUrgency_76 rfl (lv_at hl 0 rfl) ?_
      refine xg_13 C w dX0_findUrgency_77 ?_
      refine lv_iload_n C.1 C.2.1 dX0_findUrgency_80 rfl (lv_at hl 1 rfl) ?_
      refine lv_iload_n C.1 C.2.1 dX0_findUrgency_81 rfl (lv_at hl 2 rfl) ?_
      refine lv_i2s (v := (mo).toInt16.toInt32) C.1 C.2.1 dX0_findUrgency_82 rfl ?_
      refine xs_13 (v := mo.toInt16.toInt32) C w (by omega) (pk_vs _) dX0_findUrgency_83 (fun H locs S2 hS2 w => ?_)
      refine lv_iinc (v := oI (dn v_8)) (lv' := [(1, .int (oI (dn v_8))), (0, .ref (Q 0)), (2, .int (mo)), (3, .int (nI j))]) C.1 C.2.1 dX0_findUrgency_84 hl (k := 1) rfl (dn_inc v_8) (by decide) rfl (fun ls hl => ?_)
      refine lv_goto (tgt := 7) C.1 C.2.1 dX0_findUrgency_87 (by decide) ?_
      rw [hS2, up_up] at w
      exact ih_7 _ (by omega) _ _ _ _ ⟨_, v_8, rfl, (by omega), rfl, w, lv_sub hl [1, 0] rfl⟩
    · skip
      refine lv_aload_n C.1 C.2.1 dX0_findUrgency_34 rfl (lv_at hl 0 rfl) ?_
      refine lv_iload_n C.1 C.2.1 dX0_findUrgency_35 rfl (lv_at hl 1 rfl) ?_
      refine lv_iload_n C.1 C.2.1 dX0_findUrgency_36 rfl (lv_at hl 3 rfl) ?_
      refine g_calli C w (met_X0_separation l _ K o t lf rt v_8 j hO (by omega) (by omega)) rfl rfl cq_X0_X0_separation cy_X0_separation rfl rfl ⟨Nat.le_of_ble_eq_true rfl, Nat.le_of_ble_eq_true rfl⟩ ⟨Nat.zero_le _, Nat.zero_le _⟩ hl.1 rfl (Nat.le_of_ble_eq_true rfl) dX0_findUrgency_37 (fun r_3 S3 H locs hp w => ?_)
      obtain ⟨rfl, rfl⟩ := hp
      refine lv_istore (lv' := [(4, .int (oI (sepF o t lf rt v_8 j))), (0, .ref (Q 0)), (1, .int (nI v_8)), (2, .int (mo)), (3, .int (nI j))]) C.1 C.2.1 dX0_findUrgency_40 hl (by decide) rfl (fun ls hl => ?_)
      refine lv_iload C.1 C.2.1 dX0_findUrgency_42 (lv_at hl 0 rfl) ?_
      refine o_if_lt (tgt := 70) C (fun n hn => by have := sepF_le hn; omega) dX0_findUrgency_44 (by decide) (fun c_44 => ?_) (fun v_44 c_44 => ?_)
      · skip
        refine lv_iinc (v := nI (j + 1)) (lv' := [(3, .int (nI (j + 1))), (4, .int (oI (sepF o t lf rt v_8 j))), (0, .ref (Q 0)), (1, .int (nI v_8)), (2, .int (mo))]) C.1 C.2.1 dX0_findUrgency_70 hl (k := 4) rfl (nI_add j 1) (by decide) rfl (fun ls hl => ?_)
        refine lv_goto (tgt := 26) C.1 C.2.1 dX0_findUrgency_73 (by decide) ?_
        exact ih_26 _ (by omega) _ _ _ _ ⟨mo, (j + 1), rfl, (by omega), rfl, w, lv_sub hl [2, 3, 4, 0] rfl⟩
      · skip
        rw [c_44] at hl
        have hl : lv_has ls 5 [(4, .int (nI v_44)), (0, .ref (Q 0)), (1, .int (nI v_8)), (2, .int (mo)), (3, .int (nI j))] := hl
        refine lv_iload C.1 C.2.1 dX0_findUrgency_47 (lv_at hl 0 rfl) ?_
        refine lv_aload_n C.1 C.2.1 dX0_findUrgency_49 rfl (lv_at hl 1 rfl) ?_
        refine xg_13 C w dX0_findUrgency_50 ?_
        refine lv_iload_n C.1 C.2.1 dX0_findUrgency_53 rfl (lv_at hl 4 rfl) ?_
        refine xl_13 (v := u j) C w (by omega) rfl dX0_findUrgency_54 ?_
        refine n_iadd (v := ((nI v_44) + (u j))) C dX0_findUrgency_55 rfl ?_
        refine lv_iload_n C.1 C.2.1 dX0_findUrgency_56 rfl (lv_at hl 3 rfl) ?_
        refine r_icmp_le (tgt := 70) C dX0_findUrgency_57 (by decide) (fun c_57 => ?_) (fun c_57 => ?_)
        · skip
          refine lv_iinc (v := nI (j + 1)) (lv' := [(3, .int (nI (j + 1))), (4, .int (nI v_44)), (0, .ref (Q 0)), (1, .int (nI v_8)), (2, .int (mo))]) C.1 C.2.1 dX0_findUrgency_70 hl (k := 4) rfl (nI_add j 1) (by decide) rfl (fun ls hl => ?_)
          refine lv_goto (tgt := 26) C.1 C.2.1 dX0_findUrgency_73 (by decide) ?_
          exact ih_26 _ (by omega) _ _ _ _ ⟨mo, (j + 1), rfl, (by omega), rfl, w, lv_sub hl [2, 3, 4, 0] rfl⟩
        · skip
          refine lv_iload C.1 C.2.1 dX0_findUrgency_60 (lv_at hl 0 rfl) ?_
          refine lv_aload_n C.1 C.2.1 dX0_findUrgency_62 rfl (lv_at hl 1 rfl) ?_
          refine xg_13 C w dX0_findUrgency_63 ?_
          refine lv_iload_n C.1 C.2.1 dX0_findUrgency_66 rfl (lv_at hl 4 rfl) ?_
          refine xl_13 (v := u j) C w (by omega) rfl dX0_findUrgency_67 ?_
          refine n_iadd (v := ((nI v_44) + (u j))) C dX0_findUrgency_68 rfl ?_
          refine lv_istore_n (lv' := [(2, .int (((nI v_44) + (u j)))), (4, .int (nI v_44)), (0, .ref (Q 0)), (1, .int (nI v_8)), (3, .int (nI j))]) C.1 C.2.1 dX0_findUrgency_69 rfl hl (by decide) rfl (fun ls hl => ?_)
          refine lv_iinc (v := nI (j + 1)) (lv' := [(3, .int (nI (j + 1))), (2, .int (((nI v_44) + (u j)))), (4, .int (nI v_44)), (0, .ref (Q 0)), (1, .int (nI v_8))]) C.1 C.2.1 dX0_findUrgency_70 hl (k := 4) rfl (nI_add j 1) (by decide) rfl (fun ls hl => ?_)
          refine lv_goto (tgt := 26) C.1 C.2.1 dX0_findUrgency_73 (by decide) ?_
          exact ih_26 _ (by omega) _ _ _ _ ⟨_, (j + 1), rfl, (by omega), rfl, w, lv_sub hl [3, 4, 1, 0] rfl⟩
end
section
/-! lowering: addOp, localCopy, lower -/
abbrev Op : Type := Nat × Nat × Nat × Nat × Nat
def zOp : Op := (0, 0, 0, 0, 0)
/-- the operations ops (operation, target, left, right, number) and the turns nc in the arrays -/
def xMop (S : St) (ops : List Op) (nc : Nat → Nat) : Prop := S 6 0 = nI ops.length ∧ (∀ j, j < ops.length → S 7 j = nI (ops.getD j zOp).1 ∧ S 8 j = nI (ops.getD j zOp).2.1 ∧ S 9 j = nI (ops.getD j zOp).2.2.1 ∧ S 10 j = nI (ops.getD j zOp).2.2.2.1 ∧ S 11 j = nI (ops.getD j zOp).2.2.2.2) ∧ ∀ j, j < 2 → S 12 j = nI (nc j)
def frL (S S1 : St) : Prop := ∀ k, (k < 6 ∨ 12 < k) → S1 k = S k
theorem frL.rf (S : St) : frL S S := fun _ _ => rfl
theorem frL.tr {S S1 S2 : St} (h : frL S S1) (h2 : frL S1 S2) : frL S S2 := fun k hk => (h2 k hk).trans (h k hk)
/-- the source program of n instructions in the arrays -/
def xSrc (S : St) (n : Nat) (o d a bn : Nat → Nat) : Prop := n ≤ 24 ∧ S 0 0 = nI n ∧ ∀ j, j < n → S 1 j = nI (o j) ∧ S 2 j = nI (d j) ∧ S 3 j = nI (a j) ∧ o j ≤ 8 ∧ d j ≤ 7 ∧ a j ≤ 7 ∧ (o j ≤ 5 → S 4 j = nI (bn j) ∧ bn j ≤ 7)
theorem xSrc.cg {S S1 : St} {n : Nat} {o d a bn : Nat → Nat} (h : xSrc S n o d a bn) (e : ∀ k, k < 5 → S1 k = S k) : xSrc S1 n o d a bn := by
  obtain ⟨h1, h2, h3⟩ := h
  refine ⟨h1, by rw [e 0 (by omega)]; exact h2, fun j hj => ?_⟩
  rw [e 1 (by omega), e 2 (by omega), e 3 (by omega), e 4 (by omega)]
  exact h3 j hj
theorem xSrc.fr {S S1 : St} {n : Nat} {o d a bn : Nat → Nat} (h : xSrc S n o d a bn) (e : frL S S1) : xSrc S1 n o d a bn := h.cg (fun k hk => e k (by omega))
def adF (S : St) (K o1 d1 a1 b1 n1 : Nat) : St := up (up (up (up (up (up S 7 (upd (S 7) K (nI o1))) 8 (upd (S 8) K (nI d1))) 9 (upd (S 9) K (nI a1))) 10 (upd (S 10) K (nI b1))) 11 (upd (S 11) K (nI n1))) 6 (fun _ => nI (K + 1))
theorem adF_fr (S : St) (K o1 d1 a1 b1 n1 : Nat) : frL S (adF S K o1 d1 a1 b1 n1) := by
  intro k hk
  unfold adF
  rw [up_n _ _ (by omega), up_n _ _ (by omega), up_n _ _ (by omega), up_n _ _ (by omega), up_n _ _ (by omega), up_n _ _ (by omega)]
theorem getD_snoc {α : Type} (l : List α) (x z : α) (j : Nat) : (l ++ [x]).getD j z = if j < l.length then l.getD j z else if j = l.length then x else z := by
  split
  · rename_i h
    simp [List.getD, List.getElem?_append_left h]
  · split
    · rename_i h h2
      subst h2
      simp [List.getD]
    · rename_i h h2
      have : l.length + 1 ≤ j := by omega
      simp [List.getD, List.getElem?_eq_none (l := l ++ [x]) (by simp; omega)]
theorem xMop_add {S : St} {ops : List Op} {nc : Nat → Nat} (h : xMop S ops nc) (o1 d1 a1 b1 n1 : Nat) : xMop (adF S ops.length o1 d1 a1 b1 n1) (ops ++ [(o1, d1, a1, b1, n1)]) nc := by
  obtain ⟨h1, h2, h3⟩ := h
  refine ⟨by rw [List.length_append]; rfl, fun j hj => ?_, h3⟩
  show upd (S 7) _ _ j = _ ∧ upd (S 8) _ _ j = _ ∧ upd (S 9) _ _ j = _ ∧ upd (S 10) _ _ j = _ ∧ upd (S 11) _ _ j = _
  rw [List.length_append, List.length_singleton] at hj
  rw [getD_snoc]
  by_cases e : j = ops.length
  · subst e
    simp [upd]
  · rw [if_pos (by omega)]
    simp only [upd, if_neg e]
    exact h2 j (by omega)
theorem xMop_nc {S : St} {ops : List Op} {nc : Nat → Nat} (h : xMop S ops nc) (cl v : Nat) : xMop (up S 12 (upd (S 12) cl (nI v))) ops (va_up nc cl v) := by
  obtain ⟨h1, h2, h3⟩ := h
  refine ⟨h1, h2, fun j hj => ?_⟩
  show upd (S 12) _ _ j = _
  unfold upd va_up
  split
  · rfl
  · exact h3 j hj
theorem nc_fr (S : St) (g : Nat → Int32) : frL S (up S 12 g) := fun k hk => up_n _ _ (by omega)
def cpF (ops : List Op) (nc : Nat → Nat) (r cl : Nat) : Nat × List Op × (Nat → Nat) := if cluF r = cl then (r, ops, nc) else (8 + 4 * cl + nc cl, ops ++ [(9, 8 + 4 * cl + nc cl, r, r, 0)], va_up nc cl ((nc cl + 1) % 4))
def lowS (p : List Op × (Nat → Nat)) (o d a b i : Nat) : List Op × (Nat → Nat) :=
  ((if o ≤ 5 then cpF (cpF p.1 p.2 a (cluF d)).2.1 (cpF p.1 p.2 a (cluF d)).2.2 b (cluF d) else cpF p.1 p.2 a (cluF d)).2.1 ++ [(o, d, (cpF p.1 p.2 a (cluF d)).1, (if o ≤ 5 then cpF (cpF p.1 p.2 a (cluF d)).2.1 (cpF p.1 p.2 a (cluF d)).2.2 b (cluF d) else cpF p.1 p.2 a (cluF d)).1, i)], (if o ≤ 5 then cpF (cpF p.1 p.2 a (cluF d)).2.1 (cpF p.1 p.2 a (cluF d)).2.2 b (cluF d) else cpF p.1 p.2 a (cluF d)).2.2)
/-- the lowered program of the first i instructions -/
def lowF (o d a bn : Nat → Nat) : Nat → List Op × (Nat → Nat)
  | 0 => ([], fun _ => 0)
  | i + 1 => lowS (lowF o d a bn i) (o i) (d i) (a i) (bn i) i
theorem cpF_len (ops : List Op) (nc : Nat → Nat) (r cl : Nat) : (cpF ops nc r cl).2.1.length ≤ ops.length + 1 := by
  unfold cpF
  split
  · exact Nat.le_succ _
  · simp
theorem cpF_nc {ops : List Op} {nc : Nat → Nat} {r cl : Nat} (h : ∀ j, nc j ≤ 3) : ∀ j, (cpF ops nc r cl).2.2 j ≤ 3 := by
  intro j
  unfold cpF
  split
  · exact h j
  · show va_up nc cl _ j ≤ 3
    unfold va_up
    split
    · omega
    · exact h j
theorem cpF_reg {ops : List Op} {nc : Nat → Nat} {r cl : Nat} (h : ∀ j, nc j ≤ 3) (hr : r ≤ 7) (hc : cl ≤ 1) : (cpF ops nc r cl).1 ≤ 15 := by
  unfold cpF
  have := h cl
  split
  · show r ≤ 15
    omega
  · show 8 + 4 * cl + nc cl ≤ 15
    omega
theorem lowF_nc (o d a bn : Nat → Nat) : ∀ i j, (lowF o d a bn i).2 j ≤ 3
  | 0, j => Nat.zero_le _
  | i + 1, j => by
    have ih := lowF_nc o d a bn i
    show (if o i ≤ 5 then _ else _ : Nat × List Op × (Nat → Nat)).2.2 j ≤ 3
    split
    · exact cpF_nc (cpF_nc ih) j
    · exact cpF_nc ih j
theorem lowF_len (o d a bn : Nat → Nat) : ∀ i, (lowF o d a bn i).1.length ≤ 3 * i
  | 0 => Nat.zero_le _
  | i + 1 => by
    have ih := lowF_len o d a bn i
    show ((if o i ≤ 5 then _ else _ : Nat × List Op × (Nat → Nat)).2.1 ++ _).length ≤ _
    rw [List.length_append, List.length_singleton]
    have h1 := cpF_len (lowF o d a bn i).1 (lowF o d a bn i).2 (a i) (cluF (d i))
    split
    · have h2 := cpF_len (cpF (lowF o d a bn i).1 (lowF o d a bn i).2 (a i) (cluF (d i))).2.1 (cpF (lowF o d a bn i).1 (lowF o d a bn i).2 (a i) (cluF (d i))).2.2 (bn i) (cluF (d i))
      omega
    · omega
set_option maxHeartbeats 4000000 in
set_option maxRecDepth 100000 in
theorem met_X0_addOp (l : Launch) (S : St) (K o1 d1 a1 b1 n1 : Nat) (h6 : S 6 0 = nI K) (hK : K < 96) (ho : o1 < 128) (hd : d1 < 128) (ha : a1 < 128) (hb : b1 < 128) (hn : n1 < 128) : gV wX l yX0_addOp cX0_addOp 6 ({ frames := 0, cells := 0, slots := 0, locals := 0 }) [.int (nI o1), .int (nI d1), .int (nI a1), .int (nI b1), .int (nI n1)] S (fun S1 => S1 = adF S K o1 d1 a1 b1 n1) := by
  refine g_startv (own := RX0) (by decide) rfl (fun b => Nat.le_of_ble_eq_true rfl) ?_
  intro p e s m below meth c D Q T A ls C w hl
  have hl : lv_has ls 6 [(0, .ref (Q 0)), (1, .int (nI o1)), (2, .int (nI d1)), (3, .int (nI a1)), (4, .int (nI b1)), (5, .int (nI n1))] := hl
  refine lv_aload_n C.1 C.2.1 dX0_addOp_0 rfl (lv_at hl 0 rfl) ?_
  refine xg_7 C w dX0_addOp_1 ?_
  refine lv_aload_n C.1 C.2.1 dX0_addOp_4 rfl (lv_at hl 0 rfl) ?_
  refine xg_6 (v := nI K) C w h6 dX0_addOp_5 ?_
  refine lv_iload_n C.1 C.2.1 dX0_addOp_8 rfl (lv_at hl 1 rfl) ?_
  refine lv_i2b (v := nI o1) C.1 C.2.1 dX0_addOp_9 (ib_ (by omega)) ?_
  refine xs_7 (v := nI o1) C w (by omega) (nb_ (by omega)) dX0_addOp_10 (fun H locs S1 hS1 w => ?_)
  subst hS1
  refine lv_aload_n C.1 C.2.1 dX0_addOp_11 rfl (lv_at hl 0 rfl) ?_
  refine xg_8 C w dX0_addOp_12 ?_
  refine lv_aload_n C.1 C.2.1 dX0_addOp_15 rfl (lv_at hl 0 rfl) ?_
  refine xg_6 (v := nI K) C w h6 dX0_addOp_16 ?_
  refine lv_iload_n C.1 C.2.1 dX0_addOp_19 rfl (lv_at hl 2 rfl) ?_
  refine lv_i2b (v := nI d1) C.1 C.2.1 dX0_addOp_20 (ib_ (by omega)) ?_
  refine xs_8 (v := nI d1) C w (by omega) (nb_ (by omega)) dX0_addOp_21 (fun H locs S2 hS2 w => ?_)
  subst hS2
  refine lv_aload_n C.1 C.2.1 dX0_addOp_22 rfl (lv_at hl 0 rfl) ?_
  refine xg_9 C w dX0_addOp_23 ?_
  refine lv_aload_n C.1 C.2.1 dX0_addOp_26 rfl (lv_at hl 0 rfl) ?_
  refine xg_6 (v := nI K) C w h6 dX0_addOp_27 ?_
  refine lv_iload_n C.1 C.2.1 dX0_addOp_30 rfl (lv_at hl 3 rfl) ?_
  refine lv_i2b (v := nI a1) C.1 C.2.1 dX0_addOp_31 (ib_ (by omega)) ?_
  refine xs_9 (v := nI a1) C w (by omega) (nb_ (by omega)) dX0_addOp_32 (fun H locs S3 hS3 w => ?_)
  subst hS3
  refine lv_aload_n C.1 C.2.1 dX0_addOp_33 rfl (lv_at hl 0 rfl) ?_
  refine xg_10 C w dX0_addOp_34 ?_
  refine lv_aload_n C.1 C.2.1 dX0_addOp_37 rfl (lv_at hl 0 rfl) ?_
  refine xg_6 (v := nI K) C w h6 dX0_addOp_38 ?_
  refine lv_iload C.1 C.2.1 dX0_addOp_41 (lv_at hl 4 rfl) ?_
  refine lv_i2b (v := nI b1) C.1 C.2.1 dX0_addOp_43 (ib_ (by omega)) ?_
  refine xs_10 (v := nI b1) C w (by omega) (nb_ (by omega)) dX0_addOp_44 (fun H locs S4 hS4 w => ?_)
  subst hS4
  refine lv_aload_n C.1 C.2.1 dX0_addOp_45 rfl (lv_at hl 0 rfl) ?_
  refine xg_11 C w dX0_addOp_46 ?_
  refine lv_aload_n C.1 C.2.1 dX0_addOp_49 rfl (lv_at hl 0 rfl) ?_
  refine xg_6 (v := nI K) C w h6 dX0_addOp_50 ?_
  refine lv_iload C.1 C.2.1 dX0_addOp_53 (lv_at hl 5 rfl) ?_
  refine lv_i2b (v := nI n1) C.1 C.2.1 dX0_addOp_55 (ib_ (by omega)) ?_
  refine xs_11 (v := nI n1) C w (by omega) (nb_ (by omega)) dX0_addOp_56 (fun H locs S5 hS5 w => ?_)
  subst hS5
  refine lv_aload_n C.1 C.2.1 dX0_addOp_57 rfl (lv_at hl 0 rfl) ?_
  refine lv_dup C.1 C.2.1 dX0_addOp_58 rfl ?_
  refine xg_6 (v := nI K) C w h6 dX0_addOp_59 ?_
  refine n_const (v := nI 1) C dX0_addOp_62 (by decide) ?_
  refine n_iadd (v := nI (K + 1)) C dX0_addOp_63 (nI_add _ _) ?_
  refine xp_6 (v := nI (K + 1)) C w dX0_addOp_64 (fun H locs S6 hS6 w => ?_)
  subst hS6
  exact g_vret C w rfl dX0_addOp_67
set_option maxHeartbeats 4000000 in
set_option maxRecDepth 100000 in
theorem met_X0_localCopy (l : Launch) (S : St) (ops : List Op) (nc : Nat → Nat) (r cl : Nat) (hx : xMop S ops nc) (hln : ops.length < 96) (hr : r ≤ 7) (hcl : cl ≤ 1) (hnc : nc cl ≤ 3) : gM wX l yX0_localCopy cX0_localCopy 4 (some .int) ({ frames := 1, cells := 0, slots := 0, locals := 25 }) [.int (nI r), .int (nI cl)] S (fun q S1 => q = nI (cpF ops nc r cl).1 ∧ xMop S1 (cpF ops nc r cl).2.1 (cpF ops nc r cl).2.2 ∧ frL S S1) := by
  refine g_start (own := RX0) (by decide) rfl (fun b => Nat.le_of_ble_eq_true rfl) ?_
  intro p e s m below meth c D Q T A ls C w hl
  have hl : lv_has ls 4 [(0, .ref (Q 0)), (1, .int (nI r)), (2, .int (nI cl))] := hl
  have hcr := cluF_le r
  refine lv_aload_n C.1 C.2.1 dX0_localCopy_0 rfl (lv_at hl 0 rfl) ?_
  refine lv_iload_n C.1 C.2.1 dX0_localCopy_1 rfl (lv_at hl 1 rfl) ?_
  refine g_calli C w (met_X0_clusterOf l _ r (by omega)) rfl rfl cq_X0_X0_clusterOf cy_X0_clusterOf rfl rfl ⟨Nat.le_of_ble_eq_true rfl, Nat.le_of_ble_eq_true rfl⟩ ⟨Nat.zero_le _, Nat.zero_le _⟩ hl.1 rfl (Nat.le_of_ble_eq_true rfl) dX0_localCopy_2 (fun r_1 S1 H locs hp w => ?_)
  obtain ⟨rfl, rfl⟩ := hp
  refine lv_iload_n C.1 C.2.1 dX0_localCopy_5 rfl (lv_at hl 2 rfl) ?_
  refine n_icmp_ne (tgt := 11) C (by omega) (by omega) dX0_localCopy_6 (by decide) (fun c_6 => ?_) (fun c_6 => ?_)
  · skip
    refine n_bipush (v := nI 8) C dX0_localCopy_11 (by decide) ?_
    refine n_const (v := nI 4) C dX0_localCopy_13 (by decide) ?_
    refine lv_iload_n C.1 C.2.1 dX0_localCopy_14 rfl (lv_at hl 2 rfl) ?_
    refine n_imul (v := nI (4 * cl)) C dX0_localCopy_15 (pk_mul _ _) ?_
    refine n_iadd (v := nI (8 + (4 * cl))) C dX0_localCopy_16 (nI_add _ _) ?_
    refine lv_aload_n C.1 C.2.1 dX0_localCopy_17 rfl (lv_at hl 0 rfl) ?_
    refine xg_12 C w dX0_localCopy_18 ?_
    refine lv_iload_n C.1 C.2.1 dX0_localCopy_21 rfl (lv_at hl 2 rfl) ?_
    refine xl_12 (v := nI (nc cl)) C w (by omega) (hx.2.2 cl (by omega)) dX0_localCopy_22 ?_
    refine n_iadd (v := nI ((8 + (4 * cl)) + (nc cl))) C dX0_localCopy_23 (nI_add _ _) ?_
    refine lv_istore_n (lv' := [(3, .int (nI ((8 + (4 * cl)) + (nc cl)))), (0, .ref (Q 0)), (1, .int (nI r)), (2, .int (nI cl))]) C.1 C.2.1 dX0_localCopy_24 rfl hl (by decide) rfl (fun ls hl => ?_)
    refine lv_aload_n C.1 C.2.1 dX0_localCopy_25 rfl (lv_at hl 1 rfl) ?_
    refine xg_12 C w dX0_localCopy_26 ?_
    refine lv_iload_n C.1 C.2.1 dX0_localCopy_29 rfl (lv_at hl 3 rfl) ?_
    refine lv_aload_n C.1 C.2.1 dX0_localCopy_30 rfl (lv_at hl 1 rfl) ?_
    refine xg_12 C w dX0_localCopy_31 ?_
    refine lv_iload_n C.1 C.2.1 dX0_localCopy_34 rfl (lv_at hl 3 rfl) ?_
    refine xl_12 (v := nI (nc cl)) C w (by omega) (hx.2.2 cl (by omega)) dX0_localCopy_35 ?_
    refine n_const (v := nI 1) C dX0_localCopy_36 (by decide) ?_
    refine n_iadd (v := nI ((nc cl) + 1)) C dX0_localCopy_37 (nI_add _ _) ?_
    refine n_const (v := nI 3) C dX0_localCopy_38 (by decide) ?_
    refine n_iand (v := nI (((nc cl) + 1) % 4)) C dX0_localCopy_39 (pk_andN (by omega) 2 (by decide)) ?_
    refine lv_i2b (v := nI (((nc cl) + 1) % 4)) C.1 C.2.1 dX0_localCopy_40 (ib_ (by omega)) ?_
    refine xs_12 (v := nI (((nc cl) + 1) % 4)) C w (by omega) (nb_ (by omega)) dX0_localCopy_41 (fun H locs S2 hS2 w => ?_)
    subst hS2
    refine lv_aload_n C.1 C.2.1 dX0_localCopy_42 rfl (lv_at hl 1 rfl) ?_
    refine n_bipush (v := nI 9) C dX0_localCopy_43 (by decide) ?_
    refine lv_iload_n C.1 C.2.1 dX0_localCopy_45 rfl (lv_at hl 0 rfl) ?_
    refine lv_iload_n C.1 C.2.1 dX0_localCopy_46 rfl (lv_at hl 2 rfl) ?_
    refine lv_iload_n C.1 C.2.1 dX0_localCopy_47 rfl (lv_at hl 2 rfl) ?_
    refine n_const (v := nI 0) C dX0_localCopy_48 (by decide) ?_
    refine g_callv C w (met_X0_addOp l _ (ops).length 9 ((8 + (4 * cl)) + (nc cl)) r r 0 (xMop_nc hx cl ((nc cl + 1) % 4)).1 (by omega) (by omega) (by omega) (by omega) (by omega) (by omega)) rfl rfl cq_X0_X0_addOp cy_X0_addOp rfl rfl ⟨Nat.le_of_ble_eq_true rfl, Nat.le_of_ble_eq_true rfl⟩ ⟨Nat.zero_le _, Nat.zero_le _⟩ hl.1 rfl (Nat.le_of_ble_eq_true rfl) dX0_localCopy_49 (fun S3 H locs hp w => ?_)
    obtain rfl := hp
    refine lv_iload_n C.1 C.2.1 dX0_localCopy_52 rfl (lv_at hl 0 rfl) ?_
    exact g_iret (v := nI ((8 + (4 * cl)) + (nc cl))) C w (by rw [cpF, if_neg c_6]; exact ⟨rfl, xMop_add (xMop_nc hx cl ((nc cl + 1) % 4)) _ _ _ _ _, (nc_fr S _).tr (adF_fr _ _ _ _ _ _ _)⟩) dX0_localCopy_53
  · skip
    refine lv_iload_n C.1 C.2.1 dX0_localCopy_9 rfl (lv_at hl 1 rfl) ?_
    exact g_iret (v := nI r) C w (by rw [cpF, if_pos c_6]; exact ⟨rfl, hx, frL.rf S⟩) dX0_localCopy_10
set_option maxHeartbeats 4000000 in
set_option maxRecDepth 100000 in
theorem met_X0_lower (l : Launch) (S : St) (n : Nat) (o d a bn : Nat → Nat) (hs : xSrc S n o d a bn) : gV wX l yX0_lower cX0_lower 6 ({ frames := 2, cells := 0, slots := 0, locals := 48 }) [] S (fun S1 => xMop S1 (lowF o d a bn n).1 (lowF o d a bn n).2 ∧ frL S S1) := by
  refine g_startv (own := RX0) (by decide) rfl (fun b => Nat.le_of_ble_eq_true rfl) ?_
  intro p e s m below meth c D Q T A ls C w hl
  have hl : lv_has ls 6 [(0, .ref (Q 0))] := hl
  have hn24 := hs.1
  refine lv_aload_n C.1 C.2.1 dX0_lower_0 rfl (lv_at hl 0 rfl) ?_
  refine n_const (v := nI 0) C dX0_lower_1 (by decide) ?_
  refine xp_6 (v := nI 0) C w dX0_lower_2 (fun H locs S1 hS1 w => ?_)
  subst hS1
  refine lv_aload_n C.1 C.2.1 dX0_lower_5 rfl (lv_at hl 0 rfl) ?_
  refine xg_12 C w dX0_lower_6 ?_
  refine n_const (v := nI 0) C dX0_lower_9 (by decide) ?_
  refine n_const (v := nI 0) C dX0_lower_10 (by decide) ?_
  refine xs_12 (v := nI 0) C w (by decide) (nb_ (by decide)) dX0_lower_11 (fun H locs S2 hS2 w => ?_)
  subst hS2
  refine lv_aload_n C.1 C.2.1 dX0_lower_12 rfl (lv_at hl 0 rfl) ?_
  refine xg_12 C w dX0_lower_13 ?_
  refine n_const (v := nI 1) C dX0_lower_16 (by decide) ?_
  refine n_const (v := nI 0) C dX0_lower_17 (by decide) ?_
  refine xs_12 (v := nI 0) C w (by decide) (nb_ (by decide)) dX0_lower_18 (fun H locs S3 hS3 w => ?_)
  subst hS3
  refine n_const (v := nI 0) C dX0_lower_19 (by decide) ?_
  refine lv_istore_n (lv' := [(1, .int (nI 0)), (0, .ref (Q 0))]) C.1 C.2.1 dX0_lower_20 rfl hl (by decide) rfl (fun ls hl => ?_)
  refine g_loop (pcL := 21) (I := fun nM st ls H locs => ∃ (SL : St) (i : Nat), (nM = n - i) ∧ (i ≤ n) ∧ (xMop SL (lowF o d a bn i).1 (lowF o d a bn i).2) ∧ (frL S SL) ∧ (st = []) ∧ (gW wX D Q T A s SL H locs) ∧ (lv_has ls 6 [(0, .ref (Q 0)), (1, .int (nI i))])) ⟨_, 0, rfl, (Nat.zero_le _), ⟨rfl, fun j h => absurd h (Nat.not_lt_zero j), fun j hj => by rcases (show j = 0 ∨ j = 1 by omega) with rfl | rfl <;> rfl⟩, (fun k hk => by rw [up_n _ _ (by omega), up_n _ _ (by omega), up_n _ _ (by omega)]), rfl, w, lv_sub hl [1, 0] rfl⟩ (fun n_21 st_21 ls H locs ih_21 hI => ?_)
  obtain ⟨SL, i, hn_21, hi, hx, hfr, rfl, w, hl⟩ := hI
  have hs := hs.fr hfr
  have hln := lowF_len o d a bn i
  have hnc := lowF_nc o d a bn i
  have hcl := cluF_le (d i)
  refine lv_iload_n C.1 C.2.1 dX0_lower_21 rfl (lv_at hl 1 rfl) ?_
  refine lv_aload_n C.1 C.2.1 dX0_lower_22 rfl (lv_at hl 0 rfl) ?_
  refine xg_0 (v := nI n) C w hs.2.1 dX0_lower_23 ?_
  refine n_icmp_ge (tgt := 105) C (by omega) (by omega) dX0_lower_26 (by decide) (fun c_26 => ?_) (fun c_26 => ?_)
  · skip
    exact g_vret C w (by have e : i = n := (by omega); subst e; exact ⟨hx, hfr⟩) dX0_lower_105
  · skip
    obtain ⟨-, -, -, ho8, hd7, ha7, -⟩ := hs.2.2 i (by omega)
    refine lv_aload_n C.1 C.2.1 dX0_lower_29 rfl (lv_at hl 0 rfl) ?_
    refine xg_2 C w dX0_lower_30 ?_
    refine lv_iload_n C.1 C.2.1 dX0_lower_33 rfl (lv_at hl 1 rfl) ?_
    refine xl_2 (v := nI (d i)) C w (by omega) (hs.2.2 i (by omega)).2.1 dX0_lower_34 ?_
    refine lv_istore_n (lv' := [(2, .int (nI (d i))), (0, .ref (Q 0)), (1, .int (nI i))]) C.1 C.2.1 dX0_lower_35 rfl hl (by decide) rfl (fun ls hl => ?_)
    refine lv_aload_n C.1 C.2.1 dX0_lower_36 rfl (lv_at hl 1 rfl) ?_
    refine lv_iload_n C.1 C.2.1 dX0_lower_37 rfl (lv_at hl 0 rfl) ?_
    refine g_calli C w (met_X0_clusterOf l _ (d i) (by omega)) rfl rfl cq_X0_X0_clusterOf cy_X0_clusterOf rfl rfl ⟨Nat.le_of_ble_eq_true rfl, Nat.le_of_ble_eq_true rfl⟩ ⟨Nat.zero_le _, Nat.zero_le _⟩ hl.1 rfl (Nat.le_of_ble_eq_true rfl) dX0_lower_38 (fun r_4 S4 H locs hp w => ?_)
    obtain ⟨rfl, rfl⟩ := hp
    refine lv_istore_n (lv' := [(3, .int (nI (cluF (d i)))), (2, .int (nI (d i))), (0, .ref (Q 0)), (1, .int (nI i))]) C.1 C.2.1 dX0_lower_41 rfl hl (by decide) rfl (fun ls hl => ?_)
    refine lv_aload_n C.1 C.2.1 dX0_lower_42 rfl (lv_at hl 2 rfl) ?_
    refine lv_aload_n C.1 C.2.1 dX0_lower_43 rfl (lv_at hl 2 rfl) ?_
    refine xg_3 C w dX0_lower_44 ?_
    refine lv_iload_n C.1 C.2.1 dX0_lower_47 rfl (lv_at hl 3 rfl) ?_
    refine xl_3 (v := nI (a i)) C w (by omega) (hs.2.2 i (by omega)).2.2.1 dX0_lower_48 ?_
    refine lv_iload_n C.1 C.2.1 dX0_lower_49 rfl (lv_at hl 0 rfl) ?_
    refine g_calli C w (met_X0_localCopy l _ (lowF o d a bn i).1 (lowF o d a bn i).2 (a i) (cluF (d i)) hx (by omega) (by omega) (by omega) (hnc _)) rfl rfl cq_X0_X0_localCopy cy_X0_localCopy rfl rfl ⟨Nat.le_of_ble_eq_true rfl, Nat.le_of_ble_eq_true rfl⟩ ⟨Nat.zero_le _, Nat.zero_le _⟩ hl.1 rfl (Nat.le_of_ble_eq_true rfl) dX0_lower_50 (fun r_5 SA H locs hp w => ?_)
    obtain ⟨rfl, hxA, hfA⟩ := hp
    have hs := hs.fr hfA
    have hlA := cpF_len (lowF o d a bn i).1 (lowF o d a bn i).2 (a i) (cluF (d i))
    have hrA := cpF_reg (ops := (lowF o d a bn i).1) (r := a i) (cl := cluF (d i)) hnc (by omega) hcl
    refine lv_istore (lv' := [(4, .int (nI ((cpF (lowF o d a bn i).1 (lowF o d a bn i).2 (a i) (cluF (d i))).1))), (3, .int (nI (cluF (d i)))), (2, .int (nI (d i))), (0, .ref (Q 0)), (1, .int (nI i))]) C.1 C.2.1 dX0_lower_53 hl (by decide) rfl (fun ls hl => ?_)
    refine lv_aload_n C.1 C.2.1 dX0_lower_55 rfl (lv_at hl 3 rfl) ?_
    refine xg_1 C w dX0_lower_56 ?_
    refine lv_iload_n C.1 C.2.1 dX0_lower_59 rfl (lv_at hl 4 rfl) ?_
    refine xl_1 (v := nI (o i)) C w (by omega) (hs.2.2 i (by omega)).1 dX0_lower_60 ?_
    refine n_const (v := nI 5) C dX0_lower_61 (by decide) ?_
    refine n_icmp_gt (tgt := 79) C (by omega) (by decide) dX0_lower_62 (by decide) (fun c_62 => ?_) (fun c_62 => ?_)
    · skip
      refine lv_iload C.1 C.2.1 dX0_lower_79 (lv_at hl 0 rfl) ?_
      refine lv_istore (lv' := [(5, .int (nI ((cpF (lowF o d a bn i).1 (lowF o d a bn i).2 (a i) (cluF (d i))).1))), (4, .int (nI ((cpF (lowF o d a bn i).1 (lowF o d a bn i).2 (a i) (cluF (d i))).1))), (3, .int (nI (cluF (d i)))), (2, .int (nI (d i))), (0, .ref (Q 0)), (1, .int (nI i))]) C.1 C.2.1 dX0_lower_81 hl (by decide) rfl (fun ls hl => ?_)
      refine lv_aload_n C.1 C.2.1 dX0_lower_83 rfl (lv_at hl 4 rfl) ?_
      refine lv_aload_n C.1 C.2.1 dX0_lower_84 rfl (lv_at hl 4 rfl) ?_
      refine xg_1 C w dX0_lower_85 ?_
      refine lv_iload_n C.1 C.2.1 dX0_lower_88 rfl (lv_at hl 5 rfl) ?_
      refine xl_1 (v := nI (o i)) C w (by omega) (hs.2.2 i (by omega)).1 dX0_lower_89 ?_
      refine lv_iload_n C.1 C.2.1 dX0_lower_90 rfl (lv_at hl 3 rfl) ?_
      refine lv_iload C.1 C.2.1 dX0_lower_91 (lv_at hl 1 rfl) ?_
      refine lv_iload C.1 C.2.1 dX0_lower_93 (lv_at hl 0 rfl) ?_
      refine lv_iload_n C.1 C.2.1 dX0_lower_95 rfl (lv_at hl 5 rfl) ?_
      refine g_callv C w (met_X0_addOp l _ ((cpF (lowF o d a bn i).1 (lowF o d a bn i).2 (a i) (cluF (d i))).2.1).length (o i) (d i) ((cpF (lowF o d a bn i).1 (lowF o d a bn i).2 (a i) (cluF (d i))).1) ((cpF (lowF o d a bn i).1 (lowF o d a bn i).2 (a i) (cluF (d i))).1) i (hxA).1 (by omega) (by omega) (by omega) (by omega) (by omega) (by omega)) rfl rfl cq_X0_X0_addOp cy_X0_addOp rfl rfl ⟨Nat.le_of_ble_eq_true rfl, Nat.le_of_ble_eq_true rfl⟩ ⟨Nat.zero_le _, Nat.zero_le _⟩ hl.1 rfl (Nat.le_of_ble_eq_true rfl) dX0_lower_96 (fun S6 H locs hp w => ?_)
      obtain rfl := hp
      refine lv_iinc (v := nI (i + 1)) (lv' := [(1, .int (nI (i + 1))), (5, .int (nI ((cpF (lowF o d a bn i).1 (lowF o d a bn i).2 (a i) (cluF (d i))).1))), (4, .int (nI ((cpF (lowF o d a bn i).1 (lowF o d a bn i).2 (a i) (cluF (d i))).1))), (3, .int (nI (cluF (d i)))), (2, .int (nI (d i))), (0, .ref (Q 0))]) C.1 C.2.1 dX0_lower_99 hl (k := 5) rfl (nI_add i 1) (by decide) rfl (fun ls hl => ?_)
      refine lv_goto (tgt := 21) C.1 C.2.1 dX0_lower_102 (by decide) ?_
      exact ih_21 _ (by omega) _ _ _ _ ⟨_, (i + 1), rfl, (by omega), (by show xMop _ (lowS _ _ _ _ _ _).1 (lowS _ _ _ _ _ _).2; rw [lowS, if_neg (by omega)]; exact xMop_add hxA _ _ _ _ _), (hfr.tr (hfA.tr (adF_fr _ _ _ _ _ _ _))), rfl, w, lv_sub hl [5, 0] rfl⟩
    · skip
      refine lv_aload_n C.1 C.2.1 dX0_lower_65 rfl (lv_at hl 3 rfl) ?_
      refine lv_aload_n C.1 C.2.1 dX0_lower_66 rfl (lv_at hl 3 rfl) ?_
      refine xg_4 C w dX0_lower_67 ?_
      refine lv_iload_n C.1 C.2.1 dX0_lower_70 rfl (lv_at hl 4 rfl) ?_
      refine xl_4 (v := nI (bn i)) C w (by omega) ((hs.2.2 i (by omega)).2.2.2.2.2.2 (by omega)).1 dX0_lower_71 ?_
      refine lv_iload_n C.1 C.2.1 dX0_lower_72 rfl (lv_at hl 1 rfl) ?_
      have hbb := ((hs.2.2 i (by omega)).2.2.2.2.2.2 (by omega)).2
      refine g_calli C w (met_X0_localCopy l _ (cpF (lowF o d a bn i).1 (lowF o d a bn i).2 (a i) (cluF (d i))).2.1 (cpF (lowF o d a bn i).1 (lowF o d a bn i).2 (a i) (cluF (d i))).2.2 (bn i) (cluF (d i)) hxA (by omega) (by omega) (by omega) (cpF_nc hnc _)) rfl rfl cq_X0_X0_localCopy cy_X0_localCopy rfl rfl ⟨Nat.le_of_ble_eq_true rfl, Nat.le_of_ble_eq_true rfl⟩ ⟨Nat.zero_le _, Nat.zero_le _⟩ hl.1 rfl (Nat.le_of_ble_eq_true rfl) dX0_lower_73 (fun r_7 SB H locs hp w => ?_)
      obtain ⟨rfl, hxB, hfB⟩ := hp
      have hs := hs.fr hfB
      have hlB := cpF_len (cpF (lowF o d a bn i).1 (lowF o d a bn i).2 (a i) (cluF (d i))).2.1 (cpF (lowF o d a bn i).1 (lowF o d a bn i).2 (a i) (cluF (d i))).2.2 (bn i) (cluF (d i))
      have hrB := cpF_reg (ops := (cpF (lowF o d a bn i).1 (lowF o d a bn i).2 (a i) (cluF (d i))).2.1) (r := bn i) (cl := cluF (d i)) (cpF_nc (ops := (lowF o d a bn i).1) (r := a i) (cl := cluF (d i)) hnc) (by omega) hcl
      refine lv_goto (tgt := 81) C.1 C.2.1 dX0_lower_76 (by decide) ?_
      refine lv_istore (lv' := [(5, .int (nI ((cpF (cpF (lowF o d a bn i).1 (lowF o d a bn i).2 (a i) (cluF (d i))).2.1 (cpF (lowF o d a bn i).1 (lowF o d a bn i).2 (a i) (cluF (d i))).2.2 (bn i) (cluF (d i))).1))), (4, .int (nI ((cpF (lowF o d a bn i).1 (lowF o d a bn i).2 (a i) (cluF (d i))).1))), (3, .int (nI (cluF (d i)))), (2, .int (nI (d i))), (0, .ref (Q 0)), (1, .int (nI i))]) C.1 C.2.1 dX0_lower_81 hl (by decide) rfl (fun ls hl => ?_)
      refine lv_aload_n C.1 C.2.1 dX0_lower_83 rfl (lv_at hl 4 rfl) ?_
      refine lv_aload_n C.1 C.2.1 dX0_lower_84 rfl (lv_at hl 4 rfl) ?_
      refine xg_1 C w dX0_lower_85 ?_
      refine lv_iload_n C.1 C.2.1 dX0_lower_88 rfl (lv_at hl 5 rfl) ?_
      refine xl_1 (v := nI (o i)) C w (by omega) (hs.2.2 i (by omega)).1 dX0_lower_89 ?_
      refine lv_iload_n C.1 C.2.1 dX0_lower_90 rfl (lv_at hl 3 rfl) ?_
      refine lv_iload C.1 C.2.1 dX0_lower_91 (lv_at hl 1 rfl) ?_
      refine lv_iload C.1 C.2.1 dX0_lower_93 (lv_at hl 0 rfl) ?_
      refine lv_iload_n C.1 C.2.1 dX0_lower_95 rfl (lv_at hl 5 rfl) ?_
      refine g_callv C w (met_X0_addOp l _ ((cpF (cpF (lowF o d a bn i).1 (lowF o d a bn i).2 (a i) (cluF (d i))).2.1 (cpF (lowF o d a bn i).1 (lowF o d a bn i).2 (a i) (cluF (d i))).2.2 (bn i) (cluF (d i))).2.1).length (o i) (d i) ((cpF (lowF o d a bn i).1 (lowF o d a bn i).2 (a i) (cluF (d i))).1) ((cpF (cpF (lowF o d a bn i).1 (lowF o d a bn i).2 (a i) (cluF (d i))).2.1 (cpF (lowF o d a bn i).1 (lowF o d a bn i).2 (a i) (cluF (d i))).2.2 (bn i) (cluF (d i))).1) i (hxB).1 (by omega) (by omega) (by omega) (by omega) (by omega) (by omega)) rfl rfl cq_X0_X0_addOp cy_X0_addOp rfl rfl ⟨Nat.le_of_ble_eq_true rfl, Nat.le_of_ble_eq_true rfl⟩ ⟨Nat.zero_le _, Nat.zero_le _⟩ hl.1 rfl (Nat.le_of_ble_eq_true rfl) dX0_lower_96 (fun S8 H locs hp w => ?_)
      obtain rfl := hp
      refine lv_iinc (v := nI (i + 1)) (lv' := [(1, .int (nI (i + 1))), (5, .int (nI ((cpF (cpF (lowF o d a bn i).1 (lowF o d a bn i).2 (a i) (cluF (d i))).2.1 (cpF (lowF o d a bn i).1 (lowF o d a bn i).2 (a i) (cluF (d i))).2.2 (bn i) (cluF (d i))).1))), (4, .int (nI ((cpF (lowF o d a bn i).1 (lowF o d a bn i).2 (a i) (cluF (d i))).1))), (3, .int (nI (cluF (d i)))), (2, .int (nI (d i))), (0, .ref (Q 0))]) C.1 C.2.1 dX0_lower_99 hl (k := 5) rfl (nI_add i 1) (by decide) rfl (fun ls hl => ?_)
      refine lv_goto (tgt := 21) C.1 C.2.1 dX0_lower_102 (by decide) ?_
      exact ih_21 _ (by omega) _ _ _ _ ⟨_, (i + 1), rfl, (by omega), (by show xMop _ (lowS _ _ _ _ _ _).1 (lowS _ _ _ _ _ _).2; rw [lowS, if_pos (by omega)]; exact xMop_add hxB _ _ _ _ _), (hfr.tr (hfA.tr (hfB.tr (adF_fr _ _ _ _ _ _ _)))), rfl, w, lv_sub hl [5, 0] rfl⟩
end
section
/-! schedule -/
/-- a schedule c of the operations 0 .. K-1: distances kept, units apart, bounded -/
def schOK (o t lf rt : Nat → Nat) (K : Nat) (c : Nat → Nat) : Prop := (∀ i j, i < j → j < K → ∀ d, sepF o t lf rt i j = some d → c i + d ≤ c j) ∧ (∀ i j, i < j → j < K → c i = c j → unF o t i ≠ unF o t j) ∧ ∀ k, k < K → c k ≤ 3 * K
def fr2 (S S1 : St) : Prop := ∀ k, k ≠ 14 → k ≠ 15 → S1 k = S k
theorem fr2.rf (S : St) : fr2 S S := fun _ _ _ => rfl
theorem fr2.u14 {S S1 : St} (h : fr2 S S1) (g : Nat → Int32) : fr2 S (up S1 14 g) := fun k h1 h2 => (up_n _ _ h1).trans (h k h1 h2)
theorem fr2.u15 {S S1 : St} (h : fr2 S S1) (g : Nat → Int32) : fr2 S (up S1 15 g) := fun k h1 h2 => (up_n _ _ h2).trans (h k h1 h2)
theorem xOps.cg {S S1 : St} {K : Nat} {o t lf rt : Nat → Nat} (h : xOps S K o t lf rt) (e : ∀ k, 7 ≤ k → k ≤ 10 → S1 k = S k) : xOps S1 K o t lf rt := by
  obtain ⟨h1, h2⟩ := h
  refine ⟨h1, fun j hj => ?_⟩
  rw [e 7 (by omega) (by omega), e 8 (by omega) (by omega), e 9 (by omega) (by omega), e 10 (by omega) (by omega)]
  exact h2 j hj
def cntS (cy : Nat → Option Nat) : Nat → Nat
  | 0 => 0
  | k + 1 => cntS cy k + (if cy k = none then 0 else 1)
theorem cntS_le (cy : Nat → Option Nat) : ∀ K, cntS cy K ≤ K
  | 0 => Nat.le_refl _
  | k + 1 => by
    have := cntS_le cy k
    unfold cntS
    split <;> omega
theorem cntS_ex {cy : Nat → Option Nat} : ∀ {K : Nat}, cntS cy K < K → ∃ k, k < K ∧ cy k = none
  | 0, h => absurd h (Nat.not_lt_zero _)
  | k + 1, h => by
    by_cases e : cy k = none
    · exact ⟨k, Nat.lt_succ_self k, e⟩
    · unfold cntS at h
      rw [if_neg e] at h
      obtain ⟨q, h1, h2⟩ := cntS_ex (cy := cy) (K := k) (by omega)
      exact ⟨q, by omega, h2⟩
theorem cntS_all {cy : Nat → Option Nat} : ∀ {K : Nat}, cntS cy K = K → ∀ k, k < K → ∃ c, cy k = some c
  | 0, _, k, h => absurd h (Nat.not_lt_zero _)
  | K + 1, h, k, hk => by
    have hle := cntS_le cy K
    unfold cntS at h
    split at h
    · omega
    · rename_i e
      by_cases ek : k = K
      · subst ek
        exact Option.ne_none_iff_exists'.mp e
      · exact cntS_all (K := K) (by omega) k (by omega)
theorem cntS_up {cy : Nat → Option Nat} {k c : Nat} (h : cy k = none) : ∀ {K : Nat}, cntS (va_up cy k (some c)) K = cntS cy K + (if k < K then 1 else 0)
  | 0 => by simp [cntS]
  | K + 1 => by
    have ih := cntS_up (c := c) h (K := K)
    unfold cntS
    rw [ih]
    by_cases e : K = k
    · subst e
      rw [h]
      simp [va_up]
    · have : va_up cy k (some c) K = cy K := by simp [va_up, e]
      rw [this]
      by_cases e2 : k < K
      · rw [if_pos e2, if_pos (show k < K + 1 by omega)]; omega
      · rw [if_neg e2, if_neg (show ¬ k < K + 1 by omega)]; simp only [Nat.add_zero]
theorem cntS_0 {cy : Nat → Option Nat} : ∀ {K : Nat}, (∀ k, k < K → cy k = none) → cntS cy K = 0
  | 0, _ => rfl
  | K + 1, h => by
    unfold cntS
    rw [cntS_0 (K := K) (fun k hk => h k (by omega)), if_pos (h K (by omega))]
/-- the state of the scheduling loop -/
def schI (o t lf rt : Nat → Nat) (K dn : Nat) (cy : Nat → Option Nat) (mk : Nat → Nat) : Prop := cntS cy K = dn ∧ (∀ i j, i < j → j < K → ∀ d c2, sepF o t lf rt i j = some d → cy j = some c2 → ∃ c1, cy i = some c1 ∧ c1 + d ≤ c2) ∧ (∀ i j, i < j → j < K → ∀ c1, cy i = some c1 → cy j = some c1 → unF o t i ≠ unF o t j) ∧ (∀ j c1, j < K → cy j = some c1 → c1 ≤ 3 * dn) ∧ ∀ x, mk x < 128 ∧ ∀ u, (mk x).testBit u = true ↔ ∃ j, j < K ∧ cy j = some x ∧ unF o t j = u
theorem schI_0 (o t lf rt : Nat → Nat) (K : Nat) : schI o t lf rt K 0 (fun _ => none) (fun _ => 0) := by
  refine ⟨cntS_0 fun _ _ => rfl, fun i j _ _ d c2 _ h => (by cases h), fun i j _ _ c1 h => (by cases h), fun j c1 _ h => (by cases h), fun x => ⟨(by show (0 : Nat) < 128; decide), fun u => ⟨fun h => (by simp at h), fun ⟨j, _, h, _⟩ => (by cases h)⟩⟩⟩
theorem schI_step {o t lf rt : Nat → Nat} {K dn : Nat} {cy : Nat → Option Nat} {mk : Nat → Nat} (h : schI o t lf rt K dn cy mk) {k x e : Nat} (hk : k < K) (hc : cy k = none) (hf : frP o t lf rt cy k) (he : ∀ i, i < k → ∀ d c, sepF o t lf rt i k = some d → cy i = some c → c + d ≤ e) (hx : e ≤ x) (hx2 : x ≤ 3 * dn + 3) (hb : (mk x).testBit (unF o t k) = false) : schI o t lf rt K (dn + 1) (va_up cy k (some x)) (va_up mk x (mk x ||| 2 ^ unF o t k)) := by
  obtain ⟨h1, h2, h3, h4, h5⟩ := h
  have ek : va_up cy k (some x) k = some x := by simp [va_up]
  have en : ∀ j, j ≠ k → va_up cy k (some x) j = cy j := fun j hj => by simp [va_up, hj]
  have hfree : ∀ j, j < K → cy j = some x → unF o t j ≠ unF o t k := by
    intro j hj hcj eq
    have := ((h5 x).2 (unF o t k)).mpr ⟨j, hj, hcj, eq⟩
    rw [hb] at this
    cases this
  refine ⟨by rw [cntS_up hc, if_pos hk, h1], ?_, ?_, ?_, ?_⟩
  · intro i j hij hj d c2 hs hcj
    by_cases ej : j = k
    · subst ej
      rw [ek] at hcj
      cases hcj
      cases hci : cy i with
      | none => rw [hf i hij hci] at hs; cases hs
      | some c1 => exact ⟨c1, by rw [en i (by omega)]; exact hci, Nat.le_trans (he i hij d c1 hs hci) hx⟩
    · rw [en j ej] at hcj
      obtain ⟨c1, g1, g2⟩ := h2 i j hij hj d c2 hs hcj
      by_cases ei : i = k
      · subst ei
        rw [hc] at g1
        cases g1
      · exact ⟨c1, by rw [en i ei]; exact g1, g2⟩
  · intro i j hij hj c1 hci hcj
    by_cases ei : i = k
    · subst ei
      rw [ek] at hci
      rw [en j (by omega)] at hcj
      cases hci
      exact (hfree j hj hcj).symm
    · rw [en i ei] at hci
      by_cases ej : j = k
      · subst ej
        rw [ek] at hcj
        cases hcj
        exact hfree i (by omega) hci
      · rw [en j ej] at hcj
        exact h3 i j hij hj c1 hci hcj
  · intro j c1 hj hcj
    by_cases ej : j = k
    · subst ej
      rw [ek] at hcj
      cases hcj
      omega
    · rw [en j ej] at hcj
      have := h4 j c1 hj hcj
      omega
  · intro y
    by_cases ey : y = x
    · subst ey
      have e1 : va_up mk y (mk y ||| 2 ^ unF o t k) y = mk y ||| 2 ^ unF o t k := by simp [va_up]
      rw [e1]
      have hu := unF_le o t k
      refine ⟨Nat.or_lt_two_pow (n := 7) (h5 y).1 (Nat.pow_lt_pow_right (by decide) (by omega)), fun u => ?_⟩
      rw [Nat.testBit_or, Nat.testBit_two_pow, Bool.or_eq_true, decide_eq_true_eq]
      constructor
      · rintro (g | g)
        · obtain ⟨j, j1, j2, j3⟩ := ((h5 y).2 u).mp g
          have : j ≠ k := fun q => by subst q; rw [hc] at j2; cases j2
          exact ⟨j, j1, by rw [en j this]; exact j2, j3⟩
        · exact ⟨k, hk, ek, g⟩
      · rintro ⟨j, j1, j2, j3⟩
        by_cases ej : j = k
        · subst ej
          exact Or.inr j3
        · rw [en j ej] at j2
          exact Or.inl (((h5 y).2 u).mpr ⟨j, j1, j2, j3⟩)
    · have e1 : va_up mk x (mk x ||| 2 ^ unF o t k) y = mk y := by simp [va_up, ey]
      rw [e1]
      refine ⟨(h5 y).1, fun u => ?_⟩
      rw [(h5 y).2 u]
      constructor
      · rintro ⟨j, j1, j2, j3⟩
        have : j ≠ k := fun q => by subst q; rw [hc] at j2; cases j2
        exact ⟨j, j1, by rw [en j this]; exact j2, j3⟩
      · rintro ⟨j, j1, j2, j3⟩
        by_cases ej : j = k
        · subst ej
          rw [ek] at j2
          cases j2
          exact absurd rfl ey
        · rw [en j ej] at j2
          exact ⟨j, j1, j2, j3⟩
theorem and_pow0 {m u : Nat} (h : m &&& 2 ^ u = 0) : m.testBit u = false := by
  have g := congrArg (fun z => z.testBit u) h
  simpa [Nat.testBit_and, Nat.testBit_two_pow] using g
theorem and_pow1 {m u : Nat} (h : m &&& 2 ^ u ≠ 0) : m.testBit u = true := by
  cases e : m.testBit u
  · refine absurd (Nat.eq_of_testBit_eq fun i => ?_) h
    rw [Nat.testBit_and, Nat.testBit_two_pow, Nat.zero_testBit]
    by_cases ui : u = i
    · subst ui
      rw [e]
      rfl
    · simp [ui]
  · rfl
theorem schI_end {o t lf rt : Nat → Nat} {K : Nat} {cy : Nat → Option Nat} {mk : Nat → Nat} (h : schI o t lf rt K K cy mk) : ∃ c : Nat → Nat, (∀ k, k < K → cy k = some (c k)) ∧ schOK o t lf rt K c := by
  obtain ⟨h1, h2, h3, h4, h5⟩ := h
  have hall := cntS_all h1
  have hc : ∀ k, k < K → cy k = some ((cy k).getD 0) := fun k hk => by
    obtain ⟨c, e⟩ := hall k hk
    rw [e]
    rfl
  refine ⟨fun k => (cy k).getD 0, hc, fun i j hij hj d hs => ?_, fun i j hij hj e => ?_, fun k hk => h4 k _ hk (hc k hk)⟩
  · obtain ⟨c1, g1, g2⟩ := h2 i j hij hj d _ hs (hc j hj)
    show (cy i).getD 0 + d ≤ _
    rw [g1]
    exact g2
  · have e : (cy i).getD 0 = (cy j).getD 0 := e
    exact h3 i j hij hj _ (hc i (by omega)) (by rw [e]; exact hc j hj)
set_option maxHeartbeats 4000000 in
set_option maxRecDepth 100000 in
theorem met_X0_schedule (l : Launch) (S : St) (K : Nat) (o t lf rt : Nat → Nat) (hO : xOps S K o t lf rt) (h6 : S 6 0 = nI K) (hK : K ≤ 72) : gV wX l yX0_schedule cX0_schedule 5 ({ frames := 4, cells := 0, slots := 0, locals := 92 }) [] S (fun S1 => fr2 S S1 ∧ ∃ c : Nat → Nat, (∀ k, k < K → S1 14 k = nI (c k)) ∧ schOK o t lf rt K c) := by
  refine g_startv (own := RX0) (by decide) rfl (fun b => Nat.le_of_ble_eq_true rfl) ?_
  intro p e s m below meth c D Q T A ls C w hl
  have hl : lv_has ls 5 [(0, .ref (Q 0))] := hl
  refine n_const (v := nI 0) C dX0_schedule_0 (by decide) ?_
  refine lv_istore_n (lv' := [(1, .int (nI 0)), (0, .ref (Q 0))]) C.1 C.2.1 dX0_schedule_1 rfl hl (by decide) rfl (fun ls hl => ?_)
  refine g_loop (pcL := 2) (I := fun nM st ls H locs => ∃ (SL : St) (i : Nat), (nM = 400 - i) ∧ (i ≤ 400) ∧ (fr2 S SL) ∧ (∀ x, x < i → SL 15 x = nI 0) ∧ (st = []) ∧ (gW wX D Q T A s SL H locs) ∧ (lv_has ls 5 [(0, .ref (Q 0)), (1, .int (nI i))])) ⟨S, 0, rfl, (Nat.zero_le _), (fr2.rf S), (fun a h => absurd h (Nat.not_lt_zero a)), rfl, w, lv_sub hl [1, 0] rfl⟩ (fun n_2 st_2 ls H locs ih_2 hI => ?_)
  obtain ⟨SL, i, hn_2, hi, hfr, hz, rfl, w, hl⟩ := hI
  refine lv_iload_n C.1 C.2.1 dX0_schedule_2 rfl (lv_at hl 1 rfl) ?_
  refine n_sipush (v := nI 400) C dX0_schedule_3 (by decide) ?_
  refine n_icmp_ge (tgt := 22) C (by omega) (by decide) dX0_schedule_6 (by decide) (fun c_6 => ?_) (fun c_6 => ?_)
  · skip
    refine n_const (v := nI 0) C dX0_schedule_22 (by decide) ?_
    refine lv_istore_n (lv' := [(1, .int (nI 0)), (0, .ref (Q 0))]) C.1 C.2.1 dX0_schedule_23 rfl hl (by decide) rfl (fun ls hl => ?_)
    refine g_loop (pcL := 24) (I := fun nM st ls H locs => ∃ (SL : St) (i : Nat), (nM = K - i) ∧ (i ≤ K) ∧ (fr2 S SL) ∧ (∀ x, x < 400 → SL 15 x = nI 0) ∧ (∀ x, x < i → SL 14 x = -1) ∧ (st = []) ∧ (gW wX D Q T A s SL H locs) ∧ (lv_has ls 5 [(0, .ref (Q 0)), (1, .int (nI i))])) ⟨SL, 0, rfl, (Nat.zero_le _), hfr, (fun x hx => hz x (by omega)), (fun a h => absurd h (Nat.not_lt_zero a)), rfl, w, lv_sub hl [1, 0] rfl⟩ (fun n_24 st_24 ls H locs ih_24 hI => ?_)
    obtain ⟨SL, i, hn_24, hi, hfr, hz, hy, rfl, w, hl⟩ := hI
    refine lv_iload_n C.1 C.2.1 dX0_schedule_24 rfl (lv_at hl 1 rfl) ?_
    refine lv_aload_n C.1 C.2.1 dX0_schedule_25 rfl (lv_at hl 0 rfl) ?_
    refine xg_6 (v := nI K) C w ((congrFun (hfr 6 (by omega) (by omega)) 0).trans h6) dX0_schedule_26 ?_
    refine n_icmp_ge (tgt := 45) C (by omega) (by omega) dX0_schedule_29 (by decide) (fun c_29 => ?_) (fun c_29 => ?_)
    · skip
      refine n_const (v := nI 0) C dX0_schedule_45 (by decide) ?_
      refine lv_istore_n (lv' := [(1, .int (nI 0)), (0, .ref (Q 0))]) C.1 C.2.1 dX0_schedule_46 rfl hl (by decide) rfl (fun ls hl => ?_)
      refine g_loop (pcL := 47) (I := fun nM st ls H locs => ∃ (SL : St) (dd : Nat) (cy : Nat → Option Nat) (mk : Nat → Nat), (nM = K - dd) ∧ (dd ≤ K) ∧ (fr2 S SL) ∧ (schI o t lf rt K dd cy mk) ∧ (∀ j, j < K → SL 14 j = oI (cy j)) ∧ (∀ x, x < 400 → SL 15 x = nI (mk x)) ∧ (st = []) ∧ (gW wX D Q T A s SL H locs) ∧ (lv_has ls 5 [(0, .ref (Q 0)), (1, .int (nI dd))])) ⟨SL, 0, (fun _ => none), (fun _ => 0), rfl, (Nat.zero_le _), hfr, (schI_0 o t lf rt K), (fun j hj => hy j (by omega)), hz, rfl, w, lv_sub hl [1, 0] rfl⟩ (fun n_47 st_47 ls H locs ih_47 hI => ?_)
      obtain ⟨SL, dd, cy, mk, hn_47, hdd, hfr, hI, hC, hM, rfl, w, hl⟩ := hI
      refine lv_iload_n C.1 C.2.1 dX0_schedule_47 rfl (lv_at hl 1 rfl) ?_
      refine lv_aload_n C.1 C.2.1 dX0_schedule_48 rfl (lv_at hl 0 rfl) ?_
      refine xg_6 (v := nI K) C w ((congrFun (hfr 6 (by omega) (by omega)) 0).trans h6) dX0_schedule_49 ?_
      refine n_icmp_ge (tgt := 116) C (by omega) (by omega) dX0_schedule_52 (by decide) (fun c_52 => ?_) (fun c_52 => ?_)
      · skip
        exact g_vret C w (by have e : dd = K := (by omega); subst e; obtain ⟨c, g1, g2⟩ := schI_end hI; exact ⟨hfr, c, fun k hk => by rw [hC k hk, g1 k hk]; rfl, g2⟩) dX0_schedule_116
      · skip
        have hXC : xCyc SL K cy := fun j hj => ⟨hC j hj, fun n hn => by have := hI.2.2.2.1 j n hj hn; omega⟩
        have hO1 := hO.cg (S1 := SL) (fun k h1 h2 => hfr k (by omega) (by omega))
        refine lv_aload_n C.1 C.2.1 dX0_schedule_55 rfl (lv_at hl 0 rfl) ?_
        refine g_calli C w (met_X0_mostUrgent l _ K o t lf rt cy hO1 hXC ((congrFun (hfr 6 (by omega) (by omega)) 0).trans h6) (cntS_ex (by rw [hI.1]; exact c_52))) rfl rfl cq_X0_X0_mostUrgent cy_X0_mostUrgent rfl rfl ⟨Nat.le_of_ble_eq_true rfl, Nat.le_of_ble_eq_true rfl⟩ ⟨Nat.zero_le _, Nat.zero_le _⟩ hl.1 rfl (Nat.le_of_ble_eq_true rfl) dX0_schedule_56 (fun r_1 S1 H locs hp w => ?_)
        obtain ⟨k, rfl, hk, hck, hfk, rfl⟩ := hp
        refine lv_istore_n (lv' := [(2, .int (nI k)), (0, .ref (Q 0)), (1, .int (nI dd))]) C.1 C.2.1 dX0_schedule_59 rfl hl (by decide) rfl (fun ls hl => ?_)
        refine lv_aload_n C.1 C.2.1 dX0_schedule_60 rfl (lv_at hl 1 rfl) ?_
        refine lv_iload_n C.1 C.2.1 dX0_schedule_61 rfl (lv_at hl 0 rfl) ?_
        refine g_calli C w (met_X0_earliest l _ K o t lf rt cy k hO1 hXC hk (fun i hi d hd => by cases hci : cy i with | none => rw [hfk i hi hci] at hd; cases hd | some c => exact ⟨c, rfl⟩)) rfl rfl cq_X0_X0_earliest cy_X0_earliest rfl rfl ⟨Nat.le_of_ble_eq_true rfl, Nat.le_of_ble_eq_true rfl⟩ ⟨Nat.zero_le _, Nat.zero_le _⟩ hl.1 rfl (Nat.le_of_ble_eq_true rfl) dX0_schedule_62 (fun r_2 S2 H locs hp w => ?_)
        obtain ⟨e, rfl, he1, heB, rfl⟩ := hp
        have he3 := heB (3 * dd) (fun i c h1 h2 => hI.2.2.2.1 i c h1 h2)
        refine lv_istore_n (lv' := [(3, .int (nI e)), (2, .int (nI k)), (0, .ref (Q 0)), (1, .int (nI dd))]) C.1 C.2.1 dX0_schedule_65 rfl hl (by decide) rfl (fun ls hl => ?_)
        refine lv_aload_n C.1 C.2.1 dX0_schedule_66 rfl (lv_at hl 2 rfl) ?_
        refine lv_iload_n C.1 C.2.1 dX0_schedule_67 rfl (lv_at hl 1 rfl) ?_
        refine g_calli C w (met_X0_unitOf l _ K o t lf rt k hO1 hk) rfl rfl cq_X0_X0_unitOf cy_X0_unitOf rfl rfl ⟨Nat.le_of_ble_eq_true rfl, Nat.le_of_ble_eq_true rfl⟩ ⟨Nat.zero_le _, Nat.zero_le _⟩ hl.1 rfl (Nat.le_of_ble_eq_true rfl) dX0_schedule_68 (fun r_3 S3 H locs hp w => ?_)
        obtain ⟨rfl, rfl⟩ := hp
        refine lv_istore (lv' := [(4, .int (nI (2 ^ unF o t k))), (3, .int (nI e)), (2, .int (nI k)), (0, .ref (Q 0)), (1, .int (nI dd))]) C.1 C.2.1 dX0_schedule_71 hl (by decide) rfl (fun ls hl => ?_)
        refine g_loop (pcL := 73) (I := fun nM st ls H locs => ∃ (x : Nat), (nM = 3 * dd + 3 - x) ∧ (e ≤ x) ∧ (x ≤ 3 * dd + 3) ∧ (st = []) ∧ (gW wX D Q T A s SL H locs) ∧ (lv_has ls 5 [(0, .ref (Q 0)), (1, .int (nI dd)), (2, .int (nI k)), (3, .int (nI x)), (4, .int (nI (2 ^ unF o t k)))])) ⟨e, rfl, (Nat.le_refl _), (by omega), rfl, w, lv_sub hl [3, 4, 2, 1, 0] rfl⟩ (fun n_73 st_73 ls H locs ih_73 hI => ?_)
        obtain ⟨x, hn_73, hx1, hx2, rfl, w, hl⟩ := hI
        have hm7 := (hI.2.2.2.2 x).1
        refine lv_aload_n C.1 C.2.1 dX0_schedule_73 rfl (lv_at hl 0 rfl) ?_
        refine xg_15 C w dX0_schedule_74 ?_
        refine lv_iload_n C.1 C.2.1 dX0_schedule_77 rfl (lv_at hl 3 rfl) ?_
        refine xl_15 (v := nI (mk x)) C w (by omega) (hM x (by omega)) dX0_schedule_78 ?_
        refine lv_iload C.1 C.2.1 dX0_schedule_79 (lv_at hl 4 rfl) ?_
        refine n_iand (v := nI ((mk x) &&& (2 ^ unF o t k))) C dX0_schedule_81 (nx_and _ _) ?_
        refine n_if_eq (tgt := 91) C (Nat.lt_of_le_of_lt Nat.and_le_left (by omega)) dX0_schedule_82 (by decide) (fun c_82 => ?_) (fun c_82 => ?_)
        · skip
          refine lv_aload_n C.1 C.2.1 dX0_schedule_91 rfl (lv_at hl 0 rfl) ?_
          refine xg_15 C w dX0_schedule_92 ?_
          refine lv_iload_n C.1 C.2.1 dX0_schedule_95 rfl (lv_at hl 3 rfl) ?_
          refine lv_dup2_11 C.1 C.2.1 dX0_schedule_96 rfl rfl ?_
          refine xl_15 (v := nI (mk x)) C w (by omega) (hM x (by omega)) dX0_schedule_97 ?_
          refine lv_iload C.1 C.2.1 dX0_schedule_98 (lv_at hl 4 rfl) ?_
          refine n_ior (v := nI ((mk x) ||| (2 ^ unF o t k))) C dX0_schedule_100 (nx_or _ _) ?_
          refine xs_15 C w (by omega) dX0_schedule_101 (fun H locs S4 hS4 w => ?_)
          subst hS4
          refine lv_aload_n C.1 C.2.1 dX0_schedule_102 rfl (lv_at hl 0 rfl) ?_
          refine xg_14 C w dX0_schedule_103 ?_
          refine lv_iload_n C.1 C.2.1 dX0_schedule_106 rfl (lv_at hl 2 rfl) ?_
          refine lv_iload_n C.1 C.2.1 dX0_schedule_107 rfl (lv_at hl 3 rfl) ?_
          refine lv_i2s (v := nI x) C.1 C.2.1 dX0_schedule_108 (is_ (by omega)) ?_
          refine xs_14 (v := nI x) C w (by omega) (ns_ (by omega)) dX0_schedule_109 (fun H locs S5 hS5 w => ?_)
          subst hS5
          refine lv_iinc (v := nI (dd + 1)) (lv' := [(1, .int (nI (dd + 1))), (0, .ref (Q 0)), (2, .int (nI k)), (3, .int (nI x)), (4, .int (nI (2 ^ unF o t k)))]) C.1 C.2.1 dX0_schedule_110 hl (k := 1) rfl (nI_add dd 1) (by decide) rfl (fun ls hl => ?_)
          refine lv_goto (tgt := 47) C.1 C.2.1 dX0_schedule_113 (by decide) ?_
          exact ih_47 _ (by omega) _ _ _ _ ⟨_, (dd + 1), (va_up cy k (some x)), (va_up mk x (mk x ||| 2 ^ unF o t k)), rfl, (by omega), ((hfr.u15 _).u14 _), (schI_step hI hk hck hfk he1 hx1 hx2 (and_pow0 c_82)), (fun j hj => by show upd (SL 14) k (nI x) j = _; unfold upd va_up; split; rfl; exact hC j hj), (fun y hy => by show upd (SL 15) x _ y = _; unfold upd va_up; split; rfl; exact hM y hy), rfl, w, lv_sub hl [1, 0] rfl⟩
        · skip
          refine lv_iinc (v := nI (x + 1)) (lv' := [(3, .int (nI (x + 1))), (0, .ref (Q 0)), (1, .int (nI dd)), (2, .int (nI k)), (4, .int (nI (2 ^ unF o t k)))]) C.1 C.2.1 dX0_schedule_85 hl (k := 3) rfl (nI_add x 1) (by decide) rfl (fun ls hl => ?_)
          refine lv_goto (tgt := 73) C.1 C.2.1 dX0_schedule_88 (by decide) ?_
          obtain ⟨q, q1, q2, q3⟩ := ((hI.2.2.2.2 x).2 _).mp (and_pow1 c_82)
          have hq3 := hI.2.2.2.1 q x q1 q2
          exact ih_73 _ (by omega) _ _ _ _ ⟨(x + 1), rfl, (by omega), (by omega), rfl, w, lv_sub hl [1, 2, 3, 0, 4] rfl⟩
    · skip
      refine lv_aload_n C.1 C.2.1 dX0_schedule_32 rfl (lv_at hl 0 rfl) ?_
      refine xg_14 C w dX0_schedule_33 ?_
      refine lv_iload_n C.1 C.2.1 dX0_schedule_36 rfl (lv_at hl 1 rfl) ?_
      refine n_const (v := (-1)) C dX0_schedule_37 (by decide) ?_
      refine xs_14 (v := (-1)) C w (by omega) (by decide) dX0_schedule_38 (fun H locs S6 hS6 w => ?_)
      subst hS6
      refine lv_iinc (v := nI (i + 1)) (lv' := [(1, .int (nI (i + 1))), (0, .ref (Q 0))]) C.1 C.2.1 dX0_schedule_39 hl (k := 1) rfl (nI_add i 1) (by decide) rfl (fun ls hl => ?_)
      refine lv_goto (tgt := 24) C.1 C.2.1 dX0_schedule_42 (by decide) ?_
      exact ih_24 _ (by omega) _ _ _ _ ⟨_, (i + 1), rfl, (by omega), (hfr.u14 _), hz, (fun x hx => by show upd (SL 14) i (-1) x = -1; unfold upd; split; rfl; exact hy x (by omega)), rfl, w, lv_sub hl [1, 0] rfl⟩
  · skip
    refine lv_aload_n C.1 C.2.1 dX0_schedule_9 rfl (lv_at hl 0 rfl) ?_
    refine xg_15 C w dX0_schedule_10 ?_
    refine lv_iload_n C.1 C.2.1 dX0_schedule_13 rfl (lv_at hl 1 rfl) ?_
    refine n_const (v := nI 0) C dX0_schedule_14 (by decide) ?_
    refine xs_15 C w (by omega) dX0_schedule_15 (fun H locs S7 hS7 w => ?_)
    subst hS7
    refine lv_iinc (v := nI (i + 1)) (lv' := [(1, .int (nI (i + 1))), (0, .ref (Q 0))]) C.1 C.2.1 dX0_schedule_16 hl (k := 1) rfl (nI_add i 1) (by decide) rfl (fun ls hl => ?_)
    refine lv_goto (tgt := 2) C.1 C.2.1 dX0_schedule_19 (by decide) ?_
    exact ih_2 _ (by omega) _ _ _ _ ⟨_, (i + 1), rfl, (by omega), (hfr.u15 _), (fun x hx => by show upd (SL 15) i (nI 0) x = nI 0; unfold upd; split; rfl; exact hz x (by omega)), rfl, w, lv_sub hl [1, 0] rfl⟩
end
section
/-! encoding -/
def opOK (p : Op) : Prop := p.1 ≤ 9 ∧ p.2.1 ≤ 15 ∧ p.2.2.1 ≤ 15 ∧ p.2.2.2.1 ≤ 15 ∧ p.2.2.2.2 ≤ 23
def enF (p : Op) : Nat := p.1 + p.2.1 * 16 + p.2.2.1 * 256 + p.2.2.2.1 * 4096 + p.2.2.2.2 * 65536 + 1073741824
theorem or_add {a b k : Nat} (h : a < 2 ^ k) : a ||| b * 2 ^ k = a + b * 2 ^ k := by
  rw [Nat.or_comm, Nat.mul_comm b, ← Nat.two_pow_add_eq_or_of_lt h b]
  omega
theorem enF_or {p : Op} (h : opOK p) : ((((p.1 ||| p.2.1 * 2 ^ 4) ||| p.2.2.1 * 2 ^ 8) ||| p.2.2.2.1 * 2 ^ 12) ||| p.2.2.2.2 * 2 ^ 16) ||| 1073741824 = enF p := by
  obtain ⟨h1, h2, h3, h4, h5⟩ := h
  rw [or_add (k := 4) (by omega), or_add (k := 8) (by omega), or_add (k := 12) (by omega), or_add (k := 16) (by omega), show 1073741824 = 1 * 2 ^ 30 from rfl, or_add (k := 30) (by omega)]
  unfold enF
  omega
theorem enF_lt {p : Op} (h : opOK p) : enF p < 2 ^ 31 := by
  obtain ⟨h1, h2, h3, h4, h5⟩ := h
  unfold enF
  omega
/-- the words of the operations below k with cycle x -/
def wsA (ops : List Op) (c : Nat → Nat) (x : Nat) : Nat → List Nat
  | 0 => []
  | k + 1 => if c k = x then wsA ops c x k ++ [enF (ops.getD k zOp)] else wsA ops c x k
/-- a bundle: its words, the last one with the stop bit; an empty one a word by itself -/
def stp (l : List Nat) : List Nat := if l = [] then [2147483648] else l.set (l.length - 1) (l.getD (l.length - 1) 0 + 2147483648)
def wall (ops : List Op) (c : Nat → Nat) : Nat → List Nat
  | 0 => []
  | x + 1 => wall ops c x ++ stp (wsA ops c x ops.length)
def mxF (c : Nat → Nat) : Nat → Nat
  | 0 => 0
  | k + 1 => max (mxF c k) (c k + 1)
def sumL (ops : List Op) (c : Nat → Nat) (k : Nat) : Nat → Nat
  | 0 => 0
  | x + 1 => sumL ops c k x + (wsA ops c x k).length
theorem wsA_len (ops : List Op) (c : Nat → Nat) (x k : Nat) : (wsA ops c x (k + 1)).length = (wsA ops c x k).length + (if c k = x then 1 else 0) := by
  rw [wsA]
  split <;> simp
theorem sumL_s (ops : List Op) (c : Nat → Nat) (k : Nat) : ∀ x, sumL ops c (k + 1) x = sumL ops c k x + (if c k < x then 1 else 0)
  | 0 => by simp [sumL]
  | x + 1 => by
    rw [sumL, sumL, sumL_s ops c k x, wsA_len]
    by_cases e : c k = x
    · subst e
      rw [if_neg (Nat.lt_irrefl _), if_pos rfl, if_pos (Nat.lt_succ_self _)]
      omega
    · by_cases e2 : c k < x
      · rw [if_pos e2, if_neg e, if_pos (by omega)]
        omega
      · rw [if_neg e2, if_neg e, if_neg (by omega)]
        omega
theorem sumL_0 (ops : List Op) (c : Nat → Nat) : ∀ x, sumL ops c 0 x = 0
  | 0 => rfl
  | x + 1 => by rw [sumL, sumL_0 ops c x]; rfl
theorem sumL_le (ops : List Op) (c : Nat → Nat) (x : Nat) : ∀ k, sumL ops c k x ≤ k
  | 0 => by rw [sumL_0]; exact Nat.le_refl _
  | k + 1 => by
    have := sumL_le ops c x k
    rw [sumL_s]
    split <;> omega
theorem stp_len (l : List Nat) : (stp l).length ≤ l.length + 1 := by
  unfold stp
  split
  · simp
  · simp
theorem wall_len (ops : List Op) (c : Nat → Nat) : ∀ x, (wall ops c x).length ≤ x + sumL ops c ops.length x
  | 0 => Nat.le_refl _
  | x + 1 => by
    have := wall_len ops c x
    have := stp_len (wsA ops c x ops.length)
    rw [wall, List.length_append, sumL]
    omega
def xHold (f : Nat → Int32) (l : List Nat) : Prop := ∀ j, j < l.length → f j = nI (l.getD j 0)
theorem xHold_snoc {f : Nat → Int32} {l : List Nat} (h : xHold f l) (v : Nat) : xHold (upd f l.length (nI v)) (l ++ [v]) := by
  intro j hj
  rw [List.length_append, List.length_singleton] at hj
  rw [getD_snoc]
  unfold upd
  by_cases e : j = l.length
  · subst e
    simp
  · rw [if_neg e, if_pos (by omega)]
    exact h j (by omega)
theorem xHold_set {f : Nat → Int32} {l : List Nat} (h : xHold f l) (i v : Nat) : xHold (upd f i (nI v)) (l.set i v) := by
  intro j hj
  rw [List.length_set] at hj
  unfold upd
  by_cases e : j = i
  · subst e
    simp [List.getD, hj]
  · rw [if_neg e]
    have : (l.set i v).getD j 0 = l.getD j 0 := by
      simp [List.getD, List.getElem?_set_ne (Ne.symm e)]
    rw [this]
    exact h j hj
def fr3 (S S1 : St) : Prop := ∀ k, k ≠ 16 → k ≠ 17 → S1 k = S k
theorem fr3.rf (S : St) : fr3 S S := fun _ _ _ => rfl
theorem fr3.u16 {S S1 : St} (h : fr3 S S1) (g : Nat → Int32) : fr3 S (up S1 16 g) := fun k h1 h2 => (up_n _ _ h1).trans (h k h1 h2)
theorem fr3.u17 {S S1 : St} (h : fr3 S S1) (g : Nat → Int32) : fr3 S (up S1 17 g) := fun k h1 h2 => (up_n _ _ h2).trans (h k h1 h2)
theorem xMop.cg {S S1 : St} {ops : List Op} {nc : Nat → Nat} (h : xMop S ops nc) (e : ∀ k, 6 ≤ k → k ≤ 12 → S1 k = S k) : xMop S1 ops nc := by
  obtain ⟨h1, h2, h3⟩ := h
  refine ⟨by rw [e 6 (by omega) (by omega)]; exact h1, fun j hj => ?_, fun j hj => by rw [e 12 (by omega) (by omega)]; exact h3 j hj⟩
  rw [e 7 (by omega) (by omega), e 8 (by omega) (by omega), e 9 (by omega) (by omega), e 10 (by omega) (by omega), e 11 (by omega) (by omega)]
  exact h2 j hj
/-- what the code's arrays hold: the list l of words -/
def xCode (S : St) (l : List Nat) : Prop := S 16 0 = nI l.length ∧ xHold (S 17) l
theorem mxF_le {c : Nat → Nat} {B : Nat} : ∀ {k : Nat}, (∀ j, j < k → c j ≤ B) → mxF c k ≤ B + 1
  | 0, _ => Nat.zero_le _
  | k + 1, h => by
    have h1 := mxF_le (k := k) (fun j hj => h j (by omega))
    have h2 := h k (by omega)
    show max (mxF c k) (c k + 1) ≤ B + 1
    omega
theorem mn_or {v : Nat} (h : v < 2147483648) : nI v ||| (-2147483648) = nI (v + 2147483648) := by
  rw [show (-2147483648 : Int32) = nI (1 * 2 ^ 31) from rfl, nx_or, or_add h]
theorem wsA_bd {ops : List Op} {c : Nat → Nat} {x : Nat} (h : ∀ j, j < ops.length → opOK (ops.getD j zOp)) : ∀ {k : Nat}, k ≤ ops.length → ∀ j, j < (wsA ops c x k).length → (wsA ops c x k).getD j 0 < 2147483648
  | 0, _, j, hj => absurd hj (Nat.not_lt_zero _)
  | k + 1, hk, j, hj => by
    have ih := wsA_bd (c := c) (x := x) h (k := k) (by omega)
    rw [wsA] at hj ⊢
    split at hj
    · rename_i e
      rw [if_pos e, getD_snoc]
      split
      · rename_i h2
        exact ih j h2
      · split
        · exact enF_lt (h k (by omega))
        · decide
    · rename_i e
      rw [if_neg e]
      exact ih j hj
theorem wsA_mono {ops : List Op} {c : Nat → Nat} {x k : Nat} : ∀ {n : Nat}, k ≤ n → (wsA ops c x k).length ≤ (wsA ops c x n).length
  | 0, h => by rw [Nat.le_zero.mp h]; exact Nat.le_refl _
  | n + 1, h => by
    by_cases e : k = n + 1
    · rw [e]; exact Nat.le_refl _
    · have := wsA_mono (ops := ops) (c := c) (x := x) (k := k) (n := n) (by omega)
      rw [wsA_len]
      omega
theorem stp_ne {l : List Nat} (h : l ≠ []) : stp l = l.set (l.length - 1) (l.getD (l.length - 1) 0 + 2147483648) := by rw [stp, if_neg h]
theorem app_last (a l : List Nat) (h : l ≠ []) : a ++ stp l = (a ++ l).set ((a ++ l).length - 1) ((a ++ l).getD ((a ++ l).length - 1) 0 + 2147483648) := by
  have hp : 0 < l.length := List.length_pos_iff.mpr h
  have e : (a ++ l).length - 1 = a.length + (l.length - 1) := by rw [List.length_append]; omega
  have e2 : (a ++ l).getD (a.length + (l.length - 1)) 0 = l.getD (l.length - 1) 0 := by simp [List.getD, List.getElem?_append_right]
  rw [stp_ne h, e, e2, List.set_append_right _ _ (by omega)]
  congr 2
  omega
section NO
variable {p : Program} {l : Launch} {e : Env} {R : Room} {s : State} {m : MethodId} {args : Array Value} {below : List Frame} {meth : Method} {c : Code} {H : Heap} {locs : List Loc} {cells slots : Nat} {QQ : State → Prop}
variable {own : String} {cc : ByteArray} {nL : Nat} {ret : Option FieldType} {pc : Nat} {ls : Array Slot} {rest : List Value} {off : Int} {tgt : Nat}
theorem no_icmp_gt {a : Nat} {x : Option Nat} (C : gC p s m args meth c own cc nL ret) (ha : a < 2 ^ 31) (hb : ∀ n, x = some n → n < 2 ^ 31) (hd : decode cc pc = .ok (.if_icmp .gt off, 3)) (ht : (pc : Int) + off = (tgt : Int)) (k1 : (∀ n, x = some n → n < a) → W p l e R s m args below meth c H locs cells slots QQ (F0 m tgt ls rest)) (k2 : (∃ n, x = some n ∧ a ≤ n) → W p l e R s m args below meth c H locs cells slots QQ (F0 m (pc + 3) ls rest)) : W p l e R s m args below meth c H locs cells slots QQ (F0 m pc ls (.int (oI x) :: .int (nI a) :: rest)) := by
  refine lv_icmp_gt C.1 C.2.1 hd ht (fun h => ?_) (fun h => ?_)
  · refine k1 fun n hn => ?_
    subst hn
    exact (nI_ltI (hb n rfl) ha).mp h
  · cases x with
    | none =>
      refine absurd ?_ h
      rw [Int32.lt_iff_toInt_lt, nI_toInt ha]
      show (-1 : Int) < a
      omega
    | some n => exact k2 ⟨n, rfl, Nat.le_of_not_lt fun q => h ((nI_ltI (hb n rfl) ha).mpr q)⟩
end NO
set_option maxHeartbeats 4000000 in
set_option maxRecDepth 100000 in
theorem met_X0_encoded (l : Launch) (S : St) (ops : List Op) (nc : Nat → Nat) (k : Nat) (hx : xMop S ops nc) (hln : ops.length ≤ 96) (hk : k < ops.length) (hok : opOK (ops.getD k zOp)) : gM wX l yX0_encoded cX0_encoded 2 (some .int) ({ frames := 0, cells := 0, slots := 0, locals := 0 }) [.int (nI k)] S (fun r S1 => r = nI (enF (ops.getD k zOp)) ∧ S = S1) := by
  refine g_start (own := RX0) (by decide) rfl (fun b => Nat.le_of_ble_eq_true rfl) ?_
  intro p e s m below meth c D Q T A ls C w hl
  have hl : lv_has ls 2 [(0, .ref (Q 0)), (1, .int (nI k))] := hl
  have hok1 := hok
  obtain ⟨h1, h2, h3, h4, h5⟩ := hok1
  refine lv_aload_n C.1 C.2.1 dX0_encoded_0 rfl (lv_at hl 0 rfl) ?_
  refine xg_7 C w dX0_encoded_1 ?_
  refine lv_iload_n C.1 C.2.1 dX0_encoded_4 rfl (lv_at hl 1 rfl) ?_
  refine xl_7 (v := nI ((ops.getD k zOp).1)) C w (by omega) (hx.2.1 k (by omega)).1 dX0_encoded_5 ?_
  refine lv_aload_n C.1 C.2.1 dX0_encoded_6 rfl (lv_at hl 0 rfl) ?_
  refine xg_8 C w dX0_encoded_7 ?_
  refine lv_iload_n C.1 C.2.1 dX0_encoded_10 rfl (lv_at hl 1 rfl) ?_
  refine xl_8 (v := nI ((ops.getD k zOp).2.1)) C w (by omega) (hx.2.1 k (by omega)).2.1 dX0_encoded_11 ?_
  refine n_const (v := nI 4) C dX0_encoded_12 (by decide) ?_
  refine n_ishl (v := nI (((ops.getD k zOp).2.1) * 2 ^ 4)) C dX0_encoded_13 (nx_shl (by decide) (by omega)) ?_
  refine n_ior (v := nI (((ops.getD k zOp).1) ||| (((ops.getD k zOp).2.1) * 2 ^ 4))) C dX0_encoded_14 (nx_or _ _) ?_
  refine lv_aload_n C.1 C.2.1 dX0_encoded_15 rfl (lv_at hl 0 rfl) ?_
  refine xg_9 C w dX0_encoded_16 ?_
  refine lv_iload_n C.1 C.2.1 dX0_encoded_19 rfl (lv_at hl 1 rfl) ?_
  refine xl_9 (v := nI ((ops.getD k zOp).2.2.1)) C w (by omega) (hx.2.1 k (by omega)).2.2.1 dX0_encoded_20 ?_
  refine n_bipush (v := nI 8) C dX0_encoded_21 (by decide) ?_
  refine n_ishl (v := nI (((ops.getD k zOp).2.2.1) * 2 ^ 8)) C dX0_encoded_23 (nx_shl (by decide) (by omega)) ?_
  refine n_ior (v := nI ((((ops.getD k zOp).1) ||| (((ops.getD k zOp).2.1) * 2 ^ 4)) ||| (((ops.getD k zOp).2.2.1) * 2 ^ 8))) C dX0_encoded_24 (nx_or _ _) ?_
  refine lv_aload_n C.1 C.2.1 dX0_encoded_25 rfl (lv_at hl 0 rfl) ?_
  refine xg_10 C w dX0_encoded_26 ?_
  refine lv_iload_n C.1 C.2.1 dX0_encoded_29 rfl (lv_at hl 1 rfl) ?_
  refine xl_10 (v := nI ((ops.getD k zOp).2.2.2.1)) C w (by omega) (hx.2.1 k (by omega)).2.2.2.1 dX0_encoded_30 ?_
  refine n_bipush (v := nI 12) C dX0_encoded_31 (by decide) ?_
  refine n_ishl (v := nI (((ops.getD k zOp).2.2.2.1) * 2 ^ 12)) C dX0_encoded_33 (nx_shl (by decide) (by omega)) ?_
  refine n_ior (v := nI (((((ops.getD k zOp).1) ||| (((ops.getD k zOp).2.1) * 2 ^ 4)) ||| (((ops.getD k zOp).2.2.1) * 2 ^ 8)) ||| (((ops.getD k zOp).2.2.2.1) * 2 ^ 12))) C dX0_encoded_34 (nx_or _ _) ?_
  refine lv_aload_n C.1 C.2.1 dX0_encoded_35 rfl (lv_at hl 0 rfl) ?_
  refine xg_11 C w dX0_encoded_36 ?_
  refine lv_iload_n C.1 C.2.1 dX0_encoded_39 rfl (lv_at hl 1 rfl) ?_
  refine xl_11 (v := nI ((ops.getD k zOp).2.2.2.2)) C w (by omega) (hx.2.1 k (by omega)).2.2.2.2 dX0_encoded_40 ?_
  refine n_bipush (v := nI 16) C dX0_encoded_41 (by decide) ?_
  refine n_ishl (v := nI (((ops.getD k zOp).2.2.2.2) * 2 ^ 16)) C dX0_encoded_43 (nx_shl (by decide) (by omega)) ?_
  refine n_ior (v := nI ((((((ops.getD k zOp).1) ||| (((ops.getD k zOp).2.1) * 2 ^ 4)) ||| (((ops.getD k zOp).2.2.1) * 2 ^ 8)) ||| (((ops.getD k zOp).2.2.2.1) * 2 ^ 12)) ||| (((ops.getD k zOp).2.2.2.2) * 2 ^ 16))) C dX0_encoded_44 (nx_or _ _) ?_
  refine lv_ldc (v := nI 1073741824) C.1 C.2.1 C.2.2.2.1 (C.2.2.2.2.1 _ q210) dX0_encoded_45 ?_
  refine n_ior (v := nI (enF (ops.getD k zOp))) C dX0_encoded_47 (by rw [nx_or, enF_or hok]) ?_
  exact g_iret (v := nI (enF (ops.getD k zOp))) C w ⟨rfl, rfl⟩ dX0_encoded_48
set_option maxHeartbeats 4000000 in
set_option maxRecDepth 100000 in
theorem met_X0_encode (l : Launch) (S : St) (ops : List Op) (nc cyc : Nat → Nat) (hx : xMop S ops nc) (hln : ops.length ≤ 72) (hok : ∀ j, j < ops.length → opOK (ops.getD j zOp)) (hc : ∀ k, k < ops.length → S 14 k = nI (cyc k) ∧ cyc k ≤ 216) : gV wX l yX0_encode cX0_encode 5 ({ frames := 1, cells := 0, slots := 0, locals := 21 }) [] S (fun S1 => fr3 S S1 ∧ xCode S1 (wall ops cyc (mxF cyc ops.length))) := by
  refine g_startv (own := RX0) (by decide) rfl (fun b => Nat.le_of_ble_eq_true rfl) ?_
  intro p e s m below meth c D Q T A ls C w hl
  have hl : lv_has ls 5 [(0, .ref (Q 0))] := hl
  have hmx := mxF_le (fun j hj => (hc j hj).2)
  refine n_const (v := (-1)) C dX0_encode_0 (by decide) ?_
  refine lv_istore_n (lv' := [(1, .int ((-1))), (0, .ref (Q 0))]) C.1 C.2.1 dX0_encode_1 rfl hl (by decide) rfl (fun ls hl => ?_)
  refine n_const (v := nI 0) C dX0_encode_2 (by decide) ?_
  refine lv_istore_n (lv' := [(2, .int (nI 0)), (1, .int ((-1))), (0, .ref (Q 0))]) C.1 C.2.1 dX0_encode_3 rfl hl (by decide) rfl (fun ls hl => ?_)
  refine g_loop (pcL := 4) (I := fun nM st ls H locs => ∃ (M : Nat) (k : Nat), (nM = ops.length - k) ∧ (k ≤ ops.length) ∧ (M = mxF cyc k) ∧ (M ≤ 217) ∧ (st = []) ∧ (gW wX D Q T A s S H locs) ∧ (lv_has ls 5 [(0, .ref (Q 0)), (1, .int (oI (dn M))), (2, .int (nI k))])) ⟨0, 0, rfl, (Nat.zero_le _), rfl, (Nat.zero_le _), rfl, w, lv_sub hl [2, 1, 0] rfl⟩ (fun n_4 st_4 ls H locs ih_4 hI => ?_)
  obtain ⟨M, k, hn_4, hk, hM, hMb, rfl, w, hl⟩ := hI
  refine lv_iload_n C.1 C.2.1 dX0_encode_4 rfl (lv_at hl 2 rfl) ?_
  refine lv_aload_n C.1 C.2.1 dX0_encode_5 rfl (lv_at hl 0 rfl) ?_
  refine xg_6 (v := nI ops.length) C w hx.1 dX0_encode_6 ?_
  refine n_icmp_ge (tgt := 35) C (by omega) (by omega) dX0_encode_9 (by decide) (fun c_9 => ?_) (fun c_9 => ?_)
  · skip
    have ek : k = ops.length := by omega
    subst ek
    subst hM
    refine lv_aload_n C.1 C.2.1 dX0_encode_35 rfl (lv_at hl 0 rfl) ?_
    refine n_const (v := nI 0) C dX0_encode_36 (by decide) ?_
    refine xp_16 (v := nI 0) C w dX0_encode_37 (fun H locs S1 hS1 w => ?_)
    subst hS1
    refine n_const (v := nI 0) C dX0_encode_40 (by decide) ?_
    refine lv_istore_n (lv' := [(2, .int (nI 0)), (0, .ref (Q 0)), (1, .int (oI (dn (mxF cyc ops.length))))]) C.1 C.2.1 dX0_encode_41 rfl hl (by decide) rfl (fun ls hl => ?_)
    refine g_loop (pcL := 42) (I := fun nM st ls H locs => ∃ (SL : St) (x : Nat), (nM = mxF cyc ops.length - x) ∧ (x ≤ mxF cyc ops.length) ∧ (fr3 S SL) ∧ (xCode SL (wall ops cyc x)) ∧ (st = []) ∧ (gW wX D Q T A s SL H locs) ∧ (lv_has ls 5 [(0, .ref (Q 0)), (1, .int (oI (dn (mxF cyc ops.length)))), (2, .int (nI x))])) ⟨_, 0, rfl, (Nat.zero_le _), ((fr3.rf S).u16 _), ⟨rfl, fun j hj => absurd hj (Nat.not_lt_zero _)⟩, rfl, w, lv_sub hl [1, 2, 0] rfl⟩ (fun n_42 st_42 ls H locs ih_42 hI => ?_)
    obtain ⟨SL, x, hn_42, hxM, hfr, hcd, rfl, w, hl⟩ := hI
    have hwl := wall_len ops cyc x
    have hsl := sumL_le ops cyc x ops.length
    refine lv_iload_n C.1 C.2.1 dX0_encode_42 rfl (lv_at hl 2 rfl) ?_
    refine lv_iload_n C.1 C.2.1 dX0_encode_43 rfl (lv_at hl 1 rfl) ?_
    refine no_icmp_gt (tgt := 159) C (by omega) (fun n hn => by have := dn_some hn; omega) dX0_encode_44 (by decide) (fun c_44 => ?_) (fun c_44 => ?_)
    · skip
      exact g_vret C w (by have e : x = mxF cyc ops.length := (by cases hq : dn (mxF cyc ops.length) with | none => have := dn_none hq; omega | some n => have := dn_some hq; have := c_44 n hq; omega); rw [e] at hcd; exact ⟨hfr, hcd⟩) dX0_encode_159
    · skip
      have hx9 : x < mxF cyc ops.length := by obtain ⟨n, e1, e2⟩ := c_44; have := dn_some e1; omega
      refine lv_aload_n C.1 C.2.1 dX0_encode_47 rfl (lv_at hl 0 rfl) ?_
      refine xg_16 (v := nI ((wall ops cyc x).length)) C w hcd.1 dX0_encode_48 ?_
      refine lv_istore_n (lv' := [(3, .int (nI ((wall ops cyc x).length))), (0, .ref (Q 0)), (1, .int (oI (dn (mxF cyc ops.length)))), (2, .int (nI x))]) C.1 C.2.1 dX0_encode_51 rfl hl (by decide) rfl (fun ls hl => ?_)
      refine n_const (v := nI 0) C dX0_encode_52 (by decide) ?_
      refine lv_istore (lv' := [(4, .int (nI 0)), (3, .int (nI ((wall ops cyc x).length))), (0, .ref (Q 0)), (1, .int (oI (dn (mxF cyc ops.length)))), (2, .int (nI x))]) C.1 C.2.1 dX0_encode_53 hl (by decide) rfl (fun ls hl => ?_)
      refine g_loop (pcL := 55) (I := fun nM st ls H locs => ∃ (SM : St) (k : Nat), (nM = ops.length - k) ∧ (k ≤ ops.length) ∧ (fr3 S SM) ∧ (xCode SM ((wall ops cyc x) ++ (wsA ops cyc x k))) ∧ (st = []) ∧ (gW wX D Q T A s SM H locs) ∧ (lv_has ls 5 [(0, .ref (Q 0)), (1, .int (oI (dn (mxF cyc ops.length)))), (2, .int (nI x)), (3, .int (nI ((wall ops cyc x).length))), (4, .int (nI k))])) ⟨SL, 0, rfl, (Nat.zero_le _), hfr, (by rw [show wsA ops cyc x 0 = [] from rfl, List.append_nil]; exact hcd), rfl, w, lv_sub hl [2, 3, 4, 1, 0] rfl⟩ (fun n_55 st_55 ls H locs ih_55 hI => ?_)
      obtain ⟨SM, k, hn_55, hk, hfr, hcd, rfl, w, hl⟩ := hI
      have hls := sumL_le ops cyc (x + 1) k
      rw [sumL] at hls
      have hlk : ((wall ops cyc x) ++ (wsA ops cyc x k)).length ≤ 400 := by
        have h1 := sumL_le ops cyc (x + 1) ops.length
        have h2 : (wsA ops cyc x k).length ≤ (wsA ops cyc x ops.length).length := wsA_mono hk
        rw [sumL] at h1
        rw [List.length_append]
        omega
      refine lv_iload C.1 C.2.1 dX0_encode_55 (lv_at hl 4 rfl) ?_
      refine lv_aload_n C.1 C.2.1 dX0_encode_57 rfl (lv_at hl 0 rfl) ?_
      refine xg_6 (v := nI ops.length) C w ((congrFun (hfr 6 (by omega) (by omega)) 0).trans hx.1) dX0_encode_58 ?_
      refine n_icmp_ge (tgt := 109) C (by omega) (by omega) dX0_encode_61 (by decide) (fun c_61 => ?_) (fun c_61 => ?_)
      · skip
        have ek : k = ops.length := by omega
        rw [ek] at hcd hlk
        refine lv_aload_n C.1 C.2.1 dX0_encode_109 rfl (lv_at hl 0 rfl) ?_
        refine xg_16 (v := nI (((wall ops cyc x) ++ wsA ops cyc x ops.length).length)) C w hcd.1 dX0_encode_110 ?_
        refine lv_iload_n C.1 C.2.1 dX0_encode_113 rfl (lv_at hl 3 rfl) ?_
        refine n_icmp_ne (tgt := 137) C (by omega) (by omega) dX0_encode_114 (by decide) (fun c_114 => ?_) (fun c_114 => ?_)
        · skip
          refine lv_aload_n C.1 C.2.1 dX0_encode_137 rfl (lv_at hl 0 rfl) ?_
          refine xg_17 C w dX0_encode_138 ?_
          refine lv_aload_n C.1 C.2.1 dX0_encode_141 rfl (lv_at hl 0 rfl) ?_
          refine xg_16 (v := nI (((wall ops cyc x) ++ wsA ops cyc x ops.length).length)) C w hcd.1 dX0_encode_142 ?_
          refine n_const (v := nI 1) C dX0_encode_145 (by decide) ?_
          have hne0 : 1 ≤ ((wall ops cyc x) ++ wsA ops cyc x ops.length).length := by
            rcases Nat.eq_zero_or_pos ((wall ops cyc x) ++ wsA ops cyc x ops.length).length with q | q
            · rw [List.length_append] at c_114 q; exact absurd (by omega) c_114
            · exact q
          refine n_isub (v := nI (((wall ops cyc x) ++ wsA ops cyc x ops.length).length - 1)) C dX0_encode_146 (pk_sub (by omega)) ?_
          refine lv_dup2_11 C.1 C.2.1 dX0_encode_147 rfl rfl ?_
          refine xl_17 (v := nI (((wall ops cyc x) ++ wsA ops cyc x ops.length).getD (((wall ops cyc x) ++ wsA ops cyc x ops.length).length - 1) 0)) C w (by omega) (hcd.2 _ (by omega)) dX0_encode_148 ?_
          refine lv_ldc (v := -2147483648) C.1 C.2.1 C.2.2.2.1 (C.2.2.2.2.1 _ q211) dX0_encode_149 ?_
          have hlast : ((wall ops cyc x) ++ wsA ops cyc x ops.length).getD (((wall ops cyc x) ++ wsA ops cyc x ops.length).length - 1) 0 < 2147483648 := by
            have hne : wsA ops cyc x ops.length ≠ [] := fun q => c_114 (by rw [q, List.append_nil])
            have hp : 0 < (wsA ops cyc x ops.length).length := List.length_pos_iff.mpr hne
            have e2 : ((wall ops cyc x) ++ wsA ops cyc x ops.length).getD (((wall ops cyc x) ++ wsA ops cyc x ops.length).length - 1) 0 = (wsA ops cyc x ops.length).getD ((wsA ops cyc x ops.length).length - 1) 0 := by
              rw [List.length_append, show (wall ops cyc x).length + (wsA ops cyc x ops.length).length - 1 = (wall ops cyc x).length + ((wsA ops cyc x ops.length).length - 1) by omega]
              simp [List.getD, List.getElem?_append_right]
            rw [e2]
            exact wsA_bd hok (Nat.le_refl _) _ (by omega)
          refine n_ior (v := nI (((wall ops cyc x) ++ wsA ops cyc x ops.length).getD (((wall ops cyc x) ++ wsA ops cyc x ops.length).length - 1) 0 + 2147483648)) C dX0_encode_151 (mn_or hlast) ?_
          refine xs_17 C w (by omega) dX0_encode_152 (fun H locs S2 hS2 w => ?_)
          subst hS2
          refine lv_iinc (v := nI (x + 1)) (lv' := [(2, .int (nI (x + 1))), (0, .ref (Q 0)), (1, .int (oI (dn (mxF cyc ops.length)))), (3, .int (nI ((wall ops cyc x).length))), (4, .int (nI k))]) C.1 C.2.1 dX0_encode_153 hl (k := 2) rfl (nI_add x 1) (by decide) rfl (fun ls hl => ?_)
          refine lv_goto (tgt := 42) C.1 C.2.1 dX0_encode_156 (by decide) ?_
          have hne : wsA ops cyc x ops.length ≠ [] := fun q => c_114 (by rw [q, List.append_nil])
          have hfr9 := hfr.u17 (upd (SM 17) (((wall ops cyc x) ++ wsA ops cyc x ops.length).length - 1) (nI (((wall ops cyc x) ++ wsA ops cyc x ops.length).getD (((wall ops cyc x) ++ wsA ops cyc x ops.length).length - 1) 0 + 2147483648)))
          have hcd9 : xCode (up SM 17 (upd (SM 17) (((wall ops cyc x) ++ wsA ops cyc x ops.length).length - 1) (nI (((wall ops cyc x) ++ wsA ops cyc x ops.length).getD (((wall ops cyc x) ++ wsA ops cyc x ops.length).length - 1) 0 + 2147483648)))) (wall ops cyc (x + 1)) := ⟨(by rw [show wall ops cyc (x + 1) = (wall ops cyc x) ++ stp (wsA ops cyc x ops.length) from rfl, app_last _ _ hne, List.length_set]; exact hcd.1), (by rw [show wall ops cyc (x + 1) = (wall ops cyc x) ++ stp (wsA ops cyc x ops.length) from rfl, app_last _ _ hne]; exact xHold_set hcd.2 _ _)⟩
          exact ih_42 _ (by omega) _ _ _ _ ⟨_, (x + 1), rfl, (by omega), hfr9, hcd9, rfl, w, lv_sub hl [1, 2, 0] rfl⟩
        · skip
          refine lv_aload_n C.1 C.2.1 dX0_encode_117 rfl (lv_at hl 0 rfl) ?_
          refine xg_17 C w dX0_encode_118 ?_
          refine lv_aload_n C.1 C.2.1 dX0_encode_121 rfl (lv_at hl 0 rfl) ?_
          refine xg_16 (v := nI (((wall ops cyc x) ++ wsA ops cyc x ops.length).length)) C w hcd.1 dX0_encode_122 ?_
          refine n_const (v := nI 0) C dX0_encode_125 (by decide) ?_
          refine xs_17 C w (by omega) dX0_encode_126 (fun H locs S3 hS3 w => ?_)
          subst hS3
          refine lv_aload_n C.1 C.2.1 dX0_encode_127 rfl (lv_at hl 0 rfl) ?_
          refine lv_dup C.1 C.2.1 dX0_encode_128 rfl ?_
          refine xg_16 (v := nI (((wall ops cyc x) ++ wsA ops cyc x ops.length).length)) C w hcd.1 dX0_encode_129 ?_
          refine n_const (v := nI 1) C dX0_encode_132 (by decide) ?_
          refine n_iadd (v := nI ((((wall ops cyc x) ++ wsA ops cyc x ops.length).length) + 1)) C dX0_encode_133 (nI_add _ _) ?_
          refine xp_16 (v := nI ((((wall ops cyc x) ++ wsA ops cyc x ops.length).length) + 1)) C w dX0_encode_134 (fun H locs S4 hS4 w => ?_)
          subst hS4
          refine lv_aload_n C.1 C.2.1 dX0_encode_137 rfl (lv_at hl 0 rfl) ?_
          refine xg_17 C w dX0_encode_138 ?_
          refine lv_aload_n C.1 C.2.1 dX0_encode_141 rfl (lv_at hl 0 rfl) ?_
          refine xg_16 (v := nI (((wall ops cyc x) ++ wsA ops cyc x ops.length).length + 1)) C w rfl dX0_encode_142 ?_
          refine n_const (v := nI 1) C dX0_encode_145 (by decide) ?_
          refine n_isub (v := nI (((wall ops cyc x) ++ wsA ops cyc x ops.length).length + 1 - 1)) C dX0_encode_146 (pk_sub (by omega)) ?_
          refine lv_dup2_11 C.1 C.2.1 dX0_encode_147 rfl rfl ?_
          refine xl_17 (v := nI 0) C w (by omega) (show upd (SM 17) ((wall ops cyc x) ++ wsA ops cyc x ops.length).length (nI 0) (((wall ops cyc x) ++ wsA ops cyc x ops.length).length + 1 - 1) = nI 0 by rw [Nat.add_sub_cancel]; exact pk_us) dX0_encode_148 ?_
          refine lv_ldc (v := -2147483648) C.1 C.2.1 C.2.2.2.1 (C.2.2.2.2.1 _ q211) dX0_encode_149 ?_
          refine n_ior (v := nI (0 + 2147483648)) C dX0_encode_151 (mn_or (by decide)) ?_
          refine xs_17 C w (by omega) dX0_encode_152 (fun H locs S5 hS5 w => ?_)
          subst hS5
          refine lv_iinc (v := nI (x + 1)) (lv' := [(2, .int (nI (x + 1))), (0, .ref (Q 0)), (1, .int (oI (dn (mxF cyc ops.length)))), (3, .int (nI ((wall ops cyc x).length))), (4, .int (nI k))]) C.1 C.2.1 dX0_encode_153 hl (k := 2) rfl (nI_add x 1) (by decide) rfl (fun ls hl => ?_)
          refine lv_goto (tgt := 42) C.1 C.2.1 dX0_encode_156 (by decide) ?_
          have hne : wsA ops cyc x ops.length = [] := List.length_eq_zero_iff.mp (by rw [List.length_append] at c_114; omega)
          have hfr9 := ((hfr.u17 (upd (SM 17) ((wall ops cyc x) ++ wsA ops cyc x ops.length).length (nI 0))).u16 (fun _ => nI (((wall ops cyc x) ++ wsA ops cyc x ops.length).length + 1))).u17 (upd (upd (SM 17) ((wall ops cyc x) ++ wsA ops cyc x ops.length).length (nI 0)) (((wall ops cyc x) ++ wsA ops cyc x ops.length).length + 1 - 1) (nI (0 + 2147483648)))
          have hcd9 : xCode (up (up (up SM 17 (upd (SM 17) ((wall ops cyc x) ++ wsA ops cyc x ops.length).length (nI 0))) 16 (fun _ => nI (((wall ops cyc x) ++ wsA ops cyc x ops.length).length + 1))) 17 (upd (upd (SM 17) ((wall ops cyc x) ++ wsA ops cyc x ops.length).length (nI 0)) (((wall ops cyc x) ++ wsA ops cyc x ops.length).length + 1 - 1) (nI (0 + 2147483648)))) (wall ops cyc (x + 1)) := by
            rw [show wall ops cyc (x + 1) = (wall ops cyc x) ++ stp (wsA ops cyc x ops.length) from rfl, hne, show stp [] = [2147483648] from rfl, List.append_nil]
            have hh := hcd.2
            rw [hne, List.append_nil] at hh
            refine ⟨?_, ?_⟩
            · rw [List.length_append]; rfl
            · show xHold (upd (upd (SM 17) _ _) _ _) _
              have h1 := xHold_set (xHold_snoc hh 0) (wall ops cyc x).length 2147483648
              have e1 : ((wall ops cyc x) ++ [0]).set (wall ops cyc x).length 2147483648 = (wall ops cyc x) ++ [2147483648] := by rw [List.set_append_right _ _ (Nat.le_refl _), Nat.sub_self]; rfl
              rw [e1] at h1
              exact h1
          exact ih_42 _ (by omega) _ _ _ _ ⟨_, (x + 1), rfl, (by omega), hfr9, hcd9, rfl, w, lv_sub hl [1, 2, 0] rfl⟩
      · skip
        refine lv_aload_n C.1 C.2.1 dX0_encode_64 rfl (lv_at hl 0 rfl) ?_
        refine xg_14 C w dX0_encode_65 ?_
        refine lv_iload C.1 C.2.1 dX0_encode_68 (lv_at hl 4 rfl) ?_
        refine xl_14 (v := nI (cyc k)) C w (by omega) ((congrFun (hfr 14 (by omega) (by omega)) k).trans (hc k (by omega)).1) dX0_encode_70 ?_
        have hck := (hc k (by omega)).2
        refine lv_iload_n C.1 C.2.1 dX0_encode_71 rfl (lv_at hl 2 rfl) ?_
        refine n_icmp_eq (tgt := 78) C (by omega) (by omega) dX0_encode_72 (by decide) (fun c_72 => ?_) (fun c_72 => ?_)
        · skip
          refine lv_aload_n C.1 C.2.1 dX0_encode_78 rfl (lv_at hl 0 rfl) ?_
          refine xg_17 C w dX0_encode_79 ?_
          refine lv_aload_n C.1 C.2.1 dX0_encode_82 rfl (lv_at hl 0 rfl) ?_
          refine xg_16 (v := nI (((wall ops cyc x) ++ (wsA ops cyc x k)).length)) C w hcd.1 dX0_encode_83 ?_
          refine lv_aload_n C.1 C.2.1 dX0_encode_86 rfl (lv_at hl 0 rfl) ?_
          refine lv_iload C.1 C.2.1 dX0_encode_87 (lv_at hl 4 rfl) ?_
          refine g_calli C w (met_X0_encoded l _ ops nc k (hx.cg (fun k h1 h2 => hfr k (by omega) (by omega))) (by omega) (by omega) (hok k (by omega))) rfl rfl cq_X0_X0_encoded cy_X0_encoded rfl rfl ⟨Nat.le_of_ble_eq_true rfl, Nat.le_of_ble_eq_true rfl⟩ ⟨Nat.zero_le _, Nat.zero_le _⟩ hl.1 rfl (Nat.le_of_ble_eq_true rfl) dX0_encode_89 (fun r_6 S6 H locs hp w => ?_)
          obtain ⟨rfl, rfl⟩ := hp
          refine xs_17 C w (by omega) dX0_encode_92 (fun H locs S7 hS7 w => ?_)
          subst hS7
          refine lv_aload_n C.1 C.2.1 dX0_encode_93 rfl (lv_at hl 0 rfl) ?_
          refine lv_dup C.1 C.2.1 dX0_encode_94 rfl ?_
          refine xg_16 (v := nI (((wall ops cyc x) ++ (wsA ops cyc x k)).length)) C w hcd.1 dX0_encode_95 ?_
          refine n_const (v := nI 1) C dX0_encode_98 (by decide) ?_
          refine n_iadd (v := nI ((((wall ops cyc x) ++ (wsA ops cyc x k)).length) + 1)) C dX0_encode_99 (nI_add _ _) ?_
          refine xp_16 (v := nI ((((wall ops cyc x) ++ (wsA ops cyc x k)).length) + 1)) C w dX0_encode_100 (fun H locs S8 hS8 w => ?_)
          subst hS8
          refine lv_iinc (v := nI (k + 1)) (lv' := [(4, .int (nI (k + 1))), (0, .ref (Q 0)), (1, .int (oI (dn (mxF cyc ops.length)))), (2, .int (nI x)), (3, .int (nI ((wall ops cyc x).length)))]) C.1 C.2.1 dX0_encode_103 hl (k := 4) rfl (nI_add k 1) (by decide) rfl (fun ls hl => ?_)
          refine lv_goto (tgt := 55) C.1 C.2.1 dX0_encode_106 (by decide) ?_
          exact ih_55 _ (by omega) _ _ _ _ ⟨_, (k + 1), rfl, (by omega), ((hfr.u17 _).u16 _), (by rw [wsA, if_pos c_72, ← List.append_assoc]; exact ⟨(by show nI _ = nI _; congr 1; simp [Nat.add_assoc]), xHold_snoc hcd.2 _⟩), rfl, w, lv_sub hl [1, 2, 3, 4, 0] rfl⟩
        · skip
          refine lv_goto (tgt := 103) C.1 C.2.1 dX0_encode_75 (by decide) ?_
          refine lv_iinc (v := nI (k + 1)) (lv' := [(4, .int (nI (k + 1))), (0, .ref (Q 0)), (1, .int (oI (dn (mxF cyc ops.length)))), (2, .int (nI x)), (3, .int (nI ((wall ops cyc x).length)))]) C.1 C.2.1 dX0_encode_103 hl (k := 4) rfl (nI_add k 1) (by decide) rfl (fun ls hl => ?_)
          refine lv_goto (tgt := 55) C.1 C.2.1 dX0_encode_106 (by decide) ?_
          exact ih_55 _ (by omega) _ _ _ _ ⟨SM, (k + 1), rfl, (by omega), hfr, (by rw [wsA, if_neg c_72]; exact hcd), rfl, w, lv_sub hl [1, 2, 3, 4, 0] rfl⟩
  · skip
    refine lv_aload_n C.1 C.2.1 dX0_encode_12 rfl (lv_at hl 0 rfl) ?_
    refine xg_14 C w dX0_encode_13 ?_
    refine lv_iload_n C.1 C.2.1 dX0_encode_16 rfl (lv_at hl 2 rfl) ?_
    refine xl_14 (v := nI (cyc k)) C w (by omega) (hc k (by omega)).1 dX0_encode_17 ?_
    have hck := (hc k (by omega)).2
    refine lv_iload_n C.1 C.2.1 dX0_encode_18 rfl (lv_at hl 1 rfl) ?_
    refine no_icmp_le (tgt := 29) C (by omega) (fun n hn => by have := dn_some hn; omega) dX0_encode_19 (by decide) (fun c_19 => ?_) (fun c_19 => ?_)
    · skip
      refine lv_iinc (v := nI (k + 1)) (lv' := [(2, .int (nI (k + 1))), (0, .ref (Q 0)), (1, .int (oI (dn M)))]) C.1 C.2.1 dX0_encode_29 hl (k := 2) rfl (nI_add k 1) (by decide) rfl (fun ls hl => ?_)
      refine lv_goto (tgt := 4) C.1 C.2.1 dX0_encode_32 (by decide) ?_
      exact ih_4 _ (by omega) _ _ _ _ ⟨M, (k + 1), rfl, (by omega), (by obtain ⟨n, e1, e2⟩ := c_19; have := dn_some e1; show M = max (mxF cyc k) (cyc k + 1); omega), hMb, rfl, w, lv_sub hl [1, 2, 0] rfl⟩
    · skip
      refine lv_aload_n C.1 C.2.1 dX0_encode_22 rfl (lv_at hl 0 rfl) ?_
      refine xg_14 C w dX0_encode_23 ?_
      refine lv_iload_n C.1 C.2.1 dX0_encode_26 rfl (lv_at hl 2 rfl) ?_
      refine xl_14 (v := nI (cyc k)) C w (by omega) (hc k (by omega)).1 dX0_encode_27 ?_
      refine lv_istore_n (lv' := [(1, .int (nI (cyc k))), (0, .ref (Q 0)), (2, .int (nI k))]) C.1 C.2.1 dX0_encode_28 rfl hl (by decide) rfl (fun ls hl => ?_)
      refine lv_iinc (v := nI (k + 1)) (lv' := [(2, .int (nI (k + 1))), (1, .int (nI (cyc k))), (0, .ref (Q 0))]) C.1 C.2.1 dX0_encode_29 hl (k := 2) rfl (nI_add k 1) (by decide) rfl (fun ls hl => ?_)
      refine lv_goto (tgt := 4) C.1 C.2.1 dX0_encode_32 (by decide) ?_
      exact ih_4 _ (by omega) _ _ _ _ ⟨(cyc k + 1), (k + 1), rfl, (by omega), (by have g : M ≤ cyc k + 1 := (by cases hq : dn M with | none => have := dn_none hq; omega | some n => have := dn_some hq; have := c_19 n hq; omega); show cyc k + 1 = max (mxF cyc k) (cyc k + 1); omega), (by omega), rfl, w, lv_sub hl [2, 1, 0] rfl⟩
end
section
/-! the machine: combined, fly, landResults, issue -/
def adr (x : Int32) : Nat := x.toBitVec.toNat % 16
def comF (v : Nat) (p q : Int32) : Int32 := if v = 0 then p + q else if v = 1 then p - q else if v = 2 then p * q else if v = 3 then p ^^^ q else if p < q then 1 else 0
/-- a result in flight: target (16 and above: memory), value, the cycle in which it lands -/
abbrev Fl : Type := Nat × Int32 × Nat
def zF : Fl := (0, 0, 0)
def xFa (S : St) (fl : List Fl) : Prop := ∀ j, j < fl.length → S 22 j = nI (fl.getD j zF).1 ∧ S 23 j = (fl.getD j zF).2.1 ∧ S 24 j = nI (fl.getD j zF).2.2
def flOK (fl : List Fl) : Prop := fl.length ≤ 32 ∧ ∀ j, j < fl.length → (fl.getD j zF).1 < 32 ∧ (fl.getD j zF).2.2 < 32768
def xFl (S : St) (fl : List Fl) : Prop := S 21 0 = nI fl.length ∧ flOK fl ∧ xFa S fl
def fr4 (S S1 : St) : Prop := ∀ k, k ≠ 18 → k ≠ 19 → k ≠ 21 → k ≠ 22 → k ≠ 23 → k ≠ 24 → S1 k = S k
def fr5 (S S1 : St) : Prop := ∀ k, k ≠ 21 → k ≠ 22 → k ≠ 23 → k ≠ 24 → S1 k = S k
def lstR (now : Nat) (R : Nat → Int32) (f : Fl) : Nat → Int32 := if now < f.2.2 ∨ 16 ≤ f.1 then R else upd R f.1 f.2.1
def lstC (now : Nat) (M : Nat → Int32) (f : Fl) : Nat → Int32 := if now < f.2.2 ∨ f.1 < 16 then M else upd M (f.1 - 16) f.2.1
def kpF (now : Nat) (fl : List Fl) : List Fl := fl.filter (fun f => decide (now < f.2.2))
theorem tk_s {α : Type} (l : List α) (z : α) {k : Nat} (h : k < l.length) : l.take (k + 1) = l.take k ++ [l.getD k z] := by
  rw [List.take_succ]
  simp [List.getD, List.getElem?_eq_getElem h]
theorem kp_le (now : Nat) (l : List Fl) : (kpF now l).length ≤ l.length := List.length_filter_le _ _
theorem getD_mem {α : Type} {l : List α} {z : α} {j : Nat} (h : j < l.length) : l.getD j z ∈ l := by
  simp [List.getD, List.getElem?_eq_getElem h]
theorem flOK.of {fl l : List Fl} (h : flOK fl) (hs : ∀ f ∈ l, f ∈ fl) (hl : l.length ≤ fl.length) : flOK l := by
  refine ⟨Nat.le_trans hl h.1, fun j hj => ?_⟩
  obtain ⟨i, hi, e⟩ := List.getElem_of_mem (hs _ (getD_mem (z := zF) hj))
  have := h.2 i hi
  rw [← e]
  simpa [List.getD, List.getElem?_eq_getElem hi] using this
theorem flOK.kp {fl : List Fl} (h : flOK fl) (now : Nat) : flOK (kpF now fl) := h.of (fun f hf => (List.mem_filter.mp hf).1) (kp_le now fl)
theorem flOK.add {fl : List Fl} (h : flOK fl) {f : Fl} (hl : fl.length < 32) (h1 : f.1 < 32) (h2 : f.2.2 < 32768) : flOK (fl ++ [f]) := by
  refine ⟨by rw [List.length_append]; exact hl, fun j hj => ?_⟩
  rw [List.length_append, List.length_singleton] at hj
  rw [getD_snoc]
  split
  · rename_i q
    exact h.2 j q
  · rw [if_pos (by omega)]
    exact ⟨h1, h2⟩
theorem xFa_add {S : St} {l : List Fl} (h : xFa S l) (f : Fl) : xFa (up (up (up S 22 (upd (S 22) l.length (nI f.1))) 23 (upd (S 23) l.length f.2.1)) 24 (upd (S 24) l.length (nI f.2.2))) (l ++ [f]) := by
  intro j hj
  show upd (S 22) _ _ j = _ ∧ upd (S 23) _ _ j = _ ∧ upd (S 24) _ _ j = _
  rw [List.length_append, List.length_singleton] at hj
  rw [getD_snoc]
  by_cases e : j = l.length
  · subst e
    simp [upd]
  · rw [if_pos (by omega)]
    simp only [upd, if_neg e]
    exact h j (by omega)
theorem adr_lt (x : Int32) : adr x < 16 := Nat.mod_lt _ (by decide)
/-- what an operation flies -/
def vaF (R M : Nat → Int32) (v d : Nat) (p q nb : Int32) : Int32 := if v = 7 then M (adr (p + nb)) else if v = 5 then (if R d = 0 then q else p) else if v = 6 then p + nb else if v = 9 then p else comF v p q
def isF (R M B : Nat → Int32) (w now : Nat) : Fl := if w % 16 = 8 then (16 + adr (R (w / 256 % 16) + B (w / 65536 % 32)), R (w / 16 % 16), now + 1) else (w / 16 % 16, vaF R M (w % 16) (w / 16 % 16) (R (w / 256 % 16)) (R (w / 4096 % 16)) (B (w / 65536 % 32)), now + tm (w % 16))
theorem isF_ok (R M B : Nat → Int32) (w now : Nat) (h : now ≤ 30000) : (isF R M B w now).1 < 32 ∧ (isF R M B w now).2.2 < 32768 := by
  have h1 := adr_lt (R (w / 256 % 16) + B (w / 65536 % 32))
  have h2 := tm_le (w % 16)
  unfold isF
  split
  · exact ⟨show 16 + _ < 32 by omega, show now + 1 < 32768 by omega⟩
  · exact ⟨show w / 16 % 16 < 32 by omega, show now + tm (w % 16) < 32768 by omega⟩
theorem nx_shrB {v s : Nat} (hv : v < 2 ^ 32) (hs : s < 32) {m : Int32} (k : Nat) (hm : m.toBitVec.toNat = 2 ^ k - 1) (hk : s + k ≤ 32) : (nI v >>> (nI s &&& 31)) &&& m = nI (v / 2 ^ s % 2 ^ k) := by
  rw [pk_and _ k hm]
  congr 1
  apply Nat.eq_of_testBit_eq
  intro i
  rw [Nat.testBit_mod_two_pow, Nat.testBit_mod_two_pow, Nat.testBit_div_two_pow]
  by_cases hi : i < k
  · have e : (nI v >>> (nI s &&& 31)).toBitVec = (nI v).toBitVec.sshiftRight s := by
      rw [Int32.toBitVec_shiftRight]
      show (nI v).toBitVec.sshiftRight ((nI s &&& 31).toBitVec.smod 32).toNat = _
      rw [s_l s hs]
    rw [e, BitVec.testBit_toNat, BitVec.getLsbD_sshiftRight]
    have h3 : s + i < 32 := by omega
    have h4 : i < 32 := by omega
    have h5 : ¬ 32 ≤ i := by omega
    have e2 : (nI v).toBitVec = BitVec.ofNat 32 v := rfl
    simp [hi, h3, h4, h5, e2, ← BitVec.getLsbD_eq_getElem]
    rw [BitVec.getLsbD_ofNat, Nat.add_comm i s]
    simp [h3]
  · simp [hi]
section WD
variable {p : Program} {l : Launch} {e : Env} {R : Room} {s : State} {m : MethodId} {args : Array Value} {below : List Frame} {meth : Method} {c : Code} {H : Heap} {locs : List Loc} {cells slots : Nat} {QQ : State → Prop}
variable {own : String} {cc : ByteArray} {nL : Nat} {ret : Option FieldType} {pc : Nat} {ls : Array Slot} {rest : List Value} {off : Int} {tgt : Nat}
/-- the sign of a word -/
theorem wd_if_ge {v : Nat} (C : gC p s m args meth c own cc nL ret) (hv : v < 2 ^ 32) (hd : decode cc pc = .ok (.ifCond .ge off, 3)) (ht : (pc : Int) + off = (tgt : Int)) (k1 : v < 2147483648 → W p l e R s m args below meth c H locs cells slots QQ (F0 m tgt ls rest)) (k2 : 2147483648 ≤ v → W p l e R s m args below meth c H locs cells slots QQ (F0 m (pc + 3) ls rest)) : W p l e R s m args below meth c H locs cells slots QQ (F0 m pc ls (.int (nI v) :: rest)) := by
  refine lv_if_ge C.1 C.2.1 hd ht (fun h => k1 ?_) (fun h => k2 ?_)
  · refine Nat.lt_of_not_le fun q => ?_
    have := (nI_neg hv).mpr q
    rw [Int32.lt_iff_toInt_lt] at this
    rw [Int32.le_iff_toInt_le] at h
    omega
  · refine Nat.le_of_not_lt fun q => h ?_
    exact nI_pos' q
end WD
set_option maxHeartbeats 4000000 in
set_option maxRecDepth 100000 in
theorem met_X0_combined (l : Launch) (S : St) (v : Nat) (pp qq : Int32) (hv : v < 16) : gM wX l yX0_combined cX0_combined 4 (some .int) ({ frames := 0, cells := 0, slots := 0, locals := 0 }) [.int (nI v), .int (pp), .int (qq)] S (fun r S1 => r = comF v pp qq ∧ S = S1) := by
  refine g_start (own := RX0) (by decide) rfl (fun b => Nat.le_of_ble_eq_true rfl) ?_
  intro p e s m below meth c D Q T A ls C w hl
  have hl : lv_has ls 4 [(0, .ref (Q 0)), (1, .int (nI v)), (2, .int (pp)), (3, .int (qq))] := hl
  refine lv_iload_n C.1 C.2.1 dX0_combined_0 rfl (lv_at hl 1 rfl) ?_
  refine n_if_ne (tgt := 8) C (by omega) dX0_combined_1 (by decide) (fun c_1 => ?_) (fun c_1 => ?_)
  · skip
    refine lv_iload_n C.1 C.2.1 dX0_combined_8 rfl (lv_at hl 1 rfl) ?_
    refine n_const (v := nI 1) C dX0_combined_9 (by decide) ?_
    refine n_icmp_ne (tgt := 17) C (by omega) (by decide) dX0_combined_10 (by decide) (fun c_10 => ?_) (fun c_10 => ?_)
    · skip
      refine lv_iload_n C.1 C.2.1 dX0_combined_17 rfl (lv_at hl 1 rfl) ?_
      refine n_const (v := nI 2) C dX0_combined_18 (by decide) ?_
      refine n_icmp_ne (tgt := 26) C (by omega) (by decide) dX0_combined_19 (by decide) (fun c_19 => ?_) (fun c_19 => ?_)
      · skip
        refine lv_iload_n C.1 C.2.1 dX0_combined_26 rfl (lv_at hl 1 rfl) ?_
        refine n_const (v := nI 3) C dX0_combined_27 (by decide) ?_
        refine n_icmp_ne (tgt := 35) C (by omega) (by decide) dX0_combined_28 (by decide) (fun c_28 => ?_) (fun c_28 => ?_)
        · skip
          refine lv_iload_n C.1 C.2.1 dX0_combined_35 rfl (lv_at hl 2 rfl) ?_
          refine lv_iload_n C.1 C.2.1 dX0_combined_36 rfl (lv_at hl 3 rfl) ?_
          refine r_icmp_ge (tgt := 44) C dX0_combined_37 (by decide) (fun c_37 => ?_) (fun c_37 => ?_)
          · skip
            refine n_const (v := nI 0) C dX0_combined_44 (by decide) ?_
            exact g_iret (v := nI 0) C w ⟨by rw [comF, if_neg c_1, if_neg c_10, if_neg c_19, if_neg c_28, if_neg (Int32.not_lt.mpr c_37)]; rfl, rfl⟩ dX0_combined_45
          · skip
            refine n_const (v := nI 1) C dX0_combined_40 (by decide) ?_
            refine lv_goto (tgt := 45) C.1 C.2.1 dX0_combined_41 (by decide) ?_
            exact g_iret (v := nI 1) C w ⟨by rw [comF, if_neg c_1, if_neg c_10, if_neg c_19, if_neg c_28, if_pos (Int32.not_le.mp c_37)]; rfl, rfl⟩ dX0_combined_45
        · skip
          refine lv_iload_n C.1 C.2.1 dX0_combined_31 rfl (lv_at hl 2 rfl) ?_
          refine lv_iload_n C.1 C.2.1 dX0_combined_32 rfl (lv_at hl 3 rfl) ?_
          refine n_ixor (v := pp ^^^ qq) C dX0_combined_33 rfl ?_
          exact g_iret (v := pp ^^^ qq) C w ⟨by rw [comF, if_neg c_1, if_neg c_10, if_neg c_19, if_pos c_28], rfl⟩ dX0_combined_34
      · skip
        refine lv_iload_n C.1 C.2.1 dX0_combined_22 rfl (lv_at hl 2 rfl) ?_
        refine lv_iload_n C.1 C.2.1 dX0_combined_23 rfl (lv_at hl 3 rfl) ?_
        refine n_imul (v := pp * qq) C dX0_combined_24 rfl ?_
        exact g_iret (v := pp * qq) C w ⟨by rw [comF, if_neg c_1, if_neg c_10, if_pos c_19], rfl⟩ dX0_combined_25
    · skip
      refine lv_iload_n C.1 C.2.1 dX0_combined_13 rfl (lv_at hl 2 rfl) ?_
      refine lv_iload_n C.1 C.2.1 dX0_combined_14 rfl (lv_at hl 3 rfl) ?_
      refine n_isub (v := pp - qq) C dX0_combined_15 rfl ?_
      exact g_iret (v := pp - qq) C w ⟨by rw [comF, if_neg c_1, if_pos c_10], rfl⟩ dX0_combined_16
  · skip
    refine lv_iload_n C.1 C.2.1 dX0_combined_4 rfl (lv_at hl 2 rfl) ?_
    refine lv_iload_n C.1 C.2.1 dX0_combined_5 rfl (lv_at hl 3 rfl) ?_
    refine n_iadd (v := pp + qq) C dX0_combined_6 rfl ?_
    exact g_iret (v := pp + qq) C w ⟨by rw [comF, if_pos c_1], rfl⟩ dX0_combined_7
set_option maxHeartbeats 4000000 in
set_option maxRecDepth 100000 in
theorem met_X0_fly (l : Launch) (S : St) (fl : List Fl) (to tx now : Nat) (vv : Int32) (hF : xFl S fl) (hl1 : fl.length < 32) (hto : to < 32) (h20 : S 20 0 = nI now) (hnow : now + tx < 32768) : gV wX l yX0_fly cX0_fly 4 ({ frames := 0, cells := 0, slots := 0, locals := 0 }) [.int (nI to), .int (vv), .int (nI tx)] S (fun S1 => xFl S1 (fl ++ [(to, vv, now + tx)]) ∧ fr5 S S1) := by
  refine g_startv (own := RX0) (by decide) rfl (fun b => Nat.le_of_ble_eq_true rfl) ?_
  intro p e s m below meth c D Q T A ls C w hl
  have hl : lv_has ls 4 [(0, .ref (Q 0)), (1, .int (nI to)), (2, .int (vv)), (3, .int (nI tx))] := hl
  refine lv_aload_n C.1 C.2.1 dX0_fly_0 rfl (lv_at hl 0 rfl) ?_
  refine xg_22 C w dX0_fly_1 ?_
  refine lv_aload_n C.1 C.2.1 dX0_fly_4 rfl (lv_at hl 0 rfl) ?_
  refine xg_21 (v := nI fl.length) C w hF.1 dX0_fly_5 ?_
  refine lv_iload_n C.1 C.2.1 dX0_fly_8 rfl (lv_at hl 1 rfl) ?_
  refine lv_i2b (v := nI to) C.1 C.2.1 dX0_fly_9 (ib_ (by omega)) ?_
  refine xs_22 (v := nI to) C w (by omega) (nb_ (by omega)) dX0_fly_10 (fun H locs S1 hS1 w => ?_)
  subst hS1
  refine lv_aload_n C.1 C.2.1 dX0_fly_11 rfl (lv_at hl 0 rfl) ?_
  refine xg_23 C w dX0_fly_12 ?_
  refine lv_aload_n C.1 C.2.1 dX0_fly_15 rfl (lv_at hl 0 rfl) ?_
  refine xg_21 (v := nI fl.length) C w hF.1 dX0_fly_16 ?_
  refine lv_iload_n C.1 C.2.1 dX0_fly_19 rfl (lv_at hl 2 rfl) ?_
  refine xs_23 C w (by omega) dX0_fly_20 (fun H locs S2 hS2 w => ?_)
  subst hS2
  refine lv_aload_n C.1 C.2.1 dX0_fly_21 rfl (lv_at hl 0 rfl) ?_
  refine xg_24 C w dX0_fly_22 ?_
  refine lv_aload_n C.1 C.2.1 dX0_fly_25 rfl (lv_at hl 0 rfl) ?_
  refine xg_21 (v := nI fl.length) C w hF.1 dX0_fly_26 ?_
  refine lv_aload_n C.1 C.2.1 dX0_fly_29 rfl (lv_at hl 0 rfl) ?_
  refine xg_20 (v := nI now) C w h20 dX0_fly_30 ?_
  refine lv_iload_n C.1 C.2.1 dX0_fly_33 rfl (lv_at hl 3 rfl) ?_
  refine n_iadd (v := nI (now + tx)) C dX0_fly_34 (nI_add _ _) ?_
  refine lv_i2s (v := nI (now + tx)) C.1 C.2.1 dX0_fly_35 (is_ (by omega)) ?_
  refine xs_24 (v := nI (now + tx)) C w (by omega) (ns_ (by omega)) dX0_fly_36 (fun H locs S3 hS3 w => ?_)
  subst hS3
  refine lv_aload_n C.1 C.2.1 dX0_fly_37 rfl (lv_at hl 0 rfl) ?_
  refine lv_dup C.1 C.2.1 dX0_fly_38 rfl ?_
  refine xg_21 (v := nI fl.length) C w hF.1 dX0_fly_39 ?_
  refine n_const (v := nI 1) C dX0_fly_42 (by decide) ?_
  refine n_iadd (v := nI (fl.length + 1)) C dX0_fly_43 (nI_add _ _) ?_
  refine xp_21 (v := nI (fl.length + 1)) C w dX0_fly_44 (fun H locs S4 hS4 w => ?_)
  subst hS4
  exact g_vret C w ⟨⟨by rw [List.length_append]; rfl, hF.2.1.add hl1 hto hnow, xFa_add hF.2.2 (to, vv, now + tx)⟩, fun k h1 h2 h3 h4 => by rw [up_n _ _ h1, up_n _ _ h4, up_n _ _ h3, up_n _ _ h2]⟩ dX0_fly_47
set_option maxHeartbeats 4000000 in
set_option maxRecDepth 100000 in
theorem met_X0_landResults (l : Launch) (S : St) (fl : List Fl) (now : Nat) (hF : xFl S fl) (h20 : S 20 0 = nI now) (hnow : now < 32768) : gV wX l yX0_landResults cX0_landResults 3 ({ frames := 0, cells := 0, slots := 0, locals := 0 }) [] S (fun S1 => xFl S1 (kpF now fl) ∧ S1 18 = fl.foldl (lstR now) (S 18) ∧ S1 19 = fl.foldl (lstC now) (S 19) ∧ fr4 S S1) := by
  refine g_startv (own := RX0) (by decide) rfl (fun b => Nat.le_of_ble_eq_true rfl) ?_
  intro p e s m below meth c D Q T A ls C w hl
  have hl : lv_has ls 3 [(0, .ref (Q 0))] := hl
  have h32 := hF.2.1.1
  refine n_const (v := nI 0) C dX0_landResults_0 (by decide) ?_
  refine lv_istore_n (lv' := [(1, .int (nI 0)), (0, .ref (Q 0))]) C.1 C.2.1 dX0_landResults_1 rfl hl (by decide) rfl (fun ls hl => ?_)
  refine n_const (v := nI 0) C dX0_landResults_2 (by decide) ?_
  refine lv_istore_n (lv' := [(2, .int (nI 0)), (1, .int (nI 0)), (0, .ref (Q 0))]) C.1 C.2.1 dX0_landResults_3 rfl hl (by decide) rfl (fun ls hl => ?_)
  refine g_loop (pcL := 4) (I := fun nM st ls H locs => ∃ (SL : St) (kp : Nat) (k : Nat), (nM = fl.length - k) ∧ (k ≤ fl.length) ∧ (kp = (kpF now (fl.take k)).length) ∧ (fr4 S SL) ∧ (SL 21 0 = nI fl.length) ∧ (SL 18 = (fl.take k).foldl (lstR now) (S 18)) ∧ (SL 19 = (fl.take k).foldl (lstC now) (S 19)) ∧ (xFa SL (kpF now (fl.take k))) ∧ (∀ j, k ≤ j → j < fl.length → SL 22 j = nI (fl.getD j zF).1 ∧ SL 23 j = (fl.getD j zF).2.1 ∧ SL 24 j = nI (fl.getD j zF).2.2) ∧ (st = []) ∧ (gW wX D Q T A s SL H locs) ∧ (lv_has ls 3 [(0, .ref (Q 0)), (1, .int (nI kp)), (2, .int (nI k))])) ⟨S, 0, 0, rfl, (Nat.zero_le _), rfl, (fun _ _ _ _ _ _ _ => rfl), hF.1, rfl, rfl, (fun j hj => absurd hj (Nat.not_lt_zero _)), (fun j _ hj => hF.2.2 j hj), rfl, w, lv_sub hl [2, 1, 0] rfl⟩ (fun n_4 st_4 ls H locs ih_4 hI => ?_)
  obtain ⟨SL, kp, k, hn_4, hk, hkp, hfr, h21, hR, hMm, hA1, hA2, rfl, w, hl⟩ := hI
  have hkl : kp ≤ k := by rw [hkp]; exact Nat.le_trans (kp_le now _) (by rw [List.length_take]; omega)
  refine lv_iload_n C.1 C.2.1 dX0_landResults_4 rfl (lv_at hl 2 rfl) ?_
  refine lv_aload_n C.1 C.2.1 dX0_landResults_5 rfl (lv_at hl 0 rfl) ?_
  refine xg_21 (v := nI fl.length) C w h21 dX0_landResults_6 ?_
  refine n_icmp_ge (tgt := 124) C (by omega) (by omega) dX0_landResults_9 (by decide) (fun c_9 => ?_) (fun c_9 => ?_)
  · skip
    refine lv_aload_n C.1 C.2.1 dX0_landResults_124 rfl (lv_at hl 0 rfl) ?_
    refine lv_iload_n C.1 C.2.1 dX0_landResults_125 rfl (lv_at hl 1 rfl) ?_
    refine xp_21 (v := nI kp) C w dX0_landResults_126 (fun H locs S1 hS1 w => ?_)
    subst hS1
    exact g_vret C w (by have e : k = fl.length := (by omega); rw [e, List.take_length] at hkp hR hMm hA1; exact ⟨⟨by rw [hkp]; rfl, hF.2.1.kp now, hA1⟩, hR, hMm, fun i h1 h2 h3 h4 h5 h6 => by rw [up_n _ _ h3]; exact hfr i h1 h2 h3 h4 h5 h6⟩) dX0_landResults_129
  · skip
    have hfk := hF.2.1.2 k (by omega)
    have hfk1 := hfk.1
    have hfk2 := hfk.2
    refine lv_aload_n C.1 C.2.1 dX0_landResults_12 rfl (lv_at hl 0 rfl) ?_
    refine xg_24 C w dX0_landResults_13 ?_
    refine lv_iload_n C.1 C.2.1 dX0_landResults_16 rfl (lv_at hl 2 rfl) ?_
    refine xl_24 (v := nI ((fl.getD k zF).2.2)) C w (by omega) (hA2 k (by omega) (by omega)).2.2 dX0_landResults_17 ?_
    refine lv_aload_n C.1 C.2.1 dX0_landResults_18 rfl (lv_at hl 0 rfl) ?_
    refine xg_20 (v := nI now) C w ((congrFun (hfr 20 (by omega) (by omega) (by omega) (by omega) (by omega) (by omega)) 0).trans h20) dX0_landResults_19 ?_
    refine n_icmp_le (tgt := 67) C (by omega) (by omega) dX0_landResults_22 (by decide) (fun c_22 => ?_) (fun c_22 => ?_)
    · skip
      refine lv_aload_n C.1 C.2.1 dX0_landResults_67 rfl (lv_at hl 0 rfl) ?_
      refine xg_22 C w dX0_landResults_68 ?_
      refine lv_iload_n C.1 C.2.1 dX0_landResults_71 rfl (lv_at hl 2 rfl) ?_
      refine xl_22 (v := nI ((fl.getD k zF).1)) C w (by omega) (hA2 k (by omega) (by omega)).1 dX0_landResults_72 ?_
      refine n_bipush (v := nI 16) C dX0_landResults_73 (by decide) ?_
      refine n_icmp_lt (tgt := 101) C (by omega) (by decide) dX0_landResults_75 (by decide) (fun c_75 => ?_) (fun c_75 => ?_)
      · skip
        refine lv_aload_n C.1 C.2.1 dX0_landResults_101 rfl (lv_at hl 0 rfl) ?_
        refine xg_18 C w dX0_landResults_102 ?_
        refine lv_aload_n C.1 C.2.1 dX0_landResults_105 rfl (lv_at hl 0 rfl) ?_
        refine xg_22 C w dX0_landResults_106 ?_
        refine lv_iload_n C.1 C.2.1 dX0_landResults_109 rfl (lv_at hl 2 rfl) ?_
        refine xl_22 (v := nI ((fl.getD k zF).1)) C w (by omega) (hA2 k (by omega) (by omega)).1 dX0_landResults_110 ?_
        refine lv_aload_n C.1 C.2.1 dX0_landResults_111 rfl (lv_at hl 0 rfl) ?_
        refine xg_23 C w dX0_landResults_112 ?_
        refine lv_iload_n C.1 C.2.1 dX0_landResults_115 rfl (lv_at hl 2 rfl) ?_
        refine xl_23 (v := (fl.getD k zF).2.1) C w (by omega) (hA2 k (by omega) (by omega)).2.1 dX0_landResults_116 ?_
        refine xs_18 C w (by omega) dX0_landResults_117 (fun H locs S2 hS2 w => ?_)
        subst hS2
        refine lv_iinc (v := nI (k + 1)) (lv' := [(2, .int (nI (k + 1))), (0, .ref (Q 0)), (1, .int (nI kp))]) C.1 C.2.1 dX0_landResults_118 hl (k := 2) rfl (nI_add k 1) (by decide) rfl (fun ls hl => ?_)
        refine lv_goto (tgt := 4) C.1 C.2.1 dX0_landResults_121 (by decide) ?_
        exact ih_4 _ (by omega) _ _ _ _ ⟨(up SL 18 (upd (SL 18) (fl.getD k zF).1 (fl.getD k zF).2.1)), kp, (k + 1), rfl, (by omega), (by rw [tk_s fl zF (show k < fl.length by omega)]; rw [kpF, List.filter_append, List.length_append]; simp only [List.filter_cons, List.filter_nil, decide_eq_false (Nat.not_lt.mpr c_22), Bool.false_eq_true, if_false, List.length_nil]; exact hkp), (fun i h1 h2 h3 h4 h5 h6 => by rw [up_n _ _ h1]; exact hfr i h1 h2 h3 h4 h5 h6), h21, (by rw [tk_s fl zF (show k < fl.length by omega)]; rw [List.foldl_append]; show upd (SL 18) _ _ = lstR now _ _; rw [lstR, if_neg (fun q => q.elim (Nat.not_lt.mpr c_22) (Nat.not_le.mpr c_75)), hR]), (by rw [tk_s fl zF (show k < fl.length by omega)]; rw [List.foldl_append]; show SL 19 = lstC now _ _; rw [lstC, if_pos (Or.inr c_75)]; exact hMm), (by rw [tk_s fl zF (show k < fl.length by omega)]; rw [kpF, List.filter_append]; simp only [List.filter_cons, List.filter_nil, decide_eq_false (Nat.not_lt.mpr c_22), Bool.false_eq_true, if_false, List.append_nil]; exact hA1), (fun j h1 h2 => hA2 j (by omega) h2), rfl, w, lv_sub hl [1, 2, 0] rfl⟩
      · skip
        refine lv_aload_n C.1 C.2.1 dX0_landResults_78 rfl (lv_at hl 0 rfl) ?_
        refine xg_19 C w dX0_landResults_79 ?_
        refine lv_aload_n C.1 C.2.1 dX0_landResults_82 rfl (lv_at hl 0 rfl) ?_
        refine xg_22 C w dX0_landResults_83 ?_
        refine lv_iload_n C.1 C.2.1 dX0_landResults_86 rfl (lv_at hl 2 rfl) ?_
        refine xl_22 (v := nI ((fl.getD k zF).1)) C w (by omega) (hA2 k (by omega) (by omega)).1 dX0_landResults_87 ?_
        refine n_bipush (v := nI 16) C dX0_landResults_88 (by decide) ?_
        refine n_isub (v := nI ((fl.getD k zF).1 - 16)) C dX0_landResults_90 (pk_sub c_75) ?_
        refine lv_aload_n C.1 C.2.1 dX0_landResults_91 rfl (lv_at hl 0 rfl) ?_
        refine xg_23 C w dX0_landResults_92 ?_
        refine lv_iload_n C.1 C.2.1 dX0_landResults_95 rfl (lv_at hl 2 rfl) ?_
        refine xl_23 (v := (fl.getD k zF).2.1) C w (by omega) (hA2 k (by omega) (by omega)).2.1 dX0_landResults_96 ?_
        refine xs_19 C w (by omega) dX0_landResults_97 (fun H locs S3 hS3 w => ?_)
        subst hS3
        refine lv_goto (tgt := 118) C.1 C.2.1 dX0_landResults_98 (by decide) ?_
        refine lv_iinc (v := nI (k + 1)) (lv' := [(2, .int (nI (k + 1))), (0, .ref (Q 0)), (1, .int (nI kp))]) C.1 C.2.1 dX0_landResults_118 hl (k := 2) rfl (nI_add k 1) (by decide) rfl (fun ls hl => ?_)
        refine lv_goto (tgt := 4) C.1 C.2.1 dX0_landResults_121 (by decide) ?_
        exact ih_4 _ (by omega) _ _ _ _ ⟨(up SL 19 (upd (SL 19) ((fl.getD k zF).1 - 16) (fl.getD k zF).2.1)), kp, (k + 1), rfl, (by omega), (by rw [tk_s fl zF (show k < fl.length by omega)]; rw [kpF, List.filter_append, List.length_append]; simp only [List.filter_cons, List.filter_nil, decide_eq_false (Nat.not_lt.mpr c_22), Bool.false_eq_true, if_false, List.length_nil]; exact hkp), (fun i h1 h2 h3 h4 h5 h6 => by rw [up_n _ _ h2]; exact hfr i h1 h2 h3 h4 h5 h6), h21, (by rw [tk_s fl zF (show k < fl.length by omega)]; rw [List.foldl_append]; show SL 18 = lstR now _ _; rw [lstR, if_pos (Or.inr c_75)]; exact hR), (by rw [tk_s fl zF (show k < fl.length by omega)]; rw [List.foldl_append]; show upd (SL 19) _ _ = lstC now _ _; rw [lstC, if_neg (fun q => q.elim (Nat.not_lt.mpr c_22) (Nat.not_lt.mpr c_75)), hMm]), (by rw [tk_s fl zF (show k < fl.length by omega)]; rw [kpF, List.filter_append]; simp only [List.filter_cons, List.filter_nil, decide_eq_false (Nat.not_lt.mpr c_22), Bool.false_eq_true, if_false, List.append_nil]; exact hA1), (fun j h1 h2 => hA2 j (by omega) h2), rfl, w, lv_sub hl [1, 2, 0] rfl⟩
    · skip
      refine lv_aload_n C.1 C.2.1 dX0_landResults_25 rfl (lv_at hl 0 rfl) ?_
      refine xg_22 C w dX0_landResults_26 ?_
      refine lv_iload_n C.1 C.2.1 dX0_landResults_29 rfl (lv_at hl 1 rfl) ?_
      refine lv_aload_n C.1 C.2.1 dX0_landResults_30 rfl (lv_at hl 0 rfl) ?_
      refine xg_22 C w dX0_landResults_31 ?_
      refine lv_iload_n C.1 C.2.1 dX0_landResults_34 rfl (lv_at hl 2 rfl) ?_
      refine xl_22 (v := nI ((fl.getD k zF).1)) C w (by omega) (hA2 k (by omega) (by omega)).1 dX0_landResults_35 ?_
      refine xs_22 (v := nI ((fl.getD k zF).1)) C w (by omega) (nb_ (by omega)) dX0_landResults_36 (fun H locs S4 hS4 w => ?_)
      subst hS4
      refine lv_aload_n C.1 C.2.1 dX0_landResults_37 rfl (lv_at hl 0 rfl) ?_
      refine xg_23 C w dX0_landResults_38 ?_
      refine lv_iload_n C.1 C.2.1 dX0_landResults_41 rfl (lv_at hl 1 rfl) ?_
      refine lv_aload_n C.1 C.2.1 dX0_landResults_42 rfl (lv_at hl 0 rfl) ?_
      refine xg_23 C w dX0_landResults_43 ?_
      refine lv_iload_n C.1 C.2.1 dX0_landResults_46 rfl (lv_at hl 2 rfl) ?_
      refine xl_23 (v := (fl.getD k zF).2.1) C w (by omega) (hA2 k (by omega) (by omega)).2.1 dX0_landResults_47 ?_
      refine xs_23 C w (by omega) dX0_landResults_48 (fun H locs S5 hS5 w => ?_)
      subst hS5
      refine lv_aload_n C.1 C.2.1 dX0_landResults_49 rfl (lv_at hl 0 rfl) ?_
      refine xg_24 C w dX0_landResults_50 ?_
      refine lv_iload_n C.1 C.2.1 dX0_landResults_53 rfl (lv_at hl 1 rfl) ?_
      refine lv_aload_n C.1 C.2.1 dX0_landResults_54 rfl (lv_at hl 0 rfl) ?_
      refine xg_24 C w dX0_landResults_55 ?_
      refine lv_iload_n C.1 C.2.1 dX0_landResults_58 rfl (lv_at hl 2 rfl) ?_
      refine xl_24 (v := nI ((fl.getD k zF).2.2)) C w (by omega) (hA2 k (by omega) (by omega)).2.2 dX0_landResults_59 ?_
      refine xs_24 (v := nI ((fl.getD k zF).2.2)) C w (by omega) (ns_ (by omega)) dX0_landResults_60 (fun H locs S6 hS6 w => ?_)
      subst hS6
      refine lv_iinc (v := nI (kp + 1)) (lv' := [(1, .int (nI (kp + 1))), (0, .ref (Q 0)), (2, .int (nI k))]) C.1 C.2.1 dX0_landResults_61 hl (k := 1) rfl (nI_add kp 1) (by decide) rfl (fun ls hl => ?_)
      refine lv_goto (tgt := 118) C.1 C.2.1 dX0_landResults_64 (by decide) ?_
      refine lv_iinc (v := nI (k + 1)) (lv' := [(2, .int (nI (k + 1))), (1, .int (nI (kp + 1))), (0, .ref (Q 0))]) C.1 C.2.1 dX0_landResults_118 hl (k := 2) rfl (nI_add k 1) (by decide) rfl (fun ls hl => ?_)
      refine lv_goto (tgt := 4) C.1 C.2.1 dX0_landResults_121 (by decide) ?_
      exact ih_4 _ (by omega) _ _ _ _ ⟨(up (up (up SL 22 (upd (SL 22) kp (nI (fl.getD k zF).1))) 23 (upd (SL 23) kp (fl.getD k zF).2.1)) 24 (upd (SL 24) kp (nI (fl.getD k zF).2.2))), (kp + 1), (k + 1), rfl, (by omega), (by rw [tk_s fl zF (show k < fl.length by omega)]; rw [kpF, List.filter_append, List.length_append]; simp only [List.filter_cons, List.filter_nil, decide_eq_true c_22, if_true, List.length_singleton]; rw [hkp]; rfl), (fun i h1 h2 h3 h4 h5 h6 => by rw [up_n _ _ h6, up_n _ _ h5, up_n _ _ h4]; exact hfr i h1 h2 h3 h4 h5 h6), h21, (by rw [tk_s fl zF (show k < fl.length by omega)]; rw [List.foldl_append]; show SL 18 = lstR now _ _; rw [lstR, if_pos (Or.inl c_22)]; exact hR), (by rw [tk_s fl zF (show k < fl.length by omega)]; rw [List.foldl_append]; show SL 19 = lstC now _ _; rw [lstC, if_pos (Or.inl c_22)]; exact hMm), (by rw [tk_s fl zF (show k < fl.length by omega)]; rw [kpF, List.filter_append]; simp only [List.filter_cons, List.filter_nil, decide_eq_true c_22, if_true]; have := xFa_add hA1 (fl.getD k zF); rw [← hkp] at this; exact this), (fun j h1 h2 => by have := hA2 j (by omega) h2; show upd (SL 22) _ _ j = _ ∧ upd (SL 23) _ _ j = _ ∧ upd (SL 24) _ _ j = _; simp only [upd, if_neg (show ¬ j = kp by omega)]; exact this), rfl, w, lv_sub hl [2, 1, 0] rfl⟩
set_option maxHeartbeats 4000000 in
set_option maxRecDepth 100000 in
theorem met_X0_issue (l : Launch) (S : St) (fl : List Fl) (v now : Nat) (hv : v < 2 ^ 32) (hF : xFl S fl) (hl1 : fl.length < 32) (hn23 : v / 65536 % 32 ≤ 23) (h20 : S 20 0 = nI now) (hnow : now ≤ 30000) : gV wX l yX0_issue cX0_issue 9 ({ frames := 1, cells := 0, slots := 0, locals := 23 }) [.int (nI v)] S (fun S1 => xFl S1 (fl ++ [isF (S 18) (S 19) (S 4) v now]) ∧ fr5 S S1) := by
  refine g_startv (own := RX0) (by decide) rfl (fun b => Nat.le_of_ble_eq_true rfl) ?_
  intro p e s m below meth c D Q T A ls C w hl
  have hl : lv_has ls 9 [(0, .ref (Q 0)), (1, .int (nI v))] := hl
  have htm := tm_le (v % 16)
  have had := adr_lt (S 18 (v / 256 % 16) + S 4 (v / 65536 % 32))
  refine lv_iload_n C.1 C.2.1 dX0_issue_0 rfl (lv_at hl 1 rfl) ?_
  refine n_bipush (v := nI 15) C dX0_issue_1 (by decide) ?_
  refine n_iand (v := nI (v % 16)) C dX0_issue_3 (pk_andN (by omega) 4 (by decide)) ?_
  refine lv_istore_n (lv' := [(2, .int (nI (v % 16))), (0, .ref (Q 0)), (1, .int (nI v))]) C.1 C.2.1 dX0_issue_4 rfl hl (by decide) rfl (fun ls hl => ?_)
  refine lv_iload_n C.1 C.2.1 dX0_issue_5 rfl (lv_at hl 2 rfl) ?_
  refine n_const (v := nI 4) C dX0_issue_6 (by decide) ?_
  refine n_ishr (v := nI v >>> (nI 4 &&& 31)) C dX0_issue_7 rfl ?_
  refine n_bipush (v := nI 15) C dX0_issue_8 (by decide) ?_
  refine n_iand (v := nI (v / 16 % 16)) C dX0_issue_10 (nx_shrB hv (by decide) 4 (by decide) (by decide)) ?_
  refine lv_istore_n (lv' := [(3, .int (nI (v / 16 % 16))), (2, .int (nI (v % 16))), (0, .ref (Q 0)), (1, .int (nI v))]) C.1 C.2.1 dX0_issue_11 rfl hl (by decide) rfl (fun ls hl => ?_)
  refine lv_aload_n C.1 C.2.1 dX0_issue_12 rfl (lv_at hl 2 rfl) ?_
  refine xg_18 C w dX0_issue_13 ?_
  refine lv_iload_n C.1 C.2.1 dX0_issue_16 rfl (lv_at hl 3 rfl) ?_
  refine n_bipush (v := nI 8) C dX0_issue_17 (by decide) ?_
  refine n_ishr (v := nI v >>> (nI 8 &&& 31)) C dX0_issue_19 rfl ?_
  refine n_bipush (v := nI 15) C dX0_issue_20 (by decide) ?_
  refine n_iand (v := nI (v / 256 % 16)) C dX0_issue_22 (nx_shrB hv (by decide) 4 (by decide) (by decide)) ?_
  refine xl_18 (v := S 18 (v / 256 % 16)) C w (by omega) rfl dX0_issue_23 ?_
  refine lv_istore (lv' := [(4, .int (S 18 (v / 256 % 16))), (3, .int (nI (v / 16 % 16))), (2, .int (nI (v % 16))), (0, .ref (Q 0)), (1, .int (nI v))]) C.1 C.2.1 dX0_issue_24 hl (by decide) rfl (fun ls hl => ?_)
  refine lv_aload_n C.1 C.2.1 dX0_issue_26 rfl (lv_at hl 3 rfl) ?_
  refine xg_18 C w dX0_issue_27 ?_
  refine lv_iload_n C.1 C.2.1 dX0_issue_30 rfl (lv_at hl 4 rfl) ?_
  refine n_bipush (v := nI 12) C dX0_issue_31 (by decide) ?_
  refine n_ishr (v := nI v >>> (nI 12 &&& 31)) C dX0_issue_33 rfl ?_
  refine n_bipush (v := nI 15) C dX0_issue_34 (by decide) ?_
  refine n_iand (v := nI (v / 4096 % 16)) C dX0_issue_36 (nx_shrB hv (by decide) 4 (by decide) (by decide)) ?_
  refine xl_18 (v := S 18 (v / 4096 % 16)) C w (by omega) rfl dX0_issue_37 ?_
  refine lv_istore (lv' := [(5, .int (S 18 (v / 4096 % 16))), (4, .int (S 18 (v / 256 % 16))), (3, .int (nI (v / 16 % 16))), (2, .int (nI (v % 16))), (0, .ref (Q 0)), (1, .int (nI v))]) C.1 C.2.1 dX0_issue_38 hl (by decide) rfl (fun ls hl => ?_)
  refine lv_aload_n C.1 C.2.1 dX0_issue_40 rfl (lv_at hl 4 rfl) ?_
  refine xg_4 C w dX0_issue_41 ?_
  refine lv_iload_n C.1 C.2.1 dX0_issue_44 rfl (lv_at hl 5 rfl) ?_
  refine n_bipush (v := nI 16) C dX0_issue_45 (by decide) ?_
  refine n_ishr (v := nI v >>> (nI 16 &&& 31)) C dX0_issue_47 rfl ?_
  refine n_bipush (v := nI 31) C dX0_issue_48 (by decide) ?_
  refine n_iand (v := nI (v / 65536 % 32)) C dX0_issue_50 (nx_shrB hv (by decide) 5 (by decide) (by decide)) ?_
  refine xl_4 (v := S 4 (v / 65536 % 32)) C w (by omega) rfl dX0_issue_51 ?_
  refine lv_istore (lv' := [(6, .int (S 4 (v / 65536 % 32))), (5, .int (S 18 (v / 4096 % 16))), (4, .int (S 18 (v / 256 % 16))), (3, .int (nI (v / 16 % 16))), (2, .int (nI (v % 16))), (0, .ref (Q 0)), (1, .int (nI v))]) C.1 C.2.1 dX0_issue_52 hl (by decide) rfl (fun ls hl => ?_)
  refine lv_iload_n C.1 C.2.1 dX0_issue_54 rfl (lv_at hl 4 rfl) ?_
  refine n_bipush (v := nI 8) C dX0_issue_55 (by decide) ?_
  refine n_icmp_ne (tgt := 83) C (by omega) (by decide) dX0_issue_57 (by decide) (fun c_57 => ?_) (fun c_57 => ?_)
  · skip
    refine g_join (pcL := 170) (I := fun st ls H locs => ∃ (vv : Int32), (vv = vaF (S 18) (S 19) (v % 16) (v / 16 % 16) (S 18 (v / 256 % 16)) (S 18 (v / 4096 % 16)) (S 4 (v / 65536 % 32))) ∧ (st = []) ∧ (gW wX D Q T A s S H locs) ∧ (lv_has ls 9 [(0, .ref (Q 0)), (2, .int (nI (v % 16))), (3, .int (nI (v / 16 % 16))), (7, .int (vv))])) (fun st_170 ls H locs hI => ?_) (fun J_170 => ?_)
    · obtain ⟨vv, hvv, rfl, w, hl⟩ := hI
      refine lv_aload_n C.1 C.2.1 dX0_issue_170 rfl (lv_at hl 0 rfl) ?_
      refine lv_iload_n C.1 C.2.1 dX0_issue_171 rfl (lv_at hl 1 rfl) ?_
      refine g_calli C w (met_X0_timeOf l _ (v % 16) (by omega)) rfl rfl cq_X0_X0_timeOf cy_X0_timeOf rfl rfl ⟨Nat.le_of_ble_eq_true rfl, Nat.le_of_ble_eq_true rfl⟩ ⟨Nat.zero_le _, Nat.zero_le _⟩ hl.1 rfl (Nat.le_of_ble_eq_true rfl) dX0_issue_172 (fun r_1 S1 H locs hp w => ?_)
      obtain ⟨rfl, rfl⟩ := hp
      refine lv_istore (lv' := [(8, .int (nI (tm (v % 16)))), (0, .ref (Q 0)), (2, .int (nI (v % 16))), (3, .int (nI (v / 16 % 16))), (7, .int (vv))]) C.1 C.2.1 dX0_issue_175 hl (by decide) rfl (fun ls hl => ?_)
      refine lv_aload_n C.1 C.2.1 dX0_issue_177 rfl (lv_at hl 1 rfl) ?_
      refine lv_iload_n C.1 C.2.1 dX0_issue_178 rfl (lv_at hl 3 rfl) ?_
      refine lv_iload C.1 C.2.1 dX0_issue_179 (lv_at hl 4 rfl) ?_
      refine lv_iload C.1 C.2.1 dX0_issue_181 (lv_at hl 0 rfl) ?_
      refine g_callv C w (met_X0_fly l _ fl (v / 16 % 16) (tm (v % 16)) now (vv) hF hl1 (by omega) h20 (by omega)) rfl rfl cq_X0_X0_fly cy_X0_fly rfl rfl ⟨Nat.le_of_ble_eq_true rfl, Nat.le_of_ble_eq_true rfl⟩ ⟨Nat.zero_le _, Nat.zero_le _⟩ hl.1 rfl (Nat.le_of_ble_eq_true rfl) dX0_issue_183 (fun SF H locs hp w => ?_)
      obtain ⟨hF1, hfr1⟩ := hp
      exact g_vret C w ⟨by rw [isF, if_neg c_57, ← hvv]; exact hF1, hfr1⟩ dX0_issue_186
    · skip
      refine lv_iload C.1 C.2.1 dX0_issue_83 (lv_at hl 2 rfl) ?_
      refine lv_istore (lv' := [(7, .int (S 18 (v / 256 % 16))), (6, .int (S 4 (v / 65536 % 32))), (5, .int (S 18 (v / 4096 % 16))), (4, .int (S 18 (v / 256 % 16))), (3, .int (nI (v / 16 % 16))), (2, .int (nI (v % 16))), (0, .ref (Q 0)), (1, .int (nI v))]) C.1 C.2.1 dX0_issue_85 hl (by decide) rfl (fun ls hl => ?_)
      refine lv_iload_n C.1 C.2.1 dX0_issue_87 rfl (lv_at hl 5 rfl) ?_
      refine n_bipush (v := nI 7) C dX0_issue_88 (by decide) ?_
      refine n_icmp_ne (tgt := 111) C (by omega) (by decide) dX0_issue_90 (by decide) (fun c_90 => ?_) (fun c_90 => ?_)
      · skip
        refine lv_iload_n C.1 C.2.1 dX0_issue_111 rfl (lv_at hl 5 rfl) ?_
        refine n_const (v := nI 5) C dX0_issue_112 (by decide) ?_
        refine n_icmp_ne (tgt := 137) C (by omega) (by decide) dX0_issue_113 (by decide) (fun c_113 => ?_) (fun c_113 => ?_)
        · skip
          refine lv_iload_n C.1 C.2.1 dX0_issue_137 rfl (lv_at hl 5 rfl) ?_
          refine n_bipush (v := nI 6) C dX0_issue_138 (by decide) ?_
          refine n_icmp_ne (tgt := 153) C (by omega) (by decide) dX0_issue_140 (by decide) (fun c_140 => ?_) (fun c_140 => ?_)
          · skip
            refine lv_iload_n C.1 C.2.1 dX0_issue_153 rfl (lv_at hl 5 rfl) ?_
            refine n_bipush (v := nI 9) C dX0_issue_154 (by decide) ?_
            refine n_icmp_eq (tgt := 170) C (by omega) (by decide) dX0_issue_156 (by decide) (fun c_156 => ?_) (fun c_156 => ?_)
            · skip
              have hg : S 18 (v / 256 % 16) = vaF (S 18) (S 19) (v % 16) (v / 16 % 16) (S 18 (v / 256 % 16)) (S 18 (v / 4096 % 16)) (S 4 (v / 65536 % 32)) := by rw [vaF, if_neg c_90, if_neg c_113, if_neg c_140, if_pos c_156]
              exact J_170 _ _ _ _ ⟨S 18 (v / 256 % 16), hg, rfl, w, lv_sub hl [6, 5, 4, 0] rfl⟩
            · skip
              refine lv_aload_n C.1 C.2.1 dX0_issue_159 rfl (lv_at hl 6 rfl) ?_
              refine lv_iload_n C.1 C.2.1 dX0_issue_160 rfl (lv_at hl 5 rfl) ?_
              refine lv_iload C.1 C.2.1 dX0_issue_161 (lv_at hl 3 rfl) ?_
              refine lv_iload C.1 C.2.1 dX0_issue_163 (lv_at hl 2 rfl) ?_
              refine g_calli C w (met_X0_combined l _ (v % 16) _ _ (by omega)) rfl rfl cq_X0_X0_combined cy_X0_combined rfl rfl ⟨Nat.le_of_ble_eq_true rfl, Nat.le_of_ble_eq_true rfl⟩ ⟨Nat.zero_le _, Nat.zero_le _⟩ hl.1 rfl (Nat.le_of_ble_eq_true rfl) dX0_issue_165 (fun r_3 S3 H locs hp w => ?_)
              obtain ⟨rfl, rfl⟩ := hp
              refine lv_istore (lv' := [(7, .int (comF (v % 16) (S 18 (v / 256 % 16)) (S 18 (v / 4096 % 16)))), (6, .int (S 4 (v / 65536 % 32))), (5, .int (S 18 (v / 4096 % 16))), (4, .int (S 18 (v / 256 % 16))), (3, .int (nI (v / 16 % 16))), (2, .int (nI (v % 16))), (0, .ref (Q 0)), (1, .int (nI v))]) C.1 C.2.1 dX0_issue_168 hl (by decide) rfl (fun ls hl => ?_)
              have hg : comF (v % 16) (S 18 (v / 256 % 16)) (S 18 (v / 4096 % 16)) = vaF (S 18) (S 19) (v % 16) (v / 16 % 16) (S 18 (v / 256 % 16)) (S 18 (v / 4096 % 16)) (S 4 (v / 65536 % 32)) := by rw [vaF, if_neg c_90, if_neg c_113, if_neg c_140, if_neg c_156]
              exact J_170 _ _ _ _ ⟨comF (v % 16) (S 18 (v / 256 % 16)) (S 18 (v / 4096 % 16)), hg, rfl, w, lv_sub hl [6, 5, 4, 0] rfl⟩
          · skip
            refine lv_iload C.1 C.2.1 dX0_issue_143 (lv_at hl 3 rfl) ?_
            refine lv_iload C.1 C.2.1 dX0_issue_145 (lv_at hl 1 rfl) ?_
            refine n_iadd (v := S 18 (v / 256 % 16) + S 4 (v / 65536 % 32)) C dX0_issue_147 rfl ?_
            refine lv_istore (lv' := [(7, .int (S 18 (v / 256 % 16) + S 4 (v / 65536 % 32))), (6, .int (S 4 (v / 65536 % 32))), (5, .int (S 18 (v / 4096 % 16))), (4, .int (S 18 (v / 256 % 16))), (3, .int (nI (v / 16 % 16))), (2, .int (nI (v % 16))), (0, .ref (Q 0)), (1, .int (nI v))]) C.1 C.2.1 dX0_issue_148 hl (by decide) rfl (fun ls hl => ?_)
            refine lv_goto (tgt := 170) C.1 C.2.1 dX0_issue_150 (by decide) ?_
            have hg : S 18 (v / 256 % 16) + S 4 (v / 65536 % 32) = vaF (S 18) (S 19) (v % 16) (v / 16 % 16) (S 18 (v / 256 % 16)) (S 18 (v / 4096 % 16)) (S 4 (v / 65536 % 32)) := by rw [vaF, if_neg c_90, if_neg c_113, if_pos c_140]
            exact J_170 _ _ _ _ ⟨S 18 (v / 256 % 16) + S 4 (v / 65536 % 32), hg, rfl, w, lv_sub hl [6, 5, 4, 0] rfl⟩
        · skip
          refine lv_aload_n C.1 C.2.1 dX0_issue_116 rfl (lv_at hl 6 rfl) ?_
          refine xg_18 C w dX0_issue_117 ?_
          refine lv_iload_n C.1 C.2.1 dX0_issue_120 rfl (lv_at hl 4 rfl) ?_
          refine xl_18 (v := S 18 (v / 16 % 16)) C w (by omega) rfl dX0_issue_121 ?_
          refine r_if_eq (tgt := 130) C dX0_issue_122 (by decide) (fun c_122 => ?_) (fun c_122 => ?_)
          · skip
            refine lv_iload C.1 C.2.1 dX0_issue_130 (lv_at hl 2 rfl) ?_
            refine lv_istore (lv' := [(7, .int (S 18 (v / 4096 % 16))), (6, .int (S 4 (v / 65536 % 32))), (5, .int (S 18 (v / 4096 % 16))), (4, .int (S 18 (v / 256 % 16))), (3, .int (nI (v / 16 % 16))), (2, .int (nI (v % 16))), (0, .ref (Q 0)), (1, .int (nI v))]) C.1 C.2.1 dX0_issue_132 hl (by decide) rfl (fun ls hl => ?_)
            refine lv_goto (tgt := 170) C.1 C.2.1 dX0_issue_134 (by decide) ?_
            have hg : S 18 (v / 4096 % 16) = vaF (S 18) (S 19) (v % 16) (v / 16 % 16) (S 18 (v / 256 % 16)) (S 18 (v / 4096 % 16)) (S 4 (v / 65536 % 32)) := by rw [vaF, if_neg c_90, if_pos c_113, if_pos c_122]
            exact J_170 _ _ _ _ ⟨S 18 (v / 4096 % 16), hg, rfl, w, lv_sub hl [6, 5, 4, 0] rfl⟩
          · skip
            refine lv_iload C.1 C.2.1 dX0_issue_125 (lv_at hl 3 rfl) ?_
            refine lv_goto (tgt := 132) C.1 C.2.1 dX0_issue_127 (by decide) ?_
            refine lv_istore (lv' := [(7, .int (S 18 (v / 256 % 16))), (6, .int (S 4 (v / 65536 % 32))), (5, .int (S 18 (v / 4096 % 16))), (4, .int (S 18 (v / 256 % 16))), (3, .int (nI (v / 16 % 16))), (2, .int (nI (v % 16))), (0, .ref (Q 0)), (1, .int (nI v))]) C.1 C.2.1 dX0_issue_132 hl (by decide) rfl (fun ls hl => ?_)
            refine lv_goto (tgt := 170) C.1 C.2.1 dX0_issue_134 (by decide) ?_
            have hg : S 18 (v / 256 % 16) = vaF (S 18) (S 19) (v % 16) (v / 16 % 16) (S 18 (v / 256 % 16)) (S 18 (v / 4096 % 16)) (S 4 (v / 65536 % 32)) := by rw [vaF, if_neg c_90, if_pos c_113, if_neg c_122]
            exact J_170 _ _ _ _ ⟨S 18 (v / 256 % 16), hg, rfl, w, lv_sub hl [6, 5, 4, 0] rfl⟩
      · skip
        refine lv_aload_n C.1 C.2.1 dX0_issue_93 rfl (lv_at hl 6 rfl) ?_
        refine xg_19 C w dX0_issue_94 ?_
        refine lv_iload C.1 C.2.1 dX0_issue_97 (lv_at hl 3 rfl) ?_
        refine lv_iload C.1 C.2.1 dX0_issue_99 (lv_at hl 1 rfl) ?_
        refine n_iadd (v := S 18 (v / 256 % 16) + S 4 (v / 65536 % 32)) C dX0_issue_101 rfl ?_
        refine n_bipush (v := nI 15) C dX0_issue_102 (by decide) ?_
        refine n_iand (v := nI (adr (S 18 (v / 256 % 16) + S 4 (v / 65536 % 32)))) C dX0_issue_104 (pk_and _ 4 (by decide)) ?_
        refine xl_19 (v := S 19 (adr (S 18 (v / 256 % 16) + S 4 (v / 65536 % 32)))) C w (by omega) rfl dX0_issue_105 ?_
        refine lv_istore (lv' := [(7, .int (S 19 (adr (S 18 (v / 256 % 16) + S 4 (v / 65536 % 32))))), (6, .int (S 4 (v / 65536 % 32))), (5, .int (S 18 (v / 4096 % 16))), (4, .int (S 18 (v / 256 % 16))), (3, .int (nI (v / 16 % 16))), (2, .int (nI (v % 16))), (0, .ref (Q 0)), (1, .int (nI v))]) C.1 C.2.1 dX0_issue_106 hl (by decide) rfl (fun ls hl => ?_)
        refine lv_goto (tgt := 170) C.1 C.2.1 dX0_issue_108 (by decide) ?_
        have hg : S 19 (adr (S 18 (v / 256 % 16) + S 4 (v / 65536 % 32))) = vaF (S 18) (S 19) (v % 16) (v / 16 % 16) (S 18 (v / 256 % 16)) (S 18 (v / 4096 % 16)) (S 4 (v / 65536 % 32)) := by rw [vaF, if_pos c_90]
        exact J_170 _ _ _ _ ⟨S 19 (adr (S 18 (v / 256 % 16) + S 4 (v / 65536 % 32))), hg, rfl, w, lv_sub hl [6, 5, 4, 0] rfl⟩
  · skip
    refine lv_aload_n C.1 C.2.1 dX0_issue_60 rfl (lv_at hl 5 rfl) ?_
    refine n_bipush (v := nI 16) C dX0_issue_61 (by decide) ?_
    refine lv_iload C.1 C.2.1 dX0_issue_63 (lv_at hl 2 rfl) ?_
    refine lv_iload C.1 C.2.1 dX0_issue_65 (lv_at hl 0 rfl) ?_
    refine n_iadd (v := S 18 (v / 256 % 16) + S 4 (v / 65536 % 32)) C dX0_issue_67 rfl ?_
    refine n_bipush (v := nI 15) C dX0_issue_68 (by decide) ?_
    refine n_iand (v := nI (adr (S 18 (v / 256 % 16) + S 4 (v / 65536 % 32)))) C dX0_issue_70 (pk_and _ 4 (by decide)) ?_
    refine n_iadd (v := nI (16 + (adr (S 18 (v / 256 % 16) + S 4 (v / 65536 % 32))))) C dX0_issue_71 (nI_add _ _) ?_
    refine lv_aload_n C.1 C.2.1 dX0_issue_72 rfl (lv_at hl 5 rfl) ?_
    refine xg_18 C w dX0_issue_73 ?_
    refine lv_iload_n C.1 C.2.1 dX0_issue_76 rfl (lv_at hl 3 rfl) ?_
    refine xl_18 (v := S 18 (v / 16 % 16)) C w (by omega) rfl dX0_issue_77 ?_
    refine n_const (v := nI 1) C dX0_issue_78 (by decide) ?_
    refine g_callv C w (met_X0_fly l _ fl (16 + (adr (S 18 (v / 256 % 16) + S 4 (v / 65536 % 32)))) 1 now (S 18 (v / 16 % 16)) hF hl1 (by omega) h20 (by omega)) rfl rfl cq_X0_X0_fly cy_X0_fly rfl rfl ⟨Nat.le_of_ble_eq_true rfl, Nat.le_of_ble_eq_true rfl⟩ ⟨Nat.zero_le _, Nat.zero_le _⟩ hl.1 rfl (Nat.le_of_ble_eq_true rfl) dX0_issue_79 (fun SF H locs hp w => ?_)
    obtain ⟨hF1, hfr1⟩ := hp
    exact g_vret C w ⟨by rw [isF, if_pos c_57]; exact hF1, hfr1⟩ dX0_issue_82
end
section
/-! the machine's run over a list of words; execute, pack -/
/-- registers, memory, what flies, the cycle, whether a bundle begins -/
abbrev Ms : Type := (Nat → Int32) × (Nat → Int32) × List Fl × Nat × Bool
def lndM (σ : Ms) : Ms := (σ.2.2.1.foldl (lstR σ.2.2.2.1) σ.1, σ.2.2.1.foldl (lstC σ.2.2.2.1) σ.2.1, kpF σ.2.2.2.1 σ.2.2.1, σ.2.2.2.1, σ.2.2.2.2)
def lndF (σ : Ms) : Ms := if σ.2.2.2.2 = true then lndM σ else σ
def issF (B : Nat → Int32) (w : Nat) (σ : Ms) : Ms := if w / 1073741824 % 2 = 0 then σ else (σ.1, σ.2.1, σ.2.2.1 ++ [isF σ.1 σ.2.1 B w σ.2.2.2.1], σ.2.2.2.1, σ.2.2.2.2)
def nowF (w : Nat) (σ : Ms) : Ms := (σ.1, σ.2.1, σ.2.2.1, if w < 2147483648 then σ.2.2.2.1 else σ.2.2.2.1 + 1, decide (¬ w < 2147483648))
def stpW (B : Nat → Int32) (σ : Ms) (w : Nat) : Ms := nowF w (issF B w (lndF σ))
def runW (B : Nat → Int32) (ws : List Nat) (σ : Ms) : Ms := ws.foldl (stpW B) σ
def finF : Nat → Ms → Ms
  | 0, σ => σ
  | k + 1, σ => ((lndM (finF k σ)).1, (lndM (finF k σ)).2.1, (lndM (finF k σ)).2.2.1, (lndM (finF k σ)).2.2.2.1 + 1, (lndM (finF k σ)).2.2.2.2)
def xMs (S : St) (σ : Ms) : Prop := S 18 = σ.1 ∧ S 19 = σ.2.1 ∧ xFl S σ.2.2.1 ∧ S 20 0 = nI σ.2.2.2.1
def okW (B : Nat → Int32) (ws : List Nat) (σ : Ms) : Prop := ws.length ≤ 500 ∧ (runW B ws σ).2.2.2.1 ≤ 400 ∧ ∀ k, k < ws.length → ws.getD k 0 < 4294967296 ∧ (runW B (ws.take k) σ).2.2.2.1 ≤ 400 ∧ (ws.getD k 0 / 1073741824 % 2 ≠ 0 → (lndF (runW B (ws.take k) σ)).2.2.1.length < 32 ∧ ws.getD k 0 / 65536 % 32 ≤ 23)
def fr6 (S S1 : St) : Prop := ∀ k, k < 18 ∨ 24 < k → S1 k = S k
theorem runW_s (B : Nat → Int32) (ws : List Nat) (σ : Ms) {k : Nat} (h : k < ws.length) : runW B (ws.take (k + 1)) σ = stpW B (runW B (ws.take k) σ) (ws.getD k 0) := by
  unfold runW
  rw [tk_s ws 0 h, List.foldl_append]
  rfl
theorem runW_first (B : Nat → Int32) (ws : List Nat) (σ : Ms) {k : Nat} (h0 : k ≠ 0) (h : k ≤ ws.length) : (runW B (ws.take k) σ).2.2.2.2 = decide (¬ ws.getD (k - 1) 0 < 2147483648) := by
  obtain ⟨j, rfl⟩ := Nat.exists_eq_succ_of_ne_zero h0
  rw [show j.succ = j + 1 from rfl, runW_s B ws σ (show j < ws.length by omega)]
  rfl
theorem lndF_now (σ : Ms) : (lndF σ).2.2.2.1 = σ.2.2.2.1 := by
  unfold lndF
  split <;> rfl
theorem finF_now (σ : Ms) : ∀ k, (finF k σ).2.2.2.1 = σ.2.2.2.1 + k
  | 0 => rfl
  | k + 1 => by
    show (finF k σ).2.2.2.1 + 1 = _
    rw [finF_now σ k]
    omega
theorem fr6.rf (S : St) : fr6 S S := fun _ _ => rfl
theorem fr6.f4 {S S1 S2 : St} (h : fr6 S S1) (h2 : fr4 S1 S2) : fr6 S S2 := fun k hk => (h2 k (by omega) (by omega) (by omega) (by omega) (by omega) (by omega)).trans (h k hk)
theorem fr6.f5 {S S1 S2 : St} (h : fr6 S S1) (h2 : fr5 S1 S2) : fr6 S S2 := fun k hk => (h2 k (by omega) (by omega) (by omega) (by omega)).trans (h k hk)
theorem fr6.u {S S1 : St} (h : fr6 S S1) {i : Nat} (g : Nat → Int32) (hi : 18 ≤ i ∧ i ≤ 24) : fr6 S (up S1 i g) := fun k hk => (up_n _ _ (by omega)).trans (h k hk)
theorem xMs.lnd {S S1 : St} {σ : Ms} (h : xMs S σ) (h1 : xFl S1 (kpF σ.2.2.2.1 σ.2.2.1)) (h2 : S1 18 = σ.2.2.1.foldl (lstR σ.2.2.2.1) (S 18)) (h3 : S1 19 = σ.2.2.1.foldl (lstC σ.2.2.2.1) (S 19)) (h4 : fr4 S S1) : xMs S1 (lndM σ) := ⟨by rw [h2, h.1]; rfl, by rw [h3, h.2.1]; rfl, h1, (congrFun (h4 20 (by omega) (by omega) (by omega) (by omega) (by omega) (by omega)) 0).trans h.2.2.2⟩
set_option maxHeartbeats 4000000 in
set_option maxRecDepth 100000 in
theorem met_X0_execute (l : Launch) (S : St) (ws : List Nat) (hcd : xCode S ws) (hok : okW (S 4) ws (S 18, S 19, [], 0, true)) : gV wX l yX0_execute cX0_execute 3 ({ frames := 2, cells := 0, slots := 0, locals := 51 }) [] S (fun S1 => S1 18 = (finF 4 (runW (S 4) ws (S 18, S 19, [], 0, true))).1 ∧ S1 19 = (finF 4 (runW (S 4) ws (S 18, S 19, [], 0, true))).2.1 ∧ fr6 S S1) := by
  refine g_startv (own := RX0) (by decide) rfl (fun b => Nat.le_of_ble_eq_true rfl) ?_
  intro p e s m below meth c D Q T A ls C w hl
  have hl : lv_has ls 3 [(0, .ref (Q 0))] := hl
  obtain ⟨hln, hend, hok⟩ := hok
  refine lv_aload_n C.1 C.2.1 dX0_execute_0 rfl (lv_at hl 0 rfl) ?_
  refine n_const (v := nI 0) C dX0_execute_1 (by decide) ?_
  refine xp_21 (v := nI 0) C w dX0_execute_2 (fun H locs S1 hS1 w => ?_)
  subst hS1
  refine lv_aload_n C.1 C.2.1 dX0_execute_5 rfl (lv_at hl 0 rfl) ?_
  refine n_const (v := nI 0) C dX0_execute_6 (by decide) ?_
  refine xp_20 (v := nI 0) C w dX0_execute_7 (fun H locs S2 hS2 w => ?_)
  subst hS2
  refine n_const (v := nI 0) C dX0_execute_10 (by decide) ?_
  refine lv_istore_n (lv' := [(1, .int (nI 0)), (0, .ref (Q 0))]) C.1 C.2.1 dX0_execute_11 rfl hl (by decide) rfl (fun ls hl => ?_)
  refine g_loop (pcL := 12) (I := fun nM st ls H locs => ∃ (SL : St) (k : Nat), (nM = ws.length - k) ∧ (k ≤ ws.length) ∧ (fr6 S SL) ∧ (xMs SL (runW (S 4) (ws.take k) (S 18, S 19, [], 0, true))) ∧ (st = []) ∧ (gW wX D Q T A s SL H locs) ∧ (lv_has ls 3 [(0, .ref (Q 0)), (1, .int (nI k))])) ⟨(up (up S 21 (fun _ => nI 0)) 20 (fun _ => nI 0)), 0, rfl, (Nat.zero_le _), (((fr6.rf S).u _ (by omega)).u _ (by omega)), ⟨rfl, rfl, ⟨rfl, ⟨Nat.zero_le _, fun j hj => absurd hj (Nat.not_lt_zero _)⟩, fun j hj => absurd hj (Nat.not_lt_zero _)⟩, rfl⟩, rfl, w, lv_sub hl [1, 0] rfl⟩ (fun n_12 st_12 ls H locs ih_12 hI => ?_)
  obtain ⟨SL, k, hn_12, hk, hfr, hms, rfl, w, hl⟩ := hI
  refine lv_iload_n C.1 C.2.1 dX0_execute_12 rfl (lv_at hl 1 rfl) ?_
  refine lv_aload_n C.1 C.2.1 dX0_execute_13 rfl (lv_at hl 0 rfl) ?_
  refine xg_16 (v := nI ws.length) C w ((congrFun (hfr 16 (by omega)) 0).trans hcd.1) dX0_execute_14 ?_
  refine n_icmp_ge (tgt := 98) C (by omega) (by omega) dX0_execute_17 (by decide) (fun c_17 => ?_) (fun c_17 => ?_)
  · skip
    refine n_const (v := nI 0) C dX0_execute_98 (by decide) ?_
    refine lv_istore_n (lv' := [(1, .int (nI 0)), (0, .ref (Q 0))]) C.1 C.2.1 dX0_execute_99 rfl hl (by decide) rfl (fun ls hl => ?_)
    refine g_loop (pcL := 100) (I := fun nM st ls H locs => ∃ (SL : St) (j : Nat), (nM = 4 - j) ∧ (j ≤ 4) ∧ (fr6 S SL) ∧ (xMs SL (finF j (runW (S 4) ws (S 18, S 19, [], 0, true)))) ∧ (st = []) ∧ (gW wX D Q T A s SL H locs) ∧ (lv_has ls 3 [(0, .ref (Q 0)), (1, .int (nI j))])) ⟨SL, 0, rfl, (Nat.zero_le _), hfr, (by have ek : k = ws.length := (by omega); rw [ek, List.take_length] at hms; exact hms), rfl, w, lv_sub hl [1, 0] rfl⟩ (fun n_100 st_100 ls H locs ih_100 hI => ?_)
    obtain ⟨SL, j, hn_100, hj, hfr, hms, rfl, w, hl⟩ := hI
    have hfn := finF_now (runW (S 4) ws (S 18, S 19, [], 0, true)) j
    refine lv_iload_n C.1 C.2.1 dX0_execute_100 rfl (lv_at hl 1 rfl) ?_
    refine n_const (v := nI 4) C dX0_execute_101 (by decide) ?_
    refine n_icmp_ge (tgt := 125) C (by omega) (by decide) dX0_execute_102 (by decide) (fun c_102 => ?_) (fun c_102 => ?_)
    · skip
      exact g_vret C w (by have ej : j = 4 := (by omega); subst ej; exact ⟨hms.1, hms.2.1, hfr⟩) dX0_execute_125
    · skip
      refine lv_aload_n C.1 C.2.1 dX0_execute_105 rfl (lv_at hl 0 rfl) ?_
      refine g_callv C w (met_X0_landResults l _ (finF j (runW (S 4) ws (S 18, S 19, [], 0, true))).2.2.1 (finF j (runW (S 4) ws (S 18, S 19, [], 0, true))).2.2.2.1 hms.2.2.1 hms.2.2.2 (by omega)) rfl rfl cq_X0_X0_landResults cy_X0_landResults rfl rfl ⟨Nat.le_of_ble_eq_true rfl, Nat.le_of_ble_eq_true rfl⟩ ⟨Nat.zero_le _, Nat.zero_le _⟩ hl.1 rfl (Nat.le_of_ble_eq_true rfl) dX0_execute_106 (fun SP H locs hp w => ?_)
      obtain ⟨g1, g2, g3, g4⟩ := hp
      refine lv_aload_n C.1 C.2.1 dX0_execute_109 rfl (lv_at hl 0 rfl) ?_
      refine lv_dup C.1 C.2.1 dX0_execute_110 rfl ?_
      refine xg_20 (v := nI ((finF j (runW (S 4) ws (S 18, S 19, [], 0, true))).2.2.2.1)) C w (hms.lnd g1 g2 g3 g4).2.2.2 dX0_execute_111 ?_
      refine n_const (v := nI 1) C dX0_execute_114 (by decide) ?_
      refine n_iadd (v := nI (((finF j (runW (S 4) ws (S 18, S 19, [], 0, true))).2.2.2.1) + 1)) C dX0_execute_115 (nI_add _ _) ?_
      refine xp_20 (v := nI (((finF j (runW (S 4) ws (S 18, S 19, [], 0, true))).2.2.2.1) + 1)) C w dX0_execute_116 (fun H locs S4 hS4 w => ?_)
      subst hS4
      refine lv_iinc (v := nI (j + 1)) (lv' := [(1, .int (nI (j + 1))), (0, .ref (Q 0))]) C.1 C.2.1 dX0_execute_119 hl (k := 1) rfl (nI_add j 1) (by decide) rfl (fun ls hl => ?_)
      refine lv_goto (tgt := 100) C.1 C.2.1 dX0_execute_122 (by decide) ?_
      exact ih_100 _ (by omega) _ _ _ _ ⟨(up SP 20 (fun _ => nI ((finF j (runW (S 4) ws (S 18, S 19, [], 0, true))).2.2.2.1 + 1))), (j + 1), rfl, (by omega), ((hfr.f4 g4).u _ (by omega)), ⟨(hms.lnd g1 g2 g3 g4).1, (hms.lnd g1 g2 g3 g4).2.1, (hms.lnd g1 g2 g3 g4).2.2.1, rfl⟩, rfl, w, lv_sub hl [1, 0] rfl⟩
  · skip
    obtain ⟨hw32, hnow, hiss⟩ := hok k c_17
    have hln1 := lndF_now (runW (S 4) (ws.take k) (S 18, S 19, [], 0, true))
    refine g_join (pcL := 73) (I := fun st ls H locs => ∃ (SN : St), (xMs SN (issF (S 4) (ws.getD k 0) (lndF (runW (S 4) (ws.take k) (S 18, S 19, [], 0, true))))) ∧ (fr6 S SN) ∧ (st = []) ∧ (gW wX D Q T A s SN H locs) ∧ (lv_has ls 3 [(0, .ref (Q 0)), (1, .int (nI k))])) (fun st_73 ls H locs hI => ?_) (fun J_73 => ?_)
    · obtain ⟨SN, hms3, hfr3, rfl, w, hl⟩ := hI
      refine lv_aload_n C.1 C.2.1 dX0_execute_73 rfl (lv_at hl 0 rfl) ?_
      refine xg_17 C w dX0_execute_74 ?_
      refine lv_iload_n C.1 C.2.1 dX0_execute_77 rfl (lv_at hl 1 rfl) ?_
      refine xl_17 (v := nI (ws.getD k 0)) C w (by omega) ((congrFun (hfr3 17 (by omega)) _).trans (hcd.2 _ (by omega))) dX0_execute_78 ?_
      refine wd_if_ge (tgt := 92) C hw32 dX0_execute_79 (by decide) (fun c_79 => ?_) (fun c_79 => ?_)
      · skip
        refine lv_iinc (v := nI (k + 1)) (lv' := [(1, .int (nI (k + 1))), (0, .ref (Q 0))]) C.1 C.2.1 dX0_execute_92 hl (k := 1) rfl (nI_add k 1) (by decide) rfl (fun ls hl => ?_)
        refine lv_goto (tgt := 12) C.1 C.2.1 dX0_execute_95 (by decide) ?_
        exact ih_12 _ (by omega) _ _ _ _ ⟨SN, (k + 1), rfl, (by omega), hfr3, (by rw [runW_s _ _ _ c_17, stpW]; exact ⟨hms3.1, hms3.2.1, hms3.2.2.1, (by rw [nowF]; show _ = nI (if _ then _ else _); rw [if_pos c_79]; exact hms3.2.2.2)⟩), rfl, w, lv_sub hl [1, 0] rfl⟩
      · skip
        refine lv_aload_n C.1 C.2.1 dX0_execute_82 rfl (lv_at hl 0 rfl) ?_
        refine lv_dup C.1 C.2.1 dX0_execute_83 rfl ?_
        refine xg_20 (v := nI ((issF (S 4) (ws.getD k 0) (lndF (runW (S 4) (ws.take k) (S 18, S 19, [], 0, true)))).2.2.2.1)) C w hms3.2.2.2 dX0_execute_84 ?_
        refine n_const (v := nI 1) C dX0_execute_87 (by decide) ?_
        refine n_iadd (v := nI (((issF (S 4) (ws.getD k 0) (lndF (runW (S 4) (ws.take k) (S 18, S 19, [], 0, true)))).2.2.2.1) + 1)) C dX0_execute_88 (nI_add _ _) ?_
        refine xp_20 (v := nI (((issF (S 4) (ws.getD k 0) (lndF (runW (S 4) (ws.take k) (S 18, S 19, [], 0, true)))).2.2.2.1) + 1)) C w dX0_execute_89 (fun H locs S5 hS5 w => ?_)
        subst hS5
        refine lv_iinc (v := nI (k + 1)) (lv' := [(1, .int (nI (k + 1))), (0, .ref (Q 0))]) C.1 C.2.1 dX0_execute_92 hl (k := 1) rfl (nI_add k 1) (by decide) rfl (fun ls hl => ?_)
        refine lv_goto (tgt := 12) C.1 C.2.1 dX0_execute_95 (by decide) ?_
        exact ih_12 _ (by omega) _ _ _ _ ⟨(up SN 20 (fun _ => nI ((issF (S 4) (ws.getD k 0) (lndF (runW (S 4) (ws.take k) (S 18, S 19, [], 0, true)))).2.2.2.1 + 1))), (k + 1), rfl, (by omega), (hfr3.u _ (by omega)), (by rw [runW_s _ _ _ c_17, stpW]; exact ⟨hms3.1, hms3.2.1, hms3.2.2.1, (by rw [nowF]; show _ = nI (if _ then _ else _); rw [if_neg (Nat.not_lt.mpr c_79)]; rfl)⟩), rfl, w, lv_sub hl [1, 0] rfl⟩
    · skip
      refine g_join (pcL := 49) (I := fun st ls H locs => ∃ (SN : St), (xMs SN (lndF (runW (S 4) (ws.take k) (S 18, S 19, [], 0, true)))) ∧ (fr6 S SN) ∧ (st = []) ∧ (gW wX D Q T A s SN H locs) ∧ (lv_has ls 3 [(0, .ref (Q 0)), (1, .int (nI k))])) (fun st_49 ls H locs hI => ?_) (fun J_49 => ?_)
      · obtain ⟨SN, hms2, hfr2, rfl, w, hl⟩ := hI
        refine lv_aload_n C.1 C.2.1 dX0_execute_49 rfl (lv_at hl 0 rfl) ?_
        refine xg_17 C w dX0_execute_50 ?_
        refine lv_iload_n C.1 C.2.1 dX0_execute_53 rfl (lv_at hl 1 rfl) ?_
        refine xl_17 (v := nI (ws.getD k 0)) C w (by omega) ((congrFun (hfr2 17 (by omega)) _).trans (hcd.2 _ (by omega))) dX0_execute_54 ?_
        refine n_bipush (v := nI 30) C dX0_execute_55 (by decide) ?_
        refine n_ishr (v := nI (ws.getD k 0) >>> (nI 30 &&& 31)) C dX0_execute_57 rfl ?_
        refine n_const (v := nI 1) C dX0_execute_58 (by decide) ?_
        refine n_iand (v := nI (ws.getD k 0 / 1073741824 % 2)) C dX0_execute_59 (nx_shrB hw32 (by decide) 1 (by decide) (by decide)) ?_
        refine n_if_eq (tgt := 73) C (by omega) dX0_execute_60 (by decide) (fun c_60 => ?_) (fun c_60 => ?_)
        · skip
          exact J_73 _ _ _ _ ⟨SN, (by rw [issF, if_pos c_60]; exact hms2), hfr2, rfl, w, lv_sub hl [0, 1] rfl⟩
        · skip
          refine lv_aload_n C.1 C.2.1 dX0_execute_63 rfl (lv_at hl 0 rfl) ?_
          refine lv_aload_n C.1 C.2.1 dX0_execute_64 rfl (lv_at hl 0 rfl) ?_
          refine xg_17 C w dX0_execute_65 ?_
          refine lv_iload_n C.1 C.2.1 dX0_execute_68 rfl (lv_at hl 1 rfl) ?_
          refine xl_17 (v := nI (ws.getD k 0)) C w (by omega) ((congrFun (hfr2 17 (by omega)) _).trans (hcd.2 _ (by omega))) dX0_execute_69 ?_
          refine g_callv C w (met_X0_issue l _ (lndF (runW (S 4) (ws.take k) (S 18, S 19, [], 0, true))).2.2.1 (ws.getD k 0) (lndF (runW (S 4) (ws.take k) (S 18, S 19, [], 0, true))).2.2.2.1 hw32 hms2.2.2.1 (hiss c_60).1 (hiss c_60).2 hms2.2.2.2 (by omega)) rfl rfl cq_X0_X0_issue cy_X0_issue rfl rfl ⟨Nat.le_of_ble_eq_true rfl, Nat.le_of_ble_eq_true rfl⟩ ⟨Nat.zero_le _, Nat.zero_le _⟩ hl.1 rfl (Nat.le_of_ble_eq_true rfl) dX0_execute_70 (fun SI H locs hp w => ?_)
          obtain ⟨g1, g2⟩ := hp
          exact J_73 _ _ _ _ ⟨SI, (by rw [issF, if_neg c_60]; exact ⟨(g2 18 (by omega) (by omega) (by omega) (by omega)).trans hms2.1, (g2 19 (by omega) (by omega) (by omega) (by omega)).trans hms2.2.1, (by rw [hms2.1, hms2.2.1, hfr2 4 (by omega)] at g1; exact g1), (congrFun (g2 20 (by omega) (by omega) (by omega) (by omega)) 0).trans hms2.2.2.2⟩), (hfr2.f5 g2), rfl, w, lv_sub hl [0, 1] rfl⟩
      · skip
        refine g_join (pcL := 41) (I := fun st ls H locs => ∃ (fb : Bool), (fb = (runW (S 4) (ws.take k) (S 18, S 19, [], 0, true)).2.2.2.2) ∧ (st = []) ∧ (gW wX D Q T A s SL H locs) ∧ (lv_has ls 3 [(0, .ref (Q 0)), (1, .int (nI k)), (2, .int (bI fb))])) (fun st_41 ls H locs hI => ?_) (fun J_41 => ?_)
        · obtain ⟨fb, hfb, rfl, w, hl⟩ := hI
          refine lv_iload_n C.1 C.2.1 dX0_execute_41 rfl (lv_at hl 2 rfl) ?_
          refine b_if_eq (tgt := 49) C dX0_execute_42 (by decide) (fun c_42 => ?_) (fun c_42 => ?_)
          · skip
            exact J_49 _ _ _ _ ⟨SL, (by rw [lndF, if_neg (by rw [← hfb, c_42]; decide)]; exact hms), hfr, rfl, w, lv_sub hl [0, 1] rfl⟩
          · skip
            refine lv_aload_n C.1 C.2.1 dX0_execute_45 rfl (lv_at hl 0 rfl) ?_
            refine g_callv C w (met_X0_landResults l _ (runW (S 4) (ws.take k) (S 18, S 19, [], 0, true)).2.2.1 (runW (S 4) (ws.take k) (S 18, S 19, [], 0, true)).2.2.2.1 hms.2.2.1 hms.2.2.2 (by omega)) rfl rfl cq_X0_X0_landResults cy_X0_landResults rfl rfl ⟨Nat.le_of_ble_eq_true rfl, Nat.le_of_ble_eq_true rfl⟩ ⟨Nat.zero_le _, Nat.zero_le _⟩ hl.1 rfl (Nat.le_of_ble_eq_true rfl) dX0_execute_46 (fun SP H locs hp w => ?_)
            obtain ⟨g1, g2, g3, g4⟩ := hp
            exact J_49 _ _ _ _ ⟨SP, (by rw [lndF, if_pos (by rw [← hfb, c_42])]; exact hms.lnd g1 g2 g3 g4), (hfr.f4 g4), rfl, w, lv_sub hl [0, 1] rfl⟩
        · skip
          refine lv_iload_n C.1 C.2.1 dX0_execute_20 rfl (lv_at hl 1 rfl) ?_
          refine n_if_eq (tgt := 35) C (by omega) dX0_execute_21 (by decide) (fun c_21 => ?_) (fun c_21 => ?_)
          · skip
            refine n_const (v := bI true) C dX0_execute_35 (by decide) ?_
            refine lv_goto (tgt := 40) C.1 C.2.1 dX0_execute_36 (by decide) ?_
            refine lv_istore_n (lv' := [(2, .int (bI true)), (0, .ref (Q 0)), (1, .int (nI k))]) C.1 C.2.1 dX0_execute_40 rfl hl (by decide) rfl (fun ls hl => ?_)
            exact J_41 _ _ _ _ ⟨true, (by rw [c_21]; rfl), rfl, w, lv_sub hl [1, 2, 0] rfl⟩
          · skip
            refine lv_aload_n C.1 C.2.1 dX0_execute_24 rfl (lv_at hl 0 rfl) ?_
            refine xg_17 C w dX0_execute_25 ?_
            refine lv_iload_n C.1 C.2.1 dX0_execute_28 rfl (lv_at hl 1 rfl) ?_
            refine n_const (v := nI 1) C dX0_execute_29 (by decide) ?_
            refine n_isub (v := nI (k - 1)) C dX0_execute_30 (pk_sub (by omega)) ?_
            refine xl_17 (v := nI (ws.getD (k - 1) 0)) C w (by omega) ((congrFun (hfr 17 (by omega)) _).trans (hcd.2 _ (by omega))) dX0_execute_31 ?_
            refine wd_if_ge (tgt := 39) C (hok (k - 1) (by omega)).1 dX0_execute_32 (by decide) (fun c_32 => ?_) (fun c_32 => ?_)
            · skip
              refine n_const (v := bI false) C dX0_execute_39 (by decide) ?_
              refine lv_istore_n (lv' := [(2, .int (bI false)), (0, .ref (Q 0)), (1, .int (nI k))]) C.1 C.2.1 dX0_execute_40 rfl hl (by decide) rfl (fun ls hl => ?_)
              exact J_41 _ _ _ _ ⟨false, (by rw [runW_first _ _ _ c_21 (by omega)]; exact (decide_eq_false (not_not_intro c_32)).symm), rfl, w, lv_sub hl [1, 2, 0] rfl⟩
            · skip
              refine n_const (v := bI true) C dX0_execute_35 (by decide) ?_
              refine lv_goto (tgt := 40) C.1 C.2.1 dX0_execute_36 (by decide) ?_
              refine lv_istore_n (lv' := [(2, .int (bI true)), (0, .ref (Q 0)), (1, .int (nI k))]) C.1 C.2.1 dX0_execute_40 rfl hl (by decide) rfl (fun ls hl => ?_)
              exact J_41 _ _ _ _ ⟨true, (by rw [runW_first _ _ _ c_21 (by omega)]; exact (decide_eq_true (Nat.not_lt.mpr c_32)).symm), rfl, w, lv_sub hl [1, 2, 0] rfl⟩
end
section
/-! pack -/
def oF (ops : List Op) (j : Nat) : Nat := (ops.getD j zOp).1
def tF (ops : List Op) (j : Nat) : Nat := (ops.getD j zOp).2.1
def lF (ops : List Op) (j : Nat) : Nat := (ops.getD j zOp).2.2.1
def rF (ops : List Op) (j : Nat) : Nat := (ops.getD j zOp).2.2.2.1
/-- the source is valid -/
def srcOK (n : Nat) (o d a bn : Nat → Nat) : Prop := n ≤ 24 ∧ ∀ j, j < n → o j ≤ 8 ∧ d j ≤ 7 ∧ a j ≤ 7 ∧ (o j ≤ 5 → bn j ≤ 7)
theorem xSrc.ok {S : St} {n : Nat} {o d a bn : Nat → Nat} (h : xSrc S n o d a bn) : srcOK n o d a bn := ⟨h.1, fun j hj => by
  obtain ⟨-, -, -, h1, h2, h3, h4⟩ := h.2.2 j hj
  exact ⟨h1, h2, h3, fun q => (h4 q).2⟩⟩
theorem cpF_ok {ops : List Op} {nc : Nat → Nat} {r cl : Nat} (h : ∀ p ∈ ops, opOK p) (hn : ∀ j, nc j ≤ 3) (hr : r ≤ 7) (hc : cl ≤ 1) : ∀ p ∈ (cpF ops nc r cl).2.1, opOK p := by
  unfold cpF
  have := hn cl
  split
  · exact h
  · intro p hp
    rcases List.mem_append.mp hp with q | q
    · exact h p q
    · rw [List.mem_singleton.mp q]
      exact ⟨Nat.le_refl 9, show 8 + 4 * cl + nc cl ≤ 15 by omega, show r ≤ 15 by omega, show r ≤ 15 by omega, Nat.zero_le 23⟩
theorem lowF_ok {n : Nat} {o d a bn : Nat → Nat} (h : srcOK n o d a bn) : ∀ i, i ≤ n → ∀ p ∈ (lowF o d a bn i).1, opOK p
  | 0, _, p, hp => absurd hp List.not_mem_nil
  | i + 1, hi, p, hp => by
    have ih := lowF_ok h i (by omega)
    have hn := lowF_nc o d a bn i
    obtain ⟨h24, h⟩ := h
    obtain ⟨h1, h2, h3, h4⟩ := h i (by omega)
    have hc := cluF_le (d i)
    have k1 := cpF_ok (nc := (lowF o d a bn i).2) ih hn h3 hc
    have r1 := cpF_reg (ops := (lowF o d a bn i).1) hn h3 hc
    have n1 := cpF_nc (ops := (lowF o d a bn i).1) (r := a i) (cl := cluF (d i)) hn
    have hp : p ∈ (lowS (lowF o d a bn i) (o i) (d i) (a i) (bn i) i).1 := hp
    by_cases h5 : o i ≤ 5
    · rw [lowS, if_pos h5] at hp
      rcases List.mem_append.mp hp with q | q
      · exact cpF_ok k1 n1 (h4 h5) hc p q
      · rw [List.mem_singleton.mp q]
        exact ⟨show o i ≤ 9 by omega, show d i ≤ 15 by omega, r1, cpF_reg n1 (h4 h5) hc, show i ≤ 23 by omega⟩
    · rw [lowS, if_neg h5] at hp
      rcases List.mem_append.mp hp with q | q
      · exact k1 p q
      · rw [List.mem_singleton.mp q]
        exact ⟨show o i ≤ 9 by omega, show d i ≤ 15 by omega, r1, r1, show i ≤ 23 by omega⟩
theorem xMop.ops {S : St} {ops : List Op} {nc : Nat → Nat} (h : xMop S ops nc) (hl : ops.length ≤ 96) (hk : ∀ j, j < ops.length → opOK (ops.getD j zOp)) : xOps S ops.length (oF ops) (tF ops) (lF ops) (rF ops) := by
  refine ⟨hl, fun j hj => ?_⟩
  obtain ⟨h1, h2, h3, h4, h5⟩ := h.2.1 j hj
  obtain ⟨k1, k2, k3, k4, -⟩ := hk j hj
  exact ⟨h1, h2, h3, h4, k1, k2, k3, k4⟩
/-- the code in the arrays is a schedule of the lowered source -/
def codeOK (S : St) (n : Nat) (o d a bn : Nat → Nat) : Prop := ∃ c : Nat → Nat, schOK (oF (lowF o d a bn n).1) (tF (lowF o d a bn n).1) (lF (lowF o d a bn n).1) (rF (lowF o d a bn n).1) (lowF o d a bn n).1.length c ∧ xCode S (wall (lowF o d a bn n).1 c (mxF c (lowF o d a bn n).1.length))
set_option maxHeartbeats 4000000 in
set_option maxRecDepth 100000 in
theorem met_X0_pack (l : Launch) (S : St) (n : Nat) (o d a bn : Nat → Nat) (hs : xSrc S n o d a bn) (hpk : S 5 0 = nI 0 ∨ (S 5 0 = nI 1 ∧ codeOK S n o d a bn)) : gV wX l yX0_pack cX0_pack 1 ({ frames := 5, cells := 0, slots := 0, locals := 116 }) [] S (fun S1 => codeOK S1 n o d a bn ∧ S1 5 0 = nI 1 ∧ ∀ k, k < 5 ∨ 17 < k → S1 k = S k) := by
  refine g_startv (own := RX0) (by decide) rfl (fun b => Nat.le_of_ble_eq_true rfl) ?_
  intro p e s m below meth c D Q T A ls C w hl
  have hl : lv_has ls 1 [(0, .ref (Q 0))] := hl
  have hlen := lowF_len o d a bn n
  have hn24 := hs.1
  have hok : ∀ j, j < (lowF o d a bn n).1.length → opOK ((lowF o d a bn n).1.getD j zOp) := fun j hj => lowF_ok hs.ok n (Nat.le_refl _) _ (getD_mem hj)
  refine lv_aload_n C.1 C.2.1 dX0_pack_0 rfl (lv_at hl 0 rfl) ?_
  refine xg_5 (v := S 5 0) C w rfl dX0_pack_1 ?_
  refine r_if_eq (tgt := 8) C dX0_pack_4 (by decide) (fun c_4 => ?_) (fun c_4 => ?_)
  · skip
    refine lv_aload_n C.1 C.2.1 dX0_pack_8 rfl (lv_at hl 0 rfl) ?_
    refine n_const (v := nI 1) C dX0_pack_9 (by decide) ?_
    refine xp_5 (v := nI 1) C w (Or.inr rfl) dX0_pack_10 (fun H locs S1 hS1 w => ?_)
    subst hS1
    refine lv_aload_n C.1 C.2.1 dX0_pack_13 rfl (lv_at hl 0 rfl) ?_
    refine g_callv C w (met_X0_lower l _ n o d a bn (hs.cg (fun k hk => up_n _ _ (by omega)))) rfl rfl cq_X0_X0_lower cy_X0_lower rfl rfl ⟨Nat.le_of_ble_eq_true rfl, Nat.le_of_ble_eq_true rfl⟩ ⟨Nat.zero_le _, Nat.zero_le _⟩ hl.1 rfl (Nat.le_of_ble_eq_true rfl) dX0_pack_14 (fun SA H locs hp w => ?_)
    obtain ⟨hx1, hf1⟩ := hp
    have hO1 := hx1.ops (by omega) hok
    refine lv_aload_n C.1 C.2.1 dX0_pack_17 rfl (lv_at hl 0 rfl) ?_
    refine g_callv C w (met_X0_findUrgency l _ _ _ _ _ _ hO1 hx1.1) rfl rfl cq_X0_X0_findUrgency cy_X0_findUrgency rfl rfl ⟨Nat.le_of_ble_eq_true rfl, Nat.le_of_ble_eq_true rfl⟩ ⟨Nat.zero_le _, Nat.zero_le _⟩ hl.1 rfl (Nat.le_of_ble_eq_true rfl) dX0_pack_18 (fun SB H locs hp w => ?_)
    obtain ⟨u, rfl⟩ := hp
    refine lv_aload_n C.1 C.2.1 dX0_pack_21 rfl (lv_at hl 0 rfl) ?_
    refine g_callv C w (met_X0_schedule l (up SA 13 u) _ _ _ _ _ hO1 hx1.1 (by omega)) rfl rfl cq_X0_X0_schedule cy_X0_schedule rfl rfl ⟨Nat.le_of_ble_eq_true rfl, Nat.le_of_ble_eq_true rfl⟩ ⟨Nat.zero_le _, Nat.zero_le _⟩ hl.1 rfl (Nat.le_of_ble_eq_true rfl) dX0_pack_22 (fun SC H locs hp w => ?_)
    obtain ⟨hf2, cyc, hcy, hsch⟩ := hp
    refine lv_aload_n C.1 C.2.1 dX0_pack_25 rfl (lv_at hl 0 rfl) ?_
    refine g_callv C w (met_X0_encode l SC _ (lowF o d a bn n).2 cyc ((hx1.cg (S1 := up SA 13 u) (fun k h1 h2 => up_n _ _ (by omega))).cg (fun k h1 h2 => hf2 k (by omega) (by omega))) (by omega) hok (fun k hk => ⟨hcy k hk, by have := hsch.2.2 k hk; omega⟩)) rfl rfl cq_X0_X0_encode cy_X0_encode rfl rfl ⟨Nat.le_of_ble_eq_true rfl, Nat.le_of_ble_eq_true rfl⟩ ⟨Nat.zero_le _, Nat.zero_le _⟩ hl.1 rfl (Nat.le_of_ble_eq_true rfl) dX0_pack_26 (fun SD H locs hp w => ?_)
    obtain ⟨hf3, hcd⟩ := hp
    exact g_vret C w ⟨⟨cyc, hsch, hcd⟩, (by rw [hf3 5 (by omega) (by omega), hf2 5 (by omega) (by omega), up_n _ _ (by omega), hf1 5 (by omega)]; rfl), fun k hk => by rw [hf3 k (by omega) (by omega), hf2 k (by omega) (by omega), up_n _ _ (by omega), hf1 k (by omega), up_n _ _ (by omega)]⟩ dX0_pack_29
  · skip
    exact g_vret C w (by rcases hpk with q | q; exact absurd q c_4; exact ⟨q.2, q.1, fun _ _ => rfl⟩) dX0_pack_7
end
section
/-! weights: readBySource, hangsOn, weigh, weight, heaviest, links -/
section WT
variable (o d a bn : Nat → Nat)
/-- instruction j reads register r -/
def rdB (j r : Nat) : Bool := decide (a j = r) || (decide (o j ≤ 5) && decide (bn j = r)) || ((decide (o j = 5) || decide (o j = 8)) && decide (d j = r))
/-- instruction k writes register r -/
def wrB (k r : Nat) : Bool := !decide (o k = 8) && decide (d k = r)
def noW (i : Nat) : Nat → Bool
  | 0 => true
  | k + 1 => noW i k && !(decide (i < k) && wrB o d k (d i))
/-- j reads what i writes, with no other writer in between -/
def hgB (j i : Nat) : Bool := wrB o d i (d i) && rdB o d a bn j (d i) && noW o d i j
def rsF (i : Nat) : Nat := if o i = 5 ∨ o i = 8 then (if o i ≤ 5 then 2 ^ a i ||| 2 ^ bn i else 2 ^ a i) ||| 2 ^ d i else (if o i ≤ 5 then 2 ^ a i ||| 2 ^ bn i else 2 ^ a i)
def mxW (f : Nat → Nat) (j : Nat) : Nat → Nat
  | 0 => 0
  | i + 1 => if hgB o d a bn j i = true ∧ mxW f j i < f i then f i else mxW f j i
def wts : Nat → Nat → Nat
  | 0 => fun _ => 0
  | j + 1 => va_up (wts j) j (mxW o d a bn (wts j) j j + tm (o j))
def lkI (j : Nat) : Nat → Nat
  | 0 => 0
  | i + 1 => lkI j i + (hgB o d a bn j i).toNat
def lkF : Nat → Nat
  | 0 => 0
  | j + 1 => lkF j + lkI o d a bn j j
end WT
def hvF (f : Nat → Nat) : Nat → Nat
  | 0 => 0
  | i + 1 => if hvF f i < f i then f i else hvF f i
theorem rsF_tb (o d a bn : Nat → Nat) (j r : Nat) : (rsF o d a bn j).testBit r = rdB o d a bn j r := by
  unfold rsF rdB
  by_cases h1 : o j ≤ 5 <;> by_cases h2 : o j = 5 ∨ o j = 8
  · rw [if_pos h1, if_pos h2]
    rcases h2 with h2 | h2 <;> simp [Nat.testBit_or, Nat.testBit_two_pow, h2]
    omega
  · rw [if_pos h1, if_neg h2]
    simp only [not_or] at h2
    simp [Nat.testBit_or, Nat.testBit_two_pow, h1, h2.1, h2.2]
  · rw [if_neg h1, if_pos h2]
    have h3 : o j = 8 := by omega
    simp [Nat.testBit_or, Nat.testBit_two_pow, h3]
  · rw [if_neg h1, if_neg h2]
    simp only [not_or] at h2
    simp [Nat.testBit_or, Nat.testBit_two_pow, h1, h2.1, h2.2]
theorem rsF_lt {o d a bn : Nat → Nat} {i : Nat} (h1 : d i ≤ 7) (h2 : a i ≤ 7) (h3 : o i ≤ 5 → bn i ≤ 7) : rsF o d a bn i < 256 := by
  have a1 : 2 ^ d i < 2 ^ 8 := Nat.pow_lt_pow_right (by decide) (by omega)
  have a2 : 2 ^ a i < 2 ^ 8 := Nat.pow_lt_pow_right (by decide) (by omega)
  have key : (if o i ≤ 5 then 2 ^ a i ||| 2 ^ bn i else 2 ^ a i) < 2 ^ 8 := by
    split
    · rename_i q
      exact Nat.or_lt_two_pow a2 (Nat.pow_lt_pow_right (by decide) (by have := h3 q; omega))
    · exact a2
  unfold rsF
  split
  · exact Nat.or_lt_two_pow key a1
  · exact key
theorem noW_iff {o d : Nat → Nat} {i : Nat} : ∀ {j : Nat}, noW o d i j = true ↔ ∀ k, i < k → k < j → wrB o d k (d i) = false
  | 0 => ⟨fun _ k _ h => absurd h (Nat.not_lt_zero _), fun _ => rfl⟩
  | j + 1 => by
    have ih := noW_iff (o := o) (d := d) (i := i) (j := j)
    rw [noW, Bool.and_eq_true, ih]
    constructor
    · rintro ⟨h1, h2⟩ k hk hkj
      by_cases e : k = j
      · subst e
        simpa [hk] using h2
      · exact h1 k hk (by omega)
    · intro h
      refine ⟨fun k h1 h2 => h k h1 (by omega), ?_⟩
      by_cases e : i < j
      · simp [h j e (Nat.lt_succ_self j)]
      · simp [e]
/-- the registers still wanted when the instructions c .. j-1 are done with -/
def hWn (o d a bn : Nat → Nat) (j c wn : Nat) : Prop := wn < 256 ∧ ∀ r, wn.testBit r = true ↔ rdB o d a bn j r = true ∧ ∀ k, c ≤ k → k < j → wrB o d k r = false
def hSt (o d a bn : Nat → Nat) (j c st : Nat) : Prop := st < 16777216 ∧ ∀ i, st.testBit i = true ↔ c ≤ i ∧ i < j ∧ hgB o d a bn j i = true
def clr (w k : Nat) : Nat := w &&& (2 ^ k ^^^ 4294967295)
theorem clr_eq (w k : Nat) : nI w &&& (nI (2 ^ k) ^^^ (-1)) = nI (clr w k) := by
  rw [show (-1 : Int32) = nI 4294967295 from rfl, nx_xor, nx_and]
  rfl
theorem clr_tb {w k : Nat} (h : w < 256) (r : Nat) : (clr w k).testBit r = (w.testBit r && !decide (k = r)) := by
  unfold clr
  rw [Nat.testBit_and, Nat.testBit_xor, Nat.testBit_two_pow, show 4294967295 = 2 ^ 32 - 1 from rfl, Nat.testBit_two_pow_sub_one]
  by_cases hr : r < 32
  · simp [hr]
  · rw [Nat.testBit_lt_two_pow (Nat.lt_of_lt_of_le h (Nat.le_trans (show 256 ≤ 2 ^ 32 by decide) (Nat.pow_le_pow_right (by decide) (by omega))))]
    simp
theorem wn_0 {o d a bn : Nat → Nat} {j : Nat} (h : rsF o d a bn j < 256) : hWn o d a bn j j (rsF o d a bn j) := ⟨h, fun r => by
  rw [rsF_tb]
  exact ⟨fun q => ⟨q, fun k h1 h2 => absurd h2 (by omega)⟩, fun q => q.1⟩⟩
theorem st_0 {o d a bn : Nat → Nat} {j : Nat} : hSt o d a bn j j 0 := ⟨by decide, fun i => ⟨fun h => by simp at h, fun h => absurd h.2.1 (by omega)⟩⟩
theorem hg_wn {o d a bn : Nat → Nat} {j v wn : Nat} (h : hWn o d a bn j (v + 1) wn) : hgB o d a bn j v = (wrB o d v (d v) && wn.testBit (d v)) := by
  rw [Bool.eq_iff_iff, Bool.and_eq_true, h.2, hgB, Bool.and_eq_true, Bool.and_eq_true, noW_iff]
  constructor
  · rintro ⟨⟨h1, h2⟩, h3⟩
    exact ⟨h1, h2, fun k hk => h3 k (by omega)⟩
  · rintro ⟨h1, h2, h3⟩
    exact ⟨⟨h1, h2⟩, fun k hk => h3 k (by omega)⟩
/-- v doesn't write what is wanted -/
theorem wn_skip {o d a bn : Nat → Nat} {j v wn st : Nat} (h : hWn o d a bn j (v + 1) wn) (hs : hSt o d a bn j (v + 1) st) (hv : v < j) (hn : (wrB o d v (d v) && wn.testBit (d v)) = false) : hWn o d a bn j v wn ∧ hSt o d a bn j v st := by
  have hg : hgB o d a bn j v = false := by rw [hg_wn h]; exact hn
  refine ⟨⟨h.1, fun r => ?_⟩, hs.1, fun i => ?_⟩
  · constructor
    · intro q
      have g := (h.2 r).mp q
      refine ⟨g.1, fun k h1 h2 => ?_⟩
      by_cases e : k = v
      · subst e
        cases hw : wrB o d k r
        · rfl
        · have hd : d k = r := by
            unfold wrB at hw
            simp at hw
            exact hw.2
          rw [hd, q] at hn
          rw [hw] at hn
          cases hn
      · exact g.2 k (by omega) h2
    · rintro ⟨q1, q2⟩
      exact (h.2 r).mpr ⟨q1, fun k h1 h2 => q2 k (by omega) h2⟩
  · rw [hs.2 i]
    constructor
    · rintro ⟨q1, q2⟩
      exact ⟨by omega, q2⟩
    · rintro ⟨q1, q2, q3⟩
      refine ⟨?_, q2, q3⟩
      by_cases e : i = v
      · subst e
        rw [hg] at q3
        cases q3
      · omega
theorem wn_take {o d a bn : Nat → Nat} {j v wn st : Nat} (h : hWn o d a bn j (v + 1) wn) (hs : hSt o d a bn j (v + 1) st) (hv : v < j) (hj : j ≤ 24) (h8 : o v ≠ 8) (hb : wn.testBit (d v) = true) : hWn o d a bn j v (clr wn (d v)) ∧ hSt o d a bn j v (st ||| 2 ^ v) := by
  have hw : wrB o d v (d v) = true := by simp [wrB, h8]
  have hg : hgB o d a bn j v = true := by rw [hg_wn h, hw, hb]; rfl
  refine ⟨⟨Nat.lt_of_le_of_lt Nat.and_le_left h.1, fun r => ?_⟩, Nat.or_lt_two_pow (n := 24) hs.1 (Nat.pow_lt_pow_right (by decide) (by omega)), fun i => ?_⟩
  · rw [clr_tb h.1, Bool.and_eq_true, h.2 r]
    constructor
    · rintro ⟨⟨q1, q2⟩, q3⟩
      refine ⟨q1, fun k h1 h2 => ?_⟩
      by_cases e : k = v
      · subst e
        have q4 : ¬ d k = r := by simpa using q3
        simp [wrB, q4]
      · exact q2 k (by omega) h2
    · rintro ⟨q1, q2⟩
      refine ⟨⟨q1, fun k h1 h2 => q2 k (by omega) h2⟩, ?_⟩
      by_cases e : d v = r
      · subst e
        rw [q2 v (Nat.le_refl _) hv] at hw
        cases hw
      · simp [e]
  · rw [Nat.testBit_or, Nat.testBit_two_pow, Bool.or_eq_true, hs.2 i, decide_eq_true_eq]
    constructor
    · rintro (⟨q1, q2⟩ | q)
      · exact ⟨by omega, q2⟩
      · subst q
        exact ⟨Nat.le_refl _, hv, hg⟩
    · rintro ⟨q1, q2, q3⟩
      by_cases e : v = i
      · exact Or.inr e
      · exact Or.inl ⟨by omega, q2, q3⟩
theorem mxW_le {o d a bn f : Nat → Nat} {j B : Nat} (h : ∀ i, i < j → f i ≤ B) : ∀ i, i ≤ j → mxW o d a bn f j i ≤ B
  | 0, _ => Nat.zero_le _
  | i + 1, hi => by
    have ih := mxW_le (o := o) (d := d) (a := a) (bn := bn) h i (by omega)
    rw [mxW]
    split
    · exact h i (by omega)
    · exact ih
theorem wts_le (o d a bn : Nat → Nat) : ∀ j i, i < j → wts o d a bn j i ≤ 3 * j
  | 0, i, h => absurd h (Nat.not_lt_zero _)
  | j + 1, i, h => by
    have ih := wts_le o d a bn j
    have hm := mxW_le (o := o) (d := d) (a := a) (bn := bn) ih j (Nat.le_refl _)
    have ht := tm_le (o j)
    rw [wts]
    unfold va_up
    split
    · omega
    · have := ih i (by omega)
      omega
theorem hvF_le {f : Nat → Nat} {B : Nat} : ∀ {n : Nat}, (∀ i, i < n → f i ≤ B) → hvF f n ≤ B
  | 0, _ => Nat.zero_le _
  | i + 1, h => by
    have ih := hvF_le (f := f) (B := B) (n := i) (fun k hk => h k (by omega))
    rw [hvF]
    split
    · exact h i (by omega)
    · exact ih
theorem lkI_le (o d a bn : Nat → Nat) (j : Nat) : ∀ i, lkI o d a bn j i ≤ i
  | 0 => Nat.le_refl _
  | i + 1 => by
    have := lkI_le o d a bn j i
    have := Bool.toNat_le (hgB o d a bn j i)
    rw [lkI]
    omega
theorem lkF_le (o d a bn : Nat → Nat) : ∀ j, lkF o d a bn j ≤ j * j
  | 0 => Nat.le_refl _
  | j + 1 => by
    have := lkF_le o d a bn j
    have := lkI_le o d a bn j j
    rw [lkF, Nat.succ_mul, Nat.mul_succ]
    omega
theorem nx_tbN {v b : Nat} (h : v < 2 ^ 31) : nI (v / 2 ^ b) &&& nI 1 = nI (v.testBit b).toNat := by
  rw [nx_tb h]
  cases v.testBit b <;> rfl
theorem xSrc.B {S : St} {n : Nat} {o d a bn : Nat → Nat} (h : xSrc S n o d a bn) {i : Nat} (hi : i < n) : o i ≤ 8 ∧ d i ≤ 7 ∧ a i ≤ 7 ∧ (o i ≤ 5 → bn i ≤ 7) := by
  obtain ⟨-, -, -, h1, h2, h3, h4⟩ := h.2.2 i hi
  exact ⟨h1, h2, h3, fun q => (h4 q).2⟩
set_option maxHeartbeats 4000000 in
set_option maxRecDepth 100000 in
theorem met_X0_readBySource (l : Launch) (S : St) (n : Nat) (o d a bn : Nat → Nat) (i : Nat) (hs : xSrc S n o d a bn) (hi : i < n) : gM wX l yX0_readBySource cX0_readBySource 3 (some .int) ({ frames := 0, cells := 0, slots := 0, locals := 0 }) [.int (nI i)] S (fun r S1 => r = nI (rsF o d a bn i) ∧ S = S1) := by
  refine g_start (own := RX0) (by decide) rfl (fun b => Nat.le_of_ble_eq_true rfl) ?_
  intro p e s m below meth c D Q T A ls C w hl
  have hl : lv_has ls 3 [(0, .ref (Q 0)), (1, .int (nI i))] := hl
  have hn := hs.1
  obtain ⟨h8, h7, ha7, hb7⟩ := hs.B hi
  refine n_const (v := nI 1) C dX0_readBySource_0 (by decide) ?_
  refine lv_aload_n C.1 C.2.1 dX0_readBySource_1 rfl (lv_at hl 0 rfl) ?_
  refine xg_3 C w dX0_readBySource_2 ?_
  refine lv_iload_n C.1 C.2.1 dX0_readBySource_5 rfl (lv_at hl 1 rfl) ?_
  refine xl_3 (v := nI (a i)) C w (by omega) (hs.2.2 i (by omega)).2.2.1 dX0_readBySource_6 ?_
  refine n_ishl (v := nI (2 ^ (a i))) C dX0_readBySource_7 (nx_sh1 (by omega)) ?_
  refine lv_istore_n (lv' := [(2, .int (nI (2 ^ (a i)))), (0, .ref (Q 0)), (1, .int (nI i))]) C.1 C.2.1 dX0_readBySource_8 rfl hl (by decide) rfl (fun ls hl => ?_)
  refine lv_aload_n C.1 C.2.1 dX0_readBySource_9 rfl (lv_at hl 1 rfl) ?_
  refine xg_1 C w dX0_readBySource_10 ?_
  refine lv_iload_n C.1 C.2.1 dX0_readBySource_13 rfl (lv_at hl 2 rfl) ?_
  refine xl_1 (v := nI (o i)) C w (by omega) (hs.2.2 i (by omega)).1 dX0_readBySource_14 ?_
  refine n_const (v := nI 5) C dX0_readBySource_15 (by decide) ?_
  refine n_icmp_gt (tgt := 30) C (by omega) (by decide) dX0_readBySource_16 (by decide) (fun c_16 => ?_) (fun c_16 => ?_)
  · skip
    refine lv_aload_n C.1 C.2.1 dX0_readBySource_30 rfl (lv_at hl 1 rfl) ?_
    refine xg_1 C w dX0_readBySource_31 ?_
    refine lv_iload_n C.1 C.2.1 dX0_readBySource_34 rfl (lv_at hl 2 rfl) ?_
    refine xl_1 (v := nI (o i)) C w (by omega) (hs.2.2 i (by omega)).1 dX0_readBySource_35 ?_
    refine n_const (v := nI 5) C dX0_readBySource_36 (by decide) ?_
    refine n_icmp_eq (tgt := 51) C (by omega) (by decide) dX0_readBySource_37 (by decide) (fun c_37 => ?_) (fun c_37 => ?_)
    · skip
      refine lv_iload_n C.1 C.2.1 dX0_readBySource_51 rfl (lv_at hl 0 rfl) ?_
      refine n_const (v := nI 1) C dX0_readBySource_52 (by decide) ?_
      refine lv_aload_n C.1 C.2.1 dX0_readBySource_53 rfl (lv_at hl 1 rfl) ?_
      refine xg_2 C w dX0_readBySource_54 ?_
      refine lv_iload_n C.1 C.2.1 dX0_readBySource_57 rfl (lv_at hl 2 rfl) ?_
      refine xl_2 (v := nI (d i)) C w (by omega) (hs.2.2 i (by omega)).2.1 dX0_readBySource_58 ?_
      refine n_ishl (v := nI (2 ^ (d i))) C dX0_readBySource_59 (nx_sh1 (by omega)) ?_
      refine n_ior (v := nI ((2 ^ (a i)) ||| (2 ^ (d i)))) C dX0_readBySource_60 (nx_or _ _) ?_
      refine lv_istore_n (lv' := [(2, .int (nI ((2 ^ (a i)) ||| (2 ^ (d i))))), (0, .ref (Q 0)), (1, .int (nI i))]) C.1 C.2.1 dX0_readBySource_61 rfl hl (by decide) rfl (fun ls hl => ?_)
      refine lv_iload_n C.1 C.2.1 dX0_readBySource_62 rfl (lv_at hl 0 rfl) ?_
      exact g_iret (v := nI ((2 ^ (a i)) ||| (2 ^ (d i)))) C w ⟨by rw [rsF, if_pos (Or.inl c_37), if_neg (Nat.not_le.mpr c_16)], rfl⟩ dX0_readBySource_63
    · skip
      refine lv_aload_n C.1 C.2.1 dX0_readBySource_40 rfl (lv_at hl 1 rfl) ?_
      refine xg_1 C w dX0_readBySource_41 ?_
      refine lv_iload_n C.1 C.2.1 dX0_readBySource_44 rfl (lv_at hl 2 rfl) ?_
      refine xl_1 (v := nI (o i)) C w (by omega) (hs.2.2 i (by omega)).1 dX0_readBySource_45 ?_
      refine n_bipush (v := nI 8) C dX0_readBySource_46 (by decide) ?_
      refine n_icmp_ne (tgt := 62) C (by omega) (by decide) dX0_readBySource_48 (by decide) (fun c_48 => ?_) (fun c_48 => ?_)
      · skip
        refine lv_iload_n C.1 C.2.1 dX0_readBySource_62 rfl (lv_at hl 0 rfl) ?_
        exact g_iret (v := nI (2 ^ (a i))) C w ⟨by rw [rsF, if_neg (fun q => q.elim c_37 c_48), if_neg (Nat.not_le.mpr c_16)], rfl⟩ dX0_readBySource_63
      · skip
        refine lv_iload_n C.1 C.2.1 dX0_readBySource_51 rfl (lv_at hl 0 rfl) ?_
        refine n_const (v := nI 1) C dX0_readBySource_52 (by decide) ?_
        refine lv_aload_n C.1 C.2.1 dX0_readBySource_53 rfl (lv_at hl 1 rfl) ?_
        refine xg_2 C w dX0_readBySource_54 ?_
        refine lv_iload_n C.1 C.2.1 dX0_readBySource_57 rfl (lv_at hl 2 rfl) ?_
        refine xl_2 (v := nI (d i)) C w (by omega) (hs.2.2 i (by omega)).2.1 dX0_readBySource_58 ?_
        refine n_ishl (v := nI (2 ^ (d i))) C dX0_readBySource_59 (nx_sh1 (by omega)) ?_
        refine n_ior (v := nI ((2 ^ (a i)) ||| (2 ^ (d i)))) C dX0_readBySource_60 (nx_or _ _) ?_
        refine lv_istore_n (lv' := [(2, .int (nI ((2 ^ (a i)) ||| (2 ^ (d i))))), (0, .ref (Q 0)), (1, .int (nI i))]) C.1 C.2.1 dX0_readBySource_61 rfl hl (by decide) rfl (fun ls hl => ?_)
        refine lv_iload_n C.1 C.2.1 dX0_readBySource_62 rfl (lv_at hl 0 rfl) ?_
        exact g_iret (v := nI ((2 ^ (a i)) ||| (2 ^ (d i)))) C w ⟨by rw [rsF, if_pos (Or.inr c_48), if_neg (Nat.not_le.mpr c_16)], rfl⟩ dX0_readBySource_63
  · skip
    have hbb := hb7 c_16
    refine lv_iload_n C.1 C.2.1 dX0_readBySource_19 rfl (lv_at hl 0 rfl) ?_
    refine n_const (v := nI 1) C dX0_readBySource_20 (by decide) ?_
    refine lv_aload_n C.1 C.2.1 dX0_readBySource_21 rfl (lv_at hl 1 rfl) ?_
    refine xg_4 C w dX0_readBySource_22 ?_
    refine lv_iload_n C.1 C.2.1 dX0_readBySource_25 rfl (lv_at hl 2 rfl) ?_
    refine xl_4 (v := nI (bn i)) C w (by omega) ((hs.2.2 i (by omega)).2.2.2.2.2.2 (by omega)).1 dX0_readBySource_26 ?_
    refine n_ishl (v := nI (2 ^ (bn i))) C dX0_readBySource_27 (nx_sh1 (by omega)) ?_
    refine n_ior (v := nI ((2 ^ (a i)) ||| (2 ^ (bn i)))) C dX0_readBySource_28 (nx_or _ _) ?_
    refine lv_istore_n (lv' := [(2, .int (nI ((2 ^ (a i)) ||| (2 ^ (bn i))))), (0, .ref (Q 0)), (1, .int (nI i))]) C.1 C.2.1 dX0_readBySource_29 rfl hl (by decide) rfl (fun ls hl => ?_)
    refine lv_aload_n C.1 C.2.1 dX0_readBySource_30 rfl (lv_at hl 1 rfl) ?_
    refine xg_1 C w dX0_readBySource_31 ?_
    refine lv_iload_n C.1 C.2.1 dX0_readBySource_34 rfl (lv_at hl 2 rfl) ?_
    refine xl_1 (v := nI (o i)) C w (by omega) (hs.2.2 i (by omega)).1 dX0_readBySource_35 ?_
    refine n_const (v := nI 5) C dX0_readBySource_36 (by decide) ?_
    refine n_icmp_eq (tgt := 51) C (by omega) (by decide) dX0_readBySource_37 (by decide) (fun c_37 => ?_) (fun c_37 => ?_)
    · skip
      refine lv_iload_n C.1 C.2.1 dX0_readBySource_51 rfl (lv_at hl 0 rfl) ?_
      refine n_const (v := nI 1) C dX0_readBySource_52 (by decide) ?_
      refine lv_aload_n C.1 C.2.1 dX0_readBySource_53 rfl (lv_at hl 1 rfl) ?_
      refine xg_2 C w dX0_readBySource_54 ?_
      refine lv_iload_n C.1 C.2.1 dX0_readBySource_57 rfl (lv_at hl 2 rfl) ?_
      refine xl_2 (v := nI (d i)) C w (by omega) (hs.2.2 i (by omega)).2.1 dX0_readBySource_58 ?_
      refine n_ishl (v := nI (2 ^ (d i))) C dX0_readBySource_59 (nx_sh1 (by omega)) ?_
      refine n_ior (v := nI (((2 ^ (a i)) ||| (2 ^ (bn i))) ||| (2 ^ (d i)))) C dX0_readBySource_60 (nx_or _ _) ?_
      refine lv_istore_n (lv' := [(2, .int (nI (((2 ^ (a i)) ||| (2 ^ (bn i))) ||| (2 ^ (d i))))), (0, .ref (Q 0)), (1, .int (nI i))]) C.1 C.2.1 dX0_readBySource_61 rfl hl (by decide) rfl (fun ls hl => ?_)
      refine lv_iload_n C.1 C.2.1 dX0_readBySource_62 rfl (lv_at hl 0 rfl) ?_
      exact g_iret (v := nI (((2 ^ (a i)) ||| (2 ^ (bn i))) ||| (2 ^ (d i)))) C w ⟨by rw [rsF, if_pos (Or.inl c_37), if_pos c_16], rfl⟩ dX0_readBySource_63
    · skip
      refine lv_aload_n C.1 C.2.1 dX0_readBySource_40 rfl (lv_at hl 1 rfl) ?_
      refine xg_1 C w dX0_readBySource_41 ?_
      refine lv_iload_n C.1 C.2.1 dX0_readBySource_44 rfl (lv_at hl 2 rfl) ?_
      refine xl_1 (v := nI (o i)) C w (by omega) (hs.2.2 i (by omega)).1 dX0_readBySource_45 ?_
      refine n_bipush (v := nI 8) C dX0_readBySource_46 (by decide) ?_
      refine n_icmp_ne (tgt := 62) C (by omega) (by decide) dX0_readBySource_48 (by decide) (fun c_48 => ?_) (fun c_48 => ?_)
      · skip
        refine lv_iload_n C.1 C.2.1 dX0_readBySource_62 rfl (lv_at hl 0 rfl) ?_
        exact g_iret (v := nI ((2 ^ (a i)) ||| (2 ^ (bn i)))) C w ⟨by rw [rsF, if_neg (fun q => q.elim c_37 c_48), if_pos c_16], rfl⟩ dX0_readBySource_63
      · skip
        refine lv_iload_n C.1 C.2.1 dX0_readBySource_51 rfl (lv_at hl 0 rfl) ?_
        refine n_const (v := nI 1) C dX0_readBySource_52 (by decide) ?_
        refine lv_aload_n C.1 C.2.1 dX0_readBySource_53 rfl (lv_at hl 1 rfl) ?_
        refine xg_2 C w dX0_readBySource_54 ?_
        refine lv_iload_n C.1 C.2.1 dX0_readBySource_57 rfl (lv_at hl 2 rfl) ?_
        refine xl_2 (v := nI (d i)) C w (by omega) (hs.2.2 i (by omega)).2.1 dX0_readBySource_58 ?_
        refine n_ishl (v := nI (2 ^ (d i))) C dX0_readBySource_59 (nx_sh1 (by omega)) ?_
        refine n_ior (v := nI (((2 ^ (a i)) ||| (2 ^ (bn i))) ||| (2 ^ (d i)))) C dX0_readBySource_60 (nx_or _ _) ?_
        refine lv_istore_n (lv' := [(2, .int (nI (((2 ^ (a i)) ||| (2 ^ (bn i))) ||| (2 ^ (d i))))), (0, .ref (Q 0)), (1, .int (nI i))]) C.1 C.2.1 dX0_readBySource_61 rfl hl (by decide) rfl (fun ls hl => ?_)
        refine lv_iload_n C.1 C.2.1 dX0_readBySource_62 rfl (lv_at hl 0 rfl) ?_
        exact g_iret (v := nI (((2 ^ (a i)) ||| (2 ^ (bn i))) ||| (2 ^ (d i)))) C w ⟨by rw [rsF, if_pos (Or.inr c_48), if_pos c_16], rfl⟩ dX0_readBySource_63
set_option maxHeartbeats 4000000 in
set_option maxRecDepth 100000 in
theorem met_X0_hangsOn (l : Launch) (S : St) (n : Nat) (o d a bn : Nat → Nat) (j : Nat) (hs : xSrc S n o d a bn) (hj : j < n) : gM wX l yX0_hangsOn cX0_hangsOn 5 (some .int) ({ frames := 1, cells := 0, slots := 0, locals := 22 }) [.int (nI j)] S (fun r S1 => ∃ q, r = nI q ∧ hSt o d a bn j 0 q ∧ S = S1) := by
  refine g_start (own := RX0) (by decide) rfl (fun b => Nat.le_of_ble_eq_true rfl) ?_
  intro p e s m below meth c D Q T A ls C w hl
  have hl : lv_has ls 5 [(0, .ref (Q 0)), (1, .int (nI j))] := hl
  have hn := hs.1
  obtain ⟨h8, h7, ha7, hb7⟩ := hs.B hj
  have hr := rsF_lt (o := o) h7 ha7 hb7
  refine lv_aload_n C.1 C.2.1 dX0_hangsOn_0 rfl (lv_at hl 0 rfl) ?_
  refine lv_iload_n C.1 C.2.1 dX0_hangsOn_1 rfl (lv_at hl 1 rfl) ?_
  refine g_calli C w (met_X0_readBySource l _ n o d a bn j hs hj) rfl rfl cq_X0_X0_readBySource cy_X0_readBySource rfl rfl ⟨Nat.le_of_ble_eq_true rfl, Nat.le_of_ble_eq_true rfl⟩ ⟨Nat.zero_le _, Nat.zero_le _⟩ hl.1 rfl (Nat.le_of_ble_eq_true rfl) dX0_hangsOn_2 (fun r_1 S1 H locs hp w => ?_)
  obtain ⟨rfl, rfl⟩ := hp
  refine lv_istore_n (lv' := [(2, .int (nI (rsF o d a bn j))), (0, .ref (Q 0)), (1, .int (nI j))]) C.1 C.2.1 dX0_hangsOn_5 rfl hl (by decide) rfl (fun ls hl => ?_)
  refine n_const (v := nI 0) C dX0_hangsOn_6 (by decide) ?_
  refine lv_istore_n (lv' := [(3, .int (nI 0)), (2, .int (nI (rsF o d a bn j))), (0, .ref (Q 0)), (1, .int (nI j))]) C.1 C.2.1 dX0_hangsOn_7 rfl hl (by decide) rfl (fun ls hl => ?_)
  refine lv_iload_n C.1 C.2.1 dX0_hangsOn_8 rfl (lv_at hl 3 rfl) ?_
  refine n_const (v := nI 1) C dX0_hangsOn_9 (by decide) ?_
  refine n_isub (v := oI (dn j)) C dX0_hangsOn_10 (dn_sub j) ?_
  refine lv_istore (lv' := [(4, .int (oI (dn j))), (3, .int (nI 0)), (2, .int (nI (rsF o d a bn j))), (0, .ref (Q 0)), (1, .int (nI j))]) C.1 C.2.1 dX0_hangsOn_11 hl (by decide) rfl (fun ls hl => ?_)
  refine g_loop (pcL := 13) (I := fun nM st ls H locs => ∃ (wn : Nat) (sx : Nat) (q : Nat), (nM = q) ∧ (q ≤ j) ∧ (hWn o d a bn j q wn) ∧ (hSt o d a bn j q sx) ∧ (st = []) ∧ (gW wX D Q T A s S H locs) ∧ (lv_has ls 5 [(0, .ref (Q 0)), (1, .int (nI j)), (2, .int (nI wn)), (3, .int (nI sx)), (4, .int (oI (dn q)))])) ⟨_, 0, j, rfl, (Nat.le_refl _), (wn_0 hr), st_0, rfl, w, lv_sub hl [3, 4, 2, 1, 0] rfl⟩ (fun n_13 st_13 ls H locs ih_13 hI => ?_)
  obtain ⟨wn, sx, q, hn_13, hq, hW, hX, rfl, w, hl⟩ := hI
  have hw9 := hW.1
  have hx9 := hX.1
  refine lv_iload C.1 C.2.1 dX0_hangsOn_13 (lv_at hl 4 rfl) ?_
  refine o_if_lt (tgt := 74) C (fun n hn => by have := dn_some hn; omega) dX0_hangsOn_15 (by decide) (fun c_15 => ?_) (fun v_15 c_15 => ?_)
  · skip
    have hq0 := dn_none c_15
    subst hq0
    refine lv_iload_n C.1 C.2.1 dX0_hangsOn_74 rfl (lv_at hl 3 rfl) ?_
    exact g_iret (v := nI sx) C w ⟨sx, rfl, hX, rfl⟩ dX0_hangsOn_75
  · skip
    have hv15 := dn_some c_15
    subst hv15
    obtain ⟨k8, k7, ka7, kb7⟩ := hs.B (i := v_15) (by omega)
    rw [c_15] at hl
    have hl : lv_has ls 5 [(0, .ref (Q 0)), (1, .int (nI j)), (2, .int (nI wn)), (3, .int (nI sx)), (4, .int (nI v_15))] := hl
    refine lv_aload_n C.1 C.2.1 dX0_hangsOn_18 rfl (lv_at hl 0 rfl) ?_
    refine xg_1 C w dX0_hangsOn_19 ?_
    refine lv_iload C.1 C.2.1 dX0_hangsOn_22 (lv_at hl 4 rfl) ?_
    refine xl_1 (v := nI (o v_15)) C w (by omega) (hs.2.2 v_15 (by omega)).1 dX0_hangsOn_24 ?_
    refine n_bipush (v := nI 8) C dX0_hangsOn_25 (by decide) ?_
    refine n_icmp_eq (tgt := 68) C (by omega) (by decide) dX0_hangsOn_27 (by decide) (fun c_27 => ?_) (fun c_27 => ?_)
    · skip
      refine lv_iinc (v := oI (dn v_15)) (lv' := [(4, .int (oI (dn v_15))), (0, .ref (Q 0)), (1, .int (nI j)), (2, .int (nI wn)), (3, .int (nI sx))]) C.1 C.2.1 dX0_hangsOn_68 hl (k := 4) rfl (dn_inc v_15) (by decide) rfl (fun ls hl => ?_)
      refine lv_goto (tgt := 13) C.1 C.2.1 dX0_hangsOn_71 (by decide) ?_
      have hnew := wn_skip hW hX (by omega) (show (wrB o d v_15 (d v_15) && wn.testBit (d v_15)) = false by simp [wrB, c_27])
      exact ih_13 _ (by omega) _ _ _ _ ⟨wn, sx, v_15, rfl, (by omega), hnew.1, hnew.2, rfl, w, lv_sub hl [1, 2, 3, 4, 0] rfl⟩
    · skip
      refine lv_iload_n C.1 C.2.1 dX0_hangsOn_30 rfl (lv_at hl 2 rfl) ?_
      refine lv_aload_n C.1 C.2.1 dX0_hangsOn_31 rfl (lv_at hl 0 rfl) ?_
      refine xg_2 C w dX0_hangsOn_32 ?_
      refine lv_iload C.1 C.2.1 dX0_hangsOn_35 (lv_at hl 4 rfl) ?_
      refine xl_2 (v := nI (d v_15)) C w (by omega) (hs.2.2 v_15 (by omega)).2.1 dX0_hangsOn_37 ?_
      refine n_ishr (v := nI (wn / 2 ^ (d v_15))) C dX0_hangsOn_38 (nx_shr (by omega) (by omega)) ?_
      refine n_const (v := nI 1) C dX0_hangsOn_39 (by decide) ?_
      refine n_iand (v := bI (wn.testBit (d v_15))) C dX0_hangsOn_40 (nx_tb (by omega)) ?_
      refine b_if_ne (tgt := 47) C dX0_hangsOn_41 (by decide) (fun c_41 => ?_) (fun c_41 => ?_)
      · skip
        refine lv_iload_n C.1 C.2.1 dX0_hangsOn_47 rfl (lv_at hl 3 rfl) ?_
        refine n_const (v := nI 1) C dX0_hangsOn_48 (by decide) ?_
        refine lv_iload C.1 C.2.1 dX0_hangsOn_49 (lv_at hl 4 rfl) ?_
        refine n_ishl (v := nI (2 ^ v_15)) C dX0_hangsOn_51 (nx_sh1 (by omega)) ?_
        refine n_ior (v := nI (sx ||| (2 ^ v_15))) C dX0_hangsOn_52 (nx_or _ _) ?_
        refine lv_istore_n (lv' := [(3, .int (nI (sx ||| (2 ^ v_15)))), (0, .ref (Q 0)), (1, .int (nI j)), (2, .int (nI wn)), (4, .int (nI v_15))]) C.1 C.2.1 dX0_hangsOn_53 rfl hl (by decide) rfl (fun ls hl => ?_)
        refine lv_iload_n C.1 C.2.1 dX0_hangsOn_54 rfl (lv_at hl 3 rfl) ?_
        refine n_const (v := nI 1) C dX0_hangsOn_55 (by decide) ?_
        refine lv_aload_n C.1 C.2.1 dX0_hangsOn_56 rfl (lv_at hl 1 rfl) ?_
        refine xg_2 C w dX0_hangsOn_57 ?_
        refine lv_iload C.1 C.2.1 dX0_hangsOn_60 (lv_at hl 4 rfl) ?_
        refine xl_2 (v := nI (d v_15)) C w (by omega) (hs.2.2 v_15 (by omega)).2.1 dX0_hangsOn_62 ?_
        refine n_ishl (v := nI (2 ^ (d v_15))) C dX0_hangsOn_63 (nx_sh1 (by omega)) ?_
        refine n_const (v := (-1)) C dX0_hangsOn_64 (by decide) ?_
        refine n_ixor (v := nI (2 ^ d v_15) ^^^ (-1)) C dX0_hangsOn_65 rfl ?_
        refine n_iand (v := nI (clr wn (d v_15))) C dX0_hangsOn_66 (clr_eq _ _) ?_
        refine lv_istore_n (lv' := [(2, .int (nI (clr wn (d v_15)))), (3, .int (nI (sx ||| (2 ^ v_15)))), (0, .ref (Q 0)), (1, .int (nI j)), (4, .int (nI v_15))]) C.1 C.2.1 dX0_hangsOn_67 rfl hl (by decide) rfl (fun ls hl => ?_)
        refine lv_iinc (v := oI (dn v_15)) (lv' := [(4, .int (oI (dn v_15))), (2, .int (nI (clr wn (d v_15)))), (3, .int (nI (sx ||| (2 ^ v_15)))), (0, .ref (Q 0)), (1, .int (nI j))]) C.1 C.2.1 dX0_hangsOn_68 hl (k := 4) rfl (dn_inc v_15) (by decide) rfl (fun ls hl => ?_)
        refine lv_goto (tgt := 13) C.1 C.2.1 dX0_hangsOn_71 (by decide) ?_
        have hnew := wn_take hW hX (by omega) (by omega) c_27 c_41
        exact ih_13 _ (by omega) _ _ _ _ ⟨(clr wn (d v_15)), (sx ||| 2 ^ v_15), v_15, rfl, (by omega), hnew.1, hnew.2, rfl, w, lv_sub hl [3, 4, 1, 2, 0] rfl⟩
      · skip
        refine lv_goto (tgt := 68) C.1 C.2.1 dX0_hangsOn_44 (by decide) ?_
        refine lv_iinc (v := oI (dn v_15)) (lv' := [(4, .int (oI (dn v_15))), (0, .ref (Q 0)), (1, .int (nI j)), (2, .int (nI wn)), (3, .int (nI sx))]) C.1 C.2.1 dX0_hangsOn_68 hl (k := 4) rfl (dn_inc v_15) (by decide) rfl (fun ls hl => ?_)
        refine lv_goto (tgt := 13) C.1 C.2.1 dX0_hangsOn_71 (by decide) ?_
        have hnew := wn_skip hW hX (by omega) (show (wrB o d v_15 (d v_15) && wn.testBit (d v_15)) = false by rw [c_41]; simp)
        exact ih_13 _ (by omega) _ _ _ _ ⟨wn, sx, v_15, rfl, (by omega), hnew.1, hnew.2, rfl, w, lv_sub hl [1, 2, 3, 4, 0] rfl⟩
def fr7 (S S1 : St) : Prop := ∀ k, k ≠ 5 → k ≠ 13 → S1 k = S k
theorem st_bit {o d a bn : Nat → Nat} {j sx i : Nat} (h : hSt o d a bn j 0 sx) (hi : i < j) : sx.testBit i = hgB o d a bn j i := by
  rw [Bool.eq_iff_iff, h.2 i]
  exact ⟨fun q => q.2.2, fun q => ⟨Nat.zero_le _, hi, q⟩⟩
set_option maxHeartbeats 4000000 in
set_option maxRecDepth 100000 in
theorem met_X0_weigh (l : Launch) (S : St) (n : Nat) (o d a bn : Nat → Nat) (hs : xSrc S n o d a bn) : gV wX l yX0_weigh cX0_weigh 5 ({ frames := 2, cells := 0, slots := 0, locals := 46 }) [] S (fun S1 => fr7 S S1 ∧ S1 5 0 = nI 0 ∧ ∀ i, i < n → S1 13 i = nI (wts o d a bn n i)) := by
  refine g_startv (own := RX0) (by decide) rfl (fun b => Nat.le_of_ble_eq_true rfl) ?_
  intro p e s m below meth c D Q T A ls C w hl
  have hl : lv_has ls 5 [(0, .ref (Q 0))] := hl
  have hn := hs.1
  refine lv_aload_n C.1 C.2.1 dX0_weigh_0 rfl (lv_at hl 0 rfl) ?_
  refine n_const (v := nI 0) C dX0_weigh_1 (by decide) ?_
  refine xp_5 (v := nI 0) C w (Or.inl rfl) dX0_weigh_2 (fun H locs S1 hS1 w => ?_)
  subst hS1
  refine n_const (v := nI 0) C dX0_weigh_5 (by decide) ?_
  refine lv_istore_n (lv' := [(1, .int (nI 0)), (0, .ref (Q 0))]) C.1 C.2.1 dX0_weigh_6 rfl hl (by decide) rfl (fun ls hl => ?_)
  refine g_loop (pcL := 7) (I := fun nM st ls H locs => ∃ (SL : St) (j : Nat), (nM = n - j) ∧ (j ≤ n) ∧ (fr7 S SL) ∧ (SL 5 0 = nI 0) ∧ (∀ i, i < j → SL 13 i = nI (wts o d a bn j i)) ∧ (st = []) ∧ (gW wX D Q T A s SL H locs) ∧ (lv_has ls 5 [(0, .ref (Q 0)), (1, .int (nI j))])) ⟨(up S 5 (fun _ => nI 0)), 0, rfl, (Nat.zero_le _), (fun k h1 h2 => up_n _ _ h1), rfl, (fun i h => absurd h (Nat.not_lt_zero _)), rfl, w, lv_sub hl [1, 0] rfl⟩ (fun n_7 st_7 ls H locs ih_7 hI => ?_)
  obtain ⟨SL, j, hn_7, hj, hfr, h5, hwt, rfl, w, hl⟩ := hI
  have hs1 : xSrc SL n o d a bn := hs.cg (fun k hk => hfr k (by omega) (by omega))
  have hwl := wts_le o d a bn j
  refine lv_iload_n C.1 C.2.1 dX0_weigh_7 rfl (lv_at hl 1 rfl) ?_
  refine lv_aload_n C.1 C.2.1 dX0_weigh_8 rfl (lv_at hl 0 rfl) ?_
  refine xg_0 (v := nI n) C w hs1.2.1 dX0_weigh_9 ?_
  refine n_icmp_ge (tgt := 91) C (by omega) (by omega) dX0_weigh_12 (by decide) (fun c_12 => ?_) (fun c_12 => ?_)
  · skip
    exact g_vret C w (by have e : j = n := (by omega); subst e; exact ⟨hfr, h5, hwt⟩) dX0_weigh_91
  · skip
    obtain ⟨k8, -⟩ := hs1.B (i := j) (by omega)
    refine lv_aload_n C.1 C.2.1 dX0_weigh_15 rfl (lv_at hl 0 rfl) ?_
    refine lv_iload_n C.1 C.2.1 dX0_weigh_16 rfl (lv_at hl 1 rfl) ?_
    refine g_calli C w (met_X0_hangsOn l _ n o d a bn j hs1 (by omega)) rfl rfl cq_X0_X0_hangsOn cy_X0_hangsOn rfl rfl ⟨Nat.le_of_ble_eq_true rfl, Nat.le_of_ble_eq_true rfl⟩ ⟨Nat.zero_le _, Nat.zero_le _⟩ hl.1 rfl (Nat.le_of_ble_eq_true rfl) dX0_weigh_17 (fun r_2 S2 H locs hp w => ?_)
    obtain ⟨sx, rfl, hX, rfl⟩ := hp
    have hx9 := hX.1
    refine lv_istore_n (lv' := [(2, .int (nI sx)), (0, .ref (Q 0)), (1, .int (nI j))]) C.1 C.2.1 dX0_weigh_20 rfl hl (by decide) rfl (fun ls hl => ?_)
    refine n_const (v := nI 0) C dX0_weigh_21 (by decide) ?_
    refine lv_istore_n (lv' := [(3, .int (nI 0)), (2, .int (nI sx)), (0, .ref (Q 0)), (1, .int (nI j))]) C.1 C.2.1 dX0_weigh_22 rfl hl (by decide) rfl (fun ls hl => ?_)
    refine n_const (v := nI 0) C dX0_weigh_23 (by decide) ?_
    refine lv_istore (lv' := [(4, .int (nI 0)), (3, .int (nI 0)), (2, .int (nI sx)), (0, .ref (Q 0)), (1, .int (nI j))]) C.1 C.2.1 dX0_weigh_24 hl (by decide) rfl (fun ls hl => ?_)
    refine g_loop (pcL := 26) (I := fun nM st ls H locs => ∃ (mx : Nat) (i : Nat), (nM = j - i) ∧ (i ≤ j) ∧ (mx = (mxW o d a bn (wts o d a bn j) j i)) ∧ (st = []) ∧ (gW wX D Q T A s SL H locs) ∧ (lv_has ls 5 [(0, .ref (Q 0)), (1, .int (nI j)), (2, .int (nI sx)), (3, .int (nI mx)), (4, .int (nI i))])) ⟨0, 0, rfl, (Nat.zero_le _), rfl, rfl, w, lv_sub hl [3, 4, 2, 1, 0] rfl⟩ (fun n_26 st_26 ls H locs ih_26 hI => ?_)
    obtain ⟨mx, i, hn_26, hi, hmx, rfl, w, hl⟩ := hI
    have hml := mxW_le (o := o) (d := d) (a := a) (bn := bn) hwl i hi
    have hmb : mx ≤ 72 := by omega
    refine lv_iload C.1 C.2.1 dX0_weigh_26 (lv_at hl 4 rfl) ?_
    refine lv_iload_n C.1 C.2.1 dX0_weigh_28 rfl (lv_at hl 1 rfl) ?_
    refine n_icmp_ge (tgt := 66) C (by omega) (by omega) dX0_weigh_29 (by decide) (fun c_29 => ?_) (fun c_29 => ?_)
    · skip
      have ht3 := tm_le (o j)
      refine lv_aload_n C.1 C.2.1 dX0_weigh_66 rfl (lv_at hl 0 rfl) ?_
      refine xg_13 C w dX0_weigh_67 ?_
      refine lv_iload_n C.1 C.2.1 dX0_weigh_70 rfl (lv_at hl 1 rfl) ?_
      refine lv_iload_n C.1 C.2.1 dX0_weigh_71 rfl (lv_at hl 3 rfl) ?_
      refine lv_aload_n C.1 C.2.1 dX0_weigh_72 rfl (lv_at hl 0 rfl) ?_
      refine lv_aload_n C.1 C.2.1 dX0_weigh_73 rfl (lv_at hl 0 rfl) ?_
      refine xg_1 C w dX0_weigh_74 ?_
      refine lv_iload_n C.1 C.2.1 dX0_weigh_77 rfl (lv_at hl 1 rfl) ?_
      refine xl_1 (v := nI (o j)) C w (by omega) (hs1.2.2 j (by omega)).1 dX0_weigh_78 ?_
      refine g_calli C w (met_X0_timeOf l _ (o j) (by omega)) rfl rfl cq_X0_X0_timeOf cy_X0_timeOf rfl rfl ⟨Nat.le_of_ble_eq_true rfl, Nat.le_of_ble_eq_true rfl⟩ ⟨Nat.zero_le _, Nat.zero_le _⟩ hl.1 rfl (Nat.le_of_ble_eq_true rfl) dX0_weigh_79 (fun r_3 S3 H locs hp w => ?_)
      obtain ⟨rfl, rfl⟩ := hp
      refine n_iadd (v := nI (mx + tm (o j))) C dX0_weigh_82 (nI_add _ _) ?_
      refine lv_i2s (v := nI (mx + tm (o j))) C.1 C.2.1 dX0_weigh_83 (is_ (by omega)) ?_
      refine xs_13 (v := nI (mx + tm (o j))) C w (by omega) (ns_ (by omega)) dX0_weigh_84 (fun H locs S4 hS4 w => ?_)
      subst hS4
      refine lv_iinc (v := nI (j + 1)) (lv' := [(1, .int (nI (j + 1))), (0, .ref (Q 0)), (2, .int (nI sx)), (3, .int (nI mx)), (4, .int (nI i))]) C.1 C.2.1 dX0_weigh_85 hl (k := 1) rfl (nI_add j 1) (by decide) rfl (fun ls hl => ?_)
      refine lv_goto (tgt := 7) C.1 C.2.1 dX0_weigh_88 (by decide) ?_
      exact ih_7 _ (by omega) _ _ _ _ ⟨(up SL 13 (upd (SL 13) j (nI (mx + tm (o j))))), (j + 1), rfl, (by omega), (fun k h1 h2 => (up_n _ _ h2).trans (hfr k h1 h2)), h5, (fun k hk => by show upd (SL 13) j _ k = _; rw [wts]; unfold upd va_up; have ei : i = j := (by omega); subst ei; split; rw [hmx]; exact hwt k (by omega)), rfl, w, lv_sub hl [1, 0] rfl⟩
    · skip
      have hxi := st_bit hX c_29
      have hwi := hwl i c_29
      refine lv_iload_n C.1 C.2.1 dX0_weigh_32 rfl (lv_at hl 2 rfl) ?_
      refine lv_iload C.1 C.2.1 dX0_weigh_33 (lv_at hl 4 rfl) ?_
      refine n_ishr (v := nI (sx / 2 ^ i)) C dX0_weigh_35 (nx_shr (by omega) (by omega)) ?_
      refine n_const (v := nI 1) C dX0_weigh_36 (by decide) ?_
      refine n_iand (v := bI (sx.testBit i)) C dX0_weigh_37 (nx_tb (by omega)) ?_
      refine b_if_eq (tgt := 60) C dX0_weigh_38 (by decide) (fun c_38 => ?_) (fun c_38 => ?_)
      · skip
        refine lv_iinc (v := nI (i + 1)) (lv' := [(4, .int (nI (i + 1))), (0, .ref (Q 0)), (1, .int (nI j)), (2, .int (nI sx)), (3, .int (nI mx))]) C.1 C.2.1 dX0_weigh_60 hl (k := 4) rfl (nI_add i 1) (by decide) rfl (fun ls hl => ?_)
        refine lv_goto (tgt := 26) C.1 C.2.1 dX0_weigh_63 (by decide) ?_
        exact ih_26 _ (by omega) _ _ _ _ ⟨mx, (i + 1), rfl, (by omega), (by rw [mxW, if_neg (fun q => by rw [hxi] at c_38; rw [q.1] at c_38; cases c_38)]; exact hmx), rfl, w, lv_sub hl [1, 2, 3, 4, 0] rfl⟩
      · skip
        refine lv_aload_n C.1 C.2.1 dX0_weigh_41 rfl (lv_at hl 0 rfl) ?_
        refine xg_13 C w dX0_weigh_42 ?_
        refine lv_iload C.1 C.2.1 dX0_weigh_45 (lv_at hl 4 rfl) ?_
        refine xl_13 (v := nI (wts o d a bn j i)) C w (by omega) (hwt i (by omega)) dX0_weigh_47 ?_
        refine lv_iload_n C.1 C.2.1 dX0_weigh_48 rfl (lv_at hl 3 rfl) ?_
        refine n_icmp_le (tgt := 60) C (by omega) (by omega) dX0_weigh_49 (by decide) (fun c_49 => ?_) (fun c_49 => ?_)
        · skip
          refine lv_iinc (v := nI (i + 1)) (lv' := [(4, .int (nI (i + 1))), (0, .ref (Q 0)), (1, .int (nI j)), (2, .int (nI sx)), (3, .int (nI mx))]) C.1 C.2.1 dX0_weigh_60 hl (k := 4) rfl (nI_add i 1) (by decide) rfl (fun ls hl => ?_)
          refine lv_goto (tgt := 26) C.1 C.2.1 dX0_weigh_63 (by decide) ?_
          exact ih_26 _ (by omega) _ _ _ _ ⟨mx, (i + 1), rfl, (by omega), (by rw [mxW, if_neg (fun q => absurd q.2 (Nat.not_lt.mpr (by rw [hmx] at c_49; exact c_49)))]; exact hmx), rfl, w, lv_sub hl [1, 2, 3, 4, 0] rfl⟩
        · skip
          refine lv_aload_n C.1 C.2.1 dX0_weigh_52 rfl (lv_at hl 0 rfl) ?_
          refine xg_13 C w dX0_weigh_53 ?_
          refine lv_iload C.1 C.2.1 dX0_weigh_56 (lv_at hl 4 rfl) ?_
          refine xl_13 (v := nI (wts o d a bn j i)) C w (by omega) (hwt i (by omega)) dX0_weigh_58 ?_
          refine lv_istore_n (lv' := [(3, .int (nI (wts o d a bn j i))), (0, .ref (Q 0)), (1, .int (nI j)), (2, .int (nI sx)), (4, .int (nI i))]) C.1 C.2.1 dX0_weigh_59 rfl hl (by decide) rfl (fun ls hl => ?_)
          refine lv_iinc (v := nI (i + 1)) (lv' := [(4, .int (nI (i + 1))), (3, .int (nI (wts o d a bn j i))), (0, .ref (Q 0)), (1, .int (nI j)), (2, .int (nI sx))]) C.1 C.2.1 dX0_weigh_60 hl (k := 4) rfl (nI_add i 1) (by decide) rfl (fun ls hl => ?_)
          refine lv_goto (tgt := 26) C.1 C.2.1 dX0_weigh_63 (by decide) ?_
          exact ih_26 _ (by omega) _ _ _ _ ⟨((wts o d a bn j) i), (i + 1), rfl, (by omega), (by rw [mxW, if_pos ⟨(by rw [← hxi]; exact c_38), (by rw [hmx] at c_49; exact c_49)⟩]), rfl, w, lv_sub hl [2, 3, 4, 1, 0] rfl⟩
set_option maxHeartbeats 4000000 in
set_option maxRecDepth 100000 in
theorem met_X0_weight (l : Launch) (S : St) (n : Nat) (o d a bn : Nat → Nat) (x : Int32) (hs : xSrc S n o d a bn) : gM wX l yX0_weight cX0_weight 2 (some .int) ({ frames := 3, cells := 0, slots := 0, locals := 70 }) [.int (x)] S (fun r S1 => (x < 0 ∨ nI n ≤ x → r = -1 ∧ S = S1) ∧ (∀ i, i < n → x = nI i → r = nI (wts o d a bn n i) ∧ fr7 S S1 ∧ S1 5 0 = nI 0)) := by
  refine g_start (own := RX0) (by decide) rfl (fun b => Nat.le_of_ble_eq_true rfl) ?_
  intro p e s m below meth c D Q T A ls C w hl
  have hl : lv_has ls 2 [(0, .ref (Q 0)), (1, .int (x))] := hl
  have hn := hs.1
  refine lv_iload_n C.1 C.2.1 dX0_weight_0 rfl (lv_at hl 1 rfl) ?_
  refine r_if_lt (tgt := 12) C dX0_weight_1 (by decide) (fun c_1 => ?_) (fun c_1 => ?_)
  · skip
    refine n_const (v := (-1)) C dX0_weight_12 (by decide) ?_
    exact g_iret (v := (-1)) C w ⟨fun _ => ⟨rfl, rfl⟩, fun k hk e => by subst e; exact absurd c_1 (nI_pos (by omega))⟩ dX0_weight_13
  · skip
    refine lv_iload_n C.1 C.2.1 dX0_weight_4 rfl (lv_at hl 1 rfl) ?_
    refine lv_aload_n C.1 C.2.1 dX0_weight_5 rfl (lv_at hl 0 rfl) ?_
    refine xg_0 (v := nI n) C w hs.2.1 dX0_weight_6 ?_
    refine r_icmp_lt (tgt := 14) C dX0_weight_9 (by decide) (fun c_9 => ?_) (fun c_9 => ?_)
    · skip
      obtain ⟨i, hi, rfl⟩ : ∃ i, i < n ∧ x = nI i := by
        obtain ⟨j, hj, rfl⟩ := nI_of c_1
        exact ⟨j, (nI_ltI hj (by omega)).mp c_9, rfl⟩
      refine lv_aload_n C.1 C.2.1 dX0_weight_14 rfl (lv_at hl 0 rfl) ?_
      refine g_callv C w (met_X0_weigh l _ n o d a bn hs) rfl rfl cq_X0_X0_weigh cy_X0_weigh rfl rfl ⟨Nat.le_of_ble_eq_true rfl, Nat.le_of_ble_eq_true rfl⟩ ⟨Nat.zero_le _, Nat.zero_le _⟩ hl.1 rfl (Nat.le_of_ble_eq_true rfl) dX0_weight_15 (fun SW H locs hp w => ?_)
      obtain ⟨hfr, h5, hwt⟩ := hp
      refine lv_aload_n C.1 C.2.1 dX0_weight_18 rfl (lv_at hl 0 rfl) ?_
      refine xg_13 C w dX0_weight_19 ?_
      refine lv_iload_n C.1 C.2.1 dX0_weight_22 rfl (lv_at hl 1 rfl) ?_
      refine xl_13 (v := nI (wts o d a bn n i)) C w (by omega) (hwt i hi) dX0_weight_23 ?_
      exact g_iret (v := nI (wts o d a bn n i)) C w ⟨fun q => absurd q (fun q => q.elim c_1 (fun q => absurd ((nI_leI (by omega) (by omega)).mp q) (by omega))), fun k hk e => by have := (nI_eq (show i < 2 ^ 31 by omega) (show k < 2 ^ 31 by omega)).mp e; subst this; exact ⟨rfl, hfr, h5⟩⟩ dX0_weight_24
    · skip
      refine n_const (v := (-1)) C dX0_weight_12 (by decide) ?_
      exact g_iret (v := (-1)) C w ⟨fun _ => ⟨rfl, rfl⟩, fun k hk e => by subst e; exact absurd (nI_lt hk (by omega)) c_9⟩ dX0_weight_13
set_option maxHeartbeats 4000000 in
set_option maxRecDepth 100000 in
theorem met_X0_heaviest (l : Launch) (S : St) (n : Nat) (o d a bn : Nat → Nat) (hs : xSrc S n o d a bn) : gM wX l yX0_heaviest cX0_heaviest 3 (some .int) ({ frames := 3, cells := 0, slots := 0, locals := 70 }) [] S (fun r S1 => r = nI (hvF (wts o d a bn n) n) ∧ fr7 S S1 ∧ S1 5 0 = nI 0) := by
  refine g_start (own := RX0) (by decide) rfl (fun b => Nat.le_of_ble_eq_true rfl) ?_
  intro p e s m below meth c D Q T A ls C w hl
  have hl : lv_has ls 3 [(0, .ref (Q 0))] := hl
  have hn := hs.1
  have hwl := wts_le o d a bn n
  refine lv_aload_n C.1 C.2.1 dX0_heaviest_0 rfl (lv_at hl 0 rfl) ?_
  refine g_callv C w (met_X0_weigh l _ n o d a bn hs) rfl rfl cq_X0_X0_weigh cy_X0_weigh rfl rfl ⟨Nat.le_of_ble_eq_true rfl, Nat.le_of_ble_eq_true rfl⟩ ⟨Nat.zero_le _, Nat.zero_le _⟩ hl.1 rfl (Nat.le_of_ble_eq_true rfl) dX0_heaviest_1 (fun SW H locs hp w => ?_)
  obtain ⟨hfr, h5, hwt⟩ := hp
  refine n_const (v := nI 0) C dX0_heaviest_4 (by decide) ?_
  refine lv_istore_n (lv' := [(1, .int (nI 0)), (0, .ref (Q 0))]) C.1 C.2.1 dX0_heaviest_5 rfl hl (by decide) rfl (fun ls hl => ?_)
  refine n_const (v := nI 0) C dX0_heaviest_6 (by decide) ?_
  refine lv_istore_n (lv' := [(2, .int (nI 0)), (1, .int (nI 0)), (0, .ref (Q 0))]) C.1 C.2.1 dX0_heaviest_7 rfl hl (by decide) rfl (fun ls hl => ?_)
  refine g_loop (pcL := 8) (I := fun nM st ls H locs => ∃ (mx : Nat) (i : Nat), (nM = n - i) ∧ (i ≤ n) ∧ (mx = hvF (wts o d a bn n) i) ∧ (st = []) ∧ (gW wX D Q T A s SW H locs) ∧ (lv_has ls 3 [(0, .ref (Q 0)), (1, .int (nI mx)), (2, .int (nI i))])) ⟨0, 0, rfl, (Nat.zero_le _), rfl, rfl, w, lv_sub hl [2, 1, 0] rfl⟩ (fun n_8 st_8 ls H locs ih_8 hI => ?_)
  obtain ⟨mx, i, hn_8, hi, hmx, rfl, w, hl⟩ := hI
  have hmb : mx ≤ 72 := by have := hvF_le (f := wts o d a bn n) (B := 3 * n) (n := i) (fun k hk => hwl k (by omega)); omega
  refine lv_iload_n C.1 C.2.1 dX0_heaviest_8 rfl (lv_at hl 2 rfl) ?_
  refine lv_aload_n C.1 C.2.1 dX0_heaviest_9 rfl (lv_at hl 0 rfl) ?_
  refine xg_0 (v := nI n) C w ((congrFun (hfr 0 (by omega) (by omega)) 0).trans hs.2.1) dX0_heaviest_10 ?_
  refine n_icmp_ge (tgt := 39) C (by omega) (by omega) dX0_heaviest_13 (by decide) (fun c_13 => ?_) (fun c_13 => ?_)
  · skip
    refine lv_iload_n C.1 C.2.1 dX0_heaviest_39 rfl (lv_at hl 1 rfl) ?_
    exact g_iret (v := nI mx) C w (by have e : i = n := (by omega); subst e; exact ⟨by rw [hmx], hfr, h5⟩) dX0_heaviest_40
  · skip
    have hwi := hwl i (by omega)
    refine lv_aload_n C.1 C.2.1 dX0_heaviest_16 rfl (lv_at hl 0 rfl) ?_
    refine xg_13 C w dX0_heaviest_17 ?_
    refine lv_iload_n C.1 C.2.1 dX0_heaviest_20 rfl (lv_at hl 2 rfl) ?_
    refine xl_13 (v := nI (wts o d a bn n i)) C w (by omega) (hwt i (by omega)) dX0_heaviest_21 ?_
    refine lv_iload_n C.1 C.2.1 dX0_heaviest_22 rfl (lv_at hl 1 rfl) ?_
    refine n_icmp_le (tgt := 33) C (by omega) (by omega) dX0_heaviest_23 (by decide) (fun c_23 => ?_) (fun c_23 => ?_)
    · skip
      refine lv_iinc (v := nI (i + 1)) (lv' := [(2, .int (nI (i + 1))), (0, .ref (Q 0)), (1, .int (nI mx))]) C.1 C.2.1 dX0_heaviest_33 hl (k := 2) rfl (nI_add i 1) (by decide) rfl (fun ls hl => ?_)
      refine lv_goto (tgt := 8) C.1 C.2.1 dX0_heaviest_36 (by decide) ?_
      exact ih_8 _ (by omega) _ _ _ _ ⟨mx, (i + 1), rfl, (by omega), (by rw [hvF, if_neg (Nat.not_lt.mpr (by rw [← hmx]; exact c_23))]; exact hmx), rfl, w, lv_sub hl [1, 2, 0] rfl⟩
    · skip
      refine lv_aload_n C.1 C.2.1 dX0_heaviest_26 rfl (lv_at hl 0 rfl) ?_
      refine xg_13 C w dX0_heaviest_27 ?_
      refine lv_iload_n C.1 C.2.1 dX0_heaviest_30 rfl (lv_at hl 2 rfl) ?_
      refine xl_13 (v := nI (wts o d a bn n i)) C w (by omega) (hwt i (by omega)) dX0_heaviest_31 ?_
      refine lv_istore_n (lv' := [(1, .int (nI (wts o d a bn n i))), (0, .ref (Q 0)), (2, .int (nI i))]) C.1 C.2.1 dX0_heaviest_32 rfl hl (by decide) rfl (fun ls hl => ?_)
      refine lv_iinc (v := nI (i + 1)) (lv' := [(2, .int (nI (i + 1))), (1, .int (nI (wts o d a bn n i))), (0, .ref (Q 0))]) C.1 C.2.1 dX0_heaviest_33 hl (k := 2) rfl (nI_add i 1) (by decide) rfl (fun ls hl => ?_)
      refine lv_goto (tgt := 8) C.1 C.2.1 dX0_heaviest_36 (by decide) ?_
      exact ih_8 _ (by omega) _ _ _ _ ⟨(wts o d a bn n i), (i + 1), rfl, (by omega), (by rw [hvF, if_pos (by rw [← hmx]; exact c_23)]), rfl, w, lv_sub hl [2, 1, 0] rfl⟩
set_option maxHeartbeats 4000000 in
set_option maxRecDepth 100000 in
theorem met_X0_links (l : Launch) (S : St) (n : Nat) (o d a bn : Nat → Nat) (hs : xSrc S n o d a bn) : gM wX l yX0_links cX0_links 5 (some .int) ({ frames := 2, cells := 0, slots := 0, locals := 46 }) [] S (fun r S1 => r = nI (lkF o d a bn n) ∧ S = S1) := by
  refine g_start (own := RX0) (by decide) rfl (fun b => Nat.le_of_ble_eq_true rfl) ?_
  intro p e s m below meth c D Q T A ls C w hl
  have hl : lv_has ls 5 [(0, .ref (Q 0))] := hl
  have hn := hs.1
  refine n_const (v := nI 0) C dX0_links_0 (by decide) ?_
  refine lv_istore_n (lv' := [(1, .int (nI 0)), (0, .ref (Q 0))]) C.1 C.2.1 dX0_links_1 rfl hl (by decide) rfl (fun ls hl => ?_)
  refine n_const (v := nI 0) C dX0_links_2 (by decide) ?_
  refine lv_istore_n (lv' := [(2, .int (nI 0)), (1, .int (nI 0)), (0, .ref (Q 0))]) C.1 C.2.1 dX0_links_3 rfl hl (by decide) rfl (fun ls hl => ?_)
  refine g_loop (pcL := 4) (I := fun nM st ls H locs => ∃ (tt : Nat) (j : Nat), (nM = n - j) ∧ (j ≤ n) ∧ (tt = lkF o d a bn j) ∧ (st = []) ∧ (gW wX D Q T A s S H locs) ∧ (lv_has ls 5 [(0, .ref (Q 0)), (1, .int (nI tt)), (2, .int (nI j))])) ⟨0, 0, rfl, (Nat.zero_le _), rfl, rfl, w, lv_sub hl [2, 1, 0] rfl⟩ (fun n_4 st_4 ls H locs ih_4 hI => ?_)
  obtain ⟨tt, j, hn_4, hj, htt, rfl, w, hl⟩ := hI
  refine lv_iload_n C.1 C.2.1 dX0_links_4 rfl (lv_at hl 2 rfl) ?_
  refine lv_aload_n C.1 C.2.1 dX0_links_5 rfl (lv_at hl 0 rfl) ?_
  refine xg_0 (v := nI n) C w hs.2.1 dX0_links_6 ?_
  refine n_icmp_ge (tgt := 48) C (by omega) (by omega) dX0_links_9 (by decide) (fun c_9 => ?_) (fun c_9 => ?_)
  · skip
    refine lv_iload_n C.1 C.2.1 dX0_links_48 rfl (lv_at hl 1 rfl) ?_
    exact g_iret (v := nI tt) C w (by have e : j = n := (by omega); subst e; exact ⟨by rw [htt], rfl⟩) dX0_links_49
  · skip
    refine lv_aload_n C.1 C.2.1 dX0_links_12 rfl (lv_at hl 0 rfl) ?_
    refine lv_iload_n C.1 C.2.1 dX0_links_13 rfl (lv_at hl 2 rfl) ?_
    refine g_calli C w (met_X0_hangsOn l _ n o d a bn j hs (by omega)) rfl rfl cq_X0_X0_hangsOn cy_X0_hangsOn rfl rfl ⟨Nat.le_of_ble_eq_true rfl, Nat.le_of_ble_eq_true rfl⟩ ⟨Nat.zero_le _, Nat.zero_le _⟩ hl.1 rfl (Nat.le_of_ble_eq_true rfl) dX0_links_14 (fun r_1 S1 H locs hp w => ?_)
    obtain ⟨sx, rfl, hX, rfl⟩ := hp
    have hx9 := hX.1
    refine lv_istore_n (lv' := [(3, .int (nI sx)), (0, .ref (Q 0)), (1, .int (nI tt)), (2, .int (nI j))]) C.1 C.2.1 dX0_links_17 rfl hl (by decide) rfl (fun ls hl => ?_)
    refine n_const (v := nI 0) C dX0_links_18 (by decide) ?_
    refine lv_istore (lv' := [(4, .int (nI 0)), (3, .int (nI sx)), (0, .ref (Q 0)), (1, .int (nI tt)), (2, .int (nI j))]) C.1 C.2.1 dX0_links_19 hl (by decide) rfl (fun ls hl => ?_)
    refine g_loop (pcL := 21) (I := fun nM st ls H locs => ∃ (tj : Nat) (i : Nat), (nM = j - i) ∧ (i ≤ j) ∧ (tj = (lkF o d a bn j + lkI o d a bn j i)) ∧ (st = []) ∧ (gW wX D Q T A s S H locs) ∧ (lv_has ls 5 [(0, .ref (Q 0)), (1, .int (nI tj)), (2, .int (nI j)), (3, .int (nI sx)), (4, .int (nI i))])) ⟨tt, 0, rfl, (Nat.zero_le _), htt, rfl, w, lv_sub hl [2, 3, 4, 1, 0] rfl⟩ (fun n_21 st_21 ls H locs ih_21 hI => ?_)
    obtain ⟨tj, i, hn_21, hi, htj, rfl, w, hl⟩ := hI
    refine lv_iload C.1 C.2.1 dX0_links_21 (lv_at hl 4 rfl) ?_
    refine lv_iload_n C.1 C.2.1 dX0_links_23 rfl (lv_at hl 2 rfl) ?_
    refine n_icmp_ge (tgt := 42) C (by omega) (by omega) dX0_links_24 (by decide) (fun c_24 => ?_) (fun c_24 => ?_)
    · skip
      refine lv_iinc (v := nI (j + 1)) (lv' := [(2, .int (nI (j + 1))), (0, .ref (Q 0)), (1, .int (nI tj)), (3, .int (nI sx)), (4, .int (nI i))]) C.1 C.2.1 dX0_links_42 hl (k := 2) rfl (nI_add j 1) (by decide) rfl (fun ls hl => ?_)
      refine lv_goto (tgt := 4) C.1 C.2.1 dX0_links_45 (by decide) ?_
      exact ih_4 _ (by omega) _ _ _ _ ⟨tj, (j + 1), rfl, (by omega), (by have e : i = j := (by omega); subst e; rw [htj]; rfl), rfl, w, lv_sub hl [1, 2, 0] rfl⟩
    · skip
      have hxi := st_bit hX c_24
      refine lv_iload_n C.1 C.2.1 dX0_links_27 rfl (lv_at hl 1 rfl) ?_
      refine lv_iload_n C.1 C.2.1 dX0_links_28 rfl (lv_at hl 3 rfl) ?_
      refine lv_iload C.1 C.2.1 dX0_links_29 (lv_at hl 4 rfl) ?_
      refine n_ishr (v := nI (sx / 2 ^ i)) C dX0_links_31 (nx_shr (by omega) (by omega)) ?_
      refine n_const (v := nI 1) C dX0_links_32 (by decide) ?_
      refine n_iand (v := nI ((sx.testBit i).toNat)) C dX0_links_33 (nx_tbN (by omega)) ?_
      refine n_iadd (v := nI (tj + ((sx.testBit i).toNat))) C dX0_links_34 (nI_add _ _) ?_
      refine lv_istore_n (lv' := [(1, .int (nI (tj + ((sx.testBit i).toNat)))), (0, .ref (Q 0)), (2, .int (nI j)), (3, .int (nI sx)), (4, .int (nI i))]) C.1 C.2.1 dX0_links_35 rfl hl (by decide) rfl (fun ls hl => ?_)
      refine lv_iinc (v := nI (i + 1)) (lv' := [(4, .int (nI (i + 1))), (1, .int (nI (tj + ((sx.testBit i).toNat)))), (0, .ref (Q 0)), (2, .int (nI j)), (3, .int (nI sx))]) C.1 C.2.1 dX0_links_36 hl (k := 4) rfl (nI_add i 1) (by decide) rfl (fun ls hl => ?_)
      refine lv_goto (tgt := 21) C.1 C.2.1 dX0_links_39 (by decide) ?_
      exact ih_21 _ (by omega) _ _ _ _ ⟨_, (i + 1), rfl, (by omega), (by rw [lkI, htj, hxi]; omega), rfl, w, lv_sub hl [2, 1, 3, 4, 0] rfl⟩
end
section
/-! the public methods of BundleMachine but run, weight, heaviest, links -/
theorem iR_of {x : Int32} (h : iR x = true) : ∃ j : Nat, j ≤ 7 ∧ x = nI j := by
  unfold iR at h
  rw [Bool.and_eq_true, decide_eq_true_eq, decide_eq_true_eq] at h
  exact nI_of2 (M := 7) (by decide) h.1 (Int32.not_lt.mp h.2)
theorem iR_nI : ∀ j, j ≤ 7 → iR (nI j) = true := by decide
/-- a cell's number is one of 0 to 15 -/
def cR (x : Int32) : Bool := decide (¬ x < 0) && decide (¬ 15 < x)
theorem cR_of {x : Int32} (h : cR x = true) : ∃ j : Nat, j ≤ 15 ∧ x = nI j := by
  unfold cR at h
  rw [Bool.and_eq_true, decide_eq_true_eq, decide_eq_true_eq] at h
  exact nI_of2 (M := 15) (by decide) h.1 (Int32.not_lt.mp h.2)
/-- whether an instruction may be emitted -/
def emV (v d a b : Int32) : Bool := decide (¬ v < 0) && decide (¬ 8 < v) && iR d && iR a && (decide (5 < v) || iR b)
def emX (S : St) (n : Nat) (v d a b : Int32) : St := up (up (up (up (up (up S 1 (upd (S 1) n v)) 2 (upd (S 2) n d)) 3 (upd (S 3) n a)) 4 (upd (S 4) n b)) 0 (fun _ => nI (n + 1))) 5 (fun _ => nI 0)
def rgF (R : Nat → Int32) (x : Int32) : Int32 := if iR x = true then R x.toNatClampNeg else 0
def mmF (M : Nat → Int32) (x : Int32) : Int32 := if cR x = true then M x.toNatClampNeg else 0
theorem i8_nI {j : Nat} (h : j ≤ 8) : (nI j) = nI j ∧ j < 128 := ⟨rfl, by omega⟩
set_option maxHeartbeats 4000000 in
set_option maxRecDepth 100000 in
theorem met_X0_emit (l : Launch) (S : St) (n : Nat) (v d a b : Int32) (hn : n ≤ 24) (h0 : S 0 0 = nI n) : gM wX l yX0_emit cX0_emit 5 (some .int) ({ frames := 1, cells := 0, slots := 0, locals := 21 }) [.int (v), .int (d), .int (a), .int (b)] S (fun r S1 => if 24 ≤ n then r = -2 ∧ S = S1 else if emV v d a b = false then r = -1 ∧ S = S1 else r = nI (n + 1) ∧ S1 = emX S n v d a b) := by
  refine g_start (own := RX0) (by decide) rfl (fun b => Nat.le_of_ble_eq_true rfl) ?_
  intro p e s m below meth c D Q T A ls C w hl
  have hl : lv_has ls 5 [(0, .ref (Q 0)), (1, .int (v)), (2, .int (d)), (3, .int (a)), (4, .int (b))] := hl
  refine lv_aload_n C.1 C.2.1 dX0_emit_0 rfl (lv_at hl 0 rfl) ?_
  refine xg_0 (v := nI n) C w h0 dX0_emit_1 ?_
  refine n_bipush (v := nI 24) C dX0_emit_4 (by decide) ?_
  refine n_icmp_lt (tgt := 12) C (by omega) (by decide) dX0_emit_6 (by decide) (fun c_6 => ?_) (fun c_6 => ?_)
  · skip
    refine lv_iload_n C.1 C.2.1 dX0_emit_12 rfl (lv_at hl 1 rfl) ?_
    refine r_if_lt (tgt := 38) C dX0_emit_13 (by decide) (fun c_13 => ?_) (fun c_13 => ?_)
    · skip
      refine n_const (v := (-1)) C dX0_emit_38 (by decide) ?_
      exact g_iret (v := (-1)) C w (by rw [if_neg (by omega), if_pos (show emV _ _ _ _ = false by simp [emV, c_13])]; exact ⟨rfl, rfl⟩) dX0_emit_39
    · skip
      refine lv_iload_n C.1 C.2.1 dX0_emit_16 rfl (lv_at hl 1 rfl) ?_
      refine n_bipush (v := 8) C dX0_emit_17 (by decide) ?_
      refine r_icmp_gt (tgt := 38) C dX0_emit_19 (by decide) (fun c_19 => ?_) (fun c_19 => ?_)
      · skip
        refine n_const (v := (-1)) C dX0_emit_38 (by decide) ?_
        exact g_iret (v := (-1)) C w (by rw [if_neg (by omega), if_pos (show emV _ _ _ _ = false by simp [emV, c_19])]; exact ⟨rfl, rfl⟩) dX0_emit_39
      · skip
        refine lv_aload_n C.1 C.2.1 dX0_emit_22 rfl (lv_at hl 0 rfl) ?_
        refine lv_iload_n C.1 C.2.1 dX0_emit_23 rfl (lv_at hl 2 rfl) ?_
        refine g_calli C w (met_X0_isRegister l _ (d)) rfl rfl cq_X0_X0_isRegister cy_X0_isRegister rfl rfl ⟨Nat.le_of_ble_eq_true rfl, Nat.le_of_ble_eq_true rfl⟩ ⟨Nat.zero_le _, Nat.zero_le _⟩ hl.1 rfl (Nat.le_of_ble_eq_true rfl) dX0_emit_24 (fun r_1 S1 H locs hp w => ?_)
        obtain ⟨rfl, rfl⟩ := hp
        refine b_if_eq (tgt := 38) C dX0_emit_27 (by decide) (fun c_27 => ?_) (fun c_27 => ?_)
        · skip
          refine n_const (v := (-1)) C dX0_emit_38 (by decide) ?_
          exact g_iret (v := (-1)) C w (by rw [if_neg (by omega), if_pos (show emV _ _ _ _ = false by simp [emV, c_27])]; exact ⟨rfl, rfl⟩) dX0_emit_39
        · skip
          refine lv_aload_n C.1 C.2.1 dX0_emit_30 rfl (lv_at hl 0 rfl) ?_
          refine lv_iload_n C.1 C.2.1 dX0_emit_31 rfl (lv_at hl 3 rfl) ?_
          refine g_calli C w (met_X0_isRegister l _ (a)) rfl rfl cq_X0_X0_isRegister cy_X0_isRegister rfl rfl ⟨Nat.le_of_ble_eq_true rfl, Nat.le_of_ble_eq_true rfl⟩ ⟨Nat.zero_le _, Nat.zero_le _⟩ hl.1 rfl (Nat.le_of_ble_eq_true rfl) dX0_emit_32 (fun r_2 S2 H locs hp w => ?_)
          obtain ⟨rfl, rfl⟩ := hp
          refine b_if_ne (tgt := 40) C dX0_emit_35 (by decide) (fun c_35 => ?_) (fun c_35 => ?_)
          · skip
            refine lv_iload_n C.1 C.2.1 dX0_emit_40 rfl (lv_at hl 1 rfl) ?_
            refine n_const (v := 5) C dX0_emit_41 (by decide) ?_
            refine r_icmp_gt (tgt := 56) C dX0_emit_42 (by decide) (fun c_42 => ?_) (fun c_42 => ?_)
            · skip
              obtain ⟨vn, hv8, ev⟩ := nI_of2 (x := v) (M := 8) (n := 8) (by decide) c_13 (Int32.not_lt.mp c_19)
              obtain ⟨d9, hd7, ed⟩ := iR_of c_27
              obtain ⟨a9, ha7, ea⟩ := iR_of c_35
              refine lv_aload_n C.1 C.2.1 dX0_emit_56 rfl (lv_at hl 0 rfl) ?_
              refine xg_1 C w dX0_emit_57 ?_
              refine lv_aload_n C.1 C.2.1 dX0_emit_60 rfl (lv_at hl 0 rfl) ?_
              refine xg_0 (v := nI n) C w h0 dX0_emit_61 ?_
              refine lv_iload_n C.1 C.2.1 dX0_emit_64 rfl (lv_at hl 1 rfl) ?_
              refine lv_i2b (v := v) C.1 C.2.1 dX0_emit_65 (by rw [ev]; exact ib_ (by omega)) ?_
              refine xs_1 (v := v) C w (by omega) (by rw [ev]; exact nb_ (by omega)) dX0_emit_66 (fun H locs S3 hS3 w => ?_)
              subst hS3
              refine lv_aload_n C.1 C.2.1 dX0_emit_67 rfl (lv_at hl 0 rfl) ?_
              refine xg_2 C w dX0_emit_68 ?_
              refine lv_aload_n C.1 C.2.1 dX0_emit_71 rfl (lv_at hl 0 rfl) ?_
              refine xg_0 (v := nI n) C w h0 dX0_emit_72 ?_
              refine lv_iload_n C.1 C.2.1 dX0_emit_75 rfl (lv_at hl 2 rfl) ?_
              refine lv_i2b (v := d) C.1 C.2.1 dX0_emit_76 (by rw [ed]; exact ib_ (by omega)) ?_
              refine xs_2 (v := d) C w (by omega) (by rw [ed]; exact nb_ (by omega)) dX0_emit_77 (fun H locs S4 hS4 w => ?_)
              subst hS4
              refine lv_aload_n C.1 C.2.1 dX0_emit_78 rfl (lv_at hl 0 rfl) ?_
              refine xg_3 C w dX0_emit_79 ?_
              refine lv_aload_n C.1 C.2.1 dX0_emit_82 rfl (lv_at hl 0 rfl) ?_
              refine xg_0 (v := nI n) C w h0 dX0_emit_83 ?_
              refine lv_iload_n C.1 C.2.1 dX0_emit_86 rfl (lv_at hl 3 rfl) ?_
              refine lv_i2b (v := a) C.1 C.2.1 dX0_emit_87 (by rw [ea]; exact ib_ (by omega)) ?_
              refine xs_3 (v := a) C w (by omega) (by rw [ea]; exact nb_ (by omega)) dX0_emit_88 (fun H locs S5 hS5 w => ?_)
              subst hS5
              refine lv_aload_n C.1 C.2.1 dX0_emit_89 rfl (lv_at hl 0 rfl) ?_
              refine xg_4 C w dX0_emit_90 ?_
              refine lv_aload_n C.1 C.2.1 dX0_emit_93 rfl (lv_at hl 0 rfl) ?_
              refine xg_0 (v := nI n) C w h0 dX0_emit_94 ?_
              refine lv_iload C.1 C.2.1 dX0_emit_97 (lv_at hl 4 rfl) ?_
              refine xs_4 C w (by omega) dX0_emit_99 (fun H locs S6 hS6 w => ?_)
              subst hS6
              refine lv_aload_n C.1 C.2.1 dX0_emit_100 rfl (lv_at hl 0 rfl) ?_
              refine lv_dup C.1 C.2.1 dX0_emit_101 rfl ?_
              refine xg_0 (v := nI n) C w h0 dX0_emit_102 ?_
              refine n_const (v := nI 1) C dX0_emit_105 (by decide) ?_
              refine n_iadd (v := nI (n + 1)) C dX0_emit_106 (nI_add _ _) ?_
              refine xp_0 (v := nI (n + 1)) C w dX0_emit_107 (fun H locs S7 hS7 w => ?_)
              subst hS7
              refine lv_aload_n C.1 C.2.1 dX0_emit_110 rfl (lv_at hl 0 rfl) ?_
              refine n_const (v := nI 0) C dX0_emit_111 (by decide) ?_
              refine xp_5 (v := nI 0) C w (Or.inl rfl) dX0_emit_112 (fun H locs S8 hS8 w => ?_)
              subst hS8
              refine lv_aload_n C.1 C.2.1 dX0_emit_115 rfl (lv_at hl 0 rfl) ?_
              refine xg_0 (v := nI (n + 1)) C w rfl dX0_emit_116 ?_
              exact g_iret (v := nI (n + 1)) C w (by rw [if_neg (by omega), if_neg (by rw [show emV _ _ _ _ = true by simp only [emV, c_27, c_35, decide_eq_true c_13, decide_eq_true c_19, decide_eq_true c_42]; rfl]; decide)]; exact ⟨rfl, rfl⟩) dX0_emit_119
            · skip
              refine lv_aload_n C.1 C.2.1 dX0_emit_45 rfl (lv_at hl 0 rfl) ?_
              refine lv_iload C.1 C.2.1 dX0_emit_46 (lv_at hl 4 rfl) ?_
              refine g_calli C w (met_X0_isRegister l _ (b)) rfl rfl cq_X0_X0_isRegister cy_X0_isRegister rfl rfl ⟨Nat.le_of_ble_eq_true rfl, Nat.le_of_ble_eq_true rfl⟩ ⟨Nat.zero_le _, Nat.zero_le _⟩ hl.1 rfl (Nat.le_of_ble_eq_true rfl) dX0_emit_48 (fun r_9 S9 H locs hp w => ?_)
              obtain ⟨rfl, rfl⟩ := hp
              refine b_if_ne (tgt := 56) C dX0_emit_51 (by decide) (fun c_51 => ?_) (fun c_51 => ?_)
              · skip
                obtain ⟨vn, hv8, ev⟩ := nI_of2 (x := v) (M := 8) (n := 8) (by decide) c_13 (Int32.not_lt.mp c_19)
                obtain ⟨d9, hd7, ed⟩ := iR_of c_27
                obtain ⟨a9, ha7, ea⟩ := iR_of c_35
                refine lv_aload_n C.1 C.2.1 dX0_emit_56 rfl (lv_at hl 0 rfl) ?_
                refine xg_1 C w dX0_emit_57 ?_
                refine lv_aload_n C.1 C.2.1 dX0_emit_60 rfl (lv_at hl 0 rfl) ?_
                refine xg_0 (v := nI n) C w h0 dX0_emit_61 ?_
                refine lv_iload_n C.1 C.2.1 dX0_emit_64 rfl (lv_at hl 1 rfl) ?_
                refine lv_i2b (v := v) C.1 C.2.1 dX0_emit_65 (by rw [ev]; exact ib_ (by omega)) ?_
                refine xs_1 (v := v) C w (by omega) (by rw [ev]; exact nb_ (by omega)) dX0_emit_66 (fun H locs S10 hS10 w => ?_)
                subst hS10
                refine lv_aload_n C.1 C.2.1 dX0_emit_67 rfl (lv_at hl 0 rfl) ?_
                refine xg_2 C w dX0_emit_68 ?_
                refine lv_aload_n C.1 C.2.1 dX0_emit_71 rfl (lv_at hl 0 rfl) ?_
                refine xg_0 (v := nI n) C w h0 dX0_emit_72 ?_
                refine lv_iload_n C.1 C.2.1 dX0_emit_75 rfl (lv_at hl 2 rfl) ?_
                refine lv_i2b (v := d) C.1 C.2.1 dX0_emit_76 (by rw [ed]; exact ib_ (by omega)) ?_
                refine xs_2 (v := d) C w (by omega) (by rw [ed]; exact nb_ (by omega)) dX0_emit_77 (fun H locs S11 hS11 w => ?_)
                subst hS11
                refine lv_aload_n C.1 C.2.1 dX0_emit_78 rfl (lv_at hl 0 rfl) ?_
                refine xg_3 C w dX0_emit_79 ?_
                refine lv_aload_n C.1 C.2.1 dX0_emit_82 rfl (lv_at hl 0 rfl) ?_
                refine xg_0 (v := nI n) C w h0 dX0_emit_83 ?_
                refine lv_iload_n C.1 C.2.1 dX0_emit_86 rfl (lv_at hl 3 rfl) ?_
                refine lv_i2b (v := a) C.1 C.2.1 dX0_emit_87 (by rw [ea]; exact ib_ (by omega)) ?_
                refine xs_3 (v := a) C w (by omega) (by rw [ea]; exact nb_ (by omega)) dX0_emit_88 (fun H locs S12 hS12 w => ?_)
                subst hS12
                refine lv_aload_n C.1 C.2.1 dX0_emit_89 rfl (lv_at hl 0 rfl) ?_
                refine xg_4 C w dX0_emit_90 ?_
                refine lv_aload_n C.1 C.2.1 dX0_emit_93 rfl (lv_at hl 0 rfl) ?_
                refine xg_0 (v := nI n) C w h0 dX0_emit_94 ?_
                refine lv_iload C.1 C.2.1 dX0_emit_97 (lv_at hl 4 rfl) ?_
                refine xs_4 C w (by omega) dX0_emit_99 (fun H locs S13 hS13 w => ?_)
                subst hS13
                refine lv_aload_n C.1 C.2.1 dX0_emit_100 rfl (lv_at hl 0 rfl) ?_
                refine lv_dup C.1 C.2.1 dX0_emit_101 rfl ?_
                refine xg_0 (v := nI n) C w h0 dX0_emit_102 ?_
                refine n_const (v := nI 1) C dX0_emit_105 (by decide) ?_
                refine n_iadd (v := nI (n + 1)) C dX0_emit_106 (nI_add _ _) ?_
                refine xp_0 (v := nI (n + 1)) C w dX0_emit_107 (fun H locs S14 hS14 w => ?_)
                subst hS14
                refine lv_aload_n C.1 C.2.1 dX0_emit_110 rfl (lv_at hl 0 rfl) ?_
                refine n_const (v := nI 0) C dX0_emit_111 (by decide) ?_
                refine xp_5 (v := nI 0) C w (Or.inl rfl) dX0_emit_112 (fun H locs S15 hS15 w => ?_)
                subst hS15
                refine lv_aload_n C.1 C.2.1 dX0_emit_115 rfl (lv_at hl 0 rfl) ?_
                refine xg_0 (v := nI (n + 1)) C w rfl dX0_emit_116 ?_
                exact g_iret (v := nI (n + 1)) C w (by rw [if_neg (by omega), if_neg (by rw [show emV _ _ _ _ = true by simp only [emV, c_27, c_35, c_51, decide_eq_true c_13, decide_eq_true c_19, Bool.or_true]; rfl]; decide)]; exact ⟨rfl, rfl⟩) dX0_emit_119
              · skip
                refine n_const (v := (-1)) C dX0_emit_54 (by decide) ?_
                exact g_iret (v := (-1)) C w (by rw [if_neg (by omega), if_pos (show emV _ _ _ _ = false by simp [emV, c_51]; intros; exact Int32.not_lt.mp c_42)]; exact ⟨rfl, rfl⟩) dX0_emit_55
          · skip
            refine n_const (v := (-1)) C dX0_emit_38 (by decide) ?_
            exact g_iret (v := (-1)) C w (by rw [if_neg (by omega), if_pos (show emV _ _ _ _ = false by simp [emV, c_35])]; exact ⟨rfl, rfl⟩) dX0_emit_39
  · skip
    refine n_bipush (v := (-2)) C dX0_emit_9 (by decide) ?_
    exact g_iret (v := (-2)) C w (by rw [if_pos c_6]; exact ⟨rfl, rfl⟩) dX0_emit_11
set_option maxHeartbeats 4000000 in
set_option maxRecDepth 100000 in
theorem met_X0_retract (l : Launch) (S : St) (n : Nat) (hn : n ≤ 24) (h0 : S 0 0 = nI n) : gM wX l yX0_retract cX0_retract 1 (some .int) ({ frames := 0, cells := 0, slots := 0, locals := 0 }) [] S (fun r S1 => if n = 0 then r = -1 ∧ S = S1 else r = nI (n - 1) ∧ S1 = up (up S 0 (fun _ => nI (n - 1))) 5 (fun _ => nI 0)) := by
  refine g_start (own := RX0) (by decide) rfl (fun b => Nat.le_of_ble_eq_true rfl) ?_
  intro p e s m below meth c D Q T A ls C w hl
  have hl : lv_has ls 1 [(0, .ref (Q 0))] := hl
  refine lv_aload_n C.1 C.2.1 dX0_retract_0 rfl (lv_at hl 0 rfl) ?_
  refine xg_0 (v := nI n) C w h0 dX0_retract_1 ?_
  refine n_if_ne (tgt := 9) C (by omega) dX0_retract_4 (by decide) (fun c_4 => ?_) (fun c_4 => ?_)
  · skip
    refine lv_aload_n C.1 C.2.1 dX0_retract_9 rfl (lv_at hl 0 rfl) ?_
    refine lv_dup C.1 C.2.1 dX0_retract_10 rfl ?_
    refine xg_0 (v := nI n) C w h0 dX0_retract_11 ?_
    refine n_const (v := nI 1) C dX0_retract_14 (by decide) ?_
    refine n_isub (v := nI (n - 1)) C dX0_retract_15 (pk_sub (by omega)) ?_
    refine xp_0 (v := nI (n - 1)) C w dX0_retract_16 (fun H locs S1 hS1 w => ?_)
    subst hS1
    refine lv_aload_n C.1 C.2.1 dX0_retract_19 rfl (lv_at hl 0 rfl) ?_
    refine n_const (v := nI 0) C dX0_retract_20 (by decide) ?_
    refine xp_5 (v := nI 0) C w (Or.inl rfl) dX0_retract_21 (fun H locs S2 hS2 w => ?_)
    subst hS2
    refine lv_aload_n C.1 C.2.1 dX0_retract_24 rfl (lv_at hl 0 rfl) ?_
    refine xg_0 (v := nI (n - 1)) C w rfl dX0_retract_25 ?_
    exact g_iret (v := nI (n - 1)) C w (by rw [if_neg c_4]; exact ⟨rfl, rfl⟩) dX0_retract_28
  · skip
    refine n_const (v := (-1)) C dX0_retract_7 (by decide) ?_
    exact g_iret (v := (-1)) C w (by rw [if_pos c_4]; exact ⟨rfl, rfl⟩) dX0_retract_8
set_option maxHeartbeats 4000000 in
set_option maxRecDepth 100000 in
theorem met_X0_drop (l : Launch) (S : St) (n : Nat) (hn : n ≤ 24) (h0 : S 0 0 = nI n) : gM wX l yX0_drop cX0_drop 2 (some .int) ({ frames := 0, cells := 0, slots := 0, locals := 0 }) [] S (fun r S1 => r = nI n ∧ S1 = up (up S 0 (fun _ => nI 0)) 5 (fun _ => nI 0)) := by
  refine g_start (own := RX0) (by decide) rfl (fun b => Nat.le_of_ble_eq_true rfl) ?_
  intro p e s m below meth c D Q T A ls C w hl
  have hl : lv_has ls 2 [(0, .ref (Q 0))] := hl
  refine lv_aload_n C.1 C.2.1 dX0_drop_0 rfl (lv_at hl 0 rfl) ?_
  refine xg_0 (v := nI n) C w h0 dX0_drop_1 ?_
  refine lv_istore_n (lv' := [(1, .int (nI n)), (0, .ref (Q 0))]) C.1 C.2.1 dX0_drop_4 rfl hl (by decide) rfl (fun ls hl => ?_)
  refine lv_aload_n C.1 C.2.1 dX0_drop_5 rfl (lv_at hl 1 rfl) ?_
  refine n_const (v := nI 0) C dX0_drop_6 (by decide) ?_
  refine xp_0 (v := nI 0) C w dX0_drop_7 (fun H locs S1 hS1 w => ?_)
  subst hS1
  refine lv_aload_n C.1 C.2.1 dX0_drop_10 rfl (lv_at hl 1 rfl) ?_
  refine n_const (v := nI 0) C dX0_drop_11 (by decide) ?_
  refine xp_5 (v := nI 0) C w (Or.inl rfl) dX0_drop_12 (fun H locs S2 hS2 w => ?_)
  subst hS2
  refine lv_iload_n C.1 C.2.1 dX0_drop_15 rfl (lv_at hl 0 rfl) ?_
  exact g_iret (v := nI n) C w ⟨rfl, rfl⟩ dX0_drop_16
set_option maxHeartbeats 4000000 in
set_option maxRecDepth 100000 in
theorem met_X0_register (l : Launch) (S : St) (x : Int32) : gM wX l yX0_register cX0_register 2 (some .int) ({ frames := 1, cells := 0, slots := 0, locals := 21 }) [.int (x)] S (fun r S1 => r = rgF (S 18) x ∧ S = S1) := by
  refine g_start (own := RX0) (by decide) rfl (fun b => Nat.le_of_ble_eq_true rfl) ?_
  intro p e s m below meth c D Q T A ls C w hl
  have hl : lv_has ls 2 [(0, .ref (Q 0)), (1, .int (x))] := hl
  refine lv_aload_n C.1 C.2.1 dX0_register_0 rfl (lv_at hl 0 rfl) ?_
  refine lv_iload_n C.1 C.2.1 dX0_register_1 rfl (lv_at hl 1 rfl) ?_
  refine g_calli C w (met_X0_isRegister l _ x) rfl rfl cq_X0_X0_isRegister cy_X0_isRegister rfl rfl ⟨Nat.le_of_ble_eq_true rfl, Nat.le_of_ble_eq_true rfl⟩ ⟨Nat.zero_le _, Nat.zero_le _⟩ hl.1 rfl (Nat.le_of_ble_eq_true rfl) dX0_register_2 (fun r_1 S1 H locs hp w => ?_)
  obtain ⟨rfl, rfl⟩ := hp
  refine b_if_eq (tgt := 17) C dX0_register_5 (by decide) (fun c_5 => ?_) (fun c_5 => ?_)
  · skip
    refine n_const (v := nI 0) C dX0_register_17 (by decide) ?_
    exact g_iret (v := nI 0) C w ⟨by rw [rgF, if_neg (by rw [c_5]; decide)]; rfl, rfl⟩ dX0_register_18
  · skip
    have hir := c_5
    obtain ⟨j, hj, rfl⟩ := iR_of c_5
    refine lv_aload_n C.1 C.2.1 dX0_register_8 rfl (lv_at hl 0 rfl) ?_
    refine xg_18 C w dX0_register_9 ?_
    refine lv_iload_n C.1 C.2.1 dX0_register_12 rfl (lv_at hl 1 rfl) ?_
    refine xl_18 (v := S 18 j) C w (by omega) rfl dX0_register_13 ?_
    refine lv_goto (tgt := 18) C.1 C.2.1 dX0_register_14 (by decide) ?_
    exact g_iret (v := S 18 j) C w ⟨by rw [rgF, if_pos hir, nI_clamp (by omega)], rfl⟩ dX0_register_18
set_option maxHeartbeats 4000000 in
set_option maxRecDepth 100000 in
theorem met_X0_setRegister (l : Launch) (S : St) (x y : Int32) : gM wX l yX0_setRegister cX0_setRegister 3 (some .boolean) ({ frames := 1, cells := 0, slots := 0, locals := 21 }) [.int (x), .int (y)] S (fun r S1 => r = bI (iR x) ∧ S1 = if iR x = true then up S 18 (upd (S 18) x.toNatClampNeg y) else S) := by
  refine g_start (own := RX0) (by decide) rfl (fun b => Nat.le_of_ble_eq_true rfl) ?_
  intro p e s m below meth c D Q T A ls C w hl
  have hl : lv_has ls 3 [(0, .ref (Q 0)), (1, .int (x)), (2, .int (y))] := hl
  refine lv_aload_n C.1 C.2.1 dX0_setRegister_0 rfl (lv_at hl 0 rfl) ?_
  refine lv_iload_n C.1 C.2.1 dX0_setRegister_1 rfl (lv_at hl 1 rfl) ?_
  refine g_calli C w (met_X0_isRegister l _ x) rfl rfl cq_X0_X0_isRegister cy_X0_isRegister rfl rfl ⟨Nat.le_of_ble_eq_true rfl, Nat.le_of_ble_eq_true rfl⟩ ⟨Nat.zero_le _, Nat.zero_le _⟩ hl.1 rfl (Nat.le_of_ble_eq_true rfl) dX0_setRegister_2 (fun r_1 S1 H locs hp w => ?_)
  obtain ⟨rfl, rfl⟩ := hp
  refine b_if_ne (tgt := 10) C dX0_setRegister_5 (by decide) (fun c_5 => ?_) (fun c_5 => ?_)
  · skip
    have hir := c_5
    obtain ⟨j, hj, rfl⟩ := iR_of c_5
    refine lv_aload_n C.1 C.2.1 dX0_setRegister_10 rfl (lv_at hl 0 rfl) ?_
    refine xg_18 C w dX0_setRegister_11 ?_
    refine lv_iload_n C.1 C.2.1 dX0_setRegister_14 rfl (lv_at hl 1 rfl) ?_
    refine lv_iload_n C.1 C.2.1 dX0_setRegister_15 rfl (lv_at hl 2 rfl) ?_
    refine xs_18 C w (by omega) dX0_setRegister_16 (fun H locs S2 hS2 w => ?_)
    subst hS2
    refine n_const (v := bI true) C dX0_setRegister_17 (by decide) ?_
    exact g_zret (v := bI true) C w (nz_b _) ⟨by rw [hir], by rw [if_pos hir, nI_clamp (by omega)]⟩ dX0_setRegister_18
  · skip
    refine n_const (v := bI false) C dX0_setRegister_8 (by decide) ?_
    exact g_zret (v := bI false) C w (nz_b _) ⟨by rw [c_5], by rw [if_neg (by rw [c_5]; decide)]⟩ dX0_setRegister_9
set_option maxHeartbeats 4000000 in
set_option maxRecDepth 100000 in
theorem met_X0_memory (l : Launch) (S : St) (x : Int32) : gM wX l yX0_memory cX0_memory 2 (some .int) ({ frames := 0, cells := 0, slots := 0, locals := 0 }) [.int (x)] S (fun r S1 => r = mmF (S 19) x ∧ S = S1) := by
  refine g_start (own := RX0) (by decide) rfl (fun b => Nat.le_of_ble_eq_true rfl) ?_
  intro p e s m below meth c D Q T A ls C w hl
  have hl : lv_has ls 2 [(0, .ref (Q 0)), (1, .int (x))] := hl
  refine lv_iload_n C.1 C.2.1 dX0_memory_0 rfl (lv_at hl 1 rfl) ?_
  refine r_if_lt (tgt := 10) C dX0_memory_1 (by decide) (fun c_1 => ?_) (fun c_1 => ?_)
  · skip
    refine n_const (v := nI 0) C dX0_memory_10 (by decide) ?_
    refine lv_goto (tgt := 20) C.1 C.2.1 dX0_memory_11 (by decide) ?_
    exact g_iret (v := nI 0) C w ⟨by rw [mmF, if_neg (by rw [show cR x = false by simp [cR, c_1]]; decide)]; rfl, rfl⟩ dX0_memory_20
  · skip
    refine lv_iload_n C.1 C.2.1 dX0_memory_4 rfl (lv_at hl 1 rfl) ?_
    refine n_bipush (v := 15) C dX0_memory_5 (by decide) ?_
    refine r_icmp_le (tgt := 14) C dX0_memory_7 (by decide) (fun c_7 => ?_) (fun c_7 => ?_)
    · skip
      have hcr : cR x = true := by simp [cR, c_1, Int32.not_lt.mpr c_7]
      obtain ⟨j, hj, rfl⟩ := cR_of hcr
      refine lv_aload_n C.1 C.2.1 dX0_memory_14 rfl (lv_at hl 0 rfl) ?_
      refine xg_19 C w dX0_memory_15 ?_
      refine lv_iload_n C.1 C.2.1 dX0_memory_18 rfl (lv_at hl 1 rfl) ?_
      refine xl_19 (v := S 19 j) C w (by omega) rfl dX0_memory_19 ?_
      exact g_iret (v := S 19 j) C w ⟨by rw [mmF, if_pos hcr, nI_clamp (by omega)], rfl⟩ dX0_memory_20
    · skip
      refine n_const (v := nI 0) C dX0_memory_10 (by decide) ?_
      refine lv_goto (tgt := 20) C.1 C.2.1 dX0_memory_11 (by decide) ?_
      exact g_iret (v := nI 0) C w ⟨by rw [mmF, if_neg (by rw [show cR x = false by simp [cR, Int32.not_le.mp c_7]]; decide)]; rfl, rfl⟩ dX0_memory_20
set_option maxHeartbeats 4000000 in
set_option maxRecDepth 100000 in
theorem met_X0_setMemory (l : Launch) (S : St) (x y : Int32) : gM wX l yX0_setMemory cX0_setMemory 3 (some .boolean) ({ frames := 0, cells := 0, slots := 0, locals := 0 }) [.int (x), .int (y)] S (fun r S1 => r = bI (cR x) ∧ S1 = if cR x = true then up S 19 (upd (S 19) x.toNatClampNeg y) else S) := by
  refine g_start (own := RX0) (by decide) rfl (fun b => Nat.le_of_ble_eq_true rfl) ?_
  intro p e s m below meth c D Q T A ls C w hl
  have hl : lv_has ls 3 [(0, .ref (Q 0)), (1, .int (x)), (2, .int (y))] := hl
  refine lv_iload_n C.1 C.2.1 dX0_setMemory_0 rfl (lv_at hl 1 rfl) ?_
  refine r_if_lt (tgt := 10) C dX0_setMemory_1 (by decide) (fun c_1 => ?_) (fun c_1 => ?_)
  · skip
    refine n_const (v := bI false) C dX0_setMemory_10 (by decide) ?_
    exact g_zret (v := bI false) C w (nz_b _) (by have hcf : cR x = false := (by simp [cR, c_1]); exact ⟨by rw [hcf], by rw [if_neg (by rw [hcf]; decide)]⟩) dX0_setMemory_11
  · skip
    refine lv_iload_n C.1 C.2.1 dX0_setMemory_4 rfl (lv_at hl 1 rfl) ?_
    refine n_bipush (v := 15) C dX0_setMemory_5 (by decide) ?_
    refine r_icmp_le (tgt := 12) C dX0_setMemory_7 (by decide) (fun c_7 => ?_) (fun c_7 => ?_)
    · skip
      have hcr : cR x = true := by simp [cR, c_1, Int32.not_lt.mpr c_7]
      obtain ⟨j, hj, rfl⟩ := cR_of hcr
      refine lv_aload_n C.1 C.2.1 dX0_setMemory_12 rfl (lv_at hl 0 rfl) ?_
      refine xg_19 C w dX0_setMemory_13 ?_
      refine lv_iload_n C.1 C.2.1 dX0_setMemory_16 rfl (lv_at hl 1 rfl) ?_
      refine lv_iload_n C.1 C.2.1 dX0_setMemory_17 rfl (lv_at hl 2 rfl) ?_
      refine xs_19 C w (by omega) dX0_setMemory_18 (fun H locs S1 hS1 w => ?_)
      subst hS1
      refine n_const (v := bI true) C dX0_setMemory_19 (by decide) ?_
      exact g_zret (v := bI true) C w (nz_b _) ⟨by rw [hcr], by rw [if_pos hcr, nI_clamp (by omega)]⟩ dX0_setMemory_20
    · skip
      refine n_const (v := bI false) C dX0_setMemory_10 (by decide) ?_
      exact g_zret (v := bI false) C w (nz_b _) (by have hcf : cR x = false := (by simp [cR, Int32.not_le.mp c_7]); exact ⟨by rw [hcf], by rw [if_neg (by rw [hcf]; decide)]⟩) dX0_setMemory_11
end
section
/-! BundleMachineModel's methods -/
def emM (S : St) (n : Nat) (v d a b : Int32) : St := up (up (up (up (up S 1 (upd (S 1) n v)) 2 (upd (S 2) n d)) 3 (upd (S 3) n a)) 4 (upd (S 4) n b)) 0 (fun _ => nI (n + 1))
section SRC
variable (B : Nat → Int32) (o d a bn : Nat → Nat)
/-- one instruction, plainly -/
def srcR (R M : Nat → Int32) (i : Nat) : Nat → Int32 := if o i = 8 then R else upd R (d i) (vaF R M (o i) (d i) (R (a i)) (if o i ≤ 5 then R (bn i) else 0) (B i))
def srcM (R M : Nat → Int32) (i : Nat) : Nat → Int32 := if o i = 8 then upd M (adr (R (a i) + B i)) (R (d i)) else M
def srcN (R M : Nat → Int32) : Nat → (Nat → Int32) × (Nat → Int32)
  | 0 => (R, M)
  | i + 1 => (srcR B o d a bn (srcN R M i).1 (srcN R M i).2 i, srcM B o d a (srcN R M i).1 (srcN R M i).2 i)
end SRC
def fr8 (S S1 : St) : Prop := ∀ k, k ≠ 5 → k ≠ 6 → S1 k = S k
def fr9 (S S1 : St) : Prop := ∀ k, k ≠ 7 → S1 k = S k
theorem noW_1 {o d : Nat → Nat} {i : Nat} : noW o d i (i + 1) = true := noW_iff.mpr (fun k h1 h2 => absurd h2 (by omega))
set_option maxHeartbeats 4000000 in
set_option maxRecDepth 100000 in
theorem met_X1_isRegister (l : Launch) (S : St) (x : Int32) : gM wM l yX1_isRegister cX1_isRegister 2 (some .boolean) ({ frames := 0, cells := 0, slots := 0, locals := 0 }) [.int (x)] S (fun r S1 => r = bI (iR x) ∧ S = S1) := by
  refine g_start (own := RX1) (by decide) rfl (fun b => Nat.le_of_ble_eq_true rfl) ?_
  intro p e s m below meth c D Q T A ls C w hl
  have hl : lv_has ls 2 [(0, .ref (Q 0)), (1, .int (x))] := hl
  refine lv_iload_n C.1 C.2.1 dX1_isRegister_0 rfl (lv_at hl 1 rfl) ?_
  refine r_if_lt (tgt := 14) C dX1_isRegister_1 (by decide) (fun c_1 => ?_) (fun c_1 => ?_)
  · skip
    refine n_const (v := bI false) C dX1_isRegister_14 (by decide) ?_
    exact g_zret (v := bI false) C w (nz_b _) ⟨by simp_all [iR], rfl⟩ dX1_isRegister_15
  · skip
    refine lv_iload_n C.1 C.2.1 dX1_isRegister_4 rfl (lv_at hl 1 rfl) ?_
    refine n_bipush (v := 7) C dX1_isRegister_5 (by decide) ?_
    refine r_icmp_gt (tgt := 14) C dX1_isRegister_7 (by decide) (fun c_7 => ?_) (fun c_7 => ?_)
    · skip
      refine n_const (v := bI false) C dX1_isRegister_14 (by decide) ?_
      exact g_zret (v := bI false) C w (nz_b _) ⟨by simp_all [iR], rfl⟩ dX1_isRegister_15
    · skip
      refine n_const (v := bI true) C dX1_isRegister_10 (by decide) ?_
      refine lv_goto (tgt := 15) C.1 C.2.1 dX1_isRegister_11 (by decide) ?_
      exact g_zret (v := bI true) C w (nz_b _) ⟨by simp [iR, c_1, c_7], rfl⟩ dX1_isRegister_15
set_option maxHeartbeats 4000000 in
set_option maxRecDepth 100000 in
theorem met_X1_emit (l : Launch) (S : St) (n : Nat) (v d a b : Int32) (hn : n ≤ 24) (h0 : S 0 0 = nI n) : gM wM l yX1_emit cX1_emit 5 (some .int) ({ frames := 1, cells := 0, slots := 0, locals := 21 }) [.int (v), .int (d), .int (a), .int (b)] S (fun r S1 => if 24 ≤ n then r = -2 ∧ S = S1 else if emV v d a b = false then r = -1 ∧ S = S1 else r = nI (n + 1) ∧ S1 = emM S n v d a b) := by
  refine g_start (own := RX1) (by decide) rfl (fun b => Nat.le_of_ble_eq_true rfl) ?_
  intro p e s m below meth c D Q T A ls C w hl
  have hl : lv_has ls 5 [(0, .ref (Q 0)), (1, .int (v)), (2, .int (d)), (3, .int (a)), (4, .int (b))] := hl
  refine lv_aload_n C.1 C.2.1 dX1_emit_0 rfl (lv_at hl 0 rfl) ?_
  refine yg_0 (v := nI n) C w h0 dX1_emit_1 ?_
  refine n_bipush (v := nI 24) C dX1_emit_4 (by decide) ?_
  refine n_icmp_ne (tgt := 12) C (by omega) (by decide) dX1_emit_6 (by decide) (fun c_6 => ?_) (fun c_6 => ?_)
  · skip
    refine lv_iload_n C.1 C.2.1 dX1_emit_12 rfl (lv_at hl 1 rfl) ?_
    refine r_if_lt (tgt := 52) C dX1_emit_13 (by decide) (fun c_13 => ?_) (fun c_13 => ?_)
    · skip
      refine n_const (v := (-1)) C dX1_emit_52 (by decide) ?_
      exact g_iret (v := (-1)) C w (by rw [if_neg (by omega), if_pos (show emV _ _ _ _ = false by simp [emV, c_13])]; exact ⟨rfl, rfl⟩) dX1_emit_53
    · skip
      refine lv_iload_n C.1 C.2.1 dX1_emit_16 rfl (lv_at hl 1 rfl) ?_
      refine n_bipush (v := 8) C dX1_emit_17 (by decide) ?_
      refine r_icmp_gt (tgt := 52) C dX1_emit_19 (by decide) (fun c_19 => ?_) (fun c_19 => ?_)
      · skip
        refine n_const (v := (-1)) C dX1_emit_52 (by decide) ?_
        exact g_iret (v := (-1)) C w (by rw [if_neg (by omega), if_pos (show emV _ _ _ _ = false by simp [emV, c_19])]; exact ⟨rfl, rfl⟩) dX1_emit_53
      · skip
        refine lv_aload_n C.1 C.2.1 dX1_emit_22 rfl (lv_at hl 0 rfl) ?_
        refine lv_iload_n C.1 C.2.1 dX1_emit_23 rfl (lv_at hl 2 rfl) ?_
        refine g_calli C w (met_X1_isRegister l _ (d)) rfl rfl cq_X1_X1_isRegister cy_X1_isRegister rfl rfl ⟨Nat.le_of_ble_eq_true rfl, Nat.le_of_ble_eq_true rfl⟩ ⟨Nat.zero_le _, Nat.zero_le _⟩ hl.1 rfl (Nat.le_of_ble_eq_true rfl) dX1_emit_24 (fun r_1 S1 H locs hp w => ?_)
        obtain ⟨rfl, rfl⟩ := hp
        refine b_if_eq (tgt := 52) C dX1_emit_27 (by decide) (fun c_27 => ?_) (fun c_27 => ?_)
        · skip
          refine n_const (v := (-1)) C dX1_emit_52 (by decide) ?_
          exact g_iret (v := (-1)) C w (by rw [if_neg (by omega), if_pos (show emV _ _ _ _ = false by simp [emV, c_27])]; exact ⟨rfl, rfl⟩) dX1_emit_53
        · skip
          refine lv_aload_n C.1 C.2.1 dX1_emit_30 rfl (lv_at hl 0 rfl) ?_
          refine lv_iload_n C.1 C.2.1 dX1_emit_31 rfl (lv_at hl 3 rfl) ?_
          refine g_calli C w (met_X1_isRegister l _ (a)) rfl rfl cq_X1_X1_isRegister cy_X1_isRegister rfl rfl ⟨Nat.le_of_ble_eq_true rfl, Nat.le_of_ble_eq_true rfl⟩ ⟨Nat.zero_le _, Nat.zero_le _⟩ hl.1 rfl (Nat.le_of_ble_eq_true rfl) dX1_emit_32 (fun r_2 S2 H locs hp w => ?_)
          obtain ⟨rfl, rfl⟩ := hp
          refine b_if_eq (tgt := 52) C dX1_emit_35 (by decide) (fun c_35 => ?_) (fun c_35 => ?_)
          · skip
            refine n_const (v := (-1)) C dX1_emit_52 (by decide) ?_
            exact g_iret (v := (-1)) C w (by rw [if_neg (by omega), if_pos (show emV _ _ _ _ = false by simp [emV, c_35])]; exact ⟨rfl, rfl⟩) dX1_emit_53
          · skip
            refine lv_iload_n C.1 C.2.1 dX1_emit_38 rfl (lv_at hl 1 rfl) ?_
            refine n_const (v := 5) C dX1_emit_39 (by decide) ?_
            refine r_icmp_gt (tgt := 54) C dX1_emit_40 (by decide) (fun c_40 => ?_) (fun c_40 => ?_)
            · skip
              refine lv_aload_n C.1 C.2.1 dX1_emit_54 rfl (lv_at hl 0 rfl) ?_
              refine yg_1 C w dX1_emit_55 ?_
              refine lv_aload_n C.1 C.2.1 dX1_emit_58 rfl (lv_at hl 0 rfl) ?_
              refine yg_0 (v := nI n) C w h0 dX1_emit_59 ?_
              refine lv_iload_n C.1 C.2.1 dX1_emit_62 rfl (lv_at hl 1 rfl) ?_
              refine ys_1 C w (by omega) dX1_emit_63 (fun H locs S3 hS3 w => ?_)
              subst hS3
              refine lv_aload_n C.1 C.2.1 dX1_emit_64 rfl (lv_at hl 0 rfl) ?_
              refine yg_2 C w dX1_emit_65 ?_
              refine lv_aload_n C.1 C.2.1 dX1_emit_68 rfl (lv_at hl 0 rfl) ?_
              refine yg_0 (v := nI n) C w h0 dX1_emit_69 ?_
              refine lv_iload_n C.1 C.2.1 dX1_emit_72 rfl (lv_at hl 2 rfl) ?_
              refine ys_2 C w (by omega) dX1_emit_73 (fun H locs S4 hS4 w => ?_)
              subst hS4
              refine lv_aload_n C.1 C.2.1 dX1_emit_74 rfl (lv_at hl 0 rfl) ?_
              refine yg_3 C w dX1_emit_75 ?_
              refine lv_aload_n C.1 C.2.1 dX1_emit_78 rfl (lv_at hl 0 rfl) ?_
              refine yg_0 (v := nI n) C w h0 dX1_emit_79 ?_
              refine lv_iload_n C.1 C.2.1 dX1_emit_82 rfl (lv_at hl 3 rfl) ?_
              refine ys_3 C w (by omega) dX1_emit_83 (fun H locs S5 hS5 w => ?_)
              subst hS5
              refine lv_aload_n C.1 C.2.1 dX1_emit_84 rfl (lv_at hl 0 rfl) ?_
              refine yg_4 C w dX1_emit_85 ?_
              refine lv_aload_n C.1 C.2.1 dX1_emit_88 rfl (lv_at hl 0 rfl) ?_
              refine yg_0 (v := nI n) C w h0 dX1_emit_89 ?_
              refine lv_iload C.1 C.2.1 dX1_emit_92 (lv_at hl 4 rfl) ?_
              refine ys_4 C w (by omega) dX1_emit_94 (fun H locs S6 hS6 w => ?_)
              subst hS6
              refine lv_aload_n C.1 C.2.1 dX1_emit_95 rfl (lv_at hl 0 rfl) ?_
              refine lv_dup C.1 C.2.1 dX1_emit_96 rfl ?_
              refine yg_0 (v := nI n) C w h0 dX1_emit_97 ?_
              refine n_const (v := nI 1) C dX1_emit_100 (by decide) ?_
              refine n_iadd (v := nI (n + 1)) C dX1_emit_101 (nI_add _ _) ?_
              refine yp_0 (v := nI (n + 1)) C w dX1_emit_102 (fun H locs S7 hS7 w => ?_)
              subst hS7
              refine lv_aload_n C.1 C.2.1 dX1_emit_105 rfl (lv_at hl 0 rfl) ?_
              refine yg_0 (v := nI (n + 1)) C w rfl dX1_emit_106 ?_
              exact g_iret (v := nI (n + 1)) C w (by rw [if_neg (by omega), if_neg (by rw [show emV _ _ _ _ = true by simp only [emV, c_27, c_35, decide_eq_true c_13, decide_eq_true c_19, decide_eq_true c_40]; rfl]; decide)]; exact ⟨rfl, rfl⟩) dX1_emit_109
            · skip
              refine lv_aload_n C.1 C.2.1 dX1_emit_43 rfl (lv_at hl 0 rfl) ?_
              refine lv_iload C.1 C.2.1 dX1_emit_44 (lv_at hl 4 rfl) ?_
              refine g_calli C w (met_X1_isRegister l _ (b)) rfl rfl cq_X1_X1_isRegister cy_X1_isRegister rfl rfl ⟨Nat.le_of_ble_eq_true rfl, Nat.le_of_ble_eq_true rfl⟩ ⟨Nat.zero_le _, Nat.zero_le _⟩ hl.1 rfl (Nat.le_of_ble_eq_true rfl) dX1_emit_46 (fun r_8 S8 H locs hp w => ?_)
              obtain ⟨rfl, rfl⟩ := hp
              refine b_if_ne (tgt := 54) C dX1_emit_49 (by decide) (fun c_49 => ?_) (fun c_49 => ?_)
              · skip
                refine lv_aload_n C.1 C.2.1 dX1_emit_54 rfl (lv_at hl 0 rfl) ?_
                refine yg_1 C w dX1_emit_55 ?_
                refine lv_aload_n C.1 C.2.1 dX1_emit_58 rfl (lv_at hl 0 rfl) ?_
                refine yg_0 (v := nI n) C w h0 dX1_emit_59 ?_
                refine lv_iload_n C.1 C.2.1 dX1_emit_62 rfl (lv_at hl 1 rfl) ?_
                refine ys_1 C w (by omega) dX1_emit_63 (fun H locs S9 hS9 w => ?_)
                subst hS9
                refine lv_aload_n C.1 C.2.1 dX1_emit_64 rfl (lv_at hl 0 rfl) ?_
                refine yg_2 C w dX1_emit_65 ?_
                refine lv_aload_n C.1 C.2.1 dX1_emit_68 rfl (lv_at hl 0 rfl) ?_
                refine yg_0 (v := nI n) C w h0 dX1_emit_69 ?_
                refine lv_iload_n C.1 C.2.1 dX1_emit_72 rfl (lv_at hl 2 rfl) ?_
                refine ys_2 C w (by omega) dX1_emit_73 (fun H locs S10 hS10 w => ?_)
                subst hS10
                refine lv_aload_n C.1 C.2.1 dX1_emit_74 rfl (lv_at hl 0 rfl) ?_
                refine yg_3 C w dX1_emit_75 ?_
                refine lv_aload_n C.1 C.2.1 dX1_emit_78 rfl (lv_at hl 0 rfl) ?_
                refine yg_0 (v := nI n) C w h0 dX1_emit_79 ?_
                refine lv_iload_n C.1 C.2.1 dX1_emit_82 rfl (lv_at hl 3 rfl) ?_
                refine ys_3 C w (by omega) dX1_emit_83 (fun H locs S11 hS11 w => ?_)
                subst hS11
                refine lv_aload_n C.1 C.2.1 dX1_emit_84 rfl (lv_at hl 0 rfl) ?_
                refine yg_4 C w dX1_emit_85 ?_
                refine lv_aload_n C.1 C.2.1 dX1_emit_88 rfl (lv_at hl 0 rfl) ?_
                refine yg_0 (v := nI n) C w h0 dX1_emit_89 ?_
                refine lv_iload C.1 C.2.1 dX1_emit_92 (lv_at hl 4 rfl) ?_
                refine ys_4 C w (by omega) dX1_emit_94 (fun H locs S12 hS12 w => ?_)
                subst hS12
                refine lv_aload_n C.1 C.2.1 dX1_emit_95 rfl (lv_at hl 0 rfl) ?_
                refine lv_dup C.1 C.2.1 dX1_emit_96 rfl ?_
                refine yg_0 (v := nI n) C w h0 dX1_emit_97 ?_
                refine n_const (v := nI 1) C dX1_emit_100 (by decide) ?_
                refine n_iadd (v := nI (n + 1)) C dX1_emit_101 (nI_add _ _) ?_
                refine yp_0 (v := nI (n + 1)) C w dX1_emit_102 (fun H locs S13 hS13 w => ?_)
                subst hS13
                refine lv_aload_n C.1 C.2.1 dX1_emit_105 rfl (lv_at hl 0 rfl) ?_
                refine yg_0 (v := nI (n + 1)) C w rfl dX1_emit_106 ?_
                exact g_iret (v := nI (n + 1)) C w (by rw [if_neg (by omega), if_neg (by rw [show emV _ _ _ _ = true by simp only [emV, c_27, c_35, c_49, decide_eq_true c_13, decide_eq_true c_19, Bool.or_true]; rfl]; decide)]; exact ⟨rfl, rfl⟩) dX1_emit_109
              · skip
                refine n_const (v := (-1)) C dX1_emit_52 (by decide) ?_
                exact g_iret (v := (-1)) C w (by rw [if_neg (by omega), if_pos (show emV _ _ _ _ = false by simp [emV, c_49]; intros; exact Int32.not_lt.mp c_40)]; exact ⟨rfl, rfl⟩) dX1_emit_53
  · skip
    refine n_bipush (v := (-2)) C dX1_emit_9 (by decide) ?_
    exact g_iret (v := (-2)) C w (by rw [if_pos (by omega)]; exact ⟨rfl, rfl⟩) dX1_emit_11
set_option maxHeartbeats 4000000 in
set_option maxRecDepth 100000 in
theorem met_X1_retract (l : Launch) (S : St) (n : Nat) (hn : n ≤ 24) (h0 : S 0 0 = nI n) : gM wM l yX1_retract cX1_retract 1 (some .int) ({ frames := 0, cells := 0, slots := 0, locals := 0 }) [] S (fun r S1 => if n = 0 then r = -1 ∧ S = S1 else r = nI (n - 1) ∧ S1 = up S 0 (fun _ => nI (n - 1))) := by
  refine g_start (own := RX1) (by decide) rfl (fun b => Nat.le_of_ble_eq_true rfl) ?_
  intro p e s m below meth c D Q T A ls C w hl
  have hl : lv_has ls 1 [(0, .ref (Q 0))] := hl
  refine lv_aload_n C.1 C.2.1 dX1_retract_0 rfl (lv_at hl 0 rfl) ?_
  refine yg_0 (v := nI n) C w h0 dX1_retract_1 ?_
  refine n_if_ne (tgt := 9) C (by omega) dX1_retract_4 (by decide) (fun c_4 => ?_) (fun c_4 => ?_)
  · skip
    refine lv_aload_n C.1 C.2.1 dX1_retract_9 rfl (lv_at hl 0 rfl) ?_
    refine lv_dup C.1 C.2.1 dX1_retract_10 rfl ?_
    refine yg_0 (v := nI n) C w h0 dX1_retract_11 ?_
    refine n_const (v := nI 1) C dX1_retract_14 (by decide) ?_
    refine n_isub (v := nI (n - 1)) C dX1_retract_15 (pk_sub (by omega)) ?_
    refine yp_0 (v := nI (n - 1)) C w dX1_retract_16 (fun H locs S1 hS1 w => ?_)
    subst hS1
    refine lv_aload_n C.1 C.2.1 dX1_retract_19 rfl (lv_at hl 0 rfl) ?_
    refine yg_0 (v := nI (n - 1)) C w rfl dX1_retract_20 ?_
    exact g_iret (v := nI (n - 1)) C w (by rw [if_neg c_4]; exact ⟨rfl, rfl⟩) dX1_retract_23
  · skip
    refine n_const (v := (-1)) C dX1_retract_7 (by decide) ?_
    exact g_iret (v := (-1)) C w (by rw [if_pos c_4]; exact ⟨rfl, rfl⟩) dX1_retract_8
set_option maxHeartbeats 4000000 in
set_option maxRecDepth 100000 in
theorem met_X1_drop (l : Launch) (S : St) (n : Nat) (hn : n ≤ 24) (h0 : S 0 0 = nI n) : gM wM l yX1_drop cX1_drop 2 (some .int) ({ frames := 0, cells := 0, slots := 0, locals := 0 }) [] S (fun r S1 => r = nI n ∧ S1 = up S 0 (fun _ => nI 0)) := by
  refine g_start (own := RX1) (by decide) rfl (fun b => Nat.le_of_ble_eq_true rfl) ?_
  intro p e s m below meth c D Q T A ls C w hl
  have hl : lv_has ls 2 [(0, .ref (Q 0))] := hl
  refine lv_aload_n C.1 C.2.1 dX1_drop_0 rfl (lv_at hl 0 rfl) ?_
  refine yg_0 (v := nI n) C w h0 dX1_drop_1 ?_
  refine lv_istore_n (lv' := [(1, .int (nI n)), (0, .ref (Q 0))]) C.1 C.2.1 dX1_drop_4 rfl hl (by decide) rfl (fun ls hl => ?_)
  refine lv_aload_n C.1 C.2.1 dX1_drop_5 rfl (lv_at hl 1 rfl) ?_
  refine n_const (v := nI 0) C dX1_drop_6 (by decide) ?_
  refine yp_0 (v := nI 0) C w dX1_drop_7 (fun H locs S1 hS1 w => ?_)
  subst hS1
  refine lv_iload_n C.1 C.2.1 dX1_drop_10 rfl (lv_at hl 0 rfl) ?_
  exact g_iret (v := nI n) C w ⟨rfl, rfl⟩ dX1_drop_11
set_option maxHeartbeats 4000000 in
set_option maxRecDepth 100000 in
theorem met_X1_register (l : Launch) (S : St) (x : Int32) : gM wM l yX1_register cX1_register 2 (some .int) ({ frames := 1, cells := 0, slots := 0, locals := 21 }) [.int (x)] S (fun r S1 => r = rgF (S 5) x ∧ S = S1) := by
  refine g_start (own := RX1) (by decide) rfl (fun b => Nat.le_of_ble_eq_true rfl) ?_
  intro p e s m below meth c D Q T A ls C w hl
  have hl : lv_has ls 2 [(0, .ref (Q 0)), (1, .int (x))] := hl
  refine lv_aload_n C.1 C.2.1 dX1_register_0 rfl (lv_at hl 0 rfl) ?_
  refine lv_iload_n C.1 C.2.1 dX1_register_1 rfl (lv_at hl 1 rfl) ?_
  refine g_calli C w (met_X1_isRegister l _ x) rfl rfl cq_X1_X1_isRegister cy_X1_isRegister rfl rfl ⟨Nat.le_of_ble_eq_true rfl, Nat.le_of_ble_eq_true rfl⟩ ⟨Nat.zero_le _, Nat.zero_le _⟩ hl.1 rfl (Nat.le_of_ble_eq_true rfl) dX1_register_2 (fun r_1 S1 H locs hp w => ?_)
  obtain ⟨rfl, rfl⟩ := hp
  refine b_if_eq (tgt := 17) C dX1_register_5 (by decide) (fun c_5 => ?_) (fun c_5 => ?_)
  · skip
    refine n_const (v := nI 0) C dX1_register_17 (by decide) ?_
    exact g_iret (v := nI 0) C w ⟨by rw [rgF, if_neg (by rw [c_5]; decide)]; rfl, rfl⟩ dX1_register_18
  · skip
    have hir := c_5
    obtain ⟨j, hj, rfl⟩ := iR_of c_5
    refine lv_aload_n C.1 C.2.1 dX1_register_8 rfl (lv_at hl 0 rfl) ?_
    refine yg_5 C w dX1_register_9 ?_
    refine lv_iload_n C.1 C.2.1 dX1_register_12 rfl (lv_at hl 1 rfl) ?_
    refine yl_5 (v := S 5 j) C w (by omega) rfl dX1_register_13 ?_
    refine lv_goto (tgt := 18) C.1 C.2.1 dX1_register_14 (by decide) ?_
    exact g_iret (v := S 5 j) C w ⟨by rw [rgF, if_pos hir, nI_clamp (by omega)], rfl⟩ dX1_register_18
set_option maxHeartbeats 4000000 in
set_option maxRecDepth 100000 in
theorem met_X1_setRegister (l : Launch) (S : St) (x y : Int32) : gM wM l yX1_setRegister cX1_setRegister 3 (some .boolean) ({ frames := 1, cells := 0, slots := 0, locals := 21 }) [.int (x), .int (y)] S (fun r S1 => r = bI (iR x) ∧ S1 = if iR x = true then up S 5 (upd (S 5) x.toNatClampNeg y) else S) := by
  refine g_start (own := RX1) (by decide) rfl (fun b => Nat.le_of_ble_eq_true rfl) ?_
  intro p e s m below meth c D Q T A ls C w hl
  have hl : lv_has ls 3 [(0, .ref (Q 0)), (1, .int (x)), (2, .int (y))] := hl
  refine lv_aload_n C.1 C.2.1 dX1_setRegister_0 rfl (lv_at hl 0 rfl) ?_
  refine lv_iload_n C.1 C.2.1 dX1_setRegister_1 rfl (lv_at hl 1 rfl) ?_
  refine g_calli C w (met_X1_isRegister l _ x) rfl rfl cq_X1_X1_isRegister cy_X1_isRegister rfl rfl ⟨Nat.le_of_ble_eq_true rfl, Nat.le_of_ble_eq_true rfl⟩ ⟨Nat.zero_le _, Nat.zero_le _⟩ hl.1 rfl (Nat.le_of_ble_eq_true rfl) dX1_setRegister_2 (fun r_1 S1 H locs hp w => ?_)
  obtain ⟨rfl, rfl⟩ := hp
  refine b_if_ne (tgt := 10) C dX1_setRegister_5 (by decide) (fun c_5 => ?_) (fun c_5 => ?_)
  · skip
    have hir := c_5
    obtain ⟨j, hj, rfl⟩ := iR_of c_5
    refine lv_aload_n C.1 C.2.1 dX1_setRegister_10 rfl (lv_at hl 0 rfl) ?_
    refine yg_5 C w dX1_setRegister_11 ?_
    refine lv_iload_n C.1 C.2.1 dX1_setRegister_14 rfl (lv_at hl 1 rfl) ?_
    refine lv_iload_n C.1 C.2.1 dX1_setRegister_15 rfl (lv_at hl 2 rfl) ?_
    refine ys_5 C w (by omega) dX1_setRegister_16 (fun H locs S2 hS2 w => ?_)
    subst hS2
    refine n_const (v := bI true) C dX1_setRegister_17 (by decide) ?_
    exact g_zret (v := bI true) C w (nz_b _) ⟨by rw [hir], by rw [if_pos hir, nI_clamp (by omega)]⟩ dX1_setRegister_18
  · skip
    refine n_const (v := bI false) C dX1_setRegister_8 (by decide) ?_
    exact g_zret (v := bI false) C w (nz_b _) ⟨by rw [c_5], by rw [if_neg (by rw [c_5]; decide)]⟩ dX1_setRegister_9
set_option maxHeartbeats 4000000 in
set_option maxRecDepth 100000 in
theorem met_X1_memory (l : Launch) (S : St) (x : Int32) : gM wM l yX1_memory cX1_memory 2 (some .int) ({ frames := 0, cells := 0, slots := 0, locals := 0 }) [.int (x)] S (fun r S1 => r = mmF (S 6) x ∧ S = S1) := by
  refine g_start (own := RX1) (by decide) rfl (fun b => Nat.le_of_ble_eq_true rfl) ?_
  intro p e s m below meth c D Q T A ls C w hl
  have hl : lv_has ls 2 [(0, .ref (Q 0)), (1, .int (x))] := hl
  refine lv_iload_n C.1 C.2.1 dX1_memory_0 rfl (lv_at hl 1 rfl) ?_
  refine r_if_lt (tgt := 19) C dX1_memory_1 (by decide) (fun c_1 => ?_) (fun c_1 => ?_)
  · skip
    refine n_const (v := nI 0) C dX1_memory_19 (by decide) ?_
    exact g_iret (v := nI 0) C w ⟨by rw [mmF, if_neg (by rw [show cR x = false by simp [cR, c_1]]; decide)]; rfl, rfl⟩ dX1_memory_20
  · skip
    refine lv_iload_n C.1 C.2.1 dX1_memory_4 rfl (lv_at hl 1 rfl) ?_
    refine n_bipush (v := 15) C dX1_memory_5 (by decide) ?_
    refine r_icmp_gt (tgt := 19) C dX1_memory_7 (by decide) (fun c_7 => ?_) (fun c_7 => ?_)
    · skip
      refine n_const (v := nI 0) C dX1_memory_19 (by decide) ?_
      exact g_iret (v := nI 0) C w ⟨by rw [mmF, if_neg (by rw [show cR x = false by simp [cR, c_7]]; decide)]; rfl, rfl⟩ dX1_memory_20
    · skip
      have hcr : cR x = true := by simp [cR, c_1, c_7]
      obtain ⟨j, hj, rfl⟩ := cR_of hcr
      refine lv_aload_n C.1 C.2.1 dX1_memory_10 rfl (lv_at hl 0 rfl) ?_
      refine yg_6 C w dX1_memory_11 ?_
      refine lv_iload_n C.1 C.2.1 dX1_memory_14 rfl (lv_at hl 1 rfl) ?_
      refine yl_6 (v := S 6 j) C w (by omega) rfl dX1_memory_15 ?_
      refine lv_goto (tgt := 20) C.1 C.2.1 dX1_memory_16 (by decide) ?_
      exact g_iret (v := S 6 j) C w ⟨by rw [mmF, if_pos hcr, nI_clamp (by omega)], rfl⟩ dX1_memory_20
set_option maxHeartbeats 4000000 in
set_option maxRecDepth 100000 in
theorem met_X1_setMemory (l : Launch) (S : St) (x y : Int32) : gM wM l yX1_setMemory cX1_setMemory 3 (some .boolean) ({ frames := 0, cells := 0, slots := 0, locals := 0 }) [.int (x), .int (y)] S (fun r S1 => r = bI (cR x) ∧ S1 = if cR x = true then up S 6 (upd (S 6) x.toNatClampNeg y) else S) := by
  refine g_start (own := RX1) (by decide) rfl (fun b => Nat.le_of_ble_eq_true rfl) ?_
  intro p e s m below meth c D Q T A ls C w hl
  have hl : lv_has ls 3 [(0, .ref (Q 0)), (1, .int (x)), (2, .int (y))] := hl
  refine lv_iload_n C.1 C.2.1 dX1_setMemory_0 rfl (lv_at hl 1 rfl) ?_
  refine r_if_lt (tgt := 10) C dX1_setMemory_1 (by decide) (fun c_1 => ?_) (fun c_1 => ?_)
  · skip
    refine n_const (v := bI false) C dX1_setMemory_10 (by decide) ?_
    exact g_zret (v := bI false) C w (nz_b _) (by have hcf : cR x = false := (by simp [cR, c_1]); exact ⟨by rw [hcf], by rw [if_neg (by rw [hcf]; decide)]⟩) dX1_setMemory_11
  · skip
    refine lv_iload_n C.1 C.2.1 dX1_setMemory_4 rfl (lv_at hl 1 rfl) ?_
    refine n_bipush (v := 15) C dX1_setMemory_5 (by decide) ?_
    refine r_icmp_le (tgt := 12) C dX1_setMemory_7 (by decide) (fun c_7 => ?_) (fun c_7 => ?_)
    · skip
      have hcr : cR x = true := by simp [cR, c_1, Int32.not_lt.mpr c_7]
      obtain ⟨j, hj, rfl⟩ := cR_of hcr
      refine lv_aload_n C.1 C.2.1 dX1_setMemory_12 rfl (lv_at hl 0 rfl) ?_
      refine yg_6 C w dX1_setMemory_13 ?_
      refine lv_iload_n C.1 C.2.1 dX1_setMemory_16 rfl (lv_at hl 1 rfl) ?_
      refine lv_iload_n C.1 C.2.1 dX1_setMemory_17 rfl (lv_at hl 2 rfl) ?_
      refine ys_6 C w (by omega) dX1_setMemory_18 (fun H locs S1 hS1 w => ?_)
      subst hS1
      refine n_const (v := bI true) C dX1_setMemory_19 (by decide) ?_
      exact g_zret (v := bI true) C w (nz_b _) ⟨by rw [hcr], by rw [if_pos hcr, nI_clamp (by omega)]⟩ dX1_setMemory_20
    · skip
      refine n_const (v := bI false) C dX1_setMemory_10 (by decide) ?_
      exact g_zret (v := bI false) C w (nz_b _) (by have hcf : cR x = false := (by simp [cR, Int32.not_le.mp c_7]); exact ⟨by rw [hcf], by rw [if_neg (by rw [hcf]; decide)]⟩) dX1_setMemory_11
set_option maxHeartbeats 4000000 in
set_option maxRecDepth 100000 in
theorem met_X1_execute (l : Launch) (S : St) (n : Nat) (o d a bn : Nat → Nat) (i : Nat) (hs : xSrc S n o d a bn) (hi : i < n) : gV wM l yX1_execute cX1_execute 5 ({ frames := 0, cells := 0, slots := 0, locals := 0 }) [.int (nI i)] S (fun S1 => S1 5 = srcR (S 4) o d a bn (S 5) (S 6) i ∧ S1 6 = srcM (S 4) o d a (S 5) (S 6) i ∧ fr8 S S1) := by
  refine g_startv (own := RX1) (by decide) rfl (fun b => Nat.le_of_ble_eq_true rfl) ?_
  intro p e s m below meth c D Q T A ls C w hl
  have hl : lv_has ls 5 [(0, .ref (Q 0)), (1, .int (nI i))] := hl
  have hn := hs.1
  obtain ⟨h8, h7, ha7, -⟩ := hs.B hi
  have hb7 := (hs.2.2 i hi).2.2.2.2.2.2
  have had := adr_lt (S 5 (a i) + S 4 i)
  refine lv_aload_n C.1 C.2.1 dX1_execute_0 rfl (lv_at hl 0 rfl) ?_
  refine yg_5 C w dX1_execute_1 ?_
  refine lv_aload_n C.1 C.2.1 dX1_execute_4 rfl (lv_at hl 0 rfl) ?_
  refine yg_3 C w dX1_execute_5 ?_
  refine lv_iload_n C.1 C.2.1 dX1_execute_8 rfl (lv_at hl 1 rfl) ?_
  refine yl_3 (v := nI (a i)) C w (by omega) (hs.2.2 i (by omega)).2.2.1 dX1_execute_9 ?_
  refine yl_5 (v := S 5 (a i)) C w (by omega) rfl dX1_execute_10 ?_
  refine lv_istore_n (lv' := [(2, .int (S 5 (a i))), (0, .ref (Q 0)), (1, .int (nI i))]) C.1 C.2.1 dX1_execute_11 rfl hl (by decide) rfl (fun ls hl => ?_)
  refine g_join (pcL := 38) (I := fun st ls H locs => ∃ (qv : Int32), (qv = if o i ≤ 5 then S 5 (bn i) else 0) ∧ (st = []) ∧ (gW wM D Q T A s S H locs) ∧ (lv_has ls 5 [(0, .ref (Q 0)), (1, .int (nI i)), (2, .int (S 5 (a i))), (3, .int (qv))])) (fun st_38 ls H locs hI => ?_) (fun J_38 => ?_)
  · obtain ⟨qv, hqv, rfl, w, hl⟩ := hI
    refine lv_iload_n C.1 C.2.1 dX1_execute_38 rfl (lv_at hl 2 rfl) ?_
    refine lv_aload_n C.1 C.2.1 dX1_execute_39 rfl (lv_at hl 0 rfl) ?_
    refine yg_4 C w dX1_execute_40 ?_
    refine lv_iload_n C.1 C.2.1 dX1_execute_43 rfl (lv_at hl 1 rfl) ?_
    refine yl_4 (v := S 4 i) C w (by omega) rfl dX1_execute_44 ?_
    refine n_iadd (v := S 5 (a i) + S 4 i) C dX1_execute_45 rfl ?_
    refine n_bipush (v := nI 15) C dX1_execute_46 (by decide) ?_
    refine n_iand (v := nI (adr (S 5 (a i) + S 4 i))) C dX1_execute_48 (pk_and _ 4 (by decide)) ?_
    refine lv_istore (lv' := [(4, .int (nI (adr (S 5 (a i) + S 4 i)))), (0, .ref (Q 0)), (1, .int (nI i)), (2, .int (S 5 (a i))), (3, .int (qv))]) C.1 C.2.1 dX1_execute_49 hl (by decide) rfl (fun ls hl => ?_)
    refine lv_aload_n C.1 C.2.1 dX1_execute_51 rfl (lv_at hl 1 rfl) ?_
    refine yg_1 C w dX1_execute_52 ?_
    refine lv_iload_n C.1 C.2.1 dX1_execute_55 rfl (lv_at hl 2 rfl) ?_
    refine yl_1 (v := nI (o i)) C w (by omega) (hs.2.2 i (by omega)).1 dX1_execute_56 ?_
    refine n_if_ne (tgt := 74) C (by omega) dX1_execute_57 (by decide) (fun c_57 => ?_) (fun c_57 => ?_)
    · skip
      refine lv_aload_n C.1 C.2.1 dX1_execute_74 rfl (lv_at hl 1 rfl) ?_
      refine yg_1 C w dX1_execute_75 ?_
      refine lv_iload_n C.1 C.2.1 dX1_execute_78 rfl (lv_at hl 2 rfl) ?_
      refine yl_1 (v := nI (o i)) C w (by omega) (hs.2.2 i (by omega)).1 dX1_execute_79 ?_
      refine n_const (v := nI 1) C dX1_execute_80 (by decide) ?_
      refine n_icmp_ne (tgt := 98) C (by omega) (by decide) dX1_execute_81 (by decide) (fun c_81 => ?_) (fun c_81 => ?_)
      · skip
        refine lv_aload_n C.1 C.2.1 dX1_execute_98 rfl (lv_at hl 1 rfl) ?_
        refine yg_1 C w dX1_execute_99 ?_
        refine lv_iload_n C.1 C.2.1 dX1_execute_102 rfl (lv_at hl 2 rfl) ?_
        refine yl_1 (v := nI (o i)) C w (by omega) (hs.2.2 i (by omega)).1 dX1_execute_103 ?_
        refine n_const (v := nI 2) C dX1_execute_104 (by decide) ?_
        refine n_icmp_ne (tgt := 122) C (by omega) (by decide) dX1_execute_105 (by decide) (fun c_105 => ?_) (fun c_105 => ?_)
        · skip
          refine lv_aload_n C.1 C.2.1 dX1_execute_122 rfl (lv_at hl 1 rfl) ?_
          refine yg_1 C w dX1_execute_123 ?_
          refine lv_iload_n C.1 C.2.1 dX1_execute_126 rfl (lv_at hl 2 rfl) ?_
          refine yl_1 (v := nI (o i)) C w (by omega) (hs.2.2 i (by omega)).1 dX1_execute_127 ?_
          refine n_const (v := nI 3) C dX1_execute_128 (by decide) ?_
          refine n_icmp_ne (tgt := 146) C (by omega) (by decide) dX1_execute_129 (by decide) (fun c_129 => ?_) (fun c_129 => ?_)
          · skip
            refine lv_aload_n C.1 C.2.1 dX1_execute_146 rfl (lv_at hl 1 rfl) ?_
            refine yg_1 C w dX1_execute_147 ?_
            refine lv_iload_n C.1 C.2.1 dX1_execute_150 rfl (lv_at hl 2 rfl) ?_
            refine yl_1 (v := nI (o i)) C w (by omega) (hs.2.2 i (by omega)).1 dX1_execute_151 ?_
            refine n_const (v := nI 4) C dX1_execute_152 (by decide) ?_
            refine n_icmp_ne (tgt := 177) C (by omega) (by decide) dX1_execute_153 (by decide) (fun c_153 => ?_) (fun c_153 => ?_)
            · skip
              refine lv_aload_n C.1 C.2.1 dX1_execute_177 rfl (lv_at hl 1 rfl) ?_
              refine yg_1 C w dX1_execute_178 ?_
              refine lv_iload_n C.1 C.2.1 dX1_execute_181 rfl (lv_at hl 2 rfl) ?_
              refine yl_1 (v := nI (o i)) C w (by omega) (hs.2.2 i (by omega)).1 dX1_execute_182 ?_
              refine n_const (v := nI 5) C dX1_execute_183 (by decide) ?_
              refine n_icmp_ne (tgt := 217) C (by omega) (by decide) dX1_execute_184 (by decide) (fun c_184 => ?_) (fun c_184 => ?_)
              · skip
                refine lv_aload_n C.1 C.2.1 dX1_execute_217 rfl (lv_at hl 1 rfl) ?_
                refine yg_1 C w dX1_execute_218 ?_
                refine lv_iload_n C.1 C.2.1 dX1_execute_221 rfl (lv_at hl 2 rfl) ?_
                refine yl_1 (v := nI (o i)) C w (by omega) (hs.2.2 i (by omega)).1 dX1_execute_222 ?_
                refine n_bipush (v := nI 6) C dX1_execute_223 (by decide) ?_
                refine n_icmp_ne (tgt := 247) C (by omega) (by decide) dX1_execute_225 (by decide) (fun c_225 => ?_) (fun c_225 => ?_)
                · skip
                  refine lv_aload_n C.1 C.2.1 dX1_execute_247 rfl (lv_at hl 1 rfl) ?_
                  refine yg_1 C w dX1_execute_248 ?_
                  refine lv_iload_n C.1 C.2.1 dX1_execute_251 rfl (lv_at hl 2 rfl) ?_
                  refine yl_1 (v := nI (o i)) C w (by omega) (hs.2.2 i (by omega)).1 dX1_execute_252 ?_
                  refine n_bipush (v := nI 7) C dX1_execute_253 (by decide) ?_
                  refine n_icmp_ne (tgt := 276) C (by omega) (by decide) dX1_execute_255 (by decide) (fun c_255 => ?_) (fun c_255 => ?_)
                  · skip
                    refine lv_aload_n C.1 C.2.1 dX1_execute_276 rfl (lv_at hl 1 rfl) ?_
                    refine yg_1 C w dX1_execute_277 ?_
                    refine lv_iload_n C.1 C.2.1 dX1_execute_280 rfl (lv_at hl 2 rfl) ?_
                    refine yl_1 (v := nI (o i)) C w (by omega) (hs.2.2 i (by omega)).1 dX1_execute_281 ?_
                    refine n_bipush (v := nI 8) C dX1_execute_282 (by decide) ?_
                    refine n_icmp_ne (tgt := 305) C (by omega) (by decide) dX1_execute_284 (by decide) (fun c_284 => ?_) (fun c_284 => ?_)
                    · skip
                      omega
                    · skip
                      refine lv_aload_n C.1 C.2.1 dX1_execute_287 rfl (lv_at hl 1 rfl) ?_
                      refine yg_6 C w dX1_execute_288 ?_
                      refine lv_iload C.1 C.2.1 dX1_execute_291 (lv_at hl 0 rfl) ?_
                      refine lv_aload_n C.1 C.2.1 dX1_execute_293 rfl (lv_at hl 1 rfl) ?_
                      refine yg_5 C w dX1_execute_294 ?_
                      refine lv_aload_n C.1 C.2.1 dX1_execute_297 rfl (lv_at hl 1 rfl) ?_
                      refine yg_2 C w dX1_execute_298 ?_
                      refine lv_iload_n C.1 C.2.1 dX1_execute_301 rfl (lv_at hl 2 rfl) ?_
                      refine yl_2 (v := nI (d i)) C w (by omega) (hs.2.2 i (by omega)).2.1 dX1_execute_302 ?_
                      refine yl_5 (v := S 5 (d i)) C w (by omega) rfl dX1_execute_303 ?_
                      refine ys_6 C w (by omega) dX1_execute_304 (fun H locs S1 hS1 w => ?_)
                      subst hS1
                      exact g_vret C w ⟨by rw [srcR, if_pos c_284]; rfl, by rw [srcM, if_pos c_284]; rfl, fun k h1 h2 => up_n _ _ h2⟩ dX1_execute_305
                  · skip
                    refine lv_aload_n C.1 C.2.1 dX1_execute_258 rfl (lv_at hl 1 rfl) ?_
                    refine yg_5 C w dX1_execute_259 ?_
                    refine lv_aload_n C.1 C.2.1 dX1_execute_262 rfl (lv_at hl 1 rfl) ?_
                    refine yg_2 C w dX1_execute_263 ?_
                    refine lv_iload_n C.1 C.2.1 dX1_execute_266 rfl (lv_at hl 2 rfl) ?_
                    refine yl_2 (v := nI (d i)) C w (by omega) (hs.2.2 i (by omega)).2.1 dX1_execute_267 ?_
                    refine lv_aload_n C.1 C.2.1 dX1_execute_268 rfl (lv_at hl 1 rfl) ?_
                    refine yg_6 C w dX1_execute_269 ?_
                    refine lv_iload C.1 C.2.1 dX1_execute_272 (lv_at hl 0 rfl) ?_
                    refine yl_6 (v := S 6 (adr (S 5 (a i) + S 4 i))) C w (by omega) rfl dX1_execute_274 ?_
                    refine ys_5 C w (by omega) dX1_execute_275 (fun H locs S2 hS2 w => ?_)
                    subst hS2
                    refine lv_aload_n C.1 C.2.1 dX1_execute_276 rfl (lv_at hl 1 rfl) ?_
                    refine yg_1 C w dX1_execute_277 ?_
                    refine lv_iload_n C.1 C.2.1 dX1_execute_280 rfl (lv_at hl 2 rfl) ?_
                    refine yl_1 (v := nI (o i)) C w (by omega) (hs.2.2 i (by omega)).1 dX1_execute_281 ?_
                    refine n_bipush (v := nI 8) C dX1_execute_282 (by decide) ?_
                    refine n_icmp_ne (tgt := 305) C (by omega) (by decide) dX1_execute_284 (by decide) (fun c_284 => ?_) (fun c_284 => ?_)
                    · skip
                      exact g_vret C w ⟨by rw [srcR, if_neg (by omega), vaF, if_pos c_255]; rfl, by rw [srcM, if_neg (by omega)]; rfl, fun k h1 h2 => up_n _ _ h1⟩ dX1_execute_305
                    · skip
                      omega
                · skip
                  refine lv_aload_n C.1 C.2.1 dX1_execute_228 rfl (lv_at hl 1 rfl) ?_
                  refine yg_5 C w dX1_execute_229 ?_
                  refine lv_aload_n C.1 C.2.1 dX1_execute_232 rfl (lv_at hl 1 rfl) ?_
                  refine yg_2 C w dX1_execute_233 ?_
                  refine lv_iload_n C.1 C.2.1 dX1_execute_236 rfl (lv_at hl 2 rfl) ?_
                  refine yl_2 (v := nI (d i)) C w (by omega) (hs.2.2 i (by omega)).2.1 dX1_execute_237 ?_
                  refine lv_iload_n C.1 C.2.1 dX1_execute_238 rfl (lv_at hl 3 rfl) ?_
                  refine lv_aload_n C.1 C.2.1 dX1_execute_239 rfl (lv_at hl 1 rfl) ?_
                  refine yg_4 C w dX1_execute_240 ?_
                  refine lv_iload_n C.1 C.2.1 dX1_execute_243 rfl (lv_at hl 2 rfl) ?_
                  refine yl_4 (v := S 4 i) C w (by omega) rfl dX1_execute_244 ?_
                  refine n_iadd (v := S 5 (a i) + S 4 i) C dX1_execute_245 rfl ?_
                  refine ys_5 C w (by omega) dX1_execute_246 (fun H locs S3 hS3 w => ?_)
                  subst hS3
                  refine lv_aload_n C.1 C.2.1 dX1_execute_247 rfl (lv_at hl 1 rfl) ?_
                  refine yg_1 C w dX1_execute_248 ?_
                  refine lv_iload_n C.1 C.2.1 dX1_execute_251 rfl (lv_at hl 2 rfl) ?_
                  refine yl_1 (v := nI (o i)) C w (by omega) (hs.2.2 i (by omega)).1 dX1_execute_252 ?_
                  refine n_bipush (v := nI 7) C dX1_execute_253 (by decide) ?_
                  refine n_icmp_ne (tgt := 276) C (by omega) (by decide) dX1_execute_255 (by decide) (fun c_255 => ?_) (fun c_255 => ?_)
                  · skip
                    refine lv_aload_n C.1 C.2.1 dX1_execute_276 rfl (lv_at hl 1 rfl) ?_
                    refine yg_1 C w dX1_execute_277 ?_
                    refine lv_iload_n C.1 C.2.1 dX1_execute_280 rfl (lv_at hl 2 rfl) ?_
                    refine yl_1 (v := nI (o i)) C w (by omega) (hs.2.2 i (by omega)).1 dX1_execute_281 ?_
                    refine n_bipush (v := nI 8) C dX1_execute_282 (by decide) ?_
                    refine n_icmp_ne (tgt := 305) C (by omega) (by decide) dX1_execute_284 (by decide) (fun c_284 => ?_) (fun c_284 => ?_)
                    · skip
                      exact g_vret C w ⟨by rw [srcR, if_neg (by omega), vaF, if_neg (by omega), if_neg (by omega), if_pos c_225]; rfl, by rw [srcM, if_neg (by omega)]; rfl, fun k h1 h2 => up_n _ _ h1⟩ dX1_execute_305
                    · skip
                      omega
                  · skip
                    omega
              · skip
                refine lv_aload_n C.1 C.2.1 dX1_execute_187 rfl (lv_at hl 1 rfl) ?_
                refine yg_5 C w dX1_execute_188 ?_
                refine lv_aload_n C.1 C.2.1 dX1_execute_191 rfl (lv_at hl 1 rfl) ?_
                refine yg_2 C w dX1_execute_192 ?_
                refine lv_iload_n C.1 C.2.1 dX1_execute_195 rfl (lv_at hl 2 rfl) ?_
                refine yl_2 (v := nI (d i)) C w (by omega) (hs.2.2 i (by omega)).2.1 dX1_execute_196 ?_
                refine lv_aload_n C.1 C.2.1 dX1_execute_197 rfl (lv_at hl 1 rfl) ?_
                refine yg_5 C w dX1_execute_198 ?_
                refine lv_aload_n C.1 C.2.1 dX1_execute_201 rfl (lv_at hl 1 rfl) ?_
                refine yg_2 C w dX1_execute_202 ?_
                refine lv_iload_n C.1 C.2.1 dX1_execute_205 rfl (lv_at hl 2 rfl) ?_
                refine yl_2 (v := nI (d i)) C w (by omega) (hs.2.2 i (by omega)).2.1 dX1_execute_206 ?_
                refine yl_5 (v := S 5 (d i)) C w (by omega) rfl dX1_execute_207 ?_
                refine r_if_eq (tgt := 215) C dX1_execute_208 (by decide) (fun c_208 => ?_) (fun c_208 => ?_)
                · skip
                  refine lv_iload_n C.1 C.2.1 dX1_execute_215 rfl (lv_at hl 4 rfl) ?_
                  refine ys_5 C w (by omega) dX1_execute_216 (fun H locs S4 hS4 w => ?_)
                  subst hS4
                  refine lv_aload_n C.1 C.2.1 dX1_execute_217 rfl (lv_at hl 1 rfl) ?_
                  refine yg_1 C w dX1_execute_218 ?_
                  refine lv_iload_n C.1 C.2.1 dX1_execute_221 rfl (lv_at hl 2 rfl) ?_
                  refine yl_1 (v := nI (o i)) C w (by omega) (hs.2.2 i (by omega)).1 dX1_execute_222 ?_
                  refine n_bipush (v := nI 6) C dX1_execute_223 (by decide) ?_
                  refine n_icmp_ne (tgt := 247) C (by omega) (by decide) dX1_execute_225 (by decide) (fun c_225 => ?_) (fun c_225 => ?_)
                  · skip
                    refine lv_aload_n C.1 C.2.1 dX1_execute_247 rfl (lv_at hl 1 rfl) ?_
                    refine yg_1 C w dX1_execute_248 ?_
                    refine lv_iload_n C.1 C.2.1 dX1_execute_251 rfl (lv_at hl 2 rfl) ?_
                    refine yl_1 (v := nI (o i)) C w (by omega) (hs.2.2 i (by omega)).1 dX1_execute_252 ?_
                    refine n_bipush (v := nI 7) C dX1_execute_253 (by decide) ?_
                    refine n_icmp_ne (tgt := 276) C (by omega) (by decide) dX1_execute_255 (by decide) (fun c_255 => ?_) (fun c_255 => ?_)
                    · skip
                      refine lv_aload_n C.1 C.2.1 dX1_execute_276 rfl (lv_at hl 1 rfl) ?_
                      refine yg_1 C w dX1_execute_277 ?_
                      refine lv_iload_n C.1 C.2.1 dX1_execute_280 rfl (lv_at hl 2 rfl) ?_
                      refine yl_1 (v := nI (o i)) C w (by omega) (hs.2.2 i (by omega)).1 dX1_execute_281 ?_
                      refine n_bipush (v := nI 8) C dX1_execute_282 (by decide) ?_
                      refine n_icmp_ne (tgt := 305) C (by omega) (by decide) dX1_execute_284 (by decide) (fun c_284 => ?_) (fun c_284 => ?_)
                      · skip
                        exact g_vret C w ⟨by rw [srcR, if_neg (by omega), vaF, if_neg (by omega), if_pos c_184, if_pos c_208, ← hqv]; rfl, by rw [srcM, if_neg (by omega)]; rfl, fun k h1 h2 => up_n _ _ h1⟩ dX1_execute_305
                      · skip
                        omega
                    · skip
                      omega
                  · skip
                    omega
                · skip
                  refine lv_iload_n C.1 C.2.1 dX1_execute_211 rfl (lv_at hl 3 rfl) ?_
                  refine lv_goto (tgt := 216) C.1 C.2.1 dX1_execute_212 (by decide) ?_
                  refine ys_5 C w (by omega) dX1_execute_216 (fun H locs S5 hS5 w => ?_)
                  subst hS5
                  refine lv_aload_n C.1 C.2.1 dX1_execute_217 rfl (lv_at hl 1 rfl) ?_
                  refine yg_1 C w dX1_execute_218 ?_
                  refine lv_iload_n C.1 C.2.1 dX1_execute_221 rfl (lv_at hl 2 rfl) ?_
                  refine yl_1 (v := nI (o i)) C w (by omega) (hs.2.2 i (by omega)).1 dX1_execute_222 ?_
                  refine n_bipush (v := nI 6) C dX1_execute_223 (by decide) ?_
                  refine n_icmp_ne (tgt := 247) C (by omega) (by decide) dX1_execute_225 (by decide) (fun c_225 => ?_) (fun c_225 => ?_)
                  · skip
                    refine lv_aload_n C.1 C.2.1 dX1_execute_247 rfl (lv_at hl 1 rfl) ?_
                    refine yg_1 C w dX1_execute_248 ?_
                    refine lv_iload_n C.1 C.2.1 dX1_execute_251 rfl (lv_at hl 2 rfl) ?_
                    refine yl_1 (v := nI (o i)) C w (by omega) (hs.2.2 i (by omega)).1 dX1_execute_252 ?_
                    refine n_bipush (v := nI 7) C dX1_execute_253 (by decide) ?_
                    refine n_icmp_ne (tgt := 276) C (by omega) (by decide) dX1_execute_255 (by decide) (fun c_255 => ?_) (fun c_255 => ?_)
                    · skip
                      refine lv_aload_n C.1 C.2.1 dX1_execute_276 rfl (lv_at hl 1 rfl) ?_
                      refine yg_1 C w dX1_execute_277 ?_
                      refine lv_iload_n C.1 C.2.1 dX1_execute_280 rfl (lv_at hl 2 rfl) ?_
                      refine yl_1 (v := nI (o i)) C w (by omega) (hs.2.2 i (by omega)).1 dX1_execute_281 ?_
                      refine n_bipush (v := nI 8) C dX1_execute_282 (by decide) ?_
                      refine n_icmp_ne (tgt := 305) C (by omega) (by decide) dX1_execute_284 (by decide) (fun c_284 => ?_) (fun c_284 => ?_)
                      · skip
                        exact g_vret C w ⟨by rw [srcR, if_neg (by omega), vaF, if_neg (by omega), if_pos c_184, if_neg c_208]; rfl, by rw [srcM, if_neg (by omega)]; rfl, fun k h1 h2 => up_n _ _ h1⟩ dX1_execute_305
                      · skip
                        omega
                    · skip
                      omega
                  · skip
                    omega
            · skip
              refine lv_aload_n C.1 C.2.1 dX1_execute_156 rfl (lv_at hl 1 rfl) ?_
              refine yg_5 C w dX1_execute_157 ?_
              refine lv_aload_n C.1 C.2.1 dX1_execute_160 rfl (lv_at hl 1 rfl) ?_
              refine yg_2 C w dX1_execute_161 ?_
              refine lv_iload_n C.1 C.2.1 dX1_execute_164 rfl (lv_at hl 2 rfl) ?_
              refine yl_2 (v := nI (d i)) C w (by omega) (hs.2.2 i (by omega)).2.1 dX1_execute_165 ?_
              refine lv_iload_n C.1 C.2.1 dX1_execute_166 rfl (lv_at hl 3 rfl) ?_
              refine lv_iload_n C.1 C.2.1 dX1_execute_167 rfl (lv_at hl 4 rfl) ?_
              refine r_icmp_ge (tgt := 175) C dX1_execute_168 (by decide) (fun c_168 => ?_) (fun c_168 => ?_)
              · skip
                refine n_const (v := nI 0) C dX1_execute_175 (by decide) ?_
                refine ys_5 C w (by omega) dX1_execute_176 (fun H locs S6 hS6 w => ?_)
                subst hS6
                refine lv_aload_n C.1 C.2.1 dX1_execute_177 rfl (lv_at hl 1 rfl) ?_
                refine yg_1 C w dX1_execute_178 ?_
                refine lv_iload_n C.1 C.2.1 dX1_execute_181 rfl (lv_at hl 2 rfl) ?_
                refine yl_1 (v := nI (o i)) C w (by omega) (hs.2.2 i (by omega)).1 dX1_execute_182 ?_
                refine n_const (v := nI 5) C dX1_execute_183 (by decide) ?_
                refine n_icmp_ne (tgt := 217) C (by omega) (by decide) dX1_execute_184 (by decide) (fun c_184 => ?_) (fun c_184 => ?_)
                · skip
                  refine lv_aload_n C.1 C.2.1 dX1_execute_217 rfl (lv_at hl 1 rfl) ?_
                  refine yg_1 C w dX1_execute_218 ?_
                  refine lv_iload_n C.1 C.2.1 dX1_execute_221 rfl (lv_at hl 2 rfl) ?_
                  refine yl_1 (v := nI (o i)) C w (by omega) (hs.2.2 i (by omega)).1 dX1_execute_222 ?_
                  refine n_bipush (v := nI 6) C dX1_execute_223 (by decide) ?_
                  refine n_icmp_ne (tgt := 247) C (by omega) (by decide) dX1_execute_225 (by decide) (fun c_225 => ?_) (fun c_225 => ?_)
                  · skip
                    refine lv_aload_n C.1 C.2.1 dX1_execute_247 rfl (lv_at hl 1 rfl) ?_
                    refine yg_1 C w dX1_execute_248 ?_
                    refine lv_iload_n C.1 C.2.1 dX1_execute_251 rfl (lv_at hl 2 rfl) ?_
                    refine yl_1 (v := nI (o i)) C w (by omega) (hs.2.2 i (by omega)).1 dX1_execute_252 ?_
                    refine n_bipush (v := nI 7) C dX1_execute_253 (by decide) ?_
                    refine n_icmp_ne (tgt := 276) C (by omega) (by decide) dX1_execute_255 (by decide) (fun c_255 => ?_) (fun c_255 => ?_)
                    · skip
                      refine lv_aload_n C.1 C.2.1 dX1_execute_276 rfl (lv_at hl 1 rfl) ?_
                      refine yg_1 C w dX1_execute_277 ?_
                      refine lv_iload_n C.1 C.2.1 dX1_execute_280 rfl (lv_at hl 2 rfl) ?_
                      refine yl_1 (v := nI (o i)) C w (by omega) (hs.2.2 i (by omega)).1 dX1_execute_281 ?_
                      refine n_bipush (v := nI 8) C dX1_execute_282 (by decide) ?_
                      refine n_icmp_ne (tgt := 305) C (by omega) (by decide) dX1_execute_284 (by decide) (fun c_284 => ?_) (fun c_284 => ?_)
                      · skip
                        exact g_vret C w ⟨by rw [srcR, if_neg (by omega), vaF, if_neg (by omega), if_neg (by omega), if_neg (by omega), if_neg (by omega), comF, if_neg (by omega), if_neg (by omega), if_neg (by omega), if_neg (by omega), ← hqv, if_neg (Int32.not_lt.mpr c_168)]; rfl, by rw [srcM, if_neg (by omega)]; rfl, fun k h1 h2 => up_n _ _ h1⟩ dX1_execute_305
                      · skip
                        omega
                    · skip
                      omega
                  · skip
                    omega
                · skip
                  omega
              · skip
                refine n_const (v := nI 1) C dX1_execute_171 (by decide) ?_
                refine lv_goto (tgt := 176) C.1 C.2.1 dX1_execute_172 (by decide) ?_
                refine ys_5 C w (by omega) dX1_execute_176 (fun H locs S7 hS7 w => ?_)
                subst hS7
                refine lv_aload_n C.1 C.2.1 dX1_execute_177 rfl (lv_at hl 1 rfl) ?_
                refine yg_1 C w dX1_execute_178 ?_
                refine lv_iload_n C.1 C.2.1 dX1_execute_181 rfl (lv_at hl 2 rfl) ?_
                refine yl_1 (v := nI (o i)) C w (by omega) (hs.2.2 i (by omega)).1 dX1_execute_182 ?_
                refine n_const (v := nI 5) C dX1_execute_183 (by decide) ?_
                refine n_icmp_ne (tgt := 217) C (by omega) (by decide) dX1_execute_184 (by decide) (fun c_184 => ?_) (fun c_184 => ?_)
                · skip
                  refine lv_aload_n C.1 C.2.1 dX1_execute_217 rfl (lv_at hl 1 rfl) ?_
                  refine yg_1 C w dX1_execute_218 ?_
                  refine lv_iload_n C.1 C.2.1 dX1_execute_221 rfl (lv_at hl 2 rfl) ?_
                  refine yl_1 (v := nI (o i)) C w (by omega) (hs.2.2 i (by omega)).1 dX1_execute_222 ?_
                  refine n_bipush (v := nI 6) C dX1_execute_223 (by decide) ?_
                  refine n_icmp_ne (tgt := 247) C (by omega) (by decide) dX1_execute_225 (by decide) (fun c_225 => ?_) (fun c_225 => ?_)
                  · skip
                    refine lv_aload_n C.1 C.2.1 dX1_execute_247 rfl (lv_at hl 1 rfl) ?_
                    refine yg_1 C w dX1_execute_248 ?_
                    refine lv_iload_n C.1 C.2.1 dX1_execute_251 rfl (lv_at hl 2 rfl) ?_
                    refine yl_1 (v := nI (o i)) C w (by omega) (hs.2.2 i (by omega)).1 dX1_execute_252 ?_
                    refine n_bipush (v := nI 7) C dX1_execute_253 (by decide) ?_
                    refine n_icmp_ne (tgt := 276) C (by omega) (by decide) dX1_execute_255 (by decide) (fun c_255 => ?_) (fun c_255 => ?_)
                    · skip
                      refine lv_aload_n C.1 C.2.1 dX1_execute_276 rfl (lv_at hl 1 rfl) ?_
                      refine yg_1 C w dX1_execute_277 ?_
                      refine lv_iload_n C.1 C.2.1 dX1_execute_280 rfl (lv_at hl 2 rfl) ?_
                      refine yl_1 (v := nI (o i)) C w (by omega) (hs.2.2 i (by omega)).1 dX1_execute_281 ?_
                      refine n_bipush (v := nI 8) C dX1_execute_282 (by decide) ?_
                      refine n_icmp_ne (tgt := 305) C (by omega) (by decide) dX1_execute_284 (by decide) (fun c_284 => ?_) (fun c_284 => ?_)
                      · skip
                        exact g_vret C w ⟨by rw [srcR, if_neg (by omega), vaF, if_neg (by omega), if_neg (by omega), if_neg (by omega), if_neg (by omega), comF, if_neg (by omega), if_neg (by omega), if_neg (by omega), if_neg (by omega), ← hqv, if_pos (Int32.not_le.mp c_168)]; rfl, by rw [srcM, if_neg (by omega)]; rfl, fun k h1 h2 => up_n _ _ h1⟩ dX1_execute_305
                      · skip
                        omega
                    · skip
                      omega
                  · skip
                    omega
                · skip
                  omega
          · skip
            refine lv_aload_n C.1 C.2.1 dX1_execute_132 rfl (lv_at hl 1 rfl) ?_
            refine yg_5 C w dX1_execute_133 ?_
            refine lv_aload_n C.1 C.2.1 dX1_execute_136 rfl (lv_at hl 1 rfl) ?_
            refine yg_2 C w dX1_execute_137 ?_
            refine lv_iload_n C.1 C.2.1 dX1_execute_140 rfl (lv_at hl 2 rfl) ?_
            refine yl_2 (v := nI (d i)) C w (by omega) (hs.2.2 i (by omega)).2.1 dX1_execute_141 ?_
            refine lv_iload_n C.1 C.2.1 dX1_execute_142 rfl (lv_at hl 3 rfl) ?_
            refine lv_iload_n C.1 C.2.1 dX1_execute_143 rfl (lv_at hl 4 rfl) ?_
            refine n_ixor (v := S 5 (a i) ^^^ qv) C dX1_execute_144 rfl ?_
            refine ys_5 C w (by omega) dX1_execute_145 (fun H locs S8 hS8 w => ?_)
            subst hS8
            refine lv_aload_n C.1 C.2.1 dX1_execute_146 rfl (lv_at hl 1 rfl) ?_
            refine yg_1 C w dX1_execute_147 ?_
            refine lv_iload_n C.1 C.2.1 dX1_execute_150 rfl (lv_at hl 2 rfl) ?_
            refine yl_1 (v := nI (o i)) C w (by omega) (hs.2.2 i (by omega)).1 dX1_execute_151 ?_
            refine n_const (v := nI 4) C dX1_execute_152 (by decide) ?_
            refine n_icmp_ne (tgt := 177) C (by omega) (by decide) dX1_execute_153 (by decide) (fun c_153 => ?_) (fun c_153 => ?_)
            · skip
              refine lv_aload_n C.1 C.2.1 dX1_execute_177 rfl (lv_at hl 1 rfl) ?_
              refine yg_1 C w dX1_execute_178 ?_
              refine lv_iload_n C.1 C.2.1 dX1_execute_181 rfl (lv_at hl 2 rfl) ?_
              refine yl_1 (v := nI (o i)) C w (by omega) (hs.2.2 i (by omega)).1 dX1_execute_182 ?_
              refine n_const (v := nI 5) C dX1_execute_183 (by decide) ?_
              refine n_icmp_ne (tgt := 217) C (by omega) (by decide) dX1_execute_184 (by decide) (fun c_184 => ?_) (fun c_184 => ?_)
              · skip
                refine lv_aload_n C.1 C.2.1 dX1_execute_217 rfl (lv_at hl 1 rfl) ?_
                refine yg_1 C w dX1_execute_218 ?_
                refine lv_iload_n C.1 C.2.1 dX1_execute_221 rfl (lv_at hl 2 rfl) ?_
                refine yl_1 (v := nI (o i)) C w (by omega) (hs.2.2 i (by omega)).1 dX1_execute_222 ?_
                refine n_bipush (v := nI 6) C dX1_execute_223 (by decide) ?_
                refine n_icmp_ne (tgt := 247) C (by omega) (by decide) dX1_execute_225 (by decide) (fun c_225 => ?_) (fun c_225 => ?_)
                · skip
                  refine lv_aload_n C.1 C.2.1 dX1_execute_247 rfl (lv_at hl 1 rfl) ?_
                  refine yg_1 C w dX1_execute_248 ?_
                  refine lv_iload_n C.1 C.2.1 dX1_execute_251 rfl (lv_at hl 2 rfl) ?_
                  refine yl_1 (v := nI (o i)) C w (by omega) (hs.2.2 i (by omega)).1 dX1_execute_252 ?_
                  refine n_bipush (v := nI 7) C dX1_execute_253 (by decide) ?_
                  refine n_icmp_ne (tgt := 276) C (by omega) (by decide) dX1_execute_255 (by decide) (fun c_255 => ?_) (fun c_255 => ?_)
                  · skip
                    refine lv_aload_n C.1 C.2.1 dX1_execute_276 rfl (lv_at hl 1 rfl) ?_
                    refine yg_1 C w dX1_execute_277 ?_
                    refine lv_iload_n C.1 C.2.1 dX1_execute_280 rfl (lv_at hl 2 rfl) ?_
                    refine yl_1 (v := nI (o i)) C w (by omega) (hs.2.2 i (by omega)).1 dX1_execute_281 ?_
                    refine n_bipush (v := nI 8) C dX1_execute_282 (by decide) ?_
                    refine n_icmp_ne (tgt := 305) C (by omega) (by decide) dX1_execute_284 (by decide) (fun c_284 => ?_) (fun c_284 => ?_)
                    · skip
                      exact g_vret C w ⟨by rw [srcR, if_neg (by omega), vaF, if_neg (by omega), if_neg (by omega), if_neg (by omega), if_neg (by omega), comF, if_neg (by omega), if_neg (by omega), if_neg (by omega), if_pos c_129, ← hqv]; rfl, by rw [srcM, if_neg (by omega)]; rfl, fun k h1 h2 => up_n _ _ h1⟩ dX1_execute_305
                    · skip
                      omega
                  · skip
                    omega
                · skip
                  omega
              · skip
                omega
            · skip
              omega
        · skip
          refine lv_aload_n C.1 C.2.1 dX1_execute_108 rfl (lv_at hl 1 rfl) ?_
          refine yg_5 C w dX1_execute_109 ?_
          refine lv_aload_n C.1 C.2.1 dX1_execute_112 rfl (lv_at hl 1 rfl) ?_
          refine yg_2 C w dX1_execute_113 ?_
          refine lv_iload_n C.1 C.2.1 dX1_execute_116 rfl (lv_at hl 2 rfl) ?_
          refine yl_2 (v := nI (d i)) C w (by omega) (hs.2.2 i (by omega)).2.1 dX1_execute_117 ?_
          refine lv_iload_n C.1 C.2.1 dX1_execute_118 rfl (lv_at hl 3 rfl) ?_
          refine lv_iload_n C.1 C.2.1 dX1_execute_119 rfl (lv_at hl 4 rfl) ?_
          refine n_imul (v := S 5 (a i) * qv) C dX1_execute_120 rfl ?_
          refine ys_5 C w (by omega) dX1_execute_121 (fun H locs S9 hS9 w => ?_)
          subst hS9
          refine lv_aload_n C.1 C.2.1 dX1_execute_122 rfl (lv_at hl 1 rfl) ?_
          refine yg_1 C w dX1_execute_123 ?_
          refine lv_iload_n C.1 C.2.1 dX1_execute_126 rfl (lv_at hl 2 rfl) ?_
          refine yl_1 (v := nI (o i)) C w (by omega) (hs.2.2 i (by omega)).1 dX1_execute_127 ?_
          refine n_const (v := nI 3) C dX1_execute_128 (by decide) ?_
          refine n_icmp_ne (tgt := 146) C (by omega) (by decide) dX1_execute_129 (by decide) (fun c_129 => ?_) (fun c_129 => ?_)
          · skip
            refine lv_aload_n C.1 C.2.1 dX1_execute_146 rfl (lv_at hl 1 rfl) ?_
            refine yg_1 C w dX1_execute_147 ?_
            refine lv_iload_n C.1 C.2.1 dX1_execute_150 rfl (lv_at hl 2 rfl) ?_
            refine yl_1 (v := nI (o i)) C w (by omega) (hs.2.2 i (by omega)).1 dX1_execute_151 ?_
            refine n_const (v := nI 4) C dX1_execute_152 (by decide) ?_
            refine n_icmp_ne (tgt := 177) C (by omega) (by decide) dX1_execute_153 (by decide) (fun c_153 => ?_) (fun c_153 => ?_)
            · skip
              refine lv_aload_n C.1 C.2.1 dX1_execute_177 rfl (lv_at hl 1 rfl) ?_
              refine yg_1 C w dX1_execute_178 ?_
              refine lv_iload_n C.1 C.2.1 dX1_execute_181 rfl (lv_at hl 2 rfl) ?_
              refine yl_1 (v := nI (o i)) C w (by omega) (hs.2.2 i (by omega)).1 dX1_execute_182 ?_
              refine n_const (v := nI 5) C dX1_execute_183 (by decide) ?_
              refine n_icmp_ne (tgt := 217) C (by omega) (by decide) dX1_execute_184 (by decide) (fun c_184 => ?_) (fun c_184 => ?_)
              · skip
                refine lv_aload_n C.1 C.2.1 dX1_execute_217 rfl (lv_at hl 1 rfl) ?_
                refine yg_1 C w dX1_execute_218 ?_
                refine lv_iload_n C.1 C.2.1 dX1_execute_221 rfl (lv_at hl 2 rfl) ?_
                refine yl_1 (v := nI (o i)) C w (by omega) (hs.2.2 i (by omega)).1 dX1_execute_222 ?_
                refine n_bipush (v := nI 6) C dX1_execute_223 (by decide) ?_
                refine n_icmp_ne (tgt := 247) C (by omega) (by decide) dX1_execute_225 (by decide) (fun c_225 => ?_) (fun c_225 => ?_)
                · skip
                  refine lv_aload_n C.1 C.2.1 dX1_execute_247 rfl (lv_at hl 1 rfl) ?_
                  refine yg_1 C w dX1_execute_248 ?_
                  refine lv_iload_n C.1 C.2.1 dX1_execute_251 rfl (lv_at hl 2 rfl) ?_
                  refine yl_1 (v := nI (o i)) C w (by omega) (hs.2.2 i (by omega)).1 dX1_execute_252 ?_
                  refine n_bipush (v := nI 7) C dX1_execute_253 (by decide) ?_
                  refine n_icmp_ne (tgt := 276) C (by omega) (by decide) dX1_execute_255 (by decide) (fun c_255 => ?_) (fun c_255 => ?_)
                  · skip
                    refine lv_aload_n C.1 C.2.1 dX1_execute_276 rfl (lv_at hl 1 rfl) ?_
                    refine yg_1 C w dX1_execute_277 ?_
                    refine lv_iload_n C.1 C.2.1 dX1_execute_280 rfl (lv_at hl 2 rfl) ?_
                    refine yl_1 (v := nI (o i)) C w (by omega) (hs.2.2 i (by omega)).1 dX1_execute_281 ?_
                    refine n_bipush (v := nI 8) C dX1_execute_282 (by decide) ?_
                    refine n_icmp_ne (tgt := 305) C (by omega) (by decide) dX1_execute_284 (by decide) (fun c_284 => ?_) (fun c_284 => ?_)
                    · skip
                      exact g_vret C w ⟨by rw [srcR, if_neg (by omega), vaF, if_neg (by omega), if_neg (by omega), if_neg (by omega), if_neg (by omega), comF, if_neg (by omega), if_neg (by omega), if_pos c_105, ← hqv]; rfl, by rw [srcM, if_neg (by omega)]; rfl, fun k h1 h2 => up_n _ _ h1⟩ dX1_execute_305
                    · skip
                      omega
                  · skip
                    omega
                · skip
                  omega
              · skip
                omega
            · skip
              omega
          · skip
            omega
      · skip
        refine lv_aload_n C.1 C.2.1 dX1_execute_84 rfl (lv_at hl 1 rfl) ?_
        refine yg_5 C w dX1_execute_85 ?_
        refine lv_aload_n C.1 C.2.1 dX1_execute_88 rfl (lv_at hl 1 rfl) ?_
        refine yg_2 C w dX1_execute_89 ?_
        refine lv_iload_n C.1 C.2.1 dX1_execute_92 rfl (lv_at hl 2 rfl) ?_
        refine yl_2 (v := nI (d i)) C w (by omega) (hs.2.2 i (by omega)).2.1 dX1_execute_93 ?_
        refine lv_iload_n C.1 C.2.1 dX1_execute_94 rfl (lv_at hl 3 rfl) ?_
        refine lv_iload_n C.1 C.2.1 dX1_execute_95 rfl (lv_at hl 4 rfl) ?_
        refine n_isub (v := S 5 (a i) - qv) C dX1_execute_96 rfl ?_
        refine ys_5 C w (by omega) dX1_execute_97 (fun H locs S10 hS10 w => ?_)
        subst hS10
        refine lv_aload_n C.1 C.2.1 dX1_execute_98 rfl (lv_at hl 1 rfl) ?_
        refine yg_1 C w dX1_execute_99 ?_
        refine lv_iload_n C.1 C.2.1 dX1_execute_102 rfl (lv_at hl 2 rfl) ?_
        refine yl_1 (v := nI (o i)) C w (by omega) (hs.2.2 i (by omega)).1 dX1_execute_103 ?_
        refine n_const (v := nI 2) C dX1_execute_104 (by decide) ?_
        refine n_icmp_ne (tgt := 122) C (by omega) (by decide) dX1_execute_105 (by decide) (fun c_105 => ?_) (fun c_105 => ?_)
        · skip
          refine lv_aload_n C.1 C.2.1 dX1_execute_122 rfl (lv_at hl 1 rfl) ?_
          refine yg_1 C w dX1_execute_123 ?_
          refine lv_iload_n C.1 C.2.1 dX1_execute_126 rfl (lv_at hl 2 rfl) ?_
          refine yl_1 (v := nI (o i)) C w (by omega) (hs.2.2 i (by omega)).1 dX1_execute_127 ?_
          refine n_const (v := nI 3) C dX1_execute_128 (by decide) ?_
          refine n_icmp_ne (tgt := 146) C (by omega) (by decide) dX1_execute_129 (by decide) (fun c_129 => ?_) (fun c_129 => ?_)
          · skip
            refine lv_aload_n C.1 C.2.1 dX1_execute_146 rfl (lv_at hl 1 rfl) ?_
            refine yg_1 C w dX1_execute_147 ?_
            refine lv_iload_n C.1 C.2.1 dX1_execute_150 rfl (lv_at hl 2 rfl) ?_
            refine yl_1 (v := nI (o i)) C w (by omega) (hs.2.2 i (by omega)).1 dX1_execute_151 ?_
            refine n_const (v := nI 4) C dX1_execute_152 (by decide) ?_
            refine n_icmp_ne (tgt := 177) C (by omega) (by decide) dX1_execute_153 (by decide) (fun c_153 => ?_) (fun c_153 => ?_)
            · skip
              refine lv_aload_n C.1 C.2.1 dX1_execute_177 rfl (lv_at hl 1 rfl) ?_
              refine yg_1 C w dX1_execute_178 ?_
              refine lv_iload_n C.1 C.2.1 dX1_execute_181 rfl (lv_at hl 2 rfl) ?_
              refine yl_1 (v := nI (o i)) C w (by omega) (hs.2.2 i (by omega)).1 dX1_execute_182 ?_
              refine n_const (v := nI 5) C dX1_execute_183 (by decide) ?_
              refine n_icmp_ne (tgt := 217) C (by omega) (by decide) dX1_execute_184 (by decide) (fun c_184 => ?_) (fun c_184 => ?_)
              · skip
                refine lv_aload_n C.1 C.2.1 dX1_execute_217 rfl (lv_at hl 1 rfl) ?_
                refine yg_1 C w dX1_execute_218 ?_
                refine lv_iload_n C.1 C.2.1 dX1_execute_221 rfl (lv_at hl 2 rfl) ?_
                refine yl_1 (v := nI (o i)) C w (by omega) (hs.2.2 i (by omega)).1 dX1_execute_222 ?_
                refine n_bipush (v := nI 6) C dX1_execute_223 (by decide) ?_
                refine n_icmp_ne (tgt := 247) C (by omega) (by decide) dX1_execute_225 (by decide) (fun c_225 => ?_) (fun c_225 => ?_)
                · skip
                  refine lv_aload_n C.1 C.2.1 dX1_execute_247 rfl (lv_at hl 1 rfl) ?_
                  refine yg_1 C w dX1_execute_248 ?_
                  refine lv_iload_n C.1 C.2.1 dX1_execute_251 rfl (lv_at hl 2 rfl) ?_
                  refine yl_1 (v := nI (o i)) C w (by omega) (hs.2.2 i (by omega)).1 dX1_execute_252 ?_
                  refine n_bipush (v := nI 7) C dX1_execute_253 (by decide) ?_
                  refine n_icmp_ne (tgt := 276) C (by omega) (by decide) dX1_execute_255 (by decide) (fun c_255 => ?_) (fun c_255 => ?_)
                  · skip
                    refine lv_aload_n C.1 C.2.1 dX1_execute_276 rfl (lv_at hl 1 rfl) ?_
                    refine yg_1 C w dX1_execute_277 ?_
                    refine lv_iload_n C.1 C.2.1 dX1_execute_280 rfl (lv_at hl 2 rfl) ?_
                    refine yl_1 (v := nI (o i)) C w (by omega) (hs.2.2 i (by omega)).1 dX1_execute_281 ?_
                    refine n_bipush (v := nI 8) C dX1_execute_282 (by decide) ?_
                    refine n_icmp_ne (tgt := 305) C (by omega) (by decide) dX1_execute_284 (by decide) (fun c_284 => ?_) (fun c_284 => ?_)
                    · skip
                      exact g_vret C w ⟨by rw [srcR, if_neg (by omega), vaF, if_neg (by omega), if_neg (by omega), if_neg (by omega), if_neg (by omega), comF, if_neg (by omega), if_pos c_81, ← hqv]; rfl, by rw [srcM, if_neg (by omega)]; rfl, fun k h1 h2 => up_n _ _ h1⟩ dX1_execute_305
                    · skip
                      omega
                  · skip
                    omega
                · skip
                  omega
              · skip
                omega
            · skip
              omega
          · skip
            omega
        · skip
          omega
    · skip
      refine lv_aload_n C.1 C.2.1 dX1_execute_60 rfl (lv_at hl 1 rfl) ?_
      refine yg_5 C w dX1_execute_61 ?_
      refine lv_aload_n C.1 C.2.1 dX1_execute_64 rfl (lv_at hl 1 rfl) ?_
      refine yg_2 C w dX1_execute_65 ?_
      refine lv_iload_n C.1 C.2.1 dX1_execute_68 rfl (lv_at hl 2 rfl) ?_
      refine yl_2 (v := nI (d i)) C w (by omega) (hs.2.2 i (by omega)).2.1 dX1_execute_69 ?_
      refine lv_iload_n C.1 C.2.1 dX1_execute_70 rfl (lv_at hl 3 rfl) ?_
      refine lv_iload_n C.1 C.2.1 dX1_execute_71 rfl (lv_at hl 4 rfl) ?_
      refine n_iadd (v := S 5 (a i) + qv) C dX1_execute_72 rfl ?_
      refine ys_5 C w (by omega) dX1_execute_73 (fun H locs S11 hS11 w => ?_)
      subst hS11
      refine lv_aload_n C.1 C.2.1 dX1_execute_74 rfl (lv_at hl 1 rfl) ?_
      refine yg_1 C w dX1_execute_75 ?_
      refine lv_iload_n C.1 C.2.1 dX1_execute_78 rfl (lv_at hl 2 rfl) ?_
      refine yl_1 (v := nI (o i)) C w (by omega) (hs.2.2 i (by omega)).1 dX1_execute_79 ?_
      refine n_const (v := nI 1) C dX1_execute_80 (by decide) ?_
      refine n_icmp_ne (tgt := 98) C (by omega) (by decide) dX1_execute_81 (by decide) (fun c_81 => ?_) (fun c_81 => ?_)
      · skip
        refine lv_aload_n C.1 C.2.1 dX1_execute_98 rfl (lv_at hl 1 rfl) ?_
        refine yg_1 C w dX1_execute_99 ?_
        refine lv_iload_n C.1 C.2.1 dX1_execute_102 rfl (lv_at hl 2 rfl) ?_
        refine yl_1 (v := nI (o i)) C w (by omega) (hs.2.2 i (by omega)).1 dX1_execute_103 ?_
        refine n_const (v := nI 2) C dX1_execute_104 (by decide) ?_
        refine n_icmp_ne (tgt := 122) C (by omega) (by decide) dX1_execute_105 (by decide) (fun c_105 => ?_) (fun c_105 => ?_)
        · skip
          refine lv_aload_n C.1 C.2.1 dX1_execute_122 rfl (lv_at hl 1 rfl) ?_
          refine yg_1 C w dX1_execute_123 ?_
          refine lv_iload_n C.1 C.2.1 dX1_execute_126 rfl (lv_at hl 2 rfl) ?_
          refine yl_1 (v := nI (o i)) C w (by omega) (hs.2.2 i (by omega)).1 dX1_execute_127 ?_
          refine n_const (v := nI 3) C dX1_execute_128 (by decide) ?_
          refine n_icmp_ne (tgt := 146) C (by omega) (by decide) dX1_execute_129 (by decide) (fun c_129 => ?_) (fun c_129 => ?_)
          · skip
            refine lv_aload_n C.1 C.2.1 dX1_execute_146 rfl (lv_at hl 1 rfl) ?_
            refine yg_1 C w dX1_execute_147 ?_
            refine lv_iload_n C.1 C.2.1 dX1_execute_150 rfl (lv_at hl 2 rfl) ?_
            refine yl_1 (v := nI (o i)) C w (by omega) (hs.2.2 i (by omega)).1 dX1_execute_151 ?_
            refine n_const (v := nI 4) C dX1_execute_152 (by decide) ?_
            refine n_icmp_ne (tgt := 177) C (by omega) (by decide) dX1_execute_153 (by decide) (fun c_153 => ?_) (fun c_153 => ?_)
            · skip
              refine lv_aload_n C.1 C.2.1 dX1_execute_177 rfl (lv_at hl 1 rfl) ?_
              refine yg_1 C w dX1_execute_178 ?_
              refine lv_iload_n C.1 C.2.1 dX1_execute_181 rfl (lv_at hl 2 rfl) ?_
              refine yl_1 (v := nI (o i)) C w (by omega) (hs.2.2 i (by omega)).1 dX1_execute_182 ?_
              refine n_const (v := nI 5) C dX1_execute_183 (by decide) ?_
              refine n_icmp_ne (tgt := 217) C (by omega) (by decide) dX1_execute_184 (by decide) (fun c_184 => ?_) (fun c_184 => ?_)
              · skip
                refine lv_aload_n C.1 C.2.1 dX1_execute_217 rfl (lv_at hl 1 rfl) ?_
                refine yg_1 C w dX1_execute_218 ?_
                refine lv_iload_n C.1 C.2.1 dX1_execute_221 rfl (lv_at hl 2 rfl) ?_
                refine yl_1 (v := nI (o i)) C w (by omega) (hs.2.2 i (by omega)).1 dX1_execute_222 ?_
                refine n_bipush (v := nI 6) C dX1_execute_223 (by decide) ?_
                refine n_icmp_ne (tgt := 247) C (by omega) (by decide) dX1_execute_225 (by decide) (fun c_225 => ?_) (fun c_225 => ?_)
                · skip
                  refine lv_aload_n C.1 C.2.1 dX1_execute_247 rfl (lv_at hl 1 rfl) ?_
                  refine yg_1 C w dX1_execute_248 ?_
                  refine lv_iload_n C.1 C.2.1 dX1_execute_251 rfl (lv_at hl 2 rfl) ?_
                  refine yl_1 (v := nI (o i)) C w (by omega) (hs.2.2 i (by omega)).1 dX1_execute_252 ?_
                  refine n_bipush (v := nI 7) C dX1_execute_253 (by decide) ?_
                  refine n_icmp_ne (tgt := 276) C (by omega) (by decide) dX1_execute_255 (by decide) (fun c_255 => ?_) (fun c_255 => ?_)
                  · skip
                    refine lv_aload_n C.1 C.2.1 dX1_execute_276 rfl (lv_at hl 1 rfl) ?_
                    refine yg_1 C w dX1_execute_277 ?_
                    refine lv_iload_n C.1 C.2.1 dX1_execute_280 rfl (lv_at hl 2 rfl) ?_
                    refine yl_1 (v := nI (o i)) C w (by omega) (hs.2.2 i (by omega)).1 dX1_execute_281 ?_
                    refine n_bipush (v := nI 8) C dX1_execute_282 (by decide) ?_
                    refine n_icmp_ne (tgt := 305) C (by omega) (by decide) dX1_execute_284 (by decide) (fun c_284 => ?_) (fun c_284 => ?_)
                    · skip
                      exact g_vret C w ⟨by rw [srcR, if_neg (by omega), vaF, if_neg (by omega), if_neg (by omega), if_neg (by omega), if_neg (by omega), comF, if_pos c_57, ← hqv]; rfl, by rw [srcM, if_neg (by omega)]; rfl, fun k h1 h2 => up_n _ _ h1⟩ dX1_execute_305
                    · skip
                      omega
                  · skip
                    omega
                · skip
                  omega
              · skip
                omega
            · skip
              omega
          · skip
            omega
        · skip
          omega
      · skip
        omega
  · skip
    refine lv_aload_n C.1 C.2.1 dX1_execute_12 rfl (lv_at hl 1 rfl) ?_
    refine yg_1 C w dX1_execute_13 ?_
    refine lv_iload_n C.1 C.2.1 dX1_execute_16 rfl (lv_at hl 2 rfl) ?_
    refine yl_1 (v := nI (o i)) C w (by omega) (hs.2.2 i (by omega)).1 dX1_execute_17 ?_
    refine n_const (v := nI 5) C dX1_execute_18 (by decide) ?_
    refine n_icmp_gt (tgt := 36) C (by omega) (by decide) dX1_execute_19 (by decide) (fun c_19 => ?_) (fun c_19 => ?_)
    · skip
      refine n_const (v := nI 0) C dX1_execute_36 (by decide) ?_
      refine lv_istore_n (lv' := [(3, .int (nI 0)), (2, .int (S 5 (a i))), (0, .ref (Q 0)), (1, .int (nI i))]) C.1 C.2.1 dX1_execute_37 rfl hl (by decide) rfl (fun ls hl => ?_)
      exact J_38 _ _ _ _ ⟨nI 0, (if_neg (Nat.not_le.mpr c_19)).symm, rfl, w, lv_sub hl [2, 3, 1, 0] rfl⟩
    · skip
      refine lv_aload_n C.1 C.2.1 dX1_execute_22 rfl (lv_at hl 1 rfl) ?_
      refine yg_5 C w dX1_execute_23 ?_
      refine lv_aload_n C.1 C.2.1 dX1_execute_26 rfl (lv_at hl 1 rfl) ?_
      refine yg_4 C w dX1_execute_27 ?_
      refine lv_iload_n C.1 C.2.1 dX1_execute_30 rfl (lv_at hl 2 rfl) ?_
      refine yl_4 (v := nI (bn i)) C w (by omega) (hb7 c_19).1 dX1_execute_31 ?_
      have hbb := (hb7 c_19).2
      refine yl_5 (v := S 5 (bn i)) C w (by omega) rfl dX1_execute_32 ?_
      refine lv_goto (tgt := 37) C.1 C.2.1 dX1_execute_33 (by decide) ?_
      refine lv_istore_n (lv' := [(3, .int (S 5 (bn i))), (2, .int (S 5 (a i))), (0, .ref (Q 0)), (1, .int (nI i))]) C.1 C.2.1 dX1_execute_37 rfl hl (by decide) rfl (fun ls hl => ?_)
      exact J_38 _ _ _ _ ⟨S 5 (bn i), (if_pos c_19).symm, rfl, w, lv_sub hl [2, 3, 1, 0] rfl⟩
set_option maxHeartbeats 4000000 in
set_option maxRecDepth 100000 in
theorem met_X1_run (l : Launch) (S : St) (n : Nat) (o d a bn : Nat → Nat) (hs : xSrc S n o d a bn) : gM wM l yX1_run cX1_run 2 (some .int) ({ frames := 1, cells := 0, slots := 0, locals := 24 }) [] S (fun r S1 => r = nI n ∧ S1 5 = (srcN (S 4) o d a bn (S 5) (S 6) n).1 ∧ S1 6 = (srcN (S 4) o d a bn (S 5) (S 6) n).2 ∧ fr8 S S1) := by
  refine g_start (own := RX1) (by decide) rfl (fun b => Nat.le_of_ble_eq_true rfl) ?_
  intro p e s m below meth c D Q T A ls C w hl
  have hl : lv_has ls 2 [(0, .ref (Q 0))] := hl
  have hn := hs.1
  refine n_const (v := nI 0) C dX1_run_0 (by decide) ?_
  refine lv_istore_n (lv' := [(1, .int (nI 0)), (0, .ref (Q 0))]) C.1 C.2.1 dX1_run_1 rfl hl (by decide) rfl (fun ls hl => ?_)
  refine g_loop (pcL := 2) (I := fun nM st ls H locs => ∃ (SL : St) (i : Nat), (nM = n - i) ∧ (i ≤ n) ∧ (fr8 S SL) ∧ (SL 5 = (srcN (S 4) o d a bn (S 5) (S 6) i).1) ∧ (SL 6 = (srcN (S 4) o d a bn (S 5) (S 6) i).2) ∧ (st = []) ∧ (gW wM D Q T A s SL H locs) ∧ (lv_has ls 2 [(0, .ref (Q 0)), (1, .int (nI i))])) ⟨S, 0, rfl, (Nat.zero_le _), (fun _ _ _ => rfl), rfl, rfl, rfl, w, lv_sub hl [1, 0] rfl⟩ (fun n_2 st_2 ls H locs ih_2 hI => ?_)
  obtain ⟨SL, i, hn_2, hi, hfr, h5, h6, rfl, w, hl⟩ := hI
  have hs1 : xSrc SL n o d a bn := hs.cg (fun k hk => hfr k (by omega) (by omega))
  refine lv_iload_n C.1 C.2.1 dX1_run_2 rfl (lv_at hl 1 rfl) ?_
  refine lv_aload_n C.1 C.2.1 dX1_run_3 rfl (lv_at hl 0 rfl) ?_
  refine yg_0 (v := nI n) C w hs1.2.1 dX1_run_4 ?_
  refine n_icmp_ge (tgt := 21) C (by omega) (by omega) dX1_run_7 (by decide) (fun c_7 => ?_) (fun c_7 => ?_)
  · skip
    refine lv_aload_n C.1 C.2.1 dX1_run_21 rfl (lv_at hl 0 rfl) ?_
    refine yg_0 (v := nI n) C w hs1.2.1 dX1_run_22 ?_
    exact g_iret (v := nI n) C w (by have e : i = n := (by omega); subst e; exact ⟨rfl, h5, h6, hfr⟩) dX1_run_25
  · skip
    refine lv_aload_n C.1 C.2.1 dX1_run_10 rfl (lv_at hl 0 rfl) ?_
    refine lv_iload_n C.1 C.2.1 dX1_run_11 rfl (lv_at hl 1 rfl) ?_
    refine g_callv C w (met_X1_execute l _ n o d a bn i hs1 (by omega)) rfl rfl cq_X1_X1_execute cy_X1_execute rfl rfl ⟨Nat.le_of_ble_eq_true rfl, Nat.le_of_ble_eq_true rfl⟩ ⟨Nat.zero_le _, Nat.zero_le _⟩ hl.1 rfl (Nat.le_of_ble_eq_true rfl) dX1_run_12 (fun SX H locs hp w => ?_)
    obtain ⟨g1, g2, g3⟩ := hp
    refine lv_iinc (v := nI (i + 1)) (lv' := [(1, .int (nI (i + 1))), (0, .ref (Q 0))]) C.1 C.2.1 dX1_run_15 hl (k := 1) rfl (nI_add i 1) (by decide) rfl (fun ls hl => ?_)
    refine lv_goto (tgt := 2) C.1 C.2.1 dX1_run_18 (by decide) ?_
    exact ih_2 _ (by omega) _ _ _ _ ⟨SX, (i + 1), rfl, (by omega), (fun k a1 a2 => (g3 k a1 a2).trans (hfr k a1 a2)), (by rw [g1, h5, h6, hfr 4 (by omega) (by omega)]; rfl), (by rw [g2, h5, h6, hfr 4 (by omega) (by omega)]; rfl), rfl, w, lv_sub hl [1, 0] rfl⟩
set_option maxHeartbeats 4000000 in
set_option maxRecDepth 100000 in
theorem met_X1_reads (l : Launch) (S : St) (n : Nat) (o d a bn : Nat → Nat) (j r : Nat) (hs : xSrc S n o d a bn) (hj : j < n) (hr : r ≤ 7) : gM wM l yX1_reads cX1_reads 3 (some .boolean) ({ frames := 0, cells := 0, slots := 0, locals := 0 }) [.int (nI j), .int (nI r)] S (fun q S1 => q = bI (rdB o d a bn j r) ∧ S = S1) := by
  refine g_start (own := RX1) (by decide) rfl (fun b => Nat.le_of_ble_eq_true rfl) ?_
  intro p e s m below meth c D Q T A ls C w hl
  have hl : lv_has ls 3 [(0, .ref (Q 0)), (1, .int (nI j)), (2, .int (nI r))] := hl
  have hn := hs.1
  obtain ⟨h8, h7, ha7, hb7⟩ := hs.B hj
  refine lv_aload_n C.1 C.2.1 dX1_reads_0 rfl (lv_at hl 0 rfl) ?_
  refine yg_3 C w dX1_reads_1 ?_
  refine lv_iload_n C.1 C.2.1 dX1_reads_4 rfl (lv_at hl 1 rfl) ?_
  refine yl_3 (v := nI (a j)) C w (by omega) (hs.2.2 j (by omega)).2.2.1 dX1_reads_5 ?_
  refine lv_iload_n C.1 C.2.1 dX1_reads_6 rfl (lv_at hl 2 rfl) ?_
  refine n_icmp_eq (tgt := 30) C (by omega) (by omega) dX1_reads_7 (by decide) (fun c_7 => ?_) (fun c_7 => ?_)
  · skip
    refine n_const (v := bI true) C dX1_reads_30 (by decide) ?_
    exact g_zret (v := bI true) C w (nz_b _) ⟨by simp [rdB, c_7], rfl⟩ dX1_reads_31
  · skip
    refine lv_aload_n C.1 C.2.1 dX1_reads_10 rfl (lv_at hl 0 rfl) ?_
    refine yg_1 C w dX1_reads_11 ?_
    refine lv_iload_n C.1 C.2.1 dX1_reads_14 rfl (lv_at hl 1 rfl) ?_
    refine yl_1 (v := nI (o j)) C w (by omega) (hs.2.2 j (by omega)).1 dX1_reads_15 ?_
    refine n_const (v := nI 5) C dX1_reads_16 (by decide) ?_
    refine n_icmp_gt (tgt := 32) C (by omega) (by decide) dX1_reads_17 (by decide) (fun c_17 => ?_) (fun c_17 => ?_)
    · skip
      refine lv_aload_n C.1 C.2.1 dX1_reads_32 rfl (lv_at hl 0 rfl) ?_
      refine yg_1 C w dX1_reads_33 ?_
      refine lv_iload_n C.1 C.2.1 dX1_reads_36 rfl (lv_at hl 1 rfl) ?_
      refine yl_1 (v := nI (o j)) C w (by omega) (hs.2.2 j (by omega)).1 dX1_reads_37 ?_
      refine n_const (v := nI 5) C dX1_reads_38 (by decide) ?_
      refine n_icmp_eq (tgt := 53) C (by omega) (by decide) dX1_reads_39 (by decide) (fun c_39 => ?_) (fun c_39 => ?_)
      · skip
        refine lv_aload_n C.1 C.2.1 dX1_reads_53 rfl (lv_at hl 0 rfl) ?_
        refine yg_2 C w dX1_reads_54 ?_
        refine lv_iload_n C.1 C.2.1 dX1_reads_57 rfl (lv_at hl 1 rfl) ?_
        refine yl_2 (v := nI (d j)) C w (by omega) (hs.2.2 j (by omega)).2.1 dX1_reads_58 ?_
        refine lv_iload_n C.1 C.2.1 dX1_reads_59 rfl (lv_at hl 2 rfl) ?_
        refine n_icmp_ne (tgt := 67) C (by omega) (by omega) dX1_reads_60 (by decide) (fun c_60 => ?_) (fun c_60 => ?_)
        · skip
          refine n_const (v := bI false) C dX1_reads_67 (by decide) ?_
          exact g_zret (v := bI false) C w (nz_b _) ⟨by simp [rdB, c_7, Nat.not_le.mpr c_17, c_60], rfl⟩ dX1_reads_68
        · skip
          refine n_const (v := bI true) C dX1_reads_63 (by decide) ?_
          refine lv_goto (tgt := 68) C.1 C.2.1 dX1_reads_64 (by decide) ?_
          exact g_zret (v := bI true) C w (nz_b _) ⟨by simp [rdB, c_39, c_60], rfl⟩ dX1_reads_68
      · skip
        refine lv_aload_n C.1 C.2.1 dX1_reads_42 rfl (lv_at hl 0 rfl) ?_
        refine yg_1 C w dX1_reads_43 ?_
        refine lv_iload_n C.1 C.2.1 dX1_reads_46 rfl (lv_at hl 1 rfl) ?_
        refine yl_1 (v := nI (o j)) C w (by omega) (hs.2.2 j (by omega)).1 dX1_reads_47 ?_
        refine n_bipush (v := nI 8) C dX1_reads_48 (by decide) ?_
        refine n_icmp_ne (tgt := 67) C (by omega) (by decide) dX1_reads_50 (by decide) (fun c_50 => ?_) (fun c_50 => ?_)
        · skip
          refine n_const (v := bI false) C dX1_reads_67 (by decide) ?_
          exact g_zret (v := bI false) C w (nz_b _) ⟨by simp [rdB, c_7, Nat.not_le.mpr c_17, c_39, c_50], rfl⟩ dX1_reads_68
        · skip
          refine lv_aload_n C.1 C.2.1 dX1_reads_53 rfl (lv_at hl 0 rfl) ?_
          refine yg_2 C w dX1_reads_54 ?_
          refine lv_iload_n C.1 C.2.1 dX1_reads_57 rfl (lv_at hl 1 rfl) ?_
          refine yl_2 (v := nI (d j)) C w (by omega) (hs.2.2 j (by omega)).2.1 dX1_reads_58 ?_
          refine lv_iload_n C.1 C.2.1 dX1_reads_59 rfl (lv_at hl 2 rfl) ?_
          refine n_icmp_ne (tgt := 67) C (by omega) (by omega) dX1_reads_60 (by decide) (fun c_60 => ?_) (fun c_60 => ?_)
          · skip
            refine n_const (v := bI false) C dX1_reads_67 (by decide) ?_
            exact g_zret (v := bI false) C w (nz_b _) ⟨by simp [rdB, c_7, Nat.not_le.mpr c_17, c_60], rfl⟩ dX1_reads_68
          · skip
            refine n_const (v := bI true) C dX1_reads_63 (by decide) ?_
            refine lv_goto (tgt := 68) C.1 C.2.1 dX1_reads_64 (by decide) ?_
            exact g_zret (v := bI true) C w (nz_b _) ⟨by simp [rdB, c_50, c_60], rfl⟩ dX1_reads_68
    · skip
      have hbb := hb7 c_17
      refine lv_aload_n C.1 C.2.1 dX1_reads_20 rfl (lv_at hl 0 rfl) ?_
      refine yg_4 C w dX1_reads_21 ?_
      refine lv_iload_n C.1 C.2.1 dX1_reads_24 rfl (lv_at hl 1 rfl) ?_
      refine yl_4 (v := nI (bn j)) C w (by omega) ((hs.2.2 j (by omega)).2.2.2.2.2.2 (by omega)).1 dX1_reads_25 ?_
      refine lv_iload_n C.1 C.2.1 dX1_reads_26 rfl (lv_at hl 2 rfl) ?_
      refine n_icmp_ne (tgt := 32) C (by omega) (by omega) dX1_reads_27 (by decide) (fun c_27 => ?_) (fun c_27 => ?_)
      · skip
        refine lv_aload_n C.1 C.2.1 dX1_reads_32 rfl (lv_at hl 0 rfl) ?_
        refine yg_1 C w dX1_reads_33 ?_
        refine lv_iload_n C.1 C.2.1 dX1_reads_36 rfl (lv_at hl 1 rfl) ?_
        refine yl_1 (v := nI (o j)) C w (by omega) (hs.2.2 j (by omega)).1 dX1_reads_37 ?_
        refine n_const (v := nI 5) C dX1_reads_38 (by decide) ?_
        refine n_icmp_eq (tgt := 53) C (by omega) (by decide) dX1_reads_39 (by decide) (fun c_39 => ?_) (fun c_39 => ?_)
        · skip
          refine lv_aload_n C.1 C.2.1 dX1_reads_53 rfl (lv_at hl 0 rfl) ?_
          refine yg_2 C w dX1_reads_54 ?_
          refine lv_iload_n C.1 C.2.1 dX1_reads_57 rfl (lv_at hl 1 rfl) ?_
          refine yl_2 (v := nI (d j)) C w (by omega) (hs.2.2 j (by omega)).2.1 dX1_reads_58 ?_
          refine lv_iload_n C.1 C.2.1 dX1_reads_59 rfl (lv_at hl 2 rfl) ?_
          refine n_icmp_ne (tgt := 67) C (by omega) (by omega) dX1_reads_60 (by decide) (fun c_60 => ?_) (fun c_60 => ?_)
          · skip
            refine n_const (v := bI false) C dX1_reads_67 (by decide) ?_
            exact g_zret (v := bI false) C w (nz_b _) ⟨by simp [rdB, c_7, c_27, c_60], rfl⟩ dX1_reads_68
          · skip
            refine n_const (v := bI true) C dX1_reads_63 (by decide) ?_
            refine lv_goto (tgt := 68) C.1 C.2.1 dX1_reads_64 (by decide) ?_
            exact g_zret (v := bI true) C w (nz_b _) ⟨by simp [rdB, c_39, c_60], rfl⟩ dX1_reads_68
        · skip
          refine lv_aload_n C.1 C.2.1 dX1_reads_42 rfl (lv_at hl 0 rfl) ?_
          refine yg_1 C w dX1_reads_43 ?_
          refine lv_iload_n C.1 C.2.1 dX1_reads_46 rfl (lv_at hl 1 rfl) ?_
          refine yl_1 (v := nI (o j)) C w (by omega) (hs.2.2 j (by omega)).1 dX1_reads_47 ?_
          refine n_bipush (v := nI 8) C dX1_reads_48 (by decide) ?_
          refine n_icmp_ne (tgt := 67) C (by omega) (by decide) dX1_reads_50 (by decide) (fun c_50 => ?_) (fun c_50 => ?_)
          · skip
            refine n_const (v := bI false) C dX1_reads_67 (by decide) ?_
            exact g_zret (v := bI false) C w (nz_b _) ⟨by simp [rdB, c_7, c_27, c_39, c_50], rfl⟩ dX1_reads_68
          · skip
            refine lv_aload_n C.1 C.2.1 dX1_reads_53 rfl (lv_at hl 0 rfl) ?_
            refine yg_2 C w dX1_reads_54 ?_
            refine lv_iload_n C.1 C.2.1 dX1_reads_57 rfl (lv_at hl 1 rfl) ?_
            refine yl_2 (v := nI (d j)) C w (by omega) (hs.2.2 j (by omega)).2.1 dX1_reads_58 ?_
            refine lv_iload_n C.1 C.2.1 dX1_reads_59 rfl (lv_at hl 2 rfl) ?_
            refine n_icmp_ne (tgt := 67) C (by omega) (by omega) dX1_reads_60 (by decide) (fun c_60 => ?_) (fun c_60 => ?_)
            · skip
              refine n_const (v := bI false) C dX1_reads_67 (by decide) ?_
              exact g_zret (v := bI false) C w (nz_b _) ⟨by simp [rdB, c_7, c_27, c_60], rfl⟩ dX1_reads_68
            · skip
              refine n_const (v := bI true) C dX1_reads_63 (by decide) ?_
              refine lv_goto (tgt := 68) C.1 C.2.1 dX1_reads_64 (by decide) ?_
              exact g_zret (v := bI true) C w (nz_b _) ⟨by simp [rdB, c_50, c_60], rfl⟩ dX1_reads_68
      · skip
        refine n_const (v := bI true) C dX1_reads_30 (by decide) ?_
        exact g_zret (v := bI true) C w (nz_b _) ⟨by simp [rdB, c_17, c_27], rfl⟩ dX1_reads_31
set_option maxHeartbeats 4000000 in
set_option maxRecDepth 100000 in
theorem met_X1_writes (l : Launch) (S : St) (n : Nat) (o d a bn : Nat → Nat) (j r : Nat) (hs : xSrc S n o d a bn) (hj : j < n) (hr : r ≤ 7) : gM wM l yX1_writes cX1_writes 3 (some .boolean) ({ frames := 0, cells := 0, slots := 0, locals := 0 }) [.int (nI j), .int (nI r)] S (fun q S1 => q = bI (wrB o d j r) ∧ S = S1) := by
  refine g_start (own := RX1) (by decide) rfl (fun b => Nat.le_of_ble_eq_true rfl) ?_
  intro p e s m below meth c D Q T A ls C w hl
  have hl : lv_has ls 3 [(0, .ref (Q 0)), (1, .int (nI j)), (2, .int (nI r))] := hl
  have hn := hs.1
  obtain ⟨h8, h7, ha7, hb7⟩ := hs.B hj
  refine lv_aload_n C.1 C.2.1 dX1_writes_0 rfl (lv_at hl 0 rfl) ?_
  refine yg_1 C w dX1_writes_1 ?_
  refine lv_iload_n C.1 C.2.1 dX1_writes_4 rfl (lv_at hl 1 rfl) ?_
  refine yl_1 (v := nI (o j)) C w (by omega) (hs.2.2 j (by omega)).1 dX1_writes_5 ?_
  refine n_bipush (v := nI 8) C dX1_writes_6 (by decide) ?_
  refine n_icmp_eq (tgt := 25) C (by omega) (by decide) dX1_writes_8 (by decide) (fun c_8 => ?_) (fun c_8 => ?_)
  · skip
    refine n_const (v := bI false) C dX1_writes_25 (by decide) ?_
    exact g_zret (v := bI false) C w (nz_b _) ⟨by simp [wrB, c_8], rfl⟩ dX1_writes_26
  · skip
    refine lv_aload_n C.1 C.2.1 dX1_writes_11 rfl (lv_at hl 0 rfl) ?_
    refine yg_2 C w dX1_writes_12 ?_
    refine lv_iload_n C.1 C.2.1 dX1_writes_15 rfl (lv_at hl 1 rfl) ?_
    refine yl_2 (v := nI (d j)) C w (by omega) (hs.2.2 j (by omega)).2.1 dX1_writes_16 ?_
    refine lv_iload_n C.1 C.2.1 dX1_writes_17 rfl (lv_at hl 2 rfl) ?_
    refine n_icmp_ne (tgt := 25) C (by omega) (by omega) dX1_writes_18 (by decide) (fun c_18 => ?_) (fun c_18 => ?_)
    · skip
      refine n_const (v := bI false) C dX1_writes_25 (by decide) ?_
      exact g_zret (v := bI false) C w (nz_b _) ⟨by simp [wrB, c_8, c_18], rfl⟩ dX1_writes_26
    · skip
      refine n_const (v := bI true) C dX1_writes_21 (by decide) ?_
      refine lv_goto (tgt := 26) C.1 C.2.1 dX1_writes_22 (by decide) ?_
      exact g_zret (v := bI true) C w (nz_b _) ⟨by simp [wrB, c_8, c_18], rfl⟩ dX1_writes_26
set_option maxHeartbeats 4000000 in
set_option maxRecDepth 100000 in
theorem met_X1_hangs (l : Launch) (S : St) (n : Nat) (o d a bn : Nat → Nat) (j i : Nat) (hs : xSrc S n o d a bn) (hj : j < n) (hi : i < j) : gM wM l yX1_hangs cX1_hangs 5 (some .boolean) ({ frames := 1, cells := 0, slots := 0, locals := 22 }) [.int (nI j), .int (nI i)] S (fun q S1 => q = bI (hgB o d a bn j i) ∧ S = S1) := by
  refine g_start (own := RX1) (by decide) rfl (fun b => Nat.le_of_ble_eq_true rfl) ?_
  intro p e s m below meth c D Q T A ls C w hl
  have hl : lv_has ls 5 [(0, .ref (Q 0)), (1, .int (nI j)), (2, .int (nI i))] := hl
  have hn := hs.1
  obtain ⟨h8, h7, ha7, hb7⟩ := hs.B (i := i) (by omega)
  refine lv_aload_n C.1 C.2.1 dX1_hangs_0 rfl (lv_at hl 0 rfl) ?_
  refine yg_2 C w dX1_hangs_1 ?_
  refine lv_iload_n C.1 C.2.1 dX1_hangs_4 rfl (lv_at hl 2 rfl) ?_
  refine yl_2 (v := nI (d i)) C w (by omega) (hs.2.2 i (by omega)).2.1 dX1_hangs_5 ?_
  refine lv_istore_n (lv' := [(3, .int (nI (d i))), (0, .ref (Q 0)), (1, .int (nI j)), (2, .int (nI i))]) C.1 C.2.1 dX1_hangs_6 rfl hl (by decide) rfl (fun ls hl => ?_)
  refine lv_aload_n C.1 C.2.1 dX1_hangs_7 rfl (lv_at hl 1 rfl) ?_
  refine lv_iload_n C.1 C.2.1 dX1_hangs_8 rfl (lv_at hl 3 rfl) ?_
  refine lv_iload_n C.1 C.2.1 dX1_hangs_9 rfl (lv_at hl 0 rfl) ?_
  refine g_calli C w (met_X1_writes l _ n o d a bn i (d i) hs (by omega) (by omega)) rfl rfl cq_X1_X1_writes cy_X1_writes rfl rfl ⟨Nat.le_of_ble_eq_true rfl, Nat.le_of_ble_eq_true rfl⟩ ⟨Nat.zero_le _, Nat.zero_le _⟩ hl.1 rfl (Nat.le_of_ble_eq_true rfl) dX1_hangs_10 (fun r_1 S1 H locs hp w => ?_)
  obtain ⟨rfl, rfl⟩ := hp
  refine b_if_eq (tgt := 25) C dX1_hangs_13 (by decide) (fun c_13 => ?_) (fun c_13 => ?_)
  · skip
    refine n_const (v := bI false) C dX1_hangs_25 (by decide) ?_
    exact g_zret (v := bI false) C w (nz_b _) ⟨by rw [hgB, c_13]; rfl, rfl⟩ dX1_hangs_26
  · skip
    refine lv_aload_n C.1 C.2.1 dX1_hangs_16 rfl (lv_at hl 1 rfl) ?_
    refine lv_iload_n C.1 C.2.1 dX1_hangs_17 rfl (lv_at hl 2 rfl) ?_
    refine lv_iload_n C.1 C.2.1 dX1_hangs_18 rfl (lv_at hl 0 rfl) ?_
    refine g_calli C w (met_X1_reads l _ n o d a bn j (d i) hs hj (by omega)) rfl rfl cq_X1_X1_reads cy_X1_reads rfl rfl ⟨Nat.le_of_ble_eq_true rfl, Nat.le_of_ble_eq_true rfl⟩ ⟨Nat.zero_le _, Nat.zero_le _⟩ hl.1 rfl (Nat.le_of_ble_eq_true rfl) dX1_hangs_19 (fun r_2 S2 H locs hp w => ?_)
    obtain ⟨rfl, rfl⟩ := hp
    refine b_if_ne (tgt := 27) C dX1_hangs_22 (by decide) (fun c_22 => ?_) (fun c_22 => ?_)
    · skip
      refine lv_iload_n C.1 C.2.1 dX1_hangs_27 rfl (lv_at hl 3 rfl) ?_
      refine n_const (v := nI 1) C dX1_hangs_28 (by decide) ?_
      refine n_iadd (v := nI (i + 1)) C dX1_hangs_29 (nI_add _ _) ?_
      refine lv_istore (lv' := [(4, .int (nI (i + 1))), (3, .int (nI (d i))), (0, .ref (Q 0)), (1, .int (nI j)), (2, .int (nI i))]) C.1 C.2.1 dX1_hangs_30 hl (by decide) rfl (fun ls hl => ?_)
      refine g_loop (pcL := 32) (I := fun nM st ls H locs => ∃ (k : Nat), (nM = j - k) ∧ (i < k ∧ k ≤ j) ∧ (noW o d i k = true) ∧ (st = []) ∧ (gW wM D Q T A s S H locs) ∧ (lv_has ls 5 [(0, .ref (Q 0)), (1, .int (nI j)), (2, .int (nI i)), (3, .int (nI (d i))), (4, .int (nI k))])) ⟨(i + 1), rfl, ⟨by omega, by omega⟩, noW_1, rfl, w, lv_sub hl [2, 3, 4, 1, 0] rfl⟩ (fun n_32 st_32 ls H locs ih_32 hI => ?_)
      obtain ⟨k, hn_32, hk, hno, rfl, w, hl⟩ := hI
      refine lv_iload C.1 C.2.1 dX1_hangs_32 (lv_at hl 4 rfl) ?_
      refine lv_iload_n C.1 C.2.1 dX1_hangs_34 rfl (lv_at hl 1 rfl) ?_
      refine n_icmp_ge (tgt := 56) C (by omega) (by omega) dX1_hangs_35 (by decide) (fun c_35 => ?_) (fun c_35 => ?_)
      · skip
        refine n_const (v := bI true) C dX1_hangs_56 (by decide) ?_
        exact g_zret (v := bI true) C w (nz_b _) (by have e : k = j := (by omega); subst e; exact ⟨by rw [hgB, c_13, c_22, hno]; rfl, rfl⟩) dX1_hangs_57
      · skip
        refine lv_aload_n C.1 C.2.1 dX1_hangs_38 rfl (lv_at hl 0 rfl) ?_
        refine lv_iload C.1 C.2.1 dX1_hangs_39 (lv_at hl 4 rfl) ?_
        refine lv_iload_n C.1 C.2.1 dX1_hangs_41 rfl (lv_at hl 3 rfl) ?_
        refine g_calli C w (met_X1_writes l _ n o d a bn k (d i) hs (by omega) (by omega)) rfl rfl cq_X1_X1_writes cy_X1_writes rfl rfl ⟨Nat.le_of_ble_eq_true rfl, Nat.le_of_ble_eq_true rfl⟩ ⟨Nat.zero_le _, Nat.zero_le _⟩ hl.1 rfl (Nat.le_of_ble_eq_true rfl) dX1_hangs_42 (fun r_3 S3 H locs hp w => ?_)
        obtain ⟨rfl, rfl⟩ := hp
        refine b_if_eq (tgt := 50) C dX1_hangs_45 (by decide) (fun c_45 => ?_) (fun c_45 => ?_)
        · skip
          refine lv_iinc (v := nI (k + 1)) (lv' := [(4, .int (nI (k + 1))), (0, .ref (Q 0)), (1, .int (nI j)), (2, .int (nI i)), (3, .int (nI (d i)))]) C.1 C.2.1 dX1_hangs_50 hl (k := 4) rfl (nI_add k 1) (by decide) rfl (fun ls hl => ?_)
          refine lv_goto (tgt := 32) C.1 C.2.1 dX1_hangs_53 (by decide) ?_
          exact ih_32 _ (by omega) _ _ _ _ ⟨(k + 1), rfl, ⟨by omega, by omega⟩, (by rw [noW, hno, c_45, Bool.and_false]; rfl), rfl, w, lv_sub hl [1, 2, 3, 4, 0] rfl⟩
        · skip
          refine n_const (v := bI false) C dX1_hangs_48 (by decide) ?_
          exact g_zret (v := bI false) C w (nz_b _) ⟨by have e : noW o d i j = false := (Bool.eq_false_iff.mpr (fun q => by have := noW_iff.mp q k (by omega) (by omega); rw [c_45] at this; cases this)); rw [hgB, e, Bool.and_false], rfl⟩ dX1_hangs_49
    · skip
      refine n_const (v := bI false) C dX1_hangs_25 (by decide) ?_
      exact g_zret (v := bI false) C w (nz_b _) ⟨by rw [hgB, c_22, Bool.and_false]; rfl, rfl⟩ dX1_hangs_26
set_option maxHeartbeats 4000000 in
set_option maxRecDepth 100000 in
theorem met_X1_weighAll (l : Launch) (S : St) (n : Nat) (o d a bn : Nat → Nat) (hs : xSrc S n o d a bn) : gV wM l yX1_weighAll cX1_weighAll 4 ({ frames := 2, cells := 0, slots := 0, locals := 46 }) [] S (fun S1 => fr9 S S1 ∧ ∀ i, i < n → S1 7 i = nI (wts o d a bn n i)) := by
  refine g_startv (own := RX1) (by decide) rfl (fun b => Nat.le_of_ble_eq_true rfl) ?_
  intro p e s m below meth c D Q T A ls C w hl
  have hl : lv_has ls 4 [(0, .ref (Q 0))] := hl
  have hn := hs.1
  refine n_const (v := nI 0) C dX1_weighAll_0 (by decide) ?_
  refine lv_istore_n (lv' := [(1, .int (nI 0)), (0, .ref (Q 0))]) C.1 C.2.1 dX1_weighAll_1 rfl hl (by decide) rfl (fun ls hl => ?_)
  refine g_loop (pcL := 2) (I := fun nM st ls H locs => ∃ (SL : St) (j : Nat), (nM = n - j) ∧ (j ≤ n) ∧ (fr9 S SL) ∧ (∀ i, i < j → SL 7 i = nI (wts o d a bn j i)) ∧ (st = []) ∧ (gW wM D Q T A s SL H locs) ∧ (lv_has ls 4 [(0, .ref (Q 0)), (1, .int (nI j))])) ⟨S, 0, rfl, (Nat.zero_le _), (fun _ _ => rfl), (fun i h => absurd h (Nat.not_lt_zero _)), rfl, w, lv_sub hl [1, 0] rfl⟩ (fun n_2 st_2 ls H locs ih_2 hI => ?_)
  obtain ⟨SL, j, hn_2, hj, hfr, hwt, rfl, w, hl⟩ := hI
  have hs1 : xSrc SL n o d a bn := hs.cg (fun k hk => hfr k (by omega))
  have hwl := wts_le o d a bn j
  refine lv_iload_n C.1 C.2.1 dX1_weighAll_2 rfl (lv_at hl 1 rfl) ?_
  refine lv_aload_n C.1 C.2.1 dX1_weighAll_3 rfl (lv_at hl 0 rfl) ?_
  refine yg_0 (v := nI n) C w hs1.2.1 dX1_weighAll_4 ?_
  refine n_icmp_ge (tgt := 95) C (by omega) (by omega) dX1_weighAll_7 (by decide) (fun c_7 => ?_) (fun c_7 => ?_)
  · skip
    exact g_vret C w (by have e : j = n := (by omega); subst e; exact ⟨hfr, hwt⟩) dX1_weighAll_95
  · skip
    obtain ⟨k8, -⟩ := hs1.B (i := j) (by omega)
    refine n_const (v := nI 0) C dX1_weighAll_10 (by decide) ?_
    refine lv_istore_n (lv' := [(2, .int (nI 0)), (0, .ref (Q 0)), (1, .int (nI j))]) C.1 C.2.1 dX1_weighAll_11 rfl hl (by decide) rfl (fun ls hl => ?_)
    refine n_const (v := nI 0) C dX1_weighAll_12 (by decide) ?_
    refine lv_istore_n (lv' := [(3, .int (nI 0)), (2, .int (nI 0)), (0, .ref (Q 0)), (1, .int (nI j))]) C.1 C.2.1 dX1_weighAll_13 rfl hl (by decide) rfl (fun ls hl => ?_)
    refine g_loop (pcL := 14) (I := fun nM st ls H locs => ∃ (mx : Nat) (i : Nat), (nM = j - i) ∧ (i ≤ j) ∧ (mx = (mxW o d a bn (wts o d a bn j) j i)) ∧ (st = []) ∧ (gW wM D Q T A s SL H locs) ∧ (lv_has ls 4 [(0, .ref (Q 0)), (1, .int (nI j)), (2, .int (nI mx)), (3, .int (nI i))])) ⟨0, 0, rfl, (Nat.zero_le _), rfl, rfl, w, lv_sub hl [2, 3, 1, 0] rfl⟩ (fun n_14 st_14 ls H locs ih_14 hI => ?_)
    obtain ⟨mx, i, hn_14, hi, hmx, rfl, w, hl⟩ := hI
    have hml := mxW_le (o := o) (d := d) (a := a) (bn := bn) hwl i hi
    have hmb : mx ≤ 72 := by omega
    refine lv_iload_n C.1 C.2.1 dX1_weighAll_14 rfl (lv_at hl 3 rfl) ?_
    refine lv_iload_n C.1 C.2.1 dX1_weighAll_15 rfl (lv_at hl 1 rfl) ?_
    refine n_icmp_ge (tgt := 51) C (by omega) (by omega) dX1_weighAll_16 (by decide) (fun c_16 => ?_) (fun c_16 => ?_)
    · skip
      refine lv_aload_n C.1 C.2.1 dX1_weighAll_51 rfl (lv_at hl 0 rfl) ?_
      refine yg_7 C w dX1_weighAll_52 ?_
      refine lv_iload_n C.1 C.2.1 dX1_weighAll_55 rfl (lv_at hl 1 rfl) ?_
      refine lv_iload_n C.1 C.2.1 dX1_weighAll_56 rfl (lv_at hl 2 rfl) ?_
      refine lv_aload_n C.1 C.2.1 dX1_weighAll_57 rfl (lv_at hl 0 rfl) ?_
      refine yg_1 C w dX1_weighAll_58 ?_
      refine lv_iload_n C.1 C.2.1 dX1_weighAll_61 rfl (lv_at hl 1 rfl) ?_
      refine yl_1 (v := nI (o j)) C w (by omega) (hs1.2.2 j (by omega)).1 dX1_weighAll_62 ?_
      refine n_const (v := nI 2) C dX1_weighAll_63 (by decide) ?_
      refine n_icmp_ne (tgt := 71) C (by omega) (by decide) dX1_weighAll_64 (by decide) (fun c_64 => ?_) (fun c_64 => ?_)
      · skip
        refine lv_aload_n C.1 C.2.1 dX1_weighAll_71 rfl (lv_at hl 0 rfl) ?_
        refine yg_1 C w dX1_weighAll_72 ?_
        refine lv_iload_n C.1 C.2.1 dX1_weighAll_75 rfl (lv_at hl 1 rfl) ?_
        refine yl_1 (v := nI (o j)) C w (by omega) (hs1.2.2 j (by omega)).1 dX1_weighAll_76 ?_
        refine n_bipush (v := nI 7) C dX1_weighAll_77 (by decide) ?_
        refine n_icmp_ne (tgt := 86) C (by omega) (by decide) dX1_weighAll_79 (by decide) (fun c_79 => ?_) (fun c_79 => ?_)
        · skip
          refine n_const (v := nI 1) C dX1_weighAll_86 (by decide) ?_
          refine n_iadd (v := nI (mx + tm (o j))) C dX1_weighAll_87 (by rw [show tm (o j) = 1 by rw [tm, if_neg c_64, if_neg c_79]]; exact nI_add _ _) ?_
          refine ys_7 C w (by omega) dX1_weighAll_88 (fun H locs S1 hS1 w => ?_)
          subst hS1
          refine lv_iinc (v := nI (j + 1)) (lv' := [(1, .int (nI (j + 1))), (0, .ref (Q 0)), (2, .int (nI mx)), (3, .int (nI i))]) C.1 C.2.1 dX1_weighAll_89 hl (k := 1) rfl (nI_add j 1) (by decide) rfl (fun ls hl => ?_)
          refine lv_goto (tgt := 2) C.1 C.2.1 dX1_weighAll_92 (by decide) ?_
          exact ih_2 _ (by omega) _ _ _ _ ⟨(up SL 7 (upd (SL 7) j (nI (mx + tm (o j))))), (j + 1), rfl, (by omega), (fun k h1 => (up_n _ _ h1).trans (hfr k h1)), (fun k hk => by show upd (SL 7) j _ k = _; rw [wts]; unfold upd va_up; have ei : i = j := (by omega); subst ei; split; rw [hmx]; exact hwt k (by omega)), rfl, w, lv_sub hl [1, 0] rfl⟩
        · skip
          refine n_const (v := nI 2) C dX1_weighAll_82 (by decide) ?_
          refine lv_goto (tgt := 87) C.1 C.2.1 dX1_weighAll_83 (by decide) ?_
          refine n_iadd (v := nI (mx + tm (o j))) C dX1_weighAll_87 (by rw [show tm (o j) = 2 by rw [tm, if_neg c_64, if_pos c_79]]; exact nI_add _ _) ?_
          refine ys_7 C w (by omega) dX1_weighAll_88 (fun H locs S2 hS2 w => ?_)
          subst hS2
          refine lv_iinc (v := nI (j + 1)) (lv' := [(1, .int (nI (j + 1))), (0, .ref (Q 0)), (2, .int (nI mx)), (3, .int (nI i))]) C.1 C.2.1 dX1_weighAll_89 hl (k := 1) rfl (nI_add j 1) (by decide) rfl (fun ls hl => ?_)
          refine lv_goto (tgt := 2) C.1 C.2.1 dX1_weighAll_92 (by decide) ?_
          exact ih_2 _ (by omega) _ _ _ _ ⟨(up SL 7 (upd (SL 7) j (nI (mx + tm (o j))))), (j + 1), rfl, (by omega), (fun k h1 => (up_n _ _ h1).trans (hfr k h1)), (fun k hk => by show upd (SL 7) j _ k = _; rw [wts]; unfold upd va_up; have ei : i = j := (by omega); subst ei; split; rw [hmx]; exact hwt k (by omega)), rfl, w, lv_sub hl [1, 0] rfl⟩
      · skip
        refine n_const (v := nI 3) C dX1_weighAll_67 (by decide) ?_
        refine lv_goto (tgt := 87) C.1 C.2.1 dX1_weighAll_68 (by decide) ?_
        refine n_iadd (v := nI (mx + tm (o j))) C dX1_weighAll_87 (by rw [show tm (o j) = 3 by rw [tm, if_pos c_64]]; exact nI_add _ _) ?_
        refine ys_7 C w (by omega) dX1_weighAll_88 (fun H locs S3 hS3 w => ?_)
        subst hS3
        refine lv_iinc (v := nI (j + 1)) (lv' := [(1, .int (nI (j + 1))), (0, .ref (Q 0)), (2, .int (nI mx)), (3, .int (nI i))]) C.1 C.2.1 dX1_weighAll_89 hl (k := 1) rfl (nI_add j 1) (by decide) rfl (fun ls hl => ?_)
        refine lv_goto (tgt := 2) C.1 C.2.1 dX1_weighAll_92 (by decide) ?_
        exact ih_2 _ (by omega) _ _ _ _ ⟨(up SL 7 (upd (SL 7) j (nI (mx + tm (o j))))), (j + 1), rfl, (by omega), (fun k h1 => (up_n _ _ h1).trans (hfr k h1)), (fun k hk => by show upd (SL 7) j _ k = _; rw [wts]; unfold upd va_up; have ei : i = j := (by omega); subst ei; split; rw [hmx]; exact hwt k (by omega)), rfl, w, lv_sub hl [1, 0] rfl⟩
    · skip
      have hwi := hwl i c_16
      refine lv_aload_n C.1 C.2.1 dX1_weighAll_19 rfl (lv_at hl 0 rfl) ?_
      refine lv_iload_n C.1 C.2.1 dX1_weighAll_20 rfl (lv_at hl 1 rfl) ?_
      refine lv_iload_n C.1 C.2.1 dX1_weighAll_21 rfl (lv_at hl 3 rfl) ?_
      refine g_calli C w (met_X1_hangs l _ n o d a bn j i hs1 (by omega) (by omega)) rfl rfl cq_X1_X1_hangs cy_X1_hangs rfl rfl ⟨Nat.le_of_ble_eq_true rfl, Nat.le_of_ble_eq_true rfl⟩ ⟨Nat.zero_le _, Nat.zero_le _⟩ hl.1 rfl (Nat.le_of_ble_eq_true rfl) dX1_weighAll_22 (fun r_4 S4 H locs hp w => ?_)
      obtain ⟨rfl, rfl⟩ := hp
      refine b_if_eq (tgt := 45) C dX1_weighAll_25 (by decide) (fun c_25 => ?_) (fun c_25 => ?_)
      · skip
        refine lv_iinc (v := nI (i + 1)) (lv' := [(3, .int (nI (i + 1))), (0, .ref (Q 0)), (1, .int (nI j)), (2, .int (nI mx))]) C.1 C.2.1 dX1_weighAll_45 hl (k := 3) rfl (nI_add i 1) (by decide) rfl (fun ls hl => ?_)
        refine lv_goto (tgt := 14) C.1 C.2.1 dX1_weighAll_48 (by decide) ?_
        exact ih_14 _ (by omega) _ _ _ _ ⟨mx, (i + 1), rfl, (by omega), (by rw [mxW, if_neg (fun q => by rw [q.1] at c_25; cases c_25)]; exact hmx), rfl, w, lv_sub hl [1, 2, 3, 0] rfl⟩
      · skip
        refine lv_aload_n C.1 C.2.1 dX1_weighAll_28 rfl (lv_at hl 0 rfl) ?_
        refine yg_7 C w dX1_weighAll_29 ?_
        refine lv_iload_n C.1 C.2.1 dX1_weighAll_32 rfl (lv_at hl 3 rfl) ?_
        refine yl_7 (v := nI (wts o d a bn j i)) C w (by omega) (hwt i (by omega)) dX1_weighAll_33 ?_
        refine lv_iload_n C.1 C.2.1 dX1_weighAll_34 rfl (lv_at hl 2 rfl) ?_
        refine n_icmp_le (tgt := 45) C (by omega) (by omega) dX1_weighAll_35 (by decide) (fun c_35 => ?_) (fun c_35 => ?_)
        · skip
          refine lv_iinc (v := nI (i + 1)) (lv' := [(3, .int (nI (i + 1))), (0, .ref (Q 0)), (1, .int (nI j)), (2, .int (nI mx))]) C.1 C.2.1 dX1_weighAll_45 hl (k := 3) rfl (nI_add i 1) (by decide) rfl (fun ls hl => ?_)
          refine lv_goto (tgt := 14) C.1 C.2.1 dX1_weighAll_48 (by decide) ?_
          exact ih_14 _ (by omega) _ _ _ _ ⟨mx, (i + 1), rfl, (by omega), (by rw [mxW, if_neg (fun q => absurd q.2 (Nat.not_lt.mpr (by rw [hmx] at c_35; exact c_35)))]; exact hmx), rfl, w, lv_sub hl [1, 2, 3, 0] rfl⟩
        · skip
          refine lv_aload_n C.1 C.2.1 dX1_weighAll_38 rfl (lv_at hl 0 rfl) ?_
          refine yg_7 C w dX1_weighAll_39 ?_
          refine lv_iload_n C.1 C.2.1 dX1_weighAll_42 rfl (lv_at hl 3 rfl) ?_
          refine yl_7 (v := nI (wts o d a bn j i)) C w (by omega) (hwt i (by omega)) dX1_weighAll_43 ?_
          refine lv_istore_n (lv' := [(2, .int (nI (wts o d a bn j i))), (0, .ref (Q 0)), (1, .int (nI j)), (3, .int (nI i))]) C.1 C.2.1 dX1_weighAll_44 rfl hl (by decide) rfl (fun ls hl => ?_)
          refine lv_iinc (v := nI (i + 1)) (lv' := [(3, .int (nI (i + 1))), (2, .int (nI (wts o d a bn j i))), (0, .ref (Q 0)), (1, .int (nI j))]) C.1 C.2.1 dX1_weighAll_45 hl (k := 3) rfl (nI_add i 1) (by decide) rfl (fun ls hl => ?_)
          refine lv_goto (tgt := 14) C.1 C.2.1 dX1_weighAll_48 (by decide) ?_
          exact ih_14 _ (by omega) _ _ _ _ ⟨((wts o d a bn j) i), (i + 1), rfl, (by omega), (by rw [mxW, if_pos ⟨c_25, (by rw [hmx] at c_35; exact c_35)⟩]), rfl, w, lv_sub hl [2, 3, 1, 0] rfl⟩
set_option maxHeartbeats 4000000 in
set_option maxRecDepth 100000 in
theorem met_X1_weight (l : Launch) (S : St) (n : Nat) (o d a bn : Nat → Nat) (x : Int32) (hs : xSrc S n o d a bn) : gM wM l yX1_weight cX1_weight 2 (some .int) ({ frames := 3, cells := 0, slots := 0, locals := 69 }) [.int (x)] S (fun r S1 => (x < 0 ∨ nI n ≤ x → r = -1 ∧ S = S1) ∧ (∀ i, i < n → x = nI i → r = nI (wts o d a bn n i) ∧ fr9 S S1)) := by
  refine g_start (own := RX1) (by decide) rfl (fun b => Nat.le_of_ble_eq_true rfl) ?_
  intro p e s m below meth c D Q T A ls C w hl
  have hl : lv_has ls 2 [(0, .ref (Q 0)), (1, .int (x))] := hl
  have hn := hs.1
  refine lv_iload_n C.1 C.2.1 dX1_weight_0 rfl (lv_at hl 1 rfl) ?_
  refine r_if_lt (tgt := 12) C dX1_weight_1 (by decide) (fun c_1 => ?_) (fun c_1 => ?_)
  · skip
    refine n_const (v := (-1)) C dX1_weight_12 (by decide) ?_
    exact g_iret (v := (-1)) C w ⟨fun _ => ⟨rfl, rfl⟩, fun k hk e => by subst e; exact absurd c_1 (nI_pos (by omega))⟩ dX1_weight_13
  · skip
    refine lv_iload_n C.1 C.2.1 dX1_weight_4 rfl (lv_at hl 1 rfl) ?_
    refine lv_aload_n C.1 C.2.1 dX1_weight_5 rfl (lv_at hl 0 rfl) ?_
    refine yg_0 (v := nI n) C w hs.2.1 dX1_weight_6 ?_
    refine r_icmp_lt (tgt := 14) C dX1_weight_9 (by decide) (fun c_9 => ?_) (fun c_9 => ?_)
    · skip
      obtain ⟨i, hi, rfl⟩ : ∃ i, i < n ∧ x = nI i := by
        obtain ⟨j, hj, rfl⟩ := nI_of c_1
        exact ⟨j, (nI_ltI hj (by omega)).mp c_9, rfl⟩
      refine lv_aload_n C.1 C.2.1 dX1_weight_14 rfl (lv_at hl 0 rfl) ?_
      refine g_callv C w (met_X1_weighAll l _ n o d a bn hs) rfl rfl cq_X1_X1_weighAll cy_X1_weighAll rfl rfl ⟨Nat.le_of_ble_eq_true rfl, Nat.le_of_ble_eq_true rfl⟩ ⟨Nat.zero_le _, Nat.zero_le _⟩ hl.1 rfl (Nat.le_of_ble_eq_true rfl) dX1_weight_15 (fun SW H locs hp w => ?_)
      obtain ⟨hfr, hwt⟩ := hp
      refine lv_aload_n C.1 C.2.1 dX1_weight_18 rfl (lv_at hl 0 rfl) ?_
      refine yg_7 C w dX1_weight_19 ?_
      refine lv_iload_n C.1 C.2.1 dX1_weight_22 rfl (lv_at hl 1 rfl) ?_
      refine yl_7 (v := nI (wts o d a bn n i)) C w (by omega) (hwt i hi) dX1_weight_23 ?_
      exact g_iret (v := nI (wts o d a bn n i)) C w ⟨fun q => absurd q (fun q => q.elim c_1 (fun q => absurd ((nI_leI (by omega) (by omega)).mp q) (by omega))), fun k hk e => by have := (nI_eq (show i < 2 ^ 31 by omega) (show k < 2 ^ 31 by omega)).mp e; subst this; exact ⟨rfl, hfr⟩⟩ dX1_weight_24
    · skip
      refine n_const (v := (-1)) C dX1_weight_12 (by decide) ?_
      exact g_iret (v := (-1)) C w ⟨fun _ => ⟨rfl, rfl⟩, fun k hk e => by subst e; exact absurd (nI_lt hk (by omega)) c_9⟩ dX1_weight_13
set_option maxHeartbeats 4000000 in
set_option maxRecDepth 100000 in
theorem met_X1_heaviest (l : Launch) (S : St) (n : Nat) (o d a bn : Nat → Nat) (hs : xSrc S n o d a bn) : gM wM l yX1_heaviest cX1_heaviest 3 (some .int) ({ frames := 3, cells := 0, slots := 0, locals := 69 }) [] S (fun r S1 => r = nI (hvF (wts o d a bn n) n) ∧ fr9 S S1) := by
  refine g_start (own := RX1) (by decide) rfl (fun b => Nat.le_of_ble_eq_true rfl) ?_
  intro p e s m below meth c D Q T A ls C w hl
  have hl : lv_has ls 3 [(0, .ref (Q 0))] := hl
  have hn := hs.1
  have hwl := wts_le o d a bn n
  refine lv_aload_n C.1 C.2.1 dX1_heaviest_0 rfl (lv_at hl 0 rfl) ?_
  refine g_callv C w (met_X1_weighAll l _ n o d a bn hs) rfl rfl cq_X1_X1_weighAll cy_X1_weighAll rfl rfl ⟨Nat.le_of_ble_eq_true rfl, Nat.le_of_ble_eq_true rfl⟩ ⟨Nat.zero_le _, Nat.zero_le _⟩ hl.1 rfl (Nat.le_of_ble_eq_true rfl) dX1_heaviest_1 (fun SW H locs hp w => ?_)
  obtain ⟨hfr, hwt⟩ := hp
  refine n_const (v := nI 0) C dX1_heaviest_4 (by decide) ?_
  refine lv_istore_n (lv' := [(1, .int (nI 0)), (0, .ref (Q 0))]) C.1 C.2.1 dX1_heaviest_5 rfl hl (by decide) rfl (fun ls hl => ?_)
  refine n_const (v := nI 0) C dX1_heaviest_6 (by decide) ?_
  refine lv_istore_n (lv' := [(2, .int (nI 0)), (1, .int (nI 0)), (0, .ref (Q 0))]) C.1 C.2.1 dX1_heaviest_7 rfl hl (by decide) rfl (fun ls hl => ?_)
  refine g_loop (pcL := 8) (I := fun nM st ls H locs => ∃ (mx : Nat) (i : Nat), (nM = n - i) ∧ (i ≤ n) ∧ (mx = hvF (wts o d a bn n) i) ∧ (st = []) ∧ (gW wM D Q T A s SW H locs) ∧ (lv_has ls 3 [(0, .ref (Q 0)), (1, .int (nI mx)), (2, .int (nI i))])) ⟨0, 0, rfl, (Nat.zero_le _), rfl, rfl, w, lv_sub hl [2, 1, 0] rfl⟩ (fun n_8 st_8 ls H locs ih_8 hI => ?_)
  obtain ⟨mx, i, hn_8, hi, hmx, rfl, w, hl⟩ := hI
  have hmb : mx ≤ 72 := by have := hvF_le (f := wts o d a bn n) (B := 3 * n) (n := i) (fun k hk => hwl k (by omega)); omega
  refine lv_iload_n C.1 C.2.1 dX1_heaviest_8 rfl (lv_at hl 2 rfl) ?_
  refine lv_aload_n C.1 C.2.1 dX1_heaviest_9 rfl (lv_at hl 0 rfl) ?_
  refine yg_0 (v := nI n) C w ((congrFun (hfr 0 (by omega)) 0).trans hs.2.1) dX1_heaviest_10 ?_
  refine n_icmp_ge (tgt := 39) C (by omega) (by omega) dX1_heaviest_13 (by decide) (fun c_13 => ?_) (fun c_13 => ?_)
  · skip
    refine lv_iload_n C.1 C.2.1 dX1_heaviest_39 rfl (lv_at hl 1 rfl) ?_
    exact g_iret (v := nI mx) C w (by have e : i = n := (by omega); subst e; exact ⟨by rw [hmx], hfr⟩) dX1_heaviest_40
  · skip
    have hwi := hwl i (by omega)
    refine lv_aload_n C.1 C.2.1 dX1_heaviest_16 rfl (lv_at hl 0 rfl) ?_
    refine yg_7 C w dX1_heaviest_17 ?_
    refine lv_iload_n C.1 C.2.1 dX1_heaviest_20 rfl (lv_at hl 2 rfl) ?_
    refine yl_7 (v := nI (wts o d a bn n i)) C w (by omega) (hwt i (by omega)) dX1_heaviest_21 ?_
    refine lv_iload_n C.1 C.2.1 dX1_heaviest_22 rfl (lv_at hl 1 rfl) ?_
    refine n_icmp_le (tgt := 33) C (by omega) (by omega) dX1_heaviest_23 (by decide) (fun c_23 => ?_) (fun c_23 => ?_)
    · skip
      refine lv_iinc (v := nI (i + 1)) (lv' := [(2, .int (nI (i + 1))), (0, .ref (Q 0)), (1, .int (nI mx))]) C.1 C.2.1 dX1_heaviest_33 hl (k := 2) rfl (nI_add i 1) (by decide) rfl (fun ls hl => ?_)
      refine lv_goto (tgt := 8) C.1 C.2.1 dX1_heaviest_36 (by decide) ?_
      exact ih_8 _ (by omega) _ _ _ _ ⟨mx, (i + 1), rfl, (by omega), (by rw [hvF, if_neg (Nat.not_lt.mpr (by rw [← hmx]; exact c_23))]; exact hmx), rfl, w, lv_sub hl [1, 2, 0] rfl⟩
    · skip
      refine lv_aload_n C.1 C.2.1 dX1_heaviest_26 rfl (lv_at hl 0 rfl) ?_
      refine yg_7 C w dX1_heaviest_27 ?_
      refine lv_iload_n C.1 C.2.1 dX1_heaviest_30 rfl (lv_at hl 2 rfl) ?_
      refine yl_7 (v := nI (wts o d a bn n i)) C w (by omega) (hwt i (by omega)) dX1_heaviest_31 ?_
      refine lv_istore_n (lv' := [(1, .int (nI (wts o d a bn n i))), (0, .ref (Q 0)), (2, .int (nI i))]) C.1 C.2.1 dX1_heaviest_32 rfl hl (by decide) rfl (fun ls hl => ?_)
      refine lv_iinc (v := nI (i + 1)) (lv' := [(2, .int (nI (i + 1))), (1, .int (nI (wts o d a bn n i))), (0, .ref (Q 0))]) C.1 C.2.1 dX1_heaviest_33 hl (k := 2) rfl (nI_add i 1) (by decide) rfl (fun ls hl => ?_)
      refine lv_goto (tgt := 8) C.1 C.2.1 dX1_heaviest_36 (by decide) ?_
      exact ih_8 _ (by omega) _ _ _ _ ⟨(wts o d a bn n i), (i + 1), rfl, (by omega), (by rw [hvF, if_pos (by rw [← hmx]; exact c_23)]), rfl, w, lv_sub hl [2, 1, 0] rfl⟩
set_option maxHeartbeats 4000000 in
set_option maxRecDepth 100000 in
theorem met_X1_links (l : Launch) (S : St) (n : Nat) (o d a bn : Nat → Nat) (hs : xSrc S n o d a bn) : gM wM l yX1_links cX1_links 4 (some .int) ({ frames := 2, cells := 0, slots := 0, locals := 46 }) [] S (fun r S1 => r = nI (lkF o d a bn n) ∧ S = S1) := by
  refine g_start (own := RX1) (by decide) rfl (fun b => Nat.le_of_ble_eq_true rfl) ?_
  intro p e s m below meth c D Q T A ls C w hl
  have hl : lv_has ls 4 [(0, .ref (Q 0))] := hl
  have hn := hs.1
  refine n_const (v := nI 0) C dX1_links_0 (by decide) ?_
  refine lv_istore_n (lv' := [(1, .int (nI 0)), (0, .ref (Q 0))]) C.1 C.2.1 dX1_links_1 rfl hl (by decide) rfl (fun ls hl => ?_)
  refine n_const (v := nI 0) C dX1_links_2 (by decide) ?_
  refine lv_istore_n (lv' := [(2, .int (nI 0)), (1, .int (nI 0)), (0, .ref (Q 0))]) C.1 C.2.1 dX1_links_3 rfl hl (by decide) rfl (fun ls hl => ?_)
  refine g_loop (pcL := 4) (I := fun nM st ls H locs => ∃ (tt : Nat) (j : Nat), (nM = n - j) ∧ (j ≤ n) ∧ (tt = lkF o d a bn j) ∧ (st = []) ∧ (gW wM D Q T A s S H locs) ∧ (lv_has ls 4 [(0, .ref (Q 0)), (1, .int (nI tt)), (2, .int (nI j))])) ⟨0, 0, rfl, (Nat.zero_le _), rfl, rfl, w, lv_sub hl [2, 1, 0] rfl⟩ (fun n_4 st_4 ls H locs ih_4 hI => ?_)
  obtain ⟨tt, j, hn_4, hj, htt, rfl, w, hl⟩ := hI
  refine lv_iload_n C.1 C.2.1 dX1_links_4 rfl (lv_at hl 2 rfl) ?_
  refine lv_aload_n C.1 C.2.1 dX1_links_5 rfl (lv_at hl 0 rfl) ?_
  refine yg_0 (v := nI n) C w hs.2.1 dX1_links_6 ?_
  refine n_icmp_ge (tgt := 43) C (by omega) (by omega) dX1_links_9 (by decide) (fun c_9 => ?_) (fun c_9 => ?_)
  · skip
    refine lv_iload_n C.1 C.2.1 dX1_links_43 rfl (lv_at hl 1 rfl) ?_
    exact g_iret (v := nI tt) C w (by have e : j = n := (by omega); subst e; exact ⟨by rw [htt], rfl⟩) dX1_links_44
  · skip
    refine n_const (v := nI 0) C dX1_links_12 (by decide) ?_
    refine lv_istore_n (lv' := [(3, .int (nI 0)), (0, .ref (Q 0)), (1, .int (nI tt)), (2, .int (nI j))]) C.1 C.2.1 dX1_links_13 rfl hl (by decide) rfl (fun ls hl => ?_)
    refine g_loop (pcL := 14) (I := fun nM st ls H locs => ∃ (tj : Nat) (i : Nat), (nM = j - i) ∧ (i ≤ j) ∧ (tj = (lkF o d a bn j + lkI o d a bn j i)) ∧ (st = []) ∧ (gW wM D Q T A s S H locs) ∧ (lv_has ls 4 [(0, .ref (Q 0)), (1, .int (nI tj)), (2, .int (nI j)), (3, .int (nI i))])) ⟨tt, 0, rfl, (Nat.zero_le _), htt, rfl, w, lv_sub hl [1, 2, 3, 0] rfl⟩ (fun n_14 st_14 ls H locs ih_14 hI => ?_)
    obtain ⟨tj, i, hn_14, hi, htj, rfl, w, hl⟩ := hI
    refine lv_iload_n C.1 C.2.1 dX1_links_14 rfl (lv_at hl 3 rfl) ?_
    refine lv_iload_n C.1 C.2.1 dX1_links_15 rfl (lv_at hl 2 rfl) ?_
    refine n_icmp_ge (tgt := 37) C (by omega) (by omega) dX1_links_16 (by decide) (fun c_16 => ?_) (fun c_16 => ?_)
    · skip
      refine lv_iinc (v := nI (j + 1)) (lv' := [(2, .int (nI (j + 1))), (0, .ref (Q 0)), (1, .int (nI tj)), (3, .int (nI i))]) C.1 C.2.1 dX1_links_37 hl (k := 2) rfl (nI_add j 1) (by decide) rfl (fun ls hl => ?_)
      refine lv_goto (tgt := 4) C.1 C.2.1 dX1_links_40 (by decide) ?_
      exact ih_4 _ (by omega) _ _ _ _ ⟨tj, (j + 1), rfl, (by omega), (by have e : i = j := (by omega); subst e; rw [htj]; rfl), rfl, w, lv_sub hl [1, 2, 0] rfl⟩
    · skip
      refine lv_aload_n C.1 C.2.1 dX1_links_19 rfl (lv_at hl 0 rfl) ?_
      refine lv_iload_n C.1 C.2.1 dX1_links_20 rfl (lv_at hl 2 rfl) ?_
      refine lv_iload_n C.1 C.2.1 dX1_links_21 rfl (lv_at hl 3 rfl) ?_
      refine g_calli C w (met_X1_hangs l _ n o d a bn j i hs (by omega) (by omega)) rfl rfl cq_X1_X1_hangs cy_X1_hangs rfl rfl ⟨Nat.le_of_ble_eq_true rfl, Nat.le_of_ble_eq_true rfl⟩ ⟨Nat.zero_le _, Nat.zero_le _⟩ hl.1 rfl (Nat.le_of_ble_eq_true rfl) dX1_links_22 (fun r_1 S1 H locs hp w => ?_)
      obtain ⟨rfl, rfl⟩ := hp
      refine b_if_eq (tgt := 31) C dX1_links_25 (by decide) (fun c_25 => ?_) (fun c_25 => ?_)
      · skip
        refine lv_iinc (v := nI (i + 1)) (lv' := [(3, .int (nI (i + 1))), (0, .ref (Q 0)), (1, .int (nI tj)), (2, .int (nI j))]) C.1 C.2.1 dX1_links_31 hl (k := 3) rfl (nI_add i 1) (by decide) rfl (fun ls hl => ?_)
        refine lv_goto (tgt := 14) C.1 C.2.1 dX1_links_34 (by decide) ?_
        exact ih_14 _ (by omega) _ _ _ _ ⟨tj, (i + 1), rfl, (by omega), (by rw [lkI, htj, c_25]; rfl), rfl, w, lv_sub hl [1, 2, 3, 0] rfl⟩
      · skip
        refine lv_iinc (v := nI (tj + 1)) (lv' := [(1, .int (nI (tj + 1))), (0, .ref (Q 0)), (2, .int (nI j)), (3, .int (nI i))]) C.1 C.2.1 dX1_links_28 hl (k := 1) rfl (nI_add tj 1) (by decide) rfl (fun ls hl => ?_)
        refine lv_iinc (v := nI (i + 1)) (lv' := [(3, .int (nI (i + 1))), (1, .int (nI (tj + 1))), (0, .ref (Q 0)), (2, .int (nI j))]) C.1 C.2.1 dX1_links_31 hl (k := 3) rfl (nI_add i 1) (by decide) rfl (fun ls hl => ?_)
        refine lv_goto (tgt := 14) C.1 C.2.1 dX1_links_34 (by decide) ?_
        exact ih_14 _ (by omega) _ _ _ _ ⟨(tj + 1), (i + 1), rfl, (by omega), (by rw [lkI, htj, c_25]; rfl), rfl, w, lv_sub hl [2, 1, 3, 0] rfl⟩
end
section
/-! the code's words, bundle by bundle -/
theorem pu_s (f : Nat → Int32) (k : Nat) (x : Int32) : upd f k x k = x := by simp [upd]
theorem pu_n (f : Nat → Int32) {k j : Nat} (x : Int32) (h : j ≠ k) : upd f k x j = f j := by simp [upd, h]
theorem isF_cg {R M R1 M1 B : Nat → Int32} {w now : Nat} (h1 : R (w / 256 % 16) = R1 (w / 256 % 16)) (h2 : R (w / 4096 % 16) = R1 (w / 4096 % 16)) (h3 : w % 16 = 5 ∨ w % 16 = 8 → R (w / 16 % 16) = R1 (w / 16 % 16)) (h4 : w % 16 = 7 → ∀ m, M m = M1 m) : isF R M B w now = isF R1 M1 B w now := by
  unfold isF
  by_cases e : w % 16 = 8
  · rw [if_pos e, if_pos e, h1, h3 (Or.inr e)]
  · rw [if_neg e, if_neg e, h1, h2]
    have : vaF R M (w % 16) (w / 16 % 16) (R1 (w / 256 % 16)) (R1 (w / 4096 % 16)) (B (w / 65536 % 32)) = vaF R1 M1 (w % 16) (w / 16 % 16) (R1 (w / 256 % 16)) (R1 (w / 4096 % 16)) (B (w / 65536 % 32)) := by
      unfold vaF
      by_cases e7 : w % 16 = 7
      · rw [if_pos e7, if_pos e7, h4 e7]
      · rw [if_neg e7, if_neg e7]
        by_cases e5 : w % 16 = 5
        · rw [if_pos e5, if_pos e5, h3 (Or.inl e5)]
        · rw [if_neg e5, if_neg e5]
    rw [this]
theorem isF_stop (R M B : Nat → Int32) (w now : Nat) : isF R M B (w + 2147483648) now = isF R M B w now := by
  unfold isF
  rw [show (w + 2147483648) % 16 = w % 16 by omega, show (w + 2147483648) / 16 % 16 = w / 16 % 16 by omega, show (w + 2147483648) / 256 % 16 = w / 256 % 16 by omega, show (w + 2147483648) / 4096 % 16 = w / 4096 % 16 by omega, show (w + 2147483648) / 65536 % 32 = w / 65536 % 32 by omega]
theorem isF_lands (R M B : Nat → Int32) (w now : Nat) : (isF R M B w now).2.2 = now + tm (w % 16) := by
  unfold isF
  by_cases e : w % 16 = 8
  · rw [if_pos e, e]
    rfl
  · rw [if_neg e]
theorem isF_t (R M B : Nat → Int32) {w : Nat} (now : Nat) (h : w % 16 ≠ 8) : (isF R M B w now).1 = w / 16 % 16 := by
  unfold isF
  rw [if_neg h]
theorem isF_m (R M B : Nat → Int32) {w : Nat} (now : Nat) (h : w % 16 = 8) : 16 ≤ (isF R M B w now).1 := by
  unfold isF
  rw [if_pos h]
  exact Nat.le_add_right _ _
theorem isF_nw (R M B : Nat → Int32) (w a b : Nat) : (isF R M B w a).1 = (isF R M B w b).1 ∧ (isF R M B w a).2.1 = (isF R M B w b).2.1 := by
  unfold isF
  by_cases h : w % 16 = 8
  · rw [if_pos h, if_pos h]
    exact ⟨rfl, rfl⟩
  · rw [if_neg h, if_neg h]
    exact ⟨rfl, rfl⟩
/-- a word of an operation, without its stop bit -/
def gdW (w : Nat) : Prop := w < 2147483648 ∧ w / 1073741824 % 2 = 1 ∧ w / 65536 % 32 ≤ 23
section RW
variable {B R M : Nat → Int32} {fl : List Fl} {x w : Nat}
theorem stp_f (h : gdW w) : stpW B (R, M, fl, x, false) w = (R, M, fl ++ [isF R M B w x], x, false) := by
  have h1 : ¬ w / 1073741824 % 2 = 0 := by rw [h.2.1]; decide
  have e1 : issF B w (R, M, fl, x, false) = (R, M, fl ++ [isF R M B w x], x, false) := by
    unfold issF
    rw [if_neg h1]
  show nowF w (issF B w (R, M, fl, x, false)) = _
  rw [e1]
  unfold nowF
  rw [if_pos h.1, decide_eq_false (fun q => q h.1)]
theorem stp_l (h : gdW w) : stpW B (R, M, fl, x, false) (w + 2147483648) = (R, M, fl ++ [isF R M B w x], x + 1, true) := by
  have h1 : ¬ (w + 2147483648) / 1073741824 % 2 = 0 := by have := h.2.1; omega
  have h2 : ¬ w + 2147483648 < 2147483648 := by omega
  have e1 : issF B (w + 2147483648) (R, M, fl, x, false) = (R, M, fl ++ [isF R M B w x], x, false) := by
    unfold issF
    rw [if_neg h1, isF_stop]
  show nowF (w + 2147483648) (issF B (w + 2147483648) (R, M, fl, x, false)) = _
  rw [e1]
  unfold nowF
  rw [if_neg h2, decide_eq_true h2]
theorem run_f : ∀ (l : List Nat) (fl : List Fl), (∀ w ∈ l, gdW w) → runW B l (R, M, fl, x, false) = (R, M, fl ++ l.map (fun w => isF R M B w x), x, false)
  | [], fl, _ => by simp [runW]
  | w :: l, fl, h => by
    show runW B l (stpW B (R, M, fl, x, false) w) = _
    rw [stp_f (h w List.mem_cons_self), run_f l _ (fun v hv => h v (List.mem_cons_of_mem _ hv))]
    simp
theorem runW_app (a b : List Nat) (σ : Ms) : runW B (a ++ b) σ = runW B b (runW B a σ) := List.foldl_append
theorem snoc_stp (l : List Nat) (w : Nat) : stp (l ++ [w]) = l ++ [w + 2147483648] := by
  rw [stp_ne (by simp)]
  have e : (l ++ [w]).length - 1 = l.length := by simp
  rw [e, getD_snoc, if_neg (Nat.lt_irrefl _), if_pos rfl, List.set_append_right _ _ (Nat.le_refl _)]
  simp
def lnd0 (R M : Nat → Int32) (fl : List Fl) (x : Nat) : Ms := (fl.foldl (lstR x) R, fl.foldl (lstC x) M, kpF x fl, x, false)
theorem stp_t (w : Nat) : stpW B (R, M, fl, x, true) w = stpW B (lnd0 R M fl x) w := by
  have e1 : lndF (R, M, fl, x, true) = (fl.foldl (lstR x) R, fl.foldl (lstC x) M, kpF x fl, x, true) := rfl
  have e2 : lndF (lnd0 R M fl x) = (fl.foldl (lstR x) R, fl.foldl (lstC x) M, kpF x fl, x, false) := rfl
  unfold stpW
  rw [e1, e2]
  unfold issF
  by_cases h : w / 1073741824 % 2 = 0
  · rw [if_pos h, if_pos h]
    rfl
  · rw [if_neg h, if_neg h]
    rfl
theorem hd_snoc (l : List Nat) (v : Nat) : ∃ u l2, l ++ [v] = u :: l2 := by
  cases l with
  | nil => exact ⟨v, [], rfl⟩
  | cons u l => exact ⟨u, l ++ [v], rfl⟩
theorem run_t (l : List Nat) (v : Nat) : runW B (l ++ [v]) (R, M, fl, x, true) = runW B (l ++ [v]) (lnd0 R M fl x) := by
  obtain ⟨u, l2, e⟩ := hd_snoc l v
  rw [e]
  show runW B l2 (stpW B (R, M, fl, x, true) u) = runW B l2 (stpW B (lnd0 R M fl x) u)
  rw [stp_t]
theorem run_stp (l : List Nat) (h : ∀ w ∈ l, gdW w) : runW B (stp l) (R, M, fl, x, true) = (fl.foldl (lstR x) R, fl.foldl (lstC x) M, kpF x fl ++ l.map (fun w => isF (fl.foldl (lstR x) R) (fl.foldl (lstC x) M) B w x), x + 1, true) := by
  rcases List.eq_nil_or_concat l with e | ⟨l1, w, e⟩
  · subst e
    show stpW B (R, M, fl, x, true) 2147483648 = _
    rw [stp_t, List.map_nil, List.append_nil]
    rfl
  · rw [List.concat_eq_append] at e
    subst e
    have hw := h w (by simp)
    rw [snoc_stp, run_t, runW_app, lnd0, run_f l1 _ (fun v hv => h v (List.mem_append_left _ hv))]
    show stpW B (_, _, _, x, false) (w + 2147483648) = _
    rw [stp_l hw]
    simp
end RW
def okR (B : Nat → Int32) : List Nat → Ms → Prop
  | [], _ => True
  | w :: l, σ => (w < 4294967296 ∧ σ.2.2.2.1 ≤ 400 ∧ (w / 1073741824 % 2 ≠ 0 → (lndF σ).2.2.1.length < 32 ∧ w / 65536 % 32 ≤ 23)) ∧ okR B l (stpW B σ w)
theorem okR_at {B : Nat → Int32} : ∀ {ws : List Nat} {σ : Ms}, okR B ws σ → ∀ k, k < ws.length → ws.getD k 0 < 4294967296 ∧ (runW B (ws.take k) σ).2.2.2.1 ≤ 400 ∧ (ws.getD k 0 / 1073741824 % 2 ≠ 0 → (lndF (runW B (ws.take k) σ)).2.2.1.length < 32 ∧ ws.getD k 0 / 65536 % 32 ≤ 23)
  | [], _, _, k, hk => absurd hk (Nat.not_lt_zero _)
  | _ :: _, _, h, 0, _ => h.1
  | w :: l, σ, h, k + 1, hk => okR_at (ws := l) (σ := stpW B σ w) h.2 k (Nat.lt_of_succ_lt_succ hk)
theorem okR_app {B : Nat → Int32} : ∀ {a b : List Nat} {σ : Ms}, okR B a σ → okR B b (runW B a σ) → okR B (a ++ b) σ
  | [], _, _, _, h => h
  | _ :: a, b, _, h1, h2 => ⟨h1.1, okR_app (a := a) (b := b) h1.2 h2⟩
section RW
variable {B R M : Nat → Int32} {x : Nat}
theorem okR_f (hx : x ≤ 400) : ∀ (l : List Nat) (fl : List Fl), (∀ w ∈ l, gdW w) → fl.length + l.length ≤ 32 → okR B l (R, M, fl, x, false)
  | [], _, _, _ => trivial
  | w :: l, fl, h, hl => by
    have hw := h w List.mem_cons_self
    have hw1 := hw.1
    rw [List.length_cons] at hl
    refine ⟨⟨by omega, hx, fun _ => ⟨show fl.length < 32 by omega, hw.2.2⟩⟩, ?_⟩
    rw [stp_f hw]
    refine okR_f hx l _ (fun v hv => h v (List.mem_cons_of_mem _ hv)) ?_
    rw [List.length_append, List.length_singleton]
    omega
theorem okR_t {fl : List Fl} (l : List Nat) (v : Nat) (h : okR B (l ++ [v]) (lnd0 R M fl x)) : okR B (l ++ [v]) (R, M, fl, x, true) := by
  obtain ⟨u, l2, e⟩ := hd_snoc l v
  rw [e] at h ⊢
  refine ⟨h.1, ?_⟩
  rw [stp_t]
  exact h.2
theorem okR_stp {fl : List Fl} (l : List Nat) (h : ∀ w ∈ l, gdW w) (hx : x ≤ 400) (hl : (kpF x fl).length + l.length ≤ 32) : okR B (stp l) (R, M, fl, x, true) := by
  rcases List.eq_nil_or_concat l with e | ⟨l1, w, e⟩
  · subst e
    exact ⟨⟨by decide, hx, fun q => absurd rfl q⟩, trivial⟩
  · rw [List.concat_eq_append] at e
    subst e
    have hw := h w (by simp)
    have hw1 := hw.1
    have hw2 := hw.2.2
    rw [List.length_append, List.length_singleton] at hl
    rw [snoc_stp]
    refine okR_t _ _ (okR_app (okR_f hx l1 _ (fun v hv => h v (List.mem_append_left _ hv)) (by omega)) ?_)
    rw [lnd0, run_f l1 _ (fun v hv => h v (List.mem_append_left _ hv))]
    refine ⟨⟨by omega, hx, fun _ => ⟨?_, by omega⟩⟩, trivial⟩
    show (kpF x fl ++ l1.map _).length < 32
    rw [List.length_append, List.length_map]
    omega
end RW
theorem gdW_enF {p : Op} (h : opOK p) : gdW (enF p) := by
  obtain ⟨h1, h2, h3, h4, h5⟩ := h
  unfold gdW enF
  refine ⟨by omega, by omega, by omega⟩
theorem enF_dec {p : Op} (h : opOK p) : enF p % 16 = p.1 ∧ enF p / 16 % 16 = p.2.1 ∧ enF p / 256 % 16 = p.2.2.1 ∧ enF p / 4096 % 16 = p.2.2.2.1 ∧ enF p / 65536 % 32 = p.2.2.2.2 := by
  obtain ⟨h1, h2, h3, h4, h5⟩ := h
  unfold enF
  refine ⟨by omega, by omega, by omega, by omega, by omega⟩
theorem wsA_mem {ops : List Op} {c : Nat → Nat} {x w : Nat} : ∀ k, w ∈ wsA ops c x k ↔ ∃ j, j < k ∧ c j = x ∧ w = enF (ops.getD j zOp)
  | 0 => ⟨fun h => absurd h List.not_mem_nil, fun ⟨j, h, _⟩ => absurd h (Nat.not_lt_zero _)⟩
  | k + 1 => by
    have ih := wsA_mem (ops := ops) (c := c) (x := x) (w := w) k
    rw [wsA]
    constructor
    · intro h
      split at h
      · rename_i e
        rcases List.mem_append.mp h with q | q
        · obtain ⟨j, h1, h2, h3⟩ := ih.mp q
          exact ⟨j, by omega, h2, h3⟩
        · exact ⟨k, by omega, e, List.mem_singleton.mp q⟩
      · obtain ⟨j, h1, h2, h3⟩ := ih.mp h
        exact ⟨j, by omega, h2, h3⟩
    · rintro ⟨j, h1, h2, h3⟩
      by_cases e : j = k
      · subst e
        rw [if_pos h2]
        exact List.mem_append_right _ (List.mem_singleton.mpr h3)
      · have q := ih.mpr ⟨j, by omega, h2, h3⟩
        split
        · exact List.mem_append_left _ q
        · exact q
/-! a bundle has at most seven operations: one a unit -/
def cnU (c u : Nat → Nat) (x v : Nat) : Nat → Nat
  | 0 => 0
  | k + 1 => cnU c u x v k + (if c k = x ∧ u k = v then 1 else 0)
theorem cnU_0 {c u : Nat → Nat} {x v : Nat} : ∀ k, (∀ j, j < k → c j = x → u j ≠ v) → cnU c u x v k = 0
  | 0, _ => rfl
  | k + 1, h => by
    rw [cnU, cnU_0 k (fun j hj => h j (by omega)), if_neg (fun q => h k (by omega) q.1 q.2)]
theorem cnU_1 {c u : Nat → Nat} {x v : Nat} : ∀ k, (∀ i j, i < j → j < k → c i = c j → u i ≠ u j) → cnU c u x v k ≤ 1
  | 0, _ => Nat.zero_le _
  | k + 1, h => by
    rw [cnU]
    by_cases e : c k = x ∧ u k = v
    · rw [if_pos e, cnU_0 k (fun j hj h1 h2 => h j k hj (by omega) (h1.trans e.1.symm) (h2.trans e.2.symm))]
      exact Nat.le_refl _
    · rw [if_neg e]
      exact cnU_1 k (fun i j h1 h2 => h i j h1 (by omega))
theorem wsA_cn {ops : List Op} {c u : Nat → Nat} {x : Nat} (hu : ∀ k, u k ≤ 6) : ∀ k, (wsA ops c x k).length = cnU c u x 0 k + cnU c u x 1 k + cnU c u x 2 k + cnU c u x 3 k + cnU c u x 4 k + cnU c u x 5 k + cnU c u x 6 k
  | 0 => rfl
  | k + 1 => by
    have ih := wsA_cn (ops := ops) (c := c) (x := x) hu k
    have hk := hu k
    rw [wsA_len, ih]
    simp only [cnU]
    by_cases e : c k = x
    · rw [if_pos e]
      have h7 : u k = 0 ∨ u k = 1 ∨ u k = 2 ∨ u k = 3 ∨ u k = 4 ∨ u k = 5 ∨ u k = 6 := by omega
      rcases h7 with q | q | q | q | q | q | q <;> simp [e, q] <;> omega
    · simp [e]
theorem wsA_7 {ops : List Op} {c u : Nat → Nat} {x K : Nat} (hu : ∀ k, u k ≤ 6) (h : ∀ i j, i < j → j < K → c i = c j → u i ≠ u j) : (wsA ops c x K).length ≤ 7 := by
  rw [wsA_cn hu]
  have h0 := cnU_1 (x := x) (v := 0) K h
  have h1 := cnU_1 (x := x) (v := 1) K h
  have h2 := cnU_1 (x := x) (v := 2) K h
  have h3 := cnU_1 (x := x) (v := 3) K h
  have h4 := cnU_1 (x := x) (v := 4) K h
  have h5 := cnU_1 (x := x) (v := 5) K h
  have h6 := cnU_1 (x := x) (v := 6) K h
  omega
end
section
/-! the scheduled machine against the order of the program -/
/-- registers and memory as one function: 0 .. 15 registers, 16 .. memory -/
def jn (R M : Nat → Int32) (q : Nat) : Int32 := if q < 16 then R q else M (q - 16)
theorem jn_lo (R M : Nat → Int32) {q : Nat} (h : q < 16) : jn R M q = R q := if_pos h
theorem jn_hi (R M : Nat → Int32) (m : Nat) : jn R M (16 + m) = M m := by
  unfold jn
  rw [if_neg (by omega), show 16 + m - 16 = m by omega]
def isX (B X : Nat → Int32) (w now : Nat) : Fl := isF X (fun m => X (16 + m)) B w now
def lnX (now : Nat) (X : Nat → Int32) (f : Fl) : Nat → Int32 := if now < f.2.2 then X else upd X f.1 f.2.1
theorem isX_jn (R M B : Nat → Int32) (w now : Nat) : isF R M B w now = isX B (jn R M) w now :=
  isF_cg (jn_lo R M (by omega)).symm (jn_lo R M (by omega)).symm (fun _ => (jn_lo R M (by omega)).symm) (fun _ m => (jn_hi R M m).symm)
theorem lnX_jn (now : Nat) (R M : Nat → Int32) (f : Fl) : jn (lstR now R f) (lstC now M f) = lnX now (jn R M) f := by
  funext q
  unfold lnX lstR lstC
  by_cases h : now < f.2.2
  · rw [if_pos (Or.inl h), if_pos (Or.inl h), if_pos h]
  · rw [if_neg h]
    by_cases h2 : f.1 < 16
    · rw [if_neg (by omega), if_pos (Or.inr h2)]
      unfold jn upd
      by_cases e : q = f.1
      · subst e
        rw [if_pos h2, if_pos rfl, if_pos rfl]
      · rw [if_neg e, if_neg e]
    · rw [if_pos (by omega), if_neg (by omega)]
      unfold jn upd
      by_cases e : q = f.1
      · subst e
        rw [if_neg h2, if_pos rfl, if_pos rfl]
      · rw [if_neg e]
        by_cases h3 : q < 16
        · rw [if_pos h3]
          exact (if_pos h3).symm
        · rw [if_neg h3, if_neg (by omega)]
          exact (if_neg h3).symm
theorem ln_jn (now : Nat) : ∀ (fl : List Fl) (R M : Nat → Int32), jn (fl.foldl (lstR now) R) (fl.foldl (lstC now) M) = fl.foldl (lnX now) (jn R M)
  | [], _, _ => rfl
  | f :: fl, R, M => by
    show jn (fl.foldl (lstR now) (lstR now R f)) (fl.foldl (lstC now) (lstC now M f)) = fl.foldl (lnX now) (lnX now (jn R M) f)
    rw [ln_jn now fl, lnX_jn]
theorem fl_none {now q : Nat} : ∀ (fl : List Fl) (X : Nat → Int32), (∀ f ∈ fl, f.2.2 ≤ now → f.1 ≠ q) → fl.foldl (lnX now) X q = X q
  | [], _, _ => rfl
  | f :: fl, X, h => by
    show fl.foldl (lnX now) (lnX now X f) q = X q
    rw [fl_none fl _ (fun g hg => h g (List.mem_cons_of_mem _ hg))]
    unfold lnX
    split
    · rfl
    · rename_i e
      exact pu_n _ _ (Ne.symm (h f List.mem_cons_self (Nat.le_of_not_lt e)))
theorem fl_some {now q : Nat} {v : Int32} : ∀ (fl : List Fl) (X : Nat → Int32), (∀ f ∈ fl, f.2.2 ≤ now → f.1 = q → f.2.1 = v) → (X q = v ∨ ∃ f ∈ fl, f.2.2 ≤ now ∧ f.1 = q) → fl.foldl (lnX now) X q = v
  | [], X, _, h => by
    rcases h with h | ⟨f, h, _⟩
    · exact h
    · exact absurd h List.not_mem_nil
  | f :: fl, X, h1, h2 => by
    show fl.foldl (lnX now) (lnX now X f) q = v
    refine fl_some fl _ (fun g hg => h1 g (List.mem_cons_of_mem _ hg)) ?_
    by_cases hf : f.2.2 ≤ now ∧ f.1 = q
    · refine Or.inl ?_
      unfold lnX
      rw [if_neg (Nat.not_lt.mpr hf.1), ← hf.2, pu_s]
      exact h1 f List.mem_cons_self hf.1 hf.2
    · rcases h2 with h2 | ⟨g, hg, h3⟩
      · refine Or.inl ?_
        unfold lnX
        split
        · exact h2
        · rename_i e
          rw [pu_n _ _ (fun e2 => hf ⟨Nat.le_of_not_lt e, e2.symm⟩)]
          exact h2
      · rcases List.mem_cons.mp hg with e | e
        · subst e
          exact absurd h3 hf
        · exact Or.inr ⟨g, e, h3⟩
/-- the results of the operations that p picks, in the order of the program -/
def rsX (E : Nat → Fl) (X0 : Nat → Int32) (p : Nat → Bool) : Nat → Nat → Int32
  | 0 => X0
  | k + 1 => if p k = true then upd (rsX E X0 p k) (E k).1 (E k).2.1 else rsX E X0 p k
def pB (E : Nat → Fl) (m k : Nat) : Bool := decide ((E k).2.2 < m)
section RS
variable {E : Nat → Fl} {X0 : Nat → Int32} {p p1 : Nat → Bool} {q : Nat}
theorem rsX_ne {k : Nat} (h : p k = true → (E k).1 ≠ q) : rsX E X0 p (k + 1) q = rsX E X0 p k q := by
  rw [rsX]
  split
  · rename_i e
    exact pu_n _ _ (Ne.symm (h e))
  · rfl
theorem rsX_eq {k : Nat} (h : p k = true) (h2 : (E k).1 = q) : rsX E X0 p (k + 1) q = (E k).2.1 := by
  rw [rsX, if_pos h, ← h2, pu_s]
theorem rsX_cg : ∀ n, (∀ k, k < n → (E k).1 = q → p k = p1 k) → rsX E X0 p n q = rsX E X0 p1 n q
  | 0, _ => rfl
  | n + 1, h => by
    have ih := rsX_cg n (fun k hk => h k (by omega))
    by_cases e : (E n).1 = q
    · have h1 := h n (by omega) e
      by_cases e2 : p n = true
      · rw [rsX_eq e2 e, rsX_eq (h1 ▸ e2) e]
      · rw [rsX_ne (fun z => absurd z e2), rsX_ne (fun z => absurd (h1.trans z) e2)]
        exact ih
    · rw [rsX_ne (fun _ => e), rsX_ne (fun _ => e)]
      exact ih
theorem rsX_stop {n : Nat} : ∀ d, (∀ k, n ≤ k → k < n + d → (E k).1 = q → p k = false) → rsX E X0 p (n + d) q = rsX E X0 p n q
  | 0, _ => rfl
  | d + 1, h => by
    have ih := rsX_stop d (fun k h1 h2 => h k h1 (by omega))
    show rsX E X0 p (n + d + 1) q = _
    rw [rsX_ne (fun z e => by rw [h (n + d) (by omega) (by omega) e] at z; exact absurd z (by decide))]
    exact ih
theorem rsX_last {k K : Nat} (hk : k < K) (h1 : p k = true) (h2 : (E k).1 = q) (h3 : ∀ j, k < j → j < K → (E j).1 = q → p j = false) : rsX E X0 p K q = (E k).2.1 := by
  obtain ⟨d, rfl⟩ : ∃ d, K = k + 1 + d := ⟨K - (k + 1), by omega⟩
  rw [rsX_stop d (fun j a b => h3 j (by omega) b), rsX_eq h1 h2]
theorem rsX_read {k K : Nat} (hk : k ≤ K) (h1 : ∀ i, i < k → (E i).1 = q → p i = true) (h2 : ∀ i, k ≤ i → i < K → (E i).1 = q → p i = false) : rsX E X0 p K q = rsX E X0 (fun _ => true) k q := by
  obtain ⟨d, rfl⟩ : ∃ d, K = k + d := ⟨K - k, by omega⟩
  rw [rsX_stop d h2]
  exact rsX_cg k h1
end RS
/-- an orderly schedule: results of one place land in the order of the program; each lands one to three cycles behind its issue; what an operation reads at its issue is what it reads in the program -/
def sdO (B : Nat → Int32) (K : Nat) (c w : Nat → Nat) (E : Nat → Fl) (X0 : Nat → Int32) : Prop := (∀ i j, i < j → j < K → (E i).1 = (E j).1 → (E i).2.2 < (E j).2.2) ∧ (∀ k, k < K → c k < (E k).2.2 ∧ (E k).2.2 ≤ c k + 3) ∧ ∀ k, k < K → isX B (rsX E X0 (pB E (c k + 1)) K) (w k) (c k) = E k
def inO (K : Nat) (c : Nat → Nat) (E : Nat → Fl) (X0 : Nat → Int32) (m : Nat) (X : Nat → Int32) (fl : List Fl) : Prop := X = rsX E X0 (pB E m) K ∧ ∀ f, f ∈ fl ↔ ∃ k, k < K ∧ c k < m ∧ m ≤ (E k).2.2 ∧ f = E k
section OR
variable {B : Nat → Int32} {K : Nat} {c w : Nat → Nat} {E : Nat → Fl} {X0 : Nat → Int32} {m : Nat} {X : Nat → Int32} {fl : List Fl}
theorem inO_land (h : sdO B K c w E X0) (h1 : inO K c E X0 m X fl) : fl.foldl (lnX m) X = rsX E X0 (pB E (m + 1)) K := by
  obtain ⟨hst, hti, -⟩ := h
  obtain ⟨rfl, hfl⟩ := h1
  funext q
  by_cases hq : ∃ k, k < K ∧ (E k).1 = q ∧ (E k).2.2 = m
  · obtain ⟨k, hk, h1, h2⟩ := hq
    rw [rsX_last (p := pB E (m + 1)) hk (decide_eq_true (by omega)) h1 (fun j a b z => decide_eq_false (by have := hst k j a b (h1.trans z.symm); omega))]
    refine fl_some fl _ (fun f hf h3 h4 => ?_) (Or.inr ⟨E k, (hfl _).mpr ⟨k, hk, by have := (hti k hk).1; omega, by omega, rfl⟩, by omega, h1⟩)
    obtain ⟨k2, hk2, h5, h6, rfl⟩ := (hfl f).mp hf
    have : k2 = k := by
      rcases Nat.lt_trichotomy k2 k with z | z | z
      · have := hst k2 k z hk (h4.trans h1.symm)
        omega
      · exact z
      · have := hst k k2 z hk2 (h1.trans h4.symm)
        omega
    rw [this]
  · rw [fl_none fl _ (fun f hf h3 h4 => ?_)]
    · refine rsX_cg K (fun k hk e => ?_)
      have hn : (E k).2.2 ≠ m := fun z => hq ⟨k, hk, e, z⟩
      unfold pB
      by_cases z : (E k).2.2 < m
      · rw [decide_eq_true z, decide_eq_true (by omega)]
      · rw [decide_eq_false z, decide_eq_false (by omega)]
    · obtain ⟨k2, hk2, h5, h6, rfl⟩ := (hfl f).mp hf
      exact hq ⟨k2, hk2, h4, by omega⟩
theorem kp_mem {x : Nat} {f : Fl} : f ∈ kpF x fl ↔ f ∈ fl ∧ x < f.2.2 := by
  unfold kpF
  rw [List.mem_filter, decide_eq_true_eq]
/-- one cycle -/
theorem inO_step {ws : List Nat} (h : sdO B K c w E X0) (h1 : inO K c E X0 m X fl) (hw : ∀ v, v ∈ ws ↔ ∃ k, k < K ∧ c k = m ∧ v = w k) : inO K c E X0 (m + 1) (fl.foldl (lnX m) X) (kpF m fl ++ ws.map (fun v => isX B (fl.foldl (lnX m) X) v m)) := by
  have hl := inO_land h h1
  obtain ⟨hst, hti, hrd⟩ := h
  obtain ⟨-, hfl⟩ := h1
  rw [hl]
  refine ⟨rfl, fun f => ?_⟩
  rw [List.mem_append, kp_mem, List.mem_map]
  constructor
  · rintro (⟨q1, q2⟩ | ⟨v, q1, q2⟩)
    · obtain ⟨k, hk, h2, h3, rfl⟩ := (hfl f).mp q1
      exact ⟨k, hk, by omega, by omega, rfl⟩
    · obtain ⟨k, hk, h2, rfl⟩ := (hw v).mp q1
      subst h2
      rw [hrd k hk] at q2
      exact ⟨k, hk, by omega, (hti k hk).1, q2.symm⟩
  · rintro ⟨k, hk, h2, h3, rfl⟩
    by_cases e : c k = m
    · refine Or.inr ⟨w k, (hw _).mpr ⟨k, hk, e, rfl⟩, ?_⟩
      rw [← e]
      exact hrd k hk
    · exact Or.inl ⟨(hfl _).mpr ⟨k, hk, by omega, by omega, rfl⟩, by omega⟩
/-- a cycle behind the last one -/
theorem inO_fin (h : sdO B K c w E X0) (h1 : inO K c E X0 m X fl) (hm : ∀ k, k < K → c k < m) : inO K c E X0 (m + 1) (fl.foldl (lnX m) X) (kpF m fl) := by
  have := inO_step (ws := []) h h1 (fun v => ⟨fun q => absurd q List.not_mem_nil, fun ⟨k, hk, e, _⟩ => absurd (hm k hk) (by omega)⟩)
  rw [List.map_nil, List.append_nil] at this
  exact this
/-- how many fly -/
def lnO (m : Nat) (fl : List Fl) : Prop := (kpF (m + 1) fl).length ≤ 7 ∧ (kpF m fl).length ≤ 14 ∧ ∀ f ∈ fl, f.2.2 ≤ m + 2
theorem kp_kp {x y : Nat} (h : x ≤ y) (fl : List Fl) : kpF y (kpF x fl) = kpF y fl := by
  unfold kpF
  rw [List.filter_filter]
  refine List.filter_congr (fun f _ => ?_)
  by_cases e : y < f.2.2
  · rw [decide_eq_true e, decide_eq_true (show x < f.2.2 by omega)]
    rfl
  · rw [decide_eq_false e]
    rfl
theorem kp_app (x : Nat) (a b : List Fl) : kpF x (a ++ b) = kpF x a ++ kpF x b := by
  unfold kpF
  rw [List.filter_append]
theorem kp_ln (x : Nat) (a : List Fl) : (kpF x a).length ≤ a.length := by
  unfold kpF
  exact List.length_filter_le _ _
theorem lnO_step {nw : List Fl} (h : lnO m fl) (h7 : nw.length ≤ 7) (h3 : ∀ f ∈ nw, f.2.2 ≤ m + 3) : lnO (m + 1) (kpF m fl ++ nw) := by
  obtain ⟨a1, a2, a3⟩ := h
  have e0 : kpF (m + 1 + 1) fl = [] := by
    unfold kpF
    refine List.filter_eq_nil_iff.mpr (fun f hf => ?_)
    have := a3 f hf
    rw [decide_eq_true_eq]
    omega
  refine ⟨?_, ?_, ?_⟩
  · rw [kp_app, kp_kp (by omega), e0, List.nil_append]
    exact Nat.le_trans (kp_ln _ _) h7
  · rw [kp_app, kp_kp (by omega), List.length_append]
    have := kp_ln (m + 1) nw
    omega
  · intro f hf
    rcases List.mem_append.mp hf with q | q
    · have := a3 f (kp_mem.mp q).1
      omega
    · have := h3 f q
      omega
end OR
/-! from the schedule's separations -/
def oge (x : Option Nat) (a : Nat) : Prop := ∃ n, x = some n ∧ a ≤ n
theorem omx_a (x : Option Nat) (a : Nat) : oge (omx x a) a := by
  cases x with
  | none => exact ⟨a, rfl, Nat.le_refl _⟩
  | some n => exact ⟨max n a, rfl, Nat.le_max_right _ _⟩
theorem omx_k {x : Option Nat} {b : Nat} (a : Nat) (h : oge x b) : oge (omx x a) b := by
  obtain ⟨n, rfl, h⟩ := h
  exact ⟨max n a, rfl, Nat.le_trans h (Nat.le_max_left _ _)⟩
section SP
variable {o t lf rt : Nat → Nat} {i j b : Nat}
theorem sp1 (h : oge (sep0 o t lf rt i j) b) : oge (sep1 o t lf rt i j) b := by
  unfold sep1
  split
  · exact omx_k _ h
  · exact h
theorem sp2 (h : oge (sep1 o t lf rt i j) b) : oge (sep2 o t lf rt i j) b := by
  unfold sep2
  split
  · exact omx_k _ h
  · exact h
theorem spF (h : oge (sep2 o t lf rt i j) b) : oge (sepF o t lf rt i j) b := by
  unfold sepF
  split
  · exact omx_k _ h
  · exact h
theorem sp_raw (h1 : o i ≠ 8) (h2 : (rdF o t lf rt j).testBit (t i) = true) : oge (sepF o t lf rt i j) (tm (o i)) := by
  refine spF (sp2 (sp1 ?_))
  unfold sep0
  rw [if_pos ⟨h1, h2⟩]
  exact ⟨_, rfl, Nat.le_refl _⟩
theorem sp_war (h1 : o j ≠ 8) (h2 : (rdF o t lf rt i).testBit (t j) = true) : oge (sepF o t lf rt i j) 0 := by
  refine spF (sp2 ?_)
  unfold sep1
  rw [if_pos ⟨h1, h2⟩]
  exact omx_a _ _
theorem sp_waw (h1 : o i ≠ 8) (h2 : o j ≠ 8) (h3 : t i = t j) : oge (sepF o t lf rt i j) (tm (o i) + 1 - tm (o j)) := by
  refine spF ?_
  unfold sep2
  rw [if_pos ⟨h1, h2, h3⟩]
  exact omx_a _ _
theorem sp_mem (h1 : memF o i = true) (h2 : memF o j = true) (h3 : o i = 8 ∨ o j = 8) : oge (sepF o t lf rt i j) (if o i = 8 then 1 else 0) := by
  unfold sepF
  rw [if_pos ⟨h1, h2, h3⟩]
  exact omx_a _ _
theorem sch_ge {K : Nat} {c : Nat → Nat} (h : schOK o t lf rt K c) (hi : i < j) (hj : j < K) (hs : oge (sepF o t lf rt i j) b) : c i + b ≤ c j := by
  obtain ⟨n, e, hn⟩ := hs
  have := h.1 i j hi hj n e
  omega
theorem memF_7 {k : Nat} (h : o k = 7) : memF o k = true := by simp [memF, h]
theorem memF_8 {k : Nat} (h : o k = 8) : memF o k = true := by simp [memF, h]
theorem rd_l (k : Nat) : (rdF o t lf rt k).testBit (lf k) = true := by
  unfold rdF
  split <;> simp [Nat.testBit_or, Nat.testBit_two_pow_self]
theorem rd_r (k : Nat) : (rdF o t lf rt k).testBit (rt k) = true := by
  unfold rdF
  split <;> simp [Nat.testBit_or, Nat.testBit_two_pow_self]
theorem rd_t {k : Nat} (h : o k = 5 ∨ o k = 8) : (rdF o t lf rt k).testBit (t k) = true := by
  unfold rdF
  rw [if_pos h]
  simp [Nat.testBit_or, Nat.testBit_two_pow_self]
end SP
section SQ
variable (B : Nat → Int32) (ops : List Op) (c : Nat → Nat) (X0 : Nat → Int32)
/-- the operations one after the other -/
def sqX : Nat → Nat → Int32
  | 0 => X0
  | k + 1 => upd (sqX k) (isX B (sqX k) (enF (ops.getD k zOp)) (c k)).1 (isX B (sqX k) (enF (ops.getD k zOp)) (c k)).2.1
def enX (k : Nat) : Fl := isX B (sqX B ops c X0 k) (enF (ops.getD k zOp)) (c k)
theorem sqX_rs : ∀ k, rsX (enX B ops c X0) X0 (fun _ => true) k = sqX B ops c X0 k
  | 0 => rfl
  | k + 1 => by
    rw [rsX, if_pos rfl, sqX_rs k]
    rfl
variable {B ops c X0}
theorem enX_lands (hok : ∀ j, j < ops.length → opOK (ops.getD j zOp)) {k : Nat} (hk : k < ops.length) : (enX B ops c X0 k).2.2 = c k + tm (oF ops k) := by
  unfold enX isX
  rw [isF_lands, (enF_dec (hok k hk)).1]
  rfl
theorem enX_t (hok : ∀ j, j < ops.length → opOK (ops.getD j zOp)) {k : Nat} (hk : k < ops.length) (h : oF ops k ≠ 8) : (enX B ops c X0 k).1 = tF ops k := by
  unfold enX isX
  rw [isF_t _ _ _ _ (by rw [(enF_dec (hok k hk)).1]; exact h), (enF_dec (hok k hk)).2.1]
  rfl
theorem enX_m (hok : ∀ j, j < ops.length → opOK (ops.getD j zOp)) {k : Nat} (hk : k < ops.length) (h : oF ops k = 8) : 16 ≤ (enX B ops c X0 k).1 := by
  unfold enX isX
  exact isF_m _ _ _ _ (by rw [(enF_dec (hok k hk)).1]; exact h)
theorem enX_t15 (hok : ∀ j, j < ops.length → opOK (ops.getD j zOp)) {k : Nat} (hk : k < ops.length) (h : oF ops k ≠ 8) : (enX B ops c X0 k).1 < 16 := by
  rw [enX_t hok hk h]
  have := (hok k hk).2.1
  unfold tF
  omega
theorem enX_sd (hok : ∀ j, j < ops.length → opOK (ops.getD j zOp)) (hs : schOK (oF ops) (tF ops) (lF ops) (rF ops) ops.length c) : sdO B ops.length c (fun k => enF (ops.getD k zOp)) (enX B ops c X0) X0 := by
  refine ⟨fun i j hi hj e => ?_, fun k hk => ?_, fun k hk => ?_⟩
  · have hi2 : i < ops.length := by omega
    rw [enX_lands hok hi2, enX_lands hok hj]
    by_cases h1 : oF ops i = 8
    · by_cases h2 : oF ops j = 8
      · have := sch_ge hs hi hj (sp_mem (memF_8 h1) (memF_8 h2) (Or.inl h1))
        rw [if_pos h1] at this
        rw [h1, h2]
        omega
      · have q1 := enX_m (B := B) (c := c) (X0 := X0) hok hi2 h1
        have q2 := enX_t15 (B := B) (c := c) (X0 := X0) hok hj h2
        omega
    · by_cases h2 : oF ops j = 8
      · have q1 := enX_m (B := B) (c := c) (X0 := X0) hok hj h2
        have q2 := enX_t15 (B := B) (c := c) (X0 := X0) hok hi2 h1
        omega
      · rw [enX_t hok hi2 h1, enX_t hok hj h2] at e
        have := sch_ge hs hi hj (sp_waw h1 h2 e)
        omega
  · rw [enX_lands hok hk]
    have h1 := tm_le (oF ops k)
    have h2 := tm_pos (oF ops k)
    omega
  · have hrd : ∀ q, (∀ i, i < k → (enX B ops c X0 i).1 = q → c i + tm (oF ops i) ≤ c k) → (∀ i, k < i → i < ops.length → (enX B ops c X0 i).1 = q → c k ≤ c i) → rsX (enX B ops c X0) X0 (pB (enX B ops c X0) (c k + 1)) ops.length q = sqX B ops c X0 k q := by
      intro q a1 a2
      rw [← sqX_rs]
      refine rsX_read (Nat.le_of_lt hk) (fun i hi e => ?_) (fun i hi hi2 e => ?_)
      · refine decide_eq_true ?_
        rw [enX_lands hok (by omega)]
        have := a1 i hi e
        omega
      · refine decide_eq_false ?_
        rw [enX_lands hok hi2]
        have h2 := tm_pos (oF ops i)
        by_cases z : i = k
        · subst z
          omega
        · have := a2 i (by omega) hi2 e
          omega
    have hreg : ∀ q, q < 16 → (rdF (oF ops) (tF ops) (lF ops) (rF ops) k).testBit q = true → rsX (enX B ops c X0) X0 (pB (enX B ops c X0) (c k + 1)) ops.length q = sqX B ops c X0 k q := by
      intro q hq hb
      refine hrd q (fun i hi e => ?_) (fun i hi hi2 e => ?_)
      · have hi2 : i < ops.length := by omega
        have h8 : oF ops i ≠ 8 := fun z => by
          have := enX_m (B := B) (c := c) (X0 := X0) hok hi2 z
          omega
        rw [enX_t hok hi2 h8] at e
        exact sch_ge hs hi hk (sp_raw h8 (by rw [e]; exact hb))
      · have h8 : oF ops i ≠ 8 := fun z => by
          have := enX_m (B := B) (c := c) (X0 := X0) hok hi2 z
          omega
        rw [enX_t hok hi2 h8] at e
        exact sch_ge hs hi hi2 (sp_war h8 (by rw [e]; exact hb))
    have hkk := hok k hk
    obtain ⟨d1, d2, d3, d4, d5⟩ := enF_dec hkk
    have b1 := hkk.2.1
    have b2 := hkk.2.2.1
    have b3 := hkk.2.2.2.1
    show isF _ _ B (enF (ops.getD k zOp)) (c k) = isF _ _ B (enF (ops.getD k zOp)) (c k)
    refine isF_cg ?_ ?_ (fun z => ?_) (fun z m => ?_)
    · rw [d3]
      exact hreg _ (by omega) (rd_l k)
    · rw [d4]
      exact hreg _ (by omega) (rd_r k)
    · rw [d1] at z
      rw [d2]
      exact hreg _ (by omega) (rd_t z)
    · rw [d1] at z
      have z : oF ops k = 7 := z
      refine hrd (16 + m) (fun i hi e => ?_) (fun i hi hi2 e => ?_)
      · have hi2 : i < ops.length := by omega
        have h8 : oF ops i = 8 := Classical.byContradiction fun y => by
          have := enX_t15 (B := B) (c := c) (X0 := X0) hok hi2 y
          omega
        have := sch_ge hs hi hk (sp_mem (memF_8 h8) (memF_7 z) (Or.inl h8))
        rw [if_pos h8] at this
        rw [h8]
        exact this
      · have h8 : oF ops i = 8 := Classical.byContradiction fun y => by
          have := enX_t15 (B := B) (c := c) (X0 := X0) hok hi2 y
          omega
        have := sch_ge hs hi hi2 (sp_mem (memF_7 z) (memF_8 h8) (Or.inr h8))
        omega
end SQ
end
section
/-! the code's run: the operations one after the other; those: the source -/
theorem mxF_gt {c : Nat → Nat} : ∀ {K k : Nat}, k < K → c k < mxF c K
  | 0, _, h => absurd h (Nat.not_lt_zero _)
  | K + 1, k, h => by
    show c k < max (mxF c K) (c K + 1)
    by_cases e : k = K
    · subst e
      omega
    · have := mxF_gt (c := c) (K := K) (k := k) (by omega)
      omega
section WR
variable {B R M : Nat → Int32} {ops : List Op} {c : Nat → Nat}
theorem wall_run (hok : ∀ j, j < ops.length → opOK (ops.getD j zOp)) (hs : schOK (oF ops) (tF ops) (lF ops) (rF ops) ops.length c) : ∀ m, ∃ R1 M1 fl, runW B (wall ops c m) (R, M, [], 0, true) = (R1, M1, fl, m, true) ∧ inO ops.length c (enX B ops c (jn R M)) (jn R M) m (jn R1 M1) fl ∧ lnO m fl ∧ (m ≤ 300 → okR B (wall ops c m) (R, M, [], 0, true))
  | 0 => by
    refine ⟨R, M, [], rfl, ⟨?_, fun f => ⟨fun h => absurd h List.not_mem_nil, fun ⟨k, _, h, _⟩ => absurd h (Nat.not_lt_zero _)⟩⟩, ⟨Nat.zero_le _, Nat.zero_le _, fun f h => absurd h List.not_mem_nil⟩, fun _ => trivial⟩
    funext q
    have := rsX_stop (E := enX B ops c (jn R M)) (X0 := jn R M) (p := pB (enX B ops c (jn R M)) 0) (q := q) (n := 0) ops.length (fun k _ _ _ => decide_eq_false (Nat.not_lt_zero _))
    rw [Nat.zero_add] at this
    exact this.symm
  | m + 1 => by
    obtain ⟨R1, M1, fl, e, hin, hln, ho⟩ := wall_run hok hs m
    have hsd := enX_sd (B := B) (X0 := jn R M) hok hs
    have hgd : ∀ w ∈ wsA ops c m ops.length, gdW w := fun w hw => by
      obtain ⟨j, h1, _, rfl⟩ := (wsA_mem _).mp hw
      exact gdW_enF (hok j h1)
    have hmap : (fun w => isF (fl.foldl (lstR m) R1) (fl.foldl (lstC m) M1) B w m) = (fun v => isX B (fl.foldl (lnX m) (jn R1 M1)) v m) := funext fun w => by rw [isX_jn, ln_jn]
    have h7 : (wsA ops c m ops.length).length ≤ 7 := wsA_7 (u := unF (oF ops) (tF ops)) (fun k => unF_le _ _ k) hs.2.1
    refine ⟨fl.foldl (lstR m) R1, fl.foldl (lstC m) M1, kpF m fl ++ (wsA ops c m ops.length).map (fun w => isF (fl.foldl (lstR m) R1) (fl.foldl (lstC m) M1) B w m), ?_, ?_, ?_, ?_⟩
    · rw [wall, runW_app, e, run_stp _ hgd]
    · rw [ln_jn, hmap]
      exact inO_step hsd hin (fun v => wsA_mem _)
    · refine lnO_step hln (by rw [List.length_map]; exact h7) (fun f hf => ?_)
      obtain ⟨w, -, rfl⟩ := List.mem_map.mp hf
      rw [isF_lands]
      have := tm_le (w % 16)
      omega
    · intro hm
      rw [wall]
      refine okR_app (ho (by omega)) ?_
      rw [e]
      have := hln.2.1
      exact okR_stp _ hgd (by omega) (by omega)
theorem fin_run {w : Nat → Nat} {E : Nat → Fl} {X0 : Nat → Int32} {K m : Nat} (hsd : sdO B K c w E X0) (σ : Ms) (hm : σ.2.2.2.1 = m) (hin : inO K c E X0 m (jn σ.1 σ.2.1) σ.2.2.1) (hc : ∀ k, k < K → c k < m) : ∀ d, inO K c E X0 (m + d) (jn (finF d σ).1 (finF d σ).2.1) (finF d σ).2.2.1
  | 0 => hin
  | d + 1 => by
    have ih := fin_run hsd σ hm hin hc d
    show inO K c E X0 (m + d + 1) (jn ((finF d σ).2.2.1.foldl (lstR (finF d σ).2.2.2.1) (finF d σ).1) ((finF d σ).2.2.1.foldl (lstC (finF d σ).2.2.2.1) (finF d σ).2.1)) (kpF (finF d σ).2.2.2.1 (finF d σ).2.2.1)
    rw [finF_now σ d, hm, ln_jn]
    exact inO_fin hsd ih (fun k hk => by have := hc k hk; omega)
/-- one operation -/
def exS (B X : Nat → Int32) (p : Op) : Nat → Int32 := upd X (isX B X (enF p) 0).1 (isX B X (enF p) 0).2.1
theorem sqX_fold {X0 : Nat → Int32} : ∀ k, k ≤ ops.length → sqX B ops c X0 k = (ops.take k).foldl (exS B) X0
  | 0, _ => rfl
  | k + 1, h => by
    rw [tk_s ops zOp h, List.foldl_append, ← sqX_fold k (by omega)]
    show upd _ (isX B _ _ (c k)).1 (isX B _ _ (c k)).2.1 = upd _ (isX B _ _ 0).1 (isX B _ _ 0).2.1
    unfold isX
    rw [(isF_nw _ _ B _ (c k) 0).1, (isF_nw _ _ B _ (c k) 0).2]
theorem code_run (hok : ∀ j, j < ops.length → opOK (ops.getD j zOp)) (hs : schOK (oF ops) (tF ops) (lF ops) (rF ops) ops.length c) (hK : ops.length ≤ 72) : okW B (wall ops c (mxF c ops.length)) (R, M, [], 0, true) ∧ jn (finF 4 (runW B (wall ops c (mxF c ops.length)) (R, M, [], 0, true))).1 (finF 4 (runW B (wall ops c (mxF c ops.length)) (R, M, [], 0, true))).2.1 = ops.foldl (exS B) (jn R M) := by
  obtain ⟨R1, M1, fl, e, hin, hln, ho⟩ := wall_run (B := B) (R := R) (M := M) hok hs (mxF c ops.length)
  have hmx : mxF c ops.length ≤ 3 * ops.length + 1 := mxF_le hs.2.2
  have hsd := enX_sd (B := B) (X0 := jn R M) hok hs
  refine ⟨⟨?_, ?_, okR_at (ho (by omega))⟩, ?_⟩
  · have h1 := wall_len ops c (mxF c ops.length)
    have h2 := sumL_le ops c (mxF c ops.length) ops.length
    omega
  · rw [e]
    show mxF c ops.length ≤ 400
    omega
  · rw [e]
    have h4 := fin_run hsd (R1, M1, fl, mxF c ops.length, true) rfl hin (fun k hk => mxF_gt hk) 4
    rw [h4.1]
    have h5 : rsX (enX B ops c (jn R M)) (jn R M) (pB (enX B ops c (jn R M)) (mxF c ops.length + 4)) ops.length = rsX (enX B ops c (jn R M)) (jn R M) (fun _ => true) ops.length := funext fun q => rsX_cg _ (fun k hk _ => decide_eq_true (by have := (hsd.2.1 k hk).2; have := mxF_gt (c := c) hk; omega))
    rw [h5, sqX_rs, sqX_fold _ (Nat.le_refl _), List.take_length]
end WR
section SO
variable {B X : Nat → Int32}
theorem exS_op {p : Op} (h : opOK p) (h8 : p.1 ≠ 8) : exS B X p = upd X p.2.1 (vaF X (fun m => X (16 + m)) p.1 p.2.1 (X p.2.2.1) (X p.2.2.2.1) (B p.2.2.2.2)) := by
  obtain ⟨d1, d2, d3, d4, d5⟩ := enF_dec h
  unfold exS isX isF
  rw [d1, d2, d3, d4, d5, if_neg h8]
theorem exS_st {p : Op} (h : opOK p) (h8 : p.1 = 8) : exS B X p = upd X (16 + adr (X p.2.2.1 + B p.2.2.2.2)) (X p.2.1) := by
  obtain ⟨d1, d2, d3, d4, d5⟩ := enF_dec h
  unfold exS isX isF
  rw [d1, d2, d3, d4, d5, if_pos h8]
theorem cp_run {X0 : Nat → Int32} {ops : List Op} {nc : Nat → Nat} {r cl : Nat} (hr : r ≤ 7) (hc : cl ≤ 1) (hn : nc cl ≤ 3) : ((cpF ops nc r cl).2.1.foldl (exS B) X0) (cpF ops nc r cl).1 = (ops.foldl (exS B) X0) r ∧ ∀ z, z ≠ (cpF ops nc r cl).1 ∨ z < 8 → ((cpF ops nc r cl).2.1.foldl (exS B) X0) z = (ops.foldl (exS B) X0) z := by
  unfold cpF
  split
  · exact ⟨rfl, fun _ _ => rfl⟩
  · have hop : opOK (9, 8 + 4 * cl + nc cl, r, r, 0) := ⟨Nat.le_refl 9, show 8 + 4 * cl + nc cl ≤ 15 by omega, show r ≤ 15 by omega, show r ≤ 15 by omega, Nat.zero_le 23⟩
    show ((ops ++ [(9, 8 + 4 * cl + nc cl, r, r, 0)]).foldl (exS B) X0) (8 + 4 * cl + nc cl) = _ ∧ ∀ z, z ≠ 8 + 4 * cl + nc cl ∨ z < 8 → ((ops ++ [(9, 8 + 4 * cl + nc cl, r, r, 0)]).foldl (exS B) X0) z = _
    rw [List.foldl_append]
    show (exS B (ops.foldl (exS B) X0) (9, 8 + 4 * cl + nc cl, r, r, 0)) (8 + 4 * cl + nc cl) = _ ∧ ∀ z, z ≠ 8 + 4 * cl + nc cl ∨ z < 8 → (exS B (ops.foldl (exS B) X0) (9, 8 + 4 * cl + nc cl, r, r, 0)) z = _
    rw [exS_op hop (show (9 : Nat) ≠ 8 by decide)]
    exact ⟨pu_s _ _ _, fun z hz => pu_n _ _ (show z ≠ 8 + 4 * cl + nc cl by omega)⟩
theorem cp_ne {ops : List Op} {nc : Nat → Nat} {r r2 cl : Nat} (hr : r ≤ 7) (hr2 : r2 ≤ 7) (hn : nc cl ≤ 3) : (cpF ops nc r cl).1 ≠ (cpF (cpF ops nc r cl).2.1 (cpF ops nc r cl).2.2 r2 cl).1 ∨ (cpF ops nc r cl).1 < 8 := by
  by_cases e : cluF r = cl
  · refine Or.inr ?_
    unfold cpF
    rw [if_pos e]
    show r < 8
    omega
  · refine Or.inl ?_
    have e1 : cpF ops nc r cl = (8 + 4 * cl + nc cl, ops ++ [(9, 8 + 4 * cl + nc cl, r, r, 0)], va_up nc cl ((nc cl + 1) % 4)) := by
      unfold cpF
      rw [if_neg e]
    rw [e1]
    show 8 + 4 * cl + nc cl ≠ (cpF (ops ++ [(9, 8 + 4 * cl + nc cl, r, r, 0)]) (va_up nc cl ((nc cl + 1) % 4)) r2 cl).1
    unfold cpF
    split
    · show 8 + 4 * cl + nc cl ≠ r2
      omega
    · show 8 + 4 * cl + nc cl ≠ 8 + 4 * cl + va_up nc cl ((nc cl + 1) % 4) cl
      rw [va_up_self]
      omega
theorem vaF_cg {R M R1 M1 : Nat → Int32} {v d : Nat} {p q nb : Int32} (h1 : R d = R1 d) (h2 : ∀ m, M m = M1 m) : vaF R M v d p q nb = vaF R1 M1 v d p q nb := by
  unfold vaF
  rw [h1, h2]
theorem vaF_q {R M : Nat → Int32} {v d : Nat} {p nb : Int32} (q q1 : Int32) (h : v = 6 ∨ v = 7) : vaF R M v d p q nb = vaF R M v d p q1 nb := by
  rcases h with h | h <;> simp [vaF, h]
end SO
theorem low_run {B R M : Nat → Int32} {n : Nat} {o d a bn : Nat → Nat} (h : srcOK n o d a bn) : ∀ i, i ≤ n → (∀ r, r < 8 → ((lowF o d a bn i).1.foldl (exS B) (jn R M)) r = (srcN B o d a bn R M i).1 r) ∧ ∀ m, ((lowF o d a bn i).1.foldl (exS B) (jn R M)) (16 + m) = (srcN B o d a bn R M i).2 m
  | 0, _ => ⟨fun r hr => jn_lo R M (by omega), fun m => jn_hi R M m⟩
  | i + 1, hi => by
    obtain ⟨ihr, ihm⟩ := low_run (B := B) (R := R) (M := M) h i (by omega)
    obtain ⟨hn24, h⟩ := h
    obtain ⟨h1, h2, h3, h4⟩ := h i (by omega)
    have hn := lowF_nc o d a bn i
    have hc := cluF_le (d i)
    have k1 := cp_run (B := B) (X0 := jn R M) (ops := (lowF o d a bn i).1) h3 hc (hn (cluF (d i)))
    have r1 := cpF_reg (ops := (lowF o d a bn i).1) hn h3 hc
    have n1 := cpF_nc (ops := (lowF o d a bn i).1) (r := a i) (cl := cluF (d i)) hn
    have hl : (lowF o d a bn (i + 1)).1 = (lowS (lowF o d a bn i) (o i) (d i) (a i) (bn i) i).1 := rfl
    have hsN : srcN B o d a bn R M (i + 1) = (srcR B o d a bn (srcN B o d a bn R M i).1 (srcN B o d a bn R M i).2 i, srcM B o d a (srcN B o d a bn R M i).1 (srcN B o d a bn R M i).2 i) := rfl
    rw [hl, hsN]
    show (∀ r, r < 8 → ((lowS (lowF o d a bn i) (o i) (d i) (a i) (bn i) i).1.foldl (exS B) (jn R M)) r = srcR B o d a bn (srcN B o d a bn R M i).1 (srcN B o d a bn R M i).2 i r) ∧ ∀ m, ((lowS (lowF o d a bn i) (o i) (d i) (a i) (bn i) i).1.foldl (exS B) (jn R M)) (16 + m) = srcM B o d a (srcN B o d a bn R M i).1 (srcN B o d a bn R M i).2 i m
    by_cases h5 : o i ≤ 5
    · have h8 : o i ≠ 8 := by omega
      have k2 := cp_run (B := B) (X0 := jn R M) (ops := (cpF (lowF o d a bn i).1 (lowF o d a bn i).2 (a i) (cluF (d i))).2.1) (h4 h5) hc (n1 (cluF (d i)))
      have r2 := cpF_reg (ops := (cpF (lowF o d a bn i).1 (lowF o d a bn i).2 (a i) (cluF (d i))).2.1) n1 (h4 h5) hc
      have k3 := cp_ne (ops := (lowF o d a bn i).1) h3 (h4 h5) (hn (cluF (d i)))
      rw [lowS, if_pos h5]
      generalize (cpF (lowF o d a bn i).1 (lowF o d a bn i).2 (a i) (cluF (d i))) = Z1 at *
      generalize cpF Z1.2.1 Z1.2.2 (bn i) (cluF (d i)) = Z2 at *
      have hop : opOK (o i, d i, Z1.1, Z2.1, i) := ⟨show o i ≤ 9 by omega, show d i ≤ 15 by omega, r1, r2, show i ≤ 23 by omega⟩
      have hX : ∀ z, ((Z2.2.1 ++ [(o i, d i, Z1.1, Z2.1, i)]).foldl (exS B) (jn R M)) z = (exS B (Z2.2.1.foldl (exS B) (jn R M)) (o i, d i, Z1.1, Z2.1, i)) z := fun z => by rw [List.foldl_append]; rfl
      have hv : vaF (Z2.2.1.foldl (exS B) (jn R M)) (fun m => (Z2.2.1.foldl (exS B) (jn R M)) (16 + m)) (o i) (d i) ((Z2.2.1.foldl (exS B) (jn R M)) Z1.1) ((Z2.2.1.foldl (exS B) (jn R M)) Z2.1) (B i) = vaF (srcN B o d a bn R M i).1 (srcN B o d a bn R M i).2 (o i) (d i) ((srcN B o d a bn R M i).1 (a i)) ((srcN B o d a bn R M i).1 (bn i)) (B i) := by
        rw [k2.1, k2.2 _ k3, k1.1, k1.2 (bn i) (by have := h4 h5; omega), ihr (a i) (by omega), ihr (bn i) (by have := h4 h5; omega)]
        refine vaF_cg ?_ (fun m => ?_)
        · rw [k2.2 _ (by omega), k1.2 _ (by omega), ihr _ (by omega)]
        · show (Z2.2.1.foldl (exS B) (jn R M)) (16 + m) = _
          rw [k2.2 _ (Or.inl (by omega)), k1.2 _ (Or.inl (by omega)), ihm]
      refine ⟨fun r hr => ?_, fun m => ?_⟩
      · rw [hX, exS_op hop h8]
        show upd _ (d i) _ r = srcR B o d a bn (srcN B o d a bn R M i).1 (srcN B o d a bn R M i).2 i r
        unfold srcR
        rw [if_neg h8, if_pos h5]
        show upd _ (d i) (vaF (Z2.2.1.foldl (exS B) (jn R M)) (fun m => (Z2.2.1.foldl (exS B) (jn R M)) (16 + m)) (o i) (d i) ((Z2.2.1.foldl (exS B) (jn R M)) Z1.1) ((Z2.2.1.foldl (exS B) (jn R M)) Z2.1) (B i)) r = _
        rw [hv]
        by_cases e : r = d i
        · rw [e, pu_s, pu_s]
        · rw [pu_n _ _ e, pu_n _ _ e, k2.2 r (Or.inr hr), k1.2 r (Or.inr hr), ihr r hr]
      · rw [hX, exS_op hop h8]
        show upd _ (d i) _ (16 + m) = srcM B o d a (srcN B o d a bn R M i).1 (srcN B o d a bn R M i).2 i m
        unfold srcM
        rw [if_neg h8, pu_n _ _ (by omega), k2.2 _ (Or.inl (by omega)), k1.2 _ (Or.inl (by omega)), ihm]
    · rw [lowS, if_neg h5]
      generalize (cpF (lowF o d a bn i).1 (lowF o d a bn i).2 (a i) (cluF (d i))) = Z1 at *
      have hop : opOK (o i, d i, Z1.1, Z1.1, i) := ⟨show o i ≤ 9 by omega, show d i ≤ 15 by omega, r1, r1, show i ≤ 23 by omega⟩
      have hX : ∀ z, ((Z1.2.1 ++ [(o i, d i, Z1.1, Z1.1, i)]).foldl (exS B) (jn R M)) z = (exS B (Z1.2.1.foldl (exS B) (jn R M)) (o i, d i, Z1.1, Z1.1, i)) z := fun z => by rw [List.foldl_append]; rfl
      by_cases h8 : o i = 8
      · refine ⟨fun r hr => ?_, fun m => ?_⟩
        · rw [hX, exS_st hop h8, pu_n _ _ (by omega)]
          unfold srcR
          rw [if_pos h8, k1.2 r (Or.inr hr), ihr r hr]
        · rw [hX, exS_st hop h8]
          show upd (Z1.2.1.foldl (exS B) (jn R M)) (16 + adr ((Z1.2.1.foldl (exS B) (jn R M)) Z1.1 + B i)) ((Z1.2.1.foldl (exS B) (jn R M)) (d i)) (16 + m) = _
          unfold srcM
          rw [if_pos h8, k1.1, ihr (a i) (by omega), k1.2 (d i) (Or.inr (by omega)), ihr (d i) (by omega)]
          generalize adr ((srcN B o d a bn R M i).1 (a i) + B i) = ad
          by_cases e : m = ad
          · rw [e, pu_s, pu_s]
          · rw [pu_n _ _ (by omega), pu_n _ _ e, k1.2 _ (Or.inl (by omega)), ihm]
      · have hv : vaF (Z1.2.1.foldl (exS B) (jn R M)) (fun m => (Z1.2.1.foldl (exS B) (jn R M)) (16 + m)) (o i) (d i) ((Z1.2.1.foldl (exS B) (jn R M)) Z1.1) ((Z1.2.1.foldl (exS B) (jn R M)) Z1.1) (B i) = vaF (srcN B o d a bn R M i).1 (srcN B o d a bn R M i).2 (o i) (d i) ((srcN B o d a bn R M i).1 (a i)) 0 (B i) := by
          rw [k1.1, ihr (a i) (by omega), vaF_q _ 0 (by omega)]
          refine vaF_cg ?_ (fun m => ?_)
          · rw [k1.2 _ (by omega), ihr _ (by omega)]
          · show (Z1.2.1.foldl (exS B) (jn R M)) (16 + m) = _
            rw [k1.2 _ (Or.inl (by omega)), ihm]
        refine ⟨fun r hr => ?_, fun m => ?_⟩
        · rw [hX, exS_op hop h8]
          show upd _ (d i) (vaF (Z1.2.1.foldl (exS B) (jn R M)) (fun m => (Z1.2.1.foldl (exS B) (jn R M)) (16 + m)) (o i) (d i) ((Z1.2.1.foldl (exS B) (jn R M)) Z1.1) ((Z1.2.1.foldl (exS B) (jn R M)) Z1.1) (B i)) r = _
          unfold srcR
          rw [if_neg h8, if_neg h5, hv]
          by_cases e : r = d i
          · rw [e, pu_s, pu_s]
          · rw [pu_n _ _ e, pu_n _ _ e, k1.2 r (Or.inr hr), ihr r hr]
        · rw [hX, exS_op hop h8]
          show upd _ (d i) _ (16 + m) = srcM B o d a (srcN B o d a bn R M i).1 (srcN B o d a bn R M i).2 i m
          unfold srcM
          rw [if_neg h8, pu_n _ _ (by omega), k1.2 _ (Or.inl (by omega)), ihm]
/-- the code's run is the source's -/
theorem pure_run {B R M : Nat → Int32} {n : Nat} {o d a bn c : Nat → Nat} (h : srcOK n o d a bn) (hs : schOK (oF (lowF o d a bn n).1) (tF (lowF o d a bn n).1) (lF (lowF o d a bn n).1) (rF (lowF o d a bn n).1) (lowF o d a bn n).1.length c) {ws : List Nat} (hw : wall (lowF o d a bn n).1 c (mxF c (lowF o d a bn n).1.length) = ws) : okW B ws (R, M, [], 0, true) ∧ (∀ r, r < 8 → (finF 4 (runW B ws (R, M, [], 0, true))).1 r = (srcN B o d a bn R M n).1 r) ∧ ∀ m, (finF 4 (runW B ws (R, M, [], 0, true))).2.1 m = (srcN B o d a bn R M n).2 m := by
  subst hw
  have hlen := lowF_len o d a bn n
  have hn24 := h.1
  have hok : ∀ j, j < (lowF o d a bn n).1.length → opOK ((lowF o d a bn n).1.getD j zOp) := fun j hj => lowF_ok h n (Nat.le_refl _) _ (getD_mem hj)
  obtain ⟨h1, h2⟩ := code_run (B := B) (R := R) (M := M) hok hs (by omega)
  obtain ⟨k1, k2⟩ := low_run (B := B) (R := R) (M := M) h n (Nat.le_refl _)
  refine ⟨h1, fun r hr => ?_, fun m => ?_⟩
  · rw [← k1 r hr, ← h2, jn_lo _ _ (by omega)]
  · rw [← k2 m, ← h2, jn_hi]
end
section
/-! run -/
set_option maxHeartbeats 4000000 in
set_option maxRecDepth 100000 in
theorem met_X0_run (l : Launch) (S : St) (n : Nat) (o d a bn : Nat → Nat) (hs : xSrc S n o d a bn) (hpk : S 5 0 = nI 0 ∨ (S 5 0 = nI 1 ∧ codeOK S n o d a bn)) : gM wX l yX0_run cX0_run 1 (some .int) ({ frames := 6, cells := 0, slots := 0, locals := 136 }) [] S (fun r S1 => r = nI n ∧ (∀ k, k < 5 → S1 k = S k) ∧ S1 5 0 = nI 1 ∧ codeOK S1 n o d a bn ∧ (∀ q, q < 8 → S1 18 q = (srcN (S 4) o d a bn (S 18) (S 19) n).1 q) ∧ ∀ q, S1 19 q = (srcN (S 4) o d a bn (S 18) (S 19) n).2 q) := by
  refine g_start (own := RX0) (by decide) rfl (fun b => Nat.le_of_ble_eq_true rfl) ?_
  intro p e s m below meth c D Q T A ls C w hl
  have hl : lv_has ls 1 [(0, .ref (Q 0))] := hl
  refine lv_aload_n C.1 C.2.1 dX0_run_0 rfl (lv_at hl 0 rfl) ?_
  refine g_callv C w (met_X0_pack l _ n o d a bn hs hpk) rfl rfl cq_X0_X0_pack cy_X0_pack rfl rfl ⟨Nat.le_of_ble_eq_true rfl, Nat.le_of_ble_eq_true rfl⟩ ⟨Nat.zero_le _, Nat.zero_le _⟩ hl.1 rfl (Nat.le_of_ble_eq_true rfl) dX0_run_1 (fun SA H locs hp w => ?_)
  obtain ⟨⟨cyc, hsch, hxc⟩, hp5, hfr⟩ := hp
  obtain ⟨w1, w2, w3⟩ := pure_run (B := SA 4) (R := SA 18) (M := SA 19) hs.ok hsch rfl
  refine lv_aload_n C.1 C.2.1 dX0_run_4 rfl (lv_at hl 0 rfl) ?_
  refine g_callv C w (met_X0_execute l SA _ hxc w1) rfl rfl cq_X0_X0_execute cy_X0_execute rfl rfl ⟨Nat.le_of_ble_eq_true rfl, Nat.le_of_ble_eq_true rfl⟩ ⟨Nat.zero_le _, Nat.zero_le _⟩ hl.1 rfl (Nat.le_of_ble_eq_true rfl) dX0_run_5 (fun SB H locs hp w => ?_)
  obtain ⟨e1, e2, hf6⟩ := hp
  refine lv_aload_n C.1 C.2.1 dX0_run_8 rfl (lv_at hl 0 rfl) ?_
  refine xg_0 (v := nI n) C w (by rw [hf6 0 (by omega), hfr 0 (by omega)]; exact hs.2.1) dX0_run_9 ?_
  exact g_iret (v := nI n) C w ⟨rfl, fun k hk => by rw [hf6 k (by omega), hfr k (by omega)], by rw [hf6 5 (by omega)]; exact hp5, ⟨cyc, hsch, by rw [hf6 16 (by omega)]; exact hxc.1, by rw [hf6 17 (by omega)]; exact hxc.2⟩, fun q hq => by rw [e1, w2 q hq, hfr 4 (by omega), hfr 18 (by omega), hfr 19 (by omega)], fun q => by rw [e2, w3 q, hfr 4 (by omega), hfr 18 (by omega), hfr 19 (by omega)]⟩ dX0_run_12
end
section
/-! the machine and its model: the relation between their states, kept by every call -/
def rl (S S2 : St) (n : Nat) (o d a bn : Nat → Nat) : Prop := xSrc S n o d a bn ∧ xSrc S2 n o d a bn ∧ (∀ j, j < n → S 4 j = S2 4 j) ∧ (∀ r, r < 8 → S 18 r = S2 5 r) ∧ (∀ q, q < 16 → S 19 q = S2 6 q) ∧ (S 5 0 = nI 0 ∨ (S 5 0 = nI 1 ∧ codeOK S n o d a bn))
def rel (S S2 : St) : Prop := ∃ (n : Nat) (o d a bn : Nat → Nat), rl S S2 n o d a bn
theorem rel_0 : rel (fun _ _ => 0) (fun _ _ => 0) := ⟨0, fun _ => 0, fun _ => 0, fun _ => 0, fun _ => 0, ⟨Nat.zero_le _, nI_0.symm, fun j hj => absurd hj (Nat.not_lt_zero _)⟩, ⟨Nat.zero_le _, nI_0.symm, fun j hj => absurd hj (Nat.not_lt_zero _)⟩, fun j hj => absurd hj (Nat.not_lt_zero _), fun _ _ => rfl, fun _ _ => rfl, Or.inl nI_0.symm⟩
theorem codeOK.cg {S S1 : St} {n : Nat} {o d a bn : Nat → Nat} (h : codeOK S n o d a bn) (e1 : S1 16 = S 16) (e2 : S1 17 = S 17) : codeOK S1 n o d a bn := by
  obtain ⟨c, h1, h2, h3⟩ := h
  exact ⟨c, h1, by rw [e1]; exact h2, by rw [e2]; exact h3⟩
section RL
variable {S S1 S2 S3 : St} {n : Nat} {o d a bn : Nat → Nat} {r r2 x y : Int32}
theorem rl.to (h : rl S S2 n o d a bn) (e1 : ∀ k, k < 5 → S1 k = S k) (e2 : ∀ k, k < 5 → S3 k = S2 k) (e3 : ∀ r, r < 8 → S1 18 r = S3 5 r) (e4 : ∀ q, q < 16 → S1 19 q = S3 6 q) (e5 : S1 5 0 = nI 0 ∨ (S1 5 = S 5 ∧ S1 16 = S 16 ∧ S1 17 = S 17)) : rel S1 S3 := by
  obtain ⟨h1, h2, h3, h4, h5, h6⟩ := h
  refine ⟨n, o, d, a, bn, h1.cg e1, h2.cg e2, fun j hj => by rw [e1 4 (by omega), e2 4 (by omega)]; exact h3 j hj, e3, e4, ?_⟩
  rcases e5 with e | ⟨e, f, g⟩
  · exact Or.inl e
  · rw [e]
    rcases h6 with q | ⟨q1, q2⟩
    · exact Or.inl q
    · exact Or.inr ⟨q1, q2.cg f g⟩
theorem rl_links (h : rl S S2 n o d a bn) (hx : r = nI (lkF o d a bn n) ∧ S = S1) (hm : r2 = nI (lkF o d a bn n) ∧ S2 = S3) : r = r2 ∧ rel S1 S3 := by
  obtain ⟨rfl, rfl⟩ := hx
  obtain ⟨rfl, rfl⟩ := hm
  exact ⟨rfl, n, o, d, a, bn, h⟩
theorem rl_w (h : rl S S2 n o d a bn) (h1 : fr7 S S1) (h2 : S1 5 0 = nI 0) (h3 : fr9 S2 S3) : rel S1 S3 := by
  refine h.to (fun k hk => h1 k (by omega) (by omega)) (fun k hk => h3 k (by omega)) (fun r hr => ?_) (fun q hq => ?_) (Or.inl h2)
  · rw [h1 18 (by omega) (by omega), h3 5 (by omega)]
    exact h.2.2.2.1 r hr
  · rw [h1 19 (by omega) (by omega), h3 6 (by omega)]
    exact h.2.2.2.2.1 q hq
theorem rl_heaviest (h : rl S S2 n o d a bn) (hx : r = nI (hvF (wts o d a bn n) n) ∧ fr7 S S1 ∧ S1 5 0 = nI 0) (hm : r2 = nI (hvF (wts o d a bn n) n) ∧ fr9 S2 S3) : r = r2 ∧ rel S1 S3 :=
  ⟨hx.1.trans hm.1.symm, rl_w h hx.2.1 hx.2.2 hm.2⟩
theorem rl_weight (h : rl S S2 n o d a bn) (hx : (x < 0 ∨ nI n ≤ x → r = -1 ∧ S = S1) ∧ (∀ i, i < n → x = nI i → r = nI (wts o d a bn n i) ∧ fr7 S S1 ∧ S1 5 0 = nI 0)) (hm : (x < 0 ∨ nI n ≤ x → r2 = -1 ∧ S2 = S3) ∧ (∀ i, i < n → x = nI i → r2 = nI (wts o d a bn n i) ∧ fr9 S2 S3)) : r = r2 ∧ rel S1 S3 := by
  by_cases e : x < 0 ∨ nI n ≤ x
  · obtain ⟨rfl, rfl⟩ := hx.1 e
    obtain ⟨rfl, rfl⟩ := hm.1 e
    exact ⟨rfl, n, o, d, a, bn, h⟩
  · have hn := h.1.1
    obtain ⟨i, hi, rfl⟩ := nI_of (fun q => e (Or.inl q))
    have hin : i < n := Nat.lt_of_not_le fun q => e (Or.inr ((nI_leI (by omega) hi).mpr q))
    obtain ⟨rfl, a1, a2⟩ := hx.2 i hin rfl
    obtain ⟨rfl, a3⟩ := hm.2 i hin rfl
    exact ⟨rfl, rl_w h a1 a2 a3⟩
theorem rl_register (h : rl S S2 n o d a bn) (hx : r = rgF (S 18) x ∧ S = S1) (hm : r2 = rgF (S2 5) x ∧ S2 = S3) : r = r2 ∧ rel S1 S3 := by
  obtain ⟨rfl, rfl⟩ := hx
  obtain ⟨rfl, rfl⟩ := hm
  refine ⟨?_, n, o, d, a, bn, h⟩
  unfold rgF
  by_cases e : iR x = true
  · obtain ⟨j, hj, rfl⟩ := iR_of e
    rw [if_pos e, if_pos e, nI_clamp (by omega)]
    exact h.2.2.2.1 j (by omega)
  · rw [if_neg e, if_neg e]
theorem rl_memory (h : rl S S2 n o d a bn) (hx : r = mmF (S 19) x ∧ S = S1) (hm : r2 = mmF (S2 6) x ∧ S2 = S3) : r = r2 ∧ rel S1 S3 := by
  obtain ⟨rfl, rfl⟩ := hx
  obtain ⟨rfl, rfl⟩ := hm
  refine ⟨?_, n, o, d, a, bn, h⟩
  unfold mmF
  by_cases e : cR x = true
  · obtain ⟨j, hj, rfl⟩ := cR_of e
    rw [if_pos e, if_pos e, nI_clamp (by omega)]
    exact h.2.2.2.2.1 j (by omega)
  · rw [if_neg e, if_neg e]
theorem upd_both {f g : Nat → Int32} {k : Nat} {v : Int32} {j : Nat} (h : f j = g j) : upd f k v j = upd g k v j := by
  unfold upd
  split
  · rfl
  · exact h
theorem rl_setRegister (h : rl S S2 n o d a bn) (hx : r = bI (iR x) ∧ S1 = if iR x = true then up S 18 (upd (S 18) x.toNatClampNeg y) else S) (hm : r2 = bI (iR x) ∧ S3 = if iR x = true then up S2 5 (upd (S2 5) x.toNatClampNeg y) else S2) : r = r2 ∧ rel S1 S3 := by
  obtain ⟨rfl, h1⟩ := hx
  obtain ⟨rfl, h2⟩ := hm
  refine ⟨rfl, ?_⟩
  by_cases e : iR x = true
  · rw [if_pos e] at h1 h2
    subst h1 h2
    refine h.to (fun k hk => up_n _ _ (by omega)) (fun k hk => up_n _ _ (by omega)) (fun r hr => ?_) (fun q hq => ?_) (Or.inr ⟨up_n _ _ (by omega), up_n _ _ (by omega), up_n _ _ (by omega)⟩)
    · rw [up_s, up_s]
      exact upd_both (h.2.2.2.1 r hr)
    · rw [up_n _ _ (by omega), up_n _ _ (by omega)]
      exact h.2.2.2.2.1 q hq
  · rw [if_neg e] at h1 h2
    subst h1 h2
    exact ⟨n, o, d, a, bn, h⟩
theorem rl_setMemory (h : rl S S2 n o d a bn) (hx : r = bI (cR x) ∧ S1 = if cR x = true then up S 19 (upd (S 19) x.toNatClampNeg y) else S) (hm : r2 = bI (cR x) ∧ S3 = if cR x = true then up S2 6 (upd (S2 6) x.toNatClampNeg y) else S2) : r = r2 ∧ rel S1 S3 := by
  obtain ⟨rfl, h1⟩ := hx
  obtain ⟨rfl, h2⟩ := hm
  refine ⟨rfl, ?_⟩
  by_cases e : cR x = true
  · rw [if_pos e] at h1 h2
    subst h1 h2
    refine h.to (fun k hk => up_n _ _ (by omega)) (fun k hk => up_n _ _ (by omega)) (fun r hr => ?_) (fun q hq => ?_) (Or.inr ⟨up_n _ _ (by omega), up_n _ _ (by omega), up_n _ _ (by omega)⟩)
    · rw [up_n _ _ (by omega), up_n _ _ (by omega)]
      exact h.2.2.2.1 r hr
    · rw [up_s, up_s]
      exact upd_both (h.2.2.2.2.1 q hq)
  · rw [if_neg e] at h1 h2
    subst h1 h2
    exact ⟨n, o, d, a, bn, h⟩
theorem xSrc.sh {k : Nat} (h : xSrc S n o d a bn) (hn : k ≤ n) (e0 : S1 0 0 = nI k) (e : ∀ j, 1 ≤ j → j < 5 → S1 j = S j) : xSrc S1 k o d a bn := by
  obtain ⟨h1, h2, h3⟩ := h
  refine ⟨by omega, e0, fun j hj => ?_⟩
  rw [e 1 (by omega) (by omega), e 2 (by omega) (by omega), e 3 (by omega) (by omega), e 4 (by omega) (by omega)]
  exact h3 j (by omega)
theorem rl_short {k : Nat} (h : rl S S2 n o d a bn) (hn : k ≤ n) : rel (up (up S 0 (fun _ => nI k)) 5 (fun _ => nI 0)) (up S2 0 (fun _ => nI k)) := by
  obtain ⟨h1, h2, h3, h4, h5, -⟩ := h
  refine ⟨k, o, d, a, bn, h1.sh hn rfl (fun j a b => by rw [up_n _ _ (by omega), up_n _ _ (by omega)]), h2.sh hn rfl (fun j a b => up_n _ _ (by omega)), fun j hj => ?_, fun r hr => ?_, fun q hq => ?_, Or.inl (by rw [up_s])⟩
  · rw [up_n _ _ (by omega), up_n _ _ (by omega), up_n _ _ (by omega)]
    exact h3 j (by omega)
  · rw [up_n _ _ (by omega), up_n _ _ (by omega), up_n _ _ (by omega)]
    exact h4 r hr
  · rw [up_n _ _ (by omega), up_n _ _ (by omega), up_n _ _ (by omega)]
    exact h5 q hq
theorem rl_retract (h : rl S S2 n o d a bn) (hx : if n = 0 then r = -1 ∧ S = S1 else r = nI (n - 1) ∧ S1 = up (up S 0 (fun _ => nI (n - 1))) 5 (fun _ => nI 0)) (hm : if n = 0 then r2 = -1 ∧ S2 = S3 else r2 = nI (n - 1) ∧ S3 = up S2 0 (fun _ => nI (n - 1))) : r = r2 ∧ rel S1 S3 := by
  by_cases e : n = 0
  · rw [if_pos e] at hx hm
    obtain ⟨rfl, rfl⟩ := hx
    obtain ⟨rfl, rfl⟩ := hm
    exact ⟨rfl, n, o, d, a, bn, h⟩
  · rw [if_neg e] at hx hm
    obtain ⟨rfl, rfl⟩ := hx
    obtain ⟨rfl, rfl⟩ := hm
    exact ⟨rfl, rl_short h (by omega)⟩
theorem rl_drop (h : rl S S2 n o d a bn) (hx : r = nI n ∧ S1 = up (up S 0 (fun _ => nI 0)) 5 (fun _ => nI 0)) (hm : r2 = nI n ∧ S3 = up S2 0 (fun _ => nI 0)) : r = r2 ∧ rel S1 S3 := by
  obtain ⟨rfl, rfl⟩ := hx
  obtain ⟨rfl, rfl⟩ := hm
  exact ⟨rfl, rl_short h (Nat.zero_le _)⟩
theorem xSrc.em {vo vd va vb : Nat} {b : Int32} (h : xSrc S n o d a bn) (hn : n < 24) (e0 : S1 0 0 = nI (n + 1)) (e1 : S1 1 = upd (S 1) n (nI vo)) (e2 : S1 2 = upd (S 2) n (nI vd)) (e3 : S1 3 = upd (S 3) n (nI va)) (e4 : S1 4 = upd (S 4) n b) (h1 : vo ≤ 8) (h2 : vd ≤ 7) (h3 : va ≤ 7) (h4 : vo ≤ 5 → b = nI vb ∧ vb ≤ 7) : xSrc S1 (n + 1) (va_up o n vo) (va_up d n vd) (va_up a n va) (va_up bn n vb) := by
  refine ⟨by omega, e0, fun j hj => ?_⟩
  rw [e1, e2, e3, e4]
  by_cases e : j = n
  · subst e
    rw [pu_s, pu_s, pu_s, pu_s, va_up_self, va_up_self, va_up_self, va_up_self]
    exact ⟨rfl, rfl, rfl, h1, h2, h3, h4⟩
  · rw [pu_n _ _ e, pu_n _ _ e, pu_n _ _ e, pu_n _ _ e, va_up_ne _ _ e, va_up_ne _ _ e, va_up_ne _ _ e, va_up_ne _ _ e]
    exact h.2.2 j (by omega)
theorem emV_of {v d a b : Int32} (h : emV v d a b = true) : ∃ vo vd va vb : Nat, v = nI vo ∧ d = nI vd ∧ a = nI va ∧ vo ≤ 8 ∧ vd ≤ 7 ∧ va ≤ 7 ∧ (vo ≤ 5 → b = nI vb ∧ vb ≤ 7) := by
  unfold emV at h
  rw [Bool.and_eq_true, Bool.and_eq_true, Bool.and_eq_true, Bool.and_eq_true, decide_eq_true_eq, decide_eq_true_eq, Bool.or_eq_true, decide_eq_true_eq] at h
  obtain ⟨⟨⟨⟨h1, h2⟩, h3⟩, h4⟩, h5⟩ := h
  obtain ⟨vo, k1, rfl⟩ := nI_of2 (M := 8) (n := 8) (by decide) h1 (Int32.not_lt.mp h2)
  obtain ⟨vd, k2, rfl⟩ := iR_of h3
  obtain ⟨va, k3, rfl⟩ := iR_of h4
  rcases h5 with h5 | h5
  · have : 5 < vo := (nI_ltI (a := 5) (by decide) (by omega)).mp h5
    exact ⟨vo, vd, va, 0, rfl, rfl, rfl, k1, k2, k3, fun q => by omega⟩
  · obtain ⟨vb, k4, rfl⟩ := iR_of h5
    exact ⟨vo, vd, va, vb, rfl, rfl, rfl, k1, k2, k3, fun _ => ⟨rfl, k4⟩⟩
theorem rl_emit {v d1 a1 b1 : Int32} (h : rl S S2 n o d a bn) (hx : if 24 ≤ n then r = -2 ∧ S = S1 else if emV v d1 a1 b1 = false then r = -1 ∧ S = S1 else r = nI (n + 1) ∧ S1 = emX S n v d1 a1 b1) (hm : if 24 ≤ n then r2 = -2 ∧ S2 = S3 else if emV v d1 a1 b1 = false then r2 = -1 ∧ S2 = S3 else r2 = nI (n + 1) ∧ S3 = emM S2 n v d1 a1 b1) : r = r2 ∧ rel S1 S3 := by
  by_cases e : 24 ≤ n
  · rw [if_pos e] at hx hm
    obtain ⟨rfl, rfl⟩ := hx
    obtain ⟨rfl, rfl⟩ := hm
    exact ⟨rfl, n, o, d, a, bn, h⟩
  · rw [if_neg e] at hx hm
    by_cases e2 : emV v d1 a1 b1 = false
    · rw [if_pos e2] at hx hm
      obtain ⟨rfl, rfl⟩ := hx
      obtain ⟨rfl, rfl⟩ := hm
      exact ⟨rfl, n, o, d, a, bn, h⟩
    · rw [if_neg e2] at hx hm
      obtain ⟨rfl, rfl⟩ := hx
      obtain ⟨rfl, rfl⟩ := hm
      obtain ⟨vo, vd, va, vb, rfl, rfl, rfl, k1, k2, k3, k4⟩ := emV_of (v := v) (d := d1) (a := a1) (b := b1) (by cases hb : emV v d1 a1 b1; exact absurd hb e2; rfl)
      obtain ⟨h1, h2, h3, h4, h5, -⟩ := h
      refine ⟨rfl, n + 1, va_up o n vo, va_up d n vd, va_up a n va, va_up bn n vb, h1.em (by omega) rfl rfl rfl rfl rfl k1 k2 k3 k4, h2.em (by omega) rfl rfl rfl rfl rfl k1 k2 k3 k4, fun j hj => ?_, h4, h5, Or.inl rfl⟩
      show upd (S 4) n b1 j = upd (S2 4) n b1 j
      by_cases q : j = n
      · rw [q, pu_s, pu_s]
      · rw [pu_n _ _ q, pu_n _ _ q]
        exact h3 j (by omega)
theorem vaF_c2 {R M R1 M1 : Nat → Int32} {v d : Nat} {p q nb : Int32} (h1 : R d = R1 d) (h2 : M (adr (p + nb)) = M1 (adr (p + nb))) : vaF R M v d p q nb = vaF R1 M1 v d p q nb := by
  unfold vaF
  rw [h1, h2]
theorem srcN_cg {B B1 R R1 M M1 : Nat → Int32} (h : srcOK n o d a bn) (hB : ∀ j, j < n → B j = B1 j) (hR : ∀ r, r < 8 → R r = R1 r) (hM : ∀ q, q < 16 → M q = M1 q) : ∀ i, i ≤ n → (∀ r, r < 8 → (srcN B o d a bn R M i).1 r = (srcN B1 o d a bn R1 M1 i).1 r) ∧ ∀ q, q < 16 → (srcN B o d a bn R M i).2 q = (srcN B1 o d a bn R1 M1 i).2 q
  | 0, _ => ⟨hR, hM⟩
  | i + 1, hi => by
    obtain ⟨ih1, ih2⟩ := srcN_cg h hB hR hM i (by omega)
    obtain ⟨k1, k2, k3, k4⟩ := h.2 i (by omega)
    have hb := hB i (by omega)
    have ha := ih1 (a i) (by omega)
    have hd := ih1 (d i) (by omega)
    show (∀ r, r < 8 → srcR B o d a bn (srcN B o d a bn R M i).1 (srcN B o d a bn R M i).2 i r = srcR B1 o d a bn (srcN B1 o d a bn R1 M1 i).1 (srcN B1 o d a bn R1 M1 i).2 i r) ∧ ∀ q, q < 16 → srcM B o d a (srcN B o d a bn R M i).1 (srcN B o d a bn R M i).2 i q = srcM B1 o d a (srcN B1 o d a bn R1 M1 i).1 (srcN B1 o d a bn R1 M1 i).2 i q
    refine ⟨fun r hr => ?_, fun q hq => ?_⟩
    · unfold srcR
      by_cases e : o i = 8
      · rw [if_pos e, if_pos e]
        exact ih1 r hr
      · rw [if_neg e, if_neg e, ha, hb]
        have hq : (if o i ≤ 5 then (srcN B o d a bn R M i).1 (bn i) else 0) = (if o i ≤ 5 then (srcN B1 o d a bn R1 M1 i).1 (bn i) else 0) := by
          by_cases e5 : o i ≤ 5
          · rw [if_pos e5, if_pos e5]
            exact ih1 _ (by have := k4 e5; omega)
          · rw [if_neg e5, if_neg e5]
        rw [hq, vaF_c2 hd (ih2 _ (adr_lt _))]
        exact upd_both (ih1 r hr)
    · unfold srcM
      by_cases e : o i = 8
      · rw [if_pos e, if_pos e, ha, hb, hd]
        exact upd_both (ih2 q hq)
      · rw [if_neg e, if_neg e]
        exact ih2 q hq
theorem rl_run (h : rl S S2 n o d a bn) (hx : r = nI n ∧ (∀ k, k < 5 → S1 k = S k) ∧ S1 5 0 = nI 1 ∧ codeOK S1 n o d a bn ∧ (∀ q, q < 8 → S1 18 q = (srcN (S 4) o d a bn (S 18) (S 19) n).1 q) ∧ ∀ q, S1 19 q = (srcN (S 4) o d a bn (S 18) (S 19) n).2 q) (hm : r2 = nI n ∧ S3 5 = (srcN (S2 4) o d a bn (S2 5) (S2 6) n).1 ∧ S3 6 = (srcN (S2 4) o d a bn (S2 5) (S2 6) n).2 ∧ fr8 S2 S3) : r = r2 ∧ rel S1 S3 := by
  obtain ⟨rfl, x1, x2, x3, x4, x5⟩ := hx
  obtain ⟨rfl, m1, m2, m3⟩ := hm
  obtain ⟨h1, h2, h3, h4, h5, -⟩ := h
  obtain ⟨c1, c2⟩ := srcN_cg h1.ok h3 h4 h5 n (Nat.le_refl _)
  refine ⟨rfl, n, o, d, a, bn, h1.cg x1, h2.cg (fun k hk => m3 k (by omega) (by omega)), fun j hj => ?_, fun r hr => ?_, fun q hq => ?_, Or.inr ⟨x2, x3⟩⟩
  · rw [x1 4 (by omega), m3 4 (by omega) (by omega)]
    exact h3 j hj
  · rw [x4 r hr, m1]
    exact c1 r hr
  · rw [x5 q, m2]
    exact c2 q hq
end RL
end
section
/-! the law: its world, its calls (the first rows began as the skeleton of the kit) -/
def lw_P (b : Addr) (xs : List Int32) (args : Array Value) (s : State) : Prop := args = #[.ref b] ∧ s.IntsAt b xs ∧ xs.length ≤ 320 ∧ (Jvm.Cond.and given_1 narrow_1).before args s = true
def lw_Q (_ : Array Value) (s : State) (o : Outcome) (t : State) : Prop := o = .returned (some (.int 1)) ∧ Framed s o t [] 600000 7290000
def lw_Z (below : List Frame) (a : Array Value) (s : State) : State → Prop := fun t => ∃ o, t.status = .running ∧ Ended t below o ∧ lw_Q a s o t
/-- the law's own end, with 1 on the stack, nothing written that was there before, its room as the claim has it -/
theorem lw_ret {p : Program} {l : Launch} {e : Env} {s : State} {m : MethodId} {below : List Frame} {meth : Method} {c : Code} {b : Nat} (hx : p.tables.exec = Jvm.exec) (hb : c.code = code) (hr : meth.sig.returnType = ret) (hlocks : meth.locks = false) {pc : Nat} {H : Heap} {ls : Array Slot} (hdg : decode code pc = .ok (.ireturn, 1)) : W p l e room_1 s m #[Value.ref b] below meth c H [] 600000 7290000 (lw_Z below #[Value.ref b] s) (F0 m pc ls [.int 1]) := by
  intro T hT X
  obtain ⟨fs, hret, hrun, hended, hW, hframe⟩ := X.leave (v := some (.int 1)) (hlocks := hlocks) (fun h => by rw [hr] at h; cases h)
  have hmeth' : T.vm.method? m = some meth := X.method'
  refine ⟨T.setFrames fs, ?_, .returned (some (.int 1)), hrun, hended, rfl, ⟨_, rfl⟩, hW, hframe⟩
  jvm_step X.here [X.here.top, hx, hb, hdg, hmeth', hr, ret, narrow_b1]
  (try refine ⟨rfl, ?_⟩); (try refine ⟨rfl, ?_⟩)
  first | (intro acts; rw [hret _ acts rfl rfl rfl]) | rw [hret _ _ rfl rfl rfl]
  exact Steps.refl _
/-- what holds at the law's entry: the machine, the code, the tables' words (any of lw_tbl by 'hts w (by decide +kernel)'), the script of L ints xs at the cell b, what the Statement gives of the start (any of its parts by flat_of_before) -/
def lw_At (p : Program) (s : State) (m : MethodId) (meth : Method) (c : Code) (b L : Nat) (xs : Nat → Int32) : Prop :=
  p.tables.exec = Jvm.exec ∧ c.code = code ∧ meth.sig.returnType = ret ∧ c.maxLocals = 4 ∧ s.vm.findClass R_law = some m.cls ∧ (∀ w ∈ lw_tbl, w.before #[Value.ref b] s = true) ∧ va_X b L xs s s.heap ∧ b < s.heap.size ∧ meth.locks = false ∧ (Jvm.Cond.and given_1 narrow_1).before #[Value.ref b] s = true
/-- both objects -/
def gL (D : va_G) (Q Q2 : Nat → Nat) (T : Nat → ClassId) (s : State) (S S2 : St) (H : Heap) (locs : List Loc) : Prop := va_P D vwCl (wX Q T S ++ wM Q2 T S2) H ∧ va_D (fun q : Nat => s.heap.size ≤ q) (wX Q T S ++ wM Q2 T S2) ∧ va_S (fun q : Nat => s.heap.size ≤ q) s.heap H locs ∧ va_K D vwCl (tyX T) s
section LA
variable {p : Program} {l : Launch} {e : Env} {R : Room} {s : State} {m : MethodId} {args : Array Value} {below : List Frame} {meth : Method} {c : Code} {H : Heap} {locs : List Loc} {cells slots : Nat} {QQ : State → Prop}
variable {D : va_G} {Q Q2 : Nat → Nat} {T : Nat → ClassId} {S S2 : St} {cc : ByteArray} {nL : Nat} {ret0 : Option FieldType} {pc : Nat} {ls : Array Slot} {rest : List Value}
theorem l_callX {y : MethodName} {rm : Room} {bytes : ByteArray} {maxL index : Nat} {r2 : Option FieldType} {st : List Value} {As : List Value} {post : Int32 → St → Prop} (C : gC p s m args meth c R_law cc nL ret0) (w : gL D Q Q2 T s S S2 H locs) (hM : gM wX l y bytes maxL r2 rm As S post)
    (hq : GoodIn lw_all (wsV R_law index RX0 y (ws_ y bytes maxL r2))) (hy : y.cls = RX0 ∧ y.cls ≠ "java/lang/invoke/MethodHandle" ∧ y.cls ≠ "java/lang/invoke/VarHandle" ∧ (parseMethodDescriptor y.desc).map (fun d => d.parameters.length) = some As.length) (hc : rm.cells = 0) (hs : rm.slots = 0)
    (hR : rm.frames + 1 ≤ R.frames ∧ 8 + (maxL + 11) + rm.locals ≤ R.locals) (hlc : cells ≤ R.cells ∧ slots ≤ R.slots) (hl : ls.size = nL) (hst : st = As.reverse ++ .ref (Q 0) :: rest) (hrm : (rest.map fun v => v.category).sum ≤ 8) (hd : decode cc pc = .ok (.invokevirtual index, 3))
    (kk : ∀ (r : Int32) (S1 : St) (H1 : Heap) (locs1 : List Loc), post r S1 → gL D Q Q2 T s S1 S2 H1 locs1 → W p l e R s m args below meth c H1 locs1 cells slots QQ (F0 m (pc + 3) ls (.int r :: rest))) : W p l e R s m args below meth c H locs cells slots QQ (F0 m pc ls st) := by
  have hPc := w.1.sub (ws' := (wX Q T S)) [0, 1, 2, 3, 4, 5, 6, 7, 8, 9, 10, 11, 12, 13, 14, 15, 16, 17, 18, 19] rfl
  have hDc := w.2.1.sub (ws' := (wX Q T S)) [0, 1, 2, 3, 4, 5, 6, 7, 8, 9, 10, 11, 12, 13, 14, 15, 16, 17, 18, 19] (by decide) rfl
  have hF := va_free (wc := (wX Q T S)) w.2.1 w.2.2.1 (fun _ h => h) [0, 1, 2, 3, 4, 5, 6, 7, 8, 9, 10, 11, 12, 13, 14, 15, 16, 17, 18, 19] rfl
  refine va_calli (va_runV (As := As) (rest := rest) ⟨C.1, C.2.1, C.2.2.1, C.2.2.2.1, C.2.2.2.2.1⟩ (hM D Q T H.size) (cwV As.length C.2.2.2.2.1 hq rfl hc hs hy hR) ⟨g_blind, va_recv (q0 := 0) (ci := 0) w.2.2.2 hPc rfl rfl, fun U hU hW => ⟨rfl, by rw [hU], by rw [hU]; exact hPc, va_K.moved hW.alike w.2.2.2, hDc.weaken (fun _ _ _ _ => trivial)⟩⟩ rfl rfl hl hst (lv_room hrm) hd hlc) w.2.2.1 (fun q _ h => hF q h) hF (fun r u t H1 locs1 ht hvm hp hB hz1 hk1 hS => ?_)
  obtain ⟨hP1, hK1, hD1⟩ := hB
  rw [ht] at hP1
  obtain ⟨hP2, hD2⟩ := va_join (wr := (wM Q2 T S2)) (w1 := (wX Q T u)) w.1 w.2.1 [0, 1, 2, 3, 4, 5, 6, 7, 8, 9, 10, 11, 12, 13, 14, 15, 16, 17, 18, 19] [20, 21, 22, 23, 24, 25, 26, 27] rfl rfl (by decide) (by decide) hk1 hF hP1 hD1
  exact kk r u H1 locs1 hp ⟨hP2.sub [8, 9, 10, 11, 12, 13, 14, 15, 16, 17, 18, 19, 20, 21, 22, 23, 24, 25, 26, 27, 0, 1, 2, 3, 4, 5, 6, 7] rfl, hD2.sub [8, 9, 10, 11, 12, 13, 14, 15, 16, 17, 18, 19, 20, 21, 22, 23, 24, 25, 26, 27, 0, 1, 2, 3, 4, 5, 6, 7] (by decide) rfl, hS, w.2.2.2⟩
theorem l_callM {y : MethodName} {rm : Room} {bytes : ByteArray} {maxL index : Nat} {r2 : Option FieldType} {st : List Value} {As : List Value} {post : Int32 → St → Prop} (C : gC p s m args meth c R_law cc nL ret0) (w : gL D Q Q2 T s S S2 H locs) (hM : gM wM l y bytes maxL r2 rm As S2 post)
    (hq : GoodIn lw_all (wsV R_law index RX1 y (ws_ y bytes maxL r2))) (hy : y.cls = RX1 ∧ y.cls ≠ "java/lang/invoke/MethodHandle" ∧ y.cls ≠ "java/lang/invoke/VarHandle" ∧ (parseMethodDescriptor y.desc).map (fun d => d.parameters.length) = some As.length) (hc : rm.cells = 0) (hs : rm.slots = 0)
    (hR : rm.frames + 1 ≤ R.frames ∧ 8 + (maxL + 11) + rm.locals ≤ R.locals) (hlc : cells ≤ R.cells ∧ slots ≤ R.slots) (hl : ls.size = nL) (hst : st = As.reverse ++ .ref (Q2 0) :: rest) (hrm : (rest.map fun v => v.category).sum ≤ 8) (hd : decode cc pc = .ok (.invokevirtual index, 3))
    (kk : ∀ (r : Int32) (S1 : St) (H1 : Heap) (locs1 : List Loc), post r S1 → gL D Q Q2 T s S S1 H1 locs1 → W p l e R s m args below meth c H1 locs1 cells slots QQ (F0 m (pc + 3) ls (.int r :: rest))) : W p l e R s m args below meth c H locs cells slots QQ (F0 m pc ls st) := by
  have hPc := w.1.sub (ws' := (wM Q2 T S2)) [20, 21, 22, 23, 24, 25, 26, 27] rfl
  have hDc := w.2.1.sub (ws' := (wM Q2 T S2)) [20, 21, 22, 23, 24, 25, 26, 27] (by decide) rfl
  have hF := va_free (wc := (wM Q2 T S2)) w.2.1 w.2.2.1 (fun _ h => h) [20, 21, 22, 23, 24, 25, 26, 27] rfl
  refine va_calli (va_runV (As := As) (rest := rest) ⟨C.1, C.2.1, C.2.2.1, C.2.2.2.1, C.2.2.2.2.1⟩ (hM D Q2 T H.size) (cwV As.length C.2.2.2.2.1 hq rfl hc hs hy hR) ⟨g_blind, va_recv (q0 := 0) (ci := 1) w.2.2.2 hPc rfl rfl, fun U hU hW => ⟨rfl, by rw [hU], by rw [hU]; exact hPc, va_K.moved hW.alike w.2.2.2, hDc.weaken (fun _ _ _ _ => trivial)⟩⟩ rfl rfl hl hst (lv_room hrm) hd hlc) w.2.2.1 (fun q _ h => hF q h) hF (fun r u t H1 locs1 ht hvm hp hB hz1 hk1 hS => ?_)
  obtain ⟨hP1, hK1, hD1⟩ := hB
  rw [ht] at hP1
  obtain ⟨hP2, hD2⟩ := va_join (wr := (wX Q T S)) (w1 := (wM Q2 T u)) w.1 w.2.1 [20, 21, 22, 23, 24, 25, 26, 27] [0, 1, 2, 3, 4, 5, 6, 7, 8, 9, 10, 11, 12, 13, 14, 15, 16, 17, 18, 19] rfl rfl (by decide) (by decide) hk1 hF hP1 hD1
  exact kk r u H1 locs1 hp ⟨hP2, hD2, hS, w.2.2.2⟩
/-- a number of the script -/
theorem l_ld {b L j : Nat} {xs : Nat → Int32} (C : gC p s m args meth c R_law cc nL ret0) (w : gL D Q Q2 T s S S2 H locs) (hX : va_X b L xs s s.heap) (hbl : b < s.heap.size) (hL : L ≤ 320) (hj : j < L) (hd : decode cc pc = .ok (.iaload, 1)) (k : W p l e R s m args below meth c H locs cells slots QQ (F0 m (pc + 1) ls (.int (xs j) :: rest))) : W p l e R s m args below meth c H locs cells slots QQ (F0 m pc ls (.int (nI j) :: .ref b :: rest)) :=
  va_sld C.1 C.2.1 hX hbl (Nat.not_le.mpr hbl) w.2.2.1 (nI_in hj (by omega)) hd (by rw [nI_clamp (by omega)]; exact k)
end LA
/-- the law goes on at pc, with the number i -/
def lK (p : Program) (l : Launch) (e : Env) (s : State) (m : MethodId) (b : Nat) (below : List Frame) (meth : Method) (c : Code) (D : va_G) (Q Q2 : Nat → Nat) (T : Nat → ClassId) (cells slots i pc : Nat) : Prop := ∀ (S S2 : St) (H : Heap) (locs : List Loc) (ls : Array Slot), rel S S2 → gL D Q Q2 T s S S2 H locs → lv_has ls 4 [(3, .int (nI i)), (2, .ref (Q2 0)), (1, .ref (Q 0)), (0, .ref b)] → W p l e room_1 s m #[Value.ref b] below meth c H locs cells slots (lw_Z below #[Value.ref b] s) (F0 m pc ls [])
theorem sub5 {L : Nat} (h : L ≤ 320) : (nI L - nI 5).toInt = (L : Int) - 5 := by
  by_cases e : L < 5
  · exact (by decide +kernel : ∀ L, L < 5 → (nI L - nI 5).toInt = (L : Int) - 5) L e
  · obtain ⟨k, rfl⟩ : ∃ k, L = k + 5 := ⟨L - 5, by omega⟩
    rw [← nI_add, Int32.add_sub_cancel, nI_toInt (by omega)]
    omega
theorem lt5 {L i : Nat} (h : L ≤ 320) (hi : i ≤ 320) : nI L - nI 5 < nI i ↔ L < i + 5 := by
  rw [Int32.lt_iff_toInt_lt, sub5 h, nI_toInt (by omega)]
  omega
end
section
/-! the law: a call of both, case by case; the loop -/
section LC
variable {p : Program} {l : Launch} {e : Env} {s : State} {m : MethodId} {below : List Frame} {meth : Method} {c : Code} {cells slots : Nat}
variable {D : va_G} {Q Q2 : Nat → Nat} {T : Nat → ClassId} {b L i : Nat} {xs : Nat → Int32}
set_option maxHeartbeats 4000000 in
set_option maxRecDepth 100000 in
theorem law_emit (C : gC p s m #[Value.ref b] meth c R_law code 4 ret) (hX : va_X b L xs s s.heap) (hbl : b < s.heap.size) (hL : L ≤ 320) (hcs : cells ≤ 600000 ∧ slots ≤ 7290000) (hi : i + 5 ≤ L) (k : lK p l e s m b below meth c D Q Q2 T cells slots i 345) : lK p l e s m b below meth c D Q Q2 T cells slots i 92 := by
  intro S S2 H locs ls hrel w hl
  obtain ⟨n, o, d, a, bn, hr⟩ := hrel
  refine lv_aload_n C.1 C.2.1 dL_law_92 rfl (lv_at hl 2 rfl) ?_
  refine lv_aload_n C.1 C.2.1 dL_law_93 rfl (lv_at hl 3 rfl) ?_
  refine lv_iload_n C.1 C.2.1 dL_law_94 rfl (lv_at hl 0 rfl) ?_
  refine n_const (v := nI 1) C dL_law_95 (by decide) ?_
  refine n_iadd (v := nI (i + 1)) C dL_law_96 (nI_add _ _) ?_
  refine l_ld C w hX hbl hL (by omega) dL_law_97 ?_
  refine lv_aload_n C.1 C.2.1 dL_law_98 rfl (lv_at hl 3 rfl) ?_
  refine lv_iload_n C.1 C.2.1 dL_law_99 rfl (lv_at hl 0 rfl) ?_
  refine n_const (v := nI 2) C dL_law_100 (by decide) ?_
  refine n_iadd (v := nI (i + 2)) C dL_law_101 (nI_add _ _) ?_
  refine l_ld C w hX hbl hL (by omega) dL_law_102 ?_
  refine lv_aload_n C.1 C.2.1 dL_law_103 rfl (lv_at hl 3 rfl) ?_
  refine lv_iload_n C.1 C.2.1 dL_law_104 rfl (lv_at hl 0 rfl) ?_
  refine n_const (v := nI 3) C dL_law_105 (by decide) ?_
  refine n_iadd (v := nI (i + 3)) C dL_law_106 (nI_add _ _) ?_
  refine l_ld C w hX hbl hL (by omega) dL_law_107 ?_
  refine lv_aload_n C.1 C.2.1 dL_law_108 rfl (lv_at hl 3 rfl) ?_
  refine lv_iload_n C.1 C.2.1 dL_law_109 rfl (lv_at hl 0 rfl) ?_
  refine n_const (v := nI 4) C dL_law_110 (by decide) ?_
  refine n_iadd (v := nI (i + 4)) C dL_law_111 (nI_add _ _) ?_
  refine l_ld C w hX hbl hL (by omega) dL_law_112 ?_
  refine l_callX C w (met_X0_emit l S n (xs (i + 1)) (xs (i + 2)) (xs (i + 3)) (xs (i + 4)) hr.1.1 hr.1.2.1) cq_L_X0_emit cy_X0_emit rfl rfl ⟨Nat.le_of_ble_eq_true rfl, Nat.le_of_ble_eq_true rfl⟩ hcs hl.1 rfl (Nat.le_of_ble_eq_true rfl) dL_law_113 (fun r0 S3 H locs hp0 w => ?_)
  refine lv_aload_n C.1 C.2.1 dL_law_116 rfl (lv_at hl 1 rfl) ?_
  refine lv_aload_n C.1 C.2.1 dL_law_117 rfl (lv_at hl 3 rfl) ?_
  refine lv_iload_n C.1 C.2.1 dL_law_118 rfl (lv_at hl 0 rfl) ?_
  refine n_const (v := nI 1) C dL_law_119 (by decide) ?_
  refine n_iadd (v := nI (i + 1)) C dL_law_120 (nI_add _ _) ?_
  refine l_ld C w hX hbl hL (by omega) dL_law_121 ?_
  refine lv_aload_n C.1 C.2.1 dL_law_122 rfl (lv_at hl 3 rfl) ?_
  refine lv_iload_n C.1 C.2.1 dL_law_123 rfl (lv_at hl 0 rfl) ?_
  refine n_const (v := nI 2) C dL_law_124 (by decide) ?_
  refine n_iadd (v := nI (i + 2)) C dL_law_125 (nI_add _ _) ?_
  refine l_ld C w hX hbl hL (by omega) dL_law_126 ?_
  refine lv_aload_n C.1 C.2.1 dL_law_127 rfl (lv_at hl 3 rfl) ?_
  refine lv_iload_n C.1 C.2.1 dL_law_128 rfl (lv_at hl 0 rfl) ?_
  refine n_const (v := nI 3) C dL_law_129 (by decide) ?_
  refine n_iadd (v := nI (i + 3)) C dL_law_130 (nI_add _ _) ?_
  refine l_ld C w hX hbl hL (by omega) dL_law_131 ?_
  refine lv_aload_n C.1 C.2.1 dL_law_132 rfl (lv_at hl 3 rfl) ?_
  refine lv_iload_n C.1 C.2.1 dL_law_133 rfl (lv_at hl 0 rfl) ?_
  refine n_const (v := nI 4) C dL_law_134 (by decide) ?_
  refine n_iadd (v := nI (i + 4)) C dL_law_135 (nI_add _ _) ?_
  refine l_ld C w hX hbl hL (by omega) dL_law_136 ?_
  refine l_callM C w (met_X1_emit l S2 n (xs (i + 1)) (xs (i + 2)) (xs (i + 3)) (xs (i + 4)) hr.2.1.1 hr.2.1.2.1) cq_L_X1_emit cy_X1_emit rfl rfl ⟨Nat.le_of_ble_eq_true rfl, Nat.le_of_ble_eq_true rfl⟩ hcs hl.1 rfl (Nat.le_of_ble_eq_true rfl) dL_law_137 (fun r1 S4 H locs hp1 w => ?_)
  obtain ⟨he, hrel⟩ := rl_emit hr hp0 hp1
  exact r_icmp_eq (tgt := 345) C dL_law_140 (by decide) (fun _ => k _ _ _ _ _ hrel w hl) (fun h => absurd he h)
set_option maxHeartbeats 4000000 in
set_option maxRecDepth 100000 in
theorem law_retract (C : gC p s m #[Value.ref b] meth c R_law code 4 ret) (hX : va_X b L xs s s.heap) (hbl : b < s.heap.size) (hL : L ≤ 320) (hcs : cells ≤ 600000 ∧ slots ≤ 7290000) (hi : i + 5 ≤ L) (k : lK p l e s m b below meth c D Q Q2 T cells slots i 345) : lK p l e s m b below meth c D Q Q2 T cells slots i 145 := by
  intro S S2 H locs ls hrel w hl
  obtain ⟨n, o, d, a, bn, hr⟩ := hrel
  refine lv_aload_n C.1 C.2.1 dL_law_145 rfl (lv_at hl 2 rfl) ?_
  refine l_callX C w (met_X0_retract l S n hr.1.1 hr.1.2.1) cq_L_X0_retract cy_X0_retract rfl rfl ⟨Nat.le_of_ble_eq_true rfl, Nat.le_of_ble_eq_true rfl⟩ hcs hl.1 rfl (Nat.le_of_ble_eq_true rfl) dL_law_146 (fun r0 S3 H locs hp0 w => ?_)
  refine lv_aload_n C.1 C.2.1 dL_law_149 rfl (lv_at hl 1 rfl) ?_
  refine l_callM C w (met_X1_retract l S2 n hr.2.1.1 hr.2.1.2.1) cq_L_X1_retract cy_X1_retract rfl rfl ⟨Nat.le_of_ble_eq_true rfl, Nat.le_of_ble_eq_true rfl⟩ hcs hl.1 rfl (Nat.le_of_ble_eq_true rfl) dL_law_150 (fun r1 S4 H locs hp1 w => ?_)
  obtain ⟨he, hrel⟩ := rl_retract hr hp0 hp1
  exact r_icmp_eq (tgt := 345) C dL_law_153 (by decide) (fun _ => k _ _ _ _ _ hrel w hl) (fun h => absurd he h)
set_option maxHeartbeats 4000000 in
set_option maxRecDepth 100000 in
theorem law_drop (C : gC p s m #[Value.ref b] meth c R_law code 4 ret) (hX : va_X b L xs s s.heap) (hbl : b < s.heap.size) (hL : L ≤ 320) (hcs : cells ≤ 600000 ∧ slots ≤ 7290000) (hi : i + 5 ≤ L) (k : lK p l e s m b below meth c D Q Q2 T cells slots i 345) : lK p l e s m b below meth c D Q Q2 T cells slots i 158 := by
  intro S S2 H locs ls hrel w hl
  obtain ⟨n, o, d, a, bn, hr⟩ := hrel
  refine lv_aload_n C.1 C.2.1 dL_law_158 rfl (lv_at hl 2 rfl) ?_
  refine l_callX C w (met_X0_drop l S n hr.1.1 hr.1.2.1) cq_L_X0_drop cy_X0_drop rfl rfl ⟨Nat.le_of_ble_eq_true rfl, Nat.le_of_ble_eq_true rfl⟩ hcs hl.1 rfl (Nat.le_of_ble_eq_true rfl) dL_law_159 (fun r0 S3 H locs hp0 w => ?_)
  refine lv_aload_n C.1 C.2.1 dL_law_162 rfl (lv_at hl 1 rfl) ?_
  refine l_callM C w (met_X1_drop l S2 n hr.2.1.1 hr.2.1.2.1) cq_L_X1_drop cy_X1_drop rfl rfl ⟨Nat.le_of_ble_eq_true rfl, Nat.le_of_ble_eq_true rfl⟩ hcs hl.1 rfl (Nat.le_of_ble_eq_true rfl) dL_law_163 (fun r1 S4 H locs hp1 w => ?_)
  obtain ⟨he, hrel⟩ := rl_drop hr hp0 hp1
  exact r_icmp_eq (tgt := 345) C dL_law_166 (by decide) (fun _ => k _ _ _ _ _ hrel w hl) (fun h => absurd he h)
set_option maxHeartbeats 4000000 in
set_option maxRecDepth 100000 in
theorem law_run (C : gC p s m #[Value.ref b] meth c R_law code 4 ret) (hX : va_X b L xs s s.heap) (hbl : b < s.heap.size) (hL : L ≤ 320) (hcs : cells ≤ 600000 ∧ slots ≤ 7290000) (hi : i + 5 ≤ L) (k : lK p l e s m b below meth c D Q Q2 T cells slots i 345) : lK p l e s m b below meth c D Q Q2 T cells slots i 171 := by
  intro S S2 H locs ls hrel w hl
  obtain ⟨n, o, d, a, bn, hr⟩ := hrel
  refine lv_aload_n C.1 C.2.1 dL_law_171 rfl (lv_at hl 2 rfl) ?_
  refine l_callX C w (met_X0_run l S n o d a bn hr.1 hr.2.2.2.2.2) cq_L_X0_run cy_X0_run rfl rfl ⟨Nat.le_of_ble_eq_true rfl, Nat.le_of_ble_eq_true rfl⟩ hcs hl.1 rfl (Nat.le_of_ble_eq_true rfl) dL_law_172 (fun r0 S3 H locs hp0 w => ?_)
  refine lv_aload_n C.1 C.2.1 dL_law_175 rfl (lv_at hl 1 rfl) ?_
  refine l_callM C w (met_X1_run l S2 n o d a bn hr.2.1) cq_L_X1_run cy_X1_run rfl rfl ⟨Nat.le_of_ble_eq_true rfl, Nat.le_of_ble_eq_true rfl⟩ hcs hl.1 rfl (Nat.le_of_ble_eq_true rfl) dL_law_176 (fun r1 S4 H locs hp1 w => ?_)
  obtain ⟨he, hrel⟩ := rl_run hr hp0 hp1
  exact r_icmp_eq (tgt := 345) C dL_law_179 (by decide) (fun _ => k _ _ _ _ _ hrel w hl) (fun h => absurd he h)
set_option maxHeartbeats 4000000 in
set_option maxRecDepth 100000 in
theorem law_register (C : gC p s m #[Value.ref b] meth c R_law code 4 ret) (hX : va_X b L xs s s.heap) (hbl : b < s.heap.size) (hL : L ≤ 320) (hcs : cells ≤ 600000 ∧ slots ≤ 7290000) (hi : i + 5 ≤ L) (k : lK p l e s m b below meth c D Q Q2 T cells slots i 345) : lK p l e s m b below meth c D Q Q2 T cells slots i 184 := by
  intro S S2 H locs ls hrel w hl
  obtain ⟨n, o, d, a, bn, hr⟩ := hrel
  refine lv_aload_n C.1 C.2.1 dL_law_184 rfl (lv_at hl 2 rfl) ?_
  refine lv_aload_n C.1 C.2.1 dL_law_185 rfl (lv_at hl 3 rfl) ?_
  refine lv_iload_n C.1 C.2.1 dL_law_186 rfl (lv_at hl 0 rfl) ?_
  refine n_const (v := nI 1) C dL_law_187 (by decide) ?_
  refine n_iadd (v := nI (i + 1)) C dL_law_188 (nI_add _ _) ?_
  refine l_ld C w hX hbl hL (by omega) dL_law_189 ?_
  refine l_callX C w (met_X0_register l S (xs (i + 1))) cq_L_X0_register cy_X0_register rfl rfl ⟨Nat.le_of_ble_eq_true rfl, Nat.le_of_ble_eq_true rfl⟩ hcs hl.1 rfl (Nat.le_of_ble_eq_true rfl) dL_law_190 (fun r0 S3 H locs hp0 w => ?_)
  refine lv_aload_n C.1 C.2.1 dL_law_193 rfl (lv_at hl 1 rfl) ?_
  refine lv_aload_n C.1 C.2.1 dL_law_194 rfl (lv_at hl 3 rfl) ?_
  refine lv_iload_n C.1 C.2.1 dL_law_195 rfl (lv_at hl 0 rfl) ?_
  refine n_const (v := nI 1) C dL_law_196 (by decide) ?_
  refine n_iadd (v := nI (i + 1)) C dL_law_197 (nI_add _ _) ?_
  refine l_ld C w hX hbl hL (by omega) dL_law_198 ?_
  refine l_callM C w (met_X1_register l S2 (xs (i + 1))) cq_L_X1_register cy_X1_register rfl rfl ⟨Nat.le_of_ble_eq_true rfl, Nat.le_of_ble_eq_true rfl⟩ hcs hl.1 rfl (Nat.le_of_ble_eq_true rfl) dL_law_199 (fun r1 S4 H locs hp1 w => ?_)
  obtain ⟨he, hrel⟩ := rl_register hr hp0 hp1
  exact r_icmp_eq (tgt := 345) C dL_law_202 (by decide) (fun _ => k _ _ _ _ _ hrel w hl) (fun h => absurd he h)
set_option maxHeartbeats 4000000 in
set_option maxRecDepth 100000 in
theorem law_setRegister (C : gC p s m #[Value.ref b] meth c R_law code 4 ret) (hX : va_X b L xs s s.heap) (hbl : b < s.heap.size) (hL : L ≤ 320) (hcs : cells ≤ 600000 ∧ slots ≤ 7290000) (hi : i + 5 ≤ L) (k : lK p l e s m b below meth c D Q Q2 T cells slots i 345) : lK p l e s m b below meth c D Q Q2 T cells slots i 207 := by
  intro S S2 H locs ls hrel w hl
  obtain ⟨n, o, d, a, bn, hr⟩ := hrel
  refine lv_aload_n C.1 C.2.1 dL_law_207 rfl (lv_at hl 2 rfl) ?_
  refine lv_aload_n C.1 C.2.1 dL_law_208 rfl (lv_at hl 3 rfl) ?_
  refine lv_iload_n C.1 C.2.1 dL_law_209 rfl (lv_at hl 0 rfl) ?_
  refine n_const (v := nI 1) C dL_law_210 (by decide) ?_
  refine n_iadd (v := nI (i + 1)) C dL_law_211 (nI_add _ _) ?_
  refine l_ld C w hX hbl hL (by omega) dL_law_212 ?_
  refine lv_aload_n C.1 C.2.1 dL_law_213 rfl (lv_at hl 3 rfl) ?_
  refine lv_iload_n C.1 C.2.1 dL_law_214 rfl (lv_at hl 0 rfl) ?_
  refine n_const (v := nI 2) C dL_law_215 (by decide) ?_
  refine n_iadd (v := nI (i + 2)) C dL_law_216 (nI_add _ _) ?_
  refine l_ld C w hX hbl hL (by omega) dL_law_217 ?_
  refine l_callX C w (met_X0_setRegister l S (xs (i + 1)) (xs (i + 2))) cq_L_X0_setRegister cy_X0_setRegister rfl rfl ⟨Nat.le_of_ble_eq_true rfl, Nat.le_of_ble_eq_true rfl⟩ hcs hl.1 rfl (Nat.le_of_ble_eq_true rfl) dL_law_218 (fun r0 S3 H locs hp0 w => ?_)
  refine lv_aload_n C.1 C.2.1 dL_law_221 rfl (lv_at hl 1 rfl) ?_
  refine lv_aload_n C.1 C.2.1 dL_law_222 rfl (lv_at hl 3 rfl) ?_
  refine lv_iload_n C.1 C.2.1 dL_law_223 rfl (lv_at hl 0 rfl) ?_
  refine n_const (v := nI 1) C dL_law_224 (by decide) ?_
  refine n_iadd (v := nI (i + 1)) C dL_law_225 (nI_add _ _) ?_
  refine l_ld C w hX hbl hL (by omega) dL_law_226 ?_
  refine lv_aload_n C.1 C.2.1 dL_law_227 rfl (lv_at hl 3 rfl) ?_
  refine lv_iload_n C.1 C.2.1 dL_law_228 rfl (lv_at hl 0 rfl) ?_
  refine n_const (v := nI 2) C dL_law_229 (by decide) ?_
  refine n_iadd (v := nI (i + 2)) C dL_law_230 (nI_add _ _) ?_
  refine l_ld C w hX hbl hL (by omega) dL_law_231 ?_
  refine l_callM C w (met_X1_setRegister l S2 (xs (i + 1)) (xs (i + 2))) cq_L_X1_setRegister cy_X1_setRegister rfl rfl ⟨Nat.le_of_ble_eq_true rfl, Nat.le_of_ble_eq_true rfl⟩ hcs hl.1 rfl (Nat.le_of_ble_eq_true rfl) dL_law_232 (fun r1 S4 H locs hp1 w => ?_)
  obtain ⟨he, hrel⟩ := rl_setRegister hr hp0 hp1
  exact r_icmp_eq (tgt := 345) C dL_law_235 (by decide) (fun _ => k _ _ _ _ _ hrel w hl) (fun h => absurd he h)
set_option maxHeartbeats 4000000 in
set_option maxRecDepth 100000 in
theorem law_memory (C : gC p s m #[Value.ref b] meth c R_law code 4 ret) (hX : va_X b L xs s s.heap) (hbl : b < s.heap.size) (hL : L ≤ 320) (hcs : cells ≤ 600000 ∧ slots ≤ 7290000) (hi : i + 5 ≤ L) (k : lK p l e s m b below meth c D Q Q2 T cells slots i 345) : lK p l e s m b below meth c D Q Q2 T cells slots i 240 := by
  intro S S2 H locs ls hrel w hl
  obtain ⟨n, o, d, a, bn, hr⟩ := hrel
  refine lv_aload_n C.1 C.2.1 dL_law_240 rfl (lv_at hl 2 rfl) ?_
  refine lv_aload_n C.1 C.2.1 dL_law_241 rfl (lv_at hl 3 rfl) ?_
  refine lv_iload_n C.1 C.2.1 dL_law_242 rfl (lv_at hl 0 rfl) ?_
  refine n_const (v := nI 1) C dL_law_243 (by decide) ?_
  refine n_iadd (v := nI (i + 1)) C dL_law_244 (nI_add _ _) ?_
  refine l_ld C w hX hbl hL (by omega) dL_law_245 ?_
  refine l_callX C w (met_X0_memory l S (xs (i + 1))) cq_L_X0_memory cy_X0_memory rfl rfl ⟨Nat.le_of_ble_eq_true rfl, Nat.le_of_ble_eq_true rfl⟩ hcs hl.1 rfl (Nat.le_of_ble_eq_true rfl) dL_law_246 (fun r0 S3 H locs hp0 w => ?_)
  refine lv_aload_n C.1 C.2.1 dL_law_249 rfl (lv_at hl 1 rfl) ?_
  refine lv_aload_n C.1 C.2.1 dL_law_250 rfl (lv_at hl 3 rfl) ?_
  refine lv_iload_n C.1 C.2.1 dL_law_251 rfl (lv_at hl 0 rfl) ?_
  refine n_const (v := nI 1) C dL_law_252 (by decide) ?_
  refine n_iadd (v := nI (i + 1)) C dL_law_253 (nI_add _ _) ?_
  refine l_ld C w hX hbl hL (by omega) dL_law_254 ?_
  refine l_callM C w (met_X1_memory l S2 (xs (i + 1))) cq_L_X1_memory cy_X1_memory rfl rfl ⟨Nat.le_of_ble_eq_true rfl, Nat.le_of_ble_eq_true rfl⟩ hcs hl.1 rfl (Nat.le_of_ble_eq_true rfl) dL_law_255 (fun r1 S4 H locs hp1 w => ?_)
  obtain ⟨he, hrel⟩ := rl_memory hr hp0 hp1
  exact r_icmp_eq (tgt := 345) C dL_law_258 (by decide) (fun _ => k _ _ _ _ _ hrel w hl) (fun h => absurd he h)
set_option maxHeartbeats 4000000 in
set_option maxRecDepth 100000 in
theorem law_setMemory (C : gC p s m #[Value.ref b] meth c R_law code 4 ret) (hX : va_X b L xs s s.heap) (hbl : b < s.heap.size) (hL : L ≤ 320) (hcs : cells ≤ 600000 ∧ slots ≤ 7290000) (hi : i + 5 ≤ L) (k : lK p l e s m b below meth c D Q Q2 T cells slots i 345) : lK p l e s m b below meth c D Q Q2 T cells slots i 263 := by
  intro S S2 H locs ls hrel w hl
  obtain ⟨n, o, d, a, bn, hr⟩ := hrel
  refine lv_aload_n C.1 C.2.1 dL_law_263 rfl (lv_at hl 2 rfl) ?_
  refine lv_aload_n C.1 C.2.1 dL_law_264 rfl (lv_at hl 3 rfl) ?_
  refine lv_iload_n C.1 C.2.1 dL_law_265 rfl (lv_at hl 0 rfl) ?_
  refine n_const (v := nI 1) C dL_law_266 (by decide) ?_
  refine n_iadd (v := nI (i + 1)) C dL_law_267 (nI_add _ _) ?_
  refine l_ld C w hX hbl hL (by omega) dL_law_268 ?_
  refine lv_aload_n C.1 C.2.1 dL_law_269 rfl (lv_at hl 3 rfl) ?_
  refine lv_iload_n C.1 C.2.1 dL_law_270 rfl (lv_at hl 0 rfl) ?_
  refine n_const (v := nI 2) C dL_law_271 (by decide) ?_
  refine n_iadd (v := nI (i + 2)) C dL_law_272 (nI_add _ _) ?_
  refine l_ld C w hX hbl hL (by omega) dL_law_273 ?_
  refine l_callX C w (met_X0_setMemory l S (xs (i + 1)) (xs (i + 2))) cq_L_X0_setMemory cy_X0_setMemory rfl rfl ⟨Nat.le_of_ble_eq_true rfl, Nat.le_of_ble_eq_true rfl⟩ hcs hl.1 rfl (Nat.le_of_ble_eq_true rfl) dL_law_274 (fun r0 S3 H locs hp0 w => ?_)
  refine lv_aload_n C.1 C.2.1 dL_law_277 rfl (lv_at hl 1 rfl) ?_
  refine lv_aload_n C.1 C.2.1 dL_law_278 rfl (lv_at hl 3 rfl) ?_
  refine lv_iload_n C.1 C.2.1 dL_law_279 rfl (lv_at hl 0 rfl) ?_
  refine n_const (v := nI 1) C dL_law_280 (by decide) ?_
  refine n_iadd (v := nI (i + 1)) C dL_law_281 (nI_add _ _) ?_
  refine l_ld C w hX hbl hL (by omega) dL_law_282 ?_
  refine lv_aload_n C.1 C.2.1 dL_law_283 rfl (lv_at hl 3 rfl) ?_
  refine lv_iload_n C.1 C.2.1 dL_law_284 rfl (lv_at hl 0 rfl) ?_
  refine n_const (v := nI 2) C dL_law_285 (by decide) ?_
  refine n_iadd (v := nI (i + 2)) C dL_law_286 (nI_add _ _) ?_
  refine l_ld C w hX hbl hL (by omega) dL_law_287 ?_
  refine l_callM C w (met_X1_setMemory l S2 (xs (i + 1)) (xs (i + 2))) cq_L_X1_setMemory cy_X1_setMemory rfl rfl ⟨Nat.le_of_ble_eq_true rfl, Nat.le_of_ble_eq_true rfl⟩ hcs hl.1 rfl (Nat.le_of_ble_eq_true rfl) dL_law_288 (fun r1 S4 H locs hp1 w => ?_)
  obtain ⟨he, hrel⟩ := rl_setMemory hr hp0 hp1
  exact r_icmp_eq (tgt := 345) C dL_law_291 (by decide) (fun _ => k _ _ _ _ _ hrel w hl) (fun h => absurd he h)
set_option maxHeartbeats 4000000 in
set_option maxRecDepth 100000 in
theorem law_weight (C : gC p s m #[Value.ref b] meth c R_law code 4 ret) (hX : va_X b L xs s s.heap) (hbl : b < s.heap.size) (hL : L ≤ 320) (hcs : cells ≤ 600000 ∧ slots ≤ 7290000) (hi : i + 5 ≤ L) (k : lK p l e s m b below meth c D Q Q2 T cells slots i 345) : lK p l e s m b below meth c D Q Q2 T cells slots i 296 := by
  intro S S2 H locs ls hrel w hl
  obtain ⟨n, o, d, a, bn, hr⟩ := hrel
  refine lv_aload_n C.1 C.2.1 dL_law_296 rfl (lv_at hl 2 rfl) ?_
  refine lv_aload_n C.1 C.2.1 dL_law_297 rfl (lv_at hl 3 rfl) ?_
  refine lv_iload_n C.1 C.2.1 dL_law_298 rfl (lv_at hl 0 rfl) ?_
  refine n_const (v := nI 1) C dL_law_299 (by decide) ?_
  refine n_iadd (v := nI (i + 1)) C dL_law_300 (nI_add _ _) ?_
  refine l_ld C w hX hbl hL (by omega) dL_law_301 ?_
  refine l_callX C w (met_X0_weight l S n o d a bn (xs (i + 1)) hr.1) cq_L_X0_weight cy_X0_weight rfl rfl ⟨Nat.le_of_ble_eq_true rfl, Nat.le_of_ble_eq_true rfl⟩ hcs hl.1 rfl (Nat.le_of_ble_eq_true rfl) dL_law_302 (fun r0 S3 H locs hp0 w => ?_)
  refine lv_aload_n C.1 C.2.1 dL_law_305 rfl (lv_at hl 1 rfl) ?_
  refine lv_aload_n C.1 C.2.1 dL_law_306 rfl (lv_at hl 3 rfl) ?_
  refine lv_iload_n C.1 C.2.1 dL_law_307 rfl (lv_at hl 0 rfl) ?_
  refine n_const (v := nI 1) C dL_law_308 (by decide) ?_
  refine n_iadd (v := nI (i + 1)) C dL_law_309 (nI_add _ _) ?_
  refine l_ld C w hX hbl hL (by omega) dL_law_310 ?_
  refine l_callM C w (met_X1_weight l S2 n o d a bn (xs (i + 1)) hr.2.1) cq_L_X1_weight cy_X1_weight rfl rfl ⟨Nat.le_of_ble_eq_true rfl, Nat.le_of_ble_eq_true rfl⟩ hcs hl.1 rfl (Nat.le_of_ble_eq_true rfl) dL_law_311 (fun r1 S4 H locs hp1 w => ?_)
  obtain ⟨he, hrel⟩ := rl_weight hr hp0 hp1
  exact r_icmp_eq (tgt := 345) C dL_law_314 (by decide) (fun _ => k _ _ _ _ _ hrel w hl) (fun h => absurd he h)
set_option maxHeartbeats 4000000 in
set_option maxRecDepth 100000 in
theorem law_heaviest (C : gC p s m #[Value.ref b] meth c R_law code 4 ret) (hX : va_X b L xs s s.heap) (hbl : b < s.heap.size) (hL : L ≤ 320) (hcs : cells ≤ 600000 ∧ slots ≤ 7290000) (hi : i + 5 ≤ L) (k : lK p l e s m b below meth c D Q Q2 T cells slots i 345) : lK p l e s m b below meth c D Q Q2 T cells slots i 319 := by
  intro S S2 H locs ls hrel w hl
  obtain ⟨n, o, d, a, bn, hr⟩ := hrel
  refine lv_aload_n C.1 C.2.1 dL_law_319 rfl (lv_at hl 2 rfl) ?_
  refine l_callX C w (met_X0_heaviest l S n o d a bn hr.1) cq_L_X0_heaviest cy_X0_heaviest rfl rfl ⟨Nat.le_of_ble_eq_true rfl, Nat.le_of_ble_eq_true rfl⟩ hcs hl.1 rfl (Nat.le_of_ble_eq_true rfl) dL_law_320 (fun r0 S3 H locs hp0 w => ?_)
  refine lv_aload_n C.1 C.2.1 dL_law_323 rfl (lv_at hl 1 rfl) ?_
  refine l_callM C w (met_X1_heaviest l S2 n o d a bn hr.2.1) cq_L_X1_heaviest cy_X1_heaviest rfl rfl ⟨Nat.le_of_ble_eq_true rfl, Nat.le_of_ble_eq_true rfl⟩ hcs hl.1 rfl (Nat.le_of_ble_eq_true rfl) dL_law_324 (fun r1 S4 H locs hp1 w => ?_)
  obtain ⟨he, hrel⟩ := rl_heaviest hr hp0 hp1
  exact r_icmp_eq (tgt := 345) C dL_law_327 (by decide) (fun _ => k _ _ _ _ _ hrel w hl) (fun h => absurd he h)
set_option maxHeartbeats 4000000 in
set_option maxRecDepth 100000 in
theorem law_links (C : gC p s m #[Value.ref b] meth c R_law code 4 ret) (hX : va_X b L xs s s.heap) (hbl : b < s.heap.size) (hL : L ≤ 320) (hcs : cells ≤ 600000 ∧ slots ≤ 7290000) (hi : i + 5 ≤ L) (k : lK p l e s m b below meth c D Q Q2 T cells slots i 345) : lK p l e s m b below meth c D Q Q2 T cells slots i 332 := by
  intro S S2 H locs ls hrel w hl
  obtain ⟨n, o, d, a, bn, hr⟩ := hrel
  refine lv_aload_n C.1 C.2.1 dL_law_332 rfl (lv_at hl 2 rfl) ?_
  refine l_callX C w (met_X0_links l S n o d a bn hr.1) cq_L_X0_links cy_X0_links rfl rfl ⟨Nat.le_of_ble_eq_true rfl, Nat.le_of_ble_eq_true rfl⟩ hcs hl.1 rfl (Nat.le_of_ble_eq_true rfl) dL_law_333 (fun r0 S3 H locs hp0 w => ?_)
  refine lv_aload_n C.1 C.2.1 dL_law_336 rfl (lv_at hl 1 rfl) ?_
  refine l_callM C w (met_X1_links l S2 n o d a bn hr.2.1) cq_L_X1_links cy_X1_links rfl rfl ⟨Nat.le_of_ble_eq_true rfl, Nat.le_of_ble_eq_true rfl⟩ hcs hl.1 rfl (Nat.le_of_ble_eq_true rfl) dL_law_337 (fun r1 S4 H locs hp1 w => ?_)
  obtain ⟨he, hrel⟩ := rl_links hr hp0 hp1
  exact r_icmp_eq (tgt := 345) C dL_law_340 (by decide) (fun _ => k _ _ _ _ _ hrel w hl) (fun h => absurd he h)
set_option maxHeartbeats 4000000 in
set_option maxRecDepth 100000 in
theorem law_loop (C : gC p s m #[Value.ref b] meth c R_law code 4 ret) (hX : va_X b L xs s s.heap) (hbl : b < s.heap.size) (hL : L ≤ 320) (hcs : cells ≤ 600000 ∧ slots ≤ 7290000) : ∀ n i, i ≤ L → L < n + i → lK p l e s m b below meth c D Q Q2 T cells slots i 18
  | 0, i, h1, h2 => absurd h2 (by omega)
  | n + 1, i, h1, h2 => by
    intro S S2 H locs ls hrel w hl
    refine lv_iload_n C.1 C.2.1 dL_law_18 rfl (lv_at hl 0 rfl) ?_
    refine lv_aload_n C.1 C.2.1 dL_law_19 rfl (lv_at hl 3 rfl) ?_
    refine va_slen C.1 C.2.1 hX hbl (Nat.not_le.mpr hbl) w.2.2.1 dL_law_20 ?_
    refine n_const (v := nI 5) C dL_law_21 (by decide) ?_
    refine n_isub (x := nI L) (v := nI L - nI 5) C dL_law_22 rfl ?_
    refine r_icmp_gt (tgt := 351) C dL_law_23 (by decide) (fun h => ?_) (fun h => ?_)
    · refine n_const (v := 1) C dL_law_351 (by decide) ?_
      refine va_forget w.2.2.1.2.2 ?_
      refine W.widen (k := 600000) (n := 7290000) hcs.1 hcs.2 ?_
      exact lw_ret C.1 C.2.1 C.2.2.2.2.2.1 C.2.2.2.2.2.2 dL_law_352
    · have hi : i + 5 ≤ L := by
        have : ¬ L < i + 5 := fun q => h ((lt5 hL (by omega)).mpr q)
        omega
      have hk : lK p l e s m b below meth c D Q Q2 T cells slots i 345 := by
        intro S S2 H locs ls hrel w hl
        refine lv_iinc (v := nI (i + 5)) (lv' := [(3, .int (nI (i + 5))), (2, .ref (Q2 0)), (1, .ref (Q 0)), (0, .ref b)]) C.1 C.2.1 dL_law_345 hl (k := 0) rfl (nI_add i 5) (by decide) rfl (fun ls hl => ?_)
        refine lv_goto (tgt := 18) C.1 C.2.1 dL_law_348 (by decide) ?_
        exact law_loop C hX hbl hL hcs n (i + 5) hi (by omega) S S2 H locs ls hrel w hl
      refine lv_aload_n C.1 C.2.1 dL_law_26 rfl (lv_at hl 3 rfl) ?_
      refine lv_iload_n C.1 C.2.1 dL_law_27 rfl (lv_at hl 0 rfl) ?_
      refine l_ld C w hX hbl hL (by omega) dL_law_28 ?_
      refine n_bipush (v := nI 15) C dL_law_29 (by decide) ?_
      refine n_iand (v := nI (adr (xs i))) C dL_law_31 (pk_and _ 4 (by decide)) ?_
      have ha := adr_lt (xs i)
      rcases (show adr (xs i) = 0 ∨ adr (xs i) = 1 ∨ adr (xs i) = 2 ∨ adr (xs i) = 3 ∨ adr (xs i) = 4 ∨ adr (xs i) = 5 ∨ adr (xs i) = 6 ∨ adr (xs i) = 7 ∨ adr (xs i) = 8 ∨ adr (xs i) = 9 ∨ adr (xs i) = 10 ∨ 10 < adr (xs i) by omega) with q | q | q | q | q | q | q | q | q | q | q | q
      · rw [q]
        refine lv_tableIn (off := 60) (tgt := 92) C.1 C.2.1 dL_law_32 (by decide +kernel) (by decide +kernel) (by decide +kernel) (by decide) ?_
        exact law_emit C hX hbl hL hcs hi hk S S2 H locs ls hrel w hl
      · rw [q]
        refine lv_tableIn (off := 113) (tgt := 145) C.1 C.2.1 dL_law_32 (by decide +kernel) (by decide +kernel) (by decide +kernel) (by decide) ?_
        exact law_retract C hX hbl hL hcs hi hk S S2 H locs ls hrel w hl
      · rw [q]
        refine lv_tableIn (off := 126) (tgt := 158) C.1 C.2.1 dL_law_32 (by decide +kernel) (by decide +kernel) (by decide +kernel) (by decide) ?_
        exact law_drop C hX hbl hL hcs hi hk S S2 H locs ls hrel w hl
      · rw [q]
        refine lv_tableIn (off := 139) (tgt := 171) C.1 C.2.1 dL_law_32 (by decide +kernel) (by decide +kernel) (by decide +kernel) (by decide) ?_
        exact law_run C hX hbl hL hcs hi hk S S2 H locs ls hrel w hl
      · rw [q]
        refine lv_tableIn (off := 152) (tgt := 184) C.1 C.2.1 dL_law_32 (by decide +kernel) (by decide +kernel) (by decide +kernel) (by decide) ?_
        exact law_register C hX hbl hL hcs hi hk S S2 H locs ls hrel w hl
      · rw [q]
        refine lv_tableIn (off := 175) (tgt := 207) C.1 C.2.1 dL_law_32 (by decide +kernel) (by decide +kernel) (by decide +kernel) (by decide) ?_
        exact law_setRegister C hX hbl hL hcs hi hk S S2 H locs ls hrel w hl
      · rw [q]
        refine lv_tableIn (off := 208) (tgt := 240) C.1 C.2.1 dL_law_32 (by decide +kernel) (by decide +kernel) (by decide +kernel) (by decide) ?_
        exact law_memory C hX hbl hL hcs hi hk S S2 H locs ls hrel w hl
      · rw [q]
        refine lv_tableIn (off := 231) (tgt := 263) C.1 C.2.1 dL_law_32 (by decide +kernel) (by decide +kernel) (by decide +kernel) (by decide) ?_
        exact law_setMemory C hX hbl hL hcs hi hk S S2 H locs ls hrel w hl
      · rw [q]
        refine lv_tableIn (off := 264) (tgt := 296) C.1 C.2.1 dL_law_32 (by decide +kernel) (by decide +kernel) (by decide +kernel) (by decide) ?_
        exact law_weight C hX hbl hL hcs hi hk S S2 H locs ls hrel w hl
      · rw [q]
        refine lv_tableIn (off := 287) (tgt := 319) C.1 C.2.1 dL_law_32 (by decide +kernel) (by decide +kernel) (by decide +kernel) (by decide) ?_
        exact law_heaviest C hX hbl hL hcs hi hk S S2 H locs ls hrel w hl
      · rw [q]
        refine lv_tableIn (off := 300) (tgt := 332) C.1 C.2.1 dL_law_32 (by decide +kernel) (by decide +kernel) (by decide +kernel) (by decide) ?_
        exact law_links C hX hbl hL hcs hi hk S S2 H locs ls hrel w hl
      · refine lv_tableOut (tgt := 345) C.1 C.2.1 dL_law_32 (Or.inr (by rw [nI_toInt (by omega)]; omega)) (by decide) ?_
        exact hk S S2 H locs ls hrel w hl
end LC
end
section
/-! the constructors -/
def gN (D : va_G) (T : Nat → ClassId) (A : Nat → Prop) (s : State) (ws : va_W) (H : Heap) (locs : List Loc) : Prop := va_P D vwCl ws H ∧ va_D A ws ∧ va_S A s.heap H locs ∧ va_K D vwCl (tyX T) s ∧ ∀ q : Nat, s.heap.size ≤ q → A q
theorem arr_T {args : Array Value} {s : State} {ty : FieldType} (h : (Cond.arrayClass ty).before args s = true) : ∃ cA : ClassId, ArrOfT s cA ty ∧ s.vm.findClass ("[" ++ ty.toString) = some cA := by
  obtain ⟨cA, kA, comp, h1, h2, h3⟩ := Cond.arrayClass_spec h
  exact ⟨cA, fun n z => ⟨fun k q => (by cases q), kA, h2, comp, h3⟩, h1⟩
/-- the array classes, known -/
theorem known_T {args : Array Value} {s : State} (hts : ∀ w ∈ lw_all, w.before args s = true) : ∃ T : Nat → ClassId, ∀ (k : Nat) (q : ClassId × FieldType), (tyX T)[k]? = some q → ArrOfT s q.1 q.2 ∧ va_RA s q.1 q.2 := by
  obtain ⟨c0, a0, b0⟩ := arr_T (hts _ q120)
  obtain ⟨c1, a1, b1⟩ := arr_T (hts _ q119)
  obtain ⟨c2, a2, b2⟩ := arr_T (hts _ q121)
  refine ⟨fun k => if k = 0 then c0 else if k = 1 then c1 else c2, ?_⟩
  intro k q hq
  match k, hq with
  | 0, hq => cases hq; exact ⟨a0, b0⟩
  | 1, hq => cases hq; exact ⟨a1, b1⟩
  | 2, hq => cases hq; exact ⟨a2, b2⟩
  | k + 3, hq => simp [tyX] at hq
section NW
variable {p : Program} {l : Launch} {e : Env} {R : Room} {s : State} {m : MethodId} {args : Array Value} {below : List Frame} {meth : Method} {c : Code} {H : Heap} {locs : List Loc} {cells slots : Nat} {QQ : State → Prop}
variable {D : va_G} {T : Nat → ClassId} {A : Nat → Prop} {cc : ByteArray} {nL : Nat} {ret : Option FieldType} {pc : Nat} {ls : Array Slot} {rest : List Value}
/-- a new array into a final field of the object under construction -/
theorem x_nw {h : Nat} {fs : List Value} {cs : va_W} {k i nn idx : Nat} {atype : ArrayType} {ty : FieldType} (C : gC p s m args meth c RX0 cc nL ret) (hin : meth.name = "<init>") (w : gN D T A s ((h, .inr (0, fs)) :: cs) H locs) (harr : Cond.arrayClass (newarray.typeOf atype) ∈ lw_all) (hty : newarray.typeOf atype = ty) (ht : (tyX T)[i]? = some (T i, ty)) (hra : ∀ cA, va_RA s cA ty → s.vm.findClass ("[" ++ ty.toString) = some cA) (h0 : defaultValue ty = .int 0) (hnn : nn < 2 ^ 31) (hbt : nn * componentBytes ty ≤ 536870912) (hcells : cells + 1 ≤ R.cells) (hslots : slots + nn ≤ R.slots) (hd1 : decode cc pc = .ok (.newarray atype, 2))
    (hk : k < 25) (hlink : Cond.fieldLink RX0 idx RX0 (TX0 k).2.1 (TX0 k).2.2.1 ∈ lw_all) (hfin : (TX0 k).2.2.2 = true) (hdecl : (TX0 k).1 = RX0) (hd : parseFieldDescriptor (TX0 k).2.2.1 = some (.array ty)) (hl : k < fs.length) (hd2 : decode cc (pc + 2) = .ok (.putfield idx, 3))
    (kk : ∀ (q : Nat) (H1 : Heap) (locs1 : List Loc), gN D T A s ((h, .inr (0, fs.set k (.ref q))) :: (cs ++ [(q, .inl (T i, nn, .inl (fun _ => 0)))])) H1 locs1 → W p l e R s m args below meth c H1 locs1 (cells + 1) (slots + nn) QQ (F0 m (pc + 2 + 3) ls rest)) : W p l e R s m args below meth c H locs cells slots QQ (F0 m pc ls (.int (nI nn) :: .ref h :: rest)) := by
  refine va_newa (a0 := (nn, .inl (fun _ => 0))) C.1 C.2.1 (C.2.2.2.2.1 _ harr) hty w.2.2.2.1 w.1 w.2.1 w.2.2.1 w.2.2.2.2 (fun cA => by rw [h0]; rfl) (nI_pos hnn) (nI_clamp hnn) hbt hcells hslots hd1 (fun q cA H1 hK1 hP1 hD1 hS1 => ?_)
  have hc : cA = T i := Option.some.inj ((hra _ (hK1.2 3 (cA, ty) rfl).2).symm.trans (hra _ (w.2.2.2.1.2 i _ ht).2))
  subst hc
  refine va_putF (D := D) (ci := 0) (v := .ref q) (ty := .array ty) (C := RX0) (T := TX0) (N := 25) C.1 C.2.1 C.2.2.2.2.1 in_X0 tyX0 tyX0_ok nmX0 C.2.2.2.1 w.2.2.2.1 hP1 hD1 hS1 0 rfl rfl k hk (C.2.2.2.2.1 _ hlink) (fun _ h9 => by rw [hdecl] at h9; exact h9) hfin hin hdecl hd rfl rfl hl hd2 (fun H2 locs2 hP2 hD2 hS2 => ?_)
  exact kk q H2 locs2 ⟨hP2, hD2, hS2, w.2.2.2.1, w.2.2.2.2⟩
theorem y_nw {h : Nat} {fs : List Value} {cs : va_W} {k i nn idx : Nat} {atype : ArrayType} {ty : FieldType} (C : gC p s m args meth c RX1 cc nL ret) (w : gN D T A s ((h, .inr (1, fs)) :: cs) H locs) (harr : Cond.arrayClass (newarray.typeOf atype) ∈ lw_all) (hty : newarray.typeOf atype = ty) (ht : (tyX T)[i]? = some (T i, ty)) (hra : ∀ cA, va_RA s cA ty → s.vm.findClass ("[" ++ ty.toString) = some cA) (h0 : defaultValue ty = .int 0) (hnn : nn < 2 ^ 31) (hbt : nn * componentBytes ty ≤ 536870912) (hcells : cells + 1 ≤ R.cells) (hslots : slots + nn ≤ R.slots) (hd1 : decode cc pc = .ok (.newarray atype, 2))
    (hk : k < 8) (hlink : Cond.fieldLink RX1 idx RX1 (TX1 k).2.1 (TX1 k).2.2.1 ∈ lw_all) (hfin : (TX1 k).2.2.2 = false) (hdecl : (TX1 k).1 = RX1) (hd : parseFieldDescriptor (TX1 k).2.2.1 = some (.array ty)) (hl : k < fs.length) (hd2 : decode cc (pc + 2) = .ok (.putfield idx, 3))
    (kk : ∀ (q : Nat) (H1 : Heap) (locs1 : List Loc), gN D T A s ((h, .inr (1, fs.set k (.ref q))) :: (cs ++ [(q, .inl (T i, nn, .inl (fun _ => 0)))])) H1 locs1 → W p l e R s m args below meth c H1 locs1 (cells + 1) (slots + nn) QQ (F0 m (pc + 2 + 3) ls rest)) : W p l e R s m args below meth c H locs cells slots QQ (F0 m pc ls (.int (nI nn) :: .ref h :: rest)) := by
  refine va_newa (a0 := (nn, .inl (fun _ => 0))) C.1 C.2.1 (C.2.2.2.2.1 _ harr) hty w.2.2.2.1 w.1 w.2.1 w.2.2.1 w.2.2.2.2 (fun cA => by rw [h0]; rfl) (nI_pos hnn) (nI_clamp hnn) hbt hcells hslots hd1 (fun q cA H1 hK1 hP1 hD1 hS1 => ?_)
  have hc : cA = T i := Option.some.inj ((hra _ (hK1.2 3 (cA, ty) rfl).2).symm.trans (hra _ (w.2.2.2.1.2 i _ ht).2))
  subst hc
  refine va_put (D := D) (ci := 1) (v := .ref q) (ty := .array ty) (C := RX1) (T := TX1) (N := 8) C.1 C.2.1 C.2.2.2.2.1 in_X1 tyX1 tyX1_ok nmX1 C.2.2.2.1 w.2.2.2.1 hP1 hD1 hS1 0 rfl rfl k hk (C.2.2.2.2.1 _ hlink) (fun _ h9 => by rw [hdecl] at h9; exact h9) hfin hd rfl rfl hl hd2 (fun H2 locs2 hP2 hD2 hS2 => ?_)
  exact kk q H2 locs2 ⟨hP2, hD2, hS2, w.2.2.2.1, w.2.2.2.2⟩
end NW
def zX : List Value := [.int 0, .null, .null, .null, .null, .int 0, .int 0, .null, .null, .null, .null, .null, .null, .null, .null, .null, .int 0, .null, .null, .null, .int 0, .int 0, .null, .null, .null]
def zM : List Value := [.int 0, .null, .null, .null, .null, .null, .null, .null]
set_option maxHeartbeats 8000000 in
set_option maxRecDepth 100000 in
theorem met_X0_init (l : Launch) (D : va_G) (T : Nat → ClassId) (h sz : Nat) : Met l yX0_init (ws_ yX0_init cX0_init 1 none) ({ frames := 1, cells := 19, slots := 1798, locals := 12 }) (va_Pc [.ref h] (fun U => U.heap.size = sz ∧ va_P D vwCl [(h, .inr (0, zX))] U.heap ∧ va_K D vwCl (tyX T) U ∧ va_D (fun _ => True) [(h, .inr (0, zX))])) (va_Qv (fun (Q : Nat → Nat) => Q 0 = h) (fun Q t => va_P D vwCl (wX Q T (fun _ _ => 0)) t.heap ∧ va_K D vwCl (tyX T) t ∧ va_D (va_A [(h, .inr (0, zX))] sz) (wX Q T (fun _ _ => 0))) (va_A [(h, .inr (0, zX))] sz)) 19 1798 (va_A [(h, .inr (0, zX))] sz) := by
  refine Met.ofW (cc := cX0_init) (maxL := 1) (ret := none) (by decide) rfl ?_
  intro p e s m args below meth c s₁ B hml hv
  obtain ⟨rfl, hsz, hP, hK, hD0⟩ := hv
  have hts := atoms_spec (ws := ws_ yX0_init cX0_init 1 none) B.pre
  have hts : ∀ w ∈ lw_all, w.before _ s = true := fun w h => hts w (List.mem_cons_of_mem _ h)
  have hown : s.vm.findClass RX0 = some m.cls := findClass_of_methodNamed B.named
  have hin : meth.name = "<init>" := (name_of_methodNamed B.named B.method).1
  subst hsz
  have C : gC p s m ([.ref h] : List Value).toArray meth c RX0 cX0_init 1 none := ⟨B.exec, B.bytes, hml, hown, hts, B.returns, B.notSynchronized⟩
  have w : gN D T (va_A [(h, .inr (0, zX))] s.heap.size) s [(h, .inr (0, zX))] s.heap [] := ⟨hP, hD0.self, va_S.rf, hK, fun q h => Or.inr h⟩
  generalize va_A [(h, .inr (0, zX))] s.heap.size = A at w ⊢
  have hl := lv_entry ([.ref h]) (n := 1) (Nat.le_of_ble_eq_true rfl)
  rw [lg_entry_eq]
  generalize (lg_sl ([.ref h]) ++ List.replicate (1 - (lg_sl ([.ref h])).length) Slot.unset).toArray = ls at hl ⊢
  have hl : lv_has ls 1 [(0, .ref h)] := hl
  refine lv_aload_n C.1 C.2.1 dX0_init_0 rfl (lv_at hl 0 rfl) ?_
  refine W.objInit C.1 C.2.1 hown (hts _ q40) (hts _ q41) (hts _ q42) rfl (by rw [hml]; exact hl.1) rfl dX0_init_1 (Nat.le_of_ble_eq_true rfl) (Nat.le_of_ble_eq_true rfl) ?_
  refine W.eq (g2 := F0 m 4 ls []) rfl ?_
  refine lv_aload_n C.1 C.2.1 dX0_init_4 rfl (lv_at hl 0 rfl) ?_
  refine n_bipush (v := nI 24) C dX0_init_5 (by decide) ?_
  refine x_nw (k := 1) (i := 1) (idx := 7) (atype := .byte) (ty := .byte) C hin w q119 rfl rfl (fun _ q => q) rfl (by decide) (by decide) (Nat.le_of_ble_eq_true rfl) (Nat.le_of_ble_eq_true rfl) dX0_init_7 (by decide) q44 rfl rfl (by decide +kernel) (Nat.le_of_ble_eq_true rfl) dX0_init_9 (fun q1 H locs w => ?_)
  refine lv_aload_n C.1 C.2.1 dX0_init_12 rfl (lv_at hl 0 rfl) ?_
  refine n_bipush (v := nI 24) C dX0_init_13 (by decide) ?_
  refine x_nw (k := 2) (i := 1) (idx := 13) (atype := .byte) (ty := .byte) C hin w q119 rfl rfl (fun _ q => q) rfl (by decide) (by decide) (Nat.le_of_ble_eq_true rfl) (Nat.le_of_ble_eq_true rfl) dX0_init_15 (by decide) q45 rfl rfl (by decide +kernel) (Nat.le_of_ble_eq_true rfl) dX0_init_17 (fun q2 H locs w => ?_)
  refine lv_aload_n C.1 C.2.1 dX0_init_20 rfl (lv_at hl 0 rfl) ?_
  refine n_bipush (v := nI 24) C dX0_init_21 (by decide) ?_
  refine x_nw (k := 3) (i := 1) (idx := 16) (atype := .byte) (ty := .byte) C hin w q119 rfl rfl (fun _ q => q) rfl (by decide) (by decide) (Nat.le_of_ble_eq_true rfl) (Nat.le_of_ble_eq_true rfl) dX0_init_23 (by decide) q46 rfl rfl (by decide +kernel) (Nat.le_of_ble_eq_true rfl) dX0_init_25 (fun q3 H locs w => ?_)
  refine lv_aload_n C.1 C.2.1 dX0_init_28 rfl (lv_at hl 0 rfl) ?_
  refine n_bipush (v := nI 24) C dX0_init_29 (by decide) ?_
  refine x_nw (k := 4) (i := 0) (idx := 19) (atype := .int) (ty := .int) C hin w q120 rfl rfl (fun _ q => q) rfl (by decide) (by decide) (Nat.le_of_ble_eq_true rfl) (Nat.le_of_ble_eq_true rfl) dX0_init_31 (by decide) q47 rfl rfl (by decide +kernel) (Nat.le_of_ble_eq_true rfl) dX0_init_33 (fun q4 H locs w => ?_)
  refine lv_aload_n C.1 C.2.1 dX0_init_36 rfl (lv_at hl 0 rfl) ?_
  refine n_bipush (v := nI 96) C dX0_init_37 (by decide) ?_
  refine x_nw (k := 7) (i := 1) (idx := 23) (atype := .byte) (ty := .byte) C hin w q119 rfl rfl (fun _ q => q) rfl (by decide) (by decide) (Nat.le_of_ble_eq_true rfl) (Nat.le_of_ble_eq_true rfl) dX0_init_39 (by decide) q50 rfl rfl (by decide +kernel) (Nat.le_of_ble_eq_true rfl) dX0_init_41 (fun q7 H locs w => ?_)
  refine lv_aload_n C.1 C.2.1 dX0_init_44 rfl (lv_at hl 0 rfl) ?_
  refine n_bipush (v := nI 96) C dX0_init_45 (by decide) ?_
  refine x_nw (k := 8) (i := 1) (idx := 26) (atype := .byte) (ty := .byte) C hin w q119 rfl rfl (fun _ q => q) rfl (by decide) (by decide) (Nat.le_of_ble_eq_true rfl) (Nat.le_of_ble_eq_true rfl) dX0_init_47 (by decide) q51 rfl rfl (by decide +kernel) (Nat.le_of_ble_eq_true rfl) dX0_init_49 (fun q8 H locs w => ?_)
  refine lv_aload_n C.1 C.2.1 dX0_init_52 rfl (lv_at hl 0 rfl) ?_
  refine n_bipush (v := nI 96) C dX0_init_53 (by decide) ?_
  refine x_nw (k := 9) (i := 1) (idx := 29) (atype := .byte) (ty := .byte) C hin w q119 rfl rfl (fun _ q => q) rfl (by decide) (by decide) (Nat.le_of_ble_eq_true rfl) (Nat.le_of_ble_eq_true rfl) dX0_init_55 (by decide) q52 rfl rfl (by decide +kernel) (Nat.le_of_ble_eq_true rfl) dX0_init_57 (fun q9 H locs w => ?_)
  refine lv_aload_n C.1 C.2.1 dX0_init_60 rfl (lv_at hl 0 rfl) ?_
  refine n_bipush (v := nI 96) C dX0_init_61 (by decide) ?_
  refine x_nw (k := 10) (i := 1) (idx := 32) (atype := .byte) (ty := .byte) C hin w q119 rfl rfl (fun _ q => q) rfl (by decide) (by decide) (Nat.le_of_ble_eq_true rfl) (Nat.le_of_ble_eq_true rfl) dX0_init_63 (by decide) q53 rfl rfl (by decide +kernel) (Nat.le_of_ble_eq_true rfl) dX0_init_65 (fun q10 H locs w => ?_)
  refine lv_aload_n C.1 C.2.1 dX0_init_68 rfl (lv_at hl 0 rfl) ?_
  refine n_bipush (v := nI 96) C dX0_init_69 (by decide) ?_
  refine x_nw (k := 11) (i := 1) (idx := 35) (atype := .byte) (ty := .byte) C hin w q119 rfl rfl (fun _ q => q) rfl (by decide) (by decide) (Nat.le_of_ble_eq_true rfl) (Nat.le_of_ble_eq_true rfl) dX0_init_71 (by decide) q54 rfl rfl (by decide +kernel) (Nat.le_of_ble_eq_true rfl) dX0_init_73 (fun q11 H locs w => ?_)
  refine lv_aload_n C.1 C.2.1 dX0_init_76 rfl (lv_at hl 0 rfl) ?_
  refine n_const (v := nI 2) C dX0_init_77 (by decide) ?_
  refine x_nw (k := 12) (i := 1) (idx := 38) (atype := .byte) (ty := .byte) C hin w q119 rfl rfl (fun _ q => q) rfl (by decide) (by decide) (Nat.le_of_ble_eq_true rfl) (Nat.le_of_ble_eq_true rfl) dX0_init_78 (by decide) q55 rfl rfl (by decide +kernel) (Nat.le_of_ble_eq_true rfl) dX0_init_80 (fun q12 H locs w => ?_)
  refine lv_aload_n C.1 C.2.1 dX0_init_83 rfl (lv_at hl 0 rfl) ?_
  refine n_bipush (v := nI 96) C dX0_init_84 (by decide) ?_
  refine x_nw (k := 13) (i := 2) (idx := 41) (atype := .short) (ty := .short) C hin w q121 rfl rfl (fun _ q => q) rfl (by decide) (by decide) (Nat.le_of_ble_eq_true rfl) (Nat.le_of_ble_eq_true rfl) dX0_init_86 (by decide) q56 rfl rfl (by decide +kernel) (Nat.le_of_ble_eq_true rfl) dX0_init_88 (fun q13 H locs w => ?_)
  refine lv_aload_n C.1 C.2.1 dX0_init_91 rfl (lv_at hl 0 rfl) ?_
  refine n_bipush (v := nI 96) C dX0_init_92 (by decide) ?_
  refine x_nw (k := 14) (i := 2) (idx := 45) (atype := .short) (ty := .short) C hin w q121 rfl rfl (fun _ q => q) rfl (by decide) (by decide) (Nat.le_of_ble_eq_true rfl) (Nat.le_of_ble_eq_true rfl) dX0_init_94 (by decide) q57 rfl rfl (by decide +kernel) (Nat.le_of_ble_eq_true rfl) dX0_init_96 (fun q14 H locs w => ?_)
  refine lv_aload_n C.1 C.2.1 dX0_init_99 rfl (lv_at hl 0 rfl) ?_
  refine n_sipush (v := nI 400) C dX0_init_100 (by decide) ?_
  refine x_nw (k := 15) (i := 0) (idx := 48) (atype := .int) (ty := .int) C hin w q120 rfl rfl (fun _ q => q) rfl (by decide) (by decide) (Nat.le_of_ble_eq_true rfl) (Nat.le_of_ble_eq_true rfl) dX0_init_103 (by decide) q58 rfl rfl (by decide +kernel) (Nat.le_of_ble_eq_true rfl) dX0_init_105 (fun q15 H locs w => ?_)
  refine lv_aload_n C.1 C.2.1 dX0_init_108 rfl (lv_at hl 0 rfl) ?_
  refine n_sipush (v := nI 500) C dX0_init_109 (by decide) ?_
  refine x_nw (k := 17) (i := 0) (idx := 51) (atype := .int) (ty := .int) C hin w q120 rfl rfl (fun _ q => q) rfl (by decide) (by decide) (Nat.le_of_ble_eq_true rfl) (Nat.le_of_ble_eq_true rfl) dX0_init_112 (by decide) q60 rfl rfl (by decide +kernel) (Nat.le_of_ble_eq_true rfl) dX0_init_114 (fun q17 H locs w => ?_)
  refine lv_aload_n C.1 C.2.1 dX0_init_117 rfl (lv_at hl 0 rfl) ?_
  refine n_bipush (v := nI 16) C dX0_init_118 (by decide) ?_
  refine x_nw (k := 18) (i := 0) (idx := 54) (atype := .int) (ty := .int) C hin w q120 rfl rfl (fun _ q => q) rfl (by decide) (by decide) (Nat.le_of_ble_eq_true rfl) (Nat.le_of_ble_eq_true rfl) dX0_init_120 (by decide) q61 rfl rfl (by decide +kernel) (Nat.le_of_ble_eq_true rfl) dX0_init_122 (fun q18 H locs w => ?_)
  refine lv_aload_n C.1 C.2.1 dX0_init_125 rfl (lv_at hl 0 rfl) ?_
  refine n_bipush (v := nI 16) C dX0_init_126 (by decide) ?_
  refine x_nw (k := 19) (i := 0) (idx := 57) (atype := .int) (ty := .int) C hin w q120 rfl rfl (fun _ q => q) rfl (by decide) (by decide) (Nat.le_of_ble_eq_true rfl) (Nat.le_of_ble_eq_true rfl) dX0_init_128 (by decide) q62 rfl rfl (by decide +kernel) (Nat.le_of_ble_eq_true rfl) dX0_init_130 (fun q19 H locs w => ?_)
  refine lv_aload_n C.1 C.2.1 dX0_init_133 rfl (lv_at hl 0 rfl) ?_
  refine n_bipush (v := nI 32) C dX0_init_134 (by decide) ?_
  refine x_nw (k := 22) (i := 1) (idx := 60) (atype := .byte) (ty := .byte) C hin w q119 rfl rfl (fun _ q => q) rfl (by decide) (by decide) (Nat.le_of_ble_eq_true rfl) (Nat.le_of_ble_eq_true rfl) dX0_init_136 (by decide) q65 rfl rfl (by decide +kernel) (Nat.le_of_ble_eq_true rfl) dX0_init_138 (fun q22 H locs w => ?_)
  refine lv_aload_n C.1 C.2.1 dX0_init_141 rfl (lv_at hl 0 rfl) ?_
  refine n_bipush (v := nI 32) C dX0_init_142 (by decide) ?_
  refine x_nw (k := 23) (i := 0) (idx := 63) (atype := .int) (ty := .int) C hin w q120 rfl rfl (fun _ q => q) rfl (by decide) (by decide) (Nat.le_of_ble_eq_true rfl) (Nat.le_of_ble_eq_true rfl) dX0_init_144 (by decide) q66 rfl rfl (by decide +kernel) (Nat.le_of_ble_eq_true rfl) dX0_init_146 (fun q23 H locs w => ?_)
  refine lv_aload_n C.1 C.2.1 dX0_init_149 rfl (lv_at hl 0 rfl) ?_
  refine n_bipush (v := nI 32) C dX0_init_150 (by decide) ?_
  refine x_nw (k := 24) (i := 2) (idx := 66) (atype := .short) (ty := .short) C hin w q121 rfl rfl (fun _ q => q) rfl (by decide) (by decide) (Nat.le_of_ble_eq_true rfl) (Nat.le_of_ble_eq_true rfl) dX0_init_152 (by decide) q67 rfl rfl (by decide +kernel) (Nat.le_of_ble_eq_true rfl) dX0_init_154 (fun q24 H locs w => ?_)
  refine W.widen (k := 19) (n := 1798) (Nat.le_of_ble_eq_true rfl) (Nat.le_of_ble_eq_true rfl) ?_
  have hP9 : va_P D vwCl (wX (fun k => [h, q1, q2, q3, q4, 0, 0, q7, q8, q9, q10, q11, q12, q13, q14, q15, 0, q17, q18, q19, 0, 0, q22, q23, q24].getD k 0) T (fun _ _ => 0)) H := w.1
  have hD9 : va_D A (wX (fun k => [h, q1, q2, q3, q4, 0, 0, q7, q8, q9, q10, q11, q12, q13, q14, q15, 0, q17, q18, q19, 0, 0, q22, q23, q24].getD k 0) T (fun _ _ => 0)) := w.2.1
  exact W.vret C.1 C.2.1 C.2.2.2.2.2.1 (fun t ht hW => ⟨⟨(fun k => [h, q1, q2, q3, q4, 0, 0, q7, q8, q9, q10, q11, q12, q13, q14, q15, 0, q17, q18, q19, 0, 0, q22, q23, q24].getD k 0), rfl, rfl, by rw [ht]; exact hP9, va_K.moved hW.alike w.2.2.2.1, hD9⟩, w.2.2.1.F ht⟩) w.2.2.1.2.2 dX0_init_157 C.2.2.2.2.2.2
set_option maxHeartbeats 8000000 in
set_option maxRecDepth 100000 in
theorem met_X1_init (l : Launch) (D : va_G) (T : Nat → ClassId) (h sz : Nat) : Met l yX1_init (ws_ yX1_init cX1_init 1 none) ({ frames := 1, cells := 7, slots := 144, locals := 12 }) (va_Pc [.ref h] (fun U => U.heap.size = sz ∧ va_P D vwCl [(h, .inr (1, zM))] U.heap ∧ va_K D vwCl (tyX T) U ∧ va_D (fun _ => True) [(h, .inr (1, zM))])) (va_Qv (fun (Q : Nat → Nat) => Q 0 = h) (fun Q t => va_P D vwCl (wM Q T (fun _ _ => 0)) t.heap ∧ va_K D vwCl (tyX T) t ∧ va_D (va_A [(h, .inr (1, zM))] sz) (wM Q T (fun _ _ => 0))) (va_A [(h, .inr (1, zM))] sz)) 7 144 (va_A [(h, .inr (1, zM))] sz) := by
  refine Met.ofW (cc := cX1_init) (maxL := 1) (ret := none) (by decide) rfl ?_
  intro p e s m args below meth c s₁ B hml hv
  obtain ⟨rfl, hsz, hP, hK, hD0⟩ := hv
  have hts := atoms_spec (ws := ws_ yX1_init cX1_init 1 none) B.pre
  have hts : ∀ w ∈ lw_all, w.before _ s = true := fun w h => hts w (List.mem_cons_of_mem _ h)
  have hown : s.vm.findClass RX1 = some m.cls := findClass_of_methodNamed B.named
  have hin : meth.name = "<init>" := (name_of_methodNamed B.named B.method).1
  subst hsz
  have C : gC p s m ([.ref h] : List Value).toArray meth c RX1 cX1_init 1 none := ⟨B.exec, B.bytes, hml, hown, hts, B.returns, B.notSynchronized⟩
  have w : gN D T (va_A [(h, .inr (1, zM))] s.heap.size) s [(h, .inr (1, zM))] s.heap [] := ⟨hP, hD0.self, va_S.rf, hK, fun q h => Or.inr h⟩
  generalize va_A [(h, .inr (1, zM))] s.heap.size = A at w ⊢
  have hl := lv_entry ([.ref h]) (n := 1) (Nat.le_of_ble_eq_true rfl)
  rw [lg_entry_eq]
  generalize (lg_sl ([.ref h]) ++ List.replicate (1 - (lg_sl ([.ref h])).length) Slot.unset).toArray = ls at hl ⊢
  have hl : lv_has ls 1 [(0, .ref h)] := hl
  refine lv_aload_n C.1 C.2.1 dX1_init_0 rfl (lv_at hl 0 rfl) ?_
  refine W.objInit C.1 C.2.1 hown (hts _ q277) (hts _ q41) (hts _ q42) rfl (by rw [hml]; exact hl.1) rfl dX1_init_1 (Nat.le_of_ble_eq_true rfl) (Nat.le_of_ble_eq_true rfl) ?_
  refine W.eq (g2 := F0 m 4 ls []) rfl ?_
  refine lv_aload_n C.1 C.2.1 dX1_init_4 rfl (lv_at hl 0 rfl) ?_
  refine n_const (v := nI 0) C dX1_init_5 (by decide) ?_
  refine va_put (D := D) (ci := 1) (v := .int (nI 0)) (ty := .int) (C := RX1) (T := TX1) (N := 8) C.1 C.2.1 C.2.2.2.2.1 in_X1 tyX1 tyX1_ok nmX1 C.2.2.2.1 w.2.2.2.1 w.1 w.2.1 w.2.2.1 0 rfl rfl 0 (by decide) (C.2.2.2.2.1 _ q278) (fun _ h9 => h9) rfl (by decide +kernel) rfl rfl (Nat.le_of_ble_eq_true rfl) dX1_init_6 (fun H locs hP hD hS => ?_)
  have w : gN D T A s [(h, .inr (1, zM))] H locs := ⟨hP, hD, hS, w.2.2.2.1, w.2.2.2.2⟩
  refine lv_aload_n C.1 C.2.1 dX1_init_9 rfl (lv_at hl 0 rfl) ?_
  refine n_bipush (v := nI 24) C dX1_init_10 (by decide) ?_
  refine y_nw (k := 1) (i := 0) (idx := 13) (atype := .int) (ty := .int) C w q120 rfl rfl (fun _ q => q) rfl (by decide) (by decide) (Nat.le_of_ble_eq_true rfl) (Nat.le_of_ble_eq_true rfl) dX1_init_12 (by decide) q279 rfl rfl (by decide +kernel) (Nat.le_of_ble_eq_true rfl) dX1_init_14 (fun q1 H locs w => ?_)
  refine lv_aload_n C.1 C.2.1 dX1_init_17 rfl (lv_at hl 0 rfl) ?_
  refine n_bipush (v := nI 24) C dX1_init_18 (by decide) ?_
  refine y_nw (k := 2) (i := 0) (idx := 17) (atype := .int) (ty := .int) C w q120 rfl rfl (fun _ q => q) rfl (by decide) (by decide) (Nat.le_of_ble_eq_true rfl) (Nat.le_of_ble_eq_true rfl) dX1_init_20 (by decide) q280 rfl rfl (by decide +kernel) (Nat.le_of_ble_eq_true rfl) dX1_init_22 (fun q2 H locs w => ?_)
  refine lv_aload_n C.1 C.2.1 dX1_init_25 rfl (lv_at hl 0 rfl) ?_
  refine n_bipush (v := nI 24) C dX1_init_26 (by decide) ?_
  refine y_nw (k := 3) (i := 0) (idx := 20) (atype := .int) (ty := .int) C w q120 rfl rfl (fun _ q => q) rfl (by decide) (by decide) (Nat.le_of_ble_eq_true rfl) (Nat.le_of_ble_eq_true rfl) dX1_init_28 (by decide) q281 rfl rfl (by decide +kernel) (Nat.le_of_ble_eq_true rfl) dX1_init_30 (fun q3 H locs w => ?_)
  refine lv_aload_n C.1 C.2.1 dX1_init_33 rfl (lv_at hl 0 rfl) ?_
  refine n_bipush (v := nI 24) C dX1_init_34 (by decide) ?_
  refine y_nw (k := 4) (i := 0) (idx := 23) (atype := .int) (ty := .int) C w q120 rfl rfl (fun _ q => q) rfl (by decide) (by decide) (Nat.le_of_ble_eq_true rfl) (Nat.le_of_ble_eq_true rfl) dX1_init_36 (by decide) q282 rfl rfl (by decide +kernel) (Nat.le_of_ble_eq_true rfl) dX1_init_38 (fun q4 H locs w => ?_)
  refine lv_aload_n C.1 C.2.1 dX1_init_41 rfl (lv_at hl 0 rfl) ?_
  refine n_bipush (v := nI 8) C dX1_init_42 (by decide) ?_
  refine y_nw (k := 5) (i := 0) (idx := 26) (atype := .int) (ty := .int) C w q120 rfl rfl (fun _ q => q) rfl (by decide) (by decide) (Nat.le_of_ble_eq_true rfl) (Nat.le_of_ble_eq_true rfl) dX1_init_44 (by decide) q283 rfl rfl (by decide +kernel) (Nat.le_of_ble_eq_true rfl) dX1_init_46 (fun q5 H locs w => ?_)
  refine lv_aload_n C.1 C.2.1 dX1_init_49 rfl (lv_at hl 0 rfl) ?_
  refine n_bipush (v := nI 16) C dX1_init_50 (by decide) ?_
  refine y_nw (k := 6) (i := 0) (idx := 29) (atype := .int) (ty := .int) C w q120 rfl rfl (fun _ q => q) rfl (by decide) (by decide) (Nat.le_of_ble_eq_true rfl) (Nat.le_of_ble_eq_true rfl) dX1_init_52 (by decide) q284 rfl rfl (by decide +kernel) (Nat.le_of_ble_eq_true rfl) dX1_init_54 (fun q6 H locs w => ?_)
  refine lv_aload_n C.1 C.2.1 dX1_init_57 rfl (lv_at hl 0 rfl) ?_
  refine n_bipush (v := nI 24) C dX1_init_58 (by decide) ?_
  refine y_nw (k := 7) (i := 0) (idx := 32) (atype := .int) (ty := .int) C w q120 rfl rfl (fun _ q => q) rfl (by decide) (by decide) (Nat.le_of_ble_eq_true rfl) (Nat.le_of_ble_eq_true rfl) dX1_init_60 (by decide) q285 rfl rfl (by decide +kernel) (Nat.le_of_ble_eq_true rfl) dX1_init_62 (fun q7 H locs w => ?_)
  refine W.widen (k := 7) (n := 144) (Nat.le_of_ble_eq_true rfl) (Nat.le_of_ble_eq_true rfl) ?_
  have hP9 : va_P D vwCl (wM (fun k => [h, q1, q2, q3, q4, q5, q6, q7].getD k 0) T (fun _ _ => 0)) H := w.1
  have hD9 : va_D A (wM (fun k => [h, q1, q2, q3, q4, q5, q6, q7].getD k 0) T (fun _ _ => 0)) := w.2.1
  exact W.vret C.1 C.2.1 C.2.2.2.2.2.1 (fun t ht hW => ⟨⟨(fun k => [h, q1, q2, q3, q4, q5, q6, q7].getD k 0), rfl, rfl, by rw [ht]; exact hP9, va_K.moved hW.alike w.2.2.2.1, hD9⟩, w.2.2.1.F ht⟩) w.2.2.1.2.2 dX1_init_65 C.2.2.2.2.2.2
end
section
/-! the law from its entry; the claim (the last rows began as the skeleton of the kit) -/
theorem zX_ok : ∀ j, j < 25 → defaultValue (tyX0 j) = vp_V zX j := by
  intro j hj
  match j, hj with
  | 0, _ => rfl
  | 1, _ => rfl
  | 2, _ => rfl
  | 3, _ => rfl
  | 4, _ => rfl
  | 5, _ => rfl
  | 6, _ => rfl
  | 7, _ => rfl
  | 8, _ => rfl
  | 9, _ => rfl
  | 10, _ => rfl
  | 11, _ => rfl
  | 12, _ => rfl
  | 13, _ => rfl
  | 14, _ => rfl
  | 15, _ => rfl
  | 16, _ => rfl
  | 17, _ => rfl
  | 18, _ => rfl
  | 19, _ => rfl
  | 20, _ => rfl
  | 21, _ => rfl
  | 22, _ => rfl
  | 23, _ => rfl
  | 24, _ => rfl
  | k + 25, hj => omega
theorem zM_ok : ∀ j, j < 8 → defaultValue (tyX1 j) = vp_V zM j := by
  intro j hj
  match j, hj with
  | 0, _ => rfl
  | 1, _ => rfl
  | 2, _ => rfl
  | 3, _ => rfl
  | 4, _ => rfl
  | 5, _ => rfl
  | 6, _ => rfl
  | 7, _ => rfl
  | k + 8, hj => omega
set_option maxHeartbeats 8000000 in
set_option maxRecDepth 100000 in
theorem whole_start {p : Program} {e : Env} {s : State} {m : MethodId} {below : List Frame} {meth : Method} {c : Code} (l : Launch) {b L : Nat} {xs : Nat → Int32} (hL : L ≤ 320) (C0 : lw_At p s m meth c b L xs) : W p l e room_1 s m #[Value.ref b] below meth c s.heap [] 0 0 (lw_Z below #[Value.ref b] s) (entryFrame m ([Value.ref b] : List Value).toArray 4) := by
  obtain ⟨hx, hb, hr, hml, hown, hts0, hX, hbl, hlocks, hgv⟩ := id C0
  have hts : ∀ w ∈ lw_all, w.before #[Value.ref b] s = true := fun w h => hts0 w (lw_all_tbl h)
  have C : gC p s m #[Value.ref b] meth c R_law code 4 ret := ⟨hx, hb, hml, hown, hts, hr, hlocks⟩
  have hA : ∀ q : Nat, s.heap.size ≤ q → (fun q : Nat => s.heap.size ≤ q) q := fun _ h => h
  obtain ⟨c0, iS0, hKn0⟩ := u_known (C := RX0) (T := TX0) (N := 25) (n := 25) hts in_X0 (hts _ q36)
  obtain ⟨c1, iS1, hKn1⟩ := u_known (C := RX1) (T := TX1) (N := 8) (n := 8) hts in_X1 (hts _ q273)
  obtain ⟨T, hT⟩ := known_T hts
  obtain ⟨D, hKc⟩ : ∃ D : va_G, ∀ (k : Nat) (q : vw_C), vwCl[k]? = some q → u_Kn s q.1 q.2.1 q.2.2 (D.1 k) (D.2 k) := by
    refine ⟨(fun k => if k = 0 then c0 else c1, fun k => if k = 0 then iS0 else iS1), ?_⟩
    intro k q hq
    match k, hq with
    | 0, hq => cases hq; exact hKn0
    | 1, hq => cases hq; exact hKn1
    | k + 2, hq => simp [vwCl] at hq
  have hS : va_S (fun q : Nat => s.heap.size ≤ q) s.heap s.heap [] := va_S.rf
  have hK : va_K D vwCl (tyX T) s := ⟨hKc, hT⟩
  have hP : va_P D vwCl [] s.heap := fun k q h => by simp at h
  have hD : va_D (fun q : Nat => s.heap.size ≤ q) [] := ⟨fun i j p q h => by simp at h, fun k q h => by simp at h⟩
  have hl := lv_entry ([.ref b]) (n := 4) (Nat.le_of_ble_eq_true rfl)
  rw [lg_entry_eq]
  generalize (lg_sl ([.ref b]) ++ List.replicate (4 - (lg_sl ([.ref b])).length) Slot.unset).toArray = ls at hl ⊢
  have hl : lv_has ls 4 [(0, .ref b)] := hl
  refine va_new (ci := 0) (fs := zX) (C := RX0) (T := TX0) (N := 25) hx hb hts in_X0 tyX0 tyX0_ok hown (hts _ q35) (hts _ q36) (hts _ q33) hK hP hD hS hA rfl zX_ok (Nat.le_of_ble_eq_true rfl) (Nat.le_of_ble_eq_true rfl) dL_law_0 (fun h H hP hD hS => ?_)
  have hPc : va_P D vwCl [(h, .inr (0, zX))] H := hP
  have hDc : va_D (fun q : Nat => s.heap.size ≤ q) [(h, .inr (0, zX))] := hD
  refine W.widen (k := 1) (n := 25) (by omega) (by omega) ?_
  refine lv_dup hx hb dL_law_3 rfl ?_
  have hF := va_free (wc := [(h, .inr (0, zX))]) hDc hS hA [0] rfl
  refine va_callv (va_runI (As := []) (rest := [.ref h]) ⟨hx, hb, hml, hown, hts⟩ (met_X0_init l D T h H.size) (cwI 0 hts (lw_meth q39) rfl rfl rfl (hts _ q33) (hts _ q37) (hts _ q38) rfl (by decide +kernel) ⟨Nat.le_of_ble_eq_true rfl, Nat.le_of_ble_eq_true rfl⟩) ⟨fun a U g mk q => by obtain ⟨q0, q1, qP, qK, qD⟩ := q; exact ⟨q0, q1, qP, va_K.moved (u := U) (U := U.calling g mk a) (Vm.Alike.refl U.vm) qK, qD⟩, fun U hU hW => ⟨rfl, by rw [hU], by rw [hU]; exact hPc, va_K.moved hW.alike hK, hDc.weaken (fun _ _ _ _ => trivial)⟩⟩ rfl rfl hl.1 rfl (lv_room (Nat.le_of_ble_eq_true rfl)) dL_law_4 ⟨Nat.le_of_ble_eq_true rfl, Nat.le_of_ble_eq_true rfl⟩) hS (fun q _ h => hF q h) hF (fun Q t H1 locs ht hvm hw hB hz1 hk1 hS => ?_)
  obtain ⟨hP1, hK1, hD1⟩ := hB
  rw [ht] at hP1
  obtain ⟨hPj, hDj⟩ := va_join (wr := []) (w1 := wX Q T (fun _ _ => 0)) hPc hDc [0] [] rfl rfl (by decide) (by decide) hk1 hF hP1 hD1
  have hPj : va_P D vwCl (wX Q T (fun _ _ => 0)) H1 := hPj
  have hDj : va_D (fun q : Nat => s.heap.size ≤ q) (wX Q T (fun _ _ => 0)) := hDj
  have hSj := hS
  have hw : Q 0 = h := hw
  subst hw
  refine W.widen (k := 20) (n := 1823) (Nat.le_of_ble_eq_true rfl) (Nat.le_of_ble_eq_true rfl) ?_
  refine lv_astore_n (lv' := [(1, .ref (Q 0)), (0, .ref b)]) hx hb dL_law_7 rfl hl (by decide) rfl (fun ls hl => ?_)
  refine va_new (ci := 1) (fs := zM) (C := RX1) (T := TX1) (N := 8) hx hb hts in_X1 tyX1 tyX1_ok hown (hts _ q272) (hts _ q273) (hts _ q34) hK hPj hDj hSj hA rfl zM_ok (Nat.le_of_ble_eq_true rfl) (Nat.le_of_ble_eq_true rfl) dL_law_8 (fun h2 H hP hD hS => ?_)
  refine W.widen (k := 21) (n := 1831) (Nat.le_of_ble_eq_true rfl) (Nat.le_of_ble_eq_true rfl) ?_
  refine lv_dup hx hb dL_law_11 rfl ?_
  have hPc := hP.sub (ws' := [(h2, .inr (1, zM))]) [20] rfl
  have hDc := hD.sub (ws' := [(h2, .inr (1, zM))]) [20] (by decide) rfl
  have hF := va_free (wc := [(h2, .inr (1, zM))]) hD hS hA [20] rfl
  refine va_callv (va_runI (As := []) (rest := [.ref h2]) ⟨hx, hb, hml, hown, hts⟩ (met_X1_init l D T h2 H.size) (cwI 0 hts (lw_meth q276) rfl rfl rfl (hts _ q34) (hts _ q274) (hts _ q275) rfl (by decide +kernel) ⟨Nat.le_of_ble_eq_true rfl, Nat.le_of_ble_eq_true rfl⟩) ⟨fun a U g mk q => by obtain ⟨q0, q1, qP, qK, qD⟩ := q; exact ⟨q0, q1, qP, va_K.moved (u := U) (U := U.calling g mk a) (Vm.Alike.refl U.vm) qK, qD⟩, fun U hU hW => ⟨rfl, by rw [hU], by rw [hU]; exact hPc, va_K.moved hW.alike hK, hDc.weaken (fun _ _ _ _ => trivial)⟩⟩ rfl rfl hl.1 rfl (lv_room (Nat.le_of_ble_eq_true rfl)) dL_law_12 ⟨Nat.le_of_ble_eq_true rfl, Nat.le_of_ble_eq_true rfl⟩) hS (fun q _ h => hF q h) hF (fun Q2 t H1 locs ht hvm hw hB hz1 hk1 hS => ?_)
  obtain ⟨hP1, hK1, hD1⟩ := hB
  rw [ht] at hP1
  obtain ⟨hPe, hDe⟩ := va_join (wr := wX Q T (fun _ _ => 0)) (w1 := wM Q2 T (fun _ _ => 0)) hP hD [20] [0, 1, 2, 3, 4, 5, 6, 7, 8, 9, 10, 11, 12, 13, 14, 15, 16, 17, 18, 19] rfl rfl (by decide) (by decide) hk1 hF hP1 hD1
  have hSe := hS
  have hw : Q2 0 = h2 := hw
  subst hw
  refine W.widen (k := 28) (n := 1975) (Nat.le_of_ble_eq_true rfl) (Nat.le_of_ble_eq_true rfl) ?_
  refine lv_astore_n (lv' := [(2, .ref (Q2 0)), (1, .ref (Q 0)), (0, .ref b)]) hx hb dL_law_15 rfl hl (by decide) rfl (fun ls hl => ?_)
  refine lv_iconst (v := nI 0) hx hb dL_law_16 (by decide) ?_
  refine lv_istore_n (lv' := [(3, .int (nI 0)), (2, .ref (Q2 0)), (1, .ref (Q 0)), (0, .ref b)]) hx hb dL_law_17 rfl hl (by decide) rfl (fun ls hl => ?_)
  exact law_loop C hX hbl hL ⟨Nat.le_of_ble_eq_true rfl, Nat.le_of_ble_eq_true rfl⟩ (L + 1) 0 (Nat.zero_le _) (by omega) _ _ _ _ _ rel_0 ⟨hPe, hDe, hSe, hK⟩ hl
set_option maxHeartbeats 4000000 in
theorem lw_walk (l : Launch) (b : Addr) (xs : List Int32) : MetFree l x (headSpec (Jvm.Cond.code x code maxLocals ret :: tables_1) room_1) (lw_P b xs) (fun _ _ _ _ _ => True) lw_Q := by
  refine MetFree.of_bodyS (code := code) (maxLocals := maxLocals) (ret := ret) (by decide) ?_ ?_
  · intro args s m h hn
    obtain ⟨meth, c, h1, h2, h3, h4, h5, h6, -, -⟩ := Cond.code_spec hn (atoms_spec (ws := Jvm.Cond.code x code maxLocals ret :: tables_1) h _ List.mem_cons_self)
    exact ⟨meth, c, h1, h2, h3, h4, h5, h6⟩
  · intro p e s m args below meth c s₁ B hml0 hP _
    obtain ⟨rfl, hx, hbd, hgv⟩ := hP
    obtain ⟨scr, harrAt, hlist, hof, hsmall⟩ := hx
    obtain ⟨hcb, hkn, -, -⟩ := State.arrayAt?_spec harrAt
    have hown : s.vm.findClass R_law = some m.cls := findClass_of_methodNamed B.named
    have hts0 : ∀ c ∈ (Jvm.Cond.code x code maxLocals ret :: tables_1), c.before #[Value.ref b] s = true := atoms_spec (ws := Jvm.Cond.code x code maxLocals ret :: tables_1) B.pre
    have hts : ∀ w ∈ lw_tbl, w.before #[Value.ref b] s = true := k2_hts_sels lw_privs (fun w hw => hts0 w (List.mem_cons_of_mem _ hw)) lw_privs_ok
    have hml : c.maxLocals = 4 := B.maxLocals_eq (hts0 _ List.mem_cons_self)
    have X₀ : Stand p l e room_1 s m #[Value.ref b] below meth c s₁ [] 0 0 := Stand.of_body B
    have hh0 : s₁.heap = s.heap := by rw [B.state]; rfl
    have hsz : scr.slots.size = xs.length := by rw [← Array.length_toList, hlist, List.length_map]
    have hval : ∀ j : Nat, j < xs.length → scr.slots[j]? = some (.int (xs.getD j 0)) := fun j hj => by
      rw [← Array.getElem?_toList, hlist]
      simp [hj]
    have hbl : b < s.heap.size := (Array.getElem?_eq_some_iff.mp hcb).1
    have hX : va_X b xs.length (fun j => xs.getD j 0) s s.heap := ⟨scr, hcb, hof, hkn, hsz, hval⟩
    have K : W p l e room_1 s m #[Value.ref b] below meth c s₁.heap [] 0 0 (lw_Z below #[Value.ref b] s) (entryFrame m ([Value.ref b] : List Value).toArray 4) := by
      rw [hh0]
      exact whole_start l hbd ⟨B.exec, B.bytes, B.returns, hml, hown, hts, hX, hbl, B.notSynchronized, hgv⟩
    obtain ⟨t, a1, o, b1, b2, b3⟩ := K s₁ rfl X₀
    exact ⟨t, o, a1, b1, b2, b3⟩
theorem lw_pre_spec {args : Array Value} {s : State} (h : (Jvm.Cond.and given_1 narrow_1).before args s = true) (hr : rest_1_c.before args s = true) : ∃ (b : Addr) (xs : List Int32), lw_P b xs args s := by
  have hs := flat_of_before _ h
  have hq := flat_of_before _ hr
  have hc : (Cond.count 1).before args s = true := hs _ (by decide +kernel)
  have harr : (Cond.arrayOf (.arg 0) .int).before args s = true := hs _ (by decide +kernel)
  have hle : (Cond.le (.length (.arg 0)) (.int 320)).before args s = true := hs _ (by decide +kernel)
  have hlen : (Cond.isInt (.length (.arg 0))).before args s = true := hq _ (by decide +kernel)
  have hall : (Cond.all (.arg 0) (.isInt (.elem (.arg 0) (.index 0)))).before args s = true := hq _ (by decide +kernel)
  obtain ⟨b, xs, hb, hx⟩ := State.ints_of_pre rfl harr hlen hall
  have hsm : xs.length < 2 ^ 31 := hx.choose_spec.2.2.2
  have hev : (Term.length (.arg 0)).eval args s none [] s = some (.int xs.length.toInt32) := hx.length_eval hb
  have hv := Cond.le_ints hev (show (Term.int 320).eval args s none [] s = some (.int 320) from rfl)
  have hd : xs.length.toInt32 ≤ 320 := by
    simpa [Cond.before, Cond.holds, hv] using hle
  have hN : xs.length ≤ 320 := (Int32.ofNat_le_ofNat hsm (by decide)).mp (show Int32.ofNat xs.length ≤ Int32.ofNat 320 from hd)
  exact ⟨b, xs, Cond.one_arg hc (show args[0]? = some (.ref b) from hb), hx, hN, h⟩
theorem lw_comes (l : Launch) : Comes l x (Jvm.Cond.code x code maxLocals ret :: tables_1) room_1 (fun tb e args s => Calls_1 tb e args s ∧ rest_1 tb e args s ∧ Pre_1 tb e args s)
    (fun _ _ args s o t => lw_Q args s o t) := by
  intro p e ha hc hk s m args below hf hfit hheap happ hpre
  obtain ⟨b, xs, hP⟩ := lw_pre_spec hpre.2.2 hpre.2.1
  obtain ⟨k, o, h1, h2, h3, hQ⟩ := lw_walk l b xs p e ha hc hk s m args below hf ((Spec.applies_iff_loose hf).mp happ).1 hP trivial
  exact ⟨k, o, h1, h2, h3, hQ⟩
theorem lw_frame {s t : State} {o : Outcome} {args : Array Value} (h : Framed s o t [] 600000 7290000) :
    Framed s o t (fieldLocs frame_1_writes args s ++ arrayLocs frame_1_arrays args s ++ staticLocs frame_1_statics s) 600000 7290000 := h
theorem lw_limb (L : Cond) (hL : ∀ (args : Array Value) (s t : State), L.after args s (.returned (some (.int 1))) t = true) :
    ArmFor flags0 classFile x code maxLocals ret World_1 tables_1 room_1 Calls_1 rest_1 Pre_1
      (fun tb e a s o t => postC L tb e a s o t ∧ Framed s o t (fieldLocs frame_1_writes a s ++ arrayLocs frame_1_arrays a s ++ staticLocs frame_1_statics s) 600000 7290000) := by
  intro l _ _ _ p e ha hc hk s m args below hf hfit hheap happ hpre
  obtain ⟨k, o, h1, h2, h3, rfl, hF⟩ := lw_comes l p e ha hc hk s m args below hf hfit hheap happ hpre
  exact ⟨k, _, h1, h2, h3, hL args s _, lw_frame hF⟩
theorem i_vc : Claimed_1_1 ∧ Claimed_1_2 := ⟨lw_limb limb_1_1 (fun args s t => by simp [limb_1_1, Cond.after, Cond.holds, Cond.value]), lw_limb limb_1_2 (fun args s t => Cond.after_iff.mpr (by
  first | (rw [show limb_1_2 = Cond.eq .result (.int 1) from rfl, Cond.eq_ints (x := 1) (y := 1) rfl rfl]; simp; done) | (simp [limb_1_2, Cond.value, Term.eval]; done)))⟩
end
