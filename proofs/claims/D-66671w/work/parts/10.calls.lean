/-! RETURNS, CALLS, EXCEPTIONS ON THEIR WAY -/
theorem rp_locs {G : gt_T} {h : ab_H} {H : Heap} {locs locs' : List Loc} (k : rp G h H locs) (hl : ∀ l ∈ locs', gA G l.base) : rp G h H locs' := by
  obtain ⟨ws, a1, a2, a3, a4⟩ := k
  exact ⟨ws, a1, a2, a3, a4.1, a4.2.1, hl⟩
theorem rp_nil {G : gt_T} {h : ab_H} {H : Heap} {locs : List Loc} (k : rp G h H locs) : rp G h H [] := rp_locs k (fun l q => by cases q)
theorem rp_A {G : gt_T} {h : ab_H} {H : Heap} {locs : List Loc} (k : rp G h H locs) : ∀ l ∈ locs, gA G l.base := by
  obtain ⟨ws, a1, a2, a3, a4⟩ := k
  exact a4.2.2
def qc_ (G : gt_T) (Φ : Option ab_V → ab_H → Prop) (Θ : Nat → ab_H → Prop) : Array Value → State → Outcome → State → Prop := fun _ _ o t => ∃ h', rp G h' t.heap [] ∧ ((∃ v, o = .returned (v.map cv) ∧ okO v ∧ Φ v h') ∨ ∃ a, o = .threw a ∧ Θ a h')
theorem mq_eq {G : gt_T} {below : List Frame} {s : State} {args : Array Value} {mc ms : Nat} {Φ : Option ab_V → ab_H → Prop} {Θ : Nat → ab_H → Prop} : ∀ t, MQ below (qc_ G Φ Θ) args s mc ms (gA G) t → eq_ G below s mc ms Φ Θ t := by
  rintro t ⟨o, a1, a2, a3, L, ⟨-, hW, hsame⟩, hL⟩
  exact ⟨o, a1, a2, a3, hW, L, hsame, hL⟩
def rI (Ψ : Int → ab_H → Prop) : Option ab_V → ab_H → Prop := fun v h => ∃ z, v = some (vI z) ∧ Ψ z h
def rB (Ψ : Bool → ab_H → Prop) : Option ab_V → ab_H → Prop := fun v h => ∃ z, v = some (vI (bi z)) ∧ Ψ z h
def rL (Ψ : Int → ab_H → Prop) : Option ab_V → ab_H → Prop := fun v h => ∃ z, v = some (vL z) ∧ Ψ z h
def rR (Ψ : Option Nat → ab_H → Prop) : Option ab_V → ab_H → Prop := fun v h => ∃ z, v = some (vR z) ∧ Ψ z h
def rV (Ψ : ab_H → Prop) : Option ab_V → ab_H → Prop := fun v h => v = none ∧ Ψ h
/-- nothing is thrown -/
def nT : Nat → ab_H → Prop := fun _ _ => False
section EvRet
variable {G : gt_T} {M : mt_T} {F L C S : Nat} {pc a0 b0 j0 : Nat} {z0 : Int} {ls : List (Option ab_V)} {st : List ab_V} {h : ab_H} {Φ : Option ab_V → ab_H → Prop} {Θ : Nat → ab_H → Prop}
theorem ev_iret (d : ri_at M (pc, 1, 70, a0, b0, j0, z0)) (hr : M.2.2.2.1 = some .int) {x : Int} (k : Φ (some (vI x)) h) : ev G M F L C S pc ls [vI x] h Φ Θ := by
  intro p e R s m args below meth c H locs cells slots lsC B
  obtain ⟨C0, hF, hL, hC, hS, hrp, hl, hst, hls⟩ := B
  refine W.mono mq_eq (W.widen (k := R.cells) (n := R.slots) (by omega) (by omega) (W.iret C0.1 C0.2.1 (C0.2.2.2.1.trans hr) (fun t ht hWt => ⟨h, by rw [ht]; exact rp_nil hrp, Or.inl ⟨some (vI x), rfl, ?_, k⟩⟩) (rp_A hrp) (rx_70 d) C0.2.2.2.2.1))
  intro w hw
  cases hw
  exact okh hst
theorem ev_zret (d : ri_at M (pc, 1, 70, a0, b0, j0, z0)) (hr : M.2.2.2.1 = some .boolean) {x : Bool} (k : Φ (some (vI (bi x))) h) : ev G M F L C S pc ls [vI (bi x)] h Φ Θ := by
  intro p e R s m args below meth c H locs cells slots lsC B
  obtain ⟨C0, hF, hL, hC, hS, hrp, hl, hst, hls⟩ := B
  refine W.mono mq_eq (W.widen (k := R.cells) (n := R.slots) (by omega) (by omega) (W.zret (v := Int32.ofInt (bi x)) (ty := .boolean) C0.1 C0.2.1 (C0.2.2.2.1.trans hr) (by cases x <;> rfl) (fun t ht hWt => ⟨h, by rw [ht]; exact rp_nil hrp, Or.inl ⟨some (vI (bi x)), rfl, ?_, k⟩⟩) (rp_A hrp) (rx_70 d) C0.2.2.2.2.1))
  intro w hw
  cases hw
  exact okh hst
theorem ev_lret (d : ri_at M (pc, 1, 71, a0, b0, j0, z0)) (hr : M.2.2.2.1 = some .long) {x : Int} (k : Φ (some (vL x)) h) : ev G M F L C S pc ls [vL x] h Φ Θ := by
  intro p e R s m args below meth c H locs cells slots lsC B
  obtain ⟨C0, hF, hL, hC, hS, hrp, hl, hst, hls⟩ := B
  refine W.mono mq_eq (W.widen (k := R.cells) (n := R.slots) (by omega) (by omega) (W.lret C0.1 C0.2.1 (C0.2.2.2.1.trans hr) (fun t ht hWt => ⟨h, by rw [ht]; exact rp_nil hrp, Or.inl ⟨some (vL x), rfl, ?_, k⟩⟩) (rp_A hrp) (rx_71 d) C0.2.2.2.2.1))
  intro w hw
  cases hw
  exact okh hst
def isRf (t : Option FieldType) : Bool := match t with
  | some (.object _) => true
  | some (.array _) => true
  | _ => false
theorem ev_aret (d : ri_at M (pc, 1, 72, a0, b0, j0, z0)) (hr : isRf M.2.2.2.1 = true) {r : Option Nat} (k : Φ (some (vR r)) h) : ev G M F L C S pc ls [vR r] h Φ Θ := by
  intro p e R s m args below meth c H locs cells slots lsC B
  obtain ⟨C0, hF, hL, hC, hS, hrp, hl, hst, hls⟩ := B
  have hq := C0.2.2.2.1
  cases hm : M.2.2.2.1 with
  | none => rw [hm] at hr; cases hr
  | some ty =>
    rw [hm] at hr hq
    have hty : (∃ n, ty = .object n) ∨ ∃ t, ty = .array t := by
      cases ty <;> first | exact Or.inl ⟨_, rfl⟩ | exact Or.inr ⟨_, rfl⟩ | (exact absurd hr Bool.false_ne_true)
    exact W.mono mq_eq (W.widen (k := R.cells) (n := R.slots) (by omega) (by omega) (W.aret (v := cv (vR r)) C0.1 C0.2.1 hq hty (by cases r; exact Or.inl rfl; exact Or.inr ⟨_, rfl⟩) (fun t ht hWt => ⟨h, by rw [ht]; exact rp_nil hrp, Or.inl ⟨some (vR r), rfl, fun w hw => by cases hw; exact trivial, k⟩⟩) (rp_A hrp) (rx_72 d) C0.2.2.2.2.1))
theorem ev_vret (d : ri_at M (pc, 1, 73, a0, b0, j0, z0)) (hr : M.2.2.2.1 = none) (k : Φ none h) : ev G M F L C S pc ls [] h Φ Θ := by
  intro p e R s m args below meth c H locs cells slots lsC B
  obtain ⟨C0, hF, hL, hC, hS, hrp, hl, hst, hls⟩ := B
  exact W.mono mq_eq (W.widen (k := R.cells) (n := R.slots) (by omega) (by omega) (W.vret C0.1 C0.2.1 (C0.2.2.2.1.trans hr) (fun t ht hWt => ⟨h, by rw [ht]; exact rp_nil hrp, Or.inl ⟨none, rfl, (fun w hw => by cases hw), k⟩⟩) (rp_A hrp) (rx_73 d) C0.2.2.2.2.1))
/-- an exception is on its way at pc -/
def et (G : gt_T) (M : mt_T) (F L C S : Nat) (pc : Nat) (ls : List (Option ab_V)) (h : ab_H) (a : Nat) (Φ : Option ab_V → ab_H → Prop) (Θ : Nat → ab_H → Prop) : Prop :=
  ∀ (p : Program) (e : Env) (R : Room) (s : State) (m : MethodId) (args : Array Value) (below : List Frame) (meth : Method) (c : Code) (H : Heap) (locs : List Loc) (cells slots : Nat) (lsC : Array Slot),
    cb G M F L C S ls [] h p e R s m meth c H locs cells slots lsC → ∀ T : State, T.heap = H → Stand p (gl G) e R s m args below meth c T locs cells slots → ∀ stk : List Value,
    ∃ t, Steps p.tables e below ((T.setTop (F0 m pc lsC stk)).pushFrame (.throwing a)) t ∧ eq_ G below s R.cells R.slots Φ Θ t
theorem et_out {a : Nat} (hh : M.2.2.2.2 = []) (k : Θ a h) : et G M F L C S pc ls h a Φ Θ := by
  intro p e R s m args below meth c H locs cells slots lsC B T hT X stk
  obtain ⟨C0, hF, hL, hC, hS, hrp, hl, hst, hls⟩ := B
  have X' := stand_widen X (k := R.cells) (n := R.slots) (by omega) (by omega)
  have hout : ∀ x ∈ c.exceptionTable.toList, covers x pc = false := by
    rw [C0.2.2.2.2.2.2.1, hh]
    intro x hx
    cases hx
  obtain ⟨a1, a2, a3, a4, a5⟩ := X'.leaveThrown a (g := F0 m pc lsC stk) rfl rfl rfl hout C0.2.2.2.2.1
  exact ⟨_, a1, .threw a, a2, a3, ⟨h, by show rp G h T.heap []; rw [hT]; exact rp_nil hrp, Or.inr ⟨a, rfl, k⟩⟩, a4, locs, a5, rp_A hrp⟩
theorem ev_athrow (d : ri_at M (pc, 1, 66, a0, b0, j0, z0)) {a : Nat} (k : et G M F L C S pc ls h a Φ Θ) : ev G M F L C S pc ls (vA a :: st) h Φ Θ := by
  intro p e R s m args below meth c H locs cells slots lsC B T hT X
  have B' := B
  obtain ⟨C0, hF, hL, hC, hS, hrp, hl, hst, hls⟩ := B
  obtain ⟨t, a1, a2⟩ := k p e R s m args below meth c H locs cells slots lsC ⟨C0, hF, hL, hC, hS, hrp, hl, (fun v hv => by cases hv), hls⟩ T hT X (st.map cv)
  refine ⟨t, ?_, a2⟩
  have hdg := rx_66 d
  have hx := C0.1
  have hb := C0.2.1
  jvm_step X.here [hx, hb, hdg, athrow.wp_sem]
  exact a1
end EvRet
def sw : List ab_V → Nat := fun l => match l with
  | [] => 0
  | v :: r => (if is2 (some v) then 2 else 1) + sw r
theorem sw_cat (l : List ab_V) : ((l.map cv).map fun v => v.category).sum = sw l := by
  induction l with
  | nil => rfl
  | cons v r ih =>
    simp only [List.map_cons, List.sum_cons, ih, cv_cat, sw]
theorem sw_sl (l : List ab_V) : (lg_sl (l.map cv)).length = sw l := by
  induction l with
  | nil => rfl
  | cons v r ih =>
    have e : lg_sl ((v :: r).map cv) = (if (cv v).category = 2 then [.val (cv v), .second] else [.val (cv v)]) ++ lg_sl (r.map cv) := by simp [lg_sl]
    rw [e, List.length_append, ih, cv_cat]
    cases h : is2 (some v) <;> simp [sw, h]
theorem en_len : ∀ (n : Nat) (args : List ab_V), (en n args).length = n
  | 0, _ => rfl
  | n + 1, [] => by simp [en, en_len n []]
  | 1, v :: r => by
    cases h : is2 (some v) <;> simp [en, h]
  | n + 2, v :: r => by
    cases h : is2 (some v)
    · simp only [en, h, Bool.false_eq_true, if_false, List.length_cons]; rw [en_len (n + 1) r]
    · simp only [en, h, if_true, List.length_cons]; rw [en_len n r]
theorem en_get : ∀ (n : Nat) (args : List ab_V) (off i : Nat) (v : ab_V), (en n args)[i]? = some (some v) → (off + i, cv v) ∈ lv_args off (args.map cv) ∧ v ∈ args
  | 0, _, off, i, v => by simp [en]
  | n + 1, [], off, i, v => by
    intro hh
    cases i with
    | zero => simp [en] at hh
    | succ i =>
      simp only [en, List.getElem?_cons_succ] at hh
      have := (en_get n [] (off + 1) i v hh).2
      cases this
  | 1, w :: r, off, i, v => by
    intro hh
    cases h : is2 (some w)
    · simp only [en, h, Bool.false_eq_true, if_false] at hh
      cases i with
      | zero =>
        simp at hh; subst hh
        simp only [List.map_cons, lv_args]
        exact ⟨List.mem_cons_self, List.mem_cons_self⟩
      | succ i => simp at hh
    · simp only [en, h, if_true] at hh
      cases i with
      | zero =>
        simp at hh; subst hh
        simp only [List.map_cons, lv_args]
        exact ⟨List.mem_cons_self, List.mem_cons_self⟩
      | succ i => simp at hh
  | n + 2, w :: r, off, i, v => by
    intro hh
    cases h : is2 (some w)
    · simp only [en, h, Bool.false_eq_true, if_false] at hh
      have hc : ¬ (cv w).category = 2 := by rw [cv_cat, h]; decide
      cases i with
      | zero =>
        simp at hh; subst hh
        simp only [List.map_cons, lv_args]
        exact ⟨List.mem_cons_self, List.mem_cons_self⟩
      | succ i =>
        simp only [List.getElem?_cons_succ] at hh
        obtain ⟨h1, h2⟩ := en_get (n + 1) r (off + 1) i v hh
        simp only [List.map_cons, lv_args, if_neg hc]
        exact ⟨List.mem_cons_of_mem _ (by rw [show off + (i + 1) = off + 1 + i by omega]; exact h1), List.mem_cons_of_mem _ h2⟩
    · simp only [en, h, if_true] at hh
      have hc : (cv w).category = 2 := by rw [cv_cat, h]; decide
      rcases i with _ | _ | i
      · simp at hh; subst hh
        simp only [List.map_cons, lv_args]
        exact ⟨List.mem_cons_self, List.mem_cons_self⟩
      · simp at hh
      · simp only [List.getElem?_cons_succ] at hh
        obtain ⟨h1, h2⟩ := en_get n r (off + 2) i v hh
        simp only [List.map_cons, lv_args, if_pos hc]
        exact ⟨List.mem_cons_of_mem _ (by rw [show off + (i + 1 + 1) = off + 2 + i by omega]; exact h1), List.mem_cons_of_mem _ h2⟩
theorem en_lh (args : List ab_V) (n : Nat) (hw : sw args ≤ n) : lh ((lg_sl (args.map cv) ++ List.replicate (n - (lg_sl (args.map cv)).length) Slot.unset).toArray) n (en n args) := by
  have h := lv_entry (args.map cv) (n := n) (by rw [sw_sl]; exact hw)
  refine ⟨h.1, h.2.1, en_len n args, fun i v hv => ?_⟩
  have := (en_get n args 0 i v hv).1
  rw [Nat.zero_add] at this
  exact h.2.2 _ this
theorem en_ok {args : List ab_V} {n : Nat} (h : ∀ v ∈ args, okV v) : ∀ v, some v ∈ en n args → okV v := by
  intro v hv
  obtain ⟨k, hk⟩ := List.getElem?_of_mem hv
  exact h v (en_get n args 0 k v hk).2
theorem steps_up {tb : Tables} {e : Env} {f : Frame} {below : List Frame} {s t : State} (h : Steps tb e (f :: below) s t) : Steps tb e below s t := by
  obtain ⟨n, h1, h2⟩ := h
  refine ⟨n, h1, fun k hk => ?_⟩
  obtain ⟨ab, e1, e2, e3⟩ := h2 k hk
  refine ⟨ab ++ [f], by rw [e1]; simp, by simp, fun a q => ?_⟩
  cases ab with
  | nil => exact e2 rfl
  | cons x r => cases r <;> simp at q
theorem mt_code {G : gt_T} {M : mt_T} {s : State} {j1 j2 j3 j4 : Nat} (hq : mt_ok M j1 j2 j3 j4 = true) (hG : GF G) (hW : (gs G).WarmedH s.vm) :
    (∃ mk methk ck, s.methodNamed? M.1 = some mk ∧ s.vm.method? mk = some methk ∧ methk.code = some ck ∧ ck.code = M.2.1 ∧ ck.maxLocals = M.2.2.1 ∧ methk.sig.returnType = M.2.2.2.1 ∧ methk.locks = false ∧ ck.exceptionTable.toList = tableOf M.2.2.2.2 ∧ parseMethodDescriptor M.1.desc = some methk.sig) ∧
    (∀ args, (Cond.initialized M.1.cls).before args s = true) ∧ plainName M.1.cls = true ∧ (M.1.cls ≠ "java/lang/invoke/MethodHandle" ∧ M.1.cls ≠ "java/lang/invoke/VarHandle") ∧
    ((∀ args, (Cond.static M.1).before args s = true) ∨ ((∀ args, (Cond.instanceMethod M.1).before args s = true) ∧ ((∀ args, (Cond.selects M.1.cls M.1 M.1).before args s = true) ∨ M.1.name = "<init>"))) := by
  unfold mt_ok at hq
  simp only [Bool.and_eq_true, Bool.or_eq_true, decide_eq_true_eq] at hq
  obtain ⟨⟨⟨⟨⟨h1, h2⟩, h3⟩, h4⟩, h5⟩, h6⟩ := hq
  refine ⟨?_, fun args => wd hG hW h2 (Or.inl rfl) args, h3, ⟨h4, h5⟩, ?_⟩
  · by_cases hh : M.2.2.2.2 = []
    · rw [if_pos hh] at h1
      have hc := wd hG hW h1 (Or.inl rfl) #[]
      obtain ⟨mk, hnamed⟩ := Cond.code_named hc
      obtain ⟨methM, cM, q1, q2, q3, q4, q5, q6, q7, q8⟩ := Cond.code_spec hnamed hc
      refine ⟨mk, methM, cM, hnamed, q1, q2, q3, q4, q5, q6, ?_, q8⟩
      rw [hh]
      have h0 : cM.exceptionTable.size = 0 := by simpa [Array.isEmpty] using q7
      exact List.eq_nil_of_length_eq_zero (by simpa using h0)
    · rw [if_neg hh] at h1
      have hc := wd hG hW h1 (Or.inl rfl) #[]
      obtain ⟨mk, methM, cM, q0, q1, q2, q3, q4, q5, q6, q7, q8⟩ := Cond.codeWith_spec hc
      exact ⟨mk, methM, cM, q0, q1, q2, q3, q4, q6, q7, by rw [← q5]; exact (table_eq _).symm, q8⟩
  · rcases h6 with h6 | ⟨h6, h7⟩
    · exact Or.inl fun args => wd hG hW h6 (Or.inl rfl) args
    · refine Or.inr ⟨fun args => wd hG hW h6 (Or.inl rfl) args, ?_⟩
      rcases h7 with h7 | h7
      · exact Or.inl fun args => wd hG hW h7 (Or.inl rfl) args
      · exact Or.inr h7
/-- INTO A METHOD AND OUT OF IT: by its contract -/
theorem cc_ {G : gt_T} {M M' : mt_T} {F' L' C' S' : Nat} {args' : List ab_V} {h : ab_H} {Φ' : Option ab_V → ab_H → Prop} {Θ' : Nat → ab_H → Prop} {p : Program} {e : Env} {R : Room} {s : State} {m : MethodId} {args : Array Value} {below : List Frame} {meth : Method} {c : Code} {T : State} {locs : List Loc} {cells slots : Nat}
    (X : Stand p (gl G) e R s m args below meth c T locs cells slots) (C0 : cx G M p e s m meth c) {g : JFrame} (hg : g.method = m) (hsize : g.locals.size = c.maxLocals) {ig : Instr} {len : Nat} (hdg : decode c.code g.pc = .ok (ig, len))
    {j1 j2 j3 j4 : Nat} (hq : mt_ok M' j1 j2 j3 j4 = true) {mk : MethodId} (hn : T.methodNamed? M'.1 = some mk) (hct : ct G M' F' L' C' S' args' h Φ' Θ') (hw : sw args' ≤ M'.2.2.1) (hok : ∀ v ∈ args', okV v)
    (hF : F' + 1 ≤ R.frames) (hL : 2 * g.monitorRoom + (g.stack.map fun v => v.category).sum + (M'.2.2.1 + 11) + L' ≤ R.locals) (hC : cells + C' ≤ R.cells) (hS : slots + S' ≤ R.slots) (hrp : rp G h T.heap locs) :
    ∃ (T' : State) (locs' : List Loc) (h' : ab_H), Stand p (gl G) e R s m args below meth c T' locs' (cells + C') (slots + S') ∧ rp G h' T'.heap locs' ∧
      ((∃ v, okO v ∧ Φ' v h' ∧ ∀ acts, Steps p.tables e below (doInvoke e (T.setTop g) acts mk (args'.map cv).toArray).1 (T'.setTop { g with pc := g.pc + len, stack := (v.map cv).toList ++ g.stack })) ∨
       (∃ a, Θ' a h' ∧ ∀ acts, Steps p.tables e below (doInvoke e (T.setTop g) acts mk (args'.map cv).toArray).1 ((T'.setTop g).pushFrame (.throwing a)))) := by
  obtain ⟨hx, hb, hml, hr, hlk, hnm, htb, hown, hW, hG, htr⟩ := C0
  have hWT : (gs G).WarmedH T.vm := State.WarmedH.trans hW X.warmed
  obtain ⟨⟨mk', methk, ck, q0, q1, q2, q3, q4, q5, q6, q7, q8⟩, -, hpl, -, -⟩ := mt_code (s := T) hq hG hWT
  cases hn.symm.trans q0
  have hpk : T.plainMethod mk := State.plainMethod.of_named (plainFor_of_name hpl) hn q1
  obtain ⟨Y, hdo⟩ := X.into hg hsize hdg (args'.map cv).toArray (R' := { frames := F', cells := C', slots := S', locals := L' }) q1 q2 q6 hpk hF (by rw [q4]; exact hL) hC hS
  have hlen : ck.maxLocals = M'.2.2.1 := q4
  rw [hlen] at Y hdo
  have hcx : cx G M' p e (T.calling g mk (args'.map cv).toArray) mk methk ck := ⟨hx, q3, q4, q5, q6, (name_of_methodNamed hn q1).1, q7, findClass_of_methodNamed hn, hWT, hG, htr⟩
  have hev := hct p e { frames := F', cells := C', slots := S', locals := L' } (T.calling g mk (args'.map cv).toArray) mk (args'.map cv).toArray (.java g :: below) methk ck T.heap [] 0 0 _ ⟨hcx, Nat.le_refl _, Nat.le_refl _, by show 0 + C' ≤ C'; omega, by show 0 + S' ≤ S'; omega, rp_nil hrp, en_lh args' M'.2.2.1 hw, (fun v hv => by cases hv), en_ok hok⟩
  obtain ⟨t, hst, o, hrun, hend, ⟨h', hrp', hcase⟩, hWt, Lw, hsame, hLw⟩ := hev ((T.setTop g).pushFrame (.java (entryFrame mk (args'.map cv).toArray M'.2.2.1))) rfl Y
  have hst' : Steps p.tables e below (((T.setTop g).pushFrame (.java (entryFrame mk (args'.map cv).toArray M'.2.2.1))).setTop (entryFrame mk (args'.map cv).toArray M'.2.2.1)) t := by
    rw [lg_entry_eq]
    rw [lg_entry_eq] at hst
    exact steps_up hst
  have hA : ∀ l ∈ locs ++ Lw, gA G l.base := by
    intro q hq'
    rcases List.mem_append.mp hq' with h1 | h1
    · exact rp_A hrp q h1
    · exact hLw q h1
  rcases hcase with ⟨v, rfl, hov, hΦ⟩ | ⟨a, rfl, hΘ⟩
  · obtain ⟨T', X', hW', hB, ht⟩ := X.outOf hg hdg hend hWt hsame
    have hh : t.heap = T'.heap := by rw [ht]; rfl
    rw [hh] at hrp'
    refine ⟨T', locs ++ Lw, h', X', rp_locs hrp' hA, Or.inl ⟨v, hov, hΦ, fun acts => ?_⟩⟩
    rw [hdo acts, ← ht]
    exact hst'
  · obtain ⟨T', X', hW', hB, ht⟩ := X.outOfThrown hg hend hWt hsame
    have hh : t.heap = T'.heap := by rw [ht]; rfl
    rw [hh] at hrp'
    refine ⟨T', locs ++ Lw, h', X', rp_locs hrp' hA, Or.inr ⟨a, hΘ, fun acts => ?_⟩⟩
    rw [hdo acts, ← ht]
    exact hst'
/-- arguments laid on the operands -/
def rv : List ab_V → List ab_V → List ab_V := fun l st => match l with
  | [] => st
  | v :: r => rv r (v :: st)
theorem rv_eq (l st : List ab_V) : (rv l st).map cv = (l.map cv).reverse ++ st.map cv := by
  induction l generalizing st with
  | nil => rfl
  | cons v r ih =>
    show (rv r (v :: st)).map cv = _
    rw [ih]
    simp
theorem rv_ok (l st : List ab_V) (h : ∀ v ∈ rv l st, okV v) : (∀ v ∈ l, okV v) ∧ ∀ v ∈ st, okV v := by
  induction l generalizing st with
  | nil => exact ⟨(fun v hv => by cases hv), h⟩
  | cons w r ih =>
    obtain ⟨h1, h2⟩ := ih (w :: st) h
    exact ⟨okc (okh h2) h1, okt h2⟩
def pv (v : Option ab_V) (st : List ab_V) : List ab_V := match v with
  | none => st
  | some w => w :: st
theorem pv_eq (v : Option ab_V) (st : List ab_V) : (pv v st).map cv = (v.map cv).toList ++ st.map cv := by cases v <;> rfl
theorem pv_ok {v : Option ab_V} {st : List ab_V} (h1 : okO v) (h2 : ∀ w ∈ st, okV w) : ∀ w ∈ pv v st, okV w := by
  cases v with
  | none => exact h2
  | some x => exact okc (h1 x rfl) h2
section EvCall
variable {G : gt_T} {M M' : mt_T} {F L C S F' L' C' S' : Nat} {pc a0 b0 j0 : Nat} {z0 : Int} {ls : List (Option ab_V)} {st : List ab_V} {h : ab_H} {Φ Φ' : Option ab_V → ab_H → Prop} {Θ Θ' : Nat → ab_H → Prop} {args' : List ab_V}
theorem rx_69 (d : ri_at M (pc, 3, 69, a0, b0, j0, z0)) (hM : MT[a0]? = some M') : ∃ k, decode M.2.1 pc = .ok (.invokestatic k, 3) ∧ (tw j0 (.methodLink M.1.cls k M'.1) = true ∨ tw j0 (.methodLinkNest M.1.cls k M'.1 "GoodsTree") = true) := by
  obtain ⟨i, h1, h2⟩ := ri_ex d
  cases i <;> first | exact absurd h2 Bool.false_ne_true | skip
  rename_i k
  have h3 : ri_ml M.1.cls k a0 j0 = true := h2
  unfold ri_ml at h3
  rw [hM] at h3
  simp only [Bool.or_eq_true] at h3
  exact ⟨k, h1, h3⟩
theorem rx_68 (d : ri_at M (pc, 3, 68, a0, b0, j0, z0)) (hM : MT[a0]? = some M') : ∃ k, decode M.2.1 pc = .ok (.invokespecial k, 3) ∧ (tw j0 (.methodLink M.1.cls k M'.1) = true ∨ tw j0 (.methodLinkNest M.1.cls k M'.1 "GoodsTree") = true) := by
  obtain ⟨i, h1, h2⟩ := ri_ex d
  cases i <;> first | exact absurd h2 Bool.false_ne_true | skip
  rename_i k
  have h3 : ri_ml M.1.cls k a0 j0 = true := h2
  unfold ri_ml at h3
  rw [hM] at h3
  simp only [Bool.or_eq_true] at h3
  exact ⟨k, h1, h3⟩
theorem rx_67 (d : ri_at M (pc, 3, 67, a0, b0, j0, z0)) (hM : MT[a0]? = some M') : ∃ k, decode M.2.1 pc = .ok (.invokevirtual k, 3) ∧ (tw j0 (.methodLink M.1.cls k M'.1) = true ∨ tw j0 (.methodLinkNest M.1.cls k M'.1 "GoodsTree") = true) := by
  obtain ⟨i, h1, h2⟩ := ri_ex d
  cases i <;> first | exact absurd h2 Bool.false_ne_true | skip
  rename_i k
  have h3 : ri_ml M.1.cls k a0 j0 = true := h2
  unfold ri_ml at h3
  rw [hM] at h3
  simp only [Bool.or_eq_true] at h3
  exact ⟨k, h1, h3⟩
/-- what is left to show behind a call: the machine has come to doInvoke -/
theorem ev_after {p : Program} {e : Env} {R : Room} {s : State} {m : MethodId} {args : Array Value} {below : List Frame} {meth : Method} {c : Code} {T : State} {locs : List Loc} {cells slots : Nat} {lsC : Array Slot} {C2 S2 : Nat}
    (X : Stand p (gl G) e R s m args below meth c T locs cells slots) (C0 : cx G M p e s m meth c) {ig : Instr} (hdg : decode M.2.1 pc = .ok (ig, 3))
    {j1 j2 j3 j4 : Nat} (hq : mt_ok M' j1 j2 j3 j4 = true) {mk : MethodId} (hn : T.methodNamed? M'.1 = some mk) (hct : ct G M' F' L' C' S' args' h Φ' Θ') (hw : sw args' ≤ M'.2.2.1) (hok : ∀ v ∈ args', okV v) (hst : ∀ v ∈ st, okV v) (hls : ∀ v, some v ∈ ls → okV v) (hl : lh lsC M.2.2.1 ls)
    (hF0 : F ≤ R.frames) (hL0 : L ≤ R.locals) (hF : F' + 1 ≤ F) (hL : sw st + (M'.2.2.1 + 11) + L' ≤ L) (hC : cells + (C' + C2) ≤ R.cells) (hS : slots + (S' + S2) ≤ R.slots) (hrp : rp G h T.heap locs)
    (k : ∀ v h', Φ' v h' → ev G M F L C2 S2 (pc + 3) ls (pv v st) h' Φ Θ) (kt : ∀ a h', Θ' a h' → et G M F L C2 S2 pc ls h' a Φ Θ) :
    ∃ t, (∀ acts, Steps p.tables e below (doInvoke e (T.setTop (F0 m pc lsC (st.map cv))) acts mk (args'.map cv).toArray).1 t) ∧ eq_ G below s R.cells R.slots Φ Θ t := by
  have hsz : (F0 m pc lsC (st.map cv)).locals.size = c.maxLocals := by rw [C0.2.2.1]; exact hl.1
  obtain ⟨T', locs', h', X', hrp', hcase⟩ := cc_ X C0 (g := F0 m pc lsC (st.map cv)) rfl hsz (by rw [C0.2.1]; exact hdg) hq hn hct hw hok (by omega) (by show 2 * 0 + ((st.map cv).map fun v => v.category).sum + (M'.2.2.1 + 11) + L' ≤ R.locals; rw [sw_cat]; omega) (by omega) (by omega) hrp
  rcases hcase with ⟨v, hov, hΦ, hs⟩ | ⟨a, hΘ, hs⟩
  · obtain ⟨t, a1, a2⟩ := k v h' hΦ p e R s m args below meth c T'.heap locs' (cells + C') (slots + S') lsC ⟨C0, hF0, hL0, by omega, by omega, hrp', hl, pv_ok hov hst, hls⟩ T' rfl X'
    refine ⟨t, fun acts => (hs acts).trans ?_, a2⟩
    have e1 : (F0 m (pc + 3) lsC ((pv v st).map cv)) = { (F0 m pc lsC (st.map cv)) with pc := (F0 m pc lsC (st.map cv)).pc + 3, stack := (v.map cv).toList ++ (F0 m pc lsC (st.map cv)).stack } := by rw [pv_eq]
    rw [e1] at a1
    exact a1
  · obtain ⟨t, a1, a2⟩ := kt a h' hΘ p e R s m args below meth c T'.heap locs' (cells + C') (slots + S') lsC ⟨C0, hF0, hL0, by omega, by omega, hrp', hl, (fun v hv => by cases hv), hls⟩ T' rfl X' (st.map cv)
    exact ⟨t, fun acts => (hs acts).trans a1, a2⟩
theorem ev_callS {C2 S2 : Nat} (d : ri_at M (pc, 3, 69, a0, b0, j0, z0)) (hM : MT[a0]? = some M') {j1 j2 j3 j4 : Nat} (hq : mt_ok M' j1 j2 j3 j4 = true) (hs : (tw j3 (.static M'.1)) = true) (hlen : (parseMethodDescriptor M'.1.desc).map (fun q => q.parameters.length) = some args'.length)
    (hct : ct G M' F' L' C' S' args' h Φ' Θ') (hw : sw args' ≤ M'.2.2.1) (hF : F' + 1 ≤ F) (hL : sw st + (M'.2.2.1 + 11) + L' ≤ L) (hC : C' + C2 ≤ C) (hS : S' + S2 ≤ S)
    (k : ∀ v h', Φ' v h' → ev G M F L C2 S2 (pc + 3) ls (pv v st) h' Φ Θ) (kt : ∀ a h', Θ' a h' → et G M F L C2 S2 pc ls h' a Φ Θ) : ev G M F L C S pc ls (rv args' st) h Φ Θ := by
  intro p e R s m args below meth c H locs cells slots lsC B T hT X
  obtain ⟨C0, hF0, hL0, hC0, hS0, hrp, hl, hst, hls⟩ := B
  have C1 := C0
  obtain ⟨hx, hb, hml, hr, hlk, hnm, htb, hown, hW, hG, htr⟩ := C1
  obtain ⟨kx, h1, h2⟩ := rx_69 d hM
  obtain ⟨ho1, ho2⟩ := rv_ok _ _ hst
  obtain ⟨⟨mk, methk, ck, q0, q1, q2, q3, q4, q5, q6, q7, q8⟩, hini, hpl, hy, -⟩ := mt_code (s := s) hq hG hW
  have hstat : methk.isStatic = true := Cond.static_spec q0 q1 (wd hG hW hs (Or.inl rfl) args)
  obtain ⟨kP, hkP, -⟩ := className_of_methodNamed q0
  have hinitP : kP.init = .initialized := Cond.initialized_spec (findClass_of_methodNamed q0) hkP (hini args)
  have hlen' : (args'.map cv).length = methk.sig.parameters.length := by rw [q8] at hlen; simpa using hlen.symm
  have hstk : (F0 m pc lsC ((rv args' st).map cv)).stack = (args'.map cv).reverse ++ st.map cv := rv_eq args' st
  have key : ∃ vm', Stand p (gl G) e R s m args below meth c (T.setVm vm') locs cells slots ∧ ∀ target, (∀ acts, Steps p.tables e below (doInvoke e ((T.setVm vm').setTop (F0 m pc lsC (st.map cv))) acts mk (args'.map cv).toArray).1 target) → Steps p.tables e below (T.setTop (F0 m pc lsC ((rv args' st).map cv))) target := by
    rcases h2 with h2 | h2
    · exact X.invokestatic hx hown (wd hG hW h2 (Or.inl rfl) args) q0 q1 hstat hkP hinitP hy (g := F0 m pc lsC ((rv args' st).map cv)) rfl hlen' hstk (by rw [hb]; exact h1)
    · exact X.invokestaticNest hx hown (va_Nw.use rfl (va_Nw.warmM hW (va_Nw.of rfl (hG.1 _ (List.mem_of_getElem? (of_decide_eq_true h2)))))) q0 q1 hstat hkP hinitP hy (g := F0 m pc lsC ((rv args' st).map cv)) rfl hlen' hstk (by rw [hb]; exact h1)
  obtain ⟨vm', X', hstep⟩ := key
  obtain ⟨t, a1, a2⟩ := ev_after X' C0 h1 hq (X'.named q0) hct hw ho1 ho2 hls hl hF0 hL0 hF hL (by omega) (by omega) (by show rp G h T.heap locs; rw [hT]; exact hrp) k kt
  exact ⟨t, hstep t a1, a2⟩
theorem ev_callV {C2 S2 : Nat} (d : ri_at M (pc, 3, 67, a0, b0, j0, z0)) (hM : MT[a0]? = some M') {j1 j2 j3 j4 : Nat} (hq : mt_ok M' j1 j2 j3 j4 = true) (hi : (tw j3 (.instanceMethod M'.1)) = true) (hse : (tw j4 (.selects M'.1.cls M'.1 M'.1)) = true) {b tag ci : Nat} {fs : List ab_V} {r' : List ab_V} (hb0 : h b = some (oJ tag ci fs)) (hcn : ri_cn ci = M'.1.cls) (hlen : (parseMethodDescriptor M'.1.desc).map (fun q => q.parameters.length) = some r'.length)
    (hct : ct G M' F' L' C' S' (vA b :: r') h Φ' Θ') (hw : sw (vA b :: r') ≤ M'.2.2.1) (hF : F' + 1 ≤ F) (hL : sw st + (M'.2.2.1 + 11) + L' ≤ L) (hC : C' + C2 ≤ C) (hS : S' + S2 ≤ S)
    (k : ∀ v h', Φ' v h' → ev G M F L C2 S2 (pc + 3) ls (pv v st) h' Φ Θ) (kt : ∀ a h', Θ' a h' → et G M F L C2 S2 pc ls h' a Φ Θ) : ev G M F L C S pc ls (rv (vA b :: r') st) h Φ Θ := by
  intro p e R s m args below meth c H locs cells slots lsC B T hT X
  obtain ⟨C0, hF0, hL0, hC0, hS0, hrp, hl, hst, hls⟩ := B
  have C1 := C0
  obtain ⟨hx, hb, hml, hr, hlk, hnm, htb, hown, hW, hG, htr⟩ := C1
  have hK : va_K (gD G) cl_ (gy G) s := va_K.moved hW.alike hG.2.1
  obtain ⟨kx, h1, h2⟩ := rx_67 d hM
  obtain ⟨ho1, ho2⟩ := rv_ok _ _ hst
  obtain ⟨⟨mk, methk, ck, q0, q1, q2, q3, q4, q5, q6, q7, q8⟩, hini, hpl, hy, -⟩ := mt_code (s := s) hq hG hW
  obtain ⟨mk', methM, hnamed, hmethM, hstM, habM⟩ := Cond.instanceMethod_spec (wd hG hW hi (Or.inl rfl) args)
  cases q0.symm.trans hnamed
  cases q1.symm.trans hmethM
  obtain ⟨c2, r2, m2, w1, w2, w3, w4, kP, hkP, hkPi⟩ := Cond.selects_spec (wd hG hW hse (Or.inl rfl) args)
  have hrp' := hrp
  obtain ⟨ws, hP, hD, hcov, hSS⟩ := hrp'
  obtain ⟨hok, qq, hqq⟩ := hcov b _ hb0
  have hcl : ∃ q, cl_[ci]? = some q ∧ q.1 = M'.1.cls := by
    unfold ri_cn at hcn
    cases hc : cl_[ci]? with
    | none => obtain ⟨r, h1, -⟩ := hP qq _ hqq; rw [hc] at h1; cases h1
    | some q => obtain ⟨A1, A2, A3⟩ := q; rw [hc] at hcn; exact ⟨_, rfl, hcn⟩
  obtain ⟨q, hc, hqn⟩ := hcl
  obtain ⟨cellB, g1, g2, g3⟩ := va_recv hK hP hc hqq
  rw [hqn] at g3
  cases g3.symm.trans w1
  cases (State.methodFound?_of_named q0 hy).symm.trans w2
  cases q0.symm.trans w3
  have hselP : selectMethod e.platform s.vm cellB.cls mk = .method mk := by rw [Launch.admits_selectMethod X.admits]; exact w4
  have hlen' : (r'.map cv).length = methk.sig.parameters.length := by rw [q8] at hlen; simpa using hlen.symm
  have hstk : (F0 m pc lsC ((rv (vA b :: r') st).map cv)).stack = (r'.map cv).reverse ++ .ref b :: st.map cv := by
    show (rv (vA b :: r') st).map cv = _
    rw [rv_eq]
    simp [cv, va_rf]
  have key : ∃ vm', Stand p (gl G) e R s m args below meth c (T.setVm vm') locs cells slots ∧ ∀ target, (∀ acts, Steps p.tables e below (doInvoke e ((T.setVm vm').setTop (F0 m pc lsC (st.map cv))) acts mk ((vA b :: r').map cv).toArray).1 target) → Steps p.tables e below (T.setTop (F0 m pc lsC ((rv (vA b :: r') st).map cv))) target := by
    rcases h2 with h2 | h2
    · exact X.invokevirtual hx hown (wd hG hW h2 (Or.inl rfl) args) q0 q1 hstM hkP hkPi hy (a := b) (cell := cellB) (by rw [hT]; exact g1) (fun z hz => by rw [hz] at g2; cases g2) hselP q1 habM hkP hkPi (g := F0 m pc lsC ((rv (vA b :: r') st).map cv)) rfl hlen' hstk (by rw [hb]; exact h1)
    · exact X.invokevirtualNest hx hown (va_Nw.use rfl (va_Nw.warmM hW (va_Nw.of rfl (hG.1 _ (List.mem_of_getElem? (of_decide_eq_true h2)))))) q0 q1 hstM hkP hkPi hy (a := b) (cell := cellB) (by rw [hT]; exact g1) (fun z hz => by rw [hz] at g2; cases g2) hselP q1 habM hkP hkPi (g := F0 m pc lsC ((rv (vA b :: r') st).map cv)) rfl hlen' hstk (by rw [hb]; exact h1)
  obtain ⟨vm', X', hstep⟩ := key
  obtain ⟨t, a1, a2⟩ := ev_after X' C0 h1 hq (X'.named q0) hct hw ho1 ho2 hls hl hF0 hL0 hF hL (by omega) (by omega) (by show rp G h T.heap locs; rw [hT]; exact hrp) k kt
  exact ⟨t, hstep t a1, a2⟩
theorem ev_callI {C2 S2 : Nat} (d : ri_at M (pc, 3, 68, a0, b0, j0, z0)) (hM : MT[a0]? = some M') {j1 j2 j3 j4 : Nat} (hq : mt_ok M' j1 j2 j3 j4 = true) (hi : (tw j3 (.instanceMethod M'.1)) = true) (hcw : tw j1 (.code M'.1 M'.2.1 M'.2.2.1 none) = true) (hin : M'.1.name = "<init>") {b : Nat} {r' : List ab_V} (hlen : (parseMethodDescriptor M'.1.desc).map (fun q => q.parameters.length) = some r'.length)
    (hct : ct G M' F' L' C' S' (vA b :: r') h Φ' Θ') (hw : sw (vA b :: r') ≤ M'.2.2.1) (hF : F' + 1 ≤ F) (hL : sw st + (M'.2.2.1 + 11) + L' ≤ L) (hC : C' + C2 ≤ C) (hS : S' + S2 ≤ S)
    (k : ∀ v h', Φ' v h' → ev G M F L C2 S2 (pc + 3) ls (pv v st) h' Φ Θ) (kt : ∀ a h', Θ' a h' → et G M F L C2 S2 pc ls h' a Φ Θ) : ev G M F L C S pc ls (rv (vA b :: r') st) h Φ Θ := by
  intro p e R s m args below meth c H locs cells slots lsC B T hT X
  obtain ⟨C0, hF0, hL0, hC0, hS0, hrp, hl, hst, hls⟩ := B
  have C1 := C0
  obtain ⟨hx, hb, hml, hr, hlk, hnm, htb, hown, hW, hG, htr⟩ := C1
  obtain ⟨kx, h1, h2⟩ := rx_68 d hM
  obtain ⟨ho1, ho2⟩ := rv_ok _ _ hst
  obtain ⟨⟨mk, methk, ck, q0, q1, q2, q3, q4, q5, q6, q7, q8⟩, hini, hpl, hy, -⟩ := mt_code (s := s) hq hG hW
  have hpl2 : e.platform.magicAccessors = ({} : Platform).magicAccessors := by rw [X.admits.platform]
  have hlen' : ∀ sig, parseMethodDescriptor M'.1.desc = some sig → (r'.map cv).length = sig.parameters.length := by
    intro sig hsig
    rw [hsig] at hlen
    simpa using hlen.symm
  have hstk : (F0 m pc lsC ((rv (vA b :: r') st).map cv)).stack = (r'.map cv).reverse ++ .ref b :: st.map cv := by
    show (rv (vA b :: r') st).map cv = _
    rw [rv_eq]
    simp [cv, va_rf]
  have key : ∃ vm', Stand p (gl G) e R s m args below meth c (T.setVm vm') locs cells slots ∧ ∀ target, (∀ acts, Steps p.tables e below (doInvoke e ((T.setVm vm').setTop (F0 m pc lsC (st.map cv))) acts mk ((vA b :: r').map cv).toArray).1 target) → Steps p.tables e below (T.setTop (F0 m pc lsC ((rv (vA b :: r') st).map cv))) target := by
    rcases h2 with h2 | h2
    · obtain ⟨mk2, methM, cM, kP, vm₁, hnamed, -, -, -, -, -, -, -, hW₁, hstep₁⟩ := Steps.initColdArgs (e := e) X.here hx X.warmed hpl2 hown hin hy (wd hG hW h2 (Or.inl rfl) args) (wd hG hW hi (Or.inl rfl) args) (wd hG hW hcw (Or.inl rfl) args) (f := F0 m pc lsC ((rv (vA b :: r') st).map cv)) rfl hlen' hstk (by rw [hb]; exact h1)
      cases q0.symm.trans hnamed
      exact ⟨vm₁, X.noted hW₁, hstep₁⟩
    · obtain ⟨mk2, methM, cM, kP, vm₁, hnamed, -, -, -, -, -, -, -, hW₁, hstep₁⟩ := Steps.initColdArgsNest (e := e) X.here hx X.warmed hpl2 hown hin hy (va_Nw.use rfl (va_Nw.warmM hW (va_Nw.of rfl (hG.1 _ (List.mem_of_getElem? (of_decide_eq_true h2)))))) (wd hG hW hi (Or.inl rfl) args) (wd hG hW hcw (Or.inl rfl) args) (f := F0 m pc lsC ((rv (vA b :: r') st).map cv)) rfl hlen' hstk (by rw [hb]; exact h1)
      cases q0.symm.trans hnamed
      exact ⟨vm₁, X.noted hW₁, hstep₁⟩
  obtain ⟨vm', X', hstep⟩ := key
  obtain ⟨t, a1, a2⟩ := ev_after X' C0 h1 hq (X'.named q0) hct hw ho1 ho2 hls hl hF0 hL0 hF hL (by omega) (by omega) (by show rp G h T.heap locs; rw [hT]; exact hrp) k kt
  exact ⟨t, hstep t a1, a2⟩
/-- how a call's answer is taken -/
theorem k_I {C2 S2 : Nat} {Ψ : Int → ab_H → Prop} (k : ∀ z h', Ψ z h' → ev G M F L C2 S2 pc ls (vI z :: st) h' Φ Θ) : ∀ v h', rI Ψ v h' → ev G M F L C2 S2 pc ls (pv v st) h' Φ Θ := by
  rintro v h' ⟨z, rfl, hz⟩
  exact k z h' hz
theorem k_B {C2 S2 : Nat} {Ψ : Bool → ab_H → Prop} (k : ∀ z h', Ψ z h' → ev G M F L C2 S2 pc ls (vI (bi z) :: st) h' Φ Θ) : ∀ v h', rB Ψ v h' → ev G M F L C2 S2 pc ls (pv v st) h' Φ Θ := by
  rintro v h' ⟨z, rfl, hz⟩
  exact k z h' hz
theorem k_L {C2 S2 : Nat} {Ψ : Int → ab_H → Prop} (k : ∀ z h', Ψ z h' → ev G M F L C2 S2 pc ls (vL z :: st) h' Φ Θ) : ∀ v h', rL Ψ v h' → ev G M F L C2 S2 pc ls (pv v st) h' Φ Θ := by
  rintro v h' ⟨z, rfl, hz⟩
  exact k z h' hz
theorem k_R {C2 S2 : Nat} {Ψ : Option Nat → ab_H → Prop} (k : ∀ z h', Ψ z h' → ev G M F L C2 S2 pc ls (vR z :: st) h' Φ Θ) : ∀ v h', rR Ψ v h' → ev G M F L C2 S2 pc ls (pv v st) h' Φ Θ := by
  rintro v h' ⟨z, rfl, hz⟩
  exact k z h' hz
theorem k_V {C2 S2 : Nat} {Ψ : ab_H → Prop} (k : ∀ h', Ψ h' → ev G M F L C2 S2 pc ls st h' Φ Θ) : ∀ v h', rV Ψ v h' → ev G M F L C2 S2 pc ls (pv v st) h' Φ Θ := by
  rintro v h' ⟨rfl, hz⟩
  exact k h' hz
theorem k_n {C2 S2 : Nat} : ∀ a h', nT a h' → et G M F L C2 S2 pc ls h' a Φ Θ := fun a h' q => q.elim
theorem k_t {C2 S2 : Nat} (hh : M.2.2.2.2 = []) (k : ∀ a h', Θ' a h' → Θ a h') : ∀ a h', Θ' a h' → et G M F L C2 S2 pc ls h' a Φ Θ := fun a h' q => et_out hh (k a h' q)
end EvCall
