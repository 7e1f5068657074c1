/-! judgements with a cell that 'new' has just laid for an exception of class ci at a: evF -/
def FXa (G : gt_T) (ci a : Nat) (s : State) (H : Heap) : Prop := ∃ kX : Class, s.vm.classes[(gD G).1 ci]? = some kX ∧ H[a]? = some (freshCell ((gD G).1 ci) kX) ∧ (gs G).heap.size ≤ a
def rpX (G : gt_T) (h : ab_H) (H : Heap) (locs : List Loc) (a0 : Nat) : Prop := ∃ ws : va_W, va_P (gD G) cl_ ws H ∧ va_D (gA G) ws ∧ (∀ (a : Nat) (o : ab_O), h a = some o → okB o ∧ ∃ k : Nat, ws[k]? = some (a, oE G o)) ∧ va_S (gA G) (gs G).heap H locs ∧ ∀ (k : Nat) (q : Nat × va_E), ws[k]? = some q → q.1 ≠ a0
def cbF (G : gt_T) (M : mt_T) (F L C S : Nat) (ls : List (Option ab_V)) (st : List ab_V) (h : ab_H) (ci a : Nat) (p : Program) (e : Env) (R : Room) (s : State) (m : MethodId) (meth : Method) (c : Code) (H : Heap) (locs : List Loc) (cells slots : Nat) (lsC : Array Slot) : Prop :=
  cx G M p e s m meth c ∧ F ≤ R.frames ∧ L ≤ R.locals ∧ cells + C ≤ R.cells ∧ slots + S ≤ R.slots ∧ (rpX G h H locs a ∧ FXa G ci a s H) ∧ lh lsC M.2.2.1 ls ∧ (∀ v ∈ st, okV v) ∧ ∀ v, some v ∈ ls → okV v
def evF (G : gt_T) (M : mt_T) (F L C S : Nat) (pc : Nat) (ls : List (Option ab_V)) (st : List ab_V) (h : ab_H) (ci a : Nat) (Φ : Option ab_V → ab_H → Prop) (Θ : Nat → ab_H → Prop) : Prop :=
  ∀ (p : Program) (e : Env) (R : Room) (s : State) (m : MethodId) (args : Array Value) (below : List Frame) (meth : Method) (c : Code) (H : Heap) (locs : List Loc) (cells slots : Nat) (lsC : Array Slot),
    cbF G M F L C S ls st h ci a p e R s m meth c H locs cells slots lsC →
    W p (gl G) e R s m args below meth c H locs cells slots (eq_ G below s R.cells R.slots Φ Θ) (F0 m pc lsC (st.map cv))
theorem rpX_rp {G : gt_T} {h : ab_H} {H : Heap} {locs : List Loc} {a : Nat} (k : rpX G h H locs a) : rp G h H locs := by
  obtain ⟨ws, a1, a2, a3, a4, -⟩ := k
  exact ⟨ws, a1, a2, a3, a4⟩
theorem rpX_nil {G : gt_T} {h : ab_H} {H : Heap} {locs : List Loc} {a : Nat} (k : rpX G h H locs a) : rpX G h H [] a := by
  obtain ⟨ws, a1, a2, a3, a4, a5⟩ := k
  exact ⟨ws, a1, a2, a3, ⟨a4.1, a4.2.1, fun l q => by cases q⟩, a5⟩
section EvF
variable {G : gt_T} {M M' : mt_T} {F L C S F' L' C' S' : Nat} {pc a0 b0 j0 : Nat} {z0 : Int} {ls : List (Option ab_V)} {st : List ab_V} {h : ab_H} {ci a : Nat} {Φ Φ' : Option ab_V → ab_H → Prop} {Θ Θ' : Nat → ab_H → Prop}
theorem ev_newF {C2 S2 n : Nat} (d : ri_at M (pc, 3, 64, ci, b0, j0, z0)) {cls : String} {T : u_T} {N : Nat} (hc : cl_[ci]? = some (cls, T, N)) (hxo : ∀ w ∈ xo cls n, w ∈ lw_tbl) (hC1 : C2 + 1 ≤ C) (hS1 : S2 + n ≤ S) (k : ∀ q, h q = none → q ≠ ge G → evF G M F L C2 S2 (pc + 3) ls (vA q :: st) h ci q Φ Θ) : ev G M F L C S pc ls st h Φ Θ := by
  intro p e R s m args below meth c H locs cells slots lsC B
  obtain ⟨C0, hF, hL, hC, hS, hrp, hl, hst, hls⟩ := B
  have C1 := C0
  obtain ⟨hx, hb, hml, hr, hlk, hnm, htb, hown, hW, hG, htr⟩ := C1
  have hK : va_K (gD G) cl_ (gy G) s := va_K.moved hW.alike hG.2.1
  obtain ⟨kx, h1, h2⟩ := rx_64 d
  obtain ⟨ws, hP, hD, hcov, hSS⟩ := hrp
  have hKn := hK.1 ci _ hc
  have hcn : ri_cn ci = cls := by unfold ri_cn; rw [hc]
  rw [hcn] at h2
  have hxs : ∀ w ∈ xo cls n, w.before args s = true := fun w hw => wdc hG hW (hxo w hw) (xo_ok w hw).1 (xo_ok w hw).2 args
  refine W.newcK hx hb hown (wd hG hW h2 (Or.inl rfl) args) (hxs (.instantiable cls n) (by simp [xo])) (hxs (.initialized cls) (by simp [xo])) rfl h1 (by omega) (by omega) hKn.2.1 rfl fun H1 kC hkC e1 z1 o1 => ?_
  have hk : ∀ (k : Nat) (x : Nat × va_E), ws[k]? = some x → H1[x.1]? = H[x.1]? := fun k x hx => o1 x.1 ((hP k x hx).lt)
  have hnq : h H.size = none := by
    cases hq : h H.size with
    | none => rfl
    | some o =>
      obtain ⟨-, k, hk⟩ := hcov _ o hq
      exact absurd (hP k _ hk).lt (Nat.lt_irrefl _)
  have hne : H.size ≠ ge G := by
    obtain ⟨cell, -, -, -, -, -, -, h4⟩ := hG.2.2.2.1
    intro z
    rw [← z] at h4
    exact h4 hSS.1
  exact k H.size hnq hne p e R s m args below meth c H1 locs (cells + 1) (slots + n) lsC ⟨C0, hF, hL, by omega, by omega, ⟨⟨ws, hP.kept hk, hD, hcov, ⟨Nat.le_trans hSS.1 (by omega), fun x h1 h2 => (o1 x (Nat.lt_of_lt_of_le h1 hSS.1)).trans (hSS.2.1 x h1 h2), hSS.2.2⟩, fun k q hq => Nat.ne_of_lt (hP k q hq).lt⟩, kC, hkC, e1, hSS.1⟩, hl, okc trivial hst, hls⟩
theorem evF_pu {pc' : Nat} {st' : List ab_V} (k : evF G M F L C S pc' ls st' h ci a Φ Θ) (hok : (∀ v ∈ st, okV v) → (∀ v, some v ∈ ls → okV v) → ∀ v ∈ st', okV v)
    (hW : ∀ (p : Program) (e : Env) (R : Room) (s : State) (m : MethodId) (args : Array Value) (below : List Frame) (meth : Method) (c : Code) (H : Heap) (locs : List Loc) (cells slots : Nat) (lsC : Array Slot) (Q : State → Prop), cx G M p e s m meth c → lh lsC M.2.2.1 ls → (∀ v ∈ st, okV v) → W p (gl G) e R s m args below meth c H locs cells slots Q (F0 m pc' lsC (st'.map cv)) → W p (gl G) e R s m args below meth c H locs cells slots Q (F0 m pc lsC (st.map cv))) : evF G M F L C S pc ls st h ci a Φ Θ := by
  intro p e R s m args below meth c H locs cells slots lsC B
  obtain ⟨C0, hF, hL, hC, hS, hrp, hl, hst, hls⟩ := B
  exact hW p e R s m args below meth c H locs cells slots lsC _ C0 hl hst (k p e R s m args below meth c H locs cells slots lsC ⟨C0, hF, hL, hC, hS, hrp, hl, hok hst hls, hls⟩)
theorem evF_dup (d : ri_at M (pc, 1, 27, a0, b0, j0, z0)) {v : ab_V} (hv : is2 (some v) = false) (k : evF G M F L C S (pc + 1) ls (v :: v :: st) h ci a Φ Θ) : evF G M F L C S pc ls (v :: st) h ci a Φ Θ := by
  refine evF_pu k (fun h1 _ => okc (okh h1) h1) ?_
  intro p e R s m args below meth c H locs cells slots lsC Q C0 hl hst kk
  exact lv_dup C0.1 C0.2.1 (rx_27 d) (by rw [cv_cat, hv]; rfl) kk
theorem evF_il (d : ri_at M (pc, 1, 2, a0, b0, j0, z0)) {x : Int} (hv : ls[a0]? = some (some (vI x))) (k : evF G M F L C S (pc + 1) ls (vI x :: st) h ci a Φ Θ) : evF G M F L C S pc ls st h ci a Φ Θ := by
  obtain ⟨kx, h1, h2⟩ := rx_2 d
  refine evF_pu k (fun h1 h2 => okc (h2 _ (List.mem_of_getElem? hv)) h1) ?_
  intro p e R s m args below meth c H locs cells slots lsC Q C0 hl hst kk
  exact lv_iload_n C0.1 C0.2.1 h1 h2 (hl.2.2.2 _ _ hv) kk
theorem evF_al (d : ri_at M (pc, 1, 4, a0, b0, j0, z0)) {r : Nat} (hv : ls[a0]? = some (some (vA r))) (k : evF G M F L C S (pc + 1) ls (vA r :: st) h ci a Φ Θ) : evF G M F L C S pc ls st h ci a Φ Θ := by
  obtain ⟨kx, h1, h2⟩ := rx_4 d
  refine evF_pu k (fun h1 h2 => okc (h2 _ (List.mem_of_getElem? hv)) h1) ?_
  intro p e R s m args below meth c H locs cells slots lsC Q C0 hl hst kk
  have hv' := hl.2.2.2 _ _ hv
  exact lv_aload_n C0.1 C0.2.1 h1 h2 hv' kk
/-- the way of an <init> call to its entry -/
theorem xi_key {p : Program} {e : Env} {R : Room} {s : State} {m : MethodId} {args : Array Value} {below : List Frame} {meth : Method} {c : Code} {T : State} {locs : List Loc} {cells slots : Nat} {lsC : Array Slot} (X : Stand p (gl G) e R s m args below meth c T locs cells slots) (C0 : cx G M p e s m meth c)
    (d : ri_at M (pc, 3, 68, a0, b0, j0, z0)) (hM : MT[a0]? = some M') {n0 : Nat} (v : iq M' n0) {b : Nat} {r' : List ab_V} (hn0 : r'.length = n0) :
    ∃ mk ix vm', decode M.2.1 pc = .ok (.invokespecial ix, 3) ∧ s.methodNamed? M'.1 = some mk ∧ Stand p (gl G) e R s m args below meth c (T.setVm vm') locs cells slots ∧ ∀ target, (∀ acts, Steps p.tables e below (doInvoke e ((T.setVm vm').setTop (F0 m pc lsC (st.map cv))) acts mk ((vA b :: r').map cv).toArray).1 target) → Steps p.tables e below (T.setTop (F0 m pc lsC ((rv (vA b :: r') st).map cv))) target := by
  subst hn0
  obtain ⟨j1, j2, j3, j4, hq, hi, hcw, hin, hlen⟩ := v
  obtain ⟨hx, hb, hml, hr, hlk, hnm, htb, hown, hW, hG, htr⟩ := C0
  obtain ⟨kx, h1, h2⟩ := rx_68 d hM
  obtain ⟨⟨mk, methk, ck, q0, q1, q2, q3, q4, q5, q6, q7, q8⟩, hini, hpl, hy, -⟩ := mt_code (s := s) hq hG hW
  have hpl2 : e.platform.magicAccessors = ({} : Platform).magicAccessors := by rw [X.admits.platform]
  have hlen' : ∀ sig, parseMethodDescriptor M'.1.desc = some sig → (r'.map cv).length = sig.parameters.length := by
    intro sig hsig
    rw [hsig] at hlen
    simpa using hlen.symm
  have hstk : (F0 m pc lsC ((rv (vA b :: r') st).map cv)).stack = (r'.map cv).reverse ++ .ref b :: st.map cv := by
    show (rv (vA b :: r') st).map cv = _
    rw [rv_eq]
    simp [cv, va_rf]
  rcases h2 with h2 | h2
  · obtain ⟨mk2, methM, cM, kP, vm₁, hnamed, -, -, -, -, -, -, -, hW₁, hstep₁⟩ := Steps.initColdArgs (e := e) X.here hx X.warmed hpl2 hown hin hy (wd hG hW h2 (Or.inl rfl) args) (wd hG hW hi (Or.inl rfl) args) (wd hG hW hcw (Or.inl rfl) args) (f := F0 m pc lsC ((rv (vA b :: r') st).map cv)) rfl hlen' hstk (by rw [hb]; exact h1)
    cases q0.symm.trans hnamed
    exact ⟨mk, kx, vm₁, h1, q0, X.noted hW₁, hstep₁⟩
  · obtain ⟨mk2, methM, cM, kP, vm₁, hnamed, -, -, -, -, -, -, -, hW₁, hstep₁⟩ := Steps.initColdArgsNest (e := e) X.here hx X.warmed hpl2 hown hin hy (va_Nw.use rfl (va_Nw.warmM hW (va_Nw.of rfl (hG.1 _ (List.mem_of_getElem? (of_decide_eq_true h2)))))) (wd hG hW hi (Or.inl rfl) args) (wd hG hW hcw (Or.inl rfl) args) (f := F0 m pc lsC ((rv (vA b :: r') st).map cv)) rfl hlen' hstk (by rw [hb]; exact h1)
    cases q0.symm.trans hnamed
    exact ⟨mk, kx, vm₁, h1, q0, X.noted hW₁, hstep₁⟩
/-- what the cell's tracked fields hold behind the constructor -/
theorem xc_slots {s : State} (hG : GF G) (hW : (gs G).WarmedH s.vm) (args : Array Value) {cls : String} {T : u_T} {N : Nat} (hc : cl_[ci]? = some (cls, T, N)) (hnm : ∀ k, k < N → (T k).2.1 ≠ "cause" ∧ (T k).2.1 ≠ "stackTrace" ∧ (T k).2.1 ≠ "suppressedExceptions") {kX : Class} (hkX : s.vm.classes[(gD G).1 ci]? = some kX) {cell' : Cell}
    (hoth : ∀ (f : Field) (d : Class × Field), Jmm.declares? s.vm f.slot ((gD G).1 ci + 1) ((gD G).1 ci) = some d → d.2.name = f.name → f.name ≠ "cause" → f.name ≠ "stackTrace" → f.name ≠ "suppressedExceptions" → cell'.slots[f.slot]? = (freshCell ((gD G).1 ci) kX).slots[f.slot]?) :
    ∀ k, k < N → cell'.slots[(gD G).2 ci k]? = some (defaultValue (ft ci k)) := by
  intro k hk
  have hK : va_K (gD G) cl_ (gy G) s := va_K.moved hW.alike hG.2.1
  obtain ⟨hS, hfc, -⟩ := hK.1 ci _ hc
  obtain ⟨cf, kf, fi, fd, hi, he⟩ := hS k hk
  have hlay := u_lays (hts_u hG hW hc args) (fun _ h9 => h9) hk
  have h3 := (u_facts hfc hkX hlay hi).2.2
  have hty := (cl_ok ci _ _ _ hc).2.1 k hk
  obtain ⟨hfn, hft⟩ := State.fieldFound?_type hi hty
  have hdec : ∃ d, Jmm.declares? s.vm fd.slot ((gD G).1 ci + 1) ((gD G).1 ci) = some d ∧ d.2.name = fd.name := by
    rcases hlay with h | h
    · obtain ⟨c1, k1, c2, k2, i2, f2, hc1, hk1, hf2, -, -, -, -, d, hd, -, hdn, -⟩ := Cond.lays_spec h
      cases hfc.symm.trans hc1
      cases hi.symm.trans hf2
      exact ⟨d, hd, hdn⟩
    · obtain ⟨c1, k1, c2, k2, i2, f2, hc1, hk1, hf2, -, -, -, -, -, d, hd, -, hdn, -⟩ := Cond.laysFinal_spec h
      cases hfc.symm.trans hc1
      cases hi.symm.trans hf2
      exact ⟨d, hd, hdn⟩
  obtain ⟨d, hd, hdn⟩ := hdec
  obtain ⟨n1, n2, n3⟩ := hnm k hk
  rw [← he, hoth fd d hd hdn (by rw [hfn]; exact n1) (by rw [hfn]; exact n2) (by rw [hfn]; exact n3), fresh_default h3, hft]
theorem evF_ctor (tag : Nat) (d : ri_at M (pc, 3, 68, a0, b0, j0, z0)) (hM : MT[a0]? = some M') (v : iq M' 0) {K : String} {names : List String} {n : Nat} (hM1 : M'.1 = Bundle.init0 K) (hKf : Bundle.fit K = true) (hnames : ∀ n ∈ names, Bundle.fit n = true) (hch : ∀ w ∈ Bundle.chain0Atoms K names, w ∈ lw_tbl)
    {cls : String} {T : u_T} {N : Nat} (hc : cl_[ci]? = some (cls, T, N)) (hxo : ∀ w ∈ xo cls n, w ∈ lw_tbl) (hnm : ∀ k, k < N → (T k).2.1 ≠ "cause" ∧ (T k).2.1 ≠ "stackTrace" ∧ (T k).2.1 ≠ "suppressedExceptions") {vs : List ab_V} (hvs : ∀ j, j < N → defaultValue (ft ci j) = vp_V (vs.map cv) j) (hvo : ∀ v ∈ vs, okV v)
    (hF1 : names.length + 4 ≤ F) (hL1 : sw st + (13 * (names.length + 1) + 41) ≤ L) (k : ev G M F L C S (pc + 3) ls st (hu h a (oJ tag ci vs)) Φ Θ) : evF G M F L C S pc ls (vA a :: st) h ci a Φ Θ := by
  intro p e R s m args below meth c H locs cells slots lsC B W hT X
  obtain ⟨C0, hF, hL, hC, hS, ⟨hrp, hfx⟩, hl, hst, hls⟩ := B
  obtain ⟨mk, ix, vm', hdg, hmk, X', hstep⟩ := xi_key (st := st) (b := a) (r' := []) (lsC := lsC) X C0 d hM v rfl
  have C1 := C0
  obtain ⟨hx, hb, hml, hr, hlk, hnm2, htb, hown, hW, hG, htr⟩ := C1
  obtain ⟨kX, hkX, hcell, hnew⟩ := hfx
  obtain ⟨ws, hP, hD, hcov, hSS, hna⟩ := hrp
  have hK : va_K (gD G) cl_ (gy G) s := va_K.moved hW.alike hG.2.1
  have hKn := hK.1 ci _ hc
  have hsz : (F0 m pc lsC (st.map cv)).locals.size = c.maxLocals := by rw [hml]; exact hl.1
  have hcell' : (W.setVm vm').heap[a]? = some (freshCell ((gD G).1 ci) kX) := by show W.heap[a]? = _; rw [hT]; exact hcell
  rw [hM1] at hmk
  obtain ⟨vm2, cell', L4, X2, hL4, hcc, hcv, hoth, hgo⟩ := xc_core X' C0 (by show va_S _ _ W.heap _; rw [hT]; exact hSS) hKf hnames hch hxo hKn.2.1 hkX hcell' hnew hmk (g := F0 m pc lsC (st.map cv)) rfl hsz (by rw [hb]; exact hdg) (by omega)
    (by show 2 * 0 + ((st.map cv).map fun v => v.category).sum + (13 * (names.length + 1) + 41) ≤ R.locals; rw [sw_cat]; omega)
  have hlt : a < (W.setVm vm').heap.size := (Array.getElem?_eq_some_iff.mp hcell').1
  have hH2 : (((W.setVm vm').setVm vm2).setCell a cell').heap[a]? = some cell' := heapAt_setCell_self (s := (W.setVm vm').setVm vm2) cell' hlt
  have hH3 : ∀ q, q ≠ a → (((W.setVm vm').setVm vm2).setCell a cell').heap[q]? = H[q]? := by
    intro q hq
    have : (((W.setVm vm').setVm vm2).setCell a cell').heap[q]? = W.heap[q]? := by
      show (W.heap.setIfInBounds a cell')[q]? = _
      rw [Array.getElem?_setIfInBounds, if_neg (Ne.symm hq)]
    rw [this, hT]
  have hsz2 : (((W.setVm vm').setVm vm2).setCell a cell').heap.size = H.size := by
    show (W.heap.setIfInBounds a cell').size = _
    rw [Array.size_setIfInBounds, hT]
  have hkk : ∀ (k : Nat) (x : Nat × va_E), ws[k]? = some x → (((W.setVm vm').setVm vm2).setCell a cell').heap[x.1]? = H[x.1]? := fun k x hx => hH3 x.1 (hna k x hx)
  have hrp' : rp G (hu h a (oJ tag ci vs)) (((W.setVm vm').setVm vm2).setCell a cell').heap (locs ++ L4) := by
    refine ⟨ws ++ [(a, .inr (ci, vs.map cv))], (hP.kept hkk).app (fun k x hx => ?_), ?_, cov_push (o := oJ tag ci vs) hcov hvo, ⟨by rw [hsz2]; exact hSS.1, fun q h1 h2 => ?_, fun l hl' => ?_⟩⟩
    · have hz : k < 1 := (List.getElem?_eq_some_iff.mp hx).1
      rw [show k = 0 by omega] at hx
      cases hx
      refine ⟨_, hc, cell', hH2, hcc, hcv, fun k hk => ?_⟩
      show cell'.slots[(gD G).2 ci k]? = some (vp_V (vs.map cv) k)
      rw [← hvs k hk]
      exact xc_slots hG hW args hc hnm hkX hoth k hk
    · refine ⟨fun i j p q hi hj hpq => ?_, fun k q hk => ?_⟩
      · rw [List.getElem?_append] at hi hj
        split at hi <;> split at hj
        · exact hD.1 i j p q hi hj hpq
        · have hj1 := (List.getElem?_eq_some_iff.mp hj).1
          simp at hj1
          rw [hj1] at hj
          simp at hj
          subst hj
          exact absurd hpq (hna i p hi)
        · have hi1 := (List.getElem?_eq_some_iff.mp hi).1
          simp at hi1
          rw [hi1] at hi
          simp at hi
          subst hi
          exact absurd hpq.symm (hna j q hj)
        · have hj1 := (List.getElem?_eq_some_iff.mp hj).1
          have hi1 := (List.getElem?_eq_some_iff.mp hi).1
          simp at hj1 hi1
          omega
      · rw [List.getElem?_append] at hk
        split at hk
        · exact hD.2 k q hk
        · have hk1 := (List.getElem?_eq_some_iff.mp hk).1
          simp at hk1
          rw [hk1] at hk
          simp at hk
          subst hk
          exact hnew
    · have hqa : q ≠ a := by intro z; rw [z] at h1; exact absurd hnew (Nat.not_le.mpr h1)
      rw [hH3 q hqa]
      exact hSS.2.1 q h1 h2
    · rcases List.mem_append.mp hl' with h1 | h1
      · exact hSS.2.2 l h1
      · show (gs G).heap.size ≤ l.base
        rw [hL4 l h1]; exact hnew
  obtain ⟨t, a1, a2⟩ := k p e R s m args below meth c _ (locs ++ L4) cells slots lsC ⟨C0, hF, hL, hC, hS, hrp', hl, okt hst, hls⟩ _ rfl X2
  exact ⟨t, hstep t (fun acts => hgo acts t a1), a2⟩
end EvF
