/-- A CONSTRUCTOR OF THE WAY UP TO THROWABLE, on a cell that 'new' has just laid: what the cell's other fields are then -/
theorem lk_mv {T : ThrowableC} {pl : Platform} {u s : State} (L : T.Links pl (u.setVm s.vm)) : T.Links pl s := by
  cases L
  constructor <;> assumption
set_option maxHeartbeats 4000000 in
theorem xc_core {G : gt_T} {M : mt_T} {p : Program} {e : Env} {R : Room} {s : State} {m : MethodId} {args : Array Value} {below : List Frame} {meth : Method} {c : Code} {W : State} {locs : List Loc} {cells slots : Nat}
    (X : Stand p (gl G) e R s m args below meth c W locs cells slots) (C0 : cx G M p e s m meth c) (hSS : va_S (gA G) (gs G).heap W.heap locs) {cls K : String} {names : List String} {n : Nat}
    (hKf : Bundle.fit K = true) (hnames : ∀ n ∈ names, Bundle.fit n = true) (hch : ∀ w ∈ Bundle.chain0Atoms K names, w ∈ lw_tbl) (hxo : ∀ w ∈ xo cls n, w ∈ lw_tbl)
    {a : Addr} {cX : ClassId} {kX : Class} (hfoundX : s.vm.findClass cls = some cX) (hkX : s.vm.classes[cX]? = some kX) (hcell : W.heap[a]? = some (freshCell cX kX)) (hnew : (gs G).heap.size ≤ a)
    {mk : MethodId} (hmk : s.methodNamed? (Bundle.init0 K) = some mk)
    {g : JFrame} (hg : g.method = m) (hsize : g.locals.size = c.maxLocals) {ig : Instr} (hd6 : decode c.code g.pc = .ok (ig, 3))
    (hRframes : names.length + 3 < R.frames) (hRlocals : 2 * g.monitorRoom + (g.stack.map fun v => v.category).sum + (13 * (names.length + 1) + 41) ≤ R.locals) :
    ∃ (vm' : Vm) (cell' : Cell) (L4 : List Loc), Stand p (gl G) e R s m args below meth c ((W.setVm vm').setCell a cell') (locs ++ L4) cells slots ∧ (∀ x ∈ L4, x.base = a) ∧ cell'.cls = cX ∧ cell'.vm = .none ∧
      (∀ (f : Field) (d : Class × Field), Jmm.declares? s.vm f.slot (cX + 1) cX = some d → d.2.name = f.name → f.name ≠ "cause" → f.name ≠ "stackTrace" → f.name ≠ "suppressedExceptions" → cell'.slots[f.slot]? = (freshCell cX kX).slots[f.slot]?) ∧
      ∀ acts target, Steps p.tables e below (((W.setVm vm').setCell a cell').setTop { g with pc := g.pc + 3 }) target → Steps p.tables e below (doInvoke e (W.setTop g) acts mk #[.ref a]).1 target := by
  obtain ⟨hexec, hb, hml, hr, hlk, hnm, htb, hown, hW, hG, htr⟩ := C0
  have howns : e.platform.frameOwnsMonitors = true := by rw [X.admits.platform]
  have hfin : e.platform.finalization = false := by rw [X.admits.platform]
  have hpl : e.platform.magicAccessors = ({} : Platform).magicAccessors := by rw [X.admits.platform]
  have hx : ∀ w ∈ xo cls n, w.holds args s none s [] = true := fun w hw => wdc hG hW (hxo w hw) (xo_ok w hw).1 (xo_ok w hw).2 args
  obtain ⟨T, Z, L0, LZ, Y⟩ := ThrowableC.of_atoms (args := ga G) (s := (gs G).setVm s.vm) howns hfin hpl (fun w hw => Cond.before_shiftedCast (State.Shifted.of_warmed hW) w (xa_k w hw) (hG.1 w (xa_t w hw)))
  have L : T.Links e.platform s := lk_mv L0
  obtain ⟨P1, Ps, hlen, L1, hL, hP1m, hlink1, hlink⟩ := Bundle.chain0 (args := args) (s := s) hpl Y.init0 names K hKf hnames (fun w hw => wdc hG hW (hch w hw) (chain_ok w hw).1 (chain_ok w hw).2 args)
  cases Option.some.inj (hmk.symm.trans hP1m)
  obtain ⟨c1, kX', hc1, hk, hord, -, -, hn6⟩ := Cond.instantiable_spec (hx (.instantiable cls n) (by simp [xo]))
  cases Option.some.inj (hc1.symm.trans hfoundX)
  cases Option.some.inj (hkX.symm.trans hk)
  have hsel0 : selectMethod e.platform s.vm cX T.fill0 = .method T.fill0 := by
    obtain ⟨c2, r2, m2, q1, q2, q3, q4, -⟩ := Cond.selects_spec (hx (.selects cls Bundle.tFill0 Bundle.tFill0) (by simp [xo]))
    cases Option.some.inj (q1.symm.trans hfoundX)
    cases Option.some.inj (q2.symm.trans (State.methodFound?_of_named Y.fill0 (by decide)))
    cases Option.some.inj (q3.symm.trans Y.fill0)
    rw [Launch.admits_selectMethod X.admits]; exact q4
  have hselF : selectMethod e.platform s.vm cX T.fill = .method T.fill := by
    obtain ⟨c2, r2, m2, q1, q2, q3, q4, -⟩ := Cond.selects_spec (hx (.selects cls Bundle.tFill Bundle.tFill) (by simp [xo]))
    cases Option.some.inj (q1.symm.trans hfoundX)
    cases Option.some.inj (q2.symm.trans (State.methodFound?_of_named Y.fill (by decide)))
    cases Option.some.inj (q3.symm.trans Y.fill)
    rw [Launch.admits_selectMethod X.admits]; exact q4
  obtain ⟨cellS, hcS0, hiss⟩ := Y.statics
  have hcS0 : (gs G).heap[T.aS]? = some cellS := hcS0
  have hlo : T.aS < (gs G).heap.size := (Array.getElem?_eq_some_iff.mp hcS0).1
  have hcellS : W.heap[T.aS]? = some cellS := by
    rw [hSS.2.1 _ hlo (fun z => Nat.not_le.mpr hlo z)]
    exact hcS0
  have hst0 := (xs_ hG).1
  have hst1 := (xs_ hG).2
  have hst0' := Cond.before_shiftedCast (State.Shifted.of_warmed hW) _ rfl hst0
  have hst1' := Cond.before_shiftedCast (State.Shifted.of_warmed hW) _ rfl hst1
  obtain ⟨u0, hu0⟩ := Cond.staticRefV Y.unassigned L.unassignedStatic L.statics hcS0 hiss hst0'
  obtain ⟨sen, hsen⟩ := Cond.staticRefV Y.sentinel L.sentinelStatic L.statics hcS0 hiss hst1'
  obtain ⟨ci198, i198, fB, hk198, hg198, ha198, hsB, -, hnB, htB, hffB⟩ := Cond.ownField (t := .object "java/lang/Object") (s := s) Y.found L.cls (by decide +kernel) (hx (.fieldLink Bundle.tN 198 Bundle.tN "backtrace" "Ljava/lang/Object;") (by simp [xo])) (hx (.lays Bundle.tN Bundle.tN "backtrace" "Ljava/lang/Object;") (by simp [xo])) e.platform hpl
  have hknownS : cellS.vm ≠ .unknown := by
    intro hu
    rw [hu] at hiss
    cases hiss
  have hneS : T.aS ≠ a := Nat.ne_of_lt (Nat.lt_of_lt_of_le hlo hnew)
  obtain ⟨tyC, dC, hdC, hdnC⟩ := Cond.laysAt hfoundX hk Y.cause (hx (.lays cls Bundle.tN "cause" "Ljava/lang/Throwable;") (by simp [xo]))
  obtain ⟨tyS, dS, hdS, hdnS⟩ := Cond.laysAt hfoundX hk Y.stack (hx (.lays cls Bundle.tN "stackTrace" Bundle.steD) (by simp [xo]))
  obtain ⟨tyP, dP, hdP, hdnP⟩ := Cond.laysAt hfoundX hk Y.supp (hx (.lays cls Bundle.tN "suppressedExceptions" Bundle.listD) (by simp [xo]))
  obtain ⟨tyB, dB, hdB, hdnB⟩ := Cond.laysAt hfoundX hk hffB (hx (.lays cls Bundle.tN "backtrace" "Ljava/lang/Object;") (by simp [xo]))
  have bC := Cond.laysApart hdB hdC hdnB hdnC (by rw [hnB, Y.causeName]; decide)
  have bS := Cond.laysApart hdB hdS hdnB hdnS (by rw [hnB, Y.stackName]; decide)
  have bP := Cond.laysApart hdB hdP hdnB hdnP (by rw [hnB, Y.suppName]; decide)
  have hskip : SkipFacts T e.platform s (fun u => u) u0 ((preparedCellV T.toThrowableT (freshCell cX kX) a u0 sen).withEntry W.cur) :=
    ⟨{ ci198 := ci198, i198 := i198, fBack := fB }, ⟨hk198, hg198, ha198, hsB⟩, by
      have := fresh_default (c := cX) tyB
      rw [htB] at this
      simpa [preparedCellV, Cell.setSlot, Cell.withEntry, Array.getElem?_setIfInBounds, bC, bS, bP, bC.symm, bS.symm, bP.symm, defaultValue] using this, fun _ _ => rfl⟩
  obtain ⟨vm₂, X₂, st2⟩ := X.ctorPlainOffV hexec (g := g) hg hsize T L Z LZ (P1 :: Ps)
    (fun P hP => by rcases List.mem_cons.mp hP with rfl | hP; exact L1; exact hL P hP) ⟨hlink1, hlink⟩ (u0 := u0) (sen := sen) (self := a) (cell := freshCell cX kX) (cellS := cellS)
    hcell (fun _ => by simp) (by simp) rfl rfl hsel0 hselF hcellS hneS hknownS hu0 hsen
    (Takes.of_laid hk hord tyC (by rw [Y.causeType]; rfl)) (Takes.of_laid hk hord tyS (by rw [Y.stackType]; exact fits_refV_array _ u0)) (Takes.of_laid hk hord tyP (by rw [Y.suppType]; exact fits_refV_object _ sen)) Y.objLocals hskip htr [] hd6
    (by simp only [List.length_cons, hlen]; omega) (by simp only [List.length_cons, hlen]; exact hRlocals)
  refine ⟨vm₂, _, _, X₂, ?_, rfl, rfl, ?_, ?_⟩
  · intro x h1
    simp only [List.mem_cons, List.not_mem_nil, or_false] at h1
    rcases h1 with rfl | rfl | rfl | rfl <;> rfl
  · intro f d hd hdn n1 n2 n3
    have m1 := Cond.laysApart hd hdC hdn hdnC (by rw [Y.causeName]; exact n1)
    have m2 := Cond.laysApart hd hdS hdn hdnS (by rw [Y.stackName]; exact n2)
    have m3 := Cond.laysApart hd hdP hdn hdnP (by rw [Y.suppName]; exact n3)
    simp [preparedCellV, Cell.setSlot, Array.getElem?_setIfInBounds, m1, m2, m3, m1.symm, m2.symm, m3.symm]
  · intro acts target ht
    have := st2 target ht
    rw [doInvoke_state] at this ⊢
    exact this
