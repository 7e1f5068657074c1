/-! EXCEPTIONS ARE CAUGHT: a method's own handlers, whose classes may have to be looked up first -/
section Fh
variable {E : CtlPost} {e : Env} {d : Bool} {acts : List Action} {s : State} {f : JFrame} {a : Addr} {Q : Handler → Pre}
theorem fh_cold {x : ExceptionTableEntry} {t : List ExceptionTableEntry} {c : ClassId} {cell : Cell} {vm' : Vm} (hx : covers x f.pc = true) (h0 : x.catchType ≠ 0)
    (hg : (Jvm.resolveClass f.method.cls x.catchType).Gives e.toSetting s.vm (.ok c) vm') (hsz : vm'.classes.size ≤ s.vm.classes.size) (hcell : s.heap[a]? = some cell) (hobj : ∀ k, cell.vm ≠ .statics k)
    (hk : ∃ k, vm'.classes[cell.cls]? = some k) (hc : ∃ k, vm'.classes[c]? = some k) :
    wp (findHandler.go f a (x :: t)) Q E e d acts s ↔
      if vm'.assignable cell.cls c = true then Q (.found x.handlerPc) d acts (s.setVm vm') else wp (findHandler.go f a t) Q E e d acts (s.setVm vm') := by
  simp only [covers] at hx
  obtain ⟨ha, ht⟩ := hg.op (op := VmOp.resolveClass f.method.cls x.catchType) rfl
  cases hfit : vm'.assignable cell.cls c <;>
    simp [findHandler.go, hx, h0, ha, ht, hsz, hcell, hobj, hk, hc, hfit, VmOp.dirties, VmOp.acts]
end Fh
def FindsV (e : Env) (s : State) (f : JFrame) (a : Addr) (h : Handler) (s' : State) : Prop :=
  ∀ (Q : Handler → Pre) (E : CtlPost) (d : Bool) (acts : List Action), wp (findHandler f a) Q E e d acts s ↔ Q h d acts s'
theorem stepThrowing_catchV {e : Env} {s s' : State} {a : Addr} {f : JFrame} {r : List Frame} {pc : Nat} (hfind : FindsV e s f a (.found pc) s') :
    (stepThrowing e s a (.java f :: r)).Is (s'.setFrames (.java { f with pc := pc, stack := [.ref a] } :: r)) [] := by
  simp only [stepThrowing, searchFrame, vmDo]
  generalize hr : Sem.go _ e false [] s = res
  obtain ⟨as, rfl, ha⟩ := Sem.eq_ok_of hr (a := Handler.found pc) (s' := s') (acts' := []) (by simp [hfind _ _ _ _])
  exact ⟨rfl, ha⟩
theorem caughtV {tb : Tables} {e : Env} {s target : State} {g : JFrame} {c : Code} {below : List Frame} {a : Addr} (h : At s g.method c below) {pc : Nat} {vm' : Vm} (hfind : FindsV e ((s.setTop g).pushFrame (.throwing a)) g a (.found pc) (((s.setTop g).pushFrame (.throwing a)).setVm vm'))
    (hrest : Steps tb e below ((s.setVm vm').setTop { g with pc := pc, stack := [.ref a] }) target) :
    Steps tb e below ((s.setTop g).pushFrame (.throwing a)) target := by
  obtain ⟨hgo, hw⟩ := h.throwing a
  refine Steps.head hgo hw ?_
  rw [stepThread_throwing (frames_entered h.top _), (stepThrowing_catchV (s := (s.setTop g).pushFrame (.throwing a)) hfind).1]
  obtain ⟨g₀, hg⟩ := Option.isSome_iff_exists.mp h.top
  obtain ⟨r, hr⟩ := State.topJava?_eq_some.mp hg
  have hr' : (s.setVm vm').frames = .java g₀ :: r := hr
  rw [State.setTop_of_frames _ hr'] at hrest
  have e0 : ∀ (u : State) (F : List Frame) (v : Vm), (u.setFrames F).setVm v = (u.setVm v).setFrames F := fun _ _ _ => rfl
  rw [State.pushFrame, e0, State.setFrames_setFrames, State.setTop_of_frames _ hr, e0, State.setFrames_setFrames]
  rw [hr]
  exact hrest
section EtCatch
variable {G : gt_T} {M : mt_T} {F L C S : Nat} {pc : Nat} {ls : List (Option ab_V)} {h : ab_H} {Φ : Option ab_V → ab_H → Prop} {Θ : Nat → ab_H → Prop} {a : Nat}
/-- what a look at a handler's class gives -/
theorem cx_look {p : Program} {e : Env} {R : Room} {s : State} {m : MethodId} {args : Array Value} {below : List Frame} {meth : Method} {c : Code} {T : State} {locs : List Loc} {cells slots : Nat} (X : Stand p (gl G) e R s m args below meth c T locs cells slots) (C0 : cx G M p e s m meth c) {ix : Nat} {X1 : String} (hl : Cond.classLink M.1.cls ix X1 ∈ lw_tbl) :
    ∃ cT, s.vm.findClass X1 = some cT ∧ (Jvm.resolveClass m.cls ix).Gives e.toSetting T.vm (.ok cT) (T.vm.noted m.cls ix (.cls cT)) ∧ s.WarmedH (T.vm.noted m.cls ix (.cls cT)) ∧ (∃ k, (T.vm.noted m.cls ix (.cls cT)).classes[cT]? = some k) := by
  obtain ⟨hx, hb, hml, hr, hlk, hnm, htb, hown, hW, hG, htr⟩ := C0
  have hpl : e.platform.magicAccessors = ({} : Platform).magicAccessors := by rw [X.admits.platform]
  obtain ⟨cT, hc', hcl⟩ := Cond.classLink_spec hown (wdc hG hW hl rfl rfl args) e.platform hpl
  obtain ⟨dk, _, _, kt, hd, _, _, _, _, hkt, _, hopen⟩ := hcl.here
  have hcl₀ := X.warmed.classLinks hcl
  have hW' : s.WarmedH (T.vm.noted m.cls ix (.cls cT)) := X.warmed.noted hd hopen (State.rightAt_cls hcl)
  obtain ⟨kt', hkt', -⟩ := hW'.alike.2.2 _ _ hkt
  exact ⟨cT, hc', resolveClass_links e.toSetting hcl₀, hW', kt', hkt'⟩
theorem et_catch1 {sp ep hp ix tag ci : Nat} {fs : List ab_V} (hh : M.2.2.2.2 = [(sp, ep, hp, ix)]) (h1 : sp ≤ pc) (h2 : pc < ep) (hix : ix ≠ 0) (hl : Cond.classLink M.1.cls ix (ri_cn ci) ∈ lw_tbl) (hca : Cond.castable (ri_cn ci) (ri_cn ci) ∈ lw_tbl) (ha : h a = some (oJ tag ci fs)) (k : ev G M F L C S hp ls [vA a] h Φ Θ) : et G M F L C S pc ls h a Φ Θ := by
  intro p e R s m args below meth c H locs cells slots lsC B T hT X stk
  obtain ⟨C0, hF, hL, hC, hS, hrp, hl0, hst, hls⟩ := B
  have C1 := C0
  obtain ⟨hx, hb, hml, hr, hlk, hnm, htb, hown, hW, hG, htr⟩ := C1
  have hK : va_K (gD G) cl_ (gy G) s := va_K.moved hW.alike hG.2.1
  have hrp' := hrp
  obtain ⟨ws, hP, hD, hcov, hSS⟩ := hrp'
  obtain ⟨hok, qq, hqq⟩ := hcov a _ ha
  obtain ⟨r0, hr0, -⟩ := hP qq _ hqq
  obtain ⟨A1, A2, A3⟩ := r0
  have hcn : ri_cn ci = A1 := by unfold ri_cn; rw [hr0]
  obtain ⟨cellB, g1, g2, g3⟩ := va_recv hK hP hr0 hqq
  have g3 : s.vm.findClass A1 = some cellB.cls := g3
  rw [hcn] at hl hca
  obtain ⟨cT, q1, q2, q3, q4⟩ := cx_look X C0 hl
  obtain ⟨cA, cB, w1, w2, w3⟩ := Cond.castable_spec (wdc hG hW hca rfl rfl args)
  cases g3.symm.trans w1
  cases q1.symm.trans w2
  obtain ⟨kA, hkA⟩ := Vm.classAt_of_findClass g3
  obtain ⟨kA', hkA', -⟩ := q3.alike.2.2 _ _ hkA
  have hmeth : ((T.setTop (F0 m pc lsC stk)).pushFrame (.throwing a)).vm.method? m = some meth := by
    show T.vm.method? m = some meth
    rw [X.warmed.alike.method?]; exact X.method
  have hfind : FindsV e ((T.setTop (F0 m pc lsC stk)).pushFrame (.throwing a)) (F0 m pc lsC stk) a (.found hp) (((T.setTop (F0 m pc lsC stk)).pushFrame (.throwing a)).setVm (T.vm.noted m.cls ix (.cls cT))) := by
    intro Q E d acts
    rw [W.findHandler_eq (f := F0 m pc lsC stk) hmeth X.code, htb, hh]
    rw [show tableOf [(sp, ep, hp, ix)] = [⟨sp, ep, hp, ix⟩] from rfl]
    refine Iff.trans (fh_cold (s := (T.setTop (F0 m pc lsC stk)).pushFrame (.throwing a)) (f := F0 m pc lsC stk) (x := ⟨sp, ep, hp, ix⟩) (cell := cellB) (c := cT) (vm' := T.vm.noted m.cls ix (.cls cT)) (by show (decide (sp ≤ pc) && decide (pc < ep)) = true; simp [h1, h2]) hix q2 (Nat.le_of_eq (Vm.size_noted ..)) (by show T.heap[a]? = _; rw [hT]; exact g1) (fun z hz => by rw [hz] at g2; cases g2) ⟨kA', hkA'⟩ q4) ?_
    rw [if_pos (by rw [q3.alike.assignable]; exact w3)]
  have X' := X.noted q3
  obtain ⟨t, a1, a2⟩ := k p e R s m args below meth c H locs cells slots lsC ⟨C0, hF, hL, hC, hS, hrp, hl0, okc trivial (fun v hv => by cases hv), hls⟩ (T.setVm (T.vm.noted m.cls ix (.cls cT))) hT X'
  exact ⟨t, caughtV (g := F0 m pc lsC stk) X.here hfind a1, a2⟩
theorem et_catch2 {sp ep hp ix sp2 ep2 hp2 ix2 tag ci : Nat} {X1 : String} {fs : List ab_V} (hh : M.2.2.2.2 = [(sp, ep, hp, ix), (sp2, ep2, hp2, ix2)]) (h1 : sp ≤ pc) (h2 : pc < ep) (hix : ix ≠ 0) (h12 : sp2 ≤ pc) (h22 : pc < ep2) (hix2 : ix2 ≠ 0) (hl1 : Cond.classLink M.1.cls ix X1 ∈ lw_tbl) (hl : Cond.classLink M.1.cls ix2 (ri_cn ci) ∈ lw_tbl) (hca : Cond.castable (ri_cn ci) (ri_cn ci) ∈ lw_tbl)
    (hno : GF G → (Cond.not (.castable (ri_cn ci) X1)).before (ga G) (gs G) = true) (ha : h a = some (oJ tag ci fs)) (k : ev G M F L C S hp2 ls [vA a] h Φ Θ) : et G M F L C S pc ls h a Φ Θ := by
  intro p e R s m args below meth c H locs cells slots lsC B T hT X stk
  obtain ⟨C0, hF, hL, hC, hS, hrp, hl0, hst, hls⟩ := B
  have C1 := C0
  obtain ⟨hx, hb, hml, hr, hlk, hnm, htb, hown, hW, hG, htr⟩ := C1
  have hK : va_K (gD G) cl_ (gy G) s := va_K.moved hW.alike hG.2.1
  have hrp' := hrp
  obtain ⟨ws, hP, hD, hcov, hSS⟩ := hrp'
  obtain ⟨hok, qq, hqq⟩ := hcov a _ ha
  obtain ⟨r0, hr0, -⟩ := hP qq _ hqq
  obtain ⟨A1, A2, A3⟩ := r0
  have hcn : ri_cn ci = A1 := by unfold ri_cn; rw [hr0]
  obtain ⟨cellB, g1, g2, g3⟩ := va_recv hK hP hr0 hqq
  have g3 : s.vm.findClass A1 = some cellB.cls := g3
  rw [hcn] at hl hca hno
  obtain ⟨cT1, q1', q2', q3', q4'⟩ := cx_look X C0 hl1
  have X1' := X.noted q3'
  obtain ⟨cT, q1, q2, q3, q4⟩ := cx_look X1' C0 hl
  obtain ⟨cA, cB, w1, w2, w3⟩ := Cond.castable_spec (wdc hG hW hca rfl rfl args)
  cases g3.symm.trans w1
  cases q1.symm.trans w2
  obtain ⟨kA, hkA⟩ := Vm.classAt_of_findClass g3
  obtain ⟨kA', hkA', -⟩ := q3.alike.2.2 _ _ hkA
  obtain ⟨kA1, hkA1, -⟩ := q3'.alike.2.2 _ _ hkA
  have hnoc : s.vm.assignable cellB.cls cT1 = false := by
    have h9 := Cond.before_shiftedCast (State.Shifted.of_warmed hW) _ rfl (hno hG)
    have e1 : ((gs G).setVm s.vm).vm.findClass A1 = some cellB.cls := g3
    have e2 : ((gs G).setVm s.vm).vm.findClass X1 = some cT1 := q1'
    simp only [Cond.before, Cond.holds, Cond.value, e1, e2] at h9
    cases hz : s.vm.assignable cellB.cls cT1 with
    | false => rfl
    | true =>
      have hz' : ((gs G).setVm s.vm).vm.assignable cellB.cls cT1 = true := hz
      rw [hz'] at h9
      simp at h9
  have hmeth : ((T.setTop (F0 m pc lsC stk)).pushFrame (.throwing a)).vm.method? m = some meth := by
    show T.vm.method? m = some meth
    rw [X.warmed.alike.method?]; exact X.method
  have hfind : FindsV e ((T.setTop (F0 m pc lsC stk)).pushFrame (.throwing a)) (F0 m pc lsC stk) a (.found hp2) (((T.setTop (F0 m pc lsC stk)).pushFrame (.throwing a)).setVm ((T.vm.noted m.cls ix (.cls cT1)).noted m.cls ix2 (.cls cT))) := by
    intro Q E d acts
    rw [W.findHandler_eq (f := F0 m pc lsC stk) hmeth X.code, htb, hh]
    rw [show tableOf [(sp, ep, hp, ix), (sp2, ep2, hp2, ix2)] = [⟨sp, ep, hp, ix⟩, ⟨sp2, ep2, hp2, ix2⟩] from rfl]
    refine Iff.trans (fh_cold (s := (T.setTop (F0 m pc lsC stk)).pushFrame (.throwing a)) (f := F0 m pc lsC stk) (x := ⟨sp, ep, hp, ix⟩) (cell := cellB) (c := cT1) (vm' := T.vm.noted m.cls ix (.cls cT1)) (by show (decide (sp ≤ pc) && decide (pc < ep)) = true; simp [h1, h2]) hix q2' (Nat.le_of_eq (Vm.size_noted ..)) (by show T.heap[a]? = _; rw [hT]; exact g1) (fun z hz => by rw [hz] at g2; cases g2) ⟨kA1, hkA1⟩ q4') ?_
    rw [if_neg (by rw [q3'.alike.assignable, hnoc]; decide)]
    refine Iff.trans (fh_cold (s := ((T.setTop (F0 m pc lsC stk)).pushFrame (.throwing a)).setVm (T.vm.noted m.cls ix (.cls cT1))) (f := F0 m pc lsC stk) (x := ⟨sp2, ep2, hp2, ix2⟩) (cell := cellB) (c := cT) (vm' := (T.vm.noted m.cls ix (.cls cT1)).noted m.cls ix2 (.cls cT)) (by show (decide (sp2 ≤ pc) && decide (pc < ep2)) = true; simp [h12, h22]) hix2 q2 (Nat.le_of_eq (Vm.size_noted ..)) (by show T.heap[a]? = _; rw [hT]; exact g1) (fun z hz => by rw [hz] at g2; cases g2) ⟨kA', hkA'⟩ q4) ?_
    rw [if_pos (show ((T.vm.noted m.cls ix (.cls cT1)).noted m.cls ix2 (.cls cT)).assignable cellB.cls cT = true from (q3.alike.assignable ..).trans w3)]
    rfl
  have X' := X1'.noted q3
  obtain ⟨t, a1, a2⟩ := k p e R s m args below meth c H locs cells slots lsC ⟨C0, hF, hL, hC, hS, hrp, hl0, okc trivial (fun v hv => by cases hv), hls⟩ (T.setVm ((T.vm.noted m.cls ix (.cls cT1)).noted m.cls ix2 (.cls cT))) hT X'
  exact ⟨t, caughtV (g := F0 m pc lsC stk) X.here hfind a1, a2⟩
end EtCatch
theorem no_ise_iae {G : gt_T} (hG : GF G) : (Cond.not (.castable (ri_cn 10) "java/lang/IllegalArgumentException")).before (ga G) (gs G) = true := by
  have h := flat_of_before _ hG.2.2.2.2.2.2.2.2
  exact h _ (by decide +kernel)
