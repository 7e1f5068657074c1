theorem FXa.moved {G : gt_T} {ci a : Nat} {u U : State} {H : Heap} (hvm : u.vm.Alike U.vm) (h : FXa G ci a u H) : FXa G ci a U H := by
  obtain ⟨kX, h1, h2, h3⟩ := h
  obtain ⟨k', hk', he⟩ := hvm.2.2 _ _ h1
  exact ⟨k', hk', by rw [h2, he], h3⟩
/-- into a constructor that gets a cell which is just laid -/
theorem ccF_ {G : gt_T} {M M' : mt_T} {F' L' C' S' : Nat} {args' : List ab_V} {h : ab_H} {ci a : Nat} {Φ' : Option ab_V → ab_H → Prop} {Θ' : Nat → ab_H → Prop} {p : Program} {e : Env} {R : Room} {s : State} {m : MethodId} {args : Array Value} {below : List Frame} {meth : Method} {c : Code} {T : State} {locs : List Loc} {cells slots : Nat}
    (X : Stand p (gl G) e R s m args below meth c T locs cells slots) (C0 : cx G M p e s m meth c) {g : JFrame} (hg : g.method = m) (hsize : g.locals.size = c.maxLocals) {ig : Instr} {len : Nat} (hdg : decode c.code g.pc = .ok (ig, len))
    {j1 j2 j3 j4 : Nat} (hq : mt_ok M' j1 j2 j3 j4 = true) {mk : MethodId} (hn : T.methodNamed? M'.1 = some mk) (hct : evF G M' F' L' C' S' 0 (en M'.2.2.1 args') [] h ci a Φ' Θ') (hw : sw args' ≤ M'.2.2.1) (hok : ∀ v ∈ args', okV v)
    (hF : F' + 1 ≤ R.frames) (hL : 2 * g.monitorRoom + (g.stack.map fun v => v.category).sum + (M'.2.2.1 + 11) + L' ≤ R.locals) (hC : cells + C' ≤ R.cells) (hS : slots + S' ≤ R.slots) (hrp : rpX G h T.heap locs a) (hfx : FXa G ci a s T.heap) :
    ∃ (T' : State) (locs' : List Loc) (h' : ab_H), Stand p (gl G) e R s m args below meth c T' locs' (cells + C') (slots + S') ∧ rp G h' T'.heap locs' ∧
      ((∃ v, okO v ∧ Φ' v h' ∧ ∀ acts, Steps p.tables e below (doInvoke e (T.setTop g) acts mk (args'.map cv).toArray).1 (T'.setTop { g with pc := g.pc + len, stack := (v.map cv).toList ++ g.stack })) ∨
       (∃ a, Θ' a h' ∧ ∀ acts, Steps p.tables e below (doInvoke e (T.setTop g) acts mk (args'.map cv).toArray).1 ((T'.setTop g).pushFrame (.throwing a)))) := by
  obtain ⟨hx, hb, hml, hr, hlk, hnm, htb, hown, hW, hG, htr⟩ := C0
  have hWT : (gs G).WarmedH T.vm := State.WarmedH.trans hW X.warmed
  obtain ⟨⟨mk', methk, ck, q0, q1, q2, q3, q4, q5, q6, q7, q8⟩, -, hpl, -, -⟩ := mt_code (s := T) hq hG hWT
  cases hn.symm.trans q0
  have hpk : T.plainMethod mk := State.plainMethod.of_named (plainFor_of_name hpl) hn q1
  obtain ⟨Y, hdo⟩ := X.into hg hsize hdg (args'.map cv).toArray (R' := { frames := F', cells := C', slots := S', locals := L' }) q1 q2 q6 hpk hF (by rw [q4]; exact hL) hC hS
  have hlen : ck.maxLocals = M'.2.2.1 := q4
  rw [hlen] at Y hdo
  have hcx : cx G M' p e (T.calling g mk (args'.map cv).toArray) mk methk ck := ⟨hx, q3, q4, q5, q6, (name_of_methodNamed hn q1).1, q7, findClass_of_methodNamed hn, hWT, hG, htr⟩
  have hev := hct p e { frames := F', cells := C', slots := S', locals := L' } (T.calling g mk (args'.map cv).toArray) mk (args'.map cv).toArray (.java g :: below) methk ck T.heap [] 0 0 _ ⟨hcx, Nat.le_refl _, Nat.le_refl _, by show 0 + C' ≤ C'; omega, by show 0 + S' ≤ S'; omega, ⟨rpX_nil hrp, FXa.moved (show s.vm.Alike T.vm from X.warmed.alike) hfx⟩, en_lh args' M'.2.2.1 hw, (fun v hv => by cases hv), en_ok hok⟩
  obtain ⟨t, hst, o, hrun, hend, ⟨h', hrp', hcase⟩, hWt, Lw, hsame, hLw⟩ := hev ((T.setTop g).pushFrame (.java (entryFrame mk (args'.map cv).toArray M'.2.2.1))) rfl Y
  have hst' : Steps p.tables e below (((T.setTop g).pushFrame (.java (entryFrame mk (args'.map cv).toArray M'.2.2.1))).setTop (entryFrame mk (args'.map cv).toArray M'.2.2.1)) t := by
    rw [lg_entry_eq]
    rw [lg_entry_eq] at hst
    exact steps_up hst
  have hA : ∀ l ∈ locs ++ Lw, gA G l.base := by
    intro q hq'
    rcases List.mem_append.mp hq' with h1 | h1
    · exact rp_A (rpX_rp hrp) q h1
    · exact hLw q h1
  rcases hcase with ⟨v, rfl, hov, hΦ⟩ | ⟨a, rfl, hΘ⟩
  · obtain ⟨T', X', hW', hB, ht⟩ := X.outOf hg hdg hend hWt hsame
    have hh : t.heap = T'.heap := by rw [ht]; rfl
    rw [hh] at hrp'
    refine ⟨T', locs ++ Lw, h', X', rp_locs hrp' hA, Or.inl ⟨v, hov, hΦ, fun acts => ?_⟩⟩
    rw [hdo acts, ← ht]
    exact hst'
  · obtain ⟨T', X', hW', hB, ht⟩ := X.outOfThrown hg hend hWt hsame
    have hh : t.heap = T'.heap := by rw [ht]; rfl
    rw [hh] at hrp'
    refine ⟨T', locs ++ Lw, h', X', rp_locs hrp' hA, Or.inr ⟨a, hΘ, fun acts => ?_⟩⟩
    rw [hdo acts, ← ht]
    exact hst'
theorem evF_callI {G : gt_T} {M M' : mt_T} {F L C S F' L' C' S' C2 S2 : Nat} {pc a0 b0 j0 : Nat} {z0 : Int} {ls : List (Option ab_V)} {st r' : List ab_V} {h : ab_H} {ci a : Nat} {Φ Φ' : Option ab_V → ab_H → Prop} {Θ : Nat → ab_H → Prop} (d : ri_at M (pc, 3, 68, a0, b0, j0, z0)) (hM : MT[a0]? = some M') {n0 : Nat} (v : iq M' n0) (hct : evF G M' F' L' C' S' 0 (en M'.2.2.1 (vA a :: r')) [] h ci a Φ' nT) (hn0 : r'.length = n0) (hw : sw (vA a :: r') ≤ M'.2.2.1) (hF : F' + 1 ≤ F) (hL : sw st + (M'.2.2.1 + 11) + L' ≤ L) (hC : C' + C2 ≤ C) (hS : S' + S2 ≤ S)
    (k : ∀ v h', Φ' v h' → ev G M F L C2 S2 (pc + 3) ls (pv v st) h' Φ Θ) : evF G M F L C S pc ls (rv (vA a :: r') st) h ci a Φ Θ := by
  intro p e R s m args below meth c H locs cells slots lsC B T hT X
  obtain ⟨C0, hF0, hL0, hC0, hS0, ⟨hrp, hfx⟩, hl, hst, hls⟩ := B
  obtain ⟨ho1, ho2⟩ := rv_ok _ _ hst
  obtain ⟨mk, ix, vm', hdg, hmk, X', hstep⟩ := xi_key (st := st) (b := a) (r' := r') (lsC := lsC) X C0 d hM v hn0
  obtain ⟨j1, j2, j3, j4, hq, hi, hcw, hin, hlen⟩ := v
  have hsz : (F0 m pc lsC (st.map cv)).locals.size = c.maxLocals := by rw [C0.2.2.1]; exact hl.1
  obtain ⟨T', locs', h', X2, hrp', hcase⟩ := ccF_ X' C0 (g := F0 m pc lsC (st.map cv)) rfl hsz (by rw [C0.2.1]; exact hdg) hq (X'.named hmk) hct hw ho1 (by omega) (by show 2 * 0 + ((st.map cv).map fun v => v.category).sum + (M'.2.2.1 + 11) + L' ≤ R.locals; rw [sw_cat]; omega) (by omega) (by omega) (by show rpX G h T.heap locs a; rw [hT]; exact hrp) (by show FXa G ci a s T.heap; rw [hT]; exact hfx)
  rcases hcase with ⟨v, hov, hΦ, hs⟩ | ⟨a, hΘ, hs⟩
  · obtain ⟨t, a1, a2⟩ := k v h' hΦ p e R s m args below meth c T'.heap locs' (cells + C') (slots + S') lsC ⟨C0, hF0, hL0, by omega, by omega, hrp', hl, pv_ok hov ho2, hls⟩ T' rfl X2
    refine ⟨t, hstep t (fun acts => (hs acts).trans ?_), a2⟩
    have e1 : (F0 m (pc + 3) lsC ((pv v st).map cv)) = { (F0 m pc lsC (st.map cv)) with pc := (F0 m pc lsC (st.map cv)).pc + 3, stack := (v.map cv).toList ++ (F0 m pc lsC (st.map cv)).stack } := by rw [pv_eq]
    rw [e1] at a1
    exact a1
  · exact hΘ.elim
theorem v_rte_init : iq M_rte_init 0 := ⟨401, 57, 400, 0, by decide +kernel, by decide +kernel, by decide +kernel, rfl, by decide +kernel⟩
theorem v_iae_init : iq M_iae_init 0 := ⟨602, 68, 601, 0, by decide +kernel, by decide +kernel, by decide +kernel, rfl, by decide +kernel⟩
theorem v_ise_init : iq M_ise_init 0 := ⟨552, 66, 551, 0, by decide +kernel, by decide +kernel, by decide +kernel, rfl, by decide +kernel⟩
theorem v_ioe_init : iq M_ioe_init 0 := ⟨575, 67, 574, 0, by decide +kernel, by decide +kernel, by decide +kernel, rfl, by decide +kernel⟩
theorem hu_hu (h : ab_H) (a : Nat) (o o' : ab_O) : hu (hu h a o) a o' = hu h a o' := by
  funext q
  unfold hu
  split <;> rfl
theorem c_f_init (G : gt_T) (h : ab_H) (a : Nat) (w p : Int) : evF G M_f_init 5 75 0 0 0 (en 3 [vA a, vI w, vI p]) [] h 8 a (rV fun h' => h' = hu h a (oJ 40 8 [vI w, vI p])) nT := by
  show evF _ _ _ _ _ _ 0 [some (vA a), some (vI w), some (vI p)] [] _ _ _ _ _
  refine evF_al (k_f_init 0 rfl) rfl ?_
  refine evF_ctor 40 (k_f_init 1 rfl) rfl v_rte_init (names := ["java/lang/Exception"]) (n := 8) (vs := [vI 0, vI 0]) rfl (by decide) (by decide) xa_8 rfl xb_8 (by decide) (by decide) (okc (show inI 0 by decide) (okc (show inI 0 by decide) (fun v hv => by cases hv))) (le_b rfl) (le_b rfl) ?_
  refine ev_al (k_f_init 2 rfl) rfl ?_
  refine ev_il (k_f_init 3 rfl) rfl ?_
  refine ev_putF (k_f_init 4 rfl) (hu_self _ _ _) (le_b rfl) rfl ?_
  rw [hu_hu]
  refine ev_al (k_f_init 5 rfl) rfl ?_
  refine ev_il (k_f_init 6 rfl) rfl ?_
  refine ev_putF (k_f_init 7 rfl) (hu_self _ _ _) (le_b rfl) rfl ?_
  rw [hu_hu]
  exact ev_vret (k_f_init 8 rfl) rfl ⟨rfl, rfl⟩
theorem c_g_allow (G : gt_T) (h : ab_H) (x : Bool) : ct G M_g_allow 6 101 1 6 [vI (bi x)] h (rV fun h' => h = h' ∧ x = true) (fun a h' => x = false ∧ h a = none ∧ h' = hu h a (oJ 40 9 [])) := by
  show ev _ _ _ _ _ _ 0 [some (vI (bi x))] [] _ _ _
  refine ev_il (k_g_allow 0 rfl) rfl ?_
  refine ev_b_ne (k_g_allow 1 rfl) (fun c1 => ?_) (fun c1 => ?_)
  · exact ev_vret (k_g_allow 6 rfl) rfl ⟨rfl, rfl, c1⟩
  · refine ev_newF (C2 := 0) (S2 := 0) (n := 6) (k_g_allow 2 rfl) rfl xb_9 (le_b rfl) (le_b rfl) (fun q hq _ => ?_)
    refine evF_dup (k_g_allow 3 rfl) rfl ?_
    refine evF_ctor 40 (k_g_allow 4 rfl) rfl v_iae_init (names := ["java/lang/RuntimeException", "java/lang/Exception"]) (n := 6) (vs := []) rfl (by decide) (by decide) xa_9 rfl xb_9 (by decide) (by decide) (fun v hv => by cases hv) (le_b rfl) (le_b rfl) ?_
    exact ev_athrow (k_g_allow 5 rfl) (et_out rfl ⟨c1, hq, rfl⟩)
theorem c_g_may (G : gt_T) (h : ab_H) (x : Bool) : ct G M_g_may 6 101 1 6 [vI (bi x)] h (rV fun h' => h = h' ∧ x = true) (fun a h' => x = false ∧ h a = none ∧ h' = hu h a (oJ 40 10 [])) := by
  show ev _ _ _ _ _ _ 0 [some (vI (bi x))] [] _ _ _
  refine ev_il (k_g_may 0 rfl) rfl ?_
  refine ev_b_ne (k_g_may 1 rfl) (fun c2 => ?_) (fun c2 => ?_)
  · exact ev_vret (k_g_may 6 rfl) rfl ⟨rfl, rfl, c2⟩
  · refine ev_newF (C2 := 0) (S2 := 0) (n := 6) (k_g_may 2 rfl) rfl xb_10 (le_b rfl) (le_b rfl) (fun q hq _ => ?_)
    refine evF_dup (k_g_may 3 rfl) rfl ?_
    refine evF_ctor 40 (k_g_may 4 rfl) rfl v_ise_init (names := ["java/lang/RuntimeException", "java/lang/Exception"]) (n := 6) (vs := []) rfl (by decide) (by decide) xa_10 rfl xb_10 (by decide) (by decide) (fun v hv => by cases hv) (le_b rfl) (le_b rfl) ?_
    exact ev_athrow (k_g_may 5 rfl) (et_out rfl ⟨c2, hq, rfl⟩)
theorem c_g_need (G : gt_T) (h : ab_H) (x : Bool) (w p : Int) : ct G M_g_need 6 97 1 8 [vI (bi x), vI w, vI p] h (rV fun h' => h = h' ∧ x = true) (fun a h' => x = false ∧ h a = none ∧ h' = hu h a (oJ 40 8 [vI w, vI p])) := by
  show ev _ _ _ _ _ _ 0 [some (vI (bi x)), some (vI w), some (vI p)] [] _ _ _
  refine ev_il (k_g_need 0 rfl) rfl ?_
  refine ev_b_ne (k_g_need 1 rfl) (fun c3 => ?_) (fun c3 => ?_)
  · exact ev_vret (k_g_need 8 rfl) rfl ⟨rfl, rfl, c3⟩
  · refine ev_newF (C2 := 0) (S2 := 0) (n := 8) (k_g_need 2 rfl) rfl xb_8 (le_b rfl) (le_b rfl) (fun q hq _ => ?_)
    refine evF_dup (k_g_need 3 rfl) rfl ?_
    refine evF_il (k_g_need 4 rfl) rfl ?_
    refine evF_il (k_g_need 5 rfl) rfl ?_
    refine evF_callI (C2 := 0) (S2 := 0) (st := [vA q]) (r' := [vI w, vI p]) (k_g_need 6 rfl) rfl v_f_init (c_f_init G h q w p) rfl (le_b rfl) (le_b rfl) (le_b rfl) (le_b rfl) (le_b rfl) (k_V fun h1 q1 => ?_)
    exact ev_athrow (k_g_need 7 rfl) (et_out rfl ⟨c3, hq, q1⟩)
