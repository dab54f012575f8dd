section
/-! plain facts: what the two argument checks say, small places, the law's first branches -/
def kr_ok (t k : Int32) : Prop := ¬ t < 0 ∧ ¬ 3 < t ∧ ¬ k < 0 ∧ k < 10
theorem kr_9 {k : Int32} : ¬ 9 < k ↔ k < 10 := by
  rw [Int32.lt_iff_toInt_lt, Int32.lt_iff_toInt_lt]
  have h9 : (9 : Int32).toInt = 9 := by decide
  have h10 : (10 : Int32).toInt = 10 := by decide
  omega
theorem kr_lt1 {i : Int32} (a : ¬ i < 0) (b : i < 1) : i = 0 := by
  rw [Int32.lt_iff_toInt_lt] at a b
  have h0 : (0 : Int32).toInt = 0 := by decide
  have h1 : (1 : Int32).toInt = 1 := by decide
  exact Int32.toInt_inj.mp (by omega)
theorem kr_lt2 {i : Int32} (a : ¬ i < 0) (b : i < 2) (c : ¬ i = 0) : i = 1 := by
  rw [Int32.lt_iff_toInt_lt] at a b
  have h0 : (0 : Int32).toInt = 0 := by decide
  have h1 : (1 : Int32).toInt = 1 := by decide
  have h2 : (2 : Int32).toInt = 2 := by decide
  have hc : ¬ i.toInt = (0 : Int32).toInt := fun z => c (Int32.toInt_inj.mp z)
  exact Int32.toInt_inj.mp (by omega)
theorem kr_no {t k : Int32} {A B : Prop} (h : ¬ kr_ok t k) (a : A) : ((t < 0 → A) ∧ (¬ t < 0 → (((3 < t → A) ∧ (¬ 3 < t → (((k < 0 → A) ∧ (¬ k < 0 → (((9 < k → A) ∧ (¬ 9 < k → B)))))))))) ) :=
  br_c (fun _ => a) (fun x => br_c (fun _ => a) (fun y => br_c (fun _ => a) (fun z => br_c (fun _ => a) (fun w => absurd ⟨x, y, z, kr_9.mp w⟩ h))))
theorem kr_yes {t k : Int32} {A B : Prop} (h : kr_ok t k) (b : B) : ((t < 0 → A) ∧ (¬ t < 0 → (((3 < t → A) ∧ (¬ 3 < t → (((k < 0 → A) ∧ (¬ k < 0 → (((9 < k → A) ∧ (¬ 9 < k → B)))))))))) ) :=
  br_f h.1 (br_f h.2.1 (br_f h.2.2.1 (br_f (kr_9.mpr h.2.2.2) b)))
theorem kr_cell {post : Int32 → Prop} {L : Nat} {xs : Nat → Int32} (hL : L ≤ 5) (j : Nat) (hj : j < 5) (H : ∀ x, post x) : wpL_cellAt post L xs () (nI j) :=
  pk_le L j (fun _ => H _) (fun z => And.intro (pk_in j L z) (H _))
end
section
/-! the draft, at the states that the law reaches -/
section
variable {d o r nx rs kc gc mv : Int32} {a1 a2 a3 a4 a5 a6 a7 a8 a9 a10 a11 a12 a13 a14 a15 a16 a17 a18 a19 a20 a21 a22 a23 : Nat → Int32}
theorem kr_init {post : St2 → Prop} {mc ms : Nat} (h1 : 23 ≤ mc) (h2 : 583 ≤ ms) (H : post (d, o, r, nx, rs, kc, gc, mv, (fun _ => 0), (fun _ => 0), (fun _ => 0), (fun _ => 0), (fun _ => 0), (fun _ => 0), (fun _ => 0), (fun _ => 0), (fun _ => 0), (fun _ => 0), (fun _ => 0), (fun _ => 0), (fun _ => 0), (fun _ => 0), (fun _ => 0), (fun _ => 0), (fun _ => 0), (fun _ => 0), (fun _ => 0), (fun _ => 0), (fun _ => 0), (fun _ => 0), (fun _ => 0))) : wpX_init post mc ms (d, o, r, nx, rs, kc, gc, mv) := by
  repeat refine And.intro (by omega) ?_
  exact H
theorem kr_open_bad {post : Int32 → St2 → Prop} {t k : Int32} (h : ¬ kr_ok t k) (H : post (-1) (d, o, r, nx, rs, kc, gc, mv, a1, a2, a3, a4, a5, a6, a7, a8, a9, a10, a11, a12, a13, a14, a15, a16, a17, a18, a19, a20, a21, a22, a23)) : wpX_open post (d, o, r, nx, rs, kc, gc, mv, a1, a2, a3, a4, a5, a6, a7, a8, a9, a10, a11, a12, a13, a14, a15, a16, a17, a18, a19, a20, a21, a22, a23) t k :=
  br_c (fun _ => H) (fun x => br_c (fun _ => H) (fun y => br_c (fun _ => H) (fun z => br_c (fun w => absurd ⟨x, y, z, w⟩ h) (fun _ => H))))
theorem kr_open0 {post : Int32 → St2 → Prop} {t k : Int32} (h : kr_ok t k) (H : post 1 (1, 1, r, nx, rs, kc, gc, mv, upd a1 0 t, upd a2 0 k, upd a3 0 (-1), upd a4 0 0, a5, a6, a7, a8, a9, a10, a11, a12, a13, a14, a15, a16, a17, a18, a19, a20, a21, a22, a23)) : wpX_open post (0, 0, r, nx, rs, kc, gc, mv, a1, a2, a3, a4, a5, a6, a7, a8, a9, a10, a11, a12, a13, a14, a15, a16, a17, a18, a19, a20, a21, a22, a23) t k := by
  refine br_f h.1 (br_f h.2.1 (br_f h.2.2.1 (br_t h.2.2.2 (br_f (by decide) (br_t rfl ?_)))))
  refine br_t rfl (br_f (by decide) ?_)
  refine br_t (by decide) ?_
  exact And.intro (vp_in_iff.mpr (by decide)) (nm_e (And.intro (vp_in_iff.mpr (by decide)) (nm_e (And.intro (vp_in_iff.mpr (by decide)) (nm_e (And.intro (vp_in_iff.mpr (by decide)) (nm_e (nm_r (e' := 1) rfl (nm_r (e' := 1) rfl H)))))))))
theorem kr_twin1 {post : Int32 → Prop} {x k : Int32} (h : ¬ a3 0 = x) (H : post 0) : wpX_twin post (1, o, r, nx, rs, kc, gc, mv, a1, a2, a3, a4, a5, a6, a7, a8, a9, a10, a11, a12, a13, a14, a15, a16, a17, a18, a19, a20, a21, a22, a23) x k := by
  refine Exists.intro 2 ?_
  refine br_f (by decide) (And.intro (vp_in_iff.mpr (by decide)) (br_f h (nm_r (e' := 1) rfl ?_)))
  exact br_t (by decide) H
theorem kr_open1 {post : Int32 → St2 → Prop} {t k : Int32} (h : kr_ok t k) (h3 : a3 0 = -1) (h4 : a4 0 = 0) (H : ∀ p, p = 0 → post 2 (2, 2, r, nx, rs, kc, gc, mv, upd a1 1 t, upd a2 1 k, upd a3 1 p, upd a4 1 1, a5, a6, a7, a8, a9, a10, a11, a12, a13, a14, a15, a16, a17, a18, a19, a20, a21, a22, a23)) : wpX_open post (1, 1, r, nx, rs, kc, gc, mv, a1, a2, a3, a4, a5, a6, a7, a8, a9, a10, a11, a12, a13, a14, a15, a16, a17, a18, a19, a20, a21, a22, a23) t k := by
  refine br_f h.1 (br_f h.2.1 (br_f h.2.2.1 (br_t h.2.2.2 (br_f (by decide) (br_f (by decide) (And.intro (vp_in_iff.mpr (by decide)) ?_))))))
  refine br_f (by decide) ?_
  refine br_f (by decide) ?_
  refine kr_twin1 (fun z => absurd (h3.symm.trans (z.trans h4)) (by decide)) ?_
  refine br_t rfl ?_
  exact And.intro (vp_in_iff.mpr (by decide)) (nm_e (And.intro (vp_in_iff.mpr (by decide)) (nm_e (And.intro (vp_in_iff.mpr (by decide)) (nm_e (And.intro (vp_in_iff.mpr (by decide)) (nm_e (nm_r (e' := 2) rfl (nm_r (e' := 2) rfl (H _ h4))))))))))
theorem kr_close0 {post : Int32 → St2 → Prop} (H : post (-4) (d, 0, r, nx, rs, kc, gc, mv, a1, a2, a3, a4, a5, a6, a7, a8, a9, a10, a11, a12, a13, a14, a15, a16, a17, a18, a19, a20, a21, a22, a23)) : wpX_close post (d, 0, r, nx, rs, kc, gc, mv, a1, a2, a3, a4, a5, a6, a7, a8, a9, a10, a11, a12, a13, a14, a15, a16, a17, a18, a19, a20, a21, a22, a23) := br_t rfl H
theorem kr_close1 {post : Int32 → St2 → Prop} (H : post 0 (d, 0, r, nx, rs, kc, gc, mv, a1, a2, a3, a4, a5, a6, a7, a8, a9, a10, a11, a12, a13, a14, a15, a16, a17, a18, a19, a20, a21, a22, a23)) : wpX_close post (d, 1, r, nx, rs, kc, gc, mv, a1, a2, a3, a4, a5, a6, a7, a8, a9, a10, a11, a12, a13, a14, a15, a16, a17, a18, a19, a20, a21, a22, a23) := br_f (by decide) (nm_r (e' := 0) rfl H)
theorem kr_close2 {post : Int32 → St2 → Prop} (H : post 1 (d, 1, r, nx, rs, kc, gc, mv, a1, a2, a3, a4, a5, a6, a7, a8, a9, a10, a11, a12, a13, a14, a15, a16, a17, a18, a19, a20, a21, a22, a23)) : wpX_close post (d, 2, r, nx, rs, kc, gc, mv, a1, a2, a3, a4, a5, a6, a7, a8, a9, a10, a11, a12, a13, a14, a15, a16, a17, a18, a19, a20, a21, a22, a23) := br_f (by decide) (nm_r (e' := 1) rfl H)
theorem kr_leaf_bad {post : Int32 → St2 → Prop} {t k : Int32} (h : ¬ kr_ok t k) (H : post (-1) (d, o, r, nx, rs, kc, gc, mv, a1, a2, a3, a4, a5, a6, a7, a8, a9, a10, a11, a12, a13, a14, a15, a16, a17, a18, a19, a20, a21, a22, a23)) : wpX_leaf post (d, o, r, nx, rs, kc, gc, mv, a1, a2, a3, a4, a5, a6, a7, a8, a9, a10, a11, a12, a13, a14, a15, a16, a17, a18, a19, a20, a21, a22, a23) t k := by
  unfold wpX_leaf
  exact kr_open_bad h (br_f (by decide) H)
theorem kr_leaf0 {post : Int32 → St2 → Prop} {t k : Int32} (h : kr_ok t k) (H : post 0 (1, 0, r, nx, rs, kc, gc, mv, upd a1 0 t, upd a2 0 k, upd a3 0 (-1), upd a4 0 0, a5, a6, a7, a8, a9, a10, a11, a12, a13, a14, a15, a16, a17, a18, a19, a20, a21, a22, a23)) : wpX_leaf post (0, 0, r, nx, rs, kc, gc, mv, a1, a2, a3, a4, a5, a6, a7, a8, a9, a10, a11, a12, a13, a14, a15, a16, a17, a18, a19, a20, a21, a22, a23) t k := by
  unfold wpX_leaf
  exact kr_open0 h (br_t (by decide) (kr_close1 H))
theorem kr_leaf1 {post : Int32 → St2 → Prop} {t k : Int32} (h : kr_ok t k) (h3 : a3 0 = -1) (h4 : a4 0 = 0) (H : ∀ p, p = 0 → post 1 (2, 1, r, nx, rs, kc, gc, mv, upd a1 1 t, upd a2 1 k, upd a3 1 p, upd a4 1 1, a5, a6, a7, a8, a9, a10, a11, a12, a13, a14, a15, a16, a17, a18, a19, a20, a21, a22, a23)) : wpX_leaf post (1, 1, r, nx, rs, kc, gc, mv, a1, a2, a3, a4, a5, a6, a7, a8, a9, a10, a11, a12, a13, a14, a15, a16, a17, a18, a19, a20, a21, a22, a23) t k := by
  unfold wpX_leaf
  exact kr_open1 h h3 h4 (fun p hp => br_t (by decide) (kr_close2 (H p hp)))
end
end
section
/-! looking at a shown tree of no node, of one (node 1) or of two (node 2 the child of node 1) -/
section
variable {d o r nx rs kc gc mv : Int32} {a1 a2 a3 a4 a5 a6 a7 a8 a9 a10 a11 a12 a13 a14 a15 a16 a17 a18 a19 a20 a21 a22 a23 : Nat → Int32}
theorem kr_turn0 {post : St2 → Prop} (H : post (d, o, r, nx, rs, kc, gc, mv, a1, a2, a3, a4, a5, a6, a7, a8, a9, a10, a11, a12, a13, a14, a15, a16, a17, a18, a19, a20, a21, a22, a23)) : wpX_turnPile post (d, o, r, nx, rs, kc, gc, mv, a1, a2, a3, a4, a5, a6, a7, a8, a9, a10, a11, a12, a13, a14, a15, a16, a17, a18, a19, a20, a21, a22, a23) 0 0 := by
  refine nm_e (Exists.intro 1 ?_)
  exact br_f (by decide) (br_t (by decide) H)
theorem kr_turn1 {post : St2 → Prop} (H : post (d, o, r, nx, rs, kc, gc, mv, a1, a2, a3, a4, a5, a6, a7, a8, a9, a10, a11, a12, a13, a14, a15, a16, a17, a18, a19, a20, a21, a22, a23)) : wpX_turnPile post (d, o, r, nx, rs, kc, gc, mv, a1, a2, a3, a4, a5, a6, a7, a8, a9, a10, a11, a12, a13, a14, a15, a16, a17, a18, a19, a20, a21, a22, a23) 0 1 := by
  refine nm_e (Exists.intro 1 ?_)
  exact br_f (by decide) (br_t (by decide) H)
theorem kr_list1 {post : Int32 → St2 → Prop} (h : a11 1 = 0) (H : ∀ c22 c23, c22 0 = 1 → post 1 (d, o, r, nx, rs, kc, gc, mv, a1, a2, a3, a4, a5, a6, a7, a8, a9, a10, a11, a12, a13, a14, a15, a16, a17, a18, a19, a20, a21, c22, c23)) : wpX_listPlaces post (d, o, r, nx, rs, kc, gc, mv, a1, a2, a3, a4, a5, a6, a7, a8, a9, a10, a11, a12, a13, a14, a15, a16, a17, a18, a19, a20, a21, a22, a23) 1 := by
  refine br_f (by decide) (nm_e (Exists.intro 2 ?_))
  refine br_f (by decide) (br_f (by decide) (nm_r (e' := 0) rfl (And.intro (vp_in_iff.mpr (by decide)) (nm_r (e' := 1) rfl (And.intro (vp_in_iff.mpr (by decide)) (nm_e (nm_r (e' := 1) rfl (And.intro (vp_in_iff.mpr (by decide)) (nm_r (e' := 0) h (Exists.intro 1 ?_))))))))))
  refine br_f (by decide) (br_t rfl ?_)
  unfold wX_listPlaces_106
  refine kr_turn0 ?_
  refine nm_r (e' := 1) rfl ?_
  refine br_f (by decide) (br_t (by decide) ?_)
  exact H _ _ rfl
theorem kr_list2 {post : Int32 → St2 → Prop} (h : a11 1 = 2) (h' : a12 2 = 0) (h'' : a11 2 = 0) (H : ∀ c22 c23, c22 0 = 1 → c22 1 = 2 → post 2 (d, o, r, nx, rs, kc, gc, mv, a1, a2, a3, a4, a5, a6, a7, a8, a9, a10, a11, a12, a13, a14, a15, a16, a17, a18, a19, a20, a21, c22, c23)) : wpX_listPlaces post (d, o, r, nx, rs, kc, gc, mv, a1, a2, a3, a4, a5, a6, a7, a8, a9, a10, a11, a12, a13, a14, a15, a16, a17, a18, a19, a20, a21, a22, a23) 1 := by
  refine br_f (by decide) (nm_e (Exists.intro 3 ?_))
  refine br_f (by decide) (br_f (by decide) (nm_r (e' := 0) rfl (And.intro (vp_in_iff.mpr (by decide)) (nm_r (e' := 1) rfl (And.intro (vp_in_iff.mpr (by decide)) (nm_e (nm_r (e' := 1) rfl (And.intro (vp_in_iff.mpr (by decide)) (nm_r (e' := 2) h (Exists.intro 2 ?_))))))))))
  refine br_f (by decide) (br_f (by decide) (And.intro (vp_in_iff.mpr (by decide)) (nm_e (nm_r (e' := 1) rfl (And.intro (vp_in_iff.mpr (by decide)) (nm_r (e' := 0) h' (nm_r (e' := 1) rfl ?_)))))))
  refine br_f (by decide) (br_t rfl ?_)
  unfold wX_listPlaces_106
  refine kr_turn1 ?_
  refine nm_r (e' := 1) rfl ?_
  refine br_f (by decide) (br_f (by decide) (nm_r (e' := 0) rfl (And.intro (vp_in_iff.mpr (by decide)) (nm_r (e' := 2) rfl (And.intro (vp_in_iff.mpr (by decide)) (nm_e (nm_r (e' := 2) rfl (And.intro (vp_in_iff.mpr (by decide)) (nm_r (e' := 0) h'' (Exists.intro 1 ?_))))))))))
  refine br_f (by decide) (br_t rfl ?_)
  unfold wX_listPlaces_106
  refine kr_turn0 ?_
  refine nm_r (e' := 2) rfl ?_
  refine br_f (by decide) (br_t (by decide) ?_)
  exact H _ _ rfl rfl
theorem kr_node0 {post : Int32 → St2 → Prop} {i : Int32} (H : post 0 (d, o, 0, nx, rs, kc, gc, mv, a1, a2, a3, a4, a5, a6, a7, a8, a9, a10, a11, a12, a13, a14, a15, a16, a17, a18, a19, a20, a21, a22, a23)) : wpX_nodeAt post (d, o, 0, nx, rs, kc, gc, mv, a1, a2, a3, a4, a5, a6, a7, a8, a9, a10, a11, a12, a13, a14, a15, a16, a17, a18, a19, a20, a21, a22, a23) i := by
  unfold wpX_nodeAt
  refine br_t rfl ?_
  exact br_c (fun _ => H) (fun a => br_f a H)
theorem kr_node1 {post : Int32 → St2 → Prop} {i : Int32} (h : a11 1 = 0) (H0 : i = 0 → ∀ v c22 c23, v = 1 → post v (d, o, 1, nx, rs, kc, gc, mv, a1, a2, a3, a4, a5, a6, a7, a8, a9, a10, a11, a12, a13, a14, a15, a16, a17, a18, a19, a20, a21, c22, c23)) (H1 : ¬ i = 0 → ∀ c22 c23, post 0 (d, o, 1, nx, rs, kc, gc, mv, a1, a2, a3, a4, a5, a6, a7, a8, a9, a10, a11, a12, a13, a14, a15, a16, a17, a18, a19, a20, a21, c22, c23)) : wpX_nodeAt post (d, o, 1, nx, rs, kc, gc, mv, a1, a2, a3, a4, a5, a6, a7, a8, a9, a10, a11, a12, a13, a14, a15, a16, a17, a18, a19, a20, a21, a22, a23) i := by
  unfold wpX_nodeAt
  by_cases e : i = 0
  · subst e
    exact kr_list1 h (fun c22 c23 e0 => br_f (by decide) (br_t (by decide) (And.intro (vp_in_iff.mpr (by decide)) (H0 rfl _ c22 c23 e0))))
  · exact kr_list1 h (fun c22 c23 _ => br_c (fun _ => H1 e c22 c23) (fun a => br_f (fun b => e (kr_lt1 a b)) (H1 e c22 c23)))
theorem kr_node2 {post : Int32 → St2 → Prop} {i : Int32} (h : a11 1 = 2) (h' : a12 2 = 0) (h'' : a11 2 = 0) (H0 : i = 0 → ∀ v c22 c23, v = 1 → post v (d, o, 1, nx, rs, kc, gc, mv, a1, a2, a3, a4, a5, a6, a7, a8, a9, a10, a11, a12, a13, a14, a15, a16, a17, a18, a19, a20, a21, c22, c23)) (H1 : i = 1 → ∀ v c22 c23, v = 2 → post v (d, o, 1, nx, rs, kc, gc, mv, a1, a2, a3, a4, a5, a6, a7, a8, a9, a10, a11, a12, a13, a14, a15, a16, a17, a18, a19, a20, a21, c22, c23)) (H2 : ¬ i = 0 → ¬ i = 1 → ∀ c22 c23, post 0 (d, o, 1, nx, rs, kc, gc, mv, a1, a2, a3, a4, a5, a6, a7, a8, a9, a10, a11, a12, a13, a14, a15, a16, a17, a18, a19, a20, a21, c22, c23)) : wpX_nodeAt post (d, o, 1, nx, rs, kc, gc, mv, a1, a2, a3, a4, a5, a6, a7, a8, a9, a10, a11, a12, a13, a14, a15, a16, a17, a18, a19, a20, a21, a22, a23) i := by
  unfold wpX_nodeAt
  by_cases e : i = 0
  · subst e
    exact kr_list2 h h' h'' (fun c22 c23 e0 _ => br_f (by decide) (br_t (by decide) (And.intro (vp_in_iff.mpr (by decide)) (H0 rfl _ c22 c23 e0))))
  · by_cases f : i = 1
    · subst f
      exact kr_list2 h h' h'' (fun c22 c23 _ e1 => br_f (by decide) (br_t (by decide) (And.intro (vp_in_iff.mpr (by decide)) (H1 rfl _ c22 c23 e1))))
    · exact kr_list2 h h' h'' (fun c22 c23 _ _ => br_c (fun _ => H2 e f c22 c23) (fun a => br_f (fun b => f (kr_lt2 a b e)) (H2 e f c22 c23)))
theorem kr_kind0 {post : Int32 → St2 → Prop} {i : Int32} (H : post (-4) (d, o, 0, nx, rs, kc, gc, mv, a1, a2, a3, a4, a5, a6, a7, a8, a9, a10, a11, a12, a13, a14, a15, a16, a17, a18, a19, a20, a21, a22, a23)) : wpX_kind post (d, o, 0, nx, rs, kc, gc, mv, a1, a2, a3, a4, a5, a6, a7, a8, a9, a10, a11, a12, a13, a14, a15, a16, a17, a18, a19, a20, a21, a22, a23) i := by
  unfold wpX_kind
  exact kr_node0 (br_t rfl H)
theorem kr_kind1 {post : Int32 → St2 → Prop} {i : Int32} (h : a11 1 = 0) (H0 : i = 0 → ∀ c22 c23, post (10 * a6 1 + a7 1) (d, o, 1, nx, rs, kc, gc, mv, a1, a2, a3, a4, a5, a6, a7, a8, a9, a10, a11, a12, a13, a14, a15, a16, a17, a18, a19, a20, a21, c22, c23)) (H1 : ¬ i = 0 → ∀ c22 c23, post (-4) (d, o, 1, nx, rs, kc, gc, mv, a1, a2, a3, a4, a5, a6, a7, a8, a9, a10, a11, a12, a13, a14, a15, a16, a17, a18, a19, a20, a21, c22, c23)) : wpX_kind post (d, o, 1, nx, rs, kc, gc, mv, a1, a2, a3, a4, a5, a6, a7, a8, a9, a10, a11, a12, a13, a14, a15, a16, a17, a18, a19, a20, a21, a22, a23) i := by
  unfold wpX_kind
  refine kr_node1 h (fun e v c22 c23 ev => ?_) (fun e c22 c23 => br_t rfl (H1 e c22 c23))
  subst ev
  exact br_f (by decide) (And.intro (vp_in_iff.mpr (by decide)) (And.intro (vp_in_iff.mpr (by decide)) (H0 e c22 c23)))
theorem kr_kind2 {post : Int32 → St2 → Prop} {i : Int32} (h : a11 1 = 2) (h' : a12 2 = 0) (h'' : a11 2 = 0) (H0 : i = 0 → ∀ c22 c23, post (10 * a6 1 + a7 1) (d, o, 1, nx, rs, kc, gc, mv, a1, a2, a3, a4, a5, a6, a7, a8, a9, a10, a11, a12, a13, a14, a15, a16, a17, a18, a19, a20, a21, c22, c23)) (H1 : i = 1 → ∀ c22 c23, post (10 * a6 2 + a7 2) (d, o, 1, nx, rs, kc, gc, mv, a1, a2, a3, a4, a5, a6, a7, a8, a9, a10, a11, a12, a13, a14, a15, a16, a17, a18, a19, a20, a21, c22, c23)) (H2 : ¬ i = 0 → ¬ i = 1 → ∀ c22 c23, post (-4) (d, o, 1, nx, rs, kc, gc, mv, a1, a2, a3, a4, a5, a6, a7, a8, a9, a10, a11, a12, a13, a14, a15, a16, a17, a18, a19, a20, a21, c22, c23)) : wpX_kind post (d, o, 1, nx, rs, kc, gc, mv, a1, a2, a3, a4, a5, a6, a7, a8, a9, a10, a11, a12, a13, a14, a15, a16, a17, a18, a19, a20, a21, a22, a23) i := by
  unfold wpX_kind
  refine kr_node2 h h' h'' (fun e v c22 c23 ev => ?_) (fun e v c22 c23 ev => ?_) (fun e f c22 c23 => br_t rfl (H2 e f c22 c23))
  · subst ev
    exact br_f (by decide) (And.intro (vp_in_iff.mpr (by decide)) (And.intro (vp_in_iff.mpr (by decide)) (H0 e c22 c23)))
  · subst ev
    exact br_f (by decide) (And.intro (vp_in_iff.mpr (by decide)) (And.intro (vp_in_iff.mpr (by decide)) (H1 e c22 c23)))
theorem kr_place2 {post : Int32 → St2 → Prop} {x : Int32} (h : a11 1 = 2) (h' : a12 2 = 0) (h'' : a11 2 = 0) (hx : x = 1) (H : ∀ c22 c23, post 0 (d, o, 1, nx, rs, kc, gc, mv, a1, a2, a3, a4, a5, a6, a7, a8, a9, a10, a11, a12, a13, a14, a15, a16, a17, a18, a19, a20, a21, c22, c23)) : wpX_placeOf post (d, o, 1, nx, rs, kc, gc, mv, a1, a2, a3, a4, a5, a6, a7, a8, a9, a10, a11, a12, a13, a14, a15, a16, a17, a18, a19, a20, a21, a22, a23) x := by
  unfold wpX_placeOf
  refine kr_list2 h h' h'' (fun c22 c23 e0 _ => Exists.intro 1 ?_)
  exact br_f (by decide) (And.intro (vp_in_iff.mpr (by decide)) (br_t (e0.trans hx.symm) (H c22 c23)))
theorem kr_parent0 {post : Int32 → St2 → Prop} {i : Int32} (H : post (-4) (d, o, 0, nx, rs, kc, gc, mv, a1, a2, a3, a4, a5, a6, a7, a8, a9, a10, a11, a12, a13, a14, a15, a16, a17, a18, a19, a20, a21, a22, a23)) : wpX_parent post (d, o, 0, nx, rs, kc, gc, mv, a1, a2, a3, a4, a5, a6, a7, a8, a9, a10, a11, a12, a13, a14, a15, a16, a17, a18, a19, a20, a21, a22, a23) i := by
  unfold wpX_parent
  exact kr_node0 (br_t rfl H)
theorem kr_parent1 {post : Int32 → St2 → Prop} {i : Int32} (h : a11 1 = 0) (hu : a10 1 = 0) (H : ∀ c22 c23, post (-4) (d, o, 1, nx, rs, kc, gc, mv, a1, a2, a3, a4, a5, a6, a7, a8, a9, a10, a11, a12, a13, a14, a15, a16, a17, a18, a19, a20, a21, c22, c23)) : wpX_parent post (d, o, 1, nx, rs, kc, gc, mv, a1, a2, a3, a4, a5, a6, a7, a8, a9, a10, a11, a12, a13, a14, a15, a16, a17, a18, a19, a20, a21, a22, a23) i := by
  unfold wpX_parent
  refine kr_node1 h (fun e v c22 c23 ev => ?_) (fun e c22 c23 => br_t rfl (H c22 c23))
  subst ev
  exact br_f (by decide) (And.intro (vp_in_iff.mpr (by decide)) (br_t hu (H c22 c23)))
theorem kr_parent2 {post : Int32 → St2 → Prop} {i : Int32} (h : a11 1 = 2) (h' : a12 2 = 0) (h'' : a11 2 = 0) (hu : a10 1 = 0) (hu' : a10 2 = 1) (H1 : i = 1 → ∀ c22 c23, post 0 (d, o, 1, nx, rs, kc, gc, mv, a1, a2, a3, a4, a5, a6, a7, a8, a9, a10, a11, a12, a13, a14, a15, a16, a17, a18, a19, a20, a21, c22, c23)) (H2 : ¬ i = 1 → ∀ c22 c23, post (-4) (d, o, 1, nx, rs, kc, gc, mv, a1, a2, a3, a4, a5, a6, a7, a8, a9, a10, a11, a12, a13, a14, a15, a16, a17, a18, a19, a20, a21, c22, c23)) : wpX_parent post (d, o, 1, nx, rs, kc, gc, mv, a1, a2, a3, a4, a5, a6, a7, a8, a9, a10, a11, a12, a13, a14, a15, a16, a17, a18, a19, a20, a21, a22, a23) i := by
  unfold wpX_parent
  refine kr_node2 h h' h'' (fun e v c22 c23 ev => ?_) (fun e v c22 c23 ev => ?_) (fun e f c22 c23 => br_t rfl (H2 f c22 c23))
  · subst ev
    exact br_f (by decide) (And.intro (vp_in_iff.mpr (by decide)) (br_t hu (H2 (by rw [e]; decide) c22 c23)))
  · subst ev
    refine br_f (by decide) (And.intro (vp_in_iff.mpr (by decide)) (br_f (fun z => absurd (hu'.symm.trans z) (by decide)) (And.intro (vp_in_iff.mpr (by decide)) ?_)))
    exact kr_place2 h h' h'' hu' (fun c c' => H1 e c c')
end
end
section
/-! showing a draft of one node, or of a node and its child, where nothing is shown yet -/
section
variable {d o r nx rs kc gc mv : Int32} {a1 a2 a3 a4 a5 a6 a7 a8 a9 a10 a11 a12 a13 a14 a15 a16 a17 a18 a19 a20 a21 a22 a23 : Nat → Int32}
theorem kr_make {post : Int32 → St2 → Prop} {x1 : Int32} (c : Nat) (hx : vp_in x1 16) (hc0 : 0 < c) (hc : c ≤ 32) (h0 : a5 c = 0) (hu : ∀ j, 0 < j → j < c → ¬ a5 j = 0)
    (H : post (nI c) (d, o, r, nx + 1, rs, kc, gc, mv, a1, a2, a3, a4, upd a5 c 1, upd a6 c (a1 x1.toNatClampNeg), upd a7 c (a2 x1.toNatClampNeg), upd a8 c nx, upd a9 c 0, upd a10 c 0, upd a11 c 0, a12, a13, a14, a15, a16, a17, a18, a19, a20, a21, a22, a23)) : wpX_makeNode post (d, o, r, nx, rs, kc, gc, mv, a1, a2, a3, a4, a5, a6, a7, a8, a9, a10, a11, a12, a13, a14, a15, a16, a17, a18, a19, a20, a21, a22, a23) x1 := by
  have key := pk_loopD (fun n i s => wX_makeNode_5 post x1 d o r nx rs kc gc mv a1 a2 a3 a4 a5 a6 a7 a8 a9 a10 a11 a12 a13 a14 a15 a16 a17 a18 a19 a20 a21 a22 a23 n s (nI i)) (fun i s => i ≤ 32 ∧ (i < c → s = nI c)) ?_ ?_ 32 1 ⟨by omega, fun z => by omega⟩
  · exact Exists.intro 33 key
  · intro n s hs
    have e := hs.2 hc0
    subst e
    have hk : (nI c).toNatClampNeg = c := nI_clamp (by omega)
    have hv : vp_in (nI c) 33 := vp_in_nI (by omega) (by omega)
    refine br_t (by decide) ?_
    rw [hk]
    exact And.intro hv (nm_e (And.intro hx (And.intro hv (nm_e (And.intro hx (And.intro hv (nm_e (And.intro hv (nm_e (nm_e (And.intro hv (nm_e (And.intro hv (nm_e (And.intro hv (nm_e H)))))))))))))))) 
  · intro n i s hs hw
    have h32 := hs.1
    have hk : (nI (i + 1)).toNatClampNeg = i + 1 := nI_clamp (by omega)
    refine br_f (nI_nle (by omega) (by omega)) (And.intro (vp_in_nI (by omega) (by omega)) ?_)
    rw [hk]
    refine br_c (fun z => nm_r (pk_m1 i) (hw _ ⟨by omega, fun hi => ?_⟩)) (fun z => nm_r (pk_m1 i) (hw _ ⟨by omega, fun hi => ?_⟩))
    · by_cases g : i + 1 < c
      · exact absurd z (hu (i + 1) (by omega) g)
      · rw [show i + 1 = c by omega]
    · by_cases g : i + 1 < c
      · exact hs.2 g
      · exact absurd (by rw [show i + 1 = c by omega]; exact h0) z
theorem kr_match10 {post : St2 → Prop} (h15 : a15 0 = 0) (H : post (1, o, r, nx, rs, kc, gc, mv, a1, a2, a3, a4, a5, a6, a7, a8, a9, a10, a11, a12, a13, a14, a15, a16, a17, a18, a19, a20, a21, a22, a23)) : wpX_matchChildren post (1, o, r, nx, rs, kc, gc, mv, a1, a2, a3, a4, a5, a6, a7, a8, a9, a10, a11, a12, a13, a14, a15, a16, a17, a18, a19, a20, a21, a22, a23) 0 := by
  refine And.intro (vp_in_iff.mpr (by decide)) (nm_e (And.intro (vp_in_iff.mpr (by decide)) (nm_r (e' := 0) h15 (br_t rfl (nm_r (e' := 1) rfl (Exists.intro 1 ?_))))))
  exact br_t (by decide) (br_t rfl H)
theorem kr_match21 {post : St2 → Prop} (h15 : a15 1 = 0) (H : post (2, o, r, nx, rs, kc, gc, mv, a1, a2, a3, a4, a5, a6, a7, a8, a9, a10, a11, a12, a13, a14, a15, a16, a17, a18, a19, a20, a21, a22, a23)) : wpX_matchChildren post (2, o, r, nx, rs, kc, gc, mv, a1, a2, a3, a4, a5, a6, a7, a8, a9, a10, a11, a12, a13, a14, a15, a16, a17, a18, a19, a20, a21, a22, a23) 1 := by
  refine And.intro (vp_in_iff.mpr (by decide)) (nm_e (And.intro (vp_in_iff.mpr (by decide)) (nm_r (e' := 0) h15 (br_t rfl (nm_r (e' := 2) rfl (Exists.intro 1 ?_))))))
  exact br_t (by decide) (br_t rfl H)
theorem kr_match20 {post : St2 → Prop} (h3 : a3 1 = 0) (h15 : a15 0 = 0) (H : post (2, o, r, nx, rs, kc, gc, mv, a1, a2, a3, a4, a5, a6, a7, a8, a9, a10, a11, a12, a13, upd a14 1 0, upd a15 1 (vp_nar .boolean 0), a16, a17, a18, a19, a20, a21, a22, a23)) : wpX_matchChildren post (2, o, r, nx, rs, kc, gc, mv, a1, a2, a3, a4, a5, a6, a7, a8, a9, a10, a11, a12, a13, a14, a15, a16, a17, a18, a19, a20, a21, a22, a23) 0 := by
  refine And.intro (vp_in_iff.mpr (by decide)) (nm_e (And.intro (vp_in_iff.mpr (by decide)) (nm_r (e' := 0) h15 (br_t rfl (nm_r (e' := 1) rfl (Exists.intro 2 ?_))))))
  refine br_f (by decide) (And.intro (vp_in_iff.mpr (by decide)) (br_t h3 (br_t rfl ?_)))
  refine br_t rfl ?_
  refine And.intro (vp_in_iff.mpr (by decide)) (nm_e (And.intro (vp_in_iff.mpr (by decide)) (br_t rfl ?_)))
  refine And.intro (vp_in_iff.mpr (by decide)) (nm_e (And.intro (vp_in_iff.mpr (by decide)) (br_t rfl (nm_r (e' := 2) rfl ?_))))
  exact br_t (by decide) (br_t rfl H)
theorem kr_arr10 {post : St2 → Prop} (H : post (1, o, r, nx, rs, kc, gc, mv, a1, a2, a3, a4, a5, a6, a7, a8, a9, a10, a11, a12, a13, a14, a15, a16, a17, a18, a19, a20, a21, a22, a23)) : wpX_arrange post (1, o, r, nx, rs, kc, gc, mv, a1, a2, a3, a4, a5, a6, a7, a8, a9, a10, a11, a12, a13, a14, a15, a16, a17, a18, a19, a20, a21, a22, a23) 0 := by
  refine And.intro (vp_in_iff.mpr (by decide)) (nm_e (nm_r (e' := 1) rfl (Exists.intro 1 ?_)))
  exact br_t (by decide) H
theorem kr_arr21 {post : St2 → Prop} (H : post (2, o, r, nx, rs, kc, gc, mv, a1, a2, a3, a4, a5, a6, a7, a8, a9, a10, a11, a12, a13, a14, a15, a16, a17, a18, a19, a20, a21, a22, a23)) : wpX_arrange post (2, o, r, nx, rs, kc, gc, mv, a1, a2, a3, a4, a5, a6, a7, a8, a9, a10, a11, a12, a13, a14, a15, a16, a17, a18, a19, a20, a21, a22, a23) 1 := by
  refine And.intro (vp_in_iff.mpr (by decide)) (nm_e (nm_r (e' := 2) rfl (Exists.intro 1 ?_)))
  exact br_t (by decide) H
theorem kr_link19 {post : St2 → Prop} {z : Int32} (hz : z = 0) (H : post (d, o, r, nx, rs, kc, gc, mv, a1, a2, a3, a4, a5, a6, a7, a8, a9, upd a10 2 1, upd a11 1 2, upd a12 2 0, upd a13 2 0, a14, a15, a16, a17, a18, a19, a20, a21, a22, a23)) : wX_link_19 post 2 1 0 z d o r nx rs kc gc mv a1 a2 a3 a4 a5 a6 a7 a8 a9 a10 a11 a12 a13 a14 a15 a16 a17 a18 a19 a20 a21 a22 a23 := by
  subst hz
  refine And.intro (vp_in_iff.mpr (by decide)) (nm_e (And.intro (vp_in_iff.mpr (by decide)) (nm_e (And.intro (vp_in_iff.mpr (by decide)) (nm_e (br_t rfl (And.intro (vp_in_iff.mpr (by decide)) (nm_e ?_))))))))
  exact br_t rfl H
theorem kr_arr20 {post : St2 → Prop} (h3 : a3 1 = 0) (h15 : a15 1 = 0) (h14 : a14 0 = 1) (h14' : a14 1 = 2) (h11 : a11 1 = 0) (H : post (2, o, r, nx, rs, kc, gc, mv, a1, a2, a3, a4, a5, a6, a7, a8, a9, upd a10 2 1, upd a11 1 2, upd a12 2 0, upd a13 2 0, a14, a15, a16, a17, a18, a19, a20, a21, a22, a23)) : wpX_arrange post (2, o, r, nx, rs, kc, gc, mv, a1, a2, a3, a4, a5, a6, a7, a8, a9, a10, a11, a12, a13, a14, a15, a16, a17, a18, a19, a20, a21, a22, a23) 0 := by
  refine And.intro (vp_in_iff.mpr (by decide)) (nm_r (e' := 1) h14 (nm_r (e' := 1) rfl (Exists.intro 2 ?_)))
  refine br_f (by decide) (And.intro (vp_in_iff.mpr (by decide)) (br_t h3 (And.intro (vp_in_iff.mpr (by decide)) (nm_r (e' := 2) h14' (And.intro (vp_in_iff.mpr (by decide)) (br_t h15 ?_))))))
  refine And.intro (vp_in_iff.mpr (by decide)) (br_t h15 ?_)
  refine br_t rfl (And.intro (vp_in_iff.mpr (by decide)) ?_)
  refine kr_link19 h11 ?_
  refine nm_r (e' := 2) rfl ?_
  exact br_t (by decide) H
theorem kr_show0 {post : Int32 → St2 → Prop} (H : post (-4) (0, o, r, nx, rs, kc, gc, mv, a1, a2, a3, a4, a5, a6, a7, a8, a9, a10, a11, a12, a13, a14, a15, a16, a17, a18, a19, a20, a21, a22, a23)) : wpX_show post (0, o, r, nx, rs, kc, gc, mv, a1, a2, a3, a4, a5, a6, a7, a8, a9, a10, a11, a12, a13, a14, a15, a16, a17, a18, a19, a20, a21, a22, a23) := br_t rfl H
theorem kr_show1 {post : Int32 → St2 → Prop} {t k : Int32} (h1 : a1 0 = t) (h2 : a2 0 = k)
    (H : ∀ nx rs kc gc mv c1 c2 c3 c4 c5 c6 c7 c8 c9 c10 c11 c12 c13 c14 c15 c16 c17 c18 c19 c20 c21 c22 c23, c6 1 = t → c7 1 = k → c10 1 = 0 → c11 1 = 0 → post 1 (0, 0, 1, nx, rs, kc, gc, mv, c1, c2, c3, c4, c5, c6, c7, c8, c9, c10, c11, c12, c13, c14, c15, c16, c17, c18, c19, c20, c21, c22, c23)) :
    wpX_show post (1, 0, 0, 0, 0, 0, 0, 0, a1, a2, a3, a4, (fun _ => 0), (fun _ => 0), (fun _ => 0), (fun _ => 0), (fun _ => 0), (fun _ => 0), (fun _ => 0), (fun _ => 0), (fun _ => 0), (fun _ => 0), (fun _ => 0), (fun _ => 0), (fun _ => 0), (fun _ => 0), (fun _ => 0), (fun _ => 0), (fun _ => 0), (fun _ => 0), (fun _ => 0)) := by
  refine br_f (by decide) (br_t (by decide) (br_t rfl ?_))
  refine And.intro (vp_in_iff.mpr (by decide)) (nm_e (nm_e (br_t rfl (br_t rfl (Exists.intro 2 ?_)))))
  refine br_f (by decide) (And.intro (vp_in_iff.mpr (by decide)) (br_t rfl ?_))
  refine kr_make 1 (vp_in_iff.mpr (by decide)) (by decide) (by decide) rfl (fun j a b => absurd a (by omega)) ?_
  refine And.intro (vp_in_iff.mpr (by decide)) (nm_e (nm_r (e' := 1) rfl ?_))
  unfold wX_show_168
  refine kr_match10 rfl ?_
  refine nm_r (e' := 1) rfl ?_
  refine br_t (by decide) (nm_r (e' := 1) rfl (And.intro (vp_in_iff.mpr (by decide)) (nm_e (Exists.intro 2 ?_))))
  refine br_f (by decide) ?_
  refine kr_arr10 ?_
  refine nm_r (e' := 1) rfl ?_
  refine br_t (by decide) ?_
  exact H _ _ _ _ _ _ _ _ _ _ _ _ _ _ _ _ _ _ _ _ _ _ _ _ _ _ _ _ h1 h2 rfl rfl
theorem kr_show2 {post : Int32 → St2 → Prop} {t k u l : Int32} (h1 : a1 0 = t) (h2 : a2 0 = k) (h1' : a1 1 = u) (h2' : a2 1 = l) (h3 : a3 1 = 0)
    (H : ∀ nx rs kc gc mv c1 c2 c3 c4 c5 c6 c7 c8 c9 c10 c11 c12 c13 c14 c15 c16 c17 c18 c19 c20 c21 c22 c23, c6 1 = t → c7 1 = k → c6 2 = u → c7 2 = l → c10 1 = 0 → c10 2 = 1 → c11 1 = 2 → c11 2 = 0 → c12 2 = 0 → post 2 (0, 0, 1, nx, rs, kc, gc, mv, c1, c2, c3, c4, c5, c6, c7, c8, c9, c10, c11, c12, c13, c14, c15, c16, c17, c18, c19, c20, c21, c22, c23)) :
    wpX_show post (2, 0, 0, 0, 0, 0, 0, 0, a1, a2, a3, a4, (fun _ => 0), (fun _ => 0), (fun _ => 0), (fun _ => 0), (fun _ => 0), (fun _ => 0), (fun _ => 0), (fun _ => 0), (fun _ => 0), (fun _ => 0), (fun _ => 0), (fun _ => 0), (fun _ => 0), (fun _ => 0), (fun _ => 0), (fun _ => 0), (fun _ => 0), (fun _ => 0), (fun _ => 0)) := by
  refine br_f (by decide) (br_t (by decide) (br_t rfl ?_))
  refine And.intro (vp_in_iff.mpr (by decide)) (nm_e (nm_e (br_t rfl (br_t rfl (Exists.intro 3 ?_)))))
  refine br_f (by decide) (And.intro (vp_in_iff.mpr (by decide)) (br_t rfl ?_))
  refine kr_make 1 (vp_in_iff.mpr (by decide)) (by decide) (by decide) rfl (fun j a b => absurd a (by omega)) ?_
  refine And.intro (vp_in_iff.mpr (by decide)) (nm_e (nm_r (e' := 1) rfl ?_))
  unfold wX_show_168
  refine kr_match20 h3 rfl ?_
  refine nm_r (e' := 1) rfl ?_
  refine br_f (by decide) (And.intro (vp_in_iff.mpr (by decide)) (br_t rfl ?_))
  refine kr_make 2 (vp_in_iff.mpr (by decide)) (by decide) (by decide) rfl (fun j a b => ?_) ?_
  · have e : j = 1 := by omega
    subst e
    decide
  refine And.intro (vp_in_iff.mpr (by decide)) (nm_e (nm_r (e' := 2) rfl ?_))
  unfold wX_show_168
  refine kr_match21 rfl ?_
  refine nm_r (e' := 2) rfl ?_
  refine br_t (by decide) (nm_r (e' := 1) rfl (And.intro (vp_in_iff.mpr (by decide)) (nm_e (Exists.intro 3 ?_))))
  refine br_f (by decide) ?_
  refine kr_arr20 h3 rfl rfl rfl rfl ?_
  refine nm_r (e' := 1) rfl ?_
  refine br_f (by decide) ?_
  refine kr_arr21 ?_
  refine nm_r (e' := 2) rfl ?_
  refine br_t (by decide) ?_
  exact H _ _ _ _ _ _ _ _ _ _ _ _ _ _ _ _ _ _ _ _ _ _ _ _ _ _ _ _ h1 h2 h1' h2' rfl rfl rfl rfl rfl
end
end
section
/-! what the law says of the answers; the law -/
section
variable {mc ms kc ks : Nat} {x0 x1 x2 x3 x4 ki pa : Int32}
theorem kr_289 (hp : pa = -4) : wL_lawOf_289 (fun r _ => r = 1) mc ms pa kc ks := by
  subst hp
  exact br_t rfl rfl
theorem kr_268n {s z : Int32} (hs : ¬ (x4 = 1 ∧ s = 2)) (hz : ki = z) (hp : pa = -4) : wL_lawOf_268 (fun r _ => r = 1) mc ms x4 pa s z ki kc ks :=
  br_t hz (br_c (fun a => br_f (fun b => hs ⟨a, b⟩) (kr_289 hp)) (fun _ => kr_289 hp))
theorem kr_245n {s : Int32} (hs : ¬ (x4 = 1 ∧ s = 2)) (hz : ki = -4) (hp : pa = -4) : wL_lawOf_245 (fun r _ => r = 1) mc ms x2 x3 x4 pa s ki kc ks :=
  br_c (fun a => br_f (fun b => hs ⟨a, b⟩) (kr_268n hs hz hp)) (fun _ => kr_268n hs hz hp)
theorem kr_245y (h4 : x4 = 1) (hz : ki = 10 * x2 + x3) (hp : pa = 0) : wL_lawOf_245 (fun r _ => r = 1) mc ms x2 x3 x4 pa 2 ki kc ks :=
  br_t h4 (br_t rfl (br_t hz (br_t h4 (br_t rfl (br_t hp rfl)))))
theorem kr_f00 (hk : ki = -4) (hp : pa = -4) : wL_lawOf_109 (fun r _ => r = 1) mc ms x0 x1 x2 x3 x4 (-1) (-1) (-4) (-4) ki pa 0 0 kc ks := by
  refine br_t rfl (br_t rfl (nm_r (e' := 0) rfl (br_t rfl ?_)))
  refine br_t rfl (br_t rfl (br_t rfl (br_t rfl (br_t rfl (br_t rfl (br_t rfl ?_))))))
  have R := kr_245n (mc := mc) (ms := ms) (kc := kc) (ks := ks) (x2 := x2) (x3 := x3) (x4 := x4) (s := 0) (fun z => absurd z.2 (by decide)) hk hp
  exact br_t rfl (br_c (fun _ => br_t (by decide) R) (fun _ => R))
theorem kr_f01 (h0 : x4 = 0 → ki = 10 * x2 + x3) (h1 : ¬ x4 = 0 → ki = -4) (hp : pa = -4) : wL_lawOf_109 (fun r _ => r = 1) mc ms x0 x1 x2 x3 x4 (-1) 0 (-4) 1 ki pa 0 1 kc ks := by
  refine br_t rfl (br_f (by decide) (nm_r (e' := 1) rfl (br_t rfl ?_)))
  refine br_t rfl (br_t rfl (br_f (by decide) (br_t rfl (br_t rfl (br_t rfl (br_t rfl (br_f (by decide) ?_)))))))
  have n : ¬ (x4 = 1 ∧ (1 : Int32) = 2) := fun z => absurd z.2 (by decide)
  exact br_t rfl (br_c (fun a => br_f (by decide) (kr_268n n (h0 a) hp)) (fun a => kr_245n n (h1 a) hp))
theorem kr_f10 (h0 : x4 = 0 → ki = 10 * x0 + x1) (h1 : ¬ x4 = 0 → ki = -4) (hp : pa = -4) : wL_lawOf_109 (fun r _ => r = 1) mc ms x0 x1 x2 x3 x4 1 (-1) 0 1 ki pa 1 0 kc ks := by
  refine br_f (by decide) (br_t rfl (nm_r (e' := 1) rfl (br_f (by decide) ?_)))
  refine br_f (by decide) (br_t rfl (br_t rfl (br_t rfl (br_f (by decide) (br_t rfl (br_f (by decide) ?_))))))
  have n : ¬ (x4 = 1 ∧ (1 : Int32) = 2) := fun z => absurd z.2 (by decide)
  exact br_t rfl (br_c (fun a => br_f (by decide) (kr_268n n (h0 a) hp)) (fun a => kr_245n n (h1 a) hp))
theorem kr_f11 (h0 : x4 = 0 → ki = 10 * x0 + x1) (h1 : x4 = 1 → ki = 10 * x2 + x3) (h2 : ¬ x4 = 0 → ¬ x4 = 1 → ki = -4) (p1 : x4 = 1 → pa = 0) (p2 : ¬ x4 = 1 → pa = -4) : wL_lawOf_109 (fun r _ => r = 1) mc ms x0 x1 x2 x3 x4 1 1 0 2 ki pa 1 1 kc ks := by
  refine br_f (by decide) (br_f (by decide) (nm_r (e' := 2) rfl (br_f (by decide) ?_)))
  refine br_f (by decide) (br_t rfl (br_f (by decide) (br_f (by decide) (br_t rfl (br_f (by decide) (br_t rfl (br_f (by decide) ?_)))))))
  refine br_t rfl (br_c (fun a => br_f (by decide) ?_) (fun a => ?_))
  · have n : ¬ x4 = 1 := by rw [a]; decide
    exact kr_268n (fun z => n z.1) (h0 a) (p2 n)
  · by_cases b : x4 = 1
    · exact kr_245y b (h1 b) (p1 b)
    · exact kr_245n (fun z => b z.1) (h2 a b) (p2 b)
end
theorem kr_law (t k u l i : Int32) : wpL_lawOf (fun r _ => r = 1) 24 614 () t k u l i := by
  refine And.intro (by decide) (And.intro (by decide) (Exists.intro 23 (Exists.intro 583 (And.intro (by decide) (And.intro (by decide) ?_)))))
  refine kr_init (by decide) (by decide) ?_
  by_cases h1 : kr_ok t k
  · refine kr_open0 h1 ?_
    by_cases h2 : kr_ok u l
    · refine kr_leaf1 h2 rfl rfl (fun p hp => ?_)
      refine kr_close1 ?_
      refine kr_show2 (t := t) (k := k) (u := u) (l := l) rfl rfl rfl rfl hp ?_
      intro nx rs kc gc mv c1 c2 c3 c4 c5 c6 c7 c8 c9 c10 c11 c12 c13 c14 c15 c16 c17 c18 c19 c20 c21 c22 c23 h6 h7 h6' h7' hu hu' h11 h11' h12
      refine kr_kind2 h11 h12 h11' (fun e c c' => ?_) (fun e c c' => ?_) (fun e f c c' => ?_)
      all_goals refine kr_parent2 h11 h12 h11' hu hu' (fun g b b' => ?_) (fun g b b' => ?_)
      all_goals refine kr_yes h1 ?_
      all_goals refine kr_yes h2 ?_
      · exact absurd (e.symm.trans g) (by decide)
      · exact kr_f11 (fun _ => by rw [h6, h7]) (fun z => absurd z g) (fun z => absurd e z) (fun z => absurd z g) (fun _ => rfl)
      · exact kr_f11 (fun z => absurd (z.symm.trans e) (by decide)) (fun _ => by rw [h6', h7']) (fun _ z => absurd e z) (fun _ => rfl) (fun z => absurd e z)
      · exact absurd e g
      · exact absurd g f
      · exact kr_f11 (fun z => absurd z e) (fun z => absurd z f) (fun _ _ => rfl) (fun z => absurd z f) (fun _ => rfl)
    · refine kr_leaf_bad h2 ?_
      refine kr_close1 ?_
      refine kr_show1 (t := t) (k := k) rfl rfl ?_
      intro nx rs kc gc mv c1 c2 c3 c4 c5 c6 c7 c8 c9 c10 c11 c12 c13 c14 c15 c16 c17 c18 c19 c20 c21 c22 c23 h6 h7 hu h11
      refine kr_kind1 h11 (fun e c c' => ?_) (fun e c c' => ?_)
      all_goals refine kr_parent1 h11 hu (fun b b' => ?_)
      all_goals refine kr_yes h1 ?_
      all_goals refine kr_no h2 ?_
      · exact kr_f10 (fun _ => by rw [h6, h7]) (fun z => absurd e z) rfl
      · exact kr_f10 (fun z => absurd z e) (fun _ => rfl) rfl
  · refine kr_open_bad h1 ?_
    by_cases h2 : kr_ok u l
    · refine kr_leaf0 h2 ?_
      refine kr_close0 ?_
      refine kr_show1 (t := u) (k := l) rfl rfl ?_
      intro nx rs kc gc mv c1 c2 c3 c4 c5 c6 c7 c8 c9 c10 c11 c12 c13 c14 c15 c16 c17 c18 c19 c20 c21 c22 c23 h6 h7 hu h11
      refine kr_kind1 h11 (fun e c c' => ?_) (fun e c c' => ?_)
      all_goals refine kr_parent1 h11 hu (fun b b' => ?_)
      all_goals refine kr_no h1 ?_
      all_goals refine kr_yes h2 ?_
      · exact kr_f01 (fun _ => by rw [h6, h7]) (fun z => absurd e z) rfl
      · exact kr_f01 (fun z => absurd z e) (fun _ => rfl) rfl
    · refine kr_leaf_bad h2 ?_
      refine kr_close0 ?_
      refine kr_show0 ?_
      refine kr_kind0 ?_
      refine kr_parent0 ?_
      refine kr_no h1 ?_
      refine kr_no h2 ?_
      exact kr_f00 rfl rfl
theorem i_vc (xs : Nat → Int32) (L : Nat) (hL : L ≤ 5) : wpL_law (fun r => r = 1) L xs := by
  refine kr_cell hL 0 (by decide) (fun t => ?_)
  refine kr_cell hL 1 (by decide) (fun k => ?_)
  refine kr_cell hL 2 (by decide) (fun u => ?_)
  refine kr_cell hL 3 (by decide) (fun l => ?_)
  refine kr_cell hL 4 (by decide) (fun i => ?_)
  exact Exists.intro 24 (Exists.intro 614 (And.intro (by decide) (And.intro (by decide) (kr_law t k u l i))))
end
