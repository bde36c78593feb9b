section
theorem pa_c0 : Int32.toNatClampNeg 0 = 0 := rfl
theorem pa_c1 : Int32.toNatClampNeg 1 = 1 := rfl
theorem pa_c3 : Int32.toNatClampNeg 3 = 3 := rfl
/-- the need of unit 1 applies: its kind k, the environment's bits b -/
def pa_on (k b : Int32) : Prop := ((k >>> ((3 : Int32) &&& 31)) &&& 3) = 0 ∨ ((b >>> ((((k >>> ((3 : Int32) &&& 31)) &&& 3) - 1) &&& 31)) &&& 1) = 1
/-- it applies and must be met; n: how many needs unit 1 has -/
abbrev pa_must (n k b : Int32) : Prop := n = 1 ∧ k < 32 ∧ pa_on k b
/-- it applies and is optional -/
abbrev pa_po (n k b : Int32) : Prop := n = 1 ∧ ¬ k < 32 ∧ pa_on k b
/-- it costs: it applies, is optional, and none of its meeters m is left outside l -/
abbrev pa_pen (n k b m l : Int32) : Prop := n = 1 ∧ ¬ k < 32 ∧ pa_on k b ∧ m &&& (l ^^^ (-1)) = 0
/-- unit 0's offer of version v fits the need -/
abbrev pa_hp (v lo hi : Int32) : Prop := ¬ v < lo ∧ ¬ hi < v
/-- what is ready for a search -/
abbrev pa_Q (a5 a11 a12 a13 : Nat → Int32) : Prop := a5 0 = 0 ∧ (a5 1 = 0 ∨ a5 1 = 1) ∧ a12 0 = 0 ∧ a12 1 = 0 ∧ a13 0 = 0 ∧ a13 1 = 0 ∧ (a5 1 = 1 → a11 3 = 0 ∨ a11 3 = 1)
/-- the ones among ten bits -/
def pa_ones (p : Int32) : Int32 := 0 + ((p >>> ((0 : Int32) &&& 31)) &&& 1) + ((p >>> ((1 : Int32) &&& 31)) &&& 1) + ((p >>> ((2 : Int32) &&& 31)) &&& 1) + ((p >>> ((3 : Int32) &&& 31)) &&& 1) + ((p >>> ((4 : Int32) &&& 31)) &&& 1) + ((p >>> ((5 : Int32) &&& 31)) &&& 1) + ((p >>> ((6 : Int32) &&& 31)) &&& 1) + ((p >>> ((7 : Int32) &&& 31)) &&& 1) + ((p >>> ((8 : Int32) &&& 31)) &&& 1) + ((p >>> ((9 : Int32) &&& 31)) &&& 1)
theorem pa_ones_w {post : Int32 → Prop} {u : St0} {p : Int32} (k : Int32) (hk : pa_ones p = k) (h : post k) : wpX_ones post u p := by
  subst hk
  refine Exists.intro 11 ?_
  refine br_f (by decide) (nm_e (nm_r (show (0 : Int32) + 1 = 1 from rfl) ?_))
  refine br_f (by decide) (nm_e (nm_r (show (1 : Int32) + 1 = 2 from rfl) ?_))
  refine br_f (by decide) (nm_e (nm_r (show (2 : Int32) + 1 = 3 from rfl) ?_))
  refine br_f (by decide) (nm_e (nm_r (show (3 : Int32) + 1 = 4 from rfl) ?_))
  refine br_f (by decide) (nm_e (nm_r (show (4 : Int32) + 1 = 5 from rfl) ?_))
  refine br_f (by decide) (nm_e (nm_r (show (5 : Int32) + 1 = 6 from rfl) ?_))
  refine br_f (by decide) (nm_e (nm_r (show (6 : Int32) + 1 = 7 from rfl) ?_))
  refine br_f (by decide) (nm_e (nm_r (show (7 : Int32) + 1 = 8 from rfl) ?_))
  refine br_f (by decide) (nm_e (nm_r (show (8 : Int32) + 1 = 9 from rfl) ?_))
  refine br_f (by decide) (nm_e (nm_r (show (9 : Int32) + 1 = 10 from rfl) ?_))
  exact br_t (by decide) h
theorem pa_set {bi cu nt st ii oo bc bs : Int32} {a1 a2 a3 a4 a5 a6 a7 a8 a9 a10 a11 a12 a13 a14 a15 a16 a17 a18 a19 : Nat → Int32} {post : Int32 → Prop} {p : Int32} (h1 : ¬ p < 0) (h2 : ¬ ((1 : Int32) <<< ((2 : Int32) &&& 31)) ≤ p) (h : post 1) : wpX_isSet post (2, bi, cu, nt, st, ii, oo, bc, bs, a1, a2, a3, a4, a5, a6, a7, a8, a9, a10, a11, a12, a13, a14, a15, a16, a17, a18, a19) p := br_f h1 (br_f h2 h)
theorem pa_opt {ct bi cu nt st ii oo bc bs : Int32} {a1 a2 a3 a4 a5 a6 a7 a8 a9 a10 a11 a12 a13 a14 a15 a16 a17 a18 a19 : Nat → Int32} {post : Int32 → Prop} (h : (a8 3 < 32 → post 0) ∧ (¬ a8 3 < 32 → post 1)) : wpX_isOptional post (ct, bi, cu, nt, st, ii, oo, bc, bs, a1, a2, a3, a4, a5, a6, a7, a8, a9, a10, a11, a12, a13, a14, a15, a16, a17, a18, a19) 3 := And.intro (pk_in 3 30 (by decide)) h
theorem pa_app {ct bi cu nt st ii oo bc bs : Int32} {a1 a2 a3 a4 a5 a6 a7 a8 a9 a10 a11 a12 a13 a14 a15 a16 a17 a18 a19 : Nat → Int32} {post : Int32 → Prop} (h1 : pa_on (a8 3) bi → post 1) (h0 : ¬ pa_on (a8 3) bi → post 0) : wpX_applies post (ct, bi, cu, nt, st, ii, oo, bc, bs, a1, a2, a3, a4, a5, a6, a7, a8, a9, a10, a11, a12, a13, a14, a15, a16, a17, a18, a19) 3 :=
  And.intro (pk_in 3 30 (by decide)) (nm_e (br_c (fun z => h1 (Or.inl z)) (fun z => br_c (fun y => h1 (Or.inr y)) (fun y => h0 (fun t => t.elim z y)))))
theorem pa_fo2 {bi cu nt st ii oo bc bs : Int32} {a1 a2 a3 a4 a5 a6 a7 a8 a9 a10 a11 a12 a13 a14 a15 a16 a17 a18 a19 : Nat → Int32} {post : Int32 → Prop} {p : Int32} (e : p = 2) (h : post 0) : wpX_firstOpen post (2, bi, cu, nt, st, ii, oo, bc, bs, a1, a2, a3, a4, a5, a6, a7, a8, a9, a10, a11, a12, a13, a14, a15, a16, a17, a18, a19) p := by
  subst e
  exact Exists.intro 1 (br_f (by decide) (br_t (by decide) h))
theorem pa_fo3 {bi cu nt st ii oo bc bs : Int32} {a1 a2 a3 a4 a5 a6 a7 a8 a9 a10 a11 a12 a13 a14 a15 a16 a17 a18 a19 : Nat → Int32} {post : Int32 → Prop} {p : Int32} (e : p = 3) (h : post (-1)) : wpX_firstOpen post (2, bi, cu, nt, st, ii, oo, bc, bs, a1, a2, a3, a4, a5, a6, a7, a8, a9, a10, a11, a12, a13, a14, a15, a16, a17, a18, a19) p := by
  subst e
  exact Exists.intro 3 (br_f (by decide) (br_f (by decide) (nm_r (show (0 : Int32) + 1 = 1 from rfl) (br_f (by decide) (br_f (by decide) (nm_r (show (1 : Int32) + 1 = 2 from rfl) (br_t (by decide) h)))))))
theorem pa_fm_t {bi cu nt st ii oo bc bs : Int32} {a1 a2 a3 a4 a5 a6 a7 a8 a9 a10 a11 a12 a13 a14 a15 a16 a17 a18 a19 : Nat → Int32} {post : Int32 → Prop} {x : Int32} (h41 : a4 1 = 0) (h : post x) : wX_findMeeters_4 post 3 2 bi cu nt st ii oo bc bs a1 a2 a3 a4 a5 a6 a7 a8 a9 a10 a11 a12 a13 a14 a15 a16 a17 a18 a19 2 x 1 :=
  br_f (by decide) (nm_r (show (3 : Int32) * 1 = 3 from rfl) (Exists.intro 1 (And.intro (pk_in 1 10 (by decide)) (br_t (by rw [pa_c1, h41] <;> decide) (nm_r (show (1 : Int32) + 1 = 2 from rfl) (br_t (by decide) h))))))
theorem pa_fm_u {bi cu nt st ii oo bc bs : Int32} {a1 a2 a3 a4 a5 a6 a7 a8 a9 a10 a11 a12 a13 a14 a15 a16 a17 a18 a19 : Nat → Int32} {post : Int32 → Prop} {x : Int32} (h40 : a4 0 = 1) (h41 : a4 1 = 0) (h : post x) : wX_findMeeters_17 post (wX_findMeeters_4 post 3 2 bi cu nt st ii oo bc bs a1 a2 a3 a4 a5 a6 a7 a8 a9 a10 a11 a12 a13 a14 a15 a16 a17 a18 a19 2) 3 0 2 bi cu nt st ii oo bc bs a1 a2 a3 a4 a5 a6 a7 a8 a9 a10 a11 a12 a13 a14 a15 a16 a17 a18 a19 1 x 1 :=
  And.intro (pk_in 0 10 (by decide)) (br_t (by rw [pa_c0, h40] <;> decide) (nm_r (show (0 : Int32) + 1 = 1 from rfl) (pa_fm_t h41 h)))
theorem pa_fm {bi cu nt st ii oo bc bs : Int32} {a1 a2 a3 a4 a5 a6 a7 a8 a9 a10 a11 a12 a13 a14 a15 a16 a17 a18 a19 : Nat → Int32} {post : Int32 → Prop} (h40 : a4 0 = 1) (h41 : a4 1 = 0) (h6 : a6 0 = 2) (h8 : a8 3 &&& 7 = 2) (h1 : pa_hp (a7 0) (a9 3) (a10 3) → post 1) (h0 : ¬ pa_hp (a7 0) (a9 3) (a10 3) → post 0) : wpX_findMeeters post (2, bi, cu, nt, st, ii, oo, bc, bs, a1, a2, a3, a4, a5, a6, a7, a8, a9, a10, a11, a12, a13, a14, a15, a16, a17, a18, a19) 3 := by
  refine Exists.intro 3 (br_f (by decide) (nm_r (show (3 : Int32) * 0 = 0 from rfl) (Exists.intro 2 (And.intro (pk_in 0 10 (by decide)) (br_f (by rw [pa_c0, h40] <;> decide) (And.intro (pk_in 0 30 (by decide)) (And.intro (pk_in 3 30 (by decide)) ?_)))))))
  refine br_c (fun z => ?_) (fun z => And.intro (pk_in 0 30 (by decide)) (And.intro (pk_in 3 30 (by decide)) (br_c (fun y => ?_) (fun y => ?_))))
  · exact br_t rfl (nm_r (show (0 : Int32) + 1 = 1 from rfl) (pa_fm_u h40 h41 (h0 (fun t => t.1 z))))
  · exact br_t rfl (nm_r (show (0 : Int32) + 1 = 1 from rfl) (pa_fm_u h40 h41 (h0 (fun t => t.2 y))))
  · exact br_f (by decide) (And.intro (pk_in 0 30 (by decide)) (And.intro (pk_in 3 30 (by decide)) (br_t (show a6 (Int32.toNatClampNeg 0) = a8 (Int32.toNatClampNeg 3) &&& 7 from h6.trans h8.symm) (nm_r (show (0 : Int32) ||| ((1 : Int32) <<< ((0 : Int32) &&& 31)) = 1 from rfl) (nm_r (show (0 : Int32) + 1 = 1 from rfl) (pa_fm_u h40 h41 (h1 ⟨z, y⟩)))))))
end
section
/-- what the makers left: names, offers, needs -/
abbrev pa_K (a1 a4 a5 a6 a8 : Nat → Int32) : Prop := a1 0 = 0 ∧ a1 1 = 1 ∧ a4 0 = 1 ∧ a4 1 = 0 ∧ a5 0 = 0 ∧ a6 0 = 2 ∧ (a5 1 = 0 ∨ (a5 1 = 1 ∧ a8 3 &&& 7 = 2))
/-- the meeters of unit 1's need -/
abbrev pa_M (a5 a7 a9 a10 a11 : Nat → Int32) : Prop := a5 1 = 1 → (pa_hp (a7 0) (a9 3) (a10 3) ∧ a11 3 = 1) ∨ (¬ pa_hp (a7 0) (a9 3) (a10 3) ∧ a11 3 = 0)
theorem pa_pr1 {bi cu nt st ii oo bc bs : Int32} {a1 a2 a3 a4 a5 a6 a7 a8 a9 a10 a11 a12 a13 a14 a15 a16 a17 a18 a19 : Nat → Int32} {post : St2 → Prop} (K : pa_K a1 a4 a5 a6 a8) (h120 : a12 0 = 0) (h121 : a12 1 = 0) (h130 : a13 0 = 0) (h131 : a13 1 = 0) (hp : ∀ y11 : Nat → Int32, pa_Q a5 y11 a12 a13 → pa_M a5 a7 a9 a10 y11 → post (2, bi, cu, nt, st, ii, oo, bc, bs, a1, a2, a3, a4, a5, a6, a7, a8, a9, a10, y11, a12, a13, a14, a15, a16, a17, a18, a19)) : wX_prepare_138 post (wX_prepare_2 post 2 bi cu nt st ii oo bc bs 1) 1 2 bi cu nt st ii oo bc bs 2 3 a1 a2 a3 a4 a5 a6 a7 a8 a9 a10 a11 a12 a13 a14 a15 a16 a17 a18 a19 := by
  obtain ⟨_, _, h40, h41, h50, h6, h5⟩ := K
  rcases h5 with e | ⟨e, h8⟩
  · have ne : ¬ a5 1 = 1 := fun z => absurd (e.symm.trans z) (by decide)
    exact And.intro (pk_in 1 10 (by decide)) (br_t (by rw [pa_c1, e] <;> decide) (nm_r (show (1 : Int32) + 1 = 2 from rfl) (br_t (by decide) (hp a11 ⟨h50, Or.inl e, h120, h121, h130, h131, fun z => absurd z ne⟩ (fun z => absurd z ne)))))
  · have hx : ∀ y : Int32, (pa_hp (a7 0) (a9 3) (a10 3) ∧ y = 1) ∨ (¬ pa_hp (a7 0) (a9 3) (a10 3) ∧ y = 0) → wX_prepare_138 post (wX_prepare_2 post 2 bi cu nt st ii oo bc bs 1) 1 2 bi cu nt st ii oo bc bs 1 4 a1 a2 a3 a4 a5 a6 a7 a8 a9 a10 (upd a11 3 y) a12 a13 a14 a15 a16 a17 a18 a19 := by
      intro y hy
      have q : upd a11 3 y 3 = y := pk_us
      refine And.intro (pk_in 1 10 (by decide)) (br_t (by rw [pa_c1, e] <;> decide) (nm_r (show (1 : Int32) + 1 = 2 from rfl) (br_t (by decide) (hp (upd a11 3 y) ⟨h50, Or.inr e, h120, h121, h130, h131, fun _ => ?_⟩ (fun _ => ?_)))))
      · rw [q]
        exact hy.elim (fun t => Or.inr t.2) (fun t => Or.inl t.2)
      · rw [q]
        exact hy
    exact And.intro (pk_in 1 10 (by decide)) (br_f (by rw [pa_c1, e] <;> decide) (pa_fm h40 h41 h6 h8 (fun z => And.intro (pk_in 3 30 (by decide)) (nm_r (show upd a11 (Int32.toNatClampNeg 3) 1 = upd a11 3 1 from rfl) (nm_r (show (3 : Int32) + 1 = 4 from rfl) (hx 1 (Or.inl ⟨z, rfl⟩))))) (fun z => And.intro (pk_in 3 30 (by decide)) (nm_r (show upd a11 (Int32.toNatClampNeg 3) 0 = upd a11 3 0 from rfl) (nm_r (show (3 : Int32) + 1 = 4 from rfl) (hx 0 (Or.inr ⟨z, rfl⟩)))))))
theorem pa_pr2 {bi cu nt st ii oo bc bs : Int32} {a1 a2 a3 a4 a5 a6 a7 a8 a9 a10 a11 a12 a13 a14 a15 a16 a17 a18 a19 : Nat → Int32} {post : St2 → Prop} (K : pa_K a1 a4 a5 a6 a8) (h120 : a12 0 = 0) (h130 : a13 0 = 0) (hp : ∀ y11 y12 y13 : Nat → Int32, pa_Q a5 y11 y12 y13 → pa_M a5 a7 a9 a10 y11 → post (2, bi, cu, nt, st, ii, oo, bc, bs, a1, a2, a3, a4, a5, a6, a7, a8, a9, a10, y11, y12, y13, a14, a15, a16, a17, a18, a19)) : wX_prepare_2 post 2 bi cu nt st ii oo bc bs 2 1 a1 a2 a3 a4 a5 a6 a7 a8 a9 a10 a11 a12 a13 a14 a15 a16 a17 a18 a19 := by
  have s2 : wX_prepare_26 post (wX_prepare_2 post 2 bi cu nt st ii oo bc bs 1) 1 2 bi cu nt st ii oo bc bs 1 2 a1 a2 a3 a4 a5 a6 a7 a8 a9 a10 a11 (upd a12 1 0) (upd (upd a13 1 0) 1 0) a14 a15 a16 a17 a18 a19 :=
    br_t (by decide) (nm_r (show (3 : Int32) * 1 = 3 from rfl) (Exists.intro 2 (pa_pr1 K ((pk_un (by decide)).trans h120) pk_us ((pk_un (by decide)).trans ((pk_un (by decide)).trans h130)) pk_us (fun y11 q m => hp y11 _ _ q m))))
  have s1 : wX_prepare_26 post (wX_prepare_2 post 2 bi cu nt st ii oo bc bs 1) 1 2 bi cu nt st ii oo bc bs 2 1 a1 a2 a3 a4 a5 a6 a7 a8 a9 a10 a11 (upd a12 1 0) (upd a13 1 0) a14 a15 a16 a17 a18 a19 :=
    br_f (by decide) (And.intro (pk_in 1 10 (by decide)) (And.intro (pk_in 1 10 (by decide)) (br_t rfl (And.intro (pk_in 1 10 (by decide)) (And.intro (pk_in 1 10 (by decide)) (nm_r (Int32.sub_self _) (And.intro (pk_in 1 10 (by decide)) (br_t (by rw [pa_c1, pk_us] <;> decide) (And.intro (pk_in 1 10 (by decide)) (And.intro (pk_in 1 10 (by decide)) (nm_r (show upd (upd a13 1 0) (Int32.toNatClampNeg 1) (upd a13 1 0 (Int32.toNatClampNeg 1)) = upd (upd a13 1 0) 1 0 by rw [pa_c1, pk_us]) (br_t rfl (nm_r (show (1 : Int32) + 1 = 2 from rfl) s2)))))))))))))
  have s0 : wX_prepare_26 post (wX_prepare_2 post 2 bi cu nt st ii oo bc bs 1) 1 2 bi cu nt st ii oo bc bs 3 0 a1 a2 a3 a4 a5 a6 a7 a8 a9 a10 a11 (upd a12 1 0) (upd a13 1 0) a14 a15 a16 a17 a18 a19 :=
    br_f (by decide) (And.intro (pk_in 1 10 (by decide)) (And.intro (pk_in 0 10 (by decide)) (br_f (by rw [pa_c0, pa_c1, K.1, K.2.1] <;> decide) (nm_r (show (0 : Int32) + 1 = 1 from rfl) s1))))
  exact br_f (by decide) (And.intro (pk_in 1 10 (by decide)) (nm_r (show upd a12 (Int32.toNatClampNeg 1) 0 = upd a12 1 0 from rfl) (And.intro (pk_in 1 10 (by decide)) (nm_r (show upd a13 (Int32.toNatClampNeg 1) 0 = upd a13 1 0 from rfl) (Exists.intro 3 s0)))))
theorem pa_pr {bi cu nt st ii oo bc bs : Int32} {a1 a2 a3 a4 a5 a6 a7 a8 a9 a10 a11 a12 a13 a14 a15 a16 a17 a18 a19 : Nat → Int32} {post : St2 → Prop} (K : pa_K a1 a4 a5 a6 a8) (hp : ∀ y11 y12 y13 : Nat → Int32, pa_Q a5 y11 y12 y13 → pa_M a5 a7 a9 a10 y11 → post (2, bi, cu, nt, st, ii, oo, bc, bs, a1, a2, a3, a4, a5, a6, a7, a8, a9, a10, y11, y12, y13, a14, a15, a16, a17, a18, a19)) : wpX_prepare post (2, bi, cu, nt, st, ii, oo, bc, bs, a1, a2, a3, a4, a5, a6, a7, a8, a9, a10, a11, a12, a13, a14, a15, a16, a17, a18, a19) := by
  have s2 : wX_prepare_26 post (wX_prepare_2 post 2 bi cu nt st ii oo bc bs 2) 0 2 bi cu nt st ii oo bc bs 1 2 a1 a2 a3 a4 a5 a6 a7 a8 a9 a10 a11 (upd a12 0 0) (upd (upd a13 0 0) 0 0) a14 a15 a16 a17 a18 a19 :=
    br_t (by decide) (nm_r (show (3 : Int32) * 0 = 0 from rfl) (Exists.intro 1 (And.intro (pk_in 0 10 (by decide)) (br_t (by rw [pa_c0, K.2.2.2.2.1] <;> decide) (nm_r (show (0 : Int32) + 1 = 1 from rfl) (pa_pr2 K pk_us pk_us hp))))))
  have s1 : wX_prepare_26 post (wX_prepare_2 post 2 bi cu nt st ii oo bc bs 2) 0 2 bi cu nt st ii oo bc bs 2 1 a1 a2 a3 a4 a5 a6 a7 a8 a9 a10 a11 (upd a12 0 0) (upd (upd a13 0 0) 0 0) a14 a15 a16 a17 a18 a19 :=
    br_f (by decide) (And.intro (pk_in 0 10 (by decide)) (And.intro (pk_in 1 10 (by decide)) (br_f (by rw [pa_c0, pa_c1, K.1, K.2.1] <;> decide) (nm_r (show (1 : Int32) + 1 = 2 from rfl) s2))))
  have s0 : wX_prepare_26 post (wX_prepare_2 post 2 bi cu nt st ii oo bc bs 2) 0 2 bi cu nt st ii oo bc bs 3 0 a1 a2 a3 a4 a5 a6 a7 a8 a9 a10 a11 (upd a12 0 0) (upd a13 0 0) a14 a15 a16 a17 a18 a19 :=
    br_f (by decide) (And.intro (pk_in 0 10 (by decide)) (And.intro (pk_in 0 10 (by decide)) (br_t rfl (And.intro (pk_in 0 10 (by decide)) (And.intro (pk_in 0 10 (by decide)) (nm_r (Int32.sub_self _) (And.intro (pk_in 0 10 (by decide)) (br_t (by rw [pa_c0, pk_us] <;> decide) (And.intro (pk_in 0 10 (by decide)) (And.intro (pk_in 0 10 (by decide)) (nm_r (show upd (upd a13 0 0) (Int32.toNatClampNeg 0) (upd a13 0 0 (Int32.toNatClampNeg 0)) = upd (upd a13 0 0) 0 0 by rw [pa_c0, pk_us]) (br_t rfl (nm_r (show (0 : Int32) + 1 = 1 from rfl) s1)))))))))))))
  exact Exists.intro 3 (br_f (by decide) (And.intro (pk_in 0 10 (by decide)) (nm_r (show upd a12 (Int32.toNatClampNeg 0) 0 = upd a12 0 0 from rfl) (And.intro (pk_in 0 10 (by decide)) (nm_r (show upd a13 (Int32.toNatClampNeg 0) 0 = upd a13 0 0 from rfl) (Exists.intro 3 s0))))))
end
section
theorem pa_fn0 {ct bi cu nt st ii oo bc bs : Int32} {a1 a2 a3 a4 a5 a6 a7 a8 a9 a10 a11 a12 a13 a14 a15 a16 a17 a18 a19 : Nat → Int32} {post : Int32 → St2 → Prop} (h50 : a5 0 = 0) (hp : post 1 (ct, bi, cu, nt, st, ii, oo, bc, bs, a1, a2, a3, a4, a5, a6, a7, a8, a9, a10, a11, a12, a13, a14, a15, a16, a17, a18, a19)) : wpX_forceNeeds post (ct, bi, cu, nt, st, ii, oo, bc, bs, a1, a2, a3, a4, a5, a6, a7, a8, a9, a10, a11, a12, a13, a14, a15, a16, a17, a18, a19) 0 :=
  nm_r (show (3 : Int32) * 0 = 0 from rfl) (Exists.intro 1 (And.intro (pk_in 0 10 (by decide)) (br_t (by rw [pa_c0, h50] <;> decide) hp)))
theorem pa_fn1n {ct bi cu nt st ii oo bc bs : Int32} {a1 a2 a3 a4 a5 a6 a7 a8 a9 a10 a11 a12 a13 a14 a15 a16 a17 a18 a19 : Nat → Int32} {post : Int32 → St2 → Prop} (hn : a5 1 = 0 ∨ a5 1 = 1) (hm : ¬ pa_must (a5 1) (a8 3) bi) (hp : post 1 (ct, bi, cu, nt, st, ii, oo, bc, bs, a1, a2, a3, a4, a5, a6, a7, a8, a9, a10, a11, a12, a13, a14, a15, a16, a17, a18, a19)) : wpX_forceNeeds post (ct, bi, cu, nt, st, ii, oo, bc, bs, a1, a2, a3, a4, a5, a6, a7, a8, a9, a10, a11, a12, a13, a14, a15, a16, a17, a18, a19) 1 := by
  refine nm_r (show (3 : Int32) * 1 = 3 from rfl) (Exists.intro 2 (And.intro (pk_in 1 10 (by decide)) ?_))
  rcases hn with e | e
  · exact br_t (by rw [pa_c1, e] <;> decide) hp
  · have hx : wX_forceNeeds_4 post 1 ct bi cu nt st oo bc bs a1 a2 a3 a4 a5 a6 a7 a8 a9 a10 a11 a12 a13 a14 a15 a16 a17 a18 a19 1 4 ii := And.intro (pk_in 1 10 (by decide)) (br_t (by rw [pa_c1, e] <;> decide) hp)
    exact br_f (by rw [pa_c1, e] <;> decide) (pa_opt (br_c (fun z => br_t rfl (pa_app (fun y => absurd ⟨e, z, y⟩ hm) (fun y => br_t rfl (nm_r (show (3 : Int32) + 1 = 4 from rfl) hx)))) (fun z => br_f (by decide) (nm_r (show (3 : Int32) + 1 = 4 from rfl) hx))))
theorem pa_fn1f {ct bi cu nt st ii bc bs : Int32} {a1 a2 a3 a4 a5 a6 a7 a8 a9 a10 a11 a12 a13 a14 a15 a16 a17 a18 a19 : Nat → Int32} {post : Int32 → St2 → Prop} (hm : pa_must (a5 1) (a8 3) bi) (h11 : a11 3 = 0) (hp : post 0 (ct, bi, cu, nt, st, ii, 0, bc, bs, a1, a2, a3, a4, a5, a6, a7, a8, a9, a10, a11, a12, a13, a14, a15, a16, a17, a18, a19)) : wpX_forceNeeds post (ct, bi, cu, nt, st, ii, 0, bc, bs, a1, a2, a3, a4, a5, a6, a7, a8, a9, a10, a11, a12, a13, a14, a15, a16, a17, a18, a19) 1 :=
  nm_r (show (3 : Int32) * 1 = 3 from rfl) (Exists.intro 1 (And.intro (pk_in 1 10 (by decide)) (br_f (by rw [pa_c1, hm.1] <;> decide) (pa_opt (br_t hm.2.1 (br_t rfl (pa_app (fun _ => br_f (by decide) (And.intro (pk_in 3 30 (by decide)) (nm_r (show a11 (Int32.toNatClampNeg 3) &&& ((0 : Int32) ^^^ (-1)) = 0 by rw [pa_c3, h11] <;> decide) (br_t rfl hp)))) (fun y => absurd hm.2.2 y))))))))
theorem pa_fn1s {ct bi cu nt st bc bs : Int32} {a1 a2 a3 a4 a5 a6 a7 a8 a9 a10 a11 a12 a13 a14 a15 a16 a17 a18 a19 : Nat → Int32} {post : Int32 → St2 → Prop} (hm : pa_must (a5 1) (a8 3) bi) (h11 : a11 3 = 1) (hp : post 1 (ct, bi, cu, nt, st, 3, 0, bc, bs, a1, a2, a3, a4, a5, a6, a7, a8, a9, a10, a11, a12, a13, a14, a15, a16, a17, a18, a19)) : wpX_forceNeeds post (ct, bi, cu, nt, st, 2, 0, bc, bs, a1, a2, a3, a4, a5, a6, a7, a8, a9, a10, a11, a12, a13, a14, a15, a16, a17, a18, a19) 1 :=
  nm_r (show (3 : Int32) * 1 = 3 from rfl) (Exists.intro 2 (And.intro (pk_in 1 10 (by decide)) (br_f (by rw [pa_c1, hm.1] <;> decide) (pa_opt (br_t hm.2.1 (br_t rfl (pa_app (fun _ => br_f (by decide) (And.intro (pk_in 3 30 (by decide)) (nm_r (show a11 (Int32.toNatClampNeg 3) &&& ((0 : Int32) ^^^ (-1)) = 1 by rw [pa_c3, h11] <;> decide) (br_f (by decide) (br_t (by decide) (br_t (by decide) (nm_r (show (2 : Int32) ||| 1 = 3 from rfl) (nm_r (show (3 : Int32) + 1 = 4 from rfl) (And.intro (pk_in 1 10 (by decide)) (br_t (by rw [pa_c1, hm.1] <;> decide) hp))))))))) ) (fun y => absurd hm.2.2 y))))))))
theorem pa_fn1e {ct bi cu nt st bc bs : Int32} {a1 a2 a3 a4 a5 a6 a7 a8 a9 a10 a11 a12 a13 a14 a15 a16 a17 a18 a19 : Nat → Int32} {post : Int32 → St2 → Prop} (hm : pa_must (a5 1) (a8 3) bi) (h11 : a11 3 = 1) (hp : post 1 (ct, bi, cu, nt, st, 3, 0, bc, bs, a1, a2, a3, a4, a5, a6, a7, a8, a9, a10, a11, a12, a13, a14, a15, a16, a17, a18, a19)) : wpX_forceNeeds post (ct, bi, cu, nt, st, 3, 0, bc, bs, a1, a2, a3, a4, a5, a6, a7, a8, a9, a10, a11, a12, a13, a14, a15, a16, a17, a18, a19) 1 :=
  nm_r (show (3 : Int32) * 1 = 3 from rfl) (Exists.intro 2 (And.intro (pk_in 1 10 (by decide)) (br_f (by rw [pa_c1, hm.1] <;> decide) (pa_opt (br_t hm.2.1 (br_t rfl (pa_app (fun _ => br_f (by decide) (And.intro (pk_in 3 30 (by decide)) (nm_r (show a11 (Int32.toNatClampNeg 3) &&& ((0 : Int32) ^^^ (-1)) = 1 by rw [pa_c3, h11] <;> decide) (br_f (by decide) (br_f (by decide) (nm_r (show (3 : Int32) + 1 = 4 from rfl) (And.intro (pk_in 1 10 (by decide)) (br_t (by rw [pa_c1, hm.1] <;> decide) hp))))))) ) (fun y => absurd hm.2.2 y))))))))
theorem pa_f1 {bi cu nt st ii oo bc bs : Int32} {a1 a2 a3 a4 a5 a6 a7 a8 a9 a10 a11 a12 a13 a14 a15 a16 a17 a18 a19 : Nat → Int32} {post : Int32 → St2 → Prop} (q : pa_Q a5 a11 a12 a13) (hm : ¬ pa_must (a5 1) (a8 3) bi) (hio : ii &&& oo = 0) (hp : post 1 (2, bi, cu, nt, st, ii, oo, bc, bs, a1, a2, a3, a4, a5, a6, a7, a8, a9, a10, a11, a12, a13, a14, a15, a16, a17, a18, a19)) : wpX_force post (2, bi, cu, nt, st, ii, oo, bc, bs, a1, a2, a3, a4, a5, a6, a7, a8, a9, a10, a11, a12, a13, a14, a15, a16, a17, a18, a19) := by
  have s2 : wX_force_23 post (wX_force_2 post 0) 0 (ii ||| (oo <<< ((10 : Int32) &&& 31))) 1 2 2 bi cu nt st ii oo bc bs a1 a2 a3 a4 a5 a6 a7 a8 a9 a10 a11 a12 a13 a14 a15 a16 a17 a18 a19 := br_t (by decide) (br_t hio (br_t rfl hp))
  have s1 : wX_force_23 post (wX_force_2 post 0) 0 (ii ||| (oo <<< ((10 : Int32) &&& 31))) 2 1 2 bi cu nt st ii oo bc bs a1 a2 a3 a4 a5 a6 a7 a8 a9 a10 a11 a12 a13 a14 a15 a16 a17 a18 a19 :=
    br_f (by decide) (br_c (fun _ => And.intro (pk_in 1 10 (by decide)) (nm_r (show oo ||| a12 (Int32.toNatClampNeg 1) = oo by rw [pa_c1, q.2.2.2.1]; exact Int32.or_zero) (pa_fn1n q.2.1 hm (br_f (by decide) (nm_r (show (1 : Int32) + 1 = 2 from rfl) s2))))) (fun _ => nm_r (show (1 : Int32) + 1 = 2 from rfl) s2))
  have s0 : wX_force_23 post (wX_force_2 post 0) 0 (ii ||| (oo <<< ((10 : Int32) &&& 31))) 3 0 2 bi cu nt st ii oo bc bs a1 a2 a3 a4 a5 a6 a7 a8 a9 a10 a11 a12 a13 a14 a15 a16 a17 a18 a19 :=
    br_f (by decide) (br_c (fun _ => And.intro (pk_in 0 10 (by decide)) (nm_r (show oo ||| a12 (Int32.toNatClampNeg 0) = oo by rw [pa_c0, q.2.2.1]; exact Int32.or_zero) (pa_fn0 q.1 (br_f (by decide) (nm_r (show (0 : Int32) + 1 = 1 from rfl) s1))))) (fun _ => nm_r (show (0 : Int32) + 1 = 1 from rfl) s1))
  exact Exists.intro 1 (br_f (by decide) (nm_e (Exists.intro 3 s0)))
theorem pa_f2 {bi cu nt st bc bs : Int32} {a1 a2 a3 a4 a5 a6 a7 a8 a9 a10 a11 a12 a13 a14 a15 a16 a17 a18 a19 : Nat → Int32} {post : Int32 → St2 → Prop} (q : pa_Q a5 a11 a12 a13) (hm : pa_must (a5 1) (a8 3) bi) (h11 : a11 3 = 0) (hp : post 0 (2, bi, cu, nt, st, 2, 0, bc, bs, a1, a2, a3, a4, a5, a6, a7, a8, a9, a10, a11, a12, a13, a14, a15, a16, a17, a18, a19)) : wpX_force post (2, bi, cu, nt, st, 2, 0, bc, bs, a1, a2, a3, a4, a5, a6, a7, a8, a9, a10, a11, a12, a13, a14, a15, a16, a17, a18, a19) := by
  have s1 : wX_force_23 post (wX_force_2 post 0) 0 2 1 1 2 bi cu nt st 2 0 bc bs a1 a2 a3 a4 a5 a6 a7 a8 a9 a10 a11 a12 a13 a14 a15 a16 a17 a18 a19 :=
    br_f (by decide) (br_t (by decide) (And.intro (pk_in 1 10 (by decide)) (nm_r (show (0 : Int32) ||| a12 (Int32.toNatClampNeg 1) = 0 by rw [pa_c1, q.2.2.2.1]; exact Int32.or_zero) (pa_fn1f hm h11 (br_t rfl hp)))))
  exact Exists.intro 1 (br_f (by decide) (nm_r (show (2 : Int32) ||| ((0 : Int32) <<< ((10 : Int32) &&& 31)) = 2 from rfl) (Exists.intro 2 (br_f (by decide) (br_f (by decide) (nm_r (show (0 : Int32) + 1 = 1 from rfl) s1))))))
theorem pa_f3 {bi cu nt st bc bs : Int32} {a1 a2 a3 a4 a5 a6 a7 a8 a9 a10 a11 a12 a13 a14 a15 a16 a17 a18 a19 : Nat → Int32} {post : Int32 → St2 → Prop} (q : pa_Q a5 a11 a12 a13) (hm : pa_must (a5 1) (a8 3) bi) (h11 : a11 3 = 1) (hp : post 1 (2, bi, cu, nt, st, 3, 0, bc, bs, a1, a2, a3, a4, a5, a6, a7, a8, a9, a10, a11, a12, a13, a14, a15, a16, a17, a18, a19)) : wpX_force post (2, bi, cu, nt, st, 2, 0, bc, bs, a1, a2, a3, a4, a5, a6, a7, a8, a9, a10, a11, a12, a13, a14, a15, a16, a17, a18, a19) := by
  have t1 : wX_force_23 post (wX_force_2 post 0) 1 3 2 1 2 bi cu nt st 3 0 bc bs a1 a2 a3 a4 a5 a6 a7 a8 a9 a10 a11 a12 a13 a14 a15 a16 a17 a18 a19 :=
    br_f (by decide) (br_t (by decide) (And.intro (pk_in 1 10 (by decide)) (nm_r (show (0 : Int32) ||| a12 (Int32.toNatClampNeg 1) = 0 by rw [pa_c1, q.2.2.2.1]; exact Int32.or_zero) (pa_fn1e hm h11 (br_f (by decide) (nm_r (show (1 : Int32) + 1 = 2 from rfl) (br_t (by decide) (br_t (by decide) (br_t (by decide) hp)))))))))
  have t0 : wX_force_2 post 1 1 2 bi cu nt st 3 0 bc bs a1 a2 a3 a4 a5 a6 a7 a8 a9 a10 a11 a12 a13 a14 a15 a16 a17 a18 a19 :=
    br_f (by decide) (nm_r (show (3 : Int32) ||| ((0 : Int32) <<< ((10 : Int32) &&& 31)) = 3 from rfl) (Exists.intro 3 (br_f (by decide) (br_t (by decide) (And.intro (pk_in 0 10 (by decide)) (nm_r (show (0 : Int32) ||| a12 (Int32.toNatClampNeg 0) = 0 by rw [pa_c0, q.2.2.1]; exact Int32.or_zero) (pa_fn0 q.1 (br_f (by decide) (nm_r (show (0 : Int32) + 1 = 1 from rfl) t1)))))))))
  have s1 : wX_force_23 post (wX_force_2 post 1) 0 2 2 1 2 bi cu nt st 2 0 bc bs a1 a2 a3 a4 a5 a6 a7 a8 a9 a10 a11 a12 a13 a14 a15 a16 a17 a18 a19 :=
    br_f (by decide) (br_t (by decide) (And.intro (pk_in 1 10 (by decide)) (nm_r (show (0 : Int32) ||| a12 (Int32.toNatClampNeg 1) = 0 by rw [pa_c1, q.2.2.2.1]; exact Int32.or_zero) (pa_fn1s hm h11 (br_f (by decide) (nm_r (show (1 : Int32) + 1 = 2 from rfl) (br_t (by decide) (br_t (by decide) (br_f (by decide) (nm_r (show (0 : Int32) + 1 = 1 from rfl) t0))))))))))
  exact Exists.intro 2 (br_f (by decide) (nm_r (show (2 : Int32) ||| ((0 : Int32) <<< ((10 : Int32) &&& 31)) = 2 from rfl) (Exists.intro 3 (br_f (by decide) (br_f (by decide) (nm_r (show (0 : Int32) + 1 = 1 from rfl) s1))))))
end
section
theorem pa_cost {bi nt st ii oo bc bs : Int32} {a1 a2 a3 a4 a5 a6 a7 a8 a9 a10 a11 a12 a13 a14 a15 a16 a17 a18 a19 : Nat → Int32} {post : Int32 → Prop} {t l s : Int32} (q : pa_Q a5 a11 a12 a13) (ht : (t >>> ((1 : Int32) &&& 31)) &&& 1 = 1) (hs : 5 * pa_ones (t &&& ((0 : Int32) ^^^ (-1))) + 3 * pa_ones ((0 : Int32) &&& l) = s) (h2 : pa_pen (a5 1) (a8 3) bi (a11 3) l → post (s + 2)) (h0 : ¬ pa_pen (a5 1) (a8 3) bi (a11 3) l → post s) : wpX_costOf post (2, bi, 0, nt, st, ii, oo, bc, bs, a1, a2, a3, a4, a5, a6, a7, a8, a9, a10, a11, a12, a13, a14, a15, a16, a17, a18, a19) t l := by
  obtain ⟨h50, hn, _, _, h130, h131, _⟩ := q
  have e2 : ∀ x, post x → wX_costOf_29 post t l 2 bi 0 nt st ii oo bc bs a1 a2 a3 a4 a5 a6 a7 a8 a9 a10 a11 a12 a13 a14 a15 a16 a17 a18 a19 1 x 2 := fun x h => br_t (by decide) h
  have s1 : wX_costOf_29 post t l 2 bi 0 nt st ii oo bc bs a1 a2 a3 a4 a5 a6 a7 a8 a9 a10 a11 a12 a13 a14 a15 a16 a17 a18 a19 2 s 1 := by
    refine br_f (by decide) (br_t ht (And.intro (pk_in 1 10 (by decide)) (nm_r (show s + a13 (Int32.toNatClampNeg 1) = s by rw [pa_c1, h131]; exact Int32.add_zero s) (nm_r (show (3 : Int32) * 1 = 3 from rfl) (Exists.intro 2 (And.intro (pk_in 1 10 (by decide)) ?_))))))
    rcases hn with e | e
    · exact br_t (by rw [pa_c1, e] <;> decide) (nm_r (show (1 : Int32) + 1 = 2 from rfl) (e2 s (h0 (fun z => absurd (e.symm.trans z.1) (by decide)))))
    · have hx : ∀ x, post x → wX_costOf_64 post (wX_costOf_29 post t l 2 bi 0 nt st ii oo bc bs a1 a2 a3 a4 a5 a6 a7 a8 a9 a10 a11 a12 a13 a14 a15 a16 a17 a18 a19 1) t l 1 2 bi 0 nt st ii oo bc bs a1 a2 a3 a4 a5 a6 a7 a8 a9 a10 a11 a12 a13 a14 a15 a16 a17 a18 a19 1 x 4 := fun x h => And.intro (pk_in 1 10 (by decide)) (br_t (by rw [pa_c1, e] <;> decide) (nm_r (show (1 : Int32) + 1 = 2 from rfl) (e2 x h)))
      refine br_f (by rw [pa_c1, e] <;> decide) (pa_opt (br_c (fun z => br_t rfl (nm_r (Int32.add_zero s) (nm_r (show (3 : Int32) + 1 = 4 from rfl) (hx s (h0 (fun y => y.2.1 z)))))) (fun z => br_f (by decide) (pa_app (fun y => br_f (by decide) (And.intro (pk_in 3 30 (by decide)) (br_c (fun w => nm_e (nm_r (show (3 : Int32) + 1 = 4 from rfl) (hx _ (h2 ⟨e, z, y, w⟩)))) (fun w => nm_r (Int32.add_zero s) (nm_r (show (3 : Int32) + 1 = 4 from rfl) (hx s (h0 (fun v => w v.2.2.2)))))))) (fun y => br_t rfl (nm_r (Int32.add_zero s) (nm_r (show (3 : Int32) + 1 = 4 from rfl) (hx s (h0 (fun v => y v.2.2.1))))))))))
  have s0 : wX_costOf_29 post t l 2 bi 0 nt st ii oo bc bs a1 a2 a3 a4 a5 a6 a7 a8 a9 a10 a11 a12 a13 a14 a15 a16 a17 a18 a19 3 s 0 :=
    br_f (by decide) (br_c (fun _ => And.intro (pk_in 0 10 (by decide)) (nm_r (show s + a13 (Int32.toNatClampNeg 0) = s by rw [pa_c0, h130]; exact Int32.add_zero s) (nm_r (show (3 : Int32) * 0 = 0 from rfl) (Exists.intro 1 (And.intro (pk_in 0 10 (by decide)) (br_t (by rw [pa_c0, h50] <;> decide) (nm_r (show (0 : Int32) + 1 = 1 from rfl) s1))))))) (fun _ => nm_r (show (0 : Int32) + 1 = 1 from rfl) s1))
  unfold wpX_costOf
  exact pa_ones_w _ rfl (pa_ones_w _ rfl (nm_r hs (Exists.intro 3 s0)))
theorem pa_ob {bi nt st ii oo bc : Int32} {a1 a2 a3 a4 a5 a6 a7 a8 a9 a10 a11 a12 a13 a14 a15 a16 a17 a18 a19 : Nat → Int32} {post : St2 → Prop} {p t s : Int32} (e : p = t) (q : pa_Q a5 a11 a12 a13) (ht : (t >>> ((1 : Int32) &&& 31)) &&& 1 = 1) (hs : 5 * pa_ones (t &&& ((0 : Int32) ^^^ (-1))) + 3 * pa_ones ((0 : Int32) &&& (t ^^^ (-1))) = s) (h2 : pa_pen (a5 1) (a8 3) bi (a11 3) (t ^^^ (-1)) → post (2, bi, 0, nt, st, ii, oo, s + 2, t, a1, a2, a3, a4, a5, a6, a7, a8, a9, a10, a11, a12, a13, a14, a15, a16, a17, a18, a19)) (h0 : ¬ pa_pen (a5 1) (a8 3) bi (a11 3) (t ^^^ (-1)) → post (2, bi, 0, nt, st, ii, oo, s, t, a1, a2, a3, a4, a5, a6, a7, a8, a9, a10, a11, a12, a13, a14, a15, a16, a17, a18, a19)) : wpX_offerBest post (2, bi, 0, nt, st, ii, oo, bc, (-1), a1, a2, a3, a4, a5, a6, a7, a8, a9, a10, a11, a12, a13, a14, a15, a16, a17, a18, a19) p := by
  subst e
  unfold wpX_offerBest
  exact pa_cost q ht hs (fun z => br_t (by decide) (h2 z)) (fun z => br_t (by decide) (h0 z))
end
section
/-- depth 0, both turns done: the search ends -/
theorem pa_l3 {bi cu nt st ii oo bc bs : Int32} {a1 a2 a3 a4 a5 a6 a7 a8 a9 a10 a11 a12 a13 a14 a15 a16 a17 a18 a19 : Nat → Int32} {post : St2 → Prop} (h14 : a14 0 = 2) (h15 : a15 0 = 0) (h16 : a16 0 = 2) (hp : post (2, bi, cu, nt, st, ii, oo, bc, bs, a1, a2, a3, a4, a5, a6, a7, a8, a9, a10, a11, a12, a13, a14, a15, a16, a17, a18, a19)) : wX_search_42 post 2 0 3 2 bi cu nt st ii oo bc bs a1 a2 a3 a4 a5 a6 a7 a8 a9 a10 a11 a12 a13 a14 a15 a16 a17 a18 a19 :=
  br_f (by decide) (br_f (by decide) (And.intro (pk_in 0 12 (by decide)) (And.intro (pk_in 0 12 (by decide)) (pa_fo2 (show a14 (Int32.toNatClampNeg 0) ||| a15 (Int32.toNatClampNeg 0) = 2 by rw [pa_c0, h14, h15] <;> decide) (br_f (by decide) (And.intro (pk_in 0 12 (by decide)) (br_t h16 (nm_r (show (0 : Int32) + (-1) = -1 from rfl) (nm_r (show (3 : Int32) + 1 = 4 from rfl) (br_f (by decide) (br_t (by decide) hp)))))))))))
/-- depth 0, the second turn: unit 0 in costs more than the best -/
theorem pa_l2 {bi nt st ii oo bc : Int32} {a1 a2 a3 a4 a5 a6 a7 a8 a9 a10 a11 a12 a13 a14 a15 a16 a17 a18 a19 : Nat → Int32} {post : St2 → Prop} (q : pa_Q a5 a11 a12 a13) (hm : ¬ pa_must (a5 1) (a8 3) bi) (hc : bc < 10) (hc2 : bc < 12) (h14 : a14 0 = 2) (h15 : a15 0 = 0) (h16 : a16 0 = 1) (hp : ∀ (i o : Int32) (y16 : Nat → Int32), post (2, bi, 0, nt, st, i, o, bc, 2, a1, a2, a3, a4, a5, a6, a7, a8, a9, a10, a11, a12, a13, a14, a15, y16, a17, a18, a19)) : wX_search_42 post 3 0 2 2 bi 0 nt st ii oo bc 2 a1 a2 a3 a4 a5 a6 a7 a8 a9 a10 a11 a12 a13 a14 a15 a16 a17 a18 a19 := by
  have s3 : wX_search_42 post 2 0 3 2 bi 0 nt st 3 0 bc 2 a1 a2 a3 a4 a5 a6 a7 a8 a9 a10 a11 a12 a13 a14 a15 (upd a16 0 2) a17 a18 a19 := pa_l3 h14 h15 pk_us (hp 3 0 _)
  refine br_f (by decide) (br_f (by decide) (And.intro (pk_in 0 12 (by decide)) (And.intro (pk_in 0 12 (by decide)) (pa_fo2 (show a14 (Int32.toNatClampNeg 0) ||| a15 (Int32.toNatClampNeg 0) = 2 by rw [pa_c0, h14, h15] <;> decide) (br_f (by decide) (And.intro (pk_in 0 12 (by decide)) (br_f (by rw [pa_c0, h16] <;> decide) (And.intro (pk_in 0 12 (by decide)) (nm_r (show a14 (Int32.toNatClampNeg 0) = 2 from h14) (And.intro (pk_in 0 12 (by decide)) (nm_r (show a15 (Int32.toNatClampNeg 0) = 0 from h15) (And.intro (pk_in 0 12 (by decide)) (br_f (by rw [pa_c0, h16] <;> decide) (nm_r (show (2 : Int32) ||| ((1 : Int32) <<< ((0 : Int32) &&& 31)) = 3 from rfl) ?_))))))))))))))
  refine And.intro (pk_in 0 12 (by decide)) (And.intro (pk_in 0 12 (by decide)) (nm_r (show upd a16 (Int32.toNatClampNeg 0) (a16 (Int32.toNatClampNeg 0) + 1) = upd a16 0 2 by rw [pa_c0, h16] <;> rfl) (pa_f1 q hm (by decide) (br_f (by decide) (br_f (by decide) ?_)))))
  exact pa_cost (s := 10) q (by decide) rfl (fun _ => br_t hc2 (nm_r (show (2 : Int32) + 1 = 3 from rfl) s3)) (fun _ => br_t hc (nm_r (show (2 : Int32) + 1 = 3 from rfl) s3))
theorem pa_and2 {m : Int32} (h : m = 0 ∨ m = 1) : m &&& (((2 : Int32) ^^^ (-1)) ^^^ (-1)) = 0 := by
  rcases h with e | e
  · rw [e] <;> decide
  · rw [e] <;> decide
/-- depth 1, all decided: unit 1 alone is the best so far -/
theorem pa_l1 {bi nt st ii oo bc : Int32} {a1 a2 a3 a4 a5 a6 a7 a8 a9 a10 a11 a12 a13 a14 a15 a16 a17 a18 a19 : Nat → Int32} {post : St2 → Prop} {C : Int32} (q : pa_Q a5 a11 a12 a13) (hm : ¬ pa_must (a5 1) (a8 3) bi) (hC7 : pa_po (a5 1) (a8 3) bi → C = 7) (hC5 : ¬ pa_po (a5 1) (a8 3) bi → C = 5) (h14 : a14 0 = 2) (h15 : a15 0 = 0) (h16 : a16 0 = 1) (h141 : a14 1 = 2) (h151 : a15 1 = 1) (hp : ∀ (i o : Int32) (y16 : Nat → Int32), post (2, bi, 0, nt, st, i, o, C, 2, a1, a2, a3, a4, a5, a6, a7, a8, a9, a10, a11, a12, a13, a14, a15, y16, a17, a18, a19)) : wX_search_42 post 4 1 1 2 bi 0 nt st ii oo bc (-1) a1 a2 a3 a4 a5 a6 a7 a8 a9 a10 a11 a12 a13 a14 a15 a16 a17 a18 a19 := by
  refine br_f (by decide) (br_f (by decide) (And.intro (pk_in 1 12 (by decide)) (And.intro (pk_in 1 12 (by decide)) (pa_fo3 (show a14 (Int32.toNatClampNeg 1) ||| a15 (Int32.toNatClampNeg 1) = 3 by rw [pa_c1, h141, h151] <;> decide) (br_t rfl (And.intro (pk_in 1 12 (by decide)) (pa_ob (t := 2) (s := 5) (show a14 (Int32.toNatClampNeg 1) = 2 from h141) q (by decide) rfl (fun z => ?_) (fun z => ?_))))))))
  · have e : C = 7 := hC7 ⟨z.1, z.2.1, z.2.2.1⟩
    subst e
    exact nm_r (show (1 : Int32) + (-1) = 0 from rfl) (nm_r (show (1 : Int32) + 1 = 2 from rfl) (pa_l2 q hm (by decide) (by decide) h14 h15 h16 hp))
  · have e : C = 5 := hC5 (fun t => z ⟨t.1, t.2.1, t.2.2, pa_and2 (q.2.2.2.2.2.2 t.1)⟩)
    subst e
    exact nm_r (show (1 : Int32) + (-1) = 0 from rfl) (nm_r (show (1 : Int32) + 1 = 2 from rfl) (pa_l2 q hm (by decide) (by decide) h14 h15 h16 hp))
/-- depth 0, the first turn: unit 0 out -/
theorem pa_l0 {bi nt st ii oo bc : Int32} {a1 a2 a3 a4 a5 a6 a7 a8 a9 a10 a11 a12 a13 a14 a15 a16 a17 a18 a19 : Nat → Int32} {post : St2 → Prop} {C : Int32} (q : pa_Q a5 a11 a12 a13) (hm : ¬ pa_must (a5 1) (a8 3) bi) (hC7 : pa_po (a5 1) (a8 3) bi → C = 7) (hC5 : ¬ pa_po (a5 1) (a8 3) bi → C = 5) (h14 : a14 0 = 2) (h15 : a15 0 = 0) (h16 : a16 0 = 0) (hp : ∀ (i o : Int32) (y14 y15 y16 : Nat → Int32), post (2, bi, 0, nt, st, i, o, C, 2, a1, a2, a3, a4, a5, a6, a7, a8, a9, a10, a11, a12, a13, y14, y15, y16, a17, a18, a19)) : wX_search_42 post 5 0 0 2 bi 0 nt st ii oo bc (-1) a1 a2 a3 a4 a5 a6 a7 a8 a9 a10 a11 a12 a13 a14 a15 a16 a17 a18 a19 := by
  have s1 : wX_search_42 post 4 1 1 2 bi 0 nt st 2 1 bc (-1) a1 a2 a3 a4 a5 a6 a7 a8 a9 a10 a11 a12 a13 (upd a14 1 2) (upd a15 1 1) (upd (upd a16 0 1) 1 0) a17 a18 a19 :=
    pa_l1 q hm hC7 hC5 ((pk_un (by decide)).trans h14) ((pk_un (by decide)).trans h15) ((pk_un (by decide)).trans pk_us) pk_us pk_us (fun i o y16 => hp i o _ _ y16)
  refine br_f (by decide) (br_f (by decide) (And.intro (pk_in 0 12 (by decide)) (And.intro (pk_in 0 12 (by decide)) (pa_fo2 (show a14 (Int32.toNatClampNeg 0) ||| a15 (Int32.toNatClampNeg 0) = 2 by rw [pa_c0, h14, h15] <;> decide) (br_f (by decide) (And.intro (pk_in 0 12 (by decide)) (br_f (by rw [pa_c0, h16] <;> decide) (And.intro (pk_in 0 12 (by decide)) (nm_r (show a14 (Int32.toNatClampNeg 0) = 2 from h14) (And.intro (pk_in 0 12 (by decide)) (nm_r (show a15 (Int32.toNatClampNeg 0) = 0 from h15) (And.intro (pk_in 0 12 (by decide)) (br_t h16 (nm_r (show (0 : Int32) ||| ((1 : Int32) <<< ((0 : Int32) &&& 31)) = 1 from rfl) ?_))))))))))))))
  refine And.intro (pk_in 0 12 (by decide)) (And.intro (pk_in 0 12 (by decide)) (nm_r (show upd a16 (Int32.toNatClampNeg 0) (a16 (Int32.toNatClampNeg 0) + 1) = upd a16 0 1 by rw [pa_c0, h16] <;> rfl) (pa_f1 q hm (by decide) (br_f (by decide) (br_t (by decide) ?_)))))
  refine nm_r (show (0 : Int32) + 1 = 1 from rfl) (And.intro (pk_in 1 12 (by decide)) (nm_r (show upd a14 (Int32.toNatClampNeg 1) 2 = upd a14 1 2 from rfl) (And.intro (pk_in 1 12 (by decide)) (nm_r (show upd a15 (Int32.toNatClampNeg 1) 1 = upd a15 1 1 from rfl) (And.intro (pk_in 1 12 (by decide)) (nm_r (show upd (upd a16 0 1) (Int32.toNatClampNeg 1) 0 = upd (upd a16 0 1) 1 0 from rfl) ?_))))))
  exact nm_r (show (0 : Int32) + 1 = 1 from rfl) s1
/-- depth 0, both in: the only choice -/
theorem pa_m0 {bi nt st ii oo bc : Int32} {a1 a2 a3 a4 a5 a6 a7 a8 a9 a10 a11 a12 a13 a14 a15 a16 a17 a18 a19 : Nat → Int32} {post : St2 → Prop} (q : pa_Q a5 a11 a12 a13) (hm : pa_must (a5 1) (a8 3) bi) (h14 : a14 0 = 3) (h15 : a15 0 = 0) (hp : post (2, bi, 0, nt, st, ii, oo, 10, 3, a1, a2, a3, a4, a5, a6, a7, a8, a9, a10, a11, a12, a13, a14, a15, a16, a17, a18, a19)) : wX_search_42 post 2 0 0 2 bi 0 nt st ii oo bc (-1) a1 a2 a3 a4 a5 a6 a7 a8 a9 a10 a11 a12 a13 a14 a15 a16 a17 a18 a19 :=
  br_f (by decide) (br_f (by decide) (And.intro (pk_in 0 12 (by decide)) (And.intro (pk_in 0 12 (by decide)) (pa_fo3 (show a14 (Int32.toNatClampNeg 0) ||| a15 (Int32.toNatClampNeg 0) = 3 by rw [pa_c0, h14, h15] <;> decide) (br_t rfl (And.intro (pk_in 0 12 (by decide)) (pa_ob (t := 3) (s := 10) (show a14 (Int32.toNatClampNeg 0) = 3 from h14) q (by decide) rfl (fun z => absurd hm.2.1 z.2.1) (fun _ => nm_r (show (0 : Int32) + (-1) = -1 from rfl) (nm_r (show (0 : Int32) + 1 = 1 from rfl) (br_f (by decide) (br_t (by decide) hp)))))))))))
/-- the answer S of a search and its cost C, against unit 1's need -/
abbrev pa_R (S C n k b v lo hi : Int32) : Prop := (S = 3 ∧ C = 10 ∧ pa_must n k b ∧ pa_hp v lo hi) ∨ (S = -1 ∧ C = 0 ∧ pa_must n k b ∧ ¬ pa_hp v lo hi) ∨ (S = 2 ∧ C = 7 ∧ pa_po n k b) ∨ (S = 2 ∧ C = 5 ∧ ¬ pa_must n k b ∧ ¬ pa_po n k b)
theorem pa_search {bi nt st ii oo bc bs : Int32} {a1 a2 a3 a4 a5 a6 a7 a8 a9 a10 a11 a12 a13 a14 a15 a16 a17 a18 a19 : Nat → Int32} {post : St2 → Prop} {S C : Int32} (K : pa_K a1 a4 a5 a6 a8) (R : pa_R S C (a5 1) (a8 3) bi (a7 0) (a9 3) (a10 3)) (hp : ∀ (i o : Int32) (y11 y12 y13 y14 y15 y16 : Nat → Int32), post (2, bi, 0, nt, st, i, o, C, S, a1, a2, a3, a4, a5, a6, a7, a8, a9, a10, y11, y12, y13, y14, y15, y16, a17, a18, a19)) : wpX_search post (2, bi, 0, nt, st, ii, oo, bc, bs, a1, a2, a3, a4, a5, a6, a7, a8, a9, a10, a11, a12, a13, a14, a15, a16, a17, a18, a19) 2 0 := by
  unfold wpX_search
  refine pa_pr K (fun y11 y12 y13 q m => ?_)
  have free : ¬ pa_must (a5 1) (a8 3) bi → (pa_po (a5 1) (a8 3) bi → C = 7) → (¬ pa_po (a5 1) (a8 3) bi → C = 5) → S = 2 → ∃ n, wX_search_42 post n 0 0 2 bi 0 nt st 2 0 0 (-1) a1 a2 a3 a4 a5 a6 a7 a8 a9 a10 y11 y12 y13 (upd a14 0 2) (upd a15 0 0) (upd a16 0 0) a17 a18 a19 := by
    intro hm h7 h5 e
    subst e
    exact Exists.intro 5 (pa_l0 q hm h7 h5 pk_us pk_us pk_us (fun i o y14 y15 y16 => hp i o y11 y12 y13 y14 y15 y16))
  rcases R with ⟨rfl, rfl, hm, hh⟩ | ⟨rfl, rfl, hm, hh⟩ | ⟨hS, hC, ho⟩ | ⟨hS, hC, hm, ho⟩
  · have h11 : y11 3 = 1 := (m hm.1).elim (fun t => t.2) (fun t => absurd hh t.1)
    exact pa_f3 q hm h11 (br_f (by decide) (And.intro (pk_in 0 12 (by decide)) (nm_r (show upd a14 (Int32.toNatClampNeg 0) 3 = upd a14 0 3 from rfl) (And.intro (pk_in 0 12 (by decide)) (nm_r (show upd a15 (Int32.toNatClampNeg 0) 0 = upd a15 0 0 from rfl) (And.intro (pk_in 0 12 (by decide)) (nm_r (show upd a16 (Int32.toNatClampNeg 0) 0 = upd a16 0 0 from rfl) (Exists.intro 2 (pa_m0 q hm pk_us pk_us (hp 3 0 y11 y12 y13 _ _ _))))))))))
  · have h11 : y11 3 = 0 := (m hm.1).elim (fun t => absurd t.1 hh) (fun t => t.2)
    exact pa_f2 q hm h11 (br_t rfl (hp 2 0 y11 y12 y13 _ _ _))
  · have hm : ¬ pa_must (a5 1) (a8 3) bi := fun t => ho.2.1 t.2.1
    exact pa_f1 q hm (by decide) (br_f (by decide) (And.intro (pk_in 0 12 (by decide)) (nm_r (show upd a14 (Int32.toNatClampNeg 0) 2 = upd a14 0 2 from rfl) (And.intro (pk_in 0 12 (by decide)) (nm_r (show upd a15 (Int32.toNatClampNeg 0) 0 = upd a15 0 0 from rfl) (And.intro (pk_in 0 12 (by decide)) (nm_r (show upd a16 (Int32.toNatClampNeg 0) 0 = upd a16 0 0 from rfl) (free hm (fun _ => hC) (fun t => absurd ho t) hS))))))))
  · exact pa_f1 q hm (by decide) (br_f (by decide) (And.intro (pk_in 0 12 (by decide)) (nm_r (show upd a14 (Int32.toNatClampNeg 0) 2 = upd a14 0 2 from rfl) (And.intro (pk_in 0 12 (by decide)) (nm_r (show upd a15 (Int32.toNatClampNeg 0) 0 = upd a15 0 0 from rfl) (And.intro (pk_in 0 12 (by decide)) (nm_r (show upd a16 (Int32.toNatClampNeg 0) 0 = upd a16 0 0 from rfl) (free hm (fun t => absurd t ho) (fun _ => hC) hS))))))))
end
section
/-- plan's answer out of the best set -/
abbrev pa_A (S : Int32) : Int32 := if 0 ≤ S then S else -2
theorem pa_plan {bi nt st ii oo bc bs : Int32} {a1 a2 a3 a4 a5 a6 a7 a8 a9 a10 a11 a12 a13 a14 a15 a16 a17 a18 a19 : Nat → Int32} {post : Int32 → St2 → Prop} {S C : Int32} (K : pa_K a1 a4 a5 a6 a8) (R : pa_R S C (a5 1) (a8 3) bi (a7 0) (a9 3) (a10 3)) (hp : ∀ (i o : Int32) (y11 y12 y13 y14 y15 y16 : Nat → Int32), post (pa_A S) (2, bi, 0, nt, st, i, o, C, S, a1, a2, a3, a4, a5, a6, a7, a8, a9, a10, y11, y12, y13, y14, y15, y16, a17, a18, a19)) : wpX_plan post (2, bi, 0, nt, st, ii, oo, bc, bs, a1, a2, a3, a4, a5, a6, a7, a8, a9, a10, a11, a12, a13, a14, a15, a16, a17, a18, a19) 2 0 := by
  unfold wpX_plan
  refine pa_set (by decide) (by decide) (br_f (by decide) (pa_set (by decide) (by decide) (br_f (by decide) (pa_search K R (fun i o y11 y12 y13 y14 y15 y16 => ?_)))))
  have h := hp i o y11 y12 y13 y14 y15 y16
  by_cases z : 0 ≤ S
  · rw [show pa_A S = S from if_pos z] at h
    exact br_t z h
  · rw [show pa_A S = -2 from if_neg z] at h
    exact br_f z h
theorem pa_planCost {bi nt st ii oo bc bs : Int32} {a1 a2 a3 a4 a5 a6 a7 a8 a9 a10 a11 a12 a13 a14 a15 a16 a17 a18 a19 : Nat → Int32} {post : Int32 → St2 → Prop} {S C : Int32} (K : pa_K a1 a4 a5 a6 a8) (R : pa_R S C (a5 1) (a8 3) bi (a7 0) (a9 3) (a10 3)) (hp : ∀ (i o : Int32) (y11 y12 y13 y14 y15 y16 : Nat → Int32), post (if 0 ≤ S then C else -2) (2, bi, 0, nt, st, i, o, C, S, a1, a2, a3, a4, a5, a6, a7, a8, a9, a10, y11, y12, y13, y14, y15, y16, a17, a18, a19)) : wpX_planCost post (2, bi, 0, nt, st, ii, oo, bc, bs, a1, a2, a3, a4, a5, a6, a7, a8, a9, a10, a11, a12, a13, a14, a15, a16, a17, a18, a19) 2 0 := by
  unfold wpX_planCost
  refine pa_set (by decide) (by decide) (br_f (by decide) (pa_set (by decide) (by decide) (br_f (by decide) (pa_search K R (fun i o y11 y12 y13 y14 y15 y16 => ?_)))))
  have h := hp i o y11 y12 y13 y14 y15 y16
  by_cases z : 0 ≤ S
  · rw [if_pos z] at h
    exact br_t z h
  · rw [if_neg z] at h
    exact br_f z h
/-- isSound of a set x that holds unit 1 -/
theorem pa_sound {bi cu nt st ii oo bc bs : Int32} {a1 a2 a3 a4 a5 a6 a7 a8 a9 a10 a11 a12 a13 a14 a15 a16 a17 a18 a19 : Nat → Int32} {post : Int32 → Prop} {x : Int32} (q : pa_Q a5 a11 a12 a13) (hx : (x >>> ((1 : Int32) &&& 31)) &&& 1 = 1) (h0 : pa_must (a5 1) (a8 3) bi → a11 3 &&& x = 0 → post 0) (h1 : ¬ (pa_must (a5 1) (a8 3) bi ∧ a11 3 &&& x = 0) → post 1) : wpX_isSound post (2, bi, cu, nt, st, ii, oo, bc, bs, a1, a2, a3, a4, a5, a6, a7, a8, a9, a10, a11, a12, a13, a14, a15, a16, a17, a18, a19) x := by
  obtain ⟨h50, hn, h120, h121, _, _, _⟩ := q
  have s1 : wX_isSound_2 post x 2 bi cu nt st ii oo bc bs a1 a2 a3 a4 a5 a6 a7 a8 a9 a10 a11 a12 a13 a14 a15 a16 a17 a18 a19 2 1 := by
    refine br_f (by decide) (br_t hx (And.intro (pk_in 1 10 (by decide)) (br_t (show a12 (Int32.toNatClampNeg 1) &&& x = 0 by rw [pa_c1, h121]; exact Int32.zero_and) (nm_r (show (3 : Int32) * 1 = 3 from rfl) (Exists.intro 2 (And.intro (pk_in 1 10 (by decide)) ?_))))))
    rcases hn with e | e
    · exact br_t (by rw [pa_c1, e] <;> decide) (nm_r (show (1 : Int32) + 1 = 2 from rfl) (br_t (by decide) (h1 (fun z => absurd (e.symm.trans z.1.1) (by decide)))))
    · have hy : post 1 → wX_isSound_36 post (wX_isSound_2 post x 2 bi cu nt st ii oo bc bs a1 a2 a3 a4 a5 a6 a7 a8 a9 a10 a11 a12 a13 a14 a15 a16 a17 a18 a19 1) x 1 2 bi cu nt st ii oo bc bs a1 a2 a3 a4 a5 a6 a7 a8 a9 a10 a11 a12 a13 a14 a15 a16 a17 a18 a19 1 4 := fun h => And.intro (pk_in 1 10 (by decide)) (br_t (by rw [pa_c1, e] <;> decide) (nm_r (show (1 : Int32) + 1 = 2 from rfl) (br_t (by decide) h)))
      exact br_f (by rw [pa_c1, e] <;> decide) (pa_opt (br_c (fun z => br_t rfl (pa_app (fun y => br_f (by decide) (And.intro (pk_in 3 30 (by decide)) (br_c (fun w => h0 ⟨e, z, y⟩ w) (fun w => nm_r (show (3 : Int32) + 1 = 4 from rfl) (hy (h1 (fun t => w t.2))))))) (fun y => br_t rfl (nm_r (show (3 : Int32) + 1 = 4 from rfl) (hy (h1 (fun t => y t.1.2.2))))))) (fun z => br_f (by decide) (nm_r (show (3 : Int32) + 1 = 4 from rfl) (hy (h1 (fun t => z t.1.2.1)))))))
  exact Exists.intro 3 (br_f (by decide) (br_c (fun _ => And.intro (pk_in 0 10 (by decide)) (br_t (show a12 (Int32.toNatClampNeg 0) &&& x = 0 by rw [pa_c0, h120]; exact Int32.zero_and) (nm_r (show (3 : Int32) * 0 = 0 from rfl) (Exists.intro 1 (And.intro (pk_in 0 10 (by decide)) (br_t (by rw [pa_c0, h50] <;> decide) (nm_r (show (0 : Int32) + 1 = 1 from rfl) s1))))))) (fun _ => nm_r (show (0 : Int32) + 1 = 1 from rfl) s1)))
theorem pa_e4 {bi cu nt st ii oo bc bs : Int32} {a1 a2 a3 a4 a5 a6 a7 a8 a9 a10 a11 a12 a13 a14 a15 a16 a17 a18 a19 : Nat → Int32} {post : Int32 → St2 → Prop} {x : Int32} (h : post x (2, bi, cu, nt, st, ii, oo, bc, bs, a1, a2, a3, a4, a5, a6, a7, a8, a9, a10, a11, a12, a13, a14, a15, a16, a17, a18, a19)) : wX_excess_35 post 2 0 2 bi cu nt st ii oo bc bs a1 a2 a3 a4 a5 a6 a7 a8 a9 a10 a11 a12 a13 a14 a15 a16 a17 a18 a19 1 x 4 := br_t (by decide) h
/-- set 3 with nothing better found yet -/
theorem pa_e3 {bi cu nt st ii oo bc bs : Int32} {a1 a2 a3 a4 a5 a6 a7 a8 a9 a10 a11 a12 a13 a14 a15 a16 a17 a18 a19 : Nat → Int32} {post : Int32 → St2 → Prop} (q : pa_Q a5 a11 a12 a13) (h0 : pa_must (a5 1) (a8 3) bi → a11 3 &&& 3 = 0 → post 1 (2, bi, cu, nt, st, ii, oo, bc, bs, a1, a2, a3, a4, a5, a6, a7, a8, a9, a10, a11, a12, a13, a14, a15, a16, a17, a18, a19)) (h1 : ¬ (pa_must (a5 1) (a8 3) bi ∧ a11 3 &&& 3 = 0) → post 0 (2, bi, cu, nt, st, ii, oo, bc, bs, a1, a2, a3, a4, a5, a6, a7, a8, a9, a10, a11, a12, a13, a14, a15, a16, a17, a18, a19)) : wX_excess_35 post 2 0 2 bi cu nt st ii oo bc bs a1 a2 a3 a4 a5 a6 a7 a8 a9 a10 a11 a12 a13 a14 a15 a16 a17 a18 a19 2 1 3 :=
  br_f (by decide) (pa_ones_w 0 rfl (pa_ones_w 0 rfl (nm_r (show (0 : Int32) + 0 = 0 from rfl) (br_f (by decide) (pa_sound q (by decide) (fun a b => br_t rfl (nm_r (show (3 : Int32) + 1 = 4 from rfl) (pa_e4 (h0 a b)))) (fun a => br_f (by decide) (nm_r (show (3 : Int32) + 1 = 4 from rfl) (pa_e4 (h1 a)))))))))
/-- set 3 when set 2 is sound -/
theorem pa_e3b {bi cu nt st ii oo bc bs : Int32} {a1 a2 a3 a4 a5 a6 a7 a8 a9 a10 a11 a12 a13 a14 a15 a16 a17 a18 a19 : Nat → Int32} {post : Int32 → St2 → Prop} (h : post 0 (2, bi, cu, nt, st, ii, oo, bc, bs, a1, a2, a3, a4, a5, a6, a7, a8, a9, a10, a11, a12, a13, a14, a15, a16, a17, a18, a19)) : wX_excess_35 post 2 0 2 bi cu nt st ii oo bc bs a1 a2 a3 a4 a5 a6 a7 a8 a9 a10 a11 a12 a13 a14 a15 a16 a17 a18 a19 2 0 3 :=
  br_f (by decide) (pa_ones_w 0 rfl (pa_ones_w 0 rfl (nm_r (show (0 : Int32) + 0 = 0 from rfl) (br_t (by decide) (nm_r (show (3 : Int32) + 1 = 4 from rfl) (pa_e4 h))))))
theorem pa_e2 {bi cu nt st ii oo bc bs : Int32} {a1 a2 a3 a4 a5 a6 a7 a8 a9 a10 a11 a12 a13 a14 a15 a16 a17 a18 a19 : Nat → Int32} {post : Int32 → St2 → Prop} (q : pa_Q a5 a11 a12 a13) (h0 : pa_must (a5 1) (a8 3) bi → a11 3 = 0 → post 1 (2, bi, cu, nt, st, ii, oo, bc, bs, a1, a2, a3, a4, a5, a6, a7, a8, a9, a10, a11, a12, a13, a14, a15, a16, a17, a18, a19)) (h1 : ¬ (pa_must (a5 1) (a8 3) bi ∧ a11 3 = 0) → post 0 (2, bi, cu, nt, st, ii, oo, bc, bs, a1, a2, a3, a4, a5, a6, a7, a8, a9, a10, a11, a12, a13, a14, a15, a16, a17, a18, a19)) : wX_excess_35 post 2 0 2 bi cu nt st ii oo bc bs a1 a2 a3 a4 a5 a6 a7 a8 a9 a10 a11 a12 a13 a14 a15 a16 a17 a18 a19 3 1 2 := by
  have hv : a5 1 = 1 → a11 3 = 0 ∨ a11 3 = 1 := q.2.2.2.2.2.2
  refine br_f (by decide) (pa_ones_w 0 rfl (pa_ones_w 0 rfl (nm_r (show (0 : Int32) + 0 = 0 from rfl) (br_f (by decide) (pa_sound q (by decide) (fun a b => br_t rfl (nm_r (show (2 : Int32) + 1 = 3 from rfl) (pa_e3 q (fun _ d => h0 a ?_) (fun d => h1 ?_)))) (fun a => br_f (by decide) (nm_r (show (2 : Int32) + 1 = 3 from rfl) (pa_e3b (h1 ?_)))))))))
  · rcases hv a.1 with e | e
    · exact e
    · rw [e] at d
      exact absurd d (by decide)
  · exact fun t => d ⟨t.1, by rw [t.2] <;> decide⟩
  · exact fun t => a ⟨t.1, by rw [t.2] <;> decide⟩
theorem pa_excess {bi cu nt st ii oo bc bs : Int32} {a1 a2 a3 a4 a5 a6 a7 a8 a9 a10 a11 a12 a13 a14 a15 a16 a17 a18 a19 : Nat → Int32} {post : Int32 → St2 → Prop} {S C : Int32} (K : pa_K a1 a4 a5 a6 a8) (R : pa_R S C (a5 1) (a8 3) bi (a7 0) (a9 3) (a10 3)) (hp : ∀ y11 y12 y13 : Nat → Int32, post (if 0 ≤ S then 0 else 1) (2, bi, cu, nt, st, ii, oo, bc, bs, a1, a2, a3, a4, a5, a6, a7, a8, a9, a10, y11, y12, y13, a14, a15, a16, a17, a18, a19)) : wpX_excess post (2, bi, cu, nt, st, ii, oo, bc, bs, a1, a2, a3, a4, a5, a6, a7, a8, a9, a10, a11, a12, a13, a14, a15, a16, a17, a18, a19) 2 0 := by
  unfold wpX_excess
  refine pa_set (by decide) (by decide) (br_f (by decide) (pa_set (by decide) (by decide) (br_f (by decide) (pa_pr K (fun y11 y12 y13 q m => pa_ones_w 1 rfl (pa_ones_w 0 rfl (nm_r (show (1 : Int32) + 0 = 1 from rfl) (Exists.intro 5 ?_))))))))
  have h := hp y11 y12 y13
  have s2 : wX_excess_35 post 2 0 2 bi cu nt st ii oo bc bs a1 a2 a3 a4 a5 a6 a7 a8 a9 a10 y11 y12 y13 a14 a15 a16 a17 a18 a19 3 1 2 := by
    refine pa_e2 q (fun a b => ?_) (fun a => ?_)
    · rcases R with ⟨rfl, rfl, hm, hh⟩ | ⟨rfl, rfl, hm, hh⟩ | ⟨rfl, rfl, ho⟩ | ⟨rfl, rfl, hm, ho⟩
      · exact absurd ((m a.1).elim (fun t => t.2) (fun t => absurd hh t.1)) (by rw [b] <;> decide)
      · exact h
      · exact absurd a.2.1 ho.2.1
      · exact absurd a hm
    · rcases R with ⟨rfl, rfl, hm, hh⟩ | ⟨rfl, rfl, hm, hh⟩ | ⟨rfl, rfl, ho⟩ | ⟨rfl, rfl, hm, ho⟩
      · exact h
      · exact absurd ⟨hm, (m hm.1).elim (fun t => absurd t.1 hh) (fun t => t.2)⟩ a
      · exact h
      · exact h
  exact br_f (by decide) (pa_ones_w 1 rfl (pa_ones_w 0 rfl (nm_r (show (1 : Int32) + 0 = 1 from rfl) (br_t (by decide) (nm_r (show (0 : Int32) + 1 = 1 from rfl) (br_f (by decide) (pa_ones_w 1 rfl (pa_ones_w 0 rfl (nm_r (show (1 : Int32) + 0 = 1 from rfl) (br_t (by decide) (nm_r (show (1 : Int32) + 1 = 2 from rfl) s2)))))))))))
end
section
theorem pa_ch2 {bi cu st ii oo bc bs : Int32} {a1 a2 a3 a4 a5 a6 a7 a8 a9 a10 a11 a12 a13 a14 a15 a16 a17 a18 a19 : Nat → Int32} {post : Int32 → St2 → Prop} {x : Int32} (hp : post st (2, bi, cu, 1, st, ii, oo, bc, bs, a1, a2, a3, a4, a5, a6, a7, a8, a9, a10, a11, a12, a13, a14, a15, a16, a17, upd a18 0 cu, a19)) : wX_changeTo_83 post x (-1) 0 1 2 2 bi cu 0 st ii oo bc bs a1 a2 a3 a4 a5 a6 a7 a8 a9 a10 a11 a12 a13 a14 a15 a16 a17 a18 a19 :=
  br_t (by decide) (br_f (by decide) (And.intro (pk_in 0 8 (by decide)) (nm_r (show upd a18 (Int32.toNatClampNeg 0) cu = upd a18 0 cu from rfl) (nm_r (show (0 : Int32) + 1 = 1 from rfl) hp))))
theorem pa_chd {bi nt st ii oo bc bs : Int32} {a1 a2 a3 a4 a5 a6 a7 a8 a9 a10 a11 a12 a13 a14 a15 a16 a17 a18 a19 : Nat → Int32} {post : Int32 → St2 → Prop} {x : Int32} (h : ∃ n, wX_changeTo_83 post x (-1) 0 n 0 2 bi 0 nt 0 ii oo bc bs a1 a2 a3 a4 a5 a6 a7 a8 a9 a10 a11 a12 a13 a14 a15 a16 a17 a18 a19) : wpX_changeTo post (2, bi, 0, nt, st, ii, oo, bc, bs, a1, a2, a3, a4, a5, a6, a7, a8, a9, a10, a11, a12, a13, a14, a15, a16, a17, a18, a19) x (-1) := by
  have z1 : ¬ ((((0 : Int32) &&& (x ^^^ (-1))) >>> ((1 : Int32) &&& 31)) &&& 1) = 1 := by rw [Int32.zero_and] <;> decide
  have z0 : ¬ ((((0 : Int32) &&& (x ^^^ (-1))) >>> ((0 : Int32) &&& 31)) &&& 1) = 1 := by rw [Int32.zero_and] <;> decide
  exact nm_r (show (2 : Int32) - 1 = 1 from rfl) (Exists.intro 3 (br_f (by decide) (br_f z1 (br_f z1 (nm_r (show (1 : Int32) + (-1) = 0 from rfl) (br_f (by decide) (br_f z0 (br_f z0 (nm_r (show (0 : Int32) + (-1) = -1 from rfl) (br_t (by decide) h))))))))))
/-- the step that takes unit 1 in, and the end -/
theorem pa_ch1 {bi cu ii oo bc bs : Int32} {a1 a2 a3 a4 a5 a6 a7 a8 a9 a10 a11 a12 a13 a14 a15 a16 a17 a18 a19 : Nat → Int32} {post : Int32 → St2 → Prop} {x s s' c' : Int32} (hb : (((x &&& ((0 : Int32) ^^^ (-1))) >>> ((1 : Int32) &&& 31)) &&& 1) = 1) (hs : ¬ s = -1) (hi : vp_in s 10) (hs' : s + 1 = s') (hc : cu ^^^ ((1 : Int32) <<< ((1 : Int32) &&& 31)) = c') (hp : ∀ y17 y18 y19 : Nat → Int32, post s' (2, bi, c', 1, s', ii, oo, bc, bs, a1, a2, a3, a4, a5, a6, a7, a8, a9, a10, a11, a12, a13, a14, a15, a16, y17, y18, y19)) : wX_changeTo_83 post x (-1) 0 2 1 2 bi cu 0 s ii oo bc bs a1 a2 a3 a4 a5 a6 a7 a8 a9 a10 a11 a12 a13 a14 a15 a16 a17 a18 a19 :=
  br_f (by decide) (br_t hb (br_f hs (nm_r hc (And.intro (pk_in 1 10 (by decide)) (And.intro (pk_in 1 10 (by decide)) (nm_e (And.intro hi (nm_e (nm_r hs' (nm_r (show (1 : Int32) + 1 = 2 from rfl) (pa_ch2 (hp _ _ _))))))))))))
theorem pa_to2 {bi st ii oo bc bs : Int32} {a1 a2 a3 a4 a5 a6 a7 a8 a9 a10 a11 a12 a13 a14 a15 a16 a17 a18 a19 : Nat → Int32} {post : Int32 → St2 → Prop} (hp : ∀ y17 y18 y19 : Nat → Int32, post 1 (2, bi, 2, 1, 1, ii, oo, bc, bs, a1, a2, a3, a4, a5, a6, a7, a8, a9, a10, a11, a12, a13, a14, a15, a16, y17, y18, y19)) : wpX_changeTo post (2, bi, 0, 0, st, ii, oo, bc, bs, a1, a2, a3, a4, a5, a6, a7, a8, a9, a10, a11, a12, a13, a14, a15, a16, a17, a18, a19) 2 (-1) :=
  pa_chd (Exists.intro 3 (br_f (by decide) (br_f (by decide) (br_f (by decide) (nm_r (show (0 : Int32) + 1 = 1 from rfl) (pa_ch1 (by decide) (by decide) (pk_in 0 10 (by decide)) (by decide) (by decide) hp))))))
theorem pa_to3 {bi st ii oo bc bs : Int32} {a1 a2 a3 a4 a5 a6 a7 a8 a9 a10 a11 a12 a13 a14 a15 a16 a17 a18 a19 : Nat → Int32} {post : Int32 → St2 → Prop} (hp : ∀ y17 y18 y19 : Nat → Int32, post 2 (2, bi, 3, 1, 2, ii, oo, bc, bs, a1, a2, a3, a4, a5, a6, a7, a8, a9, a10, a11, a12, a13, a14, a15, a16, y17, y18, y19)) : wpX_changeTo post (2, bi, 0, 0, st, ii, oo, bc, bs, a1, a2, a3, a4, a5, a6, a7, a8, a9, a10, a11, a12, a13, a14, a15, a16, a17, a18, a19) 3 (-1) :=
  pa_chd (Exists.intro 3 (br_f (by decide) (br_t (by decide) (br_f (by decide) (nm_r (show (0 : Int32) ^^^ ((1 : Int32) <<< ((0 : Int32) &&& 31)) = 1 from rfl) (And.intro (pk_in 0 10 (by decide)) (And.intro (pk_in 0 10 (by decide)) (nm_e (And.intro (pk_in 0 10 (by decide)) (nm_e (nm_r (show (0 : Int32) + 1 = 1 from rfl) (nm_r (show (0 : Int32) + 1 = 1 from rfl) (pa_ch1 (by decide) (by decide) (pk_in 1 10 (by decide)) (by decide) (by decide) (fun _ _ _ => hp _ _ _))))))))))))))
/-- apply's answer r and the profile c behind it -/
abbrev pa_E (S r c : Int32) : Prop := (S = 3 ∧ r = 2 ∧ c = 3) ∨ (S = 2 ∧ r = 1 ∧ c = 2) ∨ (S = -1 ∧ r = -2 ∧ c = 0)
theorem pa_RS {S C n k b v lo hi : Int32} (R : pa_R S C n k b v lo hi) : S = 3 ∨ S = 2 ∨ S = -1 := by
  rcases R with h | h | h | h
  · exact Or.inl h.1
  · exact Or.inr (Or.inr h.1)
  · exact Or.inr (Or.inl h.1)
  · exact Or.inr (Or.inl h.1)
theorem pa_apply {bi st ii oo bc bs : Int32} {a1 a2 a3 a4 a5 a6 a7 a8 a9 a10 a11 a12 a13 a14 a15 a16 a17 a18 a19 : Nat → Int32} {post : Int32 → St2 → Prop} {S C : Int32} (K : pa_K a1 a4 a5 a6 a8) (R : pa_R S C (a5 1) (a8 3) bi (a7 0) (a9 3) (a10 3)) (hp : ∀ (r c n s i o : Int32) (y11 y12 y13 y14 y15 y16 y17 y18 y19 : Nat → Int32), pa_E S r c → post r (2, bi, c, n, s, i, o, C, S, a1, a2, a3, a4, a5, a6, a7, a8, a9, a10, y11, y12, y13, y14, y15, y16, y17, y18, y19)) : wpX_apply post (2, bi, 0, 0, st, ii, oo, bc, bs, a1, a2, a3, a4, a5, a6, a7, a8, a9, a10, a11, a12, a13, a14, a15, a16, a17, a18, a19) 2 0 := by
  unfold wpX_apply
  refine pa_plan K R (fun i o y11 y12 y13 y14 y15 y16 => ?_)
  rcases pa_RS R with e | e | e
  · subst e
    exact br_t (by decide) (pa_to3 (fun y17 y18 y19 => hp 2 3 1 2 i o y11 y12 y13 y14 y15 y16 y17 y18 y19 (Or.inl ⟨rfl, rfl, rfl⟩)))
  · subst e
    exact br_t (by decide) (pa_to2 (fun y17 y18 y19 => hp 1 2 1 1 i o y11 y12 y13 y14 y15 y16 y17 y18 y19 (Or.inr (Or.inl ⟨rfl, rfl, rfl⟩))))
  · subst e
    exact br_f (by decide) (hp (-2) 0 0 st i o y11 y12 y13 y14 y15 y16 a17 a18 a19 (Or.inr (Or.inr ⟨rfl, rfl, rfl⟩)))
end
section
theorem pa_unit0 {bi cu nt st ii oo bc bs : Int32} {a1 a2 a3 a4 a5 a6 a7 a8 a9 a10 a11 a12 a13 a14 a15 a16 a17 a18 a19 : Nat → Int32} {post : Int32 → St2 → Prop} (hp : ∀ y1 y2 y3 y4 y5 : Nat → Int32, y1 0 = 0 → y4 0 = 0 → y5 0 = 0 → post 0 (1, bi, cu, nt, st, ii, oo, bc, bs, y1, y2, y3, y4, y5, a6, a7, a8, a9, a10, a11, a12, a13, a14, a15, a16, a17, a18, a19)) : wpX_unit post (0, bi, cu, nt, st, ii, oo, bc, bs, a1, a2, a3, a4, a5, a6, a7, a8, a9, a10, a11, a12, a13, a14, a15, a16, a17, a18, a19) 0 3 0 :=
  br_f (by decide) (br_t (by decide) (br_f (by decide) (br_t (by decide) (Exists.intro 1 (br_t (by decide) (br_f (by decide) (And.intro (pk_in 0 10 (by decide)) (nm_r (show upd a1 (Int32.toNatClampNeg 0) 0 = upd a1 0 0 from rfl) (And.intro (pk_in 0 10 (by decide)) (nm_e (br_t rfl (And.intro (pk_in 0 10 (by decide)) (nm_e (And.intro (pk_in 0 10 (by decide)) (nm_r (show upd a4 (Int32.toNatClampNeg 0) 0 = upd a4 0 0 from rfl) (And.intro (pk_in 0 10 (by decide)) (nm_r (show upd a5 (Int32.toNatClampNeg 0) 0 = upd a5 0 0 from rfl) (nm_r (show (0 : Int32) + 1 = 1 from rfl) (hp _ _ _ _ _ pk_us pk_us pk_us)))))))))))))))))))
theorem pa_unit1 {bi cu nt st ii oo bc bs : Int32} {a1 a2 a3 a4 a5 a6 a7 a8 a9 a10 a11 a12 a13 a14 a15 a16 a17 a18 a19 : Nat → Int32} {post : Int32 → St2 → Prop} (h1 : a1 0 = 0) (h4 : a4 0 = 0) (h5 : a5 0 = 0) (hp : ∀ y1 y2 y3 y4 y5 : Nat → Int32, y1 0 = 0 → y1 1 = 1 → y4 0 = 0 → y4 1 = 0 → y5 0 = 0 → y5 1 = 0 → post 1 (2, bi, cu, nt, st, ii, oo, bc, bs, y1, y2, y3, y4, y5, a6, a7, a8, a9, a10, a11, a12, a13, a14, a15, a16, a17, a18, a19)) : wpX_unit post (1, bi, cu, nt, st, ii, oo, bc, bs, a1, a2, a3, a4, a5, a6, a7, a8, a9, a10, a11, a12, a13, a14, a15, a16, a17, a18, a19) 1 5 0 := by
  have n0 : (0 : Nat) ≠ 1 := by decide
  have s1 : wX_unit_28 post 1 5 0 1 bi cu nt st ii oo bc bs a1 a2 a3 a4 a5 a6 a7 a8 a9 a10 a11 a12 a13 a14 a15 a16 a17 a18 a19 1 1 :=
    br_t (by decide) (br_f (by decide) (And.intro (pk_in 1 10 (by decide)) (nm_r (show upd a1 (Int32.toNatClampNeg 1) 1 = upd a1 1 1 from rfl) (And.intro (pk_in 1 10 (by decide)) (nm_e (br_t rfl (And.intro (pk_in 1 10 (by decide)) (nm_e (And.intro (pk_in 1 10 (by decide)) (nm_r (show upd a4 (Int32.toNatClampNeg 1) 0 = upd a4 1 0 from rfl) (And.intro (pk_in 1 10 (by decide)) (nm_r (show upd a5 (Int32.toNatClampNeg 1) 0 = upd a5 1 0 from rfl) (nm_r (show (1 : Int32) + 1 = 2 from rfl) (hp _ _ _ _ _ ((pk_un n0).trans h1) pk_us ((pk_un n0).trans h4) pk_us ((pk_un n0).trans h5) pk_us))))))))))))))
  exact br_f (by decide) (br_t (by decide) (br_f (by decide) (br_t (by decide) (Exists.intro 2 (br_f (by decide) (And.intro (pk_in 0 10 (by decide)) (br_f (by rw [pa_c0, h1] <;> decide) (nm_r (show (0 : Int32) + 1 = 1 from rfl) s1))))))))
theorem pa_offer {bi cu nt st ii oo bc bs : Int32} {a1 a2 a3 a4 a5 a6 a7 a8 a9 a10 a11 a12 a13 a14 a15 a16 a17 a18 a19 : Nat → Int32} {post : Int32 → St2 → Prop} {v : Int32} (hv1 : ¬ v < 1) (hv9 : v ≤ 9) (h40 : a4 0 = 0) (h41 : a4 1 = 0) (hp : ∀ y4 y6 y7 : Nat → Int32, y4 0 = 1 → y4 1 = 0 → y6 0 = 2 → y7 0 = v → post 1 (2, bi, cu, nt, st, ii, oo, bc, bs, a1, a2, a3, y4, a5, y6, y7, a8, a9, a10, a11, a12, a13, a14, a15, a16, a17, a18, a19)) : wpX_offer post (2, bi, cu, nt, st, ii, oo, bc, bs, a1, a2, a3, a4, a5, a6, a7, a8, a9, a10, a11, a12, a13, a14, a15, a16, a17, a18, a19) 0 2 v := by
  unfold wpX_offer
  have n1 : (1 : Nat) ≠ 0 := by decide
  exact br_f (by decide) (br_f (by decide) (br_f (by decide) (br_f (by decide) (br_t (by decide) (br_f hv1 (br_t hv9 (And.intro (pk_in 0 10 (by decide)) (br_f (by rw [pa_c0, h40] <;> decide) (And.intro (pk_in 0 10 (by decide)) (nm_r (show (3 : Int32) * 0 + a4 (Int32.toNatClampNeg 0) = 0 by rw [pa_c0, h40] <;> decide) (And.intro (pk_in 0 30 (by decide)) (nm_r (show upd a6 (Int32.toNatClampNeg 0) 2 = upd a6 0 2 from rfl) (And.intro (pk_in 0 30 (by decide)) (nm_r (show upd a7 (Int32.toNatClampNeg 0) v = upd a7 0 v from rfl) (And.intro (pk_in 0 10 (by decide)) (And.intro (pk_in 0 10 (by decide)) (nm_r (show upd a4 (Int32.toNatClampNeg 0) (a4 (Int32.toNatClampNeg 0) + 1) = upd a4 0 1 by rw [pa_c0, h40] <;> rfl) (And.intro (pk_in 0 10 (by decide)) (hp _ _ _ pk_us ((pk_un n1).trans h41) pk_us pk_us)))))))))))))))))))
/-- the kind of a need as the law makes it -/
abbrev pa_W (x7 x8 k : Int32) : Prop := ¬ k < 0 ∧ ¬ 63 < k ∧ k &&& 7 = 2 ∧ (k < 32 ↔ x7 = 0) ∧ (k >>> ((3 : Int32) &&& 31)) &&& 3 = x8 ∧ (x7 = 0 ∨ x7 = 1)
theorem pa_way0 : ∀ j, j < 2 → ∀ i, i < 4 → pa_W (nI j) (nI i) (32 * nI j + 8 * nI i + 2) := by decide +kernel
theorem pa_way (p : Int32) : pa_W (p &&& 1) ((p >>> ((1 : Int32) &&& 31)) &&& 3) (32 * (p &&& 1) + 8 * ((p >>> ((1 : Int32) &&& 31)) &&& 3) + 2) := by
  obtain ⟨j, hj, ej⟩ := pk_andE p (m := 1) 1 rfl
  obtain ⟨i, hi, ei⟩ := pk_andE (p >>> ((1 : Int32) &&& 31)) (m := 3) 2 rfl
  rw [ej, ei]
  exact pa_way0 j hj i hi
theorem pa_ver0 : ∀ j, j < 16 → ¬ (1 + (nI j - nI j / 9 * 9)) < 1 ∧ (1 + (nI j - nI j / 9 * 9)) ≤ 9 := by decide +kernel
theorem pa_ver (p : Int32) : ¬ (1 + ((p &&& 15) - (p &&& 15) / 9 * 9)) < 1 ∧ (1 + ((p &&& 15) - (p &&& 15) / 9 * 9)) ≤ 9 := by
  obtain ⟨j, hj, ej⟩ := pk_andE p (m := 15) 4 rfl
  rw [ej]
  exact pa_ver0 j hj
/-- need, its kind good: the range is looked at -/
theorem pa_need_t {bi cu nt st ii oo bc bs : Int32} {a1 a2 a3 a4 a5 a6 a7 a8 a9 a10 a11 a12 a13 a14 a15 a16 a17 a18 a19 : Nat → Int32} {post : Int32 → St2 → Prop} {k lo hi x7 x8 : Int32} (w : pa_W x7 x8 k) (r1 : ¬ lo < 1) (r2 : ¬ hi < lo) (r3 : hi ≤ 9) (h50 : a5 0 = 0) (h51 : a5 1 = 0) (hp : ∀ y5 y8 y9 y10 : Nat → Int32, y5 0 = 0 → y5 1 = 1 → y8 3 = k → y9 3 = lo → y10 3 = hi → post 1 (2, bi, cu, nt, st, ii, oo, bc, bs, a1, a2, a3, a4, y5, a6, a7, y8, y9, y10, a11, a12, a13, a14, a15, a16, a17, a18, a19)) : wpX_need post (2, bi, cu, nt, st, ii, oo, bc, bs, a1, a2, a3, a4, a5, a6, a7, a8, a9, a10, a11, a12, a13, a14, a15, a16, a17, a18, a19) 1 k lo hi := by
  unfold wpX_need
  have n0 : (0 : Nat) ≠ 1 := by decide
  exact br_f (by decide) (br_f (by decide) (br_f (by decide) (br_f w.1 (br_f w.2.1 (br_t (by rw [w.2.2.1] <;> decide) (br_f r1 (br_f r2 (br_t r3 (And.intro (pk_in 1 10 (by decide)) (br_f (by rw [pa_c1, h51] <;> decide) (And.intro (pk_in 1 10 (by decide)) (nm_r (show (3 : Int32) * 1 + a5 (Int32.toNatClampNeg 1) = 3 by rw [pa_c1, h51] <;> decide) (And.intro (pk_in 3 30 (by decide)) (nm_r (show upd a8 (Int32.toNatClampNeg 3) k = upd a8 3 k from rfl) (And.intro (pk_in 3 30 (by decide)) (nm_r (show upd a9 (Int32.toNatClampNeg 3) lo = upd a9 3 lo from rfl) (And.intro (pk_in 3 30 (by decide)) (nm_r (show upd a10 (Int32.toNatClampNeg 3) hi = upd a10 3 hi from rfl) (And.intro (pk_in 1 10 (by decide)) (And.intro (pk_in 1 10 (by decide)) (nm_r (show upd a5 (Int32.toNatClampNeg 1) (a5 (Int32.toNatClampNeg 1) + 1) = upd a5 1 1 by rw [pa_c1, h51] <;> rfl) (And.intro (pk_in 1 10 (by decide)) (hp _ _ _ _ ((pk_un n0).trans h50) pk_us pk_us pk_us pk_us)))))))))))))))))))))))
theorem pa_need_f {bi cu nt st ii oo bc bs : Int32} {a1 a2 a3 a4 a5 a6 a7 a8 a9 a10 a11 a12 a13 a14 a15 a16 a17 a18 a19 : Nat → Int32} {post : Int32 → St2 → Prop} {k lo hi x7 x8 : Int32} (w : pa_W x7 x8 k) (r : lo < 1 ∨ hi < lo ∨ ¬ hi ≤ 9) (hp : post (-3) (2, bi, cu, nt, st, ii, oo, bc, bs, a1, a2, a3, a4, a5, a6, a7, a8, a9, a10, a11, a12, a13, a14, a15, a16, a17, a18, a19)) : wpX_need post (2, bi, cu, nt, st, ii, oo, bc, bs, a1, a2, a3, a4, a5, a6, a7, a8, a9, a10, a11, a12, a13, a14, a15, a16, a17, a18, a19) 1 k lo hi := by
  unfold wpX_need
  refine br_f (by decide) (br_f (by decide) (br_f (by decide) (br_f w.1 (br_f w.2.1 (br_t (by rw [w.2.2.1] <;> decide) (br_c (fun _ => hp) (fun z1 => br_c (fun _ => hp) (fun z2 => br_c (fun z3 => ?_) (fun _ => hp)))))))))
  exact r.elim (fun t => absurd t z1) (fun t => t.elim (fun t => absurd t z2) (fun t => absurd z3 t))
end
section
theorem pa_374 {bi st ii oo bc bs : Int32} {a1 a2 a3 a4 a5 a6 a7 a8 a9 a10 a11 a12 a13 a14 a15 a16 a17 a18 a19 : Nat → Int32} {post : Int32 → St0 → Prop} {mc ms kc ks : Nat} {S C x z : Int32} (K : pa_K a1 a4 a5 a6 a8) (R : pa_R S C (a5 1) (a8 3) bi (a7 0) (a9 3) (a10 3)) (h : (S = 3 ∧ x = 3 ∧ z = 2) ∨ (S = 2 ∧ x = 2 ∧ z = 1) ∨ (S = -1 ∧ x = -2)) (hp : post 1 ()) : wL_lawOf_374 post mc ms x z kc ks 2 bi 0 0 st ii oo bc bs a1 a2 a3 a4 a5 a6 a7 a8 a9 a10 a11 a12 a13 a14 a15 a16 a17 a18 a19 := by
  unfold wL_lawOf_374
  refine pa_apply K R (fun r c n s i o y11 y12 y13 y14 y15 y16 y17 y18 y19 E => ?_)
  rcases h with ⟨rfl, rfl, rfl⟩ | ⟨rfl, rfl, rfl⟩ | ⟨rfl, rfl⟩
  · rcases E with ⟨_, rfl, rfl⟩ | ⟨e, _, _⟩ | ⟨e, _, _⟩
    · exact br_t (by decide) (br_t rfl (br_t (by decide) (br_t rfl hp)))
    · exact absurd e (by decide)
    · exact absurd e (by decide)
  · rcases E with ⟨e, _, _⟩ | ⟨_, rfl, rfl⟩ | ⟨e, _, _⟩
    · exact absurd e (by decide)
    · exact br_t (by decide) (br_t rfl (br_t (by decide) (br_t rfl hp)))
    · exact absurd e (by decide)
  · rcases E with ⟨e, _, _⟩ | ⟨e, _, _⟩ | ⟨_, rfl, rfl⟩
    · exact absurd e (by decide)
    · exact absurd e (by decide)
    · exact br_f (by decide) (br_t rfl (br_f (by decide) (br_t rfl hp)))
theorem pa_325 {bi st ii oo bc bs : Int32} {a1 a2 a3 a4 a5 a6 a7 a8 a9 a10 a11 a12 a13 a14 a15 a16 a17 a18 a19 : Nat → Int32} {post : Int32 → St0 → Prop} {mc ms kc ks : Nat} {S C x z : Int32} (K : pa_K a1 a4 a5 a6 a8) (R : pa_R S C (a5 1) (a8 3) bi (a7 0) (a9 3) (a10 3)) (hx : x = pa_A S) (hz : z = if 0 ≤ S then C else -2) (hp : post 1 ()) : wL_lawOf_325 post mc ms x z kc ks 2 bi 0 0 st ii oo bc bs a1 a2 a3 a4 a5 a6 a7 a8 a9 a10 a11 a12 a13 a14 a15 a16 a17 a18 a19 := by
  unfold wL_lawOf_325
  refine pa_planCost K R (fun i o y11 y12 y13 y14 y15 y16 => br_t hz.symm (pa_excess K R (fun z11 z12 z13 => ?_)))
  rcases pa_RS R with e | e | e
  · subst e
    have ex : x = 3 := hx
    subst ex
    exact br_t (by decide) (br_t rfl (br_t rfl (pa_374 K R (Or.inl ⟨rfl, rfl, rfl⟩) hp)))
  · subst e
    have ex : x = 2 := hx
    subst ex
    exact br_t (by decide) (br_t rfl (br_f (by decide) (pa_374 K R (Or.inr (Or.inl ⟨rfl, rfl, rfl⟩)) hp)))
  · subst e
    have ex : x = -2 := hx
    subst ex
    exact br_f (by decide) (br_t rfl (br_f (by decide) (pa_374 K R (Or.inr (Or.inr ⟨rfl, rfl⟩)) hp)))
theorem pa_319 {bi st ii oo bc bs : Int32} {a1 a2 a3 a4 a5 a6 a7 a8 a9 a10 a11 a12 a13 a14 a15 a16 a17 a18 a19 : Nat → Int32} {post : Int32 → St0 → Prop} {mc ms kc ks : Nat} {S C x : Int32} (K : pa_K a1 a4 a5 a6 a8) (R : pa_R S C (a5 1) (a8 3) bi (a7 0) (a9 3) (a10 3)) (hx : x = pa_A S) (hz : 5 = if 0 ≤ S then C else -2) (hp : post 1 ()) : wL_lawOf_319 post mc ms x kc ks 2 bi 0 0 st ii oo bc bs a1 a2 a3 a4 a5 a6 a7 a8 a9 a10 a11 a12 a13 a14 a15 a16 a17 a18 a19 := by
  unfold wL_lawOf_319
  exact pa_325 K R hx hz hp
theorem pa_270 {bi st ii oo bc bs : Int32} {a1 a2 a3 a4 a5 a6 a7 a8 a9 a10 a11 a12 a13 a14 a15 a16 a17 a18 a19 : Nat → Int32} {post : Int32 → St0 → Prop} {mc ms kc ks : Nat} {S C x7 x12 z : Int32} (K : pa_K a1 a4 a5 a6 a8) (R : pa_R S C (a5 1) (a8 3) bi (a7 0) (a9 3) (a10 3)) (hz : z = pa_A S) (h7 : S = 2 → C = 7 → ¬ x12 = 0 ∧ x7 = 1) (h5 : S = 2 → C = 5 → x12 = 0) (hp : post 1 ()) : wL_lawOf_270 post mc ms x7 x12 z kc ks 2 bi 0 0 st ii oo bc bs a1 a2 a3 a4 a5 a6 a7 a8 a9 a10 a11 a12 a13 a14 a15 a16 a17 a18 a19 := by
  unfold wL_lawOf_270
  refine pa_plan K R (fun i o y11 y12 y13 y14 y15 y16 => br_t hz.symm ?_)
  have R' := R
  rcases R with ⟨rfl, rfl, _, _⟩ | ⟨rfl, rfl, _, _⟩ | ⟨rfl, rfl, _⟩ | ⟨rfl, rfl, _, _⟩
  · exact br_t hz (pa_325 K R' hz rfl hp)
  · have ez : z = -2 := hz
    exact br_f (by rw [ez] <;> decide) (br_f (by rw [ez] <;> decide) (pa_325 K R' hz rfl hp))
  · have ez : z = 2 := hz
    exact br_f (by rw [ez] <;> decide) (br_t ez (br_f (h7 rfl rfl).1 (br_t (h7 rfl rfl).2 (pa_325 K R' hz rfl hp))))
  · have ez : z = 2 := hz
    exact br_f (by rw [ez] <;> decide) (br_t ez (br_t (h5 rfl rfl) (pa_319 K R' hz rfl hp)))
/-- the law's flags: x12 'on', x13 'helps', x7 'optional' -/
abbrev pa_on1 (n k b x12 : Int32) : Prop := (x12 = 0 ∧ ¬ (n = 1 ∧ pa_on k b)) ∨ (x12 = 1 ∧ n = 1 ∧ pa_on k b)
theorem pa_231 {bi st ii oo bc bs : Int32} {a1 a2 a3 a4 a5 a6 a7 a8 a9 a10 a11 a12 a13 a14 a15 a16 a17 a18 a19 : Nat → Int32} {post : Int32 → St0 → Prop} {mc ms kc ks : Nat} {x7 x12 x13 : Int32} (K : pa_K a1 a4 a5 a6 a8) (ho : pa_on1 (a5 1) (a8 3) bi x12) (h7 : a5 1 = 1 → (a8 3 < 32 ↔ x7 = 0) ∧ (x7 = 0 ∨ x7 = 1)) (hh : a5 1 = 1 → (x13 = 0 ∧ ¬ pa_hp (a7 0) (a9 3) (a10 3)) ∨ (x13 = 1 ∧ pa_hp (a7 0) (a9 3) (a10 3))) (hp : post 1 ()) : wL_lawOf_231 post mc ms x7 x12 x13 kc ks 2 bi 0 0 st ii oo bc bs a1 a2 a3 a4 a5 a6 a7 a8 a9 a10 a11 a12 a13 a14 a15 a16 a17 a18 a19 := by
  rcases ho with ⟨rfl, no⟩ | ⟨rfl, n1, on⟩
  · exact br_t rfl (br_t rfl (pa_270 (S := 2) (C := 5) K (Or.inr (Or.inr (Or.inr ⟨rfl, rfl, fun t => no ⟨t.1, t.2.2⟩, fun t => no ⟨t.1, t.2.2⟩⟩))) rfl (fun _ e => absurd e (by decide)) (fun _ _ => rfl) hp))
  · rcases (h7 n1).2 with rfl | rfl
    · have k1 : a8 3 < 32 := (h7 n1).1.mpr rfl
      rcases hh n1 with ⟨rfl, nh⟩ | ⟨rfl, h⟩
      · exact br_f (by decide) (br_t rfl (br_f (by decide) (br_t rfl (pa_270 (S := -1) (C := 0) K (Or.inr (Or.inl ⟨rfl, rfl, ⟨n1, k1, on⟩, nh⟩)) rfl (fun e _ => absurd e (by decide)) (fun e _ => absurd e (by decide)) hp))))
      · exact br_f (by decide) (br_t rfl (br_f (by decide) (br_f (by decide) (pa_270 (S := 3) (C := 10) K (Or.inl ⟨rfl, rfl, ⟨n1, k1, on⟩, h⟩) rfl (fun e _ => absurd e (by decide)) (fun e _ => absurd e (by decide)) hp))))
    · have k1 : ¬ a8 3 < 32 := fun t => absurd ((h7 n1).1.mp t) (by decide)
      exact br_f (by decide) (br_f (by decide) (br_t rfl (pa_270 (S := 2) (C := 7) K (Or.inr (Or.inr (Or.inl ⟨rfl, rfl, n1, k1, on⟩))) rfl (fun _ _ => ⟨by decide, rfl⟩) (fun _ e => absurd e (by decide)) hp)))
theorem pa_230 {bi st ii oo bc bs : Int32} {a1 a2 a3 a4 a5 a6 a7 a8 a9 a10 a11 a12 a13 a14 a15 a16 a17 a18 a19 : Nat → Int32} {post : Int32 → St0 → Prop} {mc ms kc ks : Nat} {x7 x12 : Int32} (K : pa_K a1 a4 a5 a6 a8) (ho : pa_on1 (a5 1) (a8 3) bi x12) (h7 : a5 1 = 1 → (a8 3 < 32 ↔ x7 = 0) ∧ (x7 = 0 ∨ x7 = 1)) (hh : a5 1 = 1 → ¬ pa_hp (a7 0) (a9 3) (a10 3)) (hp : post 1 ()) : wL_lawOf_230 post mc ms x7 x12 kc ks 2 bi 0 0 st ii oo bc bs a1 a2 a3 a4 a5 a6 a7 a8 a9 a10 a11 a12 a13 a14 a15 a16 a17 a18 a19 := by
  unfold wL_lawOf_230
  exact pa_231 K ho h7 (fun e => Or.inl ⟨rfl, hh e⟩) hp
/-- what the need left, against the law's range flag x9 -/
abbrev pa_N (n lo hi x1 x2 x9 : Int32) : Prop := (x9 = 0 ∧ n = 0) ∨ (x9 = 1 ∧ n = 1 ∧ lo = x1 ∧ hi = x2)
theorem pa_207 {bi st ii oo bc bs : Int32} {a1 a2 a3 a4 a5 a6 a7 a8 a9 a10 a11 a12 a13 a14 a15 a16 a17 a18 a19 : Nat → Int32} {post : Int32 → St0 → Prop} {mc ms kc ks : Nat} {x1 x2 x6 x7 x9 x12 : Int32} (K : pa_K a1 a4 a5 a6 a8) (N : pa_N (a5 1) (a9 3) (a10 3) x1 x2 x9) (hv : a7 0 = x6) (ho : pa_on1 (a5 1) (a8 3) bi x12) (h7 : a5 1 = 1 → (a8 3 < 32 ↔ x7 = 0) ∧ (x7 = 0 ∨ x7 = 1)) (hp : post 1 ()) : wL_lawOf_207 post mc ms x1 x2 x6 x7 x9 x12 kc ks 2 bi 0 0 st ii oo bc bs a1 a2 a3 a4 a5 a6 a7 a8 a9 a10 a11 a12 a13 a14 a15 a16 a17 a18 a19 := by
  rcases N with ⟨rfl, n0⟩ | ⟨rfl, n1, rfl, rfl⟩
  · exact br_t rfl (pa_230 K ho h7 (fun e => absurd (n0.symm.trans e) (by decide)) hp)
  · subst hv
    exact br_f (by decide) (br_c (fun z => pa_230 K ho h7 (fun _ t => t.1 z) hp) (fun z => br_c (fun y => pa_230 K ho h7 (fun _ t => t.2 y) hp) (fun y => pa_231 K ho h7 (fun _ => Or.inr ⟨rfl, z, y⟩) hp)))
theorem pa_206 {bi st ii oo bc bs : Int32} {a1 a2 a3 a4 a5 a6 a7 a8 a9 a10 a11 a12 a13 a14 a15 a16 a17 a18 a19 : Nat → Int32} {post : Int32 → St0 → Prop} {mc ms kc ks : Nat} {x1 x2 x6 x7 x9 : Int32} (K : pa_K a1 a4 a5 a6 a8) (N : pa_N (a5 1) (a9 3) (a10 3) x1 x2 x9) (hv : a7 0 = x6) (ho : ¬ (a5 1 = 1 ∧ pa_on (a8 3) bi)) (h7 : a5 1 = 1 → (a8 3 < 32 ↔ x7 = 0) ∧ (x7 = 0 ∨ x7 = 1)) (hp : post 1 ()) : wL_lawOf_206 post mc ms x1 x2 x6 x7 x9 kc ks 2 bi 0 0 st ii oo bc bs a1 a2 a3 a4 a5 a6 a7 a8 a9 a10 a11 a12 a13 a14 a15 a16 a17 a18 a19 := by
  unfold wL_lawOf_206
  exact pa_207 K N hv (Or.inl ⟨rfl, ho⟩) h7 hp
theorem pa_202 {bi st ii oo bc bs : Int32} {a1 a2 a3 a4 a5 a6 a7 a8 a9 a10 a11 a12 a13 a14 a15 a16 a17 a18 a19 : Nat → Int32} {post : Int32 → St0 → Prop} {mc ms kc ks : Nat} {x1 x2 x6 x7 x9 : Int32} (K : pa_K a1 a4 a5 a6 a8) (N : pa_N (a5 1) (a9 3) (a10 3) x1 x2 x9) (hv : a7 0 = x6) (ho : a5 1 = 1 ∧ pa_on (a8 3) bi) (h7 : a5 1 = 1 → (a8 3 < 32 ↔ x7 = 0) ∧ (x7 = 0 ∨ x7 = 1)) (hp : post 1 ()) : wL_lawOf_202 post mc ms x1 x2 x6 x7 x9 kc ks 2 bi 0 0 st ii oo bc bs a1 a2 a3 a4 a5 a6 a7 a8 a9 a10 a11 a12 a13 a14 a15 a16 a17 a18 a19 := by
  unfold wL_lawOf_202
  exact pa_207 K N hv (Or.inr ⟨rfl, ho⟩) h7 hp
/-- a need, if there is one, is of the kind that the law made -/
abbrev pa_D (n k x7 x8 : Int32) : Prop := n = 1 → pa_W x7 x8 k
theorem pa_177 {bi st ii oo bc bs : Int32} {a1 a2 a3 a4 a5 a6 a7 a8 a9 a10 a11 a12 a13 a14 a15 a16 a17 a18 a19 : Nat → Int32} {post : Int32 → St0 → Prop} {mc ms kc ks : Nat} {x1 x2 x6 x7 x8 x9 : Int32} (K : pa_K a1 a4 a5 a6 a8) (N : pa_N (a5 1) (a9 3) (a10 3) x1 x2 x9) (D : pa_D (a5 1) (a8 3) x7 x8) (hv : a7 0 = x6) (hp : post 1 ()) : wL_lawOf_177 post mc ms x1 x2 x6 x7 x8 x9 bi kc ks 2 bi 0 0 st ii oo bc bs a1 a2 a3 a4 a5 a6 a7 a8 a9 a10 a11 a12 a13 a14 a15 a16 a17 a18 a19 := by
  have h7 : a5 1 = 1 → (a8 3 < 32 ↔ x7 = 0) ∧ (x7 = 0 ∨ x7 = 1) := fun e => ⟨(D e).2.2.2.1, (D e).2.2.2.2.2⟩
  have N' := N
  rcases N with ⟨rfl, n0⟩ | ⟨rfl, n1, _, _⟩
  · exact br_t rfl (pa_206 K N' hv (fun t => absurd (n0.symm.trans t.1) (by decide)) h7 hp)
  · have e8 : (a8 3 >>> ((3 : Int32) &&& 31)) &&& 3 = x8 := (D n1).2.2.2.2.1
    subst e8
    exact br_f (by decide) (br_c (fun z => pa_202 K N' hv ⟨n1, Or.inl z⟩ h7 hp) (fun z => br_c (fun y => pa_202 K N' hv ⟨n1, Or.inr y⟩ h7 hp) (fun y => pa_206 K N' hv (fun t => t.2.elim z y) h7 hp)))
end
section
theorem pa_142f {st ii oo bc bs : Int32} {a1 a2 a3 a4 a5 a6 a7 a8 a9 a10 a11 a12 a13 a14 a15 a16 a17 a18 a19 : Nat → Int32} {post : Int32 → St0 → Prop} {mc ms kc ks : Nat} {x1 x2 x4 x6 x7 x8 x9 : Int32} (K : pa_K a1 a4 a5 a6 a8) (N : pa_N (a5 1) (a9 3) (a10 3) x1 x2 x9) (D : pa_D (a5 1) (a8 3) x7 x8) (hv : a7 0 = x6) (h4 : x4 < 0 ∨ 7 < x4) (hp : post 1 ()) : wL_lawOf_142 post mc ms x1 x2 x4 x6 x7 x8 x9 0 kc ks 2 0 0 0 st ii oo bc bs a1 a2 a3 a4 a5 a6 a7 a8 a9 a10 a11 a12 a13 a14 a15 a16 a17 a18 a19 := by
  unfold wL_lawOf_142
  have s : wL_lawOf_161 post mc ms x1 x2 x4 x6 x7 x8 x9 0 (-1) (-1) kc ks 2 0 0 0 st ii oo bc bs a1 a2 a3 a4 a5 a6 a7 a8 a9 a10 a11 a12 a13 a14 a15 a16 a17 a18 a19 := br_t rfl (br_t rfl (pa_177 K N D hv hp))
  exact br_c (fun _ => br_t rfl s) (fun z => br_c (fun y => h4.elim (fun t => absurd t z) (fun t => absurd y (Int32.not_le.mpr t))) (fun _ => br_t rfl s))
theorem pa_142t {st ii oo bc bs : Int32} {a1 a2 a3 a4 a5 a6 a7 a8 a9 a10 a11 a12 a13 a14 a15 a16 a17 a18 a19 : Nat → Int32} {post : Int32 → St0 → Prop} {mc ms kc ks : Nat} {x1 x2 x4 x6 x7 x8 x9 : Int32} (K : pa_K a1 a4 a5 a6 a8) (N : pa_N (a5 1) (a9 3) (a10 3) x1 x2 x9) (D : pa_D (a5 1) (a8 3) x7 x8) (hv : a7 0 = x6) (h0 : ¬ x4 < 0) (h7 : ¬ 7 < x4) (hp : post 1 ()) : wL_lawOf_142 post mc ms x1 x2 x4 x6 x7 x8 x9 1 kc ks 2 0 0 0 st ii oo bc bs a1 a2 a3 a4 a5 a6 a7 a8 a9 a10 a11 a12 a13 a14 a15 a16 a17 a18 a19 := by
  unfold wL_lawOf_142
  exact br_f h0 (br_t (Int32.not_lt.mp h7) (br_f (by decide) (br_t rfl (br_f (by decide) (pa_177 K N D hv hp)))))
theorem pa_141 {st ii oo bc bs : Int32} {a1 a2 a3 a4 a5 a6 a7 a8 a9 a10 a11 a12 a13 a14 a15 a16 a17 a18 a19 : Nat → Int32} {post : Int32 → St0 → Prop} {mc ms kc ks : Nat} {x1 x2 x4 x6 x7 x8 x9 : Int32} (K : pa_K a1 a4 a5 a6 a8) (N : pa_N (a5 1) (a9 3) (a10 3) x1 x2 x9) (D : pa_D (a5 1) (a8 3) x7 x8) (hv : a7 0 = x6) (h4 : x4 < 0 ∨ 7 < x4) (hp : post 1 ()) : wL_lawOf_141 post mc ms x1 x2 x4 x6 x7 x8 x9 kc ks 2 0 0 0 st ii oo bc bs a1 a2 a3 a4 a5 a6 a7 a8 a9 a10 a11 a12 a13 a14 a15 a16 a17 a18 a19 := by
  unfold wL_lawOf_141
  exact pa_142f K N D hv h4 hp
theorem pa_120 {st ii oo bc bs : Int32} {a1 a2 a3 a4 a5 a6 a7 a8 a9 a10 a11 a12 a13 a14 a15 a16 a17 a18 a19 : Nat → Int32} {post : Int32 → St0 → Prop} {mc ms kc ks : Nat} {x1 x2 x4 x6 x7 x8 x9 z : Int32} (K : pa_K a1 a4 a5 a6 a8) (N : pa_N (a5 1) (a9 3) (a10 3) x1 x2 x9) (D : pa_D (a5 1) (a8 3) x7 x8) (hv : a7 0 = x6) (hp : post 1 ()) : wL_lawOf_120 post mc ms x1 x2 x4 x6 x7 x8 x9 z z kc ks 2 0 0 0 st ii oo bc bs a1 a2 a3 a4 a5 a6 a7 a8 a9 a10 a11 a12 a13 a14 a15 a16 a17 a18 a19 :=
  br_t rfl (br_c (fun y => pa_141 K N D hv (Or.inl y) hp) (fun y => br_c (fun w => pa_141 K N D hv (Or.inr w) hp) (fun w => pa_142t K N D hv y w hp)))
/-- what the law's first calls left -/
abbrev pa_Z (x6 : Int32) (a1 a4 a5 a6 a7 : Nat → Int32) : Prop := a1 0 = 0 ∧ a1 1 = 1 ∧ a4 0 = 1 ∧ a4 1 = 0 ∧ a5 0 = 0 ∧ a5 1 = 0 ∧ a6 0 = 2 ∧ a7 0 = x6
theorem pa_86f {st ii oo bc bs : Int32} {a1 a2 a3 a4 a5 a6 a7 a8 a9 a10 a11 a12 a13 a14 a15 a16 a17 a18 a19 : Nat → Int32} {post : Int32 → St0 → Prop} {mc ms kc ks : Nat} {x1 x2 x4 x6 x7 x8 : Int32} (Z : pa_Z x6 a1 a4 a5 a6 a7) (w : pa_W x7 x8 (32 * x7 + 8 * x8 + 2)) (r : x1 < 1 ∨ x2 < x1 ∨ ¬ x2 ≤ 9) (hp : post 1 ()) : wL_lawOf_86 post mc ms x1 x2 x4 x6 x7 x8 0 kc ks 2 0 0 0 st ii oo bc bs a1 a2 a3 a4 a5 a6 a7 a8 a9 a10 a11 a12 a13 a14 a15 a16 a17 a18 a19 := by
  unfold wL_lawOf_86
  obtain ⟨h10, h11, h40, h41, h50, h51, h6, h7⟩ := Z
  exact pa_need_f w r (br_t rfl (pa_120 ⟨h10, h11, h40, h41, h50, h6, Or.inl h51⟩ (Or.inl ⟨rfl, h51⟩) (fun e => absurd (h51.symm.trans e) (by decide)) h7 hp))
theorem pa_85 {st ii oo bc bs : Int32} {a1 a2 a3 a4 a5 a6 a7 a8 a9 a10 a11 a12 a13 a14 a15 a16 a17 a18 a19 : Nat → Int32} {post : Int32 → St0 → Prop} {mc ms kc ks : Nat} {x1 x2 x4 x6 x7 x8 : Int32} (Z : pa_Z x6 a1 a4 a5 a6 a7) (w : pa_W x7 x8 (32 * x7 + 8 * x8 + 2)) (r : x1 < 1 ∨ x2 < x1 ∨ ¬ x2 ≤ 9) (hp : post 1 ()) : wL_lawOf_85 post mc ms x1 x2 x4 x6 x7 x8 kc ks 2 0 0 0 st ii oo bc bs a1 a2 a3 a4 a5 a6 a7 a8 a9 a10 a11 a12 a13 a14 a15 a16 a17 a18 a19 := by
  unfold wL_lawOf_85
  exact pa_86f Z w r hp
theorem pa_86t {st ii oo bc bs : Int32} {a1 a2 a3 a4 a5 a6 a7 a8 a9 a10 a11 a12 a13 a14 a15 a16 a17 a18 a19 : Nat → Int32} {post : Int32 → St0 → Prop} {mc ms kc ks : Nat} {x1 x2 x4 x6 x7 x8 : Int32} (Z : pa_Z x6 a1 a4 a5 a6 a7) (w : pa_W x7 x8 (32 * x7 + 8 * x8 + 2)) (r1 : ¬ x1 < 1) (r2 : ¬ x2 < x1) (r3 : x2 ≤ 9) (hp : post 1 ()) : wL_lawOf_86 post mc ms x1 x2 x4 x6 x7 x8 1 kc ks 2 0 0 0 st ii oo bc bs a1 a2 a3 a4 a5 a6 a7 a8 a9 a10 a11 a12 a13 a14 a15 a16 a17 a18 a19 := by
  unfold wL_lawOf_86
  obtain ⟨h10, h11, h40, h41, h50, h51, h6, h7⟩ := Z
  refine pa_need_t w r1 r2 r3 h50 h51 (fun y5 y8 y9 y10 e50 e51 e8 e9 e10 => br_f (by decide) (pa_120 ⟨h10, h11, h40, h41, e50, h6, Or.inr ⟨e51, ?_⟩⟩ (Or.inr ⟨rfl, e51, e9, e10⟩) (fun _ => ?_) h7 hp))
  · rw [e8]
    exact w.2.2.1
  · rw [e8]
    exact w
theorem pa_lawOf {post : Int32 → St0 → Prop} {mc ms : Nat} (hc : 20 ≤ mc) (hs : 342 ≤ ms) (p0 p1 p2 p3 p4 : Int32) (hp : post 1 ()) : wpL_lawOf post mc ms () p0 p1 p2 p3 p4 := by
  unfold wpL_lawOf
  have w := pa_way p3
  have v := pa_ver p0
  refine ⟨by omega, by omega, 19, 314, by omega, by omega, ?_⟩
  unfold wpX_init
  refine ⟨by decide, by decide, by decide, by decide, by decide, by decide, by decide, by decide, by decide, by decide, by decide, by decide, by decide, by decide, by decide, by decide, by decide, by decide, by decide, by decide, by decide, by decide, by decide, by decide, by decide, by decide, by decide, by decide, by decide, by decide, by decide, by decide, by decide, by decide, by decide, by decide, by decide, by decide, ?_⟩
  refine And.intro (by decide) (nm_e (pa_unit0 (fun y1 y2 y3 y4 y5 e1 e4 e5 => pa_unit1 e1 e4 e5 (fun z1 z2 z3 z4 z5 f10 f11 f40 f41 f50 f51 => pa_offer v.1 v.2 f40 f41 (fun x4 x6 x7 g40 g41 g6 g7 => br_t rfl (nm_e (nm_e ?_)))))))
  have Z : pa_Z (1 + ((p0 &&& 15) - (p0 &&& 15) / 9 * 9)) z1 x4 z5 x6 x7 := ⟨f10, f11, g40, g41, f50, f51, g6, g7⟩
  exact br_c (fun a => pa_85 Z w (Or.inl a) hp) (fun a => br_c (fun b => pa_85 Z w (Or.inr (Or.inl b)) hp) (fun b => br_c (fun c => pa_85 Z w (Or.inr (Or.inr (Int32.not_le.mpr c))) hp) (fun c => pa_86t Z w a b (Int32.not_lt.mp c) hp)))
theorem pa_cell {post : Int32 → Prop} {L : Nat} {xs : Nat → Int32} {u : St0} (i : Nat) (hi : i < 5) (hL : L ≤ 5) (hp : ∀ x, post x) : wpL_cellAt post L xs u (nI i) := by
  unfold wpL_cellAt
  exact pk_le L i (fun _ => hp _) (fun z => ⟨pk_in i L z, hp _⟩)
theorem i_vc (xs : Nat → Int32) (L : Nat) (hL : L ≤ 5) : wpL_law (fun r => r = 1) L xs := by
  unfold wpL_law
  exact pa_cell 0 (by decide) hL (fun p0 => pa_cell 1 (by decide) hL (fun p1 => pa_cell 2 (by decide) hL (fun p2 => pa_cell 3 (by decide) hL (fun p3 => pa_cell 4 (by decide) hL (fun p4 => ⟨208, 3328, by decide, by decide, pa_lawOf (by decide) (by decide) p0 p1 p2 p3 p4 rfl⟩)))))
end
