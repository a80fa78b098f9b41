section
/-! the places: bad and off answer 0 at a place 0..5, else 1 -/
def cz_ok (p : Int32) : Prop := ¬ p < 0 ∧ p ≤ 5
theorem cz_of {p : Int32} (h : cz_ok p) : ∃ j : Nat, j < 6 ∧ p = nI j := by
  obtain ⟨j, hj, e⟩ := nI_of2 (n := 5) (by decide) h.1 h.2
  exact ⟨j, by omega, e⟩
theorem cz_in {p : Int32} (h : cz_ok p) : vp_in p 6 := by
  obtain ⟨j, hj, rfl⟩ := cz_of h
  exact vp_in_nI hj (by omega)
theorem cz_offG {post : Int32 → Prop} {u : St0} {p : Int32} (h : cz_ok p) (hp : post 0) : wpX_off post u p := br_f h.1 (br_t h.2 hp)
theorem cz_offB {post : Int32 → Prop} {u : St0} {p : Int32} (h : ¬ cz_ok p) (hp : post 1) : wpX_off post u p := br_c (fun _ => hp) (fun z => br_f (fun g => h ⟨z, g⟩) hp)
theorem cz_badG {post : Int32 → Prop} {u : St0} {p : Int32} (h : cz_ok p) (hp : post 0) : wpL_bad post u p := br_f h.1 (br_t h.2 hp)
theorem cz_badB {post : Int32 → Prop} {u : St0} {p : Int32} (h : ¬ cz_ok p) (hp : post 1) : wpL_bad post u p := br_c (fun _ => hp) (fun z => br_f (fun g => h ⟨z, g⟩) hp)
/-! the bits: none is set in 0; a bit that was set is read as 1 -/
theorem cz_n0 : ∀ j, j < 6 → ((0 : Int32) >>> (nI j &&& 31)) &&& 1 = 0 := by decide +kernel
theorem cz_n1 : ∀ j, j < 6 → ((((0 : Int32) &&& (((1 : Int32) <<< (nI j &&& 31)) ^^^ (-1))) ||| ((1 : Int32) <<< (nI j &&& 31))) >>> (nI j &&& 31)) &&& 1 = 1 := by decide +kernel
theorem cz_b0 {p : Int32} (h : cz_ok p) : ((0 : Int32) >>> (p &&& 31)) &&& 1 = 0 := by
  obtain ⟨j, hj, rfl⟩ := cz_of h
  exact cz_n0 j hj
theorem cz_b1 {p : Int32} (h : cz_ok p) : ((((0 : Int32) &&& (((1 : Int32) <<< (p &&& 31)) ^^^ (-1))) ||| ((1 : Int32) <<< (p &&& 31))) >>> (p &&& 31)) &&& 1 = 1 := by
  obtain ⟨j, hj, rfl⟩ := cz_of h
  exact cz_n1 j hj
/-! the class's methods, a lemma a road -/
theorem cz_doorB {post : Int32 → St2 → Prop} {u : St2} {p0 p1 p2 : Int32} (h : ¬ (cz_ok p0 ∧ cz_ok p1)) (hp : post (-1) u) : wpX_door post u p0 p1 p2 := by
  obtain ⟨g, t, e, bA, bB, bT, bh, r, q, a1, a2, a3, a4, a5, a6⟩ := u
  unfold wpX_door
  by_cases h0 : cz_ok p0
  · exact cz_offG h0 (br_t rfl (cz_offB (fun z => h ⟨h0, z⟩) (br_f (by decide) hp)))
  · exact cz_offB h0 (br_f (by decide) hp)
theorem cz_doorS {post : Int32 → St2 → Prop} {u : St2} {p0 p1 p2 : Int32} (h0 : cz_ok p0) (h1 : cz_ok p1) (hs : p0 = p1) (hp : post (-2) u) : wpX_door post u p0 p1 p2 := by
  obtain ⟨g, t, e, bA, bB, bT, bh, r, q, a1, a2, a3, a4, a5, a6⟩ := u
  unfold wpX_door
  exact cz_offG h0 (br_t rfl (cz_offG h1 (br_t rfl (br_t hs hp))))
section
variable {g t e bA bB bT bh r q : Int32} {a1 a2 a3 a4 a5 a6 : Nat → Int32}
theorem cz_doorT {post : Int32 → St2 → Prop} {p0 p1 v : Int32} (h0 : cz_ok p0) (h1 : cz_ok p1) (hs : ¬ p0 = p1) (hv : ((a1 p0.toNatClampNeg) >>> (p1 &&& 31)) &&& 1 = v)
    (hp : ∀ b1 b2 : Nat → Int32, b1 p0.toNatClampNeg = ((a1 p0.toNatClampNeg) &&& (((1 : Int32) <<< (p1 &&& 31)) ^^^ (-1))) ||| ((1 : Int32) <<< (p1 &&& 31)) → post v (g, t, e, bA, bB, bT, bh, 0, q, b1, b2, a3, a4, a5, a6)) :
    wpX_door post (g, t, e, bA, bB, bT, bh, r, q, a1, a2, a3, a4, a5, a6) p0 p1 1 := by
  unfold wpX_door
  exact cz_offG h0 (br_t rfl (cz_offG h1 (br_t rfl (br_f hs ⟨cz_in h0, nm_r hv ⟨cz_in h0, cz_in h0, nm_e ⟨cz_in h1, cz_in h1, nm_e (br_f (by decide) ⟨cz_in h0, cz_in h0, nm_e ⟨cz_in h1, cz_in h1, nm_e (hp _ _ (by rw [pk_us, pk_us]))⟩⟩)⟩⟩⟩))))
theorem cz_doorF {post : Int32 → St2 → Prop} {p0 p1 v : Int32} (h0 : cz_ok p0) (h1 : cz_ok p1) (hs : ¬ p0 = p1) (hv : ((a1 p0.toNatClampNeg) >>> (p1 &&& 31)) &&& 1 = v)
    (hp : ∀ b1 b2 : Nat → Int32, post v (g, t, e, bA, bB, bT, bh, 0, q, b1, b2, a3, a4, a5, a6)) :
    wpX_door post (g, t, e, bA, bB, bT, bh, r, q, a1, a2, a3, a4, a5, a6) p0 p1 0 := by
  unfold wpX_door
  exact cz_offG h0 (br_t rfl (cz_offG h1 (br_t rfl (br_f hs ⟨cz_in h0, nm_r hv ⟨cz_in h0, cz_in h0, nm_e ⟨cz_in h1, cz_in h1, nm_e (br_t rfl (hp _ _))⟩⟩⟩))))
theorem cz_exitB {post : Int32 → St2 → Prop} {p0 p1 : Int32} (h : ¬ cz_ok p0) (hp : post (-1) (g, t, e, bA, bB, bT, bh, r, q, a1, a2, a3, a4, a5, a6)) : wpX_exit post (g, t, e, bA, bB, bT, bh, r, q, a1, a2, a3, a4, a5, a6) p0 p1 := by
  unfold wpX_exit
  exact cz_offB h (br_f (by decide) hp)
theorem cz_exitG {post : Int32 → St2 → Prop} {p0 v : Int32} (h : cz_ok p0) (hv : (e >>> (p0 &&& 31)) &&& 1 = v)
    (hp : post v (g, t, (e &&& (((1 : Int32) <<< (p0 &&& 31)) ^^^ (-1))) ||| ((1 : Int32) <<< (p0 &&& 31)), bA, bB, bT, bh, 0, q, a1, a2, a3, a4, a5, a6)) :
    wpX_exit post (g, t, e, bA, bB, bT, bh, r, q, a1, a2, a3, a4, a5, a6) p0 1 := by
  unfold wpX_exit
  exact cz_offG h (br_t rfl (nm_r hv (nm_e (br_f (by decide) (nm_e hp)))))
theorem cz_setB {post : Int32 → St2 → Prop} {p0 p1 p2 p3 : Int32} (h : ¬ (cz_ok p0 ∧ cz_ok p1 ∧ cz_ok p2)) (hp : post (-1) (g, t, e, bA, bB, bT, bh, r, q, a1, a2, a3, a4, a5, a6)) : wpX_set post (g, t, e, bA, bB, bT, bh, r, q, a1, a2, a3, a4, a5, a6) p0 p1 p2 p3 := by
  unfold wpX_set
  by_cases h0 : cz_ok p0
  · by_cases h1 : cz_ok p1
    · exact cz_offG h0 (br_t rfl (cz_offG h1 (br_t rfl (cz_offB (fun z => h ⟨h0, h1, z⟩) (br_f (by decide) hp)))))
    · exact cz_offG h0 (br_t rfl (cz_offB h1 (br_f (by decide) hp)))
  · exact cz_offB h0 (br_f (by decide) hp)
theorem cz_setG {post : Int32 → St2 → Prop} {p0 p1 p2 : Int32} (h0 : cz_ok p0) (h1 : cz_ok p1) (h2 : cz_ok p2) (hp : post 0 (g, t, e, p0, p1, p2, 1, r, q, a1, a2, a3, a4, a5, a6)) : wpX_set post (g, t, e, bA, bB, bT, bh, r, q, a1, a2, a3, a4, a5, a6) p0 p1 p2 1 := by
  unfold wpX_set
  exact cz_offG h0 (br_t rfl (cz_offG h1 (br_t rfl (cz_offG h2 (br_t rfl ⟨rfl, rfl, hp⟩)))))
/-! the law's pieces, from its end -/
theorem cz_154G {post : Int32 → St0 → Prop} {mc ms kc ks : Nat} {x1 x2 x3 : Int32} (h1 : cz_ok x1) (h2 : cz_ok x2) (h3 : cz_ok x3) (hp : post 1 ()) : wL_lawOf_154 post mc ms x1 x2 x3 0 kc ks g t e bA bB bT bh r q a1 a2 a3 a4 a5 a6 := by
  unfold wL_lawOf_154
  exact cz_setG h1 h2 h3 (br_t rfl (br_t rfl (br_f (by decide) (br_t rfl (br_t rfl hp)))))
theorem cz_154B {post : Int32 → St0 → Prop} {mc ms kc ks : Nat} {x1 x2 x3 : Int32} (h : ¬ (cz_ok x1 ∧ cz_ok x2 ∧ cz_ok x3)) (hp : post 1 ()) : wL_lawOf_154 post mc ms x1 x2 x3 1 kc ks g t e 0 1 5 0 r q a1 a2 a3 a4 a5 a6 := by
  unfold wL_lawOf_154
  exact cz_setB h (br_f (by decide) (br_t rfl (br_t rfl (br_f (by decide) (br_t (by decide) hp)))))
theorem cz_123 {post : Int32 → St0 → Prop} {mc ms kc ks : Nat} {x1 x2 x3 z0 z1 : Int32} (hz : z1 = z0) (hp : post 1 ()) : wL_lawOf_123 post mc ms x1 x2 x3 z0 z1 kc ks g t e 0 1 5 0 r q a1 a2 a3 a4 a5 a6 := by
  refine br_t hz ?_
  by_cases h1 : cz_ok x1
  · refine cz_badG h1 (br_t rfl ?_)
    by_cases h2 : cz_ok x2
    · refine cz_badG h2 (br_t rfl ?_)
      by_cases h3 : cz_ok x3
      · exact cz_badG h3 (br_t rfl (cz_154G h1 h2 h3 hp))
      · exact cz_badB h3 (br_f (by decide) (cz_154B (fun z => h3 z.2.2) hp))
    · exact cz_badB h2 (br_f (by decide) (cz_154B (fun z => h2 z.2.1) hp))
  · exact cz_badB h1 (br_f (by decide) (cz_154B (fun z => h1 z.1) hp))
theorem cz_99 {post : Int32 → St0 → Prop} {mc ms kc ks : Nat} {x1 x2 x3 z0 z1 : Int32} (hz : z1 = z0) (he : cz_ok x3 → (e >>> (x3 &&& 31)) &&& 1 = 1) (hp : post 1 ()) : wL_lawOf_99 post mc ms x1 x2 x3 z0 z1 kc ks g t e 0 1 5 0 r q a1 a2 a3 a4 a5 a6 := by
  refine br_t hz ?_
  by_cases h3 : cz_ok x3
  · exact cz_exitG h3 (he h3) (cz_badG h3 (br_t rfl (cz_123 rfl hp)))
  · exact cz_exitB h3 (cz_badB h3 (br_f (by decide) (cz_123 rfl hp)))
theorem cz_75 {post : Int32 → St0 → Prop} {mc ms kc ks : Nat} {x1 x2 x3 z0 z1 : Int32} (hz : z1 = z0) (hp : post 1 ()) : wL_lawOf_75 post mc ms x1 x2 x3 z0 z1 kc ks g t 0 0 1 5 0 r q a1 a2 a3 a4 a5 a6 := by
  refine br_t hz ?_
  by_cases h3 : cz_ok x3
  · exact cz_exitG h3 (cz_b0 h3) (cz_badG h3 (br_t rfl (cz_99 rfl (fun _ => cz_b1 h3) hp)))
  · exact cz_exitB h3 (cz_badB h3 (br_f (by decide) (cz_99 rfl (fun z => absurd z h3) hp)))
theorem cz_39B {post : Int32 → St0 → Prop} {mc ms kc ks : Nat} {x1 x2 x3 : Int32} (h : ¬ (cz_ok x1 ∧ cz_ok x2)) (hp : post 1 ()) : wL_lawOf_39 post mc ms x1 x2 x3 (-1) kc ks g t 0 0 1 5 0 r q a1 a2 a3 a4 a5 a6 := by
  unfold wL_lawOf_39
  exact cz_doorB h (br_t rfl (cz_doorB h (br_f (by decide) (cz_75 rfl hp))))
theorem cz_39S {post : Int32 → St0 → Prop} {mc ms kc ks : Nat} {x1 x2 x3 : Int32} (h1 : cz_ok x1) (h2 : cz_ok x2) (hs : x1 = x2) (hp : post 1 ()) : wL_lawOf_39 post mc ms x1 x2 x3 (-2) kc ks g t 0 0 1 5 0 r q a1 a2 a3 a4 a5 a6 := by
  unfold wL_lawOf_39
  exact cz_doorS h1 h2 hs (br_t rfl (cz_doorS h1 h2 hs (br_f (by decide) (cz_75 rfl hp))))
theorem cz_39G {post : Int32 → St0 → Prop} {mc ms kc ks : Nat} {x1 x2 x3 : Int32} (h1 : cz_ok x1) (h2 : cz_ok x2) (hs : ¬ x1 = x2) (hp : post 1 ()) : wL_lawOf_39 post mc ms x1 x2 x3 0 kc ks g t 0 0 1 5 0 r q (fun _ => 0) a2 a3 a4 a5 a6 := by
  unfold wL_lawOf_39
  exact cz_doorT (v := 0) h1 h2 hs (cz_b0 h2) (fun b1 b2 hb => br_t rfl (cz_doorF (v := 1) h1 h2 hs (by rw [hb]; exact cz_b1 h2) (fun c1 c2 => br_t rfl (cz_75 rfl hp))))
end
theorem cz_init {post : St2 → Prop} {p0 : Int32} (hp : ∀ g t : Int32, post (g, t, 0, 0, 1, 5, 0, 0, 0, fun _ => 0, fun _ => 0, fun _ => 0, fun _ => 0, fun _ => 0, fun _ => 0)) : wpX_init post 6 1740 (0, 0, 0, 0, 0, 0, 0, 0, 0) p0 :=
  ⟨by decide, by decide, by decide, by decide, by decide, by decide, by decide, by decide, by decide, by decide, by decide, by decide,
    br_c (fun _ => ⟨rfl, rfl, br_c (fun _ => ⟨rfl, rfl, hp _ _⟩) (fun _ => ⟨rfl, rfl, hp _ _⟩)⟩) (fun _ => ⟨rfl, rfl, br_c (fun _ => ⟨rfl, rfl, hp _ _⟩) (fun _ => ⟨rfl, rfl, hp _ _⟩)⟩)⟩
theorem cz_lawOf {post : Int32 → St0 → Prop} {u : St0} {p0 p1 p2 p3 : Int32} (hp : post 1 ()) : wpL_lawOf post 7 1755 u p0 p1 p2 p3 := by
  refine ⟨by decide, by decide, 6, 1740, by decide, by decide, cz_init (fun g t => ?_)⟩
  by_cases h1 : cz_ok p1
  · refine cz_badG h1 (br_t rfl ?_)
    by_cases h2 : cz_ok p2
    · exact cz_badG h2 (br_t rfl (br_c (fun z => cz_39S h1 h2 z hp) (fun z => cz_39G h1 h2 z hp)))
    · exact cz_badB h2 (br_f (by decide) (cz_39B (fun z => h2 z.2) hp))
  · exact cz_badB h1 (br_f (by decide) (cz_39B (fun z => h1 z.1) hp))
theorem cz_cell {post : Int32 → Prop} {L : Nat} {xs : Nat → Int32} {u : St0} {p1 : Int32} (k : Nat) (hL : L ≤ 4) (hk : p1 = nI k) (h4 : k < 4) (hp : ∀ v, post v) : wpL_cellAt post L xs u p1 :=
  pk_le L k (fun _ => hp _) (fun z => ⟨pk_in k L z hk (by omega), hp _⟩) rfl hk (by omega) (by omega)
end
section
theorem i_vc (xs : Nat → Int32) (L : Nat) (hL : L ≤ 4) : wpL_law (fun r => r = 1) L xs :=
  cz_cell 0 hL rfl (by decide) (fun _ => cz_cell 1 hL rfl (by decide) (fun _ => cz_cell 2 hL rfl (by decide) (fun _ => cz_cell 3 hL rfl (by decide) (fun _ => ⟨7, 1755, by decide, by decide, cz_lawOf rfl⟩))))
end
