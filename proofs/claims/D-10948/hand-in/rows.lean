section
/-- a number that names an object -/
def kt_ob (x : Int32) : Prop := ¬ x < 0 ∧ ¬ 15 < x
theorem kt_obN {x : Int32} (h : kt_ob x) : ∃ j : Nat, j < 16 ∧ x = nI j := by
  obtain ⟨j, hj, e⟩ := nI_of2 (x := x) (M := 15) (n := 15) (by decide) h.1 (Int32.not_lt.mp h.2)
  exact ⟨j, by omega, e⟩
theorem kt_obC {x : Int32} (h : kt_ob x) : x.toNatClampNeg < 16 := by
  obtain ⟨j, hj, e⟩ := kt_obN h
  rw [e, nI_clamp (by omega)]
  exact hj
theorem kt_obI {x : Int32} (h : kt_ob x) : vp_in x 17 := by
  obtain ⟨j, hj, e⟩ := kt_obN h
  exact pk_in j 17 (by omega) e
theorem kt_z (x : Int32) : (((0 : Int32).toUInt32 >>> (x.toUInt32 &&& Int32.toUInt32 31)).toInt32 &&& 1) = 0 := by
  have e : (0 : Int32).toUInt32 = 0 := by decide
  rw [e, UInt32.zero_shiftRight]
  decide
theorem kt_16 : (16 : Int32).toNatClampNeg = 16 := by decide
theorem kt_11 : ((1 : Int32) - 1).toNatClampNeg = 0 := by decide
/-- no bit is set: -1 -/
theorem kt_low {post : Int32 → Prop} {x : Int32} (hx : x = 0) (H : post (-1)) : wpX_lowestOf post () x := by
  subst hx
  unfold wpX_lowestOf
  exact pk_loop (σ := Unit) (fun n i _ => wX_lowestOf_2 post 0 n (nI i)) (fun _ _ => True) 16 0 () (by omega) trivial
    (fun n _ _ => pk_le 16 16 (fun _ => H) (fun z => absurd z (by omega)))
    (fun n i _ hi _ hw => pk_le 16 i (fun z => absurd z (by omega)) (fun _ => br_t (kt_z _) (nm_r (nI_1 i) (hw () trivial))))
theorem kt_nv64 {post : St2 → Prop} {f0 f1 f2 : Int32} {a1 a2 a3 a4 a5 a6 a7 a8 a9 a10 a11 a12 a13 a14 a15 a16 a17 a18 a19 : Nat → Int32} (h7 : a7 0 = 0) (H : post (f0, f1, f2, a1, a2, a3, a4, a5, a6, a7, a8, a9, a10, a11, a12, a13, a14, a15, a16, a17, a18, a19)) : ∃ n, wX_numberVertices_64 post n 1 0 f0 f1 f2 a1 a2 a3 a4 a5 a6 a7 a8 a9 a10 a11 a12 a13 a14 a15 a16 a17 a18 a19 := by
  have e7 : a7 ((1 : Int32) - 1).toNatClampNeg = 0 := by rw [kt_11]; exact h7
  refine ⟨0 + 1 + 1, br_f (by decide) (br_f (by decide) ⟨pk_in 0 18 (by omega), nm_e ⟨pk_in 0 18 (by omega), ?_⟩⟩)⟩
  exact kt_low e7 (br_f (by decide) (nm_r (show (1 : Int32) + (-1) = 0 by decide) (nm_e (br_f (by decide) (br_t (by decide) H)))))
theorem kt_nv {post : St2 → Prop} {f0 f1 f2 : Int32} {a1 a2 a3 a4 a5 a6 a7 a8 a9 a10 a11 a12 a13 a14 a15 a16 a17 a18 a19 : Nat → Int32} (h2 : a2 16 = 0)
    (H : ∀ b3 b4 b5 b6 b7 : Nat → Int32, (∀ j, j < 16 → b3 j = -1) → post (f0, f1, 1, a1, a2, b3, b4, b5, b6, b7, a8, a9, a10, a11, a12, a13, a14, a15, a16, a17, a18, a19)) : wpX_numberVertices post (f0, f1, f2, a1, a2, a3, a4, a5, a6, a7, a8, a9, a10, a11, a12, a13, a14, a15, a16, a17, a18, a19) := by
  unfold wpX_numberVertices
  refine pk_loop (fun n i s => wX_numberVertices_2 post f0 f1 f2 n (nI i) a1 a2 s.1 a4 s.2 a6 a7 a8 a9 a10 a11 a12 a13 a14 a15 a16 a17 a18 a19) (fun i s => ∀ j, j < i → s.1 j = -1) 17 0 (a3, a5) (by omega) (fun j hj => absurd hj (by omega)) ?_ ?_
  · intro n s h
    refine pk_le 17 17 (fun _ => ⟨pk_in 16 17 (by omega), nm_e ⟨pk_in 0 17 (by omega), nm_e (nm_r (show (0 : Int32) + 1 = 1 by decide) (nm_e (nm_e (kt_nv64 (pk_us.trans h2) (H _ _ _ _ _ ?_)))))⟩⟩) (fun z => absurd z (by omega))
    intro j hj
    rw [kt_16, pk_un (by omega)]
    exact h j (by omega)
  · intro n i s hi h hw
    refine pk_le 17 i (fun z => absurd z (by omega)) (fun _ => ⟨pk_in i 17 hi, nm_e ⟨pk_in i 17 hi, nm_e (nm_r (nI_1 i) (hw (_, _) ?_))⟩⟩)
    intro j hj
    show upd s.1 (nI i).toNatClampNeg (-1) j = -1
    rw [nI_clamp (by omega)]
    by_cases e : j = i
    · rw [e, pk_us]
    · rw [pk_un e]
      exact h j (by omega)
theorem kt_fd {post : St2 → Prop} {f0 f1 : Int32} {a1 a2 a3 a4 a5 a6 a7 a8 a9 a10 a11 a12 a13 a14 a15 a16 a17 a18 a19 : Nat → Int32}
    (H : ∀ b8 b9 b10 b11 b13 : Nat → Int32, post (f0, f1, 1, a1, a2, a3, a4, a5, a6, a7, b8, b9, b10, b11, a12, b13, a14, a15, a16, a17, a18, a19)) : wpX_findDominators post (f0, f1, 1, a1, a2, a3, a4, a5, a6, a7, a8, a9, a10, a11, a12, a13, a14, a15, a16, a17, a18, a19) := by
  unfold wpX_findDominators
  exact ⟨0 + 1 + 1, br_f (by decide) ⟨pk_in 0 17 (by omega), nm_e ⟨pk_in 0 17 (by omega), nm_e ⟨pk_in 0 17 (by omega), nm_e ⟨pk_in 0 17 (by omega), nm_e ⟨pk_in 0 17 (by omega), nm_e (nm_r (show (0 : Int32) + 1 = 1 by decide) (br_t (by decide) (nm_r (show (1 : Int32) - 1 = 0 by decide) ⟨0 + 1, br_t (by decide) ⟨0 + 1, br_t (by decide) (H _ _ _ _ _)⟩⟩)))⟩⟩⟩⟩⟩⟩
theorem kt_walk {post : St2 → Prop} {f0 f1 f2 : Int32} {a1 a2 a3 a4 a5 a6 a7 a8 a9 a10 a11 a12 a13 a14 a15 a16 a17 a18 a19 : Nat → Int32} (h13 : a13 16 = -1)
    (H : ∀ b6 b18 b19 : Nat → Int32, post (f0, f1, f2, a1, a2, a3, a4, a5, b6, a7, a8, a9, a10, a11, a12, a13, a14, a15, a16, a17, b18, b19)) : wpX_walkTree post (f0, f1, f2, a1, a2, a3, a4, a5, a6, a7, a8, a9, a10, a11, a12, a13, a14, a15, a16, a17, a18, a19) := by
  have e6 : upd a6 0 16 ((1 : Int32) - 1).toNatClampNeg = 16 := by rw [kt_11, pk_us]
  have e13 : a13 (16 : Int32).toNatClampNeg = -1 := by rw [kt_16]; exact h13
  unfold wpX_walkTree
  exact nm_e (nm_e ⟨0 + 1 + 1, br_f (by decide) (br_f (by decide) ⟨pk_in 0 18 (by omega), nm_r e6 ⟨pk_in 16 17 (by omega), nm_r e13 (br_f (by decide) ⟨pk_in 16 17 (by omega), nm_e (nm_r (show (1 : Int32) + (-1) = 0 by decide) (nm_e (br_f (by decide) (br_t (by decide) (H _ _ _)))))⟩)⟩⟩)⟩)
theorem kt_inv {i : Nat} {s1 s2 : Nat → Int32} {z : Int32} (hi : i < 17) (hz : i = 16 → z = 0) : 16 < i + 1 → upd s1 (nI i).toNatClampNeg (-1) 16 = -1 ∧ upd s2 (nI i).toNatClampNeg z 16 = 0 := by
  intro h
  have e : i = 16 := by omega
  rw [nI_clamp (by omega), e, pk_us, pk_us]
  exact ⟨rfl, hz e⟩
theorem kt_lay {post : St2 → Prop} {f0 f1 : Int32} {a1 a2 a3 a4 a5 a6 a7 a8 a9 a10 a11 a12 a13 a14 a15 a16 a17 a18 a19 : Nat → Int32} (h1 : a1 16 = 0)
    (H : ∀ b6 b13 b15 b16 b17 b18 b19 : Nat → Int32, b17 16 = 0 → post (f0, f1, 1, a1, a2, a3, a4, a5, b6, a7, a8, a9, a10, a11, a12, b13, a14, b15, b16, b17, b18, b19)) : wpX_layOutTree post (f0, f1, 1, a1, a2, a3, a4, a5, a6, a7, a8, a9, a10, a11, a12, a13, a14, a15, a16, a17, a18, a19) := by
  unfold wpX_layOutTree
  refine nm_e (nm_e (pk_loop (σ := (Nat → Int32) × (Nat → Int32)) (fun n i s => wX_layOutTree_19 post f0 f1 1 n (nI i) a1 a2 a3 a4 a5 a6 a7 a8 a9 a10 a11 a12 s.1 a14 (upd a15 16 16) (upd a16 16 0) s.2 a18 a19) (fun i s => 16 < i → s.1 16 = -1 ∧ s.2 16 = 0) 17 0 (a13, a17) (by omega) (fun h => absurd h (by omega)) ?_ ?_))
  · intro n s h
    have h' := h (by omega)
    exact pk_le 17 17 (fun _ => ⟨0 + 1, br_t (by decide) (nm_r (show (1 : Int32) - 1 = 0 by decide) ⟨0 + 1, br_t (by decide) (kt_walk h'.1 (fun b6 b18 b19 => H _ _ _ _ _ _ _ h'.2))⟩)⟩) (fun z => absurd z (by omega))
  · intro n i s hi h hw
    exact pk_le 17 i (fun z => absurd z (by omega)) (fun _ => ⟨pk_in i 17 hi, br_c
      (fun _ => ⟨pk_in i 17 hi, nm_e ⟨pk_in i 17 hi, nm_e (nm_r (nI_1 i) (hw (_, _) (kt_inv hi (fun _ => rfl))))⟩⟩)
      (fun _ => ⟨pk_in i 17 hi, ⟨pk_in i 17 hi, nm_e ⟨pk_in i 17 hi, nm_e (nm_r (nI_1 i) (hw (_, _) (kt_inv hi (fun e => by rw [nI_clamp (by omega), e]; exact h1))))⟩⟩⟩)⟩)
end
section
/-- no root yet; what has been laid out, if it is fresh, says that nothing is alive -/
def kt_G (f0 f1 : Int32) (a1 a3 a17 : Nat → Int32) : Prop := f0 = 0 ∧ a1 16 = 0 ∧ (¬ f1 = 0 → (∀ j, j < 16 → a3 j = -1) ∧ a17 16 = 0)
/-- the same, and it is fresh -/
def kt_P (f0 f1 : Int32) (a1 a3 a17 : Nat → Int32) : Prop := f0 = 0 ∧ a1 16 = 0 ∧ ¬ f1 = 0 ∧ (∀ j, j < 16 → a3 j = -1) ∧ a17 16 = 0
theorem kt_PG {f0 f1 : Int32} {a1 a3 a17 : Nat → Int32} (p : kt_P f0 f1 a1 a3 a17) : kt_G f0 f1 a1 a3 a17 := ⟨p.1, p.2.1, fun _ => p.2.2.2⟩
theorem kt_prep {post : St2 → Prop} {f0 f1 f2 : Int32} {a1 a2 a3 a4 a5 a6 a7 a8 a9 a10 a11 a12 a13 a14 a15 a16 a17 a18 a19 : Nat → Int32} (h : kt_G f0 f1 a1 a3 a17)
    (H : ∀ (g0 g1 g2 : Int32) (b1 b2 b3 b4 b5 b6 b7 b8 b9 b10 b11 b12 b13 b14 b15 b16 b17 b18 b19 : Nat → Int32), kt_P g0 g1 b1 b3 b17 → post (g0, g1, g2, b1, b2, b3, b4, b5, b6, b7, b8, b9, b10, b11, b12, b13, b14, b15, b16, b17, b18, b19)) : wpX_prepare post (f0, f1, f2, a1, a2, a3, a4, a5, a6, a7, a8, a9, a10, a11, a12, a13, a14, a15, a16, a17, a18, a19) := by
  unfold wpX_prepare
  exact br_c (fun _ => nm_e (kt_nv (pk_us.trans h.1) (fun b3 b4 b5 b6 b7 h3 => kt_fd (fun b8 b9 b10 b11 b13 => kt_lay h.2.1 (fun c6 c13 c15 c16 c17 c18 c19 h17 =>
      H _ _ _ _ _ _ _ _ _ _ _ _ _ _ _ _ _ _ _ _ _ _ ⟨h.1, h.2.1, by decide, h3, h17⟩)))))
    (fun z => H _ _ _ _ _ _ _ _ _ _ _ _ _ _ _ _ _ _ _ _ _ _ ⟨h.1, h.2.1, z, h.2.2 z⟩)
theorem kt_neg {x : Int32} {b : Nat → Int32} (o : kt_ob x) (hb : ∀ j, j < 16 → b j = -1) : b x.toNatClampNeg < 0 := by
  rw [hb _ (kt_obC o)]
  decide
theorem kt_isO {post : Int32 → Prop} {x : Int32} (H0 : ¬ kt_ob x → post 0) (H1 : kt_ob x → post 1) : wpX_isObject post () x :=
  br_c (fun z => H0 (fun t => t.1 z)) (fun z => br_c (fun w => H0 (fun t => t.2 w)) (fun w => H1 ⟨z, w⟩))
theorem kt_common {post : Int32 → St2 → Prop} {x y f0 f1 f2 : Int32} {a1 a2 a3 a4 a5 a6 a7 a8 a9 a10 a11 a12 a13 a14 a15 a16 a17 a18 a19 : Nat → Int32} (h : kt_G f0 f1 a1 a3 a17)
    (H0 : ¬ (kt_ob x ∧ kt_ob y) → post (-2) (f0, f1, f2, a1, a2, a3, a4, a5, a6, a7, a8, a9, a10, a11, a12, a13, a14, a15, a16, a17, a18, a19))
    (H1 : kt_ob x → kt_ob y → ∀ (g0 g1 g2 : Int32) (b1 b2 b3 b4 b5 b6 b7 b8 b9 b10 b11 b12 b13 b14 b15 b16 b17 b18 b19 : Nat → Int32), kt_P g0 g1 b1 b3 b17 → post (-1) (g0, g1, g2, b1, b2, b3, b4, b5, b6, b7, b8, b9, b10, b11, b12, b13, b14, b15, b16, b17, b18, b19)) : wpX_common post (f0, f1, f2, a1, a2, a3, a4, a5, a6, a7, a8, a9, a10, a11, a12, a13, a14, a15, a16, a17, a18, a19) x y := by
  unfold wpX_common
  exact kt_isO (fun n => br_t rfl (H0 (fun t => n t.1))) (fun ox => br_f (by decide) (kt_isO (fun n => br_t rfl (H0 (fun t => n t.2))) (fun oy => br_f (by decide)
    (kt_prep h (fun g0 g1 g2 b1 b2 b3 b4 b5 b6 b7 b8 b9 b10 b11 b12 b13 b14 b15 b16 b17 b18 b19 p => ⟨kt_obI ox, br_t (kt_neg ox p.2.2.2.1) (H1 ox oy _ _ _ _ _ _ _ _ _ _ _ _ _ _ _ _ _ _ _ _ _ _ p)⟩)))))
theorem kt_heav {post : Int32 → St2 → Prop} {f0 f1 f2 : Int32} {a1 a2 a3 a4 a5 a6 a7 a8 a9 a10 a11 a12 a13 a14 a15 a16 a17 a18 a19 : Nat → Int32} (h : kt_G f0 f1 a1 a3 a17)
    (H : ∀ (g0 g1 g2 : Int32) (b1 b2 b3 b4 b5 b6 b7 b8 b9 b10 b11 b12 b13 b14 b15 b16 b17 b18 b19 : Nat → Int32), kt_P g0 g1 b1 b3 b17 → post (-1) (g0, g1, g2, b1, b2, b3, b4, b5, b6, b7, b8, b9, b10, b11, b12, b13, b14, b15, b16, b17, b18, b19)) : wpX_heaviest post (f0, f1, f2, a1, a2, a3, a4, a5, a6, a7, a8, a9, a10, a11, a12, a13, a14, a15, a16, a17, a18, a19) := by
  unfold wpX_heaviest
  refine kt_prep h (fun g0 g1 g2 b1 b2 b3 b4 b5 b6 b7 b8 b9 b10 b11 b12 b13 b14 b15 b16 b17 b18 b19 p => ?_)
  refine pk_loop (σ := Unit) (fun n i _ => wX_heaviest_8 post g0 g1 g2 b1 b2 b3 b4 b5 b6 b7 b8 b9 b10 b11 b12 b13 b14 b15 b16 b17 b18 b19 n (-1) (nI i)) (fun _ _ => True) 16 0 () (by omega) trivial
    (fun n _ _ => pk_le 16 16 (fun _ => H _ _ _ _ _ _ _ _ _ _ _ _ _ _ _ _ _ _ _ _ _ _ p) (fun z => absurd z (by omega)))
    (fun n i _ hi _ hw => pk_le 16 i (fun z => absurd z (by omega)) (fun _ => ⟨pk_in i 17 (by omega), br_t ?_ (nm_r (nI_1 i) (hw () trivial))⟩))
  rw [nI_clamp (by omega), p.2.2.2.1 i hi]
  decide
theorem kt_total {post : Int32 → St2 → Prop} {f0 f1 f2 : Int32} {a1 a2 a3 a4 a5 a6 a7 a8 a9 a10 a11 a12 a13 a14 a15 a16 a17 a18 a19 : Nat → Int32} (h : kt_G f0 f1 a1 a3 a17)
    (H : ∀ (r g0 g1 g2 : Int32) (b1 b2 b3 b4 b5 b6 b7 b8 b9 b10 b11 b12 b13 b14 b15 b16 b17 b18 b19 : Nat → Int32), r = 0 → kt_P g0 g1 b1 b3 b17 → post r (g0, g1, g2, b1, b2, b3, b4, b5, b6, b7, b8, b9, b10, b11, b12, b13, b14, b15, b16, b17, b18, b19)) : wpX_total post (f0, f1, f2, a1, a2, a3, a4, a5, a6, a7, a8, a9, a10, a11, a12, a13, a14, a15, a16, a17, a18, a19) := by
  unfold wpX_total
  exact kt_prep h (fun g0 g1 g2 b1 b2 b3 b4 b5 b6 b7 b8 b9 b10 b11 b12 b13 b14 b15 b16 b17 b18 b19 p => H _ _ _ _ _ _ _ _ _ _ _ _ _ _ _ _ _ _ _ _ _ _ _ p.2.2.2.2 p)
theorem kt_root {post : Int32 → St2 → Prop} {x f0 f1 f2 : Int32} {a1 a2 a3 a4 a5 a6 a7 a8 a9 a10 a11 a12 a13 a14 a15 a16 a17 a18 a19 : Nat → Int32} (h : f0 = 0)
    (H0 : ¬ kt_ob x → post (-2) (f0, f1, f2, a1, a2, a3, a4, a5, a6, a7, a8, a9, a10, a11, a12, a13, a14, a15, a16, a17, a18, a19)) (H1 : kt_ob x → ∀ g0 g1 : Int32, post 0 (g0, g1, f2, a1, a2, a3, a4, a5, a6, a7, a8, a9, a10, a11, a12, a13, a14, a15, a16, a17, a18, a19)) : wpX_setRoot post (f0, f1, f2, a1, a2, a3, a4, a5, a6, a7, a8, a9, a10, a11, a12, a13, a14, a15, a16, a17, a18, a19) x 1 := by
  unfold wpX_setRoot
  exact kt_isO (fun n => br_t rfl (H0 n)) (fun ox => br_f (by decide) (nm_r (by rw [h]; exact kt_z x) (br_f (by decide) (nm_e (H1 ox _ _)))))
/-- the size kept for a size given -/
def kt_cl (p : Int32) : Int32 := if 0 ≤ p then (if p ≤ 1000 then p else 1000) else 0
theorem kt_cl1 {p : Int32} (h : 0 ≤ p) (h2 : p ≤ 1000) : kt_cl p = p := by unfold kt_cl; rw [if_pos h, if_pos h2]
theorem kt_cl2 {p : Int32} (h : 0 ≤ p) (h2 : ¬ p ≤ 1000) : kt_cl p = 1000 := by unfold kt_cl; rw [if_pos h, if_neg h2]
theorem kt_cl3 {p : Int32} (h : ¬ 0 ≤ p) : kt_cl p = 0 := by unfold kt_cl; rw [if_neg h]
theorem kt_size {post : Int32 → St2 → Prop} {x p f0 f1 f2 : Int32} {a1 a2 a3 a4 a5 a6 a7 a8 a9 a10 a11 a12 a13 a14 a15 a16 a17 a18 a19 : Nat → Int32}
    (H0 : ¬ kt_ob x → post (-2) (f0, f1, f2, a1, a2, a3, a4, a5, a6, a7, a8, a9, a10, a11, a12, a13, a14, a15, a16, a17, a18, a19)) (H1 : kt_ob x → post (a1 x.toNatClampNeg) (f0, 0, f2, (upd a1 x.toNatClampNeg (kt_cl p)), a2, a3, a4, a5, a6, a7, a8, a9, a10, a11, a12, a13, a14, a15, a16, a17, a18, a19)) : wpX_setSize post (f0, f1, f2, a1, a2, a3, a4, a5, a6, a7, a8, a9, a10, a11, a12, a13, a14, a15, a16, a17, a18, a19) x p := by
  unfold wpX_setSize
  exact kt_isO (fun n => br_t rfl (H0 n)) (fun ox => br_f (by decide) ⟨kt_obI ox, nm_e (br_c
    (fun z => br_c (fun w => ⟨kt_obI ox, nm_r (by rw [kt_cl1 z w]) (H1 ox)⟩) (fun w => ⟨kt_obI ox, nm_r (by rw [kt_cl2 z w]) (H1 ox)⟩))
    (fun z => ⟨kt_obI ox, nm_r (by rw [kt_cl3 z]) (H1 ox)⟩))⟩)
theorem kt_fb : ∀ j, j < 16 → ((((0 : Int32) ^^^ ((1 : Int32) <<< (nI j &&& 31))).toUInt32 >>> ((nI j).toUInt32 &&& Int32.toUInt32 31)).toInt32 &&& 1) = 1 := by decide +kernel
theorem kt_fbit {y : Int32} (o : kt_ob y) : ((((0 : Int32) ^^^ ((1 : Int32) <<< (y &&& 31))).toUInt32 >>> (y.toUInt32 &&& Int32.toUInt32 31)).toInt32 &&& 1) = 1 := by
  obtain ⟨j, hj, e⟩ := kt_obN o
  rw [e]
  exact kt_fb j hj
theorem kt_flip {post : Int32 → St2 → Prop} {x y f0 f1 f2 : Int32} {a1 a2 a3 a4 a5 a6 a7 a8 a9 a10 a11 a12 a13 a14 a15 a16 a17 a18 a19 : Nat → Int32} (h2 : ∀ j, a2 j = 0)
    (H0 : ¬ (kt_ob x ∧ kt_ob y) → post (-2) (f0, f1, f2, a1, a2, a3, a4, a5, a6, a7, a8, a9, a10, a11, a12, a13, a14, a15, a16, a17, a18, a19))
    (H1 : kt_ob x → kt_ob y → ∀ (r : Int32) (b2 : Nat → Int32), r = 1 → post r (f0, 0, f2, a1, b2, a3, a4, a5, a6, a7, a8, a9, a10, a11, a12, a13, a14, a15, a16, a17, a18, a19)) : wpX_flip post (f0, f1, f2, a1, a2, a3, a4, a5, a6, a7, a8, a9, a10, a11, a12, a13, a14, a15, a16, a17, a18, a19) x y := by
  unfold wpX_flip
  exact kt_isO (fun n => br_t rfl (H0 (fun t => n t.1))) (fun ox => br_f (by decide) (kt_isO (fun n => br_t rfl (H0 (fun t => n t.2))) (fun oy => br_f (by decide)
    ⟨kt_obI ox, kt_obI ox, nm_e ⟨kt_obI ox, H1 ox oy _ _ (by rw [pk_us, h2]; exact kt_fbit oy)⟩⟩)))
end
section
/-- the law's own flag for 'x names an object' -/
def kt_fl (f x : Int32) : Prop := (f = 0 → ¬ kt_ob x) ∧ (¬ f = 0 → kt_ob x)
theorem kt_fl0 {f x : Int32} (h : kt_fl f x) (n : ¬ kt_ob x) : f = 0 := Decidable.byContradiction (fun z => n (h.2 z))
theorem kt_fl1 {f x : Int32} (h : kt_fl f x) (o : kt_ob x) : ¬ f = 0 := fun z => h.1 z o
theorem kt_160 {post : Int32 → St0 → Prop} {mc ms kc ks : Nat} {x0 x4 z0 z1 f0 f1 f2 : Int32} {a1 a2 a3 a4 a5 a6 a7 a8 a9 a10 a11 a12 a13 a14 a15 a16 a17 a18 a19 : Nat → Int32} (hp : post 1 ()) (hz : z1 = z0) (h4 : kt_fl x4 x0) (h : kt_G f0 f1 a1 a3 a17) :
    wL_lawOf_160 post mc ms x0 x4 z0 z1 kc ks f0 f1 f2 a1 a2 a3 a4 a5 a6 a7 a8 a9 a10 a11 a12 a13 a14 a15 a16 a17 a18 a19 := by
  unfold wL_lawOf_160
  exact br_t hz (kt_heav h (fun g0 g1 g2 b1 b2 b3 b4 b5 b6 b7 b8 b9 b10 b11 b12 b13 b14 b15 b16 b17 b18 b19 p => br_t rfl (kt_total (kt_PG p) (fun r k0 k1 k2 c1 c2 c3 c4 c5 c6 c7 c8 c9 c10 c11 c12 c13 c14 c15 c16 c17 c18 c19 hr q => br_t hr (kt_root q.1
    (fun n => br_t (kt_fl0 h4 n) (br_t rfl hp)) (fun o _ _ => br_f (kt_fl1 h4 o) (br_t rfl hp)))))))
theorem kt_133 {post : Int32 → St0 → Prop} {mc ms kc ks : Nat} {x0 x2 x4 x5 z0 z1 f0 f1 f2 : Int32} {a1 a2 a3 a4 a5 a6 a7 a8 a9 a10 a11 a12 a13 a14 a15 a16 a17 a18 a19 : Nat → Int32} (hp : post 1 ()) (hz : z1 = z0) (h4 : kt_fl x4 x0) (h5 : kt_fl x5 x2) (h : kt_G f0 f1 a1 a3 a17) :
    wL_lawOf_133 post mc ms x0 x2 x4 x5 z0 z1 kc ks f0 f1 f2 a1 a2 a3 a4 a5 a6 a7 a8 a9 a10 a11 a12 a13 a14 a15 a16 a17 a18 a19 := by
  unfold wL_lawOf_133
  refine br_t hz (kt_common h (fun n => br_c (fun z => ?_) (fun z => br_c (fun w => ?_) (fun w => absurd ⟨h5.2 w, h4.2 z⟩ n))) (fun o2 o0 g0 g1 g2 b1 b2 b3 b4 b5 b6 b7 b8 b9 b10 b11 b12 b13 b14 b15 b16 b17 b18 b19 p => br_f (kt_fl1 h4 o0) (br_f (kt_fl1 h5 o2) (kt_160 hp rfl h4 (kt_PG p)))))
  · unfold wL_lawOf_158
    exact kt_160 hp rfl h4 h
  · unfold wL_lawOf_158
    exact kt_160 hp rfl h4 h
theorem kt_106 {post : Int32 → St0 → Prop} {mc ms kc ks : Nat} {x0 x2 x4 x5 z0 z1 f0 f1 f2 : Int32} {a1 a2 a3 a4 a5 a6 a7 a8 a9 a10 a11 a12 a13 a14 a15 a16 a17 a18 a19 : Nat → Int32} (hp : post 1 ()) (hz : z1 = z0) (h4 : kt_fl x4 x0) (h5 : kt_fl x5 x2) (h0 : f0 = 0) (h1 : f1 = 0) (ha : a1 16 = 0) (h2 : ∀ j, a2 j = 0) :
    wL_lawOf_106 post mc ms x0 x2 x4 x5 z0 z1 kc ks f0 f1 f2 a1 a2 a3 a4 a5 a6 a7 a8 a9 a10 a11 a12 a13 a14 a15 a16 a17 a18 a19 := by
  unfold wL_lawOf_106
  refine br_t hz (kt_flip h2 (fun n => br_c (fun z => ?_) (fun z => br_c (fun w => ?_) (fun w => absurd ⟨h4.2 z, h5.2 w⟩ n))) (fun o0 o2 r b2 hr => br_f (kt_fl1 h4 o0) (br_f (kt_fl1 h5 o2) (kt_133 hp hr h4 h5 ⟨h0, ha, fun z => absurd rfl z⟩))))
  · unfold wL_lawOf_131
    exact kt_133 hp rfl h4 h5 ⟨h0, ha, fun z => absurd h1 z⟩
  · unfold wL_lawOf_131
    exact kt_133 hp rfl h4 h5 ⟨h0, ha, fun z => absurd h1 z⟩
theorem kt_u16 {a : Nat → Int32} {x c : Int32} (o : kt_ob x) (h : a 16 = 0) : upd a x.toNatClampNeg c 16 = 0 := by
  have := kt_obC o
  rw [pk_un (by omega)]
  exact h
theorem kt_83 {post : Int32 → St0 → Prop} {mc ms kc ks : Nat} {x0 x2 x4 x5 x6 z0 z1 f0 f1 f2 : Int32} {a1 a2 a3 a4 a5 a6 a7 a8 a9 a10 a11 a12 a13 a14 a15 a16 a17 a18 a19 : Nat → Int32} (hp : post 1 ()) (hz : z1 = z0) (h4 : kt_fl x4 x0) (h5 : kt_fl x5 x2) (h0 : f0 = 0) (h1 : f1 = 0) (ha : a1 16 = 0) (h2 : ∀ j, a2 j = 0) (h6 : kt_ob x0 → a1 x0.toNatClampNeg = x6) :
    wL_lawOf_83 post mc ms x0 x2 x4 x5 x6 z0 z1 kc ks f0 f1 f2 a1 a2 a3 a4 a5 a6 a7 a8 a9 a10 a11 a12 a13 a14 a15 a16 a17 a18 a19 := by
  unfold wL_lawOf_83
  exact br_t hz (kt_size (fun n => br_t (kt_fl0 h4 n) (kt_106 hp rfl h4 h5 h0 h1 ha h2)) (fun o => br_f (kt_fl1 h4 o) (kt_106 hp (h6 o) h4 h5 h0 rfl (kt_u16 o ha) h2)))
theorem kt_64 {post : Int32 → St0 → Prop} {mc ms kc ks : Nat} {x0 x1 x2 x4 x5 z0 f0 f1 f2 : Int32} {a1 a2 a3 a4 a5 a6 a7 a8 a9 a10 a11 a12 a13 a14 a15 a16 a17 a18 a19 : Nat → Int32} (hp : post 1 ()) (hz : kt_cl x1 = z0) (h4 : kt_fl x4 x0) (h5 : kt_fl x5 x2) (h0 : f0 = 0) (h1 : f1 = 0) (ha : ∀ j, a1 j = 0) (h2 : ∀ j, a2 j = 0) :
    wL_lawOf_64 post mc ms x0 x1 x2 x4 x5 z0 kc ks f0 f1 f2 a1 a2 a3 a4 a5 a6 a7 a8 a9 a10 a11 a12 a13 a14 a15 a16 a17 a18 a19 := by
  unfold wL_lawOf_64
  exact kt_size (fun n => br_t (kt_fl0 h4 n) (kt_83 hp rfl h4 h5 h0 h1 (ha 16) h2 (fun o => absurd o n))) (fun o => br_f (kt_fl1 h4 o) (kt_83 hp (ha _) h4 h5 h0 rfl (kt_u16 o (ha 16)) h2 (fun _ => pk_us.trans hz)))
theorem kt_40 {post : Int32 → St0 → Prop} {mc ms kc ks : Nat} {x0 x1 x2 x4 x5 f0 f1 f2 : Int32} {a1 a2 a3 a4 a5 a6 a7 a8 a9 a10 a11 a12 a13 a14 a15 a16 a17 a18 a19 : Nat → Int32} (hp : post 1 ()) (h4 : kt_fl x4 x0) (h5 : kt_fl x5 x2) (h0 : f0 = 0) (h1 : f1 = 0) (ha : ∀ j, a1 j = 0) (h2 : ∀ j, a2 j = 0) :
    wL_lawOf_40 post mc ms x0 x1 x2 x4 x5 kc ks f0 f1 f2 a1 a2 a3 a4 a5 a6 a7 a8 a9 a10 a11 a12 a13 a14 a15 a16 a17 a18 a19 := by
  unfold wL_lawOf_40
  exact br_c (fun z => br_c (fun w => kt_64 hp (kt_cl1 z w) h4 h5 h0 h1 ha h2) (fun w => kt_64 hp (kt_cl2 z w) h4 h5 h0 h1 ha h2)) (fun z => kt_64 hp (kt_cl3 z) h4 h5 h0 h1 ha h2)
theorem kt_no {x : Int32} (h : ¬ kt_ob x) : kt_fl 0 x := ⟨fun _ => h, fun z => absurd rfl z⟩
theorem kt_yes {x : Int32} (h : kt_ob x) : kt_fl 1 x := ⟨fun z => absurd z (by decide), fun _ => h⟩
theorem kt_23 {post : Int32 → St0 → Prop} {mc ms kc ks : Nat} {x0 x1 x2 x4 f0 f1 f2 : Int32} {a1 a2 a3 a4 a5 a6 a7 a8 a9 a10 a11 a12 a13 a14 a15 a16 a17 a18 a19 : Nat → Int32} (hp : post 1 ()) (h4 : kt_fl x4 x0) (h0 : f0 = 0) (h1 : f1 = 0) (ha : ∀ j, a1 j = 0) (h2 : ∀ j, a2 j = 0) :
    wL_lawOf_23 post mc ms x0 x1 x2 x4 kc ks f0 f1 f2 a1 a2 a3 a4 a5 a6 a7 a8 a9 a10 a11 a12 a13 a14 a15 a16 a17 a18 a19 := by
  unfold wL_lawOf_23
  refine br_c (fun z => ?_) (fun z => br_c (fun w => ?_) (fun w => kt_40 hp h4 (kt_yes ⟨z, w⟩) h0 h1 ha h2))
  · unfold wL_lawOf_39
    exact kt_40 hp h4 (kt_no (fun t => t.1 z)) h0 h1 ha h2
  · unfold wL_lawOf_39
    exact kt_40 hp h4 (kt_no (fun t => t.2 w)) h0 h1 ha h2
theorem kt_lawOf {post : Int32 → St0 → Prop} {p0 p1 p2 : Int32} (hp : post 1 ()) : wpL_lawOf post 20 348 () p0 p1 p2 := by
  unfold wpL_lawOf
  refine ⟨by omega, by omega, 19, 326, by omega, by omega, ?_⟩
  unfold wpX_init
  refine ⟨by omega, by omega, by omega, by omega, by omega, by omega, by omega, by omega, by omega, by omega, by omega, by omega, by omega, by omega, by omega, by omega, by omega, by omega, by omega, by omega, by omega, by omega, by omega, by omega, by omega, by omega, by omega, by omega, by omega, by omega, by omega, by omega, by omega, by omega, by omega, by omega, by omega, by omega, ?_⟩
  refine br_c (fun z => ?_) (fun z => br_c (fun w => ?_) (fun w => kt_23 hp (kt_yes ⟨z, w⟩) rfl rfl (fun _ => rfl) (fun _ => rfl)))
  · unfold wL_lawOf_22
    exact kt_23 hp (kt_no (fun t => t.1 z)) rfl rfl (fun _ => rfl) (fun _ => rfl)
  · unfold wL_lawOf_22
    exact kt_23 hp (kt_no (fun t => t.2 w)) rfl rfl (fun _ => rfl) (fun _ => rfl)
theorem kt_cell {post : Int32 → Prop} {L : Nat} {xs : Nat → Int32} {x : Int32} (k : Nat) (hk : k < 2 ^ 31) (hL : L < 2 ^ 31) (H : ∀ r, post r) (hx : x = nI k := by rfl) : wpL_cellAt post L xs () x := by
  subst hx
  unfold wpL_cellAt
  exact pk_le L k (fun _ => H _) (fun z => ⟨pk_in k L z, H _⟩)
theorem i_vc (xs : Nat → Int32) (L : Nat) (hL : L ≤ 3) : wpL_law (fun r => r = 1) L xs := by
  unfold wpL_law
  exact kt_cell 0 (by omega) (by omega) (fun r1 => kt_cell 1 (by omega) (by omega) (fun r2 => kt_cell 2 (by omega) (by omega) (fun r3 => ⟨20, 348, by omega, by omega, kt_lawOf rfl⟩)))
end
