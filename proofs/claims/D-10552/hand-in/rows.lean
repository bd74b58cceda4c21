section
/-! the picture: made and inForce of a state; what held holds -/
def lz_K (m f : Int32) (u : St2) : Prop := u.1 = m ∧ u.2.1 = f
def lz_held (u : St2) : Nat → Int32 := u.2.2.2.2.2.2.2.2.2.2.2.2.2.1
/-- what factor answers -/
def lz_F (i a r : Int32) : Prop := (i < 0 → r = -1) ∧ (¬ i < 0 → (3 < i → r = -1) ∧ (¬ 3 < i → (a < (-5) → r = -1) ∧ (¬ a < (-5) → (a ≤ 5 → r = 0) ∧ (¬ a ≤ 5 → r = -1))))
/-- l is 1 where b is in linear's range, else 0 -/
def lz_L (b l : Int32) : Prop := (l = 0 ∧ (b < (-60) ∨ ¬ b ≤ 60)) ∨ (l = 1 ∧ ¬ b < (-60) ∧ b ≤ 60)
/-- d is 1 where s is in differ's range, else 0 -/
def lz_D (s d : Int32) : Prop := (d = 0 ∧ (s < 0 ∨ ¬ s ≤ 15)) ∨ (d = 1 ∧ ¬ s < 0 ∧ s ≤ 15)
/-- what the bits of inForce answer below made -/
def lz_B (m f : Int32) : Prop := ∀ c : Int32, ¬ c < 0 → c < m → (f >>> (c &&& 31)) &&& 1 = 1 ∧ ((f &&& (((1 : Int32) <<< (c &&& 31)) ^^^ (-1))) >>> (c &&& 31)) &&& 1 = 0 ∧ (((f &&& (((1 : Int32) <<< (c &&& 31)) ^^^ (-1))) ||| ((1 : Int32) <<< (c &&& 31))) >>> (c &&& 31)) &&& 1 = 1
theorem lz_c2 {c : Int32} (h0 : ¬ c < 0) (h : c < 2) : c = 0 ∨ c = 1 := by
  have h1 : c ≤ 1 := by
    rw [Int32.lt_iff_toInt_lt] at h
    rw [Int32.le_iff_toInt_le]
    have e1 : (1 : Int32).toInt = 1 := by decide
    have e2 : (2 : Int32).toInt = 2 := by decide
    omega
  obtain ⟨j, hj, rfl⟩ := nI_of2 (M := 1) (n := 1) (by decide) h0 h1
  match j, hj with
  | 0, _ => exact Or.inl rfl
  | 1, _ => exact Or.inr rfl
  | j + 2, hj => exact absurd hj (by omega)
theorem lz_B0 : lz_B 0 0 := fun c h0 h => absurd h h0
theorem lz_B1 : lz_B 1 1 := by
  intro c h0 h
  have h2 : c < 2 := by
    rw [Int32.lt_iff_toInt_lt] at h ⊢
    have e1 : (1 : Int32).toInt = 1 := by decide
    have e2 : (2 : Int32).toInt = 2 := by decide
    omega
  rcases lz_c2 h0 h2 with rfl | rfl
  · decide
  · exact absurd h (by decide)
theorem lz_B2 : lz_B 2 3 := by
  intro c h0 h
  rcases lz_c2 h0 h with rfl | rfl
  · decide
  · decide
theorem lz_in4 {x : Int32} (h0 : ¬ x < 0) (h3 : ¬ 3 < x) : vp_in x 4 := by
  rw [Int32.lt_iff_toInt_lt] at h0 h3
  have e0 : (0 : Int32).toInt = 0 := by decide
  have e3 : (3 : Int32).toInt = 3 := by decide
  exact vp_in_iff.mpr ⟨by omega, by omega⟩
/-! the methods -/
theorem lz_cell {post : Int32 → Prop} {L : Nat} {xs : Nat → Int32} {p : Int32} (k : Nat) (hk : k < 6) (hL : L ≤ 6) (H : ∀ r, post r) (hp : p = nI k := by rfl) : wpL_cellAt post L xs () p := by
  subst hp
  exact br_c (fun _ => H _) (fun h => ⟨vp_in_nI (by
    rcases Nat.lt_or_ge k L with z | z
    · exact z
    · exact absurd (nI_le z (by omega)) h) (by omega), H _⟩)
theorem lz_init {post : St2 → Prop} (H : ∀ u, lz_K 0 0 u → (∀ j, lz_held u j = 0) → post u) : wpX_init post 16 426 (0, 0, 0, 0, 0, 0, 0, 0, 0, 0, 0, 0, 0) :=
  ⟨by decide, by decide, by decide, by decide, by decide, by decide, by decide, by decide, by decide, by decide, by decide, by decide, by decide, by decide, by decide, by decide, by decide, by decide, by decide, by decide, by decide, by decide, by decide, by decide, by decide, by decide, by decide, by decide, by decide, by decide, by decide, by decide, H _ ⟨rfl, rfl⟩ (fun _ => rfl)⟩
theorem lz_factor {post : Int32 → St2 → Prop} {u : St2} {m0 f0 i a : Int32} (hu : lz_K m0 f0 u) (h0 : ∀ j, lz_held u j = 0) (H : ∀ r u', lz_K m0 f0 u' → lz_F i a r → post r u') : wpX_factor post u i a := by
  obtain ⟨m, f, v1, v2, v3, v4, v5, v6, v7, v8, v9, v10, v11, a1, a2, a3, a4, a5, a6, a7, a8, a9, a10, a11, a12, a13, a14, a15, a16⟩ := u
  have hz : ∀ j, a1 j = 0 := h0
  have e1 : m = m0 := hu.1
  have e2 : f = f0 := hu.2
  refine br_c (fun g => H _ _ hu (br_t g rfl)) (fun g => br_c (fun g1 => H _ _ hu (br_f g (br_t g1 rfl))) (fun g1 => br_c (fun g2 => H _ _ hu (br_f g (br_f g1 (br_t g2 rfl)))) (fun g2 => br_c (fun g3 => ⟨lz_in4 g g1, fun r hr => ⟨lz_in4 g g1, fun b _ => ?_⟩⟩) (fun g3 => H _ _ hu (br_f g (br_f g1 (br_f g2 (br_f g3 rfl))))))))
  exact H r (m, f, v1, v2, v3, v4, v5, v6, v7, v8, v9, v10, v11, b, a2, a3, a4, a5, a6, a7, a8, a9, a10, a11, a12, a13, a14, a15, a16) ⟨e1, e2⟩ (br_f g (br_f g1 (br_f g2 (br_t g3 (hr.trans (hz _))))))
theorem lz_17 {post : St2 → Prop} {x2 : Int32} {m f v1 v2 v3 v4 v5 v6 v7 v8 v9 v10 v11 : Int32} {a1 a2 a3 a4 a5 a6 a7 a8 a9 a10 a11 a12 a13 a14 a15 a16 : Nat → Int32} (H : ∀ b, post (m, f, v1, v2, v3, v4, v5, v6, v7, v8, v9, v10, v11, a1, a2, b, a4, a5, a6, a7, a8, a9, a10, a11, a12, a13, a14, a15, a16)) : ∃ n, wX_setLinear_17 post 0 x2 m f v1 v2 v3 v4 v5 v6 v7 v8 v9 v10 v11 n 0 a1 a2 a3 a4 a5 a6 a7 a8 a9 a10 a11 a12 a13 a14 a15 a16 := by
  refine ⟨5, ?_⟩
  refine br_f (by decide) ⟨vp_in_iff.mpr (by decide), vp_in_iff.mpr (by decide), nm_e (nm_e ?_)⟩
  refine br_f (by decide) ⟨vp_in_iff.mpr (by decide), vp_in_iff.mpr (by decide), nm_e (nm_e ?_)⟩
  refine br_f (by decide) ⟨vp_in_iff.mpr (by decide), vp_in_iff.mpr (by decide), nm_e (nm_e ?_)⟩
  refine br_f (by decide) ⟨vp_in_iff.mpr (by decide), vp_in_iff.mpr (by decide), nm_e (nm_e ?_)⟩
  exact br_t (by decide) (H _)
theorem lz_setLinear {post : St2 → Prop} {u : St2} {s b f0 : Int32} (hu : lz_K 0 f0 u) (H : ∀ u', lz_K 0 f0 u' → post u') : wpX_setLinear post u 0 s b := by
  obtain ⟨m, f, v1, v2, v3, v4, v5, v6, v7, v8, v9, v10, v11, a1, a2, a3, a4, a5, a6, a7, a8, a9, a10, a11, a12, a13, a14, a15, a16⟩ := u
  have e1 : m = 0 := hu.1
  have e2 : f = f0 := hu.2
  exact ⟨vp_in_iff.mpr (by decide), nm_e ⟨vp_in_iff.mpr (by decide), nm_e (lz_17 (fun b => H _ ⟨e1, e2⟩))⟩⟩
theorem lz_accept {post : Int32 → St2 → Prop} {u : St2} {m0 f0 m1 f1 r : Int32} (hu : lz_K m0 f0 u) (hm : m0 + 1 = m1) (hf : f0 ||| ((1 : Int32) <<< (m0 &&& 31)) = f1) (hr : m1 - 1 = r) (H : ∀ u', lz_K m1 f1 u' → post r u') : wpX_accept post u := by
  obtain ⟨m, f, v1, v2, v3, v4, v5, v6, v7, v8, v9, v10, v11, a1, a2, a3, a4, a5, a6, a7, a8, a9, a10, a11, a12, a13, a14, a15, a16⟩ := u
  have e1 : m = m0 := hu.1
  have e2 : f = f0 := hu.2
  subst e1
  subst e2
  subst hr
  exact nm_r hf (nm_r hm (H _ ⟨rfl, rfl⟩))
theorem lz_linear {post : Int32 → St2 → Prop} {u : St2} {b : Int32} (hu : lz_K 0 0 u) (H : ∀ l r u', lz_L b l → (l = 0 → r = -1) ∧ (¬ l = 0 → r = 0) → lz_K l l u' → post r u') : wpX_linear post u b := by
  obtain ⟨m, f, v1, v2, v3, v4, v5, v6, v7, v8, v9, v10, v11, a1, a2, a3, a4, a5, a6, a7, a8, a9, a10, a11, a12, a13, a14, a15, a16⟩ := u
  have e1 : m = 0 := hu.1
  subst e1
  refine br_c (fun g => H 0 _ _ (Or.inl ⟨rfl, Or.inl g⟩) (br_t rfl rfl) hu) (fun g => br_c (fun g1 => br_f (by decide) (lz_setLinear hu ?_)) (fun g1 => H 0 _ _ (Or.inl ⟨rfl, Or.inr g1⟩) (br_t rfl rfl) hu))
  rintro ⟨m, f, v1, v2, v3, v4, v5, v6, v7, v8, v9, v10, v11, a1, a2, a3, a4, a5, a6, a7, a8, a9, a10, a11, a12, a13, a14, a15, a16⟩ hk
  refine lz_accept (m1 := 1) (f1 := 1) (r := 0) hk (by decide) (by decide) (by decide) ?_
  rintro ⟨m, f, v1, v2, v3, v4, v5, v6, v7, v8, v9, v10, v11, a1, a2, a3, a4, a5, a6, a7, a8, a9, a10, a11, a12, a13, a14, a15, a16⟩ hk
  exact H 1 _ _ (Or.inr ⟨rfl, g, g1⟩) (br_f (by decide) rfl) hk
theorem lz_differ {post : Int32 → St2 → Prop} {u : St2} {b s l : Int32} (hl : lz_L b l) (hu : lz_K l l u) (H : ∀ d r f' u', lz_D s d → (d = 0 → r = -1) ∧ (¬ d = 0 → r = l + d - 1) → lz_B (l + d) f' → lz_K (l + d) f' u' → post r u') : wpX_differ post u s := by
  obtain ⟨m, f, v1, v2, v3, v4, v5, v6, v7, v8, v9, v10, v11, a1, a2, a3, a4, a5, a6, a7, a8, a9, a10, a11, a12, a13, a14, a15, a16⟩ := u
  have e1 : m = l := hu.1
  have e2 : f = l := hu.2
  subst e1
  rcases hl with ⟨e, _⟩ | ⟨e, _⟩
  · subst e
    refine br_c (fun g => H 0 _ _ _ (Or.inl ⟨rfl, Or.inl g⟩) (br_t rfl rfl) lz_B0 hu) (fun g => br_c (fun g1 => br_f (by decide) ⟨vp_in_iff.mpr (by decide), nm_e ⟨vp_in_iff.mpr (by decide), nm_e ?_⟩⟩) (fun g1 => H 0 _ _ _ (Or.inl ⟨rfl, Or.inr g1⟩) (br_t rfl rfl) lz_B0 hu))
    refine lz_accept (m0 := 0) (f0 := 0) (m1 := 1) (f1 := 1) (r := 0) ⟨rfl, e2⟩ (by decide) (by decide) (by decide) ?_
    rintro ⟨m, f, v1, v2, v3, v4, v5, v6, v7, v8, v9, v10, v11, a1, a2, a3, a4, a5, a6, a7, a8, a9, a10, a11, a12, a13, a14, a15, a16⟩ hk
    exact H 1 _ 1 _ (Or.inr ⟨rfl, g, g1⟩) (br_f (by decide) (by decide)) lz_B1 hk
  · subst e
    refine br_c (fun g => H 0 _ _ _ (Or.inl ⟨rfl, Or.inl g⟩) (br_t rfl rfl) lz_B1 hu) (fun g => br_c (fun g1 => br_f (by decide) ⟨vp_in_iff.mpr (by decide), nm_e ⟨vp_in_iff.mpr (by decide), nm_e ?_⟩⟩) (fun g1 => H 0 _ _ _ (Or.inl ⟨rfl, Or.inr g1⟩) (br_t rfl rfl) lz_B1 hu))
    refine lz_accept (m0 := 1) (f0 := 1) (m1 := 2) (f1 := 3) (r := 1) ⟨rfl, e2⟩ (by decide) (by decide) (by decide) ?_
    rintro ⟨m, f, v1, v2, v3, v4, v5, v6, v7, v8, v9, v10, v11, a1, a2, a3, a4, a5, a6, a7, a8, a9, a10, a11, a12, a13, a14, a15, a16⟩ hk
    exact H 1 _ 3 _ (Or.inr ⟨rfl, g, g1⟩) (br_f (by decide) (by decide)) lz_B2 hk
theorem lz_constraints {post : Int32 → Prop} {u : St2} {m0 f0 : Int32} (hu : lz_K m0 f0 u) (H : post m0) : wpX_constraints post u := by
  obtain ⟨m, f, v1, v2, v3, v4, v5, v6, v7, v8, v9, v10, v11, a1, a2, a3, a4, a5, a6, a7, a8, a9, a10, a11, a12, a13, a14, a15, a16⟩ := u
  have e1 : m = m0 := hu.1
  subst e1
  exact H
theorem lz_force {post : Int32 → St2 → Prop} {u : St2} {m0 f0 c on : Int32} (hu : lz_K m0 f0 u)
    (H0 : (c < 0 ∨ ¬ c < m0) → ∀ u', lz_K m0 f0 u' → post (-1) u')
    (H1 : ¬ c < 0 → c < m0 → on = 0 → ∀ u', lz_K m0 (f0 &&& (((1 : Int32) <<< (c &&& 31)) ^^^ (-1))) u' → post ((f0 >>> (c &&& 31)) &&& 1) u')
    (H2 : ¬ c < 0 → c < m0 → ¬ on = 0 → ∀ u', lz_K m0 ((f0 &&& (((1 : Int32) <<< (c &&& 31)) ^^^ (-1))) ||| ((1 : Int32) <<< (c &&& 31))) u' → post ((f0 >>> (c &&& 31)) &&& 1) u') : wpX_force post u c on := by
  obtain ⟨m, f, v1, v2, v3, v4, v5, v6, v7, v8, v9, v10, v11, a1, a2, a3, a4, a5, a6, a7, a8, a9, a10, a11, a12, a13, a14, a15, a16⟩ := u
  have e1 : m = m0 := hu.1
  have e2 : f = f0 := hu.2
  subst e1
  subst e2
  exact br_c (fun g => H0 (Or.inl g) _ hu) (fun g => br_c (fun g1 => nm_e (nm_e (br_c (fun z => H1 g g1 z _ ⟨rfl, rfl⟩) (fun z => nm_e (H2 g g1 z _ ⟨rfl, rfl⟩))))) (fun g1 => H0 (Or.inr g1) _ hu))
end
section
/-! the law's checks, from the last to the first -/
theorem lz_249 {post : Int32 → St0 → Prop} {mc ms kc ks : Nat} {z0 z1 : Int32} (h : z1 = z0) (H : post 1 ()) : wL_lawOf_249 post mc ms z0 z1 kc ks := br_t h H
theorem lz_225 {post : Int32 → St0 → Prop} {mc ms kc ks : Nat} {x5 x12 x16 z0 z1 : Int32} (h : z1 = z0) (h12 : (x16 = 0 → x12 = -1) ∧ (¬ x16 = 0 → (x5 = 0 → x12 = 0) ∧ (¬ x5 = 0 → x12 = 1))) (H : post 1 ()) : wL_lawOf_225 post mc ms x5 x12 x16 z0 z1 kc ks :=
  br_t h (br_c (fun g => lz_249 (h12.1 g) H) (fun g => br_c (fun g2 => lz_249 ((h12.2 g).1 g2) H) (fun g2 => lz_249 ((h12.2 g).2 g2) H)))
theorem lz_203 {post : Int32 → St0 → Prop} {mc ms kc ks : Nat} {x5 x10 x11 x12 x13 x16 z0 z1 : Int32} (h : z1 = z0) (h10 : x10 = x13) (h11 : (x16 = 0 → x11 = -1) ∧ (¬ x16 = 0 → x11 = 1)) (h12 : (x16 = 0 → x12 = -1) ∧ (¬ x16 = 0 → (x5 = 0 → x12 = 0) ∧ (¬ x5 = 0 → x12 = 1))) (H : post 1 ()) : wL_lawOf_203 post mc ms x5 x10 x11 x12 x13 x16 z0 z1 kc ks :=
  br_t h (br_t h10 (br_c (fun g => lz_225 (h11.1 g) h12 H) (fun g => lz_225 (h11.2 g) h12 H)))
theorem lz_185 {post : Int32 → St0 → Prop} {mc ms kc ks : Nat} {x5 x9 x10 x11 x12 x13 x15 x16 z0 z1 : Int32} (h : z1 = z0) (h9 : (x15 = 0 → x9 = -1) ∧ (¬ x15 = 0 → x9 = x13 - 1)) (h10 : x10 = x13) (h11 : (x16 = 0 → x11 = -1) ∧ (¬ x16 = 0 → x11 = 1)) (h12 : (x16 = 0 → x12 = -1) ∧ (¬ x16 = 0 → (x5 = 0 → x12 = 0) ∧ (¬ x5 = 0 → x12 = 1))) (H : post 1 ()) : wL_lawOf_185 post mc ms x5 x9 x10 x11 x12 x13 x15 x16 z0 z1 kc ks :=
  br_t h (br_c (fun g => lz_203 (h9.1 g) h10 h11 h12 H) (fun g => lz_203 (h9.2 g) h10 h11 h12 H))
theorem lz_170 {post : Int32 → St0 → Prop} {mc ms kc ks : Nat} {x5 x8 x9 x10 x11 x12 x13 x14 x15 x16 z0 z1 : Int32} (h : z1 = z0) (h8 : (x14 = 0 → x8 = -1) ∧ (¬ x14 = 0 → x8 = 0)) (h9 : (x15 = 0 → x9 = -1) ∧ (¬ x15 = 0 → x9 = x13 - 1)) (h10 : x10 = x13) (h11 : (x16 = 0 → x11 = -1) ∧ (¬ x16 = 0 → x11 = 1)) (h12 : (x16 = 0 → x12 = -1) ∧ (¬ x16 = 0 → (x5 = 0 → x12 = 0) ∧ (¬ x5 = 0 → x12 = 1))) (H : post 1 ()) : wL_lawOf_170 post mc ms x5 x8 x9 x10 x11 x12 x13 x14 x15 x16 z0 z1 kc ks :=
  br_t h (br_c (fun g => lz_185 (h8.1 g) h9 h10 h11 h12 H) (fun g => lz_185 (h8.2 g) h9 h10 h11 h12 H))
theorem lz_141 {post : Int32 → St0 → Prop} {mc ms kc ks : Nat} {x0 x1 x5 x7 x8 x9 x10 x11 x12 x13 x14 x15 x16 : Int32} (h7 : lz_F x0 x1 x7) (h8 : (x14 = 0 → x8 = -1) ∧ (¬ x14 = 0 → x8 = 0)) (h9 : (x15 = 0 → x9 = -1) ∧ (¬ x15 = 0 → x9 = x13 - 1)) (h10 : x10 = x13) (h11 : (x16 = 0 → x11 = -1) ∧ (¬ x16 = 0 → x11 = 1)) (h12 : (x16 = 0 → x12 = -1) ∧ (¬ x16 = 0 → (x5 = 0 → x12 = 0) ∧ (¬ x5 = 0 → x12 = 1))) (H : post 1 ()) : wL_lawOf_141 post mc ms x0 x1 x5 x7 x8 x9 x10 x11 x12 x13 x14 x15 x16 kc ks := by
  have b : x7 = -1 → wL_lawOf_165 post mc ms x5 x8 x9 x10 x11 x12 x13 x14 x15 x16 x7 kc ks := by
    intro h
    unfold wL_lawOf_165
    exact lz_170 h h8 h9 h10 h11 h12 H
  exact br_c (fun g => b (h7.1 g)) (fun g => br_c (fun g1 => b ((h7.2 g).1 g1)) (fun g1 => br_c (fun g2 => b (((h7.2 g).2 g1).1 g2)) (fun g2 => br_c (fun g3 => lz_170 ((((h7.2 g).2 g1).2 g2).1 g3) h8 h9 h10 h11 h12 H) (fun g3 => b ((((h7.2 g).2 g1).2 g2).2 g3)))))
theorem lz_140 {post : Int32 → St0 → Prop} {mc ms kc ks : Nat} {x0 x1 x5 x7 x8 x9 x10 x11 x12 x13 x14 x15 : Int32} (h7 : lz_F x0 x1 x7) (h8 : (x14 = 0 → x8 = -1) ∧ (¬ x14 = 0 → x8 = 0)) (h9 : (x15 = 0 → x9 = -1) ∧ (¬ x15 = 0 → x9 = x13 - 1)) (h10 : x10 = x13) (h11 : x11 = -1) (h12 : x12 = -1) (H : post 1 ()) : wL_lawOf_140 post mc ms x0 x1 x5 x7 x8 x9 x10 x11 x12 x13 x14 x15 kc ks := by
  unfold wL_lawOf_140
  exact lz_141 h7 h8 h9 h10 (br_t rfl h11) (br_t rfl h12) H
theorem lz_121 {post : Int32 → St0 → Prop} {mc ms kc ks : Nat} {x0 x1 x4 x5 x7 x8 x9 x10 x11 x12 x14 x15 : Int32} (h7 : lz_F x0 x1 x7) (h8 : (x14 = 0 → x8 = -1) ∧ (¬ x14 = 0 → x8 = 0)) (h9 : (x15 = 0 → x9 = -1) ∧ (¬ x15 = 0 → x9 = x14 + x15 - 1)) (h10 : x10 = x14 + x15) (hb : (x4 < 0 ∨ x14 + x15 ≤ x4) → x11 = -1 ∧ x12 = -1) (hg : ¬ x4 < 0 → ¬ x14 + x15 ≤ x4 → x11 = 1 ∧ (x5 = 0 → x12 = 0) ∧ (¬ x5 = 0 → x12 = 1)) (H : post 1 ()) : wL_lawOf_121 post mc ms x0 x1 x4 x5 x7 x8 x9 x10 x11 x12 x14 x15 x15 x14 kc ks :=
  nm_e (br_c (fun g => lz_140 h7 h8 h9 h10 (hb (Or.inl g)).1 (hb (Or.inl g)).2 H) (fun g => br_c (fun g1 => lz_140 h7 h8 h9 h10 (hb (Or.inr g1)).1 (hb (Or.inr g1)).2 H) (fun g1 => lz_141 h7 h8 h9 h10 (br_f (by decide) (hg g g1).1) (br_f (by decide) (hg g g1).2) H)))
theorem lz_111 {post : Int32 → St0 → Prop} {mc ms kc ks : Nat} {x0 x1 x4 x5 x7 x8 x9 x10 x11 x12 x14 x15 z0 : Int32} (h15 : x15 = 0 ∨ x15 = 1) (H : wL_lawOf_121 post mc ms x0 x1 x4 x5 x7 x8 x9 x10 x11 x12 x14 x15 x15 z0 kc ks) : wL_lawOf_111 post mc ms x0 x1 x4 x5 x7 x8 x9 x10 x11 x12 x14 x15 z0 kc ks := by
  rcases h15 with e | e
  · subst e
    exact br_t rfl H
  · subst e
    exact br_f (by decide) H
theorem lz_99 {post : Int32 → St0 → Prop} {mc ms kc ks : Nat} {x0 x1 x4 x5 x7 x8 x9 x10 x11 x12 x14 x15 : Int32} (h14 : x14 = 0 ∨ x14 = 1) (h15 : x15 = 0 ∨ x15 = 1) (H : wL_lawOf_121 post mc ms x0 x1 x4 x5 x7 x8 x9 x10 x11 x12 x14 x15 x15 x14 kc ks) : wL_lawOf_99 post mc ms x0 x1 x4 x5 x7 x8 x9 x10 x11 x12 x14 x15 kc ks := by
  rcases h14 with e | e
  · subst e
    exact br_t rfl (lz_111 h15 H)
  · subst e
    exact br_f (by decide) (lz_111 h15 H)
theorem lz_82 {post : Int32 → St0 → Prop} {mc ms kc ks : Nat} {x0 x1 x3 x4 x5 x7 x8 x9 x10 x11 x12 x14 x15 : Int32} (h14 : x14 = 0 ∨ x14 = 1) (hd : lz_D x3 x15) (h7 : lz_F x0 x1 x7) (h8 : (x14 = 0 → x8 = -1) ∧ (¬ x14 = 0 → x8 = 0)) (h9 : (x15 = 0 → x9 = -1) ∧ (¬ x15 = 0 → x9 = x14 + x15 - 1)) (h10 : x10 = x14 + x15) (hb : (x4 < 0 ∨ x14 + x15 ≤ x4) → x11 = -1 ∧ x12 = -1) (hg : ¬ x4 < 0 → ¬ x14 + x15 ≤ x4 → x11 = 1 ∧ (x5 = 0 → x12 = 0) ∧ (¬ x5 = 0 → x12 = 1)) (H : post 1 ()) : wL_lawOf_82 post mc ms x0 x1 x3 x4 x5 x7 x8 x9 x10 x11 x12 x14 kc ks := by
  rcases hd with ⟨e, h⟩ | ⟨e, h, h'⟩
  · subst e
    have t : wL_lawOf_98 post mc ms x0 x1 x4 x5 x7 x8 x9 x10 x11 x12 x14 kc ks := by
      unfold wL_lawOf_98
      exact lz_99 h14 (Or.inl rfl) (lz_121 h7 h8 h9 h10 hb hg H)
    exact br_c (fun _ => t) (fun g => br_t (Int32.not_le.mp (h.resolve_left g)) t)
  · subst e
    exact br_f h (br_f (Int32.not_lt.mpr h') (lz_99 h14 (Or.inr rfl) (lz_121 h7 h8 h9 h10 hb hg H)))
theorem lz_tail {post : Int32 → St0 → Prop} {mc ms kc ks : Nat} {p2 x0 x1 x3 x4 x5 x7 x8 x9 x10 x11 x12 x14 x15 : Int32} (hl : lz_L p2 x14) (hd : lz_D x3 x15) (h7 : lz_F x0 x1 x7) (h8 : (x14 = 0 → x8 = -1) ∧ (¬ x14 = 0 → x8 = 0)) (h9 : (x15 = 0 → x9 = -1) ∧ (¬ x15 = 0 → x9 = x14 + x15 - 1)) (h10 : x10 = x14 + x15) (hb : (x4 < 0 ∨ x14 + x15 ≤ x4) → x11 = -1 ∧ x12 = -1) (hg : ¬ x4 < 0 → ¬ x14 + x15 ≤ x4 → x11 = 1 ∧ (x5 = 0 → x12 = 0) ∧ (¬ x5 = 0 → x12 = 1)) (H : post 1 ()) :
    ((p2 < (-60) → (wL_lawOf_81 post mc ms x0 x1 x3 x4 x5 x7 x8 x9 x10 x11 x12 kc ks)) ∧ (¬ p2 < (-60) → (((60 < p2 → (wL_lawOf_81 post mc ms x0 x1 x3 x4 x5 x7 x8 x9 x10 x11 x12 kc ks)) ∧ (¬ 60 < p2 → (wL_lawOf_82 post mc ms x0 x1 x3 x4 x5 x7 x8 x9 x10 x11 x12 1 kc ks)))))) := by
  rcases hl with ⟨e, h⟩ | ⟨e, h, h'⟩
  · subst e
    have t : wL_lawOf_81 post mc ms x0 x1 x3 x4 x5 x7 x8 x9 x10 x11 x12 kc ks := by
      unfold wL_lawOf_81
      exact lz_82 (Or.inl rfl) hd h7 h8 h9 h10 hb hg H
    exact br_c (fun _ => t) (fun g => br_t (Int32.not_le.mp (h.resolve_left g)) t)
  · subst e
    exact br_f h (br_f (Int32.not_lt.mpr h') (lz_82 (Or.inr rfl) hd h7 h8 h9 h10 hb hg H))
/-! the law -/
theorem lz_lawOf {p0 p1 p2 p3 p4 p5 : Int32} : wpL_lawOf (fun r _ => r = 1) 17 455 () p0 p1 p2 p3 p4 p5 := by
  refine ⟨by decide, by decide, 16, 426, by decide, by decide, lz_init ?_⟩
  rintro ⟨m, f, v1, v2, v3, v4, v5, v6, v7, v8, v9, v10, v11, a1, a2, a3, a4, a5, a6, a7, a8, a9, a10, a11, a12, a13, a14, a15, a16⟩ hk h0
  refine lz_factor hk h0 ?_
  rintro r7 ⟨m, f, v1, v2, v3, v4, v5, v6, v7, v8, v9, v10, v11, a1, a2, a3, a4, a5, a6, a7, a8, a9, a10, a11, a12, a13, a14, a15, a16⟩ hk h7
  refine lz_linear hk ?_
  rintro l r8 ⟨m, f, v1, v2, v3, v4, v5, v6, v7, v8, v9, v10, v11, a1, a2, a3, a4, a5, a6, a7, a8, a9, a10, a11, a12, a13, a14, a15, a16⟩ hl h8 hk
  refine lz_differ hl hk ?_
  rintro d r9 fb ⟨m, f, v1, v2, v3, v4, v5, v6, v7, v8, v9, v10, v11, a1, a2, a3, a4, a5, a6, a7, a8, a9, a10, a11, a12, a13, a14, a15, a16⟩ hd h9 hB hk
  refine lz_constraints hk ?_
  refine lz_force hk ?_ ?_ ?_
  · rintro hc ⟨m, f, v1, v2, v3, v4, v5, v6, v7, v8, v9, v10, v11, a1, a2, a3, a4, a5, a6, a7, a8, a9, a10, a11, a12, a13, a14, a15, a16⟩ hk
    refine lz_force hk ?_ (fun g g1 => absurd hc (fun z => z.elim g (fun z => z g1))) (fun g g1 => absurd hc (fun z => z.elim g (fun z => z g1)))
    rintro _ ⟨m, f, v1, v2, v3, v4, v5, v6, v7, v8, v9, v10, v11, a1, a2, a3, a4, a5, a6, a7, a8, a9, a10, a11, a12, a13, a14, a15, a16⟩ hk
    exact lz_tail hl hd h7 h8 h9 rfl (fun _ => ⟨rfl, rfl⟩) (fun g g1 => absurd hc (fun z => z.elim g (fun z => z (Int32.not_le.mp g1)))) rfl
  · rintro g g1 ho ⟨m, f, v1, v2, v3, v4, v5, v6, v7, v8, v9, v10, v11, a1, a2, a3, a4, a5, a6, a7, a8, a9, a10, a11, a12, a13, a14, a15, a16⟩ hk
    refine lz_force hk (fun hc => absurd hc (fun z => z.elim g (fun z => z g1))) (fun _ _ z => absurd z (by decide)) ?_
    rintro _ _ _ ⟨m, f, v1, v2, v3, v4, v5, v6, v7, v8, v9, v10, v11, a1, a2, a3, a4, a5, a6, a7, a8, a9, a10, a11, a12, a13, a14, a15, a16⟩ hk
    exact lz_tail hl hd h7 h8 h9 rfl (fun hc => absurd hc (fun z => z.elim g (fun z => Int32.not_le.mpr g1 z))) (fun _ _ => ⟨(hB _ g g1).1, fun _ => (hB _ g g1).2.1, fun z => absurd ho z⟩) rfl
  · rintro g g1 ho ⟨m, f, v1, v2, v3, v4, v5, v6, v7, v8, v9, v10, v11, a1, a2, a3, a4, a5, a6, a7, a8, a9, a10, a11, a12, a13, a14, a15, a16⟩ hk
    refine lz_force hk (fun hc => absurd hc (fun z => z.elim g (fun z => z g1))) (fun _ _ z => absurd z (by decide)) ?_
    rintro _ _ _ ⟨m, f, v1, v2, v3, v4, v5, v6, v7, v8, v9, v10, v11, a1, a2, a3, a4, a5, a6, a7, a8, a9, a10, a11, a12, a13, a14, a15, a16⟩ hk
    exact lz_tail hl hd h7 h8 h9 rfl (fun hc => absurd hc (fun z => z.elim g (fun z => Int32.not_le.mpr g1 z))) (fun _ _ => ⟨(hB _ g g1).1, fun z => absurd z ho, fun _ => (hB _ g g1).2.2⟩) rfl
theorem i_vc (xs : Nat → Int32) (L : Nat) (hL : L ≤ 6) : wpL_law (fun r => r = 1) L xs := by
  unfold wpL_law
  exact lz_cell 0 (by decide) hL (fun _ => lz_cell 1 (by decide) hL (fun _ => lz_cell 2 (by decide) hL (fun _ => lz_cell 3 (by decide) hL (fun _ => lz_cell 4 (by decide) hL (fun _ => lz_cell 5 (by decide) hL (fun _ => ⟨17, 455, by decide, by decide, lz_lawOf⟩))))))
end
