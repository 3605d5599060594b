section
/-! numbers -/
theorem sw_b : ∀ n, n < 16 → (nI n).toInt8.toInt32 = nI n := by decide +kernel
theorem sw_8s : ∀ n, n < 8 → 8 + nI n = nI (8 + n) := by decide +kernel
theorem sw_8m : ∀ n, n < 8 → 8 + nI n - 8 = nI n := by decide +kernel
theorem sw_40 : ∀ n, n < 4 → 4 * 0 + nI n = nI n := by decide +kernel
theorem sw_bit : ∀ i, i < 8 → ∀ x, x < 8 → ((((0 ||| ((1 : Int32) <<< (nI i &&& 31))) >>> (nI x &&& 31)) &&& 1 = 0) ↔ ¬ x = i) := by decide +kernel
theorem sw_z : ∀ x, x < 8 → ((0 : Int32) >>> (nI x &&& 31)) &&& 1 = 0 := by decide +kernel
theorem sw_x4 : ∀ k, k < 16 → (nI k ^^^ 4).toInt8.toInt32 = nI k ^^^ 4 := by decide +kernel
theorem sw_rd {f : Nat → Int32} {x v : Int32} {n : Nat} (hx : x = nI n) (hn : n < 2 ^ 31) (h : f n = v) : f x.toNatClampNeg = v := by
  rw [hx, nI_clamp hn]
  exact h
theorem sw_up {f : Nat → Int32} {x y v : Int32} {n : Nat} (hx : x = nI n) (hn : n < 2 ^ 31) (hy : y = v) : upd f x.toNatClampNeg y = upd f n v := by
  rw [hx, nI_clamp hn, hy]
/-- the picture: thing i has the traits k and lies in place p; all others lie in place 7 (nowhere) -/
def sw_pic (i k p : Nat) (a1 a2 a3 a4 a5 a6 a13 : Nat → Int32) : Prop :=
  i < 8 ∧ k < 16 ∧ p < 16 ∧ a1 0 = 0 ∧ (∀ j, j < 24 → a2 j = -1) ∧ (∀ j, j < 6 → a13 j = -1) ∧ a3 i = nI k ∧ a4 i = nI p ∧ (∀ j, j < 8 → j ≠ i → a4 j = 7) ∧ (p ≠ 7 → a5 p = nI i ∧ a6 i = -1) ∧ (∀ j, j < 16 → j ≠ 7 → j ≠ p → a5 j = -1)
theorem sw_isT1 {ne sk rc nc wc tc mt sd : Int32} {a1 a2 a3 a4 a5 a6 a7 a8 a9 a10 a11 a12 a13 a14 a15 a16 a17 a18 a19 a20 a21 a22 : Nat → Int32} {post : Int32 → Prop} {b : Nat} (hb : b < 8) (H : post 1) : wpX_isThing post (0, ne, sk, rc, nc, wc, tc, mt, sd, a1, a2, a3, a4, a5, a6, a7, a8, a9, a10, a11, a12, a13, a14, a15, a16, a17, a18, a19, a20, a21, a22) (nI b) :=
  br_f (nI_pos (by omega)) (pk_lt 7 b (fun z => absurd z (by omega)) (fun _ => H))
theorem sw_isT0 {ne sk rc nc wc tc mt sd : Int32} {a1 a2 a3 a4 a5 a6 a7 a8 a9 a10 a11 a12 a13 a14 a15 a16 a17 a18 a19 a20 a21 a22 : Nat → Int32} {post : Int32 → Prop} {x : Int32} (hx : ¬ (¬ x < 0 ∧ ¬ 7 < x)) (H : post 0) : wpX_isThing post (0, ne, sk, rc, nc, wc, tc, mt, sd, a1, a2, a3, a4, a5, a6, a7, a8, a9, a10, a11, a12, a13, a14, a15, a16, a17, a18, a19, a20, a21, a22) x :=
  br_c (fun _ => H) (fun h => br_c (fun _ => H) (fun h2 => absurd ⟨h, h2⟩ hx))
/-! what is near -/
theorem sw_look0 {ne sk rc nc wc tc mt sd : Int32} {a1 a2 a3 a4 a5 a6 a7 a8 a9 a10 a11 a12 a13 a14 a15 a16 a17 a18 a19 a20 a21 a22 : Nat → Int32} {post : St2 → Prop} {j : Nat} {x : Int32} (hx : x = nI j) (hj : j < 16) (h : a5 j = -1) (H : post (0, ne, sk, rc, nc, wc, tc, mt, sd, a1, a2, a3, a4, a5, a6, a7, a8, a9, a10, a11, a12, a13, a14, a15, a16, a17, a18, a19, a20, a21, a22)) : wpX_look post (0, ne, sk, rc, nc, wc, tc, mt, sd, a1, a2, a3, a4, a5, a6, a7, a8, a9, a10, a11, a12, a13, a14, a15, a16, a17, a18, a19, a20, a21, a22) x :=
  ⟨pk_in j 16 hj hx, nm_r (sw_rd hx (by omega) h) ⟨1, br_t (by decide) H⟩⟩
theorem sw_look1 {ne rc nc wc tc mt sd : Int32} {a1 a2 a3 a4 a5 a6 a7 a8 a9 a10 a11 a12 a13 a14 a15 a16 a17 a18 a19 a20 a21 a22 : Nat → Int32} {post : St2 → Prop} {i j : Nat} {x : Int32} (hx : x = nI j) (hj : j < 16) (hi : i < 8) (h : a5 j = nI i) (h6 : a6 i = -1) (H : post (0, ne, 1, rc, nc, wc, tc, mt, sd, a1, a2, a3, a4, a5, a6, a7, (upd a8 0 (nI i)), a9, a10, a11, a12, a13, a14, a15, a16, a17, a18, a19, a20, a21, a22)) : wpX_look post (0, ne, 0, rc, nc, wc, tc, mt, sd, a1, a2, a3, a4, a5, a6, a7, a8, a9, a10, a11, a12, a13, a14, a15, a16, a17, a18, a19, a20, a21, a22) x :=
  ⟨pk_in j 16 hj hx, nm_r (sw_rd hx (by omega) h) ⟨2, br_f (nI_pos (by omega)) ⟨pk_in 0 24 (by omega), nm_r (sw_up (n := 0) rfl (by omega) (sw_b i (by omega))) (nm_r (show (0 : Int32) + 1 = 1 from rfl) ⟨pk_in i 8 hi, nm_r (sw_rd rfl (by omega) h6) (br_t (by decide) H)⟩)⟩⟩⟩
theorem sw_nl {rc nc wc tc mt sd : Int32} {a1 a2 a3 a4 a5 a6 a7 a8 a9 a10 a11 a12 a13 a14 a15 a16 a17 a18 a19 a20 a21 a22 : Nat → Int32} {post : St2 → Prop} {i : Nat} (hi : i < 8) (h8 : a8 0 = nI i) (h5 : a5 (8 + i) = -1) (H : post (0, (0 ||| ((1 : Int32) <<< (nI i &&& 31))), 0, rc, nc, wc, tc, mt, sd, a1, a2, a3, a4, a5, a6, a7, a8, a9, a10, a11, a12, a13, a14, a15, a16, a17, a18, a19, a20, a21, a22)) : ∃ fu, wX_findNear_24 post fu 0 0 1 rc nc wc tc mt sd a1 a2 a3 a4 a5 a6 a7 a8 a9 a10 a11 a12 a13 a14 a15 a16 a17 a18 a19 a20 a21 a22 :=
  ⟨2, br_f (by decide) (nm_r (show (1 : Int32) - 1 = 0 from rfl) ⟨pk_in 0 24 (by omega), nm_r (sw_rd (n := 0) rfl (by omega) h8) (nm_e ⟨pk_in i 8 hi, br_c (fun _ => sw_look0 (sw_8s i hi) (by omega) h5 (br_t (by decide) H)) (fun _ => br_t (by decide) H)⟩)⟩)⟩
theorem sw_near {ne sk rc nc wc tc mt sd : Int32} {a1 a2 a3 a4 a5 a6 a7 a8 a9 a10 a11 a12 a13 a14 a15 a16 a17 a18 a19 a20 a21 a22 : Nat → Int32} {post : St2 → Prop} {i k p : Nat} (q : sw_pic i k p a1 a2 a3 a4 a5 a6 a13)
    (H : ∀ (ne' : Int32) (a8' : Nat → Int32), (p = 0 ∨ p = 6 → ne' = 0 ||| ((1 : Int32) <<< (nI i &&& 31))) → (¬ (p = 0 ∨ p = 6) → ne' = 0) → post (0, ne', 0, rc, nc, wc, tc, mt, sd, a1, a2, a3, a4, a5, a6, a7, a8', a9, a10, a11, a12, a13, a14, a15, a16, a17, a18, a19, a20, a21, a22)) : wpX_findNear post (0, ne, sk, rc, nc, wc, tc, mt, sd, a1, a2, a3, a4, a5, a6, a7, a8, a9, a10, a11, a12, a13, a14, a15, a16, a17, a18, a19, a20, a21, a22) := by
  obtain ⟨hi, hk, hp, q1, q2, q13, q3, q4, q4', q5, q5'⟩ := q
  unfold wpX_findNear
  by_cases h0 : p = 0
  · obtain ⟨q5a, q5b⟩ := q5 (by omega)
    rw [h0] at q5a
    refine sw_look1 (j := 0) rfl (by omega) hi q5a q5b ?_
    refine sw_look0 (j := 6) rfl (by omega) (q5' 6 (by omega) (by omega) (by omega)) ?_
    exact sw_nl hi pk_us (q5' (8 + i) (by omega) (by omega) (by omega)) (H _ _ (fun _ => rfl) (fun z => absurd (Or.inl h0) z))
  · refine sw_look0 (j := 0) rfl (by omega) (q5' 0 (by omega) (by omega) (by omega)) ?_
    by_cases h6 : p = 6
    · obtain ⟨q5a, q5b⟩ := q5 (by omega)
      rw [h6] at q5a
      refine sw_look1 (j := 6) rfl (by omega) hi q5a q5b ?_
      exact sw_nl hi pk_us (q5' (8 + i) (by omega) (by omega) (by omega)) (H _ _ (fun _ => rfl) (fun z => absurd (Or.inr h6) z))
    · refine sw_look0 (j := 6) rfl (by omega) (q5' 6 (by omega) (by omega) (by omega)) ?_
      exact ⟨1, br_t (by decide) (H _ _ (fun z => absurd z (by omega)) (fun _ => rfl))⟩
theorem sw_vis {ne sk rc nc wc tc mt sd : Int32} {a1 a2 a3 a4 a5 a6 a7 a8 a9 a10 a11 a12 a13 a14 a15 a16 a17 a18 a19 a20 a21 a22 : Nat → Int32} {post : Int32 → St2 → Prop} {i k p x : Nat} (q : sw_pic i k p a1 a2 a3 a4 a5 a6 a13) (hx : x < 8)
    (H1 : x = i → (p = 0 ∨ p = 6) → ∀ (ne' : Int32) (a8' : Nat → Int32), post 1 (0, ne', 0, rc, nc, wc, tc, mt, sd, a1, a2, a3, a4, a5, a6, a7, a8', a9, a10, a11, a12, a13, a14, a15, a16, a17, a18, a19, a20, a21, a22))
    (H0 : ¬ (x = i ∧ (p = 0 ∨ p = 6)) → ∀ (ne' : Int32) (a8' : Nat → Int32), post 0 (0, ne', 0, rc, nc, wc, tc, mt, sd, a1, a2, a3, a4, a5, a6, a7, a8', a9, a10, a11, a12, a13, a14, a15, a16, a17, a18, a19, a20, a21, a22)) : wpX_isVisible post (0, ne, sk, rc, nc, wc, tc, mt, sd, a1, a2, a3, a4, a5, a6, a7, a8, a9, a10, a11, a12, a13, a14, a15, a16, a17, a18, a19, a20, a21, a22) (nI x) := by
  unfold wpX_isVisible
  refine sw_near q (fun ne' a8' h1 h0 => ?_)
  obtain ⟨hi, hk, hp, q1, _⟩ := q
  by_cases hpp : p = 0 ∨ p = 6
  · have e := h1 hpp
    subst e
    by_cases hxi : x = i
    · exact br_f (fun z => (sw_bit i hi x hx).mp z hxi) ⟨pk_in 0 6 (by omega), br_t q1 (H1 hxi hpp _ _)⟩
    · exact br_t ((sw_bit i hi x hx).mpr hxi) (H0 (fun z => hxi z.1) _ _)
  · have e := h0 hpp
    subst e
    exact br_t (sw_z x hx) (H0 (fun z => hpp z.2) _ _)
theorem sw_visible {ne sk rc nc wc tc mt sd : Int32} {a1 a2 a3 a4 a5 a6 a7 a8 a9 a10 a11 a12 a13 a14 a15 a16 a17 a18 a19 a20 a21 a22 : Nat → Int32} {post : Int32 → St2 → Prop} {i k p : Nat} (q : sw_pic i k p a1 a2 a3 a4 a5 a6 a13)
    (H1 : (p = 0 ∨ p = 6) → ∀ (ne' : Int32) (a8' : Nat → Int32), post 1 (0, ne', 0, rc, nc, wc, tc, mt, sd, a1, a2, a3, a4, a5, a6, a7, a8', a9, a10, a11, a12, a13, a14, a15, a16, a17, a18, a19, a20, a21, a22))
    (H0 : ¬ (p = 0 ∨ p = 6) → ∀ (ne' : Int32) (a8' : Nat → Int32), post 0 (0, ne', 0, rc, nc, wc, tc, mt, sd, a1, a2, a3, a4, a5, a6, a7, a8', a9, a10, a11, a12, a13, a14, a15, a16, a17, a18, a19, a20, a21, a22)) : wpX_visible post (0, ne, sk, rc, nc, wc, tc, mt, sd, a1, a2, a3, a4, a5, a6, a7, a8, a9, a10, a11, a12, a13, a14, a15, a16, a17, a18, a19, a20, a21, a22) (nI i) := by
  unfold wpX_visible
  refine sw_isT1 q.1 (br_f (by decide) ?_)
  exact sw_vis q q.1 (fun _ h ne' a8' => br_f (by decide) (H1 h ne' a8')) (fun h ne' a8' => br_t rfl (H0 (fun z => h ⟨rfl, z⟩) ne' a8'))
end
section
/-! moves, boxes, commands over the picture -/
theorem sw_mv {ne sk rc nc wc tc mt sd : Int32} {a1 a2 a3 a4 a5 a6 a7 a8 a9 a10 a11 a12 a13 a14 a15 a16 a17 a18 a19 a20 a21 a22 : Nat → Int32} {post : St2 → Prop} {i p r : Nat} (hi : i < 8) (hp : p < 16) (hr : r < 16) (h4 : a4 i = nI p) (h5 : a5 p = nI i)
    (H : ∀ b4 b5 b6 : Nat → Int32, b4 i = nI r → post (0, ne, sk, rc, nc, wc, tc, mt, sd, a1, a2, a3, b4, b5, b6, a7, a8, a9, a10, a11, a12, a13, a14, a15, a16, a17, a18, a19, a20, a21, a22)) : wpX_move post (0, ne, sk, rc, nc, wc, tc, mt, sd, a1, a2, a3, a4, a5, a6, a7, a8, a9, a10, a11, a12, a13, a14, a15, a16, a17, a18, a19, a20, a21, a22) (nI i) (nI r) :=
  ⟨pk_in i 8 hi, nm_r (sw_rd rfl (by omega) h4) ⟨pk_in p 16 hp, br_t (sw_rd rfl (by omega) h5) ⟨pk_in i 8 hi, pk_in p 16 hp, nm_e
    ⟨pk_in i 8 hi, nm_e ⟨pk_in r 16 hr, pk_in i 8 hi, nm_e ⟨pk_in r 16 hr, nm_e (H _ _ _ (by rw [nI_clamp (show i < 2 ^ 31 by omega), sw_b r hr, pk_us]))⟩⟩⟩⟩⟩⟩
/-- a command v x y on the picture: it ends, its answer is r, and then thing i lies in P' and has the traits T' -/
def sw_C (i k p : Nat) (v x y r P' T' : Int32) : Prop :=
  ∀ (ne sk rc nc wc tc mt sd : Int32) (a1 a2 a3 a4 a5 a6 a7 a8 a9 a10 a11 a12 a13 a14 a15 a16 a17 a18 a19 a20 a21 a22 : Nat → Int32) (post : Int32 → St2 → Prop), sw_pic i k p a1 a2 a3 a4 a5 a6 a13 →
    (∀ (ne' sk' : Int32) (b3 b4 b5 b6 b8 : Nat → Int32), b4 i = P' → b3 i = T' → post r (0, ne', sk', rc, nc, wc, tc, mt, sd, a1, a2, b3, b4, b5, b6, a7, b8, a9, a10, a11, a12, a13, a14, a15, a16, a17, a18, a19, a20, a21, a22)) → wpX_command post (0, ne, sk, rc, nc, wc, tc, mt, sd, a1, a2, a3, a4, a5, a6, a7, a8, a9, a10, a11, a12, a13, a14, a15, a16, a17, a18, a19, a20, a21, a22) v x y
def sw_in (v lo hi : Int32) : Prop := ¬ v < lo ∧ ¬ hi < v
def sw_good (x3 x4 x5 : Int32) : Prop := sw_in x3 0 5 ∧ sw_in x4 0 (if x3 = 0 then 3 else 7) ∧ (x3 = 3 → sw_in x5 0 7)
theorem sw_cmd {ne sk rc nc wc tc mt sd : Int32} {a1 a2 a3 a4 a5 a6 a7 a8 a9 a10 a11 a12 a13 a14 a15 a16 a17 a18 a19 a20 a21 a22 : Nat → Int32} {post : Int32 → St2 → Prop} {v a : Nat} {y : Int32} (hv : v < 6) (ha : a < 8) (h0 : v = 0 → a < 4) (h3 : v = 3 → ∃ b, b < 8 ∧ y = nI b)
    (H : wX_command_42 post (nI v) (nI a) y 0 ne sk rc nc wc tc mt sd a1 a2 a3 a4 a5 a6 a7 a8 a9 a10 a11 a12 a13 a14 a15 a16 a17 a18 a19 a20 a21 a22) : wpX_command post (0, ne, sk, rc, nc, wc, tc, mt, sd, a1, a2, a3, a4, a5, a6, a7, a8, a9, a10, a11, a12, a13, a14, a15, a16, a17, a18, a19, a20, a21, a22) (nI v) (nI a) y := by
  refine br_f (nI_pos (by omega)) (pk_lt 5 v (fun z => absurd z (by omega)) (fun _ => br_f (nI_pos (by omega)) (pk_eq v 0 (fun z => ?_) (fun z => ?_))))
  · refine pk_lt 3 a (fun g => absurd (h0 z) (by omega)) (fun _ => pk_eq v 3 (fun g => absurd g (by omega)) (fun _ => H))
  · refine pk_lt 7 a (fun g => absurd g (by omega)) (fun _ => pk_eq v 3 (fun g => ?_) (fun _ => H))
    obtain ⟨b, hb, e⟩ := h3 g
    rw [e] at H ⊢
    exact sw_isT1 hb (br_f (by decide) H)
theorem sw_C_bad {i k p : Nat} {x3 x4 x5 : Int32} (h : ¬ sw_good x3 x4 x5) : sw_C i k p x3 x4 x5 (-1) (nI p) (nI k) := by
  intro ne sk rc nc wc tc mt sd a1 a2 a3 a4 a5 a6 a7 a8 a9 a10 a11 a12 a13 a14 a15 a16 a17 a18 a19 a20 a21 a22 post q H
  obtain ⟨hi, hk, hp, q1, q2, q13, q3, q4, q4', q5, q5'⟩ := q
  have E := H ne sk a3 a4 a5 a6 a8 q4 q3
  refine br_c (fun _ => E) (fun g1 => br_c (fun _ => E) (fun g2 => br_c (fun _ => E) (fun g3 => br_c (fun g4 => ?_) (fun g4 => ?_))))
  · refine br_c (fun _ => E) (fun g5 => br_c (fun g6 => ?_) (fun g6 => ?_))
    · exact absurd (g4.symm.trans g6) (by decide)
    · exact absurd ⟨⟨g1, g2⟩, ⟨g3, by rw [if_pos g4]; exact g5⟩, fun z => absurd z g6⟩ h
  · refine br_c (fun _ => E) (fun g5 => br_c (fun g6 => ?_) (fun g6 => ?_))
    · refine sw_isT0 (fun z => h ⟨⟨g1, g2⟩, ⟨g3, by rw [if_neg g4]; exact g5⟩, fun _ => z⟩) (br_t rfl E)
    · exact absurd ⟨⟨g1, g2⟩, ⟨g3, by rw [if_neg g4]; exact g5⟩, fun z => absurd z g6⟩ h
theorem sw_C_go {i k p a : Nat} {y : Int32} (ha : a < 4) : sw_C i k p (nI 0) (nI a) y 9 (nI p) (nI k) := by
  intro ne sk rc nc wc tc mt sd a1 a2 a3 a4 a5 a6 a7 a8 a9 a10 a11 a12 a13 a14 a15 a16 a17 a18 a19 a20 a21 a22 post q H
  obtain ⟨hi, hk, hp, q1, q2, q13, q3, q4, q4', q5, q5'⟩ := q
  have E := H ne sk a3 a4 a5 a6 a8 q4 q3
  refine sw_cmd (by omega) (by omega) (fun _ => ha) (fun z => absurd z (by omega)) ?_
  refine ⟨pk_in 0 6 (by omega), nm_r (sw_rd rfl (by omega) (q13 0 (by omega))) ⟨1, br_t (by decide) (br_t rfl (br_t rfl ?_))⟩⟩
  exact ⟨pk_in a 24 (by omega) (sw_40 a ha), nm_r (sw_rd (sw_40 a ha) (by omega) (q2 a (by omega))) (br_f (by decide) E)⟩
theorem sw_C_take0 {i k p a : Nat} {y : Int32} (ha : a < 8) (hn : ¬ (a = i ∧ (p = 0 ∨ p = 6))) : sw_C i k p (nI 1) (nI a) y 2 (nI p) (nI k) := by
  intro ne sk rc nc wc tc mt sd a1 a2 a3 a4 a5 a6 a7 a8 a9 a10 a11 a12 a13 a14 a15 a16 a17 a18 a19 a20 a21 a22 post q H
  have q' := q
  obtain ⟨hi, hk, hp, q1, q2, q13, q3, q4, q4', q5, q5'⟩ := q'
  refine sw_cmd (by omega) (by omega) (fun z => absurd z (by omega)) (fun z => absurd z (by omega)) ?_
  refine ⟨pk_in 1 6 (by omega), nm_r (sw_rd rfl (by omega) (q13 1 (by omega))) ⟨1, br_t (by decide) (br_t rfl (br_f (by decide) (br_t rfl ?_)))⟩⟩
  unfold wpX_take
  exact sw_vis q ha (fun h1 h2 => absurd ⟨h1, h2⟩ hn) (fun _ ne' a8' => br_t rfl (H _ _ _ _ _ _ _ q4 q3))
theorem sw_C_take1 {i k : Nat} {y : Int32} (hi' : i < 8) : sw_C i k 6 (nI 1) (nI i) y 3 (nI 6) (nI k) := by
  intro ne sk rc nc wc tc mt sd a1 a2 a3 a4 a5 a6 a7 a8 a9 a10 a11 a12 a13 a14 a15 a16 a17 a18 a19 a20 a21 a22 post q H
  have q' := q
  obtain ⟨hi, hk, hp, q1, q2, q13, q3, q4, q4', q5, q5'⟩ := q'
  refine sw_cmd (by omega) (by omega) (fun z => absurd z (by omega)) (fun z => absurd z (by omega)) ?_
  refine ⟨pk_in 1 6 (by omega), nm_r (sw_rd rfl (by omega) (q13 1 (by omega))) ⟨1, br_t (by decide) (br_t rfl (br_f (by decide) (br_t rfl ?_)))⟩⟩
  unfold wpX_take
  exact sw_vis q hi (fun _ _ ne' a8' => br_f (by decide) ⟨pk_in i 8 hi, br_t (sw_rd rfl (by omega) q4) (H _ _ _ _ _ _ _ q4 q3)⟩) (fun z => absurd ⟨rfl, Or.inr rfl⟩ z)
theorem sw_C_take2 {i k : Nat} {y : Int32} (hi' : i < 8) (hf : ¬ nI k &&& 1 = 0) : sw_C i k 0 (nI 1) (nI i) y 4 (nI 0) (nI k) := by
  intro ne sk rc nc wc tc mt sd a1 a2 a3 a4 a5 a6 a7 a8 a9 a10 a11 a12 a13 a14 a15 a16 a17 a18 a19 a20 a21 a22 post q H
  have q' := q
  obtain ⟨hi, hk, hp, q1, q2, q13, q3, q4, q4', q5, q5'⟩ := q'
  refine sw_cmd (by omega) (by omega) (fun z => absurd z (by omega)) (fun z => absurd z (by omega)) ?_
  refine ⟨pk_in 1 6 (by omega), nm_r (sw_rd rfl (by omega) (q13 1 (by omega))) ⟨1, br_t (by decide) (br_t rfl (br_f (by decide) (br_t rfl ?_)))⟩⟩
  unfold wpX_take
  refine sw_vis q hi (fun _ _ ne' a8' => br_f (by decide) ⟨pk_in i 8 hi, br_f ?_ ⟨pk_in i 8 hi, br_f ?_ (H _ _ _ _ _ _ _ q4 q3)⟩⟩) (fun z => absurd ⟨rfl, Or.inl rfl⟩ z)
  · rw [nI_clamp (by omega), q4]
    decide
  · rw [nI_clamp (by omega), q3]
    exact hf
theorem sw_C_take3 {i k : Nat} {y : Int32} (hi' : i < 8) (hf : nI k &&& 1 = 0) : sw_C i k 0 (nI 1) (nI i) y 0 (nI 6) (nI k) := by
  intro ne sk rc nc wc tc mt sd a1 a2 a3 a4 a5 a6 a7 a8 a9 a10 a11 a12 a13 a14 a15 a16 a17 a18 a19 a20 a21 a22 post q H
  have q' := q
  obtain ⟨hi, hk, hp, q1, q2, q13, q3, q4, q4', q5, q5'⟩ := q'
  refine sw_cmd (by omega) (by omega) (fun z => absurd z (by omega)) (fun z => absurd z (by omega)) ?_
  refine ⟨pk_in 1 6 (by omega), nm_r (sw_rd rfl (by omega) (q13 1 (by omega))) ⟨1, br_t (by decide) (br_t rfl (br_f (by decide) (br_t rfl ?_)))⟩⟩
  unfold wpX_take
  refine sw_vis q hi (fun _ _ ne' a8' => br_f (by decide) ⟨pk_in i 8 hi, br_f ?_ ⟨pk_in i 8 hi, br_t ?_ ?_⟩⟩) (fun z => absurd ⟨rfl, Or.inl rfl⟩ z)
  · rw [nI_clamp (by omega), q4]
    decide
  · rw [nI_clamp (by omega), q3]
    exact hf
  · refine ⟨pk_in 6 16 (by omega), nm_r (sw_rd (n := 6) rfl (by omega) (q5' 6 (by omega) (by omega) (by omega))) ⟨1, br_t (by decide) (br_t (by decide) ?_)⟩⟩
    exact sw_mv (r := 6) hi hp (by omega) q4 (q5 (by omega)).1 (fun b4 b5 b6 hb => H _ _ _ _ _ _ _ hb q3)
theorem sw_C_drop0 {i k p a : Nat} {y : Int32} (ha : a < 8) (hn : ¬ (a = i ∧ p = 6)) : sw_C i k p (nI 2) (nI a) y 6 (nI p) (nI k) := by
  intro ne sk rc nc wc tc mt sd a1 a2 a3 a4 a5 a6 a7 a8 a9 a10 a11 a12 a13 a14 a15 a16 a17 a18 a19 a20 a21 a22 post q H
  obtain ⟨hi, hk, hp, q1, q2, q13, q3, q4, q4', q5, q5'⟩ := q
  refine sw_cmd (by omega) (by omega) (fun z => absurd z (by omega)) (fun z => absurd z (by omega)) ?_
  refine ⟨pk_in 2 6 (by omega), nm_r (sw_rd rfl (by omega) (q13 2 (by omega))) ⟨1, br_t (by decide) (br_t rfl (br_f (by decide) (br_f (by decide) (br_t rfl ?_))))⟩⟩
  refine ⟨pk_in a 8 ha, br_f ?_ (H _ _ _ _ _ _ _ q4 q3)⟩
  rw [nI_clamp (by omega)]
  by_cases h : a = i
  · rw [h, q4]
    exact fun z => hn ⟨h, (nI_eq (by omega) (by omega)).mp (show nI p = nI 6 from z)⟩
  · rw [q4' a ha h]
    decide
theorem sw_C_drop1 {i k : Nat} {y : Int32} (hi' : i < 8) : sw_C i k 6 (nI 2) (nI i) y 0 (nI 0) (nI k) := by
  intro ne sk rc nc wc tc mt sd a1 a2 a3 a4 a5 a6 a7 a8 a9 a10 a11 a12 a13 a14 a15 a16 a17 a18 a19 a20 a21 a22 post q H
  obtain ⟨hi, hk, hp, q1, q2, q13, q3, q4, q4', q5, q5'⟩ := q
  refine sw_cmd (by omega) (by omega) (fun z => absurd z (by omega)) (fun z => absurd z (by omega)) ?_
  refine ⟨pk_in 2 6 (by omega), nm_r (sw_rd rfl (by omega) (q13 2 (by omega))) ⟨1, br_t (by decide) (br_t rfl (br_f (by decide) (br_f (by decide) (br_t rfl ?_))))⟩⟩
  refine ⟨pk_in i 8 hi, br_t (sw_rd rfl (by omega) q4) ?_⟩
  exact sw_mv (r := 0) hi hp (by omega) q4 (q5 (by omega)).1 (fun b4 b5 b6 hb => H _ _ _ _ _ _ _ hb q3)
theorem sw_C_put0 {i k p a b : Nat} (ha : a < 8) (hb : b < 8) (hn : ¬ (a = i ∧ p = 6)) : sw_C i k p (nI 3) (nI a) (nI b) 6 (nI p) (nI k) := by
  intro ne sk rc nc wc tc mt sd a1 a2 a3 a4 a5 a6 a7 a8 a9 a10 a11 a12 a13 a14 a15 a16 a17 a18 a19 a20 a21 a22 post q H
  obtain ⟨hi, hk, hp, q1, q2, q13, q3, q4, q4', q5, q5'⟩ := q
  refine sw_cmd (by omega) (by omega) (fun z => absurd z (by omega)) (fun _ => ⟨b, hb, rfl⟩) ?_
  refine ⟨pk_in 3 6 (by omega), nm_r (sw_rd rfl (by omega) (q13 3 (by omega))) ⟨1, br_t (by decide) (br_t rfl (br_f (by decide) (br_f (by decide) (br_f (by decide) (br_t rfl ?_)))))⟩⟩
  refine ⟨pk_in a 8 ha, br_f ?_ (H _ _ _ _ _ _ _ q4 q3)⟩
  rw [nI_clamp (by omega)]
  by_cases h : a = i
  · rw [h, q4]
    exact fun z => hn ⟨h, (nI_eq (by omega) (by omega)).mp (show nI p = nI 6 from z)⟩
  · rw [q4' a ha h]
    decide
theorem sw_C_put1 {i k b : Nat} (hi' : i < 8) (hb : b < 8) (hn : ¬ b = i) : sw_C i k 6 (nI 3) (nI i) (nI b) 2 (nI 6) (nI k) := by
  intro ne sk rc nc wc tc mt sd a1 a2 a3 a4 a5 a6 a7 a8 a9 a10 a11 a12 a13 a14 a15 a16 a17 a18 a19 a20 a21 a22 post q H
  have q' := q
  obtain ⟨hi, hk, hp, q1, q2, q13, q3, q4, q4', q5, q5'⟩ := q'
  refine sw_cmd (by omega) (by omega) (fun z => absurd z (by omega)) (fun _ => ⟨b, hb, rfl⟩) ?_
  refine ⟨pk_in 3 6 (by omega), nm_r (sw_rd rfl (by omega) (q13 3 (by omega))) ⟨1, br_t (by decide) (br_t rfl (br_f (by decide) (br_f (by decide) (br_f (by decide) (br_t rfl ?_)))))⟩⟩
  refine ⟨pk_in i 8 hi, br_t (sw_rd rfl (by omega) q4) ?_⟩
  exact sw_vis q hb (fun z => absurd z hn) (fun _ ne' a8' => br_t rfl (H _ _ _ _ _ _ _ q4 q3))
theorem sw_C_put2 {i k : Nat} (hi' : i < 8) : sw_C i k 6 (nI 3) (nI i) (nI i) 7 (nI 6) (nI k) := by
  intro ne sk rc nc wc tc mt sd a1 a2 a3 a4 a5 a6 a7 a8 a9 a10 a11 a12 a13 a14 a15 a16 a17 a18 a19 a20 a21 a22 post q H
  have q' := q
  obtain ⟨hi, hk, hp, q1, q2, q13, q3, q4, q4', q5, q5'⟩ := q'
  refine sw_cmd (by omega) (by omega) (fun z => absurd z (by omega)) (fun _ => ⟨i, hi, rfl⟩) ?_
  refine ⟨pk_in 3 6 (by omega), nm_r (sw_rd rfl (by omega) (q13 3 (by omega))) ⟨1, br_t (by decide) (br_t rfl (br_f (by decide) (br_f (by decide) (br_f (by decide) (br_t rfl ?_)))))⟩⟩
  refine ⟨pk_in i 8 hi, br_t (sw_rd rfl (by omega) q4) ?_⟩
  refine sw_vis q hi (fun _ _ ne' a8' => br_f (by decide) ⟨pk_in i 8 hi, br_c (fun _ => H _ _ _ _ _ _ _ q4 q3) (fun _ => ?_)⟩) (fun z => absurd ⟨rfl, Or.inr rfl⟩ z)
  exact ⟨1, br_f (by rw [sw_8s i hi]; exact nI_nlt (b := 8) (by omega) (by omega)) (br_t (sw_8m i hi) (br_f (by decide) (H _ _ _ _ _ _ _ q4 q3)))⟩
end
section
/-! open (4) and close (5): o is the wanted state -/
def sw_T (i k p : Nat) (x o r P' T' : Int32) : Prop :=
  ∀ (ne sk rc nc wc tc mt sd : Int32) (a1 a2 a3 a4 a5 a6 a7 a8 a9 a10 a11 a12 a13 a14 a15 a16 a17 a18 a19 a20 a21 a22 : Nat → Int32) (post : Int32 → St2 → Prop), sw_pic i k p a1 a2 a3 a4 a5 a6 a13 →
    (∀ (ne' sk' : Int32) (b3 b4 b5 b6 b8 : Nat → Int32), b4 i = P' → b3 i = T' → post r (0, ne', sk', rc, nc, wc, tc, mt, sd, a1, a2, b3, b4, b5, b6, a7, b8, a9, a10, a11, a12, a13, a14, a15, a16, a17, a18, a19, a20, a21, a22)) → wpX_turn post (0, ne, sk, rc, nc, wc, tc, mt, sd, a1, a2, a3, a4, a5, a6, a7, a8, a9, a10, a11, a12, a13, a14, a15, a16, a17, a18, a19, a20, a21, a22) x o
theorem sw_TC4 {i k p a : Nat} {y r P' T' : Int32} (ha : a < 8) (h : sw_T i k p (nI a) 1 r P' T') : sw_C i k p (nI 4) (nI a) y r P' T' := by
  intro ne sk rc nc wc tc mt sd a1 a2 a3 a4 a5 a6 a7 a8 a9 a10 a11 a12 a13 a14 a15 a16 a17 a18 a19 a20 a21 a22 post q H
  have q13 := q.2.2.2.2.2.1
  refine sw_cmd (by omega) ha (fun z => absurd z (by omega)) (fun z => absurd z (by omega)) ?_
  refine ⟨pk_in 4 6 (by omega), nm_r (sw_rd rfl (by omega) (q13 4 (by omega))) ⟨1, br_t (by decide) (br_t rfl ?_)⟩⟩
  refine br_f (by decide) (br_f (by decide) (br_f (by decide) (br_f (by decide) (br_t rfl ?_))))
  unfold wX_carryOut_160
  exact h ne sk rc nc wc tc mt sd a1 a2 a3 a4 a5 a6 a7 a8 a9 a10 a11 a12 a13 a14 a15 a16 a17 a18 a19 a20 a21 a22 _ q (fun ne' sk' b3 b4 b5 b6 b8 h1 h2 => H ne' sk' b3 b4 b5 b6 b8 h1 h2)
theorem sw_TC5 {i k p a : Nat} {y r P' T' : Int32} (ha : a < 8) (h : sw_T i k p (nI a) 0 r P' T') : sw_C i k p (nI 5) (nI a) y r P' T' := by
  intro ne sk rc nc wc tc mt sd a1 a2 a3 a4 a5 a6 a7 a8 a9 a10 a11 a12 a13 a14 a15 a16 a17 a18 a19 a20 a21 a22 post q H
  have q13 := q.2.2.2.2.2.1
  refine sw_cmd (by omega) ha (fun z => absurd z (by omega)) (fun z => absurd z (by omega)) ?_
  refine ⟨pk_in 5 6 (by omega), nm_r (sw_rd rfl (by omega) (q13 5 (by omega))) ⟨1, br_t (by decide) (br_t rfl ?_)⟩⟩
  refine br_f (by decide) (br_f (by decide) (br_f (by decide) (br_f (by decide) (br_f (by decide) ?_))))
  unfold wX_carryOut_160
  exact h ne sk rc nc wc tc mt sd a1 a2 a3 a4 a5 a6 a7 a8 a9 a10 a11 a12 a13 a14 a15 a16 a17 a18 a19 a20 a21 a22 _ q (fun ne' sk' b3 b4 b5 b6 b8 h1 h2 => H ne' sk' b3 b4 b5 b6 b8 h1 h2)
theorem sw_T0 {i k p a : Nat} {o : Int32} (ha : a < 8) (hn : ¬ (a = i ∧ (p = 0 ∨ p = 6))) : sw_T i k p (nI a) o 2 (nI p) (nI k) := by
  intro ne sk rc nc wc tc mt sd a1 a2 a3 a4 a5 a6 a7 a8 a9 a10 a11 a12 a13 a14 a15 a16 a17 a18 a19 a20 a21 a22 post q H
  have q' := q
  obtain ⟨hi, hk, hp, q1, q2, q13, q3, q4, q4', q5, q5'⟩ := q'
  unfold wpX_turn
  exact sw_vis q ha (fun h1 h2 => absurd ⟨h1, h2⟩ hn) (fun _ ne' a8' => br_t rfl (H _ _ _ _ _ _ _ q4 q3))
theorem sw_T1 {i k p : Nat} {o : Int32} (hpp : p = 0 ∨ p = 6) (hb : nI k &&& 2 = 0) : sw_T i k p (nI i) o 7 (nI p) (nI k) := by
  intro ne sk rc nc wc tc mt sd a1 a2 a3 a4 a5 a6 a7 a8 a9 a10 a11 a12 a13 a14 a15 a16 a17 a18 a19 a20 a21 a22 post q H
  have q' := q
  obtain ⟨hi, hk, hp, q1, q2, q13, q3, q4, q4', q5, q5'⟩ := q'
  have e3 : a3 (nI i).toNatClampNeg = nI k := sw_rd rfl (by omega) q3
  unfold wpX_turn
  exact sw_vis q hi (fun _ _ ne' a8' => br_f (by decide) ⟨pk_in i 8 hi, br_t (by rw [e3]; exact hb) (H _ _ _ _ _ _ _ q4 q3)⟩) (fun z => absurd ⟨rfl, hpp⟩ z)
theorem sw_T2 {i k p : Nat} {o : Int32} (hpp : p = 0 ∨ p = 6) (hb : ¬ nI k &&& 2 = 0) (ho : (if nI k &&& 4 = 0 then (0 : Int32) else 1) = o) : sw_T i k p (nI i) o 10 (nI p) (nI k) := by
  intro ne sk rc nc wc tc mt sd a1 a2 a3 a4 a5 a6 a7 a8 a9 a10 a11 a12 a13 a14 a15 a16 a17 a18 a19 a20 a21 a22 post q H
  have q' := q
  obtain ⟨hi, hk, hp, q1, q2, q13, q3, q4, q4', q5, q5'⟩ := q'
  have e3 : a3 (nI i).toNatClampNeg = nI k := sw_rd rfl (by omega) q3
  unfold wpX_turn
  refine sw_vis q hi (fun _ _ ne' a8' => br_f (by decide) ⟨pk_in i 8 hi, br_f (by rw [e3]; exact hb) ⟨pk_in i 8 hi, br_c (fun g => ?_) (fun g => ?_)⟩⟩) (fun z => absurd ⟨rfl, hpp⟩ z)
  · rw [e3] at g
    rw [if_pos g] at ho
    exact br_t ho (H _ _ _ _ _ _ _ q4 q3)
  · rw [e3] at g
    rw [if_neg g] at ho
    exact br_t ho (H _ _ _ _ _ _ _ q4 q3)
theorem sw_T3 {i k p : Nat} {o : Int32} (hpp : p = 0 ∨ p = 6) (hb : ¬ nI k &&& 2 = 0) (ho : ¬ (if nI k &&& 4 = 0 then (0 : Int32) else 1) = o) : sw_T i k p (nI i) o 0 (nI p) (nI k ^^^ 4) := by
  intro ne sk rc nc wc tc mt sd a1 a2 a3 a4 a5 a6 a7 a8 a9 a10 a11 a12 a13 a14 a15 a16 a17 a18 a19 a20 a21 a22 post q H
  have q' := q
  obtain ⟨hi, hk, hp, q1, q2, q13, q3, q4, q4', q5, q5'⟩ := q'
  have e3 : a3 (nI i).toNatClampNeg = nI k := sw_rd rfl (by omega) q3
  have eT : upd a3 (nI i).toNatClampNeg ((a3 (nI i).toNatClampNeg ^^^ 4).toInt8.toInt32) i = nI k ^^^ 4 := by
    rw [e3, nI_clamp (show i < 2 ^ 31 by omega), sw_x4 k hk, pk_us]
  unfold wpX_turn
  refine sw_vis q hi (fun _ _ ne' a8' => br_f (by decide) ⟨pk_in i 8 hi, br_f (by rw [e3]; exact hb) ⟨pk_in i 8 hi, br_c (fun g => ?_) (fun g => ?_)⟩⟩) (fun z => absurd ⟨rfl, hpp⟩ z)
  · rw [e3] at g
    rw [if_pos g] at ho
    exact br_f ho ⟨pk_in i 8 hi, pk_in i 8 hi, nm_e (H _ _ _ _ _ _ _ q4 eT)⟩
  · rw [e3] at g
    rw [if_neg g] at ho
    exact br_f ho ⟨pk_in i 8 hi, pk_in i 8 hi, nm_e (H _ _ _ _ _ _ _ q4 eT)⟩
end
section
/-! the constructor and thing -/
/-- the state behind the constructor -/
def sw_ini (a1 a2 a3 a4 a5 a6 a13 : Nat → Int32) : Prop :=
  a1 0 = 0 ∧ (∀ j, j < 24 → a2 j = -1) ∧ (∀ j, j < 6 → a13 j = -1) ∧ (∀ j, j < 8 → a3 j = 0) ∧ (∀ j, j < 8 → a4 j = 7) ∧ a5 7 = nI 0 ∧ (∀ j, j < 16 → j ≠ 7 → a5 j = -1) ∧ (∀ j, j < 7 → a6 j = nI (j + 1))
theorem sw_ini_pic {a1 a2 a3 a4 a5 a6 a13 : Nat → Int32} {i : Nat} (h : sw_ini a1 a2 a3 a4 a5 a6 a13) (hi : i < 8) : sw_pic i 0 7 a1 a2 a3 a4 a5 a6 a13 := by
  obtain ⟨h1, h2, h13, h3, h4, h57, h5, h6⟩ := h
  exact ⟨hi, by omega, by omega, h1, h2, h13, h3 i hi, h4 i hi, fun j hj _ => h4 j hj, fun z => absurd rfl z, fun j hj h7 _ => h5 j hj h7⟩
theorem sw_fill {s : Nat → Int32} {i : Nat} {x : Int32} (hi : i < 2 ^ 31) (h : ∀ j, j < i → s j = x) : ∀ j, j < i + 1 → upd s (nI i).toNatClampNeg x j = x := by
  intro j hj
  rw [nI_clamp hi]
  by_cases e : j = i
  · rw [e, pk_us]
  · rw [pk_un e]
    exact h j (by omega)
theorem sw_i266 {ne sk rc nc wc tc mt sd : Int32} {a1 a2 a3 a4 a5 a6 a7 a8 a9 a10 a11 a12 a13 a14 a15 a16 a17 a18 a19 a20 a21 a22 : Nat → Int32} {post : St2 → Prop} {mc ms kc ks : Nat}
    (H : ∀ b13 b14 b17 b18 : Nat → Int32, (∀ j, j < 6 → b13 j = -1) → post (0, ne, sk, rc, 1, wc, tc, mt, sd, a1, a2, a3, a4, a5, a6, a7, a8, a9, a10, a11, a12, b13, b14, a15, a16, b17, b18, a19, a20, a21, a22)) : ∃ n, wX_init_266 post mc ms kc ks 0 ne sk rc nc wc tc mt sd n 0 a1 a2 a3 a4 a5 a6 a7 a8 a9 a10 a11 a12 a13 a14 a15 a16 a17 a18 a19 a20 a21 a22 :=
  pk_loop (σ := (Nat → Int32) × (Nat → Int32)) (fun n j s => wX_init_266 post mc ms kc ks 0 ne sk rc nc wc tc mt sd n (nI j) a1 a2 a3 a4 a5 a6 a7 a8 a9 a10 a11 a12 s.1 s.2 a15 a16 a17 a18 a19 a20 a21 a22) (fun j s => ∀ l, l < j → s.1 l = -1) 6 0 (a13, a14) (by omega) (fun j hj => absurd hj (by omega))
    (fun n s h => pk_le 6 6 (fun _ => nm_e (nm_e (H _ _ _ _ h))) (fun z => absurd z (by omega)))
    (fun n j s hj h hw => pk_le 6 j (fun z => absurd z (by omega)) (fun _ => ⟨pk_in j 6 hj, nm_e ⟨pk_in j 6 hj, nm_e (nm_r (nI_1 j) (hw (upd s.1 (nI j).toNatClampNeg (-1), upd s.2 (nI j).toNatClampNeg (-1)) (sw_fill (by omega) h)))⟩⟩))
/-- the countdown over the things: those from m on hang in place 7's chain -/
def sw_J (m : Nat) (b4 b5 b6 : Nat → Int32) : Prop :=
  m ≤ 8 ∧ (∀ j, m ≤ j → j < 8 → b4 j = 7) ∧ (m < 8 → b5 7 = nI m) ∧ (∀ j, j < 16 → j ≠ 7 → b5 j = -1) ∧ (∀ j, m ≤ j → j < 7 → b6 j = nI (j + 1))
theorem sw_J_step {m : Nat} {b4 b5 b6 : Nat → Int32} (h : sw_J (m + 1) b4 b5 b6) : sw_J m (upd b4 (nI m).toNatClampNeg 7) (upd b5 7 (nI m).toInt8.toInt32) (upd b6 (nI m).toNatClampNeg (vp_nar .byte (b5 7))) := by
  obtain ⟨h0, h4, h57, h5, h6⟩ := h
  rw [nI_clamp (show m < 2 ^ 31 by omega), sw_b m (by omega)]
  refine ⟨by omega, fun j hj h8 => ?_, fun _ => pk_us, fun j hj h7 => ?_, fun j hj h7 => ?_⟩
  · by_cases e : j = m
    · rw [e, pk_us]
    · rw [pk_un e]
      exact h4 j (by omega) h8
  · rw [pk_un h7]
    exact h5 j hj h7
  · by_cases e : j = m
    · rw [e, pk_us, h57 (by omega), vp_nar_byte]
      exact sw_b (m + 1) (by omega)
    · rw [pk_un e]
      exact h6 j (by omega) h7
theorem sw_i224 {ne sk rc nc wc tc mt sd : Int32} {a1 a2 a3 a4 a5 a6 a7 a8 a9 a10 a11 a12 a13 a14 a15 a16 a17 a18 a19 a20 a21 a22 : Nat → Int32} {post : St2 → Prop} {mc ms kc ks : Nat} (h5 : ∀ j, j < 16 → a5 j = -1)
    (H : ∀ b4 b5 b6 b13 b14 b17 b18 : Nat → Int32, sw_J 0 b4 b5 b6 → (∀ j, j < 6 → b13 j = -1) → post (0, ne, sk, rc, 1, wc, tc, mt, sd, a1, a2, a3, b4, b5, b6, a7, a8, a9, a10, a11, a12, b13, b14, a15, a16, b17, b18, a19, a20, a21, a22)) : ∃ n, wX_init_224 post mc ms kc ks 0 ne sk rc nc wc tc mt sd n 7 a1 a2 a3 a4 a5 a6 a7 a8 a9 a10 a11 a12 a13 a14 a15 a16 a17 a18 a19 a20 a21 a22 := by
  refine ⟨9, pk_loopD (σ := (Nat → Int32) × (Nat → Int32) × (Nat → Int32)) (fun n m s => wX_init_224 post mc ms kc ks 0 ne sk rc nc wc tc mt sd n (nI m + (-1)) a1 a2 a3 s.1 s.2.1 s.2.2 a7 a8 a9 a10 a11 a12 a13 a14 a15 a16 a17 a18 a19 a20 a21 a22) (fun m s => sw_J m s.1 s.2.1 s.2.2) ?_ ?_ 8 (a4, a5, a6) ?_⟩
  · intro n s h
    exact br_t (by decide) (sw_i266 (fun b13 b14 b17 b18 h13 => H _ _ _ _ _ _ _ h h13))
  · intro n m s h hw
    show wX_init_224 post mc ms kc ks 0 ne sk rc nc wc tc mt sd (n + 1) (nI (m + 1) + (-1)) a1 a2 a3 s.1 s.2.1 s.2.2 a7 a8 a9 a10 a11 a12 a13 a14 a15 a16 a17 a18 a19 a20 a21 a22
    have hm : m + 1 ≤ 8 := h.1
    rw [pk_m1]
    exact br_f (nI_pos (by omega)) ⟨pk_in m 8 (by omega), nm_e ⟨pk_in m 8 (by omega), nm_e (nm_e (nm_e (hw (upd s.1 (nI m).toNatClampNeg 7, upd s.2.1 7 (nI m).toInt8.toInt32, upd s.2.2 (nI m).toNatClampNeg (vp_nar .byte (s.2.1 7))) (sw_J_step h))))⟩⟩
  · exact ⟨by omega, fun j hj h8 => absurd hj (by omega), fun z => absurd z (by omega), fun j hj _ => h5 j hj, fun j hj h7 => absurd hj (by omega)⟩
theorem sw_i202 {ne sk rc nc wc tc mt sd : Int32} {a1 a2 a3 a4 a5 a6 a7 a8 a9 a10 a11 a12 a13 a14 a15 a16 a17 a18 a19 a20 a21 a22 : Nat → Int32} {post : St2 → Prop} {mc ms kc ks : Nat}
    (H : ∀ b4 b5 b6 b13 b14 b17 b18 : Nat → Int32, sw_J 0 b4 b5 b6 → (∀ j, j < 6 → b13 j = -1) → post (0, ne, sk, rc, 1, wc, tc, mt, sd, a1, a2, a3, b4, b5, b6, a7, a8, a9, a10, a11, a12, b13, b14, a15, a16, b17, b18, a19, a20, a21, a22)) : ∃ n, wX_init_202 post mc ms kc ks 0 ne sk rc nc wc tc mt sd n 0 a1 a2 a3 a4 a5 a6 a7 a8 a9 a10 a11 a12 a13 a14 a15 a16 a17 a18 a19 a20 a21 a22 :=
  pk_loop (fun n j s => wX_init_202 post mc ms kc ks 0 ne sk rc nc wc tc mt sd n (nI j) a1 a2 a3 a4 s a6 a7 a8 a9 a10 a11 a12 a13 a14 a15 a16 a17 a18 a19 a20 a21 a22) (fun j s => ∀ l, l < j → s l = -1) 16 0 a5 (by omega) (fun j hj => absurd hj (by omega))
    (fun n s h => pk_le 16 16 (fun _ => sw_i224 h H) (fun z => absurd z (by omega)))
    (fun n j s hj h hw => pk_le 16 j (fun z => absurd z (by omega)) (fun _ => ⟨pk_in j 16 hj, nm_e (nm_r (nI_1 j) (hw _ (sw_fill (by omega) h)))⟩))
theorem sw_i181 {ne sk rc nc wc tc mt sd : Int32} {a1 a2 a3 a4 a5 a6 a7 a8 a9 a10 a11 a12 a13 a14 a15 a16 a17 a18 a19 a20 a21 a22 : Nat → Int32} {post : St2 → Prop} {mc ms kc ks : Nat}
    (H : ∀ b2 b4 b5 b6 b13 b14 b17 b18 : Nat → Int32, (∀ j, j < 24 → b2 j = -1) → sw_J 0 b4 b5 b6 → (∀ j, j < 6 → b13 j = -1) → post (0, ne, sk, rc, 1, wc, tc, mt, sd, a1, b2, a3, b4, b5, b6, a7, a8, a9, a10, a11, a12, b13, b14, a15, a16, b17, b18, a19, a20, a21, a22)) : ∃ n, wX_init_181 post mc ms kc ks 0 ne sk rc nc wc tc mt sd n 0 a1 a2 a3 a4 a5 a6 a7 a8 a9 a10 a11 a12 a13 a14 a15 a16 a17 a18 a19 a20 a21 a22 :=
  pk_loop (fun n j s => wX_init_181 post mc ms kc ks 0 ne sk rc nc wc tc mt sd n (nI j) a1 s a3 a4 a5 a6 a7 a8 a9 a10 a11 a12 a13 a14 a15 a16 a17 a18 a19 a20 a21 a22) (fun j s => ∀ l, l < j → s l = -1) 24 0 a2 (by omega) (fun j hj => absurd hj (by omega))
    (fun n s h => pk_le 24 24 (fun _ => sw_i202 (fun b4 b5 b6 b13 b14 b17 b18 hJ h13 => H _ _ _ _ _ _ _ _ h hJ h13)) (fun z => absurd z (by omega)))
    (fun n j s hj h hw => pk_le 24 j (fun z => absurd z (by omega)) (fun _ => ⟨pk_in j 24 hj, nm_e (nm_r (nI_1 j) (hw _ (sw_fill (by omega) h)))⟩))
theorem sw_init {post : St2 → Prop} (H : ∀ (ne sk rc nc wc tc mt sd : Int32) (a1 a2 a3 a4 a5 a6 a7 a8 a9 a10 a11 a12 a13 a14 a15 a16 a17 a18 a19 a20 a21 a22 : Nat → Int32), sw_ini a1 a2 a3 a4 a5 a6 a13 → post (0, ne, sk, rc, nc, wc, tc, mt, sd, a1, a2, a3, a4, a5, a6, a7, a8, a9, a10, a11, a12, a13, a14, a15, a16, a17, a18, a19, a20, a21, a22)) : wpX_init post 22 676 (0, 0, 0, 0, 0, 0, 0, 0, 0) := by
  unfold wpX_init
  refine ⟨by decide, by decide, by decide, by decide, by decide, by decide, by decide, by decide, by decide, by decide, by decide, by decide, by decide, by decide, by decide, by decide, by decide, by decide, by decide, by decide, by decide, by decide, by decide, by decide, by decide, by decide, by decide, by decide, by decide, by decide, by decide, by decide, by decide, by decide, by decide, by decide, by decide, by decide, by decide, by decide, by decide, by decide, by decide, by decide, ?_⟩
  exact sw_i181 (fun b2 b4 b5 b6 b13 b14 b17 b18 h2 hJ h13 => H _ _ _ _ _ _ _ _ _ _ _ _ _ _ _ _ _ _ _ _ _ _ _ _ _ _ _ _ _ _ ⟨rfl, h2, h13, fun _ _ => rfl, fun j hj => hJ.2.1 j (by omega) hj, hJ.2.2.1 (by omega), hJ.2.2.2.1, fun j hj => hJ.2.2.2.2 j (by omega) hj⟩)
/-- the tail of a move: thing i is hung into place p -/
theorem sw_m76 {ne sk rc nc wc tc mt sd : Int32} {a1 a2 a3 a4 a5 a6 a7 a8 a9 a10 a11 a12 a13 a14 a15 a16 a17 a18 a19 a20 a21 a22 : Nat → Int32} {post : St2 → Prop} {i k p : Nat} (hi : i < 8) (hk : k < 16) (hp : p < 16) (h1 : a1 0 = 0) (h2 : ∀ j, j < 24 → a2 j = -1) (h13 : ∀ j, j < 6 → a13 j = -1) (h3 : a3 i = nI k) (h4 : ∀ j, j < 8 → a4 j = 7) (h5 : ∀ j, j < 16 → j ≠ 7 → a5 j = -1)
    (H : ∀ b4 b5 b6 : Nat → Int32, sw_pic i k p a1 a2 a3 b4 b5 b6 a13 → post (0, ne, sk, rc, nc, wc, tc, mt, sd, a1, a2, a3, b4, b5, b6, a7, a8, a9, a10, a11, a12, a13, a14, a15, a16, a17, a18, a19, a20, a21, a22)) : wX_move_76 post (nI i) (nI p) 0 ne sk rc nc wc tc mt sd a1 a2 a3 a4 a5 a6 a7 a8 a9 a10 a11 a12 a13 a14 a15 a16 a17 a18 a19 a20 a21 a22 := by
  refine ⟨pk_in i 8 hi, nm_e ⟨pk_in p 16 hp, pk_in i 8 hi, nm_e ⟨pk_in p 16 hp, nm_e (H _ _ _ ?_)⟩⟩⟩
  rw [nI_clamp (show i < 2 ^ 31 by omega), nI_clamp (show p < 2 ^ 31 by omega), sw_b i (by omega), sw_b p hp]
  refine ⟨hi, hk, hp, h1, h2, h13, h3, pk_us, fun j hj hn => ?_, fun h7 => ⟨pk_us, ?_⟩, fun j hj h7 hn => ?_⟩
  · rw [pk_un hn]
    exact h4 j hj
  · rw [pk_us, h5 p hp h7, vp_nar_byte]
    decide
  · rw [pk_un hn]
    exact h5 j hj h7
theorem sw_mk_move {ne sk rc nc wc tc mt sd : Int32} {a1 a2 a3 a4 a5 a6 a7 a8 a9 a10 a11 a12 a13 a14 a15 a16 a17 a18 a19 a20 a21 a22 : Nat → Int32} {post : St2 → Prop} {i k p : Nat} (hi : i < 8) (hk : k < 16) (hp : p < 16) (h1 : a1 0 = 0) (h2 : ∀ j, j < 24 → a2 j = -1) (h13 : ∀ j, j < 6 → a13 j = -1) (h3 : a3 i = nI k) (h4 : ∀ j, j < 8 → a4 j = 7) (h57 : a5 7 = nI 0) (h5 : ∀ j, j < 16 → j ≠ 7 → a5 j = -1) (h6 : ∀ j, j < 7 → a6 j = nI (j + 1))
    (H : ∀ b4 b5 b6 : Nat → Int32, sw_pic i k p a1 a2 a3 b4 b5 b6 a13 → post (0, ne, sk, rc, nc, wc, tc, mt, sd, a1, a2, a3, b4, b5, b6, a7, a8, a9, a10, a11, a12, a13, a14, a15, a16, a17, a18, a19, a20, a21, a22)) : wpX_move post (0, ne, sk, rc, nc, wc, tc, mt, sd, a1, a2, a3, a4, a5, a6, a7, a8, a9, a10, a11, a12, a13, a14, a15, a16, a17, a18, a19, a20, a21, a22) (nI i) (nI p) := by
  have e57 : a5 (7 : Int32).toNatClampNeg = nI 0 := h57
  refine ⟨pk_in i 8 hi, nm_r (sw_rd rfl (by omega) (h4 i hi)) ⟨pk_in 7 16 (by omega), pk_eq 0 i (fun z => ?_) (fun z => ?_) e57⟩⟩
  · refine ⟨pk_in i 8 hi, pk_in 7 16 (by omega), nm_r (sw_up (n := 7) rfl (by omega) rfl) ?_⟩
    exact sw_m76 hi hk hp h1 h2 h13 h3 h4 (fun j hj h7 => by rw [pk_un h7]; exact h5 j hj h7) H
  · refine ⟨pk_in 7 16 (by omega), nm_r e57 ?_⟩
    refine pk_loop (σ := Unit) (fun n j _ => wX_move_40 post (nI i) (nI p) 0 ne sk rc nc wc tc mt sd a1 a2 a3 a4 a5 a6 a7 a8 a9 a10 a11 a12 a13 a14 a15 a16 a17 a18 a19 a20 a21 a22 n (nI j)) (fun _ _ => True) (i - 1) 0 () (by omega) trivial ?_ ?_
    · intro n _ _
      have e6 : a6 (nI (i - 1)).toNatClampNeg = nI i := sw_rd rfl (by omega) (by rw [h6 (i - 1) (by omega), show i - 1 + 1 = i by omega])
      refine ⟨pk_in (i - 1) 8 (by omega), br_t e6 ⟨pk_in i 8 hi, pk_in (i - 1) 8 (by omega), nm_e ?_⟩⟩
      exact sw_m76 hi hk hp h1 h2 h13 h3 h4 h5 H
    · intro n j _ hj _ hw
      have e6 : a6 (nI j).toNatClampNeg = nI (j + 1) := sw_rd rfl (by omega) (h6 j (by omega))
      refine ⟨pk_in j 8 (by omega), br_f ?_ ⟨pk_in j 8 (by omega), nm_r e6 (hw () trivial)⟩⟩
      rw [e6, nI_eq (by omega) (by omega)]
      omega
theorem sw_wl0 {ne sk rc nc wc tc mt sd : Int32} {a1 a2 a3 a4 a5 a6 a7 a8 a9 a10 a11 a12 a13 a14 a15 a16 a17 a18 a19 a20 a21 a22 : Nat → Int32} {post : Int32 → Prop} {i p : Nat} (hi : i < 8) (hp : p < 16) (hn : p ≠ 8 + i) (h4 : ∀ j, j < 8 → a4 j = 7) (H : post 0) : wpX_wouldLoop post (0, ne, sk, rc, nc, wc, tc, mt, sd, a1, a2, a3, a4, a5, a6, a7, a8, a9, a10, a11, a12, a13, a14, a15, a16, a17, a18, a19, a20, a21, a22) (nI i) (nI p) := by
  by_cases h8 : p < 8
  · exact ⟨1, br_t (nI_lt (b := 8) h8 (by omega)) H⟩
  · have e : nI p - 8 = nI (p - 8) := pk_sub (b := 8) (by omega)
    refine ⟨2, br_f (nI_nlt (b := 8) (by omega) (by omega)) (br_f ?_ ⟨pk_in (p - 8) 8 (by omega) e, nm_r (sw_rd e (by omega) (h4 (p - 8) (by omega))) (br_t (by decide) H)⟩)⟩
    rw [e, nI_eq (by omega) (by omega)]
    omega
theorem sw_thing1 {ne sk rc nc wc tc mt sd : Int32} {a1 a2 a3 a4 a5 a6 a7 a8 a9 a10 a11 a12 a13 a14 a15 a16 a17 a18 a19 a20 a21 a22 : Nat → Int32} {post : Int32 → St2 → Prop} {i k p : Nat} (h : sw_ini a1 a2 a3 a4 a5 a6 a13) (hi : i < 8) (hk : k < 16) (hp : p < 16) (hn : p ≠ 8 + i)
    (H : ∀ b3 b4 b5 b6 : Nat → Int32, sw_pic i k p a1 a2 b3 b4 b5 b6 a13 → post 1 (0, ne, sk, rc, nc, wc, tc, mt, sd, a1, a2, b3, b4, b5, b6, a7, a8, a9, a10, a11, a12, a13, a14, a15, a16, a17, a18, a19, a20, a21, a22)) : wpX_thing post (0, ne, sk, rc, nc, wc, tc, mt, sd, a1, a2, a3, a4, a5, a6, a7, a8, a9, a10, a11, a12, a13, a14, a15, a16, a17, a18, a19, a20, a21, a22) (nI i) (nI k) (nI p) := by
  obtain ⟨h1, h2, h13, h3, h4, h57, h5, h6⟩ := h
  unfold wpX_thing
  refine sw_isT1 hi (br_f (by decide) (br_f (nI_pos (by omega)) (pk_lt 15 k (fun z => absurd z (by omega)) (fun _ => br_f (nI_pos (by omega)) (pk_lt 15 p (fun z => absurd z (by omega)) (fun _ => ?_))))))
  refine sw_wl0 hi hp hn h4 (br_t rfl ⟨pk_in i 8 hi, nm_r (sw_up rfl (by omega) (sw_b k hk)) ?_⟩)
  exact sw_mk_move hi hk hp h1 h2 h13 pk_us h4 h57 h5 h6 (fun b4 b5 b6 q => H _ b4 b5 b6 q)
def sw_put (x0 x1 x2 : Int32) : Prop := sw_in x0 0 7 ∧ sw_in x1 0 15 ∧ sw_in x2 0 15 ∧ ¬ x2 = 8 + x0
theorem sw_thing0 {ne sk rc nc wc tc mt sd : Int32} {a1 a2 a3 a4 a5 a6 a7 a8 a9 a10 a11 a12 a13 a14 a15 a16 a17 a18 a19 a20 a21 a22 : Nat → Int32} {post : Int32 → St2 → Prop} {x0 x1 x2 : Int32} (h : ¬ sw_put x0 x1 x2) (H : post 0 (0, ne, sk, rc, nc, wc, tc, mt, sd, a1, a2, a3, a4, a5, a6, a7, a8, a9, a10, a11, a12, a13, a14, a15, a16, a17, a18, a19, a20, a21, a22)) : wpX_thing post (0, ne, sk, rc, nc, wc, tc, mt, sd, a1, a2, a3, a4, a5, a6, a7, a8, a9, a10, a11, a12, a13, a14, a15, a16, a17, a18, a19, a20, a21, a22) x0 x1 x2 := by
  unfold wpX_thing
  by_cases h0 : ¬ x0 < 0 ∧ ¬ 7 < x0
  · obtain ⟨i, hi, e⟩ := nI_of2 (M := 7) (n := 7) (by decide) h0.1 (Int32.not_lt.mp h0.2)
    subst e
    refine sw_isT1 (by omega) (br_f (by decide) (br_c (fun _ => H) (fun g1 => br_c (fun _ => H) (fun g2 => br_c (fun _ => H) (fun g3 => br_c (fun _ => H) (fun g4 => ?_))))))
    have e : x2 = 8 + nI i := Classical.byContradiction (fun z => h ⟨h0, ⟨g1, g2⟩, ⟨g3, g4⟩, z⟩)
    rw [e]
    exact ⟨1, br_f (by rw [sw_8s i (by omega)]; exact nI_nlt (b := 8) (by omega) (by omega)) (br_t (sw_8m i (by omega)) (br_f (by decide) H))⟩
  · exact sw_isT0 h0 (br_t rfl H)
end
section
/-! the law: what it computes ahead of its calls -/
theorem sw_inL {post : Int32 → Prop} {u : St0} {v lo hi : Int32} (f : sw_in v lo hi → post 1) (g : ¬ sw_in v lo hi → post 0) : wpL_in post u v lo hi :=
  br_c (fun h => g (fun z => z.1 h)) (fun h => br_c (fun h2 => g (fun z => z.2 h2)) (fun h2 => f ⟨h, h2⟩))
theorem sw_inN {post : Int32 → Prop} {u : St0} {i : Nat} (hi : i < 8) (H : post 1) : wpL_in post u (nI i) 0 7 :=
  br_f (nI_pos (by omega)) (pk_lt 7 i (fun z => absurd z (by omega)) (fun _ => H))
theorem sw_law1 {post : Int32 → St0 → Prop} {mc ms : Nat} {u : St0} {p0 p1 p2 p3 p4 p5 : Int32} (f : sw_put p0 p1 p2 → wL_lawOf_43 post mc ms p0 p1 p2 p3 p4 p5 1 0 0) (g : ¬ sw_put p0 p1 p2 → wL_lawOf_43 post mc ms p0 p1 p2 p3 p4 p5 0 0 0) : wpL_lawOf post mc ms u p0 p1 p2 p3 p4 p5 := by
  unfold wpL_lawOf
  refine sw_inL (fun h0 => br_f (by decide) ?_) (fun h0 => br_t rfl (g (fun z => h0 z.1)))
  refine sw_inL (fun h1 => br_f (by decide) ?_) (fun h1 => br_t rfl (g (fun z => h1 z.2.1)))
  refine sw_inL (fun h2 => br_f (by decide) ?_) (fun h2 => br_t rfl (g (fun z => h2 z.2.2.1)))
  exact br_c (fun e => g (fun z => z.2.2.2 e)) (fun e => f ⟨h0, h1, h2, e⟩)
theorem sw_law67 {post : Int32 → St0 → Prop} {mc ms kc ks : Nat} {x0 x1 x2 x3 x4 x5 x6 m : Int32} (h3 : sw_in x3 0 5) (hm : (if x3 = 0 then (3 : Int32) else 7) = m) (f : sw_good x3 x4 x5 → wL_lawOf_94 post mc ms x0 x1 x2 x3 x4 x5 x6 1 kc ks) (g : ¬ sw_good x3 x4 x5 → wL_lawOf_94 post mc ms x0 x1 x2 x3 x4 x5 x6 0 kc ks) : wL_lawOf_67 post mc ms x0 x1 x2 x3 x4 x5 x6 m 0 x4 kc ks := by
  unfold wL_lawOf_67
  subst hm
  refine sw_inL (fun h4 => br_f (by decide) ?_) (fun h4 => br_t rfl (g (fun z => h4 z.2.1)))
  refine br_c (fun e => ?_) (fun e => f ⟨h3, h4, fun z => absurd z e⟩)
  exact sw_inL (fun h5 => br_f (by decide) (f ⟨h3, h4, fun _ => h5⟩)) (fun h5 => br_t rfl (g (fun z => h5 (z.2.2 e))))
theorem sw_law2 {post : Int32 → St0 → Prop} {mc ms kc ks : Nat} {x0 x1 x2 x3 x4 x5 x6 : Int32} (f : sw_good x3 x4 x5 → wL_lawOf_94 post mc ms x0 x1 x2 x3 x4 x5 x6 1 kc ks) (g : ¬ sw_good x3 x4 x5 → wL_lawOf_94 post mc ms x0 x1 x2 x3 x4 x5 x6 0 kc ks) : wL_lawOf_43 post mc ms x0 x1 x2 x3 x4 x5 x6 kc ks := by
  unfold wL_lawOf_43
  refine sw_inL (fun h3 => br_f (by decide) (br_c (fun e => ?_) (fun e => ?_))) (fun h3 => br_t rfl (g (fun z => h3 z.1)))
  · exact sw_law67 h3 (if_pos e) f g
  · exact sw_law67 h3 (if_neg e) f g
/-! from the guards to the call: held, near, box, open, due -/
def sw_due (x0 x1 x2 x3 x4 x5 x6 : Int32) : Int32 :=
  if x3 = 0 then 9
  else if x3 = 1 then (if (¬ x6 = 0 ∧ x4 = x0) ∧ (x2 = 0 ∨ x2 = 6) then (if x2 = 6 then 3 else if x1 &&& 1 = 0 then 0 else 4) else 2)
  else if x3 = 2 then (if (¬ x6 = 0 ∧ x4 = x0) ∧ x2 = 6 then 0 else 6)
  else if x3 = 3 then (if (¬ x6 = 0 ∧ x4 = x0) ∧ x2 = 6 then (if x5 = x0 then 7 else 2) else 6)
  else if (¬ x6 = 0 ∧ x4 = x0) ∧ (x2 = 0 ∨ x2 = 6) then (if x1 &&& 2 = 0 then 7 else if (if x1 &&& 4 = 0 then (0 : Int32) else 1) = (if x3 = 4 then 1 else 0) then 10 else 0) else 2
section
variable {post : Int32 → St0 → Prop} {mc ms kc ks : Nat} {x0 x1 x2 x3 x4 x5 x6 x7 x8 x9 x10 x11 x13 z : Int32}
theorem sw_s94 (H : wL_lawOf_112 post mc ms x0 x1 x2 x3 x4 x5 x6 x7 (if ¬ x6 = 0 ∧ x4 = x0 then 1 else 0) kc ks) : wL_lawOf_94 post mc ms x0 x1 x2 x3 x4 x5 x6 x7 kc ks := by
  refine br_c (fun h => ?_) (fun h => br_c (fun g => ?_) (fun g => ?_))
  · rw [if_neg (fun z => z.1 h)] at H
    exact H
  · rw [if_pos ⟨h, g⟩] at H
    exact H
  · rw [if_neg (fun z => g z.2)] at H
    exact H
theorem sw_s112 (H : wL_lawOf_130 post mc ms x0 x1 x2 x3 x4 x5 x6 x7 z (if ¬ z = 0 ∧ x2 = 6 then 1 else 0) kc ks) : wL_lawOf_112 post mc ms x0 x1 x2 x3 x4 x5 x6 x7 z kc ks := by
  refine br_c (fun h => ?_) (fun h => br_c (fun g => ?_) (fun g => ?_))
  · rw [if_neg (fun z => z.1 h)] at H
    exact H
  · rw [if_pos ⟨h, g⟩] at H
    exact H
  · rw [if_neg (fun z => g z.2)] at H
    exact H
theorem sw_s130 (H : wL_lawOf_152 post mc ms x0 x1 x2 x3 x4 x5 x6 x7 x8 z (if ¬ x8 = 0 ∧ (x2 = 0 ∨ x2 = 6) then 1 else 0) kc ks) : wL_lawOf_130 post mc ms x0 x1 x2 x3 x4 x5 x6 x7 x8 z kc ks := by
  refine br_c (fun h => ?_) (fun h => br_c (fun g => ?_) (fun g => br_c (fun g2 => ?_) (fun g2 => ?_)))
  · rw [if_neg (fun z => z.1 h)] at H
    exact H
  · rw [if_pos ⟨h, Or.inl g⟩] at H
    exact H
  · rw [if_pos ⟨h, Or.inr g2⟩] at H
    exact H
  · rw [if_neg (fun z => z.2.elim g g2)] at H
    exact H
theorem sw_s152 (H : wL_lawOf_170 post mc ms x0 x1 x2 x3 x4 x5 x6 x7 x8 x9 z (if ¬ x8 = 0 ∧ ¬ x1 &&& 2 = 0 then 1 else 0) kc ks) : wL_lawOf_152 post mc ms x0 x1 x2 x3 x4 x5 x6 x7 x8 x9 z kc ks := by
  refine br_c (fun h => ?_) (fun h => br_c (fun g => ?_) (fun g => ?_))
  · rw [if_neg (fun z => z.1 h)] at H
    exact H
  · rw [if_neg (fun z => z.2 g)] at H
    exact H
  · rw [if_pos ⟨h, g⟩] at H
    exact H
theorem sw_s170 (H : wL_lawOf_188 post mc ms x0 x1 x2 x3 x4 x5 x6 x7 x9 x10 z (if ¬ x8 = 0 ∧ ¬ x1 &&& 4 = 0 then 1 else 0) kc ks) : wL_lawOf_170 post mc ms x0 x1 x2 x3 x4 x5 x6 x7 x8 x9 x10 z kc ks := by
  refine br_c (fun h => ?_) (fun h => br_c (fun g => ?_) (fun g => ?_))
  · rw [if_neg (fun z => z.1 h)] at H
    exact H
  · rw [if_neg (fun z => z.2 g)] at H
    exact H
  · rw [if_pos ⟨h, g⟩] at H
    exact H
theorem sw_s188 (H : wL_lawOf_325 post mc ms x0 x1 x2 x3 x4 x5 x6 x7 (if x3 = 0 then 9 else if x3 = 1 then (if x10 = 0 then 2 else if x9 = 0 then (if x1 &&& 1 = 0 then 0 else 4) else 3) else if x3 = 2 then (if x9 = 0 then 6 else 0) else if x3 = 3 then (if x9 = 0 then 6 else if x5 = x0 then 7 else 2) else if x10 = 0 then 2 else if x11 = 0 then 7 else if z = (if x3 = 4 then 1 else 0) then 10 else 0) kc ks) : wL_lawOf_188 post mc ms x0 x1 x2 x3 x4 x5 x6 x7 x9 x10 x11 z kc ks := by
  refine br_c (fun h => ?_) (fun h => ?_)
  · rw [if_pos h] at H
    exact H
  rw [if_neg h] at H
  refine br_c (fun h => ?_) (fun h => ?_)
  · rw [if_pos h] at H
    refine br_c (fun g => ?_) (fun g => ?_)
    · rw [if_pos g] at H
      exact H
    rw [if_neg g] at H
    refine br_c (fun g => ?_) (fun g => ?_)
    · rw [if_pos g] at H
      refine br_c (fun g => ?_) (fun g => ?_)
      · rw [if_pos g] at H
        exact H
      · rw [if_neg g] at H
        exact H
    · rw [if_neg g] at H
      exact H
  rw [if_neg h] at H
  refine br_c (fun h => ?_) (fun h => ?_)
  · rw [if_pos h] at H
    refine br_c (fun g => ?_) (fun g => ?_)
    · rw [if_pos g] at H
      exact H
    · rw [if_neg g] at H
      exact H
  rw [if_neg h] at H
  refine br_c (fun h => ?_) (fun h => ?_)
  · rw [if_pos h] at H
    refine br_c (fun g => ?_) (fun g => ?_)
    · rw [if_pos g] at H
      exact H
    rw [if_neg g] at H
    refine br_c (fun g => ?_) (fun g => ?_)
    · rw [if_pos g] at H
      exact H
    · rw [if_neg g] at H
      exact H
  rw [if_neg h] at H
  refine br_c (fun g => ?_) (fun g => ?_)
  · rw [if_pos g] at H
    exact H
  rw [if_neg g] at H
  refine br_c (fun g => ?_) (fun g => ?_)
  · rw [if_pos g] at H
    exact H
  rw [if_neg g] at H
  refine br_c (fun g => ?_) (fun g => ?_)
  · rw [if_pos g] at H
    refine br_c (fun e => ?_) (fun e => ?_)
    · rw [if_pos e] at H
      exact H
    · rw [if_neg e] at H
      exact H
  · rw [if_neg g] at H
    refine br_c (fun e => ?_) (fun e => ?_)
    · rw [if_pos e] at H
      exact H
    · rw [if_neg e] at H
      exact H
/-- the whole way from the two guards to 'done': due is the law's own table -/
theorem sw_s94d (H : wL_lawOf_325 post mc ms x0 x1 x2 x3 x4 x5 x6 x7 (sw_due x0 x1 x2 x3 x4 x5 x6) kc ks) : wL_lawOf_94 post mc ms x0 x1 x2 x3 x4 x5 x6 x7 kc ks := by
  refine sw_s94 (sw_s112 (sw_s130 (sw_s152 (sw_s170 (sw_s188 ?_)))))
  refine (congrArg (fun d => wL_lawOf_325 post mc ms x0 x1 x2 x3 x4 x5 x6 x7 d kc ks) ?_).mp H
  unfold sw_due
  by_cases hm : ¬ x6 = 0 ∧ x4 = x0
  · by_cases h6 : x2 = 6
    · simp [hm, h6]
    · by_cases h0 : x2 = 0
      · simp [hm, h0]
      · simp [hm, h0, h6]
  · simp [hm]
/-- not done: the place stays (7 where nothing was put) -/
theorem sw_s325n (hn : x7 = 0 ∨ ¬ z = 0) (h6 : x6 = 0 → wL_lawOf_384 post mc ms x0 x1 x2 x3 x4 x5 x6 x7 z 0 7 kc ks) (h6' : ¬ x6 = 0 → wL_lawOf_384 post mc ms x0 x1 x2 x3 x4 x5 x6 x7 z 0 x2 kc ks) : wL_lawOf_325 post mc ms x0 x1 x2 x3 x4 x5 x6 x7 z kc ks := by
  have K : wL_lawOf_342 post mc ms x0 x1 x2 x3 x4 x5 x6 x7 z 0 kc ks := br_c h6 (fun g => br_t rfl (br_t rfl (h6' g)))
  exact br_c (fun _ => K) (fun g => br_f (hn.elim (fun e => absurd e g) id) K)
/-- done: the thing was put, its place is 6 behind take, 0 behind drop -/
theorem sw_s325d (h6 : ¬ x6 = 0) (h7 : ¬ x7 = 0) (H : wL_lawOf_384 post mc ms x0 x1 x2 x3 x4 x5 x6 x7 0 1 (if x3 = 1 then 6 else if x3 = 2 then 0 else x2) kc ks) : wL_lawOf_325 post mc ms x0 x1 x2 x3 x4 x5 x6 x7 0 kc ks := by
  refine br_f h7 (br_t rfl (br_f h6 (br_f (by decide) (br_c (fun e => ?_) (fun e => ?_)))))
  · rw [if_pos e] at H
    exact H
  · rw [if_neg e] at H
    refine br_f (by decide) (br_c (fun e2 => ?_) (fun e2 => ?_))
    · rw [if_pos e2] at H
      exact H
    · rw [if_neg e2] at H
      exact H
end
end
section
/-! the law's calls -/
/-- the tail: place, traits, player of a thing in range -/
theorem sw_end {ne sk rc nc wc tc mt sd : Int32} {a1 a2 a3 a4 a5 a6 a7 a8 a9 a10 a11 a12 a13 a14 a15 a16 a17 a18 a19 a20 a21 a22 : Nat → Int32} {mc ms kc ks i : Nat} {x1 x3 x6 x14 x15 T r d : Int32} (hi : i < 8) (hr : r = d) (h4 : a4 i = x15) (h3 : a3 i = T) (t0 : x6 = 0 → T = 0) (t1 : ¬ x6 = 0 → (x14 = 0 ∨ x3 ≤ 3) → T = x1) (t2 : ¬ x6 = 0 → ¬ x14 = 0 → ¬ x3 ≤ 3 → T = x1 ^^^ 4) :
    wL_lawOf_462 (fun r _ => r = 1) mc ms (nI i) x1 x3 x6 x14 x15 d r kc ks 0 ne sk rc nc wc tc mt sd a1 a2 a3 a4 a5 a6 a7 a8 a9 a10 a11 a12 a13 a14 a15 a16 a17 a18 a19 a20 a21 a22 := by
  have e3 : a3 (nI i).toNatClampNeg = T := sw_rd rfl (by omega) h3
  refine br_t hr ?_
  unfold wpX_place
  refine sw_isT1 hi (br_f (by decide) ⟨pk_in i 8 hi, sw_inN hi (br_f (by decide) (br_t (sw_rd rfl (by omega) h4) ?_))⟩)
  unfold wpX_traits
  refine sw_isT1 hi (br_f (by decide) ⟨pk_in i 8 hi, sw_inN hi (br_f (by decide) ?_)⟩)
  refine br_c (fun g => br_t (e3.trans (t0 g)) (br_t rfl rfl)) (fun g => br_c (fun g2 => ?_) (fun g2 => br_c (fun g3 => ?_) (fun g3 => ?_)))
  · exact br_t (e3.trans (t1 g (Or.inl g2))) (br_t rfl rfl)
  · exact br_t (e3.trans (t1 g (Or.inr g3))) (br_t rfl rfl)
  · exact br_t (e3.trans (t2 g g2 g3)) (br_t rfl rfl)
/-- the tail where t names no thing -/
theorem sw_end0 {ne sk rc nc wc tc mt sd : Int32} {a1 a2 a3 a4 a5 a6 a7 a8 a9 a10 a11 a12 a13 a14 a15 a16 a17 a18 a19 a20 a21 a22 : Nat → Int32} {mc ms kc ks : Nat} {x0 x1 x3 x6 x14 x15 r d : Int32} (hx : ¬ (¬ x0 < 0 ∧ ¬ 7 < x0)) (hr : r = d) :
    wL_lawOf_462 (fun r _ => r = 1) mc ms x0 x1 x3 x6 x14 x15 d r kc ks 0 ne sk rc nc wc tc mt sd a1 a2 a3 a4 a5 a6 a7 a8 a9 a10 a11 a12 a13 a14 a15 a16 a17 a18 a19 a20 a21 a22 := by
  refine br_t hr ?_
  unfold wpX_place
  refine sw_isT0 hx (br_t rfl (sw_inL (fun h => absurd h hx) (fun _ => br_t rfl (br_t rfl ?_))))
  unfold wpX_traits
  exact sw_isT0 hx (br_t rfl (sw_inL (fun h => absurd h hx) (fun _ => br_t rfl (br_t rfl (br_t rfl rfl)))))
theorem sw_fin1 {mc ms kc ks i k p : Nat} {x3 x4 x5 x7 x13 x14 z r P T : Int32} (hmc : kc + 23 ≤ mc) (hms : ks + 707 ≤ ms) (hi : i < 8) (hk : k < 16) (hp : p < 16) (hn : p ≠ 8 + i) (hC : sw_C i k p x3 x4 x5 r P T)
    (r0 : x7 = 0 → r = -1) (r1 : ¬ x7 = 0 → r = x13) (hz : P = z) (t1 : (x14 = 0 ∨ x3 ≤ 3) → T = nI k) (t2 : ¬ x14 = 0 → ¬ x3 ≤ 3 → T = nI k ^^^ 4) :
    wL_lawOf_384 (fun r _ => r = 1) mc ms (nI i) (nI k) (nI p) x3 x4 x5 1 x7 x13 x14 z kc ks := by
  subst hz
  refine ⟨by omega, by omega, 22, 676, by omega, by omega, ?_⟩
  refine sw_init (fun ne sk rc nc wc tc mt sd a1 a2 a3 a4 a5 a6 a7 a8 a9 a10 a11 a12 a13 a14 a15 a16 a17 a18 a19 a20 a21 a22 ini => ?_)
  refine sw_thing1 ini hi hk hp hn (fun b3 b4 b5 b6 q => br_t rfl ?_)
  have K : ∀ (ne sk rc nc wc tc mt sd : Int32) (a1 a2 a3 a4 a5 a6 a7 a8 a9 a10 a11 a12 a13 a14 a15 a16 a17 a18 a19 a20 a21 a22 : Nat → Int32), sw_pic i k p a1 a2 a3 a4 a5 a6 a13 → ∀ o : Int32, wL_lawOf_436 (fun r _ => r = 1) mc ms (nI i) (nI k) x3 x4 x5 1 x7 x13 x14 P o o (kc + 1 + 22) (ks + 31 + 676) 0 ne sk rc nc wc tc mt sd a1 a2 a3 a4 a5 a6 a7 a8 a9 a10 a11 a12 a13 a14 a15 a16 a17 a18 a19 a20 a21 a22 := by
    intro ne sk rc nc wc tc mt sd a1 a2 a3 a4 a5 a6 a7 a8 a9 a10 a11 a12 a13 a14 a15 a16 a17 a18 a19 a20 a21 a22 q o
    refine br_t rfl (hC ne sk rc nc wc tc mt sd a1 a2 a3 a4 a5 a6 a7 a8 a9 a10 a11 a12 a13 a14 a15 a16 a17 a18 a19 a20 a21 a22 _ q (fun ne' sk' b3 b4 b5 b6 b8 h4 h3 => ?_))
    exact br_c (fun g => sw_end hi (r0 g) h4 h3 (fun z => absurd z (by decide)) (fun _ => t1) (fun _ => t2)) (fun g => sw_end hi (r1 g) h4 h3 (fun z => absurd z (by decide)) (fun _ => t1) (fun _ => t2))
  refine sw_visible q (fun hpp ne' a8' => br_f (by decide) (pk_eq p 0 (fun g => ?_) (fun g => pk_eq p 6 (fun g2 => ?_) (fun g2 => absurd hpp (by omega))))) (fun hpp ne' a8' => br_f (by decide) (pk_eq p 0 (fun g => absurd (Or.inl g) hpp) (fun g => pk_eq p 6 (fun g2 => absurd (Or.inr g2) hpp) (fun g2 => ?_))))
  · exact K _ _ _ _ _ _ _ _ _ _ _ _ _ _ _ _ _ _ _ _ _ _ _ _ _ _ _ _ _ _ q 1
  · exact K _ _ _ _ _ _ _ _ _ _ _ _ _ _ _ _ _ _ _ _ _ _ _ _ _ _ _ _ _ _ q 1
  · exact K _ _ _ _ _ _ _ _ _ _ _ _ _ _ _ _ _ _ _ _ _ _ _ _ _ _ _ _ _ _ q 0
theorem sw_fin0 {mc ms kc ks : Nat} {x0 x1 x2 x3 x4 x5 x7 x13 x14 r : Int32} (hmc : kc + 23 ≤ mc) (hms : ks + 707 ≤ ms) (hn : ¬ sw_put x0 x1 x2) (hC : ∀ i, i < 8 → sw_C i 0 7 x3 x4 x5 r (nI 7) (nI 0))
    (r0 : x7 = 0 → r = -1) (r1 : ¬ x7 = 0 → r = x13) : wL_lawOf_384 (fun r _ => r = 1) mc ms x0 x1 x2 x3 x4 x5 0 x7 x13 x14 7 kc ks := by
  refine ⟨by omega, by omega, 22, 676, by omega, by omega, ?_⟩
  refine sw_init (fun ne sk rc nc wc tc mt sd a1 a2 a3 a4 a5 a6 a7 a8 a9 a10 a11 a12 a13 a14 a15 a16 a17 a18 a19 a20 a21 a22 ini => ?_)
  refine sw_thing0 hn (br_t rfl ?_)
  by_cases h0 : ¬ x0 < 0 ∧ ¬ 7 < x0
  · obtain ⟨i, hi, e⟩ := nI_of2 (M := 7) (n := 7) (by decide) h0.1 (Int32.not_lt.mp h0.2)
    subst e
    have hi' : i < 8 := by omega
    have q := sw_ini_pic ini hi'
    refine sw_visible q (fun z => absurd z (by omega)) (fun _ ne' a8' => br_t rfl (br_t rfl ?_))
    refine hC i hi' _ _ _ _ _ _ _ _ _ _ _ _ _ _ _ _ _ _ _ _ _ _ _ _ _ _ _ _ _ _ _ q (fun ne'' sk' b3 b4 b5 b6 b8 h4 h3 => ?_)
    exact br_c (fun g => sw_end hi' (r0 g) h4 h3 (fun _ => rfl) (fun z => absurd rfl z) (fun z => absurd rfl z)) (fun g => sw_end hi' (r1 g) h4 h3 (fun _ => rfl) (fun z => absurd rfl z) (fun z => absurd rfl z))
  · unfold wpX_visible
    refine sw_isT0 h0 (br_t rfl (br_t rfl (br_t rfl ?_)))
    refine hC 0 (by omega) _ _ _ _ _ _ _ _ _ _ _ _ _ _ _ _ _ _ _ _ _ _ _ _ _ _ _ _ _ _ _ (sw_ini_pic ini (by omega)) (fun ne'' sk' b3 b4 b5 b6 b8 h4 h3 => ?_)
    exact br_c (fun g => sw_end0 h0 (r0 g)) (fun g => sw_end0 h0 (r1 g))
end
section
/-! the law's cases -/
theorem sw_in_nI {x M : Int32} {n : Nat} (hM : M.toInt = n) (h : sw_in x 0 M) : ∃ j : Nat, j ≤ n ∧ x = nI j := nI_of2 hM h.1 (Int32.not_lt.mp h.2)
theorem sw_good_nI {x3 x4 x5 : Int32} (h : sw_good x3 x4 x5) : ∃ v a : Nat, v < 6 ∧ a < 8 ∧ x3 = nI v ∧ x4 = nI a ∧ (v = 0 → a < 4) ∧ (v = 3 → ∃ b, b < 8 ∧ x5 = nI b) := by
  obtain ⟨h3, h4, h5⟩ := h
  obtain ⟨v, hv, e3⟩ := sw_in_nI (n := 5) (by decide) h3
  subst e3
  have H5 : v = 3 → ∃ b, b < 8 ∧ x5 = nI b := by
    intro z
    obtain ⟨b, hb, e5⟩ := sw_in_nI (n := 7) (by decide) (h5 (by rw [z]; rfl))
    exact ⟨b, by omega, e5⟩
  by_cases h0 : v = 0
  · rw [if_pos (by rw [h0]; rfl)] at h4
    obtain ⟨a, ha, e4⟩ := sw_in_nI (n := 3) (by decide) h4
    exact ⟨v, a, by omega, by omega, rfl, e4, fun _ => by omega, H5⟩
  · have n0 : ¬ nI v = 0 := fun z => h0 ((nI_eq (b := 0) (by omega) (by omega)).mp z)
    rw [if_neg n0] at h4
    obtain ⟨a, ha, e4⟩ := sw_in_nI (n := 7) (by decide) h4
    exact ⟨v, a, by omega, by omega, rfl, e4, fun z => absurd z h0, H5⟩
/-- nothing was put -/
theorem sw_no {x0 x1 x2 x3 x4 x5 : Int32} (hn : ¬ sw_put x0 x1 x2) : wL_lawOf_43 (fun r _ => r = 1) 160 2544 x0 x1 x2 x3 x4 x5 0 0 0 := by
  refine sw_law2 (fun hg => ?_) (fun hg => ?_)
  · obtain ⟨v, a, hv, ha, e3, e4, h0, h3⟩ := sw_good_nI hg
    subst e3 e4
    have D : ∀ d : Int32, sw_due x0 x1 x2 (nI v) (nI a) x5 0 = d → ¬ d = 0 → (∀ i, i < 8 → sw_C i 0 7 (nI v) (nI a) x5 d (nI 7) (nI 0)) → wL_lawOf_94 (fun r _ => r = 1) 160 2544 x0 x1 x2 (nI v) (nI a) x5 0 1 0 0 := by
      intro d hd hd0 hC
      refine sw_s94d ?_
      rw [hd]
      exact sw_s325n (Or.inr hd0) (fun _ => sw_fin0 (by omega) (by omega) hn hC (fun z => absurd z (by decide)) (fun _ => rfl)) (fun z => absurd rfl z)
    rcases (show v = 0 ∨ v = 1 ∨ v = 2 ∨ v = 3 ∨ v = 4 ∨ v = 5 by omega) with e | e | e | e | e | e <;> subst e
    · exact D 9 rfl (by decide) (fun i hi => sw_C_go (h0 rfl))
    · exact D 2 rfl (by decide) (fun i hi => sw_C_take0 ha (by omega))
    · exact D 6 rfl (by decide) (fun i hi => sw_C_drop0 ha (by omega))
    · obtain ⟨b, hb, e5⟩ := h3 rfl
      subst e5
      exact D 6 rfl (by decide) (fun i hi => sw_C_put0 ha hb (by omega))
    · exact D 2 rfl (by decide) (fun i hi => sw_TC4 ha (sw_T0 ha (by omega)))
    · exact D 2 rfl (by decide) (fun i hi => sw_TC5 ha (sw_T0 ha (by omega)))
  · exact sw_s94d (sw_s325n (Or.inl rfl) (fun _ => sw_fin0 (by omega) (by omega) hn (fun i hi => sw_C_bad hg) (fun _ => rfl) (fun z => absurd rfl z)) (fun z => absurd rfl z))
/-- a thing was put -/
theorem sw_yes {i k p : Nat} {x3 x4 x5 : Int32} (hi : i < 8) (hk : k < 16) (hp : p < 16) (hn : p ≠ 8 + i) : wL_lawOf_43 (fun r _ => r = 1) 160 2544 (nI i) (nI k) (nI p) x3 x4 x5 1 0 0 := by
  refine sw_law2 (fun hg => ?_) (fun hg => ?_)
  · obtain ⟨v, a, hv, ha, e3, e4, h0, h3⟩ := sw_good_nI hg
    subst e3 e4
    have D : ∀ d : Int32, sw_due (nI i) (nI k) (nI p) (nI v) (nI a) x5 1 = d → ¬ d = 0 → sw_C i k p (nI v) (nI a) x5 d (nI p) (nI k) → wL_lawOf_94 (fun r _ => r = 1) 160 2544 (nI i) (nI k) (nI p) (nI v) (nI a) x5 1 1 0 0 := by
      intro d hd hd0 hC
      refine sw_s94d ?_
      rw [hd]
      exact sw_s325n (Or.inr hd0) (fun z => absurd z (by decide)) (fun _ => sw_fin1 (by omega) (by omega) hi hk hp hn hC (fun z => absurd z (by decide)) (fun _ => rfl) rfl (fun _ => rfl) (fun z => absurd rfl z))
    have Z : ∀ P T : Int32, sw_due (nI i) (nI k) (nI p) (nI v) (nI a) x5 1 = 0 → sw_C i k p (nI v) (nI a) x5 0 P T → P = (if nI v = 1 then 6 else if nI v = 2 then 0 else nI p) → (nI v ≤ 3 → T = nI k) → (¬ nI v ≤ 3 → T = nI k ^^^ 4) → wL_lawOf_94 (fun r _ => r = 1) 160 2544 (nI i) (nI k) (nI p) (nI v) (nI a) x5 1 1 0 0 := by
      intro P T hd hC hP t1 t2
      refine sw_s94d ?_
      rw [hd]
      exact sw_s325d (by decide) (by decide) (sw_fin1 (by omega) (by omega) hi hk hp hn hC (fun z => absurd z (by decide)) (fun _ => rfl) hP (fun z => z.elim (fun e => absurd e (by decide)) t1) (fun _ => t2))
    have e0 : (nI a = nI i) ↔ a = i := nI_eq (by omega) (by omega)
    have e6 : (nI p = 6) ↔ p = 6 := nI_eq (b := 6) (by omega) (by omega)
    have ez : (nI p = 0) ↔ p = 0 := nI_eq (b := 0) (by omega) (by omega)
    have o1 : ¬ (1 : Int32) = 0 := by decide
    rcases (show v = 0 ∨ v = 1 ∨ v = 2 ∨ v = 3 ∨ v = 4 ∨ v = 5 by omega) with e | e | e | e | e | e <;> subst e
    · exact D 9 rfl (by decide) (sw_C_go (h0 rfl))
    · have u : sw_due (nI i) (nI k) (nI p) (nI 1) (nI a) x5 1 = (if (¬ (1 : Int32) = 0 ∧ nI a = nI i) ∧ (nI p = 0 ∨ nI p = 6) then (if nI p = 6 then 3 else if nI k &&& 1 = 0 then 0 else 4) else 2) := rfl
      by_cases hm : a = i ∧ (p = 0 ∨ p = 6)
      · rw [if_pos ⟨⟨o1, e0.mpr hm.1⟩, hm.2.imp ez.mpr e6.mpr⟩] at u
        obtain ⟨ha', hpp⟩ := hm
        subst ha'
        by_cases h6 : p = 6
        · rw [if_pos (e6.mpr h6)] at u
          subst h6
          exact D 3 u (by decide) (sw_C_take1 hi)
        · rw [if_neg (fun z => h6 (e6.mp z))] at u
          have hp0 : p = 0 := by omega
          subst hp0
          by_cases hf : nI k &&& 1 = 0
          · rw [if_pos hf] at u
            exact Z (nI 6) (nI k) u (sw_C_take3 hi hf) rfl (fun _ => rfl) (fun z => absurd (by decide) z)
          · rw [if_neg hf] at u
            exact D 4 u (by decide) (sw_C_take2 hi hf)
      · rw [if_neg (fun z => hm ⟨e0.mp z.1.2, z.2.imp ez.mp e6.mp⟩)] at u
        exact D 2 u (by decide) (sw_C_take0 ha hm)
    · have u : sw_due (nI i) (nI k) (nI p) (nI 2) (nI a) x5 1 = (if (¬ (1 : Int32) = 0 ∧ nI a = nI i) ∧ nI p = 6 then 0 else 6) := rfl
      by_cases hm : a = i ∧ p = 6
      · rw [if_pos ⟨⟨o1, e0.mpr hm.1⟩, e6.mpr hm.2⟩] at u
        obtain ⟨ha', h6⟩ := hm
        subst ha' h6
        exact Z (nI 0) (nI k) u (sw_C_drop1 hi) rfl (fun _ => rfl) (fun z => absurd (by decide) z)
      · rw [if_neg (fun z => hm ⟨e0.mp z.1.2, e6.mp z.2⟩)] at u
        exact D 6 u (by decide) (sw_C_drop0 ha hm)
    · obtain ⟨b, hb, e5⟩ := h3 rfl
      subst e5
      have u : sw_due (nI i) (nI k) (nI p) (nI 3) (nI a) (nI b) 1 = (if (¬ (1 : Int32) = 0 ∧ nI a = nI i) ∧ nI p = 6 then (if nI b = nI i then 7 else 2) else 6) := rfl
      have eb : (nI b = nI i) ↔ b = i := nI_eq (by omega) (by omega)
      by_cases hm : a = i ∧ p = 6
      · rw [if_pos ⟨⟨o1, e0.mpr hm.1⟩, e6.mpr hm.2⟩] at u
        obtain ⟨ha', h6⟩ := hm
        subst ha' h6
        by_cases hb' : b = a
        · rw [if_pos (eb.mpr hb')] at u
          subst hb'
          exact D 7 u (by decide) (sw_C_put2 hi)
        · rw [if_neg (fun z => hb' (eb.mp z))] at u
          exact D 2 u (by decide) (sw_C_put1 hi hb hb')
      · rw [if_neg (fun z => hm ⟨e0.mp z.1.2, e6.mp z.2⟩)] at u
        exact D 6 u (by decide) (sw_C_put0 ha hb hm)
    · have u : sw_due (nI i) (nI k) (nI p) (nI 4) (nI a) x5 1 = (if (¬ (1 : Int32) = 0 ∧ nI a = nI i) ∧ (nI p = 0 ∨ nI p = 6) then (if nI k &&& 2 = 0 then 7 else if (if nI k &&& 4 = 0 then (0 : Int32) else 1) = 1 then 10 else 0) else 2) := rfl
      by_cases hm : a = i ∧ (p = 0 ∨ p = 6)
      · rw [if_pos ⟨⟨o1, e0.mpr hm.1⟩, hm.2.imp ez.mpr e6.mpr⟩] at u
        obtain ⟨ha', hpp⟩ := hm
        subst ha'
        by_cases hb : nI k &&& 2 = 0
        · rw [if_pos hb] at u
          exact D 7 u (by decide) (sw_TC4 ha (sw_T1 hpp hb))
        · rw [if_neg hb] at u
          by_cases ho : (if nI k &&& 4 = 0 then (0 : Int32) else 1) = 1
          · rw [if_pos ho] at u
            exact D 10 u (by decide) (sw_TC4 ha (sw_T2 hpp hb ho))
          · rw [if_neg ho] at u
            exact Z (nI p) (nI k ^^^ 4) u (sw_TC4 ha (sw_T3 hpp hb ho)) rfl (fun z => absurd z (by decide)) (fun _ => rfl)
      · rw [if_neg (fun z => hm ⟨e0.mp z.1.2, z.2.imp ez.mp e6.mp⟩)] at u
        exact D 2 u (by decide) (sw_TC4 ha (sw_T0 ha hm))
    · have u : sw_due (nI i) (nI k) (nI p) (nI 5) (nI a) x5 1 = (if (¬ (1 : Int32) = 0 ∧ nI a = nI i) ∧ (nI p = 0 ∨ nI p = 6) then (if nI k &&& 2 = 0 then 7 else if (if nI k &&& 4 = 0 then (0 : Int32) else 1) = 0 then 10 else 0) else 2) := rfl
      by_cases hm : a = i ∧ (p = 0 ∨ p = 6)
      · rw [if_pos ⟨⟨o1, e0.mpr hm.1⟩, hm.2.imp ez.mpr e6.mpr⟩] at u
        obtain ⟨ha', hpp⟩ := hm
        subst ha'
        by_cases hb : nI k &&& 2 = 0
        · rw [if_pos hb] at u
          exact D 7 u (by decide) (sw_TC5 ha (sw_T1 hpp hb))
        · rw [if_neg hb] at u
          by_cases ho : (if nI k &&& 4 = 0 then (0 : Int32) else 1) = 0
          · rw [if_pos ho] at u
            exact D 10 u (by decide) (sw_TC5 ha (sw_T2 hpp hb ho))
          · rw [if_neg ho] at u
            exact Z (nI p) (nI k ^^^ 4) u (sw_TC5 ha (sw_T3 hpp hb ho)) rfl (fun z => absurd z (by decide)) (fun _ => rfl)
      · rw [if_neg (fun z => hm ⟨e0.mp z.1.2, z.2.imp ez.mp e6.mp⟩)] at u
        exact D 2 u (by decide) (sw_TC5 ha (sw_T0 ha hm))
  · exact sw_s94d (sw_s325n (Or.inl rfl) (fun z => absurd z (by decide)) (fun _ => sw_fin1 (by omega) (by omega) hi hk hp hn (sw_C_bad hg) (fun _ => rfl) (fun z => absurd rfl z) rfl (fun _ => rfl) (fun z => absurd rfl z)))
theorem sw_of {x0 x1 x2 x3 x4 x5 : Int32} {u : St0} : wpL_lawOf (fun r _ => r = 1) 160 2544 u x0 x1 x2 x3 x4 x5 := by
  refine sw_law1 (fun h => ?_) (fun h => sw_no h)
  obtain ⟨h0, h1, h2, h8⟩ := h
  obtain ⟨i, hi, e0⟩ := sw_in_nI (n := 7) (by decide) h0
  obtain ⟨k, hk, e1⟩ := sw_in_nI (n := 15) (by decide) h1
  obtain ⟨p, hp, e2⟩ := sw_in_nI (n := 15) (by decide) h2
  subst e0 e1 e2
  exact sw_yes (by omega) (by omega) (by omega) (fun z => h8 (by rw [z, sw_8s i (by omega)]))
end
section
/-! what is owed -/
theorem sw_cell {post : Int32 → Prop} {L : Nat} {xs : Nat → Int32} {u : St0} {x : Int32} (n : Nat) (hL : L ≤ 6) (hn : n < 6) (hx : x = nI n) (H : ∀ r, post r) : wpL_cellAt post L xs u x :=
  pk_le L n (fun _ => H 0) (fun z => ⟨pk_in n L z hx, H _⟩) rfl hx
theorem i_vc (xs : Nat → Int32) (L : Nat) (hL : L ≤ 6) : wpL_law (fun r => r = 1) L xs := by
  unfold wpL_law
  refine sw_cell 0 hL (by omega) rfl (fun r0 => ?_)
  refine sw_cell 1 hL (by omega) rfl (fun r1 => ?_)
  refine sw_cell 2 hL (by omega) rfl (fun r2 => ?_)
  refine sw_cell 3 hL (by omega) rfl (fun r3 => ?_)
  refine sw_cell 4 hL (by omega) rfl (fun r4 => ?_)
  refine sw_cell 5 hL (by omega) rfl (fun r5 => ?_)
  exact ⟨160, 2544, by omega, by omega, sw_of⟩
end
