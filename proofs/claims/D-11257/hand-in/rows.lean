section
theorem fz_b8 : ∀ n, n < 16 → (nI n).toInt8.toInt32 = nI n := by decide +kernel
theorem fz_b16 : ∀ n, n < 2304 → (nI n).toInt16.toInt32 = nI n := by decide +kernel
theorem fz_fillL {s : Nat → Int64} {i k : Nat} (hk : k = i) (h : ∀ j, j < i → s j = 0) : ∀ j, j < i + 1 → vp_updL s k 0 j = 0 := by
  intro j hj
  rw [hk]
  by_cases e : j = i
  · rw [e, pk_uLs]
  · rw [pk_uLn e]
    exact h j (by omega)
theorem fz_fill {s : Nat → Int32} {i k : Nat} (hk : k = i) (h : ∀ j, j < i → s j = 0) : ∀ j, j < i + 1 → upd s k 0 j = 0 := by
  intro j hj
  rw [hk]
  by_cases e : j = i
  · rw [e, pk_us]
  · rw [pk_un e]
    exact h j (by omega)
/-- an atom is its own end -/
theorem fz_follow {post : Int32 → Prop} {v c g e d tt pg ag sg tc pt so sc : Int32} {a1 a2 a3 a4 a5 a6 a7 a8 a9 a10 a11 a12 a13 a14 a15 a16 a17 a18 a19 a20 a21 a22 a23 a25 a26 a27 a28 a29 a30 a31 a32 a33 a34 a35 : Nat → Int32} {a24 : Nat → Int64} {p : Int32} (P : Nat) (hp : p = nI P) (hP : P < 48) (hk : a1 P = 0) (H : post (nI P)) : wpX_follow post (v, c, g, e, d, tt, pg, ag, sg, tc, pt, so, sc, a1, a2, a3, a4, a5, a6, a7, a8, a9, a10, a11, a12, a13, a14, a15, a16, a17, a18, a19, a20, a21, a22, a23, a24, a25, a26, a27, a28, a29, a30, a31, a32, a33, a34, a35) p := by
  subst hp
  have hc : ¬ a1 (nI P).toNatClampNeg = 1 := by
    rw [nI_clamp (by omega), hk]
    decide
  unfold wpX_follow
  exact ⟨1, br_f (by decide) ⟨pk_in P 48 hP, br_f hc H⟩⟩
/-- the first couple goes onto the empty stack -/
theorem fz_push {post : St2 → Prop} {v c g e d tt pg ag sg tc so sc : Int32} {a1 a2 a3 a4 a5 a6 a7 a8 a9 a10 a11 a12 a13 a14 a15 a16 a17 a18 a19 a20 a21 a22 a23 a25 a26 a27 a28 a29 a30 a31 a32 a33 a34 a35 : Nat → Int32} {a24 : Nat → Int64} {p q : Int32} {x y : Nat} (hp : p = nI x) (hq : q = nI y) (hx : x < 48) (hy : y < 48) (hz : ∀ j, j < 36 → a24 j = 0)
    (H : ∀ {x_a23 : Nat → Int32} {x_a24 : Nat → Int64}, x_a23 0 = nI (48 * x + y) → post (v, c, g, e, d, tt, pg, ag, sg, tc, 1, so, sc, a1, a2, a3, a4, a5, a6, a7, a8, a9, a10, a11, a12, a13, a14, a15, a16, a17, a18, a19, a20, a21, a22, x_a23, x_a24, a25, a26, a27, a28, a29, a30, a31, a32, a33, a34, a35)) : wpX_pushPair post (v, c, g, e, d, tt, pg, ag, sg, tc, 0, so, sc, a1, a2, a3, a4, a5, a6, a7, a8, a9, a10, a11, a12, a13, a14, a15, a16, a17, a18, a19, a20, a21, a22, a23, a24, a25, a26, a27, a28, a29, a30, a31, a32, a33, a34, a35) p q := by
  subst hp hq
  have hs : nI (48 * x + y) >>> ((6 : Int32) &&& 31) = nI ((48 * x + y) / 64) := pk_shrN (by omega) _ 6 (by decide)
  have hv : vp_in (nI (48 * x + y) >>> ((6 : Int32) &&& 31)) 36 := pk_in ((48 * x + y) / 64) 36 (by omega) hs
  have he : (48 : Int32) * nI x + nI y = nI (48 * x + y) := by
    rw [show (48 : Int32) = nI 48 from rfl, pk_mul, nI_add]
  have h0 : a24 (nI (48 * x + y) >>> ((6 : Int32) &&& 31)).toNatClampNeg = 0 := by
    rw [hs, nI_clamp (by omega)]
    exact hz _ (by omega)
  have h1 : upd a23 (0 : Int32).toNatClampNeg (nI (48 * x + y)).toInt16.toInt32 0 = nI (48 * x + y) := by
    rw [sb_cl0, pk_us]
    exact fz_b16 _ (by omega)
  unfold wpX_pushPair
  exact nm_r he (nm_e ⟨hv, br_t (by rw [h0]; exact Int64.zero_and) ⟨hv, hv, nm_e ⟨pk_in 0 2304 (by decide), nm_e (nm_r (e' := 1) (by decide) (H h1))⟩⟩⟩)
theorem fz_start {post : St2 → Prop} {v c g e d tt pg ag sg tc pt so sc : Int32} {a1 a2 a3 a4 a5 a6 a7 a8 a9 a10 a11 a12 a13 a14 a15 a16 a17 a18 a19 a20 a21 a22 a23 a25 a26 a27 a28 a29 a30 a31 a32 a33 a34 a35 : Nat → Int32} {a24 : Nat → Int64} {p q : Int32} {x y : Nat} (hp : p = nI x) (hq : q = nI y) (hx : x < 48) (hy : y < 48)
    (H : ∀ {x_a23 : Nat → Int32} {x_a24 : Nat → Int64}, x_a23 0 = nI (48 * x + y) → post (v, c, g, e, d, tt, pg, ag, sg, tc, 1, so, sc, a1, a2, a3, a4, a5, a6, a7, a8, a9, a10, a11, a12, a13, a14, a15, a16, a17, a18, a19, a20, a21, a22, x_a23, x_a24, a25, a26, a27, a28, a29, a30, a31, a32, a33, a34, a35)) : wpX_startPairs post (v, c, g, e, d, tt, pg, ag, sg, tc, pt, so, sc, a1, a2, a3, a4, a5, a6, a7, a8, a9, a10, a11, a12, a13, a14, a15, a16, a17, a18, a19, a20, a21, a22, a23, a24, a25, a26, a27, a28, a29, a30, a31, a32, a33, a34, a35) p q := by
  unfold wpX_startPairs
  exact pk_loop (fun n i s => wX_startPairs_2 post p q v c g e d tt pg ag sg tc pt so sc n (nI i) a1 a2 a3 a4 a5 a6 a7 a8 a9 a10 a11 a12 a13 a14 a15 a16 a17 a18 a19 a20 a21 a22 a23 s a25 a26 a27 a28 a29 a30 a31 a32 a33 a34 a35) (fun i s => ∀ j, j < i → s j = 0) 36 0 a24 (by omega) (fun j hj => absurd hj (by omega))
    (fun n s h => pk_le 36 36 (fun _ => fz_push hp hq hx hy h (fun hb => H hb)) (fun z => absurd z (by omega)))
    (fun n i s hi h hw => pk_le 36 i (fun z => absurd z (by omega)) (fun _ => ⟨pk_in i 36 hi, nm_e (nm_r (nI_1 i) (hw _ (fz_fillL (nI_clamp (by omega)) h)))⟩))
end
section
theorem fz_e1 {x y : Nat} (hx : x < 48) (hy : y < 48) : nI (48 * x + y) / 48 = nI x := by
  have h := pk_div (a := 48 * x + y) (d := 48) (by omega) (by omega) (by omega)
  rw [show (48 * x + y) / 48 = x by omega] at h
  exact h
theorem fz_e2 {x y : Nat} (hx : x < 48) (hy : y < 48) : nI (48 * x + y) - nI (48 * x + y) / 48 * 48 = nI y := by
  have h := pk_rem (a := 48 * x + y) (d := 48) (by omega) (by omega) (by omega)
  rw [show (48 * x + y) % 48 = y by omega] at h
  exact h
theorem fz_kind {a1 : Nat → Int32} {x : Nat} (hx : x < 48) (kx : a1 x = 0) : ¬ a1 (nI x).toNatClampNeg = 1 ∧ ¬ a1 (nI x).toNatClampNeg = 2 := by
  rw [nI_clamp (by omega), kx]
  exact ⟨by decide, by decide⟩
theorem fz_unify {post : Int32 → St2 → Prop} {v c g e d tt pg ag sg tc pt so sc : Int32} {a1 a2 a3 a4 a5 a6 a7 a8 a9 a10 a11 a12 a13 a14 a15 a16 a17 a18 a19 a20 a21 a22 a23 a25 a26 a27 a28 a29 a30 a31 a32 a33 a34 a35 : Nat → Int32} {a24 : Nat → Int64} {p q : Int32} {x y : Nat} (hp : p = nI x) (hq : q = nI y) (hx : x < 48) (hy : y < 48) (kx : a1 x = 0) (ky : a1 y = 0)
    (H1 : a6 x = a6 y → ∀ {x_a23 : Nat → Int32} {x_a24 : Nat → Int64}, post 1 (v, c, g, e, d, tt, pg, ag, sg, tc, 0, so, sc, a1, a2, a3, a4, a5, a6, a7, a8, a9, a10, a11, a12, a13, a14, a15, a16, a17, a18, a19, a20, a21, a22, x_a23, x_a24, a25, a26, a27, a28, a29, a30, a31, a32, a33, a34, a35))
    (H0 : ¬ a6 x = a6 y → ∀ {x_a23 : Nat → Int32} {x_a24 : Nat → Int64}, post 0 (v, c, g, e, d, tt, pg, ag, sg, tc, 0, so, sc, a1, a2, a3, a4, a5, a6, a7, a8, a9, a10, a11, a12, a13, a14, a15, a16, a17, a18, a19, a20, a21, a22, x_a23, x_a24, a25, a26, a27, a28, a29, a30, a31, a32, a33, a34, a35)) : wpX_unify post (v, c, g, e, d, tt, pg, ag, sg, tc, pt, so, sc, a1, a2, a3, a4, a5, a6, a7, a8, a9, a10, a11, a12, a13, a14, a15, a16, a17, a18, a19, a20, a21, a22, a23, a24, a25, a26, a27, a28, a29, a30, a31, a32, a33, a34, a35) p q := by
  have cx : (nI x).toNatClampNeg = x := nI_clamp (by omega)
  have cy : (nI y).toNatClampNeg = y := nI_clamp (by omega)
  unfold wpX_unify
  refine fz_start hp hq hx hy (fun hb => ?_)
  refine Exists.intro 2 (br_f (by decide) (br_f (by decide) (nm_r (e' := 0) (by decide) ⟨pk_in 0 2304 (by decide), nm_r (e' := nI (48 * x + y)) hb ⟨by decide, ?_⟩⟩)))
  refine fz_follow x (fz_e1 hx hy) hx kx ⟨by decide, fz_follow y (fz_e2 hx hy) hy ky ⟨pk_in x 48 hx, pk_in y 48 hy, ?_⟩⟩
  refine br_c (fun h => nm_e (br_f (by decide) (br_t (by decide) (H1 ?_)))) (fun h => ⟨pk_in x 48 hx, br_f (fz_kind hx kx).1 ⟨pk_in y 48 hy, br_f (fz_kind hy ky).1 ⟨pk_in x 48 hx, br_f (fz_kind hx kx).2 (H0 ?_)⟩⟩⟩)
  · rw [cx, cy] at h
    exact h
  · rw [cx, cy] at h
    exact h
theorem fz_undec {post : Int32 → St2 → Prop} {v c g e d tt pg ag sg tc pt so sc : Int32} {a1 a2 a3 a4 a5 a6 a7 a8 a9 a10 a11 a12 a13 a14 a15 a16 a17 a18 a19 a20 a21 a22 a23 a25 a26 a27 a28 a29 a30 a31 a32 a33 a34 a35 : Nat → Int32} {a24 : Nat → Int64} {p q : Int32} {x y : Nat} (hp : p = nI x) (hq : q = nI y) (hx : x < 48) (hy : y < 48) (kx : a1 x = 0) (ky : a1 y = 0)
    (H1 : a6 x = a6 y → ∀ {x_a23 : Nat → Int32} {x_a24 : Nat → Int64}, post 0 (v, c, g, e, d, tt, pg, ag, sg, tc, 0, so, sc, a1, a2, a3, a4, a5, a6, a7, a8, a9, a10, a11, a12, a13, a14, a15, a16, a17, a18, a19, a20, a21, a22, x_a23, x_a24, a25, a26, a27, a28, a29, a30, a31, a32, a33, a34, a35))
    (H0 : ¬ a6 x = a6 y → ∀ {x_a23 : Nat → Int32} {x_a24 : Nat → Int64}, post (-1) (v, c, g, e, d, tt, pg, ag, sg, tc, 0, so, sc, a1, a2, a3, a4, a5, a6, a7, a8, a9, a10, a11, a12, a13, a14, a15, a16, a17, a18, a19, a20, a21, a22, x_a23, x_a24, a25, a26, a27, a28, a29, a30, a31, a32, a33, a34, a35)) : wpX_undecidedOn post (v, c, g, e, d, tt, pg, ag, sg, tc, pt, so, sc, a1, a2, a3, a4, a5, a6, a7, a8, a9, a10, a11, a12, a13, a14, a15, a16, a17, a18, a19, a20, a21, a22, a23, a24, a25, a26, a27, a28, a29, a30, a31, a32, a33, a34, a35) p q := by
  have cx : (nI x).toNatClampNeg = x := nI_clamp (by omega)
  have cy : (nI y).toNatClampNeg = y := nI_clamp (by omega)
  unfold wpX_undecidedOn
  refine fz_start hp hq hx hy (fun hb => ?_)
  refine Exists.intro 2 (br_f (by decide) (br_f (by decide) (nm_r (e' := 0) (by decide) ⟨pk_in 0 2304 (by decide), nm_r (e' := nI (48 * x + y)) hb ⟨by decide, ?_⟩⟩)))
  refine fz_follow x (fz_e1 hx hy) hx kx ⟨by decide, fz_follow y (fz_e2 hx hy) hy ky ⟨pk_in x 48 hx, pk_in y 48 hy, ?_⟩⟩
  refine br_c (fun h => nm_e (br_f (by decide) (br_t (by decide) (H1 ?_)))) (fun h => ⟨pk_in x 48 hx, br_f (fz_kind hx kx).1 ⟨pk_in y 48 hy, br_f (fz_kind hy ky).1 ⟨pk_in x 48 hx, br_f (fz_kind hx kx).2 (H0 ?_)⟩⟩⟩)
  · rw [cx, cy] at h
    exact h
  · rw [cx, cy] at h
    exact h
/-- nothing is touched: nothing is looked at again -/
theorem fz_recheck0 {post : Int32 → St2 → Prop} {v c g e tt pg ag sg pt so sc : Int32} {a1 a2 a3 a4 a5 a6 a7 a8 a9 a10 a11 a12 a13 a14 a15 a16 a17 a18 a19 a20 a21 a22 a23 a25 a26 a27 a28 a29 a30 a31 a32 a33 a34 a35 : Nat → Int32} {a24 : Nat → Int64} {D : Nat} (hD : D ≤ 1) (H : post 1 (v, c, g, e, nI D, tt, pg, ag, sg, 0, pt, so, sc, a1, a2, a3, a4, a5, a6, a7, a8, a9, a10, a11, a12, a13, a14, a15, a16, a17, a18, a19, a20, a21, a22, a23, a24, a25, a26, a27, a28, a29, a30, a31, a32, a33, a34, a35)) : wpX_recheck post (v, c, g, e, nI D, tt, pg, ag, sg, 0, pt, so, sc, a1, a2, a3, a4, a5, a6, a7, a8, a9, a10, a11, a12, a13, a14, a15, a16, a17, a18, a19, a20, a21, a22, a23, a24, a25, a26, a27, a28, a29, a30, a31, a32, a33, a34, a35) := by
  have h : D = 0 ∨ D = 1 := by omega
  rcases h with h | h
  · subst h
    unfold wpX_recheck
    exact Exists.intro 1 (br_t (by decide) H)
  · subst h
    unfold wpX_recheck
    exact Exists.intro 2 (br_f (by decide) (br_t (by decide) (nm_e (br_t (by decide) H))))
/-- the one disequality is looked at: cells 0 and 1 -/
theorem fz_recheck1 {post : Int32 → St2 → Prop} {v c g e tt pg ag sg pt so sc : Int32} {a1 a2 a3 a4 a5 a6 a7 a8 a9 a10 a11 a12 a13 a14 a15 a16 a17 a18 a19 a20 a21 a22 a23 a25 a26 a27 a28 a29 a30 a31 a32 a33 a34 a35 : Nat → Int32} {a24 : Nat → Int64} (h16 : a16 0 = 0) (h17 : a17 0 = 1) (k0 : a1 0 = 0) (k1 : a1 1 = 0)
    (H1 : a6 0 = a6 1 → ∀ {x_a23 : Nat → Int32} {x_a24 : Nat → Int64}, post 0 (v, c, g, e, 1, tt, pg, ag, sg, 0, 0, so, sc, a1, a2, a3, a4, a5, a6, a7, a8, a9, a10, a11, a12, a13, a14, a15, a16, a17, a18, a19, a20, a21, a22, x_a23, x_a24, a25, a26, a27, a28, a29, a30, a31, a32, a33, a34, a35))
    (H0 : ¬ a6 0 = a6 1 → ∀ {x_a23 : Nat → Int32} {x_a24 : Nat → Int64}, post 1 (v, c, g, e, 1, tt, pg, ag, sg, 0, 0, so, sc, a1, a2, a3, a4, a5, a6, a7, a8, a9, a10, a11, a12, a13, a14, a15, a16, a17, a18, a19, a20, a21, a22, x_a23, x_a24, a25, a26, a27, a28, a29, a30, a31, a32, a33, a34, a35)) : wpX_recheck post (v, c, g, e, 1, tt, pg, ag, sg, 1, pt, so, sc, a1, a2, a3, a4, a5, a6, a7, a8, a9, a10, a11, a12, a13, a14, a15, a16, a17, a18, a19, a20, a21, a22, a23, a24, a25, a26, a27, a28, a29, a30, a31, a32, a33, a34, a35) := by
  unfold wpX_recheck
  refine Exists.intro 2 (br_f (by decide) (br_f (by decide) ⟨pk_in 0 6 (by decide), pk_in 0 6 (by decide), ?_⟩))
  refine fz_undec (x := 0) (y := 1) h16 h17 (by decide) (by decide) k0 k1 (fun h => ?_) (fun h => ?_)
  · intro b c
    exact br_t rfl (H1 h)
  · intro b c
    exact br_f (by decide) (br_f (by decide) (nm_e (br_t (by decide) (H0 h))))
end
section
theorem fz_reset {post : St2 → Prop} {v c g e d tt pg ag sg tc pt so sc : Int32} {a1 a2 a3 a4 a5 a6 a7 a8 a9 a10 a11 a12 a13 a14 a15 a16 a17 a18 a19 a20 a21 a22 a23 a25 a26 a27 a28 a29 a30 a31 a32 a33 a34 a35 : Nat → Int32} {a24 : Nat → Int64}
    (H : ∀ {x_a18 : Nat → Int32} {x_a19 : Nat → Int32} {x_a20 : Nat → Int32}, post (v, c, g, e, d, 0, 0, 0, 0, 0, pt, so, sc, a1, a2, a3, a4, a5, a6, a7, a8, a9, a10, a11, a12, a13, a14, a15, a16, a17, x_a18, x_a19, x_a20, a21, a22, a23, a24, a25, a26, a27, a28, a29, a30, a31, a32, a33, a34, a35)) : wpX_resetMachine post (v, c, g, e, d, tt, pg, ag, sg, tc, pt, so, sc, a1, a2, a3, a4, a5, a6, a7, a8, a9, a10, a11, a12, a13, a14, a15, a16, a17, a18, a19, a20, a21, a22, a23, a24, a25, a26, a27, a28, a29, a30, a31, a32, a33, a34, a35) := by
  unfold wpX_resetMachine
  exact pk_loop (σ := (Nat → Int32) × (Nat → Int32) × (Nat → Int32)) (fun n i s => wX_resetMachine_2 post v c g e d tt pg ag sg tc pt so sc n (nI i) a1 a2 a3 a4 a5 a6 a7 a8 a9 a10 a11 a12 a13 a14 a15 a16 a17 s.1 s.2.1 s.2.2 a21 a22 a23 a24 a25 a26 a27 a28 a29 a30 a31 a32 a33 a34 a35) (fun _ _ => True) 6 0 (a18, a19, a20) (by omega) trivial
    (fun n s _ => pk_le 6 6 (fun _ => H) (fun z => absurd z (by omega)))
    (fun n i s hi _ hw => pk_le 6 i (fun z => absurd z (by omega)) (fun _ => ⟨pk_in i 6 hi, nm_e ⟨pk_in i 6 hi, nm_e ⟨pk_in i 6 hi, nm_e (nm_r (nI_1 i) (hw (_, _, _) trivial))⟩⟩⟩))
/-- behind the goals: no equations, then the disequalities -/
theorem fz_prep75 {post : Int32 → St2 → Prop} {v c g tt pg ag sg tc pt so sc : Int32} {a1 a2 a3 a4 a5 a6 a7 a8 a9 a10 a11 a12 a13 a14 a15 a16 a17 a18 a19 a20 a21 a22 a23 a25 a26 a27 a28 a29 a30 a31 a32 a33 a34 a35 : Nat → Int32} {a24 : Nat → Int64} {D : Nat} (hD : D ≤ 1) (h16 : D = 1 → a16 0 = 0) (h17 : D = 1 → a17 0 = 1) (k0 : a1 0 = 0) (k1 : a1 1 = 0)
    (H1 : ¬ (D = 1 ∧ a6 0 = a6 1) → ∀ {x_pt : Int32} {x_a23 : Nat → Int32} {x_a24 : Nat → Int64}, post 1 (v, c, g, 0, nI D, tt, pg, ag, sg, 0, x_pt, so, sc, a1, a2, a3, a4, a5, a6, a7, a8, a9, a10, a11, a12, a13, a14, a15, a16, a17, a18, a19, a20, a21, a22, x_a23, x_a24, a25, a26, a27, a28, a29, a30, a31, a32, a33, a34, a35))
    (H0 : D = 1 → a6 0 = a6 1 → ∀ {x_pt : Int32} {x_a23 : Nat → Int32} {x_a24 : Nat → Int64}, post 0 (v, c, g, 0, nI D, tt, pg, ag, sg, 0, x_pt, so, sc, a1, a2, a3, a4, a5, a6, a7, a8, a9, a10, a11, a12, a13, a14, a15, a16, a17, a18, a19, a20, a21, a22, x_a23, x_a24, a25, a26, a27, a28, a29, a30, a31, a32, a33, a34, a35)) :
    ∃ n, wX_prepare_75 post n 0 v c g 0 (nI D) tt pg ag sg tc pt so sc a1 a2 a3 a4 a5 a6 a7 a8 a9 a10 a11 a12 a13 a14 a15 a16 a17 a18 a19 a20 a21 a22 a23 a24 a25 a26 a27 a28 a29 a30 a31 a32 a33 a34 a35 := by
  have h : D = 0 ∨ D = 1 := by omega
  rcases h with h | h
  · subst h
    exact Exists.intro 1 (br_t (by decide) (nm_r (e' := 0) (by decide) (fz_recheck0 (D := 0) (by decide) ⟨rfl, H1 (fun z => absurd z.1 (by decide))⟩)))
  · subst h
    refine Exists.intro 1 (br_t (by decide) (nm_r (e' := 1) (by decide) ?_))
    refine fz_recheck1 (h16 rfl) (h17 rfl) k0 k1 (fun h => ?_) (fun h => ?_)
    · intro b c
      exact ⟨rfl, H0 rfl h⟩
    · intro b c
      exact ⟨rfl, H1 (fun z => h z.2)⟩
theorem fz_prepare {post : Int32 → St2 → Prop} {v c tt pg ag sg tc pt so sc : Int32} {a1 a2 a3 a4 a5 a6 a7 a8 a9 a10 a11 a12 a13 a14 a15 a16 a17 a18 a19 a20 a21 a22 a23 a25 a26 a27 a28 a29 a30 a31 a32 a33 a34 a35 : Nat → Int32} {a24 : Nat → Int64} {G D : Nat} (hG : G ≤ 1) (hD : D ≤ 1) (h13 : G = 1 → a13 0 = -1) (h16 : D = 1 → a16 0 = 0) (h17 : D = 1 → a17 0 = 1) (k0 : a1 0 = 0) (k1 : a1 1 = 0)
    (H1 : ¬ (D = 1 ∧ a6 0 = a6 1) → ∀ {x_pt : Int32} {x_a18 : Nat → Int32} {x_a19 : Nat → Int32} {x_a20 : Nat → Int32} {x_a23 : Nat → Int32} {x_a24 : Nat → Int64}, post 1 (v, c, nI G, 0, nI D, 0, nI G, 0, 0, 0, x_pt, so, sc, a1, a2, a3, a4, a5, a6, a7, a8, a9, a10, a11, a12, a13, a14, a15, a16, a17, x_a18, x_a19, x_a20, a21, a22, x_a23, x_a24, a25, a26, a27, a28, a29, a30, a31, a32, a33, a34, a35))
    (H0 : D = 1 → a6 0 = a6 1 → ∀ {x_tt : Int32} {x_pg : Int32} {x_ag : Int32} {x_sg : Int32} {x_tc : Int32} {x_pt : Int32} {x_a18 : Nat → Int32} {x_a19 : Nat → Int32} {x_a20 : Nat → Int32} {x_a23 : Nat → Int32} {x_a24 : Nat → Int64}, post 0 (v, c, nI G, 0, nI D, x_tt, x_pg, x_ag, x_sg, x_tc, x_pt, so, sc, a1, a2, a3, a4, a5, a6, a7, a8, a9, a10, a11, a12, a13, a14, a15, a16, a17, x_a18, x_a19, x_a20, a21, a22, x_a23, x_a24, a25, a26, a27, a28, a29, a30, a31, a32, a33, a34, a35)) :
    wpX_prepare post (v, c, nI G, 0, nI D, tt, pg, ag, sg, tc, pt, so, sc, a1, a2, a3, a4, a5, a6, a7, a8, a9, a10, a11, a12, a13, a14, a15, a16, a17, a18, a19, a20, a21, a22, a23, a24, a25, a26, a27, a28, a29, a30, a31, a32, a33, a34, a35) := by
  unfold wpX_prepare
  refine fz_reset ?_
  intro b18 b19 b20
  have h : G = 0 ∨ G = 1 := by omega
  rcases h with h | h
  · subst h
    exact Exists.intro 1 (br_t (by decide) (fz_prep75 hD h16 h17 k0 k1 (fun h => H1 h) (fun h h' => H0 h h')))
  · subst h
    have hn : ¬ (0 : Int32) ≤ a13 (0 : Int32).toNatClampNeg := by
      rw [sb_cl0, h13 rfl]
      decide
    exact Exists.intro 2 (br_f (by decide) ⟨pk_in 0 4 (by decide), br_f hn (nm_r (e' := 1) (by decide) (nm_e (br_t (by decide) (fz_prep75 hD h16 h17 k0 k1 (fun h => H1 h) (fun h h' => H0 h h')))))⟩)
end
section
theorem fz_open {post : St2 → Prop} {v c g e d tc pt so sc : Int32} {a1 a2 a3 a4 a5 a6 a7 a8 a9 a10 a11 a12 a13 a14 a15 a16 a17 a18 a19 a20 a21 a22 a23 a25 a26 a27 a28 a29 a30 a31 a32 a33 a34 a35 : Nat → Int32} {a24 : Nat → Int64}
    (H : ∀ {x_a26 : Nat → Int32} {x_a27 : Nat → Int32} {x_a28 : Nat → Int32} {x_a29 : Nat → Int32} {x_a30 : Nat → Int32} {x_a31 : Nat → Int32}, x_a26 0 = 0 → x_a27 0 = -1 → x_a28 0 = 0 → x_a29 0 = 1 → x_a30 0 = 0 → x_a31 0 = 0 → post (v, c, g, e, d, 0, 1, 0, 0, tc, pt, so, sc, a1, a2, a3, a4, a5, a6, a7, a8, a9, a10, a11, a12, a13, a14, a15, a16, a17, a18, a19, a20, a21, a22, a23, a24, a25, x_a26, x_a27, x_a28, x_a29, x_a30, x_a31, a32, a33, a34, a35)) :
    wpX_openFrame post (v, c, g, e, d, 0, 1, 0, 0, tc, pt, so, sc, a1, a2, a3, a4, a5, a6, a7, a8, a9, a10, a11, a12, a13, a14, a15, a16, a17, a18, a19, a20, a21, a22, a23, a24, a25, a26, a27, a28, a29, a30, a31, a32, a33, a34, a35) 0 := by
  have i0 : vp_in 0 5 := pk_in 0 5 (by decide)
  unfold wpX_openFrame
  refine br_t (by decide) (br_f (by decide) (Exists.intro 1 (br_f (by decide) (br_f (by decide) ?_))))
  exact ⟨i0, nm_e ⟨i0, nm_e ⟨i0, nm_e ⟨i0, nm_e ⟨i0, nm_e ⟨i0, nm_e (H pk_us pk_us pk_us pk_us pk_us pk_us)⟩⟩⟩⟩⟩⟩
theorem fz_return {post : St2 → Prop} {v c g e d pg ag sg tc pt so sc : Int32} {a1 a2 a3 a4 a5 a6 a7 a8 a9 a10 a11 a12 a13 a14 a15 a16 a17 a18 a19 a20 a21 a22 a23 a25 a26 a27 a28 a29 a30 a31 a32 a33 a34 a35 : Nat → Int32} {a24 : Nat → Int64} (h28 : a28 0 = 0) (h29 : a29 0 = 1) (h30 : a30 0 = 0) (h31 : a31 0 = 0)
    (H : post (v, c, g, e, d, 0, 1, 0, 0, 0, pt, so, sc, a1, a2, a3, a4, a5, a6, a7, a8, a9, a10, a11, a12, a13, a14, a15, a16, a17, a18, a19, a20, a21, a22, a23, a24, a25, a26, a27, a28, a29, a30, a31, a32, a33, a34, a35)) : wpX_returnTo post (v, c, g, e, d, 0, pg, ag, sg, tc, pt, so, sc, a1, a2, a3, a4, a5, a6, a7, a8, a9, a10, a11, a12, a13, a14, a15, a16, a17, a18, a19, a20, a21, a22, a23, a24, a25, a26, a27, a28, a29, a30, a31, a32, a33, a34, a35) 0 := by
  have i0 : vp_in 0 5 := pk_in 0 5 (by decide)
  unfold wpX_returnTo
  exact ⟨i0, nm_r h28 (nm_e (Exists.intro 1 (br_t (by decide) ⟨i0, nm_r h29 ⟨i0, nm_r h30 ⟨i0, nm_r h31 H⟩⟩⟩)))⟩
theorem fz_at {T r : Nat} : (6 : Int32) * nI T + nI r = nI (6 * T + r) := by
  rw [show (6 : Int32) = nI 6 from rfl, pk_mul, nI_add]
/-- row r of the goal's table holds the couple (q, q); the goal is (1, 1) -/
theorem fz_try {post : Int32 → St2 → Prop} {v c g e tt pt so sc : Int32} {a1 a2 a3 a4 a5 a6 a7 a8 a9 a10 a11 a12 a13 a14 a15 a16 a17 a18 a19 a20 a21 a22 a23 a25 a26 a27 a28 a29 a30 a31 a32 a33 a34 a35 : Nat → Int32} {a24 : Nat → Int64} {w : Int32} {T r q D : Nat} (hw : w = nI r) (hD : D ≤ 1) (hT : T < 4) (hr : r < 6) (hq : q < 48) (h10 : a10 0 = nI T) (h11 : a11 0 = 1) (h12 : a12 0 = 1) (h8 : a8 (6 * T + r) = nI q) (h9 : a9 (6 * T + r) = nI q) (k1 : a1 1 = 0) (kq : a1 q = 0)
    (H1 : a6 1 = a6 q → ∀ {x_pt : Int32} {x_a23 : Nat → Int32} {x_a24 : Nat → Int64} {x_a32 : Nat → Int32}, x_a32 0 = nI r → post 1 (v, c, g, e, nI D, tt, 0, 0, 0, 0, x_pt, so, sc, a1, a2, a3, a4, a5, a6, a7, a8, a9, a10, a11, a12, a13, a14, a15, a16, a17, a18, a19, a20, a21, a22, x_a23, x_a24, a25, a26, a27, a28, a29, a30, a31, x_a32, a33, a34, a35))
    (H0 : ¬ a6 1 = a6 q → ∀ {x_pt : Int32} {x_a23 : Nat → Int32} {x_a24 : Nat → Int64} {x_a32 : Nat → Int32}, post 0 (v, c, g, e, nI D, tt, 0, 0, 0, 0, x_pt, so, sc, a1, a2, a3, a4, a5, a6, a7, a8, a9, a10, a11, a12, a13, a14, a15, a16, a17, a18, a19, a20, a21, a22, x_a23, x_a24, a25, a26, a27, a28, a29, a30, a31, x_a32, a33, a34, a35)) :
    wpX_tryRow post (v, c, g, e, nI D, tt, 1, 0, 0, 0, pt, so, sc, a1, a2, a3, a4, a5, a6, a7, a8, a9, a10, a11, a12, a13, a14, a15, a16, a17, a18, a19, a20, a21, a22, a23, a24, a25, a26, a27, a28, a29, a30, a31, a32, a33, a34, a35) 0 w := by
  subst hw
  have i0 : vp_in 0 4 := pk_in 0 4 (by decide)
  have ha : (6 : Int32) * a10 (0 : Int32).toNatClampNeg + nI r = nI (6 * T + r) := by
    rw [sb_cl0, h10]
    exact fz_at
  have hc : (nI (6 * T + r)).toNatClampNeg = 6 * T + r := nI_clamp (by omega)
  have i1 : vp_in (nI (6 * T + r)) 24 := pk_in (6 * T + r) 24 (by omega)
  unfold wpX_tryRow
  refine nm_e (nm_r (e' := 0) (by decide) (nm_r (e' := 0) (by decide) (nm_r (e' := 0) (by decide) ⟨i0, nm_r ha ⟨i0, nm_e ⟨i0, i1, ?_⟩⟩⟩)))
  refine fz_unify (x := 1) (y := q) h11 (by rw [hc]; exact h8) (by decide) hq k1 kq (fun h => ?_) (fun h => ?_)
  · intro b23 b24
    refine br_f (by decide) ⟨i0, i1, ?_⟩
    refine fz_unify (x := 1) (y := q) h12 (by rw [hc]; exact h9) (by decide) hq k1 kq (fun h' => ?_) (fun h' => absurd h h')
    intro c23 c24
    exact br_f (by decide) (fz_recheck0 hD ⟨rfl, H1 h pk_us⟩)
  · intro b23 b24
    exact br_t rfl (H0 h)
theorem fz_keep {post : St2 → Prop} {v c e d tt pg ag sg tc pt so sc : Int32} {a1 a2 a3 a4 a5 a6 a7 a8 a9 a10 a11 a12 a13 a14 a15 a16 a17 a18 a19 a20 a21 a22 a23 a25 a26 a27 a28 a29 a30 a31 a32 a33 a34 a35 : Nat → Int32} {a24 : Nat → Int64} {k : Nat} (hk : k < 6) (h32 : a32 0 = nI k) (H : post (v, c, 1, e, d, tt, pg, ag, sg, tc, pt, so, sc, a1, a2, a3, a4, a5, a6, a7, a8, a9, a10, a11, a12, a13, a14, a15, a16, a17, a18, a19, a20, a21, a22, a23, a24, a25, a26, a27, a28, a29, a30, a31, a32, upd a33 k 1, a34, a35)) : wpX_keepSolution post (v, c, 1, e, d, tt, pg, ag, sg, tc, pt, so, sc, a1, a2, a3, a4, a5, a6, a7, a8, a9, a10, a11, a12, a13, a14, a15, a16, a17, a18, a19, a20, a21, a22, a23, a24, a25, a26, a27, a28, a29, a30, a31, a32, a33, a34, a35) := by
  have hc : (nI k).toNatClampNeg = k := nI_clamp (by omega)
  have he : (6 : Int32) * 0 + a32 (0 : Int32).toNatClampNeg = nI k := by
    rw [sb_cl0, h32, show (6 : Int32) * 0 = nI 0 from by decide, nI_add, Nat.zero_add]
  unfold wpX_keepSolution
  exact Exists.intro 2 (br_f (by decide) ⟨pk_in 0 4 (by decide), nm_r he (nm_e (br_t (by decide) ⟨pk_in k 1296 (by omega), nm_r (e' := upd a33 k 1) (by rw [hc]) H⟩))⟩)
/-- a row is tried -/
theorem fz_s1 {post : St2 → Prop} {v c e pg ag sg tc pt so sc : Int32} {a1 a2 a3 a4 a5 a6 a7 a8 a9 a10 a11 a12 a13 a14 a15 a16 a17 a18 a19 a20 a21 a22 a23 a25 a26 a27 a28 a29 a30 a31 a32 a33 a34 a35 : Nat → Int32} {a24 : Nat → Int64} {n : Nat} {w : Int32} {T r R q D : Nat} (hw : ¬ 20000 ≤ w) (hD : D ≤ 1) (hT : T < 4) (hr : r < R) (hR : R ≤ 6) (hq : q < 48) (h7 : a7 T = nI R) (h10 : a10 0 = nI T) (h11 : a11 0 = 1) (h12 : a12 0 = 1) (h8 : a8 (6 * T + r) = nI q) (h9 : a9 (6 * T + r) = nI q) (k1 : a1 1 = 0) (kq : a1 q = 0)
    (h26 : a26 0 = 0) (h27 : a27 0 + 1 = nI r) (h28 : a28 0 = 0) (h29 : a29 0 = 1) (h30 : a30 0 = 0) (h31 : a31 0 = 0)
    (H1 : a6 1 = a6 q → ∀ {x_pt : Int32} {x_a23 : Nat → Int32} {x_a24 : Nat → Int64} {x_a27 : Nat → Int32} {x_a32 : Nat → Int32}, x_a27 0 = nI r → x_a32 0 = nI r → wX_search_24 post n 1 (w + 1) v c 1 e (nI D) 0 0 0 0 0 x_pt so sc a1 a2 a3 a4 a5 a6 a7 a8 a9 a10 a11 a12 a13 a14 a15 a16 a17 a18 a19 a20 a21 a22 x_a23 x_a24 a25 a26 x_a27 a28 a29 a30 a31 x_a32 a33 a34 a35)
    (H0 : ¬ a6 1 = a6 q → ∀ {x_pt : Int32} {x_a23 : Nat → Int32} {x_a24 : Nat → Int64} {x_a27 : Nat → Int32} {x_a32 : Nat → Int32}, x_a27 0 = nI r → wX_search_24 post n 0 (w + 1) v c 1 e (nI D) 0 0 0 0 0 x_pt so sc a1 a2 a3 a4 a5 a6 a7 a8 a9 a10 a11 a12 a13 a14 a15 a16 a17 a18 a19 a20 a21 a22 x_a23 x_a24 a25 a26 x_a27 a28 a29 a30 a31 x_a32 a33 a34 a35) :
    wX_search_24 post (n + 1) 0 w v c 1 e (nI D) 0 pg ag sg tc pt so sc a1 a2 a3 a4 a5 a6 a7 a8 a9 a10 a11 a12 a13 a14 a15 a16 a17 a18 a19 a20 a21 a22 a23 a24 a25 a26 a27 a28 a29 a30 a31 a32 a33 a34 a35 := by
  have i0 : vp_in 0 5 := pk_in 0 5 (by decide)
  have hT7 : a7 (a10 (0 : Int32).toNatClampNeg).toNatClampNeg = nI R := by
    rw [sb_cl0, h10, nI_clamp (by omega)]
    exact h7
  refine br_f hw (br_f (by decide) (br_f (by decide) ?_))
  refine fz_return h28 h29 h30 h31 ?_
  refine ⟨i0, nm_r h26 ⟨i0, nm_r h27 ⟨i0, nm_e ⟨pk_in 0 4 (by decide), pk_in T 4 hT h10, br_t (by rw [hT7]; exact nI_lt hr (by omega)) ?_⟩⟩⟩⟩
  refine fz_try rfl hD hT (by omega) hq h10 h11 h12 h8 h9 k1 kq (fun h => ?_) (fun h => ?_)
  · intro bpt b23 b24 b32 hb
    exact br_f (by decide) (nm_r (e' := 1) (by decide) (br_t (by decide) (nm_e (H1 h pk_us hb))))
  · intro bpt b23 b24 b32
    exact br_t rfl (nm_e (H0 h pk_us))
/-- a solution is kept -/
theorem fz_s2 {post : St2 → Prop} {v c e d tt pg ag sg tc pt so sc : Int32} {a1 a2 a3 a4 a5 a6 a7 a8 a9 a10 a11 a12 a13 a14 a15 a16 a17 a18 a19 a20 a21 a22 a23 a25 a26 a27 a28 a29 a30 a31 a32 a33 a34 a35 : Nat → Int32} {a24 : Nat → Int64} {n : Nat} {w : Int32} {k : Nat} (hw : ¬ 20000 ≤ w) (hk : k < 6) (h32 : a32 0 = nI k)
    (H : wX_search_24 post n 0 (w + 1) v c 1 e d tt pg ag sg tc pt so sc a1 a2 a3 a4 a5 a6 a7 a8 a9 a10 a11 a12 a13 a14 a15 a16 a17 a18 a19 a20 a21 a22 a23 a24 a25 a26 a27 a28 a29 a30 a31 a32 (upd a33 k 1) a34 a35) : wX_search_24 post (n + 1) 1 w v c 1 e d tt pg ag sg tc pt so sc a1 a2 a3 a4 a5 a6 a7 a8 a9 a10 a11 a12 a13 a14 a15 a16 a17 a18 a19 a20 a21 a22 a23 a24 a25 a26 a27 a28 a29 a30 a31 a32 a33 a34 a35 :=
  br_f hw (br_f (by decide) (br_t (by decide) (fz_keep hk h32 (nm_r (e' := 0) (by decide) (nm_e H)))))
/-- no row is left -/
theorem fz_s3 {post : St2 → Prop} {v c e pg ag sg tc pt so sc : Int32} {a1 a2 a3 a4 a5 a6 a7 a8 a9 a10 a11 a12 a13 a14 a15 a16 a17 a18 a19 a20 a21 a22 a23 a25 a26 a27 a28 a29 a30 a31 a32 a33 a34 a35 : Nat → Int32} {a24 : Nat → Int64} {n : Nat} {w : Int32} {T R D : Nat} (hw : ¬ 20000 ≤ w) (hw' : ¬ 20000 ≤ w + 1) (hT : T < 4) (hR : R ≤ 6) (h7 : a7 T = nI R) (h10 : a10 0 = nI T)
    (h26 : a26 0 = 0) (h27 : a27 0 + 1 = nI R) (h28 : a28 0 = 0) (h29 : a29 0 = 1) (h30 : a30 0 = 0) (h31 : a31 0 = 0)
    (H : ∀ {x_a27 : Nat → Int32}, post (v, c, 1, e, nI D, 0, 1, 0, 0, 0, pt, so, sc, a1, a2, a3, a4, a5, a6, a7, a8, a9, a10, a11, a12, a13, a14, a15, a16, a17, a18, a19, a20, a21, a22, a23, a24, a25, a26, x_a27, a28, a29, a30, a31, a32, a33, a34, a35)) :
    wX_search_24 post (n + 2) 0 w v c 1 e (nI D) 0 pg ag sg tc pt so sc a1 a2 a3 a4 a5 a6 a7 a8 a9 a10 a11 a12 a13 a14 a15 a16 a17 a18 a19 a20 a21 a22 a23 a24 a25 a26 a27 a28 a29 a30 a31 a32 a33 a34 a35 := by
  have i0 : vp_in 0 5 := pk_in 0 5 (by decide)
  have hT7 : a7 (a10 (0 : Int32).toNatClampNeg).toNatClampNeg = nI R := by
    rw [sb_cl0, h10, nI_clamp (by omega)]
    exact h7
  refine br_f hw (br_f (by decide) (br_f (by decide) ?_))
  refine fz_return h28 h29 h30 h31 ?_
  refine ⟨i0, nm_r h26 ⟨i0, nm_r h27 ⟨i0, nm_e ⟨pk_in 0 4 (by decide), pk_in T 4 hT h10, br_f (by rw [hT7]; exact nI_nlt (Nat.le_refl R) (by omega)) ?_⟩⟩⟩⟩
  exact nm_r (e' := -1) (by decide) (nm_e (br_f hw' (br_t (by decide) H)))
/-- what the search rests on: no goal; or the goal (1, 1) over a table of one row (0, 0), cells 0 and 1 alike; or over the rows (0, 0), (1, 1), the cells unlike -/
def fz_Q (G : Nat) (k : Nat) (a6 a7 a8 a9 a10 a11 a12 a13 : Nat → Int32) : Prop :=
  (G = 0 ∧ k = 0) ∨ (G = 1 ∧ a11 0 = 1 ∧ a12 0 = 1 ∧ a13 0 = -1 ∧ ∃ T, T < 4 ∧ a10 0 = nI T ∧ a8 (6 * T + 0) = nI 0 ∧ a9 (6 * T + 0) = nI 0 ∧
    ((k = 0 ∧ a7 T = nI 1 ∧ a6 1 = a6 0) ∨ (k = 1 ∧ a7 T = nI 2 ∧ ¬ a6 1 = a6 0 ∧ a8 (6 * T + 1) = nI 1 ∧ a9 (6 * T + 1) = nI 1)))
theorem fz_search {post : St2 → Prop} {v c e pt so sc : Int32} {a1 a2 a3 a4 a5 a6 a7 a8 a9 a10 a11 a12 a13 a14 a15 a16 a17 a18 a19 a20 a21 a22 a23 a25 a26 a27 a28 a29 a30 a31 a32 a33 a34 a35 : Nat → Int32} {a24 : Nat → Int64} {G D k : Nat} (hD : D ≤ 1) (k0 : a1 0 = 0) (k1 : a1 1 = 0) (hQ : fz_Q G k a6 a7 a8 a9 a10 a11 a12 a13)
    (H : ∀ {x_tt : Int32} {x_pg : Int32} {x_ag : Int32} {x_sg : Int32} {x_tc : Int32} {x_pt : Int32} {x_a23 : Nat → Int32} {x_a24 : Nat → Int64} {x_a26 : Nat → Int32} {x_a27 : Nat → Int32} {x_a28 : Nat → Int32} {x_a29 : Nat → Int32} {x_a30 : Nat → Int32} {x_a31 : Nat → Int32} {x_a32 : Nat → Int32}, post (v, c, nI G, e, nI D, x_tt, x_pg, x_ag, x_sg, x_tc, x_pt, so, sc, a1, a2, a3, a4, a5, a6, a7, a8, a9, a10, a11, a12, a13, a14, a15, a16, a17, a18, a19, a20, a21, a22, x_a23, x_a24, a25, x_a26, x_a27, x_a28, x_a29, x_a30, x_a31, x_a32, upd a33 k 1, a34, a35)) :
    wpX_search post (v, c, nI G, e, nI D, 0, nI G, 0, 0, 0, pt, so, sc, a1, a2, a3, a4, a5, a6, a7, a8, a9, a10, a11, a12, a13, a14, a15, a16, a17, a18, a19, a20, a21, a22, a23, a24, a25, a26, a27, a28, a29, a30, a31, a32, a33, a34, a35) := by
  rcases hQ with ⟨hG, hk⟩ | ⟨hG, h11, h12, h13, T, hT, h10, h80, h90, hc⟩
  · subst hG hk
    unfold wpX_search
    exact br_t (by decide) (nm_e H)
  · subst hG
    unfold wpX_search
    refine br_f (by decide) (fz_open ?_)
    intro b26 b27 b28 b29 b30 b31 h26 h27 h28 h29 h30 h31
    rcases hc with ⟨hk, h7, he⟩ | ⟨hk, h7, he, h81, h91⟩
    · subst hk
      refine Exists.intro 4 (fz_s1 (r := 0) (q := 0) (by decide) hD hT (by decide) (by decide) (by decide) h7 h10 h11 h12 h80 h90 k1 k0 h26 (by rw [h27]; decide) h28 h29 h30 h31 (fun _ => ?_) (fun z => absurd he z))
      intro cpt c23 c24 c27 c32 e27 e32
      refine fz_s2 (k := 0) (by decide) (by decide) e32 ?_
      exact fz_s3 (R := 1) (by decide) (by decide) hT (by decide) h7 h10 h26 (by rw [e27]; decide) h28 h29 h30 h31 H
    · subst hk
      refine Exists.intro 5 (fz_s1 (r := 0) (q := 0) (by decide) hD hT (by decide) (by decide) (by decide) h7 h10 h11 h12 h80 h90 k1 k0 h26 (by rw [h27]; decide) h28 h29 h30 h31 (fun z => absurd z he) (fun _ => ?_))
      intro cpt c23 c24 c27 c32 e27
      refine fz_s1 (r := 1) (q := 1) (by decide) hD hT (by decide) (by decide) (by decide) h7 h10 h11 h12 h81 h91 k1 k1 h26 (by rw [e27]; decide) h28 h29 h30 h31 (fun _ => ?_) (fun z => absurd rfl z)
      intro dpt d23 d24 d27 d32 f27 f32
      refine fz_s2 (k := 1) (by decide) (by decide) f32 ?_
      exact fz_s3 (R := 2) (by decide) (by decide) hT (by decide) h7 h10 h26 (by rw [f27]; decide) h28 h29 h30 h31 H
end
section
/-- no code is marked -/
theorem fz_cnt0 {post : Int32 → St2 → Prop} {v c g e d tt pg ag sg tc pt so : Int32} {a1 a2 a3 a4 a5 a6 a7 a8 a9 a10 a11 a12 a13 a14 a15 a16 a17 a18 a19 a20 a21 a22 a23 a25 a26 a27 a28 a29 a30 a31 a32 a33 a34 a35 : Nat → Int32} {a24 : Nat → Int64} (hz : ∀ j, j < 1296 → a33 j = 0) (H : post 0 (v, c, g, e, d, tt, pg, ag, sg, tc, pt, 1, 0, a1, a2, a3, a4, a5, a6, a7, a8, a9, a10, a11, a12, a13, a14, a15, a16, a17, a18, a19, a20, a21, a22, a23, a24, a25, a26, a27, a28, a29, a30, a31, a32, a33, a34, a35)) :
    ∃ n, wX_solve_190 post v c g e d tt pg ag sg tc pt so n 0 0 a1 a2 a3 a4 a5 a6 a7 a8 a9 a10 a11 a12 a13 a14 a15 a16 a17 a18 a19 a20 a21 a22 a23 a24 a25 a26 a27 a28 a29 a30 a31 a32 a33 a34 a35 :=
  pk_loop (σ := Unit) (fun n i _ => wX_solve_190 post v c g e d tt pg ag sg tc pt so n (nI i) 0 a1 a2 a3 a4 a5 a6 a7 a8 a9 a10 a11 a12 a13 a14 a15 a16 a17 a18 a19 a20 a21 a22 a23 a24 a25 a26 a27 a28 a29 a30 a31 a32 a33 a34 a35) (fun _ _ => True) 1296 0 () (by omega) trivial
    (fun n _ _ => pk_le 1296 1296 (fun _ => H) (fun z => absurd z (by omega)))
    (fun n i _ hi _ hw => pk_le 1296 i (fun z => absurd z (by omega)) (fun _ => ⟨pk_in i 1296 hi, br_t (by rw [nI_clamp (by omega)]; exact hz i hi) (nm_r (nI_1 i) (hw () trivial))⟩))
/-- one code is marked -/
theorem fz_cnt1 {post : Int32 → St2 → Prop} {v c g e d tt pg ag sg tc pt so : Int32} {a1 a2 a3 a4 a5 a6 a7 a8 a9 a10 a11 a12 a13 a14 a15 a16 a17 a18 a19 a20 a21 a22 a23 a25 a26 a27 a28 a29 a30 a31 a32 a33 a34 a35 : Nat → Int32} {a24 : Nat → Int64} {k : Nat} (hk : k ≤ 1) (hz : ∀ j, j < 1296 → j ≠ k → a33 j = 0) (h1 : a33 k = 1) (H : ∀ {x_a34 : Nat → Int32}, x_a34 0 = nI k → post 1 (v, c, g, e, d, tt, pg, ag, sg, tc, pt, 1, 1, a1, a2, a3, a4, a5, a6, a7, a8, a9, a10, a11, a12, a13, a14, a15, a16, a17, a18, a19, a20, a21, a22, a23, a24, a25, a26, a27, a28, a29, a30, a31, a32, a33, x_a34, a35)) :
    ∃ n, wX_solve_190 post v c g e d tt pg ag sg tc pt so n 0 0 a1 a2 a3 a4 a5 a6 a7 a8 a9 a10 a11 a12 a13 a14 a15 a16 a17 a18 a19 a20 a21 a22 a23 a24 a25 a26 a27 a28 a29 a30 a31 a32 a33 a34 a35 := by
  refine pk_loop (σ := Int32 × (Nat → Int32)) (fun n i s => wX_solve_190 post v c g e d tt pg ag sg tc pt so n (nI i) s.1 a1 a2 a3 a4 a5 a6 a7 a8 a9 a10 a11 a12 a13 a14 a15 a16 a17 a18 a19 a20 a21 a22 a23 a24 a25 a26 a27 a28 a29 a30 a31 a32 a33 s.2 a35) (fun i s => (i ≤ k → s.1 = 0) ∧ (k < i → s.1 = 1 ∧ s.2 0 = nI k)) 1296 0 (0, a34) (by omega) ⟨fun _ => rfl, fun z => absurd z (by omega)⟩ ?_ ?_
  · intro n s h
    obtain ⟨x, b⟩ := s
    obtain ⟨e1, e2⟩ := h.2 (by omega)
    dsimp only at e1 e2
    subst e1
    exact pk_le 1296 1296 (fun _ => H e2) (fun z => absurd z (by omega))
  · intro n i s hi h hw
    obtain ⟨x, b⟩ := s
    obtain ⟨ha, hb⟩ := h
    dsimp only at ha hb
    refine pk_le 1296 i (fun z => absurd z (by omega)) (fun _ => ⟨pk_in i 1296 hi, ?_⟩)
    by_cases hik : i = k
    · have hx : x = 0 := ha (by omega)
      subst hx hik
      refine br_f (by rw [nI_clamp (by omega), h1]; decide) ⟨pk_in 0 1296 (by decide), nm_e (nm_r (e' := 1) (by rfl) (nm_r (nI_1 i) (hw (_, _) ⟨fun z => absurd z (by omega), fun _ => ⟨rfl, ?_⟩⟩)))⟩
      show upd b (0 : Int32).toNatClampNeg (nI i).toInt16.toInt32 0 = nI i
      rw [sb_cl0, pk_us]
      exact fz_b16 i (by omega)
    · refine br_t (by rw [nI_clamp (by omega)]; exact hz i hi hik) (nm_r (nI_1 i) (hw (_, _) ⟨fun z => ha (by omega), fun z => hb (by omega)⟩))
/-- the codes are cleared, the machine is prepared and run, the codes are counted -/
theorem fz_152 {post : Int32 → St2 → Prop} {v c tt pg ag sg tc pt so sc : Int32} {a1 a2 a3 a4 a5 a6 a7 a8 a9 a10 a11 a12 a13 a14 a15 a16 a17 a18 a19 a20 a21 a22 a23 a25 a26 a27 a28 a29 a30 a31 a32 a33 a34 a35 : Nat → Int32} {a24 : Nat → Int64} {G D k : Nat} (hG : G ≤ 1) (hD : D ≤ 1) (hk : k ≤ 1) (k0 : a1 0 = 0) (k1 : a1 1 = 0) (hQ : fz_Q G k a6 a7 a8 a9 a10 a11 a12 a13) (h13 : G = 1 → a13 0 = -1) (h16 : D = 1 → a16 0 = 0) (h17 : D = 1 → a17 0 = 1)
    (H1 : ¬ (D = 1 ∧ a6 0 = a6 1) → ∀ {x_tt : Int32} {x_pg : Int32} {x_ag : Int32} {x_sg : Int32} {x_tc : Int32} {x_pt : Int32} {x_a18 : Nat → Int32} {x_a19 : Nat → Int32} {x_a20 : Nat → Int32} {x_a23 : Nat → Int32} {x_a24 : Nat → Int64} {x_a26 : Nat → Int32} {x_a27 : Nat → Int32} {x_a28 : Nat → Int32} {x_a29 : Nat → Int32} {x_a30 : Nat → Int32} {x_a31 : Nat → Int32} {x_a32 : Nat → Int32} {x_a33 : Nat → Int32} {x_a34 : Nat → Int32}, x_a34 0 = nI k → post 1 (v, c, nI G, 0, nI D, x_tt, x_pg, x_ag, x_sg, x_tc, x_pt, 1, 1, a1, a2, a3, a4, a5, a6, a7, a8, a9, a10, a11, a12, a13, a14, a15, a16, a17, x_a18, x_a19, x_a20, a21, a22, x_a23, x_a24, a25, x_a26, x_a27, x_a28, x_a29, x_a30, x_a31, x_a32, x_a33, x_a34, a35))
    (H0 : D = 1 → a6 0 = a6 1 → ∀ {x_tt : Int32} {x_pg : Int32} {x_ag : Int32} {x_sg : Int32} {x_tc : Int32} {x_pt : Int32} {x_a18 : Nat → Int32} {x_a19 : Nat → Int32} {x_a20 : Nat → Int32} {x_a23 : Nat → Int32} {x_a24 : Nat → Int64} {x_a26 : Nat → Int32} {x_a27 : Nat → Int32} {x_a28 : Nat → Int32} {x_a29 : Nat → Int32} {x_a30 : Nat → Int32} {x_a31 : Nat → Int32} {x_a32 : Nat → Int32} {x_a33 : Nat → Int32} {x_a34 : Nat → Int32}, post 0 (v, c, nI G, 0, nI D, x_tt, x_pg, x_ag, x_sg, x_tc, x_pt, 1, 0, a1, a2, a3, a4, a5, a6, a7, a8, a9, a10, a11, a12, a13, a14, a15, a16, a17, x_a18, x_a19, x_a20, a21, a22, x_a23, x_a24, a25, x_a26, x_a27, x_a28, x_a29, x_a30, x_a31, x_a32, x_a33, x_a34, a35)) :
    ∃ n, wX_solve_152 post v c (nI G) 0 (nI D) tt pg ag sg tc pt so sc n 0 a1 a2 a3 a4 a5 a6 a7 a8 a9 a10 a11 a12 a13 a14 a15 a16 a17 a18 a19 a20 a21 a22 a23 a24 a25 a26 a27 a28 a29 a30 a31 a32 a33 a34 a35 := by
  refine pk_loop (fun n i s => wX_solve_152 post v c (nI G) 0 (nI D) tt pg ag sg tc pt so sc n (nI i) a1 a2 a3 a4 a5 a6 a7 a8 a9 a10 a11 a12 a13 a14 a15 a16 a17 a18 a19 a20 a21 a22 a23 a24 a25 a26 a27 a28 a29 a30 a31 a32 s a34 a35) (fun i s => ∀ j, j < i → s j = 0) 1296 0 a33 (by omega) (fun j hj => absurd hj (by omega)) ?_ ?_
  · intro n s h
    refine pk_le 1296 1296 (fun _ => ?_) (fun z => absurd z (by omega))
    refine fz_prepare hG hD h13 h16 h17 k0 k1 (fun hn => ?_) (fun e1 e2 => ?_)
    · intro bpt b18 b19 b20 b23 b24
      refine br_f (by decide) (fz_search hD k0 k1 hQ ?_)
      intro ctt cpg cag csg ctc cpt c23 c24 c26 c27 c28 c29 c30 c31 c32
      exact fz_cnt1 hk (fun j hj hjk => by rw [pk_un hjk]; exact h j hj) pk_us (fun h34 => H1 hn h34)
    · intro btt bpg bag bsg btc bpt b18 b19 b20 b23 b24
      exact br_t rfl (fz_cnt0 h (H0 e1 e2))
  · intro n i s hi h hw
    exact pk_le 1296 i (fun z => absurd z (by omega)) (fun _ => ⟨pk_in i 1296 hi, nm_e (nm_r (nI_1 i) (hw _ (fz_fill (nI_clamp (by omega)) h)))⟩)
theorem fz_99 {post : Int32 → St2 → Prop} {v c g e tt pg ag sg tc pt so sc : Int32} {a1 a2 a3 a4 a5 a6 a7 a8 a9 a10 a11 a12 a13 a14 a15 a16 a17 a18 a19 a20 a21 a22 a23 a25 a26 a27 a28 a29 a30 a31 a32 a33 a34 a35 : Nat → Int32} {a24 : Nat → Int64} {D : Nat} (hD : D ≤ 1) (h16 : D = 1 → a16 0 = 0) (h17 : D = 1 → a17 0 = 1) (i0 : a5 0 = 0) (i1 : a5 1 = 0)
    (H : ∃ n, wX_solve_152 post v c g e (nI D) tt pg ag sg tc pt so sc n 0 a1 a2 a3 a4 a5 a6 a7 a8 a9 a10 a11 a12 a13 a14 a15 a16 a17 a18 a19 a20 a21 a22 a23 a24 a25 a26 a27 a28 a29 a30 a31 a32 a33 a34 a35) : ∃ n, wX_solve_99 post 0 v c g e (nI D) tt pg ag sg tc pt so sc a1 a2 a3 a4 a5 a6 a7 a8 a9 a10 a11 a12 a13 a14 a15 a16 a17 a18 a19 a20 a21 a22 a23 a24 a25 a26 a27 a28 a29 a30 a31 a32 a33 a34 a35 n 0 0 := by
  have h : D = 0 ∨ D = 1 := by omega
  rcases h with h | h
  · subst h
    exact Exists.intro 1 (br_t (by decide) (br_t (by decide) H))
  · subst h
    have e0 : a16 (0 : Int32).toNatClampNeg = nI 0 := h16 rfl
    have e1 : a17 (0 : Int32).toNatClampNeg = nI 1 := h17 rfl
    have hv : (0 : Int32) ||| (a5 (a16 (0 : Int32).toNatClampNeg).toNatClampNeg ||| a5 (a17 (0 : Int32).toNatClampNeg).toNatClampNeg) = 0 := by
      rw [e0, e1, nI_clamp (by decide), nI_clamp (by decide), i0, i1]
      decide
    exact Exists.intro 2 (br_f (by decide) ⟨pk_in 0 6 (by decide), pk_in 0 48 (by decide) e0, pk_in 0 6 (by decide), pk_in 1 48 (by decide) e1, nm_r hv (nm_e (br_t (by decide) (br_t (by decide) H)))⟩)
theorem fz_21 {post : Int32 → St2 → Prop} {v c d tt pg ag sg tc pt so sc : Int32} {a1 a2 a3 a4 a5 a6 a7 a8 a9 a10 a11 a12 a13 a14 a15 a16 a17 a18 a19 a20 a21 a22 a23 a25 a26 a27 a28 a29 a30 a31 a32 a33 a34 a35 : Nat → Int32} {a24 : Nat → Int64} {G : Nat} (hG : G ≤ 1) (h13 : G = 1 → a13 0 = -1)
    (H : ∃ n, wX_solve_99 post 0 v c (nI G) 0 d tt pg ag sg tc pt so sc a1 a2 a3 a4 a5 a6 a7 a8 a9 a10 a11 a12 a13 a14 a15 a16 a17 a18 a19 a20 a21 a22 a23 a24 a25 a26 a27 a28 a29 a30 a31 a32 a33 a34 a35 n 0 0) : ∃ n, wX_solve_21 post 0 v c (nI G) 0 d tt pg ag sg tc pt so sc a1 a2 a3 a4 a5 a6 a7 a8 a9 a10 a11 a12 a13 a14 a15 a16 a17 a18 a19 a20 a21 a22 a23 a24 a25 a26 a27 a28 a29 a30 a31 a32 a33 a34 a35 n 0 0 := by
  have h : G = 0 ∨ G = 1 := by omega
  rcases h with h | h
  · subst h
    exact Exists.intro 1 (br_t (by decide) (Exists.intro 1 (br_t (by decide) H)))
  · subst h
    have hn : a13 (0 : Int32).toNatClampNeg < 0 := by
      rw [sb_cl0, h13 rfl]
      decide
    exact Exists.intro 2 (br_f (by decide) ⟨pk_in 0 4 (by decide), br_t hn (nm_e (br_t (by decide) (Exists.intro 1 (br_t (by decide) H))))⟩)
theorem fz_vars {post : Int32 → Prop} {v c e d tt pg ag sg tc pt so sc : Int32} {a1 a2 a3 a4 a5 a6 a7 a8 a9 a10 a11 a12 a13 a14 a15 a16 a17 a18 a19 a20 a21 a22 a23 a25 a26 a27 a28 a29 a30 a31 a32 a33 a34 a35 : Nat → Int32} {a24 : Nat → Int64} {G : Nat} (hG : G ≤ 1) (h11 : G = 1 → a11 0 = 1) (h12 : G = 1 → a12 0 = 1) (i1 : a5 1 = 0) (H : post 0) : wpX_variablesOfGoals post (v, c, nI G, e, d, tt, pg, ag, sg, tc, pt, so, sc, a1, a2, a3, a4, a5, a6, a7, a8, a9, a10, a11, a12, a13, a14, a15, a16, a17, a18, a19, a20, a21, a22, a23, a24, a25, a26, a27, a28, a29, a30, a31, a32, a33, a34, a35) := by
  have h : G = 0 ∨ G = 1 := by omega
  rcases h with h | h
  · subst h
    unfold wpX_variablesOfGoals
    exact Exists.intro 1 (br_t (by decide) H)
  · subst h
    have e0 : a11 (0 : Int32).toNatClampNeg = nI 1 := h11 rfl
    have e1 : a12 (0 : Int32).toNatClampNeg = nI 1 := h12 rfl
    have hv : (0 : Int32) ||| (a5 (a11 (0 : Int32).toNatClampNeg).toNatClampNeg ||| a5 (a12 (0 : Int32).toNatClampNeg).toNatClampNeg) = 0 := by
      rw [e0, e1, nI_clamp (by decide), i1]
      decide
    unfold wpX_variablesOfGoals
    exact Exists.intro 2 (br_f (by decide) ⟨pk_in 0 4 (by decide), pk_in 1 48 (by decide) e0, pk_in 0 4 (by decide), pk_in 1 48 (by decide) e1, nm_r hv (nm_e (br_t (by decide) H))⟩)
theorem fz_solve {post : Int32 → St2 → Prop} {v c tt pg ag sg tc pt sc : Int32} {a1 a2 a3 a4 a5 a6 a7 a8 a9 a10 a11 a12 a13 a14 a15 a16 a17 a18 a19 a20 a21 a22 a23 a25 a26 a27 a28 a29 a30 a31 a32 a33 a34 a35 : Nat → Int32} {a24 : Nat → Int64} {G D k : Nat} (hG : G ≤ 1) (hD : D ≤ 1) (hk : k ≤ 1) (k0 : a1 0 = 0) (k1 : a1 1 = 0) (i0 : a5 0 = 0) (i1 : a5 1 = 0) (hQ : fz_Q G k a6 a7 a8 a9 a10 a11 a12 a13) (h16 : D = 1 → a16 0 = 0) (h17 : D = 1 → a17 0 = 1)
    (H1 : ¬ (D = 1 ∧ a6 0 = a6 1) → ∀ {x_tt : Int32} {x_pg : Int32} {x_ag : Int32} {x_sg : Int32} {x_tc : Int32} {x_pt : Int32} {x_a18 : Nat → Int32} {x_a19 : Nat → Int32} {x_a20 : Nat → Int32} {x_a23 : Nat → Int32} {x_a24 : Nat → Int64} {x_a26 : Nat → Int32} {x_a27 : Nat → Int32} {x_a28 : Nat → Int32} {x_a29 : Nat → Int32} {x_a30 : Nat → Int32} {x_a31 : Nat → Int32} {x_a32 : Nat → Int32} {x_a33 : Nat → Int32} {x_a34 : Nat → Int32}, x_a34 0 = nI k → post 1 (v, c, nI G, 0, nI D, x_tt, x_pg, x_ag, x_sg, x_tc, x_pt, 1, 1, a1, a2, a3, a4, a5, a6, a7, a8, a9, a10, a11, a12, a13, a14, a15, a16, a17, x_a18, x_a19, x_a20, a21, a22, x_a23, x_a24, a25, x_a26, x_a27, x_a28, x_a29, x_a30, x_a31, x_a32, x_a33, x_a34, a35))
    (H0 : D = 1 → a6 0 = a6 1 → ∀ {x_tt : Int32} {x_pg : Int32} {x_ag : Int32} {x_sg : Int32} {x_tc : Int32} {x_pt : Int32} {x_a18 : Nat → Int32} {x_a19 : Nat → Int32} {x_a20 : Nat → Int32} {x_a23 : Nat → Int32} {x_a24 : Nat → Int64} {x_a26 : Nat → Int32} {x_a27 : Nat → Int32} {x_a28 : Nat → Int32} {x_a29 : Nat → Int32} {x_a30 : Nat → Int32} {x_a31 : Nat → Int32} {x_a32 : Nat → Int32} {x_a33 : Nat → Int32} {x_a34 : Nat → Int32}, post 0 (v, c, nI G, 0, nI D, x_tt, x_pg, x_ag, x_sg, x_tc, x_pt, 1, 0, a1, a2, a3, a4, a5, a6, a7, a8, a9, a10, a11, a12, a13, a14, a15, a16, a17, x_a18, x_a19, x_a20, a21, a22, x_a23, x_a24, a25, x_a26, x_a27, x_a28, x_a29, x_a30, x_a31, x_a32, x_a33, x_a34, a35)) :
    wpX_solve post (v, c, nI G, 0, nI D, tt, pg, ag, sg, tc, pt, 0, sc, a1, a2, a3, a4, a5, a6, a7, a8, a9, a10, a11, a12, a13, a14, a15, a16, a17, a18, a19, a20, a21, a22, a23, a24, a25, a26, a27, a28, a29, a30, a31, a32, a33, a34, a35) := by
  have q : G = 1 → a11 0 = 1 ∧ a12 0 = 1 ∧ a13 0 = -1 := by
    intro h
    rcases hQ with ⟨hG, _⟩ | ⟨hG, h11, h12, h13, _⟩
    · omega
    · exact ⟨h11, h12, h13⟩
  unfold wpX_solve
  exact br_t (by decide) (fz_vars hG (fun h => (q h).1) (fun h => (q h).2.1) i1 (fz_21 hG (fun h => (q h).2.2) (fz_99 hD h16 h17 i0 i1 (fz_152 hG hD hk k0 k1 hQ (fun h => (q h).2.2) h16 h17 (fun hn => H1 hn) (fun e1 e2 => H0 e1 e2)))))
end
section
theorem fz_cell {post : Int32 → Prop} {v g e d tt pg ag sg tc pt so sc : Int32} {a1 a2 a3 a4 a5 a6 a7 a8 a9 a10 a11 a12 a13 a14 a15 a16 a17 a18 a19 a20 a21 a22 a23 a25 a26 a27 a28 a29 a30 a31 a32 a33 a34 a35 : Nat → Int32} {a24 : Nat → Int64} {p : Int32} {x : Nat} (hp : p = nI x) (hx : x < 2) (H : post 1) : wpX_isCell post (v, 2, g, e, d, tt, pg, ag, sg, tc, pt, so, sc, a1, a2, a3, a4, a5, a6, a7, a8, a9, a10, a11, a12, a13, a14, a15, a16, a17, a18, a19, a20, a21, a22, a23, a24, a25, a26, a27, a28, a29, a30, a31, a32, a33, a34, a35) p := by
  subst hp
  unfold wpX_isCell
  exact br_f (nI_pos (by omega)) (pk_le 2 x (fun z => absurd z (by omega)) (fun _ => H))
/-- the first atom -/
theorem fz_atom0 {post : Int32 → St2 → Prop} {v g e d tt pg ag sg tc pt so sc : Int32} {a1 a2 a3 a4 a5 a6 a7 a8 a9 a10 a11 a12 a13 a14 a15 a16 a17 a18 a19 a20 a21 a22 a23 a25 a26 a27 a28 a29 a30 a31 a32 a33 a34 a35 : Nat → Int32} {a24 : Nat → Int64} {p : Int32} {i : Nat} (hp : p = nI i) (hi : i < 16)
    (H : ∀ {x_a1 : Nat → Int32} {x_a2 : Nat → Int32} {x_a3 : Nat → Int32} {x_a4 : Nat → Int32} {x_a5 : Nat → Int32} {x_a6 : Nat → Int32}, x_a1 0 = 0 → x_a2 0 = nI i → x_a5 0 = 0 → x_a6 0 = 0 → post 0 (v, 1, g, e, d, tt, pg, ag, sg, tc, pt, so, sc, x_a1, x_a2, x_a3, x_a4, x_a5, x_a6, a7, a8, a9, a10, a11, a12, a13, a14, a15, a16, a17, a18, a19, a20, a21, a22, a23, a24, a25, a26, a27, a28, a29, a30, a31, a32, a33, a34, a35)) : wpX_atom post (v, 0, g, e, d, tt, pg, ag, sg, tc, pt, so, sc, a1, a2, a3, a4, a5, a6, a7, a8, a9, a10, a11, a12, a13, a14, a15, a16, a17, a18, a19, a20, a21, a22, a23, a24, a25, a26, a27, a28, a29, a30, a31, a32, a33, a34, a35) p := by
  subst hp
  have i0 : vp_in 0 48 := pk_in 0 48 (by decide)
  have hb : upd a2 (0 : Int32).toNatClampNeg (nI i).toInt8.toInt32 0 = nI i := by
    rw [sb_cl0, pk_us]
    exact fz_b8 i hi
  unfold wpX_atom
  refine br_t (by decide) (br_f (nI_pos (by omega)) (br_t (nI_le (b := 15) (by omega) (by decide)) ?_))
  unfold wpX_newCell
  exact ⟨i0, nm_e ⟨i0, nm_e ⟨i0, nm_e ⟨i0, nm_e ⟨i0, nm_e ⟨i0, nm_e (Exists.intro 1 (br_t (by decide) (nm_r (e' := 1) (by decide) (H rfl hb rfl rfl))))⟩⟩⟩⟩⟩⟩
/-- the second atom: cells 0 and 1 are alike or not -/
theorem fz_atom1 {post : Int32 → St2 → Prop} {v g e d tt pg ag sg tc pt so sc : Int32} {a1 a2 a3 a4 a5 a6 a7 a8 a9 a10 a11 a12 a13 a14 a15 a16 a17 a18 a19 a20 a21 a22 a23 a25 a26 a27 a28 a29 a30 a31 a32 a33 a34 a35 : Nat → Int32} {a24 : Nat → Int64} {p : Int32} {i j : Nat} (hp : p = nI j) (hi : i < 16) (hj : j < 16) (k0 : a1 0 = 0) (f0 : a2 0 = nI i) (s0 : a5 0 = 0) (c0 : a6 0 = 0)
    (H : ∀ {x_a1 : Nat → Int32} {x_a2 : Nat → Int32} {x_a3 : Nat → Int32} {x_a4 : Nat → Int32} {x_a5 : Nat → Int32} {x_a6 : Nat → Int32}, x_a1 0 = 0 → x_a1 1 = 0 → x_a5 0 = 0 → x_a5 1 = 0 → (i = j → x_a6 0 = x_a6 1) → (i ≠ j → ¬ x_a6 0 = x_a6 1) → post 1 (v, 2, g, e, d, tt, pg, ag, sg, tc, pt, so, sc, x_a1, x_a2, x_a3, x_a4, x_a5, x_a6, a7, a8, a9, a10, a11, a12, a13, a14, a15, a16, a17, a18, a19, a20, a21, a22, a23, a24, a25, a26, a27, a28, a29, a30, a31, a32, a33, a34, a35)) : wpX_atom post (v, 1, g, e, d, tt, pg, ag, sg, tc, pt, so, sc, a1, a2, a3, a4, a5, a6, a7, a8, a9, a10, a11, a12, a13, a14, a15, a16, a17, a18, a19, a20, a21, a22, a23, a24, a25, a26, a27, a28, a29, a30, a31, a32, a33, a34, a35) p := by
  subst hp
  have i1 : vp_in 1 48 := pk_in 1 48 (by decide)
  have i0 : vp_in 0 48 := pk_in 0 48 (by decide)
  have u1 : ∀ (f : Nat → Int32) (w : Int32), upd f (1 : Int32).toNatClampNeg w (1 : Int32).toNatClampNeg = w := fun f w => pk_us
  have u0 : ∀ (f : Nat → Int32) (w : Int32), upd f (1 : Int32).toNatClampNeg w (0 : Int32).toNatClampNeg = f 0 := fun f w => pk_un (f := f) (k := 1) (j := 0) (x := w) (by decide)
  unfold wpX_atom
  refine br_t (by decide) (br_f (nI_pos (by omega)) (br_t (nI_le (b := 15) (by omega) (by decide)) ?_))
  unfold wpX_newCell
  refine ⟨i1, nm_e ⟨i1, nm_e ⟨i1, nm_e ⟨i1, nm_e ⟨i1, nm_e ⟨i1, nm_e (Exists.intro 2 (br_f (by decide) ?_))⟩⟩⟩⟩⟩⟩
  unfold wpX_sameShape
  refine ⟨i1, i0, br_t (by rw [u1, u0, k0]; decide) ⟨i1, br_f (by rw [u1]; decide) ⟨i1, i0, ?_⟩⟩⟩
  have ea : upd a2 (1 : Int32).toNatClampNeg (nI j).toInt8.toInt32 (1 : Int32).toNatClampNeg = nI j := by
    rw [u1]
    exact fz_b8 j hj
  have eb : upd a2 (1 : Int32).toNatClampNeg (nI j).toInt8.toInt32 (0 : Int32).toNatClampNeg = nI i := by
    rw [u0]
    exact f0
  by_cases hij : i = j
  · refine br_t (by rw [ea, eb, hij]) (br_f (by decide) ⟨i0, i1, nm_e (nm_r (e' := 2) (by decide) ?_)⟩)
    refine H ?_ ?_ ?_ ?_ (fun _ => ?_) (fun z => absurd hij z)
    · exact (u0 _ _).trans k0
    · exact u1 _ _
    · exact (u0 _ _).trans s0
    · exact u1 _ _
    · have t0 : ∀ (f : Nat → Int32) (w y : Int32), f 0 = 0 → y = vp_nar .byte (upd f (1 : Int32).toNatClampNeg w (0 : Int32).toNatClampNeg) → upd (upd f (1 : Int32).toNatClampNeg w) (1 : Int32).toNatClampNeg y 0 = upd (upd f (1 : Int32).toNatClampNeg w) (1 : Int32).toNatClampNeg y 1 := by
        intro f w y hf hy
        rw [u0, hf] at hy
        exact ((u0 _ _).trans ((u0 _ _).trans hf)).trans ((show (0 : Int32) = y by rw [hy]; rfl).trans (u1 _ _).symm)
      exact t0 _ _ _ c0 rfl
  · have hne : ¬ upd a2 (1 : Int32).toNatClampNeg (nI j).toInt8.toInt32 (1 : Int32).toNatClampNeg = upd a2 (1 : Int32).toNatClampNeg (nI j).toInt8.toInt32 (0 : Int32).toNatClampNeg := by
      rw [ea, eb, nI_eq (by omega) (by omega)]
      omega
    refine br_f hne (br_t rfl (nm_e (br_t (by decide) (nm_r (e' := 2) (by decide) ?_))))
    refine H ?_ ?_ ?_ ?_ (fun z => absurd z hij) (fun _ => ?_)
    · exact (u0 _ _).trans k0
    · exact u1 _ _
    · exact (u0 _ _).trans s0
    · exact u1 _ _
    · intro z
      have z' := ((u0 _ _).trans c0).symm.trans (z.trans (u1 _ _))
      exact absurd z' (by decide)
end
section
theorem fz_6 {T r : Nat} {w : Int32} (hw : w = nI r) : (6 : Int32) * nI T + w = nI (6 * T + r) := by
  rw [hw]
  exact fz_at
/-- the first row of a table -/
theorem fz_row0 {post : Int32 → St2 → Prop} {v g e d tt pg ag sg tc pt so sc : Int32} {a1 a2 a3 a4 a5 a6 a7 a8 a9 a10 a11 a12 a13 a14 a15 a16 a17 a18 a19 a20 a21 a22 a23 a25 a26 a27 a28 a29 a30 a31 a32 a33 a34 a35 : Nat → Int32} {a24 : Nat → Int64} {p : Int32} {T : Nat} (hp : p = nI T) (hT : T < 4) (s0 : a5 0 = 0) (h7 : a7 T = 0)
    (H : ∀ {x_a7 : Nat → Int32} {x_a8 : Nat → Int32} {x_a9 : Nat → Int32}, x_a7 T = nI 1 → x_a8 (6 * T + 0) = nI 0 → x_a9 (6 * T + 0) = nI 0 → post 0 (v, 2, g, e, d, tt, pg, ag, sg, tc, pt, 0, sc, a1, a2, a3, a4, a5, a6, x_a7, x_a8, x_a9, a10, a11, a12, a13, a14, a15, a16, a17, a18, a19, a20, a21, a22, a23, a24, a25, a26, a27, a28, a29, a30, a31, a32, a33, a34, a35)) : wpX_addRow post (v, 2, g, e, d, tt, pg, ag, sg, tc, pt, so, sc, a1, a2, a3, a4, a5, a6, a7, a8, a9, a10, a11, a12, a13, a14, a15, a16, a17, a18, a19, a20, a21, a22, a23, a24, a25, a26, a27, a28, a29, a30, a31, a32, a33, a34, a35) p 0 0 := by
  subst hp
  have i0 : vp_in 0 48 := pk_in 0 48 (by decide)
  have cT : (nI T).toNatClampNeg = T := nI_clamp (by omega)
  have h7' : a7 (nI T).toNatClampNeg = 0 := by
    rw [cT]
    exact h7
  have e0 : (6 : Int32) * nI T + 0 = nI (6 * T + 0) := fz_6 (r := 0) rfl
  have c0 : ((6 : Int32) * nI T + 0).toNatClampNeg = 6 * T + 0 := pk_cl _ e0
  have j0 : vp_in ((6 : Int32) * nI T + 0) 24 := pk_in (6 * T + 0) 24 (by omega) e0
  have u : ∀ (f : Nat → Int32), upd f ((6 : Int32) * nI T + 0).toNatClampNeg (0 : Int32).toInt8.toInt32 (6 * T + 0) = nI 0 := by
    intro f
    rw [c0, pk_us]
    decide
  have u7 : upd a7 (nI T).toNatClampNeg (0 + 1) T = nI 1 := by
    rw [cT, pk_us]
    decide
  unfold wpX_addRow
  refine br_f (nI_pos (by omega)) (br_t (nI_le (b := 3) (by omega) (by decide)) (fz_cell (x := 0) rfl (by decide) (br_f (by decide) (fz_cell (x := 0) rfl (by decide) (br_f (by decide) ?_)))))
  exact ⟨i0, br_t s0 ⟨i0, br_t s0 ⟨pk_in T 4 hT, nm_r h7' (br_t (by decide) (Exists.intro 1 (br_t (by decide) ⟨j0, nm_e ⟨j0, nm_e ⟨pk_in T 4 hT, nm_e (H u7 (u _) (u _))⟩⟩⟩)))⟩⟩⟩
/-- the second row: it is there already, or it is added -/
theorem fz_row1 {post : Int32 → St2 → Prop} {v g e d tt pg ag sg tc pt so sc : Int32} {a1 a2 a3 a4 a5 a6 a7 a8 a9 a10 a11 a12 a13 a14 a15 a16 a17 a18 a19 a20 a21 a22 a23 a25 a26 a27 a28 a29 a30 a31 a32 a33 a34 a35 : Nat → Int32} {a24 : Nat → Int64} {p : Int32} {T : Nat} (hp : p = nI T) (hT : T < 4) (s1 : a5 1 = 0) (h7 : a7 T = nI 1) (h8 : a8 (6 * T + 0) = nI 0) (h9 : a9 (6 * T + 0) = nI 0)
    (HE : a6 0 = a6 1 → post (-1) (v, 2, g, e, d, tt, pg, ag, sg, tc, pt, so, sc, a1, a2, a3, a4, a5, a6, a7, a8, a9, a10, a11, a12, a13, a14, a15, a16, a17, a18, a19, a20, a21, a22, a23, a24, a25, a26, a27, a28, a29, a30, a31, a32, a33, a34, a35))
    (HN : ¬ a6 0 = a6 1 → ∀ {x_a7 : Nat → Int32} {x_a8 : Nat → Int32} {x_a9 : Nat → Int32}, x_a7 T = nI 2 → x_a8 (6 * T + 0) = nI 0 → x_a9 (6 * T + 0) = nI 0 → x_a8 (6 * T + 1) = nI 1 → x_a9 (6 * T + 1) = nI 1 → post 1 (v, 2, g, e, d, tt, pg, ag, sg, tc, pt, 0, sc, a1, a2, a3, a4, a5, a6, x_a7, x_a8, x_a9, a10, a11, a12, a13, a14, a15, a16, a17, a18, a19, a20, a21, a22, a23, a24, a25, a26, a27, a28, a29, a30, a31, a32, a33, a34, a35)) : wpX_addRow post (v, 2, g, e, d, tt, pg, ag, sg, tc, pt, so, sc, a1, a2, a3, a4, a5, a6, a7, a8, a9, a10, a11, a12, a13, a14, a15, a16, a17, a18, a19, a20, a21, a22, a23, a24, a25, a26, a27, a28, a29, a30, a31, a32, a33, a34, a35) p 1 1 := by
  subst hp
  have i1 : vp_in 1 48 := pk_in 1 48 (by decide)
  have cT : (nI T).toNatClampNeg = T := nI_clamp (by omega)
  have h7' : a7 (nI T).toNatClampNeg = 1 := by
    rw [cT]
    exact h7
  have e0 : (6 : Int32) * nI T + 0 = nI (6 * T + 0) := fz_6 (r := 0) rfl
  have e1 : (6 : Int32) * nI T + 1 = nI (6 * T + 1) := fz_6 (r := 1) rfl
  have c1 : ((6 : Int32) * nI T + 1).toNatClampNeg = 6 * T + 1 := pk_cl _ e1
  have j1 : vp_in ((6 : Int32) * nI T + 1) 24 := pk_in (6 * T + 1) 24 (by omega) e1
  have k0 : vp_in (nI (6 * T + 0)) 24 := pk_in (6 * T + 0) 24 (by omega)
  have g8 : a8 (nI (6 * T + 0)).toNatClampNeg = nI 0 := by
    rw [nI_clamp (by omega)]
    exact h8
  have g9 : a9 (nI (6 * T + 0)).toNatClampNeg = nI 0 := by
    rw [nI_clamp (by omega)]
    exact h9
  have u : ∀ (f : Nat → Int32), upd f ((6 : Int32) * nI T + 1).toNatClampNeg (1 : Int32).toInt8.toInt32 (6 * T + 1) = nI 1 := by
    intro f
    rw [c1, pk_us]
    decide
  have u' : ∀ (f : Nat → Int32), f (6 * T + 0) = nI 0 → upd f ((6 : Int32) * nI T + 1).toNatClampNeg (1 : Int32).toInt8.toInt32 (6 * T + 0) = nI 0 := by
    intro f hf
    rw [c1, pk_un (by omega)]
    exact hf
  have u7 : upd a7 (nI T).toNatClampNeg (1 + 1) T = nI 2 := by
    rw [cT, pk_us]
    decide
  unfold wpX_addRow
  refine br_f (nI_pos (by omega)) (br_t (nI_le (b := 3) (by omega) (by decide)) (fz_cell (x := 1) rfl (by decide) (br_f (by decide) (fz_cell (x := 1) rfl (by decide) (br_f (by decide) ?_)))))
  refine ⟨i1, br_t s1 ⟨i1, br_t s1 ⟨pk_in T 4 hT, nm_r h7' (br_t (by decide) (Exists.intro 2 (br_f (by decide) (nm_r e0 ⟨k0, pk_in 0 48 (by decide) g8, i1, ?_⟩))))⟩⟩⟩
  by_cases h : a6 0 = a6 1
  · exact br_t (by rw [g8]; exact h) ⟨k0, pk_in 0 48 (by decide) g9, i1, br_t (by rw [g9]; exact h) (HE h)⟩
  · exact br_f (by rw [g8]; exact h) (nm_e (br_t (by decide) ⟨j1, nm_e ⟨j1, nm_e ⟨pk_in T 4 hT, nm_e (HN h u7 (u' _ h8) (u' _ h9) (u _) (u _))⟩⟩⟩))
theorem fz_nl {p : Int32} (h : 3 < p) : ¬ p ≤ 3 := by
  rw [Int32.not_le]
  exact h
theorem fz_p0 {p : Int32} (h : 3 < p) : ¬ p < 0 := by
  intro z
  have h1 := Int32.lt_iff_toInt_lt.mp h
  have h2 := Int32.lt_iff_toInt_lt.mp z
  rw [show (3 : Int32).toInt = 3 from by decide] at h1
  rw [show (0 : Int32).toInt = 0 from by decide] at h2
  omega
/-- no such table -/
theorem fz_rowN {post : Int32 → St2 → Prop} {v c g e d tt pg ag sg tc pt so sc : Int32} {a1 a2 a3 a4 a5 a6 a7 a8 a9 a10 a11 a12 a13 a14 a15 a16 a17 a18 a19 a20 a21 a22 a23 a25 a26 a27 a28 a29 a30 a31 a32 a33 a34 a35 : Nat → Int32} {a24 : Nat → Int64} {p x y : Int32} (hp : p < 0 ∨ 3 < p) (H : post (-1) (v, c, g, e, d, tt, pg, ag, sg, tc, pt, so, sc, a1, a2, a3, a4, a5, a6, a7, a8, a9, a10, a11, a12, a13, a14, a15, a16, a17, a18, a19, a20, a21, a22, a23, a24, a25, a26, a27, a28, a29, a30, a31, a32, a33, a34, a35)) : wpX_addRow post (v, c, g, e, d, tt, pg, ag, sg, tc, pt, so, sc, a1, a2, a3, a4, a5, a6, a7, a8, a9, a10, a11, a12, a13, a14, a15, a16, a17, a18, a19, a20, a21, a22, a23, a24, a25, a26, a27, a28, a29, a30, a31, a32, a33, a34, a35) p x y := by
  unfold wpX_addRow
  rcases hp with h | h
  · exact br_t h H
  · exact br_f (fz_p0 h) (br_f (fz_nl h) H)
theorem fz_goalN {post : Int32 → St2 → Prop} {v c g e d tt pg ag sg tc pt so sc : Int32} {a1 a2 a3 a4 a5 a6 a7 a8 a9 a10 a11 a12 a13 a14 a15 a16 a17 a18 a19 a20 a21 a22 a23 a25 a26 a27 a28 a29 a30 a31 a32 a33 a34 a35 : Nat → Int32} {a24 : Nat → Int64} {p x y : Int32} (hp : p < 0 ∨ 3 < p) (H : post (-1) (v, c, g, e, d, tt, pg, ag, sg, tc, pt, so, sc, a1, a2, a3, a4, a5, a6, a7, a8, a9, a10, a11, a12, a13, a14, a15, a16, a17, a18, a19, a20, a21, a22, a23, a24, a25, a26, a27, a28, a29, a30, a31, a32, a33, a34, a35)) : wpX_goal post (v, c, g, e, d, tt, pg, ag, sg, tc, pt, so, sc, a1, a2, a3, a4, a5, a6, a7, a8, a9, a10, a11, a12, a13, a14, a15, a16, a17, a18, a19, a20, a21, a22, a23, a24, a25, a26, a27, a28, a29, a30, a31, a32, a33, a34, a35) p x y := by
  unfold wpX_goal
  rcases hp with h | h
  · exact br_t h H
  · exact br_f (fz_p0 h) (br_t h H)
theorem fz_goal {post : Int32 → St2 → Prop} {v e d tt pg ag sg tc pt so sc : Int32} {a1 a2 a3 a4 a5 a6 a7 a8 a9 a10 a11 a12 a13 a14 a15 a16 a17 a18 a19 a20 a21 a22 a23 a25 a26 a27 a28 a29 a30 a31 a32 a33 a34 a35 : Nat → Int32} {a24 : Nat → Int64} {p : Int32} {T : Nat} (hp : p = nI T) (hT : T < 4)
    (H : ∀ {x_a10 : Nat → Int32} {x_a11 : Nat → Int32} {x_a12 : Nat → Int32} {x_a13 : Nat → Int32}, x_a10 0 = nI T → x_a11 0 = 1 → x_a12 0 = 1 → x_a13 0 = -1 → post 0 (v, 2, 1, e, d, tt, pg, ag, sg, tc, pt, 0, sc, a1, a2, a3, a4, a5, a6, a7, a8, a9, x_a10, x_a11, x_a12, x_a13, a14, a15, a16, a17, a18, a19, a20, a21, a22, a23, a24, a25, a26, a27, a28, a29, a30, a31, a32, a33, a34, a35)) : wpX_goal post (v, 2, 0, e, d, tt, pg, ag, sg, tc, pt, so, sc, a1, a2, a3, a4, a5, a6, a7, a8, a9, a10, a11, a12, a13, a14, a15, a16, a17, a18, a19, a20, a21, a22, a23, a24, a25, a26, a27, a28, a29, a30, a31, a32, a33, a34, a35) p 1 1 := by
  subst hp
  have i0 : vp_in 0 4 := pk_in 0 4 (by decide)
  have u : upd a10 (0 : Int32).toNatClampNeg (nI T).toInt8.toInt32 0 = nI T := by
    rw [sb_cl0, pk_us]
    exact fz_b8 T (by omega)
  have u1 : ∀ f : Nat → Int32, upd f (0 : Int32).toNatClampNeg (1 : Int32).toInt8.toInt32 0 = 1 := by
    intro f
    rw [sb_cl0, pk_us]
    decide
  have u2 : ∀ f : Nat → Int32, upd f (0 : Int32).toNatClampNeg (-1 : Int32).toInt8.toInt32 0 = -1 := by
    intro f
    rw [sb_cl0, pk_us]
    decide
  unfold wpX_goal
  refine br_f (nI_pos (by omega)) (br_f (nI_nlt (a := 3) (b := T) (by omega) (by omega)) ?_)
  refine fz_cell (x := 1) rfl (by decide) (br_f (by decide) (fz_cell (x := 1) rfl (by decide) (br_f (by decide) ?_)))
  unfold wpX_addGoal
  exact br_t (by decide) ⟨i0, nm_e ⟨i0, nm_e ⟨i0, nm_e ⟨i0, nm_e (nm_r (e' := 1) (by decide) (H u (u1 _) (u1 _) (u2 _)))⟩⟩⟩⟩
theorem fz_differ {post : Int32 → St2 → Prop} {v g e tt pg ag sg tc pt so sc : Int32} {a1 a2 a3 a4 a5 a6 a7 a8 a9 a10 a11 a12 a13 a14 a15 a16 a17 a18 a19 a20 a21 a22 a23 a25 a26 a27 a28 a29 a30 a31 a32 a33 a34 a35 : Nat → Int32} {a24 : Nat → Int64}
    (H : ∀ {x_a16 : Nat → Int32} {x_a17 : Nat → Int32}, x_a16 0 = 0 → x_a17 0 = 1 → post 1 (v, 2, g, e, 1, tt, pg, ag, sg, tc, pt, 0, sc, a1, a2, a3, a4, a5, a6, a7, a8, a9, a10, a11, a12, a13, a14, a15, x_a16, x_a17, a18, a19, a20, a21, a22, a23, a24, a25, a26, a27, a28, a29, a30, a31, a32, a33, a34, a35)) : wpX_differ post (v, 2, g, e, 0, tt, pg, ag, sg, tc, pt, so, sc, a1, a2, a3, a4, a5, a6, a7, a8, a9, a10, a11, a12, a13, a14, a15, a16, a17, a18, a19, a20, a21, a22, a23, a24, a25, a26, a27, a28, a29, a30, a31, a32, a33, a34, a35) 0 1 := by
  have i0 : vp_in 0 6 := pk_in 0 6 (by decide)
  have u0 : upd a16 (0 : Int32).toNatClampNeg (0 : Int32).toInt8.toInt32 0 = 0 := by
    rw [sb_cl0, pk_us]
    decide
  have u1 : upd a17 (0 : Int32).toNatClampNeg (1 : Int32).toInt8.toInt32 0 = 1 := by
    rw [sb_cl0, pk_us]
    decide
  unfold wpX_differ
  refine fz_cell (x := 0) rfl (by decide) (br_f (by decide) (fz_cell (x := 1) rfl (by decide) (br_f (by decide) ?_)))
  exact br_t (by decide) ⟨i0, nm_e ⟨i0, nm_e (nm_r (e' := 1) (by decide) (H u0 u1))⟩⟩
theorem fz_rowOf0 {post : Int32 → Prop} {v c g e d tt pg ag sg tc pt sc : Int32} {a1 a2 a3 a4 a5 a6 a7 a8 a9 a10 a11 a12 a13 a14 a15 a16 a17 a18 a19 a20 a21 a22 a23 a25 a26 a27 a28 a29 a30 a31 a32 a33 a34 a35 : Nat → Int32} {a24 : Nat → Int64} {x y : Int32} (H : post (-4)) : wpX_rowOf post (v, c, g, e, d, tt, pg, ag, sg, tc, pt, 0, sc, a1, a2, a3, a4, a5, a6, a7, a8, a9, a10, a11, a12, a13, a14, a15, a16, a17, a18, a19, a20, a21, a22, a23, a24, a25, a26, a27, a28, a29, a30, a31, a32, a33, a34, a35) x y := by
  unfold wpX_rowOf
  exact br_t rfl H
theorem fz_rowOf1 {post : Int32 → Prop} {v c e d tt pg ag sg tc pt : Int32} {a1 a2 a3 a4 a5 a6 a7 a8 a9 a10 a11 a12 a13 a14 a15 a16 a17 a18 a19 a20 a21 a22 a23 a25 a26 a27 a28 a29 a30 a31 a32 a33 a34 a35 : Nat → Int32} {a24 : Nat → Int64} {G k : Nat} (hG : G ≤ 1) (hk : k ≤ 1) (h34 : a34 0 = nI k) (H0 : G = 0 → post (-1)) (H1 : G = 1 → post (nI k)) : wpX_rowOf post (v, c, nI G, e, d, tt, pg, ag, sg, tc, pt, 1, 1, a1, a2, a3, a4, a5, a6, a7, a8, a9, a10, a11, a12, a13, a14, a15, a16, a17, a18, a19, a20, a21, a22, a23, a24, a25, a26, a27, a28, a29, a30, a31, a32, a33, a34, a35) 0 0 := by
  unfold wpX_rowOf
  refine br_f (by decide) (br_f (by decide) (br_t (by decide) (br_f (by decide) ?_)))
  have h : G = 0 ∨ G = 1 := by omega
  rcases h with h | h
  · subst h
    exact br_f (by decide) (H0 rfl)
  · subst h
    have h34' : a34 (0 : Int32).toNatClampNeg = nI k := h34
    refine br_t (by decide) ⟨pk_in 0 1296 (by decide), ?_⟩
    rw [h34']
    unfold wpX_rowInCode
    have hr : nI k - nI k / 6 * 6 = nI k := by
      have t := pk_rem (a := k) (d := 6) (by omega) (by omega) (by omega)
      rw [Nat.mod_eq_of_lt (by omega)] at t
      exact t
    refine nm_r (e' := 0) (by decide) (Exists.intro 1 (br_t (by decide) ⟨by decide, ?_⟩))
    rw [hr]
    exact H1 rfl
end
section
/-- the second run: behind the disequality of cells 0 and 1 -/
theorem fz_193 {post : Int32 → St0 → Prop} {v tt pg ag sg tc pt so sc : Int32} {a1 a2 a3 a4 a5 a6 a7 a8 a9 a10 a11 a12 a13 a14 a15 a16 a17 a18 a19 a20 a21 a22 a23 a25 a26 a27 a28 a29 a30 a31 a32 a33 a34 a35 : Nat → Int32} {a24 : Nat → Int64} {mc ms kc ks : Nat} {x4 z0 z1 : Int32} {G k : Nat} (hz : z1 = z0) (hG : G ≤ 1) (hk : k ≤ 1) (k0 : a1 0 = 0) (k1 : a1 1 = 0) (i0 : a5 0 = 0) (i1 : a5 1 = 0) (hQ : fz_Q G k a6 a7 a8 a9 a10 a11 a12 a13)
    (hx : (x4 = 0 ∧ ¬ a6 0 = a6 1) ∨ (x4 = 1 ∧ a6 0 = a6 1)) (H : post 1 ()) : wL_lawOf_193 post mc ms x4 z0 z1 kc ks v 2 (nI G) 0 0 tt pg ag sg tc pt so sc a1 a2 a3 a4 a5 a6 a7 a8 a9 a10 a11 a12 a13 a14 a15 a16 a17 a18 a19 a20 a21 a22 a23 a24 a25 a26 a27 a28 a29 a30 a31 a32 a33 a34 a35 := by
  unfold wL_lawOf_193
  refine br_t hz (fz_differ ?_)
  intro b16 b17 h16 h17
  refine br_t rfl (fz_solve (D := 1) hG (by decide) hk k0 k1 i0 i1 hQ (fun _ => h16) (fun _ => h17) (fun hn => ?_) (fun _ he => ?_))
  · intro _ _ _ _ _ _ _ _ _ _ _ _ _ _ _ _ _ _ _ _ _
    rcases hx with ⟨hx, h⟩ | ⟨hx, h⟩
    · exact br_t hx (br_t rfl H)
    · exact absurd ⟨rfl, h⟩ hn
  · intro _ _ _ _ _ _ _ _ _ _ _ _ _ _ _ _ _ _ _ _
    rcases hx with ⟨hx, h⟩ | ⟨hx, h⟩
    · exact absurd he h
    · exact br_f (by rw [hx]; decide) (br_t rfl H)
/-- behind the goal: the first run -/
theorem fz_138 {post : Int32 → St0 → Prop} {v tt pg ag sg tc pt sc : Int32} {a1 a2 a3 a4 a5 a6 a7 a8 a9 a10 a11 a12 a13 a14 a15 a16 a17 a18 a19 a20 a21 a22 a23 a25 a26 a27 a28 a29 a30 a31 a32 a33 a34 a35 : Nat → Int32} {a24 : Nat → Int64} {mc ms kc ks : Nat} {x3 x4 z0 z1 : Int32} {G k : Nat} (hz : z1 = z0) (hG : G ≤ 1) (hk : k ≤ 1) (k0 : a1 0 = 0) (k1 : a1 1 = 0) (i0 : a5 0 = 0) (i1 : a5 1 = 0) (hQ : fz_Q G k a6 a7 a8 a9 a10 a11 a12 a13)
    (h3 : x3 = nI G) (h4 : G = 1 → x4 = 0 → k = 1) (h4' : G = 1 → x4 = 1 → k = 0) (hx : (x4 = 0 ∧ ¬ a6 0 = a6 1) ∨ (x4 = 1 ∧ a6 0 = a6 1)) (H : post 1 ()) : wL_lawOf_138 post mc ms x3 x4 z0 z1 kc ks v 2 (nI G) 0 0 tt pg ag sg tc pt 0 sc a1 a2 a3 a4 a5 a6 a7 a8 a9 a10 a11 a12 a13 a14 a15 a16 a17 a18 a19 a20 a21 a22 a23 a24 a25 a26 a27 a28 a29 a30 a31 a32 a33 a34 a35 := by
  unfold wL_lawOf_138
  refine br_t hz (fz_rowOf0 (br_t rfl ?_))
  refine fz_solve (D := 0) hG (by decide) hk k0 k1 i0 i1 hQ (fun z => absurd z (by decide)) (fun z => absurd z (by decide)) (fun hn => ?_) (fun z _ => absurd z (by decide))
  intro _ _ _ _ _ _ _ _ _ _ _ _ _ _ _ _ _ _ _ b34 h34
  refine br_t rfl (fz_rowOf1 hG hk h34 (fun g0 => ?_) (fun g1 => ?_))
  · exact br_t (by rw [h3, g0]; rfl) (fz_193 rfl hG hk k0 k1 i0 i1 hQ hx H)
  · refine br_f (by rw [h3, g1]; decide) ?_
    rcases hx with ⟨h0, h⟩ | ⟨h0, h⟩
    · exact br_t h0 (fz_193 (by rw [h4 g1 h0]; rfl) hG hk k0 k1 i0 i1 hQ (Or.inl ⟨h0, h⟩) H)
    · exact br_f (by rw [h0]; decide) (fz_193 (by rw [h4' g1 h0]; rfl) hG hk k0 k1 i0 i1 hQ (Or.inr ⟨h0, h⟩) H)
/-- no such table -/
theorem fz_89N {post : Int32 → St0 → Prop} {v tt pg ag sg tc pt sc : Int32} {a1 a2 a3 a4 a5 a6 a7 a8 a9 a10 a11 a12 a13 a14 a15 a16 a17 a18 a19 a20 a21 a22 a23 a25 a26 a27 a28 a29 a30 a31 a32 a33 a34 a35 : Nat → Int32} {a24 : Nat → Int64} {mc ms kc ks : Nat} {x2 x4 : Int32} (h2 : x2 < 0 ∨ 3 < x2) (k0 : a1 0 = 0) (k1 : a1 1 = 0) (i0 : a5 0 = 0) (i1 : a5 1 = 0)
    (hx : (x4 = 0 ∧ ¬ a6 0 = a6 1) ∨ (x4 = 1 ∧ a6 0 = a6 1)) (H : post 1 ()) : wL_lawOf_89 post mc ms x2 0 x4 (-1) (-1) kc ks v 2 0 0 0 tt pg ag sg tc pt 0 sc a1 a2 a3 a4 a5 a6 a7 a8 a9 a10 a11 a12 a13 a14 a15 a16 a17 a18 a19 a20 a21 a22 a23 a24 a25 a26 a27 a28 a29 a30 a31 a32 a33 a34 a35 := by
  unfold wL_lawOf_89
  refine br_t rfl (fz_rowN h2 (br_t rfl ?_))
  unfold wL_lawOf_115 wL_lawOf_116
  exact br_t rfl (fz_goalN h2 (br_t rfl (fz_138 (G := 0) (k := 0) rfl (by decide) (by decide) k0 k1 i0 i1 (Or.inl ⟨rfl, rfl⟩) rfl (fun z => absurd z (by decide)) (fun z => absurd z (by decide)) hx H)))
/-- the table T has its first row -/
theorem fz_89T {post : Int32 → St0 → Prop} {v tt pg ag sg tc pt sc : Int32} {a1 a2 a3 a4 a5 a6 a7 a8 a9 a10 a11 a12 a13 a14 a15 a16 a17 a18 a19 a20 a21 a22 a23 a25 a26 a27 a28 a29 a30 a31 a32 a33 a34 a35 : Nat → Int32} {a24 : Nat → Int64} {mc ms kc ks : Nat} {x2 x4 : Int32} {T : Nat} (h2 : x2 = nI T) (hT : T < 4) (k0 : a1 0 = 0) (k1 : a1 1 = 0) (i0 : a5 0 = 0) (i1 : a5 1 = 0) (h7 : a7 T = nI 1) (h8 : a8 (6 * T + 0) = nI 0) (h9 : a9 (6 * T + 0) = nI 0)
    (hx : (x4 = 0 ∧ ¬ a6 0 = a6 1) ∨ (x4 = 1 ∧ a6 0 = a6 1)) (H : post 1 ()) : wL_lawOf_89 post mc ms x2 1 x4 0 0 kc ks v 2 0 0 0 tt pg ag sg tc pt 0 sc a1 a2 a3 a4 a5 a6 a7 a8 a9 a10 a11 a12 a13 a14 a15 a16 a17 a18 a19 a20 a21 a22 a23 a24 a25 a26 a27 a28 a29 a30 a31 a32 a33 a34 a35 := by
  unfold wL_lawOf_89
  refine br_t rfl (fz_row1 h2 hT i1 h7 h8 h9 (fun he => ?_) (fun he => ?_))
  · have h4 : x4 = 1 := by
      rcases hx with ⟨_, h⟩ | ⟨h, _⟩
      · exact absurd he h
      · exact h
    refine br_f (by decide) (br_f (by rw [h4]; decide) ?_)
    unfold wL_lawOf_115 wL_lawOf_116
    refine br_t rfl (fz_goal h2 hT ?_)
    intro b10 b11 b12 b13 h10 h11 h12 h13
    exact br_f (by decide) (fz_138 (G := 1) (k := 0) rfl (by decide) (by decide) k0 k1 i0 i1 (Or.inr ⟨rfl, h11, h12, h13, T, hT, h10, h8, h9, Or.inl ⟨rfl, h7, he.symm⟩⟩) rfl (fun _ z => absurd (h4.symm.trans z) (by decide)) (fun _ _ => rfl) hx H)
  · intro b7 b8 b9 g7 g8 g9 g8' g9'
    have h4 : x4 = 0 := by
      rcases hx with ⟨h, _⟩ | ⟨_, h⟩
      · exact h
      · exact absurd h he
    refine br_f (by decide) (br_t h4 ?_)
    unfold wL_lawOf_116
    refine br_t rfl (fz_goal h2 hT ?_)
    intro b10 b11 b12 b13 h10 h11 h12 h13
    exact br_f (by decide) (fz_138 (G := 1) (k := 1) rfl (by decide) (by decide) k0 k1 i0 i1 (Or.inr ⟨rfl, h11, h12, h13, T, hT, h10, g8, g9, Or.inr ⟨rfl, g7, fun z => he z.symm, g8', g9'⟩⟩) rfl (fun _ _ => rfl) (fun _ z => absurd (h4.symm.trans z) (by decide)) hx H)
theorem fz_init {post : St2 → Prop} (H : post (1, 0, 0, 0, 0, 0, 0, 0, 0, 0, 0, 0, 0, (fun _ => 0), (fun _ => 0), (fun _ => 0), (fun _ => 0), (fun _ => 0), (fun _ => 0), (fun _ => 0), (fun _ => 0), (fun _ => 0), (fun _ => 0), (fun _ => 0), (fun _ => 0), (fun _ => 0), (fun _ => 0), (fun _ => 0), (fun _ => 0), (fun _ => 0), (fun _ => 0), (fun _ => 0), (fun _ => 0), (fun _ => 0), (fun _ => 0), (fun _ => 0), (fun _ => 0), (fun _ => 0), (fun _ => 0), (fun _ => 0), (fun _ => 0), (fun _ => 0), (fun _ => 0), (fun _ => 0), (fun _ => 0), (fun _ => 0), (fun _ => 0), (fun _ => 0))) : wpX_init post 35 6454 (0, 0, 0, 0, 0, 0, 0, 0, 0, 0, 0, 0, 0) 1 := by
  unfold wpX_init
  refine ⟨by decide, by decide, by decide, by decide, by decide, by decide, by decide, by decide, by decide, by decide, by decide, by decide, by decide, by decide, by decide, by decide, by decide, by decide, by decide, by decide, by decide, by decide, by decide, by decide, by decide, by decide, by decide, by decide, by decide, by decide, by decide, by decide, by decide, by decide, by decide, by decide, by decide, by decide, by decide, by decide, by decide, by decide, by decide, by decide, by decide, by decide, by decide, by decide, by decide, by decide, by decide, by decide, by decide, by decide, by decide, by decide, by decide, by decide, by decide, by decide, by decide, by decide, by decide, by decide, by decide, by decide, by decide, by decide, by decide, by decide, br_t (by decide) (br_t (by decide) H)⟩
theorem fz_31 {post : Int32 → St0 → Prop} {x0 x1 x2 x3 x4 : Int32} (h4 : (x4 = 0 ∧ ¬ (x0 &&& 15) = (x1 &&& 15)) ∨ (x4 = 1 ∧ (x0 &&& 15) = (x1 &&& 15)))
    (h3 : (x3 = 0 ∧ (x2 < 0 ∨ 3 < x2)) ∨ (x3 = 1 ∧ ∃ T : Nat, T < 4 ∧ x2 = nI T)) (H : post 1 ()) : wL_lawOf_31 post 1798 28768 x0 x1 x2 x3 x4 0 0 := by
  obtain ⟨i, hi, ei⟩ := pk_andE x0 (m := 15) 4 (by decide)
  obtain ⟨j, hj, ej⟩ := pk_andE x1 (m := 15) 4 (by decide)
  unfold wL_lawOf_31
  refine ⟨by decide, by decide, 35, 6454, by decide, by decide, fz_init ?_⟩
  refine fz_atom0 ei hi ?_
  intro b1 b2 b3 b4 b5 b6 p1 p2 p5 p6
  refine br_t rfl (fz_atom1 ej hi hj p1 p2 p5 p6 ?_)
  intro c1 c2 c3 c4 c5 c6 k0 k1 i0 i1 q1 q2
  have hx : (x4 = 0 ∧ ¬ c6 0 = c6 1) ∨ (x4 = 1 ∧ c6 0 = c6 1) := by
    rcases h4 with ⟨h, e⟩ | ⟨h, e⟩
    · refine Or.inl ⟨h, q2 (fun z => e ?_)⟩
      rw [ei, ej, z]
    · refine Or.inr ⟨h, q1 ?_⟩
      rw [ei, ej] at e
      exact (nI_eq (by omega) (by omega)).mp e
  refine br_t rfl ?_
  rcases h3 with ⟨h3, h2⟩ | ⟨h3, T, hT, h2⟩
  · subst h3
    exact fz_rowN h2 (br_t rfl (fz_89N h2 k0 k1 i0 i1 hx H))
  · subst h3
    refine fz_row0 h2 hT i0 rfl ?_
    intro b7 b8 b9 g7 g8 g9
    exact br_f (by decide) (fz_89T h2 hT k0 k1 i0 i1 g7 g8 g9 hx H)
theorem fz_14 {post : Int32 → St0 → Prop} {x0 x1 x2 x3 : Int32} (h3 : (x3 = 0 ∧ (x2 < 0 ∨ 3 < x2)) ∨ (x3 = 1 ∧ ∃ T : Nat, T < 4 ∧ x2 = nI T)) (H : post 1 ()) : wL_lawOf_14 post 1798 28768 x0 x1 x2 x3 0 0 := by
  unfold wL_lawOf_14
  exact br_c (fun h => fz_31 (Or.inr ⟨rfl, h⟩) h3 H) (fun h => fz_31 (Or.inl ⟨rfl, h⟩) h3 H)
theorem fz_lawOf {post : Int32 → St0 → Prop} {u : St0} {x0 x1 x2 : Int32} (H : post 1 ()) : wpL_lawOf post 1798 28768 u x0 x1 x2 := by
  unfold wpL_lawOf
  refine br_c (fun h => ?_) (fun h => br_c (fun h' => ?_) (fun h' => ?_))
  · exact fz_14 (Or.inl ⟨rfl, Or.inl h⟩) H
  · exact fz_14 (Or.inl ⟨rfl, Or.inr h'⟩) H
  · obtain ⟨T, hT, e⟩ := nI_of2 (x := x2) (M := 3) (n := 3) (by decide) h (Int32.not_lt.mp h')
    exact fz_14 (Or.inr ⟨rfl, T, by omega, e⟩) H
theorem fz_cellAt {post : Int32 → Prop} {L : Nat} {xs : Nat → Int32} {u : St0} (hL : L ≤ 3) {p : Int32} {i : Nat} (hp : p = nI i) (hi : i < 3) (H : ∀ x, post x) : wpL_cellAt post L xs u p := by
  subst hp
  unfold wpL_cellAt
  exact pk_le L i (fun _ => H 0) (fun z => ⟨pk_in i L z, H _⟩)
theorem i_vc (xs : Nat → Int32) (L : Nat) (hL : L ≤ 3) : wpL_law (fun r => r = 1) L xs := by
  unfold wpL_law
  refine fz_cellAt hL (i := 0) rfl (by decide) (fun x0 => fz_cellAt hL (i := 1) rfl (by decide) (fun x1 => fz_cellAt hL (i := 2) rfl (by decide) (fun x2 => ?_)))
  exact ⟨1798, 28768, by decide, by decide, fz_lawOf rfl⟩
end
