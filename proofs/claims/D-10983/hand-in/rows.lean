section
/-- bit b of x is set, as the code asks for it -/
abbrev ws_bit (x : Int32) (b : Nat) : Prop := ((x >>> (nI b &&& 31)) &&& 1) = 1
theorem ws_i0 (v : Nat) : (3 : Int32) * nI v = nI (3 * v) := by
  show nI 3 * nI v = _
  rw [pk_mul]
theorem ws_i1 (v b : Nat) : (3 : Int32) * nI v + nI b = nI (3 * v + b) := by
  show nI 3 * nI v + nI b = _
  simp only [pk_mul, nI_add]
theorem ws_i2 (u v a b : Nat) : ((((6 : Int32) * nI u) + nI v) * 9 + 3 * nI a) + nI b = nI ((6 * u + v) * 9 + 3 * a + b) := by
  show (((nI 6 * nI u) + nI v) * nI 9 + nI 3 * nI a) + nI b = _
  simp only [pk_mul, nI_add]
theorem ws_i3 (e w b : Nat) : (((18 : Int32) * nI e) + 3 * nI w) + nI b = nI (18 * e + 3 * w + b) := by
  show ((nI 18 * nI e) + nI 3 * nI w) + nI b = _
  simp only [pk_mul, nI_add]
theorem ws_i4 (e w b : Nat) : ((((18 : Int32) * nI e) + 18) + 3 * nI w) + nI b = nI (18 * e + 18 + 3 * w + b) := by
  show (((nI 18 * nI e) + nI 18) + nI 3 * nI w) + nI b = _
  simp only [pk_mul, nI_add]
theorem ws_fill {f s : Nat → Int32} {i k : Nat} {x : Int32} (hk : k = i) (h : ∀ j, j < i → s j = f j) (hx : x = f i) : ∀ j, j < i + 1 → upd s k x j = f j := by
  intro j hj
  rw [hk]
  by_cases e : j = i
  · rw [e, pk_us, hx]
  · rw [pk_un e]
    exact h j (by omega)
/-- the same for a relation -/
theorem ws_fillR {P : Nat → Int32 → Prop} {s : Nat → Int32} {i k : Nat} {x : Int32} (hk : k = i) (h : ∀ j, j < i → P j (s j)) (hx : P i x) : ∀ j, j < i + 1 → P j (upd s k x j) := by
  intro j hj
  rw [hk]
  by_cases e : j = i
  · rw [e, pk_us]
    exact hx
  · rw [pk_un e]
    exact h j (by omega)
/-- a row o .. of which the first i places are done -/
theorem ws_put {s : Nat → Int32} {o i D : Nat} {p q : Nat → Nat} (h : ∀ b, b < D → s (o + b) = nI (if b < i then p b else q b)) :
    ∀ b, b < D → upd s (o + i) (nI (p i)) (o + b) = nI (if b < i + 1 then p b else q b) := by
  intro b hb
  by_cases e : b = i
  · rw [e, pk_us, if_pos (by omega)]
  · rw [pk_un (by omega), h b hb]
    by_cases z : b < i
    · rw [if_pos z, if_pos (by omega)]
    · rw [if_neg z, if_neg (by omega)]
theorem ws_full {D : Nat} (hD : D = 2 ∨ D = 3) : ((1 : Int32) <<< (nI D &&& 31)) - 1 = nI (2 ^ D - 1) := by
  rcases hD with h | h
  · rw [h]; decide
  · rw [h]; decide
theorem ws_cell {P : Int32 → Prop} {u v a b : Nat} (h : P (nI ((6 * u + v) * 9 + 3 * a + b))) : wpX_cell P () (nI u) (nI v) (nI a) (nI b) := by
  unfold wpX_cell
  rw [ws_i2]
  exact h
/-- m is the least of g 0 .. g (D - 1) -/
def ws_mn (g : Nat → Nat) (D m : Nat) : Prop := (∀ b, b < D → m ≤ g b) ∧ ∃ b, b < D ∧ g b = m
theorem ws_mn_u {g : Nat → Nat} {D m m' : Nat} (h : ws_mn g D m) (h' : ws_mn g D m') : m = m' := by
  obtain ⟨h1, b, hb, e⟩ := h
  obtain ⟨h1', b', hb', e'⟩ := h'
  have := h1 b' hb'
  have := h1' b hb
  omega
theorem ws_mn_1 (g : Nat → Nat) : ws_mn g 1 (g 0) := by
  refine ⟨fun b hb => ?_, 0, by omega, rfl⟩
  have e : b = 0 := by omega
  rw [e]
  exact Nat.le_refl _
theorem ws_mn_k {g : Nat → Nat} {i m : Nat} (h : ws_mn g i m) (z : m ≤ g i) : ws_mn g (i + 1) m := by
  obtain ⟨h1, b, hb, e⟩ := h
  refine ⟨fun c hc => ?_, b, by omega, e⟩
  by_cases ec : c = i
  · rw [ec]; exact z
  · exact h1 c (by omega)
theorem ws_mn_n {g : Nat → Nat} {i m : Nat} (h : ws_mn g i m) (z : g i < m) : ws_mn g (i + 1) (g i) := by
  obtain ⟨h1, b, hb, e⟩ := h
  refine ⟨fun c hc => ?_, i, by omega, rfl⟩
  by_cases ec : c = i
  · rw [ec]; exact Nat.le_refl _
  · have := h1 c (by omega)
    omega
theorem ws_mn_B {g : Nat → Nat} {i m B : Nat} (h : ws_mn g i m) (hB : ∀ b, b < i → g b ≤ B) : m ≤ B := by
  obtain ⟨h1, b, hb, e⟩ := h
  have := hB b hb
  omega
theorem ws_mn_0 {D : Nat} (hD : 0 < D) : ws_mn (fun _ => 0) D 0 := ⟨fun _ _ => Nat.le_refl _, 0, hD, rfl⟩
theorem ws_mn_c {D : Nat} (hD : 0 < D) (m : Nat) : ws_mn (fun _ => m) D m := ⟨fun _ _ => Nat.le_refl _, 0, hD, rfl⟩
end
section
theorem ws_init131 {post : St2 → Prop} {mc ms kc ks : Nat} {gn gf gc ga go gg gl gh gw gx : Int32} {a1 a2 a3 a4 a5 a6 a7 a8 a9 a10 : Nat → Int32} {D : Nat} (hD : D = 2 ∨ D = 3)
    (H : ∀ s, (∀ k, k < 6 → s k = nI (2 ^ D - 1)) → post (gn, nI D, gf, gc, ga, go, gg, gl, gh, gw, gx, a1, a2, s, a4, a5, a6, a7, a8, a9, a10)) :
    ∃ fu, wX_init_131 post mc ms kc ks gn (nI D) gf gc ga go gg gl gh gw gx fu 0 a1 a2 a3 a4 a5 a6 a7 a8 a9 a10 :=
  pk_loop (fun n i s => wX_init_131 post mc ms kc ks gn (nI D) gf gc ga go gg gl gh gw gx n (nI i) a1 a2 s a4 a5 a6 a7 a8 a9 a10) (fun i s => ∀ k, k < i → s k = nI (2 ^ D - 1)) 6 0 a3 (by omega) (fun k hk => absurd hk (by omega))
    (fun n s h => pk_le 6 6 (fun _ => H s h) (fun z => absurd z (by omega)))
    (fun n i s hi h hw => pk_le 6 i (fun z => absurd z (by omega)) (fun _ => ⟨pk_in i 6 hi, nm_e (nm_r (nI_1 i) (hw _ (ws_fill (f := fun _ => nI (2 ^ D - 1)) (nI_clamp (by omega)) h (ws_full hD))))⟩))
theorem ws_open {post : St2 → Prop} {gd gf gc ga go gg gl gh gw gx : Int32} {a1 a2 a3 a4 a5 a6 a7 a8 a9 a10 : Nat → Int32} {N : Nat} (hN : N ≤ 6)
    (H : ∀ s, (∀ k, k < N → s k = a3 k) → post (nI N, gd, gf, gc, ga, go, gg, gl, gh, gw, gx, a1, a2, a3, s, a5, a6, a7, a8, a9, a10)) : wpX_openMasks post (nI N, gd, gf, gc, ga, go, gg, gl, gh, gw, gx, a1, a2, a3, a4, a5, a6, a7, a8, a9, a10) :=
  pk_loop (fun n i s => wX_openMasks_2 post (nI N) gd gf gc ga go gg gl gh gw gx n (nI i) a1 a2 a3 s a5 a6 a7 a8 a9 a10) (fun i s => ∀ k, k < i → s k = a3 k) N 0 a4 (by omega) (fun k hk => absurd hk (by omega))
    (fun n s h => pk_le N N (fun _ => H s h) (fun z => absurd z (by omega)))
    (fun n i s hi h hw => pk_le N i (fun z => absurd z (by omega)) (fun _ => ⟨pk_in i 6 (by omega), pk_in i 6 (by omega), nm_e (nm_r (nI_1 i) (hw _ (ws_fill (nI_clamp (by omega)) h (by rw [nI_clamp (by omega)]))))⟩))
theorem ws_sink56 {post : St2 → Prop} {gn gf gc ga go gg gl gh gw gx : Int32} {a1 a2 a3 a4 a5 a6 a7 a8 a9 a10 : Nat → Int32} {D v m : Nat} {g : Nat → Nat} (hD : D ≤ 3) (hv : v < 6)
    (hg : ∀ b, b < D → a5 (3 * v + b) = nI (g b)) (hm : ∀ b, b < D → m ≤ g b)
    (H : ∀ s, (∀ b, b < D → s (3 * v + b) = nI (g b - m)) → (∀ w b, b < 3 → w ≠ v → s (3 * w + b) = a5 (3 * w + b)) → post (gn, nI D, gf + nI m, gc, ga, go, gg, gl, gh, gw, gx, a1, a2, a3, a4, s, a6, a7, a8, a9, a10)) :
    ∃ fu, wX_sink_56 post (nI v) (nI m) gn (nI D) gf gc ga go gg gl gh gw gx fu 0 a1 a2 a3 a4 a5 a6 a7 a8 a9 a10 :=
  pk_loop (fun n i s => wX_sink_56 post (nI v) (nI m) gn (nI D) gf gc ga go gg gl gh gw gx n (nI i) a1 a2 a3 a4 s a6 a7 a8 a9 a10)
    (fun i s => (∀ b, b < D → s (3 * v + b) = nI (if b < i then g b - m else g b)) ∧ (∀ w b, b < 3 → w ≠ v → s (3 * w + b) = a5 (3 * w + b))) D 0 a5 (by omega)
    ⟨fun b hb => by rw [if_neg (by omega)]; exact hg b hb, fun _ _ _ _ => rfl⟩
    (fun n s h => pk_le D D (fun _ => nm_e (H s (fun b hb => by rw [h.1 b hb, if_pos hb]) h.2)) (fun z => absurd z (by omega)))
    (fun n i s hi h hw => pk_le D i (fun z => absurd z (by omega)) (fun _ => ⟨pk_in (3 * v + i) 18 (by omega) (ws_i1 v i), pk_in (3 * v + i) 18 (by omega) (ws_i1 v i),
      nm_r (e' := upd s (3 * v + i) (nI (g i - m))) (by rw [ws_i1, nI_clamp (by omega), h.1 i hi, if_neg (by omega), pk_sub (hm i hi)])
        (nm_r (nI_1 i) (hw _ ⟨ws_put (p := fun b => g b - m) h.1, fun w b hb hne => by rw [pk_un (by omega)]; exact h.2 w b hb hne⟩))⟩))
theorem ws_sink11 {post : St2 → Prop} {gn gf gc ga go gg gl gh gw gx : Int32} {a1 a2 a3 a4 a5 a6 a7 a8 a9 a10 : Nat → Int32} {D v m : Nat} {g : Nat → Nat} (hD0 : 1 ≤ D) (hD : D ≤ 3) (hv : v < 6)
    (hg : ∀ b, b < D → a5 (3 * v + b) = nI (g b)) (hB : ∀ b, b < D → g b ≤ 2000000) (hm : ws_mn g D m)
    (H : ∃ fu, wX_sink_56 post (nI v) (nI m) gn (nI D) gf gc ga go gg gl gh gw gx fu 0 a1 a2 a3 a4 a5 a6 a7 a8 a9 a10) :
    ∃ fu, wX_sink_11 post (nI v) gn (nI D) gf gc ga go gg gl gh gw gx a1 a2 a3 a4 a5 a6 a7 a8 a9 a10 fu (nI (g 0)) 1 :=
  pk_loop (fun n i y => wX_sink_11 post (nI v) gn (nI D) gf gc ga go gg gl gh gw gx a1 a2 a3 a4 a5 a6 a7 a8 a9 a10 n (nI y) (nI i)) (fun i y => ws_mn g i y) D 1 (g 0) hD0 (ws_mn_1 g)
    (fun n y h => pk_le D D (fun _ => by rw [ws_mn_u h hm]; exact H) (fun z => absurd z (by omega)))
    (fun n i y hi h hw => by
      have hy : y ≤ 2000000 := ws_mn_B h (fun b hb => hB b (by omega))
      have hgi : g i ≤ 2000000 := hB i hi
      have e : a5 ((3 : Int32) * nI v + nI i).toNatClampNeg = nI (g i) := by rw [ws_i1, nI_clamp (by omega)]; exact hg i hi
      exact pk_le D i (fun z => absurd z (by omega)) (fun _ => ⟨pk_in (3 * v + i) 18 (by omega) (ws_i1 v i),
        pk_le y (g i) (fun z => nm_r (nI_1 i) (hw y (ws_mn_k h z))) (fun z => ⟨pk_in (3 * v + i) 18 (by omega) (ws_i1 v i), nm_r e (nm_r (nI_1 i) (hw (g i) (ws_mn_n h z)))⟩) rfl e⟩))
theorem ws_sink {post : St2 → Prop} {gn gf gc ga go gg gl gh gw gx : Int32} {a1 a2 a3 a4 a5 a6 a7 a8 a9 a10 : Nat → Int32} {D v m : Nat} {ff : Int32} {g : Nat → Nat} (hD0 : 1 ≤ D) (hD : D ≤ 3) (hv : v < 6)
    (hg : ∀ b, b < D → a5 (3 * v + b) = nI (g b)) (hB : ∀ b, b < D → g b ≤ 2000000) (hm : ws_mn g D m) (hff : gf + nI m = ff)
    (H : ∀ s, (∀ b, b < D → s (3 * v + b) = nI (g b - m)) → (∀ w b, b < 3 → w ≠ v → s (3 * w + b) = a5 (3 * w + b)) → post (gn, nI D, ff, gc, ga, go, gg, gl, gh, gw, gx, a1, a2, a3, a4, s, a6, a7, a8, a9, a10)) :
    wpX_sink post (gn, nI D, gf, gc, ga, go, gg, gl, gh, gw, gx, a1, a2, a3, a4, a5, a6, a7, a8, a9, a10) (nI v) :=
  ⟨pk_in (3 * v) 18 (by omega) (ws_i0 v), nm_r (by rw [ws_i0, nI_clamp (by omega)]; exact hg 0 (by omega)) (ws_sink11 hD0 hD hv hg hB hm (ws_sink56 hD hv hg hm.1 (fun s h1 h2 => by rw [hff]; exact H s h1 h2)))⟩
end
section
theorem ws_cell0 {P : Int32 → Prop} {u v a : Nat} (h : P (nI ((6 * u + v) * 9 + 3 * a))) : wpX_cell P () (nI u) (nI v) (nI a) 0 := ws_cell (b := 0) h
theorem ws_low81 {post : St2 → Prop} {J2 : Int32 → (Nat → Int32) → (Nat → Int32) → (Nat → Int32) → (Nat → Int32) → (Nat → Int32) → (Nat → Int32) → (Nat → Int32) → (Nat → Int32) → (Nat → Int32) → (Nat → Int32) → Prop} {gn gf gc ga go gg gl gh gw gx : Int32} {a1 a2 a3 a4 a5 a6 a7 a8 a9 a10 : Nat → Int32} {D u a o m fv : Nat} {x2 : Int32} {g : Nat → Nat} (hD : D ≤ 3) (hu : u < 6) (ha : a < 3) (ho : o + D ≤ 324)
    (hg : ∀ b, b < D → a6 (o + b) = nI (g b)) (hm : ∀ b, b < D → m ≤ g b) (hf : a5 (3 * u + a) = nI fv)
    (H : ∀ s, (∀ b, b < D → s (o + b) = nI (g b - m)) → (∀ k, k < o ∨ o + D ≤ k → s k = a6 k) → J2 (nI (a + 1)) a1 a2 a3 a4 (upd a5 (3 * u + a) (nI (fv + m))) s a7 a8 a9 a10) :
    ∃ fu, wX_lower_81 post J2 (nI u) x2 (nI a) (nI o) (nI m) gn (nI D) gf gc ga go gg gl gh gw gx fu 0 a1 a2 a3 a4 a5 a6 a7 a8 a9 a10 :=
  pk_loop (fun n i s => wX_lower_81 post J2 (nI u) x2 (nI a) (nI o) (nI m) gn (nI D) gf gc ga go gg gl gh gw gx n (nI i) a1 a2 a3 a4 a5 s a7 a8 a9 a10)
    (fun i s => (∀ b, b < D → s (o + b) = nI (if b < i then g b - m else g b)) ∧ (∀ k, k < o ∨ o + D ≤ k → s k = a6 k)) D 0 a6 (by omega)
    ⟨fun b hb => by rw [if_neg (by omega)]; exact hg b hb, fun _ _ => rfl⟩
    (fun n s h => pk_le D D (fun _ => ⟨pk_in (3 * u + a) 18 (by omega) (ws_i1 u a), pk_in (3 * u + a) 18 (by omega) (ws_i1 u a),
       nm_r (e' := upd a5 (3 * u + a) (nI (fv + m))) (by rw [ws_i1, nI_clamp (by omega), hf, nI_add]) (nm_r (nI_1 a) (H s (fun b hb => by rw [h.1 b hb, if_pos hb]) h.2))⟩) (fun z => absurd z (by omega)))
    (fun n i s hi h hw => pk_le D i (fun z => absurd z (by omega)) (fun _ => ⟨pk_in (o + i) 324 (by omega) (nI_add o i), pk_in (o + i) 324 (by omega) (nI_add o i),
      nm_r (e' := upd s (o + i) (nI (g i - m))) (by rw [nI_add, nI_clamp (by omega), h.1 i hi, if_neg (by omega), pk_sub (hm i hi)])
        (nm_r (nI_1 i) (hw _ ⟨ws_put (p := fun b => g b - m) h.1, fun k hk => by rw [pk_un (by omega)]; exact h.2 k hk⟩))⟩))
theorem ws_low31 {post : St2 → Prop} {J2 : Int32 → (Nat → Int32) → (Nat → Int32) → (Nat → Int32) → (Nat → Int32) → (Nat → Int32) → (Nat → Int32) → (Nat → Int32) → (Nat → Int32) → (Nat → Int32) → (Nat → Int32) → Prop} {gn gf gc ga go gg gl gh gw gx : Int32} {a1 a2 a3 a4 a5 a6 a7 a8 a9 a10 : Nat → Int32} {D o m : Nat} {x1 x2 x3 : Int32} {g : Nat → Nat} (hD0 : 1 ≤ D) (hD : D ≤ 3) (ho : o + D ≤ 324)
    (hg : ∀ b, b < D → a6 (o + b) = nI (g b)) (hB : ∀ b, b < D → g b ≤ 2000000) (hm : ws_mn g D m)
    (H : ∃ fu, wX_lower_81 post J2 x1 x2 x3 (nI o) (nI m) gn (nI D) gf gc ga go gg gl gh gw gx fu 0 a1 a2 a3 a4 a5 a6 a7 a8 a9 a10) :
    ∃ fu, wX_lower_31 post J2 x1 x2 x3 (nI o) gn (nI D) gf gc ga go gg gl gh gw gx a1 a2 a3 a4 a5 a6 a7 a8 a9 a10 fu (nI (g 0)) 1 :=
  pk_loop (fun n i y => wX_lower_31 post J2 x1 x2 x3 (nI o) gn (nI D) gf gc ga go gg gl gh gw gx a1 a2 a3 a4 a5 a6 a7 a8 a9 a10 n (nI y) (nI i)) (fun i y => ws_mn g i y) D 1 (g 0) hD0 (ws_mn_1 g)
    (fun n y h => pk_le D D (fun _ => by rw [ws_mn_u h hm]; exact H) (fun z => absurd z (by omega)))
    (fun n i y hi h hw => by
      have hy : y ≤ 2000000 := ws_mn_B h (fun b hb => hB b (by omega))
      have hgi : g i ≤ 2000000 := hB i hi
      have e : a6 (nI o + nI i).toNatClampNeg = nI (g i) := by rw [nI_add, nI_clamp (by omega)]; exact hg i hi
      exact pk_le D i (fun z => absurd z (by omega)) (fun _ => ⟨pk_in (o + i) 324 (by omega) (nI_add o i),
        pk_le y (g i) (fun z => nm_r (nI_1 i) (hw y (ws_mn_k h z))) (fun z => ⟨pk_in (o + i) 324 (by omega) (nI_add o i), nm_r e (nm_r (nI_1 i) (hw (g i) (ws_mn_n h z)))⟩) rfl e⟩))
theorem ws_lower {post : St2 → Prop} {gn gf gc ga go gg gl gh gw gx : Int32} {a1 a2 a3 a4 a5 a6 a7 a8 a9 a10 : Nat → Int32} {D u v m : Nat} {f g : Nat → Nat} (hD0 : 1 ≤ D) (hD : D ≤ 3) (hu : u < 6) (hv : v < 6)
    (hg : ∀ a b, a < D → b < D → a6 ((6 * u + v) * 9 + 3 * a + b) = nI (g b)) (hB : ∀ b, b < D → g b ≤ 2000000) (hm : ws_mn g D m)
    (hf : ∀ a, a < D → a5 (3 * u + a) = nI (f a))
    (H : ∀ s t, (∀ a, a < D → s (3 * u + a) = nI (f a + m)) → (∀ w b, b < 3 → w ≠ u → s (3 * w + b) = a5 (3 * w + b)) →
      (∀ a b, a < D → b < D → t ((6 * u + v) * 9 + 3 * a + b) = nI (g b - m)) →
      (∀ u' v' a b, v' < 6 → a < 3 → b < 3 → ¬ (u' = u ∧ v' = v) → t ((6 * u' + v') * 9 + 3 * a + b) = a6 ((6 * u' + v') * 9 + 3 * a + b)) → post (gn, nI D, gf, gc, ga, go, gg, gl, gh, gw, gx, a1, a2, a3, a4, s, t, a7, a8, a9, a10)) :
    wpX_lower post (gn, nI D, gf, gc, ga, go, gg, gl, gh, gw, gx, a1, a2, a3, a4, a5, a6, a7, a8, a9, a10) (nI u) (nI v) :=
  pk_loop (σ := (Nat → Int32) × (Nat → Int32)) (fun n i s => wX_lower_2 post (nI u) (nI v) gn (nI D) gf gc ga go gg gl gh gw gx n (nI i) a1 a2 a3 a4 s.1 s.2 a7 a8 a9 a10)
    (fun i s => (∀ a, a < D → s.1 (3 * u + a) = nI (if a < i then f a + m else f a)) ∧ (∀ w b, b < 3 → w ≠ u → s.1 (3 * w + b) = a5 (3 * w + b)) ∧
      (∀ a b, a < D → b < D → s.2 ((6 * u + v) * 9 + 3 * a + b) = nI (if a < i then g b - m else g b)) ∧
      (∀ u' v' a b, v' < 6 → a < 3 → b < 3 → ¬ (u' = u ∧ v' = v) → s.2 ((6 * u' + v') * 9 + 3 * a + b) = a6 ((6 * u' + v') * 9 + 3 * a + b))) D 0 (a5, a6) (by omega)
    ⟨fun a ha => by rw [if_neg (by omega)]; exact hf a ha, fun _ _ _ _ => rfl, fun a b ha hb => by rw [if_neg (by omega)]; exact hg a b ha hb, fun _ _ _ _ _ _ _ _ => rfl⟩
    (fun n s h => pk_le D D (fun _ => H s.1 s.2 (fun a ha => by rw [h.1 a ha, if_pos ha]) h.2.1 (fun a b ha hb => by rw [h.2.2.1 a b ha hb, if_pos ha]) h.2.2.2) (fun z => absurd z (by omega)))
    (fun n i s hi h hw => by
      obtain ⟨h1, h2, h3, h4⟩ := h
      have e0 : s.2 ((6 * u + v) * 9 + 3 * i) = nI (g 0) := by
        have := h3 i 0 hi (by omega)
        rw [if_neg (by omega)] at this
        exact this
      have e1 : ∀ b, b < D → s.2 ((6 * u + v) * 9 + 3 * i + b) = nI (g b) := by
        intro b hb
        have := h3 i b hi hb
        rw [if_neg (by omega)] at this
        exact this
      have e2 : s.1 (3 * u + i) = nI (f i) := by
        have := h1 i hi
        rw [if_neg (by omega)] at this
        exact this
      refine pk_le D i (fun z => absurd z (by omega)) (fun _ => ws_cell0 ⟨pk_in ((6 * u + v) * 9 + 3 * i) 324 (by omega), nm_r (e' := nI (g 0)) (by rw [nI_clamp (by omega)]; exact e0)
        (ws_low31 hD0 hD (by omega) e1 hB hm (ws_low81 (fv := f i) hD hu (by omega) (by omega) e1 hm.1 e2 (fun t k1 k2 => hw (upd s.1 (3 * u + i) (nI (f i + m)), t) ⟨?_, ?_, ?_, ?_⟩)))⟩)
      · exact ws_put (p := fun a => f a + m) h1
      · intro w b hb hw'
        show upd s.1 (3 * u + i) (nI (f i + m)) (3 * w + b) = _
        rw [pk_un (by omega)]
        exact h2 w b hb hw'
      · intro a b ha hb
        show t ((6 * u + v) * 9 + 3 * a + b) = _
        by_cases ea : a = i
        · rw [ea, if_pos (by omega)]
          exact k1 b hb
        · rw [k2 _ (by omega), h3 a b ha hb]
          by_cases z : a < i
          · rw [if_pos z, if_pos (by omega)]
          · rw [if_neg z, if_neg (by omega)]
      · intro u' v' a b hv' ha hb hne
        show t ((6 * u' + v') * 9 + 3 * a + b) = _
        rw [k2 _ (by omega)]
        exact h4 u' v' a b hv' ha hb hne)
theorem ws_rai25 {post : St2 → Prop} {J2 : Int32 → (Nat → Int32) → (Nat → Int32) → (Nat → Int32) → (Nat → Int32) → (Nat → Int32) → (Nat → Int32) → (Nat → Int32) → (Nat → Int32) → (Nat → Int32) → (Nat → Int32) → Prop} {gn gf gc ga go gg gl gh gw gx : Int32} {a1 a2 a3 a4 a5 a6 a7 a8 a9 a10 : Nat → Int32} {D u v b m : Nat} (hD : D ≤ 3) (hu : u < 6) (hv : v < 6) (hb : b < 3)
    (hg : ∀ a, a < D → a6 ((6 * u + v) * 9 + 3 * a + b) = nI 0)
    (H : ∀ t, (∀ a, a < D → t ((6 * u + v) * 9 + 3 * a + b) = nI m) → (∀ k, (∀ a, a < D → k ≠ (6 * u + v) * 9 + 3 * a + b) → t k = a6 k) → J2 (nI (b + 1)) a1 a2 a3 a4 (upd a5 (3 * v + b) (nI 0)) t a7 a8 a9 a10) :
    ∃ fu, wX_raise_25 post J2 (nI u) (nI v) (nI b) (nI m) gn (nI D) gf gc ga go gg gl gh gw gx fu 0 a1 a2 a3 a4 a5 a6 a7 a8 a9 a10 :=
  pk_loop (fun n i t => wX_raise_25 post J2 (nI u) (nI v) (nI b) (nI m) gn (nI D) gf gc ga go gg gl gh gw gx n (nI i) a1 a2 a3 a4 a5 t a7 a8 a9 a10)
    (fun i t => (∀ a, a < D → t ((6 * u + v) * 9 + 3 * a + b) = nI (if a < i then m else 0)) ∧ (∀ k, (∀ a, a < D → k ≠ (6 * u + v) * 9 + 3 * a + b) → t k = a6 k)) D 0 a6 (by omega)
    ⟨fun a ha => by rw [if_neg (by omega)]; exact hg a ha, fun _ _ => rfl⟩
    (fun n t h => pk_le D D (fun _ => ⟨pk_in (3 * v + b) 18 (by omega) (ws_i1 v b),
       nm_r (e' := upd a5 (3 * v + b) (nI 0)) (by rw [ws_i1, nI_clamp (by omega)]; rfl) (nm_r (nI_1 b) (H t (fun a ha => by rw [h.1 a ha, if_pos ha]) h.2))⟩) (fun z => absurd z (by omega)))
    (fun n i t hi h hw => by
      have e : t ((6 * u + v) * 9 + 3 * i + b) = nI 0 := by
        have := h.1 i hi
        rw [if_neg (by omega)] at this
        exact this
      refine pk_le D i (fun z => absurd z (by omega)) (fun _ => ⟨pk_in ((6 * u + v) * 9 + 3 * i + b) 324 (by omega) (ws_i2 u v i b), pk_in ((6 * u + v) * 9 + 3 * i + b) 324 (by omega) (ws_i2 u v i b),
        nm_r (e' := upd t ((6 * u + v) * 9 + 3 * i + b) (nI m)) (by rw [ws_i2, nI_clamp (by omega), e, nI_add, Nat.zero_add])
          (nm_r (nI_1 i) (hw _ ⟨fun a ha => ?_, fun k hk => ?_⟩))⟩)
      · by_cases ea : a = i
        · rw [ea, pk_us, if_pos (by omega)]
        · rw [pk_un (by omega), h.1 a ha]
          by_cases z : a < i
          · rw [if_pos z, if_pos (by omega)]
          · rw [if_neg z, if_neg (by omega)]
      · rw [pk_un (hk i hi)]
        exact h.2 k hk)
theorem ws_raise {post : St2 → Prop} {gn gf gc ga go gg gl gh gw gx : Int32} {a1 a2 a3 a4 a5 a6 a7 a8 a9 a10 : Nat → Int32} {D u v : Nat} {g : Nat → Nat} (hD : D ≤ 3) (hu : u < 6) (hv : v < 6)
    (hz : ∀ a b, a < D → b < D → a6 ((6 * u + v) * 9 + 3 * a + b) = nI 0) (hg : ∀ b, b < D → a5 (3 * v + b) = nI (g b))
    (H : ∀ s t, (∀ b, b < D → s (3 * v + b) = nI 0) → (∀ w b, b < 3 → w ≠ v → s (3 * w + b) = a5 (3 * w + b)) →
      (∀ a b, a < D → b < D → t ((6 * u + v) * 9 + 3 * a + b) = nI (g b)) →
      (∀ u' v' a b, v' < 6 → a < 3 → b < 3 → ¬ (u' = u ∧ v' = v) → t ((6 * u' + v') * 9 + 3 * a + b) = a6 ((6 * u' + v') * 9 + 3 * a + b)) → post (gn, nI D, gf, gc, ga, go, gg, gl, gh, gw, gx, a1, a2, a3, a4, s, t, a7, a8, a9, a10)) :
    wpX_raise post (gn, nI D, gf, gc, ga, go, gg, gl, gh, gw, gx, a1, a2, a3, a4, a5, a6, a7, a8, a9, a10) (nI u) (nI v) :=
  pk_loop (σ := (Nat → Int32) × (Nat → Int32)) (fun n i s => wX_raise_2 post (nI u) (nI v) gn (nI D) gf gc ga go gg gl gh gw gx n (nI i) a1 a2 a3 a4 s.1 s.2 a7 a8 a9 a10)
    (fun i s => (∀ b, b < D → s.1 (3 * v + b) = nI (if b < i then 0 else g b)) ∧ (∀ w b, b < 3 → w ≠ v → s.1 (3 * w + b) = a5 (3 * w + b)) ∧
      (∀ a b, a < D → b < D → s.2 ((6 * u + v) * 9 + 3 * a + b) = nI (if b < i then g b else 0)) ∧
      (∀ u' v' a b, v' < 6 → a < 3 → b < 3 → ¬ (u' = u ∧ v' = v) → s.2 ((6 * u' + v') * 9 + 3 * a + b) = a6 ((6 * u' + v') * 9 + 3 * a + b))) D 0 (a5, a6) (by omega)
    ⟨fun b hb => by rw [if_neg (by omega)]; exact hg b hb, fun _ _ _ _ => rfl, fun a b ha hb => by rw [if_neg (by omega)]; exact hz a b ha hb, fun _ _ _ _ _ _ _ _ => rfl⟩
    (fun n s h => pk_le D D (fun _ => H s.1 s.2 (fun b hb => by rw [h.1 b hb, if_pos hb]) h.2.1 (fun a b ha hb => by rw [h.2.2.1 a b ha hb, if_pos hb]) h.2.2.2) (fun z => absurd z (by omega)))
    (fun n i s hi h hw => by
      obtain ⟨h1, h2, h3, h4⟩ := h
      have e1 : ∀ a, a < D → s.2 ((6 * u + v) * 9 + 3 * a + i) = nI 0 := by
        intro a ha
        have := h3 a i ha hi
        rw [if_neg (by omega)] at this
        exact this
      have e2 : s.1 (3 * v + i) = nI (g i) := by
        have := h1 i hi
        rw [if_neg (by omega)] at this
        exact this
      refine pk_le D i (fun z => absurd z (by omega)) (fun _ => ⟨pk_in (3 * v + i) 18 (by omega) (ws_i1 v i), nm_r (e' := nI (g i)) (by rw [ws_i1, nI_clamp (by omega)]; exact e2)
        (ws_rai25 hD hu hv (by omega) e1 (fun t k1 k2 => hw (upd s.1 (3 * v + i) (nI 0), t) ⟨?_, ?_, ?_, ?_⟩))⟩)
      · exact ws_put (p := fun _ => 0) h1
      · intro w b hb hw'
        show upd s.1 (3 * v + i) (nI 0) (3 * w + b) = _
        rw [pk_un (by omega)]
        exact h2 w b hb hw'
      · intro a b ha hb
        show t ((6 * u + v) * 9 + 3 * a + b) = _
        by_cases eb : b = i
        · rw [eb, if_pos (by omega)]
          exact k1 a ha
        · rw [k2 _ (fun a' ha' => by omega), h3 a b ha hb]
          by_cases z : b < i
          · rw [if_pos z, if_pos (by omega)]
          · rw [if_neg z, if_neg (by omega)]
      · intro u' v' a b hv' ha hb hne
        show t ((6 * u' + v') * 9 + 3 * a + b) = _
        rw [k2 _ (fun a' ha' => by omega)]
        exact h4 u' v' a b hv' ha hb hne)
end
section
/-- the single costs while variable v is next: v0 is the one variable with costs S, m their least -/
def ws_s5 (S : Nat → Nat) (v0 m v w b : Nat) : Nat := if v0 ≤ v then (if w = v0 then S b else 0) else (if w = v then m else 0)
/-- the pair costs while variable v is next -/
def ws_s6 (S : Nat → Nat) (v0 m v u w b : Nat) : Nat := if v < v0 ∧ w = v0 ∧ u + 1 = v0 then S b - m else 0
def ws_pic (S : Nat → Nat) (v0 m N D v : Nat) (a5 a6 : Nat → Int32) : Prop :=
  (∀ w b, w < N → b < D → a5 (3 * w + b) = nI (ws_s5 S v0 m v w b)) ∧
  (∀ u w a b, u < w → w < N → a < D → b < D → a6 ((6 * u + w) * 9 + 3 * a + b) = nI (ws_s6 S v0 m v u w b))
/-- where the inner loop stands: u is next; q is the picture's number, e what is moved on -/
def ws_at (v0 m vv u q e : Nat) : Prop := (u = vv ∧ q = vv + 1 ∧ ((v0 < vv + 1 ∧ e = 0) ∨ (vv + 1 ≤ v0 ∧ e = m))) ∨ (u < vv ∧ q = vv ∧ e = 0)
theorem ws_p1 {S : Nat → Nat} {v0 m vv u q e b : Nat} (h : ws_at v0 m vv u q e) : ws_s6 S v0 m q u (vv + 1) b = 0 := by
  unfold ws_at at h
  unfold ws_s6
  rw [if_neg (by omega)]
theorem ws_p2 {S : Nat → Nat} {v0 m vv u q e D : Nat} (hD : 0 < D) (hm : ws_mn S D m) (h : ws_at v0 m vv u q e) : ws_mn (fun b => ws_s5 S v0 m q (vv + 1) b) D e := by
  unfold ws_at at h
  rcases h with ⟨h1, h2, ⟨h3, h4⟩ | ⟨h3, h4⟩⟩ | ⟨h1, h2, h3⟩
  · have ef : (fun b => ws_s5 S v0 m q (vv + 1) b) = fun _ => 0 := by
      funext b
      unfold ws_s5
      rw [if_pos (by omega), if_neg (by omega)]
    rw [ef, h4]
    exact ws_mn_0 hD
  · by_cases z : v0 = vv + 1
    · have ef : (fun b => ws_s5 S v0 m q (vv + 1) b) = S := by
        funext b
        unfold ws_s5
        rw [if_pos (by omega), if_pos (by omega)]
      rw [ef, h4]
      exact hm
    · have ef : (fun b => ws_s5 S v0 m q (vv + 1) b) = fun _ => m := by
        funext b
        unfold ws_s5
        rw [if_neg (by omega), if_pos (by omega)]
      rw [ef, h4]
      exact ws_mn_c hD m
  · have ef : (fun b => ws_s5 S v0 m q (vv + 1) b) = fun _ => 0 := by
      funext b
      unfold ws_s5
      by_cases z : v0 ≤ q
      · rw [if_pos z, if_neg (by omega)]
      · rw [if_neg z, if_neg (by omega)]
    rw [ef, h3]
    exact ws_mn_0 hD
theorem ws_p3 {S : Nat → Nat} {v0 m vv u q e b : Nat} (h : ws_at v0 m vv u q e) : ws_s5 S v0 m q u b + e = ws_s5 S v0 m vv u b := by
  unfold ws_at at h
  unfold ws_s5
  repeat' split
  all_goals omega
theorem ws_p4 {S : Nat → Nat} {v0 m vv b : Nat} : ws_s5 S v0 m vv (vv + 1) b = 0 := by
  unfold ws_s5
  repeat' split
  all_goals omega
theorem ws_p5 {S : Nat → Nat} {v0 m vv u q e w b : Nat} (h : ws_at v0 m vv u q e) (h1 : w ≠ u) (h2 : w ≠ vv + 1) : ws_s5 S v0 m q w b = ws_s5 S v0 m vv w b := by
  unfold ws_at at h
  unfold ws_s5
  repeat' split
  all_goals omega
theorem ws_p6 {S : Nat → Nat} {v0 m vv u q e b : Nat} (h : ws_at v0 m vv u q e) : ws_s5 S v0 m q (vv + 1) b - e = ws_s6 S v0 m vv u (vv + 1) b := by
  unfold ws_at at h
  unfold ws_s5 ws_s6
  repeat' split
  all_goals omega
theorem ws_p7 {S : Nat → Nat} {v0 m vv u q e u' w b : Nat} (h : ws_at v0 m vv u q e) (hn : ¬ (u' = u ∧ w = vv + 1)) : ws_s6 S v0 m q u' w b = ws_s6 S v0 m vv u' w b := by
  unfold ws_at at h
  unfold ws_s6
  repeat' split
  all_goals omega
theorem ws_s5B {S : Nat → Nat} {v0 m v w b : Nat} (hS : S b ≤ 1000000) (hm : m ≤ 1000000) : ws_s5 S v0 m v w b ≤ 1000000 := by
  unfold ws_s5
  repeat' split
  all_goals omega
/-- one pass of the inner loop, as arrays: lower, raise, lower -/
theorem ws_p8 {S : Nat → Nat} {v0 m N D vv u q e : Nat} {a5 a6 s t s' t' s2 t2 : Nat → Int32} (hN : N ≤ 6) (hD : D ≤ 3) (hv : vv + 1 < N) (h : ws_at v0 m vv u q e)
    (hp : ws_pic S v0 m N D q a5 a6)
    (h1 : ∀ a, a < D → s (3 * u + a) = nI (ws_s5 S v0 m q u a + 0)) (h2 : ∀ w b, b < 3 → w ≠ u → s (3 * w + b) = a5 (3 * w + b))
    (h4 : ∀ u' v' a b, v' < 6 → a < 3 → b < 3 → ¬ (u' = u ∧ v' = vv + 1) → t ((6 * u' + v') * 9 + 3 * a + b) = a6 ((6 * u' + v') * 9 + 3 * a + b))
    (k1 : ∀ b, b < D → s' (3 * (vv + 1) + b) = nI 0) (k2 : ∀ w b, b < 3 → w ≠ vv + 1 → s' (3 * w + b) = s (3 * w + b))
    (k4 : ∀ u' v' a b, v' < 6 → a < 3 → b < 3 → ¬ (u' = u ∧ v' = vv + 1) → t' ((6 * u' + v') * 9 + 3 * a + b) = t ((6 * u' + v') * 9 + 3 * a + b))
    (l1 : ∀ a, a < D → s2 (3 * u + a) = nI (ws_s5 S v0 m q u a + e)) (l2 : ∀ w b, b < 3 → w ≠ u → s2 (3 * w + b) = s' (3 * w + b))
    (l3 : ∀ a b, a < D → b < D → t2 ((6 * u + (vv + 1)) * 9 + 3 * a + b) = nI (ws_s5 S v0 m q (vv + 1) b - e))
    (l4 : ∀ u' v' a b, v' < 6 → a < 3 → b < 3 → ¬ (u' = u ∧ v' = vv + 1) → t2 ((6 * u' + v') * 9 + 3 * a + b) = t' ((6 * u' + v') * 9 + 3 * a + b)) :
    ws_pic S v0 m N D vv s2 t2 := by
  have hu : u < vv + 1 := by
    unfold ws_at at h
    omega
  refine ⟨fun w b hw hb => ?_, fun u' w a b huw hw ha hb => ?_⟩
  · by_cases z : w = u
    · rw [z, l1 b hb, ws_p3 h]
    · rw [l2 w b (by omega) z]
      by_cases z2 : w = vv + 1
      · rw [z2, k1 b hb, ws_p4]
      · rw [k2 w b (by omega) z2, h2 w b (by omega) z, hp.1 w b hw hb, ws_p5 h z z2]
  · by_cases z : u' = u ∧ w = vv + 1
    · rw [z.1, z.2, l3 a b ha hb, ws_p6 h]
    · rw [l4 u' w a b (by omega) (by omega) (by omega) z, k4 u' w a b (by omega) (by omega) (by omega) z, h4 u' w a b (by omega) (by omega) (by omega) z, hp.2 u' w a b huw hw ha hb, ws_p7 h z]
theorem ws_prep133 {post : St2 → Prop} {J : Int32 → Int32 → Int32 → Int32 → Int32 → Int32 → Int32 → Int32 → Int32 → Int32 → Int32 → Int32 → (Nat → Int32) → (Nat → Int32) → (Nat → Int32) → (Nat → Int32) → (Nat → Int32) → (Nat → Int32) → (Nat → Int32) → (Nat → Int32) → (Nat → Int32) → (Nat → Int32) → Prop} {gc ga go gg gl gh gw gx : Int32} {a1 a2 a3 a4 a5 a6 a7 a8 a9 a10 : Nat → Int32} {S : Nat → Nat} {v0 m N D vv : Nat} (hN : N ≤ 6) (hD0 : 1 ≤ D) (hD : D ≤ 3) (hv : vv + 1 < N)
    (hS : ∀ b, b < D → S b ≤ 1000000) (hm : ws_mn S D m) (hp : ws_pic S v0 m N D (vv + 1) a5 a6)
    (H : ∀ s t, ws_pic S v0 m N D vv s t → J (nI vv) (nI N) (nI D) (nI 0) gc ga go gg gl gh gw gx a1 a2 a3 a4 s t a7 a8 a9 a10) :
    ∃ fu, wX_prepare_133 post J (nI (vv + 1)) fu (nI (vv + 1) - 1) (nI N) (nI D) (nI 0) gc ga go gg gl gh gw gx a1 a2 a3 a4 a5 a6 a7 a8 a9 a10 := by
  have hmB : m ≤ 1000000 := ws_mn_B hm hS
  refine ⟨vv + 1 + 1, pk_loopD (σ := (Nat → Int32) × (Nat → Int32)) (fun n k s => wX_prepare_133 post J (nI (vv + 1)) n (nI k - 1) (nI N) (nI D) (nI 0) gc ga go gg gl gh gw gx a1 a2 a3 a4 s.1 s.2 a7 a8 a9 a10)
    (fun k s => k ≤ vv + 1 ∧ ws_pic S v0 m N D (if k = vv + 1 then vv + 1 else vv) s.1 s.2) ?_ ?_ (vv + 1) (a5, a6) ⟨Nat.le_refl _, by rw [if_pos rfl]; exact hp⟩⟩
  · intro n s h
    obtain ⟨_, h⟩ := h
    rw [if_neg (by omega)] at h
    refine br_t (by decide) (ws_sink (v := vv + 1) (g := fun _ => 0) (m := 0) (ff := nI 0) hD0 hD (by omega) (fun b hb => ?_) (fun _ _ => by omega) (ws_mn_0 (by omega)) (by decide) (fun s' k1 k2 => nm_r (pk_m1 vv) (H s' s.2 ⟨fun w b hw hb => ?_, h.2⟩)))
    · rw [h.1 (vv + 1) b (by omega) hb, ws_p4]
    · by_cases z : w = vv + 1
      · rw [z, k1 b hb, ws_p4]
      · rw [k2 w b (by omega) z, h.1 w b hw hb]
  · intro n u s h hw
    obtain ⟨hu, h⟩ := h
    have hA : ∃ e, ws_at v0 m vv u (if u + 1 = vv + 1 then vv + 1 else vv) e := by
      unfold ws_at
      by_cases z : u = vv
      · rw [if_pos (by omega)]
        by_cases z2 : v0 < vv + 1
        · exact ⟨0, Or.inl ⟨z, rfl, Or.inl ⟨z2, rfl⟩⟩⟩
        · exact ⟨m, Or.inl ⟨z, rfl, Or.inr ⟨by omega, rfl⟩⟩⟩
      · rw [if_neg (by omega)]
        exact ⟨0, Or.inr ⟨by omega, rfl, rfl⟩⟩
    obtain ⟨e, hA⟩ := hA
    generalize (if u + 1 = vv + 1 then vv + 1 else vv) = q at h hA
    have ex : nI (u + 1) - 1 = nI u := nI_pred u
    show wX_prepare_133 post J (nI (vv + 1)) (n + 1) (nI (u + 1) - 1) (nI N) (nI D) (nI 0) gc ga go gg gl gh gw gx a1 a2 a3 a4 s.1 s.2 a7 a8 a9 a10
    rw [ex]
    refine br_f (nI_pos (by omega)) (ws_lower (f := fun b => ws_s5 S v0 m q u b) (g := fun _ => 0) (m := 0) hD0 hD (by omega) (by omega) (fun a b ha hb => ?_) (fun _ _ => by omega) (ws_mn_0 (by omega)) (fun a ha => h.1 u a (by omega) ha)
      (fun s1 t1 h1 h2 h3 h4 => ws_raise (g := fun b => ws_s5 S v0 m q (vv + 1) b) hD (by omega) (by omega) (fun a b ha hb => h3 a b ha hb) (fun b hb => ?_)
      (fun s2 t2 k1 k2 k3 k4 => ws_lower (f := fun b => ws_s5 S v0 m q u b) (g := fun b => ws_s5 S v0 m q (vv + 1) b) (m := e) hD0 hD (by omega) (by omega) k3 (fun b hb => ?_) (ws_p2 (by omega) hm hA) (fun a ha => ?_)
      (fun s3 t3 l1 l2 l3 l4 => nm_r (e' := nI u - 1) ?_ (hw (s3, t3) ⟨by omega, ?_⟩)))))
    · rw [h.2 u (vv + 1) a b (by omega) hv ha hb, ws_p1 hA]
    · rw [h2 (vv + 1) b (by omega) (by omega), h.1 (vv + 1) b hv hb]
    · exact Nat.le_trans (ws_s5B (hS b hb) hmB) (by omega)
    · rw [k2 u a (by omega) (by omega)]
      exact h1 a ha
    · exact (by grind)
    · rw [if_neg (by omega)]
      exact ws_p8 hN hD hv hA h h1 h2 h4 k1 k2 k4 l1 l2 l3 l4
end
section
/-- what the search starts from -/
def ws_go (R : Nat → Nat) (v0 N D : Nat) (a5 a6 : Nat → Int32) : Prop :=
  (∀ w b, w < N → b < D → a5 (3 * w + b) = nI (if w = v0 ∧ 0 = v0 then R b else 0)) ∧
  (∀ u w a b, u < w → w < N → a < D → b < D → a6 ((6 * u + w) * 9 + 3 * a + b) = nI (if w = v0 ∧ u + 1 = v0 then R b else 0))
theorem ws_q1 {S : Nat → Nat} {v0 m D : Nat} (hD : 0 < D) (hm : ws_mn S D m) : ws_mn (fun b => ws_s5 S v0 m 0 0 b) D m := by
  by_cases z : v0 = 0
  · have ef : (fun b => ws_s5 S v0 m 0 0 b) = S := by
      funext b
      unfold ws_s5
      rw [if_pos (by omega), if_pos (by omega)]
    rw [ef]
    exact hm
  · have ef : (fun b => ws_s5 S v0 m 0 0 b) = fun _ => m := by
      funext b
      unfold ws_s5
      rw [if_neg (by omega), if_pos rfl]
    rw [ef]
    exact ws_mn_c hD m
theorem ws_q2 {S : Nat → Nat} {v0 m b : Nat} : ws_s5 S v0 m 0 0 b - m = if 0 = v0 ∧ 0 = v0 then S b - m else 0 := by
  unfold ws_s5
  repeat' split
  all_goals omega
theorem ws_q3 {S : Nat → Nat} {v0 m w b : Nat} (h : w ≠ 0) : ws_s5 S v0 m 0 w b = if w = v0 ∧ 0 = v0 then S b - m else 0 := by
  unfold ws_s5
  repeat' split
  all_goals omega
theorem ws_q4 {S : Nat → Nat} {v0 m u w b : Nat} : ws_s6 S v0 m 0 u w b = if w = v0 ∧ u + 1 = v0 then S b - m else 0 := by
  unfold ws_s6
  repeat' split
  all_goals omega
theorem ws_prep125 {post : St2 → Prop} {gc ga go gg gl gh gw gx : Int32} {a1 a2 a3 a4 a5 a6 a7 a8 a9 a10 : Nat → Int32} {S : Nat → Nat} {v0 m N D v : Nat} (hN : N ≤ 6) (hD0 : 1 ≤ D) (hD : D ≤ 3) (hv : v < N)
    (hS : ∀ b, b < D → S b ≤ 1000000) (hm : ws_mn S D m) (hp : ws_pic S v0 m N D v a5 a6)
    (H : ∀ s t, ws_go (fun b => S b - m) v0 N D s t → post (nI N, nI D, nI m, gc, ga, go, gg, gl, gh, gw, gx, a1, a2, a3, a4, s, t, a7, a8, a9, a10)) :
    ∃ fu, wX_prepare_125 post fu (nI v) (nI N) (nI D) (nI 0) gc ga go gg gl gh gw gx a1 a2 a3 a4 a5 a6 a7 a8 a9 a10 := by
  have hmB : m ≤ 1000000 := ws_mn_B hm hS
  refine ⟨v + 1, pk_loopD (σ := (Nat → Int32) × (Nat → Int32)) (fun n k s => wX_prepare_125 post n (nI k) (nI N) (nI D) (nI 0) gc ga go gg gl gh gw gx a1 a2 a3 a4 s.1 s.2 a7 a8 a9 a10)
    (fun k s => k < N ∧ ws_pic S v0 m N D k s.1 s.2) ?_ ?_ v (a5, a6) ⟨hv, hp⟩⟩
  · intro n s h
    obtain ⟨h0, h1, h2⟩ := h
    refine br_t (by decide) (ws_sink (v := 0) (g := fun b => ws_s5 S v0 m 0 0 b) (m := m) (ff := nI m) hD0 hD (by omega) (fun b hb => h1 0 b h0 hb) (fun b hb => Nat.le_trans (ws_s5B (hS b hb) hmB) (by omega)) (ws_q1 (by omega) hm) (by rw [nI_add, Nat.zero_add])
      (fun s' k1 k2 => H s' s.2 ⟨fun w b hw hb => ?_, fun u w a b huw hw ha hb => ?_⟩))
    · by_cases z : w = 0
      · rw [z, k1 b hb, ws_q2]
      · rw [k2 w b (by omega) z, h1 w b hw hb, ws_q3 z]
    · rw [h2 u w a b huw hw ha hb, ws_q4]
  · intro n vv s h hw
    obtain ⟨h0, h1⟩ := h
    exact br_f (nI_nle (by omega) (by omega)) (nm_e (ws_prep133 hN hD0 hD h0 hS hm h1 (fun s' t' k => hw (s', t') ⟨by omega, k⟩)))
theorem ws_prep77 {post : St2 → Prop} {gn gd gf gc ga go gg gl gh gw gx : Int32} {a1 a2 a3 a4 a5 a6 a7 a8 a9 a10 : Nat → Int32} (h2 : ∀ k, k < 324 → a2 k = 0)
    (H : ∀ s, (∀ k, k < 324 → s k = 0) → ∃ fu, wX_prepare_125 post fu (gn - 1) gn gd gf gc ga go gg gl gh gw gx a1 a2 a3 a4 a5 s a7 a8 a9 a10) :
    ∃ fu, wX_prepare_77 post gn gd gf gc ga go gg gl gh gw gx fu 0 a1 a2 a3 a4 a5 a6 a7 a8 a9 a10 :=
  pk_loop (fun n i s => wX_prepare_77 post gn gd gf gc ga go gg gl gh gw gx n (nI i) a1 a2 a3 a4 a5 s a7 a8 a9 a10) (fun i s => ∀ k, k < i → s k = 0) 324 0 a6 (by omega) (fun k hk => absurd hk (by omega))
    (fun n s h => pk_le 324 324 (fun _ => nm_e (H s h)) (fun z => absurd z (by omega)))
    (fun n i s hi h hw => by
      have e : a2 (nI i).toNatClampNeg = 0 := by rw [nI_clamp (by omega)]; exact h2 i hi
      exact pk_le 324 i (fun z => absurd z (by omega)) (fun _ => ⟨pk_in i 324 hi, br_f (by rw [e]; decide) ⟨pk_in i 324 hi, pk_in i 324 hi, nm_e (nm_r (nI_1 i) (hw _ (ws_fill (f := fun _ => 0) (nI_clamp (by omega)) h e)))⟩⟩))
/-- the single cost of place k, as prepare lays it -/
def ws_sg (a1 a4 : Nat → Int32) (k : Nat) (y : Int32) : Prop :=
  (ws_bit (a4 (k / 3)) (k % 3) ∧ ¬ a1 k = 99 ∧ y = a1 k) ∨ (¬ (ws_bit (a4 (k / 3)) (k % 3) ∧ ¬ a1 k = 99) ∧ y = 1000000)
theorem ws_prep7 {post : St2 → Prop} {gn gd gf gc ga go gg gl gh gw gx : Int32} {a1 a2 a3 a4 a5 a6 a7 a8 a9 a10 : Nat → Int32}
    (H : ∀ s, (∀ k, k < 18 → ws_sg a1 a4 k (s k)) → ∃ fu, wX_prepare_77 post gn gd gf gc ga go gg gl gh gw gx fu 0 a1 a2 a3 a4 s a6 a7 a8 a9 a10) :
    ∃ fu, wX_prepare_7 post gn gd gf gc ga go gg gl gh gw gx fu 0 a1 a2 a3 a4 a5 a6 a7 a8 a9 a10 :=
  pk_loop (fun n i s => wX_prepare_7 post gn gd gf gc ga go gg gl gh gw gx n (nI i) a1 a2 a3 a4 s a6 a7 a8 a9 a10) (fun i s => ∀ k, k < i → ws_sg a1 a4 k (s k)) 18 0 a5 (by omega) (fun k hk => absurd hk (by omega))
    (fun n s h => pk_le 18 18 (fun _ => H s h) (fun z => absurd z (by omega)))
    (fun n i s hi h hw => by
      have ec : (nI i).toNatClampNeg = i := nI_clamp (by omega)
      have ed : nI i / (3 : Int32) = nI (i / 3) := pk_div (d := 3) (by omega) (by omega) (by omega)
      have er : nI i - nI i / (3 : Int32) * 3 = nI (i % 3) := pk_rem (d := 3) (by omega) (by omega) (by omega)
      have eb : (((a4 (nI i / (3 : Int32)).toNatClampNeg) >>> ((nI i - nI i / (3 : Int32) * 3) &&& 31)) &&& 1) = 1 ↔ ws_bit (a4 (i / 3)) (i % 3) := by
        rw [er, ed, nI_clamp (by omega)]
      refine pk_le 18 i (fun z => absurd z (by omega)) (fun _ => ⟨by decide, pk_in (i / 3) 6 (by omega) ed, by decide, ek_if eb (fun hb => ?_) (fun hb => ?_)⟩)
      · refine br_f (by decide) ⟨pk_in i 18 hi, br_c (fun h9 => ⟨pk_in i 18 hi, nm_e (nm_r (nI_1 i) (hw _ (ws_fillR ec h ?_)))⟩) (fun h9 => ⟨pk_in i 18 hi, pk_in i 18 hi, nm_e (nm_r (nI_1 i) (hw _ (ws_fillR ec h ?_)))⟩)⟩
        · rw [ec] at h9
          exact Or.inr ⟨fun g => g.2 h9, rfl⟩
        · rw [ec] at h9
          exact Or.inl ⟨hb, h9, by rw [ec]⟩
      · refine br_t rfl ⟨pk_in i 18 hi, nm_e (nm_r (nI_1 i) (hw _ (ws_fillR ec h ?_)))⟩
        exact Or.inr ⟨fun g => hb g.1, rfl⟩)
theorem ws_prepare {post : St2 → Prop} {gf gc ga go gg gl gh gw gx : Int32} {a1 a2 a3 a4 a5 a6 a7 a8 a9 a10 : Nat → Int32} {S : Nat → Nat} {v0 m N D : Nat} (hN0 : 1 ≤ N) (hN : N ≤ 6) (hD0 : 1 ≤ D) (hD : D ≤ 3) (hv : v0 < N)
    (hS : ∀ b, b < D → S b ≤ 1000000) (hm : ws_mn S D m) (h2 : ∀ k, k < 324 → a2 k = 0)
    (hs : ∀ w b y, w < N → b < D → ws_sg a1 a4 (3 * w + b) y → y = nI (if w = v0 then S b else 0))
    (H : ∀ s t, ws_go (fun b => S b - m) v0 N D s t → post (nI N, nI D, nI m, gc, ga, go, gg, gl, gh, gw, gx, a1, a2, a3, a4, s, t, a7, a8, a9, a10)) :
    wpX_prepare post (nI N, nI D, gf, gc, ga, go, gg, gl, gh, gw, gx, a1, a2, a3, a4, a5, a6, a7, a8, a9, a10) := by
  refine ws_prep7 (fun s h => ws_prep77 h2 (fun t ht => ?_))
  have e : nI N - 1 = nI (N - 1) := pk_sub (b := 1) hN0
  rw [e]
  refine ws_prep125 hN hD0 hD (by omega) hS hm ⟨fun w b hw hb => ?_, fun u w a b huw hw ha hb => ?_⟩ H
  · have := hs w b _ hw hb (h (3 * w + b) (by omega))
    rw [this]
    unfold ws_s5
    rw [if_pos (c := v0 ≤ N - 1) (by omega)]
  · rw [ht _ (by omega)]
    unfold ws_s6
    rw [if_neg (by omega)]
    rfl
end
section
theorem ws_neg1 {c : Nat} (h : c < 2 ^ 31) : ¬ nI c ≤ (-1 : Int32) := by
  intro hh
  have h1 := Int32.le_iff_toInt_le.mp hh
  rw [nI_toInt h] at h1
  have h2 : (-1 : Int32).toInt = -1 := by decide
  omega
theorem ws_arr51 {post : St2 → Prop} {gd gf gc ga go gg gl gh gw gx : Int32} {a1 a2 a3 a4 a5 a6 a7 a8 a9 a10 : Nat → Int32} {N : Nat} (hN : N ≤ 6) (H : ∀ s, post (nI N, gd, gf, gc, ga, go, gg, gl, gh, gw, gx, a1, a2, a3, a4, a5, a6, a7, a8, a9, s)) :
    ∃ fu, wX_arrive_51 post (nI N) gd gf gc ga go gg gl gh gw gx fu 0 a1 a2 a3 a4 a5 a6 a7 a8 a9 a10 :=
  pk_loop (fun n i s => wX_arrive_51 post (nI N) gd gf gc ga go gg gl gh gw gx n (nI i) a1 a2 a3 a4 a5 a6 a7 a8 a9 s) (fun _ _ => True) N 0 a10 (by omega) trivial
    (fun n s h => pk_le N N (fun _ => H s) (fun z => absurd z (by omega)))
    (fun n i s hi h hw => pk_le N i (fun z => absurd z (by omega)) (fun _ => ⟨pk_in i 7 (by omega), pk_in i 6 (by omega), nm_e (nm_r (nI_1 i) (hw _ trivial))⟩))
theorem ws_arr {post : St2 → Prop} {gd gf go gl gh gw gx : Int32} {a1 a2 a3 a4 a5 a6 a7 a8 a9 a10 : Nat → Int32} {N c ct : Nat} (hN : N ≤ 6) (hc : c < 2 ^ 31) (hct : ct < 2 ^ 31)
    (H1 : ct ≤ c → post (nI N, gd, gf, nI ct, -1, go, 0, gl, gh, gw, gx, a1, a2, a3, a4, a5, a6, a7, a8, a9, a10)) (H2 : c < ct → ∀ s, post (nI N, gd, gf, nI c, -1, go, 0, gl, gh, gw, gx, a1, a2, a3, a4, a5, a6, a7, a8, a9, s)) :
    wpX_arrive post (nI N, gd, gf, nI ct, -1, go, 0, gl, gh, gw, gx, a1, a2, a3, a4, a5, a6, a7, a8, a9, a10) (nI c) :=
  br_t rfl (br_f (ws_neg1 hc) (pk_le ct c H1 (fun z => ws_arr51 hN (H2 z))))
theorem ws_rem21 {post : Int32 → St2 → Prop} {J6 : Int32 → Int32 → (Nat → Int32) → (Nat → Int32) → (Nat → Int32) → (Nat → Int32) → (Nat → Int32) → (Nat → Int32) → (Nat → Int32) → (Nat → Int32) → (Nat → Int32) → (Nat → Int32) → Prop} {gn gf gc ga go gg gl gh gw gx : Int32} {a1 a2 a3 a4 a5 a6 a7 a8 a9 a10 : Nat → Int32} {D e w b0 bw : Nat} {q : Nat → Nat} {x2 : Int32} (hD : D ≤ 3) (he : e < w) (hw6 : w < 6) (hb0 : b0 < D) (hbw : bw < D)
    (h9 : a9 e = nI b0) (hz : ∀ b, b < D → a7 (18 * e + 3 * w + b) = nI 0) (hp : ∀ b, b < D → a6 ((6 * e + w) * 9 + 3 * b0 + b) = nI (q b)) (hq : ∀ b, b < D → q b ≤ 1000000)
    (hbit : ws_bit (a4 w) bw) (hq0 : q bw = 0)
    (H : ∀ t, (∀ b, b < D → t (18 * e + 18 + 3 * w + b) = nI (q b)) → (∀ k, k < 18 * e + 18 + 3 * w ∨ 18 * e + 18 + 3 * w + D ≤ k → t k = a7 k) → J6 x2 (nI (w + 1)) a1 a2 a3 a4 a5 a6 t a8 a9 a10) :
    ∃ fu, wX_remaining_21 post J6 (nI e) x2 (nI w) gn (nI D) gf gc ga go gg gl gh gw gx fu 1000000 0 a1 a2 a3 a4 a5 a6 a7 a8 a9 a10 :=
  pk_loop (σ := Nat × (Nat → Int32)) (fun n i s => wX_remaining_21 post J6 (nI e) x2 (nI w) gn (nI D) gf gc ga go gg gl gh gw gx n (nI s.1) (nI i) a1 a2 a3 a4 a5 a6 s.2 a8 a9 a10)
    (fun i s => s.1 ≤ 1000000 ∧ (bw < i → s.1 = 0) ∧ (∀ b, b < i → s.2 (18 * e + 18 + 3 * w + b) = nI (q b)) ∧ (∀ k, k < 18 * e + 18 + 3 * w ∨ 18 * e + 18 + 3 * w + D ≤ k → s.2 k = a7 k)) D 0 (1000000, a7) (by omega)
    ⟨Nat.le_refl _, fun h => absurd h (by omega), fun b hb => absurd hb (by omega), fun _ _ => rfl⟩
    (fun n s h => pk_le D D (fun _ => nm_r (e' := x2) (by rw [h.2.1 hbw, nI_0, Int32.add_zero]) (nm_r (nI_1 w) (H s.2 h.2.2.1 h.2.2.2))) (fun z => absurd z (by omega)))
    (fun n i s hi h hw => by
      obtain ⟨y, t⟩ := s
      obtain ⟨h1, h2, h3, h4⟩ := h
      dsimp only at h1 h2 h3 h4
      have ec : (nI e).toNatClampNeg = e := nI_clamp (by omega)
      have ew : (nI w).toNatClampNeg = w := nI_clamp (by omega)
      have e1 : (((((6 : Int32) * nI e) + nI w) * 9) + (3 * (a9 (nI e).toNatClampNeg))) + nI i = nI ((6 * e + w) * 9 + 3 * b0 + i) := by
        rw [ec, h9]
        exact ws_i2 e w b0 i
      have e2 : a6 ((((((6 : Int32) * nI e) + nI w) * 9) + (3 * (a9 (nI e).toNatClampNeg))) + nI i).toNatClampNeg = nI (q i) := by
        rw [e1, nI_clamp (by omega)]
        exact hp i hi
      have e3 : t ((((18 : Int32) * nI e) + (3 * nI w)) + nI i).toNatClampNeg + nI (q i) = nI (q i) := by
        rw [ws_i3, nI_clamp (by omega), h4 _ (by omega), hz i hi, nI_add, Nat.zero_add]
      have hqi : q i ≤ 1000000 := hq i hi
      have eb : (((a4 (nI w).toNatClampNeg) >>> (nI i &&& 31)) &&& 1) = 1 ↔ ws_bit (a4 w) i := by rw [ew]
      have k3 : ∀ b, b < i + 1 → upd t (18 * e + 18 + 3 * w + i) (nI (q i)) (18 * e + 18 + 3 * w + b) = nI (q b) := by
        intro b hb
        by_cases z : b = i
        · rw [z, pk_us]
        · rw [pk_un (by omega)]
          exact h3 b (by omega)
      have k4 : ∀ k, k < 18 * e + 18 + 3 * w ∨ 18 * e + 18 + 3 * w + D ≤ k → upd t (18 * e + 18 + 3 * w + i) (nI (q i)) k = a7 k := by
        intro k hk
        rw [pk_un (by omega)]
        exact h4 k hk
      have hi3 : i < 3 := by omega
      refine pk_le D i (fun z => absurd z (by omega)) (fun _ => ⟨pk_in e 7 (by omega), pk_in ((6 * e + w) * 9 + 3 * b0 + i) 324 (by omega) e1, nm_r e2 ⟨pk_in (18 * e + 3 * w + i) 126 (by omega) (ws_i3 e w i), nm_r e3
        (pk_le (q i) 3000000 (fun _ => ⟨pk_in (18 * e + 18 + 3 * w + i) 126 (by omega) (ws_i4 e w i), nm_r (e' := upd t (18 * e + 18 + 3 * w + i) (nI (q i))) (by rw [ws_i4, nI_clamp (by omega)]) ⟨pk_in w 6 hw6, ek_if eb (fun hb => pk_le y (q i) (fun z => nm_r (nI_1 i) (hw (y, _) ⟨h1, ?_, k3, k4⟩)) (fun z => nm_r (nI_1 i) (hw (q i, _) ⟨hqi, ?_, k3, k4⟩))) (fun hb => nm_r (nI_1 i) (hw (y, _) ⟨h1, ?_, k3, k4⟩))⟩⟩) (fun z => absurd z (by omega)))⟩⟩)
      · intro hlt
        show y = 0
        by_cases eq : bw = i
        · rw [← eq, hq0] at z
          omega
        · exact h2 (by omega)
      · intro hlt
        show q i = 0
        by_cases eq : bw = i
        · rw [← eq]
          exact hq0
        · have := h2 (by omega)
          omega
      · intro hlt
        show y = 0
        by_cases eq : bw = i
        · rw [eq] at hbit
          exact absurd hbit hb
        · exact h2 (by omega))
theorem ws_rem {post : Int32 → St2 → Prop} {gf gc ga go gg gl gh gw gx : Int32} {a1 a2 a3 a4 a5 a6 a7 a8 a9 a10 : Nat → Int32} {R : Nat → Nat} {v0 N D e b0 : Nat} (hN : N ≤ 6) (hD : D ≤ 3) (he : e + 1 < N) (hb0 : b0 < D) (h9 : a9 e = nI b0)
    (hz : ∀ w b, e < w → w < N → b < D → a7 (18 * e + 3 * w + b) = nI 0)
    (h6 : ∀ w a b, e < w → w < N → a < D → b < D → a6 ((6 * e + w) * 9 + 3 * a + b) = nI (if w = v0 ∧ e + 1 = v0 then R b else 0))
    (hR : ∀ b, b < D → R b ≤ 1000000) (hm : ∀ w, w < N → ∃ bw, bw < D ∧ ws_bit (a4 w) bw ∧ (w = v0 → R bw = 0))
    (H : ∀ t, (∀ w b, e + 1 ≤ w → w < N → b < D → t (18 * (e + 1) + 3 * w + b) = nI (if w = v0 ∧ e + 1 = v0 then R b else 0)) → (∀ k, k < 18 * e + 18 → t k = a7 k) → post 0 (nI N, nI D, gf, gc, ga, go, gg, gl, gh, gw, gx, a1, a2, a3, a4, a5, a6, t, a8, a9, a10)) :
    wpX_remaining post (nI N, nI D, gf, gc, ga, go, gg, gl, gh, gw, gx, a1, a2, a3, a4, a5, a6, a7, a8, a9, a10) (nI e) :=
  nm_r (nI_1 e) (pk_loop (fun n i t => wX_remaining_6 post (nI e) (nI N) (nI D) gf gc ga go gg gl gh gw gx n 0 (nI i) a1 a2 a3 a4 a5 a6 t a8 a9 a10)
    (fun i t => e + 1 ≤ i ∧ (∀ w b, e + 1 ≤ w → w < i → b < D → t (18 * (e + 1) + 3 * w + b) = nI (if w = v0 ∧ e + 1 = v0 then R b else 0)) ∧ (∀ k, k < 18 * e + 18 → t k = a7 k)) N (e + 1) a7 (by omega)
    ⟨Nat.le_refl _, fun w b h1 h2 => absurd h2 (by omega), fun _ _ => rfl⟩
    (fun n t h => pk_le N N (fun _ => H t h.2.1 h.2.2) (fun z => absurd z (by omega)))
    (fun n i t hi h hw => by
      obtain ⟨h1, h2, h3⟩ := h
      obtain ⟨bw, hbw, hbit, hR0⟩ := hm i hi
      refine pk_le N i (fun z => absurd z (by omega)) (fun _ => ws_rem21 (q := fun b => if i = v0 ∧ e + 1 = v0 then R b else 0) hD (by omega) (by omega) hb0 hbw h9 (fun b hb => ?_) (fun b hb => h6 i b0 b (by omega) hi hb0 hb) (fun b hb => ?_) hbit ?_
        (fun t' k1 k2 => hw t' ⟨by omega, fun w b hw1 hw2 hb => ?_, fun k hk => ?_⟩))
      · rw [h3 _ (by omega)]
        exact hz i b (by omega) hi hb
      · show (if i = v0 ∧ e + 1 = v0 then R b else 0) ≤ 1000000
        have := hR b hb
        split <;> omega
      · show (if i = v0 ∧ e + 1 = v0 then R bw else 0) = 0
        split
        · rename_i z
          exact hR0 z.1
        · rfl
      · by_cases z : w = i
        · rw [z]
          exact k1 b hb
        · rw [k2 _ (by omega)]
          exact h2 w b hw1 (by omega) hb
      · rw [k2 k (by omega)]
        exact h3 k hk))
end
section
/-- the steps that a whole tree of j levels takes -/
def ws_wt (D : Nat) : Nat → Nat
  | 0 => 0
  | j + 1 => D * (1 + ws_wt D j) + 1
/-- the steps that are left at depth k; t: the values taken, plus one -/
def ws_mu (N D : Nat) (t : Nat → Nat) : Nat → Nat
  | 0 => (D - t 0) * (1 + ws_wt D (N - 1)) + 1
  | k + 1 => ws_mu N D t k + ((D - t (k + 1)) * (1 + ws_wt D (N - 1 - (k + 1))) + 1)
theorem ws_mu_pos (N D : Nat) (t : Nat → Nat) (k : Nat) : 1 ≤ ws_mu N D t k := by
  cases k with
  | zero => unfold ws_mu; omega
  | succ k => unfold ws_mu; omega
theorem ws_mu_cong {N D : Nat} {t t' : Nat → Nat} : ∀ k, (∀ j, j ≤ k → t' j = t j) → ws_mu N D t' k = ws_mu N D t k := by
  intro k
  induction k with
  | zero => intro h; unfold ws_mu; rw [h 0 (by omega)]
  | succ k ih => intro h; unfold ws_mu; rw [h (k + 1) (by omega), ih (fun j hj => h j (by omega))]
theorem ws_mul {x w : Nat} (D y : Nat) (hx : x = D - y) (hy : y < D) : (D - (y + 1)) * w + w = x * w := by
  have e : x = (D - (y + 1)) + 1 := by omega
  rw [e, Nat.add_mul, Nat.one_mul]
def ws_inc (t : Nat → Nat) (k : Nat) : Nat → Nat := fun j => if j = k then t k + 1 else t j
def ws_dn (t : Nat → Nat) (k : Nat) : Nat → Nat := fun j => if j = k + 1 then 0 else ws_inc t k j
theorem ws_inc_s (t : Nat → Nat) (k : Nat) : ws_inc t k k = t k + 1 := by
  unfold ws_inc
  rw [if_pos rfl]
theorem ws_inc_n {t : Nat → Nat} {k j : Nat} (h : j ≠ k) : ws_inc t k j = t j := by
  unfold ws_inc
  rw [if_neg h]
theorem ws_dn_s (t : Nat → Nat) (k : Nat) : ws_dn t k (k + 1) = 0 := by
  unfold ws_dn
  rw [if_pos rfl]
theorem ws_dn_n {t : Nat → Nat} {k j : Nat} (h : j ≠ k + 1) : ws_dn t k j = ws_inc t k j := by
  unfold ws_dn
  rw [if_neg h]
theorem ws_mu_inc {N D : Nat} {t : Nat → Nat} {k : Nat} (h : t k < D) : ws_mu N D (ws_inc t k) k + (1 + ws_wt D (N - 1 - k)) = ws_mu N D t k := by
  cases k with
  | zero =>
    unfold ws_mu
    rw [ws_inc_s]
    have := ws_mul (w := 1 + ws_wt D (N - 1)) D (t 0) rfl h
    have e : N - 1 - 0 = N - 1 := by omega
    rw [e]
    omega
  | succ k =>
    unfold ws_mu
    rw [ws_inc_s, ws_mu_cong (t := t) k (fun j hj => ws_inc_n (by omega))]
    have := ws_mul (w := 1 + ws_wt D (N - 1 - (k + 1))) D (t (k + 1)) rfl h
    omega
theorem ws_mu_stay {N D : Nat} {t : Nat → Nat} {k : Nat} (h : t k < D) : ws_mu N D (ws_inc t k) k + 1 ≤ ws_mu N D t k := by
  have := ws_mu_inc (N := N) h
  omega
theorem ws_mu_dn {N D : Nat} {t : Nat → Nat} {k : Nat} (h : t k < D) (hk : k + 1 < N) : ws_mu N D (ws_dn t k) (k + 1) + 1 ≤ ws_mu N D t k := by
  have h1 := ws_mu_inc (N := N) h
  have h2 : ws_mu N D (ws_dn t k) (k + 1) = ws_mu N D (ws_dn t k) k + ((D - ws_dn t k (k + 1)) * (1 + ws_wt D (N - 1 - (k + 1))) + 1) := rfl
  rw [ws_dn_s, ws_mu_cong (t := ws_inc t k) k (fun j hj => ws_dn_n (by omega))] at h2
  have h3 : ws_wt D (N - 1 - k) = D * (1 + ws_wt D (N - 1 - (k + 1))) + 1 := by
    have e : N - 1 - k = (N - 1 - (k + 1)) + 1 := by omega
    rw [e]
    rfl
  have e0 : D - 0 = D := by omega
  rw [e0] at h2
  omega
theorem ws_mu_ex {N D : Nat} {t : Nat → Nat} {k : Nat} : ws_mu N D t k + 1 ≤ ws_mu N D t (k + 1) := by
  have h2 : ws_mu N D t (k + 1) = ws_mu N D t k + ((D - t (k + 1)) * (1 + ws_wt D (N - 1 - (k + 1))) + 1) := rfl
  omega
theorem ws_mu_0 : ∀ N, N < 7 → ∀ D, D < 4 → D * (1 + ws_wt D (N - 1)) + 1 ≤ 1456 := by decide
/-- the golden value bs of v0 is still ahead -/
def ws_NF (v0 bs k : Nat) (t : Nat → Nat) : Prop := (k < v0 → t k = 0) ∧ (v0 ≤ k → t v0 ≤ bs ∨ (v0 < k ∧ t v0 = bs + 1 ∧ t k = 0))
/-- the value that is taken now lies on the golden path -/
def ws_gold (v0 bs k : Nat) (t : Nat → Nat) : Prop := k < v0 ∨ (k = v0 ∧ t k = bs) ∨ (v0 < k ∧ t v0 = bs + 1)
/-- the cost of the value that is taken now -/
def ws_c (R : Nat → Nat) (v0 m k : Nat) (t : Nat → Nat) : Nat := m + (if v0 < k then R (t v0 - 1) else 0) + (if k = v0 ∧ k = v0 then R (t k) else 0)
theorem ws_nf_stay {v0 bs k : Nat} {t : Nat → Nat} (h : ws_NF v0 bs k t) (hg : ¬ ws_gold v0 bs k t) : ws_NF v0 bs k (ws_inc t k) := by
  unfold ws_NF at *
  unfold ws_gold at hg
  have hk : v0 ≤ k := by omega
  refine ⟨fun z => absurd z (by omega), fun _ => Or.inl ?_⟩
  have h2 := h.2 hk
  by_cases z : k = v0
  · rw [z] at hg h2 ⊢
    rw [ws_inc_s]
    omega
  · rw [ws_inc_n (by omega)]
    omega
theorem ws_nf_dn {v0 bs k : Nat} {t : Nat → Nat} (h : ws_NF v0 bs k t) : ws_NF v0 bs (k + 1) (ws_dn t k) := by
  unfold ws_NF at *
  refine ⟨fun _ => ws_dn_s t k, fun hk => ?_⟩
  by_cases z : v0 = k + 1
  · rw [z, ws_dn_s]
    omega
  · have h2 := h.2 (by omega)
    rw [ws_dn_n z, ws_dn_s]
    by_cases y : v0 = k
    · rw [y] at h2 ⊢
      rw [ws_inc_s]
      omega
    · rw [ws_inc_n y]
      omega
theorem ws_nf_ex {v0 bs k D : Nat} {t : Nat → Nat} (hb : bs < D) (h : ws_NF v0 bs (k + 1) t) (ht : t (k + 1) = D) : ws_NF v0 bs k t := by
  unfold ws_NF at *
  have h1 : v0 < k + 1 := by
    rcases Nat.lt_trichotomy v0 (k + 1) with z | z | z
    · exact z
    · have h2 := h.2 (by omega)
      rw [z] at h2
      omega
    · have := h.1 z
      omega
  have h2 := h.2 (by omega)
  refine ⟨fun z => absurd z (by omega), fun _ => Or.inl (by omega)⟩
theorem ws_nf_0 {v0 bs D : Nat} {t : Nat → Nat} (hb : bs < D) (h : ws_NF v0 bs 0 t) (ht : t 0 = D) : False := by
  unfold ws_NF at *
  by_cases z : v0 = 0
  · have h2 := h.2 (by omega)
    rw [z] at h2
    omega
  · have := h.1 (by omega)
    omega
theorem ws_gold_c {R : Nat → Nat} {v0 bs m k : Nat} {t : Nat → Nat} (hR : R bs = 0) (h : ws_gold v0 bs k t) : ws_c R v0 m k t = m := by
  unfold ws_gold at h
  unfold ws_c
  rcases h with z | ⟨z, y⟩ | ⟨z, y⟩
  · rw [if_neg (by omega), if_neg (by omega)]
    rfl
  · rw [if_neg (by omega), if_pos ⟨z, z⟩, y, hR]
    rfl
  · rw [if_pos z, if_neg (by omega), y, Nat.add_sub_cancel, hR]
    rfl
theorem ws_gold_b {v0 bs k N D : Nat} {t : Nat → Nat} {a4 : Nat → Int32} (hD : 0 < D) (hk : k < N) (hf : ∀ w b, w < N → w ≠ v0 → b < D → ws_bit (a4 w) b) (hb : ws_bit (a4 v0) bs) (h : ws_NF v0 bs k t) (hg : ws_gold v0 bs k t) : ws_bit (a4 k) (t k) := by
  unfold ws_gold at hg
  unfold ws_NF at h
  rcases hg with z | ⟨z, y⟩ | ⟨z, y⟩
  · rw [h.1 z]
    exact hf k 0 hk (by omega) hD
  · rw [y, z]
    exact hb
  · have h2 := h.2 (by omega)
    have e : t k = 0 := by omega
    rw [e]
    exact hf k 0 hk (by omega) hD
/-- the search's state -/
def ws_SI (R : Nat → Nat) (v0 m bs N D k st ct : Nat) (a7 a8 a9 : Nat → Int32) (t : Nat → Nat) : Prop :=
  k < N ∧ st + ws_mu N D t k ≤ 4000 ∧ (∀ j, j ≤ k → a9 j + 1 = nI (t j)) ∧ (∀ j, j ≤ k → t j ≤ D) ∧
  (∀ j, j ≤ k → a8 j = nI (m + (if v0 < j then R (t v0 - 1) else 0))) ∧
  (∀ j w b, j ≤ k → j ≤ w → w < N → b < D → a7 (18 * j + 3 * w + b) = nI (if w = v0 ∧ j = v0 then R b else 0)) ∧
  (ct = min m 500000 ∨ (m < ct ∧ ct ≤ 500000 ∧ ws_NF v0 bs k t))
theorem ws_SI_ex {R : Nat → Nat} {v0 m bs N D k st ct : Nat} {a7 a8 a9 : Nat → Int32} {t : Nat → Nat} {x : Int32} (hb : bs < D) (h : ws_SI R v0 m bs N D (k + 1) st ct a7 a8 a9 t) (ht : t (k + 1) = D) :
    ws_SI R v0 m bs N D k (st + 1) ct a7 a8 (upd a9 (k + 1) x) t := by
  obtain ⟨h1, h2, h3, h4, h5, h6, h7⟩ := h
  have := ws_mu_ex (N := N) (D := D) (t := t) (k := k)
  refine ⟨by omega, by omega, fun j hj => ?_, fun j hj => h4 j (by omega), fun j hj => h5 j (by omega), fun j w b hj => h6 j w b (by omega), ?_⟩
  · rw [pk_un (by omega)]
    exact h3 j (by omega)
  · rcases h7 with z | ⟨z, y, x⟩
    · exact Or.inl z
    · exact Or.inr ⟨z, y, ws_nf_ex hb x ht⟩
theorem ws_SI_stay {R : Nat → Nat} {v0 m bs N D k st ct ct' : Nat} {a7 a7' a8 a9 : Nat → Int32} {t : Nat → Nat} (hN : N ≤ 6) (hD : D ≤ 3) (h : ws_SI R v0 m bs N D k st ct a7 a8 a9 t) (ht : t k < D)
    (h7' : ∀ j, j < 18 * k + 18 → a7' j = a7 j)
    (hc : ct' = min m 500000 ∨ (m < ct' ∧ ct' ≤ 500000 ∧ ¬ ws_gold v0 bs k t ∧ ws_NF v0 bs k t)) :
    ws_SI R v0 m bs N D k (st + 1) ct' a7' a8 (upd a9 k (nI (t k))) (ws_inc t k) := by
  obtain ⟨h1, h2, h3, h4, h5, h6, h7⟩ := h
  have := ws_mu_stay (N := N) ht
  refine ⟨h1, by omega, fun j hj => ?_, fun j hj => ?_, fun j hj => ?_, fun j w b hj hw hw' hb => ?_, ?_⟩
  · by_cases z : j = k
    · rw [z, pk_us, ws_inc_s, nI_1]
    · rw [pk_un z, ws_inc_n z]
      exact h3 j hj
  · by_cases z : j = k
    · rw [z, ws_inc_s]
      omega
    · rw [ws_inc_n z]
      exact h4 j hj
  · rw [h5 j hj]
    by_cases z : v0 < j
    · rw [if_pos z, if_pos z, ws_inc_n (by omega)]
    · rw [if_neg z, if_neg z]
  · rw [h7' _ (by omega)]
    exact h6 j w b hj hw hw' hb
  · rcases hc with z | ⟨z, y, x, u⟩
    · exact Or.inl z
    · exact Or.inr ⟨z, y, ws_nf_stay u x⟩
theorem ws_SI_dn {R : Nat → Nat} {v0 m bs N D k st ct : Nat} {a7 a7' a8 a9 : Nat → Int32} {t : Nat → Nat} (hN : N ≤ 6) (hD : D ≤ 3) (h : ws_SI R v0 m bs N D k st ct a7 a8 a9 t) (ht : t k < D) (hk : k + 1 < N)
    (h7' : ∀ j, j < 18 * k + 18 → a7' j = a7 j)
    (h7n : ∀ w b, k + 1 ≤ w → w < N → b < D → a7' (18 * (k + 1) + 3 * w + b) = nI (if w = v0 ∧ k + 1 = v0 then R b else 0))
    (hc : ws_c R v0 m k t < ct) :
    ws_SI R v0 m bs N D (k + 1) (st + 1) ct a7' (upd a8 (k + 1) (nI (ws_c R v0 m k t))) (upd (upd a9 k (nI (t k))) (k + 1) (-1)) (ws_dn t k) := by
  obtain ⟨h1, h2, h3, h4, h5, h6, h7⟩ := h
  have := ws_mu_dn (N := N) ht hk
  have hcm : m ≤ ws_c R v0 m k t := by
    unfold ws_c
    omega
  refine ⟨hk, by omega, fun j hj => ?_, fun j hj => ?_, fun j hj => ?_, fun j w b hj hw hw' hb => ?_, ?_⟩
  · by_cases y : j = k + 1
    · rw [y, pk_us, ws_dn_s]
      decide
    · rw [pk_un y, ws_dn_n y]
      by_cases z : j = k
      · rw [z, pk_us, ws_inc_s, nI_1]
      · rw [pk_un z, ws_inc_n z]
        exact h3 j (by omega)
  · by_cases y : j = k + 1
    · rw [y, ws_dn_s]
      omega
    · rw [ws_dn_n y]
      by_cases z : j = k
      · rw [z, ws_inc_s]
        omega
      · rw [ws_inc_n z]
        exact h4 j (by omega)
  · by_cases y : j = k + 1
    · rw [y, pk_us]
      unfold ws_c
      by_cases z : v0 < k
      · rw [if_pos z, if_neg (by omega), if_pos (by omega), ws_dn_n (by omega), ws_inc_n (by omega)]
        rfl
      · by_cases z2 : v0 = k
        · rw [if_neg z, if_pos (by omega), if_pos (by omega), ws_dn_n (by omega), z2, ws_inc_s, Nat.add_sub_cancel]
          rfl
        · rw [if_neg z, if_neg (by omega), if_neg (by omega)]
    · rw [pk_un y, h5 j (by omega)]
      by_cases z : v0 < j
      · rw [if_pos z, if_pos z, ws_dn_n (by omega), ws_inc_n (by omega)]
      · rw [if_neg z, if_neg z]
  · by_cases y : j = k + 1
    · rw [y]
      exact h7n w b (by omega) hw' hb
    · rw [h7' _ (by omega)]
      exact h6 j w b (by omega) hw hw' hb
  · rcases h7 with z | ⟨z, y, x⟩
    · exact absurd hc (by omega)
    · exact Or.inr ⟨z, y, ws_nf_dn x⟩
end
section
theorem ws_cB {R : Nat → Nat} {v0 m k D : Nat} {t : Nat → Nat} (hD : 0 < D) (hR : ∀ b, b < D → R b ≤ 1000000) (hm : m ≤ 1000000) (ht : t k < D) (hv : v0 < k → t v0 ≤ D) : ws_c R v0 m k t ≤ 3000000 := by
  unfold ws_c
  have h1 := hR (t k) ht
  by_cases z : v0 < k
  · have h2 := hR (t v0 - 1) (by have := hv z; omega)
    rw [if_pos z, if_neg (by omega)]
    omega
  · rw [if_neg z]
    split <;> omega
theorem ws_search47 {post : St2 → Prop} {go gl gh gw gx : Int32} {a1 a2 a3 a4 a5 a6 a7 a8 a9 a10 : Nat → Int32} {R : Nat → Nat} {v0 m bs N D : Nat} (hN0 : 2 ≤ N) (hN : N ≤ 6) (hD0 : 1 ≤ D) (hD : D ≤ 3) (hv : v0 < N) (hmB : m ≤ 1000000)
    (hR : ∀ b, b < D → R b ≤ 1000000) (hbs : bs < D) (hbit : ws_bit (a4 v0) bs) (hR0 : R bs = 0) (hf : ∀ w b, w < N → w ≠ v0 → b < D → ws_bit (a4 w) b)
    (h6 : ∀ u w a b, u < w → w < N → a < D → b < D → a6 ((6 * u + w) * 9 + 3 * a + b) = nI (if w = v0 ∧ u + 1 = v0 then R b else 0))
    (H : ∀ s7 s8 s9 s10, post (nI N, nI D, nI m, nI (min m 500000), -1, go, 0, gl, gh, gw, gx, a1, a2, a3, a4, a5, a6, s7, s8, s9, s10)) {t0 : Nat → Nat}
    (h0 : ws_SI R v0 m bs N D 0 0 500000 a7 a8 a9 t0) :
    ∃ fu, wX_search_47 post fu 0 0 (nI N) (nI D) (nI m) 500000 (-1) go 0 gl gh gw gx a1 a2 a3 a4 a5 a6 a7 a8 a9 a10 := by
  refine loop_m (σ := Nat × Nat × Nat × (Nat → Int32) × (Nat → Int32) × (Nat → Int32) × (Nat → Int32))
    (fun n s => wX_search_47 post n (nI s.1) (nI s.2.1) (nI N) (nI D) (nI m) (nI s.2.2.1) (-1) go 0 gl gh gw gx a1 a2 a3 a4 a5 a6 s.2.2.2.1 s.2.2.2.2.1 s.2.2.2.2.2.1 s.2.2.2.2.2.2)
    (fun s => ∃ t, ws_SI R v0 m bs N D s.1 s.2.1 s.2.2.1 s.2.2.2.1 s.2.2.2.2.1 s.2.2.2.2.2.1 t) (fun s => 4001 - s.2.1) ?_ (0, 0, 500000, a7, a8, a9, a10) ⟨t0, h0⟩
  intro n s hI hw
  obtain ⟨k, st, ct, b7, b8, b9, b10⟩ := s
  obtain ⟨t, h⟩ := hI
  dsimp only at h
  have hw' : ∀ (k' ct' : Nat) (c7 c8 c9 c10 : Nat → Int32) (t' : Nat → Nat), ws_SI R v0 m bs N D k' (st + 1) ct' c7 c8 c9 t' → st < 4000 →
      wX_search_47 post n (nI k') (nI (st + 1)) (nI N) (nI D) (nI m) (nI ct') (-1) go 0 gl gh gw gx a1 a2 a3 a4 a5 a6 c7 c8 c9 c10 :=
    fun k' ct' c7 c8 c9 c10 t' h' hst => hw (k', st + 1, ct', c7, c8, c9, c10) ⟨t', h'⟩ (show 4001 - (st + 1) < 4001 - st by omega)
  show wX_search_47 post (n + 1) (nI k) (nI st) (nI N) (nI D) (nI m) (nI ct) (-1) go 0 gl gh gw gx a1 a2 a3 a4 a5 a6 b7 b8 b9 b10
  have hh := h
  obtain ⟨h1, h2, h3, h4, h5, h6', h7⟩ := hh
  have hmp := ws_mu_pos N D t k
  have hst : st < 4000 := by omega
  have ec : (nI k).toNatClampNeg = k := nI_clamp (by omega)
  have htk : t k ≤ D := h4 k (Nat.le_refl _)
  have hct : ct ≤ 500000 := by
    rcases h7 with z | z
    · omega
    · exact z.2.1
  have e9 : upd b9 (nI k).toNatClampNeg (b9 (nI k).toNatClampNeg + 1) = upd b9 k (nI (t k)) := by rw [ec, h3 k (Nat.le_refl _)]
  have e9k : upd b9 k (nI (t k)) (nI k).toNatClampNeg = nI (t k) := by rw [ec, pk_us]
  refine pk_le 4000 st (fun z => absurd z (by omega)) (fun _ => ⟨pk_in k 7 (by omega), pk_in k 7 (by omega), nm_r e9 ⟨pk_in k 7 (by omega), pk_eq (t k) D (fun z => ?_) (fun z => ?_) e9k rfl⟩⟩)
  · cases k with
    | zero =>
      refine nm_r (e' := -1) (by decide) (br_f (by decide) ?_)
      rcases h7 with y | y
      · rw [y]
        exact H _ _ _ _
      · exact absurd z (fun z => ws_nf_0 hbs y.2.2 z)
    | succ k =>
      exact nm_r (pk_m1 k) (br_t (nI_pos' (by omega)) (nm_r (nI_1 st) (hw' k ct b7 b8 _ b10 t (ws_SI_ex hbs h z) hst)))
  · have ht : t k < D := by omega
    have hcB : ws_c R v0 m k t ≤ 3000000 := ws_cB (by omega) hR hmB ht (fun y => h4 v0 (by omega))
    have hcm : m ≤ ws_c R v0 m k t := by
      unfold ws_c
      omega
    have ebit : (((a4 (nI k).toNatClampNeg) >>> ((upd b9 k (nI (t k)) (nI k).toNatClampNeg) &&& 31)) &&& 1) = 1 ↔ ws_bit (a4 k) (t k) := by rw [e9k, ec]
    have eix : (((18 : Int32) * nI k) + (3 * nI k)) + (upd b9 k (nI (t k)) (nI k).toNatClampNeg) = nI (18 * k + 3 * k + t k) := by
      rw [e9k]
      exact ws_i3 k k (t k)
    have ecost : b8 (nI k).toNatClampNeg + b7 ((((18 : Int32) * nI k) + (3 * nI k)) + (upd b9 k (nI (t k)) (nI k).toNatClampNeg)).toNatClampNeg = nI (ws_c R v0 m k t) := by
      rw [eix, ec, nI_clamp (by omega), h5 k (Nat.le_refl _), h6' k k (t k) (Nat.le_refl _) (Nat.le_refl _) h1 ht, nI_add]
      rfl
    have eN : nI N - 1 = nI (N - 1) := pk_sub (b := 1) (by omega)
    refine ⟨pk_in k 6 (by omega), pk_in k 7 (by omega), ek_if ebit (fun hb => ⟨pk_in k 7 (by omega), pk_in k 7 (by omega), pk_in (18 * k + 3 * k + t k) 126 (by omega) eix, nm_r ecost (pk_eq k (N - 1) (fun y => ?_) (fun y => ?_) rfl eN)⟩) (fun hb => nm_r (nI_1 st) (hw' k ct b7 b8 _ b10 (ws_inc t k) (ws_SI_stay hN hD h ht (fun _ _ => rfl) ?_) hst))⟩
    · refine ws_arr hN (by omega) (by omega) (fun x => nm_r (nI_1 st) (hw' k ct b7 b8 _ b10 (ws_inc t k) (ws_SI_stay hN hD h ht (fun _ _ => rfl) ?_) hst)) (fun x s10 => nm_r (nI_1 st) (hw' k (ws_c R v0 m k t) b7 b8 _ s10 (ws_inc t k) (ws_SI_stay hN hD h ht (fun _ _ => rfl) ?_) hst))
      · rcases h7 with u | ⟨u1, u2, u3⟩
        · exact Or.inl u
        · exact Or.inr ⟨u1, u2, fun g => absurd (ws_gold_c (m := m) hR0 g) (by omega), u3⟩
      · rcases h7 with u | ⟨u1, u2, u3⟩
        · exact absurd x (by omega)
        · by_cases q : ws_c R v0 m k t = m
          · exact Or.inl (by omega)
          · exact Or.inr ⟨by omega, by omega, fun g => q (ws_gold_c (m := m) hR0 g), u3⟩
    · refine ws_rem (R := R) (v0 := v0) (b0 := t k) hN hD (by omega) ht pk_us (fun w b q1 q2 q3 => ?_) (fun w a b q1 q2 q3 q4 => h6 k w a b q1 q2 q3 q4) hR (fun w q1 => ?_) (fun s q1 q2 => pk_le ct (ws_c R v0 m k t)
        (fun x => nm_r (nI_1 st) (hw' k ct s b8 _ b10 (ws_inc t k) (ws_SI_stay hN hD h ht q2 ?_) hst))
        (fun x => nm_r (nI_1 k) ⟨pk_in (k + 1) 7 (by omega), nm_r (e' := upd b8 (k + 1) (nI (ws_c R v0 m k t))) (by rw [nI_clamp (by omega)]) ⟨pk_in (k + 1) 7 (by omega), nm_r (e' := upd (upd b9 k (nI (t k))) (k + 1) (-1)) (by rw [nI_clamp (by omega)]) (nm_r (nI_1 st) (hw' (k + 1) ct s _ _ b10 (ws_dn t k) (ws_SI_dn hN hD h ht (by omega) q2 q1 x) hst))⟩⟩) rfl (Int32.add_zero _))
      · rw [h6' k w b (Nat.le_refl _) (by omega) q2 q3, if_neg (by omega)]
      · by_cases q : w = v0
        · exact ⟨bs, hbs, by rw [q]; exact hbit, fun _ => hR0⟩
        · exact ⟨0, by omega, hf w 0 q1 q (by omega), fun x => absurd x q⟩
      · rcases h7 with u | ⟨u1, u2, u3⟩
        · exact Or.inl u
        · exact Or.inr ⟨u1, u2, fun g => absurd (ws_gold_c (m := m) hR0 g) (by omega), u3⟩
    · rcases h7 with u | ⟨u1, u2, u3⟩
      · exact Or.inl u
      · exact Or.inr ⟨u1, u2, fun g => hb (ws_gold_b (by omega) h1 hf hbit u3 g), u3⟩
theorem ws_search {post : St2 → Prop} {go gl gh gw gx : Int32} {a1 a2 a3 a4 a5 a6 a7 a8 a9 a10 : Nat → Int32} {R : Nat → Nat} {v0 m bs N D : Nat} (hN0 : 2 ≤ N) (hN : N ≤ 6) (hD0 : 1 ≤ D) (hD : D ≤ 3) (hv : v0 < N) (hmB : m ≤ 1000000)
    (hR : ∀ b, b < D → R b ≤ 1000000) (hbs : bs < D) (hbit : ws_bit (a4 v0) bs) (hR0 : R bs = 0) (hf : ∀ w b, w < N → w ≠ v0 → b < D → ws_bit (a4 w) b)
    (hgo : ws_go R v0 N D a5 a6)
    (H : ∀ s7 s8 s9 s10, post (nI N, nI D, nI m, nI (min m 500000), -1, go, 0, gl, gh, gw, gx, a1, a2, a3, a4, a5, a6, s7, s8, s9, s10)) :
    wpX_search post (nI N, nI D, nI m, 500000, -1, go, 0, gl, gh, gw, gx, a1, a2, a3, a4, a5, a6, a7, a8, a9, a10) :=
  pk_loop (fun n i s => wX_search_2 post (nI N) (nI D) (nI m) 500000 (-1) go 0 gl gh gw gx n (nI i) a1 a2 a3 a4 a5 a6 s a8 a9 a10) (fun i s => ∀ k, k < i → s k = a5 k) 18 0 a7 (by omega) (fun k hk => absurd hk (by omega))
    (fun n s h => pk_le 18 18 (fun _ => nm_e (nm_e (ws_search47 hN0 hN hD0 hD hv hmB hR hbs hbit hR0 hf hgo.2 H (t0 := fun _ => 0) (by
      refine ⟨by omega, ?_, fun j hj => ?_, fun j hj => Nat.zero_le _, fun j hj => ?_, fun j w b hj hw hw' hb => ?_, ?_⟩
      · have := ws_mu_0 N (by omega) D (by omega)
        unfold ws_mu
        rw [Nat.sub_zero]
        omega
      · have e : j = 0 := by omega
        rw [e, pk_us]
        decide
      · have e : j = 0 := by omega
        rw [e, pk_us, if_neg (by omega)]
        rfl
      · have e : j = 0 := by omega
        rw [e, show 18 * 0 + 3 * w + b = 3 * w + b by omega, h _ (by omega)]
        exact hgo.1 w b hw' hb
      · by_cases z : m < 500000
        · exact Or.inr ⟨z, Nat.le_refl _, fun _ => rfl, fun _ => Or.inl (Nat.zero_le _)⟩
        · exact Or.inl (by omega))))) (fun z => absurd z (by omega)))
    (fun n i s hi h hw => pk_le 18 i (fun z => absurd z (by omega)) (fun _ => ⟨pk_in i 18 (by omega), pk_in i 126 (by omega), nm_e (nm_r (nI_1 i) (hw _ (ws_fill (nI_clamp (by omega)) h (by rw [nI_clamp (by omega)]))))⟩))
theorem ws_best {post : Int32 → St2 → Prop} {gf gc ga go gg gl gh gw gx : Int32} {a1 a2 a3 a4 a5 a6 a7 a8 a9 a10 : Nat → Int32} {S : Nat → Nat} {v0 m bs N D : Nat} (hN0 : 2 ≤ N) (hN : N ≤ 6) (hD0 : 1 ≤ D) (hD : D ≤ 3) (hv : v0 < N)
    (hS : ∀ b, b < D → S b ≤ 1000000) (hm : ws_mn S D m) (h2 : ∀ k, k < 324 → a2 k = 0)
    (hs : ∀ (c4 : Nat → Int32) w b y, c4 w = a3 w → w < N → b < D → ws_sg a1 c4 (3 * w + b) y → y = nI (if w = v0 then S b else 0))
    (hbs : bs < D) (hbit : ws_bit (a3 v0) bs) (hS0 : S bs = m) (hf : ∀ w b, w < N → w ≠ v0 → b < D → ws_bit (a3 w) b)
    (H : ∀ f c a g s4 s5 s6 s7 s8 s9 s10, post (if m < 500000 then nI m else -1) (nI N, nI D, f, c, a, go, g, gl, gh, gw, gx, a1, a2, a3, s4, s5, s6, s7, s8, s9, s10)) :
    wpX_best post (nI N, nI D, gf, gc, ga, go, gg, gl, gh, gw, gx, a1, a2, a3, a4, a5, a6, a7, a8, a9, a10) := by
  have hmB : m ≤ 1000000 := ws_mn_B hm hS
  unfold wpX_best
  refine ws_open hN (fun c4 h4 => ?_)
  dsimp only
  unfold wpX_least
  refine ws_prepare (S := S) (v0 := v0) (m := m) (by omega) hN hD0 hD hv hS hm h2 (fun w b y hw hb hy => hs c4 w b y (h4 w hw) hw hb hy) (fun c5 c6 hgo => ?_)
  dsimp only
  refine ws_search (bs := bs) hN0 hN hD0 hD hv hmB (fun b hb => Nat.le_trans (Nat.sub_le _ _) (hS b hb)) hbs (by rw [h4 v0 hv]; exact hbit) (by rw [hS0]; exact Nat.sub_self m) (fun w b hw hne hb => by rw [h4 w hw]; exact hf w b hw hne hb) hgo (fun s7 s8 s9 s10 => ?_)
  dsimp only
  refine pk_le 500000 (min m 500000) (fun z => ?_) (fun z => ?_)
  · have := H (nI m) (nI (min m 500000)) (-1) 0 c4 c5 c6 s7 s8 s9 s10
    rw [if_neg (by omega)] at this
    exact this
  · have := H (nI m) (nI (min m 500000)) (-1) 0 c4 c5 c6 s7 s8 s9 s10
    rw [if_pos (by omega)] at this
    have e : min m 500000 = m := by omega
    rw [e] at this ⊢
    exact this
end
section
theorem ws_c151 {post : Int32 → St2 → Prop} {J83 : Int32 → Int32 → Prop} {gn gd gf gc ga go gg gl gh gw gx : Int32} {a1 a2 a3 a4 a5 a6 a7 a8 a9 a10 : Nat → Int32} {v : Nat} {x4 : Int32} (hv : v < 6) (h9 : ∀ j, j ≤ v → a9 j = nI 0) (h2 : ∀ k, k < 324 → a2 k = 0)
    (H : J83 x4 (nI (v + 1))) : ∃ fu, wX_costOf_151 post J83 (nI v) gn gd gf gc ga go gg gl gh gw gx a1 a2 a3 a4 a5 a6 a7 a8 a9 a10 fu x4 0 :=
  pk_loop (σ := Unit) (fun n i _ => wX_costOf_151 post J83 (nI v) gn gd gf gc ga go gg gl gh gw gx a1 a2 a3 a4 a5 a6 a7 a8 a9 a10 n x4 (nI i)) (fun _ _ => True) v 0 () (by omega) trivial
    (fun n _ _ => pk_le v v (fun _ => nm_r (nI_1 v) H) (fun z => absurd z (by omega)))
    (fun n i _ hi _ hw => by
      have e1 : (((((6 : Int32) * nI i) + nI v) * 9) + (3 * (a9 (nI i).toNatClampNeg))) + (a9 (nI v).toNatClampNeg) = nI ((6 * i + v) * 9 + 3 * 0 + 0) := by
        rw [nI_clamp (n := i) (by omega), nI_clamp (n := v) (by omega), h9 i (by omega), h9 v (by omega)]
        exact ws_i2 i v 0 0
      have e2 : a2 ((((((6 : Int32) * nI i) + nI v) * 9) + (3 * (a9 (nI i).toNatClampNeg))) + (a9 (nI v).toNatClampNeg)).toNatClampNeg = 0 := by
        rw [e1, nI_clamp (by omega)]
        exact h2 _ (by omega)
      exact pk_le v i (fun z => absurd z (by omega)) (fun _ => ⟨pk_in i 7 (by omega), pk_in v 7 (by omega), pk_in ((6 * i + v) * 9 + 3 * 0 + 0) 324 (by omega) e1, nm_r e2 (br_f (by decide) (nm_r (e' := x4) (Int32.add_zero x4) (nm_r (nI_1 i) (hw () trivial))))⟩))
/-- value 0 of the set x is not in it -/
abbrev ws_z (x : Int32) : Prop := ((x >>> (nI 0 &&& 31)) &&& 1) = 0
theorem ws_c83 {post : Int32 → St2 → Prop} {gd gf gc ga go gg gl gh gw gx : Int32} {a1 a2 a3 a4 a5 a6 a7 a8 a9 a10 : Nat → Int32} {N v0 c : Nat} (hN : N ≤ 6) (hv : v0 < N) (hc : c ≤ 99) (h9 : ∀ j, j < N → a9 j = nI 0) (h2 : ∀ k, k < 324 → a2 k = 0)
    (h1 : ∀ w, w < N → a1 (3 * w) = nI (if w = v0 then c else 0)) (hz : ∀ w, w < N → w ≠ v0 → ¬ ws_z (a3 w))
    (Hs : c = 99 ∨ ws_z (a3 v0) → post (-2) (nI N, gd, gf, gc, ga, go, gg, gl, gh, gw, gx, a1, a2, a3, a4, a5, a6, a7, a8, a9, a10)) (Hn : ¬ (c = 99 ∨ ws_z (a3 v0)) → post (nI c) (nI N, gd, gf, gc, ga, go, gg, gl, gh, gw, gx, a1, a2, a3, a4, a5, a6, a7, a8, a9, a10)) :
    ∃ fu, wX_costOf_83 post (nI N) gd gf gc ga go gg gl gh gw gx a1 a2 a3 a4 a5 a6 a7 a8 a9 a10 fu 0 0 := by
  have main := pk_loop (σ := Unit) (fun n i _ => wX_costOf_83 post (nI N) gd gf gc ga go gg gl gh gw gx a1 a2 a3 a4 a5 a6 a7 a8 a9 a10 n (nI (if v0 < i then c else 0)) (nI i)) (fun i _ => v0 < i → ¬ (c = 99 ∨ ws_z (a3 v0))) N 0 () (by omega) (fun z => absurd z (by omega))
    (fun n _ h => by
      show wX_costOf_83 post (nI N) gd gf gc ga go gg gl gh gw gx a1 a2 a3 a4 a5 a6 a7 a8 a9 a10 (n + 1) (nI (if v0 < N then c else 0)) (nI N)
      rw [if_pos hv]
      exact pk_le N N (fun _ => pk_lt c 500000 (fun _ => Hn (h hv)) (fun z => absurd z (by omega))) (fun z => absurd z (by omega)))
    (fun n i _ hi h hw => by
      have hw' : ∀ y : Nat, y = (if v0 < i + 1 then c else 0) → (v0 < i + 1 → ¬ (c = 99 ∨ ws_z (a3 v0))) → wX_costOf_83 post (nI N) gd gf gc ga go gg gl gh gw gx a1 a2 a3 a4 a5 a6 a7 a8 a9 a10 n (nI y) (nI (i + 1)) := by
        intro y ey hy
        rw [ey]
        exact hw () hy
      show wX_costOf_83 post (nI N) gd gf gc ga go gg gl gh gw gx a1 a2 a3 a4 a5 a6 a7 a8 a9 a10 (n + 1) (nI (if v0 < i then c else 0)) (nI i)
      have ec : (nI i).toNatClampNeg = i := nI_clamp (by omega)
      have e9 : a9 (nI i).toNatClampNeg = nI 0 := by rw [ec]; exact h9 i hi
      have eix : ((3 : Int32) * nI i) + (a9 (nI i).toNatClampNeg) = nI (3 * i + 0) := by rw [e9]; exact ws_i1 i 0
      have e1 : a1 (((3 : Int32) * nI i) + (a9 (nI i).toNatClampNeg)).toNatClampNeg = nI (if i = v0 then c else 0) := by
        rw [eix, nI_clamp (by omega)]
        exact h1 i hi
      have eb : (((a3 (nI i).toNatClampNeg) >>> ((a9 (nI i).toNatClampNeg) &&& 31)) &&& 1) = 0 ↔ ws_z (a3 i) := by rw [e9, ec]
      refine pk_le N i (fun z => absurd z (by omega)) (fun _ => ⟨pk_in i 7 (by omega), pk_in (3 * i + 0) 18 (by omega) eix, nm_r e1 ?_⟩)
      by_cases z : i = v0
      · rw [if_pos z, if_neg (by omega)]
        refine pk_eq c 99 (fun y => Hs (Or.inl y)) (fun y => ⟨pk_in i 6 (by omega), pk_in i 7 (by omega), ek_if eb (fun hb => Hs (Or.inr (by rw [← z]; exact hb))) (fun hb => nm_r (e' := nI c) (by rw [nI_add, Nat.zero_add]) (ws_c151 (by omega) (fun j hj => h9 j (by omega)) h2 (hw' c (by rw [if_pos (by omega)]) (fun _ g => ?_))))⟩)
        rcases g with g | g
        · exact y g
        · rw [← z] at g
          exact hb g
      · rw [if_neg z]
        refine br_f (by decide) ⟨pk_in i 6 (by omega), pk_in i 7 (by omega), ek_if eb (fun hb => absurd hb (hz i hi z)) (fun hb => nm_r (e' := nI (if v0 < i then c else 0)) (by rw [nI_0, Int32.add_zero]) (ws_c151 (by omega) (fun j hj => h9 j (by omega)) h2 (hw' _ ?_ (fun y => h (by omega)))))⟩
        by_cases y : v0 < i
        · rw [if_pos y, if_pos (by omega)]
        · rw [if_neg y, if_neg (by omega)])
  exact main
theorem ws_c46 {post : Int32 → St2 → Prop} {gf gc ga go gg gl gh gw gx : Int32} {a1 a2 a3 a4 a5 a6 a7 a8 a9 a10 : Nat → Int32} {N D : Nat} (hN : N ≤ 6) (hD0 : 1 ≤ D) (hD : D ≤ 3)
    (H : ∀ s, (∀ j, j < N → s j = nI 0) → ∃ fu, wX_costOf_83 post (nI N) (nI D) gf gc ga go gg gl gh gw gx a1 a2 a3 a4 a5 a6 a7 a8 s a10 fu 0 0) :
    ∃ fu, wX_costOf_46 post (nI N) (nI D) gf gc ga go gg gl gh gw gx fu 0 (nI N - 1) a1 a2 a3 a4 a5 a6 a7 a8 a9 a10 := by
  refine ⟨N + 1, pk_loopD (fun n k s => wX_costOf_46 post (nI N) (nI D) gf gc ga go gg gl gh gw gx n 0 (nI k - 1) a1 a2 a3 a4 a5 a6 a7 a8 s a10) (fun k s => k ≤ N ∧ ∀ j, k ≤ j → j < N → s j = nI 0) ?_ ?_ N a9 ⟨Nat.le_refl _, fun j h1 h2 => absurd h2 (by omega)⟩⟩
  · intro n s h
    exact br_t (by decide) (H s (fun j hj => h.2 j (by omega) hj))
  · intro n k s h hw
    have e : nI (k + 1) - 1 = nI k := nI_pred k
    have hd : ¬ nI D = 0 := nI_ne0 (by omega) (by omega)
    have er : (0 : Int32) - 0 / nI D * nI D = nI 0 := by
      have := pk_rem (a := 0) (d := D) (by omega) (by omega) (by omega)
      rw [Nat.zero_mod] at this
      exact this
    have ed : (0 : Int32) / nI D = 0 := by
      have := pk_div (a := 0) (d := D) (by omega) (by omega) (by omega)
      rw [Nat.zero_div] at this
      exact this
    show wX_costOf_46 post (nI N) (nI D) gf gc ga go gg gl gh gw gx (n + 1) 0 (nI (k + 1) - 1) a1 a2 a3 a4 a5 a6 a7 a8 s a10
    rw [e]
    refine br_f (nI_pos (by omega)) ⟨hd, pk_in k 7 (by omega), nm_r (e' := upd s k (nI 0)) (by rw [nI_clamp (by omega), er]) ⟨hd, nm_r ed (nm_r (e' := nI k - 1) (by grind) (hw _ ⟨by omega, fun j h1 h2 => ?_⟩))⟩⟩
    by_cases z : j = k
    · rw [z, pk_us]
    · rw [pk_un z]
      exact h.2 j (by omega) h2
theorem ws_cost {post : Int32 → St2 → Prop} {gf gc ga go gg gl gh gw gx : Int32} {a1 a2 a3 a4 a5 a6 a7 a8 a9 a10 : Nat → Int32} {N D v0 c : Nat} (hN : N ≤ 6) (hD0 : 1 ≤ D) (hD : D ≤ 3) (hv : v0 < N) (hc : c ≤ 99) (h2 : ∀ k, k < 324 → a2 k = 0)
    (h1 : ∀ w, w < N → a1 (3 * w) = nI (if w = v0 then c else 0)) (hz : ∀ w, w < N → w ≠ v0 → ¬ ws_z (a3 w))
    (Hs : c = 99 ∨ ws_z (a3 v0) → ∀ s, post (-2) (nI N, nI D, gf, gc, ga, go, gg, gl, gh, gw, gx, a1, a2, a3, a4, a5, a6, a7, a8, s, a10)) (Hn : ¬ (c = 99 ∨ ws_z (a3 v0)) → ∀ s, post (nI c) (nI N, nI D, gf, gc, ga, go, gg, gl, gh, gw, gx, a1, a2, a3, a4, a5, a6, a7, a8, s, a10)) :
    wpX_costOf post (nI N, nI D, gf, gc, ga, go, gg, gl, gh, gw, gx, a1, a2, a3, a4, a5, a6, a7, a8, a9, a10) 0 :=
  pk_loop (fun n i y => wX_costOf_4 post 0 (nI N) (nI D) gf gc ga go gg gl gh gw gx a1 a2 a3 a4 a5 a6 a7 a8 a9 a10 n (nI y) (nI i)) (fun i y => 1 ≤ y ∧ y ≤ 3 ^ i) N 0 1 (by omega) ⟨by omega, by omega⟩
    (fun n y h => by
      have hy : y ≤ 729 := Nat.le_trans h.2 (Nat.pow_le_pow_right (n := 3) (by omega) hN)
      exact pk_le N N (fun _ => br_f (by decide) (pk_lt 0 y (fun _ => nm_e (ws_c46 hN hD0 hD (fun s hs => ws_c83 hN hv hc hs h2 h1 hz (fun g => Hs g s) (fun g => Hn g s)))) (fun z => absurd h.1 (by omega)))) (fun z => absurd z (by omega)))
    (fun n i y hi h hw => pk_le N i (fun z => absurd z (by omega)) (fun _ => nm_r (pk_mul y D) (nm_r (nI_1 i) (hw _ ⟨Nat.mul_pos h.1 hD0, Nat.mul_le_mul h.2 hD⟩))))
end
section
theorem ws_bitN : ∀ x, x < 8 → ∀ b, b < 3 → (ws_bit (nI x) b ↔ x / 2 ^ b % 2 = 1) := by decide +kernel
theorem ws_zN : ∀ x, x < 8 → (ws_z (nI x) ↔ x % 2 = 0) := by decide +kernel
theorem ws_fb : ∀ D, D < 4 → ∀ b, b < D → (2 ^ D - 1) / 2 ^ b % 2 = 1 := by decide
theorem ws_s0 : ∀ x, x < 8 → ∀ a, a < 3 → (x = 0 ∨ x = 2 ^ a) ∨ (x % 2 = 1 ∧ ¬ 0 = a) ∨ (x / 2 % 2 = 1 ∧ ¬ 1 = a) ∨ (x / 4 % 2 = 1 ∧ ¬ 2 = a) := by decide +kernel
theorem ws_s1 (D : Nat) (hD : D = 2 ∨ D = 3) (x : Nat) (h8 : x < 8) (hx : x < 2 ^ D) (h1 : 1 ≤ x) (a : Nat) (ha : a < D) (h : x ≠ 2 ^ a) : ∃ b, b < D ∧ (x / 2 ^ b % 2 = 1 ∧ b ≠ a) := by
  rcases ws_s0 x h8 a (by omega) with (z | z) | z | z | z
  · omega
  · exact absurd z h
  · exact ⟨0, by omega, by rw [Nat.pow_zero, Nat.div_one]; exact z.1, z.2⟩
  · exact ⟨1, by omega, z.1, z.2⟩
  · refine ⟨2, ?_, z.1, z.2⟩
    rcases hD with e | e
    · rw [e] at hx
      omega
    · omega
theorem ws_s2 : ∀ a, a < 3 → ∀ b, b < 3 → (2 ^ a / 2 ^ b % 2 = 1 ↔ b = a) := by decide
/-- the class's tables: all costs 0 but that of value a0 of variable v0, all sets full but that of v0 -/
def ws_pre (N D v0 a0 c0 z0 : Nat) (a1 a2 a3 : Nat → Int32) : Prop :=
  2 ≤ N ∧ N ≤ 6 ∧ (D = 2 ∨ D = 3) ∧ v0 < N ∧ a0 < D ∧ (c0 ≤ 40 ∨ c0 = 99) ∧ 1 ≤ z0 ∧ z0 < 2 ^ D ∧
  (∀ w b, w < 6 → b < 3 → a1 (3 * w + b) = nI (if w = v0 ∧ b = a0 then c0 else 0)) ∧ (∀ k, k < 324 → a2 k = 0) ∧ (∀ w, w < 6 → a3 w = nI (if w = v0 then z0 else 2 ^ D - 1))
def ws_X (c0 : Nat) : Nat := if c0 = 99 then 1000000 else c0
def ws_S (a0 c0 z0 : Nat) (b : Nat) : Nat := if z0 / 2 ^ b % 2 = 1 then (if b = a0 then ws_X c0 else 0) else 1000000
def ws_M (a0 c0 z0 : Nat) : Nat := if z0 = 2 ^ a0 then ws_X c0 else 0
theorem ws_XB {c0 : Nat} (h : c0 ≤ 40 ∨ c0 = 99) : ws_X c0 ≤ 1000000 := by
  unfold ws_X
  split <;> omega
theorem ws_SB {a0 c0 z0 b : Nat} (h : c0 ≤ 40 ∨ c0 = 99) : ws_S a0 c0 z0 b ≤ 1000000 := by
  have := ws_XB h
  unfold ws_S
  repeat' split
  all_goals omega
theorem ws_mnS {D a0 c0 z0 : Nat} (hD : D = 2 ∨ D = 3) (ha : a0 < D) (hc : c0 ≤ 40 ∨ c0 = 99) (h1 : 1 ≤ z0) (h2 : z0 < 2 ^ D) :
    ws_mn (ws_S a0 c0 z0) D (ws_M a0 c0 z0) ∧ ∃ bs, bs < D ∧ z0 / 2 ^ bs % 2 = 1 ∧ ws_S a0 c0 z0 bs = ws_M a0 c0 z0 := by
  have hX := ws_XB hc
  have hz8 : z0 < 8 := by
    rcases hD with e | e
    · rw [e] at h2; omega
    · rw [e] at h2; omega
  unfold ws_M
  by_cases z : z0 = 2 ^ a0
  · rw [if_pos z]
    have hb : ∀ b, b < D → ws_S a0 c0 z0 b = if b = a0 then ws_X c0 else 1000000 := by
      intro b hb
      have := ws_s2 a0 (by omega) b (by omega)
      unfold ws_S
      rw [z]
      by_cases e : b = a0
      · rw [if_pos (this.mpr e), if_pos e, if_pos e]
      · rw [if_neg (fun q => e (this.mp q)), if_neg e]
    have hb0 : ws_S a0 c0 z0 a0 = ws_X c0 := by rw [hb a0 ha, if_pos rfl]
    refine ⟨⟨fun b hb' => ?_, a0, ha, hb0⟩, a0, ha, ?_, hb0⟩
    · rw [hb b hb']
      split <;> omega
    · rw [z]
      exact (ws_s2 a0 (by omega) a0 (by omega)).mpr rfl
  · rw [if_neg z]
    obtain ⟨b, hb, hb1, hb2⟩ := ws_s1 D hD z0 hz8 h2 h1 a0 ha z
    have e : ws_S a0 c0 z0 b = 0 := by
      unfold ws_S
      rw [if_pos hb1, if_neg hb2]
    exact ⟨⟨fun _ _ => Nat.zero_le _, b, hb, e⟩, b, hb, hb1, e⟩
theorem ws_best2 {post : Int32 → St2 → Prop} {gf gc ga go gg gl gh gw gx : Int32} {a1 a2 a3 a4 a5 a6 a7 a8 a9 a10 : Nat → Int32} {N D v0 a0 c0 z0 : Nat} (hp : ws_pre N D v0 a0 c0 z0 a1 a2 a3)
    (H : ∀ f c a g s4 s5 s6 s7 s8 s9 s10, post (if z0 = 2 ^ a0 then (if c0 = 99 then -1 else nI c0) else 0) (nI N, nI D, f, c, a, go, g, gl, gh, gw, gx, a1, a2, a3, s4, s5, s6, s7, s8, s9, s10)) :
    wpX_best post (nI N, nI D, gf, gc, ga, go, gg, gl, gh, gw, gx, a1, a2, a3, a4, a5, a6, a7, a8, a9, a10) := by
  obtain ⟨p1, p2, p3, p4, p5, p6, p7, p8, p9, p10, p11⟩ := hp
  have hz8 : z0 < 8 := by
    rcases p3 with e | e
    · rw [e] at p8; omega
    · rw [e] at p8; omega
  have hf8 : 2 ^ D - 1 < 8 := by
    rcases p3 with e | e
    · rw [e]; omega
    · rw [e]; omega
  obtain ⟨hm, bs, b1, b2, b3⟩ := ws_mnS p3 p5 p6 p7 p8
  have hbit : ∀ w b, w < N → b < D → (ws_bit (a3 w) b ↔ (if w = v0 then z0 else 2 ^ D - 1) / 2 ^ b % 2 = 1) := by
    intro w b hw hb
    rw [p11 w (by omega)]
    exact ws_bitN _ (by split <;> omega) b (by omega)
  have hful : ∀ w b, w < N → w ≠ v0 → b < D → ws_bit (a3 w) b := by
    intro w b hw hne hb
    rw [hbit w b hw hb, if_neg hne]
    exact ws_fb D (by omega) b hb
  refine ws_best (S := ws_S a0 c0 z0) (m := ws_M a0 c0 z0) (v0 := v0) (bs := bs) p1 p2 (by omega) (by omega) p4 (fun b _ => ws_SB p6) hm p10 ?_ b1 ?_ b3 hful ?_
  · intro c4 w b y e4 hw hb hy
    unfold ws_sg at hy
    have q1 : (3 * w + b) / 3 = w := by omega
    have q2 : (3 * w + b) % 3 = b := by omega
    rw [q1, q2, e4, hbit w b hw hb, p9 w b (by omega) (by omega)] at hy
    by_cases z : w = v0
    · rw [if_pos z] at hy ⊢
      by_cases u : b = a0
      · rw [if_pos ⟨z, u⟩] at hy
        unfold ws_S ws_X
        rcases hy with ⟨y1, y2, y3⟩ | ⟨y1, y2⟩
        · have y4 : ¬ c0 = 99 := fun g => y2 (by rw [g]; rfl)
          rw [if_pos y1, if_pos u, if_neg y4]
          exact y3
        · by_cases g : z0 / 2 ^ b % 2 = 1
          · by_cases g2 : c0 = 99
            · rw [if_pos g, if_pos u, if_pos g2]
              exact y2
            · exact absurd ⟨g, fun g3 => g2 ((nI_eq (b := 99) (by omega) (by omega)).mp g3)⟩ y1
          · rw [if_neg g]
            exact y2
      · rw [if_neg (fun g => u g.2)] at hy
        unfold ws_S
        rcases hy with ⟨y1, y2, y3⟩ | ⟨y1, y2⟩
        · rw [if_pos y1, if_neg u]
          exact y3
        · by_cases g : z0 / 2 ^ b % 2 = 1
          · exact absurd ⟨g, by decide⟩ y1
          · rw [if_neg g]
            exact y2
    · rw [if_neg z, if_neg (fun g => z g.1)] at hy
      rw [if_neg z]
      rcases hy with ⟨y1, y2, y3⟩ | ⟨y1, y2⟩
      · exact y3
      · exact absurd ⟨ws_fb D (by omega) b hb, by decide⟩ y1
  · rw [hbit v0 bs p4 b1, if_pos rfl]
    exact b2
  · intro f c a g s4 s5 s6 s7 s8 s9 s10
    have := H f c a g s4 s5 s6 s7 s8 s9 s10
    have e : (if ws_M a0 c0 z0 < 500000 then nI (ws_M a0 c0 z0) else -1) = (if z0 = 2 ^ a0 then (if c0 = 99 then -1 else nI c0) else (0 : Int32)) := by
      unfold ws_M ws_X
      by_cases z : z0 = 2 ^ a0
      · rw [if_pos z, if_pos z]
        by_cases u : c0 = 99
        · rw [if_pos u, if_pos u, if_neg (by omega)]
        · rw [if_neg u, if_neg u, if_pos (by omega)]
      · rw [if_neg z, if_neg z, if_pos (by omega)]
        rfl
    rw [e]
    exact this
theorem ws_cost2 {post : Int32 → St2 → Prop} {gf gc ga go gg gl gh gw gx : Int32} {a1 a2 a3 a4 a5 a6 a7 a8 a9 a10 : Nat → Int32} {N D v0 a0 c0 z0 : Nat} (hp : ws_pre N D v0 a0 c0 z0 a1 a2 a3)
    (H : ∀ s, post (if z0 % 2 = 0 ∨ (a0 = 0 ∧ c0 = 99) then -2 else (if a0 = 0 then nI c0 else 0)) (nI N, nI D, gf, gc, ga, go, gg, gl, gh, gw, gx, a1, a2, a3, a4, a5, a6, a7, a8, s, a10)) :
    wpX_costOf post (nI N, nI D, gf, gc, ga, go, gg, gl, gh, gw, gx, a1, a2, a3, a4, a5, a6, a7, a8, a9, a10) 0 := by
  obtain ⟨p1, p2, p3, p4, p5, p6, p7, p8, p9, p10, p11⟩ := hp
  have hz8 : z0 < 8 := by
    rcases p3 with e | e
    · rw [e] at p8; omega
    · rw [e] at p8; omega
  have hfo : 2 ^ D - 1 < 8 ∧ (2 ^ D - 1) % 2 = 1 := by
    rcases p3 with e | e
    · rw [e]; omega
    · rw [e]; omega
  have hzv : ws_z (a3 v0) ↔ z0 % 2 = 0 := by
    rw [p11 v0 (by omega), if_pos rfl]
    exact ws_zN z0 hz8
  refine ws_cost (v0 := v0) (c := if a0 = 0 then c0 else 0) p2 (by omega) (by omega) p4 (by split <;> omega) p10 (fun w hw => ?_) (fun w hw hne => ?_) (fun g s => ?_) (fun g s => ?_)
  · have := p9 w 0 (by omega) (by omega)
    rw [Nat.add_zero] at this
    rw [this]
    by_cases z : w = v0
    · by_cases u : a0 = 0
      · rw [if_pos ⟨z, u.symm⟩, if_pos z, if_pos u]
      · rw [if_neg (fun g => u g.2.symm), if_pos z, if_neg u]
    · rw [if_neg (fun g => z g.1), if_neg z]
  · rw [p11 w (by omega), if_neg hne, ws_zN _ hfo.1]
    omega
  · have := H s
    rw [hzv] at g
    rw [if_pos (by
      rcases g with g | g
      · by_cases u : a0 = 0
        · rw [if_pos u] at g
          exact Or.inr ⟨u, g⟩
        · rw [if_neg u] at g
          exact absurd g (by omega)
      · exact Or.inl g)] at this
    exact this
  · have := H s
    rw [hzv] at g
    rw [if_neg (fun q => g (by
      rcases q with q | q
      · exact Or.inr q
      · rw [if_pos q.1]
        exact Or.inl q.2))] at this
    by_cases u : a0 = 0
    · rw [if_pos u] at this ⊢
      exact this
    · rw [if_neg u] at this ⊢
      exact this
end
section
/-- x is in [0, N): the flag y -/
def ws_fv (N : Nat) (x y : Int32) : Prop := (y = 1 ∧ ∃ v, v < N ∧ x = nI v) ∨ (y = 0 ∧ (x < 0 ∨ nI N ≤ x))
/-- x is a cost: the flag y -/
def ws_fc (x y : Int32) : Prop := (y = 1 ∧ ∃ c, (c ≤ 40 ∨ c = 99) ∧ x = nI c) ∨ (y = 0 ∧ ¬ x = 99 ∧ (x < 0 ∨ ¬ x ≤ 40))
/-- x is a set of values: the flag y -/
def ws_fs (D : Nat) (x y : Int32) : Prop := (y = 1 ∧ ∃ s, 1 ≤ s ∧ s < 2 ^ D ∧ x = nI s) ∨ (y = 0 ∧ (x < 1 ∨ (¬ x < 1 ∧ nI (2 ^ D - 1) < x)))
theorem ws_full2 {D : Nat} (hD : D = 2 ∨ D = 3) : ((1 : Int32) <<< (nI D &&& 31)) = nI (2 ^ D) := by
  rcases hD with h | h
  · rw [h]; decide
  · rw [h]; decide
theorem ws_over {D : Nat} {x : Int32} (hD : D = 2 ∨ D = 3) (h : nI (2 ^ D - 1) < x) : ¬ x < ((1 : Int32) <<< (nI D &&& 31)) := by
  rw [ws_full2 hD]
  intro g
  have h1 := Int32.lt_iff_toInt_lt.mp h
  have h2 := Int32.lt_iff_toInt_lt.mp g
  rcases hD with e | e
  · rw [e, nI_toInt (by omega)] at h1 h2
    omega
  · rw [e, nI_toInt (by omega)] at h1 h2
    omega
theorem ws_isVar1 {post : Int32 → Prop} {gd gf gc ga go gg gl gh gw gx : Int32} {a1 a2 a3 a4 a5 a6 a7 a8 a9 a10 : Nat → Int32} {N v : Nat} (hN : N ≤ 6) (hv : v < N) (h : post 1) : wpX_isVar post (nI N, gd, gf, gc, ga, go, gg, gl, gh, gw, gx, a1, a2, a3, a4, a5, a6, a7, a8, a9, a10) (nI v) := br_f (nI_pos (by omega)) (br_f (nI_ge hv (by omega)) h)
theorem ws_isVar0 {post : Int32 → Prop} {gd gf gc ga go gg gl gh gw gx : Int32} {a1 a2 a3 a4 a5 a6 a7 a8 a9 a10 : Nat → Int32} {N : Nat} {x : Int32} (hx : x < 0 ∨ nI N ≤ x) (h : post 0) : wpX_isVar post (nI N, gd, gf, gc, ga, go, gg, gl, gh, gw, gx, a1, a2, a3, a4, a5, a6, a7, a8, a9, a10) x := br_c (fun _ => h) (fun g => br_t (hx.resolve_left g) h)
theorem ws_isVal1 {post : Int32 → Prop} {gn gf gc ga go gg gl gh gw gx : Int32} {a1 a2 a3 a4 a5 a6 a7 a8 a9 a10 : Nat → Int32} {D v : Nat} (hD : D ≤ 6) (hv : v < D) (h : post 1) : wpX_isValue post (gn, nI D, gf, gc, ga, go, gg, gl, gh, gw, gx, a1, a2, a3, a4, a5, a6, a7, a8, a9, a10) (nI v) := br_f (nI_pos (by omega)) (br_f (nI_ge hv (by omega)) h)
theorem ws_isVal0 {post : Int32 → Prop} {gn gf gc ga go gg gl gh gw gx : Int32} {a1 a2 a3 a4 a5 a6 a7 a8 a9 a10 : Nat → Int32} {D : Nat} {x : Int32} (hx : x < 0 ∨ nI D ≤ x) (h : post 0) : wpX_isValue post (gn, nI D, gf, gc, ga, go, gg, gl, gh, gw, gx, a1, a2, a3, a4, a5, a6, a7, a8, a9, a10) x := br_c (fun _ => h) (fun g => br_t (hx.resolve_left g) h)
theorem ws_isCost1 {post : Int32 → Prop} {c : Nat} (hc : c ≤ 40 ∨ c = 99) (h : post 1) : wpX_isCost post () (nI c) := by
  refine br_f (nI_pos (by omega)) (pk_le c 40 (fun _ => h) (fun z => br_t ?_ h))
  have e : c = 99 := by omega
  rw [e]
  rfl
theorem ws_isCost0 {post : Int32 → Prop} {x : Int32} (h9 : ¬ x = 99) (hx : x < 0 ∨ ¬ x ≤ 40) (h : post 0) : wpX_isCost post () x :=
  br_c (fun _ => br_f h9 h) (fun g => br_f (hx.resolve_left g) (br_f h9 h))
theorem ws_unary {post : Int32 → St2 → Prop} {gf gc ga go gg gl gh gw gx : Int32} {a1 a2 a3 a4 a5 a6 a7 a8 a9 a10 : Nat → Int32} {N D : Nat} {x2 x3 x4 x9 x10 x11 : Int32} (hN : N ≤ 6) (hD : D ≤ 3) (h9 : ws_fv N x2 x9) (h10 : ws_fv D x3 x10) (h11 : ws_fc x4 x11) (h1 : ∀ k, k < 18 → a1 k = 0)
    (H1 : x9 = 0 → post (-1) (nI N, nI D, gf, gc, ga, go, gg, gl, gh, gw, gx, a1, a2, a3, a4, a5, a6, a7, a8, a9, a10)) (H2 : x9 = 1 → x10 = 0 → post (-2) (nI N, nI D, gf, gc, ga, go, gg, gl, gh, gw, gx, a1, a2, a3, a4, a5, a6, a7, a8, a9, a10)) (H3 : x9 = 1 → x10 = 1 → x11 = 0 → post (-3) (nI N, nI D, gf, gc, ga, go, gg, gl, gh, gw, gx, a1, a2, a3, a4, a5, a6, a7, a8, a9, a10))
    (H4 : ∀ v a c, x9 = 1 → x10 = 1 → x11 = 1 → v < N → a < D → (c ≤ 40 ∨ c = 99) → x2 = nI v → x3 = nI a → x4 = nI c → post 0 (nI N, nI D, gf, gc, ga, go, gg, gl, gh, gw, gx, upd a1 (3 * v + a) (nI c), a2, a3, a4, a5, a6, a7, a8, a9, a10)) :
    wpX_unary post (nI N, nI D, gf, gc, ga, go, gg, gl, gh, gw, gx, a1, a2, a3, a4, a5, a6, a7, a8, a9, a10) x2 x3 x4 := by
  unfold wpX_unary
  rcases h9 with ⟨e9, v, hv, ev⟩ | ⟨e9, hx⟩
  · rw [ev]
    refine ws_isVar1 hN hv (br_f (by decide) ?_)
    rcases h10 with ⟨e10, a, ha, ea⟩ | ⟨e10, hx⟩
    · rw [ea]
      refine ws_isVal1 (by omega) ha (br_f (by decide) ?_)
      rcases h11 with ⟨e11, c, hc, ec⟩ | ⟨e11, hx, hx2⟩
      · rw [ec]
        refine ws_isCost1 hc (br_f (by decide) ⟨pk_in (3 * v + a) 18 (by omega) (ws_i1 v a), nm_r (e' := 0) (by rw [ws_i1, nI_clamp (by omega)]; exact h1 _ (by omega)) ⟨pk_in (3 * v + a) 18 (by omega) (ws_i1 v a), nm_r (e' := upd a1 (3 * v + a) (nI c)) (by rw [ws_i1, nI_clamp (by omega)]) (H4 v a c e9 e10 e11 hv ha hc ev ea ec)⟩⟩)
      · exact ws_isCost0 hx hx2 (br_t rfl (H3 e9 e10 e11))
    · exact ws_isVal0 hx (br_t rfl (H2 e9 e10))
  · exact ws_isVar0 hx (br_t rfl (H1 e9))
theorem ws_uCost {post : Int32 → Prop} {gf gc ga go gg gl gh gw gx : Int32} {a1 a2 a3 a4 a5 a6 a7 a8 a9 a10 : Nat → Int32} {N D : Nat} {x2 x3 x9 x10 : Int32} (hN : N ≤ 6) (hD : D ≤ 3) (h9 : ws_fv N x2 x9) (h10 : ws_fv D x3 x10)
    (H1 : x9 = 0 → post (-1)) (H2 : x9 = 1 → x10 = 0 → post (-1)) (H3 : ∀ v a, x9 = 1 → x10 = 1 → v < N → a < D → x2 = nI v → x3 = nI a → post (a1 (3 * v + a))) :
    wpX_unaryCost post (nI N, nI D, gf, gc, ga, go, gg, gl, gh, gw, gx, a1, a2, a3, a4, a5, a6, a7, a8, a9, a10) x2 x3 := by
  unfold wpX_unaryCost
  rcases h9 with ⟨e9, v, hv, ev⟩ | ⟨e9, hx⟩
  · rw [ev]
    refine ws_isVar1 hN hv (br_f (by decide) ?_)
    rcases h10 with ⟨e10, a, ha, ea⟩ | ⟨e10, hx⟩
    · rw [ea]
      refine ws_isVal1 (by omega) ha (br_f (by decide) ⟨pk_in (3 * v + a) 18 (by omega) (ws_i1 v a), ?_⟩)
      rw [ws_i1, nI_clamp (by omega)]
      exact H3 v a e9 e10 hv ha ev ea
    · exact ws_isVal0 hx (br_t rfl (H2 e9 e10))
  · exact ws_isVar0 hx (br_t rfl (H1 e9))
theorem ws_allow {post : Int32 → St2 → Prop} {gf gc ga go gg gl gh gw gx : Int32} {a1 a2 a3 a4 a5 a6 a7 a8 a9 a10 : Nat → Int32} {N D : Nat} {x2 x5 x9 x14 : Int32} (hN : N ≤ 6) (hD : D = 2 ∨ D = 3) (h9 : ws_fv N x2 x9) (h14 : ws_fs D x5 x14) (h3 : ∀ w, w < 6 → a3 w = nI (2 ^ D - 1))
    (H1 : x9 = 0 → post (-1) (nI N, nI D, gf, gc, ga, go, gg, gl, gh, gw, gx, a1, a2, a3, a4, a5, a6, a7, a8, a9, a10)) (H2 : x9 = 1 → x14 = 0 → post (-2) (nI N, nI D, gf, gc, ga, go, gg, gl, gh, gw, gx, a1, a2, a3, a4, a5, a6, a7, a8, a9, a10))
    (H3 : ∀ v s, x9 = 1 → x14 = 1 → v < N → 1 ≤ s → s < 2 ^ D → x2 = nI v → x5 = nI s → post (nI (2 ^ D - 1)) (nI N, nI D, gf, gc, ga, go, gg, gl, gh, gw, gx, a1, a2, upd a3 v (nI s), a4, a5, a6, a7, a8, a9, a10)) :
    wpX_allow post (nI N, nI D, gf, gc, ga, go, gg, gl, gh, gw, gx, a1, a2, a3, a4, a5, a6, a7, a8, a9, a10) x2 x5 := by
  unfold wpX_allow
  rcases h9 with ⟨e9, v, hv, ev⟩ | ⟨e9, hx⟩
  · rw [ev]
    refine ws_isVar1 hN hv (br_f (by decide) ?_)
    rcases h14 with ⟨e14, s, hs1, hs2, es⟩ | ⟨e14, hx⟩
    · rw [es]
      have h8 : 2 ^ D ≤ 8 := by
        rcases hD with e | e
        · rw [e]; omega
        · rw [e]; omega
      refine br_f (nI_nlt (b := 1) hs1 (by omega)) (br_t (by rw [ws_full2 hD]; exact nI_lt hs2 (by omega)) ⟨pk_in v 6 (by omega), nm_r (e' := nI (2 ^ D - 1)) (by rw [nI_clamp (by omega)]; exact h3 v (by omega)) ⟨pk_in v 6 (by omega), nm_r (e' := upd a3 v (nI s)) (by rw [nI_clamp (by omega)]) (H3 v s e9 e14 hv hs1 hs2 ev es)⟩⟩)
    · exact br_c (fun _ => H2 e9 e14) (fun g => br_f (ws_over hD (hx.resolve_left g).2) (H2 e9 e14))
  · exact ws_isVar0 hx (br_t rfl (H1 e9))
end
section
/-- what best answers -/
def ws_rb (a0 c0 z0 : Nat) : Int32 := if z0 = 2 ^ a0 then (if c0 = 99 then -1 else nI c0) else 0
/-- what costOf(0) answers -/
def ws_rc (a0 c0 z0 : Nat) : Int32 := if z0 % 2 = 0 ∨ (a0 = 0 ∧ c0 = 99) then -2 else (if a0 = 0 then nI c0 else 0)
theorem ws_L358 {post : Int32 → St0 → Prop} {mc ms kc ks : Nat} {gf gc ga go gg gl gh gw gx : Int32} {a1 a2 a3 a4 a5 a6 a7 a8 a9 a10 : Nat → Int32} {N D v0 a0 c0 z0 : Nat} {x3 x12 z : Int32} (hp : ws_pre N D v0 a0 c0 z0 a1 a2 a3) (hP : post 1 ())
    (h : (z = 0 ∧ (x3 = 0 → ws_rc a0 c0 z0 = x12) ∧ (¬ x3 = 0 → ws_rc a0 c0 z0 = 0)) ∨ (z = 1 ∧ ws_rc a0 c0 z0 = -2)) :
    wL_lawOf_358 post mc ms x3 x12 z kc ks (nI N) (nI D) gf gc ga go gg gl gh gw gx a1 a2 a3 a4 a5 a6 a7 a8 a9 a10 := by
  unfold wL_lawOf_358
  refine ws_cost2 hp (fun s => ?_)
  rcases h with ⟨hz, h1, h2⟩ | ⟨hz, h1⟩
  · exact br_t hz (br_c (fun g => br_t (h1 g) hP) (fun g => br_t (h2 g) hP))
  · exact br_f (by rw [hz]; decide) (br_t h1 hP)
theorem ws_L342 {post : Int32 → St0 → Prop} {mc ms kc ks : Nat} {gf gc ga go gg gl gh gw gx : Int32} {a1 a2 a3 a4 a5 a6 a7 a8 a9 a10 : Nat → Int32} {N D v0 a0 c0 z0 : Nat} {x3 x12 : Int32} (hp : ws_pre N D v0 a0 c0 z0 a1 a2 a3) (hP : post 1 ())
    (h1 : x3 = 0 → x12 = 99 → ws_rc a0 c0 z0 = -2) (h2 : ¬ (x3 = 0 ∧ x12 = 99) → (x3 = 0 → ws_rc a0 c0 z0 = x12) ∧ (¬ x3 = 0 → ws_rc a0 c0 z0 = 0)) :
    wL_lawOf_342 post mc ms x3 x12 kc ks (nI N) (nI D) gf gc ga go gg gl gh gw gx a1 a2 a3 a4 a5 a6 a7 a8 a9 a10 :=
  br_c (fun g => br_c (fun g2 => ws_L358 (z := 1) hp hP (Or.inr ⟨rfl, h1 g g2⟩)) (fun g2 => ws_L358 (z := 0) hp hP (Or.inl ⟨rfl, h2 (fun q => g2 q.2)⟩))) (fun g => ws_L358 (z := 0) hp hP (Or.inl ⟨rfl, h2 (fun q => g q.1)⟩))
theorem ws_L320 {post : Int32 → St0 → Prop} {mc ms kc ks : Nat} {gf gc ga go gg gl gh gw gx : Int32} {a1 a2 a3 a4 a5 a6 a7 a8 a9 a10 : Nat → Int32} {N D v0 a0 c0 z0 : Nat} {x3 x5 x9 x12 x14 y : Int32} (hp : ws_pre N D v0 a0 c0 z0 a1 a2 a3) (hP : post 1 ())
    (hs : ¬ x9 = 0 → ¬ x14 = 0 → x5 &&& 1 = 0 → ws_rc a0 c0 z0 = -2) (h1 : x3 = 0 → x12 = 99 → ws_rc a0 c0 z0 = -2)
    (h2 : ¬ (¬ x9 = 0 ∧ ¬ x14 = 0 ∧ x5 &&& 1 = 0) → ¬ (x3 = 0 ∧ x12 = 99) → (x3 = 0 → ws_rc a0 c0 z0 = x12) ∧ (¬ x3 = 0 → ws_rc a0 c0 z0 = 0)) :
    wL_lawOf_320 post mc ms x3 x5 x9 x12 x14 y y kc ks (nI N) (nI D) gf gc ga go gg gl gh gw gx a1 a2 a3 a4 a5 a6 a7 a8 a9 a10 :=
  br_t rfl (br_c (fun g => ws_L342 hp hP h1 (h2 (fun q => q.1 g))) (fun g => br_c (fun g2 => ws_L342 hp hP h1 (h2 (fun q => q.2.1 g2))) (fun g2 => br_c (fun g3 => ws_L358 (z := 1) hp hP (Or.inr ⟨rfl, hs g g2 g3⟩)) (fun g3 => ws_L342 hp hP h1 (h2 (fun q => g3 q.2.2))))))
theorem ws_L291 {post : Int32 → St0 → Prop} {mc ms kc ks : Nat} {gf gc ga go gg gl gh gw gx : Int32} {a1 a2 a3 a4 a5 a6 a7 a8 a9 a10 : Nat → Int32} {N D v0 a0 c0 z0 : Nat} {x3 x5 x9 x12 x14 z : Int32} (hp : ws_pre N D v0 a0 c0 z0 a1 a2 a3) (hP : post 1 ())
    (hs : ¬ x9 = 0 → ¬ x14 = 0 → x5 &&& 1 = 0 → ws_rc a0 c0 z0 = -2) (h1 : x3 = 0 → x12 = 99 → ws_rc a0 c0 z0 = -2)
    (h2 : ¬ (¬ x9 = 0 ∧ ¬ x14 = 0 ∧ x5 &&& 1 = 0) → ¬ (x3 = 0 ∧ x12 = 99) → (x3 = 0 → ws_rc a0 c0 z0 = x12) ∧ (¬ x3 = 0 → ws_rc a0 c0 z0 = 0))
    (hz : (z = 0 ∧ ws_rb a0 c0 z0 = 0) ∨ (z = 1 ∧ (x12 = 99 → ws_rb a0 c0 z0 = -1) ∧ (¬ x12 = 99 → ws_rb a0 c0 z0 = x12))) :
    wL_lawOf_291 post mc ms x3 x5 x9 x12 x14 z kc ks (nI N) (nI D) gf gc ga go gg gl gh gw gx a1 a2 a3 a4 a5 a6 a7 a8 a9 a10 := by
  unfold wL_lawOf_291
  refine ws_best2 hp (fun f c a g s4 s5 s6 s7 s8 s9 s10 => ?_)
  have key : ∀ y : Int32, ws_rb a0 c0 z0 = y → wL_lawOf_320 post mc ms x3 x5 x9 x12 x14 y (ws_rb a0 c0 z0) kc ks (nI N) (nI D) f c a go g gl gh gw gx a1 a2 a3 s4 s5 s6 s7 s8 s9 s10 := by
    intro y hy
    rw [hy]
    exact ws_L320 hp hP hs h1 h2
  rcases hz with ⟨hz, h⟩ | ⟨hz, ha, hb⟩
  · exact br_t hz (key 0 h)
  · exact br_f (by rw [hz]; decide) (br_c (fun q => key (-1) (ha q)) (fun q => key x12 (hb q)))
theorem ws_L258 {post : Int32 → St0 → Prop} {mc ms kc ks : Nat} {gf gc ga go gg gl gh gw gx : Int32} {a1 a2 a3 a4 a5 a6 a7 a8 a9 a10 : Nat → Int32} {N D v0 a0 c0 z0 : Nat} {x3 x5 x9 x10 x12 x14 y : Int32} (hp : ws_pre N D v0 a0 c0 z0 a1 a2 a3) (hP : post 1 ())
    (hs : ¬ x9 = 0 → ¬ x14 = 0 → x5 &&& 1 = 0 → ws_rc a0 c0 z0 = -2) (h1 : x3 = 0 → x12 = 99 → ws_rc a0 c0 z0 = -2)
    (h2 : ¬ (¬ x9 = 0 ∧ ¬ x14 = 0 ∧ x5 &&& 1 = 0) → ¬ (x3 = 0 ∧ x12 = 99) → (x3 = 0 → ws_rc a0 c0 z0 = x12) ∧ (¬ x3 = 0 → ws_rc a0 c0 z0 = 0))
    (ho : ¬ x9 = 0 → ¬ x10 = 0 → ¬ x14 = 0 → x5 = ((1 : Int32) <<< (x3 &&& 31)) → (x12 = 99 → ws_rb a0 c0 z0 = -1) ∧ (¬ x12 = 99 → ws_rb a0 c0 z0 = x12))
    (hn : ¬ (¬ x9 = 0 ∧ ¬ x10 = 0 ∧ ¬ x14 = 0 ∧ x5 = ((1 : Int32) <<< (x3 &&& 31))) → ws_rb a0 c0 z0 = 0) :
    wL_lawOf_258 post mc ms x3 x5 x9 x10 x12 x14 y y kc ks (nI N) (nI D) gf gc ga go gg gl gh gw gx a1 a2 a3 a4 a5 a6 a7 a8 a9 a10 := by
  have k0 : ¬ (¬ x9 = 0 ∧ ¬ x10 = 0 ∧ ¬ x14 = 0 ∧ x5 = ((1 : Int32) <<< (x3 &&& 31))) → wL_lawOf_290 post mc ms x3 x5 x9 x12 x14 kc ks (nI N) (nI D) gf gc ga go gg gl gh gw gx a1 a2 a3 a4 a5 a6 a7 a8 a9 a10 :=
    fun g => ws_L291 (z := 0) hp hP hs h1 h2 (Or.inl ⟨rfl, hn g⟩)
  exact br_t rfl (br_c (fun g => k0 (fun q => q.1 g)) (fun g9 => br_c (fun g => k0 (fun q => q.2.1 g)) (fun g10 => br_c (fun g => k0 (fun q => q.2.2.1 g)) (fun g14 => br_c (fun g5 => ws_L291 (z := 1) hp hP hs h1 h2 (Or.inr ⟨rfl, ho g9 g10 g14 g5⟩)) (fun g => k0 (fun q => g q.2.2.2))))))
theorem ws_L227 {post : Int32 → St0 → Prop} {mc ms kc ks : Nat} {gf gc ga go gg gl gh gw gx : Int32} {a1 a2 a3 a4 a5 a6 a7 a8 a9 a10 : Nat → Int32} {N D : Nat} {x2 x3 x5 x9 x10 x12 x14 : Int32} (hN : N ≤ 6) (hD : D = 2 ∨ D = 3) (h9 : ws_fv N x2 x9) (h14 : ws_fs D x5 x14) (h3 : ∀ w, w < 6 → a3 w = nI (2 ^ D - 1))
    (K1 : ∀ y, x9 = 0 ∨ x14 = 0 → wL_lawOf_258 post mc ms x3 x5 x9 x10 x12 x14 y y kc ks (nI N) (nI D) gf gc ga go gg gl gh gw gx a1 a2 a3 a4 a5 a6 a7 a8 a9 a10)
    (K2 : ∀ y v s, x9 = 1 → x14 = 1 → v < N → 1 ≤ s → s < 2 ^ D → x2 = nI v → x5 = nI s → wL_lawOf_258 post mc ms x3 x5 x9 x10 x12 x14 y y kc ks (nI N) (nI D) gf gc ga go gg gl gh gw gx a1 a2 (upd a3 v (nI s)) a4 a5 a6 a7 a8 a9 a10) :
    wL_lawOf_227 post mc ms x2 x3 x5 x9 x10 x12 (nI (2 ^ D - 1)) x14 kc ks (nI N) (nI D) gf gc ga go gg gl gh gw gx a1 a2 a3 a4 a5 a6 a7 a8 a9 a10 := by
  unfold wL_lawOf_227
  refine ws_allow hN hD h9 h14 h3 (fun g => br_t g (K1 _ (Or.inl g))) (fun g g2 => br_f (by rw [g]; decide) (br_t g2 (K1 _ (Or.inr g2)))) (fun v s g g2 q1 q2 q3 q4 q5 => br_f (by rw [g]; decide) (br_f (by rw [g2]; decide) (K2 _ v s g g2 q1 q2 q3 q4 q5)))
theorem ws_L196 {post : Int32 → St0 → Prop} {mc ms kc ks : Nat} {gf gc ga go gg gl gh gw gx : Int32} {a1 a2 a3 a4 a5 a6 a7 a8 a9 a10 : Nat → Int32} {N D : Nat} {x2 x3 x5 x9 x10 x12 y : Int32} (hD : D = 2 ∨ D = 3)
    (K : ∀ z, ws_fs D x5 z → wL_lawOf_227 post mc ms x2 x3 x5 x9 x10 x12 (nI (2 ^ D - 1)) z kc ks (nI N) (nI D) gf gc ga go gg gl gh gw gx a1 a2 a3 a4 a5 a6 a7 a8 a9 a10) :
    wL_lawOf_196 post mc ms x2 x3 x5 (nI D) x9 x10 x12 y y kc ks (nI N) (nI D) gf gc ga go gg gl gh gw gx a1 a2 a3 a4 a5 a6 a7 a8 a9 a10 := by
  refine br_t rfl (nm_r (ws_full hD) (br_c (fun g => K 0 (Or.inr ⟨rfl, Or.inl g⟩)) (fun g => br_c (fun g2 => K 0 (Or.inr ⟨rfl, Or.inr ⟨g, g2⟩⟩)) (fun g2 => K 1 (Or.inl ⟨rfl, ?_⟩)))))
  have h0 : ¬ x5 < 0 := by
    intro q
    have q1 := Int32.lt_iff_toInt_lt.mp q
    refine g (Int32.lt_iff_toInt_lt.mpr ?_)
    have e0 : (0 : Int32).toInt = 0 := by decide
    have e1 : (1 : Int32).toInt = 1 := by decide
    omega
  have h8 : 2 ^ D ≤ 8 ∧ 4 ≤ 2 ^ D := by
    rcases hD with e | e
    · rw [e]; omega
    · rw [e]; omega
  obtain ⟨j, hj, ej⟩ := nI_of h0
  rw [ej] at g g2
  refine ⟨j, ?_, ?_, ej⟩
  · by_cases q : 1 ≤ j
    · exact q
    · exact absurd (show nI j < nI 1 from nI_lt (by omega) (by omega)) g
  · by_cases q : j < 2 ^ D
    · exact q
    · exact absurd (nI_lt (a := 2 ^ D - 1) (b := j) (by omega) hj) g2
theorem ws_L171 {post : Int32 → St0 → Prop} {mc ms kc ks : Nat} {gf gc ga go gg gl gh gw gx : Int32} {a1 a2 a3 a4 a5 a6 a7 a8 a9 a10 : Nat → Int32} {N D : Nat} {x2 x3 x5 x9 x10 x12 : Int32} (hN : N ≤ 6) (hD : D = 2 ∨ D = 3) (h9 : ws_fv N x2 x9) (h10 : ws_fv D x3 x10) (h3 : ∀ w, w < 6 → a3 w = nI (2 ^ D - 1))
    (hA : ∀ v a, v < N → a < D → x2 = nI v → x3 = nI a → a1 (3 * v + a) = x12)
    (K1 : ∀ x14 y, ws_fs D x5 x14 → x9 = 0 ∨ x14 = 0 → wL_lawOf_258 post mc ms x3 x5 x9 x10 x12 x14 y y kc ks (nI N) (nI D) gf gc ga go gg gl gh gw gx a1 a2 a3 a4 a5 a6 a7 a8 a9 a10)
    (K2 : ∀ x14 y v s, x9 = 1 → x14 = 1 → v < N → 1 ≤ s → s < 2 ^ D → x2 = nI v → x5 = nI s → wL_lawOf_258 post mc ms x3 x5 x9 x10 x12 x14 y y kc ks (nI N) (nI D) gf gc ga go gg gl gh gw gx a1 a2 (upd a3 v (nI s)) a4 a5 a6 a7 a8 a9 a10) :
    wL_lawOf_171 post mc ms x2 x3 x5 (nI D) x9 x10 x12 kc ks (nI N) (nI D) gf gc ga go gg gl gh gw gx a1 a2 a3 a4 a5 a6 a7 a8 a9 a10 := by
  unfold wL_lawOf_171
  have key : ∀ y, wL_lawOf_196 post mc ms x2 x3 x5 (nI D) x9 x10 x12 y y kc ks (nI N) (nI D) gf gc ga go gg gl gh gw gx a1 a2 a3 a4 a5 a6 a7 a8 a9 a10 :=
    fun y => ws_L196 hD (fun z hz => ws_L227 hN hD h9 hz h3 (fun y q => K1 z y hz q) (fun y v s q1 q2 => K2 z y v s q1 q2))
  refine ws_uCost hN (by omega) h9 h10 (fun g => br_t g (key (-1))) (fun g g2 => br_f (by rw [g]; decide) (br_t g2 (key (-1)))) (fun v a g g2 q1 q2 q3 q4 => br_f (by rw [g]; decide) (br_f (by rw [g2]; decide) ?_))
  rw [hA v a q1 q2 q3 q4]
  exact key x12
end
section
theorem ws_sh : ∀ a, a < 3 → ((1 : Int32) <<< (nI a &&& 31)) = nI (2 ^ a) := by decide
theorem ws_and1 : ∀ s, s < 8 → ((nI s &&& 1) = 0 ↔ s % 2 = 0) := by decide +kernel
theorem ws_2D {D : Nat} (hD : D = 2 ∨ D = 3) : 2 ^ D ≤ 8 ∧ 4 ≤ 2 ^ D ∧ (2 ^ D - 1) % 2 = 1 := by
  rcases hD with e | e
  · rw [e]; omega
  · rw [e]; omega
theorem ws_2a : ∀ a, a < 3 → 2 ^ a ≠ 3 ∧ 2 ^ a ≠ 7 := by decide
theorem ws_nfull {D a : Nat} (hD : D = 2 ∨ D = 3) (ha : a < D) : ¬ 2 ^ D - 1 = 2 ^ a := by
  have h := ws_2a a (by omega)
  rcases hD with e | e
  · rw [e]; omega
  · rw [e]; omega
theorem ws_rb0 (a z : Nat) : ws_rb a 0 z = 0 := by
  unfold ws_rb
  rw [if_neg (show ¬ (0 : Nat) = 99 by decide)]
  split <;> rfl
theorem ws_rc0e {z : Nat} (h : z % 2 = 0) : ws_rc 0 0 z = -2 := by
  unfold ws_rc
  rw [if_pos (Or.inl h)]
theorem ws_rc0o {z : Nat} (h : ¬ z % 2 = 0) : ws_rc 0 0 z = 0 := by
  unfold ws_rc
  rw [if_neg (by omega), if_pos rfl]
  rfl
theorem ws_a3u {a3 : Nat → Int32} {D v s : Nat} (h3 : ∀ w, w < 6 → a3 w = nI (2 ^ D - 1)) : ∀ w, w < 6 → upd a3 v (nI s) w = nI (if w = v then s else 2 ^ D - 1) := by
  intro w hw
  by_cases z : w = v
  · rw [z, pk_us, if_pos rfl]
  · rw [pk_un z, if_neg z]
    exact h3 w hw
theorem ws_a3f {a3 : Nat → Int32} {D v : Nat} (h3 : ∀ w, w < 6 → a3 w = nI (2 ^ D - 1)) : ∀ w, w < 6 → a3 w = nI (if w = v then 2 ^ D - 1 else 2 ^ D - 1) := by
  intro w hw
  rw [h3 w hw]
  split <;> rfl
theorem ws_a1z {a1 : Nat → Int32} {v : Nat} (h1 : ∀ k, k < 18 → a1 k = 0) : ∀ w b, w < 6 → b < 3 → a1 (3 * w + b) = nI (if w = v ∧ b = 0 then 0 else 0) := by
  intro w b hw hb
  rw [h1 _ (by omega)]
  split <;> rfl
theorem ws_a1u {a1 : Nat → Int32} {v a c : Nat} (ha : a < 3) (h1 : ∀ k, k < 18 → a1 k = 0) : ∀ w b, w < 6 → b < 3 → upd a1 (3 * v + a) (nI c) (3 * w + b) = nI (if w = v ∧ b = a then c else 0) := by
  intro w b hw hb
  by_cases z : w = v ∧ b = a
  · rw [z.1, z.2, pk_us, if_pos ⟨rfl, rfl⟩]
  · rw [pk_un (by omega), if_neg z, h1 _ (by omega)]
    rfl
theorem ws_L104z {post : Int32 → St0 → Prop} {mc ms kc ks : Nat} {gf gc ga go gg gl gh gw gx : Int32} {a1 a2 a3 a4 a5 a6 a7 a8 a9 a10 : Nat → Int32} {N D : Nat} {x2 x3 x5 x9 x10 : Int32} (hN0 : 2 ≤ N) (hN : N ≤ 6) (hD : D = 2 ∨ D = 3) (h9 : ws_fv N x2 x9) (h10 : ws_fv D x3 x10)
    (h1 : ∀ k, k < 18 → a1 k = 0) (h2 : ∀ k, k < 324 → a2 k = 0) (h3 : ∀ w, w < 6 → a3 w = nI (2 ^ D - 1)) (hP : post 1 ()) :
    wL_lawOf_171 post mc ms x2 x3 x5 (nI D) x9 x10 0 kc ks (nI N) (nI D) gf gc ga go gg gl gh gw gx a1 a2 a3 a4 a5 a6 a7 a8 a9 a10 := by
  have h8 := ws_2D hD
  have h99 : ¬ (0 : Int32) = 99 := by decide
  refine ws_L171 hN hD h9 h10 h3 (fun v a hv ha _ _ => h1 _ (by omega)) (fun x14 y _ q => ?_) (fun x14 y v s q9 q14 hv hs1 hs2 ev es => ?_)
  · have hp : ws_pre N D 0 0 0 (2 ^ D - 1) a1 a2 a3 := ⟨hN0, hN, hD, by omega, by omega, by omega, by omega, by omega, ws_a1z h1, h2, ws_a3f h3⟩
    have rc : ws_rc 0 0 (2 ^ D - 1) = 0 := ws_rc0o (by omega)
    exact ws_L258 hp hP (fun g g2 _ => absurd q (fun w => w.elim g g2)) (fun _ g => absurd g h99) (fun _ _ => ⟨fun _ => rc, fun _ => rc⟩) (fun _ _ _ _ => ⟨fun g => absurd g h99, fun _ => ws_rb0 _ _⟩) (fun _ => ws_rb0 _ _)
  · have hp : ws_pre N D v 0 0 s a1 a2 (upd a3 v (nI s)) := ⟨hN0, hN, hD, hv, by omega, by omega, hs1, hs2, ws_a1z h1, h2, ws_a3u h3⟩
    have hb := ws_and1 s (by omega)
    refine ws_L258 hp hP (fun _ _ g => ?_) (fun _ g => absurd g h99) (fun g _ => ?_) (fun _ _ _ _ => ⟨fun g => absurd g h99, fun _ => ws_rb0 _ _⟩) (fun _ => ws_rb0 _ _)
    · rw [es, hb] at g
      exact ws_rc0e g
    · have ho : ¬ s % 2 = 0 := fun w => g ⟨by rw [q9]; decide, by rw [q14]; decide, by rw [es]; exact hb.mpr w⟩
      exact ⟨fun _ => ws_rc0o ho, fun _ => ws_rc0o ho⟩
theorem ws_rcS {a c z : Nat} (ha : a < 3) (hc : c ≤ 99) (hz : ¬ z % 2 = 0) : (nI a = 0 → nI c = 99 → ws_rc a c z = -2) ∧ (¬ (nI a = 0 ∧ nI c = 99) → (nI a = 0 → ws_rc a c z = nI c) ∧ (¬ nI a = 0 → ws_rc a c z = 0)) := by
  have ea : nI a = 0 ↔ a = 0 := nI_eq (b := 0) (by omega) (by omega)
  have ec : nI c = 99 ↔ c = 99 := nI_eq (b := 99) (by omega) (by omega)
  rw [ea, ec]
  unfold ws_rc
  refine ⟨fun g g2 => ?_, fun g => ⟨fun g2 => ?_, fun g2 => ?_⟩⟩
  · rw [if_pos (Or.inr ⟨g, g2⟩)]
  · rw [if_neg (by omega), if_pos g2]
  · rw [if_neg (by omega), if_neg g2]
theorem ws_rbS {a c z : Nat} (hc : c ≤ 99) (hz : z = 2 ^ a) : (nI c = 99 → ws_rb a c z = -1) ∧ (¬ nI c = 99 → ws_rb a c z = nI c) := by
  have ec : nI c = 99 ↔ c = 99 := nI_eq (b := 99) (by omega) (by omega)
  rw [ec]
  unfold ws_rb
  rw [if_pos hz]
  exact ⟨fun g => by rw [if_pos g], fun g => by rw [if_neg g]⟩
theorem ws_L104u {post : Int32 → St0 → Prop} {mc ms kc ks : Nat} {gf gc ga go gg gl gh gw gx : Int32} {a1 a2 a3 a4 a5 a6 a7 a8 a9 a10 : Nat → Int32} {N D v a c : Nat} {x5 x9 x10 : Int32} (hN0 : 2 ≤ N) (hN : N ≤ 6) (hD : D = 2 ∨ D = 3) (h9 : ws_fv N (nI v) x9) (h10 : ws_fv D (nI a) x10)
    (e9 : x9 = 1) (e10 : x10 = 1) (hv : v < N) (ha : a < D) (hc : c ≤ 40 ∨ c = 99)
    (h1 : ∀ k, k < 18 → a1 k = 0) (h2 : ∀ k, k < 324 → a2 k = 0) (h3 : ∀ w, w < 6 → a3 w = nI (2 ^ D - 1)) (hP : post 1 ()) :
    wL_lawOf_171 post mc ms (nI v) (nI a) x5 (nI D) x9 x10 (nI c) kc ks (nI N) (nI D) gf gc ga go gg gl gh gw gx (upd a1 (3 * v + a) (nI c)) a2 a3 a4 a5 a6 a7 a8 a9 a10 := by
  have h8 := ws_2D hD
  have n9 : ¬ x9 = 0 := by rw [e9]; decide
  have n10 : ¬ x10 = 0 := by rw [e10]; decide
  refine ws_L171 hN hD h9 h10 h3 (fun v' a' hv' ha' ev' ea' => ?_) (fun x14 y _ q => ?_) (fun x14 y v' s q9 q14 hv' hs1 hs2 ev es => ?_)
  · have e1 : v = v' := (nI_eq (by omega) (by omega)).mp ev'
    have e2 : a = a' := (nI_eq (by omega) (by omega)).mp ea'
    rw [← e1, ← e2, pk_us]
  · have hp : ws_pre N D v a c (2 ^ D - 1) (upd a1 (3 * v + a) (nI c)) a2 a3 := ⟨hN0, hN, hD, hv, ha, hc, by omega, by omega, ws_a1u (by omega) h1, h2, ws_a3f h3⟩
    have rc := ws_rcS (a := a) (c := c) (z := 2 ^ D - 1) (by omega) (by omega) (by omega)
    have q' : x14 = 0 := q.resolve_left n9
    refine ws_L258 hp hP (fun _ g2 _ => absurd q' g2) rc.1 (fun _ g => rc.2 g) (fun _ _ g _ => absurd q' g) (fun _ => ?_)
    unfold ws_rb
    rw [if_neg (ws_nfull hD ha)]
  · have e1 : v = v' := (nI_eq (by omega) (by omega)).mp ev
    rw [← e1]
    have hp : ws_pre N D v a c s (upd a1 (3 * v + a) (nI c)) a2 (upd a3 v (nI s)) := ⟨hN0, hN, hD, hv, ha, hc, hs1, hs2, ws_a1u (by omega) h1, h2, ws_a3u h3⟩
    have hb := ws_and1 s (by omega)
    have n14 : ¬ x14 = 0 := by rw [q14]; decide
    have esh : x5 = ((1 : Int32) <<< (nI a &&& 31)) ↔ s = 2 ^ a := by
      rw [es, ws_sh a (by omega)]
      exact nI_eq (by omega) (by have := Nat.pow_le_pow_right (n := 2) (by omega) (show a ≤ 3 by omega); omega)
    refine ws_L258 hp hP (fun _ _ g => ?_) (fun g g2 => ?_) (fun g g2 => ?_) (fun _ _ _ g => ws_rbS (by omega) (esh.mp g)) (fun g => ?_)
    · rw [es, hb] at g
      unfold ws_rc
      rw [if_pos (Or.inl g)]
    · by_cases z : s % 2 = 0
      · unfold ws_rc
        rw [if_pos (Or.inl z)]
      · exact (ws_rcS (by omega) (by omega) z).1 g g2
    · have ho : ¬ s % 2 = 0 := fun w => g ⟨n9, n14, by rw [es]; exact hb.mpr w⟩
      exact (ws_rcS (by omega) (by omega) ho).2 g2
    · have hne : ¬ s = 2 ^ a := fun w => g ⟨n9, n10, n14, esh.mpr w⟩
      unfold ws_rb
      rw [if_neg hne]
theorem ws_L104 {post : Int32 → St0 → Prop} {mc ms kc ks : Nat} {gf gc ga go gg gl gh gw gx : Int32} {a1 a2 a3 a4 a5 a6 a7 a8 a9 a10 : Nat → Int32} {N D : Nat} {x2 x3 x4 x5 x9 x10 x11 : Int32} (hN0 : 2 ≤ N) (hN : N ≤ 6) (hD : D = 2 ∨ D = 3) (h9 : ws_fv N x2 x9) (h10 : ws_fv D x3 x10) (h11 : ws_fc x4 x11)
    (h1 : ∀ k, k < 18 → a1 k = 0) (h2 : ∀ k, k < 324 → a2 k = 0) (h3 : ∀ w, w < 6 → a3 w = nI (2 ^ D - 1)) (hP : post 1 ()) :
    wL_lawOf_104 post mc ms x2 x3 x4 x5 (nI D) x9 x10 x11 kc ks (nI N) (nI D) gf gc ga go gg gl gh gw gx a1 a2 a3 a4 a5 a6 a7 a8 a9 a10 := by
  unfold wL_lawOf_104
  have zero : wL_lawOf_171 post mc ms x2 x3 x5 (nI D) x9 x10 0 kc ks (nI N) (nI D) gf gc ga go gg gl gh gw gx a1 a2 a3 a4 a5 a6 a7 a8 a9 a10 := ws_L104z hN0 hN hD h9 h10 h1 h2 h3 hP
  have n1 : ∀ x : Int32, x = 1 → ¬ x = 0 := fun x e => by rw [e]; decide
  refine ws_unary hN (by omega) h9 h10 h11 h1 (fun g => br_t g (br_t rfl (br_t g zero))) (fun g g2 => br_f (n1 _ g) (br_t g2 (br_t rfl (br_f (n1 _ g) (br_t g2 zero)))))
    (fun g g2 g3 => br_f (n1 _ g) (br_f (n1 _ g2) (br_t g3 (br_t rfl (br_f (n1 _ g) (br_f (n1 _ g2) (br_t g3 zero)))))))
    (fun v a c g g2 g3 hv ha hc ev ea ec => br_f (n1 _ g) (br_f (n1 _ g2) (br_f (n1 _ g3) (br_t rfl (br_f (n1 _ g) (br_f (n1 _ g2) (br_f (n1 _ g3) ?_)))))))
  rw [ev] at h9 ⊢
  rw [ea] at h10 ⊢
  rw [ec]
  exact ws_L104u hN0 hN hD h9 h10 g g2 hv ha hc h1 h2 h3 hP
theorem ws_in {x : Int32} {N : Nat} (hN : N < 2 ^ 31) (h0 : ¬ x < 0) (h : ¬ nI N ≤ x) : ∃ v, v < N ∧ x = nI v := by
  obtain ⟨j, hj, ej⟩ := nI_of h0
  refine ⟨j, ?_, ej⟩
  by_cases q : j < N
  · exact q
  · exact absurd (by rw [ej]; exact nI_le (by omega) hj) h
theorem ws_L44 {post : Int32 → St0 → Prop} {mc ms kc ks : Nat} {gf gc ga go gg gl gh gw gx : Int32} {a1 a2 a3 a4 a5 a6 a7 a8 a9 a10 : Nat → Int32} {N D : Nat} {x2 x3 x4 x5 : Int32} (hN0 : 2 ≤ N) (hN : N ≤ 6) (hD : D = 2 ∨ D = 3)
    (h1 : ∀ k, k < 18 → a1 k = 0) (h2 : ∀ k, k < 324 → a2 k = 0) (h3 : ∀ w, w < 6 → a3 w = nI (2 ^ D - 1)) (hP : post 1 ()) :
    wL_lawOf_44 post mc ms x2 x3 x4 x5 (nI N) (nI D) kc ks (nI N) (nI D) gf gc ga go gg gl gh gw gx a1 a2 a3 a4 a5 a6 a7 a8 a9 a10 := by
  have k78 : ∀ x9 x10, ws_fv N x2 x9 → ws_fv D x3 x10 → wL_lawOf_78 post mc ms x2 x3 x4 x5 (nI D) x9 x10 kc ks (nI N) (nI D) gf gc ga go gg gl gh gw gx a1 a2 a3 a4 a5 a6 a7 a8 a9 a10 := by
    intro x9 x10 h9 h10
    have g1 : ∀ c, (c ≤ 40 ∨ c = 99) → x4 = nI c → wL_lawOf_99 post mc ms x2 x3 x4 x5 (nI D) x9 x10 kc ks (nI N) (nI D) gf gc ga go gg gl gh gw gx a1 a2 a3 a4 a5 a6 a7 a8 a9 a10 :=
      fun c hc ec => ws_L104 (x11 := 1) hN0 hN hD h9 h10 (Or.inl ⟨rfl, c, hc, ec⟩) h1 h2 h3 hP
    have g92 : (x4 < 0 ∨ ¬ x4 ≤ 40) → wL_lawOf_92 post mc ms x2 x3 x4 x5 (nI D) x9 x10 kc ks (nI N) (nI D) gf gc ga go gg gl gh gw gx a1 a2 a3 a4 a5 a6 a7 a8 a9 a10 :=
      fun q => br_c (fun e => g1 99 (Or.inr rfl) e) (fun e => ws_L104 (x11 := 0) hN0 hN hD h9 h10 (Or.inr ⟨rfl, e, q⟩) h1 h2 h3 hP)
    refine br_c (fun q => g92 (Or.inl q)) (fun q => br_c (fun q2 => ?_) (fun q2 => g92 (Or.inr q2)))
    obtain ⟨j, hj, ej⟩ := nI_of q
    refine g1 j (Or.inl ?_) ej
    by_cases z : j ≤ 40
    · exact z
    · rw [ej] at q2
      exact absurd q2 (nI_ge (a := 40) (b := j) (by omega) hj)
  have k61 : ∀ x9, ws_fv N x2 x9 → wL_lawOf_61 post mc ms x2 x3 x4 x5 (nI D) x9 kc ks (nI N) (nI D) gf gc ga go gg gl gh gw gx a1 a2 a3 a4 a5 a6 a7 a8 a9 a10 :=
    fun x9 h9 => br_c (fun q => k78 x9 0 h9 (Or.inr ⟨rfl, Or.inl q⟩)) (fun q => br_c (fun q2 => k78 x9 0 h9 (Or.inr ⟨rfl, Or.inr q2⟩)) (fun q2 => k78 x9 1 h9 (Or.inl ⟨rfl, ws_in (by omega) q q2⟩)))
  exact br_c (fun q => k61 0 (Or.inr ⟨rfl, Or.inl q⟩)) (fun q => br_c (fun q2 => k61 0 (Or.inr ⟨rfl, Or.inr q2⟩)) (fun q2 => k61 1 (Or.inl ⟨rfl, ws_in (by omega) q q2⟩)))
end
section
/-- how the count of variables is cut to 2 .. 6 -/
def ws_cl (p : Int32) (N : Nat) : Prop := (¬ 2 ≤ p ∧ N = 2) ∨ (2 ≤ p ∧ p ≤ 6 ∧ p = nI N) ∨ (2 ≤ p ∧ ¬ p ≤ 6 ∧ N = 6)
theorem ws_cl_ex (p : Int32) : ∃ N, 2 ≤ N ∧ N ≤ 6 ∧ ws_cl p N := by
  unfold ws_cl
  by_cases h : 2 ≤ p
  · by_cases g : p ≤ 6
    · have h0 : ¬ p < 0 := by
        intro q
        have q1 := Int32.lt_iff_toInt_lt.mp q
        have q2 := Int32.le_iff_toInt_le.mp h
        have e0 : (0 : Int32).toInt = 0 := by decide
        have e2 : (2 : Int32).toInt = 2 := by decide
        omega
      obtain ⟨j, hj, ej⟩ := nI_of h0
      refine ⟨j, ?_, ?_, Or.inr (Or.inl ⟨h, g, ej⟩)⟩
      · rw [ej] at h
        by_cases z : 2 ≤ j
        · exact z
        · exact absurd h (nI_ge (a := j) (b := 2) (by omega) (by omega))
      · rw [ej] at g
        by_cases z : j ≤ 6
        · exact z
        · exact absurd g (nI_ge (a := 6) (b := j) (by omega) hj)
    · exact ⟨6, by omega, by omega, Or.inr (Or.inr ⟨h, g, rfl⟩)⟩
  · exact ⟨2, by omega, by omega, Or.inl ⟨h, rfl⟩⟩
/-- the count of values -/
def ws_dl (p : Int32) (D : Nat) : Prop := (3 ≤ p ∧ D = 3) ∨ (¬ 3 ≤ p ∧ D = 2)
theorem ws_init115 {post : St2 → Prop} {mc ms kc ks : Nat} {x2 : Int32} {gd gf gc ga go gg gl gh gw gx : Int32} {a1 a2 a3 a4 a5 a6 a7 a8 a9 a10 : Nat → Int32} {N : Nat}
    (H : ∀ D s, ws_dl x2 D → (∀ k, k < 6 → s k = nI (2 ^ D - 1)) → post (nI N, nI D, gf, gc, ga, go, gg, gl, gh, gw, gx, a1, a2, s, a4, a5, a6, a7, a8, a9, a10)) :
    wX_init_115 post mc ms x2 kc ks (nI N) gd gf gc ga go gg gl gh gw gx a1 a2 a3 a4 a5 a6 a7 a8 a9 a10 :=
  br_c (fun g => ws_init131 (D := 3) (Or.inr rfl) (fun s hs => H 3 s (Or.inl ⟨g, rfl⟩) hs)) (fun g => ws_init131 (D := 2) (Or.inl rfl) (fun s hs => H 2 s (Or.inr ⟨g, rfl⟩) hs))
theorem ws_init {post : St2 → Prop} {mc ms N : Nat} {p0 p1 : Int32} (hmc : 10 ≤ mc) (hms : 842 ≤ ms) (hN : ws_cl p0 N)
    (H : ∀ D s, ws_dl p1 D → (∀ k, k < 6 → s k = nI (2 ^ D - 1)) → post (nI N, nI D, 0, 0, 0, 0, 0, 0, 0, 0, 0, (fun _ => 0), (fun _ => 0), s, (fun _ => 0), (fun _ => 0), (fun _ => 0), (fun _ => 0), (fun _ => 0), (fun _ => 0), (fun _ => 0))) :
    wpX_init post mc ms (0, 0, 0, 0, 0, 0, 0, 0, 0, 0, 0) p0 p1 := by
  refine ⟨by omega, by omega, by omega, by omega, by omega, by omega, by omega, by omega, by omega, by omega, by omega, by omega, by omega, by omega, by omega, by omega, by omega, by omega, by omega, by omega, ?_⟩
  rcases hN with ⟨h1, h2⟩ | ⟨h1, h2, h3⟩ | ⟨h1, h2, h3⟩
  · rw [h2] at H
    exact br_f h1 (br_t (by decide) (ws_init115 (N := 2) H))
  · rw [h3] at h1 h2 ⊢
    exact br_t h1 (br_t h2 (ws_init115 H))
  · rw [h3] at H
    exact br_t h1 (br_f h2 (ws_init115 (N := 6) H))
theorem ws_L23 {post : Int32 → St0 → Prop} {mc ms kc ks : Nat} {gf gc ga go gg gl gh gw gx : Int32} {a1 a2 a3 a4 a5 a6 a7 a8 a9 a10 : Nat → Int32} {N D : Nat} {p0 x1 x2 x3 x4 x5 : Int32} (hN0 : 2 ≤ N) (hN : N ≤ 6) (hc : ws_cl p0 N) (hd : ws_dl x1 D)
    (h1 : ∀ k, k < 18 → a1 k = 0) (h2 : ∀ k, k < 324 → a2 k = 0) (h3 : ∀ w, w < 6 → a3 w = nI (2 ^ D - 1)) (hP : post 1 ()) :
    (2 ≤ p0 → wL_lawOf_23 post mc ms x1 x2 x3 x4 x5 p0 kc ks (nI N) (nI D) gf gc ga go gg gl gh gw gx a1 a2 a3 a4 a5 a6 a7 a8 a9 a10) ∧ (¬ 2 ≤ p0 → wL_lawOf_23 post mc ms x1 x2 x3 x4 x5 2 kc ks (nI N) (nI D) gf gc ga go gg gl gh gw gx a1 a2 a3 a4 a5 a6 a7 a8 a9 a10) := by
  have hD : D = 2 ∨ D = 3 := by
    unfold ws_dl at hd
    omega
  have k34 : wL_lawOf_34 post mc ms x1 x2 x3 x4 x5 (nI N) kc ks (nI N) (nI D) gf gc ga go gg gl gh gw gx a1 a2 a3 a4 a5 a6 a7 a8 a9 a10 := by
    have k := ws_L44 (post := post) (mc := mc) (ms := ms) (kc := kc) (ks := ks) (x2 := x2) (x3 := x3) (x4 := x4) (x5 := x5) (gf := gf) (gc := gc) (ga := ga) (go := go) (gg := gg) (gl := gl) (gh := gh) (gw := gw) (gx := gx) (a4 := a4) (a5 := a5) (a6 := a6) (a7 := a7) (a8 := a8) (a9 := a9) (a10 := a10) hN0 hN hD h1 h2 h3 hP
    rcases hd with ⟨q, e⟩ | ⟨q, e⟩
    · rw [e] at k ⊢
      exact br_t q k
    · rw [e] at k ⊢
      exact br_f q k
  rcases hc with ⟨q1, q2⟩ | ⟨q1, q2, q3⟩ | ⟨q1, q2, q3⟩
  · rw [q2] at k34 ⊢
    exact br_f q1 (br_t (by decide) k34)
  · rw [q3] at q1 q2 ⊢
    exact br_t q1 (br_t q2 k34)
  · rw [q3] at k34 ⊢
    exact br_t q1 (br_f q2 k34)
theorem ws_lawOf {post : Int32 → St0 → Prop} {p0 p1 p2 p3 p4 p5 : Int32} (hP : post 1 ()) : wpL_lawOf post 11 863 () p0 p1 p2 p3 p4 p5 := by
  obtain ⟨N, hN0, hN, hc⟩ := ws_cl_ex p0
  exact ⟨by omega, by omega, 10, 842, by omega, by omega, ws_init (by omega) (by omega) hc (fun D s hd hs => ws_L23 hN0 hN hc hd (fun _ _ => rfl) (fun _ _ => rfl) hs hP)⟩
theorem ws_cellAt {post : Int32 → Prop} {L : Nat} {xs : Nat → Int32} (hL : L ≤ 6) (i : Nat) (hi : i < 6) (h : ∀ x, post x) : wpL_cellAt post L xs () (nI i) :=
  pk_le L i (fun _ => h _) (fun z => ⟨pk_in i L z, h _⟩)
theorem i_vc (xs : Nat → Int32) (L : Nat) (hL : L ≤ 6) : wpL_law (fun r => r = 1) L xs :=
  ws_cellAt hL 0 (by omega) (fun _ => ws_cellAt hL 1 (by omega) (fun _ => ws_cellAt hL 2 (by omega) (fun _ => ws_cellAt hL 3 (by omega) (fun _ => ws_cellAt hL 4 (by omega) (fun _ => ws_cellAt hL 5 (by omega) (fun _ =>
    ⟨11, 863, by omega, by omega, ws_lawOf rfl⟩))))))
end
