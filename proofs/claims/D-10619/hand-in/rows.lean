section
/-! small facts: bytes, tables that are filled or kept -/
theorem bc_nb0 : ∀ j, j < 128 → (nI j).toInt8.toInt32 = nI j := by decide +kernel
theorem bc_nb {j : Nat} (h : j < 128) : (nI j).toInt8.toInt32 = nI j := bc_nb0 j h
theorem bc_nv {j : Nat} (h : j < 128) : vp_nar .byte (nI j) = nI j := bc_nb0 j h
theorem bc_fill {f s : Nat → Int32} {i k : Nat} {x : Int32} (hk : k = i) (h : ∀ j, j < i → s j = f j) (hx : x = f i) : ∀ j, j < i + 1 → upd s k x j = f j := by
  intro j hj
  rw [hk]
  by_cases e : j = i
  · rw [e, pk_us, hx]
  · rw [pk_un e]
    exact h j (by omega)
theorem bc_keep {f s : Nat → Int32} {n i k : Nat} {x : Int32} (hk : k = i) (h : ∀ j, j < n → s j = f j) (hx : x = f i) : ∀ j, j < n → upd s k x j = f j := by
  intro j hj
  rw [hk]
  by_cases e : j = i
  · rw [e, pk_us, hx]
  · rw [pk_un e]
    exact h j hj
/-! sorting: all letters alike, so the order stays and every class is the same -/
theorem bc_compare {post : Int32 → Prop} {fc fm fs fb : Int32} {a1 a2 a3 a4 a5 a6 a7 a8 a9 a10 a11 a12 : Nat → Int32} {a13 : Nat → Int64} {a14 a15 : Nat → Int32} {n p q r : Nat} {c : Int32} (hn : n ≤ 32) (hp : p < n) (hq : q < n) (hr : r < 65536) (h3 : ∀ j, j < n → a3 j = c) (H : post 0) : wpX_compare post (nI n, fc, fm, fs, fb, a1, a2, a3, a4, a5, a6, a7, a8, a9, a10, a11, a12, a13, a14, a15) (nI p) (nI q) (nI r) := by
  have e : ∀ p, p < n → nI p + nI r - (nI p + nI r) / nI n * nI n = nI ((p + r) % n) := fun p h => by
    rw [nI_add, pk_rem (by omega) (by omega) (by omega)]
  have m : ∀ p, (p + r) % n < n := fun p => Nat.mod_lt _ (by omega)
  have mp := m p
  have mq := m q
  refine ⟨pk_in p 32 (by omega), pk_in q 32 (by omega), br_t ?_ ⟨?_, ?_, ?_, ?_, ?_⟩⟩
  · rw [nI_clamp (by omega), nI_clamp (by omega), h3 p hp, h3 q hq]
  · exact nI_ne0 (by omega) (by omega)
  · rw [e p hp]
    exact pk_in ((p + r) % n) 32 (by omega)
  · exact nI_ne0 (by omega) (by omega)
  · rw [e q hq]
    exact pk_in ((q + r) % n) 32 (by omega)
  · rw [e p hp, e q hq, nI_clamp (by omega), nI_clamp (by omega), h3 _ mp, h3 _ mq, show c - c = 0 by grind]
    exact H
theorem bc_comesAfter {post : Int32 → Prop} {fc fm fs fb : Int32} {a1 a2 a3 a4 a5 a6 a7 a8 a9 a10 a11 a12 : Nat → Int32} {a13 : Nat → Int64} {a14 a15 : Nat → Int32} {n p q r : Nat} {c : Int32} (hn : n ≤ 32) (hpq : p ≤ q) (hq : q < n) (hr : r < 65536) (h3 : ∀ j, j < n → a3 j = c) (H : post 0) : wpX_comesAfter post (nI n, fc, fm, fs, fb, a1, a2, a3, a4, a5, a6, a7, a8, a9, a10, a11, a12, a13, a14, a15) (nI p) (nI q) (nI r) := by
  unfold wpX_comesAfter
  refine bc_compare hn (by omega) hq hr h3 ?_
  exact br_f (by decide) (br_t rfl (br_t (nI_le hpq (by omega)) H))
theorem bc_sink {post : St2 → Prop} {fc fm fs fb : Int32} {a1 a2 a3 a4 a5 a6 a7 a8 a9 a10 a11 a12 : Nat → Int32} {a13 : Nat → Int64} {a14 a15 : Nat → Int32} {n i r : Nat} {c : Int32} (hn : n ≤ 32) (h0 : 0 < i) (hi : i < n) (hr : r < 65536) (h2 : ∀ j, j < n → a2 j = nI j) (h3 : ∀ j, j < n → a3 j = c) (H : ∀ s : Nat → Int32, (∀ j, j < n → s j = nI j) → post (nI n, fc, fm, fs, fb, a1, s, a3, a4, a5, a6, a7, a8, a9, a10, a11, a12, a13, a14, a15)) : wpX_sink post (nI n, fc, fm, fs, fb, a1, a2, a3, a4, a5, a6, a7, a8, a9, a10, a11, a12, a13, a14, a15) (nI i) (nI r) := by
  obtain ⟨k, rfl⟩ : ∃ k, i = k + 1 := ⟨i - 1, by omega⟩
  have e : a2 (nI (k + 1) - 1).toNatClampNeg = nI k := by
    rw [nI_pred, nI_clamp (by omega)]
    exact h2 k (by omega)
  refine ⟨pk_in (k + 1) 32 (by omega), nm_r (e' := nI (k + 1)) (by rw [nI_clamp (by omega)]; exact h2 _ hi) ⟨0 + 1, ?_⟩⟩
  refine pk_le (k + 1) 0 (fun z => absurd z (by omega)) (fun _ => ⟨pk_in k 32 (by omega) (nI_pred k), ?_⟩)
  rw [e]
  refine bc_comesAfter hn (by omega) hi hr h3 ?_
  refine br_t rfl ⟨pk_in (k + 1) 32 (by omega), nm_e (H _ ?_)⟩
  exact bc_keep (f := nI) (nI_clamp (by omega)) h2 (bc_nv (by omega))
theorem bc_s128 {post : St2 → Prop} {J : Int32 → Int32 → Int32 → Int32 → Int32 → Int32 → (Nat → Int32) → (Nat → Int32) → (Nat → Int32) → (Nat → Int32) → (Nat → Int32) → (Nat → Int32) → (Nat → Int32) → (Nat → Int32) → (Nat → Int32) → (Nat → Int32) → (Nat → Int32) → (Nat → Int32) → (Nat → Int64) → (Nat → Int32) → (Nat → Int32) → Prop} {fc fm fs fb : Int32} {a1 a2 a3 a4 a5 a6 a7 a8 a9 a10 a11 a12 : Nat → Int32} {a13 : Nat → Int64} {a14 a15 : Nat → Int32} {n : Nat} {x : Int32} (hn : n ≤ 32) (h4 : ∀ j, j < n → a4 j = 0) (H : ∀ s : Nat → Int32, (∀ j, j < n → s j = 0) → J (x * 2) (nI n) fc fm fs fb a1 a2 s a4 a5 a6 a7 a8 a9 a10 a11 a12 a13 a14 a15) : ∃ fu, wX_sortRotations_128 post J x (nI n) fc fm fs fb fu 0 a1 a2 a3 a4 a5 a6 a7 a8 a9 a10 a11 a12 a13 a14 a15 :=
  pk_loop (fun m i s => wX_sortRotations_128 post J x (nI n) fc fm fs fb m (nI i) a1 a2 s a4 a5 a6 a7 a8 a9 a10 a11 a12 a13 a14 a15) (fun i s => ∀ j, j < i → s j = 0) n 0 a3 (by omega) (fun j hj => absurd hj (by omega))
    (fun m s h => pk_le n n (fun _ => nm_e (H s h)) (fun z => absurd z (by omega)))
    (fun m i s hi h hw => pk_le n i (fun z => absurd z (by omega)) (fun _ => ⟨pk_in i 32 (by omega), pk_in i 32 (by omega), nm_e (nm_r (nI_1 i) (hw _ (bc_fill (f := fun _ => 0) (nI_clamp (by omega)) h (by rw [nI_clamp (by omega), h4 i hi]; rfl))))⟩))
theorem bc_s70 {post : St2 → Prop} {J : Int32 → Int32 → Int32 → Int32 → Int32 → Int32 → (Nat → Int32) → (Nat → Int32) → (Nat → Int32) → (Nat → Int32) → (Nat → Int32) → (Nat → Int32) → (Nat → Int32) → (Nat → Int32) → (Nat → Int32) → (Nat → Int32) → (Nat → Int32) → (Nat → Int32) → (Nat → Int64) → (Nat → Int32) → (Nat → Int32) → Prop} {fc fm fs fb : Int32} {a1 a2 a3 a4 a5 a6 a7 a8 a9 a10 a11 a12 : Nat → Int32} {a13 : Nat → Int64} {a14 a15 : Nat → Int32} {n r : Nat} {c : Int32} (hn : n ≤ 32) (hr : r < 65536) (h2 : ∀ j, j < n → a2 j = nI j) (h3 : ∀ j, j < n → a3 j = c) (H : ∀ s t : Nat → Int32, (∀ j, j < n → s j = 0) → J (nI r * 2) (nI n) fc fm fs fb a1 a2 s t a5 a6 a7 a8 a9 a10 a11 a12 a13 a14 a15) : ∃ fu, wX_sortRotations_70 post J (nI r) (nI n) fc fm fs fb fu 0 0 a1 a2 a3 a4 a5 a6 a7 a8 a9 a10 a11 a12 a13 a14 a15 := by
  refine pk_loop (fun m i s => wX_sortRotations_70 post J (nI r) (nI n) fc fm fs fb m 0 (nI i) a1 a2 a3 s a5 a6 a7 a8 a9 a10 a11 a12 a13 a14 a15) (fun i s => ∀ j, j < i → s j = 0) n 0 a4 (by omega) (fun j hj => absurd hj (by omega)) ?_ ?_
  · intro m s h
    exact pk_le n n (fun _ => bc_s128 hn h (fun t ht => H t s ht)) (fun z => absurd z (by omega))
  · intro m i s hi h hw
    have e2 : a2 (nI i).toNatClampNeg = nI i := by
      rw [nI_clamp (by omega)]
      exact h2 i hi
    have K : wX_sortRotations_107 post J (wX_sortRotations_70 post J (nI r) (nI n) fc fm fs fb m) (nI r) 0 (nI i) (nI n) fc fm fs fb a1 a2 a3 s a5 a6 a7 a8 a9 a10 a11 a12 a13 a14 a15 := by
      unfold wX_sortRotations_107
      rw [e2]
      refine ⟨pk_in i 32 (by omega), pk_in i 32 (by omega), nm_e (nm_r (nI_1 i) (hw _ ?_))⟩
      exact bc_fill (f := fun _ => 0) (nI_clamp (by omega)) h rfl
    refine pk_le n i (fun z => absurd z (by omega)) (fun _ => pk_le i 0 (fun _ => K) (fun z => ?_))
    obtain ⟨k, rfl⟩ : ∃ k, i = k + 1 := ⟨i - 1, by omega⟩
    have e1 : a2 (nI (k + 1) - 1).toNatClampNeg = nI k := by
      rw [nI_pred, nI_clamp (by omega)]
      exact h2 k (by omega)
    refine ⟨pk_in k 32 (by omega) (nI_pred k), pk_in (k + 1) 32 (by omega), ?_⟩
    rw [e1, e2]
    refine bc_compare hn (by omega) hi hr h3 ?_
    exact br_t rfl K
theorem bc_s46 {post : St2 → Prop} {J : Int32 → Int32 → Int32 → Int32 → Int32 → Int32 → (Nat → Int32) → (Nat → Int32) → (Nat → Int32) → (Nat → Int32) → (Nat → Int32) → (Nat → Int32) → (Nat → Int32) → (Nat → Int32) → (Nat → Int32) → (Nat → Int32) → (Nat → Int32) → (Nat → Int32) → (Nat → Int64) → (Nat → Int32) → (Nat → Int32) → Prop} {fc fm fs fb : Int32} {a1 a2 a3 a4 a5 a6 a7 a8 a9 a10 a11 a12 : Nat → Int32} {a13 : Nat → Int64} {a14 a15 : Nat → Int32} {n r : Nat} {c : Int32} (hn : n ≤ 32) (hr : r < 65536) (h2 : ∀ j, j < n → a2 j = nI j) (h3 : ∀ j, j < n → a3 j = c) (H : ∀ q s t : Nat → Int32, (∀ j, j < n → q j = nI j) → (∀ j, j < n → s j = 0) → J (nI r * 2) (nI n) fc fm fs fb a1 q s t a5 a6 a7 a8 a9 a10 a11 a12 a13 a14 a15) : ∃ fu, wX_sortRotations_46 post J (nI r) fu 1 (nI n) fc fm fs fb a1 a2 a3 a4 a5 a6 a7 a8 a9 a10 a11 a12 a13 a14 a15 := by
  refine pk_loop (fun m i s => wX_sortRotations_46 post J (nI r) m (nI i) (nI n) fc fm fs fb a1 s a3 a4 a5 a6 a7 a8 a9 a10 a11 a12 a13 a14 a15) (fun i s => 0 < i ∧ ∀ j, j < n → s j = nI j) (max n 1) 1 a2 (by omega) ⟨by omega, h2⟩ ?_ ?_
  · intro m s h
    exact pk_le n (max n 1) (fun _ => bc_s70 hn hr h.2 h3 (fun t u ht => H s t u h.2 ht)) (fun z => absurd z (by omega))
  · intro m i s hi h hw
    refine pk_le n i (fun z => absurd z (by omega)) (fun z => ?_)
    refine bc_sink hn h.1 z hr h.2 h3 (fun q hq => ?_)
    exact nm_r (nI_1 i) (hw q ⟨by omega, hq⟩)
theorem bc_p2 : ∀ k, k < 6 → 2 ^ k < 64 := by decide
theorem bc_s38 {post : St2 → Prop} {fc fm fs fb : Int32} {a1 a2 a3 a4 a5 a6 a7 a8 a9 a10 a11 a12 : Nat → Int32} {a13 : Nat → Int64} {a14 a15 : Nat → Int32} {n : Nat} {c : Int32} (hn : n ≤ 32) (h2 : ∀ j, j < n → a2 j = nI j) (h3 : ∀ j, j < n → a3 j = c) (H : ∀ q s t : Nat → Int32, (∀ j, j < n → q j = nI j) → post (nI n, fc, fm, fs, fb, a1, q, s, t, a5, a6, a7, a8, a9, a10, a11, a12, a13, a14, a15)) : ∃ fu, wX_sortRotations_38 post fu 1 (nI n) fc fm fs fb a1 a2 a3 a4 a5 a6 a7 a8 a9 a10 a11 a12 a13 a14 a15 := by
  refine pk_loop (fun m i s => wX_sortRotations_38 post m (nI (2 ^ i)) (nI n) fc fm fs fb a1 s.1 s.2.1 s.2.2 a5 a6 a7 a8 a9 a10 a11 a12 a13 a14 a15) (fun i s => (∀ j, j < n → s.1 j = nI j) ∧ ∃ c, ∀ j, j < n → s.2.1 j = c) 6 0 (a2, a3, a4) (by omega) ⟨h2, c, h3⟩ ?_ ?_
  · intro m s h
    exact pk_le 64 64 (fun _ => H _ _ _ h.1) (fun z => absurd z (by omega))
  · intro m i s hi h hw
    obtain ⟨h1, d, hd⟩ := h
    have hp := bc_p2 i hi
    refine pk_le 64 (2 ^ i) (fun z => absurd z (by omega)) (fun _ => ?_)
    refine bc_s46 hn (by omega) h1 hd (fun q t u hq ht => ?_)
    rw [show nI (2 ^ i) * 2 = nI (2 ^ (i + 1)) from by rw [Nat.pow_succ]; exact pk_mul _ 2]
    exact hw (q, t, u) ⟨hq, 0, ht⟩
theorem bc_sort {post : St2 → Prop} {fc fm fs fb : Int32} {a1 a2 a3 a4 a5 a6 a7 a8 a9 a10 a11 a12 : Nat → Int32} {a13 : Nat → Int64} {a14 a15 : Nat → Int32} {n l : Nat} (hn : n ≤ 32) (hl : l < 128) (h1 : ∀ j, j < n → a1 j = nI l) (H : ∀ q s t : Nat → Int32, (∀ j, j < n → q j = nI j) → post (nI n, fc, fm, fs, fb, a1, q, s, t, a5, a6, a7, a8, a9, a10, a11, a12, a13, a14, a15)) : wpX_sortRotations post (nI n, fc, fm, fs, fb, a1, a2, a3, a4, a5, a6, a7, a8, a9, a10, a11, a12, a13, a14, a15) := by
  refine pk_loop (fun m i s => wX_sortRotations_2 post (nI n) fc fm fs fb m (nI i) a1 s.1 s.2 a4 a5 a6 a7 a8 a9 a10 a11 a12 a13 a14 a15) (fun i s => (∀ j, j < i → s.1 j = nI j) ∧ ∀ j, j < i → s.2 j = nI l) n 0 (a2, a3) (by omega) ⟨fun j hj => absurd hj (by omega), fun j hj => absurd hj (by omega)⟩ ?_ ?_
  · intro m s h
    exact pk_le n n (fun _ => bc_s38 hn h.1 h.2 H) (fun z => absurd z (by omega))
  · intro m i s hi h hw
    refine pk_le n i (fun z => absurd z (by omega)) (fun _ => ⟨pk_in i 32 (by omega), nm_e ⟨pk_in i 32 (by omega), pk_in i 32 (by omega), nm_e (nm_r (nI_1 i) (hw (_, _) ⟨?_, ?_⟩))⟩⟩)
    · exact bc_fill (f := nI) (nI_clamp (by omega)) h.1 (bc_nb (by omega))
    · exact bc_fill (f := fun _ => nI l) (nI_clamp (by omega)) h.2 (by rw [nI_clamp (by omega), h1 i hi]; exact bc_nv hl)
end
section
/-! the row of letters, and the ranks: the letter itself, then zeros -/
theorem bc_reset {post : St2 → Prop} {fl fc fm fs fb : Int32} {a1 a2 a3 a4 a5 a6 a7 a8 a9 a10 a11 a12 : Nat → Int32} {a13 : Nat → Int64} {a14 a15 : Nat → Int32} (H : ∀ s : Nat → Int32, (∀ j, j < 6 → s j = nI j) → post (fl, fc, fm, fs, fb, a1, a2, a3, a4, a5, a6, a7, s, a9, a10, a11, a12, a13, a14, a15)) : wpX_resetRow post (fl, fc, fm, fs, fb, a1, a2, a3, a4, a5, a6, a7, a8, a9, a10, a11, a12, a13, a14, a15) :=
  pk_loop (fun m i s => wX_resetRow_2 post fl fc fm fs fb m (nI i) a1 a2 a3 a4 a5 a6 a7 s a9 a10 a11 a12 a13 a14 a15) (fun i s => ∀ j, j < i → s j = nI j) 6 0 a8 (by omega) (fun j hj => absurd hj (by omega))
    (fun m s h => pk_le 6 6 (fun _ => H s h) (fun z => absurd z (by omega)))
    (fun m i s hi h hw => pk_le 6 i (fun z => absurd z (by omega)) (fun _ => ⟨pk_in i 6 hi, nm_e (nm_r (nI_1 i) (hw _ (bc_fill (f := nI) (nI_clamp (by omega)) h (bc_nb (by omega)))))⟩))
theorem bc_front {post : St2 → Prop} {fl fc fm fs fb : Int32} {a1 a2 a3 a4 a5 a6 a7 a8 a9 a10 a11 a12 : Nat → Int32} {a13 : Nat → Int64} {a14 a15 : Nat → Int32} {p v : Nat} (hp : p < 6) (hv : v < 128) (h8 : a8 p = nI v) (H : ∀ s : Nat → Int32, s 0 = nI v → post (fl, fc, fm, fs, fb, a1, a2, a3, a4, a5, a6, a7, s, a9, a10, a11, a12, a13, a14, a15)) : wpX_toFront post (fl, fc, fm, fs, fb, a1, a2, a3, a4, a5, a6, a7, a8, a9, a10, a11, a12, a13, a14, a15) (nI p) := by
  refine ⟨pk_in p 6 hp, nm_r (e' := nI v) (by rw [nI_clamp (by omega)]; exact h8) ⟨p + 1, ?_⟩⟩
  refine pk_loopD (fun m i s => wX_toFront_9 post (nI v) fl fc fm fs fb m (nI i) a1 a2 a3 a4 a5 a6 a7 s a9 a10 a11 a12 a13 a14 a15) (fun i _ => i < 6) ?_ ?_ p a8 hp
  · intro m s h
    refine pk_le 0 0 (fun _ => nm_e (H _ ?_)) (fun z => absurd z (by omega))
    rw [pk_us]
    exact bc_nv hv
  · intro m i s hi hw
    exact pk_le (i + 1) 0 (fun z => absurd z (by omega)) (fun _ => ⟨pk_in i 6 (by omega) (nI_pred i), pk_in (i + 1) 6 hi, nm_e (nm_r (pk_m1 i) (hw _ (by omega)))⟩)
theorem bc_r16 {post : St2 → Prop} {J : Int32 → Int32 → Int32 → Int32 → Int32 → Int32 → (Nat → Int32) → (Nat → Int32) → (Nat → Int32) → (Nat → Int32) → (Nat → Int32) → (Nat → Int32) → (Nat → Int32) → (Nat → Int32) → (Nat → Int32) → (Nat → Int32) → (Nat → Int32) → (Nat → Int32) → (Nat → Int64) → (Nat → Int32) → (Nat → Int32) → Prop} {fl fc fm fs fb : Int32} {a1 a2 a3 a4 a5 a6 a7 a8 a9 a10 a11 a12 : Nat → Int32} {a13 : Nat → Int64} {a14 a15 : Nat → Int32} {k l q : Nat} (hk : k < 32) (hq : q < 6) (hl : l < 128) (h8 : a8 q = nI l) (h8' : ∀ j, j < q → ¬ a8 j = nI l) (h5 : a5 k = nI l) (H : ∀ s : Nat → Int32, s 0 = nI l → J (nI (k + 1)) fl fc fm fs fb a1 a2 a3 a4 a5 (upd a6 k (nI q)) a7 s a9 a10 a11 a12 a13 a14 a15) : ∃ fu, wX_rankLetters_16 post J (nI k) fl fc fm fs fb a1 a2 a3 a4 a5 a6 a7 a8 a9 a10 a11 a12 a13 a14 a15 fu 0 := by
  refine pk_loop (σ := Unit) (fun m i _ => wX_rankLetters_16 post J (nI k) fl fc fm fs fb a1 a2 a3 a4 a5 a6 a7 a8 a9 a10 a11 a12 a13 a14 a15 m (nI i)) (fun _ _ => True) q 0 () (by omega) trivial ?_ ?_
  · intro m _ _
    refine ⟨pk_in q 6 hq, pk_in k 32 hk, br_t (by rw [nI_clamp (by omega), nI_clamp (by omega), h8, h5]) ⟨pk_in k 32 hk, nm_r (e' := upd a6 k (nI q)) (by rw [nI_clamp (by omega), bc_nb (by omega)]) ?_⟩⟩
    exact bc_front hq hl h8 (fun s hs => nm_r (nI_1 k) (H s hs))
  · intro m i _ hi _ hw
    exact ⟨pk_in i 6 (by omega), pk_in k 32 hk, br_f (by rw [nI_clamp (by omega), nI_clamp (by omega), h5]; exact h8' i hi) (nm_r (nI_1 i) (hw () trivial))⟩
/-- the ranks: the letter, then zeros -/
def bc_rk (l j : Nat) : Int32 := nI (if j = 0 then l else 0)
theorem bc_rank {post : St2 → Prop} {fc fm fs fb : Int32} {a1 a2 a3 a4 a5 a6 a7 a8 a9 a10 a11 a12 : Nat → Int32} {a13 : Nat → Int64} {a14 a15 : Nat → Int32} {n l : Nat} (hn : n ≤ 32) (hl : l < 6) (h5 : ∀ j, j < n → a5 j = nI l) (H : ∀ s t : Nat → Int32, (∀ j, j < n → s j = bc_rk l j) → post (nI n, fc, fm, fs, fb, a1, a2, a3, a4, a5, s, a7, t, a9, a10, a11, a12, a13, a14, a15)) : wpX_rankLetters post (nI n, fc, fm, fs, fb, a1, a2, a3, a4, a5, a6, a7, a8, a9, a10, a11, a12, a13, a14, a15) := by
  unfold wpX_rankLetters
  refine bc_reset (fun r hr => ?_)
  refine pk_loop (fun m i s => wX_rankLetters_6 post m (nI i) (nI n) fc fm fs fb a1 a2 a3 a4 a5 s.1 a7 s.2 a9 a10 a11 a12 a13 a14 a15) (fun i s => (∀ j, j < i → s.1 j = bc_rk l j) ∧ (i = 0 → ∀ j, j < 6 → s.2 j = nI j) ∧ (0 < i → s.2 0 = nI l)) n 0 (a6, r) (by omega) ⟨fun j hj => absurd hj (by omega), fun _ => hr, fun z => absurd z (by omega)⟩ ?_ ?_
  · intro m s h
    exact pk_le n n (fun _ => H _ _ h.1) (fun z => absurd z (by omega))
  · intro m i s hi h hw
    obtain ⟨g1, g2, g3⟩ := h
    refine pk_le n i (fun z => absurd z (by omega)) (fun _ => ?_)
    have fin : ∀ t : Nat → Int32, t 0 = nI l → wX_rankLetters_6 post m (nI (i + 1)) (nI n) fc fm fs fb a1 a2 a3 a4 a5 (upd s.1 i (bc_rk l i)) a7 t a9 a10 a11 a12 a13 a14 a15 :=
      fun t ht => hw (_, t) ⟨bc_fill (f := bc_rk l) rfl g1 rfl, fun z => absurd z (by omega), fun _ => ht⟩
    by_cases e : i = 0
    · have hs := g2 e
      refine bc_r16 (q := l) (l := l) (by omega) hl (by omega) (hs l hl) (fun j hj => ?_) (h5 i hi) (fun t ht => ?_)
      · rw [hs j (by omega), nI_eq (by omega) (by omega)]
        omega
      · have f := fin t ht
        rw [show bc_rk l i = nI l by rw [bc_rk, if_pos e]] at f
        exact f
    · refine bc_r16 (q := 0) (l := l) (by omega) (by omega) (by omega) (g3 (by omega)) (fun j hj => absurd hj (by omega)) (h5 i hi) (fun t ht => ?_)
      have f := fin t ht
      rw [show bc_rk l i = nI 0 by rw [bc_rk, if_neg e]] at f
      exact f
end
section
/-! runs: at most two letters -/
/-- how many symbols -/
def bc_cnt (n l : Nat) : Nat := if n = 0 then 0 else if l = 0 then 1 else n
/-- the first symbol -/
def bc_fst (n l : Nat) : Nat := if l = 0 then n - 1 else l + 1
theorem bc_add {post : St2 → Prop} {fl fc fm fb : Int32} {a1 a2 a3 a4 a5 a6 a7 a8 a9 a10 a11 a12 : Nat → Int32} {a13 : Nat → Int64} {a14 a15 : Nat → Int32} {c v : Nat} {x y : Int32} (hc : c < 32) (hv : v < 128) (hx : x = nI c) (hy : y = nI v) (H : post (fl, fc, fm, nI (c + 1), fb, a1, a2, a3, a4, a5, a6, upd a7 c (nI v), a8, a9, a10, a11, a12, a13, a14, a15)) : wpX_addSymbol post (fl, fc, fm, x, fb, a1, a2, a3, a4, a5, a6, a7, a8, a9, a10, a11, a12, a13, a14, a15) y := by
  subst hx hy
  refine ⟨pk_in c 32 hc, nm_r (e' := upd a7 c (nI v)) (by rw [nI_clamp (by omega), bc_nb hv]) (nm_r (nI_1 c) H)⟩
/-- a run of one or two zeros is written as one symbol -/
theorem bc_f1 {post : St2 → Prop} {J : Int32 → Int32 → Int32 → Int32 → Int32 → Int32 → Int32 → (Nat → Int32) → (Nat → Int32) → (Nat → Int32) → (Nat → Int32) → (Nat → Int32) → (Nat → Int32) → (Nat → Int32) → (Nat → Int32) → (Nat → Int32) → (Nat → Int32) → (Nat → Int32) → (Nat → Int32) → (Nat → Int64) → (Nat → Int32) → (Nat → Int32) → Prop} {fl fc fm fb : Int32} {a1 a2 a3 a4 a5 a6 a7 a8 a9 a10 a11 a12 : Nat → Int32} {a13 : Nat → Int64} {a14 a15 : Nat → Int32} {c m : Nat} {x : Int32} (hc : c < 32) (H : wX_shortenRuns_40 post J x m 0 fl fc fm (nI (c + 1)) fb a1 a2 a3 a4 a5 a6 (upd a7 c (nI 0)) a8 a9 a10 a11 a12 a13 a14 a15) : wX_shortenRuns_40 post J x (m + 1) 1 fl fc fm (nI c) fb a1 a2 a3 a4 a5 a6 a7 a8 a9 a10 a11 a12 a13 a14 a15 := by
  refine br_f (by decide) (br_f (by decide) ?_)
  refine br_f (by decide) ?_
  unfold wX_shortenRuns_66
  refine bc_add hc (v := 0) (by omega) rfl rfl ?_
  exact br_f (by decide) ⟨by decide, nm_r (e' := 0) (by decide) H⟩
theorem bc_f2 {post : St2 → Prop} {J : Int32 → Int32 → Int32 → Int32 → Int32 → Int32 → Int32 → (Nat → Int32) → (Nat → Int32) → (Nat → Int32) → (Nat → Int32) → (Nat → Int32) → (Nat → Int32) → (Nat → Int32) → (Nat → Int32) → (Nat → Int32) → (Nat → Int32) → (Nat → Int32) → (Nat → Int32) → (Nat → Int64) → (Nat → Int32) → (Nat → Int32) → Prop} {fl fc fm fb : Int32} {a1 a2 a3 a4 a5 a6 a7 a8 a9 a10 a11 a12 : Nat → Int32} {a13 : Nat → Int64} {a14 a15 : Nat → Int32} {c m : Nat} {x : Int32} (hc : c < 32) (H : wX_shortenRuns_40 post J x m 0 fl fc fm (nI (c + 1)) fb a1 a2 a3 a4 a5 a6 (upd a7 c (nI 1)) a8 a9 a10 a11 a12 a13 a14 a15) : wX_shortenRuns_40 post J x (m + 1) 2 fl fc fm (nI c) fb a1 a2 a3 a4 a5 a6 a7 a8 a9 a10 a11 a12 a13 a14 a15 := by
  refine br_f (by decide) (br_t (by decide) ?_)
  refine br_t rfl ?_
  unfold wX_shortenRuns_66
  refine bc_add hc (v := 1) (by omega) rfl rfl ?_
  exact br_t rfl ⟨by decide, nm_r (e' := 0) (by decide) H⟩
/-- no run is open: at the end, on to the end of the loop -/
theorem bc_f0e {post : St2 → Prop} {fc fm fs fb : Int32} {a1 a2 a3 a4 a5 a6 a7 a8 a9 a10 a11 a12 : Nat → Int32} {a13 : Nat → Int64} {a14 a15 : Nat → Int32} {n m m' : Nat} (hn : n ≤ 32) (H : post (nI n, fc, fm, fs, fb, a1, a2, a3, a4, a5, a6, a7, a8, a9, a10, a11, a12, a13, a14, a15)) : wX_shortenRuns_40 post (wX_shortenRuns_9 post (m + 1)) (nI n) (m' + 1) 0 (nI n) fc fm fs fb a1 a2 a3 a4 a5 a6 a7 a8 a9 a10 a11 a12 a13 a14 a15 := by
  refine br_t (by decide) (pk_le n n (fun _ => nm_r (nI_1 n) ?_) (fun z => absurd z (by omega)))
  exact pk_lt n (n + 1) (fun _ => H) (fun z => absurd z (by omega))
/-- no run is open: the symbol of a rank that isn't zero -/
theorem bc_f0s {post : St2 → Prop} {fc fm fb : Int32} {a1 a2 a3 a4 a5 a6 a7 a8 a9 a10 a11 a12 : Nat → Int32} {a13 : Nat → Int64} {a14 a15 : Nat → Int32} {n m m' k c v : Nat} (hn : n ≤ 32) (hk : k < n) (hc : c < 32) (hv : v + 1 < 128) (h6 : a6 k = nI v) (H : wX_shortenRuns_9 post m 0 (nI (k + 1)) (nI n) fc fm (nI (c + 1)) fb a1 a2 a3 a4 a5 a6 (upd a7 c (nI (v + 1))) a8 a9 a10 a11 a12 a13 a14 a15) : wX_shortenRuns_40 post (wX_shortenRuns_9 post m) (nI k) (m' + 1) 0 (nI n) fc fm (nI c) fb a1 a2 a3 a4 a5 a6 a7 a8 a9 a10 a11 a12 a13 a14 a15 := by
  refine br_t (by decide) (pk_le n k (fun z => absurd z (by omega)) (fun _ => ⟨pk_in k 32 (by omega), ?_⟩))
  refine bc_add hc hv rfl (by rw [nI_clamp (by omega), h6]; exact nI_1 v) ?_
  exact nm_r (nI_1 k) H
/-- a step of the loop: a zero -/
theorem bc_z {post : St2 → Prop} {fc fm fs fb : Int32} {a1 a2 a3 a4 a5 a6 a7 a8 a9 a10 a11 a12 : Nat → Int32} {a13 : Nat → Int64} {a14 a15 : Nat → Int32} {n m k z : Nat} (hn : n ≤ 32) (hk : k < n) (h6 : a6 k = 0) (H : wX_shortenRuns_9 post m (nI (z + 1)) (nI (k + 1)) (nI n) fc fm fs fb a1 a2 a3 a4 a5 a6 a7 a8 a9 a10 a11 a12 a13 a14 a15) : wX_shortenRuns_9 post (m + 1) (nI z) (nI k) (nI n) fc fm fs fb a1 a2 a3 a4 a5 a6 a7 a8 a9 a10 a11 a12 a13 a14 a15 :=
  pk_lt n k (fun z => absurd z (by omega)) (fun _ => pk_le n k (fun z => absurd z (by omega)) (fun _ => ⟨pk_in k 32 (by omega), br_t (by rw [nI_clamp (by omega)]; exact h6) (nm_r (nI_1 z) (nm_r (nI_1 k) H))⟩))
/-- a step of the loop: another rank -/
theorem bc_nz {post : St2 → Prop} {fc fm fs fb : Int32} {a1 a2 a3 a4 a5 a6 a7 a8 a9 a10 a11 a12 : Nat → Int32} {a13 : Nat → Int64} {a14 a15 : Nat → Int32} {n m k : Nat} {x : Int32} (hn : n ≤ 32) (hk : k < n) (h6 : ¬ a6 k = 0) (H : ∃ fu, wX_shortenRuns_40 post (wX_shortenRuns_9 post m) (nI k) fu x (nI n) fc fm fs fb a1 a2 a3 a4 a5 a6 a7 a8 a9 a10 a11 a12 a13 a14 a15) : wX_shortenRuns_9 post (m + 1) x (nI k) (nI n) fc fm fs fb a1 a2 a3 a4 a5 a6 a7 a8 a9 a10 a11 a12 a13 a14 a15 :=
  pk_lt n k (fun z => absurd z (by omega)) (fun _ => pk_le n k (fun z => absurd z (by omega)) (fun _ => ⟨pk_in k 32 (by omega), br_f (by rw [nI_clamp (by omega)]; exact h6) H⟩))
/-- a step of the loop: the end -/
theorem bc_ze {post : St2 → Prop} {fc fm fs fb : Int32} {a1 a2 a3 a4 a5 a6 a7 a8 a9 a10 a11 a12 : Nat → Int32} {a13 : Nat → Int64} {a14 a15 : Nat → Int32} {n m : Nat} {x : Int32} (hn : n ≤ 32) (H : ∃ fu, wX_shortenRuns_40 post (wX_shortenRuns_9 post m) (nI n) fu x (nI n) fc fm fs fb a1 a2 a3 a4 a5 a6 a7 a8 a9 a10 a11 a12 a13 a14 a15) : wX_shortenRuns_9 post (m + 1) x (nI n) (nI n) fc fm fs fb a1 a2 a3 a4 a5 a6 a7 a8 a9 a10 a11 a12 a13 a14 a15 :=
  pk_lt n n (fun z => absurd z (by omega)) (fun _ => pk_le n n (fun _ => H) (fun z => absurd z (by omega)))
theorem bc_rk0 (l : Nat) : bc_rk l 0 = nI l := rfl
theorem bc_runs {post : St2 → Prop} {fc fm fs fb : Int32} {a1 a2 a3 a4 a5 a6 a7 a8 a9 a10 a11 a12 : Nat → Int32} {a13 : Nat → Int64} {a14 a15 : Nat → Int32} {n l : Nat} (hn : n ≤ 2) (hl : l < 6) (h6 : ∀ j, j < n → a6 j = bc_rk l j) (H : ∀ s : Nat → Int32, (0 < bc_cnt n l → s 0 = nI (bc_fst n l)) → (1 < bc_cnt n l → s 1 = 0) → post (nI n, fc, fm, nI (bc_cnt n l), fb, a1, a2, a3, a4, a5, a6, s, a8, a9, a10, a11, a12, a13, a14, a15)) : wpX_shortenRuns post (nI n, fc, fm, fs, fb, a1, a2, a3, a4, a5, a6, a7, a8, a9, a10, a11, a12, a13, a14, a15) := by
  rcases Nat.lt_or_ge n 1 with z | z
  · obtain rfl : n = 0 := by omega
    have hc : bc_cnt 0 l = 0 := by rw [bc_cnt, if_pos rfl]
    rw [hc] at H
    refine ⟨1 + 1, bc_ze (n := 0) (by omega) ⟨0 + 1, bc_f0e (n := 0) (by omega) ?_⟩⟩
    exact H a7 (fun z => absurd z (by omega)) (fun z => absurd z (by omega))
  · rcases Nat.lt_or_ge n 2 with y | y
    · obtain rfl : n = 1 := by omega
      by_cases e : l = 0
      · subst e
        refine ⟨2 + 1, bc_z (z := 0) (k := 0) (by omega) (by omega) (h6 0 (by omega)) (bc_ze (by omega) ⟨1 + 1, bc_f1 (c := 0) (by omega) (bc_f0e (by omega) ?_)⟩)⟩
        exact H _ (fun _ => pk_us) (fun z => absurd z (by decide))
      · have hc : bc_cnt 1 l = 1 := by rw [bc_cnt, if_neg (by omega), if_neg e]
        have hf : bc_fst 1 l = l + 1 := by rw [bc_fst, if_neg e]
        rw [hc, hf] at H
        have h0 : a6 0 = nI l := h6 0 (by omega)
        refine ⟨2 + 1, bc_nz (k := 0) (by omega) (by omega) (by rw [h0]; exact nI_ne0 (by omega) (by omega)) ⟨0 + 1, bc_f0s (c := 0) (by omega) (by omega) (by omega) (by omega) h0 (bc_ze (by omega) ⟨0 + 1, bc_f0e (by omega) ?_⟩)⟩⟩
        exact H _ (fun _ => pk_us) (fun z => absurd z (by omega))
    · obtain rfl : n = 2 := by omega
      have h1 : a6 1 = 0 := h6 1 (by omega)
      by_cases e : l = 0
      · subst e
        refine ⟨3 + 1, bc_z (z := 0) (k := 0) (by omega) (by omega) (h6 0 (by omega)) (bc_z (z := 1) (k := 1) (by omega) (by omega) h1 (bc_ze (by omega) ⟨1 + 1, bc_f2 (c := 0) (by omega) (bc_f0e (by omega) ?_)⟩))⟩
        exact H _ (fun _ => pk_us) (fun z => absurd z (by decide))
      · have hc : bc_cnt 2 l = 2 := by rw [bc_cnt, if_neg (by omega), if_neg e]
        have hf : bc_fst 2 l = l + 1 := by rw [bc_fst, if_neg e]
        rw [hc, hf] at H
        have h0 : a6 0 = nI l := h6 0 (by omega)
        refine ⟨3 + 1, bc_nz (k := 0) (by omega) (by omega) (by rw [h0]; exact nI_ne0 (by omega) (by omega)) ⟨0 + 1, bc_f0s (c := 0) (by omega) (by omega) (by omega) (by omega) h0 (bc_z (z := 0) (k := 1) (by omega) (by omega) h1 (bc_ze (by omega) ⟨1 + 1, bc_f1 (c := 1) (by omega) (bc_f0e (by omega) ?_)⟩))⟩⟩
        exact H _ (fun _ => by rw [pk_un (by omega), pk_us]) (fun _ => pk_us)
end
section
/-! bits: numberCodes changes the codes alone -/
theorem bc_nc16 {post : St2 → Prop} {J : Int32 → Int32 → (Nat → Int32) → (Nat → Int32) → (Nat → Int32) → (Nat → Int32) → (Nat → Int32) → (Nat → Int32) → (Nat → Int32) → (Nat → Int32) → (Nat → Int32) → (Nat → Int32) → (Nat → Int32) → (Nat → Int32) → (Nat → Int64) → (Nat → Int32) → (Nat → Int32) → Prop} {fl fc fm fs fb : Int32} {a1 a2 a3 a4 a5 a6 a7 a8 a9 a10 a11 a12 : Nat → Int32} {a13 : Nat → Int64} {a14 a15 : Nat → Int32} {x y : Int32} (H : ∀ (z : Int32) (s : Nat → Int32), J z (y + 1) a1 a2 a3 a4 a5 a6 a7 a8 a9 a10 a11 s a13 a14 a15) : ∃ fu, wX_numberCodes_16 post J y fl fc fm fs fb fu x 0 a1 a2 a3 a4 a5 a6 a7 a8 a9 a10 a11 a12 a13 a14 a15 :=
  pk_loop (σ := Int32 × (Nat → Int32)) (fun m i s => wX_numberCodes_16 post J y fl fc fm fs fb m s.1 (nI i) a1 a2 a3 a4 a5 a6 a7 a8 a9 a10 a11 s.2 a13 a14 a15) (fun _ _ => True) 7 0 (x, a12) (by omega) trivial
    (fun m s _ => pk_le 7 7 (fun _ => nm_e (H _ _)) (fun z => absurd z (by omega)))
    (fun m i s hi _ hw => pk_le 7 i (fun z => absurd z (by omega)) (fun _ => ⟨pk_in i 7 hi, br_c (fun _ => ⟨pk_in i 7 hi, nm_e (nm_e (nm_r (nI_1 i) (hw (_, _) trivial)))⟩) (fun _ => nm_r (nI_1 i) (hw s trivial))⟩))
theorem bc_nc {post : St2 → Prop} {fl fc fm fs fb : Int32} {a1 a2 a3 a4 a5 a6 a7 a8 a9 a10 a11 a12 : Nat → Int32} {a13 : Nat → Int64} {a14 a15 : Nat → Int32} (H : ∀ s : Nat → Int32, post (fl, fc, fm, fs, fb, a1, a2, a3, a4, a5, a6, a7, a8, a9, a10, a11, s, a13, a14, a15)) : wpX_numberCodes post (fl, fc, fm, fs, fb, a1, a2, a3, a4, a5, a6, a7, a8, a9, a10, a11, a12, a13, a14, a15) := by
  refine pk_loop (fun m i s => wX_numberCodes_4 post fl fc fm fs fb m s.1 (nI i) a1 a2 a3 a4 a5 a6 a7 a8 a9 a10 a11 s.2 a13 a14 a15) (fun _ _ => True) 8 1 ((0 : Int32), a12) (by omega) trivial ?_ ?_
  · intro m s _
    exact pk_le 8 8 (fun _ => H _) (fun z => absurd z (by omega))
  · intro m i s hi _ hw
    refine pk_le 8 i (fun z => absurd z (by omega)) (fun _ => nm_e ?_)
    refine bc_nc16 (fun z t => ?_)
    rw [nI_1]
    exact hw (z, t) trivial
theorem bc_195 {post : St2 → Prop} {fl fc fm fs fb : Int32} {a1 a2 a3 a4 a5 a6 a7 a8 a9 a10 a11 a12 : Nat → Int32} {a13 : Nat → Int64} {a14 a15 : Nat → Int32} (H : ∀ s : Nat → Int32, post (fl, fc, fm, fs, fb, a1, a2, a3, a4, a5, a6, a7, a8, a9, a10, a11, s, a13, a14, a15)) : wX_findBits_195 post fl fc fm fs fb a1 a2 a3 a4 a5 a6 a7 a8 a9 a10 a11 a12 a13 a14 a15 := by
  unfold wX_findBits_195
  exact bc_nc H
/-! the lightest group -/
theorem bc_lskip {post : Int32 → Prop} {fl fc fm fs fb : Int32} {a1 a2 a3 a4 a5 a6 a7 a8 a9 a10 a11 a12 : Nat → Int32} {a13 : Nat → Int64} {a14 a15 : Nat → Int32} {m i : Nat} {x y : Int32} (hi : i < 7) (h : nI i = x ∨ a9 i = 0 ∨ (¬ y < 0 ∧ vp_in y 7 ∧ a9 y.toNatClampNeg ≤ a9 i)) (H : wX_lightest_5 post x fl fc fm fs fb a1 a2 a3 a4 a5 a6 a7 a8 a9 a10 a11 a12 a13 a14 a15 m y (nI (i + 1))) : wX_lightest_5 post x fl fc fm fs fb a1 a2 a3 a4 a5 a6 a7 a8 a9 a10 a11 a12 a13 a14 a15 (m + 1) y (nI i) := by
  have ei : (nI i).toNatClampNeg = i := nI_clamp (by omega)
  refine pk_le 7 i (fun z => absurd z (by omega)) (fun _ => br_c (fun _ => nm_r (nI_1 i) H) (fun g => ⟨pk_in i 7 hi, ?_⟩))
  rw [ei]
  refine br_c (fun _ => nm_r (nI_1 i) H) (fun g' => ?_)
  rcases h with h | h | h
  · exact absurd h g
  · exact absurd h g'
  · exact br_f h.1 ⟨pk_in i 7 hi, h.2.1, br_t h.2.2 (nm_r (nI_1 i) H)⟩
theorem bc_ltake {post : Int32 → Prop} {fl fc fm fs fb : Int32} {a1 a2 a3 a4 a5 a6 a7 a8 a9 a10 a11 a12 : Nat → Int32} {a13 : Nat → Int64} {a14 a15 : Nat → Int32} {m i : Nat} {x y : Int32} (hi : i < 7) (h : ¬ nI i = x) (h' : ¬ a9 i = 0) (hy : y < 0) (H : wX_lightest_5 post x fl fc fm fs fb a1 a2 a3 a4 a5 a6 a7 a8 a9 a10 a11 a12 a13 a14 a15 m (nI i) (nI (i + 1))) : wX_lightest_5 post x fl fc fm fs fb a1 a2 a3 a4 a5 a6 a7 a8 a9 a10 a11 a12 a13 a14 a15 (m + 1) y (nI i) := by
  have ei : (nI i).toNatClampNeg = i := nI_clamp (by omega)
  refine pk_le 7 i (fun z => absurd z (by omega)) (fun _ => br_f h ⟨pk_in i 7 hi, ?_⟩)
  rw [ei]
  exact br_f h' (br_t hy (nm_r (nI_1 i) H))
theorem bc_lnone {post : Int32 → Prop} {fl fc fm fs fb : Int32} {a1 a2 a3 a4 a5 a6 a7 a8 a9 a10 a11 a12 : Nat → Int32} {a13 : Nat → Int64} {a14 a15 : Nat → Int32} {x : Int32} (h : ∀ j, j < 7 → nI j = x ∨ a9 j = 0) (H : post (-3)) : wpX_lightest post (fl, fc, fm, fs, fb, a1, a2, a3, a4, a5, a6, a7, a8, a9, a10, a11, a12, a13, a14, a15) x := by
  refine pk_loop (σ := Unit) (fun m i _ => wX_lightest_5 post x fl fc fm fs fb a1 a2 a3 a4 a5 a6 a7 a8 a9 a10 a11 a12 a13 a14 a15 m (-3) (nI i)) (fun _ _ => True) 7 0 () (by omega) trivial ?_ ?_
  · intro m _ _
    exact pk_le 7 7 (fun _ => H) (fun z => absurd z (by omega))
  · intro m i _ hi _ hw
    refine bc_lskip hi ?_ (hw () trivial)
    rcases h i hi with z | z
    · exact Or.inl z
    · exact Or.inr (Or.inl z)
theorem bc_lone {post : Int32 → Prop} {fl fc fm fs fb : Int32} {a1 a2 a3 a4 a5 a6 a7 a8 a9 a10 a11 a12 : Nat → Int32} {a13 : Nat → Int64} {a14 a15 : Nat → Int32} {x : Int32} {k : Nat} (hk : k < 7) (hx : ¬ nI k = x) (h0 : ¬ a9 k = 0) (h1 : ∀ j, j < k → nI j = x ∨ a9 j = 0) (h2 : ∀ j, k < j → j < 7 → nI j = x ∨ a9 j = 0 ∨ a9 k ≤ a9 j) (H : post (nI k)) : wpX_lightest post (fl, fc, fm, fs, fb, a1, a2, a3, a4, a5, a6, a7, a8, a9, a10, a11, a12, a13, a14, a15) x := by
  refine pk_loop (fun m i s => wX_lightest_5 post x fl fc fm fs fb a1 a2 a3 a4 a5 a6 a7 a8 a9 a10 a11 a12 a13 a14 a15 m s (nI i)) (fun i s => s = if i ≤ k then -3 else nI k) 7 0 (-3) (by omega) (by rw [if_pos (by omega)]) ?_ ?_
  · intro m s h
    rw [if_neg (by omega)] at h
    subst h
    exact pk_le 7 7 (fun _ => H) (fun z => absurd z (by omega))
  · intro m i s hi h hw
    rcases Nat.lt_trichotomy i k with z | z | z
    · rw [if_pos (by omega)] at h
      subst h
      refine bc_lskip hi ?_ (hw _ (by rw [if_pos (by omega)]))
      rcases h1 i z with z | z
      · exact Or.inl z
      · exact Or.inr (Or.inl z)
    · subst z
      rw [if_pos (by omega)] at h
      subst h
      exact bc_ltake hi hx h0 (by decide) (hw _ (by rw [if_neg (by omega)]))
    · rw [if_neg (by omega)] at h
      subst h
      refine bc_lskip hi ?_ (hw _ (by rw [if_neg (by omega)]))
      rcases h2 i z hi with y | y | y
      · exact Or.inl y
      · exact Or.inr (Or.inl y)
      · exact Or.inr (Or.inr ⟨nI_pos (by omega), pk_in k 7 hk, by rw [nI_clamp (by omega)]; exact y⟩)
/-! the symbols' bits -/
/-- the weights of the first i symbols: f, then 0 -/
def bc_w (f i j : Nat) : Int32 := nI (if (0 < i ∧ j = f) ∨ (1 < i ∧ j = 0) then 1 else 0)
/-- the mask of two symbols, bit i -/
theorem bc_bit0 : ∀ f, f < 7 → ∀ i, i < 7 → (((((1 : Int32) <<< (nI f &&& 31)) ||| ((1 : Int32) <<< (nI 0 &&& 31))) >>> (nI i &&& 31)) &&& 1 = 0 ↔ ¬ (i = 0 ∨ i = f)) := by decide +kernel
theorem bc_143 {post : St2 → Prop} {J : Int32 → Int32 → (Nat → Int32) → (Nat → Int32) → (Nat → Int32) → (Nat → Int32) → (Nat → Int32) → (Nat → Int32) → (Nat → Int32) → (Nat → Int32) → (Nat → Int32) → (Nat → Int32) → (Nat → Int32) → (Nat → Int32) → (Nat → Int64) → (Nat → Int32) → (Nat → Int32) → Prop} {fl fc fm fs fb : Int32} {a1 a2 a3 a4 a5 a6 a7 a8 a9 a10 a11 a12 : Nat → Int32} {a13 : Nat → Int64} {a14 a15 : Nat → Int32} {f : Nat} (hf : f < 7) (hf0 : 0 < f) (h9 : ∀ j, j < 7 → (a9 j = 0 ↔ ¬ j = f)) (h10 : a10 f = ((1 : Int32) <<< (nI f &&& 31)) ||| ((1 : Int32) <<< (nI 0 &&& 31))) (h11 : ∀ j, j < 7 → a11 j = 0) (H : ∀ s : Nat → Int32, s f = 1 → s 0 = 1 → J (nI f) (-3) a1 a2 a3 a4 a5 a6 a7 a8 a9 a10 s a12 a13 a14 a15) : ∃ fu, wX_findBits_143 post J (nI f) fl fc fm fs fb fu 0 a1 a2 a3 a4 a5 a6 a7 a8 a9 a10 a11 a12 a13 a14 a15 := by
  refine pk_loop (fun m i s => wX_findBits_143 post J (nI f) fl fc fm fs fb m (nI i) a1 a2 a3 a4 a5 a6 a7 a8 a9 a10 s a12 a13 a14 a15) (fun i s => ∀ j, j < 7 → s j = nI (if j < i ∧ (j = 0 ∨ j = f) then 1 else 0)) 7 0 a11 (by omega) (fun j hj => by rw [if_neg (by omega)]; exact h11 j hj) ?_ ?_
  · intro m s h
    refine pk_le 7 7 (fun _ => ?_) (fun z => absurd z (by omega))
    refine bc_lone hf (fun z => absurd (show (0 : Int32) ≤ nI f from nI_pos' (by omega)) (by rw [z]; decide)) (fun z => (h9 f hf).mp z rfl) (fun j hj => Or.inr ((h9 j (by omega)).mpr (by omega))) (fun j hj hj' => Or.inr (Or.inl ((h9 j hj').mpr (by omega)))) ?_
    refine bc_lnone (fun j hj => ?_) ?_
    · by_cases e : j = f
      · exact Or.inl (by rw [e])
      · exact Or.inr ((h9 j hj).mpr e)
    · refine H s ?_ ?_
      · rw [h f hf, if_pos ⟨hf, Or.inr rfl⟩]
        rfl
      · rw [h 0 (by omega), if_pos ⟨by omega, Or.inl rfl⟩]
        rfl
  · intro m i s hi h hw
    have ef : (nI f).toNatClampNeg = f := nI_clamp (by omega)
    have ei : (nI i).toNatClampNeg = i := nI_clamp (by omega)
    refine pk_le 7 i (fun z => absurd z (by omega)) (fun _ => ⟨pk_in f 7 hf, ?_⟩)
    rw [ef, ei, h10]
    refine ek_if (bc_bit0 f hf i hi) (fun z => nm_r (nI_1 i) (hw s (fun j hj => ?_))) (fun z => ⟨pk_in i 7 hi, pk_in i 7 hi, nm_e (nm_r (nI_1 i) (hw _ (fun j hj => ?_)))⟩)
    · rw [h j hj]
      by_cases e : j < i
      · exact congrArg nI (ite_congr (propext ⟨fun t => ⟨by omega, t.2⟩, fun t => ⟨e, t.2⟩⟩) (fun _ => rfl) (fun _ => rfl))
      · rw [if_neg (fun t => e t.1), if_neg (fun t => by
          have : j = i := by omega
          subst this
          exact z t.2)]
    · by_cases e : j = i
      · subst e
        rw [pk_us, h j hj, if_neg (by omega), if_pos ⟨by omega, Decidable.not_not.mp z⟩]
        rfl
      · rw [pk_un e, h j hj]
        exact congrArg nI (ite_congr (propext ⟨fun t => ⟨by omega, t.2⟩, fun t => ⟨by omega, t.2⟩⟩) (fun _ => rfl) (fun _ => rfl))
theorem bc_39x {post : St2 → Prop} {fl fc fm fb : Int32} {a1 a2 a3 a4 a5 a6 a7 a8 a9 a10 a11 a12 : Nat → Int32} {a13 : Nat → Int64} {a14 a15 : Nat → Int32} {c f : Nat} (hc : c ≤ 2) (hf : f < 7) (hf0 : 1 < c → 0 < f) (h9 : ∀ j, j < 7 → a9 j = bc_w f c j) (h10 : ∀ j, j < 7 → a10 j = (1 : Int32) <<< (nI j &&& 31)) (h11 : ∀ j, j < 7 → a11 j = 0) (H : ∀ p q r s : Nat → Int32, (0 < c → r f = 1) → (1 < c → r 0 = 1) → post (fl, fc, fm, nI c, fb, a1, a2, a3, a4, a5, a6, a7, a8, p, q, r, s, a13, a14, a15)) {m : Nat} : wX_findBits_39 post fl fc fm (nI c) fb (m + 1) (nI c) a1 a2 a3 a4 a5 a6 a7 a8 a9 a10 a11 a12 a13 a14 a15 := by
  have n3 : ∀ k, k < 7 → ¬ nI k = -3 := fun k hk z => absurd (show (0 : Int32) ≤ nI k from nI_pos' (by omega)) (by rw [z]; decide)
  refine pk_le c c (fun _ => ?_) (fun z => absurd z (by omega))
  rcases Nat.lt_or_ge c 1 with z | z
  · obtain rfl : c = 0 := by omega
    have w0 : ∀ j, j < 7 → a9 j = 0 := fun j hj => by
      rw [h9 j hj, bc_w, if_neg (by omega)]
      rfl
    refine bc_lnone (fun j hj => Or.inr (w0 j hj)) ?_
    refine bc_lnone (fun j hj => Or.inr (w0 j hj)) ?_
    refine br_t (by decide) ⟨0 + 1, br_t (by decide) (bc_195 (fun s => H _ _ _ _ (fun z => absurd z (by omega)) (fun z => absurd z (by omega))))⟩
  · rcases Nat.lt_or_ge c 2 with y | y
    · obtain rfl : c = 1 := by omega
      have w1 : a9 f = 1 := by
        rw [h9 f hf, bc_w, if_pos (Or.inl ⟨by omega, rfl⟩)]
        rfl
      have w0 : ∀ j, j < 7 → ¬ j = f → a9 j = 0 := fun j hj e => by
        rw [h9 j hj, bc_w, if_neg (by omega)]
        rfl
      refine bc_lone hf (n3 f hf) (by rw [w1]; decide) (fun j hj => Or.inr (w0 j (by omega) (by omega))) (fun j hj hj' => Or.inr (Or.inl (w0 j hj' (by omega)))) ?_
      refine bc_lnone (fun j hj => ?_) ?_
      · by_cases e : j = f
        · exact Or.inl (by rw [e])
        · exact Or.inr (w0 j hj e)
      · refine br_f (nI_pos (by omega)) (br_f (by decide) ⟨pk_in f 7 hf, nm_r (e' := upd a11 f 1) (by rw [nI_clamp (by omega)]) ⟨0 + 1, ?_⟩⟩)
        refine br_f (nI_pos (by omega)) (br_t (by decide) (bc_195 (fun s => H _ _ _ _ (fun _ => pk_us) (fun z => absurd z (by omega)))))
    · obtain rfl : c = 2 := by omega
      have hf' : 0 < f := hf0 (by omega)
      have ef : (nI f).toNatClampNeg = f := nI_clamp (by omega)
      have e0 : (nI 0).toNatClampNeg = 0 := nI_clamp (by omega)
      have wf : a9 f = 1 := by
        rw [h9 f hf, bc_w, if_pos (Or.inl ⟨by omega, rfl⟩)]
        rfl
      have w1 : a9 0 = 1 := by
        rw [h9 0 (by omega), bc_w, if_pos (Or.inr ⟨by omega, rfl⟩)]
        rfl
      have w0 : ∀ j, j < 7 → ¬ j = f → ¬ j = 0 → a9 j = 0 := fun j hj e e' => by
        rw [h9 j hj, bc_w, if_neg (by omega)]
        rfl
      refine bc_lone (k := 0) (by omega) (n3 0 (by omega)) (by rw [w1]; decide) (fun j hj => absurd hj (by omega)) (fun j hj hj' => ?_) ?_
      · by_cases e : j = f
        · exact Or.inr (Or.inr (by rw [e, wf, w1]; decide))
        · exact Or.inr (Or.inl (w0 j hj' e (by omega)))
      refine bc_lone hf (fun z => absurd ((nI_eq (by omega) (by omega)).mp z) (by omega)) (by rw [wf]; decide) (fun j hj => ?_) (fun j hj hj' => Or.inr (Or.inl (w0 j hj' (by omega) (by omega)))) ?_
      · by_cases e : j = 0
        · exact Or.inl (by rw [e])
        · exact Or.inr (w0 j (by omega) (by omega) e)
      refine br_f (by decide) (br_t (nI_pos' (by omega)) ⟨1 + 1, ?_⟩)
      refine br_f (by decide) (br_f (nI_pos (by omega)) ?_)
      rw [ef, e0]
      refine ⟨pk_in f 7 hf, pk_in 0 7 (by omega), pk_in f 7 hf, nm_e ⟨pk_in f 7 hf, pk_in 0 7 (by omega), pk_in f 7 hf, nm_e ⟨pk_in 0 7 (by omega), nm_e ?_⟩⟩⟩
      refine bc_143 hf hf' (fun j hj => ?_) (by rw [pk_us, h10 f hf, h10 0 (by omega)]) h11 (fun s s1 s2 => ?_)
      · by_cases e : j = 0
        · rw [e, pk_us]
          exact ⟨fun _ => by omega, fun _ => rfl⟩
        · rw [pk_un e]
          by_cases e' : j = f
          · rw [e', pk_us, wf, w1]
            exact ⟨fun z => absurd z (by decide), fun z => absurd rfl z⟩
          · rw [pk_un e', w0 j hj e' e]
            exact ⟨fun _ => e', fun _ => rfl⟩
      · exact br_f (nI_pos (by omega)) (br_t (by decide) (bc_195 (fun t => H _ _ _ _ (fun _ => s1) (fun _ => s2))))
theorem bc_find {post : St2 → Prop} {fl fc fm fb : Int32} {a1 a2 a3 a4 a5 a6 a7 a8 a9 a10 a11 a12 : Nat → Int32} {a13 : Nat → Int64} {a14 a15 : Nat → Int32} {c f : Nat} (hc : c ≤ 2) (hf : f < 7) (hf0 : 1 < c → 0 < f) (h7 : 0 < c → a7 0 = nI f) (h7' : 1 < c → a7 1 = 0) (H : ∀ p q r s : Nat → Int32, (0 < c → r f = 1) → (1 < c → r 0 = 1) → post (fl, fc, fm, nI c, fb, a1, a2, a3, a4, a5, a6, a7, a8, p, q, r, s, a13, a14, a15)) : wpX_findBits post (fl, fc, fm, nI c, fb, a1, a2, a3, a4, a5, a6, a7, a8, a9, a10, a11, a12, a13, a14, a15) := by
  refine pk_loop (fun m i s => wX_findBits_2 post fl fc fm (nI c) fb m (nI i) a1 a2 a3 a4 a5 a6 a7 a8 s.1 s.2.1 s.2.2 a12 a13 a14 a15) (fun i s => (∀ j, j < i → s.1 j = 0) ∧ (∀ j, j < i → s.2.1 j = (1 : Int32) <<< (nI j &&& 31)) ∧ ∀ j, j < i → s.2.2 j = 0) 7 0 (a9, a10, a11) (by omega) ⟨fun j hj => absurd hj (by omega), fun j hj => absurd hj (by omega), fun j hj => absurd hj (by omega)⟩ ?_ ?_
  · intro m s h
    obtain ⟨g1, g2, g3⟩ := h
    refine pk_le 7 7 (fun _ => ?_) (fun z => absurd z (by omega))
    refine pk_loop (fun m i t => wX_findBits_39 post fl fc fm (nI c) fb m (nI i) a1 a2 a3 a4 a5 a6 a7 a8 t s.2.1 s.2.2 a12 a13 a14 a15) (fun i t => ∀ j, j < 7 → t j = bc_w f i j) c 0 s.1 (by omega) (fun j hj => by rw [bc_w, if_neg (by omega)]; exact g1 j hj) ?_ ?_
    · intro m t h
      exact bc_39x hc hf hf0 h g2 g3 H
    · intro m i t hi h hw
      have step : ∀ g, g < 7 → (i = 0 → g = f) → (i = 1 → g = 0) → a7 i = nI g → wX_findBits_39 post fl fc fm (nI c) fb (m + 1) (nI i) a1 a2 a3 a4 a5 a6 a7 a8 t s.2.1 s.2.2 a12 a13 a14 a15 := by
        intro g hg k0 k1 eg
        have ei : (nI i).toNatClampNeg = i := nI_clamp (by omega)
        have eg' : (nI g).toNatClampNeg = g := nI_clamp (by omega)
        refine pk_le c i (fun z => absurd z (by omega)) (fun _ => ?_)
        rw [ei, eg, eg']
        refine ⟨pk_in i 32 (by omega), pk_in g 7 hg, pk_in g 7 hg, nm_e (nm_r (nI_1 i) (hw _ (fun j hj => ?_)))⟩
        by_cases e : j = g
        · subst e
          rw [pk_us, h j hj, bc_w, bc_w, if_neg (by omega), if_pos (by omega)]
          rfl
        · rw [pk_un e, h j hj, bc_w, bc_w]
          exact congrArg nI (ite_congr (propext ⟨fun t => by omega, fun t => by omega⟩) (fun _ => rfl) (fun _ => rfl))
      by_cases e : i = 0
      · subst e
        exact step f hf (fun _ => rfl) (fun z => absurd z (by omega)) (h7 (by omega))
      · obtain rfl : i = 1 := by omega
        exact step 0 (by omega) (fun z => absurd z (by omega)) (fun _ => rfl) (h7' (by omega))
  · intro m i s hi h hw
    obtain ⟨g1, g2, g3⟩ := h
    have ei : (nI i).toNatClampNeg = i := nI_clamp (by omega)
    refine pk_le 7 i (fun z => absurd z (by omega)) (fun _ => ?_)
    rw [ei]
    refine ⟨pk_in i 7 hi, nm_e ⟨pk_in i 7 hi, nm_e ⟨pk_in i 7 hi, nm_e (nm_r (nI_1 i) (hw (_, _, _) ⟨?_, ?_, ?_⟩))⟩⟩⟩
    · exact bc_fill (f := fun _ => 0) rfl g1 rfl
    · exact bc_fill (f := fun j => (1 : Int32) <<< (nI j &&& 31)) rfl g2 rfl
    · exact bc_fill (f := fun _ => 0) rfl g3 rfl
end
section
/-! the bits are written: one for each symbol -/
theorem bc_51 {post : St2 → Prop} {J : Int32 → Int32 → (Nat → Int32) → (Nat → Int32) → (Nat → Int32) → (Nat → Int32) → (Nat → Int32) → (Nat → Int32) → (Nat → Int32) → (Nat → Int32) → (Nat → Int32) → (Nat → Int32) → (Nat → Int32) → (Nat → Int32) → (Nat → Int64) → (Nat → Int32) → (Nat → Int32) → Prop} {fl fc fm fs : Int32} {a1 a2 a3 a4 a5 a6 a7 a8 a9 a10 a11 a12 : Nat → Int32} {a13 : Nat → Int64} {a14 a15 : Nat → Int32} {g k : Nat} (hg : g < 7) (hk : k < 64) (H : ∀ s : Nat → Int64, J (nI (k + 1)) (nI (k + 1)) a1 a2 a3 a4 a5 a6 a7 a8 a9 a10 a11 a12 s a14 a15) : ∃ fu, wX_writeBits_51 post J (nI k) (nI g) fl fc fm fs fu 0 (nI k) a1 a2 a3 a4 a5 a6 a7 a8 a9 a10 a11 a12 a13 a14 a15 := by
  have esh : nI k >>> ((6 : Int32) &&& 31) = nI 0 := by
    rw [pk_shrN (by omega) _ 6 (by decide), show k / 2 ^ 6 = 0 by omega]
  have fin : ∀ s : Nat → Int64, wX_writeBits_92 post J (wX_writeBits_51 post J (nI k) (nI g) fl fc fm fs (0 + 1)) (nI k) (nI g) 0 fl fc fm fs (nI k) a1 a2 a3 a4 a5 a6 a7 a8 a9 a10 a11 a12 s a14 a15 := fun s =>
    nm_r (nI_1 k) (nm_r (e' := -1) (by decide) (br_t (by decide) (nm_r (nI_1 k) (H s))))
  refine ⟨0 + 1 + 1, br_f (by decide) ⟨pk_in g 7 hg, br_c (fun _ => fin _) (fun _ => ⟨pk_in 0 4 (by omega) esh, pk_in 0 4 (by omega) esh, nm_e (fin _)⟩)⟩⟩
theorem bc_write {post : St2 → Prop} {fl fc fm fb : Int32} {a1 a2 a3 a4 a5 a6 a7 a8 a9 a10 a11 a12 : Nat → Int32} {a13 : Nat → Int64} {a14 a15 : Nat → Int32} {c f : Nat} (hc : c ≤ 2) (hf : f < 7) (h7 : 0 < c → a7 0 = nI f) (h7' : 1 < c → a7 1 = 0) (h11 : 0 < c → a11 f = 1) (h11' : 1 < c → a11 0 = 1) (H : ∀ s : Nat → Int64, post (fl, fc, fm, nI c, nI c, a1, a2, a3, a4, a5, a6, a7, a8, a9, a10, a11, a12, s, a14, a15)) : wpX_writeBits post (fl, fc, fm, nI c, fb, a1, a2, a3, a4, a5, a6, a7, a8, a9, a10, a11, a12, a13, a14, a15) := by
  refine pk_loop (fun m i s => wX_writeBits_7 post fl fc fm (nI c) 0 m (nI i) a1 a2 a3 a4 a5 a6 a7 a8 a9 a10 a11 a12 s a14 a15) (fun _ _ => True) 4 0 a13 (by omega) trivial ?_ ?_
  · intro m s _
    refine pk_le 4 4 (fun _ => ?_) (fun z => absurd z (by omega))
    refine pk_loop (fun m i s => wX_writeBits_27 post fl fc fm (nI c) m (nI i) (nI i) a1 a2 a3 a4 a5 a6 a7 a8 a9 a10 a11 a12 s a14 a15) (fun _ _ => True) c 0 s (by omega) trivial ?_ ?_
    · intro m s _
      exact pk_le c c (fun _ => H s) (fun z => absurd z (by omega))
    · intro m i s hi _ hw
      have step : ∀ g, g < 7 → a7 i = nI g → a11 g = 1 → wX_writeBits_27 post fl fc fm (nI c) (m + 1) (nI i) (nI i) a1 a2 a3 a4 a5 a6 a7 a8 a9 a10 a11 a12 s a14 a15 := by
        intro g hg eg e1
        refine pk_le c i (fun z => absurd z (by omega)) (fun _ => ⟨pk_in i 32 (by omega), nm_r (e' := nI g) (by rw [nI_clamp (by omega)]; exact eg) ⟨pk_in g 7 hg, nm_r (e' := 0) (by rw [nI_clamp (by omega), e1]; decide) ?_⟩⟩)
        exact bc_51 hg (by omega) (fun t => hw t trivial)
      by_cases e : i = 0
      · subst e
        exact step f hf (h7 (by omega)) (h11 (by omega))
      · obtain rfl : i = 1 := by omega
        exact step 0 (by omega) (h7' (by omega)) (h11' (by omega))
  · intro m i s hi _ hw
    exact pk_le 4 i (fun z => absurd z (by omega)) (fun _ => ⟨pk_in i 4 hi, nm_e (nm_r (nI_1 i) (hw _ trivial))⟩)
end
section
/-! code(): all stages -/
theorem bc_c24 {post : St2 → Prop} {fc fs fb : Int32} {a1 a2 a3 a4 a5 a6 a7 a8 a9 a10 a11 a12 : Nat → Int32} {a13 : Nat → Int64} {a14 a15 : Nat → Int32} {n l : Nat} (hn : n ≤ 2) (hl : l < 6) (h1 : ∀ j, j < n → a1 j = nI l) (h2 : ∀ j, j < n → a2 j = nI j)
    (H : ∀ (fm : Int32) (b5 b6 b7 b8 b9 b10 b11 b12 : Nat → Int32) (b13 : Nat → Int64), (∀ j, j < n → b5 j = nI l) → (∀ j, j < n → b6 j = bc_rk l j) → (0 < bc_cnt n l → b7 0 = nI (bc_fst n l)) → (1 < bc_cnt n l → b7 1 = 0) → post (nI n, fc, fm, nI (bc_cnt n l), nI (bc_cnt n l), a1, a2, a3, a4, b5, b6, b7, b8, b9, b10, b11, b12, b13, a14, a15)) :
    ∃ fu, wX_code_24 post (nI n) fc fs fb fu 0 0 a1 a2 a3 a4 a5 a6 a7 a8 a9 a10 a11 a12 a13 a14 a15 := by
  have hc : bc_cnt n l ≤ 2 := by
    unfold bc_cnt
    split
    · omega
    · split
      · omega
      · omega
  have hf : bc_fst n l < 7 := by
    unfold bc_fst
    split
    · omega
    · omega
  have hf0 : 1 < bc_cnt n l → 0 < bc_fst n l := by
    unfold bc_cnt bc_fst
    split
    · omega
    · split
      · omega
      · omega
  refine pk_loop (fun m i s => wX_code_24 post (nI n) fc fs fb m (nI i) s.1 a1 a2 a3 a4 s.2 a6 a7 a8 a9 a10 a11 a12 a13 a14 a15) (fun i s => ∀ j, j < i → s.2 j = nI l) n 0 ((0 : Int32), a5) (by omega) (fun j hj => absurd hj (by omega)) ?_ ?_
  · intro m s h
    refine pk_le n n (fun _ => ?_) (fun z => absurd z (by omega))
    refine bc_rank (by omega) hl h (fun b6 b8 g6 => ?_)
    refine bc_runs hn hl g6 (fun b7 g7 g7' => ?_)
    refine bc_find hc hf hf0 g7 g7' (fun b9 b10 b11 b12 g11 g11' => ?_)
    refine bc_write hc hf g7 g7' g11 g11' (fun b13 => ?_)
    exact H _ _ _ _ _ _ _ _ _ _ h g6 g7 g7'
  · intro m i s hi h hw
    have K : ∀ mk : Int32, wX_code_48 post (wX_code_24 post (nI n) fc fs fb m) (nI i) (nI i) (nI n) fc mk fs fb a1 a2 a3 a4 s.2 a6 a7 a8 a9 a10 a11 a12 a13 a14 a15 := by
      intro mk
      refine pk_eq i 0 (fun z => ?_) (fun z => ?_)
      · have e : nI n - 1 = nI (n - 1) := pk_sub (b := 1) (by omega)
        refine ⟨pk_in (n - 1) 32 (by omega) e, pk_in i 32 (by omega), nm_e (nm_r (nI_1 i) (hw (mk, _) ?_))⟩
        exact bc_fill (f := fun _ => nI l) (nI_clamp (by omega)) h (by rw [e, nI_clamp (by omega), h1 _ (by omega)]; exact bc_nv (by omega))
      · have e : nI i - 1 = nI (i - 1) := pk_sub (b := 1) (by omega)
        refine ⟨pk_in (i - 1) 32 (by omega) e, pk_in i 32 (by omega), nm_e (nm_r (nI_1 i) (hw (mk, _) ?_))⟩
        exact bc_fill (f := fun _ => nI l) (nI_clamp (by omega)) h (by rw [e, nI_clamp (by omega), h1 _ (by omega)]; exact bc_nv (by omega))
    refine pk_le n i (fun z => absurd z (by omega)) (fun _ => ⟨pk_in i 32 (by omega), nm_r (e' := nI i) (by rw [nI_clamp (by omega)]; exact h2 i hi) ?_⟩)
    exact br_c (fun _ => K _) (fun _ => K _)
theorem bc_code {post : St2 → Prop} {fm fs fb : Int32} {a1 a2 a3 a4 a5 a6 a7 a8 a9 a10 a11 a12 : Nat → Int32} {a13 : Nat → Int64} {a14 a15 : Nat → Int32} {n l : Nat} (hn : n ≤ 2) (hl : l < 6) (h1 : ∀ j, j < n → a1 j = nI l)
    (H : ∀ (fm : Int32) (b2 b3 b4 b5 b6 b7 b8 b9 b10 b11 b12 : Nat → Int32) (b13 : Nat → Int64), (∀ j, j < n → b5 j = nI l) → (∀ j, j < n → b6 j = bc_rk l j) → (0 < bc_cnt n l → b7 0 = nI (bc_fst n l)) → (1 < bc_cnt n l → b7 1 = 0) → post (nI n, 1, fm, nI (bc_cnt n l), nI (bc_cnt n l), a1, b2, b3, b4, b5, b6, b7, b8, b9, b10, b11, b12, b13, a14, a15)) :
    wpX_code post (nI n, 0, fm, fs, fb, a1, a2, a3, a4, a5, a6, a7, a8, a9, a10, a11, a12, a13, a14, a15) := by
  refine br_t rfl ?_
  refine bc_sort (by omega) (show l < 128 by omega) h1 (fun b2 b3 b4 g2 => ?_)
  exact bc_c24 hn hl h1 g2 (fun fm b5 b6 b7 b8 b9 b10 b11 b12 b13 => H fm b2 b3 b4 b5 b6 b7 b8 b9 b10 b11 b12 b13)
/-- coded already: nothing is done -/
theorem bc_coded {post : St2 → Prop} {fl fm fs fb : Int32} {a1 a2 a3 a4 a5 a6 a7 a8 a9 a10 a11 a12 : Nat → Int32} {a13 : Nat → Int64} {a14 a15 : Nat → Int32} (H : post (fl, 1, fm, fs, fb, a1, a2, a3, a4, a5, a6, a7, a8, a9, a10, a11, a12, a13, a14, a15)) : wpX_code post (fl, 1, fm, fs, fb, a1, a2, a3, a4, a5, a6, a7, a8, a9, a10, a11, a12, a13, a14, a15) := br_f (by decide) H
end
section
/-! the law, from its end to its start -/
theorem bc_253 {post : Int32 → St0 → Prop} {mc ms kc ks : Nat} {x8 z0 z1 : Int32} {fl fm fs fb : Int32} {a1 a2 a3 a4 a5 a6 a7 a8 a9 a10 a11 a12 : Nat → Int32} {a13 : Nat → Int64} {a14 a15 : Nat → Int32} (hz : z1 = z0) (hb : fb = x8) (H : post 1 ()) : wL_lawOf_253 post mc ms x8 z0 z1 kc ks fl 1 fm fs fb a1 a2 a3 a4 a5 a6 a7 a8 a9 a10 a11 a12 a13 a14 a15 := by
  refine br_t hz ?_
  unfold wpX_cost
  refine bc_coded ?_
  exact br_t hb H
theorem bc_217 {post : Int32 → St0 → Prop} {mc ms kc ks c : Nat} {x3 x8 x9 z0 z1 : Int32} {fl fm : Int32} {a1 a2 a3 a4 a5 a6 a7 a8 a9 a10 a11 a12 : Nat → Int32} {a13 : Nat → Int64} {a14 a15 : Nat → Int32} (hz : z1 = z0) (hc : c ≤ 2) (h8 : x8 = nI c) (h7 : 0 < c → a7 0 = x9) (h7' : 1 < c → a7 1 = 0) (H : post 1 ()) : wL_lawOf_217 post mc ms x3 x8 x9 z0 z1 kc ks fl 1 fm (nI c) (nI c) a1 a2 a3 a4 a5 a6 a7 a8 a9 a10 a11 a12 a13 a14 a15 := by
  subst h8
  refine br_t hz ?_
  unfold wpX_symbol
  refine bc_coded ?_
  by_cases g : x3 < 0
  · refine br_t g (br_t g ?_)
    exact bc_253 rfl rfl H
  · obtain ⟨j, hj, rfl⟩ := nI_of g
    refine br_f g (pk_lt j c (fun e => ⟨pk_in j 32 (by omega), br_f g (br_t (nI_lt e (by omega)) (pk_eq j 0 (fun e0 => ?_) (fun e0 => ?_)))⟩) (fun e => br_f g (br_f (nI_nlt e hj) ?_)))
    · exact bc_253 (by rw [nI_clamp hj, e0]; exact h7 (by omega)) rfl H
    · exact bc_253 (by rw [nI_clamp hj, show j = 1 by omega]; exact h7' (by omega)) rfl H
    · exact bc_253 rfl rfl H
theorem bc_181 {post : Int32 → St0 → Prop} {mc ms kc ks n l c : Nat} {x2 x3 x6 x7 x8 x9 z0 z1 : Int32} {fm : Int32} {a1 a2 a3 a4 a5 a6 a7 a8 a9 a10 a11 a12 : Nat → Int32} {a13 : Nat → Int64} {a14 a15 : Nat → Int32} (hz : z1 = z0) (hn : n ≤ 2) (hc : c ≤ 2) (h6 : x6 = nI n) (hx7 : 0 < n → x7 = nI l) (h8 : x8 = nI c) (ha : ∀ j, j < n → a6 j = bc_rk l j) (h7 : 0 < c → a7 0 = x9) (h7' : 1 < c → a7 1 = 0) (H : post 1 ()) : wL_lawOf_181 post mc ms x2 x3 x6 x7 x8 x9 z0 z1 kc ks (nI n) 1 fm (nI c) (nI c) a1 a2 a3 a4 a5 a6 a7 a8 a9 a10 a11 a12 a13 a14 a15 := by
  subst h6
  refine br_t hz ?_
  unfold wpX_rank
  refine bc_coded ?_
  by_cases g : x2 < 0
  · refine br_t g (br_t g ?_)
    exact bc_217 rfl hc h8 h7 h7' H
  · obtain ⟨j, hj, rfl⟩ := nI_of g
    refine br_f g (pk_lt j n (fun e => ⟨pk_in j 32 (by omega), br_f g (br_t (nI_lt e (by omega)) (pk_eq j 0 (fun e0 => ?_) (fun e0 => ?_)))⟩) (fun e => br_f g (br_f (nI_nlt e hj) ?_)))
    · exact bc_217 (by rw [nI_clamp hj, ha j e, bc_rk, if_pos e0, hx7 (by omega)]) hc h8 h7 h7' H
    · exact bc_217 (by rw [nI_clamp hj, ha j e, bc_rk, if_neg e0]; rfl) hc h8 h7 h7' H
    · exact bc_217 rfl hc h8 h7 h7' H
theorem bc_154 {post : Int32 → St0 → Prop} {mc ms kc ks n l : Nat} {x0 x2 x3 x6 x7 x8 x9 z0 z1 : Int32} {fm fs fb : Int32} {a1 a2 a3 a4 a5 a6 a7 a8 a9 a10 a11 a12 : Nat → Int32} {a13 : Nat → Int64} {a14 a15 : Nat → Int32} (hz : z1 = z0) (hn : n ≤ 2) (hl : l < 6) (h1 : ∀ j, j < n → a1 j = nI l) (hx0 : 0 < n → x0 = nI l) (h6 : x6 = nI n) (hx7 : 0 < n → x7 = nI l) (h8 : x8 = nI (bc_cnt n l)) (h9 : 0 < bc_cnt n l → x9 = nI (bc_fst n l)) (H : post 1 ()) : wL_lawOf_154 post mc ms x0 x2 x3 x6 x7 x8 x9 z0 z1 kc ks (nI n) 0 fm fs fb a1 a2 a3 a4 a5 a6 a7 a8 a9 a10 a11 a12 a13 a14 a15 := by
  subst h6
  have hc : bc_cnt n l ≤ 2 := by
    unfold bc_cnt
    split
    · omega
    · split
      · omega
      · omega
  refine br_t hz ?_
  unfold wpX_column
  refine bc_code hn hl h1 (fun fm b2 b3 b4 b5 b6 b7 b8 b9 b10 b11 b12 b13 g5 g6 g7 g7' => ?_)
  have g7'' : 0 < bc_cnt n l → b7 0 = x9 := fun t => by rw [h9 t]; exact g7 t
  by_cases g : x2 < 0
  · refine br_t g (br_t g ?_)
    exact bc_181 rfl hn hc rfl hx7 h8 g6 g7'' g7' H
  · obtain ⟨j, hj, rfl⟩ := nI_of g
    refine br_f g (pk_lt j n (fun e => ⟨pk_in j 32 (by omega), br_f g (br_f (nI_ge e (by omega)) ?_)⟩) (fun e => br_f g (br_t (nI_le e hj) ?_)))
    · exact bc_181 (by rw [nI_clamp hj, g5 j e, hx0 (by omega)]) hn hc rfl hx7 h8 g6 g7'' g7' H
    · exact bc_181 rfl hn hc rfl hx7 h8 g6 g7'' g7' H
/-- repeat says BAD: nothing changes -/
theorem bc_bad {post : Int32 → St2 → Prop} {fc fm fs fb : Int32} {a1 a2 a3 a4 a5 a6 a7 a8 a9 a10 a11 a12 : Nat → Int32} {a13 : Nat → Int64} {a14 a15 : Nat → Int32} {n : Nat} {x : Int32} (hn : n ≤ 1) (h : 0 < n → ¬ x = 1) (H : post (-1) (nI n, fc, fm, fs, fb, a1, a2, a3, a4, a5, a6, a7, a8, a9, a10, a11, a12, a13, a14, a15)) : wpX_repeat post (nI n, fc, fm, fs, fb, a1, a2, a3, a4, a5, a6, a7, a8, a9, a10, a11, a12, a13, a14, a15) x := by
  by_cases g : x < 1
  · exact br_t g H
  · refine br_f g ?_
    have g0 : ¬ x < 0 := fun t => g (Int32.lt_trans t (by decide))
    obtain ⟨j, hj, rfl⟩ := nI_of g0
    have j1 : 1 ≤ j := by
      rcases Nat.lt_or_ge j 1 with z | z
      · exact absurd (nI_lt (b := 1) z (by omega)) g
      · exact z
    refine pk_le j n (fun z => ?_) (fun _ => H)
    exact absurd (show nI j = 1 by rw [show j = 1 by omega]; rfl) (h (by omega))
theorem bc_twice {post : Int32 → St2 → Prop} {fc fm fs fb : Int32} {a1 a2 a3 a4 a5 a6 a7 a8 a9 a10 a11 a12 : Nat → Int32} {a13 : Nat → Int64} {a14 a15 : Nat → Int32} {l : Nat} (hl : l < 6) (h1 : a1 0 = nI l) (H : post 2 (nI 2, 0, fm, fs, fb, upd a1 1 (nI l), a2, a3, a4, a5, a6, a7, a8, a9, a10, a11, a12, a13, a14, a15)) : wpX_repeat post (nI 1, fc, fm, fs, fb, a1, a2, a3, a4, a5, a6, a7, a8, a9, a10, a11, a12, a13, a14, a15) 1 := by
  refine br_f (by decide) (br_t (by decide) (br_t (by decide) (nm_r (e' := 0) (by decide) ⟨0 + 1 + 1, ?_⟩)))
  refine br_f (by decide) ⟨pk_in 0 32 (by omega), pk_in 1 32 (by omega), nm_r (e' := upd a1 1 (nI l)) ?_ (nm_r (e' := 1) (by decide) (br_t (by decide) (nm_r (e' := nI 2) (by decide) H)))⟩
  rw [show (nI 1 + 0).toNatClampNeg = 1 by decide, show ((0 : Int32) + 0).toNatClampNeg = 0 by decide, h1, bc_nv (by omega)]
/-- no letter is put -/
theorem bc_106n {post : Int32 → St0 → Prop} {x0 x1 x2 x3 x7 x9 : Int32} (h : x0 < 0 ∨ 5 < x0) (H : post 1 ()) : wL_lawOf_106 post 16 346 x0 x1 x2 x3 0 0 0 x7 0 x9 0 0 := by
  refine ⟨by omega, by omega, 15, 326, by omega, by omega, ?_⟩
  refine ⟨by omega, by omega, by omega, by omega, by omega, by omega, by omega, by omega, by omega, by omega, by omega, by omega, by omega, by omega, by omega, by omega, by omega, by omega, by omega, by omega, by omega, by omega, by omega, by omega, by omega, by omega, by omega, by omega, by omega, by omega, ?_⟩
  have K : wL_lawOf_133 post 16 346 x0 x1 x2 x3 0 0 x7 0 x9 (-1) (-1) (0 + 1 + 15) (0 + 20 + 326) 0 0 0 0 0 (fun _ => 0) (fun _ => 0) (fun _ => 0) (fun _ => 0) (fun _ => 0) (fun _ => 0) (fun _ => 0) (fun _ => 0) (fun _ => 0) (fun _ => 0) (fun _ => 0) (fun _ => 0) (fun _ => 0) (fun _ => 0) (fun _ => 0) := by
    refine br_t rfl ?_
    refine bc_bad (n := 0) (by omega) (fun z => absurd z (by omega)) ?_
    refine br_t rfl ?_
    exact bc_154 (n := 0) (l := 0) rfl (by omega) (by omega) (fun j hj => absurd hj (by omega)) (fun z => absurd z (by omega)) rfl (fun z => absurd z (by omega)) rfl (fun z => absurd z (by decide)) H
  refine br_t (by decide) ?_
  by_cases g : x0 < 0
  · exact br_t g (br_t rfl K)
  · refine br_f g (br_f ?_ (br_t rfl K))
    obtain ⟨j, hj, rfl⟩ := nI_of g
    rcases h with h | h
    · exact absurd h g
    · have h5 : 5 < j := (nI_ltI (a := 5) (by omega) hj).mp h
      exact nI_nlt (b := 6) (by omega) hj
/-- a letter is put, once or twice -/
theorem bc_106p {post : Int32 → St0 → Prop} {x1 x2 x3 x5 : Int32} {n l : Nat} (hl : l < 6) (h : (x5 = 0 ∧ n = 1 ∧ ¬ x1 = 1) ∨ (x5 = 1 ∧ n = 2 ∧ x1 = 1)) (H : post 1 ()) : wL_lawOf_106 post 16 346 (nI l) x1 x2 x3 1 x5 (nI n) (nI l) (nI (bc_cnt n l)) (nI (bc_fst n l)) 0 0 := by
  refine ⟨by omega, by omega, 15, 326, by omega, by omega, ?_⟩
  refine ⟨by omega, by omega, by omega, by omega, by omega, by omega, by omega, by omega, by omega, by omega, by omega, by omega, by omega, by omega, by omega, by omega, by omega, by omega, by omega, by omega, by omega, by omega, by omega, by omega, by omega, by omega, by omega, by omega, by omega, by omega, ?_⟩
  refine br_t (by decide) (br_f (nI_pos (by omega)) (br_t (nI_lt (b := 6) hl (by omega)) ⟨pk_in 0 32 (by omega), nm_r (e' := upd (fun _ => 0) 0 (nI l)) ?_ (nm_r (e' := nI 1) (by decide) ?_)⟩))
  · rw [show (0 : Int32).toNatClampNeg = 0 by decide, bc_nb (by omega)]
  · refine br_f (by decide) ?_
    refine br_t rfl ?_
    rcases h with ⟨rfl, rfl, h1⟩ | ⟨rfl, rfl, rfl⟩
    · refine bc_bad (n := 1) (by omega) (fun _ => h1) ?_
      refine br_t rfl ?_
      refine bc_154 (n := 1) (l := l) rfl (by omega) hl (fun j hj => ?_) (fun _ => rfl) rfl (fun _ => rfl) rfl (fun _ => rfl) H
      rw [show j = 0 by omega, pk_us]
    · refine bc_twice hl pk_us ?_
      refine br_f (by decide) ?_
      refine bc_154 (n := 2) (l := l) rfl (by omega) hl (fun j hj => ?_) (fun _ => rfl) rfl (fun _ => rfl) rfl (fun _ => rfl) H
      by_cases e : j = 1
      · rw [e, pk_us]
      · rw [pk_un e, show j = 0 by omega, pk_us]
/-- the law's own numbers: n, symbols, first -/
theorem bc_84 {post : Int32 → St0 → Prop} {x1 x2 x3 x5 : Int32} {n l : Nat} (hl : l < 6) (h : (x5 = 0 ∧ n = 1 ∧ ¬ x1 = 1) ∨ (x5 = 1 ∧ n = 2 ∧ x1 = 1)) (H : post 1 ()) : wL_lawOf_84 post 16 346 (nI l) x1 x2 x3 1 x5 (nI n) (nI l) (nI (bc_cnt n l)) 0 0 := by
  have K := bc_106p (x2 := x2) (x3 := x3) hl h H
  refine pk_eq l 0 (fun e => ?_) (fun e => ?_)
  · subst e
    rcases h with ⟨rfl, rfl, h1⟩ | ⟨rfl, rfl, rfl⟩
    · exact br_t rfl K
    · exact br_f (by decide) K
  · rw [nI_1]
    rw [bc_fst, if_neg e] at K
    exact K
theorem bc_52 {post : Int32 → St0 → Prop} {x1 x2 x3 x5 : Int32} {n l : Nat} (hl : l < 6) (h : (x5 = 0 ∧ n = 1 ∧ ¬ x1 = 1) ∨ (x5 = 1 ∧ n = 2 ∧ x1 = 1)) (H : post 1 ()) : wL_lawOf_52 post 16 346 (nI l) x1 x2 x3 1 x5 (nI n) 0 0 := by
  have K := bc_84 (x2 := x2) (x3 := x3) hl h H
  refine br_f (by decide) (pk_eq l 0 (fun e => ?_) (fun e => ?_))
  · subst e
    rcases h with ⟨rfl, rfl, h1⟩ | ⟨rfl, rfl, rfl⟩
    · exact K
    · exact K
  · rcases h with ⟨rfl, rfl, h1⟩ | ⟨rfl, rfl, rfl⟩
    · rw [bc_cnt, if_neg (by omega), if_neg e] at K
      exact br_t rfl K
    · rw [bc_cnt, if_neg (by omega), if_neg e] at K
      exact br_f (by decide) K
theorem bc_13 {post : Int32 → St0 → Prop} {x0 x1 x2 x3 : Int32} (h : x0 < 0 ∨ 5 < x0) (H : post 1 ()) : wL_lawOf_13 post 16 346 x0 x1 x2 x3 0 0 := by
  refine br_t rfl (br_t rfl (br_t rfl (br_t rfl ?_)))
  refine br_c (fun _ => br_t rfl ?_) (fun _ => ?_)
  · exact bc_106n h H
  · exact bc_106n h H
theorem bc_lawOf {post : Int32 → St0 → Prop} (x0 x1 x2 x3 : Int32) (H : post 1 ()) : wpL_lawOf post 16 346 () x0 x1 x2 x3 := by
  refine br_c (fun h => bc_13 (Or.inl h) H) (fun g => br_c (fun h => bc_13 (Or.inr h) H) (fun g' => ?_))
  obtain ⟨l, hl, rfl⟩ := nI_of g
  have l6 : l < 6 := by
    rcases Nat.lt_or_ge 5 l with z | z
    · exact absurd (nI_lt (a := 5) z hl) g'
    · omega
  refine br_f (by decide) (br_c (fun e => ?_) (fun e => ?_))
  · exact br_f (by decide) (bc_52 l6 (Or.inr ⟨rfl, rfl, e⟩) H)
  · exact br_t rfl (br_f (by decide) (bc_52 l6 (Or.inl ⟨rfl, rfl, e⟩) H))
theorem bc_cell {post : Int32 → Prop} {L : Nat} {xs : Nat → Int32} {x : Int32} (k : Nat) (hk : k < 4) (hL : L ≤ 4) (hx : x = nI k) (H : ∀ r, post r) : wpL_cellAt post L xs () x := by
  subst hx
  exact pk_le L k (fun _ => H _) (fun z => ⟨pk_in k L z, H _⟩)
theorem i_vc (xs : Nat → Int32) (L : Nat) (hL : L ≤ 4) : wpL_law (fun r => r = 1) L xs := by
  unfold wpL_law
  refine bc_cell 0 (by omega) hL rfl (fun r1 => ?_)
  refine bc_cell 1 (by omega) hL rfl (fun r2 => ?_)
  refine bc_cell 2 (by omega) hL rfl (fun r3 => ?_)
  refine bc_cell 3 (by omega) hL rfl (fun r4 => ?_)
  exact ⟨16, 346, by omega, by omega, bc_lawOf r1 r2 r3 r4 rfl⟩
end
