section
/-! numbers, the constructor, sizes, flip -/
theorem ap_b8 : ∀ n, n < 128 → (nI n).toInt8.toInt32 = nI n := by decide +kernel
theorem ap_fill {f s : Nat → Int32} {i k : Nat} {x : Int32} (hk : k = i) (h : ∀ j, j < i → s j = f j) (hx : x = f i) : ∀ j, j < i + 1 → upd s k x j = f j := by
  intro j hj
  rw [hk]
  by_cases e : j = i
  · rw [e, pk_us, hx]
  · rw [pk_un e]
    exact h j (by omega)
section
variable {c r k hc cc : Int32} {a1 a2 a3 a4 a5 a6 a7 a8 a9 : Nat → Int32}
theorem ap_clear33 {post : Int32 → St2 → Prop} {x1 : Int32} (H : ∀ b5 b6 : Nat → Int32, b6 0 = 264 → post x1 (8, 8, k, 1, cc, a1, a2, a3, a4, b5, b6, a7, a8, a9)) : ∃ n, wX_clear_33 post x1 8 8 k hc cc n 0 a1 a2 a3 a4 a5 a6 a7 a8 a9 :=
  pk_loop (fun n i s => wX_clear_33 post x1 8 8 k hc cc n (nI i) a1 a2 a3 a4 s a6 a7 a8 a9) (fun _ _ => True) 8 0 a5 (by omega) trivial
    (fun n s _ => pk_le 8 8 (fun _ => nm_e (H s _ (by rw [pk_us]; decide))) (fun z => absurd z (by omega)))
    (fun n i s hi _ hw => pk_le 8 i (fun z => absurd z (by omega)) (fun _ => ⟨pk_in i 16 (by omega), nm_e (nm_r (nI_1 i) (hw _ trivial))⟩))
theorem ap_clear7 {post : Int32 → St2 → Prop} {x1 : Int32} (H : ∀ b3 b5 b6 : Nat → Int32, (∀ j, j < 20 → b3 j = 0) → b6 0 = 264 → post x1 (8, 8, 0, 1, cc, a1, a2, b3, a4, b5, b6, a7, a8, a9)) : ∃ n, wX_clear_7 post x1 8 8 k hc cc n 0 a1 a2 a3 a4 a5 a6 a7 a8 a9 :=
  pk_loop (fun n i s => wX_clear_7 post x1 8 8 k hc cc n (nI i) a1 a2 s a4 a5 a6 a7 a8 a9) (fun i s => ∀ j, j < i → s j = 0) 20 0 a3 (by omega) (fun j hj => absurd hj (by omega))
    (fun n s h => pk_le 20 20 (fun _ => ap_clear33 (fun b5 b6 h6 => H s b5 b6 h h6)) (fun z => absurd z (by omega)))
    (fun n i s hi h hw => pk_le 20 i (fun z => absurd z (by omega)) (fun _ => ⟨pk_in i 20 (by omega), nm_e (nm_r (nI_1 i) (hw _ (ap_fill (f := fun _ => 0) (nI_clamp (by omega)) h rfl)))⟩))
theorem ap_init125 {post : St2 → Prop} {mc ms kc ks : Nat} (H : ∀ b3 b5 b6 : Nat → Int32, (∀ j, j < 20 → b3 j = 0) → b6 0 = 264 → post (8, 8, 0, 1, cc, a1, a2, b3, a4, b5, b6, a7, a8, a9)) : wX_init_125 post mc ms 8 kc ks 8 r k hc cc a1 a2 a3 a4 a5 a6 a7 a8 a9 := by
  unfold wX_init_125 wpX_clear
  exact ap_clear7 (fun b3 b5 b6 h3 h6 => H b3 b5 b6 h3 h6)
theorem ap_init100 {post : St2 → Prop} {mc ms kc ks : Nat} (H : ∀ b3 b5 b6 : Nat → Int32, (∀ j, j < 20 → b3 j = 0) → b6 0 = 264 → post (8, 8, 0, 1, cc, a1, a2, b3, a4, b5, b6, a7, a8, a9)) : wX_init_100 post mc ms 8 8 kc ks c r k hc cc a1 a2 a3 a4 a5 a6 a7 a8 a9 :=
  pk_le 4 8 (fun _ => pk_le 8 16 (fun _ => ap_init125 H) (fun z => absurd z (by omega))) (fun z => absurd z (by omega))
theorem ap_init {post : St2 → Prop} {mc ms : Nat} (hm : 9 ≤ mc) (hs : 1410 ≤ ms) (H : ∀ b3 b5 b6 : Nat → Int32, (∀ j, j < 20 → b3 j = 0) → b6 0 = 264 → post (8, 8, 0, 1, 0, (fun _ => 0), (fun _ => 0), b3, (fun _ => 0), b5, b6, (fun _ => 0), (fun _ => 0), (fun _ => 0))) : wpX_init post mc ms (0, 0, 0, 0, 0) 8 8 := by
  unfold wpX_init
  exact ⟨by omega, by omega, by omega, by omega, by omega, by omega, by omega, by omega, by omega, by omega, by omega, by omega, by omega, by omega, by omega, by omega, by omega, by omega,
    pk_le 4 8 (fun _ => pk_le 8 16 (fun _ => ap_init100 H) (fun z => absurd z (by omega))) (fun z => absurd z (by omega))⟩
theorem ap_isSize {post : Int32 → Prop} {w h : Nat} (w1 : 1 ≤ w) (w2 : w ≤ 16) (h1 : 1 ≤ h) (h2 : h ≤ 16) (H : post 1) : wpX_isSize post (c, r, k, hc, cc, a1, a2, a3, a4, a5, a6, a7, a8, a9) (nI w) (nI h) :=
  pk_lt w 1 (fun z => absurd z (by omega)) (fun _ => pk_lt 16 w (fun z => absurd z (by omega)) (fun _ => pk_lt h 1 (fun z => absurd z (by omega)) (fun _ => pk_lt 16 h (fun z => absurd z (by omega)) (fun _ => H))))
theorem ap_flip25 {post : St2 → Prop} {x2 : Int32} {i b t : Nat} (hi : i < 20) (hb : a2 i = nI b) (ht : a4 i = nI t) (hbt : b + t ≤ 16) (H : ∀ b5, post (c, r, k, hc, cc, a1, a2, a3, a4, b5, a6, a7, a8, a9)) : ∃ n, wX_flip_25 post (nI i) x2 c r k hc cc n (nI b) a1 a2 a3 a4 a5 a6 a7 a8 a9 := by
  have e : a2 (nI i).toNatClampNeg + a4 (nI i).toNatClampNeg = nI (b + t) := by rw [nI_clamp (by omega), hb, ht, nI_add]
  exact pk_loop (fun n y s => wX_flip_25 post (nI i) x2 c r k hc cc n (nI y) a1 a2 a3 a4 s a6 a7 a8 a9) (fun _ _ => True) (b + t) b a5 (by omega) trivial
    (fun n s _ => ⟨pk_in i 20 hi, pk_in i 20 hi, pk_le (b + t) (b + t) (fun _ => H s) (fun z => absurd z (by omega)) e⟩)
    (fun n y s hy _ hw => ⟨pk_in i 20 hi, pk_in i 20 hi, pk_le (b + t) y (fun z => absurd z (by omega)) (fun _ => ⟨pk_in y 16 (by omega), pk_in y 16 (by omega), nm_e (nm_r (nI_1 y) (hw _ trivial))⟩) e⟩)
theorem ap_flip {post : St2 → Prop} {i b t : Nat} (hi : i < 20) (hb : a2 i = nI b) (ht : a4 i = nI t) (hbt : b + t ≤ 16) (H : ∀ b5, post (c, r, k, hc, cc, a1, a2, a3, a4, b5, a6, a7, a8, a9)) : wpX_flip post (c, r, k, hc, cc, a1, a2, a3, a4, a5, a6, a7, a8, a9) (nI i) := by
  unfold wpX_flip
  exact ⟨pk_in i 20 hi, pk_in i 20 hi, nm_e ⟨pk_in i 20 hi, nm_r ((congrArg a2 (nI_clamp (by omega))).trans hb) (ap_flip25 hi hb ht hbt H)⟩⟩
end
end
section
/-! holes: lowest, largest, what a hole is -/
/-- a hole that is large enough, and its place -/
def ap_fit (g x1 x2 : Int32) (p : Nat) : Prop := ¬ ((g >>> ((5 : Int32) &&& 31)) &&& 31) < x1 ∧ x2 ≤ g &&& 31 ∧ (256 * ((g >>> ((10 : Int32) &&& 31)) &&& 31)) + (g >>> ((15 : Int32) &&& 31)) = nI p
/-- a isn't inside b, by its left or its lower side -/
def ap_apart (a b : Int32) : Prop := (a >>> ((15 : Int32) &&& 31)) < (b >>> ((15 : Int32) &&& 31)) ∨ ¬ ((b >>> ((10 : Int32) &&& 31)) &&& 31) ≤ ((a >>> ((10 : Int32) &&& 31)) &&& 31)
/-- the running maximum -/
def ap_mx (s : Nat → Nat) : Nat → Nat
  | 0 => 0
  | i + 1 => if s i ≤ ap_mx s i then ap_mx s i else s i
section
variable {c r k hc cc : Int32} {a1 a2 a3 a4 a5 a6 a7 a8 a9 : Nat → Int32}
theorem ap_lf {post : Int32 → Prop} {g x : Int32} (e : (g >>> ((15 : Int32) &&& 31)) = x) (H : post x) : wpX_leftOf post (c, r, k, hc, cc, a1, a2, a3, a4, a5, a6, a7, a8, a9) g := ek_v (P := post) e H
theorem ap_bo {post : Int32 → Prop} {g x : Int32} (e : ((g >>> ((10 : Int32) &&& 31)) &&& 31) = x) (H : post x) : wpX_bottomOf post (c, r, k, hc, cc, a1, a2, a3, a4, a5, a6, a7, a8, a9) g := ek_v (P := post) e H
theorem ap_wi {post : Int32 → Prop} {g x : Int32} (e : ((g >>> ((5 : Int32) &&& 31)) &&& 31) = x) (H : post x) : wpX_wideOf post (c, r, k, hc, cc, a1, a2, a3, a4, a5, a6, a7, a8, a9) g := ek_v (P := post) e H
theorem ap_hi {post : Int32 → Prop} {g x : Int32} (e : (g &&& 31) = x) (H : post x) : wpX_highOf post (c, r, k, hc, cc, a1, a2, a3, a4, a5, a6, a7, a8, a9) g := ek_v (P := post) e H
theorem ap_lowest {post : Int32 → Prop} {x1 x2 : Int32} {m : Nat} {p : Nat → Nat} (hm : m ≤ 256) (hp : ∀ i, i < m → p i < 2 ^ 30 ∧ p 0 ≤ p i ∧ ap_fit (a6 i) x1 x2 (p i)) (H0 : m = 0 → post (-3)) (H1 : 0 < m → post (nI (p 0))) : wpX_lowest post (c, r, k, nI m, cc, a1, a2, a3, a4, a5, a6, a7, a8, a9) x1 x2 := by
  unfold wpX_lowest
  refine pk_loop (fun n i s => wX_lowest_6 post x1 x2 c r k (nI m) cc a1 a2 a3 a4 a5 a6 a7 a8 a9 n s (nI i)) (fun i s => (i = 0 → s = -3) ∧ (0 < i → s = nI (p 0))) m 0 (-3) (by omega) ⟨fun _ => rfl, fun z => absurd z (by omega)⟩ ?_ ?_
  · intro n s h
    refine pk_le m m (fun _ => ?_) (fun z => absurd z (by omega))
    by_cases e : m = 0
    · rw [h.1 e]; exact H0 e
    · rw [h.2 (by omega)]; exact H1 (by omega)
  · intro n i s hi h hw
    obtain ⟨q1, q2, f1, f2, f3⟩ := hp i hi
    have q0 : p 0 < 2 ^ 30 := by omega
    refine pk_le m i (fun z => absurd z (by omega)) (fun _ => ⟨pk_in i 256 (by omega), nm_r (congrArg a6 (nI_clamp (by omega))) ?_⟩)
    refine ap_wi rfl (br_f f1 (ap_hi rfl (br_t f2 (ap_bo rfl (ap_lf rfl (nm_r f3 ?_))))))
    by_cases e : i = 0
    · have es := h.1 e
      subst es
      exact br_t (by decide) (nm_r (nI_1 i) (hw _ ⟨fun z => absurd z (by omega), fun _ => by rw [e]⟩))
    · have es := h.2 (by omega)
      subst es
      exact br_f (nI_pos (by omega)) (br_t (nI_le q2 (by omega)) (nm_r (nI_1 i) (hw _ ⟨fun z => absurd z (by omega), fun _ => rfl⟩)))
theorem ap_largest {post : Int32 → Prop} {m : Nat} {s : Nat → Nat} (hm : m ≤ 256) (hs : ∀ i, i < m → s i < 2 ^ 30 ∧ ((a6 i >>> ((5 : Int32) &&& 31)) &&& 31) * (a6 i &&& 31) = nI (s i)) (H : post (nI (ap_mx s m))) : wpX_largestHole post (c, r, k, nI m, cc, a1, a2, a3, a4, a5, a6, a7, a8, a9) := by
  unfold wpX_largestHole
  have hb : ∀ i, i ≤ m → ap_mx s i < 2 ^ 30 := by
    intro i
    induction i with
    | zero => intro _; exact (by decide : 0 < 2 ^ 30)
    | succ i ih =>
      intro hi
      have g1 := ih (by omega)
      have g2 := (hs i (by omega)).1
      show (if s i ≤ ap_mx s i then ap_mx s i else s i) < 2 ^ 30
      split <;> assumption
  refine pk_loop (fun n i x => wX_largestHole_4 post c r k (nI m) cc a1 a2 a3 a4 a5 a6 a7 a8 a9 n x (nI i)) (fun i x => x = nI (ap_mx s i)) m 0 0 (by omega) rfl ?_ ?_
  · intro n x h
    subst h
    exact pk_le m m (fun _ => H) (fun z => absurd z (by omega))
  · intro n i x hi h hw
    subst h
    obtain ⟨q1, q2⟩ := hs i hi
    have hbi := hb i (by omega)
    refine pk_le m i (fun z => absurd z (by omega)) (fun _ => ⟨pk_in i 256 (by omega), ?_⟩)
    rw [nI_clamp (show i < 2 ^ 31 by omega)]
    refine ap_wi rfl ⟨pk_in i 256 (by omega), ap_hi rfl (nm_r q2 ?_)⟩
    refine pk_le (s i) (ap_mx s i) (fun z => nm_r (nI_1 i) (hw _ ?_)) (fun z => nm_r (nI_1 i) (hw _ ?_))
    · show nI (ap_mx s i) = nI (if s i ≤ ap_mx s i then ap_mx s i else s i)
      rw [if_pos z]
    · show nI (s i) = nI (if s i ≤ ap_mx s i then ap_mx s i else s i)
      rw [if_neg (by omega)]
theorem ap_inside {post : Int32 → Prop} {p0 p1 : Int32} (h : ap_apart p0 p1) (H : post 0) : wpX_inside post (c, r, k, hc, cc, a1, a2, a3, a4, a5, a6, a7, a8, a9) p0 p1 := by
  unfold wpX_inside
  refine ap_lf rfl (ap_lf rfl (br_c (fun _ => H) (fun z => ap_bo rfl (ap_bo rfl (br_f ?_ H)))))
  rcases h with h | h
  · exact absurd h z
  · exact h
theorem ap_insideS {post : Int32 → Prop} {p0 p1 : Int32} (H : ∀ x, post x) : wpX_inside post (c, r, k, hc, cc, a1, a2, a3, a4, a5, a6, a7, a8, a9) p0 p1 := by
  unfold wpX_inside
  exact ap_lf rfl (ap_lf rfl (br_c (fun _ => H _) (fun _ => ap_bo rfl (ap_bo rfl (br_c (fun _ => ap_lf rfl (ap_wi rfl (ap_lf rfl (ap_wi rfl (br_c (fun _ => ap_bo rfl (ap_hi rfl (ap_bo rfl (ap_hi rfl (br_c (fun _ => H _) (fun _ => H _)))))) (fun _ => H _)))))) (fun _ => H _))))))
theorem ap_meetsS {post : Int32 → Prop} {p0 p1 : Int32} (H : ∀ x, post x) : wpX_meets post (c, r, k, hc, cc, a1, a2, a3, a4, a5, a6, a7, a8, a9) p0 p1 := by
  unfold wpX_meets
  exact ap_lf rfl (ap_lf rfl (ap_wi rfl (br_c (fun _ => H _) (fun _ => ap_lf rfl (ap_lf rfl (ap_wi rfl (br_c (fun _ => ap_bo rfl (ap_bo rfl (ap_hi rfl (br_c (fun _ => H _) (fun _ => ap_bo rfl (ap_bo rfl (ap_hi rfl (br_c (fun _ => H _) (fun _ => H _))))))))) (fun _ => H _))))))))
theorem ap_cov {post : Int32 → Prop} {m i : Nat} (hm : m ≤ 1024) (hi : i < m) (h : ∀ j, j < m → j ≠ i → ap_apart (a7 i) (a7 j)) (H : post 0) : wpX_isCovered post (c, r, k, hc, nI m, a1, a2, a3, a4, a5, a6, a7, a8, a9) (nI i) := by
  unfold wpX_isCovered
  refine ⟨pk_in i 1024 (by omega), nm_r (congrArg a7 (nI_clamp (by omega))) ?_⟩
  refine pk_loop (σ := Unit) (fun n j _ => wX_isCovered_9 post (nI i) (a7 i) c r k hc (nI m) a1 a2 a3 a4 a5 a6 a7 a8 a9 n (nI j)) (fun _ _ => True) m 0 () (by omega) trivial ?_ ?_
  · intro n _ _
    exact pk_le m m (fun _ => H) (fun z => absurd z (by omega))
  · intro n j _ hj _ hw
    refine pk_le m j (fun z => absurd z (by omega)) (fun _ => pk_eq j i (fun _ => nm_r (nI_1 j) (hw () trivial)) (fun e => ⟨pk_in j 1024 (by omega), ?_⟩))
    rw [nI_clamp (show j < 2 ^ 31 by omega)]
    exact ap_inside (h j hj e) (br_t rfl (nm_r (nI_1 j) (hw () trivial)))
theorem ap_covS {post : Int32 → Prop} {m i : Nat} (hm : m ≤ 1024) (hi : i < m) (H : ∀ x, post x) : wpX_isCovered post (c, r, k, hc, nI m, a1, a2, a3, a4, a5, a6, a7, a8, a9) (nI i) := by
  unfold wpX_isCovered
  refine ⟨pk_in i 1024 (by omega), nm_r (congrArg a7 (nI_clamp (by omega))) ?_⟩
  refine pk_loop (σ := Unit) (fun n j _ => wX_isCovered_9 post (nI i) (a7 i) c r k hc (nI m) a1 a2 a3 a4 a5 a6 a7 a8 a9 n (nI j)) (fun _ _ => True) m 0 () (by omega) trivial ?_ ?_
  · intro n _ _
    exact pk_le m m (fun _ => H _) (fun z => absurd z (by omega))
  · intro n j _ hj _ hw
    refine pk_le m j (fun z => absurd z (by omega)) (fun _ => pk_eq j i (fun _ => nm_r (nI_1 j) (hw () trivial)) (fun e => ⟨pk_in j 1024 (by omega), ?_⟩))
    exact ap_insideS (fun x => br_c (fun _ => nm_r (nI_1 j) (hw () trivial)) (fun _ => ⟨pk_in j 1024 (by omega), br_c (fun _ => br_c (fun _ => nm_r (nI_1 j) (hw () trivial)) (fun _ => H _)) (fun _ => H _)⟩))
end
end
section
/-! splitting: once exactly (the first rectangle), once only 'it ends' (the second) -/
section
variable {c r k hc cc : Int32} {a1 a2 a3 a4 a5 a6 a7 a8 a9 : Nat → Int32}
theorem ap_s95 {post : St2 → Prop} {m : Nat} (hm : m ≤ 256) (h : ∀ i j, i < m → j < m → j ≠ i → ap_apart (a7 i) (a7 j)) (H : ∀ b6 : Nat → Int32, (∀ j, j < m → b6 j = a7 j) → post (c, r, k, nI m, nI m, a1, a2, a3, a4, a5, b6, a7, a8, a9)) : ∃ n, wX_splitHoles_95 post c r k (nI m) n 0 0 a1 a2 a3 a4 a5 a6 a7 a8 a9 :=
  pk_loop (fun n i s => wX_splitHoles_95 post c r k (nI m) n (nI i) (nI i) a1 a2 a3 a4 a5 s a7 a8 a9) (fun i s => ∀ j, j < i → s j = a7 j) m 0 a6 (by omega) (fun j hj => absurd hj (by omega))
    (fun n s g => pk_le m m (fun _ => H s g) (fun z => absurd z (by omega)))
    (fun n i s hi g hw => pk_le m i (fun z => absurd z (by omega)) (fun _ => ap_cov (by omega) hi (fun j hj e => h i j hi hj e)
      (br_t rfl ⟨pk_in i 1024 (by omega), pk_in i 256 (by omega), nm_e (nm_r (nI_1 i) (nm_r (nI_1 i) (hw _ (ap_fill (nI_clamp (by omega)) g (congrArg a7 (nI_clamp (by omega)))))))⟩)))
theorem ap_s95S {post : St2 → Prop} {m : Nat} (hm : m ≤ 256) (H : ∀ (q : Int32) (b6 : Nat → Int32), post (c, r, k, q, nI m, a1, a2, a3, a4, a5, b6, a7, a8, a9)) : ∃ n, wX_splitHoles_95 post c r k (nI m) n 0 0 a1 a2 a3 a4 a5 a6 a7 a8 a9 :=
  pk_loop (σ := Nat × (Nat → Int32)) (fun n i s => wX_splitHoles_95 post c r k (nI m) n (nI i) (nI s.1) a1 a2 a3 a4 a5 s.2 a7 a8 a9) (fun i s => s.1 ≤ i) m 0 (0, a6) (by omega) (Nat.le_refl 0)
    (fun n s g => pk_le m m (fun _ => H _ _) (fun z => absurd z (by omega)))
    (fun n i s hi g hw => pk_le m i (fun z => absurd z (by omega)) (fun _ => ap_covS (by omega) hi (fun x =>
      (br_c (fun _ => ⟨pk_in i 1024 (by omega), pk_in s.1 256 (by omega), nm_e (nm_r (nI_1 s.1) (nm_r (nI_1 i) (hw (s.1 + 1, _) (Nat.succ_le_succ g))))⟩)
        (fun _ => nm_r (nI_1 i) (hw s (Nat.le_succ_of_le g)))))))
theorem ap_keep {post : St2 → Prop} {p : Int32} {q : Nat} (hq : q < 1024) (H : post (c, r, k, hc, nI (q + 1), a1, a2, a3, a4, a5, a6, upd a7 q p, a8, a9)) : wpX_keepCandidate post (c, r, k, hc, nI q, a1, a2, a3, a4, a5, a6, a7, a8, a9) p := by
  unfold wpX_keepCandidate
  exact ⟨pk_in q 1024 hq, nm_r (congrArg (fun t => upd a7 t p) (nI_clamp (by omega))) (nm_r (nI_1 q) H)⟩
theorem ap_offer {post : St2 → Prop} {p0 p1 p2 p3 v : Int32} {q : Nat} (hq : q < 1024) (e : (((p0 <<< ((15 : Int32) &&& 31)) ||| (p1 <<< ((10 : Int32) &&& 31))) ||| (p2 <<< ((5 : Int32) &&& 31))) ||| p3 = v) (H : post (c, r, k, hc, nI (q + 1), a1, a2, a3, a4, a5, a6, upd a7 q v, a8, a9)) : wpX_offer post (c, r, k, hc, nI q, a1, a2, a3, a4, a5, a6, a7, a8, a9) p0 p1 p2 p3 := by
  subst e
  unfold wpX_offer wpX_pack
  exact ap_keep hq H
theorem ap_o137 {post : St2 → Prop} {x3 x4 x5 x6 x10 : Int32} {q : Nat} (hq : q < 1024) (H : ∀ (q' : Nat) (b7 : Nat → Int32), q' ≤ q + 1 → post (c, r, k, hc, nI q', a1, a2, a3, a4, a5, a6, b7, a8, a9)) : wX_splitOne_137 post x3 x4 x5 x6 x10 c r k hc (nI q) a1 a2 a3 a4 a5 a6 a7 a8 a9 :=
  br_c (fun _ => H q _ (by omega)) (fun _ => ap_offer hq rfl (H (q + 1) _ (by omega)))
theorem ap_o121 {post : St2 → Prop} {x3 x4 x5 x6 x9 x10 : Int32} {q : Nat} (hq : q + 1 < 1024) (H : ∀ (q' : Nat) (b7 : Nat → Int32), q' ≤ q + 2 → post (c, r, k, hc, nI q', a1, a2, a3, a4, a5, a6, b7, a8, a9)) : wX_splitOne_121 post x3 x4 x5 x6 x9 x10 c r k hc (nI q) a1 a2 a3 a4 a5 a6 a7 a8 a9 :=
  br_c (fun _ => ap_o137 (by omega) (fun q' b7 h => H q' b7 (by omega))) (fun _ => ap_offer (by omega) rfl (ap_o137 (by omega) (fun q' b7 h => H q' b7 (by omega))))
theorem ap_o99 {post : St2 → Prop} {x3 x4 x5 x6 x8 x9 x10 : Int32} {q : Nat} (hq : q + 2 < 1024) (H : ∀ (q' : Nat) (b7 : Nat → Int32), q' ≤ q + 3 → post (c, r, k, hc, nI q', a1, a2, a3, a4, a5, a6, b7, a8, a9)) : wX_splitOne_99 post x3 x4 x5 x6 x8 x9 x10 c r k hc (nI q) a1 a2 a3 a4 a5 a6 a7 a8 a9 :=
  br_c (fun _ => ap_o121 (by omega) (fun q' b7 h => H q' b7 (by omega))) (fun _ => ap_offer (by omega) rfl (ap_o121 (by omega) (fun q' b7 h => H q' b7 (by omega))))
theorem ap_oneS {post : St2 → Prop} {p0 p1 : Int32} {q : Nat} (hq : q + 3 < 1024) (H : ∀ (q' : Nat) (b7 : Nat → Int32), q' ≤ q + 4 → post (c, r, k, hc, nI q', a1, a2, a3, a4, a5, a6, b7, a8, a9)) : wpX_splitOne post (c, r, k, hc, nI q, a1, a2, a3, a4, a5, a6, a7, a8, a9) p0 p1 := by
  unfold wpX_splitOne
  refine ap_lf rfl (ap_bo rfl (ap_wi rfl (ap_hi rfl (ap_lf rfl (nm_e (ap_lf rfl (ap_wi rfl (nm_e (ap_bo rfl (nm_e (ap_bo rfl (ap_hi rfl (nm_e ?_)))))))))))))
  exact br_c (fun _ => ap_o99 (by omega) (fun q' b7 h => H q' b7 (by omega))) (fun _ => ap_offer (by omega) rfl (ap_o99 (by omega) (fun q' b7 h => H q' b7 (by omega))))
theorem ap_s36S {post : St2 → Prop} {x2 : Int32} {e : Nat} (he : e ≤ 64) (H : ∀ (q q' : Int32) (b6 b7 : Nat → Int32), post (c, r, k, q, q', a1, a2, a3, a4, a5, b6, b7, a8, a9)) : ∃ n, wX_splitHoles_36 post x2 n 0 c r k (nI e) 0 a1 a2 a3 a4 a5 a6 a7 a8 a9 :=
  pk_loop (σ := Nat × (Nat → Int32)) (fun n i s => wX_splitHoles_36 post x2 n (nI i) c r k (nI e) (nI s.1) a1 a2 a3 a4 a5 a6 s.2 a8 a9) (fun i s => s.1 ≤ 4 * i) e 0 (0, a7) (by omega) (Nat.le_refl 0)
    (fun n s g => pk_le e e (fun _ => ap_s95S (by omega) (fun q b6 => H q _ b6 _)) (fun z => absurd z (by omega)))
    (fun n i s hi g hw => pk_le e i (fun z => absurd z (by omega)) (fun _ => ⟨pk_in i 256 (by omega), ap_meetsS (fun x =>
      br_c (fun _ => ⟨pk_in i 256 (by omega), ap_keep (by omega) (nm_r (nI_1 i) (hw (s.1 + 1, _) (show s.1 + 1 ≤ 4 * (i + 1) by omega)))⟩)
        (fun _ => ⟨pk_in i 256 (by omega), ap_oneS (by omega) (fun q' b7 h => nm_r (nI_1 i) (hw (q', b7) (show q' ≤ 4 * (i + 1) by omega)))⟩))⟩))
theorem ap_splitS {post : St2 → Prop} {i e : Nat} (hi : i < 20) (he : e ≤ 64) (H : ∀ (q q' : Int32) (b6 b7 : Nat → Int32), post (c, r, k, q, q', a1, a2, a3, a4, a5, b6, b7, a8, a9)) : wpX_splitHoles post (c, r, k, nI e, cc, a1, a2, a3, a4, a5, a6, a7, a8, a9) (nI i) := by
  unfold wpX_splitHoles wpX_pack
  exact ⟨pk_in i 20 hi, pk_in i 20 hi, pk_in i 20 hi, pk_in i 20 hi, ap_s36S he H⟩
end
/-! the first rectangle, w by h in the lower left corner of 8 by 8 -/
def ap_R (w : Nat) : Int32 := nI (w * 32768 + (8 - w) * 32 + 8)
def ap_U (h : Nat) : Int32 := nI (h * 1024 + 264 - h)
def ap_T (w h : Nat) : Int32 := nI (w * 32 + h)
theorem ap_Te : ∀ w, w < 9 → ∀ h, h < 9 → ((((0 : Int32) <<< ((15 : Int32) &&& 31)) ||| ((0 : Int32) <<< ((10 : Int32) &&& 31))) ||| (nI w <<< ((5 : Int32) &&& 31))) ||| nI h = ap_T w h := by decide +kernel
theorem ap_T1 : ∀ w, w < 9 → ∀ h, h < 9 → ap_T w h >>> ((15 : Int32) &&& 31) = nI 0 ∧ (ap_T w h >>> ((10 : Int32) &&& 31)) &&& 31 = nI 0 ∧ (ap_T w h >>> ((5 : Int32) &&& 31)) &&& 31 = nI w ∧ ap_T w h &&& 31 = nI h := by decide +kernel
theorem ap_G1 : (264 : Int32) >>> ((15 : Int32) &&& 31) = nI 0 ∧ ((264 : Int32) >>> ((10 : Int32) &&& 31)) &&& 31 = nI 0 ∧ ((264 : Int32) >>> ((5 : Int32) &&& 31)) &&& 31 = nI 8 ∧ (264 : Int32) &&& 31 = nI 8 := by decide +kernel
theorem ap_Re : ∀ w, w < 8 → (((nI w <<< ((15 : Int32) &&& 31)) ||| (nI 0 <<< ((10 : Int32) &&& 31))) ||| (nI (8 - w) <<< ((5 : Int32) &&& 31))) ||| nI 8 = ap_R w := by decide +kernel
theorem ap_Ue : ∀ h, h < 8 → (((nI 0 <<< ((15 : Int32) &&& 31)) ||| (nI h <<< ((10 : Int32) &&& 31))) ||| (nI 8 <<< ((5 : Int32) &&& 31))) ||| nI (8 - h) = ap_U h := by decide +kernel
theorem ap_R1 : ∀ w, w < 8 → ap_R w >>> ((15 : Int32) &&& 31) = nI w ∧ (ap_R w >>> ((10 : Int32) &&& 31)) &&& 31 = nI 0 ∧ (ap_R w >>> ((5 : Int32) &&& 31)) &&& 31 = nI (8 - w) ∧ ap_R w &&& 31 = nI 8 := by decide +kernel
theorem ap_U1 : ∀ h, h < 8 → ap_U h >>> ((15 : Int32) &&& 31) = nI 0 ∧ (ap_U h >>> ((10 : Int32) &&& 31)) &&& 31 = nI h ∧ (ap_U h >>> ((5 : Int32) &&& 31)) &&& 31 = nI 8 ∧ ap_U h &&& 31 = nI (8 - h) := by decide +kernel
/-- how many holes are left, and which -/
def ap_cs (w h m : Nat) (b : Nat → Int32) : Prop := (w = 8 ∧ h = 8 ∧ m = 0) ∨ (w < 8 ∧ h = 8 ∧ m = 1 ∧ b 0 = ap_R w) ∨ (w = 8 ∧ h < 8 ∧ m = 1 ∧ b 0 = ap_U h) ∨ (w < 8 ∧ h < 8 ∧ m = 2 ∧ b 0 = ap_R w ∧ b 1 = ap_U h)
theorem ap_csE {w h m : Nat} {b b' : Nat → Int32} (g : ap_cs w h m b) (e : ∀ j, j < m → b' j = b j) : ap_cs w h m b' := by
  rcases g with ⟨g1, g2, g3⟩ | ⟨g1, g2, g3, g4⟩ | ⟨g1, g2, g3, g4⟩ | ⟨g1, g2, g3, g4, g5⟩
  · exact Or.inl ⟨g1, g2, g3⟩
  · exact Or.inr (Or.inl ⟨g1, g2, g3, by rw [e 0 (by omega), g4]⟩)
  · exact Or.inr (Or.inr (Or.inl ⟨g1, g2, g3, by rw [e 0 (by omega), g4]⟩))
  · exact Or.inr (Or.inr (Or.inr ⟨g1, g2, g3, by rw [e 0 (by omega), g4], by rw [e 1 (by omega), g5]⟩))
theorem ap_RU {w h : Nat} (hw : w < 8) (h1 : 1 ≤ h) (hh : h < 8) : ap_apart (ap_R w) (ap_U h) := by
  refine Or.inr ?_
  rw [(ap_R1 w hw).2.1, (ap_U1 h hh).2.1]
  exact nI_ge h1 (by omega)
theorem ap_UR {w h : Nat} (h1 : 1 ≤ w) (hw : w < 8) (hh : h < 8) : ap_apart (ap_U h) (ap_R w) := by
  refine Or.inl ?_
  rw [(ap_R1 w hw).1, (ap_U1 h hh).1]
  exact nI_lt h1 (by omega)
theorem ap_csA {w h m : Nat} {b : Nat → Int32} (w1 : 1 ≤ w) (h1 : 1 ≤ h) (g : ap_cs w h m b) : m ≤ 2 ∧ ∀ i j, i < m → j < m → j ≠ i → ap_apart (b i) (b j) := by
  rcases g with ⟨g1, g2, g3⟩ | ⟨g1, g2, g3, g4⟩ | ⟨g1, g2, g3, g4⟩ | ⟨g1, g2, g3, g4, g5⟩
  · exact ⟨by omega, fun i j hi hj e => absurd hi (by omega)⟩
  · exact ⟨by omega, fun i j hi hj e => absurd e (by omega)⟩
  · exact ⟨by omega, fun i j hi hj e => absurd e (by omega)⟩
  · refine ⟨by omega, fun i j hi hj e => ?_⟩
    by_cases z : i = 0
    · have z' : j = 1 := by omega
      rw [z, z', g4, g5]
      exact ap_RU g1 h1 g2
    · have z1 : i = 1 := by omega
      have z' : j = 0 := by omega
      rw [z1, z', g4, g5]
      exact ap_UR w1 g1 g2
section
variable {c r k hc cc : Int32} {a1 a2 a3 a4 a5 a6 a7 a8 a9 : Nat → Int32}
theorem ap_meets1 {post : Int32 → Prop} {w h : Nat} (w1 : 1 ≤ w) (w2 : w ≤ 8) (h1 : 1 ≤ h) (h2 : h ≤ 8) (H : post 1) : wpX_meets post (c, r, k, hc, cc, a1, a2, a3, a4, a5, a6, a7, a8, a9) 264 (ap_T w h) := by
  obtain ⟨t1, t2, t3, t4⟩ := ap_T1 w (by omega) h (by omega)
  obtain ⟨g1, g2, g3, g4⟩ := ap_G1
  unfold wpX_meets
  exact ap_lf g1 (ap_lf t1 (ap_wi t3 (pk_le (0 + w) 0 (fun z => absurd z (by omega)) (fun _ => ap_lf t1 (ap_lf g1 (ap_wi g3 (pk_lt 0 (0 + 8) (fun _ => ap_bo g2 (ap_bo t2 (ap_hi t4 (pk_le (0 + h) 0 (fun z => absurd z (by omega)) (fun _ => ap_bo t2 (ap_bo g2 (ap_hi g4 (pk_le (0 + 8) 0 (fun z => absurd z (by omega)) (fun _ => H) (nI_add 0 8))))) (nI_add 0 h))))) (fun z => absurd z (by omega)) rfl (nI_add 0 8))))) (nI_add 0 w))))
theorem ap_one1 {post : St2 → Prop} {w h : Nat} (w1 : 1 ≤ w) (w2 : w ≤ 8) (h1 : 1 ≤ h) (h2 : h ≤ 8) (H : ∀ (m : Nat) (b7 : Nat → Int32), ap_cs w h m b7 → post (c, r, k, hc, nI m, a1, a2, a3, a4, a5, a6, b7, a8, a9)) : wpX_splitOne post (c, r, k, hc, nI 0, a1, a2, a3, a4, a5, a6, a7, a8, a9) 264 (ap_T w h) := by
  obtain ⟨t1, t2, t3, t4⟩ := ap_T1 w (by omega) h (by omega)
  obtain ⟨g1, g2, g3, g4⟩ := ap_G1
  have e8 : ((nI 0 + nI 8) - nI 0) - nI w = nI (8 - w) := by
    rw [nI_add, pk_sub (by omega), pk_sub (by omega)]
  have e10 : ((nI 0 + nI 8) - nI 0) - nI h = nI (8 - h) := by
    rw [nI_add, pk_sub (by omega), pk_sub (by omega)]
  have f8 : (nI 0 + nI 8) - nI (8 - w) = nI w := by
    rw [nI_add, pk_sub (by omega)]
    exact congrArg nI (by omega)
  have f10 : (nI 0 + nI 8) - nI (8 - h) = nI h := by
    rw [nI_add, pk_sub (by omega)]
    exact congrArg nI (by omega)
  unfold wpX_splitOne
  refine ap_lf g1 (ap_bo g2 (ap_wi g3 (ap_hi g4 (ap_lf t1 (nm_r (pk_sub (Nat.le_refl 0)) (ap_lf t1 (ap_wi t3 (nm_r e8 (ap_bo t2 (nm_r (pk_sub (Nat.le_refl 0)) (ap_bo t2 (ap_hi t4 (nm_r e10 ?_)))))))))))))
  refine pk_le (0 - 0) 0 (fun _ => ?_) (fun z => absurd z (by omega))
  refine pk_le (8 - w) 0 (fun z => ?_) (fun z => ap_offer (v := ap_R w) (by omega) ?_ ?_)
  · refine pk_le (0 - 0) 0 (fun _ => ?_) (fun z => absurd z (by omega))
    refine pk_le (8 - h) 0 (fun y => ?_) (fun y => ap_offer (v := ap_U h) (by omega) ?_ ?_)
    · exact H 0 _ (Or.inl ⟨by omega, by omega, rfl⟩)
    · rw [f10]
      exact ap_Ue h (by omega)
    · exact H 1 _ (Or.inr (Or.inr (Or.inl ⟨by omega, by omega, rfl, pk_us⟩)))
  · rw [f8]
    exact ap_Re w (by omega)
  · refine pk_le (0 - 0) 0 (fun _ => ?_) (fun z => absurd z (by omega))
    refine pk_le (8 - h) 0 (fun y => ?_) (fun y => ap_offer (v := ap_U h) (by omega) ?_ ?_)
    · exact H 1 _ (Or.inr (Or.inl ⟨by omega, by omega, rfl, pk_us⟩))
    · rw [f10]
      exact ap_Ue h (by omega)
    · exact H 2 _ (Or.inr (Or.inr (Or.inr ⟨by omega, by omega, rfl, Eq.trans (pk_un (by omega)) pk_us, pk_us⟩)))
theorem ap_split1 {post : St2 → Prop} {w h : Nat} (w1 : 1 ≤ w) (w2 : w ≤ 8) (h1 : 1 ≤ h) (h2 : h ≤ 8) (k1 : a1 0 = 0) (k2 : a2 0 = 0) (k3 : a3 0 = nI w) (k4 : a4 0 = nI h) (k6 : a6 0 = 264) (H : ∀ (m : Nat) (b6 b7 : Nat → Int32), ap_cs w h m b6 → post (c, r, k, nI m, nI m, a1, a2, a3, a4, a5, b6, b7, a8, a9)) : wpX_splitHoles post (c, r, k, 1, cc, a1, a2, a3, a4, a5, a6, a7, a8, a9) (nI 0) := by
  unfold wpX_splitHoles wpX_pack
  refine ⟨pk_in 0 20 (by omega), pk_in 0 20 (by omega), pk_in 0 20 (by omega), pk_in 0 20 (by omega), ?_⟩
  rw [nI_clamp (show 0 < 2 ^ 31 by omega), k1, k2, k3, k4]
  refine ek_v (P := fun t => ∃ fu36 : Nat, wX_splitHoles_36 post t fu36 0 c r k 1 0 a1 a2 a3 a4 a5 a6 a7 a8 a9) (ap_Te w (by omega) h (by omega)) ⟨2, ?_⟩
  refine pk_le 1 0 (fun z => absurd z (by omega)) (fun _ => ⟨pk_in 0 256 (by omega), ?_⟩)
  have z0 : a6 (0 : Int32).toNatClampNeg = 264 := k6
  rw [z0]
  refine ap_meets1 w1 w2 h1 h2 (br_f (by decide) ⟨pk_in 0 256 (by omega), ap_one1 w1 w2 h1 h2 (fun m b7 g => nm_r (nI_1 0) ?_)⟩)
  obtain ⟨q1, q2⟩ := ap_csA w1 h1 g
  exact pk_le 1 (0 + 1) (fun _ => ap_s95 (by omega) q2 (fun b6 e => H m b6 b7 (ap_csE g e))) (fun z => absurd z (by omega))
end
end
section
/-! place -/
section
variable {c r k hc cc : Int32} {a1 a2 a3 a4 a5 a6 a7 a8 a9 : Nat → Int32}
theorem ap_113 {post : Int32 → St2 → Prop} {Q : St2 → Prop} {x1 x2 x4 : Int32} {i X Y W T : Nat} (hi : i < 20) (eX : (x4 &&& 255).toInt8.toInt32 = nI X) (eY : (x4 >>> ((8 : Int32) &&& 31)).toInt8.toInt32 = nI Y) (eW : x1.toInt8.toInt32 = nI W) (eT : x2.toInt8.toInt32 = nI T) (hY : Y + T ≤ 16)
    (Hs : ∀ (b5 : Nat → Int32) (ψ : St2 → Prop), (∀ (c r k hc cc : Int32) (a1 a2 a3 a4 a5 a6 a7 a8 a9 : Nat → Int32), Q (c, r, k, hc, cc, a1, a2, a3, a4, a5, a6, a7, a8, a9) → ψ (c, r, k, hc, cc, a1, a2, a3, a4, a5, a6, a7, a8, a9)) → wpX_splitHoles ψ (c, r, k + 1, hc, cc, upd a1 i (nI X), upd a2 i (nI Y), upd a3 i (nI W), upd a4 i (nI T), b5, a6, a7, a8, a9) (nI i))
    (H : ∀ (c r k hc cc : Int32) (a1 a2 a3 a4 a5 a6 a7 a8 a9 : Nat → Int32), Q (c, r, k, hc, cc, a1, a2, a3, a4, a5, a6, a7, a8, a9) → post (nI i) (c, r, k, hc, cc, a1, a2, a3, a4, a5, a6, a7, a8, a9)) :
    wX_place_113 post x1 x2 x4 0 (nI i) c r k hc cc a1 a2 a3 a4 a5 a6 a7 a8 a9 := by
  have ei : (nI i).toNatClampNeg = i := nI_clamp (by omega)
  unfold wX_place_113
  rw [ei, eX, eY]
  refine ⟨pk_in i 20 hi, nm_e ⟨pk_in i 20 hi, nm_e (br_t rfl ?_)⟩⟩
  unfold wX_place_156
  rw [ei, eW]
  refine ⟨pk_in i 20 hi, nm_e (br_t rfl ?_)⟩
  unfold wX_place_174
  rw [ei, eT]
  refine ⟨pk_in i 20 hi, nm_e (nm_e (ap_flip hi (b := Y) (t := T) pk_us pk_us hY (fun b5 => ?_)))⟩
  exact Hs b5 _ (fun c r k hc cc a1 a2 a3 a4 a5 a6 a7 a8 a9 q => H c r k hc cc a1 a2 a3 a4 a5 a6 a7 a8 a9 q)
/-- what the rectangles are behind the first call -/
def ap_K1 (w h : Nat) (a1 a2 a3 a4 : Nat → Int32) : Prop := a1 0 = nI 0 ∧ a2 0 = nI 0 ∧ a3 0 = nI w ∧ a4 0 = nI h ∧ ∀ j, 1 ≤ j → j < 20 → a3 j = 0
/-- .. and behind the second: F = 1: the sheet was full -/
def ap_K2 (w h F X Y : Nat) (a1 a2 a3 a4 : Nat → Int32) : Prop := a1 0 = nI 0 ∧ a2 0 = nI 0 ∧ a3 0 = nI w ∧ a4 0 = nI h ∧ (∀ j, 2 ≤ j → j < 20 → a3 j = 0) ∧ (F = 1 → a3 1 = 0) ∧ (F = 0 → a1 1 = nI X ∧ a2 1 = nI Y ∧ a3 1 = nI 1 ∧ a4 1 = nI 1)
theorem ap_fit1 {w h : Nat} (w2 : w ≤ 8) (h2 : h ≤ 8) : ap_fit 264 (nI w) (nI h) 0 := by
  obtain ⟨g1, g2, g3, g4⟩ := ap_G1
  unfold ap_fit
  rw [g1, g2, g3, g4]
  exact ⟨nI_nlt w2 (by omega), nI_le h2 (by omega), by decide⟩
theorem ap_fitR : ∀ w, w < 8 → ¬ ((ap_R w >>> ((5 : Int32) &&& 31)) &&& 31) < nI 1 ∧ nI 1 ≤ ap_R w &&& 31 ∧ (256 * ((ap_R w >>> ((10 : Int32) &&& 31)) &&& 31)) + (ap_R w >>> ((15 : Int32) &&& 31)) = nI w := by decide +kernel
theorem ap_fitU : ∀ h, h < 8 → ¬ ((ap_U h >>> ((5 : Int32) &&& 31)) &&& 31) < nI 1 ∧ nI 1 ≤ ap_U h &&& 31 ∧ (256 * ((ap_U h >>> ((10 : Int32) &&& 31)) &&& 31)) + (ap_U h >>> ((15 : Int32) &&& 31)) = nI (256 * h) := by decide +kernel
theorem ap_place1 {post : Int32 → St2 → Prop} {w h : Nat} (w1 : 1 ≤ w) (w2 : w ≤ 8) (h1 : 1 ≤ h) (h2 : h ≤ 8) (k3 : ∀ j, j < 20 → a3 j = 0) (k6 : a6 0 = 264)
    (H : ∀ (m : Nat) (b1 b2 b3 b4 b5 b6 b7 : Nat → Int32), ap_cs w h m b6 → ap_K1 w h b1 b2 b3 b4 → post 0 (c, r, nI 1, nI m, nI m, b1, b2, b3, b4, b5, b6, b7, a8, a9)) :
    wpX_place post (c, r, 0, 1, cc, a1, a2, a3, a4, a5, a6, a7, a8, a9) (nI w) (nI h) 0 := by
  unfold wpX_place
  refine ap_isSize w1 (by omega) h1 (by omega) (br_f (by decide) (pk_lt 0 20 (fun _ => ?_) (fun z => absurd z (by omega))))
  refine ap_lowest (m := 1) (p := fun _ => 0) (by omega) (fun i hi => ⟨by decide, Nat.le_refl 0, ?_⟩) (fun z => absurd z (by omega)) (fun _ => br_t rfl ?_)
  · have e : i = 0 := by omega
    rw [e, k6]
    exact ap_fit1 w2 h2
  · unfold wX_place_79
    refine br_t (by decide) ⟨1, ?_⟩
    refine pk_le 19 0 (fun z => absurd z (by omega)) (fun _ => ⟨pk_in 0 20 (by omega), br_t (k3 0 (by omega)) ?_⟩)
    refine ap_113 (i := 0) (X := 0) (Y := 0) (W := w) (T := h) (Q := fun u => ∃ (m : Nat) (b1 b2 b3 b4 b5 b6 b7 : Nat → Int32), ap_cs w h m b6 ∧ ap_K1 w h b1 b2 b3 b4 ∧ u = (c, r, nI 1, nI m, nI m, b1, b2, b3, b4, b5, b6, b7, a8, a9)) (by omega) (by decide) (by decide) (ap_b8 w (by omega)) (ap_b8 h (by omega)) (by omega) ?_ ?_
    · intro b5 ψ hψ
      refine ap_split1 w1 w2 h1 h2 pk_us pk_us pk_us pk_us k6 (fun m b6 b7 g => hψ _ _ _ _ _ _ _ _ _ _ _ _ _ _ ⟨m, _, _, _, _, b5, b6, b7, g, ?_, rfl⟩)
      exact ⟨pk_us, pk_us, pk_us, pk_us, fun j j1 j2 => Eq.trans (pk_un (by omega)) (k3 j j2)⟩
    · rintro c' r' k' hc' cc' a1' a2' a3' a4' a5' a6' a7' a8' a9' ⟨m, b1, b2, b3, b4, b5, b6, b7, g, g', e⟩
      rw [e]
      exact H m b1 b2 b3 b4 b5 b6 b7 g g'
/-- the second rectangle's number on the sheet -/
theorem ap_pX : ∀ w, w < 8 → (nI w &&& 255).toInt8.toInt32 = nI w ∧ (nI w >>> ((8 : Int32) &&& 31)).toInt8.toInt32 = nI 0 := by decide +kernel
theorem ap_pY : ∀ h, h < 8 → (nI (256 * h) &&& 255).toInt8.toInt32 = nI 0 ∧ (nI (256 * h) >>> ((8 : Int32) &&& 31)).toInt8.toInt32 = nI h := by decide +kernel
theorem ap_79 {post : Int32 → St2 → Prop} {w h p X Y m : Nat} (w1 : 1 ≤ w) (w2 : w ≤ 8) (hY : Y ≤ 8) (hm : m ≤ 2) (hp : p < 2 ^ 30) (eX : (nI p &&& 255).toInt8.toInt32 = nI X) (eY : (nI p >>> ((8 : Int32) &&& 31)).toInt8.toInt32 = nI Y) (K : ap_K1 w h a1 a2 a3 a4)
    (H : ∀ (q q' : Int32) (b1 b2 b3 b4 b5 b6 b7 : Nat → Int32), ap_K2 w h 0 X Y b1 b2 b3 b4 → post (nI 1) (c, r, nI 2, q, q', b1, b2, b3, b4, b5, b6, b7, a8, a9)) :
    wX_place_79 post 1 1 (nI p) 0 c r (nI 1) (nI m) cc a1 a2 a3 a4 a5 a6 a7 a8 a9 := by
  obtain ⟨k1, k2, k3, k4, k5⟩ := K
  unfold wX_place_79
  refine br_t (nI_pos' (by omega)) ⟨2, ?_⟩
  refine pk_le 19 0 (fun z => absurd z (by omega)) (fun _ => ⟨pk_in 0 20 (by omega), br_f (fun z => nI_ne0 (n := w) (by omega) (by omega) (k3.symm.trans z)) (nm_r (nI_1 0) ?_)⟩)
  refine pk_le 19 (0 + 1) (fun z => absurd z (by omega)) (fun _ => ⟨pk_in (0 + 1) 20 (by omega), br_t (k5 1 (by omega) (by omega)) ?_⟩)
  refine ap_113 (i := 1) (X := X) (Y := Y) (W := 1) (T := 1) (Q := fun u => ∃ (q q' : Int32) (b1 b2 b3 b4 b5 b6 b7 : Nat → Int32), ap_K2 w h 0 X Y b1 b2 b3 b4 ∧ u = (c, r, nI 2, q, q', b1, b2, b3, b4, b5, b6, b7, a8, a9)) (by omega) eX eY (by decide) (by decide) (by omega) ?_ ?_
  · intro b5 ψ hψ
    refine ap_splitS (by omega) (by omega) (fun q q' b6 b7 => hψ _ _ _ _ _ _ _ _ _ _ _ _ _ _ ⟨q, q', _, _, _, _, b5, b6, b7, ?_, rfl⟩)
    exact ⟨Eq.trans (pk_un (by omega)) (k1), Eq.trans (pk_un (by omega)) (k2), Eq.trans (pk_un (by omega)) (k3), Eq.trans (pk_un (by omega)) (k4), fun j j1 j2 => Eq.trans (pk_un (by omega)) (k5 j (by omega) j2), fun z => absurd z (by omega), fun _ => ⟨pk_us, pk_us, pk_us, pk_us⟩⟩
  · rintro c' r' k' hc' cc' a1' a2' a3' a4' a5' a6' a7' a8' a9' ⟨q, q', b1, b2, b3, b4, b5, b6, b7, g, e⟩
    rw [e]
    exact H q q' b1 b2 b3 b4 b5 b6 b7 g
theorem ap_place2 {post : Int32 → St2 → Prop} {w h m : Nat} (w1 : 1 ≤ w) (w2 : w ≤ 8) (h1 : 1 ≤ h) (h2 : h ≤ 8) (g : ap_cs w h m a6) (K : ap_K1 w h a1 a2 a3 a4)
    (H1 : w = 8 → h = 8 → post (-3) (c, r, nI 1, nI m, cc, a1, a2, a3, a4, a5, a6, a7, a8, a9))
    (H0 : ¬ (w = 8 ∧ h = 8) → ∀ (q q' : Int32) (b1 b2 b3 b4 b5 b6 b7 : Nat → Int32), ap_K2 w h 0 (if w < 8 then w else 0) (if w < 8 then 0 else h) b1 b2 b3 b4 → post (nI 1) (c, r, nI 2, q, q', b1, b2, b3, b4, b5, b6, b7, a8, a9)) :
    wpX_place post (c, r, nI 1, nI m, cc, a1, a2, a3, a4, a5, a6, a7, a8, a9) 1 1 1 := by
  have hm : m ≤ 2 := (ap_csA w1 h1 g).1
  obtain ⟨p, hp, hz, hX⟩ : ∃ p : Nat → Nat, (∀ i, i < m → p i < 2 ^ 30 ∧ p 0 ≤ p i ∧ ap_fit (a6 i) (nI 1) (nI 1) (p i)) ∧ (m = 0 ↔ (w = 8 ∧ h = 8)) ∧ (0 < m → (nI (p 0) &&& 255).toInt8.toInt32 = nI (if w < 8 then w else 0) ∧ (nI (p 0) >>> ((8 : Int32) &&& 31)).toInt8.toInt32 = nI (if w < 8 then 0 else h)) := by
    rcases g with ⟨g1, g2, g3⟩ | ⟨g1, g2, g3, g4⟩ | ⟨g1, g2, g3, g4⟩ | ⟨g1, g2, g3, g4, g5⟩
    · exact ⟨fun _ => 0, fun i hi => absurd hi (by omega), by omega, fun z => absurd z (by omega)⟩
    · refine ⟨fun _ => w, fun i hi => ⟨(show w < 2 ^ 30 by omega), Nat.le_refl _, ?_⟩, by omega, fun _ => ?_⟩
      · rw [show i = 0 by omega, g4]
        exact ap_fitR w g1
      · rw [if_pos g1, if_pos g1]
        exact ap_pX w g1
    · refine ⟨fun _ => 256 * h, fun i hi => ⟨(show 256 * h < 2 ^ 30 by omega), Nat.le_refl _, ?_⟩, by omega, fun _ => ?_⟩
      · rw [show i = 0 by omega, g4]
        exact ap_fitU h g2
      · rw [if_neg (by omega), if_neg (by omega)]
        exact ap_pY h g2
    · refine ⟨fun i => if i = 0 then w else 256 * h, fun i hi => ?_, by omega, fun _ => ?_⟩
      · by_cases z : i = 0
        · rw [z, g4]
          exact ⟨(show w < 2 ^ 30 by omega), Nat.le_refl _, ap_fitR w g1⟩
        · rw [show i = 1 by omega, g5]
          exact ⟨(show 256 * h < 2 ^ 30 by omega), (show w ≤ 256 * h by omega), ap_fitU h g2⟩
      · rw [if_pos g1, if_pos g1]
        exact ap_pX w g1
  unfold wpX_place
  refine ap_isSize (w := 1) (h := 1) (by omega) (by omega) (by omega) (by omega) (br_f (by decide) (pk_lt 1 20 (fun _ => ?_) (fun z => absurd z (by omega))))
  refine ap_lowest (by omega) hp (fun z => br_f (by decide) ?_) (fun z => br_f (by decide) ?_)
  · refine ap_lowest (by omega) hp (fun _ => br_t (by decide) ?_) (fun z' => absurd z' (by omega))
    unfold wX_place_67 wX_place_68
    refine br_t rfl ?_
    unfold wX_place_79
    exact br_f (by decide) (H1 (hz.mp z).1 (hz.mp z).2)
  · have q0 := (hp 0 z).1
    refine ap_lowest (by omega) hp (fun z' => absurd z' (by omega)) (fun _ => br_f (nI_pos (by omega)) (br_f (nI_pos (by omega)) (br_t (nI_le (Nat.le_refl _) (by omega)) ?_)))
    unfold wX_place_67 wX_place_68
    refine br_t rfl ?_
    have hY : (if w < 8 then 0 else h) ≤ 8 := by split <;> omega
    exact ap_79 w1 w2 hY hm q0 (hX z).1 (hX z).2 K (fun q q' b1 b2 b3 b4 b5 b6 b7 g => H0 (fun t => absurd (hz.mpr t) (by omega)) q q' b1 b2 b3 b4 b5 b6 b7 g)
end
end
section
/-! finding the holes again: it ends, and touches neither rectangles nor sizes -/
section
variable {c r k hc cc : Int32} {a1 a2 a3 a4 a5 a6 a7 a8 a9 : Nat → Int32}
theorem ap_k30 {post : St2 → Prop} {x1 x2 x3 x4 : Int32} {q : Nat} (hq : q < 256) (H : ∀ b6, post (c, r, k, nI (q + 1), cc, a1, a2, a3, a4, a5, b6, a7, a8, a9)) : wX_keepIfLowest_30 post x1 x2 x3 x4 c r k (nI q) cc a1 a2 a3 a4 a5 a6 a7 a8 a9 := by
  unfold wX_keepIfLowest_30 wpX_pack
  exact ⟨pk_in q 256 hq, nm_e (nm_r (nI_1 q) (H _))⟩
theorem ap_kil {post : St2 → Prop} {p0 p2 p3 : Int32} {y q : Nat} (hy : y < 16) (hq : q < 256) (H : ∀ (q' : Nat) (b6 : Nat → Int32), q' ≤ q + 1 → post (c, r, k, nI q', cc, a1, a2, a3, a4, a5, b6, a7, a8, a9)) : wpX_keepIfLowest post (c, r, k, nI q, cc, a1, a2, a3, a4, a5, a6, a7, a8, a9) p0 (nI y) p2 p3 := by
  unfold wpX_keepIfLowest
  exact nm_e (pk_le y 0 (fun _ => ap_k30 hq (fun b6 => H (q + 1) b6 (by omega))) (fun z => ⟨pk_in (y - 1) 16 (by omega) (pk_sub (a := y) (b := 1) (by omega)), br_c (fun _ => H q _ (by omega)) (fun _ => ap_k30 hq (fun b6 => H (q + 1) b6 (by omega)))⟩))
theorem ap_height {post : Int32 → Prop} {x1 : Int32} {y : Nat} (hy : y ≤ 8) (H : ∀ x, post x) : wpX_heightAt post (c, 8, k, hc, cc, a1, a2, a3, a4, a5, a6, a7, a8, a9) x1 (nI y) := by
  unfold wpX_heightAt
  exact pk_loop (σ := Unit) (fun n i _ => wX_heightAt_2 post x1 (nI y) c 8 k hc cc a1 a2 a3 a4 a5 a6 a7 a8 a9 n (nI i)) (fun _ _ => True) 8 y () hy trivial
    (fun n _ _ => pk_le 8 8 (fun _ => H _) (fun z => absurd z (by omega)))
    (fun n i _ hi _ hw => pk_le 8 i (fun z => absurd z (by omega)) (fun _ => ⟨pk_in i 16 (by omega), br_c (fun _ => H _) (fun _ => nm_r (nI_1 i) (hw () trivial))⟩))
/-- the state behind one column: d columns wait, q holes are kept -/
def ap_J (J4 : Int32 → Int32 → Int32 → Int32 → Int32 → Int32 → Int32 → (Nat → Int32) → (Nat → Int32) → (Nat → Int32) → (Nat → Int32) → (Nat → Int32) → (Nat → Int32) → (Nat → Int32) → (Nat → Int32) → (Nat → Int32) → Prop) (x : Int32) (D B : Nat) (k cc : Int32) (a1 a2 a3 a4 a5 a7 : Nat → Int32) : Prop :=
  ∀ (d q : Nat) (b6 b8 b9 : Nat → Int32), d ≤ D → d + q ≤ B → J4 (nI d) x 8 8 k (nI q) cc a1 a2 a3 a4 a5 b6 a7 b8 b9
theorem ap_w105 {post : St2 → Prop} {J4 : Int32 → Int32 → Int32 → Int32 → Int32 → Int32 → Int32 → (Nat → Int32) → (Nat → Int32) → (Nat → Int32) → (Nat → Int32) → (Nat → Int32) → (Nat → Int32) → (Nat → Int32) → (Nat → Int32) → (Nat → Int32) → Prop} {x1 x3 x4 x5 : Int32} {d q D B : Nat} (hd : d < 17) (h1 : d + 1 ≤ D) (h2 : d + 1 + q ≤ B) (H : ap_J J4 (x3 + 1) D B k cc a1 a2 a3 a4 a5 a7) : wX_sweepFrom_105 post J4 x1 (nI d) x3 x4 x5 8 8 k (nI q) cc a1 a2 a3 a4 a5 a6 a7 a8 a9 := by
  unfold wX_sweepFrom_105
  exact ⟨pk_in d 17 hd, nm_e ⟨pk_in d 17 hd, nm_e (nm_r (nI_1 d) (nm_e (H (d + 1) q _ _ _ h1 h2)))⟩⟩
theorem ap_w83 {post : St2 → Prop} {J4 : Int32 → Int32 → Int32 → Int32 → Int32 → Int32 → Int32 → (Nat → Int32) → (Nat → Int32) → (Nat → Int32) → (Nat → Int32) → (Nat → Int32) → (Nat → Int32) → (Nat → Int32) → (Nat → Int32) → (Nat → Int32) → Prop} {x1 x3 x4 x5 : Int32} {d q D B : Nat} (hd : d < 17) (h0 : d ≤ D) (h00 : d + q ≤ B) (hx : x4 ≤ 0 ∨ (d + 1 ≤ D ∧ d + 1 + q ≤ B)) (H : ap_J J4 (x3 + 1) D B k cc a1 a2 a3 a4 a5 a7) : wX_sweepFrom_83 post J4 x1 (nI d) x3 x4 x5 8 8 k (nI q) cc a1 a2 a3 a4 a5 a6 a7 a8 a9 := by
  unfold wX_sweepFrom_83
  refine br_c (fun _ => nm_e (H d q _ _ _ h0 h00)) (fun z => ?_)
  rcases hx with hx | ⟨h1, h2⟩
  · exact absurd hx z
  · exact pk_eq d 0 (fun _ => ap_w105 hd h1 h2 H) (fun e => ⟨pk_in (d - 1) 17 (by omega) (pk_sub (a := d) (b := 1) (by omega)), br_c (fun _ => nm_e (H d q _ _ _ h0 h00)) (fun _ => ap_w105 hd h1 h2 H)⟩)
theorem ap_w35 {post : St2 → Prop} {J4 : Int32 → Int32 → Int32 → Int32 → Int32 → Int32 → Int32 → (Nat → Int32) → (Nat → Int32) → (Nat → Int32) → (Nat → Int32) → (Nat → Int32) → (Nat → Int32) → (Nat → Int32) → (Nat → Int32) → (Nat → Int32) → Prop} {x3 x4 : Int32} {y D E B : Nat} (hy : y < 16) (hD : E < 17) (hB : B ≤ 256) (hED : E ≤ D) (hEB : E ≤ B) {BB : Nat} (hBB : B ≤ BB) (hx : x4 ≤ 0 ∨ (E + 1 ≤ D ∧ B + 1 ≤ BB)) (H : ap_J J4 (x3 + 1) D BB k cc a1 a2 a3 a4 a5 a7) :
    ∀ (d q : Nat) (x5 : Int32) (b6 : Nat → Int32), d ≤ E → d + q ≤ B → wX_sweepFrom_35 post J4 (nI y) x3 x4 (d + 1) (nI d) x5 8 8 k (nI q) cc a1 a2 a3 a4 a5 b6 a7 a8 a9 := by
  have T : ∀ (d q : Nat) (x5 : Int32) (b6 : Nat → Int32), d ≤ E → d + q ≤ B → wX_sweepFrom_83 post J4 (nI y) (nI d) x3 x4 x5 8 8 k (nI q) cc a1 a2 a3 a4 a5 b6 a7 a8 a9 := by
    intro d q x5 b6 h1 h2
    exact ap_w83 (by omega) (by omega) (by omega) (hx.imp id (fun t => ⟨by omega, by omega⟩)) H
  intro d
  induction d with
  | zero =>
    intro q x5 b6 h1 h2
    exact pk_le 0 0 (fun _ => T 0 q x5 b6 h1 h2) (fun z => absurd z (by omega))
  | succ d ih =>
    intro q x5 b6 h1 h2
    refine pk_le (d + 1) 0 (fun z => absurd z (by omega)) (fun _ => ⟨pk_in d 17 (by omega) (nI_pred d), br_c (fun _ => T (d + 1) q x5 b6 h1 h2) (fun _ => nm_r (pk_m1 d) ⟨pk_in d 17 (by omega), nm_e ⟨pk_in d 17 (by omega), ?_⟩⟩)⟩)
    exact ap_kil hy (by omega) (fun q' b6' hq => ih q' _ b6' (by omega) (by omega))
theorem ap_w4 {post : St2 → Prop} {y Q : Nat} (hy : y < 8) (hQ : Q ≤ 200) (H : ∀ (q : Nat) (b6 b8 b9 : Nat → Int32), q ≤ Q + 8 → post (8, 8, k, nI q, cc, a1, a2, a3, a4, a5, b6, a7, b8, b9)) :
    ∀ (n x d q : Nat) (b6 b8 b9 : Nat → Int32), x ≤ 9 → 9 - x < n → d ≤ x → d ≤ 8 → d + q ≤ Q + x → d + q ≤ Q + 8 → wX_sweepFrom_4 post (nI y) n (nI d) (nI x) 8 8 k (nI q) cc a1 a2 a3 a4 a5 b6 a7 b8 b9 := by
  intro n
  induction n with
  | zero => intro x d q b6 b8 b9 h1 h2; omega
  | succ n ih =>
    intro x d q b6 b8 b9 h1 h2 h3 h4 h5 h6
    refine pk_lt 8 x (fun z => H q b6 b8 b9 (by omega)) (fun z => ?_)
    refine pk_le 8 x (fun z' => ?_) (fun z' => ?_)
    · refine ⟨d + 1, ap_w35 (D := 8) (E := 8) (B := Q + 8) (BB := Q + 8) (by omega) (by omega) (by omega) (by omega) (by omega) (by omega) (Or.inl (by decide)) (fun d' q' b6' b8' b9' e1 e2 => ?_) d q _ _ h4 h6⟩
      rw [nI_1]
      exact ih (x + 1) d' q' b6' b8' b9' (by omega) (by omega) (by omega) e1 (by omega) e2
    · refine ap_height (by omega) (fun t => ⟨d + 1, ap_w35 (D := x + 1) (E := x) (B := Q + x) (BB := Q + x + 1) (by omega) (by omega) (by omega) (by omega) (by omega) (by omega) (Or.inr ⟨by omega, by omega⟩) (fun d' q' b6' b8' b9' e1 e2 => ?_) d q _ _ h3 h5⟩)
      rw [nI_1]
      exact ih (x + 1) d' q' b6' b8' b9' (by omega) (by omega) e1 (by omega) (by omega) (by omega)
theorem ap_sweep {post : St2 → Prop} {y Q : Nat} (hy : y < 8) (hQ : Q ≤ 200) (H : ∀ (q : Nat) (b6 b8 b9 : Nat → Int32), q ≤ Q + 8 → post (8, 8, k, nI q, cc, a1, a2, a3, a4, a5, b6, a7, b8, b9)) : wpX_sweepFrom post (8, 8, k, nI Q, cc, a1, a2, a3, a4, a5, a6, a7, a8, a9) (nI y) := by
  unfold wpX_sweepFrom
  exact ⟨10, ap_w4 hy hQ H 10 0 0 Q a6 a8 a9 (by omega) (by omega) (by omega) (by omega) (by omega) (by omega)⟩
theorem ap_find {post : St2 → Prop} (H : ∀ (q : Int32) (b6 b8 b9 : Nat → Int32), post (8, 8, k, q, cc, a1, a2, a3, a4, a5, b6, a7, b8, b9)) : wpX_findHoles post (8, 8, k, hc, cc, a1, a2, a3, a4, a5, a6, a7, a8, a9) := by
  unfold wpX_findHoles
  exact pk_loop (σ := Nat × (Nat → Int32) × (Nat → Int32) × (Nat → Int32)) (fun n i s => wX_findHoles_7 post n (nI i) 8 8 k (nI s.1) cc a1 a2 a3 a4 a5 s.2.1 a7 s.2.2.1 s.2.2.2) (fun i s => s.1 ≤ 8 * i) 8 0 (0, a6, a8, a9) (by omega) (Nat.le_refl 0)
    (fun n s g => pk_le 8 8 (fun _ => H _ _ _ _) (fun z => absurd z (by omega)))
    (fun n i s hi g hw => pk_le 8 i (fun z => absurd z (by omega)) (fun _ => ap_sweep hi (by omega) (fun q b6 b8 b9 hq => nm_r (nI_1 i) (hw (q, b6, b8, b9) (show q ≤ 8 * (i + 1) by omega)))))
end
end
section
/-! remove, freeCells, look, owner -/
section
variable {c r k hc cc : Int32} {a1 a2 a3 a4 a5 a6 a7 a8 a9 : Nat → Int32}
theorem ap_used {post : Int32 → Prop} {i : Nat} (hi : i < 20) (H0 : a3 i = 0 → post 0) (H1 : ¬ a3 i = 0 → post 1) : wpX_isUsed post (c, r, k, hc, cc, a1, a2, a3, a4, a5, a6, a7, a8, a9) (nI i) := by
  unfold wpX_isUsed
  have e : a3 (nI i).toNatClampNeg = a3 i := congrArg a3 (nI_clamp (by omega))
  exact br_f (nI_pos (by omega)) (pk_le 20 i (fun z => absurd z (by omega)) (fun _ => ⟨pk_in i 20 hi, br_c (fun z => H0 (e.symm.trans z)) (fun z => H1 (fun t => z (e.trans t)))⟩))
theorem ap_remove {post : Int32 → St2 → Prop} {w h F X Y : Nat} (w1 : 1 ≤ w) (w2 : w ≤ 8) (h2 : h ≤ 8) (K : ap_K2 w h F X Y a1 a2 a3 a4) (H : ∀ (q : Int32) (b5 b6 b8 b9 : Nat → Int32), post (k - 1) (8, 8, k - 1, q, cc, a1, a2, upd a3 0 0, a4, b5, b6, a7, b8, b9)) : wpX_remove post (8, 8, k, hc, cc, a1, a2, a3, a4, a5, a6, a7, a8, a9) 0 := by
  obtain ⟨k1, k2, k3, k4, k5, k6, k7⟩ := K
  unfold wpX_remove
  refine ap_used (i := 0) (by omega) (fun z => absurd (k3.symm.trans z) (nI_ne0 (by omega) (by omega))) (fun _ => br_f (by decide) ?_)
  refine ap_flip (i := 0) (b := 0) (t := h) (by omega) k2 k4 (by omega) (fun b5 => ⟨pk_in 0 20 (by omega), nm_e (nm_e (ap_find (fun q b6 b8 b9 => H q b5 b6 b8 b9)))⟩)
theorem ap_free {post : Int32 → Prop} {t : Nat} (g0 : a3 0 = 0) (g1 : (t = 0 ∧ a3 1 = 0) ∨ (t = 1 ∧ a3 1 = nI 1 ∧ a4 1 = nI 1)) (g2 : ∀ j, 2 ≤ j → j < 20 → a3 j = 0) (H : post (nI (64 - t))) : wpX_freeCells post (8, 8, k, hc, cc, a1, a2, a3, a4, a5, a6, a7, a8, a9) := by
  unfold wpX_freeCells
  refine nm_r (e' := nI 64) (by decide) ?_
  refine pk_loop (fun n i s => wX_freeCells_12 post 8 8 k hc cc a1 a2 a3 a4 a5 a6 a7 a8 a9 n s (nI i)) (fun i s => (i ≤ 1 → s = nI 64) ∧ (2 ≤ i → s = nI (64 - t))) 20 0 (nI 64) (by omega) ⟨fun _ => rfl, fun z => absurd z (by omega)⟩ ?_ ?_
  · intro n s g
    have es := g.2 (by omega)
    subst es
    exact pk_le 20 20 (fun _ => H) (fun z => absurd z (by omega))
  · intro n i s hi g hw
    refine pk_le 20 i (fun z => absurd z (by omega)) (fun _ => ⟨pk_in i 20 hi, ?_⟩)
    rw [nI_clamp (show i < 2 ^ 31 by omega)]
    by_cases z0 : i = 0
    · have es := g.1 (by omega)
      subst z0 es
      exact br_t g0 (nm_r (nI_1 0) (hw _ ⟨fun _ => rfl, fun z => absurd z (by omega)⟩))
    · by_cases z1 : i = 1
      · have es := g.1 (by omega)
        subst z1 es
        rcases g1 with ⟨e1, e2⟩ | ⟨e1, e2, e3⟩
        · exact br_t e2 (nm_r (nI_1 1) (hw _ ⟨fun z => absurd z (by omega), fun _ => by rw [e1]⟩))
        · rw [e2, e3]
          refine br_f (by decide) ⟨pk_in 1 20 (by omega), pk_in 1 20 (by omega), nm_r (e' := nI 63) (by decide) (nm_r (nI_1 1) (hw _ ⟨fun z => absurd z (by omega), fun _ => by rw [e1]⟩))⟩
      · have es := g.2 (by omega)
        subst es
        exact br_t (g2 i (by omega) hi) (nm_r (nI_1 i) (hw _ ⟨fun z => absurd z (by omega), fun _ => rfl⟩))
theorem ap_look0 {post : Int32 → Prop} {w h F X Y : Nat} (hF : F = 0 ∨ F = 1) (K : ap_K2 w h F X Y a1 a2 a3 a4) (H1 : F = 1 → post (-1)) (H0 : F = 0 → post (nI X)) : wpX_look post (c, r, k, hc, cc, a1, a2, a3, a4, a5, a6, a7, a8, a9) 1 0 := by
  obtain ⟨k1, k2, k3, k4, k5, k6, k7⟩ := K
  unfold wpX_look
  rcases hF with hF | hF
  · obtain ⟨m1, m2, m3, m4⟩ := k7 hF
    refine ap_used (i := 1) (by omega) (fun z => absurd (m3.symm.trans z) (by decide)) (fun _ => br_f (by decide) (br_t rfl ⟨pk_in 1 20 (by omega), ?_⟩))
    exact ek_v (P := post) (show a1 (1 : Int32).toNatClampNeg = nI X from m1) (H0 hF)
  · exact ap_used (i := 1) (by omega) (fun z => br_t rfl (H1 hF)) (fun z => absurd (k6 hF) z)
theorem ap_look1 {post : Int32 → Prop} {w h F X Y : Nat} (hF : F = 0 ∨ F = 1) (K : ap_K2 w h F X Y a1 a2 a3 a4) (H1 : F = 1 → post (-1)) (H0 : F = 0 → post (nI Y)) : wpX_look post (c, r, k, hc, cc, a1, a2, a3, a4, a5, a6, a7, a8, a9) 1 1 := by
  obtain ⟨k1, k2, k3, k4, k5, k6, k7⟩ := K
  unfold wpX_look
  rcases hF with hF | hF
  · obtain ⟨m1, m2, m3, m4⟩ := k7 hF
    refine ap_used (i := 1) (by omega) (fun z => absurd (m3.symm.trans z) (by decide)) (fun _ => br_f (by decide) (br_f (by decide) (br_t rfl ⟨pk_in 1 20 (by omega), ?_⟩)))
    exact ek_v (P := post) (show a2 (1 : Int32).toNatClampNeg = nI Y from m2) (H0 hF)
  · exact ap_used (i := 1) (by omega) (fun z => br_t rfl (H1 hF)) (fun z => absurd (k6 hF) z)
/-- the owner of a cell -/
def ap_due (w h X Y x y : Nat) : Int32 := if x < w ∧ y < h then 0 else if x = X ∧ y = Y then 1 else -3
theorem ap_tail {post : Int32 → Prop} {x1 x2 : Int32} (g2 : ∀ j, 2 ≤ j → j < 20 → a3 j = 0) (H : post (-3)) : wX_owner_28 post x1 x2 c r k hc cc a1 a2 a3 a4 a5 a6 a7 a8 a9 19 (nI 2) :=
  loop_i (σ := Unit) (fun n i _ => wX_owner_28 post x1 x2 c r k hc cc a1 a2 a3 a4 a5 a6 a7 a8 a9 n (nI i)) (fun i _ => 2 ≤ i) 20
    (fun n _ _ => pk_le 20 20 (fun _ => H) (fun z => absurd z (by omega)))
    (fun n i _ hi g hw => pk_le 20 i (fun z => absurd z (by omega)) (fun _ => ⟨pk_in i 20 hi, br_t ((congrArg a3 (nI_clamp (by omega))).trans (g2 i g hi)) (nm_r (nI_1 i) (hw () (Nat.le_succ_of_le g)))⟩))
    19 2 () (by omega) (by omega) (Nat.le_refl 2)
theorem ap_own1 {post : Int32 → Prop} {w h F X Y x y : Nat} (hX : X < 8) (hY : Y ≤ 8) (hx : x < 8) (hy : y < 8) (hF : F = 0 ∨ F = 1) (K : ap_K2 w h F X Y a1 a2 a3 a4) (H0 : F = 0 → x = X → y = Y → post 1) (H1 : (F = 0 → ¬ (x = X ∧ y = Y)) → post (-3)) : wX_owner_28 post (nI x) (nI y) c r k hc cc a1 a2 a3 a4 a5 a6 a7 a8 a9 20 (nI 1) := by
  obtain ⟨k1, k2, k3, k4, k5, k6, k7⟩ := K
  have e1 : (nI 1).toNatClampNeg = 1 := nI_clamp (by omega)
  refine pk_le 20 1 (fun z => absurd z (by omega)) (fun _ => ⟨pk_in 1 20 (by omega), ?_⟩)
  rcases hF with hF | hF
  · obtain ⟨m1, m2, m3, m4⟩ := k7 hF
    rw [e1, m1, m2, m3, m4]
    have tl : ¬ (x = X ∧ y = Y) → ∀ z : Int32, z = nI 1 + 1 → wX_owner_28 post (nI x) (nI y) c r k hc cc a1 a2 a3 a4 a5 a6 a7 a8 a9 19 z := fun z => nm_r (nI_1 1) (ap_tail k5 (H1 (fun _ => z)))
    refine br_f (by decide) ⟨pk_in 1 20 (by omega), pk_lt x X (fun z => tl (by omega)) (fun z => ⟨pk_in 1 20 (by omega), pk_le Y y (fun z2 => ⟨pk_in 1 20 (by omega), pk_in 1 20 (by omega), ?_⟩) (fun z2 => tl (by omega))⟩)⟩
    refine pk_le (X + 1) x (fun z3 => tl (by omega)) (fun z3 => ⟨pk_in 1 20 (by omega), pk_in 1 20 (by omega), ?_⟩) (nI_add X 1)
    exact pk_le (Y + 1) y (fun z4 => tl (by omega)) (fun z4 => H0 hF (by omega) (by omega)) (nI_add Y 1)
  · rw [e1]
    exact br_t (k6 hF) (nm_r (nI_1 1) (ap_tail k5 (H1 (fun z => absurd z (by omega)))))
theorem ap_ownIn {post : Int32 → Prop} {w h F X Y x y : Nat} (w1 : 1 ≤ w) (w2 : w ≤ 8) (h2 : h ≤ 8) (hX : X < 8) (hY : Y ≤ 8) (hx : x < 8) (hy : y < 8) (hF : (F = 0 ∧ ¬ (w = 8 ∧ h = 8)) ∨ (F = 1 ∧ w = 8 ∧ h = 8)) (K : ap_K2 w h F X Y a1 a2 a3 a4) (H : post (ap_due w h X Y x y)) : wpX_owner post (8, 8, k, hc, cc, a1, a2, a3, a4, a5, a6, a7, a8, a9) (nI x) (nI y) := by
  have nx : ¬ (x < w ∧ y < h) → wX_owner_28 post (nI x) (nI y) 8 8 k hc cc a1 a2 a3 a4 a5 a6 a7 a8 a9 20 (nI 1) := by
    intro z
    have F0 : F = 0 := by omega
    unfold ap_due at H
    rw [if_neg z] at H
    refine ap_own1 hX hY hx hy (Or.inl F0) K (fun _ e1 e2 => ?_) (fun t => ?_)
    · rw [if_pos ⟨e1, e2⟩] at H
      exact H
    · rw [if_neg (t F0)] at H
      exact H
  have nxt : ¬ (x < w ∧ y < h) → ∀ z : Int32, z = nI 0 + 1 → wX_owner_28 post (nI x) (nI y) 8 8 k hc cc a1 a2 a3 a4 a5 a6 a7 a8 a9 20 z := fun z => nm_r (nI_1 0) (nx z)
  obtain ⟨k1, k2, k3, k4, k5, k6, k7⟩ := K
  have e0 : (nI 0).toNatClampNeg = 0 := nI_clamp (by omega)
  unfold wpX_owner
  refine br_f (nI_pos (by omega)) (pk_le 8 x (fun z => absurd z (by omega)) (fun _ => br_f (nI_pos (by omega)) (pk_lt y 8 (fun _ => ⟨21, ?_⟩) (fun z => absurd z (by omega)))))
  show wX_owner_28 post (nI x) (nI y) 8 8 k hc cc a1 a2 a3 a4 a5 a6 a7 a8 a9 21 (nI 0)
  refine pk_le 20 0 (fun z => absurd z (by omega)) (fun _ => ⟨pk_in 0 20 (by omega), ?_⟩)
  rw [e0, k1, k2, k3, k4]
  refine br_f (nI_ne0 (by omega) (by omega)) ⟨pk_in 0 20 (by omega), pk_lt x 0 (fun z => absurd z (by omega)) (fun z => ⟨pk_in 0 20 (by omega), pk_le 0 y (fun z2 => ⟨pk_in 0 20 (by omega), pk_in 0 20 (by omega), ?_⟩) (fun z2 => absurd z2 (by omega))⟩)⟩
  refine pk_le (0 + w) x (fun z3 => nxt (by omega)) (fun z3 => ⟨pk_in 0 20 (by omega), pk_in 0 20 (by omega), ?_⟩) (nI_add 0 w)
  refine pk_le (0 + h) y (fun z4 => nxt (by omega)) (fun z4 => ?_) (nI_add 0 h)
  unfold ap_due at H
  rw [if_pos (by omega)] at H
  exact H
theorem ap_ownOut {post : Int32 → Prop} {x y : Int32} (h : x < 0 ∨ 8 ≤ x ∨ y < 0 ∨ ¬ y < 8) (H : post (-1)) : wpX_owner post (8, 8, k, hc, cc, a1, a2, a3, a4, a5, a6, a7, a8, a9) x y := by
  unfold wpX_owner
  refine br_c (fun _ => H) (fun z1 => br_c (fun _ => H) (fun z2 => br_c (fun _ => H) (fun z3 => br_f ?_ H)))
  rcases h with h | h | h | h
  · exact absurd h z1
  · exact absurd h z2
  · exact absurd h z3
  · exact h
end
end
section
/-! the law -/
/-- the law's own post -/
def ap_P : Int32 → St0 → Prop := fun r _ => r = 1
/-- where the asked cell lies -/
def ap_in (u v x9 : Int32) : Prop := (x9 = 0 ∧ (u < 0 ∨ 8 ≤ u ∨ v < 0 ∨ ¬ v < 8)) ∨ (x9 = 1 ∧ ∃ x y : Nat, x < 8 ∧ y < 8 ∧ u = nI x ∧ v = nI y)
def ap_F (w h F X Y : Nat) : Prop := X < 8 ∧ Y ≤ 8 ∧ ((F = 0 ∧ ¬ (w = 8 ∧ h = 8)) ∨ (F = 1 ∧ w = 8 ∧ h = 8))
theorem ap_F01 {w h F X Y : Nat} (hF : ap_F w h F X Y) : F = 0 ∨ F = 1 := by
  rcases hF.2.2 with t | t
  · exact Or.inl t.1
  · exact Or.inr t.1
section
variable {hc cc u v x9 : Int32} {a1 a2 a3 a4 a5 a6 a7 a8 a9 : Nat → Int32} {mc ms kc ks w h F X Y : Nat}
theorem ap_350 {z : Int32} {k : Int32} (hF : F = 0 ∨ F = 1) (K : ap_K2 w h F X Y a1 a2 a3 a4) : wL_lawOf_350 ap_P mc ms (nI F) z z kc ks 8 8 k hc cc a1 a2 (upd a3 0 0) a4 a5 a6 a7 a8 a9 := by
  obtain ⟨k1, k2, k3, k4, k5, k6, k7⟩ := K
  unfold wL_lawOf_350
  refine br_t rfl (ap_free (t := 1 - F) pk_us ?_ (fun j j1 j2 => Eq.trans (pk_un (by omega)) (k5 j j1 j2)) ?_)
  · rw [pk_un (show (1 : Nat) ≠ 0 by omega)]
    rcases hF with hF | hF
    · exact Or.inr ⟨by omega, (k7 hF).2.2.1, (k7 hF).2.2.2⟩
    · exact Or.inl ⟨by omega, k6 hF⟩
  · rcases hF with hF | hF
    · subst hF
      exact br_t rfl (br_t rfl rfl)
    · subst hF
      exact br_f (by decide) (br_t rfl rfl)
theorem ap_329 {z : Int32} (w1 : 1 ≤ w) (w2 : w ≤ 8) (h2 : h ≤ 8) (hF : F = 0 ∨ F = 1) (K : ap_K2 w h F X Y a1 a2 a3 a4) : wL_lawOf_329 ap_P mc ms (nI F) z z kc ks 8 8 (nI (2 - F)) hc cc a1 a2 a3 a4 a5 a6 a7 a8 a9 := by
  unfold wL_lawOf_329
  refine br_t rfl (ap_remove w1 w2 h2 K (fun q b5 b6 b8 b9 => ?_))
  rcases hF with hF | hF
  · subst hF
    exact br_t rfl (ap_350 (Or.inl rfl) K)
  · subst hF
    exact br_f (by decide) (ap_350 (Or.inr rfl) K)
theorem ap_309 {z : Int32} (w1 : 1 ≤ w) (w2 : w ≤ 8) (h2 : h ≤ 8) (hF : ap_F w h F X Y) (K : ap_K2 w h F X Y a1 a2 a3 a4) (hi : ap_in u v x9) (hz : ∀ x y : Nat, x < 8 → y < 8 → u = nI x → v = nI y → z = ap_due w h X Y x y) : wL_lawOf_309 ap_P mc ms u v (nI F) x9 z kc ks 8 8 (nI (2 - F)) hc cc a1 a2 a3 a4 a5 a6 a7 a8 a9 := by
  unfold wL_lawOf_309
  have f01 := ap_F01 hF
  rcases hi with ⟨e, o⟩ | ⟨e, x, y, hx, hy, eu, ev⟩
  · exact ap_ownOut o (br_t e (ap_329 w1 w2 h2 f01 K))
  · have e2 := hz x y hx hy eu ev
    subst e2 eu ev e
    exact ap_ownIn w1 w2 h2 hF.1 hF.2.1 hx hy hF.2.2 K (br_f (by decide) (ap_329 w1 w2 h2 f01 K))
theorem ap_291 (w1 : 1 ≤ w) (w2 : w ≤ 8) (h2 : h ≤ 8) (hF : ap_F w h F X Y) (K : ap_K2 w h F X Y a1 a2 a3 a4) (hi : ap_in u v x9) (hz : ∀ x y : Nat, x < 8 → y < 8 → u = nI x → v = nI y → ¬ (x < w ∧ y < h)) : wL_lawOf_291 ap_P mc ms u v (nI F) (nI X) (nI Y) x9 kc ks 8 8 (nI (2 - F)) hc cc a1 a2 a3 a4 a5 a6 a7 a8 a9 := by
  obtain ⟨f1, f2, f3⟩ := hF
  have hF : ap_F w h F X Y := ⟨f1, f2, f3⟩
  have no : ¬ (u = nI X ∧ v = nI Y) → wL_lawOf_307 ap_P mc ms u v (nI F) x9 kc ks 8 8 (nI (2 - F)) hc cc a1 a2 a3 a4 a5 a6 a7 a8 a9 := by
    intro n
    unfold wL_lawOf_307
    refine ap_309 w1 w2 h2 hF K hi (fun x y hx hy eu ev => ?_)
    unfold ap_due
    rw [if_neg (hz x y hx hy eu ev), if_neg]
    exact fun t => n ⟨by rw [eu, t.1], by rw [ev, t.2]⟩
  unfold wL_lawOf_291
  refine br_c (fun g1 => br_c (fun g2 => ?_) (fun g2 => no (fun t => g2 t.2))) (fun g1 => no (fun t => g1 t.1))
  refine ap_309 w1 w2 h2 hF K hi (fun x y hx hy eu ev => ?_)
  unfold ap_due
  rw [if_neg (hz x y hx hy eu ev), if_pos]
  exact ⟨(nI_eq (by omega) (by omega)).mp (eu.symm.trans g1), (nI_eq (by omega) (by omega)).mp (ev.symm.trans g2)⟩
theorem ap_270 {z : Int32} (w1 : 1 ≤ w) (w2 : w ≤ 8) (h2 : h ≤ 8) (hF : ap_F w h F X Y) (K : ap_K2 w h F X Y a1 a2 a3 a4) (hi : ap_in u v x9) : wL_lawOf_270 ap_P mc ms u v (nI w) (nI h) (nI F) (nI X) (nI Y) x9 z z kc ks 8 8 (nI (2 - F)) hc cc a1 a2 a3 a4 a5 a6 a7 a8 a9 := by
  unfold wL_lawOf_270
  refine br_t rfl (br_c (fun g1 => ap_291 w1 w2 h2 hF K hi (fun x y hx hy eu ev t => ?_)) (fun g1 => br_c (fun g2 => ap_291 w1 w2 h2 hF K hi (fun x y hx hy eu ev t => ?_)) (fun g2 => ap_309 w1 w2 h2 hF K hi (fun x y hx hy eu ev => ?_))))
  · rw [eu] at g1
    exact nI_ge t.1 (by omega) g1
  · rw [ev] at g2
    exact nI_ge t.2 (by omega) g2
  · unfold ap_due
    rw [if_pos]
    rw [eu] at g1
    rw [ev] at g2
    constructor
    · rcases Nat.lt_or_ge x w with t | t
      · exact t
      · exact absurd (nI_le t (by omega)) g1
    · rcases Nat.lt_or_ge y h with t | t
      · exact t
      · exact absurd (nI_le t (by omega)) g2
theorem ap_247 {z : Int32} (w1 : 1 ≤ w) (w2 : w ≤ 8) (h2 : h ≤ 8) (hF : ap_F w h F X Y) (K : ap_K2 w h F X Y a1 a2 a3 a4) (hi : ap_in u v x9) : wL_lawOf_247 ap_P mc ms u v (nI w) (nI h) (nI F) (nI X) (nI Y) x9 z z kc ks 8 8 (nI (2 - F)) hc cc a1 a2 a3 a4 a5 a6 a7 a8 a9 := by
  unfold wL_lawOf_247
  refine br_t rfl (ap_look1 (ap_F01 hF) K (fun e => ?_) (fun e => ?_))
  · exact br_f (by rw [e]; decide) (ap_270 w1 w2 h2 hF K hi)
  · exact br_t (by rw [e]; rfl) (ap_270 w1 w2 h2 hF K hi)
theorem ap_224 {z : Int32} (w1 : 1 ≤ w) (w2 : w ≤ 8) (h2 : h ≤ 8) (hF : ap_F w h F X Y) (K : ap_K2 w h F X Y a1 a2 a3 a4) (hi : ap_in u v x9) : wL_lawOf_224 ap_P mc ms u v (nI w) (nI h) (nI F) (nI X) (nI Y) x9 z z kc ks 8 8 (nI (2 - F)) hc cc a1 a2 a3 a4 a5 a6 a7 a8 a9 := by
  unfold wL_lawOf_224
  refine br_t rfl (ap_look0 (ap_F01 hF) K (fun e => ?_) (fun e => ?_))
  · exact br_f (by rw [e]; decide) (ap_247 w1 w2 h2 hF K hi)
  · exact br_t (by rw [e]; rfl) (ap_247 w1 w2 h2 hF K hi)
/-- F, X, Y as the law computes them -/
def ap_f (w h : Nat) : Nat := if w = 8 ∧ h = 8 then 1 else 0
def ap_x (w : Nat) : Nat := if w < 8 then w else 0
def ap_y (w h : Nat) : Nat := if w < 8 then 0 else h
theorem ap_Fok (h2 : h ≤ 8) : ap_F w h (ap_f w h) (ap_x w) (ap_y w h) := by
  unfold ap_F ap_f ap_x ap_y
  refine ⟨by split <;> omega, by split <;> omega, ?_⟩
  by_cases e : w = 8 ∧ h = 8
  · rw [if_pos e]
    exact Or.inr ⟨rfl, e⟩
  · rw [if_neg e]
    exact Or.inl ⟨rfl, e⟩
theorem ap_200 {z : Int32} {m : Nat} (w1 : 1 ≤ w) (w2 : w ≤ 8) (h1 : 1 ≤ h) (h2 : h ≤ 8) (g : ap_cs w h m a6) (K : ap_K1 w h a1 a2 a3 a4) (hi : ap_in u v x9) : wL_lawOf_200 ap_P mc ms u v (nI w) (nI h) (nI (ap_f w h)) (nI (ap_x w)) (nI (ap_y w h)) x9 z z kc ks 8 8 (nI 1) (nI m) cc a1 a2 a3 a4 a5 a6 a7 a8 a9 := by
  have hF := ap_Fok (w := w) h2
  unfold wL_lawOf_200
  refine br_t rfl (ap_place2 w1 w2 h1 h2 g K (fun e1 e2 => ?_) (fun e q q' b1 b2 b3 b4 b5 b6 b7 K2 => ?_))
  · have ef : ap_f w h = 1 := if_pos ⟨e1, e2⟩
    have K2 : ap_K2 w h (ap_f w h) (ap_x w) (ap_y w h) a1 a2 a3 a4 := by
      obtain ⟨k1, k2, k3, k4, k5⟩ := K
      exact ⟨k1, k2, k3, k4, fun j j1 j2 => k5 j (by omega) j2, fun _ => k5 1 (by omega) (by omega), fun t => absurd t (by omega)⟩
    have ek : nI 1 = nI (2 - ap_f w h) := by rw [ef]
    refine br_f (by rw [ef]; decide) ?_
    rw [ek]
    exact ap_224 w1 w2 h2 hF K2 hi
  · have ef : ap_f w h = 0 := if_neg e
    have K3 : ap_K2 w h (ap_f w h) (ap_x w) (ap_y w h) b1 b2 b3 b4 := by
      rw [ef]
      exact K2
    have ek : nI 2 = nI (2 - ap_f w h) := by rw [ef]
    refine br_t (by rw [ef]; rfl) ?_
    rw [ek]
    exact ap_224 w1 w2 h2 hF K3 hi
theorem ap_146 {z0 z1 : Int32} {m : Nat} (w1 : 1 ≤ w) (w2 : w ≤ 8) (h1 : 1 ≤ h) (h2 : h ≤ 8) (g : ap_cs w h m a6) (K : ap_K1 w h a1 a2 a3 a4) (hi : ap_in u v x9) (hz : z1 + z0 = nI m) : wL_lawOf_146 ap_P mc ms u v (nI w) (nI h) (nI (ap_f w h)) (nI (ap_x w)) (nI (ap_y w h)) x9 z0 z1 kc ks 8 8 (nI 1) (nI m) cc a1 a2 a3 a4 a5 a6 a7 a8 a9 := by
  have hm : m ≤ 2 := (ap_csA w1 h1 g).1
  have e1 : 8 * (8 - nI w) = nI (8 * (8 - w)) := by
    show nI 8 * (nI 8 - nI w) = _
    rw [pk_sub w2, pk_mul]
  have e2 : 8 * (8 - nI h) = nI (8 * (8 - h)) := by
    show nI 8 * (nI 8 - nI h) = _
    rw [pk_sub h2, pk_mul]
  obtain ⟨s, hs, hM⟩ : ∃ s : Nat → Nat, (∀ i, i < m → s i < 2 ^ 30 ∧ ((a6 i >>> ((5 : Int32) &&& 31)) &&& 31) * (a6 i &&& 31) = nI (s i)) ∧ ap_mx s m = if 8 * (8 - w) ≤ 8 * (8 - h) then 8 * (8 - h) else 8 * (8 - w) := by
    rcases g with ⟨g1, g2, g3⟩ | ⟨g1, g2, g3, g4⟩ | ⟨g1, g2, g3, g4⟩ | ⟨g1, g2, g3, g4, g5⟩
    · refine ⟨fun _ => 0, fun i hi => absurd hi (by omega), ?_⟩
      subst g1 g2 g3
      rfl
    · refine ⟨fun _ => (8 - w) * 8, fun i hi => ⟨(show (8 - w) * 8 < 2 ^ 30 by omega), ?_⟩, ?_⟩
      · rw [show i = 0 by omega, g4, (ap_R1 w g1).2.2.1, (ap_R1 w g1).2.2.2, pk_mul]
      · rw [g3]
        show (if (8 - w) * 8 ≤ 0 then 0 else (8 - w) * 8) = _
        split <;> split <;> omega
    · refine ⟨fun _ => 8 * (8 - h), fun i hi => ⟨(show 8 * (8 - h) < 2 ^ 30 by omega), ?_⟩, ?_⟩
      · rw [show i = 0 by omega, g4, (ap_U1 h g2).2.2.1, (ap_U1 h g2).2.2.2, pk_mul]
      · rw [g3]
        show (if 8 * (8 - h) ≤ 0 then 0 else 8 * (8 - h)) = _
        split <;> split <;> omega
    · refine ⟨fun i => if i = 0 then (8 - w) * 8 else 8 * (8 - h), fun i hi => ?_, ?_⟩
      · by_cases z : i = 0
        · rw [z, g4, (ap_R1 w g1).2.2.1, (ap_R1 w g1).2.2.2, pk_mul]
          exact ⟨(show (8 - w) * 8 < 2 ^ 30 by omega), rfl⟩
        · rw [show i = 1 by omega, g5, (ap_U1 h g2).2.2.1, (ap_U1 h g2).2.2.2, pk_mul]
          exact ⟨(show 8 * (8 - h) < 2 ^ 30 by omega), rfl⟩
      · rw [g3]
        have q : (if (8 - w) * 8 ≤ 0 then 0 else (8 - w) * 8) = (8 - w) * 8 := by split <;> omega
        show (if 8 * (8 - h) ≤ (if (8 - w) * 8 ≤ 0 then 0 else (8 - w) * 8) then (if (8 - w) * 8 ≤ 0 then 0 else (8 - w) * 8) else 8 * (8 - h)) = _
        rw [q]
        split <;> split <;> omega
  unfold wL_lawOf_146
  refine nm_r hz (br_t rfl (nm_r e1 (nm_r e2 (ap_largest (by omega) hs ?_))))
  rw [hM]
  refine pk_le (8 * (8 - w)) (8 * (8 - h)) (fun z => ?_) (fun z => ?_)
  · rw [if_pos z]
    exact ap_200 w1 w2 h1 h2 g K hi
  · rw [if_neg (by omega)]
    exact ap_200 w1 w2 h1 h2 g K hi
theorem ap_92 (hm : kc + 10 ≤ mc) (hs : ks + 1424 ≤ ms) (w1 : 1 ≤ w) (w2 : w ≤ 8) (h1 : 1 ≤ h) (h2 : h ≤ 8) (hi : ap_in u v x9) : wL_lawOf_92 ap_P mc ms u v (nI w) (nI h) (nI (ap_f w h)) (nI (ap_x w)) (nI (ap_y w h)) x9 kc ks := by
  unfold wL_lawOf_92
  refine ⟨by omega, by omega, 9, 1410, by omega, by omega, ap_init (by omega) (by omega) (fun b3 b5 b6 g3 g6 => ?_)⟩
  refine ap_place1 w1 w2 h1 h2 g3 g6 (fun m b1 b2 b3 b4 b5 b6 b7 g K => br_t rfl ?_)
  refine pk_le 8 w (fun zw => ?_) (fun zw => ?_)
  · unfold wL_lawOf_134
    refine pk_le 8 h (fun zh => ap_146 w1 w2 h1 h2 g K hi ?_) (fun zh => ap_146 w1 w2 h1 h2 g K hi ?_)
    · rcases g with ⟨g1, g2, g3⟩ | ⟨g1, g2, g3, g4⟩ | ⟨g1, g2, g3, g4⟩ | ⟨g1, g2, g3, g4, g5⟩
      · subst g3; decide
      all_goals omega
    · rcases g with ⟨g1, g2, g3⟩ | ⟨g1, g2, g3, g4⟩ | ⟨g1, g2, g3, g4⟩ | ⟨g1, g2, g3, g4, g5⟩
      · omega
      · omega
      · subst g3; decide
      · omega
  · unfold wL_lawOf_134
    refine pk_le 8 h (fun zh => ap_146 w1 w2 h1 h2 g K hi ?_) (fun zh => ap_146 w1 w2 h1 h2 g K hi ?_)
    · rcases g with ⟨g1, g2, g3⟩ | ⟨g1, g2, g3, g4⟩ | ⟨g1, g2, g3, g4⟩ | ⟨g1, g2, g3, g4, g5⟩
      · omega
      · subst g3; decide
      · omega
      · omega
    · rcases g with ⟨g1, g2, g3⟩ | ⟨g1, g2, g3, g4⟩ | ⟨g1, g2, g3, g4⟩ | ⟨g1, g2, g3, g4, g5⟩
      · omega
      · omega
      · omega
      · subst g3; decide
theorem ap_65 (hm : kc + 10 ≤ mc) (hs : ks + 1424 ≤ ms) (w1 : 1 ≤ w) (w2 : w ≤ 8) (h1 : 1 ≤ h) (h2 : h ≤ 8) : wL_lawOf_65 ap_P mc ms u v (nI w) (nI h) (nI (ap_f w h)) (nI (ap_x w)) (nI (ap_y w h)) kc ks := by
  have no : (u < 0 ∨ 8 ≤ u ∨ v < 0 ∨ ¬ v < 8) → wL_lawOf_91 ap_P mc ms u v (nI w) (nI h) (nI (ap_f w h)) (nI (ap_x w)) (nI (ap_y w h)) kc ks := by
    intro t
    unfold wL_lawOf_91
    exact ap_92 hm hs w1 w2 h1 h2 (Or.inl ⟨rfl, t⟩)
  have nl : ∀ {t : Int32}, 8 ≤ t → ¬ t < 8 := by
    intro t a b
    rw [Int32.le_iff_toInt_le] at a
    rw [Int32.lt_iff_toInt_lt] at b
    omega
  unfold wL_lawOf_65
  refine br_c (fun t => no (Or.inl t)) (fun t1 => br_c (fun t => no (Or.inr (Or.inl t))) (fun t2 => br_c (fun t => no (Or.inr (Or.inr (Or.inl t)))) (fun t3 => br_c (fun t => no (Or.inr (Or.inr (Or.inr (nl t))))) (fun t4 => ap_92 hm hs w1 w2 h1 h2 (Or.inr ⟨rfl, ?_⟩)))))
  rcases pk_ix u (n := 8) (by omega) with e | e | ⟨x, hx, ex⟩
  · exact absurd e t1
  · exact absurd e t2
  · rcases pk_ix v (n := 8) (by omega) with e | e | ⟨y, hy, ey⟩
    · exact absurd e t3
    · exact absurd e t4
    · exact ⟨x, y, hx, hy, ex, ey⟩
theorem ap_35 (hm : kc + 10 ≤ mc) (hs : ks + 1424 ≤ ms) (w1 : 1 ≤ w) (w2 : w ≤ 8) (h1 : 1 ≤ h) (h2 : h ≤ 8) : wL_lawOf_35 ap_P mc ms u v (nI w) (nI h) (nI (ap_f w h)) kc ks := by
  have q := ap_65 (u := u) (v := v) hm hs w1 w2 h1 h2
  unfold wL_lawOf_35 wL_lawOf_50
  refine pk_le 8 w (fun z => pk_le 8 w (fun _ => ?_) (fun z' => absurd z' (by omega))) (fun z => pk_le 8 w (fun z' => absurd z' (by omega)) (fun _ => ?_))
  · have ex : ap_x w = 0 := if_neg (by omega)
    have ey : ap_y w h = h := if_neg (by omega)
    rw [ex, ey] at q
    exact q
  · have ex : ap_x w = w := if_pos z
    have ey : ap_y w h = 0 := if_pos z
    rw [ex, ey] at q
    exact q
theorem ap_lawOf {p0 p1 : Int32} : wpL_lawOf ap_P 694 11088 () p0 p1 u v := by
  obtain ⟨i, hi, ei⟩ := pk_andE p0 (m := 7) 3 (by decide)
  obtain ⟨j, hj, ej⟩ := pk_andE p1 (m := 7) 3 (by decide)
  have q := ap_35 (u := u) (v := v) (w := 1 + i) (h := 1 + j) (mc := 694) (ms := 11088) (kc := 0) (ks := 0) (by omega) (by omega) (by omega) (by omega) (by omega) (by omega)
  have ew : 1 + (p0 &&& 7) = nI (1 + i) := by
    rw [ei]
    exact nI_add 1 i
  have eh : 1 + (p1 &&& 7) = nI (1 + j) := by
    rw [ej]
    exact nI_add 1 j
  unfold wpL_lawOf
  refine nm_r ew (nm_r eh ?_)
  have no : ¬ (1 + i = 8 ∧ 1 + j = 8) → wL_lawOf_34 ap_P 694 11088 u v (nI (1 + i)) (nI (1 + j)) 0 0 := by
    intro n
    have ef : ap_f (1 + i) (1 + j) = 0 := if_neg n
    rw [ef] at q
    unfold wL_lawOf_34
    exact q
  refine pk_eq (1 + i) 8 (fun z => pk_eq (1 + j) 8 (fun z' => ?_) (fun z' => no (fun t => z' t.2))) (fun z => no (fun t => z t.1))
  have ef : ap_f (1 + i) (1 + j) = 1 := if_pos ⟨z, z'⟩
  rw [ef] at q
  exact q
theorem ap_cell {post : Int32 → Prop} {L p : Nat} {xs : Nat → Int32} (hL : L ≤ 4) (hp : p < 4) (H : ∀ r, post r) : wpL_cellAt post L xs () (nI p) :=
  pk_le L p (fun _ => H _) (fun z => ⟨pk_in p L z, H _⟩)
end
theorem i_vc (xs : Nat → Int32) (L : Nat) (hL : L ≤ 4) : wpL_law (fun r => r = 1) L xs := by
  unfold wpL_law
  exact ap_cell (p := 0) hL (by omega) (fun r1 => ap_cell (p := 1) hL (by omega) (fun r2 => ap_cell (p := 2) hL (by omega) (fun r3 => ap_cell (p := 3) hL (by omega) (fun r4 => ⟨694, 11088, by omega, by omega, ap_lawOf⟩))))
end
