section
section
variable {g sz fo fs sc bc ac : Int32} {a1 a2 a3 a4 a5 a6 a7 a8 a9 a10 a11 a12 : Nat → Int32}
/-- what offer makes of score, bestCount, allCount -/
def rf_of (s b c v x y : Int32) : Int32 × Int32 × Int32 :=
  if x = 0 then (s, b, c + y) else if b = 0 then (v, x, c + y) else if v ≤ s then (if v = s then (s, b + x, c + y) else (s, b, c + y)) else (v, x, c + y)
theorem rf_offer {post : St2 → Prop} {v x y s' b' c' : Int32} (h : rf_of sc bc ac v x y = (s', b', c')) (H : post (g, sz, fo, fs, s', b', c', a1, a2, a3, a4, a5, a6, a7, a8, a9, a10, a11, a12)) : wpX_offer post (g, sz, fo, fs, sc, bc, ac, a1, a2, a3, a4, a5, a6, a7, a8, a9, a10, a11, a12) v x y := by
  unfold wpX_offer
  refine nm_e ?_
  unfold rf_of at h
  refine br_c (fun h0 => ?_) (fun h0 => br_c (fun h1 => ?_) (fun h1 => br_c (fun h2 => br_c (fun h3 => nm_e ?_) (fun h3 => ?_)) (fun h2 => ?_)))
  · rw [if_pos h0] at h
    cases h
    exact H
  · rw [if_neg h0, if_pos h1] at h
    cases h
    exact H
  · rw [if_neg h0, if_neg h1, if_pos h2, if_pos h3] at h
    cases h
    exact H
  · rw [if_neg h0, if_neg h1, if_pos h2, if_neg h3] at h
    cases h
    exact H
  · rw [if_neg h0, if_neg h1, if_neg h2] at h
    cases h
    exact H
theorem rf_mbf {post : Int32 → Prop} {p : Int32} (m : Nat) (hm : m < 11) (hp : p = nI m) (h0 : 1 < a3 m → post 0) (h1 : ¬ 1 < a3 m → post 1) : wpX_mayBeFree post (g, sz, fo, fs, sc, bc, ac, a1, a2, a3, a4, a5, a6, a7, a8, a9, a10, a11, a12) p := by
  subst hp
  unfold wpX_mayBeFree
  refine ⟨pk_in m 11 hm, ?_⟩
  rw [nI_clamp (show m < 2 ^ 31 by omega)]
  exact br_c h0 h1
theorem rf_191 {post : St2 → Prop} {i j l : Int32} (k : Nat) (hk : ((144 * l) + (12 * i)) + j = nI k) (hk' : k < 432) (H : post (g, sz, fo, fs, sc, bc, ac, a1, a2, a3, a4, a5, a6, a7, upd a8 k sc, upd a9 k bc, upd a10 k ac, a11, a12)) : wX_solveAny_191 post i j l g sz fo fs sc bc ac a1 a2 a3 a4 a5 a6 a7 a8 a9 a10 a11 a12 := by
  unfold wX_solveAny_191
  refine nm_r hk ?_
  rw [nI_clamp (show k < 2 ^ 31 by omega)]
  exact ⟨pk_in k 432 hk', nm_e ⟨pk_in k 432 hk', nm_e ⟨pk_in k 432 hk', nm_e H⟩⟩⟩
/-- solveAny on an empty stretch, least = 0 -/
theorem rf_anyE0 {post : St2 → Prop} {i j l : Int32} (k : Nat) (hij : i = j) (hl : l = 0) (hk : ((144 * l) + (12 * i)) + j = nI k) (hk' : k < 432) (H : post (g, sz, fo, fs, 0, 1, 1, a1, a2, a3, a4, a5, a6, a7, upd a8 k 0, upd a9 k 1, upd a10 k 1, a11, a12)) : wpX_solveAny post (g, sz, fo, fs, sc, bc, ac, a1, a2, a3, a4, a5, a6, a7, a8, a9, a10, a11, a12) i j l := by
  unfold wpX_solveAny wpX_clear
  dsimp only
  refine br_t hij (br_t hl ?_)
  unfold wX_solveAny_18
  exact rf_offer (s' := 0) (b' := 1) (c' := 1) (by decide) (rf_191 k hk hk' H)
/-- solveAny on an empty stretch, least > 0 -/
theorem rf_anyE1 {post : St2 → Prop} {i j l : Int32} (k : Nat) (hij : i = j) (hl : ¬ l = 0) (hk : ((144 * l) + (12 * i)) + j = nI k) (hk' : k < 432) (H : post (g, sz, fo, fs, -1000, 0, 0, a1, a2, a3, a4, a5, a6, a7, upd a8 k (-1000), upd a9 k 0, upd a10 k 0, a11, a12)) : wpX_solveAny post (g, sz, fo, fs, sc, bc, ac, a1, a2, a3, a4, a5, a6, a7, a8, a9, a10, a11, a12) i j l := by
  unfold wpX_solveAny wpX_clear
  dsimp only
  refine br_t hij (br_f hl ?_)
  unfold wX_solveAny_18
  exact rf_offer (s' := -1000) (b' := 0) (c' := 0) (by decide) (rf_191 k hk hk' H)
/-- solveAny behind the first place: no partner -/
theorem rf_81a {post : St2 → Prop} {i j l : Int32} (k : Nat) (hj : j ≤ i + 1) (hk : ((144 * l) + (12 * i)) + j = nI k) (hk' : k < 432) (H : post (g, sz, fo, fs, sc, bc, ac, a1, a2, a3, a4, a5, a6, a7, upd a8 k sc, upd a9 k bc, upd a10 k ac, a11, a12)) : wX_solveAny_81 post i j l g sz fo fs sc bc ac a1 a2 a3 a4 a5 a6 a7 a8 a9 a10 a11 a12 := by
  have key : ∀ q, ∃ n, wX_solveAny_99 post i j l q n (i + 1) g sz fo fs sc bc ac a1 a2 a3 a4 a5 a6 a7 a8 a9 a10 a11 a12 := fun q => ⟨1, br_t hj (rf_191 k hk hk' H)⟩
  unfold wX_solveAny_81
  exact br_c (fun _ => nm_e (key 0)) (fun _ => nm_e (nm_e (key _)))
/-- the same with one partner -/
theorem rf_81b {post : St2 → Prop} {i j l q s' b' c' : Int32} (k f y : Nat) (hq : (l ≤ 0 ∧ q = 0) ∨ (¬ l ≤ 0 ∧ q = l - 1)) (hj1 : ¬ j ≤ i + 1) (hj2 : j ≤ i + 1 + 1) (hk : ((144 * l) + (12 * i)) + j = nI k) (hk' : k < 432) (hf : (12 * i) + (i + 1) = nI f) (hf' : f < 144) (hy : ((144 * q) + (12 * ((i + 1) + 1))) + j = nI y) (hy' : y < 432)
    (h : rf_of sc bc ac (a5 f + a8 y) (a6 f * a9 y) (a7 f * a10 y) = (s', b', c')) (H : post (g, sz, fo, fs, s', b', c', a1, a2, a3, a4, a5, a6, a7, upd a8 k s', upd a9 k b', upd a10 k c', a11, a12)) : wX_solveAny_81 post i j l g sz fo fs sc bc ac a1 a2 a3 a4 a5 a6 a7 a8 a9 a10 a11 a12 := by
  have key : ∃ n, wX_solveAny_99 post i j l q n (i + 1) g sz fo fs sc bc ac a1 a2 a3 a4 a5 a6 a7 a8 a9 a10 a11 a12 := by
    refine ⟨2, br_f hj1 (nm_r hf (nm_r hy ?_))⟩
    rw [nI_clamp (show f < 2 ^ 31 by omega), nI_clamp (show y < 2 ^ 31 by omega)]
    refine ⟨pk_in f 144 hf', pk_in y 432 hy', nm_e ⟨pk_in f 144 hf', pk_in y 432 hy', pk_in f 144 hf', pk_in y 432 hy', ?_⟩⟩
    exact rf_offer h (nm_e (br_t hj2 (rf_191 k hk hk' H)))
  unfold wX_solveAny_81
  rcases hq with ⟨h1, e⟩ | ⟨h1, e⟩
  · subst e
    exact br_t h1 (nm_e key)
  · subst e
    exact br_f h1 (nm_e (nm_e key))
/-- the first place free, or not -/
def rf_fr (a v x y : Int32) : Int32 × Int32 × Int32 := if 1 < a then (-1000, 0, 0) else rf_of (-1000) 0 0 v x y
theorem rf_anyN {post : St2 → Prop} {i j l s b c : Int32} (m x : Nat) (hij : ¬ i = j) (hm : m < 11) (hi : i = nI m) (hx : ((144 * l) + (12 * (i + 1))) + j = nI x) (hx' : x < 432)
    (h : rf_fr (a3 m) (a8 x) (a9 x) (a10 x) = (s, b, c)) (H : wX_solveAny_81 post i j l g sz fo fs s b c a1 a2 a3 a4 a5 a6 a7 a8 a9 a10 a11 a12) : wpX_solveAny post (g, sz, fo, fs, sc, bc, ac, a1, a2, a3, a4, a5, a6, a7, a8, a9, a10, a11, a12) i j l := by
  unfold wpX_solveAny wpX_clear
  dsimp only
  unfold rf_fr at h
  refine br_f hij (rf_mbf m hm hi (fun h1 => br_t rfl ?_) (fun h1 => br_f (by decide) (nm_r hx ?_)))
  · rw [if_pos h1] at h
    cases h
    exact H
  · rw [if_neg h1] at h
    rw [nI_clamp (show x < 2 ^ 31 by omega)]
    exact ⟨pk_in x 432 hx', pk_in x 432 hx', pk_in x 432 hx', rf_offer h H⟩
/-- solveAny on one place -/
theorem rf_any1 {post : St2 → Prop} {i j l : Int32} (m x k : Nat) (hij : ¬ i = j) (hj : j ≤ i + 1) (hm : m < 11) (hi : i = nI m) (hx : ((144 * l) + (12 * (i + 1))) + j = nI x) (hx' : x < 432) (hk : ((144 * l) + (12 * i)) + j = nI k) (hk' : k < 432)
    (H : ∀ s b c, rf_fr (a3 m) (a8 x) (a9 x) (a10 x) = (s, b, c) → post (g, sz, fo, fs, s, b, c, a1, a2, a3, a4, a5, a6, a7, upd a8 k s, upd a9 k b, upd a10 k c, a11, a12)) : wpX_solveAny post (g, sz, fo, fs, sc, bc, ac, a1, a2, a3, a4, a5, a6, a7, a8, a9, a10, a11, a12) i j l := by
  rcases hh : rf_fr (a3 m) (a8 x) (a9 x) (a10 x) with ⟨s, b, c⟩
  exact rf_anyN m x hij hm hi hx hx' hh (rf_81a k hj hk hk' (H s b c hh))
/-- solveAny on two places -/
theorem rf_any2 {post : St2 → Prop} {i j l : Int32} (q : Int32) (m x k f y : Nat) (hq : (l ≤ 0 ∧ q = 0) ∨ (¬ l ≤ 0 ∧ q = l - 1)) (hij : ¬ i = j) (hj1 : ¬ j ≤ i + 1) (hj2 : j ≤ i + 1 + 1) (hm : m < 11) (hi : i = nI m) (hx : ((144 * l) + (12 * (i + 1))) + j = nI x) (hx' : x < 432) (hk : ((144 * l) + (12 * i)) + j = nI k) (hk' : k < 432)
    (hf : (12 * i) + (i + 1) = nI f) (hf' : f < 144) (hy : ((144 * q) + (12 * ((i + 1) + 1))) + j = nI y) (hy' : y < 432)
    (H : ∀ s b c s' b' c', rf_fr (a3 m) (a8 x) (a9 x) (a10 x) = (s, b, c) → rf_of s b c (a5 f + a8 y) (a6 f * a9 y) (a7 f * a10 y) = (s', b', c') → post (g, sz, fo, fs, s', b', c', a1, a2, a3, a4, a5, a6, a7, upd a8 k s', upd a9 k b', upd a10 k c', a11, a12)) : wpX_solveAny post (g, sz, fo, fs, sc, bc, ac, a1, a2, a3, a4, a5, a6, a7, a8, a9, a10, a11, a12) i j l := by
  rcases hh : rf_fr (a3 m) (a8 x) (a9 x) (a10 x) with ⟨s, b, c⟩
  rcases hg : rf_of s b c (a5 f + a8 y) (a6 f * a9 y) (a7 f * a10 y) with ⟨s', b', c'⟩
  exact rf_anyN m x hij hm hi hx hx' hh (rf_81b k f y hq hj1 hj2 hk hk' hf hf' hy hy' hg (H s b c s' b' c' hh hg))
/-! the pair -/
theorem rf_148 {post : St2 → Prop} {i j : Int32} (k : Nat) (hk : (12 * i) + j = nI k) (hk' : k < 144) (H : post (g, sz, fo, fs, sc, bc, ac, a1, a2, a3, a4, upd a5 k sc, upd a6 k bc, upd a7 k ac, a8, a9, a10, a11, a12)) : wX_solvePair_148 post i j g sz fo fs sc bc ac a1 a2 a3 a4 a5 a6 a7 a8 a9 a10 a11 a12 := by
  unfold wX_solvePair_148
  rw [hk, nI_clamp (show k < 2 ^ 31 by omega)]
  exact ⟨pk_in k 144 hk', nm_e ⟨pk_in k 144 hk', nm_e ⟨pk_in k 144 hk', nm_e H⟩⟩⟩
theorem rf_pairE {post : St2 → Prop} {i j : Int32} (k : Nat) (hij : j ≤ i) (hk : (12 * i) + j = nI k) (hk' : k < 144) (H : post (g, sz, fo, fs, -1000, 0, 0, a1, a2, a3, a4, upd a5 k (-1000), upd a6 k 0, upd a7 k 0, a8, a9, a10, a11, a12)) : wpX_solvePair post (g, sz, fo, fs, sc, bc, ac, a1, a2, a3, a4, a5, a6, a7, a8, a9, a10, a11, a12) i j := by
  unfold wpX_solvePair wpX_clear
  dsimp only
  exact br_t hij (rf_148 k hk hk' H)
/-- the kind of a pair of bases -/
def rf_k2 (lo hi : Int32) : Int32 := if lo = 0 ∧ hi = 3 then 0 else if lo = 1 ∧ hi = 2 then 1 else if lo = 2 ∧ hi = 3 then 2 else -1
def rf_k (p q : Int32) : Int32 := if q ≤ p then rf_k2 q p else rf_k2 p q
theorem rf_k21 {post : Int32 → Prop} {lo hi : Int32} (H : post (rf_k2 lo hi)) : wX_kindOf_21 post lo hi := by
  have e3 : ¬ (lo = 0 ∧ hi = 3) → ¬ (lo = 1 ∧ hi = 2) → wX_kindOf_45 post lo hi := by
    intro n1 n2
    unfold rf_k2 at H
    rw [if_neg n1, if_neg n2] at H
    refine br_c (fun h1 => br_c (fun h2 => ?_) (fun h2 => ?_)) (fun h1 => ?_)
    · rw [if_pos ⟨h1, h2⟩] at H
      exact H
    · rw [if_neg (fun z => h2 z.2)] at H
      exact H
    · rw [if_neg (fun z => h1 z.1)] at H
      exact H
  have e2 : ¬ (lo = 0 ∧ hi = 3) → wX_kindOf_33 post lo hi := by
    intro n1
    refine br_c (fun h1 => br_c (fun h2 => ?_) (fun h2 => e3 n1 (fun z => h2 z.2))) (fun h1 => e3 n1 (fun z => h1 z.1))
    unfold rf_k2 at H
    rw [if_neg n1, if_pos ⟨h1, h2⟩] at H
    exact H
  refine br_c (fun h1 => br_c (fun h2 => ?_) (fun h2 => e2 (fun z => h2 z.2))) (fun h1 => e2 (fun z => h1 z.1))
  unfold rf_k2 at H
  rw [if_pos ⟨h1, h2⟩] at H
  exact H
theorem rf_kindOf {post : Int32 → Prop} {u : St0} {p q : Int32} (H : post (rf_k p q)) : wpX_kindOf post u p q := by
  unfold rf_k at H
  refine br_c (fun h => br_t h (rf_k21 ?_)) (fun h => br_f h (rf_k21 ?_))
  · rw [if_pos h] at H
    exact H
  · rw [if_neg h] at H
    exact H
theorem rf_k_in (p q : Int32) : rf_k p q = 0 ∨ rf_k p q = 1 ∨ rf_k p q = 2 ∨ rf_k p q = -1 := by
  unfold rf_k rf_k2
  repeat' split
  all_goals simp
/-- a pair of the places 0 and 1 is allowed -/
abbrev rf_c (g h k : Int32) : Prop := (h = 0 ∨ h = 2) ∧ ¬ 1 ≤ g ∧ ¬ k < 0
theorem rf_c0 : (0 : Int32).toNatClampNeg = 0 := by decide
theorem rf_c1 : (1 : Int32).toNatClampNeg = 1 := by decide
theorem rf_doFit {post : Int32 → Prop} (H1 : ¬ 1 ≤ g → ¬ rf_k (a1 0) (a1 1) < 0 → post 1) (H0 : (1 ≤ g ∨ rf_k (a1 0) (a1 1) < 0) → post 0) : wpX_doFit post (g, sz, fo, fs, sc, bc, ac, a1, a2, a3, a4, a5, a6, a7, a8, a9, a10, a11, a12) 0 1 := by
  unfold wpX_doFit
  have e : (1 : Int32) - 0 = 1 := by decide
  rw [e, rf_c0, rf_c1]
  exact br_c (fun h => H0 (Or.inl h)) (fun h => ⟨pk_in 0 11 (by decide), pk_in 1 11 (by decide), rf_kindOf (br_c (fun h2 => H0 (Or.inr h2)) (fun h2 => H1 h h2))⟩)
theorem rf_mp {post : Int32 → Prop} (hfo : fo < 0) (h1 : a3 1 = 0) (H1 : rf_c g (a3 0) (rf_k (a1 0) (a1 1)) → post 1) (H0 : ¬ rf_c g (a3 0) (rf_k (a1 0) (a1 1)) → post 0) : wpX_mayPair post (g, sz, fo, fs, sc, bc, ac, a1, a2, a3, a4, a5, a6, a7, a8, a9, a10, a11, a12) 0 1 := by
  have key : ∀ z : Int32, (z = 0 → post 0) → (¬ z = 0 → (a3 0 = 0 ∨ a3 0 = 2)) → wX_mayPair_24 post 0 1 z g sz fo fs sc bc ac a1 a2 a3 a4 a5 a6 a7 a8 a9 a10 a11 a12 := by
    intro z z0 z1
    unfold wX_mayPair_24
    rw [rf_c1]
    refine ⟨pk_in 1 11 (by decide), br_t h1 ?_⟩
    unfold wX_mayPair_44 wX_mayPair_49
    refine br_t hfo ?_
    unfold wX_mayPair_87 wX_mayPair_92
    refine br_c z0 (fun hz => br_f (by decide) (br_f (by decide) (rf_doFit (fun k1 k2 => br_f (by decide) (H1 ⟨z1 hz, k1, k2⟩)) (fun k => br_t rfl (H0 (fun t => ?_))))))
    rcases k with k | k
    · exact t.2.1 k
    · exact t.2.2 k
  unfold wpX_mayPair
  rw [rf_c0]
  refine ⟨pk_in 0 11 (by decide), br_c (fun h => key 1 (fun z => absurd z (by decide)) (fun _ => Or.inl h)) (fun h => ⟨pk_in 0 11 (by decide), br_c (fun h' => key 1 (fun z => absurd z (by decide)) (fun _ => Or.inr h')) (fun h' => key 0 (fun _ => H0 (fun t => ?_)) (fun z => absurd rfl z))⟩)⟩
  rcases t.1 with k | k
  · exact h k
  · exact h' k
/-- what solvePair(0, 1) makes -/
def rf_pr (g h k : Int32) (T : Nat → Int32) : Int32 × Int32 × Int32 := if rf_c g h k then (T k.toNatClampNeg, 1, 1) else (-1000, 0, 0)
theorem rf_of_a (v : Int32) : rf_of (-1000) 0 0 v 1 1 = (v, 1, 1) := by
  unfold rf_of
  rw [if_neg (by decide), if_pos rfl]
  rfl
theorem rf_of_b (v w : Int32) : rf_of v 1 1 w 0 0 = (v, 1, 1) := by
  unfold rf_of
  rw [if_pos rfl]
  rfl
theorem rf_pair01 {post : St2 → Prop} (hfo : fo < 0) (h1 : a3 1 = 0) (h9 : a9 301 = 0) (h10 : a10 301 = 0)
    (H : ∀ s b c, rf_pr g (a3 0) (rf_k (a1 0) (a1 1)) a4 = (s, b, c) → post (g, sz, fo, fs, s, b, c, a1, a2, a3, a4, upd a5 1 s, upd a6 1 b, upd a7 1 c, a8, a9, a10, a11, a12)) : wpX_solvePair post (g, sz, fo, fs, sc, bc, ac, a1, a2, a3, a4, a5, a6, a7, a8, a9, a10, a11, a12) 0 1 := by
  unfold wpX_solvePair wpX_clear
  dsimp only
  refine br_f (by decide) (rf_mp hfo h1 (fun hc => br_f (by decide) ⟨pk_in 0 11 (by decide), pk_in 1 11 (by decide), ?_⟩) (fun hc => br_t rfl (rf_148 1 (by decide) (by decide) (H _ _ _ ?_))))
  · rw [rf_c0, rf_c1]
    refine rf_kindOf ⟨?_, nm_e ⟨1, br_t (by decide) (br_f (by decide) ?_)⟩⟩
    · rcases rf_k_in (a1 0) (a1 1) with e | e | e | e
      · rw [e]
        exact pk_in 0 6 (by decide)
      · rw [e]
        exact pk_in 1 6 (by decide)
      · rw [e]
        exact pk_in 2 6 (by decide)
      · exact absurd (by rw [e]; decide) hc.2.2
    · unfold wX_solvePair_61
      refine br_f (by decide) ?_
      unfold wX_solvePair_71
      refine rf_offer (rf_of_a _) (nm_e ⟨1, br_t (by decide) (nm_r (e' := nI 301) (by decide) ?_)⟩)
      rw [nI_clamp (show 301 < 2 ^ 31 by decide), h9, h10]
      refine ⟨pk_in 301 432 (by decide), pk_in 301 432 (by decide), pk_in 301 432 (by decide), rf_offer (rf_of_b _ _) (rf_148 1 (by decide) (by decide) (H _ _ _ ?_))⟩
      unfold rf_pr
      rw [if_pos hc]
  · unfold rf_pr
    rw [if_neg hc]
end
end
section
section
variable {g sz fo fs sc bc ac : Int32} {a1 a2 a3 a4 a5 a6 a7 a8 a9 a10 a11 a12 : Nat → Int32}
/-- the loop over least, width 0 -/
theorem rf_38_0 {post : St2 → Prop} {J2 J12 : (Int32 → Int32 → Int32 → Int32 → Int32 → Int32 → Int32 → Int32 → (Nat → Int32) → (Nat → Int32) → (Nat → Int32) → (Nat → Int32) → (Nat → Int32) → (Nat → Int32) → (Nat → Int32) → (Nat → Int32) → (Nat → Int32) → (Nat → Int32) → (Nat → Int32) → (Nat → Int32) → Prop)} {i : Int32} (k0 k1 k2 : Nat) (i' : Int32) (h0 : ((144 * 0) + (12 * i)) + (i + 0) = nI k0) (h1 : ((144 * 1) + (12 * i)) + (i + 0) = nI k1) (h2 : ((144 * 2) + (12 * i)) + (i + 0) = nI k2) (hk : k0 < 432 ∧ k1 < 432 ∧ k2 < 432) (hi : i + 1 = i')
    (H : J12 i' g sz fo fs (-1000) 0 0 a1 a2 a3 a4 a5 a6 a7 (upd (upd (upd a8 k0 0) k1 (-1000)) k2 (-1000)) (upd (upd (upd a9 k0 1) k1 0) k2 0) (upd (upd (upd a10 k0 1) k1 0) k2 0) a11 a12) : ∃ n, wX_solve_38 post J2 J12 0 i n 0 g sz fo fs sc bc ac a1 a2 a3 a4 a5 a6 a7 a8 a9 a10 a11 a12 := by
  have e : i = i + 0 := by simp
  refine ⟨4, br_f (by decide) (rf_anyE0 k0 e rfl h0 hk.1 (nm_r (e' := 1) (by decide) ?_))⟩
  refine br_f (by decide) (rf_anyE1 k1 e (by decide) h1 hk.2.1 (nm_r (e' := 2) (by decide) ?_))
  refine br_f (by decide) (rf_anyE1 k2 e (by decide) h2 hk.2.2 (nm_r (e' := 3) (by decide) ?_))
  exact br_t (by decide) (nm_r hi H)
/-- the loop over least, width 1 -/
theorem rf_38_1 {post : St2 → Prop} {J2 J12 : (Int32 → Int32 → Int32 → Int32 → Int32 → Int32 → Int32 → Int32 → (Nat → Int32) → (Nat → Int32) → (Nat → Int32) → (Nat → Int32) → (Nat → Int32) → (Nat → Int32) → (Nat → Int32) → (Nat → Int32) → (Nat → Int32) → (Nat → Int32) → (Nat → Int32) → (Nat → Int32) → Prop)} {i : Int32} (m x0 k0 x1 k1 x2 k2 : Nat) (i' : Int32) (hm : m < 11) (hi : i = nI m) (hn : ¬ i = i + 1)
    (hx0 : ((144 * 0) + (12 * (i + 1))) + (i + 1) = nI x0) (hk0 : ((144 * 0) + (12 * i)) + (i + 1) = nI k0) (hx1 : ((144 * 1) + (12 * (i + 1))) + (i + 1) = nI x1) (hk1 : ((144 * 1) + (12 * i)) + (i + 1) = nI k1) (hx2 : ((144 * 2) + (12 * (i + 1))) + (i + 1) = nI x2) (hk2 : ((144 * 2) + (12 * i)) + (i + 1) = nI k2)
    (hb : (x0 < 432 ∧ k0 < 432) ∧ (x1 < 432 ∧ k1 < 432) ∧ (x2 < 432 ∧ k2 < 432)) (hi' : i + 1 = i')
    (H : ∀ s0 b0 c0 s1 b1 c1 s2 b2 c2, rf_fr (a3 m) (a8 x0) (a9 x0) (a10 x0) = (s0, b0, c0) → J12 i' g sz fo fs s2 b2 c2 a1 a2 a3 a4 a5 a6 a7 (upd (upd (upd a8 k0 s0) k1 s1) k2 s2) (upd (upd (upd a9 k0 b0) k1 b1) k2 b2) (upd (upd (upd a10 k0 c0) k1 c1) k2 c2) a11 a12) : ∃ n, wX_solve_38 post J2 J12 1 i n 0 g sz fo fs sc bc ac a1 a2 a3 a4 a5 a6 a7 a8 a9 a10 a11 a12 := by
  have e : i + 1 ≤ i + 1 := Int32.le_refl _
  refine ⟨4, br_f (by decide) (rf_any1 m x0 k0 hn e hm hi hx0 hb.1.1 hk0 hb.1.2 (fun s0 b0 c0 e0 => nm_r (e' := 1) (by decide) ?_))⟩
  refine br_f (by decide) (rf_any1 m x1 k1 hn e hm hi hx1 hb.2.1.1 hk1 hb.2.1.2 (fun s1 b1 c1 _ => nm_r (e' := 2) (by decide) ?_))
  refine br_f (by decide) (rf_any1 m x2 k2 hn e hm hi hx2 hb.2.2.1 hk2 hb.2.2.2 (fun s2 b2 c2 _ => nm_r (e' := 3) (by decide) ?_))
  exact br_t (by decide) (nm_r hi' (H s0 b0 c0 s1 b1 c1 s2 b2 c2 e0))
/-- the loop over least, width 2, at place 0 -/
theorem rf_38_2 {post : St2 → Prop} {J2 J12 : (Int32 → Int32 → Int32 → Int32 → Int32 → Int32 → Int32 → Int32 → (Nat → Int32) → (Nat → Int32) → (Nat → Int32) → (Nat → Int32) → (Nat → Int32) → (Nat → Int32) → (Nat → Int32) → (Nat → Int32) → (Nat → Int32) → (Nat → Int32) → (Nat → Int32) → (Nat → Int32) → Prop)}
    (H : ∀ s b c s0 b0 c0 s1 b1 c1 s2 b2 c2, rf_fr (a3 0) (a8 14) (a9 14) (a10 14) = (s, b, c) → rf_of s b c (a5 1 + a8 26) (a6 1 * a9 26) (a7 1 * a10 26) = (s0, b0, c0) → J12 1 g sz fo fs s2 b2 c2 a1 a2 a3 a4 a5 a6 a7 (upd (upd (upd a8 2 s0) 146 s1) 290 s2) (upd (upd (upd a9 2 b0) 146 b1) 290 b2) (upd (upd (upd a10 2 c0) 146 c1) 290 c2) a11 a12) : ∃ n, wX_solve_38 post J2 J12 2 0 n 0 g sz fo fs sc bc ac a1 a2 a3 a4 a5 a6 a7 a8 a9 a10 a11 a12 := by
  refine ⟨4, br_f (by decide) (rf_any2 0 0 14 2 1 26 (Or.inl ⟨by decide, rfl⟩) (by decide) (by decide) (by decide) (by decide) rfl (by decide) (by decide) (by decide) (by decide) (by decide) (by decide) (by decide) (by decide) (fun s b c s0 b0 c0 e e0 => nm_r (e' := 1) (by decide) ?_))⟩
  refine br_f (by decide) (rf_any2 0 0 158 146 1 26 (Or.inr ⟨by decide, by decide⟩) (by decide) (by decide) (by decide) (by decide) rfl (by decide) (by decide) (by decide) (by decide) (by decide) (by decide) (by decide) (by decide) (fun _ _ _ s1 b1 c1 _ _ => nm_r (e' := 2) (by decide) ?_))
  refine br_f (by decide) (rf_any2 1 0 302 290 1 170 (Or.inr ⟨by decide, by decide⟩) (by decide) (by decide) (by decide) (by decide) rfl (by decide) (by decide) (by decide) (by decide) (by decide) (by decide) (by decide) (by decide) (fun _ _ _ s2 b2 c2 _ _ => nm_r (e' := 3) (by decide) ?_))
  exact br_t (by decide) (nm_r (e' := 1) (by decide) (H s b c s0 b0 c0 s1 b1 c1 s2 b2 c2 e e0))
theorem rf_solve0 {post : St2 → Prop} (H : ∀ s b c A8 A9 A10, A8 0 = 0 → A10 0 = 1 → post (g, 0, fo, fs, s, b, c, a1, a2, a3, a4, a5, a6, a7, A8, A9, A10, a11, a12)) : wpX_solve post (g, 0, fo, fs, sc, bc, ac, a1, a2, a3, a4, a5, a6, a7, a8, a9, a10, a11, a12) := by
  unfold wpX_solve
  refine ⟨2, br_f (by decide) ⟨2, br_f (by decide) (br_t (by decide) (rf_38_0 0 144 288 1 (by decide) (by decide) (by decide) (by decide) (by decide) ?_))⟩⟩
  exact br_t (by decide) (nm_r (e' := 1) (by decide) (br_t (by decide) (H _ _ _ _ _ _ rfl rfl)))
theorem rf_solve1 {post : St2 → Prop} (H : ∀ s b c A5 A6 A7 A8 A9 A10, A8 1 = (rf_fr (a3 0) 0 1 1).1 → A10 1 = (rf_fr (a3 0) 0 1 1).2.2 → post (g, 1, fo, fs, s, b, c, a1, a2, a3, a4, A5, A6, A7, A8, A9, A10, a11, a12)) : wpX_solve post (g, 1, fo, fs, sc, bc, ac, a1, a2, a3, a4, a5, a6, a7, a8, a9, a10, a11, a12) := by
  unfold wpX_solve
  refine ⟨3, br_f (by decide) ⟨3, br_f (by decide) (br_t (by decide) (rf_38_0 0 144 288 1 (by decide) (by decide) (by decide) (by decide) (by decide) ?_))⟩⟩
  refine br_f (by decide) (br_t (by decide) (rf_38_0 13 157 301 2 (by decide) (by decide) (by decide) (by decide) (by decide) ?_))
  refine br_t (by decide) (nm_r (e' := 1) (by decide) ?_)
  refine br_f (by decide) ⟨2, br_f (by decide) (br_f (by decide) (rf_pairE 0 (by decide) (by decide) (by decide) ?_))⟩
  refine rf_38_1 0 13 1 157 145 301 289 1 (by decide) rfl (by decide) (by decide) (by decide) (by decide) (by decide) (by decide) (by decide) (by decide) (by decide) (fun s0 b0 c0 s1 b1 c1 s2 b2 c2 e => ?_)
  have e' : rf_fr (a3 0) 0 1 1 = (s0, b0, c0) := e
  refine br_t (by decide) (nm_r (e' := 2) (by decide) (br_t (by decide) (H _ _ _ _ _ _ _ _ _ ?_ ?_)))
  · rw [e']
    rfl
  · rw [e']
    rfl
/-- what any[2] holds for two places -/
def rf_R2 (g h k : Int32) (T : Nat → Int32) : Int32 × Int32 × Int32 :=
  rf_of (rf_fr h 0 1 1).1 (rf_fr h 0 1 1).2.1 (rf_fr h 0 1 1).2.2 ((rf_pr g h k T).1 + 0) ((rf_pr g h k T).2.1 * 1) ((rf_pr g h k T).2.2 * 1)
theorem rf_pair01' {post : St2 → Prop} {p q : Int32} (hp : p = 0) (hq : q = 1) (hfo : fo < 0) (h1 : a3 1 = 0) (h9 : a9 301 = 0) (h10 : a10 301 = 0)
    (H : ∀ s b c, rf_pr g (a3 0) (rf_k (a1 0) (a1 1)) a4 = (s, b, c) → post (g, sz, fo, fs, s, b, c, a1, a2, a3, a4, upd a5 1 s, upd a6 1 b, upd a7 1 c, a8, a9, a10, a11, a12)) : wpX_solvePair post (g, sz, fo, fs, sc, bc, ac, a1, a2, a3, a4, a5, a6, a7, a8, a9, a10, a11, a12) p q := by
  subst hp hq
  exact rf_pair01 hfo h1 h9 h10 H
theorem rf_solve2 {post : St2 → Prop} (hfo : fo < 0) (h1 : a3 1 = 0) (H : ∀ s b c A5 A6 A7 A8 A9 A10, A8 2 = (rf_R2 g (a3 0) (rf_k (a1 0) (a1 1)) a4).1 → A10 2 = (rf_R2 g (a3 0) (rf_k (a1 0) (a1 1)) a4).2.2 → post (g, 2, fo, fs, s, b, c, a1, a2, a3, a4, A5, A6, A7, A8, A9, A10, a11, a12)) : wpX_solve post (g, 2, fo, fs, sc, bc, ac, a1, a2, a3, a4, a5, a6, a7, a8, a9, a10, a11, a12) := by
  unfold wpX_solve
  refine ⟨4, br_f (by decide) ⟨4, br_f (by decide) (br_t (by decide) (rf_38_0 0 144 288 1 (by decide) (by decide) (by decide) (by decide) (by decide) ?_))⟩⟩
  refine br_f (by decide) (br_t (by decide) (rf_38_0 13 157 301 2 (by decide) (by decide) (by decide) (by decide) (by decide) ?_))
  refine br_f (by decide) (br_t (by decide) (rf_38_0 26 170 314 3 (by decide) (by decide) (by decide) (by decide) (by decide) ?_))
  refine br_t (by decide) (nm_r (e' := 1) (by decide) ?_)
  refine br_f (by decide) ⟨3, br_f (by decide) (br_f (by decide) (rf_pairE 0 (by decide) (by decide) (by decide) ?_))⟩
  refine rf_38_1 0 13 1 157 145 301 289 1 (by decide) rfl (by decide) (by decide) (by decide) (by decide) (by decide) (by decide) (by decide) (by decide) (by decide) (fun s0 b0 c0 s1 b1 c1 s2 b2 c2 _ => ?_)
  refine br_f (by decide) (br_f (by decide) (rf_pairE 13 (by decide) (by decide) (by decide) ?_))
  refine rf_38_1 1 26 14 170 158 314 302 2 (by decide) rfl (by decide) (by decide) (by decide) (by decide) (by decide) (by decide) (by decide) (by decide) (by decide) (fun t0 u0 v0 t1 u1 v1 t2 u2 v2 e => ?_)
  have e' : rf_fr (a3 1) 0 1 1 = (t0, u0, v0) := e
  rw [h1, show rf_fr 0 0 1 1 = (0, 1, 1) by decide] at e'
  clear e
  cases e'
  refine br_t (by decide) (nm_r (e' := 2) (by decide) ?_)
  refine br_f (by decide) ⟨2, br_f (by decide) (br_f (by decide) (rf_pair01' rfl (by decide) hfo h1 rfl rfl (fun ps pb pa ep => ?_)))⟩
  refine rf_38_2 (fun s b c r0 p0 q0 r1 p1 q1 r2 p2 q2 e3 e4 => ?_)
  have e3' : rf_fr (a3 0) 0 1 1 = (s, b, c) := e3
  have e4' : rf_of s b c (ps + 0) (pb * 1) (pa * 1) = (r0, p0, q0) := e4
  have e5 : rf_R2 g (a3 0) (rf_k (a1 0) (a1 1)) a4 = (r0, p0, q0) := by
    unfold rf_R2
    rw [e3', ep]
    exact e4'
  refine br_t (by decide) (nm_r (e' := 3) (by decide) (br_t (by decide) (H _ _ _ _ _ _ _ _ _ ?_ ?_)))
  · rw [e5]
    rfl
  · rw [e5]
    rfl
/-- what the cell any[size] will hold -/
def rf_ok (sz g : Int32) (a1 h a4 : Nat → Int32) (R : Int32 × Int32 × Int32) : Prop :=
  (sz = 0 ∧ R = (0, 1, 1)) ∨ (sz = 1 ∧ R = rf_fr (h 0) 0 1 1) ∨ (sz = 2 ∧ h 1 = 0 ∧ R = rf_R2 g (h 0) (rf_k (a1 0) (a1 1)) a4)
theorem rf_solve {post : St2 → Prop} {R : Int32 × Int32 × Int32} (hfo : fo < 0) (hk : rf_ok sz g a1 a3 a4 R)
    (H : ∀ (m : Nat) s b c A5 A6 A7 A8 A9 A10, m < 432 → sz = nI m → A8 m = R.1 → A10 m = R.2.2 → post (g, sz, fo, fs, s, b, c, a1, a2, a3, a4, A5, A6, A7, A8, A9, A10, a11, a12)) : wpX_solve post (g, sz, fo, fs, sc, bc, ac, a1, a2, a3, a4, a5, a6, a7, a8, a9, a10, a11, a12) := by
  rcases hk with ⟨e, r⟩ | ⟨e, r⟩ | ⟨e, e1, r⟩
  · subst e r
    exact rf_solve0 (fun s b c A8 A9 A10 e8 e10 => H 0 s b c _ _ _ A8 A9 A10 (by decide) rfl e8 e10)
  · subst e r
    exact rf_solve1 (fun s b c A5 A6 A7 A8 A9 A10 e8 e10 => H 1 s b c A5 A6 A7 A8 A9 A10 (by decide) rfl e8 e10)
  · subst e r
    exact rf_solve2 hfo e1 (fun s b c A5 A6 A7 A8 A9 A10 e8 e10 => H 2 s b c A5 A6 A7 A8 A9 A10 (by decide) rfl e8 e10)
theorem rf_th {post : St2 → Prop} {R : Int32 × Int32 × Int32} (hk : rf_ok sz g a1 a2 a4 R) (H : ∀ A3, rf_ok sz g a1 A3 a4 R → post (g, sz, -1, fs, sc, bc, ac, a1, a2, A3, a4, a5, a6, a7, a8, a9, a10, a11, a12)) : wpX_takeHeld post (g, sz, fo, fs, sc, bc, ac, a1, a2, a3, a4, a5, a6, a7, a8, a9, a10, a11, a12) := by
  unfold wpX_takeHeld
  rcases hk with ⟨e, r⟩ | ⟨e, r⟩ | ⟨e, e1, r⟩
  · subst e
    exact ⟨1, br_t (by decide) (H _ (Or.inl ⟨rfl, r⟩))⟩
  · subst e
    refine ⟨2, br_f (by decide) ?_⟩
    rw [rf_c0]
    exact ⟨pk_in 0 11 (by decide), pk_in 0 11 (by decide), nm_e (nm_r (e' := 1) (by decide) (br_t (by decide) (H _ (Or.inr (Or.inl ⟨rfl, r⟩)))))⟩
  · subst e
    refine ⟨3, br_f (by decide) ?_⟩
    rw [rf_c0]
    refine ⟨pk_in 0 11 (by decide), pk_in 0 11 (by decide), nm_e (nm_r (e' := 1) (by decide) (br_f (by decide) ?_))⟩
    rw [rf_c1]
    exact ⟨pk_in 1 11 (by decide), pk_in 1 11 (by decide), nm_e (nm_r (e' := 2) (by decide) (br_t (by decide) (H _ (Or.inr (Or.inr ⟨rfl, e1, r⟩)))))⟩
theorem rf_folds {post : Int32 → St2 → Prop} {R : Int32 × Int32 × Int32} (hk : rf_ok sz g a1 a2 a4 R) (H : ∀ f s b c A3 A5 A6 A7 A8 A9 A10, post R.2.2 (g, sz, f, fs, s, b, c, a1, a2, A3, a4, A5, A6, A7, A8, A9, A10, a11, a12)) : wpX_folds post (g, sz, fo, fs, sc, bc, ac, a1, a2, a3, a4, a5, a6, a7, a8, a9, a10, a11, a12) := by
  unfold wpX_folds
  refine rf_th hk (fun A3 hA => rf_solve (by decide) hA (fun m s b c A5 A6 A7 A8 A9 A10 hm hs e8 e10 => ?_))
  dsimp only
  rw [pk_cl m hs (by omega), e10]
  exact ⟨pk_in m 432 hm hs, H _ _ _ _ _ _ _ _ _ _ _⟩
theorem rf_best {post : Int32 → St2 → Prop} {R : Int32 × Int32 × Int32} (hk : rf_ok sz g a1 a2 a4 R) (H : ∀ f s b c A3 A5 A6 A7 A8 A9 A10, post (if R.2.2 = 0 then -1000 else R.1) (g, sz, f, fs, s, b, c, a1, a2, A3, a4, A5, A6, A7, A8, A9, A10, a11, a12)) : wpX_best post (g, sz, fo, fs, sc, bc, ac, a1, a2, a3, a4, a5, a6, a7, a8, a9, a10, a11, a12) := by
  unfold wpX_best
  refine rf_th hk (fun A3 hA => rf_solve (by decide) hA (fun m s b c A5 A6 A7 A8 A9 A10 hm hs e8 e10 => ?_))
  dsimp only
  rw [pk_cl m hs (by omega), e10, e8]
  refine ⟨pk_in m 432 hm hs, br_c (fun h => ?_) (fun h => ⟨pk_in m 432 hm hs, ?_⟩)⟩
  · rw [if_pos h] at H
    exact H _ _ _ _ _ _ _ _ _ _ _
  · rw [if_neg h] at H
    exact H _ _ _ _ _ _ _ _ _ _ _
end
end
section
section
variable {g sz fo fs sc bc ac : Int32} {a1 a2 a3 a4 a5 a6 a7 a8 a9 a10 a11 a12 : Nat → Int32}
variable {post : Int32 → St0 → Prop} {mc ms kc ks : Nat} {x0 x1 x2 x3 x4 x8 x12 x13 : Int32} {R : Int32 × Int32 × Int32}
/-- tuned, as made -/
def rf_T : Nat → Int32 := upd (upd (upd (upd (upd (upd (fun _ => 0) 0 3) 1 5) 2 1) 3 2) 4 2) 5 3
theorem rf_326 {z0 z1 : Int32} (hT : a4 = rf_T) (hz : z1 = z0) (H : post 1 ()) : wL_lawOf_326 post mc ms x4 z0 z1 kc ks g sz fo fs sc bc ac a1 a2 a3 a4 a5 a6 a7 a8 a9 a10 a11 a12 := by
  subst hT
  unfold wL_lawOf_326
  refine br_t hz ?_
  have K : ∀ z y : Int32, y = z → wL_lawOf_396 post mc ms z y kc ks := fun z y e => br_t e H
  unfold wpX_tune
  refine br_c (fun h => br_t h (K (-1) (-1) rfl)) (fun h => br_c (fun h5 => br_f (by decide) (br_t (by decide) ?_)) (fun h5 => br_f h (br_f h5 (K (-1) (-1) rfl))))
  obtain ⟨j, hj, e⟩ := nI_of2 (n := 5) (M := 5) (by decide) h h5
  subst e
  refine ⟨pk_in j 6 (by omega), nm_e ⟨pk_in j 6 (by omega), nm_e ?_⟩⟩
  rw [nI_clamp (show j < 2 ^ 31 by omega)]
  have hj' : j = 0 ∨ j = 1 ∨ j = 2 ∨ j = 3 ∨ j = 4 ∨ j = 5 := by omega
  rcases hj' with e | e | e | e | e | e
  · subst e
    exact br_f (by decide) (br_t (by decide) (br_f (by decide) (K 3 _ (by decide))))
  · subst e
    exact br_f (by decide) (br_t (by decide) (br_t (by decide) (br_t (by decide) (K 5 _ (by decide)))))
  · subst e
    exact br_f (by decide) (br_t (by decide) (br_t (by decide) (br_f (by decide) (br_t (by decide) (K 1 _ (by decide))))))
  · subst e
    exact br_f (by decide) (br_t (by decide) (br_t (by decide) (br_f (by decide) (br_f (by decide) (br_f (by decide) (K 2 _ (by decide)))))))
  · subst e
    exact br_f (by decide) (br_t (by decide) (br_t (by decide) (br_f (by decide) (br_f (by decide) (br_f (by decide) (K 2 _ (by decide)))))))
  · subst e
    exact br_f (by decide) (br_t (by decide) (br_t (by decide) (br_f (by decide) (br_f (by decide) (br_t (by decide) (K 3 _ (by decide)))))))
/-- the answer of best, as the law wants it -/
abbrev rf_bs (R : Int32 × Int32 × Int32) (x12 x13 st : Int32) : Prop := (if R.2.2 = 0 then -1000 else R.1) = (if x13 = 0 then (if x12 = 0 then -1000 else 0) else st)
theorem rf_297 {z0 : Int32} (hk : rf_ok sz g a1 a2 a4 R) (hT : a4 = rf_T) (hb : rf_bs R x12 x13 z0) (H : post 1 ()) : wL_lawOf_297 post mc ms x4 x12 x13 z0 kc ks g sz fo fs sc bc ac a1 a2 a3 a4 a5 a6 a7 a8 a9 a10 a11 a12 := by
  unfold wL_lawOf_297
  unfold rf_bs at hb
  refine rf_best hk (fun f s b c A3 A5 A6 A7 A8 A9 A10 => br_c (fun h => br_c (fun h' => rf_326 hT ?_ H) (fun h' => rf_326 hT ?_ H)) (fun h => rf_326 hT ?_ H))
  · rw [hb, if_pos h, if_pos h']
  · rw [hb, if_pos h, if_neg h']
  · rw [hb, if_neg h]
/-- the strength of a pair, as the law says it -/
def rf_str (x1 x2 : Int32) : Int32 := if x1 + x2 = 5 then 1 else if x1 = 0 then 3 else if x1 = 3 then 3 else 5
theorem rf_266 {z0 z1 z2 : Int32} (hk : rf_ok sz g a1 a2 a4 R) (hT : a4 = rf_T) (hz : z2 = z1 + z0) (hb : rf_bs R x12 x13 (rf_str x1 x2)) (H : post 1 ()) : wL_lawOf_266 post mc ms x1 x2 x4 x12 x13 z0 z1 z2 kc ks g sz fo fs sc bc ac a1 a2 a3 a4 a5 a6 a7 a8 a9 a10 a11 a12 := by
  unfold wL_lawOf_266
  unfold rf_str at hb
  refine br_t hz (br_c (fun h => rf_297 hk hT ?_ H) (fun h => br_c (fun h1 => ?_) (fun h1 => br_c (fun h2 => ?_) (fun h2 => rf_297 hk hT ?_ H))))
  · rw [if_pos h] at hb
    exact hb
  · unfold wL_lawOf_292
    rw [if_neg h, if_pos h1] at hb
    exact rf_297 hk hT hb H
  · unfold wL_lawOf_292
    rw [if_neg h, if_neg h1, if_pos h2] at hb
    exact rf_297 hk hT hb H
  · rw [if_neg h, if_neg h1, if_neg h2] at hb
    exact hb
/-- both answers, as the law wants them -/
abbrev rf_gd (R : Int32 × Int32 × Int32) (x12 x13 st : Int32) : Prop := R.2.2 = (if x12 = 0 then 0 else 1) + (if x13 = 0 then 0 else 1) ∧ rf_bs R x12 x13 st
theorem rf_256 {z0 z1 : Int32} (hk : rf_ok sz g a1 a2 a4 R) (hT : a4 = rf_T) (hz : z1 = z0 + (if x13 = 0 then 0 else 1)) (hb : rf_bs R x12 x13 (rf_str x1 x2)) (H : post 1 ()) : wL_lawOf_256 post mc ms x1 x2 x4 x12 x13 z0 z1 kc ks g sz fo fs sc bc ac a1 a2 a3 a4 a5 a6 a7 a8 a9 a10 a11 a12 := by
  unfold wL_lawOf_256
  refine br_c (fun h => rf_266 hk hT ?_ hb H) (fun h => rf_266 hk hT ?_ hb H)
  · rw [if_pos h] at hz
    exact hz
  · rw [if_neg h] at hz
    exact hz
theorem rf_239 (hk : rf_ok sz g a1 a2 a4 R) (hT : a4 = rf_T) (hG : rf_gd R x12 x13 (rf_str x1 x2)) (H : post 1 ()) : wL_lawOf_239 post mc ms x1 x2 x4 x12 x13 kc ks g sz fo fs sc bc ac a1 a2 a3 a4 a5 a6 a7 a8 a9 a10 a11 a12 := by
  unfold wL_lawOf_239
  refine rf_folds hk (fun f s b c A3 A5 A6 A7 A8 A9 A10 => br_c (fun h => rf_256 hk hT ?_ hG.2 H) (fun h => rf_256 hk hT ?_ hG.2 H))
  · rw [hG.1, if_pos h]
  · rw [hG.1, if_neg h]
/-- joined, as the law says it -/
def rf_jn (pr h : Int32) : Int32 := if pr = 0 then 0 else if h = 0 then 1 else if h = 2 then 1 else 0
theorem rf_216 {x10 x11 z0 : Int32} (hk : rf_ok sz g a1 a2 a4 R) (hT : a4 = rf_T) (hG : rf_gd R z0 (rf_jn x11 x10) (rf_str x1 x2)) (H : post 1 ()) : wL_lawOf_216 post mc ms x1 x2 x4 x10 x11 z0 kc ks g sz fo fs sc bc ac a1 a2 a3 a4 a5 a6 a7 a8 a9 a10 a11 a12 := by
  unfold wL_lawOf_216
  unfold rf_jn at hG
  refine br_c (fun h => ?_) (fun h => br_c (fun h1 => ?_) (fun h1 => br_c (fun h2 => ?_) (fun h2 => ?_)))
  · rw [if_pos h] at hG
    unfold wL_lawOf_238
    exact rf_239 hk hT hG H
  · rw [if_neg h, if_pos h1] at hG
    unfold wL_lawOf_234
    exact rf_239 hk hT hG H
  · rw [if_neg h, if_neg h1, if_pos h2] at hG
    unfold wL_lawOf_234
    exact rf_239 hk hT hG H
  · rw [if_neg h, if_neg h1, if_neg h2] at hG
    unfold wL_lawOf_238
    exact rf_239 hk hT hG H
theorem rf_203 {x10 z0 : Int32} (hk : rf_ok sz g a1 a2 a4 R) (hT : a4 = rf_T) (hG : rf_gd R (if 2 ≤ x10 then 0 else 1) (rf_jn z0 x10) (rf_str x1 x2)) (H : post 1 ()) : wL_lawOf_203 post mc ms x1 x2 x4 x10 z0 kc ks g sz fo fs sc bc ac a1 a2 a3 a4 a5 a6 a7 a8 a9 a10 a11 a12 := by
  unfold wL_lawOf_203
  refine br_c (fun h => ?_) (fun h => ?_)
  · rw [if_pos h] at hG
    exact rf_216 hk hT hG H
  · rw [if_neg h] at hG
    exact rf_216 hk hT hG H
/-- pair, as the law says it -/
def rf_pp (x0 x1 x2 x8 : Int32) : Int32 := if x8 = 2 then (if 1 ≤ x0 then 0 else if x1 + x2 = 3 then 1 else if x1 + x2 = 5 then 1 else 0) else 0
def rf_G (R : Int32 × Int32 × Int32) (x0 x1 x2 x8 h : Int32) : Prop := rf_gd R (if 2 ≤ h then 0 else 1) (rf_jn (rf_pp x0 x1 x2 x8) h) (rf_str x1 x2)
theorem rf_171 {z0 : Int32} (hk : rf_ok sz g a1 a2 a4 R) (hT : a4 = rf_T) (hG : rf_G R x0 x1 x2 x8 z0) (H : post 1 ()) : wL_lawOf_171 post mc ms x0 x1 x2 x4 x8 z0 kc ks g sz fo fs sc bc ac a1 a2 a3 a4 a5 a6 a7 a8 a9 a10 a11 a12 := by
  have K : ∀ p, rf_pp x0 x1 x2 x8 = p → wL_lawOf_203 post mc ms x1 x2 x4 z0 p kc ks g sz fo fs sc bc ac a1 a2 a3 a4 a5 a6 a7 a8 a9 a10 a11 a12 := by
    intro p e
    unfold rf_G at hG
    rw [e] at hG
    exact rf_203 hk hT hG H
  unfold rf_pp at K
  unfold wL_lawOf_171
  refine br_c (fun h => br_c (fun h1 => ?_) (fun h1 => br_c (fun h2 => ?_) (fun h2 => br_c (fun h3 => ?_) (fun h3 => ?_)))) (fun h => ?_)
  · unfold wL_lawOf_202
    exact K 0 (by rw [if_pos h, if_pos h1])
  · unfold wL_lawOf_198
    exact K 1 (by rw [if_pos h, if_neg h1, if_pos h2])
  · unfold wL_lawOf_198
    exact K 1 (by rw [if_pos h, if_neg h1, if_neg h2, if_pos h3])
  · unfold wL_lawOf_202
    exact K 0 (by rw [if_pos h, if_neg h1, if_neg h2, if_neg h3])
  · unfold wL_lawOf_202
    exact K 0 (by rw [if_neg h])
theorem rf_151 {x9 z0 z1 : Int32} (hk : rf_ok sz g a1 a2 a4 R) (hT : a4 = rf_T) (hz : z1 = z0) (h0 : (x8 ≤ 0 ∨ x9 = 0) → rf_G R x0 x1 x2 x8 0) (h1 : ¬ x8 ≤ 0 → ¬ x9 = 0 → rf_G R x0 x1 x2 x8 x3) (H : post 1 ()) : wL_lawOf_151 post mc ms x0 x1 x2 x3 x4 x8 x9 z0 z1 kc ks g sz fo fs sc bc ac a1 a2 a3 a4 a5 a6 a7 a8 a9 a10 a11 a12 := by
  unfold wL_lawOf_151
  refine br_t hz (br_c (fun h => ?_) (fun h => br_c (fun h' => ?_) (fun h' => rf_171 hk hT (h1 h h') H)))
  · unfold wL_lawOf_170
    exact rf_171 hk hT (h0 (Or.inl h)) H
  · unfold wL_lawOf_170
    exact rf_171 hk hT (h0 (Or.inr h')) H
/-- hold, nothing pushed -/
theorem rf_122a {z0 : Int32} (hs : sz = 0) (h8 : x8 = 0) (hT : a4 = rf_T) (hG : rf_G (0, 1, 1) x0 x1 x2 0 0) (H : post 1 ()) : wL_lawOf_122 post mc ms x0 x1 x2 x3 x4 x8 z0 kc ks g sz fo fs sc bc ac a1 a2 a3 a4 a5 a6 a7 a8 a9 a10 a11 a12 := by
  subst hs h8
  unfold wL_lawOf_122 wpX_hold wpX_isPlace
  dsimp only
  exact br_f (by decide) (br_t (by decide) (br_t rfl (br_t rfl (rf_151 (R := (0, 1, 1)) (Or.inl ⟨rfl, rfl⟩) hT rfl (fun _ => hG) (fun z => absurd (by decide) z) H))))
/-- whether how is known -/
abbrev rf_kn (x3 z : Int32) : Prop := (z = 1 ∧ ¬ x3 < 0 ∧ x3 ≤ 3) ∨ (z = 0 ∧ (x3 < 0 ∨ ¬ x3 ≤ 3))
/-- hold, something pushed -/
theorem rf_122b {z0 : Int32} (hs : ¬ sz ≤ 0) (h8 : ¬ x8 ≤ 0) (h8' : ¬ x8 = 0) (ha : a2 0 = 0) (hz : rf_kn x3 z0) (hT : a4 = rf_T)
    (hA : ¬ x3 < 0 → x3 ≤ 3 → ∃ R, rf_ok sz g a1 (upd a2 0 x3) a4 R ∧ rf_G R x0 x1 x2 x8 x3) (hB : ∃ R, rf_ok sz g a1 a2 a4 R ∧ rf_G R x0 x1 x2 x8 0) (H : post 1 ()) : wL_lawOf_122 post mc ms x0 x1 x2 x3 x4 x8 z0 kc ks g sz fo fs sc bc ac a1 a2 a3 a4 a5 a6 a7 a8 a9 a10 a11 a12 := by
  unfold wL_lawOf_122 wpX_hold wpX_isPlace
  dsimp only
  rw [rf_c0]
  refine br_f (by decide) (br_f hs (br_f (by decide) ?_))
  rcases hz with ⟨e, k0, k3⟩ | ⟨e, k⟩
  · subst e
    obtain ⟨R, r1, r2⟩ := hA k0 k3
    refine br_f k0 (br_t k3 ⟨pk_in 0 11 (by decide), nm_e ⟨pk_in 0 11 (by decide), nm_e (br_f h8' (br_f (by decide) (rf_151 r1 hT ha (fun z => ?_) (fun _ _ => r2) H)))⟩⟩)
    rcases z with z | z
    · exact absurd z h8
    · exact absurd z (by decide)
  · subst e
    obtain ⟨R, r1, r2⟩ := hB
    by_cases k0 : x3 < 0
    · exact br_t k0 (br_f h8' (br_t rfl (rf_151 r1 hT rfl (fun _ => r2) (fun _ z => absurd rfl z) H)))
    · have k3 : ¬ x3 ≤ 3 := by
        rcases k with k | k
        · exact absurd k k0
        · exact k
      exact br_f k0 (br_f k3 (br_f h8' (br_t rfl (rf_151 r1 hT rfl (fun _ => r2) (fun _ z => absurd rfl z) H))))
theorem rf_103 {z0 z1 : Int32} (hz : z1 = z0) (K : ∀ z, rf_kn x3 z → wL_lawOf_122 post mc ms x0 x1 x2 x3 x4 x8 z kc ks g sz fo fs sc bc ac a1 a2 a3 a4 a5 a6 a7 a8 a9 a10 a11 a12) : wL_lawOf_103 post mc ms x0 x1 x2 x3 x4 x8 z0 z1 kc ks g sz fo fs sc bc ac a1 a2 a3 a4 a5 a6 a7 a8 a9 a10 a11 a12 := by
  unfold wL_lawOf_103
  refine br_t hz (br_c (fun h => ?_) (fun h => br_c (fun h3 => ?_) (fun h3 => K 1 (Or.inl ⟨rfl, h, Int32.not_lt.mp h3⟩))))
  · unfold wL_lawOf_121
    exact K 0 (Or.inr ⟨rfl, Or.inl h⟩)
  · unfold wL_lawOf_121
    exact K 0 (Or.inr ⟨rfl, Or.inr (Int32.not_le.mpr h3)⟩)
theorem rf_pushY {pst : Int32 → St2 → Prop} {p : Int32} (m : Nat) (t : Int32) (ht : sz + 1 = t) (hs : sz = nI m) (hm : m < 11) (h0 : ¬ p < 0) (h3 : p ≤ 3) (H : pst t (g, t, fo, fs, sc, bc, ac, upd a1 m p, upd a2 m 0, a3, a4, a5, a6, a7, a8, a9, a10, a11, a12)) : wpX_push pst (g, sz, fo, fs, sc, bc, ac, a1, a2, a3, a4, a5, a6, a7, a8, a9, a10, a11, a12) p := by
  unfold wpX_push
  dsimp only
  have n11 : ¬ sz = 11 := by
    rw [hs]
    exact fun z => absurd ((nI_eq (a := m) (b := 11) (by omega) (by decide)).mp z) (by omega)
  rw [pk_cl m hs (by omega)]
  exact br_f h0 (br_t h3 (br_f n11 ⟨pk_in m 11 hm hs, nm_e ⟨pk_in m 11 hm hs, nm_e (nm_r ht H)⟩⟩))
theorem rf_pushN {pst : Int32 → St2 → Prop} {p : Int32} (h : p < 0 ∨ ¬ p ≤ 3) (H : pst (-1) (g, sz, fo, fs, sc, bc, ac, a1, a2, a3, a4, a5, a6, a7, a8, a9, a10, a11, a12)) : wpX_push pst (g, sz, fo, fs, sc, bc, ac, a1, a2, a3, a4, a5, a6, a7, a8, a9, a10, a11, a12) p := by
  unfold wpX_push
  dsimp only
  refine br_c (fun _ => H) (fun h0 => br_f ?_ H)
  rcases h with h | h
  · exact absurd h h0
  · exact h
end
end
section
section
variable {post : Int32 → St0 → Prop} {mc ms kc ks : Nat} {g x0 x1 x2 x3 x4 : Int32} {R : Int32 × Int32 × Int32}
/-- no pair: the strength doesn't matter -/
theorem rf_gd0 {x12 x13 st : Int32} (h13 : x13 = 0) (h : rf_gd R x12 0 0) : rf_gd R x12 x13 st := by
  subst h13
  refine ⟨h.1, ?_⟩
  have h2 := h.2
  unfold rf_bs at h2 ⊢
  rw [if_pos rfl] at h2 ⊢
  exact h2
theorem rf_jn0 (h : Int32) : rf_jn 0 h = 0 := by
  unfold rf_jn
  rw [if_pos rfl]
theorem rf_4 {x : Int32} (h0 : ¬ x < 0) (h3 : x ≤ 3) : ∃ j : Nat, j < 4 ∧ x = nI j := by
  obtain ⟨j, hj, e⟩ := nI_of2 (n := 3) (M := 3) (by decide) h0 h3
  exact ⟨j, by omega, e⟩
theorem rf_G0 : rf_G (0, 1, 1) x0 x1 x2 0 0 := by
  have e : rf_pp x0 x1 x2 0 = 0 := by
    unfold rf_pp
    rw [if_neg (by decide)]
  unfold rf_G
  rw [e]
  exact rf_gd0 (rf_jn0 _) (by decide)
theorem rf_t1 : ∀ j : Nat, j < 4 → rf_gd (rf_fr (nI j) 0 1 1) (if 2 ≤ nI j then 0 else 1) 0 0 := by decide +kernel
theorem rf_G1 {h : Int32} (h0 : ¬ h < 0) (h3 : h ≤ 3) : rf_G (rf_fr h 0 1 1) x0 x1 x2 1 h := by
  have e : rf_pp x0 x1 x2 1 = 0 := by
    unfold rf_pp
    rw [if_neg (by decide)]
  obtain ⟨j, hj, ej⟩ := rf_4 h0 h3
  unfold rf_G
  rw [e, ej]
  exact rf_gd0 (rf_jn0 _) (rf_t1 j hj)
theorem rf_t2 : ∀ j : Nat, j < 4 → rf_gd (rf_of (rf_fr (nI j) 0 1 1).1 (rf_fr (nI j) 0 1 1).2.1 (rf_fr (nI j) 0 1 1).2.2 (-1000 + 0) (0 * 1) (0 * 1)) (if 2 ≤ nI j then 0 else 1) 0 0 := by decide +kernel
/-- pair where the gap is 0 -/
def rf_p2 (x1 x2 : Int32) : Int32 := if x1 + x2 = 3 then 1 else if x1 + x2 = 5 then 1 else 0
theorem rf_t3 : ∀ p : Nat, p < 4 → ∀ q : Nat, q < 4 → ∀ j : Nat, j < 4 → rf_gd (rf_R2 0 (nI j) (rf_k (nI p) (nI q)) rf_T) (if 2 ≤ nI j then 0 else 1) (rf_jn (rf_p2 (nI p) (nI q)) (nI j)) (rf_str (nI p) (nI q)) := by decide +kernel
abbrev rf_gp (x0 g : Int32) : Prop := (¬ 1 ≤ x0 ∧ g = 0) ∨ (1 ≤ x0 ∧ 1 ≤ g)
theorem rf_G2 {h : Int32} (hg : rf_gp x0 g) (a0 : ¬ x1 < 0) (a3 : x1 ≤ 3) (b0 : ¬ x2 < 0) (b3 : x2 ≤ 3) (h0 : ¬ h < 0) (h3 : h ≤ 3) : rf_G (rf_R2 g h (rf_k x1 x2) rf_T) x0 x1 x2 2 h := by
  obtain ⟨j, hj, ej⟩ := rf_4 h0 h3
  rcases hg with ⟨n0, eg⟩ | ⟨n0, eg⟩
  · obtain ⟨p, hp, ep⟩ := rf_4 a0 a3
    obtain ⟨q, hq, eq⟩ := rf_4 b0 b3
    have e : rf_pp x0 x1 x2 2 = rf_p2 x1 x2 := by
      unfold rf_pp
      rw [if_pos rfl, if_neg n0]
      rfl
    unfold rf_G
    rw [e, ej, ep, eq, eg]
    exact rf_t3 p hp q hq j hj
  · have e : rf_pp x0 x1 x2 2 = 0 := by
      unfold rf_pp
      rw [if_pos rfl, if_pos n0]
    have e2 : rf_pr g h (rf_k x1 x2) rf_T = (-1000, 0, 0) := by
      unfold rf_pr
      rw [if_neg (fun z => z.2.1 eg)]
    unfold rf_G rf_R2
    rw [e, e2, ej]
    exact rf_gd0 (rf_jn0 _) (rf_t2 j hj)
theorem rf_z : ¬ (0 : Int32) < 0 := by decide
theorem rf_z3 : (0 : Int32) ≤ 3 := by decide
/-- whether a base is one -/
theorem rf_40 {x6 z0 : Int32} {A1 A3 A5 A6 A7 A8 A9 A10 A11 A12 : Nat → Int32} {fo fs sc bc ac : Int32} (hg : rf_gp x0 g) (h1 : rf_kn x1 x6) (h2 : rf_kn x2 z0) (H : post 1 ()) :
    wL_lawOf_40 post mc ms x0 x1 x2 x3 x4 x6 z0 kc ks g 0 fo fs sc bc ac A1 (fun _ => 0) A3 rf_T A5 A6 A7 A8 A9 A10 A11 A12 := by
  unfold wL_lawOf_40
  rcases h1 with ⟨e1, k0, k3⟩ | ⟨e1, k⟩
  · rcases h2 with ⟨e2, l0, l3⟩ | ⟨e2, l⟩
    · subst e1 e2
      refine rf_pushY 0 1 (by decide) rfl (by decide) k0 k3 (br_f (by decide) (br_t rfl (br_f (by decide) (br_f (by decide) (nm_r (e' := 2) (by decide) ?_)))))
      refine rf_pushY 1 2 (by decide) rfl (by decide) l0 l3 (br_f (by decide) (rf_103 rfl (fun z hz => ?_)))
      exact rf_122b (by decide) (by decide) (by decide) rfl hz rfl (fun m0 m3 => ⟨_, Or.inr (Or.inr ⟨rfl, rfl, rfl⟩), rf_G2 hg k0 k3 l0 l3 m0 m3⟩) ⟨_, Or.inr (Or.inr ⟨rfl, rfl, rfl⟩), rf_G2 hg k0 k3 l0 l3 rf_z rf_z3⟩ H
    · subst e1 e2
      refine rf_pushY 0 1 (by decide) rfl (by decide) k0 k3 (br_f (by decide) (br_t rfl (br_f (by decide) (br_t rfl (nm_r (e' := 1) (by decide) ?_)))))
      refine rf_pushN l (br_t rfl (rf_103 rfl (fun z hz => ?_)))
      exact rf_122b (by decide) (by decide) (by decide) rfl hz rfl (fun m0 m3 => ⟨_, Or.inr (Or.inl ⟨rfl, rfl⟩), rf_G1 m0 m3⟩) ⟨_, Or.inr (Or.inl ⟨rfl, rfl⟩), rf_G1 rf_z rf_z3⟩ H
  · rcases h2 with ⟨e2, l0, l3⟩ | ⟨e2, l⟩
    · subst e1 e2
      refine rf_pushN k (br_t rfl (br_t rfl (br_t rfl (br_f (by decide) (nm_r (e' := 1) (by decide) ?_)))))
      refine rf_pushY 0 1 (by decide) rfl (by decide) l0 l3 (br_f (by decide) (rf_103 rfl (fun z hz => ?_)))
      exact rf_122b (by decide) (by decide) (by decide) rfl hz rfl (fun m0 m3 => ⟨_, Or.inr (Or.inl ⟨rfl, rfl⟩), rf_G1 m0 m3⟩) ⟨_, Or.inr (Or.inl ⟨rfl, rfl⟩), rf_G1 rf_z rf_z3⟩ H
    · subst e1 e2
      refine rf_pushN k (br_t rfl (br_t rfl (br_t rfl (br_t rfl (nm_r (e' := 0) (by decide) ?_)))))
      refine rf_pushN l (br_t rfl (rf_103 rfl (fun z hz => ?_)))
      exact rf_122a rfl rfl rfl rf_G0 H
theorem rf_24 {z0 : Int32} {A1 A3 A5 A6 A7 A8 A9 A10 A11 A12 : Nat → Int32} {fo fs sc bc ac : Int32} (hg : rf_gp x0 g) (h1 : rf_kn x1 z0) (H : post 1 ()) :
    wL_lawOf_24 post mc ms x0 x1 x2 x3 x4 z0 kc ks g 0 fo fs sc bc ac A1 (fun _ => 0) A3 rf_T A5 A6 A7 A8 A9 A10 A11 A12 := by
  unfold wL_lawOf_24
  refine br_c (fun h => ?_) (fun h => br_c (fun h3 => ?_) (fun h3 => rf_40 hg h1 (Or.inl ⟨rfl, h, Int32.not_lt.mp h3⟩) H))
  · unfold wL_lawOf_39
    exact rf_40 hg h1 (Or.inr ⟨rfl, Or.inl h⟩) H
  · unfold wL_lawOf_39
    exact rf_40 hg h1 (Or.inr ⟨rfl, Or.inr (Int32.not_le.mpr h3)⟩) H
theorem rf_init {pst : St2 → Prop} {p0 : Int32} (hmc : 12 ≤ mc) (hms : 1789 ≤ ms)
    (H : ∀ g, rf_gp p0 g → pst (g, 0, 0, 0, 0, 0, 0, (fun _ => 0), (fun _ => 0), (fun _ => 0), rf_T, (fun _ => 0), (fun _ => 0), (fun _ => 0), (fun _ => 0), (fun _ => 0), (fun _ => 0), (fun _ => 0), (fun _ => 0))) : wpX_init pst mc ms (0, 0, 0, 0, 0, 0, 0) p0 := by
  have K : ∀ g, rf_gp p0 g → wX_init_132 pst mc ms 12 1789 g 0 0 0 0 0 0 (fun _ => 0) (fun _ => 0) (fun _ => 0) (fun _ => 0) (fun _ => 0) (fun _ => 0) (fun _ => 0) (fun _ => 0) (fun _ => 0) (fun _ => 0) (fun _ => 0) (fun _ => 0) := by
    intro g hg
    unfold wX_init_132
    exact nm_e (nm_e (nm_e (nm_e (nm_e (nm_e (H g hg))))))
  unfold wpX_init
  dsimp only
  refine ⟨by omega, by omega, by omega, by omega, by omega, by omega, by omega, by omega, by omega, by omega, by omega, by omega, by omega, by omega, by omega, by omega, by omega, by omega, by omega, by omega, by omega, by omega, by omega, by omega, ?_⟩
  have t0 : (0 : Int32).toInt = 0 := by decide
  have t1 : (1 : Int32).toInt = 1 := by decide
  have t4 : (4 : Int32).toInt = 4 := by decide
  refine br_c (fun h => ?_) (fun h => ?_)
  · unfold wX_init_116
    refine br_c (fun h4 => K p0 ?_) (fun h4 => K 4 (Or.inr ⟨?_, by decide⟩))
    · by_cases h1 : (1 : Int32) ≤ p0
      · exact Or.inr ⟨h1, h1⟩
      · refine Or.inl ⟨h1, ?_⟩
        rw [Int32.le_iff_toInt_le] at h h1
        exact Int32.toInt_inj.mp (by omega)
    · rw [Int32.le_iff_toInt_le] at h4 ⊢
      omega
  · unfold wX_init_116
    refine br_t (by decide) (K 0 (Or.inl ⟨?_, rfl⟩))
    rw [Int32.le_iff_toInt_le] at h ⊢
    omega
theorem rf_lawOf {x0 x1 x2 x3 x4 : Int32} (hmc : 13 ≤ mc) (hms : 1808 ≤ ms) (H : post 1 ()) : wpL_lawOf post mc ms () x0 x1 x2 x3 x4 := by
  unfold wpL_lawOf
  refine ⟨by omega, by omega, 12, 1789, by omega, by omega, rf_init (by omega) (by omega) (fun g hg => br_c (fun h => ?_) (fun h => br_c (fun h3 => ?_) (fun h3 => rf_24 hg (Or.inl ⟨rfl, h, Int32.not_lt.mp h3⟩) H)))⟩
  · unfold wL_lawOf_23
    exact rf_24 hg (Or.inr ⟨rfl, Or.inl h⟩) H
  · unfold wL_lawOf_23
    exact rf_24 hg (Or.inr ⟨rfl, Or.inr (Int32.not_le.mpr h3)⟩) H
end
theorem i_vc (xs : Nat → Int32) (L : Nat) (hL : L ≤ 5) : wpL_law (fun r => r = 1) L xs := by
  have C : ∀ (pst : Int32 → Prop) (k : Nat), k < 5 → (∀ v, pst v) → wpL_cellAt pst L xs () (nI k) := fun pst k hk H => pk_le L k (fun _ => H _) (fun z => ⟨pk_in k L z, H _⟩)
  unfold wpL_law
  exact C _ 0 (by decide) (fun r1 => C _ 1 (by decide) (fun r2 => C _ 2 (by decide) (fun r3 => C _ 3 (by decide) (fun r4 => C _ 4 (by decide) (fun r5 =>
    ⟨932, 14912, by decide, by decide, rf_lawOf (by decide) (by decide) rfl⟩)))))
end
