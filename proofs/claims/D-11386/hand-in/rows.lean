section
/-- a table's cell or the running best: p = (how many folds, their greatest score); the count of best folds is between 1 and p.1 if there is a fold -/
def rf_ok (s b a : Int32) (p : Nat × Nat) : Prop := a = nI p.1 ∧ ∃ n : Nat, b = nI n ∧ n ≤ p.1 ∧ (p.1 ≠ 0 → 0 < n ∧ s = nI p.2)
/-- a way is taken in -/
def rf_o (p q : Nat × Nat) : Nat × Nat := if q.1 = 0 then p else if p.1 = 0 then q else (p.1 + q.1, max p.2 q.2)
/-- two stretches side by side -/
def rf_m (p q : Nat × Nat) : Nat × Nat := (p.1 * q.1, p.2 + q.2)
/-- m ways, from the k-th on, taken in one after the other -/
def rf_f (f : Nat → Nat × Nat) : Nat → Nat → Nat × Nat → Nat × Nat
  | 0, _, p => p
  | m + 1, k, p => rf_f f m (k + 1) (rf_o p (f k))
theorem rf_ok0 {s : Int32} : rf_ok s 0 0 (0, 0) := ⟨rfl, 0, rfl, Nat.le_refl 0, fun h => absurd rfl h⟩
theorem rf_okz {s : Int32} {n : Nat} : rf_ok s 0 0 (0, n) := ⟨rfl, 0, rfl, Nat.le_refl 0, fun h => absurd rfl h⟩
theorem rf_ok1 {s : Int32} {n : Nat} (h : s = nI n) : rf_ok s 1 1 (1, n) := ⟨rfl, 1, rfl, Nat.le_refl 1, fun _ => ⟨Nat.one_pos, h⟩⟩
theorem rf_okm {s b a s' b' a' : Int32} {p q : Nat × Nat} (h : rf_ok s b a p) (h' : rf_ok s' b' a' q) : rf_ok (s + s') (b * b') (a * a') (rf_m p q) := by
  obtain ⟨rfl, n, rfl, hn, hs⟩ := h
  obtain ⟨rfl, m, rfl, hm, ht⟩ := h'
  refine ⟨pk_mul _ _, n * m, pk_mul _ _, Nat.mul_le_mul hn hm, fun hz => ?_⟩
  have hp : p.1 ≠ 0 := fun e => hz (by show p.1 * q.1 = 0; rw [e, Nat.zero_mul])
  have hq : q.1 ≠ 0 := fun e => hz (by show p.1 * q.1 = 0; rw [e, Nat.mul_zero])
  refine ⟨Nat.mul_pos (hs hp).1 (ht hq).1, ?_⟩
  rw [(hs hp).2, (ht hq).2]
  exact nI_add _ _
theorem rf_o_le {p q : Nat × Nat} : (rf_o p q).1 ≤ p.1 + q.1 := by
  unfold rf_o
  split
  · omega
  · split
    · omega
    · exact Nat.le_refl _
theorem rf_o_le2 {p q : Nat × Nat} {c : Nat} (hp : p.2 ≤ c) (hq : q.2 ≤ c) : (rf_o p q).2 ≤ c := by
  unfold rf_o
  split
  · exact hp
  · split
    · exact hq
    · exact Nat.max_le.mpr ⟨hp, hq⟩
theorem rf_offer {post : St2 → Prop} {g z fo fs sc bc ac : Int32} {a1 a2 a3 a4 a5 a6 a7 a8 a9 a10 a11 a12 : Nat → Int32} {v b a : Int32} {p q : Nat × Nat} (hp : rf_ok sc bc ac p) (hq : rf_ok v b a q)
    (b1 : p.1 ≤ 1000000) (b2 : q.1 ≤ 1000000) (b3 : p.2 ≤ 1000000) (b4 : q.2 ≤ 1000000)
    (H : ∀ sc' bc' ac' : Int32, rf_ok sc' bc' ac' (rf_o p q) → post (g, z, fo, fs, sc', bc', ac', a1, a2, a3, a4, a5, a6, a7, a8, a9, a10, a11, a12)) : wpX_offer post (g, z, fo, fs, sc, bc, ac, a1, a2, a3, a4, a5, a6, a7, a8, a9, a10, a11, a12) v b a := by
  obtain ⟨rfl, n, rfl, hn, hs⟩ := hp
  obtain ⟨rfl, m, rfl, hm, ht⟩ := hq
  refine nm_r (nI_add _ _) ?_
  refine pk_eq m 0 (fun e => ?_) (fun e => ?_)
  · have q0 : q.1 = 0 := Classical.byContradiction (fun z => absurd (ht z).1 (by omega))
    have eo : rf_o p q = p := by unfold rf_o; rw [if_pos q0]
    rw [eo] at H
    exact H _ _ _ ⟨by rw [q0, Nat.add_zero], n, rfl, hn, hs⟩
  · have q0 : ¬ q.1 = 0 := by omega
    obtain ⟨m0, rfl⟩ := ht q0
    refine pk_eq n 0 (fun e' => ?_) (fun e' => ?_)
    · have p0 : p.1 = 0 := Classical.byContradiction (fun z => absurd (hs z).1 (by omega))
      have eo : rf_o p q = q := by unfold rf_o; rw [if_neg q0, if_pos p0]
      rw [eo] at H
      exact H _ _ _ ⟨by rw [p0, Nat.zero_add], m, rfl, hm, fun _ => ⟨m0, rfl⟩⟩
    · have p0 : ¬ p.1 = 0 := by omega
      obtain ⟨n0, rfl⟩ := hs p0
      have eo : rf_o p q = (p.1 + q.1, max p.2 q.2) := by unfold rf_o; rw [if_neg q0, if_neg p0]
      rw [eo] at H
      refine pk_le q.2 p.2 (fun l => ?_) (fun l => ?_)
      · have em : max p.2 q.2 = p.2 := Nat.max_eq_left l
        rw [em] at H
        refine pk_eq q.2 p.2 (fun _ => nm_r (nI_add _ _) ?_) (fun _ => ?_)
        · exact H _ _ _ ⟨rfl, n + m, rfl, Nat.add_le_add hn hm, fun _ => ⟨by omega, rfl⟩⟩
        · exact H _ _ _ ⟨rfl, n, rfl, Nat.le_trans hn (Nat.le_add_right _ _), fun _ => ⟨n0, rfl⟩⟩
      · have em : max p.2 q.2 = q.2 := Nat.max_eq_right (Nat.le_of_lt l)
        rw [em] at H
        exact H _ _ _ ⟨rfl, m, rfl, Nat.le_trans hm (Nat.le_add_left _ _), fun _ => ⟨m0, rfl⟩⟩
/-- places of the tables -/
theorem rf_ix2 (i j : Nat) : 12 * nI i + nI j = nI (12 * i + j) := by
  rw [show (12 : Int32) = nI 12 from rfl, pk_mul, nI_add]
theorem rf_ix3 (l i j : Nat) : 144 * nI l + 12 * nI i + nI j = nI (144 * l + 12 * i + j) := by
  rw [show (12 : Int32) = nI 12 from rfl, show (144 : Int32) = nI 144 from rfl, pk_mul, pk_mul, nI_add, nI_add]
theorem rf_ix4 (l i j : Nat) : 144 * nI l + 12 * (nI i + 1) + nI j = nI (144 * l + 12 * (i + 1) + j) := by
  rw [nI_1, rf_ix3]
theorem rf_ix5 (i j : Nat) : 288 + 12 * (nI i + 1) + nI j = nI (288 + 12 * (i + 1) + j) := by
  rw [nI_1, show (12 : Int32) = nI 12 from rfl, show (288 : Int32) = nI 288 from rfl, pk_mul, nI_add, nI_add]
end
section
/-- the kind of a pair of bases, low and high -/
def rf_k3 (x y : Int32) : Int32 := if x = 0 ∧ y = 3 then 0 else if x = 1 ∧ y = 2 then 1 else if x = 2 ∧ y = 3 then 2 else (-1)
def rf_kind (x y : Int32) : Int32 := if y ≤ x then rf_k3 y x else rf_k3 x y
theorem rf_k45 {post : Int32 → Prop} {x y : Int32} (h : post (if x = 2 ∧ y = 3 then 2 else (-1))) : wX_kindOf_45 post x y :=
  br_c (fun e => br_c (fun e' => by rw [if_pos ⟨e, e'⟩] at h; exact h) (fun e' => by rw [if_neg (fun z => e' z.2)] at h; exact h)) (fun e => by rw [if_neg (fun z => e z.1)] at h; exact h)
theorem rf_k33 {post : Int32 → Prop} {x y : Int32} (h : post (if x = 1 ∧ y = 2 then 1 else if x = 2 ∧ y = 3 then 2 else (-1))) : wX_kindOf_33 post x y :=
  br_c (fun e => br_c (fun e' => by rw [if_pos ⟨e, e'⟩] at h; exact h) (fun e' => rf_k45 (by rw [if_neg (fun z => e' z.2)] at h; exact h))) (fun e => rf_k45 (by rw [if_neg (fun z => e z.1)] at h; exact h))
theorem rf_k21 {post : Int32 → Prop} {x y : Int32} (h : post (rf_k3 x y)) : wX_kindOf_21 post x y := by
  unfold rf_k3 at h
  exact br_c (fun e => br_c (fun e' => by rw [if_pos ⟨e, e'⟩] at h; exact h) (fun e' => rf_k33 (by rw [if_neg (fun z => e' z.2)] at h; exact h))) (fun e => rf_k33 (by rw [if_neg (fun z => e z.1)] at h; exact h))
theorem rf_kindOf {post : Int32 → Prop} {u : St0} {x y : Int32} (h : post (rf_kind x y)) : wpX_kindOf post u x y := by
  unfold rf_kind at h
  exact br_c (fun e => br_t e (rf_k21 (by rw [if_pos e] at h; exact h))) (fun e => br_f e (rf_k21 (by rw [if_neg e] at h; exact h)))
def rf_fit (g x y p q : Int32) : Int32 := if q - p ≤ g then 0 else if rf_kind x y < 0 then 0 else 1
theorem rf_doFit {post : Int32 → Prop} {g z fo fs sc bc ac : Int32} {a1 a2 a3 a4 a5 a6 a7 a8 a9 a10 a11 a12 : Nat → Int32} {i j : Nat} (hi : i < 11) (hj : j < 11) (h : post (rf_fit g (a1 i) (a1 j) (nI i) (nI j))) : wpX_doFit post (g, z, fo, fs, sc, bc, ac, a1, a2, a3, a4, a5, a6, a7, a8, a9, a10, a11, a12) (nI i) (nI j) := by
  unfold rf_fit at h
  refine br_c (fun e => ?_) (fun e => ⟨pk_in i 11 hi, pk_in j 11 hj, ?_⟩)
  · rw [if_pos e] at h
    exact h
  · rw [if_neg e] at h
    rw [nI_clamp (show i < 2 ^ 31 by omega), nI_clamp (show j < 2 ^ 31 by omega)]
    refine rf_kindOf (br_c (fun e' => ?_) (fun e' => ?_))
    · rw [if_pos e'] at h
      exact h
    · rw [if_neg e'] at h
      exact h
def rf_and (x y k f : Int32) : Int32 := if x = 0 then 0 else if y = 0 then 0 else if k = 0 then 0 else if f = 0 then 0 else 1
theorem rf_m92 {post : Int32 → Prop} {g z fo fs sc bc ac : Int32} {a1 a2 a3 a4 a5 a6 a7 a8 a9 a10 a11 a12 : Nat → Int32} {i j : Nat} {x3 x4 z0 : Int32} (hi : i < 11) (hj : j < 11) (h : post (rf_and x3 x4 z0 (rf_fit g (a1 i) (a1 j) (nI i) (nI j)))) : wX_mayPair_92 post (nI i) (nI j) x3 x4 z0 g z fo fs sc bc ac a1 a2 a3 a4 a5 a6 a7 a8 a9 a10 a11 a12 := by
  unfold rf_and at h
  refine br_c (fun e => ?_) (fun e => ?_)
  · rw [if_pos e] at h
    exact h
  · rw [if_neg e] at h
    refine br_c (fun e => ?_) (fun e => ?_)
    · rw [if_pos e] at h
      exact h
    · rw [if_neg e] at h
      refine br_c (fun e => ?_) (fun e => ?_)
      · rw [if_pos e] at h
        exact h
      · rw [if_neg e] at h
        refine rf_doFit hi hj (br_c (fun e => ?_) (fun e => ?_))
        · rw [if_pos e] at h
          exact h
        · rw [if_neg e] at h
          exact h
theorem rf_m84 {post : Int32 → Prop} {g z fo fs sc bc ac : Int32} {a1 a2 a3 a4 a5 a6 a7 a8 a9 a10 a11 a12 : Nat → Int32} {i j : Nat} {x3 x4 z0 z1 : Int32} (hi : i < 11) (hj : j < 11) (h : post (rf_and x3 x4 (if z1 = z0 then 1 else 0) (rf_fit g (a1 i) (a1 j) (nI i) (nI j)))) : wX_mayPair_84 post (nI i) (nI j) x3 x4 z0 z1 g z fo fs sc bc ac a1 a2 a3 a4 a5 a6 a7 a8 a9 a10 a11 a12 :=
  br_c (fun e => rf_m92 hi hj (by rw [if_pos e] at h; exact h)) (fun e => rf_m92 hi hj (by rw [if_neg e] at h; exact h))
theorem rf_m71 {post : Int32 → Prop} {g z fo fs sc bc ac : Int32} {a1 a2 a3 a4 a5 a6 a7 a8 a9 a10 a11 a12 : Nat → Int32} {i j : Nat} {x3 x4 z0 : Int32} (hi : i < 11) (hj : j < 11) (h : post (rf_and x3 x4 (if z0 = (if nI j = fs then 1 else 0) then 1 else 0) (rf_fit g (a1 i) (a1 j) (nI i) (nI j)))) : wX_mayPair_71 post (nI i) (nI j) x3 x4 z0 g z fo fs sc bc ac a1 a2 a3 a4 a5 a6 a7 a8 a9 a10 a11 a12 :=
  br_c (fun e => rf_m84 hi hj (by rw [if_pos e] at h; exact h)) (fun e => rf_m84 hi hj (by rw [if_neg e] at h; exact h))
def rf_kept (fo fs x y : Int32) : Int32 := if fo < 0 then 1 else if x = fo then (if 1 = (if y = fs then (1 : Int32) else 0) then 1 else 0) else (if 0 = (if y = fs then (1 : Int32) else 0) then 1 else 0)
theorem rf_m49 {post : Int32 → Prop} {g z fo fs sc bc ac : Int32} {a1 a2 a3 a4 a5 a6 a7 a8 a9 a10 a11 a12 : Nat → Int32} {i j : Nat} {x3 x4 : Int32} (hi : i < 11) (hj : j < 11) (h : post (rf_and x3 x4 (rf_kept fo fs (nI i) (nI j)) (rf_fit g (a1 i) (a1 j) (nI i) (nI j)))) : wX_mayPair_49 post (nI i) (nI j) x3 x4 g z fo fs sc bc ac a1 a2 a3 a4 a5 a6 a7 a8 a9 a10 a11 a12 := by
  unfold rf_kept at h
  refine br_c (fun e => ?_) (fun e => ?_)
  · rw [if_pos e] at h
    exact rf_m92 hi hj h
  · rw [if_neg e] at h
    refine br_c (fun e => ?_) (fun e => ?_)
    · rw [if_pos e] at h
      exact rf_m71 hi hj h
    · rw [if_neg e] at h
      exact rf_m71 hi hj h
def rf_one (q k : Int32) : Int32 := if q = 0 then 1 else if q = k then 1 else 0
theorem rf_m24 {post : Int32 → Prop} {g z fo fs sc bc ac : Int32} {a1 a2 a3 a4 a5 a6 a7 a8 a9 a10 a11 a12 : Nat → Int32} {i j : Nat} {x3 : Int32} (hi : i < 11) (hj : j < 11) (h : post (rf_and x3 (rf_one (a3 j) 3) (rf_kept fo fs (nI i) (nI j)) (rf_fit g (a1 i) (a1 j) (nI i) (nI j)))) : wX_mayPair_24 post (nI i) (nI j) x3 g z fo fs sc bc ac a1 a2 a3 a4 a5 a6 a7 a8 a9 a10 a11 a12 := by
  unfold rf_one at h
  refine ⟨pk_in j 11 hj, ?_⟩
  rw [nI_clamp (show j < 2 ^ 31 by omega)]
  refine br_c (fun e => ?_) (fun e => ⟨pk_in j 11 hj, ?_⟩)
  · rw [if_pos e] at h
    exact rf_m49 hi hj h
  · rw [if_neg e] at h
    refine br_c (fun e => ?_) (fun e => ?_)
    · rw [if_pos e] at h
      exact rf_m49 hi hj h
    · rw [if_neg e] at h
      exact rf_m49 hi hj h
/-- may places i, j be a pair -/
def rf_may (g fo fs q r x y p k : Int32) : Int32 := rf_and (rf_one q 2) (rf_one r 3) (rf_kept fo fs p k) (rf_fit g x y p k)
theorem rf_mayPair {post : Int32 → Prop} {g z fo fs sc bc ac : Int32} {a1 a2 a3 a4 a5 a6 a7 a8 a9 a10 a11 a12 : Nat → Int32} {i j : Nat} (hi : i < 11) (hj : j < 11) (h : post (rf_may g fo fs (a3 i) (a3 j) (a1 i) (a1 j) (nI i) (nI j))) : wpX_mayPair post (g, z, fo, fs, sc, bc, ac, a1, a2, a3, a4, a5, a6, a7, a8, a9, a10, a11, a12) (nI i) (nI j) := by
  unfold rf_may at h
  refine ⟨pk_in i 11 hi, ?_⟩
  rw [nI_clamp (show i < 2 ^ 31 by omega)]
  refine br_c (fun e => ?_) (fun e => ⟨pk_in i 11 hi, ?_⟩)
  · unfold rf_one at h
    rw [if_pos e] at h
    exact rf_m24 hi hj h
  · refine br_c (fun e' => ?_) (fun e' => ?_)
    · rw [show rf_one (a3 i) 2 = 1 by unfold rf_one; rw [if_neg e, if_pos e']] at h
      exact rf_m24 hi hj h
    · rw [show rf_one (a3 i) 2 = 0 by unfold rf_one; rw [if_neg e, if_neg e']] at h
      exact rf_m24 hi hj h
theorem rf_mbf {post : Int32 → Prop} {g z fo fs sc bc ac : Int32} {a1 a2 a3 a4 a5 a6 a7 a8 a9 a10 a11 a12 : Nat → Int32} {fr : Nat → Bool} {i : Nat} (hi : i < 11) (hf : 1 < a3 i ↔ fr i = false) (h : post (if fr i = true then 1 else 0)) : wpX_mayBeFree post (g, z, fo, fs, sc, bc, ac, a1, a2, a3, a4, a5, a6, a7, a8, a9, a10, a11, a12) (nI i) := by
  refine ⟨pk_in i 11 hi, ?_⟩
  rw [nI_clamp (show i < 2 ^ 31 by omega)]
  refine br_c (fun e => ?_) (fun e => ?_)
  · rw [hf.mp e] at h
    exact h
  · have e' : fr i = true := by
      cases c : fr i
      · exact absurd (hf.mpr c) e
      · rfl
    rw [e'] at h
    exact h
/-- places k .. k + m - 1 may all be free -/
def rf_fr (fr : Nat → Bool) : Nat → Nat → Bool
  | 0, _ => true
  | m + 1, k => fr k && rf_fr fr m (k + 1)
theorem rf_free2 {post : Int32 → Prop} {g z fo fs sc bc ac : Int32} {a1 a2 a3 a4 a5 a6 a7 a8 a9 a10 a11 a12 : Nat → Int32} {fr : Nat → Bool} (hf : ∀ k, k < 4 → (1 < a3 k ↔ fr k = false)) : ∀ m k : Nat, k + m ≤ 4 → post (if rf_fr fr m k = true then 1 else 0) → wX_isFree_2 post (nI (k + m)) g z fo fs sc bc ac a1 a2 a3 a4 a5 a6 a7 a8 a9 a10 a11 a12 (m + 1) (nI k)
  | 0, k, hk, h => br_t (nI_le (Nat.le_refl k) (by omega)) h
  | m + 1, k, hk, h => by
    refine pk_le (k + (m + 1)) k (fun z => absurd z (by omega)) (fun _ => ?_)
    refine rf_mbf (fr := fr) (by omega) (hf k (by omega)) ?_
    cases c : fr k
    · refine br_t rfl ?_
      have e : rf_fr fr (m + 1) k = false := by show (fr k && rf_fr fr m (k + 1)) = false; rw [c]; rfl
      rw [e] at h
      exact h
    · refine br_f (by decide) (nm_r (nI_1 k) ?_)
      have e : rf_fr fr (m + 1) k = rf_fr fr m (k + 1) := by show (fr k && rf_fr fr m (k + 1)) = _; rw [c]; rfl
      rw [e] at h
      rw [show k + (m + 1) = k + 1 + m by omega]
      exact rf_free2 hf m (k + 1) (by omega) h
theorem rf_isFree {post : Int32 → Prop} {g z fo fs sc bc ac : Int32} {a1 a2 a3 a4 a5 a6 a7 a8 a9 a10 a11 a12 : Nat → Int32} {fr : Nat → Bool} (hf : ∀ k, k < 4 → (1 < a3 k ↔ fr k = false)) (m k : Nat) {x y : Int32} (hx : x = nI k) (hy : y = nI (k + m)) (hk : k + m ≤ 4) (h : post (if rf_fr fr m k = true then 1 else 0)) : wpX_isFree post (g, z, fo, fs, sc, bc, ac, a1, a2, a3, a4, a5, a6, a7, a8, a9, a10, a11, a12) x y := by
  subst hx
  subst hy
  exact ⟨m + 1, rf_free2 hf m k hk h⟩
end
section
theorem rf_a191 {post : St2 → Prop} {g z fo fs sc bc ac : Int32} {a1 a2 a3 a4 a5 a6 a7 a8 a9 a10 a11 a12 : Nat → Int32} {i j l : Nat} (hl : l < 3) (hi : i ≤ 4) (hj : j ≤ 4)
    (H : post (g, z, fo, fs, sc, bc, ac, a1, a2, a3, a4, a5, a6, a7, upd a8 (144 * l + 12 * i + j) sc, upd a9 (144 * l + 12 * i + j) bc, upd a10 (144 * l + 12 * i + j) ac, a11, a12)) : wX_solveAny_191 post (nI i) (nI j) (nI l) g z fo fs sc bc ac a1 a2 a3 a4 a5 a6 a7 a8 a9 a10 a11 a12 := by
  refine nm_r (rf_ix3 l i j) ⟨vp_in_nI (by omega) (by decide), nm_r (congrArg (fun k => upd a8 k sc) (nI_clamp (show 144 * l + 12 * i + j < 2 ^ 31 by omega))) ⟨vp_in_nI (by omega) (by decide), nm_r (congrArg (fun k => upd a9 k bc) (nI_clamp (show 144 * l + 12 * i + j < 2 ^ 31 by omega))) ⟨vp_in_nI (by omega) (by decide), nm_r (congrArg (fun k => upd a10 k ac) (nI_clamp (show 144 * l + 12 * i + j < 2 ^ 31 by omega))) H⟩⟩⟩
theorem rf_a99 {post : St2 → Prop} {g z fo fs : Int32} {a1 a2 a3 a4 a5 a6 a7 a8 a9 a10 a11 a12 : Nat → Int32} {i j l r : Nat} {f : Nat → Nat × Nat} {v : Nat × Nat} (hl : l < 3) (hr : r < 3) (hi : i ≤ 4) (hj : j ≤ 4)
    (hf : ∀ k, i < k → k < j → rf_ok (a5 (12 * i + k) + a8 (144 * r + 12 * (k + 1) + j)) (a6 (12 * i + k) * a9 (144 * r + 12 * (k + 1) + j)) (a7 (12 * i + k) * a10 (144 * r + 12 * (k + 1) + j)) (f k) ∧ (f k).1 ≤ 1000 ∧ (f k).2 ≤ 1000)
    (H : ∀ sc bc ac : Int32, rf_ok sc bc ac v → post (g, z, fo, fs, sc, bc, ac, a1, a2, a3, a4, a5, a6, a7, upd a8 (144 * l + 12 * i + j) sc, upd a9 (144 * l + 12 * i + j) bc, upd a10 (144 * l + 12 * i + j) ac, a11, a12)) :
    ∀ (m k : Nat) (sc bc ac : Int32) (p : Nat × Nat), k + m = j → i < k → rf_ok sc bc ac p → p.1 + 1000 * m ≤ 10000 → p.2 ≤ 1000 → rf_f f m k p = v → wX_solveAny_99 post (nI i) (nI j) (nI l) (nI r) (m + 1) (nI k) g z fo fs sc bc ac a1 a2 a3 a4 a5 a6 a7 a8 a9 a10 a11 a12
  | 0, k, sc, bc, ac, p, hk, hik, hp, b1, b2, hv => by
    refine br_t (nI_le (show j ≤ k by omega) (by omega)) (rf_a191 hl hi hj (H _ _ _ ?_))
    have e : p = v := hv
    rw [← e]
    exact hp
  | m + 1, k, sc, bc, ac, p, hk, hik, hp, b1, b2, hv => by
    obtain ⟨h1, h2, h3⟩ := hf k hik (by omega)
    refine pk_le j k (fun z => absurd z (by omega)) (fun _ => nm_r (rf_ix2 i k) (nm_r (rf_ix4 r k j) ?_))
    refine ⟨vp_in_nI (by omega) (by decide), vp_in_nI (by omega) (by decide), nm_e ⟨vp_in_nI (by omega) (by decide), vp_in_nI (by omega) (by decide), vp_in_nI (by omega) (by decide), vp_in_nI (by omega) (by decide), ?_⟩⟩
    rw [nI_clamp (show 12 * i + k < 2 ^ 31 by omega), nI_clamp (show 144 * r + 12 * (k + 1) + j < 2 ^ 31 by omega)]
    have o1 : (rf_o p (f k)).1 ≤ p.1 + (f k).1 := rf_o_le
    refine rf_offer hp h1 (by omega) (by omega) (by omega) (by omega) (fun sc' bc' ac' h' => nm_r (nI_1 k) ?_)
    exact rf_a99 hl hr hi hj hf H m (k + 1) sc' bc' ac' _ (by omega) (by omega) h' (by omega) (rf_o_le2 b2 h3) hv
theorem rf_a81 {post : St2 → Prop} {g z fo fs : Int32} {a1 a2 a3 a4 a5 a6 a7 a8 a9 a10 a11 a12 : Nat → Int32} {i j l : Nat} {f : Nat → Nat × Nat} {v : Nat × Nat} (hl : l < 3) (hij : i < j) (hj : j ≤ 4)
    (hf : ∀ k, i < k → k < j → rf_ok (a5 (12 * i + k) + a8 (144 * (l - 1) + 12 * (k + 1) + j)) (a6 (12 * i + k) * a9 (144 * (l - 1) + 12 * (k + 1) + j)) (a7 (12 * i + k) * a10 (144 * (l - 1) + 12 * (k + 1) + j)) (f k) ∧ (f k).1 ≤ 1000 ∧ (f k).2 ≤ 1000)
    (H : ∀ sc bc ac : Int32, rf_ok sc bc ac v → post (g, z, fo, fs, sc, bc, ac, a1, a2, a3, a4, a5, a6, a7, upd a8 (144 * l + 12 * i + j) sc, upd a9 (144 * l + 12 * i + j) bc, upd a10 (144 * l + 12 * i + j) ac, a11, a12))
    {sc bc ac : Int32} {p : Nat × Nat} (hp : rf_ok sc bc ac p) (b1 : p.1 ≤ 1000) (b2 : p.2 ≤ 1000) (hv : rf_f f (j - 1 - i) (i + 1) p = v) : wX_solveAny_81 post (nI i) (nI j) (nI l) g z fo fs sc bc ac a1 a2 a3 a4 a5 a6 a7 a8 a9 a10 a11 a12 := by
  refine pk_le l 0 (fun z => nm_r (nI_1 i) ⟨j - 1 - i + 1, ?_⟩) (fun z => ?_)
  · have e : l - 1 = 0 := by omega
    rw [e] at hf
    exact rf_a99 (r := 0) hl (by omega) (by omega) hj hf H (j - 1 - i) (i + 1) sc bc ac p (by omega) (by omega) hp (by omega) b2 hv
  · refine nm_r (e' := nI (l - 1)) ?_ (nm_r (nI_1 i) ⟨j - 1 - i + 1, ?_⟩)
    · obtain ⟨l', rfl⟩ : ∃ l', l = l' + 1 := ⟨l - 1, by omega⟩
      exact nI_pred l'
    · exact rf_a99 (r := l - 1) hl (by omega) (by omega) hj hf H (j - 1 - i) (i + 1) sc bc ac p (by omega) (by omega) hp (by omega) b2 hv
/-- what solveAny lays down, by the cells that it reads -/
def rf_av (fr : Nat → Bool) (P : Nat → Nat → Nat × Nat) (A : Nat → Nat → Nat → Nat × Nat) (l i j : Nat) : Nat × Nat :=
  if i = j then (if l = 0 then (1, 0) else (0, 0)) else rf_f (fun k => rf_m (P i k) (A (l - 1) (k + 1) j)) (j - 1 - i) (i + 1) (if fr i = true then rf_o (0, 0) (A l (i + 1) j) else (0, 0))
theorem rf_any {post : St2 → Prop} {g z fo fs sc bc ac : Int32} {a1 a2 a3 a4 a5 a6 a7 a8 a9 a10 a11 a12 : Nat → Int32} {i j l : Nat} {fr : Nat → Bool} {P : Nat → Nat → Nat × Nat} {A : Nat → Nat → Nat → Nat × Nat} (hl : l < 3) (hij : i ≤ j) (hj : j ≤ 4)
    (hfr : ∀ k, k < 4 → (1 < a3 k ↔ fr k = false))
    (bP : ∀ x y, (P x y).1 ≤ 9 ∧ (P x y).2 ≤ 100) (bA : ∀ m x y, (A m x y).1 ≤ 9 ∧ (A m x y).2 ≤ 100)
    (h1 : i < j → rf_ok (a8 (144 * l + 12 * (i + 1) + j)) (a9 (144 * l + 12 * (i + 1) + j)) (a10 (144 * l + 12 * (i + 1) + j)) (A l (i + 1) j))
    (h2 : ∀ k, i < k → k < j → rf_ok (a5 (12 * i + k)) (a6 (12 * i + k)) (a7 (12 * i + k)) (P i k))
    (h3 : ∀ k, i < k → k < j → rf_ok (a8 (144 * (l - 1) + 12 * (k + 1) + j)) (a9 (144 * (l - 1) + 12 * (k + 1) + j)) (a10 (144 * (l - 1) + 12 * (k + 1) + j)) (A (l - 1) (k + 1) j))
    (H : ∀ sc bc ac : Int32, rf_ok sc bc ac (rf_av fr P A l i j) → post (g, z, fo, fs, sc, bc, ac, a1, a2, a3, a4, a5, a6, a7, upd a8 (144 * l + 12 * i + j) sc, upd a9 (144 * l + 12 * i + j) bc, upd a10 (144 * l + 12 * i + j) ac, a11, a12)) :
    wpX_solveAny post (g, z, fo, fs, sc, bc, ac, a1, a2, a3, a4, a5, a6, a7, a8, a9, a10, a11, a12) (nI i) (nI j) (nI l) := by
  refine pk_eq i j (fun e => ?_) (fun e => ?_)
  · have ev : rf_av fr P A l i j = if l = 0 then (1, 0) else (0, 0) := by unfold rf_av; rw [if_pos e]
    rw [ev] at H
    refine pk_eq l 0 (fun e => ?_) (fun e => ?_)
    · rw [if_pos e] at H
      exact rf_offer rf_ok0 (rf_ok1 (n := 0) rfl) (by decide) (by decide) (by decide) (by decide) (fun sc' bc' ac' h' => rf_a191 hl (by omega) hj (H _ _ _ h'))
    · rw [if_neg e] at H
      exact rf_offer rf_ok0 rf_ok0 (by decide) (by decide) (by decide) (by decide) (fun sc' bc' ac' h' => rf_a191 hl (by omega) hj (H _ _ _ h'))
  · have lt : i < j := by omega
    have hf : ∀ k, i < k → k < j → rf_ok (a5 (12 * i + k) + a8 (144 * (l - 1) + 12 * (k + 1) + j)) (a6 (12 * i + k) * a9 (144 * (l - 1) + 12 * (k + 1) + j)) (a7 (12 * i + k) * a10 (144 * (l - 1) + 12 * (k + 1) + j)) (rf_m (P i k) (A (l - 1) (k + 1) j)) ∧ (rf_m (P i k) (A (l - 1) (k + 1) j)).1 ≤ 1000 ∧ (rf_m (P i k) (A (l - 1) (k + 1) j)).2 ≤ 1000 := by
      intro k k1 k2
      refine ⟨rf_okm (h2 k k1 k2) (h3 k k1 k2), ?_, ?_⟩
      · exact Nat.le_trans (Nat.mul_le_mul (bP i k).1 (bA (l - 1) (k + 1) j).1) (by decide)
      · exact Nat.le_trans (Nat.add_le_add (bP i k).2 (bA (l - 1) (k + 1) j).2) (by decide)
    refine rf_mbf (fr := fr) (by omega) (hfr i (by omega)) ?_
    cases c : fr i
    · refine br_t rfl (rf_a81 hl lt hj hf H rf_ok0 (by decide) (by decide) ?_)
      unfold rf_av
      rw [if_neg e, c, if_neg (by decide)]
    · refine br_f (by decide) (nm_r (rf_ix4 l i j) ⟨vp_in_nI (by omega) (by decide), vp_in_nI (by omega) (by decide), vp_in_nI (by omega) (by decide), ?_⟩)
      rw [nI_clamp (show 144 * l + 12 * (i + 1) + j < 2 ^ 31 by omega)]
      have g1 := (bA l (i + 1) j).1
      have g2 := (bA l (i + 1) j).2
      have o1 : (rf_o (0, 0) (A l (i + 1) j)).1 ≤ 0 + (A l (i + 1) j).1 := rf_o_le
      have o2 : (rf_o (0, 0) (A l (i + 1) j)).2 ≤ 100 := rf_o_le2 (by decide) g2
      refine rf_offer rf_ok0 (h1 lt) (by decide) (by omega) (by decide) (by omega) (fun sc' bc' ac' h' => ?_)
      refine rf_a81 hl lt hj hf H h' (by omega) (by omega) ?_
      unfold rf_av
      rw [if_neg e, c, if_pos rfl]
end
section
theorem rf_p148 {post : St2 → Prop} {g z fo fs sc bc ac : Int32} {a1 a2 a3 a4 a5 a6 a7 a8 a9 a10 a11 a12 : Nat → Int32} {i j : Nat} (hi : i < 4) (hj : j < 4)
    (H : post (g, z, fo, fs, sc, bc, ac, a1, a2, a3, a4, upd a5 (12 * i + j) sc, upd a6 (12 * i + j) bc, upd a7 (12 * i + j) ac, a8, a9, a10, a11, a12)) : wX_solvePair_148 post (nI i) (nI j) g z fo fs sc bc ac a1 a2 a3 a4 a5 a6 a7 a8 a9 a10 a11 a12 := by
  have c : (12 * nI i + nI j).toNatClampNeg = 12 * i + j := pk_cl _ (rf_ix2 i j) (by omega)
  have n : vp_in (12 * nI i + nI j) 144 := pk_in (12 * i + j) 144 (by omega) (rf_ix2 i j)
  exact ⟨n, nm_r (congrArg (fun k => upd a5 k sc) c) ⟨n, nm_r (congrArg (fun k => upd a6 k bc) c) ⟨n, nm_r (congrArg (fun k => upd a7 k ac) c) H⟩⟩⟩
/-- no pair -/
theorem rf_pair0 {post : St2 → Prop} {g z fo fs sc bc ac : Int32} {a1 a2 a3 a4 a5 a6 a7 a8 a9 a10 a11 a12 : Nat → Int32} {i j : Nat} (hij : i ≤ j) (hj : j < 4) (h : i < j → rf_may g fo fs (a3 i) (a3 j) (a1 i) (a1 j) (nI i) (nI j) = 0)
    (H : ∀ sc bc ac : Int32, rf_ok sc bc ac (0, 0) → post (g, z, fo, fs, sc, bc, ac, a1, a2, a3, a4, upd a5 (12 * i + j) sc, upd a6 (12 * i + j) bc, upd a7 (12 * i + j) ac, a8, a9, a10, a11, a12)) : wpX_solvePair post (g, z, fo, fs, sc, bc, ac, a1, a2, a3, a4, a5, a6, a7, a8, a9, a10, a11, a12) (nI i) (nI j) := by
  refine pk_le j i (fun z => rf_p148 (by omega) hj (H _ _ _ rf_ok0)) (fun z => ?_)
  refine rf_mayPair (by omega) (by omega) ?_
  rw [h z]
  exact br_t rfl (rf_p148 (by omega) hj (H _ _ _ rf_ok0))
/-- a pair: up to the loop over what is within -/
theorem rf_pairB {post : St2 → Prop} {g z fo fs sc bc ac : Int32} {a1 a2 a3 a4 a5 a6 a7 a8 a9 a10 a11 a12 : Nat → Int32} {fr : Nat → Bool} {i j κ o : Nat} (hij : i < j) (hj : j < 4) (hfr : ∀ k, k < 4 → (1 < a3 k ↔ fr k = false))
    (hm : rf_may g fo fs (a3 i) (a3 j) (a1 i) (a1 j) (nI i) (nI j) = 1) (hk : rf_kind (a1 i) (a1 j) = nI κ) (hκ : κ < 6) (ho : a4 κ = nI o) (bo : o ≤ 1000)
    (K : ∀ sc bc ac : Int32, rf_ok sc bc ac (if rf_fr fr (j - 1 - i) (i + 1) = true then (1, o) else (0, 0)) → ∃ n, wX_solvePair_79 post (nI i) (nI j) (nI o) n (nI (i + 1)) g z fo fs sc bc ac a1 a2 a3 a4 a5 a6 a7 a8 a9 a10 a11 a12) : wpX_solvePair post (g, z, fo, fs, sc, bc, ac, a1, a2, a3, a4, a5, a6, a7, a8, a9, a10, a11, a12) (nI i) (nI j) := by
  refine pk_le j i (fun z => absurd z (by omega)) (fun _ => ?_)
  refine rf_mayPair (by omega) (by omega) ?_
  rw [hm]
  refine br_f (by decide) ⟨pk_in i 11 (by omega), pk_in j 11 (by omega), ?_⟩
  rw [nI_clamp (show i < 2 ^ 31 by omega), nI_clamp (show j < 2 ^ 31 by omega)]
  refine rf_kindOf ?_
  rw [hk]
  refine ⟨pk_in κ 6 hκ, nm_r (e' := nI o) (by rw [nI_clamp (show κ < 2 ^ 31 by omega)]; exact ho) ?_⟩
  refine rf_isFree (fr := fr) hfr (j - 1 - i) (i + 1) (nI_1 i) (congrArg nI (show j = i + 1 + (j - 1 - i) by omega)) (by omega) ?_
  cases c : rf_fr fr (j - 1 - i) (i + 1)
  · rw [c, if_neg (by decide)] at K
    refine br_t rfl (br_t rfl ?_)
    exact rf_offer rf_ok0 rf_ok0 (by decide) (by decide) (by decide) (by decide) (fun sc' bc' ac' h' => nm_r (nI_1 i) (K _ _ _ h'))
  · rw [c, if_pos rfl] at K
    refine br_f (by decide) (br_f (by decide) ?_)
    exact rf_offer (p := (0, 0)) (q := (1, o)) rf_ok0 (rf_ok1 rfl) (by decide) (Nat.le_of_ble_eq_true rfl) (by decide) (by show o ≤ 1000000; omega) (fun sc' bc' ac' h' => nm_r (nI_1 i) (K _ _ _ h'))
/-- the loop's end: no fold has two pairs directly within -/
theorem rf_pairE {post : St2 → Prop} {g z fo fs sc bc ac : Int32} {a1 a2 a3 a4 a5 a6 a7 a8 a9 a10 a11 a12 : Nat → Int32} {i j n : Nat} {x : Int32} {p : Nat × Nat} (hi : i < 4) (hj : j < 4) (hp : rf_ok sc bc ac p) (b1 : p.1 ≤ 1000) (b2 : p.2 ≤ 1000)
    (h0 : ∃ s : Int32, rf_ok s (a9 (288 + 12 * (i + 1) + j)) (a10 (288 + 12 * (i + 1) + j)) (0, 0))
    (H : ∀ sc bc ac : Int32, rf_ok sc bc ac p → post (g, z, fo, fs, sc, bc, ac, a1, a2, a3, a4, upd a5 (12 * i + j) sc, upd a6 (12 * i + j) bc, upd a7 (12 * i + j) ac, a8, a9, a10, a11, a12)) : wX_solvePair_79 post (nI i) (nI j) x (n + 1) (nI j) g z fo fs sc bc ac a1 a2 a3 a4 a5 a6 a7 a8 a9 a10 a11 a12 := by
  refine br_t (nI_le (Nat.le_refl j) (by omega)) (nm_r (rf_ix5 i j) ⟨vp_in_nI (by omega) (by decide), vp_in_nI (by omega) (by decide), vp_in_nI (by omega) (by decide), ?_⟩)
  rw [nI_clamp (show 288 + 12 * (i + 1) + j < 2 ^ 31 by omega)]
  obtain ⟨s, e1, m, e2, m1, _⟩ := h0
  have q0 : rf_ok (x - a4 5 + a8 (288 + 12 * (i + 1) + j)) (a9 (288 + 12 * (i + 1) + j)) (a10 (288 + 12 * (i + 1) + j)) (0, 0) := ⟨e1, m, e2, m1, fun h => absurd rfl h⟩
  refine rf_offer hp q0 (by omega) (by decide) (by omega) (by decide) (fun sc' bc' ac' h' => rf_p148 hi hj (H _ _ _ ?_))
  have e : rf_o p (0, 0) = p := by unfold rf_o; rw [if_pos rfl]
  rw [e] at h'
  exact h'
/-- places 1 and 2 within (0, 3) -/
theorem rf_inner1 {post : St2 → Prop} {g z fo fs sc bc ac : Int32} {a1 a2 a3 a4 a5 a6 a7 a8 a9 a10 a11 a12 : Nat → Int32} {fr : Nat → Bool} {o v : Nat} {p q : Nat × Nat} (hfr : ∀ k, k < 4 → (1 < a3 k ↔ fr k = false)) (hp : rf_ok sc bc ac p) (hq : rf_ok (a5 14) (a6 14) (a7 14) q) (q0 : 0 < q.1) (hv : a4 3 = nI v)
    (b1 : p.1 ≤ 1000) (b2 : p.2 ≤ 1000) (b3 : q.1 ≤ 1000) (b4 : q.2 ≤ 1000) (b5 : o ≤ 1000) (b6 : v ≤ 1000)
    (H : ∀ sc bc ac : Int32, rf_ok sc bc ac (rf_o p (q.1, o + v + q.2)) → post (g, z, fo, fs, sc, bc, ac, a1, a2, a3, a4, a5, a6, a7, a8, a9, a10, a11, a12)) : wpX_offerInner post (g, z, fo, fs, sc, bc, ac, a1, a2, a3, a4, a5, a6, a7, a8, a9, a10, a11, a12) (nI 0) (nI 3) (nI 1) (nI o) := by
  refine rf_isFree (fr := fr) hfr 0 1 rfl rfl (by decide) ?_
  refine br_f (by show ¬ (1 : Int32) = 0; decide) (nm_r (nI_1 1) ⟨2, ?_⟩)
  refine br_f (by decide) (nm_r (rf_ix2 1 2) ⟨pk_in 14 144 (by decide), ?_⟩)
  rw [show (nI (12 * 1 + 2)).toNatClampNeg = 14 from rfl]
  obtain ⟨e1, m, e2, m1, m2⟩ := hq
  obtain ⟨m3, m4⟩ := m2 (by omega)
  refine br_f (by rw [e1]; exact nI_nle q0 (by omega)) ?_
  refine rf_isFree (fr := fr) hfr 0 3 rfl rfl (by decide) ?_
  refine br_f (by show ¬ (1 : Int32) = 0; decide) (br_t rfl (br_t rfl (br_f (by decide) ⟨pk_in 14 144 (by decide), pk_in 14 144 (by decide), pk_in 14 144 (by decide), ?_⟩)))
  rw [show (nI (12 * 1 + 2)).toNatClampNeg = 14 from rfl]
  have hq' : rf_ok (nI o + a4 3 + a5 14) (a6 14) (a7 14) (q.1, o + v + q.2) := ⟨e1, m, e2, m1, fun _ => ⟨m3, by rw [hv, m4, nI_add, nI_add]⟩⟩
  exact rf_offer hp hq' (by omega) (by show q.1 ≤ 1000000; omega) (by omega) (by show o + v + q.2 ≤ 1000000; omega) (fun sc' bc' ac' h' => nm_r (nI_1 2) (br_t (by decide) (H _ _ _ h')))
theorem rf_inner2 {post : St2 → Prop} {g z fo fs sc bc ac : Int32} {a1 a2 a3 a4 a5 a6 a7 a8 a9 a10 a11 a12 : Nat → Int32} {fr : Nat → Bool} {x : Int32} (hfr : ∀ k, k < 4 → (1 < a3 k ↔ fr k = false)) (H : post (g, z, fo, fs, sc, bc, ac, a1, a2, a3, a4, a5, a6, a7, a8, a9, a10, a11, a12)) : wpX_offerInner post (g, z, fo, fs, sc, bc, ac, a1, a2, a3, a4, a5, a6, a7, a8, a9, a10, a11, a12) (nI 0) (nI 3) (nI 2) x := by
  refine rf_isFree (fr := fr) hfr 1 1 rfl rfl (by decide) ?_
  cases c : rf_fr fr 1 1
  · exact br_t rfl H
  · exact br_f (by decide) (nm_r (nI_1 2) ⟨1, br_t (by decide) H⟩)
/-- the pairs' table -/
def rf_P (m fl : Bool) (s t u : Nat) (i j : Nat) : Nat × Nat :=
  if i = 0 ∧ j = 3 then (if fl = true then (2, t + u + s) else (1, t + u + s)) else if i = 1 ∧ j = 2 then (1, s) else if m = true ∧ i = 2 ∧ j = 3 then (1, 1) else (0, 0)
/-- which places may be a pair -/
def rf_mp (m : Bool) (i j : Nat) : Int32 := if i = 0 ∧ j = 3 then 1 else if i = 1 ∧ j = 2 then 1 else if m = true ∧ i = 2 ∧ j = 3 then 1 else 0
/-- what solve reads and doesn't change -/
def rf_E (m : Bool) (fr : Nat → Bool) (s t u : Nat) (g z fo fs : Int32) (a1 a3 a4 : Nat → Int32) : Prop :=
  z = nI 4 ∧ (∀ k, k < 4 → (1 < a3 k ↔ fr k = false)) ∧ (∀ i j, i < j → j < 4 → rf_may g fo fs (a3 i) (a3 j) (a1 i) (a1 j) (nI i) (nI j) = rf_mp m i j) ∧
  (a1 0 = 1 ∧ a1 1 = 0 ∧ a1 2 = 3 ∧ a1 3 = 2) ∧ (a4 0 = nI s ∧ a4 1 = nI t ∧ a4 2 = 1 ∧ a4 3 = nI u) ∧ (s ≤ 20 ∧ t ≤ 20 ∧ u ≤ 20)
theorem rf_pair {post : St2 → Prop} {g z fo fs sc bc ac : Int32} {a1 a2 a3 a4 a5 a6 a7 a8 a9 a10 a11 a12 : Nat → Int32} {m : Bool} {fr : Nat → Bool} {s t u i j : Nat} (E : rf_E m fr s t u g z fo fs a1 a3 a4) (hij : i ≤ j) (hj : j < 4)
    (h1 : i = 0 → j = 3 → rf_ok (a5 14) (a6 14) (a7 14) (1, s))
    (h2 : i < j → ∃ x : Int32, rf_ok x (a9 (288 + 12 * (i + 1) + j)) (a10 (288 + 12 * (i + 1) + j)) (0, 0))
    (H : ∀ sc bc ac : Int32, rf_ok sc bc ac (rf_P m (rf_fr fr 2 1) s t u i j) → post (g, z, fo, fs, sc, bc, ac, a1, a2, a3, a4, upd a5 (12 * i + j) sc, upd a6 (12 * i + j) bc, upd a7 (12 * i + j) ac, a8, a9, a10, a11, a12)) : wpX_solvePair post (g, z, fo, fs, sc, bc, ac, a1, a2, a3, a4, a5, a6, a7, a8, a9, a10, a11, a12) (nI i) (nI j) := by
  obtain ⟨_, hfr, hm, ⟨c0, c1, c2, c3⟩, ⟨d0, d1, d2, d3⟩, s20, t20, u20⟩ := E
  by_cases k1 : i = 0 ∧ j = 3
  · obtain ⟨rfl, rfl⟩ := k1
    refine rf_pairB (κ := 1) (o := t) (fr := fr) (by decide) (by decide) hfr (hm 0 3 (by decide) (by decide)) (by rw [c0, c3]; decide) (by decide) d1 (by omega) (fun sc bc ac h => ⟨3, ?_⟩)
    refine br_f (by decide) (rf_inner1 (fr := fr) (v := u) hfr h (h1 rfl rfl) (Nat.le_of_ble_eq_true rfl) d3 ?_ ?_ (Nat.le_of_ble_eq_true rfl) (by show s ≤ 1000; omega) (by omega) (by omega) (fun sc bc ac h' => nm_r (nI_1 1) ?_))
    · cases rf_fr fr (3 - 1 - 0) (0 + 1)
      · exact Nat.le_of_ble_eq_true rfl
      · exact Nat.le_of_ble_eq_true rfl
    · cases rf_fr fr (3 - 1 - 0) (0 + 1)
      · exact Nat.le_of_ble_eq_true rfl
      · show t ≤ 1000
        omega
    · refine br_f (by decide) (rf_inner2 (fr := fr) hfr (nm_r (nI_1 2) ?_))
      have e : rf_o (if rf_fr fr (3 - 1 - 0) (0 + 1) = true then (1, t) else (0, 0)) (1, t + u + s) = rf_P m (rf_fr fr 2 1) s t u 0 3 := by
        show rf_o (if rf_fr fr 2 1 = true then (1, t) else (0, 0)) (1, t + u + s) = if rf_fr fr 2 1 = true then (2, t + u + s) else (1, t + u + s)
        cases rf_fr fr 2 1
        · rfl
        · show (2, max t (t + u + s)) = (2, t + u + s)
          rw [Nat.max_eq_right (show t ≤ t + u + s by omega)]
      have h'' : rf_ok sc bc ac (rf_P m (rf_fr fr 2 1) s t u 0 3) := by
        rw [← e]
        exact h'
      refine rf_pairE (by decide) (by decide) h'' ?_ ?_ (h2 (by decide)) H
      · show (if rf_fr fr 2 1 = true then (2, t + u + s) else (1, t + u + s)).1 ≤ 1000
        cases rf_fr fr 2 1
        · exact Nat.le_of_ble_eq_true rfl
        · exact Nat.le_of_ble_eq_true rfl
      · show (if rf_fr fr 2 1 = true then (2, t + u + s) else (1, t + u + s)).2 ≤ 1000
        cases rf_fr fr 2 1
        · show t + u + s ≤ 1000
          omega
        · show t + u + s ≤ 1000
          omega
  · by_cases k2 : i = 1 ∧ j = 2
    · obtain ⟨rfl, rfl⟩ := k2
      exact rf_pairB (κ := 0) (o := s) (fr := fr) (by decide) (by decide) hfr (hm 1 2 (by decide) (by decide)) (by rw [c1, c2]; decide) (by decide) d0 (by omega) (fun sc bc ac h => ⟨1, rf_pairE (by decide) (by decide) h (Nat.le_of_ble_eq_true rfl) (by show s ≤ 1000; omega) (h2 (by decide)) H⟩)
    · by_cases k3 : m = true ∧ i = 2 ∧ j = 3
      · obtain ⟨rfl, rfl, rfl⟩ := k3
        exact rf_pairB (κ := 2) (o := 1) (fr := fr) (by decide) (by decide) hfr (hm 2 3 (by decide) (by decide)) (by rw [c2, c3]; decide) (by decide) d2 (by omega) (fun sc bc ac h => ⟨1, rf_pairE (by decide) (by decide) h (Nat.le_of_ble_eq_true rfl) (Nat.le_of_ble_eq_true rfl) (h2 (by decide)) H⟩)
      · have e : rf_P m (rf_fr fr 2 1) s t u i j = (0, 0) := by
          unfold rf_P
          rw [if_neg k1, if_neg k2, if_neg k3]
        rw [e] at H
        refine rf_pair0 hij hj (fun l => ?_) H
        rw [hm i j l hj]
        unfold rf_mp
        rw [if_neg k1, if_neg k2, if_neg k3]
end
section
/-- the cells that stand: all of smaller width, of width w the pairs left of ip, the others left of ia, and at ia those below la -/
def rf_I (P : Nat → Nat → Nat × Nat) (A : Nat → Nat → Nat → Nat × Nat) (w ip ia la : Nat) (a5 a6 a7 a8 a9 a10 : Nat → Int32) : Prop :=
  (∀ x y, x ≤ y → y < 4 → (y + 1 < x + w ∨ (y + 1 = x + w ∧ x < ip)) → rf_ok (a5 (12 * x + y)) (a6 (12 * x + y)) (a7 (12 * x + y)) (P x y)) ∧
  (∀ l x y, l < 3 → x ≤ y → y ≤ 4 → (y < x + w ∨ (y = x + w ∧ (x < ia ∨ (x = ia ∧ l < la)))) → rf_ok (a8 (144 * l + 12 * x + y)) (a9 (144 * l + 12 * x + y)) (a10 (144 * l + 12 * x + y)) (A l x y))
theorem rf_inj {l x y l' x' y' : Nat} (hx : x ≤ 4) (hy : y ≤ 4) (hx' : x' ≤ 4) (hy' : y' ≤ 4) (h : 144 * l + 12 * x + y = 144 * l' + 12 * x' + y') : l = l' ∧ x = x' ∧ y = y' := by
  have e : l = l' := by omega
  subst e
  have e : x = x' := by omega
  subst e
  exact ⟨rfl, rfl, by omega⟩
theorem rf_I_any {P : Nat → Nat → Nat × Nat} {A : Nat → Nat → Nat → Nat × Nat} {w ip i l : Nat} {a5 a6 a7 a8 a9 a10 : Nat → Int32} {sc bc ac : Int32} (I : rf_I P A w ip i l a5 a6 a7 a8 a9 a10) (hl : l < 3) (hi : i + w ≤ 4) (h : rf_ok sc bc ac (A l i (i + w))) :
    rf_I P A w ip i (l + 1) a5 a6 a7 (upd a8 (144 * l + 12 * i + (i + w)) sc) (upd a9 (144 * l + 12 * i + (i + w)) bc) (upd a10 (144 * l + 12 * i + (i + w)) ac) := by
  refine ⟨I.1, fun l' x y h1 h2 h3 h4 => ?_⟩
  by_cases e : l' = l ∧ x = i ∧ y = i + w
  · obtain ⟨rfl, rfl, rfl⟩ := e
    rw [pk_us, pk_us, pk_us]
    exact h
  · have ne : 144 * l' + 12 * x + y ≠ 144 * l + 12 * i + (i + w) := fun z => e (rf_inj (by omega) h3 (by omega) hi z)
    rw [pk_un ne, pk_un ne, pk_un ne]
    exact I.2 l' x y h1 h2 h3 (by omega)
theorem rf_I_pair {P : Nat → Nat → Nat × Nat} {A : Nat → Nat → Nat → Nat × Nat} {w i ia la : Nat} {a5 a6 a7 a8 a9 a10 : Nat → Int32} {sc bc ac : Int32} (I : rf_I P A (w + 1) i ia la a5 a6 a7 a8 a9 a10) (hi : i + w < 4) (h : rf_ok sc bc ac (P i (i + w))) :
    rf_I P A (w + 1) (i + 1) ia la (upd a5 (12 * i + (i + w)) sc) (upd a6 (12 * i + (i + w)) bc) (upd a7 (12 * i + (i + w)) ac) a8 a9 a10 := by
  refine ⟨fun x y h2 h3 h4 => ?_, I.2⟩
  by_cases e : x = i ∧ y = i + w
  · obtain ⟨rfl, rfl⟩ := e
    rw [pk_us, pk_us, pk_us]
    exact h
  · have ne : 12 * x + y ≠ 12 * i + (i + w) := by omega
    rw [pk_un ne, pk_un ne, pk_un ne]
    exact I.1 x y h2 h3 (by omega)
theorem rf_I_w {P : Nat → Nat → Nat × Nat} {A : Nat → Nat → Nat → Nat × Nat} {w ip ia la w' ip' ia' la' : Nat} {a5 a6 a7 a8 a9 a10 : Nat → Int32} (I : rf_I P A w ip ia la a5 a6 a7 a8 a9 a10)
    (h1 : ∀ x y, x ≤ y → y < 4 → (y + 1 < x + w' ∨ (y + 1 = x + w' ∧ x < ip')) → (y + 1 < x + w ∨ (y + 1 = x + w ∧ x < ip)))
    (h2 : ∀ l x y, l < 3 → x ≤ y → y ≤ 4 → (y < x + w' ∨ (y = x + w' ∧ (x < ia' ∨ (x = ia' ∧ l < la')))) → (y < x + w ∨ (y = x + w ∧ (x < ia ∨ (x = ia ∧ l < la))))) : rf_I P A w' ip' ia' la' a5 a6 a7 a8 a9 a10 :=
  ⟨fun x y k1 k2 k3 => I.1 x y k1 k2 (h1 x y k1 k2 k3), fun l x y k1 k2 k3 k4 => I.2 l x y k1 k2 k3 (h2 l x y k1 k2 k3 k4)⟩
/-- the tables meet their equations -/
def rf_C (m : Bool) (fr : Nat → Bool) (s t u : Nat) (A : Nat → Nat → Nat → Nat × Nat) : Prop :=
  (∀ l i j, l < 3 → i ≤ j → j ≤ 4 → rf_av fr (rf_P m (rf_fr fr 2 1) s t u) A l i j = A l i j) ∧ (∀ i j, A 2 i j = (0, 0)) ∧ (∀ l i j, (A l i j).1 ≤ 9 ∧ (A l i j).2 ≤ 100)
theorem rf_bP {m fl : Bool} {s t u : Nat} (hs : s ≤ 20) (ht : t ≤ 20) (hu : u ≤ 20) (x y : Nat) : (rf_P m fl s t u x y).1 ≤ 9 ∧ (rf_P m fl s t u x y).2 ≤ 100 := by
  unfold rf_P
  split
  · split
    · exact ⟨Nat.le_of_ble_eq_true rfl, by show t + u + s ≤ 100; omega⟩
    · exact ⟨Nat.le_of_ble_eq_true rfl, by show t + u + s ≤ 100; omega⟩
  · split
    · exact ⟨Nat.le_of_ble_eq_true rfl, by show s ≤ 100; omega⟩
    · split
      · exact ⟨by decide, by decide⟩
      · exact ⟨by decide, by decide⟩
theorem rf_s38 {post : St2 → Prop} {J2 J12 : Int32 → Int32 → Int32 → Int32 → Int32 → Int32 → Int32 → Int32 → (Nat → Int32) → (Nat → Int32) → (Nat → Int32) → (Nat → Int32) → (Nat → Int32) → (Nat → Int32) → (Nat → Int32) → (Nat → Int32) → (Nat → Int32) → (Nat → Int32) → (Nat → Int32) → (Nat → Int32) → Prop} {g z fo fs : Int32} {a1 a2 a3 a4 a11 a12 : Nat → Int32} {m : Bool} {fr : Nat → Bool} {s t u w i : Nat} {A : Nat → Nat → Nat → Nat × Nat} (E : rf_E m fr s t u g z fo fs a1 a3 a4) (C : rf_C m fr s t u A) (hw : i + w ≤ 4)
    (H : ∀ (sc bc ac : Int32) (a5 a6 a7 a8 a9 a10 : Nat → Int32), rf_I (rf_P m (rf_fr fr 2 1) s t u) A w (i + 1) i 3 a5 a6 a7 a8 a9 a10 → J12 (nI (i + 1)) g z fo fs sc bc ac a1 a2 a3 a4 a5 a6 a7 a8 a9 a10 a11 a12) :
    ∀ (n l : Nat) (sc bc ac : Int32) (a5 a6 a7 a8 a9 a10 : Nat → Int32), l + n = 3 → rf_I (rf_P m (rf_fr fr 2 1) s t u) A w (i + 1) i l a5 a6 a7 a8 a9 a10 → wX_solve_38 post J2 J12 (nI w) (nI i) (n + 1) (nI l) g z fo fs sc bc ac a1 a2 a3 a4 a5 a6 a7 a8 a9 a10 a11 a12
  | 0, l, sc, bc, ac, a5, a6, a7, a8, a9, a10, hl, I => by
    have e : l = 3 := by omega
    subst e
    exact br_t (by decide) (nm_r (nI_1 i) (H _ _ _ _ _ _ _ _ _ I))
  | n + 1, l, sc, bc, ac, a5, a6, a7, a8, a9, a10, hl, I => by
    refine pk_le 3 l (fun z => absurd z (by omega)) (fun _ => ?_)
    rw [nI_add i w]
    have bP : ∀ x y, (rf_P m (rf_fr fr 2 1) s t u x y).1 ≤ 9 ∧ (rf_P m (rf_fr fr 2 1) s t u x y).2 ≤ 100 := rf_bP E.2.2.2.2.2.1 E.2.2.2.2.2.2.1 E.2.2.2.2.2.2.2
    refine rf_any (fr := fr) (P := rf_P m (rf_fr fr 2 1) s t u) (A := A) (by omega) (by omega) hw E.2.1 bP C.2.2 (fun k => I.2 l (i + 1) (i + w) (by omega) (by omega) hw (by omega)) (fun k k1 k2 => I.1 i k (by omega) (by omega) (by omega)) (fun k k1 k2 => I.2 (l - 1) (k + 1) (i + w) (by omega) (by omega) hw (by omega)) (fun sc' bc' ac' h' => nm_r (nI_1 l) ?_)
    rw [C.1 l i (i + w) (by omega) (by omega) hw] at h'
    exact rf_s38 E C hw H n (l + 1) _ _ _ _ _ _ _ _ _ (by omega) (rf_I_any I (by omega) hw h')
theorem rf_s12 {post : St2 → Prop} {J2 : Int32 → Int32 → Int32 → Int32 → Int32 → Int32 → Int32 → Int32 → (Nat → Int32) → (Nat → Int32) → (Nat → Int32) → (Nat → Int32) → (Nat → Int32) → (Nat → Int32) → (Nat → Int32) → (Nat → Int32) → (Nat → Int32) → (Nat → Int32) → (Nat → Int32) → (Nat → Int32) → Prop} {g z fo fs : Int32} {a1 a2 a3 a4 a11 a12 : Nat → Int32} {m : Bool} {fr : Nat → Bool} {s t u w : Nat} {A : Nat → Nat → Nat → Nat × Nat} (E : rf_E m fr s t u g z fo fs a1 a3 a4) (C : rf_C m fr s t u A) (hw : w ≤ 4)
    (H : ∀ (sc bc ac : Int32) (a5 a6 a7 a8 a9 a10 : Nat → Int32), rf_I (rf_P m (rf_fr fr 2 1) s t u) A w (5 - w) (5 - w) 0 a5 a6 a7 a8 a9 a10 → J2 (nI (w + 1)) g z fo fs sc bc ac a1 a2 a3 a4 a5 a6 a7 a8 a9 a10 a11 a12) :
    ∀ (n i : Nat) (sc bc ac : Int32) (a5 a6 a7 a8 a9 a10 : Nat → Int32), i + n = 5 - w → rf_I (rf_P m (rf_fr fr 2 1) s t u) A w i i 0 a5 a6 a7 a8 a9 a10 → wX_solve_12 post J2 (nI w) (n + 1) (nI i) g z fo fs sc bc ac a1 a2 a3 a4 a5 a6 a7 a8 a9 a10 a11 a12
  | 0, i, sc, bc, ac, a5, a6, a7, a8, a9, a10, hi, I => by
    have e : i = 5 - w := by omega
    refine pk_lt 4 (i + w) (fun _ => nm_r (nI_1 w) (H _ _ _ _ _ _ _ _ _ ?_)) (fun k => absurd k (by omega)) E.1 (nI_add i w)
    rw [← e]
    exact I
  | n + 1, i, sc, bc, ac, a5, a6, a7, a8, a9, a10, hi, I => by
    refine pk_lt 4 (i + w) (fun k => absurd k (by omega)) (fun _ => ?_) E.1 (nI_add i w)
    have next : ∀ (sc bc ac : Int32) (a5 a6 a7 a8 a9 a10 : Nat → Int32), rf_I (rf_P m (rf_fr fr 2 1) s t u) A w (i + 1) i 3 a5 a6 a7 a8 a9 a10 → wX_solve_12 post J2 (nI w) (n + 1) (nI (i + 1)) g z fo fs sc bc ac a1 a2 a3 a4 a5 a6 a7 a8 a9 a10 a11 a12 := fun sc bc ac a5 a6 a7 a8 a9 a10 I' => rf_s12 E C hw H n (i + 1) sc bc ac a5 a6 a7 a8 a9 a10 (by omega) (rf_I_w I' (fun x y k1 k2 k3 => k3) (fun l x y k1 k2 k3 k4 => by omega))
    refine pk_le w 0 (fun w0 => ⟨4, ?_⟩) (fun w0 => ?_)
    · exact rf_s38 E C (by omega) next 3 0 _ _ _ _ _ _ _ _ _ (by omega) (rf_I_w I (fun x y k1 k2 k3 => by omega) (fun l x y k1 k2 k3 k4 => k4))
    · obtain ⟨v, rfl⟩ : ∃ v, w = v + 1 := ⟨w - 1, by omega⟩
      have e : nI i + nI (v + 1) - 1 = nI (i + v) := by
        rw [nI_add]
        exact nI_pred (i + v)
      rw [e]
      refine rf_pair (m := m) (fr := fr) (s := s) (t := t) (u := u) E (by omega) (by omega) (fun k1 k2 => ?_) (fun k => ⟨a8 (144 * 2 + 12 * (i + 1) + (i + v)), ?_⟩) (fun sc' bc' ac' h' => ⟨4, ?_⟩)
      · exact I.1 1 2 (by decide) (by decide) (by omega)
      · have q := I.2 2 (i + 1) (i + v) (by decide) (by omega) (by omega) (by omega)
        rw [C.2.1] at q
        exact q
      · exact rf_s38 E C (by omega) next 3 0 _ _ _ _ _ _ _ _ _ (by omega) (rf_I_pair I (by omega) h')
theorem rf_s2 {post : St2 → Prop} {g z fo fs : Int32} {a1 a2 a3 a4 a11 a12 : Nat → Int32} {m : Bool} {fr : Nat → Bool} {s t u : Nat} {A : Nat → Nat → Nat → Nat × Nat} (E : rf_E m fr s t u g z fo fs a1 a3 a4) (C : rf_C m fr s t u A)
    (H : ∀ (sc bc ac : Int32) (a5 a6 a7 a8 a9 a10 : Nat → Int32), rf_ok (a8 4) (a9 4) (a10 4) (A 0 0 4) → post (g, z, fo, fs, sc, bc, ac, a1, a2, a3, a4, a5, a6, a7, a8, a9, a10, a11, a12)) :
    ∀ (n w : Nat) (sc bc ac : Int32) (a5 a6 a7 a8 a9 a10 : Nat → Int32), w + n = 5 → rf_I (rf_P m (rf_fr fr 2 1) s t u) A w 0 0 0 a5 a6 a7 a8 a9 a10 → wX_solve_2 post (n + 1) (nI w) g z fo fs sc bc ac a1 a2 a3 a4 a5 a6 a7 a8 a9 a10 a11 a12
  | 0, w, sc, bc, ac, a5, a6, a7, a8, a9, a10, hw, I =>
    pk_lt 4 w (fun _ => H _ _ _ _ _ _ _ _ _ (I.2 0 0 4 (by decide) (by decide) (by decide) (by omega))) (fun k => absurd k (by omega)) E.1
  | n + 1, w, sc, bc, ac, a5, a6, a7, a8, a9, a10, hw, I =>
    pk_lt 4 w (fun k => absurd k (by omega)) (fun _ => ⟨5 - w + 1, rf_s12 E C (by omega) (fun sc bc ac a5 a6 a7 a8 a9 a10 I' => rf_s2 E C H n (w + 1) sc bc ac a5 a6 a7 a8 a9 a10 (by omega) (rf_I_w I' (fun x y k1 k2 k3 => by omega) (fun l x y k1 k2 k3 k4 => by omega))) (5 - w) 0 _ _ _ _ _ _ _ _ _ (by omega) I⟩) E.1
theorem rf_solve {post : St2 → Prop} {g z fo fs sc bc ac : Int32} {a1 a2 a3 a4 a5 a6 a7 a8 a9 a10 a11 a12 : Nat → Int32} {m : Bool} {fr : Nat → Bool} {s t u : Nat} {A : Nat → Nat → Nat → Nat × Nat} (E : rf_E m fr s t u g z fo fs a1 a3 a4) (C : rf_C m fr s t u A)
    (H : ∀ (sc bc ac : Int32) (a5 a6 a7 a8 a9 a10 : Nat → Int32), rf_ok (a8 4) (a9 4) (a10 4) (A 0 0 4) → post (g, z, fo, fs, sc, bc, ac, a1, a2, a3, a4, a5, a6, a7, a8, a9, a10, a11, a12)) : wpX_solve post (g, z, fo, fs, sc, bc, ac, a1, a2, a3, a4, a5, a6, a7, a8, a9, a10, a11, a12) :=
  ⟨6, rf_s2 E C H 5 0 _ _ _ _ _ _ _ _ _ rfl ⟨fun x y k1 k2 k3 => absurd k3 (by omega), fun l x y k1 k2 k3 k4 => absurd k4 (by omega)⟩⟩
end
section
/-- asked 2 2 3 3 -/
def rf_A1 (s t u l i j : Nat) : Nat × Nat :=
  if 2 ≤ l then (0, 0) else if i = j then (if l = 0 then (1, 0) else (0, 0)) else if i = 1 ∧ j = 3 then (1, s) else if i = 0 ∧ j = 4 then (1, t + u + s) else (0, 0)
/-- asked 2 0 0 3, the pair (0, 3) held -/
def rf_A2 (s t u l i j : Nat) : Nat × Nat :=
  if 2 ≤ l then (0, 0) else if i = j then (if l = 0 then (1, 0) else (0, 0)) else if i = 0 ∧ j = 4 then (2, t + u + s) else
  if i = 1 ∧ j = 3 then (if l = 0 then (2, s) else (1, s)) else if i = 1 ∧ j = 2 then (if l = 0 then (1, 0) else (0, 0)) else if i = 2 ∧ j = 3 then (if l = 0 then (1, 0) else (0, 0)) else (0, 0)
/-- nothing asked -/
def rf_A3 (s t u l i j : Nat) : Nat × Nat :=
  if 2 ≤ l then (0, 0) else if i = j then (if l = 0 then (1, 0) else (0, 0)) else if i = 0 ∧ j = 4 then (if l = 0 then (5, max 1 (t + u + s)) else (4, max 1 (t + u + s))) else
  if i = 1 ∧ j = 4 then (if l = 0 then (3, max 1 s) else (2, max 1 s)) else if i = 0 ∧ j = 3 then (if l = 0 then (2, s) else (1, s)) else
  if i = 1 ∧ j = 3 then (if l = 0 then (2, s) else (1, s)) else if i = 2 ∧ j = 4 then (if l = 0 then (2, 1) else (1, 1)) else (if l = 0 then (1, 0) else (0, 0))
theorem rf_cases {Q : Nat → Nat → Nat → Prop} (h : ∀ l, l < 3 → Q l 0 0 ∧ Q l 1 1 ∧ Q l 2 2 ∧ Q l 3 3 ∧ Q l 4 4 ∧ Q l 0 1 ∧ Q l 1 2 ∧ Q l 2 3 ∧ Q l 3 4 ∧ Q l 0 2 ∧ Q l 1 3 ∧ Q l 2 4 ∧ Q l 0 3 ∧ Q l 1 4 ∧ Q l 0 4) (l i j : Nat) (hl : l < 3) (hij : i ≤ j) (hj : j ≤ 4) : Q l i j := by
  obtain ⟨q1, q2, q3, q4, q5, q6, q7, q8, q9, q10, q11, q12, q13, q14, q15⟩ := h l hl
  have c : (i = 0 ∧ j = 0) ∨ (i = 1 ∧ j = 1) ∨ (i = 2 ∧ j = 2) ∨ (i = 3 ∧ j = 3) ∨ (i = 4 ∧ j = 4) ∨ (i = 0 ∧ j = 1) ∨ (i = 1 ∧ j = 2) ∨ (i = 2 ∧ j = 3) ∨ (i = 3 ∧ j = 4) ∨ (i = 0 ∧ j = 2) ∨ (i = 1 ∧ j = 3) ∨ (i = 2 ∧ j = 4) ∨ (i = 0 ∧ j = 3) ∨ (i = 1 ∧ j = 4) ∨ (i = 0 ∧ j = 4) := by omega
  rcases c with ⟨rfl, rfl⟩ | ⟨rfl, rfl⟩ | ⟨rfl, rfl⟩ | ⟨rfl, rfl⟩ | ⟨rfl, rfl⟩ | ⟨rfl, rfl⟩ | ⟨rfl, rfl⟩ | ⟨rfl, rfl⟩ | ⟨rfl, rfl⟩ | ⟨rfl, rfl⟩ | ⟨rfl, rfl⟩ | ⟨rfl, rfl⟩ | ⟨rfl, rfl⟩ | ⟨rfl, rfl⟩ | ⟨rfl, rfl⟩ <;> assumption
theorem rf_C1 {s t u : Nat} (hs : s ≤ 20) (ht : t ≤ 20) (hu : u ≤ 20) : rf_C false (fun _ => false) s t u (rf_A1 s t u) := by
  refine ⟨rf_cases (fun l hl => ?_), fun i j => ?_, fun l i j => ?_⟩
  · have c : l = 0 ∨ l = 1 ∨ l = 2 := by omega
    rcases c with rfl | rfl | rfl <;> refine ⟨?_, ?_, ?_, ?_, ?_, ?_, ?_, ?_, ?_, ?_, ?_, ?_, ?_, ?_, ?_⟩ <;> simp [rf_av, rf_f, rf_m, rf_o, rf_P, rf_fr, rf_A1] <;> omega
  · simp [rf_A1]
  · unfold rf_A1
    repeat' split
    all_goals (constructor <;> dsimp only <;> omega)
theorem rf_C2 {s t u : Nat} (hs : s ≤ 20) (ht : t ≤ 20) (hu : u ≤ 20) : rf_C false (fun k => k == 1 || k == 2) s t u (rf_A2 s t u) := by
  refine ⟨rf_cases (fun l hl => ?_), fun i j => ?_, fun l i j => ?_⟩
  · have c : l = 0 ∨ l = 1 ∨ l = 2 := by omega
    rcases c with rfl | rfl | rfl <;> refine ⟨?_, ?_, ?_, ?_, ?_, ?_, ?_, ?_, ?_, ?_, ?_, ?_, ?_, ?_, ?_⟩ <;> simp [rf_av, rf_f, rf_m, rf_o, rf_P, rf_fr, rf_A2] <;> omega
  · simp [rf_A2]
  · unfold rf_A2
    repeat' split
    all_goals (constructor <;> dsimp only <;> omega)
theorem rf_C3 {s t u : Nat} (hs : s ≤ 20) (ht : t ≤ 20) (hu : u ≤ 20) : rf_C true (fun _ => true) s t u (rf_A3 s t u) := by
  refine ⟨rf_cases (fun l hl => ?_), fun i j => ?_, fun l i j => ?_⟩
  · have c : l = 0 ∨ l = 1 ∨ l = 2 := by omega
    rcases c with rfl | rfl | rfl <;> refine ⟨?_, ?_, ?_, ?_, ?_, ?_, ?_, ?_, ?_, ?_, ?_, ?_, ?_, ?_, ?_⟩ <;> simp [rf_av, rf_f, rf_m, rf_o, rf_P, rf_fr, rf_A3] <;> omega
  · simp [rf_A3]
  · unfold rf_A3
    repeat' split
    all_goals (constructor <;> dsimp only <;> omega)
end
section
/-- what the law's calls leave alone from the first scoreOf on -/
def rf_D (s t u : Nat) (a1 a2 a4 : Nat → Int32) : Prop :=
  (a1 0 = 1 ∧ a1 1 = 0 ∧ a1 2 = 3 ∧ a1 3 = 2) ∧ (a2 0 = 0 ∧ a2 1 = 0 ∧ a2 2 = 0 ∧ a2 3 = 0) ∧ (a4 0 = nI s ∧ a4 1 = nI t ∧ a4 2 = 1 ∧ a4 3 = nI u) ∧ (s ≤ 20 ∧ t ≤ 20 ∧ u ≤ 20)
theorem rf_mkE {m : Bool} {fr : Nat → Bool} {s t u : Nat} {g fo fs q0 q1 q2 q3 : Int32} {a1 a2 a3 a4 : Nat → Int32} (D : rf_D s t u a1 a2 a4) (h0 : a3 0 = q0) (h1 : a3 1 = q1) (h2 : a3 2 = q2) (h3 : a3 3 = q3)
    (kf : (1 < q0 ↔ fr 0 = false) ∧ (1 < q1 ↔ fr 1 = false) ∧ (1 < q2 ↔ fr 2 = false) ∧ (1 < q3 ↔ fr 3 = false))
    (km : rf_may g fo fs q0 q1 1 0 (nI 0) (nI 1) = rf_mp m 0 1 ∧ rf_may g fo fs q0 q2 1 3 (nI 0) (nI 2) = rf_mp m 0 2 ∧ rf_may g fo fs q0 q3 1 2 (nI 0) (nI 3) = rf_mp m 0 3 ∧
      rf_may g fo fs q1 q2 0 3 (nI 1) (nI 2) = rf_mp m 1 2 ∧ rf_may g fo fs q1 q3 0 2 (nI 1) (nI 3) = rf_mp m 1 3 ∧ rf_may g fo fs q2 q3 3 2 (nI 2) (nI 3) = rf_mp m 2 3) :
    rf_E m fr s t u g (nI 4) fo fs a1 a3 a4 := by
  obtain ⟨⟨c0, c1, c2, c3⟩, _, hd, hb⟩ := D
  obtain ⟨f0, f1, f2, f3⟩ := kf
  obtain ⟨m1, m2, m3, m4, m5, m6⟩ := km
  refine ⟨rfl, fun k hk => ?_, fun i j hij hj => ?_, ⟨c0, c1, c2, c3⟩, hd, hb⟩
  · have c : k = 0 ∨ k = 1 ∨ k = 2 ∨ k = 3 := by omega
    rcases c with rfl | rfl | rfl | rfl
    · rw [h0]; exact f0
    · rw [h1]; exact f1
    · rw [h2]; exact f2
    · rw [h3]; exact f3
  · have c : (i = 0 ∧ j = 1) ∨ (i = 0 ∧ j = 2) ∨ (i = 0 ∧ j = 3) ∨ (i = 1 ∧ j = 2) ∨ (i = 1 ∧ j = 3) ∨ (i = 2 ∧ j = 3) := by omega
    rcases c with ⟨rfl, rfl⟩ | ⟨rfl, rfl⟩ | ⟨rfl, rfl⟩ | ⟨rfl, rfl⟩ | ⟨rfl, rfl⟩ | ⟨rfl, rfl⟩
    · rw [h0, h1, c0, c1]; exact m1
    · rw [h0, h2, c0, c2]; exact m2
    · rw [h0, h3, c0, c3]; exact m3
    · rw [h1, h2, c1, c2]; exact m4
    · rw [h1, h3, c1, c3]; exact m5
    · rw [h2, h3, c2, c3]; exact m6
/-- scoreOf(44) -/
theorem rf_scoreOf {post : Int32 → St2 → Prop} {sc bc ac : Int32} {a1 a2 a3 a4 a5 a6 a7 a8 a9 a10 a11 a12 : Nat → Int32} {s t u : Nat} (D : rf_D s t u a1 a2 a4)
    (H : ∀ (sc bc ac : Int32) (a3 a5 a6 a7 a8 a9 a10 : Nat → Int32), post (nI (t + u + s)) (0, nI 4, (-1), 0, sc, bc, ac, a1, a2, a3, a4, a5, a6, a7, a8, a9, a10, a11, a12)) : wpX_scoreOf post (0, nI 4, 0, 0, sc, bc, ac, a1, a2, a3, a4, a5, a6, a7, a8, a9, a10, a11, a12) 44 := by
  refine ⟨5, br_f (by decide) (nm_r (e' := 3) (by decide) (nm_r (e' := 1) (by decide) (br_f (by decide) (nm_r (e' := 9) (by decide) (nm_r (e' := 2) (by decide) (br_f (by decide) (nm_r (e' := 27) (by decide) (nm_r (e' := 3) (by decide) (br_f (by decide) (nm_r (e' := 81) (by decide) (nm_r (e' := 4) (by decide) ?_)))))))))))⟩
  refine br_t (by decide) (br_f (by decide) (br_t (by decide) (nm_r (e' := 3) (by decide) ⟨5, ?_⟩)))
  refine br_f (by decide) ⟨by decide, pk_in 3 11 (by decide), nm_r (e' := upd a3 3 3) (congrArg (upd a3 3) (by decide)) ⟨by decide, nm_r (e' := 14) (by decide) (nm_r (e' := 2) (by decide) ?_)⟩⟩
  refine br_f (by decide) ⟨by decide, pk_in 2 11 (by decide), nm_r (e' := upd (upd a3 3 3) 2 3) (congrArg (upd (upd a3 3 3) 2) (by decide)) ⟨by decide, nm_r (e' := 4) (by decide) (nm_r (e' := 1) (by decide) ?_)⟩⟩
  refine br_f (by decide) ⟨by decide, pk_in 1 11 (by decide), nm_r (e' := upd (upd (upd a3 3 3) 2 3) 1 2) (congrArg (upd (upd (upd a3 3 3) 2 3) 1) (by decide)) ⟨by decide, nm_r (e' := 1) (by decide) (nm_r (e' := 0) (by decide) ?_)⟩⟩
  refine br_f (by decide) ⟨by decide, pk_in 0 11 (by decide), nm_r (e' := upd (upd (upd (upd a3 3 3) 2 3) 1 2) 0 2) (congrArg (upd (upd (upd (upd a3 3 3) 2 3) 1 2) 0) (by decide)) ⟨by decide, nm_r (e' := 0) (by decide) (nm_r (e' := (-1)) (by decide) ?_)⟩⟩
  refine br_t (by decide) (rf_solve (m := false) (fr := fun _ => false) (s := s) (t := t) (u := u) (A := rf_A1 s t u) ?_ (rf_C1 D.2.2.2.1 D.2.2.2.2.1 D.2.2.2.2.2) (fun sc bc ac a5 a6 a7 a8 a9 a10 h => ⟨pk_in 4 432 (by decide), ?_⟩))
  · exact rf_mkE (q0 := 2) (q1 := 2) (q2 := 3) (q3 := 3) D rfl rfl rfl rfl (by decide) (by decide)
  · have h' : rf_ok (a8 4) (a9 4) (a10 4) (1, t + u + s) := h
    obtain ⟨e1, n, _, _, e2⟩ := h'
    have e1' : a10 4 = nI 1 := e1
    rw [show (nI 4).toNatClampNeg = 4 from rfl]
    refine br_f (by rw [e1']; decide) ⟨pk_in 4 432 (by decide), ?_⟩
    rw [(e2 Nat.one_ne_zero).2]
    exact H _ _ _ _ _ _ _ _ _ _
theorem rf_takeHeld {post : St2 → Prop} {g fo fs sc bc ac : Int32} {a1 a2 a3 a4 a5 a6 a7 a8 a9 a10 a11 a12 : Nat → Int32} (H : post (g, nI 4, (-1), fs, sc, bc, ac, a1, a2, upd (upd (upd (upd a3 0 (a2 0)) 1 (a2 1)) 2 (a2 2)) 3 (a2 3), a4, a5, a6, a7, a8, a9, a10, a11, a12)) : wpX_takeHeld post (g, nI 4, fo, fs, sc, bc, ac, a1, a2, a3, a4, a5, a6, a7, a8, a9, a10, a11, a12) :=
  ⟨5, br_f (by decide) ⟨pk_in 0 11 (by decide), pk_in 0 11 (by decide), nm_r (e' := upd a3 0 (a2 0)) rfl (nm_r (e' := 1) (by decide)
    (br_f (by decide) ⟨pk_in 1 11 (by decide), pk_in 1 11 (by decide), nm_r (e' := upd (upd a3 0 (a2 0)) 1 (a2 1)) rfl (nm_r (e' := 2) (by decide)
    (br_f (by decide) ⟨pk_in 2 11 (by decide), pk_in 2 11 (by decide), nm_r (e' := upd (upd (upd a3 0 (a2 0)) 1 (a2 1)) 2 (a2 2)) rfl (nm_r (e' := 3) (by decide)
    (br_f (by decide) ⟨pk_in 3 11 (by decide), pk_in 3 11 (by decide), nm_r (e' := upd (upd (upd (upd a3 0 (a2 0)) 1 (a2 1)) 2 (a2 2)) 3 (a2 3)) rfl (nm_r (e' := 4) (by decide)
    (br_t (by decide) H))⟩))⟩))⟩))⟩⟩
theorem rf_isPlace {post : Int32 → Prop} {g fo fs sc bc ac : Int32} {a1 a2 a3 a4 a5 a6 a7 a8 a9 a10 a11 a12 : Nat → Int32} {x : Int32} (h1 : ¬ x < 0) (h2 : ¬ nI 4 ≤ x) (h : post 1) : wpX_isPlace post (g, nI 4, fo, fs, sc, bc, ac, a1, a2, a3, a4, a5, a6, a7, a8, a9, a10, a11, a12) x :=
  br_f h1 (br_f h2 h)
/-- solveWith(0, 3) -/
theorem rf_solveWith {post : Int32 → St2 → Prop} {fo fs sc bc ac : Int32} {a1 a2 a3 a4 a5 a6 a7 a8 a9 a10 a11 a12 : Nat → Int32} {s t u : Nat} (D : rf_D s t u a1 a2 a4)
    (H : ∀ (sc bc ac : Int32) (a3 a5 a6 a7 a8 a9 a10 : Nat → Int32), rf_ok (a8 4) (a9 4) (a10 4) (2, t + u + s) → post 1 (0, nI 4, 0, 3, sc, bc, ac, a1, a2, a3, a4, a5, a6, a7, a8, a9, a10, a11, a12)) : wpX_solveWith post (0, nI 4, fo, fs, sc, bc, ac, a1, a2, a3, a4, a5, a6, a7, a8, a9, a10, a11, a12) 0 3 := by
  refine rf_takeHeld (br_f (by decide) ⟨pk_in 0 11 (by decide), br_t D.2.1.1 ?_⟩)
  refine ⟨pk_in 3 11 (by decide), br_t D.2.1.2.2.2 ?_⟩
  refine ⟨pk_in 0 11 (by decide), nm_e ⟨pk_in 3 11 (by decide), nm_e ?_⟩⟩
  refine rf_solve (m := false) (fr := fun k => k == 1 || k == 2) (s := s) (t := t) (u := u) (A := rf_A2 s t u) ?_ (rf_C2 D.2.2.2.1 D.2.2.2.2.1 D.2.2.2.2.2) (fun sc bc ac a5 a6 a7 a8 a9 a10 h => ⟨pk_in 4 432 (by decide), ?_⟩)
  · exact rf_mkE (q0 := 2) (q1 := 0) (q2 := 0) (q3 := 3) D rfl D.2.1.2.1 D.2.1.2.2.1 rfl (by decide) (by decide)
  · rw [show (nI 4).toNatClampNeg = 4 from rfl]
    have e1 : a10 4 = nI 2 := h.1
    refine br_f (by rw [e1]; decide) ?_
    exact H _ _ _ _ _ _ _ _ _ _ h
theorem rf_foldsWith {post : Int32 → St2 → Prop} {fo fs sc bc ac : Int32} {a1 a2 a3 a4 a5 a6 a7 a8 a9 a10 a11 a12 : Nat → Int32} {s t u : Nat} (D : rf_D s t u a1 a2 a4)
    (H : ∀ (sc bc ac : Int32) (a3 a5 a6 a7 a8 a9 a10 : Nat → Int32), post (nI 2) (0, nI 4, 0, 3, sc, bc, ac, a1, a2, a3, a4, a5, a6, a7, a8, a9, a10, a11, a12)) : wpX_foldsWith post (0, nI 4, fo, fs, sc, bc, ac, a1, a2, a3, a4, a5, a6, a7, a8, a9, a10, a11, a12) 0 3 := by
  unfold wpX_foldsWith
  refine rf_isPlace (by decide) (by decide) (br_f (by decide) (rf_isPlace (by decide) (by decide) (br_f (by decide) ?_)))
  refine rf_solveWith D (fun sc bc ac a3 a5 a6 a7 a8 a9 a10 h => br_f (by decide) ⟨pk_in 4 432 (by decide), ?_⟩)
  rw [show (nI 4).toNatClampNeg = 4 from rfl, show a10 4 = nI 2 from h.1]
  exact H _ _ _ _ _ _ _ _ _ _
theorem rf_bestWith {post : Int32 → St2 → Prop} {fo fs sc bc ac : Int32} {a1 a2 a3 a4 a5 a6 a7 a8 a9 a10 a11 a12 : Nat → Int32} {s t u : Nat} (D : rf_D s t u a1 a2 a4)
    (H : ∀ (sc bc ac : Int32) (a3 a5 a6 a7 a8 a9 a10 : Nat → Int32), post (nI (t + u + s)) (0, nI 4, 0, 3, sc, bc, ac, a1, a2, a3, a4, a5, a6, a7, a8, a9, a10, a11, a12)) : wpX_bestWith post (0, nI 4, fo, fs, sc, bc, ac, a1, a2, a3, a4, a5, a6, a7, a8, a9, a10, a11, a12) 0 3 := by
  unfold wpX_bestWith
  refine rf_isPlace (by decide) (by decide) (br_f (by decide) (rf_isPlace (by decide) (by decide) (br_f (by decide) ?_)))
  refine rf_solveWith D (fun sc bc ac a3 a5 a6 a7 a8 a9 a10 h => br_f (by decide) ⟨pk_in 4 432 (by decide), ?_⟩)
  obtain ⟨_, n, _, _, e2⟩ := h
  rw [show (nI 4).toNatClampNeg = 4 from rfl, (e2 (Nat.succ_ne_zero 1)).2]
  exact H _ _ _ _ _ _ _ _ _ _
theorem rf_best {post : Int32 → St2 → Prop} {fo sc bc ac : Int32} {a1 a2 a3 a4 a5 a6 a7 a8 a9 a10 a11 a12 : Nat → Int32} {s t u : Nat} (D : rf_D s t u a1 a2 a4)
    (H : ∀ (sc bc ac : Int32) (a3 a5 a6 a7 a8 a9 a10 : Nat → Int32), post (nI (max 1 (t + u + s))) (0, nI 4, (-1), 3, sc, bc, ac, a1, a2, a3, a4, a5, a6, a7, a8, a9, a10, a11, a12)) : wpX_best post (0, nI 4, fo, 3, sc, bc, ac, a1, a2, a3, a4, a5, a6, a7, a8, a9, a10, a11, a12) := by
  refine rf_takeHeld ?_
  refine rf_solve (m := true) (fr := fun _ => true) (s := s) (t := t) (u := u) (A := rf_A3 s t u) ?_ (rf_C3 D.2.2.2.1 D.2.2.2.2.1 D.2.2.2.2.2) (fun sc bc ac a5 a6 a7 a8 a9 a10 h => ⟨pk_in 4 432 (by decide), ?_⟩)
  · exact rf_mkE (q0 := 0) (q1 := 0) (q2 := 0) (q3 := 0) D D.2.1.1 D.2.1.2.1 D.2.1.2.2.1 D.2.1.2.2.2 (by decide) (by decide)
  · have h' : rf_ok (a8 4) (a9 4) (a10 4) (5, max 1 (t + u + s)) := h
    obtain ⟨e1, n, _, _, e2⟩ := h'
    have e1' : a10 4 = nI 5 := e1
    rw [show (nI 4).toNatClampNeg = 4 from rfl]
    refine br_f (by rw [e1']; decide) ⟨pk_in 4 432 (by decide), ?_⟩
    rw [(e2 (Nat.succ_ne_zero 4)).2]
    exact H _ _ _ _ _ _ _ _ _ _
end
section
theorem rf_135 {post : Int32 → St0 → Prop} {mc ms kc ks : Nat} {x8 z0 : Int32} {sc bc ac : Int32} {a1 a2 a3 a4 a5 a6 a7 a8 a9 a10 a11 a12 : Nat → Int32} {s t u : Nat} (D : rf_D s t u a1 a2 a4) (h8 : x8 = nI (t + u + s)) (h0 : z0 = nI (max 1 (t + u + s))) (H : post 1 ()) :
    wL_lawOf_135 post mc ms x8 z0 kc ks 0 (nI 4) 0 0 sc bc ac a1 a2 a3 a4 a5 a6 a7 a8 a9 a10 a11 a12 := by
  refine rf_scoreOf D (fun sc bc ac a3 a5 a6 a7 a8 a9 a10 => br_t h8.symm ?_)
  refine rf_foldsWith D (fun sc bc ac a3 a5 a6 a7 a8 a9 a10 => br_t rfl ?_)
  refine rf_bestWith D (fun sc bc ac a3 a5 a6 a7 a8 a9 a10 => br_t h8.symm ?_)
  exact rf_best D (fun sc bc ac a3 a5 a6 a7 a8 a9 a10 => br_t h0.symm H)
theorem rf_init {post : St2 → Prop} (H : post (0, 0, 0, 0, 0, 0, 0, (fun _ => 0), (fun _ => 0), (fun _ => 0), upd (upd (upd (upd (upd (upd (fun _ => 0) 0 3) 1 5) 2 1) 3 2) 4 2) 5 3, (fun _ => 0), (fun _ => 0), (fun _ => 0), (fun _ => 0), (fun _ => 0), (fun _ => 0), (fun _ => 0), (fun _ => 0))) : wpX_init post 12 1789 (0, 0, 0, 0, 0, 0, 0) 0 := by
  refine ⟨by decide, by decide, by decide, by decide, by decide, by decide, by decide, by decide, by decide, by decide, by decide, by decide, by decide, by decide, by decide, by decide, by decide, by decide, by decide, by decide, by decide, by decide, by decide, by decide, ?_⟩
  exact br_t (by decide) (br_t (by decide) (nm_e (nm_e (nm_e (nm_e (nm_e (nm_e H)))))))
theorem rf_push {post : Int32 → St2 → Prop} {g fo fs sc bc ac x : Int32} {a1 a2 a3 a4 a5 a6 a7 a8 a9 a10 a11 a12 : Nat → Int32} {k : Nat} (hk : k < 11) (h1 : ¬ x < 0) (h2 : x ≤ 3)
    (H : post (nI (k + 1)) (g, nI (k + 1), fo, fs, sc, bc, ac, upd a1 k x, upd a2 k 0, a3, a4, a5, a6, a7, a8, a9, a10, a11, a12)) : wpX_push post (g, nI k, fo, fs, sc, bc, ac, a1, a2, a3, a4, a5, a6, a7, a8, a9, a10, a11, a12) x := by
  refine br_f h1 (br_t h2 (pk_eq k 11 (fun z => absurd z (by omega)) (fun _ => ⟨pk_in k 11 hk, ?_⟩)))
  rw [nI_clamp (show k < 2 ^ 31 by omega)]
  exact nm_e ⟨pk_in k 11 hk, nm_e (nm_r (nI_1 k) H)⟩
theorem rf_tune {post : Int32 → St2 → Prop} {g z fo fs sc bc ac : Int32} {a1 a2 a3 a4 a5 a6 a7 a8 a9 a10 a11 a12 : Nat → Int32} {k v : Nat} (hk : k < 6) (hv : v ≤ 20) (H : post (a4 k) (g, z, fo, fs, sc, bc, ac, a1, a2, a3, upd a4 k (nI v), a5, a6, a7, a8, a9, a10, a11, a12)) : wpX_tune post (g, z, fo, fs, sc, bc, ac, a1, a2, a3, a4, a5, a6, a7, a8, a9, a10, a11, a12) (nI k) (nI v) := by
  refine br_f (nI_pos (by omega)) (br_t (nI_le (b := 5) (by omega) (by decide)) (br_f (nI_pos (by omega)) (br_t (nI_le (b := 20) hv (by decide)) ⟨pk_in k 6 hk, ?_⟩)))
  rw [nI_clamp (show k < 2 ^ 31 by omega)]
  exact nm_e ⟨pk_in k 6 hk, nm_e H⟩
theorem rf_mod (x : Int32) : ∃ s : Nat, s ≤ 20 ∧ (x &&& 31) - (x &&& 31) / 21 * 21 = nI s := by
  obtain ⟨j, hj, e⟩ := pk_andE x (m := 31) 5 (by decide)
  refine ⟨j % 21, by omega, ?_⟩
  rw [e]
  exact pk_rem (d := 21) (by omega) (by decide) (by decide)
theorem rf_lawOf {post : Int32 → St0 → Prop} (x y w v : Int32) (H : post 1 ()) : wpL_lawOf post 13 1808 () x y w v := by
  obtain ⟨s, s20, es⟩ := rf_mod x
  obtain ⟨t, t20, et⟩ := rf_mod y
  obtain ⟨u, u20, eu⟩ := rf_mod w
  refine ⟨by decide, by decide, 12, 1789, by decide, by decide, ?_⟩
  refine rf_init (rf_push (k := 0) (by decide) (by decide) (by decide) (rf_push (k := 1) (by decide) (by decide) (by decide) (rf_push (k := 2) (by decide) (by decide) (by decide) (rf_push (k := 3) (by decide) (by decide) (by decide) ?_))))
  refine br_t rfl ⟨by decide, nm_r es ⟨by decide, nm_r et ⟨by decide, nm_r eu ?_⟩⟩⟩
  refine rf_tune (k := 0) (by decide) s20 (br_t rfl (rf_tune (k := 1) (by decide) t20 (br_t rfl (rf_tune (k := 3) (by decide) u20 (br_t rfl ?_)))))
  have e8 : nI s + nI t + nI u = nI (t + u + s) := by
    rw [nI_add, nI_add, show s + t + u = t + u + s by omega]
  refine nm_r e8 (pk_le (t + u + s) 1 (fun z => ?_) (fun z => ?_))
  · refine rf_135 (s := s) (t := t) (u := u) ⟨⟨rfl, rfl, rfl, rfl⟩, ⟨rfl, rfl, rfl, rfl⟩, ⟨rfl, rfl, rfl, rfl⟩, s20, t20, u20⟩ rfl ?_ H
    rw [Nat.max_eq_left z]
    rfl
  · refine rf_135 (s := s) (t := t) (u := u) ⟨⟨rfl, rfl, rfl, rfl⟩, ⟨rfl, rfl, rfl, rfl⟩, ⟨rfl, rfl, rfl, rfl⟩, s20, t20, u20⟩ rfl ?_ H
    rw [Nat.max_eq_right (by omega)]
theorem rf_cell {post : Int32 → Prop} {L : Nat} {xs : Nat → Int32} {u : St0} {k : Nat} (hL : L ≤ 4) (hk : k < 4) (H : ∀ r, post r) : wpL_cellAt post L xs u (nI k) :=
  pk_le L k (fun _ => H 0) (fun z => ⟨pk_in k L z, H _⟩)
theorem i_vc (xs : Nat → Int32) (L : Nat) (hL : L ≤ 4) : wpL_law (fun r => r = 1) L xs :=
  rf_cell (k := 0) hL (by decide) (fun r1 => rf_cell (k := 1) hL (by decide) (fun r2 => rf_cell (k := 2) hL (by decide) (fun r3 => rf_cell (k := 3) hL (by decide) (fun r4 => ⟨13, 1808, by decide, by decide, rf_lawOf r1 r2 r3 r4 rfl⟩))))
end
