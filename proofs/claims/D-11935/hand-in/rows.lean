section
/-- a whole number as an int -/
def pb_v (i : Int) : Int32 := Int32.ofInt i
theorem pb_vT {i : Int} (h : -2147483648 ≤ i) (h' : i < 2147483648) : (pb_v i).toInt = i := Int32.toInt_ofInt_of_le (by omega) (by omega)
theorem pb_add (a b : Int) : pb_v a + pb_v b = pb_v (a + b) := (Int32.ofInt_add a b).symm
theorem pb_sub (a b : Int) : pb_v a - pb_v b = pb_v (a - b) := (Int32.ofInt_sub a b).symm
theorem pb_mul (a b : Int) : pb_v a * pb_v b = pb_v (a * b) := (Int32.ofInt_mul a b).symm
theorem pb_neg (a : Int) : - pb_v a = pb_v (- a) := (Int32.ofInt_neg a).symm
theorem pb_n (n : Nat) : nI n = pb_v (n : Int) := Int32.ofInt_eq_ofNat.symm
theorem pb_le {a b : Int} (h1 : -2147483648 ≤ a) (h2 : a < 2147483648) (h3 : -2147483648 ≤ b) (h4 : b < 2147483648) : pb_v a ≤ pb_v b ↔ a ≤ b := by
  rw [Int32.le_iff_toInt_le, pb_vT h1 h2, pb_vT h3 h4]
theorem pb_lt {a b : Int} (h1 : -2147483648 ≤ a) (h2 : a < 2147483648) (h3 : -2147483648 ≤ b) (h4 : b < 2147483648) : pb_v a < pb_v b ↔ a < b := by
  rw [Int32.lt_iff_toInt_lt, pb_vT h1 h2, pb_vT h3 h4]
theorem pb_eq {a b : Int} (h1 : -2147483648 ≤ a) (h2 : a < 2147483648) (h3 : -2147483648 ≤ b) (h4 : b < 2147483648) : pb_v a = pb_v b ↔ a = b := by
  rw [← Int32.toInt_inj, pb_vT h1 h2, pb_vT h3 h4]
theorem pb_big : (1000000 : Int32) = pb_v 1000000 := by decide
/-- a row's sum: k cells from i on -/
def pb_len (a : Nat → Int32) : Nat → Nat → Int32 → Int32
  | 0, _, x => x
  | k + 1, i, x => pb_len a k (i + 1) (x + a i)
abbrev pb_pen (a2 : Nat → Int32) (p : Nat) : Prop := 0 < p ∧ ¬ a2 (p - 1) ≤ 0
/-- what a line costs, d being the room that it leaves -/
def pb_lcd (d e : Int32) (c : Nat) (b : Int32) (a2 : Nat → Int32) (p q : Nat) : Int32 :=
  if d < (nI p + 1) - nI q then 1000000
  else if q = c then (if d < 0 then (3 * d) * d else 0)
  else if nI q - 1 = b then 1000000
  else ((if d < 0 then (3 * d) * d else d * d) + a2 (q - 1)) + (if pb_pen a2 p ∧ pb_pen a2 q then e else 0)
def pb_lc (w e : Int32) (c : Nat) (b : Int32) (a1 a2 : Nat → Int32) (p q : Nat) : Int32 :=
  pb_lcd (w - pb_len a1 (q - p) p (((nI q - nI p) - 1) * 2)) e c b a2 p q
/-- the least of going on: k places from q on -/
def pb_lo (ln row : Nat → Int32) : Nat → Nat → Int32 → Int32
  | 0, _, x => x
  | k + 1, q, x => pb_lo ln row k (q + 1) (if 1000000 ≤ ln q then x else if 1000000 ≤ row q then x else if x ≤ ln q + row q then x else ln q + row q)
def pb_on (c : Nat) (lc : Nat → Nat → Int32) : Nat → Nat → Int32
  | 0, p => if p = c then 0 else 1000000
  | n + 1, p => pb_lo (lc p) (pb_on c lc n) (c - p) (p + 1) 1000000
/-- best and ways of one place -/
def pb_fb (ln be wy : Nat → Int32) : Nat → Nat → Int32 → Int32 → Int32 × Int32
  | 0, _, x, y => (x, y)
  | k + 1, q, x, y =>
    if 1000000 ≤ ln q then pb_fb ln be wy k (q + 1) x y
    else if 1000000 ≤ be q then pb_fb ln be wy k (q + 1) x y
    else if x ≤ ln q + be q then
      (if ln q + be q = x then pb_fb ln be wy k (q + 1) x (y + wy q) else pb_fb ln be wy k (q + 1) x (y + 0))
    else pb_fb ln be wy k (q + 1) (ln q + be q) (0 + wy q)
/-- best and ways when m places have been found, from the end back -/
def pb_lv (c : Nat) (lc : Nat → Nat → Int32) : Nat → Nat → Int32 × Int32
  | 0, p => if p = c then (0, 1) else (1000000, 0)
  | m + 1, p => if p + (m + 1) = c then pb_fb (lc p) (fun q => (pb_lv c lc m q).1) (fun q => (pb_lv c lc m q).2) (c - p) (p + 1) 1000000 0 else pb_lv c lc m p
/-- upTo of one place -/
def pb_ul (ln up : Nat → Int32) : Nat → Nat → Int32 → Int32
  | 0, _, x => x
  | k + 1, p, x => pb_ul ln up k (p + 1) (if 1000000 ≤ ln p then x else if 1000000 ≤ up p then x else if x ≤ up p + ln p then x else up p + ln p)
def pb_uv (lc : Nat → Nat → Int32) : Nat → Nat → Int32
  | 0, _ => 0
  | m + 1, q => if q = m + 1 then pb_ul (fun p => lc p (m + 1)) (pb_uv lc m) (m + 1) 0 1000000 else pb_uv lc m q
theorem pb_fill {f s : Nat → Int32} {i k : Nat} {x : Int32} (hk : k = i) (h : ∀ j, j < i → s j = f j) (hx : x = f i) : ∀ j, j < i + 1 → upd s k x j = f j := by
  intro j hj
  rw [hk]
  by_cases e : j = i
  · rw [e, pk_us, hx]
  · rw [pk_un e]
    exact h j (by omega)
end
section
theorem pb_len11 {post : Int32 → Prop} {w e c b : Int32} {a1 a2 a3 a4 a5 a6 : Nat → Int32} {q : Nat} (hq : q ≤ 10) : ∀ (k i : Nat) (x : Int32), i + k = q → post (pb_len a1 k i x) → ∃ n, wX_length_11 post (nI q) w e c b a1 a2 a3 a4 a5 a6 n x (nI i)
  | 0, i, x, h, hp => ⟨1, pk_le q i (fun _ => hp) (fun z => absurd z (by omega))⟩
  | k + 1, i, x, h, hp => by
    obtain ⟨n, hn⟩ := pb_len11 (c := c) (post := post) (w := w) (e := e) (b := b) (a2 := a2) (a3 := a3) (a4 := a4) (a5 := a5) (a6 := a6) hq k (i + 1) (x + a1 i) (by omega) hp
    refine ⟨n + 1, pk_le q i (fun z => absurd z (by omega)) (fun _ => ⟨pk_in i 10 (by omega), ?_⟩)⟩
    rw [nI_clamp (show i < 2 ^ 31 by omega)]
    exact nm_e (nm_r (nI_1 i) hn)
theorem pb_length {post : Int32 → Prop} {w e c b : Int32} {a1 a2 a3 a4 a5 a6 : Nat → Int32} {p q : Nat} (hpq : p ≤ q) (hq : q ≤ 10) (hp : post (pb_len a1 (q - p) p (((nI q - nI p) - 1) * 2))) : wpX_length post (w, e, c, b, a1, a2, a3, a4, a5, a6) (nI p) (nI q) :=
  nm_e (pb_len11 hq (q - p) p _ (by omega) hp)
theorem pb_pena {post : Int32 → Prop} {w e c b : Int32} {a1 a2 a3 a4 a5 a6 : Nat → Int32} {p : Nat} (hp : p ≤ 10) (h1 : pb_pen a2 p → post 1) (h0 : ¬ pb_pen a2 p → post 0) : wpX_penalised post (w, e, c, b, a1, a2, a3, a4, a5, a6) (nI p) := by
  cases p with
  | zero => exact br_t (by decide) (h0 (fun z => absurd z.1 (by omega)))
  | succ p =>
    refine br_f (nI_nle (by omega) (by omega)) ⟨pk_in p 10 (by omega) (nI_pred p), ?_⟩
    rw [nI_pred, nI_clamp (show p < 2 ^ 31 by omega)]
    exact br_c (fun z => h0 (fun t => t.2 z)) (fun z => h1 ⟨by omega, z⟩)
theorem pb_105 {post : Int32 → Prop} {w e c b : Int32} {a1 a2 a3 a4 a5 a6 : Nat → Int32} {q : Nat} {z y : Int32} (h0 : 0 < q) (hq : q ≤ 10) (hp : post ((z + a2 (q - 1)) + y)) : wX_lineCost_105 post (nI q) z y w e c b a1 a2 a3 a4 a5 a6 := by
  cases q with
  | zero => exact absurd h0 (by omega)
  | succ q =>
    refine ⟨pk_in q 10 (by omega) (nI_pred q), ?_⟩
    rw [nI_pred, nI_clamp (show q < 2 ^ 31 by omega)]
    exact hp
theorem pb_79 {post : Int32 → Prop} {w e c b : Int32} {a1 a2 a3 a4 a5 a6 : Nat → Int32} {p q : Nat} {z : Int32} (h0 : 0 < q) (hq : q ≤ 10) (hp' : p ≤ 10) (hp : post ((z + a2 (q - 1)) + (if pb_pen a2 p ∧ pb_pen a2 q then e else 0))) : wX_lineCost_79 post (nI p) (nI q) z w e c b a1 a2 a3 a4 a5 a6 := by
  refine pb_pena hp' (fun g1 => br_f (by decide) (pb_pena hq (fun g2 => br_f (by decide) ?_) (fun g2 => br_t rfl ?_))) (fun g1 => br_t rfl ?_)
  · rw [if_pos ⟨g1, g2⟩] at hp
    exact pb_105 h0 hq hp
  · rw [if_neg (fun t => g2 t.2)] at hp
    exact pb_105 h0 hq hp
  · rw [if_neg (fun t => g1 t.1)] at hp
    exact pb_105 h0 hq hp
theorem pb_42 {post : Int32 → Prop} {w e b d : Int32} {a1 a2 a3 a4 a5 a6 : Nat → Int32} {c p q : Nat} (h0 : 0 < q) (hq : q ≤ 10) (hp' : p ≤ 10) (hc : c ≤ 10)
    (hp : post (if q = c then (if d < 0 then (3 * d) * d else 0) else ((if d < 0 then (3 * d) * d else d * d) + a2 (q - 1)) + (if pb_pen a2 p ∧ pb_pen a2 q then e else 0))) : wX_lineCost_42 post (nI p) (nI q) d w e (nI c) b a1 a2 a3 a4 a5 a6 := by
  refine pk_eq q c (fun g => ?_) (fun g => ?_)
  · rw [if_pos g] at hp
    refine br_c (fun z => ?_) (fun z => ?_)
    · rw [if_pos z] at hp
      exact hp
    · rw [if_neg z] at hp
      exact hp
  · rw [if_neg g] at hp
    refine br_c (fun z => ?_) (fun z => ?_)
    · rw [if_pos z] at hp
      exact pb_79 h0 hq hp' hp
    · rw [if_neg z] at hp
      exact pb_79 h0 hq hp' hp
theorem pb_line {post : Int32 → Prop} {w e b : Int32} {a1 a2 a3 a4 a5 a6 : Nat → Int32} {c p q : Nat} (hpq : p < q) (hqc : q ≤ c) (hc : c ≤ 10) (hp : post (pb_lc w e c b a1 a2 p q)) : wpX_lineCost post (w, e, nI c, b, a1, a2, a3, a4, a5, a6) (nI p) (nI q) := by
  refine pb_length (by omega) (by omega) (nm_e ?_)
  unfold pb_lc at hp
  generalize w - pb_len a1 (q - p) p (((nI q - nI p) - 1) * 2) = d at hp ⊢
  unfold pb_lcd at hp
  refine br_c (fun z => ?_) (fun z => ?_)
  · rw [if_pos z] at hp
    exact hp
  · rw [if_neg z] at hp
    refine pk_le c q (fun g => ?_) (fun g => ?_)
    · refine pb_42 (by omega) (by omega) (by omega) hc ?_
      rw [if_pos (show q = c by omega)] at hp ⊢
      exact hp
    · refine br_c (fun z2 => ?_) (fun z2 => ?_)
      · rw [if_neg (show ¬ q = c by omega), if_pos z2] at hp
        exact hp
      · refine pb_42 (by omega) (by omega) (by omega) hc ?_
        rw [if_neg (show ¬ q = c by omega), if_neg z2] at hp
        rw [if_neg (show ¬ q = c by omega)]
        exact hp
theorem pb_ix (n q : Nat) : nI n * 11 + nI q = nI (n * 11 + q) := by
  rw [show (11 : Int32) = nI 11 from rfl, pk_mul, nI_add]
theorem pb_ixp (n q : Nat) : (nI (n + 1) - 1) * 11 + nI q = nI (n * 11 + q) := by
  rw [nI_pred, pb_ix]
theorem pb_least8 {post : Int32 → Prop} {w e b : Int32} {a1 a2 a3 a4 a5 a6 row : Nat → Int32} {c n p : Nat} (hc : c ≤ 10) (hn : n ≤ 9) (hrow : ∀ q, q ≤ 10 → a3 (n * 11 + q) = row q) : ∀ (k q : Nat) (x : Int32), k = c + 1 - q → p < q → q ≤ 11 → post (pb_lo (pb_lc w e c b a1 a2 p) row k q x) → ∃ m, wX_leastOnward_8 post (nI (n + 1)) (nI p) w e (nI c) b a1 a2 a3 a4 a5 a6 m x (nI q)
  | 0, q, x, h, hpq, hq, hp => ⟨1, pk_lt c q (fun _ => hp) (fun z => absurd z (by omega))⟩
  | k + 1, q, x, h, hpq, hq, hp => by
    obtain ⟨m, hm⟩ := pb_least8 (post := post) (a4 := a4) (a5 := a5) (a6 := a6) hc hn hrow k (q + 1) _ (by omega) (by omega) (by omega) hp
    have hcell : a3 (((nI (n + 1) - 1) * 11) + nI q).toNatClampNeg = row q := by
      rw [pb_ixp, nI_clamp (by omega), hrow q (by omega)]
    refine ⟨m + 1, pk_lt c q (fun z => absurd z (by omega)) (fun _ => pb_line (by omega) (by omega) hc ⟨pk_in (n * 11 + q) 121 (by omega) (pb_ixp n q), nm_r hcell ?_⟩)⟩
    by_cases h1 : (1000000 : Int32) ≤ pb_lc w e c b a1 a2 p q
    · rw [if_pos h1] at hm
      exact br_t h1 (nm_r (nI_1 q) hm)
    · rw [if_neg h1] at hm
      refine br_f h1 ?_
      by_cases h2 : (1000000 : Int32) ≤ row q
      · rw [if_pos h2] at hm
        exact br_t h2 (nm_r (nI_1 q) hm)
      · rw [if_neg h2] at hm
        refine br_f h2 ?_
        by_cases h3 : x ≤ pb_lc w e c b a1 a2 p q + row q
        · rw [if_pos h3] at hm
          exact br_t h3 (nm_r (nI_1 q) hm)
        · rw [if_neg h3] at hm
          exact br_f h3 (nm_e (nm_r (nI_1 q) hm))
theorem pb_least {post : Int32 → Prop} {w e b : Int32} {a1 a2 a3 a4 a5 a6 : Nat → Int32} {c n p : Nat} (hc : c ≤ 10) (hn : n ≤ 9) (hp' : p ≤ 10) (hrow : ∀ q, q ≤ 10 → a3 (n * 11 + q) = pb_on c (pb_lc w e c b a1 a2) n q) (hp : post (pb_on c (pb_lc w e c b a1 a2) (n + 1) p)) : wpX_leastOnward post (w, e, nI c, b, a1, a2, a3, a4, a5, a6) (nI (n + 1)) (nI p) :=
  nm_r (nI_1 p) (pb_least8 hc hn hrow (c - p) (p + 1) 1000000 (by omega) (by omega) (by omega) hp)
theorem pb_keep {g a : Nat → Int32} {p : Nat} {x : Int32} (h : ∀ j, j ≠ p → a j = g j) : ∀ j, j ≠ p → upd a p x j = g j := fun j hj => by
  rw [pk_un hj]
  exact h j hj
theorem pb_72 {post : St2 → Prop} {J : Int32 → (Nat → Int32) → (Nat → Int32) → (Nat → Int32) → (Nat → Int32) → (Nat → Int32) → (Nat → Int32) → Prop} {w e c b x4 x y z : Int32} {a1 a2 a3 a4 a5 a6 : Nat → Int32} {p q : Nat} (hp : p ≤ 10) (hq : q ≤ 10) (h5 : a5 p = x) (h6 : a6 p = y) (hz : a6 q = z)
    (H1 : x4 = x → J (nI (q + 1)) a1 a2 a3 a4 a5 (upd a6 p (y + z))) (H0 : ¬ x4 = x → J (nI (q + 1)) a1 a2 a3 a4 a5 (upd a6 p (y + 0))) : wX_findBest_72 post J (nI p) (nI q) x4 w e c b a1 a2 a3 a4 a5 a6 := by
  have ep : (nI p).toNatClampNeg = p := nI_clamp (by omega)
  have eq : (nI q).toNatClampNeg = q := nI_clamp (by omega)
  refine ⟨pk_in p 11 (by omega), pk_in p 11 (by omega), ?_⟩
  rw [ep, eq, h5, h6, hz]
  exact br_c (fun g => ⟨pk_in q 11 (by omega), pk_in p 11 (by omega), nm_e (nm_r (nI_1 q) (H1 g))⟩) (fun g => ⟨pk_in p 11 (by omega), nm_e (nm_r (nI_1 q) (H0 g))⟩)
end
section
theorem pb_find4 {post : St2 → Prop} {w e b : Int32} {a1 a2 a3 a4 g5 g6 be wy : Nat → Int32} {c p : Nat} (hc : c ≤ 10) (hpc : p < c) (hg : ∀ j, p < j → j ≤ 10 → g5 j = be j ∧ g6 j = wy j) : ∀ (k q : Nat) (x y : Int32) (a5 a6 : Nat → Int32), k = c + 1 - q → p < q → q ≤ 11 → (∀ j, j ≠ p → a5 j = g5 j) → (∀ j, j ≠ p → a6 j = g6 j) → a5 p = x → a6 p = y →
    (∀ a5' a6' : Nat → Int32, (∀ j, j ≠ p → a5' j = g5 j) → (∀ j, j ≠ p → a6' j = g6 j) → a5' p = (pb_fb (pb_lc w e c b a1 a2 p) be wy k q x y).1 → a6' p = (pb_fb (pb_lc w e c b a1 a2 p) be wy k q x y).2 → post (w, e, nI c, b, a1, a2, a3, a4, a5', a6')) →
    ∃ m, wX_findBest_4 post (nI p) w e (nI c) b m (nI q) a1 a2 a3 a4 a5 a6
  | 0, q, x, y, a5, a6, h, hpq, hq, h5, h6, hx, hy, H => ⟨1, pk_lt c q (fun _ => H a5 a6 h5 h6 hx hy) (fun z => absurd z (by omega))⟩
  | k + 1, q, x, y, a5, a6, h, hpq, hq, h5, h6, hx, hy, H => by
    have ih := pb_find4 (post := post) (w := w) (e := e) (b := b) (a1 := a1) (a2 := a2) (a3 := a3) (a4 := a4) (g5 := g5) (g6 := g6) (be := be) (wy := wy) hc hpc hg k (q + 1)
    have ep : (nI p).toNatClampNeg = p := nI_clamp (by omega)
    have eq : (nI q).toNatClampNeg = q := nI_clamp (by omega)
    have hbq : a5 q = be q := (h5 q (by omega)).trans (hg q hpq (by omega)).1
    have hwq : a6 q = wy q := (h6 q (by omega)).trans (hg q hpq (by omega)).2
    unfold pb_fb at H
    by_cases h1 : (1000000 : Int32) ≤ pb_lc w e c b a1 a2 p q
    · simp only [if_pos h1] at H
      obtain ⟨m, hm⟩ := ih x y a5 a6 (by omega) (by omega) (by omega) h5 h6 hx hy H
      exact ⟨m + 1, pk_lt c q (fun z => absurd z (by omega)) (fun _ => pb_line (by omega) (by omega) hc (br_t h1 (nm_r (nI_1 q) hm)))⟩
    · simp only [if_neg h1] at H
      by_cases h2 : (1000000 : Int32) ≤ be q
      · simp only [if_pos h2] at H
        obtain ⟨m, hm⟩ := ih x y a5 a6 (by omega) (by omega) (by omega) h5 h6 hx hy H
        exact ⟨m + 1, pk_lt c q (fun z => absurd z (by omega)) (fun _ => pb_line (by omega) (by omega) hc (br_f h1 ⟨pk_in q 11 (by omega), br_t (by rw [eq, hbq]; exact h2) (nm_r (nI_1 q) hm)⟩))⟩
      · simp only [if_neg h2] at H
        have h2' : ¬ (1000000 : Int32) ≤ a5 (nI q).toNatClampNeg := by rw [eq, hbq]; exact h2
        have hsum : pb_lc w e c b a1 a2 p q + a5 (nI q).toNatClampNeg = pb_lc w e c b a1 a2 p q + be q := by rw [eq, hbq]
        by_cases h3 : x ≤ pb_lc w e c b a1 a2 p q + be q
        · simp only [if_pos h3] at H
          have h3' : a5 (nI p).toNatClampNeg ≤ pb_lc w e c b a1 a2 p q + be q := by rw [ep, hx]; exact h3
          by_cases h4 : pb_lc w e c b a1 a2 p q + be q = x
          · simp only [if_pos h4] at H
            obtain ⟨m, hm⟩ := ih x (y + wy q) a5 (upd a6 p (y + wy q)) (by omega) (by omega) (by omega) h5 (pb_keep h6) hx pk_us H
            exact ⟨m + 1, pk_lt c q (fun z => absurd z (by omega)) (fun _ => pb_line (by omega) (by omega) hc (br_f h1 ⟨pk_in q 11 (by omega), br_f h2' ⟨pk_in q 11 (by omega), nm_r hsum ⟨pk_in p 11 (by omega), br_t h3' (pb_72 (by omega) (by omega) hx hy hwq (fun _ => hm) (fun g => absurd h4 g))⟩⟩⟩))⟩
          · simp only [if_neg h4] at H
            obtain ⟨m, hm⟩ := ih x (y + 0) a5 (upd a6 p (y + 0)) (by omega) (by omega) (by omega) h5 (pb_keep h6) hx pk_us H
            exact ⟨m + 1, pk_lt c q (fun z => absurd z (by omega)) (fun _ => pb_line (by omega) (by omega) hc (br_f h1 ⟨pk_in q 11 (by omega), br_f h2' ⟨pk_in q 11 (by omega), nm_r hsum ⟨pk_in p 11 (by omega), br_t h3' (pb_72 (by omega) (by omega) hx hy hwq (fun g => absurd g h4) (fun _ => hm))⟩⟩⟩))⟩
        · simp only [if_neg h3] at H
          have h3' : ¬ a5 (nI p).toNatClampNeg ≤ pb_lc w e c b a1 a2 p q + be q := by rw [ep, hx]; exact h3
          obtain ⟨m, hm⟩ := ih (pb_lc w e c b a1 a2 p q + be q) (0 + wy q) (upd a5 p (pb_lc w e c b a1 a2 p q + be q)) (upd (upd a6 p 0) p (0 + wy q)) (by omega) (by omega) (by omega) (pb_keep h5) (pb_keep (pb_keep h6)) pk_us pk_us H
          refine ⟨m + 1, pk_lt c q (fun z => absurd z (by omega)) (fun _ => pb_line (by omega) (by omega) hc (br_f h1 ⟨pk_in q 11 (by omega), br_f h2' ⟨pk_in q 11 (by omega), nm_r hsum ⟨pk_in p 11 (by omega), br_f h3' ⟨pk_in p 11 (by omega), nm_r (by rw [ep]) ⟨pk_in p 11 (by omega), nm_r (by rw [ep]) (pb_72 (by omega) (by omega) pk_us pk_us ?_ (fun _ => hm) (fun g => absurd rfl g))⟩⟩⟩⟩⟩))⟩
          rw [pk_un (by omega)]
          exact hwq
theorem pb_findBest {post : St2 → Prop} {w e b : Int32} {a1 a2 a3 a4 a5 a6 be wy : Nat → Int32} {c p : Nat} (hc : c ≤ 10) (hpc : p < c) (hg : ∀ j, p < j → j ≤ 10 → a5 j = be j ∧ a6 j = wy j) (hx : a5 p = 1000000) (hy : a6 p = 0)
    (H : ∀ a5' a6' : Nat → Int32, (∀ j, j ≠ p → a5' j = a5 j) → (∀ j, j ≠ p → a6' j = a6 j) → a5' p = (pb_fb (pb_lc w e c b a1 a2 p) be wy (c - p) (p + 1) 1000000 0).1 → a6' p = (pb_fb (pb_lc w e c b a1 a2 p) be wy (c - p) (p + 1) 1000000 0).2 → post (w, e, nI c, b, a1, a2, a3, a4, a5', a6')) : wpX_findBest post (w, e, nI c, b, a1, a2, a3, a4, a5, a6) (nI p) :=
  nm_r (nI_1 p) (pb_find4 hc hpc hg (c - p) (p + 1) 1000000 0 a5 a6 (by omega) (by omega) (by omega) (fun _ _ => rfl) (fun _ _ => rfl) hx hy H)
theorem pb_l121 {post : St2 → Prop} {w e b : Int32} {a1 a2 a3 a4 : Nat → Int32} {c : Nat} (hc : c ≤ 10)
    (H : ∀ a5' a6' : Nat → Int32, (∀ j, j ≤ 10 → a5' j = (pb_lv c (pb_lc w e c b a1 a2) c j).1 ∧ a6' j = (pb_lv c (pb_lc w e c b a1 a2) c j).2) → post (w, e, nI c, b, a1, a2, a3, a4, a5', a6')) :
    ∀ (r m : Nat) (x1 : Int32) (a5 a6 : Nat → Int32), r + m = c → x1 = nI r - 1 → (∀ j, j ≤ 10 → a5 j = (pb_lv c (pb_lc w e c b a1 a2) m j).1 ∧ a6 j = (pb_lv c (pb_lc w e c b a1 a2) m j).2) → (∀ j, j < r → pb_lv c (pb_lc w e c b a1 a2) m j = (1000000, 0)) → wX_learn_121 post (r + 1) x1 w e (nI c) b a1 a2 a3 a4 a5 a6
  | 0, m, x1, a5, a6, hr, hx, h, hl => by
    subst hx
    have hm : m = c := by omega
    subst hm
    exact br_t (by decide) (H a5 a6 h)
  | r + 1, m, x1, a5, a6, hr, hx, h, hl => by
    have hx' : x1 = nI r := hx.trans (nI_pred r)
    subst hx'
    refine br_f (nI_pos (by omega)) (pb_findBest (be := fun q => (pb_lv c (pb_lc w e c b a1 a2) m q).1) (wy := fun q => (pb_lv c (pb_lc w e c b a1 a2) m q).2) hc (by omega) (fun j _ hj => h j hj) ?_ ?_ (fun a5' a6' k5 k6 e5 e6 => nm_e ?_))
    · rw [(h r (by omega)).1, hl r (by omega)]
    · rw [(h r (by omega)).2, hl r (by omega)]
    · refine pb_l121 hc H r (m + 1) _ a5' a6' (by omega) (Int32.sub_eq_add_neg _ _).symm (fun j hj => ?_) (fun j hj => ?_)
      · by_cases ej : j = r
        · subst ej
          unfold pb_lv
          rw [if_pos (show j + (m + 1) = c by omega)]
          exact ⟨e5, e6⟩
        · unfold pb_lv
          rw [if_neg (show ¬ j + (m + 1) = c by omega), k5 j ej, k6 j ej]
          exact h j hj
      · unfold pb_lv
        rw [if_neg (show ¬ j + (m + 1) = c by omega)]
        exact hl j (by omega)
end
section
/-- the table onward by its cells -/
def pb_f (c : Nat) (lc : Nat → Nat → Int32) (j : Nat) : Int32 := pb_on c lc (j / 11) (j % 11)
theorem pb_fat (c : Nat) (lc : Nat → Nat → Int32) (n p : Nat) (hp : p ≤ 10) : pb_f c lc (n * 11 + p) = pb_on c lc n p := by
  unfold pb_f
  rw [show (n * 11 + p) / 11 = n by omega, show (n * 11 + p) % 11 = p by omega]
/-- what learn leaves -/
def pb_T (c : Nat) (lc : Nat → Nat → Int32) (a3 a5 a6 : Nat → Int32) : Prop :=
  (∀ n p, n ≤ 10 → p ≤ 10 → a3 (n * 11 + p) = pb_on c lc n p) ∧ (∀ j, j ≤ 10 → a5 j = (pb_lv c lc c j).1 ∧ a6 j = (pb_lv c lc c j).2)
theorem pb_l79 {post : St2 → Prop} {J : Int32 → (Nat → Int32) → (Nat → Int32) → (Nat → Int32) → (Nat → Int32) → (Nat → Int32) → (Nat → Int32) → Prop} {w e b : Int32} {a1 a2 a3 a4 a5 a6 : Nat → Int32} {c n : Nat} (hc : c ≤ 10) (hn : n ≤ 9) (h : ∀ j, j < (n + 1) * 11 + 0 → a3 j = pb_f c (pb_lc w e c b a1 a2) j)
    (H : ∀ a3' : Nat → Int32, (∀ j, j < (n + 2) * 11 → a3' j = pb_f c (pb_lc w e c b a1 a2) j) → J (nI (n + 2)) a1 a2 a3' a4 a5 a6) : ∃ m, wX_learn_79 post J (nI (n + 1)) w e (nI c) b m 0 a1 a2 a3 a4 a5 a6 :=
  pk_loop (fun m i s => wX_learn_79 post J (nI (n + 1)) w e (nI c) b m (nI i) a1 a2 s a4 a5 a6) (fun i s => ∀ j, j < (n + 1) * 11 + i → s j = pb_f c (pb_lc w e c b a1 a2) j) 11 0 a3 (by omega) h
    (fun m s hs => pk_lt 10 11 (fun _ => nm_r (nI_1 (n + 1)) (H s (fun j hj => hs j (by omega)))) (fun z => absurd z (by omega)))
    (fun m i s hi hs hw => pk_lt 10 i (fun z => absurd z (by omega)) (fun _ => pb_least hc hn (by omega) (fun q hq => by rw [hs (n * 11 + q) (by omega), pb_fat _ _ _ _ hq])
      ⟨pk_in ((n + 1) * 11 + i) 121 (by omega) (pb_ix (n + 1) i), nm_r (by rw [pb_ix (n + 1) i, nI_clamp (by omega)]) (nm_r (nI_1 i) (hw _ (fun j hj => pb_fill rfl hs (pb_fat c (pb_lc w e c b a1 a2) (n + 1) i (by omega)).symm j (by omega))))⟩))
theorem pb_l71 {post : St2 → Prop} {w e b : Int32} {a1 a2 a3 a4 a5 a6 : Nat → Int32} {c : Nat} (hc : c ≤ 10) (h3 : ∀ j, j < 11 → a3 j = pb_f c (pb_lc w e c b a1 a2) j)
    (h56 : ∀ j, j ≤ 10 → a5 j = (pb_lv c (pb_lc w e c b a1 a2) 0 j).1 ∧ a6 j = (pb_lv c (pb_lc w e c b a1 a2) 0 j).2)
    (H : ∀ a3' a5' a6' : Nat → Int32, pb_T c (pb_lc w e c b a1 a2) a3' a5' a6' → post (w, e, nI c, b, a1, a2, a3', a4, a5', a6')) :
    ∃ m, wX_learn_71 post w e (nI c) b m 1 a1 a2 a3 a4 a5 a6 :=
  pk_loop (fun m i s => wX_learn_71 post w e (nI c) b m (nI i) a1 a2 s a4 a5 a6) (fun i s => 1 ≤ i ∧ ∀ j, j < i * 11 → s j = pb_f c (pb_lc w e c b a1 a2) j) 11 1 a3 (by omega) ⟨by omega, fun j hj => h3 j (by omega)⟩
    (fun m s hs => pk_lt 10 11 (fun _ => nm_e ⟨c + 1, pb_l121 hc (fun a5' a6' k => H s a5' a6' ⟨fun n p hn hp => by rw [hs.2 (n * 11 + p) (by omega), pb_fat _ _ _ _ hp], k⟩) c 0 _ a5 a6 (by omega) rfl h56 (fun j hj => by unfold pb_lv; rw [if_neg (by omega)])⟩) (fun z => absurd z (by omega)))
    (fun m i s hi hs hw => by
      obtain ⟨h1, h2⟩ := hs
      obtain ⟨n, rfl⟩ : ∃ n, i = n + 1 := ⟨i - 1, by omega⟩
      exact pk_lt 10 (n + 1) (fun z => absurd z (by omega)) (fun _ => pb_l79 hc (by omega) h2 (fun a3' k => hw a3' ⟨by omega, k⟩)))
theorem pb_l27 {post : St2 → Prop} {J : Int32 → (Nat → Int32) → (Nat → Int32) → (Nat → Int32) → (Nat → Int32) → (Nat → Int32) → (Nat → Int32) → Prop} {w e c b z : Int32} {a1 a2 a3 a4 a5 a6 : Nat → Int32} {i : Nat} (hi : i ≤ 10) (H : J (nI (i + 1)) a1 a2 (upd a3 i z) a4 (upd a5 i 1000000) (upd a6 i 0)) : wX_learn_27 post J (nI i) z (nI i) w e c b a1 a2 a3 a4 a5 a6 := by
  have ei : (nI i).toNatClampNeg = i := nI_clamp (by omega)
  exact ⟨pk_in i 121 (by omega), nm_r (by rw [ei]) ⟨pk_in i 11 (by omega), nm_r (by rw [ei]) ⟨pk_in i 11 (by omega), nm_r (by rw [ei]) (nm_r (nI_1 i) H)⟩⟩⟩
theorem pb_learn {post : St2 → Prop} {w e b : Int32} {a1 a2 a3 a4 a5 a6 : Nat → Int32} {c : Nat} (hc : c ≤ 10)
    (H : ∀ a3' a5' a6' : Nat → Int32, pb_T c (pb_lc w e c b a1 a2) a3' a5' a6' → post (w, e, nI c, b, a1, a2, a3', a4, a5', a6')) : wpX_learn post (w, e, nI c, b, a1, a2, a3, a4, a5, a6) := by
  have ec : (nI c).toNatClampNeg = c := nI_clamp (by omega)
  have f0 : ∀ i, i ≤ 10 → pb_f c (pb_lc w e c b a1 a2) i = if i = c then 0 else 1000000 := by
    intro i hi
    have := pb_fat c (pb_lc w e c b a1 a2) 0 i hi
    rw [Nat.zero_mul, Nat.zero_add] at this
    rw [this, pb_on]
  refine pk_loop (σ := (Nat → Int32) × (Nat → Int32) × (Nat → Int32)) (fun m i s => wX_learn_2 post w e (nI c) b m (nI i) a1 a2 s.1 a4 s.2.1 s.2.2) (fun i s => (∀ j, j < i → s.1 j = pb_f c (pb_lc w e c b a1 a2) j) ∧ (∀ j, j < i → s.2.1 j = (fun _ => 1000000) j) ∧ (∀ j, j < i → s.2.2 j = (fun _ => 0) j)) 11 0 (a3, a5, a6) (by omega) ⟨fun j hj => absurd hj (by omega), fun j hj => absurd hj (by omega), fun j hj => absurd hj (by omega)⟩ ?_ ?_
  · intro m s hs
    obtain ⟨h1, h2, h3⟩ := hs
    refine pk_lt 10 11 (fun _ => ⟨pk_in c 11 (by omega), nm_r (by rw [ec]) ⟨pk_in c 11 (by omega), nm_r (by rw [ec]) (pb_l71 hc h1 (fun j hj => ?_) H)⟩⟩) (fun z => absurd z (by omega))
    unfold pb_lv
    by_cases ej : j = c
    · rw [if_pos ej, ej, pk_us, pk_us]
      exact ⟨rfl, rfl⟩
    · rw [if_neg ej, pk_un ej, pk_un ej]
      exact ⟨h2 j (by omega), h3 j (by omega)⟩
  · intro m i s hi hs hw
    obtain ⟨h1, h2, h3⟩ := hs
    refine pk_lt 10 i (fun z => absurd z (by omega)) (fun _ => pk_eq i c (fun g => pb_l27 (by omega) ?_) (fun g => pb_l27 (by omega) ?_))
    · exact hw (upd s.1 i 0, upd s.2.1 i 1000000, upd s.2.2 i 0) ⟨pb_fill rfl h1 (by rw [f0 i (by omega), if_pos g]), pb_fill rfl h2 rfl, pb_fill rfl h3 rfl⟩
    · exact hw (upd s.1 i 1000000, upd s.2.1 i 1000000, upd s.2.2 i 0) ⟨pb_fill rfl h1 (by rw [f0 i (by omega), if_neg g]), pb_fill rfl h2 rfl, pb_fill rfl h3 rfl⟩
theorem pb_start {post : St2 → Prop} {w e b : Int32} {a1 a2 a3 a4 a5 a6 : Nat → Int32} {c : Nat} (hc : c ≤ 10)
    (H : ∀ a3' a5' a6' : Nat → Int32, pb_T c (pb_lc w e c (-1) a1 a2) a3' a5' a6' → post (w, e, nI c, -1, a1, a2, a3', a4, a5', a6')) : wpX_start post (w, e, nI c, b, a1, a2, a3, a4, a5, a6) :=
  pb_learn hc H
theorem pb_few {post : Int32 → Prop} {w e c b : Int32} {a1 a2 a3 a4 a5 a6 : Nat → Int32} {m : Nat} (hm : m ≤ 10) (hlt : ∀ n, n < m → (1000000 : Int32) ≤ a3 (n * 11) ∨ ¬ a3 (n * 11) = a5 0) (h1 : ¬ (1000000 : Int32) ≤ a3 (m * 11)) (h2 : a3 (m * 11) = a5 0) (hp : post (nI m)) : wpX_fewestLines post (w, e, c, b, a1, a2, a3, a4, a5, a6) := by
  have ei : ∀ i, i ≤ 10 → nI i * 11 = nI (i * 11) := fun i _ => pk_mul i 11
  have ec : ∀ i, i ≤ 10 → (nI i * 11).toNatClampNeg = i * 11 := fun i hi => by rw [ei i hi, nI_clamp (by omega)]
  refine pk_loop (σ := Unit) (fun n i _ => wX_fewestLines_2 post w e c b a1 a2 a3 a4 a5 a6 n (nI i)) (fun _ _ => True) m 0 () (by omega) trivial (fun n _ _ => ?_) (fun n i _ hi _ hw => ?_)
  · exact pk_lt 10 m (fun z => absurd z (by omega)) (fun _ => ⟨pk_in (m * 11) 121 (by omega) (ei m hm), br_f (by rw [ec m hm]; exact h1) ⟨pk_in (m * 11) 121 (by omega) (ei m hm), br_t (by rw [ec m hm]; exact h2) hp⟩⟩)
  · refine pk_lt 10 i (fun z => absurd z (by omega)) (fun _ => ⟨pk_in (i * 11) 121 (by omega) (ei i (by omega)), ?_⟩)
    rw [ec i (by omega)]
    by_cases g : (1000000 : Int32) ≤ a3 (i * 11)
    · exact br_t g (nm_r (nI_1 i) (hw () trivial))
    · exact br_f g ⟨pk_in (i * 11) 121 (by omega) (ei i (by omega)), br_f ((hlt i hi).resolve_left g) (nm_r (nI_1 i) (hw () trivial))⟩
theorem pb_first {post : Int32 → Prop} {w e b : Int32} {a1 a2 a3 a4 a5 a6 : Nat → Int32} {c n p q0 : Nat} (hc : c ≤ 10) (hn : n ≤ 9) (hpq : p < q0) (hq0 : q0 ≤ c)
    (hlt : ∀ q, p < q → q < q0 → (1000000 : Int32) ≤ pb_lc w e c b a1 a2 p q ∨ (1000000 : Int32) ≤ a3 (n * 11 + q) ∨ ¬ pb_lc w e c b a1 a2 p q + a3 (n * 11 + q) = a3 ((n + 1) * 11 + p))
    (h1 : ¬ (1000000 : Int32) ≤ pb_lc w e c b a1 a2 p q0) (h2 : ¬ (1000000 : Int32) ≤ a3 (n * 11 + q0)) (h3 : pb_lc w e c b a1 a2 p q0 + a3 (n * 11 + q0) = a3 ((n + 1) * 11 + p)) (hp : post (nI q0)) : wpX_firstEnd post (w, e, nI c, b, a1, a2, a3, a4, a5, a6) (nI (n + 1)) (nI p) := by
  have ec : ∀ q, q ≤ 10 → a3 (((nI (n + 1) - 1) * 11) + nI q).toNatClampNeg = a3 (n * 11 + q) := fun q hq => by rw [pb_ixp, nI_clamp (by omega)]
  refine ⟨pk_in ((n + 1) * 11 + p) 121 (by omega) (pb_ix (n + 1) p), nm_r (by rw [pb_ix (n + 1) p, nI_clamp (by omega)]) (nm_r (nI_1 p) ?_)⟩
  refine pk_loop (σ := Unit) (fun m i _ => wX_firstEnd_17 post (nI (n + 1)) (nI p) (a3 ((n + 1) * 11 + p)) w e (nI c) b a1 a2 a3 a4 a5 a6 m (nI i)) (fun i _ => p < i) q0 (p + 1) () (by omega) (by omega) (fun m _ _ => ?_) (fun m i _ hi hpi hw => ?_)
  · exact pk_lt c q0 (fun z => absurd z (by omega)) (fun _ => pb_line hpq hq0 hc ⟨pk_in (n * 11 + q0) 121 (by omega) (pb_ixp n q0), nm_r (ec q0 (by omega)) (br_f h1 (br_f h2 (br_t h3 hp)))⟩)
  · refine pk_lt c i (fun z => absurd z (by omega)) (fun _ => pb_line hpi (by omega) hc ⟨pk_in (n * 11 + i) 121 (by omega) (pb_ixp n i), nm_r (ec i (by omega)) ?_⟩)
    by_cases g1 : (1000000 : Int32) ≤ pb_lc w e c b a1 a2 p i
    · exact br_t g1 (nm_r (nI_1 i) (hw () (by omega)))
    · refine br_f g1 ?_
      by_cases g2 : (1000000 : Int32) ≤ a3 (n * 11 + i)
      · exact br_t g2 (nm_r (nI_1 i) (hw () (by omega)))
      · exact br_f g2 (br_f (((hlt i hpi hi).resolve_left g1).resolve_left g2) (nm_r (nI_1 i) (hw () (by omega))))
end
section
theorem pb_up27 {post : St2 → Prop} {J : Int32 → (Nat → Int32) → (Nat → Int32) → (Nat → Int32) → (Nat → Int32) → (Nat → Int32) → (Nat → Int32) → Prop} {w e b : Int32} {a1 a2 a3 a5 a6 g4 up : Nat → Int32} {c m : Nat} (hc : c ≤ 10) (hm : m < c) (hg : ∀ j, j < m → g4 j = up j) : ∀ (k p : Nat) (x : Int32) (a4 : Nat → Int32), p + k = m → (∀ j, j ≠ m → a4 j = g4 j) → a4 m = x →
    (∀ a4' : Nat → Int32, (∀ j, j ≠ m → a4' j = g4 j) → a4' m = pb_ul (fun p => pb_lc w e c b a1 a2 p m) up k p x → J (nI (m + 1)) a1 a2 a3 a4' a5 a6) →
    ∃ f, wX_findUpTo_27 post J (nI m) w e (nI c) b f (nI p) a1 a2 a3 a4 a5 a6
  | 0, p, x, a4, h, h4, hx, H => ⟨1, pk_le m p (fun _ => nm_r (nI_1 m) (H a4 h4 hx)) (fun z => absurd z (by omega))⟩
  | k + 1, p, x, a4, h, h4, hx, H => by
    have ih := pb_up27 (post := post) (J := J) (w := w) (e := e) (b := b) (a1 := a1) (a2 := a2) (a3 := a3) (a5 := a5) (a6 := a6) (g4 := g4) (up := up) hc hm hg k (p + 1)
    have ep : (nI p).toNatClampNeg = p := nI_clamp (by omega)
    have em : (nI m).toNatClampNeg = m := nI_clamp (by omega)
    have hup : a4 p = up p := (h4 p (by omega)).trans (hg p (by omega))
    unfold pb_ul at H
    by_cases h1 : (1000000 : Int32) ≤ pb_lc w e c b a1 a2 p m
    · simp only [if_pos h1] at H
      obtain ⟨f, hf⟩ := ih x a4 (by omega) h4 hx H
      exact ⟨f + 1, pk_le m p (fun z => absurd z (by omega)) (fun _ => pb_line (by omega) (by omega) hc (br_t h1 (nm_r (nI_1 p) hf)))⟩
    · simp only [if_neg h1] at H
      by_cases h2 : (1000000 : Int32) ≤ up p
      · simp only [if_pos h2] at H
        obtain ⟨f, hf⟩ := ih x a4 (by omega) h4 hx H
        exact ⟨f + 1, pk_le m p (fun z => absurd z (by omega)) (fun _ => pb_line (by omega) (by omega) hc (br_f h1 ⟨pk_in p 11 (by omega), br_t (by rw [ep, hup]; exact h2) (nm_r (nI_1 p) hf)⟩))⟩
      · simp only [if_neg h2] at H
        by_cases h3 : x ≤ up p + pb_lc w e c b a1 a2 p m
        · simp only [if_pos h3] at H
          obtain ⟨f, hf⟩ := ih x a4 (by omega) h4 hx H
          exact ⟨f + 1, pk_le m p (fun z => absurd z (by omega)) (fun _ => pb_line (by omega) (by omega) hc (br_f h1 ⟨pk_in p 11 (by omega), br_f (by rw [ep, hup]; exact h2) ⟨pk_in p 11 (by omega), pk_in m 11 (by omega), br_t (by rw [ep, em, hup, hx]; exact h3) (nm_r (nI_1 p) hf)⟩⟩))⟩
        · simp only [if_neg h3] at H
          obtain ⟨f, hf⟩ := ih (up p + pb_lc w e c b a1 a2 p m) (upd a4 m (up p + pb_lc w e c b a1 a2 p m)) (by omega) (pb_keep h4) pk_us H
          exact ⟨f + 1, pk_le m p (fun z => absurd z (by omega)) (fun _ => pb_line (by omega) (by omega) hc (br_f h1 ⟨pk_in p 11 (by omega), br_f (by rw [ep, hup]; exact h2) ⟨pk_in p 11 (by omega), pk_in m 11 (by omega), br_f (by rw [ep, em, hup, hx]; exact h3) ⟨pk_in p 11 (by omega), pk_in m 11 (by omega), nm_r (by rw [ep, em, hup]) (nm_r (nI_1 p) hf)⟩⟩⟩))⟩
theorem pb_upTo {post : St2 → Prop} {w e b : Int32} {a1 a2 a3 a4 a5 a6 : Nat → Int32} {c : Nat} (hc : c ≤ 10) (h1 : 1 ≤ c)
    (H : ∀ a4' : Nat → Int32, (∀ j, j < c → a4' j = pb_uv (pb_lc w e c b a1 a2) (c - 1) j) → post (w, e, nI c, b, a1, a2, a3, a4', a5, a6)) : wpX_findUpTo post (w, e, nI c, b, a1, a2, a3, a4, a5, a6) := by
  refine nm_e (pk_loop (fun f i s => wX_findUpTo_9 post w e (nI c) b f (nI i) a1 a2 a3 s a5 a6) (fun i s => 1 ≤ i ∧ ∀ j, j < i → s j = pb_uv (pb_lc w e c b a1 a2) (i - 1) j) c 1 (upd a4 0 0) h1 ⟨by omega, fun j hj => ?_⟩ ?_ ?_)
  · rw [show j = 0 by omega, pk_us]
    rfl
  · intro f s hs
    exact pk_le c c (fun _ => H s hs.2) (fun z => absurd z (by omega))
  · intro f i s hi hs hw
    obtain ⟨g1, g2⟩ := hs
    obtain ⟨n, rfl⟩ : ∃ n, i = n + 1 := ⟨i - 1, by omega⟩
    have ei : (nI (n + 1)).toNatClampNeg = n + 1 := nI_clamp (by omega)
    refine pk_le c (n + 1) (fun z => absurd z (by omega)) (fun _ => ⟨pk_in (n + 1) 11 (by omega), nm_r (by rw [ei]) (pb_up27 (g4 := upd s (n + 1) 1000000) (up := pb_uv (pb_lc w e c b a1 a2) n) hc hi (fun j hj => ?_) (n + 1) 0 1000000 _ (by omega) (fun _ _ => rfl) pk_us (fun a4' k4 k5 => hw a4' ⟨by omega, fun j hj => ?_⟩))⟩)
    · rw [pk_un (by omega)]
      exact g2 j hj
    · rw [show n + 1 + 1 - 1 = n + 1 by omega]
      unfold pb_uv
      by_cases ej : j = n + 1
      · rw [if_pos ej, ej]
        exact k5
      · rw [if_neg ej, k4 j ej, pk_un ej]
        exact g2 j (by omega)
/-- the number of lines of the best breaking -/
def pb_s1 (c : Nat) (lc : Nat → Nat → Int32) (m : Nat) : Prop :=
  m ≤ 10 ∧ (∀ n, n < m → (1000000 : Int32) ≤ pb_on c lc n 0 ∨ ¬ pb_on c lc n 0 = (pb_lv c lc c 0).1) ∧ (¬ (1000000 : Int32) ≤ pb_on c lc m 0) ∧ pb_on c lc m 0 = (pb_lv c lc c 0).1
/-- the end of the first line -/
def pb_fe (c : Nat) (lc : Nat → Nat → Int32) (n p q0 : Nat) : Prop :=
  p < q0 ∧ q0 ≤ c ∧ (∀ q, p < q → q < q0 → (1000000 : Int32) ≤ lc p q ∨ (1000000 : Int32) ≤ pb_on c lc n q ∨ ¬ lc p q + pb_on c lc n q = pb_on c lc (n + 1) p) ∧ (¬ (1000000 : Int32) ≤ lc p q0) ∧ (¬ (1000000 : Int32) ≤ pb_on c lc n q0) ∧ lc p q0 + pb_on c lc n q0 = pb_on c lc (n + 1) p
/-- the best breaking: m lines, line i ends before word E (i + 1) -/
def pb_sol (c : Nat) (lc : Nat → Nat → Int32) (m : Nat) (E : Nat → Nat) : Prop :=
  pb_s1 c lc m ∧ E 0 = 0 ∧ (∀ i, i ≤ m → E i ≤ c) ∧ ∀ i, i < m → pb_fe c lc (m - i - 1) (E i) (E (i + 1))
theorem pb_fewT {post : Int32 → Prop} {w e x b : Int32} {a1 a2 a3 a4 a5 a6 : Nat → Int32} {c m : Nat} {lc : Nat → Nat → Int32} (hT : pb_T c lc a3 a5 a6) (hs : pb_s1 c lc m) (hp : post (nI m)) : wpX_fewestLines post (w, e, x, b, a1, a2, a3, a4, a5, a6) := by
  obtain ⟨h1, h2, h3, h4⟩ := hs
  have e3 : ∀ n, n ≤ 10 → a3 (n * 11) = pb_on c lc n 0 := fun n hn => hT.1 n 0 hn (by omega)
  have e5 : a5 0 = (pb_lv c lc c 0).1 := (hT.2 0 (by omega)).1
  refine pb_few h1 (fun n hn => ?_) ?_ ?_ hp
  · rw [e3 n (by omega), e5]
    exact h2 n hn
  · rw [e3 m h1]
    exact h3
  · rw [e3 m h1, e5]
    exact h4
theorem pb_firstT {post : Int32 → Prop} {w e b : Int32} {a1 a2 a3 a4 a5 a6 : Nat → Int32} {c n p q0 : Nat} (hc : c ≤ 10) (hn : n ≤ 9) (hT : pb_T c (pb_lc w e c b a1 a2) a3 a5 a6) (hs : pb_fe c (pb_lc w e c b a1 a2) n p q0) (hp : post (nI q0)) : wpX_firstEnd post (w, e, nI c, b, a1, a2, a3, a4, a5, a6) (nI (n + 1)) (nI p) := by
  obtain ⟨h1, h2, h3, h4, h5, h6⟩ := hs
  have e3 : ∀ n q, n ≤ 10 → q ≤ 10 → a3 (n * 11 + q) = pb_on c (pb_lc w e c b a1 a2) n q := hT.1
  refine pb_first hc hn h1 h2 (fun q g1 g2 => ?_) h4 ?_ ?_ hp
  · rw [e3 n q (by omega) (by omega), e3 (n + 1) p (by omega) (by omega)]
    exact h3 q g1 g2
  · rw [e3 n q0 (by omega) (by omega)]
    exact h5
  · rw [e3 n q0 (by omega) (by omega), e3 (n + 1) p (by omega) (by omega)]
    exact h6
theorem pb_endL {post : Int32 → St2 → Prop} {w e b : Int32} {a1 a2 a3 a4 a5 a6 : Nat → Int32} {c m k : Nat} {E : Nat → Nat} (hc : c ≤ 10) (hs : pb_sol c (pb_lc w e c (-1) a1 a2) m E) (hk : k < m)
    (H : ∀ (b' : Int32) (a3' a4' a5' a6' : Nat → Int32), post (nI (E (k + 1))) (w, e, nI c, b', a1, a2, a3', a4', a5', a6')) : wpX_endOfLine post (w, e, nI c, b, a1, a2, a3, a4, a5, a6) (nI k) := by
  obtain ⟨h1, h2, h2', h3⟩ := hs
  have hm : m ≤ 10 := h1.1
  unfold wpX_endOfLine
  refine pb_start hc (fun a3' a5' a6' hT => pb_fewT hT h1 (br_f (nI_pos (n := k) (by omega)) (br_t (nI_lt hk (by omega)) ?_)))
  have key : ∃ f, wX_endOfLine_25 post (nI k) (nI m) w e (nI c) (-1) a1 a2 a3' a4 a5' a6' f (nI (E 0)) (nI 0) := by
    refine pk_loop (σ := Unit) (fun f i _ => wX_endOfLine_25 post (nI k) (nI m) w e (nI c) (-1) a1 a2 a3' a4 a5' a6' f (nI (E i)) (nI i)) (fun _ _ => True) (k + 1) 0 () (by omega) trivial (fun f _ _ => ?_) (fun f i _ hi _ hw => ?_)
    · exact pk_lt k (k + 1) (fun _ => H _ _ _ _ _) (fun z => absurd z (by omega))
    · refine pk_lt k i (fun z => absurd z (by omega)) (fun _ => ?_)
      rw [show nI m - nI i = nI ((m - i - 1) + 1) by rw [pk_sub (by omega), show m - i = m - i - 1 + 1 by omega]; rfl]
      exact pb_firstT hc (by omega) hT (h3 i (by omega)) (nm_r (nI_1 i) (hw () trivial))
  rw [h2] at key
  exact key
theorem pb_lines {post : Int32 → St2 → Prop} {w e b : Int32} {a1 a2 a3 a4 a5 a6 : Nat → Int32} {c m : Nat} (hc : c ≤ 10) (hs : pb_s1 c (pb_lc w e c (-1) a1 a2) m)
    (H : ∀ (b' : Int32) (a3' a4' a5' a6' : Nat → Int32), post (nI m) (w, e, nI c, b', a1, a2, a3', a4', a5', a6')) : wpX_lines post (w, e, nI c, b, a1, a2, a3, a4, a5, a6) := by
  have hm : m ≤ 10 := hs.1
  unfold wpX_lines
  exact pb_start hc (fun a3' a5' a6' hT => pb_fewT hT hs (br_t (nI_pos' (n := m) (by omega)) (H _ _ _ _ _)))
theorem pb_lineOf {post : Int32 → St2 → Prop} {w e b : Int32} {a1 a2 a3 a4 a5 a6 : Nat → Int32} {c m i0 k0 : Nat} {E : Nat → Nat} (hc : c ≤ 10) (hs : pb_sol c (pb_lc w e c (-1) a1 a2) m E) (hi : i0 < c) (hk : k0 < m) (hE : ∀ k, k < k0 → E (k + 1) ≤ i0) (hE' : i0 < E (k0 + 1))
    (H : ∀ (b' : Int32) (a3' a4' a5' a6' : Nat → Int32), post (nI k0) (w, e, nI c, b', a1, a2, a3', a4', a5', a6')) : wpX_lineOf post (w, e, nI c, b, a1, a2, a3, a4, a5, a6) (nI i0) := by
  have hm : m ≤ 10 := hs.1.1
  have hEc : ∀ i, i ≤ m → E i ≤ c := hs.2.2.1
  refine br_f (nI_pos (by omega)) (br_t (nI_lt hi (by omega)) (pb_lines hc hs.1 (fun b' a3' a4' a5' a6' => ?_)))
  refine pk_loop (σ := Int32 × (Nat → Int32) × (Nat → Int32) × (Nat → Int32) × (Nat → Int32)) (fun f i s => wX_lineOf_21 post (nI i0) (nI m) f (nI i) w e (nI c) s.1 a1 a2 s.2.1 s.2.2.1 s.2.2.2.1 s.2.2.2.2) (fun _ _ => True) k0 0 (b', a3', a4', a5', a6') (by omega) trivial (fun f s _ => ?_) (fun f i s hi' _ hw => ?_)
  · have := hEc (k0 + 1) (by omega)
    exact pk_le m k0 (fun z => absurd z (by omega)) (fun _ => pb_endL hc hs hk (fun _ _ _ _ _ => pk_le (E (k0 + 1)) i0 (fun z => absurd z (by omega)) (fun _ => H _ _ _ _ _)))
  · have h1 := hE i hi'
    exact pk_le m i (fun z => absurd z (by omega)) (fun _ => pb_endL hc hs (by omega) (fun b'' x3 x4 x5 x6 => pk_le (E (i + 1)) i0 (fun _ => nm_r (nI_1 i) (hw (b'', x3, x4, x5, x6) trivial)) (fun z => absurd z (by omega))))
theorem pb_endOf {post : Int32 → St2 → Prop} {w e b : Int32} {a1 a2 a3 a4 a5 a6 : Nat → Int32} {c m k r : Nat} {E : Nat → Nat} (hc : c ≤ 10) (hs : pb_sol c (pb_lc w e c (-1) a1 a2) m E) (hk : k < m) (hr : E (k + 1) = r + 1)
    (H : ∀ (b' : Int32) (a3' a4' a5' a6' : Nat → Int32), post (nI r) (w, e, nI c, b', a1, a2, a3', a4', a5', a6')) : wpX_endOf post (w, e, nI c, b, a1, a2, a3, a4, a5, a6) (nI k) := by
  have h1 := hs.2.2.1 (k + 1) (by omega)
  unfold wpX_endOf
  refine pb_endL hc hs hk (fun b' a3' a4' a5' a6' => ?_)
  rw [hr]
  refine br_t (nI_pos' (by omega)) ?_
  rw [nI_pred]
  exact H _ _ _ _ _
theorem pb_cost {post : Int32 → St2 → Prop} {w e b : Int32} {a1 a2 a3 a4 a5 a6 : Nat → Int32} {c : Nat} (hc : c ≤ 10) (hb : ¬ (1000000 : Int32) ≤ (pb_lv c (pb_lc w e c (-1) a1 a2) c 0).1)
    (H : ∀ (b' : Int32) (a3' a4' a5' a6' : Nat → Int32), post (pb_lv c (pb_lc w e c (-1) a1 a2) c 0).1 (w, e, nI c, b', a1, a2, a3', a4', a5', a6')) : wpX_cost post (w, e, nI c, b, a1, a2, a3, a4, a5, a6) := by
  unfold wpX_cost
  refine pb_start hc (fun a3' a5' a6' hT => ?_)
  have e5 := (hT.2 0 (by omega)).1
  refine br_f (by rw [e5]; exact hb) ?_
  rw [e5]
  exact H _ _ _ _ _
theorem pb_choices {post : Int32 → St2 → Prop} {w e b : Int32} {a1 a2 a3 a4 a5 a6 : Nat → Int32} {c : Nat} (hc : c ≤ 10)
    (H : ∀ (b' : Int32) (a3' a4' a5' a6' : Nat → Int32), post (pb_lv c (pb_lc w e c (-1) a1 a2) c 0).2 (w, e, nI c, b', a1, a2, a3', a4', a5', a6')) : wpX_choices post (w, e, nI c, b, a1, a2, a3, a4, a5, a6) := by
  unfold wpX_choices
  refine pb_start hc (fun a3' a5' a6' hT => ?_)
  have e6 := (hT.2 0 (by omega)).2
  show post (a6' 0) _
  rw [e6]
  exact H _ _ _ _ _
theorem pb_costWith {post : Int32 → St2 → Prop} {w e b r : Int32} {a1 a2 a3 a4 a5 a6 : Nat → Int32} {c n : Nat} (hc : c ≤ 10) (hn : n ≤ 10) (hr : (if (1000000 : Int32) ≤ pb_on c (pb_lc w e c (-1) a1 a2) n 0 then -1000000 else pb_on c (pb_lc w e c (-1) a1 a2) n 0) = r)
    (H : ∀ (b' : Int32) (a3' a4' a5' a6' : Nat → Int32), post r (w, e, nI c, b', a1, a2, a3', a4', a5', a6')) : wpX_costWith post (w, e, nI c, b, a1, a2, a3, a4, a5, a6) (nI n) := by
  refine br_f (nI_pos (by omega)) (pk_le n 10 (fun _ => pb_start hc (fun a3' a5' a6' hT => ?_)) (fun z => absurd z (by omega)))
  have ei : nI n * 11 = nI (n * 11) := pk_mul n 11
  have e3 : a3' (nI n * 11).toNatClampNeg = pb_on c (pb_lc w e c (-1) a1 a2) n 0 := by
    rw [ei, nI_clamp (by omega)]
    exact hT.1 n 0 hn (by omega)
  refine ⟨pk_in (n * 11) 121 (by omega) ei, ?_⟩
  rw [e3]
  refine br_c (fun z => ?_) (fun z => ⟨pk_in (n * 11) 121 (by omega) ei, ?_⟩)
  · rw [if_pos z] at hr
    rw [hr]
    exact H _ _ _ _ _
  · rw [if_neg z] at hr
    rw [hr]
    exact H _ _ _ _ _
theorem pb_breaking {post : Int32 → St2 → Prop} {w e b : Int32} {a1 a2 a3 a4 a5 a6 : Nat → Int32} {c i : Nat} (hc : c ≤ 10) (hi : i + 1 < c) (h1 : ¬ (1000000 : Int32) ≤ pb_uv (pb_lc w e c (-1) a1 a2) (c - 1) (i + 1)) (h2 : ¬ (1000000 : Int32) ≤ (pb_lv c (pb_lc w e c (-1) a1 a2) c (i + 1)).1)
    (H : ∀ (b' : Int32) (a3' a4' a5' a6' : Nat → Int32), post (pb_uv (pb_lc w e c (-1) a1 a2) (c - 1) (i + 1) + (pb_lv c (pb_lc w e c (-1) a1 a2) c (i + 1)).1) (w, e, nI c, b', a1, a2, a3', a4', a5', a6')) : wpX_costBreaking post (w, e, nI c, b, a1, a2, a3, a4, a5, a6) (nI i) := by
  refine br_f (nI_pos (by omega)) (br_t ?_ (pb_start hc (fun a3' a5' a6' hT => pb_upTo hc (by omega) (fun a4' hU => nm_r (nI_1 i) ?_))))
  · rw [show nI c - 1 = nI (c - 1) from pk_sub (b := 1) (by omega)]
    exact nI_lt (by omega) (by omega)
  · have ei : (nI (i + 1)).toNatClampNeg = i + 1 := nI_clamp (by omega)
    have e5 := (hT.2 (i + 1) (by omega)).1
    have e4 := hU (i + 1) hi
    refine ⟨pk_in (i + 1) 11 (by omega), ?_⟩
    rw [ei, e4, e5]
    exact br_f h1 ⟨pk_in (i + 1) 11 (by omega), br_f h2 ⟨pk_in (i + 1) 11 (by omega), pk_in (i + 1) 11 (by omega), H _ _ _ _ _⟩⟩
theorem pb_breakNo {post : Int32 → St2 → Prop} {w e b : Int32} {a1 a2 a3 a4 a5 a6 : Nat → Int32} {c i : Nat} (hc : c ≤ 10) (h0 : 1 ≤ c) (hi : c ≤ i + 1) (hi' : i ≤ 10)
    (H : ∀ (b' : Int32) (a3' a4' a5' a6' : Nat → Int32), post (-1000000) (w, e, nI c, b', a1, a2, a3', a4', a5', a6')) : wpX_costBreaking post (w, e, nI c, b, a1, a2, a3, a4, a5, a6) (nI i) := by
  refine br_f (nI_pos (by omega)) (br_f ?_ (H _ _ _ _ _))
  rw [show nI c - 1 = nI (c - 1) from pk_sub (b := 1) (by omega)]
  exact nI_nlt (by omega) (by omega)
theorem pb_keeping {post : Int32 → St2 → Prop} {w e b r : Int32} {a1 a2 a3 a4 a5 a6 : Nat → Int32} {c i : Nat} (hc : c ≤ 10) (hi : i + 1 < c) (hr : (if (1000000 : Int32) ≤ (pb_lv c (pb_lc w e c (nI i) a1 a2) c 0).1 then -1000000 else (pb_lv c (pb_lc w e c (nI i) a1 a2) c 0).1) = r)
    (H : ∀ (b' : Int32) (a3' a4' a5' a6' : Nat → Int32), post r (w, e, nI c, b', a1, a2, a3', a4', a5', a6')) : wpX_costKeeping post (w, e, nI c, b, a1, a2, a3, a4, a5, a6) (nI i) := by
  refine br_f (nI_pos (by omega)) (br_t ?_ (pb_learn hc (fun a3' a5' a6' hT => ?_)))
  · rw [show nI c - 1 = nI (c - 1) from pk_sub (b := 1) (by omega)]
    exact nI_lt (by omega) (by omega)
  · have e5 := (hT.2 0 (by omega)).1
    show ((1000000 : Int32) ≤ a5' 0 → _) ∧ (¬ (1000000 : Int32) ≤ a5' 0 → _)
    rw [e5]
    refine br_c (fun z => ?_) (fun z => ?_)
    · rw [if_pos z] at hr
      rw [hr]
      exact H _ _ _ _ _
    · rw [if_neg z] at hr
      rw [hr]
      exact H _ _ _ _ _
end
section
/-- one step towards the least, in whole numbers -/
def pb_si (l r x : Int) : Int := if 1000000 ≤ l ∨ 1000000 ≤ r then x else if x ≤ l + r then x else l + r
def pb_sy (l r z x y : Int) : Int := if 1000000 ≤ l ∨ 1000000 ≤ r then y else if l + r < x then z else if l + r = x then y + z else y
/-- small enough to be compared as ints -/
def pb_ok (x : Int) : Prop := -10000000 ≤ x ∧ x ≤ 10000000
theorem pb_lo_s {ln row : Nat → Int32} {k q : Nat} {l r x : Int} (hl : ln q = pb_v l) (hr : row q = pb_v r) (bl : pb_ok l) (br : pb_ok r) (bx : pb_ok x) : pb_lo ln row (k + 1) q (pb_v x) = pb_lo ln row k (q + 1) (pb_v (pb_si l r x)) := by
  unfold pb_ok at bl br bx
  show pb_lo ln row k (q + 1) _ = _
  congr 1
  rw [hl, hr, pb_add, pb_big, pb_si]
  by_cases h1 : 1000000 ≤ l
  · rw [if_pos ((pb_le (by omega) (by omega) (by omega) (by omega)).mpr h1), if_pos (Or.inl h1)]
  · rw [if_neg (fun z => h1 ((pb_le (by omega) (by omega) (by omega) (by omega)).mp z))]
    by_cases h2 : 1000000 ≤ r
    · rw [if_pos ((pb_le (by omega) (by omega) (by omega) (by omega)).mpr h2), if_pos (Or.inr h2)]
    · rw [if_neg (fun z => h2 ((pb_le (by omega) (by omega) (by omega) (by omega)).mp z)), if_neg (show ¬ (1000000 ≤ l ∨ 1000000 ≤ r) by omega)]
      by_cases h3 : x ≤ l + r
      · rw [if_pos ((pb_le (by omega) (by omega) (by omega) (by omega)).mpr h3), if_pos h3]
      · rw [if_neg (fun z => h3 ((pb_le (by omega) (by omega) (by omega) (by omega)).mp z)), if_neg h3]
theorem pb_ul_s {ln up : Nat → Int32} {k q : Nat} {l r x : Int} (hl : ln q = pb_v l) (hr : up q = pb_v r) (bl : pb_ok l) (br : pb_ok r) (bx : pb_ok x) : pb_ul ln up (k + 1) q (pb_v x) = pb_ul ln up k (q + 1) (pb_v (pb_si l r x)) := by
  unfold pb_ok at bl br bx
  show pb_ul ln up k (q + 1) _ = _
  congr 1
  rw [hl, hr, pb_add, pb_big, pb_si, Int.add_comm r l]
  by_cases h1 : 1000000 ≤ l
  · rw [if_pos ((pb_le (by omega) (by omega) (by omega) (by omega)).mpr h1), if_pos (Or.inl h1)]
  · rw [if_neg (fun z => h1 ((pb_le (by omega) (by omega) (by omega) (by omega)).mp z))]
    by_cases h2 : 1000000 ≤ r
    · rw [if_pos ((pb_le (by omega) (by omega) (by omega) (by omega)).mpr h2), if_pos (Or.inr h2)]
    · rw [if_neg (fun z => h2 ((pb_le (by omega) (by omega) (by omega) (by omega)).mp z)), if_neg (show ¬ (1000000 ≤ l ∨ 1000000 ≤ r) by omega)]
      by_cases h3 : x ≤ l + r
      · rw [if_pos ((pb_le (by omega) (by omega) (by omega) (by omega)).mpr h3), if_pos h3]
      · rw [if_neg (fun z => h3 ((pb_le (by omega) (by omega) (by omega) (by omega)).mp z)), if_neg h3]
theorem pb_fb_s {ln be wy : Nat → Int32} {k q : Nat} {l r z x y : Int} (hl : ln q = pb_v l) (hr : be q = pb_v r) (hz : wy q = pb_v z) (bl : pb_ok l) (br : pb_ok r) (bx : pb_ok x) : pb_fb ln be wy (k + 1) q (pb_v x) (pb_v y) = pb_fb ln be wy k (q + 1) (pb_v (pb_si l r x)) (pb_v (pb_sy l r z x y)) := by
  unfold pb_ok at bl br bx
  rw [pb_fb, hl, hr, hz, pb_add, pb_big, show (0 : Int32) = pb_v 0 by decide, pb_add, pb_add, pb_add, pb_si, pb_sy]
  by_cases h1 : 1000000 ≤ l
  · rw [if_pos ((pb_le (by omega) (by omega) (by omega) (by omega)).mpr h1), if_pos (Or.inl h1), if_pos (Or.inl h1)]
  · rw [if_neg (fun z => h1 ((pb_le (by omega) (by omega) (by omega) (by omega)).mp z))]
    by_cases h2 : 1000000 ≤ r
    · rw [if_pos ((pb_le (by omega) (by omega) (by omega) (by omega)).mpr h2), if_pos (Or.inr h2), if_pos (Or.inr h2)]
    · have h12 : ¬ (1000000 ≤ l ∨ 1000000 ≤ r) := by omega
      rw [if_neg (fun z => h2 ((pb_le (by omega) (by omega) (by omega) (by omega)).mp z)), if_neg h12, if_neg h12]
      by_cases h3 : x ≤ l + r
      · rw [if_pos ((pb_le (by omega) (by omega) (by omega) (by omega)).mpr h3), if_pos h3, if_neg (show ¬ l + r < x by omega)]
        by_cases h4 : l + r = x
        · rw [if_pos ((pb_eq (by omega) (by omega) (by omega) (by omega)).mpr h4), if_pos h4]
        · rw [if_neg (fun z => h4 ((pb_eq (by omega) (by omega) (by omega) (by omega)).mp z)), if_neg h4, Int.add_zero]
      · rw [if_neg (fun z => h3 ((pb_le (by omega) (by omega) (by omega) (by omega)).mp z)), if_neg h3, if_pos (show l + r < x by omega), Int.zero_add]
end
section
theorem pb_lo_t {ln row : Nat → Int32} {k q : Nat} {l r x : Int} (x' : Int) (hl : ln q = pb_v l) (hr : row q = pb_v r) (bl : pb_ok l) (br : pb_ok r) (bx : pb_ok x) (ex : pb_si l r x = x') : pb_lo ln row (k + 1) q (pb_v x) = pb_lo ln row k (q + 1) (pb_v x') := ex ▸ pb_lo_s hl hr bl br bx
theorem pb_ul_t {ln up : Nat → Int32} {k q : Nat} {l r x : Int} (x' : Int) (hl : ln q = pb_v l) (hr : up q = pb_v r) (bl : pb_ok l) (br : pb_ok r) (bx : pb_ok x) (ex : pb_si l r x = x') : pb_ul ln up (k + 1) q (pb_v x) = pb_ul ln up k (q + 1) (pb_v x') := ex ▸ pb_ul_s hl hr bl br bx
theorem pb_fb_t {ln be wy : Nat → Int32} {k q : Nat} {l r z x y : Int} (x' y' : Int) (hl : ln q = pb_v l) (hr : be q = pb_v r) (hz : wy q = pb_v z) (bl : pb_ok l) (br : pb_ok r) (bx : pb_ok x) (ex : pb_si l r x = x') (ey : pb_sy l r z x y = y') : pb_fb ln be wy (k + 1) q (pb_v x) (pb_v y) = pb_fb ln be wy k (q + 1) (pb_v x') (pb_v y') := ex ▸ ey ▸ pb_fb_s hl hr hz bl br bx
theorem pb_zero : (0 : Int32) = pb_v 0 := by decide
theorem pb_one : (1 : Int32) = pb_v 1 := by decide
/-- the six lines -/
def pb_L (lc : Nat → Nat → Int32) (i01 i02 i03 i12 i13 : Int) : Prop :=
  lc 0 1 = pb_v i01 ∧ lc 0 2 = pb_v i02 ∧ lc 0 3 = pb_v i03 ∧ lc 1 2 = pb_v i12 ∧ lc 1 3 = pb_v i13 ∧ lc 2 3 = pb_v 0
/-- the six lines against the law's four sums (N: no break, F: after the first, S: after the second; both: i01 + i12) -/
def pb_B (i01 i02 i03 i12 i13 N F S : Int) : Prop :=
  (-100 ≤ i01 ∧ i01 ≤ 5000) ∧ (-100 ≤ i12 ∧ i12 ≤ 5000) ∧ ((-100 ≤ i03 ∧ i03 ≤ 5000 ∧ N = i03) ∨ (i03 = 1000000 ∧ 90000 ≤ N ∧ N ≤ 110000)) ∧
  ((-100 ≤ i13 ∧ i13 ≤ 5000 ∧ F = i01 + i13) ∨ (i13 = 1000000 ∧ 90000 ≤ F ∧ F ≤ 110000)) ∧ ((-100 ≤ i02 ∧ i02 ≤ 5000 ∧ S = i02) ∨ (i02 = 1000000 ∧ 90000 ≤ S ∧ S ≤ 110000))
theorem pb_on00 {lc : Nat → Nat → Int32} : ∀ q, q ≠ 3 → pb_on 3 lc 0 q = pb_v 1000000 := fun q hq => (if_neg hq).trans pb_big
theorem pb_on03 {lc : Nat → Nat → Int32} : pb_on 3 lc 0 3 = pb_v 0 := (if_pos rfl).trans pb_zero
theorem pb_on10 {lc : Nat → Nat → Int32} {i01 i02 i03 i12 i13 N F S : Int} (hL : pb_L lc i01 i02 i03 i12 i13) (hB : pb_B i01 i02 i03 i12 i13 N F S) : pb_on 3 lc 1 0 = pb_v i03 := by
  obtain ⟨h01, h02, h03, h12, h13, h23⟩ := hL
  unfold pb_B at hB
  show pb_lo (lc 0) (pb_on 3 lc 0) 3 1 1000000 = _
  rw [pb_big]
  exact (pb_lo_t (k := 2) (q := 1) 1000000 h01 (pb_on00 1 (by decide)) (by unfold pb_ok; omega) (by unfold pb_ok; omega) (by unfold pb_ok; omega) (by unfold pb_si; omega)).trans
    ((pb_lo_t (k := 1) (q := 2) 1000000 h02 (pb_on00 2 (by decide)) (by unfold pb_ok; omega) (by unfold pb_ok; omega) (by unfold pb_ok; omega) (by unfold pb_si; omega)).trans
    (pb_lo_t (k := 0) (q := 3) i03 h03 pb_on03 (by unfold pb_ok; omega) (by unfold pb_ok; omega) (by unfold pb_ok; omega) (by unfold pb_si; omega)))
theorem pb_on11 {lc : Nat → Nat → Int32} {i01 i02 i03 i12 i13 N F S : Int} (hL : pb_L lc i01 i02 i03 i12 i13) (hB : pb_B i01 i02 i03 i12 i13 N F S) : pb_on 3 lc 1 1 = pb_v i13 := by
  obtain ⟨h01, h02, h03, h12, h13, h23⟩ := hL
  unfold pb_B at hB
  show pb_lo (lc 1) (pb_on 3 lc 0) 2 2 1000000 = _
  rw [pb_big]
  exact (pb_lo_t (k := 1) (q := 2) 1000000 h12 (pb_on00 2 (by decide)) (by unfold pb_ok; omega) (by unfold pb_ok; omega) (by unfold pb_ok; omega) (by unfold pb_si; omega)).trans
    (pb_lo_t (k := 0) (q := 3) i13 h13 pb_on03 (by unfold pb_ok; omega) (by unfold pb_ok; omega) (by unfold pb_ok; omega) (by unfold pb_si; omega))
theorem pb_on12 {lc : Nat → Nat → Int32} {i01 i02 i03 i12 i13 : Int} (hL : pb_L lc i01 i02 i03 i12 i13) : pb_on 3 lc 1 2 = pb_v 0 := by
  obtain ⟨h01, h02, h03, h12, h13, h23⟩ := hL
  show pb_lo (lc 2) (pb_on 3 lc 0) 1 3 1000000 = _
  rw [pb_big]
  exact pb_lo_t (k := 0) (q := 3) 0 h23 pb_on03 (by unfold pb_ok; omega) (by unfold pb_ok; omega) (by unfold pb_ok; omega) (by unfold pb_si; omega)
theorem pb_on3 {lc : Nat → Nat → Int32} (n : Nat) : pb_on 3 lc (n + 1) 3 = pb_v 1000000 := pb_big
theorem pb_on20 {lc : Nat → Nat → Int32} {i01 i02 i03 i12 i13 N F S : Int} (hL : pb_L lc i01 i02 i03 i12 i13) (hB : pb_B i01 i02 i03 i12 i13 N F S) : pb_on 3 lc 2 0 = pb_v (if F ≤ S then (if 50000 < F then 1000000 else F) else (if 50000 < S then 1000000 else S)) := by
  have e1 := pb_on11 hL hB
  have e2 := pb_on12 hL
  obtain ⟨h01, h02, h03, h12, h13, h23⟩ := hL
  unfold pb_B at hB
  show pb_lo (lc 0) (pb_on 3 lc 1) 3 1 1000000 = _
  rw [pb_big]
  exact (pb_lo_t (k := 2) (q := 1) (if 50000 < F then 1000000 else F) h01 e1 (by unfold pb_ok; omega) (by unfold pb_ok; omega) (by unfold pb_ok; omega) (by unfold pb_si; omega)).trans
    ((pb_lo_t (k := 1) (q := 2) (if F ≤ S then (if 50000 < F then 1000000 else F) else (if 50000 < S then 1000000 else S)) h02 e2 (by unfold pb_ok; omega) (by unfold pb_ok; omega) (by unfold pb_ok; omega) (by unfold pb_si; omega)).trans
    (pb_lo_t (k := 0) (q := 3) _ h03 (pb_on3 0) (by unfold pb_ok; omega) (by unfold pb_ok; omega) (by unfold pb_ok; omega) (if_pos (Or.inr (by omega)))))
theorem pb_on21 {lc : Nat → Nat → Int32} {i01 i02 i03 i12 i13 N F S : Int} (hL : pb_L lc i01 i02 i03 i12 i13) (hB : pb_B i01 i02 i03 i12 i13 N F S) : pb_on 3 lc 2 1 = pb_v i12 := by
  have e2 := pb_on12 hL
  obtain ⟨h01, h02, h03, h12, h13, h23⟩ := hL
  unfold pb_B at hB
  show pb_lo (lc 1) (pb_on 3 lc 1) 2 2 1000000 = _
  rw [pb_big]
  exact (pb_lo_t (k := 1) (q := 2) i12 h12 e2 (by unfold pb_ok; omega) (by unfold pb_ok; omega) (by unfold pb_ok; omega) (by unfold pb_si; omega)).trans
    (pb_lo_t (k := 0) (q := 3) i12 h13 (pb_on3 0) (by unfold pb_ok; omega) (by unfold pb_ok; omega) (by unfold pb_ok; omega) (by unfold pb_si; omega))
theorem pb_on22 {lc : Nat → Nat → Int32} {i01 i02 i03 i12 i13 : Int} (hL : pb_L lc i01 i02 i03 i12 i13) : pb_on 3 lc 2 2 = pb_v 1000000 := by
  obtain ⟨h01, h02, h03, h12, h13, h23⟩ := hL
  show pb_lo (lc 2) (pb_on 3 lc 1) 1 3 1000000 = _
  rw [pb_big]
  exact pb_lo_t (k := 0) (q := 3) 1000000 h23 (pb_on3 0) (by unfold pb_ok; omega) (by unfold pb_ok; omega) (by unfold pb_ok; omega) (by unfold pb_si; omega)
theorem pb_on30 {lc : Nat → Nat → Int32} {i01 i02 i03 i12 i13 N F S : Int} (hL : pb_L lc i01 i02 i03 i12 i13) (hB : pb_B i01 i02 i03 i12 i13 N F S) : pb_on 3 lc 3 0 = pb_v (i01 + i12) := by
  have e1 := pb_on21 hL hB
  have e2 := pb_on22 hL
  obtain ⟨h01, h02, h03, h12, h13, h23⟩ := hL
  unfold pb_B at hB
  show pb_lo (lc 0) (pb_on 3 lc 2) 3 1 1000000 = _
  rw [pb_big]
  exact (pb_lo_t (k := 2) (q := 1) (i01 + i12) h01 e1 (by unfold pb_ok; omega) (by unfold pb_ok; omega) (by unfold pb_ok; omega) (by unfold pb_si; omega)).trans
    ((pb_lo_t (k := 1) (q := 2) (i01 + i12) h02 e2 (by unfold pb_ok; omega) (by unfold pb_ok; omega) (by unfold pb_ok; omega) (by unfold pb_si; omega)).trans
    (pb_lo_t (k := 0) (q := 3) (i01 + i12) h03 (pb_on3 1) (by unfold pb_ok; omega) (by unfold pb_ok; omega) (by unfold pb_ok; omega) (by unfold pb_si; omega)))
theorem pb_lv0 {lc : Nat → Nat → Int32} : pb_lv 3 lc 0 3 = (pb_v 0, pb_v 1) := by rw [← pb_zero, ← pb_one]; rfl
theorem pb_lv12 {lc : Nat → Nat → Int32} (h23 : lc 2 3 = pb_v 0) : pb_lv 3 lc 1 2 = (pb_v 0, pb_v 1) := by
  show pb_fb (lc 2) (fun q => (pb_lv 3 lc 0 q).1) (fun q => (pb_lv 3 lc 0 q).2) 1 3 1000000 0 = _
  rw [pb_big, pb_zero]
  exact pb_fb_t (k := 0) (q := 3) 0 1 h23 (congrArg Prod.fst (pb_lv0 (lc := lc))) (congrArg Prod.snd (pb_lv0 (lc := lc))) (by unfold pb_ok; omega) (by unfold pb_ok; omega) (by unfold pb_ok; omega) (by unfold pb_si; omega) (by unfold pb_sy; omega)
theorem pb_lv21 {lc : Nat → Nat → Int32} {i12 i13 : Int} (h12 : lc 1 2 = pb_v i12) (h13 : lc 1 3 = pb_v i13) (h23 : lc 2 3 = pb_v 0) (b12 : -100 ≤ i12 ∧ i12 ≤ 5000) (b13 : (-100 ≤ i13 ∧ i13 ≤ 5000) ∨ i13 = 1000000) : pb_lv 3 lc 2 1 = (pb_v (if i12 ≤ i13 then i12 else i13), pb_v (if i12 = i13 then 2 else 1)) := by
  show pb_fb (lc 1) (fun q => (pb_lv 3 lc 1 q).1) (fun q => (pb_lv 3 lc 1 q).2) 2 2 1000000 0 = _
  rw [pb_big, pb_zero]
  exact (pb_fb_t (k := 1) (q := 2) i12 1 h12 (congrArg Prod.fst (pb_lv12 h23)) (congrArg Prod.snd (pb_lv12 h23)) (by unfold pb_ok; omega) (by unfold pb_ok; omega) (by unfold pb_ok; omega) (by unfold pb_si; omega) (by unfold pb_sy; omega)).trans
    (pb_fb_t (k := 0) (q := 3) _ _ h13 (congrArg Prod.fst (pb_lv0 (lc := lc))) (congrArg Prod.snd (pb_lv0 (lc := lc))) (by unfold pb_ok; omega) (by unfold pb_ok; omega) (by unfold pb_ok; omega) (by unfold pb_si; omega) (by unfold pb_sy; omega))
/-- the least of the four -/
def pb_min4 (N F S B : Int) : Int := min (min N F) (min S B)
def pb_many (N F S B m : Int) : Int := (((if N = m then 1 else 0) + (if F = m then 1 else 0)) + (if S = m then 1 else 0)) + (if B = m then 1 else 0)
theorem pb_lv30 {lc : Nat → Nat → Int32} {i01 i02 i03 i12 i13 N F S : Int} (hL : pb_L lc i01 i02 i03 i12 i13) (hB : pb_B i01 i02 i03 i12 i13 N F S) : pb_lv 3 lc 3 0 = (pb_v (pb_min4 N F S (i01 + i12)), pb_v (pb_many N F S (i01 + i12) (pb_min4 N F S (i01 + i12)))) := by
  obtain ⟨h01, h02, h03, h12, h13, h23⟩ := hL
  unfold pb_B at hB
  have e1 := pb_lv21 h12 h13 h23 (by omega) (by omega)
  have e2 := pb_lv12 h23
  show pb_fb (lc 0) (fun q => (pb_lv 3 lc 2 q).1) (fun q => (pb_lv 3 lc 2 q).2) 3 1 1000000 0 = _
  rw [pb_big, pb_zero]
  have x1 : pb_si i01 (if i12 ≤ i13 then i12 else i13) 1000000 = min F (i01 + i12) := by unfold pb_si; omega
  have y1 : pb_sy i01 (if i12 ≤ i13 then i12 else i13) (if i12 = i13 then 2 else 1) 1000000 0 = (if F = i01 + i12 then 2 else 1) := by unfold pb_sy; omega
  have x2 : pb_si i02 0 (min F (i01 + i12)) = min S (min F (i01 + i12)) := by unfold pb_si; omega
  have y2 : pb_sy i02 0 1 (min F (i01 + i12)) (if F = i01 + i12 then 2 else 1) = ((if F = min S (min F (i01 + i12)) then 1 else 0) + (if S = min S (min F (i01 + i12)) then 1 else 0)) + (if i01 + i12 = min S (min F (i01 + i12)) then 1 else 0) := by unfold pb_sy; omega
  have x3 : pb_si i03 0 (min S (min F (i01 + i12))) = pb_min4 N F S (i01 + i12) := by unfold pb_si pb_min4; omega
  have y3 : pb_sy i03 0 1 (min S (min F (i01 + i12))) (((if F = min S (min F (i01 + i12)) then 1 else 0) + (if S = min S (min F (i01 + i12)) then 1 else 0)) + (if i01 + i12 = min S (min F (i01 + i12)) then 1 else 0)) = pb_many N F S (i01 + i12) (pb_min4 N F S (i01 + i12)) := by
    unfold pb_sy pb_many pb_min4; omega
  exact (pb_fb_t (k := 2) (q := 1) _ _ h01 (congrArg Prod.fst e1) (congrArg Prod.snd e1) (by unfold pb_ok; omega) (by unfold pb_ok; omega) (by unfold pb_ok; omega) x1 y1).trans
    ((pb_fb_t (k := 1) (q := 2) _ _ h02 (congrArg Prod.fst e2) (congrArg Prod.snd e2) (by unfold pb_ok; omega) (by unfold pb_ok; omega) (by unfold pb_ok; omega) x2 y2).trans
    (pb_fb_t (k := 0) (q := 3) _ _ h03 (congrArg Prod.fst (pb_lv0 (lc := lc))) (congrArg Prod.snd (pb_lv0 (lc := lc))) (by unfold pb_ok; omega) (by unfold pb_ok; omega) (by unfold pb_ok; omega) x3 y3))
end
section
theorem pb_ge {i : Int} (h : 1000000 ≤ i) (h' : i ≤ 10000000) : (1000000 : Int32) ≤ pb_v i := by
  rw [pb_big]
  exact (pb_le (by omega) (by omega) (by omega) (by omega)).mpr h
theorem pb_nge {i : Int} (h : i < 1000000) (h' : -10000000 ≤ i) : ¬ (1000000 : Int32) ≤ pb_v i := by
  rw [pb_big]
  exact fun z => absurd ((pb_le (by omega) (by omega) (by omega) (by omega)).mp z) (by omega)
theorem pb_ne {i j : Int} (h : i ≠ j) (h1 : -10000000 ≤ i) (h2 : i ≤ 10000000) (h3 : -10000000 ≤ j) (h4 : j ≤ 10000000) : ¬ pb_v i = pb_v j :=
  fun z => h ((pb_eq (by omega) (by omega) (by omega) (by omega)).mp z)
theorem pb_sum {x y : Int32} {i j k : Int} (hx : x = pb_v i) (hy : y = pb_v j) (h : i + j = k) : x + y = pb_v k := by
  rw [hx, hy, pb_add, h]
theorem pb_far0 {lc : Nat → Nat → Int32} {q : Nat} (hq : q ≠ 3) : (1000000 : Int32) ≤ pb_on 3 lc 0 q := by
  rw [pb_on00 q hq]
  exact pb_ge (by omega) (by omega)
/-- the last line: the words from p on in one line -/
theorem pb_feLast {lc : Nat → Nat → Int32} {p : Nat} {i : Int} (hp : p < 3) (hl : lc p 3 = pb_v i) (ho : pb_on 3 lc 1 p = pb_v i) (h1 : i < 1000000) (h2 : -10000000 ≤ i) : pb_fe 3 lc 0 p 3 := by
  refine ⟨hp, by omega, fun q g1 g2 => Or.inr (Or.inl (pb_far0 (by omega))), ?_, ?_, ?_⟩
  · rw [hl]
    exact pb_nge h1 h2
  · rw [pb_on03]
    exact pb_nge (by omega) (by omega)
  · rw [show (0 + 1 : Nat) = 1 from rfl, ho]
    exact pb_sum hl pb_on03 (by omega)
theorem pb_sol0 {lc : Nat → Nat → Int32} {i01 i02 i03 i12 i13 N F S : Int} (hL : pb_L lc i01 i02 i03 i12 i13) (hB : pb_B i01 i02 i03 i12 i13 N F S) (h : N = pb_min4 N F S (i01 + i12)) : pb_sol 3 lc 1 (fun i => if i = 0 then 0 else 3) := by
  have e10 := pb_on10 hL hB
  have e30 := congrArg Prod.fst (pb_lv30 hL hB)
  have h03 := hL.2.2.1
  unfold pb_B at hB
  unfold pb_min4 at h e30
  refine ⟨⟨by omega, fun n hn => Or.inl ?_, ?_, ?_⟩, rfl, fun i hi => ?_, fun i hi => ?_⟩
  · rw [show n = 0 by omega]
    exact pb_far0 (by decide)
  · rw [e10]
    exact pb_nge (by omega) (by omega)
  · rw [e10, e30]
    exact congrArg pb_v (by omega)
  · dsimp only
    split <;> omega
  · rw [show i = 0 by omega]
    exact pb_feLast (by decide) h03 e10 (by omega) (by omega)
theorem pb_sol1 {lc : Nat → Nat → Int32} {i01 i02 i03 i12 i13 N F S : Int} (hL : pb_L lc i01 i02 i03 i12 i13) (hB : pb_B i01 i02 i03 i12 i13 N F S) (hN : ¬ N = pb_min4 N F S (i01 + i12)) (h : F = pb_min4 N F S (i01 + i12)) : pb_sol 3 lc 2 (fun i => if i = 0 then 0 else if i = 1 then 1 else 3) := by
  have e10 := pb_on10 hL hB
  have e11 := pb_on11 hL hB
  have e20 := pb_on20 hL hB
  have e30 := congrArg Prod.fst (pb_lv30 hL hB)
  obtain ⟨h01, h02, h03, h12, h13, h23⟩ := hL
  unfold pb_B at hB
  unfold pb_min4 at h hN e30
  have et : (if F ≤ S then (if 50000 < F then 1000000 else F) else (if 50000 < S then 1000000 else S)) = F := by omega
  rw [et] at e20
  refine ⟨⟨by omega, fun n hn => ?_, ?_, ?_⟩, rfl, fun i hi => ?_, fun i hi => ?_⟩
  · rcases (show n = 0 ∨ n = 1 by omega) with g | g
    · rw [g]
      exact Or.inl (pb_far0 (by decide))
    · rw [g, e10, e30]
      exact Or.inr (pb_ne (by omega) (by omega) (by omega) (by omega) (by omega))
  · rw [e20]
    exact pb_nge (by omega) (by omega)
  · rw [e20, e30]
    exact congrArg pb_v (by omega)
  · dsimp only
    split
    · omega
    · split <;> omega
  · rcases (show i = 0 ∨ i = 1 by omega) with g | g
    · rw [g]
      refine ⟨by decide, by decide, fun q g1 g2 => absurd (show 0 < q from g1) (by have : q < 1 := g2; omega), ?_, ?_, ?_⟩
      · show ¬ (1000000 : Int32) ≤ lc 0 1
        rw [h01]
        exact pb_nge (by omega) (by omega)
      · show ¬ (1000000 : Int32) ≤ pb_on 3 lc 1 1
        rw [e11]
        exact pb_nge (by omega) (by omega)
      · show lc 0 1 + pb_on 3 lc 1 1 = pb_on 3 lc 2 0
        rw [e20]
        exact pb_sum h01 e11 (by omega)
    · rw [g]
      exact pb_feLast (p := 1) (by decide) h13 e11 (by omega) (by omega)
theorem pb_sol2 {lc : Nat → Nat → Int32} {i01 i02 i03 i12 i13 N F S : Int} (hL : pb_L lc i01 i02 i03 i12 i13) (hB : pb_B i01 i02 i03 i12 i13 N F S) (hN : ¬ N = pb_min4 N F S (i01 + i12)) (hF : ¬ F = pb_min4 N F S (i01 + i12)) (h : S = pb_min4 N F S (i01 + i12)) : pb_sol 3 lc 2 (fun i => if i = 0 then 0 else if i = 1 then 2 else 3) := by
  have e10 := pb_on10 hL hB
  have e11 := pb_on11 hL hB
  have e12 := pb_on12 hL
  have e20 := pb_on20 hL hB
  have e30 := congrArg Prod.fst (pb_lv30 hL hB)
  obtain ⟨h01, h02, h03, h12, h13, h23⟩ := hL
  unfold pb_B at hB
  unfold pb_min4 at h hN hF e30
  have et : (if F ≤ S then (if 50000 < F then 1000000 else F) else (if 50000 < S then 1000000 else S)) = S := by omega
  rw [et] at e20
  refine ⟨⟨by omega, fun n hn => ?_, ?_, ?_⟩, rfl, fun i hi => ?_, fun i hi => ?_⟩
  · rcases (show n = 0 ∨ n = 1 by omega) with g | g
    · rw [g]
      exact Or.inl (pb_far0 (by decide))
    · rw [g, e10, e30]
      exact Or.inr (pb_ne (by omega) (by omega) (by omega) (by omega) (by omega))
  · rw [e20]
    exact pb_nge (by omega) (by omega)
  · rw [e20, e30]
    exact congrArg pb_v (by omega)
  · dsimp only
    split
    · omega
    · split <;> omega
  · rcases (show i = 0 ∨ i = 1 by omega) with g | g
    · rw [g]
      refine ⟨by decide, by decide, fun q g1 g2 => ?_, ?_, ?_, ?_⟩
      · have eq : q = 1 := by
          have a : 0 < q := g1
          have b : q < 2 := g2
          omega
        show (1000000 : Int32) ≤ lc 0 q ∨ (1000000 : Int32) ≤ pb_on 3 lc 1 q ∨ ¬ lc 0 q + pb_on 3 lc 1 q = pb_on 3 lc 2 0
        rw [eq, e20, e11]
        refine Or.inr ?_
        rcases (show i13 = 1000000 ∨ F = i01 + i13 ∧ i13 ≤ 5000 ∧ -100 ≤ i13 by omega) with g3 | g3
        · exact Or.inl (pb_ge (by omega) (by omega))
        · rw [pb_sum h01 rfl rfl]
          exact Or.inr (pb_ne (by omega) (by omega) (by omega) (by omega) (by omega))
      · show ¬ (1000000 : Int32) ≤ lc 0 2
        rw [h02]
        exact pb_nge (by omega) (by omega)
      · show ¬ (1000000 : Int32) ≤ pb_on 3 lc 1 2
        rw [e12]
        exact pb_nge (by omega) (by omega)
      · show lc 0 2 + pb_on 3 lc 1 2 = pb_on 3 lc 2 0
        rw [e20]
        exact pb_sum h02 e12 (by omega)
    · rw [g]
      exact pb_feLast (p := 2) (by decide) h23 e12 (by omega) (by omega)
theorem pb_sol3 {lc : Nat → Nat → Int32} {i01 i02 i03 i12 i13 N F S : Int} (hL : pb_L lc i01 i02 i03 i12 i13) (hB : pb_B i01 i02 i03 i12 i13 N F S) (hN : ¬ N = pb_min4 N F S (i01 + i12)) (hF : ¬ F = pb_min4 N F S (i01 + i12)) (hS : ¬ S = pb_min4 N F S (i01 + i12)) : pb_sol 3 lc 3 (fun i => i) := by
  have e10 := pb_on10 hL hB
  have e12 := pb_on12 hL
  have e20 := pb_on20 hL hB
  have e21 := pb_on21 hL hB
  have o30 := pb_on30 hL hB
  have e30 := congrArg Prod.fst (pb_lv30 hL hB)
  obtain ⟨h01, h02, h03, h12, h13, h23⟩ := hL
  unfold pb_B at hB
  unfold pb_min4 at hN hF hS e30
  refine ⟨⟨by omega, fun n hn => ?_, ?_, ?_⟩, rfl, fun i hi => hi, fun i hi => ?_⟩
  · rcases (show n = 0 ∨ n = 1 ∨ n = 2 by omega) with g | g | g
    · rw [g]
      exact Or.inl (pb_far0 (by decide))
    · rw [g, e10, e30]
      exact Or.inr (pb_ne (by omega) (by omega) (by omega) (by omega) (by omega))
    · rw [g, e20, e30]
      exact Or.inr (pb_ne (by omega) (by omega) (by omega) (by omega) (by omega))
  · rw [o30]
    exact pb_nge (by omega) (by omega)
  · rw [o30, e30]
    exact congrArg pb_v (by omega)
  · rcases (show i = 0 ∨ i = 1 ∨ i = 2 by omega) with g | g | g
    · rw [g]
      refine ⟨by decide, by decide, fun q g1 g2 => absurd (show 0 < q from g1) (by have : q < 1 := g2; omega), ?_, ?_, ?_⟩
      · show ¬ (1000000 : Int32) ≤ lc 0 1
        rw [h01]
        exact pb_nge (by omega) (by omega)
      · show ¬ (1000000 : Int32) ≤ pb_on 3 lc 2 1
        rw [e21]
        exact pb_nge (by omega) (by omega)
      · show lc 0 1 + pb_on 3 lc 2 1 = pb_on 3 lc 3 0
        rw [o30]
        exact pb_sum h01 e21 (by omega)
    · rw [g]
      refine ⟨by decide, by decide, fun q g1 g2 => absurd (show 1 < q from g1) (by have : q < 2 := g2; omega), ?_, ?_, ?_⟩
      · show ¬ (1000000 : Int32) ≤ lc 1 2
        rw [h12]
        exact pb_nge (by omega) (by omega)
      · show ¬ (1000000 : Int32) ≤ pb_on 3 lc 1 2
        rw [e12]
        exact pb_nge (by omega) (by omega)
      · show lc 1 2 + pb_on 3 lc 1 2 = pb_on 3 lc 2 1
        rw [e21]
        exact pb_sum h12 e12 (by omega)
    · rw [g]
      exact pb_feLast (p := 2) (by decide) h23 e12 (by omega) (by omega)
/-- the answer when no line may end after the first word -/
theorem pb_lvK {lc : Nat → Nat → Int32} {i01 i02 i03 i12 i13 N F S : Int} (h01 : lc 0 1 = pb_v 1000000) (h02 : lc 0 2 = pb_v i02) (h03 : lc 0 3 = pb_v i03) (h12 : lc 1 2 = pb_v i12) (h13 : lc 1 3 = pb_v i13) (h23 : lc 2 3 = pb_v 0) (hB : pb_B i01 i02 i03 i12 i13 N F S) : (pb_lv 3 lc 3 0).1 = pb_v (min i03 i02) := by
  unfold pb_B at hB
  have e1 := pb_lv21 h12 h13 h23 (by omega) (by omega)
  have e2 := pb_lv12 h23
  have key : pb_lv 3 lc 3 0 = (pb_v (min i03 i02), pb_v (pb_sy i03 0 1 i02 (pb_sy i02 0 1 1000000 0))) := by
    show pb_fb (lc 0) (fun q => (pb_lv 3 lc 2 q).1) (fun q => (pb_lv 3 lc 2 q).2) 3 1 1000000 0 = _
    rw [pb_big, pb_zero]
    exact (pb_fb_t (k := 2) (q := 1) 1000000 0 h01 (congrArg Prod.fst e1) (congrArg Prod.snd e1) (by unfold pb_ok; omega) (by unfold pb_ok; omega) (by unfold pb_ok; omega) (by unfold pb_si; omega) (by unfold pb_sy; omega)).trans
      ((pb_fb_t (k := 1) (q := 2) i02 _ h02 (congrArg Prod.fst e2) (congrArg Prod.snd e2) (by unfold pb_ok; omega) (by unfold pb_ok; omega) (by unfold pb_ok; omega) (by unfold pb_si; omega) rfl).trans
      (pb_fb_t (k := 0) (q := 3) (min i03 i02) _ h03 (congrArg Prod.fst (pb_lv0 (lc := lc))) (congrArg Prod.snd (pb_lv0 (lc := lc))) (by unfold pb_ok; omega) (by unfold pb_ok; omega) (by unfold pb_ok; omega) (by unfold pb_si; omega) rfl))
  exact congrArg Prod.fst key
theorem pb_uv1 {lc : Nat → Nat → Int32} {i01 : Int} (h01 : lc 0 1 = pb_v i01) (b : -100 ≤ i01 ∧ i01 ≤ 5000) : pb_uv lc 2 1 = pb_v i01 := by
  have e2 : pb_uv lc 2 1 = pb_uv lc 1 1 := if_neg (show ¬ (1 : Nat) = 1 + 1 by decide)
  have e1 : pb_uv lc 1 1 = pb_ul (fun p => lc p (0 + 1)) (pb_uv lc 0) (0 + 1) 0 1000000 := if_pos rfl
  have e0 : pb_uv lc 0 0 = pb_v 0 := pb_zero
  have e3 : pb_ul (fun p => lc p (0 + 1)) (pb_uv lc 0) (0 + 1) 0 (pb_v 1000000) = pb_ul (fun p => lc p (0 + 1)) (pb_uv lc 0) 0 (0 + 1) (pb_v i01) := pb_ul_t (l := i01) (r := 0) i01 h01 e0 (by unfold pb_ok; omega) (by unfold pb_ok; omega) (by unfold pb_ok; omega) (by unfold pb_si; omega)
  rw [e2, e1, pb_big, e3]
  rfl
/-- two words never make three lines -/
theorem pb_two {lc : Nat → Nat → Int32} : pb_on 2 lc 3 0 = 1000000 := by
  have hF : (1000000 : Int32) ≤ 1000000 := by decide
  have s : ∀ (l r : Int32), r = 1000000 → (if 1000000 ≤ l then (1000000 : Int32) else if 1000000 ≤ r then 1000000 else if 1000000 ≤ l + r then 1000000 else l + r) = 1000000 := by
    intro l r hr
    rw [hr, if_pos hF]
    split <;> rfl
  have o12 : pb_on 2 lc 1 2 = 1000000 := rfl
  have o22 : pb_on 2 lc 2 2 = 1000000 := rfl
  have o21 : pb_on 2 lc 2 1 = 1000000 := s _ _ o12
  show pb_lo (lc 0) (pb_on 2 lc 2) 2 1 1000000 = 1000000
  unfold pb_lo
  rw [s _ _ o21]
  exact s _ _ o22
end
section
/-- the law's bad, d being the room that is left -/
def pb_bd (D g : Int) (last : Bool) : Int := if D < -g then 100000 else if D < 0 then 3 * D * D else if last = true then 0 else D * D
theorem pb_bdN {D g : Int} {last : Bool} (h : D < -g) : pb_bd D g last = 100000 := if_pos h
theorem pb_bdB {D g : Int} {last : Bool} (h1 : -g ≤ D) (hg : g ≤ 2) (h2 : D ≤ 41) : 0 ≤ pb_bd D g last ∧ pb_bd D g last ≤ 1681 := by
  unfold pb_bd
  rw [if_neg (show ¬ D < -g by omega)]
  by_cases h : D < 0
  · rw [if_pos h]
    rcases (show D = -1 ∨ D = -2 by omega) with e | e
    · rw [e]
      decide
    · rw [e]
      decide
  · rw [if_neg h]
    by_cases hl : last = true
    · rw [if_pos hl]
      decide
    · rw [if_neg hl]
      exact ⟨Int.mul_nonneg (by omega) (by omega), Int.mul_le_mul h2 h2 (by omega) (by decide)⟩
theorem pb_bdT {D g : Int} (h1 : 0 ≤ D) (hg : 0 ≤ g) : pb_bd D g true = 0 := by
  unfold pb_bd
  rw [if_neg (show ¬ D < -g by omega), if_neg (show ¬ D < 0 by omega), if_pos rfl]
theorem pb_three : (3 : Int32) = pb_v 3 := by decide
theorem pb_hun : (100000 : Int32) = pb_v 100000 := by decide
theorem pb_bad {post : Int32 → Prop} {p0 p1 p2 p3 : Int32} {R L g : Int} {last : Bool} (h0 : p0 = pb_v R) (h1 : p1 = pb_v L) (h2 : p2 = pb_v g) (h3 : p3 = 0 ↔ last = false) (b1 : -1000 ≤ R - L) (b2 : R - L ≤ 1000) (b3 : 0 ≤ g) (b4 : g ≤ 10) (hp : post (pb_v (pb_bd (R - L) g last))) : wpL_bad post () p0 p1 p2 p3 := by
  refine nm_r (e' := pb_v (R - L)) (by rw [h0, h1, pb_sub]) ?_
  rw [h2, pb_neg, pb_three, pb_mul, pb_mul, pb_mul]
  unfold pb_bd at hp
  refine br_c (fun z => ?_) (fun z => ?_)
  · have z' := (pb_le (by omega) (by omega) (by omega) (by omega)).mp z
    rw [if_neg (show ¬ R - L < -g by omega)] at hp
    rw [pb_zero]
    refine br_c (fun y => ?_) (fun y => ?_)
    · have y' := (pb_le (by omega) (by omega) (by omega) (by omega)).mp y
      rw [if_neg (show ¬ R - L < 0 by omega)] at hp
      rw [← pb_zero]
      refine br_c (fun x => ?_) (fun x => ?_)
      · rw [if_neg (by rw [h3.mp x]; decide)] at hp
        exact hp
      · have hl : last = true := by
          cases last with
          | true => rfl
          | false => exact absurd (h3.mpr rfl) x
        rw [if_pos hl] at hp
        rw [pb_zero]
        exact hp
    · have y' : ¬ 0 ≤ R - L := fun t => y ((pb_le (by omega) (by omega) (by omega) (by omega)).mpr t)
      rw [if_pos (show R - L < 0 by omega)] at hp
      exact hp
  · have z' : ¬ -g ≤ R - L := fun t => z ((pb_le (by omega) (by omega) (by omega) (by omega)).mpr t)
    rw [if_pos (show R - L < -g by omega)] at hp
    rw [pb_hun]
    exact hp
theorem pb_lcdLast {e b : Int32} {a2 : Nat → Int32} {p c : Nat} {D g : Int} (hg : (nI p + 1) - nI c = pb_v (-g)) (g0 : 0 ≤ g) (g2 : g ≤ 10) (b1 : -1000 ≤ D) (b2 : D ≤ 1000) : pb_lcd (pb_v D) e c b a2 p c = pb_v (if D < -g then 1000000 else pb_bd D g true) := by
  unfold pb_lcd pb_bd
  rw [hg, if_pos rfl, pb_big, pb_zero, pb_three, pb_mul, pb_mul]
  by_cases h : D < -g
  · rw [if_pos ((pb_lt (by omega) (by omega) (by omega) (by omega)).mpr h), if_pos h]
  · rw [if_neg (fun t => h ((pb_lt (by omega) (by omega) (by omega) (by omega)).mp t)), if_neg h, if_neg h]
    by_cases h' : D < 0
    · rw [if_pos ((pb_lt (by omega) (by omega) (by omega) (by omega)).mpr h'), if_pos h']
    · rw [if_neg (fun t => h' ((pb_lt (by omega) (by omega) (by omega) (by omega)).mp t)), if_neg h', if_pos rfl]
theorem pb_lcdMid {e b : Int32} {a2 : Nat → Int32} {p q c : Nat} {D g Y Z : Int} (hg : (nI p + 1) - nI q = pb_v (-g)) (hq : ¬ q = c) (hb : ¬ nI q - 1 = b) (hY : a2 (q - 1) = pb_v Y) (hZ : (if pb_pen a2 p ∧ pb_pen a2 q then e else 0) = pb_v Z) (g0 : 0 ≤ g) (g2 : g ≤ 10) (b1 : -1000 ≤ D) (b2 : D ≤ 1000) : pb_lcd (pb_v D) e c b a2 p q = pb_v (if D < -g then 1000000 else (pb_bd D g false + Y) + Z) := by
  unfold pb_lcd pb_bd
  rw [hZ, hY, hg, if_neg hq, if_neg hb, pb_big, pb_zero, pb_three, pb_mul, pb_mul, pb_mul]
  by_cases h : D < -g
  · rw [if_pos ((pb_lt (by omega) (by omega) (by omega) (by omega)).mpr h), if_pos h]
  · rw [if_neg (fun t => h ((pb_lt (by omega) (by omega) (by omega) (by omega)).mp t)), if_neg h, if_neg h]
    by_cases h' : D < 0
    · rw [if_pos ((pb_lt (by omega) (by omega) (by omega) (by omega)).mpr h'), if_pos h', pb_add, pb_add]
    · rw [if_neg (fun t => h' ((pb_lt (by omega) (by omega) (by omega) (by omega)).mp t)), if_neg h', if_neg (by decide), pb_add, pb_add]
theorem pb_lcdBar {e b d : Int32} {a2 : Nat → Int32} {p q c : Nat} (hq : ¬ q = c) (hb : nI q - 1 = b) : pb_lcd d e c b a2 p q = 1000000 := by
  unfold pb_lcd
  rw [if_neg hq, if_pos hb]
  split <;> rfl
/-- the numbers of the script -/
def pb_R (R X A B C P Q : Int) : Prop := (12 ≤ R ∧ R ≤ 41) ∧ (0 ≤ X ∧ X ≤ 31) ∧ (1 ≤ A ∧ A ≤ 12) ∧ (1 ≤ B ∧ B ≤ 12) ∧ (1 ≤ C ∧ C ≤ 12) ∧ (-40 ≤ P ∧ P ≤ 40) ∧ (-40 ≤ Q ∧ Q ≤ 40)
/-- the arrays hold them -/
def pb_W (a1 a2 : Nat → Int32) (A B C P Q : Int) : Prop := a1 0 = pb_v A ∧ a1 1 = pb_v B ∧ a1 2 = pb_v C ∧ a2 0 = pb_v P ∧ a2 1 = pb_v Q
def pb_Z (X P Q : Int) : Int := if 0 < P ∧ 0 < Q then X else 0
def pb_i01 (R A P : Int) : Int := pb_bd (R - A) 0 false + P
def pb_i12 (R X B P Q : Int) : Int := (pb_bd (R - B) 0 false + Q) + pb_Z X P Q
def pb_i02 (R A B Q : Int) : Int := if R - (A + B + 2) < -1 then 1000000 else pb_bd (R - (A + B + 2)) 1 false + Q
def pb_i03 (R A B C : Int) : Int := if R - (A + B + C + 4) < -2 then 1000000 else pb_bd (R - (A + B + C + 4)) 2 true
def pb_i13 (R B C : Int) : Int := if R - (B + C + 2) < -1 then 1000000 else pb_bd (R - (B + C + 2)) 1 true
def pb_N (R A B C : Int) : Int := pb_bd (R - (A + B + C + 4)) 2 true
def pb_F (R A B C P : Int) : Int := (pb_bd (R - A) 0 false + pb_bd (R - (B + C + 2)) 1 true) + P
def pb_S (R A B C Q : Int) : Int := (pb_bd (R - (A + B + 2)) 1 false + pb_bd (R - C) 0 true) + Q
theorem pb_isB {R X A B C P Q : Int} (h : pb_R R X A B C P Q) : pb_B (pb_i01 R A P) (pb_i02 R A B Q) (pb_i03 R A B C) (pb_i12 R X B P Q) (pb_i13 R B C) (pb_N R A B C) (pb_F R A B C P) (pb_S R A B C Q) := by
  unfold pb_R at h
  have h1 := pb_bdB (D := R - A) (g := 0) (last := false) (by omega) (by omega) (by omega)
  have h2 := pb_bdB (D := R - B) (g := 0) (last := false) (by omega) (by omega) (by omega)
  have h3 := pb_bdT (D := R - C) (g := 0) (by omega) (by omega)
  unfold pb_B pb_i01 pb_i12 pb_i02 pb_i03 pb_i13 pb_N pb_F pb_S pb_Z
  rw [h3]
  generalize pb_bd (R - A) 0 false = s1 at *
  generalize pb_bd (R - B) 0 false = s2 at *
  refine ⟨by omega, by split <;> omega, ?_, ?_, ?_⟩
  · by_cases g : R - (A + B + C + 4) < -2
    · rw [if_pos g, pb_bdN g]
      exact Or.inr (by omega)
    · have g1 := pb_bdB (D := R - (A + B + C + 4)) (g := 2) (last := true) (by omega) (by omega) (by omega)
      rw [if_neg g]
      exact Or.inl (by omega)
  · by_cases g : R - (B + C + 2) < -1
    · rw [if_pos g, pb_bdN g]
      exact Or.inr (by omega)
    · have g1 := pb_bdB (D := R - (B + C + 2)) (g := 1) (last := true) (by omega) (by omega) (by omega)
      rw [if_neg g]
      exact Or.inl (by omega)
  · by_cases g : R - (A + B + 2) < -1
    · rw [if_pos g, pb_bdN g]
      exact Or.inr (by omega)
    · have g1 := pb_bdB (D := R - (A + B + 2)) (g := 1) (last := false) (by omega) (by omega) (by omega)
      rw [if_neg g]
      exact Or.inl (by omega)
theorem pb_vv {x : Int32} {i j : Int} (h : x = pb_v i) (e : i = j) : x = pb_v j := e ▸ h
theorem pb_l01 {e b : Int32} {a1 a2 : Nat → Int32} {R X A B C P Q : Int} (h : pb_R R X A B C P Q) (hW : pb_W a1 a2 A B C P Q) (hb : ¬ nI 1 - 1 = b) : pb_lc (pb_v R) e 3 b a1 a2 0 1 = pb_v (pb_i01 R A P) := by
  obtain ⟨w0, w1, w2, y0, y1⟩ := hW
  unfold pb_R at h
  show pb_lcd (pb_v R - ((((nI 1 - nI 0) - 1) * 2) + a1 0)) e 3 b a2 0 1 = _
  rw [show ((nI 1 - nI 0) - 1) * 2 = pb_v 0 by decide, w0, pb_add, pb_sub, show R - (0 + A) = R - A by omega]
  refine pb_vv (pb_lcdMid (g := 0) (Y := P) (Z := 0) (by decide) (by decide) hb y0 ?_ (by omega) (by omega) (by omega) (by omega)) ?_
  · rw [if_neg (fun t => absurd t.1.1 (by omega))]
    exact pb_zero
  · unfold pb_i01
    rw [if_neg (by omega), Int.add_zero]
theorem pb_l02 {e b : Int32} {a1 a2 : Nat → Int32} {R X A B C P Q : Int} (h : pb_R R X A B C P Q) (hW : pb_W a1 a2 A B C P Q) (hb : ¬ nI 2 - 1 = b) : pb_lc (pb_v R) e 3 b a1 a2 0 2 = pb_v (pb_i02 R A B Q) := by
  obtain ⟨w0, w1, w2, y0, y1⟩ := hW
  unfold pb_R at h
  show pb_lcd (pb_v R - (((((nI 2 - nI 0) - 1) * 2) + a1 0) + a1 1)) e 3 b a2 0 2 = _
  rw [show ((nI 2 - nI 0) - 1) * 2 = pb_v 2 by decide, w0, w1, pb_add, pb_add, pb_sub, show R - (2 + A + B) = R - (A + B + 2) by omega]
  refine pb_vv (pb_lcdMid (g := 1) (Y := Q) (Z := 0) (by decide) (by decide) hb y1 ?_ (by omega) (by omega) (by omega) (by omega)) ?_
  · rw [if_neg (fun t => absurd t.1.1 (by omega))]
    exact pb_zero
  · unfold pb_i02
    rw [Int.add_zero]
theorem pb_l03 {e b : Int32} {a1 a2 : Nat → Int32} {R X A B C P Q : Int} (h : pb_R R X A B C P Q) (hW : pb_W a1 a2 A B C P Q) : pb_lc (pb_v R) e 3 b a1 a2 0 3 = pb_v (pb_i03 R A B C) := by
  obtain ⟨w0, w1, w2, y0, y1⟩ := hW
  unfold pb_R at h
  show pb_lcd (pb_v R - ((((((nI 3 - nI 0) - 1) * 2) + a1 0) + a1 1) + a1 2)) e 3 b a2 0 3 = _
  rw [show ((nI 3 - nI 0) - 1) * 2 = pb_v 4 by decide, w0, w1, w2, pb_add, pb_add, pb_add, pb_sub, show R - (4 + A + B + C) = R - (A + B + C + 4) by omega]
  exact pb_lcdLast (g := 2) (by decide) (by omega) (by omega) (by omega) (by omega)
theorem pb_l12 {b : Int32} {a1 a2 : Nat → Int32} {R X A B C P Q : Int} (h : pb_R R X A B C P Q) (hW : pb_W a1 a2 A B C P Q) (hb : ¬ nI 2 - 1 = b) : pb_lc (pb_v R) (pb_v X) 3 b a1 a2 1 2 = pb_v (pb_i12 R X B P Q) := by
  obtain ⟨w0, w1, w2, y0, y1⟩ := hW
  unfold pb_R at h
  show pb_lcd (pb_v R - ((((nI 2 - nI 1) - 1) * 2) + a1 1)) (pb_v X) 3 b a2 1 2 = _
  rw [show ((nI 2 - nI 1) - 1) * 2 = pb_v 0 by decide, w1, pb_add, pb_sub, show R - (0 + B) = R - B by omega]
  refine pb_vv (pb_lcdMid (g := 0) (Y := Q) (Z := pb_Z X P Q) (by decide) (by decide) hb y1 ?_ (by omega) (by omega) (by omega) (by omega)) ?_
  · have hp : (¬ a2 0 ≤ 0) ↔ 0 < P := by
      rw [y0, pb_zero, pb_le (by omega) (by omega) (by omega) (by omega)]
      omega
    have hq : (¬ a2 1 ≤ 0) ↔ 0 < Q := by
      rw [y1, pb_zero, pb_le (by omega) (by omega) (by omega) (by omega)]
      omega
    unfold pb_Z
    by_cases g : 0 < P ∧ 0 < Q
    · rw [if_pos g, if_pos ⟨⟨by omega, hp.mpr g.1⟩, ⟨by omega, hq.mpr g.2⟩⟩]
    · rw [if_neg g, if_neg (fun t => g ⟨hp.mp t.1.2, hq.mp t.2.2⟩)]
      exact pb_zero
  · unfold pb_i12
    rw [if_neg (by omega)]
theorem pb_l13 {e b : Int32} {a1 a2 : Nat → Int32} {R X A B C P Q : Int} (h : pb_R R X A B C P Q) (hW : pb_W a1 a2 A B C P Q) : pb_lc (pb_v R) e 3 b a1 a2 1 3 = pb_v (pb_i13 R B C) := by
  obtain ⟨w0, w1, w2, y0, y1⟩ := hW
  unfold pb_R at h
  show pb_lcd (pb_v R - (((((nI 3 - nI 1) - 1) * 2) + a1 1) + a1 2)) e 3 b a2 1 3 = _
  rw [show ((nI 3 - nI 1) - 1) * 2 = pb_v 2 by decide, w1, w2, pb_add, pb_add, pb_sub, show R - (2 + B + C) = R - (B + C + 2) by omega]
  exact pb_lcdLast (g := 1) (by decide) (by omega) (by omega) (by omega) (by omega)
theorem pb_l23 {e b : Int32} {a1 a2 : Nat → Int32} {R X A B C P Q : Int} (h : pb_R R X A B C P Q) (hW : pb_W a1 a2 A B C P Q) : pb_lc (pb_v R) e 3 b a1 a2 2 3 = pb_v 0 := by
  obtain ⟨w0, w1, w2, y0, y1⟩ := hW
  unfold pb_R at h
  show pb_lcd (pb_v R - ((((nI 3 - nI 2) - 1) * 2) + a1 2)) e 3 b a2 2 3 = _
  rw [show ((nI 3 - nI 2) - 1) * 2 = pb_v 0 by decide, w2, pb_add, pb_sub, show R - (0 + C) = R - C by omega]
  refine pb_vv (pb_lcdLast (g := 0) (by decide) (by omega) (by omega) (by omega) (by omega)) ?_
  rw [if_neg (by omega), pb_bdT (by omega) (by omega)]
theorem pb_isL {a1 a2 : Nat → Int32} {R X A B C P Q : Int} (h : pb_R R X A B C P Q) (hW : pb_W a1 a2 A B C P Q) : pb_L (pb_lc (pb_v R) (pb_v X) 3 (-1) a1 a2) (pb_i01 R A P) (pb_i02 R A B Q) (pb_i03 R A B C) (pb_i12 R X B P Q) (pb_i13 R B C) :=
  ⟨pb_l01 h hW (by decide), pb_l02 h hW (by decide), pb_l03 h hW, pb_l12 h hW (by decide), pb_l13 h hW, pb_l23 h hW⟩
theorem pb_isK {a1 a2 : Nat → Int32} {R X A B C P Q : Int} (h : pb_R R X A B C P Q) (hW : pb_W a1 a2 A B C P Q) : (pb_lv 3 (pb_lc (pb_v R) (pb_v X) 3 (nI 0) a1 a2) 3 0).1 = pb_v (min (pb_i03 R A B C) (pb_i02 R A B Q)) :=
  pb_lvK ((pb_lcdBar (by decide) (by decide)).trans pb_big) (pb_l02 h hW (by decide)) (pb_l03 h hW) (pb_l12 h hW (by decide)) (pb_l13 h hW) (pb_l23 h hW) (pb_isB h)
end
section
theorem pb_byte' : ∀ k : Nat, k < 256 → (pb_v ((k : Int) - 128)).toInt8.toInt32 = pb_v ((k : Int) - 128) := by decide +kernel
theorem pb_byte {i : Int} (h1 : -128 ≤ i) (h2 : i ≤ 127) : (pb_v i).toInt8.toInt32 = pb_v i := by
  have := pb_byte' (i + 128).toNat (by omega)
  rw [show ((i + 128).toNat : Int) - 128 = i by omega] at this
  exact this
theorem pb_wordOk {post : Int32 → Prop} {A P : Int} (hA : 1 ≤ A ∧ A ≤ 12) (hP : -40 ≤ P ∧ P ≤ 40) (hp : post 1) : wpX_wordOk post () (pb_v A) (pb_v P) := by
  refine br_f ?_ (br_f ?_ (br_f ?_ (br_f ?_ hp)))
  · rw [pb_one, pb_lt (by omega) (by omega) (by omega) (by omega)]
    omega
  · rw [show (12 : Int32) = pb_v 12 by decide, pb_lt (by omega) (by omega) (by omega) (by omega)]
    omega
  · rw [show (-40 : Int32) = pb_v (-40) by decide, pb_lt (by omega) (by omega) (by omega) (by omega)]
    omega
  · rw [show (40 : Int32) = pb_v 40 by decide, pb_lt (by omega) (by omega) (by omega) (by omega)]
    omega
theorem pb_word {post : Int32 → St2 → Prop} {w e b : Int32} {a1 a2 a3 a4 a5 a6 : Nat → Int32} {n : Nat} {A P : Int} (hn : n < 10) (hA : 1 ≤ A ∧ A ≤ 12) (hP : -40 ≤ P ∧ P ≤ 40)
    (hp : post (nI n) (w, e, nI (n + 1), b, upd a1 n (pb_v A), upd a2 n (pb_v P), a3, a4, a5, a6)) : wpX_word post (w, e, nI n, b, a1, a2, a3, a4, a5, a6) (pb_v A) (pb_v P) := by
  unfold wpX_word
  have en : (nI n).toNatClampNeg = n := nI_clamp (by omega)
  refine pb_wordOk hA hP (br_f (by decide) (br_t (nI_lt (b := 10) hn (by decide)) ⟨pk_in n 10 hn, nm_r (by rw [en, pb_byte (by omega) (by omega)]) ⟨pk_in n 10 hn, nm_r (by rw [en, pb_byte (by omega) (by omega)]) (nm_r (nI_1 n) ?_)⟩⟩))
  rw [nI_pred]
  exact hp
theorem pb_change {post : Int32 → St2 → Prop} {w e b : Int32} {a1 a2 a3 a4 a5 a6 : Nat → Int32} {A : Int} (hA : 1 ≤ A ∧ A ≤ 12)
    (hp : post 1 (w, e, nI 3, b, upd a1 2 (pb_v A), upd a2 2 (pb_v (-40)), a3, a4, a5, a6)) : wpX_change post (w, e, nI 3, b, a1, a2, a3, a4, a5, a6) 2 (pb_v A) (-40) := by
  have e2 : (2 : Int32).toNatClampNeg = 2 := by decide
  have hm : (-40 : Int32) = pb_v (-40) := by decide
  rw [hm]
  refine br_f (by decide) (br_f (by decide) (pb_wordOk hA (by decide) (br_f (by decide) ⟨pk_in 2 10 (by decide), nm_r (by rw [e2, pb_byte (by omega) (by omega)]) ⟨pk_in 2 10 (by decide), nm_r (by rw [e2, pb_byte (by omega) (by omega)]) hp⟩⟩)))
theorem pb_back {post : Int32 → St2 → Prop} {w e b : Int32} {a1 a2 a3 a4 a5 a6 : Nat → Int32} (hp : post (nI 2) (w, e, nI 2, b, a1, a2, a3, a4, a5, a6)) : wpX_back post (w, e, nI 3, b, a1, a2, a3, a4, a5, a6) :=
  br_f (by decide) (nm_r (nI_pred 2) hp)
theorem pb_wmin {post : Int32 → Prop} {x y : Int32} {i j k : Int} (hx : x = pb_v i) (hy : y = pb_v j) (hk : min i j = k) (bi : -10000000 ≤ i ∧ i ≤ 10000000) (bj : -10000000 ≤ j ∧ j ≤ 10000000) (hp : post (pb_v k)) : wpL_min post () x y := by
  rw [hx, hy]
  refine br_c (fun z => ?_) (fun z => ?_)
  · have z' := (pb_le (by omega) (by omega) (by omega) (by omega)).mp z
    rw [show j = k by omega]
    exact hp
  · have z' : ¬ j ≤ i := fun t => z ((pb_le (by omega) (by omega) (by omega) (by omega)).mpr t)
    rw [show i = k by omega]
    exact hp
theorem pb_Wupd {a1 a2 : Nat → Int32} {A B C P Q : Int} {y : Int32} (h : pb_W a1 a2 A B C P Q) : pb_W (upd a1 2 (pb_v C)) (upd a2 2 y) A B C P Q := by
  obtain ⟨w0, w1, w2, y0, y1⟩ := h
  unfold pb_W
  rw [pk_un (by decide), pk_un (by decide), pk_us, pk_un (by decide), pk_un (by decide)]
  exact ⟨w0, w1, rfl, y0, y1⟩
theorem pb_cw {x : Int32} {i t : Int} (hx : x = pb_v i) (b : -10000000 ≤ i ∧ i ≤ 10000000) (ht : (1000000 ≤ i ∧ t = -1000000) ∨ (i < 1000000 ∧ t = i)) : (if (1000000 : Int32) ≤ x then -1000000 else x) = pb_v t := by
  rw [hx]
  rcases ht with ⟨h1, h2⟩ | ⟨h1, h2⟩
  · rw [if_pos (pb_ge h1 b.2), h2]
    decide
  · rw [if_neg (pb_nge h1 b.1), h2]
theorem pb_half {i : Int} {U V : Prop} (b : -10000000 ≤ i ∧ i ≤ 10000000) (f : i ≤ 50000 → U) (g : 50000 < i → V) : (pb_v i ≤ 50000 → U) ∧ (¬ pb_v i ≤ 50000 → V) := by
  rw [show (50000 : Int32) = pb_v 50000 by decide, pb_le (by omega) (by omega) (by omega) (by omega)]
  exact ⟨f, fun z => g (by omega)⟩
theorem pb_same {i j : Int} {U V : Prop} (bi : -10000000 ≤ i ∧ i ≤ 10000000) (bj : -10000000 ≤ j ∧ j ≤ 10000000) (f : i = j → U) (g : ¬ i = j → V) : (pb_v i = pb_v j → U) ∧ (¬ pb_v i = pb_v j → V) := by
  rw [pb_eq (by omega) (by omega) (by omega) (by omega)]
  exact ⟨f, g⟩
theorem pb_mill : (-1000000 : Int32) = pb_v (-1000000) := by decide
theorem pb_rng {R X A B C P Q : Int} (h : pb_R R X A B C P Q) : (-300 ≤ (pb_N R A B C) ∧ (pb_N R A B C) ≤ 110000) ∧ (-300 ≤ (pb_F R A B C P) ∧ (pb_F R A B C P) ≤ 110000) ∧ (-300 ≤ (pb_S R A B C Q) ∧ (pb_S R A B C Q) ≤ 110000) ∧ (-300 ≤ (pb_i01 R A P + pb_i12 R X B P Q) ∧ (pb_i01 R A P + pb_i12 R X B P Q) ≤ 10000) ∧ (-300 ≤ (pb_min4 (pb_N R A B C) (pb_F R A B C P) (pb_S R A B C Q) (pb_i01 R A P + pb_i12 R X B P Q)) ∧ (pb_min4 (pb_N R A B C) (pb_F R A B C P) (pb_S R A B C Q) (pb_i01 R A P + pb_i12 R X B P Q)) ≤ 10000) := by
  have g := pb_isB h
  unfold pb_B at g
  unfold pb_min4
  omega
/-- which breaking is the best -/
def pb_K (lc : Nat → Nat → Int32) (t : Nat) : Prop :=
  (t = 0 ∧ pb_sol 3 lc 1 (fun i => if i = 0 then 0 else 3)) ∨ (t = 1 ∧ pb_sol 3 lc 2 (fun i => if i = 0 then 0 else if i = 1 then 1 else 3)) ∨
  (t = 2 ∧ pb_sol 3 lc 2 (fun i => if i = 0 then 0 else if i = 1 then 2 else 3)) ∨ (t = 3 ∧ pb_sol 3 lc 3 (fun i => i))
section
variable {post : Int32 → St0 → Prop} {mc ms kc ks t : Nat} {R X A B C P Q : Int} {b : Int32} {a1 a2 a3 a4 a5 a6 : Nat → Int32}
theorem pb_661 (h : pb_R R X A B C P Q) (hW : pb_W a1 a2 A B C P Q) (hp : post 1 ()) : wL_lawOf_661 post mc ms (pb_v C) (pb_v (pb_min4 (pb_N R A B C) (pb_F R A B C P) (pb_S R A B C Q) (pb_i01 R A P + pb_i12 R X B P Q))) 1 kc ks (pb_v R) (pb_v X) (nI 3) b a1 a2 a3 a4 a5 a6 := by
  have r := pb_rng h
  have hR := h
  unfold pb_R at hR
  unfold wL_lawOf_661
  refine pb_change (by omega) ?_
  have hW' : pb_W (upd a1 2 (pb_v C)) (upd a2 2 (pb_v (-40))) A B C P Q := pb_Wupd hW
  have e := congrArg Prod.fst (pb_lv30 (pb_isL h hW') (pb_isB h))
  dsimp only at e
  refine pb_cost (c := 3) (by decide) (by rw [e]; exact pb_nge (by omega) (by omega)) (fun b' a3' a4' a5' a6' => ?_)
  rw [e]
  refine pb_back (br_f (by decide) (br_f (by decide) (br_t rfl (br_t rfl (br_t rfl ?_)))))
  exact pb_costWith (c := 2) (n := 3) (r := -1000000) (by decide) (by decide) (by rw [pb_two, if_pos (by decide)]) (fun _ _ _ _ _ => br_t rfl hp)
theorem pb_642 {z0 z1 : Int32} (h : pb_R R X A B C P Q) (hW : pb_W a1 a2 A B C P Q) (hp : post 1 ()) (hz : z1 = z0) : wL_lawOf_642 post mc ms (pb_v C) (pb_v (pb_min4 (pb_N R A B C) (pb_F R A B C P) (pb_S R A B C Q) (pb_i01 R A P + pb_i12 R X B P Q))) z0 z1 kc ks (pb_v R) (pb_v X) (nI 3) b a1 a2 a3 a4 a5 a6 :=
  br_t hz (pb_breakNo (c := 3) (i := 2) (by decide) (by decide) (by decide) (by decide) (fun _ _ _ _ _ => br_t rfl (pb_661 h hW hp)))
theorem pb_613 {z0 z1 : Int32} (h : pb_R R X A B C P Q) (hW : pb_W a1 a2 A B C P Q) (hK : pb_K (pb_lc (pb_v R) (pb_v X) 3 (-1) a1 a2) t) (hp : post 1 ()) (hz : z1 = z0) : wL_lawOf_613 post mc ms (pb_v C) (pb_v (pb_min4 (pb_N R A B C) (pb_F R A B C P) (pb_S R A B C Q) (pb_i01 R A P + pb_i12 R X B P Q))) (nI t) z0 z1 kc ks (pb_v R) (pb_v X) (nI 3) b a1 a2 a3 a4 a5 a6 := by
  refine br_t hz ?_
  rcases hK with ⟨rfl, hs⟩ | ⟨rfl, hs⟩ | ⟨rfl, hs⟩ | ⟨rfl, hs⟩
  · exact pb_lineOf (c := 3) (i0 := 2) (k0 := 0) (by decide) hs (by decide) (by decide) (fun k hk => absurd hk (by omega)) (by decide) (fun _ _ _ _ _ => br_t rfl (pb_642 h hW hp rfl))
  · exact pb_lineOf (c := 3) (i0 := 2) (k0 := 1) (by decide) hs (by decide) (by decide) (fun k hk => by rw [show k = 0 by omega]; decide) (by decide) (fun _ _ _ _ _ => br_f (by decide) (br_f (by decide) (pb_642 h hW hp rfl)))
  · exact pb_lineOf (c := 3) (i0 := 2) (k0 := 1) (by decide) hs (by decide) (by decide) (fun k hk => by rw [show k = 0 by omega]; decide) (by decide) (fun _ _ _ _ _ => br_f (by decide) (br_f (by decide) (pb_642 h hW hp rfl)))
  · exact pb_lineOf (c := 3) (i0 := 2) (k0 := 2) (by decide) hs (by decide) (by decide) (fun k hk => by show k + 1 ≤ 2; omega) (by decide) (fun _ _ _ _ _ => br_f (by decide) (br_t rfl (pb_642 h hW hp rfl)))
theorem pb_587 {z0 z1 : Int32} (h : pb_R R X A B C P Q) (hW : pb_W a1 a2 A B C P Q) (hK : pb_K (pb_lc (pb_v R) (pb_v X) 3 (-1) a1 a2) t) (hp : post 1 ()) (hz : z1 = z0) : wL_lawOf_587 post mc ms (pb_v C) (pb_v (pb_min4 (pb_N R A B C) (pb_F R A B C P) (pb_S R A B C Q) (pb_i01 R A P + pb_i12 R X B P Q))) (nI t) z0 z1 kc ks (pb_v R) (pb_v X) (nI 3) b a1 a2 a3 a4 a5 a6 := by
  refine br_t hz ?_
  have hK' := hK
  rcases hK' with ⟨rfl, hs⟩ | ⟨rfl, hs⟩ | ⟨rfl, hs⟩ | ⟨rfl, hs⟩
  · exact pb_lineOf (c := 3) (i0 := 1) (k0 := 0) (by decide) hs (by decide) (by decide) (fun k hk => absurd hk (by omega)) (by decide) (fun _ _ _ _ _ => br_f (by decide) (br_f (by decide) (pb_613 h hW hK hp rfl)))
  · exact pb_lineOf (c := 3) (i0 := 1) (k0 := 1) (by decide) hs (by decide) (by decide) (fun k hk => by rw [show k = 0 by omega]; decide) (by decide) (fun _ _ _ _ _ => br_t rfl (pb_613 h hW hK hp rfl))
  · exact pb_lineOf (c := 3) (i0 := 1) (k0 := 0) (by decide) hs (by decide) (by decide) (fun k hk => absurd hk (by omega)) (by decide) (fun _ _ _ _ _ => br_f (by decide) (br_f (by decide) (pb_613 h hW hK hp rfl)))
  · exact pb_lineOf (c := 3) (i0 := 1) (k0 := 1) (by decide) hs (by decide) (by decide) (fun k hk => by show k + 1 ≤ 1; omega) (by decide) (fun _ _ _ _ _ => br_f (by decide) (br_t rfl (pb_613 h hW hK hp rfl)))
theorem pb_558 {z0 z1 : Int32} (h : pb_R R X A B C P Q) (hW : pb_W a1 a2 A B C P Q) (hK : pb_K (pb_lc (pb_v R) (pb_v X) 3 (-1) a1 a2) t) (hp : post 1 ()) (hz : z1 = z0) : wL_lawOf_558 post mc ms (pb_v C) (pb_v (pb_min4 (pb_N R A B C) (pb_F R A B C P) (pb_S R A B C Q) (pb_i01 R A P + pb_i12 R X B P Q))) (nI t) z0 z1 kc ks (pb_v R) (pb_v X) (nI 3) b a1 a2 a3 a4 a5 a6 := by
  refine br_t hz ?_
  have hK' := hK
  rcases hK' with ⟨rfl, hs⟩ | ⟨rfl, hs⟩ | ⟨rfl, hs⟩ | ⟨rfl, hs⟩
  · exact pb_endOf (c := 3) (k := 0) (r := 2) (by decide) hs (by decide) rfl (fun _ _ _ _ _ => br_t rfl (pb_587 h hW hK hp rfl))
  · exact pb_endOf (c := 3) (k := 0) (r := 0) (by decide) hs (by decide) rfl (fun _ _ _ _ _ => br_f (by decide) (br_f (by decide) (pb_587 h hW hK hp rfl)))
  · exact pb_endOf (c := 3) (k := 0) (r := 1) (by decide) hs (by decide) rfl (fun _ _ _ _ _ => br_f (by decide) (br_t rfl (pb_587 h hW hK hp rfl)))
  · exact pb_endOf (c := 3) (k := 0) (r := 0) (by decide) hs (by decide) rfl (fun _ _ _ _ _ => br_f (by decide) (br_f (by decide) (pb_587 h hW hK hp rfl)))
theorem pb_520 (h : pb_R R X A B C P Q) (hW : pb_W a1 a2 A B C P Q) (hK : pb_K (pb_lc (pb_v R) (pb_v X) 3 (-1) a1 a2) t) (hp : post 1 ()) : wL_lawOf_520 post mc ms (pb_v C) (pb_v (pb_min4 (pb_N R A B C) (pb_F R A B C P) (pb_S R A B C Q) (pb_i01 R A P + pb_i12 R X B P Q))) (nI t) (pb_v (min (pb_F R A B C P) (pb_i01 R A P + pb_i12 R X B P Q))) (pb_v (min (pb_N R A B C) (pb_S R A B C Q))) 50000 1 kc ks (pb_v R) (pb_v X) (nI 3) b a1 a2 a3 a4 a5 a6 := by
  have r := pb_rng h
  have hL := pb_isL h hW
  have hB := pb_isB h
  have eK := pb_isK h hW
  unfold pb_B at hB
  have e1 := pb_uv1 hL.1 hB.1
  have e31 : pb_lv 3 (pb_lc (pb_v R) (pb_v X) 3 (-1) a1 a2) 3 1 = pb_lv 3 (pb_lc (pb_v R) (pb_v X) 3 (-1) a1 a2) 2 1 := if_neg (by decide)
  have e2 := congrArg Prod.fst (e31.trans (pb_lv21 hL.2.2.2.1 hL.2.2.2.2.1 hL.2.2.2.2.2 hB.2.1 (by omega)))
  dsimp only at e2
  refine br_f (by decide) (pb_breaking (c := 3) (i := 0) (by decide) (by decide) ?_ ?_ (fun _ _ _ _ _ => br_t ?_ (pb_keeping (c := 3) (i := 0) (r := pb_v (if 50000 < min (pb_N R A B C) (pb_S R A B C Q) then -1000000 else min (pb_N R A B C) (pb_S R A B C Q))) (by decide) (by decide) ?_ (fun _ _ _ _ _ => pb_half (by omega) (fun z => pb_558 h hW hK hp ?_) (fun z => pb_558 h hW hK hp ?_)))))
  · show ¬ (1000000 : Int32) ≤ pb_uv (pb_lc (pb_v R) (pb_v X) 3 (-1) a1 a2) 2 1
    rw [e1]
    exact pb_nge (by omega) (by omega)
  · show ¬ (1000000 : Int32) ≤ (pb_lv 3 (pb_lc (pb_v R) (pb_v X) 3 (-1) a1 a2) 3 1).1
    rw [e2]
    exact pb_nge (by omega) (by omega)
  · exact pb_sum e1 e2 (by omega)
  · exact pb_cw eK (by omega) (by omega)
  · rw [if_neg (by omega)]
  · rw [if_pos z, pb_mill]
theorem pb_501 {z0 z1 : Int32} (h : pb_R R X A B C P Q) (hW : pb_W a1 a2 A B C P Q) (hK : pb_K (pb_lc (pb_v R) (pb_v X) 3 (-1) a1 a2) t) (hp : post 1 ()) (hz : z1 = z0) : wL_lawOf_501 post mc ms (pb_v C) (pb_v (pb_i01 R A P + pb_i12 R X B P Q)) (pb_v (pb_min4 (pb_N R A B C) (pb_F R A B C P) (pb_S R A B C Q) (pb_i01 R A P + pb_i12 R X B P Q))) (nI t) (pb_v (min (pb_F R A B C P) (pb_i01 R A P + pb_i12 R X B P Q))) (pb_v (min (pb_N R A B C) (pb_S R A B C Q))) 50000 z0 z1 kc ks (pb_v R) (pb_v X) (nI 3) b a1 a2 a3 a4 a5 a6 := by
  have r := pb_rng h
  exact br_t hz (pb_costWith (c := 3) (n := 3) (by decide) (by decide) (pb_cw (t := (pb_i01 R A P + pb_i12 R X B P Q)) (pb_on30 (pb_isL h hW) (pb_isB h)) (by omega) (by omega)) (fun _ _ _ _ _ => br_t rfl (pb_520 h hW hK hp)))
theorem pb_478 {z0 z1 : Int32} (h : pb_R R X A B C P Q) (hW : pb_W a1 a2 A B C P Q) (hK : pb_K (pb_lc (pb_v R) (pb_v X) 3 (-1) a1 a2) t) (hp : post 1 ()) (hz : z1 = z0) : wL_lawOf_478 post mc ms (pb_v C) (pb_v (pb_i01 R A P + pb_i12 R X B P Q)) (pb_v (pb_min4 (pb_N R A B C) (pb_F R A B C P) (pb_S R A B C Q) (pb_i01 R A P + pb_i12 R X B P Q))) (nI t) (pb_v (min (pb_F R A B C P) (pb_S R A B C Q))) (pb_v (min (pb_F R A B C P) (pb_i01 R A P + pb_i12 R X B P Q))) (pb_v (min (pb_N R A B C) (pb_S R A B C Q))) 50000 z0 z1 kc ks (pb_v R) (pb_v X) (nI 3) b a1 a2 a3 a4 a5 a6 := by
  have r := pb_rng h
  have hB := pb_isB h
  unfold pb_B at hB
  refine br_t hz (pb_costWith (c := 3) (n := 2) (by decide) (by decide) (pb_cw (t := if 50000 < min (pb_F R A B C P) (pb_S R A B C Q) then -1000000 else min (pb_F R A B C P) (pb_S R A B C Q)) (pb_on20 (pb_isL h hW) (pb_isB h)) (by omega) (by omega)) (fun _ _ _ _ _ => pb_half (by omega) (fun z => pb_501 h hW hK hp ?_) (fun z => pb_501 h hW hK hp ?_)))
  · rw [if_neg (by omega)]
  · rw [if_pos z, pb_mill]
theorem pb_445 {z0 z1 : Int32} (h : pb_R R X A B C P Q) (hW : pb_W a1 a2 A B C P Q) (hK : pb_K (pb_lc (pb_v R) (pb_v X) 3 (-1) a1 a2) t) (hp : post 1 ()) (hz : z1 = z0) : wL_lawOf_445 post mc ms (pb_v C) (pb_v (pb_N R A B C)) (pb_v (pb_i01 R A P + pb_i12 R X B P Q)) (pb_v (pb_min4 (pb_N R A B C) (pb_F R A B C P) (pb_S R A B C Q) (pb_i01 R A P + pb_i12 R X B P Q))) (nI t) (pb_v (pb_many (pb_N R A B C) (pb_F R A B C P) (pb_S R A B C Q) (pb_i01 R A P + pb_i12 R X B P Q) (pb_min4 (pb_N R A B C) (pb_F R A B C P) (pb_S R A B C Q) (pb_i01 R A P + pb_i12 R X B P Q)))) (pb_v (min (pb_F R A B C P) (pb_S R A B C Q))) (pb_v (min (pb_F R A B C P) (pb_i01 R A P + pb_i12 R X B P Q))) (pb_v (min (pb_N R A B C) (pb_S R A B C Q))) 50000 z0 z1 kc ks (pb_v R) (pb_v X) (nI 3) b a1 a2 a3 a4 a5 a6 := by
  have r := pb_rng h
  have hB := pb_isB h
  unfold pb_B at hB
  have e := congrArg Prod.snd (pb_lv30 (pb_isL h hW) (pb_isB h))
  dsimp only at e
  refine br_t hz (pb_choices (c := 3) (by decide) (fun _ _ _ _ _ => br_t e (pb_costWith (c := 3) (n := 1) (by decide) (by decide) (pb_cw (t := if 50000 < (pb_N R A B C) then -1000000 else (pb_N R A B C)) (pb_on10 (pb_isL h hW) (pb_isB h)) (by omega) (by omega)) (fun _ _ _ _ _ => pb_half (by omega) (fun z => pb_478 h hW hK hp ?_) (fun z => pb_478 h hW hK hp ?_)))))
  · rw [if_neg (by omega)]
  · rw [if_pos z, pb_mill]
theorem pb_370 {z0 z1 : Int32} (h : pb_R R X A B C P Q) (hW : pb_W a1 a2 A B C P Q) (hK : pb_K (pb_lc (pb_v R) (pb_v X) 3 (-1) a1 a2) t) (hp : post 1 ()) (hz : z1 + z0 = pb_v (pb_many (pb_N R A B C) (pb_F R A B C P) (pb_S R A B C Q) (pb_i01 R A P + pb_i12 R X B P Q) (pb_min4 (pb_N R A B C) (pb_F R A B C P) (pb_S R A B C Q) (pb_i01 R A P + pb_i12 R X B P Q)))) : wL_lawOf_370 post mc ms (pb_v C) (nI 2) (pb_v (pb_N R A B C)) (pb_v (pb_F R A B C P)) (pb_v (pb_S R A B C Q)) (pb_v (pb_i01 R A P + pb_i12 R X B P Q)) (pb_v (pb_min4 (pb_N R A B C) (pb_F R A B C P) (pb_S R A B C Q) (pb_i01 R A P + pb_i12 R X B P Q))) (nI t) z0 z1 kc ks (pb_v R) (pb_v X) (nI 3) b a1 a2 a3 a4 a5 a6 := by
  have r := pb_rng h
  have e := congrArg Prod.fst (pb_lv30 (pb_isL h hW) (pb_isB h))
  dsimp only at e
  refine nm_r hz (pb_wmin rfl rfl rfl (by omega) (by omega) (pb_wmin rfl rfl rfl (by omega) (by omega) (pb_wmin rfl rfl rfl (by omega) (by omega) (br_t rfl (pb_cost (c := 3) (by decide) (by rw [e]; exact pb_nge (by omega) (by omega)) (fun _ _ _ _ _ => br_t e ?_))))))
  have hK' := hK
  rcases hK' with ⟨rfl, hs⟩ | ⟨rfl, hs⟩ | ⟨rfl, hs⟩ | ⟨rfl, hs⟩
  · exact pb_lines (c := 3) (by decide) hs.1 (fun _ _ _ _ _ => br_t rfl (pb_445 h hW hK hp rfl))
  · exact pb_lines (c := 3) (by decide) hs.1 (fun _ _ _ _ _ => br_f (by decide) (br_f (by decide) (pb_445 h hW hK hp rfl)))
  · exact pb_lines (c := 3) (by decide) hs.1 (fun _ _ _ _ _ => br_f (by decide) (br_f (by decide) (pb_445 h hW hK hp rfl)))
  · exact pb_lines (c := 3) (by decide) hs.1 (fun _ _ _ _ _ => br_f (by decide) (br_t rfl (pb_445 h hW hK hp rfl)))
theorem pb_357 {z0 z1 : Int32} {u : Int} (h : pb_R R X A B C P Q) (hW : pb_W a1 a2 A B C P Q) (hK : pb_K (pb_lc (pb_v R) (pb_v X) 3 (-1) a1 a2) t) (hp : post 1 ()) (hz : z1 + z0 = pb_v u) (hu : u + (if (pb_i01 R A P + pb_i12 R X B P Q) = (pb_min4 (pb_N R A B C) (pb_F R A B C P) (pb_S R A B C Q) (pb_i01 R A P + pb_i12 R X B P Q)) then 1 else 0) = pb_many (pb_N R A B C) (pb_F R A B C P) (pb_S R A B C Q) (pb_i01 R A P + pb_i12 R X B P Q) (pb_min4 (pb_N R A B C) (pb_F R A B C P) (pb_S R A B C Q) (pb_i01 R A P + pb_i12 R X B P Q))) : wL_lawOf_357 post mc ms (pb_v C) (nI 2) (pb_v (pb_N R A B C)) (pb_v (pb_F R A B C P)) (pb_v (pb_S R A B C Q)) (pb_v (pb_i01 R A P + pb_i12 R X B P Q)) (pb_v (pb_min4 (pb_N R A B C) (pb_F R A B C P) (pb_S R A B C Q) (pb_i01 R A P + pb_i12 R X B P Q))) (nI t) z0 z1 kc ks (pb_v R) (pb_v X) (nI 3) b a1 a2 a3 a4 a5 a6 := by
  have r := pb_rng h
  refine pb_same (by omega) (by omega) (fun g => pb_370 h hW hK hp ?_) (fun g => pb_370 h hW hK hp ?_)
  · rw [hz, pb_one, pb_add, ← hu, if_pos g]
  · rw [hz, pb_zero, pb_add, ← hu, if_neg g]
theorem pb_344 {z0 z1 : Int32} {u : Int} (h : pb_R R X A B C P Q) (hW : pb_W a1 a2 A B C P Q) (hK : pb_K (pb_lc (pb_v R) (pb_v X) 3 (-1) a1 a2) t) (hp : post 1 ()) (hz : z1 + z0 = pb_v u) (hu : (u + (if (pb_S R A B C Q) = (pb_min4 (pb_N R A B C) (pb_F R A B C P) (pb_S R A B C Q) (pb_i01 R A P + pb_i12 R X B P Q)) then 1 else 0)) + (if (pb_i01 R A P + pb_i12 R X B P Q) = (pb_min4 (pb_N R A B C) (pb_F R A B C P) (pb_S R A B C Q) (pb_i01 R A P + pb_i12 R X B P Q)) then 1 else 0) = pb_many (pb_N R A B C) (pb_F R A B C P) (pb_S R A B C Q) (pb_i01 R A P + pb_i12 R X B P Q) (pb_min4 (pb_N R A B C) (pb_F R A B C P) (pb_S R A B C Q) (pb_i01 R A P + pb_i12 R X B P Q))) : wL_lawOf_344 post mc ms (pb_v C) (nI 2) (pb_v (pb_N R A B C)) (pb_v (pb_F R A B C P)) (pb_v (pb_S R A B C Q)) (pb_v (pb_i01 R A P + pb_i12 R X B P Q)) (pb_v (pb_min4 (pb_N R A B C) (pb_F R A B C P) (pb_S R A B C Q) (pb_i01 R A P + pb_i12 R X B P Q))) (nI t) z0 z1 kc ks (pb_v R) (pb_v X) (nI 3) b a1 a2 a3 a4 a5 a6 := by
  have r := pb_rng h
  refine pb_same (by omega) (by omega) (fun g => pb_357 h hW hK hp ?_ hu) (fun g => pb_357 h hW hK hp ?_ hu)
  · rw [hz, pb_one, pb_add, if_pos g]
  · rw [hz, pb_zero, pb_add, if_neg g]
theorem pb_332 {z0 : Int32} {u : Int} (h : pb_R R X A B C P Q) (hW : pb_W a1 a2 A B C P Q) (hK : pb_K (pb_lc (pb_v R) (pb_v X) 3 (-1) a1 a2) t) (hp : post 1 ()) (hz : z0 = pb_v u) (hu : ((u + (if (pb_F R A B C P) = (pb_min4 (pb_N R A B C) (pb_F R A B C P) (pb_S R A B C Q) (pb_i01 R A P + pb_i12 R X B P Q)) then 1 else 0)) + (if (pb_S R A B C Q) = (pb_min4 (pb_N R A B C) (pb_F R A B C P) (pb_S R A B C Q) (pb_i01 R A P + pb_i12 R X B P Q)) then 1 else 0)) + (if (pb_i01 R A P + pb_i12 R X B P Q) = (pb_min4 (pb_N R A B C) (pb_F R A B C P) (pb_S R A B C Q) (pb_i01 R A P + pb_i12 R X B P Q)) then 1 else 0) = pb_many (pb_N R A B C) (pb_F R A B C P) (pb_S R A B C Q) (pb_i01 R A P + pb_i12 R X B P Q) (pb_min4 (pb_N R A B C) (pb_F R A B C P) (pb_S R A B C Q) (pb_i01 R A P + pb_i12 R X B P Q))) : wL_lawOf_332 post mc ms (pb_v C) (nI 2) (pb_v (pb_N R A B C)) (pb_v (pb_F R A B C P)) (pb_v (pb_S R A B C Q)) (pb_v (pb_i01 R A P + pb_i12 R X B P Q)) (pb_v (pb_min4 (pb_N R A B C) (pb_F R A B C P) (pb_S R A B C Q) (pb_i01 R A P + pb_i12 R X B P Q))) (nI t) z0 kc ks (pb_v R) (pb_v X) (nI 3) b a1 a2 a3 a4 a5 a6 := by
  have r := pb_rng h
  refine pb_same (by omega) (by omega) (fun g => pb_344 h hW hK hp ?_ hu) (fun g => pb_344 h hW hK hp ?_ hu)
  · rw [hz, pb_one, pb_add, if_pos g]
  · rw [hz, pb_zero, pb_add, if_neg g]
theorem pb_318 (h : pb_R R X A B C P Q) (hW : pb_W a1 a2 A B C P Q) (hK : pb_K (pb_lc (pb_v R) (pb_v X) 3 (-1) a1 a2) t) (hp : post 1 ()) : wL_lawOf_318 post mc ms (pb_v C) (nI 2) (pb_v (pb_N R A B C)) (pb_v (pb_F R A B C P)) (pb_v (pb_S R A B C Q)) (pb_v (pb_i01 R A P + pb_i12 R X B P Q)) (pb_v (pb_min4 (pb_N R A B C) (pb_F R A B C P) (pb_S R A B C Q) (pb_i01 R A P + pb_i12 R X B P Q))) (nI t) kc ks (pb_v R) (pb_v X) (nI 3) b a1 a2 a3 a4 a5 a6 := by
  have r := pb_rng h
  refine pb_same (by omega) (by omega) (fun g => pb_332 h hW hK hp (u := if (pb_N R A B C) = (pb_min4 (pb_N R A B C) (pb_F R A B C P) (pb_S R A B C Q) (pb_i01 R A P + pb_i12 R X B P Q)) then 1 else 0) ?_ rfl) (fun g => pb_332 h hW hK hp (u := if (pb_N R A B C) = (pb_min4 (pb_N R A B C) (pb_F R A B C P) (pb_S R A B C Q) (pb_i01 R A P + pb_i12 R X B P Q)) then 1 else 0) ?_ rfl)
  · rw [pb_one, if_pos g]
  · rw [pb_zero, if_neg g]
theorem pb_262 {z0 z1 : Int32} (h : pb_R R X A B C P Q) (hW : pb_W a1 a2 A B C P Q) (hp : post 1 ()) (hz : z1 + z0 = pb_v (pb_i01 R A P + pb_i12 R X B P Q)) : wL_lawOf_262 post mc ms (pb_v C) (nI 2) (pb_v (pb_N R A B C)) (pb_v (pb_F R A B C P)) (pb_v (pb_S R A B C Q)) z0 z1 kc ks (pb_v R) (pb_v X) (nI 3) b a1 a2 a3 a4 a5 a6 := by
  have r := pb_rng h
  have hL := pb_isL h hW
  have hB := pb_isB h
  refine nm_r hz (pb_wmin rfl rfl rfl (by omega) (by omega) (pb_wmin rfl rfl rfl (by omega) (by omega) (pb_wmin (k := (pb_min4 (pb_N R A B C) (pb_F R A B C P) (pb_S R A B C Q) (pb_i01 R A P + pb_i12 R X B P Q))) rfl rfl rfl (by omega) (by omega) ?_)))
  refine pb_same (by omega) (by omega) (fun gN => pb_318 (t := 0) h hW (Or.inl ⟨rfl, pb_sol0 hL hB gN⟩) hp) (fun gN => ?_)
  refine pb_same (by omega) (by omega) (fun gF => pb_318 (t := 1) h hW (Or.inr (Or.inl ⟨rfl, pb_sol1 hL hB gN gF⟩)) hp) (fun gF => ?_)
  exact pb_same (by omega) (by omega) (fun gS => pb_318 (t := 2) h hW (Or.inr (Or.inr (Or.inl ⟨rfl, pb_sol2 hL hB gN gF gS⟩))) hp) (fun gS => pb_318 (t := 3) h hW (Or.inr (Or.inr (Or.inr ⟨rfl, pb_sol3 hL hB gN gF gS⟩))) hp)
end
end
section
theorem pb_rem (x : Int32) (d : Nat) (h0 : 0 < d) (hd : d < 2 ^ 31) : ∃ j : Nat, j < d ∧ (x &&& 255) - (x &&& 255) / nI d * nI d = nI j := by
  obtain ⟨k, hk, e⟩ := pk_andE x (m := 255) 8 (by decide)
  rw [e]
  exact ⟨k % d, Nat.mod_lt _ h0, pk_rem (by omega) h0 hd⟩
theorem pb_room (x : Int32) : ∃ R : Int, 12 ≤ R ∧ R ≤ 41 ∧ 12 + ((x &&& 255) - (x &&& 255) / 30 * 30) = pb_v R := by
  obtain ⟨j, hj, e⟩ := pb_rem x 30 (by decide) (by decide)
  refine ⟨12 + (j : Int), by omega, by omega, ?_⟩
  rw [show (30 : Int32) = nI 30 from rfl, e, pb_n, show (12 : Int32) = pb_v 12 by decide, pb_add]
theorem pb_wide (x : Int32) : ∃ A : Int, 1 ≤ A ∧ A ≤ 12 ∧ 1 + ((x &&& 255) - (x &&& 255) / 12 * 12) = pb_v A := by
  obtain ⟨j, hj, e⟩ := pb_rem x 12 (by decide) (by decide)
  refine ⟨1 + (j : Int), by omega, by omega, ?_⟩
  rw [show (12 : Int32) = nI 12 from rfl, e, pb_n, pb_one, pb_add]
theorem pb_pnl (x : Int32) : ∃ P : Int, -40 ≤ P ∧ P ≤ 40 ∧ ((x &&& 255) - (x &&& 255) / 81 * 81) - 40 = pb_v P := by
  obtain ⟨j, hj, e⟩ := pb_rem x 81 (by decide) (by decide)
  refine ⟨(j : Int) - 40, by omega, by omega, ?_⟩
  rw [show (81 : Int32) = nI 81 from rfl, e, pb_n, show (40 : Int32) = pb_v 40 by decide, pb_sub]
theorem pb_extra (x : Int32) : ∃ X : Int, 0 ≤ X ∧ X ≤ 31 ∧ x &&& 31 = pb_v X := by
  obtain ⟨k, hk, e⟩ := pk_andE x (m := 31) 5 (by decide)
  refine ⟨(k : Int), by omega, by omega, ?_⟩
  rw [e, pb_n]
theorem pb_init {post : St2 → Prop} {R X : Int} (hR : 12 ≤ R ∧ R ≤ 41) (hX : 0 ≤ X ∧ X ≤ 31) (hp : post (pb_v R, pb_v X, 0, 0, fun _ => 0, fun _ => 0, fun _ => 0, fun _ => 0, fun _ => 0, fun _ => 0)) : wpX_init post 6 174 (0, 0, 0, 0) (pb_v R) (pb_v X) := by
  refine ⟨by decide, by decide, by decide, by decide, by decide, by decide, by decide, by decide, by decide, by decide, by decide, by decide, br_t ?_ (br_t ?_ (br_t ?_ (br_t ?_ hp)))⟩
  · rw [show (5 : Int32) = pb_v 5 by decide, pb_le (by omega) (by omega) (by omega) (by omega)]
    omega
  · rw [show (60 : Int32) = pb_v 60 by decide, pb_le (by omega) (by omega) (by omega) (by omega)]
    omega
  · rw [pb_zero, pb_le (by omega) (by omega) (by omega) (by omega)]
    omega
  · rw [show (100 : Int32) = pb_v 100 by decide, pb_le (by omega) (by omega) (by omega) (by omega)]
    omega
theorem pb_wordE {post : Int32 → St2 → Prop} {w e b y : Int32} {a1 a2 a3 a4 a5 a6 : Nat → Int32} {n : Nat} {A P : Int} (hy : y = pb_v P) (hn : n < 10) (hA : 1 ≤ A ∧ A ≤ 12) (hP : -40 ≤ P ∧ P ≤ 40)
    (hp : post (nI n) (w, e, nI (n + 1), b, upd a1 n (pb_v A), upd a2 n (pb_v P), a3, a4, a5, a6)) : wpX_word post (w, e, nI n, b, a1, a2, a3, a4, a5, a6) (pb_v A) y := by
  rw [hy]
  exact pb_word hn hA hP hp
theorem pb_lawOf {post : Int32 → St0 → Prop} (p0 p1 p2 p3 : Int32) (hp : post 1 ()) : wpL_lawOf post 7 184 () p0 p1 p2 p3 := by
  obtain ⟨R, hR1, hR2, eR⟩ := pb_room p3
  obtain ⟨X, hX1, hX2, eX⟩ := pb_extra (p3 >>> ((8 : Int32) &&& 31))
  obtain ⟨A, hA1, hA2, eA⟩ := pb_wide p0
  obtain ⟨B, hB1, hB2, eB⟩ := pb_wide p1
  obtain ⟨C, hC1, hC2, eC⟩ := pb_wide p2
  obtain ⟨P, hP1, hP2, eP⟩ := pb_pnl (p0 >>> ((8 : Int32) &&& 31))
  obtain ⟨Q, hQ1, hQ2, eQ⟩ := pb_pnl (p1 >>> ((8 : Int32) &&& 31))
  have h : pb_R R X A B C P Q := ⟨⟨hR1, hR2⟩, ⟨hX1, hX2⟩, ⟨hA1, hA2⟩, ⟨hB1, hB2⟩, ⟨hC1, hC2⟩, ⟨hP1, hP2⟩, ⟨hQ1, hQ2⟩⟩
  have h3 := pb_bdT (D := R - C) (g := 0) (by omega) (by omega)
  refine ⟨by decide, nm_r eR (nm_r eX ⟨by decide, by decide, 6, 174, by decide, by decide, pb_init ⟨hR1, hR2⟩ ⟨hX1, hX2⟩ ?_⟩)⟩
  refine ⟨by decide, nm_r eA ⟨by decide, nm_r eB ⟨by decide, nm_r eC ⟨by decide, nm_r eP ⟨by decide, nm_r eQ ?_⟩⟩⟩⟩⟩
  refine pb_wordE (n := 0) rfl (by decide) ⟨hA1, hA2⟩ ⟨hP1, hP2⟩ ?_
  refine pb_wordE (n := 1) rfl (by decide) ⟨hB1, hB2⟩ ⟨hQ1, hQ2⟩ ?_
  refine pb_wordE (n := 2) (P := 40) (by decide) (by decide) ⟨hC1, hC2⟩ (by decide) ?_
  have hW : pb_W (upd (upd (upd (fun _ => 0) 0 (pb_v A)) 1 (pb_v B)) 2 (pb_v C)) (upd (upd (upd (fun _ => 0) 0 (pb_v P)) 1 (pb_v Q)) 2 (pb_v 40)) A B C P Q := by
    unfold pb_W
    rw [pk_us, pk_un (by decide), pk_un (by decide), pk_us, pk_un (by decide), pk_us, pk_un (by decide), pk_un (by decide), pk_us, pk_un (by decide), pk_us]
    exact ⟨rfl, rfl, rfl, rfl, rfl⟩
  refine pb_bad (L := A + B + C + 4) (g := 2) (last := true) rfl (by rw [pb_add, pb_add, show (4 : Int32) = pb_v 4 by decide, pb_add]) (by decide) (by decide) (by omega) (by omega) (by omega) (by omega) ?_
  refine pb_bad (L := A) (g := 0) (last := false) rfl rfl (by decide) (by decide) (by omega) (by omega) (by omega) (by omega) ?_
  refine pb_bad (L := B + C + 2) (g := 1) (last := true) rfl (by rw [pb_add, show (2 : Int32) = pb_v 2 by decide, pb_add]) (by decide) (by decide) (by omega) (by omega) (by omega) (by omega) ?_
  refine nm_r (e' := pb_v (pb_F R A B C P)) (by rw [pb_add, pb_add]; rfl) ?_
  refine pb_bad (L := A + B + 2) (g := 1) (last := false) rfl (by rw [pb_add, show (2 : Int32) = pb_v 2 by decide, pb_add]) (by decide) (by decide) (by omega) (by omega) (by omega) (by omega) ?_
  refine pb_bad (L := C) (g := 0) (last := true) rfl rfl (by decide) (by decide) (by omega) (by omega) (by omega) (by omega) ?_
  refine nm_r (e' := pb_v (pb_S R A B C Q)) (by rw [pb_add, pb_add]; rfl) ?_
  refine pb_bad (L := A) (g := 0) (last := false) rfl rfl (by decide) (by decide) (by omega) (by omega) (by omega) (by omega) ?_
  refine pb_bad (L := B) (g := 0) (last := false) rfl rfl (by decide) (by decide) (by omega) (by omega) (by omega) (by omega) ?_
  refine pb_bad (L := C) (g := 0) (last := true) rfl rfl (by decide) (by decide) (by omega) (by omega) (by omega) (by omega) ?_
  have hs : (((pb_v (pb_bd (R - A) 0 false) + pb_v (pb_bd (R - B) 0 false)) + pb_v (pb_bd (R - C) 0 true)) + pb_v P) + pb_v Q = pb_v ((((pb_bd (R - A) 0 false + pb_bd (R - B) 0 false) + 0) + P) + Q) := by
    rw [h3, pb_add, pb_add, pb_add, pb_add]
  refine br_c (fun z => ?_) (fun z => br_c (fun z2 => ?_) (fun z2 => ?_))
  · rw [pb_zero, pb_le (by omega) (by omega) (by omega) (by omega)] at z
    refine pb_262 h hW hp ?_
    rw [hs, pb_zero, pb_add]
    unfold pb_i01 pb_i12 pb_Z
    rw [if_neg (show ¬ (0 < P ∧ 0 < Q) by omega)]
    exact congrArg pb_v (by omega)
  · rw [pb_zero, pb_le (by omega) (by omega) (by omega) (by omega)] at z2
    refine pb_262 h hW hp ?_
    rw [hs, pb_zero, pb_add]
    unfold pb_i01 pb_i12 pb_Z
    rw [if_neg (show ¬ (0 < P ∧ 0 < Q) by omega)]
    exact congrArg pb_v (by omega)
  · rw [pb_zero, pb_le (by omega) (by omega) (by omega) (by omega)] at z z2
    refine pb_262 h hW hp ?_
    rw [hs, pb_add]
    unfold pb_i01 pb_i12 pb_Z
    rw [if_pos (show 0 < P ∧ 0 < Q by omega)]
    exact congrArg pb_v (by omega)
theorem pb_cell {post : Int32 → Prop} {L : Nat} {xs : Nat → Int32} (i : Nat) (hi : i ≤ 4) (hL : L ≤ 4) (H : ∀ x, post x) : wpL_cellAt post L xs () (nI i) :=
  pk_le L i (fun _ => H _) (fun z => ⟨pk_in i L z, H _⟩)
theorem i_vc (xs : Nat → Int32) (L : Nat) (hL : L ≤ 4) : wpL_law (fun r => r = 1) L xs := by
  unfold wpL_law
  exact pb_cell 0 (by decide) hL (fun r1 => pb_cell 1 (by decide) hL (fun r2 => pb_cell 2 (by decide) hL (fun r3 => pb_cell 3 (by decide) hL (fun r4 => ⟨7, 184, by decide, by decide, pb_lawOf r1 r2 r3 r4 rfl⟩))))
end
