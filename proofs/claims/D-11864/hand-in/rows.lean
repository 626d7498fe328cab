section
/-! numbers: Int32 read as Int, no overflow -/
theorem hb_bm {x : Int} (h1 : -2147483648 ≤ x) (h2 : x < 2147483648) : x.bmod (2 ^ 32) = x := by
  have e : ((2 ^ 32 : Nat) : Int) = 4294967296 := rfl
  exact Int.bmod_eq_of_le_mul_two (y := 2 ^ 32) (by rw [e]; omega) (by rw [e]; omega)
theorem hb_add {x y : Int32} (h1 : -2147483648 ≤ x.toInt + y.toInt) (h2 : x.toInt + y.toInt < 2147483648) : (x + y).toInt = x.toInt + y.toInt := by
  rw [Int32.toInt_add]
  exact hb_bm h1 h2
theorem hb_sub {x y : Int32} (h1 : -2147483648 ≤ x.toInt - y.toInt) (h2 : x.toInt - y.toInt < 2147483648) : (x - y).toInt = x.toInt - y.toInt := by
  rw [Int32.toInt_sub]
  exact hb_bm h1 h2
theorem hb_le {x y : Int32} : x ≤ y ↔ x.toInt ≤ y.toInt := Int32.le_iff_toInt_le
theorem hb_lt {x y : Int32} : x < y ↔ x.toInt < y.toInt := Int32.lt_iff_toInt_lt
theorem hb_eq {x y : Int32} (h : x.toInt = y.toInt) : x = y := Int32.toInt_inj.mp h
theorem hb_byte : ∀ t, t < 128 → (nI t).toInt8.toInt32 = nI t := by decide +kernel
theorem hb_nI {x : Int32} {k : Nat} (h : x.toInt = (k : Int)) (hk : k < 2 ^ 31) : x = nI k := hb_eq (by rw [h, nI_toInt hk])
theorem hb_inj {a b : Nat} (ha : a < 2 ^ 31) (hb : b < 2 ^ 31) (h : nI a = nI b) : a = b := (nI_eq ha hb).mp h
theorem hb_28 : (268435456 : Int32).toInt = 268435456 := by decide
theorem hb_0 : (0 : Int32).toInt = 0 := by decide
theorem hb_1 : (1 : Int32).toInt = 1 := by decide
theorem hb_never : (100000 : Int32).toInt = 100000 := by decide
end
section
/-! the matching and its prices. n columns, R rows, K the costs, a4 row prices, a5 column prices, p the row of a column (0: none), h a column left out -/
def hu_F (n R : Nat) (K : Nat → Nat → Int) (a4 a5 : Nat → Int32) : Prop := ∀ r c, 1 ≤ r → r ≤ R → 1 ≤ c → c ≤ n → (a4 r).toInt + (a5 c).toInt ≤ K r c
def hu_V (n : Nat) (a5 : Nat → Int32) (p : Nat → Nat) : Prop := (∀ c, 1 ≤ c → c ≤ n → (a5 c).toInt ≤ 0) ∧ (∀ c, 1 ≤ c → c ≤ n → p c = 0 → (a5 c).toInt = 0)
def hu_G (R : Nat) (a4 : Nat → Int32) : Prop := ∀ r, 1 ≤ r → r ≤ R → 0 ≤ (a4 r).toInt
def hu_P (n k : Nat) (p : Nat → Nat) (h : Nat) : Prop := (∀ c, c ≤ n → p c ≤ k) ∧ (∀ c d, c ≤ n → d ≤ n → c ≠ h → d ≠ h → p c ≠ 0 → p c = p d → c = d) ∧ (∀ r, 1 ≤ r → r ≤ k → ∃ c, c ≤ n ∧ c ≠ h ∧ p c = r)
def hu_E (n : Nat) (K : Nat → Nat → Int) (a4 a5 : Nat → Int32) (p : Nat → Nat) (h : Nat) : Prop := ∀ c, 1 ≤ c → c ≤ n → c ≠ h → p c ≠ 0 → K (p c) c = (a4 (p c)).toInt + (a5 c).toInt
/-- the search tree: J i the column reached at time i, par i the time of its parent -/
def hu_T (n : Nat) (K : Nat → Nat → Int) (a4 a5 a7 : Nat → Int32) (p : Nat → Nat) (t : Nat) (J par : Nat → Nat) : Prop :=
  J 0 = 0 ∧ (∀ i, 1 ≤ i → i ≤ t → 1 ≤ J i ∧ J i ≤ n) ∧ (∀ i j, i < j → j ≤ t → J i ≠ J j) ∧ (∀ i, i < t → p (J i) ≠ 0) ∧
  (∀ i, 1 ≤ i → i ≤ t → par i < i ∧ a7 (J i) = nI (J (par i)) ∧ K (p (J (par i))) (J i) = (a4 (p (J (par i)))).toInt + (a5 (J i)).toInt)
/-- what is still missing at the columns outside the tree -/
def hu_S (n : Nat) (K : Nat → Nat → Int) (a4 a5 a7 a8 : Nat → Int32) (p : Nat → Nat) (t : Nat) (J : Nat → Nat) : Prop :=
  ∀ c, 1 ≤ c → c ≤ n → (∀ i, i < t → J i ≠ c) → (t = 0 ∧ (a8 c).toInt = 268435456) ∨
    ((∀ i, i < t → (a8 c).toInt ≤ K (p (J i)) c - (a4 (p (J i))).toInt - (a5 c).toInt) ∧ ∃ i, i < t ∧ a7 c = nI (J i) ∧ (a8 c).toInt = K (p (J i)) c - (a4 (p (J i))).toInt - (a5 c).toInt)
def hu_C (n R : Nat) (K : Nat → Nat → Int) : Prop := ∀ r c, 1 ≤ r → r ≤ R → 1 ≤ c → c ≤ n → 0 ≤ K r c ∧ K r c ≤ 100000
theorem hu_free {n k : Nat} {p : Nat → Nat} (hn : 3 ≤ n) (hk : k ≤ 3) (hP : hu_P n k p (n + 1)) (h0 : p 0 ≠ 0) : ∃ c, 1 ≤ c ∧ c ≤ n ∧ p c = 0 := by
  obtain ⟨hr, hi, _⟩ := hP
  by_cases e1 : p 1 = 0
  · exact ⟨1, by omega, by omega, e1⟩
  by_cases e2 : p 2 = 0
  · exact ⟨2, by omega, by omega, e2⟩
  by_cases e3 : p 3 = 0
  · exact ⟨3, by omega, by omega, e3⟩
  exfalso
  have r0 := hr 0 (by omega)
  have r1 := hr 1 (by omega)
  have r2 := hr 2 (by omega)
  have r3 := hr 3 (by omega)
  have d01 : p 0 ≠ p 1 := fun e => absurd (hi 0 1 (by omega) (by omega) (by omega) (by omega) h0 e) (by omega)
  have d02 : p 0 ≠ p 2 := fun e => absurd (hi 0 2 (by omega) (by omega) (by omega) (by omega) h0 e) (by omega)
  have d03 : p 0 ≠ p 3 := fun e => absurd (hi 0 3 (by omega) (by omega) (by omega) (by omega) h0 e) (by omega)
  have d12 : p 1 ≠ p 2 := fun e => absurd (hi 1 2 (by omega) (by omega) (by omega) (by omega) e1 e) (by omega)
  have d13 : p 1 ≠ p 3 := fun e => absurd (hi 1 3 (by omega) (by omega) (by omega) (by omega) e1 e) (by omega)
  have d23 : p 2 ≠ p 3 := fun e => absurd (hi 2 3 (by omega) (by omega) (by omega) (by omega) e2 e) (by omega)
  omega
/-- the prices stay small -/
theorem hu_bd {n k R : Nat} {K : Nat → Nat → Int} {a4 a5 : Nat → Int32} {p : Nat → Nat} (hn : 3 ≤ n) (hk : k ≤ 3) (hkR : k ≤ R) (hC : hu_C n R K) (hF : hu_F n R K a4 a5) (hV : hu_V n a5 p) (hP : hu_P n k p (n + 1)) (hE : hu_E n K a4 a5 p (n + 1)) (h0 : p 0 ≠ 0) :
    (∀ r, 1 ≤ r → r ≤ R → (a4 r).toInt ≤ 100000) ∧ (∀ c, 1 ≤ c → c ≤ n → -100000 ≤ (a5 c).toInt ∧ (a5 c).toInt ≤ 0) := by
  obtain ⟨f, f1, f2, f3⟩ := hu_free hn hk hP h0
  have A : ∀ r, 1 ≤ r → r ≤ R → (a4 r).toInt ≤ 100000 := by
    intro r h1 h2
    have g1 := hF r f h1 h2 f1 f2
    have g2 := hV.2 f f1 f2 f3
    have g3 := (hC r f h1 h2 f1 f2).2
    omega
  refine ⟨A, fun c h1 h2 => ⟨?_, hV.1 c h1 h2⟩⟩
  by_cases e : p c = 0
  · have g := hV.2 c h1 h2 e
    omega
  · have hr : p c ≤ k := hP.1 c h2
    have g1 := hE c h1 h2 (by omega) e
    have g2 := A (p c) (by omega) (by omega)
    have g3 := (hC (p c) c (by omega) (by omega) h1 h2).1
    omega
/-- the tree has at most three columns -/
theorem hu_t {n k t : Nat} {K : Nat → Nat → Int} {a4 a5 a7 : Nat → Int32} {p J par : Nat → Nat} (hk : k ≤ 3) (hP : hu_P n k p (n + 1)) (hT : hu_T n K a4 a5 a7 p t J par) (hp : p (J t) ≠ 0) (ht : t ≤ 3) : t ≤ 2 := by
  obtain ⟨hr, hi, _⟩ := hP
  obtain ⟨T0, T1, T2, T3, _⟩ := hT
  by_cases e : t = 3
  · exfalso
    subst e
    have n0 : J 0 ≤ n := by omega
    have n1 := (T1 1 (by omega) (by omega)).2
    have n2 := (T1 2 (by omega) (by omega)).2
    have n3 := (T1 3 (by omega) (by omega)).2
    have p0 := T3 0 (by omega)
    have p1 := T3 1 (by omega)
    have p2 := T3 2 (by omega)
    have r0 := hr _ n0
    have r1 := hr _ n1
    have r2 := hr _ n2
    have r3 := hr _ n3
    have d01 : p (J 0) ≠ p (J 1) := fun e => absurd (hi _ _ n0 n1 (by omega) (by omega) p0 e) (T2 0 1 (by omega) (by omega))
    have d02 : p (J 0) ≠ p (J 2) := fun e => absurd (hi _ _ n0 n2 (by omega) (by omega) p0 e) (T2 0 2 (by omega) (by omega))
    have d03 : p (J 0) ≠ p (J 3) := fun e => absurd (hi _ _ n0 n3 (by omega) (by omega) p0 e) (T2 0 3 (by omega) (by omega))
    have d12 : p (J 1) ≠ p (J 2) := fun e => absurd (hi _ _ n1 n2 (by omega) (by omega) p1 e) (T2 1 2 (by omega) (by omega))
    have d13 : p (J 1) ≠ p (J 3) := fun e => absurd (hi _ _ n1 n3 (by omega) (by omega) p1 e) (T2 1 3 (by omega) (by omega))
    have d23 : p (J 2) ≠ p (J 3) := fun e => absurd (hi _ _ n2 n3 (by omega) (by omega) p2 e) (T2 2 3 (by omega) (by omega))
    omega
  · omega
/-- what one pass over the columns does to the slack: either the tree's newest row is nearer, or nothing changes -/
def hu_N (n : Nat) (K : Nat → Nat → Int) (a4 a5 a7 a8 b7 s1 : Nat → Int32) (p : Nat → Nat) (t : Nat) (J : Nat → Nat) : Prop :=
  ∀ c, 1 ≤ c → c ≤ n → (∀ i, i ≤ t → J i ≠ c) →
    ((s1 c).toInt = K (p (J t)) c - (a4 (p (J t))).toInt - (a5 c).toInt ∧ b7 c = nI (J t) ∧ (s1 c).toInt < (a8 c).toInt) ∨
    ((s1 c).toInt = (a8 c).toInt ∧ b7 c = a7 c ∧ (a8 c).toInt ≤ K (p (J t)) c - (a4 (p (J t))).toInt - (a5 c).toInt)
theorem hu_row {n k R t : Nat} {K : Nat → Nat → Int} {a4 a5 a7 : Nat → Int32} {p J par : Nat → Nat} (hkR : k ≤ R) (hP : hu_P n k p (n + 1)) (hT : hu_T n K a4 a5 a7 p t J par) (hp : p (J t) ≠ 0) :
    ∀ i, i ≤ t → J i ≤ n ∧ p (J i) ≠ 0 ∧ 1 ≤ p (J i) ∧ p (J i) ≤ R ∧ (1 ≤ i → 1 ≤ J i) := by
  intro i hi
  obtain ⟨T0, T1, T2, T3, _⟩ := hT
  have hJ : J i ≤ n ∧ (1 ≤ i → 1 ≤ J i) := by
    rcases Nat.eq_zero_or_pos i with z | z
    · subst z
      rw [T0]
      exact ⟨by omega, fun z => by omega⟩
    · exact ⟨(T1 i z hi).2, fun _ => (T1 i z hi).1⟩
  have hq : p (J i) ≠ 0 := by
    rcases Nat.lt_or_ge i t with z | z
    · exact T3 i z
    · have : i = t := by omega
      rw [this]
      exact hp
  have := hP.1 _ hJ.1
  exact ⟨hJ.1, hq, by omega, by omega, hJ.2⟩
/-- the new slack is small and not negative -/
theorem hu_sb {n k R t : Nat} {K : Nat → Nat → Int} {a4 a5 a7 a8 b7 s1 : Nat → Int32} {p J par : Nat → Nat} (hn : 3 ≤ n) (hk : k ≤ 3) (hkR : k ≤ R) (hC : hu_C n R K) (hF : hu_F n R K a4 a5) (hV : hu_V n a5 p) (hG : hu_G R a4) (hP : hu_P n k p (n + 1)) (hE : hu_E n K a4 a5 p (n + 1)) (hT : hu_T n K a4 a5 a7 p t J par) (hS : hu_S n K a4 a5 a7 a8 p t J) (hp : p (J t) ≠ 0)
    (hN : hu_N n K a4 a5 a7 a8 b7 s1 p t J) : ∀ c, 1 ≤ c → c ≤ n → (∀ i, i ≤ t → J i ≠ c) → 0 ≤ (s1 c).toInt ∧ (s1 c).toInt ≤ 200000 := by
  intro c h1 h2 h3
  have hrow := hu_row hkR hP hT hp
  have h0 : p 0 ≠ 0 := by
    have := (hrow 0 (by omega)).2.1
    rw [hT.1] at this
    exact this
  obtain ⟨A, B⟩ := hu_bd hn hk hkR hC hF hV hP hE h0
  obtain ⟨_, _, q1, q2, _⟩ := hrow t (Nat.le_refl t)
  have g1 := hF _ c q1 q2 h1 h2
  have g2 := hC _ c q1 q2 h1 h2
  have g3 := hG _ q1 q2
  have g4 := B c h1 h2
  rcases hN c h1 h2 h3 with ⟨e1, _, _⟩ | ⟨e1, _, e3⟩
  · omega
  · rcases hS c h1 h2 (fun i hi => h3 i (by omega)) with ⟨_, e⟩ | ⟨_, i, hi, _, e⟩
    · omega
    · obtain ⟨_, _, w1, w2, _⟩ := hrow i (by omega)
      have g5 := hF _ c w1 w2 h1 h2
      omega
end
section
/-- one advance: the prices move by x, the column q joins the tree -/
theorem hu_adv {n k R t q : Nat} {K : Nat → Nat → Int} {a4 a5 a7 a8 b4 b5 b7 b8 s1 : Nat → Int32} {p J par : Nat → Nat} {x : Int} (hkR : k ≤ R)
    (hF : hu_F n R K a4 a5) (hV : hu_V n a5 p) (hG : hu_G R a4) (hP : hu_P n k p (n + 1)) (hE : hu_E n K a4 a5 p (n + 1)) (hT : hu_T n K a4 a5 a7 p t J par) (hS : hu_S n K a4 a5 a7 a8 p t J) (hp : p (J t) ≠ 0)
    (hN : hu_N n K a4 a5 a7 a8 b7 s1 p t J) (hb : ∀ c, 1 ≤ c → c ≤ n → (∀ i, i ≤ t → J i ≠ c) → 0 ≤ (s1 c).toInt ∧ (s1 c).toInt ≤ 200000)
    (h7 : ∀ i, 1 ≤ i → i ≤ t → b7 (J i) = a7 (J i))
    (hx : ∀ c, 1 ≤ c → c ≤ n → (∀ i, i ≤ t → J i ≠ c) → x ≤ (s1 c).toInt) (hx0 : 0 ≤ x)
    (hq1 : 1 ≤ q) (hqn : q ≤ n) (hqJ : ∀ i, i ≤ t → J i ≠ q) (hqs : (s1 q).toInt = x)
    (h4a : ∀ i, i ≤ t → (b4 (p (J i))).toInt = (a4 (p (J i))).toInt + x)
    (h4b : ∀ r, 1 ≤ r → r ≤ R → (∀ i, i ≤ t → p (J i) ≠ r) → b4 r = a4 r)
    (h5a : ∀ i, 1 ≤ i → i ≤ t → (b5 (J i)).toInt = (a5 (J i)).toInt - x)
    (h5b : ∀ c, 1 ≤ c → c ≤ n → (∀ i, i ≤ t → J i ≠ c) → b5 c = a5 c)
    (h8 : ∀ c, 1 ≤ c → c ≤ n → (∀ i, i ≤ t → J i ≠ c) → (b8 c).toInt = (s1 c).toInt - x) :
    ∃ J' par' : Nat → Nat, hu_F n R K b4 b5 ∧ hu_V n b5 p ∧ hu_G R b4 ∧ hu_E n K b4 b5 p (n + 1) ∧ hu_T n K b4 b5 b7 p (t + 1) J' par' ∧ hu_S n K b4 b5 b7 b8 p (t + 1) J' ∧ J' (t + 1) = q ∧ (∀ i, i ≤ t → J' i = J i) := by
  have hrow := hu_row hkR hP hT hp
  obtain ⟨T0, T1, T2, T3, T4⟩ := hT
  -- a column is in the tree or not; in the tree it has a time of at least 1
  have inC : ∀ c, 1 ≤ c → (∃ i, 1 ≤ i ∧ i ≤ t ∧ J i = c) ∨ (∀ i, i ≤ t → J i ≠ c) := by
    intro c hc
    by_cases e : ∃ i, i ≤ t ∧ J i = c
    · obtain ⟨i, hi, ei⟩ := e
      refine Or.inl ⟨i, ?_, hi, ei⟩
      rcases Nat.eq_zero_or_pos i with z | z
      · subst z
        rw [T0] at ei
        omega
      · exact z
    · exact Or.inr (fun i hi ei => e ⟨i, hi, ei⟩)
  have inR : ∀ r, (∃ i, i ≤ t ∧ p (J i) = r) ∨ (∀ i, i ≤ t → p (J i) ≠ r) := by
    intro r
    by_cases e : ∃ i, i ≤ t ∧ p (J i) = r
    · exact Or.inl e
    · exact Or.inr (fun i hi ei => e ⟨i, hi, ei⟩)
  -- the slack below each edge out of the tree
  have sl : ∀ c, 1 ≤ c → c ≤ n → (∀ i, i ≤ t → J i ≠ c) → ∀ i, i ≤ t → (s1 c).toInt ≤ K (p (J i)) c - (a4 (p (J i))).toInt - (a5 c).toInt := by
    intro c h1 h2 h3 i hi
    rcases Nat.lt_or_ge i t with z | z
    · rcases hS c h1 h2 (fun j hj => h3 j (by omega)) with ⟨e, _⟩ | ⟨e, _⟩
      · omega
      · have g := e i z
        rcases hN c h1 h2 h3 with ⟨_, _, w⟩ | ⟨w, _, _⟩ <;> omega
    · have : i = t := by omega
      subst this
      rcases hN c h1 h2 h3 with ⟨w, _, _⟩ | ⟨w, _, w'⟩ <;> omega
  -- the edge on which it is attained
  have at' : ∀ c, 1 ≤ c → c ≤ n → (∀ i, i ≤ t → J i ≠ c) → ∃ i, i ≤ t ∧ b7 c = nI (J i) ∧ (s1 c).toInt = K (p (J i)) c - (a4 (p (J i))).toInt - (a5 c).toInt := by
    intro c h1 h2 h3
    rcases hN c h1 h2 h3 with ⟨w1, w2, _⟩ | ⟨w1, w2, w3⟩
    · exact ⟨t, Nat.le_refl t, w2, w1⟩
    · rcases hS c h1 h2 (fun j hj => h3 j (by omega)) with ⟨_, e⟩ | ⟨_, i, hi, e1, e2⟩
      · have := hb c h1 h2 h3
        omega
      · exact ⟨i, by omega, by rw [w2, e1], by omega⟩
  have F' : hu_F n R K b4 b5 := by
    intro r c r1 r2 c1 c2
    have g := hF r c r1 r2 c1 c2
    rcases inR r with ⟨i, hi, ei⟩ | hr
    · have g4 := h4a i hi
      rw [ei] at g4
      rcases inC c c1 with ⟨j, j1, j2, ej⟩ | hc
      · have g5 := h5a j j1 j2
        rw [ej] at g5
        omega
      · rw [h5b c c1 c2 hc]
        have g6 := sl c c1 c2 hc i hi
        rw [ei] at g6
        have g7 := hx c c1 c2 hc
        omega
    · rw [h4b r r1 r2 hr]
      rcases inC c c1 with ⟨j, j1, j2, ej⟩ | hc
      · have g5 := h5a j j1 j2
        rw [ej] at g5
        omega
      · rw [h5b c c1 c2 hc]
        exact g
  have V' : hu_V n b5 p := by
    refine ⟨fun c c1 c2 => ?_, fun c c1 c2 e => ?_⟩
    · have g := hV.1 c c1 c2
      rcases inC c c1 with ⟨j, j1, j2, ej⟩ | hc
      · have g5 := h5a j j1 j2
        rw [ej] at g5
        omega
      · rw [h5b c c1 c2 hc]
        exact g
    · rcases inC c c1 with ⟨j, j1, j2, ej⟩ | hc
      · have := (hrow j j2).2.1
        rw [ej] at this
        exact absurd e this
      · rw [h5b c c1 c2 hc]
        exact hV.2 c c1 c2 e
  have G' : hu_G R b4 := by
    intro r r1 r2
    have g := hG r r1 r2
    rcases inR r with ⟨i, hi, ei⟩ | hr
    · have g4 := h4a i hi
      rw [ei] at g4
      omega
    · rw [h4b r r1 r2 hr]
      exact g
  have E' : hu_E n K b4 b5 p (n + 1) := by
    intro c c1 c2 c3 e
    have g := hE c c1 c2 c3 e
    rcases inC c c1 with ⟨j, j1, j2, ej⟩ | hc
    · have g5 := h5a j j1 j2
      have g4 := h4a j j2
      rw [ej] at g4 g5
      omega
    · have hr : ∀ i, i ≤ t → p (J i) ≠ p c := by
        intro i hi ei
        obtain ⟨w1, w2, _⟩ := hrow i hi
        exact hc i hi (hP.2.1 _ _ w1 c2 (by omega) c3 w2 ei)
      have := hP.1 c c2
      rw [h4b (p c) (by omega) (by omega) hr, h5b c c1 c2 hc]
      exact g
  obtain ⟨iq, iq1, iq2, iq3⟩ := at' q hq1 hqn hqJ
  have J'e : ∀ i, i ≤ t → (fun i => if i = t + 1 then q else J i) i = J i := by
    intro i hi
    have : i ≠ t + 1 := by omega
    simp [this]
  have J'q : (fun i => if i = t + 1 then q else J i) (t + 1) = q := by simp
  have par'e : ∀ i, i ≤ t → (fun i => if i = t + 1 then iq else par i) i = par i := by
    intro i hi
    have : i ≠ t + 1 := by omega
    simp [this]
  have par'q : (fun i => if i = t + 1 then iq else par i) (t + 1) = iq := by simp
  generalize (fun i => if i = t + 1 then q else J i) = J' at J'e J'q
  generalize (fun i => if i = t + 1 then iq else par i) = par' at par'e par'q
  refine ⟨J', par', F', V', G', E', ⟨?_, ?_, ?_, ?_, ?_⟩, ?_, J'q, J'e⟩
  · rw [J'e 0 (by omega)]
    exact T0
  · intro i i1 i2
    rcases Nat.lt_or_ge i (t + 1) with z | z
    · rw [J'e i (by omega)]
      exact T1 i i1 (by omega)
    · have : i = t + 1 := by omega
      rw [this, J'q]
      exact ⟨hq1, hqn⟩
  · intro i j hij hj
    rw [J'e i (by omega)]
    rcases Nat.lt_or_ge j (t + 1) with z | z
    · rw [J'e j (by omega)]
      exact T2 i j hij (by omega)
    · have : j = t + 1 := by omega
      rw [this, J'q]
      exact hqJ i (by omega)
  · intro i hi
    rw [J'e i (by omega)]
    exact (hrow i (by omega)).2.1
  · intro i i1 i2
    rcases Nat.lt_or_ge i (t + 1) with z | z
    · obtain ⟨u1, u2, u3⟩ := T4 i i1 (by omega)
      rw [par'e i (by omega), J'e i (by omega), J'e (par i) (by omega), h7 i i1 (by omega)]
      have g4 := h4a (par i) (by omega)
      have g5 := h5a i i1 (by omega)
      exact ⟨u1, u2, by omega⟩
    · have : i = t + 1 := by omega
      rw [this, par'q, J'q, J'e iq iq1, h5b q hq1 hqn hqJ]
      have g4 := h4a iq iq1
      exact ⟨by omega, iq2, by omega⟩
  · intro c c1 c2 c3
    have hc : ∀ i, i ≤ t → J i ≠ c := by
      intro i hi
      rw [← J'e i hi]
      exact c3 i (by omega)
    refine Or.inr ⟨fun i hi => ?_, ?_⟩
    · rw [J'e i (by omega), h5b c c1 c2 hc]
      have g4 := h4a i (by omega)
      have g6 := sl c c1 c2 hc i (by omega)
      have g8 := h8 c c1 c2 hc
      omega
    · obtain ⟨i, i1, i2, i3⟩ := at' c c1 c2 hc
      refine ⟨i, by omega, ?_, ?_⟩
      · rw [J'e i i1]
        exact i2
      · rw [J'e i i1, h5b c c1 c2 hc]
        have g4 := h4a i i1
        have g8 := h8 c c1 c2 hc
        omega
/-- one step of the walk back: the hole goes from column h to column g, g's row comes to h -/
theorem hu_aug {n k : Nat} {K : Nat → Nat → Int} {a4 a5 : Nat → Int32} {p p' : Nat → Nat} {h g : Nat} (hP : hu_P n k p h) (hE : hu_E n K a4 a5 p h) (hV : hu_V n a5 p)
    (hh : h ≤ n) (hg : g ≤ n) (hgh : g ≠ h) (hpg : p g ≠ 0) (hK : K (p g) h = (a4 (p g)).toInt + (a5 h).toInt)
    (e1 : p' h = p g) (e2 : ∀ c, c ≠ h → p' c = p c) : hu_P n k p' g ∧ hu_E n K a4 a5 p' g ∧ hu_V n a5 p' := by
  obtain ⟨P1, P2, P3⟩ := hP
  refine ⟨⟨?_, ?_, ?_⟩, ?_, hV.1, ?_⟩
  · intro c hc
    by_cases e : c = h
    · rw [e, e1]
      exact P1 g hg
    · rw [e2 c e]
      exact P1 c hc
  · intro c d hc hd cg dg hz hcd
    by_cases ec : c = h
    · by_cases ed : d = h
      · rw [ec, ed]
      · rw [ec, e1, e2 d ed] at hcd
        exact absurd (P2 g d hg hd hgh ed hpg hcd).symm dg
    · by_cases ed : d = h
      · rw [e2 c ec] at hz
        rw [ed, e1, e2 c ec] at hcd
        exact absurd (P2 c g hc hg ec hgh hz hcd) cg
      · rw [e2 c ec] at hz
        rw [e2 c ec, e2 d ed] at hcd
        exact P2 c d hc hd ec ed hz hcd
  · intro r r1 r2
    obtain ⟨c, c1, c2, c3⟩ := P3 r r1 r2
    by_cases e : c = g
    · exact ⟨h, hh, fun z => hgh z.symm, by rw [e1, ← e, c3]⟩
    · exact ⟨c, c1, e, by rw [e2 c c2, c3]⟩
  · intro c c1 c2 cg hz
    by_cases e : c = h
    · rw [e, e1]
      exact hK
    · rw [e2 c e] at hz ⊢
      exact hE c c1 c2 e hz
  · intro c c1 c2 hz
    by_cases e : c = h
    · rw [e, e1] at hz
      exact absurd hz hpg
    · rw [e2 c e] at hz
      exact hV.2 c c1 c2 hz
/-- a new row is laid into column 0: nothing is left out any more -/
theorem hu_new {n k : Nat} {K : Nat → Nat → Int} {a4 a5 : Nat → Int32} {p p' : Nat → Nat} (hP : hu_P n k p 0) (hE : hu_E n K a4 a5 p 0) (hV : hu_V n a5 p)
    (e1 : p' 0 = k + 1) (e2 : ∀ c, c ≠ 0 → p' c = p c) : hu_P n (k + 1) p' (n + 1) ∧ hu_E n K a4 a5 p' (n + 1) ∧ hu_V n a5 p' := by
  obtain ⟨P1, P2, P3⟩ := hP
  refine ⟨⟨?_, ?_, ?_⟩, ?_, hV.1, ?_⟩
  · intro c hc
    by_cases e : c = 0
    · rw [e, e1]
      omega
    · rw [e2 c e]
      have := P1 c hc
      omega
  · intro c d hc hd cg dg hz hcd
    by_cases ec : c = 0
    · by_cases ed : d = 0
      · rw [ec, ed]
      · rw [ec, e1, e2 d ed] at hcd
        have := P1 d hd
        omega
    · by_cases ed : d = 0
      · rw [ed, e1, e2 c ec] at hcd
        have := P1 c hc
        omega
      · rw [e2 c ec] at hz
        rw [e2 c ec, e2 d ed] at hcd
        exact P2 c d hc hd ec ed hz hcd
  · intro r r1 r2
    by_cases e : r = k + 1
    · exact ⟨0, by omega, by omega, by rw [e1, e]⟩
    · obtain ⟨c, c1, c2, c3⟩ := P3 r r1 (by omega)
      exact ⟨c, c1, by omega, by rw [e2 c c2, c3]⟩
  · intro c c1 c2 cg hz
    have e : c ≠ 0 := by omega
    rw [e2 c e] at hz ⊢
    exact hE c c1 c2 e hz
  · intro c c1 c2 hz
    have e : c ≠ 0 := by omega
    rw [e2 c e] at hz
    exact hV.2 c c1 c2 hz
/-- the search ends at a free column: the hole may be laid there -/
theorem hu_hole {n k h : Nat} {K : Nat → Nat → Int} {a4 a5 : Nat → Int32} {p : Nat → Nat} (hP : hu_P n k p (n + 1)) (hE : hu_E n K a4 a5 p (n + 1)) (hh : p h = 0) : hu_P n k p h ∧ hu_E n K a4 a5 p h := by
  obtain ⟨P1, P2, P3⟩ := hP
  refine ⟨⟨P1, fun c d hc hd _ _ hz e => P2 c d hc hd (by omega) (by omega) hz e, ?_⟩, fun c c1 c2 _ hz => hE c c1 c2 (by omega) hz⟩
  intro r r1 r2
  obtain ⟨c, c1, c2, c3⟩ := P3 r r1 r2
  exact ⟨c, c1, fun e => by rw [e, hh] at c3; omega, c3⟩
end
section
/-! the sum that the class answers with is the least over all assignments -/
def hu_sum (K : Nat → Nat → Int) (p : Nat → Nat) : Nat → Int
  | 0 => 0
  | c + 1 => hu_sum K p c + (if p (c + 1) = 0 then 0 else K (p (c + 1)) (c + 1))
def hu_Min3 (n : Nat) (K : Nat → Nat → Int) (s : Int) : Prop :=
  (∃ c1 c2 c3, 1 ≤ c1 ∧ c1 ≤ n ∧ 1 ≤ c2 ∧ c2 ≤ n ∧ 1 ≤ c3 ∧ c3 ≤ n ∧ c1 ≠ c2 ∧ c1 ≠ c3 ∧ c2 ≠ c3 ∧ s = K 1 c1 + K 2 c2 + K 3 c3) ∧
  (∀ c1 c2 c3, 1 ≤ c1 → c1 ≤ n → 1 ≤ c2 → c2 ≤ n → 1 ≤ c3 → c3 ≤ n → c1 ≠ c2 → c1 ≠ c3 → c2 ≠ c3 → s ≤ K 1 c1 + K 2 c2 + K 3 c3)
def hu_Min2 (n : Nat) (K : Nat → Nat → Int) (s : Int) : Prop :=
  (∃ c1 c2, 1 ≤ c1 ∧ c1 ≤ n ∧ 1 ≤ c2 ∧ c2 ≤ n ∧ c1 ≠ c2 ∧ s = K 1 c1 + K 2 c2) ∧
  (∀ c1 c2, 1 ≤ c1 → c1 ≤ n → 1 ≤ c2 → c2 ≤ n → c1 ≠ c2 → s ≤ K 1 c1 + K 2 c2)
theorem hu_sum3 {n : Nat} {K : Nat → Nat → Int} {p : Nat → Nat} {c1 c2 c3 : Nat} (hP : hu_P n 3 p 0) (n1 : c1 ≤ n) (n2 : c2 ≤ n) (n3 : c3 ≤ n) (z1 : c1 ≠ 0) (z2 : c2 ≠ 0) (z3 : c3 ≠ 0) (e1 : p c1 = 1) (e2 : p c2 = 2) (e3 : p c3 = 3) :
    ∀ i, i ≤ n → hu_sum K p i = (if c1 ≤ i then K 1 c1 else 0) + (if c2 ≤ i then K 2 c2 else 0) + (if c3 ≤ i then K 3 c3 else 0) := by
  obtain ⟨P1, P2, P3⟩ := hP
  have d12 : c1 ≠ c2 := fun e => by rw [e, e2] at e1; omega
  have d13 : c1 ≠ c3 := fun e => by rw [e, e3] at e1; omega
  have d23 : c2 ≠ c3 := fun e => by rw [e, e3] at e2; omega
  intro i
  induction i with
  | zero =>
    intro _
    rw [if_neg (by omega), if_neg (by omega), if_neg (by omega)]
    rfl
  | succ i ih =>
    intro hi
    have ih := ih (by omega)
    have r := P1 (i + 1) hi
    show hu_sum K p i + (if p (i + 1) = 0 then 0 else K (p (i + 1)) (i + 1)) = _
    rw [ih]
    by_cases e : p (i + 1) = 0
    · rw [if_pos e]
      have w1 : c1 ≠ i + 1 := fun w => by rw [w, e] at e1; omega
      have w2 : c2 ≠ i + 1 := fun w => by rw [w, e] at e2; omega
      have w3 : c3 ≠ i + 1 := fun w => by rw [w, e] at e3; omega
      clear ih e1 e2 e3 e P1 P2 P3
      generalize K 1 c1 = k1
      generalize K 2 c2 = k2
      generalize K 3 c3 = k3
      repeat' split
      all_goals omega
    · rw [if_neg e]
      have h123 : p (i + 1) = 1 ∨ p (i + 1) = 2 ∨ p (i + 1) = 3 := by omega
      rcases h123 with g | g | g
      · have w : i + 1 = c1 := P2 (i + 1) c1 hi n1 (by omega) z1 e (by rw [g, e1])
        rw [g, w]
        clear ih e1 e2 e3 e P1 P2 P3
        generalize K 1 c1 = k1
        generalize K 2 c2 = k2
        generalize K 3 c3 = k3
        repeat' split
        all_goals omega
      · have w : i + 1 = c2 := P2 (i + 1) c2 hi n2 (by omega) z2 e (by rw [g, e2])
        rw [g, w]
        clear ih e1 e2 e3 e P1 P2 P3
        generalize K 1 c1 = k1
        generalize K 2 c2 = k2
        generalize K 3 c3 = k3
        repeat' split
        all_goals omega
      · have w : i + 1 = c3 := P2 (i + 1) c3 hi n3 (by omega) z3 e (by rw [g, e3])
        rw [g, w]
        clear ih e1 e2 e3 e P1 P2 P3
        generalize K 1 c1 = k1
        generalize K 2 c2 = k2
        generalize K 3 c3 = k3
        repeat' split
        all_goals omega
theorem hu_sum2 {n : Nat} {K : Nat → Nat → Int} {p : Nat → Nat} {c1 c2 : Nat} (hP : hu_P n 2 p 0) (n1 : c1 ≤ n) (n2 : c2 ≤ n) (z1 : c1 ≠ 0) (z2 : c2 ≠ 0) (e1 : p c1 = 1) (e2 : p c2 = 2) :
    ∀ i, i ≤ n → hu_sum K p i = (if c1 ≤ i then K 1 c1 else 0) + (if c2 ≤ i then K 2 c2 else 0) := by
  obtain ⟨P1, P2, P3⟩ := hP
  have d12 : c1 ≠ c2 := fun e => by rw [e, e2] at e1; omega
  intro i
  induction i with
  | zero =>
    intro _
    rw [if_neg (by omega), if_neg (by omega)]
    rfl
  | succ i ih =>
    intro hi
    have ih := ih (by omega)
    have r := P1 (i + 1) hi
    show hu_sum K p i + (if p (i + 1) = 0 then 0 else K (p (i + 1)) (i + 1)) = _
    rw [ih]
    by_cases e : p (i + 1) = 0
    · rw [if_pos e]
      have w1 : c1 ≠ i + 1 := fun w => by rw [w, e] at e1; omega
      have w2 : c2 ≠ i + 1 := fun w => by rw [w, e] at e2; omega
      clear ih e1 e2 e P1 P2 P3
      generalize K 1 c1 = k1
      generalize K 2 c2 = k2
      repeat' split
      all_goals omega
    · rw [if_neg e]
      have h123 : p (i + 1) = 1 ∨ p (i + 1) = 2 := by omega
      rcases h123 with g | g
      · have w : i + 1 = c1 := P2 (i + 1) c1 hi n1 (by omega) z1 e (by rw [g, e1])
        rw [g, w]
        clear ih e1 e2 e P1 P2 P3
        generalize K 1 c1 = k1
        generalize K 2 c2 = k2
        repeat' split
        all_goals omega
      · have w : i + 1 = c2 := P2 (i + 1) c2 hi n2 (by omega) z2 e (by rw [g, e2])
        rw [g, w]
        clear ih e1 e2 e P1 P2 P3
        generalize K 1 c1 = k1
        generalize K 2 c2 = k2
        repeat' split
        all_goals omega
theorem hu_min3 {n : Nat} {K : Nat → Nat → Int} {a4 a5 : Nat → Int32} {p : Nat → Nat} (hF : hu_F n 3 K a4 a5) (hV : hu_V n a5 p) (hP : hu_P n 3 p 0) (hE : hu_E n K a4 a5 p 0) : hu_Min3 n K (hu_sum K p n) := by
  obtain ⟨c1, n1, z1, e1⟩ := hP.2.2 1 (by omega) (by omega)
  obtain ⟨c2, n2, z2, e2⟩ := hP.2.2 2 (by omega) (by omega)
  obtain ⟨c3, n3, z3, e3⟩ := hP.2.2 3 (by omega) (by omega)
  have d12 : c1 ≠ c2 := fun e => by rw [e, e2] at e1; omega
  have d13 : c1 ≠ c3 := fun e => by rw [e, e3] at e1; omega
  have d23 : c2 ≠ c3 := fun e => by rw [e, e3] at e2; omega
  have hs := hu_sum3 (K := K) hP n1 n2 n3 z1 z2 z3 e1 e2 e3 n (Nat.le_refl n)
  rw [if_pos n1, if_pos n2, if_pos n3] at hs
  refine ⟨⟨c1, c2, c3, by omega, n1, by omega, n2, by omega, n3, d12, d13, d23, hs⟩, ?_⟩
  have t1 := hE c1 (by omega) n1 z1 (by omega)
  have t2 := hE c2 (by omega) n2 z2 (by omega)
  have t3 := hE c3 (by omega) n3 z3 (by omega)
  rw [e1] at t1
  rw [e2] at t2
  rw [e3] at t3
  have v1 := hV.1 c1 (by omega) n1
  have v2 := hV.1 c2 (by omega) n2
  have v3 := hV.1 c3 (by omega) n3
  have key : ∀ d, 1 ≤ d → d ≤ n → (d = c1 ∧ (a5 d).toInt = (a5 c1).toInt) ∨ (d = c2 ∧ (a5 d).toInt = (a5 c2).toInt) ∨ (d = c3 ∧ (a5 d).toInt = (a5 c3).toInt) ∨ (a5 d).toInt = 0 := by
    intro d h1 h2
    have r := hP.1 d h2
    by_cases e : p d = 0
    · exact Or.inr (Or.inr (Or.inr (hV.2 d h1 h2 e)))
    · have h123 : p d = 1 ∨ p d = 2 ∨ p d = 3 := by omega
      rcases h123 with g | g | g
      · have w : d = c1 := hP.2.1 d c1 h2 n1 (by omega) z1 e (by rw [g, e1])
        exact Or.inl ⟨w, by rw [w]⟩
      · have w : d = c2 := hP.2.1 d c2 h2 n2 (by omega) z2 e (by rw [g, e2])
        exact Or.inr (Or.inl ⟨w, by rw [w]⟩)
      · have w : d = c3 := hP.2.1 d c3 h2 n3 (by omega) z3 e (by rw [g, e3])
        exact Or.inr (Or.inr (Or.inl ⟨w, by rw [w]⟩))
  intro x y z x1 x2 y1 y2 u1 u2 xy xz yz
  have f1 := hF 1 x (by omega) (by omega) x1 x2
  have f2 := hF 2 y (by omega) (by omega) y1 y2
  have f3 := hF 3 z (by omega) (by omega) u1 u2
  have k1 := key x x1 x2
  have k2 := key y y1 y2
  have k3 := key z u1 u2
  rw [hs, t1, t2, t3]
  clear key hs t1 t2 t3 hF hV hP hE
  generalize (a5 x).toInt = vx at *
  generalize (a5 y).toInt = vy at *
  generalize (a5 z).toInt = vz at *
  generalize (a5 c1).toInt = w1 at *
  generalize (a5 c2).toInt = w2 at *
  generalize (a5 c3).toInt = w3 at *
  generalize K 1 x = q1 at *
  generalize K 2 y = q2 at *
  generalize K 3 z = q3 at *
  rcases k1 with ⟨_, _⟩ | ⟨_, _⟩ | ⟨_, _⟩ | _ <;> rcases k2 with ⟨_, _⟩ | ⟨_, _⟩ | ⟨_, _⟩ | _ <;> rcases k3 with ⟨_, _⟩ | ⟨_, _⟩ | ⟨_, _⟩ | _ <;> omega
theorem hu_min2 {n : Nat} {K : Nat → Nat → Int} {a4 a5 : Nat → Int32} {p : Nat → Nat} (hF : hu_F n 2 K a4 a5) (hV : hu_V n a5 p) (hP : hu_P n 2 p 0) (hE : hu_E n K a4 a5 p 0) : hu_Min2 n K (hu_sum K p n) := by
  obtain ⟨c1, n1, z1, e1⟩ := hP.2.2 1 (by omega) (by omega)
  obtain ⟨c2, n2, z2, e2⟩ := hP.2.2 2 (by omega) (by omega)
  have d12 : c1 ≠ c2 := fun e => by rw [e, e2] at e1; omega
  have hs := hu_sum2 (K := K) hP n1 n2 z1 z2 e1 e2 n (Nat.le_refl n)
  rw [if_pos n1, if_pos n2] at hs
  refine ⟨⟨c1, c2, by omega, n1, by omega, n2, d12, hs⟩, ?_⟩
  have t1 := hE c1 (by omega) n1 z1 (by omega)
  have t2 := hE c2 (by omega) n2 z2 (by omega)
  rw [e1] at t1
  rw [e2] at t2
  have v1 := hV.1 c1 (by omega) n1
  have v2 := hV.1 c2 (by omega) n2
  have key : ∀ d, 1 ≤ d → d ≤ n → (d = c1 ∧ (a5 d).toInt = (a5 c1).toInt) ∨ (d = c2 ∧ (a5 d).toInt = (a5 c2).toInt) ∨ (a5 d).toInt = 0 := by
    intro d h1 h2
    have r := hP.1 d h2
    by_cases e : p d = 0
    · exact Or.inr (Or.inr (hV.2 d h1 h2 e))
    · have h123 : p d = 1 ∨ p d = 2 := by omega
      rcases h123 with g | g
      · have w : d = c1 := hP.2.1 d c1 h2 n1 (by omega) z1 e (by rw [g, e1])
        exact Or.inl ⟨w, by rw [w]⟩
      · have w : d = c2 := hP.2.1 d c2 h2 n2 (by omega) z2 e (by rw [g, e2])
        exact Or.inr (Or.inl ⟨w, by rw [w]⟩)
  intro x y x1 x2 y1 y2 xy
  have f1 := hF 1 x (by omega) (by omega) x1 x2
  have f2 := hF 2 y (by omega) (by omega) y1 y2
  have k1 := key x x1 x2
  have k2 := key y y1 y2
  rw [hs, t1, t2]
  clear key hs t1 t2 hF hV hP hE
  rcases k1 with ⟨_, _⟩ | ⟨_, _⟩ | _ <;> rcases k2 with ⟨_, _⟩ | ⟨_, _⟩ | _ <;> omega
theorem hu_uniq3 {n : Nat} {K : Nat → Nat → Int} {s s' : Int} (h : hu_Min3 n K s) (h' : hu_Min3 n K s') : s = s' := by
  obtain ⟨⟨c1, c2, c3, a1, a2, a3, a4, a5, a6, a7, a8, a9, e⟩, m⟩ := h
  obtain ⟨⟨d1, d2, d3, b1, b2, b3, b4, b5, b6, b7, b8, b9, e'⟩, m'⟩ := h'
  have g := m d1 d2 d3 b1 b2 b3 b4 b5 b6 b7 b8 b9
  have g' := m' c1 c2 c3 a1 a2 a3 a4 a5 a6 a7 a8 a9
  omega
end
section
/-! advance: the first loop looks, the second moves the prices -/
/-- before column i of the first loop: x3 the least slack, x4 its column, b7 b8 the new cameFrom and slack -/
def ad_I (Kr : Nat → Int) (u : Int) (ac : Nat) (a5 a7 a8 a9 : Nat → Int32) (i : Nat) (x3 x4 : Int32) (b7 b8 : Nat → Int32) : Prop :=
  1 ≤ i ∧
  (∀ c, 1 ≤ c → c < i → a9 c = 0 → ((b8 c).toInt = Kr c - u - (a5 c).toInt ∧ b7 c = nI ac ∧ (b8 c).toInt < (a8 c).toInt) ∨ ((b8 c).toInt = (a8 c).toInt ∧ b7 c = a7 c ∧ (a8 c).toInt ≤ Kr c - u - (a5 c).toInt)) ∧
  (∀ c, (i ≤ c ∨ ¬ a9 c = 0) → b7 c = a7 c ∧ b8 c = a8 c) ∧
  (∀ c, 1 ≤ c → c < i → a9 c = 0 → x3.toInt ≤ (b8 c).toInt) ∧
  ((x3.toInt = 268435456 ∧ x4 = 0) ∨ ∃ q, 1 ≤ q ∧ q < i ∧ a9 q = 0 ∧ x4 = nI q ∧ (b8 q).toInt = x3.toInt)
theorem ad_0 {Kr : Nat → Int} {u : Int} {ac : Nat} {a5 a7 a8 a9 : Nat → Int32} : ad_I Kr u ac a5 a7 a8 a9 1 268435456 0 a7 a8 :=
  ⟨Nat.le_refl 1, fun c h1 h2 => absurd h2 (by omega), fun c _ => ⟨rfl, rfl⟩, fun c h1 h2 => absurd h2 (by omega), Or.inl ⟨hb_28, rfl⟩⟩
theorem ad_skip {Kr : Nat → Int} {u : Int} {ac i : Nat} {a5 a7 a8 a9 b7 b8 : Nat → Int32} {x3 x4 : Int32} (h : ad_I Kr u ac a5 a7 a8 a9 i x3 x4 b7 b8) (h9 : ¬ a9 i = 0) : ad_I Kr u ac a5 a7 a8 a9 (i + 1) x3 x4 b7 b8 := by
  obtain ⟨h0, h1, h2, h3, h4⟩ := h
  have ne : ∀ c, c < i + 1 → a9 c = 0 → c < i := by
    intro c hc g
    rcases Nat.lt_or_ge c i with z | z
    · exact z
    · have : c = i := by omega
      rw [this] at g
      exact absurd g h9
  refine ⟨by omega, fun c c1 c2 g => h1 c c1 (ne c c2 g) g, fun c hc => ?_, fun c c1 c2 g => h3 c c1 (ne c c2 g) g, ?_⟩
  · rcases hc with z | z
    · exact h2 c (Or.inl (by omega))
    · exact h2 c (Or.inr z)
  · rcases h4 with z | ⟨q, q1, q2, q3⟩
    · exact Or.inl z
    · exact Or.inr ⟨q, q1, by omega, q3⟩
theorem ad_step {Kr : Nat → Int} {u : Int} {ac i : Nat} {a5 a7 a8 a9 b7 b8 d7 d8 : Nat → Int32} {x3 x4 y3 y4 : Int32} (h : ad_I Kr u ac a5 a7 a8 a9 i x3 x4 b7 b8) (h9 : a9 i = 0)
    (hc : ∀ c, c ≠ i → d7 c = b7 c ∧ d8 c = b8 c)
    (hi : ((d8 i).toInt = Kr i - u - (a5 i).toInt ∧ d7 i = nI ac ∧ (d8 i).toInt < (a8 i).toInt) ∨ ((d8 i).toInt = (a8 i).toInt ∧ d7 i = a7 i ∧ (a8 i).toInt ≤ Kr i - u - (a5 i).toInt))
    (hx : (y3 = x3 ∧ y4 = x4 ∧ x3.toInt ≤ (d8 i).toInt) ∨ (y3 = d8 i ∧ y4 = nI i ∧ (d8 i).toInt < x3.toInt)) : ad_I Kr u ac a5 a7 a8 a9 (i + 1) y3 y4 d7 d8 := by
  obtain ⟨h0, h1, h2, h3, h4⟩ := h
  refine ⟨by omega, fun c c1 c2 g => ?_, fun c hcc => ?_, fun c c1 c2 g => ?_, ?_⟩
  · by_cases e : c = i
    · rw [e]
      exact hi
    · rw [(hc c e).1, (hc c e).2]
      exact h1 c c1 (by omega) g
  · have e : c ≠ i := by
      intro e
      rcases hcc with z | z
      · omega
      · rw [e] at z
        exact z h9
    rw [(hc c e).1, (hc c e).2]
    rcases hcc with z | z
    · exact h2 c (Or.inl (by omega))
    · exact h2 c (Or.inr z)
  · by_cases e : c = i
    · rw [e]
      rcases hx with ⟨e3, _, g'⟩ | ⟨e3, _, _⟩
      · rw [e3]
        exact g'
      · rw [e3]
        omega
    · rw [(hc c e).2]
      have g' := h3 c c1 (by omega) g
      rcases hx with ⟨e3, _, _⟩ | ⟨e3, _, w⟩
      · rw [e3]
        exact g'
      · rw [e3]
        omega
  · rcases hx with ⟨e3, e4, _⟩ | ⟨e3, e4, _⟩
    · rw [e3, e4]
      rcases h4 with z | ⟨q, q1, q2, q3, q4, q5⟩
      · exact Or.inl z
      · exact Or.inr ⟨q, q1, by omega, q3, q4, by rw [(hc q (by omega)).2]; exact q5⟩
    · rw [e3, e4]
      exact Or.inr ⟨i, h0, by omega, h9, rfl, rfl⟩
theorem ht_a89 {post : Int32 → St2 → Prop} {J16 : Int32 → Int32 → Int32 → (Nat → Int32) → (Nat → Int32) → (Nat → Int32) → (Nat → Int32) → (Nat → Int32) → (Nat → Int32) → (Nat → Int32) → (Nat → Int32) → (Nat → Int32) → (Nat → Int32) → Prop} {x1 x2 x3 x4 : Int32} {fm fp fd fl fr fc fk ft : Int32} {a1 a2 a3 a4 a5 a6 a7 a8 a9 a10 : Nat → Int32} {i : Nat} (hi : i < 24)
    (P : x3 ≤ a8 i → J16 x3 x4 (nI (i + 1)) a1 a2 a3 a4 a5 a6 a7 a8 a9 a10) (Q : ¬ x3 ≤ a8 i → J16 (a8 i) (nI i) (nI (i + 1)) a1 a2 a3 a4 a5 a6 a7 a8 a9 a10) : wX_advance_89 post J16 x1 x2 x3 x4 (nI i) fm fp fd fl fr fc fk ft a1 a2 a3 a4 a5 a6 a7 a8 a9 a10 := by
  unfold wX_advance_89
  rw [nI_clamp (show i < 2 ^ 31 by omega)]
  exact ⟨pk_in i 24 hi, br_c (fun g => nm_r (nI_1 i) (P g)) (fun g => ⟨pk_in i 24 hi, nm_e (nm_r (nI_1 i) (Q g))⟩)⟩
theorem ht_a16 {post : Int32 → St2 → Prop} {fm fp fd fl fr fk ft : Int32} {a1 a2 a3 a4 a5 a6 a7 a8 a9 a10 : Nat → Int32} {n ac rw' : Nat} {Kr : Nat → Int} (hn : n < 24) (hac : ac < 24) (hrw : rw' < 6)
    (hb : ∀ c, 1 ≤ c → c ≤ n → 0 ≤ Kr c ∧ Kr c ≤ 100000 ∧ 0 ≤ (a4 rw').toInt ∧ (a4 rw').toInt ≤ 100000 ∧ -100000 ≤ (a5 c).toInt ∧ (a5 c).toInt ≤ 0)
    (hc : ∀ c, 1 ≤ c → c ≤ n → ∀ (ψ : Int32 → Prop) (b7 b8 : Nat → Int32), (∀ x : Int32, x.toInt = Kr c → ψ x) → wpX_costOf ψ (fm, fp, fd, fl, fr, nI n, fk, ft, a1, a2, a3, a4, a5, a6, b7, b8, a9, a10) (nI rw') (nI c))
    (H : ∀ (x3 x4 : Int32) (b7 b8 : Nat → Int32), ad_I Kr (a4 rw').toInt ac a5 a7 a8 a9 (n + 1) x3 x4 b7 b8 → ∃ f, wX_advance_121 post x3 x4 fm fp fd fl fr (nI n) fk ft f 0 a1 a2 a3 a4 a5 a6 b7 b8 a9 a10) :
    ∃ f, wX_advance_16 post (nI ac) (nI rw') fm fp fd fl fr (nI n) fk ft f 268435456 0 1 a1 a2 a3 a4 a5 a6 a7 a8 a9 a10 := by
  refine pk_loop (σ := Int32 × Int32 × (Nat → Int32) × (Nat → Int32)) (fun f i s => wX_advance_16 post (nI ac) (nI rw') fm fp fd fl fr (nI n) fk ft f s.1 s.2.1 (nI i) a1 a2 a3 a4 a5 a6 s.2.2.1 s.2.2.2 a9 a10) (fun i s => ad_I Kr (a4 rw').toInt ac a5 a7 a8 a9 i s.1 s.2.1 s.2.2.1 s.2.2.2) (n + 1) 1 (268435456, 0, a7, a8) (by omega) ad_0 ?_ ?_
  · intro f s h
    exact pk_lt n (n + 1) (fun _ => H _ _ _ _ h) (fun z => absurd z (by omega))
  · intro f i s hi h hw
    obtain ⟨x3, x4, b7, b8⟩ := s
    have h : ad_I Kr (a4 rw').toInt ac a5 a7 a8 a9 i x3 x4 b7 b8 := h
    have hw : ∀ (y3 y4 : Int32) (d7 d8 : Nat → Int32), ad_I Kr (a4 rw').toInt ac a5 a7 a8 a9 (i + 1) y3 y4 d7 d8 → wX_advance_16 post (nI ac) (nI rw') fm fp fd fl fr (nI n) fk ft f y3 y4 (nI (i + 1)) a1 a2 a3 a4 a5 a6 d7 d8 a9 a10 := fun y3 y4 d7 d8 g => hw (y3, y4, d7, d8) g
    show wX_advance_16 post (nI ac) (nI rw') fm fp fd fl fr (nI n) fk ft (f + 1) x3 x4 (nI i) a1 a2 a3 a4 a5 a6 b7 b8 a9 a10
    have i1 : 1 ≤ i := h.1
    have ib : b7 i = a7 i ∧ b8 i = a8 i := h.2.2.1 i (Or.inl (Nat.le_refl i))
    obtain ⟨g1, g2, g3, g4, g5, g6⟩ := hb i i1 (by omega)
    refine pk_lt n i (fun z => absurd z (by omega)) (fun _ => ⟨pk_in i 24 (by omega), ?_⟩)
    rw [nI_clamp (show i < 2 ^ 31 by omega), nI_clamp (show rw' < 2 ^ 31 by omega)]
    refine br_c (fun g => hc i i1 (by omega) _ b7 b8 (fun x ex => ⟨pk_in rw' 6 hrw, pk_in i 24 (by omega), fun x6 e6 => ⟨pk_in i 24 (by omega), ?_⟩⟩)) (fun g => nm_r (nI_1 i) (hw _ _ _ _ (ad_skip h g)))
    have v6 : x6.toInt = Kr i - (a4 rw').toInt - (a5 i).toInt := by
      have q1 : (x - a4 rw').toInt = x.toInt - (a4 rw').toInt := hb_sub (by omega) (by omega)
      rw [e6, hb_sub (by omega) (by omega), q1, ex]
    refine br_c (fun w => ht_a89 (by omega) (fun v => hw _ _ _ _ (ad_step h g (fun c _ => ⟨rfl, rfl⟩) (Or.inr ⟨by rw [ib.2], ib.1, ?_⟩) (Or.inl ⟨rfl, rfl, hb_le.mp v⟩))) (fun v => hw _ _ _ _ (ad_step h g (fun c _ => ⟨rfl, rfl⟩) (Or.inr ⟨by rw [ib.2], ib.1, ?_⟩) (Or.inr ⟨rfl, rfl, ?_⟩)))) (fun w => ⟨pk_in i 24 (by omega), fun d8 e8 => ⟨pk_in i 24 (by omega), fun d7 e7 => ?_⟩⟩)
    · have w := hb_le.mp w
      rw [ib.2] at w
      omega
    · have w := hb_le.mp w
      rw [ib.2] at w
      omega
    · have v : ¬ x3.toInt ≤ (b8 i).toInt := fun q => v (hb_le.mpr q)
      omega
    · have w : ¬ (b8 i).toInt ≤ x6.toInt := fun q => w (hb_le.mpr q)
      have d8i : d8 i = x6 := by rw [e8, pk_us]
      have d7i : d7 i = nI ac := by rw [e7, pk_us, hb_byte ac (by omega)]
      have dc : ∀ c, c ≠ i → d7 c = b7 c ∧ d8 c = b8 c := fun c hc => by rw [e7, e8, pk_un hc, pk_un hc]; exact ⟨rfl, rfl⟩
      have di : ((d8 i).toInt = Kr i - (a4 rw').toInt - (a5 i).toInt ∧ d7 i = nI ac ∧ (d8 i).toInt < (a8 i).toInt) := by
        rw [ib.2] at w
        rw [d8i]
        exact ⟨v6, d7i, by omega⟩
      refine ht_a89 (by omega) (fun v => hw _ _ _ _ (ad_step h g dc (Or.inl di) (Or.inl ⟨rfl, rfl, hb_le.mp v⟩))) (fun v => hw _ _ _ _ (ad_step h g dc (Or.inl di) (Or.inr ⟨rfl, rfl, ?_⟩)))
      have v : ¬ x3.toInt ≤ (d8 i).toInt := fun q => v (hb_le.mpr q)
      omega
/-- before column i of the second loop -/
def ad_U (x : Int32) (p : Nat → Nat) (a4 a5 a8 a9 : Nat → Int32) (i : Nat) (b4 b5 b8 : Nat → Int32) : Prop :=
  (∀ c, c < i → ¬ a9 c = 0 → b4 (p c) = a4 (p c) + x) ∧
  (∀ r, (∀ c, c < i → ¬ a9 c = 0 → p c ≠ r) → b4 r = a4 r) ∧
  (∀ c, c < i → ¬ a9 c = 0 → b5 c = a5 c - x) ∧ (∀ c, (i ≤ c ∨ a9 c = 0) → b5 c = a5 c) ∧
  (∀ c, c < i → a9 c = 0 → b8 c = a8 c - x) ∧ (∀ c, (i ≤ c ∨ ¬ a9 c = 0) → b8 c = a8 c)
theorem ad_U0 {x : Int32} {p : Nat → Nat} {a4 a5 a8 a9 : Nat → Int32} : ad_U x p a4 a5 a8 a9 0 a4 a5 a8 :=
  ⟨fun c h => absurd h (by omega), fun r _ => rfl, fun c h => absurd h (by omega), fun c _ => rfl, fun c h => absurd h (by omega), fun c _ => rfl⟩
theorem ad_Us {x : Int32} {p : Nat → Nat} {a4 a5 a8 a9 b4 b5 b8 d8 : Nat → Int32} {i : Nat} (h : ad_U x p a4 a5 a8 a9 i b4 b5 b8) (h9 : a9 i = 0) (e8 : d8 = upd b8 i (b8 i - x)) : ad_U x p a4 a5 a8 a9 (i + 1) b4 b5 d8 := by
  obtain ⟨h1, h2, h3, h4, h5, h6⟩ := h
  have ne : ∀ c, c < i + 1 → ¬ a9 c = 0 → c < i := by
    intro c hc g
    rcases Nat.lt_or_ge c i with z | z
    · exact z
    · have : c = i := by omega
      rw [this] at g
      exact absurd h9 g
  refine ⟨fun c hc g => h1 c (ne c hc g) g, fun r hr => h2 r (fun c hc g => hr c (by omega) g), fun c hc g => h3 c (ne c hc g) g, fun c hc => ?_, fun c hc g => ?_, fun c hc => ?_⟩
  · rcases hc with z | z
    · exact h4 c (Or.inl (by omega))
    · exact h4 c (Or.inr z)
  · by_cases e : c = i
    · rw [e8, e, pk_us, h6 i (Or.inl (Nat.le_refl i))]
    · rw [e8, pk_un e]
      exact h5 c (by omega) g
  · have e : c ≠ i := by
      intro e
      rcases hc with z | z
      · omega
      · rw [e] at z
        exact z h9
    rw [e8, pk_un e]
    rcases hc with z | z
    · exact h6 c (Or.inl (by omega))
    · exact h6 c (Or.inr z)
theorem ad_Ur {x : Int32} {p : Nat → Nat} {a4 a5 a8 a9 b4 b5 b8 d4 d5 : Nat → Int32} {i : Nat} (h : ad_U x p a4 a5 a8 a9 i b4 b5 b8) (h9 : ¬ a9 i = 0) (hp : ∀ c, c < i → ¬ a9 c = 0 → p c ≠ p i) (e4 : d4 = upd b4 (p i) (b4 (p i) + x)) (e5 : d5 = upd b5 i (b5 i - x)) : ad_U x p a4 a5 a8 a9 (i + 1) d4 d5 b8 := by
  obtain ⟨h1, h2, h3, h4, h5, h6⟩ := h
  have ne : ∀ c, c < i + 1 → a9 c = 0 → c < i := by
    intro c hc g
    rcases Nat.lt_or_ge c i with z | z
    · exact z
    · have : c = i := by omega
      rw [this] at g
      exact absurd g h9
  refine ⟨fun c hc g => ?_, fun r hr => ?_, fun c hc g => ?_, fun c hc => ?_, fun c hc g => h5 c (ne c hc g) g, fun c hc => ?_⟩
  · by_cases e : c = i
    · rw [e4, e, pk_us, h2 (p i) hp]
    · rw [e4, pk_un (hp c (by omega) g)]
      exact h1 c (by omega) g
  · have e : r ≠ p i := fun e => hr i (by omega) h9 e.symm
    rw [e4, pk_un e]
    exact h2 r (fun c hc g => hr c (by omega) g)
  · by_cases e : c = i
    · rw [e5, e, pk_us, h4 i (Or.inl (Nat.le_refl i))]
    · rw [e5, pk_un e]
      exact h3 c (by omega) g
  · have e : c ≠ i := by
      intro e
      rcases hc with z | z
      · omega
      · rw [e] at z
        exact h9 z
    rw [e5, pk_un e]
    rcases hc with z | z
    · exact h4 c (Or.inl (by omega))
    · exact h4 c (Or.inr z)
  · rcases hc with z | z
    · exact h6 c (Or.inl (by omega))
    · exact h6 c (Or.inr z)
theorem ht_a121 {post : Int32 → St2 → Prop} {x3 x4 : Int32} {fm fp fd fl fr fk ft : Int32} {a1 a2 a3 a4 a5 a6 a7 a8 a9 a10 : Nat → Int32} {n : Nat} {p : Nat → Nat} (hn : n < 24) (h6 : ∀ c, c ≤ n → a6 c = nI (p c) ∧ p c < 6)
    (hp : ∀ c d, c ≤ n → d ≤ n → ¬ a9 c = 0 → ¬ a9 d = 0 → p c = p d → c = d)
    (H : ∀ b4 b5 b8 : Nat → Int32, ad_U x3 p a4 a5 a8 a9 (n + 1) b4 b5 b8 → post x4 (fm, fp, fd, fl, fr, nI n, fk, ft, a1, a2, a3, b4, b5, a6, a7, b8, a9, a10)) :
    ∃ f, wX_advance_121 post x3 x4 fm fp fd fl fr (nI n) fk ft f 0 a1 a2 a3 a4 a5 a6 a7 a8 a9 a10 := by
  refine pk_loop (σ := (Nat → Int32) × (Nat → Int32) × (Nat → Int32)) (fun f i s => wX_advance_121 post x3 x4 fm fp fd fl fr (nI n) fk ft f (nI i) a1 a2 a3 s.1 s.2.1 a6 a7 s.2.2 a9 a10) (fun i s => ad_U x3 p a4 a5 a8 a9 i s.1 s.2.1 s.2.2) (n + 1) 0 (a4, a5, a8) (by omega) ad_U0 ?_ ?_
  · intro f s h
    exact pk_lt n (n + 1) (fun _ => H _ _ _ h) (fun z => absurd z (by omega))
  · intro f i s hi h hw
    obtain ⟨b4, b5, b8⟩ := s
    have h : ad_U x3 p a4 a5 a8 a9 i b4 b5 b8 := h
    have hw : ∀ d4 d5 d8 : Nat → Int32, ad_U x3 p a4 a5 a8 a9 (i + 1) d4 d5 d8 → wX_advance_121 post x3 x4 fm fp fd fl fr (nI n) fk ft f (nI (i + 1)) a1 a2 a3 d4 d5 a6 a7 d8 a9 a10 := fun d4 d5 d8 g => hw (d4, d5, d8) g
    show wX_advance_121 post x3 x4 fm fp fd fl fr (nI n) fk ft (f + 1) (nI i) a1 a2 a3 b4 b5 a6 a7 b8 a9 a10
    obtain ⟨p1, p2⟩ := h6 i (by omega)
    refine pk_lt n i (fun z => absurd z (by omega)) (fun _ => ⟨pk_in i 24 (by omega), ?_⟩)
    rw [nI_clamp (show i < 2 ^ 31 by omega), p1, nI_clamp (show p i < 2 ^ 31 by omega)]
    refine br_c (fun g => ⟨pk_in i 24 (by omega), pk_in i 24 (by omega), fun d8 e8 => nm_r (nI_1 i) (hw _ _ _ (ad_Us h g e8))⟩) (fun g => ⟨pk_in i 24 (by omega), pk_in (p i) 6 p2, pk_in (p i) 6 p2, fun d4 e4 => ⟨pk_in i 24 (by omega), pk_in i 24 (by omega), fun d5 e5 => nm_r (nI_1 i) (hw _ _ _ (ad_Ur h g (fun c hc g' e => ?_) e4 e5))⟩⟩)
    have := hp c i (by omega) (by omega) g' g e
    omega
end
section
/-! advance, then insert -/
/-- costOf answers with K, whatever the arrays behind the third hold -/
def ht_C (fm fp fd fl fr fc fk ft : Int32) (a1 a2 a3 : Nat → Int32) (n R : Nat) (K : Nat → Nat → Int) : Prop :=
  ∀ (ψ : Int32 → Prop) (r c : Nat) (a4 a5 a6 a7 a8 a9 a10 : Nat → Int32), 1 ≤ r → r ≤ R → 1 ≤ c → c ≤ n → (∀ x : Int32, x.toInt = K r c → ψ x) → wpX_costOf ψ (fm, fp, fd, fl, fr, fc, fk, ft, a1, a2, a3, a4, a5, a6, a7, a8, a9, a10) (nI r) (nI c)
theorem ht_advance {post : Int32 → St2 → Prop} {fm fp fd fl fr fk ft : Int32} {a1 a2 a3 a4 a5 a6 a7 a8 a9 a10 : Nat → Int32} {n k R t : Nat} {K : Nat → Nat → Int} {p J par : Nat → Nat} (hn : 5 ≤ n) (hn' : n < 24) (hk : k ≤ 3) (hkR : k ≤ R) (hR : R ≤ 3) (hC : hu_C n R K) (hc : ht_C fm fp fd fl fr (nI n) fk ft a1 a2 a3 n R K)
    (h6 : ∀ c, c ≤ n → a6 c = nI (p c)) (hF : hu_F n R K a4 a5) (hV : hu_V n a5 p) (hG : hu_G R a4) (hP : hu_P n k p (n + 1)) (hE : hu_E n K a4 a5 p (n + 1)) (hT : hu_T n K a4 a5 a7 p t J par) (hS : hu_S n K a4 a5 a7 a8 p t J) (hp : p (J t) ≠ 0)
    (h9 : ∀ c, c ≤ n → (a9 c = 0 ↔ ∀ i, i ≤ t → J i ≠ c))
    (H : ∀ (q : Nat) (b4 b5 b7 b8 : Nat → Int32) (J' par' : Nat → Nat), hu_F n R K b4 b5 → hu_V n b5 p → hu_G R b4 → hu_E n K b4 b5 p (n + 1) → hu_T n K b4 b5 b7 p (t + 1) J' par' → hu_S n K b4 b5 b7 b8 p (t + 1) J' → J' (t + 1) = q → (∀ i, i ≤ t → J' i = J i) → post (nI q) (fm, fp, fd, fl, fr, nI n, fk, ft, a1, a2, a3, b4, b5, a6, b7, b8, a9, a10)) :
    wpX_advance post (fm, fp, fd, fl, fr, nI n, fk, ft, a1, a2, a3, a4, a5, a6, a7, a8, a9, a10) (nI (J t)) := by
  have hrow := hu_row hkR hP hT hp
  have h0 : p 0 ≠ 0 := by
    have := (hrow 0 (by omega)).2.1
    rw [hT.1] at this
    exact this
  obtain ⟨A, B⟩ := hu_bd (by omega) hk hkR hC hF hV hP hE h0
  obtain ⟨jt, _, q1, q2, _⟩ := hrow t (Nat.le_refl t)
  have inT : ∀ c, c ≤ n → ¬ a9 c = 0 → ∃ i, i ≤ t ∧ J i = c := by
    intro c hc g
    rw [h9 c hc] at g
    by_cases e : ∃ i, i ≤ t ∧ J i = c
    · exact e
    · exact absurd (fun i hi ei => e ⟨i, hi, ei⟩) g
  have outT : ∀ i, i ≤ t → ¬ a9 (J i) = 0 := by
    intro i hi g
    exact ((h9 _ (hrow i hi).1).mp g) i hi rfl
  unfold wpX_advance
  refine ⟨pk_in (J t) 24 (by omega), fun x2 e2 => ?_⟩
  rw [nI_clamp (by omega), h6 _ jt] at e2
  subst e2
  refine ht_a16 (Kr := fun c => K (p (J t)) c) hn' (by omega) (by omega) (fun c c1 c2 => ?_) (fun c c1 c2 ψ b7 b8 hψ => hc ψ _ c _ _ _ _ _ _ _ q1 q2 c1 c2 hψ) (fun x3 x4 b7 b8 hI => ?_)
  · have g1 := hC _ c q1 q2 c1 c2
    have g2 := hG _ q1 q2
    have g3 := A _ q1 q2
    have g4 := B c c1 c2
    exact ⟨g1.1, g1.2, g2, g3, g4.1, g4.2⟩
  · obtain ⟨_, I1, I2, I3, I4⟩ := hI
    have hN : hu_N n K a4 a5 a7 a8 b7 b8 p t J := fun c c1 c2 c3 => I1 c c1 (by omega) ((h9 c c2).mpr c3)
    have sb := hu_sb (by omega) hk hkR hC hF hV hG hP hE hT hS hp hN
    obtain ⟨f, f1, f2, f3⟩ := hu_free (by omega) hk hP h0
    have fo : ∀ i, i ≤ t → J i ≠ f := by
      intro i hi e
      have := (hrow i hi).2.1
      rw [e] at this
      exact this f3
    have fb := sb f f1 f2 fo
    have fx := I3 f f1 (by omega) ((h9 f f2).mpr fo)
    rcases I4 with ⟨e, _⟩ | ⟨q, u1, u2, u3, u4, u5⟩
    · omega
    have uo := (h9 q (by omega)).mp u3
    have qb := sb q u1 (by omega) uo
    refine ht_a121 hn' (fun c hc => ⟨h6 c hc, by have := hP.1 c hc; omega⟩) (fun c d hc hd g1 g2 e => ?_) (fun b4 b5 d8 hU => ?_)
    · obtain ⟨i, i1, i2⟩ := inT c hc g1
      have hz := (hrow i i1).2.1
      rw [i2] at hz
      exact hP.2.1 c d hc hd (by omega) (by omega) hz e
    · obtain ⟨U1, U2, U3, U4, U5, U6⟩ := hU
      rw [u4]
      obtain ⟨J', par', w1, w2, w3, w4, w5, w6, w7, w8⟩ := hu_adv (b4 := b4) (b5 := b5) (b8 := d8) (x := x3.toInt) (q := q) hkR hF hV hG hP hE hT hS hp hN sb
        (fun i i1 i2 => (I2 _ (Or.inr (outT i i2))).1)
        (fun c c1 c2 c3 => I3 c c1 (by omega) ((h9 c c2).mpr c3)) (by omega) u1 (by omega) uo u5
        (fun i hi => by
          obtain ⟨j1, _, j2, j3, _⟩ := hrow i hi
          have g2 := hG _ j2 j3
          have g3 := A _ j2 j3
          rw [U1 (J i) (by omega) (outT i hi), hb_add (by omega) (by omega)])
        (fun r r1 r2 hr => U2 r (fun c hc g e => by
          obtain ⟨i, i1, i2⟩ := inT c (by omega) g
          exact hr i i1 (by rw [i2, e])))
        (fun i i1 i2 => by
          obtain ⟨j1, _, _, _, j4⟩ := hrow i i2
          have g4 := B (J i) (j4 i1) j1
          rw [U3 (J i) (by omega) (outT i i2), hb_sub (by omega) (by omega)])
        (fun c c1 c2 c3 => U4 c (Or.inr ((h9 c c2).mpr c3)))
        (fun c c1 c2 c3 => by
          have g := sb c c1 c2 c3
          rw [U5 c (by omega) ((h9 c c2).mpr c3), hb_sub (by omega) (by omega)])
      exact H q b4 b5 b7 d8 J' par' w1 w2 w3 w4 w5 w6 w7 w8
/-- the walk back along the chain -/
theorem ht_i89 {post : St2 → Prop} {fm fp fd fl fr fc fk ft : Int32} {a1 a2 a3 a4 a5 a7 a8 a9 a10 : Nat → Int32} {n k t : Nat} {K : Nat → Nat → Int} {p J par : Nat → Nat} (hn : n < 24) (hk : k ≤ 3) (hT : hu_T n K a4 a5 a7 p t J par) (ht : t ≤ 3)
    (H : ∀ (b6 : Nat → Int32) (pp : Nat → Nat), hu_V n a5 pp → hu_P n k pp 0 → hu_E n K a4 a5 pp 0 → (∀ c, c ≤ n → b6 c = nI (pp c)) → post (fm, fp, fd, fl, fr, fc, fk, ft, a1, a2, a3, a4, a5, b6, a7, a8, a9, a10)) :
    ∀ i, i ≤ t → ∀ (rd : Nat) (b6 : Nat → Int32) (pp : Nat → Nat), rd + i ≤ t → (∀ c, c ≤ n → b6 c = nI (pp c)) → hu_P n k pp (J i) → hu_E n K a4 a5 pp (J i) → hu_V n a5 pp → (∀ j, j < i → pp (J j) = p (J j)) →
      ∃ f, wX_insert_89 post fm fp fd fl fr fc fk ft f (nI (J i)) (nI rd) a1 a2 a3 a4 a5 b6 a7 a8 a9 a10 := by
  obtain ⟨T0, T1, T2, T3, T4⟩ := hT
  have jn : ∀ i, i ≤ t → J i ≤ n := by
    intro i hi
    rcases Nat.eq_zero_or_pos i with z | z
    · rw [z, T0]
      omega
    · exact (T1 i z hi).2
  intro i
  induction i using Nat.strongRecOn with
  | ind i ih =>
    intro hi rd b6 pp hrd h6 hP hE hV hj
    rcases Nat.eq_zero_or_pos i with z | z
    · subst z
      rw [T0] at hP hE
      rw [T0]
      exact ⟨1, pk_lt 5 rd (fun z => absurd z (by omega)) (fun _ => pk_eq 0 0 (fun _ => H b6 pp hV hP hE h6) (fun z => absurd rfl z))⟩
    · obtain ⟨u1, u2, u3⟩ := T4 i z hi
      have ji := T1 i z hi
      have jp := jn (par i) (by omega)
      have jne : J (par i) ≠ J i := T2 (par i) i u1 hi
      have epp : pp (J (par i)) = p (J (par i)) := hj (par i) u1
      have zpp : pp (J (par i)) ≠ 0 := by rw [epp]; exact T3 (par i) (by omega)
      have e1 : (fun c => if c = J i then pp (J (par i)) else pp c) (J i) = pp (J (par i)) := by simp
      have e2 : ∀ c, c ≠ J i → (fun c => if c = J i then pp (J (par i)) else pp c) c = pp c := fun c hc => by simp [hc]
      generalize (fun c => if c = J i then pp (J (par i)) else pp c) = pq at e1 e2
      obtain ⟨w1, w2, w3⟩ := hu_aug hP hE hV ji.2 jp jne zpp (by rw [epp]; exact u3) e1 e2
      have hb : pp (J (par i)) < 128 := by
        have := hP.1 _ jp
        omega
      have q6 : ∀ c, c ≤ n → upd b6 (J i) (nI (pp (J (par i)))) c = nI (pq c) := by
        intro c hc
        by_cases e : c = J i
        · rw [e, pk_us, e1]
        · rw [pk_un e, e2 c e]
          exact h6 c hc
      obtain ⟨f, hf⟩ := ih (par i) u1 (by omega) (rd + 1) _ pq (by omega) q6 w1 w2 w3 (fun j hjp => by
        rw [e2 _ (fun e => absurd e (T2 j i (by omega) hi))]
        exact hj j (by omega))
      refine ⟨f + 1, pk_lt 5 rd (fun z => absurd z (by omega)) (fun _ => pk_eq (J i) 0 (fun z => absurd z (by omega)) (fun _ => ⟨pk_in (J i) 24 (by omega), fun x4 e4 => ?_⟩))⟩
      rw [nI_clamp (by omega), u2] at e4
      subst e4
      refine ⟨pk_in (J (par i)) 24 (by omega), pk_in (J i) 24 (by omega), fun d6 e6 => nm_r (nI_1 rd) ?_⟩
      rw [nI_clamp (by omega), nI_clamp (by omega), h6 _ jp, vp_nar_byte, hb_byte _ hb] at e6
      subst e6
      exact hf
/-- the rounds of the search; m: how many are left at most -/
theorem ht_i50 {post : St2 → Prop} {fm fp fd fl fr fk ft : Int32} {a1 a2 a3 a6 a10 : Nat → Int32} {n k R : Nat} {K : Nat → Nat → Int} {p : Nat → Nat} (hn : 5 ≤ n) (hn' : n < 24) (hk : k ≤ 3) (hkR : k ≤ R) (hR : R ≤ 3) (hC : hu_C n R K) (hc : ht_C fm fp fd fl fr (nI n) fk ft a1 a2 a3 n R K)
    (h6 : ∀ c, c ≤ n → a6 c = nI (p c)) (hP : hu_P n k p (n + 1)) (h0 : p 0 ≠ 0)
    (H : ∀ (b4 b5 b6 b7 b8 b9 : Nat → Int32) (pp : Nat → Nat), hu_F n R K b4 b5 → hu_V n b5 pp → hu_G R b4 → hu_P n k pp 0 → hu_E n K b4 b5 pp 0 → (∀ c, c ≤ n → b6 c = nI (pp c)) → post (fm, fp, fd, fl, fr, nI n, fk, ft, a1, a2, a3, b4, b5, b6, b7, b8, b9, a10)) :
    ∀ (m t f : Nat), m + t = 3 → m < f → ∀ (a4 a5 a7 a8 a9 : Nat → Int32) (J par : Nat → Nat), hu_F n R K a4 a5 → hu_V n a5 p → hu_G R a4 → hu_E n K a4 a5 p (n + 1) → hu_T n K a4 a5 a7 p t J par → hu_S n K a4 a5 a7 a8 p t J →
      (∀ c, c ≤ n → (a9 c = 0 ↔ ∀ i, i < t → J i ≠ c)) → wX_insert_50 post f (nI (J t)) (nI t) fm fp fd fl fr (nI n) fk ft a1 a2 a3 a4 a5 a6 a7 a8 a9 a10 := by
  intro m
  induction m with
  | zero =>
    intro t f hm hf a4 a5 a7 a8 a9 J par hF hV hG hE hT hS h9
    obtain ⟨f, rfl⟩ : ∃ f', f = f' + 1 := ⟨f - 1, by omega⟩
    have jn := hT.2.1 t (by omega) (by omega)
    refine pk_lt 5 t (fun z => absurd z (by omega)) (fun _ => pk_eq t 0 (fun z => absurd z (by omega)) (fun _ => ⟨pk_in (J t) 24 (by omega), ?_⟩))
    rw [nI_clamp (show J t < 2 ^ 31 by omega), h6 _ jn.2]
    have pr := hP.1 _ jn.2
    refine pk_eq (p (J t)) 0 (fun z => ?_) (fun z => ?_)
    · obtain ⟨w1, w2⟩ := hu_hole hP hE z
      exact ht_i89 hn' hk hT (by omega) (fun b6 pp g1 g2 g3 g4 => H _ _ _ _ _ _ pp hF g1 hG g2 g3 g4) t (Nat.le_refl t) 0 a6 p (by omega) h6 w1 w2 hV (fun j _ => rfl)
    · have := hu_t hk hP hT z (by omega)
      omega
  | succ m ih =>
    intro t f hm hf a4 a5 a7 a8 a9 J par hF hV hG hE hT hS h9
    obtain ⟨f, rfl⟩ : ∃ f', f = f' + 1 := ⟨f - 1, by omega⟩
    have jn : J t ≤ n := by
      rcases Nat.eq_zero_or_pos t with z | z
      · rw [z, hT.1]
        omega
      · exact (hT.2.1 t z (Nat.le_refl t)).2
    have step : p (J t) ≠ 0 → wX_insert_68 post (wX_insert_50 post f) (nI (J t)) (nI t) fm fp fd fl fr (nI n) fk ft a1 a2 a3 a4 a5 a6 a7 a8 a9 a10 := by
      intro hp
      unfold wX_insert_68
      refine ⟨pk_in (J t) 24 (by omega), fun b9 e9 => ?_⟩
      rw [nI_clamp (show J t < 2 ^ 31 by omega)] at e9
      have q9 : ∀ c, c ≤ n → (b9 c = 0 ↔ ∀ i, i ≤ t → J i ≠ c) := by
        intro c hc
        by_cases e : c = J t
        · rw [e9, e, pk_us]
          exact ⟨fun g => absurd g (by decide), fun g => absurd rfl (g t (Nat.le_refl t))⟩
        · rw [e9, pk_un e, h9 c hc]
          constructor
          · intro g i hi
            rcases Nat.lt_or_ge i t with z | z
            · exact g i z
            · have : i = t := by omega
              rw [this]
              exact fun w => e w.symm
          · intro g i hi
            exact g i (by omega)
      refine ht_advance hn hn' hk hkR hR hC hc h6 hF hV hG hP hE hT hS hp q9 (fun q b4 b5 b7 b8 J' par' w1 w2 w3 w4 w5 w6 w7 w8 => ?_)
      refine nm_r (nI_1 t) ?_
      rw [← w7]
      refine ih (t + 1) f (by omega) (by omega) b4 b5 b7 b8 b9 J' par' w1 w2 w3 w4 w5 w6 (fun c hc => ?_)
      rw [q9 c hc]
      constructor
      · intro g i hi
        rw [w8 i (by omega)]
        exact g i (by omega)
      · intro g i hi
        have := g i (by omega)
        rw [w8 i hi] at this
        exact this
    refine pk_lt 5 t (fun z => absurd z (by omega)) (fun _ => pk_eq t 0 (fun z => step ?_) (fun z => ⟨pk_in (J t) 24 (by omega), ?_⟩))
    · rw [z, hT.1]
      exact h0
    · rw [nI_clamp (show J t < 2 ^ 31 by omega), h6 _ jn]
      have pr := hP.1 _ jn
      refine pk_eq (p (J t)) 0 (fun z => ?_) (fun z => step z)
      obtain ⟨w1, w2⟩ := hu_hole hP hE z
      exact ht_i89 hn' hk hT (by omega) (fun b6 pp g1 g2 g3 g4 => H _ _ _ _ _ _ pp hF g1 hG g2 g3 g4) t (Nat.le_refl t) 0 a6 p (by omega) h6 w1 w2 hV (fun j _ => rfl)
theorem ht_i10 {post : St2 → Prop} {fm fp fd fl fr fk ft : Int32} {a1 a2 a3 a4 a5 a6 a7 a8 a9 a10 : Nat → Int32} {n : Nat} (hn' : n < 24)
    (H : ∀ b7 b8 b9 : Nat → Int32, (∀ c, c ≤ n → b8 c = 268435456 ∧ b9 c = 0) → ∃ f, wX_insert_50 post f 0 0 fm fp fd fl fr (nI n) fk ft a1 a2 a3 a4 a5 a6 b7 b8 b9 a10) :
    ∃ f, wX_insert_10 post fm fp fd fl fr (nI n) fk ft f 0 a1 a2 a3 a4 a5 a6 a7 a8 a9 a10 := by
  refine pk_loop (σ := (Nat → Int32) × (Nat → Int32) × (Nat → Int32)) (fun f i s => wX_insert_10 post fm fp fd fl fr (nI n) fk ft f (nI i) a1 a2 a3 a4 a5 a6 s.1 s.2.1 s.2.2 a10) (fun i s => ∀ c, c < i → s.2.1 c = 268435456 ∧ s.2.2 c = 0) (n + 1) 0 (a7, a8, a9) (by omega) (fun c h => absurd h (by omega)) ?_ ?_
  · intro f s h
    exact pk_lt n (n + 1) (fun _ => H _ _ _ (fun c hc => h c (by omega))) (fun z => absurd z (by omega))
  · intro f i s hi h hw
    obtain ⟨b7, b8, b9⟩ := s
    have h : ∀ c, c < i → b8 c = 268435456 ∧ b9 c = 0 := h
    have hw : ∀ d7 d8 d9 : Nat → Int32, (∀ c, c < i + 1 → d8 c = 268435456 ∧ d9 c = 0) → wX_insert_10 post fm fp fd fl fr (nI n) fk ft f (nI (i + 1)) a1 a2 a3 a4 a5 a6 d7 d8 d9 a10 := fun d7 d8 d9 g => hw (d7, d8, d9) g
    show wX_insert_10 post fm fp fd fl fr (nI n) fk ft (f + 1) (nI i) a1 a2 a3 a4 a5 a6 b7 b8 b9 a10
    refine pk_lt n i (fun z => absurd z (by omega)) (fun _ => ⟨pk_in i 24 (by omega), fun d8 e8 => ⟨pk_in i 24 (by omega), fun d9 e9 => ⟨pk_in i 24 (by omega), fun d7 e7 => nm_r (nI_1 i) (hw _ _ _ (fun c hc => ?_))⟩⟩⟩)
    rw [nI_clamp (show i < 2 ^ 31 by omega)] at e8 e9
    by_cases e : c = i
    · rw [e8, e9, e, pk_us, pk_us]
      exact ⟨rfl, rfl⟩
    · rw [e8, e9, pk_un e, pk_un e]
      exact h c (by omega)
theorem ht_insert {post : St2 → Prop} {fm fp fd fl fr fk ft : Int32} {a1 a2 a3 a4 a5 a6 a7 a8 a9 a10 : Nat → Int32} {n k R : Nat} {K : Nat → Nat → Int} {p : Nat → Nat} (hn : 5 ≤ n) (hn' : n < 24) (hkR : k + 1 ≤ R) (hR : R ≤ 3) (hC : hu_C n R K) (hc : ht_C fm fp fd fl fr (nI n) fk ft a1 a2 a3 n R K)
    (h6 : ∀ c, c ≤ n → a6 c = nI (p c)) (hF : hu_F n R K a4 a5) (hV : hu_V n a5 p) (hG : hu_G R a4) (hP : hu_P n k p 0) (hE : hu_E n K a4 a5 p 0)
    (H : ∀ (b4 b5 b6 b7 b8 b9 : Nat → Int32) (pp : Nat → Nat), hu_F n R K b4 b5 → hu_V n b5 pp → hu_G R b4 → hu_P n (k + 1) pp 0 → hu_E n K b4 b5 pp 0 → (∀ c, c ≤ n → b6 c = nI (pp c)) → post (fm, fp, fd, fl, fr, nI n, fk, ft, a1, a2, a3, b4, b5, b6, b7, b8, b9, a10)) :
    wpX_insert post (fm, fp, fd, fl, fr, nI n, fk, ft, a1, a2, a3, a4, a5, a6, a7, a8, a9, a10) (nI (k + 1)) := by
  unfold wpX_insert
  refine fun b6 e6 => ht_i10 hn' (fun b7 b8 b9 hb => ⟨4, ?_⟩)
  rw [hb_byte (k + 1) (by omega)] at e6
  have e1 : (fun c => if c = 0 then k + 1 else p c) 0 = k + 1 := by simp
  have e2 : ∀ c, c ≠ 0 → (fun c => if c = 0 then k + 1 else p c) c = p c := fun c hc => by simp [hc]
  generalize (fun c => if c = 0 then k + 1 else p c) = pq at e1 e2
  obtain ⟨w1, w2, w3⟩ := hu_new hP hE hV e1 e2
  have q6 : ∀ c, c ≤ n → b6 c = nI (pq c) := by
    intro c hc
    by_cases e : c = 0
    · rw [e6, e, pk_us, e1]
    · rw [e6, pk_un e, e2 c e]
      exact h6 c hc
  exact ht_i50 hn hn' (by omega) hkR hR hC hc q6 w1 (by rw [e1]; omega) H 3 0 4 (by omega) (by omega) a4 a5 b7 b8 b9 (fun _ => 0) (fun _ => 0) hF w3 hG w2
    ⟨rfl, fun i i1 i2 => absurd i2 (by omega), fun i j i1 i2 => absurd i2 (by omega), fun i i1 => absurd i1 (by omega), fun i i1 i2 => absurd i2 (by omega)⟩
    (fun c c1 c2 _ => Or.inl ⟨rfl, by rw [(hb c c2).1]; exact hb_28⟩)
    (fun c hc => ⟨fun _ i hi => absurd hi (by omega), fun _ => (hb c hc).2⟩)
end
section
/-! match: the loops behind the list of rows -/
theorem ht_m151 {post : Int32 → St2 → Prop} {fm fp fd fl fr fk ft : Int32} {a1 a2 a3 a4 a5 a6 a7 a8 a9 a10 : Nat → Int32} {n R : Nat} {K : Nat → Nat → Int} {p : Nat → Nat} (hn' : n < 24) (hR : R ≤ 3) (hC : hu_C n R K) (hc : ht_C fm fp fd fl fr (nI n) fk ft a1 a2 a3 n R K)
    (h6 : ∀ c, c ≤ n → a6 c = nI (p c)) (hp : ∀ c, c ≤ n → p c ≤ R) (H : ∀ s : Int32, s.toInt = hu_sum K p n → post s (fm, fp, fd, fl, fr, nI n, fk, ft, a1, a2, a3, a4, a5, a6, a7, a8, a9, a10)) :
    ∃ f, wX_match_151 post fm fp fd fl fr (nI n) fk ft a1 a2 a3 a4 a5 a6 a7 a8 a9 a10 f 0 1 := by
  refine pk_loop (σ := Int32) (fun f i s => wX_match_151 post fm fp fd fl fr (nI n) fk ft a1 a2 a3 a4 a5 a6 a7 a8 a9 a10 f s (nI (i + 1))) (fun i s => s.toInt = hu_sum K p i ∧ 0 ≤ s.toInt ∧ s.toInt ≤ 100000 * (i : Int)) n 0 0 (by omega) ⟨hb_0, by rw [hb_0]; omega, by rw [hb_0]; omega⟩ ?_ ?_
  · intro f s h
    exact pk_lt n (n + 1) (fun _ => H s h.1) (fun z => absurd z (by omega))
  · intro f i s hi h hw
    obtain ⟨s1, s2, s3⟩ := h
    have q := h6 (i + 1) (by omega)
    have q' := hp (i + 1) (by omega)
    refine pk_lt n (i + 1) (fun z => absurd z (by omega)) (fun _ => ⟨pk_in (i + 1) 24 (by omega), ?_⟩)
    rw [nI_clamp (show i + 1 < 2 ^ 31 by omega), q]
    refine pk_le (p (i + 1)) 0 (fun z => nm_r (nI_1 (i + 1)) (hw s ⟨?_, s2, by omega⟩)) (fun z => ⟨pk_in (i + 1) 24 (by omega), hc _ (p (i + 1)) (i + 1) _ _ _ _ _ _ _ (by omega) q' (by omega) (by omega) (fun x ex => nm_e (nm_r (nI_1 (i + 1)) (hw (s + x) ?_)))⟩)
    · show s.toInt = hu_sum K p i + (if p (i + 1) = 0 then 0 else K (p (i + 1)) (i + 1))
      rw [if_pos (by omega), s1]
      omega
    · have g := hC (p (i + 1)) (i + 1) (by omega) q' (by omega) (by omega)
      have e : (s + x).toInt = s.toInt + x.toInt := hb_add (by omega) (by omega)
      refine ⟨?_, by omega, by omega⟩
      show (s + x).toInt = hu_sum K p i + (if p (i + 1) = 0 then 0 else K (p (i + 1)) (i + 1))
      rw [if_neg (by omega), e, s1, ex]
theorem ht_m128 {post : Int32 → St2 → Prop} {fm fp fd fl fk ft : Int32} {a1 a2 a3 a4 a5 a6 a7 a8 a9 a10 : Nat → Int32} {n R : Nat} {K : Nat → Nat → Int} (hn : 5 ≤ n) (hn' : n < 24) (hR : R ≤ 3) (hC : hu_C n R K) (hc : ht_C fm fp fd fl (nI R) (nI n) fk ft a1 a2 a3 n R K)
    (h4 : ∀ r, r ≤ R → a4 r = 0) (h5 : ∀ c, c ≤ n → a5 c = 0) (h6 : ∀ c, c ≤ n → a6 c = 0)
    (H : ∀ (s : Int32) (b4 b5 b6 b7 b8 b9 : Nat → Int32), (R = 3 → hu_Min3 n K s.toInt) → (R = 2 → hu_Min2 n K s.toInt) → post s (fm, fp, fd, fl, nI R, nI n, fk, ft, a1, a2, a3, b4, b5, b6, b7, b8, b9, a10)) :
    ∃ f, wX_match_128 post f 1 fm fp fd fl (nI R) (nI n) fk ft a1 a2 a3 a4 a5 a6 a7 a8 a9 a10 := by
  refine pk_loop (σ := (Nat → Int32) × (Nat → Int32) × (Nat → Int32) × (Nat → Int32) × (Nat → Int32) × (Nat → Int32)) (fun f i s => wX_match_128 post f (nI (i + 1)) fm fp fd fl (nI R) (nI n) fk ft a1 a2 a3 s.1 s.2.1 s.2.2.1 s.2.2.2.1 s.2.2.2.2.1 s.2.2.2.2.2 a10)
    (fun i s => ∃ p : Nat → Nat, hu_F n R K s.1 s.2.1 ∧ hu_V n s.2.1 p ∧ hu_G R s.1 ∧ hu_P n i p 0 ∧ hu_E n K s.1 s.2.1 p 0 ∧ ∀ c, c ≤ n → s.2.2.1 c = nI (p c)) R 0 (a4, a5, a6, a7, a8, a9) (by omega) ?_ ?_ ?_
  · refine ⟨fun _ => 0, fun r c r1 r2 c1 c2 => ?_, ⟨fun c c1 c2 => ?_, fun c c1 c2 _ => ?_⟩, fun r r1 r2 => ?_, ⟨fun c hc => Nat.le_refl 0, fun c d _ _ _ _ z _ => absurd rfl z, fun r r1 r2 => absurd r2 (by omega)⟩, fun c _ _ _ z => absurd rfl z, fun c hc => ?_⟩
    · have g := (hC r c r1 r2 c1 c2).1
      show (a4 r).toInt + (a5 c).toInt ≤ K r c
      rw [h4 r r2, h5 c c2, hb_0]
      omega
    · show (a5 c).toInt ≤ 0
      rw [h5 c c2, hb_0]
      omega
    · show (a5 c).toInt = 0
      rw [h5 c c2, hb_0]
    · show 0 ≤ (a4 r).toInt
      rw [h4 r r2, hb_0]
      omega
    · show a6 c = nI 0
      rw [h6 c hc, nI_0]
  · intro f s h
    obtain ⟨b4, b5, b6, b7, b8, b9⟩ := s
    obtain ⟨p, q1, q2, q3, q4, q5, q6⟩ := h
    show wX_match_128 post (f + 1) (nI (R + 1)) fm fp fd fl (nI R) (nI n) fk ft a1 a2 a3 b4 b5 b6 b7 b8 b9 a10
    refine pk_lt R (R + 1) (fun _ => ht_m151 hn' hR hC hc q6 (fun c hc => q4.1 c hc) (fun s es => H s _ _ _ _ _ _ (fun e => ?_) (fun e => ?_))) (fun z => absurd z (by omega))
    · subst e
      rw [es]
      exact hu_min3 q1 q2 q4 q5
    · subst e
      rw [es]
      exact hu_min2 q1 q2 q4 q5
  · intro f i s hi h hw
    obtain ⟨b4, b5, b6, b7, b8, b9⟩ := s
    obtain ⟨p, q1, q2, q3, q4, q5, q6⟩ := h
    show wX_match_128 post (f + 1) (nI (i + 1)) fm fp fd fl (nI R) (nI n) fk ft a1 a2 a3 b4 b5 b6 b7 b8 b9 a10
    refine pk_lt R (i + 1) (fun z => absurd z (by omega)) (fun _ => ht_insert hn hn' (by omega) hR hC hc q6 q1 q2 q3 q4 q5 (fun d4 d5 d6 d7 d8 d9 pp w1 w2 w3 w4 w5 w6 => ?_))
    refine nm_r (nI_1 (i + 1)) ?_
    exact hw (d4, d5, d6, d7, d8, d9) ⟨pp, w1, w2, w3, w4, w5, w6⟩
theorem ht_m98 {post : Int32 → St2 → Prop} {fm fp fd fl fr fk ft : Int32} {a1 a2 a3 a4 a5 a6 a7 a8 a9 a10 : Nat → Int32} {n : Nat} (hn' : n < 24)
    (H : ∀ b5 b6 : Nat → Int32, (∀ c, c ≤ n → b5 c = 0 ∧ b6 c = 0) → ∃ f, wX_match_128 post f 1 fm fp fd fl fr (nI n) fk ft a1 a2 a3 a4 b5 b6 a7 a8 a9 a10) :
    ∃ f, wX_match_98 post fm fp fd fl fr (nI n) fk ft f 0 a1 a2 a3 a4 a5 a6 a7 a8 a9 a10 := by
  refine pk_loop (σ := (Nat → Int32) × (Nat → Int32)) (fun f i s => wX_match_98 post fm fp fd fl fr (nI n) fk ft f (nI i) a1 a2 a3 a4 s.1 s.2 a7 a8 a9 a10) (fun i s => ∀ c, c < i → s.1 c = 0 ∧ s.2 c = 0) (n + 1) 0 (a5, a6) (by omega) (fun c h => absurd h (by omega)) ?_ ?_
  · intro f s h
    exact pk_lt n (n + 1) (fun _ => H _ _ (fun c hc => h c (by omega))) (fun z => absurd z (by omega))
  · intro f i s hi h hw
    obtain ⟨b5, b6⟩ := s
    have h : ∀ c, c < i → b5 c = 0 ∧ b6 c = 0 := h
    show wX_match_98 post fm fp fd fl fr (nI n) fk ft (f + 1) (nI i) a1 a2 a3 a4 b5 b6 a7 a8 a9 a10
    refine pk_lt n i (fun z => absurd z (by omega)) (fun _ => ⟨pk_in i 24 (by omega), fun d5 e5 => ⟨pk_in i 24 (by omega), fun d6 e6 => nm_r (nI_1 i) (hw (d5, d6) (fun c hc => ?_))⟩⟩)
    rw [nI_clamp (show i < 2 ^ 31 by omega)] at e5 e6
    show d5 c = 0 ∧ d6 c = 0
    by_cases e : c = i
    · rw [e5, e6, e, pk_us, pk_us]
      exact ⟨rfl, rfl⟩
    · rw [e5, e6, pk_un e, pk_un e]
      exact h c (by omega)
theorem ht_m75 {post : Int32 → St2 → Prop} {fm fp fd fl fk ft : Int32} {a1 a2 a3 a4 a5 a6 a7 a8 a9 a10 : Nat → Int32} {n R : Nat} {K : Nat → Nat → Int} (hn : 5 ≤ n) (hn' : n < 24) (hR : R ≤ 3) (hC : hu_C n R K) (hc : ht_C fm fp fd fl (nI R) (nI n) fk ft a1 a2 a3 n R K)
    (H : ∀ (s : Int32) (b4 b5 b6 b7 b8 b9 : Nat → Int32), (R = 3 → hu_Min3 n K s.toInt) → (R = 2 → hu_Min2 n K s.toInt) → post s (fm, fp, fd, fl, nI R, nI n, fk, ft, a1, a2, a3, b4, b5, b6, b7, b8, b9, a10)) :
    ∃ f, wX_match_75 post fm fp fd fl (nI R) (nI n) fk ft f 0 a1 a2 a3 a4 a5 a6 a7 a8 a9 a10 := by
  refine pk_loop (σ := Nat → Int32) (fun f i s => wX_match_75 post fm fp fd fl (nI R) (nI n) fk ft f (nI i) a1 a2 a3 s a5 a6 a7 a8 a9 a10) (fun i s => ∀ c, c < i → s c = 0) (R + 1) 0 a4 (by omega) (fun c h => absurd h (by omega)) ?_ ?_
  · intro f s h
    exact pk_lt R (R + 1) (fun _ => ht_m98 hn' (fun b5 b6 hb => ht_m128 hn hn' hR hC hc (fun r hr => h r (by omega)) (fun c hc => (hb c hc).1) (fun c hc => (hb c hc).2) H)) (fun z => absurd z (by omega))
  · intro f i s hi h hw
    refine pk_lt R i (fun z => absurd z (by omega)) (fun _ => ⟨pk_in i 6 (by omega), fun d4 e4 => nm_r (nI_1 i) (hw d4 (fun c hc => ?_))⟩)
    rw [nI_clamp (show i < 2 ^ 31 by omega)] at e4
    by_cases e : c = i
    · rw [e4, e, pk_us]
    · rw [e4, pk_un e]
      exact h c (by omega)
theorem ht_m33_7 {post : Int32 → St2 → Prop} {fm fp fd fl fc fk ft : Int32} {a1 a2 a3 a4 a5 a6 a7 a8 a9 a10 : Nat → Int32}
    (H : ∀ b3 : Nat → Int32, b3 1 = nI 0 → b3 2 = nI 1 → b3 3 = nI 2 → ∃ f, wX_match_75 post fm fp fd fl (nI 3) fc fk ft f 0 a1 a2 b3 a4 a5 a6 a7 a8 a9 a10) :
    ∃ f, wX_match_33 post 7 fm fp fd fl fc fk ft f 0 0 a1 a2 a3 a4 a5 a6 a7 a8 a9 a10 := by
  refine ⟨6, pk_le 5 0 (fun z => absurd z (by omega)) (fun _ => br_f (by decide) (nm_r (e' := nI 1) (by decide) ⟨pk_in 1 6 (by omega), fun b1 e1 => nm_r (e' := nI 1) (by decide) ?_⟩))⟩
  refine pk_le 5 1 (fun z => absurd z (by omega)) (fun _ => br_f (by decide) (nm_r (e' := nI 2) (by decide) ⟨pk_in 2 6 (by omega), fun b2 e2 => nm_r (e' := nI 2) (by decide) ?_⟩))
  refine pk_le 5 2 (fun z => absurd z (by omega)) (fun _ => br_f (by decide) (nm_r (e' := nI 3) (by decide) ⟨pk_in 3 6 (by omega), fun b3 e3 => nm_r (e' := nI 3) (by decide) ?_⟩))
  refine pk_le 5 3 (fun z => absurd z (by omega)) (fun _ => br_t (by decide) (nm_r (e' := nI 4) (by decide) ?_))
  refine pk_le 5 4 (fun z => absurd z (by omega)) (fun _ => br_t (by decide) (nm_r (e' := nI 5) (by decide) ?_))
  refine pk_le 5 5 (fun _ => H b3 ?_ ?_ ?_) (fun z => absurd z (by omega))
  · rw [nI_clamp (by omega)] at e1 e2 e3
    rw [e3, pk_un (by omega), e2, pk_un (by omega), e1, pk_us]
    decide
  · rw [nI_clamp (by omega)] at e2 e3
    rw [e3, pk_un (by omega), e2, pk_us]
    decide
  · rw [nI_clamp (by omega)] at e3
    rw [e3, pk_us]
    decide
theorem ht_m33_6 {post : Int32 → St2 → Prop} {fm fp fd fl fc fk ft : Int32} {a1 a2 a3 a4 a5 a6 a7 a8 a9 a10 : Nat → Int32}
    (H : ∀ b3 : Nat → Int32, b3 1 = nI 1 → b3 2 = nI 2 → ∃ f, wX_match_75 post fm fp fd fl (nI 2) fc fk ft f 0 a1 a2 b3 a4 a5 a6 a7 a8 a9 a10) :
    ∃ f, wX_match_33 post 6 fm fp fd fl fc fk ft f 0 0 a1 a2 a3 a4 a5 a6 a7 a8 a9 a10 := by
  refine ⟨6, pk_le 5 0 (fun z => absurd z (by omega)) (fun _ => br_t (by decide) (nm_r (e' := nI 1) (by decide) ?_))⟩
  refine pk_le 5 1 (fun z => absurd z (by omega)) (fun _ => br_f (by decide) (nm_r (e' := nI 1) (by decide) ⟨pk_in 1 6 (by omega), fun b2 e2 => nm_r (e' := nI 2) (by decide) ?_⟩))
  refine pk_le 5 2 (fun z => absurd z (by omega)) (fun _ => br_f (by decide) (nm_r (e' := nI 2) (by decide) ⟨pk_in 2 6 (by omega), fun b3 e3 => nm_r (e' := nI 3) (by decide) ?_⟩))
  refine pk_le 5 3 (fun z => absurd z (by omega)) (fun _ => br_t (by decide) (nm_r (e' := nI 4) (by decide) ?_))
  refine pk_le 5 4 (fun z => absurd z (by omega)) (fun _ => br_t (by decide) (nm_r (e' := nI 5) (by decide) ?_))
  refine pk_le 5 5 (fun _ => H b3 ?_ ?_) (fun z => absurd z (by omega))
  · rw [nI_clamp (by omega)] at e2 e3
    rw [e3, pk_un (by omega), e2, pk_us]
    decide
  · rw [nI_clamp (by omega)] at e3
    rw [e3, pk_us]
    decide
end
section
/-! the same lemmas over the printed twins of advance, insert and match -/
theorem hv_a89 {post : Int32 → St2 → Prop} {J16 : Int32 → Int32 → Int32 → (Nat → Int32) → (Nat → Int32) → (Nat → Int32) → (Nat → Int32) → (Nat → Int32) → (Nat → Int32) → (Nat → Int32) → (Nat → Int32) → (Nat → Int32) → (Nat → Int32) → Prop} {x1 x2 x3 x4 : Int32} {fm fp fd fl fr fc fk ft : Int32} {a1 a2 a3 a4 a5 a6 a7 a8 a9 a10 : Nat → Int32} {i : Nat} (hi : i < 24)
    (P : x3 ≤ a8 i → J16 x3 x4 (nI (i + 1)) a1 a2 a3 a4 a5 a6 a7 a8 a9 a10) (Q : ¬ x3 ≤ a8 i → J16 (a8 i) (nI i) (nI (i + 1)) a1 a2 a3 a4 a5 a6 a7 a8 a9 a10) : wX_advance_2_89 post J16 x1 x2 x3 x4 (nI i) fm fp fd fl fr fc fk ft a1 a2 a3 a4 a5 a6 a7 a8 a9 a10 := by
  unfold wX_advance_2_89
  rw [nI_clamp (show i < 2 ^ 31 by omega)]
  exact ⟨pk_in i 24 hi, br_c (fun g => nm_r (nI_1 i) (P g)) (fun g => ⟨pk_in i 24 hi, nm_e (nm_r (nI_1 i) (Q g))⟩)⟩
theorem hv_a16 {post : Int32 → St2 → Prop} {fm fp fd fl fr fk ft : Int32} {a1 a2 a3 a4 a5 a6 a7 a8 a9 a10 : Nat → Int32} {n ac rw' : Nat} {Kr : Nat → Int} (hn : n < 24) (hac : ac < 24) (hrw : rw' < 6)
    (hb : ∀ c, 1 ≤ c → c ≤ n → 0 ≤ Kr c ∧ Kr c ≤ 100000 ∧ 0 ≤ (a4 rw').toInt ∧ (a4 rw').toInt ≤ 100000 ∧ -100000 ≤ (a5 c).toInt ∧ (a5 c).toInt ≤ 0)
    (hc : ∀ c, 1 ≤ c → c ≤ n → ∀ (ψ : Int32 → Prop) (b7 b8 : Nat → Int32), (∀ x : Int32, x.toInt = Kr c → ψ x) → wpX_costOf ψ (fm, fp, fd, fl, fr, nI n, fk, ft, a1, a2, a3, a4, a5, a6, b7, b8, a9, a10) (nI rw') (nI c))
    (H : ∀ (x3 x4 : Int32) (b7 b8 : Nat → Int32), ad_I Kr (a4 rw').toInt ac a5 a7 a8 a9 (n + 1) x3 x4 b7 b8 → ∃ f, wX_advance_2_121 post x3 x4 fm fp fd fl fr (nI n) fk ft f 0 a1 a2 a3 a4 a5 a6 b7 b8 a9 a10) :
    ∃ f, wX_advance_2_16 post (nI ac) (nI rw') fm fp fd fl fr (nI n) fk ft f 268435456 0 1 a1 a2 a3 a4 a5 a6 a7 a8 a9 a10 := by
  refine pk_loop (σ := Int32 × Int32 × (Nat → Int32) × (Nat → Int32)) (fun f i s => wX_advance_2_16 post (nI ac) (nI rw') fm fp fd fl fr (nI n) fk ft f s.1 s.2.1 (nI i) a1 a2 a3 a4 a5 a6 s.2.2.1 s.2.2.2 a9 a10) (fun i s => ad_I Kr (a4 rw').toInt ac a5 a7 a8 a9 i s.1 s.2.1 s.2.2.1 s.2.2.2) (n + 1) 1 (268435456, 0, a7, a8) (by omega) ad_0 ?_ ?_
  · intro f s h
    exact pk_lt n (n + 1) (fun _ => H _ _ _ _ h) (fun z => absurd z (by omega))
  · intro f i s hi h hw
    obtain ⟨x3, x4, b7, b8⟩ := s
    have h : ad_I Kr (a4 rw').toInt ac a5 a7 a8 a9 i x3 x4 b7 b8 := h
    have hw : ∀ (y3 y4 : Int32) (d7 d8 : Nat → Int32), ad_I Kr (a4 rw').toInt ac a5 a7 a8 a9 (i + 1) y3 y4 d7 d8 → wX_advance_2_16 post (nI ac) (nI rw') fm fp fd fl fr (nI n) fk ft f y3 y4 (nI (i + 1)) a1 a2 a3 a4 a5 a6 d7 d8 a9 a10 := fun y3 y4 d7 d8 g => hw (y3, y4, d7, d8) g
    show wX_advance_2_16 post (nI ac) (nI rw') fm fp fd fl fr (nI n) fk ft (f + 1) x3 x4 (nI i) a1 a2 a3 a4 a5 a6 b7 b8 a9 a10
    have i1 : 1 ≤ i := h.1
    have ib : b7 i = a7 i ∧ b8 i = a8 i := h.2.2.1 i (Or.inl (Nat.le_refl i))
    obtain ⟨g1, g2, g3, g4, g5, g6⟩ := hb i i1 (by omega)
    refine pk_lt n i (fun z => absurd z (by omega)) (fun _ => ⟨pk_in i 24 (by omega), ?_⟩)
    rw [nI_clamp (show i < 2 ^ 31 by omega), nI_clamp (show rw' < 2 ^ 31 by omega)]
    refine br_c (fun g => hc i i1 (by omega) _ b7 b8 (fun x ex => ⟨pk_in rw' 6 hrw, pk_in i 24 (by omega), fun x6 e6 => ⟨pk_in i 24 (by omega), ?_⟩⟩)) (fun g => nm_r (nI_1 i) (hw _ _ _ _ (ad_skip h g)))
    have v6 : x6.toInt = Kr i - (a4 rw').toInt - (a5 i).toInt := by
      have q1 : (x - a4 rw').toInt = x.toInt - (a4 rw').toInt := hb_sub (by omega) (by omega)
      rw [e6, hb_sub (by omega) (by omega), q1, ex]
    refine br_c (fun w => hv_a89 (by omega) (fun v => hw _ _ _ _ (ad_step h g (fun c _ => ⟨rfl, rfl⟩) (Or.inr ⟨by rw [ib.2], ib.1, ?_⟩) (Or.inl ⟨rfl, rfl, hb_le.mp v⟩))) (fun v => hw _ _ _ _ (ad_step h g (fun c _ => ⟨rfl, rfl⟩) (Or.inr ⟨by rw [ib.2], ib.1, ?_⟩) (Or.inr ⟨rfl, rfl, ?_⟩)))) (fun w => ⟨pk_in i 24 (by omega), fun d8 e8 => ⟨pk_in i 24 (by omega), fun d7 e7 => ?_⟩⟩)
    · have w := hb_le.mp w
      rw [ib.2] at w
      omega
    · have w := hb_le.mp w
      rw [ib.2] at w
      omega
    · have v : ¬ x3.toInt ≤ (b8 i).toInt := fun q => v (hb_le.mpr q)
      omega
    · have w : ¬ (b8 i).toInt ≤ x6.toInt := fun q => w (hb_le.mpr q)
      have d8i : d8 i = x6 := by rw [e8, pk_us]
      have d7i : d7 i = nI ac := by rw [e7, pk_us, hb_byte ac (by omega)]
      have dc : ∀ c, c ≠ i → d7 c = b7 c ∧ d8 c = b8 c := fun c hc => by rw [e7, e8, pk_un hc, pk_un hc]; exact ⟨rfl, rfl⟩
      have di : ((d8 i).toInt = Kr i - (a4 rw').toInt - (a5 i).toInt ∧ d7 i = nI ac ∧ (d8 i).toInt < (a8 i).toInt) := by
        rw [ib.2] at w
        rw [d8i]
        exact ⟨v6, d7i, by omega⟩
      refine hv_a89 (by omega) (fun v => hw _ _ _ _ (ad_step h g dc (Or.inl di) (Or.inl ⟨rfl, rfl, hb_le.mp v⟩))) (fun v => hw _ _ _ _ (ad_step h g dc (Or.inl di) (Or.inr ⟨rfl, rfl, ?_⟩)))
      have v : ¬ x3.toInt ≤ (d8 i).toInt := fun q => v (hb_le.mpr q)
      omega
theorem hv_a121 {post : Int32 → St2 → Prop} {x3 x4 : Int32} {fm fp fd fl fr fk ft : Int32} {a1 a2 a3 a4 a5 a6 a7 a8 a9 a10 : Nat → Int32} {n : Nat} {p : Nat → Nat} (hn : n < 24) (h6 : ∀ c, c ≤ n → a6 c = nI (p c) ∧ p c < 6)
    (hp : ∀ c d, c ≤ n → d ≤ n → ¬ a9 c = 0 → ¬ a9 d = 0 → p c = p d → c = d)
    (H : ∀ b4 b5 b8 : Nat → Int32, ad_U x3 p a4 a5 a8 a9 (n + 1) b4 b5 b8 → post x4 (fm, fp, fd, fl, fr, nI n, fk, ft, a1, a2, a3, b4, b5, a6, a7, b8, a9, a10)) :
    ∃ f, wX_advance_2_121 post x3 x4 fm fp fd fl fr (nI n) fk ft f 0 a1 a2 a3 a4 a5 a6 a7 a8 a9 a10 := by
  refine pk_loop (σ := (Nat → Int32) × (Nat → Int32) × (Nat → Int32)) (fun f i s => wX_advance_2_121 post x3 x4 fm fp fd fl fr (nI n) fk ft f (nI i) a1 a2 a3 s.1 s.2.1 a6 a7 s.2.2 a9 a10) (fun i s => ad_U x3 p a4 a5 a8 a9 i s.1 s.2.1 s.2.2) (n + 1) 0 (a4, a5, a8) (by omega) ad_U0 ?_ ?_
  · intro f s h
    exact pk_lt n (n + 1) (fun _ => H _ _ _ h) (fun z => absurd z (by omega))
  · intro f i s hi h hw
    obtain ⟨b4, b5, b8⟩ := s
    have h : ad_U x3 p a4 a5 a8 a9 i b4 b5 b8 := h
    have hw : ∀ d4 d5 d8 : Nat → Int32, ad_U x3 p a4 a5 a8 a9 (i + 1) d4 d5 d8 → wX_advance_2_121 post x3 x4 fm fp fd fl fr (nI n) fk ft f (nI (i + 1)) a1 a2 a3 d4 d5 a6 a7 d8 a9 a10 := fun d4 d5 d8 g => hw (d4, d5, d8) g
    show wX_advance_2_121 post x3 x4 fm fp fd fl fr (nI n) fk ft (f + 1) (nI i) a1 a2 a3 b4 b5 a6 a7 b8 a9 a10
    obtain ⟨p1, p2⟩ := h6 i (by omega)
    refine pk_lt n i (fun z => absurd z (by omega)) (fun _ => ⟨pk_in i 24 (by omega), ?_⟩)
    rw [nI_clamp (show i < 2 ^ 31 by omega), p1, nI_clamp (show p i < 2 ^ 31 by omega)]
    refine br_c (fun g => ⟨pk_in i 24 (by omega), pk_in i 24 (by omega), fun d8 e8 => nm_r (nI_1 i) (hw _ _ _ (ad_Us h g e8))⟩) (fun g => ⟨pk_in i 24 (by omega), pk_in (p i) 6 p2, pk_in (p i) 6 p2, fun d4 e4 => ⟨pk_in i 24 (by omega), pk_in i 24 (by omega), fun d5 e5 => nm_r (nI_1 i) (hw _ _ _ (ad_Ur h g (fun c hc g' e => ?_) e4 e5))⟩⟩)
    have := hp c i (by omega) (by omega) g' g e
    omega
theorem hv_advance {post : Int32 → St2 → Prop} {fm fp fd fl fr fk ft : Int32} {a1 a2 a3 a4 a5 a6 a7 a8 a9 a10 : Nat → Int32} {n k R t : Nat} {K : Nat → Nat → Int} {p J par : Nat → Nat} (hn : 5 ≤ n) (hn' : n < 24) (hk : k ≤ 3) (hkR : k ≤ R) (hR : R ≤ 3) (hC : hu_C n R K) (hc : ht_C fm fp fd fl fr (nI n) fk ft a1 a2 a3 n R K)
    (h6 : ∀ c, c ≤ n → a6 c = nI (p c)) (hF : hu_F n R K a4 a5) (hV : hu_V n a5 p) (hG : hu_G R a4) (hP : hu_P n k p (n + 1)) (hE : hu_E n K a4 a5 p (n + 1)) (hT : hu_T n K a4 a5 a7 p t J par) (hS : hu_S n K a4 a5 a7 a8 p t J) (hp : p (J t) ≠ 0)
    (h9 : ∀ c, c ≤ n → (a9 c = 0 ↔ ∀ i, i ≤ t → J i ≠ c))
    (H : ∀ (q : Nat) (b4 b5 b7 b8 : Nat → Int32) (J' par' : Nat → Nat), hu_F n R K b4 b5 → hu_V n b5 p → hu_G R b4 → hu_E n K b4 b5 p (n + 1) → hu_T n K b4 b5 b7 p (t + 1) J' par' → hu_S n K b4 b5 b7 b8 p (t + 1) J' → J' (t + 1) = q → (∀ i, i ≤ t → J' i = J i) → post (nI q) (fm, fp, fd, fl, fr, nI n, fk, ft, a1, a2, a3, b4, b5, a6, b7, b8, a9, a10)) :
    wpX_advance_2 post (fm, fp, fd, fl, fr, nI n, fk, ft, a1, a2, a3, a4, a5, a6, a7, a8, a9, a10) (nI (J t)) := by
  have hrow := hu_row hkR hP hT hp
  have h0 : p 0 ≠ 0 := by
    have := (hrow 0 (by omega)).2.1
    rw [hT.1] at this
    exact this
  obtain ⟨A, B⟩ := hu_bd (by omega) hk hkR hC hF hV hP hE h0
  obtain ⟨jt, _, q1, q2, _⟩ := hrow t (Nat.le_refl t)
  have inT : ∀ c, c ≤ n → ¬ a9 c = 0 → ∃ i, i ≤ t ∧ J i = c := by
    intro c hc g
    rw [h9 c hc] at g
    by_cases e : ∃ i, i ≤ t ∧ J i = c
    · exact e
    · exact absurd (fun i hi ei => e ⟨i, hi, ei⟩) g
  have outT : ∀ i, i ≤ t → ¬ a9 (J i) = 0 := by
    intro i hi g
    exact ((h9 _ (hrow i hi).1).mp g) i hi rfl
  unfold wpX_advance_2
  refine ⟨pk_in (J t) 24 (by omega), fun x2 e2 => ?_⟩
  rw [nI_clamp (by omega), h6 _ jt] at e2
  subst e2
  refine hv_a16 (Kr := fun c => K (p (J t)) c) hn' (by omega) (by omega) (fun c c1 c2 => ?_) (fun c c1 c2 ψ b7 b8 hψ => hc ψ _ c _ _ _ _ _ _ _ q1 q2 c1 c2 hψ) (fun x3 x4 b7 b8 hI => ?_)
  · have g1 := hC _ c q1 q2 c1 c2
    have g2 := hG _ q1 q2
    have g3 := A _ q1 q2
    have g4 := B c c1 c2
    exact ⟨g1.1, g1.2, g2, g3, g4.1, g4.2⟩
  · obtain ⟨_, I1, I2, I3, I4⟩ := hI
    have hN : hu_N n K a4 a5 a7 a8 b7 b8 p t J := fun c c1 c2 c3 => I1 c c1 (by omega) ((h9 c c2).mpr c3)
    have sb := hu_sb (by omega) hk hkR hC hF hV hG hP hE hT hS hp hN
    obtain ⟨f, f1, f2, f3⟩ := hu_free (by omega) hk hP h0
    have fo : ∀ i, i ≤ t → J i ≠ f := by
      intro i hi e
      have := (hrow i hi).2.1
      rw [e] at this
      exact this f3
    have fb := sb f f1 f2 fo
    have fx := I3 f f1 (by omega) ((h9 f f2).mpr fo)
    rcases I4 with ⟨e, _⟩ | ⟨q, u1, u2, u3, u4, u5⟩
    · omega
    have uo := (h9 q (by omega)).mp u3
    have qb := sb q u1 (by omega) uo
    refine hv_a121 hn' (fun c hc => ⟨h6 c hc, by have := hP.1 c hc; omega⟩) (fun c d hc hd g1 g2 e => ?_) (fun b4 b5 d8 hU => ?_)
    · obtain ⟨i, i1, i2⟩ := inT c hc g1
      have hz := (hrow i i1).2.1
      rw [i2] at hz
      exact hP.2.1 c d hc hd (by omega) (by omega) hz e
    · obtain ⟨U1, U2, U3, U4, U5, U6⟩ := hU
      rw [u4]
      obtain ⟨J', par', w1, w2, w3, w4, w5, w6, w7, w8⟩ := hu_adv (b4 := b4) (b5 := b5) (b8 := d8) (x := x3.toInt) (q := q) hkR hF hV hG hP hE hT hS hp hN sb
        (fun i i1 i2 => (I2 _ (Or.inr (outT i i2))).1)
        (fun c c1 c2 c3 => I3 c c1 (by omega) ((h9 c c2).mpr c3)) (by omega) u1 (by omega) uo u5
        (fun i hi => by
          obtain ⟨j1, _, j2, j3, _⟩ := hrow i hi
          have g2 := hG _ j2 j3
          have g3 := A _ j2 j3
          rw [U1 (J i) (by omega) (outT i hi), hb_add (by omega) (by omega)])
        (fun r r1 r2 hr => U2 r (fun c hc g e => by
          obtain ⟨i, i1, i2⟩ := inT c (by omega) g
          exact hr i i1 (by rw [i2, e])))
        (fun i i1 i2 => by
          obtain ⟨j1, _, _, _, j4⟩ := hrow i i2
          have g4 := B (J i) (j4 i1) j1
          rw [U3 (J i) (by omega) (outT i i2), hb_sub (by omega) (by omega)])
        (fun c c1 c2 c3 => U4 c (Or.inr ((h9 c c2).mpr c3)))
        (fun c c1 c2 c3 => by
          have g := sb c c1 c2 c3
          rw [U5 c (by omega) ((h9 c c2).mpr c3), hb_sub (by omega) (by omega)])
      exact H q b4 b5 b7 d8 J' par' w1 w2 w3 w4 w5 w6 w7 w8
theorem hv_i89 {post : St2 → Prop} {fm fp fd fl fr fc fk ft : Int32} {a1 a2 a3 a4 a5 a7 a8 a9 a10 : Nat → Int32} {n k t : Nat} {K : Nat → Nat → Int} {p J par : Nat → Nat} (hn : n < 24) (hk : k ≤ 3) (hT : hu_T n K a4 a5 a7 p t J par) (ht : t ≤ 3)
    (H : ∀ (b6 : Nat → Int32) (pp : Nat → Nat), hu_V n a5 pp → hu_P n k pp 0 → hu_E n K a4 a5 pp 0 → (∀ c, c ≤ n → b6 c = nI (pp c)) → post (fm, fp, fd, fl, fr, fc, fk, ft, a1, a2, a3, a4, a5, b6, a7, a8, a9, a10)) :
    ∀ i, i ≤ t → ∀ (rd : Nat) (b6 : Nat → Int32) (pp : Nat → Nat), rd + i ≤ t → (∀ c, c ≤ n → b6 c = nI (pp c)) → hu_P n k pp (J i) → hu_E n K a4 a5 pp (J i) → hu_V n a5 pp → (∀ j, j < i → pp (J j) = p (J j)) →
      ∃ f, wX_insert_2_89 post fm fp fd fl fr fc fk ft f (nI (J i)) (nI rd) a1 a2 a3 a4 a5 b6 a7 a8 a9 a10 := by
  obtain ⟨T0, T1, T2, T3, T4⟩ := hT
  have jn : ∀ i, i ≤ t → J i ≤ n := by
    intro i hi
    rcases Nat.eq_zero_or_pos i with z | z
    · rw [z, T0]
      omega
    · exact (T1 i z hi).2
  intro i
  induction i using Nat.strongRecOn with
  | ind i ih =>
    intro hi rd b6 pp hrd h6 hP hE hV hj
    rcases Nat.eq_zero_or_pos i with z | z
    · subst z
      rw [T0] at hP hE
      rw [T0]
      exact ⟨1, pk_lt 5 rd (fun z => absurd z (by omega)) (fun _ => pk_eq 0 0 (fun _ => H b6 pp hV hP hE h6) (fun z => absurd rfl z))⟩
    · obtain ⟨u1, u2, u3⟩ := T4 i z hi
      have ji := T1 i z hi
      have jp := jn (par i) (by omega)
      have jne : J (par i) ≠ J i := T2 (par i) i u1 hi
      have epp : pp (J (par i)) = p (J (par i)) := hj (par i) u1
      have zpp : pp (J (par i)) ≠ 0 := by rw [epp]; exact T3 (par i) (by omega)
      have e1 : (fun c => if c = J i then pp (J (par i)) else pp c) (J i) = pp (J (par i)) := by simp
      have e2 : ∀ c, c ≠ J i → (fun c => if c = J i then pp (J (par i)) else pp c) c = pp c := fun c hc => by simp [hc]
      generalize (fun c => if c = J i then pp (J (par i)) else pp c) = pq at e1 e2
      obtain ⟨w1, w2, w3⟩ := hu_aug hP hE hV ji.2 jp jne zpp (by rw [epp]; exact u3) e1 e2
      have hb : pp (J (par i)) < 128 := by
        have := hP.1 _ jp
        omega
      have q6 : ∀ c, c ≤ n → upd b6 (J i) (nI (pp (J (par i)))) c = nI (pq c) := by
        intro c hc
        by_cases e : c = J i
        · rw [e, pk_us, e1]
        · rw [pk_un e, e2 c e]
          exact h6 c hc
      obtain ⟨f, hf⟩ := ih (par i) u1 (by omega) (rd + 1) _ pq (by omega) q6 w1 w2 w3 (fun j hjp => by
        rw [e2 _ (fun e => absurd e (T2 j i (by omega) hi))]
        exact hj j (by omega))
      refine ⟨f + 1, pk_lt 5 rd (fun z => absurd z (by omega)) (fun _ => pk_eq (J i) 0 (fun z => absurd z (by omega)) (fun _ => ⟨pk_in (J i) 24 (by omega), fun x4 e4 => ?_⟩))⟩
      rw [nI_clamp (by omega), u2] at e4
      subst e4
      refine ⟨pk_in (J (par i)) 24 (by omega), pk_in (J i) 24 (by omega), fun d6 e6 => nm_r (nI_1 rd) ?_⟩
      rw [nI_clamp (by omega), nI_clamp (by omega), h6 _ jp, vp_nar_byte, hb_byte _ hb] at e6
      subst e6
      exact hf
theorem hv_i50 {post : St2 → Prop} {fm fp fd fl fr fk ft : Int32} {a1 a2 a3 a6 a10 : Nat → Int32} {n k R : Nat} {K : Nat → Nat → Int} {p : Nat → Nat} (hn : 5 ≤ n) (hn' : n < 24) (hk : k ≤ 3) (hkR : k ≤ R) (hR : R ≤ 3) (hC : hu_C n R K) (hc : ht_C fm fp fd fl fr (nI n) fk ft a1 a2 a3 n R K)
    (h6 : ∀ c, c ≤ n → a6 c = nI (p c)) (hP : hu_P n k p (n + 1)) (h0 : p 0 ≠ 0)
    (H : ∀ (b4 b5 b6 b7 b8 b9 : Nat → Int32) (pp : Nat → Nat), hu_F n R K b4 b5 → hu_V n b5 pp → hu_G R b4 → hu_P n k pp 0 → hu_E n K b4 b5 pp 0 → (∀ c, c ≤ n → b6 c = nI (pp c)) → post (fm, fp, fd, fl, fr, nI n, fk, ft, a1, a2, a3, b4, b5, b6, b7, b8, b9, a10)) :
    ∀ (m t f : Nat), m + t = 3 → m < f → ∀ (a4 a5 a7 a8 a9 : Nat → Int32) (J par : Nat → Nat), hu_F n R K a4 a5 → hu_V n a5 p → hu_G R a4 → hu_E n K a4 a5 p (n + 1) → hu_T n K a4 a5 a7 p t J par → hu_S n K a4 a5 a7 a8 p t J →
      (∀ c, c ≤ n → (a9 c = 0 ↔ ∀ i, i < t → J i ≠ c)) → wX_insert_2_50 post f (nI (J t)) (nI t) fm fp fd fl fr (nI n) fk ft a1 a2 a3 a4 a5 a6 a7 a8 a9 a10 := by
  intro m
  induction m with
  | zero =>
    intro t f hm hf a4 a5 a7 a8 a9 J par hF hV hG hE hT hS h9
    obtain ⟨f, rfl⟩ : ∃ f', f = f' + 1 := ⟨f - 1, by omega⟩
    have jn := hT.2.1 t (by omega) (by omega)
    refine pk_lt 5 t (fun z => absurd z (by omega)) (fun _ => pk_eq t 0 (fun z => absurd z (by omega)) (fun _ => ⟨pk_in (J t) 24 (by omega), ?_⟩))
    rw [nI_clamp (show J t < 2 ^ 31 by omega), h6 _ jn.2]
    have pr := hP.1 _ jn.2
    refine pk_eq (p (J t)) 0 (fun z => ?_) (fun z => ?_)
    · obtain ⟨w1, w2⟩ := hu_hole hP hE z
      exact hv_i89 hn' hk hT (by omega) (fun b6 pp g1 g2 g3 g4 => H _ _ _ _ _ _ pp hF g1 hG g2 g3 g4) t (Nat.le_refl t) 0 a6 p (by omega) h6 w1 w2 hV (fun j _ => rfl)
    · have := hu_t hk hP hT z (by omega)
      omega
  | succ m ih =>
    intro t f hm hf a4 a5 a7 a8 a9 J par hF hV hG hE hT hS h9
    obtain ⟨f, rfl⟩ : ∃ f', f = f' + 1 := ⟨f - 1, by omega⟩
    have jn : J t ≤ n := by
      rcases Nat.eq_zero_or_pos t with z | z
      · rw [z, hT.1]
        omega
      · exact (hT.2.1 t z (Nat.le_refl t)).2
    have step : p (J t) ≠ 0 → wX_insert_2_68 post (wX_insert_2_50 post f) (nI (J t)) (nI t) fm fp fd fl fr (nI n) fk ft a1 a2 a3 a4 a5 a6 a7 a8 a9 a10 := by
      intro hp
      unfold wX_insert_2_68
      refine ⟨pk_in (J t) 24 (by omega), fun b9 e9 => ?_⟩
      rw [nI_clamp (show J t < 2 ^ 31 by omega)] at e9
      have q9 : ∀ c, c ≤ n → (b9 c = 0 ↔ ∀ i, i ≤ t → J i ≠ c) := by
        intro c hc
        by_cases e : c = J t
        · rw [e9, e, pk_us]
          exact ⟨fun g => absurd g (by decide), fun g => absurd rfl (g t (Nat.le_refl t))⟩
        · rw [e9, pk_un e, h9 c hc]
          constructor
          · intro g i hi
            rcases Nat.lt_or_ge i t with z | z
            · exact g i z
            · have : i = t := by omega
              rw [this]
              exact fun w => e w.symm
          · intro g i hi
            exact g i (by omega)
      refine hv_advance hn hn' hk hkR hR hC hc h6 hF hV hG hP hE hT hS hp q9 (fun q b4 b5 b7 b8 J' par' w1 w2 w3 w4 w5 w6 w7 w8 => ?_)
      refine nm_r (nI_1 t) ?_
      rw [← w7]
      refine ih (t + 1) f (by omega) (by omega) b4 b5 b7 b8 b9 J' par' w1 w2 w3 w4 w5 w6 (fun c hc => ?_)
      rw [q9 c hc]
      constructor
      · intro g i hi
        rw [w8 i (by omega)]
        exact g i (by omega)
      · intro g i hi
        have := g i (by omega)
        rw [w8 i hi] at this
        exact this
    refine pk_lt 5 t (fun z => absurd z (by omega)) (fun _ => pk_eq t 0 (fun z => step ?_) (fun z => ⟨pk_in (J t) 24 (by omega), ?_⟩))
    · rw [z, hT.1]
      exact h0
    · rw [nI_clamp (show J t < 2 ^ 31 by omega), h6 _ jn]
      have pr := hP.1 _ jn
      refine pk_eq (p (J t)) 0 (fun z => ?_) (fun z => step z)
      obtain ⟨w1, w2⟩ := hu_hole hP hE z
      exact hv_i89 hn' hk hT (by omega) (fun b6 pp g1 g2 g3 g4 => H _ _ _ _ _ _ pp hF g1 hG g2 g3 g4) t (Nat.le_refl t) 0 a6 p (by omega) h6 w1 w2 hV (fun j _ => rfl)
theorem hv_i10 {post : St2 → Prop} {fm fp fd fl fr fk ft : Int32} {a1 a2 a3 a4 a5 a6 a7 a8 a9 a10 : Nat → Int32} {n : Nat} (hn' : n < 24)
    (H : ∀ b7 b8 b9 : Nat → Int32, (∀ c, c ≤ n → b8 c = 268435456 ∧ b9 c = 0) → ∃ f, wX_insert_2_50 post f 0 0 fm fp fd fl fr (nI n) fk ft a1 a2 a3 a4 a5 a6 b7 b8 b9 a10) :
    ∃ f, wX_insert_2_10 post fm fp fd fl fr (nI n) fk ft f 0 a1 a2 a3 a4 a5 a6 a7 a8 a9 a10 := by
  refine pk_loop (σ := (Nat → Int32) × (Nat → Int32) × (Nat → Int32)) (fun f i s => wX_insert_2_10 post fm fp fd fl fr (nI n) fk ft f (nI i) a1 a2 a3 a4 a5 a6 s.1 s.2.1 s.2.2 a10) (fun i s => ∀ c, c < i → s.2.1 c = 268435456 ∧ s.2.2 c = 0) (n + 1) 0 (a7, a8, a9) (by omega) (fun c h => absurd h (by omega)) ?_ ?_
  · intro f s h
    exact pk_lt n (n + 1) (fun _ => H _ _ _ (fun c hc => h c (by omega))) (fun z => absurd z (by omega))
  · intro f i s hi h hw
    obtain ⟨b7, b8, b9⟩ := s
    have h : ∀ c, c < i → b8 c = 268435456 ∧ b9 c = 0 := h
    have hw : ∀ d7 d8 d9 : Nat → Int32, (∀ c, c < i + 1 → d8 c = 268435456 ∧ d9 c = 0) → wX_insert_2_10 post fm fp fd fl fr (nI n) fk ft f (nI (i + 1)) a1 a2 a3 a4 a5 a6 d7 d8 d9 a10 := fun d7 d8 d9 g => hw (d7, d8, d9) g
    show wX_insert_2_10 post fm fp fd fl fr (nI n) fk ft (f + 1) (nI i) a1 a2 a3 a4 a5 a6 b7 b8 b9 a10
    refine pk_lt n i (fun z => absurd z (by omega)) (fun _ => ⟨pk_in i 24 (by omega), fun d8 e8 => ⟨pk_in i 24 (by omega), fun d9 e9 => ⟨pk_in i 24 (by omega), fun d7 e7 => nm_r (nI_1 i) (hw _ _ _ (fun c hc => ?_))⟩⟩⟩)
    rw [nI_clamp (show i < 2 ^ 31 by omega)] at e8 e9
    by_cases e : c = i
    · rw [e8, e9, e, pk_us, pk_us]
      exact ⟨rfl, rfl⟩
    · rw [e8, e9, pk_un e, pk_un e]
      exact h c (by omega)
theorem hv_insert {post : St2 → Prop} {fm fp fd fl fr fk ft : Int32} {a1 a2 a3 a4 a5 a6 a7 a8 a9 a10 : Nat → Int32} {n k R : Nat} {K : Nat → Nat → Int} {p : Nat → Nat} (hn : 5 ≤ n) (hn' : n < 24) (hkR : k + 1 ≤ R) (hR : R ≤ 3) (hC : hu_C n R K) (hc : ht_C fm fp fd fl fr (nI n) fk ft a1 a2 a3 n R K)
    (h6 : ∀ c, c ≤ n → a6 c = nI (p c)) (hF : hu_F n R K a4 a5) (hV : hu_V n a5 p) (hG : hu_G R a4) (hP : hu_P n k p 0) (hE : hu_E n K a4 a5 p 0)
    (H : ∀ (b4 b5 b6 b7 b8 b9 : Nat → Int32) (pp : Nat → Nat), hu_F n R K b4 b5 → hu_V n b5 pp → hu_G R b4 → hu_P n (k + 1) pp 0 → hu_E n K b4 b5 pp 0 → (∀ c, c ≤ n → b6 c = nI (pp c)) → post (fm, fp, fd, fl, fr, nI n, fk, ft, a1, a2, a3, b4, b5, b6, b7, b8, b9, a10)) :
    wpX_insert_2 post (fm, fp, fd, fl, fr, nI n, fk, ft, a1, a2, a3, a4, a5, a6, a7, a8, a9, a10) (nI (k + 1)) := by
  unfold wpX_insert_2
  refine fun b6 e6 => hv_i10 hn' (fun b7 b8 b9 hb => ⟨4, ?_⟩)
  rw [hb_byte (k + 1) (by omega)] at e6
  have e1 : (fun c => if c = 0 then k + 1 else p c) 0 = k + 1 := by simp
  have e2 : ∀ c, c ≠ 0 → (fun c => if c = 0 then k + 1 else p c) c = p c := fun c hc => by simp [hc]
  generalize (fun c => if c = 0 then k + 1 else p c) = pq at e1 e2
  obtain ⟨w1, w2, w3⟩ := hu_new hP hE hV e1 e2
  have q6 : ∀ c, c ≤ n → b6 c = nI (pq c) := by
    intro c hc
    by_cases e : c = 0
    · rw [e6, e, pk_us, e1]
    · rw [e6, pk_un e, e2 c e]
      exact h6 c hc
  exact hv_i50 hn hn' (by omega) hkR hR hC hc q6 w1 (by rw [e1]; omega) H 3 0 4 (by omega) (by omega) a4 a5 b7 b8 b9 (fun _ => 0) (fun _ => 0) hF w3 hG w2
    ⟨rfl, fun i i1 i2 => absurd i2 (by omega), fun i j i1 i2 => absurd i2 (by omega), fun i i1 => absurd i1 (by omega), fun i i1 i2 => absurd i2 (by omega)⟩
    (fun c c1 c2 _ => Or.inl ⟨rfl, by rw [(hb c c2).1]; exact hb_28⟩)
    (fun c hc => ⟨fun _ i hi => absurd hi (by omega), fun _ => (hb c hc).2⟩)
theorem hv_m151 {post : Int32 → St2 → Prop} {fm fp fd fl fr fk ft : Int32} {a1 a2 a3 a4 a5 a6 a7 a8 a9 a10 : Nat → Int32} {n R : Nat} {K : Nat → Nat → Int} {p : Nat → Nat} (hn' : n < 24) (hR : R ≤ 3) (hC : hu_C n R K) (hc : ht_C fm fp fd fl fr (nI n) fk ft a1 a2 a3 n R K)
    (h6 : ∀ c, c ≤ n → a6 c = nI (p c)) (hp : ∀ c, c ≤ n → p c ≤ R) (H : ∀ s : Int32, s.toInt = hu_sum K p n → post s (fm, fp, fd, fl, fr, nI n, fk, ft, a1, a2, a3, a4, a5, a6, a7, a8, a9, a10)) :
    ∃ f, wX_match_2_151 post fm fp fd fl fr (nI n) fk ft a1 a2 a3 a4 a5 a6 a7 a8 a9 a10 f 0 1 := by
  refine pk_loop (σ := Int32) (fun f i s => wX_match_2_151 post fm fp fd fl fr (nI n) fk ft a1 a2 a3 a4 a5 a6 a7 a8 a9 a10 f s (nI (i + 1))) (fun i s => s.toInt = hu_sum K p i ∧ 0 ≤ s.toInt ∧ s.toInt ≤ 100000 * (i : Int)) n 0 0 (by omega) ⟨hb_0, by rw [hb_0]; omega, by rw [hb_0]; omega⟩ ?_ ?_
  · intro f s h
    exact pk_lt n (n + 1) (fun _ => H s h.1) (fun z => absurd z (by omega))
  · intro f i s hi h hw
    obtain ⟨s1, s2, s3⟩ := h
    have q := h6 (i + 1) (by omega)
    have q' := hp (i + 1) (by omega)
    refine pk_lt n (i + 1) (fun z => absurd z (by omega)) (fun _ => ⟨pk_in (i + 1) 24 (by omega), ?_⟩)
    rw [nI_clamp (show i + 1 < 2 ^ 31 by omega), q]
    refine pk_le (p (i + 1)) 0 (fun z => nm_r (nI_1 (i + 1)) (hw s ⟨?_, s2, by omega⟩)) (fun z => ⟨pk_in (i + 1) 24 (by omega), hc _ (p (i + 1)) (i + 1) _ _ _ _ _ _ _ (by omega) q' (by omega) (by omega) (fun x ex => nm_e (nm_r (nI_1 (i + 1)) (hw (s + x) ?_)))⟩)
    · show s.toInt = hu_sum K p i + (if p (i + 1) = 0 then 0 else K (p (i + 1)) (i + 1))
      rw [if_pos (by omega), s1]
      omega
    · have g := hC (p (i + 1)) (i + 1) (by omega) q' (by omega) (by omega)
      have e : (s + x).toInt = s.toInt + x.toInt := hb_add (by omega) (by omega)
      refine ⟨?_, by omega, by omega⟩
      show (s + x).toInt = hu_sum K p i + (if p (i + 1) = 0 then 0 else K (p (i + 1)) (i + 1))
      rw [if_neg (by omega), e, s1, ex]
theorem hv_m128 {post : Int32 → St2 → Prop} {fm fp fd fl fk ft : Int32} {a1 a2 a3 a4 a5 a6 a7 a8 a9 a10 : Nat → Int32} {n R : Nat} {K : Nat → Nat → Int} (hn : 5 ≤ n) (hn' : n < 24) (hR : R ≤ 3) (hC : hu_C n R K) (hc : ht_C fm fp fd fl (nI R) (nI n) fk ft a1 a2 a3 n R K)
    (h4 : ∀ r, r ≤ R → a4 r = 0) (h5 : ∀ c, c ≤ n → a5 c = 0) (h6 : ∀ c, c ≤ n → a6 c = 0)
    (H : ∀ (s : Int32) (b4 b5 b6 b7 b8 b9 : Nat → Int32), (R = 3 → hu_Min3 n K s.toInt) → (R = 2 → hu_Min2 n K s.toInt) → post s (fm, fp, fd, fl, nI R, nI n, fk, ft, a1, a2, a3, b4, b5, b6, b7, b8, b9, a10)) :
    ∃ f, wX_match_2_128 post f 1 fm fp fd fl (nI R) (nI n) fk ft a1 a2 a3 a4 a5 a6 a7 a8 a9 a10 := by
  refine pk_loop (σ := (Nat → Int32) × (Nat → Int32) × (Nat → Int32) × (Nat → Int32) × (Nat → Int32) × (Nat → Int32)) (fun f i s => wX_match_2_128 post f (nI (i + 1)) fm fp fd fl (nI R) (nI n) fk ft a1 a2 a3 s.1 s.2.1 s.2.2.1 s.2.2.2.1 s.2.2.2.2.1 s.2.2.2.2.2 a10)
    (fun i s => ∃ p : Nat → Nat, hu_F n R K s.1 s.2.1 ∧ hu_V n s.2.1 p ∧ hu_G R s.1 ∧ hu_P n i p 0 ∧ hu_E n K s.1 s.2.1 p 0 ∧ ∀ c, c ≤ n → s.2.2.1 c = nI (p c)) R 0 (a4, a5, a6, a7, a8, a9) (by omega) ?_ ?_ ?_
  · refine ⟨fun _ => 0, fun r c r1 r2 c1 c2 => ?_, ⟨fun c c1 c2 => ?_, fun c c1 c2 _ => ?_⟩, fun r r1 r2 => ?_, ⟨fun c hc => Nat.le_refl 0, fun c d _ _ _ _ z _ => absurd rfl z, fun r r1 r2 => absurd r2 (by omega)⟩, fun c _ _ _ z => absurd rfl z, fun c hc => ?_⟩
    · have g := (hC r c r1 r2 c1 c2).1
      show (a4 r).toInt + (a5 c).toInt ≤ K r c
      rw [h4 r r2, h5 c c2, hb_0]
      omega
    · show (a5 c).toInt ≤ 0
      rw [h5 c c2, hb_0]
      omega
    · show (a5 c).toInt = 0
      rw [h5 c c2, hb_0]
    · show 0 ≤ (a4 r).toInt
      rw [h4 r r2, hb_0]
      omega
    · show a6 c = nI 0
      rw [h6 c hc, nI_0]
  · intro f s h
    obtain ⟨b4, b5, b6, b7, b8, b9⟩ := s
    obtain ⟨p, q1, q2, q3, q4, q5, q6⟩ := h
    show wX_match_2_128 post (f + 1) (nI (R + 1)) fm fp fd fl (nI R) (nI n) fk ft a1 a2 a3 b4 b5 b6 b7 b8 b9 a10
    refine pk_lt R (R + 1) (fun _ => hv_m151 hn' hR hC hc q6 (fun c hc => q4.1 c hc) (fun s es => H s _ _ _ _ _ _ (fun e => ?_) (fun e => ?_))) (fun z => absurd z (by omega))
    · subst e
      rw [es]
      exact hu_min3 q1 q2 q4 q5
    · subst e
      rw [es]
      exact hu_min2 q1 q2 q4 q5
  · intro f i s hi h hw
    obtain ⟨b4, b5, b6, b7, b8, b9⟩ := s
    obtain ⟨p, q1, q2, q3, q4, q5, q6⟩ := h
    show wX_match_2_128 post (f + 1) (nI (i + 1)) fm fp fd fl (nI R) (nI n) fk ft a1 a2 a3 b4 b5 b6 b7 b8 b9 a10
    refine pk_lt R (i + 1) (fun z => absurd z (by omega)) (fun _ => hv_insert hn hn' (by omega) hR hC hc q6 q1 q2 q3 q4 q5 (fun d4 d5 d6 d7 d8 d9 pp w1 w2 w3 w4 w5 w6 => ?_))
    refine nm_r (nI_1 (i + 1)) ?_
    exact hw (d4, d5, d6, d7, d8, d9) ⟨pp, w1, w2, w3, w4, w5, w6⟩
theorem hv_m98 {post : Int32 → St2 → Prop} {fm fp fd fl fr fk ft : Int32} {a1 a2 a3 a4 a5 a6 a7 a8 a9 a10 : Nat → Int32} {n : Nat} (hn' : n < 24)
    (H : ∀ b5 b6 : Nat → Int32, (∀ c, c ≤ n → b5 c = 0 ∧ b6 c = 0) → ∃ f, wX_match_2_128 post f 1 fm fp fd fl fr (nI n) fk ft a1 a2 a3 a4 b5 b6 a7 a8 a9 a10) :
    ∃ f, wX_match_2_98 post fm fp fd fl fr (nI n) fk ft f 0 a1 a2 a3 a4 a5 a6 a7 a8 a9 a10 := by
  refine pk_loop (σ := (Nat → Int32) × (Nat → Int32)) (fun f i s => wX_match_2_98 post fm fp fd fl fr (nI n) fk ft f (nI i) a1 a2 a3 a4 s.1 s.2 a7 a8 a9 a10) (fun i s => ∀ c, c < i → s.1 c = 0 ∧ s.2 c = 0) (n + 1) 0 (a5, a6) (by omega) (fun c h => absurd h (by omega)) ?_ ?_
  · intro f s h
    exact pk_lt n (n + 1) (fun _ => H _ _ (fun c hc => h c (by omega))) (fun z => absurd z (by omega))
  · intro f i s hi h hw
    obtain ⟨b5, b6⟩ := s
    have h : ∀ c, c < i → b5 c = 0 ∧ b6 c = 0 := h
    show wX_match_2_98 post fm fp fd fl fr (nI n) fk ft (f + 1) (nI i) a1 a2 a3 a4 b5 b6 a7 a8 a9 a10
    refine pk_lt n i (fun z => absurd z (by omega)) (fun _ => ⟨pk_in i 24 (by omega), fun d5 e5 => ⟨pk_in i 24 (by omega), fun d6 e6 => nm_r (nI_1 i) (hw (d5, d6) (fun c hc => ?_))⟩⟩)
    rw [nI_clamp (show i < 2 ^ 31 by omega)] at e5 e6
    show d5 c = 0 ∧ d6 c = 0
    by_cases e : c = i
    · rw [e5, e6, e, pk_us, pk_us]
      exact ⟨rfl, rfl⟩
    · rw [e5, e6, pk_un e, pk_un e]
      exact h c (by omega)
theorem hv_m75 {post : Int32 → St2 → Prop} {fm fp fd fl fk ft : Int32} {a1 a2 a3 a4 a5 a6 a7 a8 a9 a10 : Nat → Int32} {n R : Nat} {K : Nat → Nat → Int} (hn : 5 ≤ n) (hn' : n < 24) (hR : R ≤ 3) (hC : hu_C n R K) (hc : ht_C fm fp fd fl (nI R) (nI n) fk ft a1 a2 a3 n R K)
    (H : ∀ (s : Int32) (b4 b5 b6 b7 b8 b9 : Nat → Int32), (R = 3 → hu_Min3 n K s.toInt) → (R = 2 → hu_Min2 n K s.toInt) → post s (fm, fp, fd, fl, nI R, nI n, fk, ft, a1, a2, a3, b4, b5, b6, b7, b8, b9, a10)) :
    ∃ f, wX_match_2_75 post fm fp fd fl (nI R) (nI n) fk ft f 0 a1 a2 a3 a4 a5 a6 a7 a8 a9 a10 := by
  refine pk_loop (σ := Nat → Int32) (fun f i s => wX_match_2_75 post fm fp fd fl (nI R) (nI n) fk ft f (nI i) a1 a2 a3 s a5 a6 a7 a8 a9 a10) (fun i s => ∀ c, c < i → s c = 0) (R + 1) 0 a4 (by omega) (fun c h => absurd h (by omega)) ?_ ?_
  · intro f s h
    exact pk_lt R (R + 1) (fun _ => hv_m98 hn' (fun b5 b6 hb => hv_m128 hn hn' hR hC hc (fun r hr => h r (by omega)) (fun c hc => (hb c hc).1) (fun c hc => (hb c hc).2) H)) (fun z => absurd z (by omega))
  · intro f i s hi h hw
    refine pk_lt R i (fun z => absurd z (by omega)) (fun _ => ⟨pk_in i 6 (by omega), fun d4 e4 => nm_r (nI_1 i) (hw d4 (fun c hc => ?_))⟩)
    rw [nI_clamp (show i < 2 ^ 31 by omega)] at e4
    by_cases e : c = i
    · rw [e4, e, pk_us]
    · rw [e4, pk_un e]
      exact h c (by omega)
theorem hv_m33_7 {post : Int32 → St2 → Prop} {fm fp fd fl fc fk ft : Int32} {a1 a2 a3 a4 a5 a6 a7 a8 a9 a10 : Nat → Int32}
    (H : ∀ b3 : Nat → Int32, b3 1 = nI 0 → b3 2 = nI 1 → b3 3 = nI 2 → ∃ f, wX_match_2_75 post fm fp fd fl (nI 3) fc fk ft f 0 a1 a2 b3 a4 a5 a6 a7 a8 a9 a10) :
    ∃ f, wX_match_2_33 post 7 fm fp fd fl fc fk ft f 0 0 a1 a2 a3 a4 a5 a6 a7 a8 a9 a10 := by
  refine ⟨6, pk_le 5 0 (fun z => absurd z (by omega)) (fun _ => br_f (by decide) (nm_r (e' := nI 1) (by decide) ⟨pk_in 1 6 (by omega), fun b1 e1 => nm_r (e' := nI 1) (by decide) ?_⟩))⟩
  refine pk_le 5 1 (fun z => absurd z (by omega)) (fun _ => br_f (by decide) (nm_r (e' := nI 2) (by decide) ⟨pk_in 2 6 (by omega), fun b2 e2 => nm_r (e' := nI 2) (by decide) ?_⟩))
  refine pk_le 5 2 (fun z => absurd z (by omega)) (fun _ => br_f (by decide) (nm_r (e' := nI 3) (by decide) ⟨pk_in 3 6 (by omega), fun b3 e3 => nm_r (e' := nI 3) (by decide) ?_⟩))
  refine pk_le 5 3 (fun z => absurd z (by omega)) (fun _ => br_t (by decide) (nm_r (e' := nI 4) (by decide) ?_))
  refine pk_le 5 4 (fun z => absurd z (by omega)) (fun _ => br_t (by decide) (nm_r (e' := nI 5) (by decide) ?_))
  refine pk_le 5 5 (fun _ => H b3 ?_ ?_ ?_) (fun z => absurd z (by omega))
  · rw [nI_clamp (by omega)] at e1 e2 e3
    rw [e3, pk_un (by omega), e2, pk_un (by omega), e1, pk_us]
    decide
  · rw [nI_clamp (by omega)] at e2 e3
    rw [e3, pk_un (by omega), e2, pk_us]
    decide
  · rw [nI_clamp (by omega)] at e3
    rw [e3, pk_us]
    decide
theorem hv_m33_6 {post : Int32 → St2 → Prop} {fm fp fd fl fc fk ft : Int32} {a1 a2 a3 a4 a5 a6 a7 a8 a9 a10 : Nat → Int32}
    (H : ∀ b3 : Nat → Int32, b3 1 = nI 1 → b3 2 = nI 2 → ∃ f, wX_match_2_75 post fm fp fd fl (nI 2) fc fk ft f 0 a1 a2 b3 a4 a5 a6 a7 a8 a9 a10) :
    ∃ f, wX_match_2_33 post 6 fm fp fd fl fc fk ft f 0 0 a1 a2 a3 a4 a5 a6 a7 a8 a9 a10 := by
  refine ⟨6, pk_le 5 0 (fun z => absurd z (by omega)) (fun _ => br_t (by decide) (nm_r (e' := nI 1) (by decide) ?_))⟩
  refine pk_le 5 1 (fun z => absurd z (by omega)) (fun _ => br_f (by decide) (nm_r (e' := nI 1) (by decide) ⟨pk_in 1 6 (by omega), fun b2 e2 => nm_r (e' := nI 2) (by decide) ?_⟩))
  refine pk_le 5 2 (fun z => absurd z (by omega)) (fun _ => br_f (by decide) (nm_r (e' := nI 2) (by decide) ⟨pk_in 2 6 (by omega), fun b3 e3 => nm_r (e' := nI 3) (by decide) ?_⟩))
  refine pk_le 5 3 (fun z => absurd z (by omega)) (fun _ => br_t (by decide) (nm_r (e' := nI 4) (by decide) ?_))
  refine pk_le 5 4 (fun z => absurd z (by omega)) (fun _ => br_t (by decide) (nm_r (e' := nI 5) (by decide) ?_))
  refine pk_le 5 5 (fun _ => H b3 ?_ ?_) (fun z => absurd z (by omega))
  · rw [nI_clamp (by omega)] at e2 e3
    rw [e3, pk_un (by omega), e2, pk_us]
    decide
  · rw [nI_clamp (by omega)] at e3
    rw [e3, pk_us]
    decide
end
section
/-! the costs of a question: M machines, lk = 1 when machine 0 is liked, T the times, O the open machines, jb the job of a row -/
def ft_m (M c : Nat) : Nat := if (c - 1) / 5 < M then (c - 1) / 5 else 0
def ft_q (c : Nat) : Nat := (c - 1) % 5 + 1
def ft_K (M lk : Nat) (T : Nat → Nat → Nat) (O : Nat → Nat) (jb : Nat → Nat) (r c : Nat) : Int :=
  if O (jb r) / 2 ^ ft_m M c % 2 = 0 then 100000 else ((8 * ft_q c * T (jb r) (ft_m M c) : Nat) : Int) - (if ft_m M c = 0 then (lk : Int) else 0)
def ft_ok (M n lk : Nat) (fm fd fl : Int32) (a1 a2 : Nat → Int32) (T : Nat → Nat → Nat) (O : Nat → Nat) : Prop :=
  fm = nI M ∧ 1 ≤ M ∧ M ≤ 2 ∧ ((fd = -1 ∧ n = 5 * M) ∨ (fd = 0 ∧ n = 5 * M + 5)) ∧ ((fl = -1 ∧ lk = 0) ∨ (fl = 0 ∧ lk = 1 ∧ ∀ j, j < 3 → 1 ≤ T j 0)) ∧
  (∀ j, j < 3 → a2 j = nI (O j) ∧ O j < 4) ∧ (∀ j m, j < 3 → m < M → a1 (j * 3 + m) = nI (T j m) ∧ T j m ≤ 15)
theorem ft_bit : ∀ o, o < 4 → ∀ m, m < 2 → (((nI o >>> (nI m &&& 31)) &&& 1 = 0) ↔ o / 2 ^ m % 2 = 0) := by decide +kernel
theorem ft_mM {M c : Nat} (h : 1 ≤ M) : ft_m M c < M := by
  unfold ft_m
  split <;> omega
theorem ft_qb (c : Nat) : 1 ≤ ft_q c ∧ ft_q c ≤ 5 := by
  unfold ft_q
  omega
theorem ft_pb {q t : Nat} (hq : q ≤ 5) (ht : t ≤ 15) : 8 * q * t ≤ 600 := by
  have : 8 * q * t ≤ 40 * 15 := Nat.mul_le_mul (by omega) ht
  omega
theorem ft_pp {q t : Nat} (hq : 1 ≤ q) (ht : 1 ≤ t) : 8 ≤ 8 * q * t := by
  have : 8 * 1 ≤ 8 * q * t := Nat.mul_le_mul (by omega) ht
  omega
theorem ft_C {M n lk R : Nat} {fm fd fl : Int32} {a1 a2 : Nat → Int32} {T : Nat → Nat → Nat} {O jb : Nat → Nat} (h : ft_ok M n lk fm fd fl a1 a2 T O) (hj : ∀ r, 1 ≤ r → r ≤ R → jb r < 3) : hu_C n R (ft_K M lk T O jb) := by
  obtain ⟨_, m1, m2, _, hl, h2, h1⟩ := h
  intro r c r1 r2 c1 c2
  have hm := ft_mM (c := c) m1
  have hq := ft_qb c
  have t1 := (h1 (jb r) _ (hj r r1 r2) hm).2
  have pb := ft_pb hq.2 t1
  unfold ft_K
  by_cases e : O (jb r) / 2 ^ ft_m M c % 2 = 0
  · rw [if_pos e]
    omega
  · rw [if_neg e]
    by_cases e2 : ft_m M c = 0
    · rw [if_pos e2]
      rcases hl with ⟨_, l⟩ | ⟨_, l, g⟩
      · omega
      · have g := g (jb r) (hj r r1 r2)
        rw [← e2] at g
        have pp := ft_pp hq.1 g
        omega
    · rw [if_neg e2]
      omega
theorem ft_cost {fm fp fd fl fr fc fk ft : Int32} {a1 a2 a3 : Nat → Int32} {M n lk R : Nat} {T : Nat → Nat → Nat} {O jb : Nat → Nat} (h : ft_ok M n lk fm fd fl a1 a2 T O) (hR : R ≤ 3) (hj : ∀ r, 1 ≤ r → r ≤ R → a3 r = nI (jb r) ∧ jb r < 3) : ht_C fm fp fd fl fr fc fk ft a1 a2 a3 n R (ft_K M lk T O jb) := by
  obtain ⟨em, m1, m2, hd, hl, h2, h1⟩ := h
  intro ψ r c a4 a5 a6 a7 a8 a9 a10 r1 r2 c1 c2 H
  obtain ⟨j1, j2⟩ := hj r r1 r2
  have hm := ft_mM (c := c) m1
  have hq := ft_qb c
  obtain ⟨t0, t1⟩ := h1 (jb r) _ j2 hm
  obtain ⟨o0, o1⟩ := h2 (jb r) j2
  have pb := ft_pb hq.2 t1
  have hs : nI c - 1 = nI (c - 1) := pk_sub (b := 1) c1
  have hdv : nI (c - 1) / 5 = nI ((c - 1) / 5) := pk_div (d := 5) (by omega) (by omega) (by omega)
  have hrm : nI (c - 1) - nI (c - 1) / 5 * 5 = nI ((c - 1) % 5) := pk_rem (d := 5) (by omega) (by omega) (by omega)
  have mAt : ∀ φ : Int32 → Prop, φ (nI (ft_m M c)) → wpX_machineAt φ (fm, fp, fd, fl, fr, fc, fk, ft, a1, a2, a3, a4, a5, a6, a7, a8, a9, a10) (nI c) := by
    intro φ hφ
    unfold wpX_machineAt
    refine ⟨by decide, fun x2 e2 => ?_⟩
    rw [hs, hdv] at e2
    subst e2
    rw [em]
    refine pk_le M ((c - 1) / 5) (fun z => ?_) (fun z => ?_)
    · rcases hd with ⟨_, e⟩ | ⟨e, _⟩
      · omega
      · have e3 : ft_m M c = 0 := by
          unfold ft_m
          rw [if_neg (by omega)]
        rw [e, ← nI_0, ← e3]
        exact hφ
    · have e3 : ft_m M c = (c - 1) / 5 := by
        unfold ft_m
        rw [if_pos (by omega)]
      rw [← e3]
      exact hφ
  unfold wpX_costOf
  refine ⟨pk_in r 6 (by omega), fun x3 e3 => ?_⟩
  rw [nI_clamp (by omega), j1] at e3
  subst e3
  refine mAt _ ?_
  refine br_f (nI_pos (by omega)) ⟨pk_in (jb r) 5 (by omega), ?_⟩
  rw [nI_clamp (show jb r < 2 ^ 31 by omega), o0]
  have ix : nI (jb r) * 3 + nI (ft_m M c) = nI (jb r * 3 + ft_m M c) := by
    rw [← nI_add, ← pk_mul]
    rfl
  refine br_c (fun g => H _ ?_) (fun g => ⟨by decide, fun x5 e5 => ?_⟩)
  · have g := (ft_bit _ o1 _ (by omega)).mp g
    unfold ft_K
    rw [if_pos g, hb_never]
  · have g : ¬ O (jb r) / 2 ^ ft_m M c % 2 = 0 := fun z => g ((ft_bit _ o1 _ (by omega)).mpr z)
    rw [hs, hrm] at e5
    have e5' : x5 = nI (ft_q c) := by
      rw [e5]
      exact nI_1 ((c - 1) % 5)
    subst e5'
    rw [ix, nI_clamp (by omega), t0]
    refine ⟨pk_in (jb r * 3 + ft_m M c) 15 (by omega), fun x6 e6 => ?_⟩
    have e6' : x6 = nI (8 * ft_q c * T (jb r) (ft_m M c)) := by
      rw [e6, ← pk_mul, ← pk_mul]
      rfl
    have v6 : x6.toInt = ((8 * ft_q c * T (jb r) (ft_m M c) : Nat) : Int) := by
      rw [e6', nI_toInt (by omega)]
    refine br_c (fun w => H _ ?_) (fun w => H _ ?_)
    · unfold ft_K
      rw [if_neg g]
      rcases hl with ⟨l, _⟩ | ⟨l, l1, lp⟩
      · rw [l] at w
        have : (nI (ft_m M c)).toInt = (-1 : Int32).toInt := by rw [w]
        rw [nI_toInt (by omega), show ((-1 : Int32).toInt) = -1 by decide] at this
        omega
      · rw [l, ← nI_0] at w
        have w := hb_inj (by omega) (by omega) w
        rw [if_pos w, hb_sub (by rw [hb_1]; omega) (by rw [hb_1]; omega), hb_1, v6, l1]
        rfl
    · unfold ft_K
      rw [if_neg g, v6]
      rcases hl with ⟨_, l⟩ | ⟨l, _, _⟩
      · rw [l]
        split <;> omega
      · rw [l, ← nI_0] at w
        rw [if_neg (fun z => w (by rw [z]))]
        omega
/-- the columns of the question -/
theorem ft_cols {M n lk : Nat} {fm fd fl : Int32} {a1 a2 : Nat → Int32} {T : Nat → Nat → Nat} {O : Nat → Nat} (h : ft_ok M n lk fm fd fl a1 a2 T O) : 5 ≤ n ∧ n < 24 ∧ ((fd < 0 ∧ fm * 5 = nI n) ∨ (¬ fd < 0 ∧ (fm + 1) * 5 = nI n)) := by
  obtain ⟨em, m1, m2, hd, _⟩ := h
  rcases hd with ⟨e, en⟩ | ⟨e, en⟩
  · refine ⟨by omega, by omega, Or.inl ⟨by rw [e]; decide, ?_⟩⟩
    rw [em, en, Nat.mul_comm 5 M, ← pk_mul]
    rfl
  · refine ⟨by omega, by omega, Or.inr ⟨by rw [e]; decide, ?_⟩⟩
    rw [em, en, nI_1, show 5 * M + 5 = (M + 1) * 5 by omega, ← pk_mul]
    rfl
end
section
/-! match over the jobs 0, 1, 2 and over the jobs 1, 2 -/
theorem ft_match7 {post : Int32 → St2 → Prop} {fm fp fd fl fr fc fk ft : Int32} {a1 a2 a3 a4 a5 a6 a7 a8 a9 a10 : Nat → Int32} {M n lk : Nat} {T : Nat → Nat → Nat} {O : Nat → Nat} (h : ft_ok M n lk fm fd fl a1 a2 T O)
    (H : ∀ (s gr gc : Int32) (b3 b4 b5 b6 b7 b8 b9 : Nat → Int32), hu_Min3 n (ft_K M lk T O (fun r => r - 1)) s.toInt → post s (fm, fp, fd, fl, gr, gc, fk, ft, a1, a2, b3, b4, b5, b6, b7, b8, b9, a10)) : wpX_match post (fm, fp, fd, fl, fr, fc, fk, ft, a1, a2, a3, a4, a5, a6, a7, a8, a9, a10) 7 := by
  obtain ⟨n1, n2, hcol⟩ := ft_cols h
  have key : ∃ f, wX_match_33 post 7 fm fp fd fl (nI n) fk ft f 0 0 a1 a2 a3 a4 a5 a6 a7 a8 a9 a10 := by
    refine ht_m33_7 (fun b3 e1 e2 e3 => ?_)
    have hj : ∀ r, 1 ≤ r → r ≤ 3 → b3 r = nI ((fun r => r - 1) r) ∧ (fun r => r - 1) r < 3 := by
      intro r r1 r2
      have : r = 1 ∨ r = 2 ∨ r = 3 := by omega
      rcases this with e | e | e
      · subst e
        exact ⟨e1, by decide⟩
      · subst e
        exact ⟨e2, by decide⟩
      · subst e
        exact ⟨e3, by decide⟩
    exact ht_m75 n1 n2 (by omega) (ft_C h (fun r r1 r2 => (hj r r1 r2).2)) (ft_cost h (by omega) hj) (fun s b4 b5 b6 b7 b8 b9 g _ => H s _ _ _ _ _ _ _ _ _ (g rfl))
  unfold wpX_match
  rcases hcol with ⟨g, e⟩ | ⟨g, e⟩
  · exact br_t g (nm_r e key)
  · exact br_f g (nm_r e key)
theorem ft_match6 {post : Int32 → St2 → Prop} {fm fp fd fl fr fc fk ft : Int32} {a1 a2 a3 a4 a5 a6 a7 a8 a9 a10 : Nat → Int32} {M n lk : Nat} {T : Nat → Nat → Nat} {O : Nat → Nat} (h : ft_ok M n lk fm fd fl a1 a2 T O)
    (H : ∀ (s gr gc : Int32) (b3 b4 b5 b6 b7 b8 b9 : Nat → Int32), hu_Min2 n (ft_K M lk T O (fun r => r)) s.toInt → post s (fm, fp, fd, fl, gr, gc, fk, ft, a1, a2, b3, b4, b5, b6, b7, b8, b9, a10)) : wpX_match post (fm, fp, fd, fl, fr, fc, fk, ft, a1, a2, a3, a4, a5, a6, a7, a8, a9, a10) 6 := by
  obtain ⟨n1, n2, hcol⟩ := ft_cols h
  have key : ∃ f, wX_match_33 post 6 fm fp fd fl (nI n) fk ft f 0 0 a1 a2 a3 a4 a5 a6 a7 a8 a9 a10 := by
    refine ht_m33_6 (fun b3 e1 e2 => ?_)
    have hj : ∀ r, 1 ≤ r → r ≤ 2 → b3 r = nI ((fun r => r) r) ∧ (fun r => r) r < 3 := by
      intro r r1 r2
      have : r = 1 ∨ r = 2 := by omega
      rcases this with e | e
      · subst e
        exact ⟨e1, by decide⟩
      · subst e
        exact ⟨e2, by decide⟩
    exact ht_m75 n1 n2 (by omega) (ft_C h (fun r r1 r2 => (hj r r1 r2).2)) (ft_cost h (by omega) hj) (fun s b4 b5 b6 b7 b8 b9 _ g => H s _ _ _ _ _ _ _ _ _ (g rfl))
  unfold wpX_match
  rcases hcol with ⟨g, e⟩ | ⟨g, e⟩
  · exact br_t g (nm_r e key)
  · exact br_f g (nm_r e key)
theorem fv_match7 {post : Int32 → St2 → Prop} {fm fp fd fl fr fc fk ft : Int32} {a1 a2 a3 a4 a5 a6 a7 a8 a9 a10 : Nat → Int32} {M n lk : Nat} {T : Nat → Nat → Nat} {O : Nat → Nat} (h : ft_ok M n lk fm fd fl a1 a2 T O)
    (H : ∀ (s gr gc : Int32) (b3 b4 b5 b6 b7 b8 b9 : Nat → Int32), hu_Min3 n (ft_K M lk T O (fun r => r - 1)) s.toInt → post s (fm, fp, fd, fl, gr, gc, fk, ft, a1, a2, b3, b4, b5, b6, b7, b8, b9, a10)) : wpX_match_2 post (fm, fp, fd, fl, fr, fc, fk, ft, a1, a2, a3, a4, a5, a6, a7, a8, a9, a10) 7 := by
  obtain ⟨n1, n2, hcol⟩ := ft_cols h
  have key : ∃ f, wX_match_2_33 post 7 fm fp fd fl (nI n) fk ft f 0 0 a1 a2 a3 a4 a5 a6 a7 a8 a9 a10 := by
    refine hv_m33_7 (fun b3 e1 e2 e3 => ?_)
    have hj : ∀ r, 1 ≤ r → r ≤ 3 → b3 r = nI ((fun r => r - 1) r) ∧ (fun r => r - 1) r < 3 := by
      intro r r1 r2
      have : r = 1 ∨ r = 2 ∨ r = 3 := by omega
      rcases this with e | e | e
      · subst e
        exact ⟨e1, by decide⟩
      · subst e
        exact ⟨e2, by decide⟩
      · subst e
        exact ⟨e3, by decide⟩
    exact hv_m75 n1 n2 (by omega) (ft_C h (fun r r1 r2 => (hj r r1 r2).2)) (ft_cost h (by omega) hj) (fun s b4 b5 b6 b7 b8 b9 g _ => H s _ _ _ _ _ _ _ _ _ (g rfl))
  unfold wpX_match_2
  rcases hcol with ⟨g, e⟩ | ⟨g, e⟩
  · exact br_t g (nm_r e key)
  · exact br_f g (nm_r e key)
/-- eighths, rounded up; -1 when there is no plan -/
def ft_tot (s : Int) : Int32 := if s < 100000 then nI ((s.toNat + 7) / 8) else -1
theorem ft_tot_p {r : Int32} (h0 : 0 ≤ r.toInt) (h1 : r.toInt ≤ 300000) {P : Int32 → Prop} (H : P (ft_tot r.toInt)) : (r < 100000 → P ((r + 7) >>> ((3 : Int32) &&& 31))) ∧ (¬ r < 100000 → P (-1)) := by
  unfold ft_tot at H
  refine br_c (fun g => ?_) (fun g => ?_)
  · have g := hb_lt.mp g
    rw [hb_never] at g
    rw [if_pos g] at H
    have e : r = nI r.toInt.toNat := hb_nI (by omega) (by omega)
    have e2 : (r + 7) >>> ((3 : Int32) &&& 31) = nI ((r.toInt.toNat + 7) / 8) := by
      have e3 : r + 7 = nI (r.toInt.toNat + 7) := by
        rw [← nI_add, ← e]
        rfl
      rw [e3]
      exact pk_shrN (by omega) _ 3 (by decide)
    rw [e2]
    exact H
  · have g : ¬ r.toInt < 100000 := fun z => g (hb_lt.mpr (by rw [hb_never]; exact z))
    rw [if_neg g] at H
    exact H
theorem ft_b3 {n : Nat} {K : Nat → Nat → Int} {s : Int} (hC : hu_C n 3 K) (h : hu_Min3 n K s) : 0 ≤ s ∧ s ≤ 300000 := by
  obtain ⟨⟨c1, c2, c3, h1, h2, h3, h4, h5, h6, _, _, _, e⟩, _⟩ := h
  have g1 := hC 1 c1 (by omega) (by omega) h1 h2
  have g2 := hC 2 c2 (by omega) (by omega) h3 h4
  have g3 := hC 3 c3 (by omega) (by omega) h5 h6
  omega
theorem ft_b2 {n : Nat} {K : Nat → Nat → Int} {s : Int} (hC : hu_C n 2 K) (h : hu_Min2 n K s) : 0 ≤ s ∧ s ≤ 300000 := by
  obtain ⟨⟨c1, c2, h1, h2, h3, h4, _, e⟩, _⟩ := h
  have g1 := hC 1 c1 (by omega) (by omega) h1 h2
  have g2 := hC 2 c2 (by omega) (by omega) h3 h4
  omega
theorem ft_total7 {post : Int32 → St2 → Prop} {fm fp fd fl fr fc fk ft : Int32} {a1 a2 a3 a4 a5 a6 a7 a8 a9 a10 : Nat → Int32} {M n lk : Nat} {T : Nat → Nat → Nat} {O : Nat → Nat} (h : ft_ok M n lk fm fd fl a1 a2 T O)
    (H : ∀ (s : Int) (gr gc : Int32) (b3 b4 b5 b6 b7 b8 b9 : Nat → Int32), hu_Min3 n (ft_K M lk T O (fun r => r - 1)) s → post (ft_tot s) (fm, fp, fd, fl, gr, gc, fk, ft, a1, a2, b3, b4, b5, b6, b7, b8, b9, a10)) : wpX_totalOf post (fm, fp, fd, fl, fr, fc, fk, ft, a1, a2, a3, a4, a5, a6, a7, a8, a9, a10) 7 := by
  unfold wpX_totalOf
  refine ft_match7 h (fun s gr gc b3 b4 b5 b6 b7 b8 b9 g => ?_)
  have b := ft_b3 (ft_C h (fun r r1 r2 => by show r - 1 < 3; omega)) g
  exact ft_tot_p (P := fun x => post x (fm, fp, fd, fl, gr, gc, fk, ft, a1, a2, b3, b4, b5, b6, b7, b8, b9, a10)) b.1 b.2 (H s.toInt gr gc b3 b4 b5 b6 b7 b8 b9 g)
theorem ft_total6 {post : Int32 → St2 → Prop} {fm fp fd fl fr fc fk ft : Int32} {a1 a2 a3 a4 a5 a6 a7 a8 a9 a10 : Nat → Int32} {M n lk : Nat} {T : Nat → Nat → Nat} {O : Nat → Nat} (h : ft_ok M n lk fm fd fl a1 a2 T O)
    (H : ∀ (s : Int) (gr gc : Int32) (b3 b4 b5 b6 b7 b8 b9 : Nat → Int32), hu_Min2 n (ft_K M lk T O (fun r => r)) s → post (ft_tot s) (fm, fp, fd, fl, gr, gc, fk, ft, a1, a2, b3, b4, b5, b6, b7, b8, b9, a10)) : wpX_totalOf post (fm, fp, fd, fl, fr, fc, fk, ft, a1, a2, a3, a4, a5, a6, a7, a8, a9, a10) 6 := by
  unfold wpX_totalOf
  refine ft_match6 h (fun s gr gc b3 b4 b5 b6 b7 b8 b9 g => ?_)
  have b := ft_b2 (ft_C h (fun r r1 r2 => by show r < 3; omega)) g
  exact ft_tot_p (P := fun x => post x (fm, fp, fd, fl, gr, gc, fk, ft, a1, a2, b3, b4, b5, b6, b7, b8, b9, a10)) b.1 b.2 (H s.toInt gr gc b3 b4 b5 b6 b7 b8 b9 g)
theorem fv_total7 {post : Int32 → St2 → Prop} {fm fp fd fl fr fc fk ft : Int32} {a1 a2 a3 a4 a5 a6 a7 a8 a9 a10 : Nat → Int32} {M n lk : Nat} {T : Nat → Nat → Nat} {O : Nat → Nat} (h : ft_ok M n lk fm fd fl a1 a2 T O)
    (H : ∀ (s : Int) (gr gc : Int32) (b3 b4 b5 b6 b7 b8 b9 : Nat → Int32), hu_Min3 n (ft_K M lk T O (fun r => r - 1)) s → post (ft_tot s) (fm, fp, fd, fl, gr, gc, fk, ft, a1, a2, b3, b4, b5, b6, b7, b8, b9, a10)) : wpX_totalOf_2 post (fm, fp, fd, fl, fr, fc, fk, ft, a1, a2, a3, a4, a5, a6, a7, a8, a9, a10) 7 := by
  unfold wpX_totalOf_2
  refine fv_match7 h (fun s gr gc b3 b4 b5 b6 b7 b8 b9 g => ?_)
  have b := ft_b3 (ft_C h (fun r r1 r2 => by show r - 1 < 3; omega)) g
  exact ft_tot_p (P := fun x => post x (fm, fp, fd, fl, gr, gc, fk, ft, a1, a2, b3, b4, b5, b6, b7, b8, b9, a10)) b.1 b.2 (H s.toInt gr gc b3 b4 b5 b6 b7 b8 b9 g)
end
section
/-! the least totals of the law's questions -/
theorem fm_pl (q x : Nat) (h : 1 ≤ q) : (q = 1 ∧ 8 * q * x = 8 * x) ∨ (q = 2 ∧ 8 * q * x = 16 * x) ∨ (q = 3 ∧ 8 * q * x = 24 * x) ∨ (4 ≤ q ∧ 24 * x ≤ 8 * q * x) := by
  have h4 : q = 1 ∨ q = 2 ∨ q = 3 ∨ 4 ≤ q := by omega
  rcases h4 with e | e | e | e
  · subst e
    exact Or.inl ⟨rfl, rfl⟩
  · subst e
    exact Or.inr (Or.inl ⟨rfl, rfl⟩)
  · subst e
    exact Or.inr (Or.inr (Or.inl ⟨rfl, rfl⟩))
  · exact Or.inr (Or.inr (Or.inr ⟨e, Nat.mul_le_mul (by omega) (Nat.le_refl x)⟩))
/-- one machine (twice at most): the cost k of column c for a job of time x -/
def fm_R1 (lk x c : Nat) (k : Int) : Prop :=
  ((c = 1 ∨ c = 6) ∧ k = 8 * (x : Int) - lk) ∨ ((c = 2 ∨ c = 7) ∧ k = 16 * (x : Int) - lk) ∨ ((c = 3 ∨ c = 8) ∧ k = 24 * (x : Int) - lk) ∨ (4 ≤ c ∧ c ≠ 6 ∧ c ≠ 7 ∧ c ≠ 8 ∧ 24 * (x : Int) - lk ≤ k)
/-- two machines, o those that are open -/
def fm_R2 (lk x o c : Nat) (k : Int) : Prop :=
  (c ≤ 5 ∧ o % 2 = 0 ∧ k = 100000) ∨ (6 ≤ c ∧ o / 2 % 2 = 0 ∧ k = 100000) ∨
  (o % 2 = 1 ∧ ((c = 1 ∧ k = 8 * (x : Int) - lk) ∨ (c = 2 ∧ k = 16 * (x : Int) - lk) ∨ (c = 3 ∧ k = 24 * (x : Int) - lk) ∨ (4 ≤ c ∧ c ≤ 5 ∧ 24 * (x : Int) - lk ≤ k))) ∨
  (o / 2 % 2 = 1 ∧ ((c = 6 ∧ k = 8 * (x : Int)) ∨ (c = 7 ∧ k = 16 * (x : Int)) ∨ (c = 8 ∧ k = 24 * (x : Int)) ∨ (9 ≤ c ∧ 24 * (x : Int) ≤ k)))
theorem fm_r1 {lk x r c : Nat} {T : Nat → Nat → Nat} {O jb : Nat → Nat} (hO : O (jb r) = 1) (hT : T (jb r) 0 = x) (c1 : 1 ≤ c) (c2 : c ≤ 10) : fm_R1 lk x c (ft_K 1 lk T O jb r c) := by
  have em : ft_m 1 c = 0 := by
    unfold ft_m
    split <;> omega
  have q := fm_pl (ft_q c) x (ft_qb c).1
  unfold ft_K
  rw [hO, em, if_neg (by decide), if_pos rfl, hT]
  unfold ft_q at q ⊢
  unfold fm_R1
  generalize 8 * ((c - 1) % 5 + 1) * x = P at *
  omega
theorem fm_r2 {lk x o r c : Nat} {T : Nat → Nat → Nat} {O jb : Nat → Nat} (hO : O (jb r) = o) (h0 : o % 2 = 1 → T (jb r) 0 = x) (h1 : o / 2 % 2 = 1 → T (jb r) 1 = x) (c1 : 1 ≤ c) (c2 : c ≤ 10) : fm_R2 lk x o c (ft_K 2 lk T O jb r c) := by
  have q := fm_pl (ft_q c) x (ft_qb c).1
  unfold ft_K
  rw [hO]
  by_cases e : c ≤ 5
  · have em : ft_m 2 c = 0 := by
      unfold ft_m
      split <;> omega
    rw [em, if_pos rfl, show o / 2 ^ 0 = o by simp]
    by_cases g : o % 2 = 0
    · rw [if_pos g]
      exact Or.inl ⟨e, g, rfl⟩
    · rw [if_neg g, h0 (by omega)]
      unfold ft_q at q ⊢
      refine Or.inr (Or.inr (Or.inl ⟨by omega, ?_⟩))
      generalize 8 * ((c - 1) % 5 + 1) * x = P at *
      omega
  · have em : ft_m 2 c = 1 := by
      unfold ft_m
      split <;> omega
    rw [em, if_neg (show ¬ (1 = 0) by decide), show o / 2 ^ 1 = o / 2 by simp]
    by_cases g : o / 2 % 2 = 0
    · rw [if_pos g]
      exact Or.inr (Or.inl ⟨by omega, g, rfl⟩)
    · rw [if_neg g, h1 (by omega)]
      unfold ft_q at q ⊢
      refine Or.inr (Or.inr (Or.inr ⟨by omega, ?_⟩))
      generalize 8 * ((c - 1) % 5 + 1) * x = P at *
      omega
/-- the first two places of each machine and all that is dearer -/
theorem fm_lo1 {lk x c : Nat} {k : Int} (h : fm_R1 lk x c k) : (c = 1 ∧ 8 * (x : Int) - lk ≤ k) ∨ (c = 6 ∧ 8 * (x : Int) - lk ≤ k) ∨ (c ≠ 1 ∧ c ≠ 6 ∧ 16 * (x : Int) - lk ≤ k) := by
  unfold fm_R1 at h
  omega
theorem fm_lo2 {lk x o c : Nat} {k : Int} (hx : x ≤ 15) (h : fm_R2 lk x o c k) : (c = 1 ∧ 8 * (x : Int) - lk ≤ k) ∨ (c = 6 ∧ 8 * (x : Int) ≤ k) ∨ (c ≠ 1 ∧ c ≠ 6 ∧ 16 * (x : Int) - lk ≤ k) := by
  unfold fm_R2 at h
  omega
/-- two places of the first price, three jobs -/
theorem fm_low {a b c c1 c2 c3 lk : Nat} {k1 k2 k3 : Int} (ha : 1 ≤ a) (hb : 1 ≤ b) (hc : 1 ≤ c) (hl : lk ≤ 1) (d12 : c1 ≠ c2) (d13 : c1 ≠ c3) (d23 : c2 ≠ c3)
    (h1 : (c1 = 1 ∧ 8 * (a : Int) - lk ≤ k1) ∨ (c1 = 6 ∧ 8 * (a : Int) ≤ k1) ∨ (c1 ≠ 1 ∧ c1 ≠ 6 ∧ 16 * (a : Int) - lk ≤ k1))
    (h2 : (c2 = 1 ∧ 8 * (b : Int) - lk ≤ k2) ∨ (c2 = 6 ∧ 8 * (b : Int) ≤ k2) ∨ (c2 ≠ 1 ∧ c2 ≠ 6 ∧ 16 * (b : Int) - lk ≤ k2))
    (h3 : (c3 = 1 ∧ 8 * (c : Int) - lk ≤ k3) ∨ (c3 = 6 ∧ 8 * (c : Int) ≤ k3) ∨ (c3 ≠ 1 ∧ c3 ≠ 6 ∧ 16 * (c : Int) - lk ≤ k3)) :
    8 * ((a + b + c + min a (min b c) : Nat) : Int) - 2 * lk ≤ k1 + k2 + k3 := by
  have m1 : min a (min b c) ≤ a := by omega
  have m2 : min a (min b c) ≤ b := by omega
  have m3 : min a (min b c) ≤ c := by omega
  generalize min a (min b c) = m at *
  rcases h1 with ⟨_, _⟩ | ⟨_, _⟩ | ⟨_, _, _⟩ <;> rcases h2 with ⟨_, _⟩ | ⟨_, _⟩ | ⟨_, _, _⟩ <;> rcases h3 with ⟨_, _⟩ | ⟨_, _⟩ | ⟨_, _, _⟩ <;> omega
/-- one machine: three places in a row -/
theorem fm_alone {a b c c1 c2 c3 lk : Nat} {k1 k2 k3 : Int} (d12 : c1 ≠ c2) (d13 : c1 ≠ c3) (d23 : c2 ≠ c3) (e : Nat)
    (h1 : (c1 = e ∧ 8 * (a : Int) - lk ≤ k1) ∨ (c1 = e + 1 ∧ 16 * (a : Int) - lk ≤ k1) ∨ (c1 ≠ e ∧ c1 ≠ e + 1 ∧ 24 * (a : Int) - lk ≤ k1))
    (h2 : (c2 = e ∧ 8 * (b : Int) - lk ≤ k2) ∨ (c2 = e + 1 ∧ 16 * (b : Int) - lk ≤ k2) ∨ (c2 ≠ e ∧ c2 ≠ e + 1 ∧ 24 * (b : Int) - lk ≤ k2))
    (h3 : (c3 = e ∧ 8 * (c : Int) - lk ≤ k3) ∨ (c3 = e + 1 ∧ 16 * (c : Int) - lk ≤ k3) ∨ (c3 ≠ e ∧ c3 ≠ e + 1 ∧ 24 * (c : Int) - lk ≤ k3)) :
    8 * (2 * ((a + b + c : Nat) : Int) + (min a (min b c) : Nat) - (max a (max b c) : Nat)) - 3 * lk ≤ k1 + k2 + k3 := by
  rcases h1 with ⟨_, _⟩ | ⟨_, _⟩ | ⟨_, _, _⟩ <;> rcases h2 with ⟨_, _⟩ | ⟨_, _⟩ | ⟨_, _, _⟩ <;> rcases h3 with ⟨_, _⟩ | ⟨_, _⟩ | ⟨_, _, _⟩ <;> omega
/-- one machine alone -/
theorem fm_1 {a b c lk : Nat} {T : Nat → Nat → Nat} {O : Nat → Nat} {s : Int} (o0 : O 0 = 1) (o1 : O 1 = 1) (o2 : O 2 = 1) (t0 : T 0 0 = a) (t1 : T 1 0 = b) (t2 : T 2 0 = c)
    (h : hu_Min3 5 (ft_K 1 lk T O (fun r => r - 1)) s) : s = 8 * (2 * ((a + b + c : Nat) : Int) + (min a (min b c) : Nat) - (max a (max b c) : Nat)) - 3 * lk := by
  obtain ⟨⟨c1, c2, c3, h1, h2, h3, h4, h5, h6, d12, d13, d23, e⟩, m⟩ := h
  have R1 : ∀ x, 1 ≤ x → x ≤ 10 → fm_R1 lk a x (ft_K 1 lk T O (fun r => r - 1) 1 x) := fun x x1 x2 => fm_r1 o0 t0 x1 x2
  have R2 : ∀ x, 1 ≤ x → x ≤ 10 → fm_R1 lk b x (ft_K 1 lk T O (fun r => r - 1) 2 x) := fun x x1 x2 => fm_r1 o1 t1 x1 x2
  have R3 : ∀ x, 1 ≤ x → x ≤ 10 → fm_R1 lk c x (ft_K 1 lk T O (fun r => r - 1) 3 x) := fun x x1 x2 => fm_r1 o2 t2 x1 x2
  generalize ft_K 1 lk T O (fun r => r - 1) = K at *
  have lo : ∀ (k : Int) (x t : Nat), x ≤ 5 → fm_R1 lk t x k → (x = 1 ∧ 8 * (t : Int) - lk ≤ k) ∨ (x = 1 + 1 ∧ 16 * (t : Int) - lk ≤ k) ∨ (x ≠ 1 ∧ x ≠ 1 + 1 ∧ 24 * (t : Int) - lk ≤ k) := by
    intro k x t hx g
    unfold fm_R1 at g
    omega
  have L := fm_alone d12 d13 d23 1 (lo _ _ _ h2 (R1 c1 h1 (by omega))) (lo _ _ _ h4 (R2 c2 h3 (by omega))) (lo _ _ _ h6 (R3 c3 h5 (by omega)))
  have v : ∀ (k : Int) (x t : Nat), 1 ≤ x → x ≤ 3 → fm_R1 lk t x k → k = 8 * ((x * t : Nat) : Int) - lk := by
    intro k x t x1 x2 g
    have : x = 1 ∨ x = 2 ∨ x = 3 := by omega
    unfold fm_R1 at g
    rcases this with e | e | e <;> subst e <;> omega
  have a1 := v _ 1 a (by omega) (by omega) (R1 1 (by omega) (by omega))
  have a2 := v _ 2 a (by omega) (by omega) (R1 2 (by omega) (by omega))
  have a3 := v _ 3 a (by omega) (by omega) (R1 3 (by omega) (by omega))
  have b1 := v _ 1 b (by omega) (by omega) (R2 1 (by omega) (by omega))
  have b2 := v _ 2 b (by omega) (by omega) (R2 2 (by omega) (by omega))
  have b3 := v _ 3 b (by omega) (by omega) (R2 3 (by omega) (by omega))
  have g1 := v _ 1 c (by omega) (by omega) (R3 1 (by omega) (by omega))
  have g2 := v _ 2 c (by omega) (by omega) (R3 2 (by omega) (by omega))
  have g3 := v _ 3 c (by omega) (by omega) (R3 3 (by omega) (by omega))
  have u1 := m 1 2 3 (by omega) (by omega) (by omega) (by omega) (by omega) (by omega) (by omega) (by omega) (by omega)
  have u2 := m 1 3 2 (by omega) (by omega) (by omega) (by omega) (by omega) (by omega) (by omega) (by omega) (by omega)
  have u3 := m 2 1 3 (by omega) (by omega) (by omega) (by omega) (by omega) (by omega) (by omega) (by omega) (by omega)
  have u4 := m 2 3 1 (by omega) (by omega) (by omega) (by omega) (by omega) (by omega) (by omega) (by omega) (by omega)
  have u5 := m 3 1 2 (by omega) (by omega) (by omega) (by omega) (by omega) (by omega) (by omega) (by omega) (by omega)
  have u6 := m 3 2 1 (by omega) (by omega) (by omega) (by omega) (by omega) (by omega) (by omega) (by omega) (by omega)
  clear m lo v R1 R2 R3
  omega
/-- one machine, there twice -/
theorem fm_1d {a b c : Nat} {T : Nat → Nat → Nat} {O : Nat → Nat} {s : Int} (ha : 1 ≤ a) (hb : 1 ≤ b) (hc : 1 ≤ c) (o0 : O 0 = 1) (o1 : O 1 = 1) (o2 : O 2 = 1) (t0 : T 0 0 = a) (t1 : T 1 0 = b) (t2 : T 2 0 = c)
    (h : hu_Min3 10 (ft_K 1 0 T O (fun r => r - 1)) s) : s = 8 * ((a + b + c + min a (min b c) : Nat) : Int) := by
  obtain ⟨⟨c1, c2, c3, h1, h2, h3, h4, h5, h6, d12, d13, d23, e⟩, m⟩ := h
  have R1 : ∀ x, 1 ≤ x → x ≤ 10 → fm_R1 0 a x (ft_K 1 0 T O (fun r => r - 1) 1 x) := fun x x1 x2 => fm_r1 o0 t0 x1 x2
  have R2 : ∀ x, 1 ≤ x → x ≤ 10 → fm_R1 0 b x (ft_K 1 0 T O (fun r => r - 1) 2 x) := fun x x1 x2 => fm_r1 o1 t1 x1 x2
  have R3 : ∀ x, 1 ≤ x → x ≤ 10 → fm_R1 0 c x (ft_K 1 0 T O (fun r => r - 1) 3 x) := fun x x1 x2 => fm_r1 o2 t2 x1 x2
  generalize ft_K 1 0 T O (fun r => r - 1) = K at *
  have lo : ∀ (k : Int) (x t : Nat), fm_R1 0 t x k → (x = 1 ∧ 8 * (t : Int) - (0 : Nat) ≤ k) ∨ (x = 6 ∧ 8 * (t : Int) ≤ k) ∨ (x ≠ 1 ∧ x ≠ 6 ∧ 16 * (t : Int) - (0 : Nat) ≤ k) := by
    intro k x t g
    have := fm_lo1 g
    omega
  have L := fm_low (lk := 0) ha hb hc (by omega) d12 d13 d23 (lo _ _ _ (R1 c1 h1 h2)) (lo _ _ _ (R2 c2 h3 h4)) (lo _ _ _ (R3 c3 h5 h6))
  have a1 := R1 1 (by omega) (by omega)
  have a2 := R1 2 (by omega) (by omega)
  have b1 := R2 1 (by omega) (by omega)
  have b2 := R2 2 (by omega) (by omega)
  have b6 := R2 6 (by omega) (by omega)
  have g2 := R3 2 (by omega) (by omega)
  have g6 := R3 6 (by omega) (by omega)
  unfold fm_R1 at a1 a2 b1 b2 b6 g2 g6
  have u1 := m 2 1 6 (by omega) (by omega) (by omega) (by omega) (by omega) (by omega) (by omega) (by omega) (by omega)
  have u2 := m 1 2 6 (by omega) (by omega) (by omega) (by omega) (by omega) (by omega) (by omega) (by omega) (by omega)
  have u3 := m 1 6 2 (by omega) (by omega) (by omega) (by omega) (by omega) (by omega) (by omega) (by omega) (by omega)
  clear m lo R1 R2 R3
  have a1 : K 1 1 = 8 * (a : Int) := by omega
  have a2 : K 1 2 = 16 * (a : Int) := by omega
  have b1 : K 2 1 = 8 * (b : Int) := by omega
  have b2 : K 2 2 = 16 * (b : Int) := by omega
  have b6 : K 2 6 = 8 * (b : Int) := by omega
  have g2 : K 3 2 = 16 * (c : Int) := by omega
  have g6 : K 3 6 = 8 * (c : Int) := by omega
  omega
/-- nothing is open -/
theorem fm_no {n M lk : Nat} {T : Nat → Nat → Nat} {O : Nat → Nat} {s : Int} (o0 : O 0 = 0) (o1 : O 1 = 0) (o2 : O 2 = 0) (h : hu_Min3 n (ft_K M lk T O (fun r => r - 1)) s) : s = 300000 := by
  obtain ⟨⟨c1, c2, c3, h1, h2, h3, h4, h5, h6, d12, d13, d23, e⟩, _⟩ := h
  have k1 : ft_K M lk T O (fun r => r - 1) 1 c1 = 100000 := by
    unfold ft_K
    rw [show O ((fun r => r - 1) 1) = 0 from o0, if_pos (by rw [Nat.zero_div])]
  have k2 : ft_K M lk T O (fun r => r - 1) 2 c2 = 100000 := by
    unfold ft_K
    rw [show O ((fun r => r - 1) 2) = 0 from o1, if_pos (by rw [Nat.zero_div])]
  have k3 : ft_K M lk T O (fun r => r - 1) 3 c3 = 100000 := by
    unfold ft_K
    rw [show O ((fun r => r - 1) 3) = 0 from o2, if_pos (by rw [Nat.zero_div])]
  rw [e, k1, k2, k3]
  rfl
/-- two jobs on one machine -/
theorem fm_12 {b c : Nat} {T : Nat → Nat → Nat} {O : Nat → Nat} {s : Int} (o1 : O 1 = 1) (o2 : O 2 = 1) (t1 : T 1 0 = b) (t2 : T 2 0 = c) (h : hu_Min2 5 (ft_K 1 0 T O (fun r => r)) s) : s = 8 * ((b + c + min b c : Nat) : Int) := by
  obtain ⟨⟨c1, c2, h1, h2, h3, h4, d12, e⟩, m⟩ := h
  have R1 : ∀ x, 1 ≤ x → x ≤ 10 → fm_R1 0 b x (ft_K 1 0 T O (fun r => r) 1 x) := fun x x1 x2 => fm_r1 o1 t1 x1 x2
  have R2 : ∀ x, 1 ≤ x → x ≤ 10 → fm_R1 0 c x (ft_K 1 0 T O (fun r => r) 2 x) := fun x x1 x2 => fm_r1 o2 t2 x1 x2
  generalize ft_K 1 0 T O (fun r => r) = K at *
  have l1 := R1 c1 h1 (by omega)
  have l2 := R2 c2 h3 (by omega)
  have a1 := R1 1 (by omega) (by omega)
  have a2 := R1 2 (by omega) (by omega)
  have b1 := R2 1 (by omega) (by omega)
  have b2 := R2 2 (by omega) (by omega)
  unfold fm_R1 at l1 l2 a1 a2 b1 b2
  have u1 := m 1 2 (by omega) (by omega) (by omega) (by omega) (by omega)
  have u2 := m 2 1 (by omega) (by omega) (by omega) (by omega) (by omega)
  clear m R1 R2
  have a1 : K 1 1 = 8 * (b : Int) := by omega
  have a2 : K 1 2 = 16 * (b : Int) := by omega
  have b1 : K 2 1 = 8 * (c : Int) := by omega
  have b2 : K 2 2 = 16 * (c : Int) := by omega
  have l1 : (c1 = 1 ∧ 8 * (b : Int) ≤ K 1 c1) ∨ (c1 ≠ 1 ∧ 16 * (b : Int) ≤ K 1 c1) := by omega
  have l2 : (c2 = 1 ∧ 8 * (c : Int) ≤ K 2 c2) ∨ (c2 ≠ 1 ∧ 16 * (c : Int) ≤ K 2 c2) := by omega
  rcases l1 with ⟨_, _⟩ | ⟨_, _⟩ <;> rcases l2 with ⟨_, _⟩ | ⟨_, _⟩ <;> omega
end
section
/-! the least totals with two machines -/
theorem fm_333 {a b c lk : Nat} {T : Nat → Nat → Nat} {O : Nat → Nat} {s : Int} (ha : 1 ≤ a) (hb : 1 ≤ b) (hc : 1 ≤ c) (ha' : a ≤ 15) (hb' : b ≤ 15) (hc' : c ≤ 15) (hl : lk ≤ 1) (o0 : O 0 = 3) (o1 : O 1 = 3) (o2 : O 2 = 3) (t0 : T 0 0 = a) (t0' : T 0 1 = a) (t1 : T 1 0 = b) (t1' : T 1 1 = b) (t2 : T 2 0 = c) (t2' : T 2 1 = c)
    (h : hu_Min3 10 (ft_K 2 lk T O (fun r => r - 1)) s) : s = 8 * ((a + b + c + min a (min b c) : Nat) : Int) - 2 * lk := by
  obtain ⟨⟨c1, c2, c3, h1, h2, h3, h4, h5, h6, d12, d13, d23, e⟩, m⟩ := h
  have R1 : ∀ x, 1 ≤ x → x ≤ 10 → fm_R2 lk a 3 x (ft_K 2 lk T O (fun r => r - 1) 1 x) := fun x x1 x2 => fm_r2 o0 (fun _ => t0) (fun _ => t0') x1 x2
  have R2 : ∀ x, 1 ≤ x → x ≤ 10 → fm_R2 lk b 3 x (ft_K 2 lk T O (fun r => r - 1) 2 x) := fun x x1 x2 => fm_r2 o1 (fun _ => t1) (fun _ => t1') x1 x2
  have R3 : ∀ x, 1 ≤ x → x ≤ 10 → fm_R2 lk c 3 x (ft_K 2 lk T O (fun r => r - 1) 3 x) := fun x x1 x2 => fm_r2 o2 (fun _ => t2) (fun _ => t2') x1 x2
  generalize ft_K 2 lk T O (fun r => r - 1) = K at *
  have L := fm_low ha hb hc hl d12 d13 d23 (fm_lo2 ha' (R1 c1 h1 h2)) (fm_lo2 hb' (R2 c2 h3 h4)) (fm_lo2 hc' (R3 c3 h5 h6))
  have w1_2 : K 1 2 = 16 * (a : Int) - lk := by
    have g := R1 2 (by omega) (by omega)
    unfold fm_R2 at g
    omega
  have w2_1 : K 2 1 = 8 * (b : Int) - lk := by
    have g := R2 1 (by omega) (by omega)
    unfold fm_R2 at g
    omega
  have w3_6 : K 3 6 = 8 * (c : Int) := by
    have g := R3 6 (by omega) (by omega)
    unfold fm_R2 at g
    omega
  have w1_1 : K 1 1 = 8 * (a : Int) - lk := by
    have g := R1 1 (by omega) (by omega)
    unfold fm_R2 at g
    omega
  have w2_2 : K 2 2 = 16 * (b : Int) - lk := by
    have g := R2 2 (by omega) (by omega)
    unfold fm_R2 at g
    omega
  have w2_6 : K 2 6 = 8 * (b : Int) := by
    have g := R2 6 (by omega) (by omega)
    unfold fm_R2 at g
    omega
  have w3_2 : K 3 2 = 16 * (c : Int) - lk := by
    have g := R3 2 (by omega) (by omega)
    unfold fm_R2 at g
    omega
  have u0 := m 2 1 6 (by omega) (by omega) (by omega) (by omega) (by omega) (by omega) (by omega) (by omega) (by omega)
  have u1 := m 1 2 6 (by omega) (by omega) (by omega) (by omega) (by omega) (by omega) (by omega) (by omega) (by omega)
  have u2 := m 1 6 2 (by omega) (by omega) (by omega) (by omega) (by omega) (by omega) (by omega) (by omega) (by omega)
  clear m R1 R2 R3
  omega
theorem fm_133 {a b c : Nat} {T : Nat → Nat → Nat} {O : Nat → Nat} {s : Int} (ha : 1 ≤ a) (hb : 1 ≤ b) (hc : 1 ≤ c) (ha' : a ≤ 15) (hb' : b ≤ 15) (hc' : c ≤ 15) (o0 : O 0 = 1) (o1 : O 1 = 3) (o2 : O 2 = 3) (t0 : T 0 0 = a) (t0' : T 0 1 = a) (t1 : T 1 0 = b) (t1' : T 1 1 = b) (t2 : T 2 0 = c) (t2' : T 2 1 = c)
    (h : hu_Min3 10 (ft_K 2 0 T O (fun r => r - 1)) s) : s = 8 * ((a + b + c + min a (min b c) : Nat) : Int) := by
  obtain ⟨⟨c1, c2, c3, h1, h2, h3, h4, h5, h6, d12, d13, d23, e⟩, m⟩ := h
  have R1 : ∀ x, 1 ≤ x → x ≤ 10 → fm_R2 0 a 1 x (ft_K 2 0 T O (fun r => r - 1) 1 x) := fun x x1 x2 => fm_r2 o0 (fun _ => t0) (fun _ => t0') x1 x2
  have R2 : ∀ x, 1 ≤ x → x ≤ 10 → fm_R2 0 b 3 x (ft_K 2 0 T O (fun r => r - 1) 2 x) := fun x x1 x2 => fm_r2 o1 (fun _ => t1) (fun _ => t1') x1 x2
  have R3 : ∀ x, 1 ≤ x → x ≤ 10 → fm_R2 0 c 3 x (ft_K 2 0 T O (fun r => r - 1) 3 x) := fun x x1 x2 => fm_r2 o2 (fun _ => t2) (fun _ => t2') x1 x2
  generalize ft_K 2 0 T O (fun r => r - 1) = K at *
  have L := fm_low (lk := 0) ha hb hc (by omega) d12 d13 d23 (fm_lo2 ha' (R1 c1 h1 h2)) (fm_lo2 hb' (R2 c2 h3 h4)) (fm_lo2 hc' (R3 c3 h5 h6))
  have w1_2 : K 1 2 = 16 * (a : Int) := by
    have g := R1 2 (by omega) (by omega)
    unfold fm_R2 at g
    omega
  have w2_1 : K 2 1 = 8 * (b : Int) := by
    have g := R2 1 (by omega) (by omega)
    unfold fm_R2 at g
    omega
  have w3_6 : K 3 6 = 8 * (c : Int) := by
    have g := R3 6 (by omega) (by omega)
    unfold fm_R2 at g
    omega
  have w1_1 : K 1 1 = 8 * (a : Int) := by
    have g := R1 1 (by omega) (by omega)
    unfold fm_R2 at g
    omega
  have w2_2 : K 2 2 = 16 * (b : Int) := by
    have g := R2 2 (by omega) (by omega)
    unfold fm_R2 at g
    omega
  have w2_6 : K 2 6 = 8 * (b : Int) := by
    have g := R2 6 (by omega) (by omega)
    unfold fm_R2 at g
    omega
  have w3_2 : K 3 2 = 16 * (c : Int) := by
    have g := R3 2 (by omega) (by omega)
    unfold fm_R2 at g
    omega
  have u0 := m 2 1 6 (by omega) (by omega) (by omega) (by omega) (by omega) (by omega) (by omega) (by omega) (by omega)
  have u1 := m 1 2 6 (by omega) (by omega) (by omega) (by omega) (by omega) (by omega) (by omega) (by omega) (by omega)
  have u2 := m 1 6 2 (by omega) (by omega) (by omega) (by omega) (by omega) (by omega) (by omega) (by omega) (by omega)
  clear m R1 R2 R3
  omega
theorem fm_313 {a b c : Nat} {T : Nat → Nat → Nat} {O : Nat → Nat} {s : Int} (ha : 1 ≤ a) (hb : 1 ≤ b) (hc : 1 ≤ c) (ha' : a ≤ 15) (hb' : b ≤ 15) (hc' : c ≤ 15) (o0 : O 0 = 3) (o1 : O 1 = 1) (o2 : O 2 = 3) (t0 : T 0 0 = a) (t0' : T 0 1 = a) (t1 : T 1 0 = b) (t1' : T 1 1 = b) (t2 : T 2 0 = c) (t2' : T 2 1 = c)
    (h : hu_Min3 10 (ft_K 2 0 T O (fun r => r - 1)) s) : s = 8 * ((a + b + c + min a (min b c) : Nat) : Int) := by
  obtain ⟨⟨c1, c2, c3, h1, h2, h3, h4, h5, h6, d12, d13, d23, e⟩, m⟩ := h
  have R1 : ∀ x, 1 ≤ x → x ≤ 10 → fm_R2 0 a 3 x (ft_K 2 0 T O (fun r => r - 1) 1 x) := fun x x1 x2 => fm_r2 o0 (fun _ => t0) (fun _ => t0') x1 x2
  have R2 : ∀ x, 1 ≤ x → x ≤ 10 → fm_R2 0 b 1 x (ft_K 2 0 T O (fun r => r - 1) 2 x) := fun x x1 x2 => fm_r2 o1 (fun _ => t1) (fun _ => t1') x1 x2
  have R3 : ∀ x, 1 ≤ x → x ≤ 10 → fm_R2 0 c 3 x (ft_K 2 0 T O (fun r => r - 1) 3 x) := fun x x1 x2 => fm_r2 o2 (fun _ => t2) (fun _ => t2') x1 x2
  generalize ft_K 2 0 T O (fun r => r - 1) = K at *
  have L := fm_low (lk := 0) ha hb hc (by omega) d12 d13 d23 (fm_lo2 ha' (R1 c1 h1 h2)) (fm_lo2 hb' (R2 c2 h3 h4)) (fm_lo2 hc' (R3 c3 h5 h6))
  have w1_2 : K 1 2 = 16 * (a : Int) := by
    have g := R1 2 (by omega) (by omega)
    unfold fm_R2 at g
    omega
  have w2_1 : K 2 1 = 8 * (b : Int) := by
    have g := R2 1 (by omega) (by omega)
    unfold fm_R2 at g
    omega
  have w3_6 : K 3 6 = 8 * (c : Int) := by
    have g := R3 6 (by omega) (by omega)
    unfold fm_R2 at g
    omega
  have w1_1 : K 1 1 = 8 * (a : Int) := by
    have g := R1 1 (by omega) (by omega)
    unfold fm_R2 at g
    omega
  have w2_2 : K 2 2 = 16 * (b : Int) := by
    have g := R2 2 (by omega) (by omega)
    unfold fm_R2 at g
    omega
  have w1_6 : K 1 6 = 8 * (a : Int) := by
    have g := R1 6 (by omega) (by omega)
    unfold fm_R2 at g
    omega
  have w3_2 : K 3 2 = 16 * (c : Int) := by
    have g := R3 2 (by omega) (by omega)
    unfold fm_R2 at g
    omega
  have u0 := m 2 1 6 (by omega) (by omega) (by omega) (by omega) (by omega) (by omega) (by omega) (by omega) (by omega)
  have u1 := m 1 2 6 (by omega) (by omega) (by omega) (by omega) (by omega) (by omega) (by omega) (by omega) (by omega)
  have u2 := m 6 1 2 (by omega) (by omega) (by omega) (by omega) (by omega) (by omega) (by omega) (by omega) (by omega)
  clear m R1 R2 R3
  omega
theorem fm_323 {a b c : Nat} {T : Nat → Nat → Nat} {O : Nat → Nat} {s : Int} (ha : 1 ≤ a) (hb : 1 ≤ b) (hc : 1 ≤ c) (ha' : a ≤ 15) (hb' : b ≤ 15) (hc' : c ≤ 15) (o0 : O 0 = 3) (o1 : O 1 = 2) (o2 : O 2 = 3) (t0 : T 0 0 = a) (t0' : T 0 1 = a) (t1 : T 1 0 = b) (t1' : T 1 1 = b) (t2 : T 2 0 = c) (t2' : T 2 1 = c)
    (h : hu_Min3 10 (ft_K 2 0 T O (fun r => r - 1)) s) : s = 8 * ((a + b + c + min a (min b c) : Nat) : Int) := by
  obtain ⟨⟨c1, c2, c3, h1, h2, h3, h4, h5, h6, d12, d13, d23, e⟩, m⟩ := h
  have R1 : ∀ x, 1 ≤ x → x ≤ 10 → fm_R2 0 a 3 x (ft_K 2 0 T O (fun r => r - 1) 1 x) := fun x x1 x2 => fm_r2 o0 (fun _ => t0) (fun _ => t0') x1 x2
  have R2 : ∀ x, 1 ≤ x → x ≤ 10 → fm_R2 0 b 2 x (ft_K 2 0 T O (fun r => r - 1) 2 x) := fun x x1 x2 => fm_r2 o1 (fun _ => t1) (fun _ => t1') x1 x2
  have R3 : ∀ x, 1 ≤ x → x ≤ 10 → fm_R2 0 c 3 x (ft_K 2 0 T O (fun r => r - 1) 3 x) := fun x x1 x2 => fm_r2 o2 (fun _ => t2) (fun _ => t2') x1 x2
  generalize ft_K 2 0 T O (fun r => r - 1) = K at *
  have L := fm_low (lk := 0) ha hb hc (by omega) d12 d13 d23 (fm_lo2 ha' (R1 c1 h1 h2)) (fm_lo2 hb' (R2 c2 h3 h4)) (fm_lo2 hc' (R3 c3 h5 h6))
  have w1_2 : K 1 2 = 16 * (a : Int) := by
    have g := R1 2 (by omega) (by omega)
    unfold fm_R2 at g
    omega
  have w2_6 : K 2 6 = 8 * (b : Int) := by
    have g := R2 6 (by omega) (by omega)
    unfold fm_R2 at g
    omega
  have w3_1 : K 3 1 = 8 * (c : Int) := by
    have g := R3 1 (by omega) (by omega)
    unfold fm_R2 at g
    omega
  have w1_1 : K 1 1 = 8 * (a : Int) := by
    have g := R1 1 (by omega) (by omega)
    unfold fm_R2 at g
    omega
  have w2_7 : K 2 7 = 16 * (b : Int) := by
    have g := R2 7 (by omega) (by omega)
    unfold fm_R2 at g
    omega
  have w3_6 : K 3 6 = 8 * (c : Int) := by
    have g := R3 6 (by omega) (by omega)
    unfold fm_R2 at g
    omega
  have w3_2 : K 3 2 = 16 * (c : Int) := by
    have g := R3 2 (by omega) (by omega)
    unfold fm_R2 at g
    omega
  have u0 := m 2 6 1 (by omega) (by omega) (by omega) (by omega) (by omega) (by omega) (by omega) (by omega) (by omega)
  have u1 := m 1 7 6 (by omega) (by omega) (by omega) (by omega) (by omega) (by omega) (by omega) (by omega) (by omega)
  have u2 := m 1 6 2 (by omega) (by omega) (by omega) (by omega) (by omega) (by omega) (by omega) (by omega) (by omega)
  clear m R1 R2 R3
  omega
theorem fm_332 {a b c : Nat} {T : Nat → Nat → Nat} {O : Nat → Nat} {s : Int} (ha : 1 ≤ a) (hb : 1 ≤ b) (hc : 1 ≤ c) (ha' : a ≤ 15) (hb' : b ≤ 15) (hc' : c ≤ 15) (o0 : O 0 = 3) (o1 : O 1 = 3) (o2 : O 2 = 2) (t0 : T 0 0 = a) (t0' : T 0 1 = a) (t1 : T 1 0 = b) (t1' : T 1 1 = b) (t2' : T 2 1 = c)
    (h : hu_Min3 10 (ft_K 2 0 T O (fun r => r - 1)) s) : s = 8 * ((a + b + c + min a (min b c) : Nat) : Int) := by
  obtain ⟨⟨c1, c2, c3, h1, h2, h3, h4, h5, h6, d12, d13, d23, e⟩, m⟩ := h
  have R1 : ∀ x, 1 ≤ x → x ≤ 10 → fm_R2 0 a 3 x (ft_K 2 0 T O (fun r => r - 1) 1 x) := fun x x1 x2 => fm_r2 o0 (fun _ => t0) (fun _ => t0') x1 x2
  have R2 : ∀ x, 1 ≤ x → x ≤ 10 → fm_R2 0 b 3 x (ft_K 2 0 T O (fun r => r - 1) 2 x) := fun x x1 x2 => fm_r2 o1 (fun _ => t1) (fun _ => t1') x1 x2
  have R3 : ∀ x, 1 ≤ x → x ≤ 10 → fm_R2 0 c 2 x (ft_K 2 0 T O (fun r => r - 1) 3 x) := fun x x1 x2 => fm_r2 o2 (fun z => absurd z (by decide)) (fun _ => t2') x1 x2
  generalize ft_K 2 0 T O (fun r => r - 1) = K at *
  have L := fm_low (lk := 0) ha hb hc (by omega) d12 d13 d23 (fm_lo2 ha' (R1 c1 h1 h2)) (fm_lo2 hb' (R2 c2 h3 h4)) (fm_lo2 hc' (R3 c3 h5 h6))
  have w1_2 : K 1 2 = 16 * (a : Int) := by
    have g := R1 2 (by omega) (by omega)
    unfold fm_R2 at g
    omega
  have w2_1 : K 2 1 = 8 * (b : Int) := by
    have g := R2 1 (by omega) (by omega)
    unfold fm_R2 at g
    omega
  have w3_6 : K 3 6 = 8 * (c : Int) := by
    have g := R3 6 (by omega) (by omega)
    unfold fm_R2 at g
    omega
  have w1_1 : K 1 1 = 8 * (a : Int) := by
    have g := R1 1 (by omega) (by omega)
    unfold fm_R2 at g
    omega
  have w2_2 : K 2 2 = 16 * (b : Int) := by
    have g := R2 2 (by omega) (by omega)
    unfold fm_R2 at g
    omega
  have w2_6 : K 2 6 = 8 * (b : Int) := by
    have g := R2 6 (by omega) (by omega)
    unfold fm_R2 at g
    omega
  have w3_7 : K 3 7 = 16 * (c : Int) := by
    have g := R3 7 (by omega) (by omega)
    unfold fm_R2 at g
    omega
  have u0 := m 2 1 6 (by omega) (by omega) (by omega) (by omega) (by omega) (by omega) (by omega) (by omega) (by omega)
  have u1 := m 1 2 6 (by omega) (by omega) (by omega) (by omega) (by omega) (by omega) (by omega) (by omega) (by omega)
  have u2 := m 1 6 7 (by omega) (by omega) (by omega) (by omega) (by omega) (by omega) (by omega) (by omega) (by omega)
  clear m R1 R2 R3
  omega
theorem fm_132 {a b c : Nat} {T : Nat → Nat → Nat} {O : Nat → Nat} {s : Int} (ha : 1 ≤ a) (hb : 1 ≤ b) (hc : 1 ≤ c) (ha' : a ≤ 15) (hb' : b ≤ 15) (hc' : c ≤ 15) (o0 : O 0 = 1) (o1 : O 1 = 3) (o2 : O 2 = 2) (t0 : T 0 0 = a) (t0' : T 0 1 = a) (t1 : T 1 0 = b) (t1' : T 1 1 = b) (t2' : T 2 1 = c)
    (h : hu_Min3 10 (ft_K 2 0 T O (fun r => r - 1)) s) : s = 8 * ((a + b + c + min a (min b c) : Nat) : Int) := by
  obtain ⟨⟨c1, c2, c3, h1, h2, h3, h4, h5, h6, d12, d13, d23, e⟩, m⟩ := h
  have R1 : ∀ x, 1 ≤ x → x ≤ 10 → fm_R2 0 a 1 x (ft_K 2 0 T O (fun r => r - 1) 1 x) := fun x x1 x2 => fm_r2 o0 (fun _ => t0) (fun _ => t0') x1 x2
  have R2 : ∀ x, 1 ≤ x → x ≤ 10 → fm_R2 0 b 3 x (ft_K 2 0 T O (fun r => r - 1) 2 x) := fun x x1 x2 => fm_r2 o1 (fun _ => t1) (fun _ => t1') x1 x2
  have R3 : ∀ x, 1 ≤ x → x ≤ 10 → fm_R2 0 c 2 x (ft_K 2 0 T O (fun r => r - 1) 3 x) := fun x x1 x2 => fm_r2 o2 (fun z => absurd z (by decide)) (fun _ => t2') x1 x2
  generalize ft_K 2 0 T O (fun r => r - 1) = K at *
  have L := fm_low (lk := 0) ha hb hc (by omega) d12 d13 d23 (fm_lo2 ha' (R1 c1 h1 h2)) (fm_lo2 hb' (R2 c2 h3 h4)) (fm_lo2 hc' (R3 c3 h5 h6))
  have w1_2 : K 1 2 = 16 * (a : Int) := by
    have g := R1 2 (by omega) (by omega)
    unfold fm_R2 at g
    omega
  have w2_1 : K 2 1 = 8 * (b : Int) := by
    have g := R2 1 (by omega) (by omega)
    unfold fm_R2 at g
    omega
  have w3_6 : K 3 6 = 8 * (c : Int) := by
    have g := R3 6 (by omega) (by omega)
    unfold fm_R2 at g
    omega
  have w1_1 : K 1 1 = 8 * (a : Int) := by
    have g := R1 1 (by omega) (by omega)
    unfold fm_R2 at g
    omega
  have w2_2 : K 2 2 = 16 * (b : Int) := by
    have g := R2 2 (by omega) (by omega)
    unfold fm_R2 at g
    omega
  have w2_6 : K 2 6 = 8 * (b : Int) := by
    have g := R2 6 (by omega) (by omega)
    unfold fm_R2 at g
    omega
  have w3_7 : K 3 7 = 16 * (c : Int) := by
    have g := R3 7 (by omega) (by omega)
    unfold fm_R2 at g
    omega
  have u0 := m 2 1 6 (by omega) (by omega) (by omega) (by omega) (by omega) (by omega) (by omega) (by omega) (by omega)
  have u1 := m 1 2 6 (by omega) (by omega) (by omega) (by omega) (by omega) (by omega) (by omega) (by omega) (by omega)
  have u2 := m 1 6 7 (by omega) (by omega) (by omega) (by omega) (by omega) (by omega) (by omega) (by omega) (by omega)
  clear m R1 R2 R3
  omega
theorem fm_112 {a b c : Nat} {T : Nat → Nat → Nat} {O : Nat → Nat} {s : Int} (ha : 1 ≤ a) (hb : 1 ≤ b) (hc : 1 ≤ c) (ha' : a ≤ 15) (hb' : b ≤ 15) (hc' : c ≤ 15) (o0 : O 0 = 1) (o1 : O 1 = 1) (o2 : O 2 = 2) (t0 : T 0 0 = a) (t0' : T 0 1 = a) (t1 : T 1 0 = b) (t1' : T 1 1 = b) (t2' : T 2 1 = c)
    (h : hu_Min3 10 (ft_K 2 0 T O (fun r => r - 1)) s) : s = 8 * ((a + b + c + min a b : Nat) : Int) := by
  obtain ⟨⟨c1, c2, c3, h1, h2, h3, h4, h5, h6, d12, d13, d23, e⟩, m⟩ := h
  have R1 : ∀ x, 1 ≤ x → x ≤ 10 → fm_R2 0 a 1 x (ft_K 2 0 T O (fun r => r - 1) 1 x) := fun x x1 x2 => fm_r2 o0 (fun _ => t0) (fun _ => t0') x1 x2
  have R2 : ∀ x, 1 ≤ x → x ≤ 10 → fm_R2 0 b 1 x (ft_K 2 0 T O (fun r => r - 1) 2 x) := fun x x1 x2 => fm_r2 o1 (fun _ => t1) (fun _ => t1') x1 x2
  have R3 : ∀ x, 1 ≤ x → x ≤ 10 → fm_R2 0 c 2 x (ft_K 2 0 T O (fun r => r - 1) 3 x) := fun x x1 x2 => fm_r2 o2 (fun z => absurd z (by decide)) (fun _ => t2') x1 x2
  generalize ft_K 2 0 T O (fun r => r - 1) = K at *
  have l1 : (c1 = 1 ∧ 8 * (a : Int) ≤ K 1 c1) ∨ (c1 ≠ 1 ∧ 16 * (a : Int) ≤ K 1 c1) := by
    have g := R1 c1 (by omega) (by omega)
    unfold fm_R2 at g
    omega
  have l2 : (c2 = 1 ∧ 8 * (b : Int) ≤ K 2 c2) ∨ (c2 ≠ 1 ∧ 16 * (b : Int) ≤ K 2 c2) := by
    have g := R2 c2 (by omega) (by omega)
    unfold fm_R2 at g
    omega
  have l3 : 8 * (c : Int) ≤ K 3 c3 := by
    have g := R3 c3 (by omega) (by omega)
    unfold fm_R2 at g
    omega
  have w1_2 : K 1 2 = 16 * (a : Int) := by
    have g := R1 2 (by omega) (by omega)
    unfold fm_R2 at g
    omega
  have w2_1 : K 2 1 = 8 * (b : Int) := by
    have g := R2 1 (by omega) (by omega)
    unfold fm_R2 at g
    omega
  have w3_6 : K 3 6 = 8 * (c : Int) := by
    have g := R3 6 (by omega) (by omega)
    unfold fm_R2 at g
    omega
  have w1_1 : K 1 1 = 8 * (a : Int) := by
    have g := R1 1 (by omega) (by omega)
    unfold fm_R2 at g
    omega
  have w2_2 : K 2 2 = 16 * (b : Int) := by
    have g := R2 2 (by omega) (by omega)
    unfold fm_R2 at g
    omega
  have u0 := m 2 1 6 (by omega) (by omega) (by omega) (by omega) (by omega) (by omega) (by omega) (by omega) (by omega)
  have u1 := m 1 2 6 (by omega) (by omega) (by omega) (by omega) (by omega) (by omega) (by omega) (by omega) (by omega)
  clear m R1 R2 R3
  rcases l1 with ⟨_, _⟩ | ⟨_, _⟩ <;> rcases l2 with ⟨_, _⟩ | ⟨_, _⟩ <;> omega
theorem fm_122 {a b c : Nat} {T : Nat → Nat → Nat} {O : Nat → Nat} {s : Int} (ha : 1 ≤ a) (hb : 1 ≤ b) (hc : 1 ≤ c) (ha' : a ≤ 15) (hb' : b ≤ 15) (hc' : c ≤ 15) (o0 : O 0 = 1) (o1 : O 1 = 2) (o2 : O 2 = 2) (t0 : T 0 0 = a) (t0' : T 0 1 = a) (t1 : T 1 0 = b) (t1' : T 1 1 = b) (t2' : T 2 1 = c)
    (h : hu_Min3 10 (ft_K 2 0 T O (fun r => r - 1)) s) : s = 8 * ((a + b + c + min b c : Nat) : Int) := by
  obtain ⟨⟨c1, c2, c3, h1, h2, h3, h4, h5, h6, d12, d13, d23, e⟩, m⟩ := h
  have R1 : ∀ x, 1 ≤ x → x ≤ 10 → fm_R2 0 a 1 x (ft_K 2 0 T O (fun r => r - 1) 1 x) := fun x x1 x2 => fm_r2 o0 (fun _ => t0) (fun _ => t0') x1 x2
  have R2 : ∀ x, 1 ≤ x → x ≤ 10 → fm_R2 0 b 2 x (ft_K 2 0 T O (fun r => r - 1) 2 x) := fun x x1 x2 => fm_r2 o1 (fun _ => t1) (fun _ => t1') x1 x2
  have R3 : ∀ x, 1 ≤ x → x ≤ 10 → fm_R2 0 c 2 x (ft_K 2 0 T O (fun r => r - 1) 3 x) := fun x x1 x2 => fm_r2 o2 (fun z => absurd z (by decide)) (fun _ => t2') x1 x2
  generalize ft_K 2 0 T O (fun r => r - 1) = K at *
  have l1 : 8 * (a : Int) ≤ K 1 c1 := by
    have g := R1 c1 (by omega) (by omega)
    unfold fm_R2 at g
    omega
  have l2 : (c2 = 6 ∧ 8 * (b : Int) ≤ K 2 c2) ∨ (c2 ≠ 6 ∧ 16 * (b : Int) ≤ K 2 c2) := by
    have g := R2 c2 (by omega) (by omega)
    unfold fm_R2 at g
    omega
  have l3 : (c3 = 6 ∧ 8 * (c : Int) ≤ K 3 c3) ∨ (c3 ≠ 6 ∧ 16 * (c : Int) ≤ K 3 c3) := by
    have g := R3 c3 (by omega) (by omega)
    unfold fm_R2 at g
    omega
  have w1_1 : K 1 1 = 8 * (a : Int) := by
    have g := R1 1 (by omega) (by omega)
    unfold fm_R2 at g
    omega
  have w2_7 : K 2 7 = 16 * (b : Int) := by
    have g := R2 7 (by omega) (by omega)
    unfold fm_R2 at g
    omega
  have w3_6 : K 3 6 = 8 * (c : Int) := by
    have g := R3 6 (by omega) (by omega)
    unfold fm_R2 at g
    omega
  have w2_6 : K 2 6 = 8 * (b : Int) := by
    have g := R2 6 (by omega) (by omega)
    unfold fm_R2 at g
    omega
  have w3_7 : K 3 7 = 16 * (c : Int) := by
    have g := R3 7 (by omega) (by omega)
    unfold fm_R2 at g
    omega
  have u0 := m 1 7 6 (by omega) (by omega) (by omega) (by omega) (by omega) (by omega) (by omega) (by omega) (by omega)
  have u1 := m 1 6 7 (by omega) (by omega) (by omega) (by omega) (by omega) (by omega) (by omega) (by omega) (by omega)
  clear m R1 R2 R3
  rcases l2 with ⟨_, _⟩ | ⟨_, _⟩ <;> rcases l3 with ⟨_, _⟩ | ⟨_, _⟩ <;> omega
theorem fm_222 {a b c : Nat} {T : Nat → Nat → Nat} {O : Nat → Nat} {s : Int} (ha : 1 ≤ a) (hb : 1 ≤ b) (hc : 1 ≤ c) (ha' : a ≤ 15) (hb' : b ≤ 15) (hc' : c ≤ 15) (o0 : O 0 = 2) (o1 : O 1 = 2) (o2 : O 2 = 2) (t0 : T 0 0 = a) (t0' : T 0 1 = a) (t1 : T 1 0 = b) (t1' : T 1 1 = b) (t2' : T 2 1 = c)
    (h : hu_Min3 10 (ft_K 2 0 T O (fun r => r - 1)) s) : s = 8 * (2 * ((a + b + c : Nat) : Int) + (min a (min b c) : Nat) - (max a (max b c) : Nat)) := by
  obtain ⟨⟨c1, c2, c3, h1, h2, h3, h4, h5, h6, d12, d13, d23, e⟩, m⟩ := h
  have R1 : ∀ x, 1 ≤ x → x ≤ 10 → fm_R2 0 a 2 x (ft_K 2 0 T O (fun r => r - 1) 1 x) := fun x x1 x2 => fm_r2 o0 (fun _ => t0) (fun _ => t0') x1 x2
  have R2 : ∀ x, 1 ≤ x → x ≤ 10 → fm_R2 0 b 2 x (ft_K 2 0 T O (fun r => r - 1) 2 x) := fun x x1 x2 => fm_r2 o1 (fun _ => t1) (fun _ => t1') x1 x2
  have R3 : ∀ x, 1 ≤ x → x ≤ 10 → fm_R2 0 c 2 x (ft_K 2 0 T O (fun r => r - 1) 3 x) := fun x x1 x2 => fm_r2 o2 (fun z => absurd z (by decide)) (fun _ => t2') x1 x2
  generalize ft_K 2 0 T O (fun r => r - 1) = K at *
  have lo : ∀ (k : Int) (x t : Nat), t ≤ 15 → fm_R2 0 t 2 x k → (x = 6 ∧ 8 * (t : Int) - (0 : Nat) ≤ k) ∨ (x = 6 + 1 ∧ 16 * (t : Int) - (0 : Nat) ≤ k) ∨ (x ≠ 6 ∧ x ≠ 6 + 1 ∧ 24 * (t : Int) - (0 : Nat) ≤ k) := by
    intro k x t ht g
    unfold fm_R2 at g
    omega
  have L := fm_alone (lk := 0) d12 d13 d23 6 (lo _ _ _ ha' (R1 c1 h1 h2)) (lo _ _ _ hb' (R2 c2 h3 h4)) (lo _ _ _ hc' (R3 c3 h5 h6))
  clear lo
  have w1_6 : K 1 6 = 8 * (a : Int) := by
    have g := R1 6 (by omega) (by omega)
    unfold fm_R2 at g
    omega
  have w2_7 : K 2 7 = 16 * (b : Int) := by
    have g := R2 7 (by omega) (by omega)
    unfold fm_R2 at g
    omega
  have w3_8 : K 3 8 = 24 * (c : Int) := by
    have g := R3 8 (by omega) (by omega)
    unfold fm_R2 at g
    omega
  have w2_8 : K 2 8 = 24 * (b : Int) := by
    have g := R2 8 (by omega) (by omega)
    unfold fm_R2 at g
    omega
  have w3_7 : K 3 7 = 16 * (c : Int) := by
    have g := R3 7 (by omega) (by omega)
    unfold fm_R2 at g
    omega
  have w1_7 : K 1 7 = 16 * (a : Int) := by
    have g := R1 7 (by omega) (by omega)
    unfold fm_R2 at g
    omega
  have w2_6 : K 2 6 = 8 * (b : Int) := by
    have g := R2 6 (by omega) (by omega)
    unfold fm_R2 at g
    omega
  have w3_6 : K 3 6 = 8 * (c : Int) := by
    have g := R3 6 (by omega) (by omega)
    unfold fm_R2 at g
    omega
  have w1_8 : K 1 8 = 24 * (a : Int) := by
    have g := R1 8 (by omega) (by omega)
    unfold fm_R2 at g
    omega
  have u0 := m 6 7 8 (by omega) (by omega) (by omega) (by omega) (by omega) (by omega) (by omega) (by omega) (by omega)
  have u1 := m 6 8 7 (by omega) (by omega) (by omega) (by omega) (by omega) (by omega) (by omega) (by omega) (by omega)
  have u2 := m 7 6 8 (by omega) (by omega) (by omega) (by omega) (by omega) (by omega) (by omega) (by omega) (by omega)
  have u3 := m 7 8 6 (by omega) (by omega) (by omega) (by omega) (by omega) (by omega) (by omega) (by omega) (by omega)
  have u4 := m 8 6 7 (by omega) (by omega) (by omega) (by omega) (by omega) (by omega) (by omega) (by omega) (by omega)
  have u5 := m 8 7 6 (by omega) (by omega) (by omega) (by omega) (by omega) (by omega) (by omega) (by omega) (by omega)
  clear m R1 R2 R3
  omega
theorem fm_2d {a b c : Nat} {T : Nat → Nat → Nat} {O : Nat → Nat} {s : Int} (ha : 1 ≤ a) (hb : 1 ≤ b) (hc : 1 ≤ c) (ha' : a ≤ 15) (hb' : b ≤ 15) (hc' : c ≤ 15) (o0 : O 0 = 3) (o1 : O 1 = 3) (o2 : O 2 = 3) (t0 : T 0 0 = a) (t0' : T 0 1 = a) (t1 : T 1 0 = b) (t1' : T 1 1 = b) (t2 : T 2 0 = c) (t2' : T 2 1 = c)
    (h : hu_Min3 15 (ft_K 2 0 T O (fun r => r - 1)) s) : s = 8 * ((a + b + c : Nat) : Int) := by
  obtain ⟨⟨c1, c2, c3, h1, h2, h3, h4, h5, h6, d12, d13, d23, e⟩, m⟩ := h
  have lo : ∀ (r x t : Nat), O ((fun r => r - 1) r) = 3 → T ((fun r => r - 1) r) 0 = t → T ((fun r => r - 1) r) 1 = t → 8 * (t : Int) ≤ ft_K 2 0 T O (fun r => r - 1) r x ∧ ((x = 1 ∨ x = 6 ∨ x = 11) → ft_K 2 0 T O (fun r => r - 1) r x = 8 * (t : Int)) := by
    intro r x t g1 g2 g3
    have q := fm_pl (ft_q x) t (ft_qb x).1
    have hm := ft_mM (M := 2) (c := x) (by omega)
    have e : ft_K 2 0 T O (fun r => r - 1) r x = ((8 * ft_q x * t : Nat) : Int) := by
      unfold ft_K
      rw [g1]
      have h01 : ft_m 2 x = 0 ∨ ft_m 2 x = 1 := by omega
      rcases h01 with w | w
      · rw [w, if_neg (by decide), if_pos rfl, g2]
        omega
      · rw [w, if_neg (by decide), if_neg (by decide), g3]
        omega
    rw [e]
    unfold ft_q at q ⊢
    generalize 8 * ((x - 1) % 5 + 1) * t = P at *
    omega
  have k1 := (lo 1 c1 a o0 t0 t0').1
  have k2 := (lo 2 c2 b o1 t1 t1').1
  have k3 := (lo 3 c3 c o2 t2 t2').1
  have v1 := (lo 1 1 a o0 t0 t0').2 (Or.inl rfl)
  have v2 := (lo 2 6 b o1 t1 t1').2 (Or.inr (Or.inl rfl))
  have v3 := (lo 3 11 c o2 t2 t2').2 (Or.inr (Or.inr rfl))
  have u := m 1 6 11 (by omega) (by omega) (by omega) (by omega) (by omega) (by omega) (by omega) (by omega) (by omega)
  clear m lo
  omega
theorem fm_22 {b c : Nat} {T : Nat → Nat → Nat} {O : Nat → Nat} {s : Int} (hb' : b ≤ 15) (hc' : c ≤ 15) (o1 : O 1 = 3) (o2 : O 2 = 3) (t1 : T 1 0 = b) (t1' : T 1 1 = b) (t2 : T 2 0 = c) (t2' : T 2 1 = c)
    (h : hu_Min2 10 (ft_K 2 0 T O (fun r => r)) s) : s = 8 * ((b + c : Nat) : Int) := by
  obtain ⟨⟨c1, c2, h1, h2, h3, h4, d12, e⟩, m⟩ := h
  have R1 : ∀ x, 1 ≤ x → x ≤ 10 → fm_R2 0 b 3 x (ft_K 2 0 T O (fun r => r) 1 x) := fun x x1 x2 => fm_r2 o1 (fun _ => t1) (fun _ => t1') x1 x2
  have R2 : ∀ x, 1 ≤ x → x ≤ 10 → fm_R2 0 c 3 x (ft_K 2 0 T O (fun r => r) 2 x) := fun x x1 x2 => fm_r2 o2 (fun _ => t2) (fun _ => t2') x1 x2
  generalize ft_K 2 0 T O (fun r => r) = K at *
  have l1 : 8 * (b : Int) ≤ K 1 c1 := by
    have g := R1 c1 h1 h2
    unfold fm_R2 at g
    omega
  have l2 : 8 * (c : Int) ≤ K 2 c2 := by
    have g := R2 c2 h3 h4
    unfold fm_R2 at g
    omega
  have w1 : K 1 1 = 8 * (b : Int) := by
    have g := R1 1 (by omega) (by omega)
    unfold fm_R2 at g
    omega
  have w2 : K 2 6 = 8 * (c : Int) := by
    have g := R2 6 (by omega) (by omega)
    unfold fm_R2 at g
    omega
  have u := m 1 6 (by omega) (by omega) (by omega) (by omega) (by omega)
  clear m R1 R2
  omega
end
section
/-! small methods -/
theorem fb_has1 {post : Int32 → Prop} {fm fp fd fl fr fc fk ft : Int32} {a1 a2 a3 a4 a5 a6 a7 a8 a9 a10 : Nat → Int32} {j : Nat} (hj : j < 5) (hb : ¬ (fp >>> (nI j &&& 31)) &&& 1 = 0) (H : post 1) : wpX_has post (fm, fp, fd, fl, fr, fc, fk, ft, a1, a2, a3, a4, a5, a6, a7, a8, a9, a10) (nI j) := by
  unfold wpX_has
  exact br_f (nI_pos (by omega)) (pk_le 5 j (fun z => absurd z (by omega)) (fun _ => br_f hb H))
theorem fb_has0 {post : Int32 → Prop} {fm fp fd fl fr fc fk ft : Int32} {a1 a2 a3 a4 a5 a6 a7 a8 a9 a10 : Nat → Int32} {j : Nat} (hj : j < 5) (hb : (fp >>> (nI j &&& 31)) &&& 1 = 0) (H : post 0) : wpX_has post (fm, fp, fd, fl, fr, fc, fk, ft, a1, a2, a3, a4, a5, a6, a7, a8, a9, a10) (nI j) := by
  unfold wpX_has
  exact br_f (nI_pos (by omega)) (pk_le 5 j (fun z => absurd z (by omega)) (fun _ => br_t hb H))
theorem fb_bits : ∀ k, k < 4 → ∀ i, i < 5 → ((nI (2 ^ k - 1) >>> (nI i &&& 31)) &&& 1 = 0 ↔ k ≤ i) := by decide +kernel
theorem fb_7y {post : Int32 → Prop} {fm fd fl fr fc fk ft : Int32} {a1 a2 a3 a4 a5 a6 a7 a8 a9 a10 : Nat → Int32} {j : Nat} (hj : j < 3) (H : post 1) : wpX_has post (fm, 7, fd, fl, fr, fc, fk, ft, a1, a2, a3, a4, a5, a6, a7, a8, a9, a10) (nI j) :=
  fb_has1 (by omega) (fun z => absurd ((fb_bits 3 (by omega) j (by omega)).mp z) (by omega)) H
theorem fb_7n {post : Int32 → Prop} {fm fd fl fr fc fk ft : Int32} {a1 a2 a3 a4 a5 a6 a7 a8 a9 a10 : Nat → Int32} {j : Nat} (hj : 3 ≤ j) (hj' : j < 5) (H : post 0) : wpX_has post (fm, 7, fd, fl, fr, fc, fk, ft, a1, a2, a3, a4, a5, a6, a7, a8, a9, a10) (nI j) :=
  fb_has0 hj' ((fb_bits 3 (by omega) j hj').mpr hj) H
theorem fb_mach {post : Int32 → Prop} {fp fd fl fr fc fk ft : Int32} {a1 a2 a3 a4 a5 a6 a7 a8 a9 a10 : Nat → Int32} {m M : Nat} (hm : m < 5) (hM : M < 5) (H1 : m < M → post 1) (H0 : M ≤ m → post 0) : wpX_isMachine post (nI M, fp, fd, fl, fr, fc, fk, ft, a1, a2, a3, a4, a5, a6, a7, a8, a9, a10) (nI m) := by
  unfold wpX_isMachine
  exact br_f (nI_pos (by omega)) (pk_le M m (fun z => H0 z) (fun z => H1 z))
theorem fb_time {post : Int32 → Prop} {t : Nat} (ht : t ≤ 15) (H : post 1) : wpX_isTime post () (nI t) := by
  unfold wpX_isTime
  exact br_f (nI_pos (by omega)) (pk_lt 15 t (fun z => absurd z (by omega)) (fun _ => H))
theorem fb_min {post : Int32 → Prop} {x y : Nat} (hx : x < 2 ^ 31) (hy : y < 2 ^ 31) (H : post (nI (min x y))) : wpL_min post () (nI x) (nI y) := by
  unfold wpL_min
  refine pk_le y x (fun z => ?_) (fun z => ?_)
  · rw [show min x y = y by omega] at H
    exact H
  · rw [show min x y = x by omega] at H
    exact H
theorem fb_max {post : Int32 → Prop} {x y : Nat} (hx : x < 2 ^ 31) (hy : y < 2 ^ 31) (H : post (nI (max x y))) : wpL_max post () (nI x) (nI y) := by
  unfold wpL_max
  refine pk_le x y (fun z => ?_) (fun z => ?_)
  · rw [show max x y = y by omega] at H
    exact H
  · rw [show max x y = x by omega] at H
    exact H
/-! add -/
theorem fb_or : ∀ k, k < 3 → nI (2 ^ k - 1) ||| ((1 : Int32) <<< (nI k &&& 31)) = nI (2 ^ (k + 1) - 1) := by decide +kernel
theorem fb_or0 : ∀ a, a < 16 → ∀ s, s < 16 → 1 ≤ a → ¬ ((nI a ||| nI s) ||| 0) = 0 := by decide +kernel
theorem fb_add68 {post : Int32 → St2 → Prop} {fm fd fl fr fc fk ft : Int32} {a1 a2 a3 a4 a5 a6 a7 a8 a9 a10 : Nat → Int32} {k a s : Nat} (hk : k < 3) (ha : a ≤ 15) (hs : s ≤ 15)
    (H : ∀ b1 : Nat → Int32, (∀ i, i ≠ k * 3 → i ≠ k * 3 + 1 → i ≠ k * 3 + 2 → b1 i = a1 i) → b1 (k * 3) = nI a → b1 (k * 3 + 1) = nI s → post (nI k) (fm, nI (2 ^ (k + 1) - 1), fd, fl, fr, fc, 0, ft, b1, a2, a3, a4, a5, a6, a7, a8, a9, a10)) :
    ∃ f, wX_add_68 post (nI a) (nI s) 0 fm (nI (2 ^ k - 1)) fd fl fr fc fk ft a1 a2 a3 a4 a5 a6 a7 a8 a9 a10 f 0 := by
  refine pk_loop (σ := Unit) (fun f i _ => wX_add_68 post (nI a) (nI s) 0 fm (nI (2 ^ k - 1)) fd fl fr fc fk ft a1 a2 a3 a4 a5 a6 a7 a8 a9 a10 f (nI i)) (fun _ _ => True) k 0 () (by omega) trivial ?_ ?_
  · intro f _ _
    refine pk_le 5 k (fun z => absurd z (by omega)) (fun _ => fb_has0 (by omega) ((fb_bits k (by omega) k (by omega)).mpr (Nat.le_refl k)) (br_t rfl ?_))
    have e0 : nI k * 3 = nI (k * 3) := (pk_mul k 3)
    have e1 : nI (k * 3) + 1 = nI (k * 3 + 1) := nI_1 _
    have e2 : nI (k * 3) + 2 = nI (k * 3 + 2) := nI_add (k * 3) 2
    rw [e0, e1, e2, fb_or k hk, nI_clamp (show k * 3 < 2 ^ 31 by omega), nI_clamp (show k * 3 + 1 < 2 ^ 31 by omega), nI_clamp (show k * 3 + 2 < 2 ^ 31 by omega), hb_byte a (by omega), hb_byte s (by omega)]
    refine nm_e ⟨pk_in (k * 3) 15 (by omega), fun b1 g1 => ⟨pk_in (k * 3 + 1) 15 (by omega), fun b2 g2 => ⟨pk_in (k * 3 + 2) 15 (by omega), fun b3 g3 => H b3 (fun i i0 i1 i2 => ?_) ?_ ?_⟩⟩⟩
    · rw [g3, pk_un i2, g2, pk_un i1, g1, pk_un i0]
    · rw [g3, pk_un (by omega), g2, pk_un (by omega), g1, pk_us]
    · rw [g3, pk_un (by omega), g2, pk_us]
  · intro f i _ hi _ hw
    exact pk_le 5 i (fun z => absurd z (by omega)) (fun _ => fb_has1 (by omega) (fun z => absurd ((fb_bits k (by omega) i (by omega)).mp z) (by omega)) (br_f (by decide) (nm_r (nI_1 i) (hw () trivial))))
theorem fb_add {post : Int32 → St2 → Prop} {fd fl fr fc fk ft : Int32} {a1 a2 a3 a4 a5 a6 a7 a8 a9 a10 : Nat → Int32} {M k a : Nat} (hM1 : 1 ≤ M) (hM : M ≤ 2) (hk : k < 3) (ha1 : 1 ≤ a) (ha : a ≤ 15)
    (H : ∀ b1 : Nat → Int32, (∀ i, i ≠ k * 3 → i ≠ k * 3 + 1 → i ≠ k * 3 + 2 → b1 i = a1 i) → b1 (k * 3) = nI a → (M = 2 → b1 (k * 3 + 1) = nI a) → post (nI k) (nI M, nI (2 ^ (k + 1) - 1), fd, fl, fr, fc, 0, ft, b1, a2, a3, a4, a5, a6, a7, a8, a9, a10)) :
    wpX_add post (nI M, nI (2 ^ k - 1), fd, fl, fr, fc, fk, ft, a1, a2, a3, a4, a5, a6, a7, a8, a9, a10) (nI a) (nI a) 0 := by
  have main : ∀ s, s ≤ 15 → (∀ b1 : Nat → Int32, (∀ i, i ≠ k * 3 → i ≠ k * 3 + 1 → i ≠ k * 3 + 2 → b1 i = a1 i) → b1 (k * 3) = nI a → b1 (k * 3 + 1) = nI s → post (nI k) (nI M, nI (2 ^ (k + 1) - 1), fd, fl, fr, fc, 0, ft, b1, a2, a3, a4, a5, a6, a7, a8, a9, a10)) → wX_add_13 post (nI a) 0 (nI s) (nI M) (nI (2 ^ k - 1)) fd fl fr fc fk ft a1 a2 a3 a4 a5 a6 a7 a8 a9 a10 := by
    intro s hs H
    unfold wX_add_13
    refine pk_le M 2 (fun _ => ?_) (fun z => absurd z (by omega))
    unfold wX_add_28
    exact fb_time ha (br_f (by decide) (fb_time hs (br_f (by decide) (fb_time (t := 0) (by omega) (br_f (by decide) (br_f (fb_or0 a (by omega) s (by omega) ha1) (fb_add68 hk ha hs H)))))))
  unfold wpX_add
  refine pk_le M 1 (fun z => main 0 (by omega) (fun b1 g0 g1 g2 => H b1 g0 g1 (fun e => absurd e (by omega)))) (fun z => main a ha (fun b1 g0 g1 g2 => H b1 g0 g1 (fun _ => g2)))
/-! able, askPlainly -/
def fb_ab (M : Nat) (T : Nat → Nat → Nat) (j : Nat) : Nat := (if T j 0 = 0 then 0 else 1) + (if M = 2 ∧ T j 1 ≠ 0 then 2 else 0)
def fb_A (M : Nat) (a1 : Nat → Int32) (T : Nat → Nat → Nat) : Prop := 1 ≤ M ∧ M ≤ 2 ∧ ∀ j m, j < 3 → m < M → a1 (j * 3 + m) = nI (T j m) ∧ T j m ≤ 15
theorem fb_able {post : Int32 → Prop} {fp fd fl fr fc fk ft : Int32} {a1 a2 a3 a4 a5 a6 a7 a8 a9 a10 : Nat → Int32} {M j : Nat} {T : Nat → Nat → Nat} (hA : fb_A M a1 T) (hj : j < 5) (H : ∀ x : Int32, (j < 3 → x = nI (fb_ab M T j)) → post x) : wpX_able post (nI M, fp, fd, fl, fr, fc, fk, ft, a1, a2, a3, a4, a5, a6, a7, a8, a9, a10) (nI j) := by
  obtain ⟨m1, m2, hA⟩ := hA
  unfold wpX_able
  have e0 : nI j * 3 = nI (j * 3) := pk_mul j 3
  have i0 : nI j * 3 + 0 = nI (j * 3 + 0) := by rw [e0]; exact nI_add (j * 3) 0
  have i1 : nI j * 3 + nI 1 = nI (j * 3 + 1) := by rw [e0]; exact nI_add (j * 3) 1
  have c0 : ∀ m, j < 3 → m < M → (a1 (j * 3 + m) ≤ 0 ↔ T j m = 0) := by
    intro m hj hm
    obtain ⟨g1, g2⟩ := hA j m hj hm
    rw [g1, ← nI_0, nI_leI (by omega) (by omega)]
    omega
  have hM : M = 1 ∨ M = 2 := by omega
  rcases hM with e | e
  · subst e
    refine ⟨2, pk_le 1 0 (fun z => absurd z (by omega)) (fun _ => ?_)⟩
    rw [i0, nI_clamp (show j * 3 + 0 < 2 ^ 31 by omega)]
    refine ⟨pk_in (j * 3 + 0) 15 (by omega), br_c (fun g => nm_r (e' := nI 1) (by decide) (pk_le 1 1 (fun _ => H _ (fun hj => ?_)) (fun z => absurd z (by omega)))) (fun g => nm_e (nm_r (e' := nI 1) (by decide) (pk_le 1 1 (fun _ => H _ (fun hj => ?_)) (fun z => absurd z (by omega)))))⟩
    · rw [c0 0 hj (by omega)] at g
      unfold fb_ab
      rw [if_pos g, if_neg (by omega)]
      rfl
    · rw [c0 0 hj (by omega)] at g
      unfold fb_ab
      rw [if_neg g, if_neg (by omega)]
      decide
  · subst e
    have step : ∀ x2 : Int32, (a1 (j * 3 + 1) ≤ 0 → post x2) → (¬ a1 (j * 3 + 1) ≤ 0 → post (x2 ||| 2)) → wX_able_4 post (nI j) (nI 2) fp fd fl fr fc fk ft a1 a2 a3 a4 a5 a6 a7 a8 a9 a10 2 x2 (nI 1) := by
      intro x2 P Q
      refine pk_le 2 1 (fun z => absurd z (by omega)) (fun _ => ?_)
      rw [i1, nI_clamp (show j * 3 + 1 < 2 ^ 31 by omega)]
      exact ⟨pk_in (j * 3 + 1) 15 (by omega), br_c (fun g => nm_r (e' := nI 2) (by decide) (pk_le 2 2 (fun _ => P g) (fun z => absurd z (by omega)))) (fun g => nm_r (e' := x2 ||| 2) (by rw [show (1 : Int32) <<< (nI 1 &&& 31) = 2 by decide]) (nm_r (e' := nI 2) (by decide) (pk_le 2 2 (fun _ => Q g) (fun z => absurd z (by omega)))))⟩
    refine ⟨3, pk_le 2 0 (fun z => absurd z (by omega)) (fun _ => ?_)⟩
    rw [i0, nI_clamp (show j * 3 + 0 < 2 ^ 31 by omega)]
    refine ⟨pk_in (j * 3 + 0) 15 (by omega), br_c (fun g => nm_r (e' := nI 1) (by decide) (step 0 (fun g1 => H _ (fun hj => ?_)) (fun g1 => H _ (fun hj => ?_)))) (fun g => nm_r (e' := 1) (by decide) (nm_r (e' := nI 1) (by decide) (step 1 (fun g1 => H _ (fun hj => ?_)) (fun g1 => H _ (fun hj => ?_)))))⟩
    all_goals rw [c0 0 hj (by omega)] at g
    all_goals rw [c0 1 hj (by omega)] at g1
    all_goals unfold fb_ab
    · rw [if_pos g, if_neg (fun z => z.2 g1)]
      rfl
    · rw [if_pos g, if_pos ⟨rfl, g1⟩]
      decide
    · rw [if_neg g, if_neg (fun z => z.2 g1)]
      rfl
    · rw [if_neg g, if_pos ⟨rfl, g1⟩]
      decide
theorem fb_ab4 (M : Nat) (T : Nat → Nat → Nat) (j : Nat) : fb_ab M T j < 4 := by
  unfold fb_ab
  repeat' split
  all_goals omega
theorem fb_ask {post : St2 → Prop} {fp fd fl fr fc fk ft : Int32} {a1 a2 a3 a4 a5 a6 a7 a8 a9 a10 : Nat → Int32} {M : Nat} {T : Nat → Nat → Nat} (hA : fb_A M a1 T) (H : ∀ b2 : Nat → Int32, (∀ j, j < 3 → b2 j = nI (fb_ab M T j)) → post (nI M, fp, -1, -1, fr, fc, fk, ft, a1, b2, a3, a4, a5, a6, a7, a8, a9, a10)) : wpX_askPlainly post (nI M, fp, fd, fl, fr, fc, fk, ft, a1, a2, a3, a4, a5, a6, a7, a8, a9, a10) := by
  unfold wpX_askPlainly
  refine pk_loop (σ := Nat → Int32) (fun f i s => wX_askPlainly_2 post (nI M) fp fd fl fr fc fk ft f (nI i) a1 s a3 a4 a5 a6 a7 a8 a9 a10) (fun i s => ∀ j, j < i → j < 3 → s j = nI (fb_ab M T j)) 5 0 a2 (by omega) (fun j h => absurd h (by omega)) ?_ ?_
  · intro f s h
    exact pk_le 5 5 (fun _ => H s (fun j hj => h j (by omega) hj)) (fun z => absurd z (by omega))
  · intro f i s hi h hw
    refine pk_le 5 i (fun z => absurd z (by omega)) (fun _ => fb_able hA hi (fun x hx => ⟨pk_in i 5 hi, fun b2 e2 => nm_r (nI_1 i) (hw b2 (fun j hj h3 => ?_))⟩))
    rw [nI_clamp (by omega)] at e2
    by_cases e : j = i
    · rw [e2, e, pk_us, hx (by omega)]
      rw [hb_byte _ (by have := fb_ab4 M T i; omega)]
    · rw [e2, pk_un e]
      exact h j (by omega) h3
end
section
/-! firstMachine and learn -/
def fl_up (O : Nat → Nat) (j o : Nat) : Nat → Nat := fun i => if i = j then o else O i
theorem fl_ups {O : Nat → Nat} {j o : Nat} : fl_up O j o j = o := by
  unfold fl_up
  rw [if_pos rfl]
theorem fl_upn {O : Nat → Nat} {i j o : Nat} (h : i ≠ j) : fl_up O j o i = O i := by
  unfold fl_up
  rw [if_neg h]
theorem fl_tot8 {v : Nat} (hv : v < 10000) : ft_tot (8 * (v : Int)) = nI v := by
  unfold ft_tot
  rw [if_pos (by omega)]
  congr 1
  omega
theorem fl_ok {M : Nat} {a1 b2 : Nat → Int32} {T : Nat → Nat → Nat} {O : Nat → Nat} (hA : fb_A M a1 T) (h2 : ∀ j, j < 3 → b2 j = nI (O j) ∧ O j < 4) : ft_ok M (5 * M) 0 (nI M) (-1) (-1) a1 b2 T O :=
  ⟨rfl, hA.1, hA.2.1, Or.inl ⟨rfl, rfl⟩, Or.inl ⟨rfl, rfl⟩, h2, hA.2.2⟩
theorem fl_pw : ∀ m, m < 2 → ((1 : Int32) <<< (nI m &&& 31)).toInt8.toInt32 = nI (2 ^ m) := by decide +kernel
theorem fl_p4 : ∀ m, m < 2 → 2 ^ m < 4 := by decide
theorem fl_upd {a2 b2 : Nat → Int32} {O : Nat → Nat} {j m : Nat} (hm : m < 2) (h : ∀ i, i < 3 → a2 i = nI (O i) ∧ O i < 4) (e : ∀ i, i ≠ j → b2 i = a2 i) (ej : b2 j = nI (2 ^ m)) : ∀ i, i < 3 → b2 i = nI (fl_up O j (2 ^ m) i) ∧ fl_up O j (2 ^ m) i < 4 := by
  intro i hi
  by_cases g : i = j
  · rw [g, fl_ups, ej]
    exact ⟨rfl, fl_p4 m hm⟩
  · rw [fl_upn g, e i g]
    exact h i hi
theorem fl_it {post : Int32 → St2 → Prop} {fr fc fk ft : Int32} {a1 a2 a3 a4 a5 a6 a7 a8 a9 a10 : Nat → Int32} {M m j f o : Nat} {T : Nat → Nat → Nat} {O : Nat → Nat} (hA : fb_A M a1 T) (h2 : ∀ i, i < 3 → a2 i = nI (O i) ∧ O i < 4) (hj : j < 3) (hm : m < M) (ho : o < 4)
    (N : o / 2 ^ m % 2 = 0 → wX_firstMachine_9 post (nI j) (nI o) f (nI (m + 1)) (nI M) 7 (-1) (-1) fr fc fk ft a1 a2 a3 a4 a5 a6 a7 a8 a9 a10)
    (Y : ¬ o / 2 ^ m % 2 = 0 → ∀ (s : Int) (gr gc : Int32) (b2 b3 b4 b5 b6 b7 b8 b9 : Nat → Int32), (∀ i, i ≠ j → b2 i = a2 i) → b2 j = nI (2 ^ m) → hu_Min3 (5 * M) (ft_K M 0 T (fl_up O j (2 ^ m)) (fun r => r - 1)) s →
      (ft_tot s = ft → post (nI m) (nI M, 7, -1, -1, gr, gc, fk, ft, a1, b2, b3, b4, b5, b6, b7, b8, b9, a10)) ∧ (¬ ft_tot s = ft → wX_firstMachine_9 post (nI j) (nI o) f (nI (m + 1)) (nI M) 7 (-1) (-1) gr gc fk ft a1 b2 b3 b4 b5 b6 b7 b8 b9 a10)) :
    wX_firstMachine_9 post (nI j) (nI o) (f + 1) (nI m) (nI M) 7 (-1) (-1) fr fc fk ft a1 a2 a3 a4 a5 a6 a7 a8 a9 a10 := by
  have hM := hA.2.1
  have hb := ft_bit o ho m (by omega)
  refine pk_le M m (fun z => absurd z (by omega)) (fun _ => br_c (fun g => nm_r (nI_1 m) (N (hb.mp g))) (fun g => ⟨pk_in j 5 (by omega), fun b2 e2 => ?_⟩))
  rw [nI_clamp (show j < 2 ^ 31 by omega), fl_pw m (by omega)] at e2
  have q1 : ∀ i, i ≠ j → b2 i = a2 i := fun i hi => by rw [e2, pk_un hi]
  have q2 : b2 j = nI (2 ^ m) := by rw [e2, pk_us]
  refine fv_total7 (fl_ok hA (fl_upd (by omega) h2 q1 q2)) (fun s gr gc b3 b4 b5 b6 b7 b8 b9 hs => ?_)
  obtain ⟨y1, y2⟩ := Y (fun z => g (hb.mpr z)) s gr gc b2 b3 b4 b5 b6 b7 b8 b9 q1 q2 hs
  exact br_c (fun w => y1 w) (fun w => nm_r (nI_1 m) (y2 w))
theorem fl_first1 {post : Int32 → St2 → Prop} {fr fc fk ft : Int32} {a1 a2 a3 a4 a5 a6 a7 a8 a9 a10 : Nat → Int32} {j : Nat} {T : Nat → Nat → Nat} (hA : fb_A 1 a1 T) (h2 : ∀ i, i < 3 → a2 i = nI 1) (hj : j < 3)
    (H : ∀ (gr gc : Int32) (b2 b3 b4 b5 b6 b7 b8 b9 : Nat → Int32), (∀ i, i < 3 → b2 i = nI 1) → post (nI 0) (nI 1, 7, -1, -1, gr, gc, fk, ft, a1, b2, b3, b4, b5, b6, b7, b8, b9, a10)) :
    wpX_firstMachine post (nI 1, 7, -1, -1, fr, fc, fk, ft, a1, a2, a3, a4, a5, a6, a7, a8, a9, a10) (nI j) := by
  unfold wpX_firstMachine
  refine ⟨pk_in j 5 (by omega), fun x2 e2 => ⟨2, ?_⟩⟩
  rw [nI_clamp (show j < 2 ^ 31 by omega), h2 j hj] at e2
  subst e2
  refine fl_it (M := 1) (m := 0) (O := fun _ => 1) hA (fun i hi => ⟨h2 i hi, by decide⟩) hj (by omega) (by omega) (fun z => absurd z (by decide)) (fun _ s gr gc b2 b3 b4 b5 b6 b7 b8 b9 q1 q2 hs => ?_)
  have q : ∀ i, i < 3 → b2 i = nI 1 := by
    intro i hi
    by_cases g : i = j
    · rw [g, q2]
    · rw [q1 i g]
      exact h2 i hi
  exact ⟨fun _ => H gr gc b2 b3 b4 b5 b6 b7 b8 b9 q, fun _ => pk_le 1 1 (fun _ => H gr gc b2 b3 b4 b5 b6 b7 b8 b9 q) (fun z => absurd z (by omega))⟩
/-- what two machines may answer, L the least total -/
def fl_Q (L : Int32) (T : Nat → Nat → Nat) (O : Nat → Nat) (j r : Nat) : Prop :=
  (r = 0 ∧ O j % 2 = 1 ∧ ∃ s, hu_Min3 10 (ft_K 2 0 T (fl_up O j 1) (fun r => r - 1)) s ∧ ft_tot s = L) ∨
  (r = 1 ∧ (O j % 2 = 1 → ∃ s, hu_Min3 10 (ft_K 2 0 T (fl_up O j 1) (fun r => r - 1)) s ∧ ¬ ft_tot s = L) ∧ O j / 2 % 2 = 1 ∧ ∃ s, hu_Min3 10 (ft_K 2 0 T (fl_up O j 2) (fun r => r - 1)) s ∧ ft_tot s = L) ∨
  (r = 0 ∧ (O j % 2 = 1 → ∃ s, hu_Min3 10 (ft_K 2 0 T (fl_up O j 1) (fun r => r - 1)) s ∧ ¬ ft_tot s = L) ∧ (O j / 2 % 2 = 1 → ∃ s, hu_Min3 10 (ft_K 2 0 T (fl_up O j 2) (fun r => r - 1)) s ∧ ¬ ft_tot s = L))
theorem fl_upup {O : Nat → Nat} {j o o' : Nat} : fl_up (fl_up O j o) j o' = fl_up O j o' := by
  funext i
  unfold fl_up
  split <;> rfl
theorem fl_first2 {post : Int32 → St2 → Prop} {fr fc fk ft : Int32} {a1 a2 a3 a4 a5 a6 a7 a8 a9 a10 : Nat → Int32} {j : Nat} {T : Nat → Nat → Nat} {O : Nat → Nat} (hA : fb_A 2 a1 T) (h2 : ∀ i, i < 3 → a2 i = nI (O i) ∧ O i < 4) (hj : j < 3)
    (H : ∀ (r : Nat) (gr gc : Int32) (b2 b3 b4 b5 b6 b7 b8 b9 : Nat → Int32), r < 2 → (∀ i, i ≠ j → b2 i = a2 i) → fl_Q ft T O j r → post (nI r) (nI 2, 7, -1, -1, gr, gc, fk, ft, a1, b2, b3, b4, b5, b6, b7, b8, b9, a10)) :
    wpX_firstMachine post (nI 2, 7, -1, -1, fr, fc, fk, ft, a1, a2, a3, a4, a5, a6, a7, a8, a9, a10) (nI j) := by
  obtain ⟨h2j, h2j4⟩ := h2 j hj
  unfold wpX_firstMachine
  refine ⟨pk_in j 5 (by omega), fun x2 e2 => ⟨3, ?_⟩⟩
  rw [nI_clamp (show j < 2 ^ 31 by omega), h2j] at e2
  subst e2
  refine fl_it (M := 2) (m := 0) hA h2 hj (by omega) h2j4 (fun z => ?_) (fun z s gr gc b2 b3 b4 b5 b6 b7 b8 b9 q1 q2 hs => ⟨fun w => ?_, fun w => ?_⟩)
  · have z : O j % 2 = 0 := by
      rw [show O j / 2 ^ 0 = O j by simp] at z
      exact z
    refine fl_it (M := 2) (m := 1) hA h2 hj (by omega) h2j4 (fun y => ?_) (fun y s gr gc b2 b3 b4 b5 b6 b7 b8 b9 q1 q2 hs => ⟨fun w => ?_, fun w => ?_⟩)
    · have y : O j / 2 % 2 = 0 := y
      exact pk_le 2 2 (fun _ => H 0 _ _ _ _ _ _ _ _ _ _ (by omega) (fun _ _ => rfl) (Or.inr (Or.inr ⟨rfl, fun k => absurd k (by omega), fun k => absurd k (by omega)⟩))) (fun k => absurd k (by omega))
    · have y : ¬ O j / 2 % 2 = 0 := y
      exact H 1 _ _ _ _ _ _ _ _ _ _ (by omega) q1 (Or.inr (Or.inl ⟨rfl, fun k => absurd k (by omega), by omega, s, hs, w⟩))
    · have y : ¬ O j / 2 % 2 = 0 := y
      exact pk_le 2 2 (fun _ => H 0 _ _ _ _ _ _ _ _ _ _ (by omega) q1 (Or.inr (Or.inr ⟨rfl, fun k => absurd k (by omega), fun _ => ⟨s, hs, w⟩⟩))) (fun k => absurd k (by omega))
  · have z : ¬ O j % 2 = 0 := by
      rw [show O j / 2 ^ 0 = O j by simp] at z
      exact z
    exact H 0 _ _ _ _ _ _ _ _ _ _ (by omega) q1 (Or.inl ⟨rfl, by omega, s, hs, w⟩)
  · have z : ¬ O j % 2 = 0 := by
      rw [show O j / 2 ^ 0 = O j by simp] at z
      exact z
    have Z : O j % 2 = 1 → ∃ s, hu_Min3 10 (ft_K 2 0 T (fl_up O j 1) (fun r => r - 1)) s ∧ ¬ ft_tot s = ft := fun _ => ⟨s, hs, w⟩
    have k2 : ∀ i, i < 3 → b2 i = nI (fl_up O j (2 ^ 0) i) ∧ fl_up O j (2 ^ 0) i < 4 := fl_upd (by omega) h2 q1 q2
    refine fl_it (M := 2) (m := 1) (O := fl_up O j (2 ^ 0)) hA k2 hj (by omega) h2j4 (fun y => ?_) (fun y s' gr' gc' d2 d3 d4 d5 d6 d7 d8 d9 p1 p2 hs' => ⟨fun w' => ?_, fun w' => ?_⟩)
    · have y : O j / 2 % 2 = 0 := y
      exact pk_le 2 2 (fun _ => H 0 _ _ _ _ _ _ _ _ _ _ (by omega) q1 (Or.inr (Or.inr ⟨rfl, Z, fun k => absurd k (by omega)⟩))) (fun k => absurd k (by omega))
    · have y : ¬ O j / 2 % 2 = 0 := y
      rw [fl_upup] at hs'
      exact H 1 _ _ _ _ _ _ _ _ _ _ (by omega) (fun i hi => by rw [p1 i hi, q1 i hi]) (Or.inr (Or.inl ⟨rfl, Z, by omega, s', hs', w'⟩))
    · have y : ¬ O j / 2 % 2 = 0 := y
      rw [fl_upup] at hs'
      exact pk_le 2 2 (fun _ => H 0 _ _ _ _ _ _ _ _ _ _ (by omega) (fun i hi => by rw [p1 i hi, q1 i hi]) (Or.inr (Or.inr ⟨rfl, Z, fun _ => ⟨s', hs', w'⟩⟩))) (fun k => absurd k (by omega))
/-- the jobs that are not there -/
theorem fl_tail {post : St2 → Prop} {fm fd fl fr fc fk ft : Int32} {a1 a2 a3 a4 a5 a6 a7 a8 a9 a10 : Nat → Int32} {f : Nat} (H : post (fm, 7, fd, fl, fr, fc, fk, ft, a1, a2, a3, a4, a5, a6, a7, a8, a9, a10)) : wX_learn_31 post (f + 3) (nI 3) fm 7 fd fl fr fc fk ft a1 a2 a3 a4 a5 a6 a7 a8 a9 a10 :=
  pk_le 5 3 (fun z => absurd z (by omega)) (fun _ => fb_7n (by omega) (by omega) (br_t rfl (nm_r (e' := nI 4) (by decide) (pk_le 5 4 (fun z => absurd z (by omega)) (fun _ => fb_7n (by omega) (by omega) (br_t rfl (nm_r (e' := nI 5) (by decide) (pk_le 5 5 (fun _ => H) (fun z => absurd z (by omega))))))))))
theorem fl_step1 {post : St2 → Prop} {fr fc fk ft : Int32} {a1 a2 a3 a4 a5 a6 a7 a8 a9 a10 : Nat → Int32} {f j : Nat} {T : Nat → Nat → Nat} (hA : fb_A 1 a1 T) (h2 : ∀ i, i < 3 → a2 i = nI 1) (hj : j < 3)
    (H : ∀ (gr gc : Int32) (b2 b3 b4 b5 b6 b7 b8 b9 b10 : Nat → Int32), (∀ i, i < 3 → b2 i = nI 1) → (∀ i, i ≠ j → b10 i = a10 i) → b10 j = nI 0 → wX_learn_31 post f (nI (j + 1)) (nI 1) 7 (-1) (-1) gr gc fk ft a1 b2 b3 b4 b5 b6 b7 b8 b9 b10) :
    wX_learn_31 post (f + 1) (nI j) (nI 1) 7 (-1) (-1) fr fc fk ft a1 a2 a3 a4 a5 a6 a7 a8 a9 a10 := by
  refine pk_le 5 j (fun z => absurd z (by omega)) (fun _ => fb_7y hj (br_f (by decide) (fl_first1 hA h2 hj (fun gr gc b2 b3 b4 b5 b6 b7 b8 b9 k2 => ?_))))
  refine ⟨pk_in j 5 (by omega), fun b10 e10 => ⟨pk_in j 5 (by omega), pk_in j 5 (by omega), fun c2 e2 => nm_r (nI_1 j) ?_⟩⟩
  rw [nI_clamp (show j < 2 ^ 31 by omega), hb_byte 0 (by omega)] at e10
  have w1 : ∀ i, i ≠ j → b10 i = a10 i := fun i hi => by rw [e10, pk_un hi]
  have w2 : b10 j = nI 0 := by rw [e10, pk_us]
  rw [nI_clamp (show j < 2 ^ 31 by omega), w2, fl_pw 0 (by omega)] at e2
  refine H gr gc c2 b3 b4 b5 b6 b7 b8 b9 b10 (fun i hi => ?_) w1 w2
  by_cases g : i = j
  · rw [e2, g, pk_us]
  · rw [e2, pk_un g]
    exact k2 i hi
theorem fl_step2 {post : St2 → Prop} {fr fc fk ft : Int32} {a1 a2 a3 a4 a5 a6 a7 a8 a9 a10 : Nat → Int32} {f j : Nat} {T : Nat → Nat → Nat} {O : Nat → Nat} (hA : fb_A 2 a1 T) (h2 : ∀ i, i < 3 → a2 i = nI (O i) ∧ O i < 4) (hj : j < 3)
    (H : ∀ (r : Nat) (gr gc : Int32) (b2 b3 b4 b5 b6 b7 b8 b9 b10 : Nat → Int32), r < 2 → fl_Q ft T O j r → (∀ i, i < 3 → b2 i = nI (fl_up O j (2 ^ r) i) ∧ fl_up O j (2 ^ r) i < 4) → (∀ i, i ≠ j → b10 i = a10 i) → b10 j = nI r → wX_learn_31 post f (nI (j + 1)) (nI 2) 7 (-1) (-1) gr gc fk ft a1 b2 b3 b4 b5 b6 b7 b8 b9 b10) :
    wX_learn_31 post (f + 1) (nI j) (nI 2) 7 (-1) (-1) fr fc fk ft a1 a2 a3 a4 a5 a6 a7 a8 a9 a10 := by
  refine pk_le 5 j (fun z => absurd z (by omega)) (fun _ => fb_7y hj (br_f (by decide) (fl_first2 hA h2 hj (fun r gr gc b2 b3 b4 b5 b6 b7 b8 b9 hr k2 hQ => ?_))))
  refine ⟨pk_in j 5 (by omega), fun b10 e10 => ⟨pk_in j 5 (by omega), pk_in j 5 (by omega), fun c2 e2 => nm_r (nI_1 j) ?_⟩⟩
  rw [nI_clamp (show j < 2 ^ 31 by omega), hb_byte r (by omega)] at e10
  have w1 : ∀ i, i ≠ j → b10 i = a10 i := fun i hi => by rw [e10, pk_un hi]
  have w2 : b10 j = nI r := by rw [e10, pk_us]
  rw [nI_clamp (show j < 2 ^ 31 by omega), w2, fl_pw r hr] at e2
  exact H r gr gc c2 b3 b4 b5 b6 b7 b8 b9 b10 hr hQ (fl_upd hr h2 (fun i hi => by rw [e2, pk_un hi, k2 i hi]) (by rw [e2, pk_us])) w1 w2
end
section
/-! learn, whole -/
def fl_al (a b c : Nat) : Nat := 2 * (a + b + c) + min a (min b c) - max a (max b c)
def fl_sh (a b c : Nat) : Nat := a + b + c + min a (min b c)
theorem fl_known {post : St2 → Prop} {fm fp fd fl fr fc ft : Int32} {a1 a2 a3 a4 a5 a6 a7 a8 a9 a10 : Nat → Int32} (H : post (fm, fp, fd, fl, fr, fc, 1, ft, a1, a2, a3, a4, a5, a6, a7, a8, a9, a10)) : wpX_learn post (fm, fp, fd, fl, fr, fc, 1, ft, a1, a2, a3, a4, a5, a6, a7, a8, a9, a10) := by
  unfold wpX_learn
  exact br_f (by decide) H
theorem fl_ab1 {T : Nat → Nat → Nat} {j : Nat} (h : 1 ≤ T j 0) : fb_ab 1 T j = 1 := by
  unfold fb_ab
  rw [if_neg (by omega), if_neg (by omega)]
theorem fl_ab3 {T : Nat → Nat → Nat} {j : Nat} (h : 1 ≤ T j 0) (h' : 1 ≤ T j 1) : fb_ab 2 T j = 3 := by
  unfold fb_ab
  rw [if_neg (by omega), if_pos ⟨rfl, by omega⟩]
theorem fl_ab2 {T : Nat → Nat → Nat} {j : Nat} (h : T j 0 = 0) (h' : 1 ≤ T j 1) : fb_ab 2 T j = 2 := by
  unfold fb_ab
  rw [if_pos h, if_pos ⟨rfl, by omega⟩]
theorem fl_learn1 {post : St2 → Prop} {fd fl fr fc ft : Int32} {a1 a2 a3 a4 a5 a6 a7 a8 a9 a10 : Nat → Int32} {a b c : Nat} {T : Nat → Nat → Nat} (hA : fb_A 1 a1 T) (ha : 1 ≤ a) (hb : 1 ≤ b) (hc : 1 ≤ c) (ha' : a ≤ 15) (hb' : b ≤ 15) (hc' : c ≤ 15) (t0 : T 0 0 = a) (t1 : T 1 0 = b) (t2 : T 2 0 = c)
    (H : ∀ (gr gc : Int32) (b2 b3 b4 b5 b6 b7 b8 b9 b10 : Nat → Int32), (∀ j, j < 3 → b10 j = nI 0) → post (nI 1, 7, -1, -1, gr, gc, 1, nI (fl_al a b c), a1, b2, b3, b4, b5, b6, b7, b8, b9, b10)) :
    wpX_learn post (nI 1, 7, fd, fl, fr, fc, 0, ft, a1, a2, a3, a4, a5, a6, a7, a8, a9, a10) := by
  have o0 : fb_ab 1 T 0 = 1 := fl_ab1 (by omega)
  have o1 : fb_ab 1 T 1 = 1 := fl_ab1 (by omega)
  have o2 : fb_ab 1 T 2 = 1 := fl_ab1 (by omega)
  unfold wpX_learn
  refine br_t rfl (fb_ask hA (fun b2 k2 => ?_))
  have q2 : ∀ i, i < 3 → b2 i = nI 1 := by
    intro i hi
    have : i = 0 ∨ i = 1 ∨ i = 2 := by omega
    rw [k2 i hi]
    rcases this with e | e | e <;> subst e
    · rw [o0]
    · rw [o1]
    · rw [o2]
  refine ft_total7 (fl_ok hA (fun j hj => ⟨k2 j hj, fb_ab4 _ _ _⟩)) (fun s gr gc b3 b4 b5 b6 b7 b8 b9 hs => ?_)
  have es := fm_1 o0 o1 o2 t0 t1 t2 hs
  have es' : s = 8 * ((fl_al a b c : Nat) : Int) := by
    unfold fl_al
    omega
  have bd : fl_al a b c < 10000 := by
    unfold fl_al
    omega
  rw [es', fl_tot8 bd]
  refine ⟨6, fl_step1 (j := 0) hA q2 (by omega) (fun g1 g2 d2 d3 d4 d5 d6 d7 d8 d9 d10 w1 w2 w3 => ?_)⟩
  refine fl_step1 (j := 1) hA w1 (by omega) (fun g1 g2 e2 e3 e4 e5 e6 e7 e8 e9 e10 x1 x2 x3 => ?_)
  refine fl_step1 (j := 2) hA x1 (by omega) (fun g1 g2 f2 f3 f4 f5 f6 f7 f8 f9 f10 y1 y2 y3 => ?_)
  refine fl_tail (H _ _ _ _ _ _ _ _ _ _ _ (fun j hj => ?_))
  have : j = 0 ∨ j = 1 ∨ j = 2 := by omega
  rcases this with e | e | e
  · rw [e, y2 0 (by omega), x2 0 (by omega), w3]
  · rw [e, y2 1 (by omega), x3]
  · rw [e, y3]
theorem fl_learn2 {post : St2 → Prop} {fd fl fr fc ft : Int32} {a1 a2 a3 a4 a5 a6 a7 a8 a9 a10 : Nat → Int32} {a b c : Nat} {T : Nat → Nat → Nat} (hA : fb_A 2 a1 T) (ha : 1 ≤ a) (hb : 1 ≤ b) (hc : 1 ≤ c) (ha' : a ≤ 15) (hb' : b ≤ 15) (hc' : c ≤ 15) (t0 : T 0 0 = a) (t0' : T 0 1 = a) (t1 : T 1 0 = b) (t1' : T 1 1 = b) (t2 : T 2 0 = c) (t2' : T 2 1 = c)
    (H : ∀ (gr gc : Int32) (b2 b3 b4 b5 b6 b7 b8 b9 b10 : Nat → Int32), b10 0 = nI 0 → post (nI 2, 7, -1, -1, gr, gc, 1, nI (fl_sh a b c), a1, b2, b3, b4, b5, b6, b7, b8, b9, b10)) :
    wpX_learn post (nI 2, 7, fd, fl, fr, fc, 0, ft, a1, a2, a3, a4, a5, a6, a7, a8, a9, a10) := by
  have o0 : fb_ab 2 T 0 = 3 := fl_ab3 (by omega) (by omega)
  have o1 : fb_ab 2 T 1 = 3 := fl_ab3 (by omega) (by omega)
  have o2 : fb_ab 2 T 2 = 3 := fl_ab3 (by omega) (by omega)
  unfold wpX_learn
  refine br_t rfl (fb_ask hA (fun b2 k2 => ?_))
  have q2 : ∀ i, i < 3 → b2 i = nI (fb_ab 2 T i) ∧ fb_ab 2 T i < 4 := fun i hi => ⟨k2 i hi, fb_ab4 _ _ _⟩
  refine ft_total7 (fl_ok hA q2) (fun s gr gc b3 b4 b5 b6 b7 b8 b9 hs => ?_)
  have es := fm_333 (lk := 0) ha hb hc ha' hb' hc' (by omega) o0 o1 o2 t0 t0' t1 t1' t2 t2' hs
  have es' : s = 8 * ((fl_sh a b c : Nat) : Int) := by
    unfold fl_sh
    omega
  have bd : fl_sh a b c < 10000 := by
    unfold fl_sh
    omega
  rw [es', fl_tot8 bd]
  refine ⟨6, fl_step2 (j := 0) hA q2 (by omega) (fun r0 g1 g2 d2 d3 d4 d5 d6 d7 d8 d9 d10 hr0 hQ0 w1 w2 w3 => ?_)⟩
  have no : ∀ s, hu_Min3 10 (ft_K 2 0 T (fl_up (fb_ab 2 T) 0 1) (fun r => r - 1)) s → ft_tot s = nI (fl_sh a b c) := by
    intro s hs
    have e := fm_133 ha hb hc ha' hb' hc' (show fl_up (fb_ab 2 T) 0 1 0 = 1 from fl_ups) (show fl_up (fb_ab 2 T) 0 1 1 = 3 by rw [fl_upn (by omega), o1]) (show fl_up (fb_ab 2 T) 0 1 2 = 3 by rw [fl_upn (by omega), o2]) t0 t0' t1 t1' t2 t2' hs
    rw [e]
    exact fl_tot8 bd
  have r00 : r0 = 0 := by
    rcases hQ0 with ⟨e, _⟩ | ⟨_, e, _⟩ | ⟨e, _⟩
    · exact e
    · obtain ⟨s, hs, g⟩ := e (by rw [o0])
      exact absurd (no s hs) g
    · exact e
  refine fl_step2 (j := 1) hA w1 (by omega) (fun r1 g1 g2 e2 e3 e4 e5 e6 e7 e8 e9 e10 hr1 hQ1 x1 x2 x3 => ?_)
  refine fl_step2 (j := 2) hA x1 (by omega) (fun r2 g1 g2 f2 f3 f4 f5 f6 f7 f8 f9 f10 hr2 hQ2 y1 y2 y3 => ?_)
  exact fl_tail (H _ _ _ _ _ _ _ _ _ _ _ (by rw [y2 0 (by omega), x2 0 (by omega), w3, r00]))
theorem fl_learnZ {post : St2 → Prop} {fd fl fr fc ft : Int32} {a1 a2 a3 a4 a5 a6 a7 a8 a9 a10 : Nat → Int32} {a b c : Nat} {T : Nat → Nat → Nat} (hA : fb_A 2 a1 T) (ha : 1 ≤ a) (hb : 1 ≤ b) (hc : 1 ≤ c) (ha' : a ≤ 15) (hb' : b ≤ 15) (hc' : c ≤ 15) (t0 : T 0 0 = a) (t0' : T 0 1 = a) (t1 : T 1 0 = b) (t1' : T 1 1 = b) (t2 : T 2 0 = 0) (t2' : T 2 1 = c)
    (H : ∀ (gr gc : Int32) (b2 b3 b4 b5 b6 b7 b8 b9 b10 : Nat → Int32), b10 2 = nI 1 → post (nI 2, 7, -1, -1, gr, gc, 1, nI (fl_sh a b c), a1, b2, b3, b4, b5, b6, b7, b8, b9, b10)) :
    wpX_learn post (nI 2, 7, fd, fl, fr, fc, 0, ft, a1, a2, a3, a4, a5, a6, a7, a8, a9, a10) := by
  have o0 : fb_ab 2 T 0 = 3 := fl_ab3 (by omega) (by omega)
  have o1 : fb_ab 2 T 1 = 3 := fl_ab3 (by omega) (by omega)
  have o2 : fb_ab 2 T 2 = 2 := fl_ab2 t2 (by omega)
  unfold wpX_learn
  refine br_t rfl (fb_ask hA (fun b2 k2 => ?_))
  have q2 : ∀ i, i < 3 → b2 i = nI (fb_ab 2 T i) ∧ fb_ab 2 T i < 4 := fun i hi => ⟨k2 i hi, fb_ab4 _ _ _⟩
  refine ft_total7 (fl_ok hA q2) (fun s gr gc b3 b4 b5 b6 b7 b8 b9 hs => ?_)
  have es := fm_332 ha hb hc ha' hb' hc' o0 o1 o2 t0 t0' t1 t1' t2' hs
  have bd : fl_sh a b c < 10000 := by
    unfold fl_sh
    omega
  have es' : s = 8 * ((fl_sh a b c : Nat) : Int) := es
  rw [es', fl_tot8 bd]
  generalize fb_ab 2 T = O at *
  refine ⟨6, fl_step2 (j := 0) hA q2 (by omega) (fun r0 g1 g2 d2 d3 d4 d5 d6 d7 d8 d9 d10 hr0 hQ0 w1 w2 w3 => ?_)⟩
  have r00 : r0 = 0 := by
    rcases hQ0 with ⟨e, _⟩ | ⟨_, e, _⟩ | ⟨e, _⟩
    · exact e
    · obtain ⟨s, hs, g⟩ := e (by rw [o0])
      have e := fm_132 ha hb hc ha' hb' hc' (show fl_up O 0 1 0 = 1 from fl_ups) (show fl_up O 0 1 1 = 3 by rw [fl_upn (by omega), o1]) (show fl_up O 0 1 2 = 2 by rw [fl_upn (by omega), o2]) t0 t0' t1 t1' t2' hs
      rw [e] at g
      exact absurd (fl_tot8 bd) g
    · exact e
  subst r00
  have p0 : fl_up O 0 (2 ^ 0) 0 = 1 := fl_ups
  have p1 : fl_up O 0 (2 ^ 0) 1 = 3 := by rw [fl_upn (by omega), o1]
  have p2 : fl_up O 0 (2 ^ 0) 2 = 2 := by rw [fl_upn (by omega), o2]
  generalize fl_up O 0 (2 ^ 0) = P at *
  refine fl_step2 (j := 1) hA w1 (by omega) (fun r1 g1 g2 e2 e3 e4 e5 e6 e7 e8 e9 e10 hr1 hQ1 x1 x2 x3 => ?_)
  have A1 : ∀ Q : Nat → Nat, Q 0 = 1 → Q 1 = 1 → Q 2 = 2 → ∀ s, hu_Min3 10 (ft_K 2 0 T Q (fun r => r - 1)) s → ft_tot s = nI (a + b + c + min a b) := by
    intro Q u0 u1 u2 s hs
    rw [fm_112 ha hb hc ha' hb' hc' u0 u1 u2 t0 t0' t1 t1' t2' hs]
    exact fl_tot8 (by omega)
  have A2 : ∀ Q : Nat → Nat, Q 0 = 1 → Q 1 = 2 → Q 2 = 2 → ∀ s, hu_Min3 10 (ft_K 2 0 T Q (fun r => r - 1)) s → ft_tot s = nI (a + b + c + min b c) := by
    intro Q u0 u1 u2 s hs
    rw [fm_122 ha hb hc ha' hb' hc' u0 u1 u2 t0 t0' t1 t1' t2' hs]
    exact fl_tot8 (by omega)
  have u10 : ∀ o, fl_up P 1 o 0 = 1 := fun o => by rw [fl_upn (by omega), p0]
  have u12 : ∀ o, fl_up P 1 o 2 = 2 := fun o => by rw [fl_upn (by omega), p2]
  -- the answer for job 1 keeps the least total
  have key : ∀ Q : Nat → Nat, Q 0 = 1 → Q 1 = 2 ^ r1 → Q 2 = 2 → ∀ s, hu_Min3 10 (ft_K 2 0 T Q (fun r => r - 1)) s → ft_tot s = nI (fl_sh a b c) := by
    intro Q v0 v1 v2 s hs
    rcases hQ1 with ⟨e, _, s', hs', g⟩ | ⟨e, _, _, s', hs', g⟩ | ⟨e, g1, g2⟩
    · subst e
      rw [A1 Q v0 v1 v2 s hs, ← A1 _ (u10 1) fl_ups (u12 1) s' hs', g]
    · subst e
      rw [A2 Q v0 v1 v2 s hs, ← A2 _ (u10 2) fl_ups (u12 2) s' hs', g]
    · obtain ⟨s1, hs1, n1⟩ := g1 (by rw [p1])
      obtain ⟨s2, hs2, n2⟩ := g2 (by rw [p1])
      rw [A1 _ (u10 1) fl_ups (u12 1) s1 hs1] at n1
      rw [A2 _ (u10 2) fl_ups (u12 2) s2 hs2] at n2
      exfalso
      have m1 : a + b + c + min a b ≠ fl_sh a b c := fun z => n1 (by rw [z])
      have m2 : a + b + c + min b c ≠ fl_sh a b c := fun z => n2 (by rw [z])
      unfold fl_sh at m1 m2
      omega
  have v0 : fl_up P 1 (2 ^ r1) 0 = 1 := u10 _
  have v1 : fl_up P 1 (2 ^ r1) 1 = 2 ^ r1 := fl_ups
  have v2 : fl_up P 1 (2 ^ r1) 2 = 2 := u12 _
  generalize fl_up P 1 (2 ^ r1) = Q at *
  refine fl_step2 (j := 2) hA x1 (by omega) (fun r2 g1 g2 f2 f3 f4 f5 f6 f7 f8 f9 f10 hr2 hQ2 y1 y2 y3 => ?_)
  have r21 : r2 = 1 := by
    rcases hQ2 with ⟨_, e, _⟩ | ⟨e, _⟩ | ⟨_, _, g⟩
    · rw [v2] at e
      omega
    · exact e
    · obtain ⟨s, hs, n⟩ := g (by rw [v2])
      exact absurd (key _ (by rw [fl_upn (by omega), v0]) (by rw [fl_upn (by omega), v1]) fl_ups s hs) n
  exact fl_tail (H _ _ _ _ _ _ _ _ _ _ _ (by rw [y3, r21]))
end
section
/-! the public questions -/
theorem fn_doubled {post : Int32 → St2 → Prop} {fd fl fr fc fk ft : Int32} {a1 a2 a3 a4 a5 a6 a7 a8 a9 a10 : Nat → Int32} {M : Nat} {T : Nat → Nat → Nat} (hA : fb_A M a1 T)
    (H : ∀ (s : Int) (gr gc : Int32) (b2 b3 b4 b5 b6 b7 b8 b9 : Nat → Int32), hu_Min3 (5 * M + 5) (ft_K M 0 T (fb_ab M T) (fun r => r - 1)) s → post (ft_tot s) (nI M, 7, 0, -1, gr, gc, fk, ft, a1, b2, b3, b4, b5, b6, b7, b8, b9, a10)) :
    wpX_leastDoubled post (nI M, 7, fd, fl, fr, fc, fk, ft, a1, a2, a3, a4, a5, a6, a7, a8, a9, a10) 0 := by
  have m1 := hA.1
  have m2 := hA.2.1
  unfold wpX_leastDoubled
  refine fb_mach (m := 0) (by omega) (by omega) (fun _ => br_f (by decide) (fb_ask hA (fun b2 k2 => ?_))) (fun z => absurd z (by omega))
  exact ft_total7 ⟨rfl, m1, m2, Or.inr ⟨rfl, rfl⟩, Or.inl ⟨rfl, rfl⟩, fun j hj => ⟨k2 j hj, fb_ab4 _ _ _⟩, hA.2.2⟩ (fun s gr gc b3 b4 b5 b6 b7 b8 b9 hs => H s gr gc b2 b3 b4 b5 b6 b7 b8 b9 hs)
theorem fn_mask : ∀ o, o < 4 → (nI o &&& (((1 : Int32) <<< ((0 : Int32) &&& 31)) ^^^ (-1))).toInt8.toInt32 = nI (o / 2 * 2) := by decide +kernel
theorem fn_idle {post : Int32 → St2 → Prop} {fd fl fr fc fk ft : Int32} {a1 a2 a3 a4 a5 a6 a7 a8 a9 a10 : Nat → Int32} {M : Nat} {T : Nat → Nat → Nat} (hA : fb_A M a1 T)
    (H : ∀ (s : Int) (gr gc : Int32) (b2 b3 b4 b5 b6 b7 b8 b9 : Nat → Int32), hu_Min3 (5 * M) (ft_K M 0 T (fun j => fb_ab M T j / 2 * 2) (fun r => r - 1)) s → post (ft_tot s) (nI M, 7, -1, -1, gr, gc, fk, ft, a1, b2, b3, b4, b5, b6, b7, b8, b9, a10)) :
    wpX_leastIdle post (nI M, 7, fd, fl, fr, fc, fk, ft, a1, a2, a3, a4, a5, a6, a7, a8, a9, a10) 0 := by
  have m1 := hA.1
  have m2 := hA.2.1
  unfold wpX_leastIdle
  refine fb_mach (m := 0) (by omega) (by omega) (fun _ => br_f (by decide) (fb_ask hA (fun b2 k2 => ?_))) (fun z => absurd z (by omega))
  refine pk_loop (σ := Nat → Int32) (fun f i s => wX_leastIdle_16 post 0 (nI M) 7 (-1) (-1) fr fc fk ft f (nI i) a1 s a3 a4 a5 a6 a7 a8 a9 a10) (fun i s => ∀ j, j < 3 → (j < i → s j = nI (fb_ab M T j / 2 * 2)) ∧ (i ≤ j → s j = nI (fb_ab M T j))) 5 0 b2 (by omega) (fun j hj => ⟨fun z => absurd z (by omega), fun _ => k2 j hj⟩) ?_ ?_
  · intro f s h
    exact pk_le 5 5 (fun _ => ft_total7 (fl_ok hA (fun j hj => ⟨(h j hj).1 (by omega), by have := fb_ab4 M T j; omega⟩)) (fun x gr gc b3 b4 b5 b6 b7 b8 b9 hs => H x gr gc s b3 b4 b5 b6 b7 b8 b9 hs)) (fun z => absurd z (by omega))
  · intro f i s hi h hw
    refine pk_le 5 i (fun z => absurd z (by omega)) (fun _ => ⟨pk_in i 5 hi, pk_in i 5 hi, fun d2 e2 => nm_r (nI_1 i) (hw d2 (fun j hj => ?_))⟩)
    rw [nI_clamp (by omega)] at e2
    by_cases g : j = i
    · refine ⟨fun _ => ?_, fun z => absurd z (by omega)⟩
      rw [e2, g, pk_us, (h i (by omega)).2 (Nat.le_refl i)]
      exact fn_mask _ (fb_ab4 M T i)
    · rw [e2, pk_un g]
      exact ⟨fun z => (h j hj).1 (by omega), fun z => (h j hj).2 (by omega)⟩
theorem fn_most {post : Int32 → St2 → Prop} {fd fl fr fc fk ft : Int32} {a1 a2 a3 a4 a5 a6 a7 a8 a9 a10 : Nat → Int32} {M : Nat} {T : Nat → Nat → Nat} (hA : fb_A M a1 T) (hT : ∀ j, j < 3 → 1 ≤ T j 0)
    (H : ∀ (s : Nat) (gr gc : Int32) (b2 b3 b4 b5 b6 b7 b8 b9 : Nat → Int32), hu_Min3 (5 * M) (ft_K M 1 T (fb_ab M T) (fun r => r - 1)) (s : Int) → post (nI ((s + 7) / 8 * 8 - s)) (nI M, 7, -1, 0, gr, gc, fk, ft, a1, b2, b3, b4, b5, b6, b7, b8, b9, a10)) :
    wpX_mostJobs post (nI M, 7, fd, fl, fr, fc, fk, ft, a1, a2, a3, a4, a5, a6, a7, a8, a9, a10) 0 := by
  have m1 := hA.1
  have m2 := hA.2.1
  unfold wpX_mostJobs
  refine fb_mach (m := 0) (by omega) (by omega) (fun _ => br_f (by decide) (fb_ask hA (fun b2 k2 => ?_))) (fun z => absurd z (by omega))
  have ok : ft_ok M (5 * M) 1 (nI M) (-1) 0 a1 b2 T (fb_ab M T) := ⟨rfl, m1, m2, Or.inl ⟨rfl, rfl⟩, Or.inr ⟨rfl, rfl, hT⟩, fun j hj => ⟨k2 j hj, fb_ab4 _ _ _⟩, hA.2.2⟩
  refine ft_match7 ok (fun r gr gc b3 b4 b5 b6 b7 b8 b9 hs => ?_)
  have bd := ft_b3 (ft_C ok (fun r r1 r2 => by show r - 1 < 3; omega)) hs
  obtain ⟨k, hk⟩ : ∃ k : Nat, r.toInt = (k : Int) := ⟨r.toInt.toNat, by omega⟩
  have er : r = nI k := hb_nI hk (by omega)
  rw [hk] at hs
  have e1 : ((r + 7) >>> ((3 : Int32) &&& 31)) * 8 - r = nI ((k + 7) / 8 * 8 - k) := by
    have e3 : r + 7 = nI (k + 7) := by
      rw [er]
      exact nI_add k 7
    have e4 : nI (k + 7) >>> ((3 : Int32) &&& 31) = nI ((k + 7) / 8) := pk_shrN (by omega) _ 3 (by decide)
    have e5 : nI ((k + 7) / 8) * 8 = nI ((k + 7) / 8 * 8) := pk_mul _ 8
    rw [e3, e4, e5, er]
    exact pk_sub (by omega)
  rw [e1]
  exact H k gr gc b2 b3 b4 b5 b6 b7 b8 b9 hs
theorem fn_total6 {x : Int32} {post : Int32 → St2 → Prop} {fm fp fd fl fr fc fk ft : Int32} {a1 a2 a3 a4 a5 a6 a7 a8 a9 a10 : Nat → Int32} {M n lk : Nat} {T : Nat → Nat → Nat} {O : Nat → Nat} (hx : x = 6) (h : ft_ok M n lk fm fd fl a1 a2 T O)
    (H : ∀ (s : Int) (gr gc : Int32) (b3 b4 b5 b6 b7 b8 b9 : Nat → Int32), hu_Min2 n (ft_K M lk T O (fun r => r)) s → post (ft_tot s) (fm, fp, fd, fl, gr, gc, fk, ft, a1, a2, b3, b4, b5, b6, b7, b8, b9, a10)) : wpX_totalOf post (fm, fp, fd, fl, fr, fc, fk, ft, a1, a2, a3, a4, a5, a6, a7, a8, a9, a10) x := by
  rw [hx]
  exact ft_total6 h H
theorem fn_without {post : Int32 → St2 → Prop} {fd fl fr fc fk ft : Int32} {a1 a2 a3 a4 a5 a6 a7 a8 a9 a10 : Nat → Int32} {M : Nat} {T : Nat → Nat → Nat} (hA : fb_A M a1 T)
    (H : ∀ (s : Int) (gr gc : Int32) (b2 b3 b4 b5 b6 b7 b8 b9 : Nat → Int32), hu_Min2 (5 * M) (ft_K M 0 T (fb_ab M T) (fun r => r)) s → post (ft_tot s) (nI M, 7, -1, -1, gr, gc, fk, ft, a1, b2, b3, b4, b5, b6, b7, b8, b9, a10)) :
    wpX_leastWithout post (nI M, 7, fd, fl, fr, fc, fk, ft, a1, a2, a3, a4, a5, a6, a7, a8, a9, a10) 0 := by
  unfold wpX_leastWithout
  refine fb_7y (j := 0) (by omega) (br_f (by decide) (fb_ask hA (fun b2 k2 => ?_)))
  exact fn_total6 (x := (7 : Int32) &&& (((1 : Int32) <<< ((0 : Int32) &&& 31)) ^^^ (-1))) (by decide) (fl_ok hA (fun j hj => ⟨k2 j hj, fb_ab4 _ _ _⟩)) (fun s gr gc b3 b4 b5 b6 b7 b8 b9 hs => H s gr gc b2 b3 b4 b5 b6 b7 b8 b9 hs)
theorem fn_with {post : Int32 → St2 → Prop} {fd fl fr fc fk ft : Int32} {a1 a2 a3 a4 a5 a6 a7 a8 a9 a10 : Nat → Int32} {M m : Nat} {T : Nat → Nat → Nat} (hA : fb_A M a1 T) (hm : m < M) (hT : 1 ≤ T 1 m)
    (H : ∀ (s : Int) (gr gc : Int32) (b2 b3 b4 b5 b6 b7 b8 b9 : Nat → Int32), hu_Min3 (5 * M) (ft_K M 0 T (fl_up (fb_ab M T) 1 (2 ^ m)) (fun r => r - 1)) s → post (ft_tot s) (nI M, 7, -1, -1, gr, gc, fk, ft, a1, b2, b3, b4, b5, b6, b7, b8, b9, a10)) :
    wpX_leastWith post (nI M, 7, fd, fl, fr, fc, fk, ft, a1, a2, a3, a4, a5, a6, a7, a8, a9, a10) 1 (nI m) := by
  have m1 := hA.1
  have m2 := hA.2.1
  obtain ⟨t1, t2⟩ := hA.2.2 1 m (by omega) hm
  have ix : (1 : Int32) * 3 + nI m = nI (1 * 3 + m) := nI_add 3 m
  unfold wpX_leastWith
  refine fb_7y (j := 1) (by omega) (br_f (by decide) (fb_mach (by omega) (by omega) (fun _ => br_f (by decide) ?_) (fun z => absurd z (by omega))))
  rw [ix, nI_clamp (by omega), t1]
  refine ⟨pk_in (1 * 3 + m) 15 (by omega), br_f (nI_ne0 hT (by omega)) (fb_ask hA (fun b2 k2 => ⟨pk_in 1 5 (by omega), fun c2 e2 => ?_⟩))⟩
  rw [show (1 : Int32).toNatClampNeg = 1 by decide, fl_pw m (by omega)] at e2
  exact ft_total7 (fl_ok hA (fl_upd (by omega) (fun j hj => ⟨k2 j hj, fb_ab4 _ _ _⟩) (fun i hi => by rw [e2, pk_un hi]) (by rw [e2, pk_us]))) (fun s gr gc b3 b4 b5 b6 b7 b8 b9 hs => H s gr gc c2 b3 b4 b5 b6 b7 b8 b9 hs)
theorem fn_withno {post : Int32 → St2 → Prop} {fd fl fr fc fk ft : Int32} {a1 a2 a3 a4 a5 a6 a7 a8 a9 a10 : Nat → Int32} (H : post (-1) (nI 1, 7, fd, fl, fr, fc, fk, ft, a1, a2, a3, a4, a5, a6, a7, a8, a9, a10)) : wpX_leastWith post (nI 1, 7, fd, fl, fr, fc, fk, ft, a1, a2, a3, a4, a5, a6, a7, a8, a9, a10) 1 1 := by
  unfold wpX_leastWith
  exact fb_7y (j := 1) (by omega) (br_f (by decide) (fb_mach (m := 1) (by omega) (by omega) (fun z => absurd z (by omega)) (fun _ => br_t rfl H)))
/-- one machine: the time is put back -/
theorem fn_set1 {post : Int32 → St2 → Prop} {fd fl fr fc fk ft : Int32} {a1 a2 a3 a4 a5 a6 a7 a8 a9 a10 : Nat → Int32} {c : Nat} (hc : c ≤ 15) (h6 : a1 6 = nI c)
    (H : ∀ b1 : Nat → Int32, (∀ i, b1 i = a1 i) → post 0 (nI 1, 7, fd, fl, fr, fc, fk, ft, b1, a2, a3, a4, a5, a6, a7, a8, a9, a10)) : wpX_setTime post (nI 1, 7, fd, fl, fr, fc, fk, ft, a1, a2, a3, a4, a5, a6, a7, a8, a9, a10) 2 0 0 := by
  unfold wpX_setTime
  refine fb_7y (j := 2) (by omega) (br_f (by decide) (fb_mach (m := 0) (by omega) (by omega) (fun _ => br_f (by decide) (fb_time (t := 0) (by omega) (br_f (by decide) ?_))) (fun z => absurd z (by omega))))
  rw [show (2 : Int32) * 3 + 0 = nI 6 by decide, nI_clamp (show 6 < 2 ^ 31 by omega), h6]
  refine ⟨pk_in 6 15 (by omega), nm_e ⟨pk_in 6 15 (by omega), fun b1 e1 => ?_⟩⟩
  have z6 : b1 6 = 0 := by
    rw [e1, pk_us]
    decide
  unfold wpX_able
  refine ⟨2, pk_le 1 0 (fun z => absurd z (by omega)) (fun _ => ?_)⟩
  rw [show (2 : Int32) * 3 + 0 = nI 6 by decide, nI_clamp (show 6 < 2 ^ 31 by omega), z6]
  refine ⟨pk_in 6 15 (by omega), br_t (by decide) (nm_r (e' := nI 1) (by decide) (pk_le 1 1 (fun _ => br_t rfl ⟨pk_in 6 15 (by omega), fun d1 f1 => H d1 (fun i => ?_)⟩) (fun z => absurd z (by omega))))⟩
  rw [hb_byte c (by omega)] at f1
  by_cases g : i = 6
  · rw [f1, g, pk_us, h6]
  · rw [f1, pk_un g, e1, pk_un g]
/-- two machines: machine 1 is left -/
theorem fn_set2 {post : Int32 → St2 → Prop} {fd fl fr fc fk ft : Int32} {a1 a2 a3 a4 a5 a6 a7 a8 a9 a10 : Nat → Int32} {c : Nat} (hc1 : 1 ≤ c) (hc : c ≤ 15) (h7 : a1 7 = nI c)
    (H : ∀ b1 : Nat → Int32, (∀ i, i ≠ 6 → b1 i = a1 i) → b1 6 = nI 0 → post 1 (nI 2, 7, fd, fl, fr, fc, 0, ft, b1, a2, a3, a4, a5, a6, a7, a8, a9, a10)) : wpX_setTime post (nI 2, 7, fd, fl, fr, fc, fk, ft, a1, a2, a3, a4, a5, a6, a7, a8, a9, a10) 2 0 0 := by
  unfold wpX_setTime
  refine fb_7y (j := 2) (by omega) (br_f (by decide) (fb_mach (m := 0) (by omega) (by omega) (fun _ => br_f (by decide) (fb_time (t := 0) (by omega) (br_f (by decide) ?_))) (fun z => absurd z (by omega))))
  rw [show (2 : Int32) * 3 + 0 = nI 6 by decide, nI_clamp (show 6 < 2 ^ 31 by omega)]
  refine ⟨pk_in 6 15 (by omega), nm_e ⟨pk_in 6 15 (by omega), fun b1 e1 => ?_⟩⟩
  have z6 : b1 6 = 0 := by
    rw [e1, pk_us]
    decide
  have z7 : b1 7 = nI c := by
    rw [e1, pk_un (by omega), h7]
  unfold wpX_able
  refine ⟨3, pk_le 2 0 (fun z => absurd z (by omega)) (fun _ => ?_)⟩
  rw [show (2 : Int32) * 3 + 0 = nI 6 by decide, nI_clamp (show 6 < 2 ^ 31 by omega), z6]
  refine ⟨pk_in 6 15 (by omega), br_t (by decide) (nm_r (e' := nI 1) (by decide) (pk_le 2 1 (fun z => absurd z (by omega)) (fun _ => ?_)))⟩
  rw [show (2 : Int32) * 3 + nI 1 = nI 7 by decide, nI_clamp (show 7 < 2 ^ 31 by omega), z7]
  refine ⟨pk_in 7 15 (by omega), br_f (nI_nle hc1 (by omega)) (nm_e (nm_r (e' := nI 2) (by decide) (pk_le 2 2 (fun _ => br_f (by decide) (H b1 (fun i hi => by rw [e1, pk_un hi]) (by rw [z6, nI_0]))) (fun z => absurd z (by omega)))))⟩
theorem fn_time {post : Int32 → Prop} {fd fl fr fc fk ft : Int32} {a1 a2 a3 a4 a5 a6 a7 a8 a9 a10 : Nat → Int32} {M : Nat} (hM1 : 1 ≤ M) (hM : M ≤ 2) (H : post (a1 6)) : wpX_time post (nI M, 7, fd, fl, fr, fc, fk, ft, a1, a2, a3, a4, a5, a6, a7, a8, a9, a10) 2 0 := by
  unfold wpX_time
  refine fb_7y (j := 2) (by omega) (br_f (by decide) (fb_mach (m := 0) (by omega) (by omega) (fun _ => br_f (by decide) ?_) (fun z => absurd z (by omega))))
  rw [show (2 : Int32) * 3 + 0 = nI 6 by decide, nI_clamp (show 6 < 2 ^ 31 by omega)]
  exact ⟨pk_in 6 15 (by omega), H⟩
theorem fn_mof {post : Int32 → St2 → Prop} {fm fd fl fr fc ft : Int32} {a1 a2 a3 a4 a5 a6 a7 a8 a9 a10 : Nat → Int32} {j : Nat} (hj : j < 3) (H : post (a10 j) (fm, 7, fd, fl, fr, fc, 1, ft, a1, a2, a3, a4, a5, a6, a7, a8, a9, a10)) : wpX_machineOf post (fm, 7, fd, fl, fr, fc, 1, ft, a1, a2, a3, a4, a5, a6, a7, a8, a9, a10) (nI j) := by
  unfold wpX_machineOf
  refine fb_7y hj (br_f (by decide) (fl_known ⟨pk_in j 5 (by omega), ?_⟩))
  rw [nI_clamp (by omega)]
  exact H
/-- the time until a job is done, on one machine -/
def fn_f (t : Nat → Nat) (j : Nat) : Nat → Nat
  | 0 => 0
  | i + 1 => fn_f t j i + (if t i < t j ∨ (t i = t j ∧ i ≤ j) then t i else 0)
theorem fn_fin {post : Int32 → St2 → Prop} {fm fd fl fr fc ft : Int32} {a1 a2 a3 a4 a5 a6 a7 a8 a9 a10 : Nat → Int32} {j : Nat} {t : Nat → Nat} (hj : j < 3) (ht : ∀ i, i < 3 → a1 (i * 3 + 0) = nI (t i) ∧ t i ≤ 15) (h10 : ∀ i, i < 3 → a10 i = nI 0) (H : post (nI (fn_f t j 3)) (fm, 7, fd, fl, fr, fc, 1, ft, a1, a2, a3, a4, a5, a6, a7, a8, a9, a10)) : wpX_finishOf post (fm, 7, fd, fl, fr, fc, 1, ft, a1, a2, a3, a4, a5, a6, a7, a8, a9, a10) (nI j) := by
  unfold wpX_finishOf
  refine fb_7y hj (br_f (by decide) (fl_known ⟨pk_in j 5 (by omega), fun x2 e2 => ?_⟩))
  rw [nI_clamp (by omega), h10 j hj] at e2
  subst e2
  have ix : ∀ i, nI i * 3 + nI 0 = nI (i * 3 + 0) := fun i => by
    rw [show nI i * 3 = nI (i * 3) from pk_mul i 3]
    exact nI_add (i * 3) 0
  rw [ix j, nI_clamp (show j * 3 + 0 < 2 ^ 31 by omega), (ht j hj).1]
  have tj := (ht j hj).2
  refine ⟨pk_in (j * 3 + 0) 15 (by omega), nm_e ?_⟩
  refine pk_loop (σ := Int32) (fun f i s => wX_finishOf_38 post (nI j) (nI 0) (nI (t j)) fm 7 fd fl fr fc 1 ft a1 a2 a3 a4 a5 a6 a7 a8 a9 a10 f s (nI i)) (fun i s => s = nI (fn_f t j (min i 3))) 5 0 0 (by omega) nI_0.symm ?_ ?_
  · intro f s h
    have h : s = nI (fn_f t j 3) := h
    rw [h]
    exact pk_le 5 5 (fun _ => H) (fun z => absurd z (by omega))
  · intro f i s hi h hw
    have hw : ∀ s', s' = nI (fn_f t j (min (i + 1) 3)) → wX_finishOf_38 post (nI j) (nI 0) (nI (t j)) fm 7 fd fl fr fc 1 ft a1 a2 a3 a4 a5 a6 a7 a8 a9 a10 f s' (nI (i + 1)) := hw
    by_cases h3 : i < 3
    · rw [show min i 3 = i by omega] at h
      rw [show min (i + 1) 3 = i + 1 by omega] at hw
      have ti := (ht i h3).2
      have yes : (t i < t j ∨ (t i = t j ∧ i ≤ j)) → wX_finishOf_95 post (wX_finishOf_38 post (nI j) (nI 0) (nI (t j)) fm 7 fd fl fr fc 1 ft a1 a2 a3 a4 a5 a6 a7 a8 a9 a10 f) (nI j) (nI 0) (nI (t j)) s (nI i) (nI (t i)) fm 7 fd fl fr fc 1 ft a1 a2 a3 a4 a5 a6 a7 a8 a9 a10 := by
        intro g
        unfold wX_finishOf_95 wX_finishOf_100
        refine br_f (by decide) (nm_e (nm_r (nI_1 i) (hw _ ?_)))
        rw [h, nI_add]
        show _ = nI (fn_f t j i + (if t i < t j ∨ (t i = t j ∧ i ≤ j) then t i else 0))
        rw [if_pos g]
      have no : ¬ (t i < t j ∨ (t i = t j ∧ i ≤ j)) → wX_finishOf_99 post (wX_finishOf_38 post (nI j) (nI 0) (nI (t j)) fm 7 fd fl fr fc 1 ft a1 a2 a3 a4 a5 a6 a7 a8 a9 a10 f) (nI j) (nI 0) (nI (t j)) s (nI i) (nI (t i)) fm 7 fd fl fr fc 1 ft a1 a2 a3 a4 a5 a6 a7 a8 a9 a10 := by
        intro g
        unfold wX_finishOf_99 wX_finishOf_100
        refine br_t rfl (nm_e (nm_r (nI_1 i) (hw _ ?_)))
        rw [h, ← nI_0, nI_add]
        show _ = nI (fn_f t j i + (if t i < t j ∨ (t i = t j ∧ i ≤ j) then t i else 0))
        rw [if_neg g]
      refine pk_le 5 i (fun z => absurd z (by omega)) (fun _ => fb_7y h3 (br_f (by decide) ⟨pk_in i 5 hi, ?_⟩))
      rw [nI_clamp (show i < 2 ^ 31 by omega), h10 i h3, ix i, nI_clamp (show i * 3 + 0 < 2 ^ 31 by omega), (ht i h3).1]
      refine br_t rfl ⟨pk_in (i * 3 + 0) 15 (by omega), nm_e (pk_lt (t i) (t j) (fun z => yes (Or.inl z)) (fun z => pk_eq (t i) (t j) (fun e => pk_lt j i (fun w => no (fun k => ?_)) (fun w => yes (Or.inr ⟨e, w⟩))) (fun e => no (fun k => ?_))))⟩
      · omega
      · omega
    · rw [show min i 3 = 3 by omega] at h
      rw [show min (i + 1) 3 = 3 by omega] at hw
      exact pk_le 5 i (fun z => absurd z (by omega)) (fun _ => fb_7n (by omega) hi (br_t rfl (nm_r (nI_1 i) (hw s h))))
end
section
/-! the law with one machine -/
def ft_t (a b c : Nat) (j : Nat) : Nat := if j = 0 then a else if j = 1 then b else c
theorem ft_t15 {a b c : Nat} (ha : a ≤ 15) (hb : b ≤ 15) (hc : c ≤ 15) (j : Nat) : ft_t a b c j ≤ 15 := by
  unfold ft_t
  repeat' split
  all_goals omega
theorem ft_t1 {a b c : Nat} (ha : 1 ≤ a) (hb : 1 ≤ b) (hc : 1 ≤ c) (j : Nat) : 1 ≤ ft_t a b c j := by
  unfold ft_t
  repeat' split
  all_goals omega
theorem fn_least {post : Int32 → St2 → Prop} {fm fp fd fl fr fc ft : Int32} {a1 a2 a3 a4 a5 a6 a7 a8 a9 a10 : Nat → Int32} (H : post ft (fm, fp, fd, fl, fr, fc, 1, ft, a1, a2, a3, a4, a5, a6, a7, a8, a9, a10)) : wpX_least post (fm, fp, fd, fl, fr, fc, 1, ft, a1, a2, a3, a4, a5, a6, a7, a8, a9, a10) := by
  unfold wpX_least
  exact fl_known H
theorem fy_534 {post : Int32 → St0 → Prop} {mc ms kc ks : Nat} {z : Int32} {fm fp fd fl fr fc ft : Int32} {a1 a2 a3 a4 a5 a6 a7 a8 a9 a10 : Nat → Int32} (H : post 1 ()) : wL_lawOf_534 post mc ms 0 ft z z kc ks fm fp fd fl fr fc 1 ft a1 a2 a3 a4 a5 a6 a7 a8 a9 a10 := by
  unfold wL_lawOf_534
  exact br_t rfl (fn_least (br_t rfl (br_t rfl H)))
theorem fy_492 {post : Int32 → St0 → Prop} {mc ms kc ks c : Nat} {fd fl fr fc ft : Int32} {a1 a2 a3 a4 a5 a6 a7 a8 a9 a10 : Nat → Int32} (hc : c ≤ 15) (h6 : a1 6 = nI c) (H : post 1 ()) : wL_lawOf_492 post mc ms 0 (nI c) ft 1 kc ks (nI 1) 7 fd fl fr fc 1 ft a1 a2 a3 a4 a5 a6 a7 a8 a9 a10 := by
  unfold wL_lawOf_492
  refine fn_set1 hc h6 (fun b1 e1 => br_f (by decide) (br_t rfl (fn_time (M := 1) (by omega) (by omega) (br_t rfl ?_))))
  rw [e1 6, h6]
  exact fy_534 H
theorem fn_if (p : Prop) [Decidable p] (x : Nat) : (p ∧ (if p then x else 0) = x) ∨ (¬ p ∧ (if p then x else 0) = 0) := by
  by_cases h : p
  · exact Or.inl ⟨h, if_pos h⟩
  · exact Or.inr ⟨h, if_neg h⟩
theorem fy_f0 (a b c : Nat) : fn_f (ft_t a b c) 0 3 = a + (if b < a then b else 0) + (if c < a then c else 0) := by
  have e : fn_f (ft_t a b c) 0 3 = 0 + (if ft_t a b c 0 < ft_t a b c 0 ∨ (ft_t a b c 0 = ft_t a b c 0 ∧ 0 ≤ 0) then ft_t a b c 0 else 0) + (if ft_t a b c 1 < ft_t a b c 0 ∨ (ft_t a b c 1 = ft_t a b c 0 ∧ 1 ≤ 0) then ft_t a b c 1 else 0) + (if ft_t a b c 2 < ft_t a b c 0 ∨ (ft_t a b c 2 = ft_t a b c 0 ∧ 2 ≤ 0) then ft_t a b c 2 else 0) := rfl
  have g0 := fn_if (ft_t a b c 0 < ft_t a b c 0 ∨ (ft_t a b c 0 = ft_t a b c 0 ∧ 0 ≤ 0)) (ft_t a b c 0)
  have g1 := fn_if (ft_t a b c 1 < ft_t a b c 0 ∨ (ft_t a b c 1 = ft_t a b c 0 ∧ 1 ≤ 0)) (ft_t a b c 1)
  have g2 := fn_if (ft_t a b c 2 < ft_t a b c 0 ∨ (ft_t a b c 2 = ft_t a b c 0 ∧ 2 ≤ 0)) (ft_t a b c 2)
  have t0 : ft_t a b c 0 = a := rfl
  have t1 : ft_t a b c 1 = b := rfl
  have t2 : ft_t a b c 2 = c := rfl
  have k0 := fn_if (b < a) b
  have k1 := fn_if (c < a) c
  rw [e]
  omega
theorem fy_f1 (a b c : Nat) : fn_f (ft_t a b c) 1 3 = b + (if a ≤ b then a else 0) + (if c < b then c else 0) := by
  have e : fn_f (ft_t a b c) 1 3 = 0 + (if ft_t a b c 0 < ft_t a b c 1 ∨ (ft_t a b c 0 = ft_t a b c 1 ∧ 0 ≤ 1) then ft_t a b c 0 else 0) + (if ft_t a b c 1 < ft_t a b c 1 ∨ (ft_t a b c 1 = ft_t a b c 1 ∧ 1 ≤ 1) then ft_t a b c 1 else 0) + (if ft_t a b c 2 < ft_t a b c 1 ∨ (ft_t a b c 2 = ft_t a b c 1 ∧ 2 ≤ 1) then ft_t a b c 2 else 0) := rfl
  have g0 := fn_if (ft_t a b c 0 < ft_t a b c 1 ∨ (ft_t a b c 0 = ft_t a b c 1 ∧ 0 ≤ 1)) (ft_t a b c 0)
  have g1 := fn_if (ft_t a b c 1 < ft_t a b c 1 ∨ (ft_t a b c 1 = ft_t a b c 1 ∧ 1 ≤ 1)) (ft_t a b c 1)
  have g2 := fn_if (ft_t a b c 2 < ft_t a b c 1 ∨ (ft_t a b c 2 = ft_t a b c 1 ∧ 2 ≤ 1)) (ft_t a b c 2)
  have t0 : ft_t a b c 0 = a := rfl
  have t1 : ft_t a b c 1 = b := rfl
  have t2 : ft_t a b c 2 = c := rfl
  have k0 := fn_if (a ≤ b) a
  have k1 := fn_if (c < b) c
  rw [e]
  omega
theorem fy_f2 (a b c : Nat) : fn_f (ft_t a b c) 2 3 = c + (if a ≤ c then a else 0) + (if b ≤ c then b else 0) := by
  have e : fn_f (ft_t a b c) 2 3 = 0 + (if ft_t a b c 0 < ft_t a b c 2 ∨ (ft_t a b c 0 = ft_t a b c 2 ∧ 0 ≤ 2) then ft_t a b c 0 else 0) + (if ft_t a b c 1 < ft_t a b c 2 ∨ (ft_t a b c 1 = ft_t a b c 2 ∧ 1 ≤ 2) then ft_t a b c 1 else 0) + (if ft_t a b c 2 < ft_t a b c 2 ∨ (ft_t a b c 2 = ft_t a b c 2 ∧ 2 ≤ 2) then ft_t a b c 2 else 0) := rfl
  have g0 := fn_if (ft_t a b c 0 < ft_t a b c 2 ∨ (ft_t a b c 0 = ft_t a b c 2 ∧ 0 ≤ 2)) (ft_t a b c 0)
  have g1 := fn_if (ft_t a b c 1 < ft_t a b c 2 ∨ (ft_t a b c 1 = ft_t a b c 2 ∧ 1 ≤ 2)) (ft_t a b c 1)
  have g2 := fn_if (ft_t a b c 2 < ft_t a b c 2 ∨ (ft_t a b c 2 = ft_t a b c 2 ∧ 2 ≤ 2)) (ft_t a b c 2)
  have t0 : ft_t a b c 0 = a := rfl
  have t1 : ft_t a b c 1 = b := rfl
  have t2 : ft_t a b c 2 = c := rfl
  have k0 := fn_if (a ≤ c) a
  have k1 := fn_if (b ≤ c) b
  rw [e]
  omega
theorem fy_fs (a b c : Nat) : fn_f (ft_t a b c) 0 3 + fn_f (ft_t a b c) 1 3 + fn_f (ft_t a b c) 2 3 = fl_al a b c := by
  rw [fy_f0, fy_f1, fy_f2]
  unfold fl_al
  have g1 := fn_if (b < a) b
  have g2 := fn_if (c < a) c
  have g3 := fn_if (a ≤ b) a
  have g4 := fn_if (c < b) c
  have g5 := fn_if (a ≤ c) a
  have g6 := fn_if (b ≤ c) b
  generalize (if b < a then b else 0) = x1 at *
  generalize (if c < a then c else 0) = x2 at *
  generalize (if a ≤ b then a else 0) = x3 at *
  generalize (if c < b then c else 0) = x4 at *
  generalize (if a ≤ c then a else 0) = x5 at *
  generalize (if b ≤ c then b else 0) = x6 at *
  omega
section
variable {post : Int32 → St0 → Prop} {mc ms kc ks a b c : Nat} {fd fl fr fc : Int32} {a1 a2 a3 a4 a5 a6 a7 a8 a9 a10 : Nat → Int32}
theorem fy_451 (ha : 1 ≤ a) (hb : 1 ≤ b) (hc : 1 ≤ c) (ha' : a ≤ 15) (hb' : b ≤ 15) (hc' : c ≤ 15) {z : Int32} (hA : fb_A 1 a1 (fun j _ => ft_t a b c j)) (H : post 1 ()) : wL_lawOf_451 post mc ms 0 (nI c) (nI (fl_al a b c)) z z kc ks (nI 1) 7 fd fl fr fc 1 (nI (fl_al a b c)) a1 a2 a3 a4 a5 a6 a7 a8 a9 a10 := by
  have o : ∀ j, fb_ab 1 (fun j _ => ft_t a b c j) j = 1 := fun j => fl_ab1 (ft_t1 ha hb hc j)
  unfold wL_lawOf_451
  refine br_t rfl (fn_with (m := 0) hA (by omega) (ft_t1 ha hb hc 1) (fun s gr gc b2 b3 b4 b5 b6 b7 b8 b9 hs => ?_))
  have es := fm_1 (show fl_up (fb_ab 1 (fun j _ => ft_t a b c j)) 1 (2 ^ 0) 0 = 1 by rw [fl_upn (by omega), o]) fl_ups (show fl_up (fb_ab 1 (fun j _ => ft_t a b c j)) 1 (2 ^ 0) 2 = 1 by rw [fl_upn (by omega), o]) (show ft_t a b c 0 = a from rfl) (show ft_t a b c 1 = b from rfl) (show ft_t a b c 2 = c from rfl) hs
  have es' : s = 8 * ((fl_al a b c : Nat) : Int) := by
    unfold fl_al
    omega
  have bd : fl_al a b c < 10000 := by
    unfold fl_al
    omega
  rw [es', fl_tot8 bd]
  refine br_t rfl (fn_withno (br_t rfl ?_))
  unfold wL_lawOf_484
  exact br_t rfl (fy_492 hc' (hA.2.2 2 0 (by omega) (by omega)).1 H)
theorem fy_395 (ha : 1 ≤ a) (hb : 1 ≤ b) (hc : 1 ≤ c) (ha' : a ≤ 15) (hb' : b ≤ 15) (hc' : c ≤ 15) (hA : fb_A 1 a1 (fun j _ => ft_t a b c j)) (H : post 1 ()) : wL_lawOf_395 post mc ms 0 (nI b) (nI c) (nI (fl_al a b c)) kc ks (nI 1) 7 fd fl fr fc 1 (nI (fl_al a b c)) a1 a2 a3 a4 a5 a6 a7 a8 a9 a10 := by
  have o : ∀ j, fb_ab 1 (fun j _ => ft_t a b c j) j = 1 := fun j => fl_ab1 (ft_t1 ha hb hc j)
  unfold wL_lawOf_395 wL_lawOf_400
  refine fb_min (by omega) (by omega) (fb_max (by omega) (by omega) (br_f (by decide) (fn_without hA (fun s gr gc b2 b3 b4 b5 b6 b7 b8 b9 hs => br_t rfl ?_))))
  have es := fm_12 (o 1) (o 2) (show ft_t a b c 1 = b from rfl) (show ft_t a b c 2 = c from rfl) hs
  have e2 : 2 * nI (min b c) + nI (max b c) = nI (b + c + min b c) := by
    rw [show (2 : Int32) * nI (min b c) = nI (2 * min b c) from pk_mul 2 _, nI_add]
    congr 1
    omega
  rw [es, fl_tot8 (by omega), e2]
  exact fy_451 ha hb hc ha' hb' hc' hA H
theorem fy_343 (ha : 1 ≤ a) (hb : 1 ≤ b) (hc : 1 ≤ c) (ha' : a ≤ 15) (hb' : b ≤ 15) (hc' : c ≤ 15) {x17 z0 z1 : Int32} (hA : fb_A 1 a1 (fun j _ => ft_t a b c j)) (h10 : ∀ j, j < 3 → a10 j = nI 0)
    (h17 : x17 = nI (a + (if b < a then b else 0) + (if c < a then c else 0))) (h18 : z1 + z0 = nI (b + (if a ≤ b then a else 0) + (if c < b then c else 0))) (H : post 1 ()) :
    wL_lawOf_343 post mc ms 0 (nI b) (nI c) (nI (fl_al a b c)) (nI (fl_al a b c)) 1 x17 z0 z1 kc ks (nI 1) 7 fd fl fr fc 1 (nI (fl_al a b c)) a1 a2 a3 a4 a5 a6 a7 a8 a9 a10 := by
  have ht : ∀ i, i < 3 → a1 (i * 3 + 0) = nI (ft_t a b c i) ∧ ft_t a b c i ≤ 15 := fun i hi => hA.2.2 i 0 hi (by omega)
  have f0 := fy_f0 a b c
  have f1 := fy_f1 a b c
  have fs := fy_fs a b c
  unfold wL_lawOf_343
  refine fun x18 e18 => br_f (by decide) (br_t rfl ?_)
  rw [h18, ← f1] at e18
  rw [h17, ← f0, e18]
  refine fn_fin (j := 0) (by omega) ht h10 (br_t rfl (fn_fin (j := 1) (by omega) ht h10 (br_t rfl (fn_fin (j := 2) (by omega) ht h10 (br_t ?_ (fy_395 ha hb hc ha' hb' hc' hA H))))))
  rw [pk_sub (by omega), pk_sub (by omega)]
  congr 1
  omega
theorem fy_280 (ha : 1 ≤ a) (hb : 1 ≤ b) (hc : 1 ≤ c) (ha' : a ≤ 15) (hb' : b ≤ 15) (hc' : c ≤ 15) (hA : fb_A 1 a1 (fun j _ => ft_t a b c j)) (h10 : ∀ j, j < 3 → a10 j = nI 0) (H : post 1 ()) :
    wL_lawOf_280 post mc ms 0 (nI a) (nI b) (nI c) (nI (fl_al a b c)) (nI (fl_al a b c)) 1 kc ks (nI 1) 7 fd fl fr fc 1 (nI (fl_al a b c)) a1 a2 a3 a4 a5 a6 a7 a8 a9 a10 := by
  have s329 : ∀ x17 z0 z1 : Int32, x17 = nI (a + (if b < a then b else 0) + (if c < a then c else 0)) → z1 + z0 = nI (b + (if a ≤ b then a else 0)) → wL_lawOf_329 post mc ms 0 (nI b) (nI c) (nI (fl_al a b c)) (nI (fl_al a b c)) 1 x17 z0 z1 kc ks (nI 1) 7 fd fl fr fc 1 (nI (fl_al a b c)) a1 a2 a3 a4 a5 a6 a7 a8 a9 a10 := by
    intro x17 z0 z1 h17 hz
    unfold wL_lawOf_329
    refine pk_le b c (fun z => fy_343 ha hb hc ha' hb' hc' hA h10 h17 ?_ H) (fun z => fy_343 ha hb hc ha' hb' hc' hA h10 h17 ?_ H)
    · rw [hz, if_neg (show ¬ c < b by omega), ← nI_0, nI_add]
    · rw [hz, if_pos (show c < b by omega), nI_add]
  have s311 : ∀ z0 z1 : Int32, z1 + z0 = nI (a + (if b < a then b else 0) + (if c < a then c else 0)) → wL_lawOf_311 post mc ms 0 (nI a) (nI b) (nI c) (nI (fl_al a b c)) (nI (fl_al a b c)) 1 z0 z1 kc ks (nI 1) 7 fd fl fr fc 1 (nI (fl_al a b c)) a1 a2 a3 a4 a5 a6 a7 a8 a9 a10 := by
    intro z0 z1 hz
    unfold wL_lawOf_311
    refine fun x17 e17 => pk_lt b a (fun z => s329 _ _ _ (by rw [e17, hz]) ?_) (fun z => s329 _ _ _ (by rw [e17, hz]) ?_)
    · rw [if_neg (show ¬ a ≤ b by omega), ← nI_0, nI_add]
    · rw [if_pos (show a ≤ b by omega), nI_add]
  have s297 : ∀ z0 z1 : Int32, z1 + z0 = nI (a + (if b < a then b else 0)) → wL_lawOf_297 post mc ms 0 (nI a) (nI b) (nI c) (nI (fl_al a b c)) (nI (fl_al a b c)) 1 z0 z1 kc ks (nI 1) 7 fd fl fr fc 1 (nI (fl_al a b c)) a1 a2 a3 a4 a5 a6 a7 a8 a9 a10 := by
    intro z0 z1 hz
    unfold wL_lawOf_297
    refine pk_le a c (fun z => s311 _ _ ?_) (fun z => s311 _ _ ?_)
    · rw [hz, if_neg (show ¬ c < a by omega), ← nI_0, nI_add]
    · rw [hz, if_pos (show c < a by omega), nI_add]
  unfold wL_lawOf_280
  refine pk_le a b (fun z => s297 _ _ ?_) (fun z => s297 _ _ ?_)
  · rw [if_neg (show ¬ b < a by omega), ← nI_0, nI_add]
  · rw [if_pos (show b < a by omega), nI_add]
theorem fy_224 (ha : 1 ≤ a) (hb : 1 ≤ b) (hc : 1 ≤ c) (ha' : a ≤ 15) (hb' : b ≤ 15) (hc' : c ≤ 15) {z : Int32} (hA : fb_A 1 a1 (fun j _ => ft_t a b c j)) (h10 : ∀ j, j < 3 → a10 j = nI 0) (H : post 1 ()) :
    wL_lawOf_224 post mc ms 0 (nI a) (nI b) (nI c) (nI (fl_al a b c)) (nI (fl_al a b c)) z z kc ks (nI 1) 7 fd fl fr fc 1 (nI (fl_al a b c)) a1 a2 a3 a4 a5 a6 a7 a8 a9 a10 := by
  have o : ∀ j, fb_ab 1 (fun j _ => ft_t a b c j) j = 1 := fun j => fl_ab1 (ft_t1 ha hb hc j)
  unfold wL_lawOf_224
  refine br_t rfl (fn_idle hA (fun s gr gc b2 b3 b4 b5 b6 b7 b8 b9 hs => br_t rfl ?_))
  have es := fm_no (O := fun j => fb_ab 1 (fun j _ => ft_t a b c j) j / 2 * 2) (show fb_ab 1 (fun j _ => ft_t a b c j) 0 / 2 * 2 = 0 by rw [o]) (show fb_ab 1 (fun j _ => ft_t a b c j) 1 / 2 * 2 = 0 by rw [o]) (show fb_ab 1 (fun j _ => ft_t a b c j) 2 / 2 * 2 = 0 by rw [o]) hs
  rw [es, show ft_tot 300000 = -1 from if_neg (by decide)]
  unfold wL_lawOf_244
  refine br_t rfl (fn_most hA (fun j _ => ft_t1 ha hb hc j) (fun s gr gc b2 b3 b4 b5 b6 b7 b8 b9 hs => br_t rfl ?_))
  have es := fm_1 (o 0) (o 1) (o 2) (show ft_t a b c 0 = a from rfl) (show ft_t a b c 1 = b from rfl) (show ft_t a b c 2 = c from rfl) hs
  rw [show (s + 7) / 8 * 8 - s = 3 by omega]
  unfold wL_lawOf_263
  refine br_t rfl (fn_mof (j := 0) (by omega) (br_t (h10 0 (by omega)) ?_))
  exact fy_280 ha hb hc ha' hb' hc' hA h10 H
theorem fy_182 (ha : 1 ≤ a) (hb : 1 ≤ b) (hc : 1 ≤ c) (ha' : a ≤ 15) (hb' : b ≤ 15) (hc' : c ≤ 15) {ft : Int32} (hA : fb_A 1 a1 (fun j _ => ft_t a b c j)) (H : post 1 ()) :
    wL_lawOf_182 post mc ms 0 (nI a) (nI b) (nI c) (nI 2) (nI (fl_al a b c)) (nI (fl_sh a b c)) (nI (fl_al a b c)) kc ks (nI 1) 7 fd fl fr fc 0 ft a1 a2 a3 a4 a5 a6 a7 a8 a9 a10 := by
  have o : ∀ j, fb_ab 1 (fun j _ => ft_t a b c j) j = 1 := fun j => fl_ab1 (ft_t1 ha hb hc j)
  unfold wL_lawOf_182
  refine br_t rfl ?_
  unfold wpX_least
  refine fl_learn1 hA ha hb hc ha' hb' hc' (show ft_t a b c 0 = a from rfl) (show ft_t a b c 1 = b from rfl) (show ft_t a b c 2 = c from rfl) (fun gr gc b2 b3 b4 b5 b6 b7 b8 b9 b10 h10 => br_t rfl (fn_doubled hA (fun s gr gc b2 b3 b4 b5 b6 b7 b8 b9 hs => br_t rfl ?_)))
  have es := fm_1d ha hb hc (o 0) (o 1) (o 2) (show ft_t a b c 0 = a from rfl) (show ft_t a b c 1 = b from rfl) (show ft_t a b c 2 = c from rfl) hs
  have es' : s = 8 * ((fl_sh a b c : Nat) : Int) := es
  rw [es', fl_tot8 (by unfold fl_sh; omega)]
  exact fy_224 ha hb hc ha' hb' hc' hA h10 H
end
end
section
/-! the law with two machines -/
def ft_z (a b c : Nat) (j m : Nat) : Nat := if j = 2 ∧ m = 0 then 0 else ft_t a b c j
section
variable {post : Int32 → St0 → Prop} {mc ms kc ks a b c : Nat} {fd fl fr fc : Int32} {a1 a2 a3 a4 a5 a6 a7 a8 a9 a10 : Nat → Int32}
theorem fz_534 (ha : 1 ≤ a) (hb : 1 ≤ b) (hc : 1 ≤ c) (ha' : a ≤ 15) (hb' : b ≤ 15) (hc' : c ≤ 15) {ft : Int32} (hA : fb_A 2 a1 (ft_z a b c)) (H : post 1 ()) : wL_lawOf_534 post mc ms 1 (nI (fl_sh a b c)) 0 0 kc ks (nI 2) 7 fd fl fr fc 0 ft a1 a2 a3 a4 a5 a6 a7 a8 a9 a10 := by
  unfold wL_lawOf_534
  refine br_t rfl ?_
  unfold wpX_least
  exact fl_learnZ hA ha hb hc ha' hb' hc' (show ft_z a b c 0 0 = a from rfl) (show ft_z a b c 0 1 = a from rfl) (show ft_z a b c 1 0 = b from rfl) (show ft_z a b c 1 1 = b from rfl) (show ft_z a b c 2 0 = 0 from rfl) (show ft_z a b c 2 1 = c from rfl) (fun gr gc b2 b3 b4 b5 b6 b7 b8 b9 b10 h10 => br_t rfl (br_f (by decide) (fn_mof (j := 2) (by omega) (br_t h10 H))))
theorem fz_492 (ha : 1 ≤ a) (hb : 1 ≤ b) (hc : 1 ≤ c) (ha' : a ≤ 15) (hb' : b ≤ 15) (hc' : c ≤ 15) {fk ft : Int32} (hA : fb_A 2 a1 (fun j _ => ft_t a b c j)) (H : post 1 ()) : wL_lawOf_492 post mc ms 1 (nI c) (nI (fl_sh a b c)) 1 kc ks (nI 2) 7 fd fl fr fc fk ft a1 a2 a3 a4 a5 a6 a7 a8 a9 a10 := by
  unfold wL_lawOf_492
  refine fn_set2 hc hc' (hA.2.2 2 1 (by omega) (by omega)).1 (fun b1 e1 e6 => br_f (by decide) (br_t rfl (fn_time (M := 2) (by omega) (by omega) (br_f (by decide) ?_))))
  rw [e6, nI_0]
  refine fz_534 ha hb hc ha' hb' hc' ⟨by omega, by omega, fun j m hj hm => ?_⟩ H
  obtain ⟨g1, g2⟩ := hA.2.2 j m hj hm
  by_cases g : j = 2 ∧ m = 0
  · have e : ft_z a b c j m = 0 := by
      unfold ft_z
      rw [if_pos g]
    rw [e, g.1, g.2]
    exact ⟨e6, by omega⟩
  · have e : ft_z a b c j m = ft_t a b c j := by
      unfold ft_z
      rw [if_neg g]
    rw [e, e1 (j * 3 + m) (by omega)]
    exact ⟨g1, g2⟩
theorem fz_451 (ha : 1 ≤ a) (hb : 1 ≤ b) (hc : 1 ≤ c) (ha' : a ≤ 15) (hb' : b ≤ 15) (hc' : c ≤ 15) {fk ft z : Int32} (hA : fb_A 2 a1 (fun j _ => ft_t a b c j)) (H : post 1 ()) : wL_lawOf_451 post mc ms 1 (nI c) (nI (fl_sh a b c)) z z kc ks (nI 2) 7 fd fl fr fc fk ft a1 a2 a3 a4 a5 a6 a7 a8 a9 a10 := by
  have o : ∀ j, fb_ab 2 (fun j _ => ft_t a b c j) j = 3 := fun j => fl_ab3 (ft_t1 ha hb hc j) (ft_t1 ha hb hc j)
  have u : ∀ i x, i ≠ 1 → fl_up (fb_ab 2 (fun j _ => ft_t a b c j)) 1 x i = 3 := fun i x hi => by rw [fl_upn hi, o]
  have bd : fl_sh a b c < 10000 := by
    unfold fl_sh
    omega
  unfold wL_lawOf_451
  refine br_t rfl (fn_with (m := 0) hA (by omega) (ft_t1 ha hb hc 1) (fun s gr gc b2 b3 b4 b5 b6 b7 b8 b9 hs => ?_))
  have es : s = 8 * ((fl_sh a b c : Nat) : Int) := fm_313 ha hb hc ha' hb' hc' (u 0 _ (by omega)) fl_ups (u 2 _ (by omega)) (show ft_t a b c 0 = a from rfl) (show ft_t a b c 0 = a from rfl) (show ft_t a b c 1 = b from rfl) (show ft_t a b c 1 = b from rfl) (show ft_t a b c 2 = c from rfl) (show ft_t a b c 2 = c from rfl) hs
  rw [es, fl_tot8 bd]
  refine br_t rfl (fn_with (m := 1) hA (by omega) (ft_t1 ha hb hc 1) (fun s gr gc b2 b3 b4 b5 b6 b7 b8 b9 hs => br_f (by decide) ?_))
  have es : s = 8 * ((fl_sh a b c : Nat) : Int) := fm_323 ha hb hc ha' hb' hc' (u 0 _ (by omega)) fl_ups (u 2 _ (by omega)) (show ft_t a b c 0 = a from rfl) (show ft_t a b c 0 = a from rfl) (show ft_t a b c 1 = b from rfl) (show ft_t a b c 1 = b from rfl) (show ft_t a b c 2 = c from rfl) (show ft_t a b c 2 = c from rfl) hs
  rw [es, fl_tot8 bd]
  unfold wL_lawOf_484
  exact br_t rfl (fz_492 ha hb hc ha' hb' hc' hA H)
theorem fz_395 (ha : 1 ≤ a) (hb : 1 ≤ b) (hc : 1 ≤ c) (ha' : a ≤ 15) (hb' : b ≤ 15) (hc' : c ≤ 15) {fk ft : Int32} (hA : fb_A 2 a1 (fun j _ => ft_t a b c j)) (H : post 1 ()) : wL_lawOf_395 post mc ms 1 (nI b) (nI c) (nI (fl_sh a b c)) kc ks (nI 2) 7 fd fl fr fc fk ft a1 a2 a3 a4 a5 a6 a7 a8 a9 a10 := by
  have o : ∀ j, fb_ab 2 (fun j _ => ft_t a b c j) j = 3 := fun j => fl_ab3 (ft_t1 ha hb hc j) (ft_t1 ha hb hc j)
  unfold wL_lawOf_395 wL_lawOf_400
  refine fb_min (by omega) (by omega) (fb_max (by omega) (by omega) (br_f (by decide) (fn_without hA (fun s gr gc b2 b3 b4 b5 b6 b7 b8 b9 hs => br_f (by decide) ?_))))
  have es := fm_22 hb' hc' (o 1) (o 2) (show ft_t a b c 1 = b from rfl) (show ft_t a b c 1 = b from rfl) (show ft_t a b c 2 = c from rfl) (show ft_t a b c 2 = c from rfl) hs
  have e2 : nI (min b c) + nI (max b c) = nI (b + c) := by
    rw [nI_add]
    congr 1
    omega
  rw [es, fl_tot8 (by omega), e2]
  exact fz_451 ha hb hc ha' hb' hc' hA H
theorem fz_280 (ha : 1 ≤ a) (hb : 1 ≤ b) (hc : 1 ≤ c) (ha' : a ≤ 15) (hb' : b ≤ 15) (hc' : c ≤ 15) {fk ft x13 : Int32} (hA : fb_A 2 a1 (fun j _ => ft_t a b c j)) (H : post 1 ()) :
    wL_lawOf_280 post mc ms 1 (nI a) (nI b) (nI c) x13 (nI (fl_sh a b c)) 1 kc ks (nI 2) 7 fd fl fr fc fk ft a1 a2 a3 a4 a5 a6 a7 a8 a9 a10 := by
  have s343 : ∀ x17 z0 z1 : Int32, wL_lawOf_343 post mc ms 1 (nI b) (nI c) x13 (nI (fl_sh a b c)) 1 x17 z0 z1 kc ks (nI 2) 7 fd fl fr fc fk ft a1 a2 a3 a4 a5 a6 a7 a8 a9 a10 := by
    intro x17 z0 z1
    unfold wL_lawOf_343
    exact fun x18 e18 => br_f (by decide) (br_f (by decide) (fz_395 ha hb hc ha' hb' hc' hA H))
  have s329 : ∀ x17 z0 z1 : Int32, wL_lawOf_329 post mc ms 1 (nI b) (nI c) x13 (nI (fl_sh a b c)) 1 x17 z0 z1 kc ks (nI 2) 7 fd fl fr fc fk ft a1 a2 a3 a4 a5 a6 a7 a8 a9 a10 := by
    intro x17 z0 z1
    unfold wL_lawOf_329
    exact br_c (fun _ => s343 _ _ _) (fun _ => s343 _ _ _)
  have s311 : ∀ z0 z1 : Int32, wL_lawOf_311 post mc ms 1 (nI a) (nI b) (nI c) x13 (nI (fl_sh a b c)) 1 z0 z1 kc ks (nI 2) 7 fd fl fr fc fk ft a1 a2 a3 a4 a5 a6 a7 a8 a9 a10 := by
    intro z0 z1
    unfold wL_lawOf_311
    exact fun x17 e17 => br_c (fun _ => s329 _ _ _) (fun _ => s329 _ _ _)
  have s297 : ∀ z0 z1 : Int32, wL_lawOf_297 post mc ms 1 (nI a) (nI b) (nI c) x13 (nI (fl_sh a b c)) 1 z0 z1 kc ks (nI 2) 7 fd fl fr fc fk ft a1 a2 a3 a4 a5 a6 a7 a8 a9 a10 := by
    intro z0 z1
    unfold wL_lawOf_297
    exact br_c (fun _ => s311 _ _) (fun _ => s311 _ _)
  unfold wL_lawOf_280
  exact br_c (fun _ => s297 _ _) (fun _ => s297 _ _)
theorem fz_224 (ha : 1 ≤ a) (hb : 1 ≤ b) (hc : 1 ≤ c) (ha' : a ≤ 15) (hb' : b ≤ 15) (hc' : c ≤ 15) {ft z : Int32} (hA : fb_A 2 a1 (fun j _ => ft_t a b c j)) (h10 : a10 0 = nI 0) (H : post 1 ()) :
    wL_lawOf_224 post mc ms 1 (nI a) (nI b) (nI c) (nI (fl_al a b c)) (nI (fl_sh a b c)) z z kc ks (nI 2) 7 fd fl fr fc 1 ft a1 a2 a3 a4 a5 a6 a7 a8 a9 a10 := by
  have o : ∀ j, fb_ab 2 (fun j _ => ft_t a b c j) j = 3 := fun j => fl_ab3 (ft_t1 ha hb hc j) (ft_t1 ha hb hc j)
  unfold wL_lawOf_224
  refine br_t rfl (fn_idle hA (fun s gr gc b2 b3 b4 b5 b6 b7 b8 b9 hs => br_f (by decide) ?_))
  have es := fm_222 (O := fun j => fb_ab 2 (fun j _ => ft_t a b c j) j / 2 * 2) ha hb hc ha' hb' hc' (show fb_ab 2 (fun j _ => ft_t a b c j) 0 / 2 * 2 = 2 by rw [o]) (show fb_ab 2 (fun j _ => ft_t a b c j) 1 / 2 * 2 = 2 by rw [o]) (show fb_ab 2 (fun j _ => ft_t a b c j) 2 / 2 * 2 = 2 by rw [o]) (show ft_t a b c 0 = a from rfl) (show ft_t a b c 0 = a from rfl) (show ft_t a b c 1 = b from rfl) (show ft_t a b c 1 = b from rfl) (show ft_t a b c 2 = c from rfl) hs
  have es' : s = 8 * ((fl_al a b c : Nat) : Int) := by
    unfold fl_al
    omega
  have bd : fl_al a b c < 10000 := by
    unfold fl_al
    omega
  rw [es', fl_tot8 bd]
  unfold wL_lawOf_244
  refine br_t rfl (fn_most hA (fun j _ => ft_t1 ha hb hc j) (fun s gr gc b2 b3 b4 b5 b6 b7 b8 b9 hs => br_f (by decide) ?_))
  have es := fm_333 (lk := 1) ha hb hc ha' hb' hc' (by omega) (o 0) (o 1) (o 2) (show ft_t a b c 0 = a from rfl) (show ft_t a b c 0 = a from rfl) (show ft_t a b c 1 = b from rfl) (show ft_t a b c 1 = b from rfl) (show ft_t a b c 2 = c from rfl) (show ft_t a b c 2 = c from rfl) hs
  rw [show (s + 7) / 8 * 8 - s = 2 by omega]
  unfold wL_lawOf_263
  refine br_t rfl (fn_mof (j := 0) (by omega) (br_t h10 ?_))
  exact fz_280 ha hb hc ha' hb' hc' hA H
theorem fz_182 (ha : 1 ≤ a) (hb : 1 ≤ b) (hc : 1 ≤ c) (ha' : a ≤ 15) (hb' : b ≤ 15) (hc' : c ≤ 15) {ft x14 : Int32} (hA : fb_A 2 a1 (fun j _ => ft_t a b c j)) (H : post 1 ()) :
    wL_lawOf_182 post mc ms 1 (nI a) (nI b) (nI c) (nI 2) (nI (fl_al a b c)) x14 (nI (fl_sh a b c)) kc ks (nI 2) 7 fd fl fr fc 0 ft a1 a2 a3 a4 a5 a6 a7 a8 a9 a10 := by
  have o : ∀ j, fb_ab 2 (fun j _ => ft_t a b c j) j = 3 := fun j => fl_ab3 (ft_t1 ha hb hc j) (ft_t1 ha hb hc j)
  unfold wL_lawOf_182
  refine br_t rfl ?_
  unfold wpX_least
  refine fl_learn2 hA ha hb hc ha' hb' hc' (show ft_t a b c 0 = a from rfl) (show ft_t a b c 0 = a from rfl) (show ft_t a b c 1 = b from rfl) (show ft_t a b c 1 = b from rfl) (show ft_t a b c 2 = c from rfl) (show ft_t a b c 2 = c from rfl) (fun gr gc b2 b3 b4 b5 b6 b7 b8 b9 b10 h10 => br_t rfl (fn_doubled hA (fun s gr gc b2 b3 b4 b5 b6 b7 b8 b9 hs => br_f (by decide) ?_)))
  have es := fm_2d ha hb hc ha' hb' hc' (o 0) (o 1) (o 2) (show ft_t a b c 0 = a from rfl) (show ft_t a b c 0 = a from rfl) (show ft_t a b c 1 = b from rfl) (show ft_t a b c 1 = b from rfl) (show ft_t a b c 2 = c from rfl) (show ft_t a b c 2 = c from rfl) hs
  have e2 : nI a + nI b + nI c = nI (a + b + c) := by rw [nI_add, nI_add]
  rw [es, fl_tot8 (by omega), e2]
  exact fz_224 ha hb hc ha' hb' hc' hA h10 H
end
end
section
/-! the whole law -/
theorem fx_arg (x : Int32) : ∃ a : Nat, 1 ≤ a ∧ a ≤ 15 ∧ 1 + ((x &&& 65535) - (x &&& 65535) / 15 * 15) = nI a := by
  obtain ⟨j, hj, e⟩ := pk_andE x (m := 65535) 16 (by decide)
  have r : nI j - nI j / 15 * 15 = nI (j % 15) := pk_rem (d := 15) (by omega) (by omega) (by omega)
  refine ⟨1 + j % 15, by omega, by omega, ?_⟩
  rw [e, r]
  exact nI_add 1 (j % 15)
theorem fx_28 {post : Int32 → St0 → Prop} {x0 x1 x2 x4 : Int32} {M kc ks mc ms : Nat} (hM : (M = 1 ∧ x4 = 0) ∨ (M = 2 ∧ x4 = 1)) (hmc : kc + 10 ≤ mc) (hms : ks + 157 ≤ ms) (H : post 1 ()) : wL_lawOf_28 post mc ms x0 x1 x2 x4 (nI M) kc ks 0 0 0 0 0 0 0 0 := by
  obtain ⟨a, ha, ha', ea⟩ := fx_arg x0
  obtain ⟨b, hb, hb', eb⟩ := fx_arg x1
  obtain ⟨c, hc, hc', ec⟩ := fx_arg x2
  have M1 : 1 ≤ M := by omega
  have M2 : M ≤ 2 := by omega
  unfold wL_lawOf_28
  refine ⟨10, 157, hmc, hms, ?_⟩
  unfold wpX_init
  refine ⟨by omega, by omega, by omega, by omega, by omega, by omega, by omega, by omega, by omega, by omega, by omega, by omega, by omega, by omega, by omega, by omega, by omega, by omega, by omega, by omega, pk_le 1 M (fun _ => pk_le M 3 (fun _ => ?_) (fun z => absurd z (by omega))) (fun z => absurd z (by omega))⟩
  refine ⟨by decide, nm_r ea ⟨by decide, nm_r eb ⟨by decide, nm_r ec ?_⟩⟩⟩
  refine fb_add (k := 0) M1 M2 (by omega) ha ha' (fun b1 g0 g1 g2 => ?_)
  refine fb_add (k := 1) M1 M2 (by omega) hb hb' (fun d1 h0 h1 h2 => ?_)
  refine fb_add (k := 2) M1 M2 (by omega) hc hc' (fun e1 i0 i1 i2 => ?_)
  refine fb_min (by omega) (by omega) (fb_min (by omega) (by omega) (fb_max (by omega) (by omega) (fb_max (by omega) (by omega) ?_)))
  have hA : fb_A M e1 (fun j _ => ft_t a b c j) := by
    refine ⟨M1, M2, fun j m hj hm => ⟨?_, ft_t15 ha' hb' hc' j⟩⟩
    have hjm : (j = 0 ∧ m = 0) ∨ (j = 0 ∧ m = 1 ∧ M = 2) ∨ (j = 1 ∧ m = 0) ∨ (j = 1 ∧ m = 1 ∧ M = 2) ∨ (j = 2 ∧ m = 0) ∨ (j = 2 ∧ m = 1 ∧ M = 2) := by omega
    rcases hjm with ⟨e, f⟩ | ⟨e, f, w⟩ | ⟨e, f⟩ | ⟨e, f, w⟩ | ⟨e, f⟩ | ⟨e, f, w⟩ <;> subst e <;> subst f
    · rw [i0 _ (by omega) (by omega) (by omega), h0 _ (by omega) (by omega) (by omega)]
      exact g1
    · rw [i0 _ (by omega) (by omega) (by omega), h0 _ (by omega) (by omega) (by omega)]
      exact g2 w
    · rw [i0 _ (by omega) (by omega) (by omega)]
      exact h1
    · rw [i0 _ (by omega) (by omega) (by omega)]
      exact h2 w
    · exact i1
    · exact i2 w
  have em : nI a + nI b + nI c - nI (min a (min b c)) - nI (max a (max b c)) = nI (a + b + c - min a (min b c) - max a (max b c)) := by
    rw [nI_add, nI_add, pk_sub (by omega), pk_sub (by omega)]
  have eal : 3 * nI (min a (min b c)) + 2 * nI (a + b + c - min a (min b c) - max a (max b c)) + nI (max a (max b c)) = nI (fl_al a b c) := by
    rw [show (3 : Int32) * nI (min a (min b c)) = nI (3 * min a (min b c)) from pk_mul 3 _, show (2 : Int32) * nI (a + b + c - min a (min b c) - max a (max b c)) = nI (2 * (a + b + c - min a (min b c) - max a (max b c))) from pk_mul 2 _, nI_add, nI_add]
    congr 1
    unfold fl_al
    omega
  have esh : 2 * nI (min a (min b c)) + nI (a + b + c - min a (min b c) - max a (max b c)) + nI (max a (max b c)) = nI (fl_sh a b c) := by
    rw [show (2 : Int32) * nI (min a (min b c)) = nI (2 * min a (min b c)) from pk_mul 2 _, nI_add, nI_add]
    congr 1
    unfold fl_sh
    omega
  refine nm_r em (nm_r eal (nm_r esh ?_))
  rcases hM with ⟨e, f⟩ | ⟨e, f⟩
  · subst e
    subst f
    exact br_t rfl (fy_182 ha hb hc ha' hb' hc' hA H)
  · subst e
    subst f
    exact br_f (by decide) (fz_182 ha hb hc ha' hb' hc' hA H)
theorem fx_of {post : Int32 → St0 → Prop} {p0 p1 p2 p3 : Int32} (H : post 1 ()) : wpL_lawOf post 72 1152 () p0 p1 p2 p3 := by
  unfold wpL_lawOf
  refine br_c (fun _ => ?_) (fun _ => ?_)
  · unfold wL_lawOf_12
    exact ⟨by omega, by omega, br_f (by decide) (fx_28 (M := 2) (Or.inr ⟨rfl, rfl⟩) (by omega) (by omega) H)⟩
  · unfold wL_lawOf_12
    exact ⟨by omega, by omega, br_t rfl (fx_28 (M := 1) (Or.inl ⟨rfl, rfl⟩) (by omega) (by omega) H)⟩
theorem fx_cell {post : Int32 → Prop} {L : Nat} {xs : Nat → Int32} {i : Nat} (hL : L ≤ 4) (hi : i < 4) (H : ∀ x : Int32, post x) : wpL_cellAt post L xs () (nI i) := by
  unfold wpL_cellAt
  exact pk_le L i (fun _ => H _) (fun z => ⟨pk_in i L z, H _⟩)
theorem i_vc (xs : Nat → Int32) (L : Nat) (hL : L ≤ 4) : wpL_law (fun r => r = 1) L xs := by
  unfold wpL_law
  exact fx_cell (i := 0) hL (by omega) (fun r1 => fx_cell (i := 1) hL (by omega) (fun r2 => fx_cell (i := 2) hL (by omega) (fun r3 => fx_cell (i := 3) hL (by omega) (fun r4 => ⟨72, 1152, by omega, by omega, fx_of rfl⟩))))
end
