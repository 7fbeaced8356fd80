section
/-! numbers, bits, sums -/
/-- bit i of x -/
def rb_t (x : Int32) (i : Nat) : Bool := x.toBitVec.getLsbD i
/-- a truth value as an int -/
def rb_b (b : Bool) : Int32 := if b = true then 1 else 0
theorem rb_ext {x y : Int32} (h : ∀ i, i < 32 → rb_t x i = rb_t y i) : x = y := Int32.toBitVec_inj.mp (BitVec.eq_of_getLsbD_eq (fun i hi => h i hi))
theorem rb_or (x y : Int32) (i : Nat) : rb_t (x ||| y) i = (rb_t x i || rb_t y i) := by unfold rb_t; rw [Int32.toBitVec_or, BitVec.getLsbD_or]
theorem rb_and (x y : Int32) (i : Nat) : rb_t (x &&& y) i = (rb_t x i && rb_t y i) := by unfold rb_t; rw [Int32.toBitVec_and, BitVec.getLsbD_and]
theorem rb_xor (x y : Int32) (i : Nat) : rb_t (x ^^^ y) i = (rb_t x i ^^ rb_t y i) := by unfold rb_t; rw [Int32.toBitVec_xor, BitVec.getLsbD_xor]
theorem rb_big {x : Int32} {i : Nat} (h : 32 ≤ i) : rb_t x i = false := BitVec.getLsbD_of_ge _ _ h
theorem rb_lt {x : Int32} {i : Nat} (h : rb_t x i = true) : i < 32 := by
  rcases Nat.lt_or_ge i 32 with z | z
  · exact z
  · rw [rb_big z] at h
    exact absurd h (by decide)
theorem rb_m1 : ∀ i, i < 32 → rb_t (-1) i = true := by decide +kernel
theorem rb_0 (i : Nat) : rb_t 0 i = false := BitVec.getLsbD_zero
theorem rb_1 (i : Nat) : rb_t 1 i = decide (i = 0) := by
  rcases Nat.lt_or_ge i 32 with h | h
  · exact (by decide +kernel : ∀ i, i < 32 → rb_t 1 i = decide (i = 0)) i h
  · rw [rb_big h, decide_eq_false (by omega)]
theorem rb_sl : ∀ n, n < 32 → ((nI n &&& 31).toBitVec.smod 32).toNat = n := by decide +kernel
theorem rb_sh : ∀ l, l < 32 → ((1 : Int32) <<< (nI l &&& 31)).toBitVec = BitVec.twoPow 32 l := by decide +kernel
theorem rb_one {k : Nat} (hk : k < 32) (i : Nat) : rb_t ((1 : Int32) <<< (nI k &&& 31)) i = decide (i = k) := by
  unfold rb_t
  rw [rb_sh k hk, BitVec.getLsbD_twoPow]
  by_cases e : i = k
  · subst e
    simp [hk]
  · have e' : ¬ k = i := fun z => e z.symm
    simp [e, e']
theorem rb_shr {k : Nat} (hk : k < 32) (x : Int32) : rb_t (x >>> (nI k &&& 31)) 0 = rb_t x k := by
  unfold rb_t
  rw [Int32.toBitVec_shiftRight]
  show (x.toBitVec.sshiftRight ((nI k &&& 31).toBitVec.smod 32).toNat).getLsbD 0 = _
  rw [rb_sl k hk, BitVec.getLsbD_sshiftRight]
  simp [hk]
theorem rb_bt (b : Bool) (i : Nat) : rb_t (rb_b b) i = (b && decide (i = 0)) := by
  cases b
  · show rb_t 0 i = _
    rw [rb_0]
    rfl
  · show rb_t 1 i = _
    rw [rb_1]
    rfl
theorem rb_val {k : Nat} (hk : k < 32) (x : Int32) : (x >>> (nI k &&& 31)) &&& 1 = rb_b (rb_t x k) := by
  apply rb_ext
  intro i hi
  rw [rb_and, rb_1, rb_bt]
  by_cases e : i = 0
  · subst e
    rw [rb_shr hk]
  · simp [e]
theorem rb_b0 {b : Bool} : rb_b b = 0 ↔ b = false := by cases b <;> decide
theorem rb_b1 {b : Bool} : rb_b b = 1 ↔ b = true := by cases b <;> decide
theorem rb_bb {b c : Bool} : rb_b b = rb_b c ↔ b = c := by cases b <;> cases c <;> decide
theorem rb_bn (b : Bool) : rb_b b = nI (if b = true then 1 else 0) := by cases b <;> rfl
theorem rb_bx (b : Bool) : ((rb_b b) ^^^ 1).toInt8.toInt32 = rb_b (!b) := by cases b <;> decide
theorem rb_set {k : Nat} (hk : k < 32) (x : Int32) (i : Nat) : rb_t (x ||| ((1 : Int32) <<< (nI k &&& 31))) i = (rb_t x i || decide (i = k)) := by
  rw [rb_or, rb_one hk]
theorem rb_clr {k : Nat} (hk : k < 32) (x : Int32) (i : Nat) : rb_t (x &&& (((1 : Int32) <<< (nI k &&& 31)) ^^^ (-1))) i = (rb_t x i && !decide (i = k)) := by
  rw [rb_and, rb_xor, rb_one hk]
  rcases Nat.lt_or_ge i 32 with h | h
  · rw [rb_m1 i h]
    simp
  · rw [rb_big h]
    rfl
theorem rb_zero {x : Int32} : x = 0 ↔ ∀ i, rb_t x i = false := by
  constructor
  · intro h i
    rw [h, rb_0]
  · intro h
    apply rb_ext
    intro i _
    rw [h i, rb_0]
theorem rb_and0 {x y : Int32} : x &&& y = 0 ↔ ∀ i, rb_t x i = true → rb_t y i = true → False := by
  rw [rb_zero]
  constructor
  · intro h i h1 h2
    have h3 := h i
    rw [rb_and, h1, h2] at h3
    exact absurd h3 (by decide)
  · intro h i
    rw [rb_and]
    cases h1 : rb_t x i
    · rfl
    · cases h2 : rb_t y i
      · rfl
      · exact (h i h1 h2).elim
theorem rb_i16 {x : Int32} (h : ∀ i, 10 ≤ i → rb_t x i = false) : x.toInt16.toInt32 = x := by
  have key : ∀ n, n < 1024 → (nI n).toInt16.toInt32 = nI n := by decide +kernel
  have e : x = nI x.toBitVec.toNat := by
    apply Int32.toBitVec_inj.1
    show x.toBitVec = BitVec.ofNat 32 x.toBitVec.toNat
    simp
  have b : x.toBitVec.toNat < 1024 := by
    show x.toBitVec.toNat < 2 ^ 10
    apply Nat.lt_pow_two_of_testBit
    intro i hi
    exact h i hi
  rw [e]
  exact key _ b
theorem rb_c1 {h : Bool} {p q s : Prop} [Decidable p] [Decidable q] [Decidable s] (e : (¬ p ∧ ¬ q) ↔ ¬ s) : ((h && !decide p) && !decide q) = (h && !decide s) := by
  by_cases hp : p <;> by_cases hq : q <;> by_cases hs : s <;> simp_all
theorem rb_c2 {h : Bool} {p q s : Prop} [Decidable p] [Decidable q] [Decidable s] (e : (p ∨ q) ↔ s) : ((h || decide p) || decide q) = (h || decide s) := by
  by_cases hp : p <;> by_cases hq : q <;> by_cases hs : s <;> simp_all
/-! numbers -/
abbrev rn_v (x : Int32) : Nat := x.toNatClampNeg
/-- the other end of a section -/
def rn_x (e : Nat) : Nat := if e % 2 = 0 then e + 1 else e - 1
theorem rn_x_lt {e : Nat} (h : e < 20) : rn_x e < 20 := by unfold rn_x; split <;> omega
theorem rn_x_2 (e : Nat) : rn_x e / 2 = e / 2 := by unfold rn_x; split <;> omega
theorem rn_xor : ∀ e, e < 20 → nI e ^^^ 1 = nI (rn_x e) ∧ (nI e ^^^ 1).toInt8.toInt32 = nI (rn_x e) := by decide +kernel
theorem rn_d2 {e : Nat} (h : e < 2 ^ 31) : nI e / 2 = nI (e / 2) := pk_div h (by decide) (by decide)
theorem rn_i8 : ∀ n, n < 128 → (nI n).toInt8.toInt32 = nI n := by decide +kernel
theorem rn_inc : ∀ c, c < 127 → (nI c + 1).toInt8.toInt32 = nI (c + 1) := by decide +kernel
theorem rn_dec : ∀ c, c < 127 → (nI (c + 1) + (-1)).toInt8.toInt32 = nI c := by decide +kernel
theorem rn_dec' : ∀ c, c < 127 → (nI (c + 1) - 1).toInt8.toInt32 = nI c := by decide +kernel
theorem rn_neg {n : Nat} (h : n < 2 ^ 31) : ¬ nI n = -1 := by
  intro e
  have := congrArg Int32.toInt e
  rw [nI_toInt h] at this
  have e1 : ((-1 : Int32)).toInt = -1 := by decide
  omega
theorem rn_inj {a b : Nat} (e : nI a = nI b) (ha : a < 2 ^ 31) (hb : b < 2 ^ 31) : a = b := (nI_eq ha hb).mp e
/-- x is one of 0 .. b-1 -/
def ri_lt (x : Int32) (b : Nat) : Prop := x = nI (rn_v x) ∧ rn_v x < b
theorem ri_ltI {n b : Nat} (h : n < b) (hb : b < 2 ^ 31) : ri_lt (nI n) b := by
  unfold ri_lt rn_v
  rw [nI_clamp (by omega)]
  exact ⟨rfl, h⟩
theorem ri_ltE {x : Int32} {b : Nat} (h : ri_lt x b) : ∃ m, m < b ∧ x = nI m := ⟨_, h.2, h.1⟩
theorem rn_cl {x : Int32} {n : Nat} (h : x = nI n) (hn : n < 2 ^ 31) : rn_v x = n := by
  rw [h]
  exact nI_clamp hn
/-- a place that may be empty -/
def rn_o : Option Nat → Int32
  | none => -1
  | some n => nI n
theorem rn_oneg {o : Option Nat} (hb : ∀ n, o = some n → n < 2 ^ 31) : rn_o o < 0 ↔ o = none := by
  cases o with
  | none => exact ⟨fun _ => rfl, fun _ => (by decide : (-1 : Int32) < 0)⟩
  | some n => exact ⟨fun z => absurd z (nI_pos (hb n rfl)), fun z => absurd z (by simp)⟩
theorem rn_opos {o : Option Nat} (hb : ∀ n, o = some n → n < 2 ^ 31) : 0 ≤ rn_o o ↔ o ≠ none := by
  cases o with
  | none => exact ⟨fun z => absurd z (by decide : ¬ (0 : Int32) ≤ -1), fun z => absurd rfl z⟩
  | some n => exact ⟨fun _ => by simp, fun _ => nI_pos' (hb n rfl)⟩
theorem rn_osome {o : Option Nat} {n : Nat} (hb : ∀ n, o = some n → n < 2 ^ 31) (hn : n < 2 ^ 31) : rn_o o = nI n ↔ o = some n := by
  cases o with
  | none => exact ⟨fun z => absurd z.symm (rn_neg hn), fun z => absurd z (by simp)⟩
  | some m => exact ⟨fun z => congrArg some (rn_inj z (hb m rfl) hn), fun z => by cases z; rfl⟩
/-! sums -/
def rs_sum (f : Nat → Nat) : Nat → Nat
  | 0 => 0
  | n + 1 => rs_sum f n + f n
theorem rs_congr {f g : Nat → Nat} {n : Nat} (h : ∀ i, i < n → f i = g i) : rs_sum f n = rs_sum g n := by
  induction n with
  | zero => rfl
  | succ n ih =>
    show rs_sum f n + f n = rs_sum g n + g n
    rw [ih (fun i hi => h i (by omega)), h n (by omega)]
theorem rs_one {f g : Nat → Nat} {n i d : Nat} (hi : i < n) (he : g i = f i + d) (h : ∀ j, j < n → j ≠ i → g j = f j) : rs_sum g n = rs_sum f n + d := by
  induction n with
  | zero => omega
  | succ n ih =>
    show rs_sum g n + g n = rs_sum f n + f n + d
    by_cases e : i = n
    · subst e
      rw [rs_congr (f := g) (g := f) (fun j hj => h j (by omega) (by omega)), he]
      omega
    · rw [ih (by omega) (fun j hj hn => h j (by omega) hn), h n (by omega) (fun z => e z.symm)]
      omega
theorem rs_le {f : Nat → Nat} {n : Nat} (h : ∀ i, i < n → f i ≤ 1) : rs_sum f n ≤ n := by
  induction n with
  | zero => exact Nat.le_refl _
  | succ n ih =>
    show rs_sum f n + f n ≤ n + 1
    have := ih (fun i hi => h i (by omega))
    have := h n (by omega)
    omega
theorem rs_ge {f : Nat → Nat} {n i : Nat} (hi : i < n) : f i ≤ rs_sum f n := by
  induction n with
  | zero => omega
  | succ n ih =>
    show f i ≤ rs_sum f n + f n
    by_cases e : i = n
    · subst e
      omega
    · have := ih (by omega)
      omega
theorem rs_zero {f : Nat → Nat} {n : Nat} (h : ∀ i, i < n → f i = 0) : rs_sum f n = 0 := by
  induction n with
  | zero => rfl
  | succ n ih =>
    show rs_sum f n + f n = 0
    rw [ih (fun i hi => h i (by omega)), h n (by omega)]
end
section
/-! the pictures: yard, routes, held places -/
/-- joint j joins the ends a and b -/
def ri_J (a1 a2 : Nat → Int32) (j a b : Nat) : Prop := (a1 j = nI a ∧ a2 j = nI b) ∨ (a1 j = nI b ∧ a2 j = nI a)
/-- the yard: each end has at most two joints, and each of them leads from it to an end of another section -/
def ri_Y (nj : Nat) (a1 a2 a3 a4 : Nat → Int32) : Prop :=
  nj ≤ 12 ∧ ∀ a, a < 20 → ∃ c, c ≤ 2 ∧ a3 a = nI c ∧ ∀ k, k < c → ∃ j b, j < nj ∧ b < 20 ∧ b / 2 ≠ a / 2 ∧ a4 (2 * a + k) = nI j ∧ ri_J a1 a2 j a b
/-- place i of the routes touches end a, which has points -/
def ri_T (a1 a2 a3 a9 : Nat → Int32) (i a : Nat) : Bool := decide (a3 a = 2 ∧ (a1 (rn_v (a9 i)) = nI a ∨ a2 (rn_v (a9 i)) = nI a))
/-- a good route -/
def ri_G (a1 a2 a3 a7 a8 a9 a10 a11 a12 : Nat → Int32) (r : Nat) : Prop :=
  ri_lt (a7 r) 20 ∧ ri_lt (a8 r) 6 ∧ 1 ≤ rn_v (a8 r) ∧
  (∀ k, k < rn_v (a8 r) → ri_lt (a10 (5 * r + k)) 20 ∧ ri_lt (a9 (5 * r + k)) 12 ∧ ∃ x y, x < 20 ∧ y < 20 ∧ x ≠ y ∧ a1 (rn_v (a9 (5 * r + k))) = nI x ∧ a2 (rn_v (a9 (5 * r + k))) = nI y) ∧
  (∀ k k', k < rn_v (a8 r) → k' < rn_v (a8 r) → rn_v (a10 (5 * r + k)) / 2 = rn_v (a10 (5 * r + k')) / 2 → k = k') ∧
  (∀ s, rb_t (a11 r) s = true ↔ ∃ k, k < rn_v (a8 r) ∧ rn_v (a10 (5 * r + k)) / 2 = s) ∧
  (∀ a, rb_t (a12 r) a = true → a < 20 ∧ ∃ k, k < rn_v (a8 r) ∧ ri_T a1 a2 a3 a9 (5 * r + k) a = true)
theorem ri_G_c {a1 a2 a3 a7 a8 a9 a10 a11 a12 a7' a8' a9' a10' a11' a12' : Nat → Int32} {q : Nat} (g : ri_G a1 a2 a3 a7 a8 a9 a10 a11 a12 q) (h7 : a7' q = a7 q) (h8 : a8' q = a8 q)
    (h9 : ∀ k, k < 5 → a9' (5 * q + k) = a9 (5 * q + k)) (h10 : ∀ k, k < 5 → a10' (5 * q + k) = a10 (5 * q + k)) (h11 : a11' q = a11 q) (h12 : a12' q = a12 q) :
    ri_G a1 a2 a3 a7' a8' a9' a10' a11' a12' q := by
  obtain ⟨g1, g2, g3, g4, g5, g6, g7⟩ := g
  have hl : rn_v (a8 q) < 6 := g2.2
  unfold ri_G
  rw [h7, h8, h11, h12]
  refine ⟨g1, g2, g3, fun k hk => ?_, fun k k' hk hk' => ?_, fun s => ?_, fun a ha => ?_⟩
  · rw [h9 k (by omega), h10 k (by omega)]
    exact g4 k hk
  · rw [h10 k (by omega), h10 k' (by omega)]
    exact g5 k k' hk hk'
  · rw [g6 s]
    constructor
    · rintro ⟨k, hk, e⟩
      exact ⟨k, hk, by rw [h10 k (by omega)]; exact e⟩
    · rintro ⟨k, hk, e⟩
      rw [h10 k (by omega)] at e
      exact ⟨k, hk, e⟩
  · obtain ⟨b, k, hk, e⟩ := g7 a ha
    refine ⟨b, k, hk, ?_⟩
    unfold ri_T at e ⊢
    rw [h9 k (by omega)]
    exact e
/-- the held places H: locks and counts of needs -/
def ri_LN (en : Nat → Nat) (T : Nat → Nat → Bool) (H : Nat → Bool) (a19 a20 : Nat → Int32) : Prop :=
  (∀ i, i < 80 → H i = true → a19 (en i / 2) = nI (i / 5)) ∧
  (∀ s, s < 10 → a19 s = -1 ∨ ∃ i, i < 80 ∧ H i = true ∧ en i / 2 = s) ∧
  (∀ i i', i < 80 → i' < 80 → H i = true → H i' = true → en i / 2 = en i' / 2 → i = i') ∧
  (∀ a, a < 20 → a20 a = nI (rs_sum (fun i => if (H i && T i a) = true then 1 else 0) 80))
theorem ri_LN_c {en : Nat → Nat} {T : Nat → Nat → Bool} {H H' : Nat → Bool} {a19 a20 : Nat → Int32} (h : ri_LN en T H a19 a20) (e : ∀ i, i < 80 → H' i = H i) : ri_LN en T H' a19 a20 := by
  obtain ⟨h1, h2, h3, h4⟩ := h
  refine ⟨fun i hi hh => h1 i hi (by rw [← e i hi]; exact hh), fun s hs => ?_, fun i i' hi hi' hh hh' => h3 i i' hi hi' (by rw [← e i hi]; exact hh) (by rw [← e i' hi']; exact hh'), fun a ha => ?_⟩
  · rcases h2 s hs with z | ⟨i, hi, hh, z⟩
    · exact Or.inl z
    · exact Or.inr ⟨i, hi, by rw [e i hi]; exact hh, z⟩
  · rw [h4 a ha]
    exact congrArg nI (rs_congr (fun i hi => by rw [e i hi]))
theorem ri_LN_cT {en en' : Nat → Nat} {T T' : Nat → Nat → Bool} {a19 a20 : Nat → Int32} (h : ri_LN en T (fun _ => false) a19 a20) : ri_LN en' T' (fun _ => false) a19 a20 := by
  obtain ⟨h1, h2, h3, h4⟩ := h
  refine ⟨fun i hi hh => absurd hh Bool.false_ne_true, fun s hs => ?_, fun i i' hi hi' hh => absurd hh Bool.false_ne_true, fun a ha => ?_⟩
  · rcases h2 s hs with z | ⟨i, hi, hh, z⟩
    · exact Or.inl z
    · exact absurd hh Bool.false_ne_true
  · rw [h4 a ha]
    exact congrArg nI (rs_congr (fun i hi => rfl))
theorem ri_LN_le {H : Nat → Bool} {T : Nat → Nat → Bool} {a : Nat} : rs_sum (fun i => if (H i && T i a) = true then 1 else 0) 80 ≤ 80 :=
  rs_le (fun i _ => by split <;> omega)
theorem ri_LN_add {en : Nat → Nat} {T : Nat → Nat → Bool} {H : Nat → Bool} {a19 a20 b : Nat → Int32} {i : Nat} (h : ri_LN en T H a19 a20) (hi : i < 80) (hH : H i = false) (hl : a19 (en i / 2) = -1) (he : en i / 2 < 10)
    (hb : ∀ a, a < 20 → b a = if T i a = true then (a20 a + 1).toInt8.toInt32 else a20 a) :
    ri_LN en T (fun j => H j || decide (j = i)) (upd a19 (en i / 2) (nI (i / 5))) b := by
  obtain ⟨h1, h2, h3, h4⟩ := h
  have hne : ∀ j, j < 80 → H j = true → en j / 2 ≠ en i / 2 := by
    intro j hj hh e
    have := h1 j hj hh
    rw [e, hl] at this
    exact rn_neg (by omega) this.symm
  refine ⟨fun j hj hh => ?_, fun s hs => ?_, fun j j' hj hj' hh hh' e => ?_, fun a ha => ?_⟩
  · by_cases ej : j = i
    · subst ej
      exact pk_us
    · have hh' : H j = true := by simpa [ej] using hh
      rw [pk_un (hne j hj hh')]
      exact h1 j hj hh'
  · by_cases es : s = en i / 2
    · exact Or.inr ⟨i, hi, by simp, es.symm⟩
    · rw [pk_un es]
      rcases h2 s hs with z | ⟨j, hj, hh, z⟩
      · exact Or.inl z
      · exact Or.inr ⟨j, hj, by simp [hh], z⟩
  · by_cases ej : j = i
    · by_cases ej' : j' = i
      · rw [ej, ej']
      · have hh'' : H j' = true := by simpa [ej'] using hh'
        rw [ej] at e
        exact absurd e.symm (hne j' hj' hh'')
    · have hj1 : H j = true := by simpa [ej] using hh
      by_cases ej' : j' = i
      · rw [ej'] at e
        exact absurd e (hne j hj hj1)
      · exact h3 j j' hj hj' hj1 (by simpa [ej'] using hh') e
  · rw [hb a ha, h4 a ha]
    have hle : rs_sum (fun i => if (H i && T i a) = true then 1 else 0) 80 ≤ 80 := ri_LN_le
    by_cases t : T i a = true
    · rw [if_pos t, rn_inc _ (by omega)]
      refine congrArg nI (rs_one (d := 1) hi ?_ (fun j hj hn => ?_)).symm
      · simp [hH, t]
      · simp [hn]
    · rw [if_neg t]
      refine congrArg nI (rs_congr (fun j hj => ?_))
      by_cases ej : j = i
      · subst ej
        simp [t]
      · simp [ej]
theorem ri_LN_del {en : Nat → Nat} {T : Nat → Nat → Bool} {H : Nat → Bool} {a19 a20 b : Nat → Int32} {i : Nat} (h : ri_LN en T H a19 a20) (hi : i < 80) (hH : H i = true)
    (hb : ∀ a, a < 20 → b a = if T i a = true then (a20 a + (-1)).toInt8.toInt32 else a20 a) :
    ri_LN en T (fun j => H j && !decide (j = i)) (upd a19 (en i / 2) (-1)) b := by
  obtain ⟨h1, h2, h3, h4⟩ := h
  refine ⟨fun j hj hh => ?_, fun s hs => ?_, fun j j' hj hj' hh hh' e => ?_, fun a ha => ?_⟩
  · have hj1 : H j = true ∧ ¬ j = i := by simpa using hh
    have : en j / 2 ≠ en i / 2 := fun e => hj1.2 (h3 j i hj hi hj1.1 hH e)
    rw [pk_un this]
    exact h1 j hj hj1.1
  · by_cases es : s = en i / 2
    · rw [es]
      exact Or.inl pk_us
    · rw [pk_un es]
      rcases h2 s hs with z | ⟨j, hj, hh, z⟩
      · exact Or.inl z
      · refine Or.inr ⟨j, hj, ?_, z⟩
        have : ¬ j = i := fun e => es (by rw [← z, e])
        simp [hh, this]
  · have hj1 : H j = true ∧ ¬ j = i := by simpa using hh
    have hj2 : H j' = true ∧ ¬ j' = i := by simpa using hh'
    exact h3 j j' hj hj' hj1.1 hj2.1 e
  · rw [hb a ha, h4 a ha]
    by_cases t : T i a = true
    · rw [if_pos t]
      have e1 : rs_sum (fun i => if (H i && T i a) = true then 1 else 0) 80 = rs_sum (fun j => if ((H j && !decide (j = i)) && T j a) = true then 1 else 0) 80 + 1 := by
        refine rs_one (d := 1) hi ?_ (fun j hj hn => ?_)
        · simp [hH, t]
        · simp [hn]
      have hle : rs_sum (fun j => if ((H j && !decide (j = i)) && T j a) = true then 1 else 0) 80 ≤ 80 := ri_LN_le (H := fun j => H j && !decide (j = i))
      rw [e1, rn_dec _ (by omega)]
    · rw [if_neg t]
      refine congrArg nI (rs_congr (fun j hj => ?_))
      by_cases ej : j = i
      · subst ej
        simp [t]
      · simp [ej]
/-- a lock is a held place's route -/
theorem ri_LN_lock {en : Nat → Nat} {T : Nat → Nat → Bool} {H : Nat → Bool} {a19 a20 : Nat → Int32} (h : ri_LN en T H a19 a20) {s : Nat} (hs : s < 10) :
    a19 s = -1 ∨ ∃ i, i < 80 ∧ H i = true ∧ en i / 2 = s ∧ a19 s = nI (i / 5) := by
  obtain ⟨h1, h2, h3, h4⟩ := h
  rcases h2 s hs with z | ⟨i, hi, hh, z⟩
  · exact Or.inl z
  · refine Or.inr ⟨i, hi, hh, z, ?_⟩
    rw [← z]
    exact h1 i hi hh
/-- a count of needs is a number; it is positive at an end that a held place touches -/
theorem ri_LN_need {en : Nat → Nat} {T : Nat → Nat → Bool} {H : Nat → Bool} {a19 a20 : Nat → Int32} (h : ri_LN en T H a19 a20) {a : Nat} (ha : a < 20) :
    ∃ c, c ≤ 80 ∧ a20 a = nI c ∧ ∀ i, i < 80 → H i = true → T i a = true → 1 ≤ c := by
  obtain ⟨h1, h2, h3, h4⟩ := h
  refine ⟨_, ri_LN_le, h4 a ha, fun i hi hh ht => ?_⟩
  have := rs_ge (f := fun i => if (H i && T i a) = true then 1 else 0) hi
  simpa [hh, ht] using this
end
section
/-! walks of the small methods -/
theorem ri_across {post : Int32 → Prop} {fj ff fr fs fo fw : Int32} {a1 a2 a3 a4 a5 a6 a7 a8 a9 a10 a11 a12 a13 a14 a15 a16 a17 a18 a19 a20 a21 a22 a23 a24 a25 a26 : Nat → Int32} {p0 p1 : Int32} {j a b : Nat} (h0 : p0 = nI j) (h1 : p1 = nI a) (hj : j < 12) (ha : a < 20) (hb : b < 20) (hab : b / 2 ≠ a / 2) (hJ : ri_J a1 a2 j a b) (H : post (nI b)) :
    wpX_across post (fj, ff, fr, fs, fo, fw, a1, a2, a3, a4, a5, a6, a7, a8, a9, a10, a11, a12, a13, a14, a15, a16, a17, a18, a19, a20, a21, a22, a23, a24, a25, a26) p0 p1 := by
  subst h0 h1
  unfold wpX_across
  dsimp only
  rw [nI_clamp (show j < 2 ^ 31 by omega)]
  refine ⟨pk_in j 12 hj, ?_⟩
  rcases hJ with ⟨e1, e2⟩ | ⟨e1, e2⟩
  · exact br_t e1 ⟨pk_in j 12 hj, by rw [e2]; exact H⟩
  · refine br_f ?_ ⟨pk_in j 12 hj, by rw [e1]; exact H⟩
    rw [e1]
    intro z
    have := rn_inj z (by omega) (by omega)
    subst this
    exact hab rfl
theorem ri_isSet {post : Int32 → Prop} {fj ff fr fs fo fw : Int32} {a1 a2 a3 a4 a5 a6 a7 a8 a9 a10 a11 a12 a13 a14 a15 a16 a17 a18 a19 a20 a21 a22 a23 a24 a25 a26 : Nat → Int32} {r : Nat} (hr : r < 32) (h1 : rb_t fs r = true → post 1) (h0 : rb_t fs r = false → post 0) : wpX_isSet post (fj, ff, fr, fs, fo, fw, a1, a2, a3, a4, a5, a6, a7, a8, a9, a10, a11, a12, a13, a14, a15, a16, a17, a18, a19, a20, a21, a22, a23, a24, a25, a26) (nI r) := by
  unfold wpX_isSet
  dsimp only
  rw [rb_val hr]
  exact br_c (fun z => h0 (rb_b0.mp z)) (fun z => h1 (by cases e : rb_t fs r; exact absurd (rb_b0.mpr e) z; rfl))
theorem ri_isOcc {post : Int32 → Prop} {fj ff fr fs fo fw : Int32} {a1 a2 a3 a4 a5 a6 a7 a8 a9 a10 a11 a12 a13 a14 a15 a16 a17 a18 a19 a20 a21 a22 a23 a24 a25 a26 : Nat → Int32} {p0 : Int32} {s : Nat} (hp : p0 = nI s) (hs : s < 32) (h1 : rb_t fo s = true → post 1) (h0 : rb_t fo s = false → post 0) : wpX_isOccupied post (fj, ff, fr, fs, fo, fw, a1, a2, a3, a4, a5, a6, a7, a8, a9, a10, a11, a12, a13, a14, a15, a16, a17, a18, a19, a20, a21, a22, a23, a24, a25, a26) p0 := by
  subst hp
  unfold wpX_isOccupied
  dsimp only
  rw [rb_val hs]
  exact br_c (fun z => h0 (rb_b0.mp z)) (fun z => h1 (by cases e : rb_t fo s; exact absurd (rb_b0.mpr e) z; rfl))
theorem ri_mustTurn {post : Int32 → Prop} {fj ff fr fs fo fw : Int32} {a1 a2 a3 a4 a5 a6 a7 a8 a9 a10 a11 a12 a13 a14 a15 a16 a17 a18 a19 a20 a21 a22 a23 a24 a25 a26 : Nat → Int32} {r a : Nat} {p : Bool} (hr : r < 16) (ha : a < 20) (hp : a6 a = rb_b p)
    (h1 : rb_t (a12 r) a = true → rb_t (a13 r) a ≠ p → post 1) (h0 : ¬ (rb_t (a12 r) a = true ∧ rb_t (a13 r) a ≠ p) → post 0) : wpX_mustTurn post (fj, ff, fr, fs, fo, fw, a1, a2, a3, a4, a5, a6, a7, a8, a9, a10, a11, a12, a13, a14, a15, a16, a17, a18, a19, a20, a21, a22, a23, a24, a25, a26) (nI r) (nI a) := by
  unfold wpX_mustTurn
  dsimp only
  rw [nI_clamp (show r < 2 ^ 31 by omega), nI_clamp (show a < 2 ^ 31 by omega), rb_val (show a < 32 by omega), rb_val (show a < 32 by omega), hp]
  refine ⟨pk_in r 16 hr, br_c (fun z => h0 ?_) (fun z => ⟨pk_in r 16 hr, pk_in a 20 ha, br_c (fun z' => h0 ?_) (fun z' => h1 ?_ ?_)⟩)⟩
  · rw [rb_b0.mp z]
    exact fun t => absurd t.1 (by decide)
  · rw [rb_bb] at z'
    exact fun t => t.2 z'
  · cases e : rb_t (a12 r) a
    · exact absurd (rb_b0.mpr e) z
    · rfl
  · rw [rb_bb] at z'
    exact z'
theorem ri_isFast {post : Int32 → Prop} {fj ff fr fs fo fw : Int32} {a1 a2 a3 a4 a5 a6 a7 a8 a9 a10 a11 a12 a13 a14 a15 a16 a17 a18 a19 a20 a21 a22 a23 a24 a25 a26 : Nat → Int32} {a c : Nat} (ha : a < 20) (hc : a20 a = nI c) (hc' : c ≤ 80)
    (h1 : ¬ (rb_t fo (a / 2) = false ∧ c = 0) → post 1) (h0 : rb_t fo (a / 2) = false → c = 0 → post 0) : wpX_isFast post (fj, ff, fr, fs, fo, fw, a1, a2, a3, a4, a5, a6, a7, a8, a9, a10, a11, a12, a13, a14, a15, a16, a17, a18, a19, a20, a21, a22, a23, a24, a25, a26) (nI a) := by
  unfold wpX_isFast
  dsimp only
  refine ⟨by decide, ri_isOcc (rn_d2 (by omega)) (by omega) (fun z => ?_) (fun z => ?_)⟩
  · exact br_f (by decide) (h1 (fun t => by rw [z] at t; exact absurd t.1 (by decide)))
  · refine br_t rfl ⟨pk_in a 20 ha, ?_⟩
    rw [nI_clamp (show a < 2 ^ 31 by omega)]
    exact pk_le c 0 (fun g => h0 z (by omega)) (fun g => h1 (fun t => by omega)) hc
/-- countNeeds: the two ends of the joint -/
theorem ri_cn {post : St1 → Prop} {fj ff fr fs fo fw : Int32} {a1 a2 a3 a4 a5 a6 a7 a8 a9 a10 a11 a12 a13 a14 a15 a16 a17 a18 a19 a20 a21 a22 a23 a24 a25 a26 : Nat → Int32} {p0 m : Int32} {j x y : Nat} (h0 : p0 = nI j) (hj : j < 12) (e1 : a1 j = nI x) (e2 : a2 j = nI y) (hx : x < 20) (hy : y < 20) (hxy : x ≠ y)
    (K : ∀ b : Nat → Int32, (∀ a, a < 20 → b a = if a3 a = 2 ∧ (x = a ∨ y = a) then (a20 a + m).toInt8.toInt32 else a20 a) → post (fj, ff, fr, fs, fo, fw, a1, a2, a3, a4, a5, a6, a7, a8, a9, a10, a11, a12, a13, a14, a15, a16, a17, a18, a19, b, a21, a22, a23, a24, a25, a26)) : wpX_countNeeds post (fj, ff, fr, fs, fo, fw, a1, a2, a3, a4, a5, a6, a7, a8, a9, a10, a11, a12, a13, a14, a15, a16, a17, a18, a19, a20, a21, a22, a23, a24, a25, a26) p0 m := by
  subst h0
  have c1 : ∀ a20' : Nat → Int32, (∀ a, a < 20 → a20' a = if a3 a = 2 ∧ x = a then (a20 a + m).toInt8.toInt32 else a20 a) → wX_countNeeds_31 post (nI j) m fj ff fr fs fo fw a1 a2 a3 a4 a5 a6 a7 a8 a9 a10 a11 a12 a13 a14 a15 a16 a17 a18 a19 a20' a21 a22 a23 a24 a25 a26 := by
    intro a20' h'
    unfold wX_countNeeds_31
    rw [nI_clamp (show j < 2 ^ 31 by omega), e2, nI_clamp (show y < 2 ^ 31 by omega)]
    refine ⟨pk_in j 12 hj, pk_in y 20 hy, br_c (fun z => ⟨pk_in j 12 hj, pk_in y 20 hy, pk_in y 20 hy, nm_e (K _ (fun a ha => ?_))⟩) (fun z => K _ (fun a ha => ?_))⟩
    · by_cases ea : a = y
      · subst ea
        rw [pk_us, h' a ha, if_neg (fun t => hxy t.2), if_pos ⟨z, Or.inr rfl⟩]
      · rw [pk_un ea, h' a ha]
        have : (a3 a = 2 ∧ x = a) ↔ (a3 a = 2 ∧ (x = a ∨ y = a)) := ⟨fun t => ⟨t.1, Or.inl t.2⟩, fun t => ⟨t.1, t.2.resolve_right (fun u => ea u.symm)⟩⟩
        simp only [this]
    · rw [h' a ha]
      have : (a3 a = 2 ∧ x = a) ↔ (a3 a = 2 ∧ (x = a ∨ y = a)) := ⟨fun t => ⟨t.1, Or.inl t.2⟩, fun t => ⟨t.1, t.2.resolve_right (fun u => z (u ▸ t.1))⟩⟩
      simp only [this]
  unfold wpX_countNeeds
  dsimp only
  rw [nI_clamp (show j < 2 ^ 31 by omega), e1, nI_clamp (show x < 2 ^ 31 by omega)]
  refine ⟨pk_in j 12 hj, pk_in x 20 hx, br_c (fun z => ⟨pk_in j 12 hj, pk_in x 20 hx, pk_in x 20 hx, nm_e (c1 _ (fun a ha => ?_))⟩) (fun z => c1 _ (fun a ha => ?_))⟩
  · by_cases ea : a = x
    · subst ea
      rw [pk_us, if_pos ⟨z, rfl⟩]
    · rw [pk_un ea, if_neg (fun t => ea t.2.symm)]
  · have hz : ¬ (a3 a = 2 ∧ x = a) := fun t => z (by rw [t.2]; exact t.1)
    rw [if_neg hz]
/-- countNeeds of a place of a good route -/
theorem ri_cnT {post : St1 → Prop} {fj ff fr fs fo fw : Int32} {a1 a2 a3 a4 a5 a6 a7 a8 a9 a10 a11 a12 a13 a14 a15 a16 a17 a18 a19 a20 a21 a22 a23 a24 a25 a26 : Nat → Int32} {p0 m : Int32} {r k : Nat} (g : ri_G a1 a2 a3 a7 a8 a9 a10 a11 a12 r) (hk : k < rn_v (a8 r)) (h0 : p0 = a9 (5 * r + k))
    (K : ∀ b : Nat → Int32, (∀ a, a < 20 → b a = if ri_T a1 a2 a3 a9 (5 * r + k) a = true then (a20 a + m).toInt8.toInt32 else a20 a) → post (fj, ff, fr, fs, fo, fw, a1, a2, a3, a4, a5, a6, a7, a8, a9, a10, a11, a12, a13, a14, a15, a16, a17, a18, a19, b, a21, a22, a23, a24, a25, a26)) : wpX_countNeeds post (fj, ff, fr, fs, fo, fw, a1, a2, a3, a4, a5, a6, a7, a8, a9, a10, a11, a12, a13, a14, a15, a16, a17, a18, a19, a20, a21, a22, a23, a24, a25, a26) p0 m := by
  obtain ⟨g1, g2, g3, g4, g5, g6, g7⟩ := g
  obtain ⟨l1, l2, x, y, hx, hy, hxy, e1, e2⟩ := g4 k hk
  refine ri_cn (j := rn_v (a9 (5 * r + k))) (h0.trans l2.1) l2.2 e1 e2 hx hy hxy (fun b hb => K b (fun a ha => ?_))
  rw [hb a ha]
  have : (a3 a = 2 ∧ (x = a ∨ y = a)) ↔ ri_T a1 a2 a3 a9 (5 * r + k) a = true := by
    unfold ri_T
    rw [decide_eq_true_eq, e1, e2, nI_eq (by omega) (by omega), nI_eq (by omega) (by omega)]
  simp only [this]
theorem ri_5 {r k : Nat} : nI 5 * nI r + nI k = nI (5 * r + k) := by rw [pk_mul, nI_add]
theorem ri_releaseAt {post : St1 → Prop} {fj ff fr fs fo fw : Int32} {a1 a2 a3 a4 a5 a6 a7 a8 a9 a10 a11 a12 a13 a14 a15 a16 a17 a18 a19 a20 a21 a22 a23 a24 a25 a26 : Nat → Int32} {p1 : Int32} {r k : Nat} {H : Nat → Bool} (hr : r < 16) (g : ri_G a1 a2 a3 a7 a8 a9 a10 a11 a12 r) (h1 : p1 = nI k) (hk : k < rn_v (a8 r)) (L : ri_LN (fun i => rn_v (a10 i)) (ri_T a1 a2 a3 a9) H a19 a20) (hH : H (5 * r + k) = true)
    (K : ∀ a19' a20' : Nat → Int32, ri_LN (fun i => rn_v (a10 i)) (ri_T a1 a2 a3 a9) (fun j => H j && !decide (j = 5 * r + k)) a19' a20' → post (fj, ff, fr, fs, fo, fw, a1, a2, a3, a4, a5, a6, a7, a8, a9, a10, a11, a12, a13, a14, a15, a16, a17, a18, a19', a20', a21, a22, a23, a24, a25, a26)) : wpX_releaseAt post (fj, ff, fr, fs, fo, fw, a1, a2, a3, a4, a5, a6, a7, a8, a9, a10, a11, a12, a13, a14, a15, a16, a17, a18, a19, a20, a21, a22, a23, a24, a25, a26) (nI r) p1 := by
  subst h1
  have hl : rn_v (a8 r) < 6 := g.2.1.2
  have e5 : (5 * nI r + nI k : Int32) = nI (5 * r + k) := ri_5
  unfold wpX_releaseAt
  dsimp only
  rw [e5, nI_clamp (show 5 * r + k < 2 ^ 31 by omega)]
  obtain ⟨l1, l2, _⟩ := g.2.2.2.1 k hk
  have e10 : a10 (5 * r + k) / 2 = nI (rn_v (a10 (5 * r + k)) / 2) := by
    have h20 := l1.2
    have e := l1.1
    generalize rn_v (a10 (5 * r + k)) = z at e h20 ⊢
    rw [e]
    exact rn_d2 (by omega)
  have h20 := l1.2
  rw [e10, nI_clamp (by omega)]
  refine ⟨pk_in (5 * r + k) 80 (by omega), by decide, pk_in _ 10 (by omega) rfl, nm_e ⟨pk_in (5 * r + k) 80 (by omega), ri_cnT g hk rfl (fun b hb => ?_)⟩⟩
  exact K _ _ (ri_LN_del L (by omega) hH hb)
theorem ri_rel16 {post : St1 → Prop} {fj ff fr fs fo fw : Int32} {a1 a2 a3 a4 a5 a6 a7 a8 a9 a10 a11 a12 a13 a14 a15 a16 a17 a18 a21 a22 a23 a24 a25 a26 : Nat → Int32} {r l : Nat} (hr : r < 16) (g : ri_G a1 a2 a3 a7 a8 a9 a10 a11 a12 r) (hl : rn_v (a8 r) = l) : ∀ (m k : Nat) (H : Nat → Bool) (a19 a20 : Nat → Int32), k + m = l →
    ri_LN (fun i => rn_v (a10 i)) (ri_T a1 a2 a3 a9) H a19 a20 → (∀ k', k ≤ k' → k' < l → H (5 * r + k') = true) →
    (∀ a19' a20' : Nat → Int32, ri_LN (fun i => rn_v (a10 i)) (ri_T a1 a2 a3 a9) (fun i => H i && !decide (i / 5 = r ∧ k ≤ i % 5 ∧ i % 5 < l)) a19' a20' → post (fj, ff, fr, fs, fo, fw, a1, a2, a3, a4, a5, a6, a7, a8, a9, a10, a11, a12, a13, a14, a15, a16, a17, a18, a19', a20', a21, a22, a23, a24, a25, a26)) →
    wX_release_16 post (nI r) (m + 1) (nI k) fj ff fr fs fo fw a1 a2 a3 a4 a5 a6 a7 a8 a9 a10 a11 a12 a13 a14 a15 a16 a17 a18 a19 a20 a21 a22 a23 a24 a25 a26 := by
  have h6 : rn_v (a8 r) < 6 := g.2.1.2
  have e8 : a8 r = nI l := by rw [← hl]; exact g.2.1.1
  intro m
  induction m with
  | zero =>
    intro k H a19 a20 hm L hH K
    unfold wX_release_16
    rw [nI_clamp (show r < 2 ^ 31 by omega)]
    refine ⟨pk_in r 16 hr, pk_le l k (fun _ => ?_) (fun z => absurd z (by omega)) e8⟩
    exact K _ _ (ri_LN_c L (fun i hi => by
      have : ¬ (i / 5 = r ∧ k ≤ i % 5 ∧ i % 5 < l) := by omega
      simp [this]))
  | succ m ih =>
    intro k H a19 a20 hm L hH K
    unfold wX_release_16
    rw [nI_clamp (show r < 2 ^ 31 by omega)]
    refine ⟨pk_in r 16 hr, pk_le l k (fun z => absurd z (by omega)) (fun _ => ?_) e8⟩
    refine ri_releaseAt hr g rfl (by omega) L (hH k (by omega) (by omega)) (fun a19' a20' L' => nm_r (nI_1 k) ?_)
    refine ih (k + 1) _ a19' a20' (by omega) L' (fun k' h1 h2 => ?_) (fun a19'' a20'' L'' => K _ _ (ri_LN_c L'' (fun i hi => ?_)))
    · have : ¬ 5 * r + k' = 5 * r + k := by omega
      rw [hH k' (by omega) h2, decide_eq_false this]
      rfl
    · exact (rb_c1 (by omega)).symm
theorem ri_release {post : St1 → Prop} {fj ff fr fs fo fw : Int32} {a1 a2 a3 a4 a5 a6 a7 a8 a9 a10 a11 a12 a13 a14 a15 a16 a17 a18 a19 a20 a21 a22 a23 a24 a25 a26 : Nat → Int32} {p1 : Int32} {r k : Nat} {H : Nat → Bool} (hr : r < 16) (g : ri_G a1 a2 a3 a7 a8 a9 a10 a11 a12 r) (h1 : p1 = nI k) (hk : k ≤ rn_v (a8 r)) (L : ri_LN (fun i => rn_v (a10 i)) (ri_T a1 a2 a3 a9) H a19 a20)
    (hH : ∀ k', k ≤ k' → k' < rn_v (a8 r) → H (5 * r + k') = true)
    (K : ∀ (fs' : Int32) (a19' a20' : Nat → Int32), (∀ i, rb_t fs' i = (rb_t fs i && !decide (i = r))) → ri_LN (fun i => rn_v (a10 i)) (ri_T a1 a2 a3 a9) (fun i => H i && !decide (i / 5 = r ∧ k ≤ i % 5 ∧ i % 5 < rn_v (a8 r))) a19' a20' → post (fj, ff, fr, fs', fo, fw, a1, a2, a3, a4, a5, a6, a7, a8, a9, a10, a11, a12, a13, a14, a15, a16, a17, a18, a19', a20', a21, a22, a23, a24, a25, a26)) : wpX_release post (fj, ff, fr, fs, fo, fw, a1, a2, a3, a4, a5, a6, a7, a8, a9, a10, a11, a12, a13, a14, a15, a16, a17, a18, a19, a20, a21, a22, a23, a24, a25, a26) (nI r) p1 := by
  subst h1
  unfold wpX_release
  dsimp only
  refine nm_e ⟨rn_v (a8 r) - k + 1, ri_rel16 hr g rfl (rn_v (a8 r) - k) k H a19 a20 (by omega) L hH (fun a19' a20' L' => K _ _ _ (fun i => rb_clr (by omega) fs i) L')⟩
/-- lockedSections: the bits of the locked sections -/
theorem ri_locked {post : Int32 → Prop} {fj ff fr fs fo fw : Int32} {a1 a2 a3 a4 a5 a6 a7 a8 a9 a10 a11 a12 a13 a14 a15 a16 a17 a18 a19 a20 a21 a22 a23 a24 a25 a26 : Nat → Int32} (hL : ∀ s, s < 10 → a19 s = -1 ∨ ∃ r, r < 16 ∧ a19 s = nI r) (K : ∀ x : Int32, (∀ s, rb_t x s = true ↔ s < 10 ∧ a19 s ≠ -1) → post x) : wpX_lockedSections post (fj, ff, fr, fs, fo, fw, a1, a2, a3, a4, a5, a6, a7, a8, a9, a10, a11, a12, a13, a14, a15, a16, a17, a18, a19, a20, a21, a22, a23, a24, a25, a26) := by
  unfold wpX_lockedSections
  dsimp only
  refine Exists.elim (pk_loop (σ := Int32) (fun n i s => wX_lockedSections_4 post fj ff fr fs fo fw a1 a2 a3 a4 a5 a6 a7 a8 a9 a10 a11 a12 a13 a14 a15 a16 a17 a18 a19 a20 a21 a22 a23 a24 a25 a26 n s (nI i)) (fun i x => ∀ s, rb_t x s = true ↔ s < i ∧ a19 s ≠ -1) 10 0 0 (by omega) ?_ ?_ ?_) (fun n hn => ⟨n, hn⟩)
  · intro s
    rw [rb_0]
    exact ⟨fun z => absurd z (by decide), fun z => absurd z.1 (by omega)⟩
  · intro n x hx
    exact pk_le 10 10 (fun _ => K x hx) (fun z => absurd z (by omega))
  · intro n i x hi hx hw
    refine pk_le 10 i (fun z => absurd z (by omega)) (fun _ => ⟨pk_in i 10 hi, ?_⟩)
    rw [nI_clamp (show i < 2 ^ 31 by omega)]
    rcases hL i hi with e | ⟨r, hr, e⟩
    · refine br_t (by rw [e]; decide) (nm_r (nI_1 i) (hw x (fun s => ?_)))
      rw [hx s]
      constructor
      · exact fun t => ⟨by omega, t.2⟩
      · intro t
        refine ⟨?_, t.2⟩
        have : s ≠ i := fun z => t.2 (by rw [z, e])
        have := t.1
        omega
    · refine br_f (by rw [e]; exact nI_pos (by omega)) (nm_e (nm_r (nI_1 i) (hw _ (fun s => ?_))))
      rw [rb_set (by omega), Bool.or_eq_true, hx s, decide_eq_true_eq]
      constructor
      · rintro (t | t)
        · exact ⟨by omega, t.2⟩
        · rw [t, e]
          exact ⟨by omega, rn_neg (by omega)⟩
      · intro t
        by_cases z : s = i
        · exact Or.inr z
        · exact Or.inl ⟨by omega, t.2⟩
end
section
/-! whyNot, isRoute, blocked, set, cancel, conflict -/
/-- nothing stands against setting route r -/
def ri_OK (fs fo : Int32) (a6 a11 a12 a13 a19 a20 : Nat → Int32) (r : Nat) : Prop :=
  rb_t fs r = false ∧ (∀ s, rb_t (a11 r) s = true → rb_t fo s = false ∧ (s < 10 → a19 s = -1)) ∧
  ∀ a, a < 20 → rb_t (a12 r) a = true → a6 a ≠ rb_b (rb_t (a13 r) a) → rb_t fo (a / 2) = false ∧ a20 a = nI 0
theorem ri_whyNot {post : Int32 → Prop} {fj ff fr fs fo fw : Int32} {a1 a2 a3 a4 a5 a6 a7 a8 a9 a10 a11 a12 a13 a14 a15 a16 a17 a18 a19 a20 a21 a22 a23 a24 a25 a26 : Nat → Int32} {r : Nat} (hr : r < 16) (hL : ∀ s, s < 10 → a19 s = -1 ∨ ∃ r, r < 16 ∧ a19 s = nI r) (hP : ∀ a, a < 20 → ∃ p, a6 a = rb_b p) (hN : ∀ a, a < 20 → ∃ c, c ≤ 80 ∧ a20 a = nI c)
    (h1 : rb_t fs r = true → post 1) (h0 : ri_OK fs fo a6 a11 a12 a13 a19 a20 r → post 0)
    (hx : rb_t fs r = false → ¬ ri_OK fs fo a6 a11 a12 a13 a19 a20 r → ∀ c : Int32, c = 2 ∨ c = 3 ∨ c = 4 → post c) : wpX_whyNot post (fj, ff, fr, fs, fo, fw, a1, a2, a3, a4, a5, a6, a7, a8, a9, a10, a11, a12, a13, a14, a15, a16, a17, a18, a19, a20, a21, a22, a23, a24, a25, a26) (nI r) := by
  unfold wpX_whyNot
  dsimp only
  refine ri_isSet (by omega) (fun z => br_f (by decide) (h1 z)) (fun z => br_t rfl ⟨pk_in r 16 hr, ?_⟩)
  rw [nI_clamp (show r < 2 ^ 31 by omega)]
  refine br_c (fun z2 => ⟨pk_in r 16 hr, ri_locked hL (fun x hx' => br_c (fun z3 => ?_) (fun z3 => ?_))⟩) (fun z2 => ?_)
  · have A : ∀ s, rb_t (a11 r) s = true → rb_t fo s = false ∧ (s < 10 → a19 s = -1) := by
      intro s hs
      refine ⟨?_, fun h10 => ?_⟩
      · cases e : rb_t fo s
        · rfl
        · exact (rb_and0.mp z2 s hs e).elim
      · by_cases e : a19 s = -1
        · exact e
        · exact (rb_and0.mp z3 s hs ((hx' s).mpr ⟨h10, e⟩)).elim
    refine Exists.elim (pk_loop (σ := Unit) (fun n i _ => wX_whyNot_44 post (nI r) fj ff fr fs fo fw a1 a2 a3 a4 a5 a6 a7 a8 a9 a10 a11 a12 a13 a14 a15 a16 a17 a18 a19 a20 a21 a22 a23 a24 a25 a26 n (nI i)) (fun i _ => ∀ a, a < i → rb_t (a12 r) a = true → a6 a ≠ rb_b (rb_t (a13 r) a) → rb_t fo (a / 2) = false ∧ a20 a = nI 0) 20 0 () (by omega) (fun a ha => absurd ha (by omega)) ?_ ?_) (fun n hn => ⟨n, hn⟩)
    · intro n _ h
      exact pk_le 20 20 (fun _ => h0 ⟨z, A, h⟩) (fun t => absurd t (by omega))
    · intro n i _ hi h hw
      obtain ⟨p, hp⟩ := hP i hi
      obtain ⟨c, hc, ec⟩ := hN i hi
      refine pk_le 20 i (fun t => absurd t (by omega)) (fun _ => ri_mustTurn hr hi hp (fun t1 t2 => br_f (by decide) (ri_isFast hi ec hc (fun t3 => br_f (by decide) (hx z (fun ok => t3 ?_) 4 (Or.inr (Or.inr rfl)))) (fun t3 t4 => br_t rfl (nm_r (nI_1 i) (hw () (fun a ha g1 g2 => ?_)))))) (fun t => br_t rfl (nm_r (nI_1 i) (hw () (fun a ha g1 g2 => ?_)))))
      · have := ok.2.2 i hi t1 (by rw [hp]; exact fun e => t2 (rb_bb.mp e).symm)
        rw [ec] at this
        exact ⟨this.1, rn_inj this.2 (by omega) (by omega)⟩
      · by_cases e : a = i
        · subst e
          rw [ec, t4]
          exact ⟨t3, rfl⟩
        · exact h a (by omega) g1 g2
      · by_cases e : a = i
        · subst e
          exact (t ⟨g1, fun e => g2 (by rw [hp, e])⟩).elim
        · exact h a (by omega) g1 g2
  · refine hx z (fun ok => z3 (rb_and0.mpr (fun s h1 h2 => ?_))) 3 (Or.inr (Or.inl rfl))
    have := (hx' s).mp h2
    exact this.2 ((ok.2.1 s h1).2 this.1)
  · refine hx z (fun ok => z2 (rb_and0.mpr (fun s h1 h2 => ?_))) 2 (Or.inl rfl)
    rw [(ok.2.1 s h1).1] at h2
    exact absurd h2 (by decide)
theorem ri_find1 {post : St1 → Prop} {fj ff fr fs fo fw : Int32} {a1 a2 a3 a4 a5 a6 a7 a8 a9 a10 a11 a12 a13 a14 a15 a16 a17 a18 a19 a20 a21 a22 a23 a24 a25 a26 : Nat → Int32} (hf : ff = 1) (K : post (fj, ff, fr, fs, fo, fw, a1, a2, a3, a4, a5, a6, a7, a8, a9, a10, a11, a12, a13, a14, a15, a16, a17, a18, a19, a20, a21, a22, a23, a24, a25, a26)) : wpX_findRoutes post (fj, ff, fr, fs, fo, fw, a1, a2, a3, a4, a5, a6, a7, a8, a9, a10, a11, a12, a13, a14, a15, a16, a17, a18, a19, a20, a21, a22, a23, a24, a25, a26) := by
  unfold wpX_findRoutes
  dsimp only
  exact br_f (by rw [hf]; decide) K
theorem ri_isRoute {post : Int32 → St1 → Prop} {fj ff fr fs fo fw : Int32} {a1 a2 a3 a4 a5 a6 a7 a8 a9 a10 a11 a12 a13 a14 a15 a16 a17 a18 a19 a20 a21 a22 a23 a24 a25 a26 : Nat → Int32} {r n : Nat} (hf : ff = 1) (hn : fr = nI n) (hn16 : n ≤ 16) (hr : r < 2 ^ 31) (h1 : r < n → post 1 (fj, ff, fr, fs, fo, fw, a1, a2, a3, a4, a5, a6, a7, a8, a9, a10, a11, a12, a13, a14, a15, a16, a17, a18, a19, a20, a21, a22, a23, a24, a25, a26)) (h0 : n ≤ r → post 0 (fj, ff, fr, fs, fo, fw, a1, a2, a3, a4, a5, a6, a7, a8, a9, a10, a11, a12, a13, a14, a15, a16, a17, a18, a19, a20, a21, a22, a23, a24, a25, a26)) : wpX_isRoute post (fj, ff, fr, fs, fo, fw, a1, a2, a3, a4, a5, a6, a7, a8, a9, a10, a11, a12, a13, a14, a15, a16, a17, a18, a19, a20, a21, a22, a23, a24, a25, a26) (nI r) := by
  unfold wpX_isRoute
  dsimp only
  refine ri_find1 hf ?_
  exact br_f (nI_pos hr) (pk_le n r (fun z => h0 z) (fun z => h1 z) hn)
theorem ri_blocked {post : Int32 → St1 → Prop} {fj ff fr fs fo fw : Int32} {a1 a2 a3 a4 a5 a6 a7 a8 a9 a10 a11 a12 a13 a14 a15 a16 a17 a18 a19 a20 a21 a22 a23 a24 a25 a26 : Nat → Int32} {r n : Nat} (hf : ff = 1) (hn : fr = nI n) (hn16 : n ≤ 16) (hr : r < 2 ^ 31) (hL : ∀ s, s < 10 → a19 s = -1 ∨ ∃ r, r < 16 ∧ a19 s = nI r) (hP : ∀ a, a < 20 → ∃ p, a6 a = rb_b p) (hN : ∀ a, a < 20 → ∃ c, c ≤ 80 ∧ a20 a = nI c)
    (h1 : r < n → rb_t fs r = true → post 1 (fj, ff, fr, fs, fo, fw, a1, a2, a3, a4, a5, a6, a7, a8, a9, a10, a11, a12, a13, a14, a15, a16, a17, a18, a19, a20, a21, a22, a23, a24, a25, a26)) (h0 : (r < n → rb_t fs r = false) → ∀ c : Int32, c ≠ 1 → post c (fj, ff, fr, fs, fo, fw, a1, a2, a3, a4, a5, a6, a7, a8, a9, a10, a11, a12, a13, a14, a15, a16, a17, a18, a19, a20, a21, a22, a23, a24, a25, a26)) : wpX_blocked post (fj, ff, fr, fs, fo, fw, a1, a2, a3, a4, a5, a6, a7, a8, a9, a10, a11, a12, a13, a14, a15, a16, a17, a18, a19, a20, a21, a22, a23, a24, a25, a26) (nI r) := by
  unfold wpX_blocked
  dsimp only
  refine ri_isRoute hf hn hn16 hr (fun z => br_f (by decide) (ri_whyNot (by omega) hL hP hN (h1 z) (fun ok => h0 (fun _ => ok.1) 0 (by decide)) (fun e _ c hc => h0 (fun _ => e) c ?_))) (fun z => br_t rfl (h0 (fun t => absurd t (by omega)) (-1) (by decide)))
  rcases hc with e | e | e <;> rw [e] <;> decide
/-- the shapes that whyNot wants, out of the held places -/
theorem ri_LN_sh {en : Nat → Nat} {T : Nat → Nat → Bool} {H : Nat → Bool} {a19 a20 : Nat → Int32} (h : ri_LN en T H a19 a20) :
    (∀ s, s < 10 → a19 s = -1 ∨ ∃ r, r < 16 ∧ a19 s = nI r) ∧ (∀ a, a < 20 → ∃ c, c ≤ 80 ∧ a20 a = nI c) := by
  constructor
  · intro s hs
    rcases ri_LN_lock h hs with z | ⟨i, hi, _, _, e⟩
    · exact Or.inl z
    · exact Or.inr ⟨i / 5, by omega, e⟩
  · intro a ha
    obtain ⟨c, hc, e, _⟩ := ri_LN_need h ha
    exact ⟨c, hc, e⟩
theorem ri_set80 {post : Int32 → St1 → Prop} {fj ff fr fs fo fw : Int32} {a1 a2 a3 a4 a5 a6 a7 a8 a9 a10 a11 a12 a13 a14 a15 a16 a17 a18 a21 a22 a23 a24 a25 a26 : Nat → Int32} {r l : Nat} (hr : r < 16) (g : ri_G a1 a2 a3 a7 a8 a9 a10 a11 a12 r) (hl : rn_v (a8 r) = l) : ∀ (m k : Nat) (H : Nat → Bool) (a19 a20 : Nat → Int32), k + m = l →
    ri_LN (fun i => rn_v (a10 i)) (ri_T a1 a2 a3 a9) H a19 a20 → (∀ k', k ≤ k' → k' < l → H (5 * r + k') = false) → (∀ k', k ≤ k' → k' < l → a19 (rn_v (a10 (5 * r + k')) / 2) = -1) →
    (∀ a19' a20' : Nat → Int32, ri_LN (fun i => rn_v (a10 i)) (ri_T a1 a2 a3 a9) (fun i => H i || decide (i / 5 = r ∧ k ≤ i % 5 ∧ i % 5 < l)) a19' a20' → post 1 (fj, ff, fr, fs, fo, fw, a1, a2, a3, a4, a5, a6, a7, a8, a9, a10, a11, a12, a13, a14, a15, a16, a17, a18, a19', a20', a21, a22, a23, a24, a25, a26)) →
    wX_set_80 post (nI r) (m + 1) (nI k) fj ff fr fs fo fw a1 a2 a3 a4 a5 a6 a7 a8 a9 a10 a11 a12 a13 a14 a15 a16 a17 a18 a19 a20 a21 a22 a23 a24 a25 a26 := by
  have h6 : rn_v (a8 r) < 6 := g.2.1.2
  have e8 : a8 r = nI l := by rw [← hl]; exact g.2.1.1
  intro m
  induction m with
  | zero =>
    intro k H a19 a20 hm L hH hF K
    unfold wX_set_80
    rw [nI_clamp (show r < 2 ^ 31 by omega)]
    refine ⟨pk_in r 16 hr, pk_le l k (fun _ => ?_) (fun z => absurd z (by omega)) e8⟩
    exact K _ _ (ri_LN_c L (fun i hi => by
      have : ¬ (i / 5 = r ∧ k ≤ i % 5 ∧ i % 5 < l) := by omega
      simp [this]))
  | succ m ih =>
    intro k H a19 a20 hm L hH hF K
    have hk : k < rn_v (a8 r) := by omega
    have e5 : (5 * nI r + nI k : Int32) = nI (5 * r + k) := ri_5
    obtain ⟨l1, l2, _⟩ := g.2.2.2.1 k hk
    have e10 : a10 (5 * r + k) / 2 = nI (rn_v (a10 (5 * r + k)) / 2) := by
      have h20 := l1.2
      have e := l1.1
      generalize rn_v (a10 (5 * r + k)) = z at e h20 ⊢
      rw [e]
      exact rn_d2 (by omega)
    have h20 := l1.2
    unfold wX_set_80
    rw [nI_clamp (show r < 2 ^ 31 by omega)]
    refine ⟨pk_in r 16 hr, pk_le l k (fun z => absurd z (by omega)) (fun _ => ?_) e8⟩
    rw [e5, nI_clamp (show 5 * r + k < 2 ^ 31 by omega), e10, nI_clamp (show rn_v (a10 (5 * r + k)) / 2 < 2 ^ 31 by omega), rn_i8 r (by omega)]
    refine ⟨pk_in (5 * r + k) 80 (by omega), by decide, pk_in _ 10 (by omega) rfl, nm_e ⟨pk_in (5 * r + k) 80 (by omega), ri_cnT g hk rfl (fun b hb => nm_r (nI_1 k) ?_)⟩⟩
    have L' := ri_LN_add L (i := 5 * r + k) (by omega) (hH k (by omega) (by omega)) (hF k (by omega) (by omega)) (by omega) hb
    rw [show (5 * r + k) / 5 = r by omega] at L'
    refine ih (k + 1) _ _ b (by omega) L' (fun k' h1 h2 => ?_) (fun k' h1 h2 => ?_) (fun a19'' a20'' L'' => K _ _ (ri_LN_c L'' (fun i hi => ?_)))
    · have : ¬ 5 * r + k' = 5 * r + k := by omega
      rw [hH k' (by omega) h2, decide_eq_false this]
      rfl
    · have : rn_v (a10 (5 * r + k')) / 2 ≠ rn_v (a10 (5 * r + k)) / 2 := fun e => by
        have := g.2.2.2.2.1 k' k (by omega) hk e
        omega
      rw [pk_un this]
      exact hF k' (by omega) h2
    · exact (rb_c2 (by omega)).symm
theorem ri_set {post : Int32 → St1 → Prop} {fj ff fr fs fo fw : Int32} {a1 a2 a3 a4 a5 a6 a7 a8 a9 a10 a11 a12 a13 a14 a15 a16 a17 a18 a19 a20 a21 a22 a23 a24 a25 a26 : Nat → Int32} {r n : Nat} {H : Nat → Bool} {ps : Nat → Bool} (hf : ff = 1) (hn : fr = nI n) (hn16 : n ≤ 16) (hr : r < 2 ^ 31) (G : ∀ r, r < n → ri_G a1 a2 a3 a7 a8 a9 a10 a11 a12 r)
    (L : ri_LN (fun i => rn_v (a10 i)) (ri_T a1 a2 a3 a9) H a19 a20) (hH : r < n → rb_t fs r = false → ∀ k, k < 5 → H (5 * r + k) = false) (hP : ∀ a, a < 20 → a6 a = rb_b (ps a))
    (h0 : (r < n → ¬ ri_OK fs fo a6 a11 a12 a13 a19 a20 r) → post 0 (fj, ff, fr, fs, fo, fw, a1, a2, a3, a4, a5, a6, a7, a8, a9, a10, a11, a12, a13, a14, a15, a16, a17, a18, a19, a20, a21, a22, a23, a24, a25, a26))
    (K : r < n → ri_OK fs fo a6 a11 a12 a13 a19 a20 r → ∀ (fs' : Int32) (a6' a19' a20' : Nat → Int32), (∀ i, rb_t fs' i = (rb_t fs i || decide (i = r))) → (∀ a, a < 20 → a6' a = rb_b (if rb_t (a12 r) a = true then rb_t (a13 r) a else ps a)) →
      ri_LN (fun i => rn_v (a10 i)) (ri_T a1 a2 a3 a9) (fun i => H i || decide (i / 5 = r ∧ i % 5 < rn_v (a8 r))) a19' a20' → post 1 (fj, ff, fr, fs', fo, fw, a1, a2, a3, a4, a5, a6', a7, a8, a9, a10, a11, a12, a13, a14, a15, a16, upd a17 r 0, upd a18 r (-1), a19', a20', a21, a22, a23, a24, a25, a26)) : wpX_set post (fj, ff, fr, fs, fo, fw, a1, a2, a3, a4, a5, a6, a7, a8, a9, a10, a11, a12, a13, a14, a15, a16, a17, a18, a19, a20, a21, a22, a23, a24, a25, a26) (nI r) := by
  unfold wpX_set
  dsimp only
  refine ri_isRoute hf hn hn16 hr (fun z => br_f (by decide) ?_) (fun z => br_t rfl (h0 (fun t => absurd t (by omega))))
  refine ri_whyNot (by omega) (ri_LN_sh L).1 (fun a ha => ⟨_, hP a ha⟩) (ri_LN_sh L).2 (fun e => br_f (by decide) (h0 (fun _ ok => by rw [ok.1] at e; exact absurd e (by decide)))) (fun ok => br_t rfl (nm_e ⟨pk_in r 16 (by omega), nm_e ⟨pk_in r 16 (by omega), nm_e ?_⟩⟩)) (fun _ nok c hc => br_f (by rcases hc with e | e | e <;> rw [e] <;> decide) (h0 (fun _ => nok)))
  rw [nI_clamp (show r < 2 ^ 31 by omega)]
  have g := G r z
  have h6 : rn_v (a8 r) < 6 := g.2.1.2
  refine Exists.elim (pk_loop (σ := Nat → Int32) (fun m i b => wX_set_46 post (nI r) fj ff fr (fs ||| ((1 : Int32) <<< (nI r &&& 31))) fo fw m (nI i) a1 a2 a3 a4 a5 b a7 a8 a9 a10 a11 a12 a13 a14 a15 a16 (upd a17 r 0) (upd a18 r (-1)) a19 a20 a21 a22 a23 a24 a25 a26) (fun i b => ∀ a, a < 20 → b a = rb_b (if a < i ∧ rb_t (a12 r) a = true then rb_t (a13 r) a else ps a)) 20 0 a6 (by omega) (fun a ha => ?_) ?_ ?_) (fun m hm => ⟨m, hm⟩)
  · rw [if_neg (fun t => absurd t.1 (by omega))]
    exact hP a ha
  · intro m b hb
    refine pk_le 20 20 (fun _ => ⟨rn_v (a8 r) + 1, ?_⟩) (fun t => absurd t (by omega))
    refine ri_set80 (by omega) g rfl (rn_v (a8 r)) 0 H a19 a20 (by omega) L (fun k _ hk => hH z ok.1 k (by omega)) (fun k _ hk => ?_) (fun a19' a20' L' => K z ok _ b a19' a20' (fun i => rb_set (by omega) fs i) (fun a ha => ?_) (ri_LN_c L' (fun i hi => ?_)))
    · have hs : rb_t (a11 r) (rn_v (a10 (5 * r + k)) / 2) = true := (g.2.2.2.2.2.1 _).mpr ⟨k, hk, rfl⟩
      have := (g.2.2.2.1 k hk).1.2
      exact (ok.2.1 _ hs).2 (by omega)
    · rw [hb a ha]
      simp only [ha, true_and]
    · have : (i / 5 = r ∧ i % 5 < rn_v (a8 r)) ↔ (i / 5 = r ∧ 0 ≤ i % 5 ∧ i % 5 < rn_v (a8 r)) := by omega
      simp only [this]
  · intro m i b hi hb hw
    refine pk_le 20 i (fun t => absurd t (by omega)) (fun _ => ri_mustTurn (by omega) hi (hb i hi) (fun t1 t2 => br_f (by decide) ⟨pk_in i 20 hi, pk_in i 20 hi, nm_e (nm_r (nI_1 i) ?_)⟩) (fun t => br_t rfl (nm_r (nI_1 i) (hw b (fun a ha => ?_)))))
    · rw [nI_clamp (show i < 2 ^ 31 by omega), hb i hi, rb_bx]
      refine hw _ (fun a ha => ?_)
      rw [if_neg (fun t => absurd t.1 (by omega))] at t2 ⊢
      by_cases e : a = i
      · subst e
        rw [pk_us, if_pos ⟨by omega, t1⟩]
        cases e1 : rb_t (a13 r) a <;> cases e2 : ps a <;> simp_all
      · rw [pk_un e, hb a ha]
        have : (a < i ∧ rb_t (a12 r) a = true) ↔ (a < i + 1 ∧ rb_t (a12 r) a = true) := ⟨fun t => ⟨by omega, t.2⟩, fun t => ⟨by omega, t.2⟩⟩
        simp only [this]
    · rw [hb a ha]
      by_cases e : a = i
      · subst e
        rw [if_neg (fun t => absurd t.1 (by omega))] at t ⊢
        by_cases t1 : rb_t (a12 r) a = true
        · rw [if_pos ⟨by omega, t1⟩]
          cases e1 : rb_t (a13 r) a <;> cases e2 : ps a <;> simp_all
        · rw [if_neg (fun u => t1 u.2)]
      · have : (a < i ∧ rb_t (a12 r) a = true) ↔ (a < i + 1 ∧ rb_t (a12 r) a = true) := ⟨fun t => ⟨by omega, t.2⟩, fun t => ⟨by omega, t.2⟩⟩
        simp only [this]
/-- cancel: nothing, a wait, or a release -/
theorem ri_cancel {post : Int32 → St1 → Prop} {fj ff fr fs fo fw : Int32} {a1 a2 a3 a4 a5 a6 a7 a8 a9 a10 a11 a12 a13 a14 a15 a16 a17 a18 a19 a20 a21 a22 a23 a24 a25 a26 : Nat → Int32} {r n w : Nat} {tr : Option Nat} {hd ro : Nat → Option Nat} {H : Nat → Bool} (hf : ff = 1) (hn : fr = nI n) (hn16 : n ≤ 16) (hr : r < 2 ^ 31) (G : ∀ r, r < n → ri_G a1 a2 a3 a7 a8 a9 a10 a11 a12 r)
    (L : ri_LN (fun i => rn_v (a10 i)) (ri_T a1 a2 a3 a9) H a19 a20) (hw : r < n → a17 r = nI w ∧ w ≤ 3) (ht : r < n → a18 r = rn_o tr ∧ ∀ t, tr = some t → t < 3)
    (hro : ∀ t, t < 3 → a22 t = rn_o (ro t) ∧ ∀ r, ro t = some r → r < 16)
    (hH : r < n → rb_t fs r = true → tr = none → ∀ k, k < rn_v (a8 r) → H (5 * r + k) = true)
    (h0 : post 0 (fj, ff, fr, fs, fo, fw, a1, a2, a3, a4, a5, a6, a7, a8, a9, a10, a11, a12, a13, a14, a15, a16, a17, a18, a19, a20, a21, a22, a23, a24, a25, a26))
    (hW : r < n → rb_t fs r = true → tr = none → w = 0 → post 1 (fj, ff, fr, fs, fo, fw, a1, a2, a3, a4, a5, a6, a7, a8, a9, a10, a11, a12, a13, a14, a15, a16, upd a17 r 3, a18, a19, a20, a21, a22, a23, a24, a25, a26))
    (hR : r < n → rb_t fs r = true → tr = none → w = 0 → ∀ (fs' : Int32) (a19' a20' : Nat → Int32), (∀ i, rb_t fs' i = (rb_t fs i && !decide (i = r))) → ri_LN (fun i => rn_v (a10 i)) (ri_T a1 a2 a3 a9) (fun i => H i && !decide (i / 5 = r ∧ 0 ≤ i % 5 ∧ i % 5 < rn_v (a8 r))) a19' a20' → post 1 (fj, ff, fr, fs', fo, fw, a1, a2, a3, a4, a5, a6, a7, a8, a9, a10, a11, a12, a13, a14, a15, a16, a17, a18, a19', a20', a21, a22, a23, a24, a25, a26)) : wpX_cancel post (fj, ff, fr, fs, fo, fw, a1, a2, a3, a4, a5, a6, a7, a8, a9, a10, a11, a12, a13, a14, a15, a16, a17, a18, a19, a20, a21, a22, a23, a24, a25, a26) (nI r) := by
  unfold wpX_cancel
  dsimp only
  refine ri_isRoute hf hn hn16 hr (fun z => br_f (by decide) (ri_isSet (by omega) (fun zs => br_f (by decide) ⟨pk_in r 16 (by omega), ?_⟩) (fun _ => br_t rfl h0))) (fun z => br_t rfl h0)
  dsimp only
  rw [nI_clamp (show r < 2 ^ 31 by omega), (hw z).1, (ht z).1]
  have hb : ∀ t, tr = some t → t < 2 ^ 31 := fun t e => by have := (ht z).2 t e; omega
  have hw3 := (hw z).2
  refine br_c (fun _ => h0) (fun zt => ⟨pk_in r 16 (by omega), pk_le w 0 (fun zw => ?_) (fun _ => h0)⟩)
  have htn : tr = none := by
    cases e : tr with
    | none => rfl
    | some t => exact absurd ((rn_opos hb).mpr (by rw [e]; simp)) zt
  have hw0 : w = 0 := by omega
  refine Exists.elim (pk_loop (σ := Int32) (fun m i x => wX_cancel_40 post (nI r) fj ff fr fs fo fw a1 a2 a3 a4 a5 a6 a7 a8 a9 a10 a11 a12 a13 a14 a15 a16 a17 a18 a19 a20 a21 a22 a23 a24 a25 a26 m x (nI i)) (fun _ x => x = 0 ∨ x = 1) 3 0 0 (by omega) (Or.inl rfl) ?_ ?_) (fun m hm => ⟨m, hm⟩)
  · intro m x hx
    refine pk_le 3 3 (fun _ => ?_) (fun t => absurd t (by omega))
    rcases hx with e | e
    · exact br_t e (ri_release (by omega) (G r z) (k := 0) rfl (by omega) L (fun k _ hk => hH z zs htn k hk) (fun fs' a19' a20' hfs L' => hR z zs htn hw0 fs' a19' a20' hfs L'))
    · refine br_f (by rw [e]; decide) ⟨pk_in r 16 (by omega), nm_e ?_⟩
      rw [nI_clamp (show r < 2 ^ 31 by omega)]
      exact hW z zs htn hw0
  · intro m i x hi hx hwk
    refine pk_le 3 i (fun t => absurd t (by omega)) (fun _ => ⟨pk_in i 3 hi, pk_in r 16 (by omega), br_c (fun _ => ⟨pk_in i 3 hi, br_c (fun _ => nm_r (nI_1 i) (hwk x hx)) (fun _ => nm_r (nI_1 i) (hwk 1 (Or.inr rfl)))⟩) (fun _ => nm_r (nI_1 i) (hwk x hx))⟩)
theorem ri_conflict {post : Int32 → St1 → Prop} {fj ff fr fs fo fw : Int32} {a1 a2 a3 a4 a5 a6 a7 a8 a9 a10 a11 a12 a13 a14 a15 a16 a17 a18 a19 a20 a21 a22 a23 a24 a25 a26 : Nat → Int32} {r q n : Nat} (hf : ff = 1) (hn : fr = nI n) (hn16 : n ≤ 16) (hr : r < n) (hq : q < n) (h1 : rb_t (a14 r) q = true → post 1 (fj, ff, fr, fs, fo, fw, a1, a2, a3, a4, a5, a6, a7, a8, a9, a10, a11, a12, a13, a14, a15, a16, a17, a18, a19, a20, a21, a22, a23, a24, a25, a26)) (h0 : rb_t (a14 r) q = false → post 0 (fj, ff, fr, fs, fo, fw, a1, a2, a3, a4, a5, a6, a7, a8, a9, a10, a11, a12, a13, a14, a15, a16, a17, a18, a19, a20, a21, a22, a23, a24, a25, a26)) : wpX_conflict post (fj, ff, fr, fs, fo, fw, a1, a2, a3, a4, a5, a6, a7, a8, a9, a10, a11, a12, a13, a14, a15, a16, a17, a18, a19, a20, a21, a22, a23, a24, a25, a26) (nI r) (nI q) := by
  unfold wpX_conflict
  dsimp only
  refine ri_isRoute hf hn hn16 (by omega) (fun _ => br_f (by decide) (ri_isRoute hf hn hn16 (by omega) (fun _ => br_f (by decide) ⟨pk_in r 16 (by omega), ?_⟩) (fun z => absurd z (by omega)))) (fun z => absurd z (by omega))
  rw [nI_clamp (show r < 2 ^ 31 by omega), rb_val (show q < 32 by omega)]
  exact br_c (fun z => h0 (rb_b0.mp z)) (fun z => h1 (by cases e : rb_t (a14 r) q; exact absurd (rb_b0.mpr e) z; rfl))
end
section
/-! largest: the stack of sets -/
def rl_o (x : Int32) : Nat := rs_sum (fun i => if rb_t x i = true then 1 else 0) 16
theorem rl_sub {f g : Nat → Nat} {n : Nat} (h : ∀ i, i < n → g i ≤ f i) : rs_sum g n ≤ rs_sum f n := by
  induction n with
  | zero => exact Nat.le_refl _
  | succ n ih =>
    show rs_sum g n + g n ≤ rs_sum f n + f n
    have := ih (fun i hi => h i (by omega))
    have := h n (by omega)
    omega
theorem rl_sub1 {f g : Nat → Nat} {n k : Nat} (h : ∀ i, i < n → g i ≤ f i) (hk : k < n) (h1 : g k + 1 ≤ f k) : rs_sum g n + 1 ≤ rs_sum f n := by
  induction n with
  | zero => omega
  | succ n ih =>
    show rs_sum g n + g n + 1 ≤ rs_sum f n + f n
    by_cases e : k = n
    · subst e
      have := rl_sub (f := f) (g := g) (n := k) (fun i hi => h i (by omega))
      omega
    · have := ih (fun i hi => h i (by omega)) (by omega)
      have := h n (by omega)
      omega
theorem rl_sub2 {f g : Nat → Nat} {n k q : Nat} (h : ∀ i, i < n → g i ≤ f i) (hk : k < n) (hq : q < n) (hkq : q ≠ k) (h1 : g k + 1 ≤ f k) (h2 : g q + 1 ≤ f q) : rs_sum g n + 2 ≤ rs_sum f n := by
  have s1 : rs_sum g n + 1 ≤ rs_sum (fun i => if i = k then f k else g i) n := by
    refine rl_sub1 (k := k) (fun i hi => ?_) hk ?_
    · split
      · rename_i e
        subst e
        exact h i hi
      · exact Nat.le_refl _
    · rw [if_pos rfl]
      exact h1
  have s2 : rs_sum (fun i => if i = k then f k else g i) n + 1 ≤ rs_sum f n := by
    refine rl_sub1 (k := q) (fun i hi => ?_) hq ?_
    · split
      · rename_i e
        subst e
        exact Nat.le_refl _
      · exact h i hi
    · rw [if_neg hkq]
      exact h2
  omega
theorem rl_v {x : Int32} (h : ∀ i, rb_t x i = true → i < 16) : ∃ v, v < 65536 ∧ x = nI v := by
  have e : x = nI x.toBitVec.toNat := by
    apply Int32.toBitVec_inj.1
    show x.toBitVec = BitVec.ofNat 32 x.toBitVec.toNat
    simp
  refine ⟨x.toBitVec.toNat, ?_, e⟩
  show x.toBitVec.toNat < 2 ^ 16
  apply Nat.lt_pow_two_of_testBit
  intro i hi
  cases z : x.toBitVec.toNat.testBit i
  · rfl
  · have := h i z
    omega
theorem rl_bit {x : Int32} (h : ¬ x = 0) : ∃ k, rb_t x k = true := by
  by_cases z : ∃ k, rb_t x k = true
  · exact z
  · refine absurd (rb_zero.mpr (fun i => ?_)) h
    cases e : rb_t x i
    · rfl
    · exact absurd ⟨i, e⟩ z
theorem rl_all : ∀ n, n ≤ 16 → ∀ i, i < 32 → rb_t (((1 : Int32) <<< (nI n &&& 31)) - 1) i = decide (i < n) := by decide +kernel
theorem rl_and (a b : Nat) : nI a &&& nI b = nI (a &&& b) := by
  apply Int32.toBitVec_inj.1
  show BitVec.ofNat 32 a &&& BitVec.ofNat 32 b = BitVec.ofNat 32 (a &&& b)
  apply BitVec.eq_of_getLsbD_eq
  intro i hi
  simp [hi]
theorem rl_ones4 {post : Int32 → Prop} {fj ff fr fs fo fw : Int32} {a1 a2 a3 a4 a5 a6 a7 a8 a9 a10 a11 a12 a13 a14 a15 a16 a17 a18 a19 a20 a21 a22 a23 a24 a25 a26 : Nat → Int32} (K : ∀ c, 1 ≤ c → c ≤ 65536 → post (nI c)) : ∀ (m v c : Nat), v ≤ m → c + v ≤ 65536 → 1 ≤ c + v → wX_onesIn_4 post fj ff fr fs fo fw a1 a2 a3 a4 a5 a6 a7 a8 a9 a10 a11 a12 a13 a14 a15 a16 a17 a18 a19 a20 a21 a22 a23 a24 a25 a26 (m + 1) (nI c) (nI v) := by
  intro m
  induction m with
  | zero =>
    intro v c hv hc h1
    have hv0 : v = 0 := by omega
    subst hv0
    exact pk_eq 0 0 (fun _ => K c (by omega) (by omega)) (fun z => absurd rfl z)
  | succ m ih =>
    intro v c hv hc h1
    refine pk_eq v 0 (fun z => K c (by omega) (by omega)) (fun z => ?_) rfl rfl (by omega) (by omega)
    have e1 : nI v - 1 = nI (v - 1) := by
      have := nI_pred (v - 1)
      rw [show v - 1 + 1 = v by omega] at this
      exact this
    have e2 : nI v &&& (nI v - 1) = nI (v &&& (v - 1)) := by rw [e1, rl_and]
    refine nm_r e2 (nm_r (nI_1 c) ?_)
    have : v &&& (v - 1) ≤ v - 1 := Nat.and_le_right
    exact ih _ _ (by omega) (by omega) (by omega)
theorem rl_ones {post : Int32 → Prop} {fj ff fr fs fo fw : Int32} {a1 a2 a3 a4 a5 a6 a7 a8 a9 a10 a11 a12 a13 a14 a15 a16 a17 a18 a19 a20 a21 a22 a23 a24 a25 a26 : Nat → Int32} {x : Int32} {v : Nat} (hx : x = nI v) (hv : v < 65536) (h1 : 1 ≤ v) (K : ∀ c, 1 ≤ c → c ≤ 65536 → post (nI c)) : wpX_onesIn post (fj, ff, fr, fs, fo, fw, a1, a2, a3, a4, a5, a6, a7, a8, a9, a10, a11, a12, a13, a14, a15, a16, a17, a18, a19, a20, a21, a22, a23, a24, a25, a26) x := by
  subst hx
  exact ⟨v + 1, rl_ones4 K v v 0 (by omega) (by omega) (by omega)⟩
theorem rl_low2 {post : Int32 → Prop} {fj ff fr fs fo fw : Int32} {a1 a2 a3 a4 a5 a6 a7 a8 a9 a10 a11 a12 a13 a14 a15 a16 a17 a18 a19 a20 a21 a22 a23 a24 a25 a26 : Nat → Int32} {x : Int32} {k : Nat} (hk : k < 16) (hb : rb_t x k = true) (K : ∀ i, i < 16 → rb_t x i = true → post (nI i)) : ∀ (m i : Nat), i + m = k → wX_lowestIn_2 post x fj ff fr fs fo fw a1 a2 a3 a4 a5 a6 a7 a8 a9 a10 a11 a12 a13 a14 a15 a16 a17 a18 a19 a20 a21 a22 a23 a24 a25 a26 (m + 1) (nI i) := by
  intro m
  induction m with
  | zero =>
    intro i hi
    have e : i = k := by omega
    subst e
    unfold wX_lowestIn_2
    rw [rb_val (by omega), hb]
    exact br_f (by decide) (K i hk hb)
  | succ m ih =>
    intro i hi
    unfold wX_lowestIn_2
    rw [rb_val (by omega)]
    exact br_c (fun z => nm_r (nI_1 i) (ih (i + 1) (by omega))) (fun z => K i (by omega) (by cases e : rb_t x i; exact absurd (rb_b0.mpr e) z; rfl))
theorem rl_low {post : Int32 → Prop} {fj ff fr fs fo fw : Int32} {a1 a2 a3 a4 a5 a6 a7 a8 a9 a10 a11 a12 a13 a14 a15 a16 a17 a18 a19 a20 a21 a22 a23 a24 a25 a26 : Nat → Int32} {x : Int32} {k : Nat} (hk : k < 16) (hb : rb_t x k = true) (K : ∀ i, i < 16 → rb_t x i = true → post (nI i)) : wpX_lowestIn post (fj, ff, fr, fs, fo, fw, a1, a2, a3, a4, a5, a6, a7, a8, a9, a10, a11, a12, a13, a14, a15, a16, a17, a18, a19, a20, a21, a22, a23, a24, a25, a26) x :=
  ⟨k + 1, rl_low2 hk hb K k 0 (by omega)⟩
theorem rl_look {post : St1 → Prop} {fj ff fr fs fo fw : Int32} {a1 a2 a3 a4 a5 a6 a7 a8 a9 a10 a11 a12 a13 a14 a15 a16 a17 a18 a19 a20 a21 a22 a23 a24 a25 a26 : Nat → Int32} {p0 p1 : Int32} {w : Nat} (hw : fw = nI w) (h : w < 20) (K : post (fj, ff, fr, fs, fo, nI (w + 1), a1, a2, a3, a4, a5, a6, a7, a8, a9, a10, a11, a12, a13, a14, a15, a16, a17, a18, a19, a20, a21, a22, a23, upd a24 w p0, upd a25 w p1.toInt8.toInt32, a26)) : wpX_look post (fj, ff, fr, fs, fo, fw, a1, a2, a3, a4, a5, a6, a7, a8, a9, a10, a11, a12, a13, a14, a15, a16, a17, a18, a19, a20, a21, a22, a23, a24, a25, a26) p0 p1 := by
  subst hw
  unfold wpX_look
  dsimp only
  rw [nI_clamp (show w < 2 ^ 31 by omega)]
  exact ⟨pk_in w 20 h, nm_e ⟨pk_in w 20 h, nm_e (nm_r (nI_1 w) K)⟩⟩
/-- what is known of the best and the stack of w sets -/
def rl_Q (n : Nat) (x : Int32) (w : Nat) (a24 a25 : Nat → Int32) : Prop :=
  (n = 0 → x = 0 ∧ ∀ i, i < w → a25 i = 0) ∧ (1 ≤ n → 1 ≤ x ∨ (∃ w', w = w' + 1 ∧ a25 w' = 1) ∨ (x = 0 ∧ w = 1 ∧ a25 0 = 0 ∧ a24 0 ≠ 0))
def rl_S (n w : Nat) (a24 : Nat → Int32) : Prop := w ≤ 17 ∧ ∀ i, i < w → (∀ j, rb_t (a24 i) j = true → j < n) ∧ rl_o (a24 i) + i ≤ 16
theorem rl_1 {x y : Int32} (h : 1 ≤ x) (h2 : ¬ y ≤ x) : 1 ≤ y := by
  rw [Int32.le_iff_toInt_le] at *
  omega
theorem rl_pow {c d : Nat} (h : d + 1 ≤ c) : 2 ^ d + 2 ^ d ≤ 2 ^ c := by
  have : 2 ^ (d + 1) ≤ 2 ^ c := Nat.pow_le_pow_right (by omega) h
  rw [Nat.pow_succ] at this
  omega
theorem rl_32 {post : Int32 → St1 → Prop} {fj ff fr fs fo : Int32} {a1 a2 a3 a4 a5 a6 a7 a8 a9 a10 a11 a12 a13 a14 a15 a16 a17 a18 a19 a20 a21 a22 a23 a26 : Nat → Int32} {n : Nat} (hn : n ≤ 16) (hC : ∀ r, r < n → rb_t (a14 r) r = true)
    (K : ∀ (x fw : Int32) (a24 a25 : Nat → Int32), (n = 0 → x = 0) → (1 ≤ n → 1 ≤ x) → post x (fj, ff, fr, fs, fo, fw, a1, a2, a3, a4, a5, a6, a7, a8, a9, a10, a11, a12, a13, a14, a15, a16, a17, a18, a19, a20, a21, a22, a23, a24, a25, a26)) :
    ∀ (m w : Nat) (x : Int32) (a24 a25 : Nat → Int32), rl_S n w a24 → rs_sum (fun i => 2 ^ rl_o (a24 i)) w ≤ m → rl_Q n x w a24 a25 → wX_largest_32 post (m + 1) x fj ff fr fs fo (nI w) a1 a2 a3 a4 a5 a6 a7 a8 a9 a10 a11 a12 a13 a14 a15 a16 a17 a18 a19 a20 a21 a22 a23 a24 a25 a26 := by
  have exit : ∀ (m : Nat) (x : Int32) (a24 a25 : Nat → Int32), rl_Q n x 0 a24 a25 → wX_largest_32 post (m + 1) x fj ff fr fs fo (nI 0) a1 a2 a3 a4 a5 a6 a7 a8 a9 a10 a11 a12 a13 a14 a15 a16 a17 a18 a19 a20 a21 a22 a23 a24 a25 a26 := by
    intro m x a24 a25 q
    refine pk_le 0 0 (fun _ => K x _ a24 a25 (fun z => (q.1 z).1) (fun z => ?_)) (fun z => absurd z (by omega))
    rcases q.2 z with t | ⟨w', t, _⟩ | ⟨_, t, _⟩
    · exact t
    · omega
    · omega
  intro m
  induction m with
  | zero =>
    intro w x a24 a25 hS hm q
    rcases Nat.eq_zero_or_pos w with e | e
    · subst e
      exact exit 0 x a24 a25 q
    · have := rs_ge (f := fun i => 2 ^ rl_o (a24 i)) (show 0 < w from e)
      have h1 : 1 ≤ 2 ^ rl_o (a24 0) := Nat.one_le_two_pow
      omega
  | succ m ih =>
    intro w x a24 a25 hS hm q
    rcases Nat.eq_zero_or_pos w with e | e
    · subst e
      exact exit (m + 1) x a24 a25 q
    obtain ⟨w, rfl⟩ : ∃ w', w = w' + 1 := ⟨w - 1, by omega⟩
    obtain ⟨hw, hS⟩ := hS
    have hM : rs_sum (fun i => 2 ^ rl_o (a24 i)) w + 2 ^ rl_o (a24 w) ≤ m + 1 := hm
    have h1 : 1 ≤ 2 ^ rl_o (a24 w) := Nat.one_le_two_pow
    obtain ⟨hb, ho⟩ := hS w (by omega)
    have hSw : rl_S n w a24 := ⟨by omega, fun i hi => hS i (by omega)⟩
    -- the rest of the step, at the best after its first change
    have step : ∀ x : Int32, (n = 0 → x = 0 ∧ ∀ i, i < w → a25 i = 0) → (1 ≤ n → 1 ≤ x ∨ (x = 0 ∧ w = 0 ∧ a25 w = 0 ∧ a24 w ≠ 0)) →
        wX_largest_76 post (wX_largest_32 post (m + 1)) x (a24 w) (a25 w) fj ff fr fs fo (nI w) a1 a2 a3 a4 a5 a6 a7 a8 a9 a10 a11 a12 a13 a14 a15 a16 a17 a18 a19 a20 a21 a22 a23 a24 a25 a26 := by
      intro x q1 q2
      unfold wX_largest_76
      refine br_c (fun z => ih w x a24 a25 hSw (by omega) ⟨q1, fun hn1 => ?_⟩) (fun z => ?_)
      · rcases q2 hn1 with t | t
        · exact Or.inl t
        · exact absurd z t.2.2.2
      obtain ⟨v, hv, ev⟩ := rl_v (x := a24 w) (fun i hi => by have := hb i hi; omega)
      obtain ⟨k, hk⟩ := rl_bit z
      have hkn := hb k hk
      have hv1 : 1 ≤ v := by
        rcases Nat.eq_zero_or_pos v with t | t
        · subst t
          exact absurd ev z
        · exact t
      refine rl_ones ev hv hv1 (fun c hc1 hc2 => br_c (fun zl => ?_) (fun zl => ih w x a24 a25 hSw (by omega) ⟨q1, fun hn1 => ?_⟩))
      rotate_left
      · rcases q2 hn1 with t | t
        · exact Or.inl t
        · refine absurd ?_ zl
          rw [t.1, t.2.2.1]
          have : (0 : Int32) + nI c = nI c := by
            show nI 0 + nI c = nI c
            rw [nI_add, Nat.zero_add]
          rw [this]
          exact nI_lt (a := 0) (by omega) (by omega)
      refine rl_low (show k < 16 by omega) hk (fun f hf hfb => nm_e ⟨pk_in f 16 hf, ?_⟩)
      rw [nI_clamp (show f < 2 ^ 31 by omega)]
      have hfn := hb f hfb
      have hn1 : 1 ≤ n := by omega
      -- the second set: without what is in conflict with f
      have B2 : ∀ i, rb_t (a24 w &&& (a14 f ^^^ (-1))) i = true → rb_t (a24 w) i = true ∧ rb_t (a14 f) i = false := by
        intro i hi
        rw [rb_and, rb_xor] at hi
        have h32 : i < 32 := by
          rcases Nat.lt_or_ge i 32 with t | t
          · exact t
          · rw [rb_big t, Bool.false_and] at hi
            exact absurd hi (by decide)
        rw [rb_m1 i h32] at hi
        cases e1 : rb_t (a24 w) i <;> cases e2 : rb_t (a14 f) i <;> simp_all
      have B1 : ∀ i, rb_t (a24 w &&& (((1 : Int32) <<< (nI f &&& 31)) ^^^ (-1))) i = true → rb_t (a24 w) i = true ∧ i ≠ f := by
        intro i hi
        rw [rb_clr (by omega)] at hi
        simpa using hi
      have top : ∀ (u : Nat) (b24 b25 : Nat → Int32), u ≤ 16 → rl_S n u b24 → rl_o (a24 w &&& (a14 f ^^^ (-1))) + u ≤ 16 → rs_sum (fun i => 2 ^ rl_o (b24 i)) u + 2 ^ rl_o (a24 w &&& (a14 f ^^^ (-1))) ≤ m →
          wX_largest_131 post (wX_largest_32 post (m + 1)) x (a24 w) (a25 w) (nI f) fj ff fr fs fo (nI u) a1 a2 a3 a4 a5 a6 a7 a8 a9 a10 a11 a12 a13 a14 a15 a16 a17 a18 a19 a20 a21 a22 a23 b24 b25 a26 := by
        intro u b24 b25 hu hSu hou hMu
        unfold wX_largest_131
        rw [nI_clamp (show f < 2 ^ 31 by omega)]
        refine ⟨pk_in f 16 hf, rl_look rfl (by omega) (ih (u + 1) x _ _ ⟨by omega, fun i hi => ?_⟩ ?_ ⟨fun z0 => absurd z0 (by omega), fun _ => ?_⟩)⟩
        · by_cases e : i = u
          · subst e
            rw [pk_us]
            exact ⟨fun j hj => hb j (B2 j hj).1, hou⟩
          · rw [pk_un e]
            exact hSu.2 i (by omega)
        · show rs_sum (fun i => 2 ^ rl_o (upd b24 u (a24 w &&& (a14 f ^^^ (-1))) i)) u + 2 ^ rl_o (upd b24 u (a24 w &&& (a14 f ^^^ (-1))) u) ≤ m
          rw [pk_us, rs_congr (g := fun i => 2 ^ rl_o (b24 i)) (fun i hi => by rw [pk_un (by omega)])]
          exact hMu
        · rcases q2 hn1 with t | t
          · exact Or.inl t
          · refine Or.inr (Or.inl ⟨u, rfl, ?_⟩)
            rw [pk_us, t.2.2.1]
            decide
      have o2 : rl_o (a24 w &&& (a14 f ^^^ (-1))) + 1 ≤ rl_o (a24 w) := by
        refine rl_sub1 (k := f) (fun i hi => ?_) hf ?_
        · by_cases t : rb_t (a24 w &&& (a14 f ^^^ (-1))) i = true
          · rw [if_pos t, if_pos (B2 i t).1]
            exact Nat.le_refl _
          · rw [if_neg t]
            exact Nat.zero_le _
        · rw [if_pos hfb, if_neg (fun t => by have := (B2 f t).2; rw [hC f hfn] at this; exact absurd this (by decide))]
          exact Nat.le_refl _
      refine br_c (fun z1 => top w a24 a25 (by omega) hSw (by omega) ?_) (fun z1 => ?_)
      · have := rl_pow o2
        have : 1 ≤ 2 ^ rl_o (a24 w &&& (a14 f ^^^ (-1))) := Nat.one_le_two_pow
        omega
      -- two sets are put on the stack
      have hq : ∃ q, rb_t (a24 w &&& (((1 : Int32) <<< (nI f &&& 31)) ^^^ (-1))) q = true ∧ rb_t (a14 f) q = true := by
        obtain ⟨q, hq⟩ := rl_bit z1
        rw [rb_and, Bool.and_eq_true] at hq
        exact ⟨q, hq⟩
      obtain ⟨g, hg1, hg2⟩ := hq
      obtain ⟨hg3, hg4⟩ := B1 g hg1
      have hgn := hb g hg3
      have o3 : rl_o (a24 w &&& (a14 f ^^^ (-1))) + 2 ≤ rl_o (a24 w) := by
        refine rl_sub2 (k := f) (q := g) (fun i hi => ?_) hf (by omega) hg4 ?_ ?_
        · by_cases t : rb_t (a24 w &&& (a14 f ^^^ (-1))) i = true
          · rw [if_pos t, if_pos (B2 i t).1]
            exact Nat.le_refl _
          · rw [if_neg t]
            exact Nat.zero_le _
        · rw [if_pos hfb, if_neg (fun t => by have := (B2 f t).2; rw [hC f hfn] at this; exact absurd this (by decide))]
          exact Nat.le_refl _
        · rw [if_pos hg3, if_neg (fun t => by have := (B2 g t).2; rw [hg2] at this; exact absurd this (by decide))]
          exact Nat.le_refl _
      have o1 : rl_o (a24 w &&& (((1 : Int32) <<< (nI f &&& 31)) ^^^ (-1))) + 1 ≤ rl_o (a24 w) := by
        refine rl_sub1 (k := f) (fun i hi => ?_) hf ?_
        · by_cases t : rb_t (a24 w &&& (((1 : Int32) <<< (nI f &&& 31)) ^^^ (-1))) i = true
          · rw [if_pos t, if_pos (B1 i t).1]
            exact Nat.le_refl _
          · rw [if_neg t]
            exact Nat.zero_le _
        · rw [if_pos hfb, if_neg (fun t => (B1 f t).2 rfl)]
          exact Nat.le_refl _
      refine rl_look rfl (by omega) (top (w + 1) _ _ (by omega) ⟨by omega, fun i hi => ?_⟩ (by omega) ?_)
      · by_cases e : i = w
        · subst e
          rw [pk_us]
          exact ⟨fun j hj => hb j (B1 j hj).1, by omega⟩
        · rw [pk_un e]
          exact hS i (by omega)
      · show rs_sum (fun i => 2 ^ rl_o (upd a24 w _ i)) w + 2 ^ rl_o (upd a24 w _ w) + _ ≤ m
        rw [pk_us, rs_congr (g := fun i => 2 ^ rl_o (a24 i)) (fun i hi => by rw [pk_un (by omega)])]
        have p1 := rl_pow o1
        have p2 : 2 ^ rl_o (a24 w &&& (a14 f ^^^ (-1))) + 2 ^ rl_o (a24 w &&& (a14 f ^^^ (-1))) ≤ 2 ^ (rl_o (a24 w) - 1) := rl_pow (by omega)
        have p3 : 2 ^ (rl_o (a24 w) - 1) + 2 ^ (rl_o (a24 w) - 1) ≤ 2 ^ rl_o (a24 w) := rl_pow (by omega)
        have p4 : 1 ≤ 2 ^ rl_o (a24 w &&& (a14 f ^^^ (-1))) := Nat.one_le_two_pow
        omega
    refine pk_le (w + 1) 0 (fun z => absurd z (by omega)) (fun _ => nm_r (nI_pred w) ⟨pk_in w 20 (by omega), nm_r (e' := a24 w) (by rw [nI_clamp (by omega)]) ⟨pk_in w 20 (by omega), nm_r (e' := a25 w) (by rw [nI_clamp (by omega)]) (br_c (fun z => ?_) (fun z => ?_))⟩⟩)
    · refine step x (fun z0 => ⟨(q.1 z0).1, fun i hi => (q.1 z0).2 i (by omega)⟩) (fun z1 => ?_)
      rcases q.2 z1 with t | ⟨w', t1, t2⟩ | ⟨t1, t2, t3, t4⟩
      · exact Or.inl t
      · have : w' = w := by omega
        subst this
        rw [t2] at z
        exact Or.inl z
      · have : w = 0 := by omega
        subst this
        exact Or.inr ⟨t1, rfl, t3, t4⟩
    · refine step (a25 w) (fun z0 => ⟨(q.1 z0).2 w (by omega), fun i hi => (q.1 z0).2 i (by omega)⟩) (fun z1 => Or.inl ?_)
      rcases q.2 z1 with t | ⟨w', t1, t2⟩ | ⟨t1, t2, t3, t4⟩
      · exact rl_1 t z
      · have : w' = w := by omega
        subst this
        rw [t2]
        decide
      · have : w = 0 := by omega
        subst this
        rw [t1, t3] at z
        exact absurd (by decide) z
theorem ri_largest {post : Int32 → St1 → Prop} {fj ff fr fs fo fw : Int32} {a1 a2 a3 a4 a5 a6 a7 a8 a9 a10 a11 a12 a13 a14 a15 a16 a17 a18 a19 a20 a21 a22 a23 a24 a25 a26 : Nat → Int32} {n : Nat} (hf : ff = 1) (hr : fr = nI n) (hn : n ≤ 16) (hC : ∀ r, r < n → rb_t (a14 r) r = true)
    (K : ∀ (x fw : Int32) (a24 a25 : Nat → Int32), (n = 0 → x = 0) → (1 ≤ n → 1 ≤ x) → post x (fj, ff, fr, fs, fo, fw, a1, a2, a3, a4, a5, a6, a7, a8, a9, a10, a11, a12, a13, a14, a15, a16, a17, a18, a19, a20, a21, a22, a23, a24, a25, a26)) : wpX_largest post (fj, ff, fr, fs, fo, fw, a1, a2, a3, a4, a5, a6, a7, a8, a9, a10, a11, a12, a13, a14, a15, a16, a17, a18, a19, a20, a21, a22, a23, a24, a25, a26) := by
  unfold wpX_largest
  dsimp only
  refine ri_find1 hf (nm_e (nm_e ⟨65536 + 1, ?_⟩))
  subst hr
  have b0 : ∀ i, rb_t (((1 : Int32) <<< (nI n &&& 31)) - 1) i = true → i < n := by
    intro i hi
    have := rl_all n hn i (rb_lt hi)
    rw [hi] at this
    simpa using this.symm
  have o0 : rl_o (((1 : Int32) <<< (nI n &&& 31)) - 1) ≤ 16 := rs_le (fun i _ => by split <;> omega)
  refine rl_32 hn hC K 65536 1 0 (upd a24 0 (((1 : Int32) <<< (nI n &&& 31)) - 1)) (upd a25 0 0) ⟨by omega, fun i hi => ?_⟩ ?_ ⟨fun z => ⟨rfl, fun i hi => ?_⟩, fun z => Or.inr (Or.inr ⟨rfl, rfl, pk_us, ?_⟩)⟩
  · have : i = 0 := by omega
    subst this
    rw [pk_us]
    exact ⟨b0, by omega⟩
  · show 0 + 2 ^ rl_o (upd a24 0 (((1 : Int32) <<< (nI n &&& 31)) - 1) 0) ≤ 65536
    rw [pk_us, Nat.zero_add]
    exact Nat.pow_le_pow_right (n := 2) (by omega) o0
  · have : i = 0 := by omega
    subst this
    exact pk_us
  · rw [pk_us]
    intro e
    have := rl_all n hn 0 (by omega)
    rw [e, rb_0] at this
    have h0 : decide (0 < n) = true := decide_eq_true (by omega)
    rw [h0] at this
    exact absurd this (by decide)
end
section
/-! taking a route -/
theorem rf_ix {a c : Nat} : (2 * nI a + nI (c + 1) - 1 : Int32) = nI (2 * a + c) := by
  show nI 2 * nI a + nI (c + 1) - 1 = _
  rw [pk_mul, nI_add, show 2 * a + (c + 1) = (2 * a + c) + 1 by omega, nI_pred]
theorem rf_ix0 {a c : Nat} : (2 * nI a + nI c : Int32) = nI (2 * a + c) := by
  show nI 2 * nI a + nI c = _
  rw [pk_mul, nI_add]
theorem rf_ix1 {a : Nat} : (2 * nI a + 1 : Int32) = nI (2 * a + 1) := by
  show nI 2 * nI a + nI 1 = _
  rw [pk_mul, nI_add]
theorem rf_addNeed {post : St1 → Prop} {fj ff fr fs fo fw : Int32} {a1 a2 a3 a4 a5 a6 a7 a8 a9 a10 a11 a12 a13 a14 a15 a16 a17 a18 a19 a20 a21 a22 a23 a24 a25 a26 : Nat → Int32} {p0 p1 p2 : Int32} {r a c : Nat} (h0 : p0 = nI r) (h1 : p1 = nI a) (hr : r < 16) (ha : a < 20) (hc : a3 a = nI c) (hc2 : c ≤ 2)
    (K : ∀ b12 b13 : Nat → Int32, (∀ q, q ≠ r → b12 q = a12 q) → (∀ i, rb_t (b12 r) i = true → rb_t (a12 r) i = true ∨ (i = a ∧ a3 a = 2)) → post (fj, ff, fr, fs, fo, fw, a1, a2, a3, a4, a5, a6, a7, a8, a9, a10, a11, b12, b13, a14, a15, a16, a17, a18, a19, a20, a21, a22, a23, a24, a25, a26)) : wpX_addNeed post (fj, ff, fr, fs, fo, fw, a1, a2, a3, a4, a5, a6, a7, a8, a9, a10, a11, a12, a13, a14, a15, a16, a17, a18, a19, a20, a21, a22, a23, a24, a25, a26) p0 p1 p2 := by
  subst h0 h1
  unfold wpX_addNeed
  dsimp only
  rw [nI_clamp (show a < 2 ^ 31 by omega), nI_clamp (show r < 2 ^ 31 by omega), rf_ix1, nI_clamp (show 2 * a + 1 < 2 ^ 31 by omega)]
  refine ⟨pk_in a 20 ha, pk_le 2 c (fun z => ⟨pk_in r 16 hr, pk_in r 16 hr, nm_e ⟨pk_in (2 * a + 1) 40 (by omega), br_c (fun _ => ⟨pk_in r 16 hr, pk_in r 16 hr, nm_e (K _ _ ?_ ?_)⟩) (fun _ => K _ _ ?_ ?_)⟩⟩) (fun _ => K _ _ (fun _ _ => rfl) (fun i hi => Or.inl hi)) rfl hc⟩
  · exact fun q hq => pk_un hq
  · intro i hi
    rw [pk_us, rb_set (by omega), Bool.or_eq_true, decide_eq_true_eq] at hi
    rcases hi with t | t
    · exact Or.inl t
    · refine Or.inr ⟨t, ?_⟩
      rw [hc, show c = 2 by omega]
      rfl
  · exact fun q hq => pk_un hq
  · intro i hi
    rw [pk_us, rb_set (by omega), Bool.or_eq_true, decide_eq_true_eq] at hi
    rcases hi with t | t
    · exact Or.inl t
    · refine Or.inr ⟨t, ?_⟩
      rw [hc, show c = 2 by omega]
      rfl
/-- the end by which the way leaves at step k -/
def rf_le (st : Nat) (a15 : Nat → Int32) (k : Nat) : Nat := if k = 0 then st else rn_x (rn_v (a15 k))
/-- a way of D steps -/
def rf_W (D st : Nat) (a1 a2 a4 a15 a16 : Nat → Int32) : Prop :=
  (∀ k, 1 ≤ k → k ≤ D → ri_lt (a15 k) 20) ∧
  (∀ k k', 1 ≤ k → k ≤ D → 1 ≤ k' → k' ≤ D → rn_v (a15 k) / 2 = rn_v (a15 k') / 2 → k = k') ∧
  (∀ k, k < D → ∃ c j, a16 k = nI (c + 1) ∧ c < 2 ∧ a4 (2 * rf_le st a15 k + c) = nI j ∧ j < 12 ∧ ri_J a1 a2 j (rf_le st a15 k) (rn_v (a15 (k + 1))) ∧ rn_v (a15 (k + 1)) / 2 ≠ rf_le st a15 k / 2)
theorem rf_le_lt {D st : Nat} {a1 a2 a4 a15 a16 : Nat → Int32} (h : rf_W D st a1 a2 a4 a15 a16) (hst : st < 20) {k : Nat} (hk : k ≤ D) : rf_le st a15 k < 20 := by
  unfold rf_le
  split
  · exact hst
  · exact rn_x_lt (h.1 k (by omega) hk).2
theorem rf_le_z {D st : Nat} {a1 a2 a4 a15 a16 : Nat → Int32} (h : rf_W D st a1 a2 a4 a15 a16) {k : Nat} (h1 : 1 ≤ k) (hk : k ≤ D) : a15 k ^^^ 1 = nI (rf_le st a15 k) := by
  unfold rf_le
  rw [if_neg (by omega)]
  have l := h.1 k h1 hk
  have h20 := l.2
  have e := l.1
  generalize rn_v (a15 k) = z at e h20 ⊢
  rw [e]
  exact (rn_xor z h20).1
theorem rf_W_c {D st : Nat} {a1 a2 a4 a15 a16 b15 b16 : Nat → Int32} (h : rf_W D st a1 a2 a4 a15 a16) (h15 : ∀ k, k ≤ D → b15 k = a15 k) (h16 : ∀ k, k < D → b16 k = a16 k) : rf_W D st a1 a2 a4 b15 b16 := by
  obtain ⟨w1, w2, w3⟩ := h
  refine ⟨fun k h1 hk => by rw [h15 k hk]; exact w1 k h1 hk, fun k k' h1 hk h1' hk' => by rw [h15 k hk, h15 k' hk']; exact w2 k k' h1 hk h1' hk', fun k hk => ?_⟩
  have e : rf_le st b15 k = rf_le st a15 k := by
    unfold rf_le
    rw [h15 k (by omega)]
  rw [e, h15 (k + 1) (by omega), h16 k hk]
  exact w3 k hk
theorem rf_W_le {D D' st : Nat} {a1 a2 a4 a15 a16 : Nat → Int32} (h : rf_W D st a1 a2 a4 a15 a16) (hD : D' ≤ D) : rf_W D' st a1 a2 a4 a15 a16 :=
  ⟨fun k h1 hk => h.1 k h1 (by omega), fun k k' h1 hk h1' hk' => h.2.1 k k' h1 (by omega) h1' (by omega), fun k hk => h.2.2 k (by omega)⟩
/-- route r as far as step k -/
def rf_K (k r : Nat) (a1 a2 a3 a9 a10 a11 a12 a15 : Nat → Int32) : Prop :=
  (∀ k', k' < k → a10 (5 * r + k') = a15 (k' + 1) ∧ ri_lt (a9 (5 * r + k')) 12 ∧ ∃ x y, x < 20 ∧ y < 20 ∧ x ≠ y ∧ a1 (rn_v (a9 (5 * r + k'))) = nI x ∧ a2 (rn_v (a9 (5 * r + k'))) = nI y) ∧
  (∀ s, rb_t (a11 r) s = true ↔ ∃ k', k' < k ∧ rn_v (a15 (k' + 1)) / 2 = s) ∧
  (∀ a, rb_t (a12 r) a = true → a < 20 ∧ ∃ k', k' < k ∧ ri_T a1 a2 a3 a9 (5 * r + k') a = true)
theorem rf_K_s {k r e j le : Nat} {a1 a2 a3 a9 a10 a11 a12 a15 b12 : Nat → Int32} (h : rf_K k r a1 a2 a3 a9 a10 a11 a12 a15) (hj : j < 12) (he : e < 20) (hle : le < 20) (hne : e / 2 ≠ le / 2) (e15 : a15 (k + 1) = nI e) (hJ : ri_J a1 a2 j le e)
    (hb : ∀ i, rb_t (b12 r) i = true → rb_t (a12 r) i = true ∨ (i = le ∧ a3 le = 2) ∨ (i = e ∧ a3 e = 2)) :
    rf_K (k + 1) r a1 a2 a3 (upd a9 (5 * r + k) (nI j)) (upd a10 (5 * r + k) (nI e)) (upd a11 r (a11 r ||| ((1 : Int32) <<< (nI (e / 2) &&& 31)))) b12 a15 := by
  obtain ⟨h1, h2, h3⟩ := h
  have ee : rn_v (a15 (k + 1)) = e := rn_cl e15 (by omega)
  refine ⟨fun k' hk' => ?_, fun s => ?_, fun a ha => ?_⟩
  · by_cases ek : k' = k
    · subst ek
      rw [pk_us, pk_us, e15]
      have ej : rn_v (nI j) = j := nI_clamp (by omega)
      refine ⟨rfl, ri_ltI hj (by omega), ?_⟩
      rw [ej]
      rcases hJ with ⟨t1, t2⟩ | ⟨t1, t2⟩
      · exact ⟨le, e, hle, he, fun z => hne (by rw [z]), t1, t2⟩
      · exact ⟨e, le, he, hle, fun z => hne (by rw [z]), t1, t2⟩
    · rw [pk_un (by omega), pk_un (by omega)]
      exact h1 k' (by omega)
  · rw [pk_us, rb_set (by omega), Bool.or_eq_true, h2 s, decide_eq_true_eq]
    constructor
    · rintro (⟨k', hk', t⟩ | t)
      · exact ⟨k', by omega, t⟩
      · exact ⟨k, by omega, by rw [ee, t]⟩
    · rintro ⟨k', hk', t⟩
      by_cases ek : k' = k
      · subst ek
        rw [ee] at t
        exact Or.inr t.symm
      · exact Or.inl ⟨k', by omega, t⟩
  · have hT : ∀ k', k' < k → ri_T a1 a2 a3 (upd a9 (5 * r + k) (nI j)) (5 * r + k') a = ri_T a1 a2 a3 a9 (5 * r + k') a := by
      intro k' hk'
      unfold ri_T
      rw [pk_un (by omega)]
    have hTk : ri_T a1 a2 a3 (upd a9 (5 * r + k) (nI j)) (5 * r + k) a = decide (a3 a = 2 ∧ (a1 j = nI a ∨ a2 j = nI a)) := by
      unfold ri_T
      rw [pk_us, show rn_v (nI j) = j from nI_clamp (by omega)]
    rcases hb a ha with t | ⟨t1, t2⟩ | ⟨t1, t2⟩
    · obtain ⟨u, k', hk', v⟩ := h3 a t
      exact ⟨u, k', by omega, by rw [hT k' hk']; exact v⟩
    · subst t1
      refine ⟨hle, k, by omega, ?_⟩
      rw [hTk, decide_eq_true_eq]
      rcases hJ with ⟨v1, v2⟩ | ⟨v1, v2⟩
      · exact ⟨t2, Or.inl v1⟩
      · exact ⟨t2, Or.inr v2⟩
    · subst t1
      refine ⟨he, k, by omega, ?_⟩
      rw [hTk, decide_eq_true_eq]
      rcases hJ with ⟨v1, v2⟩ | ⟨v1, v2⟩
      · exact ⟨t2, Or.inr v2⟩
      · exact ⟨t2, Or.inl v1⟩
theorem rf_55 {post : St1 → Prop} {fj ff fr fs fo fw : Int32} {a1 a2 a3 a4 a5 a6 a7 a8 a14 a15 a16 a17 a18 a19 a20 a21 a22 a23 a24 a25 a26 : Nat → Int32} {nj st l r : Nat} (hY : ri_Y nj a1 a2 a3 a4) (hst : st < 20) (hl : l ≤ 5) (hr : r < 16) (W : rf_W l st a1 a2 a4 a15 a16)
    (K : ∀ a9 a10 a11 a12 a13 : Nat → Int32, rf_K l r a1 a2 a3 a9 a10 a11 a12 a15 → (∀ q, q < r → ri_G a1 a2 a3 a7 a8 a9 a10 a11 a12 q) → post (fj, ff, fr, fs, fo, fw, a1, a2, a3, a4, a5, a6, a7, a8, a9, a10, a11, a12, a13, a14, a15, a16, a17, a18, a19, a20, a21, a22, a23, a24, a25, a26)) :
    ∀ (m k : Nat) (a9 a10 a11 a12 a13 : Nat → Int32), k + m = l → rf_K k r a1 a2 a3 a9 a10 a11 a12 a15 → (∀ q, q < r → ri_G a1 a2 a3 a7 a8 a9 a10 a11 a12 q) → wX_takeRoute_55 post (nI st) (nI l) (nI r) (m + 1) (nI k) fj ff fr fs fo fw a1 a2 a3 a4 a5 a6 a7 a8 a9 a10 a11 a12 a13 a14 a15 a16 a17 a18 a19 a20 a21 a22 a23 a24 a25 a26 := by
  intro m
  induction m with
  | zero =>
    intro k a9 a10 a11 a12 a13 hk hK hG
    have e : k = l := by omega
    subst e
    exact pk_le k k (fun _ => K a9 a10 a11 a12 a13 hK hG) (fun z => absurd z (by omega))
  | succ m ih =>
    intro k a9 a10 a11 a12 a13 hk hK hG
    have hkl : k < l := by omega
    obtain ⟨c, j, e16, hc, e4, hj, hJ, hne⟩ := W.2.2 k hkl
    have l15 := W.1 (k + 1) (by omega) (by omega)
    have hle := rf_le_lt W hst (show k ≤ l by omega)
    obtain ⟨e, he, e15⟩ := ri_ltE l15
    have ee : rn_v (a15 (k + 1)) = e := rn_cl e15 (by omega)
    rw [ee] at hJ hne
    obtain ⟨cl, hcl, ecl, _⟩ := hY.2 _ hle
    obtain ⟨ce, hce, ece, _⟩ := hY.2 _ he
    have hi16 : (a11 r ||| ((1 : Int32) <<< ((nI e / 2) &&& 31))).toInt16.toInt32 = a11 r ||| ((1 : Int32) <<< (nI (e / 2) &&& 31)) := by
      rw [rn_d2 (by omega)]
      refine rb_i16 (fun i hi => ?_)
      rw [rb_set (by omega), decide_eq_false (by omega), Bool.or_false]
      cases z : rb_t (a11 r) i
      · rfl
      · obtain ⟨k', hk', t⟩ := (hK.2.1 i).mp z
        have := (W.1 (k' + 1) (by omega) (by omega)).2
        omega
    have C79 : wX_takeRoute_79 post (wX_takeRoute_55 post (nI st) (nI l) (nI r) (m + 1)) (nI st) (nI l) (nI r) (nI k) (nI (rf_le st a15 k)) fj ff fr fs fo fw a1 a2 a3 a4 a5 a6 a7 a8 a9 a10 a11 a12 a13 a14 a15 a16 a17 a18 a19 a20 a21 a22 a23 a24 a25 a26 := by
      generalize rf_le st a15 k = le at hle e4 hJ hne ecl ⊢
      have e5 : (5 * nI r + nI k : Int32) = nI (5 * r + k) := ri_5
      unfold wX_takeRoute_79
      rw [nI_1 k, nI_clamp (show k + 1 < 2 ^ 31 by omega), nI_clamp (show k < 2 ^ 31 by omega), e16, rf_ix, nI_clamp (show 2 * le + c < 2 ^ 31 by omega), e5, nI_clamp (show 5 * r + k < 2 ^ 31 by omega), nI_clamp (show r < 2 ^ 31 by omega)]
      refine ⟨pk_in (k + 1) 6 (by omega), nm_r (e' := nI e) e15 ⟨pk_in k 6 (by omega), pk_in (2 * le + c) 40 (by omega), nm_r (e' := nI j) e4 ⟨pk_in (5 * r + k) 80 (by omega), nm_r (e' := upd a9 (5 * r + k) (nI j)) (by rw [rn_i8 j (by omega)]) ⟨pk_in (5 * r + k) 80 (by omega), nm_r (e' := upd a10 (5 * r + k) (nI e)) (by rw [rn_i8 e (by omega)]) ⟨pk_in r 16 hr, by decide, pk_in r 16 hr, nm_r (e' := upd a11 r (a11 r ||| ((1 : Int32) <<< (nI (e / 2) &&& 31)))) (by rw [hi16]) ?_⟩⟩⟩⟩⟩
      refine rf_addNeed rfl rfl hr hle ecl hcl (fun b12 b13 hb1 hb2 => rf_addNeed rfl rfl hr he ece hce (fun d12 d13 hd1 hd2 => nm_e ?_))
      refine ih (k + 1) _ _ _ _ _ (by omega) (rf_K_s hK hj he hle hne e15 hJ (fun i hi => ?_)) (fun q hq => ?_)
      · rcases hd2 i hi with t | t
        · rcases hb2 i t with u | u
          · exact Or.inl u
          · exact Or.inr (Or.inl u)
        · exact Or.inr (Or.inr t)
      · refine ri_G_c (hG q hq) rfl rfl (fun k' hk' => pk_un (by omega)) (fun k' hk' => pk_un (by omega)) (pk_un (by omega)) ?_
        rw [hd1 q (by omega), hb1 q (by omega)]
    refine pk_le l k (fun z => absurd z (by omega)) (fun _ => pk_eq k 0 (fun z => ?_) (fun z => ⟨pk_in k 6 (by omega), ?_⟩))
    · have : rf_le st a15 k = st := by
        unfold rf_le
        rw [if_pos z]
      rw [this] at C79
      exact C79
    · rw [nI_clamp (show k < 2 ^ 31 by omega), rf_le_z W (by omega) (by omega)]
      exact C79
theorem rf_take {post : St1 → Prop} {fj ff fr fs fo fw : Int32} {a1 a2 a3 a4 a5 a6 a7 a8 a9 a10 a11 a12 a13 a14 a15 a16 a17 a18 a19 a20 a21 a22 a23 a24 a25 a26 : Nat → Int32} {nj st D r : Nat} (hfr : fr = nI r) (hY : ri_Y nj a1 a2 a3 a4) (hst : st < 20) (hD1 : 1 ≤ D) (hD : D ≤ 5) (hr : r < 16) (W : rf_W D st a1 a2 a4 a15 a16) (hG : ∀ q, q < r → ri_G a1 a2 a3 a7 a8 a9 a10 a11 a12 q)
    (K : ∀ a7 a8 a9 a10 a11 a12 a13 : Nat → Int32, (∀ q, q < r + 1 → ri_G a1 a2 a3 a7 a8 a9 a10 a11 a12 q) → post (fj, ff, nI (r + 1), fs, fo, fw, a1, a2, a3, a4, a5, a6, a7, a8, a9, a10, a11, a12, a13, a14, a15, a16, a17, a18, a19, a20, a21, a22, a23, a24, a25, a26)) : wpX_takeRoute post (fj, ff, fr, fs, fo, fw, a1, a2, a3, a4, a5, a6, a7, a8, a9, a10, a11, a12, a13, a14, a15, a16, a17, a18, a19, a20, a21, a22, a23, a24, a25, a26) (nI st) (nI D) := by
  subst hfr
  unfold wpX_takeRoute
  dsimp only
  rw [nI_clamp (show r < 2 ^ 31 by omega), rn_i8 st (by omega), rn_i8 D (by omega)]
  refine nm_r (nI_1 r) ⟨pk_in r 16 hr, nm_e ⟨pk_in r 16 hr, nm_e ⟨pk_in r 16 hr, nm_e ⟨pk_in r 16 hr, nm_e ⟨pk_in r 16 hr, nm_e ⟨D + 1, ?_⟩⟩⟩⟩⟩⟩
  refine rf_55 hY hst hD hr W (fun b9 b10 b11 b12 b13 hK hG' => K _ _ _ _ _ _ _ (fun q hq => ?_)) D 0 a9 a10 _ _ _ (by omega) ⟨fun k hk => absurd hk (by omega), fun s => ?_, fun a ha => ?_⟩ (fun q hq => ?_)
  · by_cases e : q = r
    · subst e
      obtain ⟨k1, k2, k3⟩ := hK
      have e8 : rn_v (upd a8 q (nI D) q) = D := by
        rw [pk_us]
        exact nI_clamp (by omega)
      unfold ri_G
      rw [e8, pk_us, pk_us]
      refine ⟨ri_ltI hst (by omega), ri_ltI (by omega) (by omega), hD1, fun k hk => ?_, fun k k' hk hk' h2 => ?_, fun s => ?_, k3⟩
      · rw [(k1 k hk).1]
        exact ⟨W.1 (k + 1) (by omega) (by omega), (k1 k hk).2⟩
      · rw [(k1 k hk).1, (k1 k' hk').1] at h2
        have := W.2.1 (k + 1) (k' + 1) (by omega) (by omega) (by omega) (by omega) h2
        omega
      · rw [k2 s]
        constructor
        · rintro ⟨k, hk, t⟩
          exact ⟨k, hk, by rw [(k1 k hk).1]; exact t⟩
        · rintro ⟨k, hk, t⟩
          rw [(k1 k hk).1] at t
          exact ⟨k, hk, t⟩
    · exact hG' q (by omega)
  · rw [pk_us, rb_0]
    exact ⟨fun z => absurd z (by decide), fun ⟨k, hk, _⟩ => absurd hk (by omega)⟩
  · rw [pk_us, rb_0] at ha
    exact absurd ha (by decide)
  · exact ri_G_c (hG q hq) (pk_un (by omega)) (pk_un (by omega)) (fun _ _ => rfl) (fun _ _ => rfl) (pk_un (by omega)) (pk_un (by omega))
end
section
/-! following the ways; finding the routes -/
theorem rf_vis {post : Int32 → Prop} {fj ff fr fs fo fw : Int32} {a1 a2 a3 a4 a5 a6 a7 a8 a9 a10 a11 a12 a13 a14 a15 a16 a17 a18 a19 a20 a21 a22 a23 a24 a25 a26 : Nat → Int32} {p2 : Int32} {st d s : Nat} (hst : st < 20) (hd : d ≤ 5) (h2 : p2 = nI s) (hs : s < 20) (hE : ∀ k, 1 ≤ k → k ≤ d → ri_lt (a15 k) 20)
    (K1 : post 1) (K0 : (∀ k, 1 ≤ k → k ≤ d → rn_v (a15 k) / 2 ≠ s) → post 0) : wpX_isVisited post (fj, ff, fr, fs, fo, fw, a1, a2, a3, a4, a5, a6, a7, a8, a9, a10, a11, a12, a13, a14, a15, a16, a17, a18, a19, a20, a21, a22, a23, a24, a25, a26) (nI st) (nI d) p2 := by
  subst h2
  unfold wpX_isVisited
  dsimp only
  refine ⟨by decide, br_c (fun _ => K1) (fun _ => ?_)⟩
  refine Exists.elim (pk_loop (σ := Unit) (fun n i _ => wX_isVisited_12 post (nI d) (nI s) fj ff fr fs fo fw a1 a2 a3 a4 a5 a6 a7 a8 a9 a10 a11 a12 a13 a14 a15 a16 a17 a18 a19 a20 a21 a22 a23 a24 a25 a26 n (nI i)) (fun i _ => ∀ k, 1 ≤ k → k < i → rn_v (a15 k) / 2 ≠ s) (d + 1) 1 () (by omega) (fun k h1 hk => absurd hk (by omega)) ?_ ?_) (fun n hn => ⟨n, hn⟩)
  · intro n _ h
    exact pk_lt d (d + 1) (fun _ => K0 (fun k h1 hk => h k h1 (by omega))) (fun z => absurd z (by omega))
  · intro n i _ hi h hw
    refine pk_lt d i (fun z => absurd z (by omega)) (fun z => ⟨pk_in i 6 (by omega), by decide, ?_⟩)
    rw [nI_clamp (show i < 2 ^ 31 by omega)]
    by_cases h0 : 1 ≤ i
    · obtain ⟨e, he, ee⟩ := ri_ltE (hE i h0 z)
      refine pk_eq (e / 2) s (fun _ => K1) (fun t => nm_r (nI_1 i) (hw () (fun k h1 hk => ?_))) (by rw [ee, rn_d2 (by omega)])
      by_cases ek : k = i
      · subst ek
        rw [rn_cl ee (by omega)]
        exact t
      · exact h k h1 (by omega)
    · exact br_c (fun _ => K1) (fun _ => nm_r (nI_1 i) (hw () (fun k h1 hk => absurd hk (by omega))))
/-- the choices at the levels up to d -/
def rf_C (d st : Nat) (a3 a15 a16 : Nat → Int32) : Prop := ∀ k, k ≤ d → ∃ c, a16 k = nI c ∧ c ≤ 2 ∧ c ≤ rn_v (a3 (rf_le st a15 k))
def rf_f (st : Nat) (a3 a15 a16 : Nat → Int32) (i : Nat) : Nat := (rn_v (a3 (rf_le st a15 i)) - rn_v (a16 i)) * (2 ^ (6 - i) - 2) + 1
theorem rf_f_c {st i : Nat} {a3 a15 a16 b15 b16 : Nat → Int32} (h15 : b15 i = a15 i) (h16 : b16 i = a16 i) : rf_f st a3 b15 b16 i = rf_f st a3 a15 a16 i := by
  unfold rf_f rf_le
  rw [h15, h16]
theorem rf_w : ∀ d, d < 5 → 2 * (2 ^ (6 - (d + 1)) - 2) + 2 = 2 ^ (6 - d) - 2 := by decide
theorem rf_le_c {st k : Nat} {a15 b15 : Nat → Int32} (h : b15 k = a15 k) : rf_le st b15 k = rf_le st a15 k := by
  unfold rf_le
  rw [h]
theorem rf_9 {post : St1 → Prop} {fj ff fs fo fw : Int32} {a1 a2 a3 a4 a5 a6 a14 a17 a18 a19 a20 a21 a22 a23 a24 a25 a26 : Nat → Int32} {nj st : Nat} (hY : ri_Y nj a1 a2 a3 a4) (hst : st < 20)
    (K : ∀ (r : Nat) (a7 a8 a9 a10 a11 a12 a13 a15 a16 : Nat → Int32), r ≤ 16 → (∀ q, q < r → ri_G a1 a2 a3 a7 a8 a9 a10 a11 a12 q) → post (fj, ff, nI r, fs, fo, fw, a1, a2, a3, a4, a5, a6, a7, a8, a9, a10, a11, a12, a13, a14, a15, a16, a17, a18, a19, a20, a21, a22, a23, a24, a25, a26)) :
    ∀ (m d r : Nat) (a7 a8 a9 a10 a11 a12 a13 a15 a16 : Nat → Int32), d ≤ 5 → r ≤ 16 → (∀ q, q < r → ri_G a1 a2 a3 a7 a8 a9 a10 a11 a12 q) → rf_W d st a1 a2 a4 a15 a16 → rf_C d st a3 a15 a16 → rs_sum (rf_f st a3 a15 a16) (d + 1) ≤ m → wX_follow_9 post (nI st) (m + 1) (nI d) fj ff (nI r) fs fo fw a1 a2 a3 a4 a5 a6 a7 a8 a9 a10 a11 a12 a13 a14 a15 a16 a17 a18 a19 a20 a21 a22 a23 a24 a25 a26 := by
  have exit : ∀ (m r : Nat) (a7 a8 a9 a10 a11 a12 a13 a15 a16 : Nat → Int32), r ≤ 16 → (∀ q, q < r → ri_G a1 a2 a3 a7 a8 a9 a10 a11 a12 q) → wX_follow_9 post (nI st) (m + 1) (nI 0 + (-1)) fj ff (nI r) fs fo fw a1 a2 a3 a4 a5 a6 a7 a8 a9 a10 a11 a12 a13 a14 a15 a16 a17 a18 a19 a20 a21 a22 a23 a24 a25 a26 := by
    intro m r a7 a8 a9 a10 a11 a12 a13 a15 a16 hr hG
    exact br_t (by decide) (K r a7 a8 a9 a10 a11 a12 a13 a15 a16 hr hG)
  intro m
  induction m with
  | zero =>
    intro d r a7 a8 a9 a10 a11 a12 a13 a15 a16 hd hr hG hW hC hm
    have h1 := rs_ge (f := rf_f st a3 a15 a16) (show d < d + 1 by omega)
    have h2 : 1 ≤ rf_f st a3 a15 a16 d := by
      unfold rf_f
      omega
    omega
  | succ m ih =>
    intro d r a7 a8 a9 a10 a11 a12 a13 a15 a16 hd hr hG hW hC hm
    have hm' : rs_sum (rf_f st a3 a15 a16) d + rf_f st a3 a15 a16 d ≤ m + 1 := hm
    have hf1 : 1 ≤ rf_f st a3 a15 a16 d := by
      unfold rf_f
      omega
    -- going a step back from depth d
    have pop : wX_follow_9 post (nI st) (m + 1) (nI d + (-1)) fj ff (nI r) fs fo fw a1 a2 a3 a4 a5 a6 a7 a8 a9 a10 a11 a12 a13 a14 a15 a16 a17 a18 a19 a20 a21 a22 a23 a24 a25 a26 := by
      rcases Nat.eq_zero_or_pos d with e | e
      · subst e
        exact exit m r a7 a8 a9 a10 a11 a12 a13 a15 a16 hr hG
      · obtain ⟨d, rfl⟩ : ∃ d', d = d' + 1 := ⟨d - 1, by omega⟩
        rw [pk_m1]
        exact ih d r a7 a8 a9 a10 a11 a12 a13 a15 a16 (by omega) hr hG (rf_W_le hW (by omega)) (fun k hk => hC k (by omega)) (by omega)
    have hle := rf_le_lt hW hst (Nat.le_refl d)
    obtain ⟨c, e16, hc2, hcc⟩ := hC d (Nat.le_refl d)
    obtain ⟨cn, hcn, ecn, hjs⟩ := hY.2 _ hle
    have ecl : rn_v (a3 (rf_le st a15 d)) = cn := rn_cl ecn (by omega)
    rw [ecl] at hcc
    have C29 : wX_follow_29 post (wX_follow_9 post (nI st) (m + 1)) (nI st) (nI d) (nI (rf_le st a15 d)) fj ff (nI r) fs fo fw a1 a2 a3 a4 a5 a6 a7 a8 a9 a10 a11 a12 a13 a14 a15 a16 a17 a18 a19 a20 a21 a22 a23 a24 a25 a26 := by
      unfold wX_follow_29
      refine pk_eq d 5 (fun _ => nm_e pop) (fun hd5 => ⟨pk_in d 6 (by omega), pk_in _ 20 hle rfl, ?_⟩)
      rw [nI_clamp (show d < 2 ^ 31 by omega), nI_clamp (show rf_le st a15 d < 2 ^ 31 by omega), e16, ecn]
      refine pk_eq c cn (fun _ => nm_e pop) (fun hccn => ?_)
      have hclt : c < cn := by omega
      obtain ⟨j, b, hj, hb, hab, e4, hJ⟩ := hjs c hclt
      have hj12 : j < 12 := by have := hY.1; omega
      rw [rf_ix0, nI_clamp (show 2 * rf_le st a15 d + c < 2 ^ 31 by omega), e4, rn_inc c (by omega)]
      refine ⟨pk_in d 6 (by omega), pk_in _ 40 (by omega) rfl, nm_e ⟨pk_in d 6 (by omega), pk_in d 6 (by omega), nm_e (ri_across rfl rfl hj12 hle hb hab hJ ⟨by decide, ?_⟩)⟩⟩
      -- the state with one more choice taken at depth d
      have eu16 : ∀ k, k < d → upd a16 d (nI (c + 1)) k = a16 k := fun k hk => pk_un (by omega)
      have fd : rf_f st a3 a15 a16 d = (cn - (c + 1)) * (2 ^ (6 - d) - 2) + 1 + (2 ^ (6 - d) - 2) := by
        unfold rf_f
        rw [ecl, rn_cl e16 (by omega), show cn - c = (cn - (c + 1)) + 1 by omega, Nat.add_mul, Nat.one_mul]
        omega
      have hw2 := rf_w d (by omega)
      -- back at depth d, with any change behind it
      have back : ∀ (r : Nat) (a7 a8 a9 a10 a11 a12 a13 b15 : Nat → Int32), r ≤ 16 → (∀ q, q < r → ri_G a1 a2 a3 a7 a8 a9 a10 a11 a12 q) → (∀ k, k ≤ d → b15 k = a15 k) → wX_follow_9 post (nI st) (m + 1) (nI d) fj ff (nI r) fs fo fw a1 a2 a3 a4 a5 a6 a7 a8 a9 a10 a11 a12 a13 a14 b15 (upd a16 d (nI (c + 1))) a17 a18 a19 a20 a21 a22 a23 a24 a25 a26 := by
        intro r a7 a8 a9 a10 a11 a12 a13 b15 hr hG h15
        refine ih d r a7 a8 a9 a10 a11 a12 a13 b15 _ hd hr hG (rf_W_c hW h15 eu16) (fun k hk => ?_) ?_
        · rw [rf_le_c (h15 k hk)]
          by_cases ek : k = d
          · subst ek
            rw [pk_us, ecl]
            exact ⟨c + 1, rfl, by omega, by omega⟩
          · rw [pk_un ek]
            exact hC k hk
        · show rs_sum (rf_f st a3 b15 (upd a16 d (nI (c + 1)))) d + rf_f st a3 b15 (upd a16 d (nI (c + 1))) d ≤ m
          rw [rs_congr (g := rf_f st a3 a15 a16) (fun i hi => rf_f_c (h15 i (by omega)) (eu16 i hi))]
          have e1 : rf_f st a3 b15 (upd a16 d (nI (c + 1))) d = (cn - (c + 1)) * (2 ^ (6 - d) - 2) + 1 := by
            unfold rf_f
            rw [rf_le_c (h15 d (Nat.le_refl d)), ecl, pk_us, show rn_v (nI (c + 1)) = c + 1 from nI_clamp (by omega)]
          omega
      refine rf_vis hst hd (rn_d2 (by omega)) (by omega) hW.1 (br_f (by decide) ?_) (fun hnv => br_t rfl (nm_r (nI_1 d) ⟨pk_in (d + 1) 6 (by omega), nm_e ?_⟩))
      · exact back r a7 a8 a9 a10 a11 a12 a13 a15 hr hG (fun k hk => rfl)
      rw [nI_clamp (show d + 1 < 2 ^ 31 by omega), rn_i8 b (by omega), (rn_xor b hb).1, nI_clamp (show rn_x b < 2 ^ 31 by have := rn_x_lt hb; omega)]
      have h15 : ∀ k, k ≤ d → upd a15 (d + 1) (nI b) k = a15 k := fun k hk => pk_un (by omega)
      have hbv : rn_v (nI b) = b := nI_clamp (by omega)
      have W' : rf_W (d + 1) st a1 a2 a4 (upd a15 (d + 1) (nI b)) (upd a16 d (nI (c + 1))) := by
        obtain ⟨w1, w2, w3⟩ := rf_W_c hW h15 eu16
        refine ⟨fun k h1 hk => ?_, fun k k' h1 hk h1' hk' he => ?_, fun k hk => ?_⟩
        · by_cases ek : k = d + 1
          · subst ek
            rw [pk_us]
            exact ri_ltI hb (by omega)
          · exact w1 k h1 (by omega)
        · by_cases ek : k = d + 1
          · by_cases ek' : k' = d + 1
            · omega
            · subst ek
              rw [pk_us, hbv, h15 k' (by omega)] at he
              exact absurd he.symm (hnv k' h1' (by omega))
          · by_cases ek' : k' = d + 1
            · subst ek'
              rw [pk_us, hbv, h15 k (by omega)] at he
              exact absurd he (hnv k h1 (by omega))
            · exact w2 k k' h1 (by omega) h1' (by omega) he
        · by_cases ek : k = d
          · subst ek
            rw [pk_us, pk_us, hbv, rf_le_c (h15 k (by omega))]
            exact ⟨c, j, rfl, by omega, e4, hj12, hJ, hab⟩
          · exact w3 k (by omega)
      -- the end of a way: a route, and a step back
      have C145 : wX_follow_145 post (wX_follow_9 post (nI st) (m + 1)) (nI st) (nI (d + 1)) fj ff (nI r) fs fo fw a1 a2 a3 a4 a5 a6 a7 a8 a9 a10 a11 a12 a13 a14 (upd a15 (d + 1) (nI b)) (upd a16 d (nI (c + 1))) a17 a18 a19 a20 a21 a22 a23 a24 a25 a26 := by
        unfold wX_follow_145
        refine pk_le 16 r (fun _ => nm_r (pk_m1 d) (back r a7 a8 a9 a10 a11 a12 a13 _ hr hG h15)) (fun hr16 => ?_)
        refine rf_take rfl hY hst (by omega) (by omega) hr16 W' hG (fun b7 b8 b9 b10 b11 b12 b13 hG' => nm_r (pk_m1 d) ?_)
        exact back (r + 1) b7 b8 b9 b10 b11 b12 b13 _ (by omega) hG' h15
      have hx20 := rn_x_lt hb
      refine ⟨pk_in (rn_x b) 20 hx20, br_c (fun _ => ⟨pk_in (rn_x b) 20 hx20, br_c (fun _ => C145) (fun _ => ⟨pk_in (d + 1) 6 (by omega), nm_e ?_⟩)⟩) (fun _ => C145)⟩
      -- one deeper
      have h16' : ∀ k, k < d + 1 → upd (upd a16 d (nI (c + 1))) (d + 1) 0 k = upd a16 d (nI (c + 1)) k := fun k hk => pk_un (by omega)
      obtain ⟨cx, hcx, ecx, _⟩ := hY.2 _ hx20
      have ele : rf_le st (upd a15 (d + 1) (nI b)) (d + 1) = rn_x b := by
        unfold rf_le
        rw [if_neg (by omega), pk_us, hbv]
      refine ih (d + 1) r a7 a8 a9 a10 a11 a12 a13 _ _ (by omega) hr hG (rf_W_c W' (fun _ _ => rfl) h16') (fun k hk => ?_) ?_
      · by_cases ek : k = d + 1
        · subst ek
          rw [pk_us]
          exact ⟨0, rfl, by omega, by omega⟩
        · rw [h16' k (by omega), rf_le_c (h15 k (by omega))]
          by_cases ek' : k = d
          · subst ek'
            rw [pk_us, ecl]
            exact ⟨c + 1, rfl, by omega, by omega⟩
          · rw [pk_un ek']
            exact hC k (by omega)
      · show rs_sum (rf_f st a3 (upd a15 (d + 1) (nI b)) (upd (upd a16 d (nI (c + 1))) (d + 1) 0)) d + rf_f st a3 (upd a15 (d + 1) (nI b)) (upd (upd a16 d (nI (c + 1))) (d + 1) 0) d + rf_f st a3 (upd a15 (d + 1) (nI b)) (upd (upd a16 d (nI (c + 1))) (d + 1) 0) (d + 1) ≤ m
        rw [rs_congr (g := rf_f st a3 a15 a16) (fun i hi => rf_f_c (h15 i (by omega)) (by rw [h16' i (by omega), eu16 i hi]))]
        have e1 : rf_f st a3 (upd a15 (d + 1) (nI b)) (upd (upd a16 d (nI (c + 1))) (d + 1) 0) d = (cn - (c + 1)) * (2 ^ (6 - d) - 2) + 1 := by
          unfold rf_f
          rw [rf_le_c (h15 d (Nat.le_refl d)), ecl, h16' d (by omega), pk_us, show rn_v (nI (c + 1)) = c + 1 from nI_clamp (by omega)]
        have e2 : rf_f st a3 (upd a15 (d + 1) (nI b)) (upd (upd a16 d (nI (c + 1))) (d + 1) 0) (d + 1) = cx * (2 ^ (6 - (d + 1)) - 2) + 1 := by
          unfold rf_f
          rw [ele, pk_us, rn_cl ecx (by omega)]
          rfl
        have e3 : cx * (2 ^ (6 - (d + 1)) - 2) ≤ 2 * (2 ^ (6 - (d + 1)) - 2) := Nat.mul_le_mul_right _ hcx
        omega
    refine br_f (nI_pos (by omega)) (pk_eq d 0 (fun z => ?_) (fun z => ⟨pk_in d 6 (by omega), ?_⟩))
    · have : rf_le st a15 d = st := by
        unfold rf_le
        rw [if_pos z]
      rw [this] at C29
      exact C29
    · rw [nI_clamp (show d < 2 ^ 31 by omega), rf_le_z hW (by omega) (Nat.le_refl d)]
      exact C29
theorem rf_follow {post : St1 → Prop} {fj ff fr fs fo fw : Int32} {a1 a2 a3 a4 a5 a6 a7 a8 a9 a10 a11 a12 a13 a14 a15 a16 a17 a18 a19 a20 a21 a22 a23 a24 a25 a26 : Nat → Int32} {nj st r : Nat} (hfr : fr = nI r) (hr : r ≤ 16) (hY : ri_Y nj a1 a2 a3 a4) (hst : st < 20) (hG : ∀ q, q < r → ri_G a1 a2 a3 a7 a8 a9 a10 a11 a12 q)
    (K : ∀ (r : Nat) (a7 a8 a9 a10 a11 a12 a13 a15 a16 : Nat → Int32), r ≤ 16 → (∀ q, q < r → ri_G a1 a2 a3 a7 a8 a9 a10 a11 a12 q) → post (fj, ff, nI r, fs, fo, fw, a1, a2, a3, a4, a5, a6, a7, a8, a9, a10, a11, a12, a13, a14, a15, a16, a17, a18, a19, a20, a21, a22, a23, a24, a25, a26)) : wpX_follow post (fj, ff, fr, fs, fo, fw, a1, a2, a3, a4, a5, a6, a7, a8, a9, a10, a11, a12, a13, a14, a15, a16, a17, a18, a19, a20, a21, a22, a23, a24, a25, a26) (nI st) := by
  subst hfr
  unfold wpX_follow
  dsimp only
  refine nm_e ⟨rs_sum (rf_f st a3 a15 (upd a16 0 0)) (0 + 1) + 1, ?_⟩
  refine rf_9 hY hst K _ 0 r a7 a8 a9 a10 a11 a12 a13 a15 _ (by omega) hr hG ⟨fun k h1 hk => absurd hk (by omega), fun k k' h1 hk => absurd hk (by omega), fun k hk => absurd hk (by omega)⟩ (fun k hk => ?_) (Nat.le_refl _)
  have : k = 0 := by omega
  subst this
  exact ⟨0, pk_us, by omega, by omega⟩
theorem rf_conf {post : Int32 → Prop} {fj ff fr fs fo fw : Int32} {a1 a2 a3 a4 a5 a6 a7 a8 a9 a10 a11 a12 a13 a14 a15 a16 a17 a18 a19 a20 a21 a22 a23 a24 a25 a26 : Nat → Int32} {r q : Nat} (hr : r < 16) (hq : q < 16)
    (h1 : (r = q ∨ a11 r &&& a11 q ≠ 0 ∨ (a13 r ^^^ a13 q) &&& (a12 r &&& a12 q) ≠ 0) → post 1)
    (h0 : ¬ (r = q ∨ a11 r &&& a11 q ≠ 0 ∨ (a13 r ^^^ a13 q) &&& (a12 r &&& a12 q) ≠ 0) → post 0) : wpX_areInConflict post (fj, ff, fr, fs, fo, fw, a1, a2, a3, a4, a5, a6, a7, a8, a9, a10, a11, a12, a13, a14, a15, a16, a17, a18, a19, a20, a21, a22, a23, a24, a25, a26) (nI r) (nI q) := by
  unfold wpX_areInConflict
  dsimp only
  rw [nI_clamp (show r < 2 ^ 31 by omega), nI_clamp (show q < 2 ^ 31 by omega)]
  refine ⟨pk_in r 16 hr, pk_in q 16 hq, nm_e (pk_eq r q (fun z => h1 (Or.inl z)) (fun z => ⟨pk_in r 16 hr, pk_in q 16 hq, br_c (fun z2 => ⟨pk_in r 16 hr, pk_in q 16 hq, br_c (fun z3 => h0 ?_) (fun z3 => h1 (Or.inr (Or.inr z3)))⟩) (fun z2 => h1 (Or.inr (Or.inl z2)))⟩))⟩
  rintro (t | t | t)
  · exact z t
  · exact t z2
  · exact t z3
/-- the table of conflicts -/
def ri_C (n : Nat) (a11 a12 a13 a14 : Nat → Int32) : Prop := ∀ r q, r < n → q < n → (rb_t (a14 r) q = true ↔ (r = q ∨ a11 r &&& a11 q ≠ 0 ∨ (a13 r ^^^ a13 q) &&& (a12 r &&& a12 q) ≠ 0))
theorem rf_48 {post : St1 → Prop} {fj ff fr fs fo fw : Int32} {a1 a2 a3 a4 a5 a6 a7 a8 a9 a10 a11 a12 a13 a15 a16 a17 a18 a19 a20 a21 a22 a23 a24 a25 a26 : Nat → Int32} {n : Nat} (hn : n ≤ 16) (hfr : fr = nI n) (a14 : Nat → Int32) (K : ∀ a14 : Nat → Int32, ri_C n a11 a12 a13 a14 → post (fj, ff, fr, fs, fo, fw, a1, a2, a3, a4, a5, a6, a7, a8, a9, a10, a11, a12, a13, a14, a15, a16, a17, a18, a19, a20, a21, a22, a23, a24, a25, a26)) : ∃ fu, wX_findRoutes_48 post fj ff fr fs fo fw fu 0 a1 a2 a3 a4 a5 a6 a7 a8 a9 a10 a11 a12 a13 a14 a15 a16 a17 a18 a19 a20 a21 a22 a23 a24 a25 a26 := by
  refine Exists.elim (pk_loop (σ := Nat → Int32) (fun m i a14 => wX_findRoutes_48 post fj ff fr fs fo fw m (nI i) a1 a2 a3 a4 a5 a6 a7 a8 a9 a10 a11 a12 a13 a14 a15 a16 a17 a18 a19 a20 a21 a22 a23 a24 a25 a26) (fun i a14 => ∀ r q, r < i → q < n → (rb_t (a14 r) q = true ↔ (r = q ∨ a11 r &&& a11 q ≠ 0 ∨ (a13 r ^^^ a13 q) &&& (a12 r &&& a12 q) ≠ 0))) n 0 a14 (by omega) (fun r q h => absurd h (by omega)) ?_ ?_) (fun m hm => ⟨m, hm⟩)
  · intro m b h
    exact pk_le n n (fun _ => K b h) (fun z => absurd z (by omega)) hfr
  · intro m i b hi h hw
    refine pk_le n i (fun z => absurd z (by omega)) (fun _ => ⟨pk_in i 16 (by omega), nm_e ?_⟩) hfr
    rw [nI_clamp (show i < 2 ^ 31 by omega)]
    refine Exists.elim (pk_loop (σ := Nat → Int32) (fun m' k a14 => wX_findRoutes_65 post (wX_findRoutes_48 post fj ff fr fs fo fw m) (nI i) fj ff fr fs fo fw m' (nI k) a1 a2 a3 a4 a5 a6 a7 a8 a9 a10 a11 a12 a13 a14 a15 a16 a17 a18 a19 a20 a21 a22 a23 a24 a25 a26) (fun k c => (∀ r, r ≠ i → c r = b r) ∧ ∀ q, (rb_t (c i) q = true ↔ q < k ∧ (i = q ∨ a11 i &&& a11 q ≠ 0 ∨ (a13 i ^^^ a13 q) &&& (a12 i &&& a12 q) ≠ 0))) n 0 (upd b i 0) (by omega) ⟨fun r hr => pk_un hr, fun q => ?_⟩ ?_ ?_) (fun m hm => ⟨m, hm⟩)
    · rw [pk_us, rb_0]
      exact ⟨fun z => absurd z (by decide), fun z => absurd z.1 (by omega)⟩
    · intro m' c hc
      refine pk_le n n (fun _ => nm_r (nI_1 i) (hw c (fun r q hr hq => ?_))) (fun z => absurd z (by omega)) hfr
      by_cases e : r = i
      · subst e
        rw [hc.2 q]
        exact ⟨fun t => t.2, fun t => ⟨hq, t⟩⟩
      · rw [hc.1 r e]
        exact h r q (by omega) hq
    · intro m' k c hk hc hw'
      refine pk_le n k (fun z => absurd z (by omega)) (fun _ => rf_conf (by omega) (by omega) (fun t => br_f (by decide) ⟨pk_in i 16 (by omega), pk_in i 16 (by omega), nm_e (nm_r (nI_1 k) ?_)⟩) (fun t => br_t rfl (nm_r (nI_1 k) (hw' c ⟨hc.1, fun q => ?_⟩)))) hfr
      · rw [nI_clamp (show i < 2 ^ 31 by omega)]
        refine hw' _ ⟨fun r hr => by rw [pk_un hr]; exact hc.1 r hr, fun q => ?_⟩
        rw [pk_us, rb_set (by omega), Bool.or_eq_true, hc.2 q, decide_eq_true_eq]
        constructor
        · rintro (u | u)
          · exact ⟨by omega, u.2⟩
          · subst u
            exact ⟨by omega, t⟩
        · intro u
          by_cases e : q = k
          · exact Or.inr e
          · exact Or.inl ⟨by omega, u.2⟩
      · rw [hc.2 q]
        constructor
        · exact fun u => ⟨by omega, u.2⟩
        · intro u
          refine ⟨?_, u.2⟩
          by_cases e : q = k
          · subst e
            exact absurd u.2 t
          · omega
theorem rf_20 {post : St1 → Prop} {fj ff fs fo fw : Int32} {a1 a2 a3 a4 a5 a6 a17 a18 a19 a20 a21 a22 a23 a24 a25 a26 : Nat → Int32} {nj : Nat} (hY : ri_Y nj a1 a2 a3 a4) (a14 : Nat → Int32)
    (K : ∀ (n : Nat) (a7 a8 a9 a10 a11 a12 a13 a14 a15 a16 : Nat → Int32), n ≤ 16 → (∀ q, q < n → ri_G a1 a2 a3 a7 a8 a9 a10 a11 a12 q) → ri_C n a11 a12 a13 a14 → post (fj, ff, nI n, fs, fo, fw, a1, a2, a3, a4, a5, a6, a7, a8, a9, a10, a11, a12, a13, a14, a15, a16, a17, a18, a19, a20, a21, a22, a23, a24, a25, a26)) :
    ∀ (m i r : Nat) (a7 a8 a9 a10 a11 a12 a13 a15 a16 : Nat → Int32), i + m = 20 → r ≤ 16 → (∀ q, q < r → ri_G a1 a2 a3 a7 a8 a9 a10 a11 a12 q) → wX_findRoutes_20 post (m + 1) (nI i) fj ff (nI r) fs fo fw a1 a2 a3 a4 a5 a6 a7 a8 a9 a10 a11 a12 a13 a14 a15 a16 a17 a18 a19 a20 a21 a22 a23 a24 a25 a26 := by
  intro m
  induction m with
  | zero =>
    intro i r a7 a8 a9 a10 a11 a12 a13 a15 a16 hi hr hG
    have e : i = 20 := by omega
    subst e
    exact pk_le 20 20 (fun _ => rf_48 hr rfl a14 (fun b14 hC => K r a7 a8 a9 a10 a11 a12 a13 b14 a15 a16 hr hG hC)) (fun z => absurd z (by omega))
  | succ m ih =>
    intro i r a7 a8 a9 a10 a11 a12 a13 a15 a16 hi hr hG
    refine pk_le 20 i (fun z => absurd z (by omega)) (fun _ => ⟨pk_in i 20 (by omega), br_c (fun _ => nm_r (nI_1 i) (ih (i + 1) r a7 a8 a9 a10 a11 a12 a13 a15 a16 (by omega) hr hG)) (fun _ => ?_)⟩)
    refine rf_follow rfl hr hY (by omega) hG (fun r' b7 b8 b9 b10 b11 b12 b13 b15 b16 hr' hG' => nm_r (nI_1 i) ?_)
    exact ih (i + 1) r' b7 b8 b9 b10 b11 b12 b13 b15 b16 (by omega) hr' hG'
/-- finding the routes anew -/
theorem rf_find0 {post : St1 → Prop} {fj ff fr fs fo fw : Int32} {a1 a2 a3 a4 a5 a6 a7 a8 a9 a10 a11 a12 a13 a14 a15 a16 a17 a18 a19 a20 a21 a22 a23 a24 a25 a26 : Nat → Int32} {nj : Nat} (hf : ff = 0) (hY : ri_Y nj a1 a2 a3 a4)
    (K : ∀ (n : Nat) (a7 a8 a9 a10 a11 a12 a13 a14 a15 a16 : Nat → Int32), n ≤ 16 → (∀ q, q < n → ri_G a1 a2 a3 a7 a8 a9 a10 a11 a12 q) → ri_C n a11 a12 a13 a14 → post (fj, 1, nI n, fs, fo, fw, a1, a2, a3, a4, a5, a6, a7, a8, a9, a10, a11, a12, a13, a14, a15, a16, a17, a18, a19, a20, a21, a22, a23, a24, a25, a26)) : wpX_findRoutes post (fj, ff, fr, fs, fo, fw, a1, a2, a3, a4, a5, a6, a7, a8, a9, a10, a11, a12, a13, a14, a15, a16, a17, a18, a19, a20, a21, a22, a23, a24, a25, a26) := by
  unfold wpX_findRoutes
  dsimp only
  exact br_t hf ⟨20 + 1, rf_20 hY a14 K 20 0 0 a7 a8 a9 a10 a11 a12 a13 a15 a16 (by omega) (by omega) (fun q hq => absurd hq (by omega))⟩
end
section
/-! what goes on, as a pure picture: trains, routes, held places -/
def rd_u {α : Type} (f : Nat → α) (t : Nat) (v : α) : Nat → α := fun x => if x = t then v else f x
theorem rd_us {α : Type} {f : Nat → α} {t : Nat} {v : α} : rd_u f t v t = v := if_pos rfl
theorem rd_un {α : Type} {f : Nat → α} {t x : Nat} {v : α} (h : x ≠ t) : rd_u f t v x = f x := if_neg h
def rd_D (n : Nat) (len en : Nat → Nat) (S oc : Nat → Bool) (hd ro : Nat → Option Nat) (pg : Nat → Nat) (tr : Nat → Option Nat) (wt : Nat → Nat) (H : Nat → Bool) : Prop :=
  (∀ r, S r = true → r < n) ∧
  (∀ r t, S r = true → tr r = some t → t < 3 ∧ ro t = some r ∧ wt r = 0) ∧
  (∀ t r, t < 3 → ro t = some r → S r = true ∧ tr r = some t ∧ pg t < len r ∧ hd t ≠ none) ∧
  (∀ s, oc s = true ↔ ∃ t h, t < 3 ∧ hd t = some h ∧ h / 2 = s) ∧
  (∀ t t' h h', t < 3 → t' < 3 → hd t = some h → hd t' = some h' → h / 2 = h' / 2 → t = t') ∧
  (∀ i, i < 80 → (H i = true ↔ S (i / 5) = true ∧ i % 5 < len (i / 5) ∧ ∀ t, tr (i / 5) = some t → pg t ≤ i % 5 + 1)) ∧
  (∀ i, i < 80 → H i = true → oc (en i / 2) = true → ∃ t, tr (i / 5) = some t ∧ pg t = i % 5 + 1)
section
variable {n : Nat} {len en : Nat → Nat} {S oc S' oc' : Nat → Bool} {hd ro : Nat → Option Nat} {pg : Nat → Nat} {tr : Nat → Option Nat} {wt : Nat → Nat} {H H' : Nat → Bool}
theorem rd_put {t a : Nat} (d : rd_D n len en S oc hd ro pg tr wt H) (ht : t < 3) (hh : hd t = none) (ho : oc (a / 2) = false) (hf : ∀ i, i < 80 → H i = true → en i / 2 ≠ a / 2) (hoc : ∀ s, oc' s = (oc s || decide (s = a / 2))) :
    rd_D n len en S oc' (rd_u hd t (some a)) (rd_u ro t none) pg tr wt H := by
  obtain ⟨d1, d2, d3, d4, d5, d6, d7⟩ := d
  refine ⟨d1, fun r t' hS htr => ?_, fun t' r ht' hro => ?_, fun s => ?_, fun t1 t2 h1 h2 ht1 ht2 e1 e2 he => ?_, d6, fun i hi hH hoi => ?_⟩
  · obtain ⟨u1, u2, u3⟩ := d2 r t' hS htr
    refine ⟨u1, ?_, u3⟩
    have : t' ≠ t := fun z => (d3 t' r u1 u2).2.2.2 (by rw [z]; exact hh)
    rw [rd_un this]
    exact u2
  · by_cases e : t' = t
    · subst e
      rw [rd_us] at hro
      exact absurd hro (by simp)
    · rw [rd_un e] at hro ⊢
      exact d3 t' r ht' hro
  · rw [hoc, Bool.or_eq_true, d4 s, decide_eq_true_eq]
    constructor
    · rintro (⟨t', h, u1, u2, u3⟩ | u)
      · have : t' ≠ t := fun z => by rw [z, hh] at u2; exact absurd u2 (by simp)
        exact ⟨t', h, u1, by rw [rd_un this]; exact u2, u3⟩
      · exact ⟨t, a, ht, rd_us, u.symm⟩
    · rintro ⟨t', h, u1, u2, u3⟩
      by_cases e : t' = t
      · subst e
        rw [rd_us] at u2
        injection u2 with u2
        subst u2
        exact Or.inr u3.symm
      · rw [rd_un e] at u2
        exact Or.inl ⟨t', h, u1, u2, u3⟩
  · have key : ∀ t' h', t' < 3 → t' ≠ t → hd t' = some h' → h' / 2 ≠ a / 2 := by
      intro t' h' ht' _ eh z
      have : oc (a / 2) = true := (d4 _).mpr ⟨t', h', ht', eh, z⟩
      rw [ho] at this
      exact absurd this (by decide)
    by_cases e : t1 = t
    · by_cases e' : t2 = t
      · rw [e, e']
      · rw [e, rd_us] at e1
        injection e1 with e1
        rw [rd_un e'] at e2
        exact absurd (by rw [e1, he]) (key t2 h2 ht2 e' e2)
    · by_cases e' : t2 = t
      · rw [e', rd_us] at e2
        injection e2 with e2
        rw [rd_un e] at e1
        exact absurd (by rw [e2, he]) (key t1 h1 ht1 e e1)
      · rw [rd_un e] at e1
        rw [rd_un e'] at e2
        exact d5 t1 t2 h1 h2 ht1 ht2 e1 e2 he
  · rw [hoc, Bool.or_eq_true, decide_eq_true_eq] at hoi
    exact d7 i hi hH (hoi.resolve_right (hf i hi hH))
theorem rd_turn1 {t h h' : Nat} (d : rd_D n len en S oc hd ro pg tr wt H) (ht : t < 3) (hh : hd t = some h) (h2 : h' / 2 = h / 2) : rd_D n len en S oc (rd_u hd t (some h')) ro pg tr wt H := by
  obtain ⟨d1, d2, d3, d4, d5, d6, d7⟩ := d
  have back : ∀ x g, rd_u hd t (some h') x = some g → ∃ g', hd x = some g' ∧ g' / 2 = g / 2 := by
    intro x g e
    by_cases z : x = t
    · rw [z, rd_us] at e
      injection e with e
      exact ⟨h, by rw [z, hh], by rw [← e, h2]⟩
    · rw [rd_un z] at e
      exact ⟨g, e, rfl⟩
  refine ⟨d1, d2, fun t' r ht' hro => ?_, fun s => ?_, fun t1 t2 h1 h2 ht1 ht2 e1 e2 he => ?_, d6, d7⟩
  · obtain ⟨u1, u2, u3, u4⟩ := d3 t' r ht' hro
    refine ⟨u1, u2, u3, ?_⟩
    by_cases z : t' = t
    · rw [z, rd_us]
      simp
    · rw [rd_un z]
      exact u4
  · rw [d4 s]
    constructor
    · rintro ⟨t', g, u1, u2, u3⟩
      by_cases z : t' = t
      · refine ⟨t', h', u1, by rw [z, rd_us], ?_⟩
        rw [z, hh] at u2
        injection u2 with u2
        rw [h2, u2, u3]
      · exact ⟨t', g, u1, by rw [rd_un z]; exact u2, u3⟩
    · rintro ⟨t', g, u1, u2, u3⟩
      obtain ⟨g', v1, v2⟩ := back t' g u2
      exact ⟨t', g', u1, v1, by rw [v2, u3]⟩
  · obtain ⟨g1, v1, w1⟩ := back t1 h1 e1
    obtain ⟨g2, v2, w2⟩ := back t2 _ e2
    exact d5 t1 t2 g1 g2 ht1 ht2 v1 v2 (by omega)
theorem rd_turn0 {t h : Nat} (d : rd_D n len en S oc hd ro pg tr wt H) (ht : t < 3) (hh : hd t = some h) (hr : ro t = none) (hoc : ∀ s, oc' s = (oc s && !decide (s = h / 2))) : rd_D n len en S oc' (rd_u hd t none) ro pg tr wt H := by
  obtain ⟨d1, d2, d3, d4, d5, d6, d7⟩ := d
  have back : ∀ x g, rd_u hd t none x = some g → x ≠ t ∧ hd x = some g := by
    intro x g e
    by_cases z : x = t
    · rw [z, rd_us] at e
      exact absurd e (by simp)
    · rw [rd_un z] at e
      exact ⟨z, e⟩
  refine ⟨d1, d2, fun t' r ht' hro => ?_, fun s => ?_, fun t1 t2 h1 h2 ht1 ht2 e1 e2 he => ?_, d6, fun i hi hH hoi => ?_⟩
  · obtain ⟨u1, u2, u3, u4⟩ := d3 t' r ht' hro
    refine ⟨u1, u2, u3, ?_⟩
    have : t' ≠ t := fun z => by rw [z, hr] at hro; exact absurd hro (by simp)
    rw [rd_un this]
    exact u4
  · rw [hoc, Bool.and_eq_true, d4 s]
    constructor
    · rintro ⟨⟨t', g, u1, u2, u3⟩, u⟩
      have hs : ¬ s = h / 2 := by simpa using u
      have : t' ≠ t := fun z => by
        rw [z, hh] at u2
        injection u2 with u2
        exact hs (by rw [← u3, u2])
      exact ⟨t', g, u1, by rw [rd_un this]; exact u2, u3⟩
    · rintro ⟨t', g, u1, u2, u3⟩
      obtain ⟨v1, v2⟩ := back t' g u2
      refine ⟨⟨t', g, u1, v2, u3⟩, ?_⟩
      have : ¬ s = h / 2 := fun z => v1 (d5 t' t g h u1 ht v2 hh (by omega))
      simp [this]
  · exact d5 t1 t2 h1 h2 ht1 ht2 (back t1 h1 e1).2 (back t2 h2 e2).2 he
  · rw [hoc, Bool.and_eq_true] at hoi
    exact d7 i hi hH hoi.1
theorem rd_wt {r w : Nat} (d : rd_D n len en S oc hd ro pg tr wt H) (h : S r = true → tr r = none) : rd_D n len en S oc hd ro pg tr (rd_u wt r w) H := by
  obtain ⟨d1, d2, d3, d4, d5, d6, d7⟩ := d
  refine ⟨d1, fun r' t hS htr => ?_, d3, d4, d5, d6, d7⟩
  have : r' ≠ r := fun z => by
    rw [z] at hS htr
    rw [h hS] at htr
    exact absurd htr (by simp)
  rw [rd_un this]
  exact d2 r' t hS htr
theorem rd_rel {r k : Nat} (d : rd_D n len en S oc hd ro pg tr wt H) (hk : k = 0) (ht : tr r = none) (hS : ∀ x, S' x = (S x && !decide (x = r))) (hH : ∀ i, i < 80 → H' i = (H i && !decide (i / 5 = r ∧ k ≤ i % 5 ∧ i % 5 < len r))) : rd_D n len en S' oc hd ro pg tr wt H' := by
  obtain ⟨d1, d2, d3, d4, d5, d6, d7⟩ := d
  subst hk
  have hS1 : ∀ x, S' x = true ↔ S x = true ∧ x ≠ r := by
    intro x
    rw [hS]
    simp
  have hH1 : ∀ i, i < 80 → (H' i = true ↔ H i = true ∧ ¬ (i / 5 = r ∧ 0 ≤ i % 5 ∧ i % 5 < len r)) := by
    intro i hi
    rw [hH i hi, Bool.and_eq_true, Bool.not_eq_true', decide_eq_false_iff_not]
  refine ⟨fun x hx => d1 x ((hS1 x).mp hx).1, fun x t hx htr => d2 x t ((hS1 x).mp hx).1 htr, fun t x ht' hro => ?_, d4, d5, fun i hi => ?_, fun i hi hHi hoi => d7 i hi ((hH1 i hi).mp hHi).1 hoi⟩
  · obtain ⟨u1, u2, u3, u4⟩ := d3 t x ht' hro
    refine ⟨(hS1 x).mpr ⟨u1, fun z => ?_⟩, u2, u3, u4⟩
    rw [z, ht] at u2
    exact absurd u2 (by simp)
  · rw [hH1 i hi, hS1, d6 i hi]
    constructor
    · rintro ⟨⟨u1, u2, u3⟩, u4⟩
      exact ⟨⟨u1, fun z => u4 ⟨z, Nat.zero_le _, by rw [← z]; exact u2⟩⟩, u2, u3⟩
    · rintro ⟨⟨u1, u2⟩, u3, u4⟩
      exact ⟨⟨u1, u3, u4⟩, fun z => u2 z.1⟩
theorem rd_set {r : Nat} (d : rd_D n len en S oc hd ro pg tr wt H) (hr : r < n) (h0 : S r = false) (hf : ∀ k, k < len r → oc (en (5 * r + k) / 2) = false) (hS : ∀ x, S' x = (S x || decide (x = r))) (hH : ∀ i, i < 80 → H' i = (H i || decide (i / 5 = r ∧ i % 5 < len r))) :
    rd_D n len en S' oc hd ro pg (rd_u tr r none) (rd_u wt r 0) H' := by
  obtain ⟨d1, d2, d3, d4, d5, d6, d7⟩ := d
  have hS1 : ∀ x, S' x = true ↔ S x = true ∨ x = r := by
    intro x
    rw [hS]
    simp
  have hne : ∀ x, S x = true → x ≠ r := fun x hx z => by
    rw [z, h0] at hx
    exact absurd hx (by decide)
  have hH1 : ∀ i, i < 80 → (H' i = true ↔ H i = true ∨ (i / 5 = r ∧ i % 5 < len r)) := by
    intro i hi
    rw [hH i hi, Bool.or_eq_true, decide_eq_true_eq]
  refine ⟨fun x hx => ?_, fun x t hx htr => ?_, fun t x ht' hro => ?_, d4, d5, fun i hi => ?_, fun i hi hHi hoi => ?_⟩
  · rcases (hS1 x).mp hx with z | z
    · exact d1 x z
    · rw [z]
      exact hr
  · by_cases e : x = r
    · rw [e, rd_us] at htr
      exact absurd htr (by simp)
    · rw [rd_un e] at htr ⊢
      exact d2 x t (((hS1 x).mp hx).resolve_right e) htr
  · obtain ⟨u1, u2, u3, u4⟩ := d3 t x ht' hro
    exact ⟨(hS1 x).mpr (Or.inl u1), by rw [rd_un (hne x u1)]; exact u2, u3, u4⟩
  · rw [hH1 i hi, hS1, d6 i hi]
    by_cases e : i / 5 = r
    · rw [e, rd_us]
      constructor
      · rintro (⟨u1, _⟩ | ⟨_, u2⟩)
        · exact absurd rfl (hne r u1)
        · exact ⟨Or.inr rfl, u2, fun t ht => absurd ht (by simp)⟩
      · rintro ⟨_, u2, _⟩
        exact Or.inr ⟨rfl, u2⟩
    · rw [rd_un e]
      constructor
      · rintro (⟨u1, u2⟩ | u)
        · exact ⟨Or.inl u1, u2⟩
        · exact absurd u.1 e
      · rintro ⟨u1, u2⟩
        exact Or.inl ⟨u1.resolve_right e, u2⟩
  · rcases (hH1 i hi).mp hHi with u | ⟨u1, u2⟩
    · obtain ⟨t, v1, v2⟩ := d7 i hi u hoi
      refine ⟨t, ?_, v2⟩
      rw [rd_un (hne _ ((d6 i hi).mp u).1)]
      exact v1
    · have := hf (i % 5) u2
      rw [show 5 * r + i % 5 = i by omega, hoi] at this
      exact absurd this (by decide)
theorem rd_assign {t r : Nat} (d : rd_D n len en S oc hd ro pg tr wt H) (ht : t < 3) (hS : S r = true) (htr : tr r = none) (hw : wt r = 0) (hro : ro t = none) (hhd : hd t ≠ none) (hl : 1 ≤ len r) :
    rd_D n len en S oc hd (rd_u ro t (some r)) (rd_u pg t 0) (rd_u tr r (some t)) wt H := by
  obtain ⟨d1, d2, d3, d4, d5, d6, d7⟩ := d
  have hne : ∀ x t', S x = true → tr x = some t' → t' ≠ t := fun x t' hx e z => by
    have := (d2 x t' hx e).2.1
    rw [z, hro] at this
    exact absurd this (by simp)
  refine ⟨d1, fun x t' hx e => ?_, fun t' x ht' e => ?_, d4, d5, fun i hi => ?_, fun i hi hHi hoi => ?_⟩
  · by_cases z : x = r
    · subst z
      rw [rd_us] at e
      injection e with e
      subst e
      exact ⟨ht, rd_us, hw⟩
    · rw [rd_un z] at e
      rw [rd_un (hne x t' hx e)]
      exact d2 x t' hx e
  · by_cases z : t' = t
    · subst z
      rw [rd_us] at e
      injection e with e
      subst e
      rw [rd_us, rd_us]
      exact ⟨hS, rfl, hl, hhd⟩
    · rw [rd_un z] at e ⊢
      obtain ⟨u1, u2, u3, u4⟩ := d3 t' x ht' e
      have : x ≠ r := fun w => by
        rw [w, htr] at u2
        exact absurd u2 (by simp)
      rw [rd_un this]
      exact ⟨u1, u2, u3, u4⟩
  · rw [d6 i hi]
    by_cases z : i / 5 = r
    · rw [z, rd_us]
      constructor
      · rintro ⟨u1, u2, u3⟩
        refine ⟨u1, u2, fun t' e => ?_⟩
        injection e with e
        subst e
        rw [rd_us]
        omega
      · rintro ⟨u1, u2, u3⟩
        exact ⟨u1, u2, fun t' e => by rw [htr] at e; exact absurd e (by simp)⟩
    · rw [rd_un z]
      constructor
      · rintro ⟨u1, u2, u3⟩
        exact ⟨u1, u2, fun t' e => by rw [rd_un (hne _ t' u1 e)]; exact u3 t' e⟩
      · rintro ⟨u1, u2, u3⟩
        refine ⟨u1, u2, fun t' e => ?_⟩
        have := u3 t' e
        rw [rd_un (hne _ t' u1 e)] at this
        exact this
  · obtain ⟨t', v1, v2⟩ := d7 i hi hHi hoi
    have hSi := ((d6 i hi).mp hHi).1
    have z : i / 5 ≠ r := fun w => by
      rw [w, htr] at v1
      exact absurd v1 (by simp)
    exact ⟨t', by rw [rd_un z]; exact v1, by rw [rd_un (hne _ t' hSi v1)]; exact v2⟩
/-- the place ahead of a train is held and nobody is there -/
theorem rd_ahead {t r p : Nat} (d : rd_D n len en S oc hd ro pg tr wt H) (hn : n ≤ 16) (hl : len r ≤ 5) (ht : t < 3) (hro : ro t = some r) (hp : pg t = p) :
    S r = true ∧ r < n ∧ tr r = some t ∧ p < len r ∧ H (5 * r + p) = true ∧ oc (en (5 * r + p) / 2) = false := by
  obtain ⟨d1, d2, d3, d4, d5, d6, d7⟩ := d
  obtain ⟨u1, u2, u3, u4⟩ := d3 t r ht hro
  have hr := d1 r u1
  have hH : H (5 * r + p) = true := by
    refine (d6 (5 * r + p) (by omega)).mpr ?_
    rw [show (5 * r + p) / 5 = r by omega, show (5 * r + p) % 5 = p by omega]
    refine ⟨u1, by omega, fun t' e => ?_⟩
    rw [u2] at e
    injection e with e
    subst e
    omega
  refine ⟨u1, hr, u2, by omega, hH, ?_⟩
  cases e : oc (en (5 * r + p) / 2)
  · rfl
  · obtain ⟨t', v1, v2⟩ := d7 _ (by omega) hH e
    rw [show (5 * r + p) / 5 = r by omega, u2] at v1
    injection v1 with v1
    subst v1
    omega
/-- heads and sections after a step of train t into section e' -/
theorem rd_heads {t h e : Nat} (ht : t < 3) (hh : hd t = some h) (d4 : ∀ s, oc s = true ↔ ∃ t h, t < 3 ∧ hd t = some h ∧ h / 2 = s) (d5 : ∀ t t' h h', t < 3 → t' < 3 → hd t = some h → hd t' = some h' → h / 2 = h' / 2 → t = t')
    (hf : oc (e / 2) = false) (hoc : ∀ s, oc' s = ((oc s && !decide (s = h / 2)) || decide (s = e / 2))) :
    (∀ s, oc' s = true ↔ ∃ t' h, t' < 3 ∧ rd_u hd t (some e) t' = some h ∧ h / 2 = s) ∧ (∀ t1 t2 h h', t1 < 3 → t2 < 3 → rd_u hd t (some e) t1 = some h → rd_u hd t (some e) t2 = some h' → h / 2 = h' / 2 → t1 = t2) := by
  have key : ∀ t' h', t' < 3 → hd t' = some h' → h' / 2 ≠ e / 2 := by
    intro t' h' ht' eh z
    have : oc (e / 2) = true := (d4 _).mpr ⟨t', h', ht', eh, z⟩
    rw [hf] at this
    exact absurd this (by decide)
  constructor
  · intro s
    rw [hoc, Bool.or_eq_true, Bool.and_eq_true, d4 s, decide_eq_true_eq]
    constructor
    · rintro (⟨⟨t', g, u1, u2, u3⟩, u⟩ | u)
      · have hs : ¬ s = h / 2 := by simpa using u
        have : t' ≠ t := fun z => by
          rw [z, hh] at u2
          injection u2 with u2
          exact hs (by rw [← u3, u2])
        exact ⟨t', g, u1, by rw [rd_un this]; exact u2, u3⟩
      · exact ⟨t, e, ht, rd_us, u.symm⟩
    · rintro ⟨t', g, u1, u2, u3⟩
      by_cases z : t' = t
      · rw [z, rd_us] at u2
        injection u2 with u2
        exact Or.inr (by rw [← u3, u2])
      · rw [rd_un z] at u2
        refine Or.inl ⟨⟨t', g, u1, u2, u3⟩, ?_⟩
        have : ¬ s = h / 2 := fun w => z (d5 t' t g h u1 ht u2 hh (by omega))
        simp [this]
  · intro t1 t2 h1 h2 ht1 ht2 e1 e2 he
    by_cases z : t1 = t
    · by_cases z' : t2 = t
      · rw [z, z']
      · rw [z, rd_us] at e1
        injection e1 with e1
        rw [rd_un z'] at e2
        exact absurd (by rw [e1, he]) (key t2 h2 ht2 e2)
    · by_cases z' : t2 = t
      · rw [z', rd_us] at e2
        injection e2 with e2
        rw [rd_un z] at e1
        exact absurd (by rw [e2, he]) (key t1 h1 ht1 e1)
      · rw [rd_un z] at e1
        rw [rd_un z'] at e2
        exact d5 t1 t2 h1 h2 ht1 ht2 e1 e2 he
theorem rd_adv1 {t r p h e : Nat} (d : rd_D n len en S oc hd ro pg tr wt H) (hn : n ≤ 16) (hl : len r ≤ 5) (hinj : ∀ i i', i < 80 → i' < 80 → H i = true → H i' = true → en i / 2 = en i' / 2 → i = i') (ht : t < 3) (hro : ro t = some r) (hp : pg t = p) (hpl : p + 1 < len r) (hh : hd t = some h) (he : e / 2 = en (5 * r + p) / 2)
    (hoc : ∀ s, oc' s = ((oc s && !decide (s = h / 2)) || decide (s = en (5 * r + p) / 2))) (hH : ∀ i, i < 80 → H' i = (H i && !decide (1 ≤ p ∧ i = 5 * r + (p - 1)))) :
    rd_D n len en S oc' (rd_u hd t (some e)) ro (rd_u pg t (p + 1)) tr wt H' := by
  obtain ⟨a1, a2, a3, a4, a5, a6⟩ := rd_ahead d hn hl ht hro hp
  obtain ⟨d1, d2, d3, d4, d5, d6, d7⟩ := d
  obtain ⟨n4, n5⟩ := rd_heads (e := e) ht hh d4 d5 (by rw [he]; exact a6) (by rw [he]; exact hoc)
  have hH1 : ∀ i, i < 80 → (H' i = true ↔ H i = true ∧ ¬ (1 ≤ p ∧ i = 5 * r + (p - 1))) := by
    intro i hi
    rw [hH i hi, Bool.and_eq_true, Bool.not_eq_true', decide_eq_false_iff_not]
  have hne : ∀ x t', S x = true → tr x = some t' → x ≠ r → t' ≠ t := fun x t' hx ex hxr z => by
    have := (d2 x t' hx ex).2.1
    rw [z, hro] at this
    injection this with this
    exact hxr this.symm
  refine ⟨d1, d2, fun t' x ht' ex => ?_, n4, n5, fun i hi => ?_, fun i hi hHi hoi => ?_⟩
  · obtain ⟨u1, u2, u3, u4⟩ := d3 t' x ht' ex
    by_cases z : t' = t
    · subst z
      rw [rd_us, rd_us]
      rw [hro] at ex
      injection ex with ex
      subst ex
      exact ⟨u1, u2, hpl, by simp⟩
    · rw [rd_un z, rd_un z]
      exact ⟨u1, u2, u3, u4⟩
  · rw [hH1 i hi, d6 i hi]
    by_cases z : i / 5 = r
    · rw [z, a3]
      constructor
      · rintro ⟨⟨u1, u2, u3⟩, u4⟩
        refine ⟨u1, u2, fun t' et => ?_⟩
        have u5 := u3 t' et
        injection et with et
        subst et
        rw [rd_us]
        rw [hp] at u5
        omega
      · rintro ⟨u1, u2, u3⟩
        have u5 := u3 t rfl
        rw [rd_us] at u5
        refine ⟨⟨u1, u2, fun t' et => ?_⟩, fun w => ?_⟩
        · injection et with et
          subst et
          omega
        · omega
    · have nz : ¬ (1 ≤ p ∧ i = 5 * r + (p - 1)) := by omega
      constructor
      · rintro ⟨⟨u1, u2, u3⟩, u4⟩
        exact ⟨u1, u2, fun t' et => by rw [rd_un (hne _ t' u1 et z)]; exact u3 t' et⟩
      · rintro ⟨u1, u2, u3⟩
        refine ⟨⟨u1, u2, fun t' et => ?_⟩, nz⟩
        have := u3 t' et
        rw [rd_un (hne _ t' u1 et z)] at this
        exact this
  · obtain ⟨hHo, hno⟩ := (hH1 i hi).mp hHi
    rw [hoc, Bool.or_eq_true, Bool.and_eq_true, decide_eq_true_eq] at hoi
    by_cases z : i = 5 * r + p
    · subst z
      rw [show (5 * r + p) / 5 = r by omega, show (5 * r + p) % 5 = p by omega]
      exact ⟨t, a3, rd_us⟩
    · have ho : oc (en i / 2) = true := by
        rcases hoi with w | w
        · exact w.1
        · exact absurd (hinj i (5 * r + p) hi (by omega) hHo a5 w) z
      obtain ⟨t', v1, v2⟩ := d7 i hi hHo ho
      have hSi := ((d6 i hi).mp hHo).1
      by_cases zr : i / 5 = r
      · rw [zr, a3] at v1
        injection v1 with v1
        subst v1
        rw [hp] at v2
        exact absurd ⟨by omega, by omega⟩ hno
      · exact ⟨t', v1, by rw [rd_un (hne _ t' hSi v1 zr)]; exact v2⟩
theorem rd_adv2 {t r p h e : Nat} (d : rd_D n len en S oc hd ro pg tr wt H) (hn : n ≤ 16) (hl : len r ≤ 5) (hinj : ∀ i i', i < 80 → i' < 80 → H i = true → H i' = true → en i / 2 = en i' / 2 → i = i') (ht : t < 3) (hro : ro t = some r) (hp : pg t = p) (hpl : p + 1 = len r) (hh : hd t = some h) (he : e / 2 = en (5 * r + p) / 2)
    (hoc : ∀ s, oc' s = ((oc s && !decide (s = h / 2)) || decide (s = en (5 * r + p) / 2))) (hS : ∀ x, S' x = (S x && !decide (x = r))) (hH : ∀ i, i < 80 → H' i = ((H i && !decide (1 ≤ p ∧ i = 5 * r + (p - 1))) && !decide (i / 5 = r ∧ p ≤ i % 5 ∧ i % 5 < len r))) :
    rd_D n len en S' oc' (rd_u hd t (some e)) (rd_u ro t none) (rd_u pg t (p + 1)) tr wt H' := by
  obtain ⟨a1, a2, a3, a4, a5, a6⟩ := rd_ahead d hn hl ht hro hp
  obtain ⟨d1, d2, d3, d4, d5, d6, d7⟩ := d
  obtain ⟨n4, n5⟩ := rd_heads (e := e) ht hh d4 d5 (by rw [he]; exact a6) (by rw [he]; exact hoc)
  have hS1 : ∀ x, S' x = true ↔ S x = true ∧ x ≠ r := by
    intro x
    rw [hS]
    simp
  have hH1 : ∀ i, i < 80 → (H' i = true ↔ H i = true ∧ ¬ (1 ≤ p ∧ i = 5 * r + (p - 1)) ∧ ¬ (i / 5 = r ∧ p ≤ i % 5 ∧ i % 5 < len r)) := by
    intro i hi
    rw [hH i hi, Bool.and_eq_true, Bool.and_eq_true, Bool.not_eq_true', decide_eq_false_iff_not, Bool.not_eq_true', decide_eq_false_iff_not, and_assoc]
  have hne : ∀ x t', S x = true → tr x = some t' → x ≠ r → t' ≠ t := fun x t' hx ex hxr z => by
    have := (d2 x t' hx ex).2.1
    rw [z, hro] at this
    injection this with this
    exact hxr this.symm
  refine ⟨fun x hx => d1 x ((hS1 x).mp hx).1, fun x t' hx ex => ?_, fun t' x ht' ex => ?_, n4, n5, fun i hi => ?_, fun i hi hHi hoi => ?_⟩
  · obtain ⟨hx1, hx2⟩ := (hS1 x).mp hx
    rw [rd_un (hne x t' hx1 ex hx2)]
    exact d2 x t' hx1 ex
  · by_cases z : t' = t
    · rw [z, rd_us] at ex
      exact absurd ex (by simp)
    · rw [rd_un z] at ex
      rw [rd_un z, rd_un z]
      obtain ⟨u1, u2, u3, u4⟩ := d3 t' x ht' ex
      refine ⟨(hS1 x).mpr ⟨u1, fun w => ?_⟩, u2, u3, u4⟩
      rw [w, a3] at u2
      injection u2 with u2
      exact z u2.symm
  · rw [hH1 i hi, hS1, d6 i hi]
    by_cases z : i / 5 = r
    · constructor
      · rintro ⟨⟨u1, u2, u3⟩, u4, u5⟩
        have u6 := u3 t (by rw [z]; exact a3)
        rw [z] at u2
        omega
      · rintro ⟨⟨_, u⟩, _⟩
        exact absurd z u
    · have nz : ¬ (1 ≤ p ∧ i = 5 * r + (p - 1)) := by omega
      constructor
      · rintro ⟨⟨u1, u2, u3⟩, _⟩
        exact ⟨⟨u1, z⟩, u2, fun t' et => by rw [rd_un (hne _ t' u1 et z)]; exact u3 t' et⟩
      · rintro ⟨⟨u1, _⟩, u2, u3⟩
        refine ⟨⟨u1, u2, fun t' et => ?_⟩, nz, fun w => z w.1⟩
        have := u3 t' et
        rw [rd_un (hne _ t' u1 et z)] at this
        exact this
  · obtain ⟨hHo, hno, hno2⟩ := (hH1 i hi).mp hHi
    rw [hoc, Bool.or_eq_true, Bool.and_eq_true, decide_eq_true_eq] at hoi
    have hSi := (d6 i hi).mp hHo
    have z : i / 5 ≠ r := fun w => by
      have u6 := hSi.2.2 t (by rw [w]; exact a3)
      have u7 := hSi.2.1
      rw [w] at u7
      omega
    have ho : oc (en i / 2) = true := by
      rcases hoi with w | w
      · exact w.1
      · have := hinj i (5 * r + p) hi (by omega) hHo a5 w
        omega
    obtain ⟨t', v1, v2⟩ := d7 i hi hHo ho
    exact ⟨t', v1, by rw [rd_un (hne _ t' hSi.1 v1 z)]; exact v2⟩
end
end
section
/-! the invariant, and the walks of what goes on -/
/-- trains and routes: arrays against the picture -/
def ri_M (hd ro : Nat → Option Nat) (pg : Nat → Nat) (tr : Nat → Option Nat) (wt : Nat → Nat) (a17 a18 a21 a22 a23 : Nat → Int32) : Prop :=
  (∀ r, r < 16 → a17 r = nI (wt r) ∧ wt r ≤ 3) ∧ (∀ r, r < 16 → a18 r = rn_o (tr r) ∧ ∀ t, tr r = some t → t < 3) ∧
  (∀ t, t < 3 → a21 t = rn_o (hd t) ∧ ∀ h, hd t = some h → h < 20) ∧ (∀ t, t < 3 → a22 t = rn_o (ro t) ∧ ∀ r, ro t = some r → r < 16) ∧ (∀ t, t < 3 → a23 t = nI (pg t) ∧ pg t ≤ 5)
/-- yard and routes -/
def ri_S (n : Nat) (fj ff fr : Int32) (a1 a2 a3 a4 a7 a8 a9 a10 a11 a12 a13 a14 : Nat → Int32) : Prop :=
  ff = 1 ∧ fr = nI n ∧ n ≤ 16 ∧ (∃ nj, fj = nI nj ∧ ri_Y nj a1 a2 a3 a4) ∧ (∀ r, r < n → ri_G a1 a2 a3 a7 a8 a9 a10 a11 a12 r) ∧ ri_C n a11 a12 a13 a14
/-- what goes on -/
def ri_V (n : Nat) (hd ro : Nat → Option Nat) (pg : Nat → Nat) (tr : Nat → Option Nat) (wt : Nat → Nat) (H ps : Nat → Bool) (fs fo : Int32) (a1 a2 a3 a6 a8 a9 a10 a12 a13 a17 a18 a19 a20 a21 a22 a23 : Nat → Int32) : Prop :=
  ri_M hd ro pg tr wt a17 a18 a21 a22 a23 ∧ ri_LN (fun i => rn_v (a10 i)) (ri_T a1 a2 a3 a9) H a19 a20 ∧ rd_D n (fun r => rn_v (a8 r)) (fun i => rn_v (a10 i)) (rb_t fs) (rb_t fo) hd ro pg tr wt H ∧
  (∀ a, a < 20 → a6 a = rb_b (ps a)) ∧ (∀ r, rb_t fs r = true → tr r = none → ∀ a, a < 20 → rb_t (a12 r) a = true → rb_t (a13 r) a = ps a)
def ri_E (n : Nat) (fs fo : Int32) (a1 a2 a3 a6 a8 a9 a10 a12 a13 a17 a18 a19 a20 a21 a22 a23 : Nat → Int32) : Prop :=
  ∃ hd ro pg tr wt H ps, ri_V n hd ro pg tr wt H ps fs fo a1 a2 a3 a6 a8 a9 a10 a12 a13 a17 a18 a19 a20 a21 a22 a23
section
variable {hd ro : Nat → Option Nat} {pg : Nat → Nat} {tr : Nat → Option Nat} {wt : Nat → Nat} {a17 a18 a21 a22 a23 : Nat → Int32}
theorem ri_M17 {r w : Nat} (m : ri_M hd ro pg tr wt a17 a18 a21 a22 a23) (hw : w ≤ 3) : ri_M hd ro pg tr (rd_u wt r w) (upd a17 r (nI w)) a18 a21 a22 a23 := by
  refine ⟨fun x hx => ?_, m.2⟩
  by_cases e : x = r
  · rw [e, pk_us, rd_us]
    exact ⟨rfl, hw⟩
  · rw [pk_un e, rd_un e]
    exact m.1 x hx
theorem ri_M18 {r : Nat} {o : Option Nat} (m : ri_M hd ro pg tr wt a17 a18 a21 a22 a23) (ho : ∀ t, o = some t → t < 3) : ri_M hd ro pg (rd_u tr r o) wt a17 (upd a18 r (rn_o o)) a21 a22 a23 := by
  refine ⟨m.1, fun x hx => ?_, m.2.2⟩
  by_cases e : x = r
  · rw [e, pk_us, rd_us]
    exact ⟨rfl, ho⟩
  · rw [pk_un e, rd_un e]
    exact m.2.1 x hx
theorem ri_M21 {t : Nat} {o : Option Nat} (m : ri_M hd ro pg tr wt a17 a18 a21 a22 a23) (ho : ∀ t, o = some t → t < 20) : ri_M (rd_u hd t o) ro pg tr wt a17 a18 (upd a21 t (rn_o o)) a22 a23 := by
  refine ⟨m.1, m.2.1, fun x hx => ?_, m.2.2.2⟩
  by_cases e : x = t
  · rw [e, pk_us, rd_us]
    exact ⟨rfl, ho⟩
  · rw [pk_un e, rd_un e]
    exact m.2.2.1 x hx
theorem ri_M22 {t : Nat} {o : Option Nat} (m : ri_M hd ro pg tr wt a17 a18 a21 a22 a23) (ho : ∀ t, o = some t → t < 16) : ri_M hd (rd_u ro t o) pg tr wt a17 a18 a21 (upd a22 t (rn_o o)) a23 := by
  refine ⟨m.1, m.2.1, m.2.2.1, fun x hx => ?_, m.2.2.2.2⟩
  by_cases e : x = t
  · rw [e, pk_us, rd_us]
    exact ⟨rfl, ho⟩
  · rw [pk_un e, rd_un e]
    exact m.2.2.2.1 x hx
theorem ri_M23 {t p : Nat} (m : ri_M hd ro pg tr wt a17 a18 a21 a22 a23) (hp : p ≤ 5) : ri_M hd ro (rd_u pg t p) tr wt a17 a18 a21 a22 (upd a23 t (nI p)) := by
  refine ⟨m.1, m.2.1, m.2.2.1, m.2.2.2.1, fun x hx => ?_⟩
  by_cases e : x = t
  · rw [e, pk_us, rd_us]
    exact ⟨rfl, hp⟩
  · rw [pk_un e, rd_un e]
    exact m.2.2.2.2 x hx
end
theorem rm_isEnd {post : Int32 → Prop} {fj ff fr fs fo fw : Int32} {a1 a2 a3 a4 a5 a6 a7 a8 a9 a10 a11 a12 a13 a14 a15 a16 a17 a18 a19 a20 a21 a22 a23 a24 a25 a26 : Nat → Int32} {a : Nat} (ha : a < 20) (K : post 1) : wpX_isEnd post (fj, ff, fr, fs, fo, fw, a1, a2, a3, a4, a5, a6, a7, a8, a9, a10, a11, a12, a13, a14, a15, a16, a17, a18, a19, a20, a21, a22, a23, a24, a25, a26) (nI a) := by
  unfold wpX_isEnd
  try dsimp only
  exact br_f (nI_pos (by omega)) (pk_le 20 a (fun z => absurd z (by omega)) (fun _ => K))
theorem rm_isTrain {post : Int32 → Prop} {fj ff fr fs fo fw : Int32} {a1 a2 a3 a4 a5 a6 a7 a8 a9 a10 a11 a12 a13 a14 a15 a16 a17 a18 a19 a20 a21 a22 a23 a24 a25 a26 : Nat → Int32} {t : Nat} (ht : t < 3) (K : post 1) : wpX_isTrain post (fj, ff, fr, fs, fo, fw, a1, a2, a3, a4, a5, a6, a7, a8, a9, a10, a11, a12, a13, a14, a15, a16, a17, a18, a19, a20, a21, a22, a23, a24, a25, a26) (nI t) := by
  unfold wpX_isTrain
  try dsimp only
  exact br_f (nI_pos (by omega)) (pk_le 3 t (fun z => absurd z (by omega)) (fun _ => K))
theorem rm_quiet {post : Int32 → Prop} {fj ff fr fs fo fw : Int32} {a1 a2 a3 a4 a5 a6 a7 a8 a9 a10 a11 a12 a13 a14 a15 a16 a17 a18 a19 a20 a21 a22 a23 a24 a25 a26 : Nat → Int32} (K1 : fs = 0 → fo = 0 → post 1) (K0 : post 0) : wpX_isQuiet post (fj, ff, fr, fs, fo, fw, a1, a2, a3, a4, a5, a6, a7, a8, a9, a10, a11, a12, a13, a14, a15, a16, a17, a18, a19, a20, a21, a22, a23, a24, a25, a26) := by
  unfold wpX_isQuiet
  try dsimp only
  exact br_c (fun z => br_c (fun z2 => K1 z z2) (fun _ => K0)) (fun _ => K0)
/-- put -/
theorem rm_put {post : Int32 → St1 → Prop} {fj ff fr fs fo fw : Int32} {a1 a2 a3 a4 a5 a6 a7 a8 a9 a10 a11 a12 a13 a14 a15 a16 a17 a18 a19 a20 a21 a22 a23 a24 a25 a26 : Nat → Int32} {n t a : Nat} (ht : t < 3) (ha : a < 20) (E : ri_E n fs fo a1 a2 a3 a6 a8 a9 a10 a12 a13 a17 a18 a19 a20 a21 a22 a23) (K0 : post 0 (fj, ff, fr, fs, fo, fw, a1, a2, a3, a4, a5, a6, a7, a8, a9, a10, a11, a12, a13, a14, a15, a16, a17, a18, a19, a20, a21, a22, a23, a24, a25, a26))
    (K : ∀ (fo : Int32) (a21 a22 : Nat → Int32), ri_E n fs fo a1 a2 a3 a6 a8 a9 a10 a12 a13 a17 a18 a19 a20 a21 a22 a23 → post 1 (fj, ff, fr, fs, fo, fw, a1, a2, a3, a4, a5, a6, a7, a8, a9, a10, a11, a12, a13, a14, a15, a16, a17, a18, a19, a20, a21, a22, a23, a24, a25, a26)) : wpX_put post (fj, ff, fr, fs, fo, fw, a1, a2, a3, a4, a5, a6, a7, a8, a9, a10, a11, a12, a13, a14, a15, a16, a17, a18, a19, a20, a21, a22, a23, a24, a25, a26) (nI t) (nI a) := by
  obtain ⟨hd, ro, pg, tr, wt, H, ps, m, L, d, p1, p2⟩ := E
  obtain ⟨e21, b21⟩ := m.2.2.1 t ht
  have b21' : ∀ h, hd t = some h → h < 2 ^ 31 := fun h z => by have := b21 h z; omega
  unfold wpX_put
  try dsimp only
  refine rm_isTrain ht (br_f (by decide) ⟨pk_in t 3 ht, ?_⟩)
  rw [nI_clamp (show t < 2 ^ 31 by omega), e21]
  refine br_c (fun _ => K0) (fun z => rm_isEnd ha (br_f (by decide) ⟨by decide, ri_isOcc (rn_d2 (by omega)) (by omega) (fun _ => br_f (by decide) K0) (fun zo => br_t rfl ⟨by decide, ?_⟩)⟩))
  have hh : hd t = none := by
    cases e : hd t with
    | none => rfl
    | some h => exact absurd ((rn_opos b21').mpr (by rw [e]; simp)) z
  rw [rn_d2 (by omega), nI_clamp (show a / 2 < 2 ^ 31 by omega), rn_i8 a (by omega)]
  refine ⟨pk_in (a / 2) 10 (by omega), br_c (fun zl => ⟨pk_in t 3 ht, nm_e ⟨pk_in t 3 ht, nm_e ⟨by decide, nm_e ?_⟩⟩⟩) (fun _ => K0)⟩
  refine K _ _ _ ⟨rd_u hd t (some a), rd_u ro t none, pg, tr, wt, H, ps, ri_M22 (o := none) (ri_M21 (o := some a) m (fun h e => by injection e with e; omega)) (fun _ e => absurd e (by simp)), L, rd_put d ht hh zo (fun i hi hH e => ?_) (fun s => rb_set (by omega) fo s), p1, p2⟩
  have := L.1 i hi hH
  try dsimp only at this e
  rw [e] at this
  rw [this] at zl
  exact absurd zl (nI_pos (by omega))
/-- turn -/
theorem rm_turn {post : Int32 → St1 → Prop} {fj ff fr fs fo fw : Int32} {a1 a2 a3 a4 a5 a6 a7 a8 a9 a10 a11 a12 a13 a14 a15 a16 a17 a18 a19 a20 a21 a22 a23 a24 a25 a26 : Nat → Int32} {n t : Nat} {w : Int32} (ht : t < 3) (hw : w = 0 ∨ w = 1) (E : ri_E n fs fo a1 a2 a3 a6 a8 a9 a10 a12 a13 a17 a18 a19 a20 a21 a22 a23) (K0 : post 0 (fj, ff, fr, fs, fo, fw, a1, a2, a3, a4, a5, a6, a7, a8, a9, a10, a11, a12, a13, a14, a15, a16, a17, a18, a19, a20, a21, a22, a23, a24, a25, a26))
    (K : ∀ (fo : Int32) (a21 : Nat → Int32), ri_E n fs fo a1 a2 a3 a6 a8 a9 a10 a12 a13 a17 a18 a19 a20 a21 a22 a23 → post 1 (fj, ff, fr, fs, fo, fw, a1, a2, a3, a4, a5, a6, a7, a8, a9, a10, a11, a12, a13, a14, a15, a16, a17, a18, a19, a20, a21, a22, a23, a24, a25, a26)) : wpX_turn post (fj, ff, fr, fs, fo, fw, a1, a2, a3, a4, a5, a6, a7, a8, a9, a10, a11, a12, a13, a14, a15, a16, a17, a18, a19, a20, a21, a22, a23, a24, a25, a26) (nI t) w := by
  obtain ⟨hd, ro, pg, tr, wt, H, ps, m, L, d, p1, p2⟩ := E
  obtain ⟨e21, b21⟩ := m.2.2.1 t ht
  obtain ⟨e22, b22⟩ := m.2.2.2.1 t ht
  have b21' : ∀ h, hd t = some h → h < 2 ^ 31 := fun h z => by have := b21 h z; omega
  have b22' : ∀ h, ro t = some h → h < 2 ^ 31 := fun h z => by have := b22 h z; omega
  unfold wpX_turn
  try dsimp only
  refine rm_isTrain ht (br_f (by decide) ⟨pk_in t 3 ht, ?_⟩)
  rw [nI_clamp (show t < 2 ^ 31 by omega), e21, e22]
  refine br_c (fun _ => K0) (fun z => ⟨pk_in t 3 ht, br_c (fun _ => K0) (fun z2 => ?_)⟩)
  obtain ⟨h, hh⟩ : ∃ h, hd t = some h := by
    cases e : hd t with
    | none => exact absurd ((rn_oneg b21').mpr e) z
    | some h => exact ⟨h, rfl⟩
  have hr : ro t = none := by
    cases e : ro t with
    | none => rfl
    | some h => exact absurd ((rn_opos b22').mpr (by rw [e]; simp)) z2
  have h20 := b21 h hh
  rw [hh]
  show _
  have K1 : vp_in (nI t) 3 ∧ (vp_in (nI t) 3 ∧ ∀ a21_17 : Nat → Int32, a21_17 = upd a21 t (((nI h) ^^^ 1).toInt8.toInt32) → post 1 (fj, ff, fr, fs, fo, fw, a1, a2, a3, a4, a5, a6, a7, a8, a9, a10, a11, a12, a13, a14, a15, a16, a17, a18, a19, a20, a21_17, a22, a23, a24, a25, a26)) := by
    refine ⟨pk_in t 3 ht, pk_in t 3 ht, nm_e ?_⟩
    rw [(rn_xor h h20).2]
    exact K fo _ ⟨rd_u hd t (some (rn_x h)), ro, pg, tr, wt, H, ps, ri_M21 (o := some (rn_x h)) m (fun g e => by injection e with e; have := rn_x_lt h20; omega), L, rd_turn1 d ht hh (rn_x_2 h), p1, p2⟩
  have K2 : vp_in (nI t) 3 ∧ (¬ (2 : Int32) = 0 ∧ ∀ f : Int32, f = fo &&& (((1 : Int32) <<< ((nI h / 2) &&& 31)) ^^^ (-1)) → (vp_in (nI t) 3 ∧ ∀ a21_14 : Nat → Int32, a21_14 = upd a21 t (-1) → post 1 (fj, ff, fr, fs, f, fw, a1, a2, a3, a4, a5, a6, a7, a8, a9, a10, a11, a12, a13, a14, a15, a16, a17, a18, a19, a20, a21_14, a22, a23, a24, a25, a26))) := by
    refine ⟨pk_in t 3 ht, by decide, nm_e ⟨pk_in t 3 ht, nm_e ?_⟩⟩
    rw [rn_d2 (by omega)]
    exact K _ _ ⟨rd_u hd t none, ro, pg, tr, wt, H, ps, ri_M21 (o := none) m (fun g e => absurd e (by simp)), L, rd_turn0 d ht hh hr (fun s => rb_clr (by omega) fo s), p1, p2⟩
  rcases hw with e | e
  · subst e
    exact br_f (by decide) (br_t (by decide) (br_f (by decide) K2))
  · subst e
    exact br_f (by decide) (br_t (by decide) (br_t rfl K1))
/-- clearRoute -/
theorem rm_clear {post : Int32 → Prop} {fj ff fr fs fo fw : Int32} {a1 a2 a3 a4 a5 a6 a7 a8 a9 a10 a11 a12 a13 a14 a15 a16 a17 a18 a19 a20 a21 a22 a23 a24 a25 a26 : Nat → Int32} {n : Nat} {p0 : Int32} {wt : Nat → Nat} {tr : Nat → Option Nat} (hfr : fr = nI n) (hn : n ≤ 16) (h17 : ∀ r, r < 16 → a17 r = nI (wt r) ∧ wt r ≤ 3) (h18 : ∀ r, r < 16 → a18 r = rn_o (tr r) ∧ ∀ t, tr r = some t → t < 3)
    (K0 : post (-1)) (K1 : ∀ r, r < n → rb_t fs r = true → wt r = 0 → tr r = none → post (nI r)) : wpX_clearRoute post (fj, ff, fr, fs, fo, fw, a1, a2, a3, a4, a5, a6, a7, a8, a9, a10, a11, a12, a13, a14, a15, a16, a17, a18, a19, a20, a21, a22, a23, a24, a25, a26) p0 := by
  unfold wpX_clearRoute
  try dsimp only
  refine Exists.elim (pk_loop (σ := Unit) (fun m i _ => wX_clearRoute_2 post p0 fj ff fr fs fo fw a1 a2 a3 a4 a5 a6 a7 a8 a9 a10 a11 a12 a13 a14 a15 a16 a17 a18 a19 a20 a21 a22 a23 a24 a25 a26 m (nI i)) (fun _ _ => True) n 0 () (by omega) trivial ?_ ?_) (fun m hm => ⟨m, hm⟩)
  · intro m _ _
    exact pk_le n n (fun _ => K0) (fun z => absurd z (by omega)) hfr
  · intro m i _ hi _ hw
    have go : wX_clearRoute_2 post p0 fj ff fr fs fo fw a1 a2 a3 a4 a5 a6 a7 a8 a9 a10 a11 a12 a13 a14 a15 a16 a17 a18 a19 a20 a21 a22 a23 a24 a25 a26 m (nI (i + 1)) := hw () trivial
    obtain ⟨e17, b17⟩ := h17 i (by omega)
    obtain ⟨e18, b18⟩ := h18 i (by omega)
    refine pk_le n i (fun z => absurd z (by omega)) (fun _ => ri_isSet (by omega) (fun zs => br_f (by decide) ⟨pk_in i 16 (by omega), ?_⟩) (fun _ => br_t rfl (nm_r (nI_1 i) go))) hfr
    rw [nI_clamp (show i < 2 ^ 31 by omega), e17, e18]
    refine br_c (fun _ => ⟨pk_in i 16 (by omega), pk_eq (wt i) 0 (fun zw => ⟨pk_in i 16 (by omega), br_c (fun _ => nm_r (nI_1 i) go) (fun zt => K1 i hi zs zw ?_)⟩) (fun _ => nm_r (nI_1 i) go)⟩) (fun _ => nm_r (nI_1 i) go)
    cases e : tr i with
    | none => rfl
    | some t => exact absurd ((rn_opos (fun t z => by have := b18 t z; omega)).mpr (by rw [e]; simp)) zt
/-- a step of a train that has a route -/
theorem rm_51 {post : Int32 → St1 → Prop} {fj ff fr fs fo fw : Int32} {a1 a2 a3 a4 a5 a6 a7 a8 a9 a10 a11 a12 a13 a14 a15 a16 a17 a18 a19 a20 a21 a22 a23 a24 a25 a26 : Nat → Int32} {n t r : Nat} {hd ro : Nat → Option Nat} {pg : Nat → Nat} {tr : Nat → Option Nat} {wt : Nat → Nat} {H ps : Nat → Bool} (ht : t < 3) (s : ri_S n fj ff fr a1 a2 a3 a4 a7 a8 a9 a10 a11 a12 a13 a14) (v : ri_V n hd ro pg tr wt H ps fs fo a1 a2 a3 a6 a8 a9 a10 a12 a13 a17 a18 a19 a20 a21 a22 a23) (hro : ro t = some r)
    (K : ∀ (fs fo : Int32) (a19 a20 a21 a22 a23 : Nat → Int32), ri_E n fs fo a1 a2 a3 a6 a8 a9 a10 a12 a13 a17 a18 a19 a20 a21 a22 a23 → post 1 (fj, ff, fr, fs, fo, fw, a1, a2, a3, a4, a5, a6, a7, a8, a9, a10, a11, a12, a13, a14, a15, a16, a17, a18, a19, a20, a21, a22, a23, a24, a25, a26)) : wX_moveTrain_51 post (nI t) (nI r) fj ff fr fs fo fw a1 a2 a3 a4 a5 a6 a7 a8 a9 a10 a11 a12 a13 a14 a15 a16 a17 a18 a19 a20 a21 a22 a23 a24 a25 a26 := by
  obtain ⟨hff, hfr, hn, hY, hG, hC⟩ := s
  obtain ⟨m, L, d, p1, p2⟩ := v
  obtain ⟨u1, u2, u3, u4⟩ := d.2.2.1 t r ht hro
  have hrn : r < n := d.1 r u1
  have g := hG r hrn
  have h6 : rn_v (a8 r) < 6 := g.2.1.2
  have e8 : a8 r = nI (rn_v (a8 r)) := g.2.1.1
  obtain ⟨h, hh⟩ : ∃ h, hd t = some h := by
    cases e : hd t with
    | none => exact absurd e u4
    | some h => exact ⟨h, rfl⟩
  obtain ⟨e21, b21⟩ := m.2.2.1 t ht
  obtain ⟨e23, b23⟩ := m.2.2.2.2 t ht
  have h20 := b21 h hh
  rw [hh] at e21
  have e21' : a21 t = nI h := e21
  obtain ⟨p, hp⟩ : ∃ p, pg t = p := ⟨_, rfl⟩
  obtain ⟨_, _, a3', hpl, a5', a6'⟩ := rd_ahead d hn (by omega) ht hro hp
  try dsimp only at hpl a6'
  rw [hp] at e23 b23
  have l10 := (g.2.2.2.1 p hpl).1
  obtain ⟨e, he, e10⟩ := ri_ltE l10
  have ev : rn_v (a10 (5 * r + p)) = e := rn_cl e10 (by omega)
  have e5 : (5 * nI r + nI p : Int32) = nI (5 * r + p) := ri_5
  -- the last part of the step
  have C118 : ∀ (a19 a20 : Nat → Int32), ri_LN (fun i => rn_v (a10 i)) (ri_T a1 a2 a3 a9) (fun i => H i && !decide (1 ≤ p ∧ i = 5 * r + (p - 1))) a19 a20 →
      wX_moveTrain_118 post (nI t) (nI r) (nI p) (nI e) fj ff fr fs ((fo &&& (((1 : Int32) <<< (nI (h / 2) &&& 31)) ^^^ (-1))) ||| ((1 : Int32) <<< (nI (e / 2) &&& 31))) fw a1 a2 a3 a4 a5 a6 a7 a8 a9 a10 a11 a12 a13 a14 a15 a16 a17 a18 a19 a20 a21 a22 a23 a24 a25 a26 := by
    intro b19 b20 L1
    have hoc : ∀ s, rb_t ((fo &&& (((1 : Int32) <<< (nI (h / 2) &&& 31)) ^^^ (-1))) ||| ((1 : Int32) <<< (nI (e / 2) &&& 31))) s = ((rb_t fo s && !decide (s = h / 2)) || decide (s = rn_v (a10 (5 * r + p)) / 2)) := by
      intro s
      rw [rb_set (by omega), rb_clr (by omega), ev]
    unfold wX_moveTrain_118
    rw [nI_clamp (show t < 2 ^ 31 by omega), nI_clamp (show r < 2 ^ 31 by omega), (rn_xor e he).2, e23, rn_inc p (by omega)]
    have hx20 := rn_x_lt he
    have mm : ri_M (rd_u hd t (some (rn_x e))) ro (rd_u pg t (p + 1)) tr wt a17 a18 (upd a21 t (nI (rn_x e))) a22 (upd a23 t (nI (p + 1))) := ri_M23 (ri_M21 (o := some (rn_x e)) m (fun g z => by injection z with z; omega)) (by omega)
    refine ⟨pk_in t 3 ht, nm_e ⟨pk_in t 3 ht, pk_in t 3 ht, nm_e ⟨pk_in t 3 ht, pk_in r 16 (by omega), ?_⟩⟩⟩
    refine pk_eq (p + 1) (rn_v (a8 r)) (fun z => ?_) (fun z => ?_) pk_us e8
    · refine ri_release (by omega) g rfl (by omega) L1 (fun k' hk1 hk2 => ?_) (fun fs' a19' a20' hfs L2 => ⟨pk_in t 3 ht, nm_e ?_⟩)
      · have ek : k' = p := by omega
        subst ek
        have : ¬ (1 ≤ k' ∧ 5 * r + k' = 5 * r + (k' - 1)) := by omega
        rw [a5', decide_eq_false this]
        rfl
      · refine K _ _ _ _ _ _ _ ⟨rd_u hd t (some (rn_x e)), rd_u ro t none, rd_u pg t (p + 1), tr, wt, _, ps, ri_M22 (o := none) mm (fun _ z => absurd z (by simp)), L2, rd_adv2 d hn (by omega) L.2.2.1 ht hro hp z hh ?_ hoc hfs (fun i hi => rfl), p1, fun r' hr' htr => p2 r' ?_ htr⟩
        · try dsimp only
          rw [ev]
          exact rn_x_2 e
        · rw [hfs, Bool.and_eq_true] at hr'
          exact hr'.1
    · refine K _ _ _ _ _ _ _ ⟨rd_u hd t (some (rn_x e)), ro, rd_u pg t (p + 1), tr, wt, _, ps, mm, L1, rd_adv1 d hn (by omega) L.2.2.1 ht hro hp (by omega) hh ?_ hoc (fun i hi => rfl), p1, p2⟩
      try dsimp only
      rw [ev]
      exact rn_x_2 e
  unfold wX_moveTrain_51
  rw [nI_clamp (show t < 2 ^ 31 by omega), e23, e21', rn_d2 (by omega)]
  refine ⟨pk_in t 3 ht, nm_e ⟨pk_in (5 * r + p) 80 (by omega) e5, nm_r (e' := nI e) ?_ ⟨pk_in t 3 ht, by decide, nm_e ⟨by decide, nm_r (e' := (fo &&& (((1 : Int32) <<< (nI (h / 2) &&& 31)) ^^^ (-1))) ||| ((1 : Int32) <<< (nI (e / 2) &&& 31))) (by rw [rn_d2 (by omega)]) (pk_le p 0 (fun z => ?_) (fun z => ?_))⟩⟩⟩⟩
  · rw [e5, nI_clamp (show 5 * r + p < 2 ^ 31 by omega), e10]
  · exact C118 a19 a20 (ri_LN_c L (fun i hi => by
      have : ¬ (1 ≤ p ∧ i = 5 * r + (p - 1)) := by omega
      simp [this]))
  · obtain ⟨p', rfl⟩ : ∃ p', p = p' + 1 := ⟨p - 1, by omega⟩
    have hHp : H (5 * r + p') = true := by
      refine (d.2.2.2.2.2.1 (5 * r + p') (by omega)).mpr ?_
      rw [show (5 * r + p') / 5 = r by omega, show (5 * r + p') % 5 = p' by omega]
      refine ⟨u1, by omega, fun t' z => ?_⟩
      rw [u2] at z
      injection z with z
      subst z
      omega
    refine ri_releaseAt (by omega) g (nI_pred p') (by omega) L hHp (fun a19' a20' L' => ?_)
    refine C118 a19' a20' (ri_LN_c L' (fun i hi => ?_))
    have : (1 ≤ p' + 1 ∧ i = 5 * r + (p' + 1 - 1)) ↔ i = 5 * r + p' := by omega
    simp only [this]
/-- moveTrain -/
theorem rm_move {post : Int32 → St1 → Prop} {fj ff fr fs fo fw : Int32} {a1 a2 a3 a4 a5 a6 a7 a8 a9 a10 a11 a12 a13 a14 a15 a16 a17 a18 a19 a20 a21 a22 a23 a24 a25 a26 : Nat → Int32} {n t : Nat} {hd ro : Nat → Option Nat} {pg : Nat → Nat} {tr : Nat → Option Nat} {wt : Nat → Nat} {H ps : Nat → Bool} (ht : t < 3) (s : ri_S n fj ff fr a1 a2 a3 a4 a7 a8 a9 a10 a11 a12 a13 a14) (v : ri_V n hd ro pg tr wt H ps fs fo a1 a2 a3 a6 a8 a9 a10 a12 a13 a17 a18 a19 a20 a21 a22 a23) (hh : hd t ≠ none)
    (K0 : post 0 (fj, ff, fr, fs, fo, fw, a1, a2, a3, a4, a5, a6, a7, a8, a9, a10, a11, a12, a13, a14, a15, a16, a17, a18, a19, a20, a21, a22, a23, a24, a25, a26)) (K : ∀ (fs fo : Int32) (a18 a19 a20 a21 a22 a23 : Nat → Int32), ri_E n fs fo a1 a2 a3 a6 a8 a9 a10 a12 a13 a17 a18 a19 a20 a21 a22 a23 → post 1 (fj, ff, fr, fs, fo, fw, a1, a2, a3, a4, a5, a6, a7, a8, a9, a10, a11, a12, a13, a14, a15, a16, a17, a18, a19, a20, a21, a22, a23, a24, a25, a26)) : wpX_moveTrain post (fj, ff, fr, fs, fo, fw, a1, a2, a3, a4, a5, a6, a7, a8, a9, a10, a11, a12, a13, a14, a15, a16, a17, a18, a19, a20, a21, a22, a23, a24, a25, a26) (nI t) := by
  obtain ⟨hff, hfr, hn, hY, hG, hC⟩ := s
  obtain ⟨m, L, d, p1, p2⟩ := v
  obtain ⟨e22, b22⟩ := m.2.2.2.1 t ht
  have b22' : ∀ h, ro t = some h → h < 2 ^ 31 := fun h z => by have := b22 h z; omega
  unfold wpX_moveTrain
  try dsimp only
  refine ⟨pk_in t 3 ht, nm_r (e' := rn_o (ro t)) (by rw [nI_clamp (show t < 2 ^ 31 by omega), e22]) (br_c (fun z => ?_) (fun z => ⟨pk_in t 3 ht, ?_⟩))⟩
  · obtain ⟨r, hr⟩ : ∃ r, ro t = some r := by
      cases e : ro t with
      | none => exact absurd e ((rn_opos b22').mp z)
      | some r => exact ⟨r, rfl⟩
    rw [hr]
    exact rm_51 ht ⟨hff, hfr, hn, hY, hG, hC⟩ ⟨m, L, d, p1, p2⟩ hr (fun fs fo a19 a20 a21 a22 a23 E => K fs fo a18 a19 a20 a21 a22 a23 E)
  · have hr : ro t = none := by
      cases e : ro t with
      | none => rfl
      | some h => exact absurd ((rn_opos b22').mpr (by rw [e]; simp)) z
    refine rm_clear hfr hn m.1 m.2.1 (br_f (by decide) K0) (fun r hrn hS hw htr => br_t (nI_pos' (by omega)) ⟨pk_in t 3 ht, nm_e ⟨pk_in r 16 (by omega), nm_e ⟨pk_in t 3 ht, nm_e ?_⟩⟩⟩)
    rw [nI_clamp (show t < 2 ^ 31 by omega), nI_clamp (show r < 2 ^ 31 by omega), rn_i8 r (by omega), rn_i8 t (by omega)]
    have g := hG r hrn
    refine rm_51 (hd := hd) (ro := rd_u ro t (some r)) (pg := rd_u pg t 0) (tr := rd_u tr r (some t)) (wt := wt) (H := H) (ps := ps) ht ⟨hff, hfr, hn, hY, hG, hC⟩ ⟨?_, L, rd_assign d ht hS htr hw hr hh g.2.2.1, p1, fun r' hr' htr' => p2 r' hr' ?_⟩ rd_us (fun fs fo a19 a20 a21 a22 a23 E => K fs fo _ a19 a20 a21 a22 a23 E)
    · exact ri_M23 (p := 0) (ri_M22 (o := some r) (ri_M18 (o := some t) m (fun t' z => by injection z with z; omega)) (fun r' z => by injection z with z; omega)) (by omega)
    · by_cases e : r' = r
      · rw [e, rd_us] at htr'
        exact absurd htr' (by simp)
      · rw [rd_un e] at htr'
        exact htr'
/-- countDown -/
theorem rm_cd2 {post : St1 → Prop} {fj ff fr fo fw : Int32} {a1 a2 a3 a4 a5 a6 a7 a8 a9 a10 a11 a12 a13 a14 a15 a16 a18 a21 a22 a23 a24 a25 a26 : Nat → Int32} {n : Nat} (s : ri_S n fj ff fr a1 a2 a3 a4 a7 a8 a9 a10 a11 a12 a13 a14)
    (K : ∀ (fs : Int32) (a17 a19 a20 : Nat → Int32), ri_E n fs fo a1 a2 a3 a6 a8 a9 a10 a12 a13 a17 a18 a19 a20 a21 a22 a23 → post (fj, ff, fr, fs, fo, fw, a1, a2, a3, a4, a5, a6, a7, a8, a9, a10, a11, a12, a13, a14, a15, a16, a17, a18, a19, a20, a21, a22, a23, a24, a25, a26)) :
    ∀ (m i : Nat) (fs : Int32) (a17 a19 a20 : Nat → Int32), i + m = n → ri_E n fs fo a1 a2 a3 a6 a8 a9 a10 a12 a13 a17 a18 a19 a20 a21 a22 a23 → wX_countDown_2 post (m + 1) (nI i) fj ff fr fs fo fw a1 a2 a3 a4 a5 a6 a7 a8 a9 a10 a11 a12 a13 a14 a15 a16 a17 a18 a19 a20 a21 a22 a23 a24 a25 a26 := by
  obtain ⟨hff, hfr, hn, hY, hG, hC⟩ := s
  intro m
  induction m with
  | zero =>
    intro i fs a17 a19 a20 hi E
    exact pk_le n i (fun _ => K fs a17 a19 a20 E) (fun z => absurd z (by omega)) hfr
  | succ m ih =>
    intro i fs a17 a19 a20 hi E
    refine pk_le n i (fun z => absurd z (by omega)) (fun _ => ?_) hfr
    refine ri_isSet (by omega) (fun zs => br_f (by decide) ⟨pk_in i 16 (by omega), ?_⟩) (fun _ => br_t rfl (nm_r (nI_1 i) (ih (i + 1) fs a17 a19 a20 (by omega) E)))
    have E' := E
    obtain ⟨hd, ro, pg, tr, wt, H, ps, m', L, d, p1, p2⟩ := E'
    obtain ⟨e17, b17⟩ := m'.1 i (by omega)
    rw [nI_clamp (show i < 2 ^ 31 by omega), e17]
    refine pk_eq (wt i) 0 (fun _ => nm_r (nI_1 i) (ih (i + 1) fs a17 a19 a20 (by omega) E)) (fun zw => ⟨pk_in i 16 (by omega), pk_in i 16 (by omega), nm_e ⟨pk_in i 16 (by omega), ?_⟩⟩)
    obtain ⟨w, hw⟩ : ∃ w, wt i = w + 1 := ⟨wt i - 1, by omega⟩
    rw [hw, rn_dec' w (by omega)]
    have htr : tr i = none := by
      cases e : tr i with
      | none => rfl
      | some t => exact absurd (d.2.1 i t zs e).2.2 zw
    have M' := ri_M17 (r := i) (w := w) m' (by omega)
    have D' := rd_wt (r := i) (w := w) d (fun _ => htr)
    refine pk_eq w 0 (fun z0 => ?_) (fun z0 => nm_r (nI_1 i) (ih (i + 1) fs _ a19 a20 (by omega) ⟨hd, ro, pg, tr, rd_u wt i w, H, ps, M', L, D', p1, p2⟩)) pk_us
    refine ri_release (by omega) (hG i (by omega)) (k := 0) rfl (by omega) L (fun k' _ hk' => ?_) (fun fs' a19' a20' hfs L' => nm_r (nI_1 i) (ih (i + 1) fs' _ a19' a20' (by omega) ⟨hd, ro, pg, tr, rd_u wt i w, _, ps, M', L', rd_rel D' rfl htr hfs (fun _ _ => rfl), p1, fun r' hr' => p2 r' ?_⟩))
    · have h6 : rn_v (a8 i) < 6 := (hG i (by omega)).2.1.2
      refine (d.2.2.2.2.2.1 (5 * i + k') (by omega)).mpr ?_
      rw [show (5 * i + k') / 5 = i by omega, show (5 * i + k') % 5 = k' by omega]
      exact ⟨zs, hk', fun t e => by rw [htr] at e; exact absurd e (by simp)⟩
    · rw [hfs, Bool.and_eq_true] at hr'
      exact hr'.1
theorem rm_cd {post : St1 → Prop} {fj ff fr fs fo fw : Int32} {a1 a2 a3 a4 a5 a6 a7 a8 a9 a10 a11 a12 a13 a14 a15 a16 a17 a18 a19 a20 a21 a22 a23 a24 a25 a26 : Nat → Int32} {n : Nat} (s : ri_S n fj ff fr a1 a2 a3 a4 a7 a8 a9 a10 a11 a12 a13 a14) (E : ri_E n fs fo a1 a2 a3 a6 a8 a9 a10 a12 a13 a17 a18 a19 a20 a21 a22 a23) (K : ∀ (fs : Int32) (a17 a19 a20 : Nat → Int32), ri_E n fs fo a1 a2 a3 a6 a8 a9 a10 a12 a13 a17 a18 a19 a20 a21 a22 a23 → post (fj, ff, fr, fs, fo, fw, a1, a2, a3, a4, a5, a6, a7, a8, a9, a10, a11, a12, a13, a14, a15, a16, a17, a18, a19, a20, a21, a22, a23, a24, a25, a26)) : wpX_countDown post (fj, ff, fr, fs, fo, fw, a1, a2, a3, a4, a5, a6, a7, a8, a9, a10, a11, a12, a13, a14, a15, a16, a17, a18, a19, a20, a21, a22, a23, a24, a25, a26) := by
  unfold wpX_countDown
  try dsimp only
  exact ⟨n + 1, rm_cd2 s K n 0 fs a17 a19 a20 (by omega) E⟩
theorem rm_t43 {post : Int32 → St1 → Prop} {J : Int32 → Int32 → Int32 → Int32 → Int32 → Int32 → Int32 → Int32 → (Nat → Int32) → (Nat → Int32) → (Nat → Int32) → (Nat → Int32) → (Nat → Int32) → (Nat → Int32) → (Nat → Int32) → (Nat → Int32) → (Nat → Int32) → (Nat → Int32) → (Nat → Int32) → (Nat → Int32) → (Nat → Int32) → (Nat → Int32) → (Nat → Int32) → (Nat → Int32) → (Nat → Int32) → (Nat → Int32) → (Nat → Int32) → (Nat → Int32) → (Nat → Int32) → (Nat → Int32) → (Nat → Int32) → (Nat → Int32) → (Nat → Int32) → (Nat → Int32) → Prop}
    {fj ff fr fw : Int32} {a1 a2 a3 a4 a5 a6 a7 a8 a9 a10 a11 a12 a13 a14 a15 a16 a17 a24 a25 a26 : Nat → Int32} {n : Nat} {x2 x4 : Int32} (s : ri_S n fj ff fr a1 a2 a3 a4 a7 a8 a9 a10 a11 a12 a13 a14)
    (K : ∀ (x3 : Int32) (fs fo : Int32) (a18 a19 a20 a21 a22 a23 : Nat → Int32), ri_E n fs fo a1 a2 a3 a6 a8 a9 a10 a12 a13 a17 a18 a19 a20 a21 a22 a23 → J x3 (x4 + 1) fj ff fr fs fo fw a1 a2 a3 a4 a5 a6 a7 a8 a9 a10 a11 a12 a13 a14 a15 a16 a17 a18 a19 a20 a21 a22 a23 a24 a25 a26) :
    ∀ (m i : Nat) (x3 : Int32) (fs fo : Int32) (a18 a19 a20 a21 a22 a23 : Nat → Int32), i + m = 3 → ri_E n fs fo a1 a2 a3 a6 a8 a9 a10 a12 a13 a17 a18 a19 a20 a21 a22 a23 → wX_tick_43 post J x2 x4 (m + 1) x3 (nI i) fj ff fr fs fo fw a1 a2 a3 a4 a5 a6 a7 a8 a9 a10 a11 a12 a13 a14 a15 a16 a17 a18 a19 a20 a21 a22 a23 a24 a25 a26 := by
  intro m
  induction m with
  | zero =>
    intro i x3 fs fo a18 a19 a20 a21 a22 a23 hi E
    exact pk_le 3 i (fun _ => nm_e (K x3 fs fo a18 a19 a20 a21 a22 a23 E)) (fun z => absurd z (by omega))
  | succ m ih =>
    intro i x3 fs fo a18 a19 a20 a21 a22 a23 hi E
    have E' := E
    obtain ⟨hd, ro, pg, tr, wt, H, ps, m', L, d, p1, p2⟩ := E'
    obtain ⟨e21, b21⟩ := m'.2.2.1 i (by omega)
    have b21' : ∀ h, hd i = some h → h < 2 ^ 31 := fun h z => by have := b21 h z; omega
    refine pk_le 3 i (fun z => absurd z (by omega)) (fun _ => ⟨pk_in i 3 (by omega), br_c (fun _ => nm_r (nI_1 i) (ih (i + 1) x3 fs fo a18 a19 a20 a21 a22 a23 (by omega) E)) (fun z => ?_)⟩)
    rw [nI_clamp (show i < 2 ^ 31 by omega), e21] at z
    refine rm_move (by omega) s ⟨m', L, d, p1, p2⟩ (fun e => z ((rn_oneg b21').mpr e)) (br_t rfl (nm_r (nI_1 i) (ih (i + 1) x3 fs fo a18 a19 a20 a21 a22 a23 (by omega) E))) (fun fs fo a18 a19 a20 a21 a22 a23 E2 => br_f (by decide) (nm_e (nm_r (nI_1 i) (ih (i + 1) _ fs fo a18 a19 a20 a21 a22 a23 (by omega) E2))))
theorem rm_t30 {post : Int32 → St1 → Prop} {fj ff fr fw : Int32} {a1 a2 a3 a4 a5 a6 a7 a8 a9 a10 a11 a12 a13 a14 a15 a16 a24 a25 a26 : Nat → Int32} {n c : Nat} (hc : c ≤ 20) (s : ri_S n fj ff fr a1 a2 a3 a4 a7 a8 a9 a10 a11 a12 a13 a14)
    (K : ∀ (x3 : Int32) (fs fo : Int32) (a17 a18 a19 a20 a21 a22 a23 : Nat → Int32), ri_E n fs fo a1 a2 a3 a6 a8 a9 a10 a12 a13 a17 a18 a19 a20 a21 a22 a23 → post x3 (fj, ff, fr, fs, fo, fw, a1, a2, a3, a4, a5, a6, a7, a8, a9, a10, a11, a12, a13, a14, a15, a16, a17, a18, a19, a20, a21, a22, a23, a24, a25, a26)) :
    ∀ (m i : Nat) (x3 : Int32) (fs fo : Int32) (a17 a18 a19 a20 a21 a22 a23 : Nat → Int32), i + m = c → ri_E n fs fo a1 a2 a3 a6 a8 a9 a10 a12 a13 a17 a18 a19 a20 a21 a22 a23 → wX_tick_30 post (nI c) (m + 1) x3 (nI i) fj ff fr fs fo fw a1 a2 a3 a4 a5 a6 a7 a8 a9 a10 a11 a12 a13 a14 a15 a16 a17 a18 a19 a20 a21 a22 a23 a24 a25 a26 := by
  intro m
  induction m with
  | zero =>
    intro i x3 fs fo a17 a18 a19 a20 a21 a22 a23 hi E
    exact pk_le c i (fun _ => K x3 fs fo a17 a18 a19 a20 a21 a22 a23 E) (fun z => absurd z (by omega))
  | succ m ih =>
    intro i x3 fs fo a17 a18 a19 a20 a21 a22 a23 hi E
    refine pk_le c i (fun z => absurd z (by omega)) (fun _ => rm_cd s E (fun fs a17 a19 a20 E1 => ⟨3 + 1, ?_⟩))
    refine rm_t43 s (fun x3 fs fo a18 a19 a20 a21 a22 a23 E2 => ?_) 3 0 x3 fs fo a18 a19 a20 a21 a22 a23 (by omega) E1
    rw [nI_1]
    exact ih (i + 1) x3 fs fo a17 a18 a19 a20 a21 a22 a23 (by omega) E2
theorem rm_tick {post : Int32 → St1 → Prop} {fj ff fr fs fo fw : Int32} {a1 a2 a3 a4 a5 a6 a7 a8 a9 a10 a11 a12 a13 a14 a15 a16 a17 a18 a19 a20 a21 a22 a23 a24 a25 a26 : Nat → Int32} {n c : Nat} (hc : c ≤ 20) (s : ri_S n fj ff fr a1 a2 a3 a4 a7 a8 a9 a10 a11 a12 a13 a14) (E : ri_E n fs fo a1 a2 a3 a6 a8 a9 a10 a12 a13 a17 a18 a19 a20 a21 a22 a23)
    (K : ∀ (x3 : Int32) (fs fo : Int32) (a17 a18 a19 a20 a21 a22 a23 : Nat → Int32), ri_E n fs fo a1 a2 a3 a6 a8 a9 a10 a12 a13 a17 a18 a19 a20 a21 a22 a23 → post x3 (fj, ff, fr, fs, fo, fw, a1, a2, a3, a4, a5, a6, a7, a8, a9, a10, a11, a12, a13, a14, a15, a16, a17, a18, a19, a20, a21, a22, a23, a24, a25, a26)) : wpX_tick post (fj, ff, fr, fs, fo, fw, a1, a2, a3, a4, a5, a6, a7, a8, a9, a10, a11, a12, a13, a14, a15, a16, a17, a18, a19, a20, a21, a22, a23, a24, a25, a26) (nI c) := by
  unfold wpX_tick
  try dsimp only
  refine ri_find1 s.1 (br_t (nI_pos' (by omega)) (br_t (nI_le (b := 20) hc (by decide)) ⟨c + 1, ?_⟩))
  exact rm_t30 hc s K c 0 0 fs fo a17 a18 a19 a20 a21 a22 a23 (by omega) E
end
section
/-! the yard is built; the quiet state -/
/-- quiet, the routes not yet found -/
def ri_Z (fj ff fs fo : Int32) (a1 a2 a3 a4 a6 a17 a18 a19 a20 a21 a22 a23 : Nat → Int32) : Prop :=
  ff = 0 ∧ fs = 0 ∧ fo = 0 ∧ (∃ nj, fj = nI nj ∧ ri_Y nj a1 a2 a3 a4) ∧ ∃ (pg : Nat → Nat) (tr : Nat → Option Nat) (wt : Nat → Nat) (ps : Nat → Bool), ri_M (fun _ => none) (fun _ => none) pg tr wt a17 a18 a21 a22 a23 ∧ ri_LN (fun _ => 0) (fun _ _ => false) (fun _ => false) a19 a20 ∧ ∀ a, a < 20 → a6 a = rb_b (ps a)
/-- quiet: no train, nothing held -/
theorem rz_of {n : Nat} {fs fo : Int32} {a1 a2 a3 a6 a8 a9 a10 a12 a13 a17 a18 a19 a20 a21 a22 a23 : Nat → Int32} (E : ri_E n fs fo a1 a2 a3 a6 a8 a9 a10 a12 a13 a17 a18 a19 a20 a21 a22 a23) (hs : fs = 0) (ho : fo = 0) :
    ∃ (pg : Nat → Nat) (tr : Nat → Option Nat) (wt : Nat → Nat) (ps : Nat → Bool), ri_M (fun _ => none) (fun _ => none) pg tr wt a17 a18 a21 a22 a23 ∧ ri_LN (fun _ => 0) (fun _ _ => false) (fun _ => false) a19 a20 ∧ ∀ a, a < 20 → a6 a = rb_b (ps a) := by
  obtain ⟨hd, ro, pg, tr, wt, H, ps, m, L, d, p1, p2⟩ := E
  subst hs ho
  have hS : ∀ r, ¬ rb_t 0 r = true := fun r h => by rw [rb_0] at h; exact absurd h (by decide)
  have hhd : ∀ t, t < 3 → hd t = none := by
    intro t ht
    cases e : hd t with
    | none => rfl
    | some h => exact absurd ((d.2.2.2.1 (h / 2)).mpr ⟨t, h, ht, e, rfl⟩) (hS _)
  have hro : ∀ t, t < 3 → ro t = none := by
    intro t ht
    cases e : ro t with
    | none => rfl
    | some r => exact absurd (d.2.2.1 t r ht e).1 (hS _)
  refine ⟨pg, tr, wt, ps, ⟨m.1, m.2.1, fun t ht => ?_, fun t ht => ?_, m.2.2.2.2⟩, ?_, p1⟩
  · have := m.2.2.1 t ht
    rw [hhd t ht] at this
    exact this
  · have := m.2.2.2.1 t ht
    rw [hro t ht] at this
    exact this
  · refine ri_LN_cT (ri_LN_c L (fun i hi => ?_))
    cases e : H i
    · rfl
    · exact absurd ((d.2.2.2.2.2.1 i hi).mp e).1 (hS _)
theorem rz_to {n : Nat} {fs fo : Int32} {a1 a2 a3 a6 a8 a9 a10 a12 a13 a17 a18 a19 a20 a21 a22 a23 : Nat → Int32} (hs : fs = 0) (ho : fo = 0)
    (h : ∃ (pg : Nat → Nat) (tr : Nat → Option Nat) (wt : Nat → Nat) (ps : Nat → Bool), ri_M (fun _ => none) (fun _ => none) pg tr wt a17 a18 a21 a22 a23 ∧ ri_LN (fun _ => 0) (fun _ _ => false) (fun _ => false) a19 a20 ∧ ∀ a, a < 20 → a6 a = rb_b (ps a)) : ri_E n fs fo a1 a2 a3 a6 a8 a9 a10 a12 a13 a17 a18 a19 a20 a21 a22 a23 := by
  obtain ⟨pg, tr, wt, ps, m, L, p1⟩ := h
  subst hs ho
  have hS : ∀ r, ¬ rb_t 0 r = true := fun r h => by rw [rb_0] at h; exact absurd h (by decide)
  refine ⟨fun _ => none, fun _ => none, pg, tr, wt, fun _ => false, ps, m, ri_LN_cT L, ⟨fun r h => absurd h (hS r), fun r t h => absurd h (hS r), fun t r _ h => absurd h (by simp), fun s => ?_, fun t t' h h' _ _ e => absurd e (by simp), fun i hi => ?_, fun i hi h => absurd h Bool.false_ne_true⟩, p1, fun r h => absurd h (hS r)⟩
  · exact ⟨fun h => absurd h (hS s), fun ⟨t, h, _, e, _⟩ => absurd e (by simp)⟩
  · exact ⟨fun h => absurd h Bool.false_ne_true, fun h => absurd h.1 (hS _)⟩
/-! joints -/
theorem ry_new {nj p q : Nat} {a1 a2 a3 a4 : Nat → Int32} (h : ri_Y nj a1 a2 a3 a4) (hn : nj < 12) : ri_Y (nj + 1) (upd a1 nj (nI p)) (upd a2 nj (nI q)) a3 a4 := by
  refine ⟨by omega, fun a ha => ?_⟩
  obtain ⟨c, hc, e, hk⟩ := h.2 a ha
  refine ⟨c, hc, e, fun k hkc => ?_⟩
  obtain ⟨j, b, hj, hb, hab, e4, hJ⟩ := hk k hkc
  refine ⟨j, b, by omega, hb, hab, e4, ?_⟩
  unfold ri_J
  rw [pk_un (by omega), pk_un (by omega)]
  exact hJ
theorem ry_hang {nj a b j c : Nat} {a1 a2 a3 a4 : Nat → Int32} (h : ri_Y nj a1 a2 a3 a4) (ha : a < 20) (hb : b < 20) (hab : b / 2 ≠ a / 2) (hj : j < nj) (hJ : ri_J a1 a2 j a b) (e : a3 a = nI c) (hc : c < 2) :
    ri_Y nj a1 a2 (upd a3 a (nI (c + 1))) (upd a4 (2 * a + c) (nI j)) := by
  refine ⟨h.1, fun x hx => ?_⟩
  obtain ⟨cx, hcx, ex, hk⟩ := h.2 x hx
  by_cases z : x = a
  · subst z
    have : cx = c := rn_inj (ex.symm.trans e) (by omega) (by omega)
    subst this
    refine ⟨cx + 1, by omega, pk_us, fun k hkc => ?_⟩
    by_cases zk : k = cx
    · subst zk
      rw [pk_us]
      exact ⟨j, b, hj, hb, hab, rfl, hJ⟩
    · rw [pk_un (by omega)]
      exact hk k (by omega)
  · refine ⟨cx, hcx, by rw [pk_un z]; exact ex, fun k hkc => ?_⟩
    rw [pk_un (by omega)]
    exact hk k hkc
theorem ry_hangW {post : St1 → Prop} {fj ff fr fs fo fw : Int32} {a1 a2 a3 a4 a5 a6 a7 a8 a9 a10 a11 a12 a13 a14 a15 a16 a17 a18 a19 a20 a21 a22 a23 a24 a25 a26 : Nat → Int32} {p1 : Int32} {a j c : Nat} (ha : a < 20) (hj : j < 12) (h1 : p1 = nI j) (e : a3 a = nI c) (hc : c < 2) (K : post (fj, ff, fr, fs, fo, fw, a1, a2, upd a3 a (nI (c + 1)), upd a4 (2 * a + c) (nI j), a5, a6, a7, a8, a9, a10, a11, a12, a13, a14, a15, a16, a17, a18, a19, a20, a21, a22, a23, a24, a25, a26)) : wpX_hang post (fj, ff, fr, fs, fo, fw, a1, a2, a3, a4, a5, a6, a7, a8, a9, a10, a11, a12, a13, a14, a15, a16, a17, a18, a19, a20, a21, a22, a23, a24, a25, a26) (nI a) p1 := by
  subst h1
  unfold wpX_hang
  dsimp only
  rw [nI_clamp (show a < 2 ^ 31 by omega), e, rf_ix0, nI_clamp (show 2 * a + c < 2 ^ 31 by omega), rn_i8 j (by omega), rn_inc c (by omega)]
  exact ⟨pk_in a 20 ha, pk_in (2 * a + c) 40 (by omega), nm_e ⟨pk_in a 20 ha, pk_in a 20 ha, nm_e K⟩⟩
theorem ry_joined {post : Int32 → Prop} {fj ff fr fs fo fw : Int32} {a1 a2 a3 a4 a5 a6 a7 a8 a9 a10 a11 a12 a13 a14 a15 a16 a17 a18 a19 a20 a21 a22 a23 a24 a25 a26 : Nat → Int32} {nj a b : Nat} (hY : ri_Y nj a1 a2 a3 a4) (ha : a < 20) (K : ∀ x : Int32, post x) : wpX_areJoined post (fj, ff, fr, fs, fo, fw, a1, a2, a3, a4, a5, a6, a7, a8, a9, a10, a11, a12, a13, a14, a15, a16, a17, a18, a19, a20, a21, a22, a23, a24, a25, a26) (nI a) (nI b) := by
  obtain ⟨c, hc, e, hk⟩ := hY.2 a ha
  unfold wpX_areJoined
  dsimp only
  refine Exists.elim (pk_loop (σ := Unit) (fun m i _ => wX_areJoined_2 post (nI a) (nI b) fj ff fr fs fo fw a1 a2 a3 a4 a5 a6 a7 a8 a9 a10 a11 a12 a13 a14 a15 a16 a17 a18 a19 a20 a21 a22 a23 a24 a25 a26 m (nI i)) (fun _ _ => True) c 0 () (by omega) trivial ?_ ?_) (fun m hm => ⟨m, hm⟩)
  · intro m _ _
    refine ⟨pk_in a 20 ha, ?_⟩
    rw [nI_clamp (show a < 2 ^ 31 by omega), e]
    exact pk_le c c (fun _ => K 0) (fun z => absurd z (by omega))
  · intro m i _ hi _ hw
    refine ⟨pk_in a 20 ha, ?_⟩
    rw [nI_clamp (show a < 2 ^ 31 by omega), e]
    refine pk_le c i (fun z => absurd z (by omega)) (fun _ => ?_)
    obtain ⟨j, b', hj, hb', hab, e4, hJ⟩ := hk i hi
    have h12 := hY.1
    rw [rf_ix0, nI_clamp (show 2 * a + i < 2 ^ 31 by omega), e4]
    exact ⟨pk_in (2 * a + i) 40 (by omega), ri_across rfl rfl (by omega) ha hb' hab hJ (br_c (fun _ => K 1) (fun _ => nm_r (nI_1 i) (hw () trivial)))⟩
theorem ry_120 {post : Int32 → St1 → Prop} {fj ff fr fs fo fw : Int32} {a1 a2 a3 a4 a5 a7 a8 a9 a10 a11 a12 a13 a14 a15 a16 a17 a18 a19 a20 a21 a22 a23 a24 a25 a26 : Nat → Int32} (a6 : Nat → Int32) (K : ∀ a6 : Nat → Int32, (∀ a, a < 20 → a6 a = rb_b false) → post 1 (fj, 0, fr, fs, fo, fw, a1, a2, a3, a4, a5, a6, a7, a8, a9, a10, a11, a12, a13, a14, a15, a16, a17, a18, a19, a20, a21, a22, a23, a24, a25, a26)) : ∃ fu, wX_joint_120 post fj ff fr fs fo fw fu 0 a1 a2 a3 a4 a5 a6 a7 a8 a9 a10 a11 a12 a13 a14 a15 a16 a17 a18 a19 a20 a21 a22 a23 a24 a25 a26 := by
  refine Exists.elim (pk_loop (σ := Nat → Int32) (fun m i a6 => wX_joint_120 post fj ff fr fs fo fw m (nI i) a1 a2 a3 a4 a5 a6 a7 a8 a9 a10 a11 a12 a13 a14 a15 a16 a17 a18 a19 a20 a21 a22 a23 a24 a25 a26) (fun i b => ∀ a, a < i → b a = rb_b false) 20 0 a6 (by omega) (fun a ha => absurd ha (by omega)) ?_ ?_) (fun m hm => ⟨m, hm⟩)
  · intro m b h
    exact pk_le 20 20 (fun _ => K b h) (fun z => absurd z (by omega))
  · intro m i b hi h hw
    refine pk_le 20 i (fun z => absurd z (by omega)) (fun _ => ⟨pk_in i 20 hi, nm_e (nm_r (nI_1 i) ?_)⟩)
    rw [nI_clamp (show i < 2 ^ 31 by omega)]
    refine hw _ (fun a ha => ?_)
    by_cases z : a = i
    · rw [z, pk_us]
      rfl
    · rw [pk_un z]
      exact h a (by omega)
theorem ry_joint {post : Int32 → St1 → Prop} {fj ff fr fs fo fw : Int32} {a1 a2 a3 a4 a5 a6 a7 a8 a9 a10 a11 a12 a13 a14 a15 a16 a17 a18 a19 a20 a21 a22 a23 a24 a25 a26 : Nat → Int32} {nj p q : Nat} (hfj : fj = nI nj) (hY : ri_Y nj a1 a2 a3 a4) (hp : p < 20) (hq : q < 20) (K0 : post 0 (fj, ff, fr, fs, fo, fw, a1, a2, a3, a4, a5, a6, a7, a8, a9, a10, a11, a12, a13, a14, a15, a16, a17, a18, a19, a20, a21, a22, a23, a24, a25, a26))
    (K : fs = 0 → fo = 0 → ∀ (nj : Nat) (a1 a2 a3 a4 a6 : Nat → Int32), ri_Y nj a1 a2 a3 a4 → (∀ a, a < 20 → a6 a = rb_b false) → post 1 (nI nj, 0, fr, fs, fo, fw, a1, a2, a3, a4, a5, a6, a7, a8, a9, a10, a11, a12, a13, a14, a15, a16, a17, a18, a19, a20, a21, a22, a23, a24, a25, a26)) : wpX_joint post (fj, ff, fr, fs, fo, fw, a1, a2, a3, a4, a5, a6, a7, a8, a9, a10, a11, a12, a13, a14, a15, a16, a17, a18, a19, a20, a21, a22, a23, a24, a25, a26) (nI p) (nI q) := by
  subst hfj
  have h12 := hY.1
  obtain ⟨cp, hcp, ep, _⟩ := hY.2 p hp
  obtain ⟨cq, hcq, eq, _⟩ := hY.2 q hq
  unfold wpX_joint
  dsimp only
  refine pk_le 12 nj (fun _ => K0) (fun hnj => rm_isEnd hp (br_f (by decide) (rm_isEnd hq (br_f (by decide) ⟨by decide, by decide, ?_⟩))))
  rw [rn_d2 (by omega), rn_d2 (by omega)]
  refine pk_eq (p / 2) (q / 2) (fun _ => K0) (fun hpq => rm_quiet (fun z1 z2 => br_f (by decide) ⟨pk_in p 20 hp, ?_⟩) (br_t rfl K0))
  rw [nI_clamp (show p < 2 ^ 31 by omega), nI_clamp (show q < 2 ^ 31 by omega), ep, eq]
  refine pk_eq cp 2 (fun _ => K0) (fun hp2 => ⟨pk_in q 20 hq, pk_eq cq 2 (fun _ => K0) (fun hq2 => ry_joined hY hp (fun x => br_c (fun _ => nm_r (nI_1 nj) ⟨pk_in nj 12 hnj, nm_e ⟨pk_in nj 12 hnj, nm_e ?_⟩⟩) (fun _ => K0)))⟩)
  rw [nI_clamp (show nj < 2 ^ 31 by omega), rn_i8 p (by omega), rn_i8 q (by omega)]
  have hne : q ≠ p := fun z => hpq (by rw [z])
  refine ry_hangW hp hnj rfl ep (by omega) (ry_hangW (c := cq) hq hnj rfl ((pk_un hne).trans eq) (by omega) (ry_120 a6 (fun a6 h6 => K z1 z2 (nj + 1) _ _ _ _ a6 ?_ h6)))
  refine ry_hang (b := p) (ry_hang (b := q) (ry_new hY hnj) hp hq (fun z => hpq z.symm) (by omega) ?_ ep (by omega)) hq hp hpq (by omega) ?_ ((pk_un hne).trans eq) (by omega)
  · exact Or.inl ⟨pk_us, pk_us⟩
  · exact Or.inr ⟨pk_us, pk_us⟩
theorem ry_signal {post : Int32 → St1 → Prop} {fj ff fr fs fo fw : Int32} {a1 a2 a3 a4 a5 a6 a7 a8 a9 a10 a11 a12 a13 a14 a15 a16 a17 a18 a19 a20 a21 a22 a23 a24 a25 a26 : Nat → Int32} {a : Nat} {b : Int32} (ha : a < 20) (K0 : post 0 (fj, ff, fr, fs, fo, fw, a1, a2, a3, a4, a5, a6, a7, a8, a9, a10, a11, a12, a13, a14, a15, a16, a17, a18, a19, a20, a21, a22, a23, a24, a25, a26)) (K : fs = 0 → fo = 0 → ∀ a5 : Nat → Int32, post 1 (fj, 0, fr, fs, fo, fw, a1, a2, a3, a4, a5, a6, a7, a8, a9, a10, a11, a12, a13, a14, a15, a16, a17, a18, a19, a20, a21, a22, a23, a24, a25, a26)) : wpX_signal post (fj, ff, fr, fs, fo, fw, a1, a2, a3, a4, a5, a6, a7, a8, a9, a10, a11, a12, a13, a14, a15, a16, a17, a18, a19, a20, a21, a22, a23, a24, a25, a26) (nI a) b := by
  unfold wpX_signal
  dsimp only
  exact rm_isEnd ha (br_f (by decide) ⟨pk_in a 20 ha, br_c (fun _ => K0) (fun _ => rm_quiet (fun z1 z2 => br_f (by decide) ⟨pk_in a 20 ha, nm_e (K z1 z2 _)⟩) (br_t rfl K0))⟩)
/-! a new object -/
theorem ry_init {post : St1 → Prop} (K : ∀ a19 a21 a22 : Nat → Int32, (∀ s, s < 10 → a19 s = -1) → (∀ t, t < 3 → a21 t = -1) → (∀ t, t < 3 → a22 t = -1) →
      post (0, 0, 0, 0, 0, 0, fun _ => 0, fun _ => 0, fun _ => 0, fun _ => 0, fun _ => 0, fun _ => 0, fun _ => 0, fun _ => 0, fun _ => 0, fun _ => 0, fun _ => 0, fun _ => 0, fun _ => 0, fun _ => 0, fun _ => 0, fun _ => 0, fun _ => 0, fun _ => 0, a19, fun _ => 0, a21, a22, fun _ => 0, fun _ => 0, fun _ => 0, fun _ => 0)) :
    wpX_init post 26 523 (0, 0, 0, 0, 0, 0) := by
  unfold wpX_init
  dsimp only
  refine ⟨by decide, by decide, by decide, by decide, by decide, by decide, by decide, by decide, by decide, by decide, by decide, by decide, by decide, by decide, by decide, by decide, by decide, by decide, by decide, by decide, by decide, by decide, by decide, by decide, by decide, by decide, by decide, by decide, by decide, by decide, by decide, by decide, by decide, by decide, by decide, by decide, by decide, by decide, by decide, by decide, by decide, by decide, by decide, by decide, by decide, by decide, by decide, by decide, by decide, by decide, by decide, by decide, ?_⟩
  refine Exists.elim (pk_loop (σ := Nat → Int32) (fun m i a19 => wX_init_211 post 26 523 26 523 0 0 0 0 0 0 m (nI i) (fun _ => 0) (fun _ => 0) (fun _ => 0) (fun _ => 0) (fun _ => 0) (fun _ => 0) (fun _ => 0) (fun _ => 0) (fun _ => 0) (fun _ => 0) (fun _ => 0) (fun _ => 0) (fun _ => 0) (fun _ => 0) (fun _ => 0) (fun _ => 0) (fun _ => 0) (fun _ => 0) a19 (fun _ => 0) (fun _ => 0) (fun _ => 0) (fun _ => 0) (fun _ => 0) (fun _ => 0) (fun _ => 0)) (fun i b => ∀ s, s < i → b s = -1) 10 0 (fun _ => 0) (by omega) (fun a ha => absurd ha (by omega)) ?_ ?_) (fun m hm => ⟨m, hm⟩)
  · intro m a19 h19
    refine pk_le 10 10 (fun _ => ?_) (fun z => absurd z (by omega))
    refine Exists.elim (pk_loop (σ := (Nat → Int32) × (Nat → Int32)) (fun m i b => wX_init_232 post 26 523 26 523 0 0 0 0 0 0 m (nI i) (fun _ => 0) (fun _ => 0) (fun _ => 0) (fun _ => 0) (fun _ => 0) (fun _ => 0) (fun _ => 0) (fun _ => 0) (fun _ => 0) (fun _ => 0) (fun _ => 0) (fun _ => 0) (fun _ => 0) (fun _ => 0) (fun _ => 0) (fun _ => 0) (fun _ => 0) (fun _ => 0) a19 (fun _ => 0) b.1 b.2 (fun _ => 0) (fun _ => 0) (fun _ => 0) (fun _ => 0)) (fun i b => ∀ s, s < i → b.1 s = -1 ∧ b.2 s = -1) 3 0 (fun _ => 0, fun _ => 0) (by omega) (fun a ha => absurd ha (by omega)) ?_ ?_) (fun m hm => ⟨m, hm⟩)
    · intro m b hb
      exact pk_le 3 3 (fun _ => K a19 b.1 b.2 h19 (fun t ht => (hb t ht).1) (fun t ht => (hb t ht).2)) (fun z => absurd z (by omega))
    · intro m i b hi hb hw
      refine pk_le 3 i (fun z => absurd z (by omega)) (fun _ => ⟨pk_in i 3 hi, nm_e ⟨pk_in i 3 hi, nm_e (nm_r (nI_1 i) ?_)⟩⟩)
      rw [nI_clamp (show i < 2 ^ 31 by omega)]
      refine hw (upd b.1 i (-1), upd b.2 i (-1)) (fun s hs => ?_)
      by_cases z : s = i
      · rw [z]
        exact ⟨pk_us, pk_us⟩
      · have := hb s (by omega)
        exact ⟨(pk_un z).trans this.1, (pk_un z).trans this.2⟩
  · intro m i b hi hb hw
    refine pk_le 10 i (fun z => absurd z (by omega)) (fun _ => ⟨pk_in i 10 hi, nm_e (nm_r (nI_1 i) ?_)⟩)
    rw [nI_clamp (show i < 2 ^ 31 by omega)]
    refine hw _ (fun s hs => ?_)
    by_cases z : s = i
    · rw [z, pk_us]
    · rw [pk_un z]
      exact hb s (by omega)
end
section
/-! routes() and holds() -/
theorem rh_routes {post : Int32 → St1 → Prop} {fj ff fr fs fo fw : Int32} {a1 a2 a3 a4 a5 a6 a7 a8 a9 a10 a11 a12 a13 a14 a15 a16 a17 a18 a19 a20 a21 a22 a23 a24 a25 a26 : Nat → Int32} (W : (∃ n, ri_S n fj ff fr a1 a2 a3 a4 a7 a8 a9 a10 a11 a12 a13 a14 ∧ ri_E n fs fo a1 a2 a3 a6 a8 a9 a10 a12 a13 a17 a18 a19 a20 a21 a22 a23) ∨ ri_Z fj ff fs fo a1 a2 a3 a4 a6 a17 a18 a19 a20 a21 a22 a23)
    (K : ∀ (n : Nat) (ff fr : Int32) (a7 a8 a9 a10 a11 a12 a13 a14 a15 a16 : Nat → Int32), ri_S n fj ff fr a1 a2 a3 a4 a7 a8 a9 a10 a11 a12 a13 a14 → ri_E n fs fo a1 a2 a3 a6 a8 a9 a10 a12 a13 a17 a18 a19 a20 a21 a22 a23 → post (nI n) (fj, ff, fr, fs, fo, fw, a1, a2, a3, a4, a5, a6, a7, a8, a9, a10, a11, a12, a13, a14, a15, a16, a17, a18, a19, a20, a21, a22, a23, a24, a25, a26)) : wpX_routes post (fj, ff, fr, fs, fo, fw, a1, a2, a3, a4, a5, a6, a7, a8, a9, a10, a11, a12, a13, a14, a15, a16, a17, a18, a19, a20, a21, a22, a23, a24, a25, a26) := by
  unfold wpX_routes
  try dsimp only
  rcases W with ⟨n, s, E⟩ | ⟨z1, z2, z3, ⟨nj, hj, hY⟩, z5⟩
  · refine ri_find1 s.1 ?_
    have := K n ff fr a7 a8 a9 a10 a11 a12 a13 a14 a15 a16 s E
    rw [s.2.1] at this ⊢
    exact this
  · exact rf_find0 z1 hY (fun n a7 a8 a9 a10 a11 a12 a13 a14 a15 a16 hn hG hC => K n 1 (nI n) a7 a8 a9 a10 a11 a12 a13 a14 a15 a16 ⟨rfl, rfl, hn, ⟨nj, hj, hY⟩, hG, hC⟩ (rz_to z2 z3 z5))
theorem rh_train {post : Int32 → Prop} {fj ff fr fs fo fw : Int32} {a1 a2 a3 a4 a5 a6 a7 a8 a9 a10 a11 a12 a13 a14 a15 a16 a17 a18 a19 a20 a21 a22 a23 a24 a25 a26 : Nat → Int32} {t : Nat} {hd ro : Nat → Option Nat} (ht : t < 3) (h21 : ∀ t, t < 3 → a21 t = rn_o (hd t) ∧ ∀ h, hd t = some h → h < 20) (h22 : ∀ t, t < 3 → a22 t = rn_o (ro t) ∧ ∀ r, ro t = some r → r < 16)
    (Kn : hd t = none → post (-2)) (K0 : ∀ h, hd t = some h → h < 20 → ro t = none → post (nI h)) (K1 : ∀ h r, hd t = some h → h < 20 → ro t = some r → r < 16 → post (nI (h + 100 * (r + 1)))) : wpX_train post (fj, ff, fr, fs, fo, fw, a1, a2, a3, a4, a5, a6, a7, a8, a9, a10, a11, a12, a13, a14, a15, a16, a17, a18, a19, a20, a21, a22, a23, a24, a25, a26) (nI t) := by
  obtain ⟨e21, b21⟩ := h21 t ht
  obtain ⟨e22, b22⟩ := h22 t ht
  unfold wpX_train
  try dsimp only
  refine rm_isTrain ht (br_f (by decide) ⟨pk_in t 3 ht, ?_⟩)
  rw [nI_clamp (show t < 2 ^ 31 by omega), e21, e22]
  cases e : hd t with
  | none => exact br_f (by decide) (Kn e)
  | some h =>
    have h20 := b21 h e
    refine br_t (nI_pos' (by omega)) ⟨pk_in t 3 ht, pk_in t 3 ht, ?_⟩
    cases e' : ro t with
    | none =>
      refine br_f (by decide) ?_
      have : rn_o (some h) + 0 = nI h := by
        show nI h + nI 0 = nI h
        rw [nI_add]
        rfl
      rw [this]
      exact K0 h e h20 e'
    | some r =>
      have h16 := b22 r e'
      refine br_t (nI_pos' (by omega)) ⟨pk_in t 3 ht, ?_⟩
      have : rn_o (some h) + 100 * (rn_o (some r) + 1) = nI (h + 100 * (r + 1)) := by
        show nI h + nI 100 * (nI r + 1) = _
        rw [nI_1, pk_mul, nI_add]
      rw [this]
      exact K1 h r e h20 e' h16
theorem rh_lock {post : Int32 → Prop} {fj ff fr fs fo fw : Int32} {a1 a2 a3 a4 a5 a6 a7 a8 a9 a10 a11 a12 a13 a14 a15 a16 a17 a18 a19 a20 a21 a22 a23 a24 a25 a26 : Nat → Int32} {s : Nat} (hs : s < 10) (Kn : a19 s = -1 → post (-2)) (K1 : ∀ r, r < 16 → a19 s = nI r → post (nI r)) (hL : a19 s = -1 ∨ ∃ r, r < 16 ∧ a19 s = nI r) : wpX_lock post (fj, ff, fr, fs, fo, fw, a1, a2, a3, a4, a5, a6, a7, a8, a9, a10, a11, a12, a13, a14, a15, a16, a17, a18, a19, a20, a21, a22, a23, a24, a25, a26) (nI s) := by
  unfold wpX_lock
  try dsimp only
  refine br_f (nI_pos (by omega)) (br_t (nI_lt (b := 10) hs (by omega)) ⟨pk_in s 10 hs, ?_⟩)
  rw [nI_clamp (show s < 2 ^ 31 by omega)]
  rcases hL with e | ⟨r, hr, e⟩
  · rw [e]
    exact br_f (by decide) (Kn e)
  · rw [e]
    exact br_t (nI_pos' (by omega)) ⟨pk_in s 10 hs, K1 r hr e⟩
theorem rh_86 {post : Int32 → St1 → Prop} {fj ff fr fs fo fw : Int32} {a1 a2 a3 a4 a5 a6 a7 a8 a9 a10 a11 a12 a13 a14 a15 a16 a17 a18 a19 a20 a21 a22 a23 a24 a25 a26 : Nat → Int32} {n : Nat} (s : ri_S n fj ff fr a1 a2 a3 a4 a7 a8 a9 a10 a11 a12 a13 a14) (E : ri_E n fs fo a1 a2 a3 a6 a8 a9 a10 a12 a13 a17 a18 a19 a20 a21 a22 a23) (K : ∀ (fw : Int32) (a24 a25 : Nat → Int32), post 1 (fj, ff, fr, fs, fo, fw, a1, a2, a3, a4, a5, a6, a7, a8, a9, a10, a11, a12, a13, a14, a15, a16, a17, a18, a19, a20, a21, a22, a23, a24, a25, a26)) :
    ∀ (m i : Nat), i + m = 10 → wL_holds_86 post (nI n) (m + 1) (nI i) fj ff fr fs fo fw a1 a2 a3 a4 a5 a6 a7 a8 a9 a10 a11 a12 a13 a14 a15 a16 a17 a18 a19 a20 a21 a22 a23 a24 a25 a26 := by
  obtain ⟨hff, hfr, hn, hY, hG, hC⟩ := s
  obtain ⟨hd, ro, pg, tr, wt, H, ps, m', L, d, p1, p2⟩ := E
  intro m
  induction m with
  | zero =>
    intro i hi
    refine pk_le 10 i (fun _ => pk_eq n 0 (fun z => ?_) (fun z => ?_)) (fun z => absurd z (by omega))
    · exact ri_largest hff hfr hn (fun r hr => (hC r r hr hr).mpr (Or.inl rfl)) (fun x fw a24 a25 h0 h1 => br_t (h0 z) (K fw a24 a25))
    · refine ri_largest hff hfr hn (fun r hr => (hC r r hr hr).mpr (Or.inl rfl)) (fun x fw a24 a25 h0 h1 => br_f ?_ (K fw a24 a25))
      have := h1 (by omega)
      rw [Int32.le_iff_toInt_le] at this
      rw [Int32.lt_iff_toInt_lt]
      omega
  | succ m ih =>
    intro i hi
    refine pk_le 10 i (fun z => absurd z (by omega)) (fun _ => ?_)
    refine rh_lock (by omega) (fun _ => br_t rfl (nm_r (nI_1 i) (ih (i + 1) (by omega)))) (fun r hr e => ?_) ((ri_LN_sh L).1 i (by omega))
    have hneg : ¬ nI r = -2 := by
      intro z
      have := congrArg Int32.toInt z
      rw [nI_toInt (by omega)] at this
      have e1 : ((-2 : Int32)).toInt = -2 := by decide
      omega
    have hS : rb_t fs r = true := by
      rcases ri_LN_lock L (show i < 10 by omega) with z | ⟨x, hx, hH, _, ex⟩
      · rw [z] at e
        exact absurd e.symm (rn_neg (by omega))
      · have := rn_inj (ex.symm.trans e) (by omega) (by omega)
        rw [← this]
        exact ((d.2.2.2.2.2.1 x hx).mp hH).1
    have hrn := d.1 r hS
    refine br_f hneg (br_f (nI_pos (by omega)) (pk_le n r (fun z => absurd z (by omega)) (fun _ => ?_)))
    exact ri_blocked hff hfr hn (by omega) (ri_LN_sh L).1 (fun a ha => ⟨_, p1 a ha⟩) (ri_LN_sh L).2 (fun _ _ => br_t rfl (nm_r (nI_1 i) (ih (i + 1) (by omega)))) (fun z => by have := z hrn; rw [hS] at this; exact absurd this (by decide))
theorem rh_9 {post : Int32 → St1 → Prop} {fj ff fr fs fo fw : Int32} {a1 a2 a3 a4 a5 a6 a7 a8 a9 a10 a11 a12 a13 a14 a15 a16 a17 a18 a19 a20 a21 a22 a23 a24 a25 a26 : Nat → Int32} {n : Nat} (s : ri_S n fj ff fr a1 a2 a3 a4 a7 a8 a9 a10 a11 a12 a13 a14) {hd ro : Nat → Option Nat} {pg : Nat → Nat} {tr : Nat → Option Nat} {wt : Nat → Nat} {H ps : Nat → Bool} (v : ri_V n hd ro pg tr wt H ps fs fo a1 a2 a3 a6 a8 a9 a10 a12 a13 a17 a18 a19 a20 a21 a22 a23) (K : ∀ (fw : Int32) (a24 a25 : Nat → Int32), post 1 (fj, ff, fr, fs, fo, fw, a1, a2, a3, a4, a5, a6, a7, a8, a9, a10, a11, a12, a13, a14, a15, a16, a17, a18, a19, a20, a21, a22, a23, a24, a25, a26)) :
    ∀ (m i : Nat) (x : Int32), i + m = 3 → (∀ b, rb_t x b = true → ∃ t h, t < i ∧ hd t = some h ∧ h / 2 = b) → wL_holds_9 post (nI n) (m + 1) x (nI i) fj ff fr fs fo fw a1 a2 a3 a4 a5 a6 a7 a8 a9 a10 a11 a12 a13 a14 a15 a16 a17 a18 a19 a20 a21 a22 a23 a24 a25 a26 := by
  have E : ri_E n fs fo a1 a2 a3 a6 a8 a9 a10 a12 a13 a17 a18 a19 a20 a21 a22 a23 := ⟨hd, ro, pg, tr, wt, H, ps, v⟩
  obtain ⟨hff, hfr, hn, hY, hG, hC⟩ := s
  obtain ⟨m', L, d, p1, p2⟩ := v
  intro m
  induction m with
  | zero =>
    intro i x hi hx
    exact pk_le 3 i (fun _ => ⟨10 + 1, rh_86 ⟨hff, hfr, hn, hY, hG, hC⟩ E K 10 0 (by omega)⟩) (fun z => absurd z (by omega))
  | succ m ih =>
    intro i x hi hx
    have hi3 : i < 3 := by omega
    refine pk_le 3 i (fun z => absurd z (by omega)) (fun _ => ?_)
    -- the section is new
    have fresh : ∀ h, hd i = some h → h < 20 → rb_t x (h / 2) = false := by
      intro h eh h20
      cases z : rb_t x (h / 2)
      · rfl
      · obtain ⟨t, h', u1, u2, u3⟩ := hx _ z
        have := d.2.2.2.2.1 t i h' h (by omega) hi3 u2 eh u3
        omega
    have grow : ∀ h, hd i = some h → h < 20 → ∀ b, rb_t (x ||| ((1 : Int32) <<< (nI (h / 2) &&& 31))) b = true → ∃ t h, t < i + 1 ∧ hd t = some h ∧ h / 2 = b := by
      intro h eh h20 b hb
      rw [rb_set (by omega), Bool.or_eq_true, decide_eq_true_eq] at hb
      rcases hb with z | z
      · obtain ⟨t, h', u1, u2, u3⟩ := hx _ z
        exact ⟨t, h', by omega, u2, u3⟩
      · exact ⟨i, h, by omega, eh, z.symm⟩
    have e100 : ∀ a : Nat, a < 2 ^ 31 → nI a - nI a / 100 * 100 = nI (a % 100) := fun a ha => pk_rem (d := 100) ha (by decide) (by decide)
    have e100' : ∀ a : Nat, a < 2 ^ 31 → nI a / 100 = nI (a / 100) := fun a ha => pk_div (d := 100) ha (by decide) (by decide)
    refine rh_train hi3 m'.2.2.1 m'.2.2.2.1 (fun _ => br_t (by decide) (nm_r (nI_1 i) (ih (i + 1) x (by omega) (fun b hb => ?_)))) (fun h eh h20 er => ?_) (fun h r eh h20 er h16 => ?_)
    · obtain ⟨t, h, u1, u2⟩ := hx b hb
      exact ⟨t, h, by omega, u2⟩
    · refine br_f (nI_pos (by omega)) ⟨by decide, by decide, nm_r (e' := nI (h / 2)) (by rw [e100 h (by omega), rn_d2 (by omega), show h % 100 = h by omega]) ?_⟩
      rw [rb_val (by omega), fresh h eh h20]
      exact br_f (by decide) (nm_e (br_t (nI_lt (b := 100) (by omega) (by omega)) (nm_r (nI_1 i) (ih (i + 1) _ (by omega) (grow h eh h20)))))
    · refine br_f (nI_pos (by omega)) ⟨by decide, by decide, nm_r (e' := nI (h / 2)) (by rw [e100 _ (by omega), rn_d2 (by omega), show (h + 100 * (r + 1)) % 100 = h by omega]) ?_⟩
      rw [rb_val (by omega), fresh h eh h20]
      refine br_f (by decide) (nm_e (br_f (nI_nlt (b := 100) (by omega) (by omega)) ⟨by decide, ?_⟩))
      rw [e100' _ (by omega), show (h + 100 * (r + 1)) / 100 = r + 1 by omega, nI_pred]
      have hS := (d.2.2.1 i r hi3 er).1
      have hrn := d.1 r hS
      exact ri_blocked hff hfr hn (by omega) (ri_LN_sh L).1 (fun a ha => ⟨_, p1 a ha⟩) (ri_LN_sh L).2 (fun _ _ => br_t rfl (nm_r (nI_1 i) (ih (i + 1) _ (by omega) (grow h eh h20)))) (fun z => by have := z hrn; rw [hS] at this; exact absurd this (by decide))
theorem rh_holds {post : Int32 → St1 → Prop} {fj ff fr fs fo fw : Int32} {a1 a2 a3 a4 a5 a6 a7 a8 a9 a10 a11 a12 a13 a14 a15 a16 a17 a18 a19 a20 a21 a22 a23 a24 a25 a26 : Nat → Int32} (W : (∃ n, ri_S n fj ff fr a1 a2 a3 a4 a7 a8 a9 a10 a11 a12 a13 a14 ∧ ri_E n fs fo a1 a2 a3 a6 a8 a9 a10 a12 a13 a17 a18 a19 a20 a21 a22 a23) ∨ ri_Z fj ff fs fo a1 a2 a3 a4 a6 a17 a18 a19 a20 a21 a22 a23)
    (K : ∀ (n : Nat) (ff fr fw : Int32) (a7 a8 a9 a10 a11 a12 a13 a14 a15 a16 a24 a25 : Nat → Int32), ri_S n fj ff fr a1 a2 a3 a4 a7 a8 a9 a10 a11 a12 a13 a14 → ri_E n fs fo a1 a2 a3 a6 a8 a9 a10 a12 a13 a17 a18 a19 a20 a21 a22 a23 → post 1 (fj, ff, fr, fs, fo, fw, a1, a2, a3, a4, a5, a6, a7, a8, a9, a10, a11, a12, a13, a14, a15, a16, a17, a18, a19, a20, a21, a22, a23, a24, a25, a26)) : wpL_holds post (fj, ff, fr, fs, fo, fw, a1, a2, a3, a4, a5, a6, a7, a8, a9, a10, a11, a12, a13, a14, a15, a16, a17, a18, a19, a20, a21, a22, a23, a24, a25, a26) := by
  unfold wpL_holds
  try dsimp only
  refine rh_routes W (fun n ff fr a7 a8 a9 a10 a11 a12 a13 a14 a15 a16 s E => ⟨3 + 1, ?_⟩)
  have E' := E
  obtain ⟨hd, ro, pg, tr, wt, H, ps, v⟩ := E'
  exact rh_9 s v (fun fw a24 a25 => K n ff fr fw a7 a8 a9 a10 a11 a12 a13 a14 a15 a16 a24 a25 s E) 3 0 0 (by omega) (fun b hb => by rw [rb_0] at hb; exact absurd hb (by decide))
/-! set: the picture afterwards; what cannot be set then; setting again after a cancel -/
section
variable {n r : Nat} {hd ro : Nat → Option Nat} {pg : Nat → Nat} {tr : Nat → Option Nat} {wt : Nat → Nat} {H ps : Nat → Bool} {fs fo fs' : Int32} {a1 a2 a3 a6 a7 a8 a9 a10 a11 a12 a13 a14 a17 a18 a19 a20 a21 a22 a23 a6' a19' a20' : Nat → Int32}
/-- the places of a set route without a train are held -/
theorem rk_held {q k : Nat} (v : ri_V n hd ro pg tr wt H ps fs fo a1 a2 a3 a6 a8 a9 a10 a12 a13 a17 a18 a19 a20 a21 a22 a23) (hn : n ≤ 16) (g : ri_G a1 a2 a3 a7 a8 a9 a10 a11 a12 q) (hS : rb_t fs q = true) (ht : tr q = none) (hk : k < rn_v (a8 q)) : H (5 * q + k) = true := by
  obtain ⟨m, L, d, p1, p2⟩ := v
  have h6 : rn_v (a8 q) < 6 := g.2.1.2
  have hq := d.1 q hS
  refine (d.2.2.2.2.2.1 (5 * q + k) (by omega)).mpr ?_
  rw [show (5 * q + k) / 5 = q by omega, show (5 * q + k) % 5 = k by omega]
  exact ⟨hS, hk, fun t e => by rw [ht] at e; exact absurd e (by simp)⟩
theorem rk_set (v : ri_V n hd ro pg tr wt H ps fs fo a1 a2 a3 a6 a8 a9 a10 a12 a13 a17 a18 a19 a20 a21 a22 a23) (hn : n ≤ 16) (hG : ∀ r, r < n → ri_G a1 a2 a3 a7 a8 a9 a10 a11 a12 r) (hr : r < n) (ok : ri_OK fs fo a6 a11 a12 a13 a19 a20 r)
    (hfs : ∀ i, rb_t fs' i = (rb_t fs i || decide (i = r))) (h6 : ∀ a, a < 20 → a6' a = rb_b (if rb_t (a12 r) a = true then rb_t (a13 r) a else ps a))
    (L' : ri_LN (fun i => rn_v (a10 i)) (ri_T a1 a2 a3 a9) (fun i => H i || decide (i / 5 = r ∧ i % 5 < rn_v (a8 r))) a19' a20') :
    ri_V n hd ro pg (rd_u tr r none) (rd_u wt r 0) (fun i => H i || decide (i / 5 = r ∧ i % 5 < rn_v (a8 r))) (fun a => if rb_t (a12 r) a = true then rb_t (a13 r) a else ps a) fs' fo a1 a2 a3 a6' a8 a9 a10 a12 a13 (upd a17 r 0) (upd a18 r (-1)) a19' a20' a21 a22 a23 := by
  have v' := v
  obtain ⟨m, L, d, p1, p2⟩ := v'
  have g := hG r hr
  refine ⟨ri_M18 (o := none) (ri_M17 (w := 0) m (by omega)) (fun _ e => absurd e (by simp)), L', rd_set d hr ok.1 (fun k hk => ?_) hfs (fun _ _ => rfl), h6, fun q hq htr a ha hne => ?_⟩
  · exact (ok.2.1 _ ((g.2.2.2.2.2.1 _).mpr ⟨k, hk, rfl⟩)).1
  · try dsimp only
    by_cases e : q = r
    · subst e
      rw [if_pos hne]
    · rw [rd_un e] at htr
      have hqS : rb_t fs q = true := by
        rw [hfs, Bool.or_eq_true, decide_eq_true_eq] at hq
        exact hq.resolve_right e
      have hps := p2 q hqS htr a ha hne
      by_cases z : rb_t (a12 r) a = true
      · rw [if_pos z]
        by_cases w : rb_t (a13 r) a = ps a
        · rw [w]
          exact hps
        · have h0 := (ok.2.2 a ha z (by rw [p1 a ha]; exact fun t => w (rb_bb.mp t).symm)).2
          have hqn := d.1 q hqS
          obtain ⟨_, k, hk, hT⟩ := (hG q hqn).2.2.2.2.2.2 a hne
          obtain ⟨c, hc, ec, hc1⟩ := ri_LN_need L ha
          have h5 : rn_v (a8 q) < 6 := (hG q hqn).2.1.2
          have := hc1 (5 * q + k) (by omega) (rk_held v hn (hG q hqn) hqS htr hk) hT
          have := rn_inj (ec.symm.trans h0) (by omega) (by omega)
          omega
      · rw [if_neg z]
        exact hps
/-- after r is set, what may be set is not in conflict with r -/
theorem rk_conf {q : Nat} (v : ri_V n hd ro pg tr wt H ps fs fo a1 a2 a3 a6 a8 a9 a10 a12 a13 a17 a18 a19 a20 a21 a22 a23) (hn : n ≤ 16) (hG : ∀ r, r < n → ri_G a1 a2 a3 a7 a8 a9 a10 a11 a12 r) (hC : ri_C n a11 a12 a13 a14) (hr : r < n) (hq : q < n) (hS : rb_t fs r = true) (ht : tr r = none) (ok : ri_OK fs fo a6 a11 a12 a13 a19 a20 q) : rb_t (a14 r) q = false := by
  have v' := v
  obtain ⟨m, L, d, p1, p2⟩ := v'
  have g := hG r hr
  have h6 : rn_v (a8 r) < 6 := g.2.1.2
  cases e : rb_t (a14 r) q
  · rfl
  · rcases (hC r q hr hq).mp e with z | z | z
    · rw [← z] at ok
      rw [ok.1] at hS
      exact absurd hS (by decide)
    · obtain ⟨x, hx⟩ := rl_bit z
      rw [rb_and, Bool.and_eq_true] at hx
      obtain ⟨k, hk, ek⟩ := (g.2.2.2.2.2.1 x).mp hx.1
      have hl := (g.2.2.2.1 k hk).1.2
      have h1 := (ok.2.1 x hx.2).2 (by omega)
      have h2 := L.1 (5 * r + k) (by omega) (rk_held v hn g hS ht hk)
      try dsimp only at h2
      rw [ek, h1] at h2
      exact absurd h2.symm (rn_neg (by omega))
    · obtain ⟨a, hx⟩ := rl_bit z
      rw [rb_and, rb_and, rb_xor, Bool.and_eq_true, Bool.and_eq_true] at hx
      obtain ⟨x1, x2, x3⟩ := hx
      obtain ⟨ha, k, hk, hT⟩ := g.2.2.2.2.2.2 a x2
      have hps := p2 r hS ht a ha x2
      have hne : a6 a ≠ rb_b (rb_t (a13 q) a) := by
        rw [p1 a ha]
        intro t
        rw [rb_bb, ← hps] at t
        rw [t] at x1
        simp at x1
      have h0 := (ok.2.2 a ha x3 hne).2
      obtain ⟨c, hc, ec, hc1⟩ := ri_LN_need L ha
      have := hc1 (5 * r + k) (by omega) (rk_held v hn g hS ht hk) hT
      have := rn_inj (ec.symm.trans h0) (by omega) (by omega)
      omega
/-- after a release nothing stands against setting it again; no lock names it -/
theorem rk_again (v : ri_V n hd ro pg tr wt H ps fs fo a1 a2 a3 a6 a8 a9 a10 a12 a13 a17 a18 a19 a20 a21 a22 a23) (hn : n ≤ 16) (hG : ∀ r, r < n → ri_G a1 a2 a3 a7 a8 a9 a10 a11 a12 r) (hr : r < n) (hS : rb_t fs r = true) (ht : tr r = none) (hfs : ∀ i, rb_t fs' i = (rb_t fs i && !decide (i = r)))
    (L' : ri_LN (fun i => rn_v (a10 i)) (ri_T a1 a2 a3 a9) (fun i => H i && !decide (i / 5 = r ∧ 0 ≤ i % 5 ∧ i % 5 < rn_v (a8 r))) a19' a20') :
    ri_OK fs' fo a6 a11 a12 a13 a19' a20' r ∧ (∀ s, s < 10 → a19' s ≠ nI r) ∧ ri_V n hd ro pg tr wt (fun i => H i && !decide (i / 5 = r ∧ 0 ≤ i % 5 ∧ i % 5 < rn_v (a8 r))) ps fs' fo a1 a2 a3 a6 a8 a9 a10 a12 a13 a17 a18 a19' a20' a21 a22 a23 := by
  have v' := v
  obtain ⟨m, L, d, p1, p2⟩ := v'
  have g := hG r hr
  have h6 : rn_v (a8 r) < 6 := g.2.1.2
  have d' := rd_rel d rfl ht hfs (fun i _ => (rfl : (fun i => H i && !decide (i / 5 = r ∧ 0 ≤ i % 5 ∧ i % 5 < rn_v (a8 r))) i = _))
  have hfr : rb_t fs' r = false := by
    rw [hfs]
    simp
  refine ⟨⟨hfr, fun s hs => ?_, fun a ha h12 hne => ?_⟩, fun s hs e => ?_, m, L', d', p1, fun q hq => p2 q ?_⟩
  · obtain ⟨k, hk, ek⟩ := (g.2.2.2.2.2.1 s).mp hs
    have hH := rk_held v hn g hS ht hk
    constructor
    · cases e : rb_t fo s
      · rfl
      · rw [← ek] at e
        obtain ⟨t, z, _⟩ := d.2.2.2.2.2.2 (5 * r + k) (by omega) hH e
        rw [show (5 * r + k) / 5 = r by omega, ht] at z
        exact absurd z (by simp)
    · intro hs10
      rcases ri_LN_lock L' hs10 with z | ⟨i, hi, hHi, ei, _⟩
      · exact z
      · rw [Bool.and_eq_true, Bool.not_eq_true', decide_eq_false_iff_not] at hHi
        have := L.2.2.1 i (5 * r + k) hi (by omega) hHi.1 hH (by try dsimp only at ei ⊢; rw [ei, ek])
        exact absurd ⟨by omega, Nat.zero_le _, by omega⟩ hHi.2
  · rw [p1 a ha, ← p2 r hS ht a ha h12] at hne
    exact absurd rfl hne
  · rcases ri_LN_lock L' hs with z | ⟨i, hi, hHi, ei, e2⟩
    · rw [z] at e
      exact absurd e.symm (rn_neg (by omega))
    · have h1 := rn_inj (e2.symm.trans e) (by omega) (by omega)
      have := ((d'.2.2.2.2.2.1 i hi).mp hHi).1
      rw [h1, hfr] at this
      exact absurd this (by decide)
  · rw [hfs, Bool.and_eq_true] at hq
    exact hq.1
end
end
section
/-! the law's loops -/
abbrev rt_J : Type := Int32 → Int32 → Int32 → Int32 → Int32 → Int32 → Int32 → (Nat → Int32) → (Nat → Int32) → (Nat → Int32) → (Nat → Int32) → (Nat → Int32) → (Nat → Int32) → (Nat → Int32) → (Nat → Int32) → (Nat → Int32) → (Nat → Int32) → (Nat → Int32) → (Nat → Int32) → (Nat → Int32) → (Nat → Int32) → (Nat → Int32) → (Nat → Int32) → (Nat → Int32) → (Nat → Int32) → (Nat → Int32) → (Nat → Int32) → (Nat → Int32) → (Nat → Int32) → (Nat → Int32) → (Nat → Int32) → (Nat → Int32) → (Nat → Int32) → Prop
theorem rt_351 {post : Int32 → Prop} {L : Nat} {xs : Nat → Int32} {J10 J305 : rt_J} {x2 x6 : Int32} {kc ks : Nat} {fj ff fr fs fo fw : Int32} {a1 a2 a3 a4 a5 a6 a7 a8 a9 a10 a11 a12 a13 a14 a15 a16 a17 a18 a19 a20 a21 a22 a23 a24 a25 a26 : Nat → Int32} {n k : Nat} (s : ri_S n fj ff fr a1 a2 a3 a4 a7 a8 a9 a10 a11 a12 a13 a14) (E : ri_E n fs fo a1 a2 a3 a6 a8 a9 a10 a12 a13 a17 a18 a19 a20 a21 a22 a23) (x9 : Int32)
    (h9 : x9 = 0 ∨ (x9 = 1 ∧ (∀ b, b < 10 → a19 b ≠ nI k) ∧ k < n ∧ ri_OK fs fo a6 a11 a12 a13 a19 a20 k)) (hk : k < 16)
    (K : ∀ (fs : Int32) (a6 a17 a18 a19 a20 : Nat → Int32), ri_E n fs fo a1 a2 a3 a6 a8 a9 a10 a12 a13 a17 a18 a19 a20 a21 a22 a23 → J305 (nI (k + 1)) fj ff fr fs fo fw a1 a2 a3 a4 a5 a6 a7 a8 a9 a10 a11 a12 a13 a14 a15 a16 a17 a18 a19 a20 a21 a22 a23 a24 a25 a26) : ∃ fu, wL_law_351 post L xs J10 J305 x2 x6 (nI k) x9 kc ks fj ff fr fs fo fw a1 a2 a3 a4 a5 a6 a7 a8 a9 a10 a11 a12 a13 a14 a15 a16 a17 a18 a19 a20 a21 a22 a23 a24 a25 a26 fu 0 := by
  obtain ⟨hff, hfr, hn, hY, hG, hC⟩ := s
  have E' := E
  obtain ⟨hd, ro, pg, tr, wt, H, ps, v⟩ := E'
  have v' := v
  obtain ⟨m', Ln, d, p1, p2⟩ := v'
  refine Exists.elim (pk_loop (σ := Unit) (fun m i _ => wL_law_351 post L xs J10 J305 x2 x6 (nI k) x9 kc ks fj ff fr fs fo fw a1 a2 a3 a4 a5 a6 a7 a8 a9 a10 a11 a12 a13 a14 a15 a16 a17 a18 a19 a20 a21 a22 a23 a24 a25 a26 m (nI i)) (fun _ _ => True) 10 0 () (by omega) trivial ?_ ?_) (fun m hm => ⟨m, hm⟩)
  · intro m _ _
    refine pk_le 10 10 (fun _ => ?_) (fun z => absurd z (by omega))
    rcases h9 with z | ⟨z, hb, hkn, ok⟩
    · exact br_t z (nm_r (nI_1 k) (K fs a6 a17 a18 a19 a20 E))
    · refine br_f (by rw [z]; decide) ?_
      refine ri_set hff hfr hn (by omega) hG Ln (fun _ hS k' hk' => ?_) p1 (fun z => absurd ok (z hkn)) (fun _ _ fs' a6' a19' a20' hfs h6 L' => br_f (by decide) (nm_r (nI_1 k) (K _ _ _ _ _ _ ⟨_, _, _, _, _, _, _, rk_set v hn hG hkn ok hfs h6 L'⟩)))
      cases e : H (5 * k + k')
      · rfl
      · have := ((d.2.2.2.2.2.1 (5 * k + k') (by omega)).mp e).1
        rw [show (5 * k + k') / 5 = k by omega, hS] at this
        exact absurd this (by decide)
  · intro m i _ hi _ hw
    refine pk_le 10 i (fun z => absurd z (by omega)) (fun _ => ?_)
    rcases h9 with z | ⟨z, hb, hkn, ok⟩
    · exact br_t z (nm_r (nI_1 i) (hw () trivial))
    · refine br_f (by rw [z]; decide) (rh_lock hi (fun e => br_f ?_ (nm_r (nI_1 i) (hw () trivial))) (fun r hr e => br_f ?_ (nm_r (nI_1 i) (hw () trivial))) ((ri_LN_sh Ln).1 i hi))
      · intro t
        have := congrArg Int32.toInt t
        rw [nI_toInt (by omega)] at this
        have e1 : ((-2 : Int32)).toInt = -2 := by decide
        omega
      · rw [← e]
        exact hb i hi
theorem rt_305 {post : Int32 → Prop} {L : Nat} {xs : Nat → Int32} {J10 : rt_J} {x2 : Int32} {kc ks : Nat} {fj ff fr fo fw : Int32} {a1 a2 a3 a4 a5 a7 a8 a9 a10 a11 a12 a13 a14 a15 a16 a21 a22 a23 a24 a25 a26 : Nat → Int32} {n n0 : Nat} (hn0 : n0 ≤ 16) (s : ri_S n fj ff fr a1 a2 a3 a4 a7 a8 a9 a10 a11 a12 a13 a14)
    (K : ∀ (fs : Int32) (a6 a17 a18 a19 a20 : Nat → Int32), ri_E n fs fo a1 a2 a3 a6 a8 a9 a10 a12 a13 a17 a18 a19 a20 a21 a22 a23 → J10 (x2 + 2) fj ff fr fs fo fw a1 a2 a3 a4 a5 a6 a7 a8 a9 a10 a11 a12 a13 a14 a15 a16 a17 a18 a19 a20 a21 a22 a23 a24 a25 a26) :
    ∀ (m i : Nat) (fs : Int32) (a6 a17 a18 a19 a20 : Nat → Int32), i + m = n0 → ri_E n fs fo a1 a2 a3 a6 a8 a9 a10 a12 a13 a17 a18 a19 a20 a21 a22 a23 → wL_law_305 post L xs J10 x2 (nI n0) kc ks (m + 1) (nI i) fj ff fr fs fo fw a1 a2 a3 a4 a5 a6 a7 a8 a9 a10 a11 a12 a13 a14 a15 a16 a17 a18 a19 a20 a21 a22 a23 a24 a25 a26 := by
  have s' := s
  obtain ⟨hff, hfr, hn, hY, hG, hC⟩ := s'
  intro m
  induction m with
  | zero =>
    intro i fs a6 a17 a18 a19 a20 hi E
    exact pk_le n0 i (fun _ => nm_e (K fs a6 a17 a18 a19 a20 E)) (fun z => absurd z (by omega))
  | succ m ih =>
    intro i fs a6 a17 a18 a19 a20 hi E
    have E' := E
    obtain ⟨hd, ro, pg, tr, wt, H, ps, v⟩ := E'
    have v' := v
    obtain ⟨m', Ln, d, p1, p2⟩ := v'
    refine pk_le n0 i (fun z => absurd z (by omega)) (fun _ => ?_)
    refine ri_blocked hff hfr hn (by omega) (ri_LN_sh Ln).1 (fun a ha => ⟨_, p1 a ha⟩) (ri_LN_sh Ln).2 (fun hin hS => br_t rfl ?_) (fun _ c hc => br_f hc (nm_r (nI_1 i) (ih (i + 1) fs a6 a17 a18 a19 a20 (by omega) E)))
    refine ri_cancel (w := wt i) (tr := tr i) (ro := ro) (hd := hd) (H := H) hff hfr hn (by omega) hG Ln (fun _ => m'.1 i (by omega)) (fun _ => m'.2.1 i (by omega)) m'.2.2.2.1 (fun hin hS ht k hk => rk_held v hn (hG i hin) hS ht hk) (br_t rfl (nm_r (nI_1 i) (ih (i + 1) fs a6 a17 a18 a19 a20 (by omega) E))) (fun hin hS ht hw => br_f (by decide) ?_) (fun hin hS ht hw fs' a19' a20' hfs L' => br_f (by decide) ?_)
    · have E2 : ri_E n fs fo a1 a2 a3 a6 a8 a9 a10 a12 a13 (upd a17 i 3) a18 a19 a20 a21 a22 a23 := ⟨hd, ro, pg, tr, rd_u wt i 3, H, ps, ri_M17 (w := 3) m' (by omega), Ln, rd_wt d (fun _ => ht), p1, p2⟩
      refine ri_blocked hff hfr hn (by omega) (ri_LN_sh Ln).1 (fun a ha => ⟨_, p1 a ha⟩) (ri_LN_sh Ln).2 (fun _ _ => br_t rfl ?_) (fun z => by have := z hin; rw [hS] at this; exact absurd this (by decide))
      exact rt_351 s E2 0 (Or.inl rfl) (by omega) (fun fs a6 a17 a18 a19 a20 E3 => ih (i + 1) fs a6 a17 a18 a19 a20 (by omega) E3)
    · obtain ⟨ok, hb, v2⟩ := rk_again v hn hG hin hS ht hfs L'
      have hf : rb_t fs' i = false := ok.1
      refine ri_blocked hff hfr hn (by omega) (ri_LN_sh L').1 (fun a ha => ⟨_, p1 a ha⟩) (ri_LN_sh L').2 (fun _ z => by rw [hf] at z; exact absurd z (by decide)) (fun _ c hc => br_f hc ?_)
      exact rt_351 s ⟨_, _, _, _, _, _, _, v2⟩ 1 (Or.inr ⟨rfl, hb, hin, ok⟩) (by omega) (fun fs a6 a17 a18 a19 a20 E3 => ih (i + 1) fs a6 a17 a18 a19 a20 (by omega) E3)
/-- what holds between two steps of the script -/
def rt_W (fj ff fr fs fo fw : Int32) (a1 a2 a3 a4 a5 a6 a7 a8 a9 a10 a11 a12 a13 a14 a15 a16 a17 a18 a19 a20 a21 a22 a23 a24 a25 a26 : Nat → Int32) : Prop := (∃ n, ri_S n fj ff fr a1 a2 a3 a4 a7 a8 a9 a10 a11 a12 a13 a14 ∧ ri_E n fs fo a1 a2 a3 a6 a8 a9 a10 a12 a13 a17 a18 a19 a20 a21 a22 a23) ∨ ri_Z fj ff fs fo a1 a2 a3 a4 a6 a17 a18 a19 a20 a21 a22 a23
theorem rt_293 {post : Int32 → Prop} {L : Nat} {xs : Nat → Int32} {J10 : rt_J} {x2 : Int32} {kc ks : Nat} {fj ff fr fs fo fw : Int32} {a1 a2 a3 a4 a5 a6 a7 a8 a9 a10 a11 a12 a13 a14 a15 a16 a17 a18 a19 a20 a21 a22 a23 a24 a25 a26 : Nat → Int32} {n0 : Nat} (hn0 : n0 ≤ 16) (W : rt_W fj ff fr fs fo fw a1 a2 a3 a4 a5 a6 a7 a8 a9 a10 a11 a12 a13 a14 a15 a16 a17 a18 a19 a20 a21 a22 a23 a24 a25 a26) (K : ∀ (fj ff fr fs fo fw : Int32) (a1 a2 a3 a4 a5 a6 a7 a8 a9 a10 a11 a12 a13 a14 a15 a16 a17 a18 a19 a20 a21 a22 a23 a24 a25 a26 : Nat → Int32), rt_W fj ff fr fs fo fw a1 a2 a3 a4 a5 a6 a7 a8 a9 a10 a11 a12 a13 a14 a15 a16 a17 a18 a19 a20 a21 a22 a23 a24 a25 a26 → J10 (x2 + 2) fj ff fr fs fo fw a1 a2 a3 a4 a5 a6 a7 a8 a9 a10 a11 a12 a13 a14 a15 a16 a17 a18 a19 a20 a21 a22 a23 a24 a25 a26) : wL_law_293 post L xs J10 x2 (nI n0) kc ks fj ff fr fs fo fw a1 a2 a3 a4 a5 a6 a7 a8 a9 a10 a11 a12 a13 a14 a15 a16 a17 a18 a19 a20 a21 a22 a23 a24 a25 a26 := by
  unfold wL_law_293
  refine rh_holds W (fun n ff fr fw a7 a8 a9 a10 a11 a12 a13 a14 a15 a16 a24 a25 s E => br_f (by decide) ⟨n0 + 1, ?_⟩)
  exact rt_305 hn0 s (fun fs a6 a17 a18 a19 a20 E2 => K fj ff fr fs fo fw a1 a2 a3 a4 a5 a6 a7 a8 a9 a10 a11 a12 a13 a14 a15 a16 a17 a18 a19 a20 a21 a22 a23 a24 a25 a26 (Or.inl ⟨n, s, E2⟩)) n0 0 fs a6 a17 a18 a19 a20 (by omega) E
theorem rt_252 {post : Int32 → Prop} {L : Nat} {xs : Nat → Int32} {J10 : rt_J} {x2 : Int32} {kc ks : Nat} {fj ff fr fs fo fw : Int32} {a1 a2 a3 a4 a5 a6 a7 a8 a9 a10 a11 a12 a13 a14 a15 a16 a17 a18 a19 a20 a21 a22 a23 a24 a25 a26 : Nat → Int32} {n r q : Nat} (s : ri_S n fj ff fr a1 a2 a3 a4 a7 a8 a9 a10 a11 a12 a13 a14) (E : ri_E n fs fo a1 a2 a3 a6 a8 a9 a10 a12 a13 a17 a18 a19 a20 a21 a22 a23) (hr : r < 2 ^ 31) (hq : q < 2 ^ 31) (K : ∀ (fj ff fr fs fo fw : Int32) (a1 a2 a3 a4 a5 a6 a7 a8 a9 a10 a11 a12 a13 a14 a15 a16 a17 a18 a19 a20 a21 a22 a23 a24 a25 a26 : Nat → Int32), rt_W fj ff fr fs fo fw a1 a2 a3 a4 a5 a6 a7 a8 a9 a10 a11 a12 a13 a14 a15 a16 a17 a18 a19 a20 a21 a22 a23 a24 a25 a26 → J10 (x2 + 2) fj ff fr fs fo fw a1 a2 a3 a4 a5 a6 a7 a8 a9 a10 a11 a12 a13 a14 a15 a16 a17 a18 a19 a20 a21 a22 a23 a24 a25 a26) : wL_law_252 post L xs J10 x2 (nI n) (nI r) (nI q) kc ks fj ff fr fs fo fw a1 a2 a3 a4 a5 a6 a7 a8 a9 a10 a11 a12 a13 a14 a15 a16 a17 a18 a19 a20 a21 a22 a23 a24 a25 a26 := by
  have s' := s
  obtain ⟨hff, hfr, hn, hY, hG, hC⟩ := s'
  have hHf : ∀ {x : Nat} {hd ro : Nat → Option Nat} {pg : Nat → Nat} {tr : Nat → Option Nat} {wt : Nat → Nat} {H ps : Nat → Bool} {fs fo : Int32} {a6 a17 a18 a19 a20 a21 a22 a23 : Nat → Int32}, ri_V n hd ro pg tr wt H ps fs fo a1 a2 a3 a6 a8 a9 a10 a12 a13 a17 a18 a19 a20 a21 a22 a23 → x < n → rb_t fs x = false → ∀ k, k < 5 → H (5 * x + k) = false := by
    intro x hd ro pg tr wt H ps fs fo a6 a17 a18 a19 a20 a21 a22 a23 v hx hS k hk
    cases e : H (5 * x + k)
    · rfl
    · have := ((v.2.2.1.2.2.2.2.2.1 (5 * x + k) (by omega)).mp e).1
      rw [show (5 * x + k) / 5 = x by omega, hS] at this
      exact absurd this (by decide)
  have E' := E
  obtain ⟨hd, ro, pg, tr, wt, H, ps, v⟩ := E'
  unfold wL_law_252
  refine ri_set hff hfr hn hr hG v.2.1 (fun h1 h2 => hHf v h1 h2) v.2.2.2.1 (fun _ => ?_) (fun hrn ok fs' a6' a19' a20' hfs h6 L' => ?_)
  · refine ri_set hff hfr hn hq hG v.2.1 (fun h1 h2 => hHf v h1 h2) v.2.2.2.1 (fun _ => br_t rfl (rt_293 hn (Or.inl ⟨n, s, E⟩) K)) (fun hqn ok2 fs' a6' a19' a20' hfs h6 L' => br_t rfl (rt_293 hn (Or.inl ⟨n, s, ⟨_, _, _, _, _, _, _, rk_set v hn hG hqn ok2 hfs h6 L'⟩⟩) K))
  · have v1 := rk_set v hn hG hrn ok hfs h6 L'
    have hS1 : rb_t fs' r = true := by
      rw [hfs]
      simp
    refine ri_set hff hfr hn hq hG v1.2.1 (fun h1 h2 => hHf v1 h1 h2) v1.2.2.2.1 (fun _ => br_f (by decide) (br_t rfl (rt_293 hn (Or.inl ⟨n, s, ⟨_, _, _, _, _, _, _, v1⟩⟩) K))) (fun hqn ok2 fs2 b6 b19 b20 hfs2 hb6 L2 => br_f (by decide) (br_f (by decide) ?_))
    have v2 := rk_set v1 hn hG hqn ok2 hfs2 hb6 L2
    have hc := rk_conf v1 hn hG hC hrn hqn hS1 rd_us ok2
    refine ri_conflict hff hfr hn hrn hqn (fun z => by rw [hc] at z; exact absurd z (by decide)) (fun _ => br_t rfl (rt_293 hn (Or.inl ⟨n, s, ⟨_, _, _, _, _, _, _, v2⟩⟩) K))
theorem rt_136 {post : Int32 → Prop} {L : Nat} {xs : Nat → Int32} {J10 : rt_J} {x2 : Int32} {kc ks : Nat} {fj ff fr fs fo fw : Int32} {a1 a2 a3 a4 a5 a6 a7 a8 a9 a10 a11 a12 a13 a14 a15 a16 a17 a18 a19 a20 a21 a22 a23 a24 a25 a26 : Nat → Int32} {n p q : Nat} (s : ri_S n fj ff fr a1 a2 a3 a4 a7 a8 a9 a10 a11 a12 a13 a14) (E : ri_E n fs fo a1 a2 a3 a6 a8 a9 a10 a12 a13 a17 a18 a19 a20 a21 a22 a23) (hp : p < 20) (hq : q < 20) (K : ∀ (fj ff fr fs fo fw : Int32) (a1 a2 a3 a4 a5 a6 a7 a8 a9 a10 a11 a12 a13 a14 a15 a16 a17 a18 a19 a20 a21 a22 a23 a24 a25 a26 : Nat → Int32), rt_W fj ff fr fs fo fw a1 a2 a3 a4 a5 a6 a7 a8 a9 a10 a11 a12 a13 a14 a15 a16 a17 a18 a19 a20 a21 a22 a23 a24 a25 a26 → J10 (x2 + 2) fj ff fr fs fo fw a1 a2 a3 a4 a5 a6 a7 a8 a9 a10 a11 a12 a13 a14 a15 a16 a17 a18 a19 a20 a21 a22 a23 a24 a25 a26) : wL_law_136 post L xs J10 x2 (nI p) (nI q) (nI n) kc ks fj ff fr fs fo fw a1 a2 a3 a4 a5 a6 a7 a8 a9 a10 a11 a12 a13 a14 a15 a16 a17 a18 a19 a20 a21 a22 a23 a24 a25 a26 := by
  have s' := s
  obtain ⟨hff, hfr, hn, ⟨nj, hj, hY⟩, hG, hC⟩ := s'
  unfold wL_law_136
  refine ry_joint hj hY hp hq (rt_293 hn (Or.inl ⟨n, s, E⟩) K) (fun z1 z2 nj' b1 b2 b3 b4 b6 hY' h6 => rt_293 hn (Or.inr ⟨rfl, z1, z2, ⟨nj', rfl, hY'⟩, ?_⟩) K)
  obtain ⟨pg, tr, wt, ps, m, Ln, p1⟩ := rz_of E z1 z2
  exact ⟨pg, tr, wt, fun _ => false, m, Ln, h6⟩
theorem rt_163 {post : Int32 → Prop} {L : Nat} {xs : Nat → Int32} {J10 : rt_J} {x2 z0 : Int32} {kc ks : Nat} {fj ff fr fs fo fw : Int32} {a1 a2 a3 a4 a5 a6 a7 a8 a9 a10 a11 a12 a13 a14 a15 a16 a17 a18 a19 a20 a21 a22 a23 a24 a25 a26 : Nat → Int32} {n p : Nat} (s : ri_S n fj ff fr a1 a2 a3 a4 a7 a8 a9 a10 a11 a12 a13 a14) (E : ri_E n fs fo a1 a2 a3 a6 a8 a9 a10 a12 a13 a17 a18 a19 a20 a21 a22 a23) (hp : p < 20) (K : ∀ (fj ff fr fs fo fw : Int32) (a1 a2 a3 a4 a5 a6 a7 a8 a9 a10 a11 a12 a13 a14 a15 a16 a17 a18 a19 a20 a21 a22 a23 a24 a25 a26 : Nat → Int32), rt_W fj ff fr fs fo fw a1 a2 a3 a4 a5 a6 a7 a8 a9 a10 a11 a12 a13 a14 a15 a16 a17 a18 a19 a20 a21 a22 a23 a24 a25 a26 → J10 (x2 + 2) fj ff fr fs fo fw a1 a2 a3 a4 a5 a6 a7 a8 a9 a10 a11 a12 a13 a14 a15 a16 a17 a18 a19 a20 a21 a22 a23 a24 a25 a26) : wL_law_163 post L xs J10 x2 (nI n) z0 (nI p) kc ks fj ff fr fs fo fw a1 a2 a3 a4 a5 a6 a7 a8 a9 a10 a11 a12 a13 a14 a15 a16 a17 a18 a19 a20 a21 a22 a23 a24 a25 a26 := by
  have s' := s
  obtain ⟨hff, hfr, hn, hY, hG, hC⟩ := s'
  unfold wL_law_163
  exact ry_signal hp (rt_293 hn (Or.inl ⟨n, s, E⟩) K) (fun z1 z2 b5 => rt_293 hn (Or.inr ⟨rfl, z1, z2, hY, rz_of E z1 z2⟩) K)
theorem rt_148 {post : Int32 → Prop} {L : Nat} {xs : Nat → Int32} {J10 : rt_J} {x2 x3 : Int32} {kc ks : Nat} {fj ff fr fs fo fw : Int32} {a1 a2 a3 a4 a5 a6 a7 a8 a9 a10 a11 a12 a13 a14 a15 a16 a17 a18 a19 a20 a21 a22 a23 a24 a25 a26 : Nat → Int32} {n p : Nat} (s : ri_S n fj ff fr a1 a2 a3 a4 a7 a8 a9 a10 a11 a12 a13 a14) (E : ri_E n fs fo a1 a2 a3 a6 a8 a9 a10 a12 a13 a17 a18 a19 a20 a21 a22 a23) (hp : p < 20) (K : ∀ (fj ff fr fs fo fw : Int32) (a1 a2 a3 a4 a5 a6 a7 a8 a9 a10 a11 a12 a13 a14 a15 a16 a17 a18 a19 a20 a21 a22 a23 a24 a25 a26 : Nat → Int32), rt_W fj ff fr fs fo fw a1 a2 a3 a4 a5 a6 a7 a8 a9 a10 a11 a12 a13 a14 a15 a16 a17 a18 a19 a20 a21 a22 a23 a24 a25 a26 → J10 (x2 + 2) fj ff fr fs fo fw a1 a2 a3 a4 a5 a6 a7 a8 a9 a10 a11 a12 a13 a14 a15 a16 a17 a18 a19 a20 a21 a22 a23 a24 a25 a26) : wL_law_148 post L xs J10 x2 x3 (nI p) (nI n) kc ks fj ff fr fs fo fw a1 a2 a3 a4 a5 a6 a7 a8 a9 a10 a11 a12 a13 a14 a15 a16 a17 a18 a19 a20 a21 a22 a23 a24 a25 a26 := by
  unfold wL_law_148
  exact br_c (fun _ => rt_163 s E hp K) (fun _ => rt_163 s E hp K)
theorem rt_70 {post : Int32 → Prop} {L : Nat} {xs : Nat → Int32} {J10 : rt_J} {x3 : Int32} {kc ks : Nat} {fj ff fr fs fo fw : Int32} {a1 a2 a3 a4 a5 a6 a7 a8 a9 a10 a11 a12 a13 a14 a15 a16 a17 a18 a19 a20 a21 a22 a23 a24 a25 a26 : Nat → Int32} {n i p q r : Nat} (hi : i < L) (hL : L ≤ 260) (s : ri_S n fj ff fr a1 a2 a3 a4 a7 a8 a9 a10 a11 a12 a13 a14) (E : ri_E n fs fo a1 a2 a3 a6 a8 a9 a10 a12 a13 a17 a18 a19 a20 a21 a22 a23) (hp : p < 20) (hq : q < 20) (hr : r < 2 ^ 31) (K : ∀ (fj ff fr fs fo fw : Int32) (a1 a2 a3 a4 a5 a6 a7 a8 a9 a10 a11 a12 a13 a14 a15 a16 a17 a18 a19 a20 a21 a22 a23 a24 a25 a26 : Nat → Int32), rt_W fj ff fr fs fo fw a1 a2 a3 a4 a5 a6 a7 a8 a9 a10 a11 a12 a13 a14 a15 a16 a17 a18 a19 a20 a21 a22 a23 a24 a25 a26 → J10 (nI i + 2) fj ff fr fs fo fw a1 a2 a3 a4 a5 a6 a7 a8 a9 a10 a11 a12 a13 a14 a15 a16 a17 a18 a19 a20 a21 a22 a23 a24 a25 a26) : wL_law_70 post L xs J10 (nI i) x3 (nI p) (nI q) (nI n) (nI r) kc ks fj ff fr fs fo fw a1 a2 a3 a4 a5 a6 a7 a8 a9 a10 a11 a12 a13 a14 a15 a16 a17 a18 a19 a20 a21 a22 a23 a24 a25 a26 := by
  have s' := s
  obtain ⟨hff, hfr, hn, hY, hG, hC⟩ := s'
  have E' := E
  obtain ⟨hd, ro, pg, tr, wt, H, ps, v⟩ := E'
  have v' := v
  obtain ⟨m', Ln, d, p1, p2⟩ := v'
  have m3 : ∀ x : Int32, ∃ t, t < 3 ∧ (x &&& 255) - (x &&& 255) / 3 * 3 = nI t := by
    intro x
    obtain ⟨j, hj, e⟩ := pk_andE x (m := 255) 8 (by decide)
    refine ⟨j % 3, Nat.mod_lt _ (by omega), ?_⟩
    rw [e]
    exact pk_rem (d := 3) (by omega) (by decide) (by decide)
  have dflt : (nI n = 0 → wL_law_252 post L xs J10 (nI i) (nI n) (nI r) 0 kc ks fj ff fr fs fo fw a1 a2 a3 a4 a5 a6 a7 a8 a9 a10 a11 a12 a13 a14 a15 a16 a17 a18 a19 a20 a21 a22 a23 a24 a25 a26) ∧ (¬ nI n = 0 → (¬ nI n = 0 ∧ wL_law_252 post L xs J10 (nI i) (nI n) (nI r) (((x3 >>> ((8 : Int32) &&& 31)) &&& 255) - ((x3 >>> ((8 : Int32) &&& 31)) &&& 255) / nI n * nI n) kc ks fj ff fr fs fo fw a1 a2 a3 a4 a5 a6 a7 a8 a9 a10 a11 a12 a13 a14 a15 a16 a17 a18 a19 a20 a21 a22 a23 a24 a25 a26)) := by
    refine br_c (fun _ => ?_) (fun z => ⟨z, ?_⟩)
    · exact rt_252 (q := 0) s E hr (by omega) K
    · obtain ⟨j, hj, e⟩ := pk_andE (x3 >>> ((8 : Int32) &&& 31)) (m := 255) 8 (by decide)
      have hn0 : 0 < n := by
        rcases Nat.eq_zero_or_pos n with t | t
        · subst t
          exact absurd rfl z
        · exact t
      rw [e, pk_rem (by omega) hn0 (by omega)]
      exact rt_252 s E hr (Nat.lt_of_lt_of_le (Nat.mod_lt _ hn0) (by omega)) K
  unfold wL_law_70
  refine ⟨vp_in_nI hi (by omega), ?_⟩
  rw [nI_clamp (show i < 2 ^ 31 by omega)]
  obtain ⟨k, hk, ek⟩ := pk_andE (xs i) (m := 15) 4 (by decide)
  refine nm_r ek ?_
  refine br_f (nI_pos (by omega)) (pk_lt 10 k (fun _ => dflt) (fun hk10 => ?_))
  have A : wL_law_136 post L xs J10 (nI i) (nI p) (nI q) (nI n) kc ks fj ff fr fs fo fw a1 a2 a3 a4 a5 a6 a7 a8 a9 a10 a11 a12 a13 a14 a15 a16 a17 a18 a19 a20 a21 a22 a23 a24 a25 a26 := rt_136 s E hp hq K
  have B : wL_law_148 post L xs J10 (nI i) x3 (nI p) (nI n) kc ks fj ff fr fs fo fw a1 a2 a3 a4 a5 a6 a7 a8 a9 a10 a11 a12 a13 a14 a15 a16 a17 a18 a19 a20 a21 a22 a23 a24 a25 a26 := rt_148 s E hp K
  refine pk_eq k 0 (fun _ => A) (fun _ => pk_eq k 1 (fun _ => A) (fun _ => pk_eq k 2 (fun _ => A) (fun _ => pk_eq k 3 (fun _ => A) (fun _ => pk_eq k 4 (fun _ => B) (fun _ => pk_eq k 5 (fun _ => B) (fun _ => pk_eq k 6 (fun _ => B) (fun _ => pk_eq k 7 (fun _ => ⟨by decide, ?_⟩) (fun _ => pk_eq k 8 (fun _ => ⟨by decide, ?_⟩) (fun _ => pk_eq k 9 (fun _ => ?_) (fun _ => pk_eq k 10 (fun _ => ?_) (fun _ => trivial)))))))))))
  · obtain ⟨t, ht, e⟩ := m3 (x3 >>> ((16 : Int32) &&& 31))
    rw [e]
    exact rm_put ht hp E (rt_293 hn (Or.inl ⟨n, s, E⟩) K) (fun fo a21 a22 E2 => rt_293 hn (Or.inl ⟨n, s, E2⟩) K)
  · obtain ⟨t, ht, e⟩ := m3 x3
    rw [e]
    obtain ⟨w, hw, ew⟩ := pk_andE (x3 >>> ((8 : Int32) &&& 31)) (m := 1) 1 (by decide)
    rw [ew]
    refine rm_turn ht ?_ E (rt_293 hn (Or.inl ⟨n, s, E⟩) K) (fun fo a21 E2 => rt_293 hn (Or.inl ⟨n, s, E2⟩) K)
    rcases Nat.eq_zero_or_pos w with t | t
    · subst t
      exact Or.inl rfl
    · have : w = 1 := by omega
      subst this
      exact Or.inr rfl
  · refine ri_cancel (w := wt r) (tr := tr r) (ro := ro) (hd := hd) (H := H) hff hfr hn hr hG Ln (fun h => m'.1 r (by omega)) (fun h => m'.2.1 r (by omega)) m'.2.2.2.1 (fun hin hS ht k hk => rk_held v hn (hG r hin) hS ht hk) (rt_293 hn (Or.inl ⟨n, s, E⟩) K) (fun hin hS ht hw => rt_293 hn (Or.inl ⟨n, s, ?_⟩) K) (fun hin hS ht hw fs' a19' a20' hfs L' => rt_293 hn (Or.inl ⟨n, s, ⟨_, _, _, _, _, _, _, (rk_again v hn hG hin hS ht hfs L').2.2⟩⟩) K)
    exact ⟨hd, ro, pg, tr, rd_u wt r 3, H, ps, ri_M17 (w := 3) m' (by omega), Ln, rd_wt d (fun _ => ht), p1, p2⟩
  · obtain ⟨c, hc, e⟩ := pk_andE x3 (m := 3) 2 (by decide)
    rw [e]
    exact rm_tick (by omega) s E (fun x fs fo a17 a18 a19 a20 a21 a22 a23 E2 => rt_293 hn (Or.inl ⟨n, s, E2⟩) K)
theorem rt_10 {L : Nat} {xs : Nat → Int32} {kc ks : Nat} (hL : L ≤ 260) : ∀ (m i : Nat) (fj ff fr fs fo fw : Int32) (a1 a2 a3 a4 a5 a6 a7 a8 a9 a10 a11 a12 a13 a14 a15 a16 a17 a18 a19 a20 a21 a22 a23 a24 a25 a26 : Nat → Int32), L ≤ i + 2 * m → i ≤ 260 + 1 → rt_W fj ff fr fs fo fw a1 a2 a3 a4 a5 a6 a7 a8 a9 a10 a11 a12 a13 a14 a15 a16 a17 a18 a19 a20 a21 a22 a23 a24 a25 a26 → wL_law_10 (fun r => r = 1) L xs kc ks (m + 1) (nI i) fj ff fr fs fo fw a1 a2 a3 a4 a5 a6 a7 a8 a9 a10 a11 a12 a13 a14 a15 a16 a17 a18 a19 a20 a21 a22 a23 a24 a25 a26 := by
  intro m
  have exit : ∀ i : Nat, i ≤ 260 + 1 → L < i + 2 → (Int32.ofNat L - 2 : Int32) < nI i := by
    intro i hi h
    have e := pk_sub_toInt (a := L) (b := 2) (by omega) (by omega)
    rw [Int32.lt_iff_toInt_lt, nI_toInt (by omega)]
    show (nI L - nI 2).toInt < _
    rw [e]
    omega
  have stay : ∀ i : Nat, i ≤ 260 + 1 → i + 2 ≤ L → ¬ (Int32.ofNat L - 2 : Int32) < nI i := by
    intro i hi h
    have e := pk_sub_toInt (a := L) (b := 2) (by omega) (by omega)
    rw [Int32.lt_iff_toInt_lt, nI_toInt (by omega)]
    show ¬ (nI L - nI 2).toInt < _
    rw [e]
    omega
  induction m with
  | zero =>
    intro i fj ff fr fs fo fw a1 a2 a3 a4 a5 a6 a7 a8 a9 a10 a11 a12 a13 a14 a15 a16 a17 a18 a19 a20 a21 a22 a23 a24 a25 a26 hm hi W
    exact br_t (exit i hi (by omega)) rfl
  | succ m ih =>
    intro i fj ff fr fs fo fw a1 a2 a3 a4 a5 a6 a7 a8 a9 a10 a11 a12 a13 a14 a15 a16 a17 a18 a19 a20 a21 a22 a23 a24 a25 a26 hm hi W
    rcases Nat.lt_or_ge L (i + 2) with z | z
    · exact br_t (exit i hi z) rfl
    refine br_f (stay i hi z) ?_
    have m20 : ∀ x : Int32, ∃ t, t < 20 ∧ (x &&& 255) - (x &&& 255) / 20 * 20 = nI t := by
      intro x
      obtain ⟨j, hj, e⟩ := pk_andE x (m := 255) 8 (by decide)
      refine ⟨j % 20, Nat.mod_lt _ (by omega), ?_⟩
      rw [e]
      exact pk_rem (d := 20) (by omega) (by decide) (by decide)
    rw [nI_1 i, nI_clamp (show i + 1 < 2 ^ 31 by omega)]
    obtain ⟨p, hp, ep⟩ := m20 (xs (i + 1))
    obtain ⟨q, hq, eq⟩ := m20 (xs (i + 1) >>> ((8 : Int32) &&& 31))
    refine ⟨vp_in_nI (by omega) (by omega), nm_e ⟨by decide, nm_r ep ⟨by decide, nm_r eq ?_⟩⟩⟩
    refine rh_routes W (fun n ff fr a7 a8 a9 a10 a11 a12 a13 a14 a15 a16 s E => ?_)
    have hn := s.2.2.1
    have go : ∀ (fj' ff' fr' fs' fo' fw' : Int32) (a1' a2' a3' a4' a5' a6' a7' a8' a9' a10' a11' a12' a13' a14' a15' a16' a17' a18' a19' a20' a21' a22' a23' a24' a25' a26' : Nat → Int32), rt_W fj' ff' fr' fs' fo' fw' a1' a2' a3' a4' a5' a6' a7' a8' a9' a10' a11' a12' a13' a14' a15' a16' a17' a18' a19' a20' a21' a22' a23' a24' a25' a26' → wL_law_10 (fun r => r = 1) L xs kc ks (m + 1) (nI i + 2) fj' ff' fr' fs' fo' fw' a1' a2' a3' a4' a5' a6' a7' a8' a9' a10' a11' a12' a13' a14' a15' a16' a17' a18' a19' a20' a21' a22' a23' a24' a25' a26' := by
      intro fj' ff' fr' fs' fo' fw' a1' a2' a3' a4' a5' a6' a7' a8' a9' a10' a11' a12' a13' a14' a15' a16' a17' a18' a19' a20' a21' a22' a23' a24' a25' a26' W'
      have e2 : nI i + 2 = nI (i + 2) := nI_add i 2
      rw [e2]
      exact ih (i + 2) fj' ff' fr' fs' fo' fw' a1' a2' a3' a4' a5' a6' a7' a8' a9' a10' a11' a12' a13' a14' a15' a16' a17' a18' a19' a20' a21' a22' a23' a24' a25' a26' (by omega) (by omega) W'
    refine br_c (fun _ => ?_) (fun z0 => ⟨z0, ?_⟩)
    · exact rt_70 (r := 0) (by omega) hL s E hp hq (by omega) go
    · obtain ⟨j, hj, e⟩ := pk_andE (xs (i + 1)) (m := 255) 8 (by decide)
      have hn0 : 0 < n := by
        rcases Nat.eq_zero_or_pos n with t | t
        · subst t
          exact absurd rfl z0
        · exact t
      rw [e, pk_rem (by omega) hn0 (by omega)]
      exact rt_70 (by omega) hL s E hp hq (Nat.lt_of_lt_of_le (Nat.mod_lt _ hn0) (by omega)) go
end
section
theorem i_vc (xs : Nat → Int32) (L : Nat) (hL : L ≤ 260) : wpL_law (fun r => r = 1) L xs := by
  refine ⟨26, 523, by decide, by decide, ry_init (fun a19 a21 a22 h19 h21 h22 => ⟨L + 1, ?_⟩)⟩
  refine rt_10 hL L 0 _ _ _ _ _ _ _ _ _ _ _ _ _ _ _ _ _ _ _ _ _ _ _ _ _ _ _ _ _ _ _ _ (by omega) (by omega) (Or.inr ⟨rfl, rfl, rfl, ⟨0, rfl, by omega, fun a ha => ⟨0, by omega, rfl, fun k hk => absurd hk (by omega)⟩⟩, fun _ => 0, fun _ => some 0, fun _ => 0, fun _ => false, ?_, ?_, fun a ha => rfl⟩)
  · exact ⟨fun r hr => ⟨rfl, Nat.zero_le _⟩, fun r hr => ⟨rfl, fun t e => by injection e with e; omega⟩, fun t ht => ⟨h21 t ht, fun h e => absurd e (by simp)⟩, fun t ht => ⟨h22 t ht, fun h e => absurd e (by simp)⟩, fun t ht => ⟨rfl, Nat.zero_le _⟩⟩
  · refine ⟨fun i hi h => absurd h Bool.false_ne_true, fun s hs => Or.inl (h19 s hs), fun i i' hi hi' h => absurd h Bool.false_ne_true, fun a ha => ?_⟩
    exact (congrArg nI (rs_zero (n := 80) (fun i hi => rfl))).symm
end
