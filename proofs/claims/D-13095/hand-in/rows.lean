section
/-- bit i of a word -/
def sr_b (x : Int64) (i : Nat) : Bool := x.toBitVec.getLsbD i
theorem sr_ext {x y : Int64} (h : ∀ i, i < 64 → sr_b x i = sr_b y i) : x = y := Int64.toBitVec_inj.mp (BitVec.eq_of_getLsbD_eq (fun i hi => h i hi))
theorem sr_or (x y : Int64) (i : Nat) : sr_b (x ||| y) i = (sr_b x i || sr_b y i) := by unfold sr_b; rw [Int64.toBitVec_or, BitVec.getLsbD_or]
theorem sr_and (x y : Int64) (i : Nat) : sr_b (x &&& y) i = (sr_b x i && sr_b y i) := by unfold sr_b; rw [Int64.toBitVec_and, BitVec.getLsbD_and]
theorem sr_ge {x : Int64} {i : Nat} (h : 64 ≤ i) : sr_b x i = false := BitVec.getLsbD_of_ge _ _ h
theorem sr_0 (i : Nat) : sr_b 0 i = false := BitVec.getLsbD_zero
theorem sr_not (x : Int64) {i : Nat} (hi : i < 64) : sr_b (x ^^^ (-1)) i = !sr_b x i := by
  unfold sr_b
  rw [Int64.toBitVec_xor, show (-1 : Int64).toBitVec = BitVec.allOnes 64 by decide, BitVec.getLsbD_xor, BitVec.getLsbD_allOnes, decide_eq_true hi, Bool.xor_true]
theorem sr_sh : ∀ l, l < 64 → ((1 : Int64) <<< ((nI l).toInt64 &&& 63)).toBitVec = BitVec.twoPow 64 l := by decide +kernel
theorem sr_bit {l : Nat} (hl : l < 64) (i : Nat) : sr_b ((1 : Int64) <<< ((nI l).toInt64 &&& 63)) i = decide (i = l) := by
  unfold sr_b
  rw [sr_sh l hl, BitVec.getLsbD_twoPow]
  by_cases e : i = l
  · subst e
    simp [hl]
  · have e' : ¬ l = i := fun z => e z.symm
    simp [e, e']
theorem sr_one (i : Nat) : sr_b 1 i = decide (i = 0) := by
  rcases Nat.lt_or_ge i 64 with h | h
  · exact (by decide +kernel : ∀ i, i < 64 → sr_b 1 i = decide (i = 0)) i h
  · rw [sr_ge h, decide_eq_false (by omega)]
theorem sr_su : ∀ n, n < 64 → (((nI n).toInt64.toUInt64 &&& Int64.toUInt64 63).toBitVec % 64).toNat = n := by decide +kernel
theorem sr_ss : ∀ n, n < 64 → ((((nI n).toInt64 &&& 63).toBitVec).smod 64).toNat = n := by decide +kernel
theorem sr_ushr (x : Int64) {f : Nat} (hf : f < 64) (i : Nat) : sr_b ((x.toUInt64 >>> ((nI f).toInt64.toUInt64 &&& Int64.toUInt64 63)).toInt64) i = sr_b x (f + i) := by
  show (x.toUInt64 >>> ((nI f).toInt64.toUInt64 &&& Int64.toUInt64 63)).toBitVec.getLsbD i = x.toUInt64.toBitVec.getLsbD (f + i)
  rw [UInt64.toBitVec_shiftRight]
  show (x.toUInt64.toBitVec >>> (((nI f).toInt64.toUInt64 &&& Int64.toUInt64 63).toBitVec % 64).toNat).getLsbD i = _
  rw [sr_su f hf, BitVec.getLsbD_ushiftRight]
theorem sr_sshr (x : Int64) {f : Nat} (hf : f < 64) : sr_b (x >>> ((nI f).toInt64 &&& 63)) 0 = sr_b x f := by
  unfold sr_b
  rw [Int64.toBitVec_shiftRight]
  show (x.toBitVec.sshiftRight (((nI f).toInt64 &&& 63).toBitVec.smod 64).toNat).getLsbD 0 = _
  rw [sr_ss f hf, BitVec.getLsbD_sshiftRight]
  simp [hf]
theorem sr_a1 (w : Int64) : w &&& 1 = if sr_b w 0 then 1 else 0 := by
  apply sr_ext
  intro i hi
  rw [sr_and, sr_one]
  by_cases e : i = 0
  · subst e
    cases h : sr_b w 0
    · simp [sr_0]
    · simp [sr_one]
  · cases h : sr_b w 0
    · simp [sr_0, e]
    · simp [sr_one, e]
/-- the class's bitAt -/
theorem sr_at (x : Int64) {f : Nat} (hf : f < 64) : (((x.toUInt64 >>> ((nI f).toInt64.toUInt64 &&& Int64.toUInt64 63)).toInt64) &&& 1).toInt32 = if sr_b x f then 1 else 0 := by
  rw [sr_a1, sr_ushr x hf, Nat.add_zero]
  cases sr_b x f <;> rfl
/-- the law's in -/
theorem sr_in (x : Int64) {f : Nat} (hf : f < 64) : ((x >>> ((nI f).toInt64 &&& 63)) &&& 1) = 1 ↔ sr_b x f = true := by
  rw [sr_a1, sr_sshr x hf]
  cases sr_b x f
  · exact ⟨fun z => absurd z (by decide), fun z => absurd z (by decide)⟩
  · exact ⟨fun _ => rfl, fun _ => rfl⟩
theorem sr_b32 (w : Int64) : w.toInt32 &&& 1 = if sr_b w 0 then 1 else 0 := by
  have e : w.toInt32 &&& 1 = (w &&& 1).toInt32 := by
    apply Int32.toBitVec_inj.mp
    rw [Int32.toBitVec_and, Int64.toBitVec_toInt32, Int64.toBitVec_toInt32, Int64.toBitVec_and]
    apply BitVec.eq_of_getLsbD_eq
    intro i hi
    have hm : ∀ i < 32, (1 : Int32).toBitVec.getLsbD i = (1 : Int64).toBitVec.getLsbD i := by decide
    simp [BitVec.getLsbD_setWidth, hi, hm i hi]
  rw [e, sr_a1]
  cases sr_b w 0 <;> rfl
/-- the law's one place of ones -/
theorem sr_lo (x : Int64) {f : Nat} (hf : f < 64) : ((x >>> ((nI f).toInt64 &&& 63)).toInt32) &&& 1 = if sr_b x f then 1 else 0 := by
  rw [sr_b32, sr_sshr x hf]
/-- a bit tested by and -/
theorem sr_tst (x : Int64) {f : Nat} (hf : f < 64) : (x &&& ((1 : Int64) <<< ((nI f).toInt64 &&& 63))) = 0 ↔ sr_b x f = false := by
  constructor
  · intro h
    have t := congrArg (fun w => sr_b w f) h
    simp only [sr_and, sr_bit hf, sr_0] at t
    simpa using t
  · intro h
    apply sr_ext
    intro i hi
    rw [sr_and, sr_bit hf, sr_0]
    by_cases e : i = f
    · subst e
      rw [h, Bool.false_and]
    · simp [e]
/-! counting -/
def sr_ct (p : Nat → Bool) : Nat → Nat
  | 0 => 0
  | n + 1 => sr_ct p n + (if p n then 1 else 0)
theorem sr_ct_le (p : Nat → Bool) : ∀ n, sr_ct p n ≤ n
  | 0 => Nat.le_refl 0
  | n + 1 => by
    have h := sr_ct_le p n
    unfold sr_ct
    split <;> omega
theorem sr_ct_cg {p q : Nat → Bool} : ∀ n, (∀ i, i < n → p i = q i) → sr_ct p n = sr_ct q n
  | 0, _ => rfl
  | n + 1, h => by
    unfold sr_ct
    rw [sr_ct_cg n (fun i hi => h i (by omega)), h n (by omega)]
theorem sr_ct_mono {p q : Nat → Bool} : ∀ n, (∀ i, i < n → p i = true → q i = true) → sr_ct p n ≤ sr_ct q n
  | 0, _ => Nat.le_refl 0
  | n + 1, h => by
    have t := sr_ct_mono n (fun i hi => h i (by omega))
    have g := h n (by omega)
    unfold sr_ct
    cases hp : p n
    · cases q n <;> simp <;> omega
    · rw [g hp]
      simp
      omega
theorem sr_ct_lt {p q : Nat → Bool} : ∀ n, (∀ i, i < n → p i = true → q i = true) → (∃ i, i < n ∧ p i = false ∧ q i = true) → sr_ct p n < sr_ct q n
  | 0, _, ⟨i, hi, _⟩ => absurd hi (by omega)
  | n + 1, h, ⟨i, hi, h1, h2⟩ => by
    have g := h n (by omega)
    have h' : ∀ i, i < n → p i = true → q i = true := fun i hi => h i (by omega)
    by_cases e : i = n
    · subst e
      have t := sr_ct_mono i h'
      unfold sr_ct
      rw [h1, h2]
      simp
      omega
    · have t := sr_ct_lt n h' ⟨i, by omega, h1, h2⟩
      unfold sr_ct
      cases hp : p n
      · cases q n <;> simp <;> omega
      · rw [g hp]
        simp
        omega
theorem sr_ct_pos {p : Nat → Bool} : ∀ n, (∃ i, i < n ∧ p i = true) → 0 < sr_ct p n
  | 0, ⟨i, hi, _⟩ => absurd hi (by omega)
  | n + 1, ⟨i, hi, h⟩ => by
    by_cases e : i = n
    · subst e
      unfold sr_ct
      rw [h]
      simp
    · have t := sr_ct_pos n ⟨i, by omega, h⟩
      unfold sr_ct
      omega
theorem sr_ct_lo (j : Nat) : ∀ n, sr_ct (fun i => decide (i < j)) n = min n j
  | 0 => by rw [Nat.zero_min]; rfl
  | n + 1 => by
    unfold sr_ct
    rw [sr_ct_lo j n]
    by_cases h : n < j
    · simp [h]
      omega
    · simp [h]
      omega
/-- how many of the first n bits -/
def sr_pc (x : Int64) (n : Nat) : Nat := sr_ct (sr_b x) n
theorem sr_pc_s (x : Int64) (n : Nat) : sr_pc x (n + 1) = sr_pc x n + (if sr_b x n then 1 else 0) := rfl
theorem sr_pc_le (x : Int64) (n : Nat) : sr_pc x n ≤ n := sr_ct_le _ n
theorem sr_pc_n (x : Int64) (n : Nat) : nI (sr_pc x n) + (if sr_b x n then 1 else 0) = nI (sr_pc x (n + 1)) := by
  rw [sr_pc_s]
  cases sr_b x n
  · exact (by rw [← nI_0, nI_add] : nI (sr_pc x n) + 0 = nI (sr_pc x n + 0))
  · exact nI_1 _
theorem sr_xones {post : Int32 → Prop} {x : Int64} (h : post (nI (sr_pc x 36))) : wpX_ones post () x :=
  pk_loop (σ := Unit) (fun n i _ => wX_ones_4 post x n (nI (sr_pc x i)) (nI i)) (fun _ _ => True) 36 0 () (by omega) trivial
    (fun n _ _ => pk_le 36 36 (fun _ => h) (fun z => absurd z (by omega)))
    (fun n i _ hi _ hw => pk_le 36 i (fun z => absurd z (by omega)) (fun _ => nm_r (by rw [sr_at x (by omega), sr_pc_n]) (nm_r (nI_1 i) (hw () trivial))))
theorem sr_lones {post : Int32 → Prop} {x : Int64} (h : post (nI (sr_pc x 36))) : wpL_ones post () x :=
  pk_loop (σ := Unit) (fun n i _ => wL_ones_4 post x n (nI (sr_pc x i)) (nI i)) (fun _ _ => True) 36 0 () (by omega) trivial
    (fun n _ _ => pk_le 36 36 (fun _ => h) (fun z => absurd z (by omega)))
    (fun n i _ hi _ hw => pk_le 36 i (fun z => absurd z (by omega)) (fun _ => nm_r (by rw [sr_lo x (by omega), sr_pc_n]) (nm_r (nI_1 i) (hw () trivial))))
/-! sets of 36 -/
def sr_S (x : Int64) : Prop := ∀ i, 36 ≤ i → sr_b x i = false
theorem sr_S0 : sr_S 0 := fun i _ => sr_0 i
theorem sr_Sor {x y : Int64} (hx : sr_S x) (hy : sr_S y) : sr_S (x ||| y) := fun i hi => by rw [sr_or, hx i hi, hy i hi]; rfl
theorem sr_Sand {x y : Int64} (hx : sr_S x) : sr_S (x &&& y) := fun i hi => by rw [sr_and, hx i hi]; rfl
theorem sr_Sbit {f : Nat} (hf : f < 36) : sr_S ((1 : Int64) <<< ((nI f).toInt64 &&& 63)) := fun i hi => by rw [sr_bit (by omega), decide_eq_false (by omega)]
theorem sr_Sext {x y : Int64} (hx : sr_S x) (hy : sr_S y) (h : ∀ i, i < 36 → sr_b x i = sr_b y i) : x = y :=
  sr_ext (fun i _ => if g : i < 36 then h i g else by rw [hx i (by omega), hy i (by omega)])
theorem sr_Sne {x : Int64} (hx : sr_S x) (h : ¬ x = 0) : ∃ i, i < 36 ∧ sr_b x i = true := by
  apply Classical.byContradiction
  intro g
  apply h
  refine sr_Sext hx sr_S0 (fun i hi => ?_)
  rw [sr_0]
  cases e : sr_b x i
  · rfl
  · exact absurd ⟨i, hi, e⟩ g
/-- the lowest bit -/
theorem sr_low {x : Int64} {j : Nat} (hj : j < 36) (h : sr_b x j = true) (hl : ∀ i, i < j → sr_b x i = false) : sr_pc ((x &&& (-x)) - 1) 36 = j := by
  have e1 : (x &&& (-x)).toBitVec = BitVec.twoPow 64 j := by
    rw [Int64.toBitVec_and, Int64.toBitVec_neg]
    apply BitVec.eq_of_getLsbD_eq
    intro i hi
    rw [BitVec.getLsbD_and, BitVec.getLsbD_neg, BitVec.getLsbD_twoPow]
    show (sr_b x i && (sr_b x i ^^ (decide (i < 64) && decide (∃ k, k < i ∧ sr_b x k = true)))) = (decide (j < 64) && decide (j = i))
    rcases Nat.lt_trichotomy i j with z | z | z
    · rw [hl i z, decide_eq_false (show ¬ j = i by omega)]
      simp
    · subst z
      have g : ¬ ∃ k, k < i ∧ sr_b x k = true := fun ⟨k, hk, hb⟩ => by rw [hl k hk] at hb; exact absurd hb (by decide)
      rw [h, decide_eq_false g]
      simp [hi]
    · rw [decide_eq_true (show ∃ k, k < i ∧ sr_b x k = true from ⟨j, z, h⟩), decide_eq_false (show ¬ j = i by omega), decide_eq_true hi]
      cases sr_b x i <;> simp
  have e2 : ∀ i, sr_b ((x &&& (-x)) - 1) i = decide (i < j) := by
    intro i
    have e3 : ((x &&& (-x)) - 1).toBitVec.toNat = 2 ^ j - 1 := by
      rw [Int64.toBitVec_sub, e1, BitVec.toNat_sub, BitVec.toNat_twoPow]
      have p1 : 2 ^ j < 2 ^ 64 := Nat.pow_lt_pow_right (by decide) (by omega)
      have p0 : 0 < 2 ^ j := Nat.two_pow_pos j
      have o : (1 : Int64).toBitVec.toNat = 1 := by decide
      rw [o]
      omega
    unfold sr_b
    rw [BitVec.getLsbD, e3, Nat.testBit_two_pow_sub_one]
  unfold sr_pc
  rw [sr_ct_cg (q := fun i => decide (i < j)) 36 (fun i _ => e2 i), sr_ct_lo]
  omega
end
section
/-- T is closed under one more step of E -/
def sr_T (E : Int64) (T : Nat → Prop) : Prop := ∀ x y z, x < 6 → y < 6 → z < 6 → T (6 * x + z) → sr_b E (6 * z + y) = true → T (6 * x + y)
/-- A lies within every closed set around A0, and around A0 itself -/
def sr_up (E A0 A : Int64) : Prop := sr_S A ∧ (∀ f, f < 36 → sr_b A0 f = true → sr_b A f = true) ∧ (∀ T : Nat → Prop, (∀ f, f < 36 → sr_b A0 f = true → T f) → sr_T E T → ∀ f, f < 36 → sr_b A f = true → T f)
/-- A is the least closed set around G -/
def sr_cl (E G A : Int64) : Prop := sr_up E G A ∧ sr_T E (fun f => sr_b A f = true)
theorem sr_up_r {E A : Int64} (h : sr_S A) : sr_up E A A := ⟨h, fun _ _ g => g, fun _ g _ => g⟩
theorem sr_up_t {E A B C : Int64} (h : sr_up E A B) (g : sr_up E B C) : sr_up E A C :=
  ⟨g.1, fun f hf z => g.2.1 f hf (h.2.1 f hf z), fun T hT hc => g.2.2 T (h.2.2 T hT hc) hc⟩
theorem sr_up_s {E A0 A : Int64} {x y z : Nat} (hx : x < 6) (hy : y < 6) (hz : z < 6) (h : sr_up E A0 A) (h1 : sr_b A (6 * x + z) = true) (h2 : sr_b E (6 * z + y) = true) :
    sr_up E A0 (A ||| ((1 : Int64) <<< ((nI (6 * x + y)).toInt64 &&& 63))) := by
  refine ⟨sr_Sor h.1 (sr_Sbit (by omega)), fun f hf g => ?_, fun T hT hc f hf g => ?_⟩
  · rw [sr_or, h.2.1 f hf g]
    rfl
  · rw [sr_or, sr_bit (by omega)] at g
    by_cases e : f = 6 * x + y
    · rw [e]
      exact hc x y z hx hy hz (h.2.2 T hT hc _ (by omega) h1) h2
    · rw [decide_eq_false e, Bool.or_false] at g
      exact h.2.2 T hT hc f hf g
theorem sr_cl_u {E G A B : Int64} (h : sr_cl E G A) (g : sr_cl E G B) : A = B := by
  refine sr_Sext h.1.1 g.1.1 (fun f hf => ?_)
  have p : sr_b A f = true → sr_b B f = true := h.1.2.2 (fun f => sr_b B f = true) g.1.2.1 g.2 f hf
  have q : sr_b B f = true → sr_b A f = true := g.1.2.2 (fun f => sr_b A f = true) h.1.2.1 h.2 f hf
  cases e : sr_b A f
  · cases e' : sr_b B f
    · rfl
    · exact absurd (q e') (by rw [e]; decide)
  · exact (p e).symm
theorem sr_cl_0 {G : Int64} (h : sr_S G) : sr_cl 0 G G :=
  ⟨sr_up_r h, fun x y z _ _ _ _ k => absurd k (by rw [sr_0]; decide)⟩
/-- row x is closed -/
def sr_rw (E A : Int64) (x : Nat) : Prop := ∀ y z, y < 6 → z < 6 → sr_b A (6 * x + z) = true → sr_b E (6 * z + y) = true → sr_b A (6 * x + y) = true
def sr_rc (A : Int64) (x : Nat) : Nat := sr_ct (fun y => sr_b A (6 * x + y)) 6
theorem sr_rw_up {E A B : Int64} {x : Nat} (hx : x < 6) (h : sr_up E A B) (hr : sr_rw E A x) : sr_rw E B x := by
  have k : ∀ f, f < 36 → sr_b B f = true → (f / 6 = x → sr_b A f = true) := by
    refine h.2.2 (fun f => f / 6 = x → sr_b A f = true) (fun f _ g _ => g) ?_
    intro x' y z hx' hy hz h1 h2 h3
    have e : x' = x := by omega
    subst e
    exact hr y z hy hz (h1 (by omega)) h2
  intro y z hy hz h1 h2
  exact h.2.1 _ (by omega) (hr y z hy hz (k _ (by omega) h1 (by omega)) h2)
/-- one round of the law's closing -/
def sr_rd (E A B : Int64) : Prop := sr_up E A B ∧ ∀ x y z, x < 6 → y < 6 → z < 6 → sr_b A (6 * x + z) = true → sr_b E (6 * z + y) = true → sr_b B (6 * x + y) = true
def sr_pg (E A : Int64) (r : Nat) : Prop := ∀ x, x < 6 → sr_rw E A x ∨ r + 1 ≤ sr_rc A x
theorem sr_pg_0 (E A : Int64) : sr_pg E A 0 := by
  intro x hx
  by_cases h : ∃ y, y < 6 ∧ sr_b A (6 * x + y) = true
  · exact Or.inr (sr_ct_pos 6 h)
  · exact Or.inl (fun y z _ hz h1 _ => absurd ⟨z, hz, h1⟩ h)
theorem sr_pg_s {E A B : Int64} {r : Nat} (h : sr_rd E A B) (p : sr_pg E A r) : sr_pg E B (r + 1) := by
  intro x hx
  by_cases c : sr_rw E A x
  · exact Or.inl (sr_rw_up hx h.1 c)
  · rcases p x hx with q | q
    · exact absurd q c
    · refine Or.inr ?_
      have ⟨y, z, hy, hz, h1, h2, h3⟩ : ∃ y z, y < 6 ∧ z < 6 ∧ sr_b A (6 * x + z) = true ∧ sr_b E (6 * z + y) = true ∧ ¬ sr_b A (6 * x + y) = true := by
        apply Classical.byContradiction
        intro g
        apply c
        intro y z hy hz h1 h2
        apply Classical.byContradiction
        intro h3
        exact g ⟨y, z, hy, hz, h1, h2, h3⟩
      have t : sr_rc A x < sr_rc B x := sr_ct_lt 6 (fun i hi => h.1.2.1 _ (by omega)) ⟨y, hy, by simpa using h3, h.2 x y z hx hy hz h1 h2⟩
      omega
theorem sr_pg_e {E A : Int64} (p : sr_pg E A 6) : sr_T E (fun f => sr_b A f = true) := by
  intro x y z hx hy hz h1 h2
  rcases p x hx with q | q
  · exact q y z hy hz h1 h2
  · have := sr_ct_le (fun y => sr_b A (6 * x + y)) 6
    unfold sr_rc at q
    omega
theorem sr_d6 {a : Nat} (h : a < 36) : nI a / 6 = nI (a / 6) := pk_div (d := 6) (by omega) (by omega) (by omega)
theorem sr_m6 {a : Nat} (h : a < 36) : nI a - nI a / 6 * 6 = nI (a % 6) := pk_rem (d := 6) (by omega) (by omega) (by omega)
theorem sr_6 (x y : Nat) : 6 * nI x + nI y = nI (6 * x + y) := by
  show nI 6 * nI x + nI y = _
  rw [pk_mul, nI_add]
theorem sr_lin {post : Int32 → Prop} {s : Int64} {x y : Nat} (hx : x < 6) (hy : y < 6) (h : post (if sr_b s (6 * x + y) then 1 else 0)) : wpL_in post () s (nI x) (nI y) := by
  unfold wpL_in
  rw [sr_6]
  refine ek_if (sr_in s (by omega)) (fun z => ?_) (fun z => ?_)
  · rw [z] at h
    exact h
  · rw [Bool.eq_false_iff.mpr z] at h
    exact h
/-- inside a round: all places below f done, of f all z below k -/
def sr_in1 (E A0 A : Int64) (f k : Nat) : Prop := sr_up E A0 A ∧ (∀ g z, g < f → z < 6 → sr_b A0 (6 * (g / 6) + z) = true → sr_b E (6 * z + g % 6) = true → sr_b A g = true) ∧ (∀ z, z < k → sr_b A0 (6 * (f / 6) + z) = true → sr_b E (6 * z + f % 6) = true → sr_b A f = true)
theorem sr_in1_up {E A0 A B : Int64} {f k : Nat} (hf : f < 36) (h : sr_in1 E A0 A f k) (hu : sr_up E A0 B) (hs : ∀ g, g < 36 → sr_b A g = true → sr_b B g = true) (hk : sr_b A0 (6 * (f / 6) + k) = true → sr_b E (6 * k + f % 6) = true → sr_b B f = true) : sr_in1 E A0 B f (k + 1) := by
  refine ⟨hu, fun g z hg hz h1 h2 => hs g (by omega) (h.2.1 g z hg hz h1 h2), fun z hz h1 h2 => ?_⟩
  by_cases e : z = k
  · subst e
    exact hk h1 h2
  · exact hs f hf (h.2.2 z (by omega) h1 h2)
theorem sr_c28 {post : Int64 → Prop} {J8 J18 : Int64 → Int32 → Prop} {E A0 A : Int64} {x6 : Int32} {f : Nat} (hf : f < 36) (h : sr_in1 E A0 A f 0)
    (H : ∀ B, sr_in1 E A0 B (f + 1) 0 → J18 B (nI (f + 1))) : ∃ n, wL_closed_28 post J8 J18 E x6 (nI f) n A 0 :=
  pk_loop (fun n i s => wL_closed_28 post J8 J18 E x6 (nI f) n s (nI i)) (fun i s => sr_in1 E A0 s f i) 6 0 A (by omega) h
    (fun n s h => pk_le 6 6 (fun _ => nm_r (nI_1 f) (H s ⟨h.1, fun g z hg hz h1 h2 => if e : g = f then by subst e; exact h.2.2 z hz h1 h2 else h.2.1 g z (by omega) hz h1 h2, fun z hz => absurd hz (by omega)⟩)) (fun z => absurd z (by omega)))
    (fun n i s hi h hw => pk_le 6 i (fun z => absurd z (by omega)) (fun _ => by
      refine ⟨by decide, ?_⟩
      rw [sr_m6 hf, sr_d6 hf]
      refine sr_lin (by omega) hi ?_
      cases e : sr_b s (6 * (f / 6) + i)
      · refine br_t rfl (nm_r (nI_1 i) (hw s (sr_in1_up hf h h.1 (fun _ _ g => g) (fun z _ => ?_))))
        have t := h.1.2.1 _ (by omega) z
        rw [e] at t
        exact absurd t (by decide)
      · refine br_f (by decide) ⟨by decide, ?_⟩
        refine sr_lin hi (by omega) ?_
        cases e2 : sr_b E (6 * i + f % 6)
        · refine br_t rfl (nm_r (nI_1 i) (hw s (sr_in1_up hf h h.1 (fun _ _ g => g) (fun _ z => ?_))))
          rw [e2] at z
          exact absurd z (by decide)
        · refine br_f (by decide) (nm_e (nm_r (nI_1 i) (hw _ (sr_in1_up hf h ?_ (fun g _ z => ?_) (fun _ _ => ?_)))))
          · have t := sr_up_s (show f / 6 < 6 by omega) (show f % 6 < 6 by omega) hi h.1 e e2
            rw [show 6 * (f / 6) + f % 6 = f by omega] at t
            exact t
          · rw [sr_or, z]
            rfl
          · rw [sr_or, sr_bit (by omega)]
            simp))
theorem sr_c18 {post : Int64 → Prop} {J8 : Int64 → Int32 → Prop} {E A0 : Int64} {r : Nat} (h : sr_S A0)
    (H : ∀ B, sr_rd E A0 B → J8 B (nI (r + 1))) : ∃ n, wL_closed_18 post J8 E (nI r) n A0 0 :=
  pk_loop (fun n i s => wL_closed_18 post J8 E (nI r) n s (nI i)) (fun i s => sr_in1 E A0 s i 0) 36 0 A0 (by omega) ⟨sr_up_r h, fun g z hg => absurd hg (by omega), fun z hz => absurd hz (by omega)⟩
    (fun n s h => pk_le 36 36 (fun _ => nm_r (nI_1 r) (H s ⟨h.1, fun x y z hx hy hz h1 h2 => h.2.1 (6 * x + y) z (by omega) hz (by rw [show (6 * x + y) / 6 = x by omega]; exact h1) (by rw [show (6 * x + y) % 6 = y by omega]; exact h2)⟩)) (fun z => absurd z (by omega)))
    (fun n i s hi h hw => pk_le 36 i (fun z => absurd z (by omega)) (fun _ => sr_c28 hi h hw))
theorem sr_closed {post : Int64 → Prop} {given steps : Int64} (hg : sr_S given) (hs : sr_S steps) (H : ∀ A, sr_cl steps (given ||| steps) A → post A) : wpL_closed post () given steps :=
  nm_e (pk_loop (fun n i s => wL_closed_8 post steps n s (nI i)) (fun i s => sr_up steps (given ||| steps) s ∧ sr_pg steps s i) 6 0 (given ||| steps) (by omega) ⟨sr_up_r (sr_Sor hg hs), sr_pg_0 _ _⟩
    (fun n s h => pk_le 6 6 (fun _ => H s ⟨h.1, sr_pg_e h.2⟩) (fun z => absurd z (by omega)))
    (fun n i s hi h hw => pk_le 6 i (fun z => absurd z (by omega)) (fun _ => sr_c18 h.1.1 (fun B hB => hw B ⟨sr_up_t h.1 hB.1, sr_pg_s hB h.2⟩))))
end
section
section
variable {c ds sk ps na wc wa me so : Int32} {a1 a2 a3 a4 a5 : Nat → Int64} {a6 a7 a8 a9 a10 a11 a12 a13 a14 : Nat → Int32}
theorem sr_isRel {post : Int32 → Prop} {r : Nat} (hr : r < 8) (h : post 1) : wpX_isRelation post () (nI r) :=
  br_f (nI_pos (by omega)) (br_f (nI_ge (b := 8) hr (by decide)) h)
theorem sr_isTh {post : Int32 → Prop} {r : Nat} (hr : r < 6) (h : post 1) : wpX_isThing post () (nI r) :=
  br_f (nI_pos (by omega)) (br_f (nI_ge (b := 6) hr (by decide)) h)
theorem sr_bitAt {post : Int32 → Prop} {s : Int64} {f : Nat} (hf : f < 64) (h : post (if sr_b s f then 1 else 0)) : wpX_bitAt post () s (nI f) := by
  unfold wpX_bitAt
  rw [sr_at s hf]
  exact h
/-- the state inside settle, i places done -/
def sr_stI (a2 a4 : Nat → Int64) (i : Nat) (s : Int32 × (Nat → Int64) × (Nat → Int64) × (Nat → Int64)) : Prop :=
  (∀ j, j < i → s.2.2.1 j = a4 j &&& (a2 j ^^^ (-1)) ∧ s.2.1 j = a2 j ||| s.2.2.1 j ∧ s.2.2.2 j = 0) ∧ (∀ j, i ≤ j → s.2.1 j = a2 j ∧ s.2.2.2 j = a4 j) ∧ (s.1 = 0 ∧ (∀ j, j < i → s.2.2.1 j = 0) ∨ s.1 = 1 ∧ ∃ j, j < i ∧ ¬ s.2.2.1 j = 0)
theorem sr_stK {a2 a4 : Nat → Int64} {i : Nat} {x : Int32} {p q w : Nat → Int64} (h : sr_stI a2 a4 i (x, p, q, w)) (y : Int32)
    (hy : y = 0 ∧ x = 0 ∧ vp_updL q i (w i &&& (p i ^^^ (-1))) i = 0 ∨ y = 1 ∧ (x = 1 ∨ ¬ vp_updL q i (w i &&& (p i ^^^ (-1))) i = 0)) :
    sr_stI a2 a4 (i + 1) (y, vp_updL p i (p i ||| vp_updL q i (w i &&& (p i ^^^ (-1))) i), vp_updL q i (w i &&& (p i ^^^ (-1))), vp_updL w i 0) := by
  obtain ⟨h1, h2, h3⟩ := h
  dsimp only at h1 h2 h3
  have g := h2 i (Nat.le_refl i)
  refine ⟨fun j hj => ?_, fun j hj => ?_, ?_⟩
  · dsimp only
    by_cases e : j = i
    · subst e
      rw [pk_uLs, pk_uLs, pk_uLs, g.1, g.2]
      exact ⟨rfl, rfl, rfl⟩
    · rw [pk_uLn e, pk_uLn e, pk_uLn e]
      exact h1 j (by omega)
  · dsimp only
    rw [pk_uLn (show j ≠ i by omega), pk_uLn (show j ≠ i by omega)]
    exact h2 j (by omega)
  · dsimp only
    rcases hy with ⟨e, ex, ez⟩ | ⟨e, ez⟩
    · refine Or.inl ⟨e, fun j hj => ?_⟩
      by_cases ej : j = i
      · subst ej
        exact ez
      · rw [pk_uLn ej]
        rcases h3 with ⟨_, h3⟩ | ⟨h3, _⟩
        · exact h3 j (by omega)
        · rw [ex] at h3
          exact absurd h3 (by decide)
    · refine Or.inr ⟨e, ?_⟩
      rcases ez with ez | ez
      · rcases h3 with ⟨h3, _⟩ | ⟨_, j, hj, h3⟩
        · rw [ez] at h3
          exact absurd h3 (by decide)
        · refine ⟨j, by omega, ?_⟩
          rw [pk_uLn (show j ≠ i by omega)]
          exact h3
      · exact ⟨i, by omega, ez⟩
theorem sr_settle {post : Int32 → St1 → Prop}
    (H : ∀ (r : Int32) (b2 b3 b4 : Nat → Int64), (∀ j, j < 8 → b3 j = a4 j &&& (a2 j ^^^ (-1))) → (∀ j, j < 8 → b2 j = a2 j ||| b3 j) → (∀ j, j < 8 → b4 j = 0) → (r = 0 ∧ (∀ j, j < 8 → b3 j = 0) ∨ r = 1 ∧ ∃ j, j < 8 ∧ ¬ b3 j = 0) → post r (c, ds, sk, ps, na, wc, wa, me, so, a1, b2, b3, b4, a5, a6, a7, a8, a9, a10, a11, a12, a13, a14)) : wpX_settle post (c, ds, sk, ps, na, wc, wa, me, so, a1, a2, a3, a4, a5, a6, a7, a8, a9, a10, a11, a12, a13, a14) :=
  pk_loop (σ := Int32 × (Nat → Int64) × (Nat → Int64) × (Nat → Int64)) (fun n i s => wX_settle_4 post c ds sk ps na wc wa me so n s.1 (nI i) a1 s.2.1 s.2.2.1 s.2.2.2 a5 a6 a7 a8 a9 a10 a11 a12 a13 a14) (sr_stI a2 a4) 8 0 (0, a2, a3, a4) (by omega)
    ⟨fun j hj => absurd hj (by omega), fun j _ => ⟨rfl, rfl⟩, Or.inl ⟨rfl, fun j hj => absurd hj (by omega)⟩⟩
    (fun n s h => pk_le 8 8 (fun _ => ⟨by rcases h.2.2 with ⟨e, _⟩ | ⟨e, _⟩ <;> rw [e] <;> rfl, H s.1 s.2.1 s.2.2.1 s.2.2.2 (fun j hj => (h.1 j hj).1) (fun j hj => (h.1 j hj).2.1) (fun j hj => (h.1 j hj).2.2) h.2.2⟩) (fun z => absurd z (by omega)))
    (fun n i s hi h hw => pk_le 8 i (fun z => absurd z (by omega)) (fun _ => by
      obtain ⟨x, p, q, w⟩ := s
      dsimp only
      rw [nI_clamp (show i < 2 ^ 31 by omega)]
      refine ⟨pk_in i 8 hi, pk_in i 8 hi, pk_in i 8 hi, nm_e ⟨pk_in i 8 hi, pk_in i 8 hi, pk_in i 8 hi, nm_e ⟨pk_in i 8 hi, nm_e ?_⟩⟩⟩
      rcases h.2.2 with ⟨e, _⟩ | ⟨e, _⟩
      · dsimp only at e
        refine br_t e ⟨pk_in i 8 hi, br_c (fun z => nm_r (nI_1 i) (hw (0, _, _, _) (sr_stK h 0 (Or.inl ⟨rfl, e, z⟩)))) (fun z => nm_r (nI_1 i) (hw (1, _, _, _) (sr_stK h 1 (Or.inr ⟨rfl, Or.inr z⟩))))⟩
      · dsimp only at e
        exact br_f (by rw [e]; decide) (nm_r (nI_1 i) (hw (1, _, _, _) (sr_stK h 1 (Or.inr ⟨rfl, Or.inl e⟩))))))
theorem sr_solve2 {post : St1 → Prop}
    (H : ∀ (b2 b3 b4 : Nat → Int64), (∀ j, j < 8 → b2 j = a1 j) → (∀ j, j < 8 → b3 j = 0) → (∀ j, j < 8 → b4 j = 0) → ∃ n, wX_solve_42 post n 0 c ds sk ps na wc wa me so a1 b2 b3 b4 a5 a6 a7 a8 a9 a10 a11 a12 a13 a14) : wpX_solve post (c, ds, sk, ps, na, wc, wa, me, so, a1, a2, a3, a4, a5, a6, a7, a8, a9, a10, a11, a12, a13, a14) :=
  pk_loop (σ := (Nat → Int64) × (Nat → Int64) × (Nat → Int64)) (fun n i s => wX_solve_2 post c ds sk ps na wc wa me so n (nI i) a1 s.1 s.2.1 s.2.2 a5 a6 a7 a8 a9 a10 a11 a12 a13 a14) (fun i s => ∀ j, j < i → s.1 j = a1 j ∧ s.2.1 j = 0 ∧ s.2.2 j = 0) 8 0 (a2, a3, a4) (by omega)
    (fun j hj => absurd hj (by omega))
    (fun n s h => pk_le 8 8 (fun _ => H s.1 s.2.1 s.2.2 (fun j hj => (h j hj).1) (fun j hj => (h j hj).2.1) (fun j hj => (h j hj).2.2)) (fun z => absurd z (by omega)))
    (fun n i s hi h hw => pk_le 8 i (fun z => absurd z (by omega)) (fun _ => by
      obtain ⟨p, q, w⟩ := s
      dsimp only
      rw [nI_clamp (show i < 2 ^ 31 by omega)]
      refine ⟨pk_in i 8 hi, pk_in i 8 hi, nm_e ⟨pk_in i 8 hi, nm_e ⟨pk_in i 8 hi, nm_e (nm_r (nI_1 i) (hw (vp_updL p i (a1 i), vp_updL q i 0, vp_updL w i 0) ?_))⟩⟩⟩
      intro j hj
      dsimp only
      by_cases e : j = i
      · subst e
        rw [pk_uLs, pk_uLs, pk_uLs]
        exact ⟨rfl, rfl, rfl⟩
      · rw [pk_uLn e, pk_uLn e, pk_uLn e]
        exact h j (by omega)))
end
end
section
section
variable {c ds sk ps na wc wa me so : Int32} {a1 a2 a3 a4 a5 : Nat → Int64} {a6 a7 a8 a9 a10 a11 a12 a13 a14 : Nat → Int32}
theorem sr_nm1 {v : Nat} (hv : v < 2 ^ 31) : ¬ nI v = -1 := fun h => by
  have t := congrArg Int32.toInt h
  rw [nI_toInt hv] at t
  have m : (-1 : Int32).toInt = -1 := by decide
  omega
theorem sr_4 (d : Nat) : 4 * nI d + 4 = nI (4 * d + 4) := by
  show nI 4 * nI d + nI 4 = _
  rw [pk_mul, nI_add]
theorem sr_4v (d v : Nat) : 4 * nI d + nI v = nI (4 * d + v) := by
  show nI 4 * nI d + nI v = _
  rw [pk_mul, nI_add]
/-- a term that is not bound yet -/
theorem sr_agF {post : Int32 → St1 → Prop} {p0 p1 p2 : Int32} (B t : Nat) (h0 : p0 = nI B) (h1 : p1 = nI t) (ht : t < 4) (hB : B + t < 16) (hf : a14 (B + t) = -1) (H : post 1 (c, ds, sk, ps, na, wc, wa, me, so, a1, a2, a3, a4, a5, a6, a7, a8, a9, a10, a11, a12, a13, (upd a14 (B + t) p2))) : wpX_agree post (c, ds, sk, ps, na, wc, wa, me, so, a1, a2, a3, a4, a5, a6, a7, a8, a9, a10, a11, a12, a13, a14) p0 p1 p2 := by
  subst h0 h1
  unfold wpX_agree
  have e : (nI B + nI t).toNatClampNeg = B + t := pk_cl (B + t) (nI_add B t)
  rw [e]
  refine br_t (nI_lt (b := 4) ht (by decide)) ⟨pk_in (B + t) 16 hB (nI_add B t), br_t hf ⟨pk_in (B + t) 16 hB (nI_add B t), nm_e ?_⟩⟩
  unfold wX_agree_39
  rw [e]
  exact ⟨pk_in (B + t) 16 hB (nI_add B t), br_t pk_us H⟩
/-- a term that is bound -/
theorem sr_agE {post : Int32 → St1 → Prop} {p0 p1 p2 : Int32} (B t v w : Nat) (h0 : p0 = nI B) (h1 : p1 = nI t) (h2 : p2 = nI w) (ht : t < 4) (hB : B + t < 16) (hv : v < 2 ^ 31) (hw : w < 2 ^ 31) (hf : a14 (B + t) = nI v)
    (H0 : v ≠ w → post 0 (c, ds, sk, ps, na, wc, wa, me, so, a1, a2, a3, a4, a5, a6, a7, a8, a9, a10, a11, a12, a13, a14)) (H1 : v = w → post 1 (c, ds, sk, ps, na, wc, wa, me, so, a1, a2, a3, a4, a5, a6, a7, a8, a9, a10, a11, a12, a13, a14)) : wpX_agree post (c, ds, sk, ps, na, wc, wa, me, so, a1, a2, a3, a4, a5, a6, a7, a8, a9, a10, a11, a12, a13, a14) p0 p1 p2 := by
  subst h0 h1 h2
  unfold wpX_agree
  have e : (nI B + nI t).toNatClampNeg = B + t := pk_cl (B + t) (nI_add B t)
  rw [e]
  refine br_t (nI_lt (b := 4) ht (by decide)) ⟨pk_in (B + t) 16 hB (nI_add B t), br_f (by rw [hf]; exact sr_nm1 hv) ?_⟩
  unfold wX_agree_39
  rw [e, hf]
  exact ⟨pk_in (B + t) 16 hB (nI_add B t), pk_eq v w H1 H0⟩
theorem sr_b62 {post : Int32 → St1 → Prop} {d : Nat} {x2 x3 : Int32} (hd : d ≤ 2)
    (H : ∀ n s, (∀ j, j < 4 → s (4 * d + 4 + j) = a14 (4 * d + j)) → (∀ j, j < 4 * d + 4 → s j = a14 j) → wX_bind_62 post (nI d) x2 x3 c ds sk ps na wc wa me so (n + 1) (nI 4) a1 a2 a3 a4 a5 a6 a7 a8 a9 a10 a11 a12 a13 s) : ∃ n, wX_bind_62 post (nI d) x2 x3 c ds sk ps na wc wa me so n 0 a1 a2 a3 a4 a5 a6 a7 a8 a9 a10 a11 a12 a13 a14 :=
  pk_loop (fun n i s => wX_bind_62 post (nI d) x2 x3 c ds sk ps na wc wa me so n (nI i) a1 a2 a3 a4 a5 a6 a7 a8 a9 a10 a11 a12 a13 s) (fun i s => (∀ j, j < i → s (4 * d + 4 + j) = a14 (4 * d + j)) ∧ (∀ j, j < 4 * d + 4 → s j = a14 j)) 4 0 a14 (by omega)
    ⟨fun j hj => absurd hj (by omega), fun j _ => rfl⟩
    (fun n s h => H n s h.1 h.2)
    (fun n i s hi h hw => pk_le 4 i (fun z => absurd z (by omega)) (fun _ => by
      rw [sr_4, nI_add, sr_4v, pk_cl (4 * d + i) rfl, pk_cl (4 * d + 4 + i) rfl]
      refine ⟨pk_in (4 * d + i) 16 (by omega), pk_in (4 * d + 4 + i) 16 (by omega), nm_e (nm_r (nI_1 i) (hw _ ⟨fun j hj => ?_, fun j hj => ?_⟩))⟩
      · by_cases e : j = i
        · subst e
          rw [pk_us]
          exact h.2 _ (by omega)
        · rw [pk_un (by omega)]
          exact h.1 j (by omega)
      · rw [pk_un (by omega)]
        exact h.2 j hj))
/-- the end of bind at depth 0: terms 0 and 1, both free -/
theorem sr_b62A {post : Int32 → St1 → Prop} {f at' n : Nat} (hf : f < 36) (hat : at' < 42) (h1 : a8 at' / 10 - a8 at' / 10 / 10 * 10 = nI 0) (h2 : a8 at' - a8 at' / 10 * 10 = nI 1)
    (e4 : a14 4 = -1) (e5 : a14 5 = -1) (H : post 1 (c, ds, sk, ps, na, wc, wa, me, so, a1, a2, a3, a4, a5, a6, a7, a8, a9, a10, a11, a12, a13, (upd (upd a14 4 (nI (f / 6))) 5 (nI (f % 6))))) : wX_bind_62 post (nI 0) (nI f) (nI at') c ds sk ps na wc wa me so (n + 1) (nI 4) a1 a2 a3 a4 a5 a6 a7 a8 a9 a10 a11 a12 a13 a14 :=
  pk_le 4 4 (fun _ => by
    rw [nI_clamp (show at' < 2 ^ 31 by omega), sr_m6 hf, sr_d6 hf]
    refine ⟨pk_in at' 42 hat, by decide, by decide, by decide, sr_agF 4 0 (sr_4 0) h1 (by omega) (by omega) e4 ?_⟩
    refine br_f (by decide) ⟨pk_in at' 42 hat, by decide, by decide, sr_agF 4 1 (sr_4 0) h2 (by omega) (by omega) ?_ ?_⟩
    · rw [pk_un (by omega)]
      exact e5
    · exact br_f (by decide) H) (fun z => absurd z (by omega))
/-- the end of bind at depth 1: terms 1 (bound) and 2 (free) -/
theorem sr_b62B {post : Int32 → St1 → Prop} {f at' n y : Nat} (hf : f < 36) (hat : at' < 42) (hy : y < 6) (h1 : a8 at' / 10 - a8 at' / 10 / 10 * 10 = nI 1) (h2 : a8 at' - a8 at' / 10 * 10 = nI 2)
    (e9 : a14 9 = nI y) (e10 : a14 10 = -1) (H0 : y ≠ f / 6 → post 0 (c, ds, sk, ps, na, wc, wa, me, so, a1, a2, a3, a4, a5, a6, a7, a8, a9, a10, a11, a12, a13, a14)) (H1 : y = f / 6 → post 1 (c, ds, sk, ps, na, wc, wa, me, so, a1, a2, a3, a4, a5, a6, a7, a8, a9, a10, a11, a12, a13, (upd a14 10 (nI (f % 6))))) : wX_bind_62 post (nI 1) (nI f) (nI at') c ds sk ps na wc wa me so (n + 1) (nI 4) a1 a2 a3 a4 a5 a6 a7 a8 a9 a10 a11 a12 a13 a14 :=
  pk_le 4 4 (fun _ => by
    rw [nI_clamp (show at' < 2 ^ 31 by omega), sr_m6 hf, sr_d6 hf]
    refine ⟨pk_in at' 42 hat, by decide, by decide, by decide, sr_agE 8 1 y (f / 6) (sr_4 1) h1 rfl (by omega) (by omega) (by omega) (by omega) e9 (fun z => ?_) (fun z => ?_)⟩
    · exact br_t rfl (H0 z)
    · refine br_f (by decide) ⟨pk_in at' 42 hat, by decide, by decide, sr_agF 8 2 (sr_4 1) h2 (by omega) (by omega) e10 ?_⟩
      exact br_f (by decide) (H1 z)) (fun z => absurd z (by omega))
theorem sr_b46A {post : Int32 → St1 → Prop} {f at' : Nat} {z0 : Int64} (hf : f < 36) (hat : at' < 42) (h1 : a8 at' / 10 - a8 at' / 10 / 10 * 10 = nI 0) (h2 : a8 at' - a8 at' / 10 * 10 = nI 1)
    (hb : ∀ j, j < 4 → a14 j = -1) (H0 : sr_b z0 f = false → post 0 (c, ds, sk, ps, na, wc, wa, me, so, a1, a2, a3, a4, a5, a6, a7, a8, a9, a10, a11, a12, a13, a14)) (H1 : sr_b z0 f = true → ∀ s, s 4 = nI (f / 6) → s 5 = nI (f % 6) → s 6 = -1 → (∀ j, j < 4 → s j = -1) → post 1 (c, ds, sk, ps, na, wc, wa, me, so, a1, a2, a3, a4, a5, a6, a7, a8, a9, a10, a11, a12, a13, s)) : wX_bind_46 post (nI 0) (nI f) (nI at') z0 c ds sk ps na wc wa me so a1 a2 a3 a4 a5 a6 a7 a8 a9 a10 a11 a12 a13 a14 := by
  unfold wX_bind_46
  refine sr_bitAt (by omega) ?_
  cases e : sr_b z0 f
  · exact br_t rfl (H0 e)
  · refine br_f (by decide) (sr_b62 (by omega) (fun n s hs hk => sr_b62A hf hat h1 h2 ?_ ?_ ?_))
    · exact (hs 0 (by omega)).trans (hb 0 (by omega))
    · exact (hs 1 (by omega)).trans (hb 1 (by omega))
    · refine H1 e _ ?_ ?_ ?_ (fun j hj => ?_)
      · rw [pk_un (by omega), pk_us]
      · rw [pk_us]
      · rw [pk_un (by omega), pk_un (by omega)]
        exact (hs 2 (by omega)).trans (hb 2 (by omega))
      · rw [pk_un (by omega), pk_un (by omega), hk j (by omega)]
        exact hb j hj
theorem sr_b46B {post : Int32 → St1 → Prop} {f at' x y : Nat} {z0 : Int64} (hf : f < 36) (hat : at' < 42) (hy : y < 6) (h1 : a8 at' / 10 - a8 at' / 10 / 10 * 10 = nI 1) (h2 : a8 at' - a8 at' / 10 * 10 = nI 2)
    (e4 : a14 4 = nI x) (e5 : a14 5 = nI y) (e6 : a14 6 = -1) (H0 : ¬ (sr_b z0 f = true ∧ f / 6 = y) → ∀ s, (∀ j, j < 8 → s j = a14 j) → post 0 (c, ds, sk, ps, na, wc, wa, me, so, a1, a2, a3, a4, a5, a6, a7, a8, a9, a10, a11, a12, a13, s))
    (H1 : sr_b z0 f = true → f / 6 = y → ∀ s, (∀ j, j < 8 → s j = a14 j) → s 8 = nI x → s 10 = nI (f % 6) → post 1 (c, ds, sk, ps, na, wc, wa, me, so, a1, a2, a3, a4, a5, a6, a7, a8, a9, a10, a11, a12, a13, s)) : wX_bind_46 post (nI 1) (nI f) (nI at') z0 c ds sk ps na wc wa me so a1 a2 a3 a4 a5 a6 a7 a8 a9 a10 a11 a12 a13 a14 := by
  unfold wX_bind_46
  refine sr_bitAt (by omega) ?_
  cases e : sr_b z0 f
  · exact br_t rfl (H0 (fun z => absurd (e.symm.trans z.1) (by decide)) a14 (fun _ _ => rfl))
  · refine br_f (by decide) (sr_b62 (by omega) (fun n s hs hk => sr_b62B hf hat hy h1 h2 ?_ ?_ (fun z => ?_) (fun z => ?_)))
    · exact (hs 1 (by omega)).trans e5
    · exact (hs 2 (by omega)).trans e6
    · exact H0 (fun g => z g.2.symm) s (fun j hj => hk j (by omega))
    · refine H1 e z.symm _ (fun j hj => ?_) ?_ ?_
      · rw [pk_un (by omega)]
        exact hk j (by omega)
      · rw [pk_un (by omega)]
        exact (hs 0 (by omega)).trans e4
      · rw [pk_us]
theorem sr_bind0 {post : Int32 → St1 → Prop} {f at' rel : Nat} {S0 : Int64} (hf : f < 36) (hat : at' < 42) (hr : rel < 8) (h12 : a12 0 = nI at') (h8 : a8 at' / 100 = nI rel) (h1 : a8 at' / 10 - a8 at' / 10 / 10 * 10 = nI 0) (h2 : a8 at' - a8 at' / 10 * 10 = nI 1)
    (hS : S0 = if nI at' = na then a3 rel else a2 rel) (hb : ∀ j, j < 4 → a14 j = -1) (H0 : sr_b S0 f = false → post 0 (c, ds, sk, ps, na, wc, wa, me, so, a1, a2, a3, a4, a5, a6, a7, a8, a9, a10, a11, a12, a13, a14))
    (H1 : sr_b S0 f = true → ∀ s, s 4 = nI (f / 6) → s 5 = nI (f % 6) → s 6 = -1 → (∀ j, j < 4 → s j = -1) → post 1 (c, ds, sk, ps, na, wc, wa, me, so, a1, a2, a3, a4, a5, a6, a7, a8, a9, a10, a11, a12, a13, s)) : wpX_bind post (c, ds, sk, ps, na, wc, wa, me, so, a1, a2, a3, a4, a5, a6, a7, a8, a9, a10, a11, a12, a13, a14) (nI 0) (nI f) := by
  refine ⟨pk_in 0 3 (by omega), nm_r (show a12 (nI 0).toNatClampNeg = nI at' from h12) ?_⟩
  rw [nI_clamp (show at' < 2 ^ 31 by omega), h8, nI_clamp (show rel < 2 ^ 31 by omega)]
  refine br_c (fun z => ?_) (fun z => ?_)
  · rw [if_pos z] at hS
    subst hS
    exact ⟨pk_in at' 42 hat, by decide, pk_in rel 8 hr, sr_b46A hf hat h1 h2 hb H0 H1⟩
  · rw [if_neg z] at hS
    subst hS
    exact ⟨pk_in at' 42 hat, by decide, pk_in rel 8 hr, sr_b46A hf hat h1 h2 hb H0 H1⟩
theorem sr_bind1 {post : Int32 → St1 → Prop} {f at' rel x y : Nat} (hf : f < 36) (hat : at' < 42) (hr : rel < 8) (hy : y < 6) (h12 : a12 1 = nI at') (h8 : a8 at' / 100 = nI rel) (h1 : a8 at' / 10 - a8 at' / 10 / 10 * 10 = nI 1) (h2 : a8 at' - a8 at' / 10 * 10 = nI 2)
    (hna : ¬ nI at' = na) (e4 : a14 4 = nI x) (e5 : a14 5 = nI y) (e6 : a14 6 = -1) (H0 : ¬ (sr_b (a2 rel) f = true ∧ f / 6 = y) → ∀ s, (∀ j, j < 8 → s j = a14 j) → post 0 (c, ds, sk, ps, na, wc, wa, me, so, a1, a2, a3, a4, a5, a6, a7, a8, a9, a10, a11, a12, a13, s))
    (H1 : sr_b (a2 rel) f = true → f / 6 = y → ∀ s, (∀ j, j < 8 → s j = a14 j) → s 8 = nI x → s 10 = nI (f % 6) → post 1 (c, ds, sk, ps, na, wc, wa, me, so, a1, a2, a3, a4, a5, a6, a7, a8, a9, a10, a11, a12, a13, s)) : wpX_bind post (c, ds, sk, ps, na, wc, wa, me, so, a1, a2, a3, a4, a5, a6, a7, a8, a9, a10, a11, a12, a13, a14) (nI 1) (nI f) := by
  refine ⟨pk_in 1 3 (by omega), nm_r (show a12 (nI 1).toNatClampNeg = nI at' from h12) ?_⟩
  rw [nI_clamp (show at' < 2 ^ 31 by omega), h8, nI_clamp (show rel < 2 ^ 31 by omega)]
  exact br_f hna ⟨pk_in at' 42 hat, by decide, pk_in rel 8 hr, sr_b46B hf hat hy h1 h2 e4 e5 e6 H0 H1⟩
/-! arrive -/
theorem sr_thing {post : Int32 → Prop} {p0 p1 : Int32} (B t : Nat) (h0 : p0 = nI B) (h1 : p1 = nI t) (ht : t < 4) (hB : B + t < 16) (H : post (a14 (B + t))) : wpX_thingFor post (c, ds, sk, ps, na, wc, wa, me, so, a1, a2, a3, a4, a5, a6, a7, a8, a9, a10, a11, a12, a13, a14) p0 p1 := by
  subst h0 h1
  unfold wpX_thingFor
  rw [pk_cl (B + t) (nI_add B t)]
  exact br_t (nI_lt (b := 4) ht (by decide)) ⟨pk_in (B + t) 16 hB (nI_add B t), H⟩
theorem sr_fact {post : Int32 → Prop} {p0 p1 : Int32} (B t1 t2 x y : Nat) (h0 : p0 = nI B) (h1 : p1 / 10 - p1 / 10 / 10 * 10 = nI t1) (h2 : p1 - p1 / 10 * 10 = nI t2) (ht1 : t1 < 4) (ht2 : t2 < 4) (hB : B + 3 < 16)
    (e1 : a14 (B + t1) = nI x) (e2 : a14 (B + t2) = nI y) (H : post (nI (6 * x + y))) : wpX_factFor post (c, ds, sk, ps, na, wc, wa, me, so, a1, a2, a3, a4, a5, a6, a7, a8, a9, a10, a11, a12, a13, a14) p0 p1 := by
  refine ⟨by decide, by decide, sr_thing B t1 h0 h1 ht1 (by omega) ⟨by decide, sr_thing B t2 h0 h2 ht2 (by omega) ?_⟩⟩
  rw [e1, e2, sr_6]
  exact H
theorem sr_a120 {post : St1 → Prop} {r h rel : Nat} {z0 : Int32} (hr : r < 14) (hrel : rel < 8) (h6 : a6 r / 100 = nI rel) (hz : z0 = 0 ∨ z0 = 1)
    (H : ∀ m, post (c, ds, sk, ps, na, wc, wa, m, so, a1, a2, a3, (vp_updL a4 rel (a4 rel ||| ((1 : Int64) <<< ((nI h).toInt64 &&& 63)))), a5, a6, a7, a8, a9, a10, a11, a12, a13, a14)) : wX_arrive_120 post (nI r) (nI h) z0 c ds sk ps na wc wa me so a1 a2 a3 a4 a5 a6 a7 a8 a9 a10 a11 a12 a13 a14 := by
  unfold wX_arrive_120
  rw [nI_clamp (show r < 2 ^ 31 by omega), h6, nI_clamp (show rel < 2 ^ 31 by omega)]
  refine ⟨?_, ?_, pk_in r 14 hr, by decide, pk_in r 14 hr, by decide, pk_in rel 8 hrel, pk_in rel 8 hrel, nm_e (H z0)⟩
  · rcases hz with e | e <;> rw [e] <;> rfl
  · rcases hz with e | e <;> rw [e] <;> rfl
/-- the rule's atoms are done: the head comes up -/
theorem sr_come {post : St1 → Prop} {r B k rel t1 t2 x y n : Nat} (hr : r < 14) (hrel : rel < 8) (hk : k < 2 ^ 31) (hB : B + 3 < 16) (hs : 3 * nI r + a7 r = nI k) (h6 : a6 r / 100 = nI rel) (h1 : a6 r / 10 - a6 r / 10 / 10 * 10 = nI t1) (h2 : a6 r - a6 r / 10 * 10 = nI t2) (ht1 : t1 < 4) (ht2 : t2 < 4)
    (e1 : a14 (B + t1) = nI x) (e2 : a14 (B + t2) = nI y)
    (H : ∀ m, post (c, ds, sk, ps, na, (wc + 1), wa, m, so, a1, a2, a3, (vp_updL a4 rel (a4 rel ||| ((1 : Int64) <<< ((nI (6 * x + y)).toInt64 &&& 63)))), a5, a6, a7, a8, a9, a10, a11, a12, a13, a14)) : wX_arrive_11 post (nI r) (nI B) c ds sk ps na wc wa me so a1 a2 a3 a4 a5 a6 a7 a8 a9 a10 a11 a12 a13 a14 (n + 1) (nI k) := by
  unfold wX_arrive_11
  rw [nI_clamp (show r < 2 ^ 31 by omega), hs]
  refine ⟨pk_in r 14 hr, br_t (nI_le (Nat.le_refl k) hk) ⟨pk_in r 14 hr, sr_fact B t1 t2 x y rfl h1 h2 ht1 ht2 hB e1 e2 (nm_e (br_c (fun _ => br_c (fun _ => ?_) (fun _ => ?_)) (fun _ => ?_)))⟩⟩
  · unfold wX_arrive_115
    exact sr_a120 hr hrel h6 (Or.inr rfl) H
  · exact sr_a120 hr hrel h6 (Or.inl rfl) H
  · unfold wX_arrive_115
    exact sr_a120 hr hrel h6 (Or.inr rfl) H
/-- a plain atom: passed over -/
theorem sr_pass {post : St1 → Prop} {r e k n : Nat} {x2 : Int32} (hr : r < 14) (hk : k < 42) (he : k < e) (he' : e < 2 ^ 31) (hs : 3 * nI r + a7 r = nI e) (h9 : a9 k = 0)
    (H : wX_arrive_11 post (nI r) x2 c ds sk ps na wc wa me so a1 a2 a3 a4 a5 a6 a7 a8 a9 a10 a11 a12 a13 a14 n (nI (k + 1))) : wX_arrive_11 post (nI r) x2 c ds sk ps na wc wa me so a1 a2 a3 a4 a5 a6 a7 a8 a9 a10 a11 a12 a13 a14 (n + 1) (nI k) := by
  unfold wX_arrive_11
  rw [nI_clamp (show r < 2 ^ 31 by omega), hs, nI_clamp (show k < 2 ^ 31 by omega)]
  exact ⟨pk_in r 14 hr, br_f (nI_ge he he') ⟨pk_in k 42 hk, br_t h9 (nm_r (nI_1 k) H)⟩⟩
theorem sr_arr0 {post : St1 → Prop} {f : Nat} (hf : f < 36) (hps : ps = nI 1) (h6 : a6 0 = 301) (h7 : a7 0 = 1) (h9 : a9 0 = 0) (e4 : a14 4 = nI (f / 6)) (e5 : a14 5 = nI (f % 6))
    (H : ∀ m, post (c, ds, sk, ps, na, (wc + 1), wa, m, so, a1, a2, a3, (vp_updL a4 3 (a4 3 ||| ((1 : Int64) <<< ((nI f).toInt64 &&& 63)))), a5, a6, a7, a8, a9, a10, a11, a12, a13, a14)) : wpX_arrive post (c, ds, sk, ps, na, wc, wa, me, so, a1, a2, a3, a4, a5, a6, a7, a8, a9, a10, a11, a12, a13, a14) (nI 0) := by
  subst hps
  refine nm_r (show 4 * nI 1 = nI 4 from rfl) (nm_r (show 3 * nI 0 = nI 0 from rfl) ⟨2, ?_⟩)
  have hs : 3 * nI 0 + a7 0 = nI 1 := by rw [h7]; rfl
  refine sr_pass (r := 0) (e := 1) (k := 0) (by omega) (by omega) (by omega) (by omega) hs h9 (sr_come (r := 0) (B := 4) (k := 1) (rel := 3) (t1 := 0) (t2 := 1) (x := f / 6) (y := f % 6) (by omega) (by omega) (by omega) (by omega) hs (by rw [h6]; rfl) (by rw [h6]; rfl) (by rw [h6]; rfl) (by omega) (by omega) e4 e5 ?_)
  rw [show 6 * (f / 6) + f % 6 = f by omega]
  exact H
theorem sr_arr1 {post : St1 → Prop} {x w : Nat} (hps : ps = nI 2) (h6 : a6 1 = 302) (h7 : a7 1 = 2) (h93 : a9 3 = 0) (h94 : a9 4 = 0) (e8 : a14 8 = nI x) (e10 : a14 10 = nI w)
    (H : ∀ m, post (c, ds, sk, ps, na, (wc + 1), wa, m, so, a1, a2, a3, (vp_updL a4 3 (a4 3 ||| ((1 : Int64) <<< ((nI (6 * x + w)).toInt64 &&& 63)))), a5, a6, a7, a8, a9, a10, a11, a12, a13, a14)) : wpX_arrive post (c, ds, sk, ps, na, wc, wa, me, so, a1, a2, a3, a4, a5, a6, a7, a8, a9, a10, a11, a12, a13, a14) (nI 1) := by
  subst hps
  refine nm_r (show 4 * nI 2 = nI 8 from rfl) (nm_r (show 3 * nI 1 = nI 3 from rfl) ⟨3, ?_⟩)
  have hs : 3 * nI 1 + a7 1 = nI 5 := by rw [h7]; rfl
  exact sr_pass (r := 1) (e := 5) (k := 3) (by omega) (by omega) (by omega) (by omega) hs h93 (sr_pass (r := 1) (e := 5) (k := 4) (by omega) (by omega) (by omega) (by omega) hs h94 (sr_come (r := 1) (B := 8) (k := 5) (rel := 3) (t1 := 0) (t2 := 2) (x := x) (y := w) (by omega) (by omega) (by omega) (by omega) hs (by rw [h6]; rfl) (by rw [h6]; rfl) (by rw [h6]; rfl) (by omega) (by omega) e8 e10 H))
theorem sr_arr2 {post : St1 → Prop} {f : Nat} (hf : f < 36) (hps : ps = nI 1) (h6 : a6 2 = 501) (h7 : a7 2 = 2) (h96 : a9 6 = 0) (h97 : a9 7 = 1) (h87 : a8 7 = 110) (e4 : a14 4 = nI (f / 6)) (e5 : a14 5 = nI (f % 6))
    (H0 : sr_b (a2 1) (6 * (f % 6) + f / 6) = true → post (c, ds, sk, ps, na, wc, wa, me, so, a1, a2, a3, a4, a5, a6, a7, a8, a9, a10, a11, a12, a13, a14))
    (H : sr_b (a2 1) (6 * (f % 6) + f / 6) = false → ∀ m, post (c, ds, sk, ps, na, (wc + 1), wa, m, so, a1, a2, a3, (vp_updL a4 5 (a4 5 ||| ((1 : Int64) <<< ((nI f).toInt64 &&& 63)))), a5, a6, a7, a8, a9, a10, a11, a12, a13, a14)) : wpX_arrive post (c, ds, sk, ps, na, wc, wa, me, so, a1, a2, a3, a4, a5, a6, a7, a8, a9, a10, a11, a12, a13, a14) (nI 2) := by
  subst hps
  refine nm_r (show 4 * nI 1 = nI 4 from rfl) (nm_r (show 3 * nI 2 = nI 6 from rfl) ⟨3, ?_⟩)
  have hs : 3 * nI 2 + a7 2 = nI 8 := by rw [h7]; rfl
  refine sr_pass (r := 2) (e := 8) (k := 6) (by omega) (by omega) (by omega) (by omega) hs h96 ?_
  have w : ∀ P : Prop, sr_b (a2 1) (6 * (f % 6) + f / 6) = false → (wX_arrive_11 post (nI 2) (nI 4) c ds sk (nI 1) na wc wa me so a1 a2 a3 a4 a5 a6 a7 a8 a9 a10 a11 a12 a13 a14 1 (nI 8)) := by
    intro _ hb
    refine sr_come (r := 2) (B := 4) (k := 8) (rel := 5) (t1 := 0) (t2 := 1) (x := f / 6) (y := f % 6) (by omega) (by omega) (by omega) (by omega) hs (by rw [h6]; rfl) (by rw [h6]; rfl) (by rw [h6]; rfl) (by omega) (by omega) e4 e5 ?_
    rw [show 6 * (f / 6) + f % 6 = f by omega]
    exact H hb
  unfold wX_arrive_11
  have c2 : (nI 2).toNatClampNeg = 2 := nI_clamp (by omega)
  have c7 : (nI 7).toNatClampNeg = 7 := nI_clamp (by omega)
  rw [c2, hs, c7, h87]
  refine ⟨pk_in 2 14 (by omega), br_f (nI_ge (by omega) (by omega)) ⟨pk_in 7 42 (by omega), br_f (by rw [h97]; decide) ⟨pk_in 7 42 (by omega), sr_fact 4 1 0 (f % 6) (f / 6) rfl rfl rfl (by omega) (by omega) (by omega) e5 e4 ⟨pk_in 7 42 (by omega), by decide, pk_in 1 8 (by omega), ?_⟩⟩⟩⟩
  have c1 : ((110 : Int32) / 100).toNatClampNeg = 1 := by decide
  rw [c1]
  refine sr_bitAt (by omega) ?_
  cases e : sr_b (a2 1) (6 * (f % 6) + f / 6)
  · exact br_f (by decide) (nm_r (nI_1 7) (w True e))
  · exact br_t rfl (H0 e)
end
end
section
/-- 36 turns of a level, each of at most k steps -/
theorem sr_lev {σ : Type} (W : Nat → σ → Prop) (P : Nat → σ → Prop) (k B : Nat)
    (hs : ∀ t f s, f < 36 → t + k ≤ B → P f s → (∀ t' s', t' ≤ t + k → P (f + 1) s' → W t' s') → W t s)
    (hx : ∀ t s, t ≤ B → P 36 s → W t s) : ∀ m f t s, f + m = 36 → t + m * k ≤ B → P f s → W t s := by
  intro m
  induction m with
  | zero =>
    intro f t s hf ht hP
    have e : f = 36 := by omega
    subst e
    exact hx t s (by omega) hP
  | succ m ih =>
    intro f t s hf ht hP
    have e : (m + 1) * k = m * k + k := Nat.succ_mul m k
    refine hs t f s (by omega) (by omega) hP (fun t' s' ht' hP' => ih (f + 1) t' s' (by omega) (by omega) hP')
theorem sr_acc0 {A X : Int64} {p : Nat → Bool} {f : Nat} (h : ∀ i, sr_b X i = (sr_b A i || (decide (i < f) && p i))) (hp : p f = false) : ∀ i, sr_b X i = (sr_b A i || (decide (i < f + 1) && p i)) := by
  intro i
  rw [h i]
  by_cases e : i = f
  · subst e
    rw [hp]
    simp
  · rw [show decide (i < f + 1) = decide (i < f) from decide_eq_decide.mpr (by omega)]
theorem sr_acc1 {A X : Int64} {p : Nat → Bool} {f : Nat} (hf : f < 64) (h : ∀ i, sr_b X i = (sr_b A i || (decide (i < f) && p i))) (hp : p f = true) : ∀ i, sr_b (X ||| ((1 : Int64) <<< ((nI f).toInt64 &&& 63))) i = (sr_b A i || (decide (i < f + 1) && p i)) := by
  intro i
  rw [sr_or, sr_bit hf, h i]
  by_cases e : i = f
  · subst e
    rw [hp]
    simp
  · rw [show decide (i < f + 1) = decide (i < f) from decide_eq_decide.mpr (by omega), decide_eq_false e, Bool.or_false]
theorem sr_cnt0 {p : Nat → Bool} {f : Nat} {w : Int32} (h : w = nI (sr_ct p f)) (hp : p f = false) : w = nI (sr_ct p (f + 1)) := by
  rw [h]
  unfold sr_ct
  rw [hp]
  cases f <;> rfl
theorem sr_cnt1 {p : Nat → Bool} {f : Nat} {w : Int32} (h : w = nI (sr_ct p f)) (hp : p f = true) : w + 1 = nI (sr_ct p (f + 1)) := by
  have e : sr_ct p (f + 1) = sr_ct p f + 1 := by
    show sr_ct p f + (if p f then 1 else 0) = _
    rw [hp]
    rfl
  rw [h, nI_1, e]
section
variable {c ds sk ps na wc wa me so : Int32} {a1 a2 a3 a4 a5 : Nat → Int64} {a6 a7 a8 a9 a10 a11 a12 a13 a14 : Nat → Int32}
/-- where the search stands outside: it ends -/
theorem sr_jx {post : St1 → Prop} {x1 x4 : Int32} {n : Nat} (H : post (c, ds, sk, ps, na, wc, wa, me, so, a1, a2, a3, a4, a5, a6, a7, a8, a9, a10, a11, a12, a13, a14)) : wX_join_100 post x1 (n + 1) (-1) x4 c ds sk ps na wc wa me so a1 a2 a3 a4 a5 a6 a7 a8 a9 a10 a11 a12 a13 a14 :=
  br_c (fun _ => H) (fun _ => br_t (by decide) H)
/-- a rule with one plain atom, its terms 0 and 1 -/
theorem sr_j1 {post : St1 → Prop} {r at' rel0 rel : Nat} {Q : Nat → Bool} {S0 : Int64} (hps : ps = nI 1) (hat : at' < 42) (hr0 : rel0 < 8) (h12 : a12 0 = nI at') (h8 : a8 at' / 100 = nI rel0) (h1 : a8 at' / 10 - a8 at' / 10 / 10 * 10 = nI 0) (h2 : a8 at' - a8 at' / 10 * 10 = nI 1)
    (hS : S0 = if nI at' = na then a3 rel0 else a2 rel0) (hb : ∀ j, j < 4 → a14 j = -1) (hc : a13 0 = nI 0) (hwc : wc = nI 0)
    (hA : ∀ (P : St1 → Prop) (f : Nat) (w m : Int32) (b4 : Nat → Int64) (b13 b14 : Nat → Int32), f < 36 → b14 4 = nI (f / 6) → b14 5 = nI (f % 6) → (Q f = false → P (c, ds, sk, ps, na, w, wa, m, so, a1, a2, a3, b4, a5, a6, a7, a8, a9, a10, a11, a12, b13, b14)) →
      (Q f = true → ∀ m', P (c, ds, sk, ps, na, (w + 1), wa, m', so, a1, a2, a3, (vp_updL b4 rel (b4 rel ||| ((1 : Int64) <<< ((nI f).toInt64 &&& 63)))), a5, a6, a7, a8, a9, a10, a11, a12, b13, b14)) → wpX_arrive P (c, ds, sk, ps, na, w, wa, m, so, a1, a2, a3, b4, a5, a6, a7, a8, a9, a10, a11, a12, b13, b14) (nI r))
    (H : ∀ (w m : Int32) (b4 : Nat → Int64) (b13 b14 : Nat → Int32), w = nI (sr_ct (fun i => sr_b S0 i && Q i) 36) → (∀ j, j ≠ rel → b4 j = a4 j) → (∀ i, sr_b (b4 rel) i = (sr_b (a4 rel) i || (decide (i < 36) && (sr_b S0 i && Q i)))) → post (c, ds, sk, ps, na, w, wa, m, so, a1, a2, a3, b4, a5, a6, a7, a8, a9, a10, a11, a12, b13, b14)) :
    ∃ n, wX_join_100 post (nI r) n 0 0 c ds sk ps na wc wa me so a1 a2 a3 a4 a5 a6 a7 a8 a9 a10 a11 a12 a13 a14 := by
  subst hps
  have L := sr_lev (σ := Int32 × Int32 × (Nat → Int64) × (Nat → Int32) × (Nat → Int32))
    (fun t s => ∀ n, n + t = 60001 → wX_join_100 post (nI r) n (nI 0) (nI t) c ds sk (nI 1) na s.1 wa s.2.1 so a1 a2 a3 s.2.2.1 a5 a6 a7 a8 a9 a10 a11 a12 s.2.2.2.1 s.2.2.2.2)
    (fun f s => s.1 = nI (sr_ct (fun i => sr_b S0 i && Q i) f) ∧ (∀ j, j ≠ rel → s.2.2.1 j = a4 j) ∧ (∀ i, sr_b (s.2.2.1 rel) i = (sr_b (a4 rel) i || (decide (i < f) && (sr_b S0 i && Q i)))) ∧ s.2.2.2.1 0 = nI f ∧ (∀ j, j < 4 → s.2.2.2.2 j = -1))
    2 50000 ?_ ?_ 36 0 0 (wc, me, a4, a13, a14) (by omega) (by omega) ⟨hwc, fun _ _ => rfl, fun i => by simp, hc, hb⟩
  · exact ⟨60001, L 60001 (by omega)⟩
  · intro t f s hf ht hP hw n hn
    obtain ⟨w, m, b4, b13, b14⟩ := s
    obtain ⟨p1, p2, p3, p4, p5⟩ := hP
    dsimp only at p1 p2 p3 p4 p5 hw ⊢
    obtain ⟨n, rfl⟩ : ∃ k, n = k + 1 + 1 := ⟨n - 2, by omega⟩
    refine pk_le 60000 t (fun z => absurd z (by omega)) (fun _ => br_f (nI_pos (by omega)) (pk_eq 0 1 (fun z => absurd z (by omega)) (fun _ => ⟨pk_in 0 4 (by omega), pk_eq f 36 (fun z => absurd z (by omega)) (fun _ => ?_) p4⟩)))
    have c0 : (nI 0).toNatClampNeg = 0 := rfl
    rw [c0]
    refine ⟨pk_in 0 4 (by omega), nm_r p4 ⟨pk_in 0 4 (by omega), pk_in 0 4 (by omega), nm_r (show upd b13 0 (b13 0 + 1) = upd b13 0 (nI (f + 1)) by rw [p4, nI_1]) ?_⟩⟩
    refine sr_bind0 hf hat hr0 h12 h8 h1 h2 hS p5 (fun z => ?_) (fun z s e4 e5 e6 ej => ?_)
    · refine br_t rfl (nm_r (nI_1 t) (hw (t + 1) (w, m, b4, upd b13 0 (nI (f + 1)), b14) (by omega) ⟨sr_cnt0 p1 ?_, p2, sr_acc0 p3 ?_, (show upd b13 0 (nI (f + 1)) 0 = nI (f + 1) from pk_us), p5⟩ (n + 1) (by omega)))
      · show (sr_b S0 f && Q f) = false
        rw [z]
        rfl
      · show (sr_b S0 f && Q f) = false
        rw [z]
        rfl
    · refine br_f (by decide) (nm_r (nI_1 0) ⟨pk_in 1 4 (by omega), nm_r (e' := upd (upd b13 0 (nI (f + 1))) 1 0) rfl (nm_r (nI_1 t) ?_)⟩)
      refine pk_le 60000 (t + 1) (fun z => absurd z (by omega)) (fun _ => br_f (nI_pos (by omega)) (br_t rfl ?_))
      refine hA _ f w m b4 _ s hf e4 e5 (fun q => ?_) (fun q m' => ?_)
      · refine nm_r (pk_m1 0) (nm_r (nI_1 (t + 1)) (hw (t + 2) (w, m, b4, upd (upd b13 0 (nI (f + 1))) 1 0, s) (by omega) ⟨sr_cnt0 p1 ?_, p2, sr_acc0 p3 ?_, ?_, ej⟩ n (by omega)))
        · show (sr_b S0 f && Q f) = false
          rw [z, q]
          rfl
        · show (sr_b S0 f && Q f) = false
          rw [z, q]
          rfl
        · show upd (upd b13 0 (nI (f + 1))) 1 0 0 = nI (f + 1)
          rw [pk_un (by decide), pk_us]
      · refine nm_r (pk_m1 0) (nm_r (nI_1 (t + 1)) (hw (t + 2) (w + 1, m', vp_updL b4 rel (b4 rel ||| ((1 : Int64) <<< ((nI f).toInt64 &&& 63))), upd (upd b13 0 (nI (f + 1))) 1 0, s) (by omega) ⟨sr_cnt1 p1 ?_, fun j hj => ?_, ?_, ?_, ej⟩ n (by omega)))
        · show (sr_b S0 f && Q f) = true
          rw [z, q]
          rfl
        · exact (pk_uLn hj).trans (p2 j hj)
        · dsimp only
          rw [pk_uLs]
          refine sr_acc1 (p := fun i => sr_b S0 i && Q i) (by omega) p3 ?_
          show (sr_b S0 f && Q f) = true
          rw [z, q]
          rfl
        · show upd (upd b13 0 (nI (f + 1))) 1 0 0 = nI (f + 1)
          rw [pk_un (by decide), pk_us]
  · intro t s ht hP n hn
    obtain ⟨w, m, b4, b13, b14⟩ := s
    obtain ⟨p1, p2, p3, p4, p5⟩ := hP
    dsimp only at p1 p2 p3 p4 p5 ⊢
    obtain ⟨n, rfl⟩ : ∃ k, n = k + 1 + 1 := ⟨n - 2, by omega⟩
    refine pk_le 60000 t (fun z => absurd z (by omega)) (fun _ => br_f (nI_pos (by omega)) (pk_eq 0 1 (fun z => absurd z (by omega)) (fun _ => ⟨pk_in 0 4 (by omega), br_t p4 (nm_r (show nI 0 + (-1) = -1 by decide) (nm_r (nI_1 t) (sr_jx (H w m b4 b13 b14 p1 p2 p3))))⟩)))
end
end
section
/-- the pairs of facts that rule 1 has met: outer ones below f, of f the inner ones below g -/
def sr_pr (S0 E : Int64) (f g i : Nat) : Prop := ∃ p q, (p < f ∨ p = f ∧ q < g) ∧ p < 36 ∧ q < 36 ∧ sr_b S0 p = true ∧ sr_b E q = true ∧ q / 6 = p % 6 ∧ i = 6 * (p / 6) + q % 6
def sr_pv (S0 E A X : Int64) (f g : Nat) : Prop := ∀ i, sr_b X i = true ↔ (sr_b A i = true ∨ sr_pr S0 E f g i)
theorem sr_pv_0 (S0 E A : Int64) : sr_pv S0 E A A 0 0 := fun i => ⟨Or.inl, fun h => h.elim id (fun ⟨p, q, h, _⟩ => absurd h (by omega))⟩
theorem sr_pv_n {S0 E A X : Int64} {f g : Nat} (h : sr_pv S0 E A X f g) (hn : ¬ (sr_b E g = true ∧ g / 6 = f % 6)) : sr_pv S0 E A X f (g + 1) := by
  intro i
  rw [h i]
  constructor
  · rintro (z | ⟨p, q, k, r⟩)
    · exact Or.inl z
    · exact Or.inr ⟨p, q, by omega, r⟩
  · rintro (z | ⟨p, q, k, k1, k2, k3, k4, k5, k6⟩)
    · exact Or.inl z
    · refine Or.inr ⟨p, q, ?_, k1, k2, k3, k4, k5, k6⟩
      by_cases e : p = f ∧ q = g
      · obtain ⟨e1, e2⟩ := e
        subst e1 e2
        exact absurd ⟨k4, k5⟩ hn
      · omega
theorem sr_pv_y {S0 E A X : Int64} {f g : Nat} (hf : f < 36) (hg : g < 36) (h : sr_pv S0 E A X f g) (h1 : sr_b S0 f = true) (h2 : sr_b E g = true) (h3 : g / 6 = f % 6) : sr_pv S0 E A (X ||| ((1 : Int64) <<< ((nI (6 * (f / 6) + g % 6)).toInt64 &&& 63))) f (g + 1) := by
  intro i
  rw [sr_or, sr_bit (by omega), Bool.or_eq_true, h i, decide_eq_true_iff]
  constructor
  · rintro ((z | ⟨p, q, k, r⟩) | z)
    · exact Or.inl z
    · exact Or.inr ⟨p, q, by omega, r⟩
    · exact Or.inr ⟨f, g, by omega, hf, hg, h1, h2, h3, z⟩
  · rintro (z | ⟨p, q, k, k1, k2, k3, k4, k5, k6⟩)
    · exact Or.inl (Or.inl z)
    · by_cases e : p = f ∧ q = g
      · obtain ⟨e1, e2⟩ := e
        subst e1 e2
        exact Or.inr k6
      · exact Or.inl (Or.inr ⟨p, q, by omega, k1, k2, k3, k4, k5, k6⟩)
theorem sr_pv_e {S0 E A X : Int64} {f : Nat} (h : sr_pv S0 E A X f 36) : sr_pv S0 E A X (f + 1) 0 := by
  intro i
  rw [h i]
  constructor
  · rintro (z | ⟨p, q, k, r⟩)
    · exact Or.inl z
    · exact Or.inr ⟨p, q, by omega, r⟩
  · rintro (z | ⟨p, q, k, k1, k2, r⟩)
    · exact Or.inl z
    · exact Or.inr ⟨p, q, by omega, k1, k2, r⟩
theorem sr_pv_f {S0 E A X : Int64} {f : Nat} (h : sr_pv S0 E A X f 0) (hn : sr_b S0 f = false) : sr_pv S0 E A X (f + 1) 0 := by
  intro i
  rw [h i]
  constructor
  · rintro (z | ⟨p, q, k, r⟩)
    · exact Or.inl z
    · exact Or.inr ⟨p, q, by omega, r⟩
  · rintro (z | ⟨p, q, k, k1, k2, k3, r⟩)
    · exact Or.inl z
    · refine Or.inr ⟨p, q, ?_, k1, k2, k3, r⟩
      by_cases e : p = f
      · subst e
        rw [hn] at k3
        exact absurd k3 (by decide)
      · omega
/-- one step of E behind S0 -/
def sr_o (S0 E : Int64) (i : Nat) : Prop := ∃ z, z < 6 ∧ sr_b S0 (6 * (i / 6) + z) = true ∧ sr_b E (6 * z + i % 6) = true
theorem sr_pv_o {S0 E A X : Int64} (h : sr_pv S0 E A X 36 0) {i : Nat} (hi : i < 36) : sr_b X i = true ↔ (sr_b A i = true ∨ sr_o S0 E i) := by
  rw [h i]
  constructor
  · rintro (z | ⟨p, q, k, k1, k2, k3, k4, k5, k6⟩)
    · exact Or.inl z
    · refine Or.inr ⟨p % 6, by omega, ?_, ?_⟩
      · rw [show 6 * (i / 6) + p % 6 = p by omega]
        exact k3
      · rw [show 6 * (p % 6) + i % 6 = q by omega]
        exact k4
  · rintro (z | ⟨z, hz, k1, k2⟩)
    · exact Or.inl z
    · exact Or.inr ⟨6 * (i / 6) + z, 6 * z + i % 6, by omega, by omega, by omega, k1, k2, by omega, by omega⟩
theorem sr_pv_S {S0 E A X : Int64} {f g : Nat} (h : sr_pv S0 E A X f g) (hA : sr_S A) : sr_S X := by
  intro i hi
  cases e : sr_b X i
  · rfl
  · rcases (h i).mp e with z | ⟨p, q, k, k1, k2, k3, k4, k5, k6⟩
    · rw [hA i hi] at z
      exact absurd z (by decide)
    · omega
section
variable {c ds sk ps na wc wa me so : Int32} {a1 a2 a3 a4 a5 : Nat → Int64} {a6 a7 a8 a9 a10 a11 a12 a13 a14 : Nat → Int32}
/-- rule 1: two plain atoms -/
theorem sr_j2 {post : St1 → Prop} {S0 : Int64} (hps : ps = nI 2) (h120 : a12 0 = nI 3) (h121 : a12 1 = nI 4) (h6 : a6 1 = 302) (h7 : a7 1 = 2) (h83 : a8 3 = 301) (h84 : a8 4 = 12) (h93 : a9 3 = 0) (h94 : a9 4 = 0) (hna : ¬ nI 4 = na)
    (hS : S0 = if nI 3 = na then a3 3 else a2 3) (hb : ∀ j, j < 4 → a14 j = -1) (hc : a13 0 = nI 0)
    (H : ∀ (w m : Int32) (b4 : Nat → Int64) (b13 b14 : Nat → Int32), (∀ j, j ≠ 3 → b4 j = a4 j) → sr_pv S0 (a2 0) (a4 3) (b4 3) 36 0 → post (c, ds, sk, ps, na, w, wa, m, so, a1, a2, a3, b4, a5, a6, a7, a8, a9, a10, a11, a12, b13, b14)) :
    ∃ n, wX_join_100 post (nI 1) n 0 0 c ds sk ps na wc wa me so a1 a2 a3 a4 a5 a6 a7 a8 a9 a10 a11 a12 a13 a14 := by
  subst hps
  have L := sr_lev (σ := Int32 × Int32 × (Nat → Int64) × (Nat → Int32) × (Nat → Int32))
    (fun t s => ∀ n, n + t = 60001 → wX_join_100 post (nI 1) n (nI 0) (nI t) c ds sk (nI 2) na s.1 wa s.2.1 so a1 a2 a3 s.2.2.1 a5 a6 a7 a8 a9 a10 a11 a12 s.2.2.2.1 s.2.2.2.2)
    (fun f s => (∀ j, j ≠ 3 → s.2.2.1 j = a4 j) ∧ sr_pv S0 (a2 0) (a4 3) (s.2.2.1 3) f 0 ∧ s.2.2.2.1 0 = nI f ∧ (∀ j, j < 4 → s.2.2.2.2 j = -1))
    74 50000 ?_ ?_ 36 0 0 (wc, me, a4, a13, a14) (by omega) (by omega) ⟨fun _ _ => rfl, sr_pv_0 _ _ _, hc, hb⟩
  · exact ⟨60001, L 60001 (by omega)⟩
  · intro t f s hf ht hP hw n hn
    obtain ⟨w, m, b4, b13, b14⟩ := s
    obtain ⟨p2, p3, p4, p5⟩ := hP
    dsimp only at p2 p3 p4 p5 hw ⊢
    obtain ⟨n, rfl⟩ : ∃ k, n = k + 1 := ⟨n - 1, by omega⟩
    refine pk_le 60000 t (fun z => absurd z (by omega)) (fun _ => br_f (nI_pos (by omega)) (pk_eq 0 2 (fun z => absurd z (by omega)) (fun _ => ⟨pk_in 0 4 (by omega), pk_eq f 36 (fun z => absurd z (by omega)) (fun _ => ?_) p4⟩)))
    have c0 : (nI 0).toNatClampNeg = 0 := rfl
    rw [c0]
    refine ⟨pk_in 0 4 (by omega), nm_r p4 ⟨pk_in 0 4 (by omega), pk_in 0 4 (by omega), nm_r (show upd b13 0 (b13 0 + 1) = upd b13 0 (nI (f + 1)) by rw [p4, nI_1]) ?_⟩⟩
    refine sr_bind0 (at' := 3) (rel := 3) (S0 := S0) hf (by omega) (by omega) h120 (by rw [h83]; rfl) (by rw [h83]; rfl) (by rw [h83]; rfl) hS p5 (fun z => ?_) (fun z s e4 e5 e6 ej => ?_)
    · exact br_t rfl (nm_r (nI_1 t) (hw (t + 1) (w, m, b4, upd b13 0 (nI (f + 1)), b14) (by omega) ⟨p2, sr_pv_f p3 z, (show upd b13 0 (nI (f + 1)) 0 = nI (f + 1) from pk_us), p5⟩ n (by omega)))
    · refine br_f (by decide) (nm_r (nI_1 0) ⟨pk_in 1 4 (by omega), nm_r (e' := upd (upd b13 0 (nI (f + 1))) 1 0) rfl (nm_r (nI_1 t) ?_)⟩)
      refine sr_lev (σ := Int32 × Int32 × (Nat → Int64) × (Nat → Int32) × (Nat → Int32))
        (fun t s => ∀ n, n + t = 60001 → wX_join_100 post (nI 1) n (nI 1) (nI t) c ds sk (nI 2) na s.1 wa s.2.1 so a1 a2 a3 s.2.2.1 a5 a6 a7 a8 a9 a10 a11 a12 s.2.2.2.1 s.2.2.2.2)
        (fun g s => (∀ j, j ≠ 3 → s.2.2.1 j = a4 j) ∧ sr_pv S0 (a2 0) (a4 3) (s.2.2.1 3) f g ∧ s.2.2.2.1 0 = nI (f + 1) ∧ s.2.2.2.1 1 = nI g ∧ (∀ j, j < 4 → s.2.2.2.2 j = -1) ∧ s.2.2.2.2 4 = nI (f / 6) ∧ s.2.2.2.2 5 = nI (f % 6) ∧ s.2.2.2.2 6 = -1)
        2 (t + 73) ?_ ?_ 36 0 (t + 1) (w, m, b4, upd (upd b13 0 (nI (f + 1))) 1 0, s) (by omega) (by omega) ⟨p2, p3, ?_, ?_, ej, e4, e5, e6⟩ n (by omega)
      · intro t1 g s1 hg ht1 hP1 hw1 n1 hn1
        obtain ⟨w1, m1, d4, d13, d14⟩ := s1
        obtain ⟨q2, q3, q40, q41, q5, q64, q65, q66⟩ := hP1
        dsimp only at q2 q3 q40 q41 q5 q64 q65 q66 hw1 ⊢
        obtain ⟨n1, rfl⟩ : ∃ k, n1 = k + 1 + 1 := ⟨n1 - 2, by omega⟩
        refine pk_le 60000 t1 (fun z => absurd z (by omega)) (fun _ => br_f (nI_pos (by omega)) (pk_eq 1 2 (fun z => absurd z (by omega)) (fun _ => ⟨pk_in 1 4 (by omega), pk_eq g 36 (fun z => absurd z (by omega)) (fun _ => ?_) q41⟩)))
        have c1 : (nI 1).toNatClampNeg = 1 := rfl
        rw [c1]
        refine ⟨pk_in 1 4 (by omega), nm_r q41 ⟨pk_in 1 4 (by omega), pk_in 1 4 (by omega), nm_r (show upd d13 1 (d13 1 + 1) = upd d13 1 (nI (g + 1)) by rw [q41, nI_1]) ?_⟩⟩
        have k0 : upd d13 1 (nI (g + 1)) 0 = nI (f + 1) := by rw [pk_un (by decide), q40]
        have k1 : upd d13 1 (nI (g + 1)) 1 = nI (g + 1) := pk_us
        refine sr_bind1 (at' := 4) (rel := 0) (x := f / 6) (y := f % 6) hg (by omega) (by omega) (by omega) h121 (by rw [h84]; rfl) (by rw [h84]; rfl) (by rw [h84]; rfl) hna q64 q65 q66 (fun y s2 hs2 => ?_) (fun y1 y2 s2 hs2 e8 e10 => ?_)
        · exact br_t rfl (nm_r (nI_1 t1) (hw1 (t1 + 1) (w1, m1, d4, upd d13 1 (nI (g + 1)), s2) (by omega) ⟨q2, sr_pv_n q3 y, k0, k1, fun j hj => (hs2 j (by omega)).trans (q5 j hj), (hs2 4 (by omega)).trans q64, (hs2 5 (by omega)).trans q65, (hs2 6 (by omega)).trans q66⟩ (n1 + 1) (by omega)))
        · refine br_f (by decide) (nm_r (nI_1 1) ⟨pk_in 2 4 (by omega), nm_r (e' := upd (upd d13 1 (nI (g + 1))) 2 0) rfl (nm_r (nI_1 t1) ?_)⟩)
          refine pk_le 60000 (t1 + 1) (fun z => absurd z (by omega)) (fun _ => br_f (nI_pos (by omega)) (br_t rfl ?_))
          refine sr_arr1 (x := f / 6) (w := g % 6) rfl h6 h7 h93 h94 e8 e10 (fun m2 => ?_)
          refine nm_r (pk_m1 1) (nm_r (nI_1 (t1 + 1)) (hw1 (t1 + 2) (w1 + 1, m2, vp_updL d4 3 (d4 3 ||| ((1 : Int64) <<< ((nI (6 * (f / 6) + g % 6)).toInt64 &&& 63))), upd (upd d13 1 (nI (g + 1))) 2 0, s2) (by omega) ⟨fun j hj => ?_, ?_, ?_, ?_, fun j hj => (hs2 j (by omega)).trans (q5 j hj), (hs2 4 (by omega)).trans q64, (hs2 5 (by omega)).trans q65, (hs2 6 (by omega)).trans q66⟩ n1 (by omega)))
          · exact (pk_uLn hj).trans (q2 j hj)
          · dsimp only
            rw [pk_uLs]
            exact sr_pv_y hf hg q3 z y1 y2
          · show upd (upd d13 1 (nI (g + 1))) 2 0 0 = nI (f + 1)
            rw [pk_un (by decide), k0]
          · show upd (upd d13 1 (nI (g + 1))) 2 0 1 = nI (g + 1)
            rw [pk_un (by decide), k1]
      · intro t1 s1 ht1 hP1 n1 hn1
        obtain ⟨w1, m1, d4, d13, d14⟩ := s1
        obtain ⟨q2, q3, q40, q41, q5, q64, q65, q66⟩ := hP1
        dsimp only at q2 q3 q40 q41 q5 q64 q65 q66 ⊢
        obtain ⟨n1, rfl⟩ : ∃ k, n1 = k + 1 := ⟨n1 - 1, by omega⟩
        exact pk_le 60000 t1 (fun z => absurd z (by omega)) (fun _ => br_f (nI_pos (by omega)) (pk_eq 1 2 (fun z => absurd z (by omega)) (fun _ => ⟨pk_in 1 4 (by omega), br_t q41 (nm_r (pk_m1 0) (nm_r (nI_1 t1) (hw (t1 + 1) (w1, m1, d4, d13, d14) (by omega) ⟨q2, sr_pv_e q3, q40, q5⟩ n1 (by omega))))⟩)))
      · show upd (upd b13 0 (nI (f + 1))) 1 0 0 = nI (f + 1)
        rw [pk_un (by decide), pk_us]
      · exact (pk_us : upd (upd b13 0 (nI (f + 1))) 1 0 1 = 0)
  · intro t s ht hP n hn
    obtain ⟨w, m, b4, b13, b14⟩ := s
    obtain ⟨p2, p3, p4, p5⟩ := hP
    dsimp only at p2 p3 p4 p5 ⊢
    obtain ⟨n, rfl⟩ : ∃ k, n = k + 1 + 1 := ⟨n - 2, by omega⟩
    refine pk_le 60000 t (fun z => absurd z (by omega)) (fun _ => br_f (nI_pos (by omega)) (pk_eq 0 2 (fun z => absurd z (by omega)) (fun _ => ⟨pk_in 0 4 (by omega), br_t p4 (nm_r (show nI 0 + (-1) = -1 by decide) (nm_r (nI_1 t) (sr_jx (H w m b4 b13 b14 p2 p3))))⟩)))
/-! the opening of join -/
theorem sr_j19p {post : St1 → Prop} {r e k p n : Nat} (hr : r < 14) (hk : k < 42) (hp : p < 3) (he : k < e) (he' : e < 2 ^ 31) (hs : 3 * nI r + a7 r = nI e) (h9 : a9 k = 0)
    (H : wX_join_19 post (nI r) c ds sk na wc wa me so n (nI (k + 1)) (nI (p + 1)) a1 a2 a3 a4 a5 a6 a7 a8 a9 a10 a11 (upd a12 p (nI k)) a13 a14) : wX_join_19 post (nI r) c ds sk na wc wa me so (n + 1) (nI k) (nI p) a1 a2 a3 a4 a5 a6 a7 a8 a9 a10 a11 a12 a13 a14 := by
  unfold wX_join_19
  rw [nI_clamp (show r < 2 ^ 31 by omega), hs, nI_clamp (show k < 2 ^ 31 by omega), nI_clamp (show p < 2 ^ 31 by omega)]
  exact ⟨pk_in r 14 hr, br_f (nI_ge he he') ⟨pk_in k 42 hk, br_t h9 ⟨pk_in p 3 hp, nm_e (nm_r (nI_1 p) (nm_r (nI_1 k) H))⟩⟩⟩
theorem sr_j19n {post : St1 → Prop} {r e k p n : Nat} (hr : r < 14) (hk : k < 42) (he : k < e) (he' : e < 2 ^ 31) (hs : 3 * nI r + a7 r = nI e) (h9 : ¬ a9 k = 0)
    (H : wX_join_19 post (nI r) c ds sk na wc wa me so n (nI (k + 1)) (nI p) a1 a2 a3 a4 a5 a6 a7 a8 a9 a10 a11 a12 a13 a14) : wX_join_19 post (nI r) c ds sk na wc wa me so (n + 1) (nI k) (nI p) a1 a2 a3 a4 a5 a6 a7 a8 a9 a10 a11 a12 a13 a14 := by
  unfold wX_join_19
  rw [nI_clamp (show r < 2 ^ 31 by omega), hs, nI_clamp (show k < 2 ^ 31 by omega)]
  exact ⟨pk_in r 14 hr, br_f (nI_ge he he') ⟨pk_in k 42 hk, br_f h9 (nm_r (nI_1 k) H)⟩⟩
theorem sr_j70 {post : St1 → Prop} {x1 : Int32} (H : ∀ s, (∀ j, j < 4 → s j = -1) → ∃ n, wX_join_100 post x1 n 0 0 c ds sk ps na wc wa me so a1 a2 a3 a4 a5 a6 a7 a8 a9 a10 a11 a12 (upd a13 0 0) s) : ∃ n, wX_join_70 post x1 c ds sk ps na wc wa me so n 0 a1 a2 a3 a4 a5 a6 a7 a8 a9 a10 a11 a12 a13 a14 :=
  pk_loop (fun n i s => wX_join_70 post x1 c ds sk ps na wc wa me so n (nI i) a1 a2 a3 a4 a5 a6 a7 a8 a9 a10 a11 a12 a13 s) (fun i s => ∀ j, j < i → s j = -1) 4 0 a14 (by omega) (fun j hj => absurd hj (by omega))
    (fun n s h => pk_le 4 4 (fun _ => nm_e (H s h)) (fun z => absurd z (by omega)))
    (fun n i s hi h hw => pk_le 4 i (fun z => absurd z (by omega)) (fun _ => by
      rw [nI_clamp (show i < 2 ^ 31 by omega)]
      refine ⟨pk_in i 16 (by omega), nm_e (nm_r (nI_1 i) (hw _ (fun j hj => ?_)))⟩
      by_cases e : j = i
      · subst e
        rw [pk_us]
      · rw [pk_un e]
        exact h j (by omega)))
theorem sr_j19e {post : St1 → Prop} {r k p n : Nat} (hr : r < 14) (hk : k < 2 ^ 31) (hs : 3 * nI r + a7 r = nI k)
    (H : ∀ s, (∀ j, j < 4 → s j = -1) → ∃ n, wX_join_100 post (nI r) n 0 0 c ds sk (nI p) na wc wa me so a1 a2 a3 a4 a5 a6 a7 a8 a9 a10 a11 a12 (upd a13 0 0) s) : wX_join_19 post (nI r) c ds sk na wc wa me so (n + 1) (nI k) (nI p) a1 a2 a3 a4 a5 a6 a7 a8 a9 a10 a11 a12 a13 a14 := by
  unfold wX_join_19
  rw [nI_clamp (show r < 2 ^ 31 by omega), hs]
  exact ⟨pk_in r 14 hr, br_t (nI_le (Nat.le_refl k) hk) (sr_j70 H)⟩
theorem sr_join0 {post : St1 → Prop} (h6 : a6 0 = 301) (h7 : a7 0 = 1) (h8 : a8 0 = 1) (h9 : a9 0 = 0)
    (H : ∀ (p w m : Int32) (b4 : Nat → Int64) (b12 b13 b14 : Nat → Int32), w = nI (sr_pc (a2 0) 36) → (∀ j, j ≠ 3 → b4 j = a4 j) → (∀ i, sr_b (b4 3) i = (sr_b (a4 3) i || (decide (i < 36) && sr_b (a2 0) i))) → post (c, ds, sk, p, (-1), w, wa, m, so, a1, a2, a3, b4, a5, a6, a7, a8, a9, a10, a11, b12, b13, b14)) :
    wpX_join post (c, ds, sk, ps, na, wc, wa, me, so, a1, a2, a3, a4, a5, a6, a7, a8, a9, a10, a11, a12, a13, a14) (nI 0) (-1) := by
  have hs : 3 * nI 0 + a7 0 = nI 1 := by rw [h7]; rfl
  refine nm_r (show 3 * nI 0 = nI 0 from rfl) ⟨2, sr_j19p (r := 0) (e := 1) (k := 0) (p := 0) (by omega) (by omega) (by omega) (by omega) (by omega) hs h9 (sr_j19e (r := 0) (k := 1) (p := 1) (by omega) (by omega) hs (fun s hs' => ?_))⟩
  refine sr_j1 (at' := 0) (rel0 := 0) (rel := 3) (Q := fun _ => true) (S0 := a2 0) rfl (by omega) (by omega) pk_us (by rw [h8]; rfl) (by rw [h8]; rfl) (by rw [h8]; rfl) (if_neg (by decide)).symm hs' pk_us rfl (fun P f w m b4 b13 b14 hf e4 e5 _ hP => ?_) (fun w m b4 b13 b14 e1 e2 e3 => H _ w m b4 _ b13 b14 ?_ e2 ?_)
  · exact sr_arr0 hf rfl h6 h7 h9 e4 e5 (hP rfl)
  · rw [e1]
    exact congrArg nI (sr_ct_cg 36 (fun i _ => Bool.and_true _))
  · intro i
    rw [e3 i, Bool.and_true]
theorem sr_join1 {post : St1 → Prop} {sp : Int32} {S0 : Int64} (hsp : ¬ nI 4 = sp) (hS : S0 = if nI 3 = sp then a3 3 else a2 3) (h6 : a6 1 = 302) (h7 : a7 1 = 2) (h83 : a8 3 = 301) (h93 : a9 3 = 0) (h84 : a8 4 = 12) (h94 : a9 4 = 0)
    (H : ∀ (p w m : Int32) (b4 : Nat → Int64) (b12 b13 b14 : Nat → Int32), (∀ j, j ≠ 3 → b4 j = a4 j) → (sr_S (a4 3) → sr_S (b4 3)) → (∀ i, i < 36 → (sr_b (b4 3) i = true ↔ (sr_b (a4 3) i = true ∨ sr_o S0 (a2 0) i))) → post (c, ds, sk, p, sp, w, wa, m, so, a1, a2, a3, b4, a5, a6, a7, a8, a9, a10, a11, b12, b13, b14)) :
    wpX_join post (c, ds, sk, ps, na, wc, wa, me, so, a1, a2, a3, a4, a5, a6, a7, a8, a9, a10, a11, a12, a13, a14) (nI 1) sp := by
  have hs : 3 * nI 1 + a7 1 = nI 5 := by rw [h7]; rfl
  refine nm_r (show 3 * nI 1 = nI 3 from rfl) ⟨3, sr_j19p (r := 1) (e := 5) (k := 3) (p := 0) (by omega) (by omega) (by omega) (by omega) (by omega) hs h93 (sr_j19p (r := 1) (e := 5) (k := 4) (p := 1) (by omega) (by omega) (by omega) (by omega) (by omega) hs h94 (sr_j19e (r := 1) (k := 5) (p := 2) (by omega) (by omega) hs (fun s hs' => ?_)))⟩
  refine sr_j2 (S0 := S0) rfl ?_ pk_us h6 h7 h83 h84 h93 h94 hsp hS hs' pk_us (fun w m b4 b13 b14 e1 e2 => H _ w m b4 _ b13 b14 e1 (sr_pv_S e2) (fun i hi => sr_pv_o e2 hi))
  rw [pk_un (by decide), pk_us]
theorem sr_join2 {post : St1 → Prop} (h6 : a6 2 = 501) (h7 : a7 2 = 2) (h86 : a8 6 = 301) (h96 : a9 6 = 0) (h87 : a8 7 = 110) (h97 : a9 7 = 1)
    (H : ∀ (p w m : Int32) (b4 : Nat → Int64) (b12 b13 b14 : Nat → Int32), (∀ j, j ≠ 5 → b4 j = a4 j) → (∀ i, sr_b (b4 5) i = (sr_b (a4 5) i || (decide (i < 36) && (sr_b (a2 3) i && !sr_b (a2 1) (6 * (i % 6) + i / 6))))) → post (c, ds, sk, p, (-1), w, wa, m, so, a1, a2, a3, b4, a5, a6, a7, a8, a9, a10, a11, b12, b13, b14)) :
    wpX_join post (c, ds, sk, ps, na, wc, wa, me, so, a1, a2, a3, a4, a5, a6, a7, a8, a9, a10, a11, a12, a13, a14) (nI 2) (-1) := by
  have hs : 3 * nI 2 + a7 2 = nI 8 := by rw [h7]; rfl
  refine nm_r (show 3 * nI 2 = nI 6 from rfl) ⟨3, sr_j19p (r := 2) (e := 8) (k := 6) (p := 0) (by omega) (by omega) (by omega) (by omega) (by omega) hs h96 (sr_j19n (r := 2) (e := 8) (k := 7) (p := 1) (by omega) (by omega) (by omega) (by omega) hs (by rw [h97]; decide) (sr_j19e (r := 2) (k := 8) (p := 1) (by omega) (by omega) hs (fun s hs' => ?_)))⟩
  refine sr_j1 (at' := 6) (rel0 := 3) (rel := 5) (Q := fun i => !sr_b (a2 1) (6 * (i % 6) + i / 6)) (S0 := a2 3) rfl (by omega) (by omega) pk_us (by rw [h86]; rfl) (by rw [h86]; rfl) (by rw [h86]; rfl) (if_neg (by decide)).symm hs' pk_us rfl (fun P f w m b4 b13 b14 hf e4 e5 hP0 hP => ?_) (fun w m b4 b13 b14 e1 e2 e3 => H _ w m b4 _ b13 b14 e2 e3)
  refine sr_arr2 hf rfl h6 h7 h96 h97 h87 e4 e5 (fun z => hP0 ?_) (fun z => hP ?_)
  · show (!sr_b (a2 1) (6 * (f % 6) + f / 6)) = false
    rw [z]
    rfl
  · show (!sr_b (a2 1) (6 * (f % 6) + f / 6)) = true
    rw [z]
    rfl
end
end
section
/-- the rules' tables, R rules -/
def sr_tb (R : Nat) (c : Int32) (a6 a7 a8 a9 : Nat → Int32) : Prop := R ≤ 3 ∧ c = nI R ∧ (1 ≤ R → a6 0 = 301 ∧ a7 0 = 1 ∧ a8 0 = 1 ∧ a9 0 = 0) ∧ (2 ≤ R → a6 1 = 302 ∧ a7 1 = 2 ∧ a8 3 = 301 ∧ a9 3 = 0 ∧ a8 4 = 12 ∧ a9 4 = 0) ∧ (3 ≤ R → a6 2 = 501 ∧ a7 2 = 2 ∧ a8 6 = 301 ∧ a9 6 = 0 ∧ a8 7 = 110 ∧ a9 7 = 1)
theorem sr_3 (n : Nat) : 3 * nI n = nI (3 * n) := pk_mul 3 n
theorem sr_d3 {a : Nat} (h : a < 42) : nI a / 3 = nI (a / 3) := pk_div (d := 3) (by omega) (by omega) (by omega)
theorem sr_m3 {a : Nat} (h : a < 42) : nI a - nI a / 3 * 3 = nI (a % 3) := pk_rem (d := 3) (by omega) (by omega) (by omega)
section
variable {c ds sk ps na wc wa me so : Int32} {a1 a2 a3 a4 a5 : Nat → Int64} {a6 a7 a8 a9 a10 a11 a12 a13 a14 : Nat → Int32}
theorem sr_nE {post : St1 → Prop} {x1 : Int32} {R n : Nat} (hR : R ≤ 3) (hc : c = nI R) (H : post (c, ds, sk, ps, na, wc, wa, me, so, a1, a2, a3, a4, a5, a6, a7, a8, a9, a10, a11, a12, a13, a14)) : wX_joinNew_2 post x1 (n + 1) (nI (3 * R)) c ds sk ps na wc wa me so a1 a2 a3 a4 a5 a6 a7 a8 a9 a10 a11 a12 a13 a14 := by
  subst hc
  unfold wX_joinNew_2
  rw [sr_3]
  exact br_t (nI_le (Nat.le_refl _) (by omega)) H
/-- not a place of this layer -/
theorem sr_nS {post : St1 → Prop} {x1 : Int32} {R n k : Nat} (hR : R ≤ 3) (hc : c = nI R) (hk : k < 3 * R) (hm : a7 (k / 3) ≤ nI (k % 3) ∨ ¬ a6 (k / 3) / 200 = x1) (H : wX_joinNew_2 post x1 n (nI (k + 1)) c ds sk ps na wc wa me so a1 a2 a3 a4 a5 a6 a7 a8 a9 a10 a11 a12 a13 a14) : wX_joinNew_2 post x1 (n + 1) (nI k) c ds sk ps na wc wa me so a1 a2 a3 a4 a5 a6 a7 a8 a9 a10 a11 a12 a13 a14 := by
  subst hc
  have w : ∀ x3, wX_joinNew_53 post (wX_joinNew_2 post x1 n) x1 (nI k) x3 (nI R) ds sk ps na wc wa me so a1 a2 a3 a4 a5 a6 a7 a8 a9 a10 a11 a12 a13 a14 := fun x3 => br_t rfl (nm_r (nI_1 k) H)
  unfold wX_joinNew_2
  rw [sr_3, sr_m3 (by omega), sr_d3 (by omega)]
  refine br_f (nI_ge hk (by omega)) ⟨by decide, nm_e ⟨by decide, pk_in (k / 3) 14 (by omega), ?_⟩⟩
  rw [nI_clamp (show k / 3 < 2 ^ 31 by omega)]
  refine br_c (fun _ => w _) (fun z => ⟨pk_in (k / 3) 14 (by omega), by decide, ?_⟩)
  rcases hm with hm | hm
  · exact absurd hm z
  · exact br_f hm (w _)
theorem sr_n54 {post : St1 → Prop} {x1 : Int32} {R n k : Nat} (hR : R ≤ 3) (hc : c = nI R) (hsk : sk = -1) (hk : k < 3 * R) (h7 : ¬ a7 (k / 3) ≤ nI (k % 3)) (h6 : a6 (k / 3) / 200 = x1)
    (H : wX_joinNew_54 post (wX_joinNew_2 post x1 n) x1 (nI k) (nI (k / 3)) 1 c ds sk ps na wc wa me so a1 a2 a3 a4 a5 a6 a7 a8 a9 a10 a11 a12 a13 a14) : wX_joinNew_2 post x1 (n + 1) (nI k) c ds sk ps na wc wa me so a1 a2 a3 a4 a5 a6 a7 a8 a9 a10 a11 a12 a13 a14 := by
  subst hc hsk
  unfold wX_joinNew_2
  rw [sr_3, sr_m3 (by omega), sr_d3 (by omega)]
  refine br_f (nI_ge hk (by omega)) ⟨by decide, nm_e ⟨by decide, pk_in (k / 3) 14 (by omega), ?_⟩⟩
  rw [nI_clamp (show k / 3 < 2 ^ 31 by omega)]
  exact br_f h7 ⟨pk_in (k / 3) 14 (by omega), by decide, br_t h6 (br_f (sr_nm1 (by omega)) H)⟩
/-- a place of this layer with nothing new -/
theorem sr_nZ {post : St1 → Prop} {x1 : Int32} {R n k rel : Nat} (hR : R ≤ 3) (hc : c = nI R) (hsk : sk = -1) (hk : k < 3 * R) (h7 : ¬ a7 (k / 3) ≤ nI (k % 3)) (h6 : a6 (k / 3) / 200 = x1)
    (hz : ¬ a9 k = 0 ∨ a8 k / 100 = nI rel ∧ rel < 8 ∧ a9 k = 0 ∧ a3 rel = 0) (H : wX_joinNew_2 post x1 n (nI (k + 1)) c ds sk ps na wc wa me so a1 a2 a3 a4 a5 a6 a7 a8 a9 a10 a11 a12 a13 a14) : wX_joinNew_2 post x1 (n + 1) (nI k) c ds sk ps na wc wa me so a1 a2 a3 a4 a5 a6 a7 a8 a9 a10 a11 a12 a13 a14 := by
  refine sr_n54 hR hc hsk hk h7 h6 ?_
  unfold wX_joinNew_54
  rw [nI_clamp (show k < 2 ^ 31 by omega)]
  refine br_f (by decide) ⟨pk_in k 42 (by omega), ?_⟩
  rcases hz with hz | ⟨h8, hr, h9, h3⟩
  · exact br_f hz (nm_r (nI_1 k) H)
  · rw [h8, nI_clamp (show rel < 2 ^ 31 by omega)]
    exact br_t h9 ⟨pk_in k 42 (by omega), by decide, pk_in rel 8 hr, br_t h3 (nm_r (nI_1 k) H)⟩
/-- a place of this layer with new facts -/
theorem sr_nJ {post : St1 → Prop} {x1 : Int32} {R n k rel : Nat} (hR : R ≤ 3) (hc : c = nI R) (hsk : sk = -1) (hk : k < 3 * R) (h7 : ¬ a7 (k / 3) ≤ nI (k % 3)) (h6 : a6 (k / 3) / 200 = x1) (h8 : a8 k / 100 = nI rel) (hr : rel < 8) (h9 : a9 k = 0) (h3 : ¬ a3 rel = 0)
    (H : ∀ P : St1 → Prop, (∀ {c1 ds1 sk1 ps1 na1 wc1 wa1 me1 so1 : Int32} {a11 a21 a31 a41 a51 : Nat → Int64} {a61 a71 a81 a91 a101 a111 a121 a131 a141 : Nat → Int32}, wX_joinNew_2 post x1 n (nI (k + 1)) c1 ds1 sk1 ps1 na1 wc1 wa1 me1 so1 a11 a21 a31 a41 a51 a61 a71 a81 a91 a101 a111 a121 a131 a141 → P (c1, ds1, sk1, ps1, na1, wc1, wa1, me1, so1, a11, a21, a31, a41, a51, a61, a71, a81, a91, a101, a111, a121, a131, a141)) → wpX_join P (c, ds, sk, ps, na, wc, wa, me, so, a1, a2, a3, a4, a5, a6, a7, a8, a9, a10, a11, a12, a13, a14) (nI (k / 3)) (nI k)) : wX_joinNew_2 post x1 (n + 1) (nI k) c ds sk ps na wc wa me so a1 a2 a3 a4 a5 a6 a7 a8 a9 a10 a11 a12 a13 a14 := by
  refine sr_n54 hR hc hsk hk h7 h6 ?_
  unfold wX_joinNew_54
  rw [nI_clamp (show k < 2 ^ 31 by omega), h8, nI_clamp (show rel < 2 ^ 31 by omega)]
  refine br_f (by decide) ⟨pk_in k 42 (by omega), br_t h9 ⟨pk_in k 42 (by omega), by decide, pk_in rel 8 hr, br_f h3 (H _ ?_)⟩⟩
  intros
  exact nm_r (nI_1 k) (by assumption)
/-- layer 1 -/
theorem sr_jn1 {post : St1 → Prop} {R : Nat} (tb : sr_tb R c a6 a7 a8 a9) (hsk : sk = -1) (h30 : a3 0 = 0)
    (H : ∀ (p q w m : Int32) (b4 : Nat → Int64) (b12 b13 b14 : Nat → Int32), (∀ j, j ≠ 3 → b4 j = a4 j) → (sr_S (a4 3) → sr_S (b4 3)) → (∀ i, i < 36 → (sr_b (b4 3) i = true ↔ (sr_b (a4 3) i = true ∨ 2 ≤ R ∧ sr_o (a3 3) (a2 0) i))) → post (c, ds, sk, p, q, w, wa, m, so, a1, a2, a3, b4, a5, a6, a7, a8, a9, a10, a11, b12, b13, b14)) : wpX_joinNew post (c, ds, sk, ps, na, wc, wa, me, so, a1, a2, a3, a4, a5, a6, a7, a8, a9, a10, a11, a12, a13, a14) (nI 1) := by
  obtain ⟨hR, hc, t0, t1, t2⟩ := tb
  have s0 : 1 ≤ R → ∀ n, wX_joinNew_2 post (nI 1) n (nI 3) c ds sk ps na wc wa me so a1 a2 a3 a4 a5 a6 a7 a8 a9 a10 a11 a12 a13 a14 → wX_joinNew_2 post (nI 1) (n + 3) (nI 0) c ds sk ps na wc wa me so a1 a2 a3 a4 a5 a6 a7 a8 a9 a10 a11 a12 a13 a14 := by
    intro h n K
    obtain ⟨e6, e7, e8, e9⟩ := t0 h
    refine sr_nZ (k := 0) (rel := 0) hR hc hsk (by omega) (by rw [e7]; decide) (by rw [e6]; rfl) (Or.inr ⟨by rw [e8]; rfl, by omega, e9, h30⟩) ?_
    refine sr_nS (k := 1) hR hc (by omega) (Or.inl (by rw [e7]; decide)) ?_
    exact sr_nS (k := 2) hR hc (by omega) (Or.inl (by rw [e7]; decide)) K
  have s1 : 2 ≤ R → ∀ n, (∀ (p q w m : Int32) (b4 : Nat → Int64) (b12 b13 b14 : Nat → Int32), (∀ j, j ≠ 3 → b4 j = a4 j) → (sr_S (a4 3) → sr_S (b4 3)) → (∀ i, i < 36 → (sr_b (b4 3) i = true ↔ (sr_b (a4 3) i = true ∨ 2 ≤ R ∧ sr_o (a3 3) (a2 0) i))) → wX_joinNew_2 post (nI 1) n (nI 6) c ds sk p q w wa m so a1 a2 a3 b4 a5 a6 a7 a8 a9 a10 a11 b12 b13 b14) → wX_joinNew_2 post (nI 1) (n + 3) (nI 3) c ds sk ps na wc wa me so a1 a2 a3 a4 a5 a6 a7 a8 a9 a10 a11 a12 a13 a14 := by
    intro h n K
    obtain ⟨e6, e7, e83, e93, e84, e94⟩ := t1 h
    by_cases z : a3 3 = 0
    · refine sr_nZ (k := 3) (rel := 3) hR hc hsk (by omega) (by rw [e7]; decide) (by rw [e6]; rfl) (Or.inr ⟨by rw [e83]; rfl, by omega, e93, z⟩) ?_
      refine sr_nZ (k := 4) (rel := 0) hR hc hsk (by omega) (by rw [e7]; decide) (by rw [e6]; rfl) (Or.inr ⟨by rw [e84]; rfl, by omega, e94, h30⟩) ?_
      refine sr_nS (k := 5) hR hc (by omega) (Or.inl (by rw [e7]; decide)) (K _ _ _ _ _ _ _ _ (fun _ _ => rfl) id (fun i _ => ⟨Or.inl, fun y => y.elim id (fun ⟨_, q, _, y, _⟩ => ?_)⟩))
      rw [z, sr_0] at y
      exact absurd y (by decide)
    · refine sr_nJ (k := 3) (rel := 3) hR hc hsk (by omega) (by rw [e7]; decide) (by rw [e6]; rfl) (by rw [e83]; rfl) (by omega) e93 z (fun P hP => ?_)
      refine sr_join1 (S0 := a3 3) (by decide) (if_pos rfl).symm e6 e7 e83 e93 e84 e94 (fun p w m b4 b12 b13 b14 k1 k2 k3 => hP ?_)
      refine sr_nZ (k := 4) (rel := 0) hR hc hsk (by omega) (by rw [e7]; decide) (by rw [e6]; rfl) (Or.inr ⟨by rw [e84]; rfl, by omega, e94, h30⟩) ?_
      exact sr_nS (k := 5) hR hc (by omega) (Or.inl (by rw [e7]; decide)) (K _ _ _ _ _ _ _ _ k1 k2 (fun i hi => by rw [k3 i hi, and_iff_right h]))
  have s2 : 3 ≤ R → ∀ n, ∀ (p q w m : Int32) (b4 : Nat → Int64) (b12 b13 b14 : Nat → Int32), wX_joinNew_2 post (nI 1) n (nI 9) c ds sk p q w wa m so a1 a2 a3 b4 a5 a6 a7 a8 a9 a10 a11 b12 b13 b14 → wX_joinNew_2 post (nI 1) (n + 3) (nI 6) c ds sk p q w wa m so a1 a2 a3 b4 a5 a6 a7 a8 a9 a10 a11 b12 b13 b14 := by
    intro h n p q w m b4 b12 b13 b14 K
    obtain ⟨e6, e7, e86, e96, e87, e97⟩ := t2 h
    refine sr_nS (k := 6) hR hc (by omega) (Or.inr (by rw [e6]; decide)) ?_
    refine sr_nS (k := 7) hR hc (by omega) (Or.inr (by rw [e6]; decide)) ?_
    exact sr_nS (k := 8) hR hc (by omega) (Or.inr (by rw [e6]; decide)) K
  have h0 : R < 2 → post (c, ds, sk, ps, na, wc, wa, me, so, a1, a2, a3, a4, a5, a6, a7, a8, a9, a10, a11, a12, a13, a14) := fun h => H _ _ _ _ _ _ _ _ (fun _ _ => rfl) id (fun i _ => ⟨Or.inl, fun y => y.elim id (fun y => absurd y.1 (by omega))⟩)
  rcases (show R = 0 ∨ R = 1 ∨ R = 2 ∨ R = 3 by omega) with e | e | e | e
  · exact ⟨1, sr_nE (R := 0) (by omega) (by rw [hc, e]) (h0 (by omega))⟩
  · exact ⟨4, s0 (by omega) 1 (sr_nE (R := 1) (by omega) (by rw [hc, e]) (h0 (by omega)))⟩
  · exact ⟨7, s0 (by omega) 4 (s1 (by omega) 1 (fun p q w m b4 b12 b13 b14 k1 k2 k3 => sr_nE (R := 2) (by omega) (by rw [hc, e]) (H p q w m b4 b12 b13 b14 k1 k2 k3)))⟩
  · exact ⟨10, s0 (by omega) 7 (s1 (by omega) 4 (fun p q w m b4 b12 b13 b14 k1 k2 k3 => s2 (by omega) 1 p q w m b4 b12 b13 b14 (sr_nE (R := 3) (by omega) (by rw [hc, e]) (H p q w m b4 b12 b13 b14 k1 k2 k3))))⟩
/-- layer 2: nothing new in relation 3 -/
theorem sr_jn2 {post : St1 → Prop} {R : Nat} (tb : sr_tb R c a6 a7 a8 a9) (hsk : sk = -1) (h33 : a3 3 = 0) (H : post (c, ds, sk, ps, na, wc, wa, me, so, a1, a2, a3, a4, a5, a6, a7, a8, a9, a10, a11, a12, a13, a14)) : wpX_joinNew post (c, ds, sk, ps, na, wc, wa, me, so, a1, a2, a3, a4, a5, a6, a7, a8, a9, a10, a11, a12, a13, a14) (nI 2) := by
  obtain ⟨hR, hc, t0, t1, t2⟩ := tb
  have s0 : 1 ≤ R → ∀ n, wX_joinNew_2 post (nI 2) n (nI 3) c ds sk ps na wc wa me so a1 a2 a3 a4 a5 a6 a7 a8 a9 a10 a11 a12 a13 a14 → wX_joinNew_2 post (nI 2) (n + 3) (nI 0) c ds sk ps na wc wa me so a1 a2 a3 a4 a5 a6 a7 a8 a9 a10 a11 a12 a13 a14 := by
    intro h n K
    obtain ⟨e6, e7, e8, e9⟩ := t0 h
    refine sr_nS (k := 0) hR hc (by omega) (Or.inr (by rw [e6]; decide)) ?_
    refine sr_nS (k := 1) hR hc (by omega) (Or.inr (by rw [e6]; decide)) ?_
    exact sr_nS (k := 2) hR hc (by omega) (Or.inr (by rw [e6]; decide)) K
  have s1 : 2 ≤ R → ∀ n, wX_joinNew_2 post (nI 2) n (nI 6) c ds sk ps na wc wa me so a1 a2 a3 a4 a5 a6 a7 a8 a9 a10 a11 a12 a13 a14 → wX_joinNew_2 post (nI 2) (n + 3) (nI 3) c ds sk ps na wc wa me so a1 a2 a3 a4 a5 a6 a7 a8 a9 a10 a11 a12 a13 a14 := by
    intro h n K
    obtain ⟨e6, e7, e83, e93, e84, e94⟩ := t1 h
    refine sr_nS (k := 3) hR hc (by omega) (Or.inr (by rw [e6]; decide)) ?_
    refine sr_nS (k := 4) hR hc (by omega) (Or.inr (by rw [e6]; decide)) ?_
    exact sr_nS (k := 5) hR hc (by omega) (Or.inr (by rw [e6]; decide)) K
  have s2 : 3 ≤ R → ∀ n, wX_joinNew_2 post (nI 2) n (nI 9) c ds sk ps na wc wa me so a1 a2 a3 a4 a5 a6 a7 a8 a9 a10 a11 a12 a13 a14 → wX_joinNew_2 post (nI 2) (n + 3) (nI 6) c ds sk ps na wc wa me so a1 a2 a3 a4 a5 a6 a7 a8 a9 a10 a11 a12 a13 a14 := by
    intro h n K
    obtain ⟨e6, e7, e86, e96, e87, e97⟩ := t2 h
    refine sr_nZ (k := 6) (rel := 3) hR hc hsk (by omega) (by rw [e7]; decide) (by rw [e6]; rfl) (Or.inr ⟨by rw [e86]; rfl, by omega, e96, h33⟩) ?_
    refine sr_nZ (k := 7) (rel := 3) hR hc hsk (by omega) (by rw [e7]; decide) (by rw [e6]; rfl) (Or.inl (by rw [e97]; decide)) ?_
    exact sr_nS (k := 8) hR hc (by omega) (Or.inl (by rw [e7]; decide)) K
  rcases (show R = 0 ∨ R = 1 ∨ R = 2 ∨ R = 3 by omega) with e | e | e | e
  · exact ⟨1, sr_nE (R := 0) (by omega) (by rw [hc, e]) H⟩
  · exact ⟨4, s0 (by omega) 1 (sr_nE (R := 1) (by omega) (by rw [hc, e]) H)⟩
  · exact ⟨7, s0 (by omega) 4 (s1 (by omega) 1 (sr_nE (R := 2) (by omega) (by rw [hc, e]) H))⟩
  · exact ⟨10, s0 (by omega) 7 (s1 (by omega) 4 (s2 (by omega) 1 (sr_nE (R := 3) (by omega) (by rw [hc, e]) H)))⟩
end
end
section
def sr_E (R : Nat) (st : Int64) : Int64 := if 2 ≤ R then st else 0
def sr_G (R : Nat) (st gv : Int64) : Int64 := if 1 ≤ R then gv ||| st else gv
theorem sr_E_b {R : Nat} {st : Int64} {i : Nat} : sr_b (sr_E R st) i = true ↔ (2 ≤ R ∧ sr_b st i = true) := by
  unfold sr_E
  by_cases h : 2 ≤ R
  · rw [if_pos h, and_iff_right h]
  · rw [if_neg h, sr_0]
    exact ⟨fun z => absurd z (by decide), fun z => absurd z.1 h⟩
theorem sr_G_b {R : Nat} {st gv : Int64} {i : Nat} : sr_b (sr_G R st gv) i = true ↔ (sr_b gv i = true ∨ 1 ≤ R ∧ sr_b st i = true) := by
  unfold sr_G
  by_cases h : 1 ≤ R
  · rw [if_pos h, and_iff_right h, sr_or, Bool.or_eq_true]
  · rw [if_neg h]
    exact ⟨Or.inl, fun z => z.elim id (fun z => absurd z.1 h)⟩
theorem sr_G_S {R : Nat} {st gv : Int64} (hs : sr_S st) (hg : sr_S gv) : sr_S (sr_G R st gv) := by
  unfold sr_G
  by_cases h : 1 ≤ R
  · rw [if_pos h]
    exact sr_Sor hg hs
  · rw [if_neg h]
    exact hg
theorem sr_z_and (x : Int64) : (0 : Int64) &&& x = 0 := sr_ext (fun i _ => by rw [sr_and, sr_0]; rfl)
theorem sr_or_z (x : Int64) : x ||| (0 : Int64) = x := sr_ext (fun i _ => by rw [sr_or, sr_0, Bool.or_false])
/-- what settle makes of one relation -/
theorem sr_fr {A C : Int64} {i : Nat} (hi : i < 36) : sr_b (C &&& (A ^^^ (-1))) i = true ↔ (sr_b C i = true ∧ sr_b A i = false) := by
  rw [sr_and, sr_not A (by omega), Bool.and_eq_true, Bool.not_eq_true']
theorem sr_al {A C : Int64} {i : Nat} (hi : i < 36) : sr_b (A ||| (C &&& (A ^^^ (-1)))) i = true ↔ (sr_b A i = true ∨ sr_b C i = true) := by
  rw [sr_or, Bool.or_eq_true, sr_fr hi]
  constructor
  · rintro (h | h)
    · exact Or.inl h
    · exact Or.inr h.1
  · rintro (h | h)
    · exact Or.inl h
    · cases e : sr_b A i
      · exact Or.inr ⟨h, rfl⟩
      · exact Or.inl rfl
/-- the rounds of layer 1, round k, x2: some are new -/
def sr_I1 (R : Nat) (st gv br : Int64) (k : Nat) (x2 : Int32) (a2 a3 a4 : Nat → Int64) : Prop :=
  a2 0 = st ∧ a2 1 = br ∧ a2 5 = 0 ∧ (∀ j, j < 8 → a4 j = 0) ∧ (∀ j, j < 8 → j ≠ 3 → a3 j = 0) ∧ sr_up (sr_E R st) (sr_G R st gv) (a2 3) ∧ (∀ f, f < 36 → sr_b (a3 3) f = true → sr_b (a2 3) f = true) ∧
  (∀ x y z, x < 6 → y < 6 → z < 6 → sr_b (a2 3) (6 * x + z) = true → sr_b (a3 3) (6 * x + z) = false → sr_b (sr_E R st) (6 * z + y) = true → sr_b (a2 3) (6 * x + y) = true) ∧
  (x2 = 0 ∧ a3 3 = 0 ∨ x2 = 1 ∧ k + 1 ≤ sr_pc (a2 3) 36)
/-- settle over a state of which relation 3 alone has something coming -/
theorem sr_I1_s {R : Nat} {st gv br : Int64} {k : Nat} {r : Int32} {a2 b2 b3 b4 b4' : Nat → Int64} (h0 : a2 0 = st) (h1 : a2 1 = br) (h5 : a2 5 = 0) (hz : ∀ j, j < 8 → j ≠ 3 → b4 j = 0) (hC : sr_S (b4 3)) (hA : sr_S (a2 3))
    (hG : ∀ f, f < 36 → sr_b (sr_G R st gv) f = true → sr_b (a2 3) f = true ∨ sr_b (b4 3) f = true)
    (hT : ∀ T : Nat → Prop, (∀ f, f < 36 → sr_b (sr_G R st gv) f = true → T f) → sr_T (sr_E R st) T → ∀ f, f < 36 → sr_b (a2 3) f = true ∨ sr_b (b4 3) f = true → T f)
    (hE : ∀ x y z, x < 6 → y < 6 → z < 6 → sr_b (a2 3) (6 * x + z) = true → sr_b (sr_E R st) (6 * z + y) = true → sr_b (a2 3) (6 * x + y) = true ∨ sr_b (b4 3) (6 * x + y) = true)
    (hk : k ≤ sr_pc (a2 3) 36)
    (e3 : ∀ j, j < 8 → b3 j = b4 j &&& (a2 j ^^^ (-1))) (e2 : ∀ j, j < 8 → b2 j = a2 j ||| b3 j) (e4 : ∀ j, j < 8 → b4' j = 0) (er : r = 0 ∧ (∀ j, j < 8 → b3 j = 0) ∨ r = 1 ∧ ∃ j, j < 8 ∧ ¬ b3 j = 0) : sr_I1 R st gv br k r b2 b3 b4' := by
  have f3 : ∀ j, j < 8 → j ≠ 3 → b3 j = 0 := fun j hj hn => by rw [e3 j hj, hz j hj hn, sr_z_and]
  have g2 : ∀ j, j < 8 → j ≠ 3 → b2 j = a2 j := fun j hj hn => by rw [e2 j hj, f3 j hj hn, sr_or_z]
  have e33 := e3 3 (by omega)
  have e23 : b2 3 = a2 3 ||| (b4 3 &&& (a2 3 ^^^ (-1))) := by rw [e2 3 (by omega), e33]
  refine ⟨(g2 0 (by omega) (by omega)).trans h0, (g2 1 (by omega) (by omega)).trans h1, (g2 5 (by omega) (by omega)).trans h5, e4, f3, ⟨?_, ?_, ?_⟩, ?_, ?_, ?_⟩
  · rw [e23]
    exact sr_Sor hA (sr_Sand hC)
  · intro f hf g
    rw [e23, sr_al hf]
    exact hG f hf g
  · intro T hT1 hT2 f hf g
    rw [e23, sr_al hf] at g
    exact hT T hT1 hT2 f hf g
  · intro f hf g
    rw [e33, sr_fr hf] at g
    rw [e23, sr_al hf]
    exact Or.inr g.1
  · intro x y z hx hy hz' g1 g2 g3
    rw [e23, sr_al (by omega)] at g1 ⊢
    have g4 : ¬ (sr_b (b4 3) (6 * x + z) = true ∧ sr_b (a2 3) (6 * x + z) = false) := by
      rw [← sr_fr (show 6 * x + z < 36 by omega), ← e33, g2]
      decide
    have g5 : sr_b (a2 3) (6 * x + z) = true := by
      rcases g1 with g | g
      · exact g
      · cases e : sr_b (a2 3) (6 * x + z)
        · exact absurd ⟨g, e⟩ g4
        · rfl
    exact hE x y z hx hy hz' g5 g3
  · rcases er with ⟨e, h⟩ | ⟨e, j, hj, h⟩
    · exact Or.inl ⟨e, h 3 (by omega)⟩
    · refine Or.inr ⟨e, ?_⟩
      have ej : j = 3 := by
        apply Classical.byContradiction
        intro hn
        exact h (f3 j hj hn)
      subst ej
      have hS3 : sr_S (b3 3) := by
        rw [e33]
        exact sr_Sand hC
      obtain ⟨i, hi, hb⟩ := sr_Sne hS3 h
      rw [e33, sr_fr hi] at hb
      have t : sr_pc (a2 3) 36 < sr_pc (b2 3) 36 := sr_ct_lt 36 (fun i hi g => by rw [e23, sr_al hi]; exact Or.inl g) ⟨i, hi, hb.2, by rw [e23, sr_al hi]; exact Or.inr hb.1⟩
      omega
/-- what stands behind layer 1 -/
def sr_L1 (R : Nat) (st gv br : Int64) (a2 a3 a4 : Nat → Int64) : Prop := a2 0 = st ∧ a2 1 = br ∧ a2 5 = 0 ∧ (∀ j, j < 8 → a4 j = 0) ∧ (∀ j, j < 8 → a3 j = 0) ∧ sr_cl (sr_E R st) (sr_G R st gv) (a2 3)
theorem sr_I1_x {R : Nat} {st gv br : Int64} {k : Nat} {a2 a3 a4 : Nat → Int64} (h : sr_I1 R st gv br k 0 a2 a3 a4) : sr_L1 R st gv br a2 a3 a4 := by
  obtain ⟨h0, h1, h5, h4, h3, hu, hf, hs, hx⟩ := h
  have z : a3 3 = 0 := by
    rcases hx with ⟨_, z⟩ | ⟨z, _⟩
    · exact z
    · exact absurd z (by decide)
  refine ⟨h0, h1, h5, h4, fun j hj => ?_, hu, fun x y z' hx hy hz g1 g2 => hs x y z' hx hy hz g1 (by rw [z, sr_0]) g2⟩
  by_cases e : j = 3
  · rw [e, z]
  · exact h3 j hj e
/-- one more round -/
theorem sr_I1_n {R : Nat} {st gv br : Int64} {k : Nat} {x2 r : Int32} {a2 a3 a4 b2 b3 b4 b4' : Nat → Int64} (h : sr_I1 R st gv br k x2 a2 a3 a4) (hx : ¬ x2 = 0)
    (k1 : ∀ j, j ≠ 3 → b4 j = a4 j) (k2 : sr_S (a4 3) → sr_S (b4 3)) (k3 : ∀ i, i < 36 → (sr_b (b4 3) i = true ↔ (sr_b (a4 3) i = true ∨ 2 ≤ R ∧ sr_o (a3 3) (a2 0) i)))
    (e3 : ∀ j, j < 8 → b3 j = b4 j &&& (a2 j ^^^ (-1))) (e2 : ∀ j, j < 8 → b2 j = a2 j ||| b3 j) (e4 : ∀ j, j < 8 → b4' j = 0) (er : r = 0 ∧ (∀ j, j < 8 → b3 j = 0) ∨ r = 1 ∧ ∃ j, j < 8 ∧ ¬ b3 j = 0) : sr_I1 R st gv br (k + 1) r b2 b3 b4' := by
  obtain ⟨h0, h1, h5, h4, h3, hu, hf, hs, hx'⟩ := h
  have z4 : a4 3 = 0 := h4 3 (by omega)
  have k3' : ∀ i, i < 36 → (sr_b (b4 3) i = true ↔ (2 ≤ R ∧ sr_o (a3 3) st i)) := by
    intro i hi
    rw [k3 i hi, z4, sr_0, h0]
    exact ⟨fun z => z.elim (fun z => absurd z (by decide)) id, Or.inr⟩
  refine sr_I1_s h0 h1 h5 (fun j hj hn => (k1 j hn).trans (h4 j hj)) (k2 (by rw [z4]; exact sr_S0)) hu.1 (fun f hf' g => Or.inl (hu.2.1 f hf' g)) ?_ ?_ ?_ e3 e2 e4 er
  · rintro T hT1 hT2 f hf' (g | g)
    · exact hu.2.2 T hT1 hT2 f hf' g
    · obtain ⟨hR, z, hz, g1, g2⟩ := (k3' f hf').mp g
      have t := hT2 (f / 6) (f % 6) z (by omega) (by omega) hz (hu.2.2 T hT1 hT2 _ (by omega) (hf _ (by omega) g1)) (sr_E_b.mpr ⟨hR, g2⟩)
      rw [show 6 * (f / 6) + f % 6 = f by omega] at t
      exact t
  · intro x y z hx hy hz g1 g2
    cases e : sr_b (a3 3) (6 * x + z)
    · exact Or.inl (hs x y z hx hy hz g1 e g2)
    · refine Or.inr ((k3' (6 * x + y) (by omega)).mpr ⟨(sr_E_b.mp g2).1, z, hz, ?_, ?_⟩)
      · rw [show (6 * x + y) / 6 = x by omega]
        exact e
      · rw [show (6 * x + y) % 6 = y by omega]
        exact (sr_E_b.mp g2).2
  · rcases hx' with ⟨z, _⟩ | ⟨_, z⟩
    · exact absurd z hx
    · exact z
/-- behind the first joins of layer 1 -/
theorem sr_I1_0 {R : Nat} {st gv br : Int64} {r : Int32} {a2 b2 b3 b4 b4' : Nat → Int64} (hst : sr_S st) (hgv : sr_S gv) (h0 : a2 0 = st) (h1 : a2 1 = br) (h5 : a2 5 = 0) (h3 : a2 3 = gv)
    (k1 : ∀ j, j < 8 → j ≠ 3 → b4 j = 0) (k2 : sr_S (b4 3)) (k3 : ∀ i, i < 36 → (sr_b (b4 3) i = true ↔ (1 ≤ R ∧ sr_b st i = true ∨ 2 ≤ R ∧ sr_o gv st i)))
    (e3 : ∀ j, j < 8 → b3 j = b4 j &&& (a2 j ^^^ (-1))) (e2 : ∀ j, j < 8 → b2 j = a2 j ||| b3 j) (e4 : ∀ j, j < 8 → b4' j = 0) (er : r = 0 ∧ (∀ j, j < 8 → b3 j = 0) ∨ r = 1 ∧ ∃ j, j < 8 ∧ ¬ b3 j = 0) : sr_I1 R st gv br 0 r b2 b3 b4' := by
  refine sr_I1_s h0 h1 h5 k1 k2 (by rw [h3]; exact hgv) (fun f hf g => ?_) ?_ ?_ (by omega) e3 e2 e4 er
  · rw [h3, k3 f hf]
    rcases sr_G_b.mp g with g | g
    · exact Or.inl g
    · exact Or.inr (Or.inl g)
  · intro T hT1 hT2 f hf g
    rw [h3, k3 f hf] at g
    rcases g with g | g | ⟨hR, z, hz, g1, g2⟩
    · exact hT1 f hf (sr_G_b.mpr (Or.inl g))
    · exact hT1 f hf (sr_G_b.mpr (Or.inr g))
    · have t := hT2 (f / 6) (f % 6) z (by omega) (by omega) hz (hT1 _ (by omega) (sr_G_b.mpr (Or.inl g1))) (sr_E_b.mpr ⟨hR, g2⟩)
      rw [show 6 * (f / 6) + f % 6 = f by omega] at t
      exact t
  · intro x y z hx hy hz g1 g2
    rw [h3] at g1
    refine Or.inr ((k3 (6 * x + y) (by omega)).mpr (Or.inr ⟨(sr_E_b.mp g2).1, z, hz, ?_, ?_⟩))
    · rw [show (6 * x + y) / 6 = x by omega]
      exact g1
    · rw [show (6 * x + y) % 6 = y by omega]
      exact (sr_E_b.mp g2).2
/-- the whole solution -/
def sr_sol (R : Nat) (st gv br F0 F1 F3 F5 : Int64) : Prop := F0 = st ∧ F1 = br ∧ sr_cl (sr_E R st) (sr_G R st gv) F3 ∧ sr_S F5 ∧ ∀ i, i < 36 → sr_b F5 i = (decide (3 ≤ R) && (sr_b F3 i && !sr_b br (6 * (i % 6) + i / 6)))
section
variable {c ds sk ps na wc wa me so : Int32} {a1 a2 a3 a4 a5 : Nat → Int64} {a6 a7 a8 a9 a10 a11 a12 a13 a14 : Nat → Int32}
theorem sr_49s {post : St1 → Prop} {J42} {x1 : Int32} {R r n : Nat} (hR : R ≤ 3) (hc : c = nI R) (hr : r < R) (h6 : ¬ a6 r / 200 = x1) (H : wX_solve_49 post J42 x1 n (nI (r + 1)) c ds sk ps na wc wa me so a1 a2 a3 a4 a5 a6 a7 a8 a9 a10 a11 a12 a13 a14) : wX_solve_49 post J42 x1 (n + 1) (nI r) c ds sk ps na wc wa me so a1 a2 a3 a4 a5 a6 a7 a8 a9 a10 a11 a12 a13 a14 := by
  subst hc
  unfold wX_solve_49
  rw [nI_clamp (show r < 2 ^ 31 by omega)]
  exact br_f (nI_ge hr (by omega)) ⟨pk_in r 14 (by omega), by decide, br_f h6 (nm_r (nI_1 r) H)⟩
theorem sr_49j {post : St1 → Prop} {J42} {x1 : Int32} {R r n : Nat} (hR : R ≤ 3) (hc : c = nI R) (hsk : sk = -1) (hr : r < R) (h6 : a6 r / 200 = x1)
    (H : ∀ P : St1 → Prop, (∀ {c1 ds1 sk1 ps1 na1 wc1 wa1 me1 so1 : Int32} {a11 a21 a31 a41 a51 : Nat → Int64} {a61 a71 a81 a91 a101 a111 a121 a131 a141 : Nat → Int32}, wX_solve_49 post J42 x1 n (nI (r + 1)) c1 ds1 sk1 ps1 na1 wc1 wa1 me1 so1 a11 a21 a31 a41 a51 a61 a71 a81 a91 a101 a111 a121 a131 a141 → P (c1, ds1, sk1, ps1, na1, wc1, wa1, me1, so1, a11, a21, a31, a41, a51, a61, a71, a81, a91, a101, a111, a121, a131, a141)) → wpX_join P (c, ds, sk, ps, na, wc, (-1), me, so, a1, a2, a3, a4, a5, a6, a7, a8, a9, a10, a11, a12, a13, a14) (nI r) (-1)) : wX_solve_49 post J42 x1 (n + 1) (nI r) c ds sk ps na wc wa me so a1 a2 a3 a4 a5 a6 a7 a8 a9 a10 a11 a12 a13 a14 := by
  subst hc hsk
  unfold wX_solve_49
  rw [nI_clamp (show r < 2 ^ 31 by omega)]
  refine br_f (nI_ge hr (by omega)) ⟨pk_in r 14 (by omega), by decide, br_t h6 (br_f (sr_nm1 (by omega)) (H _ ?_))⟩
  intros
  exact nm_r (nI_1 r) (by assumption)
theorem sr_49e {post : St1 → Prop} {J42} {x1 : Int32} {R n : Nat} (hR : R ≤ 3) (hc : c = nI R)
    (H : ∀ (r : Int32) (b2 b3 b4 : Nat → Int64), (∀ j, j < 8 → b3 j = a4 j &&& (a2 j ^^^ (-1))) → (∀ j, j < 8 → b2 j = a2 j ||| b3 j) → (∀ j, j < 8 → b4 j = 0) → (r = 0 ∧ (∀ j, j < 8 → b3 j = 0) ∨ r = 1 ∧ ∃ j, j < 8 ∧ ¬ b3 j = 0) → ∃ n, wX_solve_102 post J42 x1 n r 0 c ds sk ps na wc wa me so a1 b2 b3 b4 a5 a6 a7 a8 a9 a10 a11 a12 a13 a14) : wX_solve_49 post J42 x1 (n + 1) (nI R) c ds sk ps na wc wa me so a1 a2 a3 a4 a5 a6 a7 a8 a9 a10 a11 a12 a13 a14 := by
  subst hc
  unfold wX_solve_49
  exact br_t (nI_le (Nat.le_refl R) (by omega)) (sr_settle H)
/-- a layer without rules -/
theorem sr_idle {post : St1 → Prop} {J42} {l R : Nat} (tb : sr_tb R c a6 a7 a8 a9) (hl : l = 0 ∨ l = 3) (h4 : ∀ j, j < 8 → a4 j = 0)
    (H : ∀ (b2 b3 b4 : Nat → Int64), (∀ j, j < 8 → b2 j = a2 j) → (∀ j, j < 8 → b3 j = 0) → (∀ j, j < 8 → b4 j = 0) → J42 (nI (l + 1)) c ds sk ps na wc wa me so a1 b2 b3 b4 a5 a6 a7 a8 a9 a10 a11 a12 a13 a14) : ∃ n, wX_solve_49 post J42 (nI l) n 0 c ds sk ps na wc wa me so a1 a2 a3 a4 a5 a6 a7 a8 a9 a10 a11 a12 a13 a14 := by
  obtain ⟨hR, hc, t0, t1, t2⟩ := tb
  have e : ∀ n, wX_solve_49 post J42 (nI l) (n + 1) (nI R) c ds sk ps na wc wa me so a1 a2 a3 a4 a5 a6 a7 a8 a9 a10 a11 a12 a13 a14 := fun n => sr_49e hR hc (fun r b2 b3 b4 e3 e2 e4 er => by
    have z3 : ∀ j, j < 8 → b3 j = 0 := fun j hj => by rw [e3 j hj, h4 j hj, sr_z_and]
    have er' : r = 0 := by
      rcases er with ⟨e, _⟩ | ⟨_, j, hj, h⟩
      · exact e
      · exact absurd (z3 j hj) h
    exact ⟨1, pk_le 74 0 (fun z => absurd z (by omega)) (fun _ => br_t er' (nm_r (nI_1 l) (H b2 b3 b4 (fun j hj => by rw [e2 j hj, z3 j hj, sr_or_z]) z3 e4)))⟩)
  have s0 : 1 ≤ R → ¬ a6 0 / 200 = nI l := fun h => by rw [(t0 h).1]; rcases hl with hl | hl <;> subst hl <;> decide
  have s1 : 2 ≤ R → ¬ a6 1 / 200 = nI l := fun h => by rw [(t1 h).1]; rcases hl with hl | hl <;> subst hl <;> decide
  have s2 : 3 ≤ R → ¬ a6 2 / 200 = nI l := fun h => by rw [(t2 h).1]; rcases hl with hl | hl <;> subst hl <;> decide
  rcases (show R = 0 ∨ R = 1 ∨ R = 2 ∨ R = 3 by omega) with h | h | h | h
  · subst h
    exact ⟨1, e 0⟩
  · subst h
    exact ⟨2, sr_49s (r := 0) hR hc (by omega) (s0 (by omega)) (e 0)⟩
  · subst h
    exact ⟨3, sr_49s (r := 0) hR hc (by omega) (s0 (by omega)) (sr_49s (r := 1) hR hc (by omega) (s1 (by omega)) (e 0))⟩
  · subst h
    exact ⟨4, sr_49s (r := 0) hR hc (by omega) (s0 (by omega)) (sr_49s (r := 1) hR hc (by omega) (s1 (by omega)) (sr_49s (r := 2) hR hc (by omega) (s2 (by omega)) (e 0)))⟩
end
section
variable {c ds sk so : Int32} {a1 a5 : Nat → Int64} {a6 a7 a8 a9 a10 a11 : Nat → Int32}
/-- the rounds of layer 1 -/
theorem sr_102a {post : St1 → Prop} {J42} {R : Nat} {st gv br : Int64} (tb : sr_tb R c a6 a7 a8 a9) (hsk : sk = -1)
    (H : ∀ (ps na wc wa me : Int32) (a2 a3 a4 : Nat → Int64) (a12 a13 a14 : Nat → Int32), sr_L1 R st gv br a2 a3 a4 → J42 (nI 2) c ds sk ps na wc wa me so a1 a2 a3 a4 a5 a6 a7 a8 a9 a10 a11 a12 a13 a14) :
    ∀ (n k : Nat) (x2 ps na wc wa me : Int32) (a2 a3 a4 : Nat → Int64) (a12 a13 a14 : Nat → Int32), n + k = 40 → k ≤ 38 → sr_I1 R st gv br k x2 a2 a3 a4 → wX_solve_102 post J42 (nI 1) n x2 (nI k) c ds sk ps na wc wa me so a1 a2 a3 a4 a5 a6 a7 a8 a9 a10 a11 a12 a13 a14 := by
  intro n
  induction n with
  | zero => intro k _ _ _ _ _ _ _ _ _ _ _ _ h1 h2; omega
  | succ n ih =>
    intro k x2 ps na wc wa me a2 a3 a4 a12 a13 a14 hn hk h
    refine pk_le 74 k (fun z => absurd z (by omega)) (fun _ => br_c (fun z => ?_) (fun z => ?_))
    · subst z
      exact nm_r (nI_1 1) (H _ _ _ _ _ _ _ _ _ _ _ (sr_I1_x h))
    · have hk' : k + 1 ≤ 36 := by
        rcases h.2.2.2.2.2.2.2.2 with ⟨y, _⟩ | ⟨_, y⟩
        · exact absurd y z
        · have := sr_pc_le (a2 3) 36
          omega
      refine sr_jn1 tb hsk (h.2.2.2.2.1 0 (by omega) (by omega)) (fun p q w m b4 b12 b13 b14 k1 k2 k3 => sr_settle (fun r b2 b3 b4' e3 e2 e4 er => nm_r (nI_1 k) (ih _ _ _ _ _ _ _ _ _ _ _ _ _ (by omega) (by omega) ?_)))
      exact sr_I1_n h z k1 k2 k3 e3 e2 e4 er
end
section
variable {c ds sk ps na wc wa me so : Int32} {a1 a2 a3 a4 a5 : Nat → Int64} {a6 a7 a8 a9 a10 a11 a12 a13 a14 : Nat → Int32}
/-- layer 1 -/
theorem sr_lay1 {post : St1 → Prop} {J42} {R : Nat} {st gv br : Int64} (tb : sr_tb R c a6 a7 a8 a9) (hsk : sk = -1) (hst : sr_S st) (hgv : sr_S gv) (h0 : a2 0 = st) (h1 : a2 1 = br) (h5 : a2 5 = 0) (h3 : a2 3 = gv) (h4 : ∀ j, j < 8 → a4 j = 0)
    (H : ∀ (ps na wc wa me : Int32) (a2 a3 a4 : Nat → Int64) (a12 a13 a14 : Nat → Int32), sr_L1 R st gv br a2 a3 a4 → J42 (nI 2) c ds sk ps na wc wa me so a1 a2 a3 a4 a5 a6 a7 a8 a9 a10 a11 a12 a13 a14) : ∃ n, wX_solve_49 post J42 (nI 1) n 0 c ds sk ps na wc wa me so a1 a2 a3 a4 a5 a6 a7 a8 a9 a10 a11 a12 a13 a14 := by
  have tb' := tb
  obtain ⟨hR, hc, t0, t1, t2⟩ := tb
  have e : ∀ n (p q w v m : Int32) (b4 : Nat → Int64) (b12 b13 b14 : Nat → Int32), (∀ j, j < 8 → j ≠ 3 → b4 j = 0) → sr_S (b4 3) → (∀ i, i < 36 → (sr_b (b4 3) i = true ↔ (1 ≤ R ∧ sr_b st i = true ∨ 2 ≤ R ∧ sr_o gv st i))) → wX_solve_49 post J42 (nI 1) (n + 1) (nI R) c ds sk p q w v m so a1 a2 a3 b4 a5 a6 a7 a8 a9 a10 a11 b12 b13 b14 :=
    fun n p q w v m b4 b12 b13 b14 k1 k2 k3 => sr_49e hR hc (fun r b2 b3 b4' e3 e2 e4 er => ⟨40, sr_102a tb' hsk H 40 0 _ _ _ _ _ _ _ _ _ _ _ _ (by omega) (by omega) (sr_I1_0 hst hgv h0 h1 h5 h3 k1 k2 k3 e3 e2 e4 er)⟩)
  have z4 : a4 3 = 0 := h4 3 (by omega)
  have j0 : 1 ≤ R → ∀ n, (∀ (p q w v m : Int32) (b4 : Nat → Int64) (b12 b13 b14 : Nat → Int32), (∀ j, j < 8 → j ≠ 3 → b4 j = 0) → sr_S (b4 3) → (∀ i, i < 36 → (sr_b (b4 3) i = true ↔ sr_b st i = true)) → wX_solve_49 post J42 (nI 1) n (nI 1) c ds sk p q w v m so a1 a2 a3 b4 a5 a6 a7 a8 a9 a10 a11 b12 b13 b14) → wX_solve_49 post J42 (nI 1) (n + 1) (nI 0) c ds sk ps na wc wa me so a1 a2 a3 a4 a5 a6 a7 a8 a9 a10 a11 a12 a13 a14 := by
    intro h n K
    obtain ⟨e6, e7, e8, e9⟩ := t0 h
    refine sr_49j (r := 0) hR hc hsk (by omega) (by rw [e6]; rfl) (fun P hP => sr_join0 e6 e7 e8 e9 (fun p w m b4 b12 b13 b14 _ k1 k2 => hP (K _ _ _ _ _ _ _ _ _ (fun j hj hn => (k1 j hn).trans (h4 j hj)) (fun i hi => ?_) (fun i hi => ?_))))
    · rw [k2 i, z4, sr_0, decide_eq_false (by omega)]
      rfl
    · rw [k2 i, z4, sr_0, decide_eq_true hi, h0]
      simp
  have j1 : 2 ≤ R → ∀ n (p q w v m : Int32) (b4 : Nat → Int64) (b12 b13 b14 : Nat → Int32), (∀ j, j < 8 → j ≠ 3 → b4 j = 0) → sr_S (b4 3) → (∀ i, i < 36 → (sr_b (b4 3) i = true ↔ sr_b st i = true)) →
      (∀ (p q w v m : Int32) (b4 : Nat → Int64) (b12 b13 b14 : Nat → Int32), (∀ j, j < 8 → j ≠ 3 → b4 j = 0) → sr_S (b4 3) → (∀ i, i < 36 → (sr_b (b4 3) i = true ↔ (1 ≤ R ∧ sr_b st i = true ∨ 2 ≤ R ∧ sr_o gv st i))) → wX_solve_49 post J42 (nI 1) n (nI 2) c ds sk p q w v m so a1 a2 a3 b4 a5 a6 a7 a8 a9 a10 a11 b12 b13 b14) →
      wX_solve_49 post J42 (nI 1) (n + 1) (nI 1) c ds sk p q w v m so a1 a2 a3 b4 a5 a6 a7 a8 a9 a10 a11 b12 b13 b14 := by
    intro h n p q w v m b4 b12 b13 b14 k1 k2 k3 K
    obtain ⟨e6, e7, e83, e93, e84, e94⟩ := t1 h
    refine sr_49j (r := 1) hR hc hsk (by omega) (by rw [e6]; rfl) (fun P hP => sr_join1 (S0 := a2 3) (by decide) (if_neg (by decide)).symm e6 e7 e83 e93 e84 e94 (fun p w m b4 b12 b13 b14 k1' k2' k3' => hP (K _ _ _ _ _ _ _ _ _ (fun j hj hn => (k1' j hn).trans (k1 j hj hn)) (k2' k2) (fun i hi => ?_))))
    rw [k3' i hi, k3 i hi, h0, h3, and_iff_right h, and_iff_right (show 1 ≤ R by omega)]
  rcases (show R = 0 ∨ R = 1 ∨ R = 2 ∨ R = 3 by omega) with h | h | h | h
  · subst h
    refine ⟨1, e 0 _ _ _ _ _ _ _ _ _ (fun j hj _ => h4 j hj) (by rw [z4]; exact sr_S0) (fun i hi => ?_)⟩
    rw [z4, sr_0]
    exact ⟨fun z => absurd z (by decide), fun z => by omega⟩
  · subst h
    refine ⟨2, j0 (by omega) 1 (fun p q w v m b4 b12 b13 b14 k1 k2 k3 => e 0 p q w v m b4 b12 b13 b14 k1 k2 (fun i hi => ?_))⟩
    rw [k3 i hi]
    exact ⟨fun z => Or.inl ⟨by omega, z⟩, fun z => z.elim (fun z => z.2) (fun z => absurd z.1 (by omega))⟩
  · subst h
    exact ⟨3, j0 (by omega) 2 (fun p q w v m b4 b12 b13 b14 k1 k2 k3 => j1 (by omega) 1 p q w v m b4 b12 b13 b14 k1 k2 k3 (fun p q w v m b4 b12 b13 b14 k1 k2 k3 => e 0 p q w v m b4 b12 b13 b14 k1 k2 k3))⟩
  · subst h
    exact ⟨4, j0 (by omega) 3 (fun p q w v m b4 b12 b13 b14 k1 k2 k3 => j1 (by omega) 2 p q w v m b4 b12 b13 b14 k1 k2 k3 (fun p q w v m b4 b12 b13 b14 k1 k2 k3 => sr_49s (r := 2) hR hc (by omega) (by rw [(t2 (by omega)).1]; decide) (e 0 p q w v m b4 b12 b13 b14 k1 k2 k3)))⟩
/-- the rounds of layer 2 -/
theorem sr_102b {post : St1 → Prop} {J42} {R : Nat} {x2 : Int32} (tb : sr_tb R c a6 a7 a8 a9) (hsk : sk = -1) (h33 : a3 3 = 0) (h4 : ∀ j, j < 8 → a4 j = 0)
    (H : ∀ (b2 b3 b4 : Nat → Int64), (∀ j, j < 8 → b2 j = a2 j) → (∀ j, j < 8 → b4 j = 0) → J42 (nI 3) c ds sk ps na wc wa me so a1 b2 b3 b4 a5 a6 a7 a8 a9 a10 a11 a12 a13 a14) : ∃ n, wX_solve_102 post J42 (nI 2) n x2 0 c ds sk ps na wc wa me so a1 a2 a3 a4 a5 a6 a7 a8 a9 a10 a11 a12 a13 a14 := by
  refine ⟨2, pk_le 74 0 (fun z => absurd z (by omega)) (fun _ => br_c (fun _ => nm_r (nI_1 2) (H a2 a3 a4 (fun _ _ => rfl) h4)) (fun _ => sr_jn2 tb hsk h33 (sr_settle (fun r b2 b3 b4 e3 e2 e4 er => nm_r (nI_1 0) ?_))))⟩
  have z3 : ∀ j, j < 8 → b3 j = 0 := fun j hj => by rw [e3 j hj, h4 j hj, sr_z_and]
  have er' : r = 0 := by
    rcases er with ⟨e, _⟩ | ⟨_, j, hj, h⟩
    · exact e
    · exact absurd (z3 j hj) h
  exact pk_le 74 1 (fun z => absurd z (by omega)) (fun _ => br_t er' (nm_r (nI_1 2) (H b2 b3 b4 (fun j hj => by rw [e2 j hj, z3 j hj, sr_or_z]) e4)))
/-- layer 2 -/
theorem sr_lay2 {post : St1 → Prop} {J42} {R : Nat} {st gv br : Int64} (tb : sr_tb R c a6 a7 a8 a9) (hsk : sk = -1) (h : sr_L1 R st gv br a2 a3 a4)
    (H : ∀ (ps na wc wa me : Int32) (a2 a3 a4 : Nat → Int64) (a12 a13 a14 : Nat → Int32), sr_sol R st gv br (a2 0) (a2 1) (a2 3) (a2 5) → (∀ j, j < 8 → a4 j = 0) → J42 (nI 3) c ds sk ps na wc wa me so a1 a2 a3 a4 a5 a6 a7 a8 a9 a10 a11 a12 a13 a14) : ∃ n, wX_solve_49 post J42 (nI 2) n 0 c ds sk ps na wc wa me so a1 a2 a3 a4 a5 a6 a7 a8 a9 a10 a11 a12 a13 a14 := by
  have tb' := tb
  obtain ⟨hR, hc, t0, t1, t2⟩ := tb
  obtain ⟨h0, h1, h5, h4, h3, hcl⟩ := h
  have e : ∀ n (p q w v m : Int32) (b4 : Nat → Int64) (b12 b13 b14 : Nat → Int32), (∀ j, j < 8 → j ≠ 5 → b4 j = 0) → (∀ i, sr_b (b4 5) i = (decide (3 ≤ R) && (decide (i < 36) && (sr_b (a2 3) i && !sr_b br (6 * (i % 6) + i / 6))))) → wX_solve_49 post J42 (nI 2) (n + 1) (nI R) c ds sk p q w v m so a1 a2 a3 b4 a5 a6 a7 a8 a9 a10 a11 b12 b13 b14 := by
    intro n p q w v m b4 b12 b13 b14 k1 k2
    refine sr_49e hR hc (fun r b2 b3 b4' e3 e2 e4 er => ?_)
    have z3 : ∀ j, j < 8 → j ≠ 5 → b3 j = 0 := fun j hj hn => by rw [e3 j hj, k1 j hj hn, sr_z_and]
    have g2 : ∀ j, j < 8 → j ≠ 5 → b2 j = a2 j := fun j hj hn => by rw [e2 j hj, z3 j hj hn, sr_or_z]
    have g5 : ∀ i, sr_b (b2 5) i = sr_b (b4 5) i := fun i => by
      rcases Nat.lt_or_ge i 64 with y | y
      · rw [e2 5 (by omega), e3 5 (by omega), h5, sr_or, sr_and, sr_not _ y, sr_0]
        simp
      · rw [sr_ge y, sr_ge y]
    refine sr_102b tb' hsk (z3 3 (by omega) (by omega)) e4 (fun d2 d3 d4 y2 y4 => H _ _ _ _ _ _ _ _ _ _ _ ?_ y4)
    rw [y2 0 (by omega), y2 1 (by omega), y2 3 (by omega), y2 5 (by omega), g2 0 (by omega) (by omega), g2 1 (by omega) (by omega), g2 3 (by omega) (by omega)]
    refine ⟨h0, h1, hcl, fun i hi => ?_, fun i hi => ?_⟩
    · rw [g5 i, k2 i, decide_eq_false (show ¬ i < 36 by omega)]
      simp
    · rw [g5 i, k2 i, decide_eq_true hi, Bool.true_and]
  have e' : R < 3 → ∀ n, wX_solve_49 post J42 (nI 2) (n + 1) (nI R) c ds sk ps na wc wa me so a1 a2 a3 a4 a5 a6 a7 a8 a9 a10 a11 a12 a13 a14 := fun hr n => e n _ _ _ _ _ _ _ _ _ (fun j hj _ => h4 j hj) (fun i => by rw [h4 5 (by omega), sr_0, decide_eq_false (show ¬ 3 ≤ R by omega), Bool.false_and])
  have s0 : 1 ≤ R → ¬ a6 0 / 200 = nI 2 := fun h => by rw [(t0 h).1]; decide
  have s1 : 2 ≤ R → ¬ a6 1 / 200 = nI 2 := fun h => by rw [(t1 h).1]; decide
  rcases (show R = 0 ∨ R = 1 ∨ R = 2 ∨ R = 3 by omega) with h | h | h | h
  · subst h
    exact ⟨1, e' (by omega) 0⟩
  · subst h
    exact ⟨2, sr_49s (r := 0) hR hc (by omega) (s0 (by omega)) (e' (by omega) 0)⟩
  · subst h
    exact ⟨3, sr_49s (r := 0) hR hc (by omega) (s0 (by omega)) (sr_49s (r := 1) hR hc (by omega) (s1 (by omega)) (e' (by omega) 0))⟩
  · subst h
    obtain ⟨e6, e7, e86, e96, e87, e97⟩ := t2 (by omega)
    refine ⟨4, sr_49s (r := 0) hR hc (by omega) (s0 (by omega)) (sr_49s (r := 1) hR hc (by omega) (s1 (by omega)) (sr_49j (r := 2) hR hc hsk (by omega) (by rw [e6]; rfl) (fun P hP => sr_join2 e6 e7 e86 e96 e87 e97 (fun p w m b4 b12 b13 b14 k1 k2 => hP (e 0 _ _ _ _ _ _ _ _ _ (fun j hj hn => (k1 j hn).trans (h4 j hj)) (fun i => ?_))))))⟩
    rw [k2 i, h4 5 (by omega), sr_0, h1]
    rfl
theorem sr_solve {post : St1 → Prop} {R : Nat} {st gv br : Int64} (tb : sr_tb R c a6 a7 a8 a9) (hsk : sk = -1) (hst : sr_S st) (hgv : sr_S gv) (h0 : a1 0 = st) (h1 : a1 1 = br) (h3 : a1 3 = gv) (h5 : a1 5 = 0)
    (H : ∀ (ps na wc wa me : Int32) (a2 a3 a4 : Nat → Int64) (a12 a13 a14 : Nat → Int32), sr_sol R st gv br (a2 0) (a2 1) (a2 3) (a2 5) → post (c, ds, sk, ps, na, wc, wa, me, so, a1, a2, a3, a4, a5, a6, a7, a8, a9, a10, a11, a12, a13, a14)) : wpX_solve post (c, ds, sk, ps, na, wc, wa, me, so, a1, a2, a3, a4, a5, a6, a7, a8, a9, a10, a11, a12, a13, a14) := by
  refine sr_solve2 (fun b2 b3 b4 e2 e3 e4 => ⟨5, ?_⟩)
  refine pk_le 4 0 (fun z => absurd z (by omega)) (fun _ => sr_idle (l := 0) tb (Or.inl rfl) e4 (fun b2' b3' b4' e2' e3' e4' => ?_))
  refine pk_le 4 1 (fun z => absurd z (by omega)) (fun _ => sr_lay1 (br := br) tb hsk hst hgv ?_ ?_ ?_ ?_ e4' (fun ps na wc wa me a2 a3 a4 a12 a13 a14 hL => ?_))
  · rw [e2' 0 (by omega), e2 0 (by omega), h0]
  · rw [e2' 1 (by omega), e2 1 (by omega), h1]
  · rw [e2' 5 (by omega), e2 5 (by omega), h5]
  · rw [e2' 3 (by omega), e2 3 (by omega), h3]
  refine pk_le 4 2 (fun z => absurd z (by omega)) (fun _ => sr_lay2 tb hsk hL (fun ps na wc wa me a2 a3 a4 a12 a13 a14 hs h4 => ?_))
  refine pk_le 4 3 (fun z => absurd z (by omega)) (fun _ => sr_idle (l := 3) tb (Or.inr rfl) h4 (fun b2' b3' b4' e2' e3' e4' => ?_))
  refine pk_le 4 4 (fun _ => H _ _ _ _ _ _ _ _ _ _ _ ?_) (fun z => absurd z (by omega))
  rw [e2' 0 (by omega), e2' 1 (by omega), e2' 3 (by omega), e2' 5 (by omega)]
  exact hs
end
end
section
/-- what holds between calls, but for the solution -/
def sr_fx (R : Nat) (st gv br : Int64) (c ds sk : Int32) (a1 : Nat → Int64) (a6 a7 a8 a9 : Nat → Int32) : Prop := sr_tb R c a6 a7 a8 a9 ∧ ds = 0 ∧ sk = -1 ∧ a1 0 = st ∧ a1 1 = br ∧ a1 3 = gv ∧ a1 5 = 0 ∧ sr_S st ∧ sr_S gv ∧ sr_S br
/-- solved, or to be solved -/
def sr_ok (R : Nat) (st gv br : Int64) (so : Int32) (a2 : Nat → Int64) : Prop := so = 0 ∨ sr_sol R st gv br (a2 0) (a2 1) (a2 3) (a2 5)
section
variable {c ds sk ps na wc wa me so : Int32} {a1 a2 a3 a4 a5 : Nat → Int64} {a6 a7 a8 a9 a10 a11 a12 a13 a14 : Nat → Int32} {R : Nat} {st gv br : Int64}
theorem sr_refresh {post : St1 → Prop} (fx : sr_fx R st gv br c ds sk a1 a6 a7 a8 a9) (ok : sr_ok R st gv br so a2)
    (H : ∀ (ps na wc wa me so : Int32) (a2 a3 a4 : Nat → Int64) (a12 a13 a14 : Nat → Int32), sr_sol R st gv br (a2 0) (a2 1) (a2 3) (a2 5) → post (c, ds, sk, ps, na, wc, wa, me, so, a1, a2, a3, a4, a5, a6, a7, a8, a9, a10, a11, a12, a13, a14)) : wpX_refresh post (c, ds, sk, ps, na, wc, wa, me, so, a1, a2, a3, a4, a5, a6, a7, a8, a9, a10, a11, a12, a13, a14) := by
  obtain ⟨tb, _, hsk, h0, h1, h3, h5, s0, s3, s1⟩ := fx
  unfold wpX_refresh
  refine br_c (fun _ => sr_solve tb hsk s0 s3 h0 h1 h3 h5 (fun ps na wc wa me a2 a3 a4 a12 a13 a14 hs => H _ _ _ _ _ _ _ _ _ _ _ _ hs)) (fun z => H _ _ _ _ _ _ _ _ _ _ _ _ ?_)
  rcases ok with h | h
  · exact absurd h z
  · exact h
theorem sr_size {post : Int32 → St1 → Prop} {r : Nat} (hr : r < 8) (fx : sr_fx R st gv br c ds sk a1 a6 a7 a8 a9) (ok : sr_ok R st gv br so a2)
    (H : ∀ (ps na wc wa me so : Int32) (a2 a3 a4 : Nat → Int64) (a12 a13 a14 : Nat → Int32), sr_sol R st gv br (a2 0) (a2 1) (a2 3) (a2 5) → post (nI (sr_pc (a2 r) 36)) (c, ds, sk, ps, na, wc, wa, me, so, a1, a2, a3, a4, a5, a6, a7, a8, a9, a10, a11, a12, a13, a14)) : wpX_size post (c, ds, sk, ps, na, wc, wa, me, so, a1, a2, a3, a4, a5, a6, a7, a8, a9, a10, a11, a12, a13, a14) (nI r) := by
  unfold wpX_size
  refine sr_isRel hr (br_f (by decide) (sr_refresh fx ok (fun ps na wc wa me so a2 a3 a4 a12 a13 a14 hs => ⟨pk_in r 8 hr, ?_⟩)))
  rw [nI_clamp (show r < 2 ^ 31 by omega)]
  exact sr_xones (H _ _ _ _ _ _ _ _ _ _ _ _ hs)
theorem sr_holds {post : Int32 → St1 → Prop} {x y : Nat} (hx : x < 6) (hy : y < 6) (fx : sr_fx R st gv br c ds sk a1 a6 a7 a8 a9) (ok : sr_ok R st gv br so a2)
    (H : ∀ (ps na wc wa me so : Int32) (a2 a3 a4 : Nat → Int64) (a12 a13 a14 : Nat → Int32), sr_sol R st gv br (a2 0) (a2 1) (a2 3) (a2 5) → post (if sr_b (a2 3) (6 * x + y) then 1 else 0) (c, ds, sk, ps, na, wc, wa, me, so, a1, a2, a3, a4, a5, a6, a7, a8, a9, a10, a11, a12, a13, a14)) : wpX_holds post (c, ds, sk, ps, na, wc, wa, me, so, a1, a2, a3, a4, a5, a6, a7, a8, a9, a10, a11, a12, a13, a14) 3 (nI x) (nI y) := by
  unfold wpX_holds
  refine sr_isRel (r := 3) (by omega) (br_f (by decide) (sr_isTh hx (br_f (by decide) (sr_isTh hy (br_f (by decide) (sr_refresh fx ok (fun ps na wc wa me so a2 a3 a4 a12 a13 a14 hs => ⟨pk_in 3 8 (by omega), ?_⟩)))))))
  rw [sr_6, pk_cl (x := 3) 3 rfl]
  exact sr_bitAt (by omega) (H _ _ _ _ _ _ _ _ _ _ _ _ hs)
theorem sr_ways {post : Int32 → St1 → Prop} (hR : 1 ≤ R) (fx : sr_fx R st gv br c ds sk a1 a6 a7 a8 a9) (ok : sr_ok R st gv br so a2)
    (H : ∀ (ps na wc wa me so : Int32) (a2 a3 a4 : Nat → Int64) (a12 a13 a14 : Nat → Int32), sr_sol R st gv br (a2 0) (a2 1) (a2 3) (a2 5) → post (nI (sr_pc (a2 0) 36)) (c, ds, sk, ps, na, wc, wa, me, so, a1, a2, a3, a4, a5, a6, a7, a8, a9, a10, a11, a12, a13, a14)) : wpX_ways post (c, ds, sk, ps, na, wc, wa, me, so, a1, a2, a3, a4, a5, a6, a7, a8, a9, a10, a11, a12, a13, a14) (nI 0) := by
  have hc : c = nI R := fx.1.2.1
  obtain ⟨e6, e7, e8, e9⟩ := fx.1.2.2.1 hR
  have hR3 := fx.1.1
  unfold wpX_ways
  unfold wpX_isRule
  refine br_f (nI_pos (by omega)) (br_f (by rw [hc]; exact nI_ge (by omega) (by omega)) (br_f (by decide) (sr_refresh fx ok (fun ps na wc wa me so a2 a3 a4 a12 a13 a14 hs => sr_join0 e6 e7 e8 e9 (fun p w m b4 b12 b13 b14 k1 k2 k3 => ?_)))))
  subst k1
  exact H _ _ _ _ _ _ _ _ _ _ _ _ hs
theorem sr_next {post : Int32 → St1 → Prop} (fx : sr_fx R st gv br c ds sk a1 a6 a7 a8 a9) (ok : sr_ok R st gv br so a2)
    (H : ∀ (ps na wc wa me so : Int32) (a2 a3 a4 : Nat → Int64) (a12 a13 a14 : Nat → Int32), sr_sol R st gv br (a2 0) (a2 1) (a2 3) (a2 5) → ∀ r, (r = -2 ∧ (∀ i, i < 36 → sr_b (a2 5) i = false) ∨ ∃ j, j < 36 ∧ r = nI j ∧ sr_b (a2 5) j = true ∧ ∀ i, i < j → sr_b (a2 5) i = false) → post r (c, ds, sk, ps, na, wc, wa, me, so, a1, a2, a3, a4, a5, a6, a7, a8, a9, a10, a11, a12, a13, a14)) : wpX_next post (c, ds, sk, ps, na, wc, wa, me, so, a1, a2, a3, a4, a5, a6, a7, a8, a9, a10, a11, a12, a13, a14) 5 (-1) := by
  unfold wpX_next
  refine sr_isRel (r := 5) (by omega) (br_f (by decide) (sr_refresh fx ok (fun ps na wc wa me so a2 a3 a4 a12 a13 a14 hs => br_t (by decide) ?_)))
  have H' := H ps na wc wa me so a2 a3 a4 a12 a13 a14 hs
  refine pk_loop (σ := Unit) (fun n i _ => wX_next_27 post 5 (-1) c ds sk ps na wc wa me so a1 a2 a3 a4 a5 a6 a7 a8 a9 a10 a11 a12 a13 a14 n (nI i)) (fun i _ => ∀ j, j < i → sr_b (a2 5) j = false) 36 0 () (by omega) (fun j hj => absurd hj (by omega))
    (fun n _ h => pk_le 36 36 (fun _ => H' _ (Or.inl ⟨rfl, h⟩)) (fun z => absurd z (by omega)))
    (fun n i _ hi h hw => pk_le 36 i (fun z => absurd z (by omega)) (fun _ => br_f ?_ ⟨pk_in 5 8 (by omega), ?_⟩))
  · intro z
    rw [Int32.le_iff_toInt_le, nI_toInt (by omega)] at z
    have m : (-1 : Int32).toInt = -1 := by decide
    omega
  · rw [pk_cl (x := 5) 5 rfl]
    refine sr_bitAt (by omega) ?_
    cases e : sr_b (a2 5) i
    · refine br_f (by decide) (nm_r (nI_1 i) (hw () (fun j hj => ?_)))
      by_cases ej : j = i
      · rw [ej, e]
      · exact h j (by omega)
    · exact br_t rfl (H' _ (Or.inr ⟨i, hi, rfl, e, h⟩))
theorem sr_within {post : Int32 → St1 → Prop} (fx : sr_fx R st gv br c ds sk a1 a6 a7 a8 a9) (ok : sr_ok R st gv br so a2)
    (H : ∀ (ps na wc wa me so : Int32) (a2 a3 a4 : Nat → Int64) (a12 a13 a14 : Nat → Int32), sr_sol R st gv br (a2 0) (a2 1) (a2 3) (a2 5) → post 1 (c, ds, sk, ps, na, wc, wa, me, so, a1, a2, a3, a4, a5, a6, a7, a8, a9, a10, a11, a12, a13, a14)) : wpX_within post (c, ds, sk, ps, na, wc, wa, me, so, a1, a2, a3, a4, a5, a6, a7, a8, a9, a10, a11, a12, a13, a14) 5 3 := by
  unfold wpX_within
  refine sr_isRel (r := 5) (by omega) (br_f (by decide) (sr_isRel (r := 3) (by omega) (br_f (by decide) (sr_refresh fx ok (fun ps na wc wa me so a2 a3 a4 a12 a13 a14 hs => ⟨pk_in 5 8 (by omega), pk_in 3 8 (by omega), br_t ?_ (H _ _ _ _ _ _ _ _ _ _ _ _ hs)⟩)))))
  rw [pk_cl (x := 5) 5 rfl, pk_cl (x := 3) 3 rfl]
  refine sr_Sext (sr_Sand hs.2.2.2.1) sr_S0 (fun i hi => ?_)
  rw [sr_and, sr_not _ (by omega), sr_0, hs.2.2.2.2 i hi]
  cases sr_b (a2 3) i <;> simp
end
end
section
/-- the pairs that rule 2 gives -/
def sr_q (R : Nat) (br all : Int64) (i : Nat) : Bool := decide (3 ≤ R) && (sr_b all i && !sr_b br (6 * (i % 6) + i / 6))
section
variable {c ds sk ps na wc wa me so : Int32} {a1 a2 a3 a4 a5 : Nat → Int64} {a6 a7 a8 a9 a10 a11 a12 a13 a14 : Nat → Int32} {R : Nat} {st gv br all : Int64}
theorem sr_g104 {post : Int32 → St1 → Prop} {J34} {x7 : Int32} {x10 : Int64} {f : Nat} (hf : f < 36) (ha : sr_cl (sr_E R st) (sr_G R st gv) all) (fx : sr_fx R st gv br c ds sk a1 a6 a7 a8 a9) (ok : sr_ok R st gv br so a2)
    (H : ∀ (ps na wc wa me so : Int32) (a2 a3 a4 : Nat → Int64) (a12 a13 a14 : Nat → Int32), sr_ok R st gv br so a2 → J34 x10 (nI (f + 1)) c ds sk ps na wc wa me so a1 a2 a3 a4 a5 a6 a7 a8 a9 a10 a11 a12 a13 a14) : wL_agrees_104 post J34 st br x7 all x10 (nI f) c ds sk ps na wc wa me so a1 a2 a3 a4 a5 a6 a7 a8 a9 a10 a11 a12 a13 a14 := by
  unfold wL_agrees_104
  rw [sr_m6 hf, sr_d6 hf]
  refine ⟨by decide, by decide, sr_holds (by omega) (by omega) fx ok (fun ps na wc wa me so a2 a3 a4 a12 a13 a14 hs => ⟨by decide, by decide, sr_lin (by omega) (by omega) ?_⟩)⟩
  have e : a2 3 = all := sr_cl_u hs.2.2.1 ha
  rw [e]
  cases sr_b all (6 * (f / 6) + f % 6)
  · exact br_t rfl (br_t rfl (nm_r (nI_1 f) (H _ _ _ _ _ _ _ _ _ _ _ _ (Or.inr hs))))
  · exact br_f (by decide) (br_t rfl (nm_r (nI_1 f) (H _ _ _ _ _ _ _ _ _ _ _ _ (Or.inr hs))))
theorem sr_g82 {post : Int32 → St1 → Prop} {J34} {x10 : Int64} {z0 : Int32} {f : Nat} (hf : f < 36) (ha : sr_cl (sr_E R st) (sr_G R st gv) all) (fx : sr_fx R st gv br c ds sk a1 a6 a7 a8 a9) (ok : sr_ok R st gv br so a2)
    (hz : z0 = if sr_b all f && !sr_b br (6 * (f % 6) + f / 6) then 1 else 0) (hx : ∀ i, sr_b x10 i = (decide (i < f) && sr_q R br all i))
    (H : ∀ (x10 : Int64) (ps na wc wa me so : Int32) (a2 a3 a4 : Nat → Int64) (a12 a13 a14 : Nat → Int32), sr_ok R st gv br so a2 → (∀ i, sr_b x10 i = (decide (i < f + 1) && sr_q R br all i)) → J34 x10 (nI (f + 1)) c ds sk ps na wc wa me so a1 a2 a3 a4 a5 a6 a7 a8 a9 a10 a11 a12 a13 a14) : wL_agrees_82 post J34 st br (nI R) all x10 (nI f) z0 c ds sk ps na wc wa me so a1 a2 a3 a4 a5 a6 a7 a8 a9 a10 a11 a12 a13 a14 := by
  have hR3 := fx.1.1
  have n0 : sr_q R br all f = false → ∀ i, sr_b x10 i = (decide (i < f + 1) && sr_q R br all i) := by
    intro hq i
    rw [hx i]
    by_cases e : i = f
    · subst e
      rw [hq]
      simp
    · rw [show decide (i < f + 1) = decide (i < f) from decide_eq_decide.mpr (by omega)]
  refine pk_le R 2 (fun z => ?_) (fun z => br_c (fun y => ?_) (fun y => nm_e ?_))
  · refine sr_g104 hf ha fx ok (fun ps na wc wa me so a2 a3 a4 a12 a13 a14 h => H _ _ _ _ _ _ _ _ _ _ _ _ _ h (n0 ?_))
    unfold sr_q
    rw [decide_eq_false (show ¬ 3 ≤ R by omega), Bool.false_and]
  · refine sr_g104 hf ha fx ok (fun ps na wc wa me so a2 a3 a4 a12 a13 a14 h => H _ _ _ _ _ _ _ _ _ _ _ _ _ h (n0 ?_))
    unfold sr_q
    rw [y] at hz
    cases e : (sr_b all f && !sr_b br (6 * (f % 6) + f / 6))
    · rw [Bool.and_false]
    · rw [e] at hz
      exact absurd hz (by decide)
  · refine sr_g104 hf ha fx ok (fun ps na wc wa me so a2 a3 a4 a12 a13 a14 h => H _ _ _ _ _ _ _ _ _ _ _ _ _ h (fun i => ?_))
    rw [sr_or, sr_bit (by omega), hx i]
    by_cases e : i = f
    · subst e
      have e2 : (sr_b all i && !sr_b br (6 * (i % 6) + i / 6)) = true := by
        cases e : (sr_b all i && !sr_b br (6 * (i % 6) + i / 6))
        · rw [e] at hz
          exact absurd hz y
        · rfl
      unfold sr_q
      rw [e2, decide_eq_true (show 3 ≤ R by omega)]
      simp
    · rw [show decide (i < f + 1) = decide (i < f) from decide_eq_decide.mpr (by omega), decide_eq_false e, Bool.or_false]
theorem sr_g248 {post : Int32 → St1 → Prop} {z0 : Int32} {rest : Int64} (ha : sr_cl (sr_E R st) (sr_G R st gv) all) (fx : sr_fx R st gv br c ds sk a1 a6 a7 a8 a9) (ok : sr_ok R st gv br so a2)
    (hr : ∀ i, sr_b rest i = (decide (i < 36) && sr_q R br all i)) (hz : rest = 0 ∧ z0 = -2 ∨ ¬ rest = 0 ∧ z0 = nI (sr_pc ((rest &&& (-rest)) - 1) 36))
    (H : ∀ (ps na wc wa me so : Int32) (a2 a3 a4 : Nat → Int64) (a12 a13 a14 : Nat → Int32), sr_ok R st gv br so a2 → post 1 (c, ds, sk, ps, na, wc, wa, me, so, a1, a2, a3, a4, a5, a6, a7, a8, a9, a10, a11, a12, a13, a14)) : wL_agrees_248 post z0 c ds sk ps na wc wa me so a1 a2 a3 a4 a5 a6 a7 a8 a9 a10 a11 a12 a13 a14 := by
  unfold wL_agrees_248
  refine sr_next fx ok (fun ps na wc wa me so a2 a3 a4 a12 a13 a14 hs r hr' => br_t ?_ (sr_within fx (Or.inr hs) (fun ps na wc wa me so a2 a3 a4 a12 a13 a14 hs => br_t rfl (H _ _ _ _ _ _ _ _ _ _ _ _ (Or.inr hs)))))
  have e3 : a2 3 = all := sr_cl_u hs.2.2.1 ha
  have e5 : ∀ i, i < 36 → sr_b (a2 5) i = sr_b rest i := by
    intro i hi
    rw [hs.2.2.2.2 i hi, e3, hr i, decide_eq_true hi, Bool.true_and]
    rfl
  have hS : sr_S rest := fun i hi => by rw [hr i, decide_eq_false (show ¬ i < 36 by omega), Bool.false_and]
  rcases hr' with ⟨e, h⟩ | ⟨j, hj, e, h1, h2⟩
  · rcases hz with ⟨_, z⟩ | ⟨z, _⟩
    · rw [e, z]
    · obtain ⟨i, hi, hb⟩ := sr_Sne hS z
      rw [← e5 i hi, h i hi] at hb
      exact absurd hb (by decide)
  · rw [e5 j hj] at h1
    rcases hz with ⟨z, _⟩ | ⟨_, z⟩
    · rw [z, sr_0] at h1
      exact absurd h1 (by decide)
    · rw [e, z, sr_low hj h1 (fun i hi => by rw [← e5 i (by omega)]; exact h2 i hi)]
theorem sr_g210 {post : Int32 → St1 → Prop} {rest : Int64} (ha : sr_cl (sr_E R st) (sr_G R st gv) all) (fx : sr_fx R st gv br c ds sk a1 a6 a7 a8 a9) (ok : sr_ok R st gv br so a2)
    (hr : ∀ i, sr_b rest i = (decide (i < 36) && sr_q R br all i))
    (H : ∀ (ps na wc wa me so : Int32) (a2 a3 a4 : Nat → Int64) (a12 a13 a14 : Nat → Int32), sr_ok R st gv br so a2 → post 1 (c, ds, sk, ps, na, wc, wa, me, so, a1, a2, a3, a4, a5, a6, a7, a8, a9, a10, a11, a12, a13, a14)) : wL_agrees_210 post (nI R) rest c ds sk ps na wc wa me so a1 a2 a3 a4 a5 a6 a7 a8 a9 a10 a11 a12 a13 a14 := by
  unfold wL_agrees_210
  exact br_t fx.1.2.1 (nm_e (br_c (fun z => sr_g248 ha fx ok hr (Or.inl ⟨z, rfl⟩) H) (fun z => sr_lones (sr_g248 ha fx ok hr (Or.inr ⟨z, rfl⟩) H))))
/-- behind the loop -/
theorem sr_gx {post : Int32 → St1 → Prop} {rest : Int64} {n : Nat} (ha : sr_cl (sr_E R st) (sr_G R st gv) all) (fx : sr_fx R st gv br c ds sk a1 a6 a7 a8 a9) (ok : sr_ok R st gv br so a2)
    (hr : ∀ i, sr_b rest i = (decide (i < 36) && sr_q R br all i))
    (H : ∀ (ps na wc wa me so : Int32) (a2 a3 a4 : Nat → Int64) (a12 a13 a14 : Nat → Int32), sr_ok R st gv br so a2 → post 1 (c, ds, sk, ps, na, wc, wa, me, so, a1, a2, a3, a4, a5, a6, a7, a8, a9, a10, a11, a12, a13, a14)) : wL_agrees_34 post st br (nI R) all (n + 1) rest (nI 36) c ds sk ps na wc wa me so a1 a2 a3 a4 a5 a6 a7 a8 a9 a10 a11 a12 a13 a14 := by
  have hR3 := fx.1.1
  refine pk_le 36 36 (fun _ => ?_) (fun z => absurd z (by omega))
  refine sr_size (r := 3) (by omega) fx ok (fun ps na wc wa me so a2 a3 a4 a12 a13 a14 hs => sr_lones (br_t (by rw [sr_cl_u hs.2.2.1 ha]) ?_))
  refine sr_size (r := 5) (by omega) fx (Or.inr hs) (fun ps na wc wa me so a2 a3 a4 a12 a13 a14 hs => sr_lones (br_t ?_ ?_))
  · refine congrArg nI (sr_ct_cg 36 (fun i hi => ?_))
    rw [hs.2.2.2.2 i hi, sr_cl_u hs.2.2.1 ha, hr i, decide_eq_true hi, Bool.true_and]
    rfl
  refine sr_size (r := 0) (by omega) fx (Or.inr hs) (fun ps na wc wa me so a2 a3 a4 a12 a13 a14 hs => sr_lones (br_t (by rw [hs.1]) ?_))
  refine pk_le R 0 (fun _ => sr_g210 ha fx (Or.inr hs) hr H) (fun z => ?_)
  exact sr_ways z fx (Or.inr hs) (fun ps na wc wa me so a2 a3 a4 a12 a13 a14 hs => sr_lones (br_t (by rw [hs.1]) (sr_g210 ha fx (Or.inr hs) hr H)))
end
section
variable {c ds sk : Int32} {a1 a5 : Nat → Int64} {a6 a7 a8 a9 a10 a11 : Nat → Int32} {R : Nat} {st gv br all : Int64}
theorem sr_g34 {post : Int32 → St1 → Prop} (ha : sr_cl (sr_E R st) (sr_G R st gv) all) (fx : sr_fx R st gv br c ds sk a1 a6 a7 a8 a9)
    (H : ∀ (ps na wc wa me so : Int32) (a2 a3 a4 : Nat → Int64) (a12 a13 a14 : Nat → Int32), sr_ok R st gv br so a2 → post 1 (c, ds, sk, ps, na, wc, wa, me, so, a1, a2, a3, a4, a5, a6, a7, a8, a9, a10, a11, a12, a13, a14)) :
    ∀ (m f : Nat) (x10 : Int64) (ps na wc wa me so : Int32) (a2 a3 a4 : Nat → Int64) (a12 a13 a14 : Nat → Int32), f + m = 36 → sr_ok R st gv br so a2 → (∀ i, sr_b x10 i = (decide (i < f) && sr_q R br all i)) → wL_agrees_34 post st br (nI R) all (m + 1) x10 (nI f) c ds sk ps na wc wa me so a1 a2 a3 a4 a5 a6 a7 a8 a9 a10 a11 a12 a13 a14 := by
  intro m
  induction m with
  | zero =>
    intro f x10 ps na wc wa me so a2 a3 a4 a12 a13 a14 hf ok hx
    have e : f = 36 := by omega
    subst e
    exact sr_gx ha fx ok hx H
  | succ m ih =>
    intro f x10 ps na wc wa me so a2 a3 a4 a12 a13 a14 hf ok hx
    have hf' : f < 36 := by omega
    refine pk_le 36 f (fun z => absurd z (by omega)) (fun _ => ?_)
    rw [sr_m6 hf', sr_d6 hf']
    have e6 : 6 * (f / 6) + f % 6 = f := by omega
    have K : ∀ z0, z0 = (if sr_b all f && !sr_b br (6 * (f % 6) + f / 6) then 1 else 0) → wL_agrees_82 post (wL_agrees_34 post st br (nI R) all (m + 1)) st br (nI R) all x10 (nI f) z0 c ds sk ps na wc wa me so a1 a2 a3 a4 a5 a6 a7 a8 a9 a10 a11 a12 a13 a14 := fun z0 hz => sr_g82 hf' ha fx ok hz hx (fun x10 ps na wc wa me so a2 a3 a4 a12 a13 a14 ok' hx' => ih (f + 1) _ _ _ _ _ _ _ _ _ _ _ _ _ (by omega) ok' hx')
    refine ⟨by decide, by decide, sr_lin (by omega) (by omega) ?_⟩
    rw [e6]
    cases e : sr_b all f
    · refine br_t rfl (K 0 ?_)
      rw [e]
      rfl
    · refine br_f (by decide) ⟨by decide, by decide, sr_lin (by omega) (by omega) ?_⟩
      cases e2 : sr_b br (6 * (f % 6) + f / 6)
      · refine br_t rfl (K 1 ?_)
        rw [e, e2]
        rfl
      · refine br_f (by decide) (K 0 ?_)
        rw [e, e2]
        rfl
end
section
variable {c ds sk ps na wc wa me so : Int32} {a1 a2 a3 a4 a5 : Nat → Int64} {a6 a7 a8 a9 a10 a11 a12 a13 a14 : Nat → Int32} {R : Nat} {st gv br : Int64}
theorem sr_agrees {post : Int32 → St1 → Prop} (fx : sr_fx R st gv br c ds sk a1 a6 a7 a8 a9) (ok : sr_ok R st gv br so a2)
    (H : ∀ (ps na wc wa me so : Int32) (a2 a3 a4 : Nat → Int64) (a12 a13 a14 : Nat → Int32), sr_ok R st gv br so a2 → post 1 (c, ds, sk, ps, na, wc, wa, me, so, a1, a2, a3, a4, a5, a6, a7, a8, a9, a10, a11, a12, a13, a14)) : wpL_agrees post (c, ds, sk, ps, na, wc, wa, me, so, a1, a2, a3, a4, a5, a6, a7, a8, a9, a10, a11, a12, a13, a14) st gv br (nI R) := by
  have hR3 := fx.1.1
  have s0 : sr_S st := fx.2.2.2.2.2.2.2.1
  have s3 : sr_S gv := fx.2.2.2.2.2.2.2.2.1
  have K : ∀ all, sr_cl (sr_E R st) (sr_G R st gv) all → ∃ n, wL_agrees_34 post st br (nI R) all n 0 0 c ds sk ps na wc wa me so a1 a2 a3 a4 a5 a6 a7 a8 a9 a10 a11 a12 a13 a14 := fun all ha => ⟨37, sr_g34 ha fx H 36 0 0 _ _ _ _ _ _ _ _ _ _ _ _ (by omega) ok (fun i => by rw [sr_0]; simp)⟩
  unfold wpL_agrees
  refine pk_le R 1 (fun z => pk_le R 0 (fun y => ?_) (fun y => nm_e ?_)) (fun z => sr_closed s3 s0 (fun A hA => ?_))
  · refine K _ ?_
    unfold sr_E sr_G
    rw [if_neg (by omega), if_neg (by omega)]
    exact sr_cl_0 s3
  · refine K _ ?_
    unfold sr_E sr_G
    rw [if_neg (by omega), if_pos (by omega)]
    exact sr_cl_0 (sr_Sor s3 s0)
  · refine K _ ?_
    unfold sr_E sr_G
    rw [if_pos (by omega), if_pos (by omega)]
    exact hA
end
end
section
/-- the chain's words -/
def sr_ch (x y : Nat) (s : Int64) : Nat → Int64
  | 0 => s
  | k + 1 => sr_ch x y s k ||| ((1 : Int64) <<< ((nI (6 * ((x + k) % 6) + (x + k + y) % 6)).toInt64 &&& 63))
theorem sr_chS {x y : Nat} {s : Int64} (hs : sr_S s) : ∀ k, sr_S (sr_ch x y s k)
  | 0 => hs
  | k + 1 => sr_Sor (sr_chS hs k) (sr_Sbit (by omega))
theorem sr_m6' {a : Nat} (h : a < 2 ^ 31) : nI a - nI a / 6 * 6 = nI (a % 6) := pk_rem (d := 6) h (by omega) (by omega)
section
variable {c ds sk ps na wc wa me so : Int32} {a1 a2 a3 a4 a5 : Nat → Int64} {a6 a7 a8 a9 a10 a11 a12 a13 a14 : Nat → Int32} {R : Nat} {st gv br : Int64}
theorem sr_give {post : Int32 → St1 → Prop} {r x y : Nat} {p3 : Int32} (hr : r < 8) (hx : x < 6) (hy : y < 6)
    (H : post (if sr_b (a1 r) (6 * x + y) then 1 else 0) (c, ds, sk, ps, na, wc, wa, me, 0, (vp_updL a1 r (if p3 = 0 then a1 r &&& (((1 : Int64) <<< ((nI (6 * x + y)).toInt64 &&& 63)) ^^^ (-1)) else a1 r ||| ((1 : Int64) <<< ((nI (6 * x + y)).toInt64 &&& 63)))), a2, a3, a4, a5, a6, a7, a8, a9, a10, a11, a12, a13, a14)) : wpX_give post (c, ds, sk, ps, na, wc, wa, me, so, a1, a2, a3, a4, a5, a6, a7, a8, a9, a10, a11, a12, a13, a14) (nI r) (nI x) (nI y) p3 := by
  have K : ∀ z0, z0 = (if sr_b (a1 r) (6 * x + y) then 1 else 0) → wX_give_55 post (nI r) p3 ((1 : Int64) <<< ((nI (6 * x + y)).toInt64 &&& 63)) z0 c ds sk ps na wc wa me so a1 a2 a3 a4 a5 a6 a7 a8 a9 a10 a11 a12 a13 a14 := by
    intro z0 hz
    subst hz
    unfold wX_give_55
    rw [nI_clamp (show r < 2 ^ 31 by omega)]
    refine br_c (fun z => ⟨pk_in r 8 hr, pk_in r 8 hr, nm_e ?_⟩) (fun z => ⟨pk_in r 8 hr, pk_in r 8 hr, nm_e ?_⟩)
    · rw [if_pos z] at H
      exact H
    · rw [if_neg z] at H
      exact H
  unfold wpX_give
  refine sr_isRel hr (br_f (by decide) (sr_isTh hx (br_f (by decide) (sr_isTh hy (br_f (by decide) ?_)))))
  rw [sr_6, nI_clamp (show r < 2 ^ 31 by omega)]
  refine nm_e ⟨pk_in r 8 hr, ek_if (sr_tst (a1 r) (by omega)) (fun z => K 0 ?_) (fun z => K 1 ?_)⟩
  · rw [z]
    rfl
  · rw [show sr_b (a1 r) (6 * x + y) = true by simpa using z]
    rfl
theorem sr_c63 {post : Int32 → St1 → Prop} {x y m : Nat} (hx : x < 6) (hy : y < 6) (hm : m < 8)
    (H : ∀ b1 : Nat → Int64, b1 0 = sr_ch x y (a1 0) m → (∀ j, j ≠ 0 → b1 j = a1 j) → post (nI (sr_pc (sr_ch x y (a1 0) m) 36)) (c, ds, sk, ps, na, wc, wa, me, 0, b1, a2, a3, a4, a5, a6, a7, a8, a9, a10, a11, a12, a13, a14)) : ∃ n, wX_chain_63 post (nI 0) (nI x) (nI y) (nI m) c ds sk ps na wc wa me so n 0 a1 a2 a3 a4 a5 a6 a7 a8 a9 a10 a11 a12 a13 a14 :=
  pk_loop (fun n i s => wX_chain_63 post (nI 0) (nI x) (nI y) (nI m) c ds sk ps na wc wa me so n (nI i) s a2 a3 a4 a5 a6 a7 a8 a9 a10 a11 a12 a13 a14) (fun i s => s 0 = sr_ch x y (a1 0) i ∧ ∀ j, j ≠ 0 → s j = a1 j) m 0 a1 (by omega) ⟨rfl, fun _ _ => rfl⟩
    (fun n s h => pk_le m m (fun _ => ⟨pk_in 0 8 (by omega), by
      rw [pk_cl (x := nI 0) 0 rfl]
      have t := H s h.1 h.2
      rw [← h.1] at t
      exact sr_xones t⟩) (fun z => absurd z (by omega)))
    (fun n i s hi h hw => pk_le m i (fun z => absurd z (by omega)) (fun _ => by
      rw [nI_add, nI_add, sr_m6' (show x + i + y < 2 ^ 31 by omega), sr_m6' (show x + i < 2 ^ 31 by omega), pk_cl (x := nI 0) 0 rfl]
      refine ⟨by decide, nm_e ⟨by decide, nm_e ?_⟩⟩
      rw [sr_6]
      refine ⟨pk_in 0 8 (by omega), pk_in 0 8 (by omega), nm_e (nm_r (nI_1 i) (hw (vp_updL s 0 (s 0 ||| ((1 : Int64) <<< ((nI (6 * ((x + i) % 6) + (x + i + y) % 6)).toInt64 &&& 63)))) ⟨?_, fun j hj => ?_⟩))⟩
      · rw [pk_uLs, h.1]
        rfl
      · rw [pk_uLn hj]
        exact h.2 j hj))
theorem sr_chain {post : Int32 → St1 → Prop} {x y m : Nat} (hx : x < 6) (hy : y < 6) (hm0 : 0 < m) (hm : m ≤ 4)
    (H : ∀ b1 : Nat → Int64, b1 0 = sr_ch x y (a1 0) m → (∀ j, j ≠ 0 → b1 j = a1 j) → post (nI (sr_pc (sr_ch x y (a1 0) m) 36)) (c, ds, sk, ps, na, wc, wa, me, 0, b1, a2, a3, a4, a5, a6, a7, a8, a9, a10, a11, a12, a13, a14)) : wpX_chain post (c, ds, sk, ps, na, wc, wa, me, so, a1, a2, a3, a4, a5, a6, a7, a8, a9, a10, a11, a12, a13, a14) (nI 0) (nI x) (8 * nI y + nI m) := by
  have e : 8 * nI y + nI m = nI (8 * y + m) := by
    show nI 8 * nI y + nI m = _
    rw [pk_mul, nI_add]
  have e1 : nI (8 * y + m) / 8 = nI y := by
    rw [show nI (8 * y + m) / 8 = nI ((8 * y + m) / 8) from pk_div (d := 8) (by omega) (by omega) (by omega), show (8 * y + m) / 8 = y by omega]
  have e2 : nI (8 * y + m) - nI (8 * y + m) / 8 * 8 = nI m := by
    rw [show nI (8 * y + m) - nI (8 * y + m) / 8 * 8 = nI ((8 * y + m) % 8) from pk_rem (d := 8) (by omega) (by omega) (by omega), show (8 * y + m) % 8 = m by omega]
  rw [e]
  unfold wpX_chain
  refine sr_isRel (r := 0) (by omega) (br_f (by decide) (sr_isTh hx (br_f (by decide) ⟨by decide, nm_r e1 ⟨by decide, nm_r e2 (br_f (nI_pos (by omega)) (pk_le y 5 (fun _ => pk_lt m 1 (fun z => absurd z (by omega)) (fun _ => pk_le m 6 (fun _ => sr_c63 hx hy (by omega) H) (fun z => absurd z (by omega)))) (fun z => absurd z (by omega))))⟩⟩)))
/-! body and rule -/
theorem sr_body {post : Int32 → St1 → Prop} {d : Nat} {p0 p1 v : Int32} (hd : d < 3) (hds : ds = nI d) (h0 : ¬ p0 < 0) (h1 : p0 ≤ 799) (hv : v = if p1 = 0 then 0 else 1)
    (H : ∀ r, post r (c, (nI (d + 1)), sk, ps, na, wc, wa, me, so, a1, a2, a3, a4, a5, a6, a7, a8, a9, (upd a10 d p0), (upd a11 d v), a12, a13, a14)) : wpX_body post (c, ds, sk, ps, na, wc, wa, me, so, a1, a2, a3, a4, a5, a6, a7, a8, a9, a10, a11, a12, a13, a14) p0 p1 := by
  subst hds
  refine br_f h0 (br_t h1 (pk_eq d 3 (fun z => absurd z (by omega)) (fun _ => ⟨pk_in d 3 hd, nm_r (e' := upd a10 d p0) (by rw [nI_clamp (show d < 2 ^ 31 by omega)]) (br_c (fun z => ?_) (fun z => ?_))⟩)))
  · unfold wX_body_51
    rw [nI_clamp (show d < 2 ^ 31 by omega)]
    rw [if_pos z] at hv
    subst hv
    exact ⟨pk_in d 3 hd, nm_r (e' := upd a11 d 0) rfl (nm_r (nI_1 d) (H _))⟩
  · unfold wX_body_51
    rw [nI_clamp (show d < 2 ^ 31 by omega)]
    rw [if_neg z] at hv
    subst hv
    exact ⟨pk_in d 3 hd, nm_r (e' := upd a11 d 1) rfl (nm_r (nI_1 d) (H _))⟩
theorem sr_vars {post : Int32 → Prop} {p : Int32} (t1 t2 v : Int32) (h1 : p / 10 - p / 10 / 10 * 10 = t1) (h2 : p - p / 10 * 10 = t2) (k1 : ¬ 4 ≤ t1) (k2 : ¬ 4 ≤ t2) (hv : ((1 : Int32) <<< (t1 &&& 31)) ||| ((1 : Int32) <<< (t2 &&& 31)) = v) (H : post v) : wpX_variablesOf post () p := by
  subst hv
  exact ⟨by decide, by decide, nm_r h1 ⟨by decide, nm_r h2 (br_f k1 (br_f k2 H))⟩⟩
theorem sr_r35p {post : Int32 → St1 → Prop} {x1 x2 x3 v : Int32} {d k n : Nat} (hd : d ≤ 3) (hds : ds = nI d) (hk : k < d) (h11 : a11 k = 0) (hl : a10 k / 200 ≤ x2) (hv : ∀ P : Int32 → Prop, P v → wpX_variablesOf P () (a10 k))
    (H : wX_rule_35 post x1 x2 c ds sk ps na wc wa me so a1 a2 a3 a4 a5 a6 a7 a8 a9 a10 a11 a12 a13 a14 n (x3 ||| v) (nI (k + 1))) : wX_rule_35 post x1 x2 c ds sk ps na wc wa me so a1 a2 a3 a4 a5 a6 a7 a8 a9 a10 a11 a12 a13 a14 (n + 1) x3 (nI k) := by
  subst hds
  unfold wX_rule_35
  rw [nI_clamp (show k < 2 ^ 31 by omega)]
  refine br_f (nI_ge hk (by omega)) ⟨pk_in k 3 (by omega), br_t h11 ?_⟩
  unfold wX_rule_61
  rw [nI_clamp (show k < 2 ^ 31 by omega)]
  exact ⟨pk_in k 3 (by omega), by decide, br_t hl ⟨pk_in k 3 (by omega), br_t h11 ⟨pk_in k 3 (by omega), hv _ (nm_e (nm_r (nI_1 k) H))⟩⟩⟩
theorem sr_r35n {post : Int32 → St1 → Prop} {x1 x2 x3 : Int32} {d k n : Nat} (hd : d ≤ 3) (hds : ds = nI d) (hk : k < d) (h11 : ¬ a11 k = 0) (hl : a10 k / 200 ≤ x2 - 1)
    (H : wX_rule_35 post x1 x2 c ds sk ps na wc wa me so a1 a2 a3 a4 a5 a6 a7 a8 a9 a10 a11 a12 a13 a14 n (x3 ||| 0) (nI (k + 1))) : wX_rule_35 post x1 x2 c ds sk ps na wc wa me so a1 a2 a3 a4 a5 a6 a7 a8 a9 a10 a11 a12 a13 a14 (n + 1) x3 (nI k) := by
  subst hds
  unfold wX_rule_35
  rw [nI_clamp (show k < 2 ^ 31 by omega)]
  refine br_f (nI_ge hk (by omega)) ⟨pk_in k 3 (by omega), br_f h11 ?_⟩
  unfold wX_rule_61
  rw [nI_clamp (show k < 2 ^ 31 by omega)]
  exact ⟨pk_in k 3 (by omega), by decide, br_t hl ⟨pk_in k 3 (by omega), br_f h11 (nm_e (nm_r (nI_1 k) H))⟩⟩
theorem sr_r35e {post : Int32 → St1 → Prop} {x1 x2 x3 v : Int32} {d n : Nat} (hd : d ≤ 3) (hds : ds = nI d) (hv : ∀ P : Int32 → Prop, P v → wpX_variablesOf P () x1)
    (H : ∃ n, wX_rule_123 post x1 x3 c ds sk ps na wc wa me so a1 a2 a3 a4 a5 a6 a7 a8 a9 a10 a11 a12 a13 a14 n v 0) : wX_rule_35 post x1 x2 c ds sk ps na wc wa me so a1 a2 a3 a4 a5 a6 a7 a8 a9 a10 a11 a12 a13 a14 (n + 1) x3 (nI d) := by
  subst hds
  unfold wX_rule_35
  exact br_t (nI_le (Nat.le_refl d) (by omega)) (hv _ H)
theorem sr_r123p {post : Int32 → St1 → Prop} {x1 x3 x4 : Int32} {d k n : Nat} (hd : d ≤ 3) (hds : ds = nI d) (hk : k < d) (h11 : a11 k = 0)
    (H : wX_rule_123 post x1 x3 c ds sk ps na wc wa me so a1 a2 a3 a4 a5 a6 a7 a8 a9 a10 a11 a12 a13 a14 n (x4 ||| 0) (nI (k + 1))) : wX_rule_123 post x1 x3 c ds sk ps na wc wa me so a1 a2 a3 a4 a5 a6 a7 a8 a9 a10 a11 a12 a13 a14 (n + 1) x4 (nI k) := by
  subst hds
  unfold wX_rule_123
  rw [nI_clamp (show k < 2 ^ 31 by omega)]
  exact br_f (nI_ge hk (by omega)) ⟨pk_in k 3 (by omega), br_t h11 (nm_e (nm_r (nI_1 k) H))⟩
theorem sr_r123n {post : Int32 → St1 → Prop} {x1 x3 x4 v : Int32} {d k n : Nat} (hd : d ≤ 3) (hds : ds = nI d) (hk : k < d) (h11 : ¬ a11 k = 0) (hv : ∀ P : Int32 → Prop, P v → wpX_variablesOf P () (a10 k))
    (H : wX_rule_123 post x1 x3 c ds sk ps na wc wa me so a1 a2 a3 a4 a5 a6 a7 a8 a9 a10 a11 a12 a13 a14 n (x4 ||| v) (nI (k + 1))) : wX_rule_123 post x1 x3 c ds sk ps na wc wa me so a1 a2 a3 a4 a5 a6 a7 a8 a9 a10 a11 a12 a13 a14 (n + 1) x4 (nI k) := by
  subst hds
  unfold wX_rule_123
  rw [nI_clamp (show k < 2 ^ 31 by omega)]
  exact br_f (nI_ge hk (by omega)) ⟨pk_in k 3 (by omega), br_f h11 ⟨pk_in k 3 (by omega), hv _ (nm_e (nm_r (nI_1 k) H))⟩⟩
theorem sr_r205 {post : Int32 → St1 → Prop} {d : Nat} (hd : d ≤ 3) (hds : ds = nI d) (hR : R ≤ 2) (hc : c = nI R)
    (H : ∀ b8 b9 : Nat → Int32, (∀ k, k < d → b8 (3 * R + k) = a10 k ∧ b9 (3 * R + k) = vp_nar .boolean (a11 k)) → (∀ j, j < 3 * R → b8 j = a8 j ∧ b9 j = a9 j) → post (nI R) ((nI (R + 1)), 0, sk, ps, na, wc, wa, me, 0, a1, a2, a3, a4, a5, a6, a7, b8, b9, a10, a11, a12, a13, a14)) : ∃ n, wX_rule_205 post c ds sk ps na wc wa me so n 0 a1 a2 a3 a4 a5 a6 a7 a8 a9 a10 a11 a12 a13 a14 := by
  subst hds hc
  refine pk_loop (σ := (Nat → Int32) × (Nat → Int32)) (fun n i s => wX_rule_205 post (nI R) (nI d) sk ps na wc wa me so n (nI i) a1 a2 a3 a4 a5 a6 a7 s.1 s.2 a10 a11 a12 a13 a14) (fun i s => (∀ k, k < i → s.1 (3 * R + k) = a10 k ∧ s.2 (3 * R + k) = vp_nar .boolean (a11 k)) ∧ (∀ j, j < 3 * R → s.1 j = a8 j ∧ s.2 j = a9 j)) d 0 (a8, a9) (by omega) ⟨fun k hk => absurd hk (by omega), fun _ _ => ⟨rfl, rfl⟩⟩
    (fun n s h => pk_le d d (fun _ => nm_r (nI_1 R) ?_) (fun z => absurd z (by omega)))
    (fun n i s hi h hw => pk_le d i (fun z => absurd z (by omega)) (fun _ => ?_))
  · rw [nI_pred]
    exact H s.1 s.2 h.1 h.2
  · obtain ⟨p, q⟩ := s
    dsimp only at h ⊢
    rw [sr_3, nI_add, nI_clamp (show i < 2 ^ 31 by omega), nI_clamp (show 3 * R + i < 2 ^ 31 by omega)]
    refine ⟨pk_in i 3 (by omega), pk_in (3 * R + i) 42 (by omega), nm_e ⟨pk_in i 3 (by omega), pk_in (3 * R + i) 42 (by omega), nm_e (nm_r (nI_1 i) (hw (upd p (3 * R + i) (a10 i), upd q (3 * R + i) (vp_nar .boolean (a11 i))) ⟨fun k hk => ?_, fun j hj => ?_⟩))⟩⟩
    · dsimp only
      by_cases e : k = i
      · subst e
        rw [pk_us, pk_us]
        exact ⟨rfl, rfl⟩
      · rw [pk_un (by omega), pk_un (by omega)]
        exact h.1 k (by omega)
    · dsimp only
      rw [pk_un (by omega), pk_un (by omega)]
      exact h.2 j hj
theorem sr_r123e {post : Int32 → St1 → Prop} {x1 x3 x4 : Int32} {d n : Nat} (hd : d ≤ 3) (hds : ds = nI d) (hR : R ≤ 2) (hc : c = nI R) (hx : (x4 &&& (x3 ^^^ (-1))) = 0)
    (H : ∀ b8 b9 : Nat → Int32, (∀ k, k < d → b8 (3 * R + k) = a10 k ∧ b9 (3 * R + k) = vp_nar .boolean (a11 k)) → (∀ j, j < 3 * R → b8 j = a8 j ∧ b9 j = a9 j) → post (nI R) ((nI (R + 1)), 0, sk, ps, na, wc, wa, me, 0, a1, a2, a3, a4, a5, (upd a6 R x1), (upd a7 R (nI d)), b8, b9, a10, a11, a12, a13, a14)) : wX_rule_123 post x1 x3 c ds sk ps na wc wa me so a1 a2 a3 a4 a5 a6 a7 a8 a9 a10 a11 a12 a13 a14 (n + 1) x4 (nI d) := by
  subst hds hc
  unfold wX_rule_123
  rw [nI_clamp (show R < 2 ^ 31 by omega)]
  exact br_t (nI_le (Nat.le_refl d) (by omega)) (br_t hx ⟨pk_in R 14 (by omega), nm_e ⟨pk_in R 14 (by omega), nm_e (sr_r205 hd rfl hR rfl H)⟩⟩)
theorem sr_rule {post : Int32 → St1 → Prop} {p0 : Int32} (hR : R ≤ 2) (hc : c = nI R) (h0 : ¬ p0 < 0) (h1 : p0 ≤ 799) (H : ∃ n, wX_rule_35 post p0 (p0 / 200) c ds sk ps na wc wa me so a1 a2 a3 a4 a5 a6 a7 a8 a9 a10 a11 a12 a13 a14 n 0 0) : wpX_rule post (c, ds, sk, ps, na, wc, wa, me, so, a1, a2, a3, a4, a5, a6, a7, a8, a9, a10, a11, a12, a13, a14) p0 := by
  subst hc
  unfold wpX_rule
  exact br_f h0 (br_t h1 (pk_eq R 14 (fun z => absurd z (by omega)) (fun _ => ⟨by decide, H⟩)))
end
end
section
section
variable {c ds sk ps na wc wa me so : Int32} {a1 a2 a3 a4 a5 : Nat → Int64} {a6 a7 a8 a9 a10 a11 a12 a13 a14 : Nat → Int32} {R : Nat} {st gv br : Int64}
theorem sr_b0 : vp_nar .boolean 0 = 0 := rfl
theorem sr_b1 : vp_nar .boolean 1 = 1 := rfl
theorem sr_put {post : Int32 → St1 → Prop} (hR : R ≤ 2) (fx : sr_fx R st gv br c ds sk a1 a6 a7 a8 a9)
    (H : ∀ (c ds so : Int32) (a6 a7 a8 a9 a10 a11 : Nat → Int32), sr_fx (R + 1) st gv br c ds sk a1 a6 a7 a8 a9 → so = 0 → post (nI R) (c, ds, sk, ps, na, wc, wa, me, so, a1, a2, a3, a4, a5, a6, a7, a8, a9, a10, a11, a12, a13, a14)) : wpL_put post (c, ds, sk, ps, na, wc, wa, me, so, a1, a2, a3, a4, a5, a6, a7, a8, a9, a10, a11, a12, a13, a14) (nI R) := by
  obtain ⟨⟨hR3, hc, t0, t1, t2⟩, hds, r⟩ := fx
  rcases (show R = 0 ∨ R = 1 ∨ R = 2 by omega) with e | e | e
  · subst e
    refine br_t rfl (sr_body (d := 0) (v := 0) (by omega) hds (by decide) (by decide) rfl (fun _ => sr_rule (R := 0) (by omega) hc (by decide) (by decide) ⟨2, ?_⟩))
    have b0 : (upd a11 0 0) 0 = 0 := pk_us
    have d0 : (upd a10 0 1) 0 = 1 := pk_us
    refine sr_r35p (d := 1) (k := 0) (v := 3) (by omega) rfl (by omega) b0 (by rw [d0]; decide) (fun P hP => by rw [d0]; exact sr_vars 0 1 3 (by decide) (by decide) (by decide) (by decide) (by decide) hP) ?_
    refine sr_r35e (d := 1) (v := 3) (by omega) rfl (fun P hP => sr_vars 0 1 3 (by decide) (by decide) (by decide) (by decide) (by decide) hP) ⟨2, ?_⟩
    refine sr_r123p (d := 1) (k := 0) (by omega) rfl (by omega) b0 ?_
    refine sr_r123e (d := 1) (R := 0) (by omega) rfl (by omega) hc (by decide) (fun b8 b9 k1 k2 => H _ _ _ _ _ _ _ _ _ ⟨⟨by omega, rfl, fun _ => ⟨pk_us, pk_us, ?_, ?_⟩, fun h => absurd h (by omega), fun h => absurd h (by omega)⟩, rfl, r⟩ rfl)
    · exact (k1 0 (by omega)).1.trans d0
    · exact (k1 0 (by omega)).2.trans (by rw [b0, sr_b0])
  · subst e
    refine br_f (by decide) (br_t rfl (sr_body (d := 0) (v := 0) (by omega) hds (by decide) (by decide) rfl (fun _ => sr_body (d := 1) (v := 0) (by omega) rfl (by decide) (by decide) rfl (fun _ => sr_rule (R := 1) (by omega) hc (by decide) (by decide) ⟨3, ?_⟩))))
    have b0 : (upd (upd a11 0 0) 1 0) 0 = 0 := by rw [pk_un (by decide), pk_us]
    have b1 : (upd (upd a11 0 0) 1 0) 1 = 0 := pk_us
    have d0 : (upd (upd a10 0 301) 1 12) 0 = 301 := by rw [pk_un (by decide), pk_us]
    have d1 : (upd (upd a10 0 301) 1 12) 1 = 12 := pk_us
    refine sr_r35p (d := 2) (k := 0) (v := 3) (by omega) rfl (by omega) b0 (by rw [d0]; decide) (fun P hP => by rw [d0]; exact sr_vars 0 1 3 (by decide) (by decide) (by decide) (by decide) (by decide) hP) ?_
    refine sr_r35p (d := 2) (k := 1) (v := 6) (by omega) rfl (by omega) b1 (by rw [d1]; decide) (fun P hP => by rw [d1]; exact sr_vars 1 2 6 (by decide) (by decide) (by decide) (by decide) (by decide) hP) ?_
    refine sr_r35e (d := 2) (v := 5) (by omega) rfl (fun P hP => sr_vars 0 2 5 (by decide) (by decide) (by decide) (by decide) (by decide) hP) ⟨3, ?_⟩
    refine sr_r123p (d := 2) (k := 0) (by omega) rfl (by omega) b0 ?_
    refine sr_r123p (d := 2) (k := 1) (by omega) rfl (by omega) b1 ?_
    obtain ⟨e6, e7, e8, e9⟩ := t0 (by omega)
    refine sr_r123e (d := 2) (R := 1) (by omega) rfl (by omega) hc (by decide) (fun b8 b9 k1 k2 => H _ _ _ _ _ _ _ _ _ ⟨⟨by omega, rfl, fun _ => ⟨?_, ?_, ?_, ?_⟩, fun _ => ⟨pk_us, pk_us, ?_, ?_, ?_, ?_⟩, fun h => absurd h (by omega)⟩, rfl, r⟩ rfl)
    · exact (pk_un (by decide)).trans e6
    · exact (pk_un (by decide)).trans e7
    · exact (k2 0 (by omega)).1.trans e8
    · exact (k2 0 (by omega)).2.trans e9
    · exact (k1 0 (by omega)).1.trans d0
    · exact (k1 0 (by omega)).2.trans (by rw [b0, sr_b0])
    · exact (k1 1 (by omega)).1.trans d1
    · exact (k1 1 (by omega)).2.trans (by rw [b1, sr_b0])
  · subst e
    refine br_f (by decide) (br_f (by decide) (sr_body (d := 0) (v := 0) (by omega) hds (by decide) (by decide) rfl (fun _ => sr_body (d := 1) (v := 1) (by omega) rfl (by decide) (by decide) rfl (fun _ => sr_rule (R := 2) (by omega) hc (by decide) (by decide) ⟨3, ?_⟩))))
    have b0 : (upd (upd a11 0 0) 1 1) 0 = 0 := by rw [pk_un (by decide), pk_us]
    have b1 : (upd (upd a11 0 0) 1 1) 1 = 1 := pk_us
    have b1' : ¬ (upd (upd a11 0 0) 1 1) 1 = 0 := by rw [b1]; decide
    have d0 : (upd (upd a10 0 301) 1 110) 0 = 301 := by rw [pk_un (by decide), pk_us]
    have d1 : (upd (upd a10 0 301) 1 110) 1 = 110 := pk_us
    refine sr_r35p (d := 2) (k := 0) (v := 3) (by omega) rfl (by omega) b0 (by rw [d0]; decide) (fun P hP => by rw [d0]; exact sr_vars 0 1 3 (by decide) (by decide) (by decide) (by decide) (by decide) hP) ?_
    refine sr_r35n (d := 2) (k := 1) (by omega) rfl (by omega) b1' (by rw [d1]; decide) ?_
    refine sr_r35e (d := 2) (v := 3) (by omega) rfl (fun P hP => sr_vars 0 1 3 (by decide) (by decide) (by decide) (by decide) (by decide) hP) ⟨3, ?_⟩
    refine sr_r123p (d := 2) (k := 0) (by omega) rfl (by omega) b0 ?_
    refine sr_r123n (d := 2) (k := 1) (v := 3) (by omega) rfl (by omega) b1' (fun P hP => by rw [d1]; exact sr_vars 1 0 3 (by decide) (by decide) (by decide) (by decide) (by decide) hP) ?_
    obtain ⟨e6, e7, e8, e9⟩ := t0 (by omega)
    obtain ⟨f6, f7, f83, f93, f84, f94⟩ := t1 (by omega)
    refine sr_r123e (d := 2) (R := 2) (by omega) rfl (by omega) hc (by decide) (fun b8 b9 k1 k2 => H _ _ _ _ _ _ _ _ _ ⟨⟨by omega, rfl, fun _ => ⟨?_, ?_, ?_, ?_⟩, fun _ => ⟨?_, ?_, ?_, ?_, ?_, ?_⟩, fun _ => ⟨pk_us, pk_us, ?_, ?_, ?_, ?_⟩⟩, rfl, r⟩ rfl)
    · exact (pk_un (by decide)).trans e6
    · exact (pk_un (by decide)).trans e7
    · exact (k2 0 (by omega)).1.trans e8
    · exact (k2 0 (by omega)).2.trans e9
    · exact (pk_un (by decide)).trans f6
    · exact (pk_un (by decide)).trans f7
    · exact (k2 3 (by omega)).1.trans f83
    · exact (k2 3 (by omega)).2.trans f93
    · exact (k2 4 (by omega)).1.trans f84
    · exact (k2 4 (by omega)).2.trans f94
    · exact (k1 0 (by omega)).1.trans d0
    · exact (k1 0 (by omega)).2.trans (by rw [b0, sr_b0])
    · exact (k1 1 (by omega)).1.trans d1
    · exact (k1 1 (by omega)).2.trans (by rw [b1, sr_b1])
theorem sr_drop {post : Int32 → St1 → Prop} (hR : R = 3) (fx : sr_fx R st gv br c ds sk a1 a6 a7 a8 a9)
    (H : ∀ c so : Int32, sr_fx 2 st gv br c ds sk a1 a6 a7 a8 a9 → so = 0 → post 2 (c, ds, sk, ps, na, wc, wa, me, so, a1, a2, a3, a4, a5, a6, a7, a8, a9, a10, a11, a12, a13, a14)) : wpX_drop post (c, ds, sk, ps, na, wc, wa, me, so, a1, a2, a3, a4, a5, a6, a7, a8, a9, a10, a11, a12, a13, a14) 2 := by
  subst hR
  obtain ⟨⟨hR3, hc, t0, t1, t2⟩, r⟩ := fx
  subst hc
  refine br_f (by decide) (br_f (by decide) (br_f (by decide) (nm_r (show (2 : Int32) + 1 = nI 3 from rfl) ⟨1, br_t (by decide) (nm_r (show nI 3 - 1 = 2 from rfl) (H _ _ ⟨⟨by omega, rfl, fun _ => t0 (by omega), fun _ => t1 (by omega), fun h => absurd h (by omega)⟩, r⟩ rfl))⟩)))
end
end
section
section
variable {c ds sk ps na wc wa me so : Int32} {a1 a2 a3 a4 a5 : Nat → Int64} {a6 a7 a8 a9 a10 a11 a12 a13 a14 : Nat → Int32} {R : Nat} {st gv br : Int64} {L kc ks : Nat} {xs : Nat → Int32}
theorem sr_l384 {post : Int32 → Prop} {J22} {i : Nat} (fx : sr_fx R st gv br c ds sk a1 a6 a7 a8 a9) (ok : sr_ok R st gv br so a2)
    (K : ∀ {R : Nat} {st gv br : Int64} {c ds sk ps na wc wa me so : Int32} {a1 a2 a3 a4 a5 : Nat → Int64} {a6 a7 a8 a9 a10 a11 a12 a13 a14 : Nat → Int32}, sr_fx R st gv br c ds sk a1 a6 a7 a8 a9 → sr_ok R st gv br so a2 → J22 st gv br (nI R) (nI (i + 2)) c ds sk ps na wc wa me so a1 a2 a3 a4 a5 a6 a7 a8 a9 a10 a11 a12 a13 a14) : wL_law_384 post L xs J22 st gv br (nI R) (nI i) kc ks c ds sk ps na wc wa me so a1 a2 a3 a4 a5 a6 a7 a8 a9 a10 a11 a12 a13 a14 := by
  unfold wL_law_384
  exact sr_agrees fx ok (fun ps na wc wa me so a2 a3 a4 a12 a13 a14 ok' => br_f (by decide) (nm_r (nI_add i 2) (K fx ok')))
theorem sr_l144 {post : Int32 → Prop} {J22} {r x y : Nat} {x8 x9 x16 : Int32} {s : Int64} (hr : r < 8) (hx : x < 6) (hy : y < 6) (hs : a1 r = s)
    (H : wL_law_202 post L xs J22 st gv br x8 x9 (nI r) (if x16 = 0 then s &&& (((1 : Int64) <<< ((nI (6 * x + y)).toInt64 &&& 63)) ^^^ (-1)) else s ||| ((1 : Int64) <<< ((nI (6 * x + y)).toInt64 &&& 63))) kc ks c ds sk ps na wc wa me 0 (vp_updL a1 r (if x16 = 0 then s &&& (((1 : Int64) <<< ((nI (6 * x + y)).toInt64 &&& 63)) ^^^ (-1)) else s ||| ((1 : Int64) <<< ((nI (6 * x + y)).toInt64 &&& 63)))) a2 a3 a4 a5 a6 a7 a8 a9 a10 a11 a12 a13 a14) :
    wL_law_144 post L xs J22 st gv br x8 x9 (nI x) (nI y) ((1 : Int64) <<< ((nI (6 * x + y)).toInt64 &&& 63)) x16 (nI r) s kc ks c ds sk ps na wc wa me so a1 a2 a3 a4 a5 a6 a7 a8 a9 a10 a11 a12 a13 a14 := by
  subst hs
  unfold wL_law_144
  refine sr_give hr hx hy (sr_lin hx hy ?_)
  have K : ∀ z0 z1, z1 = z0 → wL_law_175 post L xs J22 st gv br x8 x9 ((1 : Int64) <<< ((nI (6 * x + y)).toInt64 &&& 63)) x16 (nI r) (a1 r) z0 z1 kc ks c ds sk ps na wc wa me 0 (vp_updL a1 r (if x16 = 0 then a1 r &&& (((1 : Int64) <<< ((nI (6 * x + y)).toInt64 &&& 63)) ^^^ (-1)) else a1 r ||| ((1 : Int64) <<< ((nI (6 * x + y)).toInt64 &&& 63)))) a2 a3 a4 a5 a6 a7 a8 a9 a10 a11 a12 a13 a14 := by
    intro z0 z1 hz
    unfold wL_law_175
    refine br_t hz (br_c (fun z => ?_) (fun z => ?_))
    · rw [if_pos z] at H ⊢
      exact H
    · rw [if_neg z] at H ⊢
      exact H
  cases e : sr_b (a1 r) (6 * x + y)
  · exact br_t rfl (K _ _ rfl)
  · exact br_f (by decide) (K _ _ rfl)
theorem sr_Sv {x16 : Int32} {s : Int64} {f : Nat} (hf : f < 36) (hs : sr_S s) : sr_S (if x16 = 0 then s &&& (((1 : Int64) <<< ((nI f).toInt64 &&& 63)) ^^^ (-1)) else s ||| ((1 : Int64) <<< ((nI f).toInt64 &&& 63))) := by
  by_cases z : x16 = 0
  · rw [if_pos z]
    exact sr_Sand hs
  · rw [if_neg z]
    exact sr_Sor hs (sr_Sbit hf)
theorem sr_l120 {post : Int32 → Prop} {J22} {i r x y : Nat} {x16 : Int32} (hr : r = 0 ∨ r = 3 ∨ r = 1) (hx : x < 6) (hy : y < 6) (fx : sr_fx R st gv br c ds sk a1 a6 a7 a8 a9)
    (K : ∀ {R : Nat} {st gv br : Int64} {c ds sk ps na wc wa me so : Int32} {a1 a2 a3 a4 a5 : Nat → Int64} {a6 a7 a8 a9 a10 a11 a12 a13 a14 : Nat → Int32}, sr_fx R st gv br c ds sk a1 a6 a7 a8 a9 → sr_ok R st gv br so a2 → J22 st gv br (nI R) (nI (i + 2)) c ds sk ps na wc wa me so a1 a2 a3 a4 a5 a6 a7 a8 a9 a10 a11 a12 a13 a14) :
    wL_law_120 post L xs J22 st gv br (nI R) (nI i) (nI x) (nI y) ((1 : Int64) <<< ((nI (6 * x + y)).toInt64 &&& 63)) x16 (nI r) kc ks c ds sk ps na wc wa me so a1 a2 a3 a4 a5 a6 a7 a8 a9 a10 a11 a12 a13 a14 := by
  obtain ⟨tb, hds, hsk, h0, h1, h3, h5, s0, s3, s1⟩ := fx
  unfold wL_law_120
  rcases hr with e | e | e
  · subst e
    refine br_t rfl (sr_l144 (r := 0) (by omega) hx hy h0 ?_)
    unfold wL_law_202 wL_law_215 wL_law_229 wL_law_244
    exact br_t rfl (br_f (by decide) (br_f (by decide) (sr_l384 ⟨tb, hds, hsk, pk_uLs, (pk_uLn (by decide)).trans h1, (pk_uLn (by decide)).trans h3, (pk_uLn (by decide)).trans h5, sr_Sv (by omega) s0, s3, s1⟩ (Or.inl rfl) K)))
  · subst e
    refine br_f (by decide) (br_t rfl (sr_l144 (r := 3) (by omega) hx hy h3 ?_))
    unfold wL_law_202 wL_law_215 wL_law_229 wL_law_244
    exact br_f (by decide) (br_t rfl (br_f (by decide) (sr_l384 ⟨tb, hds, hsk, (pk_uLn (by decide)).trans h0, (pk_uLn (by decide)).trans h1, pk_uLs, (pk_uLn (by decide)).trans h5, s0, sr_Sv (by omega) s3, s1⟩ (Or.inl rfl) K)))
  · subst e
    refine br_f (by decide) (br_f (by decide) (sr_l144 (r := 1) (by omega) hx hy h1 ?_))
    unfold wL_law_202 wL_law_215 wL_law_229 wL_law_244
    exact br_f (by decide) (br_f (by decide) (br_t rfl (sr_l384 ⟨tb, hds, hsk, (pk_uLn (by decide)).trans h0, pk_uLs, (pk_uLn (by decide)).trans h3, (pk_uLn (by decide)).trans h5, s0, s3, sr_Sv (by omega) s1⟩ (Or.inl rfl) K)))
theorem sr_l270 {post : Int32 → Prop} {J22} {i x y m : Nat} (hx : x < 6) (hy : y < 6) (hm0 : 0 < m) (hm : m ≤ 4) (fx : sr_fx R st gv br c ds sk a1 a6 a7 a8 a9)
    (K : ∀ {R : Nat} {st gv br : Int64} {c ds sk ps na wc wa me so : Int32} {a1 a2 a3 a4 a5 : Nat → Int64} {a6 a7 a8 a9 a10 a11 a12 a13 a14 : Nat → Int32}, sr_fx R st gv br c ds sk a1 a6 a7 a8 a9 → sr_ok R st gv br so a2 → J22 st gv br (nI R) (nI (i + 2)) c ds sk ps na wc wa me so a1 a2 a3 a4 a5 a6 a7 a8 a9 a10 a11 a12 a13 a14) :
    ∃ n, wL_law_270 post L xs J22 gv br (nI R) (nI i) (nI x) (nI y) (nI m) kc ks c ds sk ps na wc wa me so a1 a2 a3 a4 a5 a6 a7 a8 a9 a10 a11 a12 a13 a14 n st 0 := by
  obtain ⟨tb, hds, hsk, h0, h1, h3, h5, s0, s3, s1⟩ := fx
  refine pk_loop (σ := Unit) (fun n k _ => wL_law_270 post L xs J22 gv br (nI R) (nI i) (nI x) (nI y) (nI m) kc ks c ds sk ps na wc wa me so a1 a2 a3 a4 a5 a6 a7 a8 a9 a10 a11 a12 a13 a14 n (sr_ch x y st k) (nI k)) (fun _ _ => True) m 0 () (by omega) trivial
    (fun n _ _ => pk_le m m (fun _ => sr_chain hx hy hm0 hm (fun b1 e0 ej => ?_)) (fun z => absurd z (by omega)))
    (fun n k _ hk _ hw => pk_le m k (fun z => absurd z (by omega)) (fun _ => ?_))
  · rw [h0] at e0 ⊢
    exact sr_lones (br_t rfl (sr_l384 ⟨tb, hds, hsk, e0, (ej 1 (by decide)).trans h1, (ej 3 (by decide)).trans h3, (ej 5 (by decide)).trans h5, sr_chS s0 m, s3, s1⟩ (Or.inl rfl) K))
  · rw [nI_add, nI_add, sr_m6' (show x + k + y < 2 ^ 31 by omega), sr_m6' (show x + k < 2 ^ 31 by omega), sr_6]
    exact ⟨by decide, by decide, nm_e (nm_r (nI_1 k) (hw () trivial))⟩
end
theorem sr_pick (d : Int32) : ∃ x, x < 6 ∧ (d &&& 7) - (d &&& 7) / 6 * 6 = nI x := by
  obtain ⟨j, hj, e⟩ := pk_andE d (m := 7) 3 (by decide)
  exact ⟨j % 6, by omega, by rw [e]; exact sr_m6' (by omega)⟩
theorem sr_law {L kc ks : Nat} {xs : Nat → Int32} (hL : L ≤ 260) : ∀ (m i : Nat) {R : Nat} {st gv br : Int64} {c ds sk ps na wc wa me so : Int32} {a1 a2 a3 a4 a5 : Nat → Int64} {a6 a7 a8 a9 a10 a11 a12 a13 a14 : Nat → Int32}, L ≤ i + 2 * m → i ≤ 262 → sr_fx R st gv br c ds sk a1 a6 a7 a8 a9 → sr_ok R st gv br so a2 → wL_law_22 (fun r => r = 1) L xs kc ks (m + 1) st gv br (nI R) (nI i) c ds sk ps na wc wa me so a1 a2 a3 a4 a5 a6 a7 a8 a9 a10 a11 a12 a13 a14 := by
  intro m
  induction m with
  | zero =>
    intro i R st gv br c ds sk ps na wc wa me so a1 a2 a3 a4 a5 a6 a7 a8 a9 a10 a11 a12 a13 a14 hm hi fx ok
    exact pk_le L (i + 1) (fun _ => rfl) (fun z => absurd z (by omega)) rfl (nI_1 i)
  | succ m ih =>
    intro i R st gv br c ds sk ps na wc wa me so a1 a2 a3 a4 a5 a6 a7 a8 a9 a10 a11 a12 a13 a14 hm hi fx ok
    have hR3 : R ≤ 3 := fx.1.1
    refine pk_le L (i + 1) (fun _ => rfl) (fun z => ?_) rfl (nI_1 i)
    have K : ∀ {R : Nat} {st gv br : Int64} {c ds sk ps na wc wa me so : Int32} {a1 a2 a3 a4 a5 : Nat → Int64} {a6 a7 a8 a9 a10 a11 a12 a13 a14 : Nat → Int32}, sr_fx R st gv br c ds sk a1 a6 a7 a8 a9 → sr_ok R st gv br so a2 → wL_law_22 (fun r => r = 1) L xs kc ks (m + 1) st gv br (nI R) (nI (i + 2)) c ds sk ps na wc wa me so a1 a2 a3 a4 a5 a6 a7 a8 a9 a10 a11 a12 a13 a14 := by
      intro R st gv br c ds sk ps na wc wa me so a1 a2 a3 a4 a5 a6 a7 a8 a9 a10 a11 a12 a13 a14 fx ok
      exact ih (i + 2) (by omega) (by omega) fx ok
    obtain ⟨op, hop, eop⟩ := pk_andE (xs (nI i).toNatClampNeg) (m := 15) 4 (by decide)
    obtain ⟨x, hx, ex⟩ := sr_pick (xs (nI i + 1).toNatClampNeg)
    obtain ⟨y, hy, ey⟩ := sr_pick (xs (nI i + 1).toNatClampNeg >>> ((3 : Int32) &&& 31))
    obtain ⟨j, hj, ej⟩ := pk_andE (xs (nI i + 1).toNatClampNeg >>> ((6 : Int32) &&& 31)) (m := 3) 2 (by decide)
    refine ⟨pk_in i L (by omega), nm_r eop ⟨pk_in (i + 1) L (by omega) (nI_1 i), nm_e ⟨by decide, nm_r ex ⟨by decide, nm_r ey (nm_r (by rw [sr_6]) (nm_e ?_))⟩⟩⟩⟩
    refine pk_le 10 op (fun h => pk_eq op 10 (fun h => ?_) (fun h => ?_)) (fun h => pk_le 5 op (fun h => pk_le 7 op (fun h => ?_) (fun h => ?_)) (fun h => ?_))
    · exact nm_r (show 1 + (xs (nI i + 1).toNatClampNeg >>> ((6 : Int32) &&& 31) &&& 3) = nI (1 + j) by rw [ej]; exact nI_add 1 j) (sr_l270 hx hy (by omega) (by omega) fx K)
    · refine pk_le 3 R (fun h => pk_le op 13 (fun h => ?_) (fun h => ?_)) (fun h => ?_)
      · exact sr_l384 fx ok K
      · exact sr_drop (by omega) fx (fun c so fx' e => br_t rfl (sr_l384 (R := 2) fx' (Or.inl e) K))
      · exact sr_put (by omega) fx (fun c ds so a6 a7 a8 a9 a10 a11 fx' e => br_t rfl (nm_r (nI_1 R) (sr_l384 fx' (Or.inl e) K)))
    · exact sr_l120 (r := 1) (Or.inr (Or.inr rfl)) hx hy fx K
    · exact sr_l120 (r := 3) (Or.inr (Or.inl rfl)) hx hy fx K
    · exact sr_l120 (r := 0) (Or.inl rfl) hx hy fx K
theorem i_vc (xs : Nat → Int32) (L : Nat) (hL : L ≤ 260) : wpL_law (fun r => r = 1) L xs := by
  refine ⟨14, 181, by omega, by omega, ?_⟩
  refine ⟨by omega, by omega, by omega, by omega, by omega, by omega, by omega, by omega, by omega, by omega, by omega, by omega, by omega, by omega, by omega, by omega, by omega, by omega, by omega, by omega, by omega, by omega, by omega, by omega, by omega, by omega, by omega, by omega, ?_⟩
  exact ⟨131, sr_law hL 130 0 (R := 0) (by omega) (by omega) ⟨⟨by omega, rfl, fun h => absurd h (by omega), fun h => absurd h (by omega), fun h => absurd h (by omega)⟩, rfl, rfl, rfl, rfl, rfl, rfl, sr_S0, sr_S0, sr_S0⟩ (Or.inl rfl)⟩
end
